/-! 22.chord.lean.txt -/
set_option maxRecDepth 100000
abbrev cX7_isMinor : ByteArray := prog_2_method_4_code
def yX7_isMinor : MethodName := ⟨RX7, "isMinor", "()Z"⟩
def dkwX7_isMinor_1 : List UInt8 := [4, 167, 0, 4, 3, 172]
abbrev dktX7_isMinor_1 : List UInt8 := dkwX7_isMinor_1 ++ []
def dkwX7_isMinor_0 : List UInt8 := [42, 180, 0, 21, 4, 159, 0, 19, 42, 180, 0, 21, 6, 159, 0, 11, 42, 180, 0, 21, 8, 160, 0, 7]
abbrev dktX7_isMinor_0 : List UInt8 := dkwX7_isMinor_0 ++ dktX7_isMinor_1
theorem dksX7_isMinor_0 : cX7_isMinor.data.toList.drop 0 = dktX7_isMinor_0 := by decide +kernel
theorem dksX7_isMinor_1 : cX7_isMinor.data.toList.drop 24 = dktX7_isMinor_1 := dk_seg dksX7_isMinor_0 24 rfl rfl
abbrev cX7_with : ByteArray := prog_2_method_3_code
def yX7_with : MethodName := ⟨RX7, "with", "(II)LChordSheet$Chord;"⟩
def dkwX7_with_0 : List UInt8 := [187, 0, 10, 89, 42, 180, 0, 9, 42, 180, 0, 15, 27, 42, 180, 0, 21, 28, 183, 0, 27, 176]
abbrev dktX7_with_0 : List UInt8 := dkwX7_with_0 ++ []
theorem dksX7_with_0 : cX7_with.data.toList.drop 0 = dktX7_with_0 := by decide +kernel
abbrev cX7_at : ByteArray := prog_2_method_2_code
def yX7_at : MethodName := ⟨RX7, "at", "(II)LChordSheet$Chord;"⟩
def dkwX7_at_0 : List UInt8 := [187, 0, 10, 89, 27, 28, 42, 180, 0, 18, 42, 180, 0, 21, 42, 180, 0, 24, 183, 0, 27, 176]
abbrev dktX7_at_0 : List UInt8 := dkwX7_at_0 ++ []
theorem dksX7_at_0 : cX7_at.data.toList.drop 0 = dktX7_at_0 := by decide +kernel
abbrev cX7_shape : ByteArray := prog_2_method_6_code
def yX7_shape : MethodName := ⟨RX7, "shape", "(I)LChordSheet$Shape;"⟩
def dkwX7_shape_2 : List UInt8 := [184, 0, 43, 42, 180, 0, 21, 28, 183, 0, 49, 176]
abbrev dktX7_shape_2 : List UInt8 := dkwX7_shape_2 ++ []
def dkwX7_shape_1 : List UInt8 := [159, 0, 7, 4, 167, 0, 4, 3, 61, 187, 0, 41, 89, 42, 180, 0, 18, 184, 0, 30, 27, 100, 16, 12]
abbrev dktX7_shape_1 : List UInt8 := dkwX7_shape_1 ++ dktX7_shape_2
def dkwX7_shape_0 : List UInt8 := [42, 180, 0, 24, 16, 100, 159, 0, 24, 42, 180, 0, 24, 184, 0, 30, 42, 180, 0, 18, 184, 0, 30]
abbrev dktX7_shape_0 : List UInt8 := dkwX7_shape_0 ++ dktX7_shape_1
theorem dksX7_shape_0 : cX7_shape.data.toList.drop 0 = dktX7_shape_0 := by decide +kernel
theorem dksX7_shape_1 : cX7_shape.data.toList.drop 23 = dktX7_shape_1 := dk_seg dksX7_shape_0 23 rfl rfl
theorem dksX7_shape_2 : cX7_shape.data.toList.drop 47 = dktX7_shape_2 := dk_seg dksX7_shape_1 24 rfl rfl
abbrev cX7_tones : ByteArray := prog_2_method_5_code
def yX7_tones : MethodName := ⟨RX7, "tones", "()I"⟩
def dkwX7_tones_3 : List UInt8 := [27, 172]
abbrev dktX7_tones_3 : List UInt8 := dkwX7_tones_3 ++ []
def dkwX7_tones_2 : List UInt8 := [180, 0, 18, 184, 0, 30, 28, 96, 16, 12, 112, 120, 167, 0, 4, 3, 128, 60, 132, 2, 1, 167, 255, 212]
abbrev dktX7_tones_2 : List UInt8 := dkwX7_tones_2 ++ dktX7_tones_3
def dkwX7_tones_1 : List UInt8 := [61, 28, 16, 12, 162, 0, 44, 27, 42, 180, 0, 21, 184, 0, 34, 28, 184, 0, 37, 153, 0, 20, 4, 42]
abbrev dktX7_tones_1 : List UInt8 := dkwX7_tones_1 ++ dktX7_tones_2
def dkwX7_tones_0 : List UInt8 := [42, 180, 0, 24, 16, 100, 160, 0, 7, 3, 167, 0, 12, 4, 42, 180, 0, 24, 184, 0, 30, 120, 60, 3]
abbrev dktX7_tones_0 : List UInt8 := dkwX7_tones_0 ++ dktX7_tones_1
theorem dksX7_tones_0 : cX7_tones.data.toList.drop 0 = dktX7_tones_0 := by decide +kernel
theorem dksX7_tones_1 : cX7_tones.data.toList.drop 24 = dktX7_tones_1 := dk_seg dksX7_tones_0 24 rfl rfl
theorem dksX7_tones_2 : cX7_tones.data.toList.drop 48 = dktX7_tones_2 := dk_seg dksX7_tones_1 24 rfl rfl
theorem dksX7_tones_3 : cX7_tones.data.toList.drop 72 = dktX7_tones_3 := dk_seg dksX7_tones_2 24 rfl rfl
abbrev cX1_writeNote : ByteArray := prog_1_method_8_code
def yX1_writeNote : MethodName := ⟨RX1, "writeNote", "(Ljava/lang/StringBuilder;I)V"⟩
def dkwX1_writeNote_2 : List UInt8 := [182, 0, 90, 87, 132, 2, 1, 167, 255, 226, 177]
abbrev dktX1_writeNote_2 : List UInt8 := dkwX1_writeNote_2 ++ []
def dkwX1_writeNote_1 : List UInt8 := [27, 184, 0, 96, 184, 0, 100, 162, 0, 25, 42, 27, 158, 0, 8, 16, 35, 167, 0, 5, 16, 98]
abbrev dktX1_writeNote_1 : List UInt8 := dkwX1_writeNote_1 ++ dktX1_writeNote_2
def dkwX1_writeNote_0 : List UInt8 := [42, 18, 75, 27, 4, 96, 18, 75, 182, 0, 77, 184, 0, 69, 182, 0, 86, 182, 0, 90, 87, 3, 61, 28]
abbrev dktX1_writeNote_0 : List UInt8 := dkwX1_writeNote_0 ++ dktX1_writeNote_1
theorem dksX1_writeNote_0 : cX1_writeNote.data.toList.drop 0 = dktX1_writeNote_0 := by decide +kernel
theorem dksX1_writeNote_1 : cX1_writeNote.data.toList.drop 24 = dktX1_writeNote_1 := dk_seg dksX1_writeNote_0 24 rfl rfl
theorem dksX1_writeNote_2 : cX1_writeNote.data.toList.drop 46 = dktX1_writeNote_2 := dk_seg dksX1_writeNote_1 22 rfl rfl
abbrev cX7_name : ByteArray := prog_2_method_7_code
def yX7_name : MethodName := ⟨RX7, "name", "()Ljava/lang/String;"⟩
def dkwX7_name_2 : List UInt8 := [42, 180, 0, 24, 184, 0, 57, 43, 182, 0, 71, 176]
abbrev dktX7_name_2 : List UInt8 := dkwX7_name_2 ++ []
def dkwX7_name_1 : List UInt8 := [184, 0, 61, 182, 0, 64, 87, 42, 180, 0, 24, 16, 100, 159, 0, 18, 43, 16, 47, 182, 0, 68, 87, 43]
abbrev dktX7_name_1 : List UInt8 := dkwX7_name_1 ++ dktX7_name_2
def dkwX7_name_0 : List UInt8 := [187, 0, 52, 89, 16, 12, 183, 0, 54, 76, 43, 42, 180, 0, 18, 184, 0, 57, 43, 42, 180, 0, 21]
abbrev dktX7_name_0 : List UInt8 := dkwX7_name_0 ++ dktX7_name_1
theorem dksX7_name_0 : cX7_name.data.toList.drop 0 = dktX7_name_0 := by decide +kernel
theorem dksX7_name_1 : cX7_name.data.toList.drop 23 = dktX7_name_1 := dk_seg dksX7_name_0 23 rfl rfl
theorem dksX7_name_2 : cX7_name.data.toList.drop 47 = dktX7_name_2 := dk_seg dksX7_name_1 24 rfl rfl
abbrev cX8_hashCode : ByteArray := prog_6_method_5_code
def yX8_hashCode : MethodName := ⟨RX8, "hashCode", "()I"⟩
def dkwX8_hashCode_1 : List UInt8 := [167, 0, 4, 3, 96, 172]
abbrev dktX8_hashCode_1 : List UInt8 := dkwX8_hashCode_1 ++ []
def dkwX8_hashCode_0 : List UInt8 := [5, 16, 10, 42, 180, 0, 9, 104, 42, 180, 0, 15, 96, 104, 42, 180, 0, 18, 153, 0, 7, 4]
abbrev dktX8_hashCode_0 : List UInt8 := dkwX8_hashCode_0 ++ dktX8_hashCode_1
theorem dksX8_hashCode_0 : cX8_hashCode.data.toList.drop 0 = dktX8_hashCode_0 := by decide +kernel
theorem dksX8_hashCode_1 : cX8_hashCode.data.toList.drop 22 = dktX8_hashCode_1 := dk_seg dksX8_hashCode_0 22 rfl rfl
abbrev cX8_isEasy : ByteArray := prog_6_method_2_code
def yX8_isEasy : MethodName := ⟨RX8, "isEasy", "()Z"⟩
def dkwX8_isEasy_0 : List UInt8 := [42, 180, 0, 15, 184, 0, 22, 42, 180, 0, 9, 184, 0, 26, 172]
abbrev dktX8_isEasy_0 : List UInt8 := dkwX8_isEasy_0 ++ []
theorem dksX8_isEasy_0 : cX8_isEasy.data.toList.drop 0 = dktX8_isEasy_0 := by decide +kernel
abbrev cX8_difficulty : ByteArray := prog_6_method_3_code
def yX8_difficulty : MethodName := ⟨RX8, "difficulty", "()I"⟩
def dkwX8_difficulty_1 : List UInt8 := [3, 96, 42, 180, 0, 18, 153, 0, 7, 4, 167, 0, 4, 3, 96, 172]
abbrev dktX8_difficulty_1 : List UInt8 := dkwX8_difficulty_1 ++ []
def dkwX8_difficulty_0 : List UInt8 := [42, 182, 0, 30, 153, 0, 7, 4, 167, 0, 4, 7, 42, 180, 0, 15, 6, 164, 0, 7, 4, 167, 0, 4]
abbrev dktX8_difficulty_0 : List UInt8 := dkwX8_difficulty_0 ++ dktX8_difficulty_1
theorem dksX8_difficulty_0 : cX8_difficulty.data.toList.drop 0 = dktX8_difficulty_0 := by decide +kernel
theorem dksX8_difficulty_1 : cX8_difficulty.data.toList.drop 24 = dktX8_difficulty_1 := dk_seg dksX8_difficulty_0 24 rfl rfl
abbrev cX8_equals : ByteArray := prog_6_method_4_code
def yX8_equals : MethodName := ⟨RX8, "equals", "(Ljava/lang/Object;)Z"⟩
def dkwX8_equals_2 : List UInt8 := [160, 0, 7, 4, 167, 0, 4, 3, 172]
abbrev dktX8_equals_2 : List UInt8 := dkwX8_equals_2 ++ []
def dkwX8_equals_1 : List UInt8 := [160, 0, 29, 42, 180, 0, 15, 44, 180, 0, 15, 160, 0, 18, 42, 180, 0, 18, 44, 180, 0, 18]
abbrev dktX8_equals_1 : List UInt8 := dkwX8_equals_1 ++ dktX8_equals_2
def dkwX8_equals_0 : List UInt8 := [43, 193, 0, 10, 154, 0, 5, 3, 172, 43, 192, 0, 10, 77, 42, 180, 0, 9, 44, 180, 0, 9]
abbrev dktX8_equals_0 : List UInt8 := dkwX8_equals_0 ++ dktX8_equals_1
theorem dksX8_equals_0 : cX8_equals.data.toList.drop 0 = dktX8_equals_0 := by decide +kernel
theorem dksX8_equals_1 : cX8_equals.data.toList.drop 22 = dktX8_equals_1 := dk_seg dksX8_equals_0 22 rfl rfl
theorem dksX8_equals_2 : cX8_equals.data.toList.drop 44 = dktX8_equals_2 := dk_seg dksX8_equals_1 22 rfl rfl
theorem dX7_isMinor_0 : decode cX7_isMinor 0 = .ok (.aload_n 0, 1) := dk_42 (dk_at dksX7_isMinor_0 0 rfl rfl)
theorem dX7_isMinor_1 : decode cX7_isMinor 1 = .ok (.getfield 21, 3) := dk_180 0 21 (dk_at dksX7_isMinor_0 1 rfl rfl)
theorem dX7_isMinor_4 : decode cX7_isMinor 4 = .ok (.iconst 1, 1) := dk_4 (dk_at dksX7_isMinor_0 4 rfl rfl)
theorem dX7_isMinor_5 : decode cX7_isMinor 5 = .ok (.if_icmp .eq 19, 3) := dk_159 0 19 (dk_at dksX7_isMinor_0 5 rfl rfl)
theorem dX7_isMinor_8 : decode cX7_isMinor 8 = .ok (.aload_n 0, 1) := dk_42 (dk_at dksX7_isMinor_0 8 rfl rfl)
theorem dX7_isMinor_9 : decode cX7_isMinor 9 = .ok (.getfield 21, 3) := dk_180 0 21 (dk_at dksX7_isMinor_0 9 rfl rfl)
theorem dX7_isMinor_12 : decode cX7_isMinor 12 = .ok (.iconst 3, 1) := dk_6 (dk_at dksX7_isMinor_0 12 rfl rfl)
theorem dX7_isMinor_13 : decode cX7_isMinor 13 = .ok (.if_icmp .eq 11, 3) := dk_159 0 11 (dk_at dksX7_isMinor_0 13 rfl rfl)
theorem dX7_isMinor_16 : decode cX7_isMinor 16 = .ok (.aload_n 0, 1) := dk_42 (dk_at dksX7_isMinor_0 16 rfl rfl)
theorem dX7_isMinor_17 : decode cX7_isMinor 17 = .ok (.getfield 21, 3) := dk_180 0 21 (dk_at dksX7_isMinor_0 17 rfl rfl)
theorem dX7_isMinor_20 : decode cX7_isMinor 20 = .ok (.iconst 5, 1) := dk_8 (dk_at dksX7_isMinor_0 20 rfl rfl)
theorem dX7_isMinor_21 : decode cX7_isMinor 21 = .ok (.if_icmp .ne 7, 3) := dk_160 0 7 (dk_at dksX7_isMinor_0 21 rfl rfl)
theorem dX7_isMinor_24 : decode cX7_isMinor 24 = .ok (.iconst 1, 1) := dk_4 (dk_at dksX7_isMinor_1 0 rfl rfl)
theorem dX7_isMinor_25 : decode cX7_isMinor 25 = .ok (.goto 4, 3) := dk_167 0 4 (dk_at dksX7_isMinor_1 1 rfl rfl)
theorem dX7_isMinor_28 : decode cX7_isMinor 28 = .ok (.iconst 0, 1) := dk_3 (dk_at dksX7_isMinor_1 4 rfl rfl)
theorem dX7_isMinor_29 : decode cX7_isMinor 29 = .ok (.ireturn, 1) := dk_172 (dk_at dksX7_isMinor_1 5 rfl rfl)
theorem dX7_with_0 : decode cX7_with 0 = .ok (.new 10, 3) := dk_187 0 10 (dk_at dksX7_with_0 0 rfl rfl)
theorem dX7_with_3 : decode cX7_with 3 = .ok (.dup, 1) := dk_89 (dk_at dksX7_with_0 3 rfl rfl)
theorem dX7_with_4 : decode cX7_with 4 = .ok (.aload_n 0, 1) := dk_42 (dk_at dksX7_with_0 4 rfl rfl)
theorem dX7_with_5 : decode cX7_with 5 = .ok (.getfield 9, 3) := dk_180 0 9 (dk_at dksX7_with_0 5 rfl rfl)
theorem dX7_with_8 : decode cX7_with 8 = .ok (.aload_n 0, 1) := dk_42 (dk_at dksX7_with_0 8 rfl rfl)
theorem dX7_with_9 : decode cX7_with 9 = .ok (.getfield 15, 3) := dk_180 0 15 (dk_at dksX7_with_0 9 rfl rfl)
theorem dX7_with_12 : decode cX7_with 12 = .ok (.iload_n 1, 1) := dk_27 (dk_at dksX7_with_0 12 rfl rfl)
theorem dX7_with_13 : decode cX7_with 13 = .ok (.aload_n 0, 1) := dk_42 (dk_at dksX7_with_0 13 rfl rfl)
theorem dX7_with_14 : decode cX7_with 14 = .ok (.getfield 21, 3) := dk_180 0 21 (dk_at dksX7_with_0 14 rfl rfl)
theorem dX7_with_17 : decode cX7_with 17 = .ok (.iload_n 2, 1) := dk_28 (dk_at dksX7_with_0 17 rfl rfl)
theorem dX7_with_18 : decode cX7_with 18 = .ok (.invokespecial 27, 3) := dk_183 0 27 (dk_at dksX7_with_0 18 rfl rfl)
theorem dX7_with_21 : decode cX7_with 21 = .ok (.areturn, 1) := dk_176 (dk_at dksX7_with_0 21 rfl rfl)
theorem dX7_at_0 : decode cX7_at 0 = .ok (.new 10, 3) := dk_187 0 10 (dk_at dksX7_at_0 0 rfl rfl)
theorem dX7_at_3 : decode cX7_at 3 = .ok (.dup, 1) := dk_89 (dk_at dksX7_at_0 3 rfl rfl)
theorem dX7_at_4 : decode cX7_at 4 = .ok (.iload_n 1, 1) := dk_27 (dk_at dksX7_at_0 4 rfl rfl)
theorem dX7_at_5 : decode cX7_at 5 = .ok (.iload_n 2, 1) := dk_28 (dk_at dksX7_at_0 5 rfl rfl)
theorem dX7_at_6 : decode cX7_at 6 = .ok (.aload_n 0, 1) := dk_42 (dk_at dksX7_at_0 6 rfl rfl)
theorem dX7_at_7 : decode cX7_at 7 = .ok (.getfield 18, 3) := dk_180 0 18 (dk_at dksX7_at_0 7 rfl rfl)
theorem dX7_at_10 : decode cX7_at 10 = .ok (.aload_n 0, 1) := dk_42 (dk_at dksX7_at_0 10 rfl rfl)
theorem dX7_at_11 : decode cX7_at 11 = .ok (.getfield 21, 3) := dk_180 0 21 (dk_at dksX7_at_0 11 rfl rfl)
theorem dX7_at_14 : decode cX7_at 14 = .ok (.aload_n 0, 1) := dk_42 (dk_at dksX7_at_0 14 rfl rfl)
theorem dX7_at_15 : decode cX7_at 15 = .ok (.getfield 24, 3) := dk_180 0 24 (dk_at dksX7_at_0 15 rfl rfl)
theorem dX7_at_18 : decode cX7_at 18 = .ok (.invokespecial 27, 3) := dk_183 0 27 (dk_at dksX7_at_0 18 rfl rfl)
theorem dX7_at_21 : decode cX7_at 21 = .ok (.areturn, 1) := dk_176 (dk_at dksX7_at_0 21 rfl rfl)
theorem dX7_shape_0 : decode cX7_shape 0 = .ok (.aload_n 0, 1) := dk_42 (dk_at dksX7_shape_0 0 rfl rfl)
theorem dX7_shape_1 : decode cX7_shape 1 = .ok (.getfield 24, 3) := dk_180 0 24 (dk_at dksX7_shape_0 1 rfl rfl)
theorem dX7_shape_4 : decode cX7_shape 4 = .ok (.bipush 100, 2) := dk_16 100 (dk_at dksX7_shape_0 4 rfl rfl)
theorem dX7_shape_6 : decode cX7_shape 6 = .ok (.if_icmp .eq 24, 3) := dk_159 0 24 (dk_at dksX7_shape_0 6 rfl rfl)
theorem dX7_shape_9 : decode cX7_shape 9 = .ok (.aload_n 0, 1) := dk_42 (dk_at dksX7_shape_0 9 rfl rfl)
theorem dX7_shape_10 : decode cX7_shape 10 = .ok (.getfield 24, 3) := dk_180 0 24 (dk_at dksX7_shape_0 10 rfl rfl)
theorem dX7_shape_13 : decode cX7_shape 13 = .ok (.invokestatic 30, 3) := dk_184 0 30 (dk_at dksX7_shape_0 13 rfl rfl)
theorem dX7_shape_16 : decode cX7_shape 16 = .ok (.aload_n 0, 1) := dk_42 (dk_at dksX7_shape_0 16 rfl rfl)
theorem dX7_shape_17 : decode cX7_shape 17 = .ok (.getfield 18, 3) := dk_180 0 18 (dk_at dksX7_shape_0 17 rfl rfl)
theorem dX7_shape_20 : decode cX7_shape 20 = .ok (.invokestatic 30, 3) := dk_184 0 30 (dk_at dksX7_shape_0 20 rfl rfl)
theorem dX7_shape_23 : decode cX7_shape 23 = .ok (.if_icmp .eq 7, 3) := dk_159 0 7 (dk_at dksX7_shape_1 0 rfl rfl)
theorem dX7_shape_26 : decode cX7_shape 26 = .ok (.iconst 1, 1) := dk_4 (dk_at dksX7_shape_1 3 rfl rfl)
theorem dX7_shape_27 : decode cX7_shape 27 = .ok (.goto 4, 3) := dk_167 0 4 (dk_at dksX7_shape_1 4 rfl rfl)
theorem dX7_shape_30 : decode cX7_shape 30 = .ok (.iconst 0, 1) := dk_3 (dk_at dksX7_shape_1 7 rfl rfl)
theorem dX7_shape_31 : decode cX7_shape 31 = .ok (.istore_n 2, 1) := dk_61 (dk_at dksX7_shape_1 8 rfl rfl)
theorem dX7_shape_32 : decode cX7_shape 32 = .ok (.new 41, 3) := dk_187 0 41 (dk_at dksX7_shape_1 9 rfl rfl)
theorem dX7_shape_35 : decode cX7_shape 35 = .ok (.dup, 1) := dk_89 (dk_at dksX7_shape_1 12 rfl rfl)
theorem dX7_shape_36 : decode cX7_shape 36 = .ok (.aload_n 0, 1) := dk_42 (dk_at dksX7_shape_1 13 rfl rfl)
theorem dX7_shape_37 : decode cX7_shape 37 = .ok (.getfield 18, 3) := dk_180 0 18 (dk_at dksX7_shape_1 14 rfl rfl)
theorem dX7_shape_40 : decode cX7_shape 40 = .ok (.invokestatic 30, 3) := dk_184 0 30 (dk_at dksX7_shape_1 17 rfl rfl)
theorem dX7_shape_43 : decode cX7_shape 43 = .ok (.iload_n 1, 1) := dk_27 (dk_at dksX7_shape_1 20 rfl rfl)
theorem dX7_shape_44 : decode cX7_shape 44 = .ok (.isub, 1) := dk_100 (dk_at dksX7_shape_1 21 rfl rfl)
theorem dX7_shape_45 : decode cX7_shape 45 = .ok (.bipush 12, 2) := dk_16 12 (dk_at dksX7_shape_1 22 rfl rfl)
theorem dX7_shape_47 : decode cX7_shape 47 = .ok (.invokestatic 43, 3) := dk_184 0 43 (dk_at dksX7_shape_2 0 rfl rfl)
theorem dX7_shape_50 : decode cX7_shape 50 = .ok (.aload_n 0, 1) := dk_42 (dk_at dksX7_shape_2 3 rfl rfl)
theorem dX7_shape_51 : decode cX7_shape 51 = .ok (.getfield 21, 3) := dk_180 0 21 (dk_at dksX7_shape_2 4 rfl rfl)
theorem dX7_shape_54 : decode cX7_shape 54 = .ok (.iload_n 2, 1) := dk_28 (dk_at dksX7_shape_2 7 rfl rfl)
theorem dX7_shape_55 : decode cX7_shape 55 = .ok (.invokespecial 49, 3) := dk_183 0 49 (dk_at dksX7_shape_2 8 rfl rfl)
theorem dX7_shape_58 : decode cX7_shape 58 = .ok (.areturn, 1) := dk_176 (dk_at dksX7_shape_2 11 rfl rfl)
theorem dX7_tones_0 : decode cX7_tones 0 = .ok (.aload_n 0, 1) := dk_42 (dk_at dksX7_tones_0 0 rfl rfl)
theorem dX7_tones_1 : decode cX7_tones 1 = .ok (.getfield 24, 3) := dk_180 0 24 (dk_at dksX7_tones_0 1 rfl rfl)
theorem dX7_tones_4 : decode cX7_tones 4 = .ok (.bipush 100, 2) := dk_16 100 (dk_at dksX7_tones_0 4 rfl rfl)
theorem dX7_tones_6 : decode cX7_tones 6 = .ok (.if_icmp .ne 7, 3) := dk_160 0 7 (dk_at dksX7_tones_0 6 rfl rfl)
theorem dX7_tones_9 : decode cX7_tones 9 = .ok (.iconst 0, 1) := dk_3 (dk_at dksX7_tones_0 9 rfl rfl)
theorem dX7_tones_10 : decode cX7_tones 10 = .ok (.goto 12, 3) := dk_167 0 12 (dk_at dksX7_tones_0 10 rfl rfl)
theorem dX7_tones_13 : decode cX7_tones 13 = .ok (.iconst 1, 1) := dk_4 (dk_at dksX7_tones_0 13 rfl rfl)
theorem dX7_tones_14 : decode cX7_tones 14 = .ok (.aload_n 0, 1) := dk_42 (dk_at dksX7_tones_0 14 rfl rfl)
theorem dX7_tones_15 : decode cX7_tones 15 = .ok (.getfield 24, 3) := dk_180 0 24 (dk_at dksX7_tones_0 15 rfl rfl)
theorem dX7_tones_18 : decode cX7_tones 18 = .ok (.invokestatic 30, 3) := dk_184 0 30 (dk_at dksX7_tones_0 18 rfl rfl)
theorem dX7_tones_21 : decode cX7_tones 21 = .ok (.ishl, 1) := dk_120 (dk_at dksX7_tones_0 21 rfl rfl)
theorem dX7_tones_22 : decode cX7_tones 22 = .ok (.istore_n 1, 1) := dk_60 (dk_at dksX7_tones_0 22 rfl rfl)
theorem dX7_tones_23 : decode cX7_tones 23 = .ok (.iconst 0, 1) := dk_3 (dk_at dksX7_tones_0 23 rfl rfl)
theorem dX7_tones_24 : decode cX7_tones 24 = .ok (.istore_n 2, 1) := dk_61 (dk_at dksX7_tones_1 0 rfl rfl)
theorem dX7_tones_25 : decode cX7_tones 25 = .ok (.iload_n 2, 1) := dk_28 (dk_at dksX7_tones_1 1 rfl rfl)
theorem dX7_tones_26 : decode cX7_tones 26 = .ok (.bipush 12, 2) := dk_16 12 (dk_at dksX7_tones_1 2 rfl rfl)
theorem dX7_tones_28 : decode cX7_tones 28 = .ok (.if_icmp .ge 44, 3) := dk_162 0 44 (dk_at dksX7_tones_1 4 rfl rfl)
theorem dX7_tones_31 : decode cX7_tones 31 = .ok (.iload_n 1, 1) := dk_27 (dk_at dksX7_tones_1 7 rfl rfl)
theorem dX7_tones_32 : decode cX7_tones 32 = .ok (.aload_n 0, 1) := dk_42 (dk_at dksX7_tones_1 8 rfl rfl)
theorem dX7_tones_33 : decode cX7_tones 33 = .ok (.getfield 21, 3) := dk_180 0 21 (dk_at dksX7_tones_1 9 rfl rfl)
theorem dX7_tones_36 : decode cX7_tones 36 = .ok (.invokestatic 34, 3) := dk_184 0 34 (dk_at dksX7_tones_1 12 rfl rfl)
theorem dX7_tones_39 : decode cX7_tones 39 = .ok (.iload_n 2, 1) := dk_28 (dk_at dksX7_tones_1 15 rfl rfl)
theorem dX7_tones_40 : decode cX7_tones 40 = .ok (.invokestatic 37, 3) := dk_184 0 37 (dk_at dksX7_tones_1 16 rfl rfl)
theorem dX7_tones_43 : decode cX7_tones 43 = .ok (.ifCond .eq 20, 3) := dk_153 0 20 (dk_at dksX7_tones_1 19 rfl rfl)
theorem dX7_tones_46 : decode cX7_tones 46 = .ok (.iconst 1, 1) := dk_4 (dk_at dksX7_tones_1 22 rfl rfl)
theorem dX7_tones_47 : decode cX7_tones 47 = .ok (.aload_n 0, 1) := dk_42 (dk_at dksX7_tones_1 23 rfl rfl)
theorem dX7_tones_48 : decode cX7_tones 48 = .ok (.getfield 18, 3) := dk_180 0 18 (dk_at dksX7_tones_2 0 rfl rfl)
theorem dX7_tones_51 : decode cX7_tones 51 = .ok (.invokestatic 30, 3) := dk_184 0 30 (dk_at dksX7_tones_2 3 rfl rfl)
theorem dX7_tones_54 : decode cX7_tones 54 = .ok (.iload_n 2, 1) := dk_28 (dk_at dksX7_tones_2 6 rfl rfl)
theorem dX7_tones_55 : decode cX7_tones 55 = .ok (.iadd, 1) := dk_96 (dk_at dksX7_tones_2 7 rfl rfl)
theorem dX7_tones_56 : decode cX7_tones 56 = .ok (.bipush 12, 2) := dk_16 12 (dk_at dksX7_tones_2 8 rfl rfl)
theorem dX7_tones_58 : decode cX7_tones 58 = .ok (.irem, 1) := dk_112 (dk_at dksX7_tones_2 10 rfl rfl)
theorem dX7_tones_59 : decode cX7_tones 59 = .ok (.ishl, 1) := dk_120 (dk_at dksX7_tones_2 11 rfl rfl)
theorem dX7_tones_60 : decode cX7_tones 60 = .ok (.goto 4, 3) := dk_167 0 4 (dk_at dksX7_tones_2 12 rfl rfl)
theorem dX7_tones_63 : decode cX7_tones 63 = .ok (.iconst 0, 1) := dk_3 (dk_at dksX7_tones_2 15 rfl rfl)
theorem dX7_tones_64 : decode cX7_tones 64 = .ok (.ior, 1) := dk_128 (dk_at dksX7_tones_2 16 rfl rfl)
theorem dX7_tones_65 : decode cX7_tones 65 = .ok (.istore_n 1, 1) := dk_60 (dk_at dksX7_tones_2 17 rfl rfl)
theorem dX7_tones_66 : decode cX7_tones 66 = .ok (.iinc 2 1, 3) := dk_132 2 1 (dk_at dksX7_tones_2 18 rfl rfl)
theorem dX7_tones_69 : decode cX7_tones 69 = .ok (.goto (-44), 3) := dk_167 255 212 (dk_at dksX7_tones_2 21 rfl rfl)
theorem dX7_tones_72 : decode cX7_tones 72 = .ok (.iload_n 1, 1) := dk_27 (dk_at dksX7_tones_3 0 rfl rfl)
theorem dX7_tones_73 : decode cX7_tones 73 = .ok (.ireturn, 1) := dk_172 (dk_at dksX7_tones_3 1 rfl rfl)
theorem dX1_writeNote_0 : decode cX1_writeNote 0 = .ok (.aload_n 0, 1) := dk_42 (dk_at dksX1_writeNote_0 0 rfl rfl)
theorem dX1_writeNote_1 : decode cX1_writeNote 1 = .ok (.ldc 75, 2) := dk_18 75 (dk_at dksX1_writeNote_0 1 rfl rfl)
theorem dX1_writeNote_3 : decode cX1_writeNote 3 = .ok (.iload_n 1, 1) := dk_27 (dk_at dksX1_writeNote_0 3 rfl rfl)
theorem dX1_writeNote_4 : decode cX1_writeNote 4 = .ok (.iconst 1, 1) := dk_4 (dk_at dksX1_writeNote_0 4 rfl rfl)
theorem dX1_writeNote_5 : decode cX1_writeNote 5 = .ok (.iadd, 1) := dk_96 (dk_at dksX1_writeNote_0 5 rfl rfl)
theorem dX1_writeNote_6 : decode cX1_writeNote 6 = .ok (.ldc 75, 2) := dk_18 75 (dk_at dksX1_writeNote_0 6 rfl rfl)
theorem dX1_writeNote_8 : decode cX1_writeNote 8 = .ok (.invokevirtual 77, 3) := dk_182 0 77 (dk_at dksX1_writeNote_0 8 rfl rfl)
theorem dX1_writeNote_11 : decode cX1_writeNote 11 = .ok (.invokestatic 69, 3) := dk_184 0 69 (dk_at dksX1_writeNote_0 11 rfl rfl)
theorem dX1_writeNote_14 : decode cX1_writeNote 14 = .ok (.invokevirtual 86, 3) := dk_182 0 86 (dk_at dksX1_writeNote_0 14 rfl rfl)
theorem dX1_writeNote_17 : decode cX1_writeNote 17 = .ok (.invokevirtual 90, 3) := dk_182 0 90 (dk_at dksX1_writeNote_0 17 rfl rfl)
theorem dX1_writeNote_20 : decode cX1_writeNote 20 = .ok (.pop, 1) := dk_87 (dk_at dksX1_writeNote_0 20 rfl rfl)
theorem dX1_writeNote_21 : decode cX1_writeNote 21 = .ok (.iconst 0, 1) := dk_3 (dk_at dksX1_writeNote_0 21 rfl rfl)
theorem dX1_writeNote_22 : decode cX1_writeNote 22 = .ok (.istore_n 2, 1) := dk_61 (dk_at dksX1_writeNote_0 22 rfl rfl)
theorem dX1_writeNote_23 : decode cX1_writeNote 23 = .ok (.iload_n 2, 1) := dk_28 (dk_at dksX1_writeNote_0 23 rfl rfl)
theorem dX1_writeNote_24 : decode cX1_writeNote 24 = .ok (.iload_n 1, 1) := dk_27 (dk_at dksX1_writeNote_1 0 rfl rfl)
theorem dX1_writeNote_25 : decode cX1_writeNote 25 = .ok (.invokestatic 96, 3) := dk_184 0 96 (dk_at dksX1_writeNote_1 1 rfl rfl)
theorem dX1_writeNote_28 : decode cX1_writeNote 28 = .ok (.invokestatic 100, 3) := dk_184 0 100 (dk_at dksX1_writeNote_1 4 rfl rfl)
theorem dX1_writeNote_31 : decode cX1_writeNote 31 = .ok (.if_icmp .ge 25, 3) := dk_162 0 25 (dk_at dksX1_writeNote_1 7 rfl rfl)
theorem dX1_writeNote_34 : decode cX1_writeNote 34 = .ok (.aload_n 0, 1) := dk_42 (dk_at dksX1_writeNote_1 10 rfl rfl)
theorem dX1_writeNote_35 : decode cX1_writeNote 35 = .ok (.iload_n 1, 1) := dk_27 (dk_at dksX1_writeNote_1 11 rfl rfl)
theorem dX1_writeNote_36 : decode cX1_writeNote 36 = .ok (.ifCond .le 8, 3) := dk_158 0 8 (dk_at dksX1_writeNote_1 12 rfl rfl)
theorem dX1_writeNote_39 : decode cX1_writeNote 39 = .ok (.bipush 35, 2) := dk_16 35 (dk_at dksX1_writeNote_1 15 rfl rfl)
theorem dX1_writeNote_41 : decode cX1_writeNote 41 = .ok (.goto 5, 3) := dk_167 0 5 (dk_at dksX1_writeNote_1 17 rfl rfl)
theorem dX1_writeNote_44 : decode cX1_writeNote 44 = .ok (.bipush 98, 2) := dk_16 98 (dk_at dksX1_writeNote_1 20 rfl rfl)
theorem dX1_writeNote_46 : decode cX1_writeNote 46 = .ok (.invokevirtual 90, 3) := dk_182 0 90 (dk_at dksX1_writeNote_2 0 rfl rfl)
theorem dX1_writeNote_49 : decode cX1_writeNote 49 = .ok (.pop, 1) := dk_87 (dk_at dksX1_writeNote_2 3 rfl rfl)
theorem dX1_writeNote_50 : decode cX1_writeNote 50 = .ok (.iinc 2 1, 3) := dk_132 2 1 (dk_at dksX1_writeNote_2 4 rfl rfl)
theorem dX1_writeNote_53 : decode cX1_writeNote 53 = .ok (.goto (-30), 3) := dk_167 255 226 (dk_at dksX1_writeNote_2 7 rfl rfl)
theorem dX1_writeNote_56 : decode cX1_writeNote 56 = .ok (.return_, 1) := dk_177 (dk_at dksX1_writeNote_2 10 rfl rfl)
theorem dX7_name_0 : decode cX7_name 0 = .ok (.new 52, 3) := dk_187 0 52 (dk_at dksX7_name_0 0 rfl rfl)
theorem dX7_name_3 : decode cX7_name 3 = .ok (.dup, 1) := dk_89 (dk_at dksX7_name_0 3 rfl rfl)
theorem dX7_name_4 : decode cX7_name 4 = .ok (.bipush 12, 2) := dk_16 12 (dk_at dksX7_name_0 4 rfl rfl)
theorem dX7_name_6 : decode cX7_name 6 = .ok (.invokespecial 54, 3) := dk_183 0 54 (dk_at dksX7_name_0 6 rfl rfl)
theorem dX7_name_9 : decode cX7_name 9 = .ok (.astore_n 1, 1) := dk_76 (dk_at dksX7_name_0 9 rfl rfl)
theorem dX7_name_10 : decode cX7_name 10 = .ok (.aload_n 1, 1) := dk_43 (dk_at dksX7_name_0 10 rfl rfl)
theorem dX7_name_11 : decode cX7_name 11 = .ok (.aload_n 0, 1) := dk_42 (dk_at dksX7_name_0 11 rfl rfl)
theorem dX7_name_12 : decode cX7_name 12 = .ok (.getfield 18, 3) := dk_180 0 18 (dk_at dksX7_name_0 12 rfl rfl)
theorem dX7_name_15 : decode cX7_name 15 = .ok (.invokestatic 57, 3) := dk_184 0 57 (dk_at dksX7_name_0 15 rfl rfl)
theorem dX7_name_18 : decode cX7_name 18 = .ok (.aload_n 1, 1) := dk_43 (dk_at dksX7_name_0 18 rfl rfl)
theorem dX7_name_19 : decode cX7_name 19 = .ok (.aload_n 0, 1) := dk_42 (dk_at dksX7_name_0 19 rfl rfl)
theorem dX7_name_20 : decode cX7_name 20 = .ok (.getfield 21, 3) := dk_180 0 21 (dk_at dksX7_name_0 20 rfl rfl)
theorem dX7_name_23 : decode cX7_name 23 = .ok (.invokestatic 61, 3) := dk_184 0 61 (dk_at dksX7_name_1 0 rfl rfl)
theorem dX7_name_26 : decode cX7_name 26 = .ok (.invokevirtual 64, 3) := dk_182 0 64 (dk_at dksX7_name_1 3 rfl rfl)
theorem dX7_name_29 : decode cX7_name 29 = .ok (.pop, 1) := dk_87 (dk_at dksX7_name_1 6 rfl rfl)
theorem dX7_name_30 : decode cX7_name 30 = .ok (.aload_n 0, 1) := dk_42 (dk_at dksX7_name_1 7 rfl rfl)
theorem dX7_name_31 : decode cX7_name 31 = .ok (.getfield 24, 3) := dk_180 0 24 (dk_at dksX7_name_1 8 rfl rfl)
theorem dX7_name_34 : decode cX7_name 34 = .ok (.bipush 100, 2) := dk_16 100 (dk_at dksX7_name_1 11 rfl rfl)
theorem dX7_name_36 : decode cX7_name 36 = .ok (.if_icmp .eq 18, 3) := dk_159 0 18 (dk_at dksX7_name_1 13 rfl rfl)
theorem dX7_name_39 : decode cX7_name 39 = .ok (.aload_n 1, 1) := dk_43 (dk_at dksX7_name_1 16 rfl rfl)
theorem dX7_name_40 : decode cX7_name 40 = .ok (.bipush 47, 2) := dk_16 47 (dk_at dksX7_name_1 17 rfl rfl)
theorem dX7_name_42 : decode cX7_name 42 = .ok (.invokevirtual 68, 3) := dk_182 0 68 (dk_at dksX7_name_1 19 rfl rfl)
theorem dX7_name_45 : decode cX7_name 45 = .ok (.pop, 1) := dk_87 (dk_at dksX7_name_1 22 rfl rfl)
theorem dX7_name_46 : decode cX7_name 46 = .ok (.aload_n 1, 1) := dk_43 (dk_at dksX7_name_1 23 rfl rfl)
theorem dX7_name_47 : decode cX7_name 47 = .ok (.aload_n 0, 1) := dk_42 (dk_at dksX7_name_2 0 rfl rfl)
theorem dX7_name_48 : decode cX7_name 48 = .ok (.getfield 24, 3) := dk_180 0 24 (dk_at dksX7_name_2 1 rfl rfl)
theorem dX7_name_51 : decode cX7_name 51 = .ok (.invokestatic 57, 3) := dk_184 0 57 (dk_at dksX7_name_2 4 rfl rfl)
theorem dX7_name_54 : decode cX7_name 54 = .ok (.aload_n 1, 1) := dk_43 (dk_at dksX7_name_2 7 rfl rfl)
theorem dX7_name_55 : decode cX7_name 55 = .ok (.invokevirtual 71, 3) := dk_182 0 71 (dk_at dksX7_name_2 8 rfl rfl)
theorem dX7_name_58 : decode cX7_name 58 = .ok (.areturn, 1) := dk_176 (dk_at dksX7_name_2 11 rfl rfl)
theorem dX8_hashCode_0 : decode cX8_hashCode 0 = .ok (.iconst 2, 1) := dk_5 (dk_at dksX8_hashCode_0 0 rfl rfl)
theorem dX8_hashCode_1 : decode cX8_hashCode 1 = .ok (.bipush 10, 2) := dk_16 10 (dk_at dksX8_hashCode_0 1 rfl rfl)
theorem dX8_hashCode_3 : decode cX8_hashCode 3 = .ok (.aload_n 0, 1) := dk_42 (dk_at dksX8_hashCode_0 3 rfl rfl)
theorem dX8_hashCode_4 : decode cX8_hashCode 4 = .ok (.getfield 9, 3) := dk_180 0 9 (dk_at dksX8_hashCode_0 4 rfl rfl)
theorem dX8_hashCode_7 : decode cX8_hashCode 7 = .ok (.imul, 1) := dk_104 (dk_at dksX8_hashCode_0 7 rfl rfl)
theorem dX8_hashCode_8 : decode cX8_hashCode 8 = .ok (.aload_n 0, 1) := dk_42 (dk_at dksX8_hashCode_0 8 rfl rfl)
theorem dX8_hashCode_9 : decode cX8_hashCode 9 = .ok (.getfield 15, 3) := dk_180 0 15 (dk_at dksX8_hashCode_0 9 rfl rfl)
theorem dX8_hashCode_12 : decode cX8_hashCode 12 = .ok (.iadd, 1) := dk_96 (dk_at dksX8_hashCode_0 12 rfl rfl)
theorem dX8_hashCode_13 : decode cX8_hashCode 13 = .ok (.imul, 1) := dk_104 (dk_at dksX8_hashCode_0 13 rfl rfl)
theorem dX8_hashCode_14 : decode cX8_hashCode 14 = .ok (.aload_n 0, 1) := dk_42 (dk_at dksX8_hashCode_0 14 rfl rfl)
theorem dX8_hashCode_15 : decode cX8_hashCode 15 = .ok (.getfield 18, 3) := dk_180 0 18 (dk_at dksX8_hashCode_0 15 rfl rfl)
theorem dX8_hashCode_18 : decode cX8_hashCode 18 = .ok (.ifCond .eq 7, 3) := dk_153 0 7 (dk_at dksX8_hashCode_0 18 rfl rfl)
theorem dX8_hashCode_21 : decode cX8_hashCode 21 = .ok (.iconst 1, 1) := dk_4 (dk_at dksX8_hashCode_0 21 rfl rfl)
theorem dX8_hashCode_22 : decode cX8_hashCode 22 = .ok (.goto 4, 3) := dk_167 0 4 (dk_at dksX8_hashCode_1 0 rfl rfl)
theorem dX8_hashCode_25 : decode cX8_hashCode 25 = .ok (.iconst 0, 1) := dk_3 (dk_at dksX8_hashCode_1 3 rfl rfl)
theorem dX8_hashCode_26 : decode cX8_hashCode 26 = .ok (.iadd, 1) := dk_96 (dk_at dksX8_hashCode_1 4 rfl rfl)
theorem dX8_hashCode_27 : decode cX8_hashCode 27 = .ok (.ireturn, 1) := dk_172 (dk_at dksX8_hashCode_1 5 rfl rfl)
theorem dX8_isEasy_0 : decode cX8_isEasy 0 = .ok (.aload_n 0, 1) := dk_42 (dk_at dksX8_isEasy_0 0 rfl rfl)
theorem dX8_isEasy_1 : decode cX8_isEasy 1 = .ok (.getfield 15, 3) := dk_180 0 15 (dk_at dksX8_isEasy_0 1 rfl rfl)
theorem dX8_isEasy_4 : decode cX8_isEasy 4 = .ok (.invokestatic 22, 3) := dk_184 0 22 (dk_at dksX8_isEasy_0 4 rfl rfl)
theorem dX8_isEasy_7 : decode cX8_isEasy 7 = .ok (.aload_n 0, 1) := dk_42 (dk_at dksX8_isEasy_0 7 rfl rfl)
theorem dX8_isEasy_8 : decode cX8_isEasy 8 = .ok (.getfield 9, 3) := dk_180 0 9 (dk_at dksX8_isEasy_0 8 rfl rfl)
theorem dX8_isEasy_11 : decode cX8_isEasy 11 = .ok (.invokestatic 26, 3) := dk_184 0 26 (dk_at dksX8_isEasy_0 11 rfl rfl)
theorem dX8_isEasy_14 : decode cX8_isEasy 14 = .ok (.ireturn, 1) := dk_172 (dk_at dksX8_isEasy_0 14 rfl rfl)
theorem dX8_difficulty_0 : decode cX8_difficulty 0 = .ok (.aload_n 0, 1) := dk_42 (dk_at dksX8_difficulty_0 0 rfl rfl)
theorem dX8_difficulty_1 : decode cX8_difficulty 1 = .ok (.invokevirtual 30, 3) := dk_182 0 30 (dk_at dksX8_difficulty_0 1 rfl rfl)
theorem dX8_difficulty_4 : decode cX8_difficulty 4 = .ok (.ifCond .eq 7, 3) := dk_153 0 7 (dk_at dksX8_difficulty_0 4 rfl rfl)
theorem dX8_difficulty_7 : decode cX8_difficulty 7 = .ok (.iconst 1, 1) := dk_4 (dk_at dksX8_difficulty_0 7 rfl rfl)
theorem dX8_difficulty_8 : decode cX8_difficulty 8 = .ok (.goto 4, 3) := dk_167 0 4 (dk_at dksX8_difficulty_0 8 rfl rfl)
theorem dX8_difficulty_11 : decode cX8_difficulty 11 = .ok (.iconst 4, 1) := dk_7 (dk_at dksX8_difficulty_0 11 rfl rfl)
theorem dX8_difficulty_12 : decode cX8_difficulty 12 = .ok (.aload_n 0, 1) := dk_42 (dk_at dksX8_difficulty_0 12 rfl rfl)
theorem dX8_difficulty_13 : decode cX8_difficulty 13 = .ok (.getfield 15, 3) := dk_180 0 15 (dk_at dksX8_difficulty_0 13 rfl rfl)
theorem dX8_difficulty_16 : decode cX8_difficulty 16 = .ok (.iconst 3, 1) := dk_6 (dk_at dksX8_difficulty_0 16 rfl rfl)
theorem dX8_difficulty_17 : decode cX8_difficulty 17 = .ok (.if_icmp .le 7, 3) := dk_164 0 7 (dk_at dksX8_difficulty_0 17 rfl rfl)
theorem dX8_difficulty_20 : decode cX8_difficulty 20 = .ok (.iconst 1, 1) := dk_4 (dk_at dksX8_difficulty_0 20 rfl rfl)
theorem dX8_difficulty_21 : decode cX8_difficulty 21 = .ok (.goto 4, 3) := dk_167 0 4 (dk_at dksX8_difficulty_0 21 rfl rfl)
theorem dX8_difficulty_24 : decode cX8_difficulty 24 = .ok (.iconst 0, 1) := dk_3 (dk_at dksX8_difficulty_1 0 rfl rfl)
theorem dX8_difficulty_25 : decode cX8_difficulty 25 = .ok (.iadd, 1) := dk_96 (dk_at dksX8_difficulty_1 1 rfl rfl)
theorem dX8_difficulty_26 : decode cX8_difficulty 26 = .ok (.aload_n 0, 1) := dk_42 (dk_at dksX8_difficulty_1 2 rfl rfl)
theorem dX8_difficulty_27 : decode cX8_difficulty 27 = .ok (.getfield 18, 3) := dk_180 0 18 (dk_at dksX8_difficulty_1 3 rfl rfl)
theorem dX8_difficulty_30 : decode cX8_difficulty 30 = .ok (.ifCond .eq 7, 3) := dk_153 0 7 (dk_at dksX8_difficulty_1 6 rfl rfl)
theorem dX8_difficulty_33 : decode cX8_difficulty 33 = .ok (.iconst 1, 1) := dk_4 (dk_at dksX8_difficulty_1 9 rfl rfl)
theorem dX8_difficulty_34 : decode cX8_difficulty 34 = .ok (.goto 4, 3) := dk_167 0 4 (dk_at dksX8_difficulty_1 10 rfl rfl)
theorem dX8_difficulty_37 : decode cX8_difficulty 37 = .ok (.iconst 0, 1) := dk_3 (dk_at dksX8_difficulty_1 13 rfl rfl)
theorem dX8_difficulty_38 : decode cX8_difficulty 38 = .ok (.iadd, 1) := dk_96 (dk_at dksX8_difficulty_1 14 rfl rfl)
theorem dX8_difficulty_39 : decode cX8_difficulty 39 = .ok (.ireturn, 1) := dk_172 (dk_at dksX8_difficulty_1 15 rfl rfl)
theorem dX8_equals_0 : decode cX8_equals 0 = .ok (.aload_n 1, 1) := dk_43 (dk_at dksX8_equals_0 0 rfl rfl)
theorem dX8_equals_1 : decode cX8_equals 1 = .ok (.instanceof 10, 3) := dk_193 0 10 (dk_at dksX8_equals_0 1 rfl rfl)
theorem dX8_equals_4 : decode cX8_equals 4 = .ok (.ifCond .ne 5, 3) := dk_154 0 5 (dk_at dksX8_equals_0 4 rfl rfl)
theorem dX8_equals_9 : decode cX8_equals 9 = .ok (.aload_n 1, 1) := dk_43 (dk_at dksX8_equals_0 9 rfl rfl)
theorem dX8_equals_10 : decode cX8_equals 10 = .ok (.checkcast 10, 3) := dk_192 0 10 (dk_at dksX8_equals_0 10 rfl rfl)
theorem dX8_equals_13 : decode cX8_equals 13 = .ok (.astore_n 2, 1) := dk_77 (dk_at dksX8_equals_0 13 rfl rfl)
theorem dX8_equals_14 : decode cX8_equals 14 = .ok (.aload_n 0, 1) := dk_42 (dk_at dksX8_equals_0 14 rfl rfl)
theorem dX8_equals_15 : decode cX8_equals 15 = .ok (.getfield 9, 3) := dk_180 0 9 (dk_at dksX8_equals_0 15 rfl rfl)
theorem dX8_equals_18 : decode cX8_equals 18 = .ok (.aload_n 2, 1) := dk_44 (dk_at dksX8_equals_0 18 rfl rfl)
theorem dX8_equals_19 : decode cX8_equals 19 = .ok (.getfield 9, 3) := dk_180 0 9 (dk_at dksX8_equals_0 19 rfl rfl)
theorem dX8_equals_22 : decode cX8_equals 22 = .ok (.if_icmp .ne 29, 3) := dk_160 0 29 (dk_at dksX8_equals_1 0 rfl rfl)
theorem dX8_equals_25 : decode cX8_equals 25 = .ok (.aload_n 0, 1) := dk_42 (dk_at dksX8_equals_1 3 rfl rfl)
theorem dX8_equals_26 : decode cX8_equals 26 = .ok (.getfield 15, 3) := dk_180 0 15 (dk_at dksX8_equals_1 4 rfl rfl)
theorem dX8_equals_29 : decode cX8_equals 29 = .ok (.aload_n 2, 1) := dk_44 (dk_at dksX8_equals_1 7 rfl rfl)
theorem dX8_equals_30 : decode cX8_equals 30 = .ok (.getfield 15, 3) := dk_180 0 15 (dk_at dksX8_equals_1 8 rfl rfl)
theorem dX8_equals_33 : decode cX8_equals 33 = .ok (.if_icmp .ne 18, 3) := dk_160 0 18 (dk_at dksX8_equals_1 11 rfl rfl)
theorem dX8_equals_36 : decode cX8_equals 36 = .ok (.aload_n 0, 1) := dk_42 (dk_at dksX8_equals_1 14 rfl rfl)
theorem dX8_equals_37 : decode cX8_equals 37 = .ok (.getfield 18, 3) := dk_180 0 18 (dk_at dksX8_equals_1 15 rfl rfl)
theorem dX8_equals_40 : decode cX8_equals 40 = .ok (.aload_n 2, 1) := dk_44 (dk_at dksX8_equals_1 18 rfl rfl)
theorem dX8_equals_41 : decode cX8_equals 41 = .ok (.getfield 18, 3) := dk_180 0 18 (dk_at dksX8_equals_1 19 rfl rfl)
theorem dX8_equals_44 : decode cX8_equals 44 = .ok (.if_icmp .ne 7, 3) := dk_160 0 7 (dk_at dksX8_equals_2 0 rfl rfl)
theorem dX8_equals_47 : decode cX8_equals 47 = .ok (.iconst 1, 1) := dk_4 (dk_at dksX8_equals_2 3 rfl rfl)
theorem dX8_equals_48 : decode cX8_equals 48 = .ok (.goto 4, 3) := dk_167 0 4 (dk_at dksX8_equals_2 4 rfl rfl)
theorem dX8_equals_51 : decode cX8_equals 51 = .ok (.iconst 0, 1) := dk_3 (dk_at dksX8_equals_2 7 rfl rfl)
theorem dX8_equals_52 : decode cX8_equals 52 = .ok (.ireturn, 1) := dk_172 (dk_at dksX8_equals_2 8 rfl rfl)
theorem q1064 : (Jvm.Cond.classLink "ChordSheet$Chord" (10 : Nat) "ChordSheet$Chord") ∈ lw_all := lw_g (lw_at lw_m5 42 rfl) rfl
theorem q1065 : (Jvm.Cond.methodLink "ChordSheet$Chord" (27 : Nat) ({ cls := "ChordSheet$Chord", name := "<init>", desc := "(IIIII)V" } : Jvm.MethodName)) ∈ lw_all := lw_g (lw_at lw_m5 43 rfl) rfl
theorem q1114 : (Jvm.Cond.methodLinkNest "ChordSheet$Chord" (30 : Nat) ({ cls := "ChordSheet", name := "pitchClass", desc := "(I)I" } : Jvm.MethodName) "ChordSheet") ∈ lw_tbl := lw_at lw_m5 92 rfl
theorem q1115 : (Jvm.Cond.classLink "ChordSheet$Chord" (41 : Nat) "ChordSheet$Shape") ∈ lw_all := lw_g (lw_at lw_m5 93 rfl) rfl
theorem q1116 : (Jvm.Cond.instantiable "ChordSheet$Shape" (3 : Nat)) ∈ lw_all := lw_g (lw_at lw_m5 94 rfl) rfl
theorem q1117 : (Jvm.Cond.methodLink "ChordSheet$Chord" (43 : Nat) ({ cls := "java/lang/Math", name := "floorMod", desc := "(II)I" } : Jvm.MethodName)) ∈ lw_all := lw_g (lw_at lw_m5 95 rfl) rfl
theorem q1118 : (Jvm.Cond.methodLink "ChordSheet$Chord" (49 : Nat) ({ cls := "ChordSheet$Shape", name := "<init>", desc := "(IIZ)V" } : Jvm.MethodName)) ∈ lw_all := lw_g (lw_at lw_m5 96 rfl) rfl
theorem q1119 : (Jvm.Cond.instanceMethod ({ cls := "ChordSheet$Shape", name := "<init>", desc := "(IIZ)V" } : Jvm.MethodName)) ∈ lw_all := lw_g (lw_at lw_m5 97 rfl) rfl
theorem q1120 : (Jvm.Cond.code ({ cls := "ChordSheet$Shape", name := "<init>", desc := "(IIZ)V" } : Jvm.MethodName) prog_6_method_1_code (4 : Nat) (Option.none : Option Jvm.ClassFile.FieldType)) ∈ lw_all := lw_g (lw_at lw_m5 98 rfl) rfl
theorem q1237 : (Jvm.Cond.classLink "ChordSheet$Shape" (10 : Nat) "ChordSheet$Shape") ∈ lw_all := lw_g (lw_at lw_m5 215 rfl) rfl
theorem q1612 : (Jvm.Cond.instanceMethod ({ cls := "ChordSheet$Shape", name := "isEasy", desc := "()Z" } : Jvm.MethodName)) ∈ lw_all := lw_g (lw_at lw_m7 110 rfl) rfl
theorem q1613 : (Jvm.Cond.selects "ChordSheet$Shape" ({ cls := "ChordSheet$Shape", name := "isEasy", desc := "()Z" } : Jvm.MethodName) ({ cls := "ChordSheet$Shape", name := "isEasy", desc := "()Z" } : Jvm.MethodName)) ∈ lw_all := lw_g (lw_at lw_m7 111 rfl) rfl
theorem q1614 : (Jvm.Cond.code ({ cls := "ChordSheet$Shape", name := "isEasy", desc := "()Z" } : Jvm.MethodName) prog_6_method_2_code (1 : Nat) (Option.some Jvm.ClassFile.FieldType.boolean)) ∈ lw_all := lw_g (lw_at lw_m7 112 rfl) rfl
theorem q1615 : (Jvm.Cond.methodLinkNest "ChordSheet$Shape" (22 : Nat) ({ cls := "ChordSheet", name := "easyRoots", desc := "(I)I" } : Jvm.MethodName) "ChordSheet") ∈ lw_tbl := lw_at lw_m7 113 rfl
theorem q1616 : (Jvm.Cond.static ({ cls := "ChordSheet", name := "easyRoots", desc := "(I)I" } : Jvm.MethodName)) ∈ lw_all := lw_g (lw_at lw_m7 114 rfl) rfl
theorem q1617 : (Jvm.Cond.code ({ cls := "ChordSheet", name := "easyRoots", desc := "(I)I" } : Jvm.MethodName) prog_1_method_12_code (1 : Nat) (Option.some Jvm.ClassFile.FieldType.int)) ∈ lw_all := lw_g (lw_at lw_m7 115 rfl) rfl
theorem q1618 : (Jvm.Cond.methodLinkNest "ChordSheet$Shape" (26 : Nat) ({ cls := "ChordSheet", name := "has", desc := "(II)Z" } : Jvm.MethodName) "ChordSheet") ∈ lw_tbl := lw_at lw_m7 116 rfl
theorem q1619 : (Jvm.Cond.static ({ cls := "ChordSheet", name := "has", desc := "(II)Z" } : Jvm.MethodName)) ∈ lw_all := lw_g (lw_at lw_m7 117 rfl) rfl
theorem q1620 : (Jvm.Cond.code ({ cls := "ChordSheet", name := "has", desc := "(II)Z" } : Jvm.MethodName) prog_1_method_13_code (2 : Nat) (Option.some Jvm.ClassFile.FieldType.boolean)) ∈ lw_all := lw_g (lw_at lw_m7 118 rfl) rfl
theorem q1626 : (Jvm.Cond.methodLink "ChordSheet$Shape" (30 : Nat) ({ cls := "ChordSheet$Shape", name := "isEasy", desc := "()Z" } : Jvm.MethodName)) ∈ lw_all := lw_g (lw_at lw_m7 124 rfl) rfl
theorem q1635 : (Jvm.Cond.methodLink "ChordSheet" (86 : Nat) ({ cls := "java/lang/String", name := "charAt", desc := "(I)C" } : Jvm.MethodName)) ∈ lw_all := lw_g (lw_at lw_m7 133 rfl) rfl
theorem q1770 : (Jvm.Cond.classLink "ChordSheet$Chord" (52 : Nat) "java/lang/StringBuilder") ∈ lw_all := lw_g (lw_at lw_m8 28 rfl) rfl
theorem q1771 : (Jvm.Cond.methodLink "ChordSheet$Chord" (54 : Nat) ({ cls := "java/lang/StringBuilder", name := "<init>", desc := "(I)V" } : Jvm.MethodName)) ∈ lw_all := lw_g (lw_at lw_m8 29 rfl) rfl
theorem q1772 : (Jvm.Cond.instanceMethod ({ cls := "java/lang/StringBuilder", name := "<init>", desc := "(I)V" } : Jvm.MethodName)) ∈ lw_all := lw_g (lw_at lw_m8 30 rfl) rfl
theorem q1773 : (Jvm.Cond.code ({ cls := "java/lang/StringBuilder", name := "<init>", desc := "(I)V" } : Jvm.MethodName) prog_31_method_2_code (2 : Nat) (Option.none : Option Jvm.ClassFile.FieldType)) ∈ lw_all := lw_g (lw_at lw_m8 31 rfl) rfl
theorem q1774 : (Jvm.Cond.methodLinkNest "ChordSheet$Chord" (57 : Nat) ({ cls := "ChordSheet", name := "writeNote", desc := "(Ljava/lang/StringBuilder;I)V" } : Jvm.MethodName) "ChordSheet") ∈ lw_tbl := lw_at lw_m8 32 rfl
theorem q1775 : (Jvm.Cond.static ({ cls := "ChordSheet", name := "writeNote", desc := "(Ljava/lang/StringBuilder;I)V" } : Jvm.MethodName)) ∈ lw_all := lw_g (lw_at lw_m8 33 rfl) rfl
theorem q1776 : (Jvm.Cond.code ({ cls := "ChordSheet", name := "writeNote", desc := "(Ljava/lang/StringBuilder;I)V" } : Jvm.MethodName) prog_1_method_8_code (3 : Nat) (Option.none : Option Jvm.ClassFile.FieldType)) ∈ lw_all := lw_g (lw_at lw_m8 34 rfl) rfl
theorem q1777 : (Jvm.Cond.methodLink "ChordSheet" (90 : Nat) ({ cls := "java/lang/StringBuilder", name := "append", desc := "(C)Ljava/lang/StringBuilder;" } : Jvm.MethodName)) ∈ lw_all := lw_g (lw_at lw_m8 35 rfl) rfl
theorem q1778 : (Jvm.Cond.methodLink "ChordSheet" (96 : Nat) ({ cls := "ChordSheet", name := "accidentals", desc := "(I)I" } : Jvm.MethodName)) ∈ lw_all := lw_g (lw_at lw_m8 36 rfl) rfl
theorem q1779 : (Jvm.Cond.methodLink "ChordSheet" (100 : Nat) ({ cls := "java/lang/Math", name := "abs", desc := "(I)I" } : Jvm.MethodName)) ∈ lw_all := lw_g (lw_at lw_m8 37 rfl) rfl
theorem q1780 : (Jvm.Cond.methodLinkNest "ChordSheet$Chord" (61 : Nat) ({ cls := "ChordSheet", name := "quality", desc := "(I)Ljava/lang/String;" } : Jvm.MethodName) "ChordSheet") ∈ lw_tbl := lw_at lw_m8 38 rfl
theorem q1781 : (Jvm.Cond.methodLink "ChordSheet$Chord" (64 : Nat) ({ cls := "java/lang/StringBuilder", name := "append", desc := "(Ljava/lang/String;)Ljava/lang/StringBuilder;" } : Jvm.MethodName)) ∈ lw_all := lw_g (lw_at lw_m8 39 rfl) rfl
theorem q1782 : (Jvm.Cond.methodLink "ChordSheet$Chord" (68 : Nat) ({ cls := "java/lang/StringBuilder", name := "append", desc := "(C)Ljava/lang/StringBuilder;" } : Jvm.MethodName)) ∈ lw_all := lw_g (lw_at lw_m8 40 rfl) rfl
theorem q1783 : (Jvm.Cond.methodLink "ChordSheet$Chord" (71 : Nat) ({ cls := "java/lang/StringBuilder", name := "toString", desc := "()Ljava/lang/String;" } : Jvm.MethodName)) ∈ lw_all := lw_g (lw_at lw_m8 41 rfl) rfl
theorem q1869 : (Jvm.Cond.methodLinkNest "ChordSheet$Chord" (34 : Nat) ({ cls := "ChordSheet", name := "intervals", desc := "(I)I" } : Jvm.MethodName) "ChordSheet") ∈ lw_tbl := lw_at lw_m8 127 rfl
theorem q1870 : (Jvm.Cond.static ({ cls := "ChordSheet", name := "intervals", desc := "(I)I" } : Jvm.MethodName)) ∈ lw_all := lw_g (lw_at lw_m8 128 rfl) rfl
theorem q1871 : (Jvm.Cond.code ({ cls := "ChordSheet", name := "intervals", desc := "(I)I" } : Jvm.MethodName) prog_1_method_11_code (1 : Nat) (Option.some Jvm.ClassFile.FieldType.int)) ∈ lw_all := lw_g (lw_at lw_m8 129 rfl) rfl
theorem q1872 : (Jvm.Cond.methodLinkNest "ChordSheet$Chord" (37 : Nat) ({ cls := "ChordSheet", name := "has", desc := "(II)Z" } : Jvm.MethodName) "ChordSheet") ∈ lw_tbl := lw_at lw_m8 130 rfl
theorem q331 : (Jvm.Cond.instantiable "java/lang/StringBuilder" (4 : Nat)) ∈ lw_all := lw_g (lw_at lw_m2 29 rfl) rfl
theorem q545 : (Jvm.Cond.static ({ cls := "ChordSheet", name := "quality", desc := "(I)Ljava/lang/String;" } : Jvm.MethodName)) ∈ lw_all := lw_g (lw_at lw_m3 3 rfl) rfl
theorem q546 : (Jvm.Cond.code ({ cls := "ChordSheet", name := "quality", desc := "(I)Ljava/lang/String;" } : Jvm.MethodName) prog_1_method_10_code (1 : Nat) (Option.some (Jvm.ClassFile.FieldType.object "java/lang/String"))) ∈ lw_all := lw_g (lw_at lw_m3 4 rfl) rfl
theorem q561 : (Jvm.Cond.instanceMethod ({ cls := "java/lang/String", name := "charAt", desc := "(I)C" } : Jvm.MethodName)) ∈ lw_all := lw_g (lw_at lw_m3 19 rfl) rfl
theorem q562 : (Jvm.Cond.selects "java/lang/String" ({ cls := "java/lang/String", name := "charAt", desc := "(I)C" } : Jvm.MethodName) ({ cls := "java/lang/String", name := "charAt", desc := "(I)C" } : Jvm.MethodName)) ∈ lw_all := lw_g (lw_at lw_m3 20 rfl) rfl
theorem q563 : (Jvm.Cond.code ({ cls := "java/lang/String", name := "charAt", desc := "(I)C" } : Jvm.MethodName) prog_30_method_56_code (2 : Nat) (Option.some Jvm.ClassFile.FieldType.char)) ∈ lw_all := lw_g (lw_at lw_m3 21 rfl) rfl
theorem q585 : (Jvm.Cond.instantiable "ChordSheet$Chord" (5 : Nat)) ∈ lw_all := lw_g (lw_at lw_m3 43 rfl) rfl
theorem q587 : (Jvm.Cond.instanceMethod ({ cls := "ChordSheet$Chord", name := "<init>", desc := "(IIIII)V" } : Jvm.MethodName)) ∈ lw_all := lw_g (lw_at lw_m3 45 rfl) rfl
theorem q588 : (Jvm.Cond.code ({ cls := "ChordSheet$Chord", name := "<init>", desc := "(IIIII)V" } : Jvm.MethodName) prog_2_method_1_code (6 : Nat) (Option.none : Option Jvm.ClassFile.FieldType)) ∈ lw_all := lw_g (lw_at lw_m3 46 rfl) rfl
theorem q618 : (Jvm.Cond.instanceMethod ({ cls := "java/lang/StringBuilder", name := "toString", desc := "()Ljava/lang/String;" } : Jvm.MethodName)) ∈ lw_all := lw_g (lw_at lw_m3 76 rfl) rfl
theorem q619 : (Jvm.Cond.selects "java/lang/StringBuilder" ({ cls := "java/lang/StringBuilder", name := "toString", desc := "()Ljava/lang/String;" } : Jvm.MethodName) ({ cls := "java/lang/StringBuilder", name := "toString", desc := "()Ljava/lang/String;" } : Jvm.MethodName)) ∈ lw_all := lw_g (lw_at lw_m3 77 rfl) rfl
theorem q620 : (Jvm.Cond.code ({ cls := "java/lang/StringBuilder", name := "toString", desc := "()Ljava/lang/String;" } : Jvm.MethodName) prog_31_method_42_code (1 : Nat) (Option.some (Jvm.ClassFile.FieldType.object "java/lang/String"))) ∈ lw_all := lw_g (lw_at lw_m3 78 rfl) rfl
theorem q714 : (Jvm.Cond.instanceMethod ({ cls := "java/lang/StringBuilder", name := "append", desc := "(Ljava/lang/String;)Ljava/lang/StringBuilder;" } : Jvm.MethodName)) ∈ lw_all := lw_g (lw_at lw_m3 172 rfl) rfl
theorem q715 : (Jvm.Cond.selects "java/lang/StringBuilder" ({ cls := "java/lang/StringBuilder", name := "append", desc := "(Ljava/lang/String;)Ljava/lang/StringBuilder;" } : Jvm.MethodName) ({ cls := "java/lang/StringBuilder", name := "append", desc := "(Ljava/lang/String;)Ljava/lang/StringBuilder;" } : Jvm.MethodName)) ∈ lw_all := lw_g (lw_at lw_m3 173 rfl) rfl
theorem q716 : (Jvm.Cond.code ({ cls := "java/lang/StringBuilder", name := "append", desc := "(Ljava/lang/String;)Ljava/lang/StringBuilder;" } : Jvm.MethodName) prog_31_method_7_code (2 : Nat) (Option.some (Jvm.ClassFile.FieldType.object "java/lang/StringBuilder"))) ∈ lw_all := lw_g (lw_at lw_m3 174 rfl) rfl
theorem q869 : (Jvm.Cond.instanceMethod ({ cls := "java/lang/StringBuilder", name := "append", desc := "(C)Ljava/lang/StringBuilder;" } : Jvm.MethodName)) ∈ lw_all := lw_g (lw_at lw_m4 87 rfl) rfl
theorem q870 : (Jvm.Cond.selects "java/lang/StringBuilder" ({ cls := "java/lang/StringBuilder", name := "append", desc := "(C)Ljava/lang/StringBuilder;" } : Jvm.MethodName) ({ cls := "java/lang/StringBuilder", name := "append", desc := "(C)Ljava/lang/StringBuilder;" } : Jvm.MethodName)) ∈ lw_all := lw_g (lw_at lw_m4 88 rfl) rfl
theorem q871 : (Jvm.Cond.code ({ cls := "java/lang/StringBuilder", name := "append", desc := "(C)Ljava/lang/StringBuilder;" } : Jvm.MethodName) prog_31_method_14_code (2 : Nat) (Option.some (Jvm.ClassFile.FieldType.object "java/lang/StringBuilder"))) ∈ lw_all := lw_g (lw_at lw_m4 89 rfl) rfl
theorem q89 : (Jvm.Cond.initialized "ChordSheet$Chord") ∈ lw_all := lw_g (lw_at lw_m1 27 rfl) rfl
theorem q98 : (Jvm.Cond.initialized "ChordSheet$Shape") ∈ lw_all := lw_g (lw_at lw_m1 36 rfl) rfl
theorem zmayM {h hp : zH} {S T : List Nat} {v1 : Nat} (hv : v1 ∈ T ∨ hp v1 = none) (hT : ∀ q ∈ T, q ∈ S ∨ h q = none) (k : zkeep h hp S) : v1 ∈ S ∨ h v1 = none := by
  rcases hv with e | e
  · exact hT _ e
  · by_cases hS : v1 ∈ S
    · exact Or.inl hS
    · exact Or.inr (k.none0 e hS)
theorem iI_orN {a b : Nat} (ha : a < 2147483648) (hb : b < 2147483648) : iI (a : Nat) ||| iI (b : Nat) = iI ((a ||| b : Nat) : Int) := by
  have h1 : iI (a : Nat) = nI a := (iI_ofNat a).symm
  have h2 : iI (b : Nat) = nI b := (iI_ofNat b).symm
  have h3 : iI ((a ||| b : Nat) : Int) = nI (a ||| b) := (iI_ofNat _).symm
  have h4 : a ||| b < 2 ^ 31 := Nat.or_lt_two_pow ha hb
  rw [h1, h2, h3]
  apply Int32.toBitVec_inj.mp
  apply BitVec.eq_of_toNat_eq
  rw [Int32.toBitVec_or, BitVec.toNat_or, pk_tn (by omega), pk_tn (by omega), pk_tn (by omega)]
theorem iI_shl1k {k : Int} (hk : 0 ≤ k ∧ k < 31) : iI 1 <<< (iI k &&& 31) = iI ((2 ^ k.toNat : Nat) : Int) := by
  obtain ⟨n, rfl⟩ := Int.eq_ofNat_of_zero_le hk.1
  have key : ∀ n < 31, iI 1 <<< (iI (n : Nat) &&& 31) = iI ((2 ^ n : Nat) : Int) := by decide +kernel
  exact key n (by omega)
section ZN
variable {X : zT} {cc : ByteArray} {own : String} {ret : Option FieldType} {nf nl : Nat} {hh : List ExceptionTableEntry} {h : zH} {kc ks : Nat} {L : List (Nat × Value)} {pc : Nat} {st : List Value}
theorem z_iorN (C : zC X cc own ret nf nl hh) {a b : Nat} (hr : a < 2147483648 ∧ b < 2147483648) (d : decode cc pc = .ok (.ior, 1)) (K : Z X h kc ks L (pc + 1) (.int (iI ((a ||| b : Nat) : Int)) :: st)) : Z X h kc ks L pc (.int (iI ((b : Nat) : Int)) :: .int (iI ((a : Nat) : Int)) :: st) := z_ior C d (iI_orN hr.1 hr.2) K
theorem z_ishl1k (C : zC X cc own ret nf nl hh) {k : Int} (hk : 0 ≤ k ∧ k < 31) (d : decode cc pc = .ok (.ishl, 1)) (K : Z X h kc ks L (pc + 1) (.int (iI ((2 ^ k.toNat : Nat) : Int)) :: st)) : Z X h kc ks L pc (.int (iI k) :: .int (iI 1) :: st) := z_ishl C d (iI_shl1k hk) K
end ZN
def cmn (q : Int) : Int := if q = 1 ∨ q = 3 ∨ q = 5 then 1 else 0
def shr (r f : Int) : Int := (pcl r - f) % 12
def shb (r b : Int) : Int := if b ≠ 100 ∧ pcl b ≠ pcl r then 1 else 0
theorem shr_r (r f : Int) : 0 ≤ shr r f ∧ shr r f < 12 := by unfold shr; omega
theorem shb_r (r b : Int) : shb r b = 0 ∨ shb r b = 1 := by unfold shb; split <;> omega
/-- the pitch classes of a chord, as a set -/
def tgo (r q : Int) : Nat → Int → Nat → Nat
  | 0, _, s => s
  | f + 1, k, s => tgo r q f (k + 1) (if hsb (ivl q) k = 1 then s ||| 2 ^ ((pcl r + k) % 12).toNat else s ||| 0)
def tns (r q b : Int) : Nat := tgo r q 12 0 (if b = 100 then 0 else 2 ^ (pcl b).toNat)
theorem tgo_lt {r q : Int} : ∀ (f : Nat) (k : Int) (s : Nat), s < 4096 → tgo r q f k s < 4096 := by
  intro f
  induction f with
  | zero => intro k s h; exact h
  | succ f ih =>
    intro k s h
    refine ih _ _ ?_
    split
    · exact Nat.or_lt_two_pow (n := 12) h (Nat.pow_lt_pow_right (by decide) (by omega))
    · exact Nat.or_lt_two_pow (n := 12) h (by decide)
theorem p12 {x : Int} (h : 0 ≤ x ∧ x < 12) : 2 ^ x.toNat < 4096 := Nat.pow_lt_pow_right (n := 12) (by decide) (by omega)
theorem or12 {a b : Nat} (h1 : a < 4096) (h2 : b < 4096) : a ||| b < 4096 := Nat.or_lt_two_pow (n := 12) h1 h2
def LTR : List Int := [70, 67, 71, 68, 65, 69, 66]
def nch (p : Int) : Int := LTR.getD ((p + 1) % 7).toNat 0
def ncs (p : Int) : Int := if 0 < p then 35 else 98
def nac (p : Int) : Nat := (iabs (acc p)).toNat
def nte (p : Int) : List Int := nch p :: List.replicate (nac p) (ncs p)
def nmt (r q b : Int) : List Int := nte r ++ qlt q ++ if b = 100 then [] else 47 :: nte b
theorem nac_r {p : Int} (hp : -15 ≤ p ∧ p ≤ 19) : nac p ≤ 2 := by unfold nac iabs acc; split <;> omega
theorem nte_r {p : Int} (hp : -15 ≤ p ∧ p ≤ 19) : (nte p).length ≤ 3 := by have := nac_r hp; simp [nte]; omega
theorem qlt_l (q : Int) : (qlt q).length ≤ 4 := by unfold qlt; (repeat' split) <;> decide
theorem nmt_r {r q b : Int} (hr : -15 ≤ r ∧ r ≤ 19) (hb : b = 100 ∨ (-15 ≤ b ∧ b ≤ 19)) : (nmt r q b).length ≤ 11 := by
  have h1 := nte_r hr
  have h2 := qlt_l q
  unfold nmt
  split
  · simp; omega
  · have h3 := nte_r (p := b) (by omega)
    simp
    omega
theorem nch_at (p : Int) : LTR[((p + 1) % 7).toNat]? = some (nch p) := by
  have h : ((p + 1) % 7).toNat < 7 := by omega
  unfold nch
  generalize ((p + 1) % 7).toNat = n at h ⊢
  revert n
  decide
theorem nch_r (p : Int) : 0 ≤ nch p ∧ nch p < 128 := by
  have h : ((p + 1) % 7).toNat < 7 := by omega
  unfold nch
  generalize ((p + 1) % 7).toNat = n at h ⊢
  revert n
  decide
theorem ncs_r (p : Int) : 0 ≤ ncs p ∧ ncs p < 128 := by unfold ncs; split <;> omega
theorem gng {cap n : Nat} (h : n ≤ cap) : gC cap n = 0 ∧ gS cap n = 0 ∧ gcap cap n = cap := by unfold gC gS gcap; simp [h]
theorem zkeep.none0' {h h1 : zH} {a : Nat} (k : zkeep h h1 []) (ha : h1 a = none) : h a = none := k.none0 ha List.not_mem_nil
theorem wn_step {h : zH} {b v cap : Nat} {t : List Int} {p c k : Int} (hc : c = ncs p) (hk : 0 ≤ k) (hb : bAt h b v ((t ++ [nch p] ++ List.replicate k.toNat (ncs p)) ++ [c]) cap) : bAt h b v (t ++ [nch p] ++ List.replicate (k + 1).toNat (ncs p)) cap := by
  rw [show (k + 1).toNat = k.toNat + 1 by omega, List.replicate_succ', ← List.append_assoc, ← hc]
  rw [hc] at hb ⊢
  exact hb
theorem ct_B_appCng {l : Launch} (hl : l.stackTraces = false) {Γ : zCx} {h : zH} {b v : Nat} {t : List Int} {cap : Nat} (hb : bAt h b v t cap) {c : Int} (hc : 0 ≤ c ∧ c < 128) (hn : t.length + 1 ≤ cap) (ht : t.length + 1 ≤ 40000) : zMet l yJ13_append_3 (ws_ yJ13_append_3 cJ13_append_3 2 (some (.object "java/lang/StringBuilder"))) (({ frames := 5, cells := 0, slots := 0, locals := 112 })) Γ h [.ref b, .int (iI c)] (zrt (fun w h' => w = some (.ref b) ∧ ∃ v', bAt h' b v' (t ++ [c]) cap ∧ (v' = v ∨ h v' = none) ∧ zkeep h h' [b, v])) 0 0 := by
  have H := ct_B_appC hl hb hc ht (Γ := Γ)
  rw [(gng hn).1, (gng hn).2.1, (gng hn).2.2] at H
  exact H
theorem ct_B_appSng {l : Launch} (hl : l.stackTraces = false) {Γ : zCx} {h : zH} {b v : Nat} {t : List Int} {cap : Nat} (hb : bAt h b v t cap) {a : Nat} {s : List Int} (hs : sAt h a s) (hsl : s.length ≤ 20000) (hn : t.length + s.length ≤ cap) (ht : t.length + s.length ≤ 40000) : zMet l yJ13_append_2 (ws_ yJ13_append_2 cJ13_append_2 2 (some (.object "java/lang/StringBuilder"))) (({ frames := 5, cells := 0, slots := 0, locals := 113 })) Γ h [.ref b, .ref a] (zrt (fun w h' => w = some (.ref b) ∧ ∃ v', bAt h' b v' (t ++ s) cap ∧ (v' = v ∨ h v' = none) ∧ zkeep h h' [b, v])) 0 0 := by
  have H := ct_B_appSt hl hb hs hsl ht (Γ := Γ)
  rw [(gng hn).1, (gng hn).2.1, (gng hn).2.2] at H
  exact H
set_option maxHeartbeats 4000000 in
theorem ct_C_minor {l : Launch} (hl : l.stackTraces = false) {Γ : zCx} {h : zH} {c : Nat} {x1 x2 x3 x4 x5 : Int} (hc : h c = some (false, .inr (6, [.int (iI x1), .int (iI x2), .int (iI x3), .int (iI x4), .int (iI x5)]))) (h4 : 0 ≤ x4 ∧ x4 ≤ 9) : zMet l yX7_isMinor (ws_ yX7_isMinor cX7_isMinor 1 (some .boolean)) ({ frames := 0, cells := 0, slots := 0, locals := 0 }) Γ h [.ref c] (zpure h (some (.int (iI (cmn x4))))) 0 0 := by
  refine zMet.of (cc := cX7_isMinor) hl (plainFor_of_name (by decide +kernel)) (Nat.le_of_ble_eq_true rfl) ?_
  intro X hXl hXΓ hXp C hnm hnL
  have C : zC X cX7_isMinor RX7 (some .boolean) 0 0 [] := C
  have hnL : X.2.1.2.2.2.2 = 1 := hnL
  subst hXl hXΓ
  show Z X h 0 0 [(0, .ref c)] 0 []
  refine z_aload_n (pc := 0) (j := 0) C dX7_isMinor_0 rfl rfl ?_
  refine z_getfield (pc := 1) (v := .int (iI x4)) C in_X7 rfl 3 (by decide) q601 (fun _ z => z) hc rfl dX7_isMinor_1 ?_
  refine z_iconst (pc := 4) C dX7_isMinor_4 ?_
  refine z_icmp_eq (pc := 5) (tgt := 24) C dX7_isMinor_5 (by decide) (by omega) (by decide) (fun c5 => ?_) (fun c5 => ?_)
  · refine z_iconst (pc := 24) C dX7_isMinor_24 ?_
    refine z_goto (pc := 25) (tgt := 29) C dX7_isMinor_25 (by decide) ?_
    exact z_zreturn (pc := 29) C (by decide) (by rw [hXp]; exact zpure_i (by unfold cmn; split <;> omega) rfl) dX7_isMinor_29
  · refine z_aload_n (pc := 8) (j := 0) C dX7_isMinor_8 rfl rfl ?_
    refine z_getfield (pc := 9) (v := .int (iI x4)) C in_X7 rfl 3 (by decide) q601 (fun _ z => z) hc rfl dX7_isMinor_9 ?_
    refine z_iconst (pc := 12) C dX7_isMinor_12 ?_
    refine z_icmp_eq (pc := 13) (tgt := 24) C dX7_isMinor_13 (by decide) (by omega) (by decide) (fun c13 => ?_) (fun c13 => ?_)
    · refine z_iconst (pc := 24) C dX7_isMinor_24 ?_
      refine z_goto (pc := 25) (tgt := 29) C dX7_isMinor_25 (by decide) ?_
      exact z_zreturn (pc := 29) C (by decide) (by rw [hXp]; exact zpure_i (by unfold cmn; split <;> omega) rfl) dX7_isMinor_29
    · refine z_aload_n (pc := 16) (j := 0) C dX7_isMinor_16 rfl rfl ?_
      refine z_getfield (pc := 17) (v := .int (iI x4)) C in_X7 rfl 3 (by decide) q601 (fun _ z => z) hc rfl dX7_isMinor_17 ?_
      refine z_iconst (pc := 20) C dX7_isMinor_20 ?_
      refine z_icmp_ne (pc := 21) (tgt := 28) C dX7_isMinor_21 (by decide) (by omega) (by decide) (fun c21 => ?_) (fun c21 => ?_)
      · refine z_iconst (pc := 28) C dX7_isMinor_28 ?_
        exact z_zreturn (pc := 29) C (by decide) (by rw [hXp]; exact zpure_i (by unfold cmn; split <;> omega) rfl) dX7_isMinor_29
      · refine z_iconst (pc := 24) C dX7_isMinor_24 ?_
        refine z_goto (pc := 25) (tgt := 29) C dX7_isMinor_25 (by decide) ?_
        exact z_zreturn (pc := 29) C (by decide) (by rw [hXp]; exact zpure_i (by unfold cmn; split <;> omega) rfl) dX7_isMinor_29
set_option maxHeartbeats 4000000 in
theorem ct_C_with {l : Launch} (hl : l.stackTraces = false) {Γ : zCx} {h : zH} {c : Nat} {x1 x2 x3 x4 x5 : Int} (hc : h c = some (false, .inr (6, [.int (iI x1), .int (iI x2), .int (iI x3), .int (iI x4), .int (iI x5)]))) {r b : Int}  : zMet l yX7_with (ws_ yX7_with cX7_with 3 (some (.object "ChordSheet$Chord"))) ({ frames := 2, cells := 1, slots := 5, locals := 37 }) Γ h [.ref c, .int (iI r), .int (iI b)] (zrt (fun w h' => ∃ k', w = some (.ref k') ∧ h' k' = some (false, .inr (6, [.int (iI (x1)), .int (iI (x2)), .int (iI (r)), .int (iI (x4)), .int (iI (b))])) ∧ h k' = none ∧ zkeep h h' [])) 1 5 := by
  refine zMet.of (cc := cX7_with) hl (plainFor_of_name (by decide +kernel)) (Nat.le_of_ble_eq_true rfl) ?_
  intro X hXl hXΓ hXp C hnm hnL
  have C : zC X cX7_with RX7 (some (.object "ChordSheet$Chord")) 2 37 [] := C
  have hnL : X.2.1.2.2.2.2 = 3 := hnL
  subst hXl hXΓ
  show Z X h 1 5 [(0, .ref c), (1, .int (iI r)), (2, .int (iI b))] 0 []
  refine z_new (pc := 0) (ci := 6) (kc' := 0) (ks' := 0) (fs := [.int (iI 0), .int (iI 0), .int (iI 0), .int (iI 0), .int (iI 0)]) C in_X7 tyX7 tyX7_ok rfl q1064 q585 q89 df_X7 (by omega) (by omega) dX7_with_0 (fun a1 fa1 => ?_)
  refine Z.nm (fun h2 eh2 => ?_)
  have na1 : h a1 = none := fa1
  have kh2 : zkeep h h2 [] := by rw [eh2]; exact zkeep.born zkeep.rf fa1
  have fh2_0 : h2 a1 = some (true, .inr (6, [.int (iI 0), .int (iI 0), .int (iI 0), .int (iI 0), .int (iI 0)])) := zse eh2
  refine z_dup (pc := 3) C dX7_with_3 rfl ?_
  refine z_aload_n (pc := 4) (j := 0) C dX7_with_4 rfl rfl ?_
  refine z_getfield (pc := 5) (v := .int (iI x1)) C in_X7 rfl 0 (by decide) q590 (fun _ z => z) (kh2.f hc) rfl dX7_with_5 ?_
  refine z_aload_n (pc := 8) (j := 0) C dX7_with_8 rfl rfl ?_
  refine z_getfield (pc := 9) (v := .int (iI x2)) C in_X7 rfl 1 (by decide) q594 (fun _ z => z) (kh2.f hc) rfl dX7_with_9 ?_
  refine z_iload_n (pc := 12) (j := 1) C dX7_with_12 rfl rfl ?_
  refine z_aload_n (pc := 13) (j := 0) C dX7_with_13 rfl rfl ?_
  refine z_getfield (pc := 14) (v := .int (iI x4)) C in_X7 rfl 3 (by decide) q601 (fun _ z => z) (kh2.f hc) rfl dX7_with_14 ?_
  refine z_iload_n (pc := 17) (j := 2) C dX7_with_17 rfl rfl ?_
  refine z_callI (pc := 18) (n := 5) (kc' := 0) (ks' := 0) C (ct_C_init C.t (x1 := x1) (x2 := x2) (x3 := r) (x4 := x4) (x5 := b) fh2_0) q588 q89 q1065 q587 rfl (by decide +kernel) ⟨by decide, by decide⟩ rfl rfl (Nat.le_of_ble_eq_true rfl) dX7_with_18 (by omega) (by omega) (zrk fun w h3 hp => ?_) zrx
  obtain ⟨rfl, fq4, k5⟩ := hp
  have kh3 : zkeep h h3 [] := zkeep.loc kh2 k5 (zall_cons (Or.inl (Or.symm (Or.inr na1))) zall_nil)
  show Z X h3 0 0 [(0, .ref c), (1, .int (iI r)), (2, .int (iI b))] 21 [.ref a1]
  exact z_areturn (pc := 21) C (Or.inl ⟨_, rfl⟩) (Or.inr ⟨_, rfl⟩) (by rw [hXp]; exact ⟨_, rfl, a1, rfl, fq4, na1, kh3⟩) dX7_with_21
set_option maxHeartbeats 4000000 in
theorem ct_C_at {l : Launch} (hl : l.stackTraces = false) {Γ : zCx} {h : zH} {c : Nat} {x1 x2 x3 x4 x5 : Int} (hc : h c = some (false, .inr (6, [.int (iI x1), .int (iI x2), .int (iI x3), .int (iI x4), .int (iI x5)]))) {l0 c0 : Int}  : zMet l yX7_at (ws_ yX7_at cX7_at 3 (some (.object "ChordSheet$Chord"))) ({ frames := 2, cells := 1, slots := 5, locals := 37 }) Γ h [.ref c, .int (iI l0), .int (iI c0)] (zrt (fun w h' => ∃ k', w = some (.ref k') ∧ h' k' = some (false, .inr (6, [.int (iI (l0)), .int (iI (c0)), .int (iI (x3)), .int (iI (x4)), .int (iI (x5))])) ∧ h k' = none ∧ zkeep h h' [])) 1 5 := by
  refine zMet.of (cc := cX7_at) hl (plainFor_of_name (by decide +kernel)) (Nat.le_of_ble_eq_true rfl) ?_
  intro X hXl hXΓ hXp C hnm hnL
  have C : zC X cX7_at RX7 (some (.object "ChordSheet$Chord")) 2 37 [] := C
  have hnL : X.2.1.2.2.2.2 = 3 := hnL
  subst hXl hXΓ
  show Z X h 1 5 [(0, .ref c), (1, .int (iI l0)), (2, .int (iI c0))] 0 []
  refine z_new (pc := 0) (ci := 6) (kc' := 0) (ks' := 0) (fs := [.int (iI 0), .int (iI 0), .int (iI 0), .int (iI 0), .int (iI 0)]) C in_X7 tyX7 tyX7_ok rfl q1064 q585 q89 df_X7 (by omega) (by omega) dX7_at_0 (fun a1 fa1 => ?_)
  refine Z.nm (fun h2 eh2 => ?_)
  have na1 : h a1 = none := fa1
  have kh2 : zkeep h h2 [] := by rw [eh2]; exact zkeep.born zkeep.rf fa1
  have fh2_0 : h2 a1 = some (true, .inr (6, [.int (iI 0), .int (iI 0), .int (iI 0), .int (iI 0), .int (iI 0)])) := zse eh2
  refine z_dup (pc := 3) C dX7_at_3 rfl ?_
  refine z_iload_n (pc := 4) (j := 1) C dX7_at_4 rfl rfl ?_
  refine z_iload_n (pc := 5) (j := 2) C dX7_at_5 rfl rfl ?_
  refine z_aload_n (pc := 6) (j := 0) C dX7_at_6 rfl rfl ?_
  refine z_getfield (pc := 7) (v := .int (iI x3)) C in_X7 rfl 2 (by decide) q598 (fun _ z => z) (kh2.f hc) rfl dX7_at_7 ?_
  refine z_aload_n (pc := 10) (j := 0) C dX7_at_10 rfl rfl ?_
  refine z_getfield (pc := 11) (v := .int (iI x4)) C in_X7 rfl 3 (by decide) q601 (fun _ z => z) (kh2.f hc) rfl dX7_at_11 ?_
  refine z_aload_n (pc := 14) (j := 0) C dX7_at_14 rfl rfl ?_
  refine z_getfield (pc := 15) (v := .int (iI x5)) C in_X7 rfl 4 (by decide) q603 (fun _ z => z) (kh2.f hc) rfl dX7_at_15 ?_
  refine z_callI (pc := 18) (n := 5) (kc' := 0) (ks' := 0) C (ct_C_init C.t (x1 := l0) (x2 := c0) (x3 := x3) (x4 := x4) (x5 := x5) fh2_0) q588 q89 q1065 q587 rfl (by decide +kernel) ⟨by decide, by decide⟩ rfl rfl (Nat.le_of_ble_eq_true rfl) dX7_at_18 (by omega) (by omega) (zrk fun w h3 hp => ?_) zrx
  obtain ⟨rfl, fq4, k5⟩ := hp
  have kh3 : zkeep h h3 [] := zkeep.loc kh2 k5 (zall_cons (Or.inl (Or.symm (Or.inr na1))) zall_nil)
  show Z X h3 0 0 [(0, .ref c), (1, .int (iI l0)), (2, .int (iI c0))] 21 [.ref a1]
  exact z_areturn (pc := 21) C (Or.inl ⟨_, rfl⟩) (Or.inr ⟨_, rfl⟩) (by rw [hXp]; exact ⟨_, rfl, a1, rfl, fq4, na1, kh3⟩) dX7_at_21
set_option maxHeartbeats 4000000 in
theorem ct_C_shape {l : Launch} (hl : l.stackTraces = false) {Γ : zCx} {h : zH} {c : Nat} {x1 x2 x3 x4 x5 : Int} (hc : h c = some (false, .inr (6, [.int (iI x1), .int (iI x2), .int (iI x3), .int (iI x4), .int (iI x5)]))) {f : Int} (hf : 0 ≤ f ∧ f ≤ 100) (h3 : -500 ≤ x3 ∧ x3 ≤ 500) (h5 : -500 ≤ x5 ∧ x5 ≤ 500)  : zMet l yX7_shape (ws_ yX7_shape cX7_shape 3 (some (.object "ChordSheet$Shape"))) ({ frames := 2, cells := 1, slots := 3, locals := 42 }) Γ h [.ref c, .int (iI f)] (zrt (fun w h' => ∃ k', w = some (.ref k') ∧ h' k' = some (false, .inr (7, [.int (iI (shr x3 f)), .int (iI (x4)), .int (iI (shb x3 x5))])) ∧ h k' = none ∧ zkeep h h' [])) 1 3 := by
  refine zMet.of (cc := cX7_shape) hl (plainFor_of_name (by decide +kernel)) (Nat.le_of_ble_eq_true rfl) ?_
  intro X hXl hXΓ hXp C hnm hnL
  have C : zC X cX7_shape RX7 (some (.object "ChordSheet$Shape")) 2 42 [] := C
  have hnL : X.2.1.2.2.2.2 = 3 := hnL
  subst hXl hXΓ
  show Z X h 1 3 [(0, .ref c), (1, .int (iI f))] 0 []
  have p3 := pcl_r x3
  have p5 := pcl_r x5
  refine z_aload_n (pc := 0) (j := 0) C dX7_shape_0 rfl rfl ?_
  refine z_getfield (pc := 1) (v := .int (iI x5)) C in_X7 rfl 4 (by decide) q603 (fun _ z => z) hc rfl dX7_shape_1 ?_
  refine z_bipush (pc := 4) C dX7_shape_4 (by decide) ?_
  refine z_icmp_eq (pc := 6) (tgt := 30) C dX7_shape_6 (by decide) (by omega) (by decide) (fun c6 => ?_) (fun c6 => ?_)
  · refine z_iconst (pc := 30) C dX7_shape_30 ?_
    refine z_istore_n (pc := 31) (L' := [(2, .int (iI 0)), (0, .ref c), (1, .int (iI f))]) C dX7_shape_31 rfl (by rw [hnL]; decide) rfl ?_
    refine z_new (pc := 32) (ci := 7) (kc' := 0) (ks' := 0) (fs := [.int (iI 0), .int (iI 0), .int (iI 0)]) C in_X8 tyX8 tyX8_ok rfl q1115 q1116 q98 df_X8 (by omega) (by omega) dX7_shape_32 (fun a1 fa1 => ?_)
    refine Z.nm (fun h2 eh2 => ?_)
    have na1 : h a1 = none := fa1
    have kh2 : zkeep h h2 [] := by rw [eh2]; exact zkeep.born zkeep.rf fa1
    have fh2_0 : h2 a1 = some (true, .inr (7, [.int (iI 0), .int (iI 0), .int (iI 0)])) := zse eh2
    refine z_dup (pc := 35) C dX7_shape_35 rfl ?_
    refine z_aload_n (pc := 36) (j := 1) C dX7_shape_36 rfl rfl ?_
    refine z_getfield (pc := 37) (v := .int (iI x3)) C in_X7 rfl 2 (by decide) q598 (fun _ z => z) (kh2.f hc) rfl dX7_shape_37 ?_
    refine z_callSN (pc := 40) (n := 1) (kc' := 0) (ks' := 0) C (ct_pcl C.t (p := x3) (by omega)) q898 q1114 q63 q897 (by decide +kernel) ⟨by decide, by decide⟩ rfl rfl (Nat.le_of_ble_eq_true rfl) dX7_shape_40 (by omega) (by omega) (zpk (st' := [.int (iI (pcl x3)), .ref a1, .ref a1]) rfl ?_) zrx
    refine z_iload_n (pc := 43) (j := 2) C dX7_shape_43 rfl rfl ?_
    refine z_isub (pc := 44) C dX7_shape_44 ?_
    refine z_bipush (pc := 45) C dX7_shape_45 (by decide) ?_
    refine z_callS (pc := 47) (n := 2) (kc' := 0) (ks' := 0) C (ct_floorMod C.t (x := (pcl x3) - f) (y := 12) (by omega) (by decide)) (lw_S q1117 q900 q71 q901) (by decide +kernel) ⟨by decide, by decide⟩ rfl rfl (Nat.le_of_ble_eq_true rfl) dX7_shape_47 (by omega) (by omega) (zpk (st' := [.int (iI (((pcl x3) - f) % 12)), .ref a1, .ref a1]) rfl ?_) zrx
    refine z_aload_n (pc := 50) (j := 1) C dX7_shape_50 rfl rfl ?_
    refine z_getfield (pc := 51) (v := .int (iI x4)) C in_X7 rfl 3 (by decide) q601 (fun _ z => z) (kh2.f hc) rfl dX7_shape_51 ?_
    refine z_iload_n (pc := 54) (j := 0) C dX7_shape_54 rfl rfl ?_
    refine z_callI (pc := 55) (n := 3) (kc' := 0) (ks' := 0) C (ct_H_init C.t (r := ((pcl x3) - f) % 12) (q := x4) (b := 0) fh2_0 (by omega)) q1120 q98 q1118 q1119 rfl (by decide +kernel) ⟨by decide, by decide⟩ rfl rfl (Nat.le_of_ble_eq_true rfl) dX7_shape_55 (by omega) (by omega) (zrk fun w h3 hp => ?_) zrx
    obtain ⟨rfl, fq4, k5⟩ := hp
    have kh3 : zkeep h h3 [] := zkeep.loc kh2 k5 (zall_cons (Or.inl (Or.symm (Or.inr na1))) zall_nil)
    show Z X h3 0 0 [(2, .int (iI 0)), (0, .ref c), (1, .int (iI f))] 58 [.ref a1]
    exact z_areturn (pc := 58) C (Or.inl ⟨_, rfl⟩) (Or.inr ⟨_, rfl⟩) (by rw [hXp]; exact ⟨_, rfl, a1, rfl, (show (0 : Int) = shb x3 x5 by unfold shb; split <;> omega) ▸ fq4, na1, kh3⟩) dX7_shape_58
  · refine z_aload_n (pc := 9) (j := 0) C dX7_shape_9 rfl rfl ?_
    refine z_getfield (pc := 10) (v := .int (iI x5)) C in_X7 rfl 4 (by decide) q603 (fun _ z => z) hc rfl dX7_shape_10 ?_
    refine z_callSN (pc := 13) (n := 1) (kc' := 1) (ks' := 3) C (ct_pcl C.t (p := x5) (by omega)) q898 q1114 q63 q897 (by decide +kernel) ⟨by decide, by decide⟩ rfl rfl (Nat.le_of_ble_eq_true rfl) dX7_shape_13 (by omega) (by omega) (zpk (st' := [.int (iI (pcl x5))]) rfl ?_) zrx
    refine z_aload_n (pc := 16) (j := 0) C dX7_shape_16 rfl rfl ?_
    refine z_getfield (pc := 17) (v := .int (iI x3)) C in_X7 rfl 2 (by decide) q598 (fun _ z => z) hc rfl dX7_shape_17 ?_
    refine z_callSN (pc := 20) (n := 1) (kc' := 1) (ks' := 3) C (ct_pcl C.t (p := x3) (by omega)) q898 q1114 q63 q897 (by decide +kernel) ⟨by decide, by decide⟩ rfl rfl (Nat.le_of_ble_eq_true rfl) dX7_shape_20 (by omega) (by omega) (zpk (st' := [.int (iI (pcl x3)), .int (iI (pcl x5))]) rfl ?_) zrx
    refine z_icmp_eq (pc := 23) (tgt := 30) C dX7_shape_23 (by decide) (by omega) (by omega) (fun c23 => ?_) (fun c23 => ?_)
    · refine z_iconst (pc := 30) C dX7_shape_30 ?_
      refine z_istore_n (pc := 31) (L' := [(2, .int (iI 0)), (0, .ref c), (1, .int (iI f))]) C dX7_shape_31 rfl (by rw [hnL]; decide) rfl ?_
      refine z_new (pc := 32) (ci := 7) (kc' := 0) (ks' := 0) (fs := [.int (iI 0), .int (iI 0), .int (iI 0)]) C in_X8 tyX8 tyX8_ok rfl q1115 q1116 q98 df_X8 (by omega) (by omega) dX7_shape_32 (fun a6 fa6 => ?_)
      refine Z.nm (fun h7 eh7 => ?_)
      have na6 : h a6 = none := fa6
      have kh7 : zkeep h h7 [] := by rw [eh7]; exact zkeep.born zkeep.rf fa6
      have fh7_0 : h7 a6 = some (true, .inr (7, [.int (iI 0), .int (iI 0), .int (iI 0)])) := zse eh7
      refine z_dup (pc := 35) C dX7_shape_35 rfl ?_
      refine z_aload_n (pc := 36) (j := 1) C dX7_shape_36 rfl rfl ?_
      refine z_getfield (pc := 37) (v := .int (iI x3)) C in_X7 rfl 2 (by decide) q598 (fun _ z => z) (kh7.f hc) rfl dX7_shape_37 ?_
      refine z_callSN (pc := 40) (n := 1) (kc' := 0) (ks' := 0) C (ct_pcl C.t (p := x3) (by omega)) q898 q1114 q63 q897 (by decide +kernel) ⟨by decide, by decide⟩ rfl rfl (Nat.le_of_ble_eq_true rfl) dX7_shape_40 (by omega) (by omega) (zpk (st' := [.int (iI (pcl x3)), .ref a6, .ref a6]) rfl ?_) zrx
      refine z_iload_n (pc := 43) (j := 2) C dX7_shape_43 rfl rfl ?_
      refine z_isub (pc := 44) C dX7_shape_44 ?_
      refine z_bipush (pc := 45) C dX7_shape_45 (by decide) ?_
      refine z_callS (pc := 47) (n := 2) (kc' := 0) (ks' := 0) C (ct_floorMod C.t (x := (pcl x3) - f) (y := 12) (by omega) (by decide)) (lw_S q1117 q900 q71 q901) (by decide +kernel) ⟨by decide, by decide⟩ rfl rfl (Nat.le_of_ble_eq_true rfl) dX7_shape_47 (by omega) (by omega) (zpk (st' := [.int (iI (((pcl x3) - f) % 12)), .ref a6, .ref a6]) rfl ?_) zrx
      refine z_aload_n (pc := 50) (j := 1) C dX7_shape_50 rfl rfl ?_
      refine z_getfield (pc := 51) (v := .int (iI x4)) C in_X7 rfl 3 (by decide) q601 (fun _ z => z) (kh7.f hc) rfl dX7_shape_51 ?_
      refine z_iload_n (pc := 54) (j := 0) C dX7_shape_54 rfl rfl ?_
      refine z_callI (pc := 55) (n := 3) (kc' := 0) (ks' := 0) C (ct_H_init C.t (r := ((pcl x3) - f) % 12) (q := x4) (b := 0) fh7_0 (by omega)) q1120 q98 q1118 q1119 rfl (by decide +kernel) ⟨by decide, by decide⟩ rfl rfl (Nat.le_of_ble_eq_true rfl) dX7_shape_55 (by omega) (by omega) (zrk fun w h8 hp => ?_) zrx
      obtain ⟨rfl, fq9, k10⟩ := hp
      have kh8 : zkeep h h8 [] := zkeep.loc kh7 k10 (zall_cons (Or.inl (Or.symm (Or.inr na6))) zall_nil)
      show Z X h8 0 0 [(2, .int (iI 0)), (0, .ref c), (1, .int (iI f))] 58 [.ref a6]
      exact z_areturn (pc := 58) C (Or.inl ⟨_, rfl⟩) (Or.inr ⟨_, rfl⟩) (by rw [hXp]; exact ⟨_, rfl, a6, rfl, (show (0 : Int) = shb x3 x5 by unfold shb; split <;> omega) ▸ fq9, na6, kh8⟩) dX7_shape_58
    · refine z_iconst (pc := 26) C dX7_shape_26 ?_
      refine z_goto (pc := 27) (tgt := 31) C dX7_shape_27 (by decide) ?_
      refine z_istore_n (pc := 31) (L' := [(2, .int (iI 1)), (0, .ref c), (1, .int (iI f))]) C dX7_shape_31 rfl (by rw [hnL]; decide) rfl ?_
      refine z_new (pc := 32) (ci := 7) (kc' := 0) (ks' := 0) (fs := [.int (iI 0), .int (iI 0), .int (iI 0)]) C in_X8 tyX8 tyX8_ok rfl q1115 q1116 q98 df_X8 (by omega) (by omega) dX7_shape_32 (fun a11 fa11 => ?_)
      refine Z.nm (fun h12 eh12 => ?_)
      have na11 : h a11 = none := fa11
      have kh12 : zkeep h h12 [] := by rw [eh12]; exact zkeep.born zkeep.rf fa11
      have fh12_0 : h12 a11 = some (true, .inr (7, [.int (iI 0), .int (iI 0), .int (iI 0)])) := zse eh12
      refine z_dup (pc := 35) C dX7_shape_35 rfl ?_
      refine z_aload_n (pc := 36) (j := 1) C dX7_shape_36 rfl rfl ?_
      refine z_getfield (pc := 37) (v := .int (iI x3)) C in_X7 rfl 2 (by decide) q598 (fun _ z => z) (kh12.f hc) rfl dX7_shape_37 ?_
      refine z_callSN (pc := 40) (n := 1) (kc' := 0) (ks' := 0) C (ct_pcl C.t (p := x3) (by omega)) q898 q1114 q63 q897 (by decide +kernel) ⟨by decide, by decide⟩ rfl rfl (Nat.le_of_ble_eq_true rfl) dX7_shape_40 (by omega) (by omega) (zpk (st' := [.int (iI (pcl x3)), .ref a11, .ref a11]) rfl ?_) zrx
      refine z_iload_n (pc := 43) (j := 2) C dX7_shape_43 rfl rfl ?_
      refine z_isub (pc := 44) C dX7_shape_44 ?_
      refine z_bipush (pc := 45) C dX7_shape_45 (by decide) ?_
      refine z_callS (pc := 47) (n := 2) (kc' := 0) (ks' := 0) C (ct_floorMod C.t (x := (pcl x3) - f) (y := 12) (by omega) (by decide)) (lw_S q1117 q900 q71 q901) (by decide +kernel) ⟨by decide, by decide⟩ rfl rfl (Nat.le_of_ble_eq_true rfl) dX7_shape_47 (by omega) (by omega) (zpk (st' := [.int (iI (((pcl x3) - f) % 12)), .ref a11, .ref a11]) rfl ?_) zrx
      refine z_aload_n (pc := 50) (j := 1) C dX7_shape_50 rfl rfl ?_
      refine z_getfield (pc := 51) (v := .int (iI x4)) C in_X7 rfl 3 (by decide) q601 (fun _ z => z) (kh12.f hc) rfl dX7_shape_51 ?_
      refine z_iload_n (pc := 54) (j := 0) C dX7_shape_54 rfl rfl ?_
      refine z_callI (pc := 55) (n := 3) (kc' := 0) (ks' := 0) C (ct_H_init C.t (r := ((pcl x3) - f) % 12) (q := x4) (b := 1) fh12_0 (by omega)) q1120 q98 q1118 q1119 rfl (by decide +kernel) ⟨by decide, by decide⟩ rfl rfl (Nat.le_of_ble_eq_true rfl) dX7_shape_55 (by omega) (by omega) (zrk fun w h13 hp => ?_) zrx
      obtain ⟨rfl, fq14, k15⟩ := hp
      have kh13 : zkeep h h13 [] := zkeep.loc kh12 k15 (zall_cons (Or.inl (Or.symm (Or.inr na11))) zall_nil)
      show Z X h13 0 0 [(2, .int (iI 1)), (0, .ref c), (1, .int (iI f))] 58 [.ref a11]
      exact z_areturn (pc := 58) C (Or.inl ⟨_, rfl⟩) (Or.inr ⟨_, rfl⟩) (by rw [hXp]; exact ⟨_, rfl, a11, rfl, (show (1 : Int) = shb x3 x5 by unfold shb; split <;> omega) ▸ fq14, na11, kh13⟩) dX7_shape_58
set_option maxHeartbeats 4000000 in
theorem ct_C_tones {l : Launch} (hl : l.stackTraces = false) {Γ : zCx} {h : zH} {c : Nat} {x1 x2 x3 x4 x5 : Int} (hc : h c = some (false, .inr (6, [.int (iI x1), .int (iI x2), .int (iI x3), .int (iI x4), .int (iI x5)]))) (h3 : -500 ≤ x3 ∧ x3 ≤ 500) (h5 : -500 ≤ x5 ∧ x5 ≤ 500) (h4 : 0 ≤ x4 ∧ x4 ≤ 9)  : zMet l yX7_tones (ws_ yX7_tones cX7_tones 3 (some .int)) ({ frames := 2, cells := 0, slots := 0, locals := 42 }) Γ h [.ref c] (zpure h (some (.int (iI ((tns x3 x4 x5 : Nat) : Int))))) 0 0 := by
  refine zMet.of (cc := cX7_tones) hl (plainFor_of_name (by decide +kernel)) (Nat.le_of_ble_eq_true rfl) ?_
  intro X hXl hXΓ hXp C hnm hnL
  have C : zC X cX7_tones RX7 (some .int) 2 42 [] := C
  have hnL : X.2.1.2.2.2.2 = 3 := hnL
  subst hXl hXΓ
  show Z X h 0 0 [(0, .ref c)] 0 []
  have p3 := pcl_r x3
  have p5 := pcl_r x5
  have hiv := ivl_r x4
  refine z_aload_n (pc := 0) (j := 0) C dX7_tones_0 rfl rfl ?_
  refine z_getfield (pc := 1) (v := .int (iI x5)) C in_X7 rfl 4 (by decide) q603 (fun _ z => z) hc rfl dX7_tones_1 ?_
  refine z_bipush (pc := 4) C dX7_tones_4 (by decide) ?_
  refine z_icmp_ne (pc := 6) (tgt := 13) C dX7_tones_6 (by decide) (by omega) (by decide) (fun c6 => ?_) (fun c6 => ?_)
  · refine z_iconst (pc := 13) C dX7_tones_13 ?_
    refine z_aload_n (pc := 14) (j := 0) C dX7_tones_14 rfl rfl ?_
    refine z_getfield (pc := 15) (v := .int (iI x5)) C in_X7 rfl 4 (by decide) q603 (fun _ z => z) hc rfl dX7_tones_15 ?_
    refine z_callSN (pc := 18) (n := 1) (kc' := 0) (ks' := 0) C (ct_pcl C.t (p := x5) (by omega)) q898 q1114 q63 q897 (by decide +kernel) ⟨by decide, by decide⟩ rfl rfl (Nat.le_of_ble_eq_true rfl) dX7_tones_18 (by omega) (by omega) (zpk (st' := [.int (iI (pcl x5)), .int (iI 1)]) rfl ?_) zrx
    refine z_ishl1k (pc := 21) C (by omega) dX7_tones_21 ?_
    refine z_istore_n (pc := 22) (L' := [(1, .int (iI ((2 ^ (pcl x5).toNat : Nat) : Int))), (0, .ref c)]) C dX7_tones_22 rfl (by rw [hnL]; decide) rfl ?_
    refine z_iconst (pc := 23) C dX7_tones_23 ?_
    refine z_istore_n (pc := 24) (L' := [(2, .int (iI 0)), (1, .int (iI ((2 ^ (pcl x5).toNat : Nat) : Int))), (0, .ref c)]) C dX7_tones_24 rfl (by rw [hnL]; decide) rfl ?_
    have loop25 : ∀ (n25 : Nat) (s : Nat) (i : Int), (0 ≤ i ∧ i ≤ 12) → (tgo x3 x4 (12 - i).toNat i s = tns x3 x4 x5) → (s < 4096) → ((12 - i).toNat) = n25 → Z X h 0 0 [(2, .int (iI i)), (1, .int (iI ((s : Nat) : Int))), (0, .ref c)] 25 [] := by
      intro n25
      induction n25 using Nat.strongRecOn with
      | ind n25 ih25 =>
      intro s i hi hd hs hn25
      refine z_iload_n (pc := 25) (j := 0) C dX7_tones_25 rfl rfl ?_
      refine z_bipush (pc := 26) C dX7_tones_26 (by decide) ?_
      refine z_icmp_ge (pc := 28) (tgt := 72) C dX7_tones_28 (by decide) (by omega) (by decide) (fun c28 => ?_) (fun c28 => ?_)
      · refine z_iload_n (pc := 72) (j := 1) C dX7_tones_72 rfl rfl ?_
        exact z_ireturn (pc := 73) C (by rw [hXp]; exact zpure_i (by rw [show (12 - i).toNat = 0 by omega, tgo] at hd; rw [hd]) rfl) dX7_tones_73
      · refine z_iload_n (pc := 31) (j := 1) C dX7_tones_31 rfl rfl ?_
        refine z_aload_n (pc := 32) (j := 2) C dX7_tones_32 rfl rfl ?_
        refine z_getfield (pc := 33) (v := .int (iI x4)) C in_X7 rfl 3 (by decide) q601 (fun _ z => z) hc rfl dX7_tones_33 ?_
        refine z_callSN (pc := 36) (n := 1) (kc' := 0) (ks' := 0) C (ct_ivl C.t (q := x4) (by omega)) q1871 q1869 q63 q1870 (by decide +kernel) ⟨by decide, by decide⟩ rfl rfl (Nat.le_of_ble_eq_true rfl) dX7_tones_36 (by omega) (by omega) (zpk (st' := [.int (iI (ivl x4)), .int (iI ((s : Nat) : Int))]) rfl ?_) zrx
        refine z_iload_n (pc := 39) (j := 0) C dX7_tones_39 rfl rfl ?_
        refine z_callSN (pc := 40) (n := 2) (kc' := 0) (ks' := 0) C (ct_has C.t (a := ivl x4) (k := i) (by omega) (by omega)) q1620 q1872 q63 q1619 (by decide +kernel) ⟨by decide, by decide⟩ rfl rfl (Nat.le_of_ble_eq_true rfl) dX7_tones_40 (by omega) (by omega) (zpk (st' := [.int (iI (hsb (ivl x4) i)), .int (iI ((s : Nat) : Int))]) rfl ?_) zrx
        have hin := hsb_r (ivl x4) i
        refine z_if_eq (pc := 43) (tgt := 63) C dX7_tones_43 (by decide) (by omega) (fun c43 => ?_) (fun c43 => ?_)
        · rw [show (12 - i).toNat = (12 - (i + 1)).toNat + 1 by omega, tgo] at hd
          rw [if_neg (by omega)] at hd
          refine z_iconst (pc := 63) C dX7_tones_63 ?_
          refine z_iorN (pc := 64) (a := s) (b := 0) C ⟨by omega, by first | omega | (have := p12 (x := (pcl x3 + i) % 12) (by omega); omega)⟩ dX7_tones_64 ?_
          refine z_istore_n (pc := 65) (L' := [(1, .int (iI ((s ||| 0 : Nat) : Int))), (2, .int (iI i)), (0, .ref c)]) C dX7_tones_65 rfl (by rw [hnL]; decide) rfl ?_
          refine z_iinc (pc := 66) (k := 1) (L' := [(2, .int (iI (i + 1))), (1, .int (iI ((s ||| 0 : Nat) : Int))), (0, .ref c)]) C dX7_tones_66 rfl (by rw [hnL]; decide) rfl ?_
          refine z_goto (pc := 69) (tgt := 25) C dX7_tones_69 (by decide) ?_
          refine Z.weak (L' := [(2, .int (iI (i + 1))), (1, .int (iI ((s ||| 0 : Nat) : Int))), (0, .ref c)]) (kc' := 0) (ks' := 0) [0, 1, 2] rfl (by omega) (by omega) ?_
          exact ih25 _ (by omega) (s ||| 0) (i + 1) (by omega) hd (or12 hs (by decide)) rfl
        · rw [show (12 - i).toNat = (12 - (i + 1)).toNat + 1 by omega, tgo] at hd
          rw [if_pos (by have := hsb_r (ivl x4) i; omega)] at hd
          refine z_iconst (pc := 46) C dX7_tones_46 ?_
          refine z_aload_n (pc := 47) (j := 2) C dX7_tones_47 rfl rfl ?_
          refine z_getfield (pc := 48) (v := .int (iI x3)) C in_X7 rfl 2 (by decide) q598 (fun _ z => z) hc rfl dX7_tones_48 ?_
          refine z_callSN (pc := 51) (n := 1) (kc' := 0) (ks' := 0) C (ct_pcl C.t (p := x3) (by omega)) q898 q1114 q63 q897 (by decide +kernel) ⟨by decide, by decide⟩ rfl rfl (Nat.le_of_ble_eq_true rfl) dX7_tones_51 (by omega) (by omega) (zpk (st' := [.int (iI (pcl x3)), .int (iI 1), .int (iI ((s : Nat) : Int))]) rfl ?_) zrx
          refine z_iload_n (pc := 54) (j := 0) C dX7_tones_54 rfl rfl ?_
          refine z_iadd (pc := 55) C dX7_tones_55 ?_
          refine z_bipush (pc := 56) C dX7_tones_56 (by decide) ?_
          refine z_iremI (pc := 58) C dX7_tones_58 (by omega) (by decide) ?_
          rw [show ((((pcl x3) + i).tmod 12) : Int) = (pcl x3 + i) % 12 from Int.tmod_eq_emod_of_nonneg (by omega)]
          show Z X h 0 0 [(2, .int (iI i)), (1, .int (iI ((s : Nat) : Int))), (0, .ref c)] 59 [.int (iI ((pcl x3 + i) % 12)), .int (iI 1), .int (iI ((s : Nat) : Int))]
          refine z_ishl1k (pc := 59) C (by omega) dX7_tones_59 ?_
          refine z_goto (pc := 60) (tgt := 64) C dX7_tones_60 (by decide) ?_
          refine z_iorN (pc := 64) (a := s) (b := 2 ^ ((pcl x3 + i) % 12).toNat) C ⟨by omega, by first | omega | (have := p12 (x := (pcl x3 + i) % 12) (by omega); omega)⟩ dX7_tones_64 ?_
          refine z_istore_n (pc := 65) (L' := [(1, .int (iI ((s ||| (2 ^ ((pcl x3 + i) % 12).toNat) : Nat) : Int))), (2, .int (iI i)), (0, .ref c)]) C dX7_tones_65 rfl (by rw [hnL]; decide) rfl ?_
          refine z_iinc (pc := 66) (k := 1) (L' := [(2, .int (iI (i + 1))), (1, .int (iI ((s ||| (2 ^ ((pcl x3 + i) % 12).toNat) : Nat) : Int))), (0, .ref c)]) C dX7_tones_66 rfl (by rw [hnL]; decide) rfl ?_
          refine z_goto (pc := 69) (tgt := 25) C dX7_tones_69 (by decide) ?_
          refine Z.weak (L' := [(2, .int (iI (i + 1))), (1, .int (iI ((s ||| (2 ^ ((pcl x3 + i) % 12).toNat) : Nat) : Int))), (0, .ref c)]) (kc' := 0) (ks' := 0) [0, 1, 2] rfl (by omega) (by omega) ?_
          exact ih25 _ (by omega) (s ||| (2 ^ ((pcl x3 + i) % 12).toNat)) (i + 1) (by omega) hd (or12 hs (p12 (by omega))) rfl
    refine Z.weak (L' := [(2, .int (iI 0)), (1, .int (iI ((2 ^ (pcl x5).toNat : Nat) : Int))), (0, .ref c)]) (kc' := 0) (ks' := 0) [0, 1, 2] rfl (by omega) (by omega) ?_
    exact loop25 _ (2 ^ (pcl x5).toNat) 0 (by omega) (by unfold tns; rw [if_neg (by omega)]; rfl) (p12 p5) rfl
  · refine z_iconst (pc := 9) C dX7_tones_9 ?_
    refine z_goto (pc := 10) (tgt := 22) C dX7_tones_10 (by decide) ?_
    refine z_istore_n (pc := 22) (L' := [(1, .int (iI 0)), (0, .ref c)]) C dX7_tones_22 rfl (by rw [hnL]; decide) rfl ?_
    refine z_iconst (pc := 23) C dX7_tones_23 ?_
    refine z_istore_n (pc := 24) (L' := [(2, .int (iI 0)), (1, .int (iI 0)), (0, .ref c)]) C dX7_tones_24 rfl (by rw [hnL]; decide) rfl ?_
    have loop25 : ∀ (n25 : Nat) (s : Nat) (i : Int), (0 ≤ i ∧ i ≤ 12) → (tgo x3 x4 (12 - i).toNat i s = tns x3 x4 x5) → (s < 4096) → ((12 - i).toNat) = n25 → Z X h 0 0 [(2, .int (iI i)), (1, .int (iI ((s : Nat) : Int))), (0, .ref c)] 25 [] := by
      intro n25
      induction n25 using Nat.strongRecOn with
      | ind n25 ih25 =>
      intro s i hi hd hs hn25
      refine z_iload_n (pc := 25) (j := 0) C dX7_tones_25 rfl rfl ?_
      refine z_bipush (pc := 26) C dX7_tones_26 (by decide) ?_
      refine z_icmp_ge (pc := 28) (tgt := 72) C dX7_tones_28 (by decide) (by omega) (by decide) (fun c28 => ?_) (fun c28 => ?_)
      · refine z_iload_n (pc := 72) (j := 1) C dX7_tones_72 rfl rfl ?_
        exact z_ireturn (pc := 73) C (by rw [hXp]; exact zpure_i (by rw [show (12 - i).toNat = 0 by omega, tgo] at hd; rw [hd]) rfl) dX7_tones_73
      · refine z_iload_n (pc := 31) (j := 1) C dX7_tones_31 rfl rfl ?_
        refine z_aload_n (pc := 32) (j := 2) C dX7_tones_32 rfl rfl ?_
        refine z_getfield (pc := 33) (v := .int (iI x4)) C in_X7 rfl 3 (by decide) q601 (fun _ z => z) hc rfl dX7_tones_33 ?_
        refine z_callSN (pc := 36) (n := 1) (kc' := 0) (ks' := 0) C (ct_ivl C.t (q := x4) (by omega)) q1871 q1869 q63 q1870 (by decide +kernel) ⟨by decide, by decide⟩ rfl rfl (Nat.le_of_ble_eq_true rfl) dX7_tones_36 (by omega) (by omega) (zpk (st' := [.int (iI (ivl x4)), .int (iI ((s : Nat) : Int))]) rfl ?_) zrx
        refine z_iload_n (pc := 39) (j := 0) C dX7_tones_39 rfl rfl ?_
        refine z_callSN (pc := 40) (n := 2) (kc' := 0) (ks' := 0) C (ct_has C.t (a := ivl x4) (k := i) (by omega) (by omega)) q1620 q1872 q63 q1619 (by decide +kernel) ⟨by decide, by decide⟩ rfl rfl (Nat.le_of_ble_eq_true rfl) dX7_tones_40 (by omega) (by omega) (zpk (st' := [.int (iI (hsb (ivl x4) i)), .int (iI ((s : Nat) : Int))]) rfl ?_) zrx
        have hin := hsb_r (ivl x4) i
        refine z_if_eq (pc := 43) (tgt := 63) C dX7_tones_43 (by decide) (by omega) (fun c43 => ?_) (fun c43 => ?_)
        · rw [show (12 - i).toNat = (12 - (i + 1)).toNat + 1 by omega, tgo] at hd
          rw [if_neg (by omega)] at hd
          refine z_iconst (pc := 63) C dX7_tones_63 ?_
          refine z_iorN (pc := 64) (a := s) (b := 0) C ⟨by omega, by first | omega | (have := p12 (x := (pcl x3 + i) % 12) (by omega); omega)⟩ dX7_tones_64 ?_
          refine z_istore_n (pc := 65) (L' := [(1, .int (iI ((s ||| 0 : Nat) : Int))), (2, .int (iI i)), (0, .ref c)]) C dX7_tones_65 rfl (by rw [hnL]; decide) rfl ?_
          refine z_iinc (pc := 66) (k := 1) (L' := [(2, .int (iI (i + 1))), (1, .int (iI ((s ||| 0 : Nat) : Int))), (0, .ref c)]) C dX7_tones_66 rfl (by rw [hnL]; decide) rfl ?_
          refine z_goto (pc := 69) (tgt := 25) C dX7_tones_69 (by decide) ?_
          refine Z.weak (L' := [(2, .int (iI (i + 1))), (1, .int (iI ((s ||| 0 : Nat) : Int))), (0, .ref c)]) (kc' := 0) (ks' := 0) [0, 1, 2] rfl (by omega) (by omega) ?_
          exact ih25 _ (by omega) (s ||| 0) (i + 1) (by omega) hd (or12 hs (by decide)) rfl
        · rw [show (12 - i).toNat = (12 - (i + 1)).toNat + 1 by omega, tgo] at hd
          rw [if_pos (by have := hsb_r (ivl x4) i; omega)] at hd
          refine z_iconst (pc := 46) C dX7_tones_46 ?_
          refine z_aload_n (pc := 47) (j := 2) C dX7_tones_47 rfl rfl ?_
          refine z_getfield (pc := 48) (v := .int (iI x3)) C in_X7 rfl 2 (by decide) q598 (fun _ z => z) hc rfl dX7_tones_48 ?_
          refine z_callSN (pc := 51) (n := 1) (kc' := 0) (ks' := 0) C (ct_pcl C.t (p := x3) (by omega)) q898 q1114 q63 q897 (by decide +kernel) ⟨by decide, by decide⟩ rfl rfl (Nat.le_of_ble_eq_true rfl) dX7_tones_51 (by omega) (by omega) (zpk (st' := [.int (iI (pcl x3)), .int (iI 1), .int (iI ((s : Nat) : Int))]) rfl ?_) zrx
          refine z_iload_n (pc := 54) (j := 0) C dX7_tones_54 rfl rfl ?_
          refine z_iadd (pc := 55) C dX7_tones_55 ?_
          refine z_bipush (pc := 56) C dX7_tones_56 (by decide) ?_
          refine z_iremI (pc := 58) C dX7_tones_58 (by omega) (by decide) ?_
          rw [show ((((pcl x3) + i).tmod 12) : Int) = (pcl x3 + i) % 12 from Int.tmod_eq_emod_of_nonneg (by omega)]
          show Z X h 0 0 [(2, .int (iI i)), (1, .int (iI ((s : Nat) : Int))), (0, .ref c)] 59 [.int (iI ((pcl x3 + i) % 12)), .int (iI 1), .int (iI ((s : Nat) : Int))]
          refine z_ishl1k (pc := 59) C (by omega) dX7_tones_59 ?_
          refine z_goto (pc := 60) (tgt := 64) C dX7_tones_60 (by decide) ?_
          refine z_iorN (pc := 64) (a := s) (b := 2 ^ ((pcl x3 + i) % 12).toNat) C ⟨by omega, by first | omega | (have := p12 (x := (pcl x3 + i) % 12) (by omega); omega)⟩ dX7_tones_64 ?_
          refine z_istore_n (pc := 65) (L' := [(1, .int (iI ((s ||| (2 ^ ((pcl x3 + i) % 12).toNat) : Nat) : Int))), (2, .int (iI i)), (0, .ref c)]) C dX7_tones_65 rfl (by rw [hnL]; decide) rfl ?_
          refine z_iinc (pc := 66) (k := 1) (L' := [(2, .int (iI (i + 1))), (1, .int (iI ((s ||| (2 ^ ((pcl x3 + i) % 12).toNat) : Nat) : Int))), (0, .ref c)]) C dX7_tones_66 rfl (by rw [hnL]; decide) rfl ?_
          refine z_goto (pc := 69) (tgt := 25) C dX7_tones_69 (by decide) ?_
          refine Z.weak (L' := [(2, .int (iI (i + 1))), (1, .int (iI ((s ||| (2 ^ ((pcl x3 + i) % 12).toNat) : Nat) : Int))), (0, .ref c)]) (kc' := 0) (ks' := 0) [0, 1, 2] rfl (by omega) (by omega) ?_
          exact ih25 _ (by omega) (s ||| (2 ^ ((pcl x3 + i) % 12).toNat)) (i + 1) (by omega) hd (or12 hs (p12 (by omega))) rfl
    refine Z.weak (L' := [(2, .int (iI 0)), (1, .int (iI 0)), (0, .ref c)]) (kc' := 0) (ks' := 0) [0, 1, 2] rfl (by omega) (by omega) ?_
    exact loop25 _ 0 0 (by omega) (by unfold tns; rw [if_pos (by omega)]; rfl) (by decide) rfl
set_option maxHeartbeats 4000000 in
theorem ct_wNote {l : Launch} (hl : l.stackTraces = false) {Γ : zCx} {h : zH} {b v : Nat} {t : List Int} {cap : Nat} (hb : bAt h b v t cap) {p : Int} (hp : -15 ≤ p ∧ p ≤ 19) (hn : t.length + 3 ≤ cap ∧ t.length ≤ 30000) : zMet l yX1_writeNote (ws_ yX1_writeNote cX1_writeNote 3 none) ({ frames := 6, cells := 0, slots := 0, locals := 133 }) Γ h [.ref b, .int (iI p)] (zrt (fun w h' => w = none ∧ ∃ v', bAt h' b v' (t ++ nte p) cap ∧ (v' ∈ [b, v] ∨ h v' = none) ∧ zkeep h h' [b, v])) 0 0 := by
  refine zMet.of (cc := cX1_writeNote) hl (plainFor_of_name (by decide +kernel)) (Nat.le_of_ble_eq_true rfl) ?_
  intro X hXl hXΓ hXp C hnm hnL
  have C : zC X cX1_writeNote RX1 none 6 133 [] := C
  have hnL : X.2.1.2.2.2.2 = 3 := hnL
  subst hXl hXΓ
  show Z X h 0 0 [(0, .ref b), (1, .int (iI p))] 0 []
  have hna := nac_r hp
  have hnc := nch_r p
  have hb0 := hb
  obtain ⟨z, fb, hb1, hv1, hlen, hcap, hcon, hfit, hasc⟩ := hb
  refine z_aload_n (pc := 0) (j := 0) C dX1_writeNote_0 rfl rfl ?_
  refine Z.constS C 10 rfl (fun hs1 => ?_)
  have hs1 : sAt h ((X.Γ.2.2.2 (10 + 2))) [70, 67, 71, 68, 65, 69, 66] := zS_10 ▸ hs1
  refine z_ldcS (pc := 1) C 10 rfl dX1_writeNote_1 ?_
  refine z_iload_n (pc := 3) (j := 1) C dX1_writeNote_3 rfl rfl ?_
  refine z_iconst (pc := 4) C dX1_writeNote_4 ?_
  refine z_iadd (pc := 5) C dX1_writeNote_5 ?_
  refine z_ldcS (pc := 6) C 10 rfl dX1_writeNote_6 ?_
  obtain ⟨hl_2, v_2, x_2, y_2, g_2, h1_2, h2_2, h3_2, h4_2⟩ := id (hs1)
  have h1_2 : h ((X.Γ.2.2.2 (10 + 2))) = some (false, .inr (13, [.ref v_2, .int (iI 0), .int x_2, .int y_2])) := h1_2
  refine z_callV (pc := 8) (n := 0) (kc' := 0) (ks' := 0) C (ct_S_length C.t hs1) (lw_V q1053 q468 q469 q83 q470) (by decide +kernel) ⟨by decide, by decide⟩ h1_2 rfl rfl rfl (Nat.le_of_ble_eq_true rfl) dX1_writeNote_8 (by omega) (by omega) (zpk (st' := [.int (iI 7), .int (iI (p + 1)), .ref (X.Γ.2.2.2 (10 + 2)), .ref b]) rfl ?_) zrx
  refine z_callS (pc := 11) (n := 2) (kc' := 0) (ks' := 0) C (ct_floorMod C.t (x := p + 1) (y := 7) (by omega) (by decide)) (lw_S q899 q900 q71 q901) (by decide +kernel) ⟨by decide, by decide⟩ rfl rfl (Nat.le_of_ble_eq_true rfl) dX1_writeNote_11 (by omega) (by omega) (zpk (st' := [.int (iI ((p + 1) % 7)), .ref (X.Γ.2.2.2 (10 + 2)), .ref b]) rfl ?_) zrx
  refine z_callV (pc := 14) (n := 1) (kc' := 0) (ks' := 0) C (ct_S_charAt C.t hs1 (i := (p + 1) % 7) (c := nch p) (by omega) (nch_at p)) (lw_V q1635 q561 q562 q83 q563) (by decide +kernel) ⟨by decide, by decide⟩ h1_2 rfl rfl rfl (Nat.le_of_ble_eq_true rfl) dX1_writeNote_14 (by omega) (by omega) (zpk (st' := [.int (iI (nch p)), .ref b]) rfl ?_) zrx
  refine z_callV (pc := 17) (n := 1) (kc' := 0) (ks' := 0) C (ct_B_appCng C.t hb0 (c := nch p) (by omega) (by omega) (by omega)) (lw_V q1777 q869 q870 q82 q871) (by decide +kernel) ⟨by decide, by decide⟩ hb1 rfl rfl rfl (Nat.le_of_ble_eq_true rfl) dX1_writeNote_17 (by omega) (by omega) (zrk fun w h3 hp => ?_) zrx
  obtain ⟨rfl, v4, hb5, hv6, k7⟩ := hp
  have dv4 : v4 ∈ ([b, v] : List Nat) ∨ h v4 = none := zmay (Or.inl (by simp)) hv6 zkeep.rf
  have kh3 : zkeep h h3 [b, v] := zkeep.loc zkeep.rf k7 (zall_cons (Or.inl (Or.symm (Or.inl (by simp)))) (zall_cons (Or.inl (Or.symm (Or.inl (by simp)))) zall_nil))
  have hx_8 := hb5
  obtain ⟨z_8, f_8, hb_8, hv_8, hlen_8, hcap_8, hcon_8, hfit_8, hasc_8⟩ := hx_8
  show Z X h3 0 0 [(0, .ref b), (1, .int (iI p))] 20 [.ref b]
  refine z_pop (pc := 20) C dX1_writeNote_20 rfl ?_
  refine z_iconst (pc := 21) C dX1_writeNote_21 ?_
  refine z_istore_n (pc := 22) (L' := [(2, .int (iI 0)), (0, .ref b), (1, .int (iI p))]) C dX1_writeNote_22 rfl (by rw [hnL]; decide) rfl ?_
  have loop23 : ∀ (n23 : Nat) (k : Int) (g : zH) (u : Nat), (0 ≤ k ∧ k ≤ (nac p : Nat)) → (zkeep h g [b, v]) → (u ∈ [b, v] ∨ h u = none) → (bAt g b u (t ++ [nch p] ++ List.replicate k.toNat (ncs p)) cap) → (((nac p : Nat) - k).toNat) = n23 → Z X g 0 0 [(2, .int (iI k)), (1, .int (iI p)), (0, .ref b)] 23 [] := by
    intro n23
    induction n23 using Nat.strongRecOn with
    | ind n23 ih23 =>
    intro k g u hk hkp hm hb2 hn23
    have hx_9 := hb2
    obtain ⟨z_9, f_9, hb_9, hv_9, hlen_9, hcap_9, hcon_9, hfit_9, hasc_9⟩ := hx_9
    refine z_iload_n (pc := 23) (j := 0) C dX1_writeNote_23 rfl rfl ?_
    refine z_iload_n (pc := 24) (j := 1) C dX1_writeNote_24 rfl rfl ?_
    refine z_callS (pc := 25) (n := 1) (kc' := 0) (ks' := 0) C (ct_acc C.t (p := p) (by omega)) (lw_S q1778 q1050 q63 q1051) (by decide +kernel) ⟨by decide, by decide⟩ rfl rfl (Nat.le_of_ble_eq_true rfl) dX1_writeNote_25 (by omega) (by omega) (zpk (st' := [.int (iI (acc p)), .int (iI k)]) rfl ?_) zrx
    have hac := acc_r (p := p) (by omega)
    refine z_callS (pc := 28) (n := 1) (kc' := 0) (ks' := 0) C (ct_abs C.t (x := acc p) (by omega)) (lw_S q1779 q1058 q71 q1059) (by decide +kernel) ⟨by decide, by decide⟩ rfl rfl (Nat.le_of_ble_eq_true rfl) dX1_writeNote_28 (by omega) (by omega) (zpk (st' := [.int (iI (if 0 ≤ acc p then acc p else -(acc p))), .int (iI k)]) rfl ?_) zrx
    rw [show ((if 0 ≤ acc p then acc p else -(acc p)) : Int) = ((nac p : Nat) : Int) from by unfold nac iabs; split <;> omega]
    show Z X g 0 0 [(2, .int (iI k)), (1, .int (iI p)), (0, .ref b)] 31 [.int (iI ((nac p : Nat) : Int)), .int (iI k)]
    refine z_icmp_ge (pc := 31) (tgt := 56) C dX1_writeNote_31 (by decide) (by omega) (by omega) (fun c31 => ?_) (fun c31 => ?_)
    · exact z_return (pc := 56) C (by rw [hXp]; exact ⟨_, rfl, rfl, u, (by rw [show k = (nac p : Nat) by omega] at hb2; simpa [nte] using hb2), hm, hkp⟩) dX1_writeNote_56
    · refine z_aload_n (pc := 34) (j := 2) C dX1_writeNote_34 rfl rfl ?_
      refine z_iload_n (pc := 35) (j := 1) C dX1_writeNote_35 rfl rfl ?_
      refine z_if_le (pc := 36) (tgt := 44) C dX1_writeNote_36 (by decide) (by omega) (fun c36 => ?_) (fun c36 => ?_)
      · refine z_bipush (pc := 44) C dX1_writeNote_44 (by decide) ?_
        refine z_callV (pc := 46) (n := 1) (kc' := 0) (ks' := 0) C (ct_B_appCng C.t hb2 (c := 98) (by decide) (by simp; omega) (by simp; omega)) (lw_V q1777 q869 q870 q82 q871) (by decide +kernel) ⟨by decide, by decide⟩ hb_9 rfl rfl rfl (Nat.le_of_ble_eq_true rfl) dX1_writeNote_46 (by omega) (by omega) (zrk fun w h10 hp => ?_) zrx
        obtain ⟨rfl, v11, hb12, hv13, k14⟩ := hp
        have dv11 : v11 ∈ ([b, v] : List Nat) ∨ h v11 = none := zmay hm hv13 hkp
        have kh10 : zkeep h h10 [b, v] := zkeep.loc hkp k14 (zall_cons (Or.inl (Or.symm (Or.inl (by simp)))) (zall_cons (Or.inl (Or.symm hm)) zall_nil))
        have hx_15 := hb12
        obtain ⟨z_15, f_15, hb_15, hv_15, hlen_15, hcap_15, hcon_15, hfit_15, hasc_15⟩ := hx_15
        show Z X h10 0 0 [(2, .int (iI k)), (1, .int (iI p)), (0, .ref b)] 49 [.ref b]
        refine z_pop (pc := 49) C dX1_writeNote_49 rfl ?_
        refine z_iinc (pc := 50) (k := 0) (L' := [(2, .int (iI (k + 1))), (1, .int (iI p)), (0, .ref b)]) C dX1_writeNote_50 rfl (by rw [hnL]; decide) rfl ?_
        refine z_goto (pc := 53) (tgt := 23) C dX1_writeNote_53 (by decide) ?_
        refine Z.weak (L' := [(2, .int (iI (k + 1))), (1, .int (iI p)), (0, .ref b)]) (kc' := 0) (ks' := 0) [0, 1, 2] rfl (by omega) (by omega) ?_
        exact ih23 _ (by omega) (k + 1) h10 v11 (by omega) kh10 dv11 (wn_step (by unfold ncs; split <;> omega) (by omega) hb12) rfl
      · refine z_bipush (pc := 39) C dX1_writeNote_39 (by decide) ?_
        refine z_goto (pc := 41) (tgt := 46) C dX1_writeNote_41 (by decide) ?_
        refine z_callV (pc := 46) (n := 1) (kc' := 0) (ks' := 0) C (ct_B_appCng C.t hb2 (c := 35) (by decide) (by simp; omega) (by simp; omega)) (lw_V q1777 q869 q870 q82 q871) (by decide +kernel) ⟨by decide, by decide⟩ hb_9 rfl rfl rfl (Nat.le_of_ble_eq_true rfl) dX1_writeNote_46 (by omega) (by omega) (zrk fun w h16 hp => ?_) zrx
        obtain ⟨rfl, v17, hb18, hv19, k20⟩ := hp
        have dv17 : v17 ∈ ([b, v] : List Nat) ∨ h v17 = none := zmay hm hv19 hkp
        have kh16 : zkeep h h16 [b, v] := zkeep.loc hkp k20 (zall_cons (Or.inl (Or.symm (Or.inl (by simp)))) (zall_cons (Or.inl (Or.symm hm)) zall_nil))
        have hx_21 := hb18
        obtain ⟨z_21, f_21, hb_21, hv_21, hlen_21, hcap_21, hcon_21, hfit_21, hasc_21⟩ := hx_21
        show Z X h16 0 0 [(2, .int (iI k)), (1, .int (iI p)), (0, .ref b)] 49 [.ref b]
        refine z_pop (pc := 49) C dX1_writeNote_49 rfl ?_
        refine z_iinc (pc := 50) (k := 0) (L' := [(2, .int (iI (k + 1))), (1, .int (iI p)), (0, .ref b)]) C dX1_writeNote_50 rfl (by rw [hnL]; decide) rfl ?_
        refine z_goto (pc := 53) (tgt := 23) C dX1_writeNote_53 (by decide) ?_
        refine Z.weak (L' := [(2, .int (iI (k + 1))), (1, .int (iI p)), (0, .ref b)]) (kc' := 0) (ks' := 0) [0, 1, 2] rfl (by omega) (by omega) ?_
        exact ih23 _ (by omega) (k + 1) h16 v17 (by omega) kh16 dv17 (wn_step (by unfold ncs; split <;> omega) (by omega) hb18) rfl
  refine Z.weak (L' := [(2, .int (iI 0)), (1, .int (iI p)), (0, .ref b)]) (kc' := 0) (ks' := 0) [0, 2, 1] rfl (by omega) (by omega) ?_
  exact loop23 _ 0 h3 v4 (by omega) kh3 dv4 (by simpa using hb5) rfl
set_option maxHeartbeats 4000000 in
theorem ct_C_name {l : Launch} (hl : l.stackTraces = false) {Γ : zCx} {h : zH} {c : Nat} {x1 x2 x3 x4 x5 : Int} (hc : h c = some (false, .inr (6, [.int (iI x1), .int (iI x2), .int (iI x3), .int (iI x4), .int (iI x5)]))) (h3 : -15 ≤ x3 ∧ x3 ≤ 19) (h4 : 0 ≤ x4 ∧ x4 ≤ 9) (h5 : x5 = 100 ∨ (-15 ≤ x5 ∧ x5 ≤ 19))  : zMet l yX7_name (ws_ yX7_name cX7_name 2 (some (.object "java/lang/String"))) ({ frames := 7, cells := 4, slots := 31, locals := 155 }) Γ h [.ref c] (zrt (fun w h' => ∃ a, w = some (.ref a) ∧ sAt h' a (nmt x3 x4 x5) ∧ h a = none ∧ zkeep h h' [])) 4 31 := by
  refine zMet.of (cc := cX7_name) hl (plainFor_of_name (by decide +kernel)) (Nat.le_of_ble_eq_true rfl) ?_
  intro X hXl hXΓ hXp C hnm hnL
  have C : zC X cX7_name RX7 (some (.object "java/lang/String")) 7 155 [] := C
  have hnL : X.2.1.2.2.2.2 = 2 := hnL
  subst hXl hXΓ
  show Z X h 4 31 [(0, .ref c)] 0 []
  have l3 := nte_r h3
  have l4 := qlt_l x4
  have hnm := nmt_r (q := x4) h3 h5
  refine z_new (pc := 0) (ci := 12) (kc' := 3) (ks' := 27) (fs := [.null, .int (iI 0), .int (iI 0), .int (iI 0)]) C in_J13 tyJ13 tyJ13_ok rfl q1770 q331 q82 df_J13 (by omega) (by omega) dX7_name_0 (fun a1 fa1 => ?_)
  refine Z.nm (fun h2 eh2 => ?_)
  have na1 : h a1 = none := fa1
  have kh2 : zkeep h h2 [] := by rw [eh2]; exact zkeep.born zkeep.rf fa1
  have fh2_0 : h2 a1 = some (true, .inr (12, [.null, .int (iI 0), .int (iI 0), .int (iI 0)])) := zse eh2
  refine z_dup (pc := 3) C dX7_name_3 rfl ?_
  refine z_bipush (pc := 4) C dX7_name_4 (by decide) ?_
  refine z_callI (pc := 6) (n := 1) (kc' := 2) (ks' := 15) C (ct_B_initN C.t fh2_0 (n := 12) (by omega)) q1773 q82 q1771 q1772 rfl (by decide +kernel) ⟨by decide, by decide⟩ rfl rfl (Nat.le_of_ble_eq_true rfl) dX7_name_6 (by omega) (by omega) (zrk fun w h3 hp => ?_) zrx
  obtain ⟨rfl, v4, hb5, fv4, k6⟩ := hp
  have nv4 : h v4 = none := kh2.none0 fv4 List.not_mem_nil
  have kh3 : zkeep h h3 [] := zkeep.loc kh2 k6 (zall_cons (Or.inl (Or.symm (Or.inr na1))) zall_nil)
  have hx_7 := hb5
  obtain ⟨z_7, f_7, hb_7, hv_7, hlen_7, hcap_7, hcon_7, hfit_7, hasc_7⟩ := hx_7
  show Z X h3 2 15 [(0, .ref c)] 9 [.ref a1]
  refine z_astore_n (pc := 9) (L' := [(1, .ref a1), (0, .ref c)]) C dX7_name_9 rfl (by rw [hnL]; decide) rfl ?_
  refine z_aload_n (pc := 10) (j := 0) C dX7_name_10 rfl rfl ?_
  refine z_aload_n (pc := 11) (j := 1) C dX7_name_11 rfl rfl ?_
  refine z_getfield (pc := 12) (v := .int (iI x3)) C in_X7 rfl 2 (by decide) q598 (fun _ z => z) (kh3.f hc) rfl dX7_name_12 ?_
  refine z_callSN (pc := 15) (n := 2) (kc' := 2) (ks' := 15) C (ct_wNote C.t hb5 (p := x3) (by omega) (by simp)) q1776 q1774 q63 q1775 (by decide +kernel) ⟨by decide, by decide⟩ rfl rfl (Nat.le_of_ble_eq_true rfl) dX7_name_15 (by omega) (by omega) (zrk fun w h8 hp => ?_) zrx
  obtain ⟨rfl, v9, hb10, hv11, k12⟩ := hp
  have dv9 : v9 ∈ ([] : List Nat) ∨ h v9 = none := zmayM hv11 (zall_cons (Or.inr na1) (zall_cons (Or.inr nv4) zall_nil)) kh3
  have nv9 : h v9 = none := dv9.resolve_left List.not_mem_nil
  have kh8 : zkeep h h8 [] := zkeep.loc kh3 k12 (zall_cons (Or.inl (Or.symm (Or.inr na1))) (zall_cons (Or.inl (Or.symm (Or.inr nv4))) zall_nil))
  have hx_13 := hb10
  obtain ⟨z_13, f_13, hb_13, hv_13, hlen_13, hcap_13, hcon_13, hfit_13, hasc_13⟩ := hx_13
  show Z X h8 2 15 [(1, .ref a1), (0, .ref c)] 18 []
  refine z_aload_n (pc := 18) (j := 0) C dX7_name_18 rfl rfl ?_
  refine z_aload_n (pc := 19) (j := 1) C dX7_name_19 rfl rfl ?_
  refine z_getfield (pc := 20) (v := .int (iI x4)) C in_X7 rfl 3 (by decide) q601 (fun _ z => z) (kh8.f hc) rfl dX7_name_20 ?_
  refine z_callSN (pc := 23) (n := 1) (kc' := 2) (ks' := 15) C (ct_qlt C.t (q := x4) (by omega)) q546 q1780 q63 q545 (by decide +kernel) ⟨by decide, by decide⟩ rfl rfl (Nat.le_of_ble_eq_true rfl) dX7_name_23 (by omega) (by omega) (zrk fun w h15 hp => ?_) zrx
  obtain ⟨a14, rfl, hs16, eh15⟩ := hp
  rw [eh15]
  show Z X h8 2 15 [(1, .ref a1), (0, .ref c)] 26 [.ref a14, .ref a1]
  refine z_callV (pc := 26) (n := 1) (kc' := 2) (ks' := 15) C (ct_B_appSng C.t hb10 hs16 (by omega) (by simp; omega) (by simp; omega)) (lw_V q1781 q714 q715 q82 q716) (by decide +kernel) ⟨by decide, by decide⟩ hb_13 rfl rfl rfl (Nat.le_of_ble_eq_true rfl) dX7_name_26 (by omega) (by omega) (zrk fun w h17 hp => ?_) zrx
  obtain ⟨rfl, v18, hb19, hv20, k21⟩ := hp
  have dv18 : v18 ∈ ([] : List Nat) ∨ h v18 = none := zmay dv9 hv20 kh8
  have nv18 : h v18 = none := dv18.resolve_left List.not_mem_nil
  have kh17 : zkeep h h17 [] := zkeep.loc kh8 k21 (zall_cons (Or.inl (Or.symm (Or.inr na1))) (zall_cons (Or.inl (Or.symm dv9)) zall_nil))
  have ph17_1 : sAt h17 a14 (qlt x4) := sAt.keep k21 hs16
  have hx_22 := hb19
  obtain ⟨z_22, f_22, hb_22, hv_22, hlen_22, hcap_22, hcon_22, hfit_22, hasc_22⟩ := hx_22
  show Z X h17 2 15 [(1, .ref a1), (0, .ref c)] 29 [.ref a1]
  refine z_pop (pc := 29) C dX7_name_29 rfl ?_
  refine z_aload_n (pc := 30) (j := 1) C dX7_name_30 rfl rfl ?_
  refine z_getfield (pc := 31) (v := .int (iI x5)) C in_X7 rfl 4 (by decide) q603 (fun _ z => z) (kh17.f hc) rfl dX7_name_31 ?_
  refine z_bipush (pc := 34) C dX7_name_34 (by decide) ?_
  refine z_icmp_eq (pc := 36) (tgt := 54) C dX7_name_36 (by decide) (by omega) (by decide) (fun c36 => ?_) (fun c36 => ?_)
  · refine z_aload_n (pc := 54) (j := 0) C dX7_name_54 rfl rfl ?_
    refine z_callV (pc := 55) (n := 0) (kc' := 0) (ks' := (15 - (((([]) ++ nte x3) ++ (qlt x4)).length + 4))) C (ct_B_toString C.t hb19) (lw_V q1783 q618 q619 q82 q620) (by decide +kernel) ⟨by decide, by decide⟩ hb_22 rfl rfl rfl (Nat.le_of_ble_eq_true rfl) dX7_name_55 (by omega) (by first | (rw [nmt, if_pos (by omega)] at hnm; simp at hnm ⊢; omega) | (rw [nmt, if_neg (by omega)] at hnm; simp at hnm ⊢; omega)) (zrk fun w h24 hp => ?_) zrx
    obtain ⟨a23, rfl, hs26, fa23, k25⟩ := hp
    have na23 : h a23 = none := kh17.none0 fa23 List.not_mem_nil
    have kh24 : zkeep h h24 [] := zkeep.loc kh17 k25 zall_nil
    have fh24_1 : h24 a1 = some (true, .inr (12, [.ref v18, .int (iI 0), .int z_22, .int (iI ((((([]) ++ nte x3) ++ (qlt x4)).length : Nat) : Int))])) := k25.n hb_22 List.not_mem_nil
    have fh24_2 : h24 v18 = some (true, .inl (.byte, 12, f_22)) := k25.n hv_22 List.not_mem_nil
    have ph24_1 : sAt h24 a14 (qlt x4) := sAt.keep k25 ph17_1
    show Z X h24 0 (15 - (((([]) ++ nte x3) ++ (qlt x4)).length + 4)) [(1, .ref a1), (0, .ref c)] 58 [.ref a23]
    exact z_areturn (pc := 58) C (Or.inl ⟨_, rfl⟩) (Or.inr ⟨_, rfl⟩) (by rw [hXp]; exact ⟨_, rfl, a23, rfl, (show nmt x3 x4 x5 = (([]) ++ nte x3) ++ (qlt x4) by unfold nmt; rw [if_pos (by omega)]; simp) ▸ hs26, na23, kh24⟩) dX7_name_58
  · refine z_aload_n (pc := 39) (j := 0) C dX7_name_39 rfl rfl ?_
    refine z_bipush (pc := 40) C dX7_name_40 (by decide) ?_
    refine z_callV (pc := 42) (n := 1) (kc' := 2) (ks' := 15) C (ct_B_appCng C.t hb19 (c := 47) (by decide) (by simp; omega) (by simp; omega)) (lw_V q1782 q869 q870 q82 q871) (by decide +kernel) ⟨by decide, by decide⟩ hb_22 rfl rfl rfl (Nat.le_of_ble_eq_true rfl) dX7_name_42 (by omega) (by omega) (zrk fun w h27 hp => ?_) zrx
    obtain ⟨rfl, v28, hb29, hv30, k31⟩ := hp
    have dv28 : v28 ∈ ([] : List Nat) ∨ h v28 = none := zmay dv18 hv30 kh17
    have nv28 : h v28 = none := dv28.resolve_left List.not_mem_nil
    have kh27 : zkeep h h27 [] := zkeep.loc kh17 k31 (zall_cons (Or.inl (Or.symm (Or.inr na1))) (zall_cons (Or.inl (Or.symm dv18)) zall_nil))
    have ph27_1 : sAt h27 a14 (qlt x4) := sAt.keep k31 ph17_1
    have hx_32 := hb29
    obtain ⟨z_32, f_32, hb_32, hv_32, hlen_32, hcap_32, hcon_32, hfit_32, hasc_32⟩ := hx_32
    show Z X h27 2 15 [(1, .ref a1), (0, .ref c)] 45 [.ref a1]
    refine z_pop (pc := 45) C dX7_name_45 rfl ?_
    refine z_aload_n (pc := 46) (j := 0) C dX7_name_46 rfl rfl ?_
    refine z_aload_n (pc := 47) (j := 1) C dX7_name_47 rfl rfl ?_
    refine z_getfield (pc := 48) (v := .int (iI x5)) C in_X7 rfl 4 (by decide) q603 (fun _ z => z) (kh27.f hc) rfl dX7_name_48 ?_
    refine z_callSN (pc := 51) (n := 2) (kc' := 2) (ks' := 15) C (ct_wNote C.t hb29 (p := x5) (by omega) (by simp; omega)) q1776 q1774 q63 q1775 (by decide +kernel) ⟨by decide, by decide⟩ rfl rfl (Nat.le_of_ble_eq_true rfl) dX7_name_51 (by omega) (by omega) (zrk fun w h33 hp => ?_) zrx
    obtain ⟨rfl, v34, hb35, hv36, k37⟩ := hp
    have dv34 : v34 ∈ ([] : List Nat) ∨ h v34 = none := zmayM hv36 (zall_cons (Or.inr na1) (zall_cons dv28 zall_nil)) kh27
    have nv34 : h v34 = none := dv34.resolve_left List.not_mem_nil
    have kh33 : zkeep h h33 [] := zkeep.loc kh27 k37 (zall_cons (Or.inl (Or.symm (Or.inr na1))) (zall_cons (Or.inl (Or.symm dv28)) zall_nil))
    have ph33_1 : sAt h33 a14 (qlt x4) := sAt.keep k37 ph27_1
    have hx_38 := hb35
    obtain ⟨z_38, f_38, hb_38, hv_38, hlen_38, hcap_38, hcon_38, hfit_38, hasc_38⟩ := hx_38
    show Z X h33 2 15 [(1, .ref a1), (0, .ref c)] 54 []
    refine z_aload_n (pc := 54) (j := 0) C dX7_name_54 rfl rfl ?_
    refine z_callV (pc := 55) (n := 0) (kc' := 0) (ks' := (15 - (((((([]) ++ nte x3) ++ (qlt x4)) ++ [47]) ++ nte x5).length + 4))) C (ct_B_toString C.t hb35) (lw_V q1783 q618 q619 q82 q620) (by decide +kernel) ⟨by decide, by decide⟩ hb_38 rfl rfl rfl (Nat.le_of_ble_eq_true rfl) dX7_name_55 (by omega) (by first | (rw [nmt, if_pos (by omega)] at hnm; simp at hnm ⊢; omega) | (rw [nmt, if_neg (by omega)] at hnm; simp at hnm ⊢; omega)) (zrk fun w h40 hp => ?_) zrx
    obtain ⟨a39, rfl, hs42, fa39, k41⟩ := hp
    have na39 : h a39 = none := kh33.none0 fa39 List.not_mem_nil
    have kh40 : zkeep h h40 [] := zkeep.loc kh33 k41 zall_nil
    have fh40_1 : h40 a1 = some (true, .inr (12, [.ref v34, .int (iI 0), .int z_38, .int (iI ((((((([]) ++ nte x3) ++ (qlt x4)) ++ [47]) ++ nte x5).length : Nat) : Int))])) := k41.n hb_38 List.not_mem_nil
    have fh40_2 : h40 v34 = some (true, .inl (.byte, 12, f_38)) := k41.n hv_38 List.not_mem_nil
    have ph40_1 : sAt h40 a14 (qlt x4) := sAt.keep k41 ph33_1
    show Z X h40 0 (15 - (((((([]) ++ nte x3) ++ (qlt x4)) ++ [47]) ++ nte x5).length + 4)) [(1, .ref a1), (0, .ref c)] 58 [.ref a39]
    exact z_areturn (pc := 58) C (Or.inl ⟨_, rfl⟩) (Or.inr ⟨_, rfl⟩) (by rw [hXp]; exact ⟨_, rfl, a39, rfl, (show nmt x3 x4 x5 = (((([]) ++ nte x3) ++ (qlt x4)) ++ [47]) ++ nte x5 by unfold nmt; rw [if_neg (by omega)]; simp) ▸ hs42, na39, kh40⟩) dX7_name_58
set_option maxHeartbeats 4000000 in
theorem ct_H_hash {l : Launch} (hl : l.stackTraces = false) {Γ : zCx} {h : zH} {s : Nat} {r q b : Int} (hs : h s = some (false, .inr (7, [.int (iI r), .int (iI q), .int (iI b)]))) (hr : 0 ≤ r ∧ r < 12) (hq : 0 ≤ q ∧ q ≤ 9) (hb : b = 0 ∨ b = 1)  : zMet l yX8_hashCode (ws_ yX8_hashCode cX8_hashCode 1 (some .int)) ({ frames := 0, cells := 0, slots := 0, locals := 0 }) Γ h [.ref s] (zpure h (some (.int (iI (scode r q b))))) 0 0 := by
  refine zMet.of (cc := cX8_hashCode) hl (plainFor_of_name (by decide +kernel)) (Nat.le_of_ble_eq_true rfl) ?_
  intro X hXl hXΓ hXp C hnm hnL
  have C : zC X cX8_hashCode RX8 (some .int) 0 0 [] := C
  have hnL : X.2.1.2.2.2.2 = 1 := hnL
  subst hXl hXΓ
  show Z X h 0 0 [(0, .ref s)] 0 []
  refine z_iconst (pc := 0) C dX8_hashCode_0 ?_
  refine z_bipush (pc := 1) C dX8_hashCode_1 (by decide) ?_
  refine z_aload_n (pc := 3) (j := 0) C dX8_hashCode_3 rfl rfl ?_
  refine z_getfield (pc := 4) (v := .int (iI r)) C in_X8 rfl 0 (by decide) q1122 (fun _ z => z) hs rfl dX8_hashCode_4 ?_
  refine z_imul (pc := 7) C dX8_hashCode_7 ?_
  refine z_aload_n (pc := 8) (j := 0) C dX8_hashCode_8 rfl rfl ?_
  refine z_getfield (pc := 9) (v := .int (iI q)) C in_X8 rfl 1 (by decide) q1124 (fun _ z => z) hs rfl dX8_hashCode_9 ?_
  refine z_iadd (pc := 12) C dX8_hashCode_12 ?_
  refine z_imul (pc := 13) C dX8_hashCode_13 ?_
  refine z_aload_n (pc := 14) (j := 0) C dX8_hashCode_14 rfl rfl ?_
  refine z_getfield (pc := 15) (v := .int (iI b)) C in_X8 rfl 2 (by decide) q1125 (fun _ z => z) hs rfl dX8_hashCode_15 ?_
  refine z_if_eq (pc := 18) (tgt := 25) C dX8_hashCode_18 (by decide) (by omega) (fun c18 => ?_) (fun c18 => ?_)
  · refine z_iconst (pc := 25) C dX8_hashCode_25 ?_
    refine z_iadd (pc := 26) C dX8_hashCode_26 ?_
    exact z_ireturn (pc := 27) C (by rw [hXp]; exact zpure_i (by unfold scode; omega) rfl) dX8_hashCode_27
  · refine z_iconst (pc := 21) C dX8_hashCode_21 ?_
    refine z_goto (pc := 22) (tgt := 26) C dX8_hashCode_22 (by decide) ?_
    refine z_iadd (pc := 26) C dX8_hashCode_26 ?_
    exact z_ireturn (pc := 27) C (by rw [hXp]; exact zpure_i (by unfold scode; omega) rfl) dX8_hashCode_27
set_option maxHeartbeats 4000000 in
theorem ct_H_easy {l : Launch} (hl : l.stackTraces = false) {Γ : zCx} {h : zH} {s : Nat} {r q b : Int} (hs : h s = some (false, .inr (7, [.int (iI r), .int (iI q), .int (iI b)]))) (hr : 0 ≤ r ∧ r < 12) (hq : 0 ≤ q ∧ q ≤ 9) (hb : b = 0 ∨ b = 1)  : zMet l yX8_isEasy (ws_ yX8_isEasy cX8_isEasy 1 (some .boolean)) ({ frames := 1, cells := 0, slots := 0, locals := 21 }) Γ h [.ref s] (zpure h (some (.int (iI (iez r q))))) 0 0 := by
  refine zMet.of (cc := cX8_isEasy) hl (plainFor_of_name (by decide +kernel)) (Nat.le_of_ble_eq_true rfl) ?_
  intro X hXl hXΓ hXp C hnm hnL
  have C : zC X cX8_isEasy RX8 (some .boolean) 1 21 [] := C
  have hnL : X.2.1.2.2.2.2 = 1 := hnL
  subst hXl hXΓ
  show Z X h 0 0 [(0, .ref s)] 0 []
  refine z_aload_n (pc := 0) (j := 0) C dX8_isEasy_0 rfl rfl ?_
  refine z_getfield (pc := 1) (v := .int (iI q)) C in_X8 rfl 1 (by decide) q1124 (fun _ z => z) hs rfl dX8_isEasy_1 ?_
  refine z_callSN (pc := 4) (n := 1) (kc' := 0) (ks' := 0) C (ct_esy C.t (q := q) (by omega)) q1617 q1615 q63 q1616 (by decide +kernel) ⟨by decide, by decide⟩ rfl rfl (Nat.le_of_ble_eq_true rfl) dX8_isEasy_4 (by omega) (by omega) (zpk (st' := [.int (iI (esy q))]) rfl ?_) zrx
  refine z_aload_n (pc := 7) (j := 0) C dX8_isEasy_7 rfl rfl ?_
  refine z_getfield (pc := 8) (v := .int (iI r)) C in_X8 rfl 0 (by decide) q1122 (fun _ z => z) hs rfl dX8_isEasy_8 ?_
  have he := esy_r q
  refine z_callSN (pc := 11) (n := 2) (kc' := 0) (ks' := 0) C (ct_has C.t (a := esy q) (k := r) (by omega) (by omega)) q1620 q1618 q63 q1619 (by decide +kernel) ⟨by decide, by decide⟩ rfl rfl (Nat.le_of_ble_eq_true rfl) dX8_isEasy_11 (by omega) (by omega) (zpk (st' := [.int (iI (hsb (esy q) r))]) rfl ?_) zrx
  have hin := hsb_r (esy q) r
  exact z_zreturn (pc := 14) C (i_nz (by omega) (by omega)) (by rw [hXp]; exact zpure_i rfl rfl) dX8_isEasy_14
set_option maxHeartbeats 4000000 in
theorem ct_H_diff {l : Launch} (hl : l.stackTraces = false) {Γ : zCx} {h : zH} {s : Nat} {r q b : Int} (hs : h s = some (false, .inr (7, [.int (iI r), .int (iI q), .int (iI b)]))) (hr : 0 ≤ r ∧ r < 12) (hq : 0 ≤ q ∧ q ≤ 9) (hb : b = 0 ∨ b = 1)  : zMet l yX8_difficulty (ws_ yX8_difficulty cX8_difficulty 1 (some .int)) ({ frames := 2, cells := 0, slots := 0, locals := 41 }) Γ h [.ref s] (zpure h (some (.int (iI (sdf r q b))))) 0 0 := by
  refine zMet.of (cc := cX8_difficulty) hl (plainFor_of_name (by decide +kernel)) (Nat.le_of_ble_eq_true rfl) ?_
  intro X hXl hXΓ hXp C hnm hnL
  have C : zC X cX8_difficulty RX8 (some .int) 2 41 [] := C
  have hnL : X.2.1.2.2.2.2 = 1 := hnL
  subst hXl hXΓ
  show Z X h 0 0 [(0, .ref s)] 0 []
  refine z_aload_n (pc := 0) (j := 0) C dX8_difficulty_0 rfl rfl ?_
  refine z_callV (pc := 1) (n := 0) (kc' := 0) (ks' := 0) C (ct_H_easy C.t hs (by omega) (by omega) (by omega)) (lw_V q1626 q1612 q1613 q98 q1614) (by decide +kernel) ⟨by decide, by decide⟩ hs rfl rfl rfl (Nat.le_of_ble_eq_true rfl) dX8_difficulty_1 (by omega) (by omega) (zpk (st' := [.int (iI (iez r q))]) rfl ?_) zrx
  have hin := iez_r r q
  refine z_if_eq (pc := 4) (tgt := 11) C dX8_difficulty_4 (by decide) (by omega) (fun c4 => ?_) (fun c4 => ?_)
  · refine z_iconst (pc := 11) C dX8_difficulty_11 ?_
    refine z_aload_n (pc := 12) (j := 0) C dX8_difficulty_12 rfl rfl ?_
    refine z_getfield (pc := 13) (v := .int (iI q)) C in_X8 rfl 1 (by decide) q1124 (fun _ z => z) hs rfl dX8_difficulty_13 ?_
    refine z_iconst (pc := 16) C dX8_difficulty_16 ?_
    refine z_icmp_le (pc := 17) (tgt := 24) C dX8_difficulty_17 (by decide) (by omega) (by decide) (fun c17 => ?_) (fun c17 => ?_)
    · refine z_iconst (pc := 24) C dX8_difficulty_24 ?_
      refine z_iadd (pc := 25) C dX8_difficulty_25 ?_
      refine z_aload_n (pc := 26) (j := 0) C dX8_difficulty_26 rfl rfl ?_
      refine z_getfield (pc := 27) (v := .int (iI b)) C in_X8 rfl 2 (by decide) q1125 (fun _ z => z) hs rfl dX8_difficulty_27 ?_
      refine z_if_eq (pc := 30) (tgt := 37) C dX8_difficulty_30 (by decide) (by omega) (fun c30 => ?_) (fun c30 => ?_)
      · refine z_iconst (pc := 37) C dX8_difficulty_37 ?_
        refine z_iadd (pc := 38) C dX8_difficulty_38 ?_
        exact z_ireturn (pc := 39) C (by rw [hXp]; exact zpure_i (by unfold sdf; (repeat' split) <;> omega) rfl) dX8_difficulty_39
      · refine z_iconst (pc := 33) C dX8_difficulty_33 ?_
        refine z_goto (pc := 34) (tgt := 38) C dX8_difficulty_34 (by decide) ?_
        refine z_iadd (pc := 38) C dX8_difficulty_38 ?_
        exact z_ireturn (pc := 39) C (by rw [hXp]; exact zpure_i (by unfold sdf; (repeat' split) <;> omega) rfl) dX8_difficulty_39
    · refine z_iconst (pc := 20) C dX8_difficulty_20 ?_
      refine z_goto (pc := 21) (tgt := 25) C dX8_difficulty_21 (by decide) ?_
      refine z_iadd (pc := 25) C dX8_difficulty_25 ?_
      refine z_aload_n (pc := 26) (j := 0) C dX8_difficulty_26 rfl rfl ?_
      refine z_getfield (pc := 27) (v := .int (iI b)) C in_X8 rfl 2 (by decide) q1125 (fun _ z => z) hs rfl dX8_difficulty_27 ?_
      refine z_if_eq (pc := 30) (tgt := 37) C dX8_difficulty_30 (by decide) (by omega) (fun c30 => ?_) (fun c30 => ?_)
      · refine z_iconst (pc := 37) C dX8_difficulty_37 ?_
        refine z_iadd (pc := 38) C dX8_difficulty_38 ?_
        exact z_ireturn (pc := 39) C (by rw [hXp]; exact zpure_i (by unfold sdf; (repeat' split) <;> omega) rfl) dX8_difficulty_39
      · refine z_iconst (pc := 33) C dX8_difficulty_33 ?_
        refine z_goto (pc := 34) (tgt := 38) C dX8_difficulty_34 (by decide) ?_
        refine z_iadd (pc := 38) C dX8_difficulty_38 ?_
        exact z_ireturn (pc := 39) C (by rw [hXp]; exact zpure_i (by unfold sdf; (repeat' split) <;> omega) rfl) dX8_difficulty_39
  · refine z_iconst (pc := 7) C dX8_difficulty_7 ?_
    refine z_goto (pc := 8) (tgt := 12) C dX8_difficulty_8 (by decide) ?_
    refine z_aload_n (pc := 12) (j := 0) C dX8_difficulty_12 rfl rfl ?_
    refine z_getfield (pc := 13) (v := .int (iI q)) C in_X8 rfl 1 (by decide) q1124 (fun _ z => z) hs rfl dX8_difficulty_13 ?_
    refine z_iconst (pc := 16) C dX8_difficulty_16 ?_
    refine z_icmp_le (pc := 17) (tgt := 24) C dX8_difficulty_17 (by decide) (by omega) (by decide) (fun c17 => ?_) (fun c17 => ?_)
    · refine z_iconst (pc := 24) C dX8_difficulty_24 ?_
      refine z_iadd (pc := 25) C dX8_difficulty_25 ?_
      refine z_aload_n (pc := 26) (j := 0) C dX8_difficulty_26 rfl rfl ?_
      refine z_getfield (pc := 27) (v := .int (iI b)) C in_X8 rfl 2 (by decide) q1125 (fun _ z => z) hs rfl dX8_difficulty_27 ?_
      refine z_if_eq (pc := 30) (tgt := 37) C dX8_difficulty_30 (by decide) (by omega) (fun c30 => ?_) (fun c30 => ?_)
      · refine z_iconst (pc := 37) C dX8_difficulty_37 ?_
        refine z_iadd (pc := 38) C dX8_difficulty_38 ?_
        exact z_ireturn (pc := 39) C (by rw [hXp]; exact zpure_i (by unfold sdf; (repeat' split) <;> omega) rfl) dX8_difficulty_39
      · refine z_iconst (pc := 33) C dX8_difficulty_33 ?_
        refine z_goto (pc := 34) (tgt := 38) C dX8_difficulty_34 (by decide) ?_
        refine z_iadd (pc := 38) C dX8_difficulty_38 ?_
        exact z_ireturn (pc := 39) C (by rw [hXp]; exact zpure_i (by unfold sdf; (repeat' split) <;> omega) rfl) dX8_difficulty_39
    · refine z_iconst (pc := 20) C dX8_difficulty_20 ?_
      refine z_goto (pc := 21) (tgt := 25) C dX8_difficulty_21 (by decide) ?_
      refine z_iadd (pc := 25) C dX8_difficulty_25 ?_
      refine z_aload_n (pc := 26) (j := 0) C dX8_difficulty_26 rfl rfl ?_
      refine z_getfield (pc := 27) (v := .int (iI b)) C in_X8 rfl 2 (by decide) q1125 (fun _ z => z) hs rfl dX8_difficulty_27 ?_
      refine z_if_eq (pc := 30) (tgt := 37) C dX8_difficulty_30 (by decide) (by omega) (fun c30 => ?_) (fun c30 => ?_)
      · refine z_iconst (pc := 37) C dX8_difficulty_37 ?_
        refine z_iadd (pc := 38) C dX8_difficulty_38 ?_
        exact z_ireturn (pc := 39) C (by rw [hXp]; exact zpure_i (by unfold sdf; (repeat' split) <;> omega) rfl) dX8_difficulty_39
      · refine z_iconst (pc := 33) C dX8_difficulty_33 ?_
        refine z_goto (pc := 34) (tgt := 38) C dX8_difficulty_34 (by decide) ?_
        refine z_iadd (pc := 38) C dX8_difficulty_38 ?_
        exact z_ireturn (pc := 39) C (by rw [hXp]; exact zpure_i (by unfold sdf; (repeat' split) <;> omega) rfl) dX8_difficulty_39
set_option maxHeartbeats 4000000 in
theorem ct_H_eq {l : Launch} (hl : l.stackTraces = false) {Γ : zCx} {h : zH} {s : Nat} {r q b : Int} (hs : h s = some (false, .inr (7, [.int (iI r), .int (iI q), .int (iI b)]))) (hr : 0 ≤ r ∧ r < 12) (hq : 0 ≤ q ∧ q ≤ 9) (hb : b = 0 ∨ b = 1) {s2 : Nat} {r2 q2 b2 : Int} (hs2 : h s2 = some (false, .inr (7, [.int (iI r2), .int (iI q2), .int (iI b2)]))) (hr2 : 0 ≤ r2 ∧ r2 < 12) (hq2 : 0 ≤ q2 ∧ q2 ≤ 9) (hb2 : b2 = 0 ∨ b2 = 1)  : zMet l yX8_equals (ws_ yX8_equals cX8_equals 3 (some .boolean)) ({ frames := 0, cells := 0, slots := 0, locals := 0 }) Γ h [.ref s, .ref s2] (zpure h (some (.int (iI (if scode r q b = scode r2 q2 b2 then 1 else 0))))) 0 0 := by
  refine zMet.of (cc := cX8_equals) hl (plainFor_of_name (by decide +kernel)) (Nat.le_of_ble_eq_true rfl) ?_
  intro X hXl hXΓ hXp C hnm hnL
  have C : zC X cX8_equals RX8 (some .boolean) 0 0 [] := C
  have hnL : X.2.1.2.2.2.2 = 3 := hnL
  subst hXl hXΓ
  show Z X h 0 0 [(0, .ref s), (1, .ref s2)] 0 []
  refine z_aload_n (pc := 0) (j := 1) C dX8_equals_0 rfl rfl ?_
  refine z_instS (pc := 1) C q1237 rfl hs2 dX8_equals_1 ?_
  refine z_if_ne (pc := 4) (tgt := 9) C dX8_equals_4 (by decide) (by decide) (fun _ => ?_) (fun z => absurd z (by decide))
  refine z_aload_n (pc := 9) (j := 1) C dX8_equals_9 rfl rfl ?_
  refine z_castS (pc := 10) C q1237 rfl hs2 dX8_equals_10 ?_
  refine z_astore_n (pc := 13) (L' := [(2, .ref s2), (0, .ref s), (1, .ref s2)]) C dX8_equals_13 rfl (by rw [hnL]; decide) rfl ?_
  refine z_aload_n (pc := 14) (j := 1) C dX8_equals_14 rfl rfl ?_
  refine z_getfield (pc := 15) (v := .int (iI r)) C in_X8 rfl 0 (by decide) q1122 (fun _ z => z) hs rfl dX8_equals_15 ?_
  refine z_aload_n (pc := 18) (j := 0) C dX8_equals_18 rfl rfl ?_
  refine z_getfield (pc := 19) (v := .int (iI r2)) C in_X8 rfl 0 (by decide) q1122 (fun _ z => z) hs2 rfl dX8_equals_19 ?_
  refine z_icmp_ne (pc := 22) (tgt := 51) C dX8_equals_22 (by decide) (by omega) (by omega) (fun c22 => ?_) (fun c22 => ?_)
  · refine z_iconst (pc := 51) C dX8_equals_51 ?_
    exact z_zreturn (pc := 52) C (by decide) (by rw [hXp]; exact zpure_i (by unfold scode; split <;> omega) rfl) dX8_equals_52
  · refine z_aload_n (pc := 25) (j := 1) C dX8_equals_25 rfl rfl ?_
    refine z_getfield (pc := 26) (v := .int (iI q)) C in_X8 rfl 1 (by decide) q1124 (fun _ z => z) hs rfl dX8_equals_26 ?_
    refine z_aload_n (pc := 29) (j := 0) C dX8_equals_29 rfl rfl ?_
    refine z_getfield (pc := 30) (v := .int (iI q2)) C in_X8 rfl 1 (by decide) q1124 (fun _ z => z) hs2 rfl dX8_equals_30 ?_
    refine z_icmp_ne (pc := 33) (tgt := 51) C dX8_equals_33 (by decide) (by omega) (by omega) (fun c33 => ?_) (fun c33 => ?_)
    · refine z_iconst (pc := 51) C dX8_equals_51 ?_
      exact z_zreturn (pc := 52) C (by decide) (by rw [hXp]; exact zpure_i (by unfold scode; split <;> omega) rfl) dX8_equals_52
    · refine z_aload_n (pc := 36) (j := 1) C dX8_equals_36 rfl rfl ?_
      refine z_getfield (pc := 37) (v := .int (iI b)) C in_X8 rfl 2 (by decide) q1125 (fun _ z => z) hs rfl dX8_equals_37 ?_
      refine z_aload_n (pc := 40) (j := 0) C dX8_equals_40 rfl rfl ?_
      refine z_getfield (pc := 41) (v := .int (iI b2)) C in_X8 rfl 2 (by decide) q1125 (fun _ z => z) hs2 rfl dX8_equals_41 ?_
      refine z_icmp_ne (pc := 44) (tgt := 51) C dX8_equals_44 (by decide) (by omega) (by omega) (fun c44 => ?_) (fun c44 => ?_)
      · refine z_iconst (pc := 51) C dX8_equals_51 ?_
        exact z_zreturn (pc := 52) C (by decide) (by rw [hXp]; exact zpure_i (by unfold scode; split <;> omega) rfl) dX8_equals_52
      · refine z_iconst (pc := 47) C dX8_equals_47 ?_
        refine z_goto (pc := 48) (tgt := 52) C dX8_equals_48 (by decide) ?_
        exact z_zreturn (pc := 52) C (by decide) (by rw [hXp]; exact zpure_i (by unfold scode; split <;> omega) rfl) dX8_equals_52

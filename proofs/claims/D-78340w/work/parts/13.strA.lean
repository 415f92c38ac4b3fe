/-! 13.strA.lean.txt -/
set_option maxRecDepth 100000
abbrev cJ14_coder : ByteArray := prog_30_method_152_code
def yJ14_coder : MethodName := ⟨RJ14, "coder", "()B"⟩
def dkwJ14_coder_0 : List UInt8 := [178, 0, 38, 153, 0, 10, 42, 180, 0, 15, 167, 0, 4, 4, 172]
abbrev dktJ14_coder_0 : List UInt8 := dkwJ14_coder_0 ++ []
theorem dksJ14_coder_0 : cJ14_coder.data.toList.drop 0 = dktJ14_coder_0 := by decide +kernel
abbrev cJ14_isLatin1 : ByteArray := prog_30_method_154_code
def yJ14_isLatin1 : MethodName := ⟨RJ14, "isLatin1", "()Z"⟩
def dkwJ14_isLatin1_0 : List UInt8 := [178, 0, 38, 153, 0, 14, 42, 180, 0, 15, 154, 0, 7, 4, 167, 0, 4, 3, 172]
abbrev dktJ14_isLatin1_0 : List UInt8 := dkwJ14_isLatin1_0 ++ []
theorem dksJ14_isLatin1_0 : cJ14_isLatin1.data.toList.drop 0 = dktJ14_isLatin1_0 := by decide +kernel
abbrev cJ14_length : ByteArray := prog_30_method_54_code
def yJ14_length : MethodName := ⟨RJ14, "length", "()I"⟩
def dkwJ14_length_0 : List UInt8 := [42, 180, 0, 9, 190, 42, 182, 1, 79, 122, 172]
abbrev dktJ14_length_0 : List UInt8 := dkwJ14_length_0 ++ []
theorem dksJ14_length_0 : cJ14_length.data.toList.drop 0 = dktJ14_length_0 := by decide +kernel
def RJ17 : String := "jdk/internal/util/Preconditions"
abbrev cJ17_checkIndex : ByteArray := prog_63_method_11_code
def yJ17_checkIndex : MethodName := ⟨RJ17, "checkIndex", "(IILjava/util/function/BiFunction;)I"⟩
def dkwJ17_checkIndex_0 : List UInt8 := [26, 155, 0, 8, 26, 27, 161, 0, 10, 44, 26, 27, 184, 0, 95, 191, 26, 172]
abbrev dktJ17_checkIndex_0 : List UInt8 := dkwJ17_checkIndex_0 ++ []
theorem dksJ17_checkIndex_0 : cJ17_checkIndex.data.toList.drop 0 = dktJ17_checkIndex_0 := by decide +kernel
def RJ23 : String := "java/util/Objects"
abbrev cJ23_checkIndex : ByteArray := prog_55_method_17_code
def yJ23_checkIndex : MethodName := ⟨RJ23, "checkIndex", "(II)I"⟩
def dkwJ23_checkIndex_0 : List UInt8 := [26, 27, 1, 184, 0, 105, 172]
abbrev dktJ23_checkIndex_0 : List UInt8 := dkwJ23_checkIndex_0 ++ []
theorem dksJ23_checkIndex_0 : cJ23_checkIndex.data.toList.drop 0 = dktJ23_checkIndex_0 := by decide +kernel
abbrev cJ14_checkIndex : ByteArray := prog_30_method_155_code
def yJ14_checkIndex : MethodName := ⟨RJ14, "checkIndex", "(II)V"⟩
def dkwJ14_checkIndex_0 : List UInt8 := [26, 27, 178, 4, 29, 184, 4, 35, 87, 177]
abbrev dktJ14_checkIndex_0 : List UInt8 := dkwJ14_checkIndex_0 ++ []
theorem dksJ14_checkIndex_0 : cJ14_checkIndex.data.toList.drop 0 = dktJ14_checkIndex_0 := by decide +kernel
def RJ16 : String := "java/lang/StringLatin1"
abbrev cJ16_charAt : ByteArray := prog_33_method_2_code
def yJ16_charAt : MethodName := ⟨RJ16, "charAt", "([BI)C"⟩
def dkwJ16_charAt_0 : List UInt8 := [27, 42, 190, 184, 0, 9, 42, 27, 51, 17, 0, 255, 126, 146, 172]
abbrev dktJ16_charAt_0 : List UInt8 := dkwJ16_charAt_0 ++ []
theorem dksJ16_charAt_0 : cJ16_charAt.data.toList.drop 0 = dktJ16_charAt_0 := by decide +kernel
abbrev cJ14_charAt : ByteArray := prog_30_method_56_code
def yJ14_charAt : MethodName := ⟨RJ14, "charAt", "(I)C"⟩
def dkwJ14_charAt_1 : List UInt8 := [172]
abbrev dktJ14_charAt_1 : List UInt8 := dkwJ14_charAt_1 ++ []
def dkwJ14_charAt_0 : List UInt8 := [42, 182, 1, 236, 153, 0, 12, 42, 180, 0, 9, 27, 184, 1, 239, 172, 42, 180, 0, 9, 27, 184, 1, 242]
abbrev dktJ14_charAt_0 : List UInt8 := dkwJ14_charAt_0 ++ dktJ14_charAt_1
theorem dksJ14_charAt_0 : cJ14_charAt.data.toList.drop 0 = dktJ14_charAt_0 := by decide +kernel
theorem dksJ14_charAt_1 : cJ14_charAt.data.toList.drop 24 = dktJ14_charAt_1 := dk_seg dksJ14_charAt_0 24 rfl rfl
abbrev cJ16_canEncode_2 : ByteArray := prog_33_method_3_code
def yJ16_canEncode_2 : MethodName := ⟨RJ16, "canEncode", "(C)Z"⟩
def dkwJ16_canEncode_2_0 : List UInt8 := [26, 17, 0, 255, 163, 0, 7, 4, 167, 0, 4, 3, 172]
abbrev dktJ16_canEncode_2_0 : List UInt8 := dkwJ16_canEncode_2_0 ++ []
theorem dksJ16_canEncode_2_0 : cJ16_canEncode_2.data.toList.drop 0 = dktJ16_canEncode_2_0 := by decide +kernel
abbrev cJ16_canEncode : ByteArray := prog_33_method_4_code
def yJ16_canEncode : MethodName := ⟨RJ16, "canEncode", "(I)Z"⟩
def dkwJ16_canEncode_0 : List UInt8 := [26, 155, 0, 14, 26, 17, 0, 255, 163, 0, 7, 4, 167, 0, 4, 3, 172]
abbrev dktJ16_canEncode_0 : List UInt8 := dkwJ16_canEncode_0 ++ []
theorem dksJ16_canEncode_0 : cJ16_canEncode.data.toList.drop 0 = dktJ16_canEncode_0 := by decide +kernel
def RJ12 : String := "java/lang/AbstractStringBuilder"
abbrev cJ12_isLatin1 : ByteArray := prog_13_method_68_code
def yJ12_isLatin1 : MethodName := ⟨RJ12, "isLatin1", "()Z"⟩
def dkwJ12_isLatin1_0 : List UInt8 := [178, 0, 18, 153, 0, 14, 42, 180, 0, 22, 154, 0, 7, 4, 167, 0, 4, 3, 172]
abbrev dktJ12_isLatin1_0 : List UInt8 := dkwJ12_isLatin1_0 ++ []
theorem dksJ12_isLatin1_0 : cJ12_isLatin1.data.toList.drop 0 = dktJ12_isLatin1_0 := by decide +kernel
abbrev cJ12_getValue : ByteArray := prog_13_method_64_code
def yJ12_getValue : MethodName := ⟨RJ12, "getValue", "()[B"⟩
abbrev cJ12_length : ByteArray := prog_13_method_6_code
def yJ12_length : MethodName := ⟨RJ12, "length", "()I"⟩
abbrev cJ13_length : ByteArray := prog_31_method_93_code
def yJ13_length : MethodName := ⟨RJ13, "length", "()I"⟩
def RJ4 : String := "jdk/internal/util/ArraysSupport"
abbrev cJ4_newLength : ByteArray := prog_62_method_27_code
def yJ4_newLength : MethodName := ⟨RJ4, "newLength", "(III)I"⟩
def dkwJ4_newLength_1 : List UInt8 := [184, 0, 201, 172]
abbrev dktJ4_newLength_1 : List UInt8 := dkwJ4_newLength_1 ++ []
def dkwJ4_newLength_0 : List UInt8 := [26, 27, 28, 184, 0, 194, 96, 62, 3, 29, 162, 0, 11, 29, 18, 200, 163, 0, 5, 29, 172, 26, 27]
abbrev dktJ4_newLength_0 : List UInt8 := dkwJ4_newLength_0 ++ dktJ4_newLength_1
theorem dksJ4_newLength_0 : cJ4_newLength.data.toList.drop 0 = dktJ4_newLength_0 := by decide +kernel
theorem dksJ4_newLength_1 : cJ4_newLength.data.toList.drop 23 = dktJ4_newLength_1 := dk_seg dksJ4_newLength_0 23 rfl rfl
abbrev cJ12_newCapacity : ByteArray := prog_13_method_10_code
def yJ12_newCapacity : MethodName := ⟨RJ12, "newCapacity", "(I)I"⟩
def dkwJ12_newCapacity_2 : List UInt8 := [183, 0, 124, 191, 21, 5, 42, 180, 0, 22, 122, 172]
abbrev dktJ12_newCapacity_2 : List UInt8 := dkwJ12_newCapacity_2 ++ []
def dkwJ12_newCapacity_1 : List UInt8 := [180, 0, 22, 120, 96, 184, 0, 114, 54, 5, 21, 5, 18, 39, 160, 0, 13, 187, 0, 120, 89, 18, 122]
abbrev dktJ12_newCapacity_1 : List UInt8 := dkwJ12_newCapacity_1 ++ dktJ12_newCapacity_2
def dkwJ12_newCapacity_0 : List UInt8 := [42, 180, 0, 15, 190, 61, 27, 42, 180, 0, 22, 120, 62, 29, 28, 100, 54, 4, 28, 21, 4, 28, 5, 42]
abbrev dktJ12_newCapacity_0 : List UInt8 := dkwJ12_newCapacity_0 ++ dktJ12_newCapacity_1
theorem dksJ12_newCapacity_0 : cJ12_newCapacity.data.toList.drop 0 = dktJ12_newCapacity_0 := by decide +kernel
theorem dksJ12_newCapacity_1 : cJ12_newCapacity.data.toList.drop 24 = dktJ12_newCapacity_1 := dk_seg dksJ12_newCapacity_0 24 rfl rfl
theorem dksJ12_newCapacity_2 : cJ12_newCapacity.data.toList.drop 47 = dktJ12_newCapacity_2 := dk_seg dksJ12_newCapacity_1 23 rfl rfl
def RJ6 : String := "java/util/Arrays"
abbrev cJ6_copyOf_3 : ByteArray := prog_45_method_121_code
def yJ6_copyOf_3 : MethodName := ⟨RJ6, "copyOf", "([BI)[B"⟩
def dkwJ6_copyOf_3_1 : List UInt8 := [27, 184, 1, 48, 184, 0, 150, 44, 176]
abbrev dktJ6_copyOf_3_1 : List UInt8 := dkwJ6_copyOf_3_1 ++ []
def dkwJ6_copyOf_3_0 : List UInt8 := [27, 42, 190, 160, 0, 11, 42, 182, 1, 54, 192, 1, 55, 176, 27, 188, 8, 77, 42, 3, 44, 3, 42, 190]
abbrev dktJ6_copyOf_3_0 : List UInt8 := dkwJ6_copyOf_3_0 ++ dktJ6_copyOf_3_1
theorem dksJ6_copyOf_3_0 : cJ6_copyOf_3.data.toList.drop 0 = dktJ6_copyOf_3_0 := by decide +kernel
theorem dksJ6_copyOf_3_1 : cJ6_copyOf_3.data.toList.drop 24 = dktJ6_copyOf_3_1 := dk_seg dksJ6_copyOf_3_0 24 rfl rfl
theorem dJ14_coder_0 : decode cJ14_coder 0 = .ok (.getstatic 38, 3) := dk_178 0 38 (dk_at dksJ14_coder_0 0 rfl rfl)
theorem dJ14_coder_3 : decode cJ14_coder 3 = .ok (.ifCond .eq 10, 3) := dk_153 0 10 (dk_at dksJ14_coder_0 3 rfl rfl)
theorem dJ14_coder_6 : decode cJ14_coder 6 = .ok (.aload_n 0, 1) := dk_42 (dk_at dksJ14_coder_0 6 rfl rfl)
theorem dJ14_coder_7 : decode cJ14_coder 7 = .ok (.getfield 15, 3) := dk_180 0 15 (dk_at dksJ14_coder_0 7 rfl rfl)
theorem dJ14_coder_10 : decode cJ14_coder 10 = .ok (.goto 4, 3) := dk_167 0 4 (dk_at dksJ14_coder_0 10 rfl rfl)
theorem dJ14_coder_14 : decode cJ14_coder 14 = .ok (.ireturn, 1) := dk_172 (dk_at dksJ14_coder_0 14 rfl rfl)
theorem dJ14_isLatin1_0 : decode cJ14_isLatin1 0 = .ok (.getstatic 38, 3) := dk_178 0 38 (dk_at dksJ14_isLatin1_0 0 rfl rfl)
theorem dJ14_isLatin1_3 : decode cJ14_isLatin1 3 = .ok (.ifCond .eq 14, 3) := dk_153 0 14 (dk_at dksJ14_isLatin1_0 3 rfl rfl)
theorem dJ14_isLatin1_6 : decode cJ14_isLatin1 6 = .ok (.aload_n 0, 1) := dk_42 (dk_at dksJ14_isLatin1_0 6 rfl rfl)
theorem dJ14_isLatin1_7 : decode cJ14_isLatin1 7 = .ok (.getfield 15, 3) := dk_180 0 15 (dk_at dksJ14_isLatin1_0 7 rfl rfl)
theorem dJ14_isLatin1_10 : decode cJ14_isLatin1 10 = .ok (.ifCond .ne 7, 3) := dk_154 0 7 (dk_at dksJ14_isLatin1_0 10 rfl rfl)
theorem dJ14_isLatin1_13 : decode cJ14_isLatin1 13 = .ok (.iconst 1, 1) := dk_4 (dk_at dksJ14_isLatin1_0 13 rfl rfl)
theorem dJ14_isLatin1_14 : decode cJ14_isLatin1 14 = .ok (.goto 4, 3) := dk_167 0 4 (dk_at dksJ14_isLatin1_0 14 rfl rfl)
theorem dJ14_isLatin1_18 : decode cJ14_isLatin1 18 = .ok (.ireturn, 1) := dk_172 (dk_at dksJ14_isLatin1_0 18 rfl rfl)
theorem dJ14_length_0 : decode cJ14_length 0 = .ok (.aload_n 0, 1) := dk_42 (dk_at dksJ14_length_0 0 rfl rfl)
theorem dJ14_length_1 : decode cJ14_length 1 = .ok (.getfield 9, 3) := dk_180 0 9 (dk_at dksJ14_length_0 1 rfl rfl)
theorem dJ14_length_4 : decode cJ14_length 4 = .ok (.arraylength, 1) := dk_190 (dk_at dksJ14_length_0 4 rfl rfl)
theorem dJ14_length_5 : decode cJ14_length 5 = .ok (.aload_n 0, 1) := dk_42 (dk_at dksJ14_length_0 5 rfl rfl)
theorem dJ14_length_6 : decode cJ14_length 6 = .ok (.invokevirtual 335, 3) := dk_182 1 79 (dk_at dksJ14_length_0 6 rfl rfl)
theorem dJ14_length_9 : decode cJ14_length 9 = .ok (.ishr, 1) := dk_122 (dk_at dksJ14_length_0 9 rfl rfl)
theorem dJ14_length_10 : decode cJ14_length 10 = .ok (.ireturn, 1) := dk_172 (dk_at dksJ14_length_0 10 rfl rfl)
theorem dJ17_checkIndex_0 : decode cJ17_checkIndex 0 = .ok (.iload_n 0, 1) := dk_26 (dk_at dksJ17_checkIndex_0 0 rfl rfl)
theorem dJ17_checkIndex_1 : decode cJ17_checkIndex 1 = .ok (.ifCond .lt 8, 3) := dk_155 0 8 (dk_at dksJ17_checkIndex_0 1 rfl rfl)
theorem dJ17_checkIndex_4 : decode cJ17_checkIndex 4 = .ok (.iload_n 0, 1) := dk_26 (dk_at dksJ17_checkIndex_0 4 rfl rfl)
theorem dJ17_checkIndex_5 : decode cJ17_checkIndex 5 = .ok (.iload_n 1, 1) := dk_27 (dk_at dksJ17_checkIndex_0 5 rfl rfl)
theorem dJ17_checkIndex_6 : decode cJ17_checkIndex 6 = .ok (.if_icmp .lt 10, 3) := dk_161 0 10 (dk_at dksJ17_checkIndex_0 6 rfl rfl)
theorem dJ17_checkIndex_16 : decode cJ17_checkIndex 16 = .ok (.iload_n 0, 1) := dk_26 (dk_at dksJ17_checkIndex_0 16 rfl rfl)
theorem dJ17_checkIndex_17 : decode cJ17_checkIndex 17 = .ok (.ireturn, 1) := dk_172 (dk_at dksJ17_checkIndex_0 17 rfl rfl)
theorem dJ23_checkIndex_0 : decode cJ23_checkIndex 0 = .ok (.iload_n 0, 1) := dk_26 (dk_at dksJ23_checkIndex_0 0 rfl rfl)
theorem dJ23_checkIndex_1 : decode cJ23_checkIndex 1 = .ok (.iload_n 1, 1) := dk_27 (dk_at dksJ23_checkIndex_0 1 rfl rfl)
theorem dJ23_checkIndex_2 : decode cJ23_checkIndex 2 = .ok (.aconst_null, 1) := dk_1 (dk_at dksJ23_checkIndex_0 2 rfl rfl)
theorem dJ23_checkIndex_3 : decode cJ23_checkIndex 3 = .ok (.invokestatic 105, 3) := dk_184 0 105 (dk_at dksJ23_checkIndex_0 3 rfl rfl)
theorem dJ23_checkIndex_6 : decode cJ23_checkIndex 6 = .ok (.ireturn, 1) := dk_172 (dk_at dksJ23_checkIndex_0 6 rfl rfl)
theorem dJ14_checkIndex_0 : decode cJ14_checkIndex 0 = .ok (.iload_n 0, 1) := dk_26 (dk_at dksJ14_checkIndex_0 0 rfl rfl)
theorem dJ14_checkIndex_1 : decode cJ14_checkIndex 1 = .ok (.iload_n 1, 1) := dk_27 (dk_at dksJ14_checkIndex_0 1 rfl rfl)
theorem dJ14_checkIndex_2 : decode cJ14_checkIndex 2 = .ok (.getstatic 1053, 3) := dk_178 4 29 (dk_at dksJ14_checkIndex_0 2 rfl rfl)
theorem dJ14_checkIndex_5 : decode cJ14_checkIndex 5 = .ok (.invokestatic 1059, 3) := dk_184 4 35 (dk_at dksJ14_checkIndex_0 5 rfl rfl)
theorem dJ14_checkIndex_8 : decode cJ14_checkIndex 8 = .ok (.pop, 1) := dk_87 (dk_at dksJ14_checkIndex_0 8 rfl rfl)
theorem dJ14_checkIndex_9 : decode cJ14_checkIndex 9 = .ok (.return_, 1) := dk_177 (dk_at dksJ14_checkIndex_0 9 rfl rfl)
theorem dJ16_charAt_0 : decode cJ16_charAt 0 = .ok (.iload_n 1, 1) := dk_27 (dk_at dksJ16_charAt_0 0 rfl rfl)
theorem dJ16_charAt_1 : decode cJ16_charAt 1 = .ok (.aload_n 0, 1) := dk_42 (dk_at dksJ16_charAt_0 1 rfl rfl)
theorem dJ16_charAt_2 : decode cJ16_charAt 2 = .ok (.arraylength, 1) := dk_190 (dk_at dksJ16_charAt_0 2 rfl rfl)
theorem dJ16_charAt_3 : decode cJ16_charAt 3 = .ok (.invokestatic 9, 3) := dk_184 0 9 (dk_at dksJ16_charAt_0 3 rfl rfl)
theorem dJ16_charAt_6 : decode cJ16_charAt 6 = .ok (.aload_n 0, 1) := dk_42 (dk_at dksJ16_charAt_0 6 rfl rfl)
theorem dJ16_charAt_7 : decode cJ16_charAt 7 = .ok (.iload_n 1, 1) := dk_27 (dk_at dksJ16_charAt_0 7 rfl rfl)
theorem dJ16_charAt_8 : decode cJ16_charAt 8 = .ok (.baload, 1) := dk_51 (dk_at dksJ16_charAt_0 8 rfl rfl)
theorem dJ16_charAt_9 : decode cJ16_charAt 9 = .ok (.sipush 255, 3) := dk_17 0 255 (dk_at dksJ16_charAt_0 9 rfl rfl)
theorem dJ16_charAt_12 : decode cJ16_charAt 12 = .ok (.iand, 1) := dk_126 (dk_at dksJ16_charAt_0 12 rfl rfl)
theorem dJ16_charAt_13 : decode cJ16_charAt 13 = .ok (.i2c, 1) := dk_146 (dk_at dksJ16_charAt_0 13 rfl rfl)
theorem dJ16_charAt_14 : decode cJ16_charAt 14 = .ok (.ireturn, 1) := dk_172 (dk_at dksJ16_charAt_0 14 rfl rfl)
theorem dJ14_charAt_0 : decode cJ14_charAt 0 = .ok (.aload_n 0, 1) := dk_42 (dk_at dksJ14_charAt_0 0 rfl rfl)
theorem dJ14_charAt_1 : decode cJ14_charAt 1 = .ok (.invokevirtual 492, 3) := dk_182 1 236 (dk_at dksJ14_charAt_0 1 rfl rfl)
theorem dJ14_charAt_4 : decode cJ14_charAt 4 = .ok (.ifCond .eq 12, 3) := dk_153 0 12 (dk_at dksJ14_charAt_0 4 rfl rfl)
theorem dJ14_charAt_7 : decode cJ14_charAt 7 = .ok (.aload_n 0, 1) := dk_42 (dk_at dksJ14_charAt_0 7 rfl rfl)
theorem dJ14_charAt_8 : decode cJ14_charAt 8 = .ok (.getfield 9, 3) := dk_180 0 9 (dk_at dksJ14_charAt_0 8 rfl rfl)
theorem dJ14_charAt_11 : decode cJ14_charAt 11 = .ok (.iload_n 1, 1) := dk_27 (dk_at dksJ14_charAt_0 11 rfl rfl)
theorem dJ14_charAt_12 : decode cJ14_charAt 12 = .ok (.invokestatic 495, 3) := dk_184 1 239 (dk_at dksJ14_charAt_0 12 rfl rfl)
theorem dJ14_charAt_15 : decode cJ14_charAt 15 = .ok (.ireturn, 1) := dk_172 (dk_at dksJ14_charAt_0 15 rfl rfl)
theorem dJ16_canEncode_2_0 : decode cJ16_canEncode_2 0 = .ok (.iload_n 0, 1) := dk_26 (dk_at dksJ16_canEncode_2_0 0 rfl rfl)
theorem dJ16_canEncode_2_1 : decode cJ16_canEncode_2 1 = .ok (.sipush 255, 3) := dk_17 0 255 (dk_at dksJ16_canEncode_2_0 1 rfl rfl)
theorem dJ16_canEncode_2_4 : decode cJ16_canEncode_2 4 = .ok (.if_icmp .gt 7, 3) := dk_163 0 7 (dk_at dksJ16_canEncode_2_0 4 rfl rfl)
theorem dJ16_canEncode_2_7 : decode cJ16_canEncode_2 7 = .ok (.iconst 1, 1) := dk_4 (dk_at dksJ16_canEncode_2_0 7 rfl rfl)
theorem dJ16_canEncode_2_8 : decode cJ16_canEncode_2 8 = .ok (.goto 4, 3) := dk_167 0 4 (dk_at dksJ16_canEncode_2_0 8 rfl rfl)
theorem dJ16_canEncode_2_12 : decode cJ16_canEncode_2 12 = .ok (.ireturn, 1) := dk_172 (dk_at dksJ16_canEncode_2_0 12 rfl rfl)
theorem dJ16_canEncode_0 : decode cJ16_canEncode 0 = .ok (.iload_n 0, 1) := dk_26 (dk_at dksJ16_canEncode_0 0 rfl rfl)
theorem dJ16_canEncode_1 : decode cJ16_canEncode 1 = .ok (.ifCond .lt 14, 3) := dk_155 0 14 (dk_at dksJ16_canEncode_0 1 rfl rfl)
theorem dJ16_canEncode_4 : decode cJ16_canEncode 4 = .ok (.iload_n 0, 1) := dk_26 (dk_at dksJ16_canEncode_0 4 rfl rfl)
theorem dJ16_canEncode_5 : decode cJ16_canEncode 5 = .ok (.sipush 255, 3) := dk_17 0 255 (dk_at dksJ16_canEncode_0 5 rfl rfl)
theorem dJ16_canEncode_8 : decode cJ16_canEncode 8 = .ok (.if_icmp .gt 7, 3) := dk_163 0 7 (dk_at dksJ16_canEncode_0 8 rfl rfl)
theorem dJ16_canEncode_11 : decode cJ16_canEncode 11 = .ok (.iconst 1, 1) := dk_4 (dk_at dksJ16_canEncode_0 11 rfl rfl)
theorem dJ16_canEncode_12 : decode cJ16_canEncode 12 = .ok (.goto 4, 3) := dk_167 0 4 (dk_at dksJ16_canEncode_0 12 rfl rfl)
theorem dJ16_canEncode_15 : decode cJ16_canEncode 15 = .ok (.iconst 0, 1) := dk_3 (dk_at dksJ16_canEncode_0 15 rfl rfl)
theorem dJ16_canEncode_16 : decode cJ16_canEncode 16 = .ok (.ireturn, 1) := dk_172 (dk_at dksJ16_canEncode_0 16 rfl rfl)
theorem dJ12_isLatin1_0 : decode cJ12_isLatin1 0 = .ok (.getstatic 18, 3) := dk_178 0 18 (dk_at dksJ12_isLatin1_0 0 rfl rfl)
theorem dJ12_isLatin1_3 : decode cJ12_isLatin1 3 = .ok (.ifCond .eq 14, 3) := dk_153 0 14 (dk_at dksJ12_isLatin1_0 3 rfl rfl)
theorem dJ12_isLatin1_6 : decode cJ12_isLatin1 6 = .ok (.aload_n 0, 1) := dk_42 (dk_at dksJ12_isLatin1_0 6 rfl rfl)
theorem dJ12_isLatin1_7 : decode cJ12_isLatin1 7 = .ok (.getfield 22, 3) := dk_180 0 22 (dk_at dksJ12_isLatin1_0 7 rfl rfl)
theorem dJ12_isLatin1_10 : decode cJ12_isLatin1 10 = .ok (.ifCond .ne 7, 3) := dk_154 0 7 (dk_at dksJ12_isLatin1_0 10 rfl rfl)
theorem dJ12_isLatin1_13 : decode cJ12_isLatin1 13 = .ok (.iconst 1, 1) := dk_4 (dk_at dksJ12_isLatin1_0 13 rfl rfl)
theorem dJ12_isLatin1_14 : decode cJ12_isLatin1 14 = .ok (.goto 4, 3) := dk_167 0 4 (dk_at dksJ12_isLatin1_0 14 rfl rfl)
theorem dJ12_isLatin1_18 : decode cJ12_isLatin1 18 = .ok (.ireturn, 1) := dk_172 (dk_at dksJ12_isLatin1_0 18 rfl rfl)
theorem dJ12_getValue_0 : decode cJ12_getValue 0 = .ok (.aload_n 0, 1) := by decide +kernel
theorem dJ12_getValue_1 : decode cJ12_getValue 1 = .ok (.getfield 15, 3) := by decide +kernel
theorem dJ12_getValue_4 : decode cJ12_getValue 4 = .ok (.areturn, 1) := by decide +kernel
theorem dJ12_length_0 : decode cJ12_length 0 = .ok (.aload_n 0, 1) := by decide +kernel
theorem dJ12_length_1 : decode cJ12_length 1 = .ok (.getfield 79, 3) := by decide +kernel
theorem dJ12_length_4 : decode cJ12_length 4 = .ok (.ireturn, 1) := by decide +kernel
theorem dJ13_length_0 : decode cJ13_length 0 = .ok (.aload_n 0, 1) := by decide +kernel
theorem dJ13_length_1 : decode cJ13_length 1 = .ok (.invokespecial 343, 3) := by decide +kernel
theorem dJ13_length_4 : decode cJ13_length 4 = .ok (.ireturn, 1) := by decide +kernel
theorem dJ4_newLength_0 : decode cJ4_newLength 0 = .ok (.iload_n 0, 1) := dk_26 (dk_at dksJ4_newLength_0 0 rfl rfl)
theorem dJ4_newLength_1 : decode cJ4_newLength 1 = .ok (.iload_n 1, 1) := dk_27 (dk_at dksJ4_newLength_0 1 rfl rfl)
theorem dJ4_newLength_2 : decode cJ4_newLength 2 = .ok (.iload_n 2, 1) := dk_28 (dk_at dksJ4_newLength_0 2 rfl rfl)
theorem dJ4_newLength_3 : decode cJ4_newLength 3 = .ok (.invokestatic 194, 3) := dk_184 0 194 (dk_at dksJ4_newLength_0 3 rfl rfl)
theorem dJ4_newLength_6 : decode cJ4_newLength 6 = .ok (.iadd, 1) := dk_96 (dk_at dksJ4_newLength_0 6 rfl rfl)
theorem dJ4_newLength_7 : decode cJ4_newLength 7 = .ok (.istore_n 3, 1) := dk_62 (dk_at dksJ4_newLength_0 7 rfl rfl)
theorem dJ4_newLength_8 : decode cJ4_newLength 8 = .ok (.iconst 0, 1) := dk_3 (dk_at dksJ4_newLength_0 8 rfl rfl)
theorem dJ4_newLength_9 : decode cJ4_newLength 9 = .ok (.iload_n 3, 1) := dk_29 (dk_at dksJ4_newLength_0 9 rfl rfl)
theorem dJ4_newLength_10 : decode cJ4_newLength 10 = .ok (.if_icmp .ge 11, 3) := dk_162 0 11 (dk_at dksJ4_newLength_0 10 rfl rfl)
theorem dJ4_newLength_13 : decode cJ4_newLength 13 = .ok (.iload_n 3, 1) := dk_29 (dk_at dksJ4_newLength_0 13 rfl rfl)
theorem dJ4_newLength_14 : decode cJ4_newLength 14 = .ok (.ldc 200, 2) := dk_18 200 (dk_at dksJ4_newLength_0 14 rfl rfl)
theorem dJ4_newLength_16 : decode cJ4_newLength 16 = .ok (.if_icmp .gt 5, 3) := dk_163 0 5 (dk_at dksJ4_newLength_0 16 rfl rfl)
theorem dJ4_newLength_19 : decode cJ4_newLength 19 = .ok (.iload_n 3, 1) := dk_29 (dk_at dksJ4_newLength_0 19 rfl rfl)
theorem dJ4_newLength_20 : decode cJ4_newLength 20 = .ok (.ireturn, 1) := dk_172 (dk_at dksJ4_newLength_0 20 rfl rfl)
theorem dJ12_newCapacity_0 : decode cJ12_newCapacity 0 = .ok (.aload_n 0, 1) := dk_42 (dk_at dksJ12_newCapacity_0 0 rfl rfl)
theorem dJ12_newCapacity_1 : decode cJ12_newCapacity 1 = .ok (.getfield 15, 3) := dk_180 0 15 (dk_at dksJ12_newCapacity_0 1 rfl rfl)
theorem dJ12_newCapacity_4 : decode cJ12_newCapacity 4 = .ok (.arraylength, 1) := dk_190 (dk_at dksJ12_newCapacity_0 4 rfl rfl)
theorem dJ12_newCapacity_5 : decode cJ12_newCapacity 5 = .ok (.istore_n 2, 1) := dk_61 (dk_at dksJ12_newCapacity_0 5 rfl rfl)
theorem dJ12_newCapacity_6 : decode cJ12_newCapacity 6 = .ok (.iload_n 1, 1) := dk_27 (dk_at dksJ12_newCapacity_0 6 rfl rfl)
theorem dJ12_newCapacity_7 : decode cJ12_newCapacity 7 = .ok (.aload_n 0, 1) := dk_42 (dk_at dksJ12_newCapacity_0 7 rfl rfl)
theorem dJ12_newCapacity_8 : decode cJ12_newCapacity 8 = .ok (.getfield 22, 3) := dk_180 0 22 (dk_at dksJ12_newCapacity_0 8 rfl rfl)
theorem dJ12_newCapacity_11 : decode cJ12_newCapacity 11 = .ok (.ishl, 1) := dk_120 (dk_at dksJ12_newCapacity_0 11 rfl rfl)
theorem dJ12_newCapacity_12 : decode cJ12_newCapacity 12 = .ok (.istore_n 3, 1) := dk_62 (dk_at dksJ12_newCapacity_0 12 rfl rfl)
theorem dJ12_newCapacity_13 : decode cJ12_newCapacity 13 = .ok (.iload_n 3, 1) := dk_29 (dk_at dksJ12_newCapacity_0 13 rfl rfl)
theorem dJ12_newCapacity_14 : decode cJ12_newCapacity 14 = .ok (.iload_n 2, 1) := dk_28 (dk_at dksJ12_newCapacity_0 14 rfl rfl)
theorem dJ12_newCapacity_15 : decode cJ12_newCapacity 15 = .ok (.isub, 1) := dk_100 (dk_at dksJ12_newCapacity_0 15 rfl rfl)
theorem dJ12_newCapacity_16 : decode cJ12_newCapacity 16 = .ok (.istore 4, 2) := dk_54 4 (dk_at dksJ12_newCapacity_0 16 rfl rfl)
theorem dJ12_newCapacity_18 : decode cJ12_newCapacity 18 = .ok (.iload_n 2, 1) := dk_28 (dk_at dksJ12_newCapacity_0 18 rfl rfl)
theorem dJ12_newCapacity_19 : decode cJ12_newCapacity 19 = .ok (.iload 4, 2) := dk_21 4 (dk_at dksJ12_newCapacity_0 19 rfl rfl)
theorem dJ12_newCapacity_21 : decode cJ12_newCapacity 21 = .ok (.iload_n 2, 1) := dk_28 (dk_at dksJ12_newCapacity_0 21 rfl rfl)
theorem dJ12_newCapacity_22 : decode cJ12_newCapacity 22 = .ok (.iconst 2, 1) := dk_5 (dk_at dksJ12_newCapacity_0 22 rfl rfl)
theorem dJ12_newCapacity_23 : decode cJ12_newCapacity 23 = .ok (.aload_n 0, 1) := dk_42 (dk_at dksJ12_newCapacity_0 23 rfl rfl)
theorem dJ12_newCapacity_24 : decode cJ12_newCapacity 24 = .ok (.getfield 22, 3) := dk_180 0 22 (dk_at dksJ12_newCapacity_1 0 rfl rfl)
theorem dJ12_newCapacity_27 : decode cJ12_newCapacity 27 = .ok (.ishl, 1) := dk_120 (dk_at dksJ12_newCapacity_1 3 rfl rfl)
theorem dJ12_newCapacity_28 : decode cJ12_newCapacity 28 = .ok (.iadd, 1) := dk_96 (dk_at dksJ12_newCapacity_1 4 rfl rfl)
theorem dJ12_newCapacity_29 : decode cJ12_newCapacity 29 = .ok (.invokestatic 114, 3) := dk_184 0 114 (dk_at dksJ12_newCapacity_1 5 rfl rfl)
theorem dJ12_newCapacity_32 : decode cJ12_newCapacity 32 = .ok (.istore 5, 2) := dk_54 5 (dk_at dksJ12_newCapacity_1 8 rfl rfl)
theorem dJ12_newCapacity_34 : decode cJ12_newCapacity 34 = .ok (.iload 5, 2) := dk_21 5 (dk_at dksJ12_newCapacity_1 10 rfl rfl)
theorem dJ12_newCapacity_36 : decode cJ12_newCapacity 36 = .ok (.ldc 39, 2) := dk_18 39 (dk_at dksJ12_newCapacity_1 12 rfl rfl)
theorem dJ12_newCapacity_38 : decode cJ12_newCapacity 38 = .ok (.if_icmp .ne 13, 3) := dk_160 0 13 (dk_at dksJ12_newCapacity_1 14 rfl rfl)
theorem dJ12_newCapacity_51 : decode cJ12_newCapacity 51 = .ok (.iload 5, 2) := dk_21 5 (dk_at dksJ12_newCapacity_2 4 rfl rfl)
theorem dJ12_newCapacity_53 : decode cJ12_newCapacity 53 = .ok (.aload_n 0, 1) := dk_42 (dk_at dksJ12_newCapacity_2 6 rfl rfl)
theorem dJ12_newCapacity_54 : decode cJ12_newCapacity 54 = .ok (.getfield 22, 3) := dk_180 0 22 (dk_at dksJ12_newCapacity_2 7 rfl rfl)
theorem dJ12_newCapacity_57 : decode cJ12_newCapacity 57 = .ok (.ishr, 1) := dk_122 (dk_at dksJ12_newCapacity_2 10 rfl rfl)
theorem dJ12_newCapacity_58 : decode cJ12_newCapacity 58 = .ok (.ireturn, 1) := dk_172 (dk_at dksJ12_newCapacity_2 11 rfl rfl)
theorem dJ6_copyOf_3_0 : decode cJ6_copyOf_3 0 = .ok (.iload_n 1, 1) := dk_27 (dk_at dksJ6_copyOf_3_0 0 rfl rfl)
theorem dJ6_copyOf_3_1 : decode cJ6_copyOf_3 1 = .ok (.aload_n 0, 1) := dk_42 (dk_at dksJ6_copyOf_3_0 1 rfl rfl)
theorem dJ6_copyOf_3_2 : decode cJ6_copyOf_3 2 = .ok (.arraylength, 1) := dk_190 (dk_at dksJ6_copyOf_3_0 2 rfl rfl)
theorem dJ6_copyOf_3_3 : decode cJ6_copyOf_3 3 = .ok (.if_icmp .ne 11, 3) := dk_160 0 11 (dk_at dksJ6_copyOf_3_0 3 rfl rfl)
theorem dJ6_copyOf_3_14 : decode cJ6_copyOf_3 14 = .ok (.iload_n 1, 1) := dk_27 (dk_at dksJ6_copyOf_3_0 14 rfl rfl)
theorem dJ6_copyOf_3_15 : decode cJ6_copyOf_3 15 = .ok (.newarray .byte, 2) := dk_188_8 (dk_at dksJ6_copyOf_3_0 15 rfl rfl)
theorem dJ6_copyOf_3_17 : decode cJ6_copyOf_3 17 = .ok (.astore_n 2, 1) := dk_77 (dk_at dksJ6_copyOf_3_0 17 rfl rfl)
theorem dJ6_copyOf_3_18 : decode cJ6_copyOf_3 18 = .ok (.aload_n 0, 1) := dk_42 (dk_at dksJ6_copyOf_3_0 18 rfl rfl)
theorem dJ6_copyOf_3_19 : decode cJ6_copyOf_3 19 = .ok (.iconst 0, 1) := dk_3 (dk_at dksJ6_copyOf_3_0 19 rfl rfl)
theorem dJ6_copyOf_3_20 : decode cJ6_copyOf_3 20 = .ok (.aload_n 2, 1) := dk_44 (dk_at dksJ6_copyOf_3_0 20 rfl rfl)
theorem dJ6_copyOf_3_21 : decode cJ6_copyOf_3 21 = .ok (.iconst 0, 1) := dk_3 (dk_at dksJ6_copyOf_3_0 21 rfl rfl)
theorem dJ6_copyOf_3_22 : decode cJ6_copyOf_3 22 = .ok (.aload_n 0, 1) := dk_42 (dk_at dksJ6_copyOf_3_0 22 rfl rfl)
theorem dJ6_copyOf_3_23 : decode cJ6_copyOf_3 23 = .ok (.arraylength, 1) := dk_190 (dk_at dksJ6_copyOf_3_0 23 rfl rfl)
theorem dJ6_copyOf_3_24 : decode cJ6_copyOf_3 24 = .ok (.iload_n 1, 1) := dk_27 (dk_at dksJ6_copyOf_3_1 0 rfl rfl)
theorem dJ6_copyOf_3_25 : decode cJ6_copyOf_3 25 = .ok (.invokestatic 304, 3) := dk_184 1 48 (dk_at dksJ6_copyOf_3_1 1 rfl rfl)
theorem dJ6_copyOf_3_28 : decode cJ6_copyOf_3 28 = .ok (.invokestatic 150, 3) := dk_184 0 150 (dk_at dksJ6_copyOf_3_1 4 rfl rfl)
theorem dJ6_copyOf_3_31 : decode cJ6_copyOf_3 31 = .ok (.aload_n 2, 1) := dk_44 (dk_at dksJ6_copyOf_3_1 7 rfl rfl)
theorem dJ6_copyOf_3_32 : decode cJ6_copyOf_3 32 = .ok (.areturn, 1) := dk_176 (dk_at dksJ6_copyOf_3_1 8 rfl rfl)
theorem q220 : (Jvm.Cond.static ({ cls := "jdk/internal/util/ArraysSupport", name := "newLength", desc := "(III)I" } : Jvm.MethodName)) ∈ lw_all := lw_g (lw_at lw_m1 158 rfl) rfl
theorem q221 : (Jvm.Cond.code ({ cls := "jdk/internal/util/ArraysSupport", name := "newLength", desc := "(III)I" } : Jvm.MethodName) prog_62_method_27_code (4 : Nat) (Option.some Jvm.ClassFile.FieldType.int)) ∈ lw_all := lw_g (lw_at lw_m1 159 rfl) rfl
theorem q222 : (Jvm.Cond.methodLink "jdk/internal/util/ArraysSupport" (194 : Nat) ({ cls := "java/lang/Math", name := "max", desc := "(II)I" } : Jvm.MethodName)) ∈ lw_all := lw_g (lw_at lw_m1 160 rfl) rfl
theorem q223 : (Jvm.Cond.static ({ cls := "java/lang/Math", name := "max", desc := "(II)I" } : Jvm.MethodName)) ∈ lw_all := lw_g (lw_at lw_m1 161 rfl) rfl
theorem q224 : (Jvm.Cond.code ({ cls := "java/lang/Math", name := "max", desc := "(II)I" } : Jvm.MethodName) prog_27_method_65_code (2 : Nat) (Option.some Jvm.ClassFile.FieldType.int)) ∈ lw_all := lw_g (lw_at lw_m1 162 rfl) rfl
theorem q225 : (Jvm.Cond.constant "jdk/internal/util/ArraysSupport" (200 : Nat) (2147483639 : Int32)) ∈ lw_all := lw_g (lw_at lw_m1 163 rfl) rfl
theorem q2479 : (Jvm.Cond.sameMethod "java/lang/AbstractStringBuilder" "java/lang/AbstractStringBuilder" "length" "()I") ∈ lw_all := lw_g (lw_at lw_m11 17 rfl) rfl
theorem q265 : (Jvm.Cond.methodLink "java/util/Arrays" (304 : Nat) ({ cls := "java/lang/Math", name := "min", desc := "(II)I" } : Jvm.MethodName)) ∈ lw_all := lw_g (lw_at lw_m1 203 rfl) rfl
theorem q266 : (Jvm.Cond.static ({ cls := "java/lang/Math", name := "min", desc := "(II)I" } : Jvm.MethodName)) ∈ lw_all := lw_g (lw_at lw_m1 204 rfl) rfl
theorem q267 : (Jvm.Cond.code ({ cls := "java/lang/Math", name := "min", desc := "(II)I" } : Jvm.MethodName) prog_27_method_69_code (2 : Nat) (Option.some Jvm.ClassFile.FieldType.int)) ∈ lw_all := lw_g (lw_at lw_m1 205 rfl) rfl
theorem q268 : (Jvm.Cond.methodLink "java/util/Arrays" (150 : Nat) ({ cls := "java/lang/System", name := "arraycopy", desc := "(Ljava/lang/Object;ILjava/lang/Object;II)V" } : Jvm.MethodName)) ∈ lw_all := lw_g (lw_at lw_m1 206 rfl) rfl
theorem q269 : (Jvm.Cond.static ({ cls := "java/lang/System", name := "arraycopy", desc := "(Ljava/lang/Object;ILjava/lang/Object;II)V" } : Jvm.MethodName)) ∈ lw_all := lw_g (lw_at lw_m1 207 rfl) rfl
theorem q270 : (Jvm.Cond.native ({ cls := "java/lang/System", name := "arraycopy", desc := "(Ljava/lang/Object;ILjava/lang/Object;II)V" } : Jvm.MethodName)) ∈ lw_all := lw_g (lw_at lw_m1 208 rfl) rfl
theorem q299 : (Jvm.Cond.arrayClass Jvm.ClassFile.FieldType.byte) ∈ lw_all := lw_g (lw_at lw_m1 237 rfl) rfl
theorem q339 : (Jvm.Cond.fieldLink "java/lang/AbstractStringBuilder" (18 : Nat) "java/lang/String" "COMPACT_STRINGS" "Z") ∈ lw_all := lw_g (lw_at lw_m2 37 rfl) rfl
theorem q348 : (Jvm.Cond.fieldLink "java/lang/AbstractStringBuilder" (15 : Nat) "java/lang/AbstractStringBuilder" "value" "[B") ∈ lw_all := lw_g (lw_at lw_m2 46 rfl) rfl
theorem q349 : (Jvm.Cond.fieldLink "java/lang/AbstractStringBuilder" (22 : Nat) "java/lang/AbstractStringBuilder" "coder" "B") ∈ lw_all := lw_g (lw_at lw_m2 47 rfl) rfl
theorem q352 : (Jvm.Cond.fieldLink "java/lang/AbstractStringBuilder" (79 : Nat) "java/lang/AbstractStringBuilder" "count" "I") ∈ lw_all := lw_g (lw_at lw_m2 50 rfl) rfl
theorem q361 : (Jvm.Cond.superclass "java/lang/StringBuilder" "java/lang/AbstractStringBuilder") ∈ lw_all := lw_g (lw_at lw_m2 59 rfl) rfl
theorem q442 : (Jvm.Cond.methodLink "java/lang/StringBuilder" (343 : Nat) ({ cls := "java/lang/AbstractStringBuilder", name := "length", desc := "()I" } : Jvm.MethodName)) ∈ lw_all := lw_g (lw_at lw_m2 140 rfl) rfl
theorem q443 : (Jvm.Cond.instanceMethod ({ cls := "java/lang/AbstractStringBuilder", name := "length", desc := "()I" } : Jvm.MethodName)) ∈ lw_all := lw_g (lw_at lw_m2 141 rfl) rfl
theorem q444 : (Jvm.Cond.code ({ cls := "java/lang/AbstractStringBuilder", name := "length", desc := "()I" } : Jvm.MethodName) prog_13_method_6_code (1 : Nat) (Option.some Jvm.ClassFile.FieldType.int)) ∈ lw_all := lw_g (lw_at lw_m2 142 rfl) rfl
theorem q462 : (Jvm.Cond.methodLink "java/lang/String" (492 : Nat) ({ cls := "java/lang/String", name := "isLatin1", desc := "()Z" } : Jvm.MethodName)) ∈ lw_all := lw_g (lw_at lw_m2 160 rfl) rfl
theorem q463 : (Jvm.Cond.instanceMethod ({ cls := "java/lang/String", name := "isLatin1", desc := "()Z" } : Jvm.MethodName)) ∈ lw_all := lw_g (lw_at lw_m2 161 rfl) rfl
theorem q464 : (Jvm.Cond.selects "java/lang/String" ({ cls := "java/lang/String", name := "isLatin1", desc := "()Z" } : Jvm.MethodName) ({ cls := "java/lang/String", name := "isLatin1", desc := "()Z" } : Jvm.MethodName)) ∈ lw_all := lw_g (lw_at lw_m2 162 rfl) rfl
theorem q465 : (Jvm.Cond.code ({ cls := "java/lang/String", name := "isLatin1", desc := "()Z" } : Jvm.MethodName) prog_30_method_154_code (1 : Nat) (Option.some Jvm.ClassFile.FieldType.boolean)) ∈ lw_all := lw_g (lw_at lw_m2 163 rfl) rfl
theorem q466 : (Jvm.Cond.fieldLink "java/lang/String" (38 : Nat) "java/lang/String" "COMPACT_STRINGS" "Z") ∈ lw_all := lw_g (lw_at lw_m2 164 rfl) rfl
theorem q471 : (Jvm.Cond.methodLink "java/lang/String" (335 : Nat) ({ cls := "java/lang/String", name := "coder", desc := "()B" } : Jvm.MethodName)) ∈ lw_all := lw_g (lw_at lw_m2 169 rfl) rfl
theorem q472 : (Jvm.Cond.instanceMethod ({ cls := "java/lang/String", name := "coder", desc := "()B" } : Jvm.MethodName)) ∈ lw_all := lw_g (lw_at lw_m2 170 rfl) rfl
theorem q473 : (Jvm.Cond.selects "java/lang/String" ({ cls := "java/lang/String", name := "coder", desc := "()B" } : Jvm.MethodName) ({ cls := "java/lang/String", name := "coder", desc := "()B" } : Jvm.MethodName)) ∈ lw_all := lw_g (lw_at lw_m2 171 rfl) rfl
theorem q474 : (Jvm.Cond.code ({ cls := "java/lang/String", name := "coder", desc := "()B" } : Jvm.MethodName) prog_30_method_152_code (1 : Nat) (Option.some Jvm.ClassFile.FieldType.byte)) ∈ lw_all := lw_g (lw_at lw_m2 172 rfl) rfl
theorem q504 : (Jvm.Cond.fieldLink "java/lang/String" (1053 : Nat) "jdk/internal/util/Preconditions" "SIOOBE_FORMATTER" "Ljava/util/function/BiFunction;") ∈ lw_all := lw_g (lw_at lw_m2 202 rfl) rfl
theorem q564 : (Jvm.Cond.methodLink "java/lang/String" (495 : Nat) ({ cls := "java/lang/StringLatin1", name := "charAt", desc := "([BI)C" } : Jvm.MethodName)) ∈ lw_all := lw_g (lw_at lw_m3 22 rfl) rfl
theorem q565 : (Jvm.Cond.static ({ cls := "java/lang/StringLatin1", name := "charAt", desc := "([BI)C" } : Jvm.MethodName)) ∈ lw_all := lw_g (lw_at lw_m3 23 rfl) rfl
theorem q566 : (Jvm.Cond.code ({ cls := "java/lang/StringLatin1", name := "charAt", desc := "([BI)C" } : Jvm.MethodName) prog_33_method_2_code (2 : Nat) (Option.some Jvm.ClassFile.FieldType.char)) ∈ lw_all := lw_g (lw_at lw_m3 24 rfl) rfl
theorem q567 : (Jvm.Cond.methodLink "java/lang/StringLatin1" (9 : Nat) ({ cls := "java/lang/String", name := "checkIndex", desc := "(II)V" } : Jvm.MethodName)) ∈ lw_all := lw_g (lw_at lw_m3 25 rfl) rfl
theorem q568 : (Jvm.Cond.static ({ cls := "java/lang/String", name := "checkIndex", desc := "(II)V" } : Jvm.MethodName)) ∈ lw_all := lw_g (lw_at lw_m3 26 rfl) rfl
theorem q569 : (Jvm.Cond.code ({ cls := "java/lang/String", name := "checkIndex", desc := "(II)V" } : Jvm.MethodName) prog_30_method_155_code (2 : Nat) (Option.none : Option Jvm.ClassFile.FieldType)) ∈ lw_all := lw_g (lw_at lw_m3 27 rfl) rfl
theorem q570 : (Jvm.Cond.methodLink "java/lang/String" (1059 : Nat) ({ cls := "jdk/internal/util/Preconditions", name := "checkIndex", desc := "(IILjava/util/function/BiFunction;)I" } : Jvm.MethodName)) ∈ lw_all := lw_g (lw_at lw_m3 28 rfl) rfl
theorem q571 : (Jvm.Cond.static ({ cls := "jdk/internal/util/Preconditions", name := "checkIndex", desc := "(IILjava/util/function/BiFunction;)I" } : Jvm.MethodName)) ∈ lw_all := lw_g (lw_at lw_m3 29 rfl) rfl
theorem q572 : (Jvm.Cond.code ({ cls := "jdk/internal/util/Preconditions", name := "checkIndex", desc := "(IILjava/util/function/BiFunction;)I" } : Jvm.MethodName) prog_63_method_11_code (3 : Nat) (Option.some Jvm.ClassFile.FieldType.int)) ∈ lw_all := lw_g (lw_at lw_m3 30 rfl) rfl
theorem q681 : (Jvm.Cond.methodLink "java/lang/AbstractStringBuilder" (114 : Nat) ({ cls := "jdk/internal/util/ArraysSupport", name := "newLength", desc := "(III)I" } : Jvm.MethodName)) ∈ lw_all := lw_g (lw_at lw_m3 139 rfl) rfl
theorem q682 : (Jvm.Cond.constant "java/lang/AbstractStringBuilder" (39 : Nat) (2147483647 : Int32)) ∈ lw_all := lw_g (lw_at lw_m3 140 rfl) rfl
theorem q70 : (Jvm.Cond.initialized "jdk/internal/util/ArraysSupport") ∈ lw_all := lw_g (lw_at lw_m1 8 rfl) rfl
theorem q71 : (Jvm.Cond.initialized "java/lang/Math") ∈ lw_all := lw_g (lw_at lw_m1 9 rfl) rfl
theorem q73 : (Jvm.Cond.initialized "java/lang/System") ∈ lw_all := lw_g (lw_at lw_m1 11 rfl) rfl
theorem q787 : (Jvm.Cond.fieldLink "java/lang/String" (9 : Nat) "java/lang/String" "value" "[B") ∈ lw_all := lw_g (lw_at lw_m4 5 rfl) rfl
theorem q788 : (Jvm.Cond.fieldLink "java/lang/String" (15 : Nat) "java/lang/String" "coder" "B") ∈ lw_all := lw_g (lw_at lw_m4 6 rfl) rfl
theorem q81 : (Jvm.Cond.initialized "java/lang/AbstractStringBuilder") ∈ lw_all := lw_g (lw_at lw_m1 19 rfl) rfl
theorem q83 : (Jvm.Cond.initialized "java/lang/String") ∈ lw_all := lw_g (lw_at lw_m1 21 rfl) rfl
theorem q86 : (Jvm.Cond.initialized "java/lang/StringLatin1") ∈ lw_all := lw_g (lw_at lw_m1 24 rfl) rfl
theorem q87 : (Jvm.Cond.initialized "jdk/internal/util/Preconditions") ∈ lw_all := lw_g (lw_at lw_m1 25 rfl) rfl
theorem q910 : (Jvm.Cond.methodLink "java/util/Objects" (105 : Nat) ({ cls := "jdk/internal/util/Preconditions", name := "checkIndex", desc := "(IILjava/util/function/BiFunction;)I" } : Jvm.MethodName)) ∈ lw_all := lw_g (lw_at lw_m4 128 rfl) rfl
theorem zup_zup {h : zH} {a : Nat} {x y : zX} : zup (zup h a x) a y = zup h a y := by
  funext j
  unfold zup
  split <;> rfl
set_option maxHeartbeats 4000000 in
theorem ct_S_coder {l : Launch} (hl : l.stackTraces = false) {Γ : zCx} {h : zH} {a v : Nat} {fl : Bool} {x y : Value} (ha : h a = some (fl, .inr (13, [.ref v, .int (iI 0), x, y])))  : zMet l yJ14_coder (ws_ yJ14_coder cJ14_coder 1 (some .byte)) ({ frames := 0, cells := 0, slots := 0, locals := 0 }) Γ h [.ref a] (zpure h (some (.int (iI 0)))) 0 0 := by
  refine zMet.of (cc := cJ14_coder) hl (plainFor_of_name (by decide +kernel)) (Nat.le_of_ble_eq_true rfl) ?_
  intro X hXl hXΓ hXp C hnm hnL
  have C : zC X cJ14_coder RJ14 (some .byte) 0 0 [] := C
  have hnL : X.2.1.2.2.2.2 = 1 := hnL
  subst hXl hXΓ
  show Z X h 0 0 [(0, .ref a)] 0 []
  refine z_compact (pc := 0) C q466 dJ14_coder_0 ?_
  refine z_if_eq (pc := 3) (tgt := 13) C dJ14_coder_3 (by decide) (by decide) (fun z => absurd z (by decide)) (fun _ => ?_)
  refine z_aload_n (pc := 6) (j := 0) C dJ14_coder_6 rfl rfl ?_
  refine z_getfield (pc := 7) (v := .int (iI 0)) C in_J14 rfl 1 (by decide) q788 (fun _ z => z) ha rfl dJ14_coder_7 ?_
  refine z_goto (pc := 10) (tgt := 14) C dJ14_coder_10 (by decide) ?_
  exact z_zreturn (pc := 14) C (by decide) (by rw [hXp]; exact zpure_i (by omega) rfl) dJ14_coder_14
set_option maxHeartbeats 4000000 in
theorem ct_S_isLatin1 {l : Launch} (hl : l.stackTraces = false) {Γ : zCx} {h : zH} {a v : Nat} {fl : Bool} {x y : Value} (ha : h a = some (fl, .inr (13, [.ref v, .int (iI 0), x, y])))  : zMet l yJ14_isLatin1 (ws_ yJ14_isLatin1 cJ14_isLatin1 1 (some .boolean)) ({ frames := 0, cells := 0, slots := 0, locals := 0 }) Γ h [.ref a] (zpure h (some (.int (iI 1)))) 0 0 := by
  refine zMet.of (cc := cJ14_isLatin1) hl (plainFor_of_name (by decide +kernel)) (Nat.le_of_ble_eq_true rfl) ?_
  intro X hXl hXΓ hXp C hnm hnL
  have C : zC X cJ14_isLatin1 RJ14 (some .boolean) 0 0 [] := C
  have hnL : X.2.1.2.2.2.2 = 1 := hnL
  subst hXl hXΓ
  show Z X h 0 0 [(0, .ref a)] 0 []
  refine z_compact (pc := 0) C q466 dJ14_isLatin1_0 ?_
  refine z_if_eq (pc := 3) (tgt := 17) C dJ14_isLatin1_3 (by decide) (by decide) (fun z => absurd z (by decide)) (fun _ => ?_)
  refine z_aload_n (pc := 6) (j := 0) C dJ14_isLatin1_6 rfl rfl ?_
  refine z_getfield (pc := 7) (v := .int (iI 0)) C in_J14 rfl 1 (by decide) q788 (fun _ z => z) ha rfl dJ14_isLatin1_7 ?_
  refine z_if_ne (pc := 10) (tgt := 17) C dJ14_isLatin1_10 (by decide) (by decide) (fun z => absurd z (by decide)) (fun _ => ?_)
  refine z_iconst (pc := 13) C dJ14_isLatin1_13 ?_
  refine z_goto (pc := 14) (tgt := 18) C dJ14_isLatin1_14 (by decide) ?_
  exact z_zreturn (pc := 18) C (by decide) (by rw [hXp]; exact zpure_i (by omega) rfl) dJ14_isLatin1_18
set_option maxHeartbeats 4000000 in
theorem ct_S_length {l : Launch} (hl : l.stackTraces = false) {Γ : zCx} {h : zH} {a : Nat} {t : List Int} (hs : sAt h a t) : zMet l yJ14_length (ws_ yJ14_length cJ14_length 1 (some .int)) ({ frames := 1, cells := 0, slots := 0, locals := 20 }) Γ h [.ref a] (zpure h (some (.int (iI (t.length : Nat))))) 0 0 := by
  refine zMet.of (cc := cJ14_length) hl (plainFor_of_name (by decide +kernel)) (Nat.le_of_ble_eq_true rfl) ?_
  intro X hXl hXΓ hXp C hnm hnL
  have C : zC X cJ14_length RJ14 (some .int) 1 20 [] := C
  have hnL : X.2.1.2.2.2.2 = 1 := hnL
  subst hXl hXΓ
  show Z X h 0 0 [(0, .ref a)] 0 []
  obtain ⟨hl_a, v_a, x_a, y_a, f_a, h1_a, h2_a, h3_a, h4_a⟩ := hs
  have h1_a : h a = some (false, .inr (13, [.ref v_a, .int (iI 0), .int x_a, .int y_a])) := h1_a
  refine z_aload_n (pc := 0) (j := 0) C dJ14_length_0 rfl rfl ?_
  refine z_getfield (pc := 1) (v := .ref v_a) C in_J14 rfl 0 (by decide) q787 (fun _ z => z) h1_a rfl dJ14_length_1 ?_
  refine z_alen (pc := 4) C h2_a dJ14_length_4 ?_
  refine z_aload_n (pc := 5) (j := 0) C dJ14_length_5 rfl rfl ?_
  refine z_callV (pc := 6) (n := 0) (kc' := 0) (ks' := 0) C (ct_S_coder C.t h1_a) (lw_V q471 q472 q473 q83 q474) (by decide +kernel) ⟨by decide, by decide⟩ h1_a rfl rfl rfl (Nat.le_of_ble_eq_true rfl) dJ14_length_6 (by omega) (by omega) (zpk (st' := [.int (iI 0), .int (iI ((t.length : Nat) : Int))]) rfl ?_) zrx
  refine z_ishr0 (pc := 9) C dJ14_length_9 ?_
  exact z_ireturn (pc := 10) C (by rw [hXp]; exact zpure_i (by omega) rfl) dJ14_length_10
set_option maxHeartbeats 4000000 in
theorem ct_P_check {l : Launch} (hl : l.stackTraces = false) {Γ : zCx} {h : zH} {i n : Int} (hi : 0 ≤ i ∧ i < n ∧ n ≤ 1000000) : zMet l yJ17_checkIndex (ws_ yJ17_checkIndex cJ17_checkIndex 3 (some .int)) ({ frames := 0, cells := 0, slots := 0, locals := 0 }) Γ h [.int (iI i), .int (iI n), .null] (zpure h (some (.int (iI i)))) 0 0 := by
  refine zMet.of (cc := cJ17_checkIndex) hl (plainFor_of_name (by decide +kernel)) (Nat.le_of_ble_eq_true rfl) ?_
  intro X hXl hXΓ hXp C hnm hnL
  have C : zC X cJ17_checkIndex RJ17 (some .int) 0 0 [] := C
  have hnL : X.2.1.2.2.2.2 = 3 := hnL
  subst hXl hXΓ
  show Z X h 0 0 [(0, .int (iI i)), (1, .int (iI n)), (2, .null)] 0 []
  refine z_iload_n (pc := 0) (j := 0) C dJ17_checkIndex_0 rfl rfl ?_
  refine z_if_lt (pc := 1) (tgt := 9) C dJ17_checkIndex_1 (by decide) (by omega) (fun c1 => by exfalso; omega) (fun c1 => ?_)
  refine z_iload_n (pc := 4) (j := 0) C dJ17_checkIndex_4 rfl rfl ?_
  refine z_iload_n (pc := 5) (j := 1) C dJ17_checkIndex_5 rfl rfl ?_
  refine z_icmp_lt (pc := 6) (tgt := 16) C dJ17_checkIndex_6 (by decide) (by omega) (by omega) (fun c6 => ?_) (fun c6 => by exfalso; omega)
  refine z_iload_n (pc := 16) (j := 0) C dJ17_checkIndex_16 rfl rfl ?_
  exact z_ireturn (pc := 17) C (by rw [hXp]; exact zpure_i (by omega) rfl) dJ17_checkIndex_17
set_option maxHeartbeats 4000000 in
theorem ct_P_checkR {l : Launch} (hl : l.stackTraces = false) {Γ : zCx} {h : zH} {i n : Int} {q : Nat} (hi : 0 ≤ i ∧ i < n ∧ n ≤ 1000000) : zMet l yJ17_checkIndex (ws_ yJ17_checkIndex cJ17_checkIndex 3 (some .int)) ({ frames := 0, cells := 0, slots := 0, locals := 0 }) Γ h [.int (iI i), .int (iI n), .ref q] (zpure h (some (.int (iI i)))) 0 0 := by
  refine zMet.of (cc := cJ17_checkIndex) hl (plainFor_of_name (by decide +kernel)) (Nat.le_of_ble_eq_true rfl) ?_
  intro X hXl hXΓ hXp C hnm hnL
  have C : zC X cJ17_checkIndex RJ17 (some .int) 0 0 [] := C
  have hnL : X.2.1.2.2.2.2 = 3 := hnL
  subst hXl hXΓ
  show Z X h 0 0 [(0, .int (iI i)), (1, .int (iI n)), (2, .ref q)] 0 []
  refine z_iload_n (pc := 0) (j := 0) C dJ17_checkIndex_0 rfl rfl ?_
  refine z_if_lt (pc := 1) (tgt := 9) C dJ17_checkIndex_1 (by decide) (by omega) (fun c1 => by exfalso; omega) (fun c1 => ?_)
  refine z_iload_n (pc := 4) (j := 0) C dJ17_checkIndex_4 rfl rfl ?_
  refine z_iload_n (pc := 5) (j := 1) C dJ17_checkIndex_5 rfl rfl ?_
  refine z_icmp_lt (pc := 6) (tgt := 16) C dJ17_checkIndex_6 (by decide) (by omega) (by omega) (fun c6 => ?_) (fun c6 => by exfalso; omega)
  refine z_iload_n (pc := 16) (j := 0) C dJ17_checkIndex_16 rfl rfl ?_
  exact z_ireturn (pc := 17) C (by rw [hXp]; exact zpure_i (by omega) rfl) dJ17_checkIndex_17
set_option maxHeartbeats 4000000 in
theorem ct_O_check {l : Launch} (hl : l.stackTraces = false) {Γ : zCx} {h : zH} {i n : Int} (hi : 0 ≤ i ∧ i < n ∧ n ≤ 1000000) : zMet l yJ23_checkIndex (ws_ yJ23_checkIndex cJ23_checkIndex 2 (some .int)) ({ frames := 1, cells := 0, slots := 0, locals := 22 }) Γ h [.int (iI i), .int (iI n)] (zpure h (some (.int (iI i)))) 0 0 := by
  refine zMet.of (cc := cJ23_checkIndex) hl (plainFor_of_name (by decide +kernel)) (Nat.le_of_ble_eq_true rfl) ?_
  intro X hXl hXΓ hXp C hnm hnL
  have C : zC X cJ23_checkIndex RJ23 (some .int) 1 22 [] := C
  have hnL : X.2.1.2.2.2.2 = 2 := hnL
  subst hXl hXΓ
  show Z X h 0 0 [(0, .int (iI i)), (1, .int (iI n))] 0 []
  refine z_iload_n (pc := 0) (j := 0) C dJ23_checkIndex_0 rfl rfl ?_
  refine z_iload_n (pc := 1) (j := 1) C dJ23_checkIndex_1 rfl rfl ?_
  refine z_null (pc := 2) C dJ23_checkIndex_2 ?_
  refine z_callS (pc := 3) (n := 3) (kc' := 0) (ks' := 0) C (ct_P_check C.t (i := i) (n := n) (by omega)) (lw_S q910 q571 q87 q572) (by decide +kernel) ⟨by decide, by decide⟩ rfl rfl (Nat.le_of_ble_eq_true rfl) dJ23_checkIndex_3 (by omega) (by omega) (zpk (st' := [.int (iI i)]) rfl ?_) zrx
  exact z_ireturn (pc := 6) C (by rw [hXp]; exact zpure_i (by omega) rfl) dJ23_checkIndex_6
set_option maxHeartbeats 4000000 in
theorem ct_S_checkIndex {l : Launch} (hl : l.stackTraces = false) {Γ : zCx} {h : zH} {i n : Int} (hi : 0 ≤ i ∧ i < n ∧ n ≤ 1000000) : zMet l yJ14_checkIndex (ws_ yJ14_checkIndex cJ14_checkIndex 2 none) ({ frames := 1, cells := 0, slots := 0, locals := 22 }) Γ h [.int (iI i), .int (iI n)] (zpure h none) 0 0 := by
  refine zMet.of (cc := cJ14_checkIndex) hl (plainFor_of_name (by decide +kernel)) (Nat.le_of_ble_eq_true rfl) ?_
  intro X hXl hXΓ hXp C hnm hnL
  have C : zC X cJ14_checkIndex RJ14 none 1 22 [] := C
  have hnL : X.2.1.2.2.2.2 = 2 := hnL
  subst hXl hXΓ
  show Z X h 0 0 [(0, .int (iI i)), (1, .int (iI n))] 0 []
  refine z_iload_n (pc := 0) (j := 0) C dJ14_checkIndex_0 rfl rfl ?_
  refine z_iload_n (pc := 1) (j := 1) C dJ14_checkIndex_1 rfl rfl ?_
  refine z_sioobe (pc := 2) C q504 dJ14_checkIndex_2 (fun v hv => ?_)
  rcases hv with rfl | ⟨t, rfl⟩
  · refine z_callS (pc := 5) (n := 3) (kc' := 0) (ks' := 0) C (ct_P_check C.t (i := i) (n := n) (by omega)) (lw_S q570 q571 q87 q572) (by decide +kernel) ⟨by decide, by decide⟩ rfl rfl (Nat.le_of_ble_eq_true rfl) dJ14_checkIndex_5 (by omega) (by omega) (zpk (st' := [.int (iI i)]) rfl ?_) zrx
    refine z_pop (pc := 8) C dJ14_checkIndex_8 rfl ?_
    exact z_return (pc := 9) C (by rw [hXp]; exact zpure_v rfl rfl) dJ14_checkIndex_9
  · refine z_callS (pc := 5) (n := 3) (kc' := 0) (ks' := 0) C (ct_P_checkR C.t (i := i) (n := n) (q := t) (by omega)) (lw_S q570 q571 q87 q572) (by decide +kernel) ⟨by decide, by decide⟩ rfl rfl (Nat.le_of_ble_eq_true rfl) dJ14_checkIndex_5 (by omega) (by omega) (zpk (st' := [.int (iI i)]) rfl ?_) zrx
    refine z_pop (pc := 8) C dJ14_checkIndex_8 rfl ?_
    exact z_return (pc := 9) C (by rw [hXp]; exact zpure_v rfl rfl) dJ14_checkIndex_9
set_option maxHeartbeats 4000000 in
theorem ct_L_charAt {l : Launch} (hl : l.stackTraces = false) {Γ : zCx} {h : zH} {v : Nat} {i c : Int} {n : Nat} {f2 : Bool} {f : Nat → Value} (hv : h v = some (f2, .inl (.byte, n, f))) (hn : n ≤ 100000) (hi : 0 ≤ i ∧ i < n) (hf : f i.toNat = .int (iI c)) (hc : 0 ≤ c ∧ c < 128) : zMet l yJ16_charAt (ws_ yJ16_charAt cJ16_charAt 2 (some .char)) ({ frames := 2, cells := 0, slots := 0, locals := 43 }) Γ h [.ref v, .int (iI i)] (zpure h (some (.int (iI c)))) 0 0 := by
  refine zMet.of (cc := cJ16_charAt) hl (plainFor_of_name (by decide +kernel)) (Nat.le_of_ble_eq_true rfl) ?_
  intro X hXl hXΓ hXp C hnm hnL
  have C : zC X cJ16_charAt RJ16 (some .char) 2 43 [] := C
  have hnL : X.2.1.2.2.2.2 = 2 := hnL
  subst hXl hXΓ
  show Z X h 0 0 [(0, .ref v), (1, .int (iI i))] 0 []
  refine z_iload_n (pc := 0) (j := 1) C dJ16_charAt_0 rfl rfl ?_
  refine z_aload_n (pc := 1) (j := 0) C dJ16_charAt_1 rfl rfl ?_
  refine z_alen (pc := 2) C hv dJ16_charAt_2 ?_
  refine z_callS (pc := 3) (n := 2) (kc' := 0) (ks' := 0) C (ct_S_checkIndex C.t (i := i) (n := ((n : Nat) : Int)) (by omega)) (lw_S q567 q568 q83 q569) (by decide +kernel) ⟨by decide, by decide⟩ rfl rfl (Nat.le_of_ble_eq_true rfl) dJ16_charAt_3 (by omega) (by omega) (zpk (st' := []) rfl ?_) zrx
  refine z_aload_n (pc := 6) (j := 0) C dJ16_charAt_6 rfl rfl ?_
  refine z_iload_n (pc := 7) (j := 1) C dJ16_charAt_7 rfl rfl ?_
  refine z_baload (pc := 8) (v := .int (iI c)) C hv (by omega) hf dJ16_charAt_8 ?_
  refine z_sipush (pc := 9) C dJ16_charAt_9 (by decide) ?_
  refine z_and255 (pc := 12) C (by omega) dJ16_charAt_12 ?_
  refine z_i2cI (pc := 13) C (by omega) dJ16_charAt_13 ?_
  exact z_zreturn (pc := 14) C (i_nc hc.1 (by omega)) (by rw [hXp]; exact zpure_i (by omega) rfl) dJ16_charAt_14
set_option maxHeartbeats 4000000 in
theorem ct_S_charAt {l : Launch} (hl : l.stackTraces = false) {Γ : zCx} {h : zH} {a : Nat} {t : List Int} (hs : sAt h a t) {i c : Int} (hi : 0 ≤ i) (hc : t[i.toNat]? = some c) : zMet l yJ14_charAt (ws_ yJ14_charAt cJ14_charAt 2 (some .char)) ({ frames := 3, cells := 0, slots := 0, locals := 64 }) Γ h [.ref a, .int (iI i)] (zpure h (some (.int (iI c)))) 0 0 := by
  refine zMet.of (cc := cJ14_charAt) hl (plainFor_of_name (by decide +kernel)) (Nat.le_of_ble_eq_true rfl) ?_
  intro X hXl hXΓ hXp C hnm hnL
  have C : zC X cJ14_charAt RJ14 (some .char) 3 64 [] := C
  have hnL : X.2.1.2.2.2.2 = 2 := hnL
  subst hXl hXΓ
  show Z X h 0 0 [(0, .ref a), (1, .int (iI i))] 0 []
  obtain ⟨hl_a, v_a, x_a, y_a, f_a, h1_a, h2_a, h3_a, h4_a⟩ := hs
  have h1_a : h a = some (false, .inr (13, [.ref v_a, .int (iI 0), .int x_a, .int y_a])) := h1_a
  have hlt : i.toNat < t.length := (List.getElem?_eq_some_iff.mp hc).1
  have hcr := h4_a _ (List.mem_of_getElem? hc)
  refine z_aload_n (pc := 0) (j := 0) C dJ14_charAt_0 rfl rfl ?_
  refine z_callV (pc := 1) (n := 0) (kc' := 0) (ks' := 0) C (ct_S_isLatin1 C.t h1_a) (lw_V q462 q463 q464 q83 q465) (by decide +kernel) ⟨by decide, by decide⟩ h1_a rfl rfl rfl (Nat.le_of_ble_eq_true rfl) dJ14_charAt_1 (by omega) (by omega) (zpk (st' := [.int (iI 1)]) rfl ?_) zrx
  refine z_if_eq (pc := 4) (tgt := 16) C dJ14_charAt_4 (by decide) (by decide) (fun z => absurd z (by decide)) (fun _ => ?_)
  refine z_aload_n (pc := 7) (j := 0) C dJ14_charAt_7 rfl rfl ?_
  refine z_getfield (pc := 8) (v := .ref v_a) C in_J14 rfl 0 (by decide) q787 (fun _ z => z) h1_a rfl dJ14_charAt_8 ?_
  refine z_iload_n (pc := 11) (j := 1) C dJ14_charAt_11 rfl rfl ?_
  refine z_callS (pc := 12) (n := 2) (kc' := 0) (ks' := 0) C (ct_L_charAt C.t (i := i) h2_a hl_a (by omega) (h3_a _ _ hc) (h4_a _ (List.mem_of_getElem? hc))) (lw_S q564 q565 q86 q566) (by decide +kernel) ⟨by decide, by decide⟩ rfl rfl (Nat.le_of_ble_eq_true rfl) dJ14_charAt_12 (by omega) (by omega) (zpk (st' := [.int (iI c)]) rfl ?_) zrx
  exact z_zreturn (pc := 15) C (i_nc hcr.1 (by omega)) (by rw [hXp]; exact zpure_i (by omega) rfl) dJ14_charAt_15
set_option maxHeartbeats 4000000 in
theorem ct_L_canC {l : Launch} (hl : l.stackTraces = false) {Γ : zCx} {h : zH} {c : Int} (hc : 0 ≤ c ∧ c < 128) : zMet l yJ16_canEncode_2 (ws_ yJ16_canEncode_2 cJ16_canEncode_2 1 (some .boolean)) ({ frames := 0, cells := 0, slots := 0, locals := 0 }) Γ h [.int (iI c)] (zpure h (some (.int (iI 1)))) 0 0 := by
  refine zMet.of (cc := cJ16_canEncode_2) hl (plainFor_of_name (by decide +kernel)) (Nat.le_of_ble_eq_true rfl) ?_
  intro X hXl hXΓ hXp C hnm hnL
  have C : zC X cJ16_canEncode_2 RJ16 (some .boolean) 0 0 [] := C
  have hnL : X.2.1.2.2.2.2 = 1 := hnL
  subst hXl hXΓ
  show Z X h 0 0 [(0, .int (iI c))] 0 []
  refine z_iload_n (pc := 0) (j := 0) C dJ16_canEncode_2_0 rfl rfl ?_
  refine z_sipush (pc := 1) C dJ16_canEncode_2_1 (by decide) ?_
  refine z_icmp_gt (pc := 4) (tgt := 11) C dJ16_canEncode_2_4 (by decide) (by omega) (by decide) (fun c4 => by exfalso; omega) (fun c4 => ?_)
  refine z_iconst (pc := 7) C dJ16_canEncode_2_7 ?_
  refine z_goto (pc := 8) (tgt := 12) C dJ16_canEncode_2_8 (by decide) ?_
  exact z_zreturn (pc := 12) C (by decide) (by rw [hXp]; exact zpure_i (by omega) rfl) dJ16_canEncode_2_12
set_option maxHeartbeats 4000000 in
theorem ct_L_canI {l : Launch} (hl : l.stackTraces = false) {Γ : zCx} {h : zH} {c : Int} (hc : 0 ≤ c ∧ c < 128) : zMet l yJ16_canEncode (ws_ yJ16_canEncode cJ16_canEncode 1 (some .boolean)) ({ frames := 0, cells := 0, slots := 0, locals := 0 }) Γ h [.int (iI c)] (zpure h (some (.int (iI 1)))) 0 0 := by
  refine zMet.of (cc := cJ16_canEncode) hl (plainFor_of_name (by decide +kernel)) (Nat.le_of_ble_eq_true rfl) ?_
  intro X hXl hXΓ hXp C hnm hnL
  have C : zC X cJ16_canEncode RJ16 (some .boolean) 0 0 [] := C
  have hnL : X.2.1.2.2.2.2 = 1 := hnL
  subst hXl hXΓ
  show Z X h 0 0 [(0, .int (iI c))] 0 []
  refine z_iload_n (pc := 0) (j := 0) C dJ16_canEncode_0 rfl rfl ?_
  refine z_if_lt (pc := 1) (tgt := 15) C dJ16_canEncode_1 (by decide) (by omega) (fun c1 => by exfalso; omega) (fun c1 => ?_)
  refine z_iload_n (pc := 4) (j := 0) C dJ16_canEncode_4 rfl rfl ?_
  refine z_sipush (pc := 5) C dJ16_canEncode_5 (by decide) ?_
  refine z_icmp_gt (pc := 8) (tgt := 15) C dJ16_canEncode_8 (by decide) (by omega) (by decide) (fun c8 => ?_) (fun c8 => ?_)
  · refine z_iconst (pc := 15) C dJ16_canEncode_15 ?_
    exact z_zreturn (pc := 16) C (by decide) (by rw [hXp]; exact zpure_i (by omega) rfl) dJ16_canEncode_16
  · refine z_iconst (pc := 11) C dJ16_canEncode_11 ?_
    refine z_goto (pc := 12) (tgt := 16) C dJ16_canEncode_12 (by decide) ?_
    exact z_zreturn (pc := 16) C (by decide) (by rw [hXp]; exact zpure_i (by omega) rfl) dJ16_canEncode_16
set_option maxHeartbeats 4000000 in
theorem ct_B_isLatin1 {l : Launch} (hl : l.stackTraces = false) {Γ : zCx} {h : zH} {b v : Nat} {z : Value} {n : Int} {cap : Nat} {f : Nat → Value} (hb : h b = some (true, .inr (12, [.ref v, .int (iI 0), z, .int (iI n)])))  : zMet l yJ12_isLatin1 (ws_ yJ12_isLatin1 cJ12_isLatin1 1 (some .boolean)) ({ frames := 0, cells := 0, slots := 0, locals := 0 }) Γ h [.ref b] (zpure h (some (.int (iI 1)))) 0 0 := by
  refine zMet.of (cc := cJ12_isLatin1) hl (plainFor_of_name (by decide +kernel)) (Nat.le_of_ble_eq_true rfl) ?_
  intro X hXl hXΓ hXp C hnm hnL
  have C : zC X cJ12_isLatin1 RJ12 (some .boolean) 0 0 [] := C
  have hnL : X.2.1.2.2.2.2 = 1 := hnL
  subst hXl hXΓ
  show Z X h 0 0 [(0, .ref b)] 0 []
  refine z_compact (pc := 0) C q339 dJ12_isLatin1_0 ?_
  refine z_if_eq (pc := 3) (tgt := 17) C dJ12_isLatin1_3 (by decide) (by decide) (fun z => absurd z (by decide)) (fun _ => ?_)
  refine z_aload_n (pc := 6) (j := 0) C dJ12_isLatin1_6 rfl rfl ?_
  refine z_getfield (pc := 7) (v := .int (iI 0)) C in_J13 rfl 1 (by decide) q349 (fun _ z => z) hb rfl dJ12_isLatin1_7 ?_
  refine z_if_ne (pc := 10) (tgt := 17) C dJ12_isLatin1_10 (by decide) (by decide) (fun z => absurd z (by decide)) (fun _ => ?_)
  refine z_iconst (pc := 13) C dJ12_isLatin1_13 ?_
  refine z_goto (pc := 14) (tgt := 18) C dJ12_isLatin1_14 (by decide) ?_
  exact z_zreturn (pc := 18) C (by decide) (by rw [hXp]; exact zpure_i (by omega) rfl) dJ12_isLatin1_18
set_option maxHeartbeats 4000000 in
theorem ct_B_getValue {l : Launch} (hl : l.stackTraces = false) {Γ : zCx} {h : zH} {b v : Nat} {z : Value} {n : Int} {cap : Nat} {f : Nat → Value} (hb : h b = some (true, .inr (12, [.ref v, .int (iI 0), z, .int (iI n)])))  : zMet l yJ12_getValue (ws_ yJ12_getValue cJ12_getValue 1 (some (.array .byte))) ({ frames := 0, cells := 0, slots := 0, locals := 0 }) Γ h [.ref b] (zpure h (some (.ref v))) 0 0 := by
  refine zMet.of (cc := cJ12_getValue) hl (plainFor_of_name (by decide +kernel)) (Nat.le_of_ble_eq_true rfl) ?_
  intro X hXl hXΓ hXp C hnm hnL
  have C : zC X cJ12_getValue RJ12 (some (.array .byte)) 0 0 [] := C
  have hnL : X.2.1.2.2.2.2 = 1 := hnL
  subst hXl hXΓ
  show Z X h 0 0 [(0, .ref b)] 0 []
  refine z_aload_n (pc := 0) (j := 0) C dJ12_getValue_0 rfl rfl ?_
  refine z_getfield (pc := 1) (v := .ref v) C in_J13 rfl 0 (by decide) q348 (fun _ z => z) hb rfl dJ12_getValue_1 ?_
  exact z_areturn (pc := 4) C (Or.inr ⟨_, rfl⟩) (Or.inr ⟨_, rfl⟩) (by rw [hXp]; exact zpure_v rfl rfl) dJ12_getValue_4
set_option maxHeartbeats 4000000 in
theorem ct_B_length0 {l : Launch} (hl : l.stackTraces = false) {Γ : zCx} {h : zH} {b v : Nat} {z : Value} {n : Int} {cap : Nat} {f : Nat → Value} (hb : h b = some (true, .inr (12, [.ref v, .int (iI 0), z, .int (iI n)])))  : zMet l yJ12_length (ws_ yJ12_length cJ12_length 1 (some .int)) ({ frames := 0, cells := 0, slots := 0, locals := 0 }) Γ h [.ref b] (zpure h (some (.int (iI n)))) 0 0 := by
  refine zMet.of (cc := cJ12_length) hl (plainFor_of_name (by decide +kernel)) (Nat.le_of_ble_eq_true rfl) ?_
  intro X hXl hXΓ hXp C hnm hnL
  have C : zC X cJ12_length RJ12 (some .int) 0 0 [] := C
  have hnL : X.2.1.2.2.2.2 = 1 := hnL
  subst hXl hXΓ
  show Z X h 0 0 [(0, .ref b)] 0 []
  refine z_aload_n (pc := 0) (j := 0) C dJ12_length_0 rfl rfl ?_
  refine z_getfield (pc := 1) (v := .int (iI n)) C in_J13 rfl 3 (by decide) q352 (fun _ z => z) hb rfl dJ12_length_1 ?_
  exact z_ireturn (pc := 4) C (by rw [hXp]; exact zpure_i (by omega) rfl) dJ12_length_4
set_option maxHeartbeats 4000000 in
theorem ct_B_length {l : Launch} (hl : l.stackTraces = false) {Γ : zCx} {h : zH} {b v : Nat} {z : Value} {n : Int} {cap : Nat} {f : Nat → Value} (hb : h b = some (true, .inr (12, [.ref v, .int (iI 0), z, .int (iI n)])))  : zMet l yJ13_length (ws_ yJ13_length cJ13_length 1 (some .int)) ({ frames := 1, cells := 0, slots := 0, locals := 20 }) Γ h [.ref b] (zpure h (some (.int (iI n)))) 0 0 := by
  refine zMet.of (cc := cJ13_length) hl (plainFor_of_name (by decide +kernel)) (Nat.le_of_ble_eq_true rfl) ?_
  intro X hXl hXΓ hXp C hnm hnL
  have C : zC X cJ13_length RJ13 (some .int) 1 20 [] := C
  have hnL : X.2.1.2.2.2.2 = 1 := hnL
  subst hXl hXΓ
  show Z X h 0 0 [(0, .ref b)] 0 []
  refine z_aload_n (pc := 0) (j := 0) C dJ13_length_0 rfl rfl ?_
  refine z_callSU (pc := 1) (n := 0) (kc' := 0) (ks' := 0) C (ct_B_length0 (cap := 0) (f := fun _ => .null) C.t hb) q444 q442 q2479 q361 q443 q81 (by decide +kernel) ⟨by decide, by decide⟩ hb rfl rfl rfl (Nat.le_of_ble_eq_true rfl) dJ13_length_1 (by omega) (by omega) (zpk (st' := [.int (iI n)]) rfl ?_) zrx
  exact z_ireturn (pc := 4) C (by rw [hXp]; exact zpure_i (by omega) rfl) dJ13_length_4
set_option maxHeartbeats 4000000 in
theorem ct_A_newLength {l : Launch} (hl : l.stackTraces = false) {Γ : zCx} {h : zH} {o a b : Int} (ho : 0 ≤ o ∧ o ≤ 1000000) (ha : 1 ≤ a ∧ a ≤ 1000000) (hb : 0 ≤ b ∧ b ≤ 1000000) : zMet l yJ4_newLength (ws_ yJ4_newLength cJ4_newLength 4 (some .int)) ({ frames := 1, cells := 0, slots := 0, locals := 21 }) Γ h [.int (iI o), .int (iI a), .int (iI b)] (zpure h (some (.int (iI (o + max a b))))) 0 0 := by
  refine zMet.of (cc := cJ4_newLength) hl (plainFor_of_name (by decide +kernel)) (Nat.le_of_ble_eq_true rfl) ?_
  intro X hXl hXΓ hXp C hnm hnL
  have C : zC X cJ4_newLength RJ4 (some .int) 1 21 [] := C
  have hnL : X.2.1.2.2.2.2 = 4 := hnL
  subst hXl hXΓ
  show Z X h 0 0 [(0, .int (iI o)), (1, .int (iI a)), (2, .int (iI b))] 0 []
  refine z_iload_n (pc := 0) (j := 0) C dJ4_newLength_0 rfl rfl ?_
  refine z_iload_n (pc := 1) (j := 1) C dJ4_newLength_1 rfl rfl ?_
  refine z_iload_n (pc := 2) (j := 2) C dJ4_newLength_2 rfl rfl ?_
  refine z_callS (pc := 3) (n := 2) (kc' := 0) (ks' := 0) C (ct_max C.t (x := a) (y := b) (by omega) (by omega)) (lw_S q222 q223 q71 q224) (by decide +kernel) ⟨by decide, by decide⟩ rfl rfl (Nat.le_of_ble_eq_true rfl) dJ4_newLength_3 (by omega) (by omega) (zpk (st' := [.int (iI (max a b)), .int (iI o)]) rfl ?_) zrx
  refine z_iadd (pc := 6) C dJ4_newLength_6 ?_
  refine z_istore_n (pc := 7) (L' := [(3, .int (iI (o + (max a b)))), (0, .int (iI o)), (1, .int (iI a)), (2, .int (iI b))]) C dJ4_newLength_7 rfl (by rw [hnL]; decide) rfl ?_
  refine z_iconst (pc := 8) C dJ4_newLength_8 ?_
  refine z_iload_n (pc := 9) (j := 0) C dJ4_newLength_9 rfl rfl ?_
  refine z_icmp_ge (pc := 10) (tgt := 21) C dJ4_newLength_10 (by decide) (by decide) (by omega) (fun c10 => by exfalso; omega) (fun c10 => ?_)
  refine z_iload_n (pc := 13) (j := 0) C dJ4_newLength_13 rfl rfl ?_
  refine z_ldc (pc := 14) (v := iI 2147483639) C q225 dJ4_newLength_14 ?_
  refine z_icmp_gt (pc := 16) (tgt := 21) C dJ4_newLength_16 (by decide) (by omega) (by decide) (fun c16 => by exfalso; omega) (fun c16 => ?_)
  refine z_iload_n (pc := 19) (j := 0) C dJ4_newLength_19 rfl rfl ?_
  exact z_ireturn (pc := 20) C (by rw [hXp]; exact zpure_i (by omega) rfl) dJ4_newLength_20
set_option maxHeartbeats 4000000 in
theorem ct_B_newCapacity {l : Launch} (hl : l.stackTraces = false) {Γ : zCx} {h : zH} {b v : Nat} {z : Value} {n : Int} {cap : Nat} {f : Nat → Value} (hb : h b = some (true, .inr (12, [.ref v, .int (iI 0), z, .int (iI n)]))) (hv : h v = some (true, .inl (.byte, cap, f))) (hcap : cap ≤ 100000) {m : Int} (hm : cap < m ∧ m ≤ 200000) : zMet l yJ12_newCapacity (ws_ yJ12_newCapacity cJ12_newCapacity 6 (some .int)) ({ frames := 2, cells := 0, slots := 0, locals := 44 }) Γ h [.ref b, .int (iI m)] (zpure h (some (.int (iI ((cap : Nat) + max (m - (cap : Nat)) ((cap : Nat) + 2)))))) 0 0 := by
  refine zMet.of (cc := cJ12_newCapacity) hl (plainFor_of_name (by decide +kernel)) (Nat.le_of_ble_eq_true rfl) ?_
  intro X hXl hXΓ hXp C hnm hnL
  have C : zC X cJ12_newCapacity RJ12 (some .int) 2 44 [] := C
  have hnL : X.2.1.2.2.2.2 = 6 := hnL
  subst hXl hXΓ
  show Z X h 0 0 [(0, .ref b), (1, .int (iI m))] 0 []
  refine z_aload_n (pc := 0) (j := 0) C dJ12_newCapacity_0 rfl rfl ?_
  refine z_getfield (pc := 1) (v := .ref v) C in_J13 rfl 0 (by decide) q348 (fun _ z => z) hb rfl dJ12_newCapacity_1 ?_
  refine z_alen (pc := 4) C hv dJ12_newCapacity_4 ?_
  refine z_istore_n (pc := 5) (L' := [(2, .int (iI ((cap : Nat) : Int))), (0, .ref b), (1, .int (iI m))]) C dJ12_newCapacity_5 rfl (by rw [hnL]; decide) rfl ?_
  refine z_iload_n (pc := 6) (j := 2) C dJ12_newCapacity_6 rfl rfl ?_
  refine z_aload_n (pc := 7) (j := 1) C dJ12_newCapacity_7 rfl rfl ?_
  refine z_getfield (pc := 8) (v := .int (iI 0)) C in_J13 rfl 1 (by decide) q349 (fun _ z => z) hb rfl dJ12_newCapacity_8 ?_
  refine z_ishl0 (pc := 11) C dJ12_newCapacity_11 ?_
  refine z_istore_n (pc := 12) (L' := [(3, .int (iI m)), (2, .int (iI ((cap : Nat) : Int))), (0, .ref b), (1, .int (iI m))]) C dJ12_newCapacity_12 rfl (by rw [hnL]; decide) rfl ?_
  refine z_iload_n (pc := 13) (j := 0) C dJ12_newCapacity_13 rfl rfl ?_
  refine z_iload_n (pc := 14) (j := 1) C dJ12_newCapacity_14 rfl rfl ?_
  refine z_isub (pc := 15) C dJ12_newCapacity_15 ?_
  refine z_istore (pc := 16) (L' := [(4, .int (iI (m - ((cap : Nat) : Int)))), (3, .int (iI m)), (2, .int (iI ((cap : Nat) : Int))), (0, .ref b), (1, .int (iI m))]) C dJ12_newCapacity_16 (by rw [hnL]; decide) rfl ?_
  refine z_iload_n (pc := 18) (j := 2) C dJ12_newCapacity_18 rfl rfl ?_
  refine z_iload (pc := 19) (j := 0) C dJ12_newCapacity_19 rfl ?_
  refine z_iload_n (pc := 21) (j := 2) C dJ12_newCapacity_21 rfl rfl ?_
  refine z_iconst (pc := 22) C dJ12_newCapacity_22 ?_
  refine z_aload_n (pc := 23) (j := 3) C dJ12_newCapacity_23 rfl rfl ?_
  refine z_getfield (pc := 24) (v := .int (iI 0)) C in_J13 rfl 1 (by decide) q349 (fun _ z => z) hb rfl dJ12_newCapacity_24 ?_
  refine z_ishl0 (pc := 27) C dJ12_newCapacity_27 ?_
  refine z_iadd (pc := 28) C dJ12_newCapacity_28 ?_
  refine z_callS (pc := 29) (n := 3) (kc' := 0) (ks' := 0) C (ct_A_newLength C.t (o := ((cap : Nat) : Int)) (a := m - ((cap : Nat) : Int)) (b := ((cap : Nat) : Int) + 2) (by omega) (by omega) (by omega)) (lw_S q681 q220 q70 q221) (by decide +kernel) ⟨by decide, by decide⟩ rfl rfl (Nat.le_of_ble_eq_true rfl) dJ12_newCapacity_29 (by omega) (by omega) (zpk (st' := [.int (iI (((cap : Nat) : Int) + max (m - ((cap : Nat) : Int)) (((cap : Nat) : Int) + 2)))]) rfl ?_) zrx
  refine z_istore (pc := 32) (L' := [(5, .int (iI (((cap : Nat) : Int) + max (m - ((cap : Nat) : Int)) (((cap : Nat) : Int) + 2)))), (4, .int (iI (m - ((cap : Nat) : Int)))), (3, .int (iI m)), (2, .int (iI ((cap : Nat) : Int))), (0, .ref b), (1, .int (iI m))]) C dJ12_newCapacity_32 (by rw [hnL]; decide) rfl ?_
  refine z_iload (pc := 34) (j := 0) C dJ12_newCapacity_34 rfl ?_
  refine z_ldc (pc := 36) (v := iI 2147483647) C q682 dJ12_newCapacity_36 ?_
  refine z_icmp_ne (pc := 38) (tgt := 51) C dJ12_newCapacity_38 (by decide) (by omega) (by decide) (fun c38 => ?_) (fun c38 => by exfalso; omega)
  refine z_iload (pc := 51) (j := 0) C dJ12_newCapacity_51 rfl ?_
  refine z_aload_n (pc := 53) (j := 4) C dJ12_newCapacity_53 rfl rfl ?_
  refine z_getfield (pc := 54) (v := .int (iI 0)) C in_J13 rfl 1 (by decide) q349 (fun _ z => z) hb rfl dJ12_newCapacity_54 ?_
  refine z_ishr0 (pc := 57) C dJ12_newCapacity_57 ?_
  exact z_ireturn (pc := 58) C (by rw [hXp]; exact zpure_i (by omega) rfl) dJ12_newCapacity_58
set_option maxHeartbeats 4000000 in
theorem ct_A_copyOf {l : Launch} (hl : l.stackTraces = false) {Γ : zCx} {h : zH} {v : Nat} {n : Nat} {f2 : Bool} {f : Nat → Value} (hv : h v = some (f2, .inl (.byte, n, f))) (hn : n ≤ 100000) {m : Int} (hm : n < m ∧ m ≤ 400000) (hfit : ∀ j, j < n → ∃ c, f j = .int (iI c) ∧ -128 ≤ c ∧ c < 128) : zMet l yJ6_copyOf_3 (ws_ yJ6_copyOf_3 cJ6_copyOf_3 3 (some (.array .byte))) ({ frames := 1, cells := 1, slots := m.toNat, locals := 21 }) Γ h [.ref v, .int (iI m)] (zrt (fun w h' => ∃ (a : Nat) (g : Nat → Value), w = some (.ref a) ∧ h a = none ∧ h' = zup h a (true, .inl (.byte, m.toNat, g)) ∧ (∀ j, j < n → g j = f j) ∧ ∀ j, n ≤ j → g j = .int (iI 0))) 1 m.toNat := by
  refine zMet.of (cc := cJ6_copyOf_3) hl (plainFor_of_name (by decide +kernel)) (Nat.le_of_ble_eq_true rfl) ?_
  intro X hXl hXΓ hXp C hnm hnL
  have C : zC X cJ6_copyOf_3 RJ6 (some (.array .byte)) 1 21 [] := C
  have hnL : X.2.1.2.2.2.2 = 3 := hnL
  subst hXl hXΓ
  show Z X h 1 m.toNat [(0, .ref v), (1, .int (iI m))] 0 []
  refine z_iload_n (pc := 0) (j := 1) C dJ6_copyOf_3_0 rfl rfl ?_
  refine z_aload_n (pc := 1) (j := 0) C dJ6_copyOf_3_1 rfl rfl ?_
  refine z_alen (pc := 2) C hv dJ6_copyOf_3_2 ?_
  refine z_icmp_ne (pc := 3) (tgt := 14) C dJ6_copyOf_3_3 (by decide) (by omega) (by omega) (fun c3 => ?_) (fun c3 => by exfalso; omega)
  refine z_iload_n (pc := 14) (j := 1) C dJ6_copyOf_3_14 rfl rfl ?_
  refine z_newarray (pc := 15) (kc' := 0) (ks' := (m.toNat - m.toNat)) (ty := .byte) C rfl q299 (by omega) (by simp [componentBytes] <;> omega) (by omega) (by omega) (by simp) dJ6_copyOf_3_15 (fun a1 fa1 => ?_)
  refine Z.nm (fun h2 eh2 => ?_)
  have na1 : h a1 = none := fa1
  have kh2 : zkeep h h2 [] := by rw [eh2]; exact zkeep.born zkeep.rf fa1
  have fh2_0 : h2 a1 = some (true, .inl (.byte, m.toNat, fun _ => .int (iI 0))) := zse eh2
  refine z_astore_n (pc := 17) (L' := [(2, .ref a1), (0, .ref v), (1, .int (iI m))]) C dJ6_copyOf_3_17 rfl (by rw [hnL]; decide) rfl ?_
  refine z_aload_n (pc := 18) (j := 1) C dJ6_copyOf_3_18 rfl rfl ?_
  refine z_iconst (pc := 19) C dJ6_copyOf_3_19 ?_
  refine z_aload_n (pc := 20) (j := 0) C dJ6_copyOf_3_20 rfl rfl ?_
  refine z_iconst (pc := 21) C dJ6_copyOf_3_21 ?_
  refine z_aload_n (pc := 22) (j := 1) C dJ6_copyOf_3_22 rfl rfl ?_
  refine z_alen (pc := 23) C (kh2.n hv List.not_mem_nil) dJ6_copyOf_3_23 ?_
  refine z_iload_n (pc := 24) (j := 2) C dJ6_copyOf_3_24 rfl rfl ?_
  refine z_callS (pc := 25) (n := 2) (kc' := 0) (ks' := (m.toNat - m.toNat)) C (ct_min C.t (x := ((n : Nat) : Int)) (y := m) (by omega) (by omega)) (lw_S q265 q266 q71 q267) (by decide +kernel) ⟨by decide, by decide⟩ rfl rfl (Nat.le_of_ble_eq_true rfl) dJ6_copyOf_3_25 (by omega) (by omega) (zpk (st' := [.int (iI (min ((n : Nat) : Int) m)), .int (iI 0), .ref a1, .int (iI 0), .ref v]) rfl ?_) zrx
  refine z_copyP (pc := 28) (g' := va_cpy f (fun _ => .int (iI 0)) (Int.toNat 0) (Int.toNat 0) (Int.toNat (min ((n : Nat) : Int) m))) C q268 q270 q269 q73 rfl (kh2.n hv List.not_mem_nil) fh2_0 (by omega) (by omega) (by omega) (fun i hi => by obtain ⟨c, e, c1, c2⟩ := hfit i (by omega); simp only [Int.toNat_zero, Nat.zero_add, e]; exact ⟨i_fb c1 c2, _, rfl⟩) rfl (by decide) (by decide) dJ6_copyOf_3_28 ?_
  refine Z.nm (fun h3 eh3 => ?_)
  have kh3 : zkeep h h3 [] := by rw [eh3]; exact zkeep.up kh2 (Or.inr na1) fh2_0
  have fh3_0 : h3 a1 = some (true, .inl (.byte, m.toNat, va_cpy f (fun _ => .int (iI 0)) (Int.toNat 0) (Int.toNat 0) (Int.toNat (min ((n : Nat) : Int) m)))) := zse eh3
  refine z_aload_n (pc := 31) (j := 0) C dJ6_copyOf_3_31 rfl rfl ?_
  exact z_areturn (pc := 32) C (Or.inr ⟨_, rfl⟩) (Or.inr ⟨_, rfl⟩) (by rw [hXp]; exact ⟨_, rfl, a1, _, rfl, fa1, by rw [eh3, eh2, zup_zup], fun j hj => by rw [va_cpy, if_pos (by omega)]; simp, fun j hj => by rw [va_cpy, if_neg (by omega)]⟩) dJ6_copyOf_3_32

/-! 16.strD.lean.txt -/
set_option maxRecDepth 100000
abbrev cJ12_charAt : ByteArray := prog_13_method_14_code
def yJ12_charAt : MethodName := ⟨RJ12, "charAt", "(I)C"⟩
def dkwJ12_charAt_1 : List UInt8 := [21, 4, 184, 0, 144, 28, 154, 0, 12, 45, 27, 51, 17, 0, 255, 126, 146, 172, 45, 27, 184, 0, 148, 172]
abbrev dktJ12_charAt_1 : List UInt8 := dkwJ12_charAt_1 ++ []
def dkwJ12_charAt_0 : List UInt8 := [42, 180, 0, 22, 61, 42, 180, 0, 15, 78, 42, 180, 0, 79, 45, 190, 28, 122, 184, 0, 138, 54, 4, 27]
abbrev dktJ12_charAt_0 : List UInt8 := dkwJ12_charAt_0 ++ dktJ12_charAt_1
theorem dksJ12_charAt_0 : cJ12_charAt.data.toList.drop 0 = dktJ12_charAt_0 := by decide +kernel
theorem dksJ12_charAt_1 : cJ12_charAt.data.toList.drop 24 = dktJ12_charAt_1 := dk_seg dksJ12_charAt_0 24 rfl rfl
abbrev cJ13_charAt : ByteArray := prog_31_method_88_code
def yJ13_charAt : MethodName := ⟨RJ13, "charAt", "(I)C"⟩
def dkwJ13_charAt_0 : List UInt8 := [42, 27, 183, 1, 73, 172]
abbrev dktJ13_charAt_0 : List UInt8 := dkwJ13_charAt_0 ++ []
theorem dksJ13_charAt_0 : cJ13_charAt.data.toList.drop 0 = dktJ13_charAt_0 := by decide +kernel
abbrev cJ12_setLength : ByteArray := prog_13_method_13_code
def yJ12_setLength : MethodName := ⟨RJ12, "setLength", "(I)V"⟩
def dkwJ12_setLength_3 : List UInt8 := [164, 0, 8, 42, 4, 181, 0, 73, 42, 27, 181, 0, 79, 177]
abbrev dktJ12_setLength_3 : List UInt8 := dkwJ12_setLength_3 ++ []
def dkwJ12_setLength_2 : List UInt8 := [167, 0, 31, 42, 180, 0, 15, 42, 180, 0, 79, 27, 184, 0, 137, 167, 0, 16, 42, 180, 0, 79, 27]
abbrev dktJ12_setLength_2 : List UInt8 := dkwJ12_setLength_2 ++ dktJ12_setLength_3
def dkwJ12_setLength_1 : List UInt8 := [162, 0, 40, 42, 182, 0, 83, 153, 0, 18, 42, 180, 0, 15, 42, 180, 0, 79, 27, 184, 0, 133]
abbrev dktJ12_setLength_1 : List UInt8 := dkwJ12_setLength_1 ++ dktJ12_setLength_2
def dkwJ12_setLength_0 : List UInt8 := [27, 156, 0, 12, 187, 0, 129, 89, 27, 183, 0, 131, 191, 42, 27, 182, 0, 100, 42, 180, 0, 79, 27]
abbrev dktJ12_setLength_0 : List UInt8 := dkwJ12_setLength_0 ++ dktJ12_setLength_1
theorem dksJ12_setLength_0 : cJ12_setLength.data.toList.drop 0 = dktJ12_setLength_0 := by decide +kernel
theorem dksJ12_setLength_1 : cJ12_setLength.data.toList.drop 23 = dktJ12_setLength_1 := dk_seg dksJ12_setLength_0 23 rfl rfl
theorem dksJ12_setLength_2 : cJ12_setLength.data.toList.drop 45 = dktJ12_setLength_2 := dk_seg dksJ12_setLength_1 22 rfl rfl
theorem dksJ12_setLength_3 : cJ12_setLength.data.toList.drop 68 = dktJ12_setLength_3 := dk_seg dksJ12_setLength_2 23 rfl rfl
abbrev cJ13_setLength : ByteArray := prog_31_method_89_code
def yJ13_setLength : MethodName := ⟨RJ13, "setLength", "(I)V"⟩
def dkwJ13_setLength_0 : List UInt8 := [42, 27, 183, 1, 77, 177]
abbrev dktJ13_setLength_0 : List UInt8 := dkwJ13_setLength_0 ++ []
theorem dksJ13_setLength_0 : cJ13_setLength.data.toList.drop 0 = dktJ13_setLength_0 := by decide +kernel
abbrev cJ16_indexOfChar : ByteArray := prog_33_method_23_code
def yJ16_indexOfChar : MethodName := ⟨RJ16, "indexOfChar", "([BIII)I"⟩
def dkwJ16_indexOfChar_1 : List UInt8 := [172, 132, 5, 1, 167, 255, 235, 2, 172]
abbrev dktJ16_indexOfChar_1 : List UInt8 := dkwJ16_indexOfChar_1 ++ []
def dkwJ16_indexOfChar_0 : List UInt8 := [27, 145, 54, 4, 28, 54, 5, 21, 5, 29, 162, 0, 21, 42, 21, 5, 51, 21, 4, 160, 0, 6, 21, 5]
abbrev dktJ16_indexOfChar_0 : List UInt8 := dkwJ16_indexOfChar_0 ++ dktJ16_indexOfChar_1
theorem dksJ16_indexOfChar_0 : cJ16_indexOfChar.data.toList.drop 0 = dktJ16_indexOfChar_0 := by decide +kernel
theorem dksJ16_indexOfChar_1 : cJ16_indexOfChar.data.toList.drop 24 = dktJ16_indexOfChar_1 := dk_seg dksJ16_indexOfChar_0 24 rfl rfl
abbrev cJ16_indexOf : ByteArray := prog_33_method_22_code
def yJ16_indexOf : MethodName := ⟨RJ16, "indexOf", "([BIII)I"⟩
def dkwJ16_indexOf_1 : List UInt8 := [161, 0, 5, 2, 172, 42, 27, 28, 29, 184, 0, 95, 172]
abbrev dktJ16_indexOf_1 : List UInt8 := dkwJ16_indexOf_1 ++ []
def dkwJ16_indexOf_0 : List UInt8 := [27, 184, 0, 88, 154, 0, 5, 2, 172, 28, 3, 184, 0, 92, 61, 29, 42, 190, 184, 0, 38, 62, 28, 29]
abbrev dktJ16_indexOf_0 : List UInt8 := dkwJ16_indexOf_0 ++ dktJ16_indexOf_1
theorem dksJ16_indexOf_0 : cJ16_indexOf.data.toList.drop 0 = dktJ16_indexOf_0 := by decide +kernel
theorem dksJ16_indexOf_1 : cJ16_indexOf.data.toList.drop 24 = dktJ16_indexOf_1 := dk_seg dksJ16_indexOf_0 24 rfl rfl
abbrev cJ14_indexOf_2 : ByteArray := prog_30_method_80_code
def yJ14_indexOf_2 : MethodName := ⟨RJ14, "indexOf", "(II)I"⟩
def dkwJ14_indexOf_2_1 : List UInt8 := [180, 0, 9, 27, 28, 42, 182, 1, 249, 184, 2, 128, 172]
abbrev dktJ14_indexOf_2_1 : List UInt8 := dkwJ14_indexOf_2_1 ++ []
def dkwJ14_indexOf_2_0 : List UInt8 := [42, 182, 1, 236, 153, 0, 19, 42, 180, 0, 9, 27, 28, 42, 182, 1, 249, 184, 2, 125, 167, 0, 16, 42]
abbrev dktJ14_indexOf_2_0 : List UInt8 := dkwJ14_indexOf_2_0 ++ dktJ14_indexOf_2_1
theorem dksJ14_indexOf_2_0 : cJ14_indexOf_2.data.toList.drop 0 = dktJ14_indexOf_2_0 := by decide +kernel
theorem dksJ14_indexOf_2_1 : cJ14_indexOf_2.data.toList.drop 24 = dktJ14_indexOf_2_1 := dk_seg dksJ14_indexOf_2_0 24 rfl rfl
abbrev cJ14_indexOf : ByteArray := prog_30_method_79_code
def yJ14_indexOf : MethodName := ⟨RJ14, "indexOf", "(I)I"⟩
def dkwJ14_indexOf_0 : List UInt8 := [42, 27, 3, 182, 2, 121, 172]
abbrev dktJ14_indexOf_0 : List UInt8 := dkwJ14_indexOf_0 ++ []
theorem dksJ14_indexOf_0 : cJ14_indexOf.data.toList.drop 0 = dktJ14_indexOf_0 := by decide +kernel
theorem dJ12_charAt_0 : decode cJ12_charAt 0 = .ok (.aload_n 0, 1) := dk_42 (dk_at dksJ12_charAt_0 0 rfl rfl)
theorem dJ12_charAt_1 : decode cJ12_charAt 1 = .ok (.getfield 22, 3) := dk_180 0 22 (dk_at dksJ12_charAt_0 1 rfl rfl)
theorem dJ12_charAt_4 : decode cJ12_charAt 4 = .ok (.istore_n 2, 1) := dk_61 (dk_at dksJ12_charAt_0 4 rfl rfl)
theorem dJ12_charAt_5 : decode cJ12_charAt 5 = .ok (.aload_n 0, 1) := dk_42 (dk_at dksJ12_charAt_0 5 rfl rfl)
theorem dJ12_charAt_6 : decode cJ12_charAt 6 = .ok (.getfield 15, 3) := dk_180 0 15 (dk_at dksJ12_charAt_0 6 rfl rfl)
theorem dJ12_charAt_9 : decode cJ12_charAt 9 = .ok (.astore_n 3, 1) := dk_78 (dk_at dksJ12_charAt_0 9 rfl rfl)
theorem dJ12_charAt_10 : decode cJ12_charAt 10 = .ok (.aload_n 0, 1) := dk_42 (dk_at dksJ12_charAt_0 10 rfl rfl)
theorem dJ12_charAt_11 : decode cJ12_charAt 11 = .ok (.getfield 79, 3) := dk_180 0 79 (dk_at dksJ12_charAt_0 11 rfl rfl)
theorem dJ12_charAt_14 : decode cJ12_charAt 14 = .ok (.aload_n 3, 1) := dk_45 (dk_at dksJ12_charAt_0 14 rfl rfl)
theorem dJ12_charAt_15 : decode cJ12_charAt 15 = .ok (.arraylength, 1) := dk_190 (dk_at dksJ12_charAt_0 15 rfl rfl)
theorem dJ12_charAt_16 : decode cJ12_charAt 16 = .ok (.iload_n 2, 1) := dk_28 (dk_at dksJ12_charAt_0 16 rfl rfl)
theorem dJ12_charAt_17 : decode cJ12_charAt 17 = .ok (.ishr, 1) := dk_122 (dk_at dksJ12_charAt_0 17 rfl rfl)
theorem dJ12_charAt_18 : decode cJ12_charAt 18 = .ok (.invokestatic 138, 3) := dk_184 0 138 (dk_at dksJ12_charAt_0 18 rfl rfl)
theorem dJ12_charAt_21 : decode cJ12_charAt 21 = .ok (.istore 4, 2) := dk_54 4 (dk_at dksJ12_charAt_0 21 rfl rfl)
theorem dJ12_charAt_23 : decode cJ12_charAt 23 = .ok (.iload_n 1, 1) := dk_27 (dk_at dksJ12_charAt_0 23 rfl rfl)
theorem dJ12_charAt_24 : decode cJ12_charAt 24 = .ok (.iload 4, 2) := dk_21 4 (dk_at dksJ12_charAt_1 0 rfl rfl)
theorem dJ12_charAt_26 : decode cJ12_charAt 26 = .ok (.invokestatic 144, 3) := dk_184 0 144 (dk_at dksJ12_charAt_1 2 rfl rfl)
theorem dJ12_charAt_29 : decode cJ12_charAt 29 = .ok (.iload_n 2, 1) := dk_28 (dk_at dksJ12_charAt_1 5 rfl rfl)
theorem dJ12_charAt_30 : decode cJ12_charAt 30 = .ok (.ifCond .ne 12, 3) := dk_154 0 12 (dk_at dksJ12_charAt_1 6 rfl rfl)
theorem dJ12_charAt_33 : decode cJ12_charAt 33 = .ok (.aload_n 3, 1) := dk_45 (dk_at dksJ12_charAt_1 9 rfl rfl)
theorem dJ12_charAt_34 : decode cJ12_charAt 34 = .ok (.iload_n 1, 1) := dk_27 (dk_at dksJ12_charAt_1 10 rfl rfl)
theorem dJ12_charAt_35 : decode cJ12_charAt 35 = .ok (.baload, 1) := dk_51 (dk_at dksJ12_charAt_1 11 rfl rfl)
theorem dJ12_charAt_36 : decode cJ12_charAt 36 = .ok (.sipush 255, 3) := dk_17 0 255 (dk_at dksJ12_charAt_1 12 rfl rfl)
theorem dJ12_charAt_39 : decode cJ12_charAt 39 = .ok (.iand, 1) := dk_126 (dk_at dksJ12_charAt_1 15 rfl rfl)
theorem dJ12_charAt_40 : decode cJ12_charAt 40 = .ok (.i2c, 1) := dk_146 (dk_at dksJ12_charAt_1 16 rfl rfl)
theorem dJ12_charAt_41 : decode cJ12_charAt 41 = .ok (.ireturn, 1) := dk_172 (dk_at dksJ12_charAt_1 17 rfl rfl)
theorem dJ13_charAt_0 : decode cJ13_charAt 0 = .ok (.aload_n 0, 1) := dk_42 (dk_at dksJ13_charAt_0 0 rfl rfl)
theorem dJ13_charAt_1 : decode cJ13_charAt 1 = .ok (.iload_n 1, 1) := dk_27 (dk_at dksJ13_charAt_0 1 rfl rfl)
theorem dJ13_charAt_2 : decode cJ13_charAt 2 = .ok (.invokespecial 329, 3) := dk_183 1 73 (dk_at dksJ13_charAt_0 2 rfl rfl)
theorem dJ13_charAt_5 : decode cJ13_charAt 5 = .ok (.ireturn, 1) := dk_172 (dk_at dksJ13_charAt_0 5 rfl rfl)
theorem dJ12_setLength_0 : decode cJ12_setLength 0 = .ok (.iload_n 1, 1) := dk_27 (dk_at dksJ12_setLength_0 0 rfl rfl)
theorem dJ12_setLength_1 : decode cJ12_setLength 1 = .ok (.ifCond .ge 12, 3) := dk_156 0 12 (dk_at dksJ12_setLength_0 1 rfl rfl)
theorem dJ12_setLength_13 : decode cJ12_setLength 13 = .ok (.aload_n 0, 1) := dk_42 (dk_at dksJ12_setLength_0 13 rfl rfl)
theorem dJ12_setLength_14 : decode cJ12_setLength 14 = .ok (.iload_n 1, 1) := dk_27 (dk_at dksJ12_setLength_0 14 rfl rfl)
theorem dJ12_setLength_15 : decode cJ12_setLength 15 = .ok (.invokevirtual 100, 3) := dk_182 0 100 (dk_at dksJ12_setLength_0 15 rfl rfl)
theorem dJ12_setLength_18 : decode cJ12_setLength 18 = .ok (.aload_n 0, 1) := dk_42 (dk_at dksJ12_setLength_0 18 rfl rfl)
theorem dJ12_setLength_19 : decode cJ12_setLength 19 = .ok (.getfield 79, 3) := dk_180 0 79 (dk_at dksJ12_setLength_0 19 rfl rfl)
theorem dJ12_setLength_22 : decode cJ12_setLength 22 = .ok (.iload_n 1, 1) := dk_27 (dk_at dksJ12_setLength_0 22 rfl rfl)
theorem dJ12_setLength_23 : decode cJ12_setLength 23 = .ok (.if_icmp .ge 40, 3) := dk_162 0 40 (dk_at dksJ12_setLength_1 0 rfl rfl)
theorem dJ12_setLength_63 : decode cJ12_setLength 63 = .ok (.aload_n 0, 1) := dk_42 (dk_at dksJ12_setLength_2 18 rfl rfl)
theorem dJ12_setLength_64 : decode cJ12_setLength 64 = .ok (.getfield 79, 3) := dk_180 0 79 (dk_at dksJ12_setLength_2 19 rfl rfl)
theorem dJ12_setLength_67 : decode cJ12_setLength 67 = .ok (.iload_n 1, 1) := dk_27 (dk_at dksJ12_setLength_2 22 rfl rfl)
theorem dJ12_setLength_68 : decode cJ12_setLength 68 = .ok (.if_icmp .le 8, 3) := dk_164 0 8 (dk_at dksJ12_setLength_3 0 rfl rfl)
theorem dJ12_setLength_71 : decode cJ12_setLength 71 = .ok (.aload_n 0, 1) := dk_42 (dk_at dksJ12_setLength_3 3 rfl rfl)
theorem dJ12_setLength_72 : decode cJ12_setLength 72 = .ok (.iconst 1, 1) := dk_4 (dk_at dksJ12_setLength_3 4 rfl rfl)
theorem dJ12_setLength_73 : decode cJ12_setLength 73 = .ok (.putfield 73, 3) := dk_181 0 73 (dk_at dksJ12_setLength_3 5 rfl rfl)
theorem dJ12_setLength_76 : decode cJ12_setLength 76 = .ok (.aload_n 0, 1) := dk_42 (dk_at dksJ12_setLength_3 8 rfl rfl)
theorem dJ12_setLength_77 : decode cJ12_setLength 77 = .ok (.iload_n 1, 1) := dk_27 (dk_at dksJ12_setLength_3 9 rfl rfl)
theorem dJ12_setLength_78 : decode cJ12_setLength 78 = .ok (.putfield 79, 3) := dk_181 0 79 (dk_at dksJ12_setLength_3 10 rfl rfl)
theorem dJ12_setLength_81 : decode cJ12_setLength 81 = .ok (.return_, 1) := dk_177 (dk_at dksJ12_setLength_3 13 rfl rfl)
theorem dJ13_setLength_0 : decode cJ13_setLength 0 = .ok (.aload_n 0, 1) := dk_42 (dk_at dksJ13_setLength_0 0 rfl rfl)
theorem dJ13_setLength_1 : decode cJ13_setLength 1 = .ok (.iload_n 1, 1) := dk_27 (dk_at dksJ13_setLength_0 1 rfl rfl)
theorem dJ13_setLength_2 : decode cJ13_setLength 2 = .ok (.invokespecial 333, 3) := dk_183 1 77 (dk_at dksJ13_setLength_0 2 rfl rfl)
theorem dJ13_setLength_5 : decode cJ13_setLength 5 = .ok (.return_, 1) := dk_177 (dk_at dksJ13_setLength_0 5 rfl rfl)
theorem dJ16_indexOfChar_0 : decode cJ16_indexOfChar 0 = .ok (.iload_n 1, 1) := dk_27 (dk_at dksJ16_indexOfChar_0 0 rfl rfl)
theorem dJ16_indexOfChar_1 : decode cJ16_indexOfChar 1 = .ok (.i2b, 1) := dk_145 (dk_at dksJ16_indexOfChar_0 1 rfl rfl)
theorem dJ16_indexOfChar_2 : decode cJ16_indexOfChar 2 = .ok (.istore 4, 2) := dk_54 4 (dk_at dksJ16_indexOfChar_0 2 rfl rfl)
theorem dJ16_indexOfChar_4 : decode cJ16_indexOfChar 4 = .ok (.iload_n 2, 1) := dk_28 (dk_at dksJ16_indexOfChar_0 4 rfl rfl)
theorem dJ16_indexOfChar_5 : decode cJ16_indexOfChar 5 = .ok (.istore 5, 2) := dk_54 5 (dk_at dksJ16_indexOfChar_0 5 rfl rfl)
theorem dJ16_indexOfChar_7 : decode cJ16_indexOfChar 7 = .ok (.iload 5, 2) := dk_21 5 (dk_at dksJ16_indexOfChar_0 7 rfl rfl)
theorem dJ16_indexOfChar_9 : decode cJ16_indexOfChar 9 = .ok (.iload_n 3, 1) := dk_29 (dk_at dksJ16_indexOfChar_0 9 rfl rfl)
theorem dJ16_indexOfChar_10 : decode cJ16_indexOfChar 10 = .ok (.if_icmp .ge 21, 3) := dk_162 0 21 (dk_at dksJ16_indexOfChar_0 10 rfl rfl)
theorem dJ16_indexOfChar_13 : decode cJ16_indexOfChar 13 = .ok (.aload_n 0, 1) := dk_42 (dk_at dksJ16_indexOfChar_0 13 rfl rfl)
theorem dJ16_indexOfChar_14 : decode cJ16_indexOfChar 14 = .ok (.iload 5, 2) := dk_21 5 (dk_at dksJ16_indexOfChar_0 14 rfl rfl)
theorem dJ16_indexOfChar_16 : decode cJ16_indexOfChar 16 = .ok (.baload, 1) := dk_51 (dk_at dksJ16_indexOfChar_0 16 rfl rfl)
theorem dJ16_indexOfChar_17 : decode cJ16_indexOfChar 17 = .ok (.iload 4, 2) := dk_21 4 (dk_at dksJ16_indexOfChar_0 17 rfl rfl)
theorem dJ16_indexOfChar_19 : decode cJ16_indexOfChar 19 = .ok (.if_icmp .ne 6, 3) := dk_160 0 6 (dk_at dksJ16_indexOfChar_0 19 rfl rfl)
theorem dJ16_indexOfChar_22 : decode cJ16_indexOfChar 22 = .ok (.iload 5, 2) := dk_21 5 (dk_at dksJ16_indexOfChar_0 22 rfl rfl)
theorem dJ16_indexOfChar_24 : decode cJ16_indexOfChar 24 = .ok (.ireturn, 1) := dk_172 (dk_at dksJ16_indexOfChar_1 0 rfl rfl)
theorem dJ16_indexOfChar_25 : decode cJ16_indexOfChar 25 = .ok (.iinc 5 1, 3) := dk_132 5 1 (dk_at dksJ16_indexOfChar_1 1 rfl rfl)
theorem dJ16_indexOfChar_28 : decode cJ16_indexOfChar 28 = .ok (.goto (-21), 3) := dk_167 255 235 (dk_at dksJ16_indexOfChar_1 4 rfl rfl)
theorem dJ16_indexOfChar_31 : decode cJ16_indexOfChar 31 = .ok (.iconst (-1), 1) := dk_2 (dk_at dksJ16_indexOfChar_1 7 rfl rfl)
theorem dJ16_indexOfChar_32 : decode cJ16_indexOfChar 32 = .ok (.ireturn, 1) := dk_172 (dk_at dksJ16_indexOfChar_1 8 rfl rfl)
theorem dJ16_indexOf_0 : decode cJ16_indexOf 0 = .ok (.iload_n 1, 1) := dk_27 (dk_at dksJ16_indexOf_0 0 rfl rfl)
theorem dJ16_indexOf_1 : decode cJ16_indexOf 1 = .ok (.invokestatic 88, 3) := dk_184 0 88 (dk_at dksJ16_indexOf_0 1 rfl rfl)
theorem dJ16_indexOf_4 : decode cJ16_indexOf 4 = .ok (.ifCond .ne 5, 3) := dk_154 0 5 (dk_at dksJ16_indexOf_0 4 rfl rfl)
theorem dJ16_indexOf_9 : decode cJ16_indexOf 9 = .ok (.iload_n 2, 1) := dk_28 (dk_at dksJ16_indexOf_0 9 rfl rfl)
theorem dJ16_indexOf_10 : decode cJ16_indexOf 10 = .ok (.iconst 0, 1) := dk_3 (dk_at dksJ16_indexOf_0 10 rfl rfl)
theorem dJ16_indexOf_11 : decode cJ16_indexOf 11 = .ok (.invokestatic 92, 3) := dk_184 0 92 (dk_at dksJ16_indexOf_0 11 rfl rfl)
theorem dJ16_indexOf_14 : decode cJ16_indexOf 14 = .ok (.istore_n 2, 1) := dk_61 (dk_at dksJ16_indexOf_0 14 rfl rfl)
theorem dJ16_indexOf_15 : decode cJ16_indexOf 15 = .ok (.iload_n 3, 1) := dk_29 (dk_at dksJ16_indexOf_0 15 rfl rfl)
theorem dJ16_indexOf_16 : decode cJ16_indexOf 16 = .ok (.aload_n 0, 1) := dk_42 (dk_at dksJ16_indexOf_0 16 rfl rfl)
theorem dJ16_indexOf_17 : decode cJ16_indexOf 17 = .ok (.arraylength, 1) := dk_190 (dk_at dksJ16_indexOf_0 17 rfl rfl)
theorem dJ16_indexOf_18 : decode cJ16_indexOf 18 = .ok (.invokestatic 38, 3) := dk_184 0 38 (dk_at dksJ16_indexOf_0 18 rfl rfl)
theorem dJ16_indexOf_21 : decode cJ16_indexOf 21 = .ok (.istore_n 3, 1) := dk_62 (dk_at dksJ16_indexOf_0 21 rfl rfl)
theorem dJ16_indexOf_22 : decode cJ16_indexOf 22 = .ok (.iload_n 2, 1) := dk_28 (dk_at dksJ16_indexOf_0 22 rfl rfl)
theorem dJ16_indexOf_23 : decode cJ16_indexOf 23 = .ok (.iload_n 3, 1) := dk_29 (dk_at dksJ16_indexOf_0 23 rfl rfl)
theorem dJ16_indexOf_24 : decode cJ16_indexOf 24 = .ok (.if_icmp .lt 5, 3) := dk_161 0 5 (dk_at dksJ16_indexOf_1 0 rfl rfl)
theorem dJ16_indexOf_27 : decode cJ16_indexOf 27 = .ok (.iconst (-1), 1) := dk_2 (dk_at dksJ16_indexOf_1 3 rfl rfl)
theorem dJ16_indexOf_28 : decode cJ16_indexOf 28 = .ok (.ireturn, 1) := dk_172 (dk_at dksJ16_indexOf_1 4 rfl rfl)
theorem dJ16_indexOf_29 : decode cJ16_indexOf 29 = .ok (.aload_n 0, 1) := dk_42 (dk_at dksJ16_indexOf_1 5 rfl rfl)
theorem dJ16_indexOf_30 : decode cJ16_indexOf 30 = .ok (.iload_n 1, 1) := dk_27 (dk_at dksJ16_indexOf_1 6 rfl rfl)
theorem dJ16_indexOf_31 : decode cJ16_indexOf 31 = .ok (.iload_n 2, 1) := dk_28 (dk_at dksJ16_indexOf_1 7 rfl rfl)
theorem dJ16_indexOf_32 : decode cJ16_indexOf 32 = .ok (.iload_n 3, 1) := dk_29 (dk_at dksJ16_indexOf_1 8 rfl rfl)
theorem dJ16_indexOf_33 : decode cJ16_indexOf 33 = .ok (.invokestatic 95, 3) := dk_184 0 95 (dk_at dksJ16_indexOf_1 9 rfl rfl)
theorem dJ16_indexOf_36 : decode cJ16_indexOf 36 = .ok (.ireturn, 1) := dk_172 (dk_at dksJ16_indexOf_1 12 rfl rfl)
theorem dJ14_indexOf_2_0 : decode cJ14_indexOf_2 0 = .ok (.aload_n 0, 1) := dk_42 (dk_at dksJ14_indexOf_2_0 0 rfl rfl)
theorem dJ14_indexOf_2_1 : decode cJ14_indexOf_2 1 = .ok (.invokevirtual 492, 3) := dk_182 1 236 (dk_at dksJ14_indexOf_2_0 1 rfl rfl)
theorem dJ14_indexOf_2_4 : decode cJ14_indexOf_2 4 = .ok (.ifCond .eq 19, 3) := dk_153 0 19 (dk_at dksJ14_indexOf_2_0 4 rfl rfl)
theorem dJ14_indexOf_2_7 : decode cJ14_indexOf_2 7 = .ok (.aload_n 0, 1) := dk_42 (dk_at dksJ14_indexOf_2_0 7 rfl rfl)
theorem dJ14_indexOf_2_8 : decode cJ14_indexOf_2 8 = .ok (.getfield 9, 3) := dk_180 0 9 (dk_at dksJ14_indexOf_2_0 8 rfl rfl)
theorem dJ14_indexOf_2_11 : decode cJ14_indexOf_2 11 = .ok (.iload_n 1, 1) := dk_27 (dk_at dksJ14_indexOf_2_0 11 rfl rfl)
theorem dJ14_indexOf_2_12 : decode cJ14_indexOf_2 12 = .ok (.iload_n 2, 1) := dk_28 (dk_at dksJ14_indexOf_2_0 12 rfl rfl)
theorem dJ14_indexOf_2_13 : decode cJ14_indexOf_2 13 = .ok (.aload_n 0, 1) := dk_42 (dk_at dksJ14_indexOf_2_0 13 rfl rfl)
theorem dJ14_indexOf_2_14 : decode cJ14_indexOf_2 14 = .ok (.invokevirtual 505, 3) := dk_182 1 249 (dk_at dksJ14_indexOf_2_0 14 rfl rfl)
theorem dJ14_indexOf_2_17 : decode cJ14_indexOf_2 17 = .ok (.invokestatic 637, 3) := dk_184 2 125 (dk_at dksJ14_indexOf_2_0 17 rfl rfl)
theorem dJ14_indexOf_2_20 : decode cJ14_indexOf_2 20 = .ok (.goto 16, 3) := dk_167 0 16 (dk_at dksJ14_indexOf_2_0 20 rfl rfl)
theorem dJ14_indexOf_2_36 : decode cJ14_indexOf_2 36 = .ok (.ireturn, 1) := dk_172 (dk_at dksJ14_indexOf_2_1 12 rfl rfl)
theorem dJ14_indexOf_0 : decode cJ14_indexOf 0 = .ok (.aload_n 0, 1) := dk_42 (dk_at dksJ14_indexOf_0 0 rfl rfl)
theorem dJ14_indexOf_1 : decode cJ14_indexOf 1 = .ok (.iload_n 1, 1) := dk_27 (dk_at dksJ14_indexOf_0 1 rfl rfl)
theorem dJ14_indexOf_2 : decode cJ14_indexOf 2 = .ok (.iconst 0, 1) := dk_3 (dk_at dksJ14_indexOf_0 2 rfl rfl)
theorem dJ14_indexOf_3 : decode cJ14_indexOf 3 = .ok (.invokevirtual 633, 3) := dk_182 2 121 (dk_at dksJ14_indexOf_0 3 rfl rfl)
theorem dJ14_indexOf_6 : decode cJ14_indexOf 6 = .ok (.ireturn, 1) := dk_172 (dk_at dksJ14_indexOf_0 6 rfl rfl)
theorem q2048 : (Jvm.Cond.methodLink "java/lang/StringBuilder" (329 : Nat) ({ cls := "java/lang/AbstractStringBuilder", name := "charAt", desc := "(I)C" } : Jvm.MethodName)) ∈ lw_all := lw_g (lw_at lw_m9 66 rfl) rfl
theorem q2049 : (Jvm.Cond.instanceMethod ({ cls := "java/lang/AbstractStringBuilder", name := "charAt", desc := "(I)C" } : Jvm.MethodName)) ∈ lw_all := lw_g (lw_at lw_m9 67 rfl) rfl
theorem q2050 : (Jvm.Cond.code ({ cls := "java/lang/AbstractStringBuilder", name := "charAt", desc := "(I)C" } : Jvm.MethodName) prog_13_method_14_code (5 : Nat) (Option.some Jvm.ClassFile.FieldType.char)) ∈ lw_all := lw_g (lw_at lw_m9 68 rfl) rfl
theorem q2051 : (Jvm.Cond.methodLink "java/lang/AbstractStringBuilder" (138 : Nat) ({ cls := "java/lang/Math", name := "min", desc := "(II)I" } : Jvm.MethodName)) ∈ lw_all := lw_g (lw_at lw_m9 69 rfl) rfl
theorem q2052 : (Jvm.Cond.methodLink "java/lang/AbstractStringBuilder" (144 : Nat) ({ cls := "java/lang/String", name := "checkIndex", desc := "(II)V" } : Jvm.MethodName)) ∈ lw_all := lw_g (lw_at lw_m9 70 rfl) rfl
theorem q2489 : (Jvm.Cond.sameMethod "java/lang/AbstractStringBuilder" "java/lang/AbstractStringBuilder" "setLength" "(I)V") ∈ lw_all := lw_g (lw_at lw_m11 27 rfl) rfl
theorem q2492 : (Jvm.Cond.sameMethod "java/lang/AbstractStringBuilder" "java/lang/AbstractStringBuilder" "charAt" "(I)C") ∈ lw_all := lw_g (lw_at lw_m11 30 rfl) rfl
theorem q350 : (Jvm.Cond.fieldLink "java/lang/AbstractStringBuilder" (73 : Nat) "java/lang/AbstractStringBuilder" "maybeLatin1" "Z") ∈ lw_all := lw_g (lw_at lw_m2 48 rfl) rfl
theorem q458 : (Jvm.Cond.methodLink "java/lang/String" (633 : Nat) ({ cls := "java/lang/String", name := "indexOf", desc := "(II)I" } : Jvm.MethodName)) ∈ lw_all := lw_g (lw_at lw_m2 156 rfl) rfl
theorem q459 : (Jvm.Cond.instanceMethod ({ cls := "java/lang/String", name := "indexOf", desc := "(II)I" } : Jvm.MethodName)) ∈ lw_all := lw_g (lw_at lw_m2 157 rfl) rfl
theorem q460 : (Jvm.Cond.selects "java/lang/String" ({ cls := "java/lang/String", name := "indexOf", desc := "(II)I" } : Jvm.MethodName) ({ cls := "java/lang/String", name := "indexOf", desc := "(II)I" } : Jvm.MethodName)) ∈ lw_all := lw_g (lw_at lw_m2 158 rfl) rfl
theorem q461 : (Jvm.Cond.code ({ cls := "java/lang/String", name := "indexOf", desc := "(II)I" } : Jvm.MethodName) prog_30_method_80_code (3 : Nat) (Option.some Jvm.ClassFile.FieldType.int)) ∈ lw_all := lw_g (lw_at lw_m2 159 rfl) rfl
theorem q467 : (Jvm.Cond.methodLink "java/lang/String" (505 : Nat) ({ cls := "java/lang/String", name := "length", desc := "()I" } : Jvm.MethodName)) ∈ lw_all := lw_g (lw_at lw_m2 165 rfl) rfl
theorem q475 : (Jvm.Cond.methodLink "java/lang/String" (637 : Nat) ({ cls := "java/lang/StringLatin1", name := "indexOf", desc := "([BIII)I" } : Jvm.MethodName)) ∈ lw_all := lw_g (lw_at lw_m2 173 rfl) rfl
theorem q476 : (Jvm.Cond.static ({ cls := "java/lang/StringLatin1", name := "indexOf", desc := "([BIII)I" } : Jvm.MethodName)) ∈ lw_all := lw_g (lw_at lw_m2 174 rfl) rfl
theorem q477 : (Jvm.Cond.code ({ cls := "java/lang/StringLatin1", name := "indexOf", desc := "([BIII)I" } : Jvm.MethodName) prog_33_method_22_code (4 : Nat) (Option.some Jvm.ClassFile.FieldType.int)) ∈ lw_all := lw_g (lw_at lw_m2 175 rfl) rfl
theorem q478 : (Jvm.Cond.methodLink "java/lang/StringLatin1" (88 : Nat) ({ cls := "java/lang/StringLatin1", name := "canEncode", desc := "(I)Z" } : Jvm.MethodName)) ∈ lw_all := lw_g (lw_at lw_m2 176 rfl) rfl
theorem q479 : (Jvm.Cond.static ({ cls := "java/lang/StringLatin1", name := "canEncode", desc := "(I)Z" } : Jvm.MethodName)) ∈ lw_all := lw_g (lw_at lw_m2 177 rfl) rfl
theorem q480 : (Jvm.Cond.code ({ cls := "java/lang/StringLatin1", name := "canEncode", desc := "(I)Z" } : Jvm.MethodName) prog_33_method_4_code (1 : Nat) (Option.some Jvm.ClassFile.FieldType.boolean)) ∈ lw_all := lw_g (lw_at lw_m2 178 rfl) rfl
theorem q481 : (Jvm.Cond.methodLink "java/lang/StringLatin1" (92 : Nat) ({ cls := "java/lang/Math", name := "max", desc := "(II)I" } : Jvm.MethodName)) ∈ lw_all := lw_g (lw_at lw_m2 179 rfl) rfl
theorem q482 : (Jvm.Cond.methodLink "java/lang/StringLatin1" (38 : Nat) ({ cls := "java/lang/Math", name := "min", desc := "(II)I" } : Jvm.MethodName)) ∈ lw_all := lw_g (lw_at lw_m2 180 rfl) rfl
theorem q483 : (Jvm.Cond.methodLink "java/lang/StringLatin1" (95 : Nat) ({ cls := "java/lang/StringLatin1", name := "indexOfChar", desc := "([BIII)I" } : Jvm.MethodName)) ∈ lw_all := lw_g (lw_at lw_m2 181 rfl) rfl
theorem q484 : (Jvm.Cond.static ({ cls := "java/lang/StringLatin1", name := "indexOfChar", desc := "([BIII)I" } : Jvm.MethodName)) ∈ lw_all := lw_g (lw_at lw_m2 182 rfl) rfl
theorem q485 : (Jvm.Cond.code ({ cls := "java/lang/StringLatin1", name := "indexOfChar", desc := "([BIII)I" } : Jvm.MethodName) prog_33_method_23_code (6 : Nat) (Option.some Jvm.ClassFile.FieldType.int)) ∈ lw_all := lw_g (lw_at lw_m2 183 rfl) rfl
theorem q804 : (Jvm.Cond.methodLink "java/lang/StringBuilder" (333 : Nat) ({ cls := "java/lang/AbstractStringBuilder", name := "setLength", desc := "(I)V" } : Jvm.MethodName)) ∈ lw_all := lw_g (lw_at lw_m4 22 rfl) rfl
theorem q805 : (Jvm.Cond.instanceMethod ({ cls := "java/lang/AbstractStringBuilder", name := "setLength", desc := "(I)V" } : Jvm.MethodName)) ∈ lw_all := lw_g (lw_at lw_m4 23 rfl) rfl
theorem q806 : (Jvm.Cond.code ({ cls := "java/lang/AbstractStringBuilder", name := "setLength", desc := "(I)V" } : Jvm.MethodName) prog_13_method_13_code (2 : Nat) (Option.none : Option Jvm.ClassFile.FieldType)) ∈ lw_all := lw_g (lw_at lw_m4 24 rfl) rfl
/-- the first place of a letter; -1: it isn't there -/
def zix (t : List Int) (c : Int) : Int := match t.idxOf? c with
  | some i => i
  | none => -1
theorem zix_at {t : List Int} {c : Int} {i : Nat} (h : t[i]? = some c) (hno : ∀ j, j < i → t[j]? ≠ some c) : zix t c = i := by
  have e : t.idxOf? c = some i := by
    rw [List.idxOf?, List.findIdx?_eq_some_iff_getElem]
    obtain ⟨hl, he⟩ := List.getElem?_eq_some_iff.mp h
    refine ⟨hl, by simp [he], fun j hj => ?_⟩
    have := hno j hj
    rw [List.getElem?_eq_getElem (by omega)] at this
    simpa using this
  rw [zix, e]
theorem zix_no {t : List Int} {c : Int} (hno : ∀ j : Nat, t[j]? ≠ some c) : zix t c = -1 := by
  have e : t.idxOf? c = none := by
    rw [List.idxOf?, List.findIdx?_eq_none_iff]
    intro x hx
    obtain ⟨j, hj⟩ := List.getElem?_of_mem hx
    have := hno j
    rw [hj] at this
    simpa using this
  rw [zix, e]
theorem zix_end {t : List Int} {c i : Int} (hi : (t.length : Nat) ≤ i) (hno : ∀ j : Nat, (j : Int) < i → t[j]? ≠ some c) : -1 = zix t c := by
  rw [zix_no fun j => ?_]
  rcases Nat.lt_or_ge j t.length with e | e
  · exact hno j (by omega)
  · rw [List.getElem?_eq_none e]
    exact fun z => nomatch z
theorem zix_step {t : List Int} {c i c1 : Int} (hno : ∀ j : Nat, (j : Int) < i → t[j]? ≠ some c) (h1 : t[i.toNat]? = some c1) (hne : ¬ c1 = c) : ∀ j : Nat, (j : Int) < i + 1 → t[j]? ≠ some c := by
  intro j hj
  rcases (show (j : Int) < i ∨ j = i.toNat by omega) with e | e
  · exact hno j e
  · rw [e, h1]
    intro z
    injection z with z
    exact hne z
set_option maxHeartbeats 4000000 in
theorem ct_B_charAt0 {l : Launch} (hl : l.stackTraces = false) {Γ : zCx} {h : zH} {b v : Nat} {t : List Int} {cap : Nat} (hb : bAt h b v t cap) {i c : Int} (hi : 0 ≤ i) (hc : t[i.toNat]? = some c) : zMet l yJ12_charAt (ws_ yJ12_charAt cJ12_charAt 5 (some .char)) ({ frames := 2, cells := 0, slots := 0, locals := 43 }) Γ h [.ref b, .int (iI i)] (zpure h (some (.int (iI c)))) 0 0 := by
  refine zMet.of (cc := cJ12_charAt) hl (plainFor_of_name (by decide +kernel)) (Nat.le_of_ble_eq_true rfl) ?_
  intro X hXl hXΓ hXp C hnm hnL
  have C : zC X cJ12_charAt RJ12 (some .char) 2 43 [] := C
  have hnL : X.2.1.2.2.2.2 = 5 := hnL
  subst hXl hXΓ
  show Z X h 0 0 [(0, .ref b), (1, .int (iI i))] 0 []
  have hb0 := hb
  obtain ⟨z, fb, hb1, hv1, hlen, hcap, hcon, hfit, hasc⟩ := hb
  have hlt : i.toNat < t.length := (List.getElem?_eq_some_iff.mp hc).1
  have hcr := hasc c (List.mem_of_getElem? hc)
  refine z_aload_n (pc := 0) (j := 0) C dJ12_charAt_0 rfl rfl ?_
  refine z_getfield (pc := 1) (v := .int (iI 0)) C in_J13 rfl 1 (by decide) q349 (fun _ z => z) hb1 rfl dJ12_charAt_1 ?_
  refine z_istore_n (pc := 4) (L' := [(2, .int (iI 0)), (0, .ref b), (1, .int (iI i))]) C dJ12_charAt_4 rfl (by rw [hnL]; decide) rfl ?_
  refine z_aload_n (pc := 5) (j := 1) C dJ12_charAt_5 rfl rfl ?_
  refine z_getfield (pc := 6) (v := .ref v) C in_J13 rfl 0 (by decide) q348 (fun _ z => z) hb1 rfl dJ12_charAt_6 ?_
  refine z_astore_n (pc := 9) (L' := [(3, .ref v), (2, .int (iI 0)), (0, .ref b), (1, .int (iI i))]) C dJ12_charAt_9 rfl (by rw [hnL]; decide) rfl ?_
  refine z_aload_n (pc := 10) (j := 2) C dJ12_charAt_10 rfl rfl ?_
  refine z_getfield (pc := 11) (v := .int (iI ((t.length : Nat) : Int))) C in_J13 rfl 3 (by decide) q352 (fun _ z => z) hb1 rfl dJ12_charAt_11 ?_
  refine z_aload_n (pc := 14) (j := 0) C dJ12_charAt_14 rfl rfl ?_
  refine z_alen (pc := 15) C hv1 dJ12_charAt_15 ?_
  refine z_iload_n (pc := 16) (j := 1) C dJ12_charAt_16 rfl rfl ?_
  refine z_ishr0 (pc := 17) C dJ12_charAt_17 ?_
  refine z_callS (pc := 18) (n := 2) (kc' := 0) (ks' := 0) C (ct_min C.t (x := ((t.length : Nat) : Int)) (y := ((cap : Nat) : Int)) (by omega) (by omega)) (lw_S q2051 q266 q71 q267) (by decide +kernel) ⟨by decide, by decide⟩ rfl rfl (Nat.le_of_ble_eq_true rfl) dJ12_charAt_18 (by omega) (by omega) (zpk (st' := [.int (iI (min ((t.length : Nat) : Int) ((cap : Nat) : Int)))]) rfl ?_) zrx
  refine z_istore (pc := 21) (L' := [(4, .int (iI (min ((t.length : Nat) : Int) ((cap : Nat) : Int)))), (3, .ref v), (2, .int (iI 0)), (0, .ref b), (1, .int (iI i))]) C dJ12_charAt_21 (by rw [hnL]; decide) rfl ?_
  refine z_iload_n (pc := 23) (j := 4) C dJ12_charAt_23 rfl rfl ?_
  refine z_iload (pc := 24) (j := 0) C dJ12_charAt_24 rfl ?_
  refine z_callS (pc := 26) (n := 2) (kc' := 0) (ks' := 0) C (ct_S_checkIndex C.t (i := i) (n := min ((t.length : Nat) : Int) ((cap : Nat) : Int)) (by omega)) (lw_S q2052 q568 q83 q569) (by decide +kernel) ⟨by decide, by decide⟩ rfl rfl (Nat.le_of_ble_eq_true rfl) dJ12_charAt_26 (by omega) (by omega) (zpk (st' := []) rfl ?_) zrx
  refine z_iload_n (pc := 29) (j := 2) C dJ12_charAt_29 rfl rfl ?_
  refine z_if_ne (pc := 30) (tgt := 42) C dJ12_charAt_30 (by decide) (by decide) (fun z => absurd z (by decide)) (fun _ => ?_)
  refine z_aload_n (pc := 33) (j := 1) C dJ12_charAt_33 rfl rfl ?_
  refine z_iload_n (pc := 34) (j := 4) C dJ12_charAt_34 rfl rfl ?_
  refine z_baload (pc := 35) (v := .int (iI c)) C hv1 (by omega) (hcon _ _ hc) dJ12_charAt_35 ?_
  refine z_sipush (pc := 36) C dJ12_charAt_36 (by decide) ?_
  refine z_and255 (pc := 39) C (by omega) dJ12_charAt_39 ?_
  refine z_i2cI (pc := 40) C (by omega) dJ12_charAt_40 ?_
  exact z_zreturn (pc := 41) C (i_nc hcr.1 (by omega)) (by rw [hXp]; exact zpure_i (by omega) rfl) dJ12_charAt_41
set_option maxHeartbeats 4000000 in
theorem ct_B_charAt {l : Launch} (hl : l.stackTraces = false) {Γ : zCx} {h : zH} {b v : Nat} {t : List Int} {cap : Nat} (hb : bAt h b v t cap) {i c : Int} (hi : 0 ≤ i) (hc : t[i.toNat]? = some c) : zMet l yJ13_charAt (ws_ yJ13_charAt cJ13_charAt 2 (some .char)) ({ frames := 3, cells := 0, slots := 0, locals := 67 }) Γ h [.ref b, .int (iI i)] (zpure h (some (.int (iI c)))) 0 0 := by
  refine zMet.of (cc := cJ13_charAt) hl (plainFor_of_name (by decide +kernel)) (Nat.le_of_ble_eq_true rfl) ?_
  intro X hXl hXΓ hXp C hnm hnL
  have C : zC X cJ13_charAt RJ13 (some .char) 3 67 [] := C
  have hnL : X.2.1.2.2.2.2 = 2 := hnL
  subst hXl hXΓ
  show Z X h 0 0 [(0, .ref b), (1, .int (iI i))] 0 []
  have hb0 := hb
  obtain ⟨z, fb, hb1, hv1, hlen, hcap, hcon, hfit, hasc⟩ := hb
  have hlt : i.toNat < t.length := (List.getElem?_eq_some_iff.mp hc).1
  have hcr := hasc c (List.mem_of_getElem? hc)
  refine z_aload_n (pc := 0) (j := 0) C dJ13_charAt_0 rfl rfl ?_
  refine z_iload_n (pc := 1) (j := 1) C dJ13_charAt_1 rfl rfl ?_
  refine z_callSU (pc := 2) (n := 1) (kc' := 0) (ks' := 0) C (ct_B_charAt0 C.t hb0 (i := i) hi hc) q2050 q2048 q2492 q361 q2049 q81 (by decide +kernel) ⟨by decide, by decide⟩ hb1 rfl rfl rfl (Nat.le_of_ble_eq_true rfl) dJ13_charAt_2 (by omega) (by omega) (zpk (st' := [.int (iI c)]) rfl ?_) zrx
  exact z_zreturn (pc := 5) C (i_nc hcr.1 (by omega)) (by rw [hXp]; exact zpure_i (by omega) rfl) dJ13_charAt_5
set_option maxHeartbeats 4000000 in
theorem ct_B_ens0 {l : Launch} (hl : l.stackTraces = false) {Γ : zCx} {h : zH} {b v : Nat} {t : List Int} {cap : Nat} (hb : bAt h b v t cap)  : zMet l yJ12_ensureCapacityInternal (ws_ yJ12_ensureCapacityInternal cJ12_ensureCapacityInternal 3 none) ({ frames := 0, cells := 0, slots := 0, locals := 0 }) Γ h [.ref b, .int (iI 0)] (zpure h none) 0 0 := by
  refine zMet.of (cc := cJ12_ensureCapacityInternal) hl (plainFor_of_name (by decide +kernel)) (Nat.le_of_ble_eq_true rfl) ?_
  intro X hXl hXΓ hXp C hnm hnL
  have C : zC X cJ12_ensureCapacityInternal RJ12 none 0 0 [] := C
  have hnL : X.2.1.2.2.2.2 = 3 := hnL
  subst hXl hXΓ
  show Z X h 0 0 [(0, .ref b), (1, .int (iI 0))] 0 []
  obtain ⟨z, fb, hb1, hv1, hlen, hcap, hcon, hfit, hasc⟩ := hb
  refine z_aload_n (pc := 0) (j := 0) C dJ12_ensureCapacityInternal_0 rfl rfl ?_
  refine z_getfield (pc := 1) (v := .ref v) C in_J13 rfl 0 (by decide) q348 (fun _ z => z) hb1 rfl dJ12_ensureCapacityInternal_1 ?_
  refine z_alen (pc := 4) C hv1 dJ12_ensureCapacityInternal_4 ?_
  refine z_aload_n (pc := 5) (j := 0) C dJ12_ensureCapacityInternal_5 rfl rfl ?_
  refine z_getfield (pc := 6) (v := .int (iI 0)) C in_J13 rfl 1 (by decide) q349 (fun _ z => z) hb1 rfl dJ12_ensureCapacityInternal_6 ?_
  refine z_ishr0 (pc := 9) C dJ12_ensureCapacityInternal_9 ?_
  refine z_istore_n (pc := 10) (L' := [(2, .int (iI ((cap : Nat) : Int))), (0, .ref b), (1, .int (iI 0))]) C dJ12_ensureCapacityInternal_10 rfl (by rw [hnL]; decide) rfl ?_
  refine z_iload_n (pc := 11) (j := 2) C dJ12_ensureCapacityInternal_11 rfl rfl ?_
  refine z_iload_n (pc := 12) (j := 0) C dJ12_ensureCapacityInternal_12 rfl rfl ?_
  refine z_isub (pc := 13) C dJ12_ensureCapacityInternal_13 ?_
  refine z_if_le (pc := 14) (tgt := 38) C dJ12_ensureCapacityInternal_14 (by decide) (by omega) (fun c14 => ?_) (fun c14 => by exfalso; omega)
  exact z_return (pc := 38) C (by rw [hXp]; exact zpure_v rfl rfl) dJ12_ensureCapacityInternal_38
set_option maxHeartbeats 4000000 in
theorem ct_B_setLen0 {l : Launch} (hl : l.stackTraces = false) {Γ : zCx} {h : zH} {b v : Nat} {t : List Int} {cap : Nat} (hb : bAt h b v t cap)  : zMet l yJ12_setLength (ws_ yJ12_setLength cJ12_setLength 2 none) ({ frames := 1, cells := 0, slots := 0, locals := 22 }) Γ h [.ref b, .int (iI 0)] (zrt (fun w h' => w = none ∧ bAt h' b v [] cap ∧ zkeep h h' [b])) 0 0 := by
  refine zMet.of (cc := cJ12_setLength) hl (plainFor_of_name (by decide +kernel)) (Nat.le_of_ble_eq_true rfl) ?_
  intro X hXl hXΓ hXp C hnm hnL
  have C : zC X cJ12_setLength RJ12 none 1 22 [] := C
  have hnL : X.2.1.2.2.2.2 = 2 := hnL
  subst hXl hXΓ
  show Z X h 0 0 [(0, .ref b), (1, .int (iI 0))] 0 []
  have hb0 := hb
  obtain ⟨z, fb, hb1, hv1, hlen, hcap, hcon, hfit, hasc⟩ := hb
  refine z_iload_n (pc := 0) (j := 1) C dJ12_setLength_0 rfl rfl ?_
  refine z_if_ge (pc := 1) (tgt := 13) C dJ12_setLength_1 (by decide) (by decide) (fun _ => ?_) (fun z => absurd z (by decide))
  refine z_aload_n (pc := 13) (j := 0) C dJ12_setLength_13 rfl rfl ?_
  refine z_iload_n (pc := 14) (j := 1) C dJ12_setLength_14 rfl rfl ?_
  refine z_callU (pc := 15) (n := 1) (kc' := 0) (ks' := 0) C (ct_B_ens0 C.t hb0) q676 q673 q2482 (Or.inr ⟨rfl, by decide⟩) q675 q81 (by decide +kernel) ⟨by decide, by decide⟩ hb1 rfl rfl rfl (Nat.le_of_ble_eq_true rfl) dJ12_setLength_15 (by omega) (by omega) (zpk (st' := []) rfl ?_) zrx
  refine z_aload_n (pc := 18) (j := 0) C dJ12_setLength_18 rfl rfl ?_
  refine z_getfield (pc := 19) (v := .int (iI ((t.length : Nat) : Int))) C in_J13 rfl 3 (by decide) q352 (fun _ z => z) hb1 rfl dJ12_setLength_19 ?_
  refine z_iload_n (pc := 22) (j := 1) C dJ12_setLength_22 rfl rfl ?_
  refine z_icmp_ge (pc := 23) (tgt := 63) C dJ12_setLength_23 (by decide) (by omega) (by decide) (fun c23 => ?_) (fun c23 => by exfalso; omega)
  refine z_aload_n (pc := 63) (j := 0) C dJ12_setLength_63 rfl rfl ?_
  refine z_getfield (pc := 64) (v := .int (iI ((t.length : Nat) : Int))) C in_J13 rfl 3 (by decide) q352 (fun _ z => z) hb1 rfl dJ12_setLength_64 ?_
  refine z_iload_n (pc := 67) (j := 1) C dJ12_setLength_67 rfl rfl ?_
  refine z_icmp_le (pc := 68) (tgt := 76) C dJ12_setLength_68 (by decide) (by omega) (by decide) (fun c68 => ?_) (fun c68 => ?_)
  · refine z_aload_n (pc := 76) (j := 0) C dJ12_setLength_76 rfl rfl ?_
    refine z_iload_n (pc := 77) (j := 1) C dJ12_setLength_77 rfl rfl ?_
    refine z_putfield (pc := 78) (fs' := [.ref v, .int (iI 0), .int z, .int (iI 0)]) C in_J13 tyJ13 tyJ13_ok nmJ13 rfl 3 (by decide) q352 (fun _ z => z) rfl rfl rfl (Nat.le_of_ble_eq_true rfl) hb1 rfl dJ12_setLength_78 ?_
    refine Z.nm (fun h1 eh1 => ?_)
    have kh1 : zkeep h h1 [b] := by rw [eh1]; exact zkeep.up zkeep.rf (Or.inl (by simp)) hb1
    have fh1_0 : h1 b = some (true, .inr (12, [.ref v, .int (iI 0), .int z, .int (iI 0)])) := zse eh1
    exact z_return (pc := 81) C (by rw [hXp]; exact ⟨_, rfl, rfl, bAt.mk (t := []) (by rfl) rfl fh1_0 (kh1.n hv1 (List.not_mem_cons_of_ne_of_not_mem (Ne.symm (zneA hb1 hv1)) List.not_mem_nil)) (Nat.zero_le _) hcap (fun j c e => by simp at e) hfit (fun c hc => nomatch hc), kh1⟩) dJ12_setLength_81
  · refine z_aload_n (pc := 71) (j := 0) C dJ12_setLength_71 rfl rfl ?_
    refine z_iconst (pc := 72) C dJ12_setLength_72 ?_
    refine z_putfield (pc := 73) (fs' := [.ref v, .int (iI 0), .int (iI 1), .int (iI ((t.length : Nat) : Int))]) C in_J13 tyJ13 tyJ13_ok nmJ13 rfl 2 (by decide) q350 (fun _ z => z) rfl (by decide) (by decide) (Nat.le_of_ble_eq_true rfl) hb1 rfl dJ12_setLength_73 ?_
    refine Z.nm (fun h2 eh2 => ?_)
    have kh2 : zkeep h h2 [b] := by rw [eh2]; exact zkeep.up zkeep.rf (Or.inl (by simp)) hb1
    have fh2_0 : h2 b = some (true, .inr (12, [.ref v, .int (iI 0), .int (iI 1), .int (iI ((t.length : Nat) : Int))])) := zse eh2
    refine z_aload_n (pc := 76) (j := 0) C dJ12_setLength_76 rfl rfl ?_
    refine z_iload_n (pc := 77) (j := 1) C dJ12_setLength_77 rfl rfl ?_
    refine z_putfield (pc := 78) (fs' := [.ref v, .int (iI 0), .int (iI 1), .int (iI 0)]) C in_J13 tyJ13 tyJ13_ok nmJ13 rfl 3 (by decide) q352 (fun _ z => z) rfl rfl rfl (Nat.le_of_ble_eq_true rfl) fh2_0 rfl dJ12_setLength_78 ?_
    refine Z.nm (fun h3 eh3 => ?_)
    have kh3 : zkeep h h3 [b] := by rw [eh3]; exact zkeep.up kh2 (Or.inl (by simp)) fh2_0
    have fh3_0 : h3 b = some (true, .inr (12, [.ref v, .int (iI 0), .int (iI 1), .int (iI 0)])) := zse eh3
    exact z_return (pc := 81) C (by rw [hXp]; exact ⟨_, rfl, rfl, bAt.mk (t := []) (by rfl) rfl fh3_0 (kh3.n hv1 (List.not_mem_cons_of_ne_of_not_mem (Ne.symm (zneA hb1 hv1)) List.not_mem_nil)) (Nat.zero_le _) hcap (fun j c e => by simp at e) hfit (fun c hc => nomatch hc), kh3⟩) dJ12_setLength_81
set_option maxHeartbeats 4000000 in
theorem ct_B_setLen {l : Launch} (hl : l.stackTraces = false) {Γ : zCx} {h : zH} {b v : Nat} {t : List Int} {cap : Nat} (hb : bAt h b v t cap)  : zMet l yJ13_setLength (ws_ yJ13_setLength cJ13_setLength 2 none) ({ frames := 2, cells := 0, slots := 0, locals := 43 }) Γ h [.ref b, .int (iI 0)] (zrt (fun w h' => w = none ∧ bAt h' b v [] cap ∧ zkeep h h' [b])) 0 0 := by
  refine zMet.of (cc := cJ13_setLength) hl (plainFor_of_name (by decide +kernel)) (Nat.le_of_ble_eq_true rfl) ?_
  intro X hXl hXΓ hXp C hnm hnL
  have C : zC X cJ13_setLength RJ13 none 2 43 [] := C
  have hnL : X.2.1.2.2.2.2 = 2 := hnL
  subst hXl hXΓ
  show Z X h 0 0 [(0, .ref b), (1, .int (iI 0))] 0 []
  have hb0 := hb
  obtain ⟨z, fb, hb1, hv1, hlen, hcap, hcon, hfit, hasc⟩ := hb
  refine z_aload_n (pc := 0) (j := 0) C dJ13_setLength_0 rfl rfl ?_
  refine z_iload_n (pc := 1) (j := 1) C dJ13_setLength_1 rfl rfl ?_
  refine z_callSU (pc := 2) (n := 1) (kc' := 0) (ks' := 0) C (ct_B_setLen0 C.t hb0) q806 q804 q2489 q361 q805 q81 (by decide +kernel) ⟨by decide, by decide⟩ hb1 rfl rfl rfl (Nat.le_of_ble_eq_true rfl) dJ13_setLength_2 (by omega) (by omega) (zrk fun w h1 hp => ?_) zrx
  obtain ⟨rfl, hb2, k3⟩ := hp
  have kh1 : zkeep h h1 [b] := zkeep.loc zkeep.rf k3 (zall_cons (Or.inl (Or.symm (Or.inl (by simp)))) zall_nil)
  have hx_4 := hb2
  obtain ⟨z_4, f_4, hb_4, hv_4, hlen_4, hcap_4, hcon_4, hfit_4, hasc_4⟩ := hx_4
  show Z X h1 0 0 [(0, .ref b), (1, .int (iI 0))] 5 []
  exact z_return (pc := 5) C (by rw [hXp]; exact ⟨_, rfl, rfl, hb2, kh1⟩) dJ13_setLength_5
set_option maxHeartbeats 4000000 in
theorem ct_L_indexOfChar {l : Launch} (hl : l.stackTraces = false) {Γ : zCx} {h : zH} {v : Nat} {f2 : Bool} {f : Nat → Value} {t : List Int} (hv : h v = some (f2, .inl (.byte, t.length, f))) (hn : t.length ≤ 100000) (h3 : ∀ (j : Nat) (c : Int), t[j]? = some c → f j = .int (iI c)) (h4 : ∀ c ∈ t, 0 ≤ c ∧ c < 128) {c : Int} (hc : 0 ≤ c ∧ c < 128) : zMet l yJ16_indexOfChar (ws_ yJ16_indexOfChar cJ16_indexOfChar 6 (some .int)) ({ frames := 0, cells := 0, slots := 0, locals := 0 }) Γ h [.ref v, .int (iI c), .int (iI 0), .int (iI ((t.length : Nat) : Int))] (zpure h (some (.int (iI (zix t c))))) 0 0 := by
  refine zMet.of (cc := cJ16_indexOfChar) hl (plainFor_of_name (by decide +kernel)) (Nat.le_of_ble_eq_true rfl) ?_
  intro X hXl hXΓ hXp C hnm hnL
  have C : zC X cJ16_indexOfChar RJ16 (some .int) 0 0 [] := C
  have hnL : X.2.1.2.2.2.2 = 6 := hnL
  subst hXl hXΓ
  show Z X h 0 0 [(0, .ref v), (1, .int (iI c)), (2, .int (iI 0)), (3, .int (iI ((t.length : Nat) : Int)))] 0 []
  refine z_iload_n (pc := 0) (j := 1) C dJ16_indexOfChar_0 rfl rfl ?_
  refine z_i2bI (pc := 1) C (by omega) dJ16_indexOfChar_1 ?_
  refine z_istore (pc := 2) (L' := [(4, .int (iI c)), (0, .ref v), (1, .int (iI c)), (2, .int (iI 0)), (3, .int (iI ((t.length : Nat) : Int)))]) C dJ16_indexOfChar_2 (by rw [hnL]; decide) rfl ?_
  refine z_iload_n (pc := 4) (j := 3) C dJ16_indexOfChar_4 rfl rfl ?_
  refine z_istore (pc := 5) (L' := [(5, .int (iI 0)), (4, .int (iI c)), (0, .ref v), (1, .int (iI c)), (2, .int (iI 0)), (3, .int (iI ((t.length : Nat) : Int)))]) C dJ16_indexOfChar_5 (by rw [hnL]; decide) rfl ?_
  have loop7 : ∀ (n7 : Nat) (i : Int), (0 ≤ i ∧ i ≤ (t.length : Nat)) → (∀ j : Nat, (j : Int) < i → t[j]? ≠ some c) → (((t.length : Nat) - i).toNat) = n7 → Z X h 0 0 [(5, .int (iI i)), (4, .int (iI c)), (3, .int (iI ((t.length : Nat) : Int))), (2, .int (iI 0)), (1, .int (iI c)), (0, .ref v)] 7 [] := by
    intro n7
    induction n7 using Nat.strongRecOn with
    | ind n7 ih7 =>
    intro i hi hno hn7
    refine z_iload (pc := 7) (j := 0) C dJ16_indexOfChar_7 rfl ?_
    refine z_iload_n (pc := 9) (j := 2) C dJ16_indexOfChar_9 rfl rfl ?_
    refine z_icmp_ge (pc := 10) (tgt := 31) C dJ16_indexOfChar_10 (by decide) (by omega) (by omega) (fun c10 => ?_) (fun c10 => ?_)
    · refine z_iconst (pc := 31) C dJ16_indexOfChar_31 ?_
      exact z_ireturn (pc := 32) C (by rw [hXp]; exact zpure_i (zix_end (by omega) hno) rfl) dJ16_indexOfChar_32
    · refine z_aload_n (pc := 13) (j := 5) C dJ16_indexOfChar_13 rfl rfl ?_
      refine z_iload (pc := 14) (j := 0) C dJ16_indexOfChar_14 rfl ?_
      obtain ⟨c1, hc1⟩ : ∃ c1, t[i.toNat]? = some c1 := ⟨_, List.getElem?_eq_getElem (by omega)⟩
      have hr1 := h4 c1 (List.mem_of_getElem? hc1)
      refine z_baload (pc := 16) (v := .int (iI c1)) C hv (by omega) (h3 _ _ hc1) dJ16_indexOfChar_16 ?_
      refine z_iload (pc := 17) (j := 1) C dJ16_indexOfChar_17 rfl ?_
      refine z_icmp_ne (pc := 19) (tgt := 25) C dJ16_indexOfChar_19 (by decide) (by omega) (by omega) (fun c19 => ?_) (fun c19 => ?_)
      · refine z_iinc (pc := 25) (k := 0) (L' := [(5, .int (iI (i + 1))), (4, .int (iI c)), (3, .int (iI ((t.length : Nat) : Int))), (2, .int (iI 0)), (1, .int (iI c)), (0, .ref v)]) C dJ16_indexOfChar_25 rfl (by rw [hnL]; decide) rfl ?_
        refine z_goto (pc := 28) (tgt := 7) C dJ16_indexOfChar_28 (by decide) ?_
        refine Z.weak (L' := [(5, .int (iI (i + 1))), (4, .int (iI c)), (3, .int (iI ((t.length : Nat) : Int))), (2, .int (iI 0)), (1, .int (iI c)), (0, .ref v)]) (kc' := 0) (ks' := 0) [0, 1, 2, 3, 4, 5] rfl (by omega) (by omega) ?_
        exact ih7 _ (by omega) (i + 1) (by omega) (zix_step hno hc1 c19) rfl
      · refine z_iload (pc := 22) (j := 0) C dJ16_indexOfChar_22 rfl ?_
        exact z_ireturn (pc := 24) C (by rw [hXp]; exact zpure_i (by rw [zix_at (i := i.toNat) (by rw [hc1]; congr 1) (fun j hj => hno j (by omega))]; omega) rfl) dJ16_indexOfChar_24
  refine Z.weak (L' := [(5, .int (iI 0)), (4, .int (iI c)), (3, .int (iI ((t.length : Nat) : Int))), (2, .int (iI 0)), (1, .int (iI c)), (0, .ref v)]) (kc' := 0) (ks' := 0) [0, 1, 5, 4, 3, 2] rfl (by omega) (by omega) ?_
  exact loop7 _ 0 (by omega) (by intro j hj; omega) rfl
set_option maxHeartbeats 4000000 in
theorem ct_L_indexOf {l : Launch} (hl : l.stackTraces = false) {Γ : zCx} {h : zH} {v : Nat} {f2 : Bool} {f : Nat → Value} {t : List Int} (hv : h v = some (f2, .inl (.byte, t.length, f))) (hn : t.length ≤ 100000) (h3 : ∀ (j : Nat) (c : Int), t[j]? = some c → f j = .int (iI c)) (h4 : ∀ c ∈ t, 0 ≤ c ∧ c < 128) {c : Int} (hc : 0 ≤ c ∧ c < 128) : zMet l yJ16_indexOf (ws_ yJ16_indexOf cJ16_indexOf 4 (some .int)) ({ frames := 1, cells := 0, slots := 0, locals := 25 }) Γ h [.ref v, .int (iI c), .int (iI 0), .int (iI ((t.length : Nat) : Int))] (zpure h (some (.int (iI (zix t c))))) 0 0 := by
  refine zMet.of (cc := cJ16_indexOf) hl (plainFor_of_name (by decide +kernel)) (Nat.le_of_ble_eq_true rfl) ?_
  intro X hXl hXΓ hXp C hnm hnL
  have C : zC X cJ16_indexOf RJ16 (some .int) 1 25 [] := C
  have hnL : X.2.1.2.2.2.2 = 4 := hnL
  subst hXl hXΓ
  show Z X h 0 0 [(0, .ref v), (1, .int (iI c)), (2, .int (iI 0)), (3, .int (iI ((t.length : Nat) : Int)))] 0 []
  refine z_iload_n (pc := 0) (j := 1) C dJ16_indexOf_0 rfl rfl ?_
  refine z_callS (pc := 1) (n := 1) (kc' := 0) (ks' := 0) C (ct_L_canI C.t (c := c) (by omega)) (lw_S q478 q479 q86 q480) (by decide +kernel) ⟨by decide, by decide⟩ rfl rfl (Nat.le_of_ble_eq_true rfl) dJ16_indexOf_1 (by omega) (by omega) (zpk (st' := [.int (iI 1)]) rfl ?_) zrx
  refine z_if_ne (pc := 4) (tgt := 9) C dJ16_indexOf_4 (by decide) (by decide) (fun _ => ?_) (fun z => absurd z (by decide))
  refine z_iload_n (pc := 9) (j := 2) C dJ16_indexOf_9 rfl rfl ?_
  refine z_iconst (pc := 10) C dJ16_indexOf_10 ?_
  refine z_callS (pc := 11) (n := 2) (kc' := 0) (ks' := 0) C (ct_max C.t (x := 0) (y := 0) (by omega) (by omega)) (lw_S q481 q223 q71 q224) (by decide +kernel) ⟨by decide, by decide⟩ rfl rfl (Nat.le_of_ble_eq_true rfl) dJ16_indexOf_11 (by omega) (by omega) (zpk (st' := [.int (iI (max 0 0))]) rfl ?_) zrx
  rw [show max (0 : Int) 0 = 0 from rfl]
  show Z X h 0 0 [(0, .ref v), (1, .int (iI c)), (2, .int (iI 0)), (3, .int (iI ((t.length : Nat) : Int)))] 14 [.int (iI 0)]
  refine z_istore_n (pc := 14) (L' := [(2, .int (iI 0)), (0, .ref v), (1, .int (iI c)), (3, .int (iI ((t.length : Nat) : Int)))]) C dJ16_indexOf_14 rfl (by rw [hnL]; decide) rfl ?_
  refine z_iload_n (pc := 15) (j := 3) C dJ16_indexOf_15 rfl rfl ?_
  refine z_aload_n (pc := 16) (j := 1) C dJ16_indexOf_16 rfl rfl ?_
  refine z_alen (pc := 17) C hv dJ16_indexOf_17 ?_
  refine z_callS (pc := 18) (n := 2) (kc' := 0) (ks' := 0) C (ct_min C.t (x := ((t.length : Nat) : Int)) (y := ((t.length : Nat) : Int)) (by omega) (by omega)) (lw_S q482 q266 q71 q267) (by decide +kernel) ⟨by decide, by decide⟩ rfl rfl (Nat.le_of_ble_eq_true rfl) dJ16_indexOf_18 (by omega) (by omega) (zpk (st' := [.int (iI (min ((t.length : Nat) : Int) ((t.length : Nat) : Int)))]) rfl ?_) zrx
  rw [Int.min_self]
  show Z X h 0 0 [(2, .int (iI 0)), (0, .ref v), (1, .int (iI c)), (3, .int (iI ((t.length : Nat) : Int)))] 21 [.int (iI ((t.length : Nat) : Int))]
  refine z_istore_n (pc := 21) (L' := [(3, .int (iI ((t.length : Nat) : Int))), (2, .int (iI 0)), (0, .ref v), (1, .int (iI c))]) C dJ16_indexOf_21 rfl (by rw [hnL]; decide) rfl ?_
  refine z_iload_n (pc := 22) (j := 1) C dJ16_indexOf_22 rfl rfl ?_
  refine z_iload_n (pc := 23) (j := 0) C dJ16_indexOf_23 rfl rfl ?_
  refine z_icmp_lt (pc := 24) (tgt := 29) C dJ16_indexOf_24 (by decide) (by decide) (by omega) (fun c24 => ?_) (fun c24 => ?_)
  · refine z_aload_n (pc := 29) (j := 2) C dJ16_indexOf_29 rfl rfl ?_
    refine z_iload_n (pc := 30) (j := 3) C dJ16_indexOf_30 rfl rfl ?_
    refine z_iload_n (pc := 31) (j := 1) C dJ16_indexOf_31 rfl rfl ?_
    refine z_iload_n (pc := 32) (j := 0) C dJ16_indexOf_32 rfl rfl ?_
    refine z_callS (pc := 33) (n := 4) (kc' := 0) (ks' := 0) C (ct_L_indexOfChar (t := t) C.t hv hn h3 h4 (c := c) hc) (lw_S q483 q484 q86 q485) (by decide +kernel) ⟨by decide, by decide⟩ rfl rfl (Nat.le_of_ble_eq_true rfl) dJ16_indexOf_33 (by omega) (by omega) (zpk (st' := [.int (iI (zix t c))]) rfl ?_) zrx
    exact z_ireturn (pc := 36) C (by rw [hXp]; exact zpure_i rfl rfl) dJ16_indexOf_36
  · refine z_iconst (pc := 27) C dJ16_indexOf_27 ?_
    exact z_ireturn (pc := 28) C (by rw [hXp]; exact zpure_i (zix_end (i := 0) (by omega) (by intro j hj; omega)) rfl) dJ16_indexOf_28
set_option maxHeartbeats 4000000 in
theorem ct_S_indexOf2 {l : Launch} (hl : l.stackTraces = false) {Γ : zCx} {h : zH} {a : Nat} {t : List Int} (hs : sAt h a t) {c : Int} (hc : 0 ≤ c ∧ c < 128) : zMet l yJ14_indexOf_2 (ws_ yJ14_indexOf_2 cJ14_indexOf_2 3 (some .int)) ({ frames := 2, cells := 0, slots := 0, locals := 48 }) Γ h [.ref a, .int (iI c), .int (iI 0)] (zpure h (some (.int (iI (zix t c))))) 0 0 := by
  refine zMet.of (cc := cJ14_indexOf_2) hl (plainFor_of_name (by decide +kernel)) (Nat.le_of_ble_eq_true rfl) ?_
  intro X hXl hXΓ hXp C hnm hnL
  have C : zC X cJ14_indexOf_2 RJ14 (some .int) 2 48 [] := C
  have hnL : X.2.1.2.2.2.2 = 3 := hnL
  subst hXl hXΓ
  show Z X h 0 0 [(0, .ref a), (1, .int (iI c)), (2, .int (iI 0))] 0 []
  have hs0 := hs
  obtain ⟨hl_a, v_a, x_a, y_a, f_a, h1_a, h2_a, h3_a, h4_a⟩ := hs
  have h1_a : h a = some (false, .inr (13, [.ref v_a, .int (iI 0), .int x_a, .int y_a])) := h1_a
  refine z_aload_n (pc := 0) (j := 0) C dJ14_indexOf_2_0 rfl rfl ?_
  refine z_callV (pc := 1) (n := 0) (kc' := 0) (ks' := 0) C (ct_S_isLatin1 C.t h1_a) (lw_V q462 q463 q464 q83 q465) (by decide +kernel) ⟨by decide, by decide⟩ h1_a rfl rfl rfl (Nat.le_of_ble_eq_true rfl) dJ14_indexOf_2_1 (by omega) (by omega) (zpk (st' := [.int (iI 1)]) rfl ?_) zrx
  refine z_if_eq (pc := 4) (tgt := 23) C dJ14_indexOf_2_4 (by decide) (by decide) (fun z => absurd z (by decide)) (fun _ => ?_)
  refine z_aload_n (pc := 7) (j := 0) C dJ14_indexOf_2_7 rfl rfl ?_
  refine z_getfield (pc := 8) (v := .ref v_a) C in_J14 rfl 0 (by decide) q787 (fun _ z => z) h1_a rfl dJ14_indexOf_2_8 ?_
  refine z_iload_n (pc := 11) (j := 1) C dJ14_indexOf_2_11 rfl rfl ?_
  refine z_iload_n (pc := 12) (j := 2) C dJ14_indexOf_2_12 rfl rfl ?_
  refine z_aload_n (pc := 13) (j := 0) C dJ14_indexOf_2_13 rfl rfl ?_
  refine z_callV (pc := 14) (n := 0) (kc' := 0) (ks' := 0) C (ct_S_length C.t hs0) (lw_V q467 q468 q469 q83 q470) (by decide +kernel) ⟨by decide, by decide⟩ h1_a rfl rfl rfl (Nat.le_of_ble_eq_true rfl) dJ14_indexOf_2_14 (by omega) (by omega) (zpk (st' := [.int (iI ((t.length : Nat) : Int)), .int (iI 0), .int (iI c), .ref v_a]) rfl ?_) zrx
  refine z_callS (pc := 17) (n := 4) (kc' := 0) (ks' := 0) C (ct_L_indexOf (t := t) C.t h2_a hl_a h3_a h4_a (c := c) hc) (lw_S q475 q476 q86 q477) (by decide +kernel) ⟨by decide, by decide⟩ rfl rfl (Nat.le_of_ble_eq_true rfl) dJ14_indexOf_2_17 (by omega) (by omega) (zpk (st' := [.int (iI (zix t c))]) rfl ?_) zrx
  refine z_goto (pc := 20) (tgt := 36) C dJ14_indexOf_2_20 (by decide) ?_
  exact z_ireturn (pc := 36) C (by rw [hXp]; exact zpure_i rfl rfl) dJ14_indexOf_2_36
set_option maxHeartbeats 4000000 in
theorem ct_S_indexOf {l : Launch} (hl : l.stackTraces = false) {Γ : zCx} {h : zH} {a : Nat} {t : List Int} (hs : sAt h a t) {c : Int} (hc : 0 ≤ c ∧ c < 128) : zMet l yJ14_indexOf (ws_ yJ14_indexOf cJ14_indexOf 2 (some .int)) ({ frames := 3, cells := 0, slots := 0, locals := 70 }) Γ h [.ref a, .int (iI c)] (zpure h (some (.int (iI (zix t c))))) 0 0 := by
  refine zMet.of (cc := cJ14_indexOf) hl (plainFor_of_name (by decide +kernel)) (Nat.le_of_ble_eq_true rfl) ?_
  intro X hXl hXΓ hXp C hnm hnL
  have C : zC X cJ14_indexOf RJ14 (some .int) 3 70 [] := C
  have hnL : X.2.1.2.2.2.2 = 2 := hnL
  subst hXl hXΓ
  show Z X h 0 0 [(0, .ref a), (1, .int (iI c))] 0 []
  have hs0 := hs
  obtain ⟨hl_a, v_a, x_a, y_a, f_a, h1_a, h2_a, h3_a, h4_a⟩ := hs
  have h1_a : h a = some (false, .inr (13, [.ref v_a, .int (iI 0), .int x_a, .int y_a])) := h1_a
  refine z_aload_n (pc := 0) (j := 0) C dJ14_indexOf_0 rfl rfl ?_
  refine z_iload_n (pc := 1) (j := 1) C dJ14_indexOf_1 rfl rfl ?_
  refine z_iconst (pc := 2) C dJ14_indexOf_2 ?_
  refine z_callV (pc := 3) (n := 2) (kc' := 0) (ks' := 0) C (ct_S_indexOf2 C.t hs0 (c := c) hc) (lw_V q458 q459 q460 q83 q461) (by decide +kernel) ⟨by decide, by decide⟩ h1_a rfl rfl rfl (Nat.le_of_ble_eq_true rfl) dJ14_indexOf_3 (by omega) (by omega) (zpk (st' := [.int (iI (zix t c))]) rfl ?_) zrx
  exact z_ireturn (pc := 6) C (by rw [hXp]; exact zpure_i rfl rfl) dJ14_indexOf_6
theorem ct_B_appSt {l : Launch} (hl : l.stackTraces = false) {Γ : zCx} {h : zH} {b v : Nat} {t : List Int} {cap : Nat} (hb : bAt h b v t cap) {a : Nat} {s : List Int} (hs : sAt h a s) (hsl : s.length ≤ 20000) (ht : t.length + s.length ≤ 40000) : zMet l yJ13_append_2 (ws_ yJ13_append_2 cJ13_append_2 2 (some (.object "java/lang/StringBuilder"))) ({ frames := 5, cells := gC cap (t.length + s.length), slots := gS cap (t.length + s.length), locals := 113 }) Γ h [.ref b, .ref a] (zrt (fun w h' => w = some (.ref b) ∧ ∃ v', bAt h' b v' (t ++ s) (gcap cap (t.length + s.length)) ∧ (v' = v ∨ h v' = none) ∧ zkeep h h' [b, v])) (gC cap (t.length + s.length)) (gS cap (t.length + s.length)) := by
  obtain ⟨-, va, x, y, f, h1, h2, h3, h4⟩ := hs
  have hne : va ≠ v := by
    obtain ⟨z, g, g1, g2, g3⟩ := hb
    exact zneW h2 g2
  exact ct_B_appS hl hb h1 h2 h3 h4 hsl hne ht
/-- room: enough to bring a builder of cap places to n letters -/
def bC (cap n : Nat) : Nat := n - cap
def bS (cap n : Nat) : Nat := if n ≤ cap then 0 else 4 * n + 8 - 2 * cap
theorem gC_b {cap n N : Nat} (h : n ≤ N) : gC cap n + bC (gcap cap n) N ≤ bC cap N := by unfold gC bC gcap; split <;> omega
theorem gS_b {cap n N : Nat} (h : n ≤ N) : gS cap n + bS (gcap cap n) N ≤ bS cap N := by unfold gS bS gcap; split <;> (try split) <;> (try split) <;> omega

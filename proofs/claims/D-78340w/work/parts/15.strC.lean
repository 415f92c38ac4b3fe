/-! 15.strC.lean.txt -/
set_option maxRecDepth 100000
abbrev cJ12_init : ByteArray := prog_13_method_2_code
def yJ12_init : MethodName := ⟨RJ12, "<init>", "(I)V"⟩
def dkwJ12_init_1 : List UInt8 := [167, 0, 16, 42, 27, 184, 0, 26, 181, 0, 15, 42, 4, 181, 0, 22, 177]
abbrev dktJ12_init_1 : List UInt8 := dkwJ12_init_1 ++ []
def dkwJ12_init_0 : List UInt8 := [42, 183, 0, 3, 178, 0, 18, 153, 0, 18, 42, 27, 188, 8, 181, 0, 15, 42, 3, 181, 0, 22]
abbrev dktJ12_init_0 : List UInt8 := dkwJ12_init_0 ++ dktJ12_init_1
theorem dksJ12_init_0 : cJ12_init.data.toList.drop 0 = dktJ12_init_0 := by decide +kernel
theorem dksJ12_init_1 : cJ12_init.data.toList.drop 22 = dktJ12_init_1 := dk_seg dksJ12_init_0 22 rfl rfl
abbrev cJ13_init : ByteArray := prog_31_method_1_code
def yJ13_init : MethodName := ⟨RJ13, "<init>", "()V"⟩
def dkwJ13_init_0 : List UInt8 := [42, 16, 16, 183, 0, 1, 177]
abbrev dktJ13_init_0 : List UInt8 := dkwJ13_init_0 ++ []
theorem dksJ13_init_0 : cJ13_init.data.toList.drop 0 = dktJ13_init_0 := by decide +kernel
abbrev cJ13_init_2 : ByteArray := prog_31_method_2_code
def yJ13_init_2 : MethodName := ⟨RJ13, "<init>", "(I)V"⟩
def dkwJ13_init_2_0 : List UInt8 := [42, 27, 183, 0, 1, 177]
abbrev dktJ13_init_2_0 : List UInt8 := dkwJ13_init_2_0 ++ []
theorem dksJ13_init_2_0 : cJ13_init_2.data.toList.drop 0 = dktJ13_init_2_0 := by decide +kernel
abbrev cJ6_checkLength : ByteArray := prog_45_method_131_code
def yJ6_checkLength : MethodName := ⟨RJ6, "checkLength", "(II)V"⟩
def dkwJ6_checkLength_1 : List UInt8 := [182, 0, 50, 27, 182, 0, 54, 182, 0, 61, 183, 0, 65, 191, 177]
abbrev dktJ6_checkLength_1 : List UInt8 := dkwJ6_checkLength_1 ++ []
def dkwJ6_checkLength_0 : List UInt8 := [27, 26, 162, 0, 35, 187, 0, 43, 89, 187, 0, 45, 89, 183, 0, 47, 26, 182, 0, 54, 19, 1, 81]
abbrev dktJ6_checkLength_0 : List UInt8 := dkwJ6_checkLength_0 ++ dktJ6_checkLength_1
theorem dksJ6_checkLength_0 : cJ6_checkLength.data.toList.drop 0 = dktJ6_checkLength_0 := by decide +kernel
theorem dksJ6_checkLength_1 : cJ6_checkLength.data.toList.drop 23 = dktJ6_checkLength_1 := dk_seg dksJ6_checkLength_0 23 rfl rfl
abbrev cJ6_copyOfRangeByte : ByteArray := prog_45_method_133_code
def yJ6_copyOfRangeByte : MethodName := ⟨RJ6, "copyOfRangeByte", "([BII)[B"⟩
def dkwJ6_copyOfRangeByte_1 : List UInt8 := [184, 1, 48, 184, 0, 150, 25, 4, 176]
abbrev dktJ6_copyOfRangeByte_1 : List UInt8 := dkwJ6_copyOfRangeByte_1 ++ []
def dkwJ6_copyOfRangeByte_0 : List UInt8 := [27, 28, 184, 1, 87, 28, 27, 100, 62, 29, 188, 8, 58, 4, 42, 27, 25, 4, 3, 42, 190, 27, 100, 29]
abbrev dktJ6_copyOfRangeByte_0 : List UInt8 := dkwJ6_copyOfRangeByte_0 ++ dktJ6_copyOfRangeByte_1
theorem dksJ6_copyOfRangeByte_0 : cJ6_copyOfRangeByte.data.toList.drop 0 = dktJ6_copyOfRangeByte_0 := by decide +kernel
theorem dksJ6_copyOfRangeByte_1 : cJ6_copyOfRangeByte.data.toList.drop 24 = dktJ6_copyOfRangeByte_1 := dk_seg dksJ6_copyOfRangeByte_0 24 rfl rfl
abbrev cJ6_copyOfRange : ByteArray := prog_45_method_132_code
def yJ6_copyOfRange : MethodName := ⟨RJ6, "copyOfRange", "([BII)[B"⟩
def dkwJ6_copyOfRange_1 : List UInt8 := [176]
abbrev dktJ6_copyOfRange_1 : List UInt8 := dkwJ6_copyOfRange_1 ++ []
def dkwJ6_copyOfRange_0 : List UInt8 := [27, 154, 0, 9, 28, 42, 190, 159, 0, 10, 42, 27, 28, 184, 1, 83, 176, 42, 182, 1, 54, 192, 1, 55]
abbrev dktJ6_copyOfRange_0 : List UInt8 := dkwJ6_copyOfRange_0 ++ dktJ6_copyOfRange_1
theorem dksJ6_copyOfRange_0 : cJ6_copyOfRange.data.toList.drop 0 = dktJ6_copyOfRange_0 := by decide +kernel
theorem dksJ6_copyOfRange_1 : cJ6_copyOfRange.data.toList.drop 24 = dktJ6_copyOfRange_1 := dk_seg dksJ6_copyOfRange_0 24 rfl rfl
abbrev cJ14_init_2 : ByteArray := prog_30_method_150_code
def yJ14_init_2 : MethodName := ⟨RJ14, "<init>", "(Ljava/lang/AbstractStringBuilder;Ljava/lang/Void;)V"⟩
def dkwJ14_init_2_4 : List UInt8 := [181, 0, 9, 177]
abbrev dktJ14_init_2_4 : List UInt8 := dkwJ14_init_2_4 ++ []
def dkwJ14_init_2_3 : List UInt8 := [184, 0, 47, 181, 0, 15, 177, 42, 4, 181, 0, 15, 42, 45, 3, 21, 4, 4, 120, 184, 0, 54]
abbrev dktJ14_init_2_3 : List UInt8 := dkwJ14_init_2_3 ++ dktJ14_init_2_4
def dkwJ14_init_2_2 : List UInt8 := [180, 4, 24, 153, 0, 28, 42, 45, 3, 21, 4, 184, 4, 27, 181, 0, 9, 42, 42, 180, 0, 9, 21, 4]
abbrev dktJ14_init_2_2 : List UInt8 := dkwJ14_init_2_2 ++ dktJ14_init_2_3
def dkwJ14_init_2_1 : List UInt8 := [181, 0, 15, 42, 45, 3, 21, 4, 184, 0, 54, 181, 0, 9, 167, 0, 59, 178, 0, 38, 153, 0, 35, 43]
abbrev dktJ14_init_2_1 : List UInt8 := dkwJ14_init_2_1 ++ dktJ14_init_2_2
def dkwJ14_init_2_0 : List UInt8 := [42, 183, 0, 1, 43, 182, 2, 40, 78, 43, 182, 2, 37, 54, 4, 43, 182, 4, 23, 153, 0, 22, 42, 3]
abbrev dktJ14_init_2_0 : List UInt8 := dkwJ14_init_2_0 ++ dktJ14_init_2_1
theorem dksJ14_init_2_0 : cJ14_init_2.data.toList.drop 0 = dktJ14_init_2_0 := by decide +kernel
theorem dksJ14_init_2_1 : cJ14_init_2.data.toList.drop 24 = dktJ14_init_2_1 := dk_seg dksJ14_init_2_0 24 rfl rfl
theorem dksJ14_init_2_2 : cJ14_init_2.data.toList.drop 48 = dktJ14_init_2_2 := dk_seg dksJ14_init_2_1 24 rfl rfl
theorem dksJ14_init_2_3 : cJ14_init_2.data.toList.drop 72 = dktJ14_init_2_3 := dk_seg dksJ14_init_2_2 24 rfl rfl
theorem dksJ14_init_2_4 : cJ14_init_2.data.toList.drop 94 = dktJ14_init_2_4 := dk_seg dksJ14_init_2_3 22 rfl rfl
abbrev cJ14_init : ByteArray := prog_30_method_53_code
def yJ14_init : MethodName := ⟨RJ14, "<init>", "(Ljava/lang/StringBuilder;)V"⟩
def dkwJ14_init_0 : List UInt8 := [42, 43, 1, 183, 1, 233, 177]
abbrev dktJ14_init_0 : List UInt8 := dkwJ14_init_0 ++ []
theorem dksJ14_init_0 : cJ14_init.data.toList.drop 0 = dktJ14_init_0 := by decide +kernel
abbrev cJ13_toString : ByteArray := prog_31_method_42_code
def yJ13_toString : MethodName := ⟨RJ13, "toString", "()Ljava/lang/String;"⟩
def dkwJ13_toString_0 : List UInt8 := [187, 0, 18, 89, 42, 183, 0, 137, 176]
abbrev dktJ13_toString_0 : List UInt8 := dkwJ13_toString_0 ++ []
theorem dksJ13_toString_0 : cJ13_toString.data.toList.drop 0 = dktJ13_toString_0 := by decide +kernel
theorem dJ12_init_0 : decode cJ12_init 0 = .ok (.aload_n 0, 1) := dk_42 (dk_at dksJ12_init_0 0 rfl rfl)
theorem dJ12_init_1 : decode cJ12_init 1 = .ok (.invokespecial 3, 3) := dk_183 0 3 (dk_at dksJ12_init_0 1 rfl rfl)
theorem dJ12_init_4 : decode cJ12_init 4 = .ok (.getstatic 18, 3) := dk_178 0 18 (dk_at dksJ12_init_0 4 rfl rfl)
theorem dJ12_init_7 : decode cJ12_init 7 = .ok (.ifCond .eq 18, 3) := dk_153 0 18 (dk_at dksJ12_init_0 7 rfl rfl)
theorem dJ12_init_10 : decode cJ12_init 10 = .ok (.aload_n 0, 1) := dk_42 (dk_at dksJ12_init_0 10 rfl rfl)
theorem dJ12_init_11 : decode cJ12_init 11 = .ok (.iload_n 1, 1) := dk_27 (dk_at dksJ12_init_0 11 rfl rfl)
theorem dJ12_init_12 : decode cJ12_init 12 = .ok (.newarray .byte, 2) := dk_188_8 (dk_at dksJ12_init_0 12 rfl rfl)
theorem dJ12_init_14 : decode cJ12_init 14 = .ok (.putfield 15, 3) := dk_181 0 15 (dk_at dksJ12_init_0 14 rfl rfl)
theorem dJ12_init_17 : decode cJ12_init 17 = .ok (.aload_n 0, 1) := dk_42 (dk_at dksJ12_init_0 17 rfl rfl)
theorem dJ12_init_18 : decode cJ12_init 18 = .ok (.iconst 0, 1) := dk_3 (dk_at dksJ12_init_0 18 rfl rfl)
theorem dJ12_init_19 : decode cJ12_init 19 = .ok (.putfield 22, 3) := dk_181 0 22 (dk_at dksJ12_init_0 19 rfl rfl)
theorem dJ12_init_22 : decode cJ12_init 22 = .ok (.goto 16, 3) := dk_167 0 16 (dk_at dksJ12_init_1 0 rfl rfl)
theorem dJ12_init_38 : decode cJ12_init 38 = .ok (.return_, 1) := dk_177 (dk_at dksJ12_init_1 16 rfl rfl)
theorem dJ13_init_0 : decode cJ13_init 0 = .ok (.aload_n 0, 1) := dk_42 (dk_at dksJ13_init_0 0 rfl rfl)
theorem dJ13_init_1 : decode cJ13_init 1 = .ok (.bipush 16, 2) := dk_16 16 (dk_at dksJ13_init_0 1 rfl rfl)
theorem dJ13_init_3 : decode cJ13_init 3 = .ok (.invokespecial 1, 3) := dk_183 0 1 (dk_at dksJ13_init_0 3 rfl rfl)
theorem dJ13_init_6 : decode cJ13_init 6 = .ok (.return_, 1) := dk_177 (dk_at dksJ13_init_0 6 rfl rfl)
theorem dJ13_init_2_0 : decode cJ13_init_2 0 = .ok (.aload_n 0, 1) := dk_42 (dk_at dksJ13_init_2_0 0 rfl rfl)
theorem dJ13_init_2_1 : decode cJ13_init_2 1 = .ok (.iload_n 1, 1) := dk_27 (dk_at dksJ13_init_2_0 1 rfl rfl)
theorem dJ13_init_2_2 : decode cJ13_init_2 2 = .ok (.invokespecial 1, 3) := dk_183 0 1 (dk_at dksJ13_init_2_0 2 rfl rfl)
theorem dJ13_init_2_5 : decode cJ13_init_2 5 = .ok (.return_, 1) := dk_177 (dk_at dksJ13_init_2_0 5 rfl rfl)
theorem dJ6_checkLength_0 : decode cJ6_checkLength 0 = .ok (.iload_n 1, 1) := dk_27 (dk_at dksJ6_checkLength_0 0 rfl rfl)
theorem dJ6_checkLength_1 : decode cJ6_checkLength 1 = .ok (.iload_n 0, 1) := dk_26 (dk_at dksJ6_checkLength_0 1 rfl rfl)
theorem dJ6_checkLength_2 : decode cJ6_checkLength 2 = .ok (.if_icmp .ge 35, 3) := dk_162 0 35 (dk_at dksJ6_checkLength_0 2 rfl rfl)
theorem dJ6_checkLength_37 : decode cJ6_checkLength 37 = .ok (.return_, 1) := dk_177 (dk_at dksJ6_checkLength_1 14 rfl rfl)
theorem dJ6_copyOfRangeByte_0 : decode cJ6_copyOfRangeByte 0 = .ok (.iload_n 1, 1) := dk_27 (dk_at dksJ6_copyOfRangeByte_0 0 rfl rfl)
theorem dJ6_copyOfRangeByte_1 : decode cJ6_copyOfRangeByte 1 = .ok (.iload_n 2, 1) := dk_28 (dk_at dksJ6_copyOfRangeByte_0 1 rfl rfl)
theorem dJ6_copyOfRangeByte_2 : decode cJ6_copyOfRangeByte 2 = .ok (.invokestatic 343, 3) := dk_184 1 87 (dk_at dksJ6_copyOfRangeByte_0 2 rfl rfl)
theorem dJ6_copyOfRangeByte_5 : decode cJ6_copyOfRangeByte 5 = .ok (.iload_n 2, 1) := dk_28 (dk_at dksJ6_copyOfRangeByte_0 5 rfl rfl)
theorem dJ6_copyOfRangeByte_6 : decode cJ6_copyOfRangeByte 6 = .ok (.iload_n 1, 1) := dk_27 (dk_at dksJ6_copyOfRangeByte_0 6 rfl rfl)
theorem dJ6_copyOfRangeByte_7 : decode cJ6_copyOfRangeByte 7 = .ok (.isub, 1) := dk_100 (dk_at dksJ6_copyOfRangeByte_0 7 rfl rfl)
theorem dJ6_copyOfRangeByte_8 : decode cJ6_copyOfRangeByte 8 = .ok (.istore_n 3, 1) := dk_62 (dk_at dksJ6_copyOfRangeByte_0 8 rfl rfl)
theorem dJ6_copyOfRangeByte_9 : decode cJ6_copyOfRangeByte 9 = .ok (.iload_n 3, 1) := dk_29 (dk_at dksJ6_copyOfRangeByte_0 9 rfl rfl)
theorem dJ6_copyOfRangeByte_10 : decode cJ6_copyOfRangeByte 10 = .ok (.newarray .byte, 2) := dk_188_8 (dk_at dksJ6_copyOfRangeByte_0 10 rfl rfl)
theorem dJ6_copyOfRangeByte_12 : decode cJ6_copyOfRangeByte 12 = .ok (.astore 4, 2) := dk_58 4 (dk_at dksJ6_copyOfRangeByte_0 12 rfl rfl)
theorem dJ6_copyOfRangeByte_14 : decode cJ6_copyOfRangeByte 14 = .ok (.aload_n 0, 1) := dk_42 (dk_at dksJ6_copyOfRangeByte_0 14 rfl rfl)
theorem dJ6_copyOfRangeByte_15 : decode cJ6_copyOfRangeByte 15 = .ok (.iload_n 1, 1) := dk_27 (dk_at dksJ6_copyOfRangeByte_0 15 rfl rfl)
theorem dJ6_copyOfRangeByte_16 : decode cJ6_copyOfRangeByte 16 = .ok (.aload 4, 2) := dk_25 4 (dk_at dksJ6_copyOfRangeByte_0 16 rfl rfl)
theorem dJ6_copyOfRangeByte_18 : decode cJ6_copyOfRangeByte 18 = .ok (.iconst 0, 1) := dk_3 (dk_at dksJ6_copyOfRangeByte_0 18 rfl rfl)
theorem dJ6_copyOfRangeByte_19 : decode cJ6_copyOfRangeByte 19 = .ok (.aload_n 0, 1) := dk_42 (dk_at dksJ6_copyOfRangeByte_0 19 rfl rfl)
theorem dJ6_copyOfRangeByte_20 : decode cJ6_copyOfRangeByte 20 = .ok (.arraylength, 1) := dk_190 (dk_at dksJ6_copyOfRangeByte_0 20 rfl rfl)
theorem dJ6_copyOfRangeByte_21 : decode cJ6_copyOfRangeByte 21 = .ok (.iload_n 1, 1) := dk_27 (dk_at dksJ6_copyOfRangeByte_0 21 rfl rfl)
theorem dJ6_copyOfRangeByte_22 : decode cJ6_copyOfRangeByte 22 = .ok (.isub, 1) := dk_100 (dk_at dksJ6_copyOfRangeByte_0 22 rfl rfl)
theorem dJ6_copyOfRangeByte_23 : decode cJ6_copyOfRangeByte 23 = .ok (.iload_n 3, 1) := dk_29 (dk_at dksJ6_copyOfRangeByte_0 23 rfl rfl)
theorem dJ6_copyOfRangeByte_24 : decode cJ6_copyOfRangeByte 24 = .ok (.invokestatic 304, 3) := dk_184 1 48 (dk_at dksJ6_copyOfRangeByte_1 0 rfl rfl)
theorem dJ6_copyOfRangeByte_27 : decode cJ6_copyOfRangeByte 27 = .ok (.invokestatic 150, 3) := dk_184 0 150 (dk_at dksJ6_copyOfRangeByte_1 3 rfl rfl)
theorem dJ6_copyOfRangeByte_30 : decode cJ6_copyOfRangeByte 30 = .ok (.aload 4, 2) := dk_25 4 (dk_at dksJ6_copyOfRangeByte_1 6 rfl rfl)
theorem dJ6_copyOfRangeByte_32 : decode cJ6_copyOfRangeByte 32 = .ok (.areturn, 1) := dk_176 (dk_at dksJ6_copyOfRangeByte_1 8 rfl rfl)
theorem dJ6_copyOfRange_0 : decode cJ6_copyOfRange 0 = .ok (.iload_n 1, 1) := dk_27 (dk_at dksJ6_copyOfRange_0 0 rfl rfl)
theorem dJ6_copyOfRange_1 : decode cJ6_copyOfRange 1 = .ok (.ifCond .ne 9, 3) := dk_154 0 9 (dk_at dksJ6_copyOfRange_0 1 rfl rfl)
theorem dJ6_copyOfRange_4 : decode cJ6_copyOfRange 4 = .ok (.iload_n 2, 1) := dk_28 (dk_at dksJ6_copyOfRange_0 4 rfl rfl)
theorem dJ6_copyOfRange_5 : decode cJ6_copyOfRange 5 = .ok (.aload_n 0, 1) := dk_42 (dk_at dksJ6_copyOfRange_0 5 rfl rfl)
theorem dJ6_copyOfRange_6 : decode cJ6_copyOfRange 6 = .ok (.arraylength, 1) := dk_190 (dk_at dksJ6_copyOfRange_0 6 rfl rfl)
theorem dJ6_copyOfRange_7 : decode cJ6_copyOfRange 7 = .ok (.if_icmp .eq 10, 3) := dk_159 0 10 (dk_at dksJ6_copyOfRange_0 7 rfl rfl)
theorem dJ6_copyOfRange_10 : decode cJ6_copyOfRange 10 = .ok (.aload_n 0, 1) := dk_42 (dk_at dksJ6_copyOfRange_0 10 rfl rfl)
theorem dJ6_copyOfRange_11 : decode cJ6_copyOfRange 11 = .ok (.iload_n 1, 1) := dk_27 (dk_at dksJ6_copyOfRange_0 11 rfl rfl)
theorem dJ6_copyOfRange_12 : decode cJ6_copyOfRange 12 = .ok (.iload_n 2, 1) := dk_28 (dk_at dksJ6_copyOfRange_0 12 rfl rfl)
theorem dJ6_copyOfRange_13 : decode cJ6_copyOfRange 13 = .ok (.invokestatic 339, 3) := dk_184 1 83 (dk_at dksJ6_copyOfRange_0 13 rfl rfl)
theorem dJ6_copyOfRange_16 : decode cJ6_copyOfRange 16 = .ok (.areturn, 1) := dk_176 (dk_at dksJ6_copyOfRange_0 16 rfl rfl)
theorem dJ6_copyOfRange_17 : decode cJ6_copyOfRange 17 = .ok (.aload_n 0, 1) := dk_42 (dk_at dksJ6_copyOfRange_0 17 rfl rfl)
theorem dJ6_copyOfRange_18 : decode cJ6_copyOfRange 18 = .ok (.invokevirtual 310, 3) := dk_182 1 54 (dk_at dksJ6_copyOfRange_0 18 rfl rfl)
theorem dJ6_copyOfRange_21 : decode cJ6_copyOfRange 21 = .ok (.checkcast 311, 3) := dk_192 1 55 (dk_at dksJ6_copyOfRange_0 21 rfl rfl)
theorem dJ6_copyOfRange_24 : decode cJ6_copyOfRange 24 = .ok (.areturn, 1) := dk_176 (dk_at dksJ6_copyOfRange_1 0 rfl rfl)
theorem dJ14_init_2_0 : decode cJ14_init_2 0 = .ok (.aload_n 0, 1) := dk_42 (dk_at dksJ14_init_2_0 0 rfl rfl)
theorem dJ14_init_2_1 : decode cJ14_init_2 1 = .ok (.invokespecial 1, 3) := dk_183 0 1 (dk_at dksJ14_init_2_0 1 rfl rfl)
theorem dJ14_init_2_4 : decode cJ14_init_2 4 = .ok (.aload_n 1, 1) := dk_43 (dk_at dksJ14_init_2_0 4 rfl rfl)
theorem dJ14_init_2_5 : decode cJ14_init_2 5 = .ok (.invokevirtual 552, 3) := dk_182 2 40 (dk_at dksJ14_init_2_0 5 rfl rfl)
theorem dJ14_init_2_8 : decode cJ14_init_2 8 = .ok (.astore_n 3, 1) := dk_78 (dk_at dksJ14_init_2_0 8 rfl rfl)
theorem dJ14_init_2_9 : decode cJ14_init_2 9 = .ok (.aload_n 1, 1) := dk_43 (dk_at dksJ14_init_2_0 9 rfl rfl)
theorem dJ14_init_2_10 : decode cJ14_init_2 10 = .ok (.invokevirtual 549, 3) := dk_182 2 37 (dk_at dksJ14_init_2_0 10 rfl rfl)
theorem dJ14_init_2_13 : decode cJ14_init_2 13 = .ok (.istore 4, 2) := dk_54 4 (dk_at dksJ14_init_2_0 13 rfl rfl)
theorem dJ14_init_2_15 : decode cJ14_init_2 15 = .ok (.aload_n 1, 1) := dk_43 (dk_at dksJ14_init_2_0 15 rfl rfl)
theorem dJ14_init_2_16 : decode cJ14_init_2 16 = .ok (.invokevirtual 1047, 3) := dk_182 4 23 (dk_at dksJ14_init_2_0 16 rfl rfl)
theorem dJ14_init_2_19 : decode cJ14_init_2 19 = .ok (.ifCond .eq 22, 3) := dk_153 0 22 (dk_at dksJ14_init_2_0 19 rfl rfl)
theorem dJ14_init_2_22 : decode cJ14_init_2 22 = .ok (.aload_n 0, 1) := dk_42 (dk_at dksJ14_init_2_0 22 rfl rfl)
theorem dJ14_init_2_23 : decode cJ14_init_2 23 = .ok (.iconst 0, 1) := dk_3 (dk_at dksJ14_init_2_0 23 rfl rfl)
theorem dJ14_init_2_24 : decode cJ14_init_2 24 = .ok (.putfield 15, 3) := dk_181 0 15 (dk_at dksJ14_init_2_1 0 rfl rfl)
theorem dJ14_init_2_27 : decode cJ14_init_2 27 = .ok (.aload_n 0, 1) := dk_42 (dk_at dksJ14_init_2_1 3 rfl rfl)
theorem dJ14_init_2_28 : decode cJ14_init_2 28 = .ok (.aload_n 3, 1) := dk_45 (dk_at dksJ14_init_2_1 4 rfl rfl)
theorem dJ14_init_2_29 : decode cJ14_init_2 29 = .ok (.iconst 0, 1) := dk_3 (dk_at dksJ14_init_2_1 5 rfl rfl)
theorem dJ14_init_2_30 : decode cJ14_init_2 30 = .ok (.iload 4, 2) := dk_21 4 (dk_at dksJ14_init_2_1 6 rfl rfl)
theorem dJ14_init_2_32 : decode cJ14_init_2 32 = .ok (.invokestatic 54, 3) := dk_184 0 54 (dk_at dksJ14_init_2_1 8 rfl rfl)
theorem dJ14_init_2_35 : decode cJ14_init_2 35 = .ok (.putfield 9, 3) := dk_181 0 9 (dk_at dksJ14_init_2_1 11 rfl rfl)
theorem dJ14_init_2_38 : decode cJ14_init_2 38 = .ok (.goto 59, 3) := dk_167 0 59 (dk_at dksJ14_init_2_1 14 rfl rfl)
theorem dJ14_init_2_97 : decode cJ14_init_2 97 = .ok (.return_, 1) := dk_177 (dk_at dksJ14_init_2_4 3 rfl rfl)
theorem dJ14_init_0 : decode cJ14_init 0 = .ok (.aload_n 0, 1) := dk_42 (dk_at dksJ14_init_0 0 rfl rfl)
theorem dJ14_init_1 : decode cJ14_init 1 = .ok (.aload_n 1, 1) := dk_43 (dk_at dksJ14_init_0 1 rfl rfl)
theorem dJ14_init_2 : decode cJ14_init 2 = .ok (.aconst_null, 1) := dk_1 (dk_at dksJ14_init_0 2 rfl rfl)
theorem dJ14_init_3 : decode cJ14_init 3 = .ok (.invokespecial 489, 3) := dk_183 1 233 (dk_at dksJ14_init_0 3 rfl rfl)
theorem dJ14_init_6 : decode cJ14_init 6 = .ok (.return_, 1) := dk_177 (dk_at dksJ14_init_0 6 rfl rfl)
theorem dJ13_toString_0 : decode cJ13_toString 0 = .ok (.new 18, 3) := dk_187 0 18 (dk_at dksJ13_toString_0 0 rfl rfl)
theorem dJ13_toString_3 : decode cJ13_toString 3 = .ok (.dup, 1) := dk_89 (dk_at dksJ13_toString_0 3 rfl rfl)
theorem dJ13_toString_4 : decode cJ13_toString 4 = .ok (.aload_n 0, 1) := dk_42 (dk_at dksJ13_toString_0 4 rfl rfl)
theorem dJ13_toString_5 : decode cJ13_toString 5 = .ok (.invokespecial 137, 3) := dk_183 0 137 (dk_at dksJ13_toString_0 5 rfl rfl)
theorem dJ13_toString_8 : decode cJ13_toString 8 = .ok (.areturn, 1) := dk_176 (dk_at dksJ13_toString_0 8 rfl rfl)
theorem q113 : (Jvm.Cond.instanceMethod ({ cls := "java/lang/Object", name := "<init>", desc := "()V" } : Jvm.MethodName)) ∈ lw_all := lw_g (lw_at lw_m1 51 rfl) rfl
theorem q114 : (Jvm.Cond.code ({ cls := "java/lang/Object", name := "<init>", desc := "()V" } : Jvm.MethodName) object_method_1_code (1 : Nat) (Option.none : Option Jvm.ClassFile.FieldType)) ∈ lw_all := lw_g (lw_at lw_m1 52 rfl) rfl
theorem q2480 : (Jvm.Cond.selects "java/lang/StringBuilder" ({ cls := "java/lang/AbstractStringBuilder", name := "length", desc := "()I" } : Jvm.MethodName) ({ cls := "java/lang/StringBuilder", name := "length", desc := "()I" } : Jvm.MethodName)) ∈ lw_all := lw_g (lw_at lw_m11 18 rfl) rfl
theorem q335 : (Jvm.Cond.methodLink "java/lang/StringBuilder" (1 : Nat) ({ cls := "java/lang/AbstractStringBuilder", name := "<init>", desc := "(I)V" } : Jvm.MethodName)) ∈ lw_all := lw_g (lw_at lw_m2 33 rfl) rfl
theorem q336 : (Jvm.Cond.instanceMethod ({ cls := "java/lang/AbstractStringBuilder", name := "<init>", desc := "(I)V" } : Jvm.MethodName)) ∈ lw_all := lw_g (lw_at lw_m2 34 rfl) rfl
theorem q337 : (Jvm.Cond.code ({ cls := "java/lang/AbstractStringBuilder", name := "<init>", desc := "(I)V" } : Jvm.MethodName) prog_13_method_2_code (2 : Nat) (Option.none : Option Jvm.ClassFile.FieldType)) ∈ lw_all := lw_g (lw_at lw_m2 35 rfl) rfl
theorem q338 : (Jvm.Cond.methodLink "java/lang/AbstractStringBuilder" (3 : Nat) ({ cls := "java/lang/Object", name := "<init>", desc := "()V" } : Jvm.MethodName)) ∈ lw_all := lw_g (lw_at lw_m2 36 rfl) rfl
theorem q439 : (Jvm.Cond.instanceMethod ({ cls := "java/lang/StringBuilder", name := "length", desc := "()I" } : Jvm.MethodName)) ∈ lw_all := lw_g (lw_at lw_m2 137 rfl) rfl
theorem q441 : (Jvm.Cond.code ({ cls := "java/lang/StringBuilder", name := "length", desc := "()I" } : Jvm.MethodName) prog_31_method_93_code (1 : Nat) (Option.some Jvm.ClassFile.FieldType.int)) ∈ lw_all := lw_g (lw_at lw_m2 139 rfl) rfl
theorem q621 : (Jvm.Cond.classLink "java/lang/StringBuilder" (18 : Nat) "java/lang/String") ∈ lw_all := lw_g (lw_at lw_m3 79 rfl) rfl
theorem q622 : (Jvm.Cond.instantiable "java/lang/String" (4 : Nat)) ∈ lw_all := lw_g (lw_at lw_m3 80 rfl) rfl
theorem q623 : (Jvm.Cond.methodLink "java/lang/StringBuilder" (137 : Nat) ({ cls := "java/lang/String", name := "<init>", desc := "(Ljava/lang/StringBuilder;)V" } : Jvm.MethodName)) ∈ lw_all := lw_g (lw_at lw_m3 81 rfl) rfl
theorem q624 : (Jvm.Cond.instanceMethod ({ cls := "java/lang/String", name := "<init>", desc := "(Ljava/lang/StringBuilder;)V" } : Jvm.MethodName)) ∈ lw_all := lw_g (lw_at lw_m3 82 rfl) rfl
theorem q625 : (Jvm.Cond.code ({ cls := "java/lang/String", name := "<init>", desc := "(Ljava/lang/StringBuilder;)V" } : Jvm.MethodName) prog_30_method_53_code (2 : Nat) (Option.none : Option Jvm.ClassFile.FieldType)) ∈ lw_all := lw_g (lw_at lw_m3 83 rfl) rfl
theorem q626 : (Jvm.Cond.methodLink "java/lang/String" (489 : Nat) ({ cls := "java/lang/String", name := "<init>", desc := "(Ljava/lang/AbstractStringBuilder;Ljava/lang/Void;)V" } : Jvm.MethodName)) ∈ lw_all := lw_g (lw_at lw_m3 84 rfl) rfl
theorem q627 : (Jvm.Cond.instanceMethod ({ cls := "java/lang/String", name := "<init>", desc := "(Ljava/lang/AbstractStringBuilder;Ljava/lang/Void;)V" } : Jvm.MethodName)) ∈ lw_all := lw_g (lw_at lw_m3 85 rfl) rfl
theorem q628 : (Jvm.Cond.code ({ cls := "java/lang/String", name := "<init>", desc := "(Ljava/lang/AbstractStringBuilder;Ljava/lang/Void;)V" } : Jvm.MethodName) prog_30_method_150_code (5 : Nat) (Option.none : Option Jvm.ClassFile.FieldType)) ∈ lw_all := lw_g (lw_at lw_m3 86 rfl) rfl
theorem q629 : (Jvm.Cond.methodLink "java/lang/String" (1 : Nat) ({ cls := "java/lang/Object", name := "<init>", desc := "()V" } : Jvm.MethodName)) ∈ lw_all := lw_g (lw_at lw_m3 87 rfl) rfl
theorem q630 : (Jvm.Cond.methodLink "java/lang/String" (552 : Nat) ({ cls := "java/lang/AbstractStringBuilder", name := "getValue", desc := "()[B" } : Jvm.MethodName)) ∈ lw_all := lw_g (lw_at lw_m3 88 rfl) rfl
theorem q631 : (Jvm.Cond.instanceMethod ({ cls := "java/lang/AbstractStringBuilder", name := "getValue", desc := "()[B" } : Jvm.MethodName)) ∈ lw_all := lw_g (lw_at lw_m3 89 rfl) rfl
theorem q632 : (Jvm.Cond.sameMethod "java/lang/AbstractStringBuilder" "java/lang/AbstractStringBuilder" "getValue" "()[B") ∈ lw_all := lw_g (lw_at lw_m3 90 rfl) rfl
theorem q633 : (Jvm.Cond.selects "java/lang/StringBuilder" ({ cls := "java/lang/AbstractStringBuilder", name := "getValue", desc := "()[B" } : Jvm.MethodName) ({ cls := "java/lang/AbstractStringBuilder", name := "getValue", desc := "()[B" } : Jvm.MethodName)) ∈ lw_all := lw_g (lw_at lw_m3 91 rfl) rfl
theorem q634 : (Jvm.Cond.code ({ cls := "java/lang/AbstractStringBuilder", name := "getValue", desc := "()[B" } : Jvm.MethodName) prog_13_method_64_code (1 : Nat) (Option.some (Jvm.ClassFile.FieldType.array Jvm.ClassFile.FieldType.byte))) ∈ lw_all := lw_g (lw_at lw_m3 92 rfl) rfl
theorem q635 : (Jvm.Cond.methodLink "java/lang/String" (549 : Nat) ({ cls := "java/lang/AbstractStringBuilder", name := "length", desc := "()I" } : Jvm.MethodName)) ∈ lw_all := lw_g (lw_at lw_m3 93 rfl) rfl
theorem q636 : (Jvm.Cond.methodLink "java/lang/String" (1047 : Nat) ({ cls := "java/lang/AbstractStringBuilder", name := "isLatin1", desc := "()Z" } : Jvm.MethodName)) ∈ lw_all := lw_g (lw_at lw_m3 94 rfl) rfl
theorem q641 : (Jvm.Cond.methodLink "java/lang/String" (54 : Nat) ({ cls := "java/util/Arrays", name := "copyOfRange", desc := "([BII)[B" } : Jvm.MethodName)) ∈ lw_all := lw_g (lw_at lw_m3 99 rfl) rfl
theorem q642 : (Jvm.Cond.static ({ cls := "java/util/Arrays", name := "copyOfRange", desc := "([BII)[B" } : Jvm.MethodName)) ∈ lw_all := lw_g (lw_at lw_m3 100 rfl) rfl
theorem q643 : (Jvm.Cond.code ({ cls := "java/util/Arrays", name := "copyOfRange", desc := "([BII)[B" } : Jvm.MethodName) prog_45_method_132_code (3 : Nat) (Option.some (Jvm.ClassFile.FieldType.array Jvm.ClassFile.FieldType.byte))) ∈ lw_all := lw_g (lw_at lw_m3 101 rfl) rfl
theorem q644 : (Jvm.Cond.methodLink "java/util/Arrays" (339 : Nat) ({ cls := "java/util/Arrays", name := "copyOfRangeByte", desc := "([BII)[B" } : Jvm.MethodName)) ∈ lw_all := lw_g (lw_at lw_m3 102 rfl) rfl
theorem q645 : (Jvm.Cond.static ({ cls := "java/util/Arrays", name := "copyOfRangeByte", desc := "([BII)[B" } : Jvm.MethodName)) ∈ lw_all := lw_g (lw_at lw_m3 103 rfl) rfl
theorem q646 : (Jvm.Cond.code ({ cls := "java/util/Arrays", name := "copyOfRangeByte", desc := "([BII)[B" } : Jvm.MethodName) prog_45_method_133_code (5 : Nat) (Option.some (Jvm.ClassFile.FieldType.array Jvm.ClassFile.FieldType.byte))) ∈ lw_all := lw_g (lw_at lw_m3 104 rfl) rfl
theorem q647 : (Jvm.Cond.methodLink "java/util/Arrays" (343 : Nat) ({ cls := "java/util/Arrays", name := "checkLength", desc := "(II)V" } : Jvm.MethodName)) ∈ lw_all := lw_g (lw_at lw_m3 105 rfl) rfl
theorem q648 : (Jvm.Cond.static ({ cls := "java/util/Arrays", name := "checkLength", desc := "(II)V" } : Jvm.MethodName)) ∈ lw_all := lw_g (lw_at lw_m3 106 rfl) rfl
theorem q649 : (Jvm.Cond.code ({ cls := "java/util/Arrays", name := "checkLength", desc := "(II)V" } : Jvm.MethodName) prog_45_method_131_code (2 : Nat) (Option.none : Option Jvm.ClassFile.FieldType)) ∈ lw_all := lw_g (lw_at lw_m3 107 rfl) rfl
theorem q686 : (Jvm.Cond.methodLink "java/util/Arrays" (310 : Nat) ({ cls := "[B", name := "clone", desc := "()Ljava/lang/Object;" } : Jvm.MethodName)) ∈ lw_all := lw_g (lw_at lw_m3 144 rfl) rfl
theorem q687 : (Jvm.Cond.sameMethod "[B" "java/lang/Object" "clone" "()Ljava/lang/Object;") ∈ lw_all := lw_g (lw_at lw_m3 145 rfl) rfl
theorem q688 : (Jvm.Cond.native ({ cls := "java/lang/Object", name := "clone", desc := "()Ljava/lang/Object;" } : Jvm.MethodName)) ∈ lw_all := lw_g (lw_at lw_m3 146 rfl) rfl
theorem q689 : (Jvm.Cond.instanceMethod ({ cls := "java/lang/Object", name := "clone", desc := "()Ljava/lang/Object;" } : Jvm.MethodName)) ∈ lw_all := lw_g (lw_at lw_m3 147 rfl) rfl
theorem q690 : (Jvm.Cond.selects "[B" ({ cls := "[B", name := "clone", desc := "()Ljava/lang/Object;" } : Jvm.MethodName) ({ cls := "java/lang/Object", name := "clone", desc := "()Ljava/lang/Object;" } : Jvm.MethodName)) ∈ lw_all := lw_g (lw_at lw_m3 148 rfl) rfl
theorem q691 : (Jvm.Cond.castable "[B" "java/lang/Cloneable") ∈ lw_tbl := lw_at lw_m3 149 rfl
theorem q692 : (Jvm.Cond.classLink "java/util/Arrays" (311 : Nat) "[B") ∈ lw_all := lw_g (lw_at lw_m3 150 rfl) rfl
theorem q82 : (Jvm.Cond.initialized "java/lang/StringBuilder") ∈ lw_all := lw_g (lw_at lw_m1 20 rfl) rfl
theorem sAt.mk {h : zH} {a v n : Nat} {t : List Int} {x y : Int32} {f : Nat → Value} (hn : n = t.length) (h1 : h a = some (false, .inr (13, [.ref v, .int (iI 0), .int x, .int y]))) (h2 : h v = some (false, .inl (.byte, n, f))) (h3 : t.length ≤ 100000) (h4 : ∀ (j : Nat) (c : Int), t[j]? = some c → f j = .int (iI c)) (h5 : ∀ c ∈ t, 0 ≤ c ∧ c < 128) : sAt h a t := by
  subst hn
  exact ⟨h3, v, x, y, f, h1, h2, h4, h5⟩
set_option maxHeartbeats 4000000 in
theorem ct_B_init0 {l : Launch} (hl : l.stackTraces = false) {Γ : zCx} {h : zH} {b : Nat} (hb : h b = some (true, .inr (12, [.null, .int (iI 0), .int (iI 0), .int (iI 0)]))) {n : Int} (hn : 0 ≤ n ∧ n ≤ 100000) : zMet l yJ12_init (ws_ yJ12_init cJ12_init 2 none) ({ frames := 1, cells := 1, slots := n.toNat, locals := 12 }) Γ h [.ref b, .int (iI n)] (zrt (fun w h' => w = none ∧ ∃ v, bAt h' b v [] n.toNat ∧ h v = none ∧ zkeep h h' [b])) 1 n.toNat := by
  refine zMet.of (cc := cJ12_init) hl (plainFor_of_name (by decide +kernel)) (Nat.le_of_ble_eq_true rfl) ?_
  intro X hXl hXΓ hXp C hnm hnL
  have C : zC X cJ12_init RJ12 none 1 12 [] := C
  have hnL : X.2.1.2.2.2.2 = 2 := hnL
  subst hXl hXΓ
  show Z X h 1 n.toNat [(0, .ref b), (1, .int (iI n))] 0 []
  refine z_aload_n (pc := 0) (j := 0) C dJ12_init_0 rfl rfl ?_
  refine z_objInit (pc := 1) C q338 q113 q114 (by decide) (by decide) dJ12_init_1 ?_
  refine z_compact (pc := 4) C q339 dJ12_init_4 ?_
  refine z_if_eq (pc := 7) (tgt := 25) C dJ12_init_7 (by decide) (by decide) (fun z => absurd z (by decide)) (fun _ => ?_)
  refine z_aload_n (pc := 10) (j := 0) C dJ12_init_10 rfl rfl ?_
  refine z_iload_n (pc := 11) (j := 1) C dJ12_init_11 rfl rfl ?_
  refine z_newarray (pc := 12) (kc' := 0) (ks' := (n.toNat - n.toNat)) (ty := .byte) C rfl q299 (by omega) (by simp [componentBytes] <;> omega) (by omega) (by omega) (by simp) dJ12_init_12 (fun a1 fa1 => ?_)
  refine Z.nm (fun h2 eh2 => ?_)
  have na1 : h a1 = none := fa1
  have kh2 : zkeep h h2 [b] := by rw [eh2]; exact zkeep.born zkeep.rf fa1
  have fh2_0 : h2 a1 = some (true, .inl (.byte, n.toNat, fun _ => .int (iI 0))) := zse eh2
  have fh2_1 : h2 b = some (true, .inr (12, [.null, .int (iI 0), .int (iI 0), .int (iI 0)])) := zsn eh2 hb (zneF hb fa1)
  refine z_putfield (pc := 14) (fs' := [.ref a1, .int (iI 0), .int (iI 0), .int (iI 0)]) C in_J13 tyJ13 tyJ13_ok nmJ13 rfl 0 (by decide) q348 (fun _ z => z) rfl rfl rfl (Nat.le_of_ble_eq_true rfl) fh2_1 rfl dJ12_init_14 ?_
  refine Z.nm (fun h3 eh3 => ?_)
  have kh3 : zkeep h h3 [b] := by rw [eh3]; exact zkeep.up kh2 (Or.inl (by simp)) fh2_1
  have fh3_0 : h3 b = some (true, .inr (12, [.ref a1, .int (iI 0), .int (iI 0), .int (iI 0)])) := zse eh3
  have fh3_1 : h3 a1 = some (true, .inl (.byte, n.toNat, fun _ => .int (iI 0))) := zsn eh3 fh2_0 (Ne.symm (zneF hb fa1))
  refine z_aload_n (pc := 17) (j := 0) C dJ12_init_17 rfl rfl ?_
  refine z_iconst (pc := 18) C dJ12_init_18 ?_
  refine z_putfield (pc := 19) (fs' := [.ref a1, .int (iI 0), .int (iI 0), .int (iI 0)]) C in_J13 tyJ13 tyJ13_ok nmJ13 rfl 1 (by decide) q349 (fun _ z => z) rfl (by decide) (by decide) (Nat.le_of_ble_eq_true rfl) fh3_0 rfl dJ12_init_19 ?_
  refine Z.nm (fun h4 eh4 => ?_)
  have kh4 : zkeep h h4 [b] := by rw [eh4]; exact zkeep.up kh3 (Or.inl (by simp)) fh3_0
  have fh4_0 : h4 b = some (true, .inr (12, [.ref a1, .int (iI 0), .int (iI 0), .int (iI 0)])) := zse eh4
  have fh4_1 : h4 a1 = some (true, .inl (.byte, n.toNat, fun _ => .int (iI 0))) := zsn eh4 fh3_1 (Ne.symm (zneF hb fa1))
  refine z_goto (pc := 22) (tgt := 38) C dJ12_init_22 (by decide) ?_
  exact z_return (pc := 38) C (by rw [hXp]; exact ⟨_, rfl, rfl, a1, bAt.mk (t := []) rfl rfl fh4_0 fh4_1 (Nat.zero_le _) (by omega) (fun j c e => by simp at e) (fun j _ => ⟨0, rfl, by decide, by decide⟩) (fun c hc => nomatch hc), na1, kh4⟩) dJ12_init_38
set_option maxHeartbeats 4000000 in
theorem ct_B_init16 {l : Launch} (hl : l.stackTraces = false) {Γ : zCx} {h : zH} {b : Nat} (hb : h b = some (true, .inr (12, [.null, .int (iI 0), .int (iI 0), .int (iI 0)])))  : zMet l yJ13_init (ws_ yJ13_init cJ13_init 1 none) ({ frames := 2, cells := 1, slots := 16, locals := 33 }) Γ h [.ref b] (zrt (fun w h' => w = none ∧ ∃ v, bAt h' b v [] 16 ∧ h v = none ∧ zkeep h h' [b])) 1 16 := by
  refine zMet.of (cc := cJ13_init) hl (plainFor_of_name (by decide +kernel)) (Nat.le_of_ble_eq_true rfl) ?_
  intro X hXl hXΓ hXp C hnm hnL
  have C : zC X cJ13_init RJ13 none 2 33 [] := C
  have hnL : X.2.1.2.2.2.2 = 1 := hnL
  subst hXl hXΓ
  show Z X h 1 16 [(0, .ref b)] 0 []
  refine z_aload_n (pc := 0) (j := 0) C dJ13_init_0 rfl rfl ?_
  refine z_bipush (pc := 1) C dJ13_init_1 (by decide) ?_
  refine z_callI (pc := 3) (n := 1) (kc' := 0) (ks' := 0) C (ct_B_init0 C.t hb (n := 16) (by omega)) q337 q81 q335 q336 rfl (by decide +kernel) ⟨by decide, by decide⟩ rfl rfl (Nat.le_of_ble_eq_true rfl) dJ13_init_3 (by omega) (by omega) (zrk fun w h1 hp => ?_) zrx
  obtain ⟨rfl, v2, hb3, fv2, k4⟩ := hp
  have nv2 : h v2 = none := zkeep.rf.none0 fv2 (List.not_mem_cons_of_ne_of_not_mem (Ne.symm (zneF hb fv2)) List.not_mem_nil)
  have kh1 : zkeep h h1 [b] := zkeep.loc zkeep.rf k4 (zall_cons (Or.inl (Or.symm (Or.inl (by simp)))) zall_nil)
  have hx_5 := hb3
  obtain ⟨z_5, f_5, hb_5, hv_5, hlen_5, hcap_5, hcon_5, hfit_5, hasc_5⟩ := hx_5
  show Z X h1 0 0 [(0, .ref b)] 6 []
  exact z_return (pc := 6) C (by rw [hXp]; exact ⟨_, rfl, rfl, v2, hb3, nv2, kh1⟩) dJ13_init_6
set_option maxHeartbeats 4000000 in
theorem ct_B_initN {l : Launch} (hl : l.stackTraces = false) {Γ : zCx} {h : zH} {b : Nat} (hb : h b = some (true, .inr (12, [.null, .int (iI 0), .int (iI 0), .int (iI 0)]))) {n : Int} (hn : 0 ≤ n ∧ n ≤ 100000) : zMet l yJ13_init_2 (ws_ yJ13_init_2 cJ13_init_2 2 none) ({ frames := 2, cells := 1, slots := n.toNat, locals := 33 }) Γ h [.ref b, .int (iI n)] (zrt (fun w h' => w = none ∧ ∃ v, bAt h' b v [] n.toNat ∧ h v = none ∧ zkeep h h' [b])) 1 n.toNat := by
  refine zMet.of (cc := cJ13_init_2) hl (plainFor_of_name (by decide +kernel)) (Nat.le_of_ble_eq_true rfl) ?_
  intro X hXl hXΓ hXp C hnm hnL
  have C : zC X cJ13_init_2 RJ13 none 2 33 [] := C
  have hnL : X.2.1.2.2.2.2 = 2 := hnL
  subst hXl hXΓ
  show Z X h 1 n.toNat [(0, .ref b), (1, .int (iI n))] 0 []
  refine z_aload_n (pc := 0) (j := 0) C dJ13_init_2_0 rfl rfl ?_
  refine z_iload_n (pc := 1) (j := 1) C dJ13_init_2_1 rfl rfl ?_
  refine z_callI (pc := 2) (n := 1) (kc' := 0) (ks' := (n.toNat - n.toNat)) C (ct_B_init0 C.t hb (n := n) (by omega)) q337 q81 q335 q336 rfl (by decide +kernel) ⟨by decide, by decide⟩ rfl rfl (Nat.le_of_ble_eq_true rfl) dJ13_init_2_2 (by omega) (by omega) (zrk fun w h1 hp => ?_) zrx
  obtain ⟨rfl, v2, hb3, fv2, k4⟩ := hp
  have nv2 : h v2 = none := zkeep.rf.none0 fv2 (List.not_mem_cons_of_ne_of_not_mem (Ne.symm (zneF hb fv2)) List.not_mem_nil)
  have kh1 : zkeep h h1 [b] := zkeep.loc zkeep.rf k4 (zall_cons (Or.inl (Or.symm (Or.inl (by simp)))) zall_nil)
  have hx_5 := hb3
  obtain ⟨z_5, f_5, hb_5, hv_5, hlen_5, hcap_5, hcon_5, hfit_5, hasc_5⟩ := hx_5
  show Z X h1 0 (n.toNat - n.toNat) [(0, .ref b), (1, .int (iI n))] 5 []
  exact z_return (pc := 5) C (by rw [hXp]; exact ⟨_, rfl, rfl, v2, hb3, nv2, kh1⟩) dJ13_init_2_5
set_option maxHeartbeats 4000000 in
theorem ct_A_chkLen {l : Launch} (hl : l.stackTraces = false) {Γ : zCx} {h : zH} {n : Int} (hn : 0 ≤ n ∧ n ≤ 100000) : zMet l yJ6_checkLength (ws_ yJ6_checkLength cJ6_checkLength 2 none) ({ frames := 0, cells := 0, slots := 0, locals := 0 }) Γ h [.int (iI 0), .int (iI n)] (zpure h none) 0 0 := by
  refine zMet.of (cc := cJ6_checkLength) hl (plainFor_of_name (by decide +kernel)) (Nat.le_of_ble_eq_true rfl) ?_
  intro X hXl hXΓ hXp C hnm hnL
  have C : zC X cJ6_checkLength RJ6 none 0 0 [] := C
  have hnL : X.2.1.2.2.2.2 = 2 := hnL
  subst hXl hXΓ
  show Z X h 0 0 [(0, .int (iI 0)), (1, .int (iI n))] 0 []
  refine z_iload_n (pc := 0) (j := 1) C dJ6_checkLength_0 rfl rfl ?_
  refine z_iload_n (pc := 1) (j := 0) C dJ6_checkLength_1 rfl rfl ?_
  refine z_icmp_ge (pc := 2) (tgt := 37) C dJ6_checkLength_2 (by decide) (by omega) (by decide) (fun c2 => ?_) (fun c2 => by exfalso; omega)
  exact z_return (pc := 37) C (by rw [hXp]; exact zpure_v rfl rfl) dJ6_checkLength_37
set_option maxHeartbeats 4000000 in
theorem ct_A_copyRB {l : Launch} (hl : l.stackTraces = false) {Γ : zCx} {h : zH} {v cap : Nat} {f : Nat → Value} (hv : h v = some (true, .inl (.byte, cap, f))) {m : Int} (hm : 0 ≤ m ∧ m ≤ cap) (hc : cap ≤ 100000) (hfit : ∀ j, j < cap → ∃ c, f j = .int (iI c) ∧ -128 ≤ c ∧ c < 128)  : zMet l yJ6_copyOfRangeByte (ws_ yJ6_copyOfRangeByte cJ6_copyOfRangeByte 5 (some (.array .byte))) ({ frames := 1, cells := 1, slots := m.toNat, locals := 21 }) Γ h [.ref v, .int (iI 0), .int (iI m)] (zrt (fun w h' => ∃ (a : Nat) (g : Nat → Value), w = some (.ref a) ∧ h a = none ∧ h' = zup h a (true, .inl (.byte, m.toNat, g)) ∧ ∀ j, j < m.toNat → g j = f j)) 1 m.toNat := by
  refine zMet.of (cc := cJ6_copyOfRangeByte) hl (plainFor_of_name (by decide +kernel)) (Nat.le_of_ble_eq_true rfl) ?_
  intro X hXl hXΓ hXp C hnm hnL
  have C : zC X cJ6_copyOfRangeByte RJ6 (some (.array .byte)) 1 21 [] := C
  have hnL : X.2.1.2.2.2.2 = 5 := hnL
  subst hXl hXΓ
  show Z X h 1 m.toNat [(0, .ref v), (1, .int (iI 0)), (2, .int (iI m))] 0 []
  refine z_iload_n (pc := 0) (j := 1) C dJ6_copyOfRangeByte_0 rfl rfl ?_
  refine z_iload_n (pc := 1) (j := 2) C dJ6_copyOfRangeByte_1 rfl rfl ?_
  refine z_callS (pc := 2) (n := 2) (kc' := 1) (ks' := m.toNat) C (ct_A_chkLen C.t (n := m) (by omega)) (lw_S q647 q648 q72 q649) (by decide +kernel) ⟨by decide, by decide⟩ rfl rfl (Nat.le_of_ble_eq_true rfl) dJ6_copyOfRangeByte_2 (by omega) (by omega) (zpk (st' := []) rfl ?_) zrx
  refine z_iload_n (pc := 5) (j := 2) C dJ6_copyOfRangeByte_5 rfl rfl ?_
  refine z_iload_n (pc := 6) (j := 1) C dJ6_copyOfRangeByte_6 rfl rfl ?_
  refine z_isub (pc := 7) C dJ6_copyOfRangeByte_7 ?_
  rw [Int.sub_zero]
  show Z X h 1 m.toNat [(0, .ref v), (1, .int (iI 0)), (2, .int (iI m))] 8 [.int (iI m)]
  refine z_istore_n (pc := 8) (L' := [(3, .int (iI m)), (0, .ref v), (1, .int (iI 0)), (2, .int (iI m))]) C dJ6_copyOfRangeByte_8 rfl (by rw [hnL]; decide) rfl ?_
  refine z_iload_n (pc := 9) (j := 0) C dJ6_copyOfRangeByte_9 rfl rfl ?_
  refine z_newarray (pc := 10) (kc' := 0) (ks' := (m.toNat - m.toNat)) (ty := .byte) C rfl q299 (by omega) (by simp [componentBytes] <;> omega) (by omega) (by omega) (by simp) dJ6_copyOfRangeByte_10 (fun a1 fa1 => ?_)
  refine Z.nm (fun h2 eh2 => ?_)
  have na1 : h a1 = none := fa1
  have kh2 : zkeep h h2 [] := by rw [eh2]; exact zkeep.born zkeep.rf fa1
  have fh2_0 : h2 a1 = some (true, .inl (.byte, m.toNat, fun _ => .int (iI 0))) := zse eh2
  refine z_astore (pc := 12) (L' := [(4, .ref a1), (3, .int (iI m)), (0, .ref v), (1, .int (iI 0)), (2, .int (iI m))]) C dJ6_copyOfRangeByte_12 (by rw [hnL]; decide) rfl ?_
  refine z_aload_n (pc := 14) (j := 2) C dJ6_copyOfRangeByte_14 rfl rfl ?_
  refine z_iload_n (pc := 15) (j := 3) C dJ6_copyOfRangeByte_15 rfl rfl ?_
  refine z_aload (pc := 16) (j := 0) C dJ6_copyOfRangeByte_16 rfl ?_
  refine z_iconst (pc := 18) C dJ6_copyOfRangeByte_18 ?_
  refine z_aload_n (pc := 19) (j := 2) C dJ6_copyOfRangeByte_19 rfl rfl ?_
  refine z_alen (pc := 20) C (kh2.n hv List.not_mem_nil) dJ6_copyOfRangeByte_20 ?_
  refine z_iload_n (pc := 21) (j := 3) C dJ6_copyOfRangeByte_21 rfl rfl ?_
  refine z_isub (pc := 22) C dJ6_copyOfRangeByte_22 ?_
  rw [Int.sub_zero]
  show Z X h2 0 (m.toNat - m.toNat) [(4, .ref a1), (3, .int (iI m)), (0, .ref v), (1, .int (iI 0)), (2, .int (iI m))] 23 [.int (iI ((cap : Nat) : Int)), .int (iI 0), .ref a1, .int (iI 0), .ref v]
  refine z_iload_n (pc := 23) (j := 1) C dJ6_copyOfRangeByte_23 rfl rfl ?_
  refine z_callS (pc := 24) (n := 2) (kc' := 0) (ks' := (m.toNat - m.toNat)) C (ct_min C.t (x := ((cap : Nat) : Int)) (y := m) (by omega) (by omega)) (lw_S q265 q266 q71 q267) (by decide +kernel) ⟨by decide, by decide⟩ rfl rfl (Nat.le_of_ble_eq_true rfl) dJ6_copyOfRangeByte_24 (by omega) (by omega) (zpk (st' := [.int (iI (min ((cap : Nat) : Int) m)), .int (iI 0), .ref a1, .int (iI 0), .ref v]) rfl ?_) zrx
  refine z_copyP (pc := 27) (g' := va_cpy f (fun _ => .int (iI 0)) (Int.toNat 0) (Int.toNat 0) (Int.toNat (min ((cap : Nat) : Int) m))) C q268 q270 q269 q73 rfl (kh2.n hv List.not_mem_nil) fh2_0 (by omega) (by omega) (by omega) (fun i hi => by obtain ⟨c, e, c1, c2⟩ := hfit i (by omega); simp only [Int.toNat_zero, Nat.zero_add, e]; exact ⟨i_fb c1 c2, _, rfl⟩) rfl (by decide) (by decide) dJ6_copyOfRangeByte_27 ?_
  refine Z.nm (fun h3 eh3 => ?_)
  have kh3 : zkeep h h3 [] := by rw [eh3]; exact zkeep.up kh2 (Or.inr na1) fh2_0
  have fh3_0 : h3 a1 = some (true, .inl (.byte, m.toNat, va_cpy f (fun _ => .int (iI 0)) (Int.toNat 0) (Int.toNat 0) (Int.toNat (min ((cap : Nat) : Int) m)))) := zse eh3
  refine z_aload (pc := 30) (j := 0) C dJ6_copyOfRangeByte_30 rfl ?_
  exact z_areturn (pc := 32) C (Or.inr ⟨_, rfl⟩) (Or.inr ⟨_, rfl⟩) (by rw [hXp]; exact ⟨_, rfl, a1, _, rfl, fa1, by rw [eh3, eh2, zup_zup], fun j hj => by rw [va_cpy, if_pos (by omega)]; simp⟩) dJ6_copyOfRangeByte_32
set_option maxHeartbeats 4000000 in
theorem ct_A_copyR {l : Launch} (hl : l.stackTraces = false) {Γ : zCx} {h : zH} {v cap : Nat} {f : Nat → Value} (hv : h v = some (true, .inl (.byte, cap, f))) {m : Int} (hm : 0 ≤ m ∧ m ≤ cap) (hc : cap ≤ 100000) (hfit : ∀ j, j < cap → ∃ c, f j = .int (iI c) ∧ -128 ≤ c ∧ c < 128)  : zMet l yJ6_copyOfRange (ws_ yJ6_copyOfRange cJ6_copyOfRange 3 (some (.array .byte))) ({ frames := 2, cells := 1, slots := m.toNat, locals := 45 }) Γ h [.ref v, .int (iI 0), .int (iI m)] (zrt (fun w h' => ∃ (a : Nat) (g : Nat → Value), w = some (.ref a) ∧ h a = none ∧ h' = zup h a (true, .inl (.byte, m.toNat, g)) ∧ ∀ j, j < m.toNat → g j = f j)) 1 m.toNat := by
  refine zMet.of (cc := cJ6_copyOfRange) hl (plainFor_of_name (by decide +kernel)) (Nat.le_of_ble_eq_true rfl) ?_
  intro X hXl hXΓ hXp C hnm hnL
  have C : zC X cJ6_copyOfRange RJ6 (some (.array .byte)) 2 45 [] := C
  have hnL : X.2.1.2.2.2.2 = 3 := hnL
  subst hXl hXΓ
  show Z X h 1 m.toNat [(0, .ref v), (1, .int (iI 0)), (2, .int (iI m))] 0 []
  refine z_iload_n (pc := 0) (j := 1) C dJ6_copyOfRange_0 rfl rfl ?_
  refine z_if_ne (pc := 1) (tgt := 10) C dJ6_copyOfRange_1 (by decide) (by decide) (fun z => absurd z (by decide)) (fun _ => ?_)
  refine z_iload_n (pc := 4) (j := 2) C dJ6_copyOfRange_4 rfl rfl ?_
  refine z_aload_n (pc := 5) (j := 0) C dJ6_copyOfRange_5 rfl rfl ?_
  refine z_alen (pc := 6) C hv dJ6_copyOfRange_6 ?_
  refine z_icmp_eq (pc := 7) (tgt := 17) C dJ6_copyOfRange_7 (by decide) (by omega) (by omega) (fun c7 => ?_) (fun c7 => ?_)
  · refine z_aload_n (pc := 17) (j := 0) C dJ6_copyOfRange_17 rfl rfl ?_
    refine z_cloneB (pc := 18) (kc' := 0) (ks' := (m.toNat - cap)) C q686 q687 q688 q689 q690 q691 hv (fun i hi => by obtain ⟨c, e, c1, c2⟩ := hfit i (by omega); rw [e]; exact i_fb c1 c2) (by decide) (Nat.le_of_ble_eq_true rfl) (by omega) (by omega) dJ6_copyOfRange_18 (fun a1 fa1 => ?_)
    refine Z.nm (fun h2 eh2 => ?_)
    have na1 : h a1 = none := fa1
    have kh2 : zkeep h h2 [] := by rw [eh2]; exact zkeep.born zkeep.rf fa1
    have fh2_0 : h2 a1 = some (true, .inl (.byte, cap, f)) := zse eh2
    refine z_castB (pc := 21) C q692 fh2_0 dJ6_copyOfRange_21 ?_
    exact z_areturn (pc := 24) C (Or.inr ⟨_, rfl⟩) (Or.inr ⟨_, rfl⟩) (by rw [hXp]; exact ⟨_, rfl, a1, f, rfl, fa1, by rw [eh2, c7]; rfl, fun j _ => rfl⟩) dJ6_copyOfRange_24
  · refine z_aload_n (pc := 10) (j := 0) C dJ6_copyOfRange_10 rfl rfl ?_
    refine z_iload_n (pc := 11) (j := 1) C dJ6_copyOfRange_11 rfl rfl ?_
    refine z_iload_n (pc := 12) (j := 2) C dJ6_copyOfRange_12 rfl rfl ?_
    refine z_callS (pc := 13) (n := 3) (kc' := 0) (ks' := (m.toNat - m.toNat)) C (ct_A_copyRB C.t hv (m := m) (by omega) hc hfit) (lw_S q644 q645 q72 q646) (by decide +kernel) ⟨by decide, by decide⟩ rfl rfl (Nat.le_of_ble_eq_true rfl) dJ6_copyOfRange_13 (by omega) (by omega) (zrk fun w h5 hp => ?_) zrx
    obtain ⟨a3, g4, rfl, fa3, eh5, g41⟩ := hp
    have na3 : h a3 = none := fa3
    have kh5 : zkeep h h5 [] := by rw [eh5]; exact zkeep.born zkeep.rf fa3
    have fh5_0 : h5 a3 = some (true, .inl (.byte, m.toNat, g4)) := zse eh5
    show Z X h5 0 (m.toNat - m.toNat) [(0, .ref v), (1, .int (iI 0)), (2, .int (iI m))] 16 [.ref a3]
    exact z_areturn (pc := 16) C (Or.inr ⟨_, rfl⟩) (Or.inr ⟨_, rfl⟩) (by rw [hXp]; exact ⟨_, rfl, a3, g4, rfl, fa3, eh5, g41⟩) dJ6_copyOfRange_16
set_option maxHeartbeats 4000000 in
theorem ct_S_initA {l : Launch} (hl : l.stackTraces = false) {Γ : zCx} {h : zH} {a : Nat} (ha : h a = some (true, .inr (13, [.null, .int (iI 0), .int (iI 0), .int (iI 0)]))) {b v : Nat} {t : List Int} {cap : Nat} (hb : bAt h b v t cap)  : zMet l yJ14_init_2 (ws_ yJ14_init_2 cJ14_init_2 5 none) ({ frames := 3, cells := 1, slots := t.length, locals := 67 }) Γ h [.ref a, .ref b, .null] (zrt (fun w h' => w = none ∧ sAt h' a t ∧ zkeep h h' [a])) 1 t.length := by
  refine zMet.of (cc := cJ14_init_2) hl (plainFor_of_name (by decide +kernel)) (Nat.le_of_ble_eq_true rfl) ?_
  intro X hXl hXΓ hXp C hnm hnL
  have C : zC X cJ14_init_2 RJ14 none 3 67 [] := C
  have hnL : X.2.1.2.2.2.2 = 5 := hnL
  subst hXl hXΓ
  show Z X h 1 t.length [(0, .ref a), (1, .ref b), (2, .null)] 0 []
  have hb0 := hb
  obtain ⟨z, fb, hb1, hv1, hlen, hcap, hcon, hfit, hasc⟩ := hb
  refine z_aload_n (pc := 0) (j := 0) C dJ14_init_2_0 rfl rfl ?_
  refine z_objInit (pc := 1) C q629 q113 q114 (by decide) (by decide) dJ14_init_2_1 ?_
  refine z_aload_n (pc := 4) (j := 1) C dJ14_init_2_4 rfl rfl ?_
  refine z_callU (pc := 5) (n := 0) (kc' := 1) (ks' := t.length) C (ct_B_getValue (cap := 0) (f := fun _ => .null) C.t hb1) q634 q630 q632 (Or.inl q633) q631 q81 (by decide +kernel) ⟨by decide, by decide⟩ hb1 rfl rfl rfl (Nat.le_of_ble_eq_true rfl) dJ14_init_2_5 (by omega) (by omega) (zpk (st' := [.ref v]) rfl ?_) zrx
  refine z_astore_n (pc := 8) (L' := [(3, .ref v), (0, .ref a), (1, .ref b), (2, .null)]) C dJ14_init_2_8 rfl (by rw [hnL]; decide) rfl ?_
  refine z_aload_n (pc := 9) (j := 2) C dJ14_init_2_9 rfl rfl ?_
  refine z_callO (pc := 10) (n := 0) (kc' := 1) (ks' := t.length) C (ct_B_length (cap := 0) (f := fun _ => .null) C.t hb1) q441 q635 q2479 q2480 q439 q82 (va_Decl.of (C.w _ q443) (C.w _ q444)) (by decide +kernel) ⟨by decide, by decide⟩ hb1 rfl rfl rfl (Nat.le_of_ble_eq_true rfl) dJ14_init_2_10 (by omega) (by omega) (zpk (st' := [.int (iI ((t.length : Nat) : Int))]) rfl ?_) zrx
  refine z_istore (pc := 13) (L' := [(4, .int (iI ((t.length : Nat) : Int))), (3, .ref v), (0, .ref a), (1, .ref b), (2, .null)]) C dJ14_init_2_13 (by rw [hnL]; decide) rfl ?_
  refine z_aload_n (pc := 15) (j := 3) C dJ14_init_2_15 rfl rfl ?_
  refine z_callU (pc := 16) (n := 0) (kc' := 1) (ks' := t.length) C (ct_B_isLatin1 (cap := 0) (f := fun _ => .null) C.t hb1) q640 q636 q638 (Or.inl q639) q637 q81 (by decide +kernel) ⟨by decide, by decide⟩ hb1 rfl rfl rfl (Nat.le_of_ble_eq_true rfl) dJ14_init_2_16 (by omega) (by omega) (zpk (st' := [.int (iI 1)]) rfl ?_) zrx
  refine z_if_eq (pc := 19) (tgt := 41) C dJ14_init_2_19 (by decide) (by decide) (fun z => absurd z (by decide)) (fun _ => ?_)
  refine z_aload_n (pc := 22) (j := 2) C dJ14_init_2_22 rfl rfl ?_
  refine z_iconst (pc := 23) C dJ14_init_2_23 ?_
  refine z_putfieldF (pc := 24) (fs' := [.null, .int (iI 0), .int (iI 0), .int (iI 0)]) C hnm in_J14 tyJ14 tyJ14_ok nmJ14 rfl 1 (by decide) q788 (fun _ z => z) rfl rfl (by decide) (by decide) (Nat.le_of_ble_eq_true rfl) ha rfl dJ14_init_2_24 ?_
  refine Z.nm (fun h1 eh1 => ?_)
  have kh1 : zkeep h h1 [a] := by rw [eh1]; exact zkeep.up zkeep.rf (Or.inl (by simp)) ha
  have fh1_0 : h1 a = some (true, .inr (13, [.null, .int (iI 0), .int (iI 0), .int (iI 0)])) := zse eh1
  refine z_aload_n (pc := 27) (j := 2) C dJ14_init_2_27 rfl rfl ?_
  refine z_aload_n (pc := 28) (j := 1) C dJ14_init_2_28 rfl rfl ?_
  refine z_iconst (pc := 29) C dJ14_init_2_29 ?_
  refine z_iload (pc := 30) (j := 0) C dJ14_init_2_30 rfl ?_
  refine z_callS (pc := 32) (n := 3) (kc' := 0) (ks' := (t.length - ((t.length : Nat) : Int).toNat)) C (ct_A_copyR C.t (kh1.n hv1 (List.not_mem_cons_of_ne_of_not_mem (Ne.symm (zneA ha hv1)) List.not_mem_nil)) (m := ((t.length : Nat) : Int)) (by omega) hcap hfit) (lw_S q641 q642 q72 q643) (by decide +kernel) ⟨by decide, by decide⟩ rfl rfl (Nat.le_of_ble_eq_true rfl) dJ14_init_2_32 (by omega) (by omega) (zrk fun w h4 hp => ?_) zrx
  obtain ⟨a2, g3, rfl, fa2, eh4, g31⟩ := hp
  have na2 : h a2 = none := kh1.none0 fa2 (List.not_mem_cons_of_ne_of_not_mem (Ne.symm (zneF fh1_0 fa2)) List.not_mem_nil)
  have kh4 : zkeep h h4 [a] := by rw [eh4]; exact zkeep.born kh1 fa2
  have fh4_0 : h4 a2 = some (true, .inl (.byte, ((t.length : Nat) : Int).toNat, g3)) := zse eh4
  have fh4_1 : h4 a = some (true, .inr (13, [.null, .int (iI 0), .int (iI 0), .int (iI 0)])) := zsn eh4 fh1_0 (zneF fh1_0 fa2)
  show Z X h4 0 (t.length - ((t.length : Nat) : Int).toNat) [(4, .int (iI ((t.length : Nat) : Int))), (3, .ref v), (0, .ref a), (1, .ref b), (2, .null)] 35 [.ref a2, .ref a]
  refine z_putfieldF (pc := 35) (fs' := [.ref a2, .int (iI 0), .int (iI 0), .int (iI 0)]) C hnm in_J14 tyJ14 tyJ14_ok nmJ14 rfl 0 (by decide) q787 (fun _ z => z) rfl rfl rfl rfl (Nat.le_of_ble_eq_true rfl) fh4_1 rfl dJ14_init_2_35 ?_
  refine Z.nm (fun h5 eh5 => ?_)
  have kh5 : zkeep h h5 [a] := by rw [eh5]; exact zkeep.up kh4 (Or.inl (by simp)) fh4_1
  have fh5_0 : h5 a = some (true, .inr (13, [.ref a2, .int (iI 0), .int (iI 0), .int (iI 0)])) := zse eh5
  have fh5_1 : h5 a2 = some (true, .inl (.byte, ((t.length : Nat) : Int).toNat, g3)) := zsn eh5 fh4_0 (Ne.symm (zneF fh1_0 fa2))
  refine z_goto (pc := 38) (tgt := 97) C dJ14_init_2_38 (by decide) ?_
  refine Z.freeze fh5_1 ?_
  refine Z.nm (fun h6 eh6 => ?_)
  have kh6 : zkeep h h6 [a] := by rw [eh6]; exact zkeep.up kh5 (Or.inr na2) fh5_1
  have fh6_0 : h6 a2 = some (false, .inl (.byte, ((t.length : Nat) : Int).toNat, g3)) := zse eh6
  have fh6_1 : h6 a = some (true, .inr (13, [.ref a2, .int (iI 0), .int (iI 0), .int (iI 0)])) := zsn eh6 fh5_0 (zneF fh1_0 fa2)
  refine Z.freeze fh6_1 ?_
  refine Z.nm (fun h7 eh7 => ?_)
  have kh7 : zkeep h h7 [a] := by rw [eh7]; exact zkeep.up kh6 (Or.inl (by simp)) fh6_1
  have fh7_0 : h7 a = some (false, .inr (13, [.ref a2, .int (iI 0), .int (iI 0), .int (iI 0)])) := zse eh7
  have fh7_1 : h7 a2 = some (false, .inl (.byte, ((t.length : Nat) : Int).toNat, g3)) := zsn eh7 fh6_0 (Ne.symm (zneF fh1_0 fa2))
  exact z_return (pc := 97) C (by rw [hXp]; exact ⟨_, rfl, rfl, sAt.mk (by omega) fh7_0 fh7_1 (by omega) (fun j c e => by rw [g31 j (by have := (List.getElem?_eq_some_iff.mp e).1; omega)]; exact hcon j c e) hasc, kh7⟩) dJ14_init_2_97
set_option maxHeartbeats 4000000 in
theorem ct_S_initB {l : Launch} (hl : l.stackTraces = false) {Γ : zCx} {h : zH} {a : Nat} (ha : h a = some (true, .inr (13, [.null, .int (iI 0), .int (iI 0), .int (iI 0)]))) {b v : Nat} {t : List Int} {cap : Nat} (hb : bAt h b v t cap)  : zMet l yJ14_init (ws_ yJ14_init cJ14_init 2 none) ({ frames := 4, cells := 1, slots := t.length, locals := 91 }) Γ h [.ref a, .ref b] (zrt (fun w h' => w = none ∧ sAt h' a t ∧ zkeep h h' [a])) 1 t.length := by
  refine zMet.of (cc := cJ14_init) hl (plainFor_of_name (by decide +kernel)) (Nat.le_of_ble_eq_true rfl) ?_
  intro X hXl hXΓ hXp C hnm hnL
  have C : zC X cJ14_init RJ14 none 4 91 [] := C
  have hnL : X.2.1.2.2.2.2 = 2 := hnL
  subst hXl hXΓ
  show Z X h 1 t.length [(0, .ref a), (1, .ref b)] 0 []
  have hb0 := hb
  obtain ⟨z, fb, hb1, hv1, hlen, hcap, hcon, hfit, hasc⟩ := hb
  refine z_aload_n (pc := 0) (j := 0) C dJ14_init_0 rfl rfl ?_
  refine z_aload_n (pc := 1) (j := 1) C dJ14_init_1 rfl rfl ?_
  refine z_null (pc := 2) C dJ14_init_2 ?_
  refine z_callI (pc := 3) (n := 2) (kc' := 0) (ks' := (t.length - t.length)) C (ct_S_initA C.t ha hb0) q628 q83 q626 q627 rfl (by decide +kernel) ⟨by decide, by decide⟩ rfl rfl (Nat.le_of_ble_eq_true rfl) dJ14_init_3 (by omega) (by omega) (zrk fun w h1 hp => ?_) zrx
  obtain ⟨rfl, hs3, k2⟩ := hp
  have kh1 : zkeep h h1 [a] := zkeep.loc zkeep.rf k2 (zall_cons (Or.inl (Or.symm (Or.inl (by simp)))) zall_nil)
  show Z X h1 0 (t.length - t.length) [(0, .ref a), (1, .ref b)] 6 []
  exact z_return (pc := 6) C (by rw [hXp]; exact ⟨_, rfl, rfl, hs3, kh1⟩) dJ14_init_6
set_option maxHeartbeats 4000000 in
theorem ct_B_toString {l : Launch} (hl : l.stackTraces = false) {Γ : zCx} {h : zH} {b v : Nat} {t : List Int} {cap : Nat} (hb : bAt h b v t cap) : zMet l yJ13_toString (ws_ yJ13_toString cJ13_toString 1 (some (.object "java/lang/String"))) ({ frames := 5, cells := 2, slots := t.length + 4, locals := 112 }) Γ h [.ref b] (zrt (fun w h' => ∃ a, w = some (.ref a) ∧ sAt h' a t ∧ h a = none ∧ zkeep h h' [])) 2 (t.length + 4) := by
  refine zMet.of (cc := cJ13_toString) hl (plainFor_of_name (by decide +kernel)) (Nat.le_of_ble_eq_true rfl) ?_
  intro X hXl hXΓ hXp C hnm hnL
  have C : zC X cJ13_toString RJ13 (some (.object "java/lang/String")) 5 112 [] := C
  have hnL : X.2.1.2.2.2.2 = 1 := hnL
  subst hXl hXΓ
  show Z X h 2 (t.length + 4) [(0, .ref b)] 0 []
  have hb0 := hb
  obtain ⟨z, fb, hb1, hv1, hlen, hcap, hcon, hfit, hasc⟩ := hb
  refine z_new (pc := 0) (ci := 13) (kc' := 1) (ks' := (t.length + 4 - 4)) (fs := [.null, .int (iI 0), .int (iI 0), .int (iI 0)]) C in_J14 tyJ14 tyJ14_ok rfl q621 q622 q83 df_J14 (by omega) (by omega) dJ13_toString_0 (fun a1 fa1 => ?_)
  refine Z.nm (fun h2 eh2 => ?_)
  have na1 : h a1 = none := fa1
  have kh2 : zkeep h h2 [] := by rw [eh2]; exact zkeep.born zkeep.rf fa1
  have fh2_0 : h2 a1 = some (true, .inr (13, [.null, .int (iI 0), .int (iI 0), .int (iI 0)])) := zse eh2
  refine z_dup (pc := 3) C dJ13_toString_3 rfl ?_
  refine z_aload_n (pc := 4) (j := 0) C dJ13_toString_4 rfl rfl ?_
  refine z_callI (pc := 5) (n := 1) (kc' := 0) (ks' := ((t.length + 4 - 4) - t.length)) C (ct_S_initB C.t fh2_0 (bAt.mk rfl rfl (kh2.n hb1 List.not_mem_nil) (kh2.n hv1 List.not_mem_nil) hlen hcap hcon hfit hasc)) q625 q83 q623 q624 rfl (by decide +kernel) ⟨by decide, by decide⟩ rfl rfl (Nat.le_of_ble_eq_true rfl) dJ13_toString_5 (by omega) (by omega) (zrk fun w h3 hp => ?_) zrx
  obtain ⟨rfl, hs5, k4⟩ := hp
  have kh3 : zkeep h h3 [] := zkeep.loc kh2 k4 (zall_cons (Or.inl (Or.symm (Or.inr na1))) zall_nil)
  show Z X h3 0 ((t.length + 4 - 4) - t.length) [(0, .ref b)] 8 [.ref a1]
  exact z_areturn (pc := 8) C (Or.inl ⟨_, rfl⟩) (Or.inr ⟨_, rfl⟩) (by rw [hXp]; exact ⟨_, rfl, a1, rfl, hs5, na1, kh3⟩) dJ13_toString_8

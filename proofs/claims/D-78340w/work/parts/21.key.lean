/-! 21.key.lean.txt -/
set_option maxRecDepth 100000
abbrev cX3_init : ByteArray := prog_3_method_1_code
def yX3_init : MethodName := ⟨RX3, "<init>", "(IZ)V"⟩
def dkwX3_init_0 : List UInt8 := [42, 183, 0, 3, 42, 27, 181, 0, 9, 42, 28, 181, 0, 15, 177]
abbrev dktX3_init_0 : List UInt8 := dkwX3_init_0 ++ []
theorem dksX3_init_0 : cX3_init.data.toList.drop 0 = dktX3_init_0 := by decide +kernel
abbrev cX7_init : ByteArray := prog_2_method_1_code
def yX7_init : MethodName := ⟨RX7, "<init>", "(IIIII)V"⟩
def dkwX7_init_1 : List UInt8 := [181, 0, 21, 42, 21, 5, 181, 0, 24, 177]
abbrev dktX7_init_1 : List UInt8 := dkwX7_init_1 ++ []
def dkwX7_init_0 : List UInt8 := [42, 183, 0, 3, 42, 27, 181, 0, 9, 42, 28, 181, 0, 15, 42, 29, 181, 0, 18, 42, 21, 4]
abbrev dktX7_init_0 : List UInt8 := dkwX7_init_0 ++ dktX7_init_1
theorem dksX7_init_0 : cX7_init.data.toList.drop 0 = dktX7_init_0 := by decide +kernel
theorem dksX7_init_1 : cX7_init.data.toList.drop 22 = dktX7_init_1 := dk_seg dksX7_init_0 22 rfl rfl
abbrev cX8_init : ByteArray := prog_6_method_1_code
def yX8_init : MethodName := ⟨RX8, "<init>", "(IIZ)V"⟩
def dkwX8_init_0 : List UInt8 := [42, 183, 0, 3, 42, 27, 181, 0, 9, 42, 28, 181, 0, 15, 42, 29, 181, 0, 18, 177]
abbrev dktX8_init_0 : List UInt8 := dkwX8_init_0 ++ []
theorem dksX8_init_0 : cX8_init.data.toList.drop 0 = dktX8_init_0 := by decide +kernel
abbrev cX9_init : ByteArray := prog_8_method_1_code
def yX9_init : MethodName := ⟨RX9, "<init>", "()V"⟩
abbrev cX3_ofSignature : ByteArray := prog_3_method_2_code
def yX3_ofSignature : MethodName := ⟨RX3, "ofSignature", "(IZ)LChordSheet$Key;"⟩
def dkwX3_ofSignature_0 : List UInt8 := [187, 0, 10, 89, 26, 27, 153, 0, 7, 6, 167, 0, 4, 3, 96, 27, 183, 0, 19, 176]
abbrev dktX3_ofSignature_0 : List UInt8 := dkwX3_ofSignature_0 ++ []
theorem dksX3_ofSignature_0 : cX3_ofSignature.data.toList.drop 0 = dktX3_ofSignature_0 := by decide +kernel
abbrev cX3_signature : ByteArray := prog_3_method_3_code
def yX3_signature : MethodName := ⟨RX3, "signature", "()I"⟩
def dkwX3_signature_0 : List UInt8 := [42, 180, 0, 9, 42, 180, 0, 15, 153, 0, 7, 6, 167, 0, 4, 3, 100, 172]
abbrev dktX3_signature_0 : List UInt8 := dkwX3_signature_0 ++ []
theorem dksX3_signature_0 : cX3_signature.data.toList.drop 0 = dktX3_signature_0 := by decide +kernel
abbrev cX3_isAllowed : ByteArray := prog_3_method_4_code
def yX3_isAllowed : MethodName := ⟨RX3, "isAllowed", "()Z"⟩
def dkwX3_isAllowed_0 : List UInt8 := [42, 182, 0, 22, 133, 20, 0, 26, 20, 0, 28, 184, 0, 30, 172]
abbrev dktX3_isAllowed_0 : List UInt8 := dkwX3_isAllowed_0 ++ []
theorem dksX3_isAllowed_0 : cX3_isAllowed.data.toList.drop 0 = dktX3_isAllowed_0 := by decide +kernel
abbrev cX3_hasInScale : ByteArray := prog_3_method_5_code
def yX3_hasInScale : MethodName := ⟨RX3, "hasInScale", "(I)Z"⟩
def dkwX3_hasInScale_1 : List UInt8 := [172]
abbrev dktX3_hasInScale_1 : List UInt8 := dkwX3_hasInScale_1 ++ []
def dkwX3_hasInScale_0 : List UInt8 := [42, 182, 0, 22, 4, 100, 61, 28, 27, 184, 0, 34, 28, 16, 6, 96, 163, 0, 7, 4, 167, 0, 4, 3]
abbrev dktX3_hasInScale_0 : List UInt8 := dkwX3_hasInScale_0 ++ dktX3_hasInScale_1
theorem dksX3_hasInScale_0 : cX3_hasInScale.data.toList.drop 0 = dktX3_hasInScale_0 := by decide +kernel
theorem dksX3_hasInScale_1 : cX3_hasInScale.data.toList.drop 24 = dktX3_hasInScale_1 := dk_seg dksX3_hasInScale_0 24 rfl rfl
abbrev cX3_spelled : ByteArray := prog_3_method_6_code
def yX3_spelled : MethodName := ⟨RX3, "spelled", "(IZ)I"⟩
def dkwX3_spelled_2 : List UInt8 := [29, 172]
abbrev dktX3_spelled_2 : List UInt8 := dkwX3_spelled_2 ++ []
def dkwX3_spelled_1 : List UInt8 := [184, 0, 42, 5, 160, 0, 20, 21, 4, 158, 0, 10, 29, 16, 12, 100, 167, 0, 7, 29, 16, 12, 96, 172]
abbrev dktX3_spelled_1 : List UInt8 := dkwX3_spelled_1 ++ dktX3_spelled_2
def dkwX3_spelled_0 : List UInt8 := [42, 182, 0, 22, 6, 100, 27, 184, 0, 34, 62, 29, 184, 0, 38, 54, 4, 28, 153, 0, 29, 21, 4]
abbrev dktX3_spelled_0 : List UInt8 := dkwX3_spelled_0 ++ dktX3_spelled_1
theorem dksX3_spelled_0 : cX3_spelled.data.toList.drop 0 = dktX3_spelled_0 := by decide +kernel
theorem dksX3_spelled_1 : cX3_spelled.data.toList.drop 23 = dktX3_spelled_1 := dk_seg dksX3_spelled_0 23 rfl rfl
theorem dksX3_spelled_2 : cX3_spelled.data.toList.drop 47 = dktX3_spelled_2 := dk_seg dksX3_spelled_1 24 rfl rfl
abbrev cX3_degree : ByteArray := prog_3_method_7_code
def yX3_degree : MethodName := ⟨RX3, "degree", "(I)I"⟩
def dkwX3_degree_3 : List UInt8 := [167, 255, 210, 29, 172]
abbrev dktX3_degree_3 : List UInt8 := dkwX3_degree_3 ++ []
def dkwX3_degree_2 : List UInt8 := [153, 0, 19, 132, 4, 1, 21, 5, 28, 160, 0, 8, 21, 4, 167, 0, 4, 29, 62, 132, 5, 1]
abbrev dktX3_degree_2 : List UInt8 := dkwX3_degree_2 ++ dktX3_degree_3
def dkwX3_degree_1 : List UInt8 := [21, 5, 16, 12, 162, 0, 45, 42, 21, 5, 42, 180, 0, 9, 184, 0, 47, 96, 16, 12, 112, 182, 0, 53]
abbrev dktX3_degree_1 : List UInt8 := dkwX3_degree_1 ++ dktX3_degree_2
def dkwX3_degree_0 : List UInt8 := [27, 42, 180, 0, 9, 184, 0, 47, 100, 16, 12, 184, 0, 50, 61, 3, 62, 3, 54, 4, 3, 54, 5]
abbrev dktX3_degree_0 : List UInt8 := dkwX3_degree_0 ++ dktX3_degree_1
theorem dksX3_degree_0 : cX3_degree.data.toList.drop 0 = dktX3_degree_0 := by decide +kernel
theorem dksX3_degree_1 : cX3_degree.data.toList.drop 23 = dktX3_degree_1 := dk_seg dksX3_degree_0 23 rfl rfl
theorem dksX3_degree_2 : cX3_degree.data.toList.drop 47 = dktX3_degree_2 := dk_seg dksX3_degree_1 24 rfl rfl
theorem dksX3_degree_3 : cX3_degree.data.toList.drop 69 = dktX3_degree_3 := dk_seg dksX3_degree_2 22 rfl rfl
abbrev cX3_higher : ByteArray := prog_3_method_8_code
def yX3_higher : MethodName := ⟨RX3, "higher", "(IZ)LChordSheet$Key;"⟩
def dkwX3_higher_2 : List UInt8 := [160, 0, 12, 28, 153, 0, 8, 16, 250, 167, 0, 5, 21, 5, 42, 180, 0, 15, 184, 0, 57, 176]
abbrev dktX3_higher_2 : List UInt8 := dkwX3_higher_2 ++ []
def dkwX3_higher_1 : List UInt8 := [167, 0, 4, 3, 54, 4, 21, 4, 8, 100, 29, 184, 0, 34, 21, 4, 100, 54, 5, 21, 5, 16, 6]
abbrev dktX3_higher_1 : List UInt8 := dkwX3_higher_1 ++ dktX3_higher_2
def dkwX3_higher_0 : List UInt8 := [42, 180, 0, 9, 184, 0, 47, 27, 96, 16, 12, 184, 0, 50, 62, 42, 180, 0, 15, 153, 0, 7, 6]
abbrev dktX3_higher_0 : List UInt8 := dkwX3_higher_0 ++ dktX3_higher_1
theorem dksX3_higher_0 : cX3_higher.data.toList.drop 0 = dktX3_higher_0 := by decide +kernel
theorem dksX3_higher_1 : cX3_higher.data.toList.drop 23 = dktX3_higher_1 := dk_seg dksX3_higher_0 23 rfl rfl
theorem dksX3_higher_2 : cX3_higher.data.toList.drop 46 = dktX3_higher_2 := dk_seg dksX3_higher_1 23 rfl rfl
theorem dX3_init_0 : decode cX3_init 0 = .ok (.aload_n 0, 1) := dk_42 (dk_at dksX3_init_0 0 rfl rfl)
theorem dX3_init_1 : decode cX3_init 1 = .ok (.invokespecial 3, 3) := dk_183 0 3 (dk_at dksX3_init_0 1 rfl rfl)
theorem dX3_init_4 : decode cX3_init 4 = .ok (.aload_n 0, 1) := dk_42 (dk_at dksX3_init_0 4 rfl rfl)
theorem dX3_init_5 : decode cX3_init 5 = .ok (.iload_n 1, 1) := dk_27 (dk_at dksX3_init_0 5 rfl rfl)
theorem dX3_init_6 : decode cX3_init 6 = .ok (.putfield 9, 3) := dk_181 0 9 (dk_at dksX3_init_0 6 rfl rfl)
theorem dX3_init_9 : decode cX3_init 9 = .ok (.aload_n 0, 1) := dk_42 (dk_at dksX3_init_0 9 rfl rfl)
theorem dX3_init_10 : decode cX3_init 10 = .ok (.iload_n 2, 1) := dk_28 (dk_at dksX3_init_0 10 rfl rfl)
theorem dX3_init_11 : decode cX3_init 11 = .ok (.putfield 15, 3) := dk_181 0 15 (dk_at dksX3_init_0 11 rfl rfl)
theorem dX3_init_14 : decode cX3_init 14 = .ok (.return_, 1) := dk_177 (dk_at dksX3_init_0 14 rfl rfl)
theorem dX7_init_0 : decode cX7_init 0 = .ok (.aload_n 0, 1) := dk_42 (dk_at dksX7_init_0 0 rfl rfl)
theorem dX7_init_1 : decode cX7_init 1 = .ok (.invokespecial 3, 3) := dk_183 0 3 (dk_at dksX7_init_0 1 rfl rfl)
theorem dX7_init_4 : decode cX7_init 4 = .ok (.aload_n 0, 1) := dk_42 (dk_at dksX7_init_0 4 rfl rfl)
theorem dX7_init_5 : decode cX7_init 5 = .ok (.iload_n 1, 1) := dk_27 (dk_at dksX7_init_0 5 rfl rfl)
theorem dX7_init_6 : decode cX7_init 6 = .ok (.putfield 9, 3) := dk_181 0 9 (dk_at dksX7_init_0 6 rfl rfl)
theorem dX7_init_9 : decode cX7_init 9 = .ok (.aload_n 0, 1) := dk_42 (dk_at dksX7_init_0 9 rfl rfl)
theorem dX7_init_10 : decode cX7_init 10 = .ok (.iload_n 2, 1) := dk_28 (dk_at dksX7_init_0 10 rfl rfl)
theorem dX7_init_11 : decode cX7_init 11 = .ok (.putfield 15, 3) := dk_181 0 15 (dk_at dksX7_init_0 11 rfl rfl)
theorem dX7_init_14 : decode cX7_init 14 = .ok (.aload_n 0, 1) := dk_42 (dk_at dksX7_init_0 14 rfl rfl)
theorem dX7_init_15 : decode cX7_init 15 = .ok (.iload_n 3, 1) := dk_29 (dk_at dksX7_init_0 15 rfl rfl)
theorem dX7_init_16 : decode cX7_init 16 = .ok (.putfield 18, 3) := dk_181 0 18 (dk_at dksX7_init_0 16 rfl rfl)
theorem dX7_init_19 : decode cX7_init 19 = .ok (.aload_n 0, 1) := dk_42 (dk_at dksX7_init_0 19 rfl rfl)
theorem dX7_init_20 : decode cX7_init 20 = .ok (.iload 4, 2) := dk_21 4 (dk_at dksX7_init_0 20 rfl rfl)
theorem dX7_init_22 : decode cX7_init 22 = .ok (.putfield 21, 3) := dk_181 0 21 (dk_at dksX7_init_1 0 rfl rfl)
theorem dX7_init_25 : decode cX7_init 25 = .ok (.aload_n 0, 1) := dk_42 (dk_at dksX7_init_1 3 rfl rfl)
theorem dX7_init_26 : decode cX7_init 26 = .ok (.iload 5, 2) := dk_21 5 (dk_at dksX7_init_1 4 rfl rfl)
theorem dX7_init_28 : decode cX7_init 28 = .ok (.putfield 24, 3) := dk_181 0 24 (dk_at dksX7_init_1 6 rfl rfl)
theorem dX7_init_31 : decode cX7_init 31 = .ok (.return_, 1) := dk_177 (dk_at dksX7_init_1 9 rfl rfl)
theorem dX8_init_0 : decode cX8_init 0 = .ok (.aload_n 0, 1) := dk_42 (dk_at dksX8_init_0 0 rfl rfl)
theorem dX8_init_1 : decode cX8_init 1 = .ok (.invokespecial 3, 3) := dk_183 0 3 (dk_at dksX8_init_0 1 rfl rfl)
theorem dX8_init_4 : decode cX8_init 4 = .ok (.aload_n 0, 1) := dk_42 (dk_at dksX8_init_0 4 rfl rfl)
theorem dX8_init_5 : decode cX8_init 5 = .ok (.iload_n 1, 1) := dk_27 (dk_at dksX8_init_0 5 rfl rfl)
theorem dX8_init_6 : decode cX8_init 6 = .ok (.putfield 9, 3) := dk_181 0 9 (dk_at dksX8_init_0 6 rfl rfl)
theorem dX8_init_9 : decode cX8_init 9 = .ok (.aload_n 0, 1) := dk_42 (dk_at dksX8_init_0 9 rfl rfl)
theorem dX8_init_10 : decode cX8_init 10 = .ok (.iload_n 2, 1) := dk_28 (dk_at dksX8_init_0 10 rfl rfl)
theorem dX8_init_11 : decode cX8_init 11 = .ok (.putfield 15, 3) := dk_181 0 15 (dk_at dksX8_init_0 11 rfl rfl)
theorem dX8_init_14 : decode cX8_init 14 = .ok (.aload_n 0, 1) := dk_42 (dk_at dksX8_init_0 14 rfl rfl)
theorem dX8_init_15 : decode cX8_init 15 = .ok (.iload_n 3, 1) := dk_29 (dk_at dksX8_init_0 15 rfl rfl)
theorem dX8_init_16 : decode cX8_init 16 = .ok (.putfield 18, 3) := dk_181 0 18 (dk_at dksX8_init_0 16 rfl rfl)
theorem dX8_init_19 : decode cX8_init 19 = .ok (.return_, 1) := dk_177 (dk_at dksX8_init_0 19 rfl rfl)
theorem dX9_init_0 : decode cX9_init 0 = .ok (.aload_n 0, 1) := by decide +kernel
theorem dX9_init_1 : decode cX9_init 1 = .ok (.invokespecial 1, 3) := by decide +kernel
theorem dX9_init_4 : decode cX9_init 4 = .ok (.return_, 1) := by decide +kernel
theorem dX3_ofSignature_0 : decode cX3_ofSignature 0 = .ok (.new 10, 3) := dk_187 0 10 (dk_at dksX3_ofSignature_0 0 rfl rfl)
theorem dX3_ofSignature_3 : decode cX3_ofSignature 3 = .ok (.dup, 1) := dk_89 (dk_at dksX3_ofSignature_0 3 rfl rfl)
theorem dX3_ofSignature_4 : decode cX3_ofSignature 4 = .ok (.iload_n 0, 1) := dk_26 (dk_at dksX3_ofSignature_0 4 rfl rfl)
theorem dX3_ofSignature_5 : decode cX3_ofSignature 5 = .ok (.iload_n 1, 1) := dk_27 (dk_at dksX3_ofSignature_0 5 rfl rfl)
theorem dX3_ofSignature_6 : decode cX3_ofSignature 6 = .ok (.ifCond .eq 7, 3) := dk_153 0 7 (dk_at dksX3_ofSignature_0 6 rfl rfl)
theorem dX3_ofSignature_9 : decode cX3_ofSignature 9 = .ok (.iconst 3, 1) := dk_6 (dk_at dksX3_ofSignature_0 9 rfl rfl)
theorem dX3_ofSignature_10 : decode cX3_ofSignature 10 = .ok (.goto 4, 3) := dk_167 0 4 (dk_at dksX3_ofSignature_0 10 rfl rfl)
theorem dX3_ofSignature_13 : decode cX3_ofSignature 13 = .ok (.iconst 0, 1) := dk_3 (dk_at dksX3_ofSignature_0 13 rfl rfl)
theorem dX3_ofSignature_14 : decode cX3_ofSignature 14 = .ok (.iadd, 1) := dk_96 (dk_at dksX3_ofSignature_0 14 rfl rfl)
theorem dX3_ofSignature_15 : decode cX3_ofSignature 15 = .ok (.iload_n 1, 1) := dk_27 (dk_at dksX3_ofSignature_0 15 rfl rfl)
theorem dX3_ofSignature_16 : decode cX3_ofSignature 16 = .ok (.invokespecial 19, 3) := dk_183 0 19 (dk_at dksX3_ofSignature_0 16 rfl rfl)
theorem dX3_ofSignature_19 : decode cX3_ofSignature 19 = .ok (.areturn, 1) := dk_176 (dk_at dksX3_ofSignature_0 19 rfl rfl)
theorem dX3_signature_0 : decode cX3_signature 0 = .ok (.aload_n 0, 1) := dk_42 (dk_at dksX3_signature_0 0 rfl rfl)
theorem dX3_signature_1 : decode cX3_signature 1 = .ok (.getfield 9, 3) := dk_180 0 9 (dk_at dksX3_signature_0 1 rfl rfl)
theorem dX3_signature_4 : decode cX3_signature 4 = .ok (.aload_n 0, 1) := dk_42 (dk_at dksX3_signature_0 4 rfl rfl)
theorem dX3_signature_5 : decode cX3_signature 5 = .ok (.getfield 15, 3) := dk_180 0 15 (dk_at dksX3_signature_0 5 rfl rfl)
theorem dX3_signature_8 : decode cX3_signature 8 = .ok (.ifCond .eq 7, 3) := dk_153 0 7 (dk_at dksX3_signature_0 8 rfl rfl)
theorem dX3_signature_11 : decode cX3_signature 11 = .ok (.iconst 3, 1) := dk_6 (dk_at dksX3_signature_0 11 rfl rfl)
theorem dX3_signature_12 : decode cX3_signature 12 = .ok (.goto 4, 3) := dk_167 0 4 (dk_at dksX3_signature_0 12 rfl rfl)
theorem dX3_signature_15 : decode cX3_signature 15 = .ok (.iconst 0, 1) := dk_3 (dk_at dksX3_signature_0 15 rfl rfl)
theorem dX3_signature_16 : decode cX3_signature 16 = .ok (.isub, 1) := dk_100 (dk_at dksX3_signature_0 16 rfl rfl)
theorem dX3_signature_17 : decode cX3_signature 17 = .ok (.ireturn, 1) := dk_172 (dk_at dksX3_signature_0 17 rfl rfl)
theorem dX3_isAllowed_0 : decode cX3_isAllowed 0 = .ok (.aload_n 0, 1) := dk_42 (dk_at dksX3_isAllowed_0 0 rfl rfl)
theorem dX3_isAllowed_1 : decode cX3_isAllowed 1 = .ok (.invokevirtual 22, 3) := dk_182 0 22 (dk_at dksX3_isAllowed_0 1 rfl rfl)
theorem dX3_isAllowed_4 : decode cX3_isAllowed 4 = .ok (.i2l, 1) := dk_133 (dk_at dksX3_isAllowed_0 4 rfl rfl)
theorem dX3_isAllowed_5 : decode cX3_isAllowed 5 = .ok (.ldc2_w 26, 3) := dk_20 0 26 (dk_at dksX3_isAllowed_0 5 rfl rfl)
theorem dX3_isAllowed_8 : decode cX3_isAllowed 8 = .ok (.ldc2_w 28, 3) := dk_20 0 28 (dk_at dksX3_isAllowed_0 8 rfl rfl)
theorem dX3_isAllowed_11 : decode cX3_isAllowed 11 = .ok (.invokestatic 30, 3) := dk_184 0 30 (dk_at dksX3_isAllowed_0 11 rfl rfl)
theorem dX3_isAllowed_14 : decode cX3_isAllowed 14 = .ok (.ireturn, 1) := dk_172 (dk_at dksX3_isAllowed_0 14 rfl rfl)
theorem dX3_hasInScale_0 : decode cX3_hasInScale 0 = .ok (.aload_n 0, 1) := dk_42 (dk_at dksX3_hasInScale_0 0 rfl rfl)
theorem dX3_hasInScale_1 : decode cX3_hasInScale 1 = .ok (.invokevirtual 22, 3) := dk_182 0 22 (dk_at dksX3_hasInScale_0 1 rfl rfl)
theorem dX3_hasInScale_4 : decode cX3_hasInScale 4 = .ok (.iconst 1, 1) := dk_4 (dk_at dksX3_hasInScale_0 4 rfl rfl)
theorem dX3_hasInScale_5 : decode cX3_hasInScale 5 = .ok (.isub, 1) := dk_100 (dk_at dksX3_hasInScale_0 5 rfl rfl)
theorem dX3_hasInScale_6 : decode cX3_hasInScale 6 = .ok (.istore_n 2, 1) := dk_61 (dk_at dksX3_hasInScale_0 6 rfl rfl)
theorem dX3_hasInScale_7 : decode cX3_hasInScale 7 = .ok (.iload_n 2, 1) := dk_28 (dk_at dksX3_hasInScale_0 7 rfl rfl)
theorem dX3_hasInScale_8 : decode cX3_hasInScale 8 = .ok (.iload_n 1, 1) := dk_27 (dk_at dksX3_hasInScale_0 8 rfl rfl)
theorem dX3_hasInScale_9 : decode cX3_hasInScale 9 = .ok (.invokestatic 34, 3) := dk_184 0 34 (dk_at dksX3_hasInScale_0 9 rfl rfl)
theorem dX3_hasInScale_12 : decode cX3_hasInScale 12 = .ok (.iload_n 2, 1) := dk_28 (dk_at dksX3_hasInScale_0 12 rfl rfl)
theorem dX3_hasInScale_13 : decode cX3_hasInScale 13 = .ok (.bipush 6, 2) := dk_16 6 (dk_at dksX3_hasInScale_0 13 rfl rfl)
theorem dX3_hasInScale_15 : decode cX3_hasInScale 15 = .ok (.iadd, 1) := dk_96 (dk_at dksX3_hasInScale_0 15 rfl rfl)
theorem dX3_hasInScale_16 : decode cX3_hasInScale 16 = .ok (.if_icmp .gt 7, 3) := dk_163 0 7 (dk_at dksX3_hasInScale_0 16 rfl rfl)
theorem dX3_hasInScale_19 : decode cX3_hasInScale 19 = .ok (.iconst 1, 1) := dk_4 (dk_at dksX3_hasInScale_0 19 rfl rfl)
theorem dX3_hasInScale_20 : decode cX3_hasInScale 20 = .ok (.goto 4, 3) := dk_167 0 4 (dk_at dksX3_hasInScale_0 20 rfl rfl)
theorem dX3_hasInScale_23 : decode cX3_hasInScale 23 = .ok (.iconst 0, 1) := dk_3 (dk_at dksX3_hasInScale_0 23 rfl rfl)
theorem dX3_hasInScale_24 : decode cX3_hasInScale 24 = .ok (.ireturn, 1) := dk_172 (dk_at dksX3_hasInScale_1 0 rfl rfl)
theorem dX3_spelled_0 : decode cX3_spelled 0 = .ok (.aload_n 0, 1) := dk_42 (dk_at dksX3_spelled_0 0 rfl rfl)
theorem dX3_spelled_1 : decode cX3_spelled 1 = .ok (.invokevirtual 22, 3) := dk_182 0 22 (dk_at dksX3_spelled_0 1 rfl rfl)
theorem dX3_spelled_4 : decode cX3_spelled 4 = .ok (.iconst 3, 1) := dk_6 (dk_at dksX3_spelled_0 4 rfl rfl)
theorem dX3_spelled_5 : decode cX3_spelled 5 = .ok (.isub, 1) := dk_100 (dk_at dksX3_spelled_0 5 rfl rfl)
theorem dX3_spelled_6 : decode cX3_spelled 6 = .ok (.iload_n 1, 1) := dk_27 (dk_at dksX3_spelled_0 6 rfl rfl)
theorem dX3_spelled_7 : decode cX3_spelled 7 = .ok (.invokestatic 34, 3) := dk_184 0 34 (dk_at dksX3_spelled_0 7 rfl rfl)
theorem dX3_spelled_10 : decode cX3_spelled 10 = .ok (.istore_n 3, 1) := dk_62 (dk_at dksX3_spelled_0 10 rfl rfl)
theorem dX3_spelled_11 : decode cX3_spelled 11 = .ok (.iload_n 3, 1) := dk_29 (dk_at dksX3_spelled_0 11 rfl rfl)
theorem dX3_spelled_12 : decode cX3_spelled 12 = .ok (.invokestatic 38, 3) := dk_184 0 38 (dk_at dksX3_spelled_0 12 rfl rfl)
theorem dX3_spelled_15 : decode cX3_spelled 15 = .ok (.istore 4, 2) := dk_54 4 (dk_at dksX3_spelled_0 15 rfl rfl)
theorem dX3_spelled_17 : decode cX3_spelled 17 = .ok (.iload_n 2, 1) := dk_28 (dk_at dksX3_spelled_0 17 rfl rfl)
theorem dX3_spelled_18 : decode cX3_spelled 18 = .ok (.ifCond .eq 29, 3) := dk_153 0 29 (dk_at dksX3_spelled_0 18 rfl rfl)
theorem dX3_spelled_21 : decode cX3_spelled 21 = .ok (.iload 4, 2) := dk_21 4 (dk_at dksX3_spelled_0 21 rfl rfl)
theorem dX3_spelled_23 : decode cX3_spelled 23 = .ok (.invokestatic 42, 3) := dk_184 0 42 (dk_at dksX3_spelled_1 0 rfl rfl)
theorem dX3_spelled_26 : decode cX3_spelled 26 = .ok (.iconst 2, 1) := dk_5 (dk_at dksX3_spelled_1 3 rfl rfl)
theorem dX3_spelled_27 : decode cX3_spelled 27 = .ok (.if_icmp .ne 20, 3) := dk_160 0 20 (dk_at dksX3_spelled_1 4 rfl rfl)
theorem dX3_spelled_30 : decode cX3_spelled 30 = .ok (.iload 4, 2) := dk_21 4 (dk_at dksX3_spelled_1 7 rfl rfl)
theorem dX3_spelled_32 : decode cX3_spelled 32 = .ok (.ifCond .le 10, 3) := dk_158 0 10 (dk_at dksX3_spelled_1 9 rfl rfl)
theorem dX3_spelled_35 : decode cX3_spelled 35 = .ok (.iload_n 3, 1) := dk_29 (dk_at dksX3_spelled_1 12 rfl rfl)
theorem dX3_spelled_36 : decode cX3_spelled 36 = .ok (.bipush 12, 2) := dk_16 12 (dk_at dksX3_spelled_1 13 rfl rfl)
theorem dX3_spelled_38 : decode cX3_spelled 38 = .ok (.isub, 1) := dk_100 (dk_at dksX3_spelled_1 15 rfl rfl)
theorem dX3_spelled_39 : decode cX3_spelled 39 = .ok (.goto 7, 3) := dk_167 0 7 (dk_at dksX3_spelled_1 16 rfl rfl)
theorem dX3_spelled_42 : decode cX3_spelled 42 = .ok (.iload_n 3, 1) := dk_29 (dk_at dksX3_spelled_1 19 rfl rfl)
theorem dX3_spelled_43 : decode cX3_spelled 43 = .ok (.bipush 12, 2) := dk_16 12 (dk_at dksX3_spelled_1 20 rfl rfl)
theorem dX3_spelled_45 : decode cX3_spelled 45 = .ok (.iadd, 1) := dk_96 (dk_at dksX3_spelled_1 22 rfl rfl)
theorem dX3_spelled_46 : decode cX3_spelled 46 = .ok (.ireturn, 1) := dk_172 (dk_at dksX3_spelled_1 23 rfl rfl)
theorem dX3_spelled_47 : decode cX3_spelled 47 = .ok (.iload_n 3, 1) := dk_29 (dk_at dksX3_spelled_2 0 rfl rfl)
theorem dX3_spelled_48 : decode cX3_spelled 48 = .ok (.ireturn, 1) := dk_172 (dk_at dksX3_spelled_2 1 rfl rfl)
theorem dX3_degree_0 : decode cX3_degree 0 = .ok (.iload_n 1, 1) := dk_27 (dk_at dksX3_degree_0 0 rfl rfl)
theorem dX3_degree_1 : decode cX3_degree 1 = .ok (.aload_n 0, 1) := dk_42 (dk_at dksX3_degree_0 1 rfl rfl)
theorem dX3_degree_2 : decode cX3_degree 2 = .ok (.getfield 9, 3) := dk_180 0 9 (dk_at dksX3_degree_0 2 rfl rfl)
theorem dX3_degree_5 : decode cX3_degree 5 = .ok (.invokestatic 47, 3) := dk_184 0 47 (dk_at dksX3_degree_0 5 rfl rfl)
theorem dX3_degree_8 : decode cX3_degree 8 = .ok (.isub, 1) := dk_100 (dk_at dksX3_degree_0 8 rfl rfl)
theorem dX3_degree_9 : decode cX3_degree 9 = .ok (.bipush 12, 2) := dk_16 12 (dk_at dksX3_degree_0 9 rfl rfl)
theorem dX3_degree_11 : decode cX3_degree 11 = .ok (.invokestatic 50, 3) := dk_184 0 50 (dk_at dksX3_degree_0 11 rfl rfl)
theorem dX3_degree_14 : decode cX3_degree 14 = .ok (.istore_n 2, 1) := dk_61 (dk_at dksX3_degree_0 14 rfl rfl)
theorem dX3_degree_15 : decode cX3_degree 15 = .ok (.iconst 0, 1) := dk_3 (dk_at dksX3_degree_0 15 rfl rfl)
theorem dX3_degree_16 : decode cX3_degree 16 = .ok (.istore_n 3, 1) := dk_62 (dk_at dksX3_degree_0 16 rfl rfl)
theorem dX3_degree_17 : decode cX3_degree 17 = .ok (.iconst 0, 1) := dk_3 (dk_at dksX3_degree_0 17 rfl rfl)
theorem dX3_degree_18 : decode cX3_degree 18 = .ok (.istore 4, 2) := dk_54 4 (dk_at dksX3_degree_0 18 rfl rfl)
theorem dX3_degree_20 : decode cX3_degree 20 = .ok (.iconst 0, 1) := dk_3 (dk_at dksX3_degree_0 20 rfl rfl)
theorem dX3_degree_21 : decode cX3_degree 21 = .ok (.istore 5, 2) := dk_54 5 (dk_at dksX3_degree_0 21 rfl rfl)
theorem dX3_degree_23 : decode cX3_degree 23 = .ok (.iload 5, 2) := dk_21 5 (dk_at dksX3_degree_1 0 rfl rfl)
theorem dX3_degree_25 : decode cX3_degree 25 = .ok (.bipush 12, 2) := dk_16 12 (dk_at dksX3_degree_1 2 rfl rfl)
theorem dX3_degree_27 : decode cX3_degree 27 = .ok (.if_icmp .ge 45, 3) := dk_162 0 45 (dk_at dksX3_degree_1 4 rfl rfl)
theorem dX3_degree_30 : decode cX3_degree 30 = .ok (.aload_n 0, 1) := dk_42 (dk_at dksX3_degree_1 7 rfl rfl)
theorem dX3_degree_31 : decode cX3_degree 31 = .ok (.iload 5, 2) := dk_21 5 (dk_at dksX3_degree_1 8 rfl rfl)
theorem dX3_degree_33 : decode cX3_degree 33 = .ok (.aload_n 0, 1) := dk_42 (dk_at dksX3_degree_1 10 rfl rfl)
theorem dX3_degree_34 : decode cX3_degree 34 = .ok (.getfield 9, 3) := dk_180 0 9 (dk_at dksX3_degree_1 11 rfl rfl)
theorem dX3_degree_37 : decode cX3_degree 37 = .ok (.invokestatic 47, 3) := dk_184 0 47 (dk_at dksX3_degree_1 14 rfl rfl)
theorem dX3_degree_40 : decode cX3_degree 40 = .ok (.iadd, 1) := dk_96 (dk_at dksX3_degree_1 17 rfl rfl)
theorem dX3_degree_41 : decode cX3_degree 41 = .ok (.bipush 12, 2) := dk_16 12 (dk_at dksX3_degree_1 18 rfl rfl)
theorem dX3_degree_43 : decode cX3_degree 43 = .ok (.irem, 1) := dk_112 (dk_at dksX3_degree_1 20 rfl rfl)
theorem dX3_degree_44 : decode cX3_degree 44 = .ok (.invokevirtual 53, 3) := dk_182 0 53 (dk_at dksX3_degree_1 21 rfl rfl)
theorem dX3_degree_47 : decode cX3_degree 47 = .ok (.ifCond .eq 19, 3) := dk_153 0 19 (dk_at dksX3_degree_2 0 rfl rfl)
theorem dX3_degree_50 : decode cX3_degree 50 = .ok (.iinc 4 1, 3) := dk_132 4 1 (dk_at dksX3_degree_2 3 rfl rfl)
theorem dX3_degree_53 : decode cX3_degree 53 = .ok (.iload 5, 2) := dk_21 5 (dk_at dksX3_degree_2 6 rfl rfl)
theorem dX3_degree_55 : decode cX3_degree 55 = .ok (.iload_n 2, 1) := dk_28 (dk_at dksX3_degree_2 8 rfl rfl)
theorem dX3_degree_56 : decode cX3_degree 56 = .ok (.if_icmp .ne 8, 3) := dk_160 0 8 (dk_at dksX3_degree_2 9 rfl rfl)
theorem dX3_degree_59 : decode cX3_degree 59 = .ok (.iload 4, 2) := dk_21 4 (dk_at dksX3_degree_2 12 rfl rfl)
theorem dX3_degree_61 : decode cX3_degree 61 = .ok (.goto 4, 3) := dk_167 0 4 (dk_at dksX3_degree_2 14 rfl rfl)
theorem dX3_degree_64 : decode cX3_degree 64 = .ok (.iload_n 3, 1) := dk_29 (dk_at dksX3_degree_2 17 rfl rfl)
theorem dX3_degree_65 : decode cX3_degree 65 = .ok (.istore_n 3, 1) := dk_62 (dk_at dksX3_degree_2 18 rfl rfl)
theorem dX3_degree_66 : decode cX3_degree 66 = .ok (.iinc 5 1, 3) := dk_132 5 1 (dk_at dksX3_degree_2 19 rfl rfl)
theorem dX3_degree_69 : decode cX3_degree 69 = .ok (.goto (-46), 3) := dk_167 255 210 (dk_at dksX3_degree_3 0 rfl rfl)
theorem dX3_degree_72 : decode cX3_degree 72 = .ok (.iload_n 3, 1) := dk_29 (dk_at dksX3_degree_3 3 rfl rfl)
theorem dX3_degree_73 : decode cX3_degree 73 = .ok (.ireturn, 1) := dk_172 (dk_at dksX3_degree_3 4 rfl rfl)
theorem dX3_higher_0 : decode cX3_higher 0 = .ok (.aload_n 0, 1) := dk_42 (dk_at dksX3_higher_0 0 rfl rfl)
theorem dX3_higher_1 : decode cX3_higher 1 = .ok (.getfield 9, 3) := dk_180 0 9 (dk_at dksX3_higher_0 1 rfl rfl)
theorem dX3_higher_4 : decode cX3_higher 4 = .ok (.invokestatic 47, 3) := dk_184 0 47 (dk_at dksX3_higher_0 4 rfl rfl)
theorem dX3_higher_7 : decode cX3_higher 7 = .ok (.iload_n 1, 1) := dk_27 (dk_at dksX3_higher_0 7 rfl rfl)
theorem dX3_higher_8 : decode cX3_higher 8 = .ok (.iadd, 1) := dk_96 (dk_at dksX3_higher_0 8 rfl rfl)
theorem dX3_higher_9 : decode cX3_higher 9 = .ok (.bipush 12, 2) := dk_16 12 (dk_at dksX3_higher_0 9 rfl rfl)
theorem dX3_higher_11 : decode cX3_higher 11 = .ok (.invokestatic 50, 3) := dk_184 0 50 (dk_at dksX3_higher_0 11 rfl rfl)
theorem dX3_higher_14 : decode cX3_higher 14 = .ok (.istore_n 3, 1) := dk_62 (dk_at dksX3_higher_0 14 rfl rfl)
theorem dX3_higher_15 : decode cX3_higher 15 = .ok (.aload_n 0, 1) := dk_42 (dk_at dksX3_higher_0 15 rfl rfl)
theorem dX3_higher_16 : decode cX3_higher 16 = .ok (.getfield 15, 3) := dk_180 0 15 (dk_at dksX3_higher_0 16 rfl rfl)
theorem dX3_higher_19 : decode cX3_higher 19 = .ok (.ifCond .eq 7, 3) := dk_153 0 7 (dk_at dksX3_higher_0 19 rfl rfl)
theorem dX3_higher_22 : decode cX3_higher 22 = .ok (.iconst 3, 1) := dk_6 (dk_at dksX3_higher_0 22 rfl rfl)
theorem dX3_higher_23 : decode cX3_higher 23 = .ok (.goto 4, 3) := dk_167 0 4 (dk_at dksX3_higher_1 0 rfl rfl)
theorem dX3_higher_26 : decode cX3_higher 26 = .ok (.iconst 0, 1) := dk_3 (dk_at dksX3_higher_1 3 rfl rfl)
theorem dX3_higher_27 : decode cX3_higher 27 = .ok (.istore 4, 2) := dk_54 4 (dk_at dksX3_higher_1 4 rfl rfl)
theorem dX3_higher_29 : decode cX3_higher 29 = .ok (.iload 4, 2) := dk_21 4 (dk_at dksX3_higher_1 6 rfl rfl)
theorem dX3_higher_31 : decode cX3_higher 31 = .ok (.iconst 5, 1) := dk_8 (dk_at dksX3_higher_1 8 rfl rfl)
theorem dX3_higher_32 : decode cX3_higher 32 = .ok (.isub, 1) := dk_100 (dk_at dksX3_higher_1 9 rfl rfl)
theorem dX3_higher_33 : decode cX3_higher 33 = .ok (.iload_n 3, 1) := dk_29 (dk_at dksX3_higher_1 10 rfl rfl)
theorem dX3_higher_34 : decode cX3_higher 34 = .ok (.invokestatic 34, 3) := dk_184 0 34 (dk_at dksX3_higher_1 11 rfl rfl)
theorem dX3_higher_37 : decode cX3_higher 37 = .ok (.iload 4, 2) := dk_21 4 (dk_at dksX3_higher_1 14 rfl rfl)
theorem dX3_higher_39 : decode cX3_higher 39 = .ok (.isub, 1) := dk_100 (dk_at dksX3_higher_1 16 rfl rfl)
theorem dX3_higher_40 : decode cX3_higher 40 = .ok (.istore 5, 2) := dk_54 5 (dk_at dksX3_higher_1 17 rfl rfl)
theorem dX3_higher_42 : decode cX3_higher 42 = .ok (.iload 5, 2) := dk_21 5 (dk_at dksX3_higher_1 19 rfl rfl)
theorem dX3_higher_44 : decode cX3_higher 44 = .ok (.bipush 6, 2) := dk_16 6 (dk_at dksX3_higher_1 21 rfl rfl)
theorem dX3_higher_46 : decode cX3_higher 46 = .ok (.if_icmp .ne 12, 3) := dk_160 0 12 (dk_at dksX3_higher_2 0 rfl rfl)
theorem dX3_higher_49 : decode cX3_higher 49 = .ok (.iload_n 2, 1) := dk_28 (dk_at dksX3_higher_2 3 rfl rfl)
theorem dX3_higher_50 : decode cX3_higher 50 = .ok (.ifCond .eq 8, 3) := dk_153 0 8 (dk_at dksX3_higher_2 4 rfl rfl)
theorem dX3_higher_53 : decode cX3_higher 53 = .ok (.bipush (-6), 2) := dk_16 250 (dk_at dksX3_higher_2 7 rfl rfl)
theorem dX3_higher_55 : decode cX3_higher 55 = .ok (.goto 5, 3) := dk_167 0 5 (dk_at dksX3_higher_2 9 rfl rfl)
theorem dX3_higher_58 : decode cX3_higher 58 = .ok (.iload 5, 2) := dk_21 5 (dk_at dksX3_higher_2 12 rfl rfl)
theorem dX3_higher_60 : decode cX3_higher 60 = .ok (.aload_n 0, 1) := dk_42 (dk_at dksX3_higher_2 14 rfl rfl)
theorem dX3_higher_61 : decode cX3_higher 61 = .ok (.getfield 15, 3) := dk_180 0 15 (dk_at dksX3_higher_2 15 rfl rfl)
theorem dX3_higher_64 : decode cX3_higher 64 = .ok (.invokestatic 57, 3) := dk_184 0 57 (dk_at dksX3_higher_2 18 rfl rfl)
theorem dX3_higher_67 : decode cX3_higher 67 = .ok (.areturn, 1) := dk_176 (dk_at dksX3_higher_2 21 rfl rfl)
theorem q1049 : (Jvm.Cond.methodLinkNest "ChordSheet$Key" (38 : Nat) ({ cls := "ChordSheet", name := "accidentals", desc := "(I)I" } : Jvm.MethodName) "ChordSheet") ∈ lw_tbl := lw_at lw_m5 27 rfl
theorem q1050 : (Jvm.Cond.static ({ cls := "ChordSheet", name := "accidentals", desc := "(I)I" } : Jvm.MethodName)) ∈ lw_all := lw_g (lw_at lw_m5 28 rfl) rfl
theorem q1051 : (Jvm.Cond.code ({ cls := "ChordSheet", name := "accidentals", desc := "(I)I" } : Jvm.MethodName) prog_1_method_7_code (1 : Nat) (Option.some Jvm.ClassFile.FieldType.int)) ∈ lw_all := lw_g (lw_at lw_m5 29 rfl) rfl
theorem q1057 : (Jvm.Cond.methodLink "ChordSheet$Key" (42 : Nat) ({ cls := "java/lang/Math", name := "abs", desc := "(I)I" } : Jvm.MethodName)) ∈ lw_all := lw_g (lw_at lw_m5 35 rfl) rfl
theorem q1058 : (Jvm.Cond.static ({ cls := "java/lang/Math", name := "abs", desc := "(I)I" } : Jvm.MethodName)) ∈ lw_all := lw_g (lw_at lw_m5 36 rfl) rfl
theorem q1059 : (Jvm.Cond.code ({ cls := "java/lang/Math", name := "abs", desc := "(I)I" } : Jvm.MethodName) prog_27_method_59_code (1 : Nat) (Option.some Jvm.ClassFile.FieldType.int)) ∈ lw_all := lw_g (lw_at lw_m5 37 rfl) rfl
theorem q1121 : (Jvm.Cond.methodLink "ChordSheet$Shape" (3 : Nat) ({ cls := "java/lang/Object", name := "<init>", desc := "()V" } : Jvm.MethodName)) ∈ lw_all := lw_g (lw_at lw_m5 99 rfl) rfl
theorem q1122 : (Jvm.Cond.fieldLink "ChordSheet$Shape" (9 : Nat) "ChordSheet$Shape" "root" "I") ∈ lw_all := lw_g (lw_at lw_m5 100 rfl) rfl
theorem q1124 : (Jvm.Cond.fieldLink "ChordSheet$Shape" (15 : Nat) "ChordSheet$Shape" "quality" "I") ∈ lw_all := lw_g (lw_at lw_m5 102 rfl) rfl
theorem q1125 : (Jvm.Cond.fieldLink "ChordSheet$Shape" (18 : Nat) "ChordSheet$Shape" "isSlashed" "Z") ∈ lw_all := lw_g (lw_at lw_m5 103 rfl) rfl
theorem q118 : (Jvm.Cond.instantiable "ChordSheet$Key" (2 : Nat)) ∈ lw_all := lw_g (lw_at lw_m1 56 rfl) rfl
theorem q120 : (Jvm.Cond.instanceMethod ({ cls := "ChordSheet$Key", name := "<init>", desc := "(IZ)V" } : Jvm.MethodName)) ∈ lw_all := lw_g (lw_at lw_m1 58 rfl) rfl
theorem q121 : (Jvm.Cond.code ({ cls := "ChordSheet$Key", name := "<init>", desc := "(IZ)V" } : Jvm.MethodName) prog_3_method_1_code (3 : Nat) (Option.none : Option Jvm.ClassFile.FieldType)) ∈ lw_all := lw_g (lw_at lw_m1 59 rfl) rfl
theorem q122 : (Jvm.Cond.methodLink "ChordSheet$Key" (3 : Nat) ({ cls := "java/lang/Object", name := "<init>", desc := "()V" } : Jvm.MethodName)) ∈ lw_all := lw_g (lw_at lw_m1 60 rfl) rfl
theorem q123 : (Jvm.Cond.fieldLink "ChordSheet$Key" (9 : Nat) "ChordSheet$Key" "tonic" "I") ∈ lw_all := lw_g (lw_at lw_m1 61 rfl) rfl
theorem q126 : (Jvm.Cond.fieldLink "ChordSheet$Key" (15 : Nat) "ChordSheet$Key" "isMinor" "Z") ∈ lw_all := lw_g (lw_at lw_m1 64 rfl) rfl
theorem q1466 : (Jvm.Cond.methodLink "ChordSheet$Tally" (1 : Nat) ({ cls := "java/lang/Object", name := "<init>", desc := "()V" } : Jvm.MethodName)) ∈ lw_all := lw_g (lw_at lw_m6 204 rfl) rfl
theorem q1890 : (Jvm.Cond.methodLinkNest "ChordSheet$Key" (47 : Nat) ({ cls := "ChordSheet", name := "pitchClass", desc := "(I)I" } : Jvm.MethodName) "ChordSheet") ∈ lw_tbl := lw_at lw_m8 148 rfl
theorem q1891 : (Jvm.Cond.methodLink "ChordSheet$Key" (50 : Nat) ({ cls := "java/lang/Math", name := "floorMod", desc := "(II)I" } : Jvm.MethodName)) ∈ lw_all := lw_g (lw_at lw_m8 149 rfl) rfl
theorem q1892 : (Jvm.Cond.methodLink "ChordSheet$Key" (53 : Nat) ({ cls := "ChordSheet$Key", name := "hasInScale", desc := "(I)Z" } : Jvm.MethodName)) ∈ lw_all := lw_g (lw_at lw_m8 150 rfl) rfl
theorem q1909 : (Jvm.Cond.constantLong "ChordSheet$Key" (26 : Nat) (-6 : Int64)) ∈ lw_all := lw_g (lw_at lw_m8 167 rfl) rfl
theorem q1910 : (Jvm.Cond.constantLong "ChordSheet$Key" (28 : Nat) (6 : Int64)) ∈ lw_all := lw_g (lw_at lw_m8 168 rfl) rfl
theorem q1911 : (Jvm.Cond.methodLinkNest "ChordSheet$Key" (30 : Nat) ({ cls := "ChordSheet", name := "isIn", desc := "(JJJ)Z" } : Jvm.MethodName) "ChordSheet") ∈ lw_tbl := lw_at lw_m8 169 rfl
theorem q1933 : (Jvm.Cond.methodLink "ChordSheet$Key" (57 : Nat) ({ cls := "ChordSheet$Key", name := "ofSignature", desc := "(IZ)LChordSheet$Key;" } : Jvm.MethodName)) ∈ lw_all := lw_g (lw_at lw_m8 191 rfl) rfl
theorem q589 : (Jvm.Cond.methodLink "ChordSheet$Chord" (3 : Nat) ({ cls := "java/lang/Object", name := "<init>", desc := "()V" } : Jvm.MethodName)) ∈ lw_all := lw_g (lw_at lw_m3 47 rfl) rfl
theorem q590 : (Jvm.Cond.fieldLink "ChordSheet$Chord" (9 : Nat) "ChordSheet$Chord" "line" "I") ∈ lw_all := lw_g (lw_at lw_m3 48 rfl) rfl
theorem q594 : (Jvm.Cond.fieldLink "ChordSheet$Chord" (15 : Nat) "ChordSheet$Chord" "column" "I") ∈ lw_all := lw_g (lw_at lw_m3 52 rfl) rfl
theorem q598 : (Jvm.Cond.fieldLink "ChordSheet$Chord" (18 : Nat) "ChordSheet$Chord" "root" "I") ∈ lw_all := lw_g (lw_at lw_m3 56 rfl) rfl
theorem q601 : (Jvm.Cond.fieldLink "ChordSheet$Chord" (21 : Nat) "ChordSheet$Chord" "quality" "I") ∈ lw_all := lw_g (lw_at lw_m3 59 rfl) rfl
theorem q603 : (Jvm.Cond.fieldLink "ChordSheet$Chord" (24 : Nat) "ChordSheet$Chord" "bass" "I") ∈ lw_all := lw_g (lw_at lw_m3 61 rfl) rfl
theorem q65 : (Jvm.Cond.initialized "ChordSheet$Key") ∈ lw_all := lw_g (lw_at lw_m1 3 rfl) rfl
theorem q888 : (Jvm.Cond.static ({ cls := "ChordSheet$Key", name := "ofSignature", desc := "(IZ)LChordSheet$Key;" } : Jvm.MethodName)) ∈ lw_all := lw_g (lw_at lw_m4 106 rfl) rfl
theorem q889 : (Jvm.Cond.code ({ cls := "ChordSheet$Key", name := "ofSignature", desc := "(IZ)LChordSheet$Key;" } : Jvm.MethodName) prog_3_method_2_code (2 : Nat) (Option.some (Jvm.ClassFile.FieldType.object "ChordSheet$Key"))) ∈ lw_all := lw_g (lw_at lw_m4 107 rfl) rfl
theorem q890 : (Jvm.Cond.classLink "ChordSheet$Key" (10 : Nat) "ChordSheet$Key") ∈ lw_all := lw_g (lw_at lw_m4 108 rfl) rfl
theorem q891 : (Jvm.Cond.methodLink "ChordSheet$Key" (19 : Nat) ({ cls := "ChordSheet$Key", name := "<init>", desc := "(IZ)V" } : Jvm.MethodName)) ∈ lw_all := lw_g (lw_at lw_m4 109 rfl) rfl
theorem q897 : (Jvm.Cond.static ({ cls := "ChordSheet", name := "pitchClass", desc := "(I)I" } : Jvm.MethodName)) ∈ lw_all := lw_g (lw_at lw_m4 115 rfl) rfl
theorem q898 : (Jvm.Cond.code ({ cls := "ChordSheet", name := "pitchClass", desc := "(I)I" } : Jvm.MethodName) prog_1_method_6_code (1 : Nat) (Option.some Jvm.ClassFile.FieldType.int)) ∈ lw_all := lw_g (lw_at lw_m4 116 rfl) rfl
theorem q917 : (Jvm.Cond.instanceMethod ({ cls := "ChordSheet$Key", name := "hasInScale", desc := "(I)Z" } : Jvm.MethodName)) ∈ lw_all := lw_g (lw_at lw_m4 135 rfl) rfl
theorem q918 : (Jvm.Cond.selects "ChordSheet$Key" ({ cls := "ChordSheet$Key", name := "hasInScale", desc := "(I)Z" } : Jvm.MethodName) ({ cls := "ChordSheet$Key", name := "hasInScale", desc := "(I)Z" } : Jvm.MethodName)) ∈ lw_all := lw_g (lw_at lw_m4 136 rfl) rfl
theorem q919 : (Jvm.Cond.code ({ cls := "ChordSheet$Key", name := "hasInScale", desc := "(I)Z" } : Jvm.MethodName) prog_3_method_5_code (3 : Nat) (Option.some Jvm.ClassFile.FieldType.boolean)) ∈ lw_all := lw_g (lw_at lw_m4 137 rfl) rfl
theorem q920 : (Jvm.Cond.methodLink "ChordSheet$Key" (22 : Nat) ({ cls := "ChordSheet$Key", name := "signature", desc := "()I" } : Jvm.MethodName)) ∈ lw_all := lw_g (lw_at lw_m4 138 rfl) rfl
theorem q921 : (Jvm.Cond.instanceMethod ({ cls := "ChordSheet$Key", name := "signature", desc := "()I" } : Jvm.MethodName)) ∈ lw_all := lw_g (lw_at lw_m4 139 rfl) rfl
theorem q922 : (Jvm.Cond.selects "ChordSheet$Key" ({ cls := "ChordSheet$Key", name := "signature", desc := "()I" } : Jvm.MethodName) ({ cls := "ChordSheet$Key", name := "signature", desc := "()I" } : Jvm.MethodName)) ∈ lw_all := lw_g (lw_at lw_m4 140 rfl) rfl
theorem q923 : (Jvm.Cond.code ({ cls := "ChordSheet$Key", name := "signature", desc := "()I" } : Jvm.MethodName) prog_3_method_3_code (1 : Nat) (Option.some Jvm.ClassFile.FieldType.int)) ∈ lw_all := lw_g (lw_at lw_m4 141 rfl) rfl
theorem q924 : (Jvm.Cond.methodLinkNest "ChordSheet$Key" (34 : Nat) ({ cls := "ChordSheet", name := "placeFrom", desc := "(II)I" } : Jvm.MethodName) "ChordSheet") ∈ lw_tbl := lw_at lw_m4 142 rfl
theorem q925 : (Jvm.Cond.static ({ cls := "ChordSheet", name := "placeFrom", desc := "(II)I" } : Jvm.MethodName)) ∈ lw_all := lw_g (lw_at lw_m4 143 rfl) rfl
theorem q926 : (Jvm.Cond.code ({ cls := "ChordSheet", name := "placeFrom", desc := "(II)I" } : Jvm.MethodName) prog_1_method_9_code (2 : Nat) (Option.some Jvm.ClassFile.FieldType.int)) ∈ lw_all := lw_g (lw_at lw_m4 144 rfl) rfl
set_option maxHeartbeats 4000000 in
theorem ct_K_init {l : Launch} (hl : l.stackTraces = false) {Γ : zCx} {h : zH} {a : Nat} {t m : Int} (ha : h a = some (true, .inr (2, [.int (iI 0), .int (iI 0)]))) (hm : m = 0 ∨ m = 1) : zMet l yX3_init (ws_ yX3_init cX3_init 3 none) ({ frames := 1, cells := 0, slots := 0, locals := 12 }) Γ h [.ref a, .int (iI t), .int (iI m)] (zrt (fun w h' => w = none ∧ h' a = some (false, .inr (2, [.int (iI t), .int (iI m)])) ∧ zkeep h h' [a])) 0 0 := by
  refine zMet.of (cc := cX3_init) hl (plainFor_of_name (by decide +kernel)) (Nat.le_of_ble_eq_true rfl) ?_
  intro X hXl hXΓ hXp C hnm hnL
  have C : zC X cX3_init RX3 none 1 12 [] := C
  have hnL : X.2.1.2.2.2.2 = 3 := hnL
  subst hXl hXΓ
  show Z X h 0 0 [(0, .ref a), (1, .int (iI t)), (2, .int (iI m))] 0 []
  refine z_aload_n (pc := 0) (j := 0) C dX3_init_0 rfl rfl ?_
  refine z_objInit (pc := 1) C q122 q113 q114 (by decide) (by decide) dX3_init_1 ?_
  refine z_aload_n (pc := 4) (j := 0) C dX3_init_4 rfl rfl ?_
  refine z_iload_n (pc := 5) (j := 1) C dX3_init_5 rfl rfl ?_
  refine z_putfieldF (pc := 6) (fs' := [.int (iI t), .int (iI 0)]) C hnm in_X3 tyX3 tyX3_ok nmX3 rfl 0 (by decide) q123 (fun _ z => z) rfl rfl rfl rfl (Nat.le_of_ble_eq_true rfl) ha rfl dX3_init_6 ?_
  refine Z.nm (fun h1 eh1 => ?_)
  have kh1 : zkeep h h1 [a] := by rw [eh1]; exact zkeep.up zkeep.rf (Or.inl (by simp)) ha
  have fh1_0 : h1 a = some (true, .inr (2, [.int (iI t), .int (iI 0)])) := zse eh1
  refine z_aload_n (pc := 9) (j := 0) C dX3_init_9 rfl rfl ?_
  refine z_iload_n (pc := 10) (j := 2) C dX3_init_10 rfl rfl ?_
  refine z_putfieldF (pc := 11) (fs' := [.int (iI t), .int (iI m)]) C hnm in_X3 tyX3 tyX3_ok nmX3 rfl 1 (by decide) q126 (fun _ z => z) rfl rfl (i_nz (by omega) (by omega)) (i_fz (by omega) (by omega)) (Nat.le_of_ble_eq_true rfl) fh1_0 rfl dX3_init_11 ?_
  refine Z.nm (fun h2 eh2 => ?_)
  have kh2 : zkeep h h2 [a] := by rw [eh2]; exact zkeep.up kh1 (Or.inl (by simp)) fh1_0
  have fh2_0 : h2 a = some (true, .inr (2, [.int (iI t), .int (iI m)])) := zse eh2
  refine Z.freeze fh2_0 ?_
  refine Z.nm (fun h3 eh3 => ?_)
  have kh3 : zkeep h h3 [a] := by rw [eh3]; exact zkeep.up kh2 (Or.inl (by simp)) fh2_0
  have fh3_0 : h3 a = some (false, .inr (2, [.int (iI t), .int (iI m)])) := zse eh3
  exact z_return (pc := 14) C (by rw [hXp]; exact ⟨_, rfl, rfl, fh3_0, kh3⟩) dX3_init_14
set_option maxHeartbeats 4000000 in
theorem ct_C_init {l : Launch} (hl : l.stackTraces = false) {Γ : zCx} {h : zH} {a : Nat} {x1 x2 x3 x4 x5 : Int} (ha : h a = some (true, .inr (6, [.int (iI 0), .int (iI 0), .int (iI 0), .int (iI 0), .int (iI 0)])))  : zMet l yX7_init (ws_ yX7_init cX7_init 6 none) ({ frames := 1, cells := 0, slots := 0, locals := 12 }) Γ h [.ref a, .int (iI x1), .int (iI x2), .int (iI x3), .int (iI x4), .int (iI x5)] (zrt (fun w h' => w = none ∧ h' a = some (false, .inr (6, [.int (iI x1), .int (iI x2), .int (iI x3), .int (iI x4), .int (iI x5)])) ∧ zkeep h h' [a])) 0 0 := by
  refine zMet.of (cc := cX7_init) hl (plainFor_of_name (by decide +kernel)) (Nat.le_of_ble_eq_true rfl) ?_
  intro X hXl hXΓ hXp C hnm hnL
  have C : zC X cX7_init RX7 none 1 12 [] := C
  have hnL : X.2.1.2.2.2.2 = 6 := hnL
  subst hXl hXΓ
  show Z X h 0 0 [(0, .ref a), (1, .int (iI x1)), (2, .int (iI x2)), (3, .int (iI x3)), (4, .int (iI x4)), (5, .int (iI x5))] 0 []
  refine z_aload_n (pc := 0) (j := 0) C dX7_init_0 rfl rfl ?_
  refine z_objInit (pc := 1) C q589 q113 q114 (by decide) (by decide) dX7_init_1 ?_
  refine z_aload_n (pc := 4) (j := 0) C dX7_init_4 rfl rfl ?_
  refine z_iload_n (pc := 5) (j := 1) C dX7_init_5 rfl rfl ?_
  refine z_putfieldF (pc := 6) (fs' := [.int (iI x1), .int (iI 0), .int (iI 0), .int (iI 0), .int (iI 0)]) C hnm in_X7 tyX7 tyX7_ok nmX7 rfl 0 (by decide) q590 (fun _ z => z) rfl rfl rfl rfl (Nat.le_of_ble_eq_true rfl) ha rfl dX7_init_6 ?_
  refine Z.nm (fun h1 eh1 => ?_)
  have kh1 : zkeep h h1 [a] := by rw [eh1]; exact zkeep.up zkeep.rf (Or.inl (by simp)) ha
  have fh1_0 : h1 a = some (true, .inr (6, [.int (iI x1), .int (iI 0), .int (iI 0), .int (iI 0), .int (iI 0)])) := zse eh1
  refine z_aload_n (pc := 9) (j := 0) C dX7_init_9 rfl rfl ?_
  refine z_iload_n (pc := 10) (j := 2) C dX7_init_10 rfl rfl ?_
  refine z_putfieldF (pc := 11) (fs' := [.int (iI x1), .int (iI x2), .int (iI 0), .int (iI 0), .int (iI 0)]) C hnm in_X7 tyX7 tyX7_ok nmX7 rfl 1 (by decide) q594 (fun _ z => z) rfl rfl rfl rfl (Nat.le_of_ble_eq_true rfl) fh1_0 rfl dX7_init_11 ?_
  refine Z.nm (fun h2 eh2 => ?_)
  have kh2 : zkeep h h2 [a] := by rw [eh2]; exact zkeep.up kh1 (Or.inl (by simp)) fh1_0
  have fh2_0 : h2 a = some (true, .inr (6, [.int (iI x1), .int (iI x2), .int (iI 0), .int (iI 0), .int (iI 0)])) := zse eh2
  refine z_aload_n (pc := 14) (j := 0) C dX7_init_14 rfl rfl ?_
  refine z_iload_n (pc := 15) (j := 3) C dX7_init_15 rfl rfl ?_
  refine z_putfieldF (pc := 16) (fs' := [.int (iI x1), .int (iI x2), .int (iI x3), .int (iI 0), .int (iI 0)]) C hnm in_X7 tyX7 tyX7_ok nmX7 rfl 2 (by decide) q598 (fun _ z => z) rfl rfl rfl rfl (Nat.le_of_ble_eq_true rfl) fh2_0 rfl dX7_init_16 ?_
  refine Z.nm (fun h3 eh3 => ?_)
  have kh3 : zkeep h h3 [a] := by rw [eh3]; exact zkeep.up kh2 (Or.inl (by simp)) fh2_0
  have fh3_0 : h3 a = some (true, .inr (6, [.int (iI x1), .int (iI x2), .int (iI x3), .int (iI 0), .int (iI 0)])) := zse eh3
  refine z_aload_n (pc := 19) (j := 0) C dX7_init_19 rfl rfl ?_
  refine z_iload (pc := 20) (j := 4) C dX7_init_20 rfl ?_
  refine z_putfieldF (pc := 22) (fs' := [.int (iI x1), .int (iI x2), .int (iI x3), .int (iI x4), .int (iI 0)]) C hnm in_X7 tyX7 tyX7_ok nmX7 rfl 3 (by decide) q601 (fun _ z => z) rfl rfl rfl rfl (Nat.le_of_ble_eq_true rfl) fh3_0 rfl dX7_init_22 ?_
  refine Z.nm (fun h4 eh4 => ?_)
  have kh4 : zkeep h h4 [a] := by rw [eh4]; exact zkeep.up kh3 (Or.inl (by simp)) fh3_0
  have fh4_0 : h4 a = some (true, .inr (6, [.int (iI x1), .int (iI x2), .int (iI x3), .int (iI x4), .int (iI 0)])) := zse eh4
  refine z_aload_n (pc := 25) (j := 0) C dX7_init_25 rfl rfl ?_
  refine z_iload (pc := 26) (j := 5) C dX7_init_26 rfl ?_
  refine z_putfieldF (pc := 28) (fs' := [.int (iI x1), .int (iI x2), .int (iI x3), .int (iI x4), .int (iI x5)]) C hnm in_X7 tyX7 tyX7_ok nmX7 rfl 4 (by decide) q603 (fun _ z => z) rfl rfl rfl rfl (Nat.le_of_ble_eq_true rfl) fh4_0 rfl dX7_init_28 ?_
  refine Z.nm (fun h5 eh5 => ?_)
  have kh5 : zkeep h h5 [a] := by rw [eh5]; exact zkeep.up kh4 (Or.inl (by simp)) fh4_0
  have fh5_0 : h5 a = some (true, .inr (6, [.int (iI x1), .int (iI x2), .int (iI x3), .int (iI x4), .int (iI x5)])) := zse eh5
  refine Z.freeze fh5_0 ?_
  refine Z.nm (fun h6 eh6 => ?_)
  have kh6 : zkeep h h6 [a] := by rw [eh6]; exact zkeep.up kh5 (Or.inl (by simp)) fh5_0
  have fh6_0 : h6 a = some (false, .inr (6, [.int (iI x1), .int (iI x2), .int (iI x3), .int (iI x4), .int (iI x5)])) := zse eh6
  exact z_return (pc := 31) C (by rw [hXp]; exact ⟨_, rfl, rfl, fh6_0, kh6⟩) dX7_init_31
set_option maxHeartbeats 4000000 in
theorem ct_H_init {l : Launch} (hl : l.stackTraces = false) {Γ : zCx} {h : zH} {a : Nat} {r q b : Int} (ha : h a = some (true, .inr (7, [.int (iI 0), .int (iI 0), .int (iI 0)]))) (hb : b = 0 ∨ b = 1) : zMet l yX8_init (ws_ yX8_init cX8_init 4 none) ({ frames := 1, cells := 0, slots := 0, locals := 12 }) Γ h [.ref a, .int (iI r), .int (iI q), .int (iI b)] (zrt (fun w h' => w = none ∧ h' a = some (false, .inr (7, [.int (iI r), .int (iI q), .int (iI b)])) ∧ zkeep h h' [a])) 0 0 := by
  refine zMet.of (cc := cX8_init) hl (plainFor_of_name (by decide +kernel)) (Nat.le_of_ble_eq_true rfl) ?_
  intro X hXl hXΓ hXp C hnm hnL
  have C : zC X cX8_init RX8 none 1 12 [] := C
  have hnL : X.2.1.2.2.2.2 = 4 := hnL
  subst hXl hXΓ
  show Z X h 0 0 [(0, .ref a), (1, .int (iI r)), (2, .int (iI q)), (3, .int (iI b))] 0 []
  refine z_aload_n (pc := 0) (j := 0) C dX8_init_0 rfl rfl ?_
  refine z_objInit (pc := 1) C q1121 q113 q114 (by decide) (by decide) dX8_init_1 ?_
  refine z_aload_n (pc := 4) (j := 0) C dX8_init_4 rfl rfl ?_
  refine z_iload_n (pc := 5) (j := 1) C dX8_init_5 rfl rfl ?_
  refine z_putfieldF (pc := 6) (fs' := [.int (iI r), .int (iI 0), .int (iI 0)]) C hnm in_X8 tyX8 tyX8_ok nmX8 rfl 0 (by decide) q1122 (fun _ z => z) rfl rfl rfl rfl (Nat.le_of_ble_eq_true rfl) ha rfl dX8_init_6 ?_
  refine Z.nm (fun h1 eh1 => ?_)
  have kh1 : zkeep h h1 [a] := by rw [eh1]; exact zkeep.up zkeep.rf (Or.inl (by simp)) ha
  have fh1_0 : h1 a = some (true, .inr (7, [.int (iI r), .int (iI 0), .int (iI 0)])) := zse eh1
  refine z_aload_n (pc := 9) (j := 0) C dX8_init_9 rfl rfl ?_
  refine z_iload_n (pc := 10) (j := 2) C dX8_init_10 rfl rfl ?_
  refine z_putfieldF (pc := 11) (fs' := [.int (iI r), .int (iI q), .int (iI 0)]) C hnm in_X8 tyX8 tyX8_ok nmX8 rfl 1 (by decide) q1124 (fun _ z => z) rfl rfl rfl rfl (Nat.le_of_ble_eq_true rfl) fh1_0 rfl dX8_init_11 ?_
  refine Z.nm (fun h2 eh2 => ?_)
  have kh2 : zkeep h h2 [a] := by rw [eh2]; exact zkeep.up kh1 (Or.inl (by simp)) fh1_0
  have fh2_0 : h2 a = some (true, .inr (7, [.int (iI r), .int (iI q), .int (iI 0)])) := zse eh2
  refine z_aload_n (pc := 14) (j := 0) C dX8_init_14 rfl rfl ?_
  refine z_iload_n (pc := 15) (j := 3) C dX8_init_15 rfl rfl ?_
  refine z_putfieldF (pc := 16) (fs' := [.int (iI r), .int (iI q), .int (iI b)]) C hnm in_X8 tyX8 tyX8_ok nmX8 rfl 2 (by decide) q1125 (fun _ z => z) rfl rfl (i_nz (by omega) (by omega)) (i_fz (by omega) (by omega)) (Nat.le_of_ble_eq_true rfl) fh2_0 rfl dX8_init_16 ?_
  refine Z.nm (fun h3 eh3 => ?_)
  have kh3 : zkeep h h3 [a] := by rw [eh3]; exact zkeep.up kh2 (Or.inl (by simp)) fh2_0
  have fh3_0 : h3 a = some (true, .inr (7, [.int (iI r), .int (iI q), .int (iI b)])) := zse eh3
  refine Z.freeze fh3_0 ?_
  refine Z.nm (fun h4 eh4 => ?_)
  have kh4 : zkeep h h4 [a] := by rw [eh4]; exact zkeep.up kh3 (Or.inl (by simp)) fh3_0
  have fh4_0 : h4 a = some (false, .inr (7, [.int (iI r), .int (iI q), .int (iI b)])) := zse eh4
  exact z_return (pc := 19) C (by rw [hXp]; exact ⟨_, rfl, rfl, fh4_0, kh4⟩) dX8_init_19
set_option maxHeartbeats 4000000 in
theorem ct_T_init {l : Launch} (hl : l.stackTraces = false) {Γ : zCx} {h : zH} {a : Nat} (ha : h a = some (true, .inr (8, [.int (iI 0)]))) : zMet l yX9_init (ws_ yX9_init cX9_init 1 none) ({ frames := 1, cells := 0, slots := 0, locals := 12 }) Γ h [.ref a] (zrt (fun w h' => w = none ∧ h' a = some (true, .inr (8, [.int (iI 0)])) ∧ zkeep h h' [a])) 0 0 := by
  refine zMet.of (cc := cX9_init) hl (plainFor_of_name (by decide +kernel)) (Nat.le_of_ble_eq_true rfl) ?_
  intro X hXl hXΓ hXp C hnm hnL
  have C : zC X cX9_init RX9 none 1 12 [] := C
  have hnL : X.2.1.2.2.2.2 = 1 := hnL
  subst hXl hXΓ
  show Z X h 0 0 [(0, .ref a)] 0 []
  refine z_aload_n (pc := 0) (j := 0) C dX9_init_0 rfl rfl ?_
  refine z_objInit (pc := 1) C q1466 q113 q114 (by decide) (by decide) dX9_init_1 ?_
  exact z_return (pc := 4) C (by rw [hXp]; exact ⟨_, rfl, rfl, ha, zkeep.rf⟩) dX9_init_4
set_option maxHeartbeats 4000000 in
theorem ct_K_ofSig {l : Launch} (hl : l.stackTraces = false) {Γ : zCx} {h : zH} {s m : Int} (hs : -500 ≤ s ∧ s ≤ 500) (hm : m = 0 ∨ m = 1)  : zMet l yX3_ofSignature (ws_ yX3_ofSignature cX3_ofSignature 2 (some (.object "ChordSheet$Key"))) ({ frames := 2, cells := 1, slots := 2, locals := 34 }) Γ h [.int (iI s), .int (iI m)] (zrt (fun w h' => ∃ k', w = some (.ref k') ∧ h' k' = some (false, .inr (2, [.int (iI (s + (if m = 1 then 3 else 0))), .int (iI m)])) ∧ h k' = none ∧ zkeep h h' [])) 1 2 := by
  refine zMet.of (cc := cX3_ofSignature) hl (plainFor_of_name (by decide +kernel)) (Nat.le_of_ble_eq_true rfl) ?_
  intro X hXl hXΓ hXp C hnm hnL
  have C : zC X cX3_ofSignature RX3 (some (.object "ChordSheet$Key")) 2 34 [] := C
  have hnL : X.2.1.2.2.2.2 = 2 := hnL
  subst hXl hXΓ
  show Z X h 1 2 [(0, .int (iI s)), (1, .int (iI m))] 0 []
  refine z_new (pc := 0) (ci := 2) (kc' := 0) (ks' := 0) (fs := [.int (iI 0), .int (iI 0)]) C in_X3 tyX3 tyX3_ok rfl q890 q118 q65 df_X3 (by omega) (by omega) dX3_ofSignature_0 (fun a1 fa1 => ?_)
  refine Z.nm (fun h2 eh2 => ?_)
  have na1 : h a1 = none := fa1
  have kh2 : zkeep h h2 [] := by rw [eh2]; exact zkeep.born zkeep.rf fa1
  have fh2_0 : h2 a1 = some (true, .inr (2, [.int (iI 0), .int (iI 0)])) := zse eh2
  refine z_dup (pc := 3) C dX3_ofSignature_3 rfl ?_
  refine z_iload_n (pc := 4) (j := 0) C dX3_ofSignature_4 rfl rfl ?_
  refine z_iload_n (pc := 5) (j := 1) C dX3_ofSignature_5 rfl rfl ?_
  refine z_if_eq (pc := 6) (tgt := 13) C dX3_ofSignature_6 (by decide) (by omega) (fun c6 => ?_) (fun c6 => ?_)
  · refine z_iconst (pc := 13) C dX3_ofSignature_13 ?_
    refine z_iadd (pc := 14) C dX3_ofSignature_14 ?_
    refine z_iload_n (pc := 15) (j := 1) C dX3_ofSignature_15 rfl rfl ?_
    refine z_callI (pc := 16) (n := 2) (kc' := 0) (ks' := 0) C (ct_K_init C.t (t := s + 0) (m := m) fh2_0 (by omega)) q121 q65 q891 q120 rfl (by decide +kernel) ⟨by decide, by decide⟩ rfl rfl (Nat.le_of_ble_eq_true rfl) dX3_ofSignature_16 (by omega) (by omega) (zrk fun w h3 hp => ?_) zrx
    obtain ⟨rfl, fq4, k5⟩ := hp
    have kh3 : zkeep h h3 [] := zkeep.loc kh2 k5 (zall_cons (Or.inl (Or.symm (Or.inr na1))) zall_nil)
    show Z X h3 0 0 [(0, .int (iI s)), (1, .int (iI m))] 19 [.ref a1]
    exact z_areturn (pc := 19) C (Or.inl ⟨_, rfl⟩) (Or.inr ⟨_, rfl⟩) (by rw [hXp]; exact ⟨_, rfl, a1, rfl, (show (s + if m = 1 then 3 else 0) = s + 0 by split <;> omega) ▸ fq4, na1, kh3⟩) dX3_ofSignature_19
  · refine z_iconst (pc := 9) C dX3_ofSignature_9 ?_
    refine z_goto (pc := 10) (tgt := 14) C dX3_ofSignature_10 (by decide) ?_
    refine z_iadd (pc := 14) C dX3_ofSignature_14 ?_
    refine z_iload_n (pc := 15) (j := 1) C dX3_ofSignature_15 rfl rfl ?_
    refine z_callI (pc := 16) (n := 2) (kc' := 0) (ks' := 0) C (ct_K_init C.t (t := s + 3) (m := m) fh2_0 (by omega)) q121 q65 q891 q120 rfl (by decide +kernel) ⟨by decide, by decide⟩ rfl rfl (Nat.le_of_ble_eq_true rfl) dX3_ofSignature_16 (by omega) (by omega) (zrk fun w h6 hp => ?_) zrx
    obtain ⟨rfl, fq7, k8⟩ := hp
    have kh6 : zkeep h h6 [] := zkeep.loc kh2 k8 (zall_cons (Or.inl (Or.symm (Or.inr na1))) zall_nil)
    show Z X h6 0 0 [(0, .int (iI s)), (1, .int (iI m))] 19 [.ref a1]
    exact z_areturn (pc := 19) C (Or.inl ⟨_, rfl⟩) (Or.inr ⟨_, rfl⟩) (by rw [hXp]; exact ⟨_, rfl, a1, rfl, (show (s + if m = 1 then 3 else 0) = s + 3 by split <;> omega) ▸ fq7, na1, kh6⟩) dX3_ofSignature_19
set_option maxHeartbeats 4000000 in
theorem ct_K_sig {l : Launch} (hl : l.stackTraces = false) {Γ : zCx} {h : zH} {k : Nat} {t m : Int} (hk : h k = some (false, .inr (2, [.int (iI t), .int (iI m)]))) (ht : -500 ≤ t ∧ t ≤ 500) (hm : m = 0 ∨ m = 1)  : zMet l yX3_signature (ws_ yX3_signature cX3_signature 1 (some .int)) ({ frames := 0, cells := 0, slots := 0, locals := 0 }) Γ h [.ref k] (zpure h (some (.int (iI (sgn t m))))) 0 0 := by
  refine zMet.of (cc := cX3_signature) hl (plainFor_of_name (by decide +kernel)) (Nat.le_of_ble_eq_true rfl) ?_
  intro X hXl hXΓ hXp C hnm hnL
  have C : zC X cX3_signature RX3 (some .int) 0 0 [] := C
  have hnL : X.2.1.2.2.2.2 = 1 := hnL
  subst hXl hXΓ
  show Z X h 0 0 [(0, .ref k)] 0 []
  refine z_aload_n (pc := 0) (j := 0) C dX3_signature_0 rfl rfl ?_
  refine z_getfield (pc := 1) (v := .int (iI t)) C in_X3 rfl 0 (by decide) q123 (fun _ z => z) hk rfl dX3_signature_1 ?_
  refine z_aload_n (pc := 4) (j := 0) C dX3_signature_4 rfl rfl ?_
  refine z_getfield (pc := 5) (v := .int (iI m)) C in_X3 rfl 1 (by decide) q126 (fun _ z => z) hk rfl dX3_signature_5 ?_
  refine z_if_eq (pc := 8) (tgt := 15) C dX3_signature_8 (by decide) (by omega) (fun c8 => ?_) (fun c8 => ?_)
  · refine z_iconst (pc := 15) C dX3_signature_15 ?_
    refine z_isub (pc := 16) C dX3_signature_16 ?_
    exact z_ireturn (pc := 17) C (by rw [hXp]; exact zpure_i (by unfold sgn; split <;> omega) rfl) dX3_signature_17
  · refine z_iconst (pc := 11) C dX3_signature_11 ?_
    refine z_goto (pc := 12) (tgt := 16) C dX3_signature_12 (by decide) ?_
    refine z_isub (pc := 16) C dX3_signature_16 ?_
    exact z_ireturn (pc := 17) C (by rw [hXp]; exact zpure_i (by unfold sgn; split <;> omega) rfl) dX3_signature_17
set_option maxHeartbeats 4000000 in
theorem ct_K_allowed {l : Launch} (hl : l.stackTraces = false) {Γ : zCx} {h : zH} {k : Nat} {t m : Int} (hk : h k = some (false, .inr (2, [.int (iI t), .int (iI m)]))) (ht : -500 ≤ t ∧ t ≤ 500) (hm : m = 0 ∨ m = 1)  : zMet l yX3_isAllowed (ws_ yX3_isAllowed cX3_isAllowed 1 (some .boolean)) ({ frames := 1, cells := 0, slots := 0, locals := 25 }) Γ h [.ref k] (zpure h (some (.int (iI (if -6 ≤ sgn t m ∧ sgn t m ≤ 6 then 1 else 0))))) 0 0 := by
  refine zMet.of (cc := cX3_isAllowed) hl (plainFor_of_name (by decide +kernel)) (Nat.le_of_ble_eq_true rfl) ?_
  intro X hXl hXΓ hXp C hnm hnL
  have C : zC X cX3_isAllowed RX3 (some .boolean) 1 25 [] := C
  have hnL : X.2.1.2.2.2.2 = 1 := hnL
  subst hXl hXΓ
  show Z X h 0 0 [(0, .ref k)] 0 []
  refine z_aload_n (pc := 0) (j := 0) C dX3_isAllowed_0 rfl rfl ?_
  refine z_callV (pc := 1) (n := 0) (kc' := 0) (ks' := 0) C (ct_K_sig C.t (t := t) (m := m) hk (by omega) (by omega)) (lw_V q920 q921 q922 q65 q923) (by decide +kernel) ⟨by decide, by decide⟩ hk rfl rfl rfl (Nat.le_of_ble_eq_true rfl) dX3_isAllowed_1 (by omega) (by omega) (zpk (st' := [.int (iI (sgn t m))]) rfl ?_) zrx
  have hsg := sgn_r (t := t) hm
  refine z_i2lI (pc := 4) C dX3_isAllowed_4 (by omega) ?_
  refine z_ldc2 (pc := 5) (v := lI (-6)) C ((show (-6 : Int64) = lI (-6) by decide +kernel) ▸ q1909) dX3_isAllowed_5 ?_
  refine z_ldc2 (pc := 8) (v := lI 6) C q1910 dX3_isAllowed_8 ?_
  refine z_callSN (pc := 11) (n := 3) (kc' := 0) (ks' := 0) C (ct_isIn C.t (a := sgn t m) (b := (-6)) (c := 6) (by omega) (by decide) (by decide)) q1649 q1911 q63 q1648 (by decide +kernel) ⟨by decide, by decide⟩ rfl rfl (Nat.le_of_ble_eq_true rfl) dX3_isAllowed_11 (by omega) (by omega) (zpk (st' := [.int (iI (if (-6) ≤ sgn t m ∧ sgn t m ≤ 6 then 1 else 0))]) rfl ?_) zrx
  exact z_zreturn (pc := 14) C (i_nz (by split <;> omega) (by split <;> omega)) (by rw [hXp]; exact zpure_i rfl rfl) dX3_isAllowed_14
set_option maxHeartbeats 4000000 in
theorem ct_K_insc {l : Launch} (hl : l.stackTraces = false) {Γ : zCx} {h : zH} {k : Nat} {t m : Int} (hk : h k = some (false, .inr (2, [.int (iI t), .int (iI m)]))) (ht : -500 ≤ t ∧ t ≤ 500) (hm : m = 0 ∨ m = 1) {p : Int} (hp : 0 ≤ p ∧ p < 12)  : zMet l yX3_hasInScale (ws_ yX3_hasInScale cX3_hasInScale 3 (some .boolean)) ({ frames := 2, cells := 0, slots := 0, locals := 43 }) Γ h [.ref k, .int (iI p)] (zpure h (some (.int (iI (insc t m p))))) 0 0 := by
  refine zMet.of (cc := cX3_hasInScale) hl (plainFor_of_name (by decide +kernel)) (Nat.le_of_ble_eq_true rfl) ?_
  intro X hXl hXΓ hXp C hnm hnL
  have C : zC X cX3_hasInScale RX3 (some .boolean) 2 43 [] := C
  have hnL : X.2.1.2.2.2.2 = 3 := hnL
  subst hXl hXΓ
  show Z X h 0 0 [(0, .ref k), (1, .int (iI p))] 0 []
  refine z_aload_n (pc := 0) (j := 0) C dX3_hasInScale_0 rfl rfl ?_
  refine z_callV (pc := 1) (n := 0) (kc' := 0) (ks' := 0) C (ct_K_sig C.t (t := t) (m := m) hk (by omega) (by omega)) (lw_V q920 q921 q922 q65 q923) (by decide +kernel) ⟨by decide, by decide⟩ hk rfl rfl rfl (Nat.le_of_ble_eq_true rfl) dX3_hasInScale_1 (by omega) (by omega) (zpk (st' := [.int (iI (sgn t m))]) rfl ?_) zrx
  have hsg := sgn_r (t := t) hm
  refine z_iconst (pc := 4) C dX3_hasInScale_4 ?_
  refine z_isub (pc := 5) C dX3_hasInScale_5 ?_
  refine z_istore_n (pc := 6) (L' := [(2, .int (iI ((sgn t m) - 1))), (0, .ref k), (1, .int (iI p))]) C dX3_hasInScale_6 rfl (by rw [hnL]; decide) rfl ?_
  refine z_iload_n (pc := 7) (j := 0) C dX3_hasInScale_7 rfl rfl ?_
  refine z_iload_n (pc := 8) (j := 2) C dX3_hasInScale_8 rfl rfl ?_
  refine z_callSN (pc := 9) (n := 2) (kc' := 0) (ks' := 0) C (ct_plf C.t (f := (sgn t m) - 1) (p := p) (by omega) (by omega)) q926 q924 q63 q925 (by decide +kernel) ⟨by decide, by decide⟩ rfl rfl (Nat.le_of_ble_eq_true rfl) dX3_hasInScale_9 (by omega) (by omega) (zpk (st' := [.int (iI (plf ((sgn t m) - 1) p))]) rfl ?_) zrx
  have hpl := plf_r (sgn t m - 1) p
  refine z_iload_n (pc := 12) (j := 0) C dX3_hasInScale_12 rfl rfl ?_
  refine z_bipush (pc := 13) C dX3_hasInScale_13 (by decide) ?_
  refine z_iadd (pc := 15) C dX3_hasInScale_15 ?_
  refine z_icmp_gt (pc := 16) (tgt := 23) C dX3_hasInScale_16 (by decide) (by omega) (by omega) (fun c16 => ?_) (fun c16 => ?_)
  · refine z_iconst (pc := 23) C dX3_hasInScale_23 ?_
    exact z_zreturn (pc := 24) C (by decide) (by rw [hXp]; exact zpure_i (by unfold insc; split <;> omega) rfl) dX3_hasInScale_24
  · refine z_iconst (pc := 19) C dX3_hasInScale_19 ?_
    refine z_goto (pc := 20) (tgt := 24) C dX3_hasInScale_20 (by decide) ?_
    exact z_zreturn (pc := 24) C (by decide) (by rw [hXp]; exact zpure_i (by unfold insc; split <;> omega) rfl) dX3_hasInScale_24
set_option maxHeartbeats 4000000 in
theorem ct_K_spl {l : Launch} (hl : l.stackTraces = false) {Γ : zCx} {h : zH} {k : Nat} {t m : Int} (hk : h k = some (false, .inr (2, [.int (iI t), .int (iI m)]))) (ht : -500 ≤ t ∧ t ≤ 500) (hm : m = 0 ∨ m = 1) {p : Int} (hp : 0 ≤ p ∧ p < 12) {s : Int} (hs : s = 0 ∨ s = 1)  : zMet l yX3_spelled (ws_ yX3_spelled cX3_spelled 5 (some .int)) ({ frames := 3, cells := 0, slots := 0, locals := 60 }) Γ h [.ref k, .int (iI p), .int (iI s)] (zpure h (some (.int (iI (spl t m p s))))) 0 0 := by
  refine zMet.of (cc := cX3_spelled) hl (plainFor_of_name (by decide +kernel)) (Nat.le_of_ble_eq_true rfl) ?_
  intro X hXl hXΓ hXp C hnm hnL
  have C : zC X cX3_spelled RX3 (some .int) 3 60 [] := C
  have hnL : X.2.1.2.2.2.2 = 5 := hnL
  subst hXl hXΓ
  show Z X h 0 0 [(0, .ref k), (1, .int (iI p)), (2, .int (iI s))] 0 []
  refine z_aload_n (pc := 0) (j := 0) C dX3_spelled_0 rfl rfl ?_
  refine z_callV (pc := 1) (n := 0) (kc' := 0) (ks' := 0) C (ct_K_sig C.t (t := t) (m := m) hk (by omega) (by omega)) (lw_V q920 q921 q922 q65 q923) (by decide +kernel) ⟨by decide, by decide⟩ hk rfl rfl rfl (Nat.le_of_ble_eq_true rfl) dX3_spelled_1 (by omega) (by omega) (zpk (st' := [.int (iI (sgn t m))]) rfl ?_) zrx
  have hsg := sgn_r (t := t) hm
  refine z_iconst (pc := 4) C dX3_spelled_4 ?_
  refine z_isub (pc := 5) C dX3_spelled_5 ?_
  refine z_iload_n (pc := 6) (j := 1) C dX3_spelled_6 rfl rfl ?_
  refine z_callSN (pc := 7) (n := 2) (kc' := 0) (ks' := 0) C (ct_plf C.t (f := (sgn t m) - 3) (p := p) (by omega) (by omega)) q926 q924 q63 q925 (by decide +kernel) ⟨by decide, by decide⟩ rfl rfl (Nat.le_of_ble_eq_true rfl) dX3_spelled_7 (by omega) (by omega) (zpk (st' := [.int (iI (plf ((sgn t m) - 3) p))]) rfl ?_) zrx
  have hpl := plf_r (sgn t m - 3) p
  refine z_istore_n (pc := 10) (L' := [(3, .int (iI (plf ((sgn t m) - 3) p))), (0, .ref k), (1, .int (iI p)), (2, .int (iI s))]) C dX3_spelled_10 rfl (by rw [hnL]; decide) rfl ?_
  refine z_iload_n (pc := 11) (j := 0) C dX3_spelled_11 rfl rfl ?_
  refine z_callSN (pc := 12) (n := 1) (kc' := 0) (ks' := 0) C (ct_acc C.t (p := plf ((sgn t m) - 3) p) (by omega)) q1051 q1049 q63 q1050 (by decide +kernel) ⟨by decide, by decide⟩ rfl rfl (Nat.le_of_ble_eq_true rfl) dX3_spelled_12 (by omega) (by omega) (zpk (st' := [.int (iI (acc (plf ((sgn t m) - 3) p)))]) rfl ?_) zrx
  have hac := acc_r (p := plf (sgn t m - 3) p) (by omega)
  have hia : iabs (acc (plf (sgn t m - 3) p)) = if 0 ≤ acc (plf (sgn t m - 3) p) then acc (plf (sgn t m - 3) p) else -acc (plf (sgn t m - 3) p) := rfl
  refine z_istore (pc := 15) (L' := [(4, .int (iI (acc (plf ((sgn t m) - 3) p)))), (3, .int (iI (plf ((sgn t m) - 3) p))), (0, .ref k), (1, .int (iI p)), (2, .int (iI s))]) C dX3_spelled_15 (by rw [hnL]; decide) rfl ?_
  refine z_iload_n (pc := 17) (j := 4) C dX3_spelled_17 rfl rfl ?_
  refine z_if_eq (pc := 18) (tgt := 47) C dX3_spelled_18 (by decide) (by omega) (fun c18 => ?_) (fun c18 => ?_)
  · refine z_iload_n (pc := 47) (j := 1) C dX3_spelled_47 rfl rfl ?_
    exact z_ireturn (pc := 48) C (by rw [hXp]; exact zpure_i (by unfold spl; (repeat' split) <;> omega) rfl) dX3_spelled_48
  · refine z_iload (pc := 21) (j := 0) C dX3_spelled_21 rfl ?_
    refine z_callS (pc := 23) (n := 1) (kc' := 0) (ks' := 0) C (ct_abs C.t (x := acc (plf ((sgn t m) - 3) p)) (by omega)) (lw_S q1057 q1058 q71 q1059) (by decide +kernel) ⟨by decide, by decide⟩ rfl rfl (Nat.le_of_ble_eq_true rfl) dX3_spelled_23 (by omega) (by omega) (zpk (st' := [.int (iI (if 0 ≤ acc (plf ((sgn t m) - 3) p) then acc (plf ((sgn t m) - 3) p) else -(acc (plf ((sgn t m) - 3) p))))]) rfl ?_) zrx
    rw [← hia]
    have hib : 0 ≤ iabs (acc (plf (sgn t m - 3) p)) ∧ iabs (acc (plf (sgn t m - 3) p)) ≤ 150 := by rw [hia]; split <;> omega
    refine z_iconst (pc := 26) C dX3_spelled_26 ?_
    refine z_icmp_ne (pc := 27) (tgt := 47) C dX3_spelled_27 (by decide) (by omega) (by decide) (fun c27 => ?_) (fun c27 => ?_)
    · refine z_iload_n (pc := 47) (j := 1) C dX3_spelled_47 rfl rfl ?_
      exact z_ireturn (pc := 48) C (by rw [hXp]; exact zpure_i (by unfold spl; (repeat' split) <;> omega) rfl) dX3_spelled_48
    · refine z_iload (pc := 30) (j := 0) C dX3_spelled_30 rfl ?_
      refine z_if_le (pc := 32) (tgt := 42) C dX3_spelled_32 (by decide) (by omega) (fun c32 => ?_) (fun c32 => ?_)
      · refine z_iload_n (pc := 42) (j := 1) C dX3_spelled_42 rfl rfl ?_
        refine z_bipush (pc := 43) C dX3_spelled_43 (by decide) ?_
        refine z_iadd (pc := 45) C dX3_spelled_45 ?_
        exact z_ireturn (pc := 46) C (by rw [hXp]; exact zpure_i (by unfold spl; (repeat' split) <;> omega) rfl) dX3_spelled_46
      · refine z_iload_n (pc := 35) (j := 1) C dX3_spelled_35 rfl rfl ?_
        refine z_bipush (pc := 36) C dX3_spelled_36 (by decide) ?_
        refine z_isub (pc := 38) C dX3_spelled_38 ?_
        refine z_goto (pc := 39) (tgt := 46) C dX3_spelled_39 (by decide) ?_
        exact z_ireturn (pc := 46) C (by rw [hXp]; exact zpure_i (by unfold spl; (repeat' split) <;> omega) rfl) dX3_spelled_46
set_option maxHeartbeats 4000000 in
theorem ct_K_degree {l : Launch} (hl : l.stackTraces = false) {Γ : zCx} {h : zH} {k : Nat} {t m : Int} (hk : h k = some (false, .inr (2, [.int (iI t), .int (iI m)]))) (ht : -500 ≤ t ∧ t ≤ 500) (hm : m = 0 ∨ m = 1) {p : Int} (hp : 0 ≤ p ∧ p < 12)  : zMet l yX3_degree (ws_ yX3_degree cX3_degree 6 (some .int)) ({ frames := 3, cells := 0, slots := 0, locals := 65 }) Γ h [.ref k, .int (iI p)] (zpure h (some (.int (iI (dgr t m p))))) 0 0 := by
  refine zMet.of (cc := cX3_degree) hl (plainFor_of_name (by decide +kernel)) (Nat.le_of_ble_eq_true rfl) ?_
  intro X hXl hXΓ hXp C hnm hnL
  have C : zC X cX3_degree RX3 (some .int) 3 65 [] := C
  have hnL : X.2.1.2.2.2.2 = 6 := hnL
  subst hXl hXΓ
  show Z X h 0 0 [(0, .ref k), (1, .int (iI p))] 0 []
  have hpt := pcl_r t
  refine z_iload_n (pc := 0) (j := 1) C dX3_degree_0 rfl rfl ?_
  refine z_aload_n (pc := 1) (j := 0) C dX3_degree_1 rfl rfl ?_
  refine z_getfield (pc := 2) (v := .int (iI t)) C in_X3 rfl 0 (by decide) q123 (fun _ z => z) hk rfl dX3_degree_2 ?_
  refine z_callSN (pc := 5) (n := 1) (kc' := 0) (ks' := 0) C (ct_pcl C.t (p := t) (by omega)) q898 q1890 q63 q897 (by decide +kernel) ⟨by decide, by decide⟩ rfl rfl (Nat.le_of_ble_eq_true rfl) dX3_degree_5 (by omega) (by omega) (zpk (st' := [.int (iI (pcl t)), .int (iI p)]) rfl ?_) zrx
  refine z_isub (pc := 8) C dX3_degree_8 ?_
  refine z_bipush (pc := 9) C dX3_degree_9 (by decide) ?_
  refine z_callS (pc := 11) (n := 2) (kc' := 0) (ks' := 0) C (ct_floorMod C.t (x := p - (pcl t)) (y := 12) (by omega) (by decide)) (lw_S q1891 q900 q71 q901) (by decide +kernel) ⟨by decide, by decide⟩ rfl rfl (Nat.le_of_ble_eq_true rfl) dX3_degree_11 (by omega) (by omega) (zpk (st' := [.int (iI ((p - (pcl t)) % 12))]) rfl ?_) zrx
  refine z_istore_n (pc := 14) (L' := [(2, .int (iI ((p - (pcl t)) % 12))), (0, .ref k), (1, .int (iI p))]) C dX3_degree_14 rfl (by rw [hnL]; decide) rfl ?_
  refine z_iconst (pc := 15) C dX3_degree_15 ?_
  refine z_istore_n (pc := 16) (L' := [(3, .int (iI 0)), (2, .int (iI ((p - (pcl t)) % 12))), (0, .ref k), (1, .int (iI p))]) C dX3_degree_16 rfl (by rw [hnL]; decide) rfl ?_
  refine z_iconst (pc := 17) C dX3_degree_17 ?_
  refine z_istore (pc := 18) (L' := [(4, .int (iI 0)), (3, .int (iI 0)), (2, .int (iI ((p - (pcl t)) % 12))), (0, .ref k), (1, .int (iI p))]) C dX3_degree_18 (by rw [hnL]; decide) rfl ?_
  refine z_iconst (pc := 20) C dX3_degree_20 ?_
  refine z_istore (pc := 21) (L' := [(5, .int (iI 0)), (4, .int (iI 0)), (3, .int (iI 0)), (2, .int (iI ((p - (pcl t)) % 12))), (0, .ref k), (1, .int (iI p))]) C dX3_degree_21 (by rw [hnL]; decide) rfl ?_
  have loop23 : ∀ (n23 : Nat) (d : Int) (n : Int) (i : Int), (0 ≤ i ∧ i ≤ 12 ∧ 0 ≤ n ∧ n ≤ i) → (dgo t m ((p - pcl t) % 12) (12 - i).toNat i n d = dgr t m p) → (0 ≤ d ∧ d ≤ 12) → ((12 - i).toNat) = n23 → Z X h 0 0 [(5, .int (iI i)), (4, .int (iI n)), (3, .int (iI d)), (2, .int (iI ((p - pcl t) % 12))), (1, .int (iI p)), (0, .ref k)] 23 [] := by
    intro n23
    induction n23 using Nat.strongRecOn with
    | ind n23 ih23 =>
    intro d n i hi hd hd2 hn23
    refine z_iload (pc := 23) (j := 0) C dX3_degree_23 rfl ?_
    refine z_bipush (pc := 25) C dX3_degree_25 (by decide) ?_
    refine z_icmp_ge (pc := 27) (tgt := 72) C dX3_degree_27 (by decide) (by omega) (by decide) (fun c27 => ?_) (fun c27 => ?_)
    · refine z_iload_n (pc := 72) (j := 2) C dX3_degree_72 rfl rfl ?_
      exact z_ireturn (pc := 73) C (by rw [hXp]; exact zpure_i (by rw [show (12 - i).toNat = 0 by omega, dgo] at hd; exact hd) rfl) dX3_degree_73
    · refine z_aload_n (pc := 30) (j := 5) C dX3_degree_30 rfl rfl ?_
      refine z_iload (pc := 31) (j := 0) C dX3_degree_31 rfl ?_
      refine z_aload_n (pc := 33) (j := 5) C dX3_degree_33 rfl rfl ?_
      refine z_getfield (pc := 34) (v := .int (iI t)) C in_X3 rfl 0 (by decide) q123 (fun _ z => z) hk rfl dX3_degree_34 ?_
      refine z_callSN (pc := 37) (n := 1) (kc' := 0) (ks' := 0) C (ct_pcl C.t (p := t) (by omega)) q898 q1890 q63 q897 (by decide +kernel) ⟨by decide, by decide⟩ rfl rfl (Nat.le_of_ble_eq_true rfl) dX3_degree_37 (by omega) (by omega) (zpk (st' := [.int (iI (pcl t)), .int (iI i), .ref k]) rfl ?_) zrx
      refine z_iadd (pc := 40) C dX3_degree_40 ?_
      refine z_bipush (pc := 41) C dX3_degree_41 (by decide) ?_
      refine z_iremI (pc := 43) C dX3_degree_43 (by omega) (by decide) ?_
      rw [show (((i + (pcl t)).tmod 12) : Int) = (i + pcl t) % 12 from Int.tmod_eq_emod_of_nonneg (by omega)]
      show Z X h 0 0 [(5, .int (iI i)), (4, .int (iI n)), (3, .int (iI d)), (2, .int (iI ((p - pcl t) % 12))), (1, .int (iI p)), (0, .ref k)] 44 [.int (iI ((i + pcl t) % 12)), .ref k]
      refine z_callV (pc := 44) (n := 1) (kc' := 0) (ks' := 0) C (ct_K_insc C.t (t := t) (m := m) hk (by omega) (by omega) (p := (i + pcl t) % 12) (by omega)) (lw_V q1892 q917 q918 q65 q919) (by decide +kernel) ⟨by decide, by decide⟩ hk rfl rfl rfl (Nat.le_of_ble_eq_true rfl) dX3_degree_44 (by omega) (by omega) (zpk (st' := [.int (iI (insc t m ((i + pcl t) % 12)))]) rfl ?_) zrx
      have hin := insc_r t m ((i + pcl t) % 12)
      refine z_if_eq (pc := 47) (tgt := 66) C dX3_degree_47 (by decide) (by omega) (fun c47 => ?_) (fun c47 => ?_)
      · rw [show (12 - i).toNat = (12 - (i + 1)).toNat + 1 by omega, dgo] at hd
        rw [if_neg (by omega)] at hd
        refine z_iinc (pc := 66) (k := 0) (L' := [(5, .int (iI (i + 1))), (4, .int (iI n)), (3, .int (iI d)), (2, .int (iI ((p - pcl t) % 12))), (1, .int (iI p)), (0, .ref k)]) C dX3_degree_66 rfl (by rw [hnL]; decide) rfl ?_
        refine z_goto (pc := 69) (tgt := 23) C dX3_degree_69 (by decide) ?_
        refine Z.weak (L' := [(5, .int (iI (i + 1))), (4, .int (iI n)), (3, .int (iI d)), (2, .int (iI ((p - pcl t) % 12))), (1, .int (iI p)), (0, .ref k)]) (kc' := 0) (ks' := 0) [0, 1, 2, 3, 4, 5] rfl (by omega) (by omega) ?_
        exact ih23 _ (by omega) d n (i + 1) (by omega) ((Eq.refl (dgo t m ((p - pcl t) % 12))) ▸ hd) (by omega) rfl
      · rw [show (12 - i).toNat = (12 - (i + 1)).toNat + 1 by omega, dgo] at hd
        rw [if_pos (by have := insc_r t m ((i + pcl t) % 12); omega)] at hd
        refine z_iinc (pc := 50) (k := 1) (L' := [(4, .int (iI (n + 1))), (5, .int (iI i)), (3, .int (iI d)), (2, .int (iI ((p - pcl t) % 12))), (1, .int (iI p)), (0, .ref k)]) C dX3_degree_50 rfl (by rw [hnL]; decide) rfl ?_
        refine z_iload (pc := 53) (j := 1) C dX3_degree_53 rfl ?_
        refine z_iload_n (pc := 55) (j := 3) C dX3_degree_55 rfl rfl ?_
        refine z_icmp_ne (pc := 56) (tgt := 64) C dX3_degree_56 (by decide) (by omega) (by omega) (fun c56 => ?_) (fun c56 => ?_)
        · rw [if_neg (by omega)] at hd
          refine z_iload_n (pc := 64) (j := 2) C dX3_degree_64 rfl rfl ?_
          refine z_istore_n (pc := 65) (L' := [(3, .int (iI d)), (4, .int (iI (n + 1))), (5, .int (iI i)), (2, .int (iI ((p - pcl t) % 12))), (1, .int (iI p)), (0, .ref k)]) C dX3_degree_65 rfl (by rw [hnL]; decide) rfl ?_
          refine z_iinc (pc := 66) (k := 2) (L' := [(5, .int (iI (i + 1))), (3, .int (iI d)), (4, .int (iI (n + 1))), (2, .int (iI ((p - pcl t) % 12))), (1, .int (iI p)), (0, .ref k)]) C dX3_degree_66 rfl (by rw [hnL]; decide) rfl ?_
          refine z_goto (pc := 69) (tgt := 23) C dX3_degree_69 (by decide) ?_
          refine Z.weak (L' := [(5, .int (iI (i + 1))), (4, .int (iI (n + 1))), (3, .int (iI d)), (2, .int (iI ((p - pcl t) % 12))), (1, .int (iI p)), (0, .ref k)]) (kc' := 0) (ks' := 0) [0, 2, 1, 3, 4, 5] rfl (by omega) (by omega) ?_
          exact ih23 _ (by omega) d (n + 1) (i + 1) (by omega) ((Eq.refl (dgo t m ((p - pcl t) % 12))) ▸ hd) (by omega) rfl
        · rw [if_pos (by omega)] at hd
          refine z_iload (pc := 59) (j := 0) C dX3_degree_59 rfl ?_
          refine z_goto (pc := 61) (tgt := 65) C dX3_degree_61 (by decide) ?_
          refine z_istore_n (pc := 65) (L' := [(3, .int (iI (n + 1))), (4, .int (iI (n + 1))), (5, .int (iI i)), (2, .int (iI ((p - pcl t) % 12))), (1, .int (iI p)), (0, .ref k)]) C dX3_degree_65 rfl (by rw [hnL]; decide) rfl ?_
          refine z_iinc (pc := 66) (k := 2) (L' := [(5, .int (iI (i + 1))), (3, .int (iI (n + 1))), (4, .int (iI (n + 1))), (2, .int (iI ((p - pcl t) % 12))), (1, .int (iI p)), (0, .ref k)]) C dX3_degree_66 rfl (by rw [hnL]; decide) rfl ?_
          refine z_goto (pc := 69) (tgt := 23) C dX3_degree_69 (by decide) ?_
          refine Z.weak (L' := [(5, .int (iI (i + 1))), (4, .int (iI (n + 1))), (3, .int (iI (n + 1))), (2, .int (iI ((p - pcl t) % 12))), (1, .int (iI p)), (0, .ref k)]) (kc' := 0) (ks' := 0) [0, 2, 1, 3, 4, 5] rfl (by omega) (by omega) ?_
          exact ih23 _ (by omega) (n + 1) (n + 1) (i + 1) (by omega) ((Eq.refl (dgo t m ((p - pcl t) % 12))) ▸ hd) (by omega) rfl
  refine Z.weak (L' := [(5, .int (iI 0)), (4, .int (iI 0)), (3, .int (iI 0)), (2, .int (iI ((p - (pcl t)) % 12))), (1, .int (iI p)), (0, .ref k)]) (kc' := 0) (ks' := 0) [0, 1, 2, 3, 5, 4] rfl (by omega) (by omega) ?_
  exact loop23 _ 0 0 0 (by omega) rfl (by omega) rfl
set_option maxHeartbeats 4000000 in
theorem ct_K_higher {l : Launch} (hl : l.stackTraces = false) {Γ : zCx} {h : zH} {k : Nat} {t m : Int} (hk : h k = some (false, .inr (2, [.int (iI t), .int (iI m)]))) (ht : -500 ≤ t ∧ t ≤ 500) (hm : m = 0 ∨ m = 1) {s fl : Int} (hs : -20 ≤ s ∧ s ≤ 20) (hf : fl = 0 ∨ fl = 1)  : zMet l yX3_higher (ws_ yX3_higher cX3_higher 6 (some (.object "ChordSheet$Key"))) ({ frames := 3, cells := 1, slots := 2, locals := 55 }) Γ h [.ref k, .int (iI s), .int (iI fl)] (zrt (fun w h' => ∃ k', w = some (.ref k') ∧ h' k' = some (false, .inr (2, [.int (iI (hgt t m s fl)), .int (iI m)])) ∧ h k' = none ∧ zkeep h h' [])) 1 2 := by
  refine zMet.of (cc := cX3_higher) hl (plainFor_of_name (by decide +kernel)) (Nat.le_of_ble_eq_true rfl) ?_
  intro X hXl hXΓ hXp C hnm hnL
  have C : zC X cX3_higher RX3 (some (.object "ChordSheet$Key")) 3 55 [] := C
  have hnL : X.2.1.2.2.2.2 = 6 := hnL
  subst hXl hXΓ
  show Z X h 1 2 [(0, .ref k), (1, .int (iI s)), (2, .int (iI fl))] 0 []
  have hpt := pcl_r t
  refine z_aload_n (pc := 0) (j := 0) C dX3_higher_0 rfl rfl ?_
  refine z_getfield (pc := 1) (v := .int (iI t)) C in_X3 rfl 0 (by decide) q123 (fun _ z => z) hk rfl dX3_higher_1 ?_
  refine z_callSN (pc := 4) (n := 1) (kc' := 1) (ks' := 2) C (ct_pcl C.t (p := t) (by omega)) q898 q1890 q63 q897 (by decide +kernel) ⟨by decide, by decide⟩ rfl rfl (Nat.le_of_ble_eq_true rfl) dX3_higher_4 (by omega) (by omega) (zpk (st' := [.int (iI (pcl t))]) rfl ?_) zrx
  refine z_iload_n (pc := 7) (j := 1) C dX3_higher_7 rfl rfl ?_
  refine z_iadd (pc := 8) C dX3_higher_8 ?_
  refine z_bipush (pc := 9) C dX3_higher_9 (by decide) ?_
  refine z_callS (pc := 11) (n := 2) (kc' := 1) (ks' := 2) C (ct_floorMod C.t (x := (pcl t) + s) (y := 12) (by omega) (by decide)) (lw_S q1891 q900 q71 q901) (by decide +kernel) ⟨by decide, by decide⟩ rfl rfl (Nat.le_of_ble_eq_true rfl) dX3_higher_11 (by omega) (by omega) (zpk (st' := [.int (iI (((pcl t) + s) % 12))]) rfl ?_) zrx
  refine z_istore_n (pc := 14) (L' := [(3, .int (iI (((pcl t) + s) % 12))), (0, .ref k), (1, .int (iI s)), (2, .int (iI fl))]) C dX3_higher_14 rfl (by rw [hnL]; decide) rfl ?_
  refine z_aload_n (pc := 15) (j := 1) C dX3_higher_15 rfl rfl ?_
  refine z_getfield (pc := 16) (v := .int (iI m)) C in_X3 rfl 1 (by decide) q126 (fun _ z => z) hk rfl dX3_higher_16 ?_
  refine z_if_eq (pc := 19) (tgt := 26) C dX3_higher_19 (by decide) (by omega) (fun c19 => ?_) (fun c19 => ?_)
  · refine z_iconst (pc := 26) C dX3_higher_26 ?_
    refine z_istore (pc := 27) (L' := [(4, .int (iI 0)), (3, .int (iI (((pcl t) + s) % 12))), (0, .ref k), (1, .int (iI s)), (2, .int (iI fl))]) C dX3_higher_27 (by rw [hnL]; decide) rfl ?_
    refine z_iload (pc := 29) (j := 0) C dX3_higher_29 rfl ?_
    refine z_iconst (pc := 31) C dX3_higher_31 ?_
    refine z_isub (pc := 32) C dX3_higher_32 ?_
    refine z_iload_n (pc := 33) (j := 1) C dX3_higher_33 rfl rfl ?_
    have hpl := fun f => plf_r f ((pcl t + s) % 12)
    have hpl3 := hpl (3 - 5)
    have hpl0 := hpl (0 - 5)
    refine z_callSN (pc := 34) (n := 2) (kc' := 1) (ks' := 2) C (ct_plf C.t (f := 0 - 5) (p := ((pcl t) + s) % 12) (by omega) (by omega)) q926 q924 q63 q925 (by decide +kernel) ⟨by decide, by decide⟩ rfl rfl (Nat.le_of_ble_eq_true rfl) dX3_higher_34 (by omega) (by omega) (zpk (st' := [.int (iI (plf (0 - 5) (((pcl t) + s) % 12)))]) rfl ?_) zrx
    refine z_iload (pc := 37) (j := 0) C dX3_higher_37 rfl ?_
    refine z_isub (pc := 39) C dX3_higher_39 ?_
    refine z_istore (pc := 40) (L' := [(5, .int (iI ((plf (0 - 5) (((pcl t) + s) % 12)) - 0))), (4, .int (iI 0)), (3, .int (iI (((pcl t) + s) % 12))), (0, .ref k), (1, .int (iI s)), (2, .int (iI fl))]) C dX3_higher_40 (by rw [hnL]; decide) rfl ?_
    refine z_iload (pc := 42) (j := 0) C dX3_higher_42 rfl ?_
    refine z_bipush (pc := 44) C dX3_higher_44 (by decide) ?_
    refine z_icmp_ne (pc := 46) (tgt := 58) C dX3_higher_46 (by decide) (by omega) (by decide) (fun c46 => ?_) (fun c46 => ?_)
    · refine z_iload (pc := 58) (j := 0) C dX3_higher_58 rfl ?_
      refine z_aload_n (pc := 60) (j := 3) C dX3_higher_60 rfl rfl ?_
      refine z_getfield (pc := 61) (v := .int (iI m)) C in_X3 rfl 1 (by decide) q126 (fun _ z => z) hk rfl dX3_higher_61 ?_
      refine z_callS (pc := 64) (n := 2) (kc' := 0) (ks' := 0) C (ct_K_ofSig C.t (s := (plf (0 - 5) (((pcl t) + s) % 12)) - 0) (m := m) (by omega) (by omega)) (lw_S q1933 q888 q65 q889) (by decide +kernel) ⟨by decide, by decide⟩ rfl rfl (Nat.le_of_ble_eq_true rfl) dX3_higher_64 (by omega) (by omega) (zrk fun w h2 hp => ?_) zrx
      obtain ⟨a1, rfl, fka1, fa1, k3⟩ := hp
      have na1 : h a1 = none := fa1
      have kh2 : zkeep h h2 [] := zkeep.loc zkeep.rf k3 zall_nil
      show Z X h2 0 0 [(5, .int (iI ((plf (0 - 5) (((pcl t) + s) % 12)) - 0))), (4, .int (iI 0)), (3, .int (iI (((pcl t) + s) % 12))), (0, .ref k), (1, .int (iI s)), (2, .int (iI fl))] 67 [.ref a1]
      exact z_areturn (pc := 67) C (Or.inl ⟨_, rfl⟩) (Or.inr ⟨_, rfl⟩) (by rw [hXp]; exact ⟨_, rfl, a1, rfl, (show (((plf (0 - 5) (((pcl t) + s) % 12)) - 0) + (if m = 1 then 3 else 0)) = hgt t m s fl by unfold hgt hsg; (repeat' split) <;> omega) ▸ fka1, na1, kh2⟩) dX3_higher_67
    · refine z_iload_n (pc := 49) (j := 5) C dX3_higher_49 rfl rfl ?_
      refine z_if_eq (pc := 50) (tgt := 58) C dX3_higher_50 (by decide) (by omega) (fun c50 => ?_) (fun c50 => ?_)
      · refine z_iload (pc := 58) (j := 0) C dX3_higher_58 rfl ?_
        refine z_aload_n (pc := 60) (j := 3) C dX3_higher_60 rfl rfl ?_
        refine z_getfield (pc := 61) (v := .int (iI m)) C in_X3 rfl 1 (by decide) q126 (fun _ z => z) hk rfl dX3_higher_61 ?_
        refine z_callS (pc := 64) (n := 2) (kc' := 0) (ks' := 0) C (ct_K_ofSig C.t (s := (plf (0 - 5) (((pcl t) + s) % 12)) - 0) (m := m) (by omega) (by omega)) (lw_S q1933 q888 q65 q889) (by decide +kernel) ⟨by decide, by decide⟩ rfl rfl (Nat.le_of_ble_eq_true rfl) dX3_higher_64 (by omega) (by omega) (zrk fun w h5 hp => ?_) zrx
        obtain ⟨a4, rfl, fka4, fa4, k6⟩ := hp
        have na4 : h a4 = none := fa4
        have kh5 : zkeep h h5 [] := zkeep.loc zkeep.rf k6 zall_nil
        show Z X h5 0 0 [(5, .int (iI ((plf (0 - 5) (((pcl t) + s) % 12)) - 0))), (4, .int (iI 0)), (3, .int (iI (((pcl t) + s) % 12))), (0, .ref k), (1, .int (iI s)), (2, .int (iI fl))] 67 [.ref a4]
        exact z_areturn (pc := 67) C (Or.inl ⟨_, rfl⟩) (Or.inr ⟨_, rfl⟩) (by rw [hXp]; exact ⟨_, rfl, a4, rfl, (show (((plf (0 - 5) (((pcl t) + s) % 12)) - 0) + (if m = 1 then 3 else 0)) = hgt t m s fl by unfold hgt hsg; (repeat' split) <;> omega) ▸ fka4, na4, kh5⟩) dX3_higher_67
      · refine z_bipush (pc := 53) C dX3_higher_53 (by decide) ?_
        refine z_goto (pc := 55) (tgt := 60) C dX3_higher_55 (by decide) ?_
        refine z_aload_n (pc := 60) (j := 3) C dX3_higher_60 rfl rfl ?_
        refine z_getfield (pc := 61) (v := .int (iI m)) C in_X3 rfl 1 (by decide) q126 (fun _ z => z) hk rfl dX3_higher_61 ?_
        refine z_callS (pc := 64) (n := 2) (kc' := 0) (ks' := 0) C (ct_K_ofSig C.t (s := (-6)) (m := m) (by omega) (by omega)) (lw_S q1933 q888 q65 q889) (by decide +kernel) ⟨by decide, by decide⟩ rfl rfl (Nat.le_of_ble_eq_true rfl) dX3_higher_64 (by omega) (by omega) (zrk fun w h8 hp => ?_) zrx
        obtain ⟨a7, rfl, fka7, fa7, k9⟩ := hp
        have na7 : h a7 = none := fa7
        have kh8 : zkeep h h8 [] := zkeep.loc zkeep.rf k9 zall_nil
        show Z X h8 0 0 [(5, .int (iI ((plf (0 - 5) (((pcl t) + s) % 12)) - 0))), (4, .int (iI 0)), (3, .int (iI (((pcl t) + s) % 12))), (0, .ref k), (1, .int (iI s)), (2, .int (iI fl))] 67 [.ref a7]
        exact z_areturn (pc := 67) C (Or.inl ⟨_, rfl⟩) (Or.inr ⟨_, rfl⟩) (by rw [hXp]; exact ⟨_, rfl, a7, rfl, (show ((-6) + (if m = 1 then 3 else 0)) = hgt t m s fl by unfold hgt hsg; (repeat' split) <;> omega) ▸ fka7, na7, kh8⟩) dX3_higher_67
  · refine z_iconst (pc := 22) C dX3_higher_22 ?_
    refine z_goto (pc := 23) (tgt := 27) C dX3_higher_23 (by decide) ?_
    refine z_istore (pc := 27) (L' := [(4, .int (iI 3)), (3, .int (iI (((pcl t) + s) % 12))), (0, .ref k), (1, .int (iI s)), (2, .int (iI fl))]) C dX3_higher_27 (by rw [hnL]; decide) rfl ?_
    refine z_iload (pc := 29) (j := 0) C dX3_higher_29 rfl ?_
    refine z_iconst (pc := 31) C dX3_higher_31 ?_
    refine z_isub (pc := 32) C dX3_higher_32 ?_
    refine z_iload_n (pc := 33) (j := 1) C dX3_higher_33 rfl rfl ?_
    have hpl := fun f => plf_r f ((pcl t + s) % 12)
    have hpl3 := hpl (3 - 5)
    have hpl0 := hpl (0 - 5)
    refine z_callSN (pc := 34) (n := 2) (kc' := 1) (ks' := 2) C (ct_plf C.t (f := 3 - 5) (p := ((pcl t) + s) % 12) (by omega) (by omega)) q926 q924 q63 q925 (by decide +kernel) ⟨by decide, by decide⟩ rfl rfl (Nat.le_of_ble_eq_true rfl) dX3_higher_34 (by omega) (by omega) (zpk (st' := [.int (iI (plf (3 - 5) (((pcl t) + s) % 12)))]) rfl ?_) zrx
    refine z_iload (pc := 37) (j := 0) C dX3_higher_37 rfl ?_
    refine z_isub (pc := 39) C dX3_higher_39 ?_
    refine z_istore (pc := 40) (L' := [(5, .int (iI ((plf (3 - 5) (((pcl t) + s) % 12)) - 3))), (4, .int (iI 3)), (3, .int (iI (((pcl t) + s) % 12))), (0, .ref k), (1, .int (iI s)), (2, .int (iI fl))]) C dX3_higher_40 (by rw [hnL]; decide) rfl ?_
    refine z_iload (pc := 42) (j := 0) C dX3_higher_42 rfl ?_
    refine z_bipush (pc := 44) C dX3_higher_44 (by decide) ?_
    refine z_icmp_ne (pc := 46) (tgt := 58) C dX3_higher_46 (by decide) (by omega) (by decide) (fun c46 => ?_) (fun c46 => ?_)
    · refine z_iload (pc := 58) (j := 0) C dX3_higher_58 rfl ?_
      refine z_aload_n (pc := 60) (j := 3) C dX3_higher_60 rfl rfl ?_
      refine z_getfield (pc := 61) (v := .int (iI m)) C in_X3 rfl 1 (by decide) q126 (fun _ z => z) hk rfl dX3_higher_61 ?_
      refine z_callS (pc := 64) (n := 2) (kc' := 0) (ks' := 0) C (ct_K_ofSig C.t (s := (plf (3 - 5) (((pcl t) + s) % 12)) - 3) (m := m) (by omega) (by omega)) (lw_S q1933 q888 q65 q889) (by decide +kernel) ⟨by decide, by decide⟩ rfl rfl (Nat.le_of_ble_eq_true rfl) dX3_higher_64 (by omega) (by omega) (zrk fun w h11 hp => ?_) zrx
      obtain ⟨a10, rfl, fka10, fa10, k12⟩ := hp
      have na10 : h a10 = none := fa10
      have kh11 : zkeep h h11 [] := zkeep.loc zkeep.rf k12 zall_nil
      show Z X h11 0 0 [(5, .int (iI ((plf (3 - 5) (((pcl t) + s) % 12)) - 3))), (4, .int (iI 3)), (3, .int (iI (((pcl t) + s) % 12))), (0, .ref k), (1, .int (iI s)), (2, .int (iI fl))] 67 [.ref a10]
      exact z_areturn (pc := 67) C (Or.inl ⟨_, rfl⟩) (Or.inr ⟨_, rfl⟩) (by rw [hXp]; exact ⟨_, rfl, a10, rfl, (show (((plf (3 - 5) (((pcl t) + s) % 12)) - 3) + (if m = 1 then 3 else 0)) = hgt t m s fl by unfold hgt hsg; (repeat' split) <;> omega) ▸ fka10, na10, kh11⟩) dX3_higher_67
    · refine z_iload_n (pc := 49) (j := 5) C dX3_higher_49 rfl rfl ?_
      refine z_if_eq (pc := 50) (tgt := 58) C dX3_higher_50 (by decide) (by omega) (fun c50 => ?_) (fun c50 => ?_)
      · refine z_iload (pc := 58) (j := 0) C dX3_higher_58 rfl ?_
        refine z_aload_n (pc := 60) (j := 3) C dX3_higher_60 rfl rfl ?_
        refine z_getfield (pc := 61) (v := .int (iI m)) C in_X3 rfl 1 (by decide) q126 (fun _ z => z) hk rfl dX3_higher_61 ?_
        refine z_callS (pc := 64) (n := 2) (kc' := 0) (ks' := 0) C (ct_K_ofSig C.t (s := (plf (3 - 5) (((pcl t) + s) % 12)) - 3) (m := m) (by omega) (by omega)) (lw_S q1933 q888 q65 q889) (by decide +kernel) ⟨by decide, by decide⟩ rfl rfl (Nat.le_of_ble_eq_true rfl) dX3_higher_64 (by omega) (by omega) (zrk fun w h14 hp => ?_) zrx
        obtain ⟨a13, rfl, fka13, fa13, k15⟩ := hp
        have na13 : h a13 = none := fa13
        have kh14 : zkeep h h14 [] := zkeep.loc zkeep.rf k15 zall_nil
        show Z X h14 0 0 [(5, .int (iI ((plf (3 - 5) (((pcl t) + s) % 12)) - 3))), (4, .int (iI 3)), (3, .int (iI (((pcl t) + s) % 12))), (0, .ref k), (1, .int (iI s)), (2, .int (iI fl))] 67 [.ref a13]
        exact z_areturn (pc := 67) C (Or.inl ⟨_, rfl⟩) (Or.inr ⟨_, rfl⟩) (by rw [hXp]; exact ⟨_, rfl, a13, rfl, (show (((plf (3 - 5) (((pcl t) + s) % 12)) - 3) + (if m = 1 then 3 else 0)) = hgt t m s fl by unfold hgt hsg; (repeat' split) <;> omega) ▸ fka13, na13, kh14⟩) dX3_higher_67
      · refine z_bipush (pc := 53) C dX3_higher_53 (by decide) ?_
        refine z_goto (pc := 55) (tgt := 60) C dX3_higher_55 (by decide) ?_
        refine z_aload_n (pc := 60) (j := 3) C dX3_higher_60 rfl rfl ?_
        refine z_getfield (pc := 61) (v := .int (iI m)) C in_X3 rfl 1 (by decide) q126 (fun _ z => z) hk rfl dX3_higher_61 ?_
        refine z_callS (pc := 64) (n := 2) (kc' := 0) (ks' := 0) C (ct_K_ofSig C.t (s := (-6)) (m := m) (by omega) (by omega)) (lw_S q1933 q888 q65 q889) (by decide +kernel) ⟨by decide, by decide⟩ rfl rfl (Nat.le_of_ble_eq_true rfl) dX3_higher_64 (by omega) (by omega) (zrk fun w h17 hp => ?_) zrx
        obtain ⟨a16, rfl, fka16, fa16, k18⟩ := hp
        have na16 : h a16 = none := fa16
        have kh17 : zkeep h h17 [] := zkeep.loc zkeep.rf k18 zall_nil
        show Z X h17 0 0 [(5, .int (iI ((plf (3 - 5) (((pcl t) + s) % 12)) - 3))), (4, .int (iI 3)), (3, .int (iI (((pcl t) + s) % 12))), (0, .ref k), (1, .int (iI s)), (2, .int (iI fl))] 67 [.ref a16]
        exact z_areturn (pc := 67) C (Or.inl ⟨_, rfl⟩) (Or.inr ⟨_, rfl⟩) (by rw [hXp]; exact ⟨_, rfl, a16, rfl, (show ((-6) + (if m = 1 then 3 else 0)) = hgt t m s fl by unfold hgt hsg; (repeat' split) <;> omega) ▸ fka16, na16, kh17⟩) dX3_higher_67

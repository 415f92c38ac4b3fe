/-! 40.mleaf.lean.txt -/
set_option maxRecDepth 100000
abbrev cX4_in : ByteArray := prog_11_method_3_code
def yX4_in : MethodName := ⟨RX4, "in", "(III)Z"⟩
def dkwX4_in_0 : List UInt8 := [26, 27, 161, 0, 12, 26, 28, 163, 0, 7, 4, 167, 0, 4, 3, 172]
abbrev dktX4_in_0 : List UInt8 := dkwX4_in_0 ++ []
theorem dksX4_in_0 : cX4_in.data.toList.drop 0 = dktX4_in_0 := by decide +kernel
abbrev cX4_fails : ByteArray := prog_11_method_4_code
def yX4_fails : MethodName := ⟨RX4, "fails", "(I)I"⟩
def dkwX4_fails_0 : List UInt8 := [42, 27, 181, 0, 46, 3, 172]
abbrev dktX4_fails_0 : List UInt8 := dkwX4_fails_0 ++ []
theorem dksX4_fails_0 : cX4_fails.data.toList.drop 0 = dktX4_fails_0 := by decide +kernel
abbrev cX4_chord : ByteArray := prog_11_method_6_code
def yX4_chord : MethodName := ⟨RX4, "chord", "(I)I"⟩
def dkwX4_chord_0 : List UInt8 := [17, 0, 210, 8, 26, 104, 96, 172]
abbrev dktX4_chord_0 : List UInt8 := dkwX4_chord_0 ++ []
theorem dksX4_chord_0 : cX4_chord.data.toList.drop 0 = dktX4_chord_0 := by decide +kernel
abbrev cX4_mod12 : ByteArray := prog_11_method_7_code
def yX4_mod12 : MethodName := ⟨RX4, "mod12", "(I)I"⟩
def dkwX4_mod12_0 : List UInt8 := [26, 16, 12, 112, 16, 12, 96, 16, 12, 112, 172]
abbrev dktX4_mod12_0 : List UInt8 := dkwX4_mod12_0 ++ []
theorem dksX4_mod12_0 : cX4_mod12.data.toList.drop 0 = dktX4_mod12_0 := by decide +kernel
abbrev cX4_pitch : ByteArray := prog_11_method_8_code
def yX4_pitch : MethodName := ⟨RX4, "pitch", "(I)I"⟩
def dkwX4_pitch_0 : List UInt8 := [16, 7, 26, 104, 184, 0, 52, 172]
abbrev dktX4_pitch_0 : List UInt8 := dkwX4_pitch_0 ++ []
theorem dksX4_pitch_0 : cX4_pitch.data.toList.drop 0 = dktX4_pitch_0 := by decide +kernel
abbrev cX4_sign : ByteArray := prog_11_method_10_code
def yX4_sign : MethodName := ⟨RX4, "sign", "(I)I"⟩
def dkwX4_sign_0 : List UInt8 := [27, 42, 180, 0, 56, 162, 0, 12, 42, 180, 0, 16, 27, 46, 167, 0, 4, 2, 172]
abbrev dktX4_sign_0 : List UInt8 := dkwX4_sign_0 ++ []
theorem dksX4_sign_0 : cX4_sign.data.toList.drop 0 = dktX4_sign_0 := by decide +kernel
abbrev cX4_placeOf : ByteArray := prog_11_method_9_code
def yX4_placeOf : MethodName := ⟨RX4, "placeOf", "(I)I"⟩
def dkwX4_placeOf_1 : List UInt8 := [172, 132, 2, 1, 167, 255, 230, 16, 100, 172]
abbrev dktX4_placeOf_1 : List UInt8 := dkwX4_placeOf_1 ++ []
def dkwX4_placeOf_0 : List UInt8 := [3, 61, 28, 42, 180, 0, 27, 190, 162, 0, 23, 42, 180, 0, 27, 28, 52, 27, 160, 0, 7, 28, 4, 100]
abbrev dktX4_placeOf_0 : List UInt8 := dkwX4_placeOf_0 ++ dktX4_placeOf_1
theorem dksX4_placeOf_0 : cX4_placeOf.data.toList.drop 0 = dktX4_placeOf_0 := by decide +kernel
theorem dksX4_placeOf_1 : cX4_placeOf.data.toList.drop 24 = dktX4_placeOf_1 := dk_seg dksX4_placeOf_0 24 rfl rfl
abbrev cX4_isLine : ByteArray := prog_11_method_22_code
def yX4_isLine : MethodName := ⟨RX4, "isLine", "(I)Z"⟩
def dkwX4_isLine_0 : List UInt8 := [27, 3, 42, 180, 0, 7, 3, 46, 4, 100, 184, 0, 97, 172]
abbrev dktX4_isLine_0 : List UInt8 := dkwX4_isLine_0 ++ []
theorem dksX4_isLine_0 : cX4_isLine.data.toList.drop 0 = dktX4_isLine_0 := by decide +kernel
abbrev cX4_isChord : ByteArray := prog_11_method_28_code
def yX4_isChord : MethodName := ⟨RX4, "isChord", "(I)Z"⟩
def dkwX4_isChord_0 : List UInt8 := [27, 3, 42, 180, 0, 7, 4, 46, 4, 100, 184, 0, 97, 172]
abbrev dktX4_isChord_0 : List UInt8 := dkwX4_isChord_0 ++ []
theorem dksX4_isChord_0 : cX4_isChord.data.toList.drop 0 = dktX4_isChord_0 := by decide +kernel
abbrev cX4_lengthOf : ByteArray := prog_11_method_23_code
def yX4_lengthOf : MethodName := ⟨RX4, "lengthOf", "(I)I"⟩
def dkwX4_lengthOf_0 : List UInt8 := [42, 180, 0, 7, 7, 27, 96, 4, 96, 46, 42, 180, 0, 7, 7, 27, 96, 46, 100, 172]
abbrev dktX4_lengthOf_0 : List UInt8 := dkwX4_lengthOf_0 ++ []
theorem dksX4_lengthOf_0 : cX4_lengthOf.data.toList.drop 0 = dktX4_lengthOf_0 := by decide +kernel
abbrev cX4_lyricAt : ByteArray := prog_11_method_25_code
def yX4_lyricAt : MethodName := ⟨RX4, "lyricAt", "(II)I"⟩
def dkwX4_lyricAt_0 : List UInt8 := [42, 180, 0, 7, 17, 1, 159, 42, 180, 0, 7, 7, 27, 96, 46, 96, 28, 96, 46, 172]
abbrev dktX4_lyricAt_0 : List UInt8 := dkwX4_lyricAt_0 ++ []
theorem dksX4_lyricAt_0 : cX4_lyricAt.data.toList.drop 0 = dktX4_lyricAt_0 := by decide +kernel
theorem dX4_in_0 : decode cX4_in 0 = .ok (.iload_n 0, 1) := dk_26 (dk_at dksX4_in_0 0 rfl rfl)
theorem dX4_in_1 : decode cX4_in 1 = .ok (.iload_n 1, 1) := dk_27 (dk_at dksX4_in_0 1 rfl rfl)
theorem dX4_in_2 : decode cX4_in 2 = .ok (.if_icmp .lt 12, 3) := dk_161 0 12 (dk_at dksX4_in_0 2 rfl rfl)
theorem dX4_in_5 : decode cX4_in 5 = .ok (.iload_n 0, 1) := dk_26 (dk_at dksX4_in_0 5 rfl rfl)
theorem dX4_in_6 : decode cX4_in 6 = .ok (.iload_n 2, 1) := dk_28 (dk_at dksX4_in_0 6 rfl rfl)
theorem dX4_in_7 : decode cX4_in 7 = .ok (.if_icmp .gt 7, 3) := dk_163 0 7 (dk_at dksX4_in_0 7 rfl rfl)
theorem dX4_in_10 : decode cX4_in 10 = .ok (.iconst 1, 1) := dk_4 (dk_at dksX4_in_0 10 rfl rfl)
theorem dX4_in_11 : decode cX4_in 11 = .ok (.goto 4, 3) := dk_167 0 4 (dk_at dksX4_in_0 11 rfl rfl)
theorem dX4_in_14 : decode cX4_in 14 = .ok (.iconst 0, 1) := dk_3 (dk_at dksX4_in_0 14 rfl rfl)
theorem dX4_in_15 : decode cX4_in 15 = .ok (.ireturn, 1) := dk_172 (dk_at dksX4_in_0 15 rfl rfl)
theorem dX4_fails_0 : decode cX4_fails 0 = .ok (.aload_n 0, 1) := dk_42 (dk_at dksX4_fails_0 0 rfl rfl)
theorem dX4_fails_1 : decode cX4_fails 1 = .ok (.iload_n 1, 1) := dk_27 (dk_at dksX4_fails_0 1 rfl rfl)
theorem dX4_fails_2 : decode cX4_fails 2 = .ok (.putfield 46, 3) := dk_181 0 46 (dk_at dksX4_fails_0 2 rfl rfl)
theorem dX4_fails_5 : decode cX4_fails 5 = .ok (.iconst 0, 1) := dk_3 (dk_at dksX4_fails_0 5 rfl rfl)
theorem dX4_fails_6 : decode cX4_fails 6 = .ok (.ireturn, 1) := dk_172 (dk_at dksX4_fails_0 6 rfl rfl)
theorem dX4_chord_0 : decode cX4_chord 0 = .ok (.sipush 210, 3) := dk_17 0 210 (dk_at dksX4_chord_0 0 rfl rfl)
theorem dX4_chord_3 : decode cX4_chord 3 = .ok (.iconst 5, 1) := dk_8 (dk_at dksX4_chord_0 3 rfl rfl)
theorem dX4_chord_4 : decode cX4_chord 4 = .ok (.iload_n 0, 1) := dk_26 (dk_at dksX4_chord_0 4 rfl rfl)
theorem dX4_chord_5 : decode cX4_chord 5 = .ok (.imul, 1) := dk_104 (dk_at dksX4_chord_0 5 rfl rfl)
theorem dX4_chord_6 : decode cX4_chord 6 = .ok (.iadd, 1) := dk_96 (dk_at dksX4_chord_0 6 rfl rfl)
theorem dX4_chord_7 : decode cX4_chord 7 = .ok (.ireturn, 1) := dk_172 (dk_at dksX4_chord_0 7 rfl rfl)
theorem dX4_mod12_0 : decode cX4_mod12 0 = .ok (.iload_n 0, 1) := dk_26 (dk_at dksX4_mod12_0 0 rfl rfl)
theorem dX4_mod12_1 : decode cX4_mod12 1 = .ok (.bipush 12, 2) := dk_16 12 (dk_at dksX4_mod12_0 1 rfl rfl)
theorem dX4_mod12_3 : decode cX4_mod12 3 = .ok (.irem, 1) := dk_112 (dk_at dksX4_mod12_0 3 rfl rfl)
theorem dX4_mod12_4 : decode cX4_mod12 4 = .ok (.bipush 12, 2) := dk_16 12 (dk_at dksX4_mod12_0 4 rfl rfl)
theorem dX4_mod12_6 : decode cX4_mod12 6 = .ok (.iadd, 1) := dk_96 (dk_at dksX4_mod12_0 6 rfl rfl)
theorem dX4_mod12_7 : decode cX4_mod12 7 = .ok (.bipush 12, 2) := dk_16 12 (dk_at dksX4_mod12_0 7 rfl rfl)
theorem dX4_mod12_9 : decode cX4_mod12 9 = .ok (.irem, 1) := dk_112 (dk_at dksX4_mod12_0 9 rfl rfl)
theorem dX4_mod12_10 : decode cX4_mod12 10 = .ok (.ireturn, 1) := dk_172 (dk_at dksX4_mod12_0 10 rfl rfl)
theorem dX4_pitch_0 : decode cX4_pitch 0 = .ok (.bipush 7, 2) := dk_16 7 (dk_at dksX4_pitch_0 0 rfl rfl)
theorem dX4_pitch_2 : decode cX4_pitch 2 = .ok (.iload_n 0, 1) := dk_26 (dk_at dksX4_pitch_0 2 rfl rfl)
theorem dX4_pitch_3 : decode cX4_pitch 3 = .ok (.imul, 1) := dk_104 (dk_at dksX4_pitch_0 3 rfl rfl)
theorem dX4_pitch_4 : decode cX4_pitch 4 = .ok (.invokestatic 52, 3) := dk_184 0 52 (dk_at dksX4_pitch_0 4 rfl rfl)
theorem dX4_pitch_7 : decode cX4_pitch 7 = .ok (.ireturn, 1) := dk_172 (dk_at dksX4_pitch_0 7 rfl rfl)
theorem dX4_sign_0 : decode cX4_sign 0 = .ok (.iload_n 1, 1) := dk_27 (dk_at dksX4_sign_0 0 rfl rfl)
theorem dX4_sign_1 : decode cX4_sign 1 = .ok (.aload_n 0, 1) := dk_42 (dk_at dksX4_sign_0 1 rfl rfl)
theorem dX4_sign_2 : decode cX4_sign 2 = .ok (.getfield 56, 3) := dk_180 0 56 (dk_at dksX4_sign_0 2 rfl rfl)
theorem dX4_sign_5 : decode cX4_sign 5 = .ok (.if_icmp .ge 12, 3) := dk_162 0 12 (dk_at dksX4_sign_0 5 rfl rfl)
theorem dX4_sign_8 : decode cX4_sign 8 = .ok (.aload_n 0, 1) := dk_42 (dk_at dksX4_sign_0 8 rfl rfl)
theorem dX4_sign_9 : decode cX4_sign 9 = .ok (.getfield 16, 3) := dk_180 0 16 (dk_at dksX4_sign_0 9 rfl rfl)
theorem dX4_sign_12 : decode cX4_sign 12 = .ok (.iload_n 1, 1) := dk_27 (dk_at dksX4_sign_0 12 rfl rfl)
theorem dX4_sign_13 : decode cX4_sign 13 = .ok (.iaload, 1) := dk_46 (dk_at dksX4_sign_0 13 rfl rfl)
theorem dX4_sign_14 : decode cX4_sign 14 = .ok (.goto 4, 3) := dk_167 0 4 (dk_at dksX4_sign_0 14 rfl rfl)
theorem dX4_sign_17 : decode cX4_sign 17 = .ok (.iconst (-1), 1) := dk_2 (dk_at dksX4_sign_0 17 rfl rfl)
theorem dX4_sign_18 : decode cX4_sign 18 = .ok (.ireturn, 1) := dk_172 (dk_at dksX4_sign_0 18 rfl rfl)
theorem dX4_placeOf_0 : decode cX4_placeOf 0 = .ok (.iconst 0, 1) := dk_3 (dk_at dksX4_placeOf_0 0 rfl rfl)
theorem dX4_placeOf_1 : decode cX4_placeOf 1 = .ok (.istore_n 2, 1) := dk_61 (dk_at dksX4_placeOf_0 1 rfl rfl)
theorem dX4_placeOf_2 : decode cX4_placeOf 2 = .ok (.iload_n 2, 1) := dk_28 (dk_at dksX4_placeOf_0 2 rfl rfl)
theorem dX4_placeOf_3 : decode cX4_placeOf 3 = .ok (.aload_n 0, 1) := dk_42 (dk_at dksX4_placeOf_0 3 rfl rfl)
theorem dX4_placeOf_4 : decode cX4_placeOf 4 = .ok (.getfield 27, 3) := dk_180 0 27 (dk_at dksX4_placeOf_0 4 rfl rfl)
theorem dX4_placeOf_7 : decode cX4_placeOf 7 = .ok (.arraylength, 1) := dk_190 (dk_at dksX4_placeOf_0 7 rfl rfl)
theorem dX4_placeOf_8 : decode cX4_placeOf 8 = .ok (.if_icmp .ge 23, 3) := dk_162 0 23 (dk_at dksX4_placeOf_0 8 rfl rfl)
theorem dX4_placeOf_11 : decode cX4_placeOf 11 = .ok (.aload_n 0, 1) := dk_42 (dk_at dksX4_placeOf_0 11 rfl rfl)
theorem dX4_placeOf_12 : decode cX4_placeOf 12 = .ok (.getfield 27, 3) := dk_180 0 27 (dk_at dksX4_placeOf_0 12 rfl rfl)
theorem dX4_placeOf_15 : decode cX4_placeOf 15 = .ok (.iload_n 2, 1) := dk_28 (dk_at dksX4_placeOf_0 15 rfl rfl)
theorem dX4_placeOf_16 : decode cX4_placeOf 16 = .ok (.caload, 1) := dk_52 (dk_at dksX4_placeOf_0 16 rfl rfl)
theorem dX4_placeOf_17 : decode cX4_placeOf 17 = .ok (.iload_n 1, 1) := dk_27 (dk_at dksX4_placeOf_0 17 rfl rfl)
theorem dX4_placeOf_18 : decode cX4_placeOf 18 = .ok (.if_icmp .ne 7, 3) := dk_160 0 7 (dk_at dksX4_placeOf_0 18 rfl rfl)
theorem dX4_placeOf_21 : decode cX4_placeOf 21 = .ok (.iload_n 2, 1) := dk_28 (dk_at dksX4_placeOf_0 21 rfl rfl)
theorem dX4_placeOf_22 : decode cX4_placeOf 22 = .ok (.iconst 1, 1) := dk_4 (dk_at dksX4_placeOf_0 22 rfl rfl)
theorem dX4_placeOf_23 : decode cX4_placeOf 23 = .ok (.isub, 1) := dk_100 (dk_at dksX4_placeOf_0 23 rfl rfl)
theorem dX4_placeOf_24 : decode cX4_placeOf 24 = .ok (.ireturn, 1) := dk_172 (dk_at dksX4_placeOf_1 0 rfl rfl)
theorem dX4_placeOf_25 : decode cX4_placeOf 25 = .ok (.iinc 2 1, 3) := dk_132 2 1 (dk_at dksX4_placeOf_1 1 rfl rfl)
theorem dX4_placeOf_28 : decode cX4_placeOf 28 = .ok (.goto (-26), 3) := dk_167 255 230 (dk_at dksX4_placeOf_1 4 rfl rfl)
theorem dX4_placeOf_31 : decode cX4_placeOf 31 = .ok (.bipush 100, 2) := dk_16 100 (dk_at dksX4_placeOf_1 7 rfl rfl)
theorem dX4_placeOf_33 : decode cX4_placeOf 33 = .ok (.ireturn, 1) := dk_172 (dk_at dksX4_placeOf_1 9 rfl rfl)
theorem dX4_isLine_0 : decode cX4_isLine 0 = .ok (.iload_n 1, 1) := dk_27 (dk_at dksX4_isLine_0 0 rfl rfl)
theorem dX4_isLine_1 : decode cX4_isLine 1 = .ok (.iconst 0, 1) := dk_3 (dk_at dksX4_isLine_0 1 rfl rfl)
theorem dX4_isLine_2 : decode cX4_isLine 2 = .ok (.aload_n 0, 1) := dk_42 (dk_at dksX4_isLine_0 2 rfl rfl)
theorem dX4_isLine_3 : decode cX4_isLine 3 = .ok (.getfield 7, 3) := dk_180 0 7 (dk_at dksX4_isLine_0 3 rfl rfl)
theorem dX4_isLine_6 : decode cX4_isLine 6 = .ok (.iconst 0, 1) := dk_3 (dk_at dksX4_isLine_0 6 rfl rfl)
theorem dX4_isLine_7 : decode cX4_isLine 7 = .ok (.iaload, 1) := dk_46 (dk_at dksX4_isLine_0 7 rfl rfl)
theorem dX4_isLine_8 : decode cX4_isLine 8 = .ok (.iconst 1, 1) := dk_4 (dk_at dksX4_isLine_0 8 rfl rfl)
theorem dX4_isLine_9 : decode cX4_isLine 9 = .ok (.isub, 1) := dk_100 (dk_at dksX4_isLine_0 9 rfl rfl)
theorem dX4_isLine_10 : decode cX4_isLine 10 = .ok (.invokestatic 97, 3) := dk_184 0 97 (dk_at dksX4_isLine_0 10 rfl rfl)
theorem dX4_isLine_13 : decode cX4_isLine 13 = .ok (.ireturn, 1) := dk_172 (dk_at dksX4_isLine_0 13 rfl rfl)
theorem dX4_isChord_0 : decode cX4_isChord 0 = .ok (.iload_n 1, 1) := dk_27 (dk_at dksX4_isChord_0 0 rfl rfl)
theorem dX4_isChord_1 : decode cX4_isChord 1 = .ok (.iconst 0, 1) := dk_3 (dk_at dksX4_isChord_0 1 rfl rfl)
theorem dX4_isChord_2 : decode cX4_isChord 2 = .ok (.aload_n 0, 1) := dk_42 (dk_at dksX4_isChord_0 2 rfl rfl)
theorem dX4_isChord_3 : decode cX4_isChord 3 = .ok (.getfield 7, 3) := dk_180 0 7 (dk_at dksX4_isChord_0 3 rfl rfl)
theorem dX4_isChord_6 : decode cX4_isChord 6 = .ok (.iconst 1, 1) := dk_4 (dk_at dksX4_isChord_0 6 rfl rfl)
theorem dX4_isChord_7 : decode cX4_isChord 7 = .ok (.iaload, 1) := dk_46 (dk_at dksX4_isChord_0 7 rfl rfl)
theorem dX4_isChord_8 : decode cX4_isChord 8 = .ok (.iconst 1, 1) := dk_4 (dk_at dksX4_isChord_0 8 rfl rfl)
theorem dX4_isChord_9 : decode cX4_isChord 9 = .ok (.isub, 1) := dk_100 (dk_at dksX4_isChord_0 9 rfl rfl)
theorem dX4_isChord_10 : decode cX4_isChord 10 = .ok (.invokestatic 97, 3) := dk_184 0 97 (dk_at dksX4_isChord_0 10 rfl rfl)
theorem dX4_isChord_13 : decode cX4_isChord 13 = .ok (.ireturn, 1) := dk_172 (dk_at dksX4_isChord_0 13 rfl rfl)
theorem dX4_lengthOf_0 : decode cX4_lengthOf 0 = .ok (.aload_n 0, 1) := dk_42 (dk_at dksX4_lengthOf_0 0 rfl rfl)
theorem dX4_lengthOf_1 : decode cX4_lengthOf 1 = .ok (.getfield 7, 3) := dk_180 0 7 (dk_at dksX4_lengthOf_0 1 rfl rfl)
theorem dX4_lengthOf_4 : decode cX4_lengthOf 4 = .ok (.iconst 4, 1) := dk_7 (dk_at dksX4_lengthOf_0 4 rfl rfl)
theorem dX4_lengthOf_5 : decode cX4_lengthOf 5 = .ok (.iload_n 1, 1) := dk_27 (dk_at dksX4_lengthOf_0 5 rfl rfl)
theorem dX4_lengthOf_6 : decode cX4_lengthOf 6 = .ok (.iadd, 1) := dk_96 (dk_at dksX4_lengthOf_0 6 rfl rfl)
theorem dX4_lengthOf_7 : decode cX4_lengthOf 7 = .ok (.iconst 1, 1) := dk_4 (dk_at dksX4_lengthOf_0 7 rfl rfl)
theorem dX4_lengthOf_8 : decode cX4_lengthOf 8 = .ok (.iadd, 1) := dk_96 (dk_at dksX4_lengthOf_0 8 rfl rfl)
theorem dX4_lengthOf_9 : decode cX4_lengthOf 9 = .ok (.iaload, 1) := dk_46 (dk_at dksX4_lengthOf_0 9 rfl rfl)
theorem dX4_lengthOf_10 : decode cX4_lengthOf 10 = .ok (.aload_n 0, 1) := dk_42 (dk_at dksX4_lengthOf_0 10 rfl rfl)
theorem dX4_lengthOf_11 : decode cX4_lengthOf 11 = .ok (.getfield 7, 3) := dk_180 0 7 (dk_at dksX4_lengthOf_0 11 rfl rfl)
theorem dX4_lengthOf_14 : decode cX4_lengthOf 14 = .ok (.iconst 4, 1) := dk_7 (dk_at dksX4_lengthOf_0 14 rfl rfl)
theorem dX4_lengthOf_15 : decode cX4_lengthOf 15 = .ok (.iload_n 1, 1) := dk_27 (dk_at dksX4_lengthOf_0 15 rfl rfl)
theorem dX4_lengthOf_16 : decode cX4_lengthOf 16 = .ok (.iadd, 1) := dk_96 (dk_at dksX4_lengthOf_0 16 rfl rfl)
theorem dX4_lengthOf_17 : decode cX4_lengthOf 17 = .ok (.iaload, 1) := dk_46 (dk_at dksX4_lengthOf_0 17 rfl rfl)
theorem dX4_lengthOf_18 : decode cX4_lengthOf 18 = .ok (.isub, 1) := dk_100 (dk_at dksX4_lengthOf_0 18 rfl rfl)
theorem dX4_lengthOf_19 : decode cX4_lengthOf 19 = .ok (.ireturn, 1) := dk_172 (dk_at dksX4_lengthOf_0 19 rfl rfl)
theorem dX4_lyricAt_0 : decode cX4_lyricAt 0 = .ok (.aload_n 0, 1) := dk_42 (dk_at dksX4_lyricAt_0 0 rfl rfl)
theorem dX4_lyricAt_1 : decode cX4_lyricAt 1 = .ok (.getfield 7, 3) := dk_180 0 7 (dk_at dksX4_lyricAt_0 1 rfl rfl)
theorem dX4_lyricAt_4 : decode cX4_lyricAt 4 = .ok (.sipush 415, 3) := dk_17 1 159 (dk_at dksX4_lyricAt_0 4 rfl rfl)
theorem dX4_lyricAt_7 : decode cX4_lyricAt 7 = .ok (.aload_n 0, 1) := dk_42 (dk_at dksX4_lyricAt_0 7 rfl rfl)
theorem dX4_lyricAt_8 : decode cX4_lyricAt 8 = .ok (.getfield 7, 3) := dk_180 0 7 (dk_at dksX4_lyricAt_0 8 rfl rfl)
theorem dX4_lyricAt_11 : decode cX4_lyricAt 11 = .ok (.iconst 4, 1) := dk_7 (dk_at dksX4_lyricAt_0 11 rfl rfl)
theorem dX4_lyricAt_12 : decode cX4_lyricAt 12 = .ok (.iload_n 1, 1) := dk_27 (dk_at dksX4_lyricAt_0 12 rfl rfl)
theorem dX4_lyricAt_13 : decode cX4_lyricAt 13 = .ok (.iadd, 1) := dk_96 (dk_at dksX4_lyricAt_0 13 rfl rfl)
theorem dX4_lyricAt_14 : decode cX4_lyricAt 14 = .ok (.iaload, 1) := dk_46 (dk_at dksX4_lyricAt_0 14 rfl rfl)
theorem dX4_lyricAt_15 : decode cX4_lyricAt 15 = .ok (.iadd, 1) := dk_96 (dk_at dksX4_lyricAt_0 15 rfl rfl)
theorem dX4_lyricAt_16 : decode cX4_lyricAt 16 = .ok (.iload_n 2, 1) := dk_28 (dk_at dksX4_lyricAt_0 16 rfl rfl)
theorem dX4_lyricAt_17 : decode cX4_lyricAt 17 = .ok (.iadd, 1) := dk_96 (dk_at dksX4_lyricAt_0 17 rfl rfl)
theorem dX4_lyricAt_18 : decode cX4_lyricAt 18 = .ok (.iaload, 1) := dk_46 (dk_at dksX4_lyricAt_0 18 rfl rfl)
theorem dX4_lyricAt_19 : decode cX4_lyricAt 19 = .ok (.ireturn, 1) := dk_172 (dk_at dksX4_lyricAt_0 19 rfl rfl)
theorem q2082 : (Jvm.Cond.fieldLink "ChordSheetModel" (7 : Nat) "ChordSheetModel" "v" "[I") ∈ lw_all := lw_g (lw_at lw_m9 100 rfl) rfl
theorem q2085 : (Jvm.Cond.fieldLink "ChordSheetModel" (16 : Nat) "ChordSheetModel" "text" "[I") ∈ lw_all := lw_g (lw_at lw_m9 103 rfl) rfl
theorem q2086 : (Jvm.Cond.fieldLink "ChordSheetModel" (56 : Nat) "ChordSheetModel" "typed" "I") ∈ lw_all := lw_g (lw_at lw_m9 104 rfl) rfl
theorem q2090 : (Jvm.Cond.fieldLink "ChordSheetModel" (46 : Nat) "ChordSheetModel" "thrown" "I") ∈ lw_all := lw_g (lw_at lw_m9 108 rfl) rfl
theorem q2091 : (Jvm.Cond.fieldLink "ChordSheetModel" (27 : Nat) "ChordSheetModel" "letters" "[C") ∈ lw_all := lw_g (lw_at lw_m9 109 rfl) rfl
theorem q2164 : (Jvm.Cond.methodLink "ChordSheetModel" (97 : Nat) ({ cls := "ChordSheetModel", name := "in", desc := "(III)Z" } : Jvm.MethodName)) ∈ lw_all := lw_g (lw_at lw_m9 182 rfl) rfl
theorem q2165 : (Jvm.Cond.static ({ cls := "ChordSheetModel", name := "in", desc := "(III)Z" } : Jvm.MethodName)) ∈ lw_all := lw_g (lw_at lw_m9 183 rfl) rfl
theorem q2166 : (Jvm.Cond.code ({ cls := "ChordSheetModel", name := "in", desc := "(III)Z" } : Jvm.MethodName) prog_11_method_3_code (3 : Nat) (Option.some Jvm.ClassFile.FieldType.boolean)) ∈ lw_all := lw_g (lw_at lw_m9 184 rfl) rfl
theorem q2221 : (Jvm.Cond.methodLink "ChordSheetModel" (52 : Nat) ({ cls := "ChordSheetModel", name := "mod12", desc := "(I)I" } : Jvm.MethodName)) ∈ lw_all := lw_g (lw_at lw_m9 239 rfl) rfl
theorem q2222 : (Jvm.Cond.static ({ cls := "ChordSheetModel", name := "mod12", desc := "(I)I" } : Jvm.MethodName)) ∈ lw_all := lw_g (lw_at lw_m10 0 rfl) rfl
theorem q2223 : (Jvm.Cond.code ({ cls := "ChordSheetModel", name := "mod12", desc := "(I)I" } : Jvm.MethodName) prog_11_method_7_code (1 : Nat) (Option.some Jvm.ClassFile.FieldType.int)) ∈ lw_all := lw_g (lw_at lw_m10 1 rfl) rfl
theorem q74 : (Jvm.Cond.initialized "ChordSheetModel") ∈ lw_all := lw_g (lw_at lw_m1 12 rfl) rfl
def mA (V : Nat → Int) : Nat → Value := fun j => .int (iI (V j))
def updI (V : Nat → Int) (i : Nat) (x : Int) : Nat → Int := fun j => if j = i then x else V j
theorem mA_up (V : Nat → Int) (i : Nat) (x : Int) : updV (mA V) i (.int (iI x)) = mA (updI V i x) := by
  funext j
  unfold updV mA updI
  split <;> rfl
theorem mA_e {V : Nat → Int} {a : Nat} {x : Int} (h : V a = x) : mA V a = .int (iI x) := by unfold mA; rw [h]
theorem vE {V : Nat → Int} {a b : Nat} {x : Int} (h : V a = x) (e : b = a) : V b = x := e ▸ h
def ltF : Nat → Int := fun j => LTR.getD j 0
def QLM : List Int := [59, 109, 59, 55, 59, 109, 55, 59, 109, 97, 106, 55, 59, 100, 105, 109, 59, 97, 117, 103, 59, 115, 117, 115, 52, 59, 54, 59, 57, 59]
def qaF : Nat → Int := fun j => QLM.getD j 0
/-- where the parts of a ChordSheetModel lie -/
abbrev zMA : Type := Nat × Nat × Nat × Nat × Nat × Nat × Nat × Nat × Nat × Nat
def zMA.m (A : zMA) : Nat := A.1
def zMA.v (A : zMA) : Nat := A.2.1
def zMA.pa (A : zMA) : Nat := A.2.2.1
def zMA.tx (A : zMA) : Nat := A.2.2.2.1
def zMA.le (A : zMA) : Nat := A.2.2.2.2.1
def zMA.qa (A : zMA) : Nat := A.2.2.2.2.2.1
def zMA.ma (A : zMA) : Nat := A.2.2.2.2.2.2.1
def zMA.na (A : zMA) : Nat := A.2.2.2.2.2.2.2.1
def zMA.ua (A : zMA) : Nat := A.2.2.2.2.2.2.2.2.1
def zMA.la (A : zMA) : Nat := A.2.2.2.2.2.2.2.2.2
def mDj (A : zMA) : Prop := A.v ≠ A.pa ∧ A.v ≠ A.tx ∧ A.v ≠ A.ma ∧ A.v ≠ A.na ∧ A.v ≠ A.ua ∧ A.v ≠ A.la ∧ A.pa ≠ A.tx ∧ A.pa ≠ A.ma ∧ A.pa ≠ A.na ∧ A.pa ≠ A.ua ∧ A.pa ≠ A.la ∧ A.tx ≠ A.ma ∧ A.tx ≠ A.na ∧ A.tx ≠ A.ua ∧ A.tx ≠ A.la ∧ A.ma ≠ A.na ∧ A.ma ≠ A.ua ∧ A.ma ≠ A.la ∧ A.na ≠ A.ua ∧ A.na ≠ A.la ∧ A.ua ≠ A.la
def mM (h : zH) (A : zMA) (st ty si ff wd th ap nt rr rq rb wh nd up lo : Int) (V P T M N U W : Nat → Int) : Prop := h A.m = some (true, .inr (3, [.ref A.v, .ref A.pa, .int (iI st), .ref A.tx, .int (iI ty), .int (iI si), .int (iI ff), .int (iI wd), .int (iI th), .ref A.le, .ref A.qa, .int (iI ap), .int (iI nt), .int (iI rr), .int (iI rq), .int (iI rb), .int (iI wh), .ref A.ma, .ref A.na, .int (iI nd), .ref A.ua, .ref A.la, .int (iI up), .int (iI lo)])) ∧ h A.v = some (true, .inl (.int, 620, mA V)) ∧ h A.pa = some (true, .inl (.int, 4960, mA P)) ∧ h A.tx = some (true, .inl (.int, 200, mA T)) ∧ h A.ma = some (true, .inl (.int, 620, mA M)) ∧ h A.na = some (true, .inl (.int, 20, mA N)) ∧ h A.ua = some (true, .inl (.int, 1200, mA U)) ∧ h A.la = some (true, .inl (.int, 1200, mA W)) ∧ h A.le = some (true, .inl (.char, 7, mA ltF)) ∧ h A.qa = some (true, .inl (.char, 30, mA qaF)) ∧ mDj A
def mFt (A : zMA) : List Nat := [A.m, A.v, A.pa, A.tx, A.ma, A.na, A.ua, A.la]
theorem tm12 (x : Int) : (x.tmod 12 + 12).tmod 12 = x % 12 := by
  have h1 := i_tb (x := x) (y := 12) (by decide)
  have h2 := Int.tmod_add_mul_tdiv x 12
  rw [Int.tmod_eq_emod_of_nonneg (by omega)]
  omega
/-- the text's letter at a place; -1: it's over -/
def sga (T : List Int) (i : Int) : Int := if i < (T.length : Nat) then lch T i else -1
def txA (T : List Int) (F : Nat → Int) : Prop := ∀ (j : Nat) (d : Int), T[j]? = some d → F j = d
def plc (c : Int) : Int := if 0 ≤ zix LTR c then zix LTR c - 1 else 100
/-- a sheet as a row of numbers -/
def vS (V : Nat → Int) (S : zSh) : Prop := V 0 = (S.ls.length : Nat) ∧ V 1 = (S.cs.length : Nat) ∧ V 2 = S.t ∧ V 3 = S.m ∧ (∀ j : Nat, j ≤ S.ls.length → V (4 + j) = (lsm (S.ls.take j) : Nat)) ∧ (∀ (i : Nat) (x : zCh), S.cs[i]? = some x → V (210 + 5 * i) = x.1 ∧ V (210 + 5 * i + 1) = x.2.1 ∧ V (210 + 5 * i + 2) = x.2.2.1 ∧ V (210 + 5 * i + 3) = x.2.2.2.1 ∧ V (210 + 5 * i + 4) = x.2.2.2.2) ∧ ∀ (j : Nat) (d : Int), S.ls.flatten[j]? = some d → V (415 + j) = d
theorem lsm_take {ls : List (List Int)} {j : Nat} {t : List Int} (h : ls[j]? = some t) : lsm (ls.take (j + 1)) = lsm (ls.take j) + t.length := by
  rw [List.take_succ, h]
  exact lsm_app _ _
theorem lsm_tl {ls : List (List Int)} (j : Nat) : lsm (ls.take j) ≤ lsm ls := by
  unfold lsm
  rw [← List.take_append_drop j ls, List.map_append, List.sum_append]
  simp
theorem flat_at {ls : List (List Int)} {j k : Nat} {t : List Int} {d : Int} (h : ls[j]? = some t) (hd : t[k]? = some d) : ls.flatten[lsm (ls.take j) + k]? = some d := by
  induction ls generalizing j with
  | nil => simp at h
  | cons a r ih =>
    cases j with
    | zero =>
      simp at h
      subst h
      have hk := (List.getElem?_eq_some_iff.mp hd).1
      simp only [List.take_zero, List.flatten_cons]
      rw [show lsm [] + k = k by simp [lsm], List.getElem?_append_left hk]
      exact hd
    | succ j =>
      simp only [List.getElem?_cons_succ] at h
      simp only [List.take_succ_cons, List.flatten_cons]
      rw [show lsm (a :: r.take j) = a.length + lsm (r.take j) by simp [lsm], List.getElem?_append_right (by omega), show a.length + lsm (r.take j) + k - a.length = lsm (r.take j) + k by omega]
      exact ih h
theorem sga_r {T : List Int} (hT : ∀ c ∈ T, 32 ≤ c ∧ c ≤ 126) {i : Int} (hi : 0 ≤ i) : -1 ≤ sga T i ∧ sga T i ≤ 126 := by
  unfold sga
  split
  · next h => have := hT _ (List.mem_of_getElem? (lch_at ⟨hi, h⟩)); omega
  · omega
theorem ltF_at {k : Int} (h : 0 ≤ k ∧ k < 7) : LTR[k.toNat]? = some (ltF k.toNat) := by
  have hl : k.toNat < LTR.length := by show k.toNat < 7; omega
  unfold ltF
  rw [List.getElem?_eq_getElem hl, List.getD_eq_getElem?_getD, List.getElem?_eq_getElem hl]
  rfl
theorem ltF_r (k : Nat) : 0 ≤ ltF k ∧ ltF k ≤ 126 := by
  by_cases h : k < 7
  · revert k; decide
  · unfold ltF
    rw [List.getD_eq_getElem?_getD, List.getElem?_eq_none (by show 7 ≤ k; omega)]
    decide
set_option maxHeartbeats 4000000 in
theorem m_in {l : Launch} (hl : l.stackTraces = false) {Γ : zCx} {h : zH} {x a b : Int} (ra : -2147483648 ≤ x ∧ x ≤ 2147483647) (rb_ : -2147483648 ≤ a ∧ a ≤ 2147483647) (rc_ : -2147483648 ≤ b ∧ b ≤ 2147483647)  : zMet l yX4_in (ws_ yX4_in cX4_in 3 (some .boolean)) ({ frames := 0, cells := 0, slots := 0, locals := 0 }) Γ h [.int (iI x), .int (iI a), .int (iI b)] (zpure h (some (.int (iI (if a ≤ x ∧ x ≤ b then 1 else 0))))) 0 0 := by
  refine zMet.of (cc := cX4_in) hl (plainFor_of_name (by decide +kernel)) (Nat.le_of_ble_eq_true rfl) ?_
  intro X hXl hXΓ hXp C hnm hnL
  have C : zC X cX4_in RX4 (some .boolean) 0 0 [] := C
  have hnL : X.2.1.2.2.2.2 = 3 := hnL
  subst hXl hXΓ
  show Z X h 0 0 [(0, .int (iI x)), (1, .int (iI a)), (2, .int (iI b))] 0 []
  refine z_iload_n (pc := 0) (j := 0) C dX4_in_0 rfl rfl ?_
  refine z_iload_n (pc := 1) (j := 1) C dX4_in_1 rfl rfl ?_
  refine z_icmp_lt (pc := 2) (tgt := 14) C dX4_in_2 (by decide) (by omega) (by omega) (fun c2 => ?_) (fun c2 => ?_)
  · refine z_iconst (pc := 14) C dX4_in_14 ?_
    exact z_zreturn (pc := 15) C (by decide) (by rw [hXp]; exact zpure_i (by split <;> omega) rfl) dX4_in_15
  · refine z_iload_n (pc := 5) (j := 0) C dX4_in_5 rfl rfl ?_
    refine z_iload_n (pc := 6) (j := 2) C dX4_in_6 rfl rfl ?_
    refine z_icmp_gt (pc := 7) (tgt := 14) C dX4_in_7 (by decide) (by omega) (by omega) (fun c7 => ?_) (fun c7 => ?_)
    · refine z_iconst (pc := 14) C dX4_in_14 ?_
      exact z_zreturn (pc := 15) C (by decide) (by rw [hXp]; exact zpure_i (by split <;> omega) rfl) dX4_in_15
    · refine z_iconst (pc := 10) C dX4_in_10 ?_
      refine z_goto (pc := 11) (tgt := 15) C dX4_in_11 (by decide) ?_
      exact z_zreturn (pc := 15) C (by decide) (by rw [hXp]; exact zpure_i (by split <;> omega) rfl) dX4_in_15
set_option maxHeartbeats 4000000 in
theorem m_fails {l : Launch} (hl : l.stackTraces = false) {Γ : zCx} {h : zH} {A : zMA} {st ty si ff wd th ap nt rr rq rb wh nd up lo : Int} {V P T M N U W : Nat → Int} (hM : mM h A st ty si ff wd th ap nt rr rq rb wh nd up lo V P T M N U W) {x : Int}  : zMet l yX4_fails (ws_ yX4_fails cX4_fails 2 (some .int)) ({ frames := 0, cells := 0, slots := 0, locals := 0 }) Γ h [.ref A.m, .int (iI x)] (zrt (fun w h' => w = some (.int (iI (0))) ∧ mM h' A st ty si ff wd x ap nt rr rq rb wh nd up lo V P T M N U W ∧ zkeep h h' [A.m, A.v, A.pa, A.tx, A.ma, A.na, A.ua, A.la])) 0 0 := by
  refine zMet.of (cc := cX4_fails) hl (plainFor_of_name (by decide +kernel)) (Nat.le_of_ble_eq_true rfl) ?_
  intro X hXl hXΓ hXp C hnm hnL
  have C : zC X cX4_fails RX4 (some .int) 0 0 [] := C
  have hnL : X.2.1.2.2.2.2 = 2 := hnL
  subst hXl hXΓ
  show Z X h 0 0 [(0, .ref A.m), (1, .int (iI x))] 0 []
  obtain ⟨gm_1, gv_1, gpa_1, gtx_1, gma_1, gna_1, gua_1, gla_1, gle_1, gqa_1, gd_1⟩ := id hM
  refine z_aload_n (pc := 0) (j := 0) C dX4_fails_0 rfl rfl ?_
  refine z_iload_n (pc := 1) (j := 1) C dX4_fails_1 rfl rfl ?_
  refine z_putfield (pc := 2) (fs' := [.ref A.v, .ref A.pa, .int (iI st), .ref A.tx, .int (iI ty), .int (iI si), .int (iI ff), .int (iI wd), .int (iI x), .ref A.le, .ref A.qa, .int (iI ap), .int (iI nt), .int (iI rr), .int (iI rq), .int (iI rb), .int (iI wh), .ref A.ma, .ref A.na, .int (iI nd), .ref A.ua, .ref A.la, .int (iI up), .int (iI lo)]) C in_X4 tyX4 tyX4_ok nmX4 rfl 8 (by decide) q2090 (fun _ z => z) rfl rfl rfl (Nat.le_of_ble_eq_true rfl) gm_1 rfl dX4_fails_2 ?_
  refine Z.nm (fun h2 eh2 => ?_)
  have kh2 : zkeep h h2 [A.m, A.v, A.pa, A.tx, A.ma, A.na, A.ua, A.la] := by rw [eh2]; exact zkeep.up zkeep.rf (Or.inl (by simp)) gm_1
  have fh2_0 : h2 A.m = some (true, .inr (3, [.ref A.v, .ref A.pa, .int (iI st), .ref A.tx, .int (iI ty), .int (iI si), .int (iI ff), .int (iI wd), .int (iI x), .ref A.le, .ref A.qa, .int (iI ap), .int (iI nt), .int (iI rr), .int (iI rq), .int (iI rb), .int (iI wh), .ref A.ma, .ref A.na, .int (iI nd), .ref A.ua, .ref A.la, .int (iI up), .int (iI lo)])) := zse eh2
  have fh2_1 : h2 A.v = some (true, .inl (.int, 620, (mA V))) := zsn eh2 gv_1 (Ne.symm (zneA gm_1 gv_1))
  have fh2_2 : h2 A.pa = some (true, .inl (.int, 4960, (mA P))) := zsn eh2 gpa_1 (Ne.symm (zneA gm_1 gpa_1))
  have fh2_3 : h2 A.tx = some (true, .inl (.int, 200, (mA T))) := zsn eh2 gtx_1 (Ne.symm (zneA gm_1 gtx_1))
  have fh2_4 : h2 A.ma = some (true, .inl (.int, 620, (mA M))) := zsn eh2 gma_1 (Ne.symm (zneA gm_1 gma_1))
  have fh2_5 : h2 A.na = some (true, .inl (.int, 20, (mA N))) := zsn eh2 gna_1 (Ne.symm (zneA gm_1 gna_1))
  have fh2_6 : h2 A.ua = some (true, .inl (.int, 1200, (mA U))) := zsn eh2 gua_1 (Ne.symm (zneA gm_1 gua_1))
  have fh2_7 : h2 A.la = some (true, .inl (.int, 1200, (mA W))) := zsn eh2 gla_1 (Ne.symm (zneA gm_1 gla_1))
  refine z_iconst (pc := 5) C dX4_fails_5 ?_
  exact z_ireturn (pc := 6) C (by rw [hXp]; exact ⟨_, rfl, rfl, ⟨fh2_0, fh2_1, fh2_2, fh2_3, fh2_4, fh2_5, fh2_6, fh2_7, (kh2.n gle_1 (List.not_mem_cons_of_ne_of_not_mem (Ne.symm (zneA gm_1 gle_1)) (List.not_mem_cons_of_ne_of_not_mem (zneT gle_1 gv_1 (by simp)) (List.not_mem_cons_of_ne_of_not_mem (zneT gle_1 gpa_1 (by simp)) (List.not_mem_cons_of_ne_of_not_mem (zneT gle_1 gtx_1 (by simp)) (List.not_mem_cons_of_ne_of_not_mem (zneT gle_1 gma_1 (by simp)) (List.not_mem_cons_of_ne_of_not_mem (zneT gle_1 gna_1 (by simp)) (List.not_mem_cons_of_ne_of_not_mem (zneT gle_1 gua_1 (by simp)) (List.not_mem_cons_of_ne_of_not_mem (zneT gle_1 gla_1 (by simp)) List.not_mem_nil))))))))), (kh2.n gqa_1 (List.not_mem_cons_of_ne_of_not_mem (Ne.symm (zneA gm_1 gqa_1)) (List.not_mem_cons_of_ne_of_not_mem (zneT gqa_1 gv_1 (by simp)) (List.not_mem_cons_of_ne_of_not_mem (zneT gqa_1 gpa_1 (by simp)) (List.not_mem_cons_of_ne_of_not_mem (zneT gqa_1 gtx_1 (by simp)) (List.not_mem_cons_of_ne_of_not_mem (zneT gqa_1 gma_1 (by simp)) (List.not_mem_cons_of_ne_of_not_mem (zneT gqa_1 gna_1 (by simp)) (List.not_mem_cons_of_ne_of_not_mem (zneT gqa_1 gua_1 (by simp)) (List.not_mem_cons_of_ne_of_not_mem (zneT gqa_1 gla_1 (by simp)) List.not_mem_nil))))))))), gd_1⟩, kh2⟩) dX4_fails_6
set_option maxHeartbeats 4000000 in
theorem m_chord {l : Launch} (hl : l.stackTraces = false) {Γ : zCx} {h : zH} {x : Int}  : zMet l yX4_chord (ws_ yX4_chord cX4_chord 1 (some .int)) ({ frames := 0, cells := 0, slots := 0, locals := 0 }) Γ h [.int (iI x)] (zpure h (some (.int (iI (210 + 5 * x))))) 0 0 := by
  refine zMet.of (cc := cX4_chord) hl (plainFor_of_name (by decide +kernel)) (Nat.le_of_ble_eq_true rfl) ?_
  intro X hXl hXΓ hXp C hnm hnL
  have C : zC X cX4_chord RX4 (some .int) 0 0 [] := C
  have hnL : X.2.1.2.2.2.2 = 1 := hnL
  subst hXl hXΓ
  show Z X h 0 0 [(0, .int (iI x))] 0 []
  refine z_sipush (pc := 0) C dX4_chord_0 (by decide) ?_
  refine z_iconst (pc := 3) C dX4_chord_3 ?_
  refine z_iload_n (pc := 4) (j := 0) C dX4_chord_4 rfl rfl ?_
  refine z_imul (pc := 5) C dX4_chord_5 ?_
  refine z_iadd (pc := 6) C dX4_chord_6 ?_
  exact z_ireturn (pc := 7) C (by rw [hXp]; exact zpure_i rfl rfl) dX4_chord_7
set_option maxHeartbeats 4000000 in
theorem m_mod {l : Launch} (hl : l.stackTraces = false) {Γ : zCx} {h : zH} {x : Int} (hx : -2000000000 ≤ x ∧ x ≤ 2000000000)  : zMet l yX4_mod12 (ws_ yX4_mod12 cX4_mod12 1 (some .int)) ({ frames := 0, cells := 0, slots := 0, locals := 0 }) Γ h [.int (iI x)] (zpure h (some (.int (iI (x % 12))))) 0 0 := by
  refine zMet.of (cc := cX4_mod12) hl (plainFor_of_name (by decide +kernel)) (Nat.le_of_ble_eq_true rfl) ?_
  intro X hXl hXΓ hXp C hnm hnL
  have C : zC X cX4_mod12 RX4 (some .int) 0 0 [] := C
  have hnL : X.2.1.2.2.2.2 = 1 := hnL
  subst hXl hXΓ
  show Z X h 0 0 [(0, .int (iI x))] 0 []
  refine z_iload_n (pc := 0) (j := 0) C dX4_mod12_0 rfl rfl ?_
  refine z_bipush (pc := 1) C dX4_mod12_1 (by decide) ?_
  refine z_iremI (pc := 3) C dX4_mod12_3 (by omega) (by decide) ?_
  refine z_bipush (pc := 4) C dX4_mod12_4 (by decide) ?_
  refine z_iadd (pc := 6) C dX4_mod12_6 ?_
  refine z_bipush (pc := 7) C dX4_mod12_7 (by decide) ?_
  have htb := i_tb (x := x) (y := 12) (by decide)
  refine z_iremI (pc := 9) C dX4_mod12_9 (by omega) (by decide) ?_
  exact z_ireturn (pc := 10) C (by rw [hXp]; exact zpure_i (tm12 x) rfl) dX4_mod12_10
set_option maxHeartbeats 4000000 in
theorem m_pitch {l : Launch} (hl : l.stackTraces = false) {Γ : zCx} {h : zH} {x : Int} (hx : -100000 ≤ x ∧ x ≤ 100000)  : zMet l yX4_pitch (ws_ yX4_pitch cX4_pitch 1 (some .int)) ({ frames := 1, cells := 0, slots := 0, locals := 20 }) Γ h [.int (iI x)] (zpure h (some (.int (iI (pcl x))))) 0 0 := by
  refine zMet.of (cc := cX4_pitch) hl (plainFor_of_name (by decide +kernel)) (Nat.le_of_ble_eq_true rfl) ?_
  intro X hXl hXΓ hXp C hnm hnL
  have C : zC X cX4_pitch RX4 (some .int) 1 20 [] := C
  have hnL : X.2.1.2.2.2.2 = 1 := hnL
  subst hXl hXΓ
  show Z X h 0 0 [(0, .int (iI x))] 0 []
  refine z_bipush (pc := 0) C dX4_pitch_0 (by decide) ?_
  refine z_iload_n (pc := 2) (j := 0) C dX4_pitch_2 rfl rfl ?_
  refine z_imul (pc := 3) C dX4_pitch_3 ?_
  refine z_callS (pc := 4) (n := 1) (kc' := 0) (ks' := 0) C (m_mod C.t (x := 7 * x) (by omega)) (lw_S q2221 q2222 q74 q2223) (by decide +kernel) ⟨by decide, by decide⟩ rfl rfl (Nat.le_of_ble_eq_true rfl) dX4_pitch_4 (by omega) (by omega) (zpk (st' := [.int (iI ((7 * x) % 12))]) rfl ?_) zrx
  exact z_ireturn (pc := 7) C (by rw [hXp]; exact zpure_i rfl rfl) dX4_pitch_7
set_option maxHeartbeats 4000000 in
theorem m_sign {l : Launch} (hl : l.stackTraces = false) {Γ : zCx} {h : zH} {tq : List Int} {A : zMA} {st si ff wd th ap nt rr rq rb wh nd up lo : Int} {V P T M N U W : Nat → Int} (hM : mM h A st ((tq.length : Nat) : Int) si ff wd th ap nt rr rq rb wh nd up lo V P T M N U W) (htq : txA tq T) (hTr : ∀ c ∈ tq, 32 ≤ c ∧ c ≤ 126) (hTl : tq.length ≤ 200) {i : Int} (hi : 0 ≤ i ∧ i ≤ 1000)  : zMet l yX4_sign (ws_ yX4_sign cX4_sign 2 (some .int)) ({ frames := 0, cells := 0, slots := 0, locals := 0 }) Γ h [.ref A.m, .int (iI i)] (zpure h (some (.int (iI (sga tq i))))) 0 0 := by
  refine zMet.of (cc := cX4_sign) hl (plainFor_of_name (by decide +kernel)) (Nat.le_of_ble_eq_true rfl) ?_
  intro X hXl hXΓ hXp C hnm hnL
  have C : zC X cX4_sign RX4 (some .int) 0 0 [] := C
  have hnL : X.2.1.2.2.2.2 = 2 := hnL
  subst hXl hXΓ
  show Z X h 0 0 [(0, .ref A.m), (1, .int (iI i))] 0 []
  obtain ⟨gm_1, gv_1, gpa_1, gtx_1, gma_1, gna_1, gua_1, gla_1, gle_1, gqa_1, gd_1⟩ := id hM
  refine z_iload_n (pc := 0) (j := 1) C dX4_sign_0 rfl rfl ?_
  refine z_aload_n (pc := 1) (j := 0) C dX4_sign_1 rfl rfl ?_
  refine z_getfield (pc := 2) (v := .int (iI ((tq.length : Nat) : Int))) C in_X4 rfl 4 (by decide) q2086 (fun _ z => z) gm_1 rfl dX4_sign_2 ?_
  refine z_icmp_ge (pc := 5) (tgt := 17) C dX4_sign_5 (by decide) (by omega) (by omega) (fun c5 => ?_) (fun c5 => ?_)
  · refine z_iconst (pc := 17) C dX4_sign_17 ?_
    exact z_ireturn (pc := 18) C (by rw [hXp]; exact zpure_i (by unfold sga; rw [if_neg (by omega)]) rfl) dX4_sign_18
  · refine z_aload_n (pc := 8) (j := 0) C dX4_sign_8 rfl rfl ?_
    refine z_getfield (pc := 9) (v := .ref A.tx) C in_X4 rfl 3 (by decide) q2085 (fun _ z => z) gm_1 rfl dX4_sign_9 ?_
    refine z_iload_n (pc := 12) (j := 1) C dX4_sign_12 rfl rfl ?_
    refine z_iaload (pc := 13) (v := .int (iI (lch tq i))) C gtx_1 (by omega) (mA_e (vE (htq _ _ (lch_at (by omega))) (by omega))) dX4_sign_13 ?_
    refine z_goto (pc := 14) (tgt := 18) C dX4_sign_14 (by decide) ?_
    exact z_ireturn (pc := 18) C (by rw [hXp]; exact zpure_i (by unfold sga; rw [if_pos (by omega)]) rfl) dX4_sign_18
set_option maxHeartbeats 4000000 in
theorem m_place {l : Launch} (hl : l.stackTraces = false) {Γ : zCx} {h : zH} {A : zMA} {st ty si ff wd th ap nt rr rq rb wh nd up lo : Int} {V P T M N U W : Nat → Int} (hM : mM h A st ty si ff wd th ap nt rr rq rb wh nd up lo V P T M N U W) {c : Int} (hc : -1000 ≤ c ∧ c ≤ 1000)  : zMet l yX4_placeOf (ws_ yX4_placeOf cX4_placeOf 3 (some .int)) ({ frames := 0, cells := 0, slots := 0, locals := 0 }) Γ h [.ref A.m, .int (iI c)] (zpure h (some (.int (iI (plc c))))) 0 0 := by
  refine zMet.of (cc := cX4_placeOf) hl (plainFor_of_name (by decide +kernel)) (Nat.le_of_ble_eq_true rfl) ?_
  intro X hXl hXΓ hXp C hnm hnL
  have C : zC X cX4_placeOf RX4 (some .int) 0 0 [] := C
  have hnL : X.2.1.2.2.2.2 = 3 := hnL
  subst hXl hXΓ
  show Z X h 0 0 [(0, .ref A.m), (1, .int (iI c))] 0 []
  obtain ⟨gm_1, gv_1, gpa_1, gtx_1, gma_1, gna_1, gua_1, gla_1, gle_1, gqa_1, gd_1⟩ := id hM
  refine z_iconst (pc := 0) C dX4_placeOf_0 ?_
  refine z_istore_n (pc := 1) (L' := [(2, .int (iI 0)), (0, .ref A.m), (1, .int (iI c))]) C dX4_placeOf_1 rfl (by rw [hnL]; decide) rfl ?_
  have loop2 : ∀ (n2 : Nat) (k : Int), (0 ≤ k ∧ k ≤ 7) → (∀ j : Nat, (j : Int) < k → LTR[j]? ≠ some c) → ((7 - k).toNat) = n2 → Z X h 0 0 [(2, .int (iI k)), (1, .int (iI c)), (0, .ref A.m)] 2 [] := by
    intro n2
    induction n2 using Nat.strongRecOn with
    | ind n2 ih2 =>
    intro k hk hno hn2
    refine z_iload_n (pc := 2) (j := 0) C dX4_placeOf_2 rfl rfl ?_
    refine z_aload_n (pc := 3) (j := 2) C dX4_placeOf_3 rfl rfl ?_
    refine z_getfield (pc := 4) (v := .ref A.le) C in_X4 rfl 9 (by decide) q2091 (fun _ z => z) gm_1 rfl dX4_placeOf_4 ?_
    refine z_alen (pc := 7) C gle_1 dX4_placeOf_7 ?_
    refine z_icmp_ge (pc := 8) (tgt := 31) C dX4_placeOf_8 (by decide) (by omega) (by decide) (fun c8 => ?_) (fun c8 => ?_)
    · refine z_bipush (pc := 31) C dX4_placeOf_31 (by decide) ?_
      have hzn : zix LTR c = -1 := zix_no fun j => by
        by_cases e : j < 7
        · exact hno j (by omega)
        · rw [List.getElem?_eq_none (by show 7 ≤ j; omega)]; exact fun z => nomatch z
      exact z_ireturn (pc := 33) C (by rw [hXp]; exact zpure_i (by unfold plc; rw [hzn, if_neg (by decide)]) rfl) dX4_placeOf_33
    · refine z_aload_n (pc := 11) (j := 2) C dX4_placeOf_11 rfl rfl ?_
      refine z_getfield (pc := 12) (v := .ref A.le) C in_X4 rfl 9 (by decide) q2091 (fun _ z => z) gm_1 rfl dX4_placeOf_12 ?_
      refine z_iload_n (pc := 15) (j := 0) C dX4_placeOf_15 rfl rfl ?_
      refine z_caload (pc := 16) (v := .int (iI (ltF (Int.toNat k)))) C gle_1 (by omega) rfl dX4_placeOf_16 ?_
      refine z_iload_n (pc := 17) (j := 1) C dX4_placeOf_17 rfl rfl ?_
      have hlr := ltF_r k.toNat
      refine z_icmp_ne (pc := 18) (tgt := 25) C dX4_placeOf_18 (by decide) (by omega) (by omega) (fun c18 => ?_) (fun c18 => ?_)
      · refine z_iinc (pc := 25) (k := 0) (L' := [(2, .int (iI (k + 1))), (1, .int (iI c)), (0, .ref A.m)]) C dX4_placeOf_25 rfl (by rw [hnL]; decide) rfl ?_
        refine z_goto (pc := 28) (tgt := 2) C dX4_placeOf_28 (by decide) ?_
        refine Z.weak (L' := [(2, .int (iI (k + 1))), (1, .int (iI c)), (0, .ref A.m)]) (kc' := 0) (ks' := 0) [0, 1, 2] rfl (by omega) (by omega) ?_
        exact ih2 _ (by omega) (k + 1) (by omega) (zix_step hno (ltF_at (by omega)) c18) rfl
      · refine z_iload_n (pc := 21) (j := 0) C dX4_placeOf_21 rfl rfl ?_
        refine z_iconst (pc := 22) C dX4_placeOf_22 ?_
        refine z_isub (pc := 23) C dX4_placeOf_23 ?_
        exact z_ireturn (pc := 24) C (by rw [hXp]; exact zpure_i (by unfold plc; rw [zix_at (i := k.toNat) (by rw [ltF_at (by omega), c18]) (fun j hj => hno j (by omega)), if_pos (by omega)]; omega) rfl) dX4_placeOf_24
  refine Z.weak (L' := [(2, .int (iI 0)), (1, .int (iI c)), (0, .ref A.m)]) (kc' := 0) (ks' := 0) [0, 2, 1] rfl (by omega) (by omega) ?_
  exact loop2 _ 0 (by omega) (by intro j hj; omega) rfl
set_option maxHeartbeats 4000000 in
theorem m_isLine {l : Launch} (hl : l.stackTraces = false) {Γ : zCx} {h : zH} {A : zMA} {st ty si ff wd th ap nt rr rq rb wh nd up lo : Int} {V P T M N U W : Nat → Int} (hM : mM h A st ty si ff wd th ap nt rr rq rb wh nd up lo V P T M N U W) {S : zSh} (hS : vS V S) (hsl : lsm S.ls ≤ 200 ∧ S.ls.length ≤ 201 ∧ S.cs.length ≤ 40) {i : Int} (hi : -2147483648 ≤ i ∧ i ≤ 2147483647)  : zMet l yX4_isLine (ws_ yX4_isLine cX4_isLine 2 (some .boolean)) ({ frames := 1, cells := 0, slots := 0, locals := 22 }) Γ h [.ref A.m, .int (iI i)] (zpure h (some (.int (iI (if 0 ≤ i ∧ i ≤ ((S.ls.length : Nat) : Int) - 1 then 1 else 0))))) 0 0 := by
  refine zMet.of (cc := cX4_isLine) hl (plainFor_of_name (by decide +kernel)) (Nat.le_of_ble_eq_true rfl) ?_
  intro X hXl hXΓ hXp C hnm hnL
  have C : zC X cX4_isLine RX4 (some .boolean) 1 22 [] := C
  have hnL : X.2.1.2.2.2.2 = 2 := hnL
  subst hXl hXΓ
  show Z X h 0 0 [(0, .ref A.m), (1, .int (iI i))] 0 []
  obtain ⟨gm_1, gv_1, gpa_1, gtx_1, gma_1, gna_1, gua_1, gla_1, gle_1, gqa_1, gd_1⟩ := id hM
  refine z_iload_n (pc := 0) (j := 1) C dX4_isLine_0 rfl rfl ?_
  refine z_iconst (pc := 1) C dX4_isLine_1 ?_
  refine z_aload_n (pc := 2) (j := 0) C dX4_isLine_2 rfl rfl ?_
  refine z_getfield (pc := 3) (v := .ref A.v) C in_X4 rfl 0 (by decide) q2082 (fun _ z => z) gm_1 rfl dX4_isLine_3 ?_
  refine z_iconst (pc := 6) C dX4_isLine_6 ?_
  refine z_iaload (pc := 7) (v := .int (iI ((S.ls.length : Nat) : Int))) C gv_1 (by omega) (mA_e (vE hS.1 (by omega))) dX4_isLine_7 ?_
  refine z_iconst (pc := 8) C dX4_isLine_8 ?_
  refine z_isub (pc := 9) C dX4_isLine_9 ?_
  refine z_callS (pc := 10) (n := 3) (kc' := 0) (ks' := 0) C (m_in C.t (x := i) (a := 0) (b := ((S.ls.length : Nat) : Int) - 1) (by omega) (by decide) (by omega)) (lw_S q2164 q2165 q74 q2166) (by decide +kernel) ⟨by decide, by decide⟩ rfl rfl (Nat.le_of_ble_eq_true rfl) dX4_isLine_10 (by omega) (by omega) (zpk (st' := [.int (iI (if 0 ≤ i ∧ i ≤ ((S.ls.length : Nat) : Int) - 1 then 1 else 0))]) rfl ?_) zrx
  exact z_zreturn (pc := 13) C (by split <;> decide) (by rw [hXp]; exact zpure_i rfl rfl) dX4_isLine_13
set_option maxHeartbeats 4000000 in
theorem m_isChord {l : Launch} (hl : l.stackTraces = false) {Γ : zCx} {h : zH} {A : zMA} {st ty si ff wd th ap nt rr rq rb wh nd up lo : Int} {V P T M N U W : Nat → Int} (hM : mM h A st ty si ff wd th ap nt rr rq rb wh nd up lo V P T M N U W) {S : zSh} (hS : vS V S) (hsl : lsm S.ls ≤ 200 ∧ S.ls.length ≤ 201 ∧ S.cs.length ≤ 40) {i : Int} (hi : -2147483648 ≤ i ∧ i ≤ 2147483647)  : zMet l yX4_isChord (ws_ yX4_isChord cX4_isChord 2 (some .boolean)) ({ frames := 1, cells := 0, slots := 0, locals := 22 }) Γ h [.ref A.m, .int (iI i)] (zpure h (some (.int (iI (if 0 ≤ i ∧ i ≤ ((S.cs.length : Nat) : Int) - 1 then 1 else 0))))) 0 0 := by
  refine zMet.of (cc := cX4_isChord) hl (plainFor_of_name (by decide +kernel)) (Nat.le_of_ble_eq_true rfl) ?_
  intro X hXl hXΓ hXp C hnm hnL
  have C : zC X cX4_isChord RX4 (some .boolean) 1 22 [] := C
  have hnL : X.2.1.2.2.2.2 = 2 := hnL
  subst hXl hXΓ
  show Z X h 0 0 [(0, .ref A.m), (1, .int (iI i))] 0 []
  obtain ⟨gm_1, gv_1, gpa_1, gtx_1, gma_1, gna_1, gua_1, gla_1, gle_1, gqa_1, gd_1⟩ := id hM
  refine z_iload_n (pc := 0) (j := 1) C dX4_isChord_0 rfl rfl ?_
  refine z_iconst (pc := 1) C dX4_isChord_1 ?_
  refine z_aload_n (pc := 2) (j := 0) C dX4_isChord_2 rfl rfl ?_
  refine z_getfield (pc := 3) (v := .ref A.v) C in_X4 rfl 0 (by decide) q2082 (fun _ z => z) gm_1 rfl dX4_isChord_3 ?_
  refine z_iconst (pc := 6) C dX4_isChord_6 ?_
  refine z_iaload (pc := 7) (v := .int (iI ((S.cs.length : Nat) : Int))) C gv_1 (by omega) (mA_e (vE hS.2.1 (by omega))) dX4_isChord_7 ?_
  refine z_iconst (pc := 8) C dX4_isChord_8 ?_
  refine z_isub (pc := 9) C dX4_isChord_9 ?_
  refine z_callS (pc := 10) (n := 3) (kc' := 0) (ks' := 0) C (m_in C.t (x := i) (a := 0) (b := ((S.cs.length : Nat) : Int) - 1) (by omega) (by decide) (by omega)) (lw_S q2164 q2165 q74 q2166) (by decide +kernel) ⟨by decide, by decide⟩ rfl rfl (Nat.le_of_ble_eq_true rfl) dX4_isChord_10 (by omega) (by omega) (zpk (st' := [.int (iI (if 0 ≤ i ∧ i ≤ ((S.cs.length : Nat) : Int) - 1 then 1 else 0))]) rfl ?_) zrx
  exact z_zreturn (pc := 13) C (by split <;> decide) (by rw [hXp]; exact zpure_i rfl rfl) dX4_isChord_13
set_option maxHeartbeats 4000000 in
theorem m_len {l : Launch} (hl : l.stackTraces = false) {Γ : zCx} {h : zH} {A : zMA} {st ty si ff wd th ap nt rr rq rb wh nd up lo : Int} {V P T M N U W : Nat → Int} (hM : mM h A st ty si ff wd th ap nt rr rq rb wh nd up lo V P T M N U W) {S : zSh} (hS : vS V S) (hsl : lsm S.ls ≤ 200 ∧ S.ls.length ≤ 201 ∧ S.cs.length ≤ 40) {i : Int} {t : List Int} (hi : 0 ≤ i) (ht : S.ls[i.toNat]? = some t)  : zMet l yX4_lengthOf (ws_ yX4_lengthOf cX4_lengthOf 2 (some .int)) ({ frames := 0, cells := 0, slots := 0, locals := 0 }) Γ h [.ref A.m, .int (iI i)] (zpure h (some (.int (iI (t.length : Nat))))) 0 0 := by
  refine zMet.of (cc := cX4_lengthOf) hl (plainFor_of_name (by decide +kernel)) (Nat.le_of_ble_eq_true rfl) ?_
  intro X hXl hXΓ hXp C hnm hnL
  have C : zC X cX4_lengthOf RX4 (some .int) 0 0 [] := C
  have hnL : X.2.1.2.2.2.2 = 2 := hnL
  subst hXl hXΓ
  show Z X h 0 0 [(0, .ref A.m), (1, .int (iI i))] 0 []
  have hit := (List.getElem?_eq_some_iff.mp ht).1
  have hv5 := hS.2.2.2.2.1
  have hva := hv5 i.toNat (by omega)
  have hvb := hv5 (i.toNat + 1) (by omega)
  rw [lsm_take ht] at hvb
  have hlt := lsm_tl (ls := S.ls) (i.toNat + 1)
  rw [lsm_take ht] at hlt
  obtain ⟨gm_1, gv_1, gpa_1, gtx_1, gma_1, gna_1, gua_1, gla_1, gle_1, gqa_1, gd_1⟩ := id hM
  refine z_aload_n (pc := 0) (j := 0) C dX4_lengthOf_0 rfl rfl ?_
  refine z_getfield (pc := 1) (v := .ref A.v) C in_X4 rfl 0 (by decide) q2082 (fun _ z => z) gm_1 rfl dX4_lengthOf_1 ?_
  refine z_iconst (pc := 4) C dX4_lengthOf_4 ?_
  refine z_iload_n (pc := 5) (j := 1) C dX4_lengthOf_5 rfl rfl ?_
  refine z_iadd (pc := 6) C dX4_lengthOf_6 ?_
  refine z_iconst (pc := 7) C dX4_lengthOf_7 ?_
  refine z_iadd (pc := 8) C dX4_lengthOf_8 ?_
  refine z_iaload (pc := 9) (v := .int (iI ((lsm (S.ls.take i.toNat) + t.length : Nat) : Int))) C gv_1 (by omega) (mA_e (vE hvb (by omega))) dX4_lengthOf_9 ?_
  refine z_aload_n (pc := 10) (j := 0) C dX4_lengthOf_10 rfl rfl ?_
  refine z_getfield (pc := 11) (v := .ref A.v) C in_X4 rfl 0 (by decide) q2082 (fun _ z => z) gm_1 rfl dX4_lengthOf_11 ?_
  refine z_iconst (pc := 14) C dX4_lengthOf_14 ?_
  refine z_iload_n (pc := 15) (j := 1) C dX4_lengthOf_15 rfl rfl ?_
  refine z_iadd (pc := 16) C dX4_lengthOf_16 ?_
  refine z_iaload (pc := 17) (v := .int (iI ((lsm (S.ls.take i.toNat) : Nat) : Int))) C gv_1 (by omega) (mA_e (vE hva (by omega))) dX4_lengthOf_17 ?_
  refine z_isub (pc := 18) C dX4_lengthOf_18 ?_
  exact z_ireturn (pc := 19) C (by rw [hXp]; exact zpure_i (by omega) rfl) dX4_lengthOf_19
set_option maxHeartbeats 4000000 in
theorem m_lyr {l : Launch} (hl : l.stackTraces = false) {Γ : zCx} {h : zH} {A : zMA} {st ty si ff wd th ap nt rr rq rb wh nd up lo : Int} {V P T M N U W : Nat → Int} (hM : mM h A st ty si ff wd th ap nt rr rq rb wh nd up lo V P T M N U W) {S : zSh} (hS : vS V S) (hsl : lsm S.ls ≤ 200 ∧ S.ls.length ≤ 201 ∧ S.cs.length ≤ 40) {i : Int} {t : List Int} (hi : 0 ≤ i) (ht : S.ls[i.toNat]? = some t) {k d : Int} (hk : 0 ≤ k) (hd : t[k.toNat]? = some d)  : zMet l yX4_lyricAt (ws_ yX4_lyricAt cX4_lyricAt 3 (some .int)) ({ frames := 0, cells := 0, slots := 0, locals := 0 }) Γ h [.ref A.m, .int (iI i), .int (iI k)] (zpure h (some (.int (iI d)))) 0 0 := by
  refine zMet.of (cc := cX4_lyricAt) hl (plainFor_of_name (by decide +kernel)) (Nat.le_of_ble_eq_true rfl) ?_
  intro X hXl hXΓ hXp C hnm hnL
  have C : zC X cX4_lyricAt RX4 (some .int) 0 0 [] := C
  have hnL : X.2.1.2.2.2.2 = 3 := hnL
  subst hXl hXΓ
  show Z X h 0 0 [(0, .ref A.m), (1, .int (iI i)), (2, .int (iI k))] 0 []
  have hit := (List.getElem?_eq_some_iff.mp ht).1
  have hv5 := hS.2.2.2.2.1
  have hva := hv5 i.toNat (by omega)
  have hvb := hv5 (i.toNat + 1) (by omega)
  rw [lsm_take ht] at hvb
  have hlt := lsm_tl (ls := S.ls) (i.toNat + 1)
  rw [lsm_take ht] at hlt
  have hkt := (List.getElem?_eq_some_iff.mp hd).1
  have hvd := hS.2.2.2.2.2.2 _ _ (flat_at ht hd)
  obtain ⟨gm_1, gv_1, gpa_1, gtx_1, gma_1, gna_1, gua_1, gla_1, gle_1, gqa_1, gd_1⟩ := id hM
  refine z_aload_n (pc := 0) (j := 0) C dX4_lyricAt_0 rfl rfl ?_
  refine z_getfield (pc := 1) (v := .ref A.v) C in_X4 rfl 0 (by decide) q2082 (fun _ z => z) gm_1 rfl dX4_lyricAt_1 ?_
  refine z_sipush (pc := 4) C dX4_lyricAt_4 (by decide) ?_
  refine z_aload_n (pc := 7) (j := 0) C dX4_lyricAt_7 rfl rfl ?_
  refine z_getfield (pc := 8) (v := .ref A.v) C in_X4 rfl 0 (by decide) q2082 (fun _ z => z) gm_1 rfl dX4_lyricAt_8 ?_
  refine z_iconst (pc := 11) C dX4_lyricAt_11 ?_
  refine z_iload_n (pc := 12) (j := 1) C dX4_lyricAt_12 rfl rfl ?_
  refine z_iadd (pc := 13) C dX4_lyricAt_13 ?_
  refine z_iaload (pc := 14) (v := .int (iI ((lsm (S.ls.take i.toNat) : Nat) : Int))) C gv_1 (by omega) (mA_e (vE hva (by omega))) dX4_lyricAt_14 ?_
  refine z_iadd (pc := 15) C dX4_lyricAt_15 ?_
  refine z_iload_n (pc := 16) (j := 2) C dX4_lyricAt_16 rfl rfl ?_
  refine z_iadd (pc := 17) C dX4_lyricAt_17 ?_
  refine z_iaload (pc := 18) (v := .int (iI d)) C gv_1 (by omega) (mA_e (vE hvd (by omega))) dX4_lyricAt_18 ?_
  exact z_ireturn (pc := 19) C (by rw [hXp]; exact zpure_i rfl rfl) dX4_lyricAt_19

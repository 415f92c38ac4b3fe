/-! 41.mops.lean.txt -/
set_option maxRecDepth 100000
abbrev cX4_thrown : ByteArray := prog_11_method_2_code
def yX4_thrown : MethodName := ⟨RX4, "thrown", "()I"⟩
abbrev cX4_lines : ByteArray := prog_11_method_21_code
def yX4_lines : MethodName := ⟨RX4, "lines", "()I"⟩
def dkwX4_lines_0 : List UInt8 := [42, 3, 181, 0, 46, 42, 180, 0, 7, 3, 46, 172]
abbrev dktX4_lines_0 : List UInt8 := dkwX4_lines_0 ++ []
theorem dksX4_lines_0 : cX4_lines.data.toList.drop 0 = dktX4_lines_0 := by decide +kernel
abbrev cX4_chords : ByteArray := prog_11_method_27_code
def yX4_chords : MethodName := ⟨RX4, "chords", "()I"⟩
def dkwX4_chords_0 : List UInt8 := [42, 3, 181, 0, 46, 42, 180, 0, 7, 4, 46, 172]
abbrev dktX4_chords_0 : List UInt8 := dkwX4_chords_0 ++ []
theorem dksX4_chords_0 : cX4_chords.data.toList.drop 0 = dktX4_chords_0 := by decide +kernel
abbrev cX4_tonic : ByteArray := prog_11_method_54_code
def yX4_tonic : MethodName := ⟨RX4, "tonic", "()I"⟩
def dkwX4_tonic_0 : List UInt8 := [42, 3, 181, 0, 46, 42, 180, 0, 7, 5, 46, 172]
abbrev dktX4_tonic_0 : List UInt8 := dkwX4_tonic_0 ++ []
theorem dksX4_tonic_0 : cX4_tonic.data.toList.drop 0 = dktX4_tonic_0 := by decide +kernel
abbrev cX4_isMinor : ByteArray := prog_11_method_55_code
def yX4_isMinor : MethodName := ⟨RX4, "isMinor", "()Z"⟩
def dkwX4_isMinor_0 : List UInt8 := [42, 3, 181, 0, 46, 42, 180, 0, 7, 6, 46, 4, 160, 0, 7, 4, 167, 0, 4, 3, 172]
abbrev dktX4_isMinor_0 : List UInt8 := dkwX4_isMinor_0 ++ []
theorem dksX4_isMinor_0 : cX4_isMinor.data.toList.drop 0 = dktX4_isMinor_0 := by decide +kernel
abbrev cX4_clearText : ByteArray := prog_11_method_16_code
def yX4_clearText : MethodName := ⟨RX4, "clearText", "()I"⟩
def dkwX4_clearText_0 : List UInt8 := [42, 3, 181, 0, 46, 42, 180, 0, 56, 60, 42, 3, 181, 0, 56, 27, 172]
abbrev dktX4_clearText_0 : List UInt8 := dkwX4_clearText_0 ++ []
theorem dksX4_clearText_0 : cX4_clearText.data.toList.drop 0 = dktX4_clearText_0 := by decide +kernel
abbrev cX4_setSimple : ByteArray := prog_11_method_18_code
def yX4_setSimple : MethodName := ⟨RX4, "setSimple", "(Z)Z"⟩
def dkwX4_setSimple_0 : List UInt8 := [42, 3, 181, 0, 46, 42, 180, 0, 19, 61, 42, 27, 181, 0, 19, 28, 172]
abbrev dktX4_setSimple_0 : List UInt8 := dkwX4_setSimple_0 ++ []
theorem dksX4_setSimple_0 : cX4_setSimple.data.toList.drop 0 = dktX4_setSimple_0 := by decide +kernel
abbrev cX4_setFlats : ByteArray := prog_11_method_19_code
def yX4_setFlats : MethodName := ⟨RX4, "setFlats", "(Z)Z"⟩
def dkwX4_setFlats_0 : List UInt8 := [42, 3, 181, 0, 46, 42, 180, 0, 114, 61, 42, 27, 181, 0, 114, 28, 172]
abbrev dktX4_setFlats_0 : List UInt8 := dkwX4_setFlats_0 ++ []
theorem dksX4_setFlats_0 : cX4_setFlats.data.toList.drop 0 = dktX4_setFlats_0 := by decide +kernel
abbrev cX4_setWidth : ByteArray := prog_11_method_20_code
def yX4_setWidth : MethodName := ⟨RX4, "setWidth", "(I)I"⟩
def dkwX4_setWidth_1 : List UInt8 := [180, 0, 23, 61, 42, 27, 181, 0, 23, 28, 172]
abbrev dktX4_setWidth_1 : List UInt8 := dkwX4_setWidth_1 ++ []
def dkwX4_setWidth_0 : List UInt8 := [42, 3, 181, 0, 46, 27, 16, 10, 17, 0, 200, 184, 0, 97, 154, 0, 9, 42, 4, 182, 0, 101, 172, 42]
abbrev dktX4_setWidth_0 : List UInt8 := dkwX4_setWidth_0 ++ dktX4_setWidth_1
theorem dksX4_setWidth_0 : cX4_setWidth.data.toList.drop 0 = dktX4_setWidth_0 := by decide +kernel
theorem dksX4_setWidth_1 : cX4_setWidth.data.toList.drop 24 = dktX4_setWidth_1 := dk_seg dksX4_setWidth_0 24 rfl rfl
abbrev cX4_type : ByteArray := prog_11_method_15_code
def yX4_type : MethodName := ⟨RX4, "type", "(I)I"⟩
def dkwX4_type_2 : List UInt8 := [79, 42, 89, 180, 0, 56, 4, 96, 181, 0, 56, 42, 180, 0, 56, 172]
abbrev dktX4_type_2 : List UInt8 := dkwX4_type_2 ++ []
def dkwX4_type_1 : List UInt8 := [180, 0, 56, 17, 0, 200, 160, 0, 9, 42, 5, 182, 0, 101, 172, 42, 180, 0, 16, 42, 180, 0, 56, 27]
abbrev dktX4_type_1 : List UInt8 := dkwX4_type_1 ++ dktX4_type_2
def dkwX4_type_0 : List UInt8 := [42, 3, 181, 0, 46, 27, 16, 32, 16, 126, 184, 0, 97, 154, 0, 9, 42, 4, 182, 0, 101, 172, 42]
abbrev dktX4_type_0 : List UInt8 := dkwX4_type_0 ++ dktX4_type_1
theorem dksX4_type_0 : cX4_type.data.toList.drop 0 = dktX4_type_0 := by decide +kernel
theorem dksX4_type_1 : cX4_type.data.toList.drop 23 = dktX4_type_1 := dk_seg dksX4_type_0 23 rfl rfl
theorem dksX4_type_2 : cX4_type.data.toList.drop 47 = dktX4_type_2 := dk_seg dksX4_type_1 24 rfl rfl
abbrev cX4_lyrics : ByteArray := prog_11_method_24_code
def yX4_lyrics : MethodName := ⟨RX4, "lyrics", "(I)I"⟩
def dkwX4_lyrics_1 : List UInt8 := [182, 0, 101, 172]
abbrev dktX4_lyrics_1 : List UInt8 := dkwX4_lyrics_1 ++ []
def dkwX4_lyrics_0 : List UInt8 := [42, 3, 181, 0, 46, 42, 27, 182, 0, 117, 153, 0, 11, 42, 27, 182, 0, 120, 167, 0, 8, 42, 4]
abbrev dktX4_lyrics_0 : List UInt8 := dkwX4_lyrics_0 ++ dktX4_lyrics_1
theorem dksX4_lyrics_0 : cX4_lyrics.data.toList.drop 0 = dktX4_lyrics_0 := by decide +kernel
theorem dksX4_lyrics_1 : cX4_lyrics.data.toList.drop 23 = dktX4_lyrics_1 := dk_seg dksX4_lyrics_0 23 rfl rfl
abbrev cX4_lyric : ByteArray := prog_11_method_26_code
def yX4_lyric : MethodName := ⟨RX4, "lyric", "(II)I"⟩
def dkwX4_lyric_1 : List UInt8 := [184, 0, 97, 153, 0, 12, 42, 27, 28, 182, 0, 123, 167, 0, 8, 42, 4, 182, 0, 101, 172]
abbrev dktX4_lyric_1 : List UInt8 := dkwX4_lyric_1 ++ []
def dkwX4_lyric_0 : List UInt8 := [42, 3, 181, 0, 46, 42, 27, 182, 0, 117, 153, 0, 27, 28, 3, 42, 27, 182, 0, 120, 4, 100]
abbrev dktX4_lyric_0 : List UInt8 := dkwX4_lyric_0 ++ dktX4_lyric_1
theorem dksX4_lyric_0 : cX4_lyric.data.toList.drop 0 = dktX4_lyric_0 := by decide +kernel
theorem dksX4_lyric_1 : cX4_lyric.data.toList.drop 22 = dktX4_lyric_1 := dk_seg dksX4_lyric_0 22 rfl rfl
abbrev cX4_told : ByteArray := prog_11_method_29_code
def yX4_told : MethodName := ⟨RX4, "told", "(II)I"⟩
def dkwX4_told_1 : List UInt8 := [167, 0, 8, 42, 4, 182, 0, 101, 172]
abbrev dktX4_told_1 : List UInt8 := dkwX4_told_1 ++ []
def dkwX4_told_0 : List UInt8 := [42, 3, 181, 0, 46, 42, 27, 182, 0, 127, 153, 0, 17, 42, 180, 0, 7, 27, 184, 0, 94, 28, 96, 46]
abbrev dktX4_told_0 : List UInt8 := dkwX4_told_0 ++ dktX4_told_1
theorem dksX4_told_0 : cX4_told.data.toList.drop 0 = dktX4_told_0 := by decide +kernel
theorem dksX4_told_1 : cX4_told.data.toList.drop 24 = dktX4_told_1 := dk_seg dksX4_told_0 24 rfl rfl
abbrev cX4_lineOf : ByteArray := prog_11_method_30_code
def yX4_lineOf : MethodName := ⟨RX4, "lineOf", "(I)I"⟩
def dkwX4_lineOf_0 : List UInt8 := [42, 27, 3, 182, 0, 130, 172]
abbrev dktX4_lineOf_0 : List UInt8 := dkwX4_lineOf_0 ++ []
theorem dksX4_lineOf_0 : cX4_lineOf.data.toList.drop 0 = dktX4_lineOf_0 := by decide +kernel
abbrev cX4_columnOf : ByteArray := prog_11_method_31_code
def yX4_columnOf : MethodName := ⟨RX4, "columnOf", "(I)I"⟩
def dkwX4_columnOf_0 : List UInt8 := [42, 27, 4, 182, 0, 130, 172]
abbrev dktX4_columnOf_0 : List UInt8 := dkwX4_columnOf_0 ++ []
theorem dksX4_columnOf_0 : cX4_columnOf.data.toList.drop 0 = dktX4_columnOf_0 := by decide +kernel
abbrev cX4_rootOf : ByteArray := prog_11_method_32_code
def yX4_rootOf : MethodName := ⟨RX4, "rootOf", "(I)I"⟩
def dkwX4_rootOf_0 : List UInt8 := [42, 27, 5, 182, 0, 130, 172]
abbrev dktX4_rootOf_0 : List UInt8 := dkwX4_rootOf_0 ++ []
theorem dksX4_rootOf_0 : cX4_rootOf.data.toList.drop 0 = dktX4_rootOf_0 := by decide +kernel
abbrev cX4_qualityOf : ByteArray := prog_11_method_33_code
def yX4_qualityOf : MethodName := ⟨RX4, "qualityOf", "(I)I"⟩
def dkwX4_qualityOf_0 : List UInt8 := [42, 27, 6, 182, 0, 130, 172]
abbrev dktX4_qualityOf_0 : List UInt8 := dkwX4_qualityOf_0 ++ []
theorem dksX4_qualityOf_0 : cX4_qualityOf.data.toList.drop 0 = dktX4_qualityOf_0 := by decide +kernel
abbrev cX4_bassOf : ByteArray := prog_11_method_34_code
def yX4_bassOf : MethodName := ⟨RX4, "bassOf", "(I)I"⟩
def dkwX4_bassOf_0 : List UInt8 := [42, 27, 7, 182, 0, 130, 172]
abbrev dktX4_bassOf_0 : List UInt8 := dkwX4_bassOf_0 ++ []
theorem dksX4_bassOf_0 : cX4_bassOf.data.toList.drop 0 = dktX4_bassOf_0 := by decide +kernel
abbrev cX4_signatureNow : ByteArray := prog_11_method_52_code
def yX4_signatureNow : MethodName := ⟨RX4, "signatureNow", "()I"⟩
def dkwX4_signatureNow_0 : List UInt8 := [42, 180, 0, 7, 5, 46, 6, 42, 180, 0, 7, 6, 46, 104, 100, 172]
abbrev dktX4_signatureNow_0 : List UInt8 := dkwX4_signatureNow_0 ++ []
theorem dksX4_signatureNow_0 : cX4_signatureNow.data.toList.drop 0 = dktX4_signatureNow_0 := by decide +kernel
abbrev cX4_signature : ByteArray := prog_11_method_56_code
def yX4_signature : MethodName := ⟨RX4, "signature", "()I"⟩
def dkwX4_signature_0 : List UInt8 := [42, 3, 181, 0, 46, 42, 182, 0, 171, 172]
abbrev dktX4_signature_0 : List UInt8 := dkwX4_signature_0 ++ []
theorem dksX4_signature_0 : cX4_signature.data.toList.drop 0 = dktX4_signature_0 := by decide +kernel
theorem dX4_thrown_0 : decode cX4_thrown 0 = .ok (.aload_n 0, 1) := by decide +kernel
theorem dX4_thrown_1 : decode cX4_thrown 1 = .ok (.getfield 46, 3) := by decide +kernel
theorem dX4_thrown_4 : decode cX4_thrown 4 = .ok (.ireturn, 1) := by decide +kernel
theorem dX4_lines_0 : decode cX4_lines 0 = .ok (.aload_n 0, 1) := dk_42 (dk_at dksX4_lines_0 0 rfl rfl)
theorem dX4_lines_1 : decode cX4_lines 1 = .ok (.iconst 0, 1) := dk_3 (dk_at dksX4_lines_0 1 rfl rfl)
theorem dX4_lines_2 : decode cX4_lines 2 = .ok (.putfield 46, 3) := dk_181 0 46 (dk_at dksX4_lines_0 2 rfl rfl)
theorem dX4_lines_5 : decode cX4_lines 5 = .ok (.aload_n 0, 1) := dk_42 (dk_at dksX4_lines_0 5 rfl rfl)
theorem dX4_lines_6 : decode cX4_lines 6 = .ok (.getfield 7, 3) := dk_180 0 7 (dk_at dksX4_lines_0 6 rfl rfl)
theorem dX4_lines_9 : decode cX4_lines 9 = .ok (.iconst 0, 1) := dk_3 (dk_at dksX4_lines_0 9 rfl rfl)
theorem dX4_lines_10 : decode cX4_lines 10 = .ok (.iaload, 1) := dk_46 (dk_at dksX4_lines_0 10 rfl rfl)
theorem dX4_lines_11 : decode cX4_lines 11 = .ok (.ireturn, 1) := dk_172 (dk_at dksX4_lines_0 11 rfl rfl)
theorem dX4_chords_0 : decode cX4_chords 0 = .ok (.aload_n 0, 1) := dk_42 (dk_at dksX4_chords_0 0 rfl rfl)
theorem dX4_chords_1 : decode cX4_chords 1 = .ok (.iconst 0, 1) := dk_3 (dk_at dksX4_chords_0 1 rfl rfl)
theorem dX4_chords_2 : decode cX4_chords 2 = .ok (.putfield 46, 3) := dk_181 0 46 (dk_at dksX4_chords_0 2 rfl rfl)
theorem dX4_chords_5 : decode cX4_chords 5 = .ok (.aload_n 0, 1) := dk_42 (dk_at dksX4_chords_0 5 rfl rfl)
theorem dX4_chords_6 : decode cX4_chords 6 = .ok (.getfield 7, 3) := dk_180 0 7 (dk_at dksX4_chords_0 6 rfl rfl)
theorem dX4_chords_9 : decode cX4_chords 9 = .ok (.iconst 1, 1) := dk_4 (dk_at dksX4_chords_0 9 rfl rfl)
theorem dX4_chords_10 : decode cX4_chords 10 = .ok (.iaload, 1) := dk_46 (dk_at dksX4_chords_0 10 rfl rfl)
theorem dX4_chords_11 : decode cX4_chords 11 = .ok (.ireturn, 1) := dk_172 (dk_at dksX4_chords_0 11 rfl rfl)
theorem dX4_tonic_0 : decode cX4_tonic 0 = .ok (.aload_n 0, 1) := dk_42 (dk_at dksX4_tonic_0 0 rfl rfl)
theorem dX4_tonic_1 : decode cX4_tonic 1 = .ok (.iconst 0, 1) := dk_3 (dk_at dksX4_tonic_0 1 rfl rfl)
theorem dX4_tonic_2 : decode cX4_tonic 2 = .ok (.putfield 46, 3) := dk_181 0 46 (dk_at dksX4_tonic_0 2 rfl rfl)
theorem dX4_tonic_5 : decode cX4_tonic 5 = .ok (.aload_n 0, 1) := dk_42 (dk_at dksX4_tonic_0 5 rfl rfl)
theorem dX4_tonic_6 : decode cX4_tonic 6 = .ok (.getfield 7, 3) := dk_180 0 7 (dk_at dksX4_tonic_0 6 rfl rfl)
theorem dX4_tonic_9 : decode cX4_tonic 9 = .ok (.iconst 2, 1) := dk_5 (dk_at dksX4_tonic_0 9 rfl rfl)
theorem dX4_tonic_10 : decode cX4_tonic 10 = .ok (.iaload, 1) := dk_46 (dk_at dksX4_tonic_0 10 rfl rfl)
theorem dX4_tonic_11 : decode cX4_tonic 11 = .ok (.ireturn, 1) := dk_172 (dk_at dksX4_tonic_0 11 rfl rfl)
theorem dX4_isMinor_0 : decode cX4_isMinor 0 = .ok (.aload_n 0, 1) := dk_42 (dk_at dksX4_isMinor_0 0 rfl rfl)
theorem dX4_isMinor_1 : decode cX4_isMinor 1 = .ok (.iconst 0, 1) := dk_3 (dk_at dksX4_isMinor_0 1 rfl rfl)
theorem dX4_isMinor_2 : decode cX4_isMinor 2 = .ok (.putfield 46, 3) := dk_181 0 46 (dk_at dksX4_isMinor_0 2 rfl rfl)
theorem dX4_isMinor_5 : decode cX4_isMinor 5 = .ok (.aload_n 0, 1) := dk_42 (dk_at dksX4_isMinor_0 5 rfl rfl)
theorem dX4_isMinor_6 : decode cX4_isMinor 6 = .ok (.getfield 7, 3) := dk_180 0 7 (dk_at dksX4_isMinor_0 6 rfl rfl)
theorem dX4_isMinor_9 : decode cX4_isMinor 9 = .ok (.iconst 3, 1) := dk_6 (dk_at dksX4_isMinor_0 9 rfl rfl)
theorem dX4_isMinor_10 : decode cX4_isMinor 10 = .ok (.iaload, 1) := dk_46 (dk_at dksX4_isMinor_0 10 rfl rfl)
theorem dX4_isMinor_11 : decode cX4_isMinor 11 = .ok (.iconst 1, 1) := dk_4 (dk_at dksX4_isMinor_0 11 rfl rfl)
theorem dX4_isMinor_12 : decode cX4_isMinor 12 = .ok (.if_icmp .ne 7, 3) := dk_160 0 7 (dk_at dksX4_isMinor_0 12 rfl rfl)
theorem dX4_isMinor_15 : decode cX4_isMinor 15 = .ok (.iconst 1, 1) := dk_4 (dk_at dksX4_isMinor_0 15 rfl rfl)
theorem dX4_isMinor_16 : decode cX4_isMinor 16 = .ok (.goto 4, 3) := dk_167 0 4 (dk_at dksX4_isMinor_0 16 rfl rfl)
theorem dX4_isMinor_19 : decode cX4_isMinor 19 = .ok (.iconst 0, 1) := dk_3 (dk_at dksX4_isMinor_0 19 rfl rfl)
theorem dX4_isMinor_20 : decode cX4_isMinor 20 = .ok (.ireturn, 1) := dk_172 (dk_at dksX4_isMinor_0 20 rfl rfl)
theorem dX4_clearText_0 : decode cX4_clearText 0 = .ok (.aload_n 0, 1) := dk_42 (dk_at dksX4_clearText_0 0 rfl rfl)
theorem dX4_clearText_1 : decode cX4_clearText 1 = .ok (.iconst 0, 1) := dk_3 (dk_at dksX4_clearText_0 1 rfl rfl)
theorem dX4_clearText_2 : decode cX4_clearText 2 = .ok (.putfield 46, 3) := dk_181 0 46 (dk_at dksX4_clearText_0 2 rfl rfl)
theorem dX4_clearText_5 : decode cX4_clearText 5 = .ok (.aload_n 0, 1) := dk_42 (dk_at dksX4_clearText_0 5 rfl rfl)
theorem dX4_clearText_6 : decode cX4_clearText 6 = .ok (.getfield 56, 3) := dk_180 0 56 (dk_at dksX4_clearText_0 6 rfl rfl)
theorem dX4_clearText_9 : decode cX4_clearText 9 = .ok (.istore_n 1, 1) := dk_60 (dk_at dksX4_clearText_0 9 rfl rfl)
theorem dX4_clearText_10 : decode cX4_clearText 10 = .ok (.aload_n 0, 1) := dk_42 (dk_at dksX4_clearText_0 10 rfl rfl)
theorem dX4_clearText_11 : decode cX4_clearText 11 = .ok (.iconst 0, 1) := dk_3 (dk_at dksX4_clearText_0 11 rfl rfl)
theorem dX4_clearText_12 : decode cX4_clearText 12 = .ok (.putfield 56, 3) := dk_181 0 56 (dk_at dksX4_clearText_0 12 rfl rfl)
theorem dX4_clearText_15 : decode cX4_clearText 15 = .ok (.iload_n 1, 1) := dk_27 (dk_at dksX4_clearText_0 15 rfl rfl)
theorem dX4_clearText_16 : decode cX4_clearText 16 = .ok (.ireturn, 1) := dk_172 (dk_at dksX4_clearText_0 16 rfl rfl)
theorem dX4_setSimple_0 : decode cX4_setSimple 0 = .ok (.aload_n 0, 1) := dk_42 (dk_at dksX4_setSimple_0 0 rfl rfl)
theorem dX4_setSimple_1 : decode cX4_setSimple 1 = .ok (.iconst 0, 1) := dk_3 (dk_at dksX4_setSimple_0 1 rfl rfl)
theorem dX4_setSimple_2 : decode cX4_setSimple 2 = .ok (.putfield 46, 3) := dk_181 0 46 (dk_at dksX4_setSimple_0 2 rfl rfl)
theorem dX4_setSimple_5 : decode cX4_setSimple 5 = .ok (.aload_n 0, 1) := dk_42 (dk_at dksX4_setSimple_0 5 rfl rfl)
theorem dX4_setSimple_6 : decode cX4_setSimple 6 = .ok (.getfield 19, 3) := dk_180 0 19 (dk_at dksX4_setSimple_0 6 rfl rfl)
theorem dX4_setSimple_9 : decode cX4_setSimple 9 = .ok (.istore_n 2, 1) := dk_61 (dk_at dksX4_setSimple_0 9 rfl rfl)
theorem dX4_setSimple_10 : decode cX4_setSimple 10 = .ok (.aload_n 0, 1) := dk_42 (dk_at dksX4_setSimple_0 10 rfl rfl)
theorem dX4_setSimple_11 : decode cX4_setSimple 11 = .ok (.iload_n 1, 1) := dk_27 (dk_at dksX4_setSimple_0 11 rfl rfl)
theorem dX4_setSimple_12 : decode cX4_setSimple 12 = .ok (.putfield 19, 3) := dk_181 0 19 (dk_at dksX4_setSimple_0 12 rfl rfl)
theorem dX4_setSimple_15 : decode cX4_setSimple 15 = .ok (.iload_n 2, 1) := dk_28 (dk_at dksX4_setSimple_0 15 rfl rfl)
theorem dX4_setSimple_16 : decode cX4_setSimple 16 = .ok (.ireturn, 1) := dk_172 (dk_at dksX4_setSimple_0 16 rfl rfl)
theorem dX4_setFlats_0 : decode cX4_setFlats 0 = .ok (.aload_n 0, 1) := dk_42 (dk_at dksX4_setFlats_0 0 rfl rfl)
theorem dX4_setFlats_1 : decode cX4_setFlats 1 = .ok (.iconst 0, 1) := dk_3 (dk_at dksX4_setFlats_0 1 rfl rfl)
theorem dX4_setFlats_2 : decode cX4_setFlats 2 = .ok (.putfield 46, 3) := dk_181 0 46 (dk_at dksX4_setFlats_0 2 rfl rfl)
theorem dX4_setFlats_5 : decode cX4_setFlats 5 = .ok (.aload_n 0, 1) := dk_42 (dk_at dksX4_setFlats_0 5 rfl rfl)
theorem dX4_setFlats_6 : decode cX4_setFlats 6 = .ok (.getfield 114, 3) := dk_180 0 114 (dk_at dksX4_setFlats_0 6 rfl rfl)
theorem dX4_setFlats_9 : decode cX4_setFlats 9 = .ok (.istore_n 2, 1) := dk_61 (dk_at dksX4_setFlats_0 9 rfl rfl)
theorem dX4_setFlats_10 : decode cX4_setFlats 10 = .ok (.aload_n 0, 1) := dk_42 (dk_at dksX4_setFlats_0 10 rfl rfl)
theorem dX4_setFlats_11 : decode cX4_setFlats 11 = .ok (.iload_n 1, 1) := dk_27 (dk_at dksX4_setFlats_0 11 rfl rfl)
theorem dX4_setFlats_12 : decode cX4_setFlats 12 = .ok (.putfield 114, 3) := dk_181 0 114 (dk_at dksX4_setFlats_0 12 rfl rfl)
theorem dX4_setFlats_15 : decode cX4_setFlats 15 = .ok (.iload_n 2, 1) := dk_28 (dk_at dksX4_setFlats_0 15 rfl rfl)
theorem dX4_setFlats_16 : decode cX4_setFlats 16 = .ok (.ireturn, 1) := dk_172 (dk_at dksX4_setFlats_0 16 rfl rfl)
theorem dX4_setWidth_0 : decode cX4_setWidth 0 = .ok (.aload_n 0, 1) := dk_42 (dk_at dksX4_setWidth_0 0 rfl rfl)
theorem dX4_setWidth_1 : decode cX4_setWidth 1 = .ok (.iconst 0, 1) := dk_3 (dk_at dksX4_setWidth_0 1 rfl rfl)
theorem dX4_setWidth_2 : decode cX4_setWidth 2 = .ok (.putfield 46, 3) := dk_181 0 46 (dk_at dksX4_setWidth_0 2 rfl rfl)
theorem dX4_setWidth_5 : decode cX4_setWidth 5 = .ok (.iload_n 1, 1) := dk_27 (dk_at dksX4_setWidth_0 5 rfl rfl)
theorem dX4_setWidth_6 : decode cX4_setWidth 6 = .ok (.bipush 10, 2) := dk_16 10 (dk_at dksX4_setWidth_0 6 rfl rfl)
theorem dX4_setWidth_8 : decode cX4_setWidth 8 = .ok (.sipush 200, 3) := dk_17 0 200 (dk_at dksX4_setWidth_0 8 rfl rfl)
theorem dX4_setWidth_11 : decode cX4_setWidth 11 = .ok (.invokestatic 97, 3) := dk_184 0 97 (dk_at dksX4_setWidth_0 11 rfl rfl)
theorem dX4_setWidth_14 : decode cX4_setWidth 14 = .ok (.ifCond .ne 9, 3) := dk_154 0 9 (dk_at dksX4_setWidth_0 14 rfl rfl)
theorem dX4_setWidth_17 : decode cX4_setWidth 17 = .ok (.aload_n 0, 1) := dk_42 (dk_at dksX4_setWidth_0 17 rfl rfl)
theorem dX4_setWidth_18 : decode cX4_setWidth 18 = .ok (.iconst 1, 1) := dk_4 (dk_at dksX4_setWidth_0 18 rfl rfl)
theorem dX4_setWidth_19 : decode cX4_setWidth 19 = .ok (.invokevirtual 101, 3) := dk_182 0 101 (dk_at dksX4_setWidth_0 19 rfl rfl)
theorem dX4_setWidth_22 : decode cX4_setWidth 22 = .ok (.ireturn, 1) := dk_172 (dk_at dksX4_setWidth_0 22 rfl rfl)
theorem dX4_setWidth_23 : decode cX4_setWidth 23 = .ok (.aload_n 0, 1) := dk_42 (dk_at dksX4_setWidth_0 23 rfl rfl)
theorem dX4_setWidth_24 : decode cX4_setWidth 24 = .ok (.getfield 23, 3) := dk_180 0 23 (dk_at dksX4_setWidth_1 0 rfl rfl)
theorem dX4_setWidth_27 : decode cX4_setWidth 27 = .ok (.istore_n 2, 1) := dk_61 (dk_at dksX4_setWidth_1 3 rfl rfl)
theorem dX4_setWidth_28 : decode cX4_setWidth 28 = .ok (.aload_n 0, 1) := dk_42 (dk_at dksX4_setWidth_1 4 rfl rfl)
theorem dX4_setWidth_29 : decode cX4_setWidth 29 = .ok (.iload_n 1, 1) := dk_27 (dk_at dksX4_setWidth_1 5 rfl rfl)
theorem dX4_setWidth_30 : decode cX4_setWidth 30 = .ok (.putfield 23, 3) := dk_181 0 23 (dk_at dksX4_setWidth_1 6 rfl rfl)
theorem dX4_setWidth_33 : decode cX4_setWidth 33 = .ok (.iload_n 2, 1) := dk_28 (dk_at dksX4_setWidth_1 9 rfl rfl)
theorem dX4_setWidth_34 : decode cX4_setWidth 34 = .ok (.ireturn, 1) := dk_172 (dk_at dksX4_setWidth_1 10 rfl rfl)
theorem dX4_type_0 : decode cX4_type 0 = .ok (.aload_n 0, 1) := dk_42 (dk_at dksX4_type_0 0 rfl rfl)
theorem dX4_type_1 : decode cX4_type 1 = .ok (.iconst 0, 1) := dk_3 (dk_at dksX4_type_0 1 rfl rfl)
theorem dX4_type_2 : decode cX4_type 2 = .ok (.putfield 46, 3) := dk_181 0 46 (dk_at dksX4_type_0 2 rfl rfl)
theorem dX4_type_5 : decode cX4_type 5 = .ok (.iload_n 1, 1) := dk_27 (dk_at dksX4_type_0 5 rfl rfl)
theorem dX4_type_6 : decode cX4_type 6 = .ok (.bipush 32, 2) := dk_16 32 (dk_at dksX4_type_0 6 rfl rfl)
theorem dX4_type_8 : decode cX4_type 8 = .ok (.bipush 126, 2) := dk_16 126 (dk_at dksX4_type_0 8 rfl rfl)
theorem dX4_type_10 : decode cX4_type 10 = .ok (.invokestatic 97, 3) := dk_184 0 97 (dk_at dksX4_type_0 10 rfl rfl)
theorem dX4_type_13 : decode cX4_type 13 = .ok (.ifCond .ne 9, 3) := dk_154 0 9 (dk_at dksX4_type_0 13 rfl rfl)
theorem dX4_type_16 : decode cX4_type 16 = .ok (.aload_n 0, 1) := dk_42 (dk_at dksX4_type_0 16 rfl rfl)
theorem dX4_type_17 : decode cX4_type 17 = .ok (.iconst 1, 1) := dk_4 (dk_at dksX4_type_0 17 rfl rfl)
theorem dX4_type_18 : decode cX4_type 18 = .ok (.invokevirtual 101, 3) := dk_182 0 101 (dk_at dksX4_type_0 18 rfl rfl)
theorem dX4_type_21 : decode cX4_type 21 = .ok (.ireturn, 1) := dk_172 (dk_at dksX4_type_0 21 rfl rfl)
theorem dX4_type_22 : decode cX4_type 22 = .ok (.aload_n 0, 1) := dk_42 (dk_at dksX4_type_0 22 rfl rfl)
theorem dX4_type_23 : decode cX4_type 23 = .ok (.getfield 56, 3) := dk_180 0 56 (dk_at dksX4_type_1 0 rfl rfl)
theorem dX4_type_26 : decode cX4_type 26 = .ok (.sipush 200, 3) := dk_17 0 200 (dk_at dksX4_type_1 3 rfl rfl)
theorem dX4_type_29 : decode cX4_type 29 = .ok (.if_icmp .ne 9, 3) := dk_160 0 9 (dk_at dksX4_type_1 6 rfl rfl)
theorem dX4_type_32 : decode cX4_type 32 = .ok (.aload_n 0, 1) := dk_42 (dk_at dksX4_type_1 9 rfl rfl)
theorem dX4_type_33 : decode cX4_type 33 = .ok (.iconst 2, 1) := dk_5 (dk_at dksX4_type_1 10 rfl rfl)
theorem dX4_type_34 : decode cX4_type 34 = .ok (.invokevirtual 101, 3) := dk_182 0 101 (dk_at dksX4_type_1 11 rfl rfl)
theorem dX4_type_37 : decode cX4_type 37 = .ok (.ireturn, 1) := dk_172 (dk_at dksX4_type_1 14 rfl rfl)
theorem dX4_type_38 : decode cX4_type 38 = .ok (.aload_n 0, 1) := dk_42 (dk_at dksX4_type_1 15 rfl rfl)
theorem dX4_type_39 : decode cX4_type 39 = .ok (.getfield 16, 3) := dk_180 0 16 (dk_at dksX4_type_1 16 rfl rfl)
theorem dX4_type_42 : decode cX4_type 42 = .ok (.aload_n 0, 1) := dk_42 (dk_at dksX4_type_1 19 rfl rfl)
theorem dX4_type_43 : decode cX4_type 43 = .ok (.getfield 56, 3) := dk_180 0 56 (dk_at dksX4_type_1 20 rfl rfl)
theorem dX4_type_46 : decode cX4_type 46 = .ok (.iload_n 1, 1) := dk_27 (dk_at dksX4_type_1 23 rfl rfl)
theorem dX4_type_47 : decode cX4_type 47 = .ok (.iastore, 1) := dk_79 (dk_at dksX4_type_2 0 rfl rfl)
theorem dX4_type_48 : decode cX4_type 48 = .ok (.aload_n 0, 1) := dk_42 (dk_at dksX4_type_2 1 rfl rfl)
theorem dX4_type_49 : decode cX4_type 49 = .ok (.dup, 1) := dk_89 (dk_at dksX4_type_2 2 rfl rfl)
theorem dX4_type_50 : decode cX4_type 50 = .ok (.getfield 56, 3) := dk_180 0 56 (dk_at dksX4_type_2 3 rfl rfl)
theorem dX4_type_53 : decode cX4_type 53 = .ok (.iconst 1, 1) := dk_4 (dk_at dksX4_type_2 6 rfl rfl)
theorem dX4_type_54 : decode cX4_type 54 = .ok (.iadd, 1) := dk_96 (dk_at dksX4_type_2 7 rfl rfl)
theorem dX4_type_55 : decode cX4_type 55 = .ok (.putfield 56, 3) := dk_181 0 56 (dk_at dksX4_type_2 8 rfl rfl)
theorem dX4_type_58 : decode cX4_type 58 = .ok (.aload_n 0, 1) := dk_42 (dk_at dksX4_type_2 11 rfl rfl)
theorem dX4_type_59 : decode cX4_type 59 = .ok (.getfield 56, 3) := dk_180 0 56 (dk_at dksX4_type_2 12 rfl rfl)
theorem dX4_type_62 : decode cX4_type 62 = .ok (.ireturn, 1) := dk_172 (dk_at dksX4_type_2 15 rfl rfl)
theorem dX4_lyrics_0 : decode cX4_lyrics 0 = .ok (.aload_n 0, 1) := dk_42 (dk_at dksX4_lyrics_0 0 rfl rfl)
theorem dX4_lyrics_1 : decode cX4_lyrics 1 = .ok (.iconst 0, 1) := dk_3 (dk_at dksX4_lyrics_0 1 rfl rfl)
theorem dX4_lyrics_2 : decode cX4_lyrics 2 = .ok (.putfield 46, 3) := dk_181 0 46 (dk_at dksX4_lyrics_0 2 rfl rfl)
theorem dX4_lyrics_5 : decode cX4_lyrics 5 = .ok (.aload_n 0, 1) := dk_42 (dk_at dksX4_lyrics_0 5 rfl rfl)
theorem dX4_lyrics_6 : decode cX4_lyrics 6 = .ok (.iload_n 1, 1) := dk_27 (dk_at dksX4_lyrics_0 6 rfl rfl)
theorem dX4_lyrics_7 : decode cX4_lyrics 7 = .ok (.invokevirtual 117, 3) := dk_182 0 117 (dk_at dksX4_lyrics_0 7 rfl rfl)
theorem dX4_lyrics_10 : decode cX4_lyrics 10 = .ok (.ifCond .eq 11, 3) := dk_153 0 11 (dk_at dksX4_lyrics_0 10 rfl rfl)
theorem dX4_lyrics_13 : decode cX4_lyrics 13 = .ok (.aload_n 0, 1) := dk_42 (dk_at dksX4_lyrics_0 13 rfl rfl)
theorem dX4_lyrics_14 : decode cX4_lyrics 14 = .ok (.iload_n 1, 1) := dk_27 (dk_at dksX4_lyrics_0 14 rfl rfl)
theorem dX4_lyrics_15 : decode cX4_lyrics 15 = .ok (.invokevirtual 120, 3) := dk_182 0 120 (dk_at dksX4_lyrics_0 15 rfl rfl)
theorem dX4_lyrics_18 : decode cX4_lyrics 18 = .ok (.goto 8, 3) := dk_167 0 8 (dk_at dksX4_lyrics_0 18 rfl rfl)
theorem dX4_lyrics_21 : decode cX4_lyrics 21 = .ok (.aload_n 0, 1) := dk_42 (dk_at dksX4_lyrics_0 21 rfl rfl)
theorem dX4_lyrics_22 : decode cX4_lyrics 22 = .ok (.iconst 1, 1) := dk_4 (dk_at dksX4_lyrics_0 22 rfl rfl)
theorem dX4_lyrics_23 : decode cX4_lyrics 23 = .ok (.invokevirtual 101, 3) := dk_182 0 101 (dk_at dksX4_lyrics_1 0 rfl rfl)
theorem dX4_lyrics_26 : decode cX4_lyrics 26 = .ok (.ireturn, 1) := dk_172 (dk_at dksX4_lyrics_1 3 rfl rfl)
theorem dX4_lyric_0 : decode cX4_lyric 0 = .ok (.aload_n 0, 1) := dk_42 (dk_at dksX4_lyric_0 0 rfl rfl)
theorem dX4_lyric_1 : decode cX4_lyric 1 = .ok (.iconst 0, 1) := dk_3 (dk_at dksX4_lyric_0 1 rfl rfl)
theorem dX4_lyric_2 : decode cX4_lyric 2 = .ok (.putfield 46, 3) := dk_181 0 46 (dk_at dksX4_lyric_0 2 rfl rfl)
theorem dX4_lyric_5 : decode cX4_lyric 5 = .ok (.aload_n 0, 1) := dk_42 (dk_at dksX4_lyric_0 5 rfl rfl)
theorem dX4_lyric_6 : decode cX4_lyric 6 = .ok (.iload_n 1, 1) := dk_27 (dk_at dksX4_lyric_0 6 rfl rfl)
theorem dX4_lyric_7 : decode cX4_lyric 7 = .ok (.invokevirtual 117, 3) := dk_182 0 117 (dk_at dksX4_lyric_0 7 rfl rfl)
theorem dX4_lyric_10 : decode cX4_lyric 10 = .ok (.ifCond .eq 27, 3) := dk_153 0 27 (dk_at dksX4_lyric_0 10 rfl rfl)
theorem dX4_lyric_13 : decode cX4_lyric 13 = .ok (.iload_n 2, 1) := dk_28 (dk_at dksX4_lyric_0 13 rfl rfl)
theorem dX4_lyric_14 : decode cX4_lyric 14 = .ok (.iconst 0, 1) := dk_3 (dk_at dksX4_lyric_0 14 rfl rfl)
theorem dX4_lyric_15 : decode cX4_lyric 15 = .ok (.aload_n 0, 1) := dk_42 (dk_at dksX4_lyric_0 15 rfl rfl)
theorem dX4_lyric_16 : decode cX4_lyric 16 = .ok (.iload_n 1, 1) := dk_27 (dk_at dksX4_lyric_0 16 rfl rfl)
theorem dX4_lyric_17 : decode cX4_lyric 17 = .ok (.invokevirtual 120, 3) := dk_182 0 120 (dk_at dksX4_lyric_0 17 rfl rfl)
theorem dX4_lyric_20 : decode cX4_lyric 20 = .ok (.iconst 1, 1) := dk_4 (dk_at dksX4_lyric_0 20 rfl rfl)
theorem dX4_lyric_21 : decode cX4_lyric 21 = .ok (.isub, 1) := dk_100 (dk_at dksX4_lyric_0 21 rfl rfl)
theorem dX4_lyric_22 : decode cX4_lyric 22 = .ok (.invokestatic 97, 3) := dk_184 0 97 (dk_at dksX4_lyric_1 0 rfl rfl)
theorem dX4_lyric_25 : decode cX4_lyric 25 = .ok (.ifCond .eq 12, 3) := dk_153 0 12 (dk_at dksX4_lyric_1 3 rfl rfl)
theorem dX4_lyric_28 : decode cX4_lyric 28 = .ok (.aload_n 0, 1) := dk_42 (dk_at dksX4_lyric_1 6 rfl rfl)
theorem dX4_lyric_29 : decode cX4_lyric 29 = .ok (.iload_n 1, 1) := dk_27 (dk_at dksX4_lyric_1 7 rfl rfl)
theorem dX4_lyric_30 : decode cX4_lyric 30 = .ok (.iload_n 2, 1) := dk_28 (dk_at dksX4_lyric_1 8 rfl rfl)
theorem dX4_lyric_31 : decode cX4_lyric 31 = .ok (.invokevirtual 123, 3) := dk_182 0 123 (dk_at dksX4_lyric_1 9 rfl rfl)
theorem dX4_lyric_34 : decode cX4_lyric 34 = .ok (.goto 8, 3) := dk_167 0 8 (dk_at dksX4_lyric_1 12 rfl rfl)
theorem dX4_lyric_37 : decode cX4_lyric 37 = .ok (.aload_n 0, 1) := dk_42 (dk_at dksX4_lyric_1 15 rfl rfl)
theorem dX4_lyric_38 : decode cX4_lyric 38 = .ok (.iconst 1, 1) := dk_4 (dk_at dksX4_lyric_1 16 rfl rfl)
theorem dX4_lyric_39 : decode cX4_lyric 39 = .ok (.invokevirtual 101, 3) := dk_182 0 101 (dk_at dksX4_lyric_1 17 rfl rfl)
theorem dX4_lyric_42 : decode cX4_lyric 42 = .ok (.ireturn, 1) := dk_172 (dk_at dksX4_lyric_1 20 rfl rfl)
theorem dX4_told_0 : decode cX4_told 0 = .ok (.aload_n 0, 1) := dk_42 (dk_at dksX4_told_0 0 rfl rfl)
theorem dX4_told_1 : decode cX4_told 1 = .ok (.iconst 0, 1) := dk_3 (dk_at dksX4_told_0 1 rfl rfl)
theorem dX4_told_2 : decode cX4_told 2 = .ok (.putfield 46, 3) := dk_181 0 46 (dk_at dksX4_told_0 2 rfl rfl)
theorem dX4_told_5 : decode cX4_told 5 = .ok (.aload_n 0, 1) := dk_42 (dk_at dksX4_told_0 5 rfl rfl)
theorem dX4_told_6 : decode cX4_told 6 = .ok (.iload_n 1, 1) := dk_27 (dk_at dksX4_told_0 6 rfl rfl)
theorem dX4_told_7 : decode cX4_told 7 = .ok (.invokevirtual 127, 3) := dk_182 0 127 (dk_at dksX4_told_0 7 rfl rfl)
theorem dX4_told_10 : decode cX4_told 10 = .ok (.ifCond .eq 17, 3) := dk_153 0 17 (dk_at dksX4_told_0 10 rfl rfl)
theorem dX4_told_13 : decode cX4_told 13 = .ok (.aload_n 0, 1) := dk_42 (dk_at dksX4_told_0 13 rfl rfl)
theorem dX4_told_14 : decode cX4_told 14 = .ok (.getfield 7, 3) := dk_180 0 7 (dk_at dksX4_told_0 14 rfl rfl)
theorem dX4_told_17 : decode cX4_told 17 = .ok (.iload_n 1, 1) := dk_27 (dk_at dksX4_told_0 17 rfl rfl)
theorem dX4_told_18 : decode cX4_told 18 = .ok (.invokestatic 94, 3) := dk_184 0 94 (dk_at dksX4_told_0 18 rfl rfl)
theorem dX4_told_21 : decode cX4_told 21 = .ok (.iload_n 2, 1) := dk_28 (dk_at dksX4_told_0 21 rfl rfl)
theorem dX4_told_22 : decode cX4_told 22 = .ok (.iadd, 1) := dk_96 (dk_at dksX4_told_0 22 rfl rfl)
theorem dX4_told_23 : decode cX4_told 23 = .ok (.iaload, 1) := dk_46 (dk_at dksX4_told_0 23 rfl rfl)
theorem dX4_told_24 : decode cX4_told 24 = .ok (.goto 8, 3) := dk_167 0 8 (dk_at dksX4_told_1 0 rfl rfl)
theorem dX4_told_27 : decode cX4_told 27 = .ok (.aload_n 0, 1) := dk_42 (dk_at dksX4_told_1 3 rfl rfl)
theorem dX4_told_28 : decode cX4_told 28 = .ok (.iconst 1, 1) := dk_4 (dk_at dksX4_told_1 4 rfl rfl)
theorem dX4_told_29 : decode cX4_told 29 = .ok (.invokevirtual 101, 3) := dk_182 0 101 (dk_at dksX4_told_1 5 rfl rfl)
theorem dX4_told_32 : decode cX4_told 32 = .ok (.ireturn, 1) := dk_172 (dk_at dksX4_told_1 8 rfl rfl)
theorem dX4_lineOf_0 : decode cX4_lineOf 0 = .ok (.aload_n 0, 1) := dk_42 (dk_at dksX4_lineOf_0 0 rfl rfl)
theorem dX4_lineOf_1 : decode cX4_lineOf 1 = .ok (.iload_n 1, 1) := dk_27 (dk_at dksX4_lineOf_0 1 rfl rfl)
theorem dX4_lineOf_2 : decode cX4_lineOf 2 = .ok (.iconst 0, 1) := dk_3 (dk_at dksX4_lineOf_0 2 rfl rfl)
theorem dX4_lineOf_3 : decode cX4_lineOf 3 = .ok (.invokevirtual 130, 3) := dk_182 0 130 (dk_at dksX4_lineOf_0 3 rfl rfl)
theorem dX4_lineOf_6 : decode cX4_lineOf 6 = .ok (.ireturn, 1) := dk_172 (dk_at dksX4_lineOf_0 6 rfl rfl)
theorem dX4_columnOf_0 : decode cX4_columnOf 0 = .ok (.aload_n 0, 1) := dk_42 (dk_at dksX4_columnOf_0 0 rfl rfl)
theorem dX4_columnOf_1 : decode cX4_columnOf 1 = .ok (.iload_n 1, 1) := dk_27 (dk_at dksX4_columnOf_0 1 rfl rfl)
theorem dX4_columnOf_2 : decode cX4_columnOf 2 = .ok (.iconst 1, 1) := dk_4 (dk_at dksX4_columnOf_0 2 rfl rfl)
theorem dX4_columnOf_3 : decode cX4_columnOf 3 = .ok (.invokevirtual 130, 3) := dk_182 0 130 (dk_at dksX4_columnOf_0 3 rfl rfl)
theorem dX4_columnOf_6 : decode cX4_columnOf 6 = .ok (.ireturn, 1) := dk_172 (dk_at dksX4_columnOf_0 6 rfl rfl)
theorem dX4_rootOf_0 : decode cX4_rootOf 0 = .ok (.aload_n 0, 1) := dk_42 (dk_at dksX4_rootOf_0 0 rfl rfl)
theorem dX4_rootOf_1 : decode cX4_rootOf 1 = .ok (.iload_n 1, 1) := dk_27 (dk_at dksX4_rootOf_0 1 rfl rfl)
theorem dX4_rootOf_2 : decode cX4_rootOf 2 = .ok (.iconst 2, 1) := dk_5 (dk_at dksX4_rootOf_0 2 rfl rfl)
theorem dX4_rootOf_3 : decode cX4_rootOf 3 = .ok (.invokevirtual 130, 3) := dk_182 0 130 (dk_at dksX4_rootOf_0 3 rfl rfl)
theorem dX4_rootOf_6 : decode cX4_rootOf 6 = .ok (.ireturn, 1) := dk_172 (dk_at dksX4_rootOf_0 6 rfl rfl)
theorem dX4_qualityOf_0 : decode cX4_qualityOf 0 = .ok (.aload_n 0, 1) := dk_42 (dk_at dksX4_qualityOf_0 0 rfl rfl)
theorem dX4_qualityOf_1 : decode cX4_qualityOf 1 = .ok (.iload_n 1, 1) := dk_27 (dk_at dksX4_qualityOf_0 1 rfl rfl)
theorem dX4_qualityOf_2 : decode cX4_qualityOf 2 = .ok (.iconst 3, 1) := dk_6 (dk_at dksX4_qualityOf_0 2 rfl rfl)
theorem dX4_qualityOf_3 : decode cX4_qualityOf 3 = .ok (.invokevirtual 130, 3) := dk_182 0 130 (dk_at dksX4_qualityOf_0 3 rfl rfl)
theorem dX4_qualityOf_6 : decode cX4_qualityOf 6 = .ok (.ireturn, 1) := dk_172 (dk_at dksX4_qualityOf_0 6 rfl rfl)
theorem dX4_bassOf_0 : decode cX4_bassOf 0 = .ok (.aload_n 0, 1) := dk_42 (dk_at dksX4_bassOf_0 0 rfl rfl)
theorem dX4_bassOf_1 : decode cX4_bassOf 1 = .ok (.iload_n 1, 1) := dk_27 (dk_at dksX4_bassOf_0 1 rfl rfl)
theorem dX4_bassOf_2 : decode cX4_bassOf 2 = .ok (.iconst 4, 1) := dk_7 (dk_at dksX4_bassOf_0 2 rfl rfl)
theorem dX4_bassOf_3 : decode cX4_bassOf 3 = .ok (.invokevirtual 130, 3) := dk_182 0 130 (dk_at dksX4_bassOf_0 3 rfl rfl)
theorem dX4_bassOf_6 : decode cX4_bassOf 6 = .ok (.ireturn, 1) := dk_172 (dk_at dksX4_bassOf_0 6 rfl rfl)
theorem dX4_signatureNow_0 : decode cX4_signatureNow 0 = .ok (.aload_n 0, 1) := dk_42 (dk_at dksX4_signatureNow_0 0 rfl rfl)
theorem dX4_signatureNow_1 : decode cX4_signatureNow 1 = .ok (.getfield 7, 3) := dk_180 0 7 (dk_at dksX4_signatureNow_0 1 rfl rfl)
theorem dX4_signatureNow_4 : decode cX4_signatureNow 4 = .ok (.iconst 2, 1) := dk_5 (dk_at dksX4_signatureNow_0 4 rfl rfl)
theorem dX4_signatureNow_5 : decode cX4_signatureNow 5 = .ok (.iaload, 1) := dk_46 (dk_at dksX4_signatureNow_0 5 rfl rfl)
theorem dX4_signatureNow_6 : decode cX4_signatureNow 6 = .ok (.iconst 3, 1) := dk_6 (dk_at dksX4_signatureNow_0 6 rfl rfl)
theorem dX4_signatureNow_7 : decode cX4_signatureNow 7 = .ok (.aload_n 0, 1) := dk_42 (dk_at dksX4_signatureNow_0 7 rfl rfl)
theorem dX4_signatureNow_8 : decode cX4_signatureNow 8 = .ok (.getfield 7, 3) := dk_180 0 7 (dk_at dksX4_signatureNow_0 8 rfl rfl)
theorem dX4_signatureNow_11 : decode cX4_signatureNow 11 = .ok (.iconst 3, 1) := dk_6 (dk_at dksX4_signatureNow_0 11 rfl rfl)
theorem dX4_signatureNow_12 : decode cX4_signatureNow 12 = .ok (.iaload, 1) := dk_46 (dk_at dksX4_signatureNow_0 12 rfl rfl)
theorem dX4_signatureNow_13 : decode cX4_signatureNow 13 = .ok (.imul, 1) := dk_104 (dk_at dksX4_signatureNow_0 13 rfl rfl)
theorem dX4_signatureNow_14 : decode cX4_signatureNow 14 = .ok (.isub, 1) := dk_100 (dk_at dksX4_signatureNow_0 14 rfl rfl)
theorem dX4_signatureNow_15 : decode cX4_signatureNow 15 = .ok (.ireturn, 1) := dk_172 (dk_at dksX4_signatureNow_0 15 rfl rfl)
theorem dX4_signature_0 : decode cX4_signature 0 = .ok (.aload_n 0, 1) := dk_42 (dk_at dksX4_signature_0 0 rfl rfl)
theorem dX4_signature_1 : decode cX4_signature 1 = .ok (.iconst 0, 1) := dk_3 (dk_at dksX4_signature_0 1 rfl rfl)
theorem dX4_signature_2 : decode cX4_signature 2 = .ok (.putfield 46, 3) := dk_181 0 46 (dk_at dksX4_signature_0 2 rfl rfl)
theorem dX4_signature_5 : decode cX4_signature 5 = .ok (.aload_n 0, 1) := dk_42 (dk_at dksX4_signature_0 5 rfl rfl)
theorem dX4_signature_6 : decode cX4_signature 6 = .ok (.invokevirtual 171, 3) := dk_182 0 171 (dk_at dksX4_signature_0 6 rfl rfl)
theorem dX4_signature_9 : decode cX4_signature 9 = .ok (.ireturn, 1) := dk_172 (dk_at dksX4_signature_0 9 rfl rfl)
theorem q2087 : (Jvm.Cond.fieldLink "ChordSheetModel" (19 : Nat) "ChordSheetModel" "isSimple" "Z") ∈ lw_all := lw_g (lw_at lw_m9 105 rfl) rfl
theorem q2088 : (Jvm.Cond.fieldLink "ChordSheetModel" (114 : Nat) "ChordSheetModel" "isFlat" "Z") ∈ lw_all := lw_g (lw_at lw_m9 106 rfl) rfl
theorem q2089 : (Jvm.Cond.fieldLink "ChordSheetModel" (23 : Nat) "ChordSheetModel" "width" "I") ∈ lw_all := lw_g (lw_at lw_m9 107 rfl) rfl
theorem q2167 : (Jvm.Cond.methodLink "ChordSheetModel" (101 : Nat) ({ cls := "ChordSheetModel", name := "fails", desc := "(I)I" } : Jvm.MethodName)) ∈ lw_all := lw_g (lw_at lw_m9 185 rfl) rfl
theorem q2169 : (Jvm.Cond.instanceMethod ({ cls := "ChordSheetModel", name := "fails", desc := "(I)I" } : Jvm.MethodName)) ∈ lw_all := lw_g (lw_at lw_m9 187 rfl) rfl
theorem q2170 : (Jvm.Cond.code ({ cls := "ChordSheetModel", name := "fails", desc := "(I)I" } : Jvm.MethodName) prog_11_method_4_code (2 : Nat) (Option.some Jvm.ClassFile.FieldType.int)) ∈ lw_all := lw_g (lw_at lw_m9 188 rfl) rfl
theorem q2203 : (Jvm.Cond.methodLink "ChordSheetModel" (94 : Nat) ({ cls := "ChordSheetModel", name := "chord", desc := "(I)I" } : Jvm.MethodName)) ∈ lw_all := lw_g (lw_at lw_m9 221 rfl) rfl
theorem q2204 : (Jvm.Cond.static ({ cls := "ChordSheetModel", name := "chord", desc := "(I)I" } : Jvm.MethodName)) ∈ lw_all := lw_g (lw_at lw_m9 222 rfl) rfl
theorem q2205 : (Jvm.Cond.code ({ cls := "ChordSheetModel", name := "chord", desc := "(I)I" } : Jvm.MethodName) prog_11_method_6_code (1 : Nat) (Option.some Jvm.ClassFile.FieldType.int)) ∈ lw_all := lw_g (lw_at lw_m9 223 rfl) rfl
theorem q2250 : (Jvm.Cond.methodLink "ChordSheetModel" (117 : Nat) ({ cls := "ChordSheetModel", name := "isLine", desc := "(I)Z" } : Jvm.MethodName)) ∈ lw_all := lw_g (lw_at lw_m10 28 rfl) rfl
theorem q2252 : (Jvm.Cond.instanceMethod ({ cls := "ChordSheetModel", name := "isLine", desc := "(I)Z" } : Jvm.MethodName)) ∈ lw_all := lw_g (lw_at lw_m10 30 rfl) rfl
theorem q2253 : (Jvm.Cond.code ({ cls := "ChordSheetModel", name := "isLine", desc := "(I)Z" } : Jvm.MethodName) prog_11_method_22_code (2 : Nat) (Option.some Jvm.ClassFile.FieldType.boolean)) ∈ lw_all := lw_g (lw_at lw_m10 31 rfl) rfl
theorem q2254 : (Jvm.Cond.methodLink "ChordSheetModel" (120 : Nat) ({ cls := "ChordSheetModel", name := "lengthOf", desc := "(I)I" } : Jvm.MethodName)) ∈ lw_all := lw_g (lw_at lw_m10 32 rfl) rfl
theorem q2256 : (Jvm.Cond.instanceMethod ({ cls := "ChordSheetModel", name := "lengthOf", desc := "(I)I" } : Jvm.MethodName)) ∈ lw_all := lw_g (lw_at lw_m10 34 rfl) rfl
theorem q2257 : (Jvm.Cond.code ({ cls := "ChordSheetModel", name := "lengthOf", desc := "(I)I" } : Jvm.MethodName) prog_11_method_23_code (2 : Nat) (Option.some Jvm.ClassFile.FieldType.int)) ∈ lw_all := lw_g (lw_at lw_m10 35 rfl) rfl
theorem q2262 : (Jvm.Cond.methodLink "ChordSheetModel" (123 : Nat) ({ cls := "ChordSheetModel", name := "lyricAt", desc := "(II)I" } : Jvm.MethodName)) ∈ lw_all := lw_g (lw_at lw_m10 40 rfl) rfl
theorem q2264 : (Jvm.Cond.instanceMethod ({ cls := "ChordSheetModel", name := "lyricAt", desc := "(II)I" } : Jvm.MethodName)) ∈ lw_all := lw_g (lw_at lw_m10 42 rfl) rfl
theorem q2265 : (Jvm.Cond.code ({ cls := "ChordSheetModel", name := "lyricAt", desc := "(II)I" } : Jvm.MethodName) prog_11_method_25_code (3 : Nat) (Option.some Jvm.ClassFile.FieldType.int)) ∈ lw_all := lw_g (lw_at lw_m10 43 rfl) rfl
theorem q2274 : (Jvm.Cond.methodLink "ChordSheetModel" (130 : Nat) ({ cls := "ChordSheetModel", name := "told", desc := "(II)I" } : Jvm.MethodName)) ∈ lw_all := lw_g (lw_at lw_m10 52 rfl) rfl
theorem q2276 : (Jvm.Cond.instanceMethod ({ cls := "ChordSheetModel", name := "told", desc := "(II)I" } : Jvm.MethodName)) ∈ lw_all := lw_g (lw_at lw_m10 54 rfl) rfl
theorem q2277 : (Jvm.Cond.code ({ cls := "ChordSheetModel", name := "told", desc := "(II)I" } : Jvm.MethodName) prog_11_method_29_code (3 : Nat) (Option.some Jvm.ClassFile.FieldType.int)) ∈ lw_all := lw_g (lw_at lw_m10 55 rfl) rfl
theorem q2278 : (Jvm.Cond.methodLink "ChordSheetModel" (127 : Nat) ({ cls := "ChordSheetModel", name := "isChord", desc := "(I)Z" } : Jvm.MethodName)) ∈ lw_all := lw_g (lw_at lw_m10 56 rfl) rfl
theorem q2280 : (Jvm.Cond.instanceMethod ({ cls := "ChordSheetModel", name := "isChord", desc := "(I)Z" } : Jvm.MethodName)) ∈ lw_all := lw_g (lw_at lw_m10 58 rfl) rfl
theorem q2281 : (Jvm.Cond.code ({ cls := "ChordSheetModel", name := "isChord", desc := "(I)Z" } : Jvm.MethodName) prog_11_method_28_code (2 : Nat) (Option.some Jvm.ClassFile.FieldType.boolean)) ∈ lw_all := lw_g (lw_at lw_m10 59 rfl) rfl
theorem q2365 : (Jvm.Cond.methodLink "ChordSheetModel" (171 : Nat) ({ cls := "ChordSheetModel", name := "signatureNow", desc := "()I" } : Jvm.MethodName)) ∈ lw_all := lw_g (lw_at lw_m10 143 rfl) rfl
theorem q2367 : (Jvm.Cond.instanceMethod ({ cls := "ChordSheetModel", name := "signatureNow", desc := "()I" } : Jvm.MethodName)) ∈ lw_all := lw_g (lw_at lw_m10 145 rfl) rfl
theorem q2368 : (Jvm.Cond.code ({ cls := "ChordSheetModel", name := "signatureNow", desc := "()I" } : Jvm.MethodName) prog_11_method_52_code (1 : Nat) (Option.some Jvm.ClassFile.FieldType.int)) ∈ lw_all := lw_g (lw_at lw_m10 146 rfl) rfl
/-- room of a sheet in a row of numbers -/
def shL (S : zSh) : Prop := lsm S.ls ≤ 200 ∧ S.ls.length ≤ 201 ∧ S.cs.length ≤ 40
def pS (P : Nat → Int) (hi : List zSh) : Prop := ∀ (i : Nat) (S : zSh), hi[i]? = some S → vS (fun k => P (620 * i + k)) S
/-- the world of a ChordSheetModel -/
def mdW (h : zH) (A : zMA) (σ : zSt) (th : Int) : Prop := ∃ (ap nt rr rq rb wh nd up lo : Int) (V P T M N U W : Nat → Int), mM h A ((σ.hi.length : Nat) : Int) ((σ.tx.length : Nat) : Int) σ.si σ.fl σ.wd th ap nt rr rq rb wh nd up lo V P T M N U W ∧ vS V σ.sh ∧ pS P σ.hi ∧ txA σ.tx T ∧ stR σ ∧ shL σ.sh ∧ ∀ S ∈ σ.hi, shL S
theorem vS.c {V : Nat → Int} {S : zSh} (hS : vS V S) {i : Int} {x : zCh} (hi : 0 ≤ i) (hx : S.cs[i.toNat]? = some x) : V (210 + 5 * i.toNat) = x.1 ∧ V (210 + 5 * i.toNat + 1) = x.2.1 ∧ V (210 + 5 * i.toNat + 2) = x.2.2.1 ∧ V (210 + 5 * i.toNat + 3) = x.2.2.2.1 ∧ V (210 + 5 * i.toNat + 4) = x.2.2.2.2 := hS.2.2.2.2.2.1 _ _ hx
theorem txA_app {T : List Int} {F : Nat → Int} {b : Int} (h : txA T F) : txA (T ++ [b]) (updI F T.length b) := by
  intro j d e
  unfold updI
  by_cases q : j = T.length
  · rw [if_pos q]
    rw [q, List.getElem?_append_right (Nat.le_refl _)] at e
    simp at e
    exact e
  · rw [if_neg q]
    have hj := (List.getElem?_eq_some_iff.mp e).1
    simp at hj
    rw [List.getElem?_append_left (by omega)] at e
    exact h j d e
set_option maxHeartbeats 4000000 in
theorem md_thrown {l : Launch} (hl : l.stackTraces = false) {Γ : zCx} {h : zH} {A : zMA} {σ : zSt} {th : Int} (hW : mdW h A σ th)  : zMet l yX4_thrown (ws_ yX4_thrown cX4_thrown 1 (some .int)) ({ frames := 0, cells := 0, slots := 0, locals := 0 }) Γ h [.ref A.m] (zpure h (some (.int (iI th)))) 0 0 := by
  refine zMet.of (cc := cX4_thrown) hl (plainFor_of_name (by decide +kernel)) (Nat.le_of_ble_eq_true rfl) ?_
  intro X hXl hXΓ hXp C hnm hnL
  have C : zC X cX4_thrown RX4 (some .int) 0 0 [] := C
  have hnL : X.2.1.2.2.2.2 = 1 := hnL
  subst hXl hXΓ
  show Z X h 0 0 [(0, .ref A.m)] 0 []
  obtain ⟨ap, nt, rr, rq, rb, wh, nd, up, lo, V, P, T, M, N, U, W, hM, hS, hP, htq, hR, hsl, hslh⟩ := id hW
  obtain ⟨rsi, rff, rwd, rtl, rtx, rsh, rhi, rhl⟩ := id hR
  obtain ⟨rcl, rcr, rll, rlt, rkt, rkm, rks⟩ := id rsh
  obtain ⟨hsl1, hsl2, hsl3⟩ := id hsl
  have hTr := rtx
  have hTl := rtl
  obtain ⟨gm_1, gv_1, gpa_1, gtx_1, gma_1, gna_1, gua_1, gla_1, gle_1, gqa_1, gd_1⟩ := id hM
  refine z_aload_n (pc := 0) (j := 0) C dX4_thrown_0 rfl rfl ?_
  refine z_getfield (pc := 1) (v := .int (iI th)) C in_X4 rfl 8 (by decide) q2090 (fun _ z => z) gm_1 rfl dX4_thrown_1 ?_
  exact z_ireturn (pc := 4) C (by rw [hXp]; exact zpure_i rfl rfl) dX4_thrown_4
set_option maxHeartbeats 4000000 in
theorem md_lines {l : Launch} (hl : l.stackTraces = false) {Γ : zCx} {h : zH} {A : zMA} {σ : zSt} {th : Int} (hW : mdW h A σ th)  : zMet l yX4_lines (ws_ yX4_lines cX4_lines 1 (some .int)) ({ frames := 0, cells := 0, slots := 0, locals := 0 }) Γ h [.ref A.m] (zrt (fun w h' => w = some (.int (iI (((σ.sh.ls.length : Nat) : Int)))) ∧ mdW h' A σ 0 ∧ zkeep h h' [A.m, A.v, A.pa, A.tx, A.ma, A.na, A.ua, A.la])) 0 0 := by
  refine zMet.of (cc := cX4_lines) hl (plainFor_of_name (by decide +kernel)) (Nat.le_of_ble_eq_true rfl) ?_
  intro X hXl hXΓ hXp C hnm hnL
  have C : zC X cX4_lines RX4 (some .int) 0 0 [] := C
  have hnL : X.2.1.2.2.2.2 = 1 := hnL
  subst hXl hXΓ
  show Z X h 0 0 [(0, .ref A.m)] 0 []
  obtain ⟨ap, nt, rr, rq, rb, wh, nd, up, lo, V, P, T, M, N, U, W, hM, hS, hP, htq, hR, hsl, hslh⟩ := id hW
  obtain ⟨rsi, rff, rwd, rtl, rtx, rsh, rhi, rhl⟩ := id hR
  obtain ⟨rcl, rcr, rll, rlt, rkt, rkm, rks⟩ := id rsh
  obtain ⟨hsl1, hsl2, hsl3⟩ := id hsl
  have hTr := rtx
  have hTl := rtl
  obtain ⟨gm_1, gv_1, gpa_1, gtx_1, gma_1, gna_1, gua_1, gla_1, gle_1, gqa_1, gd_1⟩ := id hM
  refine z_aload_n (pc := 0) (j := 0) C dX4_lines_0 rfl rfl ?_
  refine z_iconst (pc := 1) C dX4_lines_1 ?_
  refine z_putfield (pc := 2) (fs' := [.ref A.v, .ref A.pa, .int (iI ((σ.hi.length : Nat) : Int)), .ref A.tx, .int (iI ((σ.tx.length : Nat) : Int)), .int (iI σ.si), .int (iI σ.fl), .int (iI σ.wd), .int (iI 0), .ref A.le, .ref A.qa, .int (iI ap), .int (iI nt), .int (iI rr), .int (iI rq), .int (iI rb), .int (iI wh), .ref A.ma, .ref A.na, .int (iI nd), .ref A.ua, .ref A.la, .int (iI up), .int (iI lo)]) C in_X4 tyX4 tyX4_ok nmX4 rfl 8 (by decide) q2090 (fun _ z => z) rfl rfl rfl (Nat.le_of_ble_eq_true rfl) gm_1 rfl dX4_lines_2 ?_
  refine Z.nm (fun h2 eh2 => ?_)
  have kh2 : zkeep h h2 [A.m, A.v, A.pa, A.tx, A.ma, A.na, A.ua, A.la] := by rw [eh2]; exact zkeep.up zkeep.rf (Or.inl (by simp)) gm_1
  have fh2_0 : h2 A.m = some (true, .inr (3, [.ref A.v, .ref A.pa, .int (iI ((σ.hi.length : Nat) : Int)), .ref A.tx, .int (iI ((σ.tx.length : Nat) : Int)), .int (iI σ.si), .int (iI σ.fl), .int (iI σ.wd), .int (iI 0), .ref A.le, .ref A.qa, .int (iI ap), .int (iI nt), .int (iI rr), .int (iI rq), .int (iI rb), .int (iI wh), .ref A.ma, .ref A.na, .int (iI nd), .ref A.ua, .ref A.la, .int (iI up), .int (iI lo)])) := zse eh2
  have fh2_1 : h2 A.v = some (true, .inl (.int, 620, (mA V))) := zsn eh2 gv_1 (Ne.symm (zneA gm_1 gv_1))
  have fh2_2 : h2 A.pa = some (true, .inl (.int, 4960, (mA P))) := zsn eh2 gpa_1 (Ne.symm (zneA gm_1 gpa_1))
  have fh2_3 : h2 A.tx = some (true, .inl (.int, 200, (mA T))) := zsn eh2 gtx_1 (Ne.symm (zneA gm_1 gtx_1))
  have fh2_4 : h2 A.ma = some (true, .inl (.int, 620, (mA M))) := zsn eh2 gma_1 (Ne.symm (zneA gm_1 gma_1))
  have fh2_5 : h2 A.na = some (true, .inl (.int, 20, (mA N))) := zsn eh2 gna_1 (Ne.symm (zneA gm_1 gna_1))
  have fh2_6 : h2 A.ua = some (true, .inl (.int, 1200, (mA U))) := zsn eh2 gua_1 (Ne.symm (zneA gm_1 gua_1))
  have fh2_7 : h2 A.la = some (true, .inl (.int, 1200, (mA W))) := zsn eh2 gla_1 (Ne.symm (zneA gm_1 gla_1))
  refine z_aload_n (pc := 5) (j := 0) C dX4_lines_5 rfl rfl ?_
  refine z_getfield (pc := 6) (v := .ref A.v) C in_X4 rfl 0 (by decide) q2082 (fun _ z => z) fh2_0 rfl dX4_lines_6 ?_
  refine z_iconst (pc := 9) C dX4_lines_9 ?_
  refine z_iaload (pc := 10) (v := .int (iI ((σ.sh.ls.length : Nat) : Int))) C fh2_1 (by omega) (mA_e (vE hS.1 (by omega))) dX4_lines_10 ?_
  exact z_ireturn (pc := 11) C (by rw [hXp]; exact ⟨_, rfl, rfl, ⟨ap, nt, rr, rq, rb, wh, nd, up, lo, V, P, T, M, N, U, W, ⟨fh2_0, fh2_1, fh2_2, fh2_3, fh2_4, fh2_5, fh2_6, fh2_7, (kh2.n gle_1 (List.not_mem_cons_of_ne_of_not_mem (Ne.symm (zneA gm_1 gle_1)) (List.not_mem_cons_of_ne_of_not_mem (zneT gle_1 gv_1 (by simp)) (List.not_mem_cons_of_ne_of_not_mem (zneT gle_1 gpa_1 (by simp)) (List.not_mem_cons_of_ne_of_not_mem (zneT gle_1 gtx_1 (by simp)) (List.not_mem_cons_of_ne_of_not_mem (zneT gle_1 gma_1 (by simp)) (List.not_mem_cons_of_ne_of_not_mem (zneT gle_1 gna_1 (by simp)) (List.not_mem_cons_of_ne_of_not_mem (zneT gle_1 gua_1 (by simp)) (List.not_mem_cons_of_ne_of_not_mem (zneT gle_1 gla_1 (by simp)) List.not_mem_nil))))))))), (kh2.n gqa_1 (List.not_mem_cons_of_ne_of_not_mem (Ne.symm (zneA gm_1 gqa_1)) (List.not_mem_cons_of_ne_of_not_mem (zneT gqa_1 gv_1 (by simp)) (List.not_mem_cons_of_ne_of_not_mem (zneT gqa_1 gpa_1 (by simp)) (List.not_mem_cons_of_ne_of_not_mem (zneT gqa_1 gtx_1 (by simp)) (List.not_mem_cons_of_ne_of_not_mem (zneT gqa_1 gma_1 (by simp)) (List.not_mem_cons_of_ne_of_not_mem (zneT gqa_1 gna_1 (by simp)) (List.not_mem_cons_of_ne_of_not_mem (zneT gqa_1 gua_1 (by simp)) (List.not_mem_cons_of_ne_of_not_mem (zneT gqa_1 gla_1 (by simp)) List.not_mem_nil))))))))), gd_1⟩, hS, hP, htq, hR, hsl, hslh⟩, kh2⟩) dX4_lines_11
set_option maxHeartbeats 4000000 in
theorem md_chords {l : Launch} (hl : l.stackTraces = false) {Γ : zCx} {h : zH} {A : zMA} {σ : zSt} {th : Int} (hW : mdW h A σ th)  : zMet l yX4_chords (ws_ yX4_chords cX4_chords 1 (some .int)) ({ frames := 0, cells := 0, slots := 0, locals := 0 }) Γ h [.ref A.m] (zrt (fun w h' => w = some (.int (iI (((σ.sh.cs.length : Nat) : Int)))) ∧ mdW h' A σ 0 ∧ zkeep h h' [A.m, A.v, A.pa, A.tx, A.ma, A.na, A.ua, A.la])) 0 0 := by
  refine zMet.of (cc := cX4_chords) hl (plainFor_of_name (by decide +kernel)) (Nat.le_of_ble_eq_true rfl) ?_
  intro X hXl hXΓ hXp C hnm hnL
  have C : zC X cX4_chords RX4 (some .int) 0 0 [] := C
  have hnL : X.2.1.2.2.2.2 = 1 := hnL
  subst hXl hXΓ
  show Z X h 0 0 [(0, .ref A.m)] 0 []
  obtain ⟨ap, nt, rr, rq, rb, wh, nd, up, lo, V, P, T, M, N, U, W, hM, hS, hP, htq, hR, hsl, hslh⟩ := id hW
  obtain ⟨rsi, rff, rwd, rtl, rtx, rsh, rhi, rhl⟩ := id hR
  obtain ⟨rcl, rcr, rll, rlt, rkt, rkm, rks⟩ := id rsh
  obtain ⟨hsl1, hsl2, hsl3⟩ := id hsl
  have hTr := rtx
  have hTl := rtl
  obtain ⟨gm_1, gv_1, gpa_1, gtx_1, gma_1, gna_1, gua_1, gla_1, gle_1, gqa_1, gd_1⟩ := id hM
  refine z_aload_n (pc := 0) (j := 0) C dX4_chords_0 rfl rfl ?_
  refine z_iconst (pc := 1) C dX4_chords_1 ?_
  refine z_putfield (pc := 2) (fs' := [.ref A.v, .ref A.pa, .int (iI ((σ.hi.length : Nat) : Int)), .ref A.tx, .int (iI ((σ.tx.length : Nat) : Int)), .int (iI σ.si), .int (iI σ.fl), .int (iI σ.wd), .int (iI 0), .ref A.le, .ref A.qa, .int (iI ap), .int (iI nt), .int (iI rr), .int (iI rq), .int (iI rb), .int (iI wh), .ref A.ma, .ref A.na, .int (iI nd), .ref A.ua, .ref A.la, .int (iI up), .int (iI lo)]) C in_X4 tyX4 tyX4_ok nmX4 rfl 8 (by decide) q2090 (fun _ z => z) rfl rfl rfl (Nat.le_of_ble_eq_true rfl) gm_1 rfl dX4_chords_2 ?_
  refine Z.nm (fun h2 eh2 => ?_)
  have kh2 : zkeep h h2 [A.m, A.v, A.pa, A.tx, A.ma, A.na, A.ua, A.la] := by rw [eh2]; exact zkeep.up zkeep.rf (Or.inl (by simp)) gm_1
  have fh2_0 : h2 A.m = some (true, .inr (3, [.ref A.v, .ref A.pa, .int (iI ((σ.hi.length : Nat) : Int)), .ref A.tx, .int (iI ((σ.tx.length : Nat) : Int)), .int (iI σ.si), .int (iI σ.fl), .int (iI σ.wd), .int (iI 0), .ref A.le, .ref A.qa, .int (iI ap), .int (iI nt), .int (iI rr), .int (iI rq), .int (iI rb), .int (iI wh), .ref A.ma, .ref A.na, .int (iI nd), .ref A.ua, .ref A.la, .int (iI up), .int (iI lo)])) := zse eh2
  have fh2_1 : h2 A.v = some (true, .inl (.int, 620, (mA V))) := zsn eh2 gv_1 (Ne.symm (zneA gm_1 gv_1))
  have fh2_2 : h2 A.pa = some (true, .inl (.int, 4960, (mA P))) := zsn eh2 gpa_1 (Ne.symm (zneA gm_1 gpa_1))
  have fh2_3 : h2 A.tx = some (true, .inl (.int, 200, (mA T))) := zsn eh2 gtx_1 (Ne.symm (zneA gm_1 gtx_1))
  have fh2_4 : h2 A.ma = some (true, .inl (.int, 620, (mA M))) := zsn eh2 gma_1 (Ne.symm (zneA gm_1 gma_1))
  have fh2_5 : h2 A.na = some (true, .inl (.int, 20, (mA N))) := zsn eh2 gna_1 (Ne.symm (zneA gm_1 gna_1))
  have fh2_6 : h2 A.ua = some (true, .inl (.int, 1200, (mA U))) := zsn eh2 gua_1 (Ne.symm (zneA gm_1 gua_1))
  have fh2_7 : h2 A.la = some (true, .inl (.int, 1200, (mA W))) := zsn eh2 gla_1 (Ne.symm (zneA gm_1 gla_1))
  refine z_aload_n (pc := 5) (j := 0) C dX4_chords_5 rfl rfl ?_
  refine z_getfield (pc := 6) (v := .ref A.v) C in_X4 rfl 0 (by decide) q2082 (fun _ z => z) fh2_0 rfl dX4_chords_6 ?_
  refine z_iconst (pc := 9) C dX4_chords_9 ?_
  refine z_iaload (pc := 10) (v := .int (iI ((σ.sh.cs.length : Nat) : Int))) C fh2_1 (by omega) (mA_e (vE hS.2.1 (by omega))) dX4_chords_10 ?_
  exact z_ireturn (pc := 11) C (by rw [hXp]; exact ⟨_, rfl, rfl, ⟨ap, nt, rr, rq, rb, wh, nd, up, lo, V, P, T, M, N, U, W, ⟨fh2_0, fh2_1, fh2_2, fh2_3, fh2_4, fh2_5, fh2_6, fh2_7, (kh2.n gle_1 (List.not_mem_cons_of_ne_of_not_mem (Ne.symm (zneA gm_1 gle_1)) (List.not_mem_cons_of_ne_of_not_mem (zneT gle_1 gv_1 (by simp)) (List.not_mem_cons_of_ne_of_not_mem (zneT gle_1 gpa_1 (by simp)) (List.not_mem_cons_of_ne_of_not_mem (zneT gle_1 gtx_1 (by simp)) (List.not_mem_cons_of_ne_of_not_mem (zneT gle_1 gma_1 (by simp)) (List.not_mem_cons_of_ne_of_not_mem (zneT gle_1 gna_1 (by simp)) (List.not_mem_cons_of_ne_of_not_mem (zneT gle_1 gua_1 (by simp)) (List.not_mem_cons_of_ne_of_not_mem (zneT gle_1 gla_1 (by simp)) List.not_mem_nil))))))))), (kh2.n gqa_1 (List.not_mem_cons_of_ne_of_not_mem (Ne.symm (zneA gm_1 gqa_1)) (List.not_mem_cons_of_ne_of_not_mem (zneT gqa_1 gv_1 (by simp)) (List.not_mem_cons_of_ne_of_not_mem (zneT gqa_1 gpa_1 (by simp)) (List.not_mem_cons_of_ne_of_not_mem (zneT gqa_1 gtx_1 (by simp)) (List.not_mem_cons_of_ne_of_not_mem (zneT gqa_1 gma_1 (by simp)) (List.not_mem_cons_of_ne_of_not_mem (zneT gqa_1 gna_1 (by simp)) (List.not_mem_cons_of_ne_of_not_mem (zneT gqa_1 gua_1 (by simp)) (List.not_mem_cons_of_ne_of_not_mem (zneT gqa_1 gla_1 (by simp)) List.not_mem_nil))))))))), gd_1⟩, hS, hP, htq, hR, hsl, hslh⟩, kh2⟩) dX4_chords_11
set_option maxHeartbeats 4000000 in
theorem md_tonic {l : Launch} (hl : l.stackTraces = false) {Γ : zCx} {h : zH} {A : zMA} {σ : zSt} {th : Int} (hW : mdW h A σ th)  : zMet l yX4_tonic (ws_ yX4_tonic cX4_tonic 1 (some .int)) ({ frames := 0, cells := 0, slots := 0, locals := 0 }) Γ h [.ref A.m] (zrt (fun w h' => w = some (.int (iI (σ.sh.t))) ∧ mdW h' A σ 0 ∧ zkeep h h' [A.m, A.v, A.pa, A.tx, A.ma, A.na, A.ua, A.la])) 0 0 := by
  refine zMet.of (cc := cX4_tonic) hl (plainFor_of_name (by decide +kernel)) (Nat.le_of_ble_eq_true rfl) ?_
  intro X hXl hXΓ hXp C hnm hnL
  have C : zC X cX4_tonic RX4 (some .int) 0 0 [] := C
  have hnL : X.2.1.2.2.2.2 = 1 := hnL
  subst hXl hXΓ
  show Z X h 0 0 [(0, .ref A.m)] 0 []
  obtain ⟨ap, nt, rr, rq, rb, wh, nd, up, lo, V, P, T, M, N, U, W, hM, hS, hP, htq, hR, hsl, hslh⟩ := id hW
  obtain ⟨rsi, rff, rwd, rtl, rtx, rsh, rhi, rhl⟩ := id hR
  obtain ⟨rcl, rcr, rll, rlt, rkt, rkm, rks⟩ := id rsh
  obtain ⟨hsl1, hsl2, hsl3⟩ := id hsl
  have hTr := rtx
  have hTl := rtl
  obtain ⟨gm_1, gv_1, gpa_1, gtx_1, gma_1, gna_1, gua_1, gla_1, gle_1, gqa_1, gd_1⟩ := id hM
  refine z_aload_n (pc := 0) (j := 0) C dX4_tonic_0 rfl rfl ?_
  refine z_iconst (pc := 1) C dX4_tonic_1 ?_
  refine z_putfield (pc := 2) (fs' := [.ref A.v, .ref A.pa, .int (iI ((σ.hi.length : Nat) : Int)), .ref A.tx, .int (iI ((σ.tx.length : Nat) : Int)), .int (iI σ.si), .int (iI σ.fl), .int (iI σ.wd), .int (iI 0), .ref A.le, .ref A.qa, .int (iI ap), .int (iI nt), .int (iI rr), .int (iI rq), .int (iI rb), .int (iI wh), .ref A.ma, .ref A.na, .int (iI nd), .ref A.ua, .ref A.la, .int (iI up), .int (iI lo)]) C in_X4 tyX4 tyX4_ok nmX4 rfl 8 (by decide) q2090 (fun _ z => z) rfl rfl rfl (Nat.le_of_ble_eq_true rfl) gm_1 rfl dX4_tonic_2 ?_
  refine Z.nm (fun h2 eh2 => ?_)
  have kh2 : zkeep h h2 [A.m, A.v, A.pa, A.tx, A.ma, A.na, A.ua, A.la] := by rw [eh2]; exact zkeep.up zkeep.rf (Or.inl (by simp)) gm_1
  have fh2_0 : h2 A.m = some (true, .inr (3, [.ref A.v, .ref A.pa, .int (iI ((σ.hi.length : Nat) : Int)), .ref A.tx, .int (iI ((σ.tx.length : Nat) : Int)), .int (iI σ.si), .int (iI σ.fl), .int (iI σ.wd), .int (iI 0), .ref A.le, .ref A.qa, .int (iI ap), .int (iI nt), .int (iI rr), .int (iI rq), .int (iI rb), .int (iI wh), .ref A.ma, .ref A.na, .int (iI nd), .ref A.ua, .ref A.la, .int (iI up), .int (iI lo)])) := zse eh2
  have fh2_1 : h2 A.v = some (true, .inl (.int, 620, (mA V))) := zsn eh2 gv_1 (Ne.symm (zneA gm_1 gv_1))
  have fh2_2 : h2 A.pa = some (true, .inl (.int, 4960, (mA P))) := zsn eh2 gpa_1 (Ne.symm (zneA gm_1 gpa_1))
  have fh2_3 : h2 A.tx = some (true, .inl (.int, 200, (mA T))) := zsn eh2 gtx_1 (Ne.symm (zneA gm_1 gtx_1))
  have fh2_4 : h2 A.ma = some (true, .inl (.int, 620, (mA M))) := zsn eh2 gma_1 (Ne.symm (zneA gm_1 gma_1))
  have fh2_5 : h2 A.na = some (true, .inl (.int, 20, (mA N))) := zsn eh2 gna_1 (Ne.symm (zneA gm_1 gna_1))
  have fh2_6 : h2 A.ua = some (true, .inl (.int, 1200, (mA U))) := zsn eh2 gua_1 (Ne.symm (zneA gm_1 gua_1))
  have fh2_7 : h2 A.la = some (true, .inl (.int, 1200, (mA W))) := zsn eh2 gla_1 (Ne.symm (zneA gm_1 gla_1))
  refine z_aload_n (pc := 5) (j := 0) C dX4_tonic_5 rfl rfl ?_
  refine z_getfield (pc := 6) (v := .ref A.v) C in_X4 rfl 0 (by decide) q2082 (fun _ z => z) fh2_0 rfl dX4_tonic_6 ?_
  refine z_iconst (pc := 9) C dX4_tonic_9 ?_
  refine z_iaload (pc := 10) (v := .int (iI σ.sh.t)) C fh2_1 (by omega) (mA_e (vE hS.2.2.1 (by omega))) dX4_tonic_10 ?_
  exact z_ireturn (pc := 11) C (by rw [hXp]; exact ⟨_, rfl, rfl, ⟨ap, nt, rr, rq, rb, wh, nd, up, lo, V, P, T, M, N, U, W, ⟨fh2_0, fh2_1, fh2_2, fh2_3, fh2_4, fh2_5, fh2_6, fh2_7, (kh2.n gle_1 (List.not_mem_cons_of_ne_of_not_mem (Ne.symm (zneA gm_1 gle_1)) (List.not_mem_cons_of_ne_of_not_mem (zneT gle_1 gv_1 (by simp)) (List.not_mem_cons_of_ne_of_not_mem (zneT gle_1 gpa_1 (by simp)) (List.not_mem_cons_of_ne_of_not_mem (zneT gle_1 gtx_1 (by simp)) (List.not_mem_cons_of_ne_of_not_mem (zneT gle_1 gma_1 (by simp)) (List.not_mem_cons_of_ne_of_not_mem (zneT gle_1 gna_1 (by simp)) (List.not_mem_cons_of_ne_of_not_mem (zneT gle_1 gua_1 (by simp)) (List.not_mem_cons_of_ne_of_not_mem (zneT gle_1 gla_1 (by simp)) List.not_mem_nil))))))))), (kh2.n gqa_1 (List.not_mem_cons_of_ne_of_not_mem (Ne.symm (zneA gm_1 gqa_1)) (List.not_mem_cons_of_ne_of_not_mem (zneT gqa_1 gv_1 (by simp)) (List.not_mem_cons_of_ne_of_not_mem (zneT gqa_1 gpa_1 (by simp)) (List.not_mem_cons_of_ne_of_not_mem (zneT gqa_1 gtx_1 (by simp)) (List.not_mem_cons_of_ne_of_not_mem (zneT gqa_1 gma_1 (by simp)) (List.not_mem_cons_of_ne_of_not_mem (zneT gqa_1 gna_1 (by simp)) (List.not_mem_cons_of_ne_of_not_mem (zneT gqa_1 gua_1 (by simp)) (List.not_mem_cons_of_ne_of_not_mem (zneT gqa_1 gla_1 (by simp)) List.not_mem_nil))))))))), gd_1⟩, hS, hP, htq, hR, hsl, hslh⟩, kh2⟩) dX4_tonic_11
set_option maxHeartbeats 4000000 in
theorem md_isMinor {l : Launch} (hl : l.stackTraces = false) {Γ : zCx} {h : zH} {A : zMA} {σ : zSt} {th : Int} (hW : mdW h A σ th)  : zMet l yX4_isMinor (ws_ yX4_isMinor cX4_isMinor 1 (some .boolean)) ({ frames := 0, cells := 0, slots := 0, locals := 0 }) Γ h [.ref A.m] (zrt (fun w h' => w = some (.int (iI (σ.sh.m))) ∧ mdW h' A σ 0 ∧ zkeep h h' [A.m, A.v, A.pa, A.tx, A.ma, A.na, A.ua, A.la])) 0 0 := by
  refine zMet.of (cc := cX4_isMinor) hl (plainFor_of_name (by decide +kernel)) (Nat.le_of_ble_eq_true rfl) ?_
  intro X hXl hXΓ hXp C hnm hnL
  have C : zC X cX4_isMinor RX4 (some .boolean) 0 0 [] := C
  have hnL : X.2.1.2.2.2.2 = 1 := hnL
  subst hXl hXΓ
  show Z X h 0 0 [(0, .ref A.m)] 0 []
  obtain ⟨ap, nt, rr, rq, rb, wh, nd, up, lo, V, P, T, M, N, U, W, hM, hS, hP, htq, hR, hsl, hslh⟩ := id hW
  obtain ⟨rsi, rff, rwd, rtl, rtx, rsh, rhi, rhl⟩ := id hR
  obtain ⟨rcl, rcr, rll, rlt, rkt, rkm, rks⟩ := id rsh
  obtain ⟨hsl1, hsl2, hsl3⟩ := id hsl
  have hTr := rtx
  have hTl := rtl
  obtain ⟨gm_1, gv_1, gpa_1, gtx_1, gma_1, gna_1, gua_1, gla_1, gle_1, gqa_1, gd_1⟩ := id hM
  refine z_aload_n (pc := 0) (j := 0) C dX4_isMinor_0 rfl rfl ?_
  refine z_iconst (pc := 1) C dX4_isMinor_1 ?_
  refine z_putfield (pc := 2) (fs' := [.ref A.v, .ref A.pa, .int (iI ((σ.hi.length : Nat) : Int)), .ref A.tx, .int (iI ((σ.tx.length : Nat) : Int)), .int (iI σ.si), .int (iI σ.fl), .int (iI σ.wd), .int (iI 0), .ref A.le, .ref A.qa, .int (iI ap), .int (iI nt), .int (iI rr), .int (iI rq), .int (iI rb), .int (iI wh), .ref A.ma, .ref A.na, .int (iI nd), .ref A.ua, .ref A.la, .int (iI up), .int (iI lo)]) C in_X4 tyX4 tyX4_ok nmX4 rfl 8 (by decide) q2090 (fun _ z => z) rfl rfl rfl (Nat.le_of_ble_eq_true rfl) gm_1 rfl dX4_isMinor_2 ?_
  refine Z.nm (fun h2 eh2 => ?_)
  have kh2 : zkeep h h2 [A.m, A.v, A.pa, A.tx, A.ma, A.na, A.ua, A.la] := by rw [eh2]; exact zkeep.up zkeep.rf (Or.inl (by simp)) gm_1
  have fh2_0 : h2 A.m = some (true, .inr (3, [.ref A.v, .ref A.pa, .int (iI ((σ.hi.length : Nat) : Int)), .ref A.tx, .int (iI ((σ.tx.length : Nat) : Int)), .int (iI σ.si), .int (iI σ.fl), .int (iI σ.wd), .int (iI 0), .ref A.le, .ref A.qa, .int (iI ap), .int (iI nt), .int (iI rr), .int (iI rq), .int (iI rb), .int (iI wh), .ref A.ma, .ref A.na, .int (iI nd), .ref A.ua, .ref A.la, .int (iI up), .int (iI lo)])) := zse eh2
  have fh2_1 : h2 A.v = some (true, .inl (.int, 620, (mA V))) := zsn eh2 gv_1 (Ne.symm (zneA gm_1 gv_1))
  have fh2_2 : h2 A.pa = some (true, .inl (.int, 4960, (mA P))) := zsn eh2 gpa_1 (Ne.symm (zneA gm_1 gpa_1))
  have fh2_3 : h2 A.tx = some (true, .inl (.int, 200, (mA T))) := zsn eh2 gtx_1 (Ne.symm (zneA gm_1 gtx_1))
  have fh2_4 : h2 A.ma = some (true, .inl (.int, 620, (mA M))) := zsn eh2 gma_1 (Ne.symm (zneA gm_1 gma_1))
  have fh2_5 : h2 A.na = some (true, .inl (.int, 20, (mA N))) := zsn eh2 gna_1 (Ne.symm (zneA gm_1 gna_1))
  have fh2_6 : h2 A.ua = some (true, .inl (.int, 1200, (mA U))) := zsn eh2 gua_1 (Ne.symm (zneA gm_1 gua_1))
  have fh2_7 : h2 A.la = some (true, .inl (.int, 1200, (mA W))) := zsn eh2 gla_1 (Ne.symm (zneA gm_1 gla_1))
  refine z_aload_n (pc := 5) (j := 0) C dX4_isMinor_5 rfl rfl ?_
  refine z_getfield (pc := 6) (v := .ref A.v) C in_X4 rfl 0 (by decide) q2082 (fun _ z => z) fh2_0 rfl dX4_isMinor_6 ?_
  refine z_iconst (pc := 9) C dX4_isMinor_9 ?_
  refine z_iaload (pc := 10) (v := .int (iI σ.sh.m)) C fh2_1 (by omega) (mA_e (vE hS.2.2.2.1 (by omega))) dX4_isMinor_10 ?_
  refine z_iconst (pc := 11) C dX4_isMinor_11 ?_
  refine z_icmp_ne (pc := 12) (tgt := 19) C dX4_isMinor_12 (by decide) (by omega) (by decide) (fun c12 => ?_) (fun c12 => ?_)
  · refine z_iconst (pc := 19) C dX4_isMinor_19 ?_
    exact z_zreturn (pc := 20) C (by decide) (by rw [hXp]; exact ⟨_, rfl, (show some (Value.int (iI (0))) = _ by rw [show (0 : Int) = σ.sh.m by omega]), ⟨ap, nt, rr, rq, rb, wh, nd, up, lo, V, P, T, M, N, U, W, ⟨fh2_0, fh2_1, fh2_2, fh2_3, fh2_4, fh2_5, fh2_6, fh2_7, (kh2.n gle_1 (List.not_mem_cons_of_ne_of_not_mem (Ne.symm (zneA gm_1 gle_1)) (List.not_mem_cons_of_ne_of_not_mem (zneT gle_1 gv_1 (by simp)) (List.not_mem_cons_of_ne_of_not_mem (zneT gle_1 gpa_1 (by simp)) (List.not_mem_cons_of_ne_of_not_mem (zneT gle_1 gtx_1 (by simp)) (List.not_mem_cons_of_ne_of_not_mem (zneT gle_1 gma_1 (by simp)) (List.not_mem_cons_of_ne_of_not_mem (zneT gle_1 gna_1 (by simp)) (List.not_mem_cons_of_ne_of_not_mem (zneT gle_1 gua_1 (by simp)) (List.not_mem_cons_of_ne_of_not_mem (zneT gle_1 gla_1 (by simp)) List.not_mem_nil))))))))), (kh2.n gqa_1 (List.not_mem_cons_of_ne_of_not_mem (Ne.symm (zneA gm_1 gqa_1)) (List.not_mem_cons_of_ne_of_not_mem (zneT gqa_1 gv_1 (by simp)) (List.not_mem_cons_of_ne_of_not_mem (zneT gqa_1 gpa_1 (by simp)) (List.not_mem_cons_of_ne_of_not_mem (zneT gqa_1 gtx_1 (by simp)) (List.not_mem_cons_of_ne_of_not_mem (zneT gqa_1 gma_1 (by simp)) (List.not_mem_cons_of_ne_of_not_mem (zneT gqa_1 gna_1 (by simp)) (List.not_mem_cons_of_ne_of_not_mem (zneT gqa_1 gua_1 (by simp)) (List.not_mem_cons_of_ne_of_not_mem (zneT gqa_1 gla_1 (by simp)) List.not_mem_nil))))))))), gd_1⟩, hS, hP, htq, hR, hsl, hslh⟩, kh2⟩) dX4_isMinor_20
  · refine z_iconst (pc := 15) C dX4_isMinor_15 ?_
    refine z_goto (pc := 16) (tgt := 20) C dX4_isMinor_16 (by decide) ?_
    exact z_zreturn (pc := 20) C (by decide) (by rw [hXp]; exact ⟨_, rfl, (show some (Value.int (iI (1))) = _ by rw [show (1 : Int) = σ.sh.m by omega]), ⟨ap, nt, rr, rq, rb, wh, nd, up, lo, V, P, T, M, N, U, W, ⟨fh2_0, fh2_1, fh2_2, fh2_3, fh2_4, fh2_5, fh2_6, fh2_7, (kh2.n gle_1 (List.not_mem_cons_of_ne_of_not_mem (Ne.symm (zneA gm_1 gle_1)) (List.not_mem_cons_of_ne_of_not_mem (zneT gle_1 gv_1 (by simp)) (List.not_mem_cons_of_ne_of_not_mem (zneT gle_1 gpa_1 (by simp)) (List.not_mem_cons_of_ne_of_not_mem (zneT gle_1 gtx_1 (by simp)) (List.not_mem_cons_of_ne_of_not_mem (zneT gle_1 gma_1 (by simp)) (List.not_mem_cons_of_ne_of_not_mem (zneT gle_1 gna_1 (by simp)) (List.not_mem_cons_of_ne_of_not_mem (zneT gle_1 gua_1 (by simp)) (List.not_mem_cons_of_ne_of_not_mem (zneT gle_1 gla_1 (by simp)) List.not_mem_nil))))))))), (kh2.n gqa_1 (List.not_mem_cons_of_ne_of_not_mem (Ne.symm (zneA gm_1 gqa_1)) (List.not_mem_cons_of_ne_of_not_mem (zneT gqa_1 gv_1 (by simp)) (List.not_mem_cons_of_ne_of_not_mem (zneT gqa_1 gpa_1 (by simp)) (List.not_mem_cons_of_ne_of_not_mem (zneT gqa_1 gtx_1 (by simp)) (List.not_mem_cons_of_ne_of_not_mem (zneT gqa_1 gma_1 (by simp)) (List.not_mem_cons_of_ne_of_not_mem (zneT gqa_1 gna_1 (by simp)) (List.not_mem_cons_of_ne_of_not_mem (zneT gqa_1 gua_1 (by simp)) (List.not_mem_cons_of_ne_of_not_mem (zneT gqa_1 gla_1 (by simp)) List.not_mem_nil))))))))), gd_1⟩, hS, hP, htq, hR, hsl, hslh⟩, kh2⟩) dX4_isMinor_20
set_option maxHeartbeats 4000000 in
theorem md_clearText {l : Launch} (hl : l.stackTraces = false) {Γ : zCx} {h : zH} {A : zMA} {σ : zSt} {th : Int} (hW : mdW h A σ th)  : zMet l yX4_clearText (ws_ yX4_clearText cX4_clearText 2 (some .int)) ({ frames := 0, cells := 0, slots := 0, locals := 0 }) Γ h [.ref A.m] (zrt (fun w h' => w = some (.int (iI (((σ.tx.length : Nat) : Int)))) ∧ mdW h' A ([], σ.si, σ.fl, σ.wd, σ.sh, σ.hi) 0 ∧ zkeep h h' [A.m, A.v, A.pa, A.tx, A.ma, A.na, A.ua, A.la])) 0 0 := by
  refine zMet.of (cc := cX4_clearText) hl (plainFor_of_name (by decide +kernel)) (Nat.le_of_ble_eq_true rfl) ?_
  intro X hXl hXΓ hXp C hnm hnL
  have C : zC X cX4_clearText RX4 (some .int) 0 0 [] := C
  have hnL : X.2.1.2.2.2.2 = 2 := hnL
  subst hXl hXΓ
  show Z X h 0 0 [(0, .ref A.m)] 0 []
  obtain ⟨ap, nt, rr, rq, rb, wh, nd, up, lo, V, P, T, M, N, U, W, hM, hS, hP, htq, hR, hsl, hslh⟩ := id hW
  obtain ⟨rsi, rff, rwd, rtl, rtx, rsh, rhi, rhl⟩ := id hR
  obtain ⟨rcl, rcr, rll, rlt, rkt, rkm, rks⟩ := id rsh
  obtain ⟨hsl1, hsl2, hsl3⟩ := id hsl
  have hTr := rtx
  have hTl := rtl
  obtain ⟨gm_1, gv_1, gpa_1, gtx_1, gma_1, gna_1, gua_1, gla_1, gle_1, gqa_1, gd_1⟩ := id hM
  refine z_aload_n (pc := 0) (j := 0) C dX4_clearText_0 rfl rfl ?_
  refine z_iconst (pc := 1) C dX4_clearText_1 ?_
  refine z_putfield (pc := 2) (fs' := [.ref A.v, .ref A.pa, .int (iI ((σ.hi.length : Nat) : Int)), .ref A.tx, .int (iI ((σ.tx.length : Nat) : Int)), .int (iI σ.si), .int (iI σ.fl), .int (iI σ.wd), .int (iI 0), .ref A.le, .ref A.qa, .int (iI ap), .int (iI nt), .int (iI rr), .int (iI rq), .int (iI rb), .int (iI wh), .ref A.ma, .ref A.na, .int (iI nd), .ref A.ua, .ref A.la, .int (iI up), .int (iI lo)]) C in_X4 tyX4 tyX4_ok nmX4 rfl 8 (by decide) q2090 (fun _ z => z) rfl rfl rfl (Nat.le_of_ble_eq_true rfl) gm_1 rfl dX4_clearText_2 ?_
  refine Z.nm (fun h2 eh2 => ?_)
  have kh2 : zkeep h h2 [A.m, A.v, A.pa, A.tx, A.ma, A.na, A.ua, A.la] := by rw [eh2]; exact zkeep.up zkeep.rf (Or.inl (by simp)) gm_1
  have fh2_0 : h2 A.m = some (true, .inr (3, [.ref A.v, .ref A.pa, .int (iI ((σ.hi.length : Nat) : Int)), .ref A.tx, .int (iI ((σ.tx.length : Nat) : Int)), .int (iI σ.si), .int (iI σ.fl), .int (iI σ.wd), .int (iI 0), .ref A.le, .ref A.qa, .int (iI ap), .int (iI nt), .int (iI rr), .int (iI rq), .int (iI rb), .int (iI wh), .ref A.ma, .ref A.na, .int (iI nd), .ref A.ua, .ref A.la, .int (iI up), .int (iI lo)])) := zse eh2
  have fh2_1 : h2 A.v = some (true, .inl (.int, 620, (mA V))) := zsn eh2 gv_1 (Ne.symm (zneA gm_1 gv_1))
  have fh2_2 : h2 A.pa = some (true, .inl (.int, 4960, (mA P))) := zsn eh2 gpa_1 (Ne.symm (zneA gm_1 gpa_1))
  have fh2_3 : h2 A.tx = some (true, .inl (.int, 200, (mA T))) := zsn eh2 gtx_1 (Ne.symm (zneA gm_1 gtx_1))
  have fh2_4 : h2 A.ma = some (true, .inl (.int, 620, (mA M))) := zsn eh2 gma_1 (Ne.symm (zneA gm_1 gma_1))
  have fh2_5 : h2 A.na = some (true, .inl (.int, 20, (mA N))) := zsn eh2 gna_1 (Ne.symm (zneA gm_1 gna_1))
  have fh2_6 : h2 A.ua = some (true, .inl (.int, 1200, (mA U))) := zsn eh2 gua_1 (Ne.symm (zneA gm_1 gua_1))
  have fh2_7 : h2 A.la = some (true, .inl (.int, 1200, (mA W))) := zsn eh2 gla_1 (Ne.symm (zneA gm_1 gla_1))
  refine z_aload_n (pc := 5) (j := 0) C dX4_clearText_5 rfl rfl ?_
  refine z_getfield (pc := 6) (v := .int (iI ((σ.tx.length : Nat) : Int))) C in_X4 rfl 4 (by decide) q2086 (fun _ z => z) fh2_0 rfl dX4_clearText_6 ?_
  refine z_istore_n (pc := 9) (L' := [(1, .int (iI ((σ.tx.length : Nat) : Int))), (0, .ref A.m)]) C dX4_clearText_9 rfl (by rw [hnL]; decide) rfl ?_
  refine z_aload_n (pc := 10) (j := 1) C dX4_clearText_10 rfl rfl ?_
  refine z_iconst (pc := 11) C dX4_clearText_11 ?_
  refine z_putfield (pc := 12) (fs' := [.ref A.v, .ref A.pa, .int (iI ((σ.hi.length : Nat) : Int)), .ref A.tx, .int (iI 0), .int (iI σ.si), .int (iI σ.fl), .int (iI σ.wd), .int (iI 0), .ref A.le, .ref A.qa, .int (iI ap), .int (iI nt), .int (iI rr), .int (iI rq), .int (iI rb), .int (iI wh), .ref A.ma, .ref A.na, .int (iI nd), .ref A.ua, .ref A.la, .int (iI up), .int (iI lo)]) C in_X4 tyX4 tyX4_ok nmX4 rfl 4 (by decide) q2086 (fun _ z => z) rfl rfl rfl (Nat.le_of_ble_eq_true rfl) fh2_0 rfl dX4_clearText_12 ?_
  refine Z.nm (fun h3 eh3 => ?_)
  have kh3 : zkeep h h3 [A.m, A.v, A.pa, A.tx, A.ma, A.na, A.ua, A.la] := by rw [eh3]; exact zkeep.up kh2 (Or.inl (by simp)) fh2_0
  have fh3_0 : h3 A.m = some (true, .inr (3, [.ref A.v, .ref A.pa, .int (iI ((σ.hi.length : Nat) : Int)), .ref A.tx, .int (iI 0), .int (iI σ.si), .int (iI σ.fl), .int (iI σ.wd), .int (iI 0), .ref A.le, .ref A.qa, .int (iI ap), .int (iI nt), .int (iI rr), .int (iI rq), .int (iI rb), .int (iI wh), .ref A.ma, .ref A.na, .int (iI nd), .ref A.ua, .ref A.la, .int (iI up), .int (iI lo)])) := zse eh3
  have fh3_1 : h3 A.v = some (true, .inl (.int, 620, (mA V))) := zsn eh3 fh2_1 (Ne.symm (zneA fh2_0 fh2_1))
  have fh3_2 : h3 A.pa = some (true, .inl (.int, 4960, (mA P))) := zsn eh3 fh2_2 (Ne.symm (zneA fh2_0 fh2_2))
  have fh3_3 : h3 A.tx = some (true, .inl (.int, 200, (mA T))) := zsn eh3 fh2_3 (Ne.symm (zneA fh2_0 fh2_3))
  have fh3_4 : h3 A.ma = some (true, .inl (.int, 620, (mA M))) := zsn eh3 fh2_4 (Ne.symm (zneA fh2_0 fh2_4))
  have fh3_5 : h3 A.na = some (true, .inl (.int, 20, (mA N))) := zsn eh3 fh2_5 (Ne.symm (zneA fh2_0 fh2_5))
  have fh3_6 : h3 A.ua = some (true, .inl (.int, 1200, (mA U))) := zsn eh3 fh2_6 (Ne.symm (zneA fh2_0 fh2_6))
  have fh3_7 : h3 A.la = some (true, .inl (.int, 1200, (mA W))) := zsn eh3 fh2_7 (Ne.symm (zneA fh2_0 fh2_7))
  refine z_iload_n (pc := 15) (j := 0) C dX4_clearText_15 rfl rfl ?_
  exact z_ireturn (pc := 16) C (by rw [hXp]; exact ⟨_, rfl, rfl, ⟨ap, nt, rr, rq, rb, wh, nd, up, lo, V, P, T, M, N, U, W, ⟨fh3_0, fh3_1, fh3_2, fh3_3, fh3_4, fh3_5, fh3_6, fh3_7, (kh3.n gle_1 (List.not_mem_cons_of_ne_of_not_mem (Ne.symm (zneA gm_1 gle_1)) (List.not_mem_cons_of_ne_of_not_mem (zneT gle_1 gv_1 (by simp)) (List.not_mem_cons_of_ne_of_not_mem (zneT gle_1 gpa_1 (by simp)) (List.not_mem_cons_of_ne_of_not_mem (zneT gle_1 gtx_1 (by simp)) (List.not_mem_cons_of_ne_of_not_mem (zneT gle_1 gma_1 (by simp)) (List.not_mem_cons_of_ne_of_not_mem (zneT gle_1 gna_1 (by simp)) (List.not_mem_cons_of_ne_of_not_mem (zneT gle_1 gua_1 (by simp)) (List.not_mem_cons_of_ne_of_not_mem (zneT gle_1 gla_1 (by simp)) List.not_mem_nil))))))))), (kh3.n gqa_1 (List.not_mem_cons_of_ne_of_not_mem (Ne.symm (zneA gm_1 gqa_1)) (List.not_mem_cons_of_ne_of_not_mem (zneT gqa_1 gv_1 (by simp)) (List.not_mem_cons_of_ne_of_not_mem (zneT gqa_1 gpa_1 (by simp)) (List.not_mem_cons_of_ne_of_not_mem (zneT gqa_1 gtx_1 (by simp)) (List.not_mem_cons_of_ne_of_not_mem (zneT gqa_1 gma_1 (by simp)) (List.not_mem_cons_of_ne_of_not_mem (zneT gqa_1 gna_1 (by simp)) (List.not_mem_cons_of_ne_of_not_mem (zneT gqa_1 gua_1 (by simp)) (List.not_mem_cons_of_ne_of_not_mem (zneT gqa_1 gla_1 (by simp)) List.not_mem_nil))))))))), gd_1⟩, hS, hP, (fun j d e => by simp [zSt.tx] at e), ⟨rsi, rff, rwd, Nat.zero_le _, (fun _ h => nomatch h), rsh, rhi, rhl⟩, hsl, hslh⟩, kh3⟩) dX4_clearText_16
set_option maxHeartbeats 4000000 in
theorem md_setSimple {l : Launch} (hl : l.stackTraces = false) {Γ : zCx} {h : zH} {A : zMA} {σ : zSt} {th : Int} (hW : mdW h A σ th) {b : Int} (hb : b = 0 ∨ b = 1)  : zMet l yX4_setSimple (ws_ yX4_setSimple cX4_setSimple 3 (some .boolean)) ({ frames := 0, cells := 0, slots := 0, locals := 0 }) Γ h [.ref A.m, .int (iI b)] (zrt (fun w h' => w = some (.int (iI (σ.si))) ∧ mdW h' A (σ.tx, b, σ.fl, σ.wd, σ.sh, σ.hi) 0 ∧ zkeep h h' [A.m, A.v, A.pa, A.tx, A.ma, A.na, A.ua, A.la])) 0 0 := by
  refine zMet.of (cc := cX4_setSimple) hl (plainFor_of_name (by decide +kernel)) (Nat.le_of_ble_eq_true rfl) ?_
  intro X hXl hXΓ hXp C hnm hnL
  have C : zC X cX4_setSimple RX4 (some .boolean) 0 0 [] := C
  have hnL : X.2.1.2.2.2.2 = 3 := hnL
  subst hXl hXΓ
  show Z X h 0 0 [(0, .ref A.m), (1, .int (iI b))] 0 []
  obtain ⟨ap, nt, rr, rq, rb, wh, nd, up, lo, V, P, T, M, N, U, W, hM, hS, hP, htq, hR, hsl, hslh⟩ := id hW
  obtain ⟨rsi, rff, rwd, rtl, rtx, rsh, rhi, rhl⟩ := id hR
  obtain ⟨rcl, rcr, rll, rlt, rkt, rkm, rks⟩ := id rsh
  obtain ⟨hsl1, hsl2, hsl3⟩ := id hsl
  have hTr := rtx
  have hTl := rtl
  obtain ⟨gm_1, gv_1, gpa_1, gtx_1, gma_1, gna_1, gua_1, gla_1, gle_1, gqa_1, gd_1⟩ := id hM
  refine z_aload_n (pc := 0) (j := 0) C dX4_setSimple_0 rfl rfl ?_
  refine z_iconst (pc := 1) C dX4_setSimple_1 ?_
  refine z_putfield (pc := 2) (fs' := [.ref A.v, .ref A.pa, .int (iI ((σ.hi.length : Nat) : Int)), .ref A.tx, .int (iI ((σ.tx.length : Nat) : Int)), .int (iI σ.si), .int (iI σ.fl), .int (iI σ.wd), .int (iI 0), .ref A.le, .ref A.qa, .int (iI ap), .int (iI nt), .int (iI rr), .int (iI rq), .int (iI rb), .int (iI wh), .ref A.ma, .ref A.na, .int (iI nd), .ref A.ua, .ref A.la, .int (iI up), .int (iI lo)]) C in_X4 tyX4 tyX4_ok nmX4 rfl 8 (by decide) q2090 (fun _ z => z) rfl rfl rfl (Nat.le_of_ble_eq_true rfl) gm_1 rfl dX4_setSimple_2 ?_
  refine Z.nm (fun h2 eh2 => ?_)
  have kh2 : zkeep h h2 [A.m, A.v, A.pa, A.tx, A.ma, A.na, A.ua, A.la] := by rw [eh2]; exact zkeep.up zkeep.rf (Or.inl (by simp)) gm_1
  have fh2_0 : h2 A.m = some (true, .inr (3, [.ref A.v, .ref A.pa, .int (iI ((σ.hi.length : Nat) : Int)), .ref A.tx, .int (iI ((σ.tx.length : Nat) : Int)), .int (iI σ.si), .int (iI σ.fl), .int (iI σ.wd), .int (iI 0), .ref A.le, .ref A.qa, .int (iI ap), .int (iI nt), .int (iI rr), .int (iI rq), .int (iI rb), .int (iI wh), .ref A.ma, .ref A.na, .int (iI nd), .ref A.ua, .ref A.la, .int (iI up), .int (iI lo)])) := zse eh2
  have fh2_1 : h2 A.v = some (true, .inl (.int, 620, (mA V))) := zsn eh2 gv_1 (Ne.symm (zneA gm_1 gv_1))
  have fh2_2 : h2 A.pa = some (true, .inl (.int, 4960, (mA P))) := zsn eh2 gpa_1 (Ne.symm (zneA gm_1 gpa_1))
  have fh2_3 : h2 A.tx = some (true, .inl (.int, 200, (mA T))) := zsn eh2 gtx_1 (Ne.symm (zneA gm_1 gtx_1))
  have fh2_4 : h2 A.ma = some (true, .inl (.int, 620, (mA M))) := zsn eh2 gma_1 (Ne.symm (zneA gm_1 gma_1))
  have fh2_5 : h2 A.na = some (true, .inl (.int, 20, (mA N))) := zsn eh2 gna_1 (Ne.symm (zneA gm_1 gna_1))
  have fh2_6 : h2 A.ua = some (true, .inl (.int, 1200, (mA U))) := zsn eh2 gua_1 (Ne.symm (zneA gm_1 gua_1))
  have fh2_7 : h2 A.la = some (true, .inl (.int, 1200, (mA W))) := zsn eh2 gla_1 (Ne.symm (zneA gm_1 gla_1))
  refine z_aload_n (pc := 5) (j := 0) C dX4_setSimple_5 rfl rfl ?_
  refine z_getfield (pc := 6) (v := .int (iI σ.si)) C in_X4 rfl 5 (by decide) q2087 (fun _ z => z) fh2_0 rfl dX4_setSimple_6 ?_
  refine z_istore_n (pc := 9) (L' := [(2, .int (iI σ.si)), (0, .ref A.m), (1, .int (iI b))]) C dX4_setSimple_9 rfl (by rw [hnL]; decide) rfl ?_
  refine z_aload_n (pc := 10) (j := 1) C dX4_setSimple_10 rfl rfl ?_
  refine z_iload_n (pc := 11) (j := 2) C dX4_setSimple_11 rfl rfl ?_
  refine z_putfield (pc := 12) (fs' := [.ref A.v, .ref A.pa, .int (iI ((σ.hi.length : Nat) : Int)), .ref A.tx, .int (iI ((σ.tx.length : Nat) : Int)), .int (iI b), .int (iI σ.fl), .int (iI σ.wd), .int (iI 0), .ref A.le, .ref A.qa, .int (iI ap), .int (iI nt), .int (iI rr), .int (iI rq), .int (iI rb), .int (iI wh), .ref A.ma, .ref A.na, .int (iI nd), .ref A.ua, .ref A.la, .int (iI up), .int (iI lo)]) C in_X4 tyX4 tyX4_ok nmX4 rfl 5 (by decide) q2087 (fun _ z => z) rfl (i_nz (by omega) (by omega)) (i_fz (by omega) (by omega)) (Nat.le_of_ble_eq_true rfl) fh2_0 rfl dX4_setSimple_12 ?_
  refine Z.nm (fun h3 eh3 => ?_)
  have kh3 : zkeep h h3 [A.m, A.v, A.pa, A.tx, A.ma, A.na, A.ua, A.la] := by rw [eh3]; exact zkeep.up kh2 (Or.inl (by simp)) fh2_0
  have fh3_0 : h3 A.m = some (true, .inr (3, [.ref A.v, .ref A.pa, .int (iI ((σ.hi.length : Nat) : Int)), .ref A.tx, .int (iI ((σ.tx.length : Nat) : Int)), .int (iI b), .int (iI σ.fl), .int (iI σ.wd), .int (iI 0), .ref A.le, .ref A.qa, .int (iI ap), .int (iI nt), .int (iI rr), .int (iI rq), .int (iI rb), .int (iI wh), .ref A.ma, .ref A.na, .int (iI nd), .ref A.ua, .ref A.la, .int (iI up), .int (iI lo)])) := zse eh3
  have fh3_1 : h3 A.v = some (true, .inl (.int, 620, (mA V))) := zsn eh3 fh2_1 (Ne.symm (zneA fh2_0 fh2_1))
  have fh3_2 : h3 A.pa = some (true, .inl (.int, 4960, (mA P))) := zsn eh3 fh2_2 (Ne.symm (zneA fh2_0 fh2_2))
  have fh3_3 : h3 A.tx = some (true, .inl (.int, 200, (mA T))) := zsn eh3 fh2_3 (Ne.symm (zneA fh2_0 fh2_3))
  have fh3_4 : h3 A.ma = some (true, .inl (.int, 620, (mA M))) := zsn eh3 fh2_4 (Ne.symm (zneA fh2_0 fh2_4))
  have fh3_5 : h3 A.na = some (true, .inl (.int, 20, (mA N))) := zsn eh3 fh2_5 (Ne.symm (zneA fh2_0 fh2_5))
  have fh3_6 : h3 A.ua = some (true, .inl (.int, 1200, (mA U))) := zsn eh3 fh2_6 (Ne.symm (zneA fh2_0 fh2_6))
  have fh3_7 : h3 A.la = some (true, .inl (.int, 1200, (mA W))) := zsn eh3 fh2_7 (Ne.symm (zneA fh2_0 fh2_7))
  refine z_iload_n (pc := 15) (j := 0) C dX4_setSimple_15 rfl rfl ?_
  exact z_zreturn (pc := 16) C (i_nz (by omega) (by omega)) (by rw [hXp]; exact ⟨_, rfl, rfl, ⟨ap, nt, rr, rq, rb, wh, nd, up, lo, V, P, T, M, N, U, W, ⟨fh3_0, fh3_1, fh3_2, fh3_3, fh3_4, fh3_5, fh3_6, fh3_7, (kh3.n gle_1 (List.not_mem_cons_of_ne_of_not_mem (Ne.symm (zneA gm_1 gle_1)) (List.not_mem_cons_of_ne_of_not_mem (zneT gle_1 gv_1 (by simp)) (List.not_mem_cons_of_ne_of_not_mem (zneT gle_1 gpa_1 (by simp)) (List.not_mem_cons_of_ne_of_not_mem (zneT gle_1 gtx_1 (by simp)) (List.not_mem_cons_of_ne_of_not_mem (zneT gle_1 gma_1 (by simp)) (List.not_mem_cons_of_ne_of_not_mem (zneT gle_1 gna_1 (by simp)) (List.not_mem_cons_of_ne_of_not_mem (zneT gle_1 gua_1 (by simp)) (List.not_mem_cons_of_ne_of_not_mem (zneT gle_1 gla_1 (by simp)) List.not_mem_nil))))))))), (kh3.n gqa_1 (List.not_mem_cons_of_ne_of_not_mem (Ne.symm (zneA gm_1 gqa_1)) (List.not_mem_cons_of_ne_of_not_mem (zneT gqa_1 gv_1 (by simp)) (List.not_mem_cons_of_ne_of_not_mem (zneT gqa_1 gpa_1 (by simp)) (List.not_mem_cons_of_ne_of_not_mem (zneT gqa_1 gtx_1 (by simp)) (List.not_mem_cons_of_ne_of_not_mem (zneT gqa_1 gma_1 (by simp)) (List.not_mem_cons_of_ne_of_not_mem (zneT gqa_1 gna_1 (by simp)) (List.not_mem_cons_of_ne_of_not_mem (zneT gqa_1 gua_1 (by simp)) (List.not_mem_cons_of_ne_of_not_mem (zneT gqa_1 gla_1 (by simp)) List.not_mem_nil))))))))), gd_1⟩, hS, hP, htq, ⟨hb, rff, rwd, rtl, rtx, rsh, rhi, rhl⟩, hsl, hslh⟩, kh3⟩) dX4_setSimple_16
set_option maxHeartbeats 4000000 in
theorem md_setFlats {l : Launch} (hl : l.stackTraces = false) {Γ : zCx} {h : zH} {A : zMA} {σ : zSt} {th : Int} (hW : mdW h A σ th) {b : Int} (hb : b = 0 ∨ b = 1)  : zMet l yX4_setFlats (ws_ yX4_setFlats cX4_setFlats 3 (some .boolean)) ({ frames := 0, cells := 0, slots := 0, locals := 0 }) Γ h [.ref A.m, .int (iI b)] (zrt (fun w h' => w = some (.int (iI (σ.fl))) ∧ mdW h' A (σ.tx, σ.si, b, σ.wd, σ.sh, σ.hi) 0 ∧ zkeep h h' [A.m, A.v, A.pa, A.tx, A.ma, A.na, A.ua, A.la])) 0 0 := by
  refine zMet.of (cc := cX4_setFlats) hl (plainFor_of_name (by decide +kernel)) (Nat.le_of_ble_eq_true rfl) ?_
  intro X hXl hXΓ hXp C hnm hnL
  have C : zC X cX4_setFlats RX4 (some .boolean) 0 0 [] := C
  have hnL : X.2.1.2.2.2.2 = 3 := hnL
  subst hXl hXΓ
  show Z X h 0 0 [(0, .ref A.m), (1, .int (iI b))] 0 []
  obtain ⟨ap, nt, rr, rq, rb, wh, nd, up, lo, V, P, T, M, N, U, W, hM, hS, hP, htq, hR, hsl, hslh⟩ := id hW
  obtain ⟨rsi, rff, rwd, rtl, rtx, rsh, rhi, rhl⟩ := id hR
  obtain ⟨rcl, rcr, rll, rlt, rkt, rkm, rks⟩ := id rsh
  obtain ⟨hsl1, hsl2, hsl3⟩ := id hsl
  have hTr := rtx
  have hTl := rtl
  obtain ⟨gm_1, gv_1, gpa_1, gtx_1, gma_1, gna_1, gua_1, gla_1, gle_1, gqa_1, gd_1⟩ := id hM
  refine z_aload_n (pc := 0) (j := 0) C dX4_setFlats_0 rfl rfl ?_
  refine z_iconst (pc := 1) C dX4_setFlats_1 ?_
  refine z_putfield (pc := 2) (fs' := [.ref A.v, .ref A.pa, .int (iI ((σ.hi.length : Nat) : Int)), .ref A.tx, .int (iI ((σ.tx.length : Nat) : Int)), .int (iI σ.si), .int (iI σ.fl), .int (iI σ.wd), .int (iI 0), .ref A.le, .ref A.qa, .int (iI ap), .int (iI nt), .int (iI rr), .int (iI rq), .int (iI rb), .int (iI wh), .ref A.ma, .ref A.na, .int (iI nd), .ref A.ua, .ref A.la, .int (iI up), .int (iI lo)]) C in_X4 tyX4 tyX4_ok nmX4 rfl 8 (by decide) q2090 (fun _ z => z) rfl rfl rfl (Nat.le_of_ble_eq_true rfl) gm_1 rfl dX4_setFlats_2 ?_
  refine Z.nm (fun h2 eh2 => ?_)
  have kh2 : zkeep h h2 [A.m, A.v, A.pa, A.tx, A.ma, A.na, A.ua, A.la] := by rw [eh2]; exact zkeep.up zkeep.rf (Or.inl (by simp)) gm_1
  have fh2_0 : h2 A.m = some (true, .inr (3, [.ref A.v, .ref A.pa, .int (iI ((σ.hi.length : Nat) : Int)), .ref A.tx, .int (iI ((σ.tx.length : Nat) : Int)), .int (iI σ.si), .int (iI σ.fl), .int (iI σ.wd), .int (iI 0), .ref A.le, .ref A.qa, .int (iI ap), .int (iI nt), .int (iI rr), .int (iI rq), .int (iI rb), .int (iI wh), .ref A.ma, .ref A.na, .int (iI nd), .ref A.ua, .ref A.la, .int (iI up), .int (iI lo)])) := zse eh2
  have fh2_1 : h2 A.v = some (true, .inl (.int, 620, (mA V))) := zsn eh2 gv_1 (Ne.symm (zneA gm_1 gv_1))
  have fh2_2 : h2 A.pa = some (true, .inl (.int, 4960, (mA P))) := zsn eh2 gpa_1 (Ne.symm (zneA gm_1 gpa_1))
  have fh2_3 : h2 A.tx = some (true, .inl (.int, 200, (mA T))) := zsn eh2 gtx_1 (Ne.symm (zneA gm_1 gtx_1))
  have fh2_4 : h2 A.ma = some (true, .inl (.int, 620, (mA M))) := zsn eh2 gma_1 (Ne.symm (zneA gm_1 gma_1))
  have fh2_5 : h2 A.na = some (true, .inl (.int, 20, (mA N))) := zsn eh2 gna_1 (Ne.symm (zneA gm_1 gna_1))
  have fh2_6 : h2 A.ua = some (true, .inl (.int, 1200, (mA U))) := zsn eh2 gua_1 (Ne.symm (zneA gm_1 gua_1))
  have fh2_7 : h2 A.la = some (true, .inl (.int, 1200, (mA W))) := zsn eh2 gla_1 (Ne.symm (zneA gm_1 gla_1))
  refine z_aload_n (pc := 5) (j := 0) C dX4_setFlats_5 rfl rfl ?_
  refine z_getfield (pc := 6) (v := .int (iI σ.fl)) C in_X4 rfl 6 (by decide) q2088 (fun _ z => z) fh2_0 rfl dX4_setFlats_6 ?_
  refine z_istore_n (pc := 9) (L' := [(2, .int (iI σ.fl)), (0, .ref A.m), (1, .int (iI b))]) C dX4_setFlats_9 rfl (by rw [hnL]; decide) rfl ?_
  refine z_aload_n (pc := 10) (j := 1) C dX4_setFlats_10 rfl rfl ?_
  refine z_iload_n (pc := 11) (j := 2) C dX4_setFlats_11 rfl rfl ?_
  refine z_putfield (pc := 12) (fs' := [.ref A.v, .ref A.pa, .int (iI ((σ.hi.length : Nat) : Int)), .ref A.tx, .int (iI ((σ.tx.length : Nat) : Int)), .int (iI σ.si), .int (iI b), .int (iI σ.wd), .int (iI 0), .ref A.le, .ref A.qa, .int (iI ap), .int (iI nt), .int (iI rr), .int (iI rq), .int (iI rb), .int (iI wh), .ref A.ma, .ref A.na, .int (iI nd), .ref A.ua, .ref A.la, .int (iI up), .int (iI lo)]) C in_X4 tyX4 tyX4_ok nmX4 rfl 6 (by decide) q2088 (fun _ z => z) rfl (i_nz (by omega) (by omega)) (i_fz (by omega) (by omega)) (Nat.le_of_ble_eq_true rfl) fh2_0 rfl dX4_setFlats_12 ?_
  refine Z.nm (fun h3 eh3 => ?_)
  have kh3 : zkeep h h3 [A.m, A.v, A.pa, A.tx, A.ma, A.na, A.ua, A.la] := by rw [eh3]; exact zkeep.up kh2 (Or.inl (by simp)) fh2_0
  have fh3_0 : h3 A.m = some (true, .inr (3, [.ref A.v, .ref A.pa, .int (iI ((σ.hi.length : Nat) : Int)), .ref A.tx, .int (iI ((σ.tx.length : Nat) : Int)), .int (iI σ.si), .int (iI b), .int (iI σ.wd), .int (iI 0), .ref A.le, .ref A.qa, .int (iI ap), .int (iI nt), .int (iI rr), .int (iI rq), .int (iI rb), .int (iI wh), .ref A.ma, .ref A.na, .int (iI nd), .ref A.ua, .ref A.la, .int (iI up), .int (iI lo)])) := zse eh3
  have fh3_1 : h3 A.v = some (true, .inl (.int, 620, (mA V))) := zsn eh3 fh2_1 (Ne.symm (zneA fh2_0 fh2_1))
  have fh3_2 : h3 A.pa = some (true, .inl (.int, 4960, (mA P))) := zsn eh3 fh2_2 (Ne.symm (zneA fh2_0 fh2_2))
  have fh3_3 : h3 A.tx = some (true, .inl (.int, 200, (mA T))) := zsn eh3 fh2_3 (Ne.symm (zneA fh2_0 fh2_3))
  have fh3_4 : h3 A.ma = some (true, .inl (.int, 620, (mA M))) := zsn eh3 fh2_4 (Ne.symm (zneA fh2_0 fh2_4))
  have fh3_5 : h3 A.na = some (true, .inl (.int, 20, (mA N))) := zsn eh3 fh2_5 (Ne.symm (zneA fh2_0 fh2_5))
  have fh3_6 : h3 A.ua = some (true, .inl (.int, 1200, (mA U))) := zsn eh3 fh2_6 (Ne.symm (zneA fh2_0 fh2_6))
  have fh3_7 : h3 A.la = some (true, .inl (.int, 1200, (mA W))) := zsn eh3 fh2_7 (Ne.symm (zneA fh2_0 fh2_7))
  refine z_iload_n (pc := 15) (j := 0) C dX4_setFlats_15 rfl rfl ?_
  exact z_zreturn (pc := 16) C (i_nz (by omega) (by omega)) (by rw [hXp]; exact ⟨_, rfl, rfl, ⟨ap, nt, rr, rq, rb, wh, nd, up, lo, V, P, T, M, N, U, W, ⟨fh3_0, fh3_1, fh3_2, fh3_3, fh3_4, fh3_5, fh3_6, fh3_7, (kh3.n gle_1 (List.not_mem_cons_of_ne_of_not_mem (Ne.symm (zneA gm_1 gle_1)) (List.not_mem_cons_of_ne_of_not_mem (zneT gle_1 gv_1 (by simp)) (List.not_mem_cons_of_ne_of_not_mem (zneT gle_1 gpa_1 (by simp)) (List.not_mem_cons_of_ne_of_not_mem (zneT gle_1 gtx_1 (by simp)) (List.not_mem_cons_of_ne_of_not_mem (zneT gle_1 gma_1 (by simp)) (List.not_mem_cons_of_ne_of_not_mem (zneT gle_1 gna_1 (by simp)) (List.not_mem_cons_of_ne_of_not_mem (zneT gle_1 gua_1 (by simp)) (List.not_mem_cons_of_ne_of_not_mem (zneT gle_1 gla_1 (by simp)) List.not_mem_nil))))))))), (kh3.n gqa_1 (List.not_mem_cons_of_ne_of_not_mem (Ne.symm (zneA gm_1 gqa_1)) (List.not_mem_cons_of_ne_of_not_mem (zneT gqa_1 gv_1 (by simp)) (List.not_mem_cons_of_ne_of_not_mem (zneT gqa_1 gpa_1 (by simp)) (List.not_mem_cons_of_ne_of_not_mem (zneT gqa_1 gtx_1 (by simp)) (List.not_mem_cons_of_ne_of_not_mem (zneT gqa_1 gma_1 (by simp)) (List.not_mem_cons_of_ne_of_not_mem (zneT gqa_1 gna_1 (by simp)) (List.not_mem_cons_of_ne_of_not_mem (zneT gqa_1 gua_1 (by simp)) (List.not_mem_cons_of_ne_of_not_mem (zneT gqa_1 gla_1 (by simp)) List.not_mem_nil))))))))), gd_1⟩, hS, hP, htq, ⟨rsi, hb, rwd, rtl, rtx, rsh, rhi, rhl⟩, hsl, hslh⟩, kh3⟩) dX4_setFlats_16
set_option maxHeartbeats 4000000 in
theorem md_setWidth {l : Launch} (hl : l.stackTraces = false) {Γ : zCx} {h : zH} {A : zMA} {σ : zSt} {th : Int} (hW : mdW h A σ th) {b : Int} (hb : 10 ≤ b ∧ b ≤ 200)  : zMet l yX4_setWidth (ws_ yX4_setWidth cX4_setWidth 3 (some .int)) ({ frames := 1, cells := 0, slots := 0, locals := 22 }) Γ h [.ref A.m, .int (iI b)] (zrt (fun w h' => w = some (.int (iI (σ.wd))) ∧ mdW h' A (σ.tx, σ.si, σ.fl, b, σ.sh, σ.hi) 0 ∧ zkeep h h' [A.m, A.v, A.pa, A.tx, A.ma, A.na, A.ua, A.la])) 0 0 := by
  refine zMet.of (cc := cX4_setWidth) hl (plainFor_of_name (by decide +kernel)) (Nat.le_of_ble_eq_true rfl) ?_
  intro X hXl hXΓ hXp C hnm hnL
  have C : zC X cX4_setWidth RX4 (some .int) 1 22 [] := C
  have hnL : X.2.1.2.2.2.2 = 3 := hnL
  subst hXl hXΓ
  show Z X h 0 0 [(0, .ref A.m), (1, .int (iI b))] 0 []
  obtain ⟨ap, nt, rr, rq, rb, wh, nd, up, lo, V, P, T, M, N, U, W, hM, hS, hP, htq, hR, hsl, hslh⟩ := id hW
  obtain ⟨rsi, rff, rwd, rtl, rtx, rsh, rhi, rhl⟩ := id hR
  obtain ⟨rcl, rcr, rll, rlt, rkt, rkm, rks⟩ := id rsh
  obtain ⟨hsl1, hsl2, hsl3⟩ := id hsl
  have hTr := rtx
  have hTl := rtl
  obtain ⟨gm_1, gv_1, gpa_1, gtx_1, gma_1, gna_1, gua_1, gla_1, gle_1, gqa_1, gd_1⟩ := id hM
  refine z_aload_n (pc := 0) (j := 0) C dX4_setWidth_0 rfl rfl ?_
  refine z_iconst (pc := 1) C dX4_setWidth_1 ?_
  refine z_putfield (pc := 2) (fs' := [.ref A.v, .ref A.pa, .int (iI ((σ.hi.length : Nat) : Int)), .ref A.tx, .int (iI ((σ.tx.length : Nat) : Int)), .int (iI σ.si), .int (iI σ.fl), .int (iI σ.wd), .int (iI 0), .ref A.le, .ref A.qa, .int (iI ap), .int (iI nt), .int (iI rr), .int (iI rq), .int (iI rb), .int (iI wh), .ref A.ma, .ref A.na, .int (iI nd), .ref A.ua, .ref A.la, .int (iI up), .int (iI lo)]) C in_X4 tyX4 tyX4_ok nmX4 rfl 8 (by decide) q2090 (fun _ z => z) rfl rfl rfl (Nat.le_of_ble_eq_true rfl) gm_1 rfl dX4_setWidth_2 ?_
  refine Z.nm (fun h2 eh2 => ?_)
  have kh2 : zkeep h h2 [A.m, A.v, A.pa, A.tx, A.ma, A.na, A.ua, A.la] := by rw [eh2]; exact zkeep.up zkeep.rf (Or.inl (by simp)) gm_1
  have fh2_0 : h2 A.m = some (true, .inr (3, [.ref A.v, .ref A.pa, .int (iI ((σ.hi.length : Nat) : Int)), .ref A.tx, .int (iI ((σ.tx.length : Nat) : Int)), .int (iI σ.si), .int (iI σ.fl), .int (iI σ.wd), .int (iI 0), .ref A.le, .ref A.qa, .int (iI ap), .int (iI nt), .int (iI rr), .int (iI rq), .int (iI rb), .int (iI wh), .ref A.ma, .ref A.na, .int (iI nd), .ref A.ua, .ref A.la, .int (iI up), .int (iI lo)])) := zse eh2
  have fh2_1 : h2 A.v = some (true, .inl (.int, 620, (mA V))) := zsn eh2 gv_1 (Ne.symm (zneA gm_1 gv_1))
  have fh2_2 : h2 A.pa = some (true, .inl (.int, 4960, (mA P))) := zsn eh2 gpa_1 (Ne.symm (zneA gm_1 gpa_1))
  have fh2_3 : h2 A.tx = some (true, .inl (.int, 200, (mA T))) := zsn eh2 gtx_1 (Ne.symm (zneA gm_1 gtx_1))
  have fh2_4 : h2 A.ma = some (true, .inl (.int, 620, (mA M))) := zsn eh2 gma_1 (Ne.symm (zneA gm_1 gma_1))
  have fh2_5 : h2 A.na = some (true, .inl (.int, 20, (mA N))) := zsn eh2 gna_1 (Ne.symm (zneA gm_1 gna_1))
  have fh2_6 : h2 A.ua = some (true, .inl (.int, 1200, (mA U))) := zsn eh2 gua_1 (Ne.symm (zneA gm_1 gua_1))
  have fh2_7 : h2 A.la = some (true, .inl (.int, 1200, (mA W))) := zsn eh2 gla_1 (Ne.symm (zneA gm_1 gla_1))
  refine z_iload_n (pc := 5) (j := 1) C dX4_setWidth_5 rfl rfl ?_
  refine z_bipush (pc := 6) C dX4_setWidth_6 (by decide) ?_
  refine z_sipush (pc := 8) C dX4_setWidth_8 (by decide) ?_
  refine z_callS (pc := 11) (n := 3) (kc' := 0) (ks' := 0) C (m_in C.t (x := b) (a := 10) (b := 200) (by omega) (by decide) (by decide)) (lw_S q2164 q2165 q74 q2166) (by decide +kernel) ⟨by decide, by decide⟩ rfl rfl (Nat.le_of_ble_eq_true rfl) dX4_setWidth_11 (by omega) (by omega) (zpk (st' := [.int (iI (if 10 ≤ b ∧ b ≤ 200 then 1 else 0))]) rfl ?_) zrx
  rw [show ((if 10 ≤ b ∧ b ≤ 200 then 1 else 0) : Int) = 1 from if_pos (by omega)]
  show Z X h2 0 0 [(0, .ref A.m), (1, .int (iI b))] 14 [.int (iI 1)]
  refine z_if_ne (pc := 14) (tgt := 23) C dX4_setWidth_14 (by decide) (by decide) (fun _ => ?_) (fun z => absurd z (by decide))
  refine z_aload_n (pc := 23) (j := 0) C dX4_setWidth_23 rfl rfl ?_
  refine z_getfield (pc := 24) (v := .int (iI σ.wd)) C in_X4 rfl 7 (by decide) q2089 (fun _ z => z) fh2_0 rfl dX4_setWidth_24 ?_
  refine z_istore_n (pc := 27) (L' := [(2, .int (iI σ.wd)), (0, .ref A.m), (1, .int (iI b))]) C dX4_setWidth_27 rfl (by rw [hnL]; decide) rfl ?_
  refine z_aload_n (pc := 28) (j := 1) C dX4_setWidth_28 rfl rfl ?_
  refine z_iload_n (pc := 29) (j := 2) C dX4_setWidth_29 rfl rfl ?_
  refine z_putfield (pc := 30) (fs' := [.ref A.v, .ref A.pa, .int (iI ((σ.hi.length : Nat) : Int)), .ref A.tx, .int (iI ((σ.tx.length : Nat) : Int)), .int (iI σ.si), .int (iI σ.fl), .int (iI b), .int (iI 0), .ref A.le, .ref A.qa, .int (iI ap), .int (iI nt), .int (iI rr), .int (iI rq), .int (iI rb), .int (iI wh), .ref A.ma, .ref A.na, .int (iI nd), .ref A.ua, .ref A.la, .int (iI up), .int (iI lo)]) C in_X4 tyX4 tyX4_ok nmX4 rfl 7 (by decide) q2089 (fun _ z => z) rfl rfl rfl (Nat.le_of_ble_eq_true rfl) fh2_0 rfl dX4_setWidth_30 ?_
  refine Z.nm (fun h3 eh3 => ?_)
  have kh3 : zkeep h h3 [A.m, A.v, A.pa, A.tx, A.ma, A.na, A.ua, A.la] := by rw [eh3]; exact zkeep.up kh2 (Or.inl (by simp)) fh2_0
  have fh3_0 : h3 A.m = some (true, .inr (3, [.ref A.v, .ref A.pa, .int (iI ((σ.hi.length : Nat) : Int)), .ref A.tx, .int (iI ((σ.tx.length : Nat) : Int)), .int (iI σ.si), .int (iI σ.fl), .int (iI b), .int (iI 0), .ref A.le, .ref A.qa, .int (iI ap), .int (iI nt), .int (iI rr), .int (iI rq), .int (iI rb), .int (iI wh), .ref A.ma, .ref A.na, .int (iI nd), .ref A.ua, .ref A.la, .int (iI up), .int (iI lo)])) := zse eh3
  have fh3_1 : h3 A.v = some (true, .inl (.int, 620, (mA V))) := zsn eh3 fh2_1 (Ne.symm (zneA fh2_0 fh2_1))
  have fh3_2 : h3 A.pa = some (true, .inl (.int, 4960, (mA P))) := zsn eh3 fh2_2 (Ne.symm (zneA fh2_0 fh2_2))
  have fh3_3 : h3 A.tx = some (true, .inl (.int, 200, (mA T))) := zsn eh3 fh2_3 (Ne.symm (zneA fh2_0 fh2_3))
  have fh3_4 : h3 A.ma = some (true, .inl (.int, 620, (mA M))) := zsn eh3 fh2_4 (Ne.symm (zneA fh2_0 fh2_4))
  have fh3_5 : h3 A.na = some (true, .inl (.int, 20, (mA N))) := zsn eh3 fh2_5 (Ne.symm (zneA fh2_0 fh2_5))
  have fh3_6 : h3 A.ua = some (true, .inl (.int, 1200, (mA U))) := zsn eh3 fh2_6 (Ne.symm (zneA fh2_0 fh2_6))
  have fh3_7 : h3 A.la = some (true, .inl (.int, 1200, (mA W))) := zsn eh3 fh2_7 (Ne.symm (zneA fh2_0 fh2_7))
  refine z_iload_n (pc := 33) (j := 0) C dX4_setWidth_33 rfl rfl ?_
  exact z_ireturn (pc := 34) C (by rw [hXp]; exact ⟨_, rfl, rfl, ⟨ap, nt, rr, rq, rb, wh, nd, up, lo, V, P, T, M, N, U, W, ⟨fh3_0, fh3_1, fh3_2, fh3_3, fh3_4, fh3_5, fh3_6, fh3_7, (kh3.n gle_1 (List.not_mem_cons_of_ne_of_not_mem (Ne.symm (zneA gm_1 gle_1)) (List.not_mem_cons_of_ne_of_not_mem (zneT gle_1 gv_1 (by simp)) (List.not_mem_cons_of_ne_of_not_mem (zneT gle_1 gpa_1 (by simp)) (List.not_mem_cons_of_ne_of_not_mem (zneT gle_1 gtx_1 (by simp)) (List.not_mem_cons_of_ne_of_not_mem (zneT gle_1 gma_1 (by simp)) (List.not_mem_cons_of_ne_of_not_mem (zneT gle_1 gna_1 (by simp)) (List.not_mem_cons_of_ne_of_not_mem (zneT gle_1 gua_1 (by simp)) (List.not_mem_cons_of_ne_of_not_mem (zneT gle_1 gla_1 (by simp)) List.not_mem_nil))))))))), (kh3.n gqa_1 (List.not_mem_cons_of_ne_of_not_mem (Ne.symm (zneA gm_1 gqa_1)) (List.not_mem_cons_of_ne_of_not_mem (zneT gqa_1 gv_1 (by simp)) (List.not_mem_cons_of_ne_of_not_mem (zneT gqa_1 gpa_1 (by simp)) (List.not_mem_cons_of_ne_of_not_mem (zneT gqa_1 gtx_1 (by simp)) (List.not_mem_cons_of_ne_of_not_mem (zneT gqa_1 gma_1 (by simp)) (List.not_mem_cons_of_ne_of_not_mem (zneT gqa_1 gna_1 (by simp)) (List.not_mem_cons_of_ne_of_not_mem (zneT gqa_1 gua_1 (by simp)) (List.not_mem_cons_of_ne_of_not_mem (zneT gqa_1 gla_1 (by simp)) List.not_mem_nil))))))))), gd_1⟩, hS, hP, htq, ⟨rsi, rff, hb, rtl, rtx, rsh, rhi, rhl⟩, hsl, hslh⟩, kh3⟩) dX4_setWidth_34
set_option maxHeartbeats 4000000 in
theorem md_setWidth_b {l : Launch} (hl : l.stackTraces = false) {Γ : zCx} {h : zH} {A : zMA} {σ : zSt} {th : Int} (hW : mdW h A σ th) {b : Int} (hr : -2147483648 ≤ b ∧ b ≤ 2147483647) (hb : ¬ (10 ≤ b ∧ b ≤ 200))  : zMet l yX4_setWidth (ws_ yX4_setWidth cX4_setWidth 3 (some .int)) ({ frames := 1, cells := 0, slots := 0, locals := 22 }) Γ h [.ref A.m, .int (iI b)] (zrt (fun w h' => w = some (.int (iI (0))) ∧ mdW h' A σ 1 ∧ zkeep h h' [A.m, A.v, A.pa, A.tx, A.ma, A.na, A.ua, A.la])) 0 0 := by
  refine zMet.of (cc := cX4_setWidth) hl (plainFor_of_name (by decide +kernel)) (Nat.le_of_ble_eq_true rfl) ?_
  intro X hXl hXΓ hXp C hnm hnL
  have C : zC X cX4_setWidth RX4 (some .int) 1 22 [] := C
  have hnL : X.2.1.2.2.2.2 = 3 := hnL
  subst hXl hXΓ
  show Z X h 0 0 [(0, .ref A.m), (1, .int (iI b))] 0 []
  obtain ⟨ap, nt, rr, rq, rb, wh, nd, up, lo, V, P, T, M, N, U, W, hM, hS, hP, htq, hR, hsl, hslh⟩ := id hW
  obtain ⟨rsi, rff, rwd, rtl, rtx, rsh, rhi, rhl⟩ := id hR
  obtain ⟨rcl, rcr, rll, rlt, rkt, rkm, rks⟩ := id rsh
  obtain ⟨hsl1, hsl2, hsl3⟩ := id hsl
  have hTr := rtx
  have hTl := rtl
  obtain ⟨gm_1, gv_1, gpa_1, gtx_1, gma_1, gna_1, gua_1, gla_1, gle_1, gqa_1, gd_1⟩ := id hM
  refine z_aload_n (pc := 0) (j := 0) C dX4_setWidth_0 rfl rfl ?_
  refine z_iconst (pc := 1) C dX4_setWidth_1 ?_
  refine z_putfield (pc := 2) (fs' := [.ref A.v, .ref A.pa, .int (iI ((σ.hi.length : Nat) : Int)), .ref A.tx, .int (iI ((σ.tx.length : Nat) : Int)), .int (iI σ.si), .int (iI σ.fl), .int (iI σ.wd), .int (iI 0), .ref A.le, .ref A.qa, .int (iI ap), .int (iI nt), .int (iI rr), .int (iI rq), .int (iI rb), .int (iI wh), .ref A.ma, .ref A.na, .int (iI nd), .ref A.ua, .ref A.la, .int (iI up), .int (iI lo)]) C in_X4 tyX4 tyX4_ok nmX4 rfl 8 (by decide) q2090 (fun _ z => z) rfl rfl rfl (Nat.le_of_ble_eq_true rfl) gm_1 rfl dX4_setWidth_2 ?_
  refine Z.nm (fun h2 eh2 => ?_)
  have kh2 : zkeep h h2 [A.m, A.v, A.pa, A.tx, A.ma, A.na, A.ua, A.la] := by rw [eh2]; exact zkeep.up zkeep.rf (Or.inl (by simp)) gm_1
  have fh2_0 : h2 A.m = some (true, .inr (3, [.ref A.v, .ref A.pa, .int (iI ((σ.hi.length : Nat) : Int)), .ref A.tx, .int (iI ((σ.tx.length : Nat) : Int)), .int (iI σ.si), .int (iI σ.fl), .int (iI σ.wd), .int (iI 0), .ref A.le, .ref A.qa, .int (iI ap), .int (iI nt), .int (iI rr), .int (iI rq), .int (iI rb), .int (iI wh), .ref A.ma, .ref A.na, .int (iI nd), .ref A.ua, .ref A.la, .int (iI up), .int (iI lo)])) := zse eh2
  have fh2_1 : h2 A.v = some (true, .inl (.int, 620, (mA V))) := zsn eh2 gv_1 (Ne.symm (zneA gm_1 gv_1))
  have fh2_2 : h2 A.pa = some (true, .inl (.int, 4960, (mA P))) := zsn eh2 gpa_1 (Ne.symm (zneA gm_1 gpa_1))
  have fh2_3 : h2 A.tx = some (true, .inl (.int, 200, (mA T))) := zsn eh2 gtx_1 (Ne.symm (zneA gm_1 gtx_1))
  have fh2_4 : h2 A.ma = some (true, .inl (.int, 620, (mA M))) := zsn eh2 gma_1 (Ne.symm (zneA gm_1 gma_1))
  have fh2_5 : h2 A.na = some (true, .inl (.int, 20, (mA N))) := zsn eh2 gna_1 (Ne.symm (zneA gm_1 gna_1))
  have fh2_6 : h2 A.ua = some (true, .inl (.int, 1200, (mA U))) := zsn eh2 gua_1 (Ne.symm (zneA gm_1 gua_1))
  have fh2_7 : h2 A.la = some (true, .inl (.int, 1200, (mA W))) := zsn eh2 gla_1 (Ne.symm (zneA gm_1 gla_1))
  refine z_iload_n (pc := 5) (j := 1) C dX4_setWidth_5 rfl rfl ?_
  refine z_bipush (pc := 6) C dX4_setWidth_6 (by decide) ?_
  refine z_sipush (pc := 8) C dX4_setWidth_8 (by decide) ?_
  refine z_callS (pc := 11) (n := 3) (kc' := 0) (ks' := 0) C (m_in C.t (x := b) (a := 10) (b := 200) (by omega) (by decide) (by decide)) (lw_S q2164 q2165 q74 q2166) (by decide +kernel) ⟨by decide, by decide⟩ rfl rfl (Nat.le_of_ble_eq_true rfl) dX4_setWidth_11 (by omega) (by omega) (zpk (st' := [.int (iI (if 10 ≤ b ∧ b ≤ 200 then 1 else 0))]) rfl ?_) zrx
  rw [show ((if 10 ≤ b ∧ b ≤ 200 then 1 else 0) : Int) = 0 from if_neg (by omega)]
  show Z X h2 0 0 [(0, .ref A.m), (1, .int (iI b))] 14 [.int (iI 0)]
  refine z_if_ne (pc := 14) (tgt := 23) C dX4_setWidth_14 (by decide) (by decide) (fun z => absurd z (by decide)) (fun _ => ?_)
  refine z_aload_n (pc := 17) (j := 0) C dX4_setWidth_17 rfl rfl ?_
  refine z_iconst (pc := 18) C dX4_setWidth_18 ?_
  refine z_callV (pc := 19) (n := 1) (kc' := 0) (ks' := 0) C (m_fails C.t ⟨fh2_0, fh2_1, fh2_2, fh2_3, fh2_4, fh2_5, fh2_6, fh2_7, (kh2.n gle_1 (List.not_mem_cons_of_ne_of_not_mem (Ne.symm (zneA gm_1 gle_1)) (List.not_mem_cons_of_ne_of_not_mem (zneT gle_1 gv_1 (by simp)) (List.not_mem_cons_of_ne_of_not_mem (zneT gle_1 gpa_1 (by simp)) (List.not_mem_cons_of_ne_of_not_mem (zneT gle_1 gtx_1 (by simp)) (List.not_mem_cons_of_ne_of_not_mem (zneT gle_1 gma_1 (by simp)) (List.not_mem_cons_of_ne_of_not_mem (zneT gle_1 gna_1 (by simp)) (List.not_mem_cons_of_ne_of_not_mem (zneT gle_1 gua_1 (by simp)) (List.not_mem_cons_of_ne_of_not_mem (zneT gle_1 gla_1 (by simp)) List.not_mem_nil))))))))), (kh2.n gqa_1 (List.not_mem_cons_of_ne_of_not_mem (Ne.symm (zneA gm_1 gqa_1)) (List.not_mem_cons_of_ne_of_not_mem (zneT gqa_1 gv_1 (by simp)) (List.not_mem_cons_of_ne_of_not_mem (zneT gqa_1 gpa_1 (by simp)) (List.not_mem_cons_of_ne_of_not_mem (zneT gqa_1 gtx_1 (by simp)) (List.not_mem_cons_of_ne_of_not_mem (zneT gqa_1 gma_1 (by simp)) (List.not_mem_cons_of_ne_of_not_mem (zneT gqa_1 gna_1 (by simp)) (List.not_mem_cons_of_ne_of_not_mem (zneT gqa_1 gua_1 (by simp)) (List.not_mem_cons_of_ne_of_not_mem (zneT gqa_1 gla_1 (by simp)) List.not_mem_nil))))))))), gd_1⟩ (x := 1)) (lw_V q2167 q2169 qs27 q74 q2170) (by decide +kernel) ⟨by decide, by decide⟩ fh2_0 rfl rfl rfl (Nat.le_of_ble_eq_true rfl) dX4_setWidth_19 (by omega) (by omega) (zrk fun w h3 hp => ?_) zrx
  obtain ⟨rfl, hM_5, k4⟩ := hp
  have kh3 : zkeep h h3 [A.m, A.v, A.pa, A.tx, A.ma, A.na, A.ua, A.la] := zkeep.loc kh2 k4 (fun q hq => Or.inl (Or.inr hq))
  have hM_5 : mM h3 A ((σ.hi.length : Nat) : Int) ((σ.tx.length : Nat) : Int) σ.si σ.fl σ.wd 1 ap nt rr rq rb wh nd up lo V P T M N U W := hM_5
  obtain ⟨gm_6, gv_6, gpa_6, gtx_6, gma_6, gna_6, gua_6, gla_6, gle_6, gqa_6, gd_6⟩ := id hM_5
  show Z X h3 0 0 [(0, .ref A.m), (1, .int (iI b))] 22 [.int (iI 0)]
  exact z_ireturn (pc := 22) C (by rw [hXp]; exact ⟨_, rfl, rfl, ⟨ap, nt, rr, rq, rb, wh, nd, up, lo, V, P, T, M, N, U, W, ⟨gm_6, gv_6, gpa_6, gtx_6, gma_6, gna_6, gua_6, gla_6, gle_6, gqa_6, gd_6⟩, hS, hP, htq, hR, hsl, hslh⟩, kh3⟩) dX4_setWidth_22
set_option maxHeartbeats 4000000 in
theorem md_type {l : Launch} (hl : l.stackTraces = false) {Γ : zCx} {h : zH} {A : zMA} {σ : zSt} {th : Int} (hW : mdW h A σ th) {b : Int} (hb : 32 ≤ b ∧ b ≤ 126) (hl8 : σ.tx.length < 200)  : zMet l yX4_type (ws_ yX4_type cX4_type 2 (some .int)) ({ frames := 1, cells := 0, slots := 0, locals := 22 }) Γ h [.ref A.m, .int (iI b)] (zrt (fun w h' => w = some (.int (iI (((σ.tx.length : Nat) : Int) + 1))) ∧ mdW h' A (σ.tx ++ [b], σ.si, σ.fl, σ.wd, σ.sh, σ.hi) 0 ∧ zkeep h h' [A.m, A.v, A.pa, A.tx, A.ma, A.na, A.ua, A.la])) 0 0 := by
  refine zMet.of (cc := cX4_type) hl (plainFor_of_name (by decide +kernel)) (Nat.le_of_ble_eq_true rfl) ?_
  intro X hXl hXΓ hXp C hnm hnL
  have C : zC X cX4_type RX4 (some .int) 1 22 [] := C
  have hnL : X.2.1.2.2.2.2 = 2 := hnL
  subst hXl hXΓ
  show Z X h 0 0 [(0, .ref A.m), (1, .int (iI b))] 0 []
  obtain ⟨ap, nt, rr, rq, rb, wh, nd, up, lo, V, P, T, M, N, U, W, hM, hS, hP, htq, hR, hsl, hslh⟩ := id hW
  obtain ⟨rsi, rff, rwd, rtl, rtx, rsh, rhi, rhl⟩ := id hR
  obtain ⟨rcl, rcr, rll, rlt, rkt, rkm, rks⟩ := id rsh
  obtain ⟨hsl1, hsl2, hsl3⟩ := id hsl
  have hTr := rtx
  have hTl := rtl
  obtain ⟨gm_1, gv_1, gpa_1, gtx_1, gma_1, gna_1, gua_1, gla_1, gle_1, gqa_1, gd_1⟩ := id hM
  refine z_aload_n (pc := 0) (j := 0) C dX4_type_0 rfl rfl ?_
  refine z_iconst (pc := 1) C dX4_type_1 ?_
  refine z_putfield (pc := 2) (fs' := [.ref A.v, .ref A.pa, .int (iI ((σ.hi.length : Nat) : Int)), .ref A.tx, .int (iI ((σ.tx.length : Nat) : Int)), .int (iI σ.si), .int (iI σ.fl), .int (iI σ.wd), .int (iI 0), .ref A.le, .ref A.qa, .int (iI ap), .int (iI nt), .int (iI rr), .int (iI rq), .int (iI rb), .int (iI wh), .ref A.ma, .ref A.na, .int (iI nd), .ref A.ua, .ref A.la, .int (iI up), .int (iI lo)]) C in_X4 tyX4 tyX4_ok nmX4 rfl 8 (by decide) q2090 (fun _ z => z) rfl rfl rfl (Nat.le_of_ble_eq_true rfl) gm_1 rfl dX4_type_2 ?_
  refine Z.nm (fun h2 eh2 => ?_)
  have kh2 : zkeep h h2 [A.m, A.v, A.pa, A.tx, A.ma, A.na, A.ua, A.la] := by rw [eh2]; exact zkeep.up zkeep.rf (Or.inl (by simp)) gm_1
  have fh2_0 : h2 A.m = some (true, .inr (3, [.ref A.v, .ref A.pa, .int (iI ((σ.hi.length : Nat) : Int)), .ref A.tx, .int (iI ((σ.tx.length : Nat) : Int)), .int (iI σ.si), .int (iI σ.fl), .int (iI σ.wd), .int (iI 0), .ref A.le, .ref A.qa, .int (iI ap), .int (iI nt), .int (iI rr), .int (iI rq), .int (iI rb), .int (iI wh), .ref A.ma, .ref A.na, .int (iI nd), .ref A.ua, .ref A.la, .int (iI up), .int (iI lo)])) := zse eh2
  have fh2_1 : h2 A.v = some (true, .inl (.int, 620, (mA V))) := zsn eh2 gv_1 (Ne.symm (zneA gm_1 gv_1))
  have fh2_2 : h2 A.pa = some (true, .inl (.int, 4960, (mA P))) := zsn eh2 gpa_1 (Ne.symm (zneA gm_1 gpa_1))
  have fh2_3 : h2 A.tx = some (true, .inl (.int, 200, (mA T))) := zsn eh2 gtx_1 (Ne.symm (zneA gm_1 gtx_1))
  have fh2_4 : h2 A.ma = some (true, .inl (.int, 620, (mA M))) := zsn eh2 gma_1 (Ne.symm (zneA gm_1 gma_1))
  have fh2_5 : h2 A.na = some (true, .inl (.int, 20, (mA N))) := zsn eh2 gna_1 (Ne.symm (zneA gm_1 gna_1))
  have fh2_6 : h2 A.ua = some (true, .inl (.int, 1200, (mA U))) := zsn eh2 gua_1 (Ne.symm (zneA gm_1 gua_1))
  have fh2_7 : h2 A.la = some (true, .inl (.int, 1200, (mA W))) := zsn eh2 gla_1 (Ne.symm (zneA gm_1 gla_1))
  refine z_iload_n (pc := 5) (j := 1) C dX4_type_5 rfl rfl ?_
  refine z_bipush (pc := 6) C dX4_type_6 (by decide) ?_
  refine z_bipush (pc := 8) C dX4_type_8 (by decide) ?_
  refine z_callS (pc := 10) (n := 3) (kc' := 0) (ks' := 0) C (m_in C.t (x := b) (a := 32) (b := 126) (by omega) (by decide) (by decide)) (lw_S q2164 q2165 q74 q2166) (by decide +kernel) ⟨by decide, by decide⟩ rfl rfl (Nat.le_of_ble_eq_true rfl) dX4_type_10 (by omega) (by omega) (zpk (st' := [.int (iI (if 32 ≤ b ∧ b ≤ 126 then 1 else 0))]) rfl ?_) zrx
  rw [show ((if 32 ≤ b ∧ b ≤ 126 then 1 else 0) : Int) = 1 from if_pos (by omega)]
  show Z X h2 0 0 [(0, .ref A.m), (1, .int (iI b))] 13 [.int (iI 1)]
  refine z_if_ne (pc := 13) (tgt := 22) C dX4_type_13 (by decide) (by decide) (fun _ => ?_) (fun z => absurd z (by decide))
  refine z_aload_n (pc := 22) (j := 0) C dX4_type_22 rfl rfl ?_
  refine z_getfield (pc := 23) (v := .int (iI ((σ.tx.length : Nat) : Int))) C in_X4 rfl 4 (by decide) q2086 (fun _ z => z) fh2_0 rfl dX4_type_23 ?_
  refine z_sipush (pc := 26) C dX4_type_26 (by decide) ?_
  refine z_icmp_ne (pc := 29) (tgt := 38) C dX4_type_29 (by decide) (by omega) (by decide) (fun c29 => ?_) (fun c29 => by exfalso; omega)
  refine z_aload_n (pc := 38) (j := 0) C dX4_type_38 rfl rfl ?_
  refine z_getfield (pc := 39) (v := .ref A.tx) C in_X4 rfl 3 (by decide) q2085 (fun _ z => z) fh2_0 rfl dX4_type_39 ?_
  refine z_aload_n (pc := 42) (j := 0) C dX4_type_42 rfl rfl ?_
  refine z_getfield (pc := 43) (v := .int (iI ((σ.tx.length : Nat) : Int))) C in_X4 rfl 4 (by decide) q2086 (fun _ z => z) fh2_0 rfl dX4_type_43 ?_
  refine z_iload_n (pc := 46) (j := 1) C dX4_type_46 rfl rfl ?_
  refine z_iastore (pc := 47) (f' := (mA (updI T (Int.toNat ((σ.tx.length : Nat) : Int)) b))) C fh2_3 (by omega) (mA_up _ _ _) dX4_type_47 ?_
  refine Z.nm (fun h3 eh3 => ?_)
  have kh3 : zkeep h h3 [A.m, A.v, A.pa, A.tx, A.ma, A.na, A.ua, A.la] := by rw [eh3]; exact zkeep.up kh2 (Or.inl (by simp)) fh2_3
  have fh3_0 : h3 A.tx = some (true, .inl (.int, 200, (mA (updI T (Int.toNat ((σ.tx.length : Nat) : Int)) b)))) := zse eh3
  have fh3_1 : h3 A.v = some (true, .inl (.int, 620, (mA V))) := zsn eh3 fh2_1 gd_1.2.1
  have fh3_2 : h3 A.pa = some (true, .inl (.int, 4960, (mA P))) := zsn eh3 fh2_2 gd_1.2.2.2.2.2.2.1
  have fh3_3 : h3 A.ma = some (true, .inl (.int, 620, (mA M))) := zsn eh3 fh2_4 (Ne.symm gd_1.2.2.2.2.2.2.2.2.2.2.2.1)
  have fh3_4 : h3 A.na = some (true, .inl (.int, 20, (mA N))) := zsn eh3 fh2_5 (Ne.symm gd_1.2.2.2.2.2.2.2.2.2.2.2.2.1)
  have fh3_5 : h3 A.ua = some (true, .inl (.int, 1200, (mA U))) := zsn eh3 fh2_6 (Ne.symm gd_1.2.2.2.2.2.2.2.2.2.2.2.2.2.1)
  have fh3_6 : h3 A.la = some (true, .inl (.int, 1200, (mA W))) := zsn eh3 fh2_7 (Ne.symm gd_1.2.2.2.2.2.2.2.2.2.2.2.2.2.2.1)
  have fh3_7 : h3 A.m = some (true, .inr (3, [.ref A.v, .ref A.pa, .int (iI ((σ.hi.length : Nat) : Int)), .ref A.tx, .int (iI ((σ.tx.length : Nat) : Int)), .int (iI σ.si), .int (iI σ.fl), .int (iI σ.wd), .int (iI 0), .ref A.le, .ref A.qa, .int (iI ap), .int (iI nt), .int (iI rr), .int (iI rq), .int (iI rb), .int (iI wh), .ref A.ma, .ref A.na, .int (iI nd), .ref A.ua, .ref A.la, .int (iI up), .int (iI lo)])) := zsn eh3 fh2_0 (zneA fh2_0 fh2_3)
  refine z_aload_n (pc := 48) (j := 0) C dX4_type_48 rfl rfl ?_
  refine z_dup (pc := 49) C dX4_type_49 rfl ?_
  refine z_getfield (pc := 50) (v := .int (iI ((σ.tx.length : Nat) : Int))) C in_X4 rfl 4 (by decide) q2086 (fun _ z => z) fh3_7 rfl dX4_type_50 ?_
  refine z_iconst (pc := 53) C dX4_type_53 ?_
  refine z_iadd (pc := 54) C dX4_type_54 ?_
  rw [show ((((σ.tx.length : Nat) : Int) + 1) : Int) = (((σ.tx ++ [b]).length : Nat) : Int) from by simp]
  show Z X h3 0 0 [(0, .ref A.m), (1, .int (iI b))] 55 [.int (iI (((σ.tx ++ [b]).length : Nat) : Int)), .ref A.m]
  refine z_putfield (pc := 55) (fs' := [.ref A.v, .ref A.pa, .int (iI ((σ.hi.length : Nat) : Int)), .ref A.tx, .int (iI (((σ.tx ++ [b]).length : Nat) : Int)), .int (iI σ.si), .int (iI σ.fl), .int (iI σ.wd), .int (iI 0), .ref A.le, .ref A.qa, .int (iI ap), .int (iI nt), .int (iI rr), .int (iI rq), .int (iI rb), .int (iI wh), .ref A.ma, .ref A.na, .int (iI nd), .ref A.ua, .ref A.la, .int (iI up), .int (iI lo)]) C in_X4 tyX4 tyX4_ok nmX4 rfl 4 (by decide) q2086 (fun _ z => z) rfl rfl rfl (Nat.le_of_ble_eq_true rfl) fh3_7 rfl dX4_type_55 ?_
  refine Z.nm (fun h4 eh4 => ?_)
  have kh4 : zkeep h h4 [A.m, A.v, A.pa, A.tx, A.ma, A.na, A.ua, A.la] := by rw [eh4]; exact zkeep.up kh3 (Or.inl (by simp)) fh3_7
  have fh4_0 : h4 A.m = some (true, .inr (3, [.ref A.v, .ref A.pa, .int (iI ((σ.hi.length : Nat) : Int)), .ref A.tx, .int (iI (((σ.tx ++ [b]).length : Nat) : Int)), .int (iI σ.si), .int (iI σ.fl), .int (iI σ.wd), .int (iI 0), .ref A.le, .ref A.qa, .int (iI ap), .int (iI nt), .int (iI rr), .int (iI rq), .int (iI rb), .int (iI wh), .ref A.ma, .ref A.na, .int (iI nd), .ref A.ua, .ref A.la, .int (iI up), .int (iI lo)])) := zse eh4
  have fh4_1 : h4 A.v = some (true, .inl (.int, 620, (mA V))) := zsn eh4 fh3_1 (Ne.symm (zneA fh3_7 fh3_1))
  have fh4_2 : h4 A.pa = some (true, .inl (.int, 4960, (mA P))) := zsn eh4 fh3_2 (Ne.symm (zneA fh3_7 fh3_2))
  have fh4_3 : h4 A.ma = some (true, .inl (.int, 620, (mA M))) := zsn eh4 fh3_3 (Ne.symm (zneA fh3_7 fh3_3))
  have fh4_4 : h4 A.na = some (true, .inl (.int, 20, (mA N))) := zsn eh4 fh3_4 (Ne.symm (zneA fh3_7 fh3_4))
  have fh4_5 : h4 A.ua = some (true, .inl (.int, 1200, (mA U))) := zsn eh4 fh3_5 (Ne.symm (zneA fh3_7 fh3_5))
  have fh4_6 : h4 A.la = some (true, .inl (.int, 1200, (mA W))) := zsn eh4 fh3_6 (Ne.symm (zneA fh3_7 fh3_6))
  have fh4_7 : h4 A.tx = some (true, .inl (.int, 200, (mA (updI T (Int.toNat ((σ.tx.length : Nat) : Int)) b)))) := zsn eh4 fh3_0 (Ne.symm (zneA fh3_7 fh3_0))
  refine z_aload_n (pc := 58) (j := 0) C dX4_type_58 rfl rfl ?_
  refine z_getfield (pc := 59) (v := .int (iI (((σ.tx ++ [b]).length : Nat) : Int))) C in_X4 rfl 4 (by decide) q2086 (fun _ z => z) fh4_0 rfl dX4_type_59 ?_
  exact z_ireturn (pc := 62) C (by rw [hXp]; exact ⟨_, rfl, (by rw [← rtl_len]), ⟨ap, nt, rr, rq, rb, wh, nd, up, lo, V, P, (updI T (Int.toNat ((σ.tx.length : Nat) : Int)) b), M, N, U, W, ⟨fh4_0, fh4_1, fh4_2, fh4_7, fh4_3, fh4_4, fh4_5, fh4_6, (kh4.n gle_1 (List.not_mem_cons_of_ne_of_not_mem (Ne.symm (zneA gm_1 gle_1)) (List.not_mem_cons_of_ne_of_not_mem (zneT gle_1 gv_1 (by simp)) (List.not_mem_cons_of_ne_of_not_mem (zneT gle_1 gpa_1 (by simp)) (List.not_mem_cons_of_ne_of_not_mem (zneT gle_1 gtx_1 (by simp)) (List.not_mem_cons_of_ne_of_not_mem (zneT gle_1 gma_1 (by simp)) (List.not_mem_cons_of_ne_of_not_mem (zneT gle_1 gna_1 (by simp)) (List.not_mem_cons_of_ne_of_not_mem (zneT gle_1 gua_1 (by simp)) (List.not_mem_cons_of_ne_of_not_mem (zneT gle_1 gla_1 (by simp)) List.not_mem_nil))))))))), (kh4.n gqa_1 (List.not_mem_cons_of_ne_of_not_mem (Ne.symm (zneA gm_1 gqa_1)) (List.not_mem_cons_of_ne_of_not_mem (zneT gqa_1 gv_1 (by simp)) (List.not_mem_cons_of_ne_of_not_mem (zneT gqa_1 gpa_1 (by simp)) (List.not_mem_cons_of_ne_of_not_mem (zneT gqa_1 gtx_1 (by simp)) (List.not_mem_cons_of_ne_of_not_mem (zneT gqa_1 gma_1 (by simp)) (List.not_mem_cons_of_ne_of_not_mem (zneT gqa_1 gna_1 (by simp)) (List.not_mem_cons_of_ne_of_not_mem (zneT gqa_1 gua_1 (by simp)) (List.not_mem_cons_of_ne_of_not_mem (zneT gqa_1 gla_1 (by simp)) List.not_mem_nil))))))))), gd_1⟩, hS, hP, (txA_app htq), ⟨rsi, rff, rwd, rtl_app hl8, rtx_app rtx hb, rsh, rhi, rhl⟩, hsl, hslh⟩, kh4⟩) dX4_type_62
set_option maxHeartbeats 4000000 in
theorem md_type_b1 {l : Launch} (hl : l.stackTraces = false) {Γ : zCx} {h : zH} {A : zMA} {σ : zSt} {th : Int} (hW : mdW h A σ th) {b : Int} (hr : -2147483648 ≤ b ∧ b ≤ 2147483647) (hb : ¬ (32 ≤ b ∧ b ≤ 126))  : zMet l yX4_type (ws_ yX4_type cX4_type 2 (some .int)) ({ frames := 1, cells := 0, slots := 0, locals := 22 }) Γ h [.ref A.m, .int (iI b)] (zrt (fun w h' => w = some (.int (iI (0))) ∧ mdW h' A σ 1 ∧ zkeep h h' [A.m, A.v, A.pa, A.tx, A.ma, A.na, A.ua, A.la])) 0 0 := by
  refine zMet.of (cc := cX4_type) hl (plainFor_of_name (by decide +kernel)) (Nat.le_of_ble_eq_true rfl) ?_
  intro X hXl hXΓ hXp C hnm hnL
  have C : zC X cX4_type RX4 (some .int) 1 22 [] := C
  have hnL : X.2.1.2.2.2.2 = 2 := hnL
  subst hXl hXΓ
  show Z X h 0 0 [(0, .ref A.m), (1, .int (iI b))] 0 []
  obtain ⟨ap, nt, rr, rq, rb, wh, nd, up, lo, V, P, T, M, N, U, W, hM, hS, hP, htq, hR, hsl, hslh⟩ := id hW
  obtain ⟨rsi, rff, rwd, rtl, rtx, rsh, rhi, rhl⟩ := id hR
  obtain ⟨rcl, rcr, rll, rlt, rkt, rkm, rks⟩ := id rsh
  obtain ⟨hsl1, hsl2, hsl3⟩ := id hsl
  have hTr := rtx
  have hTl := rtl
  obtain ⟨gm_1, gv_1, gpa_1, gtx_1, gma_1, gna_1, gua_1, gla_1, gle_1, gqa_1, gd_1⟩ := id hM
  refine z_aload_n (pc := 0) (j := 0) C dX4_type_0 rfl rfl ?_
  refine z_iconst (pc := 1) C dX4_type_1 ?_
  refine z_putfield (pc := 2) (fs' := [.ref A.v, .ref A.pa, .int (iI ((σ.hi.length : Nat) : Int)), .ref A.tx, .int (iI ((σ.tx.length : Nat) : Int)), .int (iI σ.si), .int (iI σ.fl), .int (iI σ.wd), .int (iI 0), .ref A.le, .ref A.qa, .int (iI ap), .int (iI nt), .int (iI rr), .int (iI rq), .int (iI rb), .int (iI wh), .ref A.ma, .ref A.na, .int (iI nd), .ref A.ua, .ref A.la, .int (iI up), .int (iI lo)]) C in_X4 tyX4 tyX4_ok nmX4 rfl 8 (by decide) q2090 (fun _ z => z) rfl rfl rfl (Nat.le_of_ble_eq_true rfl) gm_1 rfl dX4_type_2 ?_
  refine Z.nm (fun h2 eh2 => ?_)
  have kh2 : zkeep h h2 [A.m, A.v, A.pa, A.tx, A.ma, A.na, A.ua, A.la] := by rw [eh2]; exact zkeep.up zkeep.rf (Or.inl (by simp)) gm_1
  have fh2_0 : h2 A.m = some (true, .inr (3, [.ref A.v, .ref A.pa, .int (iI ((σ.hi.length : Nat) : Int)), .ref A.tx, .int (iI ((σ.tx.length : Nat) : Int)), .int (iI σ.si), .int (iI σ.fl), .int (iI σ.wd), .int (iI 0), .ref A.le, .ref A.qa, .int (iI ap), .int (iI nt), .int (iI rr), .int (iI rq), .int (iI rb), .int (iI wh), .ref A.ma, .ref A.na, .int (iI nd), .ref A.ua, .ref A.la, .int (iI up), .int (iI lo)])) := zse eh2
  have fh2_1 : h2 A.v = some (true, .inl (.int, 620, (mA V))) := zsn eh2 gv_1 (Ne.symm (zneA gm_1 gv_1))
  have fh2_2 : h2 A.pa = some (true, .inl (.int, 4960, (mA P))) := zsn eh2 gpa_1 (Ne.symm (zneA gm_1 gpa_1))
  have fh2_3 : h2 A.tx = some (true, .inl (.int, 200, (mA T))) := zsn eh2 gtx_1 (Ne.symm (zneA gm_1 gtx_1))
  have fh2_4 : h2 A.ma = some (true, .inl (.int, 620, (mA M))) := zsn eh2 gma_1 (Ne.symm (zneA gm_1 gma_1))
  have fh2_5 : h2 A.na = some (true, .inl (.int, 20, (mA N))) := zsn eh2 gna_1 (Ne.symm (zneA gm_1 gna_1))
  have fh2_6 : h2 A.ua = some (true, .inl (.int, 1200, (mA U))) := zsn eh2 gua_1 (Ne.symm (zneA gm_1 gua_1))
  have fh2_7 : h2 A.la = some (true, .inl (.int, 1200, (mA W))) := zsn eh2 gla_1 (Ne.symm (zneA gm_1 gla_1))
  refine z_iload_n (pc := 5) (j := 1) C dX4_type_5 rfl rfl ?_
  refine z_bipush (pc := 6) C dX4_type_6 (by decide) ?_
  refine z_bipush (pc := 8) C dX4_type_8 (by decide) ?_
  refine z_callS (pc := 10) (n := 3) (kc' := 0) (ks' := 0) C (m_in C.t (x := b) (a := 32) (b := 126) (by omega) (by decide) (by decide)) (lw_S q2164 q2165 q74 q2166) (by decide +kernel) ⟨by decide, by decide⟩ rfl rfl (Nat.le_of_ble_eq_true rfl) dX4_type_10 (by omega) (by omega) (zpk (st' := [.int (iI (if 32 ≤ b ∧ b ≤ 126 then 1 else 0))]) rfl ?_) zrx
  rw [show ((if 32 ≤ b ∧ b ≤ 126 then 1 else 0) : Int) = 0 from if_neg (by omega)]
  show Z X h2 0 0 [(0, .ref A.m), (1, .int (iI b))] 13 [.int (iI 0)]
  refine z_if_ne (pc := 13) (tgt := 22) C dX4_type_13 (by decide) (by decide) (fun z => absurd z (by decide)) (fun _ => ?_)
  refine z_aload_n (pc := 16) (j := 0) C dX4_type_16 rfl rfl ?_
  refine z_iconst (pc := 17) C dX4_type_17 ?_
  refine z_callV (pc := 18) (n := 1) (kc' := 0) (ks' := 0) C (m_fails C.t ⟨fh2_0, fh2_1, fh2_2, fh2_3, fh2_4, fh2_5, fh2_6, fh2_7, (kh2.n gle_1 (List.not_mem_cons_of_ne_of_not_mem (Ne.symm (zneA gm_1 gle_1)) (List.not_mem_cons_of_ne_of_not_mem (zneT gle_1 gv_1 (by simp)) (List.not_mem_cons_of_ne_of_not_mem (zneT gle_1 gpa_1 (by simp)) (List.not_mem_cons_of_ne_of_not_mem (zneT gle_1 gtx_1 (by simp)) (List.not_mem_cons_of_ne_of_not_mem (zneT gle_1 gma_1 (by simp)) (List.not_mem_cons_of_ne_of_not_mem (zneT gle_1 gna_1 (by simp)) (List.not_mem_cons_of_ne_of_not_mem (zneT gle_1 gua_1 (by simp)) (List.not_mem_cons_of_ne_of_not_mem (zneT gle_1 gla_1 (by simp)) List.not_mem_nil))))))))), (kh2.n gqa_1 (List.not_mem_cons_of_ne_of_not_mem (Ne.symm (zneA gm_1 gqa_1)) (List.not_mem_cons_of_ne_of_not_mem (zneT gqa_1 gv_1 (by simp)) (List.not_mem_cons_of_ne_of_not_mem (zneT gqa_1 gpa_1 (by simp)) (List.not_mem_cons_of_ne_of_not_mem (zneT gqa_1 gtx_1 (by simp)) (List.not_mem_cons_of_ne_of_not_mem (zneT gqa_1 gma_1 (by simp)) (List.not_mem_cons_of_ne_of_not_mem (zneT gqa_1 gna_1 (by simp)) (List.not_mem_cons_of_ne_of_not_mem (zneT gqa_1 gua_1 (by simp)) (List.not_mem_cons_of_ne_of_not_mem (zneT gqa_1 gla_1 (by simp)) List.not_mem_nil))))))))), gd_1⟩ (x := 1)) (lw_V q2167 q2169 qs27 q74 q2170) (by decide +kernel) ⟨by decide, by decide⟩ fh2_0 rfl rfl rfl (Nat.le_of_ble_eq_true rfl) dX4_type_18 (by omega) (by omega) (zrk fun w h3 hp => ?_) zrx
  obtain ⟨rfl, hM_5, k4⟩ := hp
  have kh3 : zkeep h h3 [A.m, A.v, A.pa, A.tx, A.ma, A.na, A.ua, A.la] := zkeep.loc kh2 k4 (fun q hq => Or.inl (Or.inr hq))
  have hM_5 : mM h3 A ((σ.hi.length : Nat) : Int) ((σ.tx.length : Nat) : Int) σ.si σ.fl σ.wd 1 ap nt rr rq rb wh nd up lo V P T M N U W := hM_5
  obtain ⟨gm_6, gv_6, gpa_6, gtx_6, gma_6, gna_6, gua_6, gla_6, gle_6, gqa_6, gd_6⟩ := id hM_5
  show Z X h3 0 0 [(0, .ref A.m), (1, .int (iI b))] 21 [.int (iI 0)]
  exact z_ireturn (pc := 21) C (by rw [hXp]; exact ⟨_, rfl, rfl, ⟨ap, nt, rr, rq, rb, wh, nd, up, lo, V, P, T, M, N, U, W, ⟨gm_6, gv_6, gpa_6, gtx_6, gma_6, gna_6, gua_6, gla_6, gle_6, gqa_6, gd_6⟩, hS, hP, htq, hR, hsl, hslh⟩, kh3⟩) dX4_type_21
set_option maxHeartbeats 4000000 in
theorem md_type_b2 {l : Launch} (hl : l.stackTraces = false) {Γ : zCx} {h : zH} {A : zMA} {σ : zSt} {th : Int} (hW : mdW h A σ th) {b : Int} (hb : 32 ≤ b ∧ b ≤ 126) (hl8 : σ.tx.length = 200)  : zMet l yX4_type (ws_ yX4_type cX4_type 2 (some .int)) ({ frames := 1, cells := 0, slots := 0, locals := 22 }) Γ h [.ref A.m, .int (iI b)] (zrt (fun w h' => w = some (.int (iI (0))) ∧ mdW h' A σ 2 ∧ zkeep h h' [A.m, A.v, A.pa, A.tx, A.ma, A.na, A.ua, A.la])) 0 0 := by
  refine zMet.of (cc := cX4_type) hl (plainFor_of_name (by decide +kernel)) (Nat.le_of_ble_eq_true rfl) ?_
  intro X hXl hXΓ hXp C hnm hnL
  have C : zC X cX4_type RX4 (some .int) 1 22 [] := C
  have hnL : X.2.1.2.2.2.2 = 2 := hnL
  subst hXl hXΓ
  show Z X h 0 0 [(0, .ref A.m), (1, .int (iI b))] 0 []
  obtain ⟨ap, nt, rr, rq, rb, wh, nd, up, lo, V, P, T, M, N, U, W, hM, hS, hP, htq, hR, hsl, hslh⟩ := id hW
  obtain ⟨rsi, rff, rwd, rtl, rtx, rsh, rhi, rhl⟩ := id hR
  obtain ⟨rcl, rcr, rll, rlt, rkt, rkm, rks⟩ := id rsh
  obtain ⟨hsl1, hsl2, hsl3⟩ := id hsl
  have hTr := rtx
  have hTl := rtl
  obtain ⟨gm_1, gv_1, gpa_1, gtx_1, gma_1, gna_1, gua_1, gla_1, gle_1, gqa_1, gd_1⟩ := id hM
  refine z_aload_n (pc := 0) (j := 0) C dX4_type_0 rfl rfl ?_
  refine z_iconst (pc := 1) C dX4_type_1 ?_
  refine z_putfield (pc := 2) (fs' := [.ref A.v, .ref A.pa, .int (iI ((σ.hi.length : Nat) : Int)), .ref A.tx, .int (iI ((σ.tx.length : Nat) : Int)), .int (iI σ.si), .int (iI σ.fl), .int (iI σ.wd), .int (iI 0), .ref A.le, .ref A.qa, .int (iI ap), .int (iI nt), .int (iI rr), .int (iI rq), .int (iI rb), .int (iI wh), .ref A.ma, .ref A.na, .int (iI nd), .ref A.ua, .ref A.la, .int (iI up), .int (iI lo)]) C in_X4 tyX4 tyX4_ok nmX4 rfl 8 (by decide) q2090 (fun _ z => z) rfl rfl rfl (Nat.le_of_ble_eq_true rfl) gm_1 rfl dX4_type_2 ?_
  refine Z.nm (fun h2 eh2 => ?_)
  have kh2 : zkeep h h2 [A.m, A.v, A.pa, A.tx, A.ma, A.na, A.ua, A.la] := by rw [eh2]; exact zkeep.up zkeep.rf (Or.inl (by simp)) gm_1
  have fh2_0 : h2 A.m = some (true, .inr (3, [.ref A.v, .ref A.pa, .int (iI ((σ.hi.length : Nat) : Int)), .ref A.tx, .int (iI ((σ.tx.length : Nat) : Int)), .int (iI σ.si), .int (iI σ.fl), .int (iI σ.wd), .int (iI 0), .ref A.le, .ref A.qa, .int (iI ap), .int (iI nt), .int (iI rr), .int (iI rq), .int (iI rb), .int (iI wh), .ref A.ma, .ref A.na, .int (iI nd), .ref A.ua, .ref A.la, .int (iI up), .int (iI lo)])) := zse eh2
  have fh2_1 : h2 A.v = some (true, .inl (.int, 620, (mA V))) := zsn eh2 gv_1 (Ne.symm (zneA gm_1 gv_1))
  have fh2_2 : h2 A.pa = some (true, .inl (.int, 4960, (mA P))) := zsn eh2 gpa_1 (Ne.symm (zneA gm_1 gpa_1))
  have fh2_3 : h2 A.tx = some (true, .inl (.int, 200, (mA T))) := zsn eh2 gtx_1 (Ne.symm (zneA gm_1 gtx_1))
  have fh2_4 : h2 A.ma = some (true, .inl (.int, 620, (mA M))) := zsn eh2 gma_1 (Ne.symm (zneA gm_1 gma_1))
  have fh2_5 : h2 A.na = some (true, .inl (.int, 20, (mA N))) := zsn eh2 gna_1 (Ne.symm (zneA gm_1 gna_1))
  have fh2_6 : h2 A.ua = some (true, .inl (.int, 1200, (mA U))) := zsn eh2 gua_1 (Ne.symm (zneA gm_1 gua_1))
  have fh2_7 : h2 A.la = some (true, .inl (.int, 1200, (mA W))) := zsn eh2 gla_1 (Ne.symm (zneA gm_1 gla_1))
  refine z_iload_n (pc := 5) (j := 1) C dX4_type_5 rfl rfl ?_
  refine z_bipush (pc := 6) C dX4_type_6 (by decide) ?_
  refine z_bipush (pc := 8) C dX4_type_8 (by decide) ?_
  refine z_callS (pc := 10) (n := 3) (kc' := 0) (ks' := 0) C (m_in C.t (x := b) (a := 32) (b := 126) (by omega) (by decide) (by decide)) (lw_S q2164 q2165 q74 q2166) (by decide +kernel) ⟨by decide, by decide⟩ rfl rfl (Nat.le_of_ble_eq_true rfl) dX4_type_10 (by omega) (by omega) (zpk (st' := [.int (iI (if 32 ≤ b ∧ b ≤ 126 then 1 else 0))]) rfl ?_) zrx
  rw [show ((if 32 ≤ b ∧ b ≤ 126 then 1 else 0) : Int) = 1 from if_pos (by omega)]
  show Z X h2 0 0 [(0, .ref A.m), (1, .int (iI b))] 13 [.int (iI 1)]
  refine z_if_ne (pc := 13) (tgt := 22) C dX4_type_13 (by decide) (by decide) (fun _ => ?_) (fun z => absurd z (by decide))
  refine z_aload_n (pc := 22) (j := 0) C dX4_type_22 rfl rfl ?_
  refine z_getfield (pc := 23) (v := .int (iI ((σ.tx.length : Nat) : Int))) C in_X4 rfl 4 (by decide) q2086 (fun _ z => z) fh2_0 rfl dX4_type_23 ?_
  refine z_sipush (pc := 26) C dX4_type_26 (by decide) ?_
  refine z_icmp_ne (pc := 29) (tgt := 38) C dX4_type_29 (by decide) (by omega) (by decide) (fun c29 => by exfalso; omega) (fun c29 => ?_)
  refine z_aload_n (pc := 32) (j := 0) C dX4_type_32 rfl rfl ?_
  refine z_iconst (pc := 33) C dX4_type_33 ?_
  refine z_callV (pc := 34) (n := 1) (kc' := 0) (ks' := 0) C (m_fails C.t ⟨fh2_0, fh2_1, fh2_2, fh2_3, fh2_4, fh2_5, fh2_6, fh2_7, (kh2.n gle_1 (List.not_mem_cons_of_ne_of_not_mem (Ne.symm (zneA gm_1 gle_1)) (List.not_mem_cons_of_ne_of_not_mem (zneT gle_1 gv_1 (by simp)) (List.not_mem_cons_of_ne_of_not_mem (zneT gle_1 gpa_1 (by simp)) (List.not_mem_cons_of_ne_of_not_mem (zneT gle_1 gtx_1 (by simp)) (List.not_mem_cons_of_ne_of_not_mem (zneT gle_1 gma_1 (by simp)) (List.not_mem_cons_of_ne_of_not_mem (zneT gle_1 gna_1 (by simp)) (List.not_mem_cons_of_ne_of_not_mem (zneT gle_1 gua_1 (by simp)) (List.not_mem_cons_of_ne_of_not_mem (zneT gle_1 gla_1 (by simp)) List.not_mem_nil))))))))), (kh2.n gqa_1 (List.not_mem_cons_of_ne_of_not_mem (Ne.symm (zneA gm_1 gqa_1)) (List.not_mem_cons_of_ne_of_not_mem (zneT gqa_1 gv_1 (by simp)) (List.not_mem_cons_of_ne_of_not_mem (zneT gqa_1 gpa_1 (by simp)) (List.not_mem_cons_of_ne_of_not_mem (zneT gqa_1 gtx_1 (by simp)) (List.not_mem_cons_of_ne_of_not_mem (zneT gqa_1 gma_1 (by simp)) (List.not_mem_cons_of_ne_of_not_mem (zneT gqa_1 gna_1 (by simp)) (List.not_mem_cons_of_ne_of_not_mem (zneT gqa_1 gua_1 (by simp)) (List.not_mem_cons_of_ne_of_not_mem (zneT gqa_1 gla_1 (by simp)) List.not_mem_nil))))))))), gd_1⟩ (x := 2)) (lw_V q2167 q2169 qs27 q74 q2170) (by decide +kernel) ⟨by decide, by decide⟩ fh2_0 rfl rfl rfl (Nat.le_of_ble_eq_true rfl) dX4_type_34 (by omega) (by omega) (zrk fun w h3 hp => ?_) zrx
  obtain ⟨rfl, hM_5, k4⟩ := hp
  have kh3 : zkeep h h3 [A.m, A.v, A.pa, A.tx, A.ma, A.na, A.ua, A.la] := zkeep.loc kh2 k4 (fun q hq => Or.inl (Or.inr hq))
  have hM_5 : mM h3 A ((σ.hi.length : Nat) : Int) ((σ.tx.length : Nat) : Int) σ.si σ.fl σ.wd 2 ap nt rr rq rb wh nd up lo V P T M N U W := hM_5
  obtain ⟨gm_6, gv_6, gpa_6, gtx_6, gma_6, gna_6, gua_6, gla_6, gle_6, gqa_6, gd_6⟩ := id hM_5
  show Z X h3 0 0 [(0, .ref A.m), (1, .int (iI b))] 37 [.int (iI 0)]
  exact z_ireturn (pc := 37) C (by rw [hXp]; exact ⟨_, rfl, rfl, ⟨ap, nt, rr, rq, rb, wh, nd, up, lo, V, P, T, M, N, U, W, ⟨gm_6, gv_6, gpa_6, gtx_6, gma_6, gna_6, gua_6, gla_6, gle_6, gqa_6, gd_6⟩, hS, hP, htq, hR, hsl, hslh⟩, kh3⟩) dX4_type_37
set_option maxHeartbeats 4000000 in
theorem md_lyrics {l : Launch} (hl : l.stackTraces = false) {Γ : zCx} {h : zH} {A : zMA} {σ : zSt} {th : Int} (hW : mdW h A σ th) {i : Int} {t : List Int} (hi : 0 ≤ i) (ht : σ.sh.ls[i.toNat]? = some t)  : zMet l yX4_lyrics (ws_ yX4_lyrics cX4_lyrics 2 (some .int)) ({ frames := 2, cells := 0, slots := 0, locals := 43 }) Γ h [.ref A.m, .int (iI i)] (zrt (fun w h' => w = some (.int (iI (((t.length : Nat) : Int)))) ∧ mdW h' A σ 0 ∧ zkeep h h' [A.m, A.v, A.pa, A.tx, A.ma, A.na, A.ua, A.la])) 0 0 := by
  refine zMet.of (cc := cX4_lyrics) hl (plainFor_of_name (by decide +kernel)) (Nat.le_of_ble_eq_true rfl) ?_
  intro X hXl hXΓ hXp C hnm hnL
  have C : zC X cX4_lyrics RX4 (some .int) 2 43 [] := C
  have hnL : X.2.1.2.2.2.2 = 2 := hnL
  subst hXl hXΓ
  show Z X h 0 0 [(0, .ref A.m), (1, .int (iI i))] 0 []
  obtain ⟨ap, nt, rr, rq, rb, wh, nd, up, lo, V, P, T, M, N, U, W, hM, hS, hP, htq, hR, hsl, hslh⟩ := id hW
  obtain ⟨rsi, rff, rwd, rtl, rtx, rsh, rhi, rhl⟩ := id hR
  obtain ⟨rcl, rcr, rll, rlt, rkt, rkm, rks⟩ := id rsh
  obtain ⟨hsl1, hsl2, hsl3⟩ := id hsl
  have hTr := rtx
  have hTl := rtl
  obtain ⟨gm_1, gv_1, gpa_1, gtx_1, gma_1, gna_1, gua_1, gla_1, gle_1, gqa_1, gd_1⟩ := id hM
  have hit := (List.getElem?_eq_some_iff.mp ht).1
  have htl := rlt _ (List.mem_of_getElem? ht)
  refine z_aload_n (pc := 0) (j := 0) C dX4_lyrics_0 rfl rfl ?_
  refine z_iconst (pc := 1) C dX4_lyrics_1 ?_
  refine z_putfield (pc := 2) (fs' := [.ref A.v, .ref A.pa, .int (iI ((σ.hi.length : Nat) : Int)), .ref A.tx, .int (iI ((σ.tx.length : Nat) : Int)), .int (iI σ.si), .int (iI σ.fl), .int (iI σ.wd), .int (iI 0), .ref A.le, .ref A.qa, .int (iI ap), .int (iI nt), .int (iI rr), .int (iI rq), .int (iI rb), .int (iI wh), .ref A.ma, .ref A.na, .int (iI nd), .ref A.ua, .ref A.la, .int (iI up), .int (iI lo)]) C in_X4 tyX4 tyX4_ok nmX4 rfl 8 (by decide) q2090 (fun _ z => z) rfl rfl rfl (Nat.le_of_ble_eq_true rfl) gm_1 rfl dX4_lyrics_2 ?_
  refine Z.nm (fun h2 eh2 => ?_)
  have kh2 : zkeep h h2 [A.m, A.v, A.pa, A.tx, A.ma, A.na, A.ua, A.la] := by rw [eh2]; exact zkeep.up zkeep.rf (Or.inl (by simp)) gm_1
  have fh2_0 : h2 A.m = some (true, .inr (3, [.ref A.v, .ref A.pa, .int (iI ((σ.hi.length : Nat) : Int)), .ref A.tx, .int (iI ((σ.tx.length : Nat) : Int)), .int (iI σ.si), .int (iI σ.fl), .int (iI σ.wd), .int (iI 0), .ref A.le, .ref A.qa, .int (iI ap), .int (iI nt), .int (iI rr), .int (iI rq), .int (iI rb), .int (iI wh), .ref A.ma, .ref A.na, .int (iI nd), .ref A.ua, .ref A.la, .int (iI up), .int (iI lo)])) := zse eh2
  have fh2_1 : h2 A.v = some (true, .inl (.int, 620, (mA V))) := zsn eh2 gv_1 (Ne.symm (zneA gm_1 gv_1))
  have fh2_2 : h2 A.pa = some (true, .inl (.int, 4960, (mA P))) := zsn eh2 gpa_1 (Ne.symm (zneA gm_1 gpa_1))
  have fh2_3 : h2 A.tx = some (true, .inl (.int, 200, (mA T))) := zsn eh2 gtx_1 (Ne.symm (zneA gm_1 gtx_1))
  have fh2_4 : h2 A.ma = some (true, .inl (.int, 620, (mA M))) := zsn eh2 gma_1 (Ne.symm (zneA gm_1 gma_1))
  have fh2_5 : h2 A.na = some (true, .inl (.int, 20, (mA N))) := zsn eh2 gna_1 (Ne.symm (zneA gm_1 gna_1))
  have fh2_6 : h2 A.ua = some (true, .inl (.int, 1200, (mA U))) := zsn eh2 gua_1 (Ne.symm (zneA gm_1 gua_1))
  have fh2_7 : h2 A.la = some (true, .inl (.int, 1200, (mA W))) := zsn eh2 gla_1 (Ne.symm (zneA gm_1 gla_1))
  refine z_aload_n (pc := 5) (j := 0) C dX4_lyrics_5 rfl rfl ?_
  refine z_iload_n (pc := 6) (j := 1) C dX4_lyrics_6 rfl rfl ?_
  refine z_callV (pc := 7) (n := 1) (kc' := 0) (ks' := 0) C (m_isLine C.t ⟨fh2_0, fh2_1, fh2_2, fh2_3, fh2_4, fh2_5, fh2_6, fh2_7, (kh2.n gle_1 (List.not_mem_cons_of_ne_of_not_mem (Ne.symm (zneA gm_1 gle_1)) (List.not_mem_cons_of_ne_of_not_mem (zneT gle_1 gv_1 (by simp)) (List.not_mem_cons_of_ne_of_not_mem (zneT gle_1 gpa_1 (by simp)) (List.not_mem_cons_of_ne_of_not_mem (zneT gle_1 gtx_1 (by simp)) (List.not_mem_cons_of_ne_of_not_mem (zneT gle_1 gma_1 (by simp)) (List.not_mem_cons_of_ne_of_not_mem (zneT gle_1 gna_1 (by simp)) (List.not_mem_cons_of_ne_of_not_mem (zneT gle_1 gua_1 (by simp)) (List.not_mem_cons_of_ne_of_not_mem (zneT gle_1 gla_1 (by simp)) List.not_mem_nil))))))))), (kh2.n gqa_1 (List.not_mem_cons_of_ne_of_not_mem (Ne.symm (zneA gm_1 gqa_1)) (List.not_mem_cons_of_ne_of_not_mem (zneT gqa_1 gv_1 (by simp)) (List.not_mem_cons_of_ne_of_not_mem (zneT gqa_1 gpa_1 (by simp)) (List.not_mem_cons_of_ne_of_not_mem (zneT gqa_1 gtx_1 (by simp)) (List.not_mem_cons_of_ne_of_not_mem (zneT gqa_1 gma_1 (by simp)) (List.not_mem_cons_of_ne_of_not_mem (zneT gqa_1 gna_1 (by simp)) (List.not_mem_cons_of_ne_of_not_mem (zneT gqa_1 gua_1 (by simp)) (List.not_mem_cons_of_ne_of_not_mem (zneT gqa_1 gla_1 (by simp)) List.not_mem_nil))))))))), gd_1⟩ hS hsl (i := i) (by omega)) (lw_V q2250 q2252 qs37 q74 q2253) (by decide +kernel) ⟨by decide, by decide⟩ fh2_0 rfl rfl rfl (Nat.le_of_ble_eq_true rfl) dX4_lyrics_7 (by omega) (by omega) (zpk (st' := [.int (iI (if 0 ≤ i ∧ i ≤ ((σ.sh.ls.length : Nat) : Int) - 1 then 1 else 0))]) rfl ?_) zrx
  rw [show ((if 0 ≤ i ∧ i ≤ ((σ.sh.ls.length : Nat) : Int) - 1 then 1 else 0) : Int) = 1 from if_pos (by omega)]
  show Z X h2 0 0 [(0, .ref A.m), (1, .int (iI i))] 10 [.int (iI 1)]
  refine z_if_eq (pc := 10) (tgt := 21) C dX4_lyrics_10 (by decide) (by decide) (fun z => absurd z (by decide)) (fun _ => ?_)
  refine z_aload_n (pc := 13) (j := 0) C dX4_lyrics_13 rfl rfl ?_
  refine z_iload_n (pc := 14) (j := 1) C dX4_lyrics_14 rfl rfl ?_
  refine z_callV (pc := 15) (n := 1) (kc' := 0) (ks' := 0) C (m_len C.t ⟨fh2_0, fh2_1, fh2_2, fh2_3, fh2_4, fh2_5, fh2_6, fh2_7, (kh2.n gle_1 (List.not_mem_cons_of_ne_of_not_mem (Ne.symm (zneA gm_1 gle_1)) (List.not_mem_cons_of_ne_of_not_mem (zneT gle_1 gv_1 (by simp)) (List.not_mem_cons_of_ne_of_not_mem (zneT gle_1 gpa_1 (by simp)) (List.not_mem_cons_of_ne_of_not_mem (zneT gle_1 gtx_1 (by simp)) (List.not_mem_cons_of_ne_of_not_mem (zneT gle_1 gma_1 (by simp)) (List.not_mem_cons_of_ne_of_not_mem (zneT gle_1 gna_1 (by simp)) (List.not_mem_cons_of_ne_of_not_mem (zneT gle_1 gua_1 (by simp)) (List.not_mem_cons_of_ne_of_not_mem (zneT gle_1 gla_1 (by simp)) List.not_mem_nil))))))))), (kh2.n gqa_1 (List.not_mem_cons_of_ne_of_not_mem (Ne.symm (zneA gm_1 gqa_1)) (List.not_mem_cons_of_ne_of_not_mem (zneT gqa_1 gv_1 (by simp)) (List.not_mem_cons_of_ne_of_not_mem (zneT gqa_1 gpa_1 (by simp)) (List.not_mem_cons_of_ne_of_not_mem (zneT gqa_1 gtx_1 (by simp)) (List.not_mem_cons_of_ne_of_not_mem (zneT gqa_1 gma_1 (by simp)) (List.not_mem_cons_of_ne_of_not_mem (zneT gqa_1 gna_1 (by simp)) (List.not_mem_cons_of_ne_of_not_mem (zneT gqa_1 gua_1 (by simp)) (List.not_mem_cons_of_ne_of_not_mem (zneT gqa_1 gla_1 (by simp)) List.not_mem_nil))))))))), gd_1⟩ hS hsl (i := i) (by omega) ht) (lw_V q2254 q2256 qs38 q74 q2257) (by decide +kernel) ⟨by decide, by decide⟩ fh2_0 rfl rfl rfl (Nat.le_of_ble_eq_true rfl) dX4_lyrics_15 (by omega) (by omega) (zpk (st' := [.int (iI ((t.length : Nat) : Int))]) rfl ?_) zrx
  refine z_goto (pc := 18) (tgt := 26) C dX4_lyrics_18 (by decide) ?_
  exact z_ireturn (pc := 26) C (by rw [hXp]; exact ⟨_, rfl, rfl, ⟨ap, nt, rr, rq, rb, wh, nd, up, lo, V, P, T, M, N, U, W, ⟨fh2_0, fh2_1, fh2_2, fh2_3, fh2_4, fh2_5, fh2_6, fh2_7, (kh2.n gle_1 (List.not_mem_cons_of_ne_of_not_mem (Ne.symm (zneA gm_1 gle_1)) (List.not_mem_cons_of_ne_of_not_mem (zneT gle_1 gv_1 (by simp)) (List.not_mem_cons_of_ne_of_not_mem (zneT gle_1 gpa_1 (by simp)) (List.not_mem_cons_of_ne_of_not_mem (zneT gle_1 gtx_1 (by simp)) (List.not_mem_cons_of_ne_of_not_mem (zneT gle_1 gma_1 (by simp)) (List.not_mem_cons_of_ne_of_not_mem (zneT gle_1 gna_1 (by simp)) (List.not_mem_cons_of_ne_of_not_mem (zneT gle_1 gua_1 (by simp)) (List.not_mem_cons_of_ne_of_not_mem (zneT gle_1 gla_1 (by simp)) List.not_mem_nil))))))))), (kh2.n gqa_1 (List.not_mem_cons_of_ne_of_not_mem (Ne.symm (zneA gm_1 gqa_1)) (List.not_mem_cons_of_ne_of_not_mem (zneT gqa_1 gv_1 (by simp)) (List.not_mem_cons_of_ne_of_not_mem (zneT gqa_1 gpa_1 (by simp)) (List.not_mem_cons_of_ne_of_not_mem (zneT gqa_1 gtx_1 (by simp)) (List.not_mem_cons_of_ne_of_not_mem (zneT gqa_1 gma_1 (by simp)) (List.not_mem_cons_of_ne_of_not_mem (zneT gqa_1 gna_1 (by simp)) (List.not_mem_cons_of_ne_of_not_mem (zneT gqa_1 gua_1 (by simp)) (List.not_mem_cons_of_ne_of_not_mem (zneT gqa_1 gla_1 (by simp)) List.not_mem_nil))))))))), gd_1⟩, hS, hP, htq, hR, hsl, hslh⟩, kh2⟩) dX4_lyrics_26
set_option maxHeartbeats 4000000 in
theorem md_lyrics_b {l : Launch} (hl : l.stackTraces = false) {Γ : zCx} {h : zH} {A : zMA} {σ : zSt} {th : Int} (hW : mdW h A σ th) {i : Int} (hi : -2147483648 ≤ i ∧ i ≤ 2147483647) (hb : ¬ (0 ≤ i ∧ i < (σ.sh.ls.length : Nat)))  : zMet l yX4_lyrics (ws_ yX4_lyrics cX4_lyrics 2 (some .int)) ({ frames := 2, cells := 0, slots := 0, locals := 43 }) Γ h [.ref A.m, .int (iI i)] (zrt (fun w h' => w = some (.int (iI (0))) ∧ mdW h' A σ 1 ∧ zkeep h h' [A.m, A.v, A.pa, A.tx, A.ma, A.na, A.ua, A.la])) 0 0 := by
  refine zMet.of (cc := cX4_lyrics) hl (plainFor_of_name (by decide +kernel)) (Nat.le_of_ble_eq_true rfl) ?_
  intro X hXl hXΓ hXp C hnm hnL
  have C : zC X cX4_lyrics RX4 (some .int) 2 43 [] := C
  have hnL : X.2.1.2.2.2.2 = 2 := hnL
  subst hXl hXΓ
  show Z X h 0 0 [(0, .ref A.m), (1, .int (iI i))] 0 []
  obtain ⟨ap, nt, rr, rq, rb, wh, nd, up, lo, V, P, T, M, N, U, W, hM, hS, hP, htq, hR, hsl, hslh⟩ := id hW
  obtain ⟨rsi, rff, rwd, rtl, rtx, rsh, rhi, rhl⟩ := id hR
  obtain ⟨rcl, rcr, rll, rlt, rkt, rkm, rks⟩ := id rsh
  obtain ⟨hsl1, hsl2, hsl3⟩ := id hsl
  have hTr := rtx
  have hTl := rtl
  obtain ⟨gm_1, gv_1, gpa_1, gtx_1, gma_1, gna_1, gua_1, gla_1, gle_1, gqa_1, gd_1⟩ := id hM
  refine z_aload_n (pc := 0) (j := 0) C dX4_lyrics_0 rfl rfl ?_
  refine z_iconst (pc := 1) C dX4_lyrics_1 ?_
  refine z_putfield (pc := 2) (fs' := [.ref A.v, .ref A.pa, .int (iI ((σ.hi.length : Nat) : Int)), .ref A.tx, .int (iI ((σ.tx.length : Nat) : Int)), .int (iI σ.si), .int (iI σ.fl), .int (iI σ.wd), .int (iI 0), .ref A.le, .ref A.qa, .int (iI ap), .int (iI nt), .int (iI rr), .int (iI rq), .int (iI rb), .int (iI wh), .ref A.ma, .ref A.na, .int (iI nd), .ref A.ua, .ref A.la, .int (iI up), .int (iI lo)]) C in_X4 tyX4 tyX4_ok nmX4 rfl 8 (by decide) q2090 (fun _ z => z) rfl rfl rfl (Nat.le_of_ble_eq_true rfl) gm_1 rfl dX4_lyrics_2 ?_
  refine Z.nm (fun h2 eh2 => ?_)
  have kh2 : zkeep h h2 [A.m, A.v, A.pa, A.tx, A.ma, A.na, A.ua, A.la] := by rw [eh2]; exact zkeep.up zkeep.rf (Or.inl (by simp)) gm_1
  have fh2_0 : h2 A.m = some (true, .inr (3, [.ref A.v, .ref A.pa, .int (iI ((σ.hi.length : Nat) : Int)), .ref A.tx, .int (iI ((σ.tx.length : Nat) : Int)), .int (iI σ.si), .int (iI σ.fl), .int (iI σ.wd), .int (iI 0), .ref A.le, .ref A.qa, .int (iI ap), .int (iI nt), .int (iI rr), .int (iI rq), .int (iI rb), .int (iI wh), .ref A.ma, .ref A.na, .int (iI nd), .ref A.ua, .ref A.la, .int (iI up), .int (iI lo)])) := zse eh2
  have fh2_1 : h2 A.v = some (true, .inl (.int, 620, (mA V))) := zsn eh2 gv_1 (Ne.symm (zneA gm_1 gv_1))
  have fh2_2 : h2 A.pa = some (true, .inl (.int, 4960, (mA P))) := zsn eh2 gpa_1 (Ne.symm (zneA gm_1 gpa_1))
  have fh2_3 : h2 A.tx = some (true, .inl (.int, 200, (mA T))) := zsn eh2 gtx_1 (Ne.symm (zneA gm_1 gtx_1))
  have fh2_4 : h2 A.ma = some (true, .inl (.int, 620, (mA M))) := zsn eh2 gma_1 (Ne.symm (zneA gm_1 gma_1))
  have fh2_5 : h2 A.na = some (true, .inl (.int, 20, (mA N))) := zsn eh2 gna_1 (Ne.symm (zneA gm_1 gna_1))
  have fh2_6 : h2 A.ua = some (true, .inl (.int, 1200, (mA U))) := zsn eh2 gua_1 (Ne.symm (zneA gm_1 gua_1))
  have fh2_7 : h2 A.la = some (true, .inl (.int, 1200, (mA W))) := zsn eh2 gla_1 (Ne.symm (zneA gm_1 gla_1))
  refine z_aload_n (pc := 5) (j := 0) C dX4_lyrics_5 rfl rfl ?_
  refine z_iload_n (pc := 6) (j := 1) C dX4_lyrics_6 rfl rfl ?_
  refine z_callV (pc := 7) (n := 1) (kc' := 0) (ks' := 0) C (m_isLine C.t ⟨fh2_0, fh2_1, fh2_2, fh2_3, fh2_4, fh2_5, fh2_6, fh2_7, (kh2.n gle_1 (List.not_mem_cons_of_ne_of_not_mem (Ne.symm (zneA gm_1 gle_1)) (List.not_mem_cons_of_ne_of_not_mem (zneT gle_1 gv_1 (by simp)) (List.not_mem_cons_of_ne_of_not_mem (zneT gle_1 gpa_1 (by simp)) (List.not_mem_cons_of_ne_of_not_mem (zneT gle_1 gtx_1 (by simp)) (List.not_mem_cons_of_ne_of_not_mem (zneT gle_1 gma_1 (by simp)) (List.not_mem_cons_of_ne_of_not_mem (zneT gle_1 gna_1 (by simp)) (List.not_mem_cons_of_ne_of_not_mem (zneT gle_1 gua_1 (by simp)) (List.not_mem_cons_of_ne_of_not_mem (zneT gle_1 gla_1 (by simp)) List.not_mem_nil))))))))), (kh2.n gqa_1 (List.not_mem_cons_of_ne_of_not_mem (Ne.symm (zneA gm_1 gqa_1)) (List.not_mem_cons_of_ne_of_not_mem (zneT gqa_1 gv_1 (by simp)) (List.not_mem_cons_of_ne_of_not_mem (zneT gqa_1 gpa_1 (by simp)) (List.not_mem_cons_of_ne_of_not_mem (zneT gqa_1 gtx_1 (by simp)) (List.not_mem_cons_of_ne_of_not_mem (zneT gqa_1 gma_1 (by simp)) (List.not_mem_cons_of_ne_of_not_mem (zneT gqa_1 gna_1 (by simp)) (List.not_mem_cons_of_ne_of_not_mem (zneT gqa_1 gua_1 (by simp)) (List.not_mem_cons_of_ne_of_not_mem (zneT gqa_1 gla_1 (by simp)) List.not_mem_nil))))))))), gd_1⟩ hS hsl (i := i) (by omega)) (lw_V q2250 q2252 qs37 q74 q2253) (by decide +kernel) ⟨by decide, by decide⟩ fh2_0 rfl rfl rfl (Nat.le_of_ble_eq_true rfl) dX4_lyrics_7 (by omega) (by omega) (zpk (st' := [.int (iI (if 0 ≤ i ∧ i ≤ ((σ.sh.ls.length : Nat) : Int) - 1 then 1 else 0))]) rfl ?_) zrx
  rw [show ((if 0 ≤ i ∧ i ≤ ((σ.sh.ls.length : Nat) : Int) - 1 then 1 else 0) : Int) = 0 from if_neg (by omega)]
  show Z X h2 0 0 [(0, .ref A.m), (1, .int (iI i))] 10 [.int (iI 0)]
  refine z_if_eq (pc := 10) (tgt := 21) C dX4_lyrics_10 (by decide) (by decide) (fun _ => ?_) (fun z => absurd z (by decide))
  refine z_aload_n (pc := 21) (j := 0) C dX4_lyrics_21 rfl rfl ?_
  refine z_iconst (pc := 22) C dX4_lyrics_22 ?_
  refine z_callV (pc := 23) (n := 1) (kc' := 0) (ks' := 0) C (m_fails C.t ⟨fh2_0, fh2_1, fh2_2, fh2_3, fh2_4, fh2_5, fh2_6, fh2_7, (kh2.n gle_1 (List.not_mem_cons_of_ne_of_not_mem (Ne.symm (zneA gm_1 gle_1)) (List.not_mem_cons_of_ne_of_not_mem (zneT gle_1 gv_1 (by simp)) (List.not_mem_cons_of_ne_of_not_mem (zneT gle_1 gpa_1 (by simp)) (List.not_mem_cons_of_ne_of_not_mem (zneT gle_1 gtx_1 (by simp)) (List.not_mem_cons_of_ne_of_not_mem (zneT gle_1 gma_1 (by simp)) (List.not_mem_cons_of_ne_of_not_mem (zneT gle_1 gna_1 (by simp)) (List.not_mem_cons_of_ne_of_not_mem (zneT gle_1 gua_1 (by simp)) (List.not_mem_cons_of_ne_of_not_mem (zneT gle_1 gla_1 (by simp)) List.not_mem_nil))))))))), (kh2.n gqa_1 (List.not_mem_cons_of_ne_of_not_mem (Ne.symm (zneA gm_1 gqa_1)) (List.not_mem_cons_of_ne_of_not_mem (zneT gqa_1 gv_1 (by simp)) (List.not_mem_cons_of_ne_of_not_mem (zneT gqa_1 gpa_1 (by simp)) (List.not_mem_cons_of_ne_of_not_mem (zneT gqa_1 gtx_1 (by simp)) (List.not_mem_cons_of_ne_of_not_mem (zneT gqa_1 gma_1 (by simp)) (List.not_mem_cons_of_ne_of_not_mem (zneT gqa_1 gna_1 (by simp)) (List.not_mem_cons_of_ne_of_not_mem (zneT gqa_1 gua_1 (by simp)) (List.not_mem_cons_of_ne_of_not_mem (zneT gqa_1 gla_1 (by simp)) List.not_mem_nil))))))))), gd_1⟩ (x := 1)) (lw_V q2167 q2169 qs27 q74 q2170) (by decide +kernel) ⟨by decide, by decide⟩ fh2_0 rfl rfl rfl (Nat.le_of_ble_eq_true rfl) dX4_lyrics_23 (by omega) (by omega) (zrk fun w h3 hp => ?_) zrx
  obtain ⟨rfl, hM_5, k4⟩ := hp
  have kh3 : zkeep h h3 [A.m, A.v, A.pa, A.tx, A.ma, A.na, A.ua, A.la] := zkeep.loc kh2 k4 (fun q hq => Or.inl (Or.inr hq))
  have hM_5 : mM h3 A ((σ.hi.length : Nat) : Int) ((σ.tx.length : Nat) : Int) σ.si σ.fl σ.wd 1 ap nt rr rq rb wh nd up lo V P T M N U W := hM_5
  obtain ⟨gm_6, gv_6, gpa_6, gtx_6, gma_6, gna_6, gua_6, gla_6, gle_6, gqa_6, gd_6⟩ := id hM_5
  show Z X h3 0 0 [(0, .ref A.m), (1, .int (iI i))] 26 [.int (iI 0)]
  exact z_ireturn (pc := 26) C (by rw [hXp]; exact ⟨_, rfl, rfl, ⟨ap, nt, rr, rq, rb, wh, nd, up, lo, V, P, T, M, N, U, W, ⟨gm_6, gv_6, gpa_6, gtx_6, gma_6, gna_6, gua_6, gla_6, gle_6, gqa_6, gd_6⟩, hS, hP, htq, hR, hsl, hslh⟩, kh3⟩) dX4_lyrics_26
set_option maxHeartbeats 4000000 in
theorem md_lyric {l : Launch} (hl : l.stackTraces = false) {Γ : zCx} {h : zH} {A : zMA} {σ : zSt} {th : Int} (hW : mdW h A σ th) {i : Int} {t : List Int} (hi : 0 ≤ i) (ht : σ.sh.ls[i.toNat]? = some t) {k d : Int} (hk : 0 ≤ k) (hd : t[k.toNat]? = some d)  : zMet l yX4_lyric (ws_ yX4_lyric cX4_lyric 3 (some .int)) ({ frames := 2, cells := 0, slots := 0, locals := 43 }) Γ h [.ref A.m, .int (iI i), .int (iI k)] (zrt (fun w h' => w = some (.int (iI (d))) ∧ mdW h' A σ 0 ∧ zkeep h h' [A.m, A.v, A.pa, A.tx, A.ma, A.na, A.ua, A.la])) 0 0 := by
  refine zMet.of (cc := cX4_lyric) hl (plainFor_of_name (by decide +kernel)) (Nat.le_of_ble_eq_true rfl) ?_
  intro X hXl hXΓ hXp C hnm hnL
  have C : zC X cX4_lyric RX4 (some .int) 2 43 [] := C
  have hnL : X.2.1.2.2.2.2 = 3 := hnL
  subst hXl hXΓ
  show Z X h 0 0 [(0, .ref A.m), (1, .int (iI i)), (2, .int (iI k))] 0 []
  obtain ⟨ap, nt, rr, rq, rb, wh, nd, up, lo, V, P, T, M, N, U, W, hM, hS, hP, htq, hR, hsl, hslh⟩ := id hW
  obtain ⟨rsi, rff, rwd, rtl, rtx, rsh, rhi, rhl⟩ := id hR
  obtain ⟨rcl, rcr, rll, rlt, rkt, rkm, rks⟩ := id rsh
  obtain ⟨hsl1, hsl2, hsl3⟩ := id hsl
  have hTr := rtx
  have hTl := rtl
  obtain ⟨gm_1, gv_1, gpa_1, gtx_1, gma_1, gna_1, gua_1, gla_1, gle_1, gqa_1, gd_1⟩ := id hM
  have hit := (List.getElem?_eq_some_iff.mp ht).1
  have htl := rlt _ (List.mem_of_getElem? ht)
  have hkt := (List.getElem?_eq_some_iff.mp hd).1
  refine z_aload_n (pc := 0) (j := 0) C dX4_lyric_0 rfl rfl ?_
  refine z_iconst (pc := 1) C dX4_lyric_1 ?_
  refine z_putfield (pc := 2) (fs' := [.ref A.v, .ref A.pa, .int (iI ((σ.hi.length : Nat) : Int)), .ref A.tx, .int (iI ((σ.tx.length : Nat) : Int)), .int (iI σ.si), .int (iI σ.fl), .int (iI σ.wd), .int (iI 0), .ref A.le, .ref A.qa, .int (iI ap), .int (iI nt), .int (iI rr), .int (iI rq), .int (iI rb), .int (iI wh), .ref A.ma, .ref A.na, .int (iI nd), .ref A.ua, .ref A.la, .int (iI up), .int (iI lo)]) C in_X4 tyX4 tyX4_ok nmX4 rfl 8 (by decide) q2090 (fun _ z => z) rfl rfl rfl (Nat.le_of_ble_eq_true rfl) gm_1 rfl dX4_lyric_2 ?_
  refine Z.nm (fun h2 eh2 => ?_)
  have kh2 : zkeep h h2 [A.m, A.v, A.pa, A.tx, A.ma, A.na, A.ua, A.la] := by rw [eh2]; exact zkeep.up zkeep.rf (Or.inl (by simp)) gm_1
  have fh2_0 : h2 A.m = some (true, .inr (3, [.ref A.v, .ref A.pa, .int (iI ((σ.hi.length : Nat) : Int)), .ref A.tx, .int (iI ((σ.tx.length : Nat) : Int)), .int (iI σ.si), .int (iI σ.fl), .int (iI σ.wd), .int (iI 0), .ref A.le, .ref A.qa, .int (iI ap), .int (iI nt), .int (iI rr), .int (iI rq), .int (iI rb), .int (iI wh), .ref A.ma, .ref A.na, .int (iI nd), .ref A.ua, .ref A.la, .int (iI up), .int (iI lo)])) := zse eh2
  have fh2_1 : h2 A.v = some (true, .inl (.int, 620, (mA V))) := zsn eh2 gv_1 (Ne.symm (zneA gm_1 gv_1))
  have fh2_2 : h2 A.pa = some (true, .inl (.int, 4960, (mA P))) := zsn eh2 gpa_1 (Ne.symm (zneA gm_1 gpa_1))
  have fh2_3 : h2 A.tx = some (true, .inl (.int, 200, (mA T))) := zsn eh2 gtx_1 (Ne.symm (zneA gm_1 gtx_1))
  have fh2_4 : h2 A.ma = some (true, .inl (.int, 620, (mA M))) := zsn eh2 gma_1 (Ne.symm (zneA gm_1 gma_1))
  have fh2_5 : h2 A.na = some (true, .inl (.int, 20, (mA N))) := zsn eh2 gna_1 (Ne.symm (zneA gm_1 gna_1))
  have fh2_6 : h2 A.ua = some (true, .inl (.int, 1200, (mA U))) := zsn eh2 gua_1 (Ne.symm (zneA gm_1 gua_1))
  have fh2_7 : h2 A.la = some (true, .inl (.int, 1200, (mA W))) := zsn eh2 gla_1 (Ne.symm (zneA gm_1 gla_1))
  refine z_aload_n (pc := 5) (j := 0) C dX4_lyric_5 rfl rfl ?_
  refine z_iload_n (pc := 6) (j := 1) C dX4_lyric_6 rfl rfl ?_
  refine z_callV (pc := 7) (n := 1) (kc' := 0) (ks' := 0) C (m_isLine C.t ⟨fh2_0, fh2_1, fh2_2, fh2_3, fh2_4, fh2_5, fh2_6, fh2_7, (kh2.n gle_1 (List.not_mem_cons_of_ne_of_not_mem (Ne.symm (zneA gm_1 gle_1)) (List.not_mem_cons_of_ne_of_not_mem (zneT gle_1 gv_1 (by simp)) (List.not_mem_cons_of_ne_of_not_mem (zneT gle_1 gpa_1 (by simp)) (List.not_mem_cons_of_ne_of_not_mem (zneT gle_1 gtx_1 (by simp)) (List.not_mem_cons_of_ne_of_not_mem (zneT gle_1 gma_1 (by simp)) (List.not_mem_cons_of_ne_of_not_mem (zneT gle_1 gna_1 (by simp)) (List.not_mem_cons_of_ne_of_not_mem (zneT gle_1 gua_1 (by simp)) (List.not_mem_cons_of_ne_of_not_mem (zneT gle_1 gla_1 (by simp)) List.not_mem_nil))))))))), (kh2.n gqa_1 (List.not_mem_cons_of_ne_of_not_mem (Ne.symm (zneA gm_1 gqa_1)) (List.not_mem_cons_of_ne_of_not_mem (zneT gqa_1 gv_1 (by simp)) (List.not_mem_cons_of_ne_of_not_mem (zneT gqa_1 gpa_1 (by simp)) (List.not_mem_cons_of_ne_of_not_mem (zneT gqa_1 gtx_1 (by simp)) (List.not_mem_cons_of_ne_of_not_mem (zneT gqa_1 gma_1 (by simp)) (List.not_mem_cons_of_ne_of_not_mem (zneT gqa_1 gna_1 (by simp)) (List.not_mem_cons_of_ne_of_not_mem (zneT gqa_1 gua_1 (by simp)) (List.not_mem_cons_of_ne_of_not_mem (zneT gqa_1 gla_1 (by simp)) List.not_mem_nil))))))))), gd_1⟩ hS hsl (i := i) (by omega)) (lw_V q2250 q2252 qs37 q74 q2253) (by decide +kernel) ⟨by decide, by decide⟩ fh2_0 rfl rfl rfl (Nat.le_of_ble_eq_true rfl) dX4_lyric_7 (by omega) (by omega) (zpk (st' := [.int (iI (if 0 ≤ i ∧ i ≤ ((σ.sh.ls.length : Nat) : Int) - 1 then 1 else 0))]) rfl ?_) zrx
  rw [show ((if 0 ≤ i ∧ i ≤ ((σ.sh.ls.length : Nat) : Int) - 1 then 1 else 0) : Int) = 1 from if_pos (by omega)]
  show Z X h2 0 0 [(0, .ref A.m), (1, .int (iI i)), (2, .int (iI k))] 10 [.int (iI 1)]
  refine z_if_eq (pc := 10) (tgt := 37) C dX4_lyric_10 (by decide) (by decide) (fun z => absurd z (by decide)) (fun _ => ?_)
  refine z_iload_n (pc := 13) (j := 2) C dX4_lyric_13 rfl rfl ?_
  refine z_iconst (pc := 14) C dX4_lyric_14 ?_
  refine z_aload_n (pc := 15) (j := 0) C dX4_lyric_15 rfl rfl ?_
  refine z_iload_n (pc := 16) (j := 1) C dX4_lyric_16 rfl rfl ?_
  refine z_callV (pc := 17) (n := 1) (kc' := 0) (ks' := 0) C (m_len C.t ⟨fh2_0, fh2_1, fh2_2, fh2_3, fh2_4, fh2_5, fh2_6, fh2_7, (kh2.n gle_1 (List.not_mem_cons_of_ne_of_not_mem (Ne.symm (zneA gm_1 gle_1)) (List.not_mem_cons_of_ne_of_not_mem (zneT gle_1 gv_1 (by simp)) (List.not_mem_cons_of_ne_of_not_mem (zneT gle_1 gpa_1 (by simp)) (List.not_mem_cons_of_ne_of_not_mem (zneT gle_1 gtx_1 (by simp)) (List.not_mem_cons_of_ne_of_not_mem (zneT gle_1 gma_1 (by simp)) (List.not_mem_cons_of_ne_of_not_mem (zneT gle_1 gna_1 (by simp)) (List.not_mem_cons_of_ne_of_not_mem (zneT gle_1 gua_1 (by simp)) (List.not_mem_cons_of_ne_of_not_mem (zneT gle_1 gla_1 (by simp)) List.not_mem_nil))))))))), (kh2.n gqa_1 (List.not_mem_cons_of_ne_of_not_mem (Ne.symm (zneA gm_1 gqa_1)) (List.not_mem_cons_of_ne_of_not_mem (zneT gqa_1 gv_1 (by simp)) (List.not_mem_cons_of_ne_of_not_mem (zneT gqa_1 gpa_1 (by simp)) (List.not_mem_cons_of_ne_of_not_mem (zneT gqa_1 gtx_1 (by simp)) (List.not_mem_cons_of_ne_of_not_mem (zneT gqa_1 gma_1 (by simp)) (List.not_mem_cons_of_ne_of_not_mem (zneT gqa_1 gna_1 (by simp)) (List.not_mem_cons_of_ne_of_not_mem (zneT gqa_1 gua_1 (by simp)) (List.not_mem_cons_of_ne_of_not_mem (zneT gqa_1 gla_1 (by simp)) List.not_mem_nil))))))))), gd_1⟩ hS hsl (i := i) (by omega) ht) (lw_V q2254 q2256 qs38 q74 q2257) (by decide +kernel) ⟨by decide, by decide⟩ fh2_0 rfl rfl rfl (Nat.le_of_ble_eq_true rfl) dX4_lyric_17 (by omega) (by omega) (zpk (st' := [.int (iI ((t.length : Nat) : Int)), .int (iI 0), .int (iI k)]) rfl ?_) zrx
  refine z_iconst (pc := 20) C dX4_lyric_20 ?_
  refine z_isub (pc := 21) C dX4_lyric_21 ?_
  refine z_callS (pc := 22) (n := 3) (kc' := 0) (ks' := 0) C (m_in C.t (x := k) (a := 0) (b := ((t.length : Nat) : Int) - 1) (by omega) (by decide) (by omega)) (lw_S q2164 q2165 q74 q2166) (by decide +kernel) ⟨by decide, by decide⟩ rfl rfl (Nat.le_of_ble_eq_true rfl) dX4_lyric_22 (by omega) (by omega) (zpk (st' := [.int (iI (if 0 ≤ k ∧ k ≤ ((t.length : Nat) : Int) - 1 then 1 else 0))]) rfl ?_) zrx
  rw [show ((if 0 ≤ k ∧ k ≤ ((t.length : Nat) : Int) - 1 then 1 else 0) : Int) = 1 from if_pos (by omega)]
  show Z X h2 0 0 [(0, .ref A.m), (1, .int (iI i)), (2, .int (iI k))] 25 [.int (iI 1)]
  refine z_if_eq (pc := 25) (tgt := 37) C dX4_lyric_25 (by decide) (by decide) (fun z => absurd z (by decide)) (fun _ => ?_)
  refine z_aload_n (pc := 28) (j := 0) C dX4_lyric_28 rfl rfl ?_
  refine z_iload_n (pc := 29) (j := 1) C dX4_lyric_29 rfl rfl ?_
  refine z_iload_n (pc := 30) (j := 2) C dX4_lyric_30 rfl rfl ?_
  refine z_callV (pc := 31) (n := 2) (kc' := 0) (ks' := 0) C (m_lyr C.t ⟨fh2_0, fh2_1, fh2_2, fh2_3, fh2_4, fh2_5, fh2_6, fh2_7, (kh2.n gle_1 (List.not_mem_cons_of_ne_of_not_mem (Ne.symm (zneA gm_1 gle_1)) (List.not_mem_cons_of_ne_of_not_mem (zneT gle_1 gv_1 (by simp)) (List.not_mem_cons_of_ne_of_not_mem (zneT gle_1 gpa_1 (by simp)) (List.not_mem_cons_of_ne_of_not_mem (zneT gle_1 gtx_1 (by simp)) (List.not_mem_cons_of_ne_of_not_mem (zneT gle_1 gma_1 (by simp)) (List.not_mem_cons_of_ne_of_not_mem (zneT gle_1 gna_1 (by simp)) (List.not_mem_cons_of_ne_of_not_mem (zneT gle_1 gua_1 (by simp)) (List.not_mem_cons_of_ne_of_not_mem (zneT gle_1 gla_1 (by simp)) List.not_mem_nil))))))))), (kh2.n gqa_1 (List.not_mem_cons_of_ne_of_not_mem (Ne.symm (zneA gm_1 gqa_1)) (List.not_mem_cons_of_ne_of_not_mem (zneT gqa_1 gv_1 (by simp)) (List.not_mem_cons_of_ne_of_not_mem (zneT gqa_1 gpa_1 (by simp)) (List.not_mem_cons_of_ne_of_not_mem (zneT gqa_1 gtx_1 (by simp)) (List.not_mem_cons_of_ne_of_not_mem (zneT gqa_1 gma_1 (by simp)) (List.not_mem_cons_of_ne_of_not_mem (zneT gqa_1 gna_1 (by simp)) (List.not_mem_cons_of_ne_of_not_mem (zneT gqa_1 gua_1 (by simp)) (List.not_mem_cons_of_ne_of_not_mem (zneT gqa_1 gla_1 (by simp)) List.not_mem_nil))))))))), gd_1⟩ hS hsl (i := i) (by omega) ht (k := k) (by omega) hd) (lw_V q2262 q2264 qs39 q74 q2265) (by decide +kernel) ⟨by decide, by decide⟩ fh2_0 rfl rfl rfl (Nat.le_of_ble_eq_true rfl) dX4_lyric_31 (by omega) (by omega) (zpk (st' := [.int (iI d)]) rfl ?_) zrx
  refine z_goto (pc := 34) (tgt := 42) C dX4_lyric_34 (by decide) ?_
  exact z_ireturn (pc := 42) C (by rw [hXp]; exact ⟨_, rfl, rfl, ⟨ap, nt, rr, rq, rb, wh, nd, up, lo, V, P, T, M, N, U, W, ⟨fh2_0, fh2_1, fh2_2, fh2_3, fh2_4, fh2_5, fh2_6, fh2_7, (kh2.n gle_1 (List.not_mem_cons_of_ne_of_not_mem (Ne.symm (zneA gm_1 gle_1)) (List.not_mem_cons_of_ne_of_not_mem (zneT gle_1 gv_1 (by simp)) (List.not_mem_cons_of_ne_of_not_mem (zneT gle_1 gpa_1 (by simp)) (List.not_mem_cons_of_ne_of_not_mem (zneT gle_1 gtx_1 (by simp)) (List.not_mem_cons_of_ne_of_not_mem (zneT gle_1 gma_1 (by simp)) (List.not_mem_cons_of_ne_of_not_mem (zneT gle_1 gna_1 (by simp)) (List.not_mem_cons_of_ne_of_not_mem (zneT gle_1 gua_1 (by simp)) (List.not_mem_cons_of_ne_of_not_mem (zneT gle_1 gla_1 (by simp)) List.not_mem_nil))))))))), (kh2.n gqa_1 (List.not_mem_cons_of_ne_of_not_mem (Ne.symm (zneA gm_1 gqa_1)) (List.not_mem_cons_of_ne_of_not_mem (zneT gqa_1 gv_1 (by simp)) (List.not_mem_cons_of_ne_of_not_mem (zneT gqa_1 gpa_1 (by simp)) (List.not_mem_cons_of_ne_of_not_mem (zneT gqa_1 gtx_1 (by simp)) (List.not_mem_cons_of_ne_of_not_mem (zneT gqa_1 gma_1 (by simp)) (List.not_mem_cons_of_ne_of_not_mem (zneT gqa_1 gna_1 (by simp)) (List.not_mem_cons_of_ne_of_not_mem (zneT gqa_1 gua_1 (by simp)) (List.not_mem_cons_of_ne_of_not_mem (zneT gqa_1 gla_1 (by simp)) List.not_mem_nil))))))))), gd_1⟩, hS, hP, htq, hR, hsl, hslh⟩, kh2⟩) dX4_lyric_42
set_option maxHeartbeats 4000000 in
theorem md_lyric_b1 {l : Launch} (hl : l.stackTraces = false) {Γ : zCx} {h : zH} {A : zMA} {σ : zSt} {th : Int} (hW : mdW h A σ th) {i : Int} (hi : -2147483648 ≤ i ∧ i ≤ 2147483647) (hb : ¬ (0 ≤ i ∧ i < (σ.sh.ls.length : Nat))) {k : Int}  : zMet l yX4_lyric (ws_ yX4_lyric cX4_lyric 3 (some .int)) ({ frames := 2, cells := 0, slots := 0, locals := 43 }) Γ h [.ref A.m, .int (iI i), .int (iI k)] (zrt (fun w h' => w = some (.int (iI (0))) ∧ mdW h' A σ 1 ∧ zkeep h h' [A.m, A.v, A.pa, A.tx, A.ma, A.na, A.ua, A.la])) 0 0 := by
  refine zMet.of (cc := cX4_lyric) hl (plainFor_of_name (by decide +kernel)) (Nat.le_of_ble_eq_true rfl) ?_
  intro X hXl hXΓ hXp C hnm hnL
  have C : zC X cX4_lyric RX4 (some .int) 2 43 [] := C
  have hnL : X.2.1.2.2.2.2 = 3 := hnL
  subst hXl hXΓ
  show Z X h 0 0 [(0, .ref A.m), (1, .int (iI i)), (2, .int (iI k))] 0 []
  obtain ⟨ap, nt, rr, rq, rb, wh, nd, up, lo, V, P, T, M, N, U, W, hM, hS, hP, htq, hR, hsl, hslh⟩ := id hW
  obtain ⟨rsi, rff, rwd, rtl, rtx, rsh, rhi, rhl⟩ := id hR
  obtain ⟨rcl, rcr, rll, rlt, rkt, rkm, rks⟩ := id rsh
  obtain ⟨hsl1, hsl2, hsl3⟩ := id hsl
  have hTr := rtx
  have hTl := rtl
  obtain ⟨gm_1, gv_1, gpa_1, gtx_1, gma_1, gna_1, gua_1, gla_1, gle_1, gqa_1, gd_1⟩ := id hM
  refine z_aload_n (pc := 0) (j := 0) C dX4_lyric_0 rfl rfl ?_
  refine z_iconst (pc := 1) C dX4_lyric_1 ?_
  refine z_putfield (pc := 2) (fs' := [.ref A.v, .ref A.pa, .int (iI ((σ.hi.length : Nat) : Int)), .ref A.tx, .int (iI ((σ.tx.length : Nat) : Int)), .int (iI σ.si), .int (iI σ.fl), .int (iI σ.wd), .int (iI 0), .ref A.le, .ref A.qa, .int (iI ap), .int (iI nt), .int (iI rr), .int (iI rq), .int (iI rb), .int (iI wh), .ref A.ma, .ref A.na, .int (iI nd), .ref A.ua, .ref A.la, .int (iI up), .int (iI lo)]) C in_X4 tyX4 tyX4_ok nmX4 rfl 8 (by decide) q2090 (fun _ z => z) rfl rfl rfl (Nat.le_of_ble_eq_true rfl) gm_1 rfl dX4_lyric_2 ?_
  refine Z.nm (fun h2 eh2 => ?_)
  have kh2 : zkeep h h2 [A.m, A.v, A.pa, A.tx, A.ma, A.na, A.ua, A.la] := by rw [eh2]; exact zkeep.up zkeep.rf (Or.inl (by simp)) gm_1
  have fh2_0 : h2 A.m = some (true, .inr (3, [.ref A.v, .ref A.pa, .int (iI ((σ.hi.length : Nat) : Int)), .ref A.tx, .int (iI ((σ.tx.length : Nat) : Int)), .int (iI σ.si), .int (iI σ.fl), .int (iI σ.wd), .int (iI 0), .ref A.le, .ref A.qa, .int (iI ap), .int (iI nt), .int (iI rr), .int (iI rq), .int (iI rb), .int (iI wh), .ref A.ma, .ref A.na, .int (iI nd), .ref A.ua, .ref A.la, .int (iI up), .int (iI lo)])) := zse eh2
  have fh2_1 : h2 A.v = some (true, .inl (.int, 620, (mA V))) := zsn eh2 gv_1 (Ne.symm (zneA gm_1 gv_1))
  have fh2_2 : h2 A.pa = some (true, .inl (.int, 4960, (mA P))) := zsn eh2 gpa_1 (Ne.symm (zneA gm_1 gpa_1))
  have fh2_3 : h2 A.tx = some (true, .inl (.int, 200, (mA T))) := zsn eh2 gtx_1 (Ne.symm (zneA gm_1 gtx_1))
  have fh2_4 : h2 A.ma = some (true, .inl (.int, 620, (mA M))) := zsn eh2 gma_1 (Ne.symm (zneA gm_1 gma_1))
  have fh2_5 : h2 A.na = some (true, .inl (.int, 20, (mA N))) := zsn eh2 gna_1 (Ne.symm (zneA gm_1 gna_1))
  have fh2_6 : h2 A.ua = some (true, .inl (.int, 1200, (mA U))) := zsn eh2 gua_1 (Ne.symm (zneA gm_1 gua_1))
  have fh2_7 : h2 A.la = some (true, .inl (.int, 1200, (mA W))) := zsn eh2 gla_1 (Ne.symm (zneA gm_1 gla_1))
  refine z_aload_n (pc := 5) (j := 0) C dX4_lyric_5 rfl rfl ?_
  refine z_iload_n (pc := 6) (j := 1) C dX4_lyric_6 rfl rfl ?_
  refine z_callV (pc := 7) (n := 1) (kc' := 0) (ks' := 0) C (m_isLine C.t ⟨fh2_0, fh2_1, fh2_2, fh2_3, fh2_4, fh2_5, fh2_6, fh2_7, (kh2.n gle_1 (List.not_mem_cons_of_ne_of_not_mem (Ne.symm (zneA gm_1 gle_1)) (List.not_mem_cons_of_ne_of_not_mem (zneT gle_1 gv_1 (by simp)) (List.not_mem_cons_of_ne_of_not_mem (zneT gle_1 gpa_1 (by simp)) (List.not_mem_cons_of_ne_of_not_mem (zneT gle_1 gtx_1 (by simp)) (List.not_mem_cons_of_ne_of_not_mem (zneT gle_1 gma_1 (by simp)) (List.not_mem_cons_of_ne_of_not_mem (zneT gle_1 gna_1 (by simp)) (List.not_mem_cons_of_ne_of_not_mem (zneT gle_1 gua_1 (by simp)) (List.not_mem_cons_of_ne_of_not_mem (zneT gle_1 gla_1 (by simp)) List.not_mem_nil))))))))), (kh2.n gqa_1 (List.not_mem_cons_of_ne_of_not_mem (Ne.symm (zneA gm_1 gqa_1)) (List.not_mem_cons_of_ne_of_not_mem (zneT gqa_1 gv_1 (by simp)) (List.not_mem_cons_of_ne_of_not_mem (zneT gqa_1 gpa_1 (by simp)) (List.not_mem_cons_of_ne_of_not_mem (zneT gqa_1 gtx_1 (by simp)) (List.not_mem_cons_of_ne_of_not_mem (zneT gqa_1 gma_1 (by simp)) (List.not_mem_cons_of_ne_of_not_mem (zneT gqa_1 gna_1 (by simp)) (List.not_mem_cons_of_ne_of_not_mem (zneT gqa_1 gua_1 (by simp)) (List.not_mem_cons_of_ne_of_not_mem (zneT gqa_1 gla_1 (by simp)) List.not_mem_nil))))))))), gd_1⟩ hS hsl (i := i) (by omega)) (lw_V q2250 q2252 qs37 q74 q2253) (by decide +kernel) ⟨by decide, by decide⟩ fh2_0 rfl rfl rfl (Nat.le_of_ble_eq_true rfl) dX4_lyric_7 (by omega) (by omega) (zpk (st' := [.int (iI (if 0 ≤ i ∧ i ≤ ((σ.sh.ls.length : Nat) : Int) - 1 then 1 else 0))]) rfl ?_) zrx
  rw [show ((if 0 ≤ i ∧ i ≤ ((σ.sh.ls.length : Nat) : Int) - 1 then 1 else 0) : Int) = 0 from if_neg (by omega)]
  show Z X h2 0 0 [(0, .ref A.m), (1, .int (iI i)), (2, .int (iI k))] 10 [.int (iI 0)]
  refine z_if_eq (pc := 10) (tgt := 37) C dX4_lyric_10 (by decide) (by decide) (fun _ => ?_) (fun z => absurd z (by decide))
  refine z_aload_n (pc := 37) (j := 0) C dX4_lyric_37 rfl rfl ?_
  refine z_iconst (pc := 38) C dX4_lyric_38 ?_
  refine z_callV (pc := 39) (n := 1) (kc' := 0) (ks' := 0) C (m_fails C.t ⟨fh2_0, fh2_1, fh2_2, fh2_3, fh2_4, fh2_5, fh2_6, fh2_7, (kh2.n gle_1 (List.not_mem_cons_of_ne_of_not_mem (Ne.symm (zneA gm_1 gle_1)) (List.not_mem_cons_of_ne_of_not_mem (zneT gle_1 gv_1 (by simp)) (List.not_mem_cons_of_ne_of_not_mem (zneT gle_1 gpa_1 (by simp)) (List.not_mem_cons_of_ne_of_not_mem (zneT gle_1 gtx_1 (by simp)) (List.not_mem_cons_of_ne_of_not_mem (zneT gle_1 gma_1 (by simp)) (List.not_mem_cons_of_ne_of_not_mem (zneT gle_1 gna_1 (by simp)) (List.not_mem_cons_of_ne_of_not_mem (zneT gle_1 gua_1 (by simp)) (List.not_mem_cons_of_ne_of_not_mem (zneT gle_1 gla_1 (by simp)) List.not_mem_nil))))))))), (kh2.n gqa_1 (List.not_mem_cons_of_ne_of_not_mem (Ne.symm (zneA gm_1 gqa_1)) (List.not_mem_cons_of_ne_of_not_mem (zneT gqa_1 gv_1 (by simp)) (List.not_mem_cons_of_ne_of_not_mem (zneT gqa_1 gpa_1 (by simp)) (List.not_mem_cons_of_ne_of_not_mem (zneT gqa_1 gtx_1 (by simp)) (List.not_mem_cons_of_ne_of_not_mem (zneT gqa_1 gma_1 (by simp)) (List.not_mem_cons_of_ne_of_not_mem (zneT gqa_1 gna_1 (by simp)) (List.not_mem_cons_of_ne_of_not_mem (zneT gqa_1 gua_1 (by simp)) (List.not_mem_cons_of_ne_of_not_mem (zneT gqa_1 gla_1 (by simp)) List.not_mem_nil))))))))), gd_1⟩ (x := 1)) (lw_V q2167 q2169 qs27 q74 q2170) (by decide +kernel) ⟨by decide, by decide⟩ fh2_0 rfl rfl rfl (Nat.le_of_ble_eq_true rfl) dX4_lyric_39 (by omega) (by omega) (zrk fun w h3 hp => ?_) zrx
  obtain ⟨rfl, hM_5, k4⟩ := hp
  have kh3 : zkeep h h3 [A.m, A.v, A.pa, A.tx, A.ma, A.na, A.ua, A.la] := zkeep.loc kh2 k4 (fun q hq => Or.inl (Or.inr hq))
  have hM_5 : mM h3 A ((σ.hi.length : Nat) : Int) ((σ.tx.length : Nat) : Int) σ.si σ.fl σ.wd 1 ap nt rr rq rb wh nd up lo V P T M N U W := hM_5
  obtain ⟨gm_6, gv_6, gpa_6, gtx_6, gma_6, gna_6, gua_6, gla_6, gle_6, gqa_6, gd_6⟩ := id hM_5
  show Z X h3 0 0 [(0, .ref A.m), (1, .int (iI i)), (2, .int (iI k))] 42 [.int (iI 0)]
  exact z_ireturn (pc := 42) C (by rw [hXp]; exact ⟨_, rfl, rfl, ⟨ap, nt, rr, rq, rb, wh, nd, up, lo, V, P, T, M, N, U, W, ⟨gm_6, gv_6, gpa_6, gtx_6, gma_6, gna_6, gua_6, gla_6, gle_6, gqa_6, gd_6⟩, hS, hP, htq, hR, hsl, hslh⟩, kh3⟩) dX4_lyric_42
set_option maxHeartbeats 4000000 in
theorem md_lyric_b2 {l : Launch} (hl : l.stackTraces = false) {Γ : zCx} {h : zH} {A : zMA} {σ : zSt} {th : Int} (hW : mdW h A σ th) {i : Int} {t : List Int} (hi : 0 ≤ i) (ht : σ.sh.ls[i.toNat]? = some t) {k : Int} (hk : -2147483648 ≤ k ∧ k ≤ 2147483647) (hb : ¬ (0 ≤ k ∧ k < (t.length : Nat)))  : zMet l yX4_lyric (ws_ yX4_lyric cX4_lyric 3 (some .int)) ({ frames := 2, cells := 0, slots := 0, locals := 43 }) Γ h [.ref A.m, .int (iI i), .int (iI k)] (zrt (fun w h' => w = some (.int (iI (0))) ∧ mdW h' A σ 1 ∧ zkeep h h' [A.m, A.v, A.pa, A.tx, A.ma, A.na, A.ua, A.la])) 0 0 := by
  refine zMet.of (cc := cX4_lyric) hl (plainFor_of_name (by decide +kernel)) (Nat.le_of_ble_eq_true rfl) ?_
  intro X hXl hXΓ hXp C hnm hnL
  have C : zC X cX4_lyric RX4 (some .int) 2 43 [] := C
  have hnL : X.2.1.2.2.2.2 = 3 := hnL
  subst hXl hXΓ
  show Z X h 0 0 [(0, .ref A.m), (1, .int (iI i)), (2, .int (iI k))] 0 []
  obtain ⟨ap, nt, rr, rq, rb, wh, nd, up, lo, V, P, T, M, N, U, W, hM, hS, hP, htq, hR, hsl, hslh⟩ := id hW
  obtain ⟨rsi, rff, rwd, rtl, rtx, rsh, rhi, rhl⟩ := id hR
  obtain ⟨rcl, rcr, rll, rlt, rkt, rkm, rks⟩ := id rsh
  obtain ⟨hsl1, hsl2, hsl3⟩ := id hsl
  have hTr := rtx
  have hTl := rtl
  obtain ⟨gm_1, gv_1, gpa_1, gtx_1, gma_1, gna_1, gua_1, gla_1, gle_1, gqa_1, gd_1⟩ := id hM
  have hit := (List.getElem?_eq_some_iff.mp ht).1
  have htl := rlt _ (List.mem_of_getElem? ht)
  refine z_aload_n (pc := 0) (j := 0) C dX4_lyric_0 rfl rfl ?_
  refine z_iconst (pc := 1) C dX4_lyric_1 ?_
  refine z_putfield (pc := 2) (fs' := [.ref A.v, .ref A.pa, .int (iI ((σ.hi.length : Nat) : Int)), .ref A.tx, .int (iI ((σ.tx.length : Nat) : Int)), .int (iI σ.si), .int (iI σ.fl), .int (iI σ.wd), .int (iI 0), .ref A.le, .ref A.qa, .int (iI ap), .int (iI nt), .int (iI rr), .int (iI rq), .int (iI rb), .int (iI wh), .ref A.ma, .ref A.na, .int (iI nd), .ref A.ua, .ref A.la, .int (iI up), .int (iI lo)]) C in_X4 tyX4 tyX4_ok nmX4 rfl 8 (by decide) q2090 (fun _ z => z) rfl rfl rfl (Nat.le_of_ble_eq_true rfl) gm_1 rfl dX4_lyric_2 ?_
  refine Z.nm (fun h2 eh2 => ?_)
  have kh2 : zkeep h h2 [A.m, A.v, A.pa, A.tx, A.ma, A.na, A.ua, A.la] := by rw [eh2]; exact zkeep.up zkeep.rf (Or.inl (by simp)) gm_1
  have fh2_0 : h2 A.m = some (true, .inr (3, [.ref A.v, .ref A.pa, .int (iI ((σ.hi.length : Nat) : Int)), .ref A.tx, .int (iI ((σ.tx.length : Nat) : Int)), .int (iI σ.si), .int (iI σ.fl), .int (iI σ.wd), .int (iI 0), .ref A.le, .ref A.qa, .int (iI ap), .int (iI nt), .int (iI rr), .int (iI rq), .int (iI rb), .int (iI wh), .ref A.ma, .ref A.na, .int (iI nd), .ref A.ua, .ref A.la, .int (iI up), .int (iI lo)])) := zse eh2
  have fh2_1 : h2 A.v = some (true, .inl (.int, 620, (mA V))) := zsn eh2 gv_1 (Ne.symm (zneA gm_1 gv_1))
  have fh2_2 : h2 A.pa = some (true, .inl (.int, 4960, (mA P))) := zsn eh2 gpa_1 (Ne.symm (zneA gm_1 gpa_1))
  have fh2_3 : h2 A.tx = some (true, .inl (.int, 200, (mA T))) := zsn eh2 gtx_1 (Ne.symm (zneA gm_1 gtx_1))
  have fh2_4 : h2 A.ma = some (true, .inl (.int, 620, (mA M))) := zsn eh2 gma_1 (Ne.symm (zneA gm_1 gma_1))
  have fh2_5 : h2 A.na = some (true, .inl (.int, 20, (mA N))) := zsn eh2 gna_1 (Ne.symm (zneA gm_1 gna_1))
  have fh2_6 : h2 A.ua = some (true, .inl (.int, 1200, (mA U))) := zsn eh2 gua_1 (Ne.symm (zneA gm_1 gua_1))
  have fh2_7 : h2 A.la = some (true, .inl (.int, 1200, (mA W))) := zsn eh2 gla_1 (Ne.symm (zneA gm_1 gla_1))
  refine z_aload_n (pc := 5) (j := 0) C dX4_lyric_5 rfl rfl ?_
  refine z_iload_n (pc := 6) (j := 1) C dX4_lyric_6 rfl rfl ?_
  refine z_callV (pc := 7) (n := 1) (kc' := 0) (ks' := 0) C (m_isLine C.t ⟨fh2_0, fh2_1, fh2_2, fh2_3, fh2_4, fh2_5, fh2_6, fh2_7, (kh2.n gle_1 (List.not_mem_cons_of_ne_of_not_mem (Ne.symm (zneA gm_1 gle_1)) (List.not_mem_cons_of_ne_of_not_mem (zneT gle_1 gv_1 (by simp)) (List.not_mem_cons_of_ne_of_not_mem (zneT gle_1 gpa_1 (by simp)) (List.not_mem_cons_of_ne_of_not_mem (zneT gle_1 gtx_1 (by simp)) (List.not_mem_cons_of_ne_of_not_mem (zneT gle_1 gma_1 (by simp)) (List.not_mem_cons_of_ne_of_not_mem (zneT gle_1 gna_1 (by simp)) (List.not_mem_cons_of_ne_of_not_mem (zneT gle_1 gua_1 (by simp)) (List.not_mem_cons_of_ne_of_not_mem (zneT gle_1 gla_1 (by simp)) List.not_mem_nil))))))))), (kh2.n gqa_1 (List.not_mem_cons_of_ne_of_not_mem (Ne.symm (zneA gm_1 gqa_1)) (List.not_mem_cons_of_ne_of_not_mem (zneT gqa_1 gv_1 (by simp)) (List.not_mem_cons_of_ne_of_not_mem (zneT gqa_1 gpa_1 (by simp)) (List.not_mem_cons_of_ne_of_not_mem (zneT gqa_1 gtx_1 (by simp)) (List.not_mem_cons_of_ne_of_not_mem (zneT gqa_1 gma_1 (by simp)) (List.not_mem_cons_of_ne_of_not_mem (zneT gqa_1 gna_1 (by simp)) (List.not_mem_cons_of_ne_of_not_mem (zneT gqa_1 gua_1 (by simp)) (List.not_mem_cons_of_ne_of_not_mem (zneT gqa_1 gla_1 (by simp)) List.not_mem_nil))))))))), gd_1⟩ hS hsl (i := i) (by omega)) (lw_V q2250 q2252 qs37 q74 q2253) (by decide +kernel) ⟨by decide, by decide⟩ fh2_0 rfl rfl rfl (Nat.le_of_ble_eq_true rfl) dX4_lyric_7 (by omega) (by omega) (zpk (st' := [.int (iI (if 0 ≤ i ∧ i ≤ ((σ.sh.ls.length : Nat) : Int) - 1 then 1 else 0))]) rfl ?_) zrx
  rw [show ((if 0 ≤ i ∧ i ≤ ((σ.sh.ls.length : Nat) : Int) - 1 then 1 else 0) : Int) = 1 from if_pos (by omega)]
  show Z X h2 0 0 [(0, .ref A.m), (1, .int (iI i)), (2, .int (iI k))] 10 [.int (iI 1)]
  refine z_if_eq (pc := 10) (tgt := 37) C dX4_lyric_10 (by decide) (by decide) (fun z => absurd z (by decide)) (fun _ => ?_)
  refine z_iload_n (pc := 13) (j := 2) C dX4_lyric_13 rfl rfl ?_
  refine z_iconst (pc := 14) C dX4_lyric_14 ?_
  refine z_aload_n (pc := 15) (j := 0) C dX4_lyric_15 rfl rfl ?_
  refine z_iload_n (pc := 16) (j := 1) C dX4_lyric_16 rfl rfl ?_
  refine z_callV (pc := 17) (n := 1) (kc' := 0) (ks' := 0) C (m_len C.t ⟨fh2_0, fh2_1, fh2_2, fh2_3, fh2_4, fh2_5, fh2_6, fh2_7, (kh2.n gle_1 (List.not_mem_cons_of_ne_of_not_mem (Ne.symm (zneA gm_1 gle_1)) (List.not_mem_cons_of_ne_of_not_mem (zneT gle_1 gv_1 (by simp)) (List.not_mem_cons_of_ne_of_not_mem (zneT gle_1 gpa_1 (by simp)) (List.not_mem_cons_of_ne_of_not_mem (zneT gle_1 gtx_1 (by simp)) (List.not_mem_cons_of_ne_of_not_mem (zneT gle_1 gma_1 (by simp)) (List.not_mem_cons_of_ne_of_not_mem (zneT gle_1 gna_1 (by simp)) (List.not_mem_cons_of_ne_of_not_mem (zneT gle_1 gua_1 (by simp)) (List.not_mem_cons_of_ne_of_not_mem (zneT gle_1 gla_1 (by simp)) List.not_mem_nil))))))))), (kh2.n gqa_1 (List.not_mem_cons_of_ne_of_not_mem (Ne.symm (zneA gm_1 gqa_1)) (List.not_mem_cons_of_ne_of_not_mem (zneT gqa_1 gv_1 (by simp)) (List.not_mem_cons_of_ne_of_not_mem (zneT gqa_1 gpa_1 (by simp)) (List.not_mem_cons_of_ne_of_not_mem (zneT gqa_1 gtx_1 (by simp)) (List.not_mem_cons_of_ne_of_not_mem (zneT gqa_1 gma_1 (by simp)) (List.not_mem_cons_of_ne_of_not_mem (zneT gqa_1 gna_1 (by simp)) (List.not_mem_cons_of_ne_of_not_mem (zneT gqa_1 gua_1 (by simp)) (List.not_mem_cons_of_ne_of_not_mem (zneT gqa_1 gla_1 (by simp)) List.not_mem_nil))))))))), gd_1⟩ hS hsl (i := i) (by omega) ht) (lw_V q2254 q2256 qs38 q74 q2257) (by decide +kernel) ⟨by decide, by decide⟩ fh2_0 rfl rfl rfl (Nat.le_of_ble_eq_true rfl) dX4_lyric_17 (by omega) (by omega) (zpk (st' := [.int (iI ((t.length : Nat) : Int)), .int (iI 0), .int (iI k)]) rfl ?_) zrx
  refine z_iconst (pc := 20) C dX4_lyric_20 ?_
  refine z_isub (pc := 21) C dX4_lyric_21 ?_
  refine z_callS (pc := 22) (n := 3) (kc' := 0) (ks' := 0) C (m_in C.t (x := k) (a := 0) (b := ((t.length : Nat) : Int) - 1) (by omega) (by decide) (by omega)) (lw_S q2164 q2165 q74 q2166) (by decide +kernel) ⟨by decide, by decide⟩ rfl rfl (Nat.le_of_ble_eq_true rfl) dX4_lyric_22 (by omega) (by omega) (zpk (st' := [.int (iI (if 0 ≤ k ∧ k ≤ ((t.length : Nat) : Int) - 1 then 1 else 0))]) rfl ?_) zrx
  rw [show ((if 0 ≤ k ∧ k ≤ ((t.length : Nat) : Int) - 1 then 1 else 0) : Int) = 0 from if_neg (by omega)]
  show Z X h2 0 0 [(0, .ref A.m), (1, .int (iI i)), (2, .int (iI k))] 25 [.int (iI 0)]
  refine z_if_eq (pc := 25) (tgt := 37) C dX4_lyric_25 (by decide) (by decide) (fun _ => ?_) (fun z => absurd z (by decide))
  refine z_aload_n (pc := 37) (j := 0) C dX4_lyric_37 rfl rfl ?_
  refine z_iconst (pc := 38) C dX4_lyric_38 ?_
  refine z_callV (pc := 39) (n := 1) (kc' := 0) (ks' := 0) C (m_fails C.t ⟨fh2_0, fh2_1, fh2_2, fh2_3, fh2_4, fh2_5, fh2_6, fh2_7, (kh2.n gle_1 (List.not_mem_cons_of_ne_of_not_mem (Ne.symm (zneA gm_1 gle_1)) (List.not_mem_cons_of_ne_of_not_mem (zneT gle_1 gv_1 (by simp)) (List.not_mem_cons_of_ne_of_not_mem (zneT gle_1 gpa_1 (by simp)) (List.not_mem_cons_of_ne_of_not_mem (zneT gle_1 gtx_1 (by simp)) (List.not_mem_cons_of_ne_of_not_mem (zneT gle_1 gma_1 (by simp)) (List.not_mem_cons_of_ne_of_not_mem (zneT gle_1 gna_1 (by simp)) (List.not_mem_cons_of_ne_of_not_mem (zneT gle_1 gua_1 (by simp)) (List.not_mem_cons_of_ne_of_not_mem (zneT gle_1 gla_1 (by simp)) List.not_mem_nil))))))))), (kh2.n gqa_1 (List.not_mem_cons_of_ne_of_not_mem (Ne.symm (zneA gm_1 gqa_1)) (List.not_mem_cons_of_ne_of_not_mem (zneT gqa_1 gv_1 (by simp)) (List.not_mem_cons_of_ne_of_not_mem (zneT gqa_1 gpa_1 (by simp)) (List.not_mem_cons_of_ne_of_not_mem (zneT gqa_1 gtx_1 (by simp)) (List.not_mem_cons_of_ne_of_not_mem (zneT gqa_1 gma_1 (by simp)) (List.not_mem_cons_of_ne_of_not_mem (zneT gqa_1 gna_1 (by simp)) (List.not_mem_cons_of_ne_of_not_mem (zneT gqa_1 gua_1 (by simp)) (List.not_mem_cons_of_ne_of_not_mem (zneT gqa_1 gla_1 (by simp)) List.not_mem_nil))))))))), gd_1⟩ (x := 1)) (lw_V q2167 q2169 qs27 q74 q2170) (by decide +kernel) ⟨by decide, by decide⟩ fh2_0 rfl rfl rfl (Nat.le_of_ble_eq_true rfl) dX4_lyric_39 (by omega) (by omega) (zrk fun w h3 hp => ?_) zrx
  obtain ⟨rfl, hM_5, k4⟩ := hp
  have kh3 : zkeep h h3 [A.m, A.v, A.pa, A.tx, A.ma, A.na, A.ua, A.la] := zkeep.loc kh2 k4 (fun q hq => Or.inl (Or.inr hq))
  have hM_5 : mM h3 A ((σ.hi.length : Nat) : Int) ((σ.tx.length : Nat) : Int) σ.si σ.fl σ.wd 1 ap nt rr rq rb wh nd up lo V P T M N U W := hM_5
  obtain ⟨gm_6, gv_6, gpa_6, gtx_6, gma_6, gna_6, gua_6, gla_6, gle_6, gqa_6, gd_6⟩ := id hM_5
  show Z X h3 0 0 [(0, .ref A.m), (1, .int (iI i)), (2, .int (iI k))] 42 [.int (iI 0)]
  exact z_ireturn (pc := 42) C (by rw [hXp]; exact ⟨_, rfl, rfl, ⟨ap, nt, rr, rq, rb, wh, nd, up, lo, V, P, T, M, N, U, W, ⟨gm_6, gv_6, gpa_6, gtx_6, gma_6, gna_6, gua_6, gla_6, gle_6, gqa_6, gd_6⟩, hS, hP, htq, hR, hsl, hslh⟩, kh3⟩) dX4_lyric_42
set_option maxHeartbeats 4000000 in
theorem md_told0 {l : Launch} (hl : l.stackTraces = false) {Γ : zCx} {h : zH} {A : zMA} {σ : zSt} {th : Int} (hW : mdW h A σ th) {i : Int} {x : zCh} (hi : 0 ≤ i) (hx : σ.sh.cs[i.toNat]? = some x)  : zMet l yX4_told (ws_ yX4_told cX4_told 3 (some .int)) ({ frames := 2, cells := 0, slots := 0, locals := 43 }) Γ h [.ref A.m, .int (iI i), .int (iI 0)] (zrt (fun w h' => w = some (.int (iI (x.1))) ∧ mdW h' A σ 0 ∧ zkeep h h' [A.m, A.v, A.pa, A.tx, A.ma, A.na, A.ua, A.la])) 0 0 := by
  refine zMet.of (cc := cX4_told) hl (plainFor_of_name (by decide +kernel)) (Nat.le_of_ble_eq_true rfl) ?_
  intro X hXl hXΓ hXp C hnm hnL
  have C : zC X cX4_told RX4 (some .int) 2 43 [] := C
  have hnL : X.2.1.2.2.2.2 = 3 := hnL
  subst hXl hXΓ
  show Z X h 0 0 [(0, .ref A.m), (1, .int (iI i)), (2, .int (iI 0))] 0 []
  obtain ⟨ap, nt, rr, rq, rb, wh, nd, up, lo, V, P, T, M, N, U, W, hM, hS, hP, htq, hR, hsl, hslh⟩ := id hW
  obtain ⟨rsi, rff, rwd, rtl, rtx, rsh, rhi, rhl⟩ := id hR
  obtain ⟨rcl, rcr, rll, rlt, rkt, rkm, rks⟩ := id rsh
  obtain ⟨hsl1, hsl2, hsl3⟩ := id hsl
  have hTr := rtx
  have hTl := rtl
  obtain ⟨gm_1, gv_1, gpa_1, gtx_1, gma_1, gna_1, gua_1, gla_1, gle_1, gqa_1, gd_1⟩ := id hM
  have hix := (List.getElem?_eq_some_iff.mp hx).1
  obtain ⟨hx1, hx2, hx3, hx4, hx5⟩ := hS.c hi hx
  obtain ⟨xr1, xr2, xr3, xr4, xr5⟩ := rcr _ (List.mem_of_getElem? hx)
  refine z_aload_n (pc := 0) (j := 0) C dX4_told_0 rfl rfl ?_
  refine z_iconst (pc := 1) C dX4_told_1 ?_
  refine z_putfield (pc := 2) (fs' := [.ref A.v, .ref A.pa, .int (iI ((σ.hi.length : Nat) : Int)), .ref A.tx, .int (iI ((σ.tx.length : Nat) : Int)), .int (iI σ.si), .int (iI σ.fl), .int (iI σ.wd), .int (iI 0), .ref A.le, .ref A.qa, .int (iI ap), .int (iI nt), .int (iI rr), .int (iI rq), .int (iI rb), .int (iI wh), .ref A.ma, .ref A.na, .int (iI nd), .ref A.ua, .ref A.la, .int (iI up), .int (iI lo)]) C in_X4 tyX4 tyX4_ok nmX4 rfl 8 (by decide) q2090 (fun _ z => z) rfl rfl rfl (Nat.le_of_ble_eq_true rfl) gm_1 rfl dX4_told_2 ?_
  refine Z.nm (fun h2 eh2 => ?_)
  have kh2 : zkeep h h2 [A.m, A.v, A.pa, A.tx, A.ma, A.na, A.ua, A.la] := by rw [eh2]; exact zkeep.up zkeep.rf (Or.inl (by simp)) gm_1
  have fh2_0 : h2 A.m = some (true, .inr (3, [.ref A.v, .ref A.pa, .int (iI ((σ.hi.length : Nat) : Int)), .ref A.tx, .int (iI ((σ.tx.length : Nat) : Int)), .int (iI σ.si), .int (iI σ.fl), .int (iI σ.wd), .int (iI 0), .ref A.le, .ref A.qa, .int (iI ap), .int (iI nt), .int (iI rr), .int (iI rq), .int (iI rb), .int (iI wh), .ref A.ma, .ref A.na, .int (iI nd), .ref A.ua, .ref A.la, .int (iI up), .int (iI lo)])) := zse eh2
  have fh2_1 : h2 A.v = some (true, .inl (.int, 620, (mA V))) := zsn eh2 gv_1 (Ne.symm (zneA gm_1 gv_1))
  have fh2_2 : h2 A.pa = some (true, .inl (.int, 4960, (mA P))) := zsn eh2 gpa_1 (Ne.symm (zneA gm_1 gpa_1))
  have fh2_3 : h2 A.tx = some (true, .inl (.int, 200, (mA T))) := zsn eh2 gtx_1 (Ne.symm (zneA gm_1 gtx_1))
  have fh2_4 : h2 A.ma = some (true, .inl (.int, 620, (mA M))) := zsn eh2 gma_1 (Ne.symm (zneA gm_1 gma_1))
  have fh2_5 : h2 A.na = some (true, .inl (.int, 20, (mA N))) := zsn eh2 gna_1 (Ne.symm (zneA gm_1 gna_1))
  have fh2_6 : h2 A.ua = some (true, .inl (.int, 1200, (mA U))) := zsn eh2 gua_1 (Ne.symm (zneA gm_1 gua_1))
  have fh2_7 : h2 A.la = some (true, .inl (.int, 1200, (mA W))) := zsn eh2 gla_1 (Ne.symm (zneA gm_1 gla_1))
  refine z_aload_n (pc := 5) (j := 0) C dX4_told_5 rfl rfl ?_
  refine z_iload_n (pc := 6) (j := 1) C dX4_told_6 rfl rfl ?_
  refine z_callV (pc := 7) (n := 1) (kc' := 0) (ks' := 0) C (m_isChord C.t ⟨fh2_0, fh2_1, fh2_2, fh2_3, fh2_4, fh2_5, fh2_6, fh2_7, (kh2.n gle_1 (List.not_mem_cons_of_ne_of_not_mem (Ne.symm (zneA gm_1 gle_1)) (List.not_mem_cons_of_ne_of_not_mem (zneT gle_1 gv_1 (by simp)) (List.not_mem_cons_of_ne_of_not_mem (zneT gle_1 gpa_1 (by simp)) (List.not_mem_cons_of_ne_of_not_mem (zneT gle_1 gtx_1 (by simp)) (List.not_mem_cons_of_ne_of_not_mem (zneT gle_1 gma_1 (by simp)) (List.not_mem_cons_of_ne_of_not_mem (zneT gle_1 gna_1 (by simp)) (List.not_mem_cons_of_ne_of_not_mem (zneT gle_1 gua_1 (by simp)) (List.not_mem_cons_of_ne_of_not_mem (zneT gle_1 gla_1 (by simp)) List.not_mem_nil))))))))), (kh2.n gqa_1 (List.not_mem_cons_of_ne_of_not_mem (Ne.symm (zneA gm_1 gqa_1)) (List.not_mem_cons_of_ne_of_not_mem (zneT gqa_1 gv_1 (by simp)) (List.not_mem_cons_of_ne_of_not_mem (zneT gqa_1 gpa_1 (by simp)) (List.not_mem_cons_of_ne_of_not_mem (zneT gqa_1 gtx_1 (by simp)) (List.not_mem_cons_of_ne_of_not_mem (zneT gqa_1 gma_1 (by simp)) (List.not_mem_cons_of_ne_of_not_mem (zneT gqa_1 gna_1 (by simp)) (List.not_mem_cons_of_ne_of_not_mem (zneT gqa_1 gua_1 (by simp)) (List.not_mem_cons_of_ne_of_not_mem (zneT gqa_1 gla_1 (by simp)) List.not_mem_nil))))))))), gd_1⟩ hS hsl (i := i) (by omega)) (lw_V q2278 q2280 qs41 q74 q2281) (by decide +kernel) ⟨by decide, by decide⟩ fh2_0 rfl rfl rfl (Nat.le_of_ble_eq_true rfl) dX4_told_7 (by omega) (by omega) (zpk (st' := [.int (iI (if 0 ≤ i ∧ i ≤ ((σ.sh.cs.length : Nat) : Int) - 1 then 1 else 0))]) rfl ?_) zrx
  rw [show ((if 0 ≤ i ∧ i ≤ ((σ.sh.cs.length : Nat) : Int) - 1 then 1 else 0) : Int) = 1 from if_pos (by omega)]
  show Z X h2 0 0 [(0, .ref A.m), (1, .int (iI i)), (2, .int (iI 0))] 10 [.int (iI 1)]
  refine z_if_eq (pc := 10) (tgt := 27) C dX4_told_10 (by decide) (by decide) (fun z => absurd z (by decide)) (fun _ => ?_)
  refine z_aload_n (pc := 13) (j := 0) C dX4_told_13 rfl rfl ?_
  refine z_getfield (pc := 14) (v := .ref A.v) C in_X4 rfl 0 (by decide) q2082 (fun _ z => z) fh2_0 rfl dX4_told_14 ?_
  refine z_iload_n (pc := 17) (j := 1) C dX4_told_17 rfl rfl ?_
  refine z_callS (pc := 18) (n := 1) (kc' := 0) (ks' := 0) C (m_chord C.t (x := i)) (lw_S q2203 q2204 q74 q2205) (by decide +kernel) ⟨by decide, by decide⟩ rfl rfl (Nat.le_of_ble_eq_true rfl) dX4_told_18 (by omega) (by omega) (zpk (st' := [.int (iI (210 + 5 * i)), .ref A.v]) rfl ?_) zrx
  refine z_iload_n (pc := 21) (j := 2) C dX4_told_21 rfl rfl ?_
  refine z_iadd (pc := 22) C dX4_told_22 ?_
  refine z_iaload (pc := 23) (v := .int (iI x.1)) C fh2_1 (by omega) (mA_e (vE hx1 (by omega))) dX4_told_23 ?_
  refine z_goto (pc := 24) (tgt := 32) C dX4_told_24 (by decide) ?_
  exact z_ireturn (pc := 32) C (by rw [hXp]; exact ⟨_, rfl, rfl, ⟨ap, nt, rr, rq, rb, wh, nd, up, lo, V, P, T, M, N, U, W, ⟨fh2_0, fh2_1, fh2_2, fh2_3, fh2_4, fh2_5, fh2_6, fh2_7, (kh2.n gle_1 (List.not_mem_cons_of_ne_of_not_mem (Ne.symm (zneA gm_1 gle_1)) (List.not_mem_cons_of_ne_of_not_mem (zneT gle_1 gv_1 (by simp)) (List.not_mem_cons_of_ne_of_not_mem (zneT gle_1 gpa_1 (by simp)) (List.not_mem_cons_of_ne_of_not_mem (zneT gle_1 gtx_1 (by simp)) (List.not_mem_cons_of_ne_of_not_mem (zneT gle_1 gma_1 (by simp)) (List.not_mem_cons_of_ne_of_not_mem (zneT gle_1 gna_1 (by simp)) (List.not_mem_cons_of_ne_of_not_mem (zneT gle_1 gua_1 (by simp)) (List.not_mem_cons_of_ne_of_not_mem (zneT gle_1 gla_1 (by simp)) List.not_mem_nil))))))))), (kh2.n gqa_1 (List.not_mem_cons_of_ne_of_not_mem (Ne.symm (zneA gm_1 gqa_1)) (List.not_mem_cons_of_ne_of_not_mem (zneT gqa_1 gv_1 (by simp)) (List.not_mem_cons_of_ne_of_not_mem (zneT gqa_1 gpa_1 (by simp)) (List.not_mem_cons_of_ne_of_not_mem (zneT gqa_1 gtx_1 (by simp)) (List.not_mem_cons_of_ne_of_not_mem (zneT gqa_1 gma_1 (by simp)) (List.not_mem_cons_of_ne_of_not_mem (zneT gqa_1 gna_1 (by simp)) (List.not_mem_cons_of_ne_of_not_mem (zneT gqa_1 gua_1 (by simp)) (List.not_mem_cons_of_ne_of_not_mem (zneT gqa_1 gla_1 (by simp)) List.not_mem_nil))))))))), gd_1⟩, hS, hP, htq, hR, hsl, hslh⟩, kh2⟩) dX4_told_32
set_option maxHeartbeats 4000000 in
theorem md_told0_b {l : Launch} (hl : l.stackTraces = false) {Γ : zCx} {h : zH} {A : zMA} {σ : zSt} {th : Int} (hW : mdW h A σ th) {i : Int} (hi : -2147483648 ≤ i ∧ i ≤ 2147483647) (hb : ¬ (0 ≤ i ∧ i < (σ.sh.cs.length : Nat)))  : zMet l yX4_told (ws_ yX4_told cX4_told 3 (some .int)) ({ frames := 2, cells := 0, slots := 0, locals := 43 }) Γ h [.ref A.m, .int (iI i), .int (iI 0)] (zrt (fun w h' => w = some (.int (iI (0))) ∧ mdW h' A σ 1 ∧ zkeep h h' [A.m, A.v, A.pa, A.tx, A.ma, A.na, A.ua, A.la])) 0 0 := by
  refine zMet.of (cc := cX4_told) hl (plainFor_of_name (by decide +kernel)) (Nat.le_of_ble_eq_true rfl) ?_
  intro X hXl hXΓ hXp C hnm hnL
  have C : zC X cX4_told RX4 (some .int) 2 43 [] := C
  have hnL : X.2.1.2.2.2.2 = 3 := hnL
  subst hXl hXΓ
  show Z X h 0 0 [(0, .ref A.m), (1, .int (iI i)), (2, .int (iI 0))] 0 []
  obtain ⟨ap, nt, rr, rq, rb, wh, nd, up, lo, V, P, T, M, N, U, W, hM, hS, hP, htq, hR, hsl, hslh⟩ := id hW
  obtain ⟨rsi, rff, rwd, rtl, rtx, rsh, rhi, rhl⟩ := id hR
  obtain ⟨rcl, rcr, rll, rlt, rkt, rkm, rks⟩ := id rsh
  obtain ⟨hsl1, hsl2, hsl3⟩ := id hsl
  have hTr := rtx
  have hTl := rtl
  obtain ⟨gm_1, gv_1, gpa_1, gtx_1, gma_1, gna_1, gua_1, gla_1, gle_1, gqa_1, gd_1⟩ := id hM
  refine z_aload_n (pc := 0) (j := 0) C dX4_told_0 rfl rfl ?_
  refine z_iconst (pc := 1) C dX4_told_1 ?_
  refine z_putfield (pc := 2) (fs' := [.ref A.v, .ref A.pa, .int (iI ((σ.hi.length : Nat) : Int)), .ref A.tx, .int (iI ((σ.tx.length : Nat) : Int)), .int (iI σ.si), .int (iI σ.fl), .int (iI σ.wd), .int (iI 0), .ref A.le, .ref A.qa, .int (iI ap), .int (iI nt), .int (iI rr), .int (iI rq), .int (iI rb), .int (iI wh), .ref A.ma, .ref A.na, .int (iI nd), .ref A.ua, .ref A.la, .int (iI up), .int (iI lo)]) C in_X4 tyX4 tyX4_ok nmX4 rfl 8 (by decide) q2090 (fun _ z => z) rfl rfl rfl (Nat.le_of_ble_eq_true rfl) gm_1 rfl dX4_told_2 ?_
  refine Z.nm (fun h2 eh2 => ?_)
  have kh2 : zkeep h h2 [A.m, A.v, A.pa, A.tx, A.ma, A.na, A.ua, A.la] := by rw [eh2]; exact zkeep.up zkeep.rf (Or.inl (by simp)) gm_1
  have fh2_0 : h2 A.m = some (true, .inr (3, [.ref A.v, .ref A.pa, .int (iI ((σ.hi.length : Nat) : Int)), .ref A.tx, .int (iI ((σ.tx.length : Nat) : Int)), .int (iI σ.si), .int (iI σ.fl), .int (iI σ.wd), .int (iI 0), .ref A.le, .ref A.qa, .int (iI ap), .int (iI nt), .int (iI rr), .int (iI rq), .int (iI rb), .int (iI wh), .ref A.ma, .ref A.na, .int (iI nd), .ref A.ua, .ref A.la, .int (iI up), .int (iI lo)])) := zse eh2
  have fh2_1 : h2 A.v = some (true, .inl (.int, 620, (mA V))) := zsn eh2 gv_1 (Ne.symm (zneA gm_1 gv_1))
  have fh2_2 : h2 A.pa = some (true, .inl (.int, 4960, (mA P))) := zsn eh2 gpa_1 (Ne.symm (zneA gm_1 gpa_1))
  have fh2_3 : h2 A.tx = some (true, .inl (.int, 200, (mA T))) := zsn eh2 gtx_1 (Ne.symm (zneA gm_1 gtx_1))
  have fh2_4 : h2 A.ma = some (true, .inl (.int, 620, (mA M))) := zsn eh2 gma_1 (Ne.symm (zneA gm_1 gma_1))
  have fh2_5 : h2 A.na = some (true, .inl (.int, 20, (mA N))) := zsn eh2 gna_1 (Ne.symm (zneA gm_1 gna_1))
  have fh2_6 : h2 A.ua = some (true, .inl (.int, 1200, (mA U))) := zsn eh2 gua_1 (Ne.symm (zneA gm_1 gua_1))
  have fh2_7 : h2 A.la = some (true, .inl (.int, 1200, (mA W))) := zsn eh2 gla_1 (Ne.symm (zneA gm_1 gla_1))
  refine z_aload_n (pc := 5) (j := 0) C dX4_told_5 rfl rfl ?_
  refine z_iload_n (pc := 6) (j := 1) C dX4_told_6 rfl rfl ?_
  refine z_callV (pc := 7) (n := 1) (kc' := 0) (ks' := 0) C (m_isChord C.t ⟨fh2_0, fh2_1, fh2_2, fh2_3, fh2_4, fh2_5, fh2_6, fh2_7, (kh2.n gle_1 (List.not_mem_cons_of_ne_of_not_mem (Ne.symm (zneA gm_1 gle_1)) (List.not_mem_cons_of_ne_of_not_mem (zneT gle_1 gv_1 (by simp)) (List.not_mem_cons_of_ne_of_not_mem (zneT gle_1 gpa_1 (by simp)) (List.not_mem_cons_of_ne_of_not_mem (zneT gle_1 gtx_1 (by simp)) (List.not_mem_cons_of_ne_of_not_mem (zneT gle_1 gma_1 (by simp)) (List.not_mem_cons_of_ne_of_not_mem (zneT gle_1 gna_1 (by simp)) (List.not_mem_cons_of_ne_of_not_mem (zneT gle_1 gua_1 (by simp)) (List.not_mem_cons_of_ne_of_not_mem (zneT gle_1 gla_1 (by simp)) List.not_mem_nil))))))))), (kh2.n gqa_1 (List.not_mem_cons_of_ne_of_not_mem (Ne.symm (zneA gm_1 gqa_1)) (List.not_mem_cons_of_ne_of_not_mem (zneT gqa_1 gv_1 (by simp)) (List.not_mem_cons_of_ne_of_not_mem (zneT gqa_1 gpa_1 (by simp)) (List.not_mem_cons_of_ne_of_not_mem (zneT gqa_1 gtx_1 (by simp)) (List.not_mem_cons_of_ne_of_not_mem (zneT gqa_1 gma_1 (by simp)) (List.not_mem_cons_of_ne_of_not_mem (zneT gqa_1 gna_1 (by simp)) (List.not_mem_cons_of_ne_of_not_mem (zneT gqa_1 gua_1 (by simp)) (List.not_mem_cons_of_ne_of_not_mem (zneT gqa_1 gla_1 (by simp)) List.not_mem_nil))))))))), gd_1⟩ hS hsl (i := i) (by omega)) (lw_V q2278 q2280 qs41 q74 q2281) (by decide +kernel) ⟨by decide, by decide⟩ fh2_0 rfl rfl rfl (Nat.le_of_ble_eq_true rfl) dX4_told_7 (by omega) (by omega) (zpk (st' := [.int (iI (if 0 ≤ i ∧ i ≤ ((σ.sh.cs.length : Nat) : Int) - 1 then 1 else 0))]) rfl ?_) zrx
  rw [show ((if 0 ≤ i ∧ i ≤ ((σ.sh.cs.length : Nat) : Int) - 1 then 1 else 0) : Int) = 0 from if_neg (by omega)]
  show Z X h2 0 0 [(0, .ref A.m), (1, .int (iI i)), (2, .int (iI 0))] 10 [.int (iI 0)]
  refine z_if_eq (pc := 10) (tgt := 27) C dX4_told_10 (by decide) (by decide) (fun _ => ?_) (fun z => absurd z (by decide))
  refine z_aload_n (pc := 27) (j := 0) C dX4_told_27 rfl rfl ?_
  refine z_iconst (pc := 28) C dX4_told_28 ?_
  refine z_callV (pc := 29) (n := 1) (kc' := 0) (ks' := 0) C (m_fails C.t ⟨fh2_0, fh2_1, fh2_2, fh2_3, fh2_4, fh2_5, fh2_6, fh2_7, (kh2.n gle_1 (List.not_mem_cons_of_ne_of_not_mem (Ne.symm (zneA gm_1 gle_1)) (List.not_mem_cons_of_ne_of_not_mem (zneT gle_1 gv_1 (by simp)) (List.not_mem_cons_of_ne_of_not_mem (zneT gle_1 gpa_1 (by simp)) (List.not_mem_cons_of_ne_of_not_mem (zneT gle_1 gtx_1 (by simp)) (List.not_mem_cons_of_ne_of_not_mem (zneT gle_1 gma_1 (by simp)) (List.not_mem_cons_of_ne_of_not_mem (zneT gle_1 gna_1 (by simp)) (List.not_mem_cons_of_ne_of_not_mem (zneT gle_1 gua_1 (by simp)) (List.not_mem_cons_of_ne_of_not_mem (zneT gle_1 gla_1 (by simp)) List.not_mem_nil))))))))), (kh2.n gqa_1 (List.not_mem_cons_of_ne_of_not_mem (Ne.symm (zneA gm_1 gqa_1)) (List.not_mem_cons_of_ne_of_not_mem (zneT gqa_1 gv_1 (by simp)) (List.not_mem_cons_of_ne_of_not_mem (zneT gqa_1 gpa_1 (by simp)) (List.not_mem_cons_of_ne_of_not_mem (zneT gqa_1 gtx_1 (by simp)) (List.not_mem_cons_of_ne_of_not_mem (zneT gqa_1 gma_1 (by simp)) (List.not_mem_cons_of_ne_of_not_mem (zneT gqa_1 gna_1 (by simp)) (List.not_mem_cons_of_ne_of_not_mem (zneT gqa_1 gua_1 (by simp)) (List.not_mem_cons_of_ne_of_not_mem (zneT gqa_1 gla_1 (by simp)) List.not_mem_nil))))))))), gd_1⟩ (x := 1)) (lw_V q2167 q2169 qs27 q74 q2170) (by decide +kernel) ⟨by decide, by decide⟩ fh2_0 rfl rfl rfl (Nat.le_of_ble_eq_true rfl) dX4_told_29 (by omega) (by omega) (zrk fun w h3 hp => ?_) zrx
  obtain ⟨rfl, hM_5, k4⟩ := hp
  have kh3 : zkeep h h3 [A.m, A.v, A.pa, A.tx, A.ma, A.na, A.ua, A.la] := zkeep.loc kh2 k4 (fun q hq => Or.inl (Or.inr hq))
  have hM_5 : mM h3 A ((σ.hi.length : Nat) : Int) ((σ.tx.length : Nat) : Int) σ.si σ.fl σ.wd 1 ap nt rr rq rb wh nd up lo V P T M N U W := hM_5
  obtain ⟨gm_6, gv_6, gpa_6, gtx_6, gma_6, gna_6, gua_6, gla_6, gle_6, gqa_6, gd_6⟩ := id hM_5
  show Z X h3 0 0 [(0, .ref A.m), (1, .int (iI i)), (2, .int (iI 0))] 32 [.int (iI 0)]
  exact z_ireturn (pc := 32) C (by rw [hXp]; exact ⟨_, rfl, rfl, ⟨ap, nt, rr, rq, rb, wh, nd, up, lo, V, P, T, M, N, U, W, ⟨gm_6, gv_6, gpa_6, gtx_6, gma_6, gna_6, gua_6, gla_6, gle_6, gqa_6, gd_6⟩, hS, hP, htq, hR, hsl, hslh⟩, kh3⟩) dX4_told_32
set_option maxHeartbeats 4000000 in
theorem md_told1 {l : Launch} (hl : l.stackTraces = false) {Γ : zCx} {h : zH} {A : zMA} {σ : zSt} {th : Int} (hW : mdW h A σ th) {i : Int} {x : zCh} (hi : 0 ≤ i) (hx : σ.sh.cs[i.toNat]? = some x)  : zMet l yX4_told (ws_ yX4_told cX4_told 3 (some .int)) ({ frames := 2, cells := 0, slots := 0, locals := 43 }) Γ h [.ref A.m, .int (iI i), .int (iI 1)] (zrt (fun w h' => w = some (.int (iI (x.2.1))) ∧ mdW h' A σ 0 ∧ zkeep h h' [A.m, A.v, A.pa, A.tx, A.ma, A.na, A.ua, A.la])) 0 0 := by
  refine zMet.of (cc := cX4_told) hl (plainFor_of_name (by decide +kernel)) (Nat.le_of_ble_eq_true rfl) ?_
  intro X hXl hXΓ hXp C hnm hnL
  have C : zC X cX4_told RX4 (some .int) 2 43 [] := C
  have hnL : X.2.1.2.2.2.2 = 3 := hnL
  subst hXl hXΓ
  show Z X h 0 0 [(0, .ref A.m), (1, .int (iI i)), (2, .int (iI 1))] 0 []
  obtain ⟨ap, nt, rr, rq, rb, wh, nd, up, lo, V, P, T, M, N, U, W, hM, hS, hP, htq, hR, hsl, hslh⟩ := id hW
  obtain ⟨rsi, rff, rwd, rtl, rtx, rsh, rhi, rhl⟩ := id hR
  obtain ⟨rcl, rcr, rll, rlt, rkt, rkm, rks⟩ := id rsh
  obtain ⟨hsl1, hsl2, hsl3⟩ := id hsl
  have hTr := rtx
  have hTl := rtl
  obtain ⟨gm_1, gv_1, gpa_1, gtx_1, gma_1, gna_1, gua_1, gla_1, gle_1, gqa_1, gd_1⟩ := id hM
  have hix := (List.getElem?_eq_some_iff.mp hx).1
  obtain ⟨hx1, hx2, hx3, hx4, hx5⟩ := hS.c hi hx
  obtain ⟨xr1, xr2, xr3, xr4, xr5⟩ := rcr _ (List.mem_of_getElem? hx)
  refine z_aload_n (pc := 0) (j := 0) C dX4_told_0 rfl rfl ?_
  refine z_iconst (pc := 1) C dX4_told_1 ?_
  refine z_putfield (pc := 2) (fs' := [.ref A.v, .ref A.pa, .int (iI ((σ.hi.length : Nat) : Int)), .ref A.tx, .int (iI ((σ.tx.length : Nat) : Int)), .int (iI σ.si), .int (iI σ.fl), .int (iI σ.wd), .int (iI 0), .ref A.le, .ref A.qa, .int (iI ap), .int (iI nt), .int (iI rr), .int (iI rq), .int (iI rb), .int (iI wh), .ref A.ma, .ref A.na, .int (iI nd), .ref A.ua, .ref A.la, .int (iI up), .int (iI lo)]) C in_X4 tyX4 tyX4_ok nmX4 rfl 8 (by decide) q2090 (fun _ z => z) rfl rfl rfl (Nat.le_of_ble_eq_true rfl) gm_1 rfl dX4_told_2 ?_
  refine Z.nm (fun h2 eh2 => ?_)
  have kh2 : zkeep h h2 [A.m, A.v, A.pa, A.tx, A.ma, A.na, A.ua, A.la] := by rw [eh2]; exact zkeep.up zkeep.rf (Or.inl (by simp)) gm_1
  have fh2_0 : h2 A.m = some (true, .inr (3, [.ref A.v, .ref A.pa, .int (iI ((σ.hi.length : Nat) : Int)), .ref A.tx, .int (iI ((σ.tx.length : Nat) : Int)), .int (iI σ.si), .int (iI σ.fl), .int (iI σ.wd), .int (iI 0), .ref A.le, .ref A.qa, .int (iI ap), .int (iI nt), .int (iI rr), .int (iI rq), .int (iI rb), .int (iI wh), .ref A.ma, .ref A.na, .int (iI nd), .ref A.ua, .ref A.la, .int (iI up), .int (iI lo)])) := zse eh2
  have fh2_1 : h2 A.v = some (true, .inl (.int, 620, (mA V))) := zsn eh2 gv_1 (Ne.symm (zneA gm_1 gv_1))
  have fh2_2 : h2 A.pa = some (true, .inl (.int, 4960, (mA P))) := zsn eh2 gpa_1 (Ne.symm (zneA gm_1 gpa_1))
  have fh2_3 : h2 A.tx = some (true, .inl (.int, 200, (mA T))) := zsn eh2 gtx_1 (Ne.symm (zneA gm_1 gtx_1))
  have fh2_4 : h2 A.ma = some (true, .inl (.int, 620, (mA M))) := zsn eh2 gma_1 (Ne.symm (zneA gm_1 gma_1))
  have fh2_5 : h2 A.na = some (true, .inl (.int, 20, (mA N))) := zsn eh2 gna_1 (Ne.symm (zneA gm_1 gna_1))
  have fh2_6 : h2 A.ua = some (true, .inl (.int, 1200, (mA U))) := zsn eh2 gua_1 (Ne.symm (zneA gm_1 gua_1))
  have fh2_7 : h2 A.la = some (true, .inl (.int, 1200, (mA W))) := zsn eh2 gla_1 (Ne.symm (zneA gm_1 gla_1))
  refine z_aload_n (pc := 5) (j := 0) C dX4_told_5 rfl rfl ?_
  refine z_iload_n (pc := 6) (j := 1) C dX4_told_6 rfl rfl ?_
  refine z_callV (pc := 7) (n := 1) (kc' := 0) (ks' := 0) C (m_isChord C.t ⟨fh2_0, fh2_1, fh2_2, fh2_3, fh2_4, fh2_5, fh2_6, fh2_7, (kh2.n gle_1 (List.not_mem_cons_of_ne_of_not_mem (Ne.symm (zneA gm_1 gle_1)) (List.not_mem_cons_of_ne_of_not_mem (zneT gle_1 gv_1 (by simp)) (List.not_mem_cons_of_ne_of_not_mem (zneT gle_1 gpa_1 (by simp)) (List.not_mem_cons_of_ne_of_not_mem (zneT gle_1 gtx_1 (by simp)) (List.not_mem_cons_of_ne_of_not_mem (zneT gle_1 gma_1 (by simp)) (List.not_mem_cons_of_ne_of_not_mem (zneT gle_1 gna_1 (by simp)) (List.not_mem_cons_of_ne_of_not_mem (zneT gle_1 gua_1 (by simp)) (List.not_mem_cons_of_ne_of_not_mem (zneT gle_1 gla_1 (by simp)) List.not_mem_nil))))))))), (kh2.n gqa_1 (List.not_mem_cons_of_ne_of_not_mem (Ne.symm (zneA gm_1 gqa_1)) (List.not_mem_cons_of_ne_of_not_mem (zneT gqa_1 gv_1 (by simp)) (List.not_mem_cons_of_ne_of_not_mem (zneT gqa_1 gpa_1 (by simp)) (List.not_mem_cons_of_ne_of_not_mem (zneT gqa_1 gtx_1 (by simp)) (List.not_mem_cons_of_ne_of_not_mem (zneT gqa_1 gma_1 (by simp)) (List.not_mem_cons_of_ne_of_not_mem (zneT gqa_1 gna_1 (by simp)) (List.not_mem_cons_of_ne_of_not_mem (zneT gqa_1 gua_1 (by simp)) (List.not_mem_cons_of_ne_of_not_mem (zneT gqa_1 gla_1 (by simp)) List.not_mem_nil))))))))), gd_1⟩ hS hsl (i := i) (by omega)) (lw_V q2278 q2280 qs41 q74 q2281) (by decide +kernel) ⟨by decide, by decide⟩ fh2_0 rfl rfl rfl (Nat.le_of_ble_eq_true rfl) dX4_told_7 (by omega) (by omega) (zpk (st' := [.int (iI (if 0 ≤ i ∧ i ≤ ((σ.sh.cs.length : Nat) : Int) - 1 then 1 else 0))]) rfl ?_) zrx
  rw [show ((if 0 ≤ i ∧ i ≤ ((σ.sh.cs.length : Nat) : Int) - 1 then 1 else 0) : Int) = 1 from if_pos (by omega)]
  show Z X h2 0 0 [(0, .ref A.m), (1, .int (iI i)), (2, .int (iI 1))] 10 [.int (iI 1)]
  refine z_if_eq (pc := 10) (tgt := 27) C dX4_told_10 (by decide) (by decide) (fun z => absurd z (by decide)) (fun _ => ?_)
  refine z_aload_n (pc := 13) (j := 0) C dX4_told_13 rfl rfl ?_
  refine z_getfield (pc := 14) (v := .ref A.v) C in_X4 rfl 0 (by decide) q2082 (fun _ z => z) fh2_0 rfl dX4_told_14 ?_
  refine z_iload_n (pc := 17) (j := 1) C dX4_told_17 rfl rfl ?_
  refine z_callS (pc := 18) (n := 1) (kc' := 0) (ks' := 0) C (m_chord C.t (x := i)) (lw_S q2203 q2204 q74 q2205) (by decide +kernel) ⟨by decide, by decide⟩ rfl rfl (Nat.le_of_ble_eq_true rfl) dX4_told_18 (by omega) (by omega) (zpk (st' := [.int (iI (210 + 5 * i)), .ref A.v]) rfl ?_) zrx
  refine z_iload_n (pc := 21) (j := 2) C dX4_told_21 rfl rfl ?_
  refine z_iadd (pc := 22) C dX4_told_22 ?_
  refine z_iaload (pc := 23) (v := .int (iI x.2.1)) C fh2_1 (by omega) (mA_e (vE hx2 (by omega))) dX4_told_23 ?_
  refine z_goto (pc := 24) (tgt := 32) C dX4_told_24 (by decide) ?_
  exact z_ireturn (pc := 32) C (by rw [hXp]; exact ⟨_, rfl, rfl, ⟨ap, nt, rr, rq, rb, wh, nd, up, lo, V, P, T, M, N, U, W, ⟨fh2_0, fh2_1, fh2_2, fh2_3, fh2_4, fh2_5, fh2_6, fh2_7, (kh2.n gle_1 (List.not_mem_cons_of_ne_of_not_mem (Ne.symm (zneA gm_1 gle_1)) (List.not_mem_cons_of_ne_of_not_mem (zneT gle_1 gv_1 (by simp)) (List.not_mem_cons_of_ne_of_not_mem (zneT gle_1 gpa_1 (by simp)) (List.not_mem_cons_of_ne_of_not_mem (zneT gle_1 gtx_1 (by simp)) (List.not_mem_cons_of_ne_of_not_mem (zneT gle_1 gma_1 (by simp)) (List.not_mem_cons_of_ne_of_not_mem (zneT gle_1 gna_1 (by simp)) (List.not_mem_cons_of_ne_of_not_mem (zneT gle_1 gua_1 (by simp)) (List.not_mem_cons_of_ne_of_not_mem (zneT gle_1 gla_1 (by simp)) List.not_mem_nil))))))))), (kh2.n gqa_1 (List.not_mem_cons_of_ne_of_not_mem (Ne.symm (zneA gm_1 gqa_1)) (List.not_mem_cons_of_ne_of_not_mem (zneT gqa_1 gv_1 (by simp)) (List.not_mem_cons_of_ne_of_not_mem (zneT gqa_1 gpa_1 (by simp)) (List.not_mem_cons_of_ne_of_not_mem (zneT gqa_1 gtx_1 (by simp)) (List.not_mem_cons_of_ne_of_not_mem (zneT gqa_1 gma_1 (by simp)) (List.not_mem_cons_of_ne_of_not_mem (zneT gqa_1 gna_1 (by simp)) (List.not_mem_cons_of_ne_of_not_mem (zneT gqa_1 gua_1 (by simp)) (List.not_mem_cons_of_ne_of_not_mem (zneT gqa_1 gla_1 (by simp)) List.not_mem_nil))))))))), gd_1⟩, hS, hP, htq, hR, hsl, hslh⟩, kh2⟩) dX4_told_32
set_option maxHeartbeats 4000000 in
theorem md_told1_b {l : Launch} (hl : l.stackTraces = false) {Γ : zCx} {h : zH} {A : zMA} {σ : zSt} {th : Int} (hW : mdW h A σ th) {i : Int} (hi : -2147483648 ≤ i ∧ i ≤ 2147483647) (hb : ¬ (0 ≤ i ∧ i < (σ.sh.cs.length : Nat)))  : zMet l yX4_told (ws_ yX4_told cX4_told 3 (some .int)) ({ frames := 2, cells := 0, slots := 0, locals := 43 }) Γ h [.ref A.m, .int (iI i), .int (iI 1)] (zrt (fun w h' => w = some (.int (iI (0))) ∧ mdW h' A σ 1 ∧ zkeep h h' [A.m, A.v, A.pa, A.tx, A.ma, A.na, A.ua, A.la])) 0 0 := by
  refine zMet.of (cc := cX4_told) hl (plainFor_of_name (by decide +kernel)) (Nat.le_of_ble_eq_true rfl) ?_
  intro X hXl hXΓ hXp C hnm hnL
  have C : zC X cX4_told RX4 (some .int) 2 43 [] := C
  have hnL : X.2.1.2.2.2.2 = 3 := hnL
  subst hXl hXΓ
  show Z X h 0 0 [(0, .ref A.m), (1, .int (iI i)), (2, .int (iI 1))] 0 []
  obtain ⟨ap, nt, rr, rq, rb, wh, nd, up, lo, V, P, T, M, N, U, W, hM, hS, hP, htq, hR, hsl, hslh⟩ := id hW
  obtain ⟨rsi, rff, rwd, rtl, rtx, rsh, rhi, rhl⟩ := id hR
  obtain ⟨rcl, rcr, rll, rlt, rkt, rkm, rks⟩ := id rsh
  obtain ⟨hsl1, hsl2, hsl3⟩ := id hsl
  have hTr := rtx
  have hTl := rtl
  obtain ⟨gm_1, gv_1, gpa_1, gtx_1, gma_1, gna_1, gua_1, gla_1, gle_1, gqa_1, gd_1⟩ := id hM
  refine z_aload_n (pc := 0) (j := 0) C dX4_told_0 rfl rfl ?_
  refine z_iconst (pc := 1) C dX4_told_1 ?_
  refine z_putfield (pc := 2) (fs' := [.ref A.v, .ref A.pa, .int (iI ((σ.hi.length : Nat) : Int)), .ref A.tx, .int (iI ((σ.tx.length : Nat) : Int)), .int (iI σ.si), .int (iI σ.fl), .int (iI σ.wd), .int (iI 0), .ref A.le, .ref A.qa, .int (iI ap), .int (iI nt), .int (iI rr), .int (iI rq), .int (iI rb), .int (iI wh), .ref A.ma, .ref A.na, .int (iI nd), .ref A.ua, .ref A.la, .int (iI up), .int (iI lo)]) C in_X4 tyX4 tyX4_ok nmX4 rfl 8 (by decide) q2090 (fun _ z => z) rfl rfl rfl (Nat.le_of_ble_eq_true rfl) gm_1 rfl dX4_told_2 ?_
  refine Z.nm (fun h2 eh2 => ?_)
  have kh2 : zkeep h h2 [A.m, A.v, A.pa, A.tx, A.ma, A.na, A.ua, A.la] := by rw [eh2]; exact zkeep.up zkeep.rf (Or.inl (by simp)) gm_1
  have fh2_0 : h2 A.m = some (true, .inr (3, [.ref A.v, .ref A.pa, .int (iI ((σ.hi.length : Nat) : Int)), .ref A.tx, .int (iI ((σ.tx.length : Nat) : Int)), .int (iI σ.si), .int (iI σ.fl), .int (iI σ.wd), .int (iI 0), .ref A.le, .ref A.qa, .int (iI ap), .int (iI nt), .int (iI rr), .int (iI rq), .int (iI rb), .int (iI wh), .ref A.ma, .ref A.na, .int (iI nd), .ref A.ua, .ref A.la, .int (iI up), .int (iI lo)])) := zse eh2
  have fh2_1 : h2 A.v = some (true, .inl (.int, 620, (mA V))) := zsn eh2 gv_1 (Ne.symm (zneA gm_1 gv_1))
  have fh2_2 : h2 A.pa = some (true, .inl (.int, 4960, (mA P))) := zsn eh2 gpa_1 (Ne.symm (zneA gm_1 gpa_1))
  have fh2_3 : h2 A.tx = some (true, .inl (.int, 200, (mA T))) := zsn eh2 gtx_1 (Ne.symm (zneA gm_1 gtx_1))
  have fh2_4 : h2 A.ma = some (true, .inl (.int, 620, (mA M))) := zsn eh2 gma_1 (Ne.symm (zneA gm_1 gma_1))
  have fh2_5 : h2 A.na = some (true, .inl (.int, 20, (mA N))) := zsn eh2 gna_1 (Ne.symm (zneA gm_1 gna_1))
  have fh2_6 : h2 A.ua = some (true, .inl (.int, 1200, (mA U))) := zsn eh2 gua_1 (Ne.symm (zneA gm_1 gua_1))
  have fh2_7 : h2 A.la = some (true, .inl (.int, 1200, (mA W))) := zsn eh2 gla_1 (Ne.symm (zneA gm_1 gla_1))
  refine z_aload_n (pc := 5) (j := 0) C dX4_told_5 rfl rfl ?_
  refine z_iload_n (pc := 6) (j := 1) C dX4_told_6 rfl rfl ?_
  refine z_callV (pc := 7) (n := 1) (kc' := 0) (ks' := 0) C (m_isChord C.t ⟨fh2_0, fh2_1, fh2_2, fh2_3, fh2_4, fh2_5, fh2_6, fh2_7, (kh2.n gle_1 (List.not_mem_cons_of_ne_of_not_mem (Ne.symm (zneA gm_1 gle_1)) (List.not_mem_cons_of_ne_of_not_mem (zneT gle_1 gv_1 (by simp)) (List.not_mem_cons_of_ne_of_not_mem (zneT gle_1 gpa_1 (by simp)) (List.not_mem_cons_of_ne_of_not_mem (zneT gle_1 gtx_1 (by simp)) (List.not_mem_cons_of_ne_of_not_mem (zneT gle_1 gma_1 (by simp)) (List.not_mem_cons_of_ne_of_not_mem (zneT gle_1 gna_1 (by simp)) (List.not_mem_cons_of_ne_of_not_mem (zneT gle_1 gua_1 (by simp)) (List.not_mem_cons_of_ne_of_not_mem (zneT gle_1 gla_1 (by simp)) List.not_mem_nil))))))))), (kh2.n gqa_1 (List.not_mem_cons_of_ne_of_not_mem (Ne.symm (zneA gm_1 gqa_1)) (List.not_mem_cons_of_ne_of_not_mem (zneT gqa_1 gv_1 (by simp)) (List.not_mem_cons_of_ne_of_not_mem (zneT gqa_1 gpa_1 (by simp)) (List.not_mem_cons_of_ne_of_not_mem (zneT gqa_1 gtx_1 (by simp)) (List.not_mem_cons_of_ne_of_not_mem (zneT gqa_1 gma_1 (by simp)) (List.not_mem_cons_of_ne_of_not_mem (zneT gqa_1 gna_1 (by simp)) (List.not_mem_cons_of_ne_of_not_mem (zneT gqa_1 gua_1 (by simp)) (List.not_mem_cons_of_ne_of_not_mem (zneT gqa_1 gla_1 (by simp)) List.not_mem_nil))))))))), gd_1⟩ hS hsl (i := i) (by omega)) (lw_V q2278 q2280 qs41 q74 q2281) (by decide +kernel) ⟨by decide, by decide⟩ fh2_0 rfl rfl rfl (Nat.le_of_ble_eq_true rfl) dX4_told_7 (by omega) (by omega) (zpk (st' := [.int (iI (if 0 ≤ i ∧ i ≤ ((σ.sh.cs.length : Nat) : Int) - 1 then 1 else 0))]) rfl ?_) zrx
  rw [show ((if 0 ≤ i ∧ i ≤ ((σ.sh.cs.length : Nat) : Int) - 1 then 1 else 0) : Int) = 0 from if_neg (by omega)]
  show Z X h2 0 0 [(0, .ref A.m), (1, .int (iI i)), (2, .int (iI 1))] 10 [.int (iI 0)]
  refine z_if_eq (pc := 10) (tgt := 27) C dX4_told_10 (by decide) (by decide) (fun _ => ?_) (fun z => absurd z (by decide))
  refine z_aload_n (pc := 27) (j := 0) C dX4_told_27 rfl rfl ?_
  refine z_iconst (pc := 28) C dX4_told_28 ?_
  refine z_callV (pc := 29) (n := 1) (kc' := 0) (ks' := 0) C (m_fails C.t ⟨fh2_0, fh2_1, fh2_2, fh2_3, fh2_4, fh2_5, fh2_6, fh2_7, (kh2.n gle_1 (List.not_mem_cons_of_ne_of_not_mem (Ne.symm (zneA gm_1 gle_1)) (List.not_mem_cons_of_ne_of_not_mem (zneT gle_1 gv_1 (by simp)) (List.not_mem_cons_of_ne_of_not_mem (zneT gle_1 gpa_1 (by simp)) (List.not_mem_cons_of_ne_of_not_mem (zneT gle_1 gtx_1 (by simp)) (List.not_mem_cons_of_ne_of_not_mem (zneT gle_1 gma_1 (by simp)) (List.not_mem_cons_of_ne_of_not_mem (zneT gle_1 gna_1 (by simp)) (List.not_mem_cons_of_ne_of_not_mem (zneT gle_1 gua_1 (by simp)) (List.not_mem_cons_of_ne_of_not_mem (zneT gle_1 gla_1 (by simp)) List.not_mem_nil))))))))), (kh2.n gqa_1 (List.not_mem_cons_of_ne_of_not_mem (Ne.symm (zneA gm_1 gqa_1)) (List.not_mem_cons_of_ne_of_not_mem (zneT gqa_1 gv_1 (by simp)) (List.not_mem_cons_of_ne_of_not_mem (zneT gqa_1 gpa_1 (by simp)) (List.not_mem_cons_of_ne_of_not_mem (zneT gqa_1 gtx_1 (by simp)) (List.not_mem_cons_of_ne_of_not_mem (zneT gqa_1 gma_1 (by simp)) (List.not_mem_cons_of_ne_of_not_mem (zneT gqa_1 gna_1 (by simp)) (List.not_mem_cons_of_ne_of_not_mem (zneT gqa_1 gua_1 (by simp)) (List.not_mem_cons_of_ne_of_not_mem (zneT gqa_1 gla_1 (by simp)) List.not_mem_nil))))))))), gd_1⟩ (x := 1)) (lw_V q2167 q2169 qs27 q74 q2170) (by decide +kernel) ⟨by decide, by decide⟩ fh2_0 rfl rfl rfl (Nat.le_of_ble_eq_true rfl) dX4_told_29 (by omega) (by omega) (zrk fun w h3 hp => ?_) zrx
  obtain ⟨rfl, hM_5, k4⟩ := hp
  have kh3 : zkeep h h3 [A.m, A.v, A.pa, A.tx, A.ma, A.na, A.ua, A.la] := zkeep.loc kh2 k4 (fun q hq => Or.inl (Or.inr hq))
  have hM_5 : mM h3 A ((σ.hi.length : Nat) : Int) ((σ.tx.length : Nat) : Int) σ.si σ.fl σ.wd 1 ap nt rr rq rb wh nd up lo V P T M N U W := hM_5
  obtain ⟨gm_6, gv_6, gpa_6, gtx_6, gma_6, gna_6, gua_6, gla_6, gle_6, gqa_6, gd_6⟩ := id hM_5
  show Z X h3 0 0 [(0, .ref A.m), (1, .int (iI i)), (2, .int (iI 1))] 32 [.int (iI 0)]
  exact z_ireturn (pc := 32) C (by rw [hXp]; exact ⟨_, rfl, rfl, ⟨ap, nt, rr, rq, rb, wh, nd, up, lo, V, P, T, M, N, U, W, ⟨gm_6, gv_6, gpa_6, gtx_6, gma_6, gna_6, gua_6, gla_6, gle_6, gqa_6, gd_6⟩, hS, hP, htq, hR, hsl, hslh⟩, kh3⟩) dX4_told_32
set_option maxHeartbeats 4000000 in
theorem md_told2 {l : Launch} (hl : l.stackTraces = false) {Γ : zCx} {h : zH} {A : zMA} {σ : zSt} {th : Int} (hW : mdW h A σ th) {i : Int} {x : zCh} (hi : 0 ≤ i) (hx : σ.sh.cs[i.toNat]? = some x)  : zMet l yX4_told (ws_ yX4_told cX4_told 3 (some .int)) ({ frames := 2, cells := 0, slots := 0, locals := 43 }) Γ h [.ref A.m, .int (iI i), .int (iI 2)] (zrt (fun w h' => w = some (.int (iI (x.2.2.1))) ∧ mdW h' A σ 0 ∧ zkeep h h' [A.m, A.v, A.pa, A.tx, A.ma, A.na, A.ua, A.la])) 0 0 := by
  refine zMet.of (cc := cX4_told) hl (plainFor_of_name (by decide +kernel)) (Nat.le_of_ble_eq_true rfl) ?_
  intro X hXl hXΓ hXp C hnm hnL
  have C : zC X cX4_told RX4 (some .int) 2 43 [] := C
  have hnL : X.2.1.2.2.2.2 = 3 := hnL
  subst hXl hXΓ
  show Z X h 0 0 [(0, .ref A.m), (1, .int (iI i)), (2, .int (iI 2))] 0 []
  obtain ⟨ap, nt, rr, rq, rb, wh, nd, up, lo, V, P, T, M, N, U, W, hM, hS, hP, htq, hR, hsl, hslh⟩ := id hW
  obtain ⟨rsi, rff, rwd, rtl, rtx, rsh, rhi, rhl⟩ := id hR
  obtain ⟨rcl, rcr, rll, rlt, rkt, rkm, rks⟩ := id rsh
  obtain ⟨hsl1, hsl2, hsl3⟩ := id hsl
  have hTr := rtx
  have hTl := rtl
  obtain ⟨gm_1, gv_1, gpa_1, gtx_1, gma_1, gna_1, gua_1, gla_1, gle_1, gqa_1, gd_1⟩ := id hM
  have hix := (List.getElem?_eq_some_iff.mp hx).1
  obtain ⟨hx1, hx2, hx3, hx4, hx5⟩ := hS.c hi hx
  obtain ⟨xr1, xr2, xr3, xr4, xr5⟩ := rcr _ (List.mem_of_getElem? hx)
  refine z_aload_n (pc := 0) (j := 0) C dX4_told_0 rfl rfl ?_
  refine z_iconst (pc := 1) C dX4_told_1 ?_
  refine z_putfield (pc := 2) (fs' := [.ref A.v, .ref A.pa, .int (iI ((σ.hi.length : Nat) : Int)), .ref A.tx, .int (iI ((σ.tx.length : Nat) : Int)), .int (iI σ.si), .int (iI σ.fl), .int (iI σ.wd), .int (iI 0), .ref A.le, .ref A.qa, .int (iI ap), .int (iI nt), .int (iI rr), .int (iI rq), .int (iI rb), .int (iI wh), .ref A.ma, .ref A.na, .int (iI nd), .ref A.ua, .ref A.la, .int (iI up), .int (iI lo)]) C in_X4 tyX4 tyX4_ok nmX4 rfl 8 (by decide) q2090 (fun _ z => z) rfl rfl rfl (Nat.le_of_ble_eq_true rfl) gm_1 rfl dX4_told_2 ?_
  refine Z.nm (fun h2 eh2 => ?_)
  have kh2 : zkeep h h2 [A.m, A.v, A.pa, A.tx, A.ma, A.na, A.ua, A.la] := by rw [eh2]; exact zkeep.up zkeep.rf (Or.inl (by simp)) gm_1
  have fh2_0 : h2 A.m = some (true, .inr (3, [.ref A.v, .ref A.pa, .int (iI ((σ.hi.length : Nat) : Int)), .ref A.tx, .int (iI ((σ.tx.length : Nat) : Int)), .int (iI σ.si), .int (iI σ.fl), .int (iI σ.wd), .int (iI 0), .ref A.le, .ref A.qa, .int (iI ap), .int (iI nt), .int (iI rr), .int (iI rq), .int (iI rb), .int (iI wh), .ref A.ma, .ref A.na, .int (iI nd), .ref A.ua, .ref A.la, .int (iI up), .int (iI lo)])) := zse eh2
  have fh2_1 : h2 A.v = some (true, .inl (.int, 620, (mA V))) := zsn eh2 gv_1 (Ne.symm (zneA gm_1 gv_1))
  have fh2_2 : h2 A.pa = some (true, .inl (.int, 4960, (mA P))) := zsn eh2 gpa_1 (Ne.symm (zneA gm_1 gpa_1))
  have fh2_3 : h2 A.tx = some (true, .inl (.int, 200, (mA T))) := zsn eh2 gtx_1 (Ne.symm (zneA gm_1 gtx_1))
  have fh2_4 : h2 A.ma = some (true, .inl (.int, 620, (mA M))) := zsn eh2 gma_1 (Ne.symm (zneA gm_1 gma_1))
  have fh2_5 : h2 A.na = some (true, .inl (.int, 20, (mA N))) := zsn eh2 gna_1 (Ne.symm (zneA gm_1 gna_1))
  have fh2_6 : h2 A.ua = some (true, .inl (.int, 1200, (mA U))) := zsn eh2 gua_1 (Ne.symm (zneA gm_1 gua_1))
  have fh2_7 : h2 A.la = some (true, .inl (.int, 1200, (mA W))) := zsn eh2 gla_1 (Ne.symm (zneA gm_1 gla_1))
  refine z_aload_n (pc := 5) (j := 0) C dX4_told_5 rfl rfl ?_
  refine z_iload_n (pc := 6) (j := 1) C dX4_told_6 rfl rfl ?_
  refine z_callV (pc := 7) (n := 1) (kc' := 0) (ks' := 0) C (m_isChord C.t ⟨fh2_0, fh2_1, fh2_2, fh2_3, fh2_4, fh2_5, fh2_6, fh2_7, (kh2.n gle_1 (List.not_mem_cons_of_ne_of_not_mem (Ne.symm (zneA gm_1 gle_1)) (List.not_mem_cons_of_ne_of_not_mem (zneT gle_1 gv_1 (by simp)) (List.not_mem_cons_of_ne_of_not_mem (zneT gle_1 gpa_1 (by simp)) (List.not_mem_cons_of_ne_of_not_mem (zneT gle_1 gtx_1 (by simp)) (List.not_mem_cons_of_ne_of_not_mem (zneT gle_1 gma_1 (by simp)) (List.not_mem_cons_of_ne_of_not_mem (zneT gle_1 gna_1 (by simp)) (List.not_mem_cons_of_ne_of_not_mem (zneT gle_1 gua_1 (by simp)) (List.not_mem_cons_of_ne_of_not_mem (zneT gle_1 gla_1 (by simp)) List.not_mem_nil))))))))), (kh2.n gqa_1 (List.not_mem_cons_of_ne_of_not_mem (Ne.symm (zneA gm_1 gqa_1)) (List.not_mem_cons_of_ne_of_not_mem (zneT gqa_1 gv_1 (by simp)) (List.not_mem_cons_of_ne_of_not_mem (zneT gqa_1 gpa_1 (by simp)) (List.not_mem_cons_of_ne_of_not_mem (zneT gqa_1 gtx_1 (by simp)) (List.not_mem_cons_of_ne_of_not_mem (zneT gqa_1 gma_1 (by simp)) (List.not_mem_cons_of_ne_of_not_mem (zneT gqa_1 gna_1 (by simp)) (List.not_mem_cons_of_ne_of_not_mem (zneT gqa_1 gua_1 (by simp)) (List.not_mem_cons_of_ne_of_not_mem (zneT gqa_1 gla_1 (by simp)) List.not_mem_nil))))))))), gd_1⟩ hS hsl (i := i) (by omega)) (lw_V q2278 q2280 qs41 q74 q2281) (by decide +kernel) ⟨by decide, by decide⟩ fh2_0 rfl rfl rfl (Nat.le_of_ble_eq_true rfl) dX4_told_7 (by omega) (by omega) (zpk (st' := [.int (iI (if 0 ≤ i ∧ i ≤ ((σ.sh.cs.length : Nat) : Int) - 1 then 1 else 0))]) rfl ?_) zrx
  rw [show ((if 0 ≤ i ∧ i ≤ ((σ.sh.cs.length : Nat) : Int) - 1 then 1 else 0) : Int) = 1 from if_pos (by omega)]
  show Z X h2 0 0 [(0, .ref A.m), (1, .int (iI i)), (2, .int (iI 2))] 10 [.int (iI 1)]
  refine z_if_eq (pc := 10) (tgt := 27) C dX4_told_10 (by decide) (by decide) (fun z => absurd z (by decide)) (fun _ => ?_)
  refine z_aload_n (pc := 13) (j := 0) C dX4_told_13 rfl rfl ?_
  refine z_getfield (pc := 14) (v := .ref A.v) C in_X4 rfl 0 (by decide) q2082 (fun _ z => z) fh2_0 rfl dX4_told_14 ?_
  refine z_iload_n (pc := 17) (j := 1) C dX4_told_17 rfl rfl ?_
  refine z_callS (pc := 18) (n := 1) (kc' := 0) (ks' := 0) C (m_chord C.t (x := i)) (lw_S q2203 q2204 q74 q2205) (by decide +kernel) ⟨by decide, by decide⟩ rfl rfl (Nat.le_of_ble_eq_true rfl) dX4_told_18 (by omega) (by omega) (zpk (st' := [.int (iI (210 + 5 * i)), .ref A.v]) rfl ?_) zrx
  refine z_iload_n (pc := 21) (j := 2) C dX4_told_21 rfl rfl ?_
  refine z_iadd (pc := 22) C dX4_told_22 ?_
  refine z_iaload (pc := 23) (v := .int (iI x.2.2.1)) C fh2_1 (by omega) (mA_e (vE hx3 (by omega))) dX4_told_23 ?_
  refine z_goto (pc := 24) (tgt := 32) C dX4_told_24 (by decide) ?_
  exact z_ireturn (pc := 32) C (by rw [hXp]; exact ⟨_, rfl, rfl, ⟨ap, nt, rr, rq, rb, wh, nd, up, lo, V, P, T, M, N, U, W, ⟨fh2_0, fh2_1, fh2_2, fh2_3, fh2_4, fh2_5, fh2_6, fh2_7, (kh2.n gle_1 (List.not_mem_cons_of_ne_of_not_mem (Ne.symm (zneA gm_1 gle_1)) (List.not_mem_cons_of_ne_of_not_mem (zneT gle_1 gv_1 (by simp)) (List.not_mem_cons_of_ne_of_not_mem (zneT gle_1 gpa_1 (by simp)) (List.not_mem_cons_of_ne_of_not_mem (zneT gle_1 gtx_1 (by simp)) (List.not_mem_cons_of_ne_of_not_mem (zneT gle_1 gma_1 (by simp)) (List.not_mem_cons_of_ne_of_not_mem (zneT gle_1 gna_1 (by simp)) (List.not_mem_cons_of_ne_of_not_mem (zneT gle_1 gua_1 (by simp)) (List.not_mem_cons_of_ne_of_not_mem (zneT gle_1 gla_1 (by simp)) List.not_mem_nil))))))))), (kh2.n gqa_1 (List.not_mem_cons_of_ne_of_not_mem (Ne.symm (zneA gm_1 gqa_1)) (List.not_mem_cons_of_ne_of_not_mem (zneT gqa_1 gv_1 (by simp)) (List.not_mem_cons_of_ne_of_not_mem (zneT gqa_1 gpa_1 (by simp)) (List.not_mem_cons_of_ne_of_not_mem (zneT gqa_1 gtx_1 (by simp)) (List.not_mem_cons_of_ne_of_not_mem (zneT gqa_1 gma_1 (by simp)) (List.not_mem_cons_of_ne_of_not_mem (zneT gqa_1 gna_1 (by simp)) (List.not_mem_cons_of_ne_of_not_mem (zneT gqa_1 gua_1 (by simp)) (List.not_mem_cons_of_ne_of_not_mem (zneT gqa_1 gla_1 (by simp)) List.not_mem_nil))))))))), gd_1⟩, hS, hP, htq, hR, hsl, hslh⟩, kh2⟩) dX4_told_32
set_option maxHeartbeats 4000000 in
theorem md_told2_b {l : Launch} (hl : l.stackTraces = false) {Γ : zCx} {h : zH} {A : zMA} {σ : zSt} {th : Int} (hW : mdW h A σ th) {i : Int} (hi : -2147483648 ≤ i ∧ i ≤ 2147483647) (hb : ¬ (0 ≤ i ∧ i < (σ.sh.cs.length : Nat)))  : zMet l yX4_told (ws_ yX4_told cX4_told 3 (some .int)) ({ frames := 2, cells := 0, slots := 0, locals := 43 }) Γ h [.ref A.m, .int (iI i), .int (iI 2)] (zrt (fun w h' => w = some (.int (iI (0))) ∧ mdW h' A σ 1 ∧ zkeep h h' [A.m, A.v, A.pa, A.tx, A.ma, A.na, A.ua, A.la])) 0 0 := by
  refine zMet.of (cc := cX4_told) hl (plainFor_of_name (by decide +kernel)) (Nat.le_of_ble_eq_true rfl) ?_
  intro X hXl hXΓ hXp C hnm hnL
  have C : zC X cX4_told RX4 (some .int) 2 43 [] := C
  have hnL : X.2.1.2.2.2.2 = 3 := hnL
  subst hXl hXΓ
  show Z X h 0 0 [(0, .ref A.m), (1, .int (iI i)), (2, .int (iI 2))] 0 []
  obtain ⟨ap, nt, rr, rq, rb, wh, nd, up, lo, V, P, T, M, N, U, W, hM, hS, hP, htq, hR, hsl, hslh⟩ := id hW
  obtain ⟨rsi, rff, rwd, rtl, rtx, rsh, rhi, rhl⟩ := id hR
  obtain ⟨rcl, rcr, rll, rlt, rkt, rkm, rks⟩ := id rsh
  obtain ⟨hsl1, hsl2, hsl3⟩ := id hsl
  have hTr := rtx
  have hTl := rtl
  obtain ⟨gm_1, gv_1, gpa_1, gtx_1, gma_1, gna_1, gua_1, gla_1, gle_1, gqa_1, gd_1⟩ := id hM
  refine z_aload_n (pc := 0) (j := 0) C dX4_told_0 rfl rfl ?_
  refine z_iconst (pc := 1) C dX4_told_1 ?_
  refine z_putfield (pc := 2) (fs' := [.ref A.v, .ref A.pa, .int (iI ((σ.hi.length : Nat) : Int)), .ref A.tx, .int (iI ((σ.tx.length : Nat) : Int)), .int (iI σ.si), .int (iI σ.fl), .int (iI σ.wd), .int (iI 0), .ref A.le, .ref A.qa, .int (iI ap), .int (iI nt), .int (iI rr), .int (iI rq), .int (iI rb), .int (iI wh), .ref A.ma, .ref A.na, .int (iI nd), .ref A.ua, .ref A.la, .int (iI up), .int (iI lo)]) C in_X4 tyX4 tyX4_ok nmX4 rfl 8 (by decide) q2090 (fun _ z => z) rfl rfl rfl (Nat.le_of_ble_eq_true rfl) gm_1 rfl dX4_told_2 ?_
  refine Z.nm (fun h2 eh2 => ?_)
  have kh2 : zkeep h h2 [A.m, A.v, A.pa, A.tx, A.ma, A.na, A.ua, A.la] := by rw [eh2]; exact zkeep.up zkeep.rf (Or.inl (by simp)) gm_1
  have fh2_0 : h2 A.m = some (true, .inr (3, [.ref A.v, .ref A.pa, .int (iI ((σ.hi.length : Nat) : Int)), .ref A.tx, .int (iI ((σ.tx.length : Nat) : Int)), .int (iI σ.si), .int (iI σ.fl), .int (iI σ.wd), .int (iI 0), .ref A.le, .ref A.qa, .int (iI ap), .int (iI nt), .int (iI rr), .int (iI rq), .int (iI rb), .int (iI wh), .ref A.ma, .ref A.na, .int (iI nd), .ref A.ua, .ref A.la, .int (iI up), .int (iI lo)])) := zse eh2
  have fh2_1 : h2 A.v = some (true, .inl (.int, 620, (mA V))) := zsn eh2 gv_1 (Ne.symm (zneA gm_1 gv_1))
  have fh2_2 : h2 A.pa = some (true, .inl (.int, 4960, (mA P))) := zsn eh2 gpa_1 (Ne.symm (zneA gm_1 gpa_1))
  have fh2_3 : h2 A.tx = some (true, .inl (.int, 200, (mA T))) := zsn eh2 gtx_1 (Ne.symm (zneA gm_1 gtx_1))
  have fh2_4 : h2 A.ma = some (true, .inl (.int, 620, (mA M))) := zsn eh2 gma_1 (Ne.symm (zneA gm_1 gma_1))
  have fh2_5 : h2 A.na = some (true, .inl (.int, 20, (mA N))) := zsn eh2 gna_1 (Ne.symm (zneA gm_1 gna_1))
  have fh2_6 : h2 A.ua = some (true, .inl (.int, 1200, (mA U))) := zsn eh2 gua_1 (Ne.symm (zneA gm_1 gua_1))
  have fh2_7 : h2 A.la = some (true, .inl (.int, 1200, (mA W))) := zsn eh2 gla_1 (Ne.symm (zneA gm_1 gla_1))
  refine z_aload_n (pc := 5) (j := 0) C dX4_told_5 rfl rfl ?_
  refine z_iload_n (pc := 6) (j := 1) C dX4_told_6 rfl rfl ?_
  refine z_callV (pc := 7) (n := 1) (kc' := 0) (ks' := 0) C (m_isChord C.t ⟨fh2_0, fh2_1, fh2_2, fh2_3, fh2_4, fh2_5, fh2_6, fh2_7, (kh2.n gle_1 (List.not_mem_cons_of_ne_of_not_mem (Ne.symm (zneA gm_1 gle_1)) (List.not_mem_cons_of_ne_of_not_mem (zneT gle_1 gv_1 (by simp)) (List.not_mem_cons_of_ne_of_not_mem (zneT gle_1 gpa_1 (by simp)) (List.not_mem_cons_of_ne_of_not_mem (zneT gle_1 gtx_1 (by simp)) (List.not_mem_cons_of_ne_of_not_mem (zneT gle_1 gma_1 (by simp)) (List.not_mem_cons_of_ne_of_not_mem (zneT gle_1 gna_1 (by simp)) (List.not_mem_cons_of_ne_of_not_mem (zneT gle_1 gua_1 (by simp)) (List.not_mem_cons_of_ne_of_not_mem (zneT gle_1 gla_1 (by simp)) List.not_mem_nil))))))))), (kh2.n gqa_1 (List.not_mem_cons_of_ne_of_not_mem (Ne.symm (zneA gm_1 gqa_1)) (List.not_mem_cons_of_ne_of_not_mem (zneT gqa_1 gv_1 (by simp)) (List.not_mem_cons_of_ne_of_not_mem (zneT gqa_1 gpa_1 (by simp)) (List.not_mem_cons_of_ne_of_not_mem (zneT gqa_1 gtx_1 (by simp)) (List.not_mem_cons_of_ne_of_not_mem (zneT gqa_1 gma_1 (by simp)) (List.not_mem_cons_of_ne_of_not_mem (zneT gqa_1 gna_1 (by simp)) (List.not_mem_cons_of_ne_of_not_mem (zneT gqa_1 gua_1 (by simp)) (List.not_mem_cons_of_ne_of_not_mem (zneT gqa_1 gla_1 (by simp)) List.not_mem_nil))))))))), gd_1⟩ hS hsl (i := i) (by omega)) (lw_V q2278 q2280 qs41 q74 q2281) (by decide +kernel) ⟨by decide, by decide⟩ fh2_0 rfl rfl rfl (Nat.le_of_ble_eq_true rfl) dX4_told_7 (by omega) (by omega) (zpk (st' := [.int (iI (if 0 ≤ i ∧ i ≤ ((σ.sh.cs.length : Nat) : Int) - 1 then 1 else 0))]) rfl ?_) zrx
  rw [show ((if 0 ≤ i ∧ i ≤ ((σ.sh.cs.length : Nat) : Int) - 1 then 1 else 0) : Int) = 0 from if_neg (by omega)]
  show Z X h2 0 0 [(0, .ref A.m), (1, .int (iI i)), (2, .int (iI 2))] 10 [.int (iI 0)]
  refine z_if_eq (pc := 10) (tgt := 27) C dX4_told_10 (by decide) (by decide) (fun _ => ?_) (fun z => absurd z (by decide))
  refine z_aload_n (pc := 27) (j := 0) C dX4_told_27 rfl rfl ?_
  refine z_iconst (pc := 28) C dX4_told_28 ?_
  refine z_callV (pc := 29) (n := 1) (kc' := 0) (ks' := 0) C (m_fails C.t ⟨fh2_0, fh2_1, fh2_2, fh2_3, fh2_4, fh2_5, fh2_6, fh2_7, (kh2.n gle_1 (List.not_mem_cons_of_ne_of_not_mem (Ne.symm (zneA gm_1 gle_1)) (List.not_mem_cons_of_ne_of_not_mem (zneT gle_1 gv_1 (by simp)) (List.not_mem_cons_of_ne_of_not_mem (zneT gle_1 gpa_1 (by simp)) (List.not_mem_cons_of_ne_of_not_mem (zneT gle_1 gtx_1 (by simp)) (List.not_mem_cons_of_ne_of_not_mem (zneT gle_1 gma_1 (by simp)) (List.not_mem_cons_of_ne_of_not_mem (zneT gle_1 gna_1 (by simp)) (List.not_mem_cons_of_ne_of_not_mem (zneT gle_1 gua_1 (by simp)) (List.not_mem_cons_of_ne_of_not_mem (zneT gle_1 gla_1 (by simp)) List.not_mem_nil))))))))), (kh2.n gqa_1 (List.not_mem_cons_of_ne_of_not_mem (Ne.symm (zneA gm_1 gqa_1)) (List.not_mem_cons_of_ne_of_not_mem (zneT gqa_1 gv_1 (by simp)) (List.not_mem_cons_of_ne_of_not_mem (zneT gqa_1 gpa_1 (by simp)) (List.not_mem_cons_of_ne_of_not_mem (zneT gqa_1 gtx_1 (by simp)) (List.not_mem_cons_of_ne_of_not_mem (zneT gqa_1 gma_1 (by simp)) (List.not_mem_cons_of_ne_of_not_mem (zneT gqa_1 gna_1 (by simp)) (List.not_mem_cons_of_ne_of_not_mem (zneT gqa_1 gua_1 (by simp)) (List.not_mem_cons_of_ne_of_not_mem (zneT gqa_1 gla_1 (by simp)) List.not_mem_nil))))))))), gd_1⟩ (x := 1)) (lw_V q2167 q2169 qs27 q74 q2170) (by decide +kernel) ⟨by decide, by decide⟩ fh2_0 rfl rfl rfl (Nat.le_of_ble_eq_true rfl) dX4_told_29 (by omega) (by omega) (zrk fun w h3 hp => ?_) zrx
  obtain ⟨rfl, hM_5, k4⟩ := hp
  have kh3 : zkeep h h3 [A.m, A.v, A.pa, A.tx, A.ma, A.na, A.ua, A.la] := zkeep.loc kh2 k4 (fun q hq => Or.inl (Or.inr hq))
  have hM_5 : mM h3 A ((σ.hi.length : Nat) : Int) ((σ.tx.length : Nat) : Int) σ.si σ.fl σ.wd 1 ap nt rr rq rb wh nd up lo V P T M N U W := hM_5
  obtain ⟨gm_6, gv_6, gpa_6, gtx_6, gma_6, gna_6, gua_6, gla_6, gle_6, gqa_6, gd_6⟩ := id hM_5
  show Z X h3 0 0 [(0, .ref A.m), (1, .int (iI i)), (2, .int (iI 2))] 32 [.int (iI 0)]
  exact z_ireturn (pc := 32) C (by rw [hXp]; exact ⟨_, rfl, rfl, ⟨ap, nt, rr, rq, rb, wh, nd, up, lo, V, P, T, M, N, U, W, ⟨gm_6, gv_6, gpa_6, gtx_6, gma_6, gna_6, gua_6, gla_6, gle_6, gqa_6, gd_6⟩, hS, hP, htq, hR, hsl, hslh⟩, kh3⟩) dX4_told_32
set_option maxHeartbeats 4000000 in
theorem md_told3 {l : Launch} (hl : l.stackTraces = false) {Γ : zCx} {h : zH} {A : zMA} {σ : zSt} {th : Int} (hW : mdW h A σ th) {i : Int} {x : zCh} (hi : 0 ≤ i) (hx : σ.sh.cs[i.toNat]? = some x)  : zMet l yX4_told (ws_ yX4_told cX4_told 3 (some .int)) ({ frames := 2, cells := 0, slots := 0, locals := 43 }) Γ h [.ref A.m, .int (iI i), .int (iI 3)] (zrt (fun w h' => w = some (.int (iI (x.2.2.2.1))) ∧ mdW h' A σ 0 ∧ zkeep h h' [A.m, A.v, A.pa, A.tx, A.ma, A.na, A.ua, A.la])) 0 0 := by
  refine zMet.of (cc := cX4_told) hl (plainFor_of_name (by decide +kernel)) (Nat.le_of_ble_eq_true rfl) ?_
  intro X hXl hXΓ hXp C hnm hnL
  have C : zC X cX4_told RX4 (some .int) 2 43 [] := C
  have hnL : X.2.1.2.2.2.2 = 3 := hnL
  subst hXl hXΓ
  show Z X h 0 0 [(0, .ref A.m), (1, .int (iI i)), (2, .int (iI 3))] 0 []
  obtain ⟨ap, nt, rr, rq, rb, wh, nd, up, lo, V, P, T, M, N, U, W, hM, hS, hP, htq, hR, hsl, hslh⟩ := id hW
  obtain ⟨rsi, rff, rwd, rtl, rtx, rsh, rhi, rhl⟩ := id hR
  obtain ⟨rcl, rcr, rll, rlt, rkt, rkm, rks⟩ := id rsh
  obtain ⟨hsl1, hsl2, hsl3⟩ := id hsl
  have hTr := rtx
  have hTl := rtl
  obtain ⟨gm_1, gv_1, gpa_1, gtx_1, gma_1, gna_1, gua_1, gla_1, gle_1, gqa_1, gd_1⟩ := id hM
  have hix := (List.getElem?_eq_some_iff.mp hx).1
  obtain ⟨hx1, hx2, hx3, hx4, hx5⟩ := hS.c hi hx
  obtain ⟨xr1, xr2, xr3, xr4, xr5⟩ := rcr _ (List.mem_of_getElem? hx)
  refine z_aload_n (pc := 0) (j := 0) C dX4_told_0 rfl rfl ?_
  refine z_iconst (pc := 1) C dX4_told_1 ?_
  refine z_putfield (pc := 2) (fs' := [.ref A.v, .ref A.pa, .int (iI ((σ.hi.length : Nat) : Int)), .ref A.tx, .int (iI ((σ.tx.length : Nat) : Int)), .int (iI σ.si), .int (iI σ.fl), .int (iI σ.wd), .int (iI 0), .ref A.le, .ref A.qa, .int (iI ap), .int (iI nt), .int (iI rr), .int (iI rq), .int (iI rb), .int (iI wh), .ref A.ma, .ref A.na, .int (iI nd), .ref A.ua, .ref A.la, .int (iI up), .int (iI lo)]) C in_X4 tyX4 tyX4_ok nmX4 rfl 8 (by decide) q2090 (fun _ z => z) rfl rfl rfl (Nat.le_of_ble_eq_true rfl) gm_1 rfl dX4_told_2 ?_
  refine Z.nm (fun h2 eh2 => ?_)
  have kh2 : zkeep h h2 [A.m, A.v, A.pa, A.tx, A.ma, A.na, A.ua, A.la] := by rw [eh2]; exact zkeep.up zkeep.rf (Or.inl (by simp)) gm_1
  have fh2_0 : h2 A.m = some (true, .inr (3, [.ref A.v, .ref A.pa, .int (iI ((σ.hi.length : Nat) : Int)), .ref A.tx, .int (iI ((σ.tx.length : Nat) : Int)), .int (iI σ.si), .int (iI σ.fl), .int (iI σ.wd), .int (iI 0), .ref A.le, .ref A.qa, .int (iI ap), .int (iI nt), .int (iI rr), .int (iI rq), .int (iI rb), .int (iI wh), .ref A.ma, .ref A.na, .int (iI nd), .ref A.ua, .ref A.la, .int (iI up), .int (iI lo)])) := zse eh2
  have fh2_1 : h2 A.v = some (true, .inl (.int, 620, (mA V))) := zsn eh2 gv_1 (Ne.symm (zneA gm_1 gv_1))
  have fh2_2 : h2 A.pa = some (true, .inl (.int, 4960, (mA P))) := zsn eh2 gpa_1 (Ne.symm (zneA gm_1 gpa_1))
  have fh2_3 : h2 A.tx = some (true, .inl (.int, 200, (mA T))) := zsn eh2 gtx_1 (Ne.symm (zneA gm_1 gtx_1))
  have fh2_4 : h2 A.ma = some (true, .inl (.int, 620, (mA M))) := zsn eh2 gma_1 (Ne.symm (zneA gm_1 gma_1))
  have fh2_5 : h2 A.na = some (true, .inl (.int, 20, (mA N))) := zsn eh2 gna_1 (Ne.symm (zneA gm_1 gna_1))
  have fh2_6 : h2 A.ua = some (true, .inl (.int, 1200, (mA U))) := zsn eh2 gua_1 (Ne.symm (zneA gm_1 gua_1))
  have fh2_7 : h2 A.la = some (true, .inl (.int, 1200, (mA W))) := zsn eh2 gla_1 (Ne.symm (zneA gm_1 gla_1))
  refine z_aload_n (pc := 5) (j := 0) C dX4_told_5 rfl rfl ?_
  refine z_iload_n (pc := 6) (j := 1) C dX4_told_6 rfl rfl ?_
  refine z_callV (pc := 7) (n := 1) (kc' := 0) (ks' := 0) C (m_isChord C.t ⟨fh2_0, fh2_1, fh2_2, fh2_3, fh2_4, fh2_5, fh2_6, fh2_7, (kh2.n gle_1 (List.not_mem_cons_of_ne_of_not_mem (Ne.symm (zneA gm_1 gle_1)) (List.not_mem_cons_of_ne_of_not_mem (zneT gle_1 gv_1 (by simp)) (List.not_mem_cons_of_ne_of_not_mem (zneT gle_1 gpa_1 (by simp)) (List.not_mem_cons_of_ne_of_not_mem (zneT gle_1 gtx_1 (by simp)) (List.not_mem_cons_of_ne_of_not_mem (zneT gle_1 gma_1 (by simp)) (List.not_mem_cons_of_ne_of_not_mem (zneT gle_1 gna_1 (by simp)) (List.not_mem_cons_of_ne_of_not_mem (zneT gle_1 gua_1 (by simp)) (List.not_mem_cons_of_ne_of_not_mem (zneT gle_1 gla_1 (by simp)) List.not_mem_nil))))))))), (kh2.n gqa_1 (List.not_mem_cons_of_ne_of_not_mem (Ne.symm (zneA gm_1 gqa_1)) (List.not_mem_cons_of_ne_of_not_mem (zneT gqa_1 gv_1 (by simp)) (List.not_mem_cons_of_ne_of_not_mem (zneT gqa_1 gpa_1 (by simp)) (List.not_mem_cons_of_ne_of_not_mem (zneT gqa_1 gtx_1 (by simp)) (List.not_mem_cons_of_ne_of_not_mem (zneT gqa_1 gma_1 (by simp)) (List.not_mem_cons_of_ne_of_not_mem (zneT gqa_1 gna_1 (by simp)) (List.not_mem_cons_of_ne_of_not_mem (zneT gqa_1 gua_1 (by simp)) (List.not_mem_cons_of_ne_of_not_mem (zneT gqa_1 gla_1 (by simp)) List.not_mem_nil))))))))), gd_1⟩ hS hsl (i := i) (by omega)) (lw_V q2278 q2280 qs41 q74 q2281) (by decide +kernel) ⟨by decide, by decide⟩ fh2_0 rfl rfl rfl (Nat.le_of_ble_eq_true rfl) dX4_told_7 (by omega) (by omega) (zpk (st' := [.int (iI (if 0 ≤ i ∧ i ≤ ((σ.sh.cs.length : Nat) : Int) - 1 then 1 else 0))]) rfl ?_) zrx
  rw [show ((if 0 ≤ i ∧ i ≤ ((σ.sh.cs.length : Nat) : Int) - 1 then 1 else 0) : Int) = 1 from if_pos (by omega)]
  show Z X h2 0 0 [(0, .ref A.m), (1, .int (iI i)), (2, .int (iI 3))] 10 [.int (iI 1)]
  refine z_if_eq (pc := 10) (tgt := 27) C dX4_told_10 (by decide) (by decide) (fun z => absurd z (by decide)) (fun _ => ?_)
  refine z_aload_n (pc := 13) (j := 0) C dX4_told_13 rfl rfl ?_
  refine z_getfield (pc := 14) (v := .ref A.v) C in_X4 rfl 0 (by decide) q2082 (fun _ z => z) fh2_0 rfl dX4_told_14 ?_
  refine z_iload_n (pc := 17) (j := 1) C dX4_told_17 rfl rfl ?_
  refine z_callS (pc := 18) (n := 1) (kc' := 0) (ks' := 0) C (m_chord C.t (x := i)) (lw_S q2203 q2204 q74 q2205) (by decide +kernel) ⟨by decide, by decide⟩ rfl rfl (Nat.le_of_ble_eq_true rfl) dX4_told_18 (by omega) (by omega) (zpk (st' := [.int (iI (210 + 5 * i)), .ref A.v]) rfl ?_) zrx
  refine z_iload_n (pc := 21) (j := 2) C dX4_told_21 rfl rfl ?_
  refine z_iadd (pc := 22) C dX4_told_22 ?_
  refine z_iaload (pc := 23) (v := .int (iI x.2.2.2.1)) C fh2_1 (by omega) (mA_e (vE hx4 (by omega))) dX4_told_23 ?_
  refine z_goto (pc := 24) (tgt := 32) C dX4_told_24 (by decide) ?_
  exact z_ireturn (pc := 32) C (by rw [hXp]; exact ⟨_, rfl, rfl, ⟨ap, nt, rr, rq, rb, wh, nd, up, lo, V, P, T, M, N, U, W, ⟨fh2_0, fh2_1, fh2_2, fh2_3, fh2_4, fh2_5, fh2_6, fh2_7, (kh2.n gle_1 (List.not_mem_cons_of_ne_of_not_mem (Ne.symm (zneA gm_1 gle_1)) (List.not_mem_cons_of_ne_of_not_mem (zneT gle_1 gv_1 (by simp)) (List.not_mem_cons_of_ne_of_not_mem (zneT gle_1 gpa_1 (by simp)) (List.not_mem_cons_of_ne_of_not_mem (zneT gle_1 gtx_1 (by simp)) (List.not_mem_cons_of_ne_of_not_mem (zneT gle_1 gma_1 (by simp)) (List.not_mem_cons_of_ne_of_not_mem (zneT gle_1 gna_1 (by simp)) (List.not_mem_cons_of_ne_of_not_mem (zneT gle_1 gua_1 (by simp)) (List.not_mem_cons_of_ne_of_not_mem (zneT gle_1 gla_1 (by simp)) List.not_mem_nil))))))))), (kh2.n gqa_1 (List.not_mem_cons_of_ne_of_not_mem (Ne.symm (zneA gm_1 gqa_1)) (List.not_mem_cons_of_ne_of_not_mem (zneT gqa_1 gv_1 (by simp)) (List.not_mem_cons_of_ne_of_not_mem (zneT gqa_1 gpa_1 (by simp)) (List.not_mem_cons_of_ne_of_not_mem (zneT gqa_1 gtx_1 (by simp)) (List.not_mem_cons_of_ne_of_not_mem (zneT gqa_1 gma_1 (by simp)) (List.not_mem_cons_of_ne_of_not_mem (zneT gqa_1 gna_1 (by simp)) (List.not_mem_cons_of_ne_of_not_mem (zneT gqa_1 gua_1 (by simp)) (List.not_mem_cons_of_ne_of_not_mem (zneT gqa_1 gla_1 (by simp)) List.not_mem_nil))))))))), gd_1⟩, hS, hP, htq, hR, hsl, hslh⟩, kh2⟩) dX4_told_32
set_option maxHeartbeats 4000000 in
theorem md_told3_b {l : Launch} (hl : l.stackTraces = false) {Γ : zCx} {h : zH} {A : zMA} {σ : zSt} {th : Int} (hW : mdW h A σ th) {i : Int} (hi : -2147483648 ≤ i ∧ i ≤ 2147483647) (hb : ¬ (0 ≤ i ∧ i < (σ.sh.cs.length : Nat)))  : zMet l yX4_told (ws_ yX4_told cX4_told 3 (some .int)) ({ frames := 2, cells := 0, slots := 0, locals := 43 }) Γ h [.ref A.m, .int (iI i), .int (iI 3)] (zrt (fun w h' => w = some (.int (iI (0))) ∧ mdW h' A σ 1 ∧ zkeep h h' [A.m, A.v, A.pa, A.tx, A.ma, A.na, A.ua, A.la])) 0 0 := by
  refine zMet.of (cc := cX4_told) hl (plainFor_of_name (by decide +kernel)) (Nat.le_of_ble_eq_true rfl) ?_
  intro X hXl hXΓ hXp C hnm hnL
  have C : zC X cX4_told RX4 (some .int) 2 43 [] := C
  have hnL : X.2.1.2.2.2.2 = 3 := hnL
  subst hXl hXΓ
  show Z X h 0 0 [(0, .ref A.m), (1, .int (iI i)), (2, .int (iI 3))] 0 []
  obtain ⟨ap, nt, rr, rq, rb, wh, nd, up, lo, V, P, T, M, N, U, W, hM, hS, hP, htq, hR, hsl, hslh⟩ := id hW
  obtain ⟨rsi, rff, rwd, rtl, rtx, rsh, rhi, rhl⟩ := id hR
  obtain ⟨rcl, rcr, rll, rlt, rkt, rkm, rks⟩ := id rsh
  obtain ⟨hsl1, hsl2, hsl3⟩ := id hsl
  have hTr := rtx
  have hTl := rtl
  obtain ⟨gm_1, gv_1, gpa_1, gtx_1, gma_1, gna_1, gua_1, gla_1, gle_1, gqa_1, gd_1⟩ := id hM
  refine z_aload_n (pc := 0) (j := 0) C dX4_told_0 rfl rfl ?_
  refine z_iconst (pc := 1) C dX4_told_1 ?_
  refine z_putfield (pc := 2) (fs' := [.ref A.v, .ref A.pa, .int (iI ((σ.hi.length : Nat) : Int)), .ref A.tx, .int (iI ((σ.tx.length : Nat) : Int)), .int (iI σ.si), .int (iI σ.fl), .int (iI σ.wd), .int (iI 0), .ref A.le, .ref A.qa, .int (iI ap), .int (iI nt), .int (iI rr), .int (iI rq), .int (iI rb), .int (iI wh), .ref A.ma, .ref A.na, .int (iI nd), .ref A.ua, .ref A.la, .int (iI up), .int (iI lo)]) C in_X4 tyX4 tyX4_ok nmX4 rfl 8 (by decide) q2090 (fun _ z => z) rfl rfl rfl (Nat.le_of_ble_eq_true rfl) gm_1 rfl dX4_told_2 ?_
  refine Z.nm (fun h2 eh2 => ?_)
  have kh2 : zkeep h h2 [A.m, A.v, A.pa, A.tx, A.ma, A.na, A.ua, A.la] := by rw [eh2]; exact zkeep.up zkeep.rf (Or.inl (by simp)) gm_1
  have fh2_0 : h2 A.m = some (true, .inr (3, [.ref A.v, .ref A.pa, .int (iI ((σ.hi.length : Nat) : Int)), .ref A.tx, .int (iI ((σ.tx.length : Nat) : Int)), .int (iI σ.si), .int (iI σ.fl), .int (iI σ.wd), .int (iI 0), .ref A.le, .ref A.qa, .int (iI ap), .int (iI nt), .int (iI rr), .int (iI rq), .int (iI rb), .int (iI wh), .ref A.ma, .ref A.na, .int (iI nd), .ref A.ua, .ref A.la, .int (iI up), .int (iI lo)])) := zse eh2
  have fh2_1 : h2 A.v = some (true, .inl (.int, 620, (mA V))) := zsn eh2 gv_1 (Ne.symm (zneA gm_1 gv_1))
  have fh2_2 : h2 A.pa = some (true, .inl (.int, 4960, (mA P))) := zsn eh2 gpa_1 (Ne.symm (zneA gm_1 gpa_1))
  have fh2_3 : h2 A.tx = some (true, .inl (.int, 200, (mA T))) := zsn eh2 gtx_1 (Ne.symm (zneA gm_1 gtx_1))
  have fh2_4 : h2 A.ma = some (true, .inl (.int, 620, (mA M))) := zsn eh2 gma_1 (Ne.symm (zneA gm_1 gma_1))
  have fh2_5 : h2 A.na = some (true, .inl (.int, 20, (mA N))) := zsn eh2 gna_1 (Ne.symm (zneA gm_1 gna_1))
  have fh2_6 : h2 A.ua = some (true, .inl (.int, 1200, (mA U))) := zsn eh2 gua_1 (Ne.symm (zneA gm_1 gua_1))
  have fh2_7 : h2 A.la = some (true, .inl (.int, 1200, (mA W))) := zsn eh2 gla_1 (Ne.symm (zneA gm_1 gla_1))
  refine z_aload_n (pc := 5) (j := 0) C dX4_told_5 rfl rfl ?_
  refine z_iload_n (pc := 6) (j := 1) C dX4_told_6 rfl rfl ?_
  refine z_callV (pc := 7) (n := 1) (kc' := 0) (ks' := 0) C (m_isChord C.t ⟨fh2_0, fh2_1, fh2_2, fh2_3, fh2_4, fh2_5, fh2_6, fh2_7, (kh2.n gle_1 (List.not_mem_cons_of_ne_of_not_mem (Ne.symm (zneA gm_1 gle_1)) (List.not_mem_cons_of_ne_of_not_mem (zneT gle_1 gv_1 (by simp)) (List.not_mem_cons_of_ne_of_not_mem (zneT gle_1 gpa_1 (by simp)) (List.not_mem_cons_of_ne_of_not_mem (zneT gle_1 gtx_1 (by simp)) (List.not_mem_cons_of_ne_of_not_mem (zneT gle_1 gma_1 (by simp)) (List.not_mem_cons_of_ne_of_not_mem (zneT gle_1 gna_1 (by simp)) (List.not_mem_cons_of_ne_of_not_mem (zneT gle_1 gua_1 (by simp)) (List.not_mem_cons_of_ne_of_not_mem (zneT gle_1 gla_1 (by simp)) List.not_mem_nil))))))))), (kh2.n gqa_1 (List.not_mem_cons_of_ne_of_not_mem (Ne.symm (zneA gm_1 gqa_1)) (List.not_mem_cons_of_ne_of_not_mem (zneT gqa_1 gv_1 (by simp)) (List.not_mem_cons_of_ne_of_not_mem (zneT gqa_1 gpa_1 (by simp)) (List.not_mem_cons_of_ne_of_not_mem (zneT gqa_1 gtx_1 (by simp)) (List.not_mem_cons_of_ne_of_not_mem (zneT gqa_1 gma_1 (by simp)) (List.not_mem_cons_of_ne_of_not_mem (zneT gqa_1 gna_1 (by simp)) (List.not_mem_cons_of_ne_of_not_mem (zneT gqa_1 gua_1 (by simp)) (List.not_mem_cons_of_ne_of_not_mem (zneT gqa_1 gla_1 (by simp)) List.not_mem_nil))))))))), gd_1⟩ hS hsl (i := i) (by omega)) (lw_V q2278 q2280 qs41 q74 q2281) (by decide +kernel) ⟨by decide, by decide⟩ fh2_0 rfl rfl rfl (Nat.le_of_ble_eq_true rfl) dX4_told_7 (by omega) (by omega) (zpk (st' := [.int (iI (if 0 ≤ i ∧ i ≤ ((σ.sh.cs.length : Nat) : Int) - 1 then 1 else 0))]) rfl ?_) zrx
  rw [show ((if 0 ≤ i ∧ i ≤ ((σ.sh.cs.length : Nat) : Int) - 1 then 1 else 0) : Int) = 0 from if_neg (by omega)]
  show Z X h2 0 0 [(0, .ref A.m), (1, .int (iI i)), (2, .int (iI 3))] 10 [.int (iI 0)]
  refine z_if_eq (pc := 10) (tgt := 27) C dX4_told_10 (by decide) (by decide) (fun _ => ?_) (fun z => absurd z (by decide))
  refine z_aload_n (pc := 27) (j := 0) C dX4_told_27 rfl rfl ?_
  refine z_iconst (pc := 28) C dX4_told_28 ?_
  refine z_callV (pc := 29) (n := 1) (kc' := 0) (ks' := 0) C (m_fails C.t ⟨fh2_0, fh2_1, fh2_2, fh2_3, fh2_4, fh2_5, fh2_6, fh2_7, (kh2.n gle_1 (List.not_mem_cons_of_ne_of_not_mem (Ne.symm (zneA gm_1 gle_1)) (List.not_mem_cons_of_ne_of_not_mem (zneT gle_1 gv_1 (by simp)) (List.not_mem_cons_of_ne_of_not_mem (zneT gle_1 gpa_1 (by simp)) (List.not_mem_cons_of_ne_of_not_mem (zneT gle_1 gtx_1 (by simp)) (List.not_mem_cons_of_ne_of_not_mem (zneT gle_1 gma_1 (by simp)) (List.not_mem_cons_of_ne_of_not_mem (zneT gle_1 gna_1 (by simp)) (List.not_mem_cons_of_ne_of_not_mem (zneT gle_1 gua_1 (by simp)) (List.not_mem_cons_of_ne_of_not_mem (zneT gle_1 gla_1 (by simp)) List.not_mem_nil))))))))), (kh2.n gqa_1 (List.not_mem_cons_of_ne_of_not_mem (Ne.symm (zneA gm_1 gqa_1)) (List.not_mem_cons_of_ne_of_not_mem (zneT gqa_1 gv_1 (by simp)) (List.not_mem_cons_of_ne_of_not_mem (zneT gqa_1 gpa_1 (by simp)) (List.not_mem_cons_of_ne_of_not_mem (zneT gqa_1 gtx_1 (by simp)) (List.not_mem_cons_of_ne_of_not_mem (zneT gqa_1 gma_1 (by simp)) (List.not_mem_cons_of_ne_of_not_mem (zneT gqa_1 gna_1 (by simp)) (List.not_mem_cons_of_ne_of_not_mem (zneT gqa_1 gua_1 (by simp)) (List.not_mem_cons_of_ne_of_not_mem (zneT gqa_1 gla_1 (by simp)) List.not_mem_nil))))))))), gd_1⟩ (x := 1)) (lw_V q2167 q2169 qs27 q74 q2170) (by decide +kernel) ⟨by decide, by decide⟩ fh2_0 rfl rfl rfl (Nat.le_of_ble_eq_true rfl) dX4_told_29 (by omega) (by omega) (zrk fun w h3 hp => ?_) zrx
  obtain ⟨rfl, hM_5, k4⟩ := hp
  have kh3 : zkeep h h3 [A.m, A.v, A.pa, A.tx, A.ma, A.na, A.ua, A.la] := zkeep.loc kh2 k4 (fun q hq => Or.inl (Or.inr hq))
  have hM_5 : mM h3 A ((σ.hi.length : Nat) : Int) ((σ.tx.length : Nat) : Int) σ.si σ.fl σ.wd 1 ap nt rr rq rb wh nd up lo V P T M N U W := hM_5
  obtain ⟨gm_6, gv_6, gpa_6, gtx_6, gma_6, gna_6, gua_6, gla_6, gle_6, gqa_6, gd_6⟩ := id hM_5
  show Z X h3 0 0 [(0, .ref A.m), (1, .int (iI i)), (2, .int (iI 3))] 32 [.int (iI 0)]
  exact z_ireturn (pc := 32) C (by rw [hXp]; exact ⟨_, rfl, rfl, ⟨ap, nt, rr, rq, rb, wh, nd, up, lo, V, P, T, M, N, U, W, ⟨gm_6, gv_6, gpa_6, gtx_6, gma_6, gna_6, gua_6, gla_6, gle_6, gqa_6, gd_6⟩, hS, hP, htq, hR, hsl, hslh⟩, kh3⟩) dX4_told_32
set_option maxHeartbeats 4000000 in
theorem md_told4 {l : Launch} (hl : l.stackTraces = false) {Γ : zCx} {h : zH} {A : zMA} {σ : zSt} {th : Int} (hW : mdW h A σ th) {i : Int} {x : zCh} (hi : 0 ≤ i) (hx : σ.sh.cs[i.toNat]? = some x)  : zMet l yX4_told (ws_ yX4_told cX4_told 3 (some .int)) ({ frames := 2, cells := 0, slots := 0, locals := 43 }) Γ h [.ref A.m, .int (iI i), .int (iI 4)] (zrt (fun w h' => w = some (.int (iI (x.2.2.2.2))) ∧ mdW h' A σ 0 ∧ zkeep h h' [A.m, A.v, A.pa, A.tx, A.ma, A.na, A.ua, A.la])) 0 0 := by
  refine zMet.of (cc := cX4_told) hl (plainFor_of_name (by decide +kernel)) (Nat.le_of_ble_eq_true rfl) ?_
  intro X hXl hXΓ hXp C hnm hnL
  have C : zC X cX4_told RX4 (some .int) 2 43 [] := C
  have hnL : X.2.1.2.2.2.2 = 3 := hnL
  subst hXl hXΓ
  show Z X h 0 0 [(0, .ref A.m), (1, .int (iI i)), (2, .int (iI 4))] 0 []
  obtain ⟨ap, nt, rr, rq, rb, wh, nd, up, lo, V, P, T, M, N, U, W, hM, hS, hP, htq, hR, hsl, hslh⟩ := id hW
  obtain ⟨rsi, rff, rwd, rtl, rtx, rsh, rhi, rhl⟩ := id hR
  obtain ⟨rcl, rcr, rll, rlt, rkt, rkm, rks⟩ := id rsh
  obtain ⟨hsl1, hsl2, hsl3⟩ := id hsl
  have hTr := rtx
  have hTl := rtl
  obtain ⟨gm_1, gv_1, gpa_1, gtx_1, gma_1, gna_1, gua_1, gla_1, gle_1, gqa_1, gd_1⟩ := id hM
  have hix := (List.getElem?_eq_some_iff.mp hx).1
  obtain ⟨hx1, hx2, hx3, hx4, hx5⟩ := hS.c hi hx
  obtain ⟨xr1, xr2, xr3, xr4, xr5⟩ := rcr _ (List.mem_of_getElem? hx)
  refine z_aload_n (pc := 0) (j := 0) C dX4_told_0 rfl rfl ?_
  refine z_iconst (pc := 1) C dX4_told_1 ?_
  refine z_putfield (pc := 2) (fs' := [.ref A.v, .ref A.pa, .int (iI ((σ.hi.length : Nat) : Int)), .ref A.tx, .int (iI ((σ.tx.length : Nat) : Int)), .int (iI σ.si), .int (iI σ.fl), .int (iI σ.wd), .int (iI 0), .ref A.le, .ref A.qa, .int (iI ap), .int (iI nt), .int (iI rr), .int (iI rq), .int (iI rb), .int (iI wh), .ref A.ma, .ref A.na, .int (iI nd), .ref A.ua, .ref A.la, .int (iI up), .int (iI lo)]) C in_X4 tyX4 tyX4_ok nmX4 rfl 8 (by decide) q2090 (fun _ z => z) rfl rfl rfl (Nat.le_of_ble_eq_true rfl) gm_1 rfl dX4_told_2 ?_
  refine Z.nm (fun h2 eh2 => ?_)
  have kh2 : zkeep h h2 [A.m, A.v, A.pa, A.tx, A.ma, A.na, A.ua, A.la] := by rw [eh2]; exact zkeep.up zkeep.rf (Or.inl (by simp)) gm_1
  have fh2_0 : h2 A.m = some (true, .inr (3, [.ref A.v, .ref A.pa, .int (iI ((σ.hi.length : Nat) : Int)), .ref A.tx, .int (iI ((σ.tx.length : Nat) : Int)), .int (iI σ.si), .int (iI σ.fl), .int (iI σ.wd), .int (iI 0), .ref A.le, .ref A.qa, .int (iI ap), .int (iI nt), .int (iI rr), .int (iI rq), .int (iI rb), .int (iI wh), .ref A.ma, .ref A.na, .int (iI nd), .ref A.ua, .ref A.la, .int (iI up), .int (iI lo)])) := zse eh2
  have fh2_1 : h2 A.v = some (true, .inl (.int, 620, (mA V))) := zsn eh2 gv_1 (Ne.symm (zneA gm_1 gv_1))
  have fh2_2 : h2 A.pa = some (true, .inl (.int, 4960, (mA P))) := zsn eh2 gpa_1 (Ne.symm (zneA gm_1 gpa_1))
  have fh2_3 : h2 A.tx = some (true, .inl (.int, 200, (mA T))) := zsn eh2 gtx_1 (Ne.symm (zneA gm_1 gtx_1))
  have fh2_4 : h2 A.ma = some (true, .inl (.int, 620, (mA M))) := zsn eh2 gma_1 (Ne.symm (zneA gm_1 gma_1))
  have fh2_5 : h2 A.na = some (true, .inl (.int, 20, (mA N))) := zsn eh2 gna_1 (Ne.symm (zneA gm_1 gna_1))
  have fh2_6 : h2 A.ua = some (true, .inl (.int, 1200, (mA U))) := zsn eh2 gua_1 (Ne.symm (zneA gm_1 gua_1))
  have fh2_7 : h2 A.la = some (true, .inl (.int, 1200, (mA W))) := zsn eh2 gla_1 (Ne.symm (zneA gm_1 gla_1))
  refine z_aload_n (pc := 5) (j := 0) C dX4_told_5 rfl rfl ?_
  refine z_iload_n (pc := 6) (j := 1) C dX4_told_6 rfl rfl ?_
  refine z_callV (pc := 7) (n := 1) (kc' := 0) (ks' := 0) C (m_isChord C.t ⟨fh2_0, fh2_1, fh2_2, fh2_3, fh2_4, fh2_5, fh2_6, fh2_7, (kh2.n gle_1 (List.not_mem_cons_of_ne_of_not_mem (Ne.symm (zneA gm_1 gle_1)) (List.not_mem_cons_of_ne_of_not_mem (zneT gle_1 gv_1 (by simp)) (List.not_mem_cons_of_ne_of_not_mem (zneT gle_1 gpa_1 (by simp)) (List.not_mem_cons_of_ne_of_not_mem (zneT gle_1 gtx_1 (by simp)) (List.not_mem_cons_of_ne_of_not_mem (zneT gle_1 gma_1 (by simp)) (List.not_mem_cons_of_ne_of_not_mem (zneT gle_1 gna_1 (by simp)) (List.not_mem_cons_of_ne_of_not_mem (zneT gle_1 gua_1 (by simp)) (List.not_mem_cons_of_ne_of_not_mem (zneT gle_1 gla_1 (by simp)) List.not_mem_nil))))))))), (kh2.n gqa_1 (List.not_mem_cons_of_ne_of_not_mem (Ne.symm (zneA gm_1 gqa_1)) (List.not_mem_cons_of_ne_of_not_mem (zneT gqa_1 gv_1 (by simp)) (List.not_mem_cons_of_ne_of_not_mem (zneT gqa_1 gpa_1 (by simp)) (List.not_mem_cons_of_ne_of_not_mem (zneT gqa_1 gtx_1 (by simp)) (List.not_mem_cons_of_ne_of_not_mem (zneT gqa_1 gma_1 (by simp)) (List.not_mem_cons_of_ne_of_not_mem (zneT gqa_1 gna_1 (by simp)) (List.not_mem_cons_of_ne_of_not_mem (zneT gqa_1 gua_1 (by simp)) (List.not_mem_cons_of_ne_of_not_mem (zneT gqa_1 gla_1 (by simp)) List.not_mem_nil))))))))), gd_1⟩ hS hsl (i := i) (by omega)) (lw_V q2278 q2280 qs41 q74 q2281) (by decide +kernel) ⟨by decide, by decide⟩ fh2_0 rfl rfl rfl (Nat.le_of_ble_eq_true rfl) dX4_told_7 (by omega) (by omega) (zpk (st' := [.int (iI (if 0 ≤ i ∧ i ≤ ((σ.sh.cs.length : Nat) : Int) - 1 then 1 else 0))]) rfl ?_) zrx
  rw [show ((if 0 ≤ i ∧ i ≤ ((σ.sh.cs.length : Nat) : Int) - 1 then 1 else 0) : Int) = 1 from if_pos (by omega)]
  show Z X h2 0 0 [(0, .ref A.m), (1, .int (iI i)), (2, .int (iI 4))] 10 [.int (iI 1)]
  refine z_if_eq (pc := 10) (tgt := 27) C dX4_told_10 (by decide) (by decide) (fun z => absurd z (by decide)) (fun _ => ?_)
  refine z_aload_n (pc := 13) (j := 0) C dX4_told_13 rfl rfl ?_
  refine z_getfield (pc := 14) (v := .ref A.v) C in_X4 rfl 0 (by decide) q2082 (fun _ z => z) fh2_0 rfl dX4_told_14 ?_
  refine z_iload_n (pc := 17) (j := 1) C dX4_told_17 rfl rfl ?_
  refine z_callS (pc := 18) (n := 1) (kc' := 0) (ks' := 0) C (m_chord C.t (x := i)) (lw_S q2203 q2204 q74 q2205) (by decide +kernel) ⟨by decide, by decide⟩ rfl rfl (Nat.le_of_ble_eq_true rfl) dX4_told_18 (by omega) (by omega) (zpk (st' := [.int (iI (210 + 5 * i)), .ref A.v]) rfl ?_) zrx
  refine z_iload_n (pc := 21) (j := 2) C dX4_told_21 rfl rfl ?_
  refine z_iadd (pc := 22) C dX4_told_22 ?_
  refine z_iaload (pc := 23) (v := .int (iI x.2.2.2.2)) C fh2_1 (by omega) (mA_e (vE hx5 (by omega))) dX4_told_23 ?_
  refine z_goto (pc := 24) (tgt := 32) C dX4_told_24 (by decide) ?_
  exact z_ireturn (pc := 32) C (by rw [hXp]; exact ⟨_, rfl, rfl, ⟨ap, nt, rr, rq, rb, wh, nd, up, lo, V, P, T, M, N, U, W, ⟨fh2_0, fh2_1, fh2_2, fh2_3, fh2_4, fh2_5, fh2_6, fh2_7, (kh2.n gle_1 (List.not_mem_cons_of_ne_of_not_mem (Ne.symm (zneA gm_1 gle_1)) (List.not_mem_cons_of_ne_of_not_mem (zneT gle_1 gv_1 (by simp)) (List.not_mem_cons_of_ne_of_not_mem (zneT gle_1 gpa_1 (by simp)) (List.not_mem_cons_of_ne_of_not_mem (zneT gle_1 gtx_1 (by simp)) (List.not_mem_cons_of_ne_of_not_mem (zneT gle_1 gma_1 (by simp)) (List.not_mem_cons_of_ne_of_not_mem (zneT gle_1 gna_1 (by simp)) (List.not_mem_cons_of_ne_of_not_mem (zneT gle_1 gua_1 (by simp)) (List.not_mem_cons_of_ne_of_not_mem (zneT gle_1 gla_1 (by simp)) List.not_mem_nil))))))))), (kh2.n gqa_1 (List.not_mem_cons_of_ne_of_not_mem (Ne.symm (zneA gm_1 gqa_1)) (List.not_mem_cons_of_ne_of_not_mem (zneT gqa_1 gv_1 (by simp)) (List.not_mem_cons_of_ne_of_not_mem (zneT gqa_1 gpa_1 (by simp)) (List.not_mem_cons_of_ne_of_not_mem (zneT gqa_1 gtx_1 (by simp)) (List.not_mem_cons_of_ne_of_not_mem (zneT gqa_1 gma_1 (by simp)) (List.not_mem_cons_of_ne_of_not_mem (zneT gqa_1 gna_1 (by simp)) (List.not_mem_cons_of_ne_of_not_mem (zneT gqa_1 gua_1 (by simp)) (List.not_mem_cons_of_ne_of_not_mem (zneT gqa_1 gla_1 (by simp)) List.not_mem_nil))))))))), gd_1⟩, hS, hP, htq, hR, hsl, hslh⟩, kh2⟩) dX4_told_32
set_option maxHeartbeats 4000000 in
theorem md_told4_b {l : Launch} (hl : l.stackTraces = false) {Γ : zCx} {h : zH} {A : zMA} {σ : zSt} {th : Int} (hW : mdW h A σ th) {i : Int} (hi : -2147483648 ≤ i ∧ i ≤ 2147483647) (hb : ¬ (0 ≤ i ∧ i < (σ.sh.cs.length : Nat)))  : zMet l yX4_told (ws_ yX4_told cX4_told 3 (some .int)) ({ frames := 2, cells := 0, slots := 0, locals := 43 }) Γ h [.ref A.m, .int (iI i), .int (iI 4)] (zrt (fun w h' => w = some (.int (iI (0))) ∧ mdW h' A σ 1 ∧ zkeep h h' [A.m, A.v, A.pa, A.tx, A.ma, A.na, A.ua, A.la])) 0 0 := by
  refine zMet.of (cc := cX4_told) hl (plainFor_of_name (by decide +kernel)) (Nat.le_of_ble_eq_true rfl) ?_
  intro X hXl hXΓ hXp C hnm hnL
  have C : zC X cX4_told RX4 (some .int) 2 43 [] := C
  have hnL : X.2.1.2.2.2.2 = 3 := hnL
  subst hXl hXΓ
  show Z X h 0 0 [(0, .ref A.m), (1, .int (iI i)), (2, .int (iI 4))] 0 []
  obtain ⟨ap, nt, rr, rq, rb, wh, nd, up, lo, V, P, T, M, N, U, W, hM, hS, hP, htq, hR, hsl, hslh⟩ := id hW
  obtain ⟨rsi, rff, rwd, rtl, rtx, rsh, rhi, rhl⟩ := id hR
  obtain ⟨rcl, rcr, rll, rlt, rkt, rkm, rks⟩ := id rsh
  obtain ⟨hsl1, hsl2, hsl3⟩ := id hsl
  have hTr := rtx
  have hTl := rtl
  obtain ⟨gm_1, gv_1, gpa_1, gtx_1, gma_1, gna_1, gua_1, gla_1, gle_1, gqa_1, gd_1⟩ := id hM
  refine z_aload_n (pc := 0) (j := 0) C dX4_told_0 rfl rfl ?_
  refine z_iconst (pc := 1) C dX4_told_1 ?_
  refine z_putfield (pc := 2) (fs' := [.ref A.v, .ref A.pa, .int (iI ((σ.hi.length : Nat) : Int)), .ref A.tx, .int (iI ((σ.tx.length : Nat) : Int)), .int (iI σ.si), .int (iI σ.fl), .int (iI σ.wd), .int (iI 0), .ref A.le, .ref A.qa, .int (iI ap), .int (iI nt), .int (iI rr), .int (iI rq), .int (iI rb), .int (iI wh), .ref A.ma, .ref A.na, .int (iI nd), .ref A.ua, .ref A.la, .int (iI up), .int (iI lo)]) C in_X4 tyX4 tyX4_ok nmX4 rfl 8 (by decide) q2090 (fun _ z => z) rfl rfl rfl (Nat.le_of_ble_eq_true rfl) gm_1 rfl dX4_told_2 ?_
  refine Z.nm (fun h2 eh2 => ?_)
  have kh2 : zkeep h h2 [A.m, A.v, A.pa, A.tx, A.ma, A.na, A.ua, A.la] := by rw [eh2]; exact zkeep.up zkeep.rf (Or.inl (by simp)) gm_1
  have fh2_0 : h2 A.m = some (true, .inr (3, [.ref A.v, .ref A.pa, .int (iI ((σ.hi.length : Nat) : Int)), .ref A.tx, .int (iI ((σ.tx.length : Nat) : Int)), .int (iI σ.si), .int (iI σ.fl), .int (iI σ.wd), .int (iI 0), .ref A.le, .ref A.qa, .int (iI ap), .int (iI nt), .int (iI rr), .int (iI rq), .int (iI rb), .int (iI wh), .ref A.ma, .ref A.na, .int (iI nd), .ref A.ua, .ref A.la, .int (iI up), .int (iI lo)])) := zse eh2
  have fh2_1 : h2 A.v = some (true, .inl (.int, 620, (mA V))) := zsn eh2 gv_1 (Ne.symm (zneA gm_1 gv_1))
  have fh2_2 : h2 A.pa = some (true, .inl (.int, 4960, (mA P))) := zsn eh2 gpa_1 (Ne.symm (zneA gm_1 gpa_1))
  have fh2_3 : h2 A.tx = some (true, .inl (.int, 200, (mA T))) := zsn eh2 gtx_1 (Ne.symm (zneA gm_1 gtx_1))
  have fh2_4 : h2 A.ma = some (true, .inl (.int, 620, (mA M))) := zsn eh2 gma_1 (Ne.symm (zneA gm_1 gma_1))
  have fh2_5 : h2 A.na = some (true, .inl (.int, 20, (mA N))) := zsn eh2 gna_1 (Ne.symm (zneA gm_1 gna_1))
  have fh2_6 : h2 A.ua = some (true, .inl (.int, 1200, (mA U))) := zsn eh2 gua_1 (Ne.symm (zneA gm_1 gua_1))
  have fh2_7 : h2 A.la = some (true, .inl (.int, 1200, (mA W))) := zsn eh2 gla_1 (Ne.symm (zneA gm_1 gla_1))
  refine z_aload_n (pc := 5) (j := 0) C dX4_told_5 rfl rfl ?_
  refine z_iload_n (pc := 6) (j := 1) C dX4_told_6 rfl rfl ?_
  refine z_callV (pc := 7) (n := 1) (kc' := 0) (ks' := 0) C (m_isChord C.t ⟨fh2_0, fh2_1, fh2_2, fh2_3, fh2_4, fh2_5, fh2_6, fh2_7, (kh2.n gle_1 (List.not_mem_cons_of_ne_of_not_mem (Ne.symm (zneA gm_1 gle_1)) (List.not_mem_cons_of_ne_of_not_mem (zneT gle_1 gv_1 (by simp)) (List.not_mem_cons_of_ne_of_not_mem (zneT gle_1 gpa_1 (by simp)) (List.not_mem_cons_of_ne_of_not_mem (zneT gle_1 gtx_1 (by simp)) (List.not_mem_cons_of_ne_of_not_mem (zneT gle_1 gma_1 (by simp)) (List.not_mem_cons_of_ne_of_not_mem (zneT gle_1 gna_1 (by simp)) (List.not_mem_cons_of_ne_of_not_mem (zneT gle_1 gua_1 (by simp)) (List.not_mem_cons_of_ne_of_not_mem (zneT gle_1 gla_1 (by simp)) List.not_mem_nil))))))))), (kh2.n gqa_1 (List.not_mem_cons_of_ne_of_not_mem (Ne.symm (zneA gm_1 gqa_1)) (List.not_mem_cons_of_ne_of_not_mem (zneT gqa_1 gv_1 (by simp)) (List.not_mem_cons_of_ne_of_not_mem (zneT gqa_1 gpa_1 (by simp)) (List.not_mem_cons_of_ne_of_not_mem (zneT gqa_1 gtx_1 (by simp)) (List.not_mem_cons_of_ne_of_not_mem (zneT gqa_1 gma_1 (by simp)) (List.not_mem_cons_of_ne_of_not_mem (zneT gqa_1 gna_1 (by simp)) (List.not_mem_cons_of_ne_of_not_mem (zneT gqa_1 gua_1 (by simp)) (List.not_mem_cons_of_ne_of_not_mem (zneT gqa_1 gla_1 (by simp)) List.not_mem_nil))))))))), gd_1⟩ hS hsl (i := i) (by omega)) (lw_V q2278 q2280 qs41 q74 q2281) (by decide +kernel) ⟨by decide, by decide⟩ fh2_0 rfl rfl rfl (Nat.le_of_ble_eq_true rfl) dX4_told_7 (by omega) (by omega) (zpk (st' := [.int (iI (if 0 ≤ i ∧ i ≤ ((σ.sh.cs.length : Nat) : Int) - 1 then 1 else 0))]) rfl ?_) zrx
  rw [show ((if 0 ≤ i ∧ i ≤ ((σ.sh.cs.length : Nat) : Int) - 1 then 1 else 0) : Int) = 0 from if_neg (by omega)]
  show Z X h2 0 0 [(0, .ref A.m), (1, .int (iI i)), (2, .int (iI 4))] 10 [.int (iI 0)]
  refine z_if_eq (pc := 10) (tgt := 27) C dX4_told_10 (by decide) (by decide) (fun _ => ?_) (fun z => absurd z (by decide))
  refine z_aload_n (pc := 27) (j := 0) C dX4_told_27 rfl rfl ?_
  refine z_iconst (pc := 28) C dX4_told_28 ?_
  refine z_callV (pc := 29) (n := 1) (kc' := 0) (ks' := 0) C (m_fails C.t ⟨fh2_0, fh2_1, fh2_2, fh2_3, fh2_4, fh2_5, fh2_6, fh2_7, (kh2.n gle_1 (List.not_mem_cons_of_ne_of_not_mem (Ne.symm (zneA gm_1 gle_1)) (List.not_mem_cons_of_ne_of_not_mem (zneT gle_1 gv_1 (by simp)) (List.not_mem_cons_of_ne_of_not_mem (zneT gle_1 gpa_1 (by simp)) (List.not_mem_cons_of_ne_of_not_mem (zneT gle_1 gtx_1 (by simp)) (List.not_mem_cons_of_ne_of_not_mem (zneT gle_1 gma_1 (by simp)) (List.not_mem_cons_of_ne_of_not_mem (zneT gle_1 gna_1 (by simp)) (List.not_mem_cons_of_ne_of_not_mem (zneT gle_1 gua_1 (by simp)) (List.not_mem_cons_of_ne_of_not_mem (zneT gle_1 gla_1 (by simp)) List.not_mem_nil))))))))), (kh2.n gqa_1 (List.not_mem_cons_of_ne_of_not_mem (Ne.symm (zneA gm_1 gqa_1)) (List.not_mem_cons_of_ne_of_not_mem (zneT gqa_1 gv_1 (by simp)) (List.not_mem_cons_of_ne_of_not_mem (zneT gqa_1 gpa_1 (by simp)) (List.not_mem_cons_of_ne_of_not_mem (zneT gqa_1 gtx_1 (by simp)) (List.not_mem_cons_of_ne_of_not_mem (zneT gqa_1 gma_1 (by simp)) (List.not_mem_cons_of_ne_of_not_mem (zneT gqa_1 gna_1 (by simp)) (List.not_mem_cons_of_ne_of_not_mem (zneT gqa_1 gua_1 (by simp)) (List.not_mem_cons_of_ne_of_not_mem (zneT gqa_1 gla_1 (by simp)) List.not_mem_nil))))))))), gd_1⟩ (x := 1)) (lw_V q2167 q2169 qs27 q74 q2170) (by decide +kernel) ⟨by decide, by decide⟩ fh2_0 rfl rfl rfl (Nat.le_of_ble_eq_true rfl) dX4_told_29 (by omega) (by omega) (zrk fun w h3 hp => ?_) zrx
  obtain ⟨rfl, hM_5, k4⟩ := hp
  have kh3 : zkeep h h3 [A.m, A.v, A.pa, A.tx, A.ma, A.na, A.ua, A.la] := zkeep.loc kh2 k4 (fun q hq => Or.inl (Or.inr hq))
  have hM_5 : mM h3 A ((σ.hi.length : Nat) : Int) ((σ.tx.length : Nat) : Int) σ.si σ.fl σ.wd 1 ap nt rr rq rb wh nd up lo V P T M N U W := hM_5
  obtain ⟨gm_6, gv_6, gpa_6, gtx_6, gma_6, gna_6, gua_6, gla_6, gle_6, gqa_6, gd_6⟩ := id hM_5
  show Z X h3 0 0 [(0, .ref A.m), (1, .int (iI i)), (2, .int (iI 4))] 32 [.int (iI 0)]
  exact z_ireturn (pc := 32) C (by rw [hXp]; exact ⟨_, rfl, rfl, ⟨ap, nt, rr, rq, rb, wh, nd, up, lo, V, P, T, M, N, U, W, ⟨gm_6, gv_6, gpa_6, gtx_6, gma_6, gna_6, gua_6, gla_6, gle_6, gqa_6, gd_6⟩, hS, hP, htq, hR, hsl, hslh⟩, kh3⟩) dX4_told_32
set_option maxHeartbeats 4000000 in
theorem md_lineOf {l : Launch} (hl : l.stackTraces = false) {Γ : zCx} {h : zH} {A : zMA} {σ : zSt} {th : Int} (hW : mdW h A σ th) {i : Int} {x : zCh} (hi : 0 ≤ i) (hx : σ.sh.cs[i.toNat]? = some x)  : zMet l yX4_lineOf (ws_ yX4_lineOf cX4_lineOf 2 (some .int)) ({ frames := 3, cells := 0, slots := 0, locals := 65 }) Γ h [.ref A.m, .int (iI i)] (zrt (fun w h' => w = some (.int (iI (x.1))) ∧ mdW h' A σ 0 ∧ zkeep h h' [A.m, A.v, A.pa, A.tx, A.ma, A.na, A.ua, A.la])) 0 0 := by
  refine zMet.of (cc := cX4_lineOf) hl (plainFor_of_name (by decide +kernel)) (Nat.le_of_ble_eq_true rfl) ?_
  intro X hXl hXΓ hXp C hnm hnL
  have C : zC X cX4_lineOf RX4 (some .int) 3 65 [] := C
  have hnL : X.2.1.2.2.2.2 = 2 := hnL
  subst hXl hXΓ
  show Z X h 0 0 [(0, .ref A.m), (1, .int (iI i))] 0 []
  obtain ⟨ap, nt, rr, rq, rb, wh, nd, up, lo, V, P, T, M, N, U, W, hM, hS, hP, htq, hR, hsl, hslh⟩ := id hW
  obtain ⟨rsi, rff, rwd, rtl, rtx, rsh, rhi, rhl⟩ := id hR
  obtain ⟨rcl, rcr, rll, rlt, rkt, rkm, rks⟩ := id rsh
  obtain ⟨hsl1, hsl2, hsl3⟩ := id hsl
  have hTr := rtx
  have hTl := rtl
  obtain ⟨gm_1, gv_1, gpa_1, gtx_1, gma_1, gna_1, gua_1, gla_1, gle_1, gqa_1, gd_1⟩ := id hM
  refine z_aload_n (pc := 0) (j := 0) C dX4_lineOf_0 rfl rfl ?_
  refine z_iload_n (pc := 1) (j := 1) C dX4_lineOf_1 rfl rfl ?_
  refine z_iconst (pc := 2) C dX4_lineOf_2 ?_
  refine z_callV (pc := 3) (n := 2) (kc' := 0) (ks' := 0) C (md_told0 C.t hW (i := i) (by omega) hx) (lw_V q2274 q2276 qs40 q74 q2277) (by decide +kernel) ⟨by decide, by decide⟩ gm_1 rfl rfl rfl (Nat.le_of_ble_eq_true rfl) dX4_lineOf_3 (by omega) (by omega) (zrk fun w h2 hp => ?_) zrx
  obtain ⟨rfl, hW1, k3⟩ := hp
  exact z_ireturn (pc := 6) C (by rw [hXp]; exact ⟨_, rfl, rfl, hW1, k3⟩) dX4_lineOf_6
set_option maxHeartbeats 4000000 in
theorem md_lineOf_b {l : Launch} (hl : l.stackTraces = false) {Γ : zCx} {h : zH} {A : zMA} {σ : zSt} {th : Int} (hW : mdW h A σ th) {i : Int} (hi : -2147483648 ≤ i ∧ i ≤ 2147483647) (hb : ¬ (0 ≤ i ∧ i < (σ.sh.cs.length : Nat)))  : zMet l yX4_lineOf (ws_ yX4_lineOf cX4_lineOf 2 (some .int)) ({ frames := 3, cells := 0, slots := 0, locals := 65 }) Γ h [.ref A.m, .int (iI i)] (zrt (fun w h' => w = some (.int (iI (0))) ∧ mdW h' A σ 1 ∧ zkeep h h' [A.m, A.v, A.pa, A.tx, A.ma, A.na, A.ua, A.la])) 0 0 := by
  refine zMet.of (cc := cX4_lineOf) hl (plainFor_of_name (by decide +kernel)) (Nat.le_of_ble_eq_true rfl) ?_
  intro X hXl hXΓ hXp C hnm hnL
  have C : zC X cX4_lineOf RX4 (some .int) 3 65 [] := C
  have hnL : X.2.1.2.2.2.2 = 2 := hnL
  subst hXl hXΓ
  show Z X h 0 0 [(0, .ref A.m), (1, .int (iI i))] 0 []
  obtain ⟨ap, nt, rr, rq, rb, wh, nd, up, lo, V, P, T, M, N, U, W, hM, hS, hP, htq, hR, hsl, hslh⟩ := id hW
  obtain ⟨rsi, rff, rwd, rtl, rtx, rsh, rhi, rhl⟩ := id hR
  obtain ⟨rcl, rcr, rll, rlt, rkt, rkm, rks⟩ := id rsh
  obtain ⟨hsl1, hsl2, hsl3⟩ := id hsl
  have hTr := rtx
  have hTl := rtl
  obtain ⟨gm_1, gv_1, gpa_1, gtx_1, gma_1, gna_1, gua_1, gla_1, gle_1, gqa_1, gd_1⟩ := id hM
  refine z_aload_n (pc := 0) (j := 0) C dX4_lineOf_0 rfl rfl ?_
  refine z_iload_n (pc := 1) (j := 1) C dX4_lineOf_1 rfl rfl ?_
  refine z_iconst (pc := 2) C dX4_lineOf_2 ?_
  refine z_callV (pc := 3) (n := 2) (kc' := 0) (ks' := 0) C (md_told0_b C.t hW (i := i) (by omega) (by omega)) (lw_V q2274 q2276 qs40 q74 q2277) (by decide +kernel) ⟨by decide, by decide⟩ gm_1 rfl rfl rfl (Nat.le_of_ble_eq_true rfl) dX4_lineOf_3 (by omega) (by omega) (zrk fun w h2 hp => ?_) zrx
  obtain ⟨rfl, hW1, k3⟩ := hp
  exact z_ireturn (pc := 6) C (by rw [hXp]; exact ⟨_, rfl, rfl, hW1, k3⟩) dX4_lineOf_6
set_option maxHeartbeats 4000000 in
theorem md_columnOf {l : Launch} (hl : l.stackTraces = false) {Γ : zCx} {h : zH} {A : zMA} {σ : zSt} {th : Int} (hW : mdW h A σ th) {i : Int} {x : zCh} (hi : 0 ≤ i) (hx : σ.sh.cs[i.toNat]? = some x)  : zMet l yX4_columnOf (ws_ yX4_columnOf cX4_columnOf 2 (some .int)) ({ frames := 3, cells := 0, slots := 0, locals := 65 }) Γ h [.ref A.m, .int (iI i)] (zrt (fun w h' => w = some (.int (iI (x.2.1))) ∧ mdW h' A σ 0 ∧ zkeep h h' [A.m, A.v, A.pa, A.tx, A.ma, A.na, A.ua, A.la])) 0 0 := by
  refine zMet.of (cc := cX4_columnOf) hl (plainFor_of_name (by decide +kernel)) (Nat.le_of_ble_eq_true rfl) ?_
  intro X hXl hXΓ hXp C hnm hnL
  have C : zC X cX4_columnOf RX4 (some .int) 3 65 [] := C
  have hnL : X.2.1.2.2.2.2 = 2 := hnL
  subst hXl hXΓ
  show Z X h 0 0 [(0, .ref A.m), (1, .int (iI i))] 0 []
  obtain ⟨ap, nt, rr, rq, rb, wh, nd, up, lo, V, P, T, M, N, U, W, hM, hS, hP, htq, hR, hsl, hslh⟩ := id hW
  obtain ⟨rsi, rff, rwd, rtl, rtx, rsh, rhi, rhl⟩ := id hR
  obtain ⟨rcl, rcr, rll, rlt, rkt, rkm, rks⟩ := id rsh
  obtain ⟨hsl1, hsl2, hsl3⟩ := id hsl
  have hTr := rtx
  have hTl := rtl
  obtain ⟨gm_1, gv_1, gpa_1, gtx_1, gma_1, gna_1, gua_1, gla_1, gle_1, gqa_1, gd_1⟩ := id hM
  refine z_aload_n (pc := 0) (j := 0) C dX4_columnOf_0 rfl rfl ?_
  refine z_iload_n (pc := 1) (j := 1) C dX4_columnOf_1 rfl rfl ?_
  refine z_iconst (pc := 2) C dX4_columnOf_2 ?_
  refine z_callV (pc := 3) (n := 2) (kc' := 0) (ks' := 0) C (md_told1 C.t hW (i := i) (by omega) hx) (lw_V q2274 q2276 qs40 q74 q2277) (by decide +kernel) ⟨by decide, by decide⟩ gm_1 rfl rfl rfl (Nat.le_of_ble_eq_true rfl) dX4_columnOf_3 (by omega) (by omega) (zrk fun w h2 hp => ?_) zrx
  obtain ⟨rfl, hW1, k3⟩ := hp
  exact z_ireturn (pc := 6) C (by rw [hXp]; exact ⟨_, rfl, rfl, hW1, k3⟩) dX4_columnOf_6
set_option maxHeartbeats 4000000 in
theorem md_columnOf_b {l : Launch} (hl : l.stackTraces = false) {Γ : zCx} {h : zH} {A : zMA} {σ : zSt} {th : Int} (hW : mdW h A σ th) {i : Int} (hi : -2147483648 ≤ i ∧ i ≤ 2147483647) (hb : ¬ (0 ≤ i ∧ i < (σ.sh.cs.length : Nat)))  : zMet l yX4_columnOf (ws_ yX4_columnOf cX4_columnOf 2 (some .int)) ({ frames := 3, cells := 0, slots := 0, locals := 65 }) Γ h [.ref A.m, .int (iI i)] (zrt (fun w h' => w = some (.int (iI (0))) ∧ mdW h' A σ 1 ∧ zkeep h h' [A.m, A.v, A.pa, A.tx, A.ma, A.na, A.ua, A.la])) 0 0 := by
  refine zMet.of (cc := cX4_columnOf) hl (plainFor_of_name (by decide +kernel)) (Nat.le_of_ble_eq_true rfl) ?_
  intro X hXl hXΓ hXp C hnm hnL
  have C : zC X cX4_columnOf RX4 (some .int) 3 65 [] := C
  have hnL : X.2.1.2.2.2.2 = 2 := hnL
  subst hXl hXΓ
  show Z X h 0 0 [(0, .ref A.m), (1, .int (iI i))] 0 []
  obtain ⟨ap, nt, rr, rq, rb, wh, nd, up, lo, V, P, T, M, N, U, W, hM, hS, hP, htq, hR, hsl, hslh⟩ := id hW
  obtain ⟨rsi, rff, rwd, rtl, rtx, rsh, rhi, rhl⟩ := id hR
  obtain ⟨rcl, rcr, rll, rlt, rkt, rkm, rks⟩ := id rsh
  obtain ⟨hsl1, hsl2, hsl3⟩ := id hsl
  have hTr := rtx
  have hTl := rtl
  obtain ⟨gm_1, gv_1, gpa_1, gtx_1, gma_1, gna_1, gua_1, gla_1, gle_1, gqa_1, gd_1⟩ := id hM
  refine z_aload_n (pc := 0) (j := 0) C dX4_columnOf_0 rfl rfl ?_
  refine z_iload_n (pc := 1) (j := 1) C dX4_columnOf_1 rfl rfl ?_
  refine z_iconst (pc := 2) C dX4_columnOf_2 ?_
  refine z_callV (pc := 3) (n := 2) (kc' := 0) (ks' := 0) C (md_told1_b C.t hW (i := i) (by omega) (by omega)) (lw_V q2274 q2276 qs40 q74 q2277) (by decide +kernel) ⟨by decide, by decide⟩ gm_1 rfl rfl rfl (Nat.le_of_ble_eq_true rfl) dX4_columnOf_3 (by omega) (by omega) (zrk fun w h2 hp => ?_) zrx
  obtain ⟨rfl, hW1, k3⟩ := hp
  exact z_ireturn (pc := 6) C (by rw [hXp]; exact ⟨_, rfl, rfl, hW1, k3⟩) dX4_columnOf_6
set_option maxHeartbeats 4000000 in
theorem md_rootOf {l : Launch} (hl : l.stackTraces = false) {Γ : zCx} {h : zH} {A : zMA} {σ : zSt} {th : Int} (hW : mdW h A σ th) {i : Int} {x : zCh} (hi : 0 ≤ i) (hx : σ.sh.cs[i.toNat]? = some x)  : zMet l yX4_rootOf (ws_ yX4_rootOf cX4_rootOf 2 (some .int)) ({ frames := 3, cells := 0, slots := 0, locals := 65 }) Γ h [.ref A.m, .int (iI i)] (zrt (fun w h' => w = some (.int (iI (x.2.2.1))) ∧ mdW h' A σ 0 ∧ zkeep h h' [A.m, A.v, A.pa, A.tx, A.ma, A.na, A.ua, A.la])) 0 0 := by
  refine zMet.of (cc := cX4_rootOf) hl (plainFor_of_name (by decide +kernel)) (Nat.le_of_ble_eq_true rfl) ?_
  intro X hXl hXΓ hXp C hnm hnL
  have C : zC X cX4_rootOf RX4 (some .int) 3 65 [] := C
  have hnL : X.2.1.2.2.2.2 = 2 := hnL
  subst hXl hXΓ
  show Z X h 0 0 [(0, .ref A.m), (1, .int (iI i))] 0 []
  obtain ⟨ap, nt, rr, rq, rb, wh, nd, up, lo, V, P, T, M, N, U, W, hM, hS, hP, htq, hR, hsl, hslh⟩ := id hW
  obtain ⟨rsi, rff, rwd, rtl, rtx, rsh, rhi, rhl⟩ := id hR
  obtain ⟨rcl, rcr, rll, rlt, rkt, rkm, rks⟩ := id rsh
  obtain ⟨hsl1, hsl2, hsl3⟩ := id hsl
  have hTr := rtx
  have hTl := rtl
  obtain ⟨gm_1, gv_1, gpa_1, gtx_1, gma_1, gna_1, gua_1, gla_1, gle_1, gqa_1, gd_1⟩ := id hM
  refine z_aload_n (pc := 0) (j := 0) C dX4_rootOf_0 rfl rfl ?_
  refine z_iload_n (pc := 1) (j := 1) C dX4_rootOf_1 rfl rfl ?_
  refine z_iconst (pc := 2) C dX4_rootOf_2 ?_
  refine z_callV (pc := 3) (n := 2) (kc' := 0) (ks' := 0) C (md_told2 C.t hW (i := i) (by omega) hx) (lw_V q2274 q2276 qs40 q74 q2277) (by decide +kernel) ⟨by decide, by decide⟩ gm_1 rfl rfl rfl (Nat.le_of_ble_eq_true rfl) dX4_rootOf_3 (by omega) (by omega) (zrk fun w h2 hp => ?_) zrx
  obtain ⟨rfl, hW1, k3⟩ := hp
  exact z_ireturn (pc := 6) C (by rw [hXp]; exact ⟨_, rfl, rfl, hW1, k3⟩) dX4_rootOf_6
set_option maxHeartbeats 4000000 in
theorem md_rootOf_b {l : Launch} (hl : l.stackTraces = false) {Γ : zCx} {h : zH} {A : zMA} {σ : zSt} {th : Int} (hW : mdW h A σ th) {i : Int} (hi : -2147483648 ≤ i ∧ i ≤ 2147483647) (hb : ¬ (0 ≤ i ∧ i < (σ.sh.cs.length : Nat)))  : zMet l yX4_rootOf (ws_ yX4_rootOf cX4_rootOf 2 (some .int)) ({ frames := 3, cells := 0, slots := 0, locals := 65 }) Γ h [.ref A.m, .int (iI i)] (zrt (fun w h' => w = some (.int (iI (0))) ∧ mdW h' A σ 1 ∧ zkeep h h' [A.m, A.v, A.pa, A.tx, A.ma, A.na, A.ua, A.la])) 0 0 := by
  refine zMet.of (cc := cX4_rootOf) hl (plainFor_of_name (by decide +kernel)) (Nat.le_of_ble_eq_true rfl) ?_
  intro X hXl hXΓ hXp C hnm hnL
  have C : zC X cX4_rootOf RX4 (some .int) 3 65 [] := C
  have hnL : X.2.1.2.2.2.2 = 2 := hnL
  subst hXl hXΓ
  show Z X h 0 0 [(0, .ref A.m), (1, .int (iI i))] 0 []
  obtain ⟨ap, nt, rr, rq, rb, wh, nd, up, lo, V, P, T, M, N, U, W, hM, hS, hP, htq, hR, hsl, hslh⟩ := id hW
  obtain ⟨rsi, rff, rwd, rtl, rtx, rsh, rhi, rhl⟩ := id hR
  obtain ⟨rcl, rcr, rll, rlt, rkt, rkm, rks⟩ := id rsh
  obtain ⟨hsl1, hsl2, hsl3⟩ := id hsl
  have hTr := rtx
  have hTl := rtl
  obtain ⟨gm_1, gv_1, gpa_1, gtx_1, gma_1, gna_1, gua_1, gla_1, gle_1, gqa_1, gd_1⟩ := id hM
  refine z_aload_n (pc := 0) (j := 0) C dX4_rootOf_0 rfl rfl ?_
  refine z_iload_n (pc := 1) (j := 1) C dX4_rootOf_1 rfl rfl ?_
  refine z_iconst (pc := 2) C dX4_rootOf_2 ?_
  refine z_callV (pc := 3) (n := 2) (kc' := 0) (ks' := 0) C (md_told2_b C.t hW (i := i) (by omega) (by omega)) (lw_V q2274 q2276 qs40 q74 q2277) (by decide +kernel) ⟨by decide, by decide⟩ gm_1 rfl rfl rfl (Nat.le_of_ble_eq_true rfl) dX4_rootOf_3 (by omega) (by omega) (zrk fun w h2 hp => ?_) zrx
  obtain ⟨rfl, hW1, k3⟩ := hp
  exact z_ireturn (pc := 6) C (by rw [hXp]; exact ⟨_, rfl, rfl, hW1, k3⟩) dX4_rootOf_6
set_option maxHeartbeats 4000000 in
theorem md_qualityOf {l : Launch} (hl : l.stackTraces = false) {Γ : zCx} {h : zH} {A : zMA} {σ : zSt} {th : Int} (hW : mdW h A σ th) {i : Int} {x : zCh} (hi : 0 ≤ i) (hx : σ.sh.cs[i.toNat]? = some x)  : zMet l yX4_qualityOf (ws_ yX4_qualityOf cX4_qualityOf 2 (some .int)) ({ frames := 3, cells := 0, slots := 0, locals := 65 }) Γ h [.ref A.m, .int (iI i)] (zrt (fun w h' => w = some (.int (iI (x.2.2.2.1))) ∧ mdW h' A σ 0 ∧ zkeep h h' [A.m, A.v, A.pa, A.tx, A.ma, A.na, A.ua, A.la])) 0 0 := by
  refine zMet.of (cc := cX4_qualityOf) hl (plainFor_of_name (by decide +kernel)) (Nat.le_of_ble_eq_true rfl) ?_
  intro X hXl hXΓ hXp C hnm hnL
  have C : zC X cX4_qualityOf RX4 (some .int) 3 65 [] := C
  have hnL : X.2.1.2.2.2.2 = 2 := hnL
  subst hXl hXΓ
  show Z X h 0 0 [(0, .ref A.m), (1, .int (iI i))] 0 []
  obtain ⟨ap, nt, rr, rq, rb, wh, nd, up, lo, V, P, T, M, N, U, W, hM, hS, hP, htq, hR, hsl, hslh⟩ := id hW
  obtain ⟨rsi, rff, rwd, rtl, rtx, rsh, rhi, rhl⟩ := id hR
  obtain ⟨rcl, rcr, rll, rlt, rkt, rkm, rks⟩ := id rsh
  obtain ⟨hsl1, hsl2, hsl3⟩ := id hsl
  have hTr := rtx
  have hTl := rtl
  obtain ⟨gm_1, gv_1, gpa_1, gtx_1, gma_1, gna_1, gua_1, gla_1, gle_1, gqa_1, gd_1⟩ := id hM
  refine z_aload_n (pc := 0) (j := 0) C dX4_qualityOf_0 rfl rfl ?_
  refine z_iload_n (pc := 1) (j := 1) C dX4_qualityOf_1 rfl rfl ?_
  refine z_iconst (pc := 2) C dX4_qualityOf_2 ?_
  refine z_callV (pc := 3) (n := 2) (kc' := 0) (ks' := 0) C (md_told3 C.t hW (i := i) (by omega) hx) (lw_V q2274 q2276 qs40 q74 q2277) (by decide +kernel) ⟨by decide, by decide⟩ gm_1 rfl rfl rfl (Nat.le_of_ble_eq_true rfl) dX4_qualityOf_3 (by omega) (by omega) (zrk fun w h2 hp => ?_) zrx
  obtain ⟨rfl, hW1, k3⟩ := hp
  exact z_ireturn (pc := 6) C (by rw [hXp]; exact ⟨_, rfl, rfl, hW1, k3⟩) dX4_qualityOf_6
set_option maxHeartbeats 4000000 in
theorem md_qualityOf_b {l : Launch} (hl : l.stackTraces = false) {Γ : zCx} {h : zH} {A : zMA} {σ : zSt} {th : Int} (hW : mdW h A σ th) {i : Int} (hi : -2147483648 ≤ i ∧ i ≤ 2147483647) (hb : ¬ (0 ≤ i ∧ i < (σ.sh.cs.length : Nat)))  : zMet l yX4_qualityOf (ws_ yX4_qualityOf cX4_qualityOf 2 (some .int)) ({ frames := 3, cells := 0, slots := 0, locals := 65 }) Γ h [.ref A.m, .int (iI i)] (zrt (fun w h' => w = some (.int (iI (0))) ∧ mdW h' A σ 1 ∧ zkeep h h' [A.m, A.v, A.pa, A.tx, A.ma, A.na, A.ua, A.la])) 0 0 := by
  refine zMet.of (cc := cX4_qualityOf) hl (plainFor_of_name (by decide +kernel)) (Nat.le_of_ble_eq_true rfl) ?_
  intro X hXl hXΓ hXp C hnm hnL
  have C : zC X cX4_qualityOf RX4 (some .int) 3 65 [] := C
  have hnL : X.2.1.2.2.2.2 = 2 := hnL
  subst hXl hXΓ
  show Z X h 0 0 [(0, .ref A.m), (1, .int (iI i))] 0 []
  obtain ⟨ap, nt, rr, rq, rb, wh, nd, up, lo, V, P, T, M, N, U, W, hM, hS, hP, htq, hR, hsl, hslh⟩ := id hW
  obtain ⟨rsi, rff, rwd, rtl, rtx, rsh, rhi, rhl⟩ := id hR
  obtain ⟨rcl, rcr, rll, rlt, rkt, rkm, rks⟩ := id rsh
  obtain ⟨hsl1, hsl2, hsl3⟩ := id hsl
  have hTr := rtx
  have hTl := rtl
  obtain ⟨gm_1, gv_1, gpa_1, gtx_1, gma_1, gna_1, gua_1, gla_1, gle_1, gqa_1, gd_1⟩ := id hM
  refine z_aload_n (pc := 0) (j := 0) C dX4_qualityOf_0 rfl rfl ?_
  refine z_iload_n (pc := 1) (j := 1) C dX4_qualityOf_1 rfl rfl ?_
  refine z_iconst (pc := 2) C dX4_qualityOf_2 ?_
  refine z_callV (pc := 3) (n := 2) (kc' := 0) (ks' := 0) C (md_told3_b C.t hW (i := i) (by omega) (by omega)) (lw_V q2274 q2276 qs40 q74 q2277) (by decide +kernel) ⟨by decide, by decide⟩ gm_1 rfl rfl rfl (Nat.le_of_ble_eq_true rfl) dX4_qualityOf_3 (by omega) (by omega) (zrk fun w h2 hp => ?_) zrx
  obtain ⟨rfl, hW1, k3⟩ := hp
  exact z_ireturn (pc := 6) C (by rw [hXp]; exact ⟨_, rfl, rfl, hW1, k3⟩) dX4_qualityOf_6
set_option maxHeartbeats 4000000 in
theorem md_bassOf {l : Launch} (hl : l.stackTraces = false) {Γ : zCx} {h : zH} {A : zMA} {σ : zSt} {th : Int} (hW : mdW h A σ th) {i : Int} {x : zCh} (hi : 0 ≤ i) (hx : σ.sh.cs[i.toNat]? = some x)  : zMet l yX4_bassOf (ws_ yX4_bassOf cX4_bassOf 2 (some .int)) ({ frames := 3, cells := 0, slots := 0, locals := 65 }) Γ h [.ref A.m, .int (iI i)] (zrt (fun w h' => w = some (.int (iI (x.2.2.2.2))) ∧ mdW h' A σ 0 ∧ zkeep h h' [A.m, A.v, A.pa, A.tx, A.ma, A.na, A.ua, A.la])) 0 0 := by
  refine zMet.of (cc := cX4_bassOf) hl (plainFor_of_name (by decide +kernel)) (Nat.le_of_ble_eq_true rfl) ?_
  intro X hXl hXΓ hXp C hnm hnL
  have C : zC X cX4_bassOf RX4 (some .int) 3 65 [] := C
  have hnL : X.2.1.2.2.2.2 = 2 := hnL
  subst hXl hXΓ
  show Z X h 0 0 [(0, .ref A.m), (1, .int (iI i))] 0 []
  obtain ⟨ap, nt, rr, rq, rb, wh, nd, up, lo, V, P, T, M, N, U, W, hM, hS, hP, htq, hR, hsl, hslh⟩ := id hW
  obtain ⟨rsi, rff, rwd, rtl, rtx, rsh, rhi, rhl⟩ := id hR
  obtain ⟨rcl, rcr, rll, rlt, rkt, rkm, rks⟩ := id rsh
  obtain ⟨hsl1, hsl2, hsl3⟩ := id hsl
  have hTr := rtx
  have hTl := rtl
  obtain ⟨gm_1, gv_1, gpa_1, gtx_1, gma_1, gna_1, gua_1, gla_1, gle_1, gqa_1, gd_1⟩ := id hM
  refine z_aload_n (pc := 0) (j := 0) C dX4_bassOf_0 rfl rfl ?_
  refine z_iload_n (pc := 1) (j := 1) C dX4_bassOf_1 rfl rfl ?_
  refine z_iconst (pc := 2) C dX4_bassOf_2 ?_
  refine z_callV (pc := 3) (n := 2) (kc' := 0) (ks' := 0) C (md_told4 C.t hW (i := i) (by omega) hx) (lw_V q2274 q2276 qs40 q74 q2277) (by decide +kernel) ⟨by decide, by decide⟩ gm_1 rfl rfl rfl (Nat.le_of_ble_eq_true rfl) dX4_bassOf_3 (by omega) (by omega) (zrk fun w h2 hp => ?_) zrx
  obtain ⟨rfl, hW1, k3⟩ := hp
  exact z_ireturn (pc := 6) C (by rw [hXp]; exact ⟨_, rfl, rfl, hW1, k3⟩) dX4_bassOf_6
set_option maxHeartbeats 4000000 in
theorem md_bassOf_b {l : Launch} (hl : l.stackTraces = false) {Γ : zCx} {h : zH} {A : zMA} {σ : zSt} {th : Int} (hW : mdW h A σ th) {i : Int} (hi : -2147483648 ≤ i ∧ i ≤ 2147483647) (hb : ¬ (0 ≤ i ∧ i < (σ.sh.cs.length : Nat)))  : zMet l yX4_bassOf (ws_ yX4_bassOf cX4_bassOf 2 (some .int)) ({ frames := 3, cells := 0, slots := 0, locals := 65 }) Γ h [.ref A.m, .int (iI i)] (zrt (fun w h' => w = some (.int (iI (0))) ∧ mdW h' A σ 1 ∧ zkeep h h' [A.m, A.v, A.pa, A.tx, A.ma, A.na, A.ua, A.la])) 0 0 := by
  refine zMet.of (cc := cX4_bassOf) hl (plainFor_of_name (by decide +kernel)) (Nat.le_of_ble_eq_true rfl) ?_
  intro X hXl hXΓ hXp C hnm hnL
  have C : zC X cX4_bassOf RX4 (some .int) 3 65 [] := C
  have hnL : X.2.1.2.2.2.2 = 2 := hnL
  subst hXl hXΓ
  show Z X h 0 0 [(0, .ref A.m), (1, .int (iI i))] 0 []
  obtain ⟨ap, nt, rr, rq, rb, wh, nd, up, lo, V, P, T, M, N, U, W, hM, hS, hP, htq, hR, hsl, hslh⟩ := id hW
  obtain ⟨rsi, rff, rwd, rtl, rtx, rsh, rhi, rhl⟩ := id hR
  obtain ⟨rcl, rcr, rll, rlt, rkt, rkm, rks⟩ := id rsh
  obtain ⟨hsl1, hsl2, hsl3⟩ := id hsl
  have hTr := rtx
  have hTl := rtl
  obtain ⟨gm_1, gv_1, gpa_1, gtx_1, gma_1, gna_1, gua_1, gla_1, gle_1, gqa_1, gd_1⟩ := id hM
  refine z_aload_n (pc := 0) (j := 0) C dX4_bassOf_0 rfl rfl ?_
  refine z_iload_n (pc := 1) (j := 1) C dX4_bassOf_1 rfl rfl ?_
  refine z_iconst (pc := 2) C dX4_bassOf_2 ?_
  refine z_callV (pc := 3) (n := 2) (kc' := 0) (ks' := 0) C (md_told4_b C.t hW (i := i) (by omega) (by omega)) (lw_V q2274 q2276 qs40 q74 q2277) (by decide +kernel) ⟨by decide, by decide⟩ gm_1 rfl rfl rfl (Nat.le_of_ble_eq_true rfl) dX4_bassOf_3 (by omega) (by omega) (zrk fun w h2 hp => ?_) zrx
  obtain ⟨rfl, hW1, k3⟩ := hp
  exact z_ireturn (pc := 6) C (by rw [hXp]; exact ⟨_, rfl, rfl, hW1, k3⟩) dX4_bassOf_6
set_option maxHeartbeats 4000000 in
theorem m_sig {l : Launch} (hl : l.stackTraces = false) {Γ : zCx} {h : zH} {A : zMA} {st ty si ff wd th ap nt rr rq rb wh nd up lo : Int} {V P T M N U W : Nat → Int} (hM : mM h A st ty si ff wd th ap nt rr rq rb wh nd up lo V P T M N U W) {S : zSh} (hS : vS V S) (hm01 : S.m = 0 ∨ S.m = 1)  : zMet l yX4_signatureNow (ws_ yX4_signatureNow cX4_signatureNow 1 (some .int)) ({ frames := 0, cells := 0, slots := 0, locals := 0 }) Γ h [.ref A.m] (zpure h (some (.int (iI (sgn S.t S.m))))) 0 0 := by
  refine zMet.of (cc := cX4_signatureNow) hl (plainFor_of_name (by decide +kernel)) (Nat.le_of_ble_eq_true rfl) ?_
  intro X hXl hXΓ hXp C hnm hnL
  have C : zC X cX4_signatureNow RX4 (some .int) 0 0 [] := C
  have hnL : X.2.1.2.2.2.2 = 1 := hnL
  subst hXl hXΓ
  show Z X h 0 0 [(0, .ref A.m)] 0 []
  obtain ⟨gm_1, gv_1, gpa_1, gtx_1, gma_1, gna_1, gua_1, gla_1, gle_1, gqa_1, gd_1⟩ := id hM
  refine z_aload_n (pc := 0) (j := 0) C dX4_signatureNow_0 rfl rfl ?_
  refine z_getfield (pc := 1) (v := .ref A.v) C in_X4 rfl 0 (by decide) q2082 (fun _ z => z) gm_1 rfl dX4_signatureNow_1 ?_
  refine z_iconst (pc := 4) C dX4_signatureNow_4 ?_
  refine z_iaload (pc := 5) (v := .int (iI S.t)) C gv_1 (by omega) (mA_e (vE hS.2.2.1 (by omega))) dX4_signatureNow_5 ?_
  refine z_iconst (pc := 6) C dX4_signatureNow_6 ?_
  refine z_aload_n (pc := 7) (j := 0) C dX4_signatureNow_7 rfl rfl ?_
  refine z_getfield (pc := 8) (v := .ref A.v) C in_X4 rfl 0 (by decide) q2082 (fun _ z => z) gm_1 rfl dX4_signatureNow_8 ?_
  refine z_iconst (pc := 11) C dX4_signatureNow_11 ?_
  refine z_iaload (pc := 12) (v := .int (iI S.m)) C gv_1 (by omega) (mA_e (vE hS.2.2.2.1 (by omega))) dX4_signatureNow_12 ?_
  refine z_imul (pc := 13) C dX4_signatureNow_13 ?_
  refine z_isub (pc := 14) C dX4_signatureNow_14 ?_
  exact z_ireturn (pc := 15) C (by rw [hXp]; exact zpure_i (by unfold sgn; split <;> omega) rfl) dX4_signatureNow_15
set_option maxHeartbeats 4000000 in
theorem md_signature {l : Launch} (hl : l.stackTraces = false) {Γ : zCx} {h : zH} {A : zMA} {σ : zSt} {th : Int} (hW : mdW h A σ th)  : zMet l yX4_signature (ws_ yX4_signature cX4_signature 1 (some .int)) ({ frames := 1, cells := 0, slots := 0, locals := 20 }) Γ h [.ref A.m] (zrt (fun w h' => w = some (.int (iI (sgn σ.sh.t σ.sh.m))) ∧ mdW h' A σ 0 ∧ zkeep h h' [A.m, A.v, A.pa, A.tx, A.ma, A.na, A.ua, A.la])) 0 0 := by
  refine zMet.of (cc := cX4_signature) hl (plainFor_of_name (by decide +kernel)) (Nat.le_of_ble_eq_true rfl) ?_
  intro X hXl hXΓ hXp C hnm hnL
  have C : zC X cX4_signature RX4 (some .int) 1 20 [] := C
  have hnL : X.2.1.2.2.2.2 = 1 := hnL
  subst hXl hXΓ
  show Z X h 0 0 [(0, .ref A.m)] 0 []
  obtain ⟨ap, nt, rr, rq, rb, wh, nd, up, lo, V, P, T, M, N, U, W, hM, hS, hP, htq, hR, hsl, hslh⟩ := id hW
  obtain ⟨rsi, rff, rwd, rtl, rtx, rsh, rhi, rhl⟩ := id hR
  obtain ⟨rcl, rcr, rll, rlt, rkt, rkm, rks⟩ := id rsh
  obtain ⟨hsl1, hsl2, hsl3⟩ := id hsl
  have hTr := rtx
  have hTl := rtl
  obtain ⟨gm_1, gv_1, gpa_1, gtx_1, gma_1, gna_1, gua_1, gla_1, gle_1, gqa_1, gd_1⟩ := id hM
  refine z_aload_n (pc := 0) (j := 0) C dX4_signature_0 rfl rfl ?_
  refine z_iconst (pc := 1) C dX4_signature_1 ?_
  refine z_putfield (pc := 2) (fs' := [.ref A.v, .ref A.pa, .int (iI ((σ.hi.length : Nat) : Int)), .ref A.tx, .int (iI ((σ.tx.length : Nat) : Int)), .int (iI σ.si), .int (iI σ.fl), .int (iI σ.wd), .int (iI 0), .ref A.le, .ref A.qa, .int (iI ap), .int (iI nt), .int (iI rr), .int (iI rq), .int (iI rb), .int (iI wh), .ref A.ma, .ref A.na, .int (iI nd), .ref A.ua, .ref A.la, .int (iI up), .int (iI lo)]) C in_X4 tyX4 tyX4_ok nmX4 rfl 8 (by decide) q2090 (fun _ z => z) rfl rfl rfl (Nat.le_of_ble_eq_true rfl) gm_1 rfl dX4_signature_2 ?_
  refine Z.nm (fun h2 eh2 => ?_)
  have kh2 : zkeep h h2 [A.m, A.v, A.pa, A.tx, A.ma, A.na, A.ua, A.la] := by rw [eh2]; exact zkeep.up zkeep.rf (Or.inl (by simp)) gm_1
  have fh2_0 : h2 A.m = some (true, .inr (3, [.ref A.v, .ref A.pa, .int (iI ((σ.hi.length : Nat) : Int)), .ref A.tx, .int (iI ((σ.tx.length : Nat) : Int)), .int (iI σ.si), .int (iI σ.fl), .int (iI σ.wd), .int (iI 0), .ref A.le, .ref A.qa, .int (iI ap), .int (iI nt), .int (iI rr), .int (iI rq), .int (iI rb), .int (iI wh), .ref A.ma, .ref A.na, .int (iI nd), .ref A.ua, .ref A.la, .int (iI up), .int (iI lo)])) := zse eh2
  have fh2_1 : h2 A.v = some (true, .inl (.int, 620, (mA V))) := zsn eh2 gv_1 (Ne.symm (zneA gm_1 gv_1))
  have fh2_2 : h2 A.pa = some (true, .inl (.int, 4960, (mA P))) := zsn eh2 gpa_1 (Ne.symm (zneA gm_1 gpa_1))
  have fh2_3 : h2 A.tx = some (true, .inl (.int, 200, (mA T))) := zsn eh2 gtx_1 (Ne.symm (zneA gm_1 gtx_1))
  have fh2_4 : h2 A.ma = some (true, .inl (.int, 620, (mA M))) := zsn eh2 gma_1 (Ne.symm (zneA gm_1 gma_1))
  have fh2_5 : h2 A.na = some (true, .inl (.int, 20, (mA N))) := zsn eh2 gna_1 (Ne.symm (zneA gm_1 gna_1))
  have fh2_6 : h2 A.ua = some (true, .inl (.int, 1200, (mA U))) := zsn eh2 gua_1 (Ne.symm (zneA gm_1 gua_1))
  have fh2_7 : h2 A.la = some (true, .inl (.int, 1200, (mA W))) := zsn eh2 gla_1 (Ne.symm (zneA gm_1 gla_1))
  refine z_aload_n (pc := 5) (j := 0) C dX4_signature_5 rfl rfl ?_
  refine z_callV (pc := 6) (n := 0) (kc' := 0) (ks' := 0) C (m_sig C.t ⟨fh2_0, fh2_1, fh2_2, fh2_3, fh2_4, fh2_5, fh2_6, fh2_7, (kh2.n gle_1 (List.not_mem_cons_of_ne_of_not_mem (Ne.symm (zneA gm_1 gle_1)) (List.not_mem_cons_of_ne_of_not_mem (zneT gle_1 gv_1 (by simp)) (List.not_mem_cons_of_ne_of_not_mem (zneT gle_1 gpa_1 (by simp)) (List.not_mem_cons_of_ne_of_not_mem (zneT gle_1 gtx_1 (by simp)) (List.not_mem_cons_of_ne_of_not_mem (zneT gle_1 gma_1 (by simp)) (List.not_mem_cons_of_ne_of_not_mem (zneT gle_1 gna_1 (by simp)) (List.not_mem_cons_of_ne_of_not_mem (zneT gle_1 gua_1 (by simp)) (List.not_mem_cons_of_ne_of_not_mem (zneT gle_1 gla_1 (by simp)) List.not_mem_nil))))))))), (kh2.n gqa_1 (List.not_mem_cons_of_ne_of_not_mem (Ne.symm (zneA gm_1 gqa_1)) (List.not_mem_cons_of_ne_of_not_mem (zneT gqa_1 gv_1 (by simp)) (List.not_mem_cons_of_ne_of_not_mem (zneT gqa_1 gpa_1 (by simp)) (List.not_mem_cons_of_ne_of_not_mem (zneT gqa_1 gtx_1 (by simp)) (List.not_mem_cons_of_ne_of_not_mem (zneT gqa_1 gma_1 (by simp)) (List.not_mem_cons_of_ne_of_not_mem (zneT gqa_1 gna_1 (by simp)) (List.not_mem_cons_of_ne_of_not_mem (zneT gqa_1 gua_1 (by simp)) (List.not_mem_cons_of_ne_of_not_mem (zneT gqa_1 gla_1 (by simp)) List.not_mem_nil))))))))), gd_1⟩ hS rkm) (lw_V q2365 q2367 qs51 q74 q2368) (by decide +kernel) ⟨by decide, by decide⟩ fh2_0 rfl rfl rfl (Nat.le_of_ble_eq_true rfl) dX4_signature_6 (by omega) (by omega) (zpk (st' := [.int (iI (sgn σ.sh.t σ.sh.m))]) rfl ?_) zrx
  exact z_ireturn (pc := 9) C (by rw [hXp]; exact ⟨_, rfl, rfl, ⟨ap, nt, rr, rq, rb, wh, nd, up, lo, V, P, T, M, N, U, W, ⟨fh2_0, fh2_1, fh2_2, fh2_3, fh2_4, fh2_5, fh2_6, fh2_7, (kh2.n gle_1 (List.not_mem_cons_of_ne_of_not_mem (Ne.symm (zneA gm_1 gle_1)) (List.not_mem_cons_of_ne_of_not_mem (zneT gle_1 gv_1 (by simp)) (List.not_mem_cons_of_ne_of_not_mem (zneT gle_1 gpa_1 (by simp)) (List.not_mem_cons_of_ne_of_not_mem (zneT gle_1 gtx_1 (by simp)) (List.not_mem_cons_of_ne_of_not_mem (zneT gle_1 gma_1 (by simp)) (List.not_mem_cons_of_ne_of_not_mem (zneT gle_1 gna_1 (by simp)) (List.not_mem_cons_of_ne_of_not_mem (zneT gle_1 gua_1 (by simp)) (List.not_mem_cons_of_ne_of_not_mem (zneT gle_1 gla_1 (by simp)) List.not_mem_nil))))))))), (kh2.n gqa_1 (List.not_mem_cons_of_ne_of_not_mem (Ne.symm (zneA gm_1 gqa_1)) (List.not_mem_cons_of_ne_of_not_mem (zneT gqa_1 gv_1 (by simp)) (List.not_mem_cons_of_ne_of_not_mem (zneT gqa_1 gpa_1 (by simp)) (List.not_mem_cons_of_ne_of_not_mem (zneT gqa_1 gtx_1 (by simp)) (List.not_mem_cons_of_ne_of_not_mem (zneT gqa_1 gma_1 (by simp)) (List.not_mem_cons_of_ne_of_not_mem (zneT gqa_1 gna_1 (by simp)) (List.not_mem_cons_of_ne_of_not_mem (zneT gqa_1 gua_1 (by simp)) (List.not_mem_cons_of_ne_of_not_mem (zneT gqa_1 gla_1 (by simp)) List.not_mem_nil))))))))), gd_1⟩, hS, hP, htq, hR, hsl, hslh⟩, kh2⟩) dX4_signature_9

/-! 24.world.lean.txt -/
set_option maxRecDepth 100000
abbrev cX1_lines : ByteArray := prog_1_method_21_code
def yX1_lines : MethodName := ⟨RX1, "lines", "()I"⟩
def dkwX1_lines_0 : List UInt8 := [42, 180, 0, 31, 180, 0, 44, 182, 0, 168, 172]
abbrev dktX1_lines_0 : List UInt8 := dkwX1_lines_0 ++ []
theorem dksX1_lines_0 : cX1_lines.data.toList.drop 0 = dktX1_lines_0 := by decide +kernel
abbrev cX1_chords : ByteArray := prog_1_method_25_code
def yX1_chords : MethodName := ⟨RX1, "chords", "()I"⟩
def dkwX1_chords_0 : List UInt8 := [42, 180, 0, 31, 180, 0, 165, 182, 0, 168, 172]
abbrev dktX1_chords_0 : List UInt8 := dkwX1_chords_0 ++ []
theorem dksX1_chords_0 : cX1_chords.data.toList.drop 0 = dktX1_chords_0 := by decide +kernel
abbrev cX1_tonic : ByteArray := prog_1_method_40_code
def yX1_tonic : MethodName := ⟨RX1, "tonic", "()I"⟩
def dkwX1_tonic_0 : List UInt8 := [42, 180, 0, 31, 180, 0, 241, 180, 0, 251, 172]
abbrev dktX1_tonic_0 : List UInt8 := dkwX1_tonic_0 ++ []
theorem dksX1_tonic_0 : cX1_tonic.data.toList.drop 0 = dktX1_tonic_0 := by decide +kernel
abbrev cX1_isMinor : ByteArray := prog_1_method_41_code
def yX1_isMinor : MethodName := ⟨RX1, "isMinor", "()Z"⟩
def dkwX1_isMinor_0 : List UInt8 := [42, 180, 0, 31, 180, 0, 241, 180, 0, 254, 172]
abbrev dktX1_isMinor_0 : List UInt8 := dkwX1_isMinor_0 ++ []
theorem dksX1_isMinor_0 : cX1_isMinor.data.toList.drop 0 = dktX1_isMinor_0 := by decide +kernel
abbrev cX1_signature : ByteArray := prog_1_method_42_code
def yX1_signature : MethodName := ⟨RX1, "signature", "()I"⟩
def dkwX1_signature_0 : List UInt8 := [42, 180, 0, 31, 180, 0, 241, 182, 1, 1, 172]
abbrev dktX1_signature_0 : List UInt8 := dkwX1_signature_0 ++ []
theorem dksX1_signature_0 : cX1_signature.data.toList.drop 0 = dktX1_signature_0 := by decide +kernel
abbrev cX1_line : ByteArray := prog_1_method_22_code
def yX1_line : MethodName := ⟨RX1, "line", "(I)Ljava/lang/String;"⟩
def dkwX1_line_1 : List UInt8 := [182, 0, 180, 192, 0, 78, 176]
abbrev dktX1_line_1 : List UInt8 := dkwX1_line_1 ++ []
def dkwX1_line_0 : List UInt8 := [27, 42, 180, 0, 31, 180, 0, 44, 182, 0, 168, 184, 0, 176, 42, 180, 0, 31, 180, 0, 44, 27]
abbrev dktX1_line_0 : List UInt8 := dkwX1_line_0 ++ dktX1_line_1
theorem dksX1_line_0 : cX1_line.data.toList.drop 0 = dktX1_line_0 := by decide +kernel
theorem dksX1_line_1 : cX1_line.data.toList.drop 22 = dktX1_line_1 := dk_seg dksX1_line_0 22 rfl rfl
abbrev cX1_lyrics : ByteArray := prog_1_method_23_code
def yX1_lyrics : MethodName := ⟨RX1, "lyrics", "(I)I"⟩
def dkwX1_lyrics_0 : List UInt8 := [42, 27, 182, 0, 184, 182, 0, 77, 172]
abbrev dktX1_lyrics_0 : List UInt8 := dkwX1_lyrics_0 ++ []
theorem dksX1_lyrics_0 : cX1_lyrics.data.toList.drop 0 = dktX1_lyrics_0 := by decide +kernel
abbrev cX1_lyric : ByteArray := prog_1_method_24_code
def yX1_lyric : MethodName := ⟨RX1, "lyric", "(II)I"⟩
def dkwX1_lyric_0 : List UInt8 := [42, 27, 182, 0, 184, 78, 28, 45, 182, 0, 77, 184, 0, 176, 45, 28, 182, 0, 86, 172]
abbrev dktX1_lyric_0 : List UInt8 := dkwX1_lyric_0 ++ []
theorem dksX1_lyric_0 : cX1_lyric.data.toList.drop 0 = dktX1_lyric_0 := by decide +kernel
abbrev cX1_chord : ByteArray := prog_1_method_26_code
def yX1_chord : MethodName := ⟨RX1, "chord", "(I)LChordSheet$Chord;"⟩
def dkwX1_chord_1 : List UInt8 := [182, 0, 180, 192, 0, 188, 176]
abbrev dktX1_chord_1 : List UInt8 := dkwX1_chord_1 ++ []
def dkwX1_chord_0 : List UInt8 := [27, 42, 180, 0, 31, 180, 0, 165, 182, 0, 168, 184, 0, 176, 42, 180, 0, 31, 180, 0, 165, 27]
abbrev dktX1_chord_0 : List UInt8 := dkwX1_chord_0 ++ dktX1_chord_1
theorem dksX1_chord_0 : cX1_chord.data.toList.drop 0 = dktX1_chord_0 := by decide +kernel
theorem dksX1_chord_1 : cX1_chord.data.toList.drop 22 = dktX1_chord_1 := dk_seg dksX1_chord_0 22 rfl rfl
abbrev cX1_lineOf : ByteArray := prog_1_method_27_code
def yX1_lineOf : MethodName := ⟨RX1, "lineOf", "(I)I"⟩
def dkwX1_lineOf_0 : List UInt8 := [42, 27, 182, 0, 190, 180, 0, 194, 172]
abbrev dktX1_lineOf_0 : List UInt8 := dkwX1_lineOf_0 ++ []
theorem dksX1_lineOf_0 : cX1_lineOf.data.toList.drop 0 = dktX1_lineOf_0 := by decide +kernel
abbrev cX1_columnOf : ByteArray := prog_1_method_28_code
def yX1_columnOf : MethodName := ⟨RX1, "columnOf", "(I)I"⟩
def dkwX1_columnOf_0 : List UInt8 := [42, 27, 182, 0, 190, 180, 0, 196, 172]
abbrev dktX1_columnOf_0 : List UInt8 := dkwX1_columnOf_0 ++ []
theorem dksX1_columnOf_0 : cX1_columnOf.data.toList.drop 0 = dktX1_columnOf_0 := by decide +kernel
abbrev cX1_rootOf : ByteArray := prog_1_method_29_code
def yX1_rootOf : MethodName := ⟨RX1, "rootOf", "(I)I"⟩
def dkwX1_rootOf_0 : List UInt8 := [42, 27, 182, 0, 190, 180, 0, 199, 172]
abbrev dktX1_rootOf_0 : List UInt8 := dkwX1_rootOf_0 ++ []
theorem dksX1_rootOf_0 : cX1_rootOf.data.toList.drop 0 = dktX1_rootOf_0 := by decide +kernel
abbrev cX1_qualityOf : ByteArray := prog_1_method_30_code
def yX1_qualityOf : MethodName := ⟨RX1, "qualityOf", "(I)I"⟩
def dkwX1_qualityOf_0 : List UInt8 := [42, 27, 182, 0, 190, 180, 0, 202, 172]
abbrev dktX1_qualityOf_0 : List UInt8 := dkwX1_qualityOf_0 ++ []
theorem dksX1_qualityOf_0 : cX1_qualityOf.data.toList.drop 0 = dktX1_qualityOf_0 := by decide +kernel
abbrev cX1_bassOf : ByteArray := prog_1_method_31_code
def yX1_bassOf : MethodName := ⟨RX1, "bassOf", "(I)I"⟩
def dkwX1_bassOf_0 : List UInt8 := [42, 27, 182, 0, 190, 180, 0, 205, 172]
abbrev dktX1_bassOf_0 : List UInt8 := dkwX1_bassOf_0 ++ []
theorem dksX1_bassOf_0 : cX1_bassOf.data.toList.drop 0 = dktX1_bassOf_0 := by decide +kernel
abbrev cX1_degree : ByteArray := prog_1_method_39_code
def yX1_degree : MethodName := ⟨RX1, "degree", "(I)I"⟩
def dkwX1_degree_0 : List UInt8 := [42, 180, 0, 31, 180, 0, 241, 42, 27, 182, 0, 190, 180, 0, 199, 184, 0, 245, 182, 0, 248, 172]
abbrev dktX1_degree_0 : List UInt8 := dkwX1_degree_0 ++ []
theorem dksX1_degree_0 : cX1_degree.data.toList.drop 0 = dktX1_degree_0 := by decide +kernel
abbrev cX1_clearText : ByteArray := prog_1_method_16_code
def yX1_clearText : MethodName := ⟨RX1, "clearText", "()I"⟩
def dkwX1_clearText_0 : List UInt8 := [42, 180, 0, 144, 60, 42, 3, 181, 0, 144, 27, 172]
abbrev dktX1_clearText_0 : List UInt8 := dkwX1_clearText_0 ++ []
theorem dksX1_clearText_0 : cX1_clearText.data.toList.drop 0 = dktX1_clearText_0 := by decide +kernel
abbrev cX1_setSimple : ByteArray := prog_1_method_18_code
def yX1_setSimple : MethodName := ⟨RX1, "setSimple", "(Z)Z"⟩
def dkwX1_setSimple_0 : List UInt8 := [42, 180, 0, 13, 61, 42, 27, 181, 0, 13, 28, 172]
abbrev dktX1_setSimple_0 : List UInt8 := dkwX1_setSimple_0 ++ []
theorem dksX1_setSimple_0 : cX1_setSimple.data.toList.drop 0 = dktX1_setSimple_0 := by decide +kernel
abbrev cX1_setFlats : ByteArray := prog_1_method_19_code
def yX1_setFlats : MethodName := ⟨RX1, "setFlats", "(Z)Z"⟩
def dkwX1_setFlats_0 : List UInt8 := [42, 180, 0, 169, 61, 42, 27, 181, 0, 169, 28, 172]
abbrev dktX1_setFlats_0 : List UInt8 := dkwX1_setFlats_0 ++ []
theorem dksX1_setFlats_0 : cX1_setFlats.data.toList.drop 0 = dktX1_setFlats_0 := by decide +kernel
abbrev cX1_setWidth : ByteArray := prog_1_method_20_code
def yX1_setWidth : MethodName := ⟨RX1, "setWidth", "(I)I"⟩
def dkwX1_setWidth_1 : List UInt8 := [28, 172]
abbrev dktX1_setWidth_1 : List UInt8 := dkwX1_setWidth_1 ++ []
def dkwX1_setWidth_0 : List UInt8 := [27, 133, 20, 0, 172, 20, 0, 174, 184, 0, 56, 184, 0, 140, 42, 180, 0, 17, 61, 42, 27, 181, 0, 17]
abbrev dktX1_setWidth_0 : List UInt8 := dkwX1_setWidth_0 ++ dktX1_setWidth_1
theorem dksX1_setWidth_0 : cX1_setWidth.data.toList.drop 0 = dktX1_setWidth_0 := by decide +kernel
theorem dksX1_setWidth_1 : cX1_setWidth.data.toList.drop 24 = dktX1_setWidth_1 := dk_seg dksX1_setWidth_0 24 rfl rfl
abbrev cX1_type : ByteArray := prog_1_method_15_code
def yX1_type : MethodName := ⟨RX1, "type", "(I)I"⟩
def dkwX1_type_2 : List UInt8 := [4, 96, 181, 0, 144, 42, 180, 0, 144, 172]
abbrev dktX1_type_2 : List UInt8 := dkwX1_type_2 ++ []
def dkwX1_type_1 : List UInt8 := [4, 167, 0, 4, 3, 184, 0, 147, 42, 180, 0, 9, 42, 180, 0, 144, 27, 146, 85, 42, 89, 180, 0, 144]
abbrev dktX1_type_1 : List UInt8 := dkwX1_type_1 ++ dktX1_type_2
def dkwX1_type_0 : List UInt8 := [27, 133, 20, 0, 136, 20, 0, 138, 184, 0, 56, 184, 0, 140, 42, 180, 0, 144, 17, 0, 200, 162, 0, 7]
abbrev dktX1_type_0 : List UInt8 := dkwX1_type_0 ++ dktX1_type_1
theorem dksX1_type_0 : cX1_type.data.toList.drop 0 = dktX1_type_0 := by decide +kernel
theorem dksX1_type_1 : cX1_type.data.toList.drop 24 = dktX1_type_1 := dk_seg dksX1_type_0 24 rfl rfl
theorem dksX1_type_2 : cX1_type.data.toList.drop 48 = dktX1_type_2 := dk_seg dksX1_type_1 24 rfl rfl
theorem dX1_lines_0 : decode cX1_lines 0 = .ok (.aload_n 0, 1) := dk_42 (dk_at dksX1_lines_0 0 rfl rfl)
theorem dX1_lines_1 : decode cX1_lines 1 = .ok (.getfield 31, 3) := dk_180 0 31 (dk_at dksX1_lines_0 1 rfl rfl)
theorem dX1_lines_4 : decode cX1_lines 4 = .ok (.getfield 44, 3) := dk_180 0 44 (dk_at dksX1_lines_0 4 rfl rfl)
theorem dX1_lines_7 : decode cX1_lines 7 = .ok (.invokevirtual 168, 3) := dk_182 0 168 (dk_at dksX1_lines_0 7 rfl rfl)
theorem dX1_lines_10 : decode cX1_lines 10 = .ok (.ireturn, 1) := dk_172 (dk_at dksX1_lines_0 10 rfl rfl)
theorem dX1_chords_0 : decode cX1_chords 0 = .ok (.aload_n 0, 1) := dk_42 (dk_at dksX1_chords_0 0 rfl rfl)
theorem dX1_chords_1 : decode cX1_chords 1 = .ok (.getfield 31, 3) := dk_180 0 31 (dk_at dksX1_chords_0 1 rfl rfl)
theorem dX1_chords_4 : decode cX1_chords 4 = .ok (.getfield 165, 3) := dk_180 0 165 (dk_at dksX1_chords_0 4 rfl rfl)
theorem dX1_chords_7 : decode cX1_chords 7 = .ok (.invokevirtual 168, 3) := dk_182 0 168 (dk_at dksX1_chords_0 7 rfl rfl)
theorem dX1_chords_10 : decode cX1_chords 10 = .ok (.ireturn, 1) := dk_172 (dk_at dksX1_chords_0 10 rfl rfl)
theorem dX1_tonic_0 : decode cX1_tonic 0 = .ok (.aload_n 0, 1) := dk_42 (dk_at dksX1_tonic_0 0 rfl rfl)
theorem dX1_tonic_1 : decode cX1_tonic 1 = .ok (.getfield 31, 3) := dk_180 0 31 (dk_at dksX1_tonic_0 1 rfl rfl)
theorem dX1_tonic_4 : decode cX1_tonic 4 = .ok (.getfield 241, 3) := dk_180 0 241 (dk_at dksX1_tonic_0 4 rfl rfl)
theorem dX1_tonic_7 : decode cX1_tonic 7 = .ok (.getfield 251, 3) := dk_180 0 251 (dk_at dksX1_tonic_0 7 rfl rfl)
theorem dX1_tonic_10 : decode cX1_tonic 10 = .ok (.ireturn, 1) := dk_172 (dk_at dksX1_tonic_0 10 rfl rfl)
theorem dX1_isMinor_0 : decode cX1_isMinor 0 = .ok (.aload_n 0, 1) := dk_42 (dk_at dksX1_isMinor_0 0 rfl rfl)
theorem dX1_isMinor_1 : decode cX1_isMinor 1 = .ok (.getfield 31, 3) := dk_180 0 31 (dk_at dksX1_isMinor_0 1 rfl rfl)
theorem dX1_isMinor_4 : decode cX1_isMinor 4 = .ok (.getfield 241, 3) := dk_180 0 241 (dk_at dksX1_isMinor_0 4 rfl rfl)
theorem dX1_isMinor_7 : decode cX1_isMinor 7 = .ok (.getfield 254, 3) := dk_180 0 254 (dk_at dksX1_isMinor_0 7 rfl rfl)
theorem dX1_isMinor_10 : decode cX1_isMinor 10 = .ok (.ireturn, 1) := dk_172 (dk_at dksX1_isMinor_0 10 rfl rfl)
theorem dX1_signature_0 : decode cX1_signature 0 = .ok (.aload_n 0, 1) := dk_42 (dk_at dksX1_signature_0 0 rfl rfl)
theorem dX1_signature_1 : decode cX1_signature 1 = .ok (.getfield 31, 3) := dk_180 0 31 (dk_at dksX1_signature_0 1 rfl rfl)
theorem dX1_signature_4 : decode cX1_signature 4 = .ok (.getfield 241, 3) := dk_180 0 241 (dk_at dksX1_signature_0 4 rfl rfl)
theorem dX1_signature_7 : decode cX1_signature 7 = .ok (.invokevirtual 257, 3) := dk_182 1 1 (dk_at dksX1_signature_0 7 rfl rfl)
theorem dX1_signature_10 : decode cX1_signature 10 = .ok (.ireturn, 1) := dk_172 (dk_at dksX1_signature_0 10 rfl rfl)
theorem dX1_line_0 : decode cX1_line 0 = .ok (.iload_n 1, 1) := dk_27 (dk_at dksX1_line_0 0 rfl rfl)
theorem dX1_line_1 : decode cX1_line 1 = .ok (.aload_n 0, 1) := dk_42 (dk_at dksX1_line_0 1 rfl rfl)
theorem dX1_line_2 : decode cX1_line 2 = .ok (.getfield 31, 3) := dk_180 0 31 (dk_at dksX1_line_0 2 rfl rfl)
theorem dX1_line_5 : decode cX1_line 5 = .ok (.getfield 44, 3) := dk_180 0 44 (dk_at dksX1_line_0 5 rfl rfl)
theorem dX1_line_8 : decode cX1_line 8 = .ok (.invokevirtual 168, 3) := dk_182 0 168 (dk_at dksX1_line_0 8 rfl rfl)
theorem dX1_line_11 : decode cX1_line 11 = .ok (.invokestatic 176, 3) := dk_184 0 176 (dk_at dksX1_line_0 11 rfl rfl)
theorem dX1_line_14 : decode cX1_line 14 = .ok (.aload_n 0, 1) := dk_42 (dk_at dksX1_line_0 14 rfl rfl)
theorem dX1_line_15 : decode cX1_line 15 = .ok (.getfield 31, 3) := dk_180 0 31 (dk_at dksX1_line_0 15 rfl rfl)
theorem dX1_line_18 : decode cX1_line 18 = .ok (.getfield 44, 3) := dk_180 0 44 (dk_at dksX1_line_0 18 rfl rfl)
theorem dX1_line_21 : decode cX1_line 21 = .ok (.iload_n 1, 1) := dk_27 (dk_at dksX1_line_0 21 rfl rfl)
theorem dX1_line_22 : decode cX1_line 22 = .ok (.invokevirtual 180, 3) := dk_182 0 180 (dk_at dksX1_line_1 0 rfl rfl)
theorem dX1_line_25 : decode cX1_line 25 = .ok (.checkcast 78, 3) := dk_192 0 78 (dk_at dksX1_line_1 3 rfl rfl)
theorem dX1_line_28 : decode cX1_line 28 = .ok (.areturn, 1) := dk_176 (dk_at dksX1_line_1 6 rfl rfl)
theorem dX1_lyrics_0 : decode cX1_lyrics 0 = .ok (.aload_n 0, 1) := dk_42 (dk_at dksX1_lyrics_0 0 rfl rfl)
theorem dX1_lyrics_1 : decode cX1_lyrics 1 = .ok (.iload_n 1, 1) := dk_27 (dk_at dksX1_lyrics_0 1 rfl rfl)
theorem dX1_lyrics_2 : decode cX1_lyrics 2 = .ok (.invokevirtual 184, 3) := dk_182 0 184 (dk_at dksX1_lyrics_0 2 rfl rfl)
theorem dX1_lyrics_5 : decode cX1_lyrics 5 = .ok (.invokevirtual 77, 3) := dk_182 0 77 (dk_at dksX1_lyrics_0 5 rfl rfl)
theorem dX1_lyrics_8 : decode cX1_lyrics 8 = .ok (.ireturn, 1) := dk_172 (dk_at dksX1_lyrics_0 8 rfl rfl)
theorem dX1_lyric_0 : decode cX1_lyric 0 = .ok (.aload_n 0, 1) := dk_42 (dk_at dksX1_lyric_0 0 rfl rfl)
theorem dX1_lyric_1 : decode cX1_lyric 1 = .ok (.iload_n 1, 1) := dk_27 (dk_at dksX1_lyric_0 1 rfl rfl)
theorem dX1_lyric_2 : decode cX1_lyric 2 = .ok (.invokevirtual 184, 3) := dk_182 0 184 (dk_at dksX1_lyric_0 2 rfl rfl)
theorem dX1_lyric_5 : decode cX1_lyric 5 = .ok (.astore_n 3, 1) := dk_78 (dk_at dksX1_lyric_0 5 rfl rfl)
theorem dX1_lyric_6 : decode cX1_lyric 6 = .ok (.iload_n 2, 1) := dk_28 (dk_at dksX1_lyric_0 6 rfl rfl)
theorem dX1_lyric_7 : decode cX1_lyric 7 = .ok (.aload_n 3, 1) := dk_45 (dk_at dksX1_lyric_0 7 rfl rfl)
theorem dX1_lyric_8 : decode cX1_lyric 8 = .ok (.invokevirtual 77, 3) := dk_182 0 77 (dk_at dksX1_lyric_0 8 rfl rfl)
theorem dX1_lyric_11 : decode cX1_lyric 11 = .ok (.invokestatic 176, 3) := dk_184 0 176 (dk_at dksX1_lyric_0 11 rfl rfl)
theorem dX1_lyric_14 : decode cX1_lyric 14 = .ok (.aload_n 3, 1) := dk_45 (dk_at dksX1_lyric_0 14 rfl rfl)
theorem dX1_lyric_15 : decode cX1_lyric 15 = .ok (.iload_n 2, 1) := dk_28 (dk_at dksX1_lyric_0 15 rfl rfl)
theorem dX1_lyric_16 : decode cX1_lyric 16 = .ok (.invokevirtual 86, 3) := dk_182 0 86 (dk_at dksX1_lyric_0 16 rfl rfl)
theorem dX1_lyric_19 : decode cX1_lyric 19 = .ok (.ireturn, 1) := dk_172 (dk_at dksX1_lyric_0 19 rfl rfl)
theorem dX1_chord_0 : decode cX1_chord 0 = .ok (.iload_n 1, 1) := dk_27 (dk_at dksX1_chord_0 0 rfl rfl)
theorem dX1_chord_1 : decode cX1_chord 1 = .ok (.aload_n 0, 1) := dk_42 (dk_at dksX1_chord_0 1 rfl rfl)
theorem dX1_chord_2 : decode cX1_chord 2 = .ok (.getfield 31, 3) := dk_180 0 31 (dk_at dksX1_chord_0 2 rfl rfl)
theorem dX1_chord_5 : decode cX1_chord 5 = .ok (.getfield 165, 3) := dk_180 0 165 (dk_at dksX1_chord_0 5 rfl rfl)
theorem dX1_chord_8 : decode cX1_chord 8 = .ok (.invokevirtual 168, 3) := dk_182 0 168 (dk_at dksX1_chord_0 8 rfl rfl)
theorem dX1_chord_11 : decode cX1_chord 11 = .ok (.invokestatic 176, 3) := dk_184 0 176 (dk_at dksX1_chord_0 11 rfl rfl)
theorem dX1_chord_14 : decode cX1_chord 14 = .ok (.aload_n 0, 1) := dk_42 (dk_at dksX1_chord_0 14 rfl rfl)
theorem dX1_chord_15 : decode cX1_chord 15 = .ok (.getfield 31, 3) := dk_180 0 31 (dk_at dksX1_chord_0 15 rfl rfl)
theorem dX1_chord_18 : decode cX1_chord 18 = .ok (.getfield 165, 3) := dk_180 0 165 (dk_at dksX1_chord_0 18 rfl rfl)
theorem dX1_chord_21 : decode cX1_chord 21 = .ok (.iload_n 1, 1) := dk_27 (dk_at dksX1_chord_0 21 rfl rfl)
theorem dX1_chord_22 : decode cX1_chord 22 = .ok (.invokevirtual 180, 3) := dk_182 0 180 (dk_at dksX1_chord_1 0 rfl rfl)
theorem dX1_chord_25 : decode cX1_chord 25 = .ok (.checkcast 188, 3) := dk_192 0 188 (dk_at dksX1_chord_1 3 rfl rfl)
theorem dX1_chord_28 : decode cX1_chord 28 = .ok (.areturn, 1) := dk_176 (dk_at dksX1_chord_1 6 rfl rfl)
theorem dX1_lineOf_0 : decode cX1_lineOf 0 = .ok (.aload_n 0, 1) := dk_42 (dk_at dksX1_lineOf_0 0 rfl rfl)
theorem dX1_lineOf_1 : decode cX1_lineOf 1 = .ok (.iload_n 1, 1) := dk_27 (dk_at dksX1_lineOf_0 1 rfl rfl)
theorem dX1_lineOf_2 : decode cX1_lineOf 2 = .ok (.invokevirtual 190, 3) := dk_182 0 190 (dk_at dksX1_lineOf_0 2 rfl rfl)
theorem dX1_lineOf_5 : decode cX1_lineOf 5 = .ok (.getfield 194, 3) := dk_180 0 194 (dk_at dksX1_lineOf_0 5 rfl rfl)
theorem dX1_lineOf_8 : decode cX1_lineOf 8 = .ok (.ireturn, 1) := dk_172 (dk_at dksX1_lineOf_0 8 rfl rfl)
theorem dX1_columnOf_0 : decode cX1_columnOf 0 = .ok (.aload_n 0, 1) := dk_42 (dk_at dksX1_columnOf_0 0 rfl rfl)
theorem dX1_columnOf_1 : decode cX1_columnOf 1 = .ok (.iload_n 1, 1) := dk_27 (dk_at dksX1_columnOf_0 1 rfl rfl)
theorem dX1_columnOf_2 : decode cX1_columnOf 2 = .ok (.invokevirtual 190, 3) := dk_182 0 190 (dk_at dksX1_columnOf_0 2 rfl rfl)
theorem dX1_columnOf_5 : decode cX1_columnOf 5 = .ok (.getfield 196, 3) := dk_180 0 196 (dk_at dksX1_columnOf_0 5 rfl rfl)
theorem dX1_columnOf_8 : decode cX1_columnOf 8 = .ok (.ireturn, 1) := dk_172 (dk_at dksX1_columnOf_0 8 rfl rfl)
theorem dX1_rootOf_0 : decode cX1_rootOf 0 = .ok (.aload_n 0, 1) := dk_42 (dk_at dksX1_rootOf_0 0 rfl rfl)
theorem dX1_rootOf_1 : decode cX1_rootOf 1 = .ok (.iload_n 1, 1) := dk_27 (dk_at dksX1_rootOf_0 1 rfl rfl)
theorem dX1_rootOf_2 : decode cX1_rootOf 2 = .ok (.invokevirtual 190, 3) := dk_182 0 190 (dk_at dksX1_rootOf_0 2 rfl rfl)
theorem dX1_rootOf_5 : decode cX1_rootOf 5 = .ok (.getfield 199, 3) := dk_180 0 199 (dk_at dksX1_rootOf_0 5 rfl rfl)
theorem dX1_rootOf_8 : decode cX1_rootOf 8 = .ok (.ireturn, 1) := dk_172 (dk_at dksX1_rootOf_0 8 rfl rfl)
theorem dX1_qualityOf_0 : decode cX1_qualityOf 0 = .ok (.aload_n 0, 1) := dk_42 (dk_at dksX1_qualityOf_0 0 rfl rfl)
theorem dX1_qualityOf_1 : decode cX1_qualityOf 1 = .ok (.iload_n 1, 1) := dk_27 (dk_at dksX1_qualityOf_0 1 rfl rfl)
theorem dX1_qualityOf_2 : decode cX1_qualityOf 2 = .ok (.invokevirtual 190, 3) := dk_182 0 190 (dk_at dksX1_qualityOf_0 2 rfl rfl)
theorem dX1_qualityOf_5 : decode cX1_qualityOf 5 = .ok (.getfield 202, 3) := dk_180 0 202 (dk_at dksX1_qualityOf_0 5 rfl rfl)
theorem dX1_qualityOf_8 : decode cX1_qualityOf 8 = .ok (.ireturn, 1) := dk_172 (dk_at dksX1_qualityOf_0 8 rfl rfl)
theorem dX1_bassOf_0 : decode cX1_bassOf 0 = .ok (.aload_n 0, 1) := dk_42 (dk_at dksX1_bassOf_0 0 rfl rfl)
theorem dX1_bassOf_1 : decode cX1_bassOf 1 = .ok (.iload_n 1, 1) := dk_27 (dk_at dksX1_bassOf_0 1 rfl rfl)
theorem dX1_bassOf_2 : decode cX1_bassOf 2 = .ok (.invokevirtual 190, 3) := dk_182 0 190 (dk_at dksX1_bassOf_0 2 rfl rfl)
theorem dX1_bassOf_5 : decode cX1_bassOf 5 = .ok (.getfield 205, 3) := dk_180 0 205 (dk_at dksX1_bassOf_0 5 rfl rfl)
theorem dX1_bassOf_8 : decode cX1_bassOf 8 = .ok (.ireturn, 1) := dk_172 (dk_at dksX1_bassOf_0 8 rfl rfl)
theorem dX1_degree_0 : decode cX1_degree 0 = .ok (.aload_n 0, 1) := dk_42 (dk_at dksX1_degree_0 0 rfl rfl)
theorem dX1_degree_1 : decode cX1_degree 1 = .ok (.getfield 31, 3) := dk_180 0 31 (dk_at dksX1_degree_0 1 rfl rfl)
theorem dX1_degree_4 : decode cX1_degree 4 = .ok (.getfield 241, 3) := dk_180 0 241 (dk_at dksX1_degree_0 4 rfl rfl)
theorem dX1_degree_7 : decode cX1_degree 7 = .ok (.aload_n 0, 1) := dk_42 (dk_at dksX1_degree_0 7 rfl rfl)
theorem dX1_degree_8 : decode cX1_degree 8 = .ok (.iload_n 1, 1) := dk_27 (dk_at dksX1_degree_0 8 rfl rfl)
theorem dX1_degree_9 : decode cX1_degree 9 = .ok (.invokevirtual 190, 3) := dk_182 0 190 (dk_at dksX1_degree_0 9 rfl rfl)
theorem dX1_degree_12 : decode cX1_degree 12 = .ok (.getfield 199, 3) := dk_180 0 199 (dk_at dksX1_degree_0 12 rfl rfl)
theorem dX1_degree_15 : decode cX1_degree 15 = .ok (.invokestatic 245, 3) := dk_184 0 245 (dk_at dksX1_degree_0 15 rfl rfl)
theorem dX1_degree_18 : decode cX1_degree 18 = .ok (.invokevirtual 248, 3) := dk_182 0 248 (dk_at dksX1_degree_0 18 rfl rfl)
theorem dX1_degree_21 : decode cX1_degree 21 = .ok (.ireturn, 1) := dk_172 (dk_at dksX1_degree_0 21 rfl rfl)
theorem dX1_clearText_0 : decode cX1_clearText 0 = .ok (.aload_n 0, 1) := dk_42 (dk_at dksX1_clearText_0 0 rfl rfl)
theorem dX1_clearText_1 : decode cX1_clearText 1 = .ok (.getfield 144, 3) := dk_180 0 144 (dk_at dksX1_clearText_0 1 rfl rfl)
theorem dX1_clearText_4 : decode cX1_clearText 4 = .ok (.istore_n 1, 1) := dk_60 (dk_at dksX1_clearText_0 4 rfl rfl)
theorem dX1_clearText_5 : decode cX1_clearText 5 = .ok (.aload_n 0, 1) := dk_42 (dk_at dksX1_clearText_0 5 rfl rfl)
theorem dX1_clearText_6 : decode cX1_clearText 6 = .ok (.iconst 0, 1) := dk_3 (dk_at dksX1_clearText_0 6 rfl rfl)
theorem dX1_clearText_7 : decode cX1_clearText 7 = .ok (.putfield 144, 3) := dk_181 0 144 (dk_at dksX1_clearText_0 7 rfl rfl)
theorem dX1_clearText_10 : decode cX1_clearText 10 = .ok (.iload_n 1, 1) := dk_27 (dk_at dksX1_clearText_0 10 rfl rfl)
theorem dX1_clearText_11 : decode cX1_clearText 11 = .ok (.ireturn, 1) := dk_172 (dk_at dksX1_clearText_0 11 rfl rfl)
theorem dX1_setSimple_0 : decode cX1_setSimple 0 = .ok (.aload_n 0, 1) := dk_42 (dk_at dksX1_setSimple_0 0 rfl rfl)
theorem dX1_setSimple_1 : decode cX1_setSimple 1 = .ok (.getfield 13, 3) := dk_180 0 13 (dk_at dksX1_setSimple_0 1 rfl rfl)
theorem dX1_setSimple_4 : decode cX1_setSimple 4 = .ok (.istore_n 2, 1) := dk_61 (dk_at dksX1_setSimple_0 4 rfl rfl)
theorem dX1_setSimple_5 : decode cX1_setSimple 5 = .ok (.aload_n 0, 1) := dk_42 (dk_at dksX1_setSimple_0 5 rfl rfl)
theorem dX1_setSimple_6 : decode cX1_setSimple 6 = .ok (.iload_n 1, 1) := dk_27 (dk_at dksX1_setSimple_0 6 rfl rfl)
theorem dX1_setSimple_7 : decode cX1_setSimple 7 = .ok (.putfield 13, 3) := dk_181 0 13 (dk_at dksX1_setSimple_0 7 rfl rfl)
theorem dX1_setSimple_10 : decode cX1_setSimple 10 = .ok (.iload_n 2, 1) := dk_28 (dk_at dksX1_setSimple_0 10 rfl rfl)
theorem dX1_setSimple_11 : decode cX1_setSimple 11 = .ok (.ireturn, 1) := dk_172 (dk_at dksX1_setSimple_0 11 rfl rfl)
theorem dX1_setFlats_0 : decode cX1_setFlats 0 = .ok (.aload_n 0, 1) := dk_42 (dk_at dksX1_setFlats_0 0 rfl rfl)
theorem dX1_setFlats_1 : decode cX1_setFlats 1 = .ok (.getfield 169, 3) := dk_180 0 169 (dk_at dksX1_setFlats_0 1 rfl rfl)
theorem dX1_setFlats_4 : decode cX1_setFlats 4 = .ok (.istore_n 2, 1) := dk_61 (dk_at dksX1_setFlats_0 4 rfl rfl)
theorem dX1_setFlats_5 : decode cX1_setFlats 5 = .ok (.aload_n 0, 1) := dk_42 (dk_at dksX1_setFlats_0 5 rfl rfl)
theorem dX1_setFlats_6 : decode cX1_setFlats 6 = .ok (.iload_n 1, 1) := dk_27 (dk_at dksX1_setFlats_0 6 rfl rfl)
theorem dX1_setFlats_7 : decode cX1_setFlats 7 = .ok (.putfield 169, 3) := dk_181 0 169 (dk_at dksX1_setFlats_0 7 rfl rfl)
theorem dX1_setFlats_10 : decode cX1_setFlats 10 = .ok (.iload_n 2, 1) := dk_28 (dk_at dksX1_setFlats_0 10 rfl rfl)
theorem dX1_setFlats_11 : decode cX1_setFlats 11 = .ok (.ireturn, 1) := dk_172 (dk_at dksX1_setFlats_0 11 rfl rfl)
theorem dX1_setWidth_0 : decode cX1_setWidth 0 = .ok (.iload_n 1, 1) := dk_27 (dk_at dksX1_setWidth_0 0 rfl rfl)
theorem dX1_setWidth_1 : decode cX1_setWidth 1 = .ok (.i2l, 1) := dk_133 (dk_at dksX1_setWidth_0 1 rfl rfl)
theorem dX1_setWidth_2 : decode cX1_setWidth 2 = .ok (.ldc2_w 172, 3) := dk_20 0 172 (dk_at dksX1_setWidth_0 2 rfl rfl)
theorem dX1_setWidth_5 : decode cX1_setWidth 5 = .ok (.ldc2_w 174, 3) := dk_20 0 174 (dk_at dksX1_setWidth_0 5 rfl rfl)
theorem dX1_setWidth_8 : decode cX1_setWidth 8 = .ok (.invokestatic 56, 3) := dk_184 0 56 (dk_at dksX1_setWidth_0 8 rfl rfl)
theorem dX1_setWidth_11 : decode cX1_setWidth 11 = .ok (.invokestatic 140, 3) := dk_184 0 140 (dk_at dksX1_setWidth_0 11 rfl rfl)
theorem dX1_setWidth_14 : decode cX1_setWidth 14 = .ok (.aload_n 0, 1) := dk_42 (dk_at dksX1_setWidth_0 14 rfl rfl)
theorem dX1_setWidth_15 : decode cX1_setWidth 15 = .ok (.getfield 17, 3) := dk_180 0 17 (dk_at dksX1_setWidth_0 15 rfl rfl)
theorem dX1_setWidth_18 : decode cX1_setWidth 18 = .ok (.istore_n 2, 1) := dk_61 (dk_at dksX1_setWidth_0 18 rfl rfl)
theorem dX1_setWidth_19 : decode cX1_setWidth 19 = .ok (.aload_n 0, 1) := dk_42 (dk_at dksX1_setWidth_0 19 rfl rfl)
theorem dX1_setWidth_20 : decode cX1_setWidth 20 = .ok (.iload_n 1, 1) := dk_27 (dk_at dksX1_setWidth_0 20 rfl rfl)
theorem dX1_setWidth_21 : decode cX1_setWidth 21 = .ok (.putfield 17, 3) := dk_181 0 17 (dk_at dksX1_setWidth_0 21 rfl rfl)
theorem dX1_setWidth_24 : decode cX1_setWidth 24 = .ok (.iload_n 2, 1) := dk_28 (dk_at dksX1_setWidth_1 0 rfl rfl)
theorem dX1_setWidth_25 : decode cX1_setWidth 25 = .ok (.ireturn, 1) := dk_172 (dk_at dksX1_setWidth_1 1 rfl rfl)
theorem dX1_type_0 : decode cX1_type 0 = .ok (.iload_n 1, 1) := dk_27 (dk_at dksX1_type_0 0 rfl rfl)
theorem dX1_type_1 : decode cX1_type 1 = .ok (.i2l, 1) := dk_133 (dk_at dksX1_type_0 1 rfl rfl)
theorem dX1_type_2 : decode cX1_type 2 = .ok (.ldc2_w 136, 3) := dk_20 0 136 (dk_at dksX1_type_0 2 rfl rfl)
theorem dX1_type_5 : decode cX1_type 5 = .ok (.ldc2_w 138, 3) := dk_20 0 138 (dk_at dksX1_type_0 5 rfl rfl)
theorem dX1_type_8 : decode cX1_type 8 = .ok (.invokestatic 56, 3) := dk_184 0 56 (dk_at dksX1_type_0 8 rfl rfl)
theorem dX1_type_11 : decode cX1_type 11 = .ok (.invokestatic 140, 3) := dk_184 0 140 (dk_at dksX1_type_0 11 rfl rfl)
theorem dX1_type_14 : decode cX1_type 14 = .ok (.aload_n 0, 1) := dk_42 (dk_at dksX1_type_0 14 rfl rfl)
theorem dX1_type_15 : decode cX1_type 15 = .ok (.getfield 144, 3) := dk_180 0 144 (dk_at dksX1_type_0 15 rfl rfl)
theorem dX1_type_18 : decode cX1_type 18 = .ok (.sipush 200, 3) := dk_17 0 200 (dk_at dksX1_type_0 18 rfl rfl)
theorem dX1_type_21 : decode cX1_type 21 = .ok (.if_icmp .ge 7, 3) := dk_162 0 7 (dk_at dksX1_type_0 21 rfl rfl)
theorem dX1_type_24 : decode cX1_type 24 = .ok (.iconst 1, 1) := dk_4 (dk_at dksX1_type_1 0 rfl rfl)
theorem dX1_type_25 : decode cX1_type 25 = .ok (.goto 4, 3) := dk_167 0 4 (dk_at dksX1_type_1 1 rfl rfl)
theorem dX1_type_28 : decode cX1_type 28 = .ok (.iconst 0, 1) := dk_3 (dk_at dksX1_type_1 4 rfl rfl)
theorem dX1_type_29 : decode cX1_type 29 = .ok (.invokestatic 147, 3) := dk_184 0 147 (dk_at dksX1_type_1 5 rfl rfl)
theorem dX1_type_32 : decode cX1_type 32 = .ok (.aload_n 0, 1) := dk_42 (dk_at dksX1_type_1 8 rfl rfl)
theorem dX1_type_33 : decode cX1_type 33 = .ok (.getfield 9, 3) := dk_180 0 9 (dk_at dksX1_type_1 9 rfl rfl)
theorem dX1_type_36 : decode cX1_type 36 = .ok (.aload_n 0, 1) := dk_42 (dk_at dksX1_type_1 12 rfl rfl)
theorem dX1_type_37 : decode cX1_type 37 = .ok (.getfield 144, 3) := dk_180 0 144 (dk_at dksX1_type_1 13 rfl rfl)
theorem dX1_type_40 : decode cX1_type 40 = .ok (.iload_n 1, 1) := dk_27 (dk_at dksX1_type_1 16 rfl rfl)
theorem dX1_type_41 : decode cX1_type 41 = .ok (.i2c, 1) := dk_146 (dk_at dksX1_type_1 17 rfl rfl)
theorem dX1_type_42 : decode cX1_type 42 = .ok (.castore, 1) := dk_85 (dk_at dksX1_type_1 18 rfl rfl)
theorem dX1_type_43 : decode cX1_type 43 = .ok (.aload_n 0, 1) := dk_42 (dk_at dksX1_type_1 19 rfl rfl)
theorem dX1_type_44 : decode cX1_type 44 = .ok (.dup, 1) := dk_89 (dk_at dksX1_type_1 20 rfl rfl)
theorem dX1_type_45 : decode cX1_type 45 = .ok (.getfield 144, 3) := dk_180 0 144 (dk_at dksX1_type_1 21 rfl rfl)
theorem dX1_type_48 : decode cX1_type 48 = .ok (.iconst 1, 1) := dk_4 (dk_at dksX1_type_2 0 rfl rfl)
theorem dX1_type_49 : decode cX1_type 49 = .ok (.iadd, 1) := dk_96 (dk_at dksX1_type_2 1 rfl rfl)
theorem dX1_type_50 : decode cX1_type 50 = .ok (.putfield 144, 3) := dk_181 0 144 (dk_at dksX1_type_2 2 rfl rfl)
theorem dX1_type_53 : decode cX1_type 53 = .ok (.aload_n 0, 1) := dk_42 (dk_at dksX1_type_2 5 rfl rfl)
theorem dX1_type_54 : decode cX1_type 54 = .ok (.getfield 144, 3) := dk_180 0 144 (dk_at dksX1_type_2 6 rfl rfl)
theorem dX1_type_57 : decode cX1_type 57 = .ok (.ireturn, 1) := dk_172 (dk_at dksX1_type_2 9 rfl rfl)
theorem q1024 : (Jvm.Cond.methodLink "ChordSheet" (257 : Nat) ({ cls := "ChordSheet$Key", name := "signature", desc := "()I" } : Jvm.MethodName)) ∈ lw_all := lw_g (lw_at lw_m5 2 rfl) rfl
theorem q1038 : (Jvm.Cond.methodLink "ChordSheet" (180 : Nat) ({ cls := "java/util/ArrayList", name := "get", desc := "(I)Ljava/lang/Object;" } : Jvm.MethodName)) ∈ lw_all := lw_g (lw_at lw_m5 16 rfl) rfl
theorem q1039 : (Jvm.Cond.classLink "ChordSheet" (188 : Nat) "ChordSheet$Chord") ∈ lw_all := lw_g (lw_at lw_m5 17 rfl) rfl
theorem q1044 : (Jvm.Cond.methodLink "ChordSheet" (245 : Nat) ({ cls := "ChordSheet", name := "pitchClass", desc := "(I)I" } : Jvm.MethodName)) ∈ lw_all := lw_g (lw_at lw_m5 22 rfl) rfl
theorem q125 : (Jvm.Cond.fieldLinkNest "ChordSheet" (251 : Nat) "ChordSheet$Key" "tonic" "I" "ChordSheet") ∈ lw_tbl := lw_at lw_m1 63 rfl
theorem q128 : (Jvm.Cond.fieldLinkNest "ChordSheet" (254 : Nat) "ChordSheet$Key" "isMinor" "Z" "ChordSheet") ∈ lw_tbl := lw_at lw_m1 66 rfl
theorem q1633 : (Jvm.Cond.classLink "ChordSheet" (78 : Nat) "java/lang/String") ∈ lw_all := lw_g (lw_at lw_m7 131 rfl) rfl
theorem q1645 : (Jvm.Cond.constantLong "ChordSheet" (136 : Nat) (32 : Int64)) ∈ lw_all := lw_g (lw_at lw_m7 143 rfl) rfl
theorem q1646 : (Jvm.Cond.constantLong "ChordSheet" (138 : Nat) (126 : Int64)) ∈ lw_all := lw_g (lw_at lw_m7 144 rfl) rfl
theorem q1650 : (Jvm.Cond.methodLink "ChordSheet" (140 : Nat) ({ cls := "ChordSheet", name := "checkArgument", desc := "(Z)V" } : Jvm.MethodName)) ∈ lw_all := lw_g (lw_at lw_m7 148 rfl) rfl
theorem q1651 : (Jvm.Cond.static ({ cls := "ChordSheet", name := "checkArgument", desc := "(Z)V" } : Jvm.MethodName)) ∈ lw_all := lw_g (lw_at lw_m7 149 rfl) rfl
theorem q1652 : (Jvm.Cond.code ({ cls := "ChordSheet", name := "checkArgument", desc := "(Z)V" } : Jvm.MethodName) prog_1_method_4_code (1 : Nat) (Option.none : Option Jvm.ClassFile.FieldType)) ∈ lw_all := lw_g (lw_at lw_m7 150 rfl) rfl
theorem q1664 : (Jvm.Cond.methodLink "ChordSheet" (147 : Nat) ({ cls := "ChordSheet", name := "checkState", desc := "(Z)V" } : Jvm.MethodName)) ∈ lw_all := lw_g (lw_at lw_m7 162 rfl) rfl
theorem q1665 : (Jvm.Cond.static ({ cls := "ChordSheet", name := "checkState", desc := "(Z)V" } : Jvm.MethodName)) ∈ lw_all := lw_g (lw_at lw_m7 163 rfl) rfl
theorem q1666 : (Jvm.Cond.code ({ cls := "ChordSheet", name := "checkState", desc := "(Z)V" } : Jvm.MethodName) prog_1_method_5_code (1 : Nat) (Option.none : Option Jvm.ClassFile.FieldType)) ∈ lw_all := lw_g (lw_at lw_m7 164 rfl) rfl
theorem q167 : (Jvm.Cond.fieldLinkNest "ChordSheet" (44 : Nat) "ChordSheet$Sheet" "lines" "Ljava/util/ArrayList;" "ChordSheet") ∈ lw_tbl := lw_at lw_m1 105 rfl
theorem q1679 : (Jvm.Cond.constantLong "ChordSheet" (172 : Nat) (10 : Int64)) ∈ lw_all := lw_g (lw_at lw_m7 177 rfl) rfl
theorem q1680 : (Jvm.Cond.constantLong "ChordSheet" (174 : Nat) (200 : Int64)) ∈ lw_all := lw_g (lw_at lw_m7 178 rfl) rfl
theorem q1691 : (Jvm.Cond.methodLink "ChordSheet" (184 : Nat) ({ cls := "ChordSheet", name := "line", desc := "(I)Ljava/lang/String;" } : Jvm.MethodName)) ∈ lw_all := lw_g (lw_at lw_m7 189 rfl) rfl
theorem q1693 : (Jvm.Cond.instanceMethod ({ cls := "ChordSheet", name := "line", desc := "(I)Ljava/lang/String;" } : Jvm.MethodName)) ∈ lw_all := lw_g (lw_at lw_m7 191 rfl) rfl
theorem q1694 : (Jvm.Cond.code ({ cls := "ChordSheet", name := "line", desc := "(I)Ljava/lang/String;" } : Jvm.MethodName) prog_1_method_22_code (2 : Nat) (Option.some (Jvm.ClassFile.FieldType.object "java/lang/String"))) ∈ lw_all := lw_g (lw_at lw_m7 192 rfl) rfl
theorem q1695 : (Jvm.Cond.methodLink "ChordSheet" (176 : Nat) ({ cls := "ChordSheet", name := "checkIndex", desc := "(II)V" } : Jvm.MethodName)) ∈ lw_all := lw_g (lw_at lw_m7 193 rfl) rfl
theorem q1696 : (Jvm.Cond.static ({ cls := "ChordSheet", name := "checkIndex", desc := "(II)V" } : Jvm.MethodName)) ∈ lw_all := lw_g (lw_at lw_m7 194 rfl) rfl
theorem q1697 : (Jvm.Cond.code ({ cls := "ChordSheet", name := "checkIndex", desc := "(II)V" } : Jvm.MethodName) prog_1_method_3_code (2 : Nat) (Option.none : Option Jvm.ClassFile.FieldType)) ∈ lw_all := lw_g (lw_at lw_m7 195 rfl) rfl
theorem q172 : (Jvm.Cond.fieldLinkNest "ChordSheet" (165 : Nat) "ChordSheet$Sheet" "chords" "Ljava/util/ArrayList;" "ChordSheet") ∈ lw_tbl := lw_at lw_m1 110 rfl
theorem q1727 : (Jvm.Cond.methodLink "ChordSheet" (190 : Nat) ({ cls := "ChordSheet", name := "chord", desc := "(I)LChordSheet$Chord;" } : Jvm.MethodName)) ∈ lw_all := lw_g (lw_at lw_m7 225 rfl) rfl
theorem q1729 : (Jvm.Cond.instanceMethod ({ cls := "ChordSheet", name := "chord", desc := "(I)LChordSheet$Chord;" } : Jvm.MethodName)) ∈ lw_all := lw_g (lw_at lw_m7 227 rfl) rfl
theorem q1730 : (Jvm.Cond.code ({ cls := "ChordSheet", name := "chord", desc := "(I)LChordSheet$Chord;" } : Jvm.MethodName) prog_1_method_26_code (2 : Nat) (Option.some (Jvm.ClassFile.FieldType.object "ChordSheet$Chord"))) ∈ lw_all := lw_g (lw_at lw_m7 228 rfl) rfl
theorem q175 : (Jvm.Cond.fieldLinkNest "ChordSheet" (241 : Nat) "ChordSheet$Sheet" "key" "LChordSheet$Key;" "ChordSheet") ∈ lw_tbl := lw_at lw_m1 113 rfl
theorem q1886 : (Jvm.Cond.methodLink "ChordSheet" (248 : Nat) ({ cls := "ChordSheet$Key", name := "degree", desc := "(I)I" } : Jvm.MethodName)) ∈ lw_all := lw_g (lw_at lw_m8 144 rfl) rfl
theorem q1887 : (Jvm.Cond.instanceMethod ({ cls := "ChordSheet$Key", name := "degree", desc := "(I)I" } : Jvm.MethodName)) ∈ lw_all := lw_g (lw_at lw_m8 145 rfl) rfl
theorem q1888 : (Jvm.Cond.selects "ChordSheet$Key" ({ cls := "ChordSheet$Key", name := "degree", desc := "(I)I" } : Jvm.MethodName) ({ cls := "ChordSheet$Key", name := "degree", desc := "(I)I" } : Jvm.MethodName)) ∈ lw_all := lw_g (lw_at lw_m8 146 rfl) rfl
theorem q1889 : (Jvm.Cond.code ({ cls := "ChordSheet$Key", name := "degree", desc := "(I)I" } : Jvm.MethodName) prog_3_method_7_code (6 : Nat) (Option.some Jvm.ClassFile.FieldType.int)) ∈ lw_all := lw_g (lw_at lw_m8 147 rfl) rfl
theorem q273 : (Jvm.Cond.fieldLink "ChordSheet" (9 : Nat) "ChordSheet" "text" "[C") ∈ lw_all := lw_g (lw_at lw_m1 211 rfl) rfl
theorem q276 : (Jvm.Cond.fieldLink "ChordSheet" (144 : Nat) "ChordSheet" "textLength" "I") ∈ lw_all := lw_g (lw_at lw_m1 214 rfl) rfl
theorem q277 : (Jvm.Cond.fieldLink "ChordSheet" (13 : Nat) "ChordSheet" "isSimple" "Z") ∈ lw_all := lw_g (lw_at lw_m1 215 rfl) rfl
theorem q278 : (Jvm.Cond.fieldLink "ChordSheet" (169 : Nat) "ChordSheet" "hasFlats" "Z") ∈ lw_all := lw_g (lw_at lw_m1 216 rfl) rfl
theorem q279 : (Jvm.Cond.fieldLink "ChordSheet" (17 : Nat) "ChordSheet" "width" "I") ∈ lw_all := lw_g (lw_at lw_m1 217 rfl) rfl
theorem q282 : (Jvm.Cond.fieldLink "ChordSheet" (31 : Nat) "ChordSheet" "sheet" "LChordSheet$Sheet;") ∈ lw_all := lw_g (lw_at lw_m1 220 rfl) rfl
theorem q593 : (Jvm.Cond.fieldLinkNest "ChordSheet" (194 : Nat) "ChordSheet$Chord" "line" "I" "ChordSheet") ∈ lw_tbl := lw_at lw_m3 51 rfl
theorem q597 : (Jvm.Cond.fieldLinkNest "ChordSheet" (196 : Nat) "ChordSheet$Chord" "column" "I" "ChordSheet") ∈ lw_tbl := lw_at lw_m3 55 rfl
theorem q600 : (Jvm.Cond.fieldLinkNest "ChordSheet" (199 : Nat) "ChordSheet$Chord" "root" "I" "ChordSheet") ∈ lw_tbl := lw_at lw_m3 58 rfl
theorem q602 : (Jvm.Cond.fieldLinkNest "ChordSheet" (202 : Nat) "ChordSheet$Chord" "quality" "I" "ChordSheet") ∈ lw_tbl := lw_at lw_m3 60 rfl
theorem q604 : (Jvm.Cond.fieldLinkNest "ChordSheet" (205 : Nat) "ChordSheet$Chord" "bass" "I" "ChordSheet") ∈ lw_tbl := lw_at lw_m3 62 rfl
theorem q995 : (Jvm.Cond.methodLink "ChordSheet" (168 : Nat) ({ cls := "java/util/ArrayList", name := "size", desc := "()I" } : Jvm.MethodName)) ∈ lw_all := lw_g (lw_at lw_m4 213 rfl) rfl
/-- a sheet: lines, chords, the key's tonic and mode -/
abbrev zSh : Type := List (List Int) × List zCh × Int × Int
def zSh.ls (S : zSh) : List (List Int) := S.1
def zSh.cs (S : zSh) : List zCh := S.2.1
def zSh.t (S : zSh) : Int := S.2.2.1
def zSh.m (S : zSh) : Int := S.2.2.2
/-- the state of a ChordSheet: text, isSimple, hasFlats, width, sheet, history (oldest first) -/
abbrev zSt : Type := List Int × Int × Int × Int × zSh × List zSh
def zSt.tx (σ : zSt) : List Int := σ.1
def zSt.si (σ : zSt) : Int := σ.2.1
def zSt.fl (σ : zSt) : Int := σ.2.2.1
def zSt.wd (σ : zSt) : Int := σ.2.2.2.1
def zSt.sh (σ : zSt) : zSh := σ.2.2.2.2.1
def zSt.hi (σ : zSt) : List zSh := σ.2.2.2.2.2
/-- where a sheet lies: the sheet, its list of chords, that list's array and room -/
abbrev zSA : Type := Nat × Nat × Nat × Nat
def zSA.s (x : zSA) : Nat := x.1
def zSA.cq (x : zSA) : Nat := x.2.1
def zSA.e (x : zSA) : Nat := x.2.2.1
def zSA.cap (x : zSA) : Nat := x.2.2.2
/-- where the parts of a ChordSheet lie: text, deque, its array, the sheet, the history's sheets -/
abbrev zWA : Type := Nat × Nat × Nat × zSA × List zSA
def zWA.tx (A : zWA) : Nat := A.1
def zWA.dq (A : zWA) : Nat := A.2.1
def zWA.de (A : zWA) : Nat := A.2.2.1
def zWA.cu (A : zWA) : zSA := A.2.2.2.1
def zWA.hs (A : zWA) : List zSA := A.2.2.2.2
def shR (S : zSh) : Prop := S.cs.length ≤ 40 ∧ (∀ c ∈ S.cs, crg c) ∧ S.ls.length ≤ 201 ∧ (∀ l ∈ S.ls, l.length ≤ 200) ∧ (-20 ≤ S.t ∧ S.t ≤ 20) ∧ (S.m = 0 ∨ S.m = 1) ∧ (-6 ≤ sgn S.t S.m ∧ sgn S.t S.m ≤ 6)
def stR (σ : zSt) : Prop := (σ.si = 0 ∨ σ.si = 1) ∧ (σ.fl = 0 ∨ σ.fl = 1) ∧ (10 ≤ σ.wd ∧ σ.wd ≤ 200) ∧ σ.tx.length ≤ 200 ∧ (∀ c ∈ σ.tx, 32 ≤ c ∧ c ≤ 126) ∧ shR σ.sh ∧ (∀ S ∈ σ.hi, shR S) ∧ σ.hi.length ≤ 8
def shW (Γ : zCx) (h : zH) (x : zSA) (S : zSh) : Prop := ∃ (lq kq : Nat) (lys ys : List Nat), h x.s = some (true, .inr (1, [.ref lq, .ref x.cq, .ref kq])) ∧ flAt h lq lys ∧ sls h lys S.ls ∧ lAt Γ h x.cq x.e ys x.cap ∧ ycs h ys S.cs ∧ h kq = some (false, .inr (2, [.int (iI S.t), .int (iI S.m)]))
def fpS (x : zSA) : List Nat := x.s :: x.cq :: if x.cap = 0 then [] else [x.e]
def fpW (c : Nat) (A : zWA) : List Nat := c :: A.tx :: A.dq :: A.de :: (A.cu :: A.hs).flatMap fpS
def hiW (Γ : zCx) (h : zH) (xs : List zSA) (Ss : List zSh) : Prop := ∃ ps : List (zSA × zSh), xs = ps.map (·.1) ∧ Ss = ps.map (·.2) ∧ ∀ p ∈ ps, shW Γ h p.1 p.2
def csW (Γ : zCx) (h : zH) (c : Nat) (A : zWA) (σ : zSt) : Prop :=
  (∃ f : Nat → Value, h c = some (true, .inr (0, [.ref A.tx, .int (iI ((σ.tx.length : Nat) : Int)), .int (iI σ.si), .int (iI σ.fl), .int (iI σ.wd), .ref A.cu.s, .ref A.dq])) ∧ h A.tx = some (true, .inl (.char, 200, f)) ∧ ∀ (j : Nat) (d : Int), σ.tx[j]? = some d → f j = .int (iI d)) ∧
  dAt h A.dq A.de (A.hs.map (·.s)) ∧ shW Γ h A.cu σ.sh ∧ hiW Γ h A.hs σ.hi ∧ (fpW c A).Nodup ∧ stR σ
theorem shW.keep {Γ : zCx} {h h' : zH} {x : zSA} {S : zSh} {T : List Nat} (k : zkeep h h' T) (hx : shW Γ h x S) (hT : ∀ q ∈ fpS x, q ∉ T) : shW Γ h' x S := by
  obtain ⟨lq, kq, lys, ys, h1, h2, h3, h4, h5, h6⟩ := hx
  refine ⟨lq, kq, lys, ys, k.n h1 (hT _ (by simp [fpS])), h2.keep k, h3.keep k, h4.keep k (hT _ (by simp [fpS])) ?_, h5.keep k, k.f h6⟩
  by_cases hc : x.cap = 0
  · exact Or.inl hc
  · exact Or.inr (hT _ (by simp [fpS, hc]))
theorem hiW.keep {Γ : zCx} {h h' : zH} {xs : List zSA} {Ss : List zSh} {T : List Nat} (k : zkeep h h' T) (hx : hiW Γ h xs Ss) (hT : ∀ x ∈ xs, ∀ q ∈ fpS x, q ∉ T) : hiW Γ h' xs Ss := by
  obtain ⟨ps, rfl, rfl, h3⟩ := hx
  exact ⟨ps, rfl, rfl, fun p hp => (h3 p hp).keep k (hT _ (List.mem_map_of_mem hp))⟩
theorem fpW.apart {c : Nat} {A : zWA} (hnd : (fpW c A).Nodup) : ∀ x ∈ A.cu :: A.hs, ∀ q ∈ fpS x, q ≠ c ∧ q ≠ A.tx ∧ q ≠ A.dq ∧ q ≠ A.de := by
  intro x hx q hq
  have hm : q ∈ (A.cu :: A.hs).flatMap fpS := List.mem_flatMap.mpr ⟨x, hx, hq⟩
  unfold fpW at hnd
  simp only [List.nodup_cons, List.mem_cons, not_or] at hnd
  obtain ⟨⟨-, -, -, h1⟩, ⟨-, -, h2⟩, ⟨-, h3⟩, h4, -⟩ := hnd
  exact ⟨fun e => h1 (e ▸ hm), fun e => h2 (e ▸ hm), fun e => h3 (e ▸ hm), fun e => h4 (e ▸ hm)⟩
/-- a new text, new flags -/
theorem csW.upC {Γ : zCx} {h h1 : zH} {c : Nat} {A : zWA} {σ : zSt} {τ : zSt} {f : Nat → Value} {n : Int} (hW : csW Γ h c A σ) (k : zkeep h h1 [c, A.tx]) (hn : n = ((τ.tx.length : Nat) : Int)) (hc : h1 c = some (true, .inr (0, [.ref A.tx, .int (iI n), .int (iI τ.si), .int (iI τ.fl), .int (iI τ.wd), .ref A.cu.s, .ref A.dq]))) (ht : h1 A.tx = some (true, .inl (.char, 200, f))) (hf : ∀ (j : Nat) (d : Int), τ.tx[j]? = some d → f j = .int (iI d)) (hs : τ.sh = σ.sh) (hh : τ.hi = σ.hi) (hR : stR τ) : csW Γ h1 c A τ := by
  subst hn
  obtain ⟨-, h2, h3, h4, h5, -⟩ := hW
  have ha := fpW.apart h5
  have hn : A.dq ∉ [c, A.tx] ∧ A.de ∉ [c, A.tx] := by
    have h6 := h5
    unfold fpW at h6
    simp only [List.nodup_cons, List.mem_cons, not_or] at h6
    obtain ⟨⟨-, g1, g2, -⟩, ⟨g3, g4, -⟩, -⟩ := h6
    exact ⟨by simp only [List.mem_cons, List.not_mem_nil, or_false, not_or]; exact ⟨Ne.symm g1, Ne.symm g3⟩, by simp only [List.mem_cons, List.not_mem_nil, or_false, not_or]; exact ⟨Ne.symm g2, Ne.symm g4⟩⟩
  have hf2 : ∀ x ∈ A.cu :: A.hs, ∀ q ∈ fpS x, q ∉ [c, A.tx] := fun x hx q hq => by
    have := ha x hx q hq
    simp only [List.mem_cons, List.not_mem_nil, or_false, not_or]
    exact ⟨this.1, this.2.1⟩
  exact ⟨⟨f, hc, ht, hf⟩, h2.keep k hn.1 hn.2, by rw [hs]; exact h3.keep k (hf2 _ List.mem_cons_self), by rw [hh]; exact h4.keep k fun x hx => hf2 x (List.mem_cons_of_mem _ hx), h5, hR⟩
theorem csW.keep0 {Γ : zCx} {h h1 : zH} {c : Nat} {A : zWA} {σ : zSt} (hW : csW Γ h c A σ) (k : zkeep h h1 []) : csW Γ h1 c A σ := by
  obtain ⟨⟨f, g1, g2, g3⟩, h2, h3, h4, h5, h6⟩ := hW
  exact ⟨⟨f, k.n g1 List.not_mem_nil, k.n g2 List.not_mem_nil, g3⟩, h2.keep k List.not_mem_nil List.not_mem_nil, h3.keep k fun _ _ => List.not_mem_nil, h4.keep k fun _ _ _ _ => List.not_mem_nil, h5, h6⟩
theorem rtl_len {l : List Int} {b : Int} : ((l.length : Nat) : Int) + 1 = (((l ++ [b]).length : Nat) : Int) := by simp
theorem rtl_app {l : List Int} {b : Int} (h : l.length < 200) : (l ++ [b]).length ≤ 200 := by simp; omega
theorem rtx_app {l : List Int} {b : Int} (h : ∀ c ∈ l, 32 ≤ c ∧ c ≤ 126) (hb : 32 ≤ b ∧ b ≤ 126) : ∀ c ∈ l ++ [b], 32 ≤ c ∧ c ≤ 126 := fun c hc => (List.mem_append.mp hc).elim (h c) (fun e => by rw [List.mem_singleton.mp e]; exact hb)
set_option maxHeartbeats 4000000 in
theorem op_lines {l : Launch} (hl : l.stackTraces = false) {Γ : zCx} {h : zH} {c : Nat} {A : zWA} {σ : zSt} (hW : csW Γ h c A σ)  : zMet l yX1_lines (ws_ yX1_lines cX1_lines 1 (some .int)) ({ frames := 1, cells := 0, slots := 0, locals := 20 }) Γ h [.ref c] (zpure h (some (.int (iI ((σ.sh.ls.length : Nat)))))) 0 0 := by
  refine zMet.of (cc := cX1_lines) hl (plainFor_of_name (by decide +kernel)) (Nat.le_of_ble_eq_true rfl) ?_
  intro X hXl hXΓ hXp C hnm hnL
  have C : zC X cX1_lines RX1 (some .int) 1 20 [] := C
  have hnL : X.2.1.2.2.2.2 = 1 := hnL
  subst hXl hXΓ
  show Z X h 0 0 [(0, .ref c)] 0 []
  obtain ⟨⟨tf, hc0, htx, hch⟩, hdq, ⟨lq, kq, lys, ys, hsx, hfl, hls, hl0, hyc, hkx⟩, hhi, hnd, hR⟩ := id hW
  obtain ⟨rsi, rff, rwd, rtl, rtx, rsh, rhi, rhl⟩ := id hR
  obtain ⟨rcl, rcr, rll, rlt, rkt, rkm, rks⟩ := rsh
  have hll := hls.len
  have hyl := hyc.len
  obtain ⟨lm, le0, ln0, lf, hlq, hle, hln, hlN, hlx⟩ := id hfl
  have hxw := hl0
  obtain ⟨mw, fw, law, lew, lzw, ltw, lnw, lcw, lxw, lqw⟩ := hxw
  have hcl := hyc.cl lxw
  refine z_aload_n (pc := 0) (j := 0) C dX1_lines_0 rfl rfl ?_
  refine z_getfield (pc := 1) (v := .ref A.cu.s) C in_X1 rfl 5 (by decide) q282 (fun _ z => z) hc0 rfl dX1_lines_1 ?_
  refine z_getfieldN (pc := 4) (v := .ref lq) C in_X2 rfl 0 (by decide) q167 (fun _ z => z) hsx rfl dX1_lines_4 ?_
  refine z_callV (pc := 7) (n := 0) (kc' := 0) (ks' := 0) C (ct_L_size C.t hlq) (lw_V q995 q367 q368 q68 q369) (by decide +kernel) ⟨by decide, by decide⟩ hlq rfl rfl rfl (Nat.le_of_ble_eq_true rfl) dX1_lines_7 (by omega) (by omega) (zpk (st' := [.int (iI ((lys.length : Nat) : Int))]) rfl ?_) zrx
  exact z_ireturn (pc := 10) C (by rw [hXp]; exact zpure_i (by omega) rfl) dX1_lines_10
set_option maxHeartbeats 4000000 in
theorem op_chords {l : Launch} (hl : l.stackTraces = false) {Γ : zCx} {h : zH} {c : Nat} {A : zWA} {σ : zSt} (hW : csW Γ h c A σ)  : zMet l yX1_chords (ws_ yX1_chords cX1_chords 1 (some .int)) ({ frames := 1, cells := 0, slots := 0, locals := 20 }) Γ h [.ref c] (zpure h (some (.int (iI ((σ.sh.cs.length : Nat)))))) 0 0 := by
  refine zMet.of (cc := cX1_chords) hl (plainFor_of_name (by decide +kernel)) (Nat.le_of_ble_eq_true rfl) ?_
  intro X hXl hXΓ hXp C hnm hnL
  have C : zC X cX1_chords RX1 (some .int) 1 20 [] := C
  have hnL : X.2.1.2.2.2.2 = 1 := hnL
  subst hXl hXΓ
  show Z X h 0 0 [(0, .ref c)] 0 []
  obtain ⟨⟨tf, hc0, htx, hch⟩, hdq, ⟨lq, kq, lys, ys, hsx, hfl, hls, hl0, hyc, hkx⟩, hhi, hnd, hR⟩ := id hW
  obtain ⟨rsi, rff, rwd, rtl, rtx, rsh, rhi, rhl⟩ := id hR
  obtain ⟨rcl, rcr, rll, rlt, rkt, rkm, rks⟩ := rsh
  have hll := hls.len
  have hyl := hyc.len
  obtain ⟨lm, le0, ln0, lf, hlq, hle, hln, hlN, hlx⟩ := id hfl
  have hxw := hl0
  obtain ⟨mw, fw, law, lew, lzw, ltw, lnw, lcw, lxw, lqw⟩ := hxw
  have hcl := hyc.cl lxw
  refine z_aload_n (pc := 0) (j := 0) C dX1_chords_0 rfl rfl ?_
  refine z_getfield (pc := 1) (v := .ref A.cu.s) C in_X1 rfl 5 (by decide) q282 (fun _ z => z) hc0 rfl dX1_chords_1 ?_
  refine z_getfieldN (pc := 4) (v := .ref A.cu.cq) C in_X2 rfl 1 (by decide) q172 (fun _ z => z) hsx rfl dX1_chords_4 ?_
  refine z_callV (pc := 7) (n := 0) (kc' := 0) (ks' := 0) C (ct_L_size C.t law) (lw_V q995 q367 q368 q68 q369) (by decide +kernel) ⟨by decide, by decide⟩ law rfl rfl rfl (Nat.le_of_ble_eq_true rfl) dX1_chords_7 (by omega) (by omega) (zpk (st' := [.int (iI ((ys.length : Nat) : Int))]) rfl ?_) zrx
  exact z_ireturn (pc := 10) C (by rw [hXp]; exact zpure_i (by omega) rfl) dX1_chords_10
set_option maxHeartbeats 4000000 in
theorem op_tonic {l : Launch} (hl : l.stackTraces = false) {Γ : zCx} {h : zH} {c : Nat} {A : zWA} {σ : zSt} (hW : csW Γ h c A σ)  : zMet l yX1_tonic (ws_ yX1_tonic cX1_tonic 1 (some .int)) ({ frames := 0, cells := 0, slots := 0, locals := 0 }) Γ h [.ref c] (zpure h (some (.int (iI (σ.sh.t))))) 0 0 := by
  refine zMet.of (cc := cX1_tonic) hl (plainFor_of_name (by decide +kernel)) (Nat.le_of_ble_eq_true rfl) ?_
  intro X hXl hXΓ hXp C hnm hnL
  have C : zC X cX1_tonic RX1 (some .int) 0 0 [] := C
  have hnL : X.2.1.2.2.2.2 = 1 := hnL
  subst hXl hXΓ
  show Z X h 0 0 [(0, .ref c)] 0 []
  obtain ⟨⟨tf, hc0, htx, hch⟩, hdq, ⟨lq, kq, lys, ys, hsx, hfl, hls, hl0, hyc, hkx⟩, hhi, hnd, hR⟩ := id hW
  obtain ⟨rsi, rff, rwd, rtl, rtx, rsh, rhi, rhl⟩ := id hR
  obtain ⟨rcl, rcr, rll, rlt, rkt, rkm, rks⟩ := rsh
  have hll := hls.len
  have hyl := hyc.len
  obtain ⟨lm, le0, ln0, lf, hlq, hle, hln, hlN, hlx⟩ := id hfl
  have hxw := hl0
  obtain ⟨mw, fw, law, lew, lzw, ltw, lnw, lcw, lxw, lqw⟩ := hxw
  have hcl := hyc.cl lxw
  refine z_aload_n (pc := 0) (j := 0) C dX1_tonic_0 rfl rfl ?_
  refine z_getfield (pc := 1) (v := .ref A.cu.s) C in_X1 rfl 5 (by decide) q282 (fun _ z => z) hc0 rfl dX1_tonic_1 ?_
  refine z_getfieldN (pc := 4) (v := .ref kq) C in_X2 rfl 2 (by decide) q175 (fun _ z => z) hsx rfl dX1_tonic_4 ?_
  refine z_getfieldN (pc := 7) (v := .int (iI σ.sh.t)) C in_X3 rfl 0 (by decide) q125 (fun _ z => z) hkx rfl dX1_tonic_7 ?_
  exact z_ireturn (pc := 10) C (by rw [hXp]; exact zpure_i (by omega) rfl) dX1_tonic_10
set_option maxHeartbeats 4000000 in
theorem op_isMinor {l : Launch} (hl : l.stackTraces = false) {Γ : zCx} {h : zH} {c : Nat} {A : zWA} {σ : zSt} (hW : csW Γ h c A σ)  : zMet l yX1_isMinor (ws_ yX1_isMinor cX1_isMinor 1 (some .boolean)) ({ frames := 0, cells := 0, slots := 0, locals := 0 }) Γ h [.ref c] (zpure h (some (.int (iI (σ.sh.m))))) 0 0 := by
  refine zMet.of (cc := cX1_isMinor) hl (plainFor_of_name (by decide +kernel)) (Nat.le_of_ble_eq_true rfl) ?_
  intro X hXl hXΓ hXp C hnm hnL
  have C : zC X cX1_isMinor RX1 (some .boolean) 0 0 [] := C
  have hnL : X.2.1.2.2.2.2 = 1 := hnL
  subst hXl hXΓ
  show Z X h 0 0 [(0, .ref c)] 0 []
  obtain ⟨⟨tf, hc0, htx, hch⟩, hdq, ⟨lq, kq, lys, ys, hsx, hfl, hls, hl0, hyc, hkx⟩, hhi, hnd, hR⟩ := id hW
  obtain ⟨rsi, rff, rwd, rtl, rtx, rsh, rhi, rhl⟩ := id hR
  obtain ⟨rcl, rcr, rll, rlt, rkt, rkm, rks⟩ := rsh
  have hll := hls.len
  have hyl := hyc.len
  obtain ⟨lm, le0, ln0, lf, hlq, hle, hln, hlN, hlx⟩ := id hfl
  have hxw := hl0
  obtain ⟨mw, fw, law, lew, lzw, ltw, lnw, lcw, lxw, lqw⟩ := hxw
  have hcl := hyc.cl lxw
  refine z_aload_n (pc := 0) (j := 0) C dX1_isMinor_0 rfl rfl ?_
  refine z_getfield (pc := 1) (v := .ref A.cu.s) C in_X1 rfl 5 (by decide) q282 (fun _ z => z) hc0 rfl dX1_isMinor_1 ?_
  refine z_getfieldN (pc := 4) (v := .ref kq) C in_X2 rfl 2 (by decide) q175 (fun _ z => z) hsx rfl dX1_isMinor_4 ?_
  refine z_getfieldN (pc := 7) (v := .int (iI σ.sh.m)) C in_X3 rfl 1 (by decide) q128 (fun _ z => z) hkx rfl dX1_isMinor_7 ?_
  exact z_zreturn (pc := 10) C (i_nz (by omega) (by omega)) (by rw [hXp]; exact zpure_i (by omega) rfl) dX1_isMinor_10
set_option maxHeartbeats 4000000 in
theorem op_signature {l : Launch} (hl : l.stackTraces = false) {Γ : zCx} {h : zH} {c : Nat} {A : zWA} {σ : zSt} (hW : csW Γ h c A σ)  : zMet l yX1_signature (ws_ yX1_signature cX1_signature 1 (some .int)) ({ frames := 1, cells := 0, slots := 0, locals := 20 }) Γ h [.ref c] (zpure h (some (.int (iI (sgn σ.sh.t σ.sh.m))))) 0 0 := by
  refine zMet.of (cc := cX1_signature) hl (plainFor_of_name (by decide +kernel)) (Nat.le_of_ble_eq_true rfl) ?_
  intro X hXl hXΓ hXp C hnm hnL
  have C : zC X cX1_signature RX1 (some .int) 1 20 [] := C
  have hnL : X.2.1.2.2.2.2 = 1 := hnL
  subst hXl hXΓ
  show Z X h 0 0 [(0, .ref c)] 0 []
  obtain ⟨⟨tf, hc0, htx, hch⟩, hdq, ⟨lq, kq, lys, ys, hsx, hfl, hls, hl0, hyc, hkx⟩, hhi, hnd, hR⟩ := id hW
  obtain ⟨rsi, rff, rwd, rtl, rtx, rsh, rhi, rhl⟩ := id hR
  obtain ⟨rcl, rcr, rll, rlt, rkt, rkm, rks⟩ := rsh
  have hll := hls.len
  have hyl := hyc.len
  obtain ⟨lm, le0, ln0, lf, hlq, hle, hln, hlN, hlx⟩ := id hfl
  have hxw := hl0
  obtain ⟨mw, fw, law, lew, lzw, ltw, lnw, lcw, lxw, lqw⟩ := hxw
  have hcl := hyc.cl lxw
  refine z_aload_n (pc := 0) (j := 0) C dX1_signature_0 rfl rfl ?_
  refine z_getfield (pc := 1) (v := .ref A.cu.s) C in_X1 rfl 5 (by decide) q282 (fun _ z => z) hc0 rfl dX1_signature_1 ?_
  refine z_getfieldN (pc := 4) (v := .ref kq) C in_X2 rfl 2 (by decide) q175 (fun _ z => z) hsx rfl dX1_signature_4 ?_
  refine z_callV (pc := 7) (n := 0) (kc' := 0) (ks' := 0) C (ct_K_sig C.t (t := σ.sh.t) (m := σ.sh.m) hkx (by omega) (by omega)) (lw_V q1024 q921 q922 q65 q923) (by decide +kernel) ⟨by decide, by decide⟩ hkx rfl rfl rfl (Nat.le_of_ble_eq_true rfl) dX1_signature_7 (by omega) (by omega) (zpk (st' := [.int (iI (sgn σ.sh.t σ.sh.m))]) rfl ?_) zrx
  exact z_ireturn (pc := 10) C (by rw [hXp]; exact zpure_i (by omega) rfl) dX1_signature_10
set_option maxHeartbeats 4000000 in
theorem op_line {l : Launch} (hl : l.stackTraces = false) {Γ : zCx} {h : zH} {c : Nat} {A : zWA} {σ : zSt} (hW : csW Γ h c A σ) {i : Int} {t : List Int} (hi : 0 ≤ i) (ht : σ.sh.ls[i.toNat]? = some t)  : zMet l yX1_line (ws_ yX1_line cX1_line 2 (some (.object "java/lang/String"))) ({ frames := 3, cells := 0, slots := 0, locals := 64 }) Γ h [.ref c, .int (iI i)] (zrt (fun w h' => ∃ q, w = some (.ref q) ∧ sAt h q t ∧ h' = h)) 0 0 := by
  refine zMet.of (cc := cX1_line) hl (plainFor_of_name (by decide +kernel)) (Nat.le_of_ble_eq_true rfl) ?_
  intro X hXl hXΓ hXp C hnm hnL
  have C : zC X cX1_line RX1 (some (.object "java/lang/String")) 3 64 [] := C
  have hnL : X.2.1.2.2.2.2 = 2 := hnL
  subst hXl hXΓ
  show Z X h 0 0 [(0, .ref c), (1, .int (iI i))] 0 []
  have hit := (List.getElem?_eq_some_iff.mp ht).1
  obtain ⟨⟨tf, hc0, htx, hch⟩, hdq, ⟨lq, kq, lys, ys, hsx, hfl, hls, hl0, hyc, hkx⟩, hhi, hnd, hR⟩ := id hW
  obtain ⟨rsi, rff, rwd, rtl, rtx, rsh, rhi, rhl⟩ := id hR
  obtain ⟨rcl, rcr, rll, rlt, rkt, rkm, rks⟩ := rsh
  have hll := hls.len
  have hyl := hyc.len
  obtain ⟨lm, le0, ln0, lf, hlq, hle, hln, hlN, hlx⟩ := id hfl
  have hxw := hl0
  obtain ⟨mw, fw, law, lew, lzw, ltw, lnw, lcw, lxw, lqw⟩ := hxw
  have hcl := hyc.cl lxw
  refine z_iload_n (pc := 0) (j := 1) C dX1_line_0 rfl rfl ?_
  refine z_aload_n (pc := 1) (j := 0) C dX1_line_1 rfl rfl ?_
  refine z_getfield (pc := 2) (v := .ref A.cu.s) C in_X1 rfl 5 (by decide) q282 (fun _ z => z) hc0 rfl dX1_line_2 ?_
  refine z_getfieldN (pc := 5) (v := .ref lq) C in_X2 rfl 0 (by decide) q167 (fun _ z => z) hsx rfl dX1_line_5 ?_
  refine z_callV (pc := 8) (n := 0) (kc' := 0) (ks' := 0) C (ct_L_size C.t hlq) (lw_V q995 q367 q368 q68 q369) (by decide +kernel) ⟨by decide, by decide⟩ hlq rfl rfl rfl (Nat.le_of_ble_eq_true rfl) dX1_line_8 (by omega) (by omega) (zpk (st' := [.int (iI ((lys.length : Nat) : Int)), .int (iI i)]) rfl ?_) zrx
  refine z_callS (pc := 11) (n := 2) (kc' := 0) (ks' := 0) C (ct_chkI C.t (i := i) (n := ((lys.length : Nat) : Int)) (by omega) (by omega)) (lw_S q1695 q1696 q63 q1697) (by decide +kernel) ⟨by decide, by decide⟩ rfl rfl (Nat.le_of_ble_eq_true rfl) dX1_line_11 (by omega) (by omega) (zpk (st' := []) rfl ?_) zrx
  refine z_aload_n (pc := 14) (j := 0) C dX1_line_14 rfl rfl ?_
  refine z_getfield (pc := 15) (v := .ref A.cu.s) C in_X1 rfl 5 (by decide) q282 (fun _ z => z) hc0 rfl dX1_line_15 ?_
  refine z_getfieldN (pc := 18) (v := .ref lq) C in_X2 rfl 0 (by decide) q167 (fun _ z => z) hsx rfl dX1_line_18 ?_
  refine z_iload_n (pc := 21) (j := 1) C dX1_line_21 rfl rfl ?_
  obtain ⟨lqq, hlqq, hsq⟩ := (hls).at ht
  obtain ⟨hl_1, v_1, x_1, y_1, g_1, h1_1, h2_1, h3_1, h4_1⟩ := id (hsq)
  have h1_1 : h (lqq) = some (false, .inr (13, [.ref v_1, .int (iI 0), .int x_1, .int y_1])) := h1_1
  refine z_callV (pc := 22) (n := 1) (kc' := 0) (ks' := 0) C (ct_L_get C.t hlq hle (i := i) (by omega) (by omega) (hlx _ _ hlqq)) (lw_V q1038 q904 q905 q68 q906) (by decide +kernel) ⟨by decide, by decide⟩ hlq rfl rfl rfl (Nat.le_of_ble_eq_true rfl) dX1_line_22 (by omega) (by omega) (zpk (st' := [.ref lqq]) rfl ?_) zrx
  refine z_castS (pc := 25) C q1633 rfl h1_1 dX1_line_25 ?_
  exact z_areturn (pc := 28) C (Or.inl ⟨_, rfl⟩) (Or.inr ⟨_, rfl⟩) (by rw [hXp]; exact ⟨_, rfl, lqq, rfl, hsq, rfl⟩) dX1_line_28
set_option maxHeartbeats 4000000 in
theorem op_line_b {l : Launch} (hl : l.stackTraces = false) {Γ : zCx} {h : zH} {c : Nat} {A : zWA} {σ : zSt} (hW : csW Γ h c A σ) {i : Int} (hi : -2147483648 ≤ i ∧ i ≤ 2147483647) (hb : ¬ (0 ≤ i ∧ i < (σ.sh.ls.length : Nat)))  : zMet l yX1_line (ws_ yX1_line cX1_line 2 (some (.object "java/lang/String"))) ({ frames := 7, cells := 1, slots := 6, locals := 102 }) Γ h [.ref c, .int (iI i)] (zthp h "java/lang/IndexOutOfBoundsException") 1 6 := by
  refine zMet.of (cc := cX1_line) hl (plainFor_of_name (by decide +kernel)) (Nat.le_of_ble_eq_true rfl) ?_
  intro X hXl hXΓ hXp C hnm hnL
  have C : zC X cX1_line RX1 (some (.object "java/lang/String")) 7 102 [] := C
  have hnL : X.2.1.2.2.2.2 = 2 := hnL
  subst hXl hXΓ
  show Z X h 1 6 [(0, .ref c), (1, .int (iI i))] 0 []
  obtain ⟨⟨tf, hc0, htx, hch⟩, hdq, ⟨lq, kq, lys, ys, hsx, hfl, hls, hl0, hyc, hkx⟩, hhi, hnd, hR⟩ := id hW
  obtain ⟨rsi, rff, rwd, rtl, rtx, rsh, rhi, rhl⟩ := id hR
  obtain ⟨rcl, rcr, rll, rlt, rkt, rkm, rks⟩ := rsh
  have hll := hls.len
  have hyl := hyc.len
  obtain ⟨lm, le0, ln0, lf, hlq, hle, hln, hlN, hlx⟩ := id hfl
  have hxw := hl0
  obtain ⟨mw, fw, law, lew, lzw, ltw, lnw, lcw, lxw, lqw⟩ := hxw
  have hcl := hyc.cl lxw
  refine z_iload_n (pc := 0) (j := 1) C dX1_line_0 rfl rfl ?_
  refine z_aload_n (pc := 1) (j := 0) C dX1_line_1 rfl rfl ?_
  refine z_getfield (pc := 2) (v := .ref A.cu.s) C in_X1 rfl 5 (by decide) q282 (fun _ z => z) hc0 rfl dX1_line_2 ?_
  refine z_getfieldN (pc := 5) (v := .ref lq) C in_X2 rfl 0 (by decide) q167 (fun _ z => z) hsx rfl dX1_line_5 ?_
  refine z_callV (pc := 8) (n := 0) (kc' := 1) (ks' := 6) C (ct_L_size C.t hlq) (lw_V q995 q367 q368 q68 q369) (by decide +kernel) ⟨by decide, by decide⟩ hlq rfl rfl rfl (Nat.le_of_ble_eq_true rfl) dX1_line_8 (by omega) (by omega) (zpk (st' := [.int (iI ((lys.length : Nat) : Int)), .int (iI i)]) rfl ?_) zrx
  refine z_callS (pc := 11) (n := 2) (kc' := 0) (ks' := 0) C (ct_chkIb C.t (i := i) (n := ((lys.length : Nat) : Int)) (by omega) (by omega)) (lw_S q1695 q1696 q63 q1697) (by decide +kernel) ⟨by decide, by decide⟩ rfl rfl (Nat.le_of_ble_eq_true rfl) dX1_line_11 (by omega) (by omega) zthk (zthx fun q2 h1 hp => ?_)
  rw [hp]
  exact zx_out C (fun x hx => nomatch hx) (by rw [hXp]; exact ⟨_, rfl, rfl⟩)
set_option maxHeartbeats 4000000 in
theorem op_lyrics {l : Launch} (hl : l.stackTraces = false) {Γ : zCx} {h : zH} {c : Nat} {A : zWA} {σ : zSt} (hW : csW Γ h c A σ) {i : Int} {t : List Int} (hi : 0 ≤ i) (ht : σ.sh.ls[i.toNat]? = some t)  : zMet l yX1_lyrics (ws_ yX1_lyrics cX1_lyrics 2 (some .int)) ({ frames := 4, cells := 0, slots := 0, locals := 85 }) Γ h [.ref c, .int (iI i)] (zpure h (some (.int (iI (t.length : Nat))))) 0 0 := by
  refine zMet.of (cc := cX1_lyrics) hl (plainFor_of_name (by decide +kernel)) (Nat.le_of_ble_eq_true rfl) ?_
  intro X hXl hXΓ hXp C hnm hnL
  have C : zC X cX1_lyrics RX1 (some .int) 4 85 [] := C
  have hnL : X.2.1.2.2.2.2 = 2 := hnL
  subst hXl hXΓ
  show Z X h 0 0 [(0, .ref c), (1, .int (iI i))] 0 []
  obtain ⟨⟨tf, hc0, htx, hch⟩, hdq, ⟨lq, kq, lys, ys, hsx, hfl, hls, hl0, hyc, hkx⟩, hhi, hnd, hR⟩ := id hW
  obtain ⟨rsi, rff, rwd, rtl, rtx, rsh, rhi, rhl⟩ := id hR
  obtain ⟨rcl, rcr, rll, rlt, rkt, rkm, rks⟩ := rsh
  have hll := hls.len
  have hyl := hyc.len
  obtain ⟨lm, le0, ln0, lf, hlq, hle, hln, hlN, hlx⟩ := id hfl
  have hxw := hl0
  obtain ⟨mw, fw, law, lew, lzw, ltw, lnw, lcw, lxw, lqw⟩ := hxw
  have hcl := hyc.cl lxw
  refine z_aload_n (pc := 0) (j := 0) C dX1_lyrics_0 rfl rfl ?_
  refine z_iload_n (pc := 1) (j := 1) C dX1_lyrics_1 rfl rfl ?_
  refine z_callV (pc := 2) (n := 1) (kc' := 0) (ks' := 0) C (op_line C.t hW (i := i) (by omega) ht) (lw_V q1691 q1693 qs15 q63 q1694) (by decide +kernel) ⟨by decide, by decide⟩ hc0 rfl rfl rfl (Nat.le_of_ble_eq_true rfl) dX1_lyrics_2 (by omega) (by omega) (zrk fun w h2 hp => ?_) zrx
  obtain ⟨q1, rfl, hs3, eh2⟩ := hp
  rw [eh2]
  show Z X h 0 0 [(0, .ref c), (1, .int (iI i))] 5 [.ref q1]
  obtain ⟨hl_4, v_4, x_4, y_4, g_4, h1_4, h2_4, h3_4, h4_4⟩ := id (hs3)
  have h1_4 : h (q1) = some (false, .inr (13, [.ref v_4, .int (iI 0), .int x_4, .int y_4])) := h1_4
  refine z_callV (pc := 5) (n := 0) (kc' := 0) (ks' := 0) C (ct_S_length C.t hs3) (lw_V q1053 q468 q469 q83 q470) (by decide +kernel) ⟨by decide, by decide⟩ h1_4 rfl rfl rfl (Nat.le_of_ble_eq_true rfl) dX1_lyrics_5 (by omega) (by omega) (zpk (st' := [.int (iI ((t.length : Nat) : Int))]) rfl ?_) zrx
  exact z_ireturn (pc := 8) C (by rw [hXp]; exact zpure_i rfl rfl) dX1_lyrics_8
set_option maxHeartbeats 4000000 in
theorem op_lyrics_b {l : Launch} (hl : l.stackTraces = false) {Γ : zCx} {h : zH} {c : Nat} {A : zWA} {σ : zSt} (hW : csW Γ h c A σ) {i : Int} (hi : -2147483648 ≤ i ∧ i ≤ 2147483647) (hb : ¬ (0 ≤ i ∧ i < (σ.sh.ls.length : Nat)))  : zMet l yX1_lyrics (ws_ yX1_lyrics cX1_lyrics 2 (some .int)) ({ frames := 8, cells := 1, slots := 6, locals := 123 }) Γ h [.ref c, .int (iI i)] (zthp h "java/lang/IndexOutOfBoundsException") 1 6 := by
  refine zMet.of (cc := cX1_lyrics) hl (plainFor_of_name (by decide +kernel)) (Nat.le_of_ble_eq_true rfl) ?_
  intro X hXl hXΓ hXp C hnm hnL
  have C : zC X cX1_lyrics RX1 (some .int) 8 123 [] := C
  have hnL : X.2.1.2.2.2.2 = 2 := hnL
  subst hXl hXΓ
  show Z X h 1 6 [(0, .ref c), (1, .int (iI i))] 0 []
  obtain ⟨⟨tf, hc0, htx, hch⟩, hdq, ⟨lq, kq, lys, ys, hsx, hfl, hls, hl0, hyc, hkx⟩, hhi, hnd, hR⟩ := id hW
  obtain ⟨rsi, rff, rwd, rtl, rtx, rsh, rhi, rhl⟩ := id hR
  obtain ⟨rcl, rcr, rll, rlt, rkt, rkm, rks⟩ := rsh
  have hll := hls.len
  have hyl := hyc.len
  obtain ⟨lm, le0, ln0, lf, hlq, hle, hln, hlN, hlx⟩ := id hfl
  have hxw := hl0
  obtain ⟨mw, fw, law, lew, lzw, ltw, lnw, lcw, lxw, lqw⟩ := hxw
  have hcl := hyc.cl lxw
  refine z_aload_n (pc := 0) (j := 0) C dX1_lyrics_0 rfl rfl ?_
  refine z_iload_n (pc := 1) (j := 1) C dX1_lyrics_1 rfl rfl ?_
  refine z_callV (pc := 2) (n := 1) (kc' := 0) (ks' := 0) C (op_line_b C.t hW (i := i) (by omega) (by omega)) (lw_V q1691 q1693 qs15 q63 q1694) (by decide +kernel) ⟨by decide, by decide⟩ hc0 rfl rfl rfl (Nat.le_of_ble_eq_true rfl) dX1_lyrics_2 (by omega) (by omega) zthk (zthx fun q2 h1 hp => ?_)
  rw [hp]
  exact zx_out C (fun x hx => nomatch hx) (by rw [hXp]; exact ⟨_, rfl, rfl⟩)
set_option maxHeartbeats 4000000 in
theorem op_lyric {l : Launch} (hl : l.stackTraces = false) {Γ : zCx} {h : zH} {c : Nat} {A : zWA} {σ : zSt} (hW : csW Γ h c A σ) {i : Int} {t : List Int} (hi : 0 ≤ i) (ht : σ.sh.ls[i.toNat]? = some t) {k d : Int} (hk : 0 ≤ k) (hd : t[k.toNat]? = some d)  : zMet l yX1_lyric (ws_ yX1_lyric cX1_lyric 4 (some .int)) ({ frames := 4, cells := 0, slots := 0, locals := 85 }) Γ h [.ref c, .int (iI i), .int (iI k)] (zpure h (some (.int (iI d)))) 0 0 := by
  refine zMet.of (cc := cX1_lyric) hl (plainFor_of_name (by decide +kernel)) (Nat.le_of_ble_eq_true rfl) ?_
  intro X hXl hXΓ hXp C hnm hnL
  have C : zC X cX1_lyric RX1 (some .int) 4 85 [] := C
  have hnL : X.2.1.2.2.2.2 = 4 := hnL
  subst hXl hXΓ
  show Z X h 0 0 [(0, .ref c), (1, .int (iI i)), (2, .int (iI k))] 0 []
  obtain ⟨⟨tf, hc0, htx, hch⟩, hdq, ⟨lq, kq, lys, ys, hsx, hfl, hls, hl0, hyc, hkx⟩, hhi, hnd, hR⟩ := id hW
  obtain ⟨rsi, rff, rwd, rtl, rtx, rsh, rhi, rhl⟩ := id hR
  obtain ⟨rcl, rcr, rll, rlt, rkt, rkm, rks⟩ := rsh
  have hll := hls.len
  have hyl := hyc.len
  obtain ⟨lm, le0, ln0, lf, hlq, hle, hln, hlN, hlx⟩ := id hfl
  have hxw := hl0
  obtain ⟨mw, fw, law, lew, lzw, ltw, lnw, lcw, lxw, lqw⟩ := hxw
  have hcl := hyc.cl lxw
  have hit := (List.getElem?_eq_some_iff.mp ht).1
  have hkt := (List.getElem?_eq_some_iff.mp hd).1
  have htl := rlt _ (List.mem_of_getElem? ht)
  refine z_aload_n (pc := 0) (j := 0) C dX1_lyric_0 rfl rfl ?_
  refine z_iload_n (pc := 1) (j := 1) C dX1_lyric_1 rfl rfl ?_
  refine z_callV (pc := 2) (n := 1) (kc' := 0) (ks' := 0) C (op_line C.t hW (i := i) (by omega) ht) (lw_V q1691 q1693 qs15 q63 q1694) (by decide +kernel) ⟨by decide, by decide⟩ hc0 rfl rfl rfl (Nat.le_of_ble_eq_true rfl) dX1_lyric_2 (by omega) (by omega) (zrk fun w h2 hp => ?_) zrx
  obtain ⟨q1, rfl, hs3, eh2⟩ := hp
  rw [eh2]
  show Z X h 0 0 [(0, .ref c), (1, .int (iI i)), (2, .int (iI k))] 5 [.ref q1]
  refine z_astore_n (pc := 5) (L' := [(3, .ref q1), (0, .ref c), (1, .int (iI i)), (2, .int (iI k))]) C dX1_lyric_5 rfl (by rw [hnL]; decide) rfl ?_
  refine z_iload_n (pc := 6) (j := 3) C dX1_lyric_6 rfl rfl ?_
  refine z_aload_n (pc := 7) (j := 0) C dX1_lyric_7 rfl rfl ?_
  obtain ⟨hl_4, v_4, x_4, y_4, g_4, h1_4, h2_4, h3_4, h4_4⟩ := id (hs3)
  have h1_4 : h (q1) = some (false, .inr (13, [.ref v_4, .int (iI 0), .int x_4, .int y_4])) := h1_4
  refine z_callV (pc := 8) (n := 0) (kc' := 0) (ks' := 0) C (ct_S_length C.t hs3) (lw_V q1053 q468 q469 q83 q470) (by decide +kernel) ⟨by decide, by decide⟩ h1_4 rfl rfl rfl (Nat.le_of_ble_eq_true rfl) dX1_lyric_8 (by omega) (by omega) (zpk (st' := [.int (iI ((t.length : Nat) : Int)), .int (iI k)]) rfl ?_) zrx
  refine z_callS (pc := 11) (n := 2) (kc' := 0) (ks' := 0) C (ct_chkI C.t (i := k) (n := ((t.length : Nat) : Int)) (by omega) (by omega)) (lw_S q1695 q1696 q63 q1697) (by decide +kernel) ⟨by decide, by decide⟩ rfl rfl (Nat.le_of_ble_eq_true rfl) dX1_lyric_11 (by omega) (by omega) (zpk (st' := []) rfl ?_) zrx
  refine z_aload_n (pc := 14) (j := 0) C dX1_lyric_14 rfl rfl ?_
  refine z_iload_n (pc := 15) (j := 3) C dX1_lyric_15 rfl rfl ?_
  refine z_callV (pc := 16) (n := 1) (kc' := 0) (ks' := 0) C (ct_S_charAt C.t hs3 (i := k) (c := d) hk hd) (lw_V q1635 q561 q562 q83 q563) (by decide +kernel) ⟨by decide, by decide⟩ h1_4 rfl rfl rfl (Nat.le_of_ble_eq_true rfl) dX1_lyric_16 (by omega) (by omega) (zpk (st' := [.int (iI d)]) rfl ?_) zrx
  exact z_ireturn (pc := 19) C (by rw [hXp]; exact zpure_i rfl rfl) dX1_lyric_19
set_option maxHeartbeats 4000000 in
theorem op_lyric_b1 {l : Launch} (hl : l.stackTraces = false) {Γ : zCx} {h : zH} {c : Nat} {A : zWA} {σ : zSt} (hW : csW Γ h c A σ) {i : Int} (hi : -2147483648 ≤ i ∧ i ≤ 2147483647) (hb : ¬ (0 ≤ i ∧ i < (σ.sh.ls.length : Nat))) {k : Int}  : zMet l yX1_lyric (ws_ yX1_lyric cX1_lyric 4 (some .int)) ({ frames := 8, cells := 1, slots := 6, locals := 123 }) Γ h [.ref c, .int (iI i), .int (iI k)] (zthp h "java/lang/IndexOutOfBoundsException") 1 6 := by
  refine zMet.of (cc := cX1_lyric) hl (plainFor_of_name (by decide +kernel)) (Nat.le_of_ble_eq_true rfl) ?_
  intro X hXl hXΓ hXp C hnm hnL
  have C : zC X cX1_lyric RX1 (some .int) 8 123 [] := C
  have hnL : X.2.1.2.2.2.2 = 4 := hnL
  subst hXl hXΓ
  show Z X h 1 6 [(0, .ref c), (1, .int (iI i)), (2, .int (iI k))] 0 []
  obtain ⟨⟨tf, hc0, htx, hch⟩, hdq, ⟨lq, kq, lys, ys, hsx, hfl, hls, hl0, hyc, hkx⟩, hhi, hnd, hR⟩ := id hW
  obtain ⟨rsi, rff, rwd, rtl, rtx, rsh, rhi, rhl⟩ := id hR
  obtain ⟨rcl, rcr, rll, rlt, rkt, rkm, rks⟩ := rsh
  have hll := hls.len
  have hyl := hyc.len
  obtain ⟨lm, le0, ln0, lf, hlq, hle, hln, hlN, hlx⟩ := id hfl
  have hxw := hl0
  obtain ⟨mw, fw, law, lew, lzw, ltw, lnw, lcw, lxw, lqw⟩ := hxw
  have hcl := hyc.cl lxw
  refine z_aload_n (pc := 0) (j := 0) C dX1_lyric_0 rfl rfl ?_
  refine z_iload_n (pc := 1) (j := 1) C dX1_lyric_1 rfl rfl ?_
  refine z_callV (pc := 2) (n := 1) (kc' := 0) (ks' := 0) C (op_line_b C.t hW (i := i) (by omega) (by omega)) (lw_V q1691 q1693 qs15 q63 q1694) (by decide +kernel) ⟨by decide, by decide⟩ hc0 rfl rfl rfl (Nat.le_of_ble_eq_true rfl) dX1_lyric_2 (by omega) (by omega) zthk (zthx fun q2 h1 hp => ?_)
  rw [hp]
  exact zx_out C (fun x hx => nomatch hx) (by rw [hXp]; exact ⟨_, rfl, rfl⟩)
set_option maxHeartbeats 4000000 in
theorem op_lyric_b2 {l : Launch} (hl : l.stackTraces = false) {Γ : zCx} {h : zH} {c : Nat} {A : zWA} {σ : zSt} (hW : csW Γ h c A σ) {i : Int} {t : List Int} (hi : 0 ≤ i) (ht : σ.sh.ls[i.toNat]? = some t) {k : Int} (hk : -2147483648 ≤ k ∧ k ≤ 2147483647) (hb : ¬ (0 ≤ k ∧ k < (t.length : Nat)))  : zMet l yX1_lyric (ws_ yX1_lyric cX1_lyric 4 (some .int)) ({ frames := 7, cells := 1, slots := 6, locals := 102 }) Γ h [.ref c, .int (iI i), .int (iI k)] (zthp h "java/lang/IndexOutOfBoundsException") 1 6 := by
  refine zMet.of (cc := cX1_lyric) hl (plainFor_of_name (by decide +kernel)) (Nat.le_of_ble_eq_true rfl) ?_
  intro X hXl hXΓ hXp C hnm hnL
  have C : zC X cX1_lyric RX1 (some .int) 7 102 [] := C
  have hnL : X.2.1.2.2.2.2 = 4 := hnL
  subst hXl hXΓ
  show Z X h 1 6 [(0, .ref c), (1, .int (iI i)), (2, .int (iI k))] 0 []
  obtain ⟨⟨tf, hc0, htx, hch⟩, hdq, ⟨lq, kq, lys, ys, hsx, hfl, hls, hl0, hyc, hkx⟩, hhi, hnd, hR⟩ := id hW
  obtain ⟨rsi, rff, rwd, rtl, rtx, rsh, rhi, rhl⟩ := id hR
  obtain ⟨rcl, rcr, rll, rlt, rkt, rkm, rks⟩ := rsh
  have hll := hls.len
  have hyl := hyc.len
  obtain ⟨lm, le0, ln0, lf, hlq, hle, hln, hlN, hlx⟩ := id hfl
  have hxw := hl0
  obtain ⟨mw, fw, law, lew, lzw, ltw, lnw, lcw, lxw, lqw⟩ := hxw
  have hcl := hyc.cl lxw
  have htl := rlt _ (List.mem_of_getElem? ht)
  refine z_aload_n (pc := 0) (j := 0) C dX1_lyric_0 rfl rfl ?_
  refine z_iload_n (pc := 1) (j := 1) C dX1_lyric_1 rfl rfl ?_
  refine z_callV (pc := 2) (n := 1) (kc' := 1) (ks' := 6) C (op_line C.t hW (i := i) (by omega) ht) (lw_V q1691 q1693 qs15 q63 q1694) (by decide +kernel) ⟨by decide, by decide⟩ hc0 rfl rfl rfl (Nat.le_of_ble_eq_true rfl) dX1_lyric_2 (by omega) (by omega) (zrk fun w h2 hp => ?_) zrx
  obtain ⟨q1, rfl, hs3, eh2⟩ := hp
  rw [eh2]
  show Z X h 1 6 [(0, .ref c), (1, .int (iI i)), (2, .int (iI k))] 5 [.ref q1]
  refine z_astore_n (pc := 5) (L' := [(3, .ref q1), (0, .ref c), (1, .int (iI i)), (2, .int (iI k))]) C dX1_lyric_5 rfl (by rw [hnL]; decide) rfl ?_
  refine z_iload_n (pc := 6) (j := 3) C dX1_lyric_6 rfl rfl ?_
  refine z_aload_n (pc := 7) (j := 0) C dX1_lyric_7 rfl rfl ?_
  obtain ⟨hl_4, v_4, x_4, y_4, g_4, h1_4, h2_4, h3_4, h4_4⟩ := id (hs3)
  have h1_4 : h (q1) = some (false, .inr (13, [.ref v_4, .int (iI 0), .int x_4, .int y_4])) := h1_4
  refine z_callV (pc := 8) (n := 0) (kc' := 1) (ks' := 6) C (ct_S_length C.t hs3) (lw_V q1053 q468 q469 q83 q470) (by decide +kernel) ⟨by decide, by decide⟩ h1_4 rfl rfl rfl (Nat.le_of_ble_eq_true rfl) dX1_lyric_8 (by omega) (by omega) (zpk (st' := [.int (iI ((t.length : Nat) : Int)), .int (iI k)]) rfl ?_) zrx
  refine z_callS (pc := 11) (n := 2) (kc' := 0) (ks' := 0) C (ct_chkIb C.t (i := k) (n := ((t.length : Nat) : Int)) (by omega) (by omega)) (lw_S q1695 q1696 q63 q1697) (by decide +kernel) ⟨by decide, by decide⟩ rfl rfl (Nat.le_of_ble_eq_true rfl) dX1_lyric_11 (by omega) (by omega) zthk (zthx fun q6 h5 hp => ?_)
  rw [hp]
  exact zx_out C (fun x hx => nomatch hx) (by rw [hXp]; exact ⟨_, rfl, rfl⟩)
set_option maxHeartbeats 4000000 in
theorem op_chord {l : Launch} (hl : l.stackTraces = false) {Γ : zCx} {h : zH} {c : Nat} {A : zWA} {σ : zSt} (hW : csW Γ h c A σ) {i : Int} {x : zCh} (hi : 0 ≤ i) (hx : σ.sh.cs[i.toNat]? = some x)  : zMet l yX1_chord (ws_ yX1_chord cX1_chord 2 (some (.object "ChordSheet$Chord"))) ({ frames := 3, cells := 0, slots := 0, locals := 64 }) Γ h [.ref c, .int (iI i)] (zrt (fun w h' => ∃ q, w = some (.ref q) ∧ cAt h q x ∧ h' = h)) 0 0 := by
  refine zMet.of (cc := cX1_chord) hl (plainFor_of_name (by decide +kernel)) (Nat.le_of_ble_eq_true rfl) ?_
  intro X hXl hXΓ hXp C hnm hnL
  have C : zC X cX1_chord RX1 (some (.object "ChordSheet$Chord")) 3 64 [] := C
  have hnL : X.2.1.2.2.2.2 = 2 := hnL
  subst hXl hXΓ
  show Z X h 0 0 [(0, .ref c), (1, .int (iI i))] 0 []
  have hix := (List.getElem?_eq_some_iff.mp hx).1
  obtain ⟨⟨tf, hc0, htx, hch⟩, hdq, ⟨lq, kq, lys, ys, hsx, hfl, hls, hl0, hyc, hkx⟩, hhi, hnd, hR⟩ := id hW
  obtain ⟨rsi, rff, rwd, rtl, rtx, rsh, rhi, rhl⟩ := id hR
  obtain ⟨rcl, rcr, rll, rlt, rkt, rkm, rks⟩ := rsh
  have hll := hls.len
  have hyl := hyc.len
  obtain ⟨lm, le0, ln0, lf, hlq, hle, hln, hlN, hlx⟩ := id hfl
  have hxw := hl0
  obtain ⟨mw, fw, law, lew, lzw, ltw, lnw, lcw, lxw, lqw⟩ := hxw
  have hcl := hyc.cl lxw
  refine z_iload_n (pc := 0) (j := 1) C dX1_chord_0 rfl rfl ?_
  refine z_aload_n (pc := 1) (j := 0) C dX1_chord_1 rfl rfl ?_
  refine z_getfield (pc := 2) (v := .ref A.cu.s) C in_X1 rfl 5 (by decide) q282 (fun _ z => z) hc0 rfl dX1_chord_2 ?_
  refine z_getfieldN (pc := 5) (v := .ref A.cu.cq) C in_X2 rfl 1 (by decide) q172 (fun _ z => z) hsx rfl dX1_chord_5 ?_
  refine z_callV (pc := 8) (n := 0) (kc' := 0) (ks' := 0) C (ct_L_size C.t law) (lw_V q995 q367 q368 q68 q369) (by decide +kernel) ⟨by decide, by decide⟩ law rfl rfl rfl (Nat.le_of_ble_eq_true rfl) dX1_chord_8 (by omega) (by omega) (zpk (st' := [.int (iI ((ys.length : Nat) : Int)), .int (iI i)]) rfl ?_) zrx
  refine z_callS (pc := 11) (n := 2) (kc' := 0) (ks' := 0) C (ct_chkI C.t (i := i) (n := ((ys.length : Nat) : Int)) (by omega) (by omega)) (lw_S q1695 q1696 q63 q1697) (by decide +kernel) ⟨by decide, by decide⟩ rfl rfl (Nat.le_of_ble_eq_true rfl) dX1_chord_11 (by omega) (by omega) (zpk (st' := []) rfl ?_) zrx
  refine z_aload_n (pc := 14) (j := 0) C dX1_chord_14 rfl rfl ?_
  refine z_getfield (pc := 15) (v := .ref A.cu.s) C in_X1 rfl 5 (by decide) q282 (fun _ z => z) hc0 rfl dX1_chord_15 ?_
  refine z_getfieldN (pc := 18) (v := .ref A.cu.cq) C in_X2 rfl 1 (by decide) q172 (fun _ z => z) hsx rfl dX1_chord_18 ?_
  refine z_iload_n (pc := 21) (j := 1) C dX1_chord_21 rfl rfl ?_
  obtain ⟨cqq, hcqq, hcc⟩ := hcl _ _ hx
  have hxr := rcr _ (List.mem_of_getElem? hx)
  obtain ⟨xr1, xr2, xr3, xr4, xr5⟩ := id hxr
  refine z_callV (pc := 22) (n := 1) (kc' := 0) (ks' := 0) C (ct_L_get C.t law lew (i := i) (by omega) (by omega) hcqq) (lw_V q1038 q904 q905 q68 q906) (by decide +kernel) ⟨by decide, by decide⟩ law rfl rfl rfl (Nat.le_of_ble_eq_true rfl) dX1_chord_22 (by omega) (by omega) (zpk (st' := [.ref cqq]) rfl ?_) zrx
  refine z_castS (pc := 25) C q1039 rfl hcc dX1_chord_25 ?_
  exact z_areturn (pc := 28) C (Or.inl ⟨_, rfl⟩) (Or.inr ⟨_, rfl⟩) (by rw [hXp]; exact ⟨_, rfl, cqq, rfl, hcc, rfl⟩) dX1_chord_28
set_option maxHeartbeats 4000000 in
theorem op_chord_b {l : Launch} (hl : l.stackTraces = false) {Γ : zCx} {h : zH} {c : Nat} {A : zWA} {σ : zSt} (hW : csW Γ h c A σ) {i : Int} (hi : -2147483648 ≤ i ∧ i ≤ 2147483647) (hb : ¬ (0 ≤ i ∧ i < (σ.sh.cs.length : Nat)))  : zMet l yX1_chord (ws_ yX1_chord cX1_chord 2 (some (.object "ChordSheet$Chord"))) ({ frames := 7, cells := 1, slots := 6, locals := 102 }) Γ h [.ref c, .int (iI i)] (zthp h "java/lang/IndexOutOfBoundsException") 1 6 := by
  refine zMet.of (cc := cX1_chord) hl (plainFor_of_name (by decide +kernel)) (Nat.le_of_ble_eq_true rfl) ?_
  intro X hXl hXΓ hXp C hnm hnL
  have C : zC X cX1_chord RX1 (some (.object "ChordSheet$Chord")) 7 102 [] := C
  have hnL : X.2.1.2.2.2.2 = 2 := hnL
  subst hXl hXΓ
  show Z X h 1 6 [(0, .ref c), (1, .int (iI i))] 0 []
  obtain ⟨⟨tf, hc0, htx, hch⟩, hdq, ⟨lq, kq, lys, ys, hsx, hfl, hls, hl0, hyc, hkx⟩, hhi, hnd, hR⟩ := id hW
  obtain ⟨rsi, rff, rwd, rtl, rtx, rsh, rhi, rhl⟩ := id hR
  obtain ⟨rcl, rcr, rll, rlt, rkt, rkm, rks⟩ := rsh
  have hll := hls.len
  have hyl := hyc.len
  obtain ⟨lm, le0, ln0, lf, hlq, hle, hln, hlN, hlx⟩ := id hfl
  have hxw := hl0
  obtain ⟨mw, fw, law, lew, lzw, ltw, lnw, lcw, lxw, lqw⟩ := hxw
  have hcl := hyc.cl lxw
  refine z_iload_n (pc := 0) (j := 1) C dX1_chord_0 rfl rfl ?_
  refine z_aload_n (pc := 1) (j := 0) C dX1_chord_1 rfl rfl ?_
  refine z_getfield (pc := 2) (v := .ref A.cu.s) C in_X1 rfl 5 (by decide) q282 (fun _ z => z) hc0 rfl dX1_chord_2 ?_
  refine z_getfieldN (pc := 5) (v := .ref A.cu.cq) C in_X2 rfl 1 (by decide) q172 (fun _ z => z) hsx rfl dX1_chord_5 ?_
  refine z_callV (pc := 8) (n := 0) (kc' := 1) (ks' := 6) C (ct_L_size C.t law) (lw_V q995 q367 q368 q68 q369) (by decide +kernel) ⟨by decide, by decide⟩ law rfl rfl rfl (Nat.le_of_ble_eq_true rfl) dX1_chord_8 (by omega) (by omega) (zpk (st' := [.int (iI ((ys.length : Nat) : Int)), .int (iI i)]) rfl ?_) zrx
  refine z_callS (pc := 11) (n := 2) (kc' := 0) (ks' := 0) C (ct_chkIb C.t (i := i) (n := ((ys.length : Nat) : Int)) (by omega) (by omega)) (lw_S q1695 q1696 q63 q1697) (by decide +kernel) ⟨by decide, by decide⟩ rfl rfl (Nat.le_of_ble_eq_true rfl) dX1_chord_11 (by omega) (by omega) zthk (zthx fun q2 h1 hp => ?_)
  rw [hp]
  exact zx_out C (fun x hx => nomatch hx) (by rw [hXp]; exact ⟨_, rfl, rfl⟩)
set_option maxHeartbeats 4000000 in
theorem op_lineOf {l : Launch} (hl : l.stackTraces = false) {Γ : zCx} {h : zH} {c : Nat} {A : zWA} {σ : zSt} (hW : csW Γ h c A σ) {i : Int} {x : zCh} (hi : 0 ≤ i) (hx : σ.sh.cs[i.toNat]? = some x)  : zMet l yX1_lineOf (ws_ yX1_lineOf cX1_lineOf 2 (some .int)) ({ frames := 4, cells := 0, slots := 0, locals := 85 }) Γ h [.ref c, .int (iI i)] (zpure h (some (.int (iI x.1)))) 0 0 := by
  refine zMet.of (cc := cX1_lineOf) hl (plainFor_of_name (by decide +kernel)) (Nat.le_of_ble_eq_true rfl) ?_
  intro X hXl hXΓ hXp C hnm hnL
  have C : zC X cX1_lineOf RX1 (some .int) 4 85 [] := C
  have hnL : X.2.1.2.2.2.2 = 2 := hnL
  subst hXl hXΓ
  show Z X h 0 0 [(0, .ref c), (1, .int (iI i))] 0 []
  obtain ⟨⟨tf, hc0, htx, hch⟩, hdq, ⟨lq, kq, lys, ys, hsx, hfl, hls, hl0, hyc, hkx⟩, hhi, hnd, hR⟩ := id hW
  obtain ⟨rsi, rff, rwd, rtl, rtx, rsh, rhi, rhl⟩ := id hR
  obtain ⟨rcl, rcr, rll, rlt, rkt, rkm, rks⟩ := rsh
  have hll := hls.len
  have hyl := hyc.len
  obtain ⟨lm, le0, ln0, lf, hlq, hle, hln, hlN, hlx⟩ := id hfl
  have hxw := hl0
  obtain ⟨mw, fw, law, lew, lzw, ltw, lnw, lcw, lxw, lqw⟩ := hxw
  have hcl := hyc.cl lxw
  refine z_aload_n (pc := 0) (j := 0) C dX1_lineOf_0 rfl rfl ?_
  refine z_iload_n (pc := 1) (j := 1) C dX1_lineOf_1 rfl rfl ?_
  refine z_callV (pc := 2) (n := 1) (kc' := 0) (ks' := 0) C (op_chord C.t hW (i := i) (by omega) hx) (lw_V q1727 q1729 qs16 q63 q1730) (by decide +kernel) ⟨by decide, by decide⟩ hc0 rfl rfl rfl (Nat.le_of_ble_eq_true rfl) dX1_lineOf_2 (by omega) (by omega) (zrk fun w h2 hp => ?_) zrx
  obtain ⟨q1, rfl, hs3, eh2⟩ := hp
  rw [eh2]
  have xrq1 := rcr _ (List.mem_of_getElem? hx)
  obtain ⟨xr1q1, xr2q1, xr3q1, xr4q1, xr5q1⟩ := id xrq1
  show Z X h 0 0 [(0, .ref c), (1, .int (iI i))] 5 [.ref q1]
  refine z_getfieldN (pc := 5) (v := .int (iI x.1)) C in_X7 rfl 0 (by decide) q593 (fun _ z => z) hs3 rfl dX1_lineOf_5 ?_
  exact z_ireturn (pc := 8) C (by rw [hXp]; exact zpure_i rfl rfl) dX1_lineOf_8
set_option maxHeartbeats 4000000 in
theorem op_lineOf_b {l : Launch} (hl : l.stackTraces = false) {Γ : zCx} {h : zH} {c : Nat} {A : zWA} {σ : zSt} (hW : csW Γ h c A σ) {i : Int} (hi : -2147483648 ≤ i ∧ i ≤ 2147483647) (hb : ¬ (0 ≤ i ∧ i < (σ.sh.cs.length : Nat)))  : zMet l yX1_lineOf (ws_ yX1_lineOf cX1_lineOf 2 (some .int)) ({ frames := 8, cells := 1, slots := 6, locals := 123 }) Γ h [.ref c, .int (iI i)] (zthp h "java/lang/IndexOutOfBoundsException") 1 6 := by
  refine zMet.of (cc := cX1_lineOf) hl (plainFor_of_name (by decide +kernel)) (Nat.le_of_ble_eq_true rfl) ?_
  intro X hXl hXΓ hXp C hnm hnL
  have C : zC X cX1_lineOf RX1 (some .int) 8 123 [] := C
  have hnL : X.2.1.2.2.2.2 = 2 := hnL
  subst hXl hXΓ
  show Z X h 1 6 [(0, .ref c), (1, .int (iI i))] 0 []
  obtain ⟨⟨tf, hc0, htx, hch⟩, hdq, ⟨lq, kq, lys, ys, hsx, hfl, hls, hl0, hyc, hkx⟩, hhi, hnd, hR⟩ := id hW
  obtain ⟨rsi, rff, rwd, rtl, rtx, rsh, rhi, rhl⟩ := id hR
  obtain ⟨rcl, rcr, rll, rlt, rkt, rkm, rks⟩ := rsh
  have hll := hls.len
  have hyl := hyc.len
  obtain ⟨lm, le0, ln0, lf, hlq, hle, hln, hlN, hlx⟩ := id hfl
  have hxw := hl0
  obtain ⟨mw, fw, law, lew, lzw, ltw, lnw, lcw, lxw, lqw⟩ := hxw
  have hcl := hyc.cl lxw
  refine z_aload_n (pc := 0) (j := 0) C dX1_lineOf_0 rfl rfl ?_
  refine z_iload_n (pc := 1) (j := 1) C dX1_lineOf_1 rfl rfl ?_
  refine z_callV (pc := 2) (n := 1) (kc' := 0) (ks' := 0) C (op_chord_b C.t hW (i := i) (by omega) (by omega)) (lw_V q1727 q1729 qs16 q63 q1730) (by decide +kernel) ⟨by decide, by decide⟩ hc0 rfl rfl rfl (Nat.le_of_ble_eq_true rfl) dX1_lineOf_2 (by omega) (by omega) zthk (zthx fun q2 h1 hp => ?_)
  rw [hp]
  exact zx_out C (fun x hx => nomatch hx) (by rw [hXp]; exact ⟨_, rfl, rfl⟩)
set_option maxHeartbeats 4000000 in
theorem op_columnOf {l : Launch} (hl : l.stackTraces = false) {Γ : zCx} {h : zH} {c : Nat} {A : zWA} {σ : zSt} (hW : csW Γ h c A σ) {i : Int} {x : zCh} (hi : 0 ≤ i) (hx : σ.sh.cs[i.toNat]? = some x)  : zMet l yX1_columnOf (ws_ yX1_columnOf cX1_columnOf 2 (some .int)) ({ frames := 4, cells := 0, slots := 0, locals := 85 }) Γ h [.ref c, .int (iI i)] (zpure h (some (.int (iI x.2.1)))) 0 0 := by
  refine zMet.of (cc := cX1_columnOf) hl (plainFor_of_name (by decide +kernel)) (Nat.le_of_ble_eq_true rfl) ?_
  intro X hXl hXΓ hXp C hnm hnL
  have C : zC X cX1_columnOf RX1 (some .int) 4 85 [] := C
  have hnL : X.2.1.2.2.2.2 = 2 := hnL
  subst hXl hXΓ
  show Z X h 0 0 [(0, .ref c), (1, .int (iI i))] 0 []
  obtain ⟨⟨tf, hc0, htx, hch⟩, hdq, ⟨lq, kq, lys, ys, hsx, hfl, hls, hl0, hyc, hkx⟩, hhi, hnd, hR⟩ := id hW
  obtain ⟨rsi, rff, rwd, rtl, rtx, rsh, rhi, rhl⟩ := id hR
  obtain ⟨rcl, rcr, rll, rlt, rkt, rkm, rks⟩ := rsh
  have hll := hls.len
  have hyl := hyc.len
  obtain ⟨lm, le0, ln0, lf, hlq, hle, hln, hlN, hlx⟩ := id hfl
  have hxw := hl0
  obtain ⟨mw, fw, law, lew, lzw, ltw, lnw, lcw, lxw, lqw⟩ := hxw
  have hcl := hyc.cl lxw
  refine z_aload_n (pc := 0) (j := 0) C dX1_columnOf_0 rfl rfl ?_
  refine z_iload_n (pc := 1) (j := 1) C dX1_columnOf_1 rfl rfl ?_
  refine z_callV (pc := 2) (n := 1) (kc' := 0) (ks' := 0) C (op_chord C.t hW (i := i) (by omega) hx) (lw_V q1727 q1729 qs16 q63 q1730) (by decide +kernel) ⟨by decide, by decide⟩ hc0 rfl rfl rfl (Nat.le_of_ble_eq_true rfl) dX1_columnOf_2 (by omega) (by omega) (zrk fun w h2 hp => ?_) zrx
  obtain ⟨q1, rfl, hs3, eh2⟩ := hp
  rw [eh2]
  have xrq1 := rcr _ (List.mem_of_getElem? hx)
  obtain ⟨xr1q1, xr2q1, xr3q1, xr4q1, xr5q1⟩ := id xrq1
  show Z X h 0 0 [(0, .ref c), (1, .int (iI i))] 5 [.ref q1]
  refine z_getfieldN (pc := 5) (v := .int (iI x.2.1)) C in_X7 rfl 1 (by decide) q597 (fun _ z => z) hs3 rfl dX1_columnOf_5 ?_
  exact z_ireturn (pc := 8) C (by rw [hXp]; exact zpure_i rfl rfl) dX1_columnOf_8
set_option maxHeartbeats 4000000 in
theorem op_columnOf_b {l : Launch} (hl : l.stackTraces = false) {Γ : zCx} {h : zH} {c : Nat} {A : zWA} {σ : zSt} (hW : csW Γ h c A σ) {i : Int} (hi : -2147483648 ≤ i ∧ i ≤ 2147483647) (hb : ¬ (0 ≤ i ∧ i < (σ.sh.cs.length : Nat)))  : zMet l yX1_columnOf (ws_ yX1_columnOf cX1_columnOf 2 (some .int)) ({ frames := 8, cells := 1, slots := 6, locals := 123 }) Γ h [.ref c, .int (iI i)] (zthp h "java/lang/IndexOutOfBoundsException") 1 6 := by
  refine zMet.of (cc := cX1_columnOf) hl (plainFor_of_name (by decide +kernel)) (Nat.le_of_ble_eq_true rfl) ?_
  intro X hXl hXΓ hXp C hnm hnL
  have C : zC X cX1_columnOf RX1 (some .int) 8 123 [] := C
  have hnL : X.2.1.2.2.2.2 = 2 := hnL
  subst hXl hXΓ
  show Z X h 1 6 [(0, .ref c), (1, .int (iI i))] 0 []
  obtain ⟨⟨tf, hc0, htx, hch⟩, hdq, ⟨lq, kq, lys, ys, hsx, hfl, hls, hl0, hyc, hkx⟩, hhi, hnd, hR⟩ := id hW
  obtain ⟨rsi, rff, rwd, rtl, rtx, rsh, rhi, rhl⟩ := id hR
  obtain ⟨rcl, rcr, rll, rlt, rkt, rkm, rks⟩ := rsh
  have hll := hls.len
  have hyl := hyc.len
  obtain ⟨lm, le0, ln0, lf, hlq, hle, hln, hlN, hlx⟩ := id hfl
  have hxw := hl0
  obtain ⟨mw, fw, law, lew, lzw, ltw, lnw, lcw, lxw, lqw⟩ := hxw
  have hcl := hyc.cl lxw
  refine z_aload_n (pc := 0) (j := 0) C dX1_columnOf_0 rfl rfl ?_
  refine z_iload_n (pc := 1) (j := 1) C dX1_columnOf_1 rfl rfl ?_
  refine z_callV (pc := 2) (n := 1) (kc' := 0) (ks' := 0) C (op_chord_b C.t hW (i := i) (by omega) (by omega)) (lw_V q1727 q1729 qs16 q63 q1730) (by decide +kernel) ⟨by decide, by decide⟩ hc0 rfl rfl rfl (Nat.le_of_ble_eq_true rfl) dX1_columnOf_2 (by omega) (by omega) zthk (zthx fun q2 h1 hp => ?_)
  rw [hp]
  exact zx_out C (fun x hx => nomatch hx) (by rw [hXp]; exact ⟨_, rfl, rfl⟩)
set_option maxHeartbeats 4000000 in
theorem op_rootOf {l : Launch} (hl : l.stackTraces = false) {Γ : zCx} {h : zH} {c : Nat} {A : zWA} {σ : zSt} (hW : csW Γ h c A σ) {i : Int} {x : zCh} (hi : 0 ≤ i) (hx : σ.sh.cs[i.toNat]? = some x)  : zMet l yX1_rootOf (ws_ yX1_rootOf cX1_rootOf 2 (some .int)) ({ frames := 4, cells := 0, slots := 0, locals := 85 }) Γ h [.ref c, .int (iI i)] (zpure h (some (.int (iI x.2.2.1)))) 0 0 := by
  refine zMet.of (cc := cX1_rootOf) hl (plainFor_of_name (by decide +kernel)) (Nat.le_of_ble_eq_true rfl) ?_
  intro X hXl hXΓ hXp C hnm hnL
  have C : zC X cX1_rootOf RX1 (some .int) 4 85 [] := C
  have hnL : X.2.1.2.2.2.2 = 2 := hnL
  subst hXl hXΓ
  show Z X h 0 0 [(0, .ref c), (1, .int (iI i))] 0 []
  obtain ⟨⟨tf, hc0, htx, hch⟩, hdq, ⟨lq, kq, lys, ys, hsx, hfl, hls, hl0, hyc, hkx⟩, hhi, hnd, hR⟩ := id hW
  obtain ⟨rsi, rff, rwd, rtl, rtx, rsh, rhi, rhl⟩ := id hR
  obtain ⟨rcl, rcr, rll, rlt, rkt, rkm, rks⟩ := rsh
  have hll := hls.len
  have hyl := hyc.len
  obtain ⟨lm, le0, ln0, lf, hlq, hle, hln, hlN, hlx⟩ := id hfl
  have hxw := hl0
  obtain ⟨mw, fw, law, lew, lzw, ltw, lnw, lcw, lxw, lqw⟩ := hxw
  have hcl := hyc.cl lxw
  refine z_aload_n (pc := 0) (j := 0) C dX1_rootOf_0 rfl rfl ?_
  refine z_iload_n (pc := 1) (j := 1) C dX1_rootOf_1 rfl rfl ?_
  refine z_callV (pc := 2) (n := 1) (kc' := 0) (ks' := 0) C (op_chord C.t hW (i := i) (by omega) hx) (lw_V q1727 q1729 qs16 q63 q1730) (by decide +kernel) ⟨by decide, by decide⟩ hc0 rfl rfl rfl (Nat.le_of_ble_eq_true rfl) dX1_rootOf_2 (by omega) (by omega) (zrk fun w h2 hp => ?_) zrx
  obtain ⟨q1, rfl, hs3, eh2⟩ := hp
  rw [eh2]
  have xrq1 := rcr _ (List.mem_of_getElem? hx)
  obtain ⟨xr1q1, xr2q1, xr3q1, xr4q1, xr5q1⟩ := id xrq1
  show Z X h 0 0 [(0, .ref c), (1, .int (iI i))] 5 [.ref q1]
  refine z_getfieldN (pc := 5) (v := .int (iI x.2.2.1)) C in_X7 rfl 2 (by decide) q600 (fun _ z => z) hs3 rfl dX1_rootOf_5 ?_
  exact z_ireturn (pc := 8) C (by rw [hXp]; exact zpure_i rfl rfl) dX1_rootOf_8
set_option maxHeartbeats 4000000 in
theorem op_rootOf_b {l : Launch} (hl : l.stackTraces = false) {Γ : zCx} {h : zH} {c : Nat} {A : zWA} {σ : zSt} (hW : csW Γ h c A σ) {i : Int} (hi : -2147483648 ≤ i ∧ i ≤ 2147483647) (hb : ¬ (0 ≤ i ∧ i < (σ.sh.cs.length : Nat)))  : zMet l yX1_rootOf (ws_ yX1_rootOf cX1_rootOf 2 (some .int)) ({ frames := 8, cells := 1, slots := 6, locals := 123 }) Γ h [.ref c, .int (iI i)] (zthp h "java/lang/IndexOutOfBoundsException") 1 6 := by
  refine zMet.of (cc := cX1_rootOf) hl (plainFor_of_name (by decide +kernel)) (Nat.le_of_ble_eq_true rfl) ?_
  intro X hXl hXΓ hXp C hnm hnL
  have C : zC X cX1_rootOf RX1 (some .int) 8 123 [] := C
  have hnL : X.2.1.2.2.2.2 = 2 := hnL
  subst hXl hXΓ
  show Z X h 1 6 [(0, .ref c), (1, .int (iI i))] 0 []
  obtain ⟨⟨tf, hc0, htx, hch⟩, hdq, ⟨lq, kq, lys, ys, hsx, hfl, hls, hl0, hyc, hkx⟩, hhi, hnd, hR⟩ := id hW
  obtain ⟨rsi, rff, rwd, rtl, rtx, rsh, rhi, rhl⟩ := id hR
  obtain ⟨rcl, rcr, rll, rlt, rkt, rkm, rks⟩ := rsh
  have hll := hls.len
  have hyl := hyc.len
  obtain ⟨lm, le0, ln0, lf, hlq, hle, hln, hlN, hlx⟩ := id hfl
  have hxw := hl0
  obtain ⟨mw, fw, law, lew, lzw, ltw, lnw, lcw, lxw, lqw⟩ := hxw
  have hcl := hyc.cl lxw
  refine z_aload_n (pc := 0) (j := 0) C dX1_rootOf_0 rfl rfl ?_
  refine z_iload_n (pc := 1) (j := 1) C dX1_rootOf_1 rfl rfl ?_
  refine z_callV (pc := 2) (n := 1) (kc' := 0) (ks' := 0) C (op_chord_b C.t hW (i := i) (by omega) (by omega)) (lw_V q1727 q1729 qs16 q63 q1730) (by decide +kernel) ⟨by decide, by decide⟩ hc0 rfl rfl rfl (Nat.le_of_ble_eq_true rfl) dX1_rootOf_2 (by omega) (by omega) zthk (zthx fun q2 h1 hp => ?_)
  rw [hp]
  exact zx_out C (fun x hx => nomatch hx) (by rw [hXp]; exact ⟨_, rfl, rfl⟩)
set_option maxHeartbeats 4000000 in
theorem op_qualityOf {l : Launch} (hl : l.stackTraces = false) {Γ : zCx} {h : zH} {c : Nat} {A : zWA} {σ : zSt} (hW : csW Γ h c A σ) {i : Int} {x : zCh} (hi : 0 ≤ i) (hx : σ.sh.cs[i.toNat]? = some x)  : zMet l yX1_qualityOf (ws_ yX1_qualityOf cX1_qualityOf 2 (some .int)) ({ frames := 4, cells := 0, slots := 0, locals := 85 }) Γ h [.ref c, .int (iI i)] (zpure h (some (.int (iI x.2.2.2.1)))) 0 0 := by
  refine zMet.of (cc := cX1_qualityOf) hl (plainFor_of_name (by decide +kernel)) (Nat.le_of_ble_eq_true rfl) ?_
  intro X hXl hXΓ hXp C hnm hnL
  have C : zC X cX1_qualityOf RX1 (some .int) 4 85 [] := C
  have hnL : X.2.1.2.2.2.2 = 2 := hnL
  subst hXl hXΓ
  show Z X h 0 0 [(0, .ref c), (1, .int (iI i))] 0 []
  obtain ⟨⟨tf, hc0, htx, hch⟩, hdq, ⟨lq, kq, lys, ys, hsx, hfl, hls, hl0, hyc, hkx⟩, hhi, hnd, hR⟩ := id hW
  obtain ⟨rsi, rff, rwd, rtl, rtx, rsh, rhi, rhl⟩ := id hR
  obtain ⟨rcl, rcr, rll, rlt, rkt, rkm, rks⟩ := rsh
  have hll := hls.len
  have hyl := hyc.len
  obtain ⟨lm, le0, ln0, lf, hlq, hle, hln, hlN, hlx⟩ := id hfl
  have hxw := hl0
  obtain ⟨mw, fw, law, lew, lzw, ltw, lnw, lcw, lxw, lqw⟩ := hxw
  have hcl := hyc.cl lxw
  refine z_aload_n (pc := 0) (j := 0) C dX1_qualityOf_0 rfl rfl ?_
  refine z_iload_n (pc := 1) (j := 1) C dX1_qualityOf_1 rfl rfl ?_
  refine z_callV (pc := 2) (n := 1) (kc' := 0) (ks' := 0) C (op_chord C.t hW (i := i) (by omega) hx) (lw_V q1727 q1729 qs16 q63 q1730) (by decide +kernel) ⟨by decide, by decide⟩ hc0 rfl rfl rfl (Nat.le_of_ble_eq_true rfl) dX1_qualityOf_2 (by omega) (by omega) (zrk fun w h2 hp => ?_) zrx
  obtain ⟨q1, rfl, hs3, eh2⟩ := hp
  rw [eh2]
  have xrq1 := rcr _ (List.mem_of_getElem? hx)
  obtain ⟨xr1q1, xr2q1, xr3q1, xr4q1, xr5q1⟩ := id xrq1
  show Z X h 0 0 [(0, .ref c), (1, .int (iI i))] 5 [.ref q1]
  refine z_getfieldN (pc := 5) (v := .int (iI x.2.2.2.1)) C in_X7 rfl 3 (by decide) q602 (fun _ z => z) hs3 rfl dX1_qualityOf_5 ?_
  exact z_ireturn (pc := 8) C (by rw [hXp]; exact zpure_i rfl rfl) dX1_qualityOf_8
set_option maxHeartbeats 4000000 in
theorem op_qualityOf_b {l : Launch} (hl : l.stackTraces = false) {Γ : zCx} {h : zH} {c : Nat} {A : zWA} {σ : zSt} (hW : csW Γ h c A σ) {i : Int} (hi : -2147483648 ≤ i ∧ i ≤ 2147483647) (hb : ¬ (0 ≤ i ∧ i < (σ.sh.cs.length : Nat)))  : zMet l yX1_qualityOf (ws_ yX1_qualityOf cX1_qualityOf 2 (some .int)) ({ frames := 8, cells := 1, slots := 6, locals := 123 }) Γ h [.ref c, .int (iI i)] (zthp h "java/lang/IndexOutOfBoundsException") 1 6 := by
  refine zMet.of (cc := cX1_qualityOf) hl (plainFor_of_name (by decide +kernel)) (Nat.le_of_ble_eq_true rfl) ?_
  intro X hXl hXΓ hXp C hnm hnL
  have C : zC X cX1_qualityOf RX1 (some .int) 8 123 [] := C
  have hnL : X.2.1.2.2.2.2 = 2 := hnL
  subst hXl hXΓ
  show Z X h 1 6 [(0, .ref c), (1, .int (iI i))] 0 []
  obtain ⟨⟨tf, hc0, htx, hch⟩, hdq, ⟨lq, kq, lys, ys, hsx, hfl, hls, hl0, hyc, hkx⟩, hhi, hnd, hR⟩ := id hW
  obtain ⟨rsi, rff, rwd, rtl, rtx, rsh, rhi, rhl⟩ := id hR
  obtain ⟨rcl, rcr, rll, rlt, rkt, rkm, rks⟩ := rsh
  have hll := hls.len
  have hyl := hyc.len
  obtain ⟨lm, le0, ln0, lf, hlq, hle, hln, hlN, hlx⟩ := id hfl
  have hxw := hl0
  obtain ⟨mw, fw, law, lew, lzw, ltw, lnw, lcw, lxw, lqw⟩ := hxw
  have hcl := hyc.cl lxw
  refine z_aload_n (pc := 0) (j := 0) C dX1_qualityOf_0 rfl rfl ?_
  refine z_iload_n (pc := 1) (j := 1) C dX1_qualityOf_1 rfl rfl ?_
  refine z_callV (pc := 2) (n := 1) (kc' := 0) (ks' := 0) C (op_chord_b C.t hW (i := i) (by omega) (by omega)) (lw_V q1727 q1729 qs16 q63 q1730) (by decide +kernel) ⟨by decide, by decide⟩ hc0 rfl rfl rfl (Nat.le_of_ble_eq_true rfl) dX1_qualityOf_2 (by omega) (by omega) zthk (zthx fun q2 h1 hp => ?_)
  rw [hp]
  exact zx_out C (fun x hx => nomatch hx) (by rw [hXp]; exact ⟨_, rfl, rfl⟩)
set_option maxHeartbeats 4000000 in
theorem op_bassOf {l : Launch} (hl : l.stackTraces = false) {Γ : zCx} {h : zH} {c : Nat} {A : zWA} {σ : zSt} (hW : csW Γ h c A σ) {i : Int} {x : zCh} (hi : 0 ≤ i) (hx : σ.sh.cs[i.toNat]? = some x)  : zMet l yX1_bassOf (ws_ yX1_bassOf cX1_bassOf 2 (some .int)) ({ frames := 4, cells := 0, slots := 0, locals := 85 }) Γ h [.ref c, .int (iI i)] (zpure h (some (.int (iI x.2.2.2.2)))) 0 0 := by
  refine zMet.of (cc := cX1_bassOf) hl (plainFor_of_name (by decide +kernel)) (Nat.le_of_ble_eq_true rfl) ?_
  intro X hXl hXΓ hXp C hnm hnL
  have C : zC X cX1_bassOf RX1 (some .int) 4 85 [] := C
  have hnL : X.2.1.2.2.2.2 = 2 := hnL
  subst hXl hXΓ
  show Z X h 0 0 [(0, .ref c), (1, .int (iI i))] 0 []
  obtain ⟨⟨tf, hc0, htx, hch⟩, hdq, ⟨lq, kq, lys, ys, hsx, hfl, hls, hl0, hyc, hkx⟩, hhi, hnd, hR⟩ := id hW
  obtain ⟨rsi, rff, rwd, rtl, rtx, rsh, rhi, rhl⟩ := id hR
  obtain ⟨rcl, rcr, rll, rlt, rkt, rkm, rks⟩ := rsh
  have hll := hls.len
  have hyl := hyc.len
  obtain ⟨lm, le0, ln0, lf, hlq, hle, hln, hlN, hlx⟩ := id hfl
  have hxw := hl0
  obtain ⟨mw, fw, law, lew, lzw, ltw, lnw, lcw, lxw, lqw⟩ := hxw
  have hcl := hyc.cl lxw
  refine z_aload_n (pc := 0) (j := 0) C dX1_bassOf_0 rfl rfl ?_
  refine z_iload_n (pc := 1) (j := 1) C dX1_bassOf_1 rfl rfl ?_
  refine z_callV (pc := 2) (n := 1) (kc' := 0) (ks' := 0) C (op_chord C.t hW (i := i) (by omega) hx) (lw_V q1727 q1729 qs16 q63 q1730) (by decide +kernel) ⟨by decide, by decide⟩ hc0 rfl rfl rfl (Nat.le_of_ble_eq_true rfl) dX1_bassOf_2 (by omega) (by omega) (zrk fun w h2 hp => ?_) zrx
  obtain ⟨q1, rfl, hs3, eh2⟩ := hp
  rw [eh2]
  have xrq1 := rcr _ (List.mem_of_getElem? hx)
  obtain ⟨xr1q1, xr2q1, xr3q1, xr4q1, xr5q1⟩ := id xrq1
  show Z X h 0 0 [(0, .ref c), (1, .int (iI i))] 5 [.ref q1]
  refine z_getfieldN (pc := 5) (v := .int (iI x.2.2.2.2)) C in_X7 rfl 4 (by decide) q604 (fun _ z => z) hs3 rfl dX1_bassOf_5 ?_
  exact z_ireturn (pc := 8) C (by rw [hXp]; exact zpure_i rfl rfl) dX1_bassOf_8
set_option maxHeartbeats 4000000 in
theorem op_bassOf_b {l : Launch} (hl : l.stackTraces = false) {Γ : zCx} {h : zH} {c : Nat} {A : zWA} {σ : zSt} (hW : csW Γ h c A σ) {i : Int} (hi : -2147483648 ≤ i ∧ i ≤ 2147483647) (hb : ¬ (0 ≤ i ∧ i < (σ.sh.cs.length : Nat)))  : zMet l yX1_bassOf (ws_ yX1_bassOf cX1_bassOf 2 (some .int)) ({ frames := 8, cells := 1, slots := 6, locals := 123 }) Γ h [.ref c, .int (iI i)] (zthp h "java/lang/IndexOutOfBoundsException") 1 6 := by
  refine zMet.of (cc := cX1_bassOf) hl (plainFor_of_name (by decide +kernel)) (Nat.le_of_ble_eq_true rfl) ?_
  intro X hXl hXΓ hXp C hnm hnL
  have C : zC X cX1_bassOf RX1 (some .int) 8 123 [] := C
  have hnL : X.2.1.2.2.2.2 = 2 := hnL
  subst hXl hXΓ
  show Z X h 1 6 [(0, .ref c), (1, .int (iI i))] 0 []
  obtain ⟨⟨tf, hc0, htx, hch⟩, hdq, ⟨lq, kq, lys, ys, hsx, hfl, hls, hl0, hyc, hkx⟩, hhi, hnd, hR⟩ := id hW
  obtain ⟨rsi, rff, rwd, rtl, rtx, rsh, rhi, rhl⟩ := id hR
  obtain ⟨rcl, rcr, rll, rlt, rkt, rkm, rks⟩ := rsh
  have hll := hls.len
  have hyl := hyc.len
  obtain ⟨lm, le0, ln0, lf, hlq, hle, hln, hlN, hlx⟩ := id hfl
  have hxw := hl0
  obtain ⟨mw, fw, law, lew, lzw, ltw, lnw, lcw, lxw, lqw⟩ := hxw
  have hcl := hyc.cl lxw
  refine z_aload_n (pc := 0) (j := 0) C dX1_bassOf_0 rfl rfl ?_
  refine z_iload_n (pc := 1) (j := 1) C dX1_bassOf_1 rfl rfl ?_
  refine z_callV (pc := 2) (n := 1) (kc' := 0) (ks' := 0) C (op_chord_b C.t hW (i := i) (by omega) (by omega)) (lw_V q1727 q1729 qs16 q63 q1730) (by decide +kernel) ⟨by decide, by decide⟩ hc0 rfl rfl rfl (Nat.le_of_ble_eq_true rfl) dX1_bassOf_2 (by omega) (by omega) zthk (zthx fun q2 h1 hp => ?_)
  rw [hp]
  exact zx_out C (fun x hx => nomatch hx) (by rw [hXp]; exact ⟨_, rfl, rfl⟩)
set_option maxHeartbeats 4000000 in
theorem op_degree {l : Launch} (hl : l.stackTraces = false) {Γ : zCx} {h : zH} {c : Nat} {A : zWA} {σ : zSt} (hW : csW Γ h c A σ) {i : Int} {x : zCh} (hi : 0 ≤ i) (hx : σ.sh.cs[i.toNat]? = some x)  : zMet l yX1_degree (ws_ yX1_degree cX1_degree 2 (some .int)) ({ frames := 4, cells := 0, slots := 0, locals := 90 }) Γ h [.ref c, .int (iI i)] (zpure h (some (.int (iI (dgr σ.sh.t σ.sh.m (pcl x.2.2.1)))))) 0 0 := by
  refine zMet.of (cc := cX1_degree) hl (plainFor_of_name (by decide +kernel)) (Nat.le_of_ble_eq_true rfl) ?_
  intro X hXl hXΓ hXp C hnm hnL
  have C : zC X cX1_degree RX1 (some .int) 4 90 [] := C
  have hnL : X.2.1.2.2.2.2 = 2 := hnL
  subst hXl hXΓ
  show Z X h 0 0 [(0, .ref c), (1, .int (iI i))] 0 []
  obtain ⟨⟨tf, hc0, htx, hch⟩, hdq, ⟨lq, kq, lys, ys, hsx, hfl, hls, hl0, hyc, hkx⟩, hhi, hnd, hR⟩ := id hW
  obtain ⟨rsi, rff, rwd, rtl, rtx, rsh, rhi, rhl⟩ := id hR
  obtain ⟨rcl, rcr, rll, rlt, rkt, rkm, rks⟩ := rsh
  have hll := hls.len
  have hyl := hyc.len
  obtain ⟨lm, le0, ln0, lf, hlq, hle, hln, hlN, hlx⟩ := id hfl
  have hxw := hl0
  obtain ⟨mw, fw, law, lew, lzw, ltw, lnw, lcw, lxw, lqw⟩ := hxw
  have hcl := hyc.cl lxw
  refine z_aload_n (pc := 0) (j := 0) C dX1_degree_0 rfl rfl ?_
  refine z_getfield (pc := 1) (v := .ref A.cu.s) C in_X1 rfl 5 (by decide) q282 (fun _ z => z) hc0 rfl dX1_degree_1 ?_
  refine z_getfieldN (pc := 4) (v := .ref kq) C in_X2 rfl 2 (by decide) q175 (fun _ z => z) hsx rfl dX1_degree_4 ?_
  refine z_aload_n (pc := 7) (j := 0) C dX1_degree_7 rfl rfl ?_
  refine z_iload_n (pc := 8) (j := 1) C dX1_degree_8 rfl rfl ?_
  refine z_callV (pc := 9) (n := 1) (kc' := 0) (ks' := 0) C (op_chord C.t hW (i := i) (by omega) hx) (lw_V q1727 q1729 qs16 q63 q1730) (by decide +kernel) ⟨by decide, by decide⟩ hc0 rfl rfl rfl (Nat.le_of_ble_eq_true rfl) dX1_degree_9 (by omega) (by omega) (zrk fun w h2 hp => ?_) zrx
  obtain ⟨q1, rfl, hs3, eh2⟩ := hp
  rw [eh2]
  have xrq1 := rcr _ (List.mem_of_getElem? hx)
  obtain ⟨xr1q1, xr2q1, xr3q1, xr4q1, xr5q1⟩ := id xrq1
  show Z X h 0 0 [(0, .ref c), (1, .int (iI i))] 12 [.ref q1, .ref kq]
  refine z_getfieldN (pc := 12) (v := .int (iI x.2.2.1)) C in_X7 rfl 2 (by decide) q600 (fun _ z => z) hs3 rfl dX1_degree_12 ?_
  refine z_callS (pc := 15) (n := 1) (kc' := 0) (ks' := 0) C (ct_pcl C.t (p := x.2.2.1) (by omega)) (lw_S q1044 q897 q63 q898) (by decide +kernel) ⟨by decide, by decide⟩ rfl rfl (Nat.le_of_ble_eq_true rfl) dX1_degree_15 (by omega) (by omega) (zpk (st' := [.int (iI (pcl x.2.2.1)), .ref kq]) rfl ?_) zrx
  have hpx := pcl_r x.2.2.1
  refine z_callV (pc := 18) (n := 1) (kc' := 0) (ks' := 0) C (ct_K_degree C.t (t := σ.sh.t) (m := σ.sh.m) hkx (by omega) (by omega) (p := pcl x.2.2.1) (by omega)) (lw_V q1886 q1887 q1888 q65 q1889) (by decide +kernel) ⟨by decide, by decide⟩ hkx rfl rfl rfl (Nat.le_of_ble_eq_true rfl) dX1_degree_18 (by omega) (by omega) (zpk (st' := [.int (iI (dgr σ.sh.t σ.sh.m (pcl x.2.2.1)))]) rfl ?_) zrx
  exact z_ireturn (pc := 21) C (by rw [hXp]; exact zpure_i rfl rfl) dX1_degree_21
set_option maxHeartbeats 4000000 in
theorem op_degree_b {l : Launch} (hl : l.stackTraces = false) {Γ : zCx} {h : zH} {c : Nat} {A : zWA} {σ : zSt} (hW : csW Γ h c A σ) {i : Int} (hi : -2147483648 ≤ i ∧ i ≤ 2147483647) (hb : ¬ (0 ≤ i ∧ i < (σ.sh.cs.length : Nat)))  : zMet l yX1_degree (ws_ yX1_degree cX1_degree 2 (some .int)) ({ frames := 8, cells := 1, slots := 6, locals := 123 }) Γ h [.ref c, .int (iI i)] (zthp h "java/lang/IndexOutOfBoundsException") 1 6 := by
  refine zMet.of (cc := cX1_degree) hl (plainFor_of_name (by decide +kernel)) (Nat.le_of_ble_eq_true rfl) ?_
  intro X hXl hXΓ hXp C hnm hnL
  have C : zC X cX1_degree RX1 (some .int) 8 123 [] := C
  have hnL : X.2.1.2.2.2.2 = 2 := hnL
  subst hXl hXΓ
  show Z X h 1 6 [(0, .ref c), (1, .int (iI i))] 0 []
  obtain ⟨⟨tf, hc0, htx, hch⟩, hdq, ⟨lq, kq, lys, ys, hsx, hfl, hls, hl0, hyc, hkx⟩, hhi, hnd, hR⟩ := id hW
  obtain ⟨rsi, rff, rwd, rtl, rtx, rsh, rhi, rhl⟩ := id hR
  obtain ⟨rcl, rcr, rll, rlt, rkt, rkm, rks⟩ := rsh
  have hll := hls.len
  have hyl := hyc.len
  obtain ⟨lm, le0, ln0, lf, hlq, hle, hln, hlN, hlx⟩ := id hfl
  have hxw := hl0
  obtain ⟨mw, fw, law, lew, lzw, ltw, lnw, lcw, lxw, lqw⟩ := hxw
  have hcl := hyc.cl lxw
  refine z_aload_n (pc := 0) (j := 0) C dX1_degree_0 rfl rfl ?_
  refine z_getfield (pc := 1) (v := .ref A.cu.s) C in_X1 rfl 5 (by decide) q282 (fun _ z => z) hc0 rfl dX1_degree_1 ?_
  refine z_getfieldN (pc := 4) (v := .ref kq) C in_X2 rfl 2 (by decide) q175 (fun _ z => z) hsx rfl dX1_degree_4 ?_
  refine z_aload_n (pc := 7) (j := 0) C dX1_degree_7 rfl rfl ?_
  refine z_iload_n (pc := 8) (j := 1) C dX1_degree_8 rfl rfl ?_
  refine z_callV (pc := 9) (n := 1) (kc' := 0) (ks' := 0) C (op_chord_b C.t hW (i := i) (by omega) (by omega)) (lw_V q1727 q1729 qs16 q63 q1730) (by decide +kernel) ⟨by decide, by decide⟩ hc0 rfl rfl rfl (Nat.le_of_ble_eq_true rfl) dX1_degree_9 (by omega) (by omega) zthk (zthx fun q2 h1 hp => ?_)
  rw [hp]
  exact zx_out C (fun x hx => nomatch hx) (by rw [hXp]; exact ⟨_, rfl, rfl⟩)
set_option maxHeartbeats 4000000 in
theorem op_clearText {l : Launch} (hl : l.stackTraces = false) {Γ : zCx} {h : zH} {c : Nat} {A : zWA} {σ : zSt} (hW : csW Γ h c A σ)  : zMet l yX1_clearText (ws_ yX1_clearText cX1_clearText 2 (some .int)) ({ frames := 0, cells := 0, slots := 0, locals := 0 }) Γ h [.ref c] (zrt (fun w h' => w = some (.int (iI ((σ.tx.length : Nat)))) ∧ csW Γ h' c A (([], σ.si, σ.fl, σ.wd, σ.sh, σ.hi) : zSt) ∧ zkeep h h' [c, A.tx])) 0 0 := by
  refine zMet.of (cc := cX1_clearText) hl (plainFor_of_name (by decide +kernel)) (Nat.le_of_ble_eq_true rfl) ?_
  intro X hXl hXΓ hXp C hnm hnL
  have C : zC X cX1_clearText RX1 (some .int) 0 0 [] := C
  have hnL : X.2.1.2.2.2.2 = 2 := hnL
  subst hXl hXΓ
  show Z X h 0 0 [(0, .ref c)] 0 []
  obtain ⟨⟨tf, hc0, htx, hch⟩, hdq, ⟨lq, kq, lys, ys, hsx, hfl, hls, hl0, hyc, hkx⟩, hhi, hnd, hR⟩ := id hW
  obtain ⟨rsi, rff, rwd, rtl, rtx, rsh, rhi, rhl⟩ := id hR
  obtain ⟨rcl, rcr, rll, rlt, rkt, rkm, rks⟩ := rsh
  have hll := hls.len
  have hyl := hyc.len
  obtain ⟨lm, le0, ln0, lf, hlq, hle, hln, hlN, hlx⟩ := id hfl
  have hxw := hl0
  obtain ⟨mw, fw, law, lew, lzw, ltw, lnw, lcw, lxw, lqw⟩ := hxw
  have hcl := hyc.cl lxw
  have rsh0 := hR.2.2.2.2.2.1
  refine z_aload_n (pc := 0) (j := 0) C dX1_clearText_0 rfl rfl ?_
  refine z_getfield (pc := 1) (v := .int (iI ((σ.tx.length : Nat) : Int))) C in_X1 rfl 1 (by decide) q276 (fun _ z => z) hc0 rfl dX1_clearText_1 ?_
  refine z_istore_n (pc := 4) (L' := [(1, .int (iI ((σ.tx.length : Nat) : Int))), (0, .ref c)]) C dX1_clearText_4 rfl (by rw [hnL]; decide) rfl ?_
  refine z_aload_n (pc := 5) (j := 1) C dX1_clearText_5 rfl rfl ?_
  refine z_iconst (pc := 6) C dX1_clearText_6 ?_
  refine z_putfield (pc := 7) (fs' := [.ref A.tx, .int (iI 0), .int (iI σ.si), .int (iI σ.fl), .int (iI σ.wd), .ref A.cu.s, .ref A.dq]) C in_X1 tyX1 tyX1_ok nmX1 rfl 1 (by decide) q276 (fun _ z => z) rfl rfl rfl (Nat.le_of_ble_eq_true rfl) hc0 rfl dX1_clearText_7 ?_
  refine Z.nm (fun h1 eh1 => ?_)
  have kh1 : zkeep h h1 [c, A.tx] := by rw [eh1]; exact zkeep.up zkeep.rf (Or.inl (by simp)) hc0
  have fh1_0 : h1 c = some (true, .inr (0, [.ref A.tx, .int (iI 0), .int (iI σ.si), .int (iI σ.fl), .int (iI σ.wd), .ref A.cu.s, .ref A.dq])) := zse eh1
  have fh1_1 : h1 A.tx = some (true, .inl (.char, 200, tf)) := zsn eh1 htx (Ne.symm (zneA hc0 htx))
  refine z_iload_n (pc := 10) (j := 0) C dX1_clearText_10 rfl rfl ?_
  exact z_ireturn (pc := 11) C (by rw [hXp]; exact ⟨_, rfl, rfl, csW.upC (τ := (([], σ.si, σ.fl, σ.wd, σ.sh, σ.hi) : zSt)) hW kh1 rfl fh1_0 fh1_1 (fun j d e => by simp [zSt.tx] at e) rfl rfl ⟨rsi, rff, rwd, Nat.zero_le _, (fun _ h => nomatch h), rsh0, rhi, rhl⟩, kh1⟩) dX1_clearText_11
set_option maxHeartbeats 4000000 in
theorem op_setSimple {l : Launch} (hl : l.stackTraces = false) {Γ : zCx} {h : zH} {c : Nat} {A : zWA} {σ : zSt} (hW : csW Γ h c A σ) {b : Int} (hb : b = 0 ∨ b = 1)  : zMet l yX1_setSimple (ws_ yX1_setSimple cX1_setSimple 3 (some .boolean)) ({ frames := 0, cells := 0, slots := 0, locals := 0 }) Γ h [.ref c, .int (iI b)] (zrt (fun w h' => w = some (.int (iI (σ.si))) ∧ csW Γ h' c A ((σ.tx, b, σ.fl, σ.wd, σ.sh, σ.hi) : zSt) ∧ zkeep h h' [c, A.tx])) 0 0 := by
  refine zMet.of (cc := cX1_setSimple) hl (plainFor_of_name (by decide +kernel)) (Nat.le_of_ble_eq_true rfl) ?_
  intro X hXl hXΓ hXp C hnm hnL
  have C : zC X cX1_setSimple RX1 (some .boolean) 0 0 [] := C
  have hnL : X.2.1.2.2.2.2 = 3 := hnL
  subst hXl hXΓ
  show Z X h 0 0 [(0, .ref c), (1, .int (iI b))] 0 []
  obtain ⟨⟨tf, hc0, htx, hch⟩, hdq, ⟨lq, kq, lys, ys, hsx, hfl, hls, hl0, hyc, hkx⟩, hhi, hnd, hR⟩ := id hW
  obtain ⟨rsi, rff, rwd, rtl, rtx, rsh, rhi, rhl⟩ := id hR
  obtain ⟨rcl, rcr, rll, rlt, rkt, rkm, rks⟩ := rsh
  have hll := hls.len
  have hyl := hyc.len
  obtain ⟨lm, le0, ln0, lf, hlq, hle, hln, hlN, hlx⟩ := id hfl
  have hxw := hl0
  obtain ⟨mw, fw, law, lew, lzw, ltw, lnw, lcw, lxw, lqw⟩ := hxw
  have hcl := hyc.cl lxw
  have rsh0 := hR.2.2.2.2.2.1
  refine z_aload_n (pc := 0) (j := 0) C dX1_setSimple_0 rfl rfl ?_
  refine z_getfield (pc := 1) (v := .int (iI σ.si)) C in_X1 rfl 2 (by decide) q277 (fun _ z => z) hc0 rfl dX1_setSimple_1 ?_
  refine z_istore_n (pc := 4) (L' := [(2, .int (iI σ.si)), (0, .ref c), (1, .int (iI b))]) C dX1_setSimple_4 rfl (by rw [hnL]; decide) rfl ?_
  refine z_aload_n (pc := 5) (j := 1) C dX1_setSimple_5 rfl rfl ?_
  refine z_iload_n (pc := 6) (j := 2) C dX1_setSimple_6 rfl rfl ?_
  refine z_putfield (pc := 7) (fs' := [.ref A.tx, .int (iI ((σ.tx.length : Nat) : Int)), .int (iI b), .int (iI σ.fl), .int (iI σ.wd), .ref A.cu.s, .ref A.dq]) C in_X1 tyX1 tyX1_ok nmX1 rfl 2 (by decide) q277 (fun _ z => z) rfl (i_nz (by omega) (by omega)) (i_fz (by omega) (by omega)) (Nat.le_of_ble_eq_true rfl) hc0 rfl dX1_setSimple_7 ?_
  refine Z.nm (fun h1 eh1 => ?_)
  have kh1 : zkeep h h1 [c, A.tx] := by rw [eh1]; exact zkeep.up zkeep.rf (Or.inl (by simp)) hc0
  have fh1_0 : h1 c = some (true, .inr (0, [.ref A.tx, .int (iI ((σ.tx.length : Nat) : Int)), .int (iI b), .int (iI σ.fl), .int (iI σ.wd), .ref A.cu.s, .ref A.dq])) := zse eh1
  have fh1_1 : h1 A.tx = some (true, .inl (.char, 200, tf)) := zsn eh1 htx (Ne.symm (zneA hc0 htx))
  refine z_iload_n (pc := 10) (j := 0) C dX1_setSimple_10 rfl rfl ?_
  exact z_zreturn (pc := 11) C (i_nz (by omega) (by omega)) (by rw [hXp]; exact ⟨_, rfl, rfl, csW.upC (τ := ((σ.tx, b, σ.fl, σ.wd, σ.sh, σ.hi) : zSt)) hW kh1 rfl fh1_0 fh1_1 hch rfl rfl ⟨hb, rff, rwd, rtl, rtx, rsh0, rhi, rhl⟩, kh1⟩) dX1_setSimple_11
set_option maxHeartbeats 4000000 in
theorem op_setFlats {l : Launch} (hl : l.stackTraces = false) {Γ : zCx} {h : zH} {c : Nat} {A : zWA} {σ : zSt} (hW : csW Γ h c A σ) {b : Int} (hb : b = 0 ∨ b = 1)  : zMet l yX1_setFlats (ws_ yX1_setFlats cX1_setFlats 3 (some .boolean)) ({ frames := 0, cells := 0, slots := 0, locals := 0 }) Γ h [.ref c, .int (iI b)] (zrt (fun w h' => w = some (.int (iI (σ.fl))) ∧ csW Γ h' c A ((σ.tx, σ.si, b, σ.wd, σ.sh, σ.hi) : zSt) ∧ zkeep h h' [c, A.tx])) 0 0 := by
  refine zMet.of (cc := cX1_setFlats) hl (plainFor_of_name (by decide +kernel)) (Nat.le_of_ble_eq_true rfl) ?_
  intro X hXl hXΓ hXp C hnm hnL
  have C : zC X cX1_setFlats RX1 (some .boolean) 0 0 [] := C
  have hnL : X.2.1.2.2.2.2 = 3 := hnL
  subst hXl hXΓ
  show Z X h 0 0 [(0, .ref c), (1, .int (iI b))] 0 []
  obtain ⟨⟨tf, hc0, htx, hch⟩, hdq, ⟨lq, kq, lys, ys, hsx, hfl, hls, hl0, hyc, hkx⟩, hhi, hnd, hR⟩ := id hW
  obtain ⟨rsi, rff, rwd, rtl, rtx, rsh, rhi, rhl⟩ := id hR
  obtain ⟨rcl, rcr, rll, rlt, rkt, rkm, rks⟩ := rsh
  have hll := hls.len
  have hyl := hyc.len
  obtain ⟨lm, le0, ln0, lf, hlq, hle, hln, hlN, hlx⟩ := id hfl
  have hxw := hl0
  obtain ⟨mw, fw, law, lew, lzw, ltw, lnw, lcw, lxw, lqw⟩ := hxw
  have hcl := hyc.cl lxw
  have rsh0 := hR.2.2.2.2.2.1
  refine z_aload_n (pc := 0) (j := 0) C dX1_setFlats_0 rfl rfl ?_
  refine z_getfield (pc := 1) (v := .int (iI σ.fl)) C in_X1 rfl 3 (by decide) q278 (fun _ z => z) hc0 rfl dX1_setFlats_1 ?_
  refine z_istore_n (pc := 4) (L' := [(2, .int (iI σ.fl)), (0, .ref c), (1, .int (iI b))]) C dX1_setFlats_4 rfl (by rw [hnL]; decide) rfl ?_
  refine z_aload_n (pc := 5) (j := 1) C dX1_setFlats_5 rfl rfl ?_
  refine z_iload_n (pc := 6) (j := 2) C dX1_setFlats_6 rfl rfl ?_
  refine z_putfield (pc := 7) (fs' := [.ref A.tx, .int (iI ((σ.tx.length : Nat) : Int)), .int (iI σ.si), .int (iI b), .int (iI σ.wd), .ref A.cu.s, .ref A.dq]) C in_X1 tyX1 tyX1_ok nmX1 rfl 3 (by decide) q278 (fun _ z => z) rfl (i_nz (by omega) (by omega)) (i_fz (by omega) (by omega)) (Nat.le_of_ble_eq_true rfl) hc0 rfl dX1_setFlats_7 ?_
  refine Z.nm (fun h1 eh1 => ?_)
  have kh1 : zkeep h h1 [c, A.tx] := by rw [eh1]; exact zkeep.up zkeep.rf (Or.inl (by simp)) hc0
  have fh1_0 : h1 c = some (true, .inr (0, [.ref A.tx, .int (iI ((σ.tx.length : Nat) : Int)), .int (iI σ.si), .int (iI b), .int (iI σ.wd), .ref A.cu.s, .ref A.dq])) := zse eh1
  have fh1_1 : h1 A.tx = some (true, .inl (.char, 200, tf)) := zsn eh1 htx (Ne.symm (zneA hc0 htx))
  refine z_iload_n (pc := 10) (j := 0) C dX1_setFlats_10 rfl rfl ?_
  exact z_zreturn (pc := 11) C (i_nz (by omega) (by omega)) (by rw [hXp]; exact ⟨_, rfl, rfl, csW.upC (τ := ((σ.tx, σ.si, b, σ.wd, σ.sh, σ.hi) : zSt)) hW kh1 rfl fh1_0 fh1_1 hch rfl rfl ⟨rsi, hb, rwd, rtl, rtx, rsh0, rhi, rhl⟩, kh1⟩) dX1_setFlats_11
set_option maxHeartbeats 4000000 in
theorem op_setWidth {l : Launch} (hl : l.stackTraces = false) {Γ : zCx} {h : zH} {c : Nat} {A : zWA} {σ : zSt} (hW : csW Γ h c A σ) {b : Int} (hb : 10 ≤ b ∧ b ≤ 200)  : zMet l yX1_setWidth (ws_ yX1_setWidth cX1_setWidth 3 (some .int)) ({ frames := 1, cells := 0, slots := 0, locals := 25 }) Γ h [.ref c, .int (iI b)] (zrt (fun w h' => w = some (.int (iI (σ.wd))) ∧ csW Γ h' c A ((σ.tx, σ.si, σ.fl, b, σ.sh, σ.hi) : zSt) ∧ zkeep h h' [c, A.tx])) 0 0 := by
  refine zMet.of (cc := cX1_setWidth) hl (plainFor_of_name (by decide +kernel)) (Nat.le_of_ble_eq_true rfl) ?_
  intro X hXl hXΓ hXp C hnm hnL
  have C : zC X cX1_setWidth RX1 (some .int) 1 25 [] := C
  have hnL : X.2.1.2.2.2.2 = 3 := hnL
  subst hXl hXΓ
  show Z X h 0 0 [(0, .ref c), (1, .int (iI b))] 0 []
  obtain ⟨⟨tf, hc0, htx, hch⟩, hdq, ⟨lq, kq, lys, ys, hsx, hfl, hls, hl0, hyc, hkx⟩, hhi, hnd, hR⟩ := id hW
  obtain ⟨rsi, rff, rwd, rtl, rtx, rsh, rhi, rhl⟩ := id hR
  obtain ⟨rcl, rcr, rll, rlt, rkt, rkm, rks⟩ := rsh
  have hll := hls.len
  have hyl := hyc.len
  obtain ⟨lm, le0, ln0, lf, hlq, hle, hln, hlN, hlx⟩ := id hfl
  have hxw := hl0
  obtain ⟨mw, fw, law, lew, lzw, ltw, lnw, lcw, lxw, lqw⟩ := hxw
  have hcl := hyc.cl lxw
  have rsh0 := hR.2.2.2.2.2.1
  refine z_iload_n (pc := 0) (j := 1) C dX1_setWidth_0 rfl rfl ?_
  refine z_i2lI (pc := 1) C dX1_setWidth_1 (by omega) ?_
  refine z_ldc2 (pc := 2) (v := lI 10) C q1679 dX1_setWidth_2 ?_
  refine z_ldc2 (pc := 5) (v := lI 200) C q1680 dX1_setWidth_5 ?_
  refine z_callS (pc := 8) (n := 3) (kc' := 0) (ks' := 0) C (ct_isIn C.t (a := b) (b := 10) (c := 200) (by omega) (by decide) (by decide)) (lw_S q1647 q1648 q63 q1649) (by decide +kernel) ⟨by decide, by decide⟩ rfl rfl (Nat.le_of_ble_eq_true rfl) dX1_setWidth_8 (by omega) (by omega) (zpk (st' := [.int (iI (if 10 ≤ b ∧ b ≤ 200 then 1 else 0))]) rfl ?_) zrx
  rw [show ((if 10 ≤ b ∧ b ≤ 200 then 1 else 0) : Int) = 1 from if_pos (by omega)]
  show Z X h 0 0 [(0, .ref c), (1, .int (iI b))] 11 [.int (iI 1)]
  refine z_callS (pc := 11) (n := 1) (kc' := 0) (ks' := 0) C (ct_chkA C.t) (lw_S q1650 q1651 q63 q1652) (by decide +kernel) ⟨by decide, by decide⟩ rfl rfl (Nat.le_of_ble_eq_true rfl) dX1_setWidth_11 (by omega) (by omega) (zpk (st' := []) rfl ?_) zrx
  refine z_aload_n (pc := 14) (j := 0) C dX1_setWidth_14 rfl rfl ?_
  refine z_getfield (pc := 15) (v := .int (iI σ.wd)) C in_X1 rfl 4 (by decide) q279 (fun _ z => z) hc0 rfl dX1_setWidth_15 ?_
  refine z_istore_n (pc := 18) (L' := [(2, .int (iI σ.wd)), (0, .ref c), (1, .int (iI b))]) C dX1_setWidth_18 rfl (by rw [hnL]; decide) rfl ?_
  refine z_aload_n (pc := 19) (j := 1) C dX1_setWidth_19 rfl rfl ?_
  refine z_iload_n (pc := 20) (j := 2) C dX1_setWidth_20 rfl rfl ?_
  refine z_putfield (pc := 21) (fs' := [.ref A.tx, .int (iI ((σ.tx.length : Nat) : Int)), .int (iI σ.si), .int (iI σ.fl), .int (iI b), .ref A.cu.s, .ref A.dq]) C in_X1 tyX1 tyX1_ok nmX1 rfl 4 (by decide) q279 (fun _ z => z) rfl rfl rfl (Nat.le_of_ble_eq_true rfl) hc0 rfl dX1_setWidth_21 ?_
  refine Z.nm (fun h1 eh1 => ?_)
  have kh1 : zkeep h h1 [c, A.tx] := by rw [eh1]; exact zkeep.up zkeep.rf (Or.inl (by simp)) hc0
  have fh1_0 : h1 c = some (true, .inr (0, [.ref A.tx, .int (iI ((σ.tx.length : Nat) : Int)), .int (iI σ.si), .int (iI σ.fl), .int (iI b), .ref A.cu.s, .ref A.dq])) := zse eh1
  have fh1_1 : h1 A.tx = some (true, .inl (.char, 200, tf)) := zsn eh1 htx (Ne.symm (zneA hc0 htx))
  refine z_iload_n (pc := 24) (j := 0) C dX1_setWidth_24 rfl rfl ?_
  exact z_ireturn (pc := 25) C (by rw [hXp]; exact ⟨_, rfl, rfl, csW.upC (τ := ((σ.tx, σ.si, σ.fl, b, σ.sh, σ.hi) : zSt)) hW kh1 rfl fh1_0 fh1_1 hch rfl rfl ⟨rsi, rff, hb, rtl, rtx, rsh0, rhi, rhl⟩, kh1⟩) dX1_setWidth_25
set_option maxHeartbeats 4000000 in
theorem op_setWidth_b {l : Launch} (hl : l.stackTraces = false) {Γ : zCx} {h : zH} {c : Nat} {A : zWA} {σ : zSt} (hW : csW Γ h c A σ) {b : Int} (hr : -2147483648 ≤ b ∧ b ≤ 2147483647) (hb : ¬ (10 ≤ b ∧ b ≤ 200))  : zMet l yX1_setWidth (ws_ yX1_setWidth cX1_setWidth 3 (some .int)) ({ frames := 7, cells := 1, slots := 6, locals := 101 }) Γ h [.ref c, .int (iI b)] (zthp h "java/lang/IllegalArgumentException") 1 6 := by
  refine zMet.of (cc := cX1_setWidth) hl (plainFor_of_name (by decide +kernel)) (Nat.le_of_ble_eq_true rfl) ?_
  intro X hXl hXΓ hXp C hnm hnL
  have C : zC X cX1_setWidth RX1 (some .int) 7 101 [] := C
  have hnL : X.2.1.2.2.2.2 = 3 := hnL
  subst hXl hXΓ
  show Z X h 1 6 [(0, .ref c), (1, .int (iI b))] 0 []
  obtain ⟨⟨tf, hc0, htx, hch⟩, hdq, ⟨lq, kq, lys, ys, hsx, hfl, hls, hl0, hyc, hkx⟩, hhi, hnd, hR⟩ := id hW
  obtain ⟨rsi, rff, rwd, rtl, rtx, rsh, rhi, rhl⟩ := id hR
  obtain ⟨rcl, rcr, rll, rlt, rkt, rkm, rks⟩ := rsh
  have hll := hls.len
  have hyl := hyc.len
  obtain ⟨lm, le0, ln0, lf, hlq, hle, hln, hlN, hlx⟩ := id hfl
  have hxw := hl0
  obtain ⟨mw, fw, law, lew, lzw, ltw, lnw, lcw, lxw, lqw⟩ := hxw
  have hcl := hyc.cl lxw
  refine z_iload_n (pc := 0) (j := 1) C dX1_setWidth_0 rfl rfl ?_
  refine z_i2lI (pc := 1) C dX1_setWidth_1 (by omega) ?_
  refine z_ldc2 (pc := 2) (v := lI 10) C q1679 dX1_setWidth_2 ?_
  refine z_ldc2 (pc := 5) (v := lI 200) C q1680 dX1_setWidth_5 ?_
  refine z_callS (pc := 8) (n := 3) (kc' := 1) (ks' := 6) C (ct_isIn C.t (a := b) (b := 10) (c := 200) (by omega) (by decide) (by decide)) (lw_S q1647 q1648 q63 q1649) (by decide +kernel) ⟨by decide, by decide⟩ rfl rfl (Nat.le_of_ble_eq_true rfl) dX1_setWidth_8 (by omega) (by omega) (zpk (st' := [.int (iI (if 10 ≤ b ∧ b ≤ 200 then 1 else 0))]) rfl ?_) zrx
  rw [show ((if 10 ≤ b ∧ b ≤ 200 then 1 else 0) : Int) = 0 from if_neg (by omega)]
  show Z X h 1 6 [(0, .ref c), (1, .int (iI b))] 11 [.int (iI 0)]
  refine z_callS (pc := 11) (n := 1) (kc' := 0) (ks' := 0) C (ct_chkAb C.t ) (lw_S q1650 q1651 q63 q1652) (by decide +kernel) ⟨by decide, by decide⟩ rfl rfl (Nat.le_of_ble_eq_true rfl) dX1_setWidth_11 (by omega) (by omega) zthk (zthx fun q2 h1 hp => ?_)
  rw [hp]
  exact zx_out C (fun x hx => nomatch hx) (by rw [hXp]; exact ⟨_, rfl, rfl⟩)
set_option maxHeartbeats 4000000 in
theorem op_type {l : Launch} (hl : l.stackTraces = false) {Γ : zCx} {h : zH} {c : Nat} {A : zWA} {σ : zSt} (hW : csW Γ h c A σ) {b : Int} (hb : 32 ≤ b ∧ b ≤ 126) (hl8 : σ.tx.length < 200)  : zMet l yX1_type (ws_ yX1_type cX1_type 2 (some .int)) ({ frames := 1, cells := 0, slots := 0, locals := 25 }) Γ h [.ref c, .int (iI b)] (zrt (fun w h' => w = some (.int (iI (((σ.tx.length : Nat) : Int) + 1))) ∧ csW Γ h' c A ((σ.tx ++ [b], σ.si, σ.fl, σ.wd, σ.sh, σ.hi) : zSt) ∧ zkeep h h' [c, A.tx])) 0 0 := by
  refine zMet.of (cc := cX1_type) hl (plainFor_of_name (by decide +kernel)) (Nat.le_of_ble_eq_true rfl) ?_
  intro X hXl hXΓ hXp C hnm hnL
  have C : zC X cX1_type RX1 (some .int) 1 25 [] := C
  have hnL : X.2.1.2.2.2.2 = 2 := hnL
  subst hXl hXΓ
  show Z X h 0 0 [(0, .ref c), (1, .int (iI b))] 0 []
  obtain ⟨⟨tf, hc0, htx, hch⟩, hdq, ⟨lq, kq, lys, ys, hsx, hfl, hls, hl0, hyc, hkx⟩, hhi, hnd, hR⟩ := id hW
  obtain ⟨rsi, rff, rwd, rtl, rtx, rsh, rhi, rhl⟩ := id hR
  obtain ⟨rcl, rcr, rll, rlt, rkt, rkm, rks⟩ := rsh
  have hll := hls.len
  have hyl := hyc.len
  obtain ⟨lm, le0, ln0, lf, hlq, hle, hln, hlN, hlx⟩ := id hfl
  have hxw := hl0
  obtain ⟨mw, fw, law, lew, lzw, ltw, lnw, lcw, lxw, lqw⟩ := hxw
  have hcl := hyc.cl lxw
  have rsh0 := hR.2.2.2.2.2.1
  refine z_iload_n (pc := 0) (j := 1) C dX1_type_0 rfl rfl ?_
  refine z_i2lI (pc := 1) C dX1_type_1 (by omega) ?_
  refine z_ldc2 (pc := 2) (v := lI 32) C q1645 dX1_type_2 ?_
  refine z_ldc2 (pc := 5) (v := lI 126) C q1646 dX1_type_5 ?_
  refine z_callS (pc := 8) (n := 3) (kc' := 0) (ks' := 0) C (ct_isIn C.t (a := b) (b := 32) (c := 126) (by omega) (by decide) (by decide)) (lw_S q1647 q1648 q63 q1649) (by decide +kernel) ⟨by decide, by decide⟩ rfl rfl (Nat.le_of_ble_eq_true rfl) dX1_type_8 (by omega) (by omega) (zpk (st' := [.int (iI (if 32 ≤ b ∧ b ≤ 126 then 1 else 0))]) rfl ?_) zrx
  rw [show ((if 32 ≤ b ∧ b ≤ 126 then 1 else 0) : Int) = 1 from if_pos (by omega)]
  show Z X h 0 0 [(0, .ref c), (1, .int (iI b))] 11 [.int (iI 1)]
  refine z_callS (pc := 11) (n := 1) (kc' := 0) (ks' := 0) C (ct_chkA C.t) (lw_S q1650 q1651 q63 q1652) (by decide +kernel) ⟨by decide, by decide⟩ rfl rfl (Nat.le_of_ble_eq_true rfl) dX1_type_11 (by omega) (by omega) (zpk (st' := []) rfl ?_) zrx
  refine z_aload_n (pc := 14) (j := 0) C dX1_type_14 rfl rfl ?_
  refine z_getfield (pc := 15) (v := .int (iI ((σ.tx.length : Nat) : Int))) C in_X1 rfl 1 (by decide) q276 (fun _ z => z) hc0 rfl dX1_type_15 ?_
  refine z_sipush (pc := 18) C dX1_type_18 (by decide) ?_
  refine z_icmp_ge (pc := 21) (tgt := 28) C dX1_type_21 (by decide) (by omega) (by decide) (fun c21 => by exfalso; omega) (fun c21 => ?_)
  refine z_iconst (pc := 24) C dX1_type_24 ?_
  refine z_goto (pc := 25) (tgt := 29) C dX1_type_25 (by decide) ?_
  refine z_callS (pc := 29) (n := 1) (kc' := 0) (ks' := 0) C (ct_chkS C.t) (lw_S q1664 q1665 q63 q1666) (by decide +kernel) ⟨by decide, by decide⟩ rfl rfl (Nat.le_of_ble_eq_true rfl) dX1_type_29 (by omega) (by omega) (zpk (st' := []) rfl ?_) zrx
  refine z_aload_n (pc := 32) (j := 0) C dX1_type_32 rfl rfl ?_
  refine z_getfield (pc := 33) (v := .ref A.tx) C in_X1 rfl 0 (by decide) q273 (fun _ z => z) hc0 rfl dX1_type_33 ?_
  refine z_aload_n (pc := 36) (j := 0) C dX1_type_36 rfl rfl ?_
  refine z_getfield (pc := 37) (v := .int (iI ((σ.tx.length : Nat) : Int))) C in_X1 rfl 1 (by decide) q276 (fun _ z => z) hc0 rfl dX1_type_37 ?_
  refine z_iload_n (pc := 40) (j := 1) C dX1_type_40 rfl rfl ?_
  refine z_i2cI (pc := 41) C (by omega) dX1_type_41 ?_
  refine z_castore (pc := 42) (f' := updV tf σ.tx.length (.int (iI b))) C (i_nc (by omega) (by omega)) htx (by omega) rfl dX1_type_42 ?_
  refine Z.nm (fun h1 eh1 => ?_)
  have kh1 : zkeep h h1 [c, A.tx] := by rw [eh1]; exact zkeep.up zkeep.rf (Or.inl (by simp)) htx
  have fh1_0 : h1 A.tx = some (true, .inl (.char, 200, updV tf σ.tx.length (.int (iI b)))) := zse eh1
  have fh1_1 : h1 c = some (true, .inr (0, [.ref A.tx, .int (iI ((σ.tx.length : Nat) : Int)), .int (iI σ.si), .int (iI σ.fl), .int (iI σ.wd), .ref A.cu.s, .ref A.dq])) := zsn eh1 hc0 (zneA hc0 htx)
  refine z_aload_n (pc := 43) (j := 0) C dX1_type_43 rfl rfl ?_
  refine z_dup (pc := 44) C dX1_type_44 rfl ?_
  refine z_getfield (pc := 45) (v := .int (iI ((σ.tx.length : Nat) : Int))) C in_X1 rfl 1 (by decide) q276 (fun _ z => z) fh1_1 rfl dX1_type_45 ?_
  refine z_iconst (pc := 48) C dX1_type_48 ?_
  refine z_iadd (pc := 49) C dX1_type_49 ?_
  refine z_putfield (pc := 50) (fs' := [.ref A.tx, .int (iI (((σ.tx.length : Nat) : Int) + 1)), .int (iI σ.si), .int (iI σ.fl), .int (iI σ.wd), .ref A.cu.s, .ref A.dq]) C in_X1 tyX1 tyX1_ok nmX1 rfl 1 (by decide) q276 (fun _ z => z) rfl rfl rfl (Nat.le_of_ble_eq_true rfl) fh1_1 rfl dX1_type_50 ?_
  refine Z.nm (fun h2 eh2 => ?_)
  have kh2 : zkeep h h2 [c, A.tx] := by rw [eh2]; exact zkeep.up kh1 (Or.inl (by simp)) fh1_1
  have fh2_0 : h2 c = some (true, .inr (0, [.ref A.tx, .int (iI (((σ.tx.length : Nat) : Int) + 1)), .int (iI σ.si), .int (iI σ.fl), .int (iI σ.wd), .ref A.cu.s, .ref A.dq])) := zse eh2
  have fh2_1 : h2 A.tx = some (true, .inl (.char, 200, updV tf σ.tx.length (.int (iI b)))) := zsn eh2 fh1_0 (Ne.symm (zneA fh1_1 fh1_0))
  refine z_aload_n (pc := 53) (j := 0) C dX1_type_53 rfl rfl ?_
  refine z_getfield (pc := 54) (v := .int (iI (((σ.tx.length : Nat) : Int) + 1))) C in_X1 rfl 1 (by decide) q276 (fun _ z => z) fh2_0 rfl dX1_type_54 ?_
  exact z_ireturn (pc := 57) C (by rw [hXp]; exact ⟨_, rfl, rfl, csW.upC (τ := ((σ.tx ++ [b], σ.si, σ.fl, σ.wd, σ.sh, σ.hi) : zSt)) hW kh2 (rtl_len (b := b)) fh2_0 fh2_1 (gx_put (cap := 200) hl8 hch) rfl rfl ⟨rsi, rff, rwd, rtl_app hl8, rtx_app rtx hb, rsh0, rhi, rhl⟩, kh2⟩) dX1_type_57
set_option maxHeartbeats 4000000 in
theorem op_type_b1 {l : Launch} (hl : l.stackTraces = false) {Γ : zCx} {h : zH} {c : Nat} {A : zWA} {σ : zSt} (hW : csW Γ h c A σ) {b : Int} (hr : -2147483648 ≤ b ∧ b ≤ 2147483647) (hb : ¬ (32 ≤ b ∧ b ≤ 126))  : zMet l yX1_type (ws_ yX1_type cX1_type 2 (some .int)) ({ frames := 7, cells := 1, slots := 6, locals := 101 }) Γ h [.ref c, .int (iI b)] (zthp h "java/lang/IllegalArgumentException") 1 6 := by
  refine zMet.of (cc := cX1_type) hl (plainFor_of_name (by decide +kernel)) (Nat.le_of_ble_eq_true rfl) ?_
  intro X hXl hXΓ hXp C hnm hnL
  have C : zC X cX1_type RX1 (some .int) 7 101 [] := C
  have hnL : X.2.1.2.2.2.2 = 2 := hnL
  subst hXl hXΓ
  show Z X h 1 6 [(0, .ref c), (1, .int (iI b))] 0 []
  obtain ⟨⟨tf, hc0, htx, hch⟩, hdq, ⟨lq, kq, lys, ys, hsx, hfl, hls, hl0, hyc, hkx⟩, hhi, hnd, hR⟩ := id hW
  obtain ⟨rsi, rff, rwd, rtl, rtx, rsh, rhi, rhl⟩ := id hR
  obtain ⟨rcl, rcr, rll, rlt, rkt, rkm, rks⟩ := rsh
  have hll := hls.len
  have hyl := hyc.len
  obtain ⟨lm, le0, ln0, lf, hlq, hle, hln, hlN, hlx⟩ := id hfl
  have hxw := hl0
  obtain ⟨mw, fw, law, lew, lzw, ltw, lnw, lcw, lxw, lqw⟩ := hxw
  have hcl := hyc.cl lxw
  refine z_iload_n (pc := 0) (j := 1) C dX1_type_0 rfl rfl ?_
  refine z_i2lI (pc := 1) C dX1_type_1 (by omega) ?_
  refine z_ldc2 (pc := 2) (v := lI 32) C q1645 dX1_type_2 ?_
  refine z_ldc2 (pc := 5) (v := lI 126) C q1646 dX1_type_5 ?_
  refine z_callS (pc := 8) (n := 3) (kc' := 1) (ks' := 6) C (ct_isIn C.t (a := b) (b := 32) (c := 126) (by omega) (by decide) (by decide)) (lw_S q1647 q1648 q63 q1649) (by decide +kernel) ⟨by decide, by decide⟩ rfl rfl (Nat.le_of_ble_eq_true rfl) dX1_type_8 (by omega) (by omega) (zpk (st' := [.int (iI (if 32 ≤ b ∧ b ≤ 126 then 1 else 0))]) rfl ?_) zrx
  rw [show ((if 32 ≤ b ∧ b ≤ 126 then 1 else 0) : Int) = 0 from if_neg (by omega)]
  show Z X h 1 6 [(0, .ref c), (1, .int (iI b))] 11 [.int (iI 0)]
  refine z_callS (pc := 11) (n := 1) (kc' := 0) (ks' := 0) C (ct_chkAb C.t ) (lw_S q1650 q1651 q63 q1652) (by decide +kernel) ⟨by decide, by decide⟩ rfl rfl (Nat.le_of_ble_eq_true rfl) dX1_type_11 (by omega) (by omega) zthk (zthx fun q2 h1 hp => ?_)
  rw [hp]
  exact zx_out C (fun x hx => nomatch hx) (by rw [hXp]; exact ⟨_, rfl, rfl⟩)
set_option maxHeartbeats 4000000 in
theorem op_type_b2 {l : Launch} (hl : l.stackTraces = false) {Γ : zCx} {h : zH} {c : Nat} {A : zWA} {σ : zSt} (hW : csW Γ h c A σ) {b : Int} (hb : 32 ≤ b ∧ b ≤ 126) (hl8 : σ.tx.length = 200)  : zMet l yX1_type (ws_ yX1_type cX1_type 2 (some .int)) ({ frames := 7, cells := 1, slots := 6, locals := 101 }) Γ h [.ref c, .int (iI b)] (zthp h "java/lang/IllegalStateException") 1 6 := by
  refine zMet.of (cc := cX1_type) hl (plainFor_of_name (by decide +kernel)) (Nat.le_of_ble_eq_true rfl) ?_
  intro X hXl hXΓ hXp C hnm hnL
  have C : zC X cX1_type RX1 (some .int) 7 101 [] := C
  have hnL : X.2.1.2.2.2.2 = 2 := hnL
  subst hXl hXΓ
  show Z X h 1 6 [(0, .ref c), (1, .int (iI b))] 0 []
  obtain ⟨⟨tf, hc0, htx, hch⟩, hdq, ⟨lq, kq, lys, ys, hsx, hfl, hls, hl0, hyc, hkx⟩, hhi, hnd, hR⟩ := id hW
  obtain ⟨rsi, rff, rwd, rtl, rtx, rsh, rhi, rhl⟩ := id hR
  obtain ⟨rcl, rcr, rll, rlt, rkt, rkm, rks⟩ := rsh
  have hll := hls.len
  have hyl := hyc.len
  obtain ⟨lm, le0, ln0, lf, hlq, hle, hln, hlN, hlx⟩ := id hfl
  have hxw := hl0
  obtain ⟨mw, fw, law, lew, lzw, ltw, lnw, lcw, lxw, lqw⟩ := hxw
  have hcl := hyc.cl lxw
  refine z_iload_n (pc := 0) (j := 1) C dX1_type_0 rfl rfl ?_
  refine z_i2lI (pc := 1) C dX1_type_1 (by omega) ?_
  refine z_ldc2 (pc := 2) (v := lI 32) C q1645 dX1_type_2 ?_
  refine z_ldc2 (pc := 5) (v := lI 126) C q1646 dX1_type_5 ?_
  refine z_callS (pc := 8) (n := 3) (kc' := 1) (ks' := 6) C (ct_isIn C.t (a := b) (b := 32) (c := 126) (by omega) (by decide) (by decide)) (lw_S q1647 q1648 q63 q1649) (by decide +kernel) ⟨by decide, by decide⟩ rfl rfl (Nat.le_of_ble_eq_true rfl) dX1_type_8 (by omega) (by omega) (zpk (st' := [.int (iI (if 32 ≤ b ∧ b ≤ 126 then 1 else 0))]) rfl ?_) zrx
  rw [show ((if 32 ≤ b ∧ b ≤ 126 then 1 else 0) : Int) = 1 from if_pos (by omega)]
  show Z X h 1 6 [(0, .ref c), (1, .int (iI b))] 11 [.int (iI 1)]
  refine z_callS (pc := 11) (n := 1) (kc' := 1) (ks' := 6) C (ct_chkA C.t) (lw_S q1650 q1651 q63 q1652) (by decide +kernel) ⟨by decide, by decide⟩ rfl rfl (Nat.le_of_ble_eq_true rfl) dX1_type_11 (by omega) (by omega) (zpk (st' := []) rfl ?_) zrx
  refine z_aload_n (pc := 14) (j := 0) C dX1_type_14 rfl rfl ?_
  refine z_getfield (pc := 15) (v := .int (iI ((σ.tx.length : Nat) : Int))) C in_X1 rfl 1 (by decide) q276 (fun _ z => z) hc0 rfl dX1_type_15 ?_
  refine z_sipush (pc := 18) C dX1_type_18 (by decide) ?_
  refine z_icmp_ge (pc := 21) (tgt := 28) C dX1_type_21 (by decide) (by omega) (by decide) (fun c21 => ?_) (fun c21 => by exfalso; omega)
  refine z_iconst (pc := 28) C dX1_type_28 ?_
  refine z_callS (pc := 29) (n := 1) (kc' := 0) (ks' := 0) C (ct_chkSb C.t ) (lw_S q1664 q1665 q63 q1666) (by decide +kernel) ⟨by decide, by decide⟩ rfl rfl (Nat.le_of_ble_eq_true rfl) dX1_type_29 (by omega) (by omega) zthk (zthx fun q2 h1 hp => ?_)
  rw [hp]
  exact zx_out C (fun x hx => nomatch hx) (by rw [hXp]; exact ⟨_, rfl, rfl⟩)

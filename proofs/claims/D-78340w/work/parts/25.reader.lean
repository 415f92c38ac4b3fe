/-! 25.reader.lean.txt -/
set_option maxRecDepth 100000
abbrev cX5_peek : ByteArray := prog_4_method_2_code
def yX5_peek : MethodName := ⟨RX5, "peek", "()C"⟩
def dkwX5_peek_1 : List UInt8 := [180, 0, 15, 52, 167, 0, 4, 3, 172]
abbrev dktX5_peek_1 : List UInt8 := dkwX5_peek_1 ++ []
def dkwX5_peek_0 : List UInt8 := [42, 180, 0, 15, 42, 180, 0, 3, 180, 0, 19, 162, 0, 18, 42, 180, 0, 3, 180, 0, 22, 42]
abbrev dktX5_peek_0 : List UInt8 := dkwX5_peek_0 ++ dktX5_peek_1
theorem dksX5_peek_0 : cX5_peek.data.toList.drop 0 = dktX5_peek_0 := by decide +kernel
theorem dksX5_peek_1 : cX5_peek.data.toList.drop 22 = dktX5_peek_1 := dk_seg dksX5_peek_0 22 rfl rfl
abbrev cX5_note : ByteArray := prog_4_method_3_code
def yX5_note : MethodName := ⟨RX5, "note", "()I"⟩
def dkwX5_note_4 : List UInt8 := [18, 26, 182, 0, 43, 116, 96, 60, 42, 89, 180, 0, 15, 4, 96, 181, 0, 15, 27, 172]
abbrev dktX5_note_4 : List UInt8 := dkwX5_note_4 ++ []
def dkwX5_note_3 : List UInt8 := [16, 98, 160, 0, 39, 27, 42, 182, 0, 28, 16, 35, 160, 0, 11, 18, 26, 182, 0, 43, 167, 0, 9]
abbrev dktX5_note_3 : List UInt8 := dkwX5_note_3 ++ dktX5_note_4
def dkwX5_note_2 : List UInt8 := [42, 89, 180, 0, 15, 4, 96, 181, 0, 15, 42, 182, 0, 28, 16, 35, 159, 0, 12, 42, 182, 0, 28]
abbrev dktX5_note_2 : List UInt8 := dkwX5_note_2 ++ dktX5_note_3
def dkwX5_note_1 : List UInt8 := [100, 167, 0, 5, 16, 254, 60, 27, 2, 162, 0, 15, 187, 0, 38, 89, 42, 180, 0, 15, 183, 0, 40, 191]
abbrev dktX5_note_1 : List UInt8 := dkwX5_note_1 ++ dktX5_note_2
def dkwX5_note_0 : List UInt8 := [42, 180, 0, 15, 42, 180, 0, 3, 180, 0, 19, 162, 0, 17, 18, 26, 42, 182, 0, 28, 182, 0, 32, 4]
abbrev dktX5_note_0 : List UInt8 := dkwX5_note_0 ++ dktX5_note_1
theorem dksX5_note_0 : cX5_note.data.toList.drop 0 = dktX5_note_0 := by decide +kernel
theorem dksX5_note_1 : cX5_note.data.toList.drop 24 = dktX5_note_1 := dk_seg dksX5_note_0 24 rfl rfl
theorem dksX5_note_2 : cX5_note.data.toList.drop 48 = dktX5_note_2 := dk_seg dksX5_note_1 24 rfl rfl
theorem dksX5_note_3 : cX5_note.data.toList.drop 71 = dktX5_note_3 := dk_seg dksX5_note_2 23 rfl rfl
theorem dksX5_note_4 : cX5_note.data.toList.drop 94 = dktX5_note_4 := dk_seg dksX5_note_3 23 rfl rfl
abbrev cX5_isBegun : ByteArray := prog_4_method_4_code
def yX5_isBegun : MethodName := ⟨RX5, "isBegun", "(Ljava/lang/String;I)Z"⟩
def dkwX5_isBegun_3 : List UInt8 := [21, 4, 172]
abbrev dktX5_isBegun_3 : List UInt8 := dkwX5_isBegun_3 ++ []
def dkwX5_isBegun_2 : List UInt8 := [180, 0, 22, 28, 21, 5, 96, 52, 160, 0, 7, 4, 167, 0, 4, 3, 54, 4, 132, 5, 1, 167, 255, 214]
abbrev dktX5_isBegun_2 : List UInt8 := dkwX5_isBegun_2 ++ dktX5_isBegun_3
def dkwX5_isBegun_1 : List UInt8 := [3, 54, 5, 21, 4, 153, 0, 43, 21, 5, 29, 162, 0, 37, 43, 21, 5, 182, 0, 47, 42, 180, 0, 3]
abbrev dktX5_isBegun_1 : List UInt8 := dkwX5_isBegun_1 ++ dktX5_isBegun_2
def dkwX5_isBegun_0 : List UInt8 := [42, 180, 0, 15, 28, 100, 4, 96, 62, 43, 182, 0, 43, 29, 161, 0, 7, 4, 167, 0, 4, 3, 54, 4]
abbrev dktX5_isBegun_0 : List UInt8 := dkwX5_isBegun_0 ++ dktX5_isBegun_1
theorem dksX5_isBegun_0 : cX5_isBegun.data.toList.drop 0 = dktX5_isBegun_0 := by decide +kernel
theorem dksX5_isBegun_1 : cX5_isBegun.data.toList.drop 24 = dktX5_isBegun_1 := dk_seg dksX5_isBegun_0 24 rfl rfl
theorem dksX5_isBegun_2 : cX5_isBegun.data.toList.drop 48 = dktX5_isBegun_2 := dk_seg dksX5_isBegun_1 24 rfl rfl
theorem dksX5_isBegun_3 : cX5_isBegun.data.toList.drop 72 = dktX5_isBegun_3 := dk_seg dksX5_isBegun_2 24 rfl rfl
abbrev cX5_isWhole : ByteArray := prog_4_method_7_code
def yX5_isWhole : MethodName := ⟨RX5, "isWhole", "(Ljava/lang/String;I)Z"⟩
def dkwX5_isWhole_2 : List UInt8 := [167, 255, 213, 29, 172]
abbrev dktX5_isWhole_2 : List UInt8 := dkwX5_isWhole_2 ++ []
def dkwX5_isWhole_1 : List UInt8 := [42, 180, 0, 3, 180, 0, 22, 28, 21, 4, 96, 52, 160, 0, 7, 4, 167, 0, 4, 3, 62, 132, 4, 1]
abbrev dktX5_isWhole_1 : List UInt8 := dkwX5_isWhole_1 ++ dktX5_isWhole_2
def dkwX5_isWhole_0 : List UInt8 := [4, 62, 3, 54, 4, 29, 153, 0, 45, 21, 4, 43, 182, 0, 43, 162, 0, 36, 43, 21, 4, 182, 0, 47]
abbrev dktX5_isWhole_0 : List UInt8 := dkwX5_isWhole_0 ++ dktX5_isWhole_1
theorem dksX5_isWhole_0 : cX5_isWhole.data.toList.drop 0 = dktX5_isWhole_0 := by decide +kernel
theorem dksX5_isWhole_1 : cX5_isWhole.data.toList.drop 24 = dktX5_isWhole_1 := dk_seg dksX5_isWhole_0 24 rfl rfl
theorem dksX5_isWhole_2 : cX5_isWhole.data.toList.drop 48 = dktX5_isWhole_2 := dk_seg dksX5_isWhole_1 24 rfl rfl
abbrev cX5_goesOn : ByteArray := prog_4_method_5_code
def yX5_goesOn : MethodName := ⟨RX5, "goesOn", "(I)Z"⟩
def dkwX5_goesOn_1 : List UInt8 := [28, 42, 29, 184, 0, 51, 27, 182, 0, 55, 128, 61, 132, 3, 1, 167, 255, 221, 28, 172]
abbrev dktX5_goesOn_1 : List UInt8 := dkwX5_goesOn_1 ++ []
def dkwX5_goesOn_0 : List UInt8 := [3, 61, 3, 62, 29, 16, 10, 162, 0, 35, 42, 180, 0, 15, 42, 180, 0, 3, 180, 0, 19, 162, 0, 21]
abbrev dktX5_goesOn_0 : List UInt8 := dkwX5_goesOn_0 ++ dktX5_goesOn_1
theorem dksX5_goesOn_0 : cX5_goesOn.data.toList.drop 0 = dktX5_goesOn_0 := by decide +kernel
theorem dksX5_goesOn_1 : cX5_goesOn.data.toList.drop 24 = dktX5_goesOn_1 := dk_seg dksX5_goesOn_0 24 rfl rfl
abbrev cX5_quality : ByteArray := prog_4_method_6_code
def yX5_quality : MethodName := ⟨RX5, "quality", "()I"⟩
def dkwX5_quality_3 : List UInt8 := [187, 0, 38, 89, 42, 180, 0, 15, 183, 0, 40, 191]
abbrev dktX5_quality_3 : List UInt8 := dkwX5_quality_3 ++ []
def dkwX5_quality_2 : List UInt8 := [160, 0, 17, 42, 28, 184, 0, 51, 27, 182, 0, 63, 153, 0, 5, 28, 172, 132, 2, 1, 167, 255, 217]
abbrev dktX5_quality_2 : List UInt8 := dkwX5_quality_2 ++ dktX5_quality_3
def dkwX5_quality_1 : List UInt8 := [167, 255, 238, 3, 61, 28, 16, 10, 162, 0, 39, 28, 184, 0, 51, 182, 0, 43, 42, 180, 0, 15, 27, 100]
abbrev dktX5_quality_1 : List UInt8 := dkwX5_quality_1 ++ dktX5_quality_2
def dkwX5_quality_0 : List UInt8 := [42, 180, 0, 15, 60, 42, 27, 182, 0, 59, 153, 0, 16, 42, 89, 180, 0, 15, 4, 96, 181, 0, 15]
abbrev dktX5_quality_0 : List UInt8 := dkwX5_quality_0 ++ dktX5_quality_1
theorem dksX5_quality_0 : cX5_quality.data.toList.drop 0 = dktX5_quality_0 := by decide +kernel
theorem dksX5_quality_1 : cX5_quality.data.toList.drop 23 = dktX5_quality_1 := dk_seg dksX5_quality_0 23 rfl rfl
theorem dksX5_quality_2 : cX5_quality.data.toList.drop 47 = dktX5_quality_2 := dk_seg dksX5_quality_1 24 rfl rfl
theorem dksX5_quality_3 : cX5_quality.data.toList.drop 70 = dktX5_quality_3 := dk_seg dksX5_quality_2 23 rfl rfl
abbrev cX5_chord : ByteArray := prog_4_method_8_code
def yX5_chord : MethodName := ⟨RX5, "chord", "(IIC)LChordSheet$Chord;"⟩
def dkwX5_chord_6 : List UInt8 := [21, 4, 21, 5, 21, 6, 183, 0, 73, 176]
abbrev dktX5_chord_6 : List UInt8 := dkwX5_chord_6 ++ []
def dkwX5_chord_5 : List UInt8 := [180, 0, 15, 183, 0, 40, 191, 42, 89, 180, 0, 15, 4, 96, 181, 0, 15, 187, 0, 71, 89, 27, 28]
abbrev dktX5_chord_5 : List UInt8 := dkwX5_chord_5 ++ dktX5_chord_6
def dkwX5_chord_4 : List UInt8 := [52, 29, 160, 0, 7, 4, 167, 0, 4, 3, 54, 7, 21, 7, 154, 0, 15, 187, 0, 38, 89, 42]
abbrev dktX5_chord_4 : List UInt8 := dkwX5_chord_4 ++ dktX5_chord_5
def dkwX5_chord_3 : List UInt8 := [180, 0, 15, 42, 180, 0, 3, 180, 0, 19, 162, 0, 23, 42, 180, 0, 3, 180, 0, 22, 42, 180, 0, 15]
abbrev dktX5_chord_3 : List UInt8 := dkwX5_chord_3 ++ dktX5_chord_4
def dkwX5_chord_2 : List UInt8 := [180, 0, 15, 42, 180, 0, 3, 180, 0, 19, 160, 0, 7, 4, 167, 0, 42, 3, 167, 0, 38, 42]
abbrev dktX5_chord_2 : List UInt8 := dkwX5_chord_2 ++ dktX5_chord_3
def dkwX5_chord_1 : List UInt8 := [160, 0, 19, 42, 89, 180, 0, 15, 4, 96, 181, 0, 15, 42, 182, 0, 66, 54, 6, 29, 154, 0, 25, 42]
abbrev dktX5_chord_1 : List UInt8 := dkwX5_chord_1 ++ dktX5_chord_2
def dkwX5_chord_0 : List UInt8 := [42, 182, 0, 66, 54, 4, 42, 182, 0, 69, 54, 5, 16, 100, 54, 6, 42, 182, 0, 28, 16, 47]
abbrev dktX5_chord_0 : List UInt8 := dkwX5_chord_0 ++ dktX5_chord_1
theorem dksX5_chord_0 : cX5_chord.data.toList.drop 0 = dktX5_chord_0 := by decide +kernel
theorem dksX5_chord_1 : cX5_chord.data.toList.drop 22 = dktX5_chord_1 := dk_seg dksX5_chord_0 22 rfl rfl
theorem dksX5_chord_2 : cX5_chord.data.toList.drop 46 = dktX5_chord_2 := dk_seg dksX5_chord_1 24 rfl rfl
theorem dksX5_chord_3 : cX5_chord.data.toList.drop 68 = dktX5_chord_3 := dk_seg dksX5_chord_2 22 rfl rfl
theorem dksX5_chord_4 : cX5_chord.data.toList.drop 92 = dktX5_chord_4 := dk_seg dksX5_chord_3 24 rfl rfl
theorem dksX5_chord_5 : cX5_chord.data.toList.drop 114 = dktX5_chord_5 := dk_seg dksX5_chord_4 22 rfl rfl
theorem dksX5_chord_6 : cX5_chord.data.toList.drop 137 = dktX5_chord_6 := dk_seg dksX5_chord_5 23 rfl rfl
theorem dX5_peek_0 : decode cX5_peek 0 = .ok (.aload_n 0, 1) := dk_42 (dk_at dksX5_peek_0 0 rfl rfl)
theorem dX5_peek_1 : decode cX5_peek 1 = .ok (.getfield 15, 3) := dk_180 0 15 (dk_at dksX5_peek_0 1 rfl rfl)
theorem dX5_peek_4 : decode cX5_peek 4 = .ok (.aload_n 0, 1) := dk_42 (dk_at dksX5_peek_0 4 rfl rfl)
theorem dX5_peek_5 : decode cX5_peek 5 = .ok (.getfield 3, 3) := dk_180 0 3 (dk_at dksX5_peek_0 5 rfl rfl)
theorem dX5_peek_8 : decode cX5_peek 8 = .ok (.getfield 19, 3) := dk_180 0 19 (dk_at dksX5_peek_0 8 rfl rfl)
theorem dX5_peek_11 : decode cX5_peek 11 = .ok (.if_icmp .ge 18, 3) := dk_162 0 18 (dk_at dksX5_peek_0 11 rfl rfl)
theorem dX5_peek_14 : decode cX5_peek 14 = .ok (.aload_n 0, 1) := dk_42 (dk_at dksX5_peek_0 14 rfl rfl)
theorem dX5_peek_15 : decode cX5_peek 15 = .ok (.getfield 3, 3) := dk_180 0 3 (dk_at dksX5_peek_0 15 rfl rfl)
theorem dX5_peek_18 : decode cX5_peek 18 = .ok (.getfield 22, 3) := dk_180 0 22 (dk_at dksX5_peek_0 18 rfl rfl)
theorem dX5_peek_21 : decode cX5_peek 21 = .ok (.aload_n 0, 1) := dk_42 (dk_at dksX5_peek_0 21 rfl rfl)
theorem dX5_peek_22 : decode cX5_peek 22 = .ok (.getfield 15, 3) := dk_180 0 15 (dk_at dksX5_peek_1 0 rfl rfl)
theorem dX5_peek_25 : decode cX5_peek 25 = .ok (.caload, 1) := dk_52 (dk_at dksX5_peek_1 3 rfl rfl)
theorem dX5_peek_26 : decode cX5_peek 26 = .ok (.goto 4, 3) := dk_167 0 4 (dk_at dksX5_peek_1 4 rfl rfl)
theorem dX5_peek_29 : decode cX5_peek 29 = .ok (.iconst 0, 1) := dk_3 (dk_at dksX5_peek_1 7 rfl rfl)
theorem dX5_peek_30 : decode cX5_peek 30 = .ok (.ireturn, 1) := dk_172 (dk_at dksX5_peek_1 8 rfl rfl)
theorem dX5_note_0 : decode cX5_note 0 = .ok (.aload_n 0, 1) := dk_42 (dk_at dksX5_note_0 0 rfl rfl)
theorem dX5_note_1 : decode cX5_note 1 = .ok (.getfield 15, 3) := dk_180 0 15 (dk_at dksX5_note_0 1 rfl rfl)
theorem dX5_note_4 : decode cX5_note 4 = .ok (.aload_n 0, 1) := dk_42 (dk_at dksX5_note_0 4 rfl rfl)
theorem dX5_note_5 : decode cX5_note 5 = .ok (.getfield 3, 3) := dk_180 0 3 (dk_at dksX5_note_0 5 rfl rfl)
theorem dX5_note_8 : decode cX5_note 8 = .ok (.getfield 19, 3) := dk_180 0 19 (dk_at dksX5_note_0 8 rfl rfl)
theorem dX5_note_11 : decode cX5_note 11 = .ok (.if_icmp .ge 17, 3) := dk_162 0 17 (dk_at dksX5_note_0 11 rfl rfl)
theorem dX5_note_14 : decode cX5_note 14 = .ok (.ldc 26, 2) := dk_18 26 (dk_at dksX5_note_0 14 rfl rfl)
theorem dX5_note_16 : decode cX5_note 16 = .ok (.aload_n 0, 1) := dk_42 (dk_at dksX5_note_0 16 rfl rfl)
theorem dX5_note_17 : decode cX5_note 17 = .ok (.invokevirtual 28, 3) := dk_182 0 28 (dk_at dksX5_note_0 17 rfl rfl)
theorem dX5_note_20 : decode cX5_note 20 = .ok (.invokevirtual 32, 3) := dk_182 0 32 (dk_at dksX5_note_0 20 rfl rfl)
theorem dX5_note_23 : decode cX5_note 23 = .ok (.iconst 1, 1) := dk_4 (dk_at dksX5_note_0 23 rfl rfl)
theorem dX5_note_24 : decode cX5_note 24 = .ok (.isub, 1) := dk_100 (dk_at dksX5_note_1 0 rfl rfl)
theorem dX5_note_25 : decode cX5_note 25 = .ok (.goto 5, 3) := dk_167 0 5 (dk_at dksX5_note_1 1 rfl rfl)
theorem dX5_note_28 : decode cX5_note 28 = .ok (.bipush (-2), 2) := dk_16 254 (dk_at dksX5_note_1 4 rfl rfl)
theorem dX5_note_30 : decode cX5_note 30 = .ok (.istore_n 1, 1) := dk_60 (dk_at dksX5_note_1 6 rfl rfl)
theorem dX5_note_31 : decode cX5_note 31 = .ok (.iload_n 1, 1) := dk_27 (dk_at dksX5_note_1 7 rfl rfl)
theorem dX5_note_32 : decode cX5_note 32 = .ok (.iconst (-1), 1) := dk_2 (dk_at dksX5_note_1 8 rfl rfl)
theorem dX5_note_33 : decode cX5_note 33 = .ok (.if_icmp .ge 15, 3) := dk_162 0 15 (dk_at dksX5_note_1 9 rfl rfl)
theorem dX5_note_36 : decode cX5_note 36 = .ok (.new 38, 3) := dk_187 0 38 (dk_at dksX5_note_1 12 rfl rfl)
theorem dX5_note_39 : decode cX5_note 39 = .ok (.dup, 1) := dk_89 (dk_at dksX5_note_1 15 rfl rfl)
theorem dX5_note_40 : decode cX5_note 40 = .ok (.aload_n 0, 1) := dk_42 (dk_at dksX5_note_1 16 rfl rfl)
theorem dX5_note_41 : decode cX5_note 41 = .ok (.getfield 15, 3) := dk_180 0 15 (dk_at dksX5_note_1 17 rfl rfl)
theorem dX5_note_44 : decode cX5_note 44 = .ok (.invokespecial 40, 3) := dk_183 0 40 (dk_at dksX5_note_1 20 rfl rfl)
theorem dX5_note_47 : decode cX5_note 47 = .ok (.athrow, 1) := dk_191 (dk_at dksX5_note_1 23 rfl rfl)
theorem dX5_note_48 : decode cX5_note 48 = .ok (.aload_n 0, 1) := dk_42 (dk_at dksX5_note_2 0 rfl rfl)
theorem dX5_note_49 : decode cX5_note 49 = .ok (.dup, 1) := dk_89 (dk_at dksX5_note_2 1 rfl rfl)
theorem dX5_note_50 : decode cX5_note 50 = .ok (.getfield 15, 3) := dk_180 0 15 (dk_at dksX5_note_2 2 rfl rfl)
theorem dX5_note_53 : decode cX5_note 53 = .ok (.iconst 1, 1) := dk_4 (dk_at dksX5_note_2 5 rfl rfl)
theorem dX5_note_54 : decode cX5_note 54 = .ok (.iadd, 1) := dk_96 (dk_at dksX5_note_2 6 rfl rfl)
theorem dX5_note_55 : decode cX5_note 55 = .ok (.putfield 15, 3) := dk_181 0 15 (dk_at dksX5_note_2 7 rfl rfl)
theorem dX5_note_58 : decode cX5_note 58 = .ok (.aload_n 0, 1) := dk_42 (dk_at dksX5_note_2 10 rfl rfl)
theorem dX5_note_59 : decode cX5_note 59 = .ok (.invokevirtual 28, 3) := dk_182 0 28 (dk_at dksX5_note_2 11 rfl rfl)
theorem dX5_note_62 : decode cX5_note 62 = .ok (.bipush 35, 2) := dk_16 35 (dk_at dksX5_note_2 14 rfl rfl)
theorem dX5_note_64 : decode cX5_note 64 = .ok (.if_icmp .eq 12, 3) := dk_159 0 12 (dk_at dksX5_note_2 16 rfl rfl)
theorem dX5_note_67 : decode cX5_note 67 = .ok (.aload_n 0, 1) := dk_42 (dk_at dksX5_note_2 19 rfl rfl)
theorem dX5_note_68 : decode cX5_note 68 = .ok (.invokevirtual 28, 3) := dk_182 0 28 (dk_at dksX5_note_2 20 rfl rfl)
theorem dX5_note_71 : decode cX5_note 71 = .ok (.bipush 98, 2) := dk_16 98 (dk_at dksX5_note_3 0 rfl rfl)
theorem dX5_note_73 : decode cX5_note 73 = .ok (.if_icmp .ne 39, 3) := dk_160 0 39 (dk_at dksX5_note_3 2 rfl rfl)
theorem dX5_note_76 : decode cX5_note 76 = .ok (.iload_n 1, 1) := dk_27 (dk_at dksX5_note_3 5 rfl rfl)
theorem dX5_note_77 : decode cX5_note 77 = .ok (.aload_n 0, 1) := dk_42 (dk_at dksX5_note_3 6 rfl rfl)
theorem dX5_note_78 : decode cX5_note 78 = .ok (.invokevirtual 28, 3) := dk_182 0 28 (dk_at dksX5_note_3 7 rfl rfl)
theorem dX5_note_81 : decode cX5_note 81 = .ok (.bipush 35, 2) := dk_16 35 (dk_at dksX5_note_3 10 rfl rfl)
theorem dX5_note_83 : decode cX5_note 83 = .ok (.if_icmp .ne 11, 3) := dk_160 0 11 (dk_at dksX5_note_3 12 rfl rfl)
theorem dX5_note_86 : decode cX5_note 86 = .ok (.ldc 26, 2) := dk_18 26 (dk_at dksX5_note_3 15 rfl rfl)
theorem dX5_note_88 : decode cX5_note 88 = .ok (.invokevirtual 43, 3) := dk_182 0 43 (dk_at dksX5_note_3 17 rfl rfl)
theorem dX5_note_91 : decode cX5_note 91 = .ok (.goto 9, 3) := dk_167 0 9 (dk_at dksX5_note_3 20 rfl rfl)
theorem dX5_note_94 : decode cX5_note 94 = .ok (.ldc 26, 2) := dk_18 26 (dk_at dksX5_note_4 0 rfl rfl)
theorem dX5_note_96 : decode cX5_note 96 = .ok (.invokevirtual 43, 3) := dk_182 0 43 (dk_at dksX5_note_4 2 rfl rfl)
theorem dX5_note_99 : decode cX5_note 99 = .ok (.ineg, 1) := dk_116 (dk_at dksX5_note_4 5 rfl rfl)
theorem dX5_note_100 : decode cX5_note 100 = .ok (.iadd, 1) := dk_96 (dk_at dksX5_note_4 6 rfl rfl)
theorem dX5_note_101 : decode cX5_note 101 = .ok (.istore_n 1, 1) := dk_60 (dk_at dksX5_note_4 7 rfl rfl)
theorem dX5_note_102 : decode cX5_note 102 = .ok (.aload_n 0, 1) := dk_42 (dk_at dksX5_note_4 8 rfl rfl)
theorem dX5_note_103 : decode cX5_note 103 = .ok (.dup, 1) := dk_89 (dk_at dksX5_note_4 9 rfl rfl)
theorem dX5_note_104 : decode cX5_note 104 = .ok (.getfield 15, 3) := dk_180 0 15 (dk_at dksX5_note_4 10 rfl rfl)
theorem dX5_note_107 : decode cX5_note 107 = .ok (.iconst 1, 1) := dk_4 (dk_at dksX5_note_4 13 rfl rfl)
theorem dX5_note_108 : decode cX5_note 108 = .ok (.iadd, 1) := dk_96 (dk_at dksX5_note_4 14 rfl rfl)
theorem dX5_note_109 : decode cX5_note 109 = .ok (.putfield 15, 3) := dk_181 0 15 (dk_at dksX5_note_4 15 rfl rfl)
theorem dX5_note_112 : decode cX5_note 112 = .ok (.iload_n 1, 1) := dk_27 (dk_at dksX5_note_4 18 rfl rfl)
theorem dX5_note_113 : decode cX5_note 113 = .ok (.ireturn, 1) := dk_172 (dk_at dksX5_note_4 19 rfl rfl)
theorem dX5_isBegun_0 : decode cX5_isBegun 0 = .ok (.aload_n 0, 1) := dk_42 (dk_at dksX5_isBegun_0 0 rfl rfl)
theorem dX5_isBegun_1 : decode cX5_isBegun 1 = .ok (.getfield 15, 3) := dk_180 0 15 (dk_at dksX5_isBegun_0 1 rfl rfl)
theorem dX5_isBegun_4 : decode cX5_isBegun 4 = .ok (.iload_n 2, 1) := dk_28 (dk_at dksX5_isBegun_0 4 rfl rfl)
theorem dX5_isBegun_5 : decode cX5_isBegun 5 = .ok (.isub, 1) := dk_100 (dk_at dksX5_isBegun_0 5 rfl rfl)
theorem dX5_isBegun_6 : decode cX5_isBegun 6 = .ok (.iconst 1, 1) := dk_4 (dk_at dksX5_isBegun_0 6 rfl rfl)
theorem dX5_isBegun_7 : decode cX5_isBegun 7 = .ok (.iadd, 1) := dk_96 (dk_at dksX5_isBegun_0 7 rfl rfl)
theorem dX5_isBegun_8 : decode cX5_isBegun 8 = .ok (.istore_n 3, 1) := dk_62 (dk_at dksX5_isBegun_0 8 rfl rfl)
theorem dX5_isBegun_9 : decode cX5_isBegun 9 = .ok (.aload_n 1, 1) := dk_43 (dk_at dksX5_isBegun_0 9 rfl rfl)
theorem dX5_isBegun_10 : decode cX5_isBegun 10 = .ok (.invokevirtual 43, 3) := dk_182 0 43 (dk_at dksX5_isBegun_0 10 rfl rfl)
theorem dX5_isBegun_13 : decode cX5_isBegun 13 = .ok (.iload_n 3, 1) := dk_29 (dk_at dksX5_isBegun_0 13 rfl rfl)
theorem dX5_isBegun_14 : decode cX5_isBegun 14 = .ok (.if_icmp .lt 7, 3) := dk_161 0 7 (dk_at dksX5_isBegun_0 14 rfl rfl)
theorem dX5_isBegun_17 : decode cX5_isBegun 17 = .ok (.iconst 1, 1) := dk_4 (dk_at dksX5_isBegun_0 17 rfl rfl)
theorem dX5_isBegun_18 : decode cX5_isBegun 18 = .ok (.goto 4, 3) := dk_167 0 4 (dk_at dksX5_isBegun_0 18 rfl rfl)
theorem dX5_isBegun_21 : decode cX5_isBegun 21 = .ok (.iconst 0, 1) := dk_3 (dk_at dksX5_isBegun_0 21 rfl rfl)
theorem dX5_isBegun_22 : decode cX5_isBegun 22 = .ok (.istore 4, 2) := dk_54 4 (dk_at dksX5_isBegun_0 22 rfl rfl)
theorem dX5_isBegun_24 : decode cX5_isBegun 24 = .ok (.iconst 0, 1) := dk_3 (dk_at dksX5_isBegun_1 0 rfl rfl)
theorem dX5_isBegun_25 : decode cX5_isBegun 25 = .ok (.istore 5, 2) := dk_54 5 (dk_at dksX5_isBegun_1 1 rfl rfl)
theorem dX5_isBegun_27 : decode cX5_isBegun 27 = .ok (.iload 4, 2) := dk_21 4 (dk_at dksX5_isBegun_1 3 rfl rfl)
theorem dX5_isBegun_29 : decode cX5_isBegun 29 = .ok (.ifCond .eq 43, 3) := dk_153 0 43 (dk_at dksX5_isBegun_1 5 rfl rfl)
theorem dX5_isBegun_32 : decode cX5_isBegun 32 = .ok (.iload 5, 2) := dk_21 5 (dk_at dksX5_isBegun_1 8 rfl rfl)
theorem dX5_isBegun_34 : decode cX5_isBegun 34 = .ok (.iload_n 3, 1) := dk_29 (dk_at dksX5_isBegun_1 10 rfl rfl)
theorem dX5_isBegun_35 : decode cX5_isBegun 35 = .ok (.if_icmp .ge 37, 3) := dk_162 0 37 (dk_at dksX5_isBegun_1 11 rfl rfl)
theorem dX5_isBegun_38 : decode cX5_isBegun 38 = .ok (.aload_n 1, 1) := dk_43 (dk_at dksX5_isBegun_1 14 rfl rfl)
theorem dX5_isBegun_39 : decode cX5_isBegun 39 = .ok (.iload 5, 2) := dk_21 5 (dk_at dksX5_isBegun_1 15 rfl rfl)
theorem dX5_isBegun_41 : decode cX5_isBegun 41 = .ok (.invokevirtual 47, 3) := dk_182 0 47 (dk_at dksX5_isBegun_1 17 rfl rfl)
theorem dX5_isBegun_44 : decode cX5_isBegun 44 = .ok (.aload_n 0, 1) := dk_42 (dk_at dksX5_isBegun_1 20 rfl rfl)
theorem dX5_isBegun_45 : decode cX5_isBegun 45 = .ok (.getfield 3, 3) := dk_180 0 3 (dk_at dksX5_isBegun_1 21 rfl rfl)
theorem dX5_isBegun_48 : decode cX5_isBegun 48 = .ok (.getfield 22, 3) := dk_180 0 22 (dk_at dksX5_isBegun_2 0 rfl rfl)
theorem dX5_isBegun_51 : decode cX5_isBegun 51 = .ok (.iload_n 2, 1) := dk_28 (dk_at dksX5_isBegun_2 3 rfl rfl)
theorem dX5_isBegun_52 : decode cX5_isBegun 52 = .ok (.iload 5, 2) := dk_21 5 (dk_at dksX5_isBegun_2 4 rfl rfl)
theorem dX5_isBegun_54 : decode cX5_isBegun 54 = .ok (.iadd, 1) := dk_96 (dk_at dksX5_isBegun_2 6 rfl rfl)
theorem dX5_isBegun_55 : decode cX5_isBegun 55 = .ok (.caload, 1) := dk_52 (dk_at dksX5_isBegun_2 7 rfl rfl)
theorem dX5_isBegun_56 : decode cX5_isBegun 56 = .ok (.if_icmp .ne 7, 3) := dk_160 0 7 (dk_at dksX5_isBegun_2 8 rfl rfl)
theorem dX5_isBegun_59 : decode cX5_isBegun 59 = .ok (.iconst 1, 1) := dk_4 (dk_at dksX5_isBegun_2 11 rfl rfl)
theorem dX5_isBegun_60 : decode cX5_isBegun 60 = .ok (.goto 4, 3) := dk_167 0 4 (dk_at dksX5_isBegun_2 12 rfl rfl)
theorem dX5_isBegun_63 : decode cX5_isBegun 63 = .ok (.iconst 0, 1) := dk_3 (dk_at dksX5_isBegun_2 15 rfl rfl)
theorem dX5_isBegun_64 : decode cX5_isBegun 64 = .ok (.istore 4, 2) := dk_54 4 (dk_at dksX5_isBegun_2 16 rfl rfl)
theorem dX5_isBegun_66 : decode cX5_isBegun 66 = .ok (.iinc 5 1, 3) := dk_132 5 1 (dk_at dksX5_isBegun_2 18 rfl rfl)
theorem dX5_isBegun_69 : decode cX5_isBegun 69 = .ok (.goto (-42), 3) := dk_167 255 214 (dk_at dksX5_isBegun_2 21 rfl rfl)
theorem dX5_isBegun_72 : decode cX5_isBegun 72 = .ok (.iload 4, 2) := dk_21 4 (dk_at dksX5_isBegun_3 0 rfl rfl)
theorem dX5_isBegun_74 : decode cX5_isBegun 74 = .ok (.ireturn, 1) := dk_172 (dk_at dksX5_isBegun_3 2 rfl rfl)
theorem dX5_isWhole_0 : decode cX5_isWhole 0 = .ok (.iconst 1, 1) := dk_4 (dk_at dksX5_isWhole_0 0 rfl rfl)
theorem dX5_isWhole_1 : decode cX5_isWhole 1 = .ok (.istore_n 3, 1) := dk_62 (dk_at dksX5_isWhole_0 1 rfl rfl)
theorem dX5_isWhole_2 : decode cX5_isWhole 2 = .ok (.iconst 0, 1) := dk_3 (dk_at dksX5_isWhole_0 2 rfl rfl)
theorem dX5_isWhole_3 : decode cX5_isWhole 3 = .ok (.istore 4, 2) := dk_54 4 (dk_at dksX5_isWhole_0 3 rfl rfl)
theorem dX5_isWhole_5 : decode cX5_isWhole 5 = .ok (.iload_n 3, 1) := dk_29 (dk_at dksX5_isWhole_0 5 rfl rfl)
theorem dX5_isWhole_6 : decode cX5_isWhole 6 = .ok (.ifCond .eq 45, 3) := dk_153 0 45 (dk_at dksX5_isWhole_0 6 rfl rfl)
theorem dX5_isWhole_9 : decode cX5_isWhole 9 = .ok (.iload 4, 2) := dk_21 4 (dk_at dksX5_isWhole_0 9 rfl rfl)
theorem dX5_isWhole_11 : decode cX5_isWhole 11 = .ok (.aload_n 1, 1) := dk_43 (dk_at dksX5_isWhole_0 11 rfl rfl)
theorem dX5_isWhole_12 : decode cX5_isWhole 12 = .ok (.invokevirtual 43, 3) := dk_182 0 43 (dk_at dksX5_isWhole_0 12 rfl rfl)
theorem dX5_isWhole_15 : decode cX5_isWhole 15 = .ok (.if_icmp .ge 36, 3) := dk_162 0 36 (dk_at dksX5_isWhole_0 15 rfl rfl)
theorem dX5_isWhole_18 : decode cX5_isWhole 18 = .ok (.aload_n 1, 1) := dk_43 (dk_at dksX5_isWhole_0 18 rfl rfl)
theorem dX5_isWhole_19 : decode cX5_isWhole 19 = .ok (.iload 4, 2) := dk_21 4 (dk_at dksX5_isWhole_0 19 rfl rfl)
theorem dX5_isWhole_21 : decode cX5_isWhole 21 = .ok (.invokevirtual 47, 3) := dk_182 0 47 (dk_at dksX5_isWhole_0 21 rfl rfl)
theorem dX5_isWhole_24 : decode cX5_isWhole 24 = .ok (.aload_n 0, 1) := dk_42 (dk_at dksX5_isWhole_1 0 rfl rfl)
theorem dX5_isWhole_25 : decode cX5_isWhole 25 = .ok (.getfield 3, 3) := dk_180 0 3 (dk_at dksX5_isWhole_1 1 rfl rfl)
theorem dX5_isWhole_28 : decode cX5_isWhole 28 = .ok (.getfield 22, 3) := dk_180 0 22 (dk_at dksX5_isWhole_1 4 rfl rfl)
theorem dX5_isWhole_31 : decode cX5_isWhole 31 = .ok (.iload_n 2, 1) := dk_28 (dk_at dksX5_isWhole_1 7 rfl rfl)
theorem dX5_isWhole_32 : decode cX5_isWhole 32 = .ok (.iload 4, 2) := dk_21 4 (dk_at dksX5_isWhole_1 8 rfl rfl)
theorem dX5_isWhole_34 : decode cX5_isWhole 34 = .ok (.iadd, 1) := dk_96 (dk_at dksX5_isWhole_1 10 rfl rfl)
theorem dX5_isWhole_35 : decode cX5_isWhole 35 = .ok (.caload, 1) := dk_52 (dk_at dksX5_isWhole_1 11 rfl rfl)
theorem dX5_isWhole_36 : decode cX5_isWhole 36 = .ok (.if_icmp .ne 7, 3) := dk_160 0 7 (dk_at dksX5_isWhole_1 12 rfl rfl)
theorem dX5_isWhole_39 : decode cX5_isWhole 39 = .ok (.iconst 1, 1) := dk_4 (dk_at dksX5_isWhole_1 15 rfl rfl)
theorem dX5_isWhole_40 : decode cX5_isWhole 40 = .ok (.goto 4, 3) := dk_167 0 4 (dk_at dksX5_isWhole_1 16 rfl rfl)
theorem dX5_isWhole_43 : decode cX5_isWhole 43 = .ok (.iconst 0, 1) := dk_3 (dk_at dksX5_isWhole_1 19 rfl rfl)
theorem dX5_isWhole_44 : decode cX5_isWhole 44 = .ok (.istore_n 3, 1) := dk_62 (dk_at dksX5_isWhole_1 20 rfl rfl)
theorem dX5_isWhole_45 : decode cX5_isWhole 45 = .ok (.iinc 4 1, 3) := dk_132 4 1 (dk_at dksX5_isWhole_1 21 rfl rfl)
theorem dX5_isWhole_48 : decode cX5_isWhole 48 = .ok (.goto (-43), 3) := dk_167 255 213 (dk_at dksX5_isWhole_2 0 rfl rfl)
theorem dX5_isWhole_51 : decode cX5_isWhole 51 = .ok (.iload_n 3, 1) := dk_29 (dk_at dksX5_isWhole_2 3 rfl rfl)
theorem dX5_isWhole_52 : decode cX5_isWhole 52 = .ok (.ireturn, 1) := dk_172 (dk_at dksX5_isWhole_2 4 rfl rfl)
theorem dX5_goesOn_0 : decode cX5_goesOn 0 = .ok (.iconst 0, 1) := dk_3 (dk_at dksX5_goesOn_0 0 rfl rfl)
theorem dX5_goesOn_1 : decode cX5_goesOn 1 = .ok (.istore_n 2, 1) := dk_61 (dk_at dksX5_goesOn_0 1 rfl rfl)
theorem dX5_goesOn_2 : decode cX5_goesOn 2 = .ok (.iconst 0, 1) := dk_3 (dk_at dksX5_goesOn_0 2 rfl rfl)
theorem dX5_goesOn_3 : decode cX5_goesOn 3 = .ok (.istore_n 3, 1) := dk_62 (dk_at dksX5_goesOn_0 3 rfl rfl)
theorem dX5_goesOn_4 : decode cX5_goesOn 4 = .ok (.iload_n 3, 1) := dk_29 (dk_at dksX5_goesOn_0 4 rfl rfl)
theorem dX5_goesOn_5 : decode cX5_goesOn 5 = .ok (.bipush 10, 2) := dk_16 10 (dk_at dksX5_goesOn_0 5 rfl rfl)
theorem dX5_goesOn_7 : decode cX5_goesOn 7 = .ok (.if_icmp .ge 35, 3) := dk_162 0 35 (dk_at dksX5_goesOn_0 7 rfl rfl)
theorem dX5_goesOn_10 : decode cX5_goesOn 10 = .ok (.aload_n 0, 1) := dk_42 (dk_at dksX5_goesOn_0 10 rfl rfl)
theorem dX5_goesOn_11 : decode cX5_goesOn 11 = .ok (.getfield 15, 3) := dk_180 0 15 (dk_at dksX5_goesOn_0 11 rfl rfl)
theorem dX5_goesOn_14 : decode cX5_goesOn 14 = .ok (.aload_n 0, 1) := dk_42 (dk_at dksX5_goesOn_0 14 rfl rfl)
theorem dX5_goesOn_15 : decode cX5_goesOn 15 = .ok (.getfield 3, 3) := dk_180 0 3 (dk_at dksX5_goesOn_0 15 rfl rfl)
theorem dX5_goesOn_18 : decode cX5_goesOn 18 = .ok (.getfield 19, 3) := dk_180 0 19 (dk_at dksX5_goesOn_0 18 rfl rfl)
theorem dX5_goesOn_21 : decode cX5_goesOn 21 = .ok (.if_icmp .ge 21, 3) := dk_162 0 21 (dk_at dksX5_goesOn_0 21 rfl rfl)
theorem dX5_goesOn_24 : decode cX5_goesOn 24 = .ok (.iload_n 2, 1) := dk_28 (dk_at dksX5_goesOn_1 0 rfl rfl)
theorem dX5_goesOn_25 : decode cX5_goesOn 25 = .ok (.aload_n 0, 1) := dk_42 (dk_at dksX5_goesOn_1 1 rfl rfl)
theorem dX5_goesOn_26 : decode cX5_goesOn 26 = .ok (.iload_n 3, 1) := dk_29 (dk_at dksX5_goesOn_1 2 rfl rfl)
theorem dX5_goesOn_27 : decode cX5_goesOn 27 = .ok (.invokestatic 51, 3) := dk_184 0 51 (dk_at dksX5_goesOn_1 3 rfl rfl)
theorem dX5_goesOn_30 : decode cX5_goesOn 30 = .ok (.iload_n 1, 1) := dk_27 (dk_at dksX5_goesOn_1 6 rfl rfl)
theorem dX5_goesOn_31 : decode cX5_goesOn 31 = .ok (.invokevirtual 55, 3) := dk_182 0 55 (dk_at dksX5_goesOn_1 7 rfl rfl)
theorem dX5_goesOn_34 : decode cX5_goesOn 34 = .ok (.ior, 1) := dk_128 (dk_at dksX5_goesOn_1 10 rfl rfl)
theorem dX5_goesOn_35 : decode cX5_goesOn 35 = .ok (.istore_n 2, 1) := dk_61 (dk_at dksX5_goesOn_1 11 rfl rfl)
theorem dX5_goesOn_36 : decode cX5_goesOn 36 = .ok (.iinc 3 1, 3) := dk_132 3 1 (dk_at dksX5_goesOn_1 12 rfl rfl)
theorem dX5_goesOn_39 : decode cX5_goesOn 39 = .ok (.goto (-35), 3) := dk_167 255 221 (dk_at dksX5_goesOn_1 15 rfl rfl)
theorem dX5_goesOn_42 : decode cX5_goesOn 42 = .ok (.iload_n 2, 1) := dk_28 (dk_at dksX5_goesOn_1 18 rfl rfl)
theorem dX5_goesOn_43 : decode cX5_goesOn 43 = .ok (.ireturn, 1) := dk_172 (dk_at dksX5_goesOn_1 19 rfl rfl)
theorem dX5_quality_0 : decode cX5_quality 0 = .ok (.aload_n 0, 1) := dk_42 (dk_at dksX5_quality_0 0 rfl rfl)
theorem dX5_quality_1 : decode cX5_quality 1 = .ok (.getfield 15, 3) := dk_180 0 15 (dk_at dksX5_quality_0 1 rfl rfl)
theorem dX5_quality_4 : decode cX5_quality 4 = .ok (.istore_n 1, 1) := dk_60 (dk_at dksX5_quality_0 4 rfl rfl)
theorem dX5_quality_5 : decode cX5_quality 5 = .ok (.aload_n 0, 1) := dk_42 (dk_at dksX5_quality_0 5 rfl rfl)
theorem dX5_quality_6 : decode cX5_quality 6 = .ok (.iload_n 1, 1) := dk_27 (dk_at dksX5_quality_0 6 rfl rfl)
theorem dX5_quality_7 : decode cX5_quality 7 = .ok (.invokevirtual 59, 3) := dk_182 0 59 (dk_at dksX5_quality_0 7 rfl rfl)
theorem dX5_quality_10 : decode cX5_quality 10 = .ok (.ifCond .eq 16, 3) := dk_153 0 16 (dk_at dksX5_quality_0 10 rfl rfl)
theorem dX5_quality_13 : decode cX5_quality 13 = .ok (.aload_n 0, 1) := dk_42 (dk_at dksX5_quality_0 13 rfl rfl)
theorem dX5_quality_14 : decode cX5_quality 14 = .ok (.dup, 1) := dk_89 (dk_at dksX5_quality_0 14 rfl rfl)
theorem dX5_quality_15 : decode cX5_quality 15 = .ok (.getfield 15, 3) := dk_180 0 15 (dk_at dksX5_quality_0 15 rfl rfl)
theorem dX5_quality_18 : decode cX5_quality 18 = .ok (.iconst 1, 1) := dk_4 (dk_at dksX5_quality_0 18 rfl rfl)
theorem dX5_quality_19 : decode cX5_quality 19 = .ok (.iadd, 1) := dk_96 (dk_at dksX5_quality_0 19 rfl rfl)
theorem dX5_quality_20 : decode cX5_quality 20 = .ok (.putfield 15, 3) := dk_181 0 15 (dk_at dksX5_quality_0 20 rfl rfl)
theorem dX5_quality_23 : decode cX5_quality 23 = .ok (.goto (-18), 3) := dk_167 255 238 (dk_at dksX5_quality_1 0 rfl rfl)
theorem dX5_quality_26 : decode cX5_quality 26 = .ok (.iconst 0, 1) := dk_3 (dk_at dksX5_quality_1 3 rfl rfl)
theorem dX5_quality_27 : decode cX5_quality 27 = .ok (.istore_n 2, 1) := dk_61 (dk_at dksX5_quality_1 4 rfl rfl)
theorem dX5_quality_28 : decode cX5_quality 28 = .ok (.iload_n 2, 1) := dk_28 (dk_at dksX5_quality_1 5 rfl rfl)
theorem dX5_quality_29 : decode cX5_quality 29 = .ok (.bipush 10, 2) := dk_16 10 (dk_at dksX5_quality_1 6 rfl rfl)
theorem dX5_quality_31 : decode cX5_quality 31 = .ok (.if_icmp .ge 39, 3) := dk_162 0 39 (dk_at dksX5_quality_1 8 rfl rfl)
theorem dX5_quality_34 : decode cX5_quality 34 = .ok (.iload_n 2, 1) := dk_28 (dk_at dksX5_quality_1 11 rfl rfl)
theorem dX5_quality_35 : decode cX5_quality 35 = .ok (.invokestatic 51, 3) := dk_184 0 51 (dk_at dksX5_quality_1 12 rfl rfl)
theorem dX5_quality_38 : decode cX5_quality 38 = .ok (.invokevirtual 43, 3) := dk_182 0 43 (dk_at dksX5_quality_1 15 rfl rfl)
theorem dX5_quality_41 : decode cX5_quality 41 = .ok (.aload_n 0, 1) := dk_42 (dk_at dksX5_quality_1 18 rfl rfl)
theorem dX5_quality_42 : decode cX5_quality 42 = .ok (.getfield 15, 3) := dk_180 0 15 (dk_at dksX5_quality_1 19 rfl rfl)
theorem dX5_quality_45 : decode cX5_quality 45 = .ok (.iload_n 1, 1) := dk_27 (dk_at dksX5_quality_1 22 rfl rfl)
theorem dX5_quality_46 : decode cX5_quality 46 = .ok (.isub, 1) := dk_100 (dk_at dksX5_quality_1 23 rfl rfl)
theorem dX5_quality_47 : decode cX5_quality 47 = .ok (.if_icmp .ne 17, 3) := dk_160 0 17 (dk_at dksX5_quality_2 0 rfl rfl)
theorem dX5_quality_50 : decode cX5_quality 50 = .ok (.aload_n 0, 1) := dk_42 (dk_at dksX5_quality_2 3 rfl rfl)
theorem dX5_quality_51 : decode cX5_quality 51 = .ok (.iload_n 2, 1) := dk_28 (dk_at dksX5_quality_2 4 rfl rfl)
theorem dX5_quality_52 : decode cX5_quality 52 = .ok (.invokestatic 51, 3) := dk_184 0 51 (dk_at dksX5_quality_2 5 rfl rfl)
theorem dX5_quality_55 : decode cX5_quality 55 = .ok (.iload_n 1, 1) := dk_27 (dk_at dksX5_quality_2 8 rfl rfl)
theorem dX5_quality_56 : decode cX5_quality 56 = .ok (.invokevirtual 63, 3) := dk_182 0 63 (dk_at dksX5_quality_2 9 rfl rfl)
theorem dX5_quality_59 : decode cX5_quality 59 = .ok (.ifCond .eq 5, 3) := dk_153 0 5 (dk_at dksX5_quality_2 12 rfl rfl)
theorem dX5_quality_62 : decode cX5_quality 62 = .ok (.iload_n 2, 1) := dk_28 (dk_at dksX5_quality_2 15 rfl rfl)
theorem dX5_quality_63 : decode cX5_quality 63 = .ok (.ireturn, 1) := dk_172 (dk_at dksX5_quality_2 16 rfl rfl)
theorem dX5_quality_64 : decode cX5_quality 64 = .ok (.iinc 2 1, 3) := dk_132 2 1 (dk_at dksX5_quality_2 17 rfl rfl)
theorem dX5_quality_67 : decode cX5_quality 67 = .ok (.goto (-39), 3) := dk_167 255 217 (dk_at dksX5_quality_2 20 rfl rfl)
theorem dX5_quality_70 : decode cX5_quality 70 = .ok (.new 38, 3) := dk_187 0 38 (dk_at dksX5_quality_3 0 rfl rfl)
theorem dX5_quality_73 : decode cX5_quality 73 = .ok (.dup, 1) := dk_89 (dk_at dksX5_quality_3 3 rfl rfl)
theorem dX5_quality_74 : decode cX5_quality 74 = .ok (.aload_n 0, 1) := dk_42 (dk_at dksX5_quality_3 4 rfl rfl)
theorem dX5_quality_75 : decode cX5_quality 75 = .ok (.getfield 15, 3) := dk_180 0 15 (dk_at dksX5_quality_3 5 rfl rfl)
theorem dX5_quality_78 : decode cX5_quality 78 = .ok (.invokespecial 40, 3) := dk_183 0 40 (dk_at dksX5_quality_3 8 rfl rfl)
theorem dX5_quality_81 : decode cX5_quality 81 = .ok (.athrow, 1) := dk_191 (dk_at dksX5_quality_3 11 rfl rfl)
theorem dX5_chord_0 : decode cX5_chord 0 = .ok (.aload_n 0, 1) := dk_42 (dk_at dksX5_chord_0 0 rfl rfl)
theorem dX5_chord_1 : decode cX5_chord 1 = .ok (.invokevirtual 66, 3) := dk_182 0 66 (dk_at dksX5_chord_0 1 rfl rfl)
theorem dX5_chord_4 : decode cX5_chord 4 = .ok (.istore 4, 2) := dk_54 4 (dk_at dksX5_chord_0 4 rfl rfl)
theorem dX5_chord_6 : decode cX5_chord 6 = .ok (.aload_n 0, 1) := dk_42 (dk_at dksX5_chord_0 6 rfl rfl)
theorem dX5_chord_7 : decode cX5_chord 7 = .ok (.invokevirtual 69, 3) := dk_182 0 69 (dk_at dksX5_chord_0 7 rfl rfl)
theorem dX5_chord_10 : decode cX5_chord 10 = .ok (.istore 5, 2) := dk_54 5 (dk_at dksX5_chord_0 10 rfl rfl)
theorem dX5_chord_12 : decode cX5_chord 12 = .ok (.bipush 100, 2) := dk_16 100 (dk_at dksX5_chord_0 12 rfl rfl)
theorem dX5_chord_14 : decode cX5_chord 14 = .ok (.istore 6, 2) := dk_54 6 (dk_at dksX5_chord_0 14 rfl rfl)
theorem dX5_chord_16 : decode cX5_chord 16 = .ok (.aload_n 0, 1) := dk_42 (dk_at dksX5_chord_0 16 rfl rfl)
theorem dX5_chord_17 : decode cX5_chord 17 = .ok (.invokevirtual 28, 3) := dk_182 0 28 (dk_at dksX5_chord_0 17 rfl rfl)
theorem dX5_chord_20 : decode cX5_chord 20 = .ok (.bipush 47, 2) := dk_16 47 (dk_at dksX5_chord_0 20 rfl rfl)
theorem dX5_chord_22 : decode cX5_chord 22 = .ok (.if_icmp .ne 19, 3) := dk_160 0 19 (dk_at dksX5_chord_1 0 rfl rfl)
theorem dX5_chord_25 : decode cX5_chord 25 = .ok (.aload_n 0, 1) := dk_42 (dk_at dksX5_chord_1 3 rfl rfl)
theorem dX5_chord_26 : decode cX5_chord 26 = .ok (.dup, 1) := dk_89 (dk_at dksX5_chord_1 4 rfl rfl)
theorem dX5_chord_27 : decode cX5_chord 27 = .ok (.getfield 15, 3) := dk_180 0 15 (dk_at dksX5_chord_1 5 rfl rfl)
theorem dX5_chord_30 : decode cX5_chord 30 = .ok (.iconst 1, 1) := dk_4 (dk_at dksX5_chord_1 8 rfl rfl)
theorem dX5_chord_31 : decode cX5_chord 31 = .ok (.iadd, 1) := dk_96 (dk_at dksX5_chord_1 9 rfl rfl)
theorem dX5_chord_32 : decode cX5_chord 32 = .ok (.putfield 15, 3) := dk_181 0 15 (dk_at dksX5_chord_1 10 rfl rfl)
theorem dX5_chord_35 : decode cX5_chord 35 = .ok (.aload_n 0, 1) := dk_42 (dk_at dksX5_chord_1 13 rfl rfl)
theorem dX5_chord_36 : decode cX5_chord 36 = .ok (.invokevirtual 66, 3) := dk_182 0 66 (dk_at dksX5_chord_1 14 rfl rfl)
theorem dX5_chord_39 : decode cX5_chord 39 = .ok (.istore 6, 2) := dk_54 6 (dk_at dksX5_chord_1 17 rfl rfl)
theorem dX5_chord_41 : decode cX5_chord 41 = .ok (.iload_n 3, 1) := dk_29 (dk_at dksX5_chord_1 19 rfl rfl)
theorem dX5_chord_42 : decode cX5_chord 42 = .ok (.ifCond .ne 25, 3) := dk_154 0 25 (dk_at dksX5_chord_1 20 rfl rfl)
theorem dX5_chord_45 : decode cX5_chord 45 = .ok (.aload_n 0, 1) := dk_42 (dk_at dksX5_chord_1 23 rfl rfl)
theorem dX5_chord_46 : decode cX5_chord 46 = .ok (.getfield 15, 3) := dk_180 0 15 (dk_at dksX5_chord_2 0 rfl rfl)
theorem dX5_chord_49 : decode cX5_chord 49 = .ok (.aload_n 0, 1) := dk_42 (dk_at dksX5_chord_2 3 rfl rfl)
theorem dX5_chord_50 : decode cX5_chord 50 = .ok (.getfield 3, 3) := dk_180 0 3 (dk_at dksX5_chord_2 4 rfl rfl)
theorem dX5_chord_53 : decode cX5_chord 53 = .ok (.getfield 19, 3) := dk_180 0 19 (dk_at dksX5_chord_2 7 rfl rfl)
theorem dX5_chord_56 : decode cX5_chord 56 = .ok (.if_icmp .ne 7, 3) := dk_160 0 7 (dk_at dksX5_chord_2 10 rfl rfl)
theorem dX5_chord_59 : decode cX5_chord 59 = .ok (.iconst 1, 1) := dk_4 (dk_at dksX5_chord_2 13 rfl rfl)
theorem dX5_chord_60 : decode cX5_chord 60 = .ok (.goto 42, 3) := dk_167 0 42 (dk_at dksX5_chord_2 14 rfl rfl)
theorem dX5_chord_63 : decode cX5_chord 63 = .ok (.iconst 0, 1) := dk_3 (dk_at dksX5_chord_2 17 rfl rfl)
theorem dX5_chord_64 : decode cX5_chord 64 = .ok (.goto 38, 3) := dk_167 0 38 (dk_at dksX5_chord_2 18 rfl rfl)
theorem dX5_chord_67 : decode cX5_chord 67 = .ok (.aload_n 0, 1) := dk_42 (dk_at dksX5_chord_2 21 rfl rfl)
theorem dX5_chord_68 : decode cX5_chord 68 = .ok (.getfield 15, 3) := dk_180 0 15 (dk_at dksX5_chord_3 0 rfl rfl)
theorem dX5_chord_71 : decode cX5_chord 71 = .ok (.aload_n 0, 1) := dk_42 (dk_at dksX5_chord_3 3 rfl rfl)
theorem dX5_chord_72 : decode cX5_chord 72 = .ok (.getfield 3, 3) := dk_180 0 3 (dk_at dksX5_chord_3 4 rfl rfl)
theorem dX5_chord_75 : decode cX5_chord 75 = .ok (.getfield 19, 3) := dk_180 0 19 (dk_at dksX5_chord_3 7 rfl rfl)
theorem dX5_chord_78 : decode cX5_chord 78 = .ok (.if_icmp .ge 23, 3) := dk_162 0 23 (dk_at dksX5_chord_3 10 rfl rfl)
theorem dX5_chord_81 : decode cX5_chord 81 = .ok (.aload_n 0, 1) := dk_42 (dk_at dksX5_chord_3 13 rfl rfl)
theorem dX5_chord_82 : decode cX5_chord 82 = .ok (.getfield 3, 3) := dk_180 0 3 (dk_at dksX5_chord_3 14 rfl rfl)
theorem dX5_chord_85 : decode cX5_chord 85 = .ok (.getfield 22, 3) := dk_180 0 22 (dk_at dksX5_chord_3 17 rfl rfl)
theorem dX5_chord_88 : decode cX5_chord 88 = .ok (.aload_n 0, 1) := dk_42 (dk_at dksX5_chord_3 20 rfl rfl)
theorem dX5_chord_89 : decode cX5_chord 89 = .ok (.getfield 15, 3) := dk_180 0 15 (dk_at dksX5_chord_3 21 rfl rfl)
theorem dX5_chord_92 : decode cX5_chord 92 = .ok (.caload, 1) := dk_52 (dk_at dksX5_chord_4 0 rfl rfl)
theorem dX5_chord_93 : decode cX5_chord 93 = .ok (.iload_n 3, 1) := dk_29 (dk_at dksX5_chord_4 1 rfl rfl)
theorem dX5_chord_94 : decode cX5_chord 94 = .ok (.if_icmp .ne 7, 3) := dk_160 0 7 (dk_at dksX5_chord_4 2 rfl rfl)
theorem dX5_chord_97 : decode cX5_chord 97 = .ok (.iconst 1, 1) := dk_4 (dk_at dksX5_chord_4 5 rfl rfl)
theorem dX5_chord_98 : decode cX5_chord 98 = .ok (.goto 4, 3) := dk_167 0 4 (dk_at dksX5_chord_4 6 rfl rfl)
theorem dX5_chord_101 : decode cX5_chord 101 = .ok (.iconst 0, 1) := dk_3 (dk_at dksX5_chord_4 9 rfl rfl)
theorem dX5_chord_102 : decode cX5_chord 102 = .ok (.istore 7, 2) := dk_54 7 (dk_at dksX5_chord_4 10 rfl rfl)
theorem dX5_chord_104 : decode cX5_chord 104 = .ok (.iload 7, 2) := dk_21 7 (dk_at dksX5_chord_4 12 rfl rfl)
theorem dX5_chord_106 : decode cX5_chord 106 = .ok (.ifCond .ne 15, 3) := dk_154 0 15 (dk_at dksX5_chord_4 14 rfl rfl)
theorem dX5_chord_109 : decode cX5_chord 109 = .ok (.new 38, 3) := dk_187 0 38 (dk_at dksX5_chord_4 17 rfl rfl)
theorem dX5_chord_112 : decode cX5_chord 112 = .ok (.dup, 1) := dk_89 (dk_at dksX5_chord_4 20 rfl rfl)
theorem dX5_chord_113 : decode cX5_chord 113 = .ok (.aload_n 0, 1) := dk_42 (dk_at dksX5_chord_4 21 rfl rfl)
theorem dX5_chord_114 : decode cX5_chord 114 = .ok (.getfield 15, 3) := dk_180 0 15 (dk_at dksX5_chord_5 0 rfl rfl)
theorem dX5_chord_117 : decode cX5_chord 117 = .ok (.invokespecial 40, 3) := dk_183 0 40 (dk_at dksX5_chord_5 3 rfl rfl)
theorem dX5_chord_120 : decode cX5_chord 120 = .ok (.athrow, 1) := dk_191 (dk_at dksX5_chord_5 6 rfl rfl)
theorem dX5_chord_121 : decode cX5_chord 121 = .ok (.aload_n 0, 1) := dk_42 (dk_at dksX5_chord_5 7 rfl rfl)
theorem dX5_chord_122 : decode cX5_chord 122 = .ok (.dup, 1) := dk_89 (dk_at dksX5_chord_5 8 rfl rfl)
theorem dX5_chord_123 : decode cX5_chord 123 = .ok (.getfield 15, 3) := dk_180 0 15 (dk_at dksX5_chord_5 9 rfl rfl)
theorem dX5_chord_126 : decode cX5_chord 126 = .ok (.iconst 1, 1) := dk_4 (dk_at dksX5_chord_5 12 rfl rfl)
theorem dX5_chord_127 : decode cX5_chord 127 = .ok (.iadd, 1) := dk_96 (dk_at dksX5_chord_5 13 rfl rfl)
theorem dX5_chord_128 : decode cX5_chord 128 = .ok (.putfield 15, 3) := dk_181 0 15 (dk_at dksX5_chord_5 14 rfl rfl)
theorem dX5_chord_131 : decode cX5_chord 131 = .ok (.new 71, 3) := dk_187 0 71 (dk_at dksX5_chord_5 17 rfl rfl)
theorem dX5_chord_134 : decode cX5_chord 134 = .ok (.dup, 1) := dk_89 (dk_at dksX5_chord_5 20 rfl rfl)
theorem dX5_chord_135 : decode cX5_chord 135 = .ok (.iload_n 1, 1) := dk_27 (dk_at dksX5_chord_5 21 rfl rfl)
theorem dX5_chord_136 : decode cX5_chord 136 = .ok (.iload_n 2, 1) := dk_28 (dk_at dksX5_chord_5 22 rfl rfl)
theorem dX5_chord_137 : decode cX5_chord 137 = .ok (.iload 4, 2) := dk_21 4 (dk_at dksX5_chord_6 0 rfl rfl)
theorem dX5_chord_139 : decode cX5_chord 139 = .ok (.iload 5, 2) := dk_21 5 (dk_at dksX5_chord_6 2 rfl rfl)
theorem dX5_chord_141 : decode cX5_chord 141 = .ok (.iload 6, 2) := dk_21 6 (dk_at dksX5_chord_6 4 rfl rfl)
theorem dX5_chord_143 : decode cX5_chord 143 = .ok (.invokespecial 73, 3) := dk_183 0 73 (dk_at dksX5_chord_6 6 rfl rfl)
theorem dX5_chord_146 : decode cX5_chord 146 = .ok (.areturn, 1) := dk_176 (dk_at dksX5_chord_6 9 rfl rfl)
theorem q274 : (Jvm.Cond.fieldLinkNest "ChordSheet$Reader" (22 : Nat) "ChordSheet" "text" "[C" "ChordSheet") ∈ lw_tbl := lw_at lw_m1 212 rfl
theorem q275 : (Jvm.Cond.fieldLinkNest "ChordSheet$Reader" (19 : Nat) "ChordSheet" "textLength" "I" "ChordSheet") ∈ lw_tbl := lw_at lw_m1 213 rfl
theorem q315 : (Jvm.Cond.fieldLink "ChordSheet$Reader" (15 : Nat) "ChordSheet$Reader" "at" "I") ∈ lw_all := lw_g (lw_at lw_m2 13 rfl) rfl
theorem q316 : (Jvm.Cond.fieldLink "ChordSheet$Reader" (3 : Nat) "ChordSheet$Reader" "this$0" "LChordSheet;") ∈ lw_all := lw_g (lw_at lw_m2 14 rfl) rfl
theorem q362 : (Jvm.Cond.methodLink "ChordSheet$Reader" (28 : Nat) ({ cls := "ChordSheet$Reader", name := "peek", desc := "()C" } : Jvm.MethodName)) ∈ lw_all := lw_g (lw_at lw_m2 60 rfl) rfl
theorem q364 : (Jvm.Cond.instanceMethod ({ cls := "ChordSheet$Reader", name := "peek", desc := "()C" } : Jvm.MethodName)) ∈ lw_all := lw_g (lw_at lw_m2 62 rfl) rfl
theorem q365 : (Jvm.Cond.code ({ cls := "ChordSheet$Reader", name := "peek", desc := "()C" } : Jvm.MethodName) prog_4_method_2_code (1 : Nat) (Option.some Jvm.ClassFile.FieldType.char)) ∈ lw_all := lw_g (lw_at lw_m2 63 rfl) rfl
theorem q370 : (Jvm.Cond.classLink "ChordSheet$Reader" (38 : Nat) "ChordSheet$TextError") ∈ lw_all := lw_g (lw_at lw_m2 68 rfl) rfl
theorem q371 : (Jvm.Cond.instantiable "ChordSheet$TextError" (7 : Nat)) ∈ lw_all := lw_g (lw_at lw_m2 69 rfl) rfl
theorem q412 : (Jvm.Cond.methodLink "ChordSheet$Reader" (40 : Nat) ({ cls := "ChordSheet$TextError", name := "<init>", desc := "(I)V" } : Jvm.MethodName)) ∈ lw_all := lw_g (lw_at lw_m2 110 rfl) rfl
theorem q413 : (Jvm.Cond.instanceMethod ({ cls := "ChordSheet$TextError", name := "<init>", desc := "(I)V" } : Jvm.MethodName)) ∈ lw_all := lw_g (lw_at lw_m2 111 rfl) rfl
theorem q414 : (Jvm.Cond.code ({ cls := "ChordSheet$TextError", name := "<init>", desc := "(I)V" } : Jvm.MethodName) prog_9_method_1_code (2 : Nat) (Option.none : Option Jvm.ClassFile.FieldType)) ∈ lw_all := lw_g (lw_at lw_m2 112 rfl) rfl
theorem q449 : (Jvm.Cond.methodLink "ChordSheet$Reader" (66 : Nat) ({ cls := "ChordSheet$Reader", name := "note", desc := "()I" } : Jvm.MethodName)) ∈ lw_all := lw_g (lw_at lw_m2 147 rfl) rfl
theorem q451 : (Jvm.Cond.instanceMethod ({ cls := "ChordSheet$Reader", name := "note", desc := "()I" } : Jvm.MethodName)) ∈ lw_all := lw_g (lw_at lw_m2 149 rfl) rfl
theorem q452 : (Jvm.Cond.code ({ cls := "ChordSheet$Reader", name := "note", desc := "()I" } : Jvm.MethodName) prog_4_method_3_code (2 : Nat) (Option.some Jvm.ClassFile.FieldType.int)) ∈ lw_all := lw_g (lw_at lw_m2 150 rfl) rfl
theorem q454 : (Jvm.Cond.methodLink "ChordSheet$Reader" (32 : Nat) ({ cls := "java/lang/String", name := "indexOf", desc := "(I)I" } : Jvm.MethodName)) ∈ lw_all := lw_g (lw_at lw_m2 152 rfl) rfl
theorem q455 : (Jvm.Cond.instanceMethod ({ cls := "java/lang/String", name := "indexOf", desc := "(I)I" } : Jvm.MethodName)) ∈ lw_all := lw_g (lw_at lw_m2 153 rfl) rfl
theorem q456 : (Jvm.Cond.selects "java/lang/String" ({ cls := "java/lang/String", name := "indexOf", desc := "(I)I" } : Jvm.MethodName) ({ cls := "java/lang/String", name := "indexOf", desc := "(I)I" } : Jvm.MethodName)) ∈ lw_all := lw_g (lw_at lw_m2 154 rfl) rfl
theorem q457 : (Jvm.Cond.code ({ cls := "java/lang/String", name := "indexOf", desc := "(I)I" } : Jvm.MethodName) prog_30_method_79_code (2 : Nat) (Option.some Jvm.ClassFile.FieldType.int)) ∈ lw_all := lw_g (lw_at lw_m2 155 rfl) rfl
theorem q535 : (Jvm.Cond.methodLink "ChordSheet$Reader" (43 : Nat) ({ cls := "java/lang/String", name := "length", desc := "()I" } : Jvm.MethodName)) ∈ lw_all := lw_g (lw_at lw_m2 233 rfl) rfl
theorem q536 : (Jvm.Cond.methodLink "ChordSheet$Reader" (69 : Nat) ({ cls := "ChordSheet$Reader", name := "quality", desc := "()I" } : Jvm.MethodName)) ∈ lw_all := lw_g (lw_at lw_m2 234 rfl) rfl
theorem q538 : (Jvm.Cond.instanceMethod ({ cls := "ChordSheet$Reader", name := "quality", desc := "()I" } : Jvm.MethodName)) ∈ lw_all := lw_g (lw_at lw_m2 236 rfl) rfl
theorem q539 : (Jvm.Cond.code ({ cls := "ChordSheet$Reader", name := "quality", desc := "()I" } : Jvm.MethodName) prog_4_method_6_code (3 : Nat) (Option.some Jvm.ClassFile.FieldType.int)) ∈ lw_all := lw_g (lw_at lw_m2 237 rfl) rfl
theorem q540 : (Jvm.Cond.methodLink "ChordSheet$Reader" (59 : Nat) ({ cls := "ChordSheet$Reader", name := "goesOn", desc := "(I)Z" } : Jvm.MethodName)) ∈ lw_all := lw_g (lw_at lw_m2 238 rfl) rfl
theorem q542 : (Jvm.Cond.instanceMethod ({ cls := "ChordSheet$Reader", name := "goesOn", desc := "(I)Z" } : Jvm.MethodName)) ∈ lw_all := lw_g (lw_at lw_m3 0 rfl) rfl
theorem q543 : (Jvm.Cond.code ({ cls := "ChordSheet$Reader", name := "goesOn", desc := "(I)Z" } : Jvm.MethodName) prog_4_method_5_code (4 : Nat) (Option.some Jvm.ClassFile.FieldType.boolean)) ∈ lw_all := lw_g (lw_at lw_m3 1 rfl) rfl
theorem q544 : (Jvm.Cond.methodLinkNest "ChordSheet$Reader" (51 : Nat) ({ cls := "ChordSheet", name := "quality", desc := "(I)Ljava/lang/String;" } : Jvm.MethodName) "ChordSheet") ∈ lw_tbl := lw_at lw_m3 2 rfl
theorem q556 : (Jvm.Cond.methodLink "ChordSheet$Reader" (55 : Nat) ({ cls := "ChordSheet$Reader", name := "isBegun", desc := "(Ljava/lang/String;I)Z" } : Jvm.MethodName)) ∈ lw_all := lw_g (lw_at lw_m3 14 rfl) rfl
theorem q558 : (Jvm.Cond.instanceMethod ({ cls := "ChordSheet$Reader", name := "isBegun", desc := "(Ljava/lang/String;I)Z" } : Jvm.MethodName)) ∈ lw_all := lw_g (lw_at lw_m3 16 rfl) rfl
theorem q559 : (Jvm.Cond.code ({ cls := "ChordSheet$Reader", name := "isBegun", desc := "(Ljava/lang/String;I)Z" } : Jvm.MethodName) prog_4_method_4_code (6 : Nat) (Option.some Jvm.ClassFile.FieldType.boolean)) ∈ lw_all := lw_g (lw_at lw_m3 17 rfl) rfl
theorem q560 : (Jvm.Cond.methodLink "ChordSheet$Reader" (47 : Nat) ({ cls := "java/lang/String", name := "charAt", desc := "(I)C" } : Jvm.MethodName)) ∈ lw_all := lw_g (lw_at lw_m3 18 rfl) rfl
theorem q580 : (Jvm.Cond.methodLink "ChordSheet$Reader" (63 : Nat) ({ cls := "ChordSheet$Reader", name := "isWhole", desc := "(Ljava/lang/String;I)Z" } : Jvm.MethodName)) ∈ lw_all := lw_g (lw_at lw_m3 38 rfl) rfl
theorem q582 : (Jvm.Cond.instanceMethod ({ cls := "ChordSheet$Reader", name := "isWhole", desc := "(Ljava/lang/String;I)Z" } : Jvm.MethodName)) ∈ lw_all := lw_g (lw_at lw_m3 40 rfl) rfl
theorem q583 : (Jvm.Cond.code ({ cls := "ChordSheet$Reader", name := "isWhole", desc := "(Ljava/lang/String;I)Z" } : Jvm.MethodName) prog_4_method_7_code (5 : Nat) (Option.some Jvm.ClassFile.FieldType.boolean)) ∈ lw_all := lw_g (lw_at lw_m3 41 rfl) rfl
theorem q584 : (Jvm.Cond.classLink "ChordSheet$Reader" (71 : Nat) "ChordSheet$Chord") ∈ lw_all := lw_g (lw_at lw_m3 42 rfl) rfl
theorem q586 : (Jvm.Cond.methodLink "ChordSheet$Reader" (73 : Nat) ({ cls := "ChordSheet$Chord", name := "<init>", desc := "(IIIII)V" } : Jvm.MethodName)) ∈ lw_all := lw_g (lw_at lw_m3 44 rfl) rfl
theorem q80 : (Jvm.Cond.initialized "ChordSheet$Reader") ∈ lw_all := lw_g (lw_at lw_m1 18 rfl) rfl
theorem q85 : (Jvm.Cond.initialized "ChordSheet$TextError") ∈ lw_all := lw_g (lw_at lw_m1 23 rfl) rfl
def zb (E : String) (P : Option Value → zH → Prop) (Q : Nat → zH → Prop) : zR → zH → Prop := fun r h' => (∃ v, r = .inl v ∧ P v h') ∨ (∃ q, r = .inr (E, q) ∧ Q q h')
theorem zbk {X : zT} {kc ks : Nat} {L : List (Nat × Value)} {pc : Nat} {st : List Value} {E : String} {P : Option Value → zH → Prop} {Q : Nat → zH → Prop} (k : ∀ v h', P v h' → Z X h' kc ks L (pc + 3) (v.toList ++ st)) : ∀ v h', zb E P Q (.inl v) h' → Z X h' kc ks L (pc + 3) (v.toList ++ st) := by
  intro v h' hp
  rcases hp with ⟨w, e, hp⟩ | ⟨q, e, -⟩
  · cases e
    exact k _ _ hp
  · cases e
theorem zbx {X : zT} {kc ks : Nat} {L : List (Nat × Value)} {pc : Nat} {E : String} {P : Option Value → zH → Prop} {Q : Nat → zH → Prop} (k : ∀ q h', Q q h' → ZX X h' kc ks L pc E q) : ∀ E' q h', zb E P Q (.inr (E', q)) h' → ZX X h' kc ks L pc E' q := by
  intro E' q h' hp
  rcases hp with ⟨w, e, -⟩ | ⟨q, e, hp⟩
  · cases e
  · cases e
    exact k _ _ hp
/-- a text error at q: its place is x -/
def teA (h : zH) (q : Nat) (x : Int) : Prop := h q = some (true, .inr (5, [.null, .null, .null, .null, .null, .int (iI 0), .int (iI x)]))
/-- the letter at a place; 0: the text is over -/
def tch (T : List Int) (p : Int) : Int := if p < (T.length : Nat) then T.getD p.toNat 0 else 0
abbrev nok (T : List Int) (p : Int) : Prop := p < (T.length : Nat) ∧ 0 ≤ zix LTR (tch T p)
def nsg (T : List Int) (p : Int) : Int := if tch T (p + 1) = 35 then 7 else if tch T (p + 1) = 98 then -7 else 0
def npl (T : List Int) (p : Int) : Int := zix LTR (tch T p) - 1 + nsg T p
def nen (T : List Int) (p : Int) : Int := p + 1 + if tch T (p + 1) = 35 ∨ tch T (p + 1) = 98 then 1 else 0
def lcp : List Int → List Int → Nat
  | a :: r, b :: s => if a = b then 1 + lcp r s else 0
  | _, _ => 0
theorem lcp_le1 : ∀ (q t : List Int), lcp q t ≤ q.length := by
  intro q
  induction q with
  | nil => intro t; simp [lcp]
  | cons a r ih =>
    intro t
    cases t with
    | nil => simp [lcp]
    | cons b s =>
      have := ih s
      simp only [lcp, List.length_cons]
      split <;> omega
theorem lcp_le2 : ∀ (q t : List Int), lcp q t ≤ t.length := by
  intro q
  induction q with
  | nil => intro t; simp [lcp]
  | cons a r ih =>
    intro t
    cases t with
    | nil => simp [lcp]
    | cons b s =>
      have := ih s
      simp only [lcp, List.length_cons]
      split <;> omega
theorem lcp_step : ∀ (q t : List Int) (k : Nat) (a b : Int), q[k]? = some a → t[k]? = some b → k ≤ lcp q t → (a = b → k + 1 ≤ lcp q t) ∧ (a ≠ b → lcp q t ≤ k) := by
  intro q
  induction q with
  | nil => intro t k a b h; simp at h
  | cons c r ih =>
    intro t k a b h1 h2 hk
    cases t with
    | nil => simp at h2
    | cons d s =>
      cases k with
      | zero =>
        simp at h1 h2
        subst h1 h2
        simp only [lcp]
        constructor
        · intro e; rw [if_pos e]; omega
        · intro e; rw [if_neg e]; omega
      | succ k =>
        simp only [List.getElem?_cons_succ] at h1 h2
        simp only [lcp] at hk ⊢
        by_cases e : c = d
        · rw [if_pos e] at hk ⊢
          have := ih s k a b h1 h2 (by omega)
          exact ⟨fun z => by have := this.1 z; omega, fun z => by have := this.2 z; omega⟩
        · rw [if_neg e] at hk
          omega
def qmxk (t : List Int) : Nat → Nat
  | 0 => 0
  | k + 1 => max (qmxk t k) (lcp (qlt (k : Nat)) t)
def qmx (t : List Int) : Nat := qmxk t 10
theorem qmxk_le (t : List Int) : ∀ k, qmxk t k ≤ t.length := by
  intro k
  induction k with
  | zero => simp [qmxk]
  | succ k ih => have := lcp_le2 (qlt (k : Nat)) t; simp only [qmxk]; omega
abbrev qcd (t : List Int) (i : Int) : Prop := (qlt i).length = qmx t ∧ (qlt i).length ≤ lcp (qlt i) t
def qfg (t : List Int) : Nat → Int → Int
  | 0, _ => -1
  | f + 1, i => if qcd t i then i else qfg t f (i + 1)
def qfd (t : List Int) : Int := qfg t 10 0
theorem tch_at {T : List Int} {p : Int} (hp : 0 ≤ p ∧ p < (T.length : Nat)) : T[p.toNat]? = some (tch T p) := by
  unfold tch
  rw [if_pos hp.2, List.getElem?_eq_getElem (by omega), List.getD_eq_getElem?_getD, List.getElem?_eq_getElem (by omega)]
  rfl
theorem tch_r {T : List Int} (hT : ∀ c ∈ T, 32 ≤ c ∧ c ≤ 126) {p : Int} (hp : 0 ≤ p) : 0 ≤ tch T p ∧ tch T p ≤ 126 := by
  by_cases h : p < (T.length : Nat)
  · have := hT _ (List.mem_of_getElem? (tch_at (T := T) ⟨hp, h⟩)); omega
  · unfold tch; rw [if_neg h]; omega
theorem zixL_r (c : Int) : -1 ≤ zix LTR c ∧ zix LTR c ≤ 6 := by
  unfold zix
  split
  · next i h =>
    have := List.findIdx?_eq_some_iff_getElem.mp h
    obtain ⟨h1, -⟩ := this
    simp [LTR] at h1
    omega
  · omega
def cp1 (T : List Int) (p : Int) : Int := nen T p
def cqt (T : List Int) (p : Int) : List Int := T.drop (cp1 T p).toNat
def cp2 (T : List Int) (p : Int) : Int := cp1 T p + (qmx (cqt T p) : Nat)
/-- a chord of the text: where it's wrong, or root, quality, bass and what stands behind it -/
def chp (T : List Int) (p e : Int) : Int ⊕ (Int × Int × Int × Int) :=
  if nok T p then
    if 0 ≤ qfd (cqt T p) then
      if tch T (cp2 T p) = 47 then
        if nok T (cp2 T p + 1) then
          if ((e = 0 ∧ nen T (cp2 T p + 1) = (T.length : Nat)) ∨ (e ≠ 0 ∧ nen T (cp2 T p + 1) < (T.length : Nat) ∧ tch T (nen T (cp2 T p + 1)) = e)) then .inr (npl T p, qfd (cqt T p), npl T (cp2 T p + 1), nen T (cp2 T p + 1) + 1) else .inl (nen T (cp2 T p + 1))
        else .inl (cp2 T p + 1)
      else if ((e = 0 ∧ cp2 T p = (T.length : Nat)) ∨ (e ≠ 0 ∧ cp2 T p < (T.length : Nat) ∧ tch T (cp2 T p) = e)) then .inr (npl T p, qfd (cqt T p), 100, cp2 T p + 1) else .inl (cp2 T p)
    else .inl (cp2 T p)
  else .inl p
theorem iI_or01 {a b : Int} (ha : a = 0 ∨ a = 1) (hb : b = 0 ∨ b = 1) : iI a ||| iI b = iI (if a = 1 ∨ b = 1 then 1 else 0) := by
  rcases ha with rfl | rfl <;> rcases hb with rfl | rfl <;> decide
theorem z_ior01 {X : zT} {cc : ByteArray} {own : String} {ret : Option FieldType} {nf nl : Nat} {hh : List ExceptionTableEntry} {h : zH} {kc ks : Nat} {L : List (Nat × Value)} {pc : Nat} {st : List Value} (C : zC X cc own ret nf nl hh) {a b : Int} (ha : a = 0 ∨ a = 1) (hb : b = 0 ∨ b = 1) (d : decode cc pc = .ok (.ior, 1)) (K : Z X h kc ks L (pc + 1) (.int (iI (if a = 1 ∨ b = 1 then 1 else 0)) :: st)) : Z X h kc ks L pc (.int (iI b) :: .int (iI a) :: st) := z_ior C d (iI_or01 ha hb) K
theorem go_step {t : List Int} {n : Nat} {i s : Int} (hi : 0 ≤ i) (hs : s = if n ≤ qmxk t i.toNat then 1 else 0) : (if s = 1 ∨ (if n ≤ lcp (qlt i) t then (1 : Int) else 0) = 1 then (1 : Int) else 0) = if n ≤ qmxk t (i + 1).toNat then 1 else 0 := by
  rw [show (i + 1).toNat = i.toNat + 1 by omega, qmxk, show ((i.toNat : Nat) : Int) = i by omega, hs]
  by_cases h1 : n ≤ qmxk t i.toNat <;> by_cases h2 : n ≤ lcp (qlt i) t <;> simp [h1, h2] <;> omega
theorem qmxk_mono (t : List Int) : ∀ a b, a ≤ b → qmxk t a ≤ qmxk t b := by
  intro a b h
  induction b with
  | zero => rw [Nat.le_zero.mp h]; exact Nat.le_refl _
  | succ b ih =>
    rcases Nat.lt_or_ge a (b + 1) with g | g
    · have := ih (by omega); simp only [qmxk]; omega
    · rw [show a = b + 1 by omega]; exact Nat.le_refl _
theorem go_end {T : List Int} {p fr i s : Int} (hi : 0 ≤ i ∧ i ≤ 10 ∧ 0 ≤ fr ∧ fr ≤ p) (hs : s = if (p - fr + 1).toNat ≤ qmxk (T.drop fr.toNat) i.toNat then 1 else 0) (h : i = 10 ∨ (T.length : Nat) ≤ p) : s = if (p - fr + 1).toNat ≤ qmx (T.drop fr.toNat) then 1 else 0 := by
  rcases h with h | h
  · subst h; exact hs
  · have h1 := qmxk_le (T.drop fr.toNat) i.toNat
    have h2 := qmxk_le (T.drop fr.toNat) 10
    simp at h1 h2
    rw [if_neg (by omega)] at hs
    rw [hs, if_neg (by unfold qmx; omega)]
theorem nen_le {T : List Int} {p : Int} (h : nok T p) (hp : 0 ≤ p) : nen T p ≤ (T.length : Nat) := by
  have h1 := h.1
  unfold nen
  split
  · next c =>
    have : p + 1 < (T.length : Nat) := by
      refine Classical.byContradiction fun z => ?_
      unfold tch at c
      rw [if_neg z] at c
      omega
    omega
  · omega
theorem chp_b11 {T : List Int} {p e : Int} (h : ¬ nok T p) : chp T p e = .inl p := by
  unfold chp
  rw [if_neg h]
theorem chp_b21 {T : List Int} {p e : Int} (h : nok T p) (hq : qfd (cqt T p) = -1) : chp T p e = .inl (cp2 T p) := by
  unfold chp
  rw [if_pos h, if_neg (show ¬ 0 ≤ qfd (cqt T p) by omega)]
theorem chp_b31 {T : List Int} {p e : Int} (h : nok T p) (hq : 0 ≤ qfd (cqt T p)) (h4 : tch T (cp2 T p) = 47) (h2 : ¬ nok T (cp2 T p + 1)) : chp T p e = .inl (cp2 T p + 1) := by
  unfold chp
  rw [if_pos h, if_pos hq, if_pos h4, if_neg h2]
theorem chp_b41 {T : List Int} {p e : Int} (h : nok T p) (hq : 0 ≤ qfd (cqt T p)) (h4 : tch T (cp2 T p) = 47) (h2 : nok T (cp2 T p + 1)) (hc : ¬ ((e = 0 ∧ (nen T (cp2 T p + 1)) = (T.length : Nat)) ∨ (e ≠ 0 ∧ (nen T (cp2 T p + 1)) < (T.length : Nat) ∧ tch T ((nen T (cp2 T p + 1))) = e))) : chp T p e = .inl (nen T (cp2 T p + 1)) := by
  unfold chp
  rw [if_pos h, if_pos hq, if_pos h4, if_pos h2, if_neg hc]
theorem chp_b51 {T : List Int} {p e : Int} (h : nok T p) (hq : 0 ≤ qfd (cqt T p)) (h4 : ¬ tch T (cp2 T p) = 47) (hc : ¬ ((e = 0 ∧ (cp2 T p) = (T.length : Nat)) ∨ (e ≠ 0 ∧ (cp2 T p) < (T.length : Nat) ∧ tch T ((cp2 T p)) = e))) : chp T p e = .inl (cp2 T p) := by
  unfold chp
  rw [if_pos h, if_pos hq, if_neg h4, if_neg hc]
theorem chp_o41 {T : List Int} {p e : Int} (h : nok T p) (hq : 0 ≤ qfd (cqt T p)) (h4 : tch T (cp2 T p) = 47) (h2 : nok T (cp2 T p + 1)) (hc : ((e = 0 ∧ (nen T (cp2 T p + 1)) = (T.length : Nat)) ∨ (e ≠ 0 ∧ (nen T (cp2 T p + 1)) < (T.length : Nat) ∧ tch T ((nen T (cp2 T p + 1))) = e))) : chp T p e = .inr (npl T p, qfd (cqt T p), npl T (cp2 T p + 1), (nen T (cp2 T p + 1)) + 1) := by
  unfold chp
  rw [if_pos h, if_pos hq, if_pos h4, if_pos h2, if_pos hc]
theorem chp_o51 {T : List Int} {p e : Int} (h : nok T p) (hq : 0 ≤ qfd (cqt T p)) (h4 : ¬ tch T (cp2 T p) = 47) (hc : ((e = 0 ∧ (cp2 T p) = (T.length : Nat)) ∨ (e ≠ 0 ∧ (cp2 T p) < (T.length : Nat) ∧ tch T ((cp2 T p)) = e))) : chp T p e = .inr (npl T p, qfd (cqt T p), 100, cp2 T p + 1) := by
  unfold chp
  rw [if_pos h, if_pos hq, if_neg h4, if_pos hc]
theorem chp_b1 {T : List Int} {p e : Int} (h : ¬ nok T p) : chp T p e = .inl p := chp_b11 h
theorem chp_b2 {T : List Int} {p e : Int} (h : nok T p) (hq : qfd (T.drop (nen T p).toNat) = -1) : chp T p e = .inl ((nen T p + (qmx (T.drop (nen T p).toNat) : Nat))) := chp_b21 h hq
theorem chp_b3 {T : List Int} {p e : Int} (h : nok T p) (hq : 0 ≤ qfd (T.drop (nen T p).toNat)) (h4 : tch T ((nen T p + (qmx (T.drop (nen T p).toNat) : Nat))) = 47) (h2 : ¬ nok T ((nen T p + (qmx (T.drop (nen T p).toNat) : Nat)) + 1)) : chp T p e = .inl ((nen T p + (qmx (T.drop (nen T p).toNat) : Nat)) + 1) := chp_b31 h hq h4 h2
theorem chp_b4 {T : List Int} {p e : Int} (h : nok T p) (hq : 0 ≤ qfd (T.drop (nen T p).toNat)) (h4 : tch T ((nen T p + (qmx (T.drop (nen T p).toNat) : Nat))) = 47) (h2 : nok T ((nen T p + (qmx (T.drop (nen T p).toNat) : Nat)) + 1)) (hc : ¬ ((e = 0 ∧ (nen T ((nen T p + (qmx (T.drop (nen T p).toNat) : Nat)) + 1)) = (T.length : Nat)) ∨ (e ≠ 0 ∧ (nen T ((nen T p + (qmx (T.drop (nen T p).toNat) : Nat)) + 1)) < (T.length : Nat) ∧ tch T ((nen T ((nen T p + (qmx (T.drop (nen T p).toNat) : Nat)) + 1))) = e))) : chp T p e = .inl (nen T ((nen T p + (qmx (T.drop (nen T p).toNat) : Nat)) + 1)) := chp_b41 h hq h4 h2 hc
theorem chp_b5 {T : List Int} {p e : Int} (h : nok T p) (hq : 0 ≤ qfd (T.drop (nen T p).toNat)) (h4 : ¬ tch T ((nen T p + (qmx (T.drop (nen T p).toNat) : Nat))) = 47) (hc : ¬ ((e = 0 ∧ ((nen T p + (qmx (T.drop (nen T p).toNat) : Nat))) = (T.length : Nat)) ∨ (e ≠ 0 ∧ ((nen T p + (qmx (T.drop (nen T p).toNat) : Nat))) < (T.length : Nat) ∧ tch T (((nen T p + (qmx (T.drop (nen T p).toNat) : Nat)))) = e))) : chp T p e = .inl ((nen T p + (qmx (T.drop (nen T p).toNat) : Nat))) := chp_b51 h hq h4 hc
theorem chp_o4 {T : List Int} {p e : Int} (h : nok T p) (hq : 0 ≤ qfd (T.drop (nen T p).toNat)) (h4 : tch T ((nen T p + (qmx (T.drop (nen T p).toNat) : Nat))) = 47) (h2 : nok T ((nen T p + (qmx (T.drop (nen T p).toNat) : Nat)) + 1)) (hc : ((e = 0 ∧ (nen T ((nen T p + (qmx (T.drop (nen T p).toNat) : Nat)) + 1)) = (T.length : Nat)) ∨ (e ≠ 0 ∧ (nen T ((nen T p + (qmx (T.drop (nen T p).toNat) : Nat)) + 1)) < (T.length : Nat) ∧ tch T ((nen T ((nen T p + (qmx (T.drop (nen T p).toNat) : Nat)) + 1))) = e))) : chp T p e = .inr (npl T p, qfd (T.drop (nen T p).toNat), npl T ((nen T p + (qmx (T.drop (nen T p).toNat) : Nat)) + 1), (nen T ((nen T p + (qmx (T.drop (nen T p).toNat) : Nat)) + 1)) + 1) := chp_o41 h hq h4 h2 hc
theorem chp_o5 {T : List Int} {p e : Int} (h : nok T p) (hq : 0 ≤ qfd (T.drop (nen T p).toNat)) (h4 : ¬ tch T ((nen T p + (qmx (T.drop (nen T p).toNat) : Nat))) = 47) (hc : ((e = 0 ∧ ((nen T p + (qmx (T.drop (nen T p).toNat) : Nat))) = (T.length : Nat)) ∨ (e ≠ 0 ∧ ((nen T p + (qmx (T.drop (nen T p).toNat) : Nat))) < (T.length : Nat) ∧ tch T (((nen T p + (qmx (T.drop (nen T p).toNat) : Nat)))) = e))) : chp T p e = .inr (npl T p, qfd (T.drop (nen T p).toNat), 100, (nen T p + (qmx (T.drop (nen T p).toNat) : Nat)) + 1) := chp_o51 h hq h4 hc
theorem qfg_r (t : List Int) : ∀ (f : Nat) (i : Int), 0 ≤ i → qfg t f i = -1 ∨ (0 ≤ qfg t f i ∧ qfg t f i < i + (f : Nat)) := by
  intro f
  induction f with
  | zero => intro i h; exact Or.inl rfl
  | succ f ih =>
    intro i h
    simp only [qfg]
    split
    · right; omega
    · have := ih (i + 1) (by omega); omega
theorem chp_r {T : List Int} {p e rt q b p' : Int} (hp : 0 ≤ p) (h : chp T p e = .inr (rt, q, b, p')) : (-15 ≤ rt ∧ rt ≤ 19) ∧ (0 ≤ q ∧ q ≤ 9) ∧ (b = 100 ∨ (-15 ≤ b ∧ b ≤ 19)) ∧ p < p' := by
  have key : ∀ p, nok T p → -8 ≤ npl T p ∧ npl T p ≤ 12 := by
    intro p hn
    have := zixL_r (tch T p)
    have := hn.2
    unfold npl nsg
    (repeat' split) <;> omega
  have kn : ∀ p, p + 1 ≤ nen T p := by intro p; unfold nen; split <;> omega
  have kq := qfg_r (cqt T p) 10 0 (by decide)
  have kc : qfd (cqt T p) = qfg (cqt T p) 10 0 := rfl
  have kp : nen T p ≤ cp2 T p := by unfold cp2 cp1; omega
  have k0 := kn p
  have k1 := kn (cp2 T p + 1)
  unfold chp at h
  split at h
  · next hno =>
    have := key p hno
    split at h
    · split at h
      · split at h
        · next hno2 =>
          have := key _ hno2
          split at h
          · simp only [Sum.inr.injEq, Prod.mk.injEq] at h
            omega
          · simp only [reduceCtorEq] at h
        · simp only [reduceCtorEq] at h
      · split at h
        · simp only [Sum.inr.injEq, Prod.mk.injEq] at h
          omega
        · simp only [reduceCtorEq] at h
    · simp only [reduceCtorEq] at h
  · simp only [reduceCtorEq] at h
set_option maxHeartbeats 4000000 in
theorem ct_R_peek {l : Launch} (hl : l.stackTraces = false) {Γ : zCx} {h : zH} {r c tx : Nat} {p : Int} {tf : Nat → Value} {T : List Int} {c2 c3 c4 c5 c6 : Value} (hr : h r = some (true, .inr (4, [.int (iI p), .ref c]))) (hc0 : h c = some (true, .inr (0, [.ref tx, .int (iI ((T.length : Nat) : Int)), c2, c3, c4, c5, c6]))) (htx : h tx = some (true, .inl (.char, 200, tf))) (hch : ∀ (j : Nat) (d : Int), T[j]? = some d → tf j = .int (iI d)) (hT : ∀ c ∈ T, 32 ≤ c ∧ c ≤ 126) (hTl : T.length ≤ 200) (hp : 0 ≤ p ∧ p ≤ 1000)  : zMet l yX5_peek (ws_ yX5_peek cX5_peek 1 (some .char)) ({ frames := 0, cells := 0, slots := 0, locals := 0 }) Γ h [.ref r] (zpure h (some (.int (iI (tch T p))))) 0 0 := by
  refine zMet.of (cc := cX5_peek) hl (plainFor_of_name (by decide +kernel)) (Nat.le_of_ble_eq_true rfl) ?_
  intro X hXl hXΓ hXp C hnm hnL
  have C : zC X cX5_peek RX5 (some .char) 0 0 [] := C
  have hnL : X.2.1.2.2.2.2 = 1 := hnL
  subst hXl hXΓ
  show Z X h 0 0 [(0, .ref r)] 0 []
  refine z_aload_n (pc := 0) (j := 0) C dX5_peek_0 rfl rfl ?_
  refine z_getfield (pc := 1) (v := .int (iI p)) C in_X5 rfl 0 (by decide) q315 (fun _ z => z) hr rfl dX5_peek_1 ?_
  refine z_aload_n (pc := 4) (j := 0) C dX5_peek_4 rfl rfl ?_
  refine z_getfield (pc := 5) (v := .ref c) C in_X5 rfl 1 (by decide) q316 (fun _ z => z) hr rfl dX5_peek_5 ?_
  refine z_getfieldN (pc := 8) (v := .int (iI ((T.length : Nat) : Int))) C in_X1 rfl 1 (by decide) q275 (fun _ z => z) hc0 rfl dX5_peek_8 ?_
  refine z_icmp_ge (pc := 11) (tgt := 29) C dX5_peek_11 (by decide) (by omega) (by omega) (fun c11 => ?_) (fun c11 => ?_)
  · refine z_iconst (pc := 29) C dX5_peek_29 ?_
    exact z_zreturn (pc := 30) C (by decide) (by rw [hXp]; exact zpure_i (by unfold tch; rw [if_neg (by omega)]) rfl) dX5_peek_30
  · refine z_aload_n (pc := 14) (j := 0) C dX5_peek_14 rfl rfl ?_
    refine z_getfield (pc := 15) (v := .ref c) C in_X5 rfl 1 (by decide) q316 (fun _ z => z) hr rfl dX5_peek_15 ?_
    refine z_getfieldN (pc := 18) (v := .ref tx) C in_X1 rfl 0 (by decide) q274 (fun _ z => z) hc0 rfl dX5_peek_18 ?_
    refine z_aload_n (pc := 21) (j := 0) C dX5_peek_21 rfl rfl ?_
    refine z_getfield (pc := 22) (v := .int (iI p)) C in_X5 rfl 0 (by decide) q315 (fun _ z => z) hr rfl dX5_peek_22 ?_
    have htc := tch_at (T := T) (p := p) (by omega)
    have hrr := hT _ (List.mem_of_getElem? htc)
    refine z_caload (pc := 25) (v := .int (iI (tch T p))) C htx (by omega) (hch _ _ htc) dX5_peek_25 ?_
    refine z_goto (pc := 26) (tgt := 30) C dX5_peek_26 (by decide) ?_
    exact z_zreturn (pc := 30) C (i_nc (by omega) (by omega)) (by rw [hXp]; exact zpure_i (by omega) rfl) dX5_peek_30
set_option maxHeartbeats 4000000 in
theorem ct_R_note {l : Launch} (hl : l.stackTraces = false) {Γ : zCx} {h : zH} {r c tx : Nat} {p : Int} {tf : Nat → Value} {T : List Int} {c2 c3 c4 c5 c6 : Value} (hr : h r = some (true, .inr (4, [.int (iI p), .ref c]))) (hc0 : h c = some (true, .inr (0, [.ref tx, .int (iI ((T.length : Nat) : Int)), c2, c3, c4, c5, c6]))) (htx : h tx = some (true, .inl (.char, 200, tf))) (hch : ∀ (j : Nat) (d : Int), T[j]? = some d → tf j = .int (iI d)) (hT : ∀ c ∈ T, 32 ≤ c ∧ c ≤ 126) (hTl : T.length ≤ 200) (hp : 0 ≤ p ∧ p ≤ 1000)  : zMet l yX5_note (ws_ yX5_note cX5_note 2 (some .int)) ({ frames := 4, cells := 1, slots := 7, locals := 91 }) Γ h [.ref r] (zb "ChordSheet$TextError" (fun w h' => nok T p ∧ w = some (.int (iI (npl T p))) ∧ h' r = some (true, .inr (4, [.int (iI (nen T p)), .ref c])) ∧ zkeep h h' [r]) (fun q h' => ¬ nok T p ∧ teA h' q (p) ∧ h q = none ∧ zkeep h h' [r])) 1 7 := by
  refine zMet.of (cc := cX5_note) hl (plainFor_of_name (by decide +kernel)) (Nat.le_of_ble_eq_true rfl) ?_
  intro X hXl hXΓ hXp C hnm hnL
  have C : zC X cX5_note RX5 (some .int) 4 91 [] := C
  have hnL : X.2.1.2.2.2.2 = 2 := hnL
  subst hXl hXΓ
  show Z X h 1 7 [(0, .ref r)] 0 []
  refine z_aload_n (pc := 0) (j := 0) C dX5_note_0 rfl rfl ?_
  refine z_getfield (pc := 1) (v := .int (iI p)) C in_X5 rfl 0 (by decide) q315 (fun _ z => z) hr rfl dX5_note_1 ?_
  refine z_aload_n (pc := 4) (j := 0) C dX5_note_4 rfl rfl ?_
  refine z_getfield (pc := 5) (v := .ref c) C in_X5 rfl 1 (by decide) q316 (fun _ z => z) hr rfl dX5_note_5 ?_
  refine z_getfieldN (pc := 8) (v := .int (iI ((T.length : Nat) : Int))) C in_X1 rfl 1 (by decide) q275 (fun _ z => z) hc0 rfl dX5_note_8 ?_
  refine z_icmp_ge (pc := 11) (tgt := 28) C dX5_note_11 (by decide) (by omega) (by omega) (fun c11 => ?_) (fun c11 => ?_)
  · refine z_bipush (pc := 28) C dX5_note_28 (by decide) ?_
    refine z_istore_n (pc := 30) (L' := [(1, .int (iI (-2))), (0, .ref r)]) C dX5_note_30 rfl (by rw [hnL]; decide) rfl ?_
    refine z_iload_n (pc := 31) (j := 0) C dX5_note_31 rfl rfl ?_
    refine z_iconst (pc := 32) C dX5_note_32 ?_
    refine z_icmp_ge (pc := 33) (tgt := 48) C dX5_note_33 (by decide) (by decide) (by decide) (fun z => absurd z (by decide)) (fun _ => ?_)
    refine z_new (pc := 36) (ci := 5) (kc' := 0) (ks' := 0) (fs := [.null, .null, .null, .null, .null, .int (iI 0), .int (iI 0)]) C in_X6 tyX6 tyX6_ok rfl q370 q371 q85 df_X6 (by omega) (by omega) dX5_note_36 (fun a1 fa1 => ?_)
    refine Z.nm (fun h2 eh2 => ?_)
    have na1 : h a1 = none := fa1
    have kh2 : zkeep h h2 [r] := by rw [eh2]; exact zkeep.born zkeep.rf fa1
    have fh2_0 : h2 a1 = some (true, .inr (5, [.null, .null, .null, .null, .null, .int (iI 0), .int (iI 0)])) := zse eh2
    have fh2_1 : h2 r = some (true, .inr (4, [.int (iI p), .ref c])) := zsn eh2 hr (zneF hr fa1)
    refine z_dup (pc := 39) C dX5_note_39 rfl ?_
    refine z_aload_n (pc := 40) (j := 1) C dX5_note_40 rfl rfl ?_
    refine z_getfield (pc := 41) (v := .int (iI p)) C in_X5 rfl 0 (by decide) q315 (fun _ z => z) fh2_1 rfl dX5_note_41 ?_
    refine z_callI (pc := 44) (n := 1) (kc' := 0) (ks' := 0) C (ct_TE_init C.t fh2_0 (p := p)) q414 q85 q412 q413 rfl (by decide +kernel) ⟨by decide, by decide⟩ rfl rfl (Nat.le_of_ble_eq_true rfl) dX5_note_44 (by omega) (by omega) (zrk fun w h3 hp => ?_) zrx
    obtain ⟨rfl, fq4, k5⟩ := hp
    have kh3 : zkeep h h3 [r] := zkeep.loc kh2 k5 (zall_cons (Or.inl (Or.symm (Or.inr na1))) zall_nil)
    have fh3_1 : h3 r = some (true, .inr (4, [.int (iI p), .ref c])) := k5.n fh2_1 (List.not_mem_cons_of_ne_of_not_mem (zneF hr fa1) List.not_mem_nil)
    show Z X h3 0 0 [(1, .int (iI (-2))), (0, .ref r)] 47 [.ref a1]
    refine z_athrow (pc := 47) C rfl fq4 dX5_note_47 ?_
    exact zx_out C (fun x hx => nomatch hx) (by rw [hXp]; exact Or.inr ⟨_, rfl, (fun hz => by have h1 := hz.1; have h2 := hz.2; omega), fq4, na1, kh3⟩)
  · refine Z.constS C 11 rfl (fun hs6 => ?_)
    have hs6 : sAt h ((X.Γ.2.2.2 (11 + 2))) [70, 67, 71, 68, 65, 69, 66] := zS_11 ▸ hs6
    refine z_ldcS (pc := 14) C 11 rfl dX5_note_14 ?_
    refine z_aload_n (pc := 16) (j := 0) C dX5_note_16 rfl rfl ?_
    refine z_callV (pc := 17) (n := 0) (kc' := 1) (ks' := 7) C (ct_R_peek C.t (p := p) hr hc0 htx hch hT hTl (by omega)) (lw_V q362 q364 qs3 q80 q365) (by decide +kernel) ⟨by decide, by decide⟩ hr rfl rfl rfl (Nat.le_of_ble_eq_true rfl) dX5_note_17 (by omega) (by omega) (zpk (st' := [.int (iI (tch T p)), .ref (X.Γ.2.2.2 (11 + 2))]) rfl ?_) zrx
    have htr20 := tch_r hT (p := p) (by omega)
    obtain ⟨hl_7, v_7, x_7, y_7, g_7, h1_7, h2_7, h3_7, h4_7⟩ := id (hs6)
    have h1_7 : h ((X.Γ.2.2.2 (11 + 2))) = some (false, .inr (13, [.ref v_7, .int (iI 0), .int x_7, .int y_7])) := h1_7
    refine z_callV (pc := 20) (n := 1) (kc' := 1) (ks' := 7) C (ct_S_indexOf C.t hs6 (c := tch T p) (by omega)) (lw_V q454 q455 q456 q83 q457) (by decide +kernel) ⟨by decide, by decide⟩ h1_7 rfl rfl rfl (Nat.le_of_ble_eq_true rfl) dX5_note_20 (by omega) (by omega) (zpk (st' := [.int (iI (zix ([70, 67, 71, 68, 65, 69, 66]) (tch T p)))]) rfl ?_) zrx
    rw [show ((zix ([70, 67, 71, 68, 65, 69, 66]) (tch T p)) : Int) = zix LTR (tch T p) from rfl]
    show Z X h 1 7 [(0, .ref r)] 23 [.int (iI (zix LTR (tch T p)))]
    have hzx := zixL_r (tch T p)
    refine z_iconst (pc := 23) C dX5_note_23 ?_
    refine z_isub (pc := 24) C dX5_note_24 ?_
    refine z_goto (pc := 25) (tgt := 30) C dX5_note_25 (by decide) ?_
    refine z_istore_n (pc := 30) (L' := [(1, .int (iI ((zix LTR (tch T p)) - 1))), (0, .ref r)]) C dX5_note_30 rfl (by rw [hnL]; decide) rfl ?_
    refine z_iload_n (pc := 31) (j := 0) C dX5_note_31 rfl rfl ?_
    refine z_iconst (pc := 32) C dX5_note_32 ?_
    refine z_icmp_ge (pc := 33) (tgt := 48) C dX5_note_33 (by decide) (by omega) (by decide) (fun c33 => ?_) (fun c33 => ?_)
    · refine z_aload_n (pc := 48) (j := 1) C dX5_note_48 rfl rfl ?_
      refine z_dup (pc := 49) C dX5_note_49 rfl ?_
      refine z_getfield (pc := 50) (v := .int (iI p)) C in_X5 rfl 0 (by decide) q315 (fun _ z => z) hr rfl dX5_note_50 ?_
      refine z_iconst (pc := 53) C dX5_note_53 ?_
      refine z_iadd (pc := 54) C dX5_note_54 ?_
      refine z_putfield (pc := 55) (fs' := [.int (iI (p + 1)), .ref c]) C in_X5 tyX5 tyX5_ok nmX5 rfl 0 (by decide) q315 (fun _ z => z) rfl rfl rfl (Nat.le_of_ble_eq_true rfl) hr rfl dX5_note_55 ?_
      refine Z.nm (fun h8 eh8 => ?_)
      have kh8 : zkeep h h8 [r] := by rw [eh8]; exact zkeep.up zkeep.rf (Or.inl (by simp)) hr
      have fh8_0 : h8 r = some (true, .inr (4, [.int (iI (p + 1)), .ref c])) := zse eh8
      refine z_aload_n (pc := 58) (j := 1) C dX5_note_58 rfl rfl ?_
      refine z_callV (pc := 59) (n := 0) (kc' := 1) (ks' := 7) C (ct_R_peek C.t (p := p + 1) fh8_0 (kh8.n hc0 (List.not_mem_cons_of_ne_of_not_mem (zneC hc0 hr (by decide)) List.not_mem_nil)) (kh8.n htx (List.not_mem_cons_of_ne_of_not_mem (Ne.symm (zneA hr htx)) List.not_mem_nil)) hch hT hTl (by omega)) (lw_V q362 q364 qs3 q80 q365) (by decide +kernel) ⟨by decide, by decide⟩ fh8_0 rfl rfl rfl (Nat.le_of_ble_eq_true rfl) dX5_note_59 (by omega) (by omega) (zpk (st' := [.int (iI (tch T (p + 1)))]) rfl ?_) zrx
      have htr62 := tch_r hT (p := p + 1) (by omega)
      refine z_bipush (pc := 62) C dX5_note_62 (by decide) ?_
      refine z_icmp_eq (pc := 64) (tgt := 76) C dX5_note_64 (by decide) (by omega) (by decide) (fun c64 => ?_) (fun c64 => ?_)
      · refine z_iload_n (pc := 76) (j := 0) C dX5_note_76 rfl rfl ?_
        refine z_aload_n (pc := 77) (j := 1) C dX5_note_77 rfl rfl ?_
        refine z_callV (pc := 78) (n := 0) (kc' := 1) (ks' := 7) C (ct_R_peek C.t (p := p + 1) fh8_0 (kh8.n hc0 (List.not_mem_cons_of_ne_of_not_mem (zneC hc0 hr (by decide)) List.not_mem_nil)) (kh8.n htx (List.not_mem_cons_of_ne_of_not_mem (Ne.symm (zneA hr htx)) List.not_mem_nil)) hch hT hTl (by omega)) (lw_V q362 q364 qs3 q80 q365) (by decide +kernel) ⟨by decide, by decide⟩ fh8_0 rfl rfl rfl (Nat.le_of_ble_eq_true rfl) dX5_note_78 (by omega) (by omega) (zpk (st' := [.int (iI (tch T (p + 1))), .int (iI ((zix LTR (tch T p)) - 1))]) rfl ?_) zrx
        have htr81 := tch_r hT (p := p + 1) (by omega)
        refine z_bipush (pc := 81) C dX5_note_81 (by decide) ?_
        refine z_icmp_ne (pc := 83) (tgt := 94) C dX5_note_83 (by decide) (by omega) (by decide) (fun c83 => ?_) (fun c83 => ?_)
        · refine z_ldcS (pc := 94) C 11 rfl dX5_note_94 ?_
          refine z_callV (pc := 96) (n := 0) (kc' := 1) (ks' := 7) C (ct_S_length C.t (sAt.keep kh8 hs6)) (lw_V q535 q468 q469 q83 q470) (by decide +kernel) ⟨by decide, by decide⟩ (kh8.f h1_7) rfl rfl rfl (Nat.le_of_ble_eq_true rfl) dX5_note_96 (by omega) (by omega) (zpk (st' := [.int (iI 7), .int (iI ((zix LTR (tch T p)) - 1))]) rfl ?_) zrx
          refine z_ineg (pc := 99) C dX5_note_99 ?_
          refine z_iadd (pc := 100) C dX5_note_100 ?_
          refine z_istore_n (pc := 101) (L' := [(1, .int (iI (((zix LTR (tch T p)) - 1) + (-7)))), (0, .ref r)]) C dX5_note_101 rfl (by rw [hnL]; decide) rfl ?_
          refine z_aload_n (pc := 102) (j := 1) C dX5_note_102 rfl rfl ?_
          refine z_dup (pc := 103) C dX5_note_103 rfl ?_
          refine z_getfield (pc := 104) (v := .int (iI (p + 1))) C in_X5 rfl 0 (by decide) q315 (fun _ z => z) fh8_0 rfl dX5_note_104 ?_
          refine z_iconst (pc := 107) C dX5_note_107 ?_
          refine z_iadd (pc := 108) C dX5_note_108 ?_
          refine z_putfield (pc := 109) (fs' := [.int (iI ((p + 1) + 1)), .ref c]) C in_X5 tyX5 tyX5_ok nmX5 rfl 0 (by decide) q315 (fun _ z => z) rfl rfl rfl (Nat.le_of_ble_eq_true rfl) fh8_0 rfl dX5_note_109 ?_
          refine Z.nm (fun h9 eh9 => ?_)
          have kh9 : zkeep h h9 [r] := by rw [eh9]; exact zkeep.up kh8 (Or.inl (by simp)) fh8_0
          have fh9_0 : h9 r = some (true, .inr (4, [.int (iI ((p + 1) + 1)), .ref c])) := zse eh9
          refine z_iload_n (pc := 112) (j := 0) C dX5_note_112 rfl rfl ?_
          exact z_ireturn (pc := 113) C (by rw [hXp]; exact Or.inl ⟨_, rfl, ⟨by omega, by omega⟩, (show some (Value.int (iI (((zix LTR (tch T p)) - 1) + (-7)))) = some (.int (iI (npl T p))) by rw [show (((zix LTR (tch T p)) - 1) + (-7)) = npl T p by unfold npl nsg; (repeat' split) <;> omega]), (show nen T p = (p + 1) + 1 by unfold nen; split <;> omega) ▸ fh9_0, kh9⟩) dX5_note_113
        · refine z_ldcS (pc := 86) C 11 rfl dX5_note_86 ?_
          refine z_callV (pc := 88) (n := 0) (kc' := 1) (ks' := 7) C (ct_S_length C.t (sAt.keep kh8 hs6)) (lw_V q535 q468 q469 q83 q470) (by decide +kernel) ⟨by decide, by decide⟩ (kh8.f h1_7) rfl rfl rfl (Nat.le_of_ble_eq_true rfl) dX5_note_88 (by omega) (by omega) (zpk (st' := [.int (iI 7), .int (iI ((zix LTR (tch T p)) - 1))]) rfl ?_) zrx
          refine z_goto (pc := 91) (tgt := 100) C dX5_note_91 (by decide) ?_
          refine z_iadd (pc := 100) C dX5_note_100 ?_
          refine z_istore_n (pc := 101) (L' := [(1, .int (iI (((zix LTR (tch T p)) - 1) + 7))), (0, .ref r)]) C dX5_note_101 rfl (by rw [hnL]; decide) rfl ?_
          refine z_aload_n (pc := 102) (j := 1) C dX5_note_102 rfl rfl ?_
          refine z_dup (pc := 103) C dX5_note_103 rfl ?_
          refine z_getfield (pc := 104) (v := .int (iI (p + 1))) C in_X5 rfl 0 (by decide) q315 (fun _ z => z) fh8_0 rfl dX5_note_104 ?_
          refine z_iconst (pc := 107) C dX5_note_107 ?_
          refine z_iadd (pc := 108) C dX5_note_108 ?_
          refine z_putfield (pc := 109) (fs' := [.int (iI ((p + 1) + 1)), .ref c]) C in_X5 tyX5 tyX5_ok nmX5 rfl 0 (by decide) q315 (fun _ z => z) rfl rfl rfl (Nat.le_of_ble_eq_true rfl) fh8_0 rfl dX5_note_109 ?_
          refine Z.nm (fun h10 eh10 => ?_)
          have kh10 : zkeep h h10 [r] := by rw [eh10]; exact zkeep.up kh8 (Or.inl (by simp)) fh8_0
          have fh10_0 : h10 r = some (true, .inr (4, [.int (iI ((p + 1) + 1)), .ref c])) := zse eh10
          refine z_iload_n (pc := 112) (j := 0) C dX5_note_112 rfl rfl ?_
          exact z_ireturn (pc := 113) C (by rw [hXp]; exact Or.inl ⟨_, rfl, ⟨by omega, by omega⟩, (show some (Value.int (iI (((zix LTR (tch T p)) - 1) + 7))) = some (.int (iI (npl T p))) by rw [show (((zix LTR (tch T p)) - 1) + 7) = npl T p by unfold npl nsg; (repeat' split) <;> omega]), (show nen T p = (p + 1) + 1 by unfold nen; split <;> omega) ▸ fh10_0, kh10⟩) dX5_note_113
      · refine z_aload_n (pc := 67) (j := 1) C dX5_note_67 rfl rfl ?_
        refine z_callV (pc := 68) (n := 0) (kc' := 1) (ks' := 7) C (ct_R_peek C.t (p := p + 1) fh8_0 (kh8.n hc0 (List.not_mem_cons_of_ne_of_not_mem (zneC hc0 hr (by decide)) List.not_mem_nil)) (kh8.n htx (List.not_mem_cons_of_ne_of_not_mem (Ne.symm (zneA hr htx)) List.not_mem_nil)) hch hT hTl (by omega)) (lw_V q362 q364 qs3 q80 q365) (by decide +kernel) ⟨by decide, by decide⟩ fh8_0 rfl rfl rfl (Nat.le_of_ble_eq_true rfl) dX5_note_68 (by omega) (by omega) (zpk (st' := [.int (iI (tch T (p + 1)))]) rfl ?_) zrx
        have htr71 := tch_r hT (p := p + 1) (by omega)
        refine z_bipush (pc := 71) C dX5_note_71 (by decide) ?_
        refine z_icmp_ne (pc := 73) (tgt := 112) C dX5_note_73 (by decide) (by omega) (by decide) (fun c73 => ?_) (fun c73 => ?_)
        · refine z_iload_n (pc := 112) (j := 0) C dX5_note_112 rfl rfl ?_
          exact z_ireturn (pc := 113) C (by rw [hXp]; exact Or.inl ⟨_, rfl, ⟨by omega, by omega⟩, (show some (Value.int (iI ((zix LTR (tch T p)) - 1))) = some (.int (iI (npl T p))) by rw [show ((zix LTR (tch T p)) - 1) = npl T p by unfold npl nsg; (repeat' split) <;> omega]), (show nen T p = p + 1 by unfold nen; split <;> omega) ▸ fh8_0, kh8⟩) dX5_note_113
        · refine z_iload_n (pc := 76) (j := 0) C dX5_note_76 rfl rfl ?_
          refine z_aload_n (pc := 77) (j := 1) C dX5_note_77 rfl rfl ?_
          refine z_callV (pc := 78) (n := 0) (kc' := 1) (ks' := 7) C (ct_R_peek C.t (p := p + 1) fh8_0 (kh8.n hc0 (List.not_mem_cons_of_ne_of_not_mem (zneC hc0 hr (by decide)) List.not_mem_nil)) (kh8.n htx (List.not_mem_cons_of_ne_of_not_mem (Ne.symm (zneA hr htx)) List.not_mem_nil)) hch hT hTl (by omega)) (lw_V q362 q364 qs3 q80 q365) (by decide +kernel) ⟨by decide, by decide⟩ fh8_0 rfl rfl rfl (Nat.le_of_ble_eq_true rfl) dX5_note_78 (by omega) (by omega) (zpk (st' := [.int (iI (tch T (p + 1))), .int (iI ((zix LTR (tch T p)) - 1))]) rfl ?_) zrx
          have htr81 := tch_r hT (p := p + 1) (by omega)
          refine z_bipush (pc := 81) C dX5_note_81 (by decide) ?_
          refine z_icmp_ne (pc := 83) (tgt := 94) C dX5_note_83 (by decide) (by omega) (by decide) (fun c83 => ?_) (fun c83 => ?_)
          · refine z_ldcS (pc := 94) C 11 rfl dX5_note_94 ?_
            refine z_callV (pc := 96) (n := 0) (kc' := 1) (ks' := 7) C (ct_S_length C.t (sAt.keep kh8 hs6)) (lw_V q535 q468 q469 q83 q470) (by decide +kernel) ⟨by decide, by decide⟩ (kh8.f h1_7) rfl rfl rfl (Nat.le_of_ble_eq_true rfl) dX5_note_96 (by omega) (by omega) (zpk (st' := [.int (iI 7), .int (iI ((zix LTR (tch T p)) - 1))]) rfl ?_) zrx
            refine z_ineg (pc := 99) C dX5_note_99 ?_
            refine z_iadd (pc := 100) C dX5_note_100 ?_
            refine z_istore_n (pc := 101) (L' := [(1, .int (iI (((zix LTR (tch T p)) - 1) + (-7)))), (0, .ref r)]) C dX5_note_101 rfl (by rw [hnL]; decide) rfl ?_
            refine z_aload_n (pc := 102) (j := 1) C dX5_note_102 rfl rfl ?_
            refine z_dup (pc := 103) C dX5_note_103 rfl ?_
            refine z_getfield (pc := 104) (v := .int (iI (p + 1))) C in_X5 rfl 0 (by decide) q315 (fun _ z => z) fh8_0 rfl dX5_note_104 ?_
            refine z_iconst (pc := 107) C dX5_note_107 ?_
            refine z_iadd (pc := 108) C dX5_note_108 ?_
            refine z_putfield (pc := 109) (fs' := [.int (iI ((p + 1) + 1)), .ref c]) C in_X5 tyX5 tyX5_ok nmX5 rfl 0 (by decide) q315 (fun _ z => z) rfl rfl rfl (Nat.le_of_ble_eq_true rfl) fh8_0 rfl dX5_note_109 ?_
            refine Z.nm (fun h11 eh11 => ?_)
            have kh11 : zkeep h h11 [r] := by rw [eh11]; exact zkeep.up kh8 (Or.inl (by simp)) fh8_0
            have fh11_0 : h11 r = some (true, .inr (4, [.int (iI ((p + 1) + 1)), .ref c])) := zse eh11
            refine z_iload_n (pc := 112) (j := 0) C dX5_note_112 rfl rfl ?_
            exact z_ireturn (pc := 113) C (by rw [hXp]; exact Or.inl ⟨_, rfl, ⟨by omega, by omega⟩, (show some (Value.int (iI (((zix LTR (tch T p)) - 1) + (-7)))) = some (.int (iI (npl T p))) by rw [show (((zix LTR (tch T p)) - 1) + (-7)) = npl T p by unfold npl nsg; (repeat' split) <;> omega]), (show nen T p = (p + 1) + 1 by unfold nen; split <;> omega) ▸ fh11_0, kh11⟩) dX5_note_113
          · refine z_ldcS (pc := 86) C 11 rfl dX5_note_86 ?_
            refine z_callV (pc := 88) (n := 0) (kc' := 1) (ks' := 7) C (ct_S_length C.t (sAt.keep kh8 hs6)) (lw_V q535 q468 q469 q83 q470) (by decide +kernel) ⟨by decide, by decide⟩ (kh8.f h1_7) rfl rfl rfl (Nat.le_of_ble_eq_true rfl) dX5_note_88 (by omega) (by omega) (zpk (st' := [.int (iI 7), .int (iI ((zix LTR (tch T p)) - 1))]) rfl ?_) zrx
            refine z_goto (pc := 91) (tgt := 100) C dX5_note_91 (by decide) ?_
            refine z_iadd (pc := 100) C dX5_note_100 ?_
            refine z_istore_n (pc := 101) (L' := [(1, .int (iI (((zix LTR (tch T p)) - 1) + 7))), (0, .ref r)]) C dX5_note_101 rfl (by rw [hnL]; decide) rfl ?_
            refine z_aload_n (pc := 102) (j := 1) C dX5_note_102 rfl rfl ?_
            refine z_dup (pc := 103) C dX5_note_103 rfl ?_
            refine z_getfield (pc := 104) (v := .int (iI (p + 1))) C in_X5 rfl 0 (by decide) q315 (fun _ z => z) fh8_0 rfl dX5_note_104 ?_
            refine z_iconst (pc := 107) C dX5_note_107 ?_
            refine z_iadd (pc := 108) C dX5_note_108 ?_
            refine z_putfield (pc := 109) (fs' := [.int (iI ((p + 1) + 1)), .ref c]) C in_X5 tyX5 tyX5_ok nmX5 rfl 0 (by decide) q315 (fun _ z => z) rfl rfl rfl (Nat.le_of_ble_eq_true rfl) fh8_0 rfl dX5_note_109 ?_
            refine Z.nm (fun h12 eh12 => ?_)
            have kh12 : zkeep h h12 [r] := by rw [eh12]; exact zkeep.up kh8 (Or.inl (by simp)) fh8_0
            have fh12_0 : h12 r = some (true, .inr (4, [.int (iI ((p + 1) + 1)), .ref c])) := zse eh12
            refine z_iload_n (pc := 112) (j := 0) C dX5_note_112 rfl rfl ?_
            exact z_ireturn (pc := 113) C (by rw [hXp]; exact Or.inl ⟨_, rfl, ⟨by omega, by omega⟩, (show some (Value.int (iI (((zix LTR (tch T p)) - 1) + 7))) = some (.int (iI (npl T p))) by rw [show (((zix LTR (tch T p)) - 1) + 7) = npl T p by unfold npl nsg; (repeat' split) <;> omega]), (show nen T p = (p + 1) + 1 by unfold nen; split <;> omega) ▸ fh12_0, kh12⟩) dX5_note_113
    · refine z_new (pc := 36) (ci := 5) (kc' := 0) (ks' := 0) (fs := [.null, .null, .null, .null, .null, .int (iI 0), .int (iI 0)]) C in_X6 tyX6 tyX6_ok rfl q370 q371 q85 df_X6 (by omega) (by omega) dX5_note_36 (fun a13 fa13 => ?_)
      refine Z.nm (fun h14 eh14 => ?_)
      have na13 : h a13 = none := fa13
      have kh14 : zkeep h h14 [r] := by rw [eh14]; exact zkeep.born zkeep.rf fa13
      have fh14_0 : h14 a13 = some (true, .inr (5, [.null, .null, .null, .null, .null, .int (iI 0), .int (iI 0)])) := zse eh14
      have fh14_1 : h14 r = some (true, .inr (4, [.int (iI p), .ref c])) := zsn eh14 hr (zneF hr fa13)
      refine z_dup (pc := 39) C dX5_note_39 rfl ?_
      refine z_aload_n (pc := 40) (j := 1) C dX5_note_40 rfl rfl ?_
      refine z_getfield (pc := 41) (v := .int (iI p)) C in_X5 rfl 0 (by decide) q315 (fun _ z => z) fh14_1 rfl dX5_note_41 ?_
      refine z_callI (pc := 44) (n := 1) (kc' := 0) (ks' := 0) C (ct_TE_init C.t fh14_0 (p := p)) q414 q85 q412 q413 rfl (by decide +kernel) ⟨by decide, by decide⟩ rfl rfl (Nat.le_of_ble_eq_true rfl) dX5_note_44 (by omega) (by omega) (zrk fun w h15 hp => ?_) zrx
      obtain ⟨rfl, fq16, k17⟩ := hp
      have kh15 : zkeep h h15 [r] := zkeep.loc kh14 k17 (zall_cons (Or.inl (Or.symm (Or.inr na13))) zall_nil)
      have fh15_1 : h15 r = some (true, .inr (4, [.int (iI p), .ref c])) := k17.n fh14_1 (List.not_mem_cons_of_ne_of_not_mem (zneF hr fa13) List.not_mem_nil)
      show Z X h15 0 0 [(1, .int (iI ((zix LTR (tch T p)) - 1))), (0, .ref r)] 47 [.ref a13]
      refine z_athrow (pc := 47) C rfl fq16 dX5_note_47 ?_
      exact zx_out C (fun x hx => nomatch hx) (by rw [hXp]; exact Or.inr ⟨_, rfl, (fun hz => by have h1 := hz.1; have h2 := hz.2; omega), fq16, na13, kh15⟩)
set_option maxHeartbeats 4000000 in
theorem ct_R_begun {l : Launch} (hl : l.stackTraces = false) {Γ : zCx} {h : zH} {r c tx : Nat} {p : Int} {tf : Nat → Value} {T : List Int} {c2 c3 c4 c5 c6 : Value} (hr : h r = some (true, .inr (4, [.int (iI p), .ref c]))) (hc0 : h c = some (true, .inr (0, [.ref tx, .int (iI ((T.length : Nat) : Int)), c2, c3, c4, c5, c6]))) (htx : h tx = some (true, .inl (.char, 200, tf))) (hch : ∀ (j : Nat) (d : Int), T[j]? = some d → tf j = .int (iI d)) (hT : ∀ c ∈ T, 32 ≤ c ∧ c ≤ 126) (hTl : T.length ≤ 200) (hp : 0 ≤ p ∧ p ≤ 1000) {qa : Nat} {ql : List Int} (hqs : sAt h qa ql) (hql : ql.length ≤ 10) {fr : Int} (hf : 0 ≤ fr ∧ fr ≤ p) (hpl : p < (T.length : Nat))  : zMet l yX5_isBegun (ws_ yX5_isBegun cX5_isBegun 6 (some .boolean)) ({ frames := 4, cells := 0, slots := 0, locals := 85 }) Γ h [.ref r, .ref qa, .int (iI fr)] (zpure h (some (.int (iI (if (p - fr + 1).toNat ≤ lcp ql (T.drop fr.toNat) then 1 else 0))))) 0 0 := by
  refine zMet.of (cc := cX5_isBegun) hl (plainFor_of_name (by decide +kernel)) (Nat.le_of_ble_eq_true rfl) ?_
  intro X hXl hXΓ hXp C hnm hnL
  have C : zC X cX5_isBegun RX5 (some .boolean) 4 85 [] := C
  have hnL : X.2.1.2.2.2.2 = 6 := hnL
  subst hXl hXΓ
  show Z X h 0 0 [(0, .ref r), (1, .ref qa), (2, .int (iI fr))] 0 []
  have h4as : ∀ c ∈ ql, 0 ≤ c ∧ c < 128 := by obtain ⟨-, v, x, y, f, -, -, -, z⟩ := hqs; exact z
  refine z_aload_n (pc := 0) (j := 0) C dX5_isBegun_0 rfl rfl ?_
  refine z_getfield (pc := 1) (v := .int (iI p)) C in_X5 rfl 0 (by decide) q315 (fun _ z => z) hr rfl dX5_isBegun_1 ?_
  refine z_iload_n (pc := 4) (j := 2) C dX5_isBegun_4 rfl rfl ?_
  refine z_isub (pc := 5) C dX5_isBegun_5 ?_
  refine z_iconst (pc := 6) C dX5_isBegun_6 ?_
  refine z_iadd (pc := 7) C dX5_isBegun_7 ?_
  refine z_istore_n (pc := 8) (L' := [(3, .int (iI ((p - fr) + 1))), (0, .ref r), (1, .ref qa), (2, .int (iI fr))]) C dX5_isBegun_8 rfl (by rw [hnL]; decide) rfl ?_
  refine z_aload_n (pc := 9) (j := 2) C dX5_isBegun_9 rfl rfl ?_
  obtain ⟨hl_1, v_1, x_1, y_1, g_1, h1_1, h2_1, h3_1, h4_1⟩ := id (hqs)
  have h1_1 : h (qa) = some (false, .inr (13, [.ref v_1, .int (iI 0), .int x_1, .int y_1])) := h1_1
  refine z_callV (pc := 10) (n := 0) (kc' := 0) (ks' := 0) C (ct_S_length C.t hqs) (lw_V q535 q468 q469 q83 q470) (by decide +kernel) ⟨by decide, by decide⟩ h1_1 rfl rfl rfl (Nat.le_of_ble_eq_true rfl) dX5_isBegun_10 (by omega) (by omega) (zpk (st' := [.int (iI ((ql.length : Nat) : Int))]) rfl ?_) zrx
  refine z_iload_n (pc := 13) (j := 0) C dX5_isBegun_13 rfl rfl ?_
  refine z_icmp_lt (pc := 14) (tgt := 21) C dX5_isBegun_14 (by decide) (by omega) (by omega) (fun c14 => ?_) (fun c14 => ?_)
  · refine z_iconst (pc := 21) C dX5_isBegun_21 ?_
    refine z_istore (pc := 22) (L' := [(4, .int (iI 0)), (3, .int (iI ((p - fr) + 1))), (0, .ref r), (1, .ref qa), (2, .int (iI fr))]) C dX5_isBegun_22 (by rw [hnL]; decide) rfl ?_
    refine z_iconst (pc := 24) C dX5_isBegun_24 ?_
    refine z_istore (pc := 25) (L' := [(5, .int (iI 0)), (4, .int (iI 0)), (3, .int (iI ((p - fr) + 1))), (0, .ref r), (1, .ref qa), (2, .int (iI fr))]) C dX5_isBegun_25 (by rw [hnL]; decide) rfl ?_
    have loop27 : ∀ (n27 : Nat) (k : Int) (s : Int), (0 ≤ k ∧ k ≤ (p - fr + 1) ∧ (s = 1 ∨ s = 0)) → (s = 1 → k ≤ ((lcp ql (T.drop fr.toNat) : Nat) : Int) ∧ (p - fr + 1) ≤ (ql.length : Nat)) → (s = 0 → ((lcp ql (T.drop fr.toNat) : Nat) : Int) < (p - fr + 1)) → (((p - fr + 1) - k).toNat) = n27 → Z X h 0 0 [(5, .int (iI k)), (4, .int (iI s)), (3, .int (iI (p - fr + 1))), (2, .int (iI fr)), (1, .ref qa), (0, .ref r)] 27 [] := by
      intro n27
      induction n27 using Nat.strongRecOn with
      | ind n27 ih27 =>
      intro k s hk hs1 hs0 hn27
      refine z_iload (pc := 27) (j := 1) C dX5_isBegun_27 rfl ?_
      have hlc := lcp_le1 ql (T.drop fr.toNat)
      refine z_if_eq (pc := 29) (tgt := 72) C dX5_isBegun_29 (by decide) (by omega) (fun c29 => ?_) (fun c29 => ?_)
      · refine z_iload (pc := 72) (j := 1) C dX5_isBegun_72 rfl ?_
        exact z_zreturn (pc := 74) C (i_nz (by omega) (by omega)) (by rw [hXp]; exact zpure_i (by split <;> omega) rfl) dX5_isBegun_74
      · refine z_iload (pc := 32) (j := 0) C dX5_isBegun_32 rfl ?_
        refine z_iload_n (pc := 34) (j := 2) C dX5_isBegun_34 rfl rfl ?_
        refine z_icmp_ge (pc := 35) (tgt := 72) C dX5_isBegun_35 (by decide) (by omega) (by omega) (fun c35 => ?_) (fun c35 => ?_)
        · refine z_iload (pc := 72) (j := 1) C dX5_isBegun_72 rfl ?_
          exact z_zreturn (pc := 74) C (i_nz (by omega) (by omega)) (by rw [hXp]; exact zpure_i (by split <;> omega) rfl) dX5_isBegun_74
        · refine z_aload_n (pc := 38) (j := 4) C dX5_isBegun_38 rfl rfl ?_
          refine z_iload (pc := 39) (j := 0) C dX5_isBegun_39 rfl ?_
          obtain ⟨a1, ha1⟩ : ∃ x, ql[(k).toNat]? = some x := ⟨_, List.getElem?_eq_getElem (by omega)⟩
          refine z_callV (pc := 41) (n := 1) (kc' := 0) (ks' := 0) C (ct_S_charAt C.t hqs (i := k) (c := a1) (by omega) ha1) (lw_V q560 q561 q562 q83 q563) (by decide +kernel) ⟨by decide, by decide⟩ h1_1 rfl rfl rfl (Nat.le_of_ble_eq_true rfl) dX5_isBegun_41 (by omega) (by omega) (zpk (st' := [.int (iI a1)]) rfl ?_) zrx
          refine z_aload_n (pc := 44) (j := 5) C dX5_isBegun_44 rfl rfl ?_
          refine z_getfield (pc := 45) (v := .ref c) C in_X5 rfl 1 (by decide) q316 (fun _ z => z) hr rfl dX5_isBegun_45 ?_
          refine z_getfieldN (pc := 48) (v := .ref tx) C in_X1 rfl 0 (by decide) q274 (fun _ z => z) hc0 rfl dX5_isBegun_48 ?_
          refine z_iload_n (pc := 51) (j := 3) C dX5_isBegun_51 rfl rfl ?_
          refine z_iload (pc := 52) (j := 0) C dX5_isBegun_52 rfl ?_
          refine z_iadd (pc := 54) C dX5_isBegun_54 ?_
          have hb1 := tch_at (T := T) (p := fr + k) (by omega)
          have hb2 := hT _ (List.mem_of_getElem? hb1)
          have ha2 := h4as a1 (List.mem_of_getElem? ha1)
          have hls := lcp_step ql (T.drop fr.toNat) k.toNat a1 (tch T (fr + k)) ha1 (by rw [List.getElem?_drop, ← hb1]; congr 1; omega) (by omega)
          refine z_caload (pc := 55) (v := .int (iI (tch T (fr + k)))) C htx (by omega) (hch _ _ hb1) dX5_isBegun_55 ?_
          refine z_icmp_ne (pc := 56) (tgt := 63) C dX5_isBegun_56 (by decide) (by omega) (by omega) (fun c56 => ?_) (fun c56 => ?_)
          · refine z_iconst (pc := 63) C dX5_isBegun_63 ?_
            refine z_istore (pc := 64) (L' := [(4, .int (iI 0)), (5, .int (iI k)), (3, .int (iI (p - fr + 1))), (2, .int (iI fr)), (1, .ref qa), (0, .ref r)]) C dX5_isBegun_64 (by rw [hnL]; decide) rfl ?_
            refine z_iinc (pc := 66) (k := 1) (L' := [(5, .int (iI (k + 1))), (4, .int (iI 0)), (3, .int (iI (p - fr + 1))), (2, .int (iI fr)), (1, .ref qa), (0, .ref r)]) C dX5_isBegun_66 rfl (by rw [hnL]; decide) rfl ?_
            refine z_goto (pc := 69) (tgt := 27) C dX5_isBegun_69 (by decide) ?_
            refine Z.weak (L' := [(5, .int (iI (k + 1))), (4, .int (iI 0)), (3, .int (iI (p - fr + 1))), (2, .int (iI fr)), (1, .ref qa), (0, .ref r)]) (kc' := 0) (ks' := 0) [0, 1, 2, 3, 4, 5] rfl (by omega) (by omega) ?_
            exact ih27 _ (by omega) (k + 1) 0 (by omega) (by intro z; have := hls.1 (by omega); omega) (by intro z; have := hls.2 (by omega); omega) rfl
          · refine z_iconst (pc := 59) C dX5_isBegun_59 ?_
            refine z_goto (pc := 60) (tgt := 64) C dX5_isBegun_60 (by decide) ?_
            refine z_istore (pc := 64) (L' := [(4, .int (iI 1)), (5, .int (iI k)), (3, .int (iI (p - fr + 1))), (2, .int (iI fr)), (1, .ref qa), (0, .ref r)]) C dX5_isBegun_64 (by rw [hnL]; decide) rfl ?_
            refine z_iinc (pc := 66) (k := 1) (L' := [(5, .int (iI (k + 1))), (4, .int (iI 1)), (3, .int (iI (p - fr + 1))), (2, .int (iI fr)), (1, .ref qa), (0, .ref r)]) C dX5_isBegun_66 rfl (by rw [hnL]; decide) rfl ?_
            refine z_goto (pc := 69) (tgt := 27) C dX5_isBegun_69 (by decide) ?_
            refine Z.weak (L' := [(5, .int (iI (k + 1))), (4, .int (iI 1)), (3, .int (iI (p - fr + 1))), (2, .int (iI fr)), (1, .ref qa), (0, .ref r)]) (kc' := 0) (ks' := 0) [0, 1, 2, 3, 4, 5] rfl (by omega) (by omega) ?_
            exact ih27 _ (by omega) (k + 1) 1 (by omega) (by intro z; have := hls.1 (by omega); omega) (by intro z; have := hls.2 (by omega); omega) rfl
    refine Z.weak (L' := [(5, .int (iI 0)), (4, .int (iI 0)), (3, .int (iI ((p - fr) + 1))), (2, .int (iI fr)), (1, .ref qa), (0, .ref r)]) (kc' := 0) (ks' := 0) [0, 1, 2, 5, 4, 3] rfl (by omega) (by omega) ?_
    exact loop27 _ 0 0 (by omega) (by intro z; omega) (by have := lcp_le1 ql (T.drop fr.toNat); intro z; omega) rfl
  · refine z_iconst (pc := 17) C dX5_isBegun_17 ?_
    refine z_goto (pc := 18) (tgt := 22) C dX5_isBegun_18 (by decide) ?_
    refine z_istore (pc := 22) (L' := [(4, .int (iI 1)), (3, .int (iI ((p - fr) + 1))), (0, .ref r), (1, .ref qa), (2, .int (iI fr))]) C dX5_isBegun_22 (by rw [hnL]; decide) rfl ?_
    refine z_iconst (pc := 24) C dX5_isBegun_24 ?_
    refine z_istore (pc := 25) (L' := [(5, .int (iI 0)), (4, .int (iI 1)), (3, .int (iI ((p - fr) + 1))), (0, .ref r), (1, .ref qa), (2, .int (iI fr))]) C dX5_isBegun_25 (by rw [hnL]; decide) rfl ?_
    have loop27 : ∀ (n27 : Nat) (k : Int) (s : Int), (0 ≤ k ∧ k ≤ (p - fr + 1) ∧ (s = 1 ∨ s = 0)) → (s = 1 → k ≤ ((lcp ql (T.drop fr.toNat) : Nat) : Int) ∧ (p - fr + 1) ≤ (ql.length : Nat)) → (s = 0 → ((lcp ql (T.drop fr.toNat) : Nat) : Int) < (p - fr + 1)) → (((p - fr + 1) - k).toNat) = n27 → Z X h 0 0 [(5, .int (iI k)), (4, .int (iI s)), (3, .int (iI (p - fr + 1))), (2, .int (iI fr)), (1, .ref qa), (0, .ref r)] 27 [] := by
      intro n27
      induction n27 using Nat.strongRecOn with
      | ind n27 ih27 =>
      intro k s hk hs1 hs0 hn27
      refine z_iload (pc := 27) (j := 1) C dX5_isBegun_27 rfl ?_
      have hlc := lcp_le1 ql (T.drop fr.toNat)
      refine z_if_eq (pc := 29) (tgt := 72) C dX5_isBegun_29 (by decide) (by omega) (fun c29 => ?_) (fun c29 => ?_)
      · refine z_iload (pc := 72) (j := 1) C dX5_isBegun_72 rfl ?_
        exact z_zreturn (pc := 74) C (i_nz (by omega) (by omega)) (by rw [hXp]; exact zpure_i (by split <;> omega) rfl) dX5_isBegun_74
      · refine z_iload (pc := 32) (j := 0) C dX5_isBegun_32 rfl ?_
        refine z_iload_n (pc := 34) (j := 2) C dX5_isBegun_34 rfl rfl ?_
        refine z_icmp_ge (pc := 35) (tgt := 72) C dX5_isBegun_35 (by decide) (by omega) (by omega) (fun c35 => ?_) (fun c35 => ?_)
        · refine z_iload (pc := 72) (j := 1) C dX5_isBegun_72 rfl ?_
          exact z_zreturn (pc := 74) C (i_nz (by omega) (by omega)) (by rw [hXp]; exact zpure_i (by split <;> omega) rfl) dX5_isBegun_74
        · refine z_aload_n (pc := 38) (j := 4) C dX5_isBegun_38 rfl rfl ?_
          refine z_iload (pc := 39) (j := 0) C dX5_isBegun_39 rfl ?_
          obtain ⟨a1, ha1⟩ : ∃ x, ql[(k).toNat]? = some x := ⟨_, List.getElem?_eq_getElem (by omega)⟩
          refine z_callV (pc := 41) (n := 1) (kc' := 0) (ks' := 0) C (ct_S_charAt C.t hqs (i := k) (c := a1) (by omega) ha1) (lw_V q560 q561 q562 q83 q563) (by decide +kernel) ⟨by decide, by decide⟩ h1_1 rfl rfl rfl (Nat.le_of_ble_eq_true rfl) dX5_isBegun_41 (by omega) (by omega) (zpk (st' := [.int (iI a1)]) rfl ?_) zrx
          refine z_aload_n (pc := 44) (j := 5) C dX5_isBegun_44 rfl rfl ?_
          refine z_getfield (pc := 45) (v := .ref c) C in_X5 rfl 1 (by decide) q316 (fun _ z => z) hr rfl dX5_isBegun_45 ?_
          refine z_getfieldN (pc := 48) (v := .ref tx) C in_X1 rfl 0 (by decide) q274 (fun _ z => z) hc0 rfl dX5_isBegun_48 ?_
          refine z_iload_n (pc := 51) (j := 3) C dX5_isBegun_51 rfl rfl ?_
          refine z_iload (pc := 52) (j := 0) C dX5_isBegun_52 rfl ?_
          refine z_iadd (pc := 54) C dX5_isBegun_54 ?_
          have hb1 := tch_at (T := T) (p := fr + k) (by omega)
          have hb2 := hT _ (List.mem_of_getElem? hb1)
          have ha2 := h4as a1 (List.mem_of_getElem? ha1)
          have hls := lcp_step ql (T.drop fr.toNat) k.toNat a1 (tch T (fr + k)) ha1 (by rw [List.getElem?_drop, ← hb1]; congr 1; omega) (by omega)
          refine z_caload (pc := 55) (v := .int (iI (tch T (fr + k)))) C htx (by omega) (hch _ _ hb1) dX5_isBegun_55 ?_
          refine z_icmp_ne (pc := 56) (tgt := 63) C dX5_isBegun_56 (by decide) (by omega) (by omega) (fun c56 => ?_) (fun c56 => ?_)
          · refine z_iconst (pc := 63) C dX5_isBegun_63 ?_
            refine z_istore (pc := 64) (L' := [(4, .int (iI 0)), (5, .int (iI k)), (3, .int (iI (p - fr + 1))), (2, .int (iI fr)), (1, .ref qa), (0, .ref r)]) C dX5_isBegun_64 (by rw [hnL]; decide) rfl ?_
            refine z_iinc (pc := 66) (k := 1) (L' := [(5, .int (iI (k + 1))), (4, .int (iI 0)), (3, .int (iI (p - fr + 1))), (2, .int (iI fr)), (1, .ref qa), (0, .ref r)]) C dX5_isBegun_66 rfl (by rw [hnL]; decide) rfl ?_
            refine z_goto (pc := 69) (tgt := 27) C dX5_isBegun_69 (by decide) ?_
            refine Z.weak (L' := [(5, .int (iI (k + 1))), (4, .int (iI 0)), (3, .int (iI (p - fr + 1))), (2, .int (iI fr)), (1, .ref qa), (0, .ref r)]) (kc' := 0) (ks' := 0) [0, 1, 2, 3, 4, 5] rfl (by omega) (by omega) ?_
            exact ih27 _ (by omega) (k + 1) 0 (by omega) (by intro z; have := hls.1 (by omega); omega) (by intro z; have := hls.2 (by omega); omega) rfl
          · refine z_iconst (pc := 59) C dX5_isBegun_59 ?_
            refine z_goto (pc := 60) (tgt := 64) C dX5_isBegun_60 (by decide) ?_
            refine z_istore (pc := 64) (L' := [(4, .int (iI 1)), (5, .int (iI k)), (3, .int (iI (p - fr + 1))), (2, .int (iI fr)), (1, .ref qa), (0, .ref r)]) C dX5_isBegun_64 (by rw [hnL]; decide) rfl ?_
            refine z_iinc (pc := 66) (k := 1) (L' := [(5, .int (iI (k + 1))), (4, .int (iI 1)), (3, .int (iI (p - fr + 1))), (2, .int (iI fr)), (1, .ref qa), (0, .ref r)]) C dX5_isBegun_66 rfl (by rw [hnL]; decide) rfl ?_
            refine z_goto (pc := 69) (tgt := 27) C dX5_isBegun_69 (by decide) ?_
            refine Z.weak (L' := [(5, .int (iI (k + 1))), (4, .int (iI 1)), (3, .int (iI (p - fr + 1))), (2, .int (iI fr)), (1, .ref qa), (0, .ref r)]) (kc' := 0) (ks' := 0) [0, 1, 2, 3, 4, 5] rfl (by omega) (by omega) ?_
            exact ih27 _ (by omega) (k + 1) 1 (by omega) (by intro z; have := hls.1 (by omega); omega) (by intro z; have := hls.2 (by omega); omega) rfl
    refine Z.weak (L' := [(5, .int (iI 0)), (4, .int (iI 1)), (3, .int (iI ((p - fr) + 1))), (2, .int (iI fr)), (1, .ref qa), (0, .ref r)]) (kc' := 0) (ks' := 0) [0, 1, 2, 5, 4, 3] rfl (by omega) (by omega) ?_
    exact loop27 _ 0 1 (by omega) (by intro z; omega) (by have := lcp_le1 ql (T.drop fr.toNat); intro z; omega) rfl
set_option maxHeartbeats 4000000 in
theorem ct_R_whole {l : Launch} (hl : l.stackTraces = false) {Γ : zCx} {h : zH} {r c tx : Nat} {p : Int} {tf : Nat → Value} {T : List Int} {c2 c3 c4 c5 c6 : Value} (hr : h r = some (true, .inr (4, [.int (iI p), .ref c]))) (hc0 : h c = some (true, .inr (0, [.ref tx, .int (iI ((T.length : Nat) : Int)), c2, c3, c4, c5, c6]))) (htx : h tx = some (true, .inl (.char, 200, tf))) (hch : ∀ (j : Nat) (d : Int), T[j]? = some d → tf j = .int (iI d)) (hT : ∀ c ∈ T, 32 ≤ c ∧ c ≤ 126) (hTl : T.length ≤ 200) (hp : 0 ≤ p ∧ p ≤ 1000) {qa : Nat} {ql : List Int} (hqs : sAt h qa ql) (hql : ql.length ≤ 10) {fr : Int} (hf : 0 ≤ fr ∧ fr ≤ p) (hpl : fr + (ql.length : Nat) ≤ (T.length : Nat))  : zMet l yX5_isWhole (ws_ yX5_isWhole cX5_isWhole 5 (some .boolean)) ({ frames := 4, cells := 0, slots := 0, locals := 85 }) Γ h [.ref r, .ref qa, .int (iI fr)] (zpure h (some (.int (iI (if ql.length ≤ lcp ql (T.drop fr.toNat) then 1 else 0))))) 0 0 := by
  refine zMet.of (cc := cX5_isWhole) hl (plainFor_of_name (by decide +kernel)) (Nat.le_of_ble_eq_true rfl) ?_
  intro X hXl hXΓ hXp C hnm hnL
  have C : zC X cX5_isWhole RX5 (some .boolean) 4 85 [] := C
  have hnL : X.2.1.2.2.2.2 = 5 := hnL
  subst hXl hXΓ
  show Z X h 0 0 [(0, .ref r), (1, .ref qa), (2, .int (iI fr))] 0 []
  have h4as : ∀ c ∈ ql, 0 ≤ c ∧ c < 128 := by obtain ⟨-, v, x, y, f, -, -, -, z⟩ := hqs; exact z
  refine z_iconst (pc := 0) C dX5_isWhole_0 ?_
  refine z_istore_n (pc := 1) (L' := [(3, .int (iI 1)), (0, .ref r), (1, .ref qa), (2, .int (iI fr))]) C dX5_isWhole_1 rfl (by rw [hnL]; decide) rfl ?_
  refine z_iconst (pc := 2) C dX5_isWhole_2 ?_
  refine z_istore (pc := 3) (L' := [(4, .int (iI 0)), (3, .int (iI 1)), (0, .ref r), (1, .ref qa), (2, .int (iI fr))]) C dX5_isWhole_3 (by rw [hnL]; decide) rfl ?_
  have loop5 : ∀ (n5 : Nat) (k : Int) (s : Int), (0 ≤ k ∧ k ≤ ((ql.length : Nat) : Int) ∧ (s = 1 ∨ s = 0)) → (s = 1 → k ≤ ((lcp ql (T.drop fr.toNat) : Nat) : Int) ∧ ((ql.length : Nat) : Int) ≤ (ql.length : Nat)) → (s = 0 → ((lcp ql (T.drop fr.toNat) : Nat) : Int) < ((ql.length : Nat) : Int)) → ((((ql.length : Nat) : Int) - k).toNat) = n5 → Z X h 0 0 [(4, .int (iI k)), (3, .int (iI s)), (2, .int (iI fr)), (1, .ref qa), (0, .ref r)] 5 [] := by
    intro n5
    induction n5 using Nat.strongRecOn with
    | ind n5 ih5 =>
    intro k s hk hs1 hs0 hn5
    refine z_iload_n (pc := 5) (j := 1) C dX5_isWhole_5 rfl rfl ?_
    have hlc := lcp_le1 ql (T.drop fr.toNat)
    refine z_if_eq (pc := 6) (tgt := 51) C dX5_isWhole_6 (by decide) (by omega) (fun c6 => ?_) (fun c6 => ?_)
    · refine z_iload_n (pc := 51) (j := 1) C dX5_isWhole_51 rfl rfl ?_
      exact z_zreturn (pc := 52) C (i_nz (by omega) (by omega)) (by rw [hXp]; exact zpure_i (by split <;> omega) rfl) dX5_isWhole_52
    · refine z_iload (pc := 9) (j := 0) C dX5_isWhole_9 rfl ?_
      refine z_aload_n (pc := 11) (j := 3) C dX5_isWhole_11 rfl rfl ?_
      obtain ⟨hl_1, v_1, x_1, y_1, g_1, h1_1, h2_1, h3_1, h4_1⟩ := id (hqs)
      have h1_1 : h (qa) = some (false, .inr (13, [.ref v_1, .int (iI 0), .int x_1, .int y_1])) := h1_1
      refine z_callV (pc := 12) (n := 0) (kc' := 0) (ks' := 0) C (ct_S_length C.t hqs) (lw_V q535 q468 q469 q83 q470) (by decide +kernel) ⟨by decide, by decide⟩ h1_1 rfl rfl rfl (Nat.le_of_ble_eq_true rfl) dX5_isWhole_12 (by omega) (by omega) (zpk (st' := [.int (iI ((ql.length : Nat) : Int)), .int (iI k)]) rfl ?_) zrx
      refine z_icmp_ge (pc := 15) (tgt := 51) C dX5_isWhole_15 (by decide) (by omega) (by omega) (fun c15 => ?_) (fun c15 => ?_)
      · refine z_iload_n (pc := 51) (j := 1) C dX5_isWhole_51 rfl rfl ?_
        exact z_zreturn (pc := 52) C (i_nz (by omega) (by omega)) (by rw [hXp]; exact zpure_i (by split <;> omega) rfl) dX5_isWhole_52
      · refine z_aload_n (pc := 18) (j := 3) C dX5_isWhole_18 rfl rfl ?_
        refine z_iload (pc := 19) (j := 0) C dX5_isWhole_19 rfl ?_
        obtain ⟨a1, ha1⟩ : ∃ x, ql[(k).toNat]? = some x := ⟨_, List.getElem?_eq_getElem (by omega)⟩
        refine z_callV (pc := 21) (n := 1) (kc' := 0) (ks' := 0) C (ct_S_charAt C.t hqs (i := k) (c := a1) (by omega) ha1) (lw_V q560 q561 q562 q83 q563) (by decide +kernel) ⟨by decide, by decide⟩ h1_1 rfl rfl rfl (Nat.le_of_ble_eq_true rfl) dX5_isWhole_21 (by omega) (by omega) (zpk (st' := [.int (iI a1)]) rfl ?_) zrx
        refine z_aload_n (pc := 24) (j := 4) C dX5_isWhole_24 rfl rfl ?_
        refine z_getfield (pc := 25) (v := .ref c) C in_X5 rfl 1 (by decide) q316 (fun _ z => z) hr rfl dX5_isWhole_25 ?_
        refine z_getfieldN (pc := 28) (v := .ref tx) C in_X1 rfl 0 (by decide) q274 (fun _ z => z) hc0 rfl dX5_isWhole_28 ?_
        refine z_iload_n (pc := 31) (j := 2) C dX5_isWhole_31 rfl rfl ?_
        refine z_iload (pc := 32) (j := 0) C dX5_isWhole_32 rfl ?_
        refine z_iadd (pc := 34) C dX5_isWhole_34 ?_
        have hb1 := tch_at (T := T) (p := fr + k) (by omega)
        have hb2 := hT _ (List.mem_of_getElem? hb1)
        have ha2 := h4as a1 (List.mem_of_getElem? ha1)
        have hls := lcp_step ql (T.drop fr.toNat) k.toNat a1 (tch T (fr + k)) ha1 (by rw [List.getElem?_drop, ← hb1]; congr 1; omega) (by omega)
        refine z_caload (pc := 35) (v := .int (iI (tch T (fr + k)))) C htx (by omega) (hch _ _ hb1) dX5_isWhole_35 ?_
        refine z_icmp_ne (pc := 36) (tgt := 43) C dX5_isWhole_36 (by decide) (by omega) (by omega) (fun c36 => ?_) (fun c36 => ?_)
        · refine z_iconst (pc := 43) C dX5_isWhole_43 ?_
          refine z_istore_n (pc := 44) (L' := [(3, .int (iI 0)), (4, .int (iI k)), (2, .int (iI fr)), (1, .ref qa), (0, .ref r)]) C dX5_isWhole_44 rfl (by rw [hnL]; decide) rfl ?_
          refine z_iinc (pc := 45) (k := 1) (L' := [(4, .int (iI (k + 1))), (3, .int (iI 0)), (2, .int (iI fr)), (1, .ref qa), (0, .ref r)]) C dX5_isWhole_45 rfl (by rw [hnL]; decide) rfl ?_
          refine z_goto (pc := 48) (tgt := 5) C dX5_isWhole_48 (by decide) ?_
          refine Z.weak (L' := [(4, .int (iI (k + 1))), (3, .int (iI 0)), (2, .int (iI fr)), (1, .ref qa), (0, .ref r)]) (kc' := 0) (ks' := 0) [0, 1, 2, 3, 4] rfl (by omega) (by omega) ?_
          exact ih5 _ (by omega) (k + 1) 0 (by omega) (by intro z; have := hls.1 (by omega); omega) (by intro z; have := hls.2 (by omega); omega) rfl
        · refine z_iconst (pc := 39) C dX5_isWhole_39 ?_
          refine z_goto (pc := 40) (tgt := 44) C dX5_isWhole_40 (by decide) ?_
          refine z_istore_n (pc := 44) (L' := [(3, .int (iI 1)), (4, .int (iI k)), (2, .int (iI fr)), (1, .ref qa), (0, .ref r)]) C dX5_isWhole_44 rfl (by rw [hnL]; decide) rfl ?_
          refine z_iinc (pc := 45) (k := 1) (L' := [(4, .int (iI (k + 1))), (3, .int (iI 1)), (2, .int (iI fr)), (1, .ref qa), (0, .ref r)]) C dX5_isWhole_45 rfl (by rw [hnL]; decide) rfl ?_
          refine z_goto (pc := 48) (tgt := 5) C dX5_isWhole_48 (by decide) ?_
          refine Z.weak (L' := [(4, .int (iI (k + 1))), (3, .int (iI 1)), (2, .int (iI fr)), (1, .ref qa), (0, .ref r)]) (kc' := 0) (ks' := 0) [0, 1, 2, 3, 4] rfl (by omega) (by omega) ?_
          exact ih5 _ (by omega) (k + 1) 1 (by omega) (by intro z; have := hls.1 (by omega); omega) (by intro z; have := hls.2 (by omega); omega) rfl
  refine Z.weak (L' := [(4, .int (iI 0)), (3, .int (iI 1)), (2, .int (iI fr)), (1, .ref qa), (0, .ref r)]) (kc' := 0) (ks' := 0) [0, 1, 4, 3, 2] rfl (by omega) (by omega) ?_
  exact loop5 _ 0 1 (by omega) (by intro z; omega) (by have := lcp_le1 ql (T.drop fr.toNat); intro z; omega) rfl
set_option maxHeartbeats 4000000 in
theorem ct_R_goes {l : Launch} (hl : l.stackTraces = false) {Γ : zCx} {h : zH} {r c tx : Nat} {p : Int} {tf : Nat → Value} {T : List Int} {c2 c3 c4 c5 c6 : Value} (hr : h r = some (true, .inr (4, [.int (iI p), .ref c]))) (hc0 : h c = some (true, .inr (0, [.ref tx, .int (iI ((T.length : Nat) : Int)), c2, c3, c4, c5, c6]))) (htx : h tx = some (true, .inl (.char, 200, tf))) (hch : ∀ (j : Nat) (d : Int), T[j]? = some d → tf j = .int (iI d)) (hT : ∀ c ∈ T, 32 ≤ c ∧ c ≤ 126) (hTl : T.length ≤ 200) (hp : 0 ≤ p ∧ p ≤ 1000) {fr : Int} (hf : 0 ≤ fr ∧ fr ≤ p)  : zMet l yX5_goesOn (ws_ yX5_goesOn cX5_goesOn 4 (some .boolean)) ({ frames := 5, cells := 0, slots := 0, locals := 110 }) Γ h [.ref r, .int (iI fr)] (zpure h (some (.int (iI (if (p - fr + 1).toNat ≤ qmx (T.drop fr.toNat) then 1 else 0))))) 0 0 := by
  refine zMet.of (cc := cX5_goesOn) hl (plainFor_of_name (by decide +kernel)) (Nat.le_of_ble_eq_true rfl) ?_
  intro X hXl hXΓ hXp C hnm hnL
  have C : zC X cX5_goesOn RX5 (some .boolean) 5 110 [] := C
  have hnL : X.2.1.2.2.2.2 = 4 := hnL
  subst hXl hXΓ
  show Z X h 0 0 [(0, .ref r), (1, .int (iI fr))] 0 []
  refine z_iconst (pc := 0) C dX5_goesOn_0 ?_
  refine z_istore_n (pc := 1) (L' := [(2, .int (iI 0)), (0, .ref r), (1, .int (iI fr))]) C dX5_goesOn_1 rfl (by rw [hnL]; decide) rfl ?_
  refine z_iconst (pc := 2) C dX5_goesOn_2 ?_
  refine z_istore_n (pc := 3) (L' := [(3, .int (iI 0)), (2, .int (iI 0)), (0, .ref r), (1, .int (iI fr))]) C dX5_goesOn_3 rfl (by rw [hnL]; decide) rfl ?_
  have loop4 : ∀ (n4 : Nat) (i : Int) (s : Int), (0 ≤ i ∧ i ≤ 10) → (s = if (p - fr + 1).toNat ≤ qmxk (T.drop fr.toNat) i.toNat then 1 else 0) → ((10 - i).toNat) = n4 → Z X h 0 0 [(3, .int (iI i)), (2, .int (iI s)), (1, .int (iI fr)), (0, .ref r)] 4 [] := by
    intro n4
    induction n4 using Nat.strongRecOn with
    | ind n4 ih4 =>
    intro i s hi hs hn4
    refine z_iload_n (pc := 4) (j := 0) C dX5_goesOn_4 rfl rfl ?_
    refine z_bipush (pc := 5) C dX5_goesOn_5 (by decide) ?_
    refine z_icmp_ge (pc := 7) (tgt := 42) C dX5_goesOn_7 (by decide) (by omega) (by decide) (fun c7 => ?_) (fun c7 => ?_)
    · refine z_iload_n (pc := 42) (j := 1) C dX5_goesOn_42 rfl rfl ?_
      exact z_zreturn (pc := 43) C (by rw [hs]; split <;> decide) (by rw [hXp]; exact zpure_i (go_end (by omega) hs (by first | exact Or.inl (by omega) | exact Or.inr (by omega))) rfl) dX5_goesOn_43
    · refine z_aload_n (pc := 10) (j := 3) C dX5_goesOn_10 rfl rfl ?_
      refine z_getfield (pc := 11) (v := .int (iI p)) C in_X5 rfl 0 (by decide) q315 (fun _ z => z) hr rfl dX5_goesOn_11 ?_
      refine z_aload_n (pc := 14) (j := 3) C dX5_goesOn_14 rfl rfl ?_
      refine z_getfield (pc := 15) (v := .ref c) C in_X5 rfl 1 (by decide) q316 (fun _ z => z) hr rfl dX5_goesOn_15 ?_
      refine z_getfieldN (pc := 18) (v := .int (iI ((T.length : Nat) : Int))) C in_X1 rfl 1 (by decide) q275 (fun _ z => z) hc0 rfl dX5_goesOn_18 ?_
      refine z_icmp_ge (pc := 21) (tgt := 42) C dX5_goesOn_21 (by decide) (by omega) (by omega) (fun c21 => ?_) (fun c21 => ?_)
      · refine z_iload_n (pc := 42) (j := 1) C dX5_goesOn_42 rfl rfl ?_
        exact z_zreturn (pc := 43) C (by rw [hs]; split <;> decide) (by rw [hXp]; exact zpure_i (go_end (by omega) hs (by first | exact Or.inl (by omega) | exact Or.inr (by omega))) rfl) dX5_goesOn_43
      · refine z_iload_n (pc := 24) (j := 1) C dX5_goesOn_24 rfl rfl ?_
        refine z_aload_n (pc := 25) (j := 3) C dX5_goesOn_25 rfl rfl ?_
        refine z_iload_n (pc := 26) (j := 0) C dX5_goesOn_26 rfl rfl ?_
        refine z_callSN (pc := 27) (n := 1) (kc' := 0) (ks' := 0) C (ct_qlt C.t (q := i) (by omega)) q546 q544 q63 q545 (by decide +kernel) ⟨by decide, by decide⟩ rfl rfl (Nat.le_of_ble_eq_true rfl) dX5_goesOn_27 (by omega) (by omega) (zrk fun w h2 hp => ?_) zrx
        obtain ⟨a1, rfl, hs3, eh2⟩ := hp
        rw [eh2]
        show Z X h 0 0 [(3, .int (iI i)), (2, .int (iI s)), (1, .int (iI fr)), (0, .ref r)] 30 [.ref a1, .ref r, .int (iI s)]
        refine z_iload_n (pc := 30) (j := 2) C dX5_goesOn_30 rfl rfl ?_
        refine z_callV (pc := 31) (n := 2) (kc' := 0) (ks' := 0) C (ct_R_begun C.t (p := p) hr hc0 htx hch hT hTl (by omega) hs3 (by have := qlt_l i; omega) (fr := fr) (by omega) (by omega)) (lw_V q556 q558 qs8 q80 q559) (by decide +kernel) ⟨by decide, by decide⟩ hr rfl rfl rfl (Nat.le_of_ble_eq_true rfl) dX5_goesOn_31 (by omega) (by omega) (zpk (st' := [.int (iI (if (p - fr + 1).toNat ≤ lcp (qlt i) (T.drop fr.toNat) then 1 else 0)), .int (iI s)]) rfl ?_) zrx
        refine z_ior01 (pc := 34) C (by rw [hs]; split <;> omega) (by split <;> omega) dX5_goesOn_34 ?_
        show Z X h 0 0 [(3, .int (iI i)), (2, .int (iI s)), (1, .int (iI fr)), (0, .ref r)] 35 [.int (iI (if s = 1 ∨ (if (p - fr + 1).toNat ≤ lcp (qlt i) (T.drop fr.toNat) then 1 else 0) = 1 then 1 else 0))]
        refine z_istore_n (pc := 35) (L' := [(2, .int (iI (if s = 1 ∨ (if (p - fr + 1).toNat ≤ lcp (qlt i) (T.drop fr.toNat) then 1 else 0) = 1 then 1 else 0))), (3, .int (iI i)), (1, .int (iI fr)), (0, .ref r)]) C dX5_goesOn_35 rfl (by rw [hnL]; decide) rfl ?_
        refine z_iinc (pc := 36) (k := 1) (L' := [(3, .int (iI (i + 1))), (2, .int (iI (if s = 1 ∨ (if (p - fr + 1).toNat ≤ lcp (qlt i) (T.drop fr.toNat) then 1 else 0) = 1 then 1 else 0))), (1, .int (iI fr)), (0, .ref r)]) C dX5_goesOn_36 rfl (by rw [hnL]; decide) rfl ?_
        refine z_goto (pc := 39) (tgt := 4) C dX5_goesOn_39 (by decide) ?_
        refine Z.weak (L' := [(3, .int (iI (i + 1))), (2, .int (iI (if s = 1 ∨ (if (p - fr + 1).toNat ≤ lcp (qlt i) (T.drop fr.toNat) then 1 else 0) = 1 then 1 else 0))), (1, .int (iI fr)), (0, .ref r)]) (kc' := 0) (ks' := 0) [0, 1, 2, 3] rfl (by omega) (by omega) ?_
        exact ih4 _ (by omega) (i + 1) (if s = 1 ∨ (if (p - fr + 1).toNat ≤ lcp (qlt i) (T.drop fr.toNat) then 1 else 0) = 1 then 1 else 0) (by omega) (go_step (by omega) hs) rfl
  refine Z.weak (L' := [(3, .int (iI 0)), (2, .int (iI 0)), (1, .int (iI fr)), (0, .ref r)]) (kc' := 0) (ks' := 0) [0, 1, 3, 2] rfl (by omega) (by omega) ?_
  exact loop4 _ 0 0 (by omega) (by rw [if_neg (by simp only [qmxk, Int.toNat_zero]; omega)]) rfl
set_option maxHeartbeats 4000000 in
theorem ct_R_qual {l : Launch} (hl : l.stackTraces = false) {Γ : zCx} {h : zH} {r c tx : Nat} {p : Int} {tf : Nat → Value} {T : List Int} {c2 c3 c4 c5 c6 : Value} (hr : h r = some (true, .inr (4, [.int (iI p), .ref c]))) (hc0 : h c = some (true, .inr (0, [.ref tx, .int (iI ((T.length : Nat) : Int)), c2, c3, c4, c5, c6]))) (htx : h tx = some (true, .inl (.char, 200, tf))) (hch : ∀ (j : Nat) (d : Int), T[j]? = some d → tf j = .int (iI d)) (hT : ∀ c ∈ T, 32 ≤ c ∧ c ≤ 126) (hTl : T.length ≤ 200) (hp : 0 ≤ p ∧ p ≤ 1000) (hpl : p ≤ (T.length : Nat))  : zMet l yX5_quality (ws_ yX5_quality cX5_quality 3 (some .int)) ({ frames := 6, cells := 1, slots := 7, locals := 133 }) Γ h [.ref r] (zb "ChordSheet$TextError" (fun w h' => 0 ≤ qfd (T.drop p.toNat) ∧ w = some (.int (iI (qfd (T.drop p.toNat)))) ∧ h' r = some (true, .inr (4, [.int (iI (p + (qmx (T.drop p.toNat) : Nat))), .ref c])) ∧ zkeep h h' [r]) (fun q h' => qfd (T.drop p.toNat) = -1 ∧ teA h' q (p + (qmx (T.drop p.toNat) : Nat)) ∧ h q = none ∧ zkeep h h' [r])) 1 7 := by
  refine zMet.of (cc := cX5_quality) hl (plainFor_of_name (by decide +kernel)) (Nat.le_of_ble_eq_true rfl) ?_
  intro X hXl hXΓ hXp C hnm hnL
  have C : zC X cX5_quality RX5 (some .int) 6 133 [] := C
  have hnL : X.2.1.2.2.2.2 = 3 := hnL
  subst hXl hXΓ
  show Z X h 1 7 [(0, .ref r)] 0 []
  have hqm : ((qmx (T.drop p.toNat) : Nat) : Int) ≤ (T.length : Nat) - p := by have := qmxk_le (T.drop p.toNat) 10; simp at this; unfold qmx; omega
  refine z_aload_n (pc := 0) (j := 0) C dX5_quality_0 rfl rfl ?_
  refine z_getfield (pc := 1) (v := .int (iI p)) C in_X5 rfl 0 (by decide) q315 (fun _ z => z) hr rfl dX5_quality_1 ?_
  refine z_istore_n (pc := 4) (L' := [(1, .int (iI p)), (0, .ref r)]) C dX5_quality_4 rfl (by rw [hnL]; decide) rfl ?_
  have loop5 : ∀ (n5 : Nat) (u : Int) (g : zH), (p ≤ u ∧ u ≤ p + (qmx (T.drop p.toNat) : Nat)) → (zkeep h g [r]) → (g r = some (true, .inr (4, [.int (iI u), .ref c]))) → ((p + (qmx (T.drop p.toNat) : Nat) - u).toNat) = n5 → Z X g 1 7 [(1, .int (iI p)), (0, .ref r)] 5 [] := by
    intro n5
    induction n5 using Nat.strongRecOn with
    | ind n5 ih5 =>
    intro u g hu hkp hru hn5
    refine z_aload_n (pc := 5) (j := 1) C dX5_quality_5 rfl rfl ?_
    refine z_iload_n (pc := 6) (j := 0) C dX5_quality_6 rfl rfl ?_
    refine z_callV (pc := 7) (n := 1) (kc' := 1) (ks' := 7) C (ct_R_goes C.t (p := u) hru (hkp.n hc0 (List.not_mem_cons_of_ne_of_not_mem (zneC hc0 hr (by decide)) List.not_mem_nil)) (hkp.n htx (List.not_mem_cons_of_ne_of_not_mem (Ne.symm (zneA hr htx)) List.not_mem_nil)) hch hT hTl (by omega) (fr := p) (by omega)) (lw_V q540 q542 qs7 q80 q543) (by decide +kernel) ⟨by decide, by decide⟩ hru rfl rfl rfl (Nat.le_of_ble_eq_true rfl) dX5_quality_7 (by omega) (by omega) (zpk (st' := [.int (iI (if (u - p + 1).toNat ≤ qmx (T.drop p.toNat) then 1 else 0))]) rfl ?_) zrx
    refine z_if_eq (pc := 10) (tgt := 26) C dX5_quality_10 (by decide) (by omega) (fun c10 => ?_) (fun c10 => ?_)
    · refine z_iconst (pc := 26) C dX5_quality_26 ?_
      refine z_istore_n (pc := 27) (L' := [(2, .int (iI 0)), (1, .int (iI p)), (0, .ref r)]) C dX5_quality_27 rfl (by rw [hnL]; decide) rfl ?_
      have hue : u = p + (qmx (T.drop p.toNat) : Nat) := by omega
      have loop28 : ∀ (n28 : Nat) (i : Int), (0 ≤ i ∧ i ≤ 10) → (qfg (T.drop p.toNat) (10 - i).toNat i = qfd (T.drop p.toNat)) → ((10 - i).toNat) = n28 → Z X g 1 7 [(2, .int (iI i)), (1, .int (iI p)), (0, .ref r)] 28 [] := by
        intro n28
        induction n28 using Nat.strongRecOn with
        | ind n28 ih28 =>
        intro i hi hd hn28
        refine z_iload_n (pc := 28) (j := 0) C dX5_quality_28 rfl rfl ?_
        refine z_bipush (pc := 29) C dX5_quality_29 (by decide) ?_
        refine z_icmp_ge (pc := 31) (tgt := 70) C dX5_quality_31 (by decide) (by omega) (by decide) (fun c31 => ?_) (fun c31 => ?_)
        · refine z_new (pc := 70) (ci := 5) (kc' := 0) (ks' := 0) (fs := [.null, .null, .null, .null, .null, .int (iI 0), .int (iI 0)]) C in_X6 tyX6 tyX6_ok rfl q370 q371 q85 df_X6 (by omega) (by omega) dX5_quality_70 (fun a1 fa1 => ?_)
          refine Z.nm (fun h2 eh2 => ?_)
          have na1 : h a1 = none := hkp.none0 fa1 (List.not_mem_cons_of_ne_of_not_mem (Ne.symm (zneF hru fa1)) List.not_mem_nil)
          have kh2 : zkeep h h2 [r] := by rw [eh2]; exact zkeep.born hkp fa1
          have fh2_0 : h2 a1 = some (true, .inr (5, [.null, .null, .null, .null, .null, .int (iI 0), .int (iI 0)])) := zse eh2
          have fh2_1 : h2 r = some (true, .inr (4, [.int (iI u), .ref c])) := zsn eh2 hru (zneF hru fa1)
          refine z_dup (pc := 73) C dX5_quality_73 rfl ?_
          refine z_aload_n (pc := 74) (j := 2) C dX5_quality_74 rfl rfl ?_
          refine z_getfield (pc := 75) (v := .int (iI u)) C in_X5 rfl 0 (by decide) q315 (fun _ z => z) fh2_1 rfl dX5_quality_75 ?_
          refine z_callI (pc := 78) (n := 1) (kc' := 0) (ks' := 0) C (ct_TE_init C.t fh2_0 (p := u)) q414 q85 q412 q413 rfl (by decide +kernel) ⟨by decide, by decide⟩ rfl rfl (Nat.le_of_ble_eq_true rfl) dX5_quality_78 (by omega) (by omega) (zrk fun w h3 hp => ?_) zrx
          obtain ⟨rfl, fq4, k5⟩ := hp
          have kh3 : zkeep h h3 [r] := zkeep.loc kh2 k5 (zall_cons (Or.inl (Or.symm (Or.inr na1))) zall_nil)
          have fh3_1 : h3 r = some (true, .inr (4, [.int (iI u), .ref c])) := k5.n fh2_1 (List.not_mem_cons_of_ne_of_not_mem (zneF hru fa1) List.not_mem_nil)
          show Z X h3 0 0 [(2, .int (iI i)), (1, .int (iI p)), (0, .ref r)] 81 [.ref a1]
          refine z_athrow (pc := 81) C rfl fq4 dX5_quality_81 ?_
          exact zx_out C (fun x hx => nomatch hx) (by rw [hXp]; exact Or.inr ⟨_, rfl, (by rw [show (10 - i).toNat = 0 by omega, qfg] at hd; exact hd.symm), hue ▸ fq4, na1, kh3⟩)
        · refine z_iload_n (pc := 34) (j := 0) C dX5_quality_34 rfl rfl ?_
          refine z_callSN (pc := 35) (n := 1) (kc' := 1) (ks' := 7) C (ct_qlt C.t (q := i) (by omega)) q546 q544 q63 q545 (by decide +kernel) ⟨by decide, by decide⟩ rfl rfl (Nat.le_of_ble_eq_true rfl) dX5_quality_35 (by omega) (by omega) (zrk fun w h7 hp => ?_) zrx
          obtain ⟨a6, rfl, hs8, eh7⟩ := hp
          rw [eh7]
          show Z X g 1 7 [(2, .int (iI i)), (1, .int (iI p)), (0, .ref r)] 38 [.ref a6]
          obtain ⟨hl_9, v_9, x_9, y_9, g_9, h1_9, h2_9, h3_9, h4_9⟩ := id (hs8)
          have h1_9 : g (a6) = some (false, .inr (13, [.ref v_9, .int (iI 0), .int x_9, .int y_9])) := h1_9
          refine z_callV (pc := 38) (n := 0) (kc' := 1) (ks' := 7) C (ct_S_length C.t hs8) (lw_V q535 q468 q469 q83 q470) (by decide +kernel) ⟨by decide, by decide⟩ h1_9 rfl rfl rfl (Nat.le_of_ble_eq_true rfl) dX5_quality_38 (by omega) (by omega) (zpk (st' := [.int (iI (((qlt i).length : Nat) : Int))]) rfl ?_) zrx
          have hq4 := qlt_l i
          refine z_aload_n (pc := 41) (j := 2) C dX5_quality_41 rfl rfl ?_
          refine z_getfield (pc := 42) (v := .int (iI u)) C in_X5 rfl 0 (by decide) q315 (fun _ z => z) hru rfl dX5_quality_42 ?_
          refine z_iload_n (pc := 45) (j := 1) C dX5_quality_45 rfl rfl ?_
          refine z_isub (pc := 46) C dX5_quality_46 ?_
          refine z_icmp_ne (pc := 47) (tgt := 64) C dX5_quality_47 (by decide) (by omega) (by omega) (fun c47 => ?_) (fun c47 => ?_)
          · refine z_iinc (pc := 64) (k := 0) (L' := [(2, .int (iI (i + 1))), (1, .int (iI p)), (0, .ref r)]) C dX5_quality_64 rfl (by rw [hnL]; decide) rfl ?_
            refine z_goto (pc := 67) (tgt := 28) C dX5_quality_67 (by decide) ?_
            refine Z.weak (L' := [(2, .int (iI (i + 1))), (1, .int (iI p)), (0, .ref r)]) (kc' := 1) (ks' := 7) [0, 1, 2] rfl (by omega) (by omega) ?_
            exact ih28 _ (by omega) (i + 1) (by omega) (by rw [show (10 - i).toNat = (10 - (i + 1)).toNat + 1 by omega, qfg, if_neg (by unfold qcd; omega)] at hd; exact hd) rfl
          · refine z_aload_n (pc := 50) (j := 2) C dX5_quality_50 rfl rfl ?_
            refine z_iload_n (pc := 51) (j := 0) C dX5_quality_51 rfl rfl ?_
            refine z_callSN (pc := 52) (n := 1) (kc' := 1) (ks' := 7) C (ct_qlt C.t (q := i) (by omega)) q546 q544 q63 q545 (by decide +kernel) ⟨by decide, by decide⟩ rfl rfl (Nat.le_of_ble_eq_true rfl) dX5_quality_52 (by omega) (by omega) (zrk fun w h11 hp => ?_) zrx
            obtain ⟨a10, rfl, hs12, eh11⟩ := hp
            rw [eh11]
            show Z X g 1 7 [(2, .int (iI i)), (1, .int (iI p)), (0, .ref r)] 55 [.ref a10, .ref r]
            refine z_iload_n (pc := 55) (j := 1) C dX5_quality_55 rfl rfl ?_
            refine z_callV (pc := 56) (n := 2) (kc' := 1) (ks' := 7) C (ct_R_whole C.t (p := u) hru (hkp.n hc0 (List.not_mem_cons_of_ne_of_not_mem (zneC hc0 hr (by decide)) List.not_mem_nil)) (hkp.n htx (List.not_mem_cons_of_ne_of_not_mem (Ne.symm (zneA hr htx)) List.not_mem_nil)) hch hT hTl (by omega) hs12 (by have := qlt_l i; omega) (fr := p) (by omega) (by omega)) (lw_V q580 q582 qs9 q80 q583) (by decide +kernel) ⟨by decide, by decide⟩ hru rfl rfl rfl (Nat.le_of_ble_eq_true rfl) dX5_quality_56 (by omega) (by omega) (zpk (st' := [.int (iI (if (qlt i).length ≤ lcp (qlt i) (T.drop p.toNat) then 1 else 0))]) rfl ?_) zrx
            have hlc := lcp_le1 (qlt i) (T.drop p.toNat)
            refine z_if_eq (pc := 59) (tgt := 64) C dX5_quality_59 (by decide) (by omega) (fun c59 => ?_) (fun c59 => ?_)
            · refine z_iinc (pc := 64) (k := 0) (L' := [(2, .int (iI (i + 1))), (1, .int (iI p)), (0, .ref r)]) C dX5_quality_64 rfl (by rw [hnL]; decide) rfl ?_
              refine z_goto (pc := 67) (tgt := 28) C dX5_quality_67 (by decide) ?_
              refine Z.weak (L' := [(2, .int (iI (i + 1))), (1, .int (iI p)), (0, .ref r)]) (kc' := 1) (ks' := 7) [0, 1, 2] rfl (by omega) (by omega) ?_
              exact ih28 _ (by omega) (i + 1) (by omega) (by rw [show (10 - i).toNat = (10 - (i + 1)).toNat + 1 by omega, qfg, if_neg (by unfold qcd; omega)] at hd; exact hd) rfl
            · have hqe : i = qfd (T.drop p.toNat) := by rw [show (10 - i).toNat = (10 - (i + 1)).toNat + 1 by omega, qfg, if_pos (by unfold qcd; omega)] at hd; exact hd
              refine z_iload_n (pc := 62) (j := 0) C dX5_quality_62 rfl rfl ?_
              exact z_ireturn (pc := 63) C (by rw [hXp]; exact Or.inl ⟨_, rfl, (by rw [← hqe]; omega), (by rw [← hqe]), hue ▸ hru, hkp⟩) dX5_quality_63
      refine Z.weak (L' := [(2, .int (iI 0)), (1, .int (iI p)), (0, .ref r)]) (kc' := 1) (ks' := 7) [0, 1, 2] rfl (by omega) (by omega) ?_
      exact loop28 _ 0 (by omega) rfl rfl
    · refine z_aload_n (pc := 13) (j := 1) C dX5_quality_13 rfl rfl ?_
      refine z_dup (pc := 14) C dX5_quality_14 rfl ?_
      refine z_getfield (pc := 15) (v := .int (iI u)) C in_X5 rfl 0 (by decide) q315 (fun _ z => z) hru rfl dX5_quality_15 ?_
      refine z_iconst (pc := 18) C dX5_quality_18 ?_
      refine z_iadd (pc := 19) C dX5_quality_19 ?_
      refine z_putfield (pc := 20) (fs' := [.int (iI (u + 1)), .ref c]) C in_X5 tyX5 tyX5_ok nmX5 rfl 0 (by decide) q315 (fun _ z => z) rfl rfl rfl (Nat.le_of_ble_eq_true rfl) hru rfl dX5_quality_20 ?_
      refine Z.nm (fun h13 eh13 => ?_)
      have kh13 : zkeep h h13 [r] := by rw [eh13]; exact zkeep.up hkp (Or.inl (by simp)) hru
      have fh13_0 : h13 r = some (true, .inr (4, [.int (iI (u + 1)), .ref c])) := zse eh13
      refine z_goto (pc := 23) (tgt := 5) C dX5_quality_23 (by decide) ?_
      refine Z.weak (L' := [(1, .int (iI p)), (0, .ref r)]) (kc' := 1) (ks' := 7) [0, 1] rfl (by omega) (by omega) ?_
      exact ih5 _ (by omega) (u + 1) h13 (by omega) kh13 fh13_0 rfl
  refine Z.weak (L' := [(1, .int (iI p)), (0, .ref r)]) (kc' := 1) (ks' := 7) [0, 1] rfl (by omega) (by omega) ?_
  exact loop5 _ p h (by omega) zkeep.rf hr rfl
set_option maxHeartbeats 4000000 in
theorem ct_R_chord {l : Launch} (hl : l.stackTraces = false) {Γ : zCx} {h : zH} {r c tx : Nat} {p : Int} {tf : Nat → Value} {T : List Int} {c2 c3 c4 c5 c6 : Value} (hr : h r = some (true, .inr (4, [.int (iI p), .ref c]))) (hc0 : h c = some (true, .inr (0, [.ref tx, .int (iI ((T.length : Nat) : Int)), c2, c3, c4, c5, c6]))) (htx : h tx = some (true, .inl (.char, 200, tf))) (hch : ∀ (j : Nat) (d : Int), T[j]? = some d → tf j = .int (iI d)) (hT : ∀ c ∈ T, 32 ≤ c ∧ c ≤ 126) (hTl : T.length ≤ 200) (hp : 0 ≤ p ∧ p ≤ 1000) {ln co e : Int} (he : 0 ≤ e ∧ e ≤ 126)  : zMet l yX5_chord (ws_ yX5_chord cX5_chord 8 (some (.object "ChordSheet$Chord"))) ({ frames := 7, cells := 4, slots := 28, locals := 155 }) Γ h [.ref r, .int (iI ln), .int (iI co), .int (iI e)] (zb "ChordSheet$TextError" (fun w h' => ∃ rt q b p' k', chp T p e = .inr (rt, q, b, p') ∧ w = some (.ref k') ∧ h' k' = some (false, .inr (6, [.int (iI ln), .int (iI co), .int (iI rt), .int (iI q), .int (iI b)])) ∧ h k' = none ∧ h' r = some (true, .inr (4, [.int (iI p'), .ref c])) ∧ zkeep h h' [r]) (fun q h' => ∃ x, chp T p e = .inl x ∧ teA h' q x ∧ h q = none ∧ zkeep h h' [r])) 4 28 := by
  refine zMet.of (cc := cX5_chord) hl (plainFor_of_name (by decide +kernel)) (Nat.le_of_ble_eq_true rfl) ?_
  intro X hXl hXΓ hXp C hnm hnL
  have C : zC X cX5_chord RX5 (some (.object "ChordSheet$Chord")) 7 155 [] := C
  have hnL : X.2.1.2.2.2.2 = 8 := hnL
  subst hXl hXΓ
  show Z X h 4 28 [(0, .ref r), (1, .int (iI ln)), (2, .int (iI co)), (3, .int (iI e))] 0 []
  refine z_aload_n (pc := 0) (j := 0) C dX5_chord_0 rfl rfl ?_
  refine z_callV (pc := 1) (n := 0) (kc' := 3) (ks' := 21) C (ct_R_note C.t (p := p) hr hc0 htx hch hT hTl (by omega)) (lw_V q449 q451 qs5 q80 q452) (by decide +kernel) ⟨by decide, by decide⟩ hr rfl rfl rfl (Nat.le_of_ble_eq_true rfl) dX5_chord_1 (by omega) (by omega) (zbk fun w h1 hp => ?_) (zbx fun q3 h2 hp => ?_)
  · obtain ⟨hno_4, rfl, hr_4, k5⟩ := hp
    have kh1 : zkeep h h1 [r] := zkeep.loc zkeep.rf k5 (zall_cons (Or.inl (Or.symm (Or.inl (by simp)))) zall_nil)
    have hne_4 : p + 1 ≤ nen T p ∧ nen T p ≤ p + 2 := by unfold nen; split <;> omega
    have hnl_4 := nen_le hno_4 (by omega)
    have hnp_4 : -8 ≤ npl T p ∧ npl T p ≤ 12 := by have := zixL_r (tch T p); have := hno_4.2; unfold npl nsg; (repeat' split) <;> omega
    show Z X h1 3 21 [(0, .ref r), (1, .int (iI ln)), (2, .int (iI co)), (3, .int (iI e))] 4 [.int (iI (npl T p))]
    refine z_istore (pc := 4) (L' := [(4, .int (iI (npl T p))), (0, .ref r), (1, .int (iI ln)), (2, .int (iI co)), (3, .int (iI e))]) C dX5_chord_4 (by rw [hnL]; decide) rfl ?_
    refine z_aload_n (pc := 6) (j := 1) C dX5_chord_6 rfl rfl ?_
    refine z_callV (pc := 7) (n := 0) (kc' := 2) (ks' := 14) C (ct_R_qual C.t (p := nen T p) hr_4 (kh1.n hc0 (List.not_mem_cons_of_ne_of_not_mem (zneC hc0 hr (by decide)) List.not_mem_nil)) (kh1.n htx (List.not_mem_cons_of_ne_of_not_mem (Ne.symm (zneA hr htx)) List.not_mem_nil)) hch hT hTl (by omega) (by omega)) (lw_V q536 q538 qs6 q80 q539) (by decide +kernel) ⟨by decide, by decide⟩ hr_4 rfl rfl rfl (Nat.le_of_ble_eq_true rfl) dX5_chord_7 (by omega) (by omega) (zbk fun w h6 hp => ?_) (zbx fun q8 h7 hp => ?_)
    · obtain ⟨hqo_9, rfl, hr_9, k10⟩ := hp
      have kh6 : zkeep h h6 [r] := zkeep.loc kh1 k10 (zall_cons (Or.inl (Or.symm (Or.inl (by simp)))) zall_nil)
      have hqm_9 : ((qmx (T.drop (nen T p).toNat) : Nat) : Int) ≤ (T.length : Nat) - (nen T p) := by have := qmxk_le (T.drop (nen T p).toNat) 10; simp at this; unfold qmx; omega
      show Z X h6 2 14 [(4, .int (iI (npl T p))), (0, .ref r), (1, .int (iI ln)), (2, .int (iI co)), (3, .int (iI e))] 10 [.int (iI (qfd (T.drop (nen T p).toNat)))]
      refine z_istore (pc := 10) (L' := [(5, .int (iI (qfd (T.drop (nen T p).toNat)))), (4, .int (iI (npl T p))), (0, .ref r), (1, .int (iI ln)), (2, .int (iI co)), (3, .int (iI e))]) C dX5_chord_10 (by rw [hnL]; decide) rfl ?_
      refine z_bipush (pc := 12) C dX5_chord_12 (by decide) ?_
      refine z_istore (pc := 14) (L' := [(6, .int (iI 100)), (5, .int (iI (qfd (T.drop (nen T p).toNat)))), (4, .int (iI (npl T p))), (0, .ref r), (1, .int (iI ln)), (2, .int (iI co)), (3, .int (iI e))]) C dX5_chord_14 (by rw [hnL]; decide) rfl ?_
      refine z_aload_n (pc := 16) (j := 3) C dX5_chord_16 rfl rfl ?_
      refine z_callV (pc := 17) (n := 0) (kc' := 2) (ks' := 14) C (ct_R_peek C.t (p := (nen T p) + ((qmx (T.drop (nen T p).toNat) : Nat) : Int)) hr_9 (kh6.n hc0 (List.not_mem_cons_of_ne_of_not_mem (zneC hc0 hr (by decide)) List.not_mem_nil)) (kh6.n htx (List.not_mem_cons_of_ne_of_not_mem (Ne.symm (zneA hr htx)) List.not_mem_nil)) hch hT hTl (by omega)) (lw_V q362 q364 qs3 q80 q365) (by decide +kernel) ⟨by decide, by decide⟩ hr_9 rfl rfl rfl (Nat.le_of_ble_eq_true rfl) dX5_chord_17 (by omega) (by omega) (zpk (st' := [.int (iI (tch T ((nen T p) + ((qmx (T.drop (nen T p).toNat) : Nat) : Int))))]) rfl ?_) zrx
      have htr20 := tch_r hT (p := (nen T p) + ((qmx (T.drop (nen T p).toNat) : Nat) : Int)) (by omega)
      refine z_bipush (pc := 20) C dX5_chord_20 (by decide) ?_
      refine z_icmp_ne (pc := 22) (tgt := 41) C dX5_chord_22 (by decide) (by omega) (by decide) (fun c22 => ?_) (fun c22 => ?_)
      · refine z_iload_n (pc := 41) (j := 6) C dX5_chord_41 rfl rfl ?_
        refine z_if_ne (pc := 42) (tgt := 67) C dX5_chord_42 (by decide) (by omega) (fun c42 => ?_) (fun c42 => ?_)
        · refine z_aload_n (pc := 67) (j := 3) C dX5_chord_67 rfl rfl ?_
          refine z_getfield (pc := 68) (v := .int (iI ((nen T p) + ((qmx (T.drop (nen T p).toNat) : Nat) : Int)))) C in_X5 rfl 0 (by decide) q315 (fun _ z => z) hr_9 rfl dX5_chord_68 ?_
          refine z_aload_n (pc := 71) (j := 3) C dX5_chord_71 rfl rfl ?_
          refine z_getfield (pc := 72) (v := .ref c) C in_X5 rfl 1 (by decide) q316 (fun _ z => z) hr_9 rfl dX5_chord_72 ?_
          refine z_getfieldN (pc := 75) (v := .int (iI ((T.length : Nat) : Int))) C in_X1 rfl 1 (by decide) q275 (fun _ z => z) (kh6.n hc0 (List.not_mem_cons_of_ne_of_not_mem (zneC hc0 hr (by decide)) List.not_mem_nil)) rfl dX5_chord_75 ?_
          refine z_icmp_ge (pc := 78) (tgt := 101) C dX5_chord_78 (by decide) (by omega) (by omega) (fun c78 => ?_) (fun c78 => ?_)
          · refine z_iconst (pc := 101) C dX5_chord_101 ?_
            refine z_istore (pc := 102) (L' := [(7, .int (iI 0)), (6, .int (iI 100)), (5, .int (iI (qfd (T.drop (nen T p).toNat)))), (4, .int (iI (npl T p))), (0, .ref r), (1, .int (iI ln)), (2, .int (iI co)), (3, .int (iI e))]) C dX5_chord_102 (by rw [hnL]; decide) rfl ?_
            refine z_iload (pc := 104) (j := 0) C dX5_chord_104 rfl ?_
            refine z_if_ne (pc := 106) (tgt := 121) C dX5_chord_106 (by decide) (by decide) (fun z => absurd z (by decide)) (fun _ => ?_)
            refine z_new (pc := 109) (ci := 5) (kc' := 1) (ks' := 7) (fs := [.null, .null, .null, .null, .null, .int (iI 0), .int (iI 0)]) C in_X6 tyX6 tyX6_ok rfl q370 q371 q85 df_X6 (by omega) (by omega) dX5_chord_109 (fun a11 fa11 => ?_)
            refine Z.nm (fun h12 eh12 => ?_)
            have na11 : h a11 = none := kh6.none0 fa11 (List.not_mem_cons_of_ne_of_not_mem (Ne.symm (zneF hr_9 fa11)) List.not_mem_nil)
            have kh12 : zkeep h h12 [r] := by rw [eh12]; exact zkeep.born kh6 fa11
            have fh12_0 : h12 a11 = some (true, .inr (5, [.null, .null, .null, .null, .null, .int (iI 0), .int (iI 0)])) := zse eh12
            have fh12_1 : h12 r = some (true, .inr (4, [.int (iI ((nen T p) + ((qmx (T.drop (nen T p).toNat) : Nat) : Int))), .ref c])) := zsn eh12 hr_9 (zneF hr_9 fa11)
            refine z_dup (pc := 112) C dX5_chord_112 rfl ?_
            refine z_aload_n (pc := 113) (j := 4) C dX5_chord_113 rfl rfl ?_
            refine z_getfield (pc := 114) (v := .int (iI ((nen T p) + ((qmx (T.drop (nen T p).toNat) : Nat) : Int)))) C in_X5 rfl 0 (by decide) q315 (fun _ z => z) fh12_1 rfl dX5_chord_114 ?_
            refine z_callI (pc := 117) (n := 1) (kc' := 1) (ks' := 7) C (ct_TE_init C.t fh12_0 (p := (nen T p) + ((qmx (T.drop (nen T p).toNat) : Nat) : Int))) q414 q85 q412 q413 rfl (by decide +kernel) ⟨by decide, by decide⟩ rfl rfl (Nat.le_of_ble_eq_true rfl) dX5_chord_117 (by omega) (by omega) (zrk fun w h13 hp => ?_) zrx
            obtain ⟨rfl, fq14, k15⟩ := hp
            have kh13 : zkeep h h13 [r] := zkeep.loc kh12 k15 (zall_cons (Or.inl (Or.symm (Or.inr na11))) zall_nil)
            have fh13_1 : h13 r = some (true, .inr (4, [.int (iI ((nen T p) + ((qmx (T.drop (nen T p).toNat) : Nat) : Int))), .ref c])) := k15.n fh12_1 (List.not_mem_cons_of_ne_of_not_mem (zneF hr_9 fa11) List.not_mem_nil)
            show Z X h13 1 7 [(7, .int (iI 0)), (6, .int (iI 100)), (5, .int (iI (qfd (T.drop (nen T p).toNat)))), (4, .int (iI (npl T p))), (0, .ref r), (1, .int (iI ln)), (2, .int (iI co)), (3, .int (iI e))] 120 [.ref a11]
            refine z_athrow (pc := 120) C rfl fq14 dX5_chord_120 ?_
            exact zx_out C (fun x hx => nomatch hx) (by rw [hXp]; exact Or.inr ⟨_, rfl, ((nen T p) + ((qmx (T.drop (nen T p).toNat) : Nat) : Int)), (chp_b5 hno_4 hqo_9 (by omega) (by omega)), fq14, na11, kh13⟩)
          · refine z_aload_n (pc := 81) (j := 3) C dX5_chord_81 rfl rfl ?_
            refine z_getfield (pc := 82) (v := .ref c) C in_X5 rfl 1 (by decide) q316 (fun _ z => z) hr_9 rfl dX5_chord_82 ?_
            refine z_getfieldN (pc := 85) (v := .ref tx) C in_X1 rfl 0 (by decide) q274 (fun _ z => z) (kh6.n hc0 (List.not_mem_cons_of_ne_of_not_mem (zneC hc0 hr (by decide)) List.not_mem_nil)) rfl dX5_chord_85 ?_
            refine z_aload_n (pc := 88) (j := 3) C dX5_chord_88 rfl rfl ?_
            refine z_getfield (pc := 89) (v := .int (iI ((nen T p) + ((qmx (T.drop (nen T p).toNat) : Nat) : Int)))) C in_X5 rfl 0 (by decide) q315 (fun _ z => z) hr_9 rfl dX5_chord_89 ?_
            have htc92 := tch_at (T := T) (p := (nen T p) + ((qmx (T.drop (nen T p).toNat) : Nat) : Int)) (by omega)
            have htr92 := tch_r hT (p := (nen T p) + ((qmx (T.drop (nen T p).toNat) : Nat) : Int)) (by omega)
            refine z_caload (pc := 92) (v := .int (iI (tch T ((nen T p) + ((qmx (T.drop (nen T p).toNat) : Nat) : Int))))) C (kh6.n htx (List.not_mem_cons_of_ne_of_not_mem (Ne.symm (zneA hr htx)) List.not_mem_nil)) (by omega) (hch _ _ htc92) dX5_chord_92 ?_
            refine z_iload_n (pc := 93) (j := 6) C dX5_chord_93 rfl rfl ?_
            refine z_icmp_ne (pc := 94) (tgt := 101) C dX5_chord_94 (by decide) (by omega) (by omega) (fun c94 => ?_) (fun c94 => ?_)
            · refine z_iconst (pc := 101) C dX5_chord_101 ?_
              refine z_istore (pc := 102) (L' := [(7, .int (iI 0)), (6, .int (iI 100)), (5, .int (iI (qfd (T.drop (nen T p).toNat)))), (4, .int (iI (npl T p))), (0, .ref r), (1, .int (iI ln)), (2, .int (iI co)), (3, .int (iI e))]) C dX5_chord_102 (by rw [hnL]; decide) rfl ?_
              refine z_iload (pc := 104) (j := 0) C dX5_chord_104 rfl ?_
              refine z_if_ne (pc := 106) (tgt := 121) C dX5_chord_106 (by decide) (by decide) (fun z => absurd z (by decide)) (fun _ => ?_)
              refine z_new (pc := 109) (ci := 5) (kc' := 1) (ks' := 7) (fs := [.null, .null, .null, .null, .null, .int (iI 0), .int (iI 0)]) C in_X6 tyX6 tyX6_ok rfl q370 q371 q85 df_X6 (by omega) (by omega) dX5_chord_109 (fun a16 fa16 => ?_)
              refine Z.nm (fun h17 eh17 => ?_)
              have na16 : h a16 = none := kh6.none0 fa16 (List.not_mem_cons_of_ne_of_not_mem (Ne.symm (zneF hr_9 fa16)) List.not_mem_nil)
              have kh17 : zkeep h h17 [r] := by rw [eh17]; exact zkeep.born kh6 fa16
              have fh17_0 : h17 a16 = some (true, .inr (5, [.null, .null, .null, .null, .null, .int (iI 0), .int (iI 0)])) := zse eh17
              have fh17_1 : h17 r = some (true, .inr (4, [.int (iI ((nen T p) + ((qmx (T.drop (nen T p).toNat) : Nat) : Int))), .ref c])) := zsn eh17 hr_9 (zneF hr_9 fa16)
              refine z_dup (pc := 112) C dX5_chord_112 rfl ?_
              refine z_aload_n (pc := 113) (j := 4) C dX5_chord_113 rfl rfl ?_
              refine z_getfield (pc := 114) (v := .int (iI ((nen T p) + ((qmx (T.drop (nen T p).toNat) : Nat) : Int)))) C in_X5 rfl 0 (by decide) q315 (fun _ z => z) fh17_1 rfl dX5_chord_114 ?_
              refine z_callI (pc := 117) (n := 1) (kc' := 1) (ks' := 7) C (ct_TE_init C.t fh17_0 (p := (nen T p) + ((qmx (T.drop (nen T p).toNat) : Nat) : Int))) q414 q85 q412 q413 rfl (by decide +kernel) ⟨by decide, by decide⟩ rfl rfl (Nat.le_of_ble_eq_true rfl) dX5_chord_117 (by omega) (by omega) (zrk fun w h18 hp => ?_) zrx
              obtain ⟨rfl, fq19, k20⟩ := hp
              have kh18 : zkeep h h18 [r] := zkeep.loc kh17 k20 (zall_cons (Or.inl (Or.symm (Or.inr na16))) zall_nil)
              have fh18_1 : h18 r = some (true, .inr (4, [.int (iI ((nen T p) + ((qmx (T.drop (nen T p).toNat) : Nat) : Int))), .ref c])) := k20.n fh17_1 (List.not_mem_cons_of_ne_of_not_mem (zneF hr_9 fa16) List.not_mem_nil)
              show Z X h18 1 7 [(7, .int (iI 0)), (6, .int (iI 100)), (5, .int (iI (qfd (T.drop (nen T p).toNat)))), (4, .int (iI (npl T p))), (0, .ref r), (1, .int (iI ln)), (2, .int (iI co)), (3, .int (iI e))] 120 [.ref a16]
              refine z_athrow (pc := 120) C rfl fq19 dX5_chord_120 ?_
              exact zx_out C (fun x hx => nomatch hx) (by rw [hXp]; exact Or.inr ⟨_, rfl, ((nen T p) + ((qmx (T.drop (nen T p).toNat) : Nat) : Int)), (chp_b5 hno_4 hqo_9 (by omega) (by omega)), fq19, na16, kh18⟩)
            · refine z_iconst (pc := 97) C dX5_chord_97 ?_
              refine z_goto (pc := 98) (tgt := 102) C dX5_chord_98 (by decide) ?_
              refine z_istore (pc := 102) (L' := [(7, .int (iI 1)), (6, .int (iI 100)), (5, .int (iI (qfd (T.drop (nen T p).toNat)))), (4, .int (iI (npl T p))), (0, .ref r), (1, .int (iI ln)), (2, .int (iI co)), (3, .int (iI e))]) C dX5_chord_102 (by rw [hnL]; decide) rfl ?_
              refine z_iload (pc := 104) (j := 0) C dX5_chord_104 rfl ?_
              refine z_if_ne (pc := 106) (tgt := 121) C dX5_chord_106 (by decide) (by decide) (fun _ => ?_) (fun z => absurd z (by decide))
              refine z_aload_n (pc := 121) (j := 4) C dX5_chord_121 rfl rfl ?_
              refine z_dup (pc := 122) C dX5_chord_122 rfl ?_
              refine z_getfield (pc := 123) (v := .int (iI ((nen T p) + ((qmx (T.drop (nen T p).toNat) : Nat) : Int)))) C in_X5 rfl 0 (by decide) q315 (fun _ z => z) hr_9 rfl dX5_chord_123 ?_
              refine z_iconst (pc := 126) C dX5_chord_126 ?_
              refine z_iadd (pc := 127) C dX5_chord_127 ?_
              refine z_putfield (pc := 128) (fs' := [.int (iI (((nen T p) + ((qmx (T.drop (nen T p).toNat) : Nat) : Int)) + 1)), .ref c]) C in_X5 tyX5 tyX5_ok nmX5 rfl 0 (by decide) q315 (fun _ z => z) rfl rfl rfl (Nat.le_of_ble_eq_true rfl) hr_9 rfl dX5_chord_128 ?_
              refine Z.nm (fun h21 eh21 => ?_)
              have kh21 : zkeep h h21 [r] := by rw [eh21]; exact zkeep.up kh6 (Or.inl (by simp)) hr_9
              have fh21_0 : h21 r = some (true, .inr (4, [.int (iI (((nen T p) + ((qmx (T.drop (nen T p).toNat) : Nat) : Int)) + 1)), .ref c])) := zse eh21
              refine z_new (pc := 131) (ci := 6) (kc' := 1) (ks' := 9) (fs := [.int (iI 0), .int (iI 0), .int (iI 0), .int (iI 0), .int (iI 0)]) C in_X7 tyX7 tyX7_ok rfl q584 q585 q89 df_X7 (by omega) (by omega) dX5_chord_131 (fun a22 fa22 => ?_)
              refine Z.nm (fun h23 eh23 => ?_)
              have na22 : h a22 = none := kh21.none0 fa22 (List.not_mem_cons_of_ne_of_not_mem (Ne.symm (zneF fh21_0 fa22)) List.not_mem_nil)
              have kh23 : zkeep h h23 [r] := by rw [eh23]; exact zkeep.born kh21 fa22
              have fh23_0 : h23 a22 = some (true, .inr (6, [.int (iI 0), .int (iI 0), .int (iI 0), .int (iI 0), .int (iI 0)])) := zse eh23
              have fh23_1 : h23 r = some (true, .inr (4, [.int (iI (((nen T p) + ((qmx (T.drop (nen T p).toNat) : Nat) : Int)) + 1)), .ref c])) := zsn eh23 fh21_0 (zneF fh21_0 fa22)
              refine z_dup (pc := 134) C dX5_chord_134 rfl ?_
              refine z_iload_n (pc := 135) (j := 5) C dX5_chord_135 rfl rfl ?_
              refine z_iload_n (pc := 136) (j := 6) C dX5_chord_136 rfl rfl ?_
              refine z_iload (pc := 137) (j := 3) C dX5_chord_137 rfl ?_
              refine z_iload (pc := 139) (j := 2) C dX5_chord_139 rfl ?_
              refine z_iload (pc := 141) (j := 1) C dX5_chord_141 rfl ?_
              refine z_callI (pc := 143) (n := 5) (kc' := 1) (ks' := 9) C (ct_C_init C.t (x1 := ln) (x2 := co) (x3 := npl T p) (x4 := qfd (T.drop (nen T p).toNat)) (x5 := 100) fh23_0) q588 q89 q586 q587 rfl (by decide +kernel) ⟨by decide, by decide⟩ rfl rfl (Nat.le_of_ble_eq_true rfl) dX5_chord_143 (by omega) (by omega) (zrk fun w h24 hp => ?_) zrx
              obtain ⟨rfl, fq25, k26⟩ := hp
              have kh24 : zkeep h h24 [r] := zkeep.loc kh23 k26 (zall_cons (Or.inl (Or.symm (Or.inr na22))) zall_nil)
              have fh24_1 : h24 r = some (true, .inr (4, [.int (iI (((nen T p) + ((qmx (T.drop (nen T p).toNat) : Nat) : Int)) + 1)), .ref c])) := k26.n fh23_1 (List.not_mem_cons_of_ne_of_not_mem (zneF fh21_0 fa22) List.not_mem_nil)
              show Z X h24 1 9 [(7, .int (iI 1)), (6, .int (iI 100)), (5, .int (iI (qfd (T.drop (nen T p).toNat)))), (4, .int (iI (npl T p))), (0, .ref r), (1, .int (iI ln)), (2, .int (iI co)), (3, .int (iI e))] 146 [.ref a22]
              exact z_areturn (pc := 146) C (Or.inl ⟨_, rfl⟩) (Or.inr ⟨_, rfl⟩) (by rw [hXp]; exact Or.inl ⟨_, rfl, (npl T p), (qfd (T.drop (nen T p).toNat)), 100, (((nen T p) + ((qmx (T.drop (nen T p).toNat) : Nat) : Int)) + 1), a22, (chp_o5 hno_4 hqo_9 (by omega) (by omega)), rfl, fq25, na22, fh24_1, kh24⟩) dX5_chord_146
        · refine z_aload_n (pc := 45) (j := 3) C dX5_chord_45 rfl rfl ?_
          refine z_getfield (pc := 46) (v := .int (iI ((nen T p) + ((qmx (T.drop (nen T p).toNat) : Nat) : Int)))) C in_X5 rfl 0 (by decide) q315 (fun _ z => z) hr_9 rfl dX5_chord_46 ?_
          refine z_aload_n (pc := 49) (j := 3) C dX5_chord_49 rfl rfl ?_
          refine z_getfield (pc := 50) (v := .ref c) C in_X5 rfl 1 (by decide) q316 (fun _ z => z) hr_9 rfl dX5_chord_50 ?_
          refine z_getfieldN (pc := 53) (v := .int (iI ((T.length : Nat) : Int))) C in_X1 rfl 1 (by decide) q275 (fun _ z => z) (kh6.n hc0 (List.not_mem_cons_of_ne_of_not_mem (zneC hc0 hr (by decide)) List.not_mem_nil)) rfl dX5_chord_53 ?_
          refine z_icmp_ne (pc := 56) (tgt := 63) C dX5_chord_56 (by decide) (by omega) (by omega) (fun c56 => ?_) (fun c56 => ?_)
          · refine z_iconst (pc := 63) C dX5_chord_63 ?_
            refine z_goto (pc := 64) (tgt := 102) C dX5_chord_64 (by decide) ?_
            refine z_istore (pc := 102) (L' := [(7, .int (iI 0)), (6, .int (iI 100)), (5, .int (iI (qfd (T.drop (nen T p).toNat)))), (4, .int (iI (npl T p))), (0, .ref r), (1, .int (iI ln)), (2, .int (iI co)), (3, .int (iI e))]) C dX5_chord_102 (by rw [hnL]; decide) rfl ?_
            refine z_iload (pc := 104) (j := 0) C dX5_chord_104 rfl ?_
            refine z_if_ne (pc := 106) (tgt := 121) C dX5_chord_106 (by decide) (by decide) (fun z => absurd z (by decide)) (fun _ => ?_)
            refine z_new (pc := 109) (ci := 5) (kc' := 1) (ks' := 7) (fs := [.null, .null, .null, .null, .null, .int (iI 0), .int (iI 0)]) C in_X6 tyX6 tyX6_ok rfl q370 q371 q85 df_X6 (by omega) (by omega) dX5_chord_109 (fun a27 fa27 => ?_)
            refine Z.nm (fun h28 eh28 => ?_)
            have na27 : h a27 = none := kh6.none0 fa27 (List.not_mem_cons_of_ne_of_not_mem (Ne.symm (zneF hr_9 fa27)) List.not_mem_nil)
            have kh28 : zkeep h h28 [r] := by rw [eh28]; exact zkeep.born kh6 fa27
            have fh28_0 : h28 a27 = some (true, .inr (5, [.null, .null, .null, .null, .null, .int (iI 0), .int (iI 0)])) := zse eh28
            have fh28_1 : h28 r = some (true, .inr (4, [.int (iI ((nen T p) + ((qmx (T.drop (nen T p).toNat) : Nat) : Int))), .ref c])) := zsn eh28 hr_9 (zneF hr_9 fa27)
            refine z_dup (pc := 112) C dX5_chord_112 rfl ?_
            refine z_aload_n (pc := 113) (j := 4) C dX5_chord_113 rfl rfl ?_
            refine z_getfield (pc := 114) (v := .int (iI ((nen T p) + ((qmx (T.drop (nen T p).toNat) : Nat) : Int)))) C in_X5 rfl 0 (by decide) q315 (fun _ z => z) fh28_1 rfl dX5_chord_114 ?_
            refine z_callI (pc := 117) (n := 1) (kc' := 1) (ks' := 7) C (ct_TE_init C.t fh28_0 (p := (nen T p) + ((qmx (T.drop (nen T p).toNat) : Nat) : Int))) q414 q85 q412 q413 rfl (by decide +kernel) ⟨by decide, by decide⟩ rfl rfl (Nat.le_of_ble_eq_true rfl) dX5_chord_117 (by omega) (by omega) (zrk fun w h29 hp => ?_) zrx
            obtain ⟨rfl, fq30, k31⟩ := hp
            have kh29 : zkeep h h29 [r] := zkeep.loc kh28 k31 (zall_cons (Or.inl (Or.symm (Or.inr na27))) zall_nil)
            have fh29_1 : h29 r = some (true, .inr (4, [.int (iI ((nen T p) + ((qmx (T.drop (nen T p).toNat) : Nat) : Int))), .ref c])) := k31.n fh28_1 (List.not_mem_cons_of_ne_of_not_mem (zneF hr_9 fa27) List.not_mem_nil)
            show Z X h29 1 7 [(7, .int (iI 0)), (6, .int (iI 100)), (5, .int (iI (qfd (T.drop (nen T p).toNat)))), (4, .int (iI (npl T p))), (0, .ref r), (1, .int (iI ln)), (2, .int (iI co)), (3, .int (iI e))] 120 [.ref a27]
            refine z_athrow (pc := 120) C rfl fq30 dX5_chord_120 ?_
            exact zx_out C (fun x hx => nomatch hx) (by rw [hXp]; exact Or.inr ⟨_, rfl, ((nen T p) + ((qmx (T.drop (nen T p).toNat) : Nat) : Int)), (chp_b5 hno_4 hqo_9 (by omega) (by omega)), fq30, na27, kh29⟩)
          · refine z_iconst (pc := 59) C dX5_chord_59 ?_
            refine z_goto (pc := 60) (tgt := 102) C dX5_chord_60 (by decide) ?_
            refine z_istore (pc := 102) (L' := [(7, .int (iI 1)), (6, .int (iI 100)), (5, .int (iI (qfd (T.drop (nen T p).toNat)))), (4, .int (iI (npl T p))), (0, .ref r), (1, .int (iI ln)), (2, .int (iI co)), (3, .int (iI e))]) C dX5_chord_102 (by rw [hnL]; decide) rfl ?_
            refine z_iload (pc := 104) (j := 0) C dX5_chord_104 rfl ?_
            refine z_if_ne (pc := 106) (tgt := 121) C dX5_chord_106 (by decide) (by decide) (fun _ => ?_) (fun z => absurd z (by decide))
            refine z_aload_n (pc := 121) (j := 4) C dX5_chord_121 rfl rfl ?_
            refine z_dup (pc := 122) C dX5_chord_122 rfl ?_
            refine z_getfield (pc := 123) (v := .int (iI ((nen T p) + ((qmx (T.drop (nen T p).toNat) : Nat) : Int)))) C in_X5 rfl 0 (by decide) q315 (fun _ z => z) hr_9 rfl dX5_chord_123 ?_
            refine z_iconst (pc := 126) C dX5_chord_126 ?_
            refine z_iadd (pc := 127) C dX5_chord_127 ?_
            refine z_putfield (pc := 128) (fs' := [.int (iI (((nen T p) + ((qmx (T.drop (nen T p).toNat) : Nat) : Int)) + 1)), .ref c]) C in_X5 tyX5 tyX5_ok nmX5 rfl 0 (by decide) q315 (fun _ z => z) rfl rfl rfl (Nat.le_of_ble_eq_true rfl) hr_9 rfl dX5_chord_128 ?_
            refine Z.nm (fun h32 eh32 => ?_)
            have kh32 : zkeep h h32 [r] := by rw [eh32]; exact zkeep.up kh6 (Or.inl (by simp)) hr_9
            have fh32_0 : h32 r = some (true, .inr (4, [.int (iI (((nen T p) + ((qmx (T.drop (nen T p).toNat) : Nat) : Int)) + 1)), .ref c])) := zse eh32
            refine z_new (pc := 131) (ci := 6) (kc' := 1) (ks' := 9) (fs := [.int (iI 0), .int (iI 0), .int (iI 0), .int (iI 0), .int (iI 0)]) C in_X7 tyX7 tyX7_ok rfl q584 q585 q89 df_X7 (by omega) (by omega) dX5_chord_131 (fun a33 fa33 => ?_)
            refine Z.nm (fun h34 eh34 => ?_)
            have na33 : h a33 = none := kh32.none0 fa33 (List.not_mem_cons_of_ne_of_not_mem (Ne.symm (zneF fh32_0 fa33)) List.not_mem_nil)
            have kh34 : zkeep h h34 [r] := by rw [eh34]; exact zkeep.born kh32 fa33
            have fh34_0 : h34 a33 = some (true, .inr (6, [.int (iI 0), .int (iI 0), .int (iI 0), .int (iI 0), .int (iI 0)])) := zse eh34
            have fh34_1 : h34 r = some (true, .inr (4, [.int (iI (((nen T p) + ((qmx (T.drop (nen T p).toNat) : Nat) : Int)) + 1)), .ref c])) := zsn eh34 fh32_0 (zneF fh32_0 fa33)
            refine z_dup (pc := 134) C dX5_chord_134 rfl ?_
            refine z_iload_n (pc := 135) (j := 5) C dX5_chord_135 rfl rfl ?_
            refine z_iload_n (pc := 136) (j := 6) C dX5_chord_136 rfl rfl ?_
            refine z_iload (pc := 137) (j := 3) C dX5_chord_137 rfl ?_
            refine z_iload (pc := 139) (j := 2) C dX5_chord_139 rfl ?_
            refine z_iload (pc := 141) (j := 1) C dX5_chord_141 rfl ?_
            refine z_callI (pc := 143) (n := 5) (kc' := 1) (ks' := 9) C (ct_C_init C.t (x1 := ln) (x2 := co) (x3 := npl T p) (x4 := qfd (T.drop (nen T p).toNat)) (x5 := 100) fh34_0) q588 q89 q586 q587 rfl (by decide +kernel) ⟨by decide, by decide⟩ rfl rfl (Nat.le_of_ble_eq_true rfl) dX5_chord_143 (by omega) (by omega) (zrk fun w h35 hp => ?_) zrx
            obtain ⟨rfl, fq36, k37⟩ := hp
            have kh35 : zkeep h h35 [r] := zkeep.loc kh34 k37 (zall_cons (Or.inl (Or.symm (Or.inr na33))) zall_nil)
            have fh35_1 : h35 r = some (true, .inr (4, [.int (iI (((nen T p) + ((qmx (T.drop (nen T p).toNat) : Nat) : Int)) + 1)), .ref c])) := k37.n fh34_1 (List.not_mem_cons_of_ne_of_not_mem (zneF fh32_0 fa33) List.not_mem_nil)
            show Z X h35 1 9 [(7, .int (iI 1)), (6, .int (iI 100)), (5, .int (iI (qfd (T.drop (nen T p).toNat)))), (4, .int (iI (npl T p))), (0, .ref r), (1, .int (iI ln)), (2, .int (iI co)), (3, .int (iI e))] 146 [.ref a33]
            exact z_areturn (pc := 146) C (Or.inl ⟨_, rfl⟩) (Or.inr ⟨_, rfl⟩) (by rw [hXp]; exact Or.inl ⟨_, rfl, (npl T p), (qfd (T.drop (nen T p).toNat)), 100, (((nen T p) + ((qmx (T.drop (nen T p).toNat) : Nat) : Int)) + 1), a33, (chp_o5 hno_4 hqo_9 (by omega) (by omega)), rfl, fq36, na33, fh35_1, kh35⟩) dX5_chord_146
      · refine z_aload_n (pc := 25) (j := 3) C dX5_chord_25 rfl rfl ?_
        refine z_dup (pc := 26) C dX5_chord_26 rfl ?_
        refine z_getfield (pc := 27) (v := .int (iI ((nen T p) + ((qmx (T.drop (nen T p).toNat) : Nat) : Int)))) C in_X5 rfl 0 (by decide) q315 (fun _ z => z) hr_9 rfl dX5_chord_27 ?_
        refine z_iconst (pc := 30) C dX5_chord_30 ?_
        refine z_iadd (pc := 31) C dX5_chord_31 ?_
        refine z_putfield (pc := 32) (fs' := [.int (iI (((nen T p) + ((qmx (T.drop (nen T p).toNat) : Nat) : Int)) + 1)), .ref c]) C in_X5 tyX5 tyX5_ok nmX5 rfl 0 (by decide) q315 (fun _ z => z) rfl rfl rfl (Nat.le_of_ble_eq_true rfl) hr_9 rfl dX5_chord_32 ?_
        refine Z.nm (fun h38 eh38 => ?_)
        have kh38 : zkeep h h38 [r] := by rw [eh38]; exact zkeep.up kh6 (Or.inl (by simp)) hr_9
        have fh38_0 : h38 r = some (true, .inr (4, [.int (iI (((nen T p) + ((qmx (T.drop (nen T p).toNat) : Nat) : Int)) + 1)), .ref c])) := zse eh38
        refine z_aload_n (pc := 35) (j := 3) C dX5_chord_35 rfl rfl ?_
        refine z_callV (pc := 36) (n := 0) (kc' := 1) (ks' := 7) C (ct_R_note C.t (p := ((nen T p) + ((qmx (T.drop (nen T p).toNat) : Nat) : Int)) + 1) fh38_0 (kh38.n hc0 (List.not_mem_cons_of_ne_of_not_mem (zneC hc0 hr (by decide)) List.not_mem_nil)) (kh38.n htx (List.not_mem_cons_of_ne_of_not_mem (Ne.symm (zneA hr htx)) List.not_mem_nil)) hch hT hTl (by omega)) (lw_V q449 q451 qs5 q80 q452) (by decide +kernel) ⟨by decide, by decide⟩ fh38_0 rfl rfl rfl (Nat.le_of_ble_eq_true rfl) dX5_chord_36 (by omega) (by omega) (zbk fun w h39 hp => ?_) (zbx fun q41 h40 hp => ?_)
        · obtain ⟨hno_42, rfl, hr_42, k43⟩ := hp
          have kh39 : zkeep h h39 [r] := zkeep.loc kh38 k43 (zall_cons (Or.inl (Or.symm (Or.inl (by simp)))) zall_nil)
          have hne_42 : (((nen T p) + ((qmx (T.drop (nen T p).toNat) : Nat) : Int)) + 1) + 1 ≤ nen T (((nen T p) + ((qmx (T.drop (nen T p).toNat) : Nat) : Int)) + 1) ∧ nen T (((nen T p) + ((qmx (T.drop (nen T p).toNat) : Nat) : Int)) + 1) ≤ (((nen T p) + ((qmx (T.drop (nen T p).toNat) : Nat) : Int)) + 1) + 2 := by unfold nen; split <;> omega
          have hnl_42 := nen_le hno_42 (by omega)
          have hnp_42 : -8 ≤ npl T (((nen T p) + ((qmx (T.drop (nen T p).toNat) : Nat) : Int)) + 1) ∧ npl T (((nen T p) + ((qmx (T.drop (nen T p).toNat) : Nat) : Int)) + 1) ≤ 12 := by have := zixL_r (tch T (((nen T p) + ((qmx (T.drop (nen T p).toNat) : Nat) : Int)) + 1)); have := hno_42.2; unfold npl nsg; (repeat' split) <;> omega
          show Z X h39 1 7 [(6, .int (iI 100)), (5, .int (iI (qfd (T.drop (nen T p).toNat)))), (4, .int (iI (npl T p))), (0, .ref r), (1, .int (iI ln)), (2, .int (iI co)), (3, .int (iI e))] 39 [.int (iI (npl T (((nen T p) + ((qmx (T.drop (nen T p).toNat) : Nat) : Int)) + 1)))]
          refine z_istore (pc := 39) (L' := [(6, .int (iI (npl T (((nen T p) + ((qmx (T.drop (nen T p).toNat) : Nat) : Int)) + 1)))), (5, .int (iI (qfd (T.drop (nen T p).toNat)))), (4, .int (iI (npl T p))), (0, .ref r), (1, .int (iI ln)), (2, .int (iI co)), (3, .int (iI e))]) C dX5_chord_39 (by rw [hnL]; decide) rfl ?_
          refine z_iload_n (pc := 41) (j := 6) C dX5_chord_41 rfl rfl ?_
          refine z_if_ne (pc := 42) (tgt := 67) C dX5_chord_42 (by decide) (by omega) (fun c42 => ?_) (fun c42 => ?_)
          · refine z_aload_n (pc := 67) (j := 3) C dX5_chord_67 rfl rfl ?_
            refine z_getfield (pc := 68) (v := .int (iI (nen T (((nen T p) + ((qmx (T.drop (nen T p).toNat) : Nat) : Int)) + 1)))) C in_X5 rfl 0 (by decide) q315 (fun _ z => z) hr_42 rfl dX5_chord_68 ?_
            refine z_aload_n (pc := 71) (j := 3) C dX5_chord_71 rfl rfl ?_
            refine z_getfield (pc := 72) (v := .ref c) C in_X5 rfl 1 (by decide) q316 (fun _ z => z) hr_42 rfl dX5_chord_72 ?_
            refine z_getfieldN (pc := 75) (v := .int (iI ((T.length : Nat) : Int))) C in_X1 rfl 1 (by decide) q275 (fun _ z => z) (kh39.n hc0 (List.not_mem_cons_of_ne_of_not_mem (zneC hc0 hr (by decide)) List.not_mem_nil)) rfl dX5_chord_75 ?_
            refine z_icmp_ge (pc := 78) (tgt := 101) C dX5_chord_78 (by decide) (by omega) (by omega) (fun c78 => ?_) (fun c78 => ?_)
            · refine z_iconst (pc := 101) C dX5_chord_101 ?_
              refine z_istore (pc := 102) (L' := [(7, .int (iI 0)), (6, .int (iI (npl T (((nen T p) + ((qmx (T.drop (nen T p).toNat) : Nat) : Int)) + 1)))), (5, .int (iI (qfd (T.drop (nen T p).toNat)))), (4, .int (iI (npl T p))), (0, .ref r), (1, .int (iI ln)), (2, .int (iI co)), (3, .int (iI e))]) C dX5_chord_102 (by rw [hnL]; decide) rfl ?_
              refine z_iload (pc := 104) (j := 0) C dX5_chord_104 rfl ?_
              refine z_if_ne (pc := 106) (tgt := 121) C dX5_chord_106 (by decide) (by decide) (fun z => absurd z (by decide)) (fun _ => ?_)
              refine z_new (pc := 109) (ci := 5) (kc' := 0) (ks' := 0) (fs := [.null, .null, .null, .null, .null, .int (iI 0), .int (iI 0)]) C in_X6 tyX6 tyX6_ok rfl q370 q371 q85 df_X6 (by omega) (by omega) dX5_chord_109 (fun a44 fa44 => ?_)
              refine Z.nm (fun h45 eh45 => ?_)
              have na44 : h a44 = none := kh39.none0 fa44 (List.not_mem_cons_of_ne_of_not_mem (Ne.symm (zneF hr_42 fa44)) List.not_mem_nil)
              have kh45 : zkeep h h45 [r] := by rw [eh45]; exact zkeep.born kh39 fa44
              have fh45_0 : h45 a44 = some (true, .inr (5, [.null, .null, .null, .null, .null, .int (iI 0), .int (iI 0)])) := zse eh45
              have fh45_1 : h45 r = some (true, .inr (4, [.int (iI (nen T (((nen T p) + ((qmx (T.drop (nen T p).toNat) : Nat) : Int)) + 1))), .ref c])) := zsn eh45 hr_42 (zneF hr_42 fa44)
              refine z_dup (pc := 112) C dX5_chord_112 rfl ?_
              refine z_aload_n (pc := 113) (j := 4) C dX5_chord_113 rfl rfl ?_
              refine z_getfield (pc := 114) (v := .int (iI (nen T (((nen T p) + ((qmx (T.drop (nen T p).toNat) : Nat) : Int)) + 1)))) C in_X5 rfl 0 (by decide) q315 (fun _ z => z) fh45_1 rfl dX5_chord_114 ?_
              refine z_callI (pc := 117) (n := 1) (kc' := 0) (ks' := 0) C (ct_TE_init C.t fh45_0 (p := nen T (((nen T p) + ((qmx (T.drop (nen T p).toNat) : Nat) : Int)) + 1))) q414 q85 q412 q413 rfl (by decide +kernel) ⟨by decide, by decide⟩ rfl rfl (Nat.le_of_ble_eq_true rfl) dX5_chord_117 (by omega) (by omega) (zrk fun w h46 hp => ?_) zrx
              obtain ⟨rfl, fq47, k48⟩ := hp
              have kh46 : zkeep h h46 [r] := zkeep.loc kh45 k48 (zall_cons (Or.inl (Or.symm (Or.inr na44))) zall_nil)
              have fh46_1 : h46 r = some (true, .inr (4, [.int (iI (nen T (((nen T p) + ((qmx (T.drop (nen T p).toNat) : Nat) : Int)) + 1))), .ref c])) := k48.n fh45_1 (List.not_mem_cons_of_ne_of_not_mem (zneF hr_42 fa44) List.not_mem_nil)
              show Z X h46 0 0 [(7, .int (iI 0)), (6, .int (iI (npl T (((nen T p) + ((qmx (T.drop (nen T p).toNat) : Nat) : Int)) + 1)))), (5, .int (iI (qfd (T.drop (nen T p).toNat)))), (4, .int (iI (npl T p))), (0, .ref r), (1, .int (iI ln)), (2, .int (iI co)), (3, .int (iI e))] 120 [.ref a44]
              refine z_athrow (pc := 120) C rfl fq47 dX5_chord_120 ?_
              exact zx_out C (fun x hx => nomatch hx) (by rw [hXp]; exact Or.inr ⟨_, rfl, (nen T (((nen T p) + ((qmx (T.drop (nen T p).toNat) : Nat) : Int)) + 1)), (chp_b4 hno_4 hqo_9 (by omega) hno_42 (by omega)), fq47, na44, kh46⟩)
            · refine z_aload_n (pc := 81) (j := 3) C dX5_chord_81 rfl rfl ?_
              refine z_getfield (pc := 82) (v := .ref c) C in_X5 rfl 1 (by decide) q316 (fun _ z => z) hr_42 rfl dX5_chord_82 ?_
              refine z_getfieldN (pc := 85) (v := .ref tx) C in_X1 rfl 0 (by decide) q274 (fun _ z => z) (kh39.n hc0 (List.not_mem_cons_of_ne_of_not_mem (zneC hc0 hr (by decide)) List.not_mem_nil)) rfl dX5_chord_85 ?_
              refine z_aload_n (pc := 88) (j := 3) C dX5_chord_88 rfl rfl ?_
              refine z_getfield (pc := 89) (v := .int (iI (nen T (((nen T p) + ((qmx (T.drop (nen T p).toNat) : Nat) : Int)) + 1)))) C in_X5 rfl 0 (by decide) q315 (fun _ z => z) hr_42 rfl dX5_chord_89 ?_
              have htc92 := tch_at (T := T) (p := nen T (((nen T p) + ((qmx (T.drop (nen T p).toNat) : Nat) : Int)) + 1)) (by omega)
              have htr92 := tch_r hT (p := nen T (((nen T p) + ((qmx (T.drop (nen T p).toNat) : Nat) : Int)) + 1)) (by omega)
              refine z_caload (pc := 92) (v := .int (iI (tch T (nen T (((nen T p) + ((qmx (T.drop (nen T p).toNat) : Nat) : Int)) + 1))))) C (kh39.n htx (List.not_mem_cons_of_ne_of_not_mem (Ne.symm (zneA hr htx)) List.not_mem_nil)) (by omega) (hch _ _ htc92) dX5_chord_92 ?_
              refine z_iload_n (pc := 93) (j := 6) C dX5_chord_93 rfl rfl ?_
              refine z_icmp_ne (pc := 94) (tgt := 101) C dX5_chord_94 (by decide) (by omega) (by omega) (fun c94 => ?_) (fun c94 => ?_)
              · refine z_iconst (pc := 101) C dX5_chord_101 ?_
                refine z_istore (pc := 102) (L' := [(7, .int (iI 0)), (6, .int (iI (npl T (((nen T p) + ((qmx (T.drop (nen T p).toNat) : Nat) : Int)) + 1)))), (5, .int (iI (qfd (T.drop (nen T p).toNat)))), (4, .int (iI (npl T p))), (0, .ref r), (1, .int (iI ln)), (2, .int (iI co)), (3, .int (iI e))]) C dX5_chord_102 (by rw [hnL]; decide) rfl ?_
                refine z_iload (pc := 104) (j := 0) C dX5_chord_104 rfl ?_
                refine z_if_ne (pc := 106) (tgt := 121) C dX5_chord_106 (by decide) (by decide) (fun z => absurd z (by decide)) (fun _ => ?_)
                refine z_new (pc := 109) (ci := 5) (kc' := 0) (ks' := 0) (fs := [.null, .null, .null, .null, .null, .int (iI 0), .int (iI 0)]) C in_X6 tyX6 tyX6_ok rfl q370 q371 q85 df_X6 (by omega) (by omega) dX5_chord_109 (fun a49 fa49 => ?_)
                refine Z.nm (fun h50 eh50 => ?_)
                have na49 : h a49 = none := kh39.none0 fa49 (List.not_mem_cons_of_ne_of_not_mem (Ne.symm (zneF hr_42 fa49)) List.not_mem_nil)
                have kh50 : zkeep h h50 [r] := by rw [eh50]; exact zkeep.born kh39 fa49
                have fh50_0 : h50 a49 = some (true, .inr (5, [.null, .null, .null, .null, .null, .int (iI 0), .int (iI 0)])) := zse eh50
                have fh50_1 : h50 r = some (true, .inr (4, [.int (iI (nen T (((nen T p) + ((qmx (T.drop (nen T p).toNat) : Nat) : Int)) + 1))), .ref c])) := zsn eh50 hr_42 (zneF hr_42 fa49)
                refine z_dup (pc := 112) C dX5_chord_112 rfl ?_
                refine z_aload_n (pc := 113) (j := 4) C dX5_chord_113 rfl rfl ?_
                refine z_getfield (pc := 114) (v := .int (iI (nen T (((nen T p) + ((qmx (T.drop (nen T p).toNat) : Nat) : Int)) + 1)))) C in_X5 rfl 0 (by decide) q315 (fun _ z => z) fh50_1 rfl dX5_chord_114 ?_
                refine z_callI (pc := 117) (n := 1) (kc' := 0) (ks' := 0) C (ct_TE_init C.t fh50_0 (p := nen T (((nen T p) + ((qmx (T.drop (nen T p).toNat) : Nat) : Int)) + 1))) q414 q85 q412 q413 rfl (by decide +kernel) ⟨by decide, by decide⟩ rfl rfl (Nat.le_of_ble_eq_true rfl) dX5_chord_117 (by omega) (by omega) (zrk fun w h51 hp => ?_) zrx
                obtain ⟨rfl, fq52, k53⟩ := hp
                have kh51 : zkeep h h51 [r] := zkeep.loc kh50 k53 (zall_cons (Or.inl (Or.symm (Or.inr na49))) zall_nil)
                have fh51_1 : h51 r = some (true, .inr (4, [.int (iI (nen T (((nen T p) + ((qmx (T.drop (nen T p).toNat) : Nat) : Int)) + 1))), .ref c])) := k53.n fh50_1 (List.not_mem_cons_of_ne_of_not_mem (zneF hr_42 fa49) List.not_mem_nil)
                show Z X h51 0 0 [(7, .int (iI 0)), (6, .int (iI (npl T (((nen T p) + ((qmx (T.drop (nen T p).toNat) : Nat) : Int)) + 1)))), (5, .int (iI (qfd (T.drop (nen T p).toNat)))), (4, .int (iI (npl T p))), (0, .ref r), (1, .int (iI ln)), (2, .int (iI co)), (3, .int (iI e))] 120 [.ref a49]
                refine z_athrow (pc := 120) C rfl fq52 dX5_chord_120 ?_
                exact zx_out C (fun x hx => nomatch hx) (by rw [hXp]; exact Or.inr ⟨_, rfl, (nen T (((nen T p) + ((qmx (T.drop (nen T p).toNat) : Nat) : Int)) + 1)), (chp_b4 hno_4 hqo_9 (by omega) hno_42 (by omega)), fq52, na49, kh51⟩)
              · refine z_iconst (pc := 97) C dX5_chord_97 ?_
                refine z_goto (pc := 98) (tgt := 102) C dX5_chord_98 (by decide) ?_
                refine z_istore (pc := 102) (L' := [(7, .int (iI 1)), (6, .int (iI (npl T (((nen T p) + ((qmx (T.drop (nen T p).toNat) : Nat) : Int)) + 1)))), (5, .int (iI (qfd (T.drop (nen T p).toNat)))), (4, .int (iI (npl T p))), (0, .ref r), (1, .int (iI ln)), (2, .int (iI co)), (3, .int (iI e))]) C dX5_chord_102 (by rw [hnL]; decide) rfl ?_
                refine z_iload (pc := 104) (j := 0) C dX5_chord_104 rfl ?_
                refine z_if_ne (pc := 106) (tgt := 121) C dX5_chord_106 (by decide) (by decide) (fun _ => ?_) (fun z => absurd z (by decide))
                refine z_aload_n (pc := 121) (j := 4) C dX5_chord_121 rfl rfl ?_
                refine z_dup (pc := 122) C dX5_chord_122 rfl ?_
                refine z_getfield (pc := 123) (v := .int (iI (nen T (((nen T p) + ((qmx (T.drop (nen T p).toNat) : Nat) : Int)) + 1)))) C in_X5 rfl 0 (by decide) q315 (fun _ z => z) hr_42 rfl dX5_chord_123 ?_
                refine z_iconst (pc := 126) C dX5_chord_126 ?_
                refine z_iadd (pc := 127) C dX5_chord_127 ?_
                refine z_putfield (pc := 128) (fs' := [.int (iI ((nen T (((nen T p) + ((qmx (T.drop (nen T p).toNat) : Nat) : Int)) + 1)) + 1)), .ref c]) C in_X5 tyX5 tyX5_ok nmX5 rfl 0 (by decide) q315 (fun _ z => z) rfl rfl rfl (Nat.le_of_ble_eq_true rfl) hr_42 rfl dX5_chord_128 ?_
                refine Z.nm (fun h54 eh54 => ?_)
                have kh54 : zkeep h h54 [r] := by rw [eh54]; exact zkeep.up kh39 (Or.inl (by simp)) hr_42
                have fh54_0 : h54 r = some (true, .inr (4, [.int (iI ((nen T (((nen T p) + ((qmx (T.drop (nen T p).toNat) : Nat) : Int)) + 1)) + 1)), .ref c])) := zse eh54
                refine z_new (pc := 131) (ci := 6) (kc' := 0) (ks' := 2) (fs := [.int (iI 0), .int (iI 0), .int (iI 0), .int (iI 0), .int (iI 0)]) C in_X7 tyX7 tyX7_ok rfl q584 q585 q89 df_X7 (by omega) (by omega) dX5_chord_131 (fun a55 fa55 => ?_)
                refine Z.nm (fun h56 eh56 => ?_)
                have na55 : h a55 = none := kh54.none0 fa55 (List.not_mem_cons_of_ne_of_not_mem (Ne.symm (zneF fh54_0 fa55)) List.not_mem_nil)
                have kh56 : zkeep h h56 [r] := by rw [eh56]; exact zkeep.born kh54 fa55
                have fh56_0 : h56 a55 = some (true, .inr (6, [.int (iI 0), .int (iI 0), .int (iI 0), .int (iI 0), .int (iI 0)])) := zse eh56
                have fh56_1 : h56 r = some (true, .inr (4, [.int (iI ((nen T (((nen T p) + ((qmx (T.drop (nen T p).toNat) : Nat) : Int)) + 1)) + 1)), .ref c])) := zsn eh56 fh54_0 (zneF fh54_0 fa55)
                refine z_dup (pc := 134) C dX5_chord_134 rfl ?_
                refine z_iload_n (pc := 135) (j := 5) C dX5_chord_135 rfl rfl ?_
                refine z_iload_n (pc := 136) (j := 6) C dX5_chord_136 rfl rfl ?_
                refine z_iload (pc := 137) (j := 3) C dX5_chord_137 rfl ?_
                refine z_iload (pc := 139) (j := 2) C dX5_chord_139 rfl ?_
                refine z_iload (pc := 141) (j := 1) C dX5_chord_141 rfl ?_
                refine z_callI (pc := 143) (n := 5) (kc' := 0) (ks' := 2) C (ct_C_init C.t (x1 := ln) (x2 := co) (x3 := npl T p) (x4 := qfd (T.drop (nen T p).toNat)) (x5 := npl T (((nen T p) + ((qmx (T.drop (nen T p).toNat) : Nat) : Int)) + 1)) fh56_0) q588 q89 q586 q587 rfl (by decide +kernel) ⟨by decide, by decide⟩ rfl rfl (Nat.le_of_ble_eq_true rfl) dX5_chord_143 (by omega) (by omega) (zrk fun w h57 hp => ?_) zrx
                obtain ⟨rfl, fq58, k59⟩ := hp
                have kh57 : zkeep h h57 [r] := zkeep.loc kh56 k59 (zall_cons (Or.inl (Or.symm (Or.inr na55))) zall_nil)
                have fh57_1 : h57 r = some (true, .inr (4, [.int (iI ((nen T (((nen T p) + ((qmx (T.drop (nen T p).toNat) : Nat) : Int)) + 1)) + 1)), .ref c])) := k59.n fh56_1 (List.not_mem_cons_of_ne_of_not_mem (zneF fh54_0 fa55) List.not_mem_nil)
                show Z X h57 0 2 [(7, .int (iI 1)), (6, .int (iI (npl T (((nen T p) + ((qmx (T.drop (nen T p).toNat) : Nat) : Int)) + 1)))), (5, .int (iI (qfd (T.drop (nen T p).toNat)))), (4, .int (iI (npl T p))), (0, .ref r), (1, .int (iI ln)), (2, .int (iI co)), (3, .int (iI e))] 146 [.ref a55]
                exact z_areturn (pc := 146) C (Or.inl ⟨_, rfl⟩) (Or.inr ⟨_, rfl⟩) (by rw [hXp]; exact Or.inl ⟨_, rfl, (npl T p), (qfd (T.drop (nen T p).toNat)), (npl T (((nen T p) + ((qmx (T.drop (nen T p).toNat) : Nat) : Int)) + 1)), ((nen T (((nen T p) + ((qmx (T.drop (nen T p).toNat) : Nat) : Int)) + 1)) + 1), a55, (chp_o4 hno_4 hqo_9 (by omega) hno_42 (by omega)), rfl, fq58, na55, fh57_1, kh57⟩) dX5_chord_146
          · refine z_aload_n (pc := 45) (j := 3) C dX5_chord_45 rfl rfl ?_
            refine z_getfield (pc := 46) (v := .int (iI (nen T (((nen T p) + ((qmx (T.drop (nen T p).toNat) : Nat) : Int)) + 1)))) C in_X5 rfl 0 (by decide) q315 (fun _ z => z) hr_42 rfl dX5_chord_46 ?_
            refine z_aload_n (pc := 49) (j := 3) C dX5_chord_49 rfl rfl ?_
            refine z_getfield (pc := 50) (v := .ref c) C in_X5 rfl 1 (by decide) q316 (fun _ z => z) hr_42 rfl dX5_chord_50 ?_
            refine z_getfieldN (pc := 53) (v := .int (iI ((T.length : Nat) : Int))) C in_X1 rfl 1 (by decide) q275 (fun _ z => z) (kh39.n hc0 (List.not_mem_cons_of_ne_of_not_mem (zneC hc0 hr (by decide)) List.not_mem_nil)) rfl dX5_chord_53 ?_
            refine z_icmp_ne (pc := 56) (tgt := 63) C dX5_chord_56 (by decide) (by omega) (by omega) (fun c56 => ?_) (fun c56 => ?_)
            · refine z_iconst (pc := 63) C dX5_chord_63 ?_
              refine z_goto (pc := 64) (tgt := 102) C dX5_chord_64 (by decide) ?_
              refine z_istore (pc := 102) (L' := [(7, .int (iI 0)), (6, .int (iI (npl T (((nen T p) + ((qmx (T.drop (nen T p).toNat) : Nat) : Int)) + 1)))), (5, .int (iI (qfd (T.drop (nen T p).toNat)))), (4, .int (iI (npl T p))), (0, .ref r), (1, .int (iI ln)), (2, .int (iI co)), (3, .int (iI e))]) C dX5_chord_102 (by rw [hnL]; decide) rfl ?_
              refine z_iload (pc := 104) (j := 0) C dX5_chord_104 rfl ?_
              refine z_if_ne (pc := 106) (tgt := 121) C dX5_chord_106 (by decide) (by decide) (fun z => absurd z (by decide)) (fun _ => ?_)
              refine z_new (pc := 109) (ci := 5) (kc' := 0) (ks' := 0) (fs := [.null, .null, .null, .null, .null, .int (iI 0), .int (iI 0)]) C in_X6 tyX6 tyX6_ok rfl q370 q371 q85 df_X6 (by omega) (by omega) dX5_chord_109 (fun a60 fa60 => ?_)
              refine Z.nm (fun h61 eh61 => ?_)
              have na60 : h a60 = none := kh39.none0 fa60 (List.not_mem_cons_of_ne_of_not_mem (Ne.symm (zneF hr_42 fa60)) List.not_mem_nil)
              have kh61 : zkeep h h61 [r] := by rw [eh61]; exact zkeep.born kh39 fa60
              have fh61_0 : h61 a60 = some (true, .inr (5, [.null, .null, .null, .null, .null, .int (iI 0), .int (iI 0)])) := zse eh61
              have fh61_1 : h61 r = some (true, .inr (4, [.int (iI (nen T (((nen T p) + ((qmx (T.drop (nen T p).toNat) : Nat) : Int)) + 1))), .ref c])) := zsn eh61 hr_42 (zneF hr_42 fa60)
              refine z_dup (pc := 112) C dX5_chord_112 rfl ?_
              refine z_aload_n (pc := 113) (j := 4) C dX5_chord_113 rfl rfl ?_
              refine z_getfield (pc := 114) (v := .int (iI (nen T (((nen T p) + ((qmx (T.drop (nen T p).toNat) : Nat) : Int)) + 1)))) C in_X5 rfl 0 (by decide) q315 (fun _ z => z) fh61_1 rfl dX5_chord_114 ?_
              refine z_callI (pc := 117) (n := 1) (kc' := 0) (ks' := 0) C (ct_TE_init C.t fh61_0 (p := nen T (((nen T p) + ((qmx (T.drop (nen T p).toNat) : Nat) : Int)) + 1))) q414 q85 q412 q413 rfl (by decide +kernel) ⟨by decide, by decide⟩ rfl rfl (Nat.le_of_ble_eq_true rfl) dX5_chord_117 (by omega) (by omega) (zrk fun w h62 hp => ?_) zrx
              obtain ⟨rfl, fq63, k64⟩ := hp
              have kh62 : zkeep h h62 [r] := zkeep.loc kh61 k64 (zall_cons (Or.inl (Or.symm (Or.inr na60))) zall_nil)
              have fh62_1 : h62 r = some (true, .inr (4, [.int (iI (nen T (((nen T p) + ((qmx (T.drop (nen T p).toNat) : Nat) : Int)) + 1))), .ref c])) := k64.n fh61_1 (List.not_mem_cons_of_ne_of_not_mem (zneF hr_42 fa60) List.not_mem_nil)
              show Z X h62 0 0 [(7, .int (iI 0)), (6, .int (iI (npl T (((nen T p) + ((qmx (T.drop (nen T p).toNat) : Nat) : Int)) + 1)))), (5, .int (iI (qfd (T.drop (nen T p).toNat)))), (4, .int (iI (npl T p))), (0, .ref r), (1, .int (iI ln)), (2, .int (iI co)), (3, .int (iI e))] 120 [.ref a60]
              refine z_athrow (pc := 120) C rfl fq63 dX5_chord_120 ?_
              exact zx_out C (fun x hx => nomatch hx) (by rw [hXp]; exact Or.inr ⟨_, rfl, (nen T (((nen T p) + ((qmx (T.drop (nen T p).toNat) : Nat) : Int)) + 1)), (chp_b4 hno_4 hqo_9 (by omega) hno_42 (by omega)), fq63, na60, kh62⟩)
            · refine z_iconst (pc := 59) C dX5_chord_59 ?_
              refine z_goto (pc := 60) (tgt := 102) C dX5_chord_60 (by decide) ?_
              refine z_istore (pc := 102) (L' := [(7, .int (iI 1)), (6, .int (iI (npl T (((nen T p) + ((qmx (T.drop (nen T p).toNat) : Nat) : Int)) + 1)))), (5, .int (iI (qfd (T.drop (nen T p).toNat)))), (4, .int (iI (npl T p))), (0, .ref r), (1, .int (iI ln)), (2, .int (iI co)), (3, .int (iI e))]) C dX5_chord_102 (by rw [hnL]; decide) rfl ?_
              refine z_iload (pc := 104) (j := 0) C dX5_chord_104 rfl ?_
              refine z_if_ne (pc := 106) (tgt := 121) C dX5_chord_106 (by decide) (by decide) (fun _ => ?_) (fun z => absurd z (by decide))
              refine z_aload_n (pc := 121) (j := 4) C dX5_chord_121 rfl rfl ?_
              refine z_dup (pc := 122) C dX5_chord_122 rfl ?_
              refine z_getfield (pc := 123) (v := .int (iI (nen T (((nen T p) + ((qmx (T.drop (nen T p).toNat) : Nat) : Int)) + 1)))) C in_X5 rfl 0 (by decide) q315 (fun _ z => z) hr_42 rfl dX5_chord_123 ?_
              refine z_iconst (pc := 126) C dX5_chord_126 ?_
              refine z_iadd (pc := 127) C dX5_chord_127 ?_
              refine z_putfield (pc := 128) (fs' := [.int (iI ((nen T (((nen T p) + ((qmx (T.drop (nen T p).toNat) : Nat) : Int)) + 1)) + 1)), .ref c]) C in_X5 tyX5 tyX5_ok nmX5 rfl 0 (by decide) q315 (fun _ z => z) rfl rfl rfl (Nat.le_of_ble_eq_true rfl) hr_42 rfl dX5_chord_128 ?_
              refine Z.nm (fun h65 eh65 => ?_)
              have kh65 : zkeep h h65 [r] := by rw [eh65]; exact zkeep.up kh39 (Or.inl (by simp)) hr_42
              have fh65_0 : h65 r = some (true, .inr (4, [.int (iI ((nen T (((nen T p) + ((qmx (T.drop (nen T p).toNat) : Nat) : Int)) + 1)) + 1)), .ref c])) := zse eh65
              refine z_new (pc := 131) (ci := 6) (kc' := 0) (ks' := 2) (fs := [.int (iI 0), .int (iI 0), .int (iI 0), .int (iI 0), .int (iI 0)]) C in_X7 tyX7 tyX7_ok rfl q584 q585 q89 df_X7 (by omega) (by omega) dX5_chord_131 (fun a66 fa66 => ?_)
              refine Z.nm (fun h67 eh67 => ?_)
              have na66 : h a66 = none := kh65.none0 fa66 (List.not_mem_cons_of_ne_of_not_mem (Ne.symm (zneF fh65_0 fa66)) List.not_mem_nil)
              have kh67 : zkeep h h67 [r] := by rw [eh67]; exact zkeep.born kh65 fa66
              have fh67_0 : h67 a66 = some (true, .inr (6, [.int (iI 0), .int (iI 0), .int (iI 0), .int (iI 0), .int (iI 0)])) := zse eh67
              have fh67_1 : h67 r = some (true, .inr (4, [.int (iI ((nen T (((nen T p) + ((qmx (T.drop (nen T p).toNat) : Nat) : Int)) + 1)) + 1)), .ref c])) := zsn eh67 fh65_0 (zneF fh65_0 fa66)
              refine z_dup (pc := 134) C dX5_chord_134 rfl ?_
              refine z_iload_n (pc := 135) (j := 5) C dX5_chord_135 rfl rfl ?_
              refine z_iload_n (pc := 136) (j := 6) C dX5_chord_136 rfl rfl ?_
              refine z_iload (pc := 137) (j := 3) C dX5_chord_137 rfl ?_
              refine z_iload (pc := 139) (j := 2) C dX5_chord_139 rfl ?_
              refine z_iload (pc := 141) (j := 1) C dX5_chord_141 rfl ?_
              refine z_callI (pc := 143) (n := 5) (kc' := 0) (ks' := 2) C (ct_C_init C.t (x1 := ln) (x2 := co) (x3 := npl T p) (x4 := qfd (T.drop (nen T p).toNat)) (x5 := npl T (((nen T p) + ((qmx (T.drop (nen T p).toNat) : Nat) : Int)) + 1)) fh67_0) q588 q89 q586 q587 rfl (by decide +kernel) ⟨by decide, by decide⟩ rfl rfl (Nat.le_of_ble_eq_true rfl) dX5_chord_143 (by omega) (by omega) (zrk fun w h68 hp => ?_) zrx
              obtain ⟨rfl, fq69, k70⟩ := hp
              have kh68 : zkeep h h68 [r] := zkeep.loc kh67 k70 (zall_cons (Or.inl (Or.symm (Or.inr na66))) zall_nil)
              have fh68_1 : h68 r = some (true, .inr (4, [.int (iI ((nen T (((nen T p) + ((qmx (T.drop (nen T p).toNat) : Nat) : Int)) + 1)) + 1)), .ref c])) := k70.n fh67_1 (List.not_mem_cons_of_ne_of_not_mem (zneF fh65_0 fa66) List.not_mem_nil)
              show Z X h68 0 2 [(7, .int (iI 1)), (6, .int (iI (npl T (((nen T p) + ((qmx (T.drop (nen T p).toNat) : Nat) : Int)) + 1)))), (5, .int (iI (qfd (T.drop (nen T p).toNat)))), (4, .int (iI (npl T p))), (0, .ref r), (1, .int (iI ln)), (2, .int (iI co)), (3, .int (iI e))] 146 [.ref a66]
              exact z_areturn (pc := 146) C (Or.inl ⟨_, rfl⟩) (Or.inr ⟨_, rfl⟩) (by rw [hXp]; exact Or.inl ⟨_, rfl, (npl T p), (qfd (T.drop (nen T p).toNat)), (npl T (((nen T p) + ((qmx (T.drop (nen T p).toNat) : Nat) : Int)) + 1)), ((nen T (((nen T p) + ((qmx (T.drop (nen T p).toNat) : Nat) : Int)) + 1)) + 1), a66, (chp_o4 hno_4 hqo_9 (by omega) hno_42 (by omega)), rfl, fq69, na66, fh68_1, kh68⟩) dX5_chord_146
        · obtain ⟨hno_71, hte_71, fq41, k72⟩ := hp
          have nq41 : h q41 = none := kh38.none0 fq41 (List.not_mem_cons_of_ne_of_not_mem (Ne.symm (zneF fh38_0 fq41)) List.not_mem_nil)
          have kh40 : zkeep h h40 [r] := zkeep.loc kh38 k72 (zall_cons (Or.inl (Or.symm (Or.inl (by simp)))) zall_nil)
          exact zx_out C (fun x hx => nomatch hx) (by rw [hXp]; exact Or.inr ⟨_, rfl, (((nen T p) + ((qmx (T.drop (nen T p).toNat) : Nat) : Int)) + 1), (chp_b3 hno_4 hqo_9 (by omega) hno_71), hte_71, nq41, kh40⟩)
    · obtain ⟨hno_73, hte_73, fq8, k74⟩ := hp
      have nq8 : h q8 = none := kh1.none0 fq8 (List.not_mem_cons_of_ne_of_not_mem (Ne.symm (zneF hr_4 fq8)) List.not_mem_nil)
      have kh7 : zkeep h h7 [r] := zkeep.loc kh1 k74 (zall_cons (Or.inl (Or.symm (Or.inl (by simp)))) zall_nil)
      exact zx_out C (fun x hx => nomatch hx) (by rw [hXp]; exact Or.inr ⟨_, rfl, ((nen T p) + ((qmx (T.drop (nen T p).toNat) : Nat) : Int)), (chp_b2 hno_4 hno_73), hte_73, nq8, kh7⟩)
  · obtain ⟨hno_75, hte_75, fq3, k76⟩ := hp
    have nq3 : h q3 = none := fq3
    have kh2 : zkeep h h2 [r] := zkeep.loc zkeep.rf k76 (zall_cons (Or.inl (Or.symm (Or.inl (by simp)))) zall_nil)
    exact zx_out C (fun x hx => nomatch hx) (by rw [hXp]; exact Or.inr ⟨_, rfl, p, (chp_b1 hno_75), hte_75, nq3, kh2⟩)

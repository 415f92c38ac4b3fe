/-! 43.mread.lean.txt -/
set_option maxRecDepth 100000
abbrev cX4_readsNote : ByteArray := prog_11_method_11_code
def yX4_readsNote : MethodName := ⟨RX4, "readsNote", "()Z"⟩
def dkwX4_readsNote_4 : List UInt8 := [89, 180, 0, 59, 4, 96, 181, 0, 59, 4, 172]
abbrev dktX4_readsNote_4 : List UInt8 := dkwX4_readsNote_4 ++ []
def dkwX4_readsNote_3 : List UInt8 := [42, 180, 0, 59, 182, 0, 62, 16, 35, 160, 0, 8, 16, 7, 167, 0, 5, 16, 249, 96, 181, 0, 68, 42]
abbrev dktX4_readsNote_3 : List UInt8 := dkwX4_readsNote_3 ++ dktX4_readsNote_4
def dkwX4_readsNote_2 : List UInt8 := [16, 35, 159, 0, 16, 42, 42, 180, 0, 59, 182, 0, 62, 16, 98, 160, 0, 42, 42, 89, 180, 0, 68, 42]
abbrev dktX4_readsNote_2 : List UInt8 := dkwX4_readsNote_2 ++ dktX4_readsNote_3
def dkwX4_readsNote_1 : List UInt8 := [160, 0, 5, 3, 172, 42, 89, 180, 0, 59, 4, 96, 181, 0, 59, 42, 42, 180, 0, 59, 182, 0, 62]
abbrev dktX4_readsNote_1 : List UInt8 := dkwX4_readsNote_1 ++ dktX4_readsNote_2
def dkwX4_readsNote_0 : List UInt8 := [42, 42, 42, 42, 180, 0, 59, 182, 0, 62, 182, 0, 65, 181, 0, 68, 42, 180, 0, 68, 16, 100]
abbrev dktX4_readsNote_0 : List UInt8 := dkwX4_readsNote_0 ++ dktX4_readsNote_1
theorem dksX4_readsNote_0 : cX4_readsNote.data.toList.drop 0 = dktX4_readsNote_0 := by decide +kernel
theorem dksX4_readsNote_1 : cX4_readsNote.data.toList.drop 22 = dktX4_readsNote_1 := dk_seg dksX4_readsNote_0 22 rfl rfl
theorem dksX4_readsNote_2 : cX4_readsNote.data.toList.drop 45 = dktX4_readsNote_2 := dk_seg dksX4_readsNote_1 23 rfl rfl
theorem dksX4_readsNote_3 : cX4_readsNote.data.toList.drop 69 = dktX4_readsNote_3 := dk_seg dksX4_readsNote_2 24 rfl rfl
theorem dksX4_readsNote_4 : cX4_readsNote.data.toList.drop 93 = dktX4_readsNote_4 := dk_seg dksX4_readsNote_3 24 rfl rfl
abbrev cX4_likeQuality : ByteArray := prog_11_method_12_code
def yX4_likeQuality : MethodName := ⟨RX4, "likeQuality", "(I)I"⟩
def dkwX4_likeQuality_5 : List UInt8 := [167, 0, 4, 3, 181, 0, 71, 21, 4, 172]
abbrev dktX4_likeQuality_5 : List UInt8 := dkwX4_likeQuality_5 ++ []
def dkwX4_likeQuality_4 : List UInt8 := [132, 4, 1, 167, 255, 216, 42, 42, 180, 0, 31, 29, 21, 4, 96, 52, 16, 59, 160, 0, 7, 4]
abbrev dktX4_likeQuality_4 : List UInt8 := dkwX4_likeQuality_4 ++ dktX4_likeQuality_5
def dkwX4_likeQuality_3 : List UInt8 := [42, 180, 0, 59, 21, 4, 96, 182, 0, 62, 42, 180, 0, 31, 29, 21, 4, 96, 52, 160, 0, 9]
abbrev dktX4_likeQuality_3 : List UInt8 := dkwX4_likeQuality_3 ++ dktX4_likeQuality_4
def dkwX4_likeQuality_2 : List UInt8 := [132, 4, 1, 167, 255, 213, 3, 54, 4, 42, 180, 0, 31, 29, 21, 4, 96, 52, 16, 59, 159, 0, 32, 42]
abbrev dktX4_likeQuality_2 : List UInt8 := dkwX4_likeQuality_2 ++ dktX4_likeQuality_3
def dkwX4_likeQuality_1 : List UInt8 := [180, 0, 31, 21, 4, 52, 16, 59, 160, 0, 7, 4, 167, 0, 4, 3, 96, 61, 21, 4, 4, 96, 62]
abbrev dktX4_likeQuality_1 : List UInt8 := dkwX4_likeQuality_1 ++ dktX4_likeQuality_2
def dkwX4_likeQuality_0 : List UInt8 := [3, 61, 3, 62, 3, 54, 4, 21, 4, 42, 180, 0, 31, 190, 162, 0, 39, 28, 27, 162, 0, 34, 28, 42]
abbrev dktX4_likeQuality_0 : List UInt8 := dkwX4_likeQuality_0 ++ dktX4_likeQuality_1
theorem dksX4_likeQuality_0 : cX4_likeQuality.data.toList.drop 0 = dktX4_likeQuality_0 := by decide +kernel
theorem dksX4_likeQuality_1 : cX4_likeQuality.data.toList.drop 24 = dktX4_likeQuality_1 := dk_seg dksX4_likeQuality_0 24 rfl rfl
theorem dksX4_likeQuality_2 : cX4_likeQuality.data.toList.drop 47 = dktX4_likeQuality_2 := dk_seg dksX4_likeQuality_1 23 rfl rfl
theorem dksX4_likeQuality_3 : cX4_likeQuality.data.toList.drop 71 = dktX4_likeQuality_3 := dk_seg dksX4_likeQuality_2 24 rfl rfl
theorem dksX4_likeQuality_4 : cX4_likeQuality.data.toList.drop 93 = dktX4_likeQuality_4 := dk_seg dksX4_likeQuality_3 22 rfl rfl
theorem dksX4_likeQuality_5 : cX4_likeQuality.data.toList.drop 115 = dktX4_likeQuality_5 := dk_seg dksX4_likeQuality_4 22 rfl rfl
abbrev cX4_readsChord : ByteArray := prog_11_method_13_code
def yX4_readsChord : MethodName := ⟨RX4, "readsChord", "(I)Z"⟩
def dkwX4_readsChord_6 : List UInt8 := [180, 0, 68, 181, 0, 81, 42, 42, 180, 0, 59, 182, 0, 62, 27, 160, 0, 7, 4, 167, 0, 4, 3, 172]
abbrev dktX4_readsChord_6 : List UInt8 := dkwX4_readsChord_6 ++ []
def dkwX4_readsChord_5 : List UInt8 := [160, 0, 30, 42, 89, 180, 0, 59, 4, 96, 181, 0, 59, 42, 182, 0, 74, 154, 0, 5, 3, 172, 42, 42]
abbrev dktX4_readsChord_5 : List UInt8 := dkwX4_readsChord_5 ++ dktX4_readsChord_6
def dkwX4_readsChord_4 : List UInt8 := [42, 29, 181, 0, 87, 21, 4, 154, 0, 5, 3, 172, 42, 42, 180, 0, 59, 182, 0, 62, 16, 47]
abbrev dktX4_readsChord_4 : List UInt8 := dkwX4_readsChord_4 ++ dktX4_readsChord_5
def dkwX4_readsChord_3 : List UInt8 := [54, 4, 21, 5, 62, 21, 6, 61, 132, 5, 1, 167, 255, 207, 42, 89, 180, 0, 59, 28, 96, 181, 0, 59]
abbrev dktX4_readsChord_3 : List UInt8 := dkwX4_readsChord_3 ++ dktX4_readsChord_4
def dkwX4_readsChord_2 : List UInt8 := [21, 6, 28, 163, 0, 16, 21, 6, 28, 160, 0, 22, 42, 180, 0, 71, 153, 0, 15, 42, 180, 0, 71]
abbrev dktX4_readsChord_2 : List UInt8 := dkwX4_readsChord_2 ++ dktX4_readsChord_3
def dkwX4_readsChord_1 : List UInt8 := [61, 3, 62, 3, 54, 4, 3, 54, 5, 21, 5, 16, 10, 162, 0, 48, 42, 21, 5, 182, 0, 84, 54, 6]
abbrev dktX4_readsChord_1 : List UInt8 := dkwX4_readsChord_1 ++ dktX4_readsChord_2
def dkwX4_readsChord_0 : List UInt8 := [42, 182, 0, 74, 154, 0, 5, 3, 172, 42, 42, 180, 0, 68, 181, 0, 78, 42, 16, 100, 181, 0, 81, 3]
abbrev dktX4_readsChord_0 : List UInt8 := dkwX4_readsChord_0 ++ dktX4_readsChord_1
theorem dksX4_readsChord_0 : cX4_readsChord.data.toList.drop 0 = dktX4_readsChord_0 := by decide +kernel
theorem dksX4_readsChord_1 : cX4_readsChord.data.toList.drop 24 = dktX4_readsChord_1 := dk_seg dksX4_readsChord_0 24 rfl rfl
theorem dksX4_readsChord_2 : cX4_readsChord.data.toList.drop 48 = dktX4_readsChord_2 := dk_seg dksX4_readsChord_1 24 rfl rfl
theorem dksX4_readsChord_3 : cX4_readsChord.data.toList.drop 71 = dktX4_readsChord_3 := dk_seg dksX4_readsChord_2 23 rfl rfl
theorem dksX4_readsChord_4 : cX4_readsChord.data.toList.drop 95 = dktX4_readsChord_4 := dk_seg dksX4_readsChord_3 24 rfl rfl
theorem dksX4_readsChord_5 : cX4_readsChord.data.toList.drop 117 = dktX4_readsChord_5 := dk_seg dksX4_readsChord_4 22 rfl rfl
theorem dksX4_readsChord_6 : cX4_readsChord.data.toList.drop 141 = dktX4_readsChord_6 := dk_seg dksX4_readsChord_5 24 rfl rfl
theorem dX4_readsNote_0 : decode cX4_readsNote 0 = .ok (.aload_n 0, 1) := dk_42 (dk_at dksX4_readsNote_0 0 rfl rfl)
theorem dX4_readsNote_1 : decode cX4_readsNote 1 = .ok (.aload_n 0, 1) := dk_42 (dk_at dksX4_readsNote_0 1 rfl rfl)
theorem dX4_readsNote_2 : decode cX4_readsNote 2 = .ok (.aload_n 0, 1) := dk_42 (dk_at dksX4_readsNote_0 2 rfl rfl)
theorem dX4_readsNote_3 : decode cX4_readsNote 3 = .ok (.aload_n 0, 1) := dk_42 (dk_at dksX4_readsNote_0 3 rfl rfl)
theorem dX4_readsNote_4 : decode cX4_readsNote 4 = .ok (.getfield 59, 3) := dk_180 0 59 (dk_at dksX4_readsNote_0 4 rfl rfl)
theorem dX4_readsNote_7 : decode cX4_readsNote 7 = .ok (.invokevirtual 62, 3) := dk_182 0 62 (dk_at dksX4_readsNote_0 7 rfl rfl)
theorem dX4_readsNote_10 : decode cX4_readsNote 10 = .ok (.invokevirtual 65, 3) := dk_182 0 65 (dk_at dksX4_readsNote_0 10 rfl rfl)
theorem dX4_readsNote_13 : decode cX4_readsNote 13 = .ok (.putfield 68, 3) := dk_181 0 68 (dk_at dksX4_readsNote_0 13 rfl rfl)
theorem dX4_readsNote_16 : decode cX4_readsNote 16 = .ok (.aload_n 0, 1) := dk_42 (dk_at dksX4_readsNote_0 16 rfl rfl)
theorem dX4_readsNote_17 : decode cX4_readsNote 17 = .ok (.getfield 68, 3) := dk_180 0 68 (dk_at dksX4_readsNote_0 17 rfl rfl)
theorem dX4_readsNote_20 : decode cX4_readsNote 20 = .ok (.bipush 100, 2) := dk_16 100 (dk_at dksX4_readsNote_0 20 rfl rfl)
theorem dX4_readsNote_22 : decode cX4_readsNote 22 = .ok (.if_icmp .ne 5, 3) := dk_160 0 5 (dk_at dksX4_readsNote_1 0 rfl rfl)
theorem dX4_readsNote_25 : decode cX4_readsNote 25 = .ok (.iconst 0, 1) := dk_3 (dk_at dksX4_readsNote_1 3 rfl rfl)
theorem dX4_readsNote_26 : decode cX4_readsNote 26 = .ok (.ireturn, 1) := dk_172 (dk_at dksX4_readsNote_1 4 rfl rfl)
theorem dX4_readsNote_27 : decode cX4_readsNote 27 = .ok (.aload_n 0, 1) := dk_42 (dk_at dksX4_readsNote_1 5 rfl rfl)
theorem dX4_readsNote_28 : decode cX4_readsNote 28 = .ok (.dup, 1) := dk_89 (dk_at dksX4_readsNote_1 6 rfl rfl)
theorem dX4_readsNote_29 : decode cX4_readsNote 29 = .ok (.getfield 59, 3) := dk_180 0 59 (dk_at dksX4_readsNote_1 7 rfl rfl)
theorem dX4_readsNote_32 : decode cX4_readsNote 32 = .ok (.iconst 1, 1) := dk_4 (dk_at dksX4_readsNote_1 10 rfl rfl)
theorem dX4_readsNote_33 : decode cX4_readsNote 33 = .ok (.iadd, 1) := dk_96 (dk_at dksX4_readsNote_1 11 rfl rfl)
theorem dX4_readsNote_34 : decode cX4_readsNote 34 = .ok (.putfield 59, 3) := dk_181 0 59 (dk_at dksX4_readsNote_1 12 rfl rfl)
theorem dX4_readsNote_37 : decode cX4_readsNote 37 = .ok (.aload_n 0, 1) := dk_42 (dk_at dksX4_readsNote_1 15 rfl rfl)
theorem dX4_readsNote_38 : decode cX4_readsNote 38 = .ok (.aload_n 0, 1) := dk_42 (dk_at dksX4_readsNote_1 16 rfl rfl)
theorem dX4_readsNote_39 : decode cX4_readsNote 39 = .ok (.getfield 59, 3) := dk_180 0 59 (dk_at dksX4_readsNote_1 17 rfl rfl)
theorem dX4_readsNote_42 : decode cX4_readsNote 42 = .ok (.invokevirtual 62, 3) := dk_182 0 62 (dk_at dksX4_readsNote_1 20 rfl rfl)
theorem dX4_readsNote_45 : decode cX4_readsNote 45 = .ok (.bipush 35, 2) := dk_16 35 (dk_at dksX4_readsNote_2 0 rfl rfl)
theorem dX4_readsNote_47 : decode cX4_readsNote 47 = .ok (.if_icmp .eq 16, 3) := dk_159 0 16 (dk_at dksX4_readsNote_2 2 rfl rfl)
theorem dX4_readsNote_50 : decode cX4_readsNote 50 = .ok (.aload_n 0, 1) := dk_42 (dk_at dksX4_readsNote_2 5 rfl rfl)
theorem dX4_readsNote_51 : decode cX4_readsNote 51 = .ok (.aload_n 0, 1) := dk_42 (dk_at dksX4_readsNote_2 6 rfl rfl)
theorem dX4_readsNote_52 : decode cX4_readsNote 52 = .ok (.getfield 59, 3) := dk_180 0 59 (dk_at dksX4_readsNote_2 7 rfl rfl)
theorem dX4_readsNote_55 : decode cX4_readsNote 55 = .ok (.invokevirtual 62, 3) := dk_182 0 62 (dk_at dksX4_readsNote_2 10 rfl rfl)
theorem dX4_readsNote_58 : decode cX4_readsNote 58 = .ok (.bipush 98, 2) := dk_16 98 (dk_at dksX4_readsNote_2 13 rfl rfl)
theorem dX4_readsNote_60 : decode cX4_readsNote 60 = .ok (.if_icmp .ne 42, 3) := dk_160 0 42 (dk_at dksX4_readsNote_2 15 rfl rfl)
theorem dX4_readsNote_63 : decode cX4_readsNote 63 = .ok (.aload_n 0, 1) := dk_42 (dk_at dksX4_readsNote_2 18 rfl rfl)
theorem dX4_readsNote_64 : decode cX4_readsNote 64 = .ok (.dup, 1) := dk_89 (dk_at dksX4_readsNote_2 19 rfl rfl)
theorem dX4_readsNote_65 : decode cX4_readsNote 65 = .ok (.getfield 68, 3) := dk_180 0 68 (dk_at dksX4_readsNote_2 20 rfl rfl)
theorem dX4_readsNote_68 : decode cX4_readsNote 68 = .ok (.aload_n 0, 1) := dk_42 (dk_at dksX4_readsNote_2 23 rfl rfl)
theorem dX4_readsNote_69 : decode cX4_readsNote 69 = .ok (.aload_n 0, 1) := dk_42 (dk_at dksX4_readsNote_3 0 rfl rfl)
theorem dX4_readsNote_70 : decode cX4_readsNote 70 = .ok (.getfield 59, 3) := dk_180 0 59 (dk_at dksX4_readsNote_3 1 rfl rfl)
theorem dX4_readsNote_73 : decode cX4_readsNote 73 = .ok (.invokevirtual 62, 3) := dk_182 0 62 (dk_at dksX4_readsNote_3 4 rfl rfl)
theorem dX4_readsNote_76 : decode cX4_readsNote 76 = .ok (.bipush 35, 2) := dk_16 35 (dk_at dksX4_readsNote_3 7 rfl rfl)
theorem dX4_readsNote_78 : decode cX4_readsNote 78 = .ok (.if_icmp .ne 8, 3) := dk_160 0 8 (dk_at dksX4_readsNote_3 9 rfl rfl)
theorem dX4_readsNote_81 : decode cX4_readsNote 81 = .ok (.bipush 7, 2) := dk_16 7 (dk_at dksX4_readsNote_3 12 rfl rfl)
theorem dX4_readsNote_83 : decode cX4_readsNote 83 = .ok (.goto 5, 3) := dk_167 0 5 (dk_at dksX4_readsNote_3 14 rfl rfl)
theorem dX4_readsNote_86 : decode cX4_readsNote 86 = .ok (.bipush (-7), 2) := dk_16 249 (dk_at dksX4_readsNote_3 17 rfl rfl)
theorem dX4_readsNote_88 : decode cX4_readsNote 88 = .ok (.iadd, 1) := dk_96 (dk_at dksX4_readsNote_3 19 rfl rfl)
theorem dX4_readsNote_89 : decode cX4_readsNote 89 = .ok (.putfield 68, 3) := dk_181 0 68 (dk_at dksX4_readsNote_3 20 rfl rfl)
theorem dX4_readsNote_92 : decode cX4_readsNote 92 = .ok (.aload_n 0, 1) := dk_42 (dk_at dksX4_readsNote_3 23 rfl rfl)
theorem dX4_readsNote_93 : decode cX4_readsNote 93 = .ok (.dup, 1) := dk_89 (dk_at dksX4_readsNote_4 0 rfl rfl)
theorem dX4_readsNote_94 : decode cX4_readsNote 94 = .ok (.getfield 59, 3) := dk_180 0 59 (dk_at dksX4_readsNote_4 1 rfl rfl)
theorem dX4_readsNote_97 : decode cX4_readsNote 97 = .ok (.iconst 1, 1) := dk_4 (dk_at dksX4_readsNote_4 4 rfl rfl)
theorem dX4_readsNote_98 : decode cX4_readsNote 98 = .ok (.iadd, 1) := dk_96 (dk_at dksX4_readsNote_4 5 rfl rfl)
theorem dX4_readsNote_99 : decode cX4_readsNote 99 = .ok (.putfield 59, 3) := dk_181 0 59 (dk_at dksX4_readsNote_4 6 rfl rfl)
theorem dX4_readsNote_102 : decode cX4_readsNote 102 = .ok (.iconst 1, 1) := dk_4 (dk_at dksX4_readsNote_4 9 rfl rfl)
theorem dX4_readsNote_103 : decode cX4_readsNote 103 = .ok (.ireturn, 1) := dk_172 (dk_at dksX4_readsNote_4 10 rfl rfl)
theorem dX4_likeQuality_0 : decode cX4_likeQuality 0 = .ok (.iconst 0, 1) := dk_3 (dk_at dksX4_likeQuality_0 0 rfl rfl)
theorem dX4_likeQuality_1 : decode cX4_likeQuality 1 = .ok (.istore_n 2, 1) := dk_61 (dk_at dksX4_likeQuality_0 1 rfl rfl)
theorem dX4_likeQuality_2 : decode cX4_likeQuality 2 = .ok (.iconst 0, 1) := dk_3 (dk_at dksX4_likeQuality_0 2 rfl rfl)
theorem dX4_likeQuality_3 : decode cX4_likeQuality 3 = .ok (.istore_n 3, 1) := dk_62 (dk_at dksX4_likeQuality_0 3 rfl rfl)
theorem dX4_likeQuality_4 : decode cX4_likeQuality 4 = .ok (.iconst 0, 1) := dk_3 (dk_at dksX4_likeQuality_0 4 rfl rfl)
theorem dX4_likeQuality_5 : decode cX4_likeQuality 5 = .ok (.istore 4, 2) := dk_54 4 (dk_at dksX4_likeQuality_0 5 rfl rfl)
theorem dX4_likeQuality_7 : decode cX4_likeQuality 7 = .ok (.iload 4, 2) := dk_21 4 (dk_at dksX4_likeQuality_0 7 rfl rfl)
theorem dX4_likeQuality_9 : decode cX4_likeQuality 9 = .ok (.aload_n 0, 1) := dk_42 (dk_at dksX4_likeQuality_0 9 rfl rfl)
theorem dX4_likeQuality_10 : decode cX4_likeQuality 10 = .ok (.getfield 31, 3) := dk_180 0 31 (dk_at dksX4_likeQuality_0 10 rfl rfl)
theorem dX4_likeQuality_13 : decode cX4_likeQuality 13 = .ok (.arraylength, 1) := dk_190 (dk_at dksX4_likeQuality_0 13 rfl rfl)
theorem dX4_likeQuality_14 : decode cX4_likeQuality 14 = .ok (.if_icmp .ge 39, 3) := dk_162 0 39 (dk_at dksX4_likeQuality_0 14 rfl rfl)
theorem dX4_likeQuality_17 : decode cX4_likeQuality 17 = .ok (.iload_n 2, 1) := dk_28 (dk_at dksX4_likeQuality_0 17 rfl rfl)
theorem dX4_likeQuality_18 : decode cX4_likeQuality 18 = .ok (.iload_n 1, 1) := dk_27 (dk_at dksX4_likeQuality_0 18 rfl rfl)
theorem dX4_likeQuality_19 : decode cX4_likeQuality 19 = .ok (.if_icmp .ge 34, 3) := dk_162 0 34 (dk_at dksX4_likeQuality_0 19 rfl rfl)
theorem dX4_likeQuality_22 : decode cX4_likeQuality 22 = .ok (.iload_n 2, 1) := dk_28 (dk_at dksX4_likeQuality_0 22 rfl rfl)
theorem dX4_likeQuality_23 : decode cX4_likeQuality 23 = .ok (.aload_n 0, 1) := dk_42 (dk_at dksX4_likeQuality_0 23 rfl rfl)
theorem dX4_likeQuality_24 : decode cX4_likeQuality 24 = .ok (.getfield 31, 3) := dk_180 0 31 (dk_at dksX4_likeQuality_1 0 rfl rfl)
theorem dX4_likeQuality_27 : decode cX4_likeQuality 27 = .ok (.iload 4, 2) := dk_21 4 (dk_at dksX4_likeQuality_1 3 rfl rfl)
theorem dX4_likeQuality_29 : decode cX4_likeQuality 29 = .ok (.caload, 1) := dk_52 (dk_at dksX4_likeQuality_1 5 rfl rfl)
theorem dX4_likeQuality_30 : decode cX4_likeQuality 30 = .ok (.bipush 59, 2) := dk_16 59 (dk_at dksX4_likeQuality_1 6 rfl rfl)
theorem dX4_likeQuality_32 : decode cX4_likeQuality 32 = .ok (.if_icmp .ne 7, 3) := dk_160 0 7 (dk_at dksX4_likeQuality_1 8 rfl rfl)
theorem dX4_likeQuality_35 : decode cX4_likeQuality 35 = .ok (.iconst 1, 1) := dk_4 (dk_at dksX4_likeQuality_1 11 rfl rfl)
theorem dX4_likeQuality_36 : decode cX4_likeQuality 36 = .ok (.goto 4, 3) := dk_167 0 4 (dk_at dksX4_likeQuality_1 12 rfl rfl)
theorem dX4_likeQuality_39 : decode cX4_likeQuality 39 = .ok (.iconst 0, 1) := dk_3 (dk_at dksX4_likeQuality_1 15 rfl rfl)
theorem dX4_likeQuality_40 : decode cX4_likeQuality 40 = .ok (.iadd, 1) := dk_96 (dk_at dksX4_likeQuality_1 16 rfl rfl)
theorem dX4_likeQuality_41 : decode cX4_likeQuality 41 = .ok (.istore_n 2, 1) := dk_61 (dk_at dksX4_likeQuality_1 17 rfl rfl)
theorem dX4_likeQuality_42 : decode cX4_likeQuality 42 = .ok (.iload 4, 2) := dk_21 4 (dk_at dksX4_likeQuality_1 18 rfl rfl)
theorem dX4_likeQuality_44 : decode cX4_likeQuality 44 = .ok (.iconst 1, 1) := dk_4 (dk_at dksX4_likeQuality_1 20 rfl rfl)
theorem dX4_likeQuality_45 : decode cX4_likeQuality 45 = .ok (.iadd, 1) := dk_96 (dk_at dksX4_likeQuality_1 21 rfl rfl)
theorem dX4_likeQuality_46 : decode cX4_likeQuality 46 = .ok (.istore_n 3, 1) := dk_62 (dk_at dksX4_likeQuality_1 22 rfl rfl)
theorem dX4_likeQuality_47 : decode cX4_likeQuality 47 = .ok (.iinc 4 1, 3) := dk_132 4 1 (dk_at dksX4_likeQuality_2 0 rfl rfl)
theorem dX4_likeQuality_50 : decode cX4_likeQuality 50 = .ok (.goto (-43), 3) := dk_167 255 213 (dk_at dksX4_likeQuality_2 3 rfl rfl)
theorem dX4_likeQuality_53 : decode cX4_likeQuality 53 = .ok (.iconst 0, 1) := dk_3 (dk_at dksX4_likeQuality_2 6 rfl rfl)
theorem dX4_likeQuality_54 : decode cX4_likeQuality 54 = .ok (.istore 4, 2) := dk_54 4 (dk_at dksX4_likeQuality_2 7 rfl rfl)
theorem dX4_likeQuality_56 : decode cX4_likeQuality 56 = .ok (.aload_n 0, 1) := dk_42 (dk_at dksX4_likeQuality_2 9 rfl rfl)
theorem dX4_likeQuality_57 : decode cX4_likeQuality 57 = .ok (.getfield 31, 3) := dk_180 0 31 (dk_at dksX4_likeQuality_2 10 rfl rfl)
theorem dX4_likeQuality_60 : decode cX4_likeQuality 60 = .ok (.iload_n 3, 1) := dk_29 (dk_at dksX4_likeQuality_2 13 rfl rfl)
theorem dX4_likeQuality_61 : decode cX4_likeQuality 61 = .ok (.iload 4, 2) := dk_21 4 (dk_at dksX4_likeQuality_2 14 rfl rfl)
theorem dX4_likeQuality_63 : decode cX4_likeQuality 63 = .ok (.iadd, 1) := dk_96 (dk_at dksX4_likeQuality_2 16 rfl rfl)
theorem dX4_likeQuality_64 : decode cX4_likeQuality 64 = .ok (.caload, 1) := dk_52 (dk_at dksX4_likeQuality_2 17 rfl rfl)
theorem dX4_likeQuality_65 : decode cX4_likeQuality 65 = .ok (.bipush 59, 2) := dk_16 59 (dk_at dksX4_likeQuality_2 18 rfl rfl)
theorem dX4_likeQuality_67 : decode cX4_likeQuality 67 = .ok (.if_icmp .eq 32, 3) := dk_159 0 32 (dk_at dksX4_likeQuality_2 20 rfl rfl)
theorem dX4_likeQuality_70 : decode cX4_likeQuality 70 = .ok (.aload_n 0, 1) := dk_42 (dk_at dksX4_likeQuality_2 23 rfl rfl)
theorem dX4_likeQuality_71 : decode cX4_likeQuality 71 = .ok (.aload_n 0, 1) := dk_42 (dk_at dksX4_likeQuality_3 0 rfl rfl)
theorem dX4_likeQuality_72 : decode cX4_likeQuality 72 = .ok (.getfield 59, 3) := dk_180 0 59 (dk_at dksX4_likeQuality_3 1 rfl rfl)
theorem dX4_likeQuality_75 : decode cX4_likeQuality 75 = .ok (.iload 4, 2) := dk_21 4 (dk_at dksX4_likeQuality_3 4 rfl rfl)
theorem dX4_likeQuality_77 : decode cX4_likeQuality 77 = .ok (.iadd, 1) := dk_96 (dk_at dksX4_likeQuality_3 6 rfl rfl)
theorem dX4_likeQuality_78 : decode cX4_likeQuality 78 = .ok (.invokevirtual 62, 3) := dk_182 0 62 (dk_at dksX4_likeQuality_3 7 rfl rfl)
theorem dX4_likeQuality_81 : decode cX4_likeQuality 81 = .ok (.aload_n 0, 1) := dk_42 (dk_at dksX4_likeQuality_3 10 rfl rfl)
theorem dX4_likeQuality_82 : decode cX4_likeQuality 82 = .ok (.getfield 31, 3) := dk_180 0 31 (dk_at dksX4_likeQuality_3 11 rfl rfl)
theorem dX4_likeQuality_85 : decode cX4_likeQuality 85 = .ok (.iload_n 3, 1) := dk_29 (dk_at dksX4_likeQuality_3 14 rfl rfl)
theorem dX4_likeQuality_86 : decode cX4_likeQuality 86 = .ok (.iload 4, 2) := dk_21 4 (dk_at dksX4_likeQuality_3 15 rfl rfl)
theorem dX4_likeQuality_88 : decode cX4_likeQuality 88 = .ok (.iadd, 1) := dk_96 (dk_at dksX4_likeQuality_3 17 rfl rfl)
theorem dX4_likeQuality_89 : decode cX4_likeQuality 89 = .ok (.caload, 1) := dk_52 (dk_at dksX4_likeQuality_3 18 rfl rfl)
theorem dX4_likeQuality_90 : decode cX4_likeQuality 90 = .ok (.if_icmp .ne 9, 3) := dk_160 0 9 (dk_at dksX4_likeQuality_3 19 rfl rfl)
theorem dX4_likeQuality_93 : decode cX4_likeQuality 93 = .ok (.iinc 4 1, 3) := dk_132 4 1 (dk_at dksX4_likeQuality_4 0 rfl rfl)
theorem dX4_likeQuality_96 : decode cX4_likeQuality 96 = .ok (.goto (-40), 3) := dk_167 255 216 (dk_at dksX4_likeQuality_4 3 rfl rfl)
theorem dX4_likeQuality_99 : decode cX4_likeQuality 99 = .ok (.aload_n 0, 1) := dk_42 (dk_at dksX4_likeQuality_4 6 rfl rfl)
theorem dX4_likeQuality_100 : decode cX4_likeQuality 100 = .ok (.aload_n 0, 1) := dk_42 (dk_at dksX4_likeQuality_4 7 rfl rfl)
theorem dX4_likeQuality_101 : decode cX4_likeQuality 101 = .ok (.getfield 31, 3) := dk_180 0 31 (dk_at dksX4_likeQuality_4 8 rfl rfl)
theorem dX4_likeQuality_104 : decode cX4_likeQuality 104 = .ok (.iload_n 3, 1) := dk_29 (dk_at dksX4_likeQuality_4 11 rfl rfl)
theorem dX4_likeQuality_105 : decode cX4_likeQuality 105 = .ok (.iload 4, 2) := dk_21 4 (dk_at dksX4_likeQuality_4 12 rfl rfl)
theorem dX4_likeQuality_107 : decode cX4_likeQuality 107 = .ok (.iadd, 1) := dk_96 (dk_at dksX4_likeQuality_4 14 rfl rfl)
theorem dX4_likeQuality_108 : decode cX4_likeQuality 108 = .ok (.caload, 1) := dk_52 (dk_at dksX4_likeQuality_4 15 rfl rfl)
theorem dX4_likeQuality_109 : decode cX4_likeQuality 109 = .ok (.bipush 59, 2) := dk_16 59 (dk_at dksX4_likeQuality_4 16 rfl rfl)
theorem dX4_likeQuality_111 : decode cX4_likeQuality 111 = .ok (.if_icmp .ne 7, 3) := dk_160 0 7 (dk_at dksX4_likeQuality_4 18 rfl rfl)
theorem dX4_likeQuality_114 : decode cX4_likeQuality 114 = .ok (.iconst 1, 1) := dk_4 (dk_at dksX4_likeQuality_4 21 rfl rfl)
theorem dX4_likeQuality_115 : decode cX4_likeQuality 115 = .ok (.goto 4, 3) := dk_167 0 4 (dk_at dksX4_likeQuality_5 0 rfl rfl)
theorem dX4_likeQuality_118 : decode cX4_likeQuality 118 = .ok (.iconst 0, 1) := dk_3 (dk_at dksX4_likeQuality_5 3 rfl rfl)
theorem dX4_likeQuality_119 : decode cX4_likeQuality 119 = .ok (.putfield 71, 3) := dk_181 0 71 (dk_at dksX4_likeQuality_5 4 rfl rfl)
theorem dX4_likeQuality_122 : decode cX4_likeQuality 122 = .ok (.iload 4, 2) := dk_21 4 (dk_at dksX4_likeQuality_5 7 rfl rfl)
theorem dX4_likeQuality_124 : decode cX4_likeQuality 124 = .ok (.ireturn, 1) := dk_172 (dk_at dksX4_likeQuality_5 9 rfl rfl)
theorem dX4_readsChord_0 : decode cX4_readsChord 0 = .ok (.aload_n 0, 1) := dk_42 (dk_at dksX4_readsChord_0 0 rfl rfl)
theorem dX4_readsChord_1 : decode cX4_readsChord 1 = .ok (.invokevirtual 74, 3) := dk_182 0 74 (dk_at dksX4_readsChord_0 1 rfl rfl)
theorem dX4_readsChord_4 : decode cX4_readsChord 4 = .ok (.ifCond .ne 5, 3) := dk_154 0 5 (dk_at dksX4_readsChord_0 4 rfl rfl)
theorem dX4_readsChord_7 : decode cX4_readsChord 7 = .ok (.iconst 0, 1) := dk_3 (dk_at dksX4_readsChord_0 7 rfl rfl)
theorem dX4_readsChord_8 : decode cX4_readsChord 8 = .ok (.ireturn, 1) := dk_172 (dk_at dksX4_readsChord_0 8 rfl rfl)
theorem dX4_readsChord_9 : decode cX4_readsChord 9 = .ok (.aload_n 0, 1) := dk_42 (dk_at dksX4_readsChord_0 9 rfl rfl)
theorem dX4_readsChord_10 : decode cX4_readsChord 10 = .ok (.aload_n 0, 1) := dk_42 (dk_at dksX4_readsChord_0 10 rfl rfl)
theorem dX4_readsChord_11 : decode cX4_readsChord 11 = .ok (.getfield 68, 3) := dk_180 0 68 (dk_at dksX4_readsChord_0 11 rfl rfl)
theorem dX4_readsChord_14 : decode cX4_readsChord 14 = .ok (.putfield 78, 3) := dk_181 0 78 (dk_at dksX4_readsChord_0 14 rfl rfl)
theorem dX4_readsChord_17 : decode cX4_readsChord 17 = .ok (.aload_n 0, 1) := dk_42 (dk_at dksX4_readsChord_0 17 rfl rfl)
theorem dX4_readsChord_18 : decode cX4_readsChord 18 = .ok (.bipush 100, 2) := dk_16 100 (dk_at dksX4_readsChord_0 18 rfl rfl)
theorem dX4_readsChord_20 : decode cX4_readsChord 20 = .ok (.putfield 81, 3) := dk_181 0 81 (dk_at dksX4_readsChord_0 20 rfl rfl)
theorem dX4_readsChord_23 : decode cX4_readsChord 23 = .ok (.iconst 0, 1) := dk_3 (dk_at dksX4_readsChord_0 23 rfl rfl)
theorem dX4_readsChord_24 : decode cX4_readsChord 24 = .ok (.istore_n 2, 1) := dk_61 (dk_at dksX4_readsChord_1 0 rfl rfl)
theorem dX4_readsChord_25 : decode cX4_readsChord 25 = .ok (.iconst 0, 1) := dk_3 (dk_at dksX4_readsChord_1 1 rfl rfl)
theorem dX4_readsChord_26 : decode cX4_readsChord 26 = .ok (.istore_n 3, 1) := dk_62 (dk_at dksX4_readsChord_1 2 rfl rfl)
theorem dX4_readsChord_27 : decode cX4_readsChord 27 = .ok (.iconst 0, 1) := dk_3 (dk_at dksX4_readsChord_1 3 rfl rfl)
theorem dX4_readsChord_28 : decode cX4_readsChord 28 = .ok (.istore 4, 2) := dk_54 4 (dk_at dksX4_readsChord_1 4 rfl rfl)
theorem dX4_readsChord_30 : decode cX4_readsChord 30 = .ok (.iconst 0, 1) := dk_3 (dk_at dksX4_readsChord_1 6 rfl rfl)
theorem dX4_readsChord_31 : decode cX4_readsChord 31 = .ok (.istore 5, 2) := dk_54 5 (dk_at dksX4_readsChord_1 7 rfl rfl)
theorem dX4_readsChord_33 : decode cX4_readsChord 33 = .ok (.iload 5, 2) := dk_21 5 (dk_at dksX4_readsChord_1 9 rfl rfl)
theorem dX4_readsChord_35 : decode cX4_readsChord 35 = .ok (.bipush 10, 2) := dk_16 10 (dk_at dksX4_readsChord_1 11 rfl rfl)
theorem dX4_readsChord_37 : decode cX4_readsChord 37 = .ok (.if_icmp .ge 48, 3) := dk_162 0 48 (dk_at dksX4_readsChord_1 13 rfl rfl)
theorem dX4_readsChord_40 : decode cX4_readsChord 40 = .ok (.aload_n 0, 1) := dk_42 (dk_at dksX4_readsChord_1 16 rfl rfl)
theorem dX4_readsChord_41 : decode cX4_readsChord 41 = .ok (.iload 5, 2) := dk_21 5 (dk_at dksX4_readsChord_1 17 rfl rfl)
theorem dX4_readsChord_43 : decode cX4_readsChord 43 = .ok (.invokevirtual 84, 3) := dk_182 0 84 (dk_at dksX4_readsChord_1 19 rfl rfl)
theorem dX4_readsChord_46 : decode cX4_readsChord 46 = .ok (.istore 6, 2) := dk_54 6 (dk_at dksX4_readsChord_1 22 rfl rfl)
theorem dX4_readsChord_48 : decode cX4_readsChord 48 = .ok (.iload 6, 2) := dk_21 6 (dk_at dksX4_readsChord_2 0 rfl rfl)
theorem dX4_readsChord_50 : decode cX4_readsChord 50 = .ok (.iload_n 2, 1) := dk_28 (dk_at dksX4_readsChord_2 2 rfl rfl)
theorem dX4_readsChord_51 : decode cX4_readsChord 51 = .ok (.if_icmp .gt 16, 3) := dk_163 0 16 (dk_at dksX4_readsChord_2 3 rfl rfl)
theorem dX4_readsChord_54 : decode cX4_readsChord 54 = .ok (.iload 6, 2) := dk_21 6 (dk_at dksX4_readsChord_2 6 rfl rfl)
theorem dX4_readsChord_56 : decode cX4_readsChord 56 = .ok (.iload_n 2, 1) := dk_28 (dk_at dksX4_readsChord_2 8 rfl rfl)
theorem dX4_readsChord_57 : decode cX4_readsChord 57 = .ok (.if_icmp .ne 22, 3) := dk_160 0 22 (dk_at dksX4_readsChord_2 9 rfl rfl)
theorem dX4_readsChord_60 : decode cX4_readsChord 60 = .ok (.aload_n 0, 1) := dk_42 (dk_at dksX4_readsChord_2 12 rfl rfl)
theorem dX4_readsChord_61 : decode cX4_readsChord 61 = .ok (.getfield 71, 3) := dk_180 0 71 (dk_at dksX4_readsChord_2 13 rfl rfl)
theorem dX4_readsChord_64 : decode cX4_readsChord 64 = .ok (.ifCond .eq 15, 3) := dk_153 0 15 (dk_at dksX4_readsChord_2 16 rfl rfl)
theorem dX4_readsChord_67 : decode cX4_readsChord 67 = .ok (.aload_n 0, 1) := dk_42 (dk_at dksX4_readsChord_2 19 rfl rfl)
theorem dX4_readsChord_68 : decode cX4_readsChord 68 = .ok (.getfield 71, 3) := dk_180 0 71 (dk_at dksX4_readsChord_2 20 rfl rfl)
theorem dX4_readsChord_71 : decode cX4_readsChord 71 = .ok (.istore 4, 2) := dk_54 4 (dk_at dksX4_readsChord_3 0 rfl rfl)
theorem dX4_readsChord_73 : decode cX4_readsChord 73 = .ok (.iload 5, 2) := dk_21 5 (dk_at dksX4_readsChord_3 2 rfl rfl)
theorem dX4_readsChord_75 : decode cX4_readsChord 75 = .ok (.istore_n 3, 1) := dk_62 (dk_at dksX4_readsChord_3 4 rfl rfl)
theorem dX4_readsChord_76 : decode cX4_readsChord 76 = .ok (.iload 6, 2) := dk_21 6 (dk_at dksX4_readsChord_3 5 rfl rfl)
theorem dX4_readsChord_78 : decode cX4_readsChord 78 = .ok (.istore_n 2, 1) := dk_61 (dk_at dksX4_readsChord_3 7 rfl rfl)
theorem dX4_readsChord_79 : decode cX4_readsChord 79 = .ok (.iinc 5 1, 3) := dk_132 5 1 (dk_at dksX4_readsChord_3 8 rfl rfl)
theorem dX4_readsChord_82 : decode cX4_readsChord 82 = .ok (.goto (-49), 3) := dk_167 255 207 (dk_at dksX4_readsChord_3 11 rfl rfl)
theorem dX4_readsChord_85 : decode cX4_readsChord 85 = .ok (.aload_n 0, 1) := dk_42 (dk_at dksX4_readsChord_3 14 rfl rfl)
theorem dX4_readsChord_86 : decode cX4_readsChord 86 = .ok (.dup, 1) := dk_89 (dk_at dksX4_readsChord_3 15 rfl rfl)
theorem dX4_readsChord_87 : decode cX4_readsChord 87 = .ok (.getfield 59, 3) := dk_180 0 59 (dk_at dksX4_readsChord_3 16 rfl rfl)
theorem dX4_readsChord_90 : decode cX4_readsChord 90 = .ok (.iload_n 2, 1) := dk_28 (dk_at dksX4_readsChord_3 19 rfl rfl)
theorem dX4_readsChord_91 : decode cX4_readsChord 91 = .ok (.iadd, 1) := dk_96 (dk_at dksX4_readsChord_3 20 rfl rfl)
theorem dX4_readsChord_92 : decode cX4_readsChord 92 = .ok (.putfield 59, 3) := dk_181 0 59 (dk_at dksX4_readsChord_3 21 rfl rfl)
theorem dX4_readsChord_95 : decode cX4_readsChord 95 = .ok (.aload_n 0, 1) := dk_42 (dk_at dksX4_readsChord_4 0 rfl rfl)
theorem dX4_readsChord_96 : decode cX4_readsChord 96 = .ok (.iload_n 3, 1) := dk_29 (dk_at dksX4_readsChord_4 1 rfl rfl)
theorem dX4_readsChord_97 : decode cX4_readsChord 97 = .ok (.putfield 87, 3) := dk_181 0 87 (dk_at dksX4_readsChord_4 2 rfl rfl)
theorem dX4_readsChord_100 : decode cX4_readsChord 100 = .ok (.iload 4, 2) := dk_21 4 (dk_at dksX4_readsChord_4 5 rfl rfl)
theorem dX4_readsChord_102 : decode cX4_readsChord 102 = .ok (.ifCond .ne 5, 3) := dk_154 0 5 (dk_at dksX4_readsChord_4 7 rfl rfl)
theorem dX4_readsChord_105 : decode cX4_readsChord 105 = .ok (.iconst 0, 1) := dk_3 (dk_at dksX4_readsChord_4 10 rfl rfl)
theorem dX4_readsChord_106 : decode cX4_readsChord 106 = .ok (.ireturn, 1) := dk_172 (dk_at dksX4_readsChord_4 11 rfl rfl)
theorem dX4_readsChord_107 : decode cX4_readsChord 107 = .ok (.aload_n 0, 1) := dk_42 (dk_at dksX4_readsChord_4 12 rfl rfl)
theorem dX4_readsChord_108 : decode cX4_readsChord 108 = .ok (.aload_n 0, 1) := dk_42 (dk_at dksX4_readsChord_4 13 rfl rfl)
theorem dX4_readsChord_109 : decode cX4_readsChord 109 = .ok (.getfield 59, 3) := dk_180 0 59 (dk_at dksX4_readsChord_4 14 rfl rfl)
theorem dX4_readsChord_112 : decode cX4_readsChord 112 = .ok (.invokevirtual 62, 3) := dk_182 0 62 (dk_at dksX4_readsChord_4 17 rfl rfl)
theorem dX4_readsChord_115 : decode cX4_readsChord 115 = .ok (.bipush 47, 2) := dk_16 47 (dk_at dksX4_readsChord_4 20 rfl rfl)
theorem dX4_readsChord_117 : decode cX4_readsChord 117 = .ok (.if_icmp .ne 30, 3) := dk_160 0 30 (dk_at dksX4_readsChord_5 0 rfl rfl)
theorem dX4_readsChord_120 : decode cX4_readsChord 120 = .ok (.aload_n 0, 1) := dk_42 (dk_at dksX4_readsChord_5 3 rfl rfl)
theorem dX4_readsChord_121 : decode cX4_readsChord 121 = .ok (.dup, 1) := dk_89 (dk_at dksX4_readsChord_5 4 rfl rfl)
theorem dX4_readsChord_122 : decode cX4_readsChord 122 = .ok (.getfield 59, 3) := dk_180 0 59 (dk_at dksX4_readsChord_5 5 rfl rfl)
theorem dX4_readsChord_125 : decode cX4_readsChord 125 = .ok (.iconst 1, 1) := dk_4 (dk_at dksX4_readsChord_5 8 rfl rfl)
theorem dX4_readsChord_126 : decode cX4_readsChord 126 = .ok (.iadd, 1) := dk_96 (dk_at dksX4_readsChord_5 9 rfl rfl)
theorem dX4_readsChord_127 : decode cX4_readsChord 127 = .ok (.putfield 59, 3) := dk_181 0 59 (dk_at dksX4_readsChord_5 10 rfl rfl)
theorem dX4_readsChord_130 : decode cX4_readsChord 130 = .ok (.aload_n 0, 1) := dk_42 (dk_at dksX4_readsChord_5 13 rfl rfl)
theorem dX4_readsChord_131 : decode cX4_readsChord 131 = .ok (.invokevirtual 74, 3) := dk_182 0 74 (dk_at dksX4_readsChord_5 14 rfl rfl)
theorem dX4_readsChord_134 : decode cX4_readsChord 134 = .ok (.ifCond .ne 5, 3) := dk_154 0 5 (dk_at dksX4_readsChord_5 17 rfl rfl)
theorem dX4_readsChord_137 : decode cX4_readsChord 137 = .ok (.iconst 0, 1) := dk_3 (dk_at dksX4_readsChord_5 20 rfl rfl)
theorem dX4_readsChord_138 : decode cX4_readsChord 138 = .ok (.ireturn, 1) := dk_172 (dk_at dksX4_readsChord_5 21 rfl rfl)
theorem dX4_readsChord_139 : decode cX4_readsChord 139 = .ok (.aload_n 0, 1) := dk_42 (dk_at dksX4_readsChord_5 22 rfl rfl)
theorem dX4_readsChord_140 : decode cX4_readsChord 140 = .ok (.aload_n 0, 1) := dk_42 (dk_at dksX4_readsChord_5 23 rfl rfl)
theorem dX4_readsChord_141 : decode cX4_readsChord 141 = .ok (.getfield 68, 3) := dk_180 0 68 (dk_at dksX4_readsChord_6 0 rfl rfl)
theorem dX4_readsChord_144 : decode cX4_readsChord 144 = .ok (.putfield 81, 3) := dk_181 0 81 (dk_at dksX4_readsChord_6 3 rfl rfl)
theorem dX4_readsChord_147 : decode cX4_readsChord 147 = .ok (.aload_n 0, 1) := dk_42 (dk_at dksX4_readsChord_6 6 rfl rfl)
theorem dX4_readsChord_148 : decode cX4_readsChord 148 = .ok (.aload_n 0, 1) := dk_42 (dk_at dksX4_readsChord_6 7 rfl rfl)
theorem dX4_readsChord_149 : decode cX4_readsChord 149 = .ok (.getfield 59, 3) := dk_180 0 59 (dk_at dksX4_readsChord_6 8 rfl rfl)
theorem dX4_readsChord_152 : decode cX4_readsChord 152 = .ok (.invokevirtual 62, 3) := dk_182 0 62 (dk_at dksX4_readsChord_6 11 rfl rfl)
theorem dX4_readsChord_155 : decode cX4_readsChord 155 = .ok (.iload_n 1, 1) := dk_27 (dk_at dksX4_readsChord_6 14 rfl rfl)
theorem dX4_readsChord_156 : decode cX4_readsChord 156 = .ok (.if_icmp .ne 7, 3) := dk_160 0 7 (dk_at dksX4_readsChord_6 15 rfl rfl)
theorem dX4_readsChord_159 : decode cX4_readsChord 159 = .ok (.iconst 1, 1) := dk_4 (dk_at dksX4_readsChord_6 18 rfl rfl)
theorem dX4_readsChord_160 : decode cX4_readsChord 160 = .ok (.goto 4, 3) := dk_167 0 4 (dk_at dksX4_readsChord_6 19 rfl rfl)
theorem dX4_readsChord_163 : decode cX4_readsChord 163 = .ok (.iconst 0, 1) := dk_3 (dk_at dksX4_readsChord_6 22 rfl rfl)
theorem dX4_readsChord_164 : decode cX4_readsChord 164 = .ok (.ireturn, 1) := dk_172 (dk_at dksX4_readsChord_6 23 rfl rfl)
theorem q2092 : (Jvm.Cond.fieldLink "ChordSheetModel" (31 : Nat) "ChordSheetModel" "qualities" "[C") ∈ lw_all := lw_g (lw_at lw_m9 110 rfl) rfl
theorem q2093 : (Jvm.Cond.fieldLink "ChordSheetModel" (59 : Nat) "ChordSheetModel" "at" "I") ∈ lw_all := lw_g (lw_at lw_m9 111 rfl) rfl
theorem q2094 : (Jvm.Cond.fieldLink "ChordSheetModel" (68 : Nat) "ChordSheetModel" "note" "I") ∈ lw_all := lw_g (lw_at lw_m9 112 rfl) rfl
theorem q2095 : (Jvm.Cond.fieldLink "ChordSheetModel" (78 : Nat) "ChordSheetModel" "readRoot" "I") ∈ lw_all := lw_g (lw_at lw_m9 113 rfl) rfl
theorem q2096 : (Jvm.Cond.fieldLink "ChordSheetModel" (87 : Nat) "ChordSheetModel" "readQuality" "I") ∈ lw_all := lw_g (lw_at lw_m9 114 rfl) rfl
theorem q2097 : (Jvm.Cond.fieldLink "ChordSheetModel" (81 : Nat) "ChordSheetModel" "readBass" "I") ∈ lw_all := lw_g (lw_at lw_m9 115 rfl) rfl
theorem q2098 : (Jvm.Cond.fieldLink "ChordSheetModel" (71 : Nat) "ChordSheetModel" "isWhole" "Z") ∈ lw_all := lw_g (lw_at lw_m9 116 rfl) rfl
theorem q2183 : (Jvm.Cond.methodLink "ChordSheetModel" (62 : Nat) ({ cls := "ChordSheetModel", name := "sign", desc := "(I)I" } : Jvm.MethodName)) ∈ lw_all := lw_g (lw_at lw_m9 201 rfl) rfl
theorem q2185 : (Jvm.Cond.instanceMethod ({ cls := "ChordSheetModel", name := "sign", desc := "(I)I" } : Jvm.MethodName)) ∈ lw_all := lw_g (lw_at lw_m9 203 rfl) rfl
theorem q2186 : (Jvm.Cond.code ({ cls := "ChordSheetModel", name := "sign", desc := "(I)I" } : Jvm.MethodName) prog_11_method_10_code (2 : Nat) (Option.some Jvm.ClassFile.FieldType.int)) ∈ lw_all := lw_g (lw_at lw_m9 204 rfl) rfl
theorem q2191 : (Jvm.Cond.methodLink "ChordSheetModel" (74 : Nat) ({ cls := "ChordSheetModel", name := "readsNote", desc := "()Z" } : Jvm.MethodName)) ∈ lw_all := lw_g (lw_at lw_m9 209 rfl) rfl
theorem q2193 : (Jvm.Cond.instanceMethod ({ cls := "ChordSheetModel", name := "readsNote", desc := "()Z" } : Jvm.MethodName)) ∈ lw_all := lw_g (lw_at lw_m9 211 rfl) rfl
theorem q2194 : (Jvm.Cond.code ({ cls := "ChordSheetModel", name := "readsNote", desc := "()Z" } : Jvm.MethodName) prog_11_method_11_code (1 : Nat) (Option.some Jvm.ClassFile.FieldType.boolean)) ∈ lw_all := lw_g (lw_at lw_m9 212 rfl) rfl
theorem q2195 : (Jvm.Cond.methodLink "ChordSheetModel" (65 : Nat) ({ cls := "ChordSheetModel", name := "placeOf", desc := "(I)I" } : Jvm.MethodName)) ∈ lw_all := lw_g (lw_at lw_m9 213 rfl) rfl
theorem q2197 : (Jvm.Cond.instanceMethod ({ cls := "ChordSheetModel", name := "placeOf", desc := "(I)I" } : Jvm.MethodName)) ∈ lw_all := lw_g (lw_at lw_m9 215 rfl) rfl
theorem q2198 : (Jvm.Cond.code ({ cls := "ChordSheetModel", name := "placeOf", desc := "(I)I" } : Jvm.MethodName) prog_11_method_9_code (3 : Nat) (Option.some Jvm.ClassFile.FieldType.int)) ∈ lw_all := lw_g (lw_at lw_m9 216 rfl) rfl
theorem q2199 : (Jvm.Cond.methodLink "ChordSheetModel" (84 : Nat) ({ cls := "ChordSheetModel", name := "likeQuality", desc := "(I)I" } : Jvm.MethodName)) ∈ lw_all := lw_g (lw_at lw_m9 217 rfl) rfl
theorem q2201 : (Jvm.Cond.instanceMethod ({ cls := "ChordSheetModel", name := "likeQuality", desc := "(I)I" } : Jvm.MethodName)) ∈ lw_all := lw_g (lw_at lw_m9 219 rfl) rfl
theorem q2202 : (Jvm.Cond.code ({ cls := "ChordSheetModel", name := "likeQuality", desc := "(I)I" } : Jvm.MethodName) prog_11_method_12_code (5 : Nat) (Option.some Jvm.ClassFile.FieldType.int)) ∈ lw_all := lw_g (lw_at lw_m9 220 rfl) rfl
theorem rn_y {T : List Int} (hT : ∀ c ∈ T, 32 ≤ c ∧ c ≤ 126) {p : Int} (hp : 0 ≤ p) : (nok T p → plc (sga T p) = zix LTR (tch T p) - 1) ∧ (¬ nok T p → plc (sga T p) = 100) ∧ (nok T p → plc (sga T p) ≠ 100) := by
  have hz := zixL_r (tch T p)
  by_cases h : p < (T.length : Nat)
  · have e : sga T p = tch T p := by
      unfold sga tch lch
      rw [if_pos h, if_pos h]
    rw [e]
    refine ⟨fun n => ?_, fun n => ?_, fun n => ?_⟩
    · unfold plc; rw [if_pos n.2]
    · unfold plc; rw [if_neg fun z => n ⟨h, z⟩]
    · unfold plc; rw [if_pos n.2]; omega
  · have e : sga T p = -1 := by unfold sga; rw [if_neg h]
    rw [e]
    exact ⟨fun n => absurd n.1 h, fun _ => by decide, fun n => absurd n.1 h⟩
/-- the two ways to look at a place of the text -/
theorem sga_t {T : List Int} (p c : Int) (hc : c ≠ 0 ∧ c ≠ -1) : sga T p = c ↔ tch T p = c := by
  unfold sga tch lch
  by_cases h : p < (T.length : Nat)
  · rw [if_pos h, if_pos h]
  · rw [if_neg h, if_neg h]; omega
theorem sga_e {T : List Int} (hT : ∀ c ∈ T, 32 ≤ c ∧ c ≤ 126) (p : Int) (hp : 0 ≤ p ∧ p ≤ (T.length : Nat)) : sga T p = -1 ↔ p = (T.length : Nat) := by
  unfold sga
  by_cases h : p < (T.length : Nat)
  · rw [if_pos h]
    have := hT _ (List.mem_of_getElem? (lch_at ⟨hp.1, h⟩))
    omega
  · rw [if_neg h]; omega
theorem npl_s {T : List Int} {p : Int} : nsg T p = (if sga T (p + 1) = 35 then 7 else if sga T (p + 1) = 98 then -7 else 0) := by
  unfold nsg
  have h1 := sga_t (T := T) (p + 1) 35 (by decide)
  have h2 := sga_t (T := T) (p + 1) 98 (by decide)
  by_cases a : sga T (p + 1) = 35
  · rw [if_pos a, if_pos (h1.mp a)]
  · rw [if_neg a, if_neg (fun z => a (h1.mpr z))]
    by_cases b : sga T (p + 1) = 98
    · rw [if_pos b, if_pos (h2.mp b)]
    · rw [if_neg b, if_neg (fun z => b (h2.mpr z))]
theorem nen_s {T : List Int} {p : Int} : nen T p = p + 1 + if sga T (p + 1) = 35 ∨ sga T (p + 1) = 98 then 1 else 0 := by
  unfold nen
  have h1 := sga_t (T := T) (p + 1) 35 (by decide)
  have h2 := sga_t (T := T) (p + 1) 98 (by decide)
  by_cases c : sga T (p + 1) = 35 ∨ sga T (p + 1) = 98
  · rw [if_pos c, if_pos (by omega)]
  · rw [if_neg c, if_neg (by omega)]
def qbg (q : Nat) : Nat := [0, 1, 3, 5, 8, 13, 17, 21, 26, 28].getD q 0
def qcn (k : Nat) : Nat := ((QLM.take k).filter (fun c => c == 59)).length
theorem qcn_s : ∀ k, k < 30 → qcn (k + 1) = qcn k + (if qaF k = 59 then 1 else 0) := by decide
theorem qbg_s : ∀ q, q < 10 → ∀ k, k < 31 → (k ≤ qbg q → qcn k < q → k + 1 ≤ qbg q) ∧ (k ≤ qbg q → ¬ qcn k < q → k = qbg q) ∧ (30 ≤ k → ¬ k ≤ qbg q) := by decide
theorem qcn_le : ∀ k, k < 31 → qcn k ≤ 20 := by decide
theorem qbg_le : ∀ q, q < 10 → qbg q ≤ 28 := by decide
theorem qbl_le : ∀ q : Nat, q < 10 → qbg q + (qlt (q : Nat)).length ≤ 29 := by decide
theorem qq_at : ∀ q : Nat, q < 10 → ∀ l : Nat, l < 5 → (l < (qlt (q : Nat)).length → (qlt (q : Nat))[l]? = some (qaF (qbg q + l)) ∧ qaF (qbg q + l) ≠ 59) ∧ (l = (qlt (q : Nat)).length → qaF (qbg q + l) = 59) ∧ (qlt (q : Nat)).length ≤ 4 := by decide
theorem qaF_r : ∀ k, k < 40 → 0 ≤ qaF k ∧ qaF k ≤ 126 := by decide
theorem lkq_st {T : List Int} (hT : ∀ c ∈ T, 32 ≤ c ∧ c ≤ 126) {q p l v : Int} (hp : 0 ≤ p) (hl : 0 ≤ l ∧ l.toNat ≤ (qlt q).length ∧ l.toNat ≤ lcp (qlt q) (T.drop p.toNat)) (h1 : l.toNat < (qlt q).length → (qlt q)[l.toNat]? = some v ∧ v ≠ 59) (h2 : l.toNat = (qlt q).length → v = 59) (hv : v ≠ 59 ∧ 0 ≤ v) (he : sga T (p + l) = v) : 0 ≤ l + 1 ∧ (l + 1).toNat ≤ (qlt q).length ∧ (l + 1).toNat ≤ lcp (qlt q) (T.drop p.toNat) := by
  have hlt : l.toNat < (qlt q).length := by
    rcases Nat.lt_or_ge l.toNat (qlt q).length with g | g
    · exact g
    · exact absurd (h2 (by omega)) hv.1
  have hpl : p + l < (T.length : Nat) := by
    refine Classical.byContradiction fun z => ?_
    unfold sga at he
    rw [if_neg z] at he
    omega
  have hs : T[(p + l).toNat]? = some v := by
    have := lch_at (T := T) (k := p + l) ⟨by omega, hpl⟩
    unfold sga at he
    rw [if_pos hpl] at he
    rw [this, he]
  have hd : (T.drop p.toNat)[l.toNat]? = some v := by
    rw [List.getElem?_drop, ← hs]
    congr 1
    omega
  have := (lcp_step (qlt q) (T.drop p.toNat) l.toNat v v (h1 hlt).1 hd hl.2.2).1 rfl
  exact ⟨by omega, by omega, by rw [show (l + 1).toNat = l.toNat + 1 by omega]; exact this⟩
theorem lkq_en {T : List Int} {q p l v : Int} (hp : 0 ≤ p) (hl : 0 ≤ l ∧ l.toNat ≤ (qlt q).length ∧ l.toNat ≤ lcp (qlt q) (T.drop p.toNat)) (h1 : l.toNat < (qlt q).length → (qlt q)[l.toNat]? = some v ∧ v ≠ 59) (h2 : l.toNat = (qlt q).length → v = 59) (he : v = 59 ∨ sga T (p + l) ≠ v) : l = (lcp (qlt q) (T.drop p.toNat) : Nat) := by
  have hle := lcp_le1 (qlt q) (T.drop p.toNat)
  have hle2 := lcp_le2 (qlt q) (T.drop p.toNat)
  rcases Nat.lt_or_ge l.toNat (qlt q).length with g | g
  · have hv := h1 g
    have hne : sga T (p + l) ≠ v := he.resolve_left hv.2
    refine Classical.byContradiction fun z => ?_
    have hlt : l.toNat < lcp (qlt q) (T.drop p.toNat) := by omega
    have hlen : l.toNat < (T.drop p.toNat).length := by omega
    have hpl : p + l < (T.length : Nat) := by rw [List.length_drop] at hlen; omega
    have hs := lch_at (T := T) (k := p + l) ⟨by omega, hpl⟩
    have hd : (T.drop p.toNat)[l.toNat]? = some (lch T (p + l)) := by
      rw [List.getElem?_drop, ← hs]
      congr 1
      omega
    have e : sga T (p + l) = lch T (p + l) := by unfold sga; rw [if_pos hpl]
    have := (lcp_step (qlt q) (T.drop p.toNat) l.toNat v (lch T (p + l)) hv.1 hd (by omega)).2 (fun z => hne (by rw [e, z]))
    omega
  · omega
theorem lcp_full : ∀ (q t : List Int), q.length ≤ lcp q t → t.take q.length = q := by
  intro q
  induction q with
  | nil => intro t _; rfl
  | cons a r ih =>
    intro t h
    cases t with
    | nil => simp [lcp] at h
    | cons b s =>
      simp only [lcp, List.length_cons] at h
      by_cases e : a = b
      · rw [if_pos e] at h
        rw [List.length_cons, List.take_succ_cons, ih s (by omega), e]
      · rw [if_neg e] at h; omega
theorem qlt_ij : ∀ a : Nat, a < 10 → ∀ b : Nat, b < 10 → qlt (a : Nat) = qlt (b : Nat) → a = b := by decide
theorem qcd_u {t : List Int} {a b : Int} (ha : 0 ≤ a ∧ a ≤ 9) (hb : 0 ≤ b ∧ b ≤ 9) (h1 : qcd t a) (h2 : qcd t b) : a = b := by
  have e1 := lcp_full _ _ h1.2
  have e2 := lcp_full _ _ h2.2
  rw [h1.1] at e1
  rw [h2.1] at e2
  have := qlt_ij a.toNat (by omega) b.toNat (by omega) (by rw [show ((a.toNat : Nat) : Int) = a by omega, show ((b.toNat : Nat) : Int) = b by omega, ← e1, ← e2])
  omega
theorem qfg_y {t : List Int} {b : Int} (hb : 0 ≤ b ∧ b ≤ 9) (h : qcd t b) : ∀ (f : Nat) (i : Int), 0 ≤ i → i ≤ b → b < i + (f : Nat) → i + (f : Nat) ≤ 10 → qfg t f i = b := by
  intro f
  induction f with
  | zero => intro i h1 h2 h3; omega
  | succ f ih =>
    intro i h1 h2 h3 h4
    simp only [qfg]
    by_cases c : qcd t i
    · rw [if_pos c]; exact qcd_u (by omega) hb c h
    · rw [if_neg c]
      have hne : i ≠ b := fun e => c (e ▸ h)
      exact ih (i + 1) (by omega) (by omega) (by omega) (by omega)
theorem qfg_z {t : List Int} (h : ∀ q : Nat, q < 10 → ¬ qcd t (q : Nat)) : ∀ (f : Nat) (i : Int), 0 ≤ i → i + (f : Nat) ≤ 10 → qfg t f i = -1 := by
  intro f
  induction f with
  | zero => intro i _ _; rfl
  | succ f ih =>
    intro i h1 h2
    simp only [qfg]
    have := h i.toNat (by omega)
    rw [show ((i.toNat : Nat) : Int) = i by omega] at this
    rw [if_neg this]
    exact ih (i + 1) (by omega) (by omega)
/-- the best quality so far -/
def rcB (t : List Int) (k : Int) (has best : Int) : Prop := (has = 1 ∧ 0 ≤ best ∧ best < k ∧ (qlt best).length = qmxk t k.toNat ∧ (qlt best).length ≤ lcp (qlt best) t) ∨ (has = 0 ∧ 0 ≤ best ∧ best ≤ 9 ∧ ∀ q : Nat, (q : Int) < k → ¬ ((qlt (q : Nat)).length = qmxk t k.toNat ∧ (qlt (q : Nat)).length ≤ lcp (qlt (q : Nat)) t))
theorem rc_s {t : List Int} {k : Int} (hk : 0 ≤ k) : qmxk t (k + 1).toNat = max (qmxk t k.toNat) (lcp (qlt k) t) := by
  rw [show (k + 1).toNat = k.toNat + 1 by omega, qmxk, show ((k.toNat : Nat) : Int) = k by omega]
theorem rc_l (t : List Int) : ∀ (k : Nat) (q : Nat), q < k → lcp (qlt (q : Nat)) t ≤ qmxk t k := by
  intro k
  induction k with
  | zero => intro q h; omega
  | succ k ih =>
    intro q h
    simp only [qmxk]
    rcases Nat.lt_or_ge q k with g | g
    · have := ih q g; omega
    · rw [show q = k by omega]; omega
theorem rc_up {t : List Int} {k has best : Int} (hk : 0 ≤ k ∧ k ≤ 9) (h : rcB t k has best) (hl : qmxk t k.toNat < lcp (qlt k) t ∨ (lcp (qlt k) t = qmxk t k.toNat ∧ (qlt k).length ≤ lcp (qlt k) t)) : rcB t (k + 1) (if (qlt k).length ≤ lcp (qlt k) t then 1 else 0) k := by
  have hm := rc_s (t := t) hk.1
  have hle := lcp_le1 (qlt k) t
  by_cases c : (qlt k).length ≤ lcp (qlt k) t
  · rw [if_pos c]
    exact Or.inl ⟨rfl, hk.1, by omega, by omega, c⟩
  · rw [if_neg c]
    refine Or.inr ⟨rfl, hk.1, hk.2, fun q hq z => ?_⟩
    rcases (show (q : Int) < k ∨ (q : Int) = k by omega) with g | g
    · have := rc_l t k.toNat q (by omega)
      omega
    · rw [g] at z; exact c z.2
theorem rc_no {t : List Int} {k has best : Int} (hk : 0 ≤ k ∧ k ≤ 9) (h : rcB t k has best) (h1 : ¬ qmxk t k.toNat < lcp (qlt k) t) (h2 : ¬ (lcp (qlt k) t = qmxk t k.toNat ∧ (qlt k).length ≤ lcp (qlt k) t)) : rcB t (k + 1) has best ∧ qmxk t (k + 1).toNat = qmxk t k.toNat := by
  have hm := rc_s (t := t) hk.1
  have hmm : qmxk t (k + 1).toNat = qmxk t k.toNat := by omega
  refine ⟨?_, hmm⟩
  have hle := lcp_le1 (qlt k) t
  rcases h with ⟨a1, a2, a3, a4, a5⟩ | ⟨a1, a2, a3, a4⟩
  · exact Or.inl ⟨a1, a2, by omega, by omega, a5⟩
  · refine Or.inr ⟨a1, a2, a3, fun q hq z => ?_⟩
    rw [hmm] at z
    rcases (show (q : Int) < k ∨ (q : Int) = k by omega) with g | g
    · exact a4 q g z
    · rw [g] at z; exact h2 ⟨by omega, z.2⟩
theorem rc_e1 {t : List Int} {best : Int} (h : rcB t 10 1 best) : qfd t = best ∧ 0 ≤ best ∧ best ≤ 9 := by
  rcases h with ⟨-, a2, a3, a4, a5⟩ | ⟨a1, -⟩
  · exact ⟨qfg_y ⟨a2, by omega⟩ ⟨a4, a5⟩ 10 0 (by decide) a2 (by omega) (by decide), a2, by omega⟩
  · cases a1
theorem rc_e0 {t : List Int} {best : Int} (h : rcB t 10 0 best) : qfd t = -1 := by
  rcases h with ⟨a1, -⟩ | ⟨-, -, -, a4⟩
  · cases a1
  · exact qfg_z (fun q hq z => a4 q (by omega) z) 10 0 (by decide) (by decide)
theorem rc_h {t : List Int} {k has best : Int} (h : rcB t k has best) : has = 0 ∨ has = 1 := by
  rcases h with ⟨a, -⟩ | ⟨a, -⟩
  · exact Or.inr a
  · exact Or.inl a
theorem end_c {T : List Int} (hT : ∀ c ∈ T, 32 ≤ c ∧ c ≤ 126) {e e' x : Int} (he : (e = 0 ∧ e' = -1) ∨ (e = 93 ∧ e' = 93)) (hx : 0 ≤ x ∧ x ≤ (T.length : Nat)) : sga T x = e' ↔ ((e = 0 ∧ x = (T.length : Nat)) ∨ (e ≠ 0 ∧ x < (T.length : Nat) ∧ tch T x = e)) := by
  rcases he with ⟨e1, e2⟩ | ⟨e1, e2⟩
  · subst e1 e2
    rw [sga_e hT x hx]
    omega
  · subst e1 e2
    rw [sga_t x 93 (by decide)]
    constructor
    · intro z
      refine Or.inr ⟨by decide, Classical.byContradiction fun y => ?_, z⟩
      unfold tch at z
      rw [if_neg y] at z
      omega
    · intro z; omega
set_option maxHeartbeats 4000000 in
theorem m_note {l : Launch} (hl : l.stackTraces = false) {Γ : zCx} {h : zH} {tq : List Int} {A : zMA} {st si ff wd th ap nt rr rq rb wh nd up lo : Int} {V P T M N U W : Nat → Int} (hM : mM h A st ((tq.length : Nat) : Int) si ff wd th ap nt rr rq rb wh nd up lo V P T M N U W) (htq : txA tq T) (hTr : ∀ c ∈ tq, 32 ≤ c ∧ c ≤ 126) (hTl : tq.length ≤ 200) (hap : 0 ≤ ap ∧ ap ≤ 500)  : zMet l yX4_readsNote (ws_ yX4_readsNote cX4_readsNote 1 (some .boolean)) ({ frames := 1, cells := 0, slots := 0, locals := 22 }) Γ h [.ref A.m] (zrt (fun w h' => (((nok tq ap) ∧ w = some (.int (iI (1))) ∧ mM h' A st ((tq.length : Nat) : Int) si ff wd th (nen tq ap) (npl tq ap) rr rq rb wh nd up lo V P T M N U W) ∨ ((¬ nok tq ap) ∧ w = some (.int (iI (0))) ∧ mM h' A st ((tq.length : Nat) : Int) si ff wd th ap 100 rr rq rb wh nd up lo V P T M N U W)) ∧ zkeep h h' [A.m, A.v, A.pa, A.tx, A.ma, A.na, A.ua, A.la])) 0 0 := by
  refine zMet.of (cc := cX4_readsNote) hl (plainFor_of_name (by decide +kernel)) (Nat.le_of_ble_eq_true rfl) ?_
  intro X hXl hXΓ hXp C hnm hnL
  have C : zC X cX4_readsNote RX4 (some .boolean) 1 22 [] := C
  have hnL : X.2.1.2.2.2.2 = 1 := hnL
  subst hXl hXΓ
  show Z X h 0 0 [(0, .ref A.m)] 0 []
  obtain ⟨gm_1, gv_1, gpa_1, gtx_1, gma_1, gna_1, gua_1, gla_1, gle_1, gqa_1, gd_1⟩ := id hM
  have hrn := rn_y hTr (p := ap) (by omega)
  have hzx := zixL_r (tch tq ap)
  refine z_aload_n (pc := 0) (j := 0) C dX4_readsNote_0 rfl rfl ?_
  refine z_aload_n (pc := 1) (j := 0) C dX4_readsNote_1 rfl rfl ?_
  refine z_aload_n (pc := 2) (j := 0) C dX4_readsNote_2 rfl rfl ?_
  refine z_aload_n (pc := 3) (j := 0) C dX4_readsNote_3 rfl rfl ?_
  refine z_getfield (pc := 4) (v := .int (iI ap)) C in_X4 rfl 11 (by decide) q2093 (fun _ z => z) gm_1 rfl dX4_readsNote_4 ?_
  refine z_callV (pc := 7) (n := 1) (kc' := 0) (ks' := 0) C (m_sign C.t ⟨gm_1, gv_1, gpa_1, gtx_1, gma_1, gna_1, gua_1, gla_1, gle_1, gqa_1, gd_1⟩ htq hTr hTl (i := ap) (by omega)) (lw_V q2183 q2185 qs29 q74 q2186) (by decide +kernel) ⟨by decide, by decide⟩ gm_1 rfl rfl rfl (Nat.le_of_ble_eq_true rfl) dX4_readsNote_7 (by omega) (by omega) (zpk (st' := [.int (iI (sga tq ap)), .ref A.m, .ref A.m]) rfl ?_) zrx
  have hsg10 := sga_r hTr (i := ap) (by omega)
  refine z_callV (pc := 10) (n := 1) (kc' := 0) (ks' := 0) C (m_place C.t ⟨gm_1, gv_1, gpa_1, gtx_1, gma_1, gna_1, gua_1, gla_1, gle_1, gqa_1, gd_1⟩ (c := sga tq ap) (by omega)) (lw_V q2195 q2197 qs32 q74 q2198) (by decide +kernel) ⟨by decide, by decide⟩ gm_1 rfl rfl rfl (Nat.le_of_ble_eq_true rfl) dX4_readsNote_10 (by omega) (by omega) (zpk (st' := [.int (iI (plc (sga tq ap))), .ref A.m]) rfl ?_) zrx
  refine z_putfield (pc := 13) (fs' := [.ref A.v, .ref A.pa, .int (iI st), .ref A.tx, .int (iI ((tq.length : Nat) : Int)), .int (iI si), .int (iI ff), .int (iI wd), .int (iI th), .ref A.le, .ref A.qa, .int (iI ap), .int (iI (plc (sga tq ap))), .int (iI rr), .int (iI rq), .int (iI rb), .int (iI wh), .ref A.ma, .ref A.na, .int (iI nd), .ref A.ua, .ref A.la, .int (iI up), .int (iI lo)]) C in_X4 tyX4 tyX4_ok nmX4 rfl 12 (by decide) q2094 (fun _ z => z) rfl rfl rfl (Nat.le_of_ble_eq_true rfl) gm_1 rfl dX4_readsNote_13 ?_
  refine Z.nm (fun h2 eh2 => ?_)
  have kh2 : zkeep h h2 [A.m, A.v, A.pa, A.tx, A.ma, A.na, A.ua, A.la] := by rw [eh2]; exact zkeep.up zkeep.rf (Or.inl (by simp)) gm_1
  have fh2_0 : h2 A.m = some (true, .inr (3, [.ref A.v, .ref A.pa, .int (iI st), .ref A.tx, .int (iI ((tq.length : Nat) : Int)), .int (iI si), .int (iI ff), .int (iI wd), .int (iI th), .ref A.le, .ref A.qa, .int (iI ap), .int (iI (plc (sga tq ap))), .int (iI rr), .int (iI rq), .int (iI rb), .int (iI wh), .ref A.ma, .ref A.na, .int (iI nd), .ref A.ua, .ref A.la, .int (iI up), .int (iI lo)])) := zse eh2
  have fh2_1 : h2 A.v = some (true, .inl (.int, 620, (mA V))) := zsn eh2 gv_1 (Ne.symm (zneA gm_1 gv_1))
  have fh2_2 : h2 A.pa = some (true, .inl (.int, 4960, (mA P))) := zsn eh2 gpa_1 (Ne.symm (zneA gm_1 gpa_1))
  have fh2_3 : h2 A.tx = some (true, .inl (.int, 200, (mA T))) := zsn eh2 gtx_1 (Ne.symm (zneA gm_1 gtx_1))
  have fh2_4 : h2 A.ma = some (true, .inl (.int, 620, (mA M))) := zsn eh2 gma_1 (Ne.symm (zneA gm_1 gma_1))
  have fh2_5 : h2 A.na = some (true, .inl (.int, 20, (mA N))) := zsn eh2 gna_1 (Ne.symm (zneA gm_1 gna_1))
  have fh2_6 : h2 A.ua = some (true, .inl (.int, 1200, (mA U))) := zsn eh2 gua_1 (Ne.symm (zneA gm_1 gua_1))
  have fh2_7 : h2 A.la = some (true, .inl (.int, 1200, (mA W))) := zsn eh2 gla_1 (Ne.symm (zneA gm_1 gla_1))
  have hpr : -1000 ≤ plc (sga tq ap) ∧ plc (sga tq ap) ≤ 1000 := by unfold plc; have := zixL_r (sga tq ap); split <;> omega
  refine z_aload_n (pc := 16) (j := 0) C dX4_readsNote_16 rfl rfl ?_
  refine z_getfield (pc := 17) (v := .int (iI (plc (sga tq ap)))) C in_X4 rfl 12 (by decide) q2094 (fun _ z => z) fh2_0 rfl dX4_readsNote_17 ?_
  refine z_bipush (pc := 20) C dX4_readsNote_20 (by decide) ?_
  refine z_icmp_ne (pc := 22) (tgt := 27) C dX4_readsNote_22 (by decide) (by omega) (by decide) (fun c22 => ?_) (fun c22 => ?_)
  · refine z_aload_n (pc := 27) (j := 0) C dX4_readsNote_27 rfl rfl ?_
    refine z_dup (pc := 28) C dX4_readsNote_28 rfl ?_
    refine z_getfield (pc := 29) (v := .int (iI ap)) C in_X4 rfl 11 (by decide) q2093 (fun _ z => z) fh2_0 rfl dX4_readsNote_29 ?_
    refine z_iconst (pc := 32) C dX4_readsNote_32 ?_
    refine z_iadd (pc := 33) C dX4_readsNote_33 ?_
    refine z_putfield (pc := 34) (fs' := [.ref A.v, .ref A.pa, .int (iI st), .ref A.tx, .int (iI ((tq.length : Nat) : Int)), .int (iI si), .int (iI ff), .int (iI wd), .int (iI th), .ref A.le, .ref A.qa, .int (iI (ap + 1)), .int (iI (plc (sga tq ap))), .int (iI rr), .int (iI rq), .int (iI rb), .int (iI wh), .ref A.ma, .ref A.na, .int (iI nd), .ref A.ua, .ref A.la, .int (iI up), .int (iI lo)]) C in_X4 tyX4 tyX4_ok nmX4 rfl 11 (by decide) q2093 (fun _ z => z) rfl rfl rfl (Nat.le_of_ble_eq_true rfl) fh2_0 rfl dX4_readsNote_34 ?_
    refine Z.nm (fun h3 eh3 => ?_)
    have kh3 : zkeep h h3 [A.m, A.v, A.pa, A.tx, A.ma, A.na, A.ua, A.la] := by rw [eh3]; exact zkeep.up kh2 (Or.inl (by simp)) fh2_0
    have fh3_0 : h3 A.m = some (true, .inr (3, [.ref A.v, .ref A.pa, .int (iI st), .ref A.tx, .int (iI ((tq.length : Nat) : Int)), .int (iI si), .int (iI ff), .int (iI wd), .int (iI th), .ref A.le, .ref A.qa, .int (iI (ap + 1)), .int (iI (plc (sga tq ap))), .int (iI rr), .int (iI rq), .int (iI rb), .int (iI wh), .ref A.ma, .ref A.na, .int (iI nd), .ref A.ua, .ref A.la, .int (iI up), .int (iI lo)])) := zse eh3
    have fh3_1 : h3 A.v = some (true, .inl (.int, 620, (mA V))) := zsn eh3 fh2_1 (Ne.symm (zneA fh2_0 fh2_1))
    have fh3_2 : h3 A.pa = some (true, .inl (.int, 4960, (mA P))) := zsn eh3 fh2_2 (Ne.symm (zneA fh2_0 fh2_2))
    have fh3_3 : h3 A.tx = some (true, .inl (.int, 200, (mA T))) := zsn eh3 fh2_3 (Ne.symm (zneA fh2_0 fh2_3))
    have fh3_4 : h3 A.ma = some (true, .inl (.int, 620, (mA M))) := zsn eh3 fh2_4 (Ne.symm (zneA fh2_0 fh2_4))
    have fh3_5 : h3 A.na = some (true, .inl (.int, 20, (mA N))) := zsn eh3 fh2_5 (Ne.symm (zneA fh2_0 fh2_5))
    have fh3_6 : h3 A.ua = some (true, .inl (.int, 1200, (mA U))) := zsn eh3 fh2_6 (Ne.symm (zneA fh2_0 fh2_6))
    have fh3_7 : h3 A.la = some (true, .inl (.int, 1200, (mA W))) := zsn eh3 fh2_7 (Ne.symm (zneA fh2_0 fh2_7))
    refine z_aload_n (pc := 37) (j := 0) C dX4_readsNote_37 rfl rfl ?_
    refine z_aload_n (pc := 38) (j := 0) C dX4_readsNote_38 rfl rfl ?_
    refine z_getfield (pc := 39) (v := .int (iI (ap + 1))) C in_X4 rfl 11 (by decide) q2093 (fun _ z => z) fh3_0 rfl dX4_readsNote_39 ?_
    refine z_callV (pc := 42) (n := 1) (kc' := 0) (ks' := 0) C (m_sign C.t ⟨fh3_0, fh3_1, fh3_2, fh3_3, fh3_4, fh3_5, fh3_6, fh3_7, (kh3.n gle_1 (List.not_mem_cons_of_ne_of_not_mem (Ne.symm (zneA gm_1 gle_1)) (List.not_mem_cons_of_ne_of_not_mem (zneT gle_1 gv_1 (by simp)) (List.not_mem_cons_of_ne_of_not_mem (zneT gle_1 gpa_1 (by simp)) (List.not_mem_cons_of_ne_of_not_mem (zneT gle_1 gtx_1 (by simp)) (List.not_mem_cons_of_ne_of_not_mem (zneT gle_1 gma_1 (by simp)) (List.not_mem_cons_of_ne_of_not_mem (zneT gle_1 gna_1 (by simp)) (List.not_mem_cons_of_ne_of_not_mem (zneT gle_1 gua_1 (by simp)) (List.not_mem_cons_of_ne_of_not_mem (zneT gle_1 gla_1 (by simp)) List.not_mem_nil))))))))), (kh3.n gqa_1 (List.not_mem_cons_of_ne_of_not_mem (Ne.symm (zneA gm_1 gqa_1)) (List.not_mem_cons_of_ne_of_not_mem (zneT gqa_1 gv_1 (by simp)) (List.not_mem_cons_of_ne_of_not_mem (zneT gqa_1 gpa_1 (by simp)) (List.not_mem_cons_of_ne_of_not_mem (zneT gqa_1 gtx_1 (by simp)) (List.not_mem_cons_of_ne_of_not_mem (zneT gqa_1 gma_1 (by simp)) (List.not_mem_cons_of_ne_of_not_mem (zneT gqa_1 gna_1 (by simp)) (List.not_mem_cons_of_ne_of_not_mem (zneT gqa_1 gua_1 (by simp)) (List.not_mem_cons_of_ne_of_not_mem (zneT gqa_1 gla_1 (by simp)) List.not_mem_nil))))))))), gd_1⟩ htq hTr hTl (i := ap + 1) (by omega)) (lw_V q2183 q2185 qs29 q74 q2186) (by decide +kernel) ⟨by decide, by decide⟩ fh3_0 rfl rfl rfl (Nat.le_of_ble_eq_true rfl) dX4_readsNote_42 (by omega) (by omega) (zpk (st' := [.int (iI (sga tq (ap + 1)))]) rfl ?_) zrx
    have hsg45 := sga_r hTr (i := ap + 1) (by omega)
    refine z_bipush (pc := 45) C dX4_readsNote_45 (by decide) ?_
    refine z_icmp_eq (pc := 47) (tgt := 63) C dX4_readsNote_47 (by decide) (by omega) (by decide) (fun c47 => ?_) (fun c47 => ?_)
    · refine z_aload_n (pc := 63) (j := 0) C dX4_readsNote_63 rfl rfl ?_
      refine z_dup (pc := 64) C dX4_readsNote_64 rfl ?_
      refine z_getfield (pc := 65) (v := .int (iI (plc (sga tq ap)))) C in_X4 rfl 12 (by decide) q2094 (fun _ z => z) fh3_0 rfl dX4_readsNote_65 ?_
      refine z_aload_n (pc := 68) (j := 0) C dX4_readsNote_68 rfl rfl ?_
      refine z_aload_n (pc := 69) (j := 0) C dX4_readsNote_69 rfl rfl ?_
      refine z_getfield (pc := 70) (v := .int (iI (ap + 1))) C in_X4 rfl 11 (by decide) q2093 (fun _ z => z) fh3_0 rfl dX4_readsNote_70 ?_
      refine z_callV (pc := 73) (n := 1) (kc' := 0) (ks' := 0) C (m_sign C.t ⟨fh3_0, fh3_1, fh3_2, fh3_3, fh3_4, fh3_5, fh3_6, fh3_7, (kh3.n gle_1 (List.not_mem_cons_of_ne_of_not_mem (Ne.symm (zneA gm_1 gle_1)) (List.not_mem_cons_of_ne_of_not_mem (zneT gle_1 gv_1 (by simp)) (List.not_mem_cons_of_ne_of_not_mem (zneT gle_1 gpa_1 (by simp)) (List.not_mem_cons_of_ne_of_not_mem (zneT gle_1 gtx_1 (by simp)) (List.not_mem_cons_of_ne_of_not_mem (zneT gle_1 gma_1 (by simp)) (List.not_mem_cons_of_ne_of_not_mem (zneT gle_1 gna_1 (by simp)) (List.not_mem_cons_of_ne_of_not_mem (zneT gle_1 gua_1 (by simp)) (List.not_mem_cons_of_ne_of_not_mem (zneT gle_1 gla_1 (by simp)) List.not_mem_nil))))))))), (kh3.n gqa_1 (List.not_mem_cons_of_ne_of_not_mem (Ne.symm (zneA gm_1 gqa_1)) (List.not_mem_cons_of_ne_of_not_mem (zneT gqa_1 gv_1 (by simp)) (List.not_mem_cons_of_ne_of_not_mem (zneT gqa_1 gpa_1 (by simp)) (List.not_mem_cons_of_ne_of_not_mem (zneT gqa_1 gtx_1 (by simp)) (List.not_mem_cons_of_ne_of_not_mem (zneT gqa_1 gma_1 (by simp)) (List.not_mem_cons_of_ne_of_not_mem (zneT gqa_1 gna_1 (by simp)) (List.not_mem_cons_of_ne_of_not_mem (zneT gqa_1 gua_1 (by simp)) (List.not_mem_cons_of_ne_of_not_mem (zneT gqa_1 gla_1 (by simp)) List.not_mem_nil))))))))), gd_1⟩ htq hTr hTl (i := ap + 1) (by omega)) (lw_V q2183 q2185 qs29 q74 q2186) (by decide +kernel) ⟨by decide, by decide⟩ fh3_0 rfl rfl rfl (Nat.le_of_ble_eq_true rfl) dX4_readsNote_73 (by omega) (by omega) (zpk (st' := [.int (iI (sga tq (ap + 1))), .int (iI (plc (sga tq ap))), .ref A.m]) rfl ?_) zrx
      have hsg76 := sga_r hTr (i := ap + 1) (by omega)
      refine z_bipush (pc := 76) C dX4_readsNote_76 (by decide) ?_
      refine z_icmp_ne (pc := 78) (tgt := 86) C dX4_readsNote_78 (by decide) (by omega) (by decide) (fun c78 => ?_) (fun c78 => ?_)
      · refine z_bipush (pc := 86) C dX4_readsNote_86 (by decide) ?_
        refine z_iadd (pc := 88) C dX4_readsNote_88 ?_
        refine z_putfield (pc := 89) (fs' := [.ref A.v, .ref A.pa, .int (iI st), .ref A.tx, .int (iI ((tq.length : Nat) : Int)), .int (iI si), .int (iI ff), .int (iI wd), .int (iI th), .ref A.le, .ref A.qa, .int (iI (ap + 1)), .int (iI ((plc (sga tq ap)) + (-7))), .int (iI rr), .int (iI rq), .int (iI rb), .int (iI wh), .ref A.ma, .ref A.na, .int (iI nd), .ref A.ua, .ref A.la, .int (iI up), .int (iI lo)]) C in_X4 tyX4 tyX4_ok nmX4 rfl 12 (by decide) q2094 (fun _ z => z) rfl rfl rfl (Nat.le_of_ble_eq_true rfl) fh3_0 rfl dX4_readsNote_89 ?_
        refine Z.nm (fun h4 eh4 => ?_)
        have kh4 : zkeep h h4 [A.m, A.v, A.pa, A.tx, A.ma, A.na, A.ua, A.la] := by rw [eh4]; exact zkeep.up kh3 (Or.inl (by simp)) fh3_0
        have fh4_0 : h4 A.m = some (true, .inr (3, [.ref A.v, .ref A.pa, .int (iI st), .ref A.tx, .int (iI ((tq.length : Nat) : Int)), .int (iI si), .int (iI ff), .int (iI wd), .int (iI th), .ref A.le, .ref A.qa, .int (iI (ap + 1)), .int (iI ((plc (sga tq ap)) + (-7))), .int (iI rr), .int (iI rq), .int (iI rb), .int (iI wh), .ref A.ma, .ref A.na, .int (iI nd), .ref A.ua, .ref A.la, .int (iI up), .int (iI lo)])) := zse eh4
        have fh4_1 : h4 A.v = some (true, .inl (.int, 620, (mA V))) := zsn eh4 fh3_1 (Ne.symm (zneA fh3_0 fh3_1))
        have fh4_2 : h4 A.pa = some (true, .inl (.int, 4960, (mA P))) := zsn eh4 fh3_2 (Ne.symm (zneA fh3_0 fh3_2))
        have fh4_3 : h4 A.tx = some (true, .inl (.int, 200, (mA T))) := zsn eh4 fh3_3 (Ne.symm (zneA fh3_0 fh3_3))
        have fh4_4 : h4 A.ma = some (true, .inl (.int, 620, (mA M))) := zsn eh4 fh3_4 (Ne.symm (zneA fh3_0 fh3_4))
        have fh4_5 : h4 A.na = some (true, .inl (.int, 20, (mA N))) := zsn eh4 fh3_5 (Ne.symm (zneA fh3_0 fh3_5))
        have fh4_6 : h4 A.ua = some (true, .inl (.int, 1200, (mA U))) := zsn eh4 fh3_6 (Ne.symm (zneA fh3_0 fh3_6))
        have fh4_7 : h4 A.la = some (true, .inl (.int, 1200, (mA W))) := zsn eh4 fh3_7 (Ne.symm (zneA fh3_0 fh3_7))
        refine z_aload_n (pc := 92) (j := 0) C dX4_readsNote_92 rfl rfl ?_
        refine z_dup (pc := 93) C dX4_readsNote_93 rfl ?_
        refine z_getfield (pc := 94) (v := .int (iI (ap + 1))) C in_X4 rfl 11 (by decide) q2093 (fun _ z => z) fh4_0 rfl dX4_readsNote_94 ?_
        refine z_iconst (pc := 97) C dX4_readsNote_97 ?_
        refine z_iadd (pc := 98) C dX4_readsNote_98 ?_
        refine z_putfield (pc := 99) (fs' := [.ref A.v, .ref A.pa, .int (iI st), .ref A.tx, .int (iI ((tq.length : Nat) : Int)), .int (iI si), .int (iI ff), .int (iI wd), .int (iI th), .ref A.le, .ref A.qa, .int (iI ((ap + 1) + 1)), .int (iI ((plc (sga tq ap)) + (-7))), .int (iI rr), .int (iI rq), .int (iI rb), .int (iI wh), .ref A.ma, .ref A.na, .int (iI nd), .ref A.ua, .ref A.la, .int (iI up), .int (iI lo)]) C in_X4 tyX4 tyX4_ok nmX4 rfl 11 (by decide) q2093 (fun _ z => z) rfl rfl rfl (Nat.le_of_ble_eq_true rfl) fh4_0 rfl dX4_readsNote_99 ?_
        refine Z.nm (fun h5 eh5 => ?_)
        have kh5 : zkeep h h5 [A.m, A.v, A.pa, A.tx, A.ma, A.na, A.ua, A.la] := by rw [eh5]; exact zkeep.up kh4 (Or.inl (by simp)) fh4_0
        have fh5_0 : h5 A.m = some (true, .inr (3, [.ref A.v, .ref A.pa, .int (iI st), .ref A.tx, .int (iI ((tq.length : Nat) : Int)), .int (iI si), .int (iI ff), .int (iI wd), .int (iI th), .ref A.le, .ref A.qa, .int (iI ((ap + 1) + 1)), .int (iI ((plc (sga tq ap)) + (-7))), .int (iI rr), .int (iI rq), .int (iI rb), .int (iI wh), .ref A.ma, .ref A.na, .int (iI nd), .ref A.ua, .ref A.la, .int (iI up), .int (iI lo)])) := zse eh5
        have fh5_1 : h5 A.v = some (true, .inl (.int, 620, (mA V))) := zsn eh5 fh4_1 (Ne.symm (zneA fh4_0 fh4_1))
        have fh5_2 : h5 A.pa = some (true, .inl (.int, 4960, (mA P))) := zsn eh5 fh4_2 (Ne.symm (zneA fh4_0 fh4_2))
        have fh5_3 : h5 A.tx = some (true, .inl (.int, 200, (mA T))) := zsn eh5 fh4_3 (Ne.symm (zneA fh4_0 fh4_3))
        have fh5_4 : h5 A.ma = some (true, .inl (.int, 620, (mA M))) := zsn eh5 fh4_4 (Ne.symm (zneA fh4_0 fh4_4))
        have fh5_5 : h5 A.na = some (true, .inl (.int, 20, (mA N))) := zsn eh5 fh4_5 (Ne.symm (zneA fh4_0 fh4_5))
        have fh5_6 : h5 A.ua = some (true, .inl (.int, 1200, (mA U))) := zsn eh5 fh4_6 (Ne.symm (zneA fh4_0 fh4_6))
        have fh5_7 : h5 A.la = some (true, .inl (.int, 1200, (mA W))) := zsn eh5 fh4_7 (Ne.symm (zneA fh4_0 fh4_7))
        refine z_iconst (pc := 102) C dX4_readsNote_102 ?_
        have hyn : nok tq ap := Classical.byContradiction fun z => by have := hrn.2.1 z; omega
        have hy1 := hrn.1 hyn
        have e1 : ((ap + 1) + 1 : Int) = nen tq ap := by rw [nen_s]; split <;> omega
        have e2 : ((plc (sga tq ap)) + (-7) : Int) = npl tq ap := by unfold npl; rw [npl_s, ← hy1]; (repeat' split) <;> omega
        have gz6 : h5 A.m = some (true, .inr (3, [.ref A.v, .ref A.pa, .int (iI st), .ref A.tx, .int (iI ((tq.length : Nat) : Int)), .int (iI si), .int (iI ff), .int (iI wd), .int (iI th), .ref A.le, .ref A.qa, .int (iI (nen tq ap)), .int (iI (npl tq ap)), .int (iI rr), .int (iI rq), .int (iI rb), .int (iI wh), .ref A.ma, .ref A.na, .int (iI nd), .ref A.ua, .ref A.la, .int (iI up), .int (iI lo)])) := e1 ▸ e2 ▸ fh5_0
        exact z_zreturn (pc := 103) C (by decide) (by rw [hXp]; exact ⟨_, rfl, Or.inl ⟨hyn, rfl, ⟨gz6, fh5_1, fh5_2, fh5_3, fh5_4, fh5_5, fh5_6, fh5_7, (kh5.n gle_1 (List.not_mem_cons_of_ne_of_not_mem (Ne.symm (zneA gm_1 gle_1)) (List.not_mem_cons_of_ne_of_not_mem (zneT gle_1 gv_1 (by simp)) (List.not_mem_cons_of_ne_of_not_mem (zneT gle_1 gpa_1 (by simp)) (List.not_mem_cons_of_ne_of_not_mem (zneT gle_1 gtx_1 (by simp)) (List.not_mem_cons_of_ne_of_not_mem (zneT gle_1 gma_1 (by simp)) (List.not_mem_cons_of_ne_of_not_mem (zneT gle_1 gna_1 (by simp)) (List.not_mem_cons_of_ne_of_not_mem (zneT gle_1 gua_1 (by simp)) (List.not_mem_cons_of_ne_of_not_mem (zneT gle_1 gla_1 (by simp)) List.not_mem_nil))))))))), (kh5.n gqa_1 (List.not_mem_cons_of_ne_of_not_mem (Ne.symm (zneA gm_1 gqa_1)) (List.not_mem_cons_of_ne_of_not_mem (zneT gqa_1 gv_1 (by simp)) (List.not_mem_cons_of_ne_of_not_mem (zneT gqa_1 gpa_1 (by simp)) (List.not_mem_cons_of_ne_of_not_mem (zneT gqa_1 gtx_1 (by simp)) (List.not_mem_cons_of_ne_of_not_mem (zneT gqa_1 gma_1 (by simp)) (List.not_mem_cons_of_ne_of_not_mem (zneT gqa_1 gna_1 (by simp)) (List.not_mem_cons_of_ne_of_not_mem (zneT gqa_1 gua_1 (by simp)) (List.not_mem_cons_of_ne_of_not_mem (zneT gqa_1 gla_1 (by simp)) List.not_mem_nil))))))))), gd_1⟩⟩, kh5⟩) dX4_readsNote_103
      · refine z_bipush (pc := 81) C dX4_readsNote_81 (by decide) ?_
        refine z_goto (pc := 83) (tgt := 88) C dX4_readsNote_83 (by decide) ?_
        refine z_iadd (pc := 88) C dX4_readsNote_88 ?_
        refine z_putfield (pc := 89) (fs' := [.ref A.v, .ref A.pa, .int (iI st), .ref A.tx, .int (iI ((tq.length : Nat) : Int)), .int (iI si), .int (iI ff), .int (iI wd), .int (iI th), .ref A.le, .ref A.qa, .int (iI (ap + 1)), .int (iI ((plc (sga tq ap)) + 7)), .int (iI rr), .int (iI rq), .int (iI rb), .int (iI wh), .ref A.ma, .ref A.na, .int (iI nd), .ref A.ua, .ref A.la, .int (iI up), .int (iI lo)]) C in_X4 tyX4 tyX4_ok nmX4 rfl 12 (by decide) q2094 (fun _ z => z) rfl rfl rfl (Nat.le_of_ble_eq_true rfl) fh3_0 rfl dX4_readsNote_89 ?_
        refine Z.nm (fun h7 eh7 => ?_)
        have kh7 : zkeep h h7 [A.m, A.v, A.pa, A.tx, A.ma, A.na, A.ua, A.la] := by rw [eh7]; exact zkeep.up kh3 (Or.inl (by simp)) fh3_0
        have fh7_0 : h7 A.m = some (true, .inr (3, [.ref A.v, .ref A.pa, .int (iI st), .ref A.tx, .int (iI ((tq.length : Nat) : Int)), .int (iI si), .int (iI ff), .int (iI wd), .int (iI th), .ref A.le, .ref A.qa, .int (iI (ap + 1)), .int (iI ((plc (sga tq ap)) + 7)), .int (iI rr), .int (iI rq), .int (iI rb), .int (iI wh), .ref A.ma, .ref A.na, .int (iI nd), .ref A.ua, .ref A.la, .int (iI up), .int (iI lo)])) := zse eh7
        have fh7_1 : h7 A.v = some (true, .inl (.int, 620, (mA V))) := zsn eh7 fh3_1 (Ne.symm (zneA fh3_0 fh3_1))
        have fh7_2 : h7 A.pa = some (true, .inl (.int, 4960, (mA P))) := zsn eh7 fh3_2 (Ne.symm (zneA fh3_0 fh3_2))
        have fh7_3 : h7 A.tx = some (true, .inl (.int, 200, (mA T))) := zsn eh7 fh3_3 (Ne.symm (zneA fh3_0 fh3_3))
        have fh7_4 : h7 A.ma = some (true, .inl (.int, 620, (mA M))) := zsn eh7 fh3_4 (Ne.symm (zneA fh3_0 fh3_4))
        have fh7_5 : h7 A.na = some (true, .inl (.int, 20, (mA N))) := zsn eh7 fh3_5 (Ne.symm (zneA fh3_0 fh3_5))
        have fh7_6 : h7 A.ua = some (true, .inl (.int, 1200, (mA U))) := zsn eh7 fh3_6 (Ne.symm (zneA fh3_0 fh3_6))
        have fh7_7 : h7 A.la = some (true, .inl (.int, 1200, (mA W))) := zsn eh7 fh3_7 (Ne.symm (zneA fh3_0 fh3_7))
        refine z_aload_n (pc := 92) (j := 0) C dX4_readsNote_92 rfl rfl ?_
        refine z_dup (pc := 93) C dX4_readsNote_93 rfl ?_
        refine z_getfield (pc := 94) (v := .int (iI (ap + 1))) C in_X4 rfl 11 (by decide) q2093 (fun _ z => z) fh7_0 rfl dX4_readsNote_94 ?_
        refine z_iconst (pc := 97) C dX4_readsNote_97 ?_
        refine z_iadd (pc := 98) C dX4_readsNote_98 ?_
        refine z_putfield (pc := 99) (fs' := [.ref A.v, .ref A.pa, .int (iI st), .ref A.tx, .int (iI ((tq.length : Nat) : Int)), .int (iI si), .int (iI ff), .int (iI wd), .int (iI th), .ref A.le, .ref A.qa, .int (iI ((ap + 1) + 1)), .int (iI ((plc (sga tq ap)) + 7)), .int (iI rr), .int (iI rq), .int (iI rb), .int (iI wh), .ref A.ma, .ref A.na, .int (iI nd), .ref A.ua, .ref A.la, .int (iI up), .int (iI lo)]) C in_X4 tyX4 tyX4_ok nmX4 rfl 11 (by decide) q2093 (fun _ z => z) rfl rfl rfl (Nat.le_of_ble_eq_true rfl) fh7_0 rfl dX4_readsNote_99 ?_
        refine Z.nm (fun h8 eh8 => ?_)
        have kh8 : zkeep h h8 [A.m, A.v, A.pa, A.tx, A.ma, A.na, A.ua, A.la] := by rw [eh8]; exact zkeep.up kh7 (Or.inl (by simp)) fh7_0
        have fh8_0 : h8 A.m = some (true, .inr (3, [.ref A.v, .ref A.pa, .int (iI st), .ref A.tx, .int (iI ((tq.length : Nat) : Int)), .int (iI si), .int (iI ff), .int (iI wd), .int (iI th), .ref A.le, .ref A.qa, .int (iI ((ap + 1) + 1)), .int (iI ((plc (sga tq ap)) + 7)), .int (iI rr), .int (iI rq), .int (iI rb), .int (iI wh), .ref A.ma, .ref A.na, .int (iI nd), .ref A.ua, .ref A.la, .int (iI up), .int (iI lo)])) := zse eh8
        have fh8_1 : h8 A.v = some (true, .inl (.int, 620, (mA V))) := zsn eh8 fh7_1 (Ne.symm (zneA fh7_0 fh7_1))
        have fh8_2 : h8 A.pa = some (true, .inl (.int, 4960, (mA P))) := zsn eh8 fh7_2 (Ne.symm (zneA fh7_0 fh7_2))
        have fh8_3 : h8 A.tx = some (true, .inl (.int, 200, (mA T))) := zsn eh8 fh7_3 (Ne.symm (zneA fh7_0 fh7_3))
        have fh8_4 : h8 A.ma = some (true, .inl (.int, 620, (mA M))) := zsn eh8 fh7_4 (Ne.symm (zneA fh7_0 fh7_4))
        have fh8_5 : h8 A.na = some (true, .inl (.int, 20, (mA N))) := zsn eh8 fh7_5 (Ne.symm (zneA fh7_0 fh7_5))
        have fh8_6 : h8 A.ua = some (true, .inl (.int, 1200, (mA U))) := zsn eh8 fh7_6 (Ne.symm (zneA fh7_0 fh7_6))
        have fh8_7 : h8 A.la = some (true, .inl (.int, 1200, (mA W))) := zsn eh8 fh7_7 (Ne.symm (zneA fh7_0 fh7_7))
        refine z_iconst (pc := 102) C dX4_readsNote_102 ?_
        have hyn : nok tq ap := Classical.byContradiction fun z => by have := hrn.2.1 z; omega
        have hy1 := hrn.1 hyn
        have e1 : ((ap + 1) + 1 : Int) = nen tq ap := by rw [nen_s]; split <;> omega
        have e2 : ((plc (sga tq ap)) + 7 : Int) = npl tq ap := by unfold npl; rw [npl_s, ← hy1]; (repeat' split) <;> omega
        have gz9 : h8 A.m = some (true, .inr (3, [.ref A.v, .ref A.pa, .int (iI st), .ref A.tx, .int (iI ((tq.length : Nat) : Int)), .int (iI si), .int (iI ff), .int (iI wd), .int (iI th), .ref A.le, .ref A.qa, .int (iI (nen tq ap)), .int (iI (npl tq ap)), .int (iI rr), .int (iI rq), .int (iI rb), .int (iI wh), .ref A.ma, .ref A.na, .int (iI nd), .ref A.ua, .ref A.la, .int (iI up), .int (iI lo)])) := e1 ▸ e2 ▸ fh8_0
        exact z_zreturn (pc := 103) C (by decide) (by rw [hXp]; exact ⟨_, rfl, Or.inl ⟨hyn, rfl, ⟨gz9, fh8_1, fh8_2, fh8_3, fh8_4, fh8_5, fh8_6, fh8_7, (kh8.n gle_1 (List.not_mem_cons_of_ne_of_not_mem (Ne.symm (zneA gm_1 gle_1)) (List.not_mem_cons_of_ne_of_not_mem (zneT gle_1 gv_1 (by simp)) (List.not_mem_cons_of_ne_of_not_mem (zneT gle_1 gpa_1 (by simp)) (List.not_mem_cons_of_ne_of_not_mem (zneT gle_1 gtx_1 (by simp)) (List.not_mem_cons_of_ne_of_not_mem (zneT gle_1 gma_1 (by simp)) (List.not_mem_cons_of_ne_of_not_mem (zneT gle_1 gna_1 (by simp)) (List.not_mem_cons_of_ne_of_not_mem (zneT gle_1 gua_1 (by simp)) (List.not_mem_cons_of_ne_of_not_mem (zneT gle_1 gla_1 (by simp)) List.not_mem_nil))))))))), (kh8.n gqa_1 (List.not_mem_cons_of_ne_of_not_mem (Ne.symm (zneA gm_1 gqa_1)) (List.not_mem_cons_of_ne_of_not_mem (zneT gqa_1 gv_1 (by simp)) (List.not_mem_cons_of_ne_of_not_mem (zneT gqa_1 gpa_1 (by simp)) (List.not_mem_cons_of_ne_of_not_mem (zneT gqa_1 gtx_1 (by simp)) (List.not_mem_cons_of_ne_of_not_mem (zneT gqa_1 gma_1 (by simp)) (List.not_mem_cons_of_ne_of_not_mem (zneT gqa_1 gna_1 (by simp)) (List.not_mem_cons_of_ne_of_not_mem (zneT gqa_1 gua_1 (by simp)) (List.not_mem_cons_of_ne_of_not_mem (zneT gqa_1 gla_1 (by simp)) List.not_mem_nil))))))))), gd_1⟩⟩, kh8⟩) dX4_readsNote_103
    · refine z_aload_n (pc := 50) (j := 0) C dX4_readsNote_50 rfl rfl ?_
      refine z_aload_n (pc := 51) (j := 0) C dX4_readsNote_51 rfl rfl ?_
      refine z_getfield (pc := 52) (v := .int (iI (ap + 1))) C in_X4 rfl 11 (by decide) q2093 (fun _ z => z) fh3_0 rfl dX4_readsNote_52 ?_
      refine z_callV (pc := 55) (n := 1) (kc' := 0) (ks' := 0) C (m_sign C.t ⟨fh3_0, fh3_1, fh3_2, fh3_3, fh3_4, fh3_5, fh3_6, fh3_7, (kh3.n gle_1 (List.not_mem_cons_of_ne_of_not_mem (Ne.symm (zneA gm_1 gle_1)) (List.not_mem_cons_of_ne_of_not_mem (zneT gle_1 gv_1 (by simp)) (List.not_mem_cons_of_ne_of_not_mem (zneT gle_1 gpa_1 (by simp)) (List.not_mem_cons_of_ne_of_not_mem (zneT gle_1 gtx_1 (by simp)) (List.not_mem_cons_of_ne_of_not_mem (zneT gle_1 gma_1 (by simp)) (List.not_mem_cons_of_ne_of_not_mem (zneT gle_1 gna_1 (by simp)) (List.not_mem_cons_of_ne_of_not_mem (zneT gle_1 gua_1 (by simp)) (List.not_mem_cons_of_ne_of_not_mem (zneT gle_1 gla_1 (by simp)) List.not_mem_nil))))))))), (kh3.n gqa_1 (List.not_mem_cons_of_ne_of_not_mem (Ne.symm (zneA gm_1 gqa_1)) (List.not_mem_cons_of_ne_of_not_mem (zneT gqa_1 gv_1 (by simp)) (List.not_mem_cons_of_ne_of_not_mem (zneT gqa_1 gpa_1 (by simp)) (List.not_mem_cons_of_ne_of_not_mem (zneT gqa_1 gtx_1 (by simp)) (List.not_mem_cons_of_ne_of_not_mem (zneT gqa_1 gma_1 (by simp)) (List.not_mem_cons_of_ne_of_not_mem (zneT gqa_1 gna_1 (by simp)) (List.not_mem_cons_of_ne_of_not_mem (zneT gqa_1 gua_1 (by simp)) (List.not_mem_cons_of_ne_of_not_mem (zneT gqa_1 gla_1 (by simp)) List.not_mem_nil))))))))), gd_1⟩ htq hTr hTl (i := ap + 1) (by omega)) (lw_V q2183 q2185 qs29 q74 q2186) (by decide +kernel) ⟨by decide, by decide⟩ fh3_0 rfl rfl rfl (Nat.le_of_ble_eq_true rfl) dX4_readsNote_55 (by omega) (by omega) (zpk (st' := [.int (iI (sga tq (ap + 1)))]) rfl ?_) zrx
      have hsg58 := sga_r hTr (i := ap + 1) (by omega)
      refine z_bipush (pc := 58) C dX4_readsNote_58 (by decide) ?_
      refine z_icmp_ne (pc := 60) (tgt := 102) C dX4_readsNote_60 (by decide) (by omega) (by decide) (fun c60 => ?_) (fun c60 => ?_)
      · refine z_iconst (pc := 102) C dX4_readsNote_102 ?_
        have hyn : nok tq ap := Classical.byContradiction fun z => by have := hrn.2.1 z; omega
        have hy1 := hrn.1 hyn
        have e1 : (ap + 1 : Int) = nen tq ap := by rw [nen_s]; split <;> omega
        have e2 : (plc (sga tq ap) : Int) = npl tq ap := by unfold npl; rw [npl_s, ← hy1]; (repeat' split) <;> omega
        have gz10 : h3 A.m = some (true, .inr (3, [.ref A.v, .ref A.pa, .int (iI st), .ref A.tx, .int (iI ((tq.length : Nat) : Int)), .int (iI si), .int (iI ff), .int (iI wd), .int (iI th), .ref A.le, .ref A.qa, .int (iI (nen tq ap)), .int (iI (npl tq ap)), .int (iI rr), .int (iI rq), .int (iI rb), .int (iI wh), .ref A.ma, .ref A.na, .int (iI nd), .ref A.ua, .ref A.la, .int (iI up), .int (iI lo)])) := e1 ▸ e2 ▸ fh3_0
        exact z_zreturn (pc := 103) C (by decide) (by rw [hXp]; exact ⟨_, rfl, Or.inl ⟨hyn, rfl, ⟨gz10, fh3_1, fh3_2, fh3_3, fh3_4, fh3_5, fh3_6, fh3_7, (kh3.n gle_1 (List.not_mem_cons_of_ne_of_not_mem (Ne.symm (zneA gm_1 gle_1)) (List.not_mem_cons_of_ne_of_not_mem (zneT gle_1 gv_1 (by simp)) (List.not_mem_cons_of_ne_of_not_mem (zneT gle_1 gpa_1 (by simp)) (List.not_mem_cons_of_ne_of_not_mem (zneT gle_1 gtx_1 (by simp)) (List.not_mem_cons_of_ne_of_not_mem (zneT gle_1 gma_1 (by simp)) (List.not_mem_cons_of_ne_of_not_mem (zneT gle_1 gna_1 (by simp)) (List.not_mem_cons_of_ne_of_not_mem (zneT gle_1 gua_1 (by simp)) (List.not_mem_cons_of_ne_of_not_mem (zneT gle_1 gla_1 (by simp)) List.not_mem_nil))))))))), (kh3.n gqa_1 (List.not_mem_cons_of_ne_of_not_mem (Ne.symm (zneA gm_1 gqa_1)) (List.not_mem_cons_of_ne_of_not_mem (zneT gqa_1 gv_1 (by simp)) (List.not_mem_cons_of_ne_of_not_mem (zneT gqa_1 gpa_1 (by simp)) (List.not_mem_cons_of_ne_of_not_mem (zneT gqa_1 gtx_1 (by simp)) (List.not_mem_cons_of_ne_of_not_mem (zneT gqa_1 gma_1 (by simp)) (List.not_mem_cons_of_ne_of_not_mem (zneT gqa_1 gna_1 (by simp)) (List.not_mem_cons_of_ne_of_not_mem (zneT gqa_1 gua_1 (by simp)) (List.not_mem_cons_of_ne_of_not_mem (zneT gqa_1 gla_1 (by simp)) List.not_mem_nil))))))))), gd_1⟩⟩, kh3⟩) dX4_readsNote_103
      · refine z_aload_n (pc := 63) (j := 0) C dX4_readsNote_63 rfl rfl ?_
        refine z_dup (pc := 64) C dX4_readsNote_64 rfl ?_
        refine z_getfield (pc := 65) (v := .int (iI (plc (sga tq ap)))) C in_X4 rfl 12 (by decide) q2094 (fun _ z => z) fh3_0 rfl dX4_readsNote_65 ?_
        refine z_aload_n (pc := 68) (j := 0) C dX4_readsNote_68 rfl rfl ?_
        refine z_aload_n (pc := 69) (j := 0) C dX4_readsNote_69 rfl rfl ?_
        refine z_getfield (pc := 70) (v := .int (iI (ap + 1))) C in_X4 rfl 11 (by decide) q2093 (fun _ z => z) fh3_0 rfl dX4_readsNote_70 ?_
        refine z_callV (pc := 73) (n := 1) (kc' := 0) (ks' := 0) C (m_sign C.t ⟨fh3_0, fh3_1, fh3_2, fh3_3, fh3_4, fh3_5, fh3_6, fh3_7, (kh3.n gle_1 (List.not_mem_cons_of_ne_of_not_mem (Ne.symm (zneA gm_1 gle_1)) (List.not_mem_cons_of_ne_of_not_mem (zneT gle_1 gv_1 (by simp)) (List.not_mem_cons_of_ne_of_not_mem (zneT gle_1 gpa_1 (by simp)) (List.not_mem_cons_of_ne_of_not_mem (zneT gle_1 gtx_1 (by simp)) (List.not_mem_cons_of_ne_of_not_mem (zneT gle_1 gma_1 (by simp)) (List.not_mem_cons_of_ne_of_not_mem (zneT gle_1 gna_1 (by simp)) (List.not_mem_cons_of_ne_of_not_mem (zneT gle_1 gua_1 (by simp)) (List.not_mem_cons_of_ne_of_not_mem (zneT gle_1 gla_1 (by simp)) List.not_mem_nil))))))))), (kh3.n gqa_1 (List.not_mem_cons_of_ne_of_not_mem (Ne.symm (zneA gm_1 gqa_1)) (List.not_mem_cons_of_ne_of_not_mem (zneT gqa_1 gv_1 (by simp)) (List.not_mem_cons_of_ne_of_not_mem (zneT gqa_1 gpa_1 (by simp)) (List.not_mem_cons_of_ne_of_not_mem (zneT gqa_1 gtx_1 (by simp)) (List.not_mem_cons_of_ne_of_not_mem (zneT gqa_1 gma_1 (by simp)) (List.not_mem_cons_of_ne_of_not_mem (zneT gqa_1 gna_1 (by simp)) (List.not_mem_cons_of_ne_of_not_mem (zneT gqa_1 gua_1 (by simp)) (List.not_mem_cons_of_ne_of_not_mem (zneT gqa_1 gla_1 (by simp)) List.not_mem_nil))))))))), gd_1⟩ htq hTr hTl (i := ap + 1) (by omega)) (lw_V q2183 q2185 qs29 q74 q2186) (by decide +kernel) ⟨by decide, by decide⟩ fh3_0 rfl rfl rfl (Nat.le_of_ble_eq_true rfl) dX4_readsNote_73 (by omega) (by omega) (zpk (st' := [.int (iI (sga tq (ap + 1))), .int (iI (plc (sga tq ap))), .ref A.m]) rfl ?_) zrx
        have hsg76 := sga_r hTr (i := ap + 1) (by omega)
        refine z_bipush (pc := 76) C dX4_readsNote_76 (by decide) ?_
        refine z_icmp_ne (pc := 78) (tgt := 86) C dX4_readsNote_78 (by decide) (by omega) (by decide) (fun c78 => ?_) (fun c78 => ?_)
        · refine z_bipush (pc := 86) C dX4_readsNote_86 (by decide) ?_
          refine z_iadd (pc := 88) C dX4_readsNote_88 ?_
          refine z_putfield (pc := 89) (fs' := [.ref A.v, .ref A.pa, .int (iI st), .ref A.tx, .int (iI ((tq.length : Nat) : Int)), .int (iI si), .int (iI ff), .int (iI wd), .int (iI th), .ref A.le, .ref A.qa, .int (iI (ap + 1)), .int (iI ((plc (sga tq ap)) + (-7))), .int (iI rr), .int (iI rq), .int (iI rb), .int (iI wh), .ref A.ma, .ref A.na, .int (iI nd), .ref A.ua, .ref A.la, .int (iI up), .int (iI lo)]) C in_X4 tyX4 tyX4_ok nmX4 rfl 12 (by decide) q2094 (fun _ z => z) rfl rfl rfl (Nat.le_of_ble_eq_true rfl) fh3_0 rfl dX4_readsNote_89 ?_
          refine Z.nm (fun h11 eh11 => ?_)
          have kh11 : zkeep h h11 [A.m, A.v, A.pa, A.tx, A.ma, A.na, A.ua, A.la] := by rw [eh11]; exact zkeep.up kh3 (Or.inl (by simp)) fh3_0
          have fh11_0 : h11 A.m = some (true, .inr (3, [.ref A.v, .ref A.pa, .int (iI st), .ref A.tx, .int (iI ((tq.length : Nat) : Int)), .int (iI si), .int (iI ff), .int (iI wd), .int (iI th), .ref A.le, .ref A.qa, .int (iI (ap + 1)), .int (iI ((plc (sga tq ap)) + (-7))), .int (iI rr), .int (iI rq), .int (iI rb), .int (iI wh), .ref A.ma, .ref A.na, .int (iI nd), .ref A.ua, .ref A.la, .int (iI up), .int (iI lo)])) := zse eh11
          have fh11_1 : h11 A.v = some (true, .inl (.int, 620, (mA V))) := zsn eh11 fh3_1 (Ne.symm (zneA fh3_0 fh3_1))
          have fh11_2 : h11 A.pa = some (true, .inl (.int, 4960, (mA P))) := zsn eh11 fh3_2 (Ne.symm (zneA fh3_0 fh3_2))
          have fh11_3 : h11 A.tx = some (true, .inl (.int, 200, (mA T))) := zsn eh11 fh3_3 (Ne.symm (zneA fh3_0 fh3_3))
          have fh11_4 : h11 A.ma = some (true, .inl (.int, 620, (mA M))) := zsn eh11 fh3_4 (Ne.symm (zneA fh3_0 fh3_4))
          have fh11_5 : h11 A.na = some (true, .inl (.int, 20, (mA N))) := zsn eh11 fh3_5 (Ne.symm (zneA fh3_0 fh3_5))
          have fh11_6 : h11 A.ua = some (true, .inl (.int, 1200, (mA U))) := zsn eh11 fh3_6 (Ne.symm (zneA fh3_0 fh3_6))
          have fh11_7 : h11 A.la = some (true, .inl (.int, 1200, (mA W))) := zsn eh11 fh3_7 (Ne.symm (zneA fh3_0 fh3_7))
          refine z_aload_n (pc := 92) (j := 0) C dX4_readsNote_92 rfl rfl ?_
          refine z_dup (pc := 93) C dX4_readsNote_93 rfl ?_
          refine z_getfield (pc := 94) (v := .int (iI (ap + 1))) C in_X4 rfl 11 (by decide) q2093 (fun _ z => z) fh11_0 rfl dX4_readsNote_94 ?_
          refine z_iconst (pc := 97) C dX4_readsNote_97 ?_
          refine z_iadd (pc := 98) C dX4_readsNote_98 ?_
          refine z_putfield (pc := 99) (fs' := [.ref A.v, .ref A.pa, .int (iI st), .ref A.tx, .int (iI ((tq.length : Nat) : Int)), .int (iI si), .int (iI ff), .int (iI wd), .int (iI th), .ref A.le, .ref A.qa, .int (iI ((ap + 1) + 1)), .int (iI ((plc (sga tq ap)) + (-7))), .int (iI rr), .int (iI rq), .int (iI rb), .int (iI wh), .ref A.ma, .ref A.na, .int (iI nd), .ref A.ua, .ref A.la, .int (iI up), .int (iI lo)]) C in_X4 tyX4 tyX4_ok nmX4 rfl 11 (by decide) q2093 (fun _ z => z) rfl rfl rfl (Nat.le_of_ble_eq_true rfl) fh11_0 rfl dX4_readsNote_99 ?_
          refine Z.nm (fun h12 eh12 => ?_)
          have kh12 : zkeep h h12 [A.m, A.v, A.pa, A.tx, A.ma, A.na, A.ua, A.la] := by rw [eh12]; exact zkeep.up kh11 (Or.inl (by simp)) fh11_0
          have fh12_0 : h12 A.m = some (true, .inr (3, [.ref A.v, .ref A.pa, .int (iI st), .ref A.tx, .int (iI ((tq.length : Nat) : Int)), .int (iI si), .int (iI ff), .int (iI wd), .int (iI th), .ref A.le, .ref A.qa, .int (iI ((ap + 1) + 1)), .int (iI ((plc (sga tq ap)) + (-7))), .int (iI rr), .int (iI rq), .int (iI rb), .int (iI wh), .ref A.ma, .ref A.na, .int (iI nd), .ref A.ua, .ref A.la, .int (iI up), .int (iI lo)])) := zse eh12
          have fh12_1 : h12 A.v = some (true, .inl (.int, 620, (mA V))) := zsn eh12 fh11_1 (Ne.symm (zneA fh11_0 fh11_1))
          have fh12_2 : h12 A.pa = some (true, .inl (.int, 4960, (mA P))) := zsn eh12 fh11_2 (Ne.symm (zneA fh11_0 fh11_2))
          have fh12_3 : h12 A.tx = some (true, .inl (.int, 200, (mA T))) := zsn eh12 fh11_3 (Ne.symm (zneA fh11_0 fh11_3))
          have fh12_4 : h12 A.ma = some (true, .inl (.int, 620, (mA M))) := zsn eh12 fh11_4 (Ne.symm (zneA fh11_0 fh11_4))
          have fh12_5 : h12 A.na = some (true, .inl (.int, 20, (mA N))) := zsn eh12 fh11_5 (Ne.symm (zneA fh11_0 fh11_5))
          have fh12_6 : h12 A.ua = some (true, .inl (.int, 1200, (mA U))) := zsn eh12 fh11_6 (Ne.symm (zneA fh11_0 fh11_6))
          have fh12_7 : h12 A.la = some (true, .inl (.int, 1200, (mA W))) := zsn eh12 fh11_7 (Ne.symm (zneA fh11_0 fh11_7))
          refine z_iconst (pc := 102) C dX4_readsNote_102 ?_
          have hyn : nok tq ap := Classical.byContradiction fun z => by have := hrn.2.1 z; omega
          have hy1 := hrn.1 hyn
          have e1 : ((ap + 1) + 1 : Int) = nen tq ap := by rw [nen_s]; split <;> omega
          have e2 : ((plc (sga tq ap)) + (-7) : Int) = npl tq ap := by unfold npl; rw [npl_s, ← hy1]; (repeat' split) <;> omega
          have gz13 : h12 A.m = some (true, .inr (3, [.ref A.v, .ref A.pa, .int (iI st), .ref A.tx, .int (iI ((tq.length : Nat) : Int)), .int (iI si), .int (iI ff), .int (iI wd), .int (iI th), .ref A.le, .ref A.qa, .int (iI (nen tq ap)), .int (iI (npl tq ap)), .int (iI rr), .int (iI rq), .int (iI rb), .int (iI wh), .ref A.ma, .ref A.na, .int (iI nd), .ref A.ua, .ref A.la, .int (iI up), .int (iI lo)])) := e1 ▸ e2 ▸ fh12_0
          exact z_zreturn (pc := 103) C (by decide) (by rw [hXp]; exact ⟨_, rfl, Or.inl ⟨hyn, rfl, ⟨gz13, fh12_1, fh12_2, fh12_3, fh12_4, fh12_5, fh12_6, fh12_7, (kh12.n gle_1 (List.not_mem_cons_of_ne_of_not_mem (Ne.symm (zneA gm_1 gle_1)) (List.not_mem_cons_of_ne_of_not_mem (zneT gle_1 gv_1 (by simp)) (List.not_mem_cons_of_ne_of_not_mem (zneT gle_1 gpa_1 (by simp)) (List.not_mem_cons_of_ne_of_not_mem (zneT gle_1 gtx_1 (by simp)) (List.not_mem_cons_of_ne_of_not_mem (zneT gle_1 gma_1 (by simp)) (List.not_mem_cons_of_ne_of_not_mem (zneT gle_1 gna_1 (by simp)) (List.not_mem_cons_of_ne_of_not_mem (zneT gle_1 gua_1 (by simp)) (List.not_mem_cons_of_ne_of_not_mem (zneT gle_1 gla_1 (by simp)) List.not_mem_nil))))))))), (kh12.n gqa_1 (List.not_mem_cons_of_ne_of_not_mem (Ne.symm (zneA gm_1 gqa_1)) (List.not_mem_cons_of_ne_of_not_mem (zneT gqa_1 gv_1 (by simp)) (List.not_mem_cons_of_ne_of_not_mem (zneT gqa_1 gpa_1 (by simp)) (List.not_mem_cons_of_ne_of_not_mem (zneT gqa_1 gtx_1 (by simp)) (List.not_mem_cons_of_ne_of_not_mem (zneT gqa_1 gma_1 (by simp)) (List.not_mem_cons_of_ne_of_not_mem (zneT gqa_1 gna_1 (by simp)) (List.not_mem_cons_of_ne_of_not_mem (zneT gqa_1 gua_1 (by simp)) (List.not_mem_cons_of_ne_of_not_mem (zneT gqa_1 gla_1 (by simp)) List.not_mem_nil))))))))), gd_1⟩⟩, kh12⟩) dX4_readsNote_103
        · refine z_bipush (pc := 81) C dX4_readsNote_81 (by decide) ?_
          refine z_goto (pc := 83) (tgt := 88) C dX4_readsNote_83 (by decide) ?_
          refine z_iadd (pc := 88) C dX4_readsNote_88 ?_
          refine z_putfield (pc := 89) (fs' := [.ref A.v, .ref A.pa, .int (iI st), .ref A.tx, .int (iI ((tq.length : Nat) : Int)), .int (iI si), .int (iI ff), .int (iI wd), .int (iI th), .ref A.le, .ref A.qa, .int (iI (ap + 1)), .int (iI ((plc (sga tq ap)) + 7)), .int (iI rr), .int (iI rq), .int (iI rb), .int (iI wh), .ref A.ma, .ref A.na, .int (iI nd), .ref A.ua, .ref A.la, .int (iI up), .int (iI lo)]) C in_X4 tyX4 tyX4_ok nmX4 rfl 12 (by decide) q2094 (fun _ z => z) rfl rfl rfl (Nat.le_of_ble_eq_true rfl) fh3_0 rfl dX4_readsNote_89 ?_
          refine Z.nm (fun h14 eh14 => ?_)
          have kh14 : zkeep h h14 [A.m, A.v, A.pa, A.tx, A.ma, A.na, A.ua, A.la] := by rw [eh14]; exact zkeep.up kh3 (Or.inl (by simp)) fh3_0
          have fh14_0 : h14 A.m = some (true, .inr (3, [.ref A.v, .ref A.pa, .int (iI st), .ref A.tx, .int (iI ((tq.length : Nat) : Int)), .int (iI si), .int (iI ff), .int (iI wd), .int (iI th), .ref A.le, .ref A.qa, .int (iI (ap + 1)), .int (iI ((plc (sga tq ap)) + 7)), .int (iI rr), .int (iI rq), .int (iI rb), .int (iI wh), .ref A.ma, .ref A.na, .int (iI nd), .ref A.ua, .ref A.la, .int (iI up), .int (iI lo)])) := zse eh14
          have fh14_1 : h14 A.v = some (true, .inl (.int, 620, (mA V))) := zsn eh14 fh3_1 (Ne.symm (zneA fh3_0 fh3_1))
          have fh14_2 : h14 A.pa = some (true, .inl (.int, 4960, (mA P))) := zsn eh14 fh3_2 (Ne.symm (zneA fh3_0 fh3_2))
          have fh14_3 : h14 A.tx = some (true, .inl (.int, 200, (mA T))) := zsn eh14 fh3_3 (Ne.symm (zneA fh3_0 fh3_3))
          have fh14_4 : h14 A.ma = some (true, .inl (.int, 620, (mA M))) := zsn eh14 fh3_4 (Ne.symm (zneA fh3_0 fh3_4))
          have fh14_5 : h14 A.na = some (true, .inl (.int, 20, (mA N))) := zsn eh14 fh3_5 (Ne.symm (zneA fh3_0 fh3_5))
          have fh14_6 : h14 A.ua = some (true, .inl (.int, 1200, (mA U))) := zsn eh14 fh3_6 (Ne.symm (zneA fh3_0 fh3_6))
          have fh14_7 : h14 A.la = some (true, .inl (.int, 1200, (mA W))) := zsn eh14 fh3_7 (Ne.symm (zneA fh3_0 fh3_7))
          refine z_aload_n (pc := 92) (j := 0) C dX4_readsNote_92 rfl rfl ?_
          refine z_dup (pc := 93) C dX4_readsNote_93 rfl ?_
          refine z_getfield (pc := 94) (v := .int (iI (ap + 1))) C in_X4 rfl 11 (by decide) q2093 (fun _ z => z) fh14_0 rfl dX4_readsNote_94 ?_
          refine z_iconst (pc := 97) C dX4_readsNote_97 ?_
          refine z_iadd (pc := 98) C dX4_readsNote_98 ?_
          refine z_putfield (pc := 99) (fs' := [.ref A.v, .ref A.pa, .int (iI st), .ref A.tx, .int (iI ((tq.length : Nat) : Int)), .int (iI si), .int (iI ff), .int (iI wd), .int (iI th), .ref A.le, .ref A.qa, .int (iI ((ap + 1) + 1)), .int (iI ((plc (sga tq ap)) + 7)), .int (iI rr), .int (iI rq), .int (iI rb), .int (iI wh), .ref A.ma, .ref A.na, .int (iI nd), .ref A.ua, .ref A.la, .int (iI up), .int (iI lo)]) C in_X4 tyX4 tyX4_ok nmX4 rfl 11 (by decide) q2093 (fun _ z => z) rfl rfl rfl (Nat.le_of_ble_eq_true rfl) fh14_0 rfl dX4_readsNote_99 ?_
          refine Z.nm (fun h15 eh15 => ?_)
          have kh15 : zkeep h h15 [A.m, A.v, A.pa, A.tx, A.ma, A.na, A.ua, A.la] := by rw [eh15]; exact zkeep.up kh14 (Or.inl (by simp)) fh14_0
          have fh15_0 : h15 A.m = some (true, .inr (3, [.ref A.v, .ref A.pa, .int (iI st), .ref A.tx, .int (iI ((tq.length : Nat) : Int)), .int (iI si), .int (iI ff), .int (iI wd), .int (iI th), .ref A.le, .ref A.qa, .int (iI ((ap + 1) + 1)), .int (iI ((plc (sga tq ap)) + 7)), .int (iI rr), .int (iI rq), .int (iI rb), .int (iI wh), .ref A.ma, .ref A.na, .int (iI nd), .ref A.ua, .ref A.la, .int (iI up), .int (iI lo)])) := zse eh15
          have fh15_1 : h15 A.v = some (true, .inl (.int, 620, (mA V))) := zsn eh15 fh14_1 (Ne.symm (zneA fh14_0 fh14_1))
          have fh15_2 : h15 A.pa = some (true, .inl (.int, 4960, (mA P))) := zsn eh15 fh14_2 (Ne.symm (zneA fh14_0 fh14_2))
          have fh15_3 : h15 A.tx = some (true, .inl (.int, 200, (mA T))) := zsn eh15 fh14_3 (Ne.symm (zneA fh14_0 fh14_3))
          have fh15_4 : h15 A.ma = some (true, .inl (.int, 620, (mA M))) := zsn eh15 fh14_4 (Ne.symm (zneA fh14_0 fh14_4))
          have fh15_5 : h15 A.na = some (true, .inl (.int, 20, (mA N))) := zsn eh15 fh14_5 (Ne.symm (zneA fh14_0 fh14_5))
          have fh15_6 : h15 A.ua = some (true, .inl (.int, 1200, (mA U))) := zsn eh15 fh14_6 (Ne.symm (zneA fh14_0 fh14_6))
          have fh15_7 : h15 A.la = some (true, .inl (.int, 1200, (mA W))) := zsn eh15 fh14_7 (Ne.symm (zneA fh14_0 fh14_7))
          refine z_iconst (pc := 102) C dX4_readsNote_102 ?_
          have hyn : nok tq ap := Classical.byContradiction fun z => by have := hrn.2.1 z; omega
          have hy1 := hrn.1 hyn
          have e1 : ((ap + 1) + 1 : Int) = nen tq ap := by rw [nen_s]; split <;> omega
          have e2 : ((plc (sga tq ap)) + 7 : Int) = npl tq ap := by unfold npl; rw [npl_s, ← hy1]; (repeat' split) <;> omega
          have gz16 : h15 A.m = some (true, .inr (3, [.ref A.v, .ref A.pa, .int (iI st), .ref A.tx, .int (iI ((tq.length : Nat) : Int)), .int (iI si), .int (iI ff), .int (iI wd), .int (iI th), .ref A.le, .ref A.qa, .int (iI (nen tq ap)), .int (iI (npl tq ap)), .int (iI rr), .int (iI rq), .int (iI rb), .int (iI wh), .ref A.ma, .ref A.na, .int (iI nd), .ref A.ua, .ref A.la, .int (iI up), .int (iI lo)])) := e1 ▸ e2 ▸ fh15_0
          exact z_zreturn (pc := 103) C (by decide) (by rw [hXp]; exact ⟨_, rfl, Or.inl ⟨hyn, rfl, ⟨gz16, fh15_1, fh15_2, fh15_3, fh15_4, fh15_5, fh15_6, fh15_7, (kh15.n gle_1 (List.not_mem_cons_of_ne_of_not_mem (Ne.symm (zneA gm_1 gle_1)) (List.not_mem_cons_of_ne_of_not_mem (zneT gle_1 gv_1 (by simp)) (List.not_mem_cons_of_ne_of_not_mem (zneT gle_1 gpa_1 (by simp)) (List.not_mem_cons_of_ne_of_not_mem (zneT gle_1 gtx_1 (by simp)) (List.not_mem_cons_of_ne_of_not_mem (zneT gle_1 gma_1 (by simp)) (List.not_mem_cons_of_ne_of_not_mem (zneT gle_1 gna_1 (by simp)) (List.not_mem_cons_of_ne_of_not_mem (zneT gle_1 gua_1 (by simp)) (List.not_mem_cons_of_ne_of_not_mem (zneT gle_1 gla_1 (by simp)) List.not_mem_nil))))))))), (kh15.n gqa_1 (List.not_mem_cons_of_ne_of_not_mem (Ne.symm (zneA gm_1 gqa_1)) (List.not_mem_cons_of_ne_of_not_mem (zneT gqa_1 gv_1 (by simp)) (List.not_mem_cons_of_ne_of_not_mem (zneT gqa_1 gpa_1 (by simp)) (List.not_mem_cons_of_ne_of_not_mem (zneT gqa_1 gtx_1 (by simp)) (List.not_mem_cons_of_ne_of_not_mem (zneT gqa_1 gma_1 (by simp)) (List.not_mem_cons_of_ne_of_not_mem (zneT gqa_1 gna_1 (by simp)) (List.not_mem_cons_of_ne_of_not_mem (zneT gqa_1 gua_1 (by simp)) (List.not_mem_cons_of_ne_of_not_mem (zneT gqa_1 gla_1 (by simp)) List.not_mem_nil))))))))), gd_1⟩⟩, kh15⟩) dX4_readsNote_103
  · refine z_iconst (pc := 25) C dX4_readsNote_25 ?_
    have hnn : ¬ nok tq ap := fun z => hrn.2.2 z (by omega)
    have hnt : (plc (sga tq ap) : Int) = 100 := by omega
    have gz17 : h2 A.m = some (true, .inr (3, [.ref A.v, .ref A.pa, .int (iI st), .ref A.tx, .int (iI ((tq.length : Nat) : Int)), .int (iI si), .int (iI ff), .int (iI wd), .int (iI th), .ref A.le, .ref A.qa, .int (iI ap), .int (iI 100), .int (iI rr), .int (iI rq), .int (iI rb), .int (iI wh), .ref A.ma, .ref A.na, .int (iI nd), .ref A.ua, .ref A.la, .int (iI up), .int (iI lo)])) := hnt ▸ fh2_0
    exact z_zreturn (pc := 26) C (by decide) (by rw [hXp]; exact ⟨_, rfl, Or.inr ⟨hnn, rfl, ⟨gz17, fh2_1, fh2_2, fh2_3, fh2_4, fh2_5, fh2_6, fh2_7, (kh2.n gle_1 (List.not_mem_cons_of_ne_of_not_mem (Ne.symm (zneA gm_1 gle_1)) (List.not_mem_cons_of_ne_of_not_mem (zneT gle_1 gv_1 (by simp)) (List.not_mem_cons_of_ne_of_not_mem (zneT gle_1 gpa_1 (by simp)) (List.not_mem_cons_of_ne_of_not_mem (zneT gle_1 gtx_1 (by simp)) (List.not_mem_cons_of_ne_of_not_mem (zneT gle_1 gma_1 (by simp)) (List.not_mem_cons_of_ne_of_not_mem (zneT gle_1 gna_1 (by simp)) (List.not_mem_cons_of_ne_of_not_mem (zneT gle_1 gua_1 (by simp)) (List.not_mem_cons_of_ne_of_not_mem (zneT gle_1 gla_1 (by simp)) List.not_mem_nil))))))))), (kh2.n gqa_1 (List.not_mem_cons_of_ne_of_not_mem (Ne.symm (zneA gm_1 gqa_1)) (List.not_mem_cons_of_ne_of_not_mem (zneT gqa_1 gv_1 (by simp)) (List.not_mem_cons_of_ne_of_not_mem (zneT gqa_1 gpa_1 (by simp)) (List.not_mem_cons_of_ne_of_not_mem (zneT gqa_1 gtx_1 (by simp)) (List.not_mem_cons_of_ne_of_not_mem (zneT gqa_1 gma_1 (by simp)) (List.not_mem_cons_of_ne_of_not_mem (zneT gqa_1 gna_1 (by simp)) (List.not_mem_cons_of_ne_of_not_mem (zneT gqa_1 gua_1 (by simp)) (List.not_mem_cons_of_ne_of_not_mem (zneT gqa_1 gla_1 (by simp)) List.not_mem_nil))))))))), gd_1⟩⟩, kh2⟩) dX4_readsNote_26
set_option maxHeartbeats 4000000 in
theorem m_like {l : Launch} (hl : l.stackTraces = false) {Γ : zCx} {h : zH} {tq : List Int} {A : zMA} {st si ff wd th ap nt rr rq rb wh nd up lo : Int} {V P T M N U W : Nat → Int} (hM : mM h A st ((tq.length : Nat) : Int) si ff wd th ap nt rr rq rb wh nd up lo V P T M N U W) (htq : txA tq T) (hTr : ∀ c ∈ tq, 32 ≤ c ∧ c ≤ 126) (hTl : tq.length ≤ 200) (hap : 0 ≤ ap ∧ ap ≤ 500) {q : Int} (hq : 0 ≤ q ∧ q ≤ 9)  : zMet l yX4_likeQuality (ws_ yX4_likeQuality cX4_likeQuality 5 (some .int)) ({ frames := 1, cells := 0, slots := 0, locals := 21 }) Γ h [.ref A.m, .int (iI q)] (zrt (fun w h' => w = some (.int (iI (((lcp (qlt q) (tq.drop ap.toNat) : Nat) : Int)))) ∧ mM h' A st ((tq.length : Nat) : Int) si ff wd th ap nt rr rq rb (if (qlt q).length ≤ lcp (qlt q) (tq.drop ap.toNat) then 1 else 0) nd up lo V P T M N U W ∧ zkeep h h' [A.m, A.v, A.pa, A.tx, A.ma, A.na, A.ua, A.la])) 0 0 := by
  refine zMet.of (cc := cX4_likeQuality) hl (plainFor_of_name (by decide +kernel)) (Nat.le_of_ble_eq_true rfl) ?_
  intro X hXl hXΓ hXp C hnm hnL
  have C : zC X cX4_likeQuality RX4 (some .int) 1 21 [] := C
  have hnL : X.2.1.2.2.2.2 = 5 := hnL
  subst hXl hXΓ
  show Z X h 0 0 [(0, .ref A.m), (1, .int (iI q))] 0 []
  obtain ⟨gm_1, gv_1, gpa_1, gtx_1, gma_1, gna_1, gua_1, gla_1, gle_1, gqa_1, gd_1⟩ := id hM
  refine z_iconst (pc := 0) C dX4_likeQuality_0 ?_
  refine z_istore_n (pc := 1) (L' := [(2, .int (iI 0)), (0, .ref A.m), (1, .int (iI q))]) C dX4_likeQuality_1 rfl (by rw [hnL]; decide) rfl ?_
  refine z_iconst (pc := 2) C dX4_likeQuality_2 ?_
  refine z_istore_n (pc := 3) (L' := [(3, .int (iI 0)), (2, .int (iI 0)), (0, .ref A.m), (1, .int (iI q))]) C dX4_likeQuality_3 rfl (by rw [hnL]; decide) rfl ?_
  refine z_iconst (pc := 4) C dX4_likeQuality_4 ?_
  refine z_istore (pc := 5) (L' := [(4, .int (iI 0)), (3, .int (iI 0)), (2, .int (iI 0)), (0, .ref A.m), (1, .int (iI q))]) C dX4_likeQuality_5 (by rw [hnL]; decide) rfl ?_
  have loop7 : ∀ (n7 : Nat) (k : Int) (n : Int) (b : Int), (0 ≤ k ∧ k ≤ 30) → (n = (qcn k.toNat : Nat)) → (b = k) → (k.toNat ≤ qbg q.toNat) → ((30 - k).toNat) = n7 → Z X h 0 0 [(4, .int (iI k)), (3, .int (iI b)), (2, .int (iI n)), (1, .int (iI q)), (0, .ref A.m)] 7 [] := by
    intro n7
    induction n7 using Nat.strongRecOn with
    | ind n7 ih7 =>
    intro k n b hk hn hb hkb hn7
    refine z_iload (pc := 7) (j := 0) C dX4_likeQuality_7 rfl ?_
    refine z_aload_n (pc := 9) (j := 4) C dX4_likeQuality_9 rfl rfl ?_
    refine z_getfield (pc := 10) (v := .ref A.qa) C in_X4 rfl 10 (by decide) q2092 (fun _ z => z) gm_1 rfl dX4_likeQuality_10 ?_
    refine z_alen (pc := 13) C gqa_1 dX4_likeQuality_13 ?_
    have hqc0 := qcn_le k.toNat (by omega)
    refine z_icmp_ge (pc := 14) (tgt := 53) C dX4_likeQuality_14 (by decide) (by omega) (by decide) (fun c14 => ?_) (fun c14 => ?_)
    · have hbq : b = (qbg q.toNat : Nat) := by
        have h := qbg_s q.toNat (by omega) k.toNat (by omega)
        have : k.toNat = qbg q.toNat := h.2.1 hkb (fun z => by have := h.2.2; omega)
        omega
      have hble := qbg_le q.toNat (by omega)
      refine z_iconst (pc := 53) C dX4_likeQuality_53 ?_
      refine z_istore (pc := 54) (L' := [(4, .int (iI 0)), (3, .int (iI b)), (2, .int (iI n)), (1, .int (iI q)), (0, .ref A.m)]) C dX4_likeQuality_54 (by rw [hnL]; decide) rfl ?_
      have loop56 : ∀ (n56 : Nat) (l : Int), (0 ≤ l ∧ l.toNat ≤ (qlt q).length ∧ l.toNat ≤ lcp (qlt q) (tq.drop ap.toNat)) → ((5 - l).toNat) = n56 → Z X h 0 0 [(4, .int (iI l)), (3, .int (iI b)), (1, .int (iI q)), (0, .ref A.m)] 56 [] := by
        intro n56
        induction n56 using Nat.strongRecOn with
        | ind n56 ih56 =>
        intro l hl_ hn56
        refine z_aload_n (pc := 56) (j := 3) C dX4_likeQuality_56 rfl rfl ?_
        have hbl := qbl_le q.toNat (by omega)
        rw [show ((q.toNat : Nat) : Int) = q by omega] at hbl
        have hl5 : (qlt q).length ≤ 4 := by have := (qq_at q.toNat (by omega) 0 (by decide)).2.2; rwa [show ((q.toNat : Nat) : Int) = q by omega] at this
        have hqa := qq_at q.toNat (by omega) l.toNat (by omega)
        rw [show ((q.toNat : Nat) : Int) = q by omega] at hqa
        have hqe : qaF (Int.toNat (b + l)) = qaF (qbg q.toNat + l.toNat) := by congr 1; omega
        obtain ⟨hqa2, hqa3, -⟩ := hqa
        rw [← hqe] at hqa2 hqa3
        have hqr := qaF_r (Int.toNat (b + l)) (by omega)
        have hlc1 := lcp_le1 (qlt q) (tq.drop ap.toNat)
        refine z_getfield (pc := 57) (v := .ref A.qa) C in_X4 rfl 10 (by decide) q2092 (fun _ z => z) gm_1 rfl dX4_likeQuality_57 ?_
        refine z_iload_n (pc := 60) (j := 1) C dX4_likeQuality_60 rfl rfl ?_
        refine z_iload (pc := 61) (j := 0) C dX4_likeQuality_61 rfl ?_
        refine z_iadd (pc := 63) C dX4_likeQuality_63 ?_
        refine z_caload (pc := 64) (v := .int (iI (qaF (Int.toNat (b + l))))) C gqa_1 (by omega) rfl dX4_likeQuality_64 ?_
        refine z_bipush (pc := 65) C dX4_likeQuality_65 (by decide) ?_
        refine z_icmp_eq (pc := 67) (tgt := 99) C dX4_likeQuality_67 (by decide) (by omega) (by decide) (fun c67 => ?_) (fun c67 => ?_)
        · have hle : l = (lcp (qlt q) (tq.drop ap.toNat) : Nat) := lkq_en (v := qaF (Int.toNat (b + l))) (by omega) hl_ hqa2 hqa3 (by omega)
          have hwh : (qaF (Int.toNat (b + l)) = 59) ↔ (qlt q).length ≤ lcp (qlt q) (tq.drop ap.toNat) := ⟨fun z => Classical.byContradiction fun y => (hqa2 (by omega)).2 z, fun z => hqa3 (by omega)⟩
          refine z_aload_n (pc := 99) (j := 3) C dX4_likeQuality_99 rfl rfl ?_
          refine z_aload_n (pc := 100) (j := 3) C dX4_likeQuality_100 rfl rfl ?_
          refine z_getfield (pc := 101) (v := .ref A.qa) C in_X4 rfl 10 (by decide) q2092 (fun _ z => z) gm_1 rfl dX4_likeQuality_101 ?_
          refine z_iload_n (pc := 104) (j := 1) C dX4_likeQuality_104 rfl rfl ?_
          refine z_iload (pc := 105) (j := 0) C dX4_likeQuality_105 rfl ?_
          refine z_iadd (pc := 107) C dX4_likeQuality_107 ?_
          refine z_caload (pc := 108) (v := .int (iI (qaF (Int.toNat (b + l))))) C gqa_1 (by omega) rfl dX4_likeQuality_108 ?_
          refine z_bipush (pc := 109) C dX4_likeQuality_109 (by decide) ?_
          refine z_icmp_ne (pc := 111) (tgt := 118) C dX4_likeQuality_111 (by decide) (by omega) (by decide) (fun c111 => ?_) (fun c111 => ?_)
          · refine z_iconst (pc := 118) C dX4_likeQuality_118 ?_
            refine z_putfield (pc := 119) (fs' := [.ref A.v, .ref A.pa, .int (iI st), .ref A.tx, .int (iI ((tq.length : Nat) : Int)), .int (iI si), .int (iI ff), .int (iI wd), .int (iI th), .ref A.le, .ref A.qa, .int (iI ap), .int (iI nt), .int (iI rr), .int (iI rq), .int (iI rb), .int (iI 0), .ref A.ma, .ref A.na, .int (iI nd), .ref A.ua, .ref A.la, .int (iI up), .int (iI lo)]) C in_X4 tyX4 tyX4_ok nmX4 rfl 16 (by decide) q2098 (fun _ z => z) rfl (by decide) (by decide) (Nat.le_of_ble_eq_true rfl) gm_1 rfl dX4_likeQuality_119 ?_
            refine Z.nm (fun h2 eh2 => ?_)
            have kh2 : zkeep h h2 [A.m, A.v, A.pa, A.tx, A.ma, A.na, A.ua, A.la] := by rw [eh2]; exact zkeep.up zkeep.rf (Or.inl (by simp)) gm_1
            have fh2_0 : h2 A.m = some (true, .inr (3, [.ref A.v, .ref A.pa, .int (iI st), .ref A.tx, .int (iI ((tq.length : Nat) : Int)), .int (iI si), .int (iI ff), .int (iI wd), .int (iI th), .ref A.le, .ref A.qa, .int (iI ap), .int (iI nt), .int (iI rr), .int (iI rq), .int (iI rb), .int (iI 0), .ref A.ma, .ref A.na, .int (iI nd), .ref A.ua, .ref A.la, .int (iI up), .int (iI lo)])) := zse eh2
            have fh2_1 : h2 A.v = some (true, .inl (.int, 620, (mA V))) := zsn eh2 gv_1 (Ne.symm (zneA gm_1 gv_1))
            have fh2_2 : h2 A.pa = some (true, .inl (.int, 4960, (mA P))) := zsn eh2 gpa_1 (Ne.symm (zneA gm_1 gpa_1))
            have fh2_3 : h2 A.tx = some (true, .inl (.int, 200, (mA T))) := zsn eh2 gtx_1 (Ne.symm (zneA gm_1 gtx_1))
            have fh2_4 : h2 A.ma = some (true, .inl (.int, 620, (mA M))) := zsn eh2 gma_1 (Ne.symm (zneA gm_1 gma_1))
            have fh2_5 : h2 A.na = some (true, .inl (.int, 20, (mA N))) := zsn eh2 gna_1 (Ne.symm (zneA gm_1 gna_1))
            have fh2_6 : h2 A.ua = some (true, .inl (.int, 1200, (mA U))) := zsn eh2 gua_1 (Ne.symm (zneA gm_1 gua_1))
            have fh2_7 : h2 A.la = some (true, .inl (.int, 1200, (mA W))) := zsn eh2 gla_1 (Ne.symm (zneA gm_1 gla_1))
            refine z_iload (pc := 122) (j := 0) C dX4_likeQuality_122 rfl ?_
            have ewh : (0 : Int) = (if (qlt q).length ≤ lcp (qlt q) (tq.drop ap.toNat) then 1 else 0) := by split <;> omega
            have gz3 : h2 A.m = some (true, .inr (3, [.ref A.v, .ref A.pa, .int (iI st), .ref A.tx, .int (iI ((tq.length : Nat) : Int)), .int (iI si), .int (iI ff), .int (iI wd), .int (iI th), .ref A.le, .ref A.qa, .int (iI ap), .int (iI nt), .int (iI rr), .int (iI rq), .int (iI rb), .int (iI (if (qlt q).length ≤ lcp (qlt q) (tq.drop ap.toNat) then 1 else 0)), .ref A.ma, .ref A.na, .int (iI nd), .ref A.ua, .ref A.la, .int (iI up), .int (iI lo)])) := ewh ▸ fh2_0
            exact z_ireturn (pc := 124) C (by rw [hXp]; exact ⟨_, rfl, (by rw [hle]), ⟨gz3, fh2_1, fh2_2, fh2_3, fh2_4, fh2_5, fh2_6, fh2_7, (kh2.n gle_1 (List.not_mem_cons_of_ne_of_not_mem (Ne.symm (zneA gm_1 gle_1)) (List.not_mem_cons_of_ne_of_not_mem (zneT gle_1 gv_1 (by simp)) (List.not_mem_cons_of_ne_of_not_mem (zneT gle_1 gpa_1 (by simp)) (List.not_mem_cons_of_ne_of_not_mem (zneT gle_1 gtx_1 (by simp)) (List.not_mem_cons_of_ne_of_not_mem (zneT gle_1 gma_1 (by simp)) (List.not_mem_cons_of_ne_of_not_mem (zneT gle_1 gna_1 (by simp)) (List.not_mem_cons_of_ne_of_not_mem (zneT gle_1 gua_1 (by simp)) (List.not_mem_cons_of_ne_of_not_mem (zneT gle_1 gla_1 (by simp)) List.not_mem_nil))))))))), (kh2.n gqa_1 (List.not_mem_cons_of_ne_of_not_mem (Ne.symm (zneA gm_1 gqa_1)) (List.not_mem_cons_of_ne_of_not_mem (zneT gqa_1 gv_1 (by simp)) (List.not_mem_cons_of_ne_of_not_mem (zneT gqa_1 gpa_1 (by simp)) (List.not_mem_cons_of_ne_of_not_mem (zneT gqa_1 gtx_1 (by simp)) (List.not_mem_cons_of_ne_of_not_mem (zneT gqa_1 gma_1 (by simp)) (List.not_mem_cons_of_ne_of_not_mem (zneT gqa_1 gna_1 (by simp)) (List.not_mem_cons_of_ne_of_not_mem (zneT gqa_1 gua_1 (by simp)) (List.not_mem_cons_of_ne_of_not_mem (zneT gqa_1 gla_1 (by simp)) List.not_mem_nil))))))))), gd_1⟩, kh2⟩) dX4_likeQuality_124
          · refine z_iconst (pc := 114) C dX4_likeQuality_114 ?_
            refine z_goto (pc := 115) (tgt := 119) C dX4_likeQuality_115 (by decide) ?_
            refine z_putfield (pc := 119) (fs' := [.ref A.v, .ref A.pa, .int (iI st), .ref A.tx, .int (iI ((tq.length : Nat) : Int)), .int (iI si), .int (iI ff), .int (iI wd), .int (iI th), .ref A.le, .ref A.qa, .int (iI ap), .int (iI nt), .int (iI rr), .int (iI rq), .int (iI rb), .int (iI 1), .ref A.ma, .ref A.na, .int (iI nd), .ref A.ua, .ref A.la, .int (iI up), .int (iI lo)]) C in_X4 tyX4 tyX4_ok nmX4 rfl 16 (by decide) q2098 (fun _ z => z) rfl (by decide) (by decide) (Nat.le_of_ble_eq_true rfl) gm_1 rfl dX4_likeQuality_119 ?_
            refine Z.nm (fun h4 eh4 => ?_)
            have kh4 : zkeep h h4 [A.m, A.v, A.pa, A.tx, A.ma, A.na, A.ua, A.la] := by rw [eh4]; exact zkeep.up zkeep.rf (Or.inl (by simp)) gm_1
            have fh4_0 : h4 A.m = some (true, .inr (3, [.ref A.v, .ref A.pa, .int (iI st), .ref A.tx, .int (iI ((tq.length : Nat) : Int)), .int (iI si), .int (iI ff), .int (iI wd), .int (iI th), .ref A.le, .ref A.qa, .int (iI ap), .int (iI nt), .int (iI rr), .int (iI rq), .int (iI rb), .int (iI 1), .ref A.ma, .ref A.na, .int (iI nd), .ref A.ua, .ref A.la, .int (iI up), .int (iI lo)])) := zse eh4
            have fh4_1 : h4 A.v = some (true, .inl (.int, 620, (mA V))) := zsn eh4 gv_1 (Ne.symm (zneA gm_1 gv_1))
            have fh4_2 : h4 A.pa = some (true, .inl (.int, 4960, (mA P))) := zsn eh4 gpa_1 (Ne.symm (zneA gm_1 gpa_1))
            have fh4_3 : h4 A.tx = some (true, .inl (.int, 200, (mA T))) := zsn eh4 gtx_1 (Ne.symm (zneA gm_1 gtx_1))
            have fh4_4 : h4 A.ma = some (true, .inl (.int, 620, (mA M))) := zsn eh4 gma_1 (Ne.symm (zneA gm_1 gma_1))
            have fh4_5 : h4 A.na = some (true, .inl (.int, 20, (mA N))) := zsn eh4 gna_1 (Ne.symm (zneA gm_1 gna_1))
            have fh4_6 : h4 A.ua = some (true, .inl (.int, 1200, (mA U))) := zsn eh4 gua_1 (Ne.symm (zneA gm_1 gua_1))
            have fh4_7 : h4 A.la = some (true, .inl (.int, 1200, (mA W))) := zsn eh4 gla_1 (Ne.symm (zneA gm_1 gla_1))
            refine z_iload (pc := 122) (j := 0) C dX4_likeQuality_122 rfl ?_
            have ewh : (1 : Int) = (if (qlt q).length ≤ lcp (qlt q) (tq.drop ap.toNat) then 1 else 0) := by split <;> omega
            have gz5 : h4 A.m = some (true, .inr (3, [.ref A.v, .ref A.pa, .int (iI st), .ref A.tx, .int (iI ((tq.length : Nat) : Int)), .int (iI si), .int (iI ff), .int (iI wd), .int (iI th), .ref A.le, .ref A.qa, .int (iI ap), .int (iI nt), .int (iI rr), .int (iI rq), .int (iI rb), .int (iI (if (qlt q).length ≤ lcp (qlt q) (tq.drop ap.toNat) then 1 else 0)), .ref A.ma, .ref A.na, .int (iI nd), .ref A.ua, .ref A.la, .int (iI up), .int (iI lo)])) := ewh ▸ fh4_0
            exact z_ireturn (pc := 124) C (by rw [hXp]; exact ⟨_, rfl, (by rw [hle]), ⟨gz5, fh4_1, fh4_2, fh4_3, fh4_4, fh4_5, fh4_6, fh4_7, (kh4.n gle_1 (List.not_mem_cons_of_ne_of_not_mem (Ne.symm (zneA gm_1 gle_1)) (List.not_mem_cons_of_ne_of_not_mem (zneT gle_1 gv_1 (by simp)) (List.not_mem_cons_of_ne_of_not_mem (zneT gle_1 gpa_1 (by simp)) (List.not_mem_cons_of_ne_of_not_mem (zneT gle_1 gtx_1 (by simp)) (List.not_mem_cons_of_ne_of_not_mem (zneT gle_1 gma_1 (by simp)) (List.not_mem_cons_of_ne_of_not_mem (zneT gle_1 gna_1 (by simp)) (List.not_mem_cons_of_ne_of_not_mem (zneT gle_1 gua_1 (by simp)) (List.not_mem_cons_of_ne_of_not_mem (zneT gle_1 gla_1 (by simp)) List.not_mem_nil))))))))), (kh4.n gqa_1 (List.not_mem_cons_of_ne_of_not_mem (Ne.symm (zneA gm_1 gqa_1)) (List.not_mem_cons_of_ne_of_not_mem (zneT gqa_1 gv_1 (by simp)) (List.not_mem_cons_of_ne_of_not_mem (zneT gqa_1 gpa_1 (by simp)) (List.not_mem_cons_of_ne_of_not_mem (zneT gqa_1 gtx_1 (by simp)) (List.not_mem_cons_of_ne_of_not_mem (zneT gqa_1 gma_1 (by simp)) (List.not_mem_cons_of_ne_of_not_mem (zneT gqa_1 gna_1 (by simp)) (List.not_mem_cons_of_ne_of_not_mem (zneT gqa_1 gua_1 (by simp)) (List.not_mem_cons_of_ne_of_not_mem (zneT gqa_1 gla_1 (by simp)) List.not_mem_nil))))))))), gd_1⟩, kh4⟩) dX4_likeQuality_124
        · refine z_aload_n (pc := 70) (j := 3) C dX4_likeQuality_70 rfl rfl ?_
          refine z_aload_n (pc := 71) (j := 3) C dX4_likeQuality_71 rfl rfl ?_
          refine z_getfield (pc := 72) (v := .int (iI ap)) C in_X4 rfl 11 (by decide) q2093 (fun _ z => z) gm_1 rfl dX4_likeQuality_72 ?_
          refine z_iload (pc := 75) (j := 0) C dX4_likeQuality_75 rfl ?_
          refine z_iadd (pc := 77) C dX4_likeQuality_77 ?_
          refine z_callV (pc := 78) (n := 1) (kc' := 0) (ks' := 0) C (m_sign C.t ⟨gm_1, gv_1, gpa_1, gtx_1, gma_1, gna_1, gua_1, gla_1, gle_1, gqa_1, gd_1⟩ htq hTr hTl (i := ap + l) (by omega)) (lw_V q2183 q2185 qs29 q74 q2186) (by decide +kernel) ⟨by decide, by decide⟩ gm_1 rfl rfl rfl (Nat.le_of_ble_eq_true rfl) dX4_likeQuality_78 (by omega) (by omega) (zpk (st' := [.int (iI (sga tq (ap + l)))]) rfl ?_) zrx
          have hsg81 := sga_r hTr (i := ap + l) (by omega)
          refine z_aload_n (pc := 81) (j := 3) C dX4_likeQuality_81 rfl rfl ?_
          refine z_getfield (pc := 82) (v := .ref A.qa) C in_X4 rfl 10 (by decide) q2092 (fun _ z => z) gm_1 rfl dX4_likeQuality_82 ?_
          refine z_iload_n (pc := 85) (j := 1) C dX4_likeQuality_85 rfl rfl ?_
          refine z_iload (pc := 86) (j := 0) C dX4_likeQuality_86 rfl ?_
          refine z_iadd (pc := 88) C dX4_likeQuality_88 ?_
          refine z_caload (pc := 89) (v := .int (iI (qaF (Int.toNat (b + l))))) C gqa_1 (by omega) rfl dX4_likeQuality_89 ?_
          refine z_icmp_ne (pc := 90) (tgt := 99) C dX4_likeQuality_90 (by decide) (by omega) (by omega) (fun c90 => ?_) (fun c90 => ?_)
          · have hle : l = (lcp (qlt q) (tq.drop ap.toNat) : Nat) := lkq_en (v := qaF (Int.toNat (b + l))) (by omega) hl_ hqa2 hqa3 (by omega)
            have hwh : (qaF (Int.toNat (b + l)) = 59) ↔ (qlt q).length ≤ lcp (qlt q) (tq.drop ap.toNat) := ⟨fun z => Classical.byContradiction fun y => (hqa2 (by omega)).2 z, fun z => hqa3 (by omega)⟩
            refine z_aload_n (pc := 99) (j := 3) C dX4_likeQuality_99 rfl rfl ?_
            refine z_aload_n (pc := 100) (j := 3) C dX4_likeQuality_100 rfl rfl ?_
            refine z_getfield (pc := 101) (v := .ref A.qa) C in_X4 rfl 10 (by decide) q2092 (fun _ z => z) gm_1 rfl dX4_likeQuality_101 ?_
            refine z_iload_n (pc := 104) (j := 1) C dX4_likeQuality_104 rfl rfl ?_
            refine z_iload (pc := 105) (j := 0) C dX4_likeQuality_105 rfl ?_
            refine z_iadd (pc := 107) C dX4_likeQuality_107 ?_
            refine z_caload (pc := 108) (v := .int (iI (qaF (Int.toNat (b + l))))) C gqa_1 (by omega) rfl dX4_likeQuality_108 ?_
            refine z_bipush (pc := 109) C dX4_likeQuality_109 (by decide) ?_
            refine z_icmp_ne (pc := 111) (tgt := 118) C dX4_likeQuality_111 (by decide) (by omega) (by decide) (fun c111 => ?_) (fun c111 => ?_)
            · refine z_iconst (pc := 118) C dX4_likeQuality_118 ?_
              refine z_putfield (pc := 119) (fs' := [.ref A.v, .ref A.pa, .int (iI st), .ref A.tx, .int (iI ((tq.length : Nat) : Int)), .int (iI si), .int (iI ff), .int (iI wd), .int (iI th), .ref A.le, .ref A.qa, .int (iI ap), .int (iI nt), .int (iI rr), .int (iI rq), .int (iI rb), .int (iI 0), .ref A.ma, .ref A.na, .int (iI nd), .ref A.ua, .ref A.la, .int (iI up), .int (iI lo)]) C in_X4 tyX4 tyX4_ok nmX4 rfl 16 (by decide) q2098 (fun _ z => z) rfl (by decide) (by decide) (Nat.le_of_ble_eq_true rfl) gm_1 rfl dX4_likeQuality_119 ?_
              refine Z.nm (fun h6 eh6 => ?_)
              have kh6 : zkeep h h6 [A.m, A.v, A.pa, A.tx, A.ma, A.na, A.ua, A.la] := by rw [eh6]; exact zkeep.up zkeep.rf (Or.inl (by simp)) gm_1
              have fh6_0 : h6 A.m = some (true, .inr (3, [.ref A.v, .ref A.pa, .int (iI st), .ref A.tx, .int (iI ((tq.length : Nat) : Int)), .int (iI si), .int (iI ff), .int (iI wd), .int (iI th), .ref A.le, .ref A.qa, .int (iI ap), .int (iI nt), .int (iI rr), .int (iI rq), .int (iI rb), .int (iI 0), .ref A.ma, .ref A.na, .int (iI nd), .ref A.ua, .ref A.la, .int (iI up), .int (iI lo)])) := zse eh6
              have fh6_1 : h6 A.v = some (true, .inl (.int, 620, (mA V))) := zsn eh6 gv_1 (Ne.symm (zneA gm_1 gv_1))
              have fh6_2 : h6 A.pa = some (true, .inl (.int, 4960, (mA P))) := zsn eh6 gpa_1 (Ne.symm (zneA gm_1 gpa_1))
              have fh6_3 : h6 A.tx = some (true, .inl (.int, 200, (mA T))) := zsn eh6 gtx_1 (Ne.symm (zneA gm_1 gtx_1))
              have fh6_4 : h6 A.ma = some (true, .inl (.int, 620, (mA M))) := zsn eh6 gma_1 (Ne.symm (zneA gm_1 gma_1))
              have fh6_5 : h6 A.na = some (true, .inl (.int, 20, (mA N))) := zsn eh6 gna_1 (Ne.symm (zneA gm_1 gna_1))
              have fh6_6 : h6 A.ua = some (true, .inl (.int, 1200, (mA U))) := zsn eh6 gua_1 (Ne.symm (zneA gm_1 gua_1))
              have fh6_7 : h6 A.la = some (true, .inl (.int, 1200, (mA W))) := zsn eh6 gla_1 (Ne.symm (zneA gm_1 gla_1))
              refine z_iload (pc := 122) (j := 0) C dX4_likeQuality_122 rfl ?_
              have ewh : (0 : Int) = (if (qlt q).length ≤ lcp (qlt q) (tq.drop ap.toNat) then 1 else 0) := by split <;> omega
              have gz7 : h6 A.m = some (true, .inr (3, [.ref A.v, .ref A.pa, .int (iI st), .ref A.tx, .int (iI ((tq.length : Nat) : Int)), .int (iI si), .int (iI ff), .int (iI wd), .int (iI th), .ref A.le, .ref A.qa, .int (iI ap), .int (iI nt), .int (iI rr), .int (iI rq), .int (iI rb), .int (iI (if (qlt q).length ≤ lcp (qlt q) (tq.drop ap.toNat) then 1 else 0)), .ref A.ma, .ref A.na, .int (iI nd), .ref A.ua, .ref A.la, .int (iI up), .int (iI lo)])) := ewh ▸ fh6_0
              exact z_ireturn (pc := 124) C (by rw [hXp]; exact ⟨_, rfl, (by rw [hle]), ⟨gz7, fh6_1, fh6_2, fh6_3, fh6_4, fh6_5, fh6_6, fh6_7, (kh6.n gle_1 (List.not_mem_cons_of_ne_of_not_mem (Ne.symm (zneA gm_1 gle_1)) (List.not_mem_cons_of_ne_of_not_mem (zneT gle_1 gv_1 (by simp)) (List.not_mem_cons_of_ne_of_not_mem (zneT gle_1 gpa_1 (by simp)) (List.not_mem_cons_of_ne_of_not_mem (zneT gle_1 gtx_1 (by simp)) (List.not_mem_cons_of_ne_of_not_mem (zneT gle_1 gma_1 (by simp)) (List.not_mem_cons_of_ne_of_not_mem (zneT gle_1 gna_1 (by simp)) (List.not_mem_cons_of_ne_of_not_mem (zneT gle_1 gua_1 (by simp)) (List.not_mem_cons_of_ne_of_not_mem (zneT gle_1 gla_1 (by simp)) List.not_mem_nil))))))))), (kh6.n gqa_1 (List.not_mem_cons_of_ne_of_not_mem (Ne.symm (zneA gm_1 gqa_1)) (List.not_mem_cons_of_ne_of_not_mem (zneT gqa_1 gv_1 (by simp)) (List.not_mem_cons_of_ne_of_not_mem (zneT gqa_1 gpa_1 (by simp)) (List.not_mem_cons_of_ne_of_not_mem (zneT gqa_1 gtx_1 (by simp)) (List.not_mem_cons_of_ne_of_not_mem (zneT gqa_1 gma_1 (by simp)) (List.not_mem_cons_of_ne_of_not_mem (zneT gqa_1 gna_1 (by simp)) (List.not_mem_cons_of_ne_of_not_mem (zneT gqa_1 gua_1 (by simp)) (List.not_mem_cons_of_ne_of_not_mem (zneT gqa_1 gla_1 (by simp)) List.not_mem_nil))))))))), gd_1⟩, kh6⟩) dX4_likeQuality_124
            · refine z_iconst (pc := 114) C dX4_likeQuality_114 ?_
              refine z_goto (pc := 115) (tgt := 119) C dX4_likeQuality_115 (by decide) ?_
              refine z_putfield (pc := 119) (fs' := [.ref A.v, .ref A.pa, .int (iI st), .ref A.tx, .int (iI ((tq.length : Nat) : Int)), .int (iI si), .int (iI ff), .int (iI wd), .int (iI th), .ref A.le, .ref A.qa, .int (iI ap), .int (iI nt), .int (iI rr), .int (iI rq), .int (iI rb), .int (iI 1), .ref A.ma, .ref A.na, .int (iI nd), .ref A.ua, .ref A.la, .int (iI up), .int (iI lo)]) C in_X4 tyX4 tyX4_ok nmX4 rfl 16 (by decide) q2098 (fun _ z => z) rfl (by decide) (by decide) (Nat.le_of_ble_eq_true rfl) gm_1 rfl dX4_likeQuality_119 ?_
              refine Z.nm (fun h8 eh8 => ?_)
              have kh8 : zkeep h h8 [A.m, A.v, A.pa, A.tx, A.ma, A.na, A.ua, A.la] := by rw [eh8]; exact zkeep.up zkeep.rf (Or.inl (by simp)) gm_1
              have fh8_0 : h8 A.m = some (true, .inr (3, [.ref A.v, .ref A.pa, .int (iI st), .ref A.tx, .int (iI ((tq.length : Nat) : Int)), .int (iI si), .int (iI ff), .int (iI wd), .int (iI th), .ref A.le, .ref A.qa, .int (iI ap), .int (iI nt), .int (iI rr), .int (iI rq), .int (iI rb), .int (iI 1), .ref A.ma, .ref A.na, .int (iI nd), .ref A.ua, .ref A.la, .int (iI up), .int (iI lo)])) := zse eh8
              have fh8_1 : h8 A.v = some (true, .inl (.int, 620, (mA V))) := zsn eh8 gv_1 (Ne.symm (zneA gm_1 gv_1))
              have fh8_2 : h8 A.pa = some (true, .inl (.int, 4960, (mA P))) := zsn eh8 gpa_1 (Ne.symm (zneA gm_1 gpa_1))
              have fh8_3 : h8 A.tx = some (true, .inl (.int, 200, (mA T))) := zsn eh8 gtx_1 (Ne.symm (zneA gm_1 gtx_1))
              have fh8_4 : h8 A.ma = some (true, .inl (.int, 620, (mA M))) := zsn eh8 gma_1 (Ne.symm (zneA gm_1 gma_1))
              have fh8_5 : h8 A.na = some (true, .inl (.int, 20, (mA N))) := zsn eh8 gna_1 (Ne.symm (zneA gm_1 gna_1))
              have fh8_6 : h8 A.ua = some (true, .inl (.int, 1200, (mA U))) := zsn eh8 gua_1 (Ne.symm (zneA gm_1 gua_1))
              have fh8_7 : h8 A.la = some (true, .inl (.int, 1200, (mA W))) := zsn eh8 gla_1 (Ne.symm (zneA gm_1 gla_1))
              refine z_iload (pc := 122) (j := 0) C dX4_likeQuality_122 rfl ?_
              have ewh : (1 : Int) = (if (qlt q).length ≤ lcp (qlt q) (tq.drop ap.toNat) then 1 else 0) := by split <;> omega
              have gz9 : h8 A.m = some (true, .inr (3, [.ref A.v, .ref A.pa, .int (iI st), .ref A.tx, .int (iI ((tq.length : Nat) : Int)), .int (iI si), .int (iI ff), .int (iI wd), .int (iI th), .ref A.le, .ref A.qa, .int (iI ap), .int (iI nt), .int (iI rr), .int (iI rq), .int (iI rb), .int (iI (if (qlt q).length ≤ lcp (qlt q) (tq.drop ap.toNat) then 1 else 0)), .ref A.ma, .ref A.na, .int (iI nd), .ref A.ua, .ref A.la, .int (iI up), .int (iI lo)])) := ewh ▸ fh8_0
              exact z_ireturn (pc := 124) C (by rw [hXp]; exact ⟨_, rfl, (by rw [hle]), ⟨gz9, fh8_1, fh8_2, fh8_3, fh8_4, fh8_5, fh8_6, fh8_7, (kh8.n gle_1 (List.not_mem_cons_of_ne_of_not_mem (Ne.symm (zneA gm_1 gle_1)) (List.not_mem_cons_of_ne_of_not_mem (zneT gle_1 gv_1 (by simp)) (List.not_mem_cons_of_ne_of_not_mem (zneT gle_1 gpa_1 (by simp)) (List.not_mem_cons_of_ne_of_not_mem (zneT gle_1 gtx_1 (by simp)) (List.not_mem_cons_of_ne_of_not_mem (zneT gle_1 gma_1 (by simp)) (List.not_mem_cons_of_ne_of_not_mem (zneT gle_1 gna_1 (by simp)) (List.not_mem_cons_of_ne_of_not_mem (zneT gle_1 gua_1 (by simp)) (List.not_mem_cons_of_ne_of_not_mem (zneT gle_1 gla_1 (by simp)) List.not_mem_nil))))))))), (kh8.n gqa_1 (List.not_mem_cons_of_ne_of_not_mem (Ne.symm (zneA gm_1 gqa_1)) (List.not_mem_cons_of_ne_of_not_mem (zneT gqa_1 gv_1 (by simp)) (List.not_mem_cons_of_ne_of_not_mem (zneT gqa_1 gpa_1 (by simp)) (List.not_mem_cons_of_ne_of_not_mem (zneT gqa_1 gtx_1 (by simp)) (List.not_mem_cons_of_ne_of_not_mem (zneT gqa_1 gma_1 (by simp)) (List.not_mem_cons_of_ne_of_not_mem (zneT gqa_1 gna_1 (by simp)) (List.not_mem_cons_of_ne_of_not_mem (zneT gqa_1 gua_1 (by simp)) (List.not_mem_cons_of_ne_of_not_mem (zneT gqa_1 gla_1 (by simp)) List.not_mem_nil))))))))), gd_1⟩, kh8⟩) dX4_likeQuality_124
          · have c90x := c90
            refine z_iinc (pc := 93) (k := 0) (L' := [(4, .int (iI (l + 1))), (3, .int (iI b)), (1, .int (iI q)), (0, .ref A.m)]) C dX4_likeQuality_93 rfl (by rw [hnL]; decide) rfl ?_
            refine z_goto (pc := 96) (tgt := 56) C dX4_likeQuality_96 (by decide) ?_
            refine Z.weak (L' := [(4, .int (iI (l + 1))), (3, .int (iI b)), (1, .int (iI q)), (0, .ref A.m)]) (kc' := 0) (ks' := 0) [0, 1, 2, 3] rfl (by omega) (by omega) ?_
            exact ih56 _ (by omega) (l + 1) (lkq_st hTr (by omega) hl_ hqa2 hqa3 (by omega) c90x) rfl
      refine Z.weak (L' := [(4, .int (iI 0)), (3, .int (iI b)), (1, .int (iI q)), (0, .ref A.m)]) (kc' := 0) (ks' := 0) [0, 1, 3, 4] rfl (by omega) (by omega) ?_
      exact loop56 _ 0 ⟨by omega, Nat.zero_le _, Nat.zero_le _⟩ rfl
    · have hqs := qcn_s k.toNat (by omega)
      have hqr7 := qaF_r k.toNat (by omega)
      have hqc := qcn_le k.toNat (by omega)
      refine z_iload_n (pc := 17) (j := 2) C dX4_likeQuality_17 rfl rfl ?_
      refine z_iload_n (pc := 18) (j := 3) C dX4_likeQuality_18 rfl rfl ?_
      refine z_icmp_ge (pc := 19) (tgt := 53) C dX4_likeQuality_19 (by decide) (by omega) (by omega) (fun c19 => ?_) (fun c19 => ?_)
      · have hbq : b = (qbg q.toNat : Nat) := by
          have h := qbg_s q.toNat (by omega) k.toNat (by omega)
          have : k.toNat = qbg q.toNat := h.2.1 hkb (fun z => by have := h.2.2; omega)
          omega
        have hble := qbg_le q.toNat (by omega)
        refine z_iconst (pc := 53) C dX4_likeQuality_53 ?_
        refine z_istore (pc := 54) (L' := [(4, .int (iI 0)), (3, .int (iI b)), (2, .int (iI n)), (1, .int (iI q)), (0, .ref A.m)]) C dX4_likeQuality_54 (by rw [hnL]; decide) rfl ?_
        have loop56 : ∀ (n56 : Nat) (l : Int), (0 ≤ l ∧ l.toNat ≤ (qlt q).length ∧ l.toNat ≤ lcp (qlt q) (tq.drop ap.toNat)) → ((5 - l).toNat) = n56 → Z X h 0 0 [(4, .int (iI l)), (3, .int (iI b)), (1, .int (iI q)), (0, .ref A.m)] 56 [] := by
          intro n56
          induction n56 using Nat.strongRecOn with
          | ind n56 ih56 =>
          intro l hl_ hn56
          refine z_aload_n (pc := 56) (j := 3) C dX4_likeQuality_56 rfl rfl ?_
          have hbl := qbl_le q.toNat (by omega)
          rw [show ((q.toNat : Nat) : Int) = q by omega] at hbl
          have hl5 : (qlt q).length ≤ 4 := by have := (qq_at q.toNat (by omega) 0 (by decide)).2.2; rwa [show ((q.toNat : Nat) : Int) = q by omega] at this
          have hqa := qq_at q.toNat (by omega) l.toNat (by omega)
          rw [show ((q.toNat : Nat) : Int) = q by omega] at hqa
          have hqe : qaF (Int.toNat (b + l)) = qaF (qbg q.toNat + l.toNat) := by congr 1; omega
          obtain ⟨hqa2, hqa3, -⟩ := hqa
          rw [← hqe] at hqa2 hqa3
          have hqr := qaF_r (Int.toNat (b + l)) (by omega)
          have hlc1 := lcp_le1 (qlt q) (tq.drop ap.toNat)
          refine z_getfield (pc := 57) (v := .ref A.qa) C in_X4 rfl 10 (by decide) q2092 (fun _ z => z) gm_1 rfl dX4_likeQuality_57 ?_
          refine z_iload_n (pc := 60) (j := 1) C dX4_likeQuality_60 rfl rfl ?_
          refine z_iload (pc := 61) (j := 0) C dX4_likeQuality_61 rfl ?_
          refine z_iadd (pc := 63) C dX4_likeQuality_63 ?_
          refine z_caload (pc := 64) (v := .int (iI (qaF (Int.toNat (b + l))))) C gqa_1 (by omega) rfl dX4_likeQuality_64 ?_
          refine z_bipush (pc := 65) C dX4_likeQuality_65 (by decide) ?_
          refine z_icmp_eq (pc := 67) (tgt := 99) C dX4_likeQuality_67 (by decide) (by omega) (by decide) (fun c67 => ?_) (fun c67 => ?_)
          · have hle : l = (lcp (qlt q) (tq.drop ap.toNat) : Nat) := lkq_en (v := qaF (Int.toNat (b + l))) (by omega) hl_ hqa2 hqa3 (by omega)
            have hwh : (qaF (Int.toNat (b + l)) = 59) ↔ (qlt q).length ≤ lcp (qlt q) (tq.drop ap.toNat) := ⟨fun z => Classical.byContradiction fun y => (hqa2 (by omega)).2 z, fun z => hqa3 (by omega)⟩
            refine z_aload_n (pc := 99) (j := 3) C dX4_likeQuality_99 rfl rfl ?_
            refine z_aload_n (pc := 100) (j := 3) C dX4_likeQuality_100 rfl rfl ?_
            refine z_getfield (pc := 101) (v := .ref A.qa) C in_X4 rfl 10 (by decide) q2092 (fun _ z => z) gm_1 rfl dX4_likeQuality_101 ?_
            refine z_iload_n (pc := 104) (j := 1) C dX4_likeQuality_104 rfl rfl ?_
            refine z_iload (pc := 105) (j := 0) C dX4_likeQuality_105 rfl ?_
            refine z_iadd (pc := 107) C dX4_likeQuality_107 ?_
            refine z_caload (pc := 108) (v := .int (iI (qaF (Int.toNat (b + l))))) C gqa_1 (by omega) rfl dX4_likeQuality_108 ?_
            refine z_bipush (pc := 109) C dX4_likeQuality_109 (by decide) ?_
            refine z_icmp_ne (pc := 111) (tgt := 118) C dX4_likeQuality_111 (by decide) (by omega) (by decide) (fun c111 => ?_) (fun c111 => ?_)
            · refine z_iconst (pc := 118) C dX4_likeQuality_118 ?_
              refine z_putfield (pc := 119) (fs' := [.ref A.v, .ref A.pa, .int (iI st), .ref A.tx, .int (iI ((tq.length : Nat) : Int)), .int (iI si), .int (iI ff), .int (iI wd), .int (iI th), .ref A.le, .ref A.qa, .int (iI ap), .int (iI nt), .int (iI rr), .int (iI rq), .int (iI rb), .int (iI 0), .ref A.ma, .ref A.na, .int (iI nd), .ref A.ua, .ref A.la, .int (iI up), .int (iI lo)]) C in_X4 tyX4 tyX4_ok nmX4 rfl 16 (by decide) q2098 (fun _ z => z) rfl (by decide) (by decide) (Nat.le_of_ble_eq_true rfl) gm_1 rfl dX4_likeQuality_119 ?_
              refine Z.nm (fun h10 eh10 => ?_)
              have kh10 : zkeep h h10 [A.m, A.v, A.pa, A.tx, A.ma, A.na, A.ua, A.la] := by rw [eh10]; exact zkeep.up zkeep.rf (Or.inl (by simp)) gm_1
              have fh10_0 : h10 A.m = some (true, .inr (3, [.ref A.v, .ref A.pa, .int (iI st), .ref A.tx, .int (iI ((tq.length : Nat) : Int)), .int (iI si), .int (iI ff), .int (iI wd), .int (iI th), .ref A.le, .ref A.qa, .int (iI ap), .int (iI nt), .int (iI rr), .int (iI rq), .int (iI rb), .int (iI 0), .ref A.ma, .ref A.na, .int (iI nd), .ref A.ua, .ref A.la, .int (iI up), .int (iI lo)])) := zse eh10
              have fh10_1 : h10 A.v = some (true, .inl (.int, 620, (mA V))) := zsn eh10 gv_1 (Ne.symm (zneA gm_1 gv_1))
              have fh10_2 : h10 A.pa = some (true, .inl (.int, 4960, (mA P))) := zsn eh10 gpa_1 (Ne.symm (zneA gm_1 gpa_1))
              have fh10_3 : h10 A.tx = some (true, .inl (.int, 200, (mA T))) := zsn eh10 gtx_1 (Ne.symm (zneA gm_1 gtx_1))
              have fh10_4 : h10 A.ma = some (true, .inl (.int, 620, (mA M))) := zsn eh10 gma_1 (Ne.symm (zneA gm_1 gma_1))
              have fh10_5 : h10 A.na = some (true, .inl (.int, 20, (mA N))) := zsn eh10 gna_1 (Ne.symm (zneA gm_1 gna_1))
              have fh10_6 : h10 A.ua = some (true, .inl (.int, 1200, (mA U))) := zsn eh10 gua_1 (Ne.symm (zneA gm_1 gua_1))
              have fh10_7 : h10 A.la = some (true, .inl (.int, 1200, (mA W))) := zsn eh10 gla_1 (Ne.symm (zneA gm_1 gla_1))
              refine z_iload (pc := 122) (j := 0) C dX4_likeQuality_122 rfl ?_
              have ewh : (0 : Int) = (if (qlt q).length ≤ lcp (qlt q) (tq.drop ap.toNat) then 1 else 0) := by split <;> omega
              have gz11 : h10 A.m = some (true, .inr (3, [.ref A.v, .ref A.pa, .int (iI st), .ref A.tx, .int (iI ((tq.length : Nat) : Int)), .int (iI si), .int (iI ff), .int (iI wd), .int (iI th), .ref A.le, .ref A.qa, .int (iI ap), .int (iI nt), .int (iI rr), .int (iI rq), .int (iI rb), .int (iI (if (qlt q).length ≤ lcp (qlt q) (tq.drop ap.toNat) then 1 else 0)), .ref A.ma, .ref A.na, .int (iI nd), .ref A.ua, .ref A.la, .int (iI up), .int (iI lo)])) := ewh ▸ fh10_0
              exact z_ireturn (pc := 124) C (by rw [hXp]; exact ⟨_, rfl, (by rw [hle]), ⟨gz11, fh10_1, fh10_2, fh10_3, fh10_4, fh10_5, fh10_6, fh10_7, (kh10.n gle_1 (List.not_mem_cons_of_ne_of_not_mem (Ne.symm (zneA gm_1 gle_1)) (List.not_mem_cons_of_ne_of_not_mem (zneT gle_1 gv_1 (by simp)) (List.not_mem_cons_of_ne_of_not_mem (zneT gle_1 gpa_1 (by simp)) (List.not_mem_cons_of_ne_of_not_mem (zneT gle_1 gtx_1 (by simp)) (List.not_mem_cons_of_ne_of_not_mem (zneT gle_1 gma_1 (by simp)) (List.not_mem_cons_of_ne_of_not_mem (zneT gle_1 gna_1 (by simp)) (List.not_mem_cons_of_ne_of_not_mem (zneT gle_1 gua_1 (by simp)) (List.not_mem_cons_of_ne_of_not_mem (zneT gle_1 gla_1 (by simp)) List.not_mem_nil))))))))), (kh10.n gqa_1 (List.not_mem_cons_of_ne_of_not_mem (Ne.symm (zneA gm_1 gqa_1)) (List.not_mem_cons_of_ne_of_not_mem (zneT gqa_1 gv_1 (by simp)) (List.not_mem_cons_of_ne_of_not_mem (zneT gqa_1 gpa_1 (by simp)) (List.not_mem_cons_of_ne_of_not_mem (zneT gqa_1 gtx_1 (by simp)) (List.not_mem_cons_of_ne_of_not_mem (zneT gqa_1 gma_1 (by simp)) (List.not_mem_cons_of_ne_of_not_mem (zneT gqa_1 gna_1 (by simp)) (List.not_mem_cons_of_ne_of_not_mem (zneT gqa_1 gua_1 (by simp)) (List.not_mem_cons_of_ne_of_not_mem (zneT gqa_1 gla_1 (by simp)) List.not_mem_nil))))))))), gd_1⟩, kh10⟩) dX4_likeQuality_124
            · refine z_iconst (pc := 114) C dX4_likeQuality_114 ?_
              refine z_goto (pc := 115) (tgt := 119) C dX4_likeQuality_115 (by decide) ?_
              refine z_putfield (pc := 119) (fs' := [.ref A.v, .ref A.pa, .int (iI st), .ref A.tx, .int (iI ((tq.length : Nat) : Int)), .int (iI si), .int (iI ff), .int (iI wd), .int (iI th), .ref A.le, .ref A.qa, .int (iI ap), .int (iI nt), .int (iI rr), .int (iI rq), .int (iI rb), .int (iI 1), .ref A.ma, .ref A.na, .int (iI nd), .ref A.ua, .ref A.la, .int (iI up), .int (iI lo)]) C in_X4 tyX4 tyX4_ok nmX4 rfl 16 (by decide) q2098 (fun _ z => z) rfl (by decide) (by decide) (Nat.le_of_ble_eq_true rfl) gm_1 rfl dX4_likeQuality_119 ?_
              refine Z.nm (fun h12 eh12 => ?_)
              have kh12 : zkeep h h12 [A.m, A.v, A.pa, A.tx, A.ma, A.na, A.ua, A.la] := by rw [eh12]; exact zkeep.up zkeep.rf (Or.inl (by simp)) gm_1
              have fh12_0 : h12 A.m = some (true, .inr (3, [.ref A.v, .ref A.pa, .int (iI st), .ref A.tx, .int (iI ((tq.length : Nat) : Int)), .int (iI si), .int (iI ff), .int (iI wd), .int (iI th), .ref A.le, .ref A.qa, .int (iI ap), .int (iI nt), .int (iI rr), .int (iI rq), .int (iI rb), .int (iI 1), .ref A.ma, .ref A.na, .int (iI nd), .ref A.ua, .ref A.la, .int (iI up), .int (iI lo)])) := zse eh12
              have fh12_1 : h12 A.v = some (true, .inl (.int, 620, (mA V))) := zsn eh12 gv_1 (Ne.symm (zneA gm_1 gv_1))
              have fh12_2 : h12 A.pa = some (true, .inl (.int, 4960, (mA P))) := zsn eh12 gpa_1 (Ne.symm (zneA gm_1 gpa_1))
              have fh12_3 : h12 A.tx = some (true, .inl (.int, 200, (mA T))) := zsn eh12 gtx_1 (Ne.symm (zneA gm_1 gtx_1))
              have fh12_4 : h12 A.ma = some (true, .inl (.int, 620, (mA M))) := zsn eh12 gma_1 (Ne.symm (zneA gm_1 gma_1))
              have fh12_5 : h12 A.na = some (true, .inl (.int, 20, (mA N))) := zsn eh12 gna_1 (Ne.symm (zneA gm_1 gna_1))
              have fh12_6 : h12 A.ua = some (true, .inl (.int, 1200, (mA U))) := zsn eh12 gua_1 (Ne.symm (zneA gm_1 gua_1))
              have fh12_7 : h12 A.la = some (true, .inl (.int, 1200, (mA W))) := zsn eh12 gla_1 (Ne.symm (zneA gm_1 gla_1))
              refine z_iload (pc := 122) (j := 0) C dX4_likeQuality_122 rfl ?_
              have ewh : (1 : Int) = (if (qlt q).length ≤ lcp (qlt q) (tq.drop ap.toNat) then 1 else 0) := by split <;> omega
              have gz13 : h12 A.m = some (true, .inr (3, [.ref A.v, .ref A.pa, .int (iI st), .ref A.tx, .int (iI ((tq.length : Nat) : Int)), .int (iI si), .int (iI ff), .int (iI wd), .int (iI th), .ref A.le, .ref A.qa, .int (iI ap), .int (iI nt), .int (iI rr), .int (iI rq), .int (iI rb), .int (iI (if (qlt q).length ≤ lcp (qlt q) (tq.drop ap.toNat) then 1 else 0)), .ref A.ma, .ref A.na, .int (iI nd), .ref A.ua, .ref A.la, .int (iI up), .int (iI lo)])) := ewh ▸ fh12_0
              exact z_ireturn (pc := 124) C (by rw [hXp]; exact ⟨_, rfl, (by rw [hle]), ⟨gz13, fh12_1, fh12_2, fh12_3, fh12_4, fh12_5, fh12_6, fh12_7, (kh12.n gle_1 (List.not_mem_cons_of_ne_of_not_mem (Ne.symm (zneA gm_1 gle_1)) (List.not_mem_cons_of_ne_of_not_mem (zneT gle_1 gv_1 (by simp)) (List.not_mem_cons_of_ne_of_not_mem (zneT gle_1 gpa_1 (by simp)) (List.not_mem_cons_of_ne_of_not_mem (zneT gle_1 gtx_1 (by simp)) (List.not_mem_cons_of_ne_of_not_mem (zneT gle_1 gma_1 (by simp)) (List.not_mem_cons_of_ne_of_not_mem (zneT gle_1 gna_1 (by simp)) (List.not_mem_cons_of_ne_of_not_mem (zneT gle_1 gua_1 (by simp)) (List.not_mem_cons_of_ne_of_not_mem (zneT gle_1 gla_1 (by simp)) List.not_mem_nil))))))))), (kh12.n gqa_1 (List.not_mem_cons_of_ne_of_not_mem (Ne.symm (zneA gm_1 gqa_1)) (List.not_mem_cons_of_ne_of_not_mem (zneT gqa_1 gv_1 (by simp)) (List.not_mem_cons_of_ne_of_not_mem (zneT gqa_1 gpa_1 (by simp)) (List.not_mem_cons_of_ne_of_not_mem (zneT gqa_1 gtx_1 (by simp)) (List.not_mem_cons_of_ne_of_not_mem (zneT gqa_1 gma_1 (by simp)) (List.not_mem_cons_of_ne_of_not_mem (zneT gqa_1 gna_1 (by simp)) (List.not_mem_cons_of_ne_of_not_mem (zneT gqa_1 gua_1 (by simp)) (List.not_mem_cons_of_ne_of_not_mem (zneT gqa_1 gla_1 (by simp)) List.not_mem_nil))))))))), gd_1⟩, kh12⟩) dX4_likeQuality_124
          · refine z_aload_n (pc := 70) (j := 3) C dX4_likeQuality_70 rfl rfl ?_
            refine z_aload_n (pc := 71) (j := 3) C dX4_likeQuality_71 rfl rfl ?_
            refine z_getfield (pc := 72) (v := .int (iI ap)) C in_X4 rfl 11 (by decide) q2093 (fun _ z => z) gm_1 rfl dX4_likeQuality_72 ?_
            refine z_iload (pc := 75) (j := 0) C dX4_likeQuality_75 rfl ?_
            refine z_iadd (pc := 77) C dX4_likeQuality_77 ?_
            refine z_callV (pc := 78) (n := 1) (kc' := 0) (ks' := 0) C (m_sign C.t ⟨gm_1, gv_1, gpa_1, gtx_1, gma_1, gna_1, gua_1, gla_1, gle_1, gqa_1, gd_1⟩ htq hTr hTl (i := ap + l) (by omega)) (lw_V q2183 q2185 qs29 q74 q2186) (by decide +kernel) ⟨by decide, by decide⟩ gm_1 rfl rfl rfl (Nat.le_of_ble_eq_true rfl) dX4_likeQuality_78 (by omega) (by omega) (zpk (st' := [.int (iI (sga tq (ap + l)))]) rfl ?_) zrx
            have hsg81 := sga_r hTr (i := ap + l) (by omega)
            refine z_aload_n (pc := 81) (j := 3) C dX4_likeQuality_81 rfl rfl ?_
            refine z_getfield (pc := 82) (v := .ref A.qa) C in_X4 rfl 10 (by decide) q2092 (fun _ z => z) gm_1 rfl dX4_likeQuality_82 ?_
            refine z_iload_n (pc := 85) (j := 1) C dX4_likeQuality_85 rfl rfl ?_
            refine z_iload (pc := 86) (j := 0) C dX4_likeQuality_86 rfl ?_
            refine z_iadd (pc := 88) C dX4_likeQuality_88 ?_
            refine z_caload (pc := 89) (v := .int (iI (qaF (Int.toNat (b + l))))) C gqa_1 (by omega) rfl dX4_likeQuality_89 ?_
            refine z_icmp_ne (pc := 90) (tgt := 99) C dX4_likeQuality_90 (by decide) (by omega) (by omega) (fun c90 => ?_) (fun c90 => ?_)
            · have hle : l = (lcp (qlt q) (tq.drop ap.toNat) : Nat) := lkq_en (v := qaF (Int.toNat (b + l))) (by omega) hl_ hqa2 hqa3 (by omega)
              have hwh : (qaF (Int.toNat (b + l)) = 59) ↔ (qlt q).length ≤ lcp (qlt q) (tq.drop ap.toNat) := ⟨fun z => Classical.byContradiction fun y => (hqa2 (by omega)).2 z, fun z => hqa3 (by omega)⟩
              refine z_aload_n (pc := 99) (j := 3) C dX4_likeQuality_99 rfl rfl ?_
              refine z_aload_n (pc := 100) (j := 3) C dX4_likeQuality_100 rfl rfl ?_
              refine z_getfield (pc := 101) (v := .ref A.qa) C in_X4 rfl 10 (by decide) q2092 (fun _ z => z) gm_1 rfl dX4_likeQuality_101 ?_
              refine z_iload_n (pc := 104) (j := 1) C dX4_likeQuality_104 rfl rfl ?_
              refine z_iload (pc := 105) (j := 0) C dX4_likeQuality_105 rfl ?_
              refine z_iadd (pc := 107) C dX4_likeQuality_107 ?_
              refine z_caload (pc := 108) (v := .int (iI (qaF (Int.toNat (b + l))))) C gqa_1 (by omega) rfl dX4_likeQuality_108 ?_
              refine z_bipush (pc := 109) C dX4_likeQuality_109 (by decide) ?_
              refine z_icmp_ne (pc := 111) (tgt := 118) C dX4_likeQuality_111 (by decide) (by omega) (by decide) (fun c111 => ?_) (fun c111 => ?_)
              · refine z_iconst (pc := 118) C dX4_likeQuality_118 ?_
                refine z_putfield (pc := 119) (fs' := [.ref A.v, .ref A.pa, .int (iI st), .ref A.tx, .int (iI ((tq.length : Nat) : Int)), .int (iI si), .int (iI ff), .int (iI wd), .int (iI th), .ref A.le, .ref A.qa, .int (iI ap), .int (iI nt), .int (iI rr), .int (iI rq), .int (iI rb), .int (iI 0), .ref A.ma, .ref A.na, .int (iI nd), .ref A.ua, .ref A.la, .int (iI up), .int (iI lo)]) C in_X4 tyX4 tyX4_ok nmX4 rfl 16 (by decide) q2098 (fun _ z => z) rfl (by decide) (by decide) (Nat.le_of_ble_eq_true rfl) gm_1 rfl dX4_likeQuality_119 ?_
                refine Z.nm (fun h14 eh14 => ?_)
                have kh14 : zkeep h h14 [A.m, A.v, A.pa, A.tx, A.ma, A.na, A.ua, A.la] := by rw [eh14]; exact zkeep.up zkeep.rf (Or.inl (by simp)) gm_1
                have fh14_0 : h14 A.m = some (true, .inr (3, [.ref A.v, .ref A.pa, .int (iI st), .ref A.tx, .int (iI ((tq.length : Nat) : Int)), .int (iI si), .int (iI ff), .int (iI wd), .int (iI th), .ref A.le, .ref A.qa, .int (iI ap), .int (iI nt), .int (iI rr), .int (iI rq), .int (iI rb), .int (iI 0), .ref A.ma, .ref A.na, .int (iI nd), .ref A.ua, .ref A.la, .int (iI up), .int (iI lo)])) := zse eh14
                have fh14_1 : h14 A.v = some (true, .inl (.int, 620, (mA V))) := zsn eh14 gv_1 (Ne.symm (zneA gm_1 gv_1))
                have fh14_2 : h14 A.pa = some (true, .inl (.int, 4960, (mA P))) := zsn eh14 gpa_1 (Ne.symm (zneA gm_1 gpa_1))
                have fh14_3 : h14 A.tx = some (true, .inl (.int, 200, (mA T))) := zsn eh14 gtx_1 (Ne.symm (zneA gm_1 gtx_1))
                have fh14_4 : h14 A.ma = some (true, .inl (.int, 620, (mA M))) := zsn eh14 gma_1 (Ne.symm (zneA gm_1 gma_1))
                have fh14_5 : h14 A.na = some (true, .inl (.int, 20, (mA N))) := zsn eh14 gna_1 (Ne.symm (zneA gm_1 gna_1))
                have fh14_6 : h14 A.ua = some (true, .inl (.int, 1200, (mA U))) := zsn eh14 gua_1 (Ne.symm (zneA gm_1 gua_1))
                have fh14_7 : h14 A.la = some (true, .inl (.int, 1200, (mA W))) := zsn eh14 gla_1 (Ne.symm (zneA gm_1 gla_1))
                refine z_iload (pc := 122) (j := 0) C dX4_likeQuality_122 rfl ?_
                have ewh : (0 : Int) = (if (qlt q).length ≤ lcp (qlt q) (tq.drop ap.toNat) then 1 else 0) := by split <;> omega
                have gz15 : h14 A.m = some (true, .inr (3, [.ref A.v, .ref A.pa, .int (iI st), .ref A.tx, .int (iI ((tq.length : Nat) : Int)), .int (iI si), .int (iI ff), .int (iI wd), .int (iI th), .ref A.le, .ref A.qa, .int (iI ap), .int (iI nt), .int (iI rr), .int (iI rq), .int (iI rb), .int (iI (if (qlt q).length ≤ lcp (qlt q) (tq.drop ap.toNat) then 1 else 0)), .ref A.ma, .ref A.na, .int (iI nd), .ref A.ua, .ref A.la, .int (iI up), .int (iI lo)])) := ewh ▸ fh14_0
                exact z_ireturn (pc := 124) C (by rw [hXp]; exact ⟨_, rfl, (by rw [hle]), ⟨gz15, fh14_1, fh14_2, fh14_3, fh14_4, fh14_5, fh14_6, fh14_7, (kh14.n gle_1 (List.not_mem_cons_of_ne_of_not_mem (Ne.symm (zneA gm_1 gle_1)) (List.not_mem_cons_of_ne_of_not_mem (zneT gle_1 gv_1 (by simp)) (List.not_mem_cons_of_ne_of_not_mem (zneT gle_1 gpa_1 (by simp)) (List.not_mem_cons_of_ne_of_not_mem (zneT gle_1 gtx_1 (by simp)) (List.not_mem_cons_of_ne_of_not_mem (zneT gle_1 gma_1 (by simp)) (List.not_mem_cons_of_ne_of_not_mem (zneT gle_1 gna_1 (by simp)) (List.not_mem_cons_of_ne_of_not_mem (zneT gle_1 gua_1 (by simp)) (List.not_mem_cons_of_ne_of_not_mem (zneT gle_1 gla_1 (by simp)) List.not_mem_nil))))))))), (kh14.n gqa_1 (List.not_mem_cons_of_ne_of_not_mem (Ne.symm (zneA gm_1 gqa_1)) (List.not_mem_cons_of_ne_of_not_mem (zneT gqa_1 gv_1 (by simp)) (List.not_mem_cons_of_ne_of_not_mem (zneT gqa_1 gpa_1 (by simp)) (List.not_mem_cons_of_ne_of_not_mem (zneT gqa_1 gtx_1 (by simp)) (List.not_mem_cons_of_ne_of_not_mem (zneT gqa_1 gma_1 (by simp)) (List.not_mem_cons_of_ne_of_not_mem (zneT gqa_1 gna_1 (by simp)) (List.not_mem_cons_of_ne_of_not_mem (zneT gqa_1 gua_1 (by simp)) (List.not_mem_cons_of_ne_of_not_mem (zneT gqa_1 gla_1 (by simp)) List.not_mem_nil))))))))), gd_1⟩, kh14⟩) dX4_likeQuality_124
              · refine z_iconst (pc := 114) C dX4_likeQuality_114 ?_
                refine z_goto (pc := 115) (tgt := 119) C dX4_likeQuality_115 (by decide) ?_
                refine z_putfield (pc := 119) (fs' := [.ref A.v, .ref A.pa, .int (iI st), .ref A.tx, .int (iI ((tq.length : Nat) : Int)), .int (iI si), .int (iI ff), .int (iI wd), .int (iI th), .ref A.le, .ref A.qa, .int (iI ap), .int (iI nt), .int (iI rr), .int (iI rq), .int (iI rb), .int (iI 1), .ref A.ma, .ref A.na, .int (iI nd), .ref A.ua, .ref A.la, .int (iI up), .int (iI lo)]) C in_X4 tyX4 tyX4_ok nmX4 rfl 16 (by decide) q2098 (fun _ z => z) rfl (by decide) (by decide) (Nat.le_of_ble_eq_true rfl) gm_1 rfl dX4_likeQuality_119 ?_
                refine Z.nm (fun h16 eh16 => ?_)
                have kh16 : zkeep h h16 [A.m, A.v, A.pa, A.tx, A.ma, A.na, A.ua, A.la] := by rw [eh16]; exact zkeep.up zkeep.rf (Or.inl (by simp)) gm_1
                have fh16_0 : h16 A.m = some (true, .inr (3, [.ref A.v, .ref A.pa, .int (iI st), .ref A.tx, .int (iI ((tq.length : Nat) : Int)), .int (iI si), .int (iI ff), .int (iI wd), .int (iI th), .ref A.le, .ref A.qa, .int (iI ap), .int (iI nt), .int (iI rr), .int (iI rq), .int (iI rb), .int (iI 1), .ref A.ma, .ref A.na, .int (iI nd), .ref A.ua, .ref A.la, .int (iI up), .int (iI lo)])) := zse eh16
                have fh16_1 : h16 A.v = some (true, .inl (.int, 620, (mA V))) := zsn eh16 gv_1 (Ne.symm (zneA gm_1 gv_1))
                have fh16_2 : h16 A.pa = some (true, .inl (.int, 4960, (mA P))) := zsn eh16 gpa_1 (Ne.symm (zneA gm_1 gpa_1))
                have fh16_3 : h16 A.tx = some (true, .inl (.int, 200, (mA T))) := zsn eh16 gtx_1 (Ne.symm (zneA gm_1 gtx_1))
                have fh16_4 : h16 A.ma = some (true, .inl (.int, 620, (mA M))) := zsn eh16 gma_1 (Ne.symm (zneA gm_1 gma_1))
                have fh16_5 : h16 A.na = some (true, .inl (.int, 20, (mA N))) := zsn eh16 gna_1 (Ne.symm (zneA gm_1 gna_1))
                have fh16_6 : h16 A.ua = some (true, .inl (.int, 1200, (mA U))) := zsn eh16 gua_1 (Ne.symm (zneA gm_1 gua_1))
                have fh16_7 : h16 A.la = some (true, .inl (.int, 1200, (mA W))) := zsn eh16 gla_1 (Ne.symm (zneA gm_1 gla_1))
                refine z_iload (pc := 122) (j := 0) C dX4_likeQuality_122 rfl ?_
                have ewh : (1 : Int) = (if (qlt q).length ≤ lcp (qlt q) (tq.drop ap.toNat) then 1 else 0) := by split <;> omega
                have gz17 : h16 A.m = some (true, .inr (3, [.ref A.v, .ref A.pa, .int (iI st), .ref A.tx, .int (iI ((tq.length : Nat) : Int)), .int (iI si), .int (iI ff), .int (iI wd), .int (iI th), .ref A.le, .ref A.qa, .int (iI ap), .int (iI nt), .int (iI rr), .int (iI rq), .int (iI rb), .int (iI (if (qlt q).length ≤ lcp (qlt q) (tq.drop ap.toNat) then 1 else 0)), .ref A.ma, .ref A.na, .int (iI nd), .ref A.ua, .ref A.la, .int (iI up), .int (iI lo)])) := ewh ▸ fh16_0
                exact z_ireturn (pc := 124) C (by rw [hXp]; exact ⟨_, rfl, (by rw [hle]), ⟨gz17, fh16_1, fh16_2, fh16_3, fh16_4, fh16_5, fh16_6, fh16_7, (kh16.n gle_1 (List.not_mem_cons_of_ne_of_not_mem (Ne.symm (zneA gm_1 gle_1)) (List.not_mem_cons_of_ne_of_not_mem (zneT gle_1 gv_1 (by simp)) (List.not_mem_cons_of_ne_of_not_mem (zneT gle_1 gpa_1 (by simp)) (List.not_mem_cons_of_ne_of_not_mem (zneT gle_1 gtx_1 (by simp)) (List.not_mem_cons_of_ne_of_not_mem (zneT gle_1 gma_1 (by simp)) (List.not_mem_cons_of_ne_of_not_mem (zneT gle_1 gna_1 (by simp)) (List.not_mem_cons_of_ne_of_not_mem (zneT gle_1 gua_1 (by simp)) (List.not_mem_cons_of_ne_of_not_mem (zneT gle_1 gla_1 (by simp)) List.not_mem_nil))))))))), (kh16.n gqa_1 (List.not_mem_cons_of_ne_of_not_mem (Ne.symm (zneA gm_1 gqa_1)) (List.not_mem_cons_of_ne_of_not_mem (zneT gqa_1 gv_1 (by simp)) (List.not_mem_cons_of_ne_of_not_mem (zneT gqa_1 gpa_1 (by simp)) (List.not_mem_cons_of_ne_of_not_mem (zneT gqa_1 gtx_1 (by simp)) (List.not_mem_cons_of_ne_of_not_mem (zneT gqa_1 gma_1 (by simp)) (List.not_mem_cons_of_ne_of_not_mem (zneT gqa_1 gna_1 (by simp)) (List.not_mem_cons_of_ne_of_not_mem (zneT gqa_1 gua_1 (by simp)) (List.not_mem_cons_of_ne_of_not_mem (zneT gqa_1 gla_1 (by simp)) List.not_mem_nil))))))))), gd_1⟩, kh16⟩) dX4_likeQuality_124
            · have c90x := c90
              refine z_iinc (pc := 93) (k := 0) (L' := [(4, .int (iI (l + 1))), (3, .int (iI b)), (1, .int (iI q)), (0, .ref A.m)]) C dX4_likeQuality_93 rfl (by rw [hnL]; decide) rfl ?_
              refine z_goto (pc := 96) (tgt := 56) C dX4_likeQuality_96 (by decide) ?_
              refine Z.weak (L' := [(4, .int (iI (l + 1))), (3, .int (iI b)), (1, .int (iI q)), (0, .ref A.m)]) (kc' := 0) (ks' := 0) [0, 1, 2, 3] rfl (by omega) (by omega) ?_
              exact ih56 _ (by omega) (l + 1) (lkq_st hTr (by omega) hl_ hqa2 hqa3 (by omega) c90x) rfl
        refine Z.weak (L' := [(4, .int (iI 0)), (3, .int (iI b)), (1, .int (iI q)), (0, .ref A.m)]) (kc' := 0) (ks' := 0) [0, 1, 3, 4] rfl (by omega) (by omega) ?_
        exact loop56 _ 0 ⟨by omega, Nat.zero_le _, Nat.zero_le _⟩ rfl
      · refine z_iload_n (pc := 22) (j := 2) C dX4_likeQuality_22 rfl rfl ?_
        refine z_aload_n (pc := 23) (j := 4) C dX4_likeQuality_23 rfl rfl ?_
        refine z_getfield (pc := 24) (v := .ref A.qa) C in_X4 rfl 10 (by decide) q2092 (fun _ z => z) gm_1 rfl dX4_likeQuality_24 ?_
        refine z_iload (pc := 27) (j := 0) C dX4_likeQuality_27 rfl ?_
        refine z_caload (pc := 29) (v := .int (iI (qaF (Int.toNat k)))) C gqa_1 (by omega) rfl dX4_likeQuality_29 ?_
        refine z_bipush (pc := 30) C dX4_likeQuality_30 (by decide) ?_
        refine z_icmp_ne (pc := 32) (tgt := 39) C dX4_likeQuality_32 (by decide) (by omega) (by decide) (fun c32 => ?_) (fun c32 => ?_)
        · refine z_iconst (pc := 39) C dX4_likeQuality_39 ?_
          refine z_iadd (pc := 40) C dX4_likeQuality_40 ?_
          refine z_istore_n (pc := 41) (L' := [(2, .int (iI (n + 0))), (4, .int (iI k)), (3, .int (iI b)), (1, .int (iI q)), (0, .ref A.m)]) C dX4_likeQuality_41 rfl (by rw [hnL]; decide) rfl ?_
          refine z_iload (pc := 42) (j := 1) C dX4_likeQuality_42 rfl ?_
          refine z_iconst (pc := 44) C dX4_likeQuality_44 ?_
          refine z_iadd (pc := 45) C dX4_likeQuality_45 ?_
          refine z_istore_n (pc := 46) (L' := [(3, .int (iI (k + 1))), (2, .int (iI (n + 0))), (4, .int (iI k)), (1, .int (iI q)), (0, .ref A.m)]) C dX4_likeQuality_46 rfl (by rw [hnL]; decide) rfl ?_
          refine z_iinc (pc := 47) (k := 2) (L' := [(4, .int (iI (k + 1))), (3, .int (iI (k + 1))), (2, .int (iI (n + 0))), (1, .int (iI q)), (0, .ref A.m)]) C dX4_likeQuality_47 rfl (by rw [hnL]; decide) rfl ?_
          refine z_goto (pc := 50) (tgt := 7) C dX4_likeQuality_50 (by decide) ?_
          refine Z.weak (L' := [(4, .int (iI (k + 1))), (3, .int (iI (k + 1))), (2, .int (iI (n + 0))), (1, .int (iI q)), (0, .ref A.m)]) (kc' := 0) (ks' := 0) [0, 1, 2, 3, 4] rfl (by omega) (by omega) ?_
          exact ih7 _ (by omega) (k + 1) (n + 0) (k + 1) (by omega) (by rw [show (k + 1).toNat = k.toNat + 1 by omega, hqs, if_neg (by omega)]; omega) rfl (by rw [show (k + 1).toNat = k.toNat + 1 by omega]; exact (qbg_s q.toNat (by omega) k.toNat (by omega)).1 hkb (by omega)) rfl
        · refine z_iconst (pc := 35) C dX4_likeQuality_35 ?_
          refine z_goto (pc := 36) (tgt := 40) C dX4_likeQuality_36 (by decide) ?_
          refine z_iadd (pc := 40) C dX4_likeQuality_40 ?_
          refine z_istore_n (pc := 41) (L' := [(2, .int (iI (n + 1))), (4, .int (iI k)), (3, .int (iI b)), (1, .int (iI q)), (0, .ref A.m)]) C dX4_likeQuality_41 rfl (by rw [hnL]; decide) rfl ?_
          refine z_iload (pc := 42) (j := 1) C dX4_likeQuality_42 rfl ?_
          refine z_iconst (pc := 44) C dX4_likeQuality_44 ?_
          refine z_iadd (pc := 45) C dX4_likeQuality_45 ?_
          refine z_istore_n (pc := 46) (L' := [(3, .int (iI (k + 1))), (2, .int (iI (n + 1))), (4, .int (iI k)), (1, .int (iI q)), (0, .ref A.m)]) C dX4_likeQuality_46 rfl (by rw [hnL]; decide) rfl ?_
          refine z_iinc (pc := 47) (k := 2) (L' := [(4, .int (iI (k + 1))), (3, .int (iI (k + 1))), (2, .int (iI (n + 1))), (1, .int (iI q)), (0, .ref A.m)]) C dX4_likeQuality_47 rfl (by rw [hnL]; decide) rfl ?_
          refine z_goto (pc := 50) (tgt := 7) C dX4_likeQuality_50 (by decide) ?_
          refine Z.weak (L' := [(4, .int (iI (k + 1))), (3, .int (iI (k + 1))), (2, .int (iI (n + 1))), (1, .int (iI q)), (0, .ref A.m)]) (kc' := 0) (ks' := 0) [0, 1, 2, 3, 4] rfl (by omega) (by omega) ?_
          exact ih7 _ (by omega) (k + 1) (n + 1) (k + 1) (by omega) (by rw [show (k + 1).toNat = k.toNat + 1 by omega, hqs, if_pos (by omega)]; omega) rfl (by rw [show (k + 1).toNat = k.toNat + 1 by omega]; exact (qbg_s q.toNat (by omega) k.toNat (by omega)).1 hkb (by omega)) rfl
  refine Z.weak (L' := [(4, .int (iI 0)), (3, .int (iI 0)), (2, .int (iI 0)), (1, .int (iI q)), (0, .ref A.m)]) (kc' := 0) (ks' := 0) [0, 1, 2, 4, 3] rfl (by omega) (by omega) ?_
  exact loop7 _ 0 0 0 (by omega) rfl rfl (Nat.zero_le _) rfl
set_option maxHeartbeats 4000000 in
theorem m_chord_ {l : Launch} (hl : l.stackTraces = false) {Γ : zCx} {h : zH} {tq : List Int} {A : zMA} {st si ff wd th ap nt rr rq rb wh nd up lo : Int} {V P T M N U W : Nat → Int} (hM : mM h A st ((tq.length : Nat) : Int) si ff wd th ap nt rr rq rb wh nd up lo V P T M N U W) (htq : txA tq T) (hTr : ∀ c ∈ tq, 32 ≤ c ∧ c ≤ 126) (hTl : tq.length ≤ 200) {e e' : Int} (he : (e = 0 ∧ e' = -1) ∨ (e = 93 ∧ e' = 93)) (hap : 0 ≤ ap ∧ ap ≤ 300)  : zMet l yX4_readsChord (ws_ yX4_readsChord cX4_readsChord 7 (some .boolean)) ({ frames := 2, cells := 0, slots := 0, locals := 45 }) Γ h [.ref A.m, .int (iI e')] (zrt (fun w h' => ((∃ rt q b p' nt' wh', (chp tq ap e = .inr (rt, q, b, p')) ∧ w = some (.int (iI (1))) ∧ mM h' A st ((tq.length : Nat) : Int) si ff wd th (p' - 1) nt' rt q b wh' nd up lo V P T M N U W) ∨ (∃ x nt' rr' rq' rb' wh', (chp tq ap e = .inl x) ∧ w = some (.int (iI (0))) ∧ mM h' A st ((tq.length : Nat) : Int) si ff wd th x nt' rr' rq' rb' wh' nd up lo V P T M N U W)) ∧ zkeep h h' [A.m, A.v, A.pa, A.tx, A.ma, A.na, A.ua, A.la])) 0 0 := by
  refine zMet.of (cc := cX4_readsChord) hl (plainFor_of_name (by decide +kernel)) (Nat.le_of_ble_eq_true rfl) ?_
  intro X hXl hXΓ hXp C hnm hnL
  have C : zC X cX4_readsChord RX4 (some .boolean) 2 45 [] := C
  have hnL : X.2.1.2.2.2.2 = 7 := hnL
  subst hXl hXΓ
  show Z X h 0 0 [(0, .ref A.m), (1, .int (iI e'))] 0 []
  obtain ⟨gm_1, gv_1, gpa_1, gtx_1, gma_1, gna_1, gua_1, gla_1, gle_1, gqa_1, gd_1⟩ := id hM
  refine z_aload_n (pc := 0) (j := 0) C dX4_readsChord_0 rfl rfl ?_
  refine z_callV (pc := 1) (n := 0) (kc' := 0) (ks' := 0) C (m_note C.t ⟨gm_1, gv_1, gpa_1, gtx_1, gma_1, gna_1, gua_1, gla_1, gle_1, gqa_1, gd_1⟩ htq hTr hTl (by omega)) (lw_V q2191 q2193 qs31 q74 q2194) (by decide +kernel) ⟨by decide, by decide⟩ gm_1 rfl rfl rfl (Nat.le_of_ble_eq_true rfl) dX4_readsChord_1 (by omega) (by omega) (zrk fun w h2 hp => ?_) zrx
  obtain ⟨hq_4, k3⟩ := hp
  have kh2 : zkeep h h2 [A.m, A.v, A.pa, A.tx, A.ma, A.na, A.ua, A.la] := zkeep.loc zkeep.rf k3 (fun q hq => Or.inl (Or.inr hq))
  rcases hq_4 with ⟨hc_4, rfl, hM_4⟩ | ⟨hc_4, rfl, hM_4⟩
  · have hM_4 : mM h2 A st ((tq.length : Nat) : Int) si ff wd th (nen tq ap) (npl tq ap) rr rq rb wh nd up lo V P T M N U W := hM_4
    obtain ⟨gm_5, gv_5, gpa_5, gtx_5, gma_5, gna_5, gua_5, gla_5, gle_5, gqa_5, gd_5⟩ := id hM_4
    show Z X h2 0 0 [(0, .ref A.m), (1, .int (iI e'))] 4 [.int (iI 1)]
    have hne_4 : ap + 1 ≤ nen tq (ap) ∧ nen tq (ap) ≤ ap + 2 := by unfold nen; split <;> omega
    have hnl_4 := nen_le hc_4 (by omega)
    have hnp_4 : -8 ≤ npl tq (ap) ∧ npl tq (ap) ≤ 12 := by have := zixL_r (tch tq (ap)); have := hc_4.2; unfold npl nsg; (repeat' split) <;> omega
    refine z_if_ne (pc := 4) (tgt := 9) C dX4_readsChord_4 (by decide) (by decide) (fun _ => ?_) (fun z => absurd z (by decide))
    refine z_aload_n (pc := 9) (j := 0) C dX4_readsChord_9 rfl rfl ?_
    refine z_aload_n (pc := 10) (j := 0) C dX4_readsChord_10 rfl rfl ?_
    refine z_getfield (pc := 11) (v := .int (iI (npl tq ap))) C in_X4 rfl 12 (by decide) q2094 (fun _ z => z) gm_5 rfl dX4_readsChord_11 ?_
    refine z_putfield (pc := 14) (fs' := [.ref A.v, .ref A.pa, .int (iI st), .ref A.tx, .int (iI ((tq.length : Nat) : Int)), .int (iI si), .int (iI ff), .int (iI wd), .int (iI th), .ref A.le, .ref A.qa, .int (iI (nen tq ap)), .int (iI (npl tq ap)), .int (iI (npl tq ap)), .int (iI rq), .int (iI rb), .int (iI wh), .ref A.ma, .ref A.na, .int (iI nd), .ref A.ua, .ref A.la, .int (iI up), .int (iI lo)]) C in_X4 tyX4 tyX4_ok nmX4 rfl 13 (by decide) q2095 (fun _ z => z) rfl rfl rfl (Nat.le_of_ble_eq_true rfl) gm_5 rfl dX4_readsChord_14 ?_
    refine Z.nm (fun h6 eh6 => ?_)
    have kh6 : zkeep h h6 [A.m, A.v, A.pa, A.tx, A.ma, A.na, A.ua, A.la] := by rw [eh6]; exact zkeep.up kh2 (Or.inl (by simp)) gm_5
    have fh6_0 : h6 A.m = some (true, .inr (3, [.ref A.v, .ref A.pa, .int (iI st), .ref A.tx, .int (iI ((tq.length : Nat) : Int)), .int (iI si), .int (iI ff), .int (iI wd), .int (iI th), .ref A.le, .ref A.qa, .int (iI (nen tq ap)), .int (iI (npl tq ap)), .int (iI (npl tq ap)), .int (iI rq), .int (iI rb), .int (iI wh), .ref A.ma, .ref A.na, .int (iI nd), .ref A.ua, .ref A.la, .int (iI up), .int (iI lo)])) := zse eh6
    have fh6_1 : h6 A.v = some (true, .inl (.int, 620, (mA V))) := zsn eh6 gv_5 (Ne.symm (zneA gm_5 gv_5))
    have fh6_2 : h6 A.pa = some (true, .inl (.int, 4960, (mA P))) := zsn eh6 gpa_5 (Ne.symm (zneA gm_5 gpa_5))
    have fh6_3 : h6 A.tx = some (true, .inl (.int, 200, (mA T))) := zsn eh6 gtx_5 (Ne.symm (zneA gm_5 gtx_5))
    have fh6_4 : h6 A.ma = some (true, .inl (.int, 620, (mA M))) := zsn eh6 gma_5 (Ne.symm (zneA gm_5 gma_5))
    have fh6_5 : h6 A.na = some (true, .inl (.int, 20, (mA N))) := zsn eh6 gna_5 (Ne.symm (zneA gm_5 gna_5))
    have fh6_6 : h6 A.ua = some (true, .inl (.int, 1200, (mA U))) := zsn eh6 gua_5 (Ne.symm (zneA gm_5 gua_5))
    have fh6_7 : h6 A.la = some (true, .inl (.int, 1200, (mA W))) := zsn eh6 gla_5 (Ne.symm (zneA gm_5 gla_5))
    have fh6_8 : h6 A.le = some (true, .inl (.char, 7, (mA ltF))) := zsn eh6 gle_5 (Ne.symm (zneA gm_5 gle_5))
    have fh6_9 : h6 A.qa = some (true, .inl (.char, 30, (mA qaF))) := zsn eh6 gqa_5 (Ne.symm (zneA gm_5 gqa_5))
    refine z_aload_n (pc := 17) (j := 0) C dX4_readsChord_17 rfl rfl ?_
    refine z_bipush (pc := 18) C dX4_readsChord_18 (by decide) ?_
    refine z_putfield (pc := 20) (fs' := [.ref A.v, .ref A.pa, .int (iI st), .ref A.tx, .int (iI ((tq.length : Nat) : Int)), .int (iI si), .int (iI ff), .int (iI wd), .int (iI th), .ref A.le, .ref A.qa, .int (iI (nen tq ap)), .int (iI (npl tq ap)), .int (iI (npl tq ap)), .int (iI rq), .int (iI 100), .int (iI wh), .ref A.ma, .ref A.na, .int (iI nd), .ref A.ua, .ref A.la, .int (iI up), .int (iI lo)]) C in_X4 tyX4 tyX4_ok nmX4 rfl 15 (by decide) q2097 (fun _ z => z) rfl rfl rfl (Nat.le_of_ble_eq_true rfl) fh6_0 rfl dX4_readsChord_20 ?_
    refine Z.nm (fun h7 eh7 => ?_)
    have kh7 : zkeep h h7 [A.m, A.v, A.pa, A.tx, A.ma, A.na, A.ua, A.la] := by rw [eh7]; exact zkeep.up kh6 (Or.inl (by simp)) fh6_0
    have fh7_0 : h7 A.m = some (true, .inr (3, [.ref A.v, .ref A.pa, .int (iI st), .ref A.tx, .int (iI ((tq.length : Nat) : Int)), .int (iI si), .int (iI ff), .int (iI wd), .int (iI th), .ref A.le, .ref A.qa, .int (iI (nen tq ap)), .int (iI (npl tq ap)), .int (iI (npl tq ap)), .int (iI rq), .int (iI 100), .int (iI wh), .ref A.ma, .ref A.na, .int (iI nd), .ref A.ua, .ref A.la, .int (iI up), .int (iI lo)])) := zse eh7
    have fh7_1 : h7 A.v = some (true, .inl (.int, 620, (mA V))) := zsn eh7 fh6_1 (Ne.symm (zneA fh6_0 fh6_1))
    have fh7_2 : h7 A.pa = some (true, .inl (.int, 4960, (mA P))) := zsn eh7 fh6_2 (Ne.symm (zneA fh6_0 fh6_2))
    have fh7_3 : h7 A.tx = some (true, .inl (.int, 200, (mA T))) := zsn eh7 fh6_3 (Ne.symm (zneA fh6_0 fh6_3))
    have fh7_4 : h7 A.ma = some (true, .inl (.int, 620, (mA M))) := zsn eh7 fh6_4 (Ne.symm (zneA fh6_0 fh6_4))
    have fh7_5 : h7 A.na = some (true, .inl (.int, 20, (mA N))) := zsn eh7 fh6_5 (Ne.symm (zneA fh6_0 fh6_5))
    have fh7_6 : h7 A.ua = some (true, .inl (.int, 1200, (mA U))) := zsn eh7 fh6_6 (Ne.symm (zneA fh6_0 fh6_6))
    have fh7_7 : h7 A.la = some (true, .inl (.int, 1200, (mA W))) := zsn eh7 fh6_7 (Ne.symm (zneA fh6_0 fh6_7))
    have fh7_8 : h7 A.le = some (true, .inl (.char, 7, (mA ltF))) := zsn eh7 fh6_8 (Ne.symm (zneA fh6_0 fh6_8))
    have fh7_9 : h7 A.qa = some (true, .inl (.char, 30, (mA qaF))) := zsn eh7 fh6_9 (Ne.symm (zneA fh6_0 fh6_9))
    refine z_iconst (pc := 23) C dX4_readsChord_23 ?_
    refine z_istore_n (pc := 24) (L' := [(2, .int (iI 0)), (0, .ref A.m), (1, .int (iI e'))]) C dX4_readsChord_24 rfl (by rw [hnL]; decide) rfl ?_
    refine z_iconst (pc := 25) C dX4_readsChord_25 ?_
    refine z_istore_n (pc := 26) (L' := [(3, .int (iI 0)), (2, .int (iI 0)), (0, .ref A.m), (1, .int (iI e'))]) C dX4_readsChord_26 rfl (by rw [hnL]; decide) rfl ?_
    refine z_iconst (pc := 27) C dX4_readsChord_27 ?_
    refine z_istore (pc := 28) (L' := [(4, .int (iI 0)), (3, .int (iI 0)), (2, .int (iI 0)), (0, .ref A.m), (1, .int (iI e'))]) C dX4_readsChord_28 (by rw [hnL]; decide) rfl ?_
    refine z_iconst (pc := 30) C dX4_readsChord_30 ?_
    refine z_istore (pc := 31) (L' := [(5, .int (iI 0)), (4, .int (iI 0)), (3, .int (iI 0)), (2, .int (iI 0)), (0, .ref A.m), (1, .int (iI e'))]) C dX4_readsChord_31 (by rw [hnL]; decide) rfl ?_
    have loop33 : ∀ (n33 : Nat) (k : Int) (has : Int) (best : Int) (most : Int) (wv : Int) (g33 : zH), (mM g33 A st ((tq.length : Nat) : Int) si ff wd th (nen tq ap) (npl tq ap) (npl tq ap) rq 100 wv nd up lo V P T M N U W) → (zkeep h g33 [A.m, A.v, A.pa, A.tx, A.ma, A.na, A.ua, A.la]) → (0 ≤ k ∧ k ≤ 10) → (most = (qmxk (tq.drop (nen tq ap).toNat) k.toNat : Nat)) → (rcB (tq.drop (nen tq ap).toNat) k has best) → ((10 - k).toNat) = n33 → Z X g33 0 0 [(5, .int (iI k)), (4, .int (iI has)), (3, .int (iI best)), (2, .int (iI most)), (1, .int (iI e')), (0, .ref A.m)] 33 [] := by
      intro n33
      induction n33 using Nat.strongRecOn with
      | ind n33 ih33 =>
      intro k has best most wv g33 hMg33 hkp33 hk hmost hB hn33
      obtain ⟨gm_8, gv_8, gpa_8, gtx_8, gma_8, gna_8, gua_8, gla_8, gle_8, gqa_8, gd_8⟩ := id hMg33
      refine z_iload (pc := 33) (j := 0) C dX4_readsChord_33 rfl ?_
      refine z_bipush (pc := 35) C dX4_readsChord_35 (by decide) ?_
      refine z_icmp_ge (pc := 37) (tgt := 85) C dX4_readsChord_37 (by decide) (by omega) (by decide) (fun c37 => ?_) (fun c37 => ?_)
      · have hk10 : k = 10 := by omega
        have hB10 := hB
        rw [hk10] at hB10 hmost
        have hh01 := rc_h hB10
        have hqm : most = (qmx (tq.drop (nen tq ap).toNat) : Nat) := hmost
        have hqle : ((qmx (tq.drop (nen tq ap).toNat) : Nat) : Int) ≤ (tq.length : Nat) - nen tq ap := by have := qmxk_le (tq.drop (nen tq ap).toNat) 10; simp only [List.length_drop] at this; unfold qmx; omega
        refine z_aload_n (pc := 85) (j := 5) C dX4_readsChord_85 rfl rfl ?_
        refine z_dup (pc := 86) C dX4_readsChord_86 rfl ?_
        refine z_getfield (pc := 87) (v := .int (iI (nen tq ap))) C in_X4 rfl 11 (by decide) q2093 (fun _ z => z) gm_8 rfl dX4_readsChord_87 ?_
        refine z_iload_n (pc := 90) (j := 3) C dX4_readsChord_90 rfl rfl ?_
        refine z_iadd (pc := 91) C dX4_readsChord_91 ?_
        refine z_putfield (pc := 92) (fs' := [.ref A.v, .ref A.pa, .int (iI st), .ref A.tx, .int (iI ((tq.length : Nat) : Int)), .int (iI si), .int (iI ff), .int (iI wd), .int (iI th), .ref A.le, .ref A.qa, .int (iI ((nen tq ap) + most)), .int (iI (npl tq ap)), .int (iI (npl tq ap)), .int (iI rq), .int (iI 100), .int (iI wv), .ref A.ma, .ref A.na, .int (iI nd), .ref A.ua, .ref A.la, .int (iI up), .int (iI lo)]) C in_X4 tyX4 tyX4_ok nmX4 rfl 11 (by decide) q2093 (fun _ z => z) rfl rfl rfl (Nat.le_of_ble_eq_true rfl) gm_8 rfl dX4_readsChord_92 ?_
        refine Z.nm (fun h9 eh9 => ?_)
        have kh9 : zkeep h h9 [A.m, A.v, A.pa, A.tx, A.ma, A.na, A.ua, A.la] := by rw [eh9]; exact zkeep.up hkp33 (Or.inl (by simp)) gm_8
        have fh9_0 : h9 A.m = some (true, .inr (3, [.ref A.v, .ref A.pa, .int (iI st), .ref A.tx, .int (iI ((tq.length : Nat) : Int)), .int (iI si), .int (iI ff), .int (iI wd), .int (iI th), .ref A.le, .ref A.qa, .int (iI ((nen tq ap) + most)), .int (iI (npl tq ap)), .int (iI (npl tq ap)), .int (iI rq), .int (iI 100), .int (iI wv), .ref A.ma, .ref A.na, .int (iI nd), .ref A.ua, .ref A.la, .int (iI up), .int (iI lo)])) := zse eh9
        have fh9_1 : h9 A.v = some (true, .inl (.int, 620, (mA V))) := zsn eh9 gv_8 (Ne.symm (zneA gm_8 gv_8))
        have fh9_2 : h9 A.pa = some (true, .inl (.int, 4960, (mA P))) := zsn eh9 gpa_8 (Ne.symm (zneA gm_8 gpa_8))
        have fh9_3 : h9 A.tx = some (true, .inl (.int, 200, (mA T))) := zsn eh9 gtx_8 (Ne.symm (zneA gm_8 gtx_8))
        have fh9_4 : h9 A.ma = some (true, .inl (.int, 620, (mA M))) := zsn eh9 gma_8 (Ne.symm (zneA gm_8 gma_8))
        have fh9_5 : h9 A.na = some (true, .inl (.int, 20, (mA N))) := zsn eh9 gna_8 (Ne.symm (zneA gm_8 gna_8))
        have fh9_6 : h9 A.ua = some (true, .inl (.int, 1200, (mA U))) := zsn eh9 gua_8 (Ne.symm (zneA gm_8 gua_8))
        have fh9_7 : h9 A.la = some (true, .inl (.int, 1200, (mA W))) := zsn eh9 gla_8 (Ne.symm (zneA gm_8 gla_8))
        have fh9_8 : h9 A.le = some (true, .inl (.char, 7, (mA ltF))) := zsn eh9 gle_8 (Ne.symm (zneA gm_8 gle_8))
        have fh9_9 : h9 A.qa = some (true, .inl (.char, 30, (mA qaF))) := zsn eh9 gqa_8 (Ne.symm (zneA gm_8 gqa_8))
        have egz10 : ((nen tq ap) + most : Int) = (nen tq ap + (qmx (tq.drop (nen tq ap).toNat) : Nat)) := by omega
        have gz10 : h9 A.m = some (true, .inr (3, [.ref A.v, .ref A.pa, .int (iI st), .ref A.tx, .int (iI ((tq.length : Nat) : Int)), .int (iI si), .int (iI ff), .int (iI wd), .int (iI th), .ref A.le, .ref A.qa, .int (iI (nen tq ap + (qmx (tq.drop (nen tq ap).toNat) : Nat))), .int (iI (npl tq ap)), .int (iI (npl tq ap)), .int (iI rq), .int (iI 100), .int (iI wv), .ref A.ma, .ref A.na, .int (iI nd), .ref A.ua, .ref A.la, .int (iI up), .int (iI lo)])) := egz10 ▸ fh9_0
        refine z_aload_n (pc := 95) (j := 5) C dX4_readsChord_95 rfl rfl ?_
        refine z_iload_n (pc := 96) (j := 2) C dX4_readsChord_96 rfl rfl ?_
        refine z_putfield (pc := 97) (fs' := [.ref A.v, .ref A.pa, .int (iI st), .ref A.tx, .int (iI ((tq.length : Nat) : Int)), .int (iI si), .int (iI ff), .int (iI wd), .int (iI th), .ref A.le, .ref A.qa, .int (iI (nen tq ap + (qmx (tq.drop (nen tq ap).toNat) : Nat))), .int (iI (npl tq ap)), .int (iI (npl tq ap)), .int (iI best), .int (iI 100), .int (iI wv), .ref A.ma, .ref A.na, .int (iI nd), .ref A.ua, .ref A.la, .int (iI up), .int (iI lo)]) C in_X4 tyX4 tyX4_ok nmX4 rfl 14 (by decide) q2096 (fun _ z => z) rfl rfl rfl (Nat.le_of_ble_eq_true rfl) gz10 rfl dX4_readsChord_97 ?_
        refine Z.nm (fun h11 eh11 => ?_)
        have kh11 : zkeep h h11 [A.m, A.v, A.pa, A.tx, A.ma, A.na, A.ua, A.la] := by rw [eh11]; exact zkeep.up kh9 (Or.inl (by simp)) gz10
        have fh11_0 : h11 A.m = some (true, .inr (3, [.ref A.v, .ref A.pa, .int (iI st), .ref A.tx, .int (iI ((tq.length : Nat) : Int)), .int (iI si), .int (iI ff), .int (iI wd), .int (iI th), .ref A.le, .ref A.qa, .int (iI (nen tq ap + (qmx (tq.drop (nen tq ap).toNat) : Nat))), .int (iI (npl tq ap)), .int (iI (npl tq ap)), .int (iI best), .int (iI 100), .int (iI wv), .ref A.ma, .ref A.na, .int (iI nd), .ref A.ua, .ref A.la, .int (iI up), .int (iI lo)])) := zse eh11
        have fh11_1 : h11 A.v = some (true, .inl (.int, 620, (mA V))) := zsn eh11 fh9_1 (Ne.symm (zneA gz10 fh9_1))
        have fh11_2 : h11 A.pa = some (true, .inl (.int, 4960, (mA P))) := zsn eh11 fh9_2 (Ne.symm (zneA gz10 fh9_2))
        have fh11_3 : h11 A.tx = some (true, .inl (.int, 200, (mA T))) := zsn eh11 fh9_3 (Ne.symm (zneA gz10 fh9_3))
        have fh11_4 : h11 A.ma = some (true, .inl (.int, 620, (mA M))) := zsn eh11 fh9_4 (Ne.symm (zneA gz10 fh9_4))
        have fh11_5 : h11 A.na = some (true, .inl (.int, 20, (mA N))) := zsn eh11 fh9_5 (Ne.symm (zneA gz10 fh9_5))
        have fh11_6 : h11 A.ua = some (true, .inl (.int, 1200, (mA U))) := zsn eh11 fh9_6 (Ne.symm (zneA gz10 fh9_6))
        have fh11_7 : h11 A.la = some (true, .inl (.int, 1200, (mA W))) := zsn eh11 fh9_7 (Ne.symm (zneA gz10 fh9_7))
        have fh11_8 : h11 A.le = some (true, .inl (.char, 7, (mA ltF))) := zsn eh11 fh9_8 (Ne.symm (zneA gz10 fh9_8))
        have fh11_9 : h11 A.qa = some (true, .inl (.char, 30, (mA qaF))) := zsn eh11 fh9_9 (Ne.symm (zneA gz10 fh9_9))
        refine z_iload (pc := 100) (j := 1) C dX4_readsChord_100 rfl ?_
        refine z_if_ne (pc := 102) (tgt := 107) C dX4_readsChord_102 (by decide) (by omega) (fun c102 => ?_) (fun c102 => ?_)
        · have hz1 : has = 1 := by omega
          rw [hz1] at hB10
          obtain ⟨hq1, hbr1, hbr2⟩ := rc_e1 hB10
          have egz12 : (best : Int) = qfd (tq.drop (nen tq ap).toNat) := hq1.symm
          have gz12 : h11 A.m = some (true, .inr (3, [.ref A.v, .ref A.pa, .int (iI st), .ref A.tx, .int (iI ((tq.length : Nat) : Int)), .int (iI si), .int (iI ff), .int (iI wd), .int (iI th), .ref A.le, .ref A.qa, .int (iI (nen tq ap + (qmx (tq.drop (nen tq ap).toNat) : Nat))), .int (iI (npl tq ap)), .int (iI (npl tq ap)), .int (iI (qfd (tq.drop (nen tq ap).toNat))), .int (iI 100), .int (iI wv), .ref A.ma, .ref A.na, .int (iI nd), .ref A.ua, .ref A.la, .int (iI up), .int (iI lo)])) := egz12 ▸ fh11_0
          refine z_aload_n (pc := 107) (j := 5) C dX4_readsChord_107 rfl rfl ?_
          refine z_aload_n (pc := 108) (j := 5) C dX4_readsChord_108 rfl rfl ?_
          refine z_getfield (pc := 109) (v := .int (iI (nen tq ap + (qmx (tq.drop (nen tq ap).toNat) : Nat)))) C in_X4 rfl 11 (by decide) q2093 (fun _ z => z) gz12 rfl dX4_readsChord_109 ?_
          refine z_callV (pc := 112) (n := 1) (kc' := 0) (ks' := 0) C (m_sign C.t ⟨gz12, fh11_1, fh11_2, fh11_3, fh11_4, fh11_5, fh11_6, fh11_7, fh11_8, fh11_9, gd_8⟩ htq hTr hTl (i := (nen tq ap + (qmx (tq.drop (nen tq ap).toNat) : Nat))) (by omega)) (lw_V q2183 q2185 qs29 q74 q2186) (by decide +kernel) ⟨by decide, by decide⟩ gz12 rfl rfl rfl (Nat.le_of_ble_eq_true rfl) dX4_readsChord_112 (by omega) (by omega) (zpk (st' := [.int (iI (sga tq (nen tq ap + (qmx (tq.drop (nen tq ap).toNat) : Nat))))]) rfl ?_) zrx
          have hsg115 := sga_r hTr (i := (nen tq ap + (qmx (tq.drop (nen tq ap).toNat) : Nat))) (by omega)
          refine z_bipush (pc := 115) C dX4_readsChord_115 (by decide) ?_
          refine z_icmp_ne (pc := 117) (tgt := 147) C dX4_readsChord_117 (by decide) (by omega) (by decide) (fun c117 => ?_) (fun c117 => ?_)
          · have hq1x : 0 ≤ qfd (tq.drop (nen tq ap).toNat) := by omega
            have h47 : ¬ tch tq (nen tq ap + (qmx (tq.drop (nen tq ap).toNat) : Nat)) = 47 := by have := sga_t (T := tq) (nen tq ap + (qmx (tq.drop (nen tq ap).toNat) : Nat)) 47 (by decide); omega
            refine z_aload_n (pc := 147) (j := 5) C dX4_readsChord_147 rfl rfl ?_
            refine z_aload_n (pc := 148) (j := 5) C dX4_readsChord_148 rfl rfl ?_
            refine z_getfield (pc := 149) (v := .int (iI (nen tq ap + (qmx (tq.drop (nen tq ap).toNat) : Nat)))) C in_X4 rfl 11 (by decide) q2093 (fun _ z => z) gz12 rfl dX4_readsChord_149 ?_
            refine z_callV (pc := 152) (n := 1) (kc' := 0) (ks' := 0) C (m_sign C.t ⟨gz12, fh11_1, fh11_2, fh11_3, fh11_4, fh11_5, fh11_6, fh11_7, fh11_8, fh11_9, gd_8⟩ htq hTr hTl (i := (nen tq ap + (qmx (tq.drop (nen tq ap).toNat) : Nat))) (by omega)) (lw_V q2183 q2185 qs29 q74 q2186) (by decide +kernel) ⟨by decide, by decide⟩ gz12 rfl rfl rfl (Nat.le_of_ble_eq_true rfl) dX4_readsChord_152 (by omega) (by omega) (zpk (st' := [.int (iI (sga tq (nen tq ap + (qmx (tq.drop (nen tq ap).toNat) : Nat))))]) rfl ?_) zrx
            have hsg155 := sga_r hTr (i := (nen tq ap + (qmx (tq.drop (nen tq ap).toNat) : Nat))) (by omega)
            refine z_iload_n (pc := 155) (j := 4) C dX4_readsChord_155 rfl rfl ?_
            refine z_icmp_ne (pc := 156) (tgt := 163) C dX4_readsChord_156 (by decide) (by omega) (by omega) (fun c156 => ?_) (fun c156 => ?_)
            · have hend := end_c (T := tq) hTr he (x := (nen tq ap + (qmx (tq.drop (nen tq ap).toNat) : Nat))) (by omega)
              have hec := fun z => (show sga tq (nen tq ap + (qmx (tq.drop (nen tq ap).toNat) : Nat)) ≠ e' by omega) (hend.mpr z)
              refine z_iconst (pc := 163) C dX4_readsChord_163 ?_
              exact z_zreturn (pc := 164) C (by decide) (by rw [hXp]; exact ⟨_, rfl, Or.inr ⟨(nen tq ap + (qmx (tq.drop (nen tq ap).toNat) : Nat)), (npl tq ap), (npl tq ap), (qfd (tq.drop (nen tq ap).toNat)), 100, wv, (chp_b5 hc_4 hq1x h47 hec), rfl, ⟨gz12, fh11_1, fh11_2, fh11_3, fh11_4, fh11_5, fh11_6, fh11_7, fh11_8, fh11_9, gd_8⟩⟩, kh11⟩) dX4_readsChord_164
            · have hend := end_c (T := tq) hTr he (x := (nen tq ap + (qmx (tq.drop (nen tq ap).toNat) : Nat))) (by omega)
              have hec := hend.mp (by omega)
              refine z_iconst (pc := 159) C dX4_readsChord_159 ?_
              refine z_goto (pc := 160) (tgt := 164) C dX4_readsChord_160 (by decide) ?_
              have egz13 : ((nen tq ap + (qmx (tq.drop (nen tq ap).toNat) : Nat)) : Int) = ((nen tq ap + (qmx (tq.drop (nen tq ap).toNat) : Nat)) + 1) - 1 := by omega
              have gz13 : h11 A.m = some (true, .inr (3, [.ref A.v, .ref A.pa, .int (iI st), .ref A.tx, .int (iI ((tq.length : Nat) : Int)), .int (iI si), .int (iI ff), .int (iI wd), .int (iI th), .ref A.le, .ref A.qa, .int (iI (((nen tq ap + (qmx (tq.drop (nen tq ap).toNat) : Nat)) + 1) - 1)), .int (iI (npl tq ap)), .int (iI (npl tq ap)), .int (iI (qfd (tq.drop (nen tq ap).toNat))), .int (iI 100), .int (iI wv), .ref A.ma, .ref A.na, .int (iI nd), .ref A.ua, .ref A.la, .int (iI up), .int (iI lo)])) := egz13 ▸ gz12
              exact z_zreturn (pc := 164) C (by decide) (by rw [hXp]; exact ⟨_, rfl, Or.inl ⟨(npl tq ap), (qfd (tq.drop (nen tq ap).toNat)), 100, ((nen tq ap + (qmx (tq.drop (nen tq ap).toNat) : Nat)) + 1), (npl tq ap), wv, (chp_o5 hc_4 hq1x h47 hec), rfl, ⟨gz13, fh11_1, fh11_2, fh11_3, fh11_4, fh11_5, fh11_6, fh11_7, fh11_8, fh11_9, gd_8⟩⟩, kh11⟩) dX4_readsChord_164
          · have hq1x : 0 ≤ qfd (tq.drop (nen tq ap).toNat) := by omega
            have h47 : tch tq (nen tq ap + (qmx (tq.drop (nen tq ap).toNat) : Nat)) = 47 := by have := sga_t (T := tq) (nen tq ap + (qmx (tq.drop (nen tq ap).toNat) : Nat)) 47 (by decide); omega
            refine z_aload_n (pc := 120) (j := 5) C dX4_readsChord_120 rfl rfl ?_
            refine z_dup (pc := 121) C dX4_readsChord_121 rfl ?_
            refine z_getfield (pc := 122) (v := .int (iI (nen tq ap + (qmx (tq.drop (nen tq ap).toNat) : Nat)))) C in_X4 rfl 11 (by decide) q2093 (fun _ z => z) gz12 rfl dX4_readsChord_122 ?_
            refine z_iconst (pc := 125) C dX4_readsChord_125 ?_
            refine z_iadd (pc := 126) C dX4_readsChord_126 ?_
            refine z_putfield (pc := 127) (fs' := [.ref A.v, .ref A.pa, .int (iI st), .ref A.tx, .int (iI ((tq.length : Nat) : Int)), .int (iI si), .int (iI ff), .int (iI wd), .int (iI th), .ref A.le, .ref A.qa, .int (iI ((nen tq ap + (qmx (tq.drop (nen tq ap).toNat) : Nat)) + 1)), .int (iI (npl tq ap)), .int (iI (npl tq ap)), .int (iI (qfd (tq.drop (nen tq ap).toNat))), .int (iI 100), .int (iI wv), .ref A.ma, .ref A.na, .int (iI nd), .ref A.ua, .ref A.la, .int (iI up), .int (iI lo)]) C in_X4 tyX4 tyX4_ok nmX4 rfl 11 (by decide) q2093 (fun _ z => z) rfl rfl rfl (Nat.le_of_ble_eq_true rfl) gz12 rfl dX4_readsChord_127 ?_
            refine Z.nm (fun h14 eh14 => ?_)
            have kh14 : zkeep h h14 [A.m, A.v, A.pa, A.tx, A.ma, A.na, A.ua, A.la] := by rw [eh14]; exact zkeep.up kh11 (Or.inl (by simp)) gz12
            have fh14_0 : h14 A.m = some (true, .inr (3, [.ref A.v, .ref A.pa, .int (iI st), .ref A.tx, .int (iI ((tq.length : Nat) : Int)), .int (iI si), .int (iI ff), .int (iI wd), .int (iI th), .ref A.le, .ref A.qa, .int (iI ((nen tq ap + (qmx (tq.drop (nen tq ap).toNat) : Nat)) + 1)), .int (iI (npl tq ap)), .int (iI (npl tq ap)), .int (iI (qfd (tq.drop (nen tq ap).toNat))), .int (iI 100), .int (iI wv), .ref A.ma, .ref A.na, .int (iI nd), .ref A.ua, .ref A.la, .int (iI up), .int (iI lo)])) := zse eh14
            have fh14_1 : h14 A.v = some (true, .inl (.int, 620, (mA V))) := zsn eh14 fh11_1 (Ne.symm (zneA gz12 fh11_1))
            have fh14_2 : h14 A.pa = some (true, .inl (.int, 4960, (mA P))) := zsn eh14 fh11_2 (Ne.symm (zneA gz12 fh11_2))
            have fh14_3 : h14 A.tx = some (true, .inl (.int, 200, (mA T))) := zsn eh14 fh11_3 (Ne.symm (zneA gz12 fh11_3))
            have fh14_4 : h14 A.ma = some (true, .inl (.int, 620, (mA M))) := zsn eh14 fh11_4 (Ne.symm (zneA gz12 fh11_4))
            have fh14_5 : h14 A.na = some (true, .inl (.int, 20, (mA N))) := zsn eh14 fh11_5 (Ne.symm (zneA gz12 fh11_5))
            have fh14_6 : h14 A.ua = some (true, .inl (.int, 1200, (mA U))) := zsn eh14 fh11_6 (Ne.symm (zneA gz12 fh11_6))
            have fh14_7 : h14 A.la = some (true, .inl (.int, 1200, (mA W))) := zsn eh14 fh11_7 (Ne.symm (zneA gz12 fh11_7))
            have fh14_8 : h14 A.le = some (true, .inl (.char, 7, (mA ltF))) := zsn eh14 fh11_8 (Ne.symm (zneA gz12 fh11_8))
            have fh14_9 : h14 A.qa = some (true, .inl (.char, 30, (mA qaF))) := zsn eh14 fh11_9 (Ne.symm (zneA gz12 fh11_9))
            refine z_aload_n (pc := 130) (j := 5) C dX4_readsChord_130 rfl rfl ?_
            refine z_callV (pc := 131) (n := 0) (kc' := 0) (ks' := 0) C (m_note C.t ⟨fh14_0, fh14_1, fh14_2, fh14_3, fh14_4, fh14_5, fh14_6, fh14_7, fh14_8, fh14_9, gd_8⟩ htq hTr hTl (by omega)) (lw_V q2191 q2193 qs31 q74 q2194) (by decide +kernel) ⟨by decide, by decide⟩ fh14_0 rfl rfl rfl (Nat.le_of_ble_eq_true rfl) dX4_readsChord_131 (by omega) (by omega) (zrk fun w h15 hp => ?_) zrx
            obtain ⟨hq_17, k16⟩ := hp
            have kh15 : zkeep h h15 [A.m, A.v, A.pa, A.tx, A.ma, A.na, A.ua, A.la] := zkeep.loc kh14 k16 (fun q hq => Or.inl (Or.inr hq))
            rcases hq_17 with ⟨hc_17, rfl, hM_17⟩ | ⟨hc_17, rfl, hM_17⟩
            · have hM_17 : mM h15 A st ((tq.length : Nat) : Int) si ff wd th (nen tq ((nen tq ap + (qmx (tq.drop (nen tq ap).toNat) : Nat)) + 1)) (npl tq ((nen tq ap + (qmx (tq.drop (nen tq ap).toNat) : Nat)) + 1)) (npl tq ap) (qfd (tq.drop (nen tq ap).toNat)) 100 wv nd up lo V P T M N U W := hM_17
              obtain ⟨gm_18, gv_18, gpa_18, gtx_18, gma_18, gna_18, gua_18, gla_18, gle_18, gqa_18, gd_18⟩ := id hM_17
              show Z X h15 0 0 [(5, .int (iI k)), (4, .int (iI has)), (3, .int (iI best)), (2, .int (iI most)), (1, .int (iI e')), (0, .ref A.m)] 134 [.int (iI 1)]
              have hne_17 : ((nen tq ap + (qmx (tq.drop (nen tq ap).toNat) : Nat)) + 1) + 1 ≤ nen tq (((nen tq ap + (qmx (tq.drop (nen tq ap).toNat) : Nat)) + 1)) ∧ nen tq (((nen tq ap + (qmx (tq.drop (nen tq ap).toNat) : Nat)) + 1)) ≤ ((nen tq ap + (qmx (tq.drop (nen tq ap).toNat) : Nat)) + 1) + 2 := by unfold nen; split <;> omega
              have hnl_17 := nen_le hc_17 (by omega)
              have hnp_17 : -8 ≤ npl tq (((nen tq ap + (qmx (tq.drop (nen tq ap).toNat) : Nat)) + 1)) ∧ npl tq (((nen tq ap + (qmx (tq.drop (nen tq ap).toNat) : Nat)) + 1)) ≤ 12 := by have := zixL_r (tch tq (((nen tq ap + (qmx (tq.drop (nen tq ap).toNat) : Nat)) + 1))); have := hc_17.2; unfold npl nsg; (repeat' split) <;> omega
              refine z_if_ne (pc := 134) (tgt := 139) C dX4_readsChord_134 (by decide) (by decide) (fun _ => ?_) (fun z => absurd z (by decide))
              refine z_aload_n (pc := 139) (j := 5) C dX4_readsChord_139 rfl rfl ?_
              refine z_aload_n (pc := 140) (j := 5) C dX4_readsChord_140 rfl rfl ?_
              refine z_getfield (pc := 141) (v := .int (iI (npl tq ((nen tq ap + (qmx (tq.drop (nen tq ap).toNat) : Nat)) + 1)))) C in_X4 rfl 12 (by decide) q2094 (fun _ z => z) gm_18 rfl dX4_readsChord_141 ?_
              refine z_putfield (pc := 144) (fs' := [.ref A.v, .ref A.pa, .int (iI st), .ref A.tx, .int (iI ((tq.length : Nat) : Int)), .int (iI si), .int (iI ff), .int (iI wd), .int (iI th), .ref A.le, .ref A.qa, .int (iI (nen tq ((nen tq ap + (qmx (tq.drop (nen tq ap).toNat) : Nat)) + 1))), .int (iI (npl tq ((nen tq ap + (qmx (tq.drop (nen tq ap).toNat) : Nat)) + 1))), .int (iI (npl tq ap)), .int (iI (qfd (tq.drop (nen tq ap).toNat))), .int (iI (npl tq ((nen tq ap + (qmx (tq.drop (nen tq ap).toNat) : Nat)) + 1))), .int (iI wv), .ref A.ma, .ref A.na, .int (iI nd), .ref A.ua, .ref A.la, .int (iI up), .int (iI lo)]) C in_X4 tyX4 tyX4_ok nmX4 rfl 15 (by decide) q2097 (fun _ z => z) rfl rfl rfl (Nat.le_of_ble_eq_true rfl) gm_18 rfl dX4_readsChord_144 ?_
              refine Z.nm (fun h19 eh19 => ?_)
              have kh19 : zkeep h h19 [A.m, A.v, A.pa, A.tx, A.ma, A.na, A.ua, A.la] := by rw [eh19]; exact zkeep.up kh15 (Or.inl (by simp)) gm_18
              have fh19_0 : h19 A.m = some (true, .inr (3, [.ref A.v, .ref A.pa, .int (iI st), .ref A.tx, .int (iI ((tq.length : Nat) : Int)), .int (iI si), .int (iI ff), .int (iI wd), .int (iI th), .ref A.le, .ref A.qa, .int (iI (nen tq ((nen tq ap + (qmx (tq.drop (nen tq ap).toNat) : Nat)) + 1))), .int (iI (npl tq ((nen tq ap + (qmx (tq.drop (nen tq ap).toNat) : Nat)) + 1))), .int (iI (npl tq ap)), .int (iI (qfd (tq.drop (nen tq ap).toNat))), .int (iI (npl tq ((nen tq ap + (qmx (tq.drop (nen tq ap).toNat) : Nat)) + 1))), .int (iI wv), .ref A.ma, .ref A.na, .int (iI nd), .ref A.ua, .ref A.la, .int (iI up), .int (iI lo)])) := zse eh19
              have fh19_1 : h19 A.v = some (true, .inl (.int, 620, (mA V))) := zsn eh19 gv_18 (Ne.symm (zneA gm_18 gv_18))
              have fh19_2 : h19 A.pa = some (true, .inl (.int, 4960, (mA P))) := zsn eh19 gpa_18 (Ne.symm (zneA gm_18 gpa_18))
              have fh19_3 : h19 A.tx = some (true, .inl (.int, 200, (mA T))) := zsn eh19 gtx_18 (Ne.symm (zneA gm_18 gtx_18))
              have fh19_4 : h19 A.ma = some (true, .inl (.int, 620, (mA M))) := zsn eh19 gma_18 (Ne.symm (zneA gm_18 gma_18))
              have fh19_5 : h19 A.na = some (true, .inl (.int, 20, (mA N))) := zsn eh19 gna_18 (Ne.symm (zneA gm_18 gna_18))
              have fh19_6 : h19 A.ua = some (true, .inl (.int, 1200, (mA U))) := zsn eh19 gua_18 (Ne.symm (zneA gm_18 gua_18))
              have fh19_7 : h19 A.la = some (true, .inl (.int, 1200, (mA W))) := zsn eh19 gla_18 (Ne.symm (zneA gm_18 gla_18))
              have fh19_8 : h19 A.le = some (true, .inl (.char, 7, (mA ltF))) := zsn eh19 gle_18 (Ne.symm (zneA gm_18 gle_18))
              have fh19_9 : h19 A.qa = some (true, .inl (.char, 30, (mA qaF))) := zsn eh19 gqa_18 (Ne.symm (zneA gm_18 gqa_18))
              refine z_aload_n (pc := 147) (j := 5) C dX4_readsChord_147 rfl rfl ?_
              refine z_aload_n (pc := 148) (j := 5) C dX4_readsChord_148 rfl rfl ?_
              refine z_getfield (pc := 149) (v := .int (iI (nen tq ((nen tq ap + (qmx (tq.drop (nen tq ap).toNat) : Nat)) + 1)))) C in_X4 rfl 11 (by decide) q2093 (fun _ z => z) fh19_0 rfl dX4_readsChord_149 ?_
              refine z_callV (pc := 152) (n := 1) (kc' := 0) (ks' := 0) C (m_sign C.t ⟨fh19_0, fh19_1, fh19_2, fh19_3, fh19_4, fh19_5, fh19_6, fh19_7, fh19_8, fh19_9, gd_18⟩ htq hTr hTl (i := nen tq ((nen tq ap + (qmx (tq.drop (nen tq ap).toNat) : Nat)) + 1)) (by omega)) (lw_V q2183 q2185 qs29 q74 q2186) (by decide +kernel) ⟨by decide, by decide⟩ fh19_0 rfl rfl rfl (Nat.le_of_ble_eq_true rfl) dX4_readsChord_152 (by omega) (by omega) (zpk (st' := [.int (iI (sga tq (nen tq ((nen tq ap + (qmx (tq.drop (nen tq ap).toNat) : Nat)) + 1))))]) rfl ?_) zrx
              have hsg155 := sga_r hTr (i := nen tq ((nen tq ap + (qmx (tq.drop (nen tq ap).toNat) : Nat)) + 1)) (by omega)
              refine z_iload_n (pc := 155) (j := 4) C dX4_readsChord_155 rfl rfl ?_
              refine z_icmp_ne (pc := 156) (tgt := 163) C dX4_readsChord_156 (by decide) (by omega) (by omega) (fun c156 => ?_) (fun c156 => ?_)
              · have hend := end_c (T := tq) hTr he (x := (nen tq ((nen tq ap + (qmx (tq.drop (nen tq ap).toNat) : Nat)) + 1))) (by omega)
                have hec := fun z => (show sga tq (nen tq ((nen tq ap + (qmx (tq.drop (nen tq ap).toNat) : Nat)) + 1)) ≠ e' by omega) (hend.mpr z)
                refine z_iconst (pc := 163) C dX4_readsChord_163 ?_
                exact z_zreturn (pc := 164) C (by decide) (by rw [hXp]; exact ⟨_, rfl, Or.inr ⟨(nen tq ((nen tq ap + (qmx (tq.drop (nen tq ap).toNat) : Nat)) + 1)), (npl tq ((nen tq ap + (qmx (tq.drop (nen tq ap).toNat) : Nat)) + 1)), (npl tq ap), (qfd (tq.drop (nen tq ap).toNat)), (npl tq ((nen tq ap + (qmx (tq.drop (nen tq ap).toNat) : Nat)) + 1)), wv, (chp_b4 hc_4 hq1x h47 hc_17 hec), rfl, ⟨fh19_0, fh19_1, fh19_2, fh19_3, fh19_4, fh19_5, fh19_6, fh19_7, fh19_8, fh19_9, gd_18⟩⟩, kh19⟩) dX4_readsChord_164
              · have hend := end_c (T := tq) hTr he (x := (nen tq ((nen tq ap + (qmx (tq.drop (nen tq ap).toNat) : Nat)) + 1))) (by omega)
                have hec := hend.mp (by omega)
                refine z_iconst (pc := 159) C dX4_readsChord_159 ?_
                refine z_goto (pc := 160) (tgt := 164) C dX4_readsChord_160 (by decide) ?_
                have egz20 : (nen tq ((nen tq ap + (qmx (tq.drop (nen tq ap).toNat) : Nat)) + 1) : Int) = (nen tq ((nen tq ap + (qmx (tq.drop (nen tq ap).toNat) : Nat)) + 1) + 1) - 1 := by omega
                have gz20 : h19 A.m = some (true, .inr (3, [.ref A.v, .ref A.pa, .int (iI st), .ref A.tx, .int (iI ((tq.length : Nat) : Int)), .int (iI si), .int (iI ff), .int (iI wd), .int (iI th), .ref A.le, .ref A.qa, .int (iI ((nen tq ((nen tq ap + (qmx (tq.drop (nen tq ap).toNat) : Nat)) + 1) + 1) - 1)), .int (iI (npl tq ((nen tq ap + (qmx (tq.drop (nen tq ap).toNat) : Nat)) + 1))), .int (iI (npl tq ap)), .int (iI (qfd (tq.drop (nen tq ap).toNat))), .int (iI (npl tq ((nen tq ap + (qmx (tq.drop (nen tq ap).toNat) : Nat)) + 1))), .int (iI wv), .ref A.ma, .ref A.na, .int (iI nd), .ref A.ua, .ref A.la, .int (iI up), .int (iI lo)])) := egz20 ▸ fh19_0
                exact z_zreturn (pc := 164) C (by decide) (by rw [hXp]; exact ⟨_, rfl, Or.inl ⟨(npl tq ap), (qfd (tq.drop (nen tq ap).toNat)), (npl tq ((nen tq ap + (qmx (tq.drop (nen tq ap).toNat) : Nat)) + 1)), (nen tq ((nen tq ap + (qmx (tq.drop (nen tq ap).toNat) : Nat)) + 1) + 1), (npl tq ((nen tq ap + (qmx (tq.drop (nen tq ap).toNat) : Nat)) + 1)), wv, (chp_o4 hc_4 hq1x h47 hc_17 hec), rfl, ⟨gz20, fh19_1, fh19_2, fh19_3, fh19_4, fh19_5, fh19_6, fh19_7, fh19_8, fh19_9, gd_18⟩⟩, kh19⟩) dX4_readsChord_164
            · have hM_17 : mM h15 A st ((tq.length : Nat) : Int) si ff wd th ((nen tq ap + (qmx (tq.drop (nen tq ap).toNat) : Nat)) + 1) 100 (npl tq ap) (qfd (tq.drop (nen tq ap).toNat)) 100 wv nd up lo V P T M N U W := hM_17
              obtain ⟨gm_21, gv_21, gpa_21, gtx_21, gma_21, gna_21, gua_21, gla_21, gle_21, gqa_21, gd_21⟩ := id hM_17
              show Z X h15 0 0 [(5, .int (iI k)), (4, .int (iI has)), (3, .int (iI best)), (2, .int (iI most)), (1, .int (iI e')), (0, .ref A.m)] 134 [.int (iI 0)]
              refine z_if_ne (pc := 134) (tgt := 139) C dX4_readsChord_134 (by decide) (by decide) (fun z => absurd z (by decide)) (fun _ => ?_)
              refine z_iconst (pc := 137) C dX4_readsChord_137 ?_
              exact z_zreturn (pc := 138) C (by decide) (by rw [hXp]; exact ⟨_, rfl, Or.inr ⟨((nen tq ap + (qmx (tq.drop (nen tq ap).toNat) : Nat)) + 1), 100, (npl tq ap), (qfd (tq.drop (nen tq ap).toNat)), 100, wv, (chp_b3 hc_4 hq1x h47 hc_17), rfl, ⟨gm_21, gv_21, gpa_21, gtx_21, gma_21, gna_21, gua_21, gla_21, gle_21, gqa_21, gd_21⟩⟩, kh15⟩) dX4_readsChord_138
        · have hz0 : has = 0 := by omega
          rw [hz0] at hB10
          have hq1 := rc_e0 hB10
          refine z_iconst (pc := 105) C dX4_readsChord_105 ?_
          exact z_zreturn (pc := 106) C (by decide) (by rw [hXp]; exact ⟨_, rfl, Or.inr ⟨(nen tq ap + (qmx (tq.drop (nen tq ap).toNat) : Nat)), (npl tq ap), (npl tq ap), best, 100, wv, (chp_b2 hc_4 hq1), rfl, ⟨fh11_0, fh11_1, fh11_2, fh11_3, fh11_4, fh11_5, fh11_6, fh11_7, fh11_8, fh11_9, gd_8⟩⟩, kh11⟩) dX4_readsChord_106
      · refine z_aload_n (pc := 40) (j := 5) C dX4_readsChord_40 rfl rfl ?_
        refine z_iload (pc := 41) (j := 0) C dX4_readsChord_41 rfl ?_
        refine z_callV (pc := 43) (n := 1) (kc' := 0) (ks' := 0) C (m_like C.t ⟨gm_8, gv_8, gpa_8, gtx_8, gma_8, gna_8, gua_8, gla_8, gle_8, gqa_8, gd_8⟩ htq hTr hTl (by omega) (q := k) (by omega)) (lw_V q2199 q2201 qs33 q74 q2202) (by decide +kernel) ⟨by decide, by decide⟩ gm_8 rfl rfl rfl (Nat.le_of_ble_eq_true rfl) dX4_readsChord_43 (by omega) (by omega) (zrk fun w h22 hp => ?_) zrx
        obtain ⟨rfl, hM_24, k23⟩ := hp
        have kh22 : zkeep h h22 [A.m, A.v, A.pa, A.tx, A.ma, A.na, A.ua, A.la] := zkeep.loc hkp33 k23 (fun q hq => Or.inl (Or.inr hq))
        have hM_24 : mM h22 A st ((tq.length : Nat) : Int) si ff wd th (nen tq ap) (npl tq ap) (npl tq ap) rq 100 (if (qlt k).length ≤ lcp (qlt k) (tq.drop (nen tq ap).toNat) then 1 else 0) nd up lo V P T M N U W := hM_24
        obtain ⟨gm_25, gv_25, gpa_25, gtx_25, gma_25, gna_25, gua_25, gla_25, gle_25, gqa_25, gd_25⟩ := id hM_24
        show Z X h22 0 0 [(5, .int (iI k)), (4, .int (iI has)), (3, .int (iI best)), (2, .int (iI most)), (1, .int (iI e')), (0, .ref A.m)] 46 [.int (iI ((lcp (qlt k) (tq.drop (nen tq ap).toNat) : Nat) : Int))]
        refine z_istore (pc := 46) (L' := [(6, .int (iI ((lcp (qlt k) (tq.drop (nen tq ap).toNat) : Nat) : Int))), (5, .int (iI k)), (4, .int (iI has)), (3, .int (iI best)), (2, .int (iI most)), (1, .int (iI e')), (0, .ref A.m)]) C dX4_readsChord_46 (by rw [hnL]; decide) rfl ?_
        have hl48 := lcp_le2 (qlt k) (tq.drop (nen tq ap).toNat)
        have hq48 := qmxk_le (tq.drop (nen tq ap).toNat) k.toNat
        simp only [List.length_drop] at hl48 hq48
        refine z_iload (pc := 48) (j := 0) C dX4_readsChord_48 rfl ?_
        refine z_iload_n (pc := 50) (j := 4) C dX4_readsChord_50 rfl rfl ?_
        refine z_icmp_gt (pc := 51) (tgt := 67) C dX4_readsChord_51 (by decide) (by omega) (by omega) (fun c51 => ?_) (fun c51 => ?_)
        · refine z_aload_n (pc := 67) (j := 6) C dX4_readsChord_67 rfl rfl ?_
          refine z_getfield (pc := 68) (v := .int (iI (if (qlt k).length ≤ lcp (qlt k) (tq.drop (nen tq ap).toNat) then 1 else 0))) C in_X4 rfl 16 (by decide) q2098 (fun _ z => z) gm_25 rfl dX4_readsChord_68 ?_
          refine z_istore (pc := 71) (L' := [(4, .int (iI (if (qlt k).length ≤ lcp (qlt k) (tq.drop (nen tq ap).toNat) then 1 else 0))), (6, .int (iI ((lcp (qlt k) (tq.drop (nen tq ap).toNat) : Nat) : Int))), (5, .int (iI k)), (3, .int (iI best)), (2, .int (iI most)), (1, .int (iI e')), (0, .ref A.m)]) C dX4_readsChord_71 (by rw [hnL]; decide) rfl ?_
          refine z_iload (pc := 73) (j := 2) C dX4_readsChord_73 rfl ?_
          refine z_istore_n (pc := 75) (L' := [(3, .int (iI k)), (4, .int (iI (if (qlt k).length ≤ lcp (qlt k) (tq.drop (nen tq ap).toNat) then 1 else 0))), (6, .int (iI ((lcp (qlt k) (tq.drop (nen tq ap).toNat) : Nat) : Int))), (5, .int (iI k)), (2, .int (iI most)), (1, .int (iI e')), (0, .ref A.m)]) C dX4_readsChord_75 rfl (by rw [hnL]; decide) rfl ?_
          refine z_iload (pc := 76) (j := 2) C dX4_readsChord_76 rfl ?_
          refine z_istore_n (pc := 78) (L' := [(2, .int (iI ((lcp (qlt k) (tq.drop (nen tq ap).toNat) : Nat) : Int))), (3, .int (iI k)), (4, .int (iI (if (qlt k).length ≤ lcp (qlt k) (tq.drop (nen tq ap).toNat) then 1 else 0))), (6, .int (iI ((lcp (qlt k) (tq.drop (nen tq ap).toNat) : Nat) : Int))), (5, .int (iI k)), (1, .int (iI e')), (0, .ref A.m)]) C dX4_readsChord_78 rfl (by rw [hnL]; decide) rfl ?_
          refine z_iinc (pc := 79) (k := 4) (L' := [(5, .int (iI (k + 1))), (2, .int (iI ((lcp (qlt k) (tq.drop (nen tq ap).toNat) : Nat) : Int))), (3, .int (iI k)), (4, .int (iI (if (qlt k).length ≤ lcp (qlt k) (tq.drop (nen tq ap).toNat) then 1 else 0))), (6, .int (iI ((lcp (qlt k) (tq.drop (nen tq ap).toNat) : Nat) : Int))), (1, .int (iI e')), (0, .ref A.m)]) C dX4_readsChord_79 rfl (by rw [hnL]; decide) rfl ?_
          refine z_goto (pc := 82) (tgt := 33) C dX4_readsChord_82 (by decide) ?_
          refine Z.weak (L' := [(5, .int (iI (k + 1))), (4, .int (iI (if (qlt k).length ≤ lcp (qlt k) (tq.drop (nen tq ap).toNat) then 1 else 0))), (3, .int (iI k)), (2, .int (iI ((lcp (qlt k) (tq.drop (nen tq ap).toNat) : Nat) : Int))), (1, .int (iI e')), (0, .ref A.m)]) (kc' := 0) (ks' := 0) [0, 3, 2, 1, 5, 6] rfl (by omega) (by omega) ?_
          exact ih33 _ (by omega) (k + 1) (if (qlt k).length ≤ lcp (qlt k) (tq.drop (nen tq ap).toNat) then 1 else 0) k ((lcp (qlt k) (tq.drop (nen tq ap).toNat) : Nat) : Int) (if (qlt k).length ≤ lcp (qlt k) (tq.drop (nen tq ap).toNat) then 1 else 0) h22 ⟨gm_25, gv_25, gpa_25, gtx_25, gma_25, gna_25, gua_25, gla_25, gle_25, gqa_25, gd_25⟩ kh22 (by omega) (by rw [rc_s (by omega)]; omega) (rc_up (by omega) hB (by omega)) rfl
        · refine z_iload (pc := 54) (j := 0) C dX4_readsChord_54 rfl ?_
          refine z_iload_n (pc := 56) (j := 4) C dX4_readsChord_56 rfl rfl ?_
          refine z_icmp_ne (pc := 57) (tgt := 79) C dX4_readsChord_57 (by decide) (by omega) (by omega) (fun c57 => ?_) (fun c57 => ?_)
          · have hno := rc_no (t := (tq.drop (nen tq ap).toNat)) (by omega) hB (by omega) (by omega)
            refine z_iinc (pc := 79) (k := 1) (L' := [(5, .int (iI (k + 1))), (6, .int (iI ((lcp (qlt k) (tq.drop (nen tq ap).toNat) : Nat) : Int))), (4, .int (iI has)), (3, .int (iI best)), (2, .int (iI most)), (1, .int (iI e')), (0, .ref A.m)]) C dX4_readsChord_79 rfl (by rw [hnL]; decide) rfl ?_
            refine z_goto (pc := 82) (tgt := 33) C dX4_readsChord_82 (by decide) ?_
            refine Z.weak (L' := [(5, .int (iI (k + 1))), (4, .int (iI has)), (3, .int (iI best)), (2, .int (iI most)), (1, .int (iI e')), (0, .ref A.m)]) (kc' := 0) (ks' := 0) [0, 2, 3, 4, 5, 6] rfl (by omega) (by omega) ?_
            exact ih33 _ (by omega) (k + 1) has best most (if (qlt k).length ≤ lcp (qlt k) (tq.drop (nen tq ap).toNat) then 1 else 0) h22 ⟨gm_25, gv_25, gpa_25, gtx_25, gma_25, gna_25, gua_25, gla_25, gle_25, gqa_25, gd_25⟩ kh22 (by omega) (by rw [hno.2]; exact hmost) hno.1 rfl
          · refine z_aload_n (pc := 60) (j := 6) C dX4_readsChord_60 rfl rfl ?_
            refine z_getfield (pc := 61) (v := .int (iI (if (qlt k).length ≤ lcp (qlt k) (tq.drop (nen tq ap).toNat) then 1 else 0))) C in_X4 rfl 16 (by decide) q2098 (fun _ z => z) gm_25 rfl dX4_readsChord_61 ?_
            refine z_if_eq (pc := 64) (tgt := 79) C dX4_readsChord_64 (by decide) (by split <;> decide) (fun c64 => ?_) (fun c64 => ?_)
            · have hno := rc_no (t := (tq.drop (nen tq ap).toNat)) (by omega) hB (by omega) (by split at c64 <;> omega)
              refine z_iinc (pc := 79) (k := 1) (L' := [(5, .int (iI (k + 1))), (6, .int (iI ((lcp (qlt k) (tq.drop (nen tq ap).toNat) : Nat) : Int))), (4, .int (iI has)), (3, .int (iI best)), (2, .int (iI most)), (1, .int (iI e')), (0, .ref A.m)]) C dX4_readsChord_79 rfl (by rw [hnL]; decide) rfl ?_
              refine z_goto (pc := 82) (tgt := 33) C dX4_readsChord_82 (by decide) ?_
              refine Z.weak (L' := [(5, .int (iI (k + 1))), (4, .int (iI has)), (3, .int (iI best)), (2, .int (iI most)), (1, .int (iI e')), (0, .ref A.m)]) (kc' := 0) (ks' := 0) [0, 2, 3, 4, 5, 6] rfl (by omega) (by omega) ?_
              exact ih33 _ (by omega) (k + 1) has best most (if (qlt k).length ≤ lcp (qlt k) (tq.drop (nen tq ap).toNat) then 1 else 0) h22 ⟨gm_25, gv_25, gpa_25, gtx_25, gma_25, gna_25, gua_25, gla_25, gle_25, gqa_25, gd_25⟩ kh22 (by omega) (by rw [hno.2]; exact hmost) hno.1 rfl
            · refine z_aload_n (pc := 67) (j := 6) C dX4_readsChord_67 rfl rfl ?_
              refine z_getfield (pc := 68) (v := .int (iI (if (qlt k).length ≤ lcp (qlt k) (tq.drop (nen tq ap).toNat) then 1 else 0))) C in_X4 rfl 16 (by decide) q2098 (fun _ z => z) gm_25 rfl dX4_readsChord_68 ?_
              refine z_istore (pc := 71) (L' := [(4, .int (iI (if (qlt k).length ≤ lcp (qlt k) (tq.drop (nen tq ap).toNat) then 1 else 0))), (6, .int (iI ((lcp (qlt k) (tq.drop (nen tq ap).toNat) : Nat) : Int))), (5, .int (iI k)), (3, .int (iI best)), (2, .int (iI most)), (1, .int (iI e')), (0, .ref A.m)]) C dX4_readsChord_71 (by rw [hnL]; decide) rfl ?_
              refine z_iload (pc := 73) (j := 2) C dX4_readsChord_73 rfl ?_
              refine z_istore_n (pc := 75) (L' := [(3, .int (iI k)), (4, .int (iI (if (qlt k).length ≤ lcp (qlt k) (tq.drop (nen tq ap).toNat) then 1 else 0))), (6, .int (iI ((lcp (qlt k) (tq.drop (nen tq ap).toNat) : Nat) : Int))), (5, .int (iI k)), (2, .int (iI most)), (1, .int (iI e')), (0, .ref A.m)]) C dX4_readsChord_75 rfl (by rw [hnL]; decide) rfl ?_
              refine z_iload (pc := 76) (j := 2) C dX4_readsChord_76 rfl ?_
              refine z_istore_n (pc := 78) (L' := [(2, .int (iI ((lcp (qlt k) (tq.drop (nen tq ap).toNat) : Nat) : Int))), (3, .int (iI k)), (4, .int (iI (if (qlt k).length ≤ lcp (qlt k) (tq.drop (nen tq ap).toNat) then 1 else 0))), (6, .int (iI ((lcp (qlt k) (tq.drop (nen tq ap).toNat) : Nat) : Int))), (5, .int (iI k)), (1, .int (iI e')), (0, .ref A.m)]) C dX4_readsChord_78 rfl (by rw [hnL]; decide) rfl ?_
              refine z_iinc (pc := 79) (k := 4) (L' := [(5, .int (iI (k + 1))), (2, .int (iI ((lcp (qlt k) (tq.drop (nen tq ap).toNat) : Nat) : Int))), (3, .int (iI k)), (4, .int (iI (if (qlt k).length ≤ lcp (qlt k) (tq.drop (nen tq ap).toNat) then 1 else 0))), (6, .int (iI ((lcp (qlt k) (tq.drop (nen tq ap).toNat) : Nat) : Int))), (1, .int (iI e')), (0, .ref A.m)]) C dX4_readsChord_79 rfl (by rw [hnL]; decide) rfl ?_
              refine z_goto (pc := 82) (tgt := 33) C dX4_readsChord_82 (by decide) ?_
              refine Z.weak (L' := [(5, .int (iI (k + 1))), (4, .int (iI (if (qlt k).length ≤ lcp (qlt k) (tq.drop (nen tq ap).toNat) then 1 else 0))), (3, .int (iI k)), (2, .int (iI ((lcp (qlt k) (tq.drop (nen tq ap).toNat) : Nat) : Int))), (1, .int (iI e')), (0, .ref A.m)]) (kc' := 0) (ks' := 0) [0, 3, 2, 1, 5, 6] rfl (by omega) (by omega) ?_
              exact ih33 _ (by omega) (k + 1) (if (qlt k).length ≤ lcp (qlt k) (tq.drop (nen tq ap).toNat) then 1 else 0) k ((lcp (qlt k) (tq.drop (nen tq ap).toNat) : Nat) : Int) (if (qlt k).length ≤ lcp (qlt k) (tq.drop (nen tq ap).toNat) then 1 else 0) h22 ⟨gm_25, gv_25, gpa_25, gtx_25, gma_25, gna_25, gua_25, gla_25, gle_25, gqa_25, gd_25⟩ kh22 (by omega) (by rw [rc_s (by omega)]; omega) (rc_up (by omega) hB (by omega)) rfl
    refine Z.weak (L' := [(5, .int (iI 0)), (4, .int (iI 0)), (3, .int (iI 0)), (2, .int (iI 0)), (1, .int (iI e')), (0, .ref A.m)]) (kc' := 0) (ks' := 0) [0, 1, 2, 3, 5, 4] rfl (by omega) (by omega) ?_
    exact loop33 _ 0 0 0 0 wh h7 ⟨fh7_0, fh7_1, fh7_2, fh7_3, fh7_4, fh7_5, fh7_6, fh7_7, fh7_8, fh7_9, gd_5⟩ kh7 (by omega) rfl (Or.inr ⟨rfl, by decide, by decide, fun q hq z => by omega⟩) rfl
  · have hM_4 : mM h2 A st ((tq.length : Nat) : Int) si ff wd th ap 100 rr rq rb wh nd up lo V P T M N U W := hM_4
    obtain ⟨gm_26, gv_26, gpa_26, gtx_26, gma_26, gna_26, gua_26, gla_26, gle_26, gqa_26, gd_26⟩ := id hM_4
    show Z X h2 0 0 [(0, .ref A.m), (1, .int (iI e'))] 4 [.int (iI 0)]
    refine z_if_ne (pc := 4) (tgt := 9) C dX4_readsChord_4 (by decide) (by decide) (fun z => absurd z (by decide)) (fun _ => ?_)
    refine z_iconst (pc := 7) C dX4_readsChord_7 ?_
    exact z_zreturn (pc := 8) C (by decide) (by rw [hXp]; exact ⟨_, rfl, Or.inr ⟨ap, 100, rr, rq, rb, wh, (chp_b1 hc_4), rfl, ⟨gm_26, gv_26, gpa_26, gtx_26, gma_26, gna_26, gua_26, gla_26, gle_26, gqa_26, gd_26⟩⟩, kh2⟩) dX4_readsChord_8

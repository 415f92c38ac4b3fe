/-! 51.mspell.lean.txt -/
set_option maxRecDepth 100000
abbrev cX4_spelled : ByteArray := prog_11_method_64_code
def yX4_spelled : MethodName := ⟨RX4, "spelled", "(I)I"⟩
def dkwX4_spelled_2 : List UInt8 := [159, 0, 9, 132, 2, 1, 167, 255, 245, 28, 172]
abbrev dktX4_spelled_2 : List UInt8 := dkwX4_spelled_2 ++ []
def dkwX4_spelled_1 : List UInt8 := [180, 0, 19, 153, 0, 30, 28, 16, 248, 16, 12, 184, 0, 97, 154, 0, 19, 2, 61, 28, 184, 0, 161, 27]
abbrev dktX4_spelled_1 : List UInt8 := dkwX4_spelled_1 ++ dktX4_spelled_2
def dkwX4_spelled_0 : List UInt8 := [42, 182, 0, 171, 6, 100, 61, 28, 184, 0, 161, 27, 159, 0, 9, 132, 2, 1, 167, 255, 245, 42]
abbrev dktX4_spelled_0 : List UInt8 := dkwX4_spelled_0 ++ dktX4_spelled_1
theorem dksX4_spelled_0 : cX4_spelled.data.toList.drop 0 = dktX4_spelled_0 := by decide +kernel
theorem dksX4_spelled_1 : cX4_spelled.data.toList.drop 22 = dktX4_spelled_1 := dk_seg dksX4_spelled_0 22 rfl rfl
theorem dksX4_spelled_2 : cX4_spelled.data.toList.drop 46 = dktX4_spelled_2 := dk_seg dksX4_spelled_1 24 rfl rfl
abbrev cX4_spells : ByteArray := prog_11_method_65_code
def yX4_spells : MethodName := ⟨RX4, "spells", "(I)I"⟩
def dkwX4_spells_4 : List UInt8 := [159, 0, 7, 4, 167, 0, 4, 3, 96, 61, 132, 4, 2, 167, 255, 169, 132, 3, 1, 167, 255, 150, 28, 172]
abbrev dktX4_spells_4 : List UInt8 := dkwX4_spells_4 ++ []
def dkwX4_spells_3 : List UInt8 := [184, 0, 52, 182, 0, 188, 79, 28, 42, 180, 0, 7, 29, 184, 0, 94, 21, 4, 96, 46, 21, 5]
abbrev dktX4_spells_3 : List UInt8 := dkwX4_spells_3 ++ dktX4_spells_4
def dkwX4_spells_2 : List UInt8 := [159, 0, 54, 42, 180, 0, 7, 29, 184, 0, 94, 21, 4, 96, 42, 21, 5, 184, 0, 161, 27, 96]
abbrev dktX4_spells_2 : List UInt8 := dkwX4_spells_2 ++ dktX4_spells_3
def dkwX4_spells_1 : List UInt8 := [180, 0, 7, 29, 184, 0, 94, 21, 4, 96, 46, 54, 5, 21, 4, 5, 159, 0, 10, 21, 5, 16, 100]
abbrev dktX4_spells_1 : List UInt8 := dkwX4_spells_1 ++ dktX4_spells_2
def dkwX4_spells_0 : List UInt8 := [3, 61, 3, 62, 29, 42, 180, 0, 7, 4, 46, 162, 0, 102, 5, 54, 4, 21, 4, 7, 163, 0, 87, 42]
abbrev dktX4_spells_0 : List UInt8 := dkwX4_spells_0 ++ dktX4_spells_1
theorem dksX4_spells_0 : cX4_spells.data.toList.drop 0 = dktX4_spells_0 := by decide +kernel
theorem dksX4_spells_1 : cX4_spells.data.toList.drop 24 = dktX4_spells_1 := dk_seg dksX4_spells_0 24 rfl rfl
theorem dksX4_spells_2 : cX4_spells.data.toList.drop 47 = dktX4_spells_2 := dk_seg dksX4_spells_1 23 rfl rfl
theorem dksX4_spells_3 : cX4_spells.data.toList.drop 69 = dktX4_spells_3 := dk_seg dksX4_spells_2 22 rfl rfl
theorem dksX4_spells_4 : cX4_spells.data.toList.drop 91 = dktX4_spells_4 := dk_seg dksX4_spells_3 22 rfl rfl
abbrev cX4_respell : ByteArray := prog_11_method_67_code
def yX4_respell : MethodName := ⟨RX4, "respell", "()I"⟩
def dkwX4_respell_0 : List UInt8 := [42, 3, 181, 0, 46, 42, 182, 0, 107, 42, 3, 182, 0, 191, 172]
abbrev dktX4_respell_0 : List UInt8 := dkwX4_respell_0 ++ []
theorem dksX4_respell_0 : cX4_respell.data.toList.drop 0 = dktX4_respell_0 := by decide +kernel
abbrev cX4_transpose : ByteArray := prog_11_method_66_code
def yX4_transpose : MethodName := ⟨RX4, "transpose", "(I)I"⟩
def dkwX4_transpose_7 : List UInt8 := [6, 42, 180, 0, 7, 6, 46, 104, 96, 79, 42, 27, 182, 0, 191, 54, 4, 29, 172]
abbrev dktX4_transpose_7 : List UInt8 := dkwX4_transpose_7 ++ []
def dkwX4_transpose_6 : List UInt8 := [21, 7, 153, 0, 8, 21, 5, 167, 0, 4, 29, 62, 132, 4, 1, 167, 255, 147, 42, 180, 0, 7, 5, 29]
abbrev dktX4_transpose_6 : List UInt8 := dkwX4_transpose_6 ++ dktX4_transpose_7
def dkwX4_transpose_5 : List UInt8 := [16, 6, 160, 0, 14, 42, 180, 0, 114, 153, 0, 7, 4, 167, 0, 4, 3, 54, 7, 21, 6, 153, 0, 13]
abbrev dktX4_transpose_5 : List UInt8 := dkwX4_transpose_5 ++ dktX4_transpose_6
def dkwX4_transpose_4 : List UInt8 := [160, 0, 7, 4, 167, 0, 4, 3, 54, 6, 29, 16, 100, 159, 0, 23, 21, 5, 16, 250, 160, 0, 20, 29]
abbrev dktX4_transpose_4 : List UInt8 := dkwX4_transpose_4 ++ dktX4_transpose_5
def dkwX4_transpose_3 : List UInt8 := [21, 4, 5, 108, 116, 54, 5, 21, 5, 6, 42, 180, 0, 7, 6, 46, 104, 96, 184, 0, 161, 28]
abbrev dktX4_transpose_3 : List UInt8 := dkwX4_transpose_3 ++ dktX4_transpose_4
def dkwX4_transpose_2 : List UInt8 := [21, 4, 16, 12, 163, 0, 108, 21, 4, 5, 112, 4, 160, 0, 12, 21, 4, 5, 108, 4, 96, 167, 0, 8]
abbrev dktX4_transpose_2 : List UInt8 := dkwX4_transpose_2 ++ dktX4_transpose_3
def dkwX4_transpose_1 : List UInt8 := [182, 0, 107, 42, 180, 0, 7, 5, 46, 184, 0, 161, 27, 96, 184, 0, 52, 61, 16, 100, 62, 3, 54, 4]
abbrev dktX4_transpose_1 : List UInt8 := dkwX4_transpose_1 ++ dktX4_transpose_2
def dkwX4_transpose_0 : List UInt8 := [42, 3, 181, 0, 46, 27, 16, 245, 16, 11, 184, 0, 97, 154, 0, 9, 42, 4, 182, 0, 101, 172, 42]
abbrev dktX4_transpose_0 : List UInt8 := dkwX4_transpose_0 ++ dktX4_transpose_1
theorem dksX4_transpose_0 : cX4_transpose.data.toList.drop 0 = dktX4_transpose_0 := by decide +kernel
theorem dksX4_transpose_1 : cX4_transpose.data.toList.drop 23 = dktX4_transpose_1 := dk_seg dksX4_transpose_0 23 rfl rfl
theorem dksX4_transpose_2 : cX4_transpose.data.toList.drop 47 = dktX4_transpose_2 := dk_seg dksX4_transpose_1 24 rfl rfl
theorem dksX4_transpose_3 : cX4_transpose.data.toList.drop 71 = dktX4_transpose_3 := dk_seg dksX4_transpose_2 24 rfl rfl
theorem dksX4_transpose_4 : cX4_transpose.data.toList.drop 93 = dktX4_transpose_4 := dk_seg dksX4_transpose_3 22 rfl rfl
theorem dksX4_transpose_5 : cX4_transpose.data.toList.drop 117 = dktX4_transpose_5 := dk_seg dksX4_transpose_4 24 rfl rfl
theorem dksX4_transpose_6 : cX4_transpose.data.toList.drop 141 = dktX4_transpose_6 := dk_seg dksX4_transpose_5 24 rfl rfl
theorem dksX4_transpose_7 : cX4_transpose.data.toList.drop 165 = dktX4_transpose_7 := dk_seg dksX4_transpose_6 24 rfl rfl
theorem dX4_spelled_0 : decode cX4_spelled 0 = .ok (.aload_n 0, 1) := dk_42 (dk_at dksX4_spelled_0 0 rfl rfl)
theorem dX4_spelled_1 : decode cX4_spelled 1 = .ok (.invokevirtual 171, 3) := dk_182 0 171 (dk_at dksX4_spelled_0 1 rfl rfl)
theorem dX4_spelled_4 : decode cX4_spelled 4 = .ok (.iconst 3, 1) := dk_6 (dk_at dksX4_spelled_0 4 rfl rfl)
theorem dX4_spelled_5 : decode cX4_spelled 5 = .ok (.isub, 1) := dk_100 (dk_at dksX4_spelled_0 5 rfl rfl)
theorem dX4_spelled_6 : decode cX4_spelled 6 = .ok (.istore_n 2, 1) := dk_61 (dk_at dksX4_spelled_0 6 rfl rfl)
theorem dX4_spelled_7 : decode cX4_spelled 7 = .ok (.iload_n 2, 1) := dk_28 (dk_at dksX4_spelled_0 7 rfl rfl)
theorem dX4_spelled_8 : decode cX4_spelled 8 = .ok (.invokestatic 161, 3) := dk_184 0 161 (dk_at dksX4_spelled_0 8 rfl rfl)
theorem dX4_spelled_11 : decode cX4_spelled 11 = .ok (.iload_n 1, 1) := dk_27 (dk_at dksX4_spelled_0 11 rfl rfl)
theorem dX4_spelled_12 : decode cX4_spelled 12 = .ok (.if_icmp .eq 9, 3) := dk_159 0 9 (dk_at dksX4_spelled_0 12 rfl rfl)
theorem dX4_spelled_15 : decode cX4_spelled 15 = .ok (.iinc 2 1, 3) := dk_132 2 1 (dk_at dksX4_spelled_0 15 rfl rfl)
theorem dX4_spelled_18 : decode cX4_spelled 18 = .ok (.goto (-11), 3) := dk_167 255 245 (dk_at dksX4_spelled_0 18 rfl rfl)
theorem dX4_spelled_21 : decode cX4_spelled 21 = .ok (.aload_n 0, 1) := dk_42 (dk_at dksX4_spelled_0 21 rfl rfl)
theorem dX4_spelled_22 : decode cX4_spelled 22 = .ok (.getfield 19, 3) := dk_180 0 19 (dk_at dksX4_spelled_1 0 rfl rfl)
theorem dX4_spelled_25 : decode cX4_spelled 25 = .ok (.ifCond .eq 30, 3) := dk_153 0 30 (dk_at dksX4_spelled_1 3 rfl rfl)
theorem dX4_spelled_28 : decode cX4_spelled 28 = .ok (.iload_n 2, 1) := dk_28 (dk_at dksX4_spelled_1 6 rfl rfl)
theorem dX4_spelled_29 : decode cX4_spelled 29 = .ok (.bipush (-8), 2) := dk_16 248 (dk_at dksX4_spelled_1 7 rfl rfl)
theorem dX4_spelled_31 : decode cX4_spelled 31 = .ok (.bipush 12, 2) := dk_16 12 (dk_at dksX4_spelled_1 9 rfl rfl)
theorem dX4_spelled_33 : decode cX4_spelled 33 = .ok (.invokestatic 97, 3) := dk_184 0 97 (dk_at dksX4_spelled_1 11 rfl rfl)
theorem dX4_spelled_36 : decode cX4_spelled 36 = .ok (.ifCond .ne 19, 3) := dk_154 0 19 (dk_at dksX4_spelled_1 14 rfl rfl)
theorem dX4_spelled_39 : decode cX4_spelled 39 = .ok (.iconst (-1), 1) := dk_2 (dk_at dksX4_spelled_1 17 rfl rfl)
theorem dX4_spelled_40 : decode cX4_spelled 40 = .ok (.istore_n 2, 1) := dk_61 (dk_at dksX4_spelled_1 18 rfl rfl)
theorem dX4_spelled_41 : decode cX4_spelled 41 = .ok (.iload_n 2, 1) := dk_28 (dk_at dksX4_spelled_1 19 rfl rfl)
theorem dX4_spelled_42 : decode cX4_spelled 42 = .ok (.invokestatic 161, 3) := dk_184 0 161 (dk_at dksX4_spelled_1 20 rfl rfl)
theorem dX4_spelled_45 : decode cX4_spelled 45 = .ok (.iload_n 1, 1) := dk_27 (dk_at dksX4_spelled_1 23 rfl rfl)
theorem dX4_spelled_46 : decode cX4_spelled 46 = .ok (.if_icmp .eq 9, 3) := dk_159 0 9 (dk_at dksX4_spelled_2 0 rfl rfl)
theorem dX4_spelled_49 : decode cX4_spelled 49 = .ok (.iinc 2 1, 3) := dk_132 2 1 (dk_at dksX4_spelled_2 3 rfl rfl)
theorem dX4_spelled_52 : decode cX4_spelled 52 = .ok (.goto (-11), 3) := dk_167 255 245 (dk_at dksX4_spelled_2 6 rfl rfl)
theorem dX4_spelled_55 : decode cX4_spelled 55 = .ok (.iload_n 2, 1) := dk_28 (dk_at dksX4_spelled_2 9 rfl rfl)
theorem dX4_spelled_56 : decode cX4_spelled 56 = .ok (.ireturn, 1) := dk_172 (dk_at dksX4_spelled_2 10 rfl rfl)
theorem dX4_spells_0 : decode cX4_spells 0 = .ok (.iconst 0, 1) := dk_3 (dk_at dksX4_spells_0 0 rfl rfl)
theorem dX4_spells_1 : decode cX4_spells 1 = .ok (.istore_n 2, 1) := dk_61 (dk_at dksX4_spells_0 1 rfl rfl)
theorem dX4_spells_2 : decode cX4_spells 2 = .ok (.iconst 0, 1) := dk_3 (dk_at dksX4_spells_0 2 rfl rfl)
theorem dX4_spells_3 : decode cX4_spells 3 = .ok (.istore_n 3, 1) := dk_62 (dk_at dksX4_spells_0 3 rfl rfl)
theorem dX4_spells_4 : decode cX4_spells 4 = .ok (.iload_n 3, 1) := dk_29 (dk_at dksX4_spells_0 4 rfl rfl)
theorem dX4_spells_5 : decode cX4_spells 5 = .ok (.aload_n 0, 1) := dk_42 (dk_at dksX4_spells_0 5 rfl rfl)
theorem dX4_spells_6 : decode cX4_spells 6 = .ok (.getfield 7, 3) := dk_180 0 7 (dk_at dksX4_spells_0 6 rfl rfl)
theorem dX4_spells_9 : decode cX4_spells 9 = .ok (.iconst 1, 1) := dk_4 (dk_at dksX4_spells_0 9 rfl rfl)
theorem dX4_spells_10 : decode cX4_spells 10 = .ok (.iaload, 1) := dk_46 (dk_at dksX4_spells_0 10 rfl rfl)
theorem dX4_spells_11 : decode cX4_spells 11 = .ok (.if_icmp .ge 102, 3) := dk_162 0 102 (dk_at dksX4_spells_0 11 rfl rfl)
theorem dX4_spells_14 : decode cX4_spells 14 = .ok (.iconst 2, 1) := dk_5 (dk_at dksX4_spells_0 14 rfl rfl)
theorem dX4_spells_15 : decode cX4_spells 15 = .ok (.istore 4, 2) := dk_54 4 (dk_at dksX4_spells_0 15 rfl rfl)
theorem dX4_spells_17 : decode cX4_spells 17 = .ok (.iload 4, 2) := dk_21 4 (dk_at dksX4_spells_0 17 rfl rfl)
theorem dX4_spells_19 : decode cX4_spells 19 = .ok (.iconst 4, 1) := dk_7 (dk_at dksX4_spells_0 19 rfl rfl)
theorem dX4_spells_20 : decode cX4_spells 20 = .ok (.if_icmp .gt 87, 3) := dk_163 0 87 (dk_at dksX4_spells_0 20 rfl rfl)
theorem dX4_spells_23 : decode cX4_spells 23 = .ok (.aload_n 0, 1) := dk_42 (dk_at dksX4_spells_0 23 rfl rfl)
theorem dX4_spells_24 : decode cX4_spells 24 = .ok (.getfield 7, 3) := dk_180 0 7 (dk_at dksX4_spells_1 0 rfl rfl)
theorem dX4_spells_27 : decode cX4_spells 27 = .ok (.iload_n 3, 1) := dk_29 (dk_at dksX4_spells_1 3 rfl rfl)
theorem dX4_spells_28 : decode cX4_spells 28 = .ok (.invokestatic 94, 3) := dk_184 0 94 (dk_at dksX4_spells_1 4 rfl rfl)
theorem dX4_spells_31 : decode cX4_spells 31 = .ok (.iload 4, 2) := dk_21 4 (dk_at dksX4_spells_1 7 rfl rfl)
theorem dX4_spells_33 : decode cX4_spells 33 = .ok (.iadd, 1) := dk_96 (dk_at dksX4_spells_1 9 rfl rfl)
theorem dX4_spells_34 : decode cX4_spells 34 = .ok (.iaload, 1) := dk_46 (dk_at dksX4_spells_1 10 rfl rfl)
theorem dX4_spells_35 : decode cX4_spells 35 = .ok (.istore 5, 2) := dk_54 5 (dk_at dksX4_spells_1 11 rfl rfl)
theorem dX4_spells_37 : decode cX4_spells 37 = .ok (.iload 4, 2) := dk_21 4 (dk_at dksX4_spells_1 13 rfl rfl)
theorem dX4_spells_39 : decode cX4_spells 39 = .ok (.iconst 2, 1) := dk_5 (dk_at dksX4_spells_1 15 rfl rfl)
theorem dX4_spells_40 : decode cX4_spells 40 = .ok (.if_icmp .eq 10, 3) := dk_159 0 10 (dk_at dksX4_spells_1 16 rfl rfl)
theorem dX4_spells_43 : decode cX4_spells 43 = .ok (.iload 5, 2) := dk_21 5 (dk_at dksX4_spells_1 19 rfl rfl)
theorem dX4_spells_45 : decode cX4_spells 45 = .ok (.bipush 100, 2) := dk_16 100 (dk_at dksX4_spells_1 21 rfl rfl)
theorem dX4_spells_47 : decode cX4_spells 47 = .ok (.if_icmp .eq 54, 3) := dk_159 0 54 (dk_at dksX4_spells_2 0 rfl rfl)
theorem dX4_spells_50 : decode cX4_spells 50 = .ok (.aload_n 0, 1) := dk_42 (dk_at dksX4_spells_2 3 rfl rfl)
theorem dX4_spells_51 : decode cX4_spells 51 = .ok (.getfield 7, 3) := dk_180 0 7 (dk_at dksX4_spells_2 4 rfl rfl)
theorem dX4_spells_54 : decode cX4_spells 54 = .ok (.iload_n 3, 1) := dk_29 (dk_at dksX4_spells_2 7 rfl rfl)
theorem dX4_spells_55 : decode cX4_spells 55 = .ok (.invokestatic 94, 3) := dk_184 0 94 (dk_at dksX4_spells_2 8 rfl rfl)
theorem dX4_spells_58 : decode cX4_spells 58 = .ok (.iload 4, 2) := dk_21 4 (dk_at dksX4_spells_2 11 rfl rfl)
theorem dX4_spells_60 : decode cX4_spells 60 = .ok (.iadd, 1) := dk_96 (dk_at dksX4_spells_2 13 rfl rfl)
theorem dX4_spells_61 : decode cX4_spells 61 = .ok (.aload_n 0, 1) := dk_42 (dk_at dksX4_spells_2 14 rfl rfl)
theorem dX4_spells_62 : decode cX4_spells 62 = .ok (.iload 5, 2) := dk_21 5 (dk_at dksX4_spells_2 15 rfl rfl)
theorem dX4_spells_64 : decode cX4_spells 64 = .ok (.invokestatic 161, 3) := dk_184 0 161 (dk_at dksX4_spells_2 17 rfl rfl)
theorem dX4_spells_67 : decode cX4_spells 67 = .ok (.iload_n 1, 1) := dk_27 (dk_at dksX4_spells_2 20 rfl rfl)
theorem dX4_spells_68 : decode cX4_spells 68 = .ok (.iadd, 1) := dk_96 (dk_at dksX4_spells_2 21 rfl rfl)
theorem dX4_spells_69 : decode cX4_spells 69 = .ok (.invokestatic 52, 3) := dk_184 0 52 (dk_at dksX4_spells_3 0 rfl rfl)
theorem dX4_spells_72 : decode cX4_spells 72 = .ok (.invokevirtual 188, 3) := dk_182 0 188 (dk_at dksX4_spells_3 3 rfl rfl)
theorem dX4_spells_75 : decode cX4_spells 75 = .ok (.iastore, 1) := dk_79 (dk_at dksX4_spells_3 6 rfl rfl)
theorem dX4_spells_76 : decode cX4_spells 76 = .ok (.iload_n 2, 1) := dk_28 (dk_at dksX4_spells_3 7 rfl rfl)
theorem dX4_spells_77 : decode cX4_spells 77 = .ok (.aload_n 0, 1) := dk_42 (dk_at dksX4_spells_3 8 rfl rfl)
theorem dX4_spells_78 : decode cX4_spells 78 = .ok (.getfield 7, 3) := dk_180 0 7 (dk_at dksX4_spells_3 9 rfl rfl)
theorem dX4_spells_81 : decode cX4_spells 81 = .ok (.iload_n 3, 1) := dk_29 (dk_at dksX4_spells_3 12 rfl rfl)
theorem dX4_spells_82 : decode cX4_spells 82 = .ok (.invokestatic 94, 3) := dk_184 0 94 (dk_at dksX4_spells_3 13 rfl rfl)
theorem dX4_spells_85 : decode cX4_spells 85 = .ok (.iload 4, 2) := dk_21 4 (dk_at dksX4_spells_3 16 rfl rfl)
theorem dX4_spells_87 : decode cX4_spells 87 = .ok (.iadd, 1) := dk_96 (dk_at dksX4_spells_3 18 rfl rfl)
theorem dX4_spells_88 : decode cX4_spells 88 = .ok (.iaload, 1) := dk_46 (dk_at dksX4_spells_3 19 rfl rfl)
theorem dX4_spells_89 : decode cX4_spells 89 = .ok (.iload 5, 2) := dk_21 5 (dk_at dksX4_spells_3 20 rfl rfl)
theorem dX4_spells_91 : decode cX4_spells 91 = .ok (.if_icmp .eq 7, 3) := dk_159 0 7 (dk_at dksX4_spells_4 0 rfl rfl)
theorem dX4_spells_94 : decode cX4_spells 94 = .ok (.iconst 1, 1) := dk_4 (dk_at dksX4_spells_4 3 rfl rfl)
theorem dX4_spells_95 : decode cX4_spells 95 = .ok (.goto 4, 3) := dk_167 0 4 (dk_at dksX4_spells_4 4 rfl rfl)
theorem dX4_spells_98 : decode cX4_spells 98 = .ok (.iconst 0, 1) := dk_3 (dk_at dksX4_spells_4 7 rfl rfl)
theorem dX4_spells_99 : decode cX4_spells 99 = .ok (.iadd, 1) := dk_96 (dk_at dksX4_spells_4 8 rfl rfl)
theorem dX4_spells_100 : decode cX4_spells 100 = .ok (.istore_n 2, 1) := dk_61 (dk_at dksX4_spells_4 9 rfl rfl)
theorem dX4_spells_101 : decode cX4_spells 101 = .ok (.iinc 4 2, 3) := dk_132 4 2 (dk_at dksX4_spells_4 10 rfl rfl)
theorem dX4_spells_104 : decode cX4_spells 104 = .ok (.goto (-87), 3) := dk_167 255 169 (dk_at dksX4_spells_4 13 rfl rfl)
theorem dX4_spells_107 : decode cX4_spells 107 = .ok (.iinc 3 1, 3) := dk_132 3 1 (dk_at dksX4_spells_4 16 rfl rfl)
theorem dX4_spells_110 : decode cX4_spells 110 = .ok (.goto (-106), 3) := dk_167 255 150 (dk_at dksX4_spells_4 19 rfl rfl)
theorem dX4_spells_113 : decode cX4_spells 113 = .ok (.iload_n 2, 1) := dk_28 (dk_at dksX4_spells_4 22 rfl rfl)
theorem dX4_spells_114 : decode cX4_spells 114 = .ok (.ireturn, 1) := dk_172 (dk_at dksX4_spells_4 23 rfl rfl)
theorem dX4_respell_0 : decode cX4_respell 0 = .ok (.aload_n 0, 1) := dk_42 (dk_at dksX4_respell_0 0 rfl rfl)
theorem dX4_respell_1 : decode cX4_respell 1 = .ok (.iconst 0, 1) := dk_3 (dk_at dksX4_respell_0 1 rfl rfl)
theorem dX4_respell_2 : decode cX4_respell 2 = .ok (.putfield 46, 3) := dk_181 0 46 (dk_at dksX4_respell_0 2 rfl rfl)
theorem dX4_respell_5 : decode cX4_respell 5 = .ok (.aload_n 0, 1) := dk_42 (dk_at dksX4_respell_0 5 rfl rfl)
theorem dX4_respell_6 : decode cX4_respell 6 = .ok (.invokevirtual 107, 3) := dk_182 0 107 (dk_at dksX4_respell_0 6 rfl rfl)
theorem dX4_respell_9 : decode cX4_respell 9 = .ok (.aload_n 0, 1) := dk_42 (dk_at dksX4_respell_0 9 rfl rfl)
theorem dX4_respell_10 : decode cX4_respell 10 = .ok (.iconst 0, 1) := dk_3 (dk_at dksX4_respell_0 10 rfl rfl)
theorem dX4_respell_11 : decode cX4_respell 11 = .ok (.invokevirtual 191, 3) := dk_182 0 191 (dk_at dksX4_respell_0 11 rfl rfl)
theorem dX4_respell_14 : decode cX4_respell 14 = .ok (.ireturn, 1) := dk_172 (dk_at dksX4_respell_0 14 rfl rfl)
theorem dX4_transpose_0 : decode cX4_transpose 0 = .ok (.aload_n 0, 1) := dk_42 (dk_at dksX4_transpose_0 0 rfl rfl)
theorem dX4_transpose_1 : decode cX4_transpose 1 = .ok (.iconst 0, 1) := dk_3 (dk_at dksX4_transpose_0 1 rfl rfl)
theorem dX4_transpose_2 : decode cX4_transpose 2 = .ok (.putfield 46, 3) := dk_181 0 46 (dk_at dksX4_transpose_0 2 rfl rfl)
theorem dX4_transpose_5 : decode cX4_transpose 5 = .ok (.iload_n 1, 1) := dk_27 (dk_at dksX4_transpose_0 5 rfl rfl)
theorem dX4_transpose_6 : decode cX4_transpose 6 = .ok (.bipush (-11), 2) := dk_16 245 (dk_at dksX4_transpose_0 6 rfl rfl)
theorem dX4_transpose_8 : decode cX4_transpose 8 = .ok (.bipush 11, 2) := dk_16 11 (dk_at dksX4_transpose_0 8 rfl rfl)
theorem dX4_transpose_10 : decode cX4_transpose 10 = .ok (.invokestatic 97, 3) := dk_184 0 97 (dk_at dksX4_transpose_0 10 rfl rfl)
theorem dX4_transpose_13 : decode cX4_transpose 13 = .ok (.ifCond .ne 9, 3) := dk_154 0 9 (dk_at dksX4_transpose_0 13 rfl rfl)
theorem dX4_transpose_16 : decode cX4_transpose 16 = .ok (.aload_n 0, 1) := dk_42 (dk_at dksX4_transpose_0 16 rfl rfl)
theorem dX4_transpose_17 : decode cX4_transpose 17 = .ok (.iconst 1, 1) := dk_4 (dk_at dksX4_transpose_0 17 rfl rfl)
theorem dX4_transpose_18 : decode cX4_transpose 18 = .ok (.invokevirtual 101, 3) := dk_182 0 101 (dk_at dksX4_transpose_0 18 rfl rfl)
theorem dX4_transpose_21 : decode cX4_transpose 21 = .ok (.ireturn, 1) := dk_172 (dk_at dksX4_transpose_0 21 rfl rfl)
theorem dX4_transpose_22 : decode cX4_transpose 22 = .ok (.aload_n 0, 1) := dk_42 (dk_at dksX4_transpose_0 22 rfl rfl)
theorem dX4_transpose_23 : decode cX4_transpose 23 = .ok (.invokevirtual 107, 3) := dk_182 0 107 (dk_at dksX4_transpose_1 0 rfl rfl)
theorem dX4_transpose_26 : decode cX4_transpose 26 = .ok (.aload_n 0, 1) := dk_42 (dk_at dksX4_transpose_1 3 rfl rfl)
theorem dX4_transpose_27 : decode cX4_transpose 27 = .ok (.getfield 7, 3) := dk_180 0 7 (dk_at dksX4_transpose_1 4 rfl rfl)
theorem dX4_transpose_30 : decode cX4_transpose 30 = .ok (.iconst 2, 1) := dk_5 (dk_at dksX4_transpose_1 7 rfl rfl)
theorem dX4_transpose_31 : decode cX4_transpose 31 = .ok (.iaload, 1) := dk_46 (dk_at dksX4_transpose_1 8 rfl rfl)
theorem dX4_transpose_32 : decode cX4_transpose 32 = .ok (.invokestatic 161, 3) := dk_184 0 161 (dk_at dksX4_transpose_1 9 rfl rfl)
theorem dX4_transpose_35 : decode cX4_transpose 35 = .ok (.iload_n 1, 1) := dk_27 (dk_at dksX4_transpose_1 12 rfl rfl)
theorem dX4_transpose_36 : decode cX4_transpose 36 = .ok (.iadd, 1) := dk_96 (dk_at dksX4_transpose_1 13 rfl rfl)
theorem dX4_transpose_37 : decode cX4_transpose 37 = .ok (.invokestatic 52, 3) := dk_184 0 52 (dk_at dksX4_transpose_1 14 rfl rfl)
theorem dX4_transpose_40 : decode cX4_transpose 40 = .ok (.istore_n 2, 1) := dk_61 (dk_at dksX4_transpose_1 17 rfl rfl)
theorem dX4_transpose_41 : decode cX4_transpose 41 = .ok (.bipush 100, 2) := dk_16 100 (dk_at dksX4_transpose_1 18 rfl rfl)
theorem dX4_transpose_43 : decode cX4_transpose 43 = .ok (.istore_n 3, 1) := dk_62 (dk_at dksX4_transpose_1 20 rfl rfl)
theorem dX4_transpose_44 : decode cX4_transpose 44 = .ok (.iconst 0, 1) := dk_3 (dk_at dksX4_transpose_1 21 rfl rfl)
theorem dX4_transpose_45 : decode cX4_transpose 45 = .ok (.istore 4, 2) := dk_54 4 (dk_at dksX4_transpose_1 22 rfl rfl)
theorem dX4_transpose_47 : decode cX4_transpose 47 = .ok (.iload 4, 2) := dk_21 4 (dk_at dksX4_transpose_2 0 rfl rfl)
theorem dX4_transpose_49 : decode cX4_transpose 49 = .ok (.bipush 12, 2) := dk_16 12 (dk_at dksX4_transpose_2 2 rfl rfl)
theorem dX4_transpose_51 : decode cX4_transpose 51 = .ok (.if_icmp .gt 108, 3) := dk_163 0 108 (dk_at dksX4_transpose_2 4 rfl rfl)
theorem dX4_transpose_54 : decode cX4_transpose 54 = .ok (.iload 4, 2) := dk_21 4 (dk_at dksX4_transpose_2 7 rfl rfl)
theorem dX4_transpose_56 : decode cX4_transpose 56 = .ok (.iconst 2, 1) := dk_5 (dk_at dksX4_transpose_2 9 rfl rfl)
theorem dX4_transpose_57 : decode cX4_transpose 57 = .ok (.irem, 1) := dk_112 (dk_at dksX4_transpose_2 10 rfl rfl)
theorem dX4_transpose_58 : decode cX4_transpose 58 = .ok (.iconst 1, 1) := dk_4 (dk_at dksX4_transpose_2 11 rfl rfl)
theorem dX4_transpose_59 : decode cX4_transpose 59 = .ok (.if_icmp .ne 12, 3) := dk_160 0 12 (dk_at dksX4_transpose_2 12 rfl rfl)
theorem dX4_transpose_62 : decode cX4_transpose 62 = .ok (.iload 4, 2) := dk_21 4 (dk_at dksX4_transpose_2 15 rfl rfl)
theorem dX4_transpose_64 : decode cX4_transpose 64 = .ok (.iconst 2, 1) := dk_5 (dk_at dksX4_transpose_2 17 rfl rfl)
theorem dX4_transpose_65 : decode cX4_transpose 65 = .ok (.idiv, 1) := dk_108 (dk_at dksX4_transpose_2 18 rfl rfl)
theorem dX4_transpose_66 : decode cX4_transpose 66 = .ok (.iconst 1, 1) := dk_4 (dk_at dksX4_transpose_2 19 rfl rfl)
theorem dX4_transpose_67 : decode cX4_transpose 67 = .ok (.iadd, 1) := dk_96 (dk_at dksX4_transpose_2 20 rfl rfl)
theorem dX4_transpose_68 : decode cX4_transpose 68 = .ok (.goto 8, 3) := dk_167 0 8 (dk_at dksX4_transpose_2 21 rfl rfl)
theorem dX4_transpose_71 : decode cX4_transpose 71 = .ok (.iload 4, 2) := dk_21 4 (dk_at dksX4_transpose_3 0 rfl rfl)
theorem dX4_transpose_73 : decode cX4_transpose 73 = .ok (.iconst 2, 1) := dk_5 (dk_at dksX4_transpose_3 2 rfl rfl)
theorem dX4_transpose_74 : decode cX4_transpose 74 = .ok (.idiv, 1) := dk_108 (dk_at dksX4_transpose_3 3 rfl rfl)
theorem dX4_transpose_75 : decode cX4_transpose 75 = .ok (.ineg, 1) := dk_116 (dk_at dksX4_transpose_3 4 rfl rfl)
theorem dX4_transpose_76 : decode cX4_transpose 76 = .ok (.istore 5, 2) := dk_54 5 (dk_at dksX4_transpose_3 5 rfl rfl)
theorem dX4_transpose_78 : decode cX4_transpose 78 = .ok (.iload 5, 2) := dk_21 5 (dk_at dksX4_transpose_3 7 rfl rfl)
theorem dX4_transpose_80 : decode cX4_transpose 80 = .ok (.iconst 3, 1) := dk_6 (dk_at dksX4_transpose_3 9 rfl rfl)
theorem dX4_transpose_81 : decode cX4_transpose 81 = .ok (.aload_n 0, 1) := dk_42 (dk_at dksX4_transpose_3 10 rfl rfl)
theorem dX4_transpose_82 : decode cX4_transpose 82 = .ok (.getfield 7, 3) := dk_180 0 7 (dk_at dksX4_transpose_3 11 rfl rfl)
theorem dX4_transpose_85 : decode cX4_transpose 85 = .ok (.iconst 3, 1) := dk_6 (dk_at dksX4_transpose_3 14 rfl rfl)
theorem dX4_transpose_86 : decode cX4_transpose 86 = .ok (.iaload, 1) := dk_46 (dk_at dksX4_transpose_3 15 rfl rfl)
theorem dX4_transpose_87 : decode cX4_transpose 87 = .ok (.imul, 1) := dk_104 (dk_at dksX4_transpose_3 16 rfl rfl)
theorem dX4_transpose_88 : decode cX4_transpose 88 = .ok (.iadd, 1) := dk_96 (dk_at dksX4_transpose_3 17 rfl rfl)
theorem dX4_transpose_89 : decode cX4_transpose 89 = .ok (.invokestatic 161, 3) := dk_184 0 161 (dk_at dksX4_transpose_3 18 rfl rfl)
theorem dX4_transpose_92 : decode cX4_transpose 92 = .ok (.iload_n 2, 1) := dk_28 (dk_at dksX4_transpose_3 21 rfl rfl)
theorem dX4_transpose_93 : decode cX4_transpose 93 = .ok (.if_icmp .ne 7, 3) := dk_160 0 7 (dk_at dksX4_transpose_4 0 rfl rfl)
theorem dX4_transpose_96 : decode cX4_transpose 96 = .ok (.iconst 1, 1) := dk_4 (dk_at dksX4_transpose_4 3 rfl rfl)
theorem dX4_transpose_97 : decode cX4_transpose 97 = .ok (.goto 4, 3) := dk_167 0 4 (dk_at dksX4_transpose_4 4 rfl rfl)
theorem dX4_transpose_100 : decode cX4_transpose 100 = .ok (.iconst 0, 1) := dk_3 (dk_at dksX4_transpose_4 7 rfl rfl)
theorem dX4_transpose_101 : decode cX4_transpose 101 = .ok (.istore 6, 2) := dk_54 6 (dk_at dksX4_transpose_4 8 rfl rfl)
theorem dX4_transpose_103 : decode cX4_transpose 103 = .ok (.iload_n 3, 1) := dk_29 (dk_at dksX4_transpose_4 10 rfl rfl)
theorem dX4_transpose_104 : decode cX4_transpose 104 = .ok (.bipush 100, 2) := dk_16 100 (dk_at dksX4_transpose_4 11 rfl rfl)
theorem dX4_transpose_106 : decode cX4_transpose 106 = .ok (.if_icmp .eq 23, 3) := dk_159 0 23 (dk_at dksX4_transpose_4 13 rfl rfl)
theorem dX4_transpose_109 : decode cX4_transpose 109 = .ok (.iload 5, 2) := dk_21 5 (dk_at dksX4_transpose_4 16 rfl rfl)
theorem dX4_transpose_111 : decode cX4_transpose 111 = .ok (.bipush (-6), 2) := dk_16 250 (dk_at dksX4_transpose_4 18 rfl rfl)
theorem dX4_transpose_113 : decode cX4_transpose 113 = .ok (.if_icmp .ne 20, 3) := dk_160 0 20 (dk_at dksX4_transpose_4 20 rfl rfl)
theorem dX4_transpose_116 : decode cX4_transpose 116 = .ok (.iload_n 3, 1) := dk_29 (dk_at dksX4_transpose_4 23 rfl rfl)
theorem dX4_transpose_117 : decode cX4_transpose 117 = .ok (.bipush 6, 2) := dk_16 6 (dk_at dksX4_transpose_5 0 rfl rfl)
theorem dX4_transpose_119 : decode cX4_transpose 119 = .ok (.if_icmp .ne 14, 3) := dk_160 0 14 (dk_at dksX4_transpose_5 2 rfl rfl)
theorem dX4_transpose_122 : decode cX4_transpose 122 = .ok (.aload_n 0, 1) := dk_42 (dk_at dksX4_transpose_5 5 rfl rfl)
theorem dX4_transpose_123 : decode cX4_transpose 123 = .ok (.getfield 114, 3) := dk_180 0 114 (dk_at dksX4_transpose_5 6 rfl rfl)
theorem dX4_transpose_126 : decode cX4_transpose 126 = .ok (.ifCond .eq 7, 3) := dk_153 0 7 (dk_at dksX4_transpose_5 9 rfl rfl)
theorem dX4_transpose_129 : decode cX4_transpose 129 = .ok (.iconst 1, 1) := dk_4 (dk_at dksX4_transpose_5 12 rfl rfl)
theorem dX4_transpose_130 : decode cX4_transpose 130 = .ok (.goto 4, 3) := dk_167 0 4 (dk_at dksX4_transpose_5 13 rfl rfl)
theorem dX4_transpose_133 : decode cX4_transpose 133 = .ok (.iconst 0, 1) := dk_3 (dk_at dksX4_transpose_5 16 rfl rfl)
theorem dX4_transpose_134 : decode cX4_transpose 134 = .ok (.istore 7, 2) := dk_54 7 (dk_at dksX4_transpose_5 17 rfl rfl)
theorem dX4_transpose_136 : decode cX4_transpose 136 = .ok (.iload 6, 2) := dk_21 6 (dk_at dksX4_transpose_5 19 rfl rfl)
theorem dX4_transpose_138 : decode cX4_transpose 138 = .ok (.ifCond .eq 13, 3) := dk_153 0 13 (dk_at dksX4_transpose_5 21 rfl rfl)
theorem dX4_transpose_141 : decode cX4_transpose 141 = .ok (.iload 7, 2) := dk_21 7 (dk_at dksX4_transpose_6 0 rfl rfl)
theorem dX4_transpose_143 : decode cX4_transpose 143 = .ok (.ifCond .eq 8, 3) := dk_153 0 8 (dk_at dksX4_transpose_6 2 rfl rfl)
theorem dX4_transpose_146 : decode cX4_transpose 146 = .ok (.iload 5, 2) := dk_21 5 (dk_at dksX4_transpose_6 5 rfl rfl)
theorem dX4_transpose_148 : decode cX4_transpose 148 = .ok (.goto 4, 3) := dk_167 0 4 (dk_at dksX4_transpose_6 7 rfl rfl)
theorem dX4_transpose_151 : decode cX4_transpose 151 = .ok (.iload_n 3, 1) := dk_29 (dk_at dksX4_transpose_6 10 rfl rfl)
theorem dX4_transpose_152 : decode cX4_transpose 152 = .ok (.istore_n 3, 1) := dk_62 (dk_at dksX4_transpose_6 11 rfl rfl)
theorem dX4_transpose_153 : decode cX4_transpose 153 = .ok (.iinc 4 1, 3) := dk_132 4 1 (dk_at dksX4_transpose_6 12 rfl rfl)
theorem dX4_transpose_156 : decode cX4_transpose 156 = .ok (.goto (-109), 3) := dk_167 255 147 (dk_at dksX4_transpose_6 15 rfl rfl)
theorem dX4_transpose_159 : decode cX4_transpose 159 = .ok (.aload_n 0, 1) := dk_42 (dk_at dksX4_transpose_6 18 rfl rfl)
theorem dX4_transpose_160 : decode cX4_transpose 160 = .ok (.getfield 7, 3) := dk_180 0 7 (dk_at dksX4_transpose_6 19 rfl rfl)
theorem dX4_transpose_163 : decode cX4_transpose 163 = .ok (.iconst 2, 1) := dk_5 (dk_at dksX4_transpose_6 22 rfl rfl)
theorem dX4_transpose_164 : decode cX4_transpose 164 = .ok (.iload_n 3, 1) := dk_29 (dk_at dksX4_transpose_6 23 rfl rfl)
theorem dX4_transpose_165 : decode cX4_transpose 165 = .ok (.iconst 3, 1) := dk_6 (dk_at dksX4_transpose_7 0 rfl rfl)
theorem dX4_transpose_166 : decode cX4_transpose 166 = .ok (.aload_n 0, 1) := dk_42 (dk_at dksX4_transpose_7 1 rfl rfl)
theorem dX4_transpose_167 : decode cX4_transpose 167 = .ok (.getfield 7, 3) := dk_180 0 7 (dk_at dksX4_transpose_7 2 rfl rfl)
theorem dX4_transpose_170 : decode cX4_transpose 170 = .ok (.iconst 3, 1) := dk_6 (dk_at dksX4_transpose_7 5 rfl rfl)
theorem dX4_transpose_171 : decode cX4_transpose 171 = .ok (.iaload, 1) := dk_46 (dk_at dksX4_transpose_7 6 rfl rfl)
theorem dX4_transpose_172 : decode cX4_transpose 172 = .ok (.imul, 1) := dk_104 (dk_at dksX4_transpose_7 7 rfl rfl)
theorem dX4_transpose_173 : decode cX4_transpose 173 = .ok (.iadd, 1) := dk_96 (dk_at dksX4_transpose_7 8 rfl rfl)
theorem dX4_transpose_174 : decode cX4_transpose 174 = .ok (.iastore, 1) := dk_79 (dk_at dksX4_transpose_7 9 rfl rfl)
theorem dX4_transpose_175 : decode cX4_transpose 175 = .ok (.aload_n 0, 1) := dk_42 (dk_at dksX4_transpose_7 10 rfl rfl)
theorem dX4_transpose_176 : decode cX4_transpose 176 = .ok (.iload_n 1, 1) := dk_27 (dk_at dksX4_transpose_7 11 rfl rfl)
theorem dX4_transpose_177 : decode cX4_transpose 177 = .ok (.invokevirtual 191, 3) := dk_182 0 191 (dk_at dksX4_transpose_7 12 rfl rfl)
theorem dX4_transpose_180 : decode cX4_transpose 180 = .ok (.istore 4, 2) := dk_54 4 (dk_at dksX4_transpose_7 15 rfl rfl)
theorem dX4_transpose_182 : decode cX4_transpose 182 = .ok (.iload_n 3, 1) := dk_29 (dk_at dksX4_transpose_7 17 rfl rfl)
theorem dX4_transpose_183 : decode cX4_transpose 183 = .ok (.ireturn, 1) := dk_172 (dk_at dksX4_transpose_7 18 rfl rfl)
theorem q2400 : (Jvm.Cond.methodLink "ChordSheetModel" (191 : Nat) ({ cls := "ChordSheetModel", name := "spells", desc := "(I)I" } : Jvm.MethodName)) ∈ lw_all := lw_g (lw_at lw_m10 178 rfl) rfl
theorem q2402 : (Jvm.Cond.instanceMethod ({ cls := "ChordSheetModel", name := "spells", desc := "(I)I" } : Jvm.MethodName)) ∈ lw_all := lw_g (lw_at lw_m10 180 rfl) rfl
theorem q2403 : (Jvm.Cond.code ({ cls := "ChordSheetModel", name := "spells", desc := "(I)I" } : Jvm.MethodName) prog_11_method_65_code (6 : Nat) (Option.some Jvm.ClassFile.FieldType.int)) ∈ lw_all := lw_g (lw_at lw_m10 181 rfl) rfl
theorem q2404 : (Jvm.Cond.methodLink "ChordSheetModel" (188 : Nat) ({ cls := "ChordSheetModel", name := "spelled", desc := "(I)I" } : Jvm.MethodName)) ∈ lw_all := lw_g (lw_at lw_m10 182 rfl) rfl
theorem q2406 : (Jvm.Cond.instanceMethod ({ cls := "ChordSheetModel", name := "spelled", desc := "(I)I" } : Jvm.MethodName)) ∈ lw_all := lw_g (lw_at lw_m10 184 rfl) rfl
theorem q2407 : (Jvm.Cond.code ({ cls := "ChordSheetModel", name := "spelled", desc := "(I)I" } : Jvm.MethodName) prog_11_method_64_code (3 : Nat) (Option.some Jvm.ClassFile.FieldType.int)) ∈ lw_all := lw_g (lw_at lw_m10 185 rfl) rfl
theorem hsg_d (t m s : Int) : hsg t m s = plf ((if m = 1 then 3 else 0) - 5) ((pcl t + s) % 12) - if m = 1 then 3 else 0 := rfl
theorem hsg_r (t m s : Int) : -5 ≤ hsg t m s ∧ hsg t m s ≤ 6 := by
  have := plf_r ((if m = 1 then 3 else 0) - 5) ((pcl t + s) % 12)
  rw [hsg_d]
  omega
theorem hsg_p {t m s x : Int} (hm : m = 0 ∨ m = 1) (hx : -5 ≤ x ∧ x ≤ 6) : pcl (x + 3 * m) = (pcl t + s) % 12 ↔ x = hsg t m s := by
  have h1 : pcl (x + 3 * m) = 7 * (x + 3 * m) % 12 := rfl
  have h2 : hsg t m s = ((if m = 1 then 3 else 0) - 5) + (7 * ((pcl t + s) % 12) - ((if m = 1 then 3 else 0) - 5)) % 12 - if m = 1 then 3 else 0 := rfl
  have h3 : 0 ≤ (pcl t + s) % 12 ∧ (pcl t + s) % 12 < 12 := by omega
  rw [h1, h2]
  generalize (pcl t + s) % 12 = P at h3 ⊢
  rcases hm with e | e <;> subst e
  · simp only [show ¬ ((0 : Int) = 1) from by decide, if_false]
    omega
  · simp only [if_true]
    omega
theorem hsg_6 {t m s : Int} (hm : m = 0 ∨ m = 1) : pcl (-6 + 3 * m) = (pcl t + s) % 12 ↔ hsg t m s = 6 := by
  have h := hsg_p (t := t) (s := s) hm (x := 6) (by decide)
  have e : pcl (-6 + 3 * m) = pcl (6 + 3 * m) := by
    have h1 : pcl (-6 + 3 * m) = 7 * (-6 + 3 * m) % 12 := rfl
    have h2 : pcl (6 + 3 * m) = 7 * (6 + 3 * m) % 12 := rfl
    rw [h1, h2]; omega
  rw [e, h]
  exact ⟨fun z => z.symm, fun z => z.symm⟩
theorem sgk_e {k : Int} : (k % 2 = 1 → sgk k = (k + 1) / 2) ∧ (¬ k % 2 = 1 → sgk k = -(k / 2)) := by
  unfold sgk
  exact ⟨fun z => if_pos z, fun z => if_neg z⟩
set_option maxHeartbeats 4000000 in
theorem m_sig2 {l : Launch} (hl : l.stackTraces = false) {Γ : zCx} {h : zH} {A : zMA} {st ty si ff wd th ap nt rr rq rb wh nd up lo : Int} {V P T M N U W : Nat → Int} (hM : mM h A st ty si ff wd th ap nt rr rq rb wh nd up lo V P T M N U W) {t m : Int} (h2 : V 2 = t) (h3 : V 3 = m) (hm01 : m = 0 ∨ m = 1)  : zMet l yX4_signatureNow (ws_ yX4_signatureNow cX4_signatureNow 1 (some .int)) ({ frames := 0, cells := 0, slots := 0, locals := 0 }) Γ h [.ref A.m] (zpure h (some (.int (iI (sgn t m))))) 0 0 := by
  refine zMet.of (cc := cX4_signatureNow) hl (plainFor_of_name (by decide +kernel)) (Nat.le_of_ble_eq_true rfl) ?_
  intro X hXl hXΓ hXp C hnm hnL
  have C : zC X cX4_signatureNow RX4 (some .int) 0 0 [] := C
  have hnL : X.2.1.2.2.2.2 = 1 := hnL
  subst hXl hXΓ
  show Z X h 0 0 [(0, .ref A.m)] 0 []
  obtain ⟨gm_1, gv_1, gpa_1, gtx_1, gma_1, gna_1, gua_1, gla_1, gle_1, gqa_1, gd_1⟩ := id hM
  refine z_aload_n (pc := 0) (j := 0) C dX4_signatureNow_0 rfl rfl ?_
  refine z_getfield (pc := 1) (v := .ref A.v) C in_X4 rfl 0 (by decide) q2082 (fun _ z => z) gm_1 rfl dX4_signatureNow_1 ?_
  refine z_iconst (pc := 4) C dX4_signatureNow_4 ?_
  refine z_iaload (pc := 5) (v := .int (iI t)) C gv_1 (by omega) (mA_e (vE h2 (by omega))) dX4_signatureNow_5 ?_
  refine z_iconst (pc := 6) C dX4_signatureNow_6 ?_
  refine z_aload_n (pc := 7) (j := 0) C dX4_signatureNow_7 rfl rfl ?_
  refine z_getfield (pc := 8) (v := .ref A.v) C in_X4 rfl 0 (by decide) q2082 (fun _ z => z) gm_1 rfl dX4_signatureNow_8 ?_
  refine z_iconst (pc := 11) C dX4_signatureNow_11 ?_
  refine z_iaload (pc := 12) (v := .int (iI m)) C gv_1 (by omega) (mA_e (vE h3 (by omega))) dX4_signatureNow_12 ?_
  refine z_imul (pc := 13) C dX4_signatureNow_13 ?_
  refine z_isub (pc := 14) C dX4_signatureNow_14 ?_
  exact z_ireturn (pc := 15) C (by rw [hXp]; exact zpure_i (by unfold sgn; split <;> omega) rfl) dX4_signatureNow_15
set_option maxHeartbeats 4000000 in
theorem m_spell {l : Launch} (hl : l.stackTraces = false) {Γ : zCx} {h : zH} {A : zMA} {st ty si ff wd th ap nt rr rq rb wh nd up lo : Int} {V P T M N U W : Nat → Int} (hM : mM h A st ty si ff wd th ap nt rr rq rb wh nd up lo V P T M N U W) {t m : Int} (h2 : V 2 = t) (h3 : V 3 = m) (hm01 : m = 0 ∨ m = 1) (hsg : -6 ≤ sgn t m ∧ sgn t m ≤ 6) (hsi : si = 0 ∨ si = 1) {p : Int} (hp : 0 ≤ p ∧ p < 12)  : zMet l yX4_spelled (ws_ yX4_spelled cX4_spelled 3 (some .int)) ({ frames := 2, cells := 0, slots := 0, locals := 40 }) Γ h [.ref A.m, .int (iI p)] (zpure h (some (.int (iI (spl t m p si))))) 0 0 := by
  refine zMet.of (cc := cX4_spelled) hl (plainFor_of_name (by decide +kernel)) (Nat.le_of_ble_eq_true rfl) ?_
  intro X hXl hXΓ hXp C hnm hnL
  have C : zC X cX4_spelled RX4 (some .int) 2 40 [] := C
  have hnL : X.2.1.2.2.2.2 = 3 := hnL
  subst hXl hXΓ
  show Z X h 0 0 [(0, .ref A.m), (1, .int (iI p))] 0 []
  obtain ⟨gm_1, gv_1, gpa_1, gtx_1, gma_1, gna_1, gua_1, gla_1, gle_1, gqa_1, gd_1⟩ := id hM
  refine z_aload_n (pc := 0) (j := 0) C dX4_spelled_0 rfl rfl ?_
  refine z_callV (pc := 1) (n := 0) (kc' := 0) (ks' := 0) C (m_sig2 C.t ⟨gm_1, gv_1, gpa_1, gtx_1, gma_1, gna_1, gua_1, gla_1, gle_1, gqa_1, gd_1⟩ h2 h3 hm01) (lw_V q2365 q2367 qs51 q74 q2368) (by decide +kernel) ⟨by decide, by decide⟩ gm_1 rfl rfl rfl (Nat.le_of_ble_eq_true rfl) dX4_spelled_1 (by omega) (by omega) (zpk (st' := [.int (iI (sgn t m))]) rfl ?_) zrx
  refine z_iconst (pc := 4) C dX4_spelled_4 ?_
  refine z_isub (pc := 5) C dX4_spelled_5 ?_
  have hpl := plf_r (sgn t m - 3) p
  have hpl2 := plf_r (-1) p
  refine z_istore_n (pc := 6) (L' := [(2, .int (iI ((sgn t m) - 3))), (0, .ref A.m), (1, .int (iI p))]) C dX4_spelled_6 rfl (by rw [hnL]; decide) rfl ?_
  have loop7 : ∀ (n7 : Nat) (k : Int), (sgn t m - 3 ≤ k ∧ k ≤ plf (sgn t m - 3) p) → ((20 - k).toNat) = n7 → Z X h 0 0 [(2, .int (iI k)), (1, .int (iI p)), (0, .ref A.m)] 7 [] := by
    intro n7
    induction n7 using Nat.strongRecOn with
    | ind n7 ih7 =>
    intro k hk hn7
    refine z_iload_n (pc := 7) (j := 0) C dX4_spelled_7 rfl rfl ?_
    refine z_callS (pc := 8) (n := 1) (kc' := 0) (ks' := 0) C (m_pitch C.t (x := k) (by omega)) (lw_S q2218 q2219 q74 q2220) (by decide +kernel) ⟨by decide, by decide⟩ rfl rfl (Nat.le_of_ble_eq_true rfl) dX4_spelled_8 (by omega) (by omega) (zpk (st' := [.int (iI (pcl k))]) rfl ?_) zrx
    have hpcl11 := pcl_r k
    refine z_iload_n (pc := 11) (j := 1) C dX4_spelled_11 rfl rfl ?_
    refine z_icmp_eq (pc := 12) (tgt := 21) C dX4_spelled_12 (by decide) (by omega) (by omega) (fun c12 => ?_) (fun c12 => ?_)
    · have hz7 : pcl k = 7 * k % 12 := rfl
      have hz8 : plf (sgn t m - 3) p = sgn t m - 3 + (7 * p - (sgn t m - 3)) % 12 := rfl
      have hke : k = plf (sgn t m - 3) p := by omega
      refine z_aload_n (pc := 21) (j := 2) C dX4_spelled_21 rfl rfl ?_
      refine z_getfield (pc := 22) (v := .int (iI si)) C in_X4 rfl 5 (by decide) q2087 (fun _ z => z) gm_1 rfl dX4_spelled_22 ?_
      refine z_if_eq (pc := 25) (tgt := 55) C dX4_spelled_25 (by decide) (by omega) (fun c25 => ?_) (fun c25 => ?_)
      · refine z_iload_n (pc := 55) (j := 0) C dX4_spelled_55 rfl rfl ?_
        have hz2 : plf (sgn t m - 3) p = sgn t m - 3 + (7 * p - (sgn t m - 3)) % 12 := rfl
        have hz3 : plf (-1) p = -1 + (7 * p - -1) % 12 := rfl
        have hz4 : acc (plf (sgn t m - 3) p) = (plf (sgn t m - 3) p + 1) / 7 := rfl
        have hz5 : pcl k = 7 * k % 12 := rfl
        exact z_ireturn (pc := 56) C (by rw [hXp]; exact zpure_i (by unfold spl iabs; rw [hz4]; (repeat' split) <;> omega) rfl) dX4_spelled_56
      · refine z_iload_n (pc := 28) (j := 0) C dX4_spelled_28 rfl rfl ?_
        refine z_bipush (pc := 29) C dX4_spelled_29 (by decide) ?_
        refine z_bipush (pc := 31) C dX4_spelled_31 (by decide) ?_
        refine z_callS (pc := 33) (n := 3) (kc' := 0) (ks' := 0) C (m_in C.t (x := k) (a := (-8)) (b := 12) (by omega) (by decide) (by decide)) (lw_S q2164 q2165 q74 q2166) (by decide +kernel) ⟨by decide, by decide⟩ rfl rfl (Nat.le_of_ble_eq_true rfl) dX4_spelled_33 (by omega) (by omega) (zpk (st' := [.int (iI (if (-8) ≤ k ∧ k ≤ 12 then 1 else 0))]) rfl ?_) zrx
        refine z_if_ne (pc := 36) (tgt := 55) C dX4_spelled_36 (by decide) (by split <;> decide) (fun c36 => ?_) (fun c36 => ?_)
        · refine z_iload_n (pc := 55) (j := 0) C dX4_spelled_55 rfl rfl ?_
          have hz2 : plf (sgn t m - 3) p = sgn t m - 3 + (7 * p - (sgn t m - 3)) % 12 := rfl
          have hz3 : plf (-1) p = -1 + (7 * p - -1) % 12 := rfl
          have hz4 : acc (plf (sgn t m - 3) p) = (plf (sgn t m - 3) p + 1) / 7 := rfl
          have hz5 : pcl k = 7 * k % 12 := rfl
          exact z_ireturn (pc := 56) C (by rw [hXp]; exact zpure_i (by unfold spl iabs; rw [hz4]; (repeat' split) <;> omega) rfl) dX4_spelled_56
        · refine z_iconst (pc := 39) C dX4_spelled_39 ?_
          refine z_istore_n (pc := 40) (L' := [(2, .int (iI (-1))), (1, .int (iI p)), (0, .ref A.m)]) C dX4_spelled_40 rfl (by rw [hnL]; decide) rfl ?_
          have loop41 : ∀ (n41 : Nat) (k2 : Int), (-1 ≤ k2 ∧ k2 ≤ plf (-1) p) → ((20 - k2).toNat) = n41 → Z X h 0 0 [(2, .int (iI k2)), (1, .int (iI p)), (0, .ref A.m)] 41 [] := by
            intro n41
            induction n41 using Nat.strongRecOn with
            | ind n41 ih41 =>
            intro k2 hk2 hn41
            refine z_iload_n (pc := 41) (j := 0) C dX4_spelled_41 rfl rfl ?_
            refine z_callS (pc := 42) (n := 1) (kc' := 0) (ks' := 0) C (m_pitch C.t (x := k2) (by omega)) (lw_S q2218 q2219 q74 q2220) (by decide +kernel) ⟨by decide, by decide⟩ rfl rfl (Nat.le_of_ble_eq_true rfl) dX4_spelled_42 (by omega) (by omega) (zpk (st' := [.int (iI (pcl k2))]) rfl ?_) zrx
            have hpcl45 := pcl_r k2
            refine z_iload_n (pc := 45) (j := 1) C dX4_spelled_45 rfl rfl ?_
            refine z_icmp_eq (pc := 46) (tgt := 55) C dX4_spelled_46 (by decide) (by omega) (by omega) (fun c46 => ?_) (fun c46 => ?_)
            · refine z_iload_n (pc := 55) (j := 0) C dX4_spelled_55 rfl rfl ?_
              have hz2 : plf (sgn t m - 3) p = sgn t m - 3 + (7 * p - (sgn t m - 3)) % 12 := rfl
              have hz3 : plf (-1) p = -1 + (7 * p - -1) % 12 := rfl
              have hz4 : acc (plf (sgn t m - 3) p) = (plf (sgn t m - 3) p + 1) / 7 := rfl
              have hz5 : pcl k = 7 * k % 12 := rfl
              have hz6 : pcl k2 = 7 * k2 % 12 := rfl
              exact z_ireturn (pc := 56) C (by rw [hXp]; exact zpure_i (by unfold spl iabs; rw [hz4]; (repeat' split) <;> omega) rfl) dX4_spelled_56
            · refine z_iinc (pc := 49) (k := 0) (L' := [(2, .int (iI (k2 + 1))), (1, .int (iI p)), (0, .ref A.m)]) C dX4_spelled_49 rfl (by rw [hnL]; decide) rfl ?_
              refine z_goto (pc := 52) (tgt := 41) C dX4_spelled_52 (by decide) ?_
              refine Z.weak (L' := [(2, .int (iI (k2 + 1))), (1, .int (iI p)), (0, .ref A.m)]) (kc' := 0) (ks' := 0) [0, 1, 2] rfl (by omega) (by omega) ?_
              exact ih41 _ (by omega) (k2 + 1) (by have hz : pcl k2 = 7 * k2 % 12 := rfl; have hz2 : plf (-1) p = -1 + (7 * p - -1) % 12 := rfl; omega) rfl
          refine Z.weak (L' := [(2, .int (iI (-1))), (1, .int (iI p)), (0, .ref A.m)]) (kc' := 0) (ks' := 0) [0, 1, 2] rfl (by omega) (by omega) ?_
          exact loop41 _ (-1) (by omega) rfl
    · refine z_iinc (pc := 15) (k := 0) (L' := [(2, .int (iI (k + 1))), (1, .int (iI p)), (0, .ref A.m)]) C dX4_spelled_15 rfl (by rw [hnL]; decide) rfl ?_
      refine z_goto (pc := 18) (tgt := 7) C dX4_spelled_18 (by decide) ?_
      refine Z.weak (L' := [(2, .int (iI (k + 1))), (1, .int (iI p)), (0, .ref A.m)]) (kc' := 0) (ks' := 0) [0, 1, 2] rfl (by omega) (by omega) ?_
      exact ih7 _ (by omega) (k + 1) (by have hz : pcl k = 7 * k % 12 := rfl; have hz2 : plf (sgn t m - 3) p = sgn t m - 3 + (7 * p - (sgn t m - 3)) % 12 := rfl; omega) rfl
  refine Z.weak (L' := [(2, .int (iI ((sgn t m) - 3))), (1, .int (iI p)), (0, .ref A.m)]) (kc' := 0) (ks' := 0) [0, 2, 1] rfl (by omega) (by omega) ?_
  exact loop7 _ ((sgn t m) - 3) (by omega) rfl
set_option maxHeartbeats 4000000 in
theorem m_spells {l : Launch} (hl : l.stackTraces = false) {Γ : zCx} {h : zH} {A : zMA} {st ty si ff wd th ap nt rr rq rb wh nd up lo : Int} {V P T M N U W : Nat → Int} (hM : mM h A st ty si ff wd th ap nt rr rq rb wh nd up lo V P T M N U W) {S : zSh} (hS : vS V S) (hsl : shL S) (hrg : ∀ c ∈ S.cs, crg c) (hm01 : S.m = 0 ∨ S.m = 1) (hsg : -6 ≤ sgn S.t S.m ∧ sgn S.t S.m ≤ 6) (hsi : si = 0 ∨ si = 1) {by_ : Int} (hby : -11 ≤ by_ ∧ by_ ≤ 11)  : zMet l yX4_spells (ws_ yX4_spells cX4_spells 6 (some .int)) ({ frames := 3, cells := 0, slots := 0, locals := 62 }) Γ h [.ref A.m, .int (iI by_)] (zrt (fun w h' => ∃ V', w = some (.int (iI (rct S.t S.m si by_ S.cs))) ∧ mM h' A st ty si ff wd th ap nt rr rq rb wh nd up lo V' P T M N U W ∧ vS V' (S.ls, S.cs.map (rsp S.t S.m si by_), S.t, S.m) ∧ zkeep h h' [A.m, A.v, A.pa, A.tx, A.ma, A.na, A.ua, A.la])) 0 0 := by
  refine zMet.of (cc := cX4_spells) hl (plainFor_of_name (by decide +kernel)) (Nat.le_of_ble_eq_true rfl) ?_
  intro X hXl hXΓ hXp C hnm hnL
  have C : zC X cX4_spells RX4 (some .int) 3 62 [] := C
  have hnL : X.2.1.2.2.2.2 = 6 := hnL
  subst hXl hXΓ
  show Z X h 0 0 [(0, .ref A.m), (1, .int (iI by_))] 0 []
  obtain ⟨gm_1, gv_1, gpa_1, gtx_1, gma_1, gna_1, gua_1, gla_1, gle_1, gqa_1, gd_1⟩ := id hM
  obtain ⟨hsl1, hsl2, hsl3⟩ := id hsl
  refine z_iconst (pc := 0) C dX4_spells_0 ?_
  refine z_istore_n (pc := 1) (L' := [(2, .int (iI 0)), (0, .ref A.m), (1, .int (iI by_))]) C dX4_spells_1 rfl (by rw [hnL]; decide) rfl ?_
  refine z_iconst (pc := 2) C dX4_spells_2 ?_
  refine z_istore_n (pc := 3) (L' := [(3, .int (iI 0)), (2, .int (iI 0)), (0, .ref A.m), (1, .int (iI by_))]) C dX4_spells_3 rfl (by rw [hnL]; decide) rfl ?_
  have loop4 : ∀ (n4 : Nat) (i : Int) (n : Int) (Vv : Nat → Int) (g4 : zH), (mM g4 A st ty si ff wd th ap nt rr rq rb wh nd up lo Vv P T M N U W) → (zkeep h g4 [A.m, A.v, A.pa, A.tx, A.ma, A.na, A.ua, A.la]) → (0 ≤ i ∧ i ≤ (S.cs.length : Nat)) → (vS Vv (S.ls, ((S.cs.take i.toNat).map (rsp S.t S.m si by_) ++ S.cs.drop i.toNat), S.t, S.m)) → (n + rct S.t S.m si by_ (S.cs.drop i.toNat) = rct S.t S.m si by_ S.cs) → (((S.cs.length : Nat) - i).toNat) = n4 → Z X g4 0 0 [(3, .int (iI i)), (2, .int (iI n)), (1, .int (iI by_)), (0, .ref A.m)] 4 [] := by
    intro n4
    induction n4 using Nat.strongRecOn with
    | ind n4 ih4 =>
    intro i n Vv g4 hMg4 hkp4 hi hSv hd hn4
    obtain ⟨gm_2, gv_2, gpa_2, gtx_2, gma_2, gna_2, gua_2, gla_2, gle_2, gqa_2, gd_2⟩ := id hMg4
    refine z_iload_n (pc := 4) (j := 0) C dX4_spells_4 rfl rfl ?_
    refine z_aload_n (pc := 5) (j := 3) C dX4_spells_5 rfl rfl ?_
    refine z_getfield (pc := 6) (v := .ref A.v) C in_X4 rfl 0 (by decide) q2082 (fun _ z => z) gm_2 rfl dX4_spells_6 ?_
    refine z_iconst (pc := 9) C dX4_spells_9 ?_
    refine z_iaload (pc := 10) (v := .int (iI ((S.cs.length : Nat) : Int))) C gv_2 (by omega) (mA_e (vE (show Vv 1 = _ from by have := hSv.2.1; rw [this]; show (((((S.cs.take i.toNat).map (rsp S.t S.m si by_) ++ S.cs.drop i.toNat)).length : Nat) : Int) = _; simp; omega) (by omega))) dX4_spells_10 ?_
    refine z_icmp_ge (pc := 11) (tgt := 113) C dX4_spells_11 (by decide) (by omega) (by omega) (fun c11 => ?_) (fun c11 => ?_)
    · refine z_iload_n (pc := 113) (j := 1) C dX4_spells_113 rfl rfl ?_
      exact z_ireturn (pc := 114) C (by rw [hXp]; exact ⟨_, rfl, Vv, (by rw [List.drop_of_length_le (by omega), rct] at hd; rw [← hd, Int.add_zero]), ⟨gm_2, gv_2, gpa_2, gtx_2, gma_2, gna_2, gua_2, gla_2, gle_2, gqa_2, gd_2⟩, (by rw [List.drop_of_length_le (by omega), List.take_of_length_le (by omega), List.append_nil] at hSv; exact hSv), hkp4⟩) dX4_spells_114
    · obtain ⟨x, hx⟩ : ∃ x, S.cs[i.toNat]? = some x := ⟨_, List.getElem?_eq_getElem (by omega)⟩
      have hxi : ((S.cs.take i.toNat).map (rsp S.t S.m si by_) ++ S.cs.drop i.toNat)[i.toNat]? = some x := mget_step _ hx (by omega)
      obtain ⟨hx1, hx2, hx3, hx4, hx5⟩ := vS.c hSv (i := i) (by omega) hxi
      obtain ⟨xr1, xr2, xr3, xr4, xr5⟩ := hrg _ (List.mem_of_getElem? hx)
      have hci : ((S.cs.take i.toNat).map (rsp S.t S.m si by_) ++ S.cs.drop i.toNat).length = S.cs.length := by simp; omega
      have hrv3 : rsv S.t S.m si by_ x.2.2.1 = spl S.t S.m ((pcl x.2.2.1 + by_) % 12) si := rfl
      have hrv5 : rsv S.t S.m si by_ x.2.2.2.2 = spl S.t S.m ((pcl x.2.2.2.2 + by_) % 12) si := rfl
      have hrr3 := rsv_r (si := si) (s := by_) (p := x.2.2.1) hsg
      have hrr5 := rsv_r (si := si) (s := by_) (p := x.2.2.2.2) hsg
      refine z_iconst (pc := 14) C dX4_spells_14 ?_
      refine z_istore (pc := 15) (L' := [(4, .int (iI 2)), (3, .int (iI i)), (2, .int (iI n)), (1, .int (iI by_)), (0, .ref A.m)]) C dX4_spells_15 (by rw [hnL]; decide) rfl ?_
      refine z_iload (pc := 17) (j := 0) C dX4_spells_17 rfl ?_
      refine z_iconst (pc := 19) C dX4_spells_19 ?_
      refine z_icmp_gt (pc := 20) (tgt := 107) C dX4_spells_20 (by decide) (by decide) (by decide) (fun z => absurd z (by decide)) (fun _ => ?_)
      refine z_aload_n (pc := 23) (j := 4) C dX4_spells_23 rfl rfl ?_
      refine z_getfield (pc := 24) (v := .ref A.v) C in_X4 rfl 0 (by decide) q2082 (fun _ z => z) gm_2 rfl dX4_spells_24 ?_
      refine z_iload_n (pc := 27) (j := 1) C dX4_spells_27 rfl rfl ?_
      refine z_callS (pc := 28) (n := 1) (kc' := 0) (ks' := 0) C (m_chord C.t (x := i)) (lw_S q2203 q2204 q74 q2205) (by decide +kernel) ⟨by decide, by decide⟩ rfl rfl (Nat.le_of_ble_eq_true rfl) dX4_spells_28 (by omega) (by omega) (zpk (st' := [.int (iI (210 + 5 * i)), .ref A.v]) rfl ?_) zrx
      refine z_iload (pc := 31) (j := 0) C dX4_spells_31 rfl ?_
      refine z_iadd (pc := 33) C dX4_spells_33 ?_
      refine z_iaload (pc := 34) (v := .int (iI x.2.2.1)) C gv_2 (by omega) (mA_e (vE hx3 (by omega))) dX4_spells_34 ?_
      refine z_istore (pc := 35) (L' := [(5, .int (iI x.2.2.1)), (4, .int (iI 2)), (3, .int (iI i)), (2, .int (iI n)), (1, .int (iI by_)), (0, .ref A.m)]) C dX4_spells_35 (by rw [hnL]; decide) rfl ?_
      refine z_iload (pc := 37) (j := 1) C dX4_spells_37 rfl ?_
      refine z_iconst (pc := 39) C dX4_spells_39 ?_
      refine z_icmp_eq (pc := 40) (tgt := 50) C dX4_spells_40 (by decide) (by decide) (by decide) (fun _ => ?_) (fun z => absurd z (by decide))
      refine z_aload_n (pc := 50) (j := 5) C dX4_spells_50 rfl rfl ?_
      refine z_getfield (pc := 51) (v := .ref A.v) C in_X4 rfl 0 (by decide) q2082 (fun _ z => z) gm_2 rfl dX4_spells_51 ?_
      refine z_iload_n (pc := 54) (j := 2) C dX4_spells_54 rfl rfl ?_
      refine z_callS (pc := 55) (n := 1) (kc' := 0) (ks' := 0) C (m_chord C.t (x := i)) (lw_S q2203 q2204 q74 q2205) (by decide +kernel) ⟨by decide, by decide⟩ rfl rfl (Nat.le_of_ble_eq_true rfl) dX4_spells_55 (by omega) (by omega) (zpk (st' := [.int (iI (210 + 5 * i)), .ref A.v]) rfl ?_) zrx
      refine z_iload (pc := 58) (j := 1) C dX4_spells_58 rfl ?_
      refine z_iadd (pc := 60) C dX4_spells_60 ?_
      refine z_aload_n (pc := 61) (j := 5) C dX4_spells_61 rfl rfl ?_
      refine z_iload (pc := 62) (j := 0) C dX4_spells_62 rfl ?_
      have hpq := pcl_r x.2.2.1
      have hpq2 := pcl_r x.2.2.2.2
      refine z_callS (pc := 64) (n := 1) (kc' := 0) (ks' := 0) C (m_pitch C.t (x := x.2.2.1) (by omega)) (lw_S q2218 q2219 q74 q2220) (by decide +kernel) ⟨by decide, by decide⟩ rfl rfl (Nat.le_of_ble_eq_true rfl) dX4_spells_64 (by omega) (by omega) (zpk (st' := [.int (iI (pcl x.2.2.1)), .ref A.m, .int (iI ((210 + 5 * i) + 2)), .ref A.v]) rfl ?_) zrx
      have hpcl67 := pcl_r x.2.2.1
      refine z_iload_n (pc := 67) (j := 4) C dX4_spells_67 rfl rfl ?_
      refine z_iadd (pc := 68) C dX4_spells_68 ?_
      refine z_callS (pc := 69) (n := 1) (kc' := 0) (ks' := 0) C (m_mod C.t (x := (pcl x.2.2.1) + by_) (by omega)) (lw_S q2221 q2222 q74 q2223) (by decide +kernel) ⟨by decide, by decide⟩ rfl rfl (Nat.le_of_ble_eq_true rfl) dX4_spells_69 (by omega) (by omega) (zpk (st' := [.int (iI (((pcl x.2.2.1) + by_) % 12)), .ref A.m, .int (iI ((210 + 5 * i) + 2)), .ref A.v]) rfl ?_) zrx
      refine z_callV (pc := 72) (n := 1) (kc' := 0) (ks' := 0) C (m_spell C.t ⟨gm_2, gv_2, gpa_2, gtx_2, gma_2, gna_2, gua_2, gla_2, gle_2, gqa_2, gd_2⟩ hSv.2.2.1 hSv.2.2.2.1 hm01 hsg hsi (p := ((pcl x.2.2.1) + by_) % 12) (by omega)) (lw_V q2404 q2406 qs53 q74 q2407) (by decide +kernel) ⟨by decide, by decide⟩ gm_2 rfl rfl rfl (Nat.le_of_ble_eq_true rfl) dX4_spells_72 (by omega) (by omega) (zpk (st' := [.int (iI (spl S.t S.m (((pcl x.2.2.1) + by_) % 12) si)), .int (iI ((210 + 5 * i) + 2)), .ref A.v]) rfl ?_) zrx
      refine z_iastore (pc := 75) (f' := (mA (updI Vv (Int.toNat ((210 + 5 * i) + 2)) (spl S.t S.m (((pcl x.2.2.1) + by_) % 12) si)))) C gv_2 (by omega) (mA_up _ _ _) dX4_spells_75 ?_
      refine Z.nm (fun h3 eh3 => ?_)
      have kh3 : zkeep h h3 [A.m, A.v, A.pa, A.tx, A.ma, A.na, A.ua, A.la] := by rw [eh3]; exact zkeep.up hkp4 (Or.inl (by simp)) gv_2
      have fh3_0 : h3 A.v = some (true, .inl (.int, 620, (mA (updI Vv (Int.toNat ((210 + 5 * i) + 2)) (spl S.t S.m (((pcl x.2.2.1) + by_) % 12) si))))) := zse eh3
      have fh3_1 : h3 A.m = some (true, .inr (3, [.ref A.v, .ref A.pa, .int (iI st), .ref A.tx, .int (iI ty), .int (iI si), .int (iI ff), .int (iI wd), .int (iI th), .ref A.le, .ref A.qa, .int (iI ap), .int (iI nt), .int (iI rr), .int (iI rq), .int (iI rb), .int (iI wh), .ref A.ma, .ref A.na, .int (iI nd), .ref A.ua, .ref A.la, .int (iI up), .int (iI lo)])) := zsn eh3 gm_2 (zneA gm_2 gv_2)
      have fh3_2 : h3 A.pa = some (true, .inl (.int, 4960, (mA P))) := zsn eh3 gpa_2 (Ne.symm gd_2.1)
      have fh3_3 : h3 A.tx = some (true, .inl (.int, 200, (mA T))) := zsn eh3 gtx_2 (Ne.symm gd_2.2.1)
      have fh3_4 : h3 A.ma = some (true, .inl (.int, 620, (mA M))) := zsn eh3 gma_2 (Ne.symm gd_2.2.2.1)
      have fh3_5 : h3 A.na = some (true, .inl (.int, 20, (mA N))) := zsn eh3 gna_2 (Ne.symm gd_2.2.2.2.1)
      have fh3_6 : h3 A.ua = some (true, .inl (.int, 1200, (mA U))) := zsn eh3 gua_2 (Ne.symm gd_2.2.2.2.2.1)
      have fh3_7 : h3 A.la = some (true, .inl (.int, 1200, (mA W))) := zsn eh3 gla_2 (Ne.symm gd_2.2.2.2.2.2.1)
      have fh3_8 : h3 A.le = some (true, .inl (.char, 7, (mA ltF))) := zsn eh3 gle_2 (zneT gle_2 gv_2 (by simp))
      have fh3_9 : h3 A.qa = some (true, .inl (.char, 30, (mA qaF))) := zsn eh3 gqa_2 (zneT gqa_2 gv_2 (by simp))
      refine z_iload_n (pc := 76) (j := 3) C dX4_spells_76 rfl rfl ?_
      refine z_aload_n (pc := 77) (j := 5) C dX4_spells_77 rfl rfl ?_
      refine z_getfield (pc := 78) (v := .ref A.v) C in_X4 rfl 0 (by decide) q2082 (fun _ z => z) fh3_1 rfl dX4_spells_78 ?_
      refine z_iload_n (pc := 81) (j := 2) C dX4_spells_81 rfl rfl ?_
      refine z_callS (pc := 82) (n := 1) (kc' := 0) (ks' := 0) C (m_chord C.t (x := i)) (lw_S q2203 q2204 q74 q2205) (by decide +kernel) ⟨by decide, by decide⟩ rfl rfl (Nat.le_of_ble_eq_true rfl) dX4_spells_82 (by omega) (by omega) (zpk (st' := [.int (iI (210 + 5 * i)), .ref A.v, .int (iI n)]) rfl ?_) zrx
      refine z_iload (pc := 85) (j := 1) C dX4_spells_85 rfl ?_
      refine z_iadd (pc := 87) C dX4_spells_87 ?_
      refine z_iaload (pc := 88) (v := .int (iI (spl S.t S.m (((pcl x.2.2.1) + by_) % 12) si))) C fh3_0 (by omega) (mA_e (updI_eq (by omega))) dX4_spells_88 ?_
      refine z_iload (pc := 89) (j := 0) C dX4_spells_89 rfl ?_
      refine z_icmp_eq (pc := 91) (tgt := 98) C dX4_spells_91 (by decide) (by omega) (by omega) (fun c91 => ?_) (fun c91 => ?_)
      · refine z_iconst (pc := 98) C dX4_spells_98 ?_
        refine z_iadd (pc := 99) C dX4_spells_99 ?_
        refine z_istore_n (pc := 100) (L' := [(2, .int (iI (n + 0))), (5, .int (iI x.2.2.1)), (4, .int (iI 2)), (3, .int (iI i)), (1, .int (iI by_)), (0, .ref A.m)]) C dX4_spells_100 rfl (by rw [hnL]; decide) rfl ?_
        refine z_iinc (pc := 101) (k := 2) (L' := [(4, .int (iI 4)), (2, .int (iI (n + 0))), (5, .int (iI x.2.2.1)), (3, .int (iI i)), (1, .int (iI by_)), (0, .ref A.m)]) C dX4_spells_101 rfl (by rw [hnL]; decide) rfl ?_
        refine z_goto (pc := 104) (tgt := 17) C dX4_spells_104 (by decide) ?_
        refine z_iload (pc := 17) (j := 0) C dX4_spells_17 rfl ?_
        refine z_iconst (pc := 19) C dX4_spells_19 ?_
        refine z_icmp_gt (pc := 20) (tgt := 107) C dX4_spells_20 (by decide) (by decide) (by decide) (fun z => absurd z (by decide)) (fun _ => ?_)
        refine z_aload_n (pc := 23) (j := 5) C dX4_spells_23 rfl rfl ?_
        refine z_getfield (pc := 24) (v := .ref A.v) C in_X4 rfl 0 (by decide) q2082 (fun _ z => z) fh3_1 rfl dX4_spells_24 ?_
        refine z_iload_n (pc := 27) (j := 3) C dX4_spells_27 rfl rfl ?_
        refine z_callS (pc := 28) (n := 1) (kc' := 0) (ks' := 0) C (m_chord C.t (x := i)) (lw_S q2203 q2204 q74 q2205) (by decide +kernel) ⟨by decide, by decide⟩ rfl rfl (Nat.le_of_ble_eq_true rfl) dX4_spells_28 (by omega) (by omega) (zpk (st' := [.int (iI (210 + 5 * i)), .ref A.v]) rfl ?_) zrx
        refine z_iload (pc := 31) (j := 0) C dX4_spells_31 rfl ?_
        refine z_iadd (pc := 33) C dX4_spells_33 ?_
        refine z_iaload (pc := 34) (v := .int (iI x.2.2.2.2)) C fh3_0 (by omega) (mA_e (vE (updI_ne (by omega) hx5) (by omega))) dX4_spells_34 ?_
        refine z_istore (pc := 35) (L' := [(5, .int (iI x.2.2.2.2)), (4, .int (iI 4)), (2, .int (iI (n + 0))), (3, .int (iI i)), (1, .int (iI by_)), (0, .ref A.m)]) C dX4_spells_35 (by rw [hnL]; decide) rfl ?_
        refine z_iload (pc := 37) (j := 1) C dX4_spells_37 rfl ?_
        refine z_iconst (pc := 39) C dX4_spells_39 ?_
        refine z_icmp_eq (pc := 40) (tgt := 50) C dX4_spells_40 (by decide) (by decide) (by decide) (fun z => absurd z (by decide)) (fun _ => ?_)
        refine z_iload (pc := 43) (j := 0) C dX4_spells_43 rfl ?_
        refine z_bipush (pc := 45) C dX4_spells_45 (by decide) ?_
        refine z_icmp_eq (pc := 47) (tgt := 101) C dX4_spells_47 (by decide) (by omega) (by decide) (fun c47 => ?_) (fun c47 => ?_)
        · refine z_iinc (pc := 101) (k := 1) (L' := [(4, .int (iI 6)), (5, .int (iI x.2.2.2.2)), (2, .int (iI (n + 0))), (3, .int (iI i)), (1, .int (iI by_)), (0, .ref A.m)]) C dX4_spells_101 rfl (by rw [hnL]; decide) rfl ?_
          refine z_goto (pc := 104) (tgt := 17) C dX4_spells_104 (by decide) ?_
          refine z_iload (pc := 17) (j := 0) C dX4_spells_17 rfl ?_
          refine z_iconst (pc := 19) C dX4_spells_19 ?_
          refine z_icmp_gt (pc := 20) (tgt := 107) C dX4_spells_20 (by decide) (by decide) (by decide) (fun _ => ?_) (fun z => absurd z (by decide))
          have hSn0 : vS (updI Vv (Int.toNat ((210 + 5 * i) + 2)) (spl S.t S.m (((pcl x.2.2.1) + by_) % 12) si)) (S.ls, ((S.cs.take i.toNat).map (rsp S.t S.m si by_) ++ S.cs.drop i.toNat).set i.toNat (x.1, x.2.1, rsv S.t S.m si by_ x.2.2.1, x.2.2.2.1, (if x.2.2.2.2 = 100 then 100 else rsv S.t S.m si by_ x.2.2.2.2)), S.t, S.m) := by
            refine vS.set (S := (S.ls, ((S.cs.take i.toNat).map (rsp S.t S.m si by_) ++ S.cs.drop i.toNat), S.t, S.m)) hSv ⟨hsl2, by show ((S.cs.take i.toNat).map (rsp S.t S.m si by_) ++ S.cs.drop i.toNat).length ≤ 40; omega⟩ hxi (fun j h1 => by simp only [updI] <;> (repeat' split) <;> first | rfl | omega) ⟨?_, ?_, ?_⟩
            · rw [hrv3]; simp only [updI] <;> (repeat' split) <;> first | rfl | omega
            · have := hx4; simp only [updI] <;> (repeat' split) <;> first | omega | (rw [show 213 + 5 * i.toNat = 210 + 5 * i.toNat + 3 by omega]; exact hx4)
            · rw [hrv5, show 214 + 5 * i.toNat = 210 + 5 * i.toNat + 4 by omega]; simp only [updI] <;> (repeat' split) <;> first | rfl | omega | (rw [hx5]; omega)
          have hSn : vS (updI Vv (Int.toNat ((210 + 5 * i) + 2)) (spl S.t S.m (((pcl x.2.2.1) + by_) % 12) si)) (S.ls, ((S.cs.take (i + 1).toNat).map (rsp S.t S.m si by_) ++ S.cs.drop (i + 1).toNat), S.t, S.m) := by
            have e := mset_step (rsp S.t S.m si by_) hx (by omega)
            rw [← e]
            exact hSn0
          have hdn : n + 0 + rct S.t S.m si by_ (S.cs.drop (i + 1).toNat) = rct S.t S.m si by_ S.cs := by
            rw [drop_step hx (by omega), rct, hrv3, hrv5] at hd
            (repeat' split at hd) <;> omega
          refine z_iinc (pc := 107) (k := 3) (L' := [(3, .int (iI (i + 1))), (4, .int (iI 6)), (5, .int (iI x.2.2.2.2)), (2, .int (iI (n + 0))), (1, .int (iI by_)), (0, .ref A.m)]) C dX4_spells_107 rfl (by rw [hnL]; decide) rfl ?_
          refine z_goto (pc := 110) (tgt := 4) C dX4_spells_110 (by decide) ?_
          refine Z.weak (L' := [(3, .int (iI (i + 1))), (2, .int (iI (n + 0))), (1, .int (iI by_)), (0, .ref A.m)]) (kc' := 0) (ks' := 0) [0, 3, 4, 5] rfl (by omega) (by omega) ?_
          exact ih4 _ (by omega) (i + 1) (n + 0) (updI Vv (Int.toNat ((210 + 5 * i) + 2)) (spl S.t S.m (((pcl x.2.2.1) + by_) % 12) si)) h3 ⟨fh3_1, fh3_0, fh3_2, fh3_3, fh3_4, fh3_5, fh3_6, fh3_7, fh3_8, fh3_9, gd_2⟩ kh3 (by omega) hSn hdn rfl
        · refine z_aload_n (pc := 50) (j := 5) C dX4_spells_50 rfl rfl ?_
          refine z_getfield (pc := 51) (v := .ref A.v) C in_X4 rfl 0 (by decide) q2082 (fun _ z => z) fh3_1 rfl dX4_spells_51 ?_
          refine z_iload_n (pc := 54) (j := 3) C dX4_spells_54 rfl rfl ?_
          refine z_callS (pc := 55) (n := 1) (kc' := 0) (ks' := 0) C (m_chord C.t (x := i)) (lw_S q2203 q2204 q74 q2205) (by decide +kernel) ⟨by decide, by decide⟩ rfl rfl (Nat.le_of_ble_eq_true rfl) dX4_spells_55 (by omega) (by omega) (zpk (st' := [.int (iI (210 + 5 * i)), .ref A.v]) rfl ?_) zrx
          refine z_iload (pc := 58) (j := 1) C dX4_spells_58 rfl ?_
          refine z_iadd (pc := 60) C dX4_spells_60 ?_
          refine z_aload_n (pc := 61) (j := 5) C dX4_spells_61 rfl rfl ?_
          refine z_iload (pc := 62) (j := 0) C dX4_spells_62 rfl ?_
          have hpq := pcl_r x.2.2.1
          have hpq2 := pcl_r x.2.2.2.2
          refine z_callS (pc := 64) (n := 1) (kc' := 0) (ks' := 0) C (m_pitch C.t (x := x.2.2.2.2) (by omega)) (lw_S q2218 q2219 q74 q2220) (by decide +kernel) ⟨by decide, by decide⟩ rfl rfl (Nat.le_of_ble_eq_true rfl) dX4_spells_64 (by omega) (by omega) (zpk (st' := [.int (iI (pcl x.2.2.2.2)), .ref A.m, .int (iI ((210 + 5 * i) + 4)), .ref A.v]) rfl ?_) zrx
          have hpcl67 := pcl_r x.2.2.2.2
          refine z_iload_n (pc := 67) (j := 4) C dX4_spells_67 rfl rfl ?_
          refine z_iadd (pc := 68) C dX4_spells_68 ?_
          refine z_callS (pc := 69) (n := 1) (kc' := 0) (ks' := 0) C (m_mod C.t (x := (pcl x.2.2.2.2) + by_) (by omega)) (lw_S q2221 q2222 q74 q2223) (by decide +kernel) ⟨by decide, by decide⟩ rfl rfl (Nat.le_of_ble_eq_true rfl) dX4_spells_69 (by omega) (by omega) (zpk (st' := [.int (iI (((pcl x.2.2.2.2) + by_) % 12)), .ref A.m, .int (iI ((210 + 5 * i) + 4)), .ref A.v]) rfl ?_) zrx
          refine z_callV (pc := 72) (n := 1) (kc' := 0) (ks' := 0) C (m_spell C.t ⟨fh3_1, fh3_0, fh3_2, fh3_3, fh3_4, fh3_5, fh3_6, fh3_7, fh3_8, fh3_9, gd_2⟩ (updI_ne (by omega) hSv.2.2.1) (updI_ne (by omega) hSv.2.2.2.1) hm01 hsg hsi (p := ((pcl x.2.2.2.2) + by_) % 12) (by omega)) (lw_V q2404 q2406 qs53 q74 q2407) (by decide +kernel) ⟨by decide, by decide⟩ fh3_1 rfl rfl rfl (Nat.le_of_ble_eq_true rfl) dX4_spells_72 (by omega) (by omega) (zpk (st' := [.int (iI (spl S.t S.m (((pcl x.2.2.2.2) + by_) % 12) si)), .int (iI ((210 + 5 * i) + 4)), .ref A.v]) rfl ?_) zrx
          refine z_iastore (pc := 75) (f' := (mA (updI (updI Vv (Int.toNat ((210 + 5 * i) + 2)) (spl S.t S.m (((pcl x.2.2.1) + by_) % 12) si)) (Int.toNat ((210 + 5 * i) + 4)) (spl S.t S.m (((pcl x.2.2.2.2) + by_) % 12) si)))) C fh3_0 (by omega) (mA_up _ _ _) dX4_spells_75 ?_
          refine Z.nm (fun h4 eh4 => ?_)
          have kh4 : zkeep h h4 [A.m, A.v, A.pa, A.tx, A.ma, A.na, A.ua, A.la] := by rw [eh4]; exact zkeep.up kh3 (Or.inl (by simp)) fh3_0
          have fh4_0 : h4 A.v = some (true, .inl (.int, 620, (mA (updI (updI Vv (Int.toNat ((210 + 5 * i) + 2)) (spl S.t S.m (((pcl x.2.2.1) + by_) % 12) si)) (Int.toNat ((210 + 5 * i) + 4)) (spl S.t S.m (((pcl x.2.2.2.2) + by_) % 12) si))))) := zse eh4
          have fh4_1 : h4 A.m = some (true, .inr (3, [.ref A.v, .ref A.pa, .int (iI st), .ref A.tx, .int (iI ty), .int (iI si), .int (iI ff), .int (iI wd), .int (iI th), .ref A.le, .ref A.qa, .int (iI ap), .int (iI nt), .int (iI rr), .int (iI rq), .int (iI rb), .int (iI wh), .ref A.ma, .ref A.na, .int (iI nd), .ref A.ua, .ref A.la, .int (iI up), .int (iI lo)])) := zsn eh4 fh3_1 (zneA fh3_1 fh3_0)
          have fh4_2 : h4 A.pa = some (true, .inl (.int, 4960, (mA P))) := zsn eh4 fh3_2 (Ne.symm gd_2.1)
          have fh4_3 : h4 A.tx = some (true, .inl (.int, 200, (mA T))) := zsn eh4 fh3_3 (Ne.symm gd_2.2.1)
          have fh4_4 : h4 A.ma = some (true, .inl (.int, 620, (mA M))) := zsn eh4 fh3_4 (Ne.symm gd_2.2.2.1)
          have fh4_5 : h4 A.na = some (true, .inl (.int, 20, (mA N))) := zsn eh4 fh3_5 (Ne.symm gd_2.2.2.2.1)
          have fh4_6 : h4 A.ua = some (true, .inl (.int, 1200, (mA U))) := zsn eh4 fh3_6 (Ne.symm gd_2.2.2.2.2.1)
          have fh4_7 : h4 A.la = some (true, .inl (.int, 1200, (mA W))) := zsn eh4 fh3_7 (Ne.symm gd_2.2.2.2.2.2.1)
          have fh4_8 : h4 A.le = some (true, .inl (.char, 7, (mA ltF))) := zsn eh4 fh3_8 (zneT fh3_8 fh3_0 (by simp))
          have fh4_9 : h4 A.qa = some (true, .inl (.char, 30, (mA qaF))) := zsn eh4 fh3_9 (zneT fh3_9 fh3_0 (by simp))
          refine z_iload_n (pc := 76) (j := 2) C dX4_spells_76 rfl rfl ?_
          refine z_aload_n (pc := 77) (j := 5) C dX4_spells_77 rfl rfl ?_
          refine z_getfield (pc := 78) (v := .ref A.v) C in_X4 rfl 0 (by decide) q2082 (fun _ z => z) fh4_1 rfl dX4_spells_78 ?_
          refine z_iload_n (pc := 81) (j := 3) C dX4_spells_81 rfl rfl ?_
          refine z_callS (pc := 82) (n := 1) (kc' := 0) (ks' := 0) C (m_chord C.t (x := i)) (lw_S q2203 q2204 q74 q2205) (by decide +kernel) ⟨by decide, by decide⟩ rfl rfl (Nat.le_of_ble_eq_true rfl) dX4_spells_82 (by omega) (by omega) (zpk (st' := [.int (iI (210 + 5 * i)), .ref A.v, .int (iI (n + 0))]) rfl ?_) zrx
          refine z_iload (pc := 85) (j := 1) C dX4_spells_85 rfl ?_
          refine z_iadd (pc := 87) C dX4_spells_87 ?_
          refine z_iaload (pc := 88) (v := .int (iI (spl S.t S.m (((pcl x.2.2.2.2) + by_) % 12) si))) C fh4_0 (by omega) (mA_e (updI_eq (by omega))) dX4_spells_88 ?_
          refine z_iload (pc := 89) (j := 0) C dX4_spells_89 rfl ?_
          refine z_icmp_eq (pc := 91) (tgt := 98) C dX4_spells_91 (by decide) (by omega) (by omega) (fun c91 => ?_) (fun c91 => ?_)
          · refine z_iconst (pc := 98) C dX4_spells_98 ?_
            refine z_iadd (pc := 99) C dX4_spells_99 ?_
            refine z_istore_n (pc := 100) (L' := [(2, .int (iI ((n + 0) + 0))), (5, .int (iI x.2.2.2.2)), (4, .int (iI 4)), (3, .int (iI i)), (1, .int (iI by_)), (0, .ref A.m)]) C dX4_spells_100 rfl (by rw [hnL]; decide) rfl ?_
            refine z_iinc (pc := 101) (k := 2) (L' := [(4, .int (iI 6)), (2, .int (iI ((n + 0) + 0))), (5, .int (iI x.2.2.2.2)), (3, .int (iI i)), (1, .int (iI by_)), (0, .ref A.m)]) C dX4_spells_101 rfl (by rw [hnL]; decide) rfl ?_
            refine z_goto (pc := 104) (tgt := 17) C dX4_spells_104 (by decide) ?_
            refine z_iload (pc := 17) (j := 0) C dX4_spells_17 rfl ?_
            refine z_iconst (pc := 19) C dX4_spells_19 ?_
            refine z_icmp_gt (pc := 20) (tgt := 107) C dX4_spells_20 (by decide) (by decide) (by decide) (fun _ => ?_) (fun z => absurd z (by decide))
            have hSn0 : vS (updI (updI Vv (Int.toNat ((210 + 5 * i) + 2)) (spl S.t S.m (((pcl x.2.2.1) + by_) % 12) si)) (Int.toNat ((210 + 5 * i) + 4)) (spl S.t S.m (((pcl x.2.2.2.2) + by_) % 12) si)) (S.ls, ((S.cs.take i.toNat).map (rsp S.t S.m si by_) ++ S.cs.drop i.toNat).set i.toNat (x.1, x.2.1, rsv S.t S.m si by_ x.2.2.1, x.2.2.2.1, (if x.2.2.2.2 = 100 then 100 else rsv S.t S.m si by_ x.2.2.2.2)), S.t, S.m) := by
              refine vS.set (S := (S.ls, ((S.cs.take i.toNat).map (rsp S.t S.m si by_) ++ S.cs.drop i.toNat), S.t, S.m)) hSv ⟨hsl2, by show ((S.cs.take i.toNat).map (rsp S.t S.m si by_) ++ S.cs.drop i.toNat).length ≤ 40; omega⟩ hxi (fun j h1 => by simp only [updI] <;> (repeat' split) <;> first | rfl | omega) ⟨?_, ?_, ?_⟩
              · rw [hrv3]; simp only [updI] <;> (repeat' split) <;> first | rfl | omega
              · have := hx4; simp only [updI] <;> (repeat' split) <;> first | omega | (rw [show 213 + 5 * i.toNat = 210 + 5 * i.toNat + 3 by omega]; exact hx4)
              · rw [hrv5, show 214 + 5 * i.toNat = 210 + 5 * i.toNat + 4 by omega]; simp only [updI] <;> (repeat' split) <;> first | rfl | omega | (rw [hx5]; omega)
            have hSn : vS (updI (updI Vv (Int.toNat ((210 + 5 * i) + 2)) (spl S.t S.m (((pcl x.2.2.1) + by_) % 12) si)) (Int.toNat ((210 + 5 * i) + 4)) (spl S.t S.m (((pcl x.2.2.2.2) + by_) % 12) si)) (S.ls, ((S.cs.take (i + 1).toNat).map (rsp S.t S.m si by_) ++ S.cs.drop (i + 1).toNat), S.t, S.m) := by
              have e := mset_step (rsp S.t S.m si by_) hx (by omega)
              rw [← e]
              exact hSn0
            have hdn : (n + 0) + 0 + rct S.t S.m si by_ (S.cs.drop (i + 1).toNat) = rct S.t S.m si by_ S.cs := by
              rw [drop_step hx (by omega), rct, hrv3, hrv5] at hd
              (repeat' split at hd) <;> omega
            refine z_iinc (pc := 107) (k := 3) (L' := [(3, .int (iI (i + 1))), (4, .int (iI 6)), (2, .int (iI ((n + 0) + 0))), (5, .int (iI x.2.2.2.2)), (1, .int (iI by_)), (0, .ref A.m)]) C dX4_spells_107 rfl (by rw [hnL]; decide) rfl ?_
            refine z_goto (pc := 110) (tgt := 4) C dX4_spells_110 (by decide) ?_
            refine Z.weak (L' := [(3, .int (iI (i + 1))), (2, .int (iI ((n + 0) + 0))), (1, .int (iI by_)), (0, .ref A.m)]) (kc' := 0) (ks' := 0) [0, 2, 4, 5] rfl (by omega) (by omega) ?_
            exact ih4 _ (by omega) (i + 1) ((n + 0) + 0) (updI (updI Vv (Int.toNat ((210 + 5 * i) + 2)) (spl S.t S.m (((pcl x.2.2.1) + by_) % 12) si)) (Int.toNat ((210 + 5 * i) + 4)) (spl S.t S.m (((pcl x.2.2.2.2) + by_) % 12) si)) h4 ⟨fh4_1, fh4_0, fh4_2, fh4_3, fh4_4, fh4_5, fh4_6, fh4_7, fh4_8, fh4_9, gd_2⟩ kh4 (by omega) hSn hdn rfl
          · refine z_iconst (pc := 94) C dX4_spells_94 ?_
            refine z_goto (pc := 95) (tgt := 99) C dX4_spells_95 (by decide) ?_
            refine z_iadd (pc := 99) C dX4_spells_99 ?_
            refine z_istore_n (pc := 100) (L' := [(2, .int (iI ((n + 0) + 1))), (5, .int (iI x.2.2.2.2)), (4, .int (iI 4)), (3, .int (iI i)), (1, .int (iI by_)), (0, .ref A.m)]) C dX4_spells_100 rfl (by rw [hnL]; decide) rfl ?_
            refine z_iinc (pc := 101) (k := 2) (L' := [(4, .int (iI 6)), (2, .int (iI ((n + 0) + 1))), (5, .int (iI x.2.2.2.2)), (3, .int (iI i)), (1, .int (iI by_)), (0, .ref A.m)]) C dX4_spells_101 rfl (by rw [hnL]; decide) rfl ?_
            refine z_goto (pc := 104) (tgt := 17) C dX4_spells_104 (by decide) ?_
            refine z_iload (pc := 17) (j := 0) C dX4_spells_17 rfl ?_
            refine z_iconst (pc := 19) C dX4_spells_19 ?_
            refine z_icmp_gt (pc := 20) (tgt := 107) C dX4_spells_20 (by decide) (by decide) (by decide) (fun _ => ?_) (fun z => absurd z (by decide))
            have hSn0 : vS (updI (updI Vv (Int.toNat ((210 + 5 * i) + 2)) (spl S.t S.m (((pcl x.2.2.1) + by_) % 12) si)) (Int.toNat ((210 + 5 * i) + 4)) (spl S.t S.m (((pcl x.2.2.2.2) + by_) % 12) si)) (S.ls, ((S.cs.take i.toNat).map (rsp S.t S.m si by_) ++ S.cs.drop i.toNat).set i.toNat (x.1, x.2.1, rsv S.t S.m si by_ x.2.2.1, x.2.2.2.1, (if x.2.2.2.2 = 100 then 100 else rsv S.t S.m si by_ x.2.2.2.2)), S.t, S.m) := by
              refine vS.set (S := (S.ls, ((S.cs.take i.toNat).map (rsp S.t S.m si by_) ++ S.cs.drop i.toNat), S.t, S.m)) hSv ⟨hsl2, by show ((S.cs.take i.toNat).map (rsp S.t S.m si by_) ++ S.cs.drop i.toNat).length ≤ 40; omega⟩ hxi (fun j h1 => by simp only [updI] <;> (repeat' split) <;> first | rfl | omega) ⟨?_, ?_, ?_⟩
              · rw [hrv3]; simp only [updI] <;> (repeat' split) <;> first | rfl | omega
              · have := hx4; simp only [updI] <;> (repeat' split) <;> first | omega | (rw [show 213 + 5 * i.toNat = 210 + 5 * i.toNat + 3 by omega]; exact hx4)
              · rw [hrv5, show 214 + 5 * i.toNat = 210 + 5 * i.toNat + 4 by omega]; simp only [updI] <;> (repeat' split) <;> first | rfl | omega | (rw [hx5]; omega)
            have hSn : vS (updI (updI Vv (Int.toNat ((210 + 5 * i) + 2)) (spl S.t S.m (((pcl x.2.2.1) + by_) % 12) si)) (Int.toNat ((210 + 5 * i) + 4)) (spl S.t S.m (((pcl x.2.2.2.2) + by_) % 12) si)) (S.ls, ((S.cs.take (i + 1).toNat).map (rsp S.t S.m si by_) ++ S.cs.drop (i + 1).toNat), S.t, S.m) := by
              have e := mset_step (rsp S.t S.m si by_) hx (by omega)
              rw [← e]
              exact hSn0
            have hdn : (n + 0) + 1 + rct S.t S.m si by_ (S.cs.drop (i + 1).toNat) = rct S.t S.m si by_ S.cs := by
              rw [drop_step hx (by omega), rct, hrv3, hrv5] at hd
              (repeat' split at hd) <;> omega
            refine z_iinc (pc := 107) (k := 3) (L' := [(3, .int (iI (i + 1))), (4, .int (iI 6)), (2, .int (iI ((n + 0) + 1))), (5, .int (iI x.2.2.2.2)), (1, .int (iI by_)), (0, .ref A.m)]) C dX4_spells_107 rfl (by rw [hnL]; decide) rfl ?_
            refine z_goto (pc := 110) (tgt := 4) C dX4_spells_110 (by decide) ?_
            refine Z.weak (L' := [(3, .int (iI (i + 1))), (2, .int (iI ((n + 0) + 1))), (1, .int (iI by_)), (0, .ref A.m)]) (kc' := 0) (ks' := 0) [0, 2, 4, 5] rfl (by omega) (by omega) ?_
            exact ih4 _ (by omega) (i + 1) ((n + 0) + 1) (updI (updI Vv (Int.toNat ((210 + 5 * i) + 2)) (spl S.t S.m (((pcl x.2.2.1) + by_) % 12) si)) (Int.toNat ((210 + 5 * i) + 4)) (spl S.t S.m (((pcl x.2.2.2.2) + by_) % 12) si)) h4 ⟨fh4_1, fh4_0, fh4_2, fh4_3, fh4_4, fh4_5, fh4_6, fh4_7, fh4_8, fh4_9, gd_2⟩ kh4 (by omega) hSn hdn rfl
      · refine z_iconst (pc := 94) C dX4_spells_94 ?_
        refine z_goto (pc := 95) (tgt := 99) C dX4_spells_95 (by decide) ?_
        refine z_iadd (pc := 99) C dX4_spells_99 ?_
        refine z_istore_n (pc := 100) (L' := [(2, .int (iI (n + 1))), (5, .int (iI x.2.2.1)), (4, .int (iI 2)), (3, .int (iI i)), (1, .int (iI by_)), (0, .ref A.m)]) C dX4_spells_100 rfl (by rw [hnL]; decide) rfl ?_
        refine z_iinc (pc := 101) (k := 2) (L' := [(4, .int (iI 4)), (2, .int (iI (n + 1))), (5, .int (iI x.2.2.1)), (3, .int (iI i)), (1, .int (iI by_)), (0, .ref A.m)]) C dX4_spells_101 rfl (by rw [hnL]; decide) rfl ?_
        refine z_goto (pc := 104) (tgt := 17) C dX4_spells_104 (by decide) ?_
        refine z_iload (pc := 17) (j := 0) C dX4_spells_17 rfl ?_
        refine z_iconst (pc := 19) C dX4_spells_19 ?_
        refine z_icmp_gt (pc := 20) (tgt := 107) C dX4_spells_20 (by decide) (by decide) (by decide) (fun z => absurd z (by decide)) (fun _ => ?_)
        refine z_aload_n (pc := 23) (j := 5) C dX4_spells_23 rfl rfl ?_
        refine z_getfield (pc := 24) (v := .ref A.v) C in_X4 rfl 0 (by decide) q2082 (fun _ z => z) fh3_1 rfl dX4_spells_24 ?_
        refine z_iload_n (pc := 27) (j := 3) C dX4_spells_27 rfl rfl ?_
        refine z_callS (pc := 28) (n := 1) (kc' := 0) (ks' := 0) C (m_chord C.t (x := i)) (lw_S q2203 q2204 q74 q2205) (by decide +kernel) ⟨by decide, by decide⟩ rfl rfl (Nat.le_of_ble_eq_true rfl) dX4_spells_28 (by omega) (by omega) (zpk (st' := [.int (iI (210 + 5 * i)), .ref A.v]) rfl ?_) zrx
        refine z_iload (pc := 31) (j := 0) C dX4_spells_31 rfl ?_
        refine z_iadd (pc := 33) C dX4_spells_33 ?_
        refine z_iaload (pc := 34) (v := .int (iI x.2.2.2.2)) C fh3_0 (by omega) (mA_e (vE (updI_ne (by omega) hx5) (by omega))) dX4_spells_34 ?_
        refine z_istore (pc := 35) (L' := [(5, .int (iI x.2.2.2.2)), (4, .int (iI 4)), (2, .int (iI (n + 1))), (3, .int (iI i)), (1, .int (iI by_)), (0, .ref A.m)]) C dX4_spells_35 (by rw [hnL]; decide) rfl ?_
        refine z_iload (pc := 37) (j := 1) C dX4_spells_37 rfl ?_
        refine z_iconst (pc := 39) C dX4_spells_39 ?_
        refine z_icmp_eq (pc := 40) (tgt := 50) C dX4_spells_40 (by decide) (by decide) (by decide) (fun z => absurd z (by decide)) (fun _ => ?_)
        refine z_iload (pc := 43) (j := 0) C dX4_spells_43 rfl ?_
        refine z_bipush (pc := 45) C dX4_spells_45 (by decide) ?_
        refine z_icmp_eq (pc := 47) (tgt := 101) C dX4_spells_47 (by decide) (by omega) (by decide) (fun c47 => ?_) (fun c47 => ?_)
        · refine z_iinc (pc := 101) (k := 1) (L' := [(4, .int (iI 6)), (5, .int (iI x.2.2.2.2)), (2, .int (iI (n + 1))), (3, .int (iI i)), (1, .int (iI by_)), (0, .ref A.m)]) C dX4_spells_101 rfl (by rw [hnL]; decide) rfl ?_
          refine z_goto (pc := 104) (tgt := 17) C dX4_spells_104 (by decide) ?_
          refine z_iload (pc := 17) (j := 0) C dX4_spells_17 rfl ?_
          refine z_iconst (pc := 19) C dX4_spells_19 ?_
          refine z_icmp_gt (pc := 20) (tgt := 107) C dX4_spells_20 (by decide) (by decide) (by decide) (fun _ => ?_) (fun z => absurd z (by decide))
          have hSn0 : vS (updI Vv (Int.toNat ((210 + 5 * i) + 2)) (spl S.t S.m (((pcl x.2.2.1) + by_) % 12) si)) (S.ls, ((S.cs.take i.toNat).map (rsp S.t S.m si by_) ++ S.cs.drop i.toNat).set i.toNat (x.1, x.2.1, rsv S.t S.m si by_ x.2.2.1, x.2.2.2.1, (if x.2.2.2.2 = 100 then 100 else rsv S.t S.m si by_ x.2.2.2.2)), S.t, S.m) := by
            refine vS.set (S := (S.ls, ((S.cs.take i.toNat).map (rsp S.t S.m si by_) ++ S.cs.drop i.toNat), S.t, S.m)) hSv ⟨hsl2, by show ((S.cs.take i.toNat).map (rsp S.t S.m si by_) ++ S.cs.drop i.toNat).length ≤ 40; omega⟩ hxi (fun j h1 => by simp only [updI] <;> (repeat' split) <;> first | rfl | omega) ⟨?_, ?_, ?_⟩
            · rw [hrv3]; simp only [updI] <;> (repeat' split) <;> first | rfl | omega
            · have := hx4; simp only [updI] <;> (repeat' split) <;> first | omega | (rw [show 213 + 5 * i.toNat = 210 + 5 * i.toNat + 3 by omega]; exact hx4)
            · rw [hrv5, show 214 + 5 * i.toNat = 210 + 5 * i.toNat + 4 by omega]; simp only [updI] <;> (repeat' split) <;> first | rfl | omega | (rw [hx5]; omega)
          have hSn : vS (updI Vv (Int.toNat ((210 + 5 * i) + 2)) (spl S.t S.m (((pcl x.2.2.1) + by_) % 12) si)) (S.ls, ((S.cs.take (i + 1).toNat).map (rsp S.t S.m si by_) ++ S.cs.drop (i + 1).toNat), S.t, S.m) := by
            have e := mset_step (rsp S.t S.m si by_) hx (by omega)
            rw [← e]
            exact hSn0
          have hdn : n + 1 + rct S.t S.m si by_ (S.cs.drop (i + 1).toNat) = rct S.t S.m si by_ S.cs := by
            rw [drop_step hx (by omega), rct, hrv3, hrv5] at hd
            (repeat' split at hd) <;> omega
          refine z_iinc (pc := 107) (k := 3) (L' := [(3, .int (iI (i + 1))), (4, .int (iI 6)), (5, .int (iI x.2.2.2.2)), (2, .int (iI (n + 1))), (1, .int (iI by_)), (0, .ref A.m)]) C dX4_spells_107 rfl (by rw [hnL]; decide) rfl ?_
          refine z_goto (pc := 110) (tgt := 4) C dX4_spells_110 (by decide) ?_
          refine Z.weak (L' := [(3, .int (iI (i + 1))), (2, .int (iI (n + 1))), (1, .int (iI by_)), (0, .ref A.m)]) (kc' := 0) (ks' := 0) [0, 3, 4, 5] rfl (by omega) (by omega) ?_
          exact ih4 _ (by omega) (i + 1) (n + 1) (updI Vv (Int.toNat ((210 + 5 * i) + 2)) (spl S.t S.m (((pcl x.2.2.1) + by_) % 12) si)) h3 ⟨fh3_1, fh3_0, fh3_2, fh3_3, fh3_4, fh3_5, fh3_6, fh3_7, fh3_8, fh3_9, gd_2⟩ kh3 (by omega) hSn hdn rfl
        · refine z_aload_n (pc := 50) (j := 5) C dX4_spells_50 rfl rfl ?_
          refine z_getfield (pc := 51) (v := .ref A.v) C in_X4 rfl 0 (by decide) q2082 (fun _ z => z) fh3_1 rfl dX4_spells_51 ?_
          refine z_iload_n (pc := 54) (j := 3) C dX4_spells_54 rfl rfl ?_
          refine z_callS (pc := 55) (n := 1) (kc' := 0) (ks' := 0) C (m_chord C.t (x := i)) (lw_S q2203 q2204 q74 q2205) (by decide +kernel) ⟨by decide, by decide⟩ rfl rfl (Nat.le_of_ble_eq_true rfl) dX4_spells_55 (by omega) (by omega) (zpk (st' := [.int (iI (210 + 5 * i)), .ref A.v]) rfl ?_) zrx
          refine z_iload (pc := 58) (j := 1) C dX4_spells_58 rfl ?_
          refine z_iadd (pc := 60) C dX4_spells_60 ?_
          refine z_aload_n (pc := 61) (j := 5) C dX4_spells_61 rfl rfl ?_
          refine z_iload (pc := 62) (j := 0) C dX4_spells_62 rfl ?_
          have hpq := pcl_r x.2.2.1
          have hpq2 := pcl_r x.2.2.2.2
          refine z_callS (pc := 64) (n := 1) (kc' := 0) (ks' := 0) C (m_pitch C.t (x := x.2.2.2.2) (by omega)) (lw_S q2218 q2219 q74 q2220) (by decide +kernel) ⟨by decide, by decide⟩ rfl rfl (Nat.le_of_ble_eq_true rfl) dX4_spells_64 (by omega) (by omega) (zpk (st' := [.int (iI (pcl x.2.2.2.2)), .ref A.m, .int (iI ((210 + 5 * i) + 4)), .ref A.v]) rfl ?_) zrx
          have hpcl67 := pcl_r x.2.2.2.2
          refine z_iload_n (pc := 67) (j := 4) C dX4_spells_67 rfl rfl ?_
          refine z_iadd (pc := 68) C dX4_spells_68 ?_
          refine z_callS (pc := 69) (n := 1) (kc' := 0) (ks' := 0) C (m_mod C.t (x := (pcl x.2.2.2.2) + by_) (by omega)) (lw_S q2221 q2222 q74 q2223) (by decide +kernel) ⟨by decide, by decide⟩ rfl rfl (Nat.le_of_ble_eq_true rfl) dX4_spells_69 (by omega) (by omega) (zpk (st' := [.int (iI (((pcl x.2.2.2.2) + by_) % 12)), .ref A.m, .int (iI ((210 + 5 * i) + 4)), .ref A.v]) rfl ?_) zrx
          refine z_callV (pc := 72) (n := 1) (kc' := 0) (ks' := 0) C (m_spell C.t ⟨fh3_1, fh3_0, fh3_2, fh3_3, fh3_4, fh3_5, fh3_6, fh3_7, fh3_8, fh3_9, gd_2⟩ (updI_ne (by omega) hSv.2.2.1) (updI_ne (by omega) hSv.2.2.2.1) hm01 hsg hsi (p := ((pcl x.2.2.2.2) + by_) % 12) (by omega)) (lw_V q2404 q2406 qs53 q74 q2407) (by decide +kernel) ⟨by decide, by decide⟩ fh3_1 rfl rfl rfl (Nat.le_of_ble_eq_true rfl) dX4_spells_72 (by omega) (by omega) (zpk (st' := [.int (iI (spl S.t S.m (((pcl x.2.2.2.2) + by_) % 12) si)), .int (iI ((210 + 5 * i) + 4)), .ref A.v]) rfl ?_) zrx
          refine z_iastore (pc := 75) (f' := (mA (updI (updI Vv (Int.toNat ((210 + 5 * i) + 2)) (spl S.t S.m (((pcl x.2.2.1) + by_) % 12) si)) (Int.toNat ((210 + 5 * i) + 4)) (spl S.t S.m (((pcl x.2.2.2.2) + by_) % 12) si)))) C fh3_0 (by omega) (mA_up _ _ _) dX4_spells_75 ?_
          refine Z.nm (fun h5 eh5 => ?_)
          have kh5 : zkeep h h5 [A.m, A.v, A.pa, A.tx, A.ma, A.na, A.ua, A.la] := by rw [eh5]; exact zkeep.up kh3 (Or.inl (by simp)) fh3_0
          have fh5_0 : h5 A.v = some (true, .inl (.int, 620, (mA (updI (updI Vv (Int.toNat ((210 + 5 * i) + 2)) (spl S.t S.m (((pcl x.2.2.1) + by_) % 12) si)) (Int.toNat ((210 + 5 * i) + 4)) (spl S.t S.m (((pcl x.2.2.2.2) + by_) % 12) si))))) := zse eh5
          have fh5_1 : h5 A.m = some (true, .inr (3, [.ref A.v, .ref A.pa, .int (iI st), .ref A.tx, .int (iI ty), .int (iI si), .int (iI ff), .int (iI wd), .int (iI th), .ref A.le, .ref A.qa, .int (iI ap), .int (iI nt), .int (iI rr), .int (iI rq), .int (iI rb), .int (iI wh), .ref A.ma, .ref A.na, .int (iI nd), .ref A.ua, .ref A.la, .int (iI up), .int (iI lo)])) := zsn eh5 fh3_1 (zneA fh3_1 fh3_0)
          have fh5_2 : h5 A.pa = some (true, .inl (.int, 4960, (mA P))) := zsn eh5 fh3_2 (Ne.symm gd_2.1)
          have fh5_3 : h5 A.tx = some (true, .inl (.int, 200, (mA T))) := zsn eh5 fh3_3 (Ne.symm gd_2.2.1)
          have fh5_4 : h5 A.ma = some (true, .inl (.int, 620, (mA M))) := zsn eh5 fh3_4 (Ne.symm gd_2.2.2.1)
          have fh5_5 : h5 A.na = some (true, .inl (.int, 20, (mA N))) := zsn eh5 fh3_5 (Ne.symm gd_2.2.2.2.1)
          have fh5_6 : h5 A.ua = some (true, .inl (.int, 1200, (mA U))) := zsn eh5 fh3_6 (Ne.symm gd_2.2.2.2.2.1)
          have fh5_7 : h5 A.la = some (true, .inl (.int, 1200, (mA W))) := zsn eh5 fh3_7 (Ne.symm gd_2.2.2.2.2.2.1)
          have fh5_8 : h5 A.le = some (true, .inl (.char, 7, (mA ltF))) := zsn eh5 fh3_8 (zneT fh3_8 fh3_0 (by simp))
          have fh5_9 : h5 A.qa = some (true, .inl (.char, 30, (mA qaF))) := zsn eh5 fh3_9 (zneT fh3_9 fh3_0 (by simp))
          refine z_iload_n (pc := 76) (j := 2) C dX4_spells_76 rfl rfl ?_
          refine z_aload_n (pc := 77) (j := 5) C dX4_spells_77 rfl rfl ?_
          refine z_getfield (pc := 78) (v := .ref A.v) C in_X4 rfl 0 (by decide) q2082 (fun _ z => z) fh5_1 rfl dX4_spells_78 ?_
          refine z_iload_n (pc := 81) (j := 3) C dX4_spells_81 rfl rfl ?_
          refine z_callS (pc := 82) (n := 1) (kc' := 0) (ks' := 0) C (m_chord C.t (x := i)) (lw_S q2203 q2204 q74 q2205) (by decide +kernel) ⟨by decide, by decide⟩ rfl rfl (Nat.le_of_ble_eq_true rfl) dX4_spells_82 (by omega) (by omega) (zpk (st' := [.int (iI (210 + 5 * i)), .ref A.v, .int (iI (n + 1))]) rfl ?_) zrx
          refine z_iload (pc := 85) (j := 1) C dX4_spells_85 rfl ?_
          refine z_iadd (pc := 87) C dX4_spells_87 ?_
          refine z_iaload (pc := 88) (v := .int (iI (spl S.t S.m (((pcl x.2.2.2.2) + by_) % 12) si))) C fh5_0 (by omega) (mA_e (updI_eq (by omega))) dX4_spells_88 ?_
          refine z_iload (pc := 89) (j := 0) C dX4_spells_89 rfl ?_
          refine z_icmp_eq (pc := 91) (tgt := 98) C dX4_spells_91 (by decide) (by omega) (by omega) (fun c91 => ?_) (fun c91 => ?_)
          · refine z_iconst (pc := 98) C dX4_spells_98 ?_
            refine z_iadd (pc := 99) C dX4_spells_99 ?_
            refine z_istore_n (pc := 100) (L' := [(2, .int (iI ((n + 1) + 0))), (5, .int (iI x.2.2.2.2)), (4, .int (iI 4)), (3, .int (iI i)), (1, .int (iI by_)), (0, .ref A.m)]) C dX4_spells_100 rfl (by rw [hnL]; decide) rfl ?_
            refine z_iinc (pc := 101) (k := 2) (L' := [(4, .int (iI 6)), (2, .int (iI ((n + 1) + 0))), (5, .int (iI x.2.2.2.2)), (3, .int (iI i)), (1, .int (iI by_)), (0, .ref A.m)]) C dX4_spells_101 rfl (by rw [hnL]; decide) rfl ?_
            refine z_goto (pc := 104) (tgt := 17) C dX4_spells_104 (by decide) ?_
            refine z_iload (pc := 17) (j := 0) C dX4_spells_17 rfl ?_
            refine z_iconst (pc := 19) C dX4_spells_19 ?_
            refine z_icmp_gt (pc := 20) (tgt := 107) C dX4_spells_20 (by decide) (by decide) (by decide) (fun _ => ?_) (fun z => absurd z (by decide))
            have hSn0 : vS (updI (updI Vv (Int.toNat ((210 + 5 * i) + 2)) (spl S.t S.m (((pcl x.2.2.1) + by_) % 12) si)) (Int.toNat ((210 + 5 * i) + 4)) (spl S.t S.m (((pcl x.2.2.2.2) + by_) % 12) si)) (S.ls, ((S.cs.take i.toNat).map (rsp S.t S.m si by_) ++ S.cs.drop i.toNat).set i.toNat (x.1, x.2.1, rsv S.t S.m si by_ x.2.2.1, x.2.2.2.1, (if x.2.2.2.2 = 100 then 100 else rsv S.t S.m si by_ x.2.2.2.2)), S.t, S.m) := by
              refine vS.set (S := (S.ls, ((S.cs.take i.toNat).map (rsp S.t S.m si by_) ++ S.cs.drop i.toNat), S.t, S.m)) hSv ⟨hsl2, by show ((S.cs.take i.toNat).map (rsp S.t S.m si by_) ++ S.cs.drop i.toNat).length ≤ 40; omega⟩ hxi (fun j h1 => by simp only [updI] <;> (repeat' split) <;> first | rfl | omega) ⟨?_, ?_, ?_⟩
              · rw [hrv3]; simp only [updI] <;> (repeat' split) <;> first | rfl | omega
              · have := hx4; simp only [updI] <;> (repeat' split) <;> first | omega | (rw [show 213 + 5 * i.toNat = 210 + 5 * i.toNat + 3 by omega]; exact hx4)
              · rw [hrv5, show 214 + 5 * i.toNat = 210 + 5 * i.toNat + 4 by omega]; simp only [updI] <;> (repeat' split) <;> first | rfl | omega | (rw [hx5]; omega)
            have hSn : vS (updI (updI Vv (Int.toNat ((210 + 5 * i) + 2)) (spl S.t S.m (((pcl x.2.2.1) + by_) % 12) si)) (Int.toNat ((210 + 5 * i) + 4)) (spl S.t S.m (((pcl x.2.2.2.2) + by_) % 12) si)) (S.ls, ((S.cs.take (i + 1).toNat).map (rsp S.t S.m si by_) ++ S.cs.drop (i + 1).toNat), S.t, S.m) := by
              have e := mset_step (rsp S.t S.m si by_) hx (by omega)
              rw [← e]
              exact hSn0
            have hdn : (n + 1) + 0 + rct S.t S.m si by_ (S.cs.drop (i + 1).toNat) = rct S.t S.m si by_ S.cs := by
              rw [drop_step hx (by omega), rct, hrv3, hrv5] at hd
              (repeat' split at hd) <;> omega
            refine z_iinc (pc := 107) (k := 3) (L' := [(3, .int (iI (i + 1))), (4, .int (iI 6)), (2, .int (iI ((n + 1) + 0))), (5, .int (iI x.2.2.2.2)), (1, .int (iI by_)), (0, .ref A.m)]) C dX4_spells_107 rfl (by rw [hnL]; decide) rfl ?_
            refine z_goto (pc := 110) (tgt := 4) C dX4_spells_110 (by decide) ?_
            refine Z.weak (L' := [(3, .int (iI (i + 1))), (2, .int (iI ((n + 1) + 0))), (1, .int (iI by_)), (0, .ref A.m)]) (kc' := 0) (ks' := 0) [0, 2, 4, 5] rfl (by omega) (by omega) ?_
            exact ih4 _ (by omega) (i + 1) ((n + 1) + 0) (updI (updI Vv (Int.toNat ((210 + 5 * i) + 2)) (spl S.t S.m (((pcl x.2.2.1) + by_) % 12) si)) (Int.toNat ((210 + 5 * i) + 4)) (spl S.t S.m (((pcl x.2.2.2.2) + by_) % 12) si)) h5 ⟨fh5_1, fh5_0, fh5_2, fh5_3, fh5_4, fh5_5, fh5_6, fh5_7, fh5_8, fh5_9, gd_2⟩ kh5 (by omega) hSn hdn rfl
          · refine z_iconst (pc := 94) C dX4_spells_94 ?_
            refine z_goto (pc := 95) (tgt := 99) C dX4_spells_95 (by decide) ?_
            refine z_iadd (pc := 99) C dX4_spells_99 ?_
            refine z_istore_n (pc := 100) (L' := [(2, .int (iI ((n + 1) + 1))), (5, .int (iI x.2.2.2.2)), (4, .int (iI 4)), (3, .int (iI i)), (1, .int (iI by_)), (0, .ref A.m)]) C dX4_spells_100 rfl (by rw [hnL]; decide) rfl ?_
            refine z_iinc (pc := 101) (k := 2) (L' := [(4, .int (iI 6)), (2, .int (iI ((n + 1) + 1))), (5, .int (iI x.2.2.2.2)), (3, .int (iI i)), (1, .int (iI by_)), (0, .ref A.m)]) C dX4_spells_101 rfl (by rw [hnL]; decide) rfl ?_
            refine z_goto (pc := 104) (tgt := 17) C dX4_spells_104 (by decide) ?_
            refine z_iload (pc := 17) (j := 0) C dX4_spells_17 rfl ?_
            refine z_iconst (pc := 19) C dX4_spells_19 ?_
            refine z_icmp_gt (pc := 20) (tgt := 107) C dX4_spells_20 (by decide) (by decide) (by decide) (fun _ => ?_) (fun z => absurd z (by decide))
            have hSn0 : vS (updI (updI Vv (Int.toNat ((210 + 5 * i) + 2)) (spl S.t S.m (((pcl x.2.2.1) + by_) % 12) si)) (Int.toNat ((210 + 5 * i) + 4)) (spl S.t S.m (((pcl x.2.2.2.2) + by_) % 12) si)) (S.ls, ((S.cs.take i.toNat).map (rsp S.t S.m si by_) ++ S.cs.drop i.toNat).set i.toNat (x.1, x.2.1, rsv S.t S.m si by_ x.2.2.1, x.2.2.2.1, (if x.2.2.2.2 = 100 then 100 else rsv S.t S.m si by_ x.2.2.2.2)), S.t, S.m) := by
              refine vS.set (S := (S.ls, ((S.cs.take i.toNat).map (rsp S.t S.m si by_) ++ S.cs.drop i.toNat), S.t, S.m)) hSv ⟨hsl2, by show ((S.cs.take i.toNat).map (rsp S.t S.m si by_) ++ S.cs.drop i.toNat).length ≤ 40; omega⟩ hxi (fun j h1 => by simp only [updI] <;> (repeat' split) <;> first | rfl | omega) ⟨?_, ?_, ?_⟩
              · rw [hrv3]; simp only [updI] <;> (repeat' split) <;> first | rfl | omega
              · have := hx4; simp only [updI] <;> (repeat' split) <;> first | omega | (rw [show 213 + 5 * i.toNat = 210 + 5 * i.toNat + 3 by omega]; exact hx4)
              · rw [hrv5, show 214 + 5 * i.toNat = 210 + 5 * i.toNat + 4 by omega]; simp only [updI] <;> (repeat' split) <;> first | rfl | omega | (rw [hx5]; omega)
            have hSn : vS (updI (updI Vv (Int.toNat ((210 + 5 * i) + 2)) (spl S.t S.m (((pcl x.2.2.1) + by_) % 12) si)) (Int.toNat ((210 + 5 * i) + 4)) (spl S.t S.m (((pcl x.2.2.2.2) + by_) % 12) si)) (S.ls, ((S.cs.take (i + 1).toNat).map (rsp S.t S.m si by_) ++ S.cs.drop (i + 1).toNat), S.t, S.m) := by
              have e := mset_step (rsp S.t S.m si by_) hx (by omega)
              rw [← e]
              exact hSn0
            have hdn : (n + 1) + 1 + rct S.t S.m si by_ (S.cs.drop (i + 1).toNat) = rct S.t S.m si by_ S.cs := by
              rw [drop_step hx (by omega), rct, hrv3, hrv5] at hd
              (repeat' split at hd) <;> omega
            refine z_iinc (pc := 107) (k := 3) (L' := [(3, .int (iI (i + 1))), (4, .int (iI 6)), (2, .int (iI ((n + 1) + 1))), (5, .int (iI x.2.2.2.2)), (1, .int (iI by_)), (0, .ref A.m)]) C dX4_spells_107 rfl (by rw [hnL]; decide) rfl ?_
            refine z_goto (pc := 110) (tgt := 4) C dX4_spells_110 (by decide) ?_
            refine Z.weak (L' := [(3, .int (iI (i + 1))), (2, .int (iI ((n + 1) + 1))), (1, .int (iI by_)), (0, .ref A.m)]) (kc' := 0) (ks' := 0) [0, 2, 4, 5] rfl (by omega) (by omega) ?_
            exact ih4 _ (by omega) (i + 1) ((n + 1) + 1) (updI (updI Vv (Int.toNat ((210 + 5 * i) + 2)) (spl S.t S.m (((pcl x.2.2.1) + by_) % 12) si)) (Int.toNat ((210 + 5 * i) + 4)) (spl S.t S.m (((pcl x.2.2.2.2) + by_) % 12) si)) h5 ⟨fh5_1, fh5_0, fh5_2, fh5_3, fh5_4, fh5_5, fh5_6, fh5_7, fh5_8, fh5_9, gd_2⟩ kh5 (by omega) hSn hdn rfl
  refine Z.weak (L' := [(3, .int (iI 0)), (2, .int (iI 0)), (1, .int (iI by_)), (0, .ref A.m)]) (kc' := 0) (ks' := 0) [0, 1, 3, 2] rfl (by omega) (by omega) ?_
  exact loop4 _ 0 0 V h ⟨gm_1, gv_1, gpa_1, gtx_1, gma_1, gna_1, gua_1, gla_1, gle_1, gqa_1, gd_1⟩ zkeep.rf (by omega) (by simp only [Int.toNat_zero, List.take_zero, List.map_nil, List.nil_append, List.drop_zero]; exact hS) (by simp) rfl
set_option maxHeartbeats 4000000 in
theorem md_respell {l : Launch} (hl : l.stackTraces = false) {Γ : zCx} {h : zH} {A : zMA} {σ : zSt} {th : Int} (hW : mdW h A σ th)  : zMet l yX4_respell (ws_ yX4_respell cX4_respell 1 (some .int)) ({ frames := 4, cells := 0, slots := 0, locals := 87 }) Γ h [.ref A.m] (zrt (fun w h' => w = some (.int (iI (rct σ.sh.t σ.sh.m σ.si 0 σ.sh.cs))) ∧ mdW h' A (σ.tx, σ.si, σ.fl, σ.wd, (σ.sh.ls, σ.sh.cs.map (rsp σ.sh.t σ.sh.m σ.si 0), σ.sh.t, σ.sh.m), hiP σ.hi σ.sh) 0 ∧ zkeep h h' [A.m, A.v, A.pa, A.tx, A.ma, A.na, A.ua, A.la])) 0 0 := by
  refine zMet.of (cc := cX4_respell) hl (plainFor_of_name (by decide +kernel)) (Nat.le_of_ble_eq_true rfl) ?_
  intro X hXl hXΓ hXp C hnm hnL
  have C : zC X cX4_respell RX4 (some .int) 4 87 [] := C
  have hnL : X.2.1.2.2.2.2 = 1 := hnL
  subst hXl hXΓ
  show Z X h 0 0 [(0, .ref A.m)] 0 []
  obtain ⟨ap, nt, rr, rq, rb, wh, nd, up, lo, V, P, T, M, N, U, W, hM, hS, hP, htq, hR, hsl, hslh⟩ := id hW
  obtain ⟨rsi, rff, rwd, rtl, rtx, rsh, rhi, rhl⟩ := id hR
  obtain ⟨rcl, rcr, rll, rlt, rkt, rkm, rks⟩ := id rsh
  obtain ⟨hsl1, hsl2, hsl3⟩ := id hsl
  have hTr := rtx
  have hTl := rtl
  obtain ⟨gm_1, gv_1, gpa_1, gtx_1, gma_1, gna_1, gua_1, gla_1, gle_1, gqa_1, gd_1⟩ := id hM
  refine z_aload_n (pc := 0) (j := 0) C dX4_respell_0 rfl rfl ?_
  refine z_iconst (pc := 1) C dX4_respell_1 ?_
  refine z_putfield (pc := 2) (fs' := [.ref A.v, .ref A.pa, .int (iI ((σ.hi.length : Nat) : Int)), .ref A.tx, .int (iI ((σ.tx.length : Nat) : Int)), .int (iI σ.si), .int (iI σ.fl), .int (iI σ.wd), .int (iI 0), .ref A.le, .ref A.qa, .int (iI ap), .int (iI nt), .int (iI rr), .int (iI rq), .int (iI rb), .int (iI wh), .ref A.ma, .ref A.na, .int (iI nd), .ref A.ua, .ref A.la, .int (iI up), .int (iI lo)]) C in_X4 tyX4 tyX4_ok nmX4 rfl 8 (by decide) q2090 (fun _ z => z) rfl rfl rfl (Nat.le_of_ble_eq_true rfl) gm_1 rfl dX4_respell_2 ?_
  refine Z.nm (fun h2 eh2 => ?_)
  have kh2 : zkeep h h2 [A.m, A.v, A.pa, A.tx, A.ma, A.na, A.ua, A.la] := by rw [eh2]; exact zkeep.up zkeep.rf (Or.inl (by simp)) gm_1
  have fh2_0 : h2 A.m = some (true, .inr (3, [.ref A.v, .ref A.pa, .int (iI ((σ.hi.length : Nat) : Int)), .ref A.tx, .int (iI ((σ.tx.length : Nat) : Int)), .int (iI σ.si), .int (iI σ.fl), .int (iI σ.wd), .int (iI 0), .ref A.le, .ref A.qa, .int (iI ap), .int (iI nt), .int (iI rr), .int (iI rq), .int (iI rb), .int (iI wh), .ref A.ma, .ref A.na, .int (iI nd), .ref A.ua, .ref A.la, .int (iI up), .int (iI lo)])) := zse eh2
  have fh2_1 : h2 A.v = some (true, .inl (.int, 620, (mA V))) := zsn eh2 gv_1 (Ne.symm (zneA gm_1 gv_1))
  have fh2_2 : h2 A.pa = some (true, .inl (.int, 4960, (mA P))) := zsn eh2 gpa_1 (Ne.symm (zneA gm_1 gpa_1))
  have fh2_3 : h2 A.tx = some (true, .inl (.int, 200, (mA T))) := zsn eh2 gtx_1 (Ne.symm (zneA gm_1 gtx_1))
  have fh2_4 : h2 A.ma = some (true, .inl (.int, 620, (mA M))) := zsn eh2 gma_1 (Ne.symm (zneA gm_1 gma_1))
  have fh2_5 : h2 A.na = some (true, .inl (.int, 20, (mA N))) := zsn eh2 gna_1 (Ne.symm (zneA gm_1 gna_1))
  have fh2_6 : h2 A.ua = some (true, .inl (.int, 1200, (mA U))) := zsn eh2 gua_1 (Ne.symm (zneA gm_1 gua_1))
  have fh2_7 : h2 A.la = some (true, .inl (.int, 1200, (mA W))) := zsn eh2 gla_1 (Ne.symm (zneA gm_1 gla_1))
  refine z_aload_n (pc := 5) (j := 0) C dX4_respell_5 rfl rfl ?_
  refine z_callV (pc := 6) (n := 0) (kc' := 0) (ks' := 0) C (m_acts C.t ⟨fh2_0, fh2_1, fh2_2, fh2_3, fh2_4, fh2_5, fh2_6, fh2_7, (kh2.n gle_1 (List.not_mem_cons_of_ne_of_not_mem (Ne.symm (zneA gm_1 gle_1)) (List.not_mem_cons_of_ne_of_not_mem (zneT gle_1 gv_1 (by simp)) (List.not_mem_cons_of_ne_of_not_mem (zneT gle_1 gpa_1 (by simp)) (List.not_mem_cons_of_ne_of_not_mem (zneT gle_1 gtx_1 (by simp)) (List.not_mem_cons_of_ne_of_not_mem (zneT gle_1 gma_1 (by simp)) (List.not_mem_cons_of_ne_of_not_mem (zneT gle_1 gna_1 (by simp)) (List.not_mem_cons_of_ne_of_not_mem (zneT gle_1 gua_1 (by simp)) (List.not_mem_cons_of_ne_of_not_mem (zneT gle_1 gla_1 (by simp)) List.not_mem_nil))))))))), (kh2.n gqa_1 (List.not_mem_cons_of_ne_of_not_mem (Ne.symm (zneA gm_1 gqa_1)) (List.not_mem_cons_of_ne_of_not_mem (zneT gqa_1 gv_1 (by simp)) (List.not_mem_cons_of_ne_of_not_mem (zneT gqa_1 gpa_1 (by simp)) (List.not_mem_cons_of_ne_of_not_mem (zneT gqa_1 gtx_1 (by simp)) (List.not_mem_cons_of_ne_of_not_mem (zneT gqa_1 gma_1 (by simp)) (List.not_mem_cons_of_ne_of_not_mem (zneT gqa_1 gna_1 (by simp)) (List.not_mem_cons_of_ne_of_not_mem (zneT gqa_1 gua_1 (by simp)) (List.not_mem_cons_of_ne_of_not_mem (zneT gqa_1 gla_1 (by simp)) List.not_mem_nil))))))))), gd_1⟩ hS hsl hP hslh (by omega)) (lw_V q2206 q2208 qs34 q74 q2209) (by decide +kernel) ⟨by decide, by decide⟩ fh2_0 rfl rfl rfl (Nat.le_of_ble_eq_true rfl) dX4_respell_6 (by omega) (by omega) (zrk fun w h3 hp => ?_) zrx
  obtain ⟨P_5, rfl, hM_5, hPn_5, k4⟩ := hp
  have kh3 : zkeep h h3 [A.m, A.v, A.pa, A.tx, A.ma, A.na, A.ua, A.la] := zkeep.loc kh2 k4 (fun q hq => Or.inl (Or.inr hq))
  have hM_5 : mM h3 A (((hiP σ.hi σ.sh).length : Nat) : Int) ((σ.tx.length : Nat) : Int) σ.si σ.fl σ.wd 0 ap nt rr rq rb wh nd up lo V P_5 T M N U W := hM_5
  obtain ⟨gm_6, gv_6, gpa_6, gtx_6, gma_6, gna_6, gua_6, gla_6, gle_6, gqa_6, gd_6⟩ := id hM_5
  have hhl8 : (hiP σ.hi σ.sh).length ≤ 8 := hiP_l rhl
  have hslh2 : ∀ S ∈ hiP σ.hi σ.sh, shL S := hiP_m hslh hsl
  have rhi2 : ∀ S ∈ hiP σ.hi σ.sh, shR S := hiP_m rhi rsh
  show Z X h3 0 0 [(0, .ref A.m)] 9 []
  refine z_aload_n (pc := 9) (j := 0) C dX4_respell_9 rfl rfl ?_
  refine z_iconst (pc := 10) C dX4_respell_10 ?_
  refine z_callV (pc := 11) (n := 1) (kc' := 0) (ks' := 0) C (m_spells C.t ⟨gm_6, gv_6, gpa_6, gtx_6, gma_6, gna_6, gua_6, gla_6, gle_6, gqa_6, gd_6⟩ (S := σ.sh) hS hsl rcr rkm rks rsi (by_ := 0) (by omega)) (lw_V q2400 q2402 qs52 q74 q2403) (by decide +kernel) ⟨by decide, by decide⟩ gm_6 rfl rfl rfl (Nat.le_of_ble_eq_true rfl) dX4_respell_11 (by omega) (by omega) (zrk fun w h7 hp => ?_) zrx
  obtain ⟨V_9, rfl, hM_9, hSn, k8⟩ := hp
  have kh7 : zkeep h h7 [A.m, A.v, A.pa, A.tx, A.ma, A.na, A.ua, A.la] := zkeep.loc kh3 k8 (fun q hq => Or.inl (Or.inr hq))
  have hM_9 : mM h7 A (((hiP σ.hi σ.sh).length : Nat) : Int) ((σ.tx.length : Nat) : Int) σ.si σ.fl σ.wd 0 ap nt rr rq rb wh nd up lo V_9 P_5 T M N U W := hM_9
  obtain ⟨gm_10, gv_10, gpa_10, gtx_10, gma_10, gna_10, gua_10, gla_10, gle_10, gqa_10, gd_10⟩ := id hM_9
  show Z X h7 0 0 [(0, .ref A.m)] 14 [.int (iI (rct σ.sh.t σ.sh.m σ.si 0 σ.sh.cs))]
  exact z_ireturn (pc := 14) C (by rw [hXp]; exact ⟨_, rfl, rfl, ⟨ap, nt, rr, rq, rb, wh, nd, up, lo, V_9, P_5, T, M, N, U, W, ⟨gm_10, gv_10, gpa_10, gtx_10, gma_10, gna_10, gua_10, gla_10, gle_10, gqa_10, gd_10⟩, hSn, hPn_5, htq, ⟨rsi, rff, rwd, rtl, rtx, ⟨by show (σ.sh.cs.map _).length ≤ 40; rw [List.length_map]; exact rcl, fun c hc => by obtain ⟨d, hd, rfl⟩ := List.mem_map.mp hc; exact rsp_r rks (rcr d hd), rll, rlt, rkt, rkm, rks⟩, rhi2, hhl8⟩, ⟨hsl1, hsl2, by show (σ.sh.cs.map _).length ≤ 40; rw [List.length_map]; exact hsl3⟩, hslh2⟩, kh7⟩) dX4_respell_14
set_option maxHeartbeats 4000000 in
theorem md_transpose {l : Launch} (hl : l.stackTraces = false) {Γ : zCx} {h : zH} {A : zMA} {σ : zSt} {th : Int} (hW : mdW h A σ th) {s : Int} (hs : -11 ≤ s ∧ s ≤ 11)  : zMet l yX4_transpose (ws_ yX4_transpose cX4_transpose 8 (some .int)) ({ frames := 4, cells := 0, slots := 0, locals := 87 }) Γ h [.ref A.m, .int (iI s)] (zrt (fun w h' => w = some (.int (iI (sgn (hgt σ.sh.t σ.sh.m s σ.fl) σ.sh.m))) ∧ mdW h' A (σ.tx, σ.si, σ.fl, σ.wd, (σ.sh.ls, σ.sh.cs.map (rsp (hgt σ.sh.t σ.sh.m s σ.fl) σ.sh.m σ.si s), (hgt σ.sh.t σ.sh.m s σ.fl), σ.sh.m), hiP σ.hi σ.sh) 0 ∧ zkeep h h' [A.m, A.v, A.pa, A.tx, A.ma, A.na, A.ua, A.la])) 0 0 := by
  refine zMet.of (cc := cX4_transpose) hl (plainFor_of_name (by decide +kernel)) (Nat.le_of_ble_eq_true rfl) ?_
  intro X hXl hXΓ hXp C hnm hnL
  have C : zC X cX4_transpose RX4 (some .int) 4 87 [] := C
  have hnL : X.2.1.2.2.2.2 = 8 := hnL
  subst hXl hXΓ
  show Z X h 0 0 [(0, .ref A.m), (1, .int (iI s))] 0 []
  obtain ⟨ap, nt, rr, rq, rb, wh, nd, up, lo, V, P, T, M, N, U, W, hM, hS, hP, htq, hR, hsl, hslh⟩ := id hW
  obtain ⟨rsi, rff, rwd, rtl, rtx, rsh, rhi, rhl⟩ := id hR
  obtain ⟨rcl, rcr, rll, rlt, rkt, rkm, rks⟩ := id rsh
  obtain ⟨hsl1, hsl2, hsl3⟩ := id hsl
  have hTr := rtx
  have hTl := rtl
  obtain ⟨gm_1, gv_1, gpa_1, gtx_1, gma_1, gna_1, gua_1, gla_1, gle_1, gqa_1, gd_1⟩ := id hM
  refine z_aload_n (pc := 0) (j := 0) C dX4_transpose_0 rfl rfl ?_
  refine z_iconst (pc := 1) C dX4_transpose_1 ?_
  refine z_putfield (pc := 2) (fs' := [.ref A.v, .ref A.pa, .int (iI ((σ.hi.length : Nat) : Int)), .ref A.tx, .int (iI ((σ.tx.length : Nat) : Int)), .int (iI σ.si), .int (iI σ.fl), .int (iI σ.wd), .int (iI 0), .ref A.le, .ref A.qa, .int (iI ap), .int (iI nt), .int (iI rr), .int (iI rq), .int (iI rb), .int (iI wh), .ref A.ma, .ref A.na, .int (iI nd), .ref A.ua, .ref A.la, .int (iI up), .int (iI lo)]) C in_X4 tyX4 tyX4_ok nmX4 rfl 8 (by decide) q2090 (fun _ z => z) rfl rfl rfl (Nat.le_of_ble_eq_true rfl) gm_1 rfl dX4_transpose_2 ?_
  refine Z.nm (fun h2 eh2 => ?_)
  have kh2 : zkeep h h2 [A.m, A.v, A.pa, A.tx, A.ma, A.na, A.ua, A.la] := by rw [eh2]; exact zkeep.up zkeep.rf (Or.inl (by simp)) gm_1
  have fh2_0 : h2 A.m = some (true, .inr (3, [.ref A.v, .ref A.pa, .int (iI ((σ.hi.length : Nat) : Int)), .ref A.tx, .int (iI ((σ.tx.length : Nat) : Int)), .int (iI σ.si), .int (iI σ.fl), .int (iI σ.wd), .int (iI 0), .ref A.le, .ref A.qa, .int (iI ap), .int (iI nt), .int (iI rr), .int (iI rq), .int (iI rb), .int (iI wh), .ref A.ma, .ref A.na, .int (iI nd), .ref A.ua, .ref A.la, .int (iI up), .int (iI lo)])) := zse eh2
  have fh2_1 : h2 A.v = some (true, .inl (.int, 620, (mA V))) := zsn eh2 gv_1 (Ne.symm (zneA gm_1 gv_1))
  have fh2_2 : h2 A.pa = some (true, .inl (.int, 4960, (mA P))) := zsn eh2 gpa_1 (Ne.symm (zneA gm_1 gpa_1))
  have fh2_3 : h2 A.tx = some (true, .inl (.int, 200, (mA T))) := zsn eh2 gtx_1 (Ne.symm (zneA gm_1 gtx_1))
  have fh2_4 : h2 A.ma = some (true, .inl (.int, 620, (mA M))) := zsn eh2 gma_1 (Ne.symm (zneA gm_1 gma_1))
  have fh2_5 : h2 A.na = some (true, .inl (.int, 20, (mA N))) := zsn eh2 gna_1 (Ne.symm (zneA gm_1 gna_1))
  have fh2_6 : h2 A.ua = some (true, .inl (.int, 1200, (mA U))) := zsn eh2 gua_1 (Ne.symm (zneA gm_1 gua_1))
  have fh2_7 : h2 A.la = some (true, .inl (.int, 1200, (mA W))) := zsn eh2 gla_1 (Ne.symm (zneA gm_1 gla_1))
  refine z_iload_n (pc := 5) (j := 1) C dX4_transpose_5 rfl rfl ?_
  refine z_bipush (pc := 6) C dX4_transpose_6 (by decide) ?_
  refine z_bipush (pc := 8) C dX4_transpose_8 (by decide) ?_
  refine z_callS (pc := 10) (n := 3) (kc' := 0) (ks' := 0) C (m_in C.t (x := s) (a := (-11)) (b := 11) (by omega) (by decide) (by decide)) (lw_S q2164 q2165 q74 q2166) (by decide +kernel) ⟨by decide, by decide⟩ rfl rfl (Nat.le_of_ble_eq_true rfl) dX4_transpose_10 (by omega) (by omega) (zpk (st' := [.int (iI (if (-11) ≤ s ∧ s ≤ 11 then 1 else 0))]) rfl ?_) zrx
  rw [show ((if (-11) ≤ s ∧ s ≤ 11 then 1 else 0) : Int) = 1 from if_pos (by omega)]
  show Z X h2 0 0 [(0, .ref A.m), (1, .int (iI s))] 13 [.int (iI 1)]
  refine z_if_ne (pc := 13) (tgt := 22) C dX4_transpose_13 (by decide) (by decide) (fun _ => ?_) (fun z => absurd z (by decide))
  refine z_aload_n (pc := 22) (j := 0) C dX4_transpose_22 rfl rfl ?_
  refine z_callV (pc := 23) (n := 0) (kc' := 0) (ks' := 0) C (m_acts C.t ⟨fh2_0, fh2_1, fh2_2, fh2_3, fh2_4, fh2_5, fh2_6, fh2_7, (kh2.n gle_1 (List.not_mem_cons_of_ne_of_not_mem (Ne.symm (zneA gm_1 gle_1)) (List.not_mem_cons_of_ne_of_not_mem (zneT gle_1 gv_1 (by simp)) (List.not_mem_cons_of_ne_of_not_mem (zneT gle_1 gpa_1 (by simp)) (List.not_mem_cons_of_ne_of_not_mem (zneT gle_1 gtx_1 (by simp)) (List.not_mem_cons_of_ne_of_not_mem (zneT gle_1 gma_1 (by simp)) (List.not_mem_cons_of_ne_of_not_mem (zneT gle_1 gna_1 (by simp)) (List.not_mem_cons_of_ne_of_not_mem (zneT gle_1 gua_1 (by simp)) (List.not_mem_cons_of_ne_of_not_mem (zneT gle_1 gla_1 (by simp)) List.not_mem_nil))))))))), (kh2.n gqa_1 (List.not_mem_cons_of_ne_of_not_mem (Ne.symm (zneA gm_1 gqa_1)) (List.not_mem_cons_of_ne_of_not_mem (zneT gqa_1 gv_1 (by simp)) (List.not_mem_cons_of_ne_of_not_mem (zneT gqa_1 gpa_1 (by simp)) (List.not_mem_cons_of_ne_of_not_mem (zneT gqa_1 gtx_1 (by simp)) (List.not_mem_cons_of_ne_of_not_mem (zneT gqa_1 gma_1 (by simp)) (List.not_mem_cons_of_ne_of_not_mem (zneT gqa_1 gna_1 (by simp)) (List.not_mem_cons_of_ne_of_not_mem (zneT gqa_1 gua_1 (by simp)) (List.not_mem_cons_of_ne_of_not_mem (zneT gqa_1 gla_1 (by simp)) List.not_mem_nil))))))))), gd_1⟩ hS hsl hP hslh (by omega)) (lw_V q2206 q2208 qs34 q74 q2209) (by decide +kernel) ⟨by decide, by decide⟩ fh2_0 rfl rfl rfl (Nat.le_of_ble_eq_true rfl) dX4_transpose_23 (by omega) (by omega) (zrk fun w h3 hp => ?_) zrx
  obtain ⟨P_5, rfl, hM_5, hPn_5, k4⟩ := hp
  have kh3 : zkeep h h3 [A.m, A.v, A.pa, A.tx, A.ma, A.na, A.ua, A.la] := zkeep.loc kh2 k4 (fun q hq => Or.inl (Or.inr hq))
  have hM_5 : mM h3 A (((hiP σ.hi σ.sh).length : Nat) : Int) ((σ.tx.length : Nat) : Int) σ.si σ.fl σ.wd 0 ap nt rr rq rb wh nd up lo V P_5 T M N U W := hM_5
  obtain ⟨gm_6, gv_6, gpa_6, gtx_6, gma_6, gna_6, gua_6, gla_6, gle_6, gqa_6, gd_6⟩ := id hM_5
  have hhl8 : (hiP σ.hi σ.sh).length ≤ 8 := hiP_l rhl
  have hslh2 : ∀ S ∈ hiP σ.hi σ.sh, shL S := hiP_m hslh hsl
  have rhi2 : ∀ S ∈ hiP σ.hi σ.sh, shR S := hiP_m rhi rsh
  show Z X h3 0 0 [(0, .ref A.m), (1, .int (iI s))] 26 []
  refine z_aload_n (pc := 26) (j := 0) C dX4_transpose_26 rfl rfl ?_
  refine z_getfield (pc := 27) (v := .ref A.v) C in_X4 rfl 0 (by decide) q2082 (fun _ z => z) gm_6 rfl dX4_transpose_27 ?_
  refine z_iconst (pc := 30) C dX4_transpose_30 ?_
  refine z_iaload (pc := 31) (v := .int (iI σ.sh.t)) C gv_6 (by omega) (mA_e (vE hS.2.2.1 (by omega))) dX4_transpose_31 ?_
  refine z_callS (pc := 32) (n := 1) (kc' := 0) (ks' := 0) C (m_pitch C.t (x := σ.sh.t) (by omega)) (lw_S q2218 q2219 q74 q2220) (by decide +kernel) ⟨by decide, by decide⟩ rfl rfl (Nat.le_of_ble_eq_true rfl) dX4_transpose_32 (by omega) (by omega) (zpk (st' := [.int (iI (pcl σ.sh.t))]) rfl ?_) zrx
  have hpcl35 := pcl_r σ.sh.t
  refine z_iload_n (pc := 35) (j := 1) C dX4_transpose_35 rfl rfl ?_
  refine z_iadd (pc := 36) C dX4_transpose_36 ?_
  refine z_callS (pc := 37) (n := 1) (kc' := 0) (ks' := 0) C (m_mod C.t (x := (pcl σ.sh.t) + s) (by omega)) (lw_S q2221 q2222 q74 q2223) (by decide +kernel) ⟨by decide, by decide⟩ rfl rfl (Nat.le_of_ble_eq_true rfl) dX4_transpose_37 (by omega) (by omega) (zpk (st' := [.int (iI (((pcl σ.sh.t) + s) % 12))]) rfl ?_) zrx
  refine z_istore_n (pc := 40) (L' := [(2, .int (iI (((pcl σ.sh.t) + s) % 12))), (0, .ref A.m), (1, .int (iI s))]) C dX4_transpose_40 rfl (by rw [hnL]; decide) rfl ?_
  refine z_bipush (pc := 41) C dX4_transpose_41 (by decide) ?_
  refine z_istore_n (pc := 43) (L' := [(3, .int (iI 100)), (2, .int (iI (((pcl σ.sh.t) + s) % 12))), (0, .ref A.m), (1, .int (iI s))]) C dX4_transpose_43 rfl (by rw [hnL]; decide) rfl ?_
  refine z_iconst (pc := 44) C dX4_transpose_44 ?_
  refine z_istore (pc := 45) (L' := [(4, .int (iI 0)), (3, .int (iI 100)), (2, .int (iI (((pcl σ.sh.t) + s) % 12))), (0, .ref A.m), (1, .int (iI s))]) C dX4_transpose_45 (by rw [hnL]; decide) rfl ?_
  have loop47 : ∀ (n47 : Nat) (k : Int) (b : Int) (g47 : zH), (mM g47 A (((hiP σ.hi σ.sh).length : Nat) : Int) ((σ.tx.length : Nat) : Int) σ.si σ.fl σ.wd 0 ap nt rr rq rb wh nd up lo V P_5 T M N U W) → (zkeep h g47 [A.m, A.v, A.pa, A.tx, A.ma, A.na, A.ua, A.la]) → (0 ≤ k ∧ k ≤ 13) → (b = if k = 13 then (if (hsg σ.sh.t σ.sh.m s) = 6 ∧ σ.fl = 1 then -6 else (hsg σ.sh.t σ.sh.m s)) else if (if 0 < (hsg σ.sh.t σ.sh.m s) then 2 * (hsg σ.sh.t σ.sh.m s) - 1 else -2 * (hsg σ.sh.t σ.sh.m s)) < k then (hsg σ.sh.t σ.sh.m s) else 100) → ((13 - k).toNat) = n47 → Z X g47 0 0 [(4, .int (iI k)), (3, .int (iI b)), (2, .int (iI ((pcl σ.sh.t + s) % 12))), (1, .int (iI s)), (0, .ref A.m)] 47 [] := by
    intro n47
    induction n47 using Nat.strongRecOn with
    | ind n47 ih47 =>
    intro k b g47 hMg47 hkp47 hk hb hn47
    obtain ⟨gm_7, gv_7, gpa_7, gtx_7, gma_7, gna_7, gua_7, gla_7, gle_7, gqa_7, gd_7⟩ := id hMg47
    refine z_iload (pc := 47) (j := 0) C dX4_transpose_47 rfl ?_
    refine z_bipush (pc := 49) C dX4_transpose_49 (by decide) ?_
    refine z_icmp_gt (pc := 51) (tgt := 159) C dX4_transpose_51 (by decide) (by omega) (by decide) (fun c51 => ?_) (fun c51 => ?_)
    · refine z_aload_n (pc := 159) (j := 4) C dX4_transpose_159 rfl rfl ?_
      refine z_getfield (pc := 160) (v := .ref A.v) C in_X4 rfl 0 (by decide) q2082 (fun _ z => z) gm_7 rfl dX4_transpose_160 ?_
      refine z_iconst (pc := 163) C dX4_transpose_163 ?_
      refine z_iload_n (pc := 164) (j := 1) C dX4_transpose_164 rfl rfl ?_
      refine z_iconst (pc := 165) C dX4_transpose_165 ?_
      refine z_aload_n (pc := 166) (j := 4) C dX4_transpose_166 rfl rfl ?_
      refine z_getfield (pc := 167) (v := .ref A.v) C in_X4 rfl 0 (by decide) q2082 (fun _ z => z) gm_7 rfl dX4_transpose_167 ?_
      refine z_iconst (pc := 170) C dX4_transpose_170 ?_
      refine z_iaload (pc := 171) (v := .int (iI σ.sh.m)) C gv_7 (by omega) (mA_e (vE hS.2.2.2.1 (by omega))) dX4_transpose_171 ?_
      refine z_imul (pc := 172) C dX4_transpose_172 ?_
      refine z_iadd (pc := 173) C dX4_transpose_173 ?_
      refine z_iastore (pc := 174) (f' := (mA (updI V 2 (b + (3 * σ.sh.m))))) C gv_7 (by omega) (mA_up _ _ _) dX4_transpose_174 ?_
      refine Z.nm (fun h8 eh8 => ?_)
      have kh8 : zkeep h h8 [A.m, A.v, A.pa, A.tx, A.ma, A.na, A.ua, A.la] := by rw [eh8]; exact zkeep.up hkp47 (Or.inl (by simp)) gv_7
      have fh8_0 : h8 A.v = some (true, .inl (.int, 620, (mA (updI V 2 (b + (3 * σ.sh.m)))))) := zse eh8
      have fh8_1 : h8 A.m = some (true, .inr (3, [.ref A.v, .ref A.pa, .int (iI (((hiP σ.hi σ.sh).length : Nat) : Int)), .ref A.tx, .int (iI ((σ.tx.length : Nat) : Int)), .int (iI σ.si), .int (iI σ.fl), .int (iI σ.wd), .int (iI 0), .ref A.le, .ref A.qa, .int (iI ap), .int (iI nt), .int (iI rr), .int (iI rq), .int (iI rb), .int (iI wh), .ref A.ma, .ref A.na, .int (iI nd), .ref A.ua, .ref A.la, .int (iI up), .int (iI lo)])) := zsn eh8 gm_7 (zneA gm_7 gv_7)
      have fh8_2 : h8 A.pa = some (true, .inl (.int, 4960, (mA P_5))) := zsn eh8 gpa_7 (Ne.symm gd_7.1)
      have fh8_3 : h8 A.tx = some (true, .inl (.int, 200, (mA T))) := zsn eh8 gtx_7 (Ne.symm gd_7.2.1)
      have fh8_4 : h8 A.ma = some (true, .inl (.int, 620, (mA M))) := zsn eh8 gma_7 (Ne.symm gd_7.2.2.1)
      have fh8_5 : h8 A.na = some (true, .inl (.int, 20, (mA N))) := zsn eh8 gna_7 (Ne.symm gd_7.2.2.2.1)
      have fh8_6 : h8 A.ua = some (true, .inl (.int, 1200, (mA U))) := zsn eh8 gua_7 (Ne.symm gd_7.2.2.2.2.1)
      have fh8_7 : h8 A.la = some (true, .inl (.int, 1200, (mA W))) := zsn eh8 gla_7 (Ne.symm gd_7.2.2.2.2.2.1)
      have fh8_8 : h8 A.le = some (true, .inl (.char, 7, (mA ltF))) := zsn eh8 gle_7 (zneT gle_7 gv_7 (by simp))
      have fh8_9 : h8 A.qa = some (true, .inl (.char, 30, (mA qaF))) := zsn eh8 gqa_7 (zneT gqa_7 gv_7 (by simp))
      have hbe : b = (if (hsg σ.sh.t σ.sh.m s) = 6 ∧ σ.fl = 1 then -6 else (hsg σ.sh.t σ.sh.m s)) := by rw [hb, if_pos (by omega)]
      have hg0 := hsg_r σ.sh.t σ.sh.m s
      have hge : (hgt σ.sh.t σ.sh.m s σ.fl) = b + 3 * σ.sh.m := by have hz : (hgt σ.sh.t σ.sh.m s σ.fl) = (if (hsg σ.sh.t σ.sh.m s) = 6 ∧ σ.fl = 1 then -6 else (hsg σ.sh.t σ.sh.m s)) + if σ.sh.m = 1 then 3 else 0 := rfl; rw [hz, ← hbe]; split <;> omega
      have hgs : sgn (hgt σ.sh.t σ.sh.m s σ.fl) σ.sh.m = b := by unfold sgn; rw [hge]; split <;> omega
      have hbr : -6 ≤ b ∧ b ≤ 6 := by rw [hbe]; split <;> omega
      have hsgT : -6 ≤ sgn (hgt σ.sh.t σ.sh.m s σ.fl) σ.sh.m ∧ sgn (hgt σ.sh.t σ.sh.m s σ.fl) σ.sh.m ≤ 6 := by rw [hgs]; exact hbr
      have hST : vS (updI V 2 (b + (3 * σ.sh.m))) (σ.sh.ls, σ.sh.cs, (hgt σ.sh.t σ.sh.m s σ.fl), σ.sh.m) := by
        rw [hge]
        obtain ⟨a1, a2, a3, a4, a5, a6, a7⟩ := hS
        have he : ∀ j, j ≠ 2 → (updI V 2 (b + (3 * σ.sh.m))) j = V j := fun j hj => updI_ne hj rfl
        refine ⟨by rw [he _ (by decide)]; exact a1, by rw [he _ (by decide)]; exact a2, updI_eq rfl, by rw [he _ (by decide)]; exact a4, fun j hj => by rw [he _ (by omega)]; exact a5 j hj, fun i x hx => ?_, fun j d hd => by rw [he _ (by omega)]; exact a7 j d hd⟩
        obtain ⟨b1, b2, b3, b4, b5⟩ := a6 i x hx
        exact ⟨by rw [he _ (by omega)]; exact b1, by rw [he _ (by omega)]; exact b2, by rw [he _ (by omega)]; exact b3, by rw [he _ (by omega)]; exact b4, by rw [he _ (by omega)]; exact b5⟩
      refine z_aload_n (pc := 175) (j := 4) C dX4_transpose_175 rfl rfl ?_
      refine z_iload_n (pc := 176) (j := 3) C dX4_transpose_176 rfl rfl ?_
      refine z_callV (pc := 177) (n := 1) (kc' := 0) (ks' := 0) C (m_spells C.t ⟨fh8_1, fh8_0, fh8_2, fh8_3, fh8_4, fh8_5, fh8_6, fh8_7, fh8_8, fh8_9, gd_7⟩ (S := ((σ.sh.ls, σ.sh.cs, (hgt σ.sh.t σ.sh.m s σ.fl), σ.sh.m) : zSh)) hST hsl rcr rkm hsgT rsi (by_ := s) (by omega)) (lw_V q2400 q2402 qs52 q74 q2403) (by decide +kernel) ⟨by decide, by decide⟩ fh8_1 rfl rfl rfl (Nat.le_of_ble_eq_true rfl) dX4_transpose_177 (by omega) (by omega) (zrk fun w h9 hp => ?_) zrx
      obtain ⟨V_11, rfl, hM_11, hSn, k10⟩ := hp
      have kh9 : zkeep h h9 [A.m, A.v, A.pa, A.tx, A.ma, A.na, A.ua, A.la] := zkeep.loc kh8 k10 (fun q hq => Or.inl (Or.inr hq))
      have hM_11 : mM h9 A (((hiP σ.hi σ.sh).length : Nat) : Int) ((σ.tx.length : Nat) : Int) σ.si σ.fl σ.wd 0 ap nt rr rq rb wh nd up lo V_11 P_5 T M N U W := hM_11
      obtain ⟨gm_12, gv_12, gpa_12, gtx_12, gma_12, gna_12, gua_12, gla_12, gle_12, gqa_12, gd_12⟩ := id hM_11
      show Z X h9 0 0 [(4, .int (iI k)), (3, .int (iI b)), (2, .int (iI ((pcl σ.sh.t + s) % 12))), (1, .int (iI s)), (0, .ref A.m)] 180 [.int (iI (rct (hgt σ.sh.t σ.sh.m s σ.fl) σ.sh.m σ.si s σ.sh.cs))]
      refine z_istore (pc := 180) (L' := [(4, .int (iI (rct (hgt σ.sh.t σ.sh.m s σ.fl) σ.sh.m σ.si s σ.sh.cs))), (3, .int (iI b)), (2, .int (iI ((pcl σ.sh.t + s) % 12))), (1, .int (iI s)), (0, .ref A.m)]) C dX4_transpose_180 (by rw [hnL]; decide) rfl ?_
      refine z_iload_n (pc := 182) (j := 1) C dX4_transpose_182 rfl rfl ?_
      exact z_ireturn (pc := 183) C (by rw [hXp]; exact ⟨_, rfl, (by rw [hgs]), ⟨ap, nt, rr, rq, rb, wh, nd, up, lo, V_11, P_5, T, M, N, U, W, ⟨gm_12, gv_12, gpa_12, gtx_12, gma_12, gna_12, gua_12, gla_12, gle_12, gqa_12, gd_12⟩, hSn, hPn_5, htq, ⟨rsi, rff, rwd, rtl, rtx, ⟨by show (σ.sh.cs.map _).length ≤ 40; rw [List.length_map]; exact rcl, fun c hc => by obtain ⟨d, hd, rfl⟩ := List.mem_map.mp hc; exact rsp_r hsgT (rcr d hd), rll, rlt, (by show -20 ≤ (hgt σ.sh.t σ.sh.m s σ.fl) ∧ (hgt σ.sh.t σ.sh.m s σ.fl) ≤ 20; omega), rkm, hsgT⟩, rhi2, hhl8⟩, ⟨hsl1, hsl2, by show (σ.sh.cs.map _).length ≤ 40; rw [List.length_map]; exact hsl3⟩, hslh2⟩, kh9⟩) dX4_transpose_183
    · refine z_iload (pc := 54) (j := 0) C dX4_transpose_54 rfl ?_
      refine z_iconst (pc := 56) C dX4_transpose_56 ?_
      refine z_iremI (pc := 57) C dX4_transpose_57 (by omega) (by decide) ?_
      rw [show ((k.tmod 2) : Int) = k % 2 from Int.tmod_eq_emod_of_nonneg (by omega)]
      show Z X g47 0 0 [(4, .int (iI k)), (3, .int (iI b)), (2, .int (iI ((pcl σ.sh.t + s) % 12))), (1, .int (iI s)), (0, .ref A.m)] 58 [.int (iI (k % 2))]
      refine z_iconst (pc := 58) C dX4_transpose_58 ?_
      refine z_icmp_ne (pc := 59) (tgt := 71) C dX4_transpose_59 (by decide) (by omega) (by decide) (fun c59 => ?_) (fun c59 => ?_)
      · refine z_iload (pc := 71) (j := 0) C dX4_transpose_71 rfl ?_
        refine z_iconst (pc := 73) C dX4_transpose_73 ?_
        refine z_idivI (pc := 74) C dX4_transpose_74 (by omega) (by decide) ?_
        refine z_ineg (pc := 75) C dX4_transpose_75 ?_
        rw [show (-(k.tdiv 2) : Int) = sgk k by unfold sgk; rw [Int.tdiv_eq_ediv_of_nonneg (by omega)]; split <;> omega]
        show Z X g47 0 0 [(4, .int (iI k)), (3, .int (iI b)), (2, .int (iI ((pcl σ.sh.t + s) % 12))), (1, .int (iI s)), (0, .ref A.m)] 76 [.int (iI (sgk k))]
        refine z_istore (pc := 76) (L' := [(5, .int (iI (sgk k))), (4, .int (iI k)), (3, .int (iI b)), (2, .int (iI ((pcl σ.sh.t + s) % 12))), (1, .int (iI s)), (0, .ref A.m)]) C dX4_transpose_76 (by rw [hnL]; decide) rfl ?_
        have hg0 := hsg_r σ.sh.t σ.sh.m s
        have hsk := sgk_e (k := k)
        have hg1 : k ≤ 11 → (pcl (sgk k + 3 * σ.sh.m) = (pcl σ.sh.t + s) % 12 ↔ sgk k = (hsg σ.sh.t σ.sh.m s)) := fun z => hsg_p rkm (by omega)
        have hg2 : k = 12 → (pcl (sgk k + 3 * σ.sh.m) = (pcl σ.sh.t + s) % 12 ↔ (hsg σ.sh.t σ.sh.m s) = 6) := fun z => by rw [show sgk k = -6 by omega]; exact hsg_6 rkm
        refine z_iload (pc := 78) (j := 0) C dX4_transpose_78 rfl ?_
        refine z_iconst (pc := 80) C dX4_transpose_80 ?_
        refine z_aload_n (pc := 81) (j := 5) C dX4_transpose_81 rfl rfl ?_
        refine z_getfield (pc := 82) (v := .ref A.v) C in_X4 rfl 0 (by decide) q2082 (fun _ z => z) gm_7 rfl dX4_transpose_82 ?_
        refine z_iconst (pc := 85) C dX4_transpose_85 ?_
        refine z_iaload (pc := 86) (v := .int (iI σ.sh.m)) C gv_7 (by omega) (mA_e (vE hS.2.2.2.1 (by omega))) dX4_transpose_86 ?_
        refine z_imul (pc := 87) C dX4_transpose_87 ?_
        refine z_iadd (pc := 88) C dX4_transpose_88 ?_
        refine z_callS (pc := 89) (n := 1) (kc' := 0) (ks' := 0) C (m_pitch C.t (x := (sgk k) + (3 * σ.sh.m)) (by omega)) (lw_S q2218 q2219 q74 q2220) (by decide +kernel) ⟨by decide, by decide⟩ rfl rfl (Nat.le_of_ble_eq_true rfl) dX4_transpose_89 (by omega) (by omega) (zpk (st' := [.int (iI (pcl ((sgk k) + (3 * σ.sh.m))))]) rfl ?_) zrx
        have hpcl92 := pcl_r ((sgk k) + (3 * σ.sh.m))
        refine z_iload_n (pc := 92) (j := 3) C dX4_transpose_92 rfl rfl ?_
        refine z_icmp_ne (pc := 93) (tgt := 100) C dX4_transpose_93 (by decide) (by omega) (by omega) (fun c93 => ?_) (fun c93 => ?_)
        · refine z_iconst (pc := 100) C dX4_transpose_100 ?_
          refine z_istore (pc := 101) (L' := [(6, .int (iI 0)), (5, .int (iI (sgk k))), (4, .int (iI k)), (3, .int (iI b)), (2, .int (iI ((pcl σ.sh.t + s) % 12))), (1, .int (iI s)), (0, .ref A.m)]) C dX4_transpose_101 (by rw [hnL]; decide) rfl ?_
          refine z_iload_n (pc := 103) (j := 3) C dX4_transpose_103 rfl rfl ?_
          refine z_bipush (pc := 104) C dX4_transpose_104 (by decide) ?_
          refine z_icmp_eq (pc := 106) (tgt := 129) C dX4_transpose_106 (by decide) (by omega) (by decide) (fun c106 => ?_) (fun c106 => ?_)
          · refine z_iconst (pc := 129) C dX4_transpose_129 ?_
            refine z_goto (pc := 130) (tgt := 134) C dX4_transpose_130 (by decide) ?_
            refine z_istore (pc := 134) (L' := [(7, .int (iI 1)), (6, .int (iI 0)), (5, .int (iI (sgk k))), (4, .int (iI k)), (3, .int (iI b)), (2, .int (iI ((pcl σ.sh.t + s) % 12))), (1, .int (iI s)), (0, .ref A.m)]) C dX4_transpose_134 (by rw [hnL]; decide) rfl ?_
            refine z_iload (pc := 136) (j := 1) C dX4_transpose_136 rfl ?_
            refine z_if_eq (pc := 138) (tgt := 151) C dX4_transpose_138 (by decide) (by decide) (fun _ => ?_) (fun z => absurd z (by decide))
            refine z_iload_n (pc := 151) (j := 4) C dX4_transpose_151 rfl rfl ?_
            refine z_istore_n (pc := 152) (L' := [(3, .int (iI b)), (7, .int (iI 1)), (6, .int (iI 0)), (5, .int (iI (sgk k))), (4, .int (iI k)), (2, .int (iI ((pcl σ.sh.t + s) % 12))), (1, .int (iI s)), (0, .ref A.m)]) C dX4_transpose_152 rfl (by rw [hnL]; decide) rfl ?_
            have hbn : (b : Int) = if k + 1 = 13 then (if (hsg σ.sh.t σ.sh.m s) = 6 ∧ σ.fl = 1 then -6 else (hsg σ.sh.t σ.sh.m s)) else if (if 0 < (hsg σ.sh.t σ.sh.m s) then 2 * (hsg σ.sh.t σ.sh.m s) - 1 else -2 * (hsg σ.sh.t σ.sh.m s)) < k + 1 then (hsg σ.sh.t σ.sh.m s) else 100 := by
              have hb2 := hb
              rw [if_neg (by omega)] at hb2
              by_cases z : k ≤ 11
              · have := hg1 z; rw [if_neg (by omega)]; (repeat' split at hb2) <;> (repeat' split) <;> omega
              · have := hg2 (by omega); rw [if_pos (by omega)]; (repeat' split at hb2) <;> (repeat' split) <;> omega
            refine z_iinc (pc := 153) (k := 4) (L' := [(4, .int (iI (k + 1))), (3, .int (iI b)), (7, .int (iI 1)), (6, .int (iI 0)), (5, .int (iI (sgk k))), (2, .int (iI ((pcl σ.sh.t + s) % 12))), (1, .int (iI s)), (0, .ref A.m)]) C dX4_transpose_153 rfl (by rw [hnL]; decide) rfl ?_
            refine z_goto (pc := 156) (tgt := 47) C dX4_transpose_156 (by decide) ?_
            refine Z.weak (L' := [(4, .int (iI (k + 1))), (3, .int (iI b)), (2, .int (iI ((pcl σ.sh.t + s) % 12))), (1, .int (iI s)), (0, .ref A.m)]) (kc' := 0) (ks' := 0) [0, 1, 5, 6, 7] rfl (by omega) (by omega) ?_
            exact ih47 _ (by omega) (k + 1) b g47 ⟨gm_7, gv_7, gpa_7, gtx_7, gma_7, gna_7, gua_7, gla_7, gle_7, gqa_7, gd_7⟩ hkp47 (by omega) hbn rfl
          · refine z_iload (pc := 109) (j := 1) C dX4_transpose_109 rfl ?_
            refine z_bipush (pc := 111) C dX4_transpose_111 (by decide) ?_
            refine z_icmp_ne (pc := 113) (tgt := 133) C dX4_transpose_113 (by decide) (by omega) (by decide) (fun c113 => ?_) (fun c113 => ?_)
            · refine z_iconst (pc := 133) C dX4_transpose_133 ?_
              refine z_istore (pc := 134) (L' := [(7, .int (iI 0)), (6, .int (iI 0)), (5, .int (iI (sgk k))), (4, .int (iI k)), (3, .int (iI b)), (2, .int (iI ((pcl σ.sh.t + s) % 12))), (1, .int (iI s)), (0, .ref A.m)]) C dX4_transpose_134 (by rw [hnL]; decide) rfl ?_
              refine z_iload (pc := 136) (j := 1) C dX4_transpose_136 rfl ?_
              refine z_if_eq (pc := 138) (tgt := 151) C dX4_transpose_138 (by decide) (by decide) (fun _ => ?_) (fun z => absurd z (by decide))
              refine z_iload_n (pc := 151) (j := 4) C dX4_transpose_151 rfl rfl ?_
              refine z_istore_n (pc := 152) (L' := [(3, .int (iI b)), (7, .int (iI 0)), (6, .int (iI 0)), (5, .int (iI (sgk k))), (4, .int (iI k)), (2, .int (iI ((pcl σ.sh.t + s) % 12))), (1, .int (iI s)), (0, .ref A.m)]) C dX4_transpose_152 rfl (by rw [hnL]; decide) rfl ?_
              have hbn : (b : Int) = if k + 1 = 13 then (if (hsg σ.sh.t σ.sh.m s) = 6 ∧ σ.fl = 1 then -6 else (hsg σ.sh.t σ.sh.m s)) else if (if 0 < (hsg σ.sh.t σ.sh.m s) then 2 * (hsg σ.sh.t σ.sh.m s) - 1 else -2 * (hsg σ.sh.t σ.sh.m s)) < k + 1 then (hsg σ.sh.t σ.sh.m s) else 100 := by
                have hb2 := hb
                rw [if_neg (by omega)] at hb2
                by_cases z : k ≤ 11
                · have := hg1 z; rw [if_neg (by omega)]; (repeat' split at hb2) <;> (repeat' split) <;> omega
                · have := hg2 (by omega); rw [if_pos (by omega)]; (repeat' split at hb2) <;> (repeat' split) <;> omega
              refine z_iinc (pc := 153) (k := 4) (L' := [(4, .int (iI (k + 1))), (3, .int (iI b)), (7, .int (iI 0)), (6, .int (iI 0)), (5, .int (iI (sgk k))), (2, .int (iI ((pcl σ.sh.t + s) % 12))), (1, .int (iI s)), (0, .ref A.m)]) C dX4_transpose_153 rfl (by rw [hnL]; decide) rfl ?_
              refine z_goto (pc := 156) (tgt := 47) C dX4_transpose_156 (by decide) ?_
              refine Z.weak (L' := [(4, .int (iI (k + 1))), (3, .int (iI b)), (2, .int (iI ((pcl σ.sh.t + s) % 12))), (1, .int (iI s)), (0, .ref A.m)]) (kc' := 0) (ks' := 0) [0, 1, 5, 6, 7] rfl (by omega) (by omega) ?_
              exact ih47 _ (by omega) (k + 1) b g47 ⟨gm_7, gv_7, gpa_7, gtx_7, gma_7, gna_7, gua_7, gla_7, gle_7, gqa_7, gd_7⟩ hkp47 (by omega) hbn rfl
            · refine z_iload_n (pc := 116) (j := 3) C dX4_transpose_116 rfl rfl ?_
              refine z_bipush (pc := 117) C dX4_transpose_117 (by decide) ?_
              refine z_icmp_ne (pc := 119) (tgt := 133) C dX4_transpose_119 (by decide) (by omega) (by decide) (fun c119 => ?_) (fun c119 => ?_)
              · refine z_iconst (pc := 133) C dX4_transpose_133 ?_
                refine z_istore (pc := 134) (L' := [(7, .int (iI 0)), (6, .int (iI 0)), (5, .int (iI (sgk k))), (4, .int (iI k)), (3, .int (iI b)), (2, .int (iI ((pcl σ.sh.t + s) % 12))), (1, .int (iI s)), (0, .ref A.m)]) C dX4_transpose_134 (by rw [hnL]; decide) rfl ?_
                refine z_iload (pc := 136) (j := 1) C dX4_transpose_136 rfl ?_
                refine z_if_eq (pc := 138) (tgt := 151) C dX4_transpose_138 (by decide) (by decide) (fun _ => ?_) (fun z => absurd z (by decide))
                refine z_iload_n (pc := 151) (j := 4) C dX4_transpose_151 rfl rfl ?_
                refine z_istore_n (pc := 152) (L' := [(3, .int (iI b)), (7, .int (iI 0)), (6, .int (iI 0)), (5, .int (iI (sgk k))), (4, .int (iI k)), (2, .int (iI ((pcl σ.sh.t + s) % 12))), (1, .int (iI s)), (0, .ref A.m)]) C dX4_transpose_152 rfl (by rw [hnL]; decide) rfl ?_
                have hbn : (b : Int) = if k + 1 = 13 then (if (hsg σ.sh.t σ.sh.m s) = 6 ∧ σ.fl = 1 then -6 else (hsg σ.sh.t σ.sh.m s)) else if (if 0 < (hsg σ.sh.t σ.sh.m s) then 2 * (hsg σ.sh.t σ.sh.m s) - 1 else -2 * (hsg σ.sh.t σ.sh.m s)) < k + 1 then (hsg σ.sh.t σ.sh.m s) else 100 := by
                  have hb2 := hb
                  rw [if_neg (by omega)] at hb2
                  by_cases z : k ≤ 11
                  · have := hg1 z; rw [if_neg (by omega)]; (repeat' split at hb2) <;> (repeat' split) <;> omega
                  · have := hg2 (by omega); rw [if_pos (by omega)]; (repeat' split at hb2) <;> (repeat' split) <;> omega
                refine z_iinc (pc := 153) (k := 4) (L' := [(4, .int (iI (k + 1))), (3, .int (iI b)), (7, .int (iI 0)), (6, .int (iI 0)), (5, .int (iI (sgk k))), (2, .int (iI ((pcl σ.sh.t + s) % 12))), (1, .int (iI s)), (0, .ref A.m)]) C dX4_transpose_153 rfl (by rw [hnL]; decide) rfl ?_
                refine z_goto (pc := 156) (tgt := 47) C dX4_transpose_156 (by decide) ?_
                refine Z.weak (L' := [(4, .int (iI (k + 1))), (3, .int (iI b)), (2, .int (iI ((pcl σ.sh.t + s) % 12))), (1, .int (iI s)), (0, .ref A.m)]) (kc' := 0) (ks' := 0) [0, 1, 5, 6, 7] rfl (by omega) (by omega) ?_
                exact ih47 _ (by omega) (k + 1) b g47 ⟨gm_7, gv_7, gpa_7, gtx_7, gma_7, gna_7, gua_7, gla_7, gle_7, gqa_7, gd_7⟩ hkp47 (by omega) hbn rfl
              · refine z_aload_n (pc := 122) (j := 6) C dX4_transpose_122 rfl rfl ?_
                refine z_getfield (pc := 123) (v := .int (iI σ.fl)) C in_X4 rfl 6 (by decide) q2088 (fun _ z => z) gm_7 rfl dX4_transpose_123 ?_
                refine z_if_eq (pc := 126) (tgt := 133) C dX4_transpose_126 (by decide) (by omega) (fun c126 => ?_) (fun c126 => ?_)
                · refine z_iconst (pc := 133) C dX4_transpose_133 ?_
                  refine z_istore (pc := 134) (L' := [(7, .int (iI 0)), (6, .int (iI 0)), (5, .int (iI (sgk k))), (4, .int (iI k)), (3, .int (iI b)), (2, .int (iI ((pcl σ.sh.t + s) % 12))), (1, .int (iI s)), (0, .ref A.m)]) C dX4_transpose_134 (by rw [hnL]; decide) rfl ?_
                  refine z_iload (pc := 136) (j := 1) C dX4_transpose_136 rfl ?_
                  refine z_if_eq (pc := 138) (tgt := 151) C dX4_transpose_138 (by decide) (by decide) (fun _ => ?_) (fun z => absurd z (by decide))
                  refine z_iload_n (pc := 151) (j := 4) C dX4_transpose_151 rfl rfl ?_
                  refine z_istore_n (pc := 152) (L' := [(3, .int (iI b)), (7, .int (iI 0)), (6, .int (iI 0)), (5, .int (iI (sgk k))), (4, .int (iI k)), (2, .int (iI ((pcl σ.sh.t + s) % 12))), (1, .int (iI s)), (0, .ref A.m)]) C dX4_transpose_152 rfl (by rw [hnL]; decide) rfl ?_
                  have hbn : (b : Int) = if k + 1 = 13 then (if (hsg σ.sh.t σ.sh.m s) = 6 ∧ σ.fl = 1 then -6 else (hsg σ.sh.t σ.sh.m s)) else if (if 0 < (hsg σ.sh.t σ.sh.m s) then 2 * (hsg σ.sh.t σ.sh.m s) - 1 else -2 * (hsg σ.sh.t σ.sh.m s)) < k + 1 then (hsg σ.sh.t σ.sh.m s) else 100 := by
                    have hb2 := hb
                    rw [if_neg (by omega)] at hb2
                    by_cases z : k ≤ 11
                    · have := hg1 z; rw [if_neg (by omega)]; (repeat' split at hb2) <;> (repeat' split) <;> omega
                    · have := hg2 (by omega); rw [if_pos (by omega)]; (repeat' split at hb2) <;> (repeat' split) <;> omega
                  refine z_iinc (pc := 153) (k := 4) (L' := [(4, .int (iI (k + 1))), (3, .int (iI b)), (7, .int (iI 0)), (6, .int (iI 0)), (5, .int (iI (sgk k))), (2, .int (iI ((pcl σ.sh.t + s) % 12))), (1, .int (iI s)), (0, .ref A.m)]) C dX4_transpose_153 rfl (by rw [hnL]; decide) rfl ?_
                  refine z_goto (pc := 156) (tgt := 47) C dX4_transpose_156 (by decide) ?_
                  refine Z.weak (L' := [(4, .int (iI (k + 1))), (3, .int (iI b)), (2, .int (iI ((pcl σ.sh.t + s) % 12))), (1, .int (iI s)), (0, .ref A.m)]) (kc' := 0) (ks' := 0) [0, 1, 5, 6, 7] rfl (by omega) (by omega) ?_
                  exact ih47 _ (by omega) (k + 1) b g47 ⟨gm_7, gv_7, gpa_7, gtx_7, gma_7, gna_7, gua_7, gla_7, gle_7, gqa_7, gd_7⟩ hkp47 (by omega) hbn rfl
                · refine z_iconst (pc := 129) C dX4_transpose_129 ?_
                  refine z_goto (pc := 130) (tgt := 134) C dX4_transpose_130 (by decide) ?_
                  refine z_istore (pc := 134) (L' := [(7, .int (iI 1)), (6, .int (iI 0)), (5, .int (iI (sgk k))), (4, .int (iI k)), (3, .int (iI b)), (2, .int (iI ((pcl σ.sh.t + s) % 12))), (1, .int (iI s)), (0, .ref A.m)]) C dX4_transpose_134 (by rw [hnL]; decide) rfl ?_
                  refine z_iload (pc := 136) (j := 1) C dX4_transpose_136 rfl ?_
                  refine z_if_eq (pc := 138) (tgt := 151) C dX4_transpose_138 (by decide) (by decide) (fun _ => ?_) (fun z => absurd z (by decide))
                  refine z_iload_n (pc := 151) (j := 4) C dX4_transpose_151 rfl rfl ?_
                  refine z_istore_n (pc := 152) (L' := [(3, .int (iI b)), (7, .int (iI 1)), (6, .int (iI 0)), (5, .int (iI (sgk k))), (4, .int (iI k)), (2, .int (iI ((pcl σ.sh.t + s) % 12))), (1, .int (iI s)), (0, .ref A.m)]) C dX4_transpose_152 rfl (by rw [hnL]; decide) rfl ?_
                  have hbn : (b : Int) = if k + 1 = 13 then (if (hsg σ.sh.t σ.sh.m s) = 6 ∧ σ.fl = 1 then -6 else (hsg σ.sh.t σ.sh.m s)) else if (if 0 < (hsg σ.sh.t σ.sh.m s) then 2 * (hsg σ.sh.t σ.sh.m s) - 1 else -2 * (hsg σ.sh.t σ.sh.m s)) < k + 1 then (hsg σ.sh.t σ.sh.m s) else 100 := by
                    have hb2 := hb
                    rw [if_neg (by omega)] at hb2
                    by_cases z : k ≤ 11
                    · have := hg1 z; rw [if_neg (by omega)]; (repeat' split at hb2) <;> (repeat' split) <;> omega
                    · have := hg2 (by omega); rw [if_pos (by omega)]; (repeat' split at hb2) <;> (repeat' split) <;> omega
                  refine z_iinc (pc := 153) (k := 4) (L' := [(4, .int (iI (k + 1))), (3, .int (iI b)), (7, .int (iI 1)), (6, .int (iI 0)), (5, .int (iI (sgk k))), (2, .int (iI ((pcl σ.sh.t + s) % 12))), (1, .int (iI s)), (0, .ref A.m)]) C dX4_transpose_153 rfl (by rw [hnL]; decide) rfl ?_
                  refine z_goto (pc := 156) (tgt := 47) C dX4_transpose_156 (by decide) ?_
                  refine Z.weak (L' := [(4, .int (iI (k + 1))), (3, .int (iI b)), (2, .int (iI ((pcl σ.sh.t + s) % 12))), (1, .int (iI s)), (0, .ref A.m)]) (kc' := 0) (ks' := 0) [0, 1, 5, 6, 7] rfl (by omega) (by omega) ?_
                  exact ih47 _ (by omega) (k + 1) b g47 ⟨gm_7, gv_7, gpa_7, gtx_7, gma_7, gna_7, gua_7, gla_7, gle_7, gqa_7, gd_7⟩ hkp47 (by omega) hbn rfl
        · refine z_iconst (pc := 96) C dX4_transpose_96 ?_
          refine z_goto (pc := 97) (tgt := 101) C dX4_transpose_97 (by decide) ?_
          refine z_istore (pc := 101) (L' := [(6, .int (iI 1)), (5, .int (iI (sgk k))), (4, .int (iI k)), (3, .int (iI b)), (2, .int (iI ((pcl σ.sh.t + s) % 12))), (1, .int (iI s)), (0, .ref A.m)]) C dX4_transpose_101 (by rw [hnL]; decide) rfl ?_
          refine z_iload_n (pc := 103) (j := 3) C dX4_transpose_103 rfl rfl ?_
          refine z_bipush (pc := 104) C dX4_transpose_104 (by decide) ?_
          refine z_icmp_eq (pc := 106) (tgt := 129) C dX4_transpose_106 (by decide) (by omega) (by decide) (fun c106 => ?_) (fun c106 => ?_)
          · refine z_iconst (pc := 129) C dX4_transpose_129 ?_
            refine z_goto (pc := 130) (tgt := 134) C dX4_transpose_130 (by decide) ?_
            refine z_istore (pc := 134) (L' := [(7, .int (iI 1)), (6, .int (iI 1)), (5, .int (iI (sgk k))), (4, .int (iI k)), (3, .int (iI b)), (2, .int (iI ((pcl σ.sh.t + s) % 12))), (1, .int (iI s)), (0, .ref A.m)]) C dX4_transpose_134 (by rw [hnL]; decide) rfl ?_
            refine z_iload (pc := 136) (j := 1) C dX4_transpose_136 rfl ?_
            refine z_if_eq (pc := 138) (tgt := 151) C dX4_transpose_138 (by decide) (by decide) (fun z => absurd z (by decide)) (fun _ => ?_)
            refine z_iload (pc := 141) (j := 0) C dX4_transpose_141 rfl ?_
            refine z_if_eq (pc := 143) (tgt := 151) C dX4_transpose_143 (by decide) (by decide) (fun z => absurd z (by decide)) (fun _ => ?_)
            refine z_iload (pc := 146) (j := 2) C dX4_transpose_146 rfl ?_
            refine z_goto (pc := 148) (tgt := 152) C dX4_transpose_148 (by decide) ?_
            refine z_istore_n (pc := 152) (L' := [(3, .int (iI (sgk k))), (7, .int (iI 1)), (6, .int (iI 1)), (5, .int (iI (sgk k))), (4, .int (iI k)), (2, .int (iI ((pcl σ.sh.t + s) % 12))), (1, .int (iI s)), (0, .ref A.m)]) C dX4_transpose_152 rfl (by rw [hnL]; decide) rfl ?_
            have hbn : (sgk k : Int) = if k + 1 = 13 then (if (hsg σ.sh.t σ.sh.m s) = 6 ∧ σ.fl = 1 then -6 else (hsg σ.sh.t σ.sh.m s)) else if (if 0 < (hsg σ.sh.t σ.sh.m s) then 2 * (hsg σ.sh.t σ.sh.m s) - 1 else -2 * (hsg σ.sh.t σ.sh.m s)) < k + 1 then (hsg σ.sh.t σ.sh.m s) else 100 := by
              have hb2 := hb
              rw [if_neg (by omega)] at hb2
              by_cases z : k ≤ 11
              · have := hg1 z; rw [if_neg (by omega)]; (repeat' split at hb2) <;> (repeat' split) <;> omega
              · have := hg2 (by omega); rw [if_pos (by omega)]; (repeat' split at hb2) <;> (repeat' split) <;> omega
            refine z_iinc (pc := 153) (k := 4) (L' := [(4, .int (iI (k + 1))), (3, .int (iI (sgk k))), (7, .int (iI 1)), (6, .int (iI 1)), (5, .int (iI (sgk k))), (2, .int (iI ((pcl σ.sh.t + s) % 12))), (1, .int (iI s)), (0, .ref A.m)]) C dX4_transpose_153 rfl (by rw [hnL]; decide) rfl ?_
            refine z_goto (pc := 156) (tgt := 47) C dX4_transpose_156 (by decide) ?_
            refine Z.weak (L' := [(4, .int (iI (k + 1))), (3, .int (iI (sgk k))), (2, .int (iI ((pcl σ.sh.t + s) % 12))), (1, .int (iI s)), (0, .ref A.m)]) (kc' := 0) (ks' := 0) [0, 1, 5, 6, 7] rfl (by omega) (by omega) ?_
            exact ih47 _ (by omega) (k + 1) (sgk k) g47 ⟨gm_7, gv_7, gpa_7, gtx_7, gma_7, gna_7, gua_7, gla_7, gle_7, gqa_7, gd_7⟩ hkp47 (by omega) hbn rfl
          · refine z_iload (pc := 109) (j := 1) C dX4_transpose_109 rfl ?_
            refine z_bipush (pc := 111) C dX4_transpose_111 (by decide) ?_
            refine z_icmp_ne (pc := 113) (tgt := 133) C dX4_transpose_113 (by decide) (by omega) (by decide) (fun c113 => ?_) (fun c113 => ?_)
            · refine z_iconst (pc := 133) C dX4_transpose_133 ?_
              refine z_istore (pc := 134) (L' := [(7, .int (iI 0)), (6, .int (iI 1)), (5, .int (iI (sgk k))), (4, .int (iI k)), (3, .int (iI b)), (2, .int (iI ((pcl σ.sh.t + s) % 12))), (1, .int (iI s)), (0, .ref A.m)]) C dX4_transpose_134 (by rw [hnL]; decide) rfl ?_
              refine z_iload (pc := 136) (j := 1) C dX4_transpose_136 rfl ?_
              refine z_if_eq (pc := 138) (tgt := 151) C dX4_transpose_138 (by decide) (by decide) (fun z => absurd z (by decide)) (fun _ => ?_)
              refine z_iload (pc := 141) (j := 0) C dX4_transpose_141 rfl ?_
              refine z_if_eq (pc := 143) (tgt := 151) C dX4_transpose_143 (by decide) (by decide) (fun _ => ?_) (fun z => absurd z (by decide))
              refine z_iload_n (pc := 151) (j := 4) C dX4_transpose_151 rfl rfl ?_
              refine z_istore_n (pc := 152) (L' := [(3, .int (iI b)), (7, .int (iI 0)), (6, .int (iI 1)), (5, .int (iI (sgk k))), (4, .int (iI k)), (2, .int (iI ((pcl σ.sh.t + s) % 12))), (1, .int (iI s)), (0, .ref A.m)]) C dX4_transpose_152 rfl (by rw [hnL]; decide) rfl ?_
              have hbn : (b : Int) = if k + 1 = 13 then (if (hsg σ.sh.t σ.sh.m s) = 6 ∧ σ.fl = 1 then -6 else (hsg σ.sh.t σ.sh.m s)) else if (if 0 < (hsg σ.sh.t σ.sh.m s) then 2 * (hsg σ.sh.t σ.sh.m s) - 1 else -2 * (hsg σ.sh.t σ.sh.m s)) < k + 1 then (hsg σ.sh.t σ.sh.m s) else 100 := by
                have hb2 := hb
                rw [if_neg (by omega)] at hb2
                by_cases z : k ≤ 11
                · have := hg1 z; rw [if_neg (by omega)]; (repeat' split at hb2) <;> (repeat' split) <;> omega
                · have := hg2 (by omega); rw [if_pos (by omega)]; (repeat' split at hb2) <;> (repeat' split) <;> omega
              refine z_iinc (pc := 153) (k := 4) (L' := [(4, .int (iI (k + 1))), (3, .int (iI b)), (7, .int (iI 0)), (6, .int (iI 1)), (5, .int (iI (sgk k))), (2, .int (iI ((pcl σ.sh.t + s) % 12))), (1, .int (iI s)), (0, .ref A.m)]) C dX4_transpose_153 rfl (by rw [hnL]; decide) rfl ?_
              refine z_goto (pc := 156) (tgt := 47) C dX4_transpose_156 (by decide) ?_
              refine Z.weak (L' := [(4, .int (iI (k + 1))), (3, .int (iI b)), (2, .int (iI ((pcl σ.sh.t + s) % 12))), (1, .int (iI s)), (0, .ref A.m)]) (kc' := 0) (ks' := 0) [0, 1, 5, 6, 7] rfl (by omega) (by omega) ?_
              exact ih47 _ (by omega) (k + 1) b g47 ⟨gm_7, gv_7, gpa_7, gtx_7, gma_7, gna_7, gua_7, gla_7, gle_7, gqa_7, gd_7⟩ hkp47 (by omega) hbn rfl
            · refine z_iload_n (pc := 116) (j := 3) C dX4_transpose_116 rfl rfl ?_
              refine z_bipush (pc := 117) C dX4_transpose_117 (by decide) ?_
              refine z_icmp_ne (pc := 119) (tgt := 133) C dX4_transpose_119 (by decide) (by omega) (by decide) (fun c119 => ?_) (fun c119 => ?_)
              · refine z_iconst (pc := 133) C dX4_transpose_133 ?_
                refine z_istore (pc := 134) (L' := [(7, .int (iI 0)), (6, .int (iI 1)), (5, .int (iI (sgk k))), (4, .int (iI k)), (3, .int (iI b)), (2, .int (iI ((pcl σ.sh.t + s) % 12))), (1, .int (iI s)), (0, .ref A.m)]) C dX4_transpose_134 (by rw [hnL]; decide) rfl ?_
                refine z_iload (pc := 136) (j := 1) C dX4_transpose_136 rfl ?_
                refine z_if_eq (pc := 138) (tgt := 151) C dX4_transpose_138 (by decide) (by decide) (fun z => absurd z (by decide)) (fun _ => ?_)
                refine z_iload (pc := 141) (j := 0) C dX4_transpose_141 rfl ?_
                refine z_if_eq (pc := 143) (tgt := 151) C dX4_transpose_143 (by decide) (by decide) (fun _ => ?_) (fun z => absurd z (by decide))
                refine z_iload_n (pc := 151) (j := 4) C dX4_transpose_151 rfl rfl ?_
                refine z_istore_n (pc := 152) (L' := [(3, .int (iI b)), (7, .int (iI 0)), (6, .int (iI 1)), (5, .int (iI (sgk k))), (4, .int (iI k)), (2, .int (iI ((pcl σ.sh.t + s) % 12))), (1, .int (iI s)), (0, .ref A.m)]) C dX4_transpose_152 rfl (by rw [hnL]; decide) rfl ?_
                have hbn : (b : Int) = if k + 1 = 13 then (if (hsg σ.sh.t σ.sh.m s) = 6 ∧ σ.fl = 1 then -6 else (hsg σ.sh.t σ.sh.m s)) else if (if 0 < (hsg σ.sh.t σ.sh.m s) then 2 * (hsg σ.sh.t σ.sh.m s) - 1 else -2 * (hsg σ.sh.t σ.sh.m s)) < k + 1 then (hsg σ.sh.t σ.sh.m s) else 100 := by
                  have hb2 := hb
                  rw [if_neg (by omega)] at hb2
                  by_cases z : k ≤ 11
                  · have := hg1 z; rw [if_neg (by omega)]; (repeat' split at hb2) <;> (repeat' split) <;> omega
                  · have := hg2 (by omega); rw [if_pos (by omega)]; (repeat' split at hb2) <;> (repeat' split) <;> omega
                refine z_iinc (pc := 153) (k := 4) (L' := [(4, .int (iI (k + 1))), (3, .int (iI b)), (7, .int (iI 0)), (6, .int (iI 1)), (5, .int (iI (sgk k))), (2, .int (iI ((pcl σ.sh.t + s) % 12))), (1, .int (iI s)), (0, .ref A.m)]) C dX4_transpose_153 rfl (by rw [hnL]; decide) rfl ?_
                refine z_goto (pc := 156) (tgt := 47) C dX4_transpose_156 (by decide) ?_
                refine Z.weak (L' := [(4, .int (iI (k + 1))), (3, .int (iI b)), (2, .int (iI ((pcl σ.sh.t + s) % 12))), (1, .int (iI s)), (0, .ref A.m)]) (kc' := 0) (ks' := 0) [0, 1, 5, 6, 7] rfl (by omega) (by omega) ?_
                exact ih47 _ (by omega) (k + 1) b g47 ⟨gm_7, gv_7, gpa_7, gtx_7, gma_7, gna_7, gua_7, gla_7, gle_7, gqa_7, gd_7⟩ hkp47 (by omega) hbn rfl
              · refine z_aload_n (pc := 122) (j := 6) C dX4_transpose_122 rfl rfl ?_
                refine z_getfield (pc := 123) (v := .int (iI σ.fl)) C in_X4 rfl 6 (by decide) q2088 (fun _ z => z) gm_7 rfl dX4_transpose_123 ?_
                refine z_if_eq (pc := 126) (tgt := 133) C dX4_transpose_126 (by decide) (by omega) (fun c126 => ?_) (fun c126 => ?_)
                · refine z_iconst (pc := 133) C dX4_transpose_133 ?_
                  refine z_istore (pc := 134) (L' := [(7, .int (iI 0)), (6, .int (iI 1)), (5, .int (iI (sgk k))), (4, .int (iI k)), (3, .int (iI b)), (2, .int (iI ((pcl σ.sh.t + s) % 12))), (1, .int (iI s)), (0, .ref A.m)]) C dX4_transpose_134 (by rw [hnL]; decide) rfl ?_
                  refine z_iload (pc := 136) (j := 1) C dX4_transpose_136 rfl ?_
                  refine z_if_eq (pc := 138) (tgt := 151) C dX4_transpose_138 (by decide) (by decide) (fun z => absurd z (by decide)) (fun _ => ?_)
                  refine z_iload (pc := 141) (j := 0) C dX4_transpose_141 rfl ?_
                  refine z_if_eq (pc := 143) (tgt := 151) C dX4_transpose_143 (by decide) (by decide) (fun _ => ?_) (fun z => absurd z (by decide))
                  refine z_iload_n (pc := 151) (j := 4) C dX4_transpose_151 rfl rfl ?_
                  refine z_istore_n (pc := 152) (L' := [(3, .int (iI b)), (7, .int (iI 0)), (6, .int (iI 1)), (5, .int (iI (sgk k))), (4, .int (iI k)), (2, .int (iI ((pcl σ.sh.t + s) % 12))), (1, .int (iI s)), (0, .ref A.m)]) C dX4_transpose_152 rfl (by rw [hnL]; decide) rfl ?_
                  have hbn : (b : Int) = if k + 1 = 13 then (if (hsg σ.sh.t σ.sh.m s) = 6 ∧ σ.fl = 1 then -6 else (hsg σ.sh.t σ.sh.m s)) else if (if 0 < (hsg σ.sh.t σ.sh.m s) then 2 * (hsg σ.sh.t σ.sh.m s) - 1 else -2 * (hsg σ.sh.t σ.sh.m s)) < k + 1 then (hsg σ.sh.t σ.sh.m s) else 100 := by
                    have hb2 := hb
                    rw [if_neg (by omega)] at hb2
                    by_cases z : k ≤ 11
                    · have := hg1 z; rw [if_neg (by omega)]; (repeat' split at hb2) <;> (repeat' split) <;> omega
                    · have := hg2 (by omega); rw [if_pos (by omega)]; (repeat' split at hb2) <;> (repeat' split) <;> omega
                  refine z_iinc (pc := 153) (k := 4) (L' := [(4, .int (iI (k + 1))), (3, .int (iI b)), (7, .int (iI 0)), (6, .int (iI 1)), (5, .int (iI (sgk k))), (2, .int (iI ((pcl σ.sh.t + s) % 12))), (1, .int (iI s)), (0, .ref A.m)]) C dX4_transpose_153 rfl (by rw [hnL]; decide) rfl ?_
                  refine z_goto (pc := 156) (tgt := 47) C dX4_transpose_156 (by decide) ?_
                  refine Z.weak (L' := [(4, .int (iI (k + 1))), (3, .int (iI b)), (2, .int (iI ((pcl σ.sh.t + s) % 12))), (1, .int (iI s)), (0, .ref A.m)]) (kc' := 0) (ks' := 0) [0, 1, 5, 6, 7] rfl (by omega) (by omega) ?_
                  exact ih47 _ (by omega) (k + 1) b g47 ⟨gm_7, gv_7, gpa_7, gtx_7, gma_7, gna_7, gua_7, gla_7, gle_7, gqa_7, gd_7⟩ hkp47 (by omega) hbn rfl
                · refine z_iconst (pc := 129) C dX4_transpose_129 ?_
                  refine z_goto (pc := 130) (tgt := 134) C dX4_transpose_130 (by decide) ?_
                  refine z_istore (pc := 134) (L' := [(7, .int (iI 1)), (6, .int (iI 1)), (5, .int (iI (sgk k))), (4, .int (iI k)), (3, .int (iI b)), (2, .int (iI ((pcl σ.sh.t + s) % 12))), (1, .int (iI s)), (0, .ref A.m)]) C dX4_transpose_134 (by rw [hnL]; decide) rfl ?_
                  refine z_iload (pc := 136) (j := 1) C dX4_transpose_136 rfl ?_
                  refine z_if_eq (pc := 138) (tgt := 151) C dX4_transpose_138 (by decide) (by decide) (fun z => absurd z (by decide)) (fun _ => ?_)
                  refine z_iload (pc := 141) (j := 0) C dX4_transpose_141 rfl ?_
                  refine z_if_eq (pc := 143) (tgt := 151) C dX4_transpose_143 (by decide) (by decide) (fun z => absurd z (by decide)) (fun _ => ?_)
                  refine z_iload (pc := 146) (j := 2) C dX4_transpose_146 rfl ?_
                  refine z_goto (pc := 148) (tgt := 152) C dX4_transpose_148 (by decide) ?_
                  refine z_istore_n (pc := 152) (L' := [(3, .int (iI (sgk k))), (7, .int (iI 1)), (6, .int (iI 1)), (5, .int (iI (sgk k))), (4, .int (iI k)), (2, .int (iI ((pcl σ.sh.t + s) % 12))), (1, .int (iI s)), (0, .ref A.m)]) C dX4_transpose_152 rfl (by rw [hnL]; decide) rfl ?_
                  have hbn : (sgk k : Int) = if k + 1 = 13 then (if (hsg σ.sh.t σ.sh.m s) = 6 ∧ σ.fl = 1 then -6 else (hsg σ.sh.t σ.sh.m s)) else if (if 0 < (hsg σ.sh.t σ.sh.m s) then 2 * (hsg σ.sh.t σ.sh.m s) - 1 else -2 * (hsg σ.sh.t σ.sh.m s)) < k + 1 then (hsg σ.sh.t σ.sh.m s) else 100 := by
                    have hb2 := hb
                    rw [if_neg (by omega)] at hb2
                    by_cases z : k ≤ 11
                    · have := hg1 z; rw [if_neg (by omega)]; (repeat' split at hb2) <;> (repeat' split) <;> omega
                    · have := hg2 (by omega); rw [if_pos (by omega)]; (repeat' split at hb2) <;> (repeat' split) <;> omega
                  refine z_iinc (pc := 153) (k := 4) (L' := [(4, .int (iI (k + 1))), (3, .int (iI (sgk k))), (7, .int (iI 1)), (6, .int (iI 1)), (5, .int (iI (sgk k))), (2, .int (iI ((pcl σ.sh.t + s) % 12))), (1, .int (iI s)), (0, .ref A.m)]) C dX4_transpose_153 rfl (by rw [hnL]; decide) rfl ?_
                  refine z_goto (pc := 156) (tgt := 47) C dX4_transpose_156 (by decide) ?_
                  refine Z.weak (L' := [(4, .int (iI (k + 1))), (3, .int (iI (sgk k))), (2, .int (iI ((pcl σ.sh.t + s) % 12))), (1, .int (iI s)), (0, .ref A.m)]) (kc' := 0) (ks' := 0) [0, 1, 5, 6, 7] rfl (by omega) (by omega) ?_
                  exact ih47 _ (by omega) (k + 1) (sgk k) g47 ⟨gm_7, gv_7, gpa_7, gtx_7, gma_7, gna_7, gua_7, gla_7, gle_7, gqa_7, gd_7⟩ hkp47 (by omega) hbn rfl
      · refine z_iload (pc := 62) (j := 0) C dX4_transpose_62 rfl ?_
        refine z_iconst (pc := 64) C dX4_transpose_64 ?_
        refine z_idivI (pc := 65) C dX4_transpose_65 (by omega) (by decide) ?_
        refine z_iconst (pc := 66) C dX4_transpose_66 ?_
        refine z_iadd (pc := 67) C dX4_transpose_67 ?_
        refine z_goto (pc := 68) (tgt := 76) C dX4_transpose_68 (by decide) ?_
        rw [show ((k.tdiv 2) + 1 : Int) = sgk k by unfold sgk; rw [Int.tdiv_eq_ediv_of_nonneg (by omega)]; split <;> omega]
        show Z X g47 0 0 [(4, .int (iI k)), (3, .int (iI b)), (2, .int (iI ((pcl σ.sh.t + s) % 12))), (1, .int (iI s)), (0, .ref A.m)] 76 [.int (iI (sgk k))]
        refine z_istore (pc := 76) (L' := [(5, .int (iI (sgk k))), (4, .int (iI k)), (3, .int (iI b)), (2, .int (iI ((pcl σ.sh.t + s) % 12))), (1, .int (iI s)), (0, .ref A.m)]) C dX4_transpose_76 (by rw [hnL]; decide) rfl ?_
        have hg0 := hsg_r σ.sh.t σ.sh.m s
        have hsk := sgk_e (k := k)
        have hg1 : k ≤ 11 → (pcl (sgk k + 3 * σ.sh.m) = (pcl σ.sh.t + s) % 12 ↔ sgk k = (hsg σ.sh.t σ.sh.m s)) := fun z => hsg_p rkm (by omega)
        have hg2 : k = 12 → (pcl (sgk k + 3 * σ.sh.m) = (pcl σ.sh.t + s) % 12 ↔ (hsg σ.sh.t σ.sh.m s) = 6) := fun z => by rw [show sgk k = -6 by omega]; exact hsg_6 rkm
        refine z_iload (pc := 78) (j := 0) C dX4_transpose_78 rfl ?_
        refine z_iconst (pc := 80) C dX4_transpose_80 ?_
        refine z_aload_n (pc := 81) (j := 5) C dX4_transpose_81 rfl rfl ?_
        refine z_getfield (pc := 82) (v := .ref A.v) C in_X4 rfl 0 (by decide) q2082 (fun _ z => z) gm_7 rfl dX4_transpose_82 ?_
        refine z_iconst (pc := 85) C dX4_transpose_85 ?_
        refine z_iaload (pc := 86) (v := .int (iI σ.sh.m)) C gv_7 (by omega) (mA_e (vE hS.2.2.2.1 (by omega))) dX4_transpose_86 ?_
        refine z_imul (pc := 87) C dX4_transpose_87 ?_
        refine z_iadd (pc := 88) C dX4_transpose_88 ?_
        refine z_callS (pc := 89) (n := 1) (kc' := 0) (ks' := 0) C (m_pitch C.t (x := (sgk k) + (3 * σ.sh.m)) (by omega)) (lw_S q2218 q2219 q74 q2220) (by decide +kernel) ⟨by decide, by decide⟩ rfl rfl (Nat.le_of_ble_eq_true rfl) dX4_transpose_89 (by omega) (by omega) (zpk (st' := [.int (iI (pcl ((sgk k) + (3 * σ.sh.m))))]) rfl ?_) zrx
        have hpcl92 := pcl_r ((sgk k) + (3 * σ.sh.m))
        refine z_iload_n (pc := 92) (j := 3) C dX4_transpose_92 rfl rfl ?_
        refine z_icmp_ne (pc := 93) (tgt := 100) C dX4_transpose_93 (by decide) (by omega) (by omega) (fun c93 => ?_) (fun c93 => ?_)
        · refine z_iconst (pc := 100) C dX4_transpose_100 ?_
          refine z_istore (pc := 101) (L' := [(6, .int (iI 0)), (5, .int (iI (sgk k))), (4, .int (iI k)), (3, .int (iI b)), (2, .int (iI ((pcl σ.sh.t + s) % 12))), (1, .int (iI s)), (0, .ref A.m)]) C dX4_transpose_101 (by rw [hnL]; decide) rfl ?_
          refine z_iload_n (pc := 103) (j := 3) C dX4_transpose_103 rfl rfl ?_
          refine z_bipush (pc := 104) C dX4_transpose_104 (by decide) ?_
          refine z_icmp_eq (pc := 106) (tgt := 129) C dX4_transpose_106 (by decide) (by omega) (by decide) (fun c106 => ?_) (fun c106 => ?_)
          · refine z_iconst (pc := 129) C dX4_transpose_129 ?_
            refine z_goto (pc := 130) (tgt := 134) C dX4_transpose_130 (by decide) ?_
            refine z_istore (pc := 134) (L' := [(7, .int (iI 1)), (6, .int (iI 0)), (5, .int (iI (sgk k))), (4, .int (iI k)), (3, .int (iI b)), (2, .int (iI ((pcl σ.sh.t + s) % 12))), (1, .int (iI s)), (0, .ref A.m)]) C dX4_transpose_134 (by rw [hnL]; decide) rfl ?_
            refine z_iload (pc := 136) (j := 1) C dX4_transpose_136 rfl ?_
            refine z_if_eq (pc := 138) (tgt := 151) C dX4_transpose_138 (by decide) (by decide) (fun _ => ?_) (fun z => absurd z (by decide))
            refine z_iload_n (pc := 151) (j := 4) C dX4_transpose_151 rfl rfl ?_
            refine z_istore_n (pc := 152) (L' := [(3, .int (iI b)), (7, .int (iI 1)), (6, .int (iI 0)), (5, .int (iI (sgk k))), (4, .int (iI k)), (2, .int (iI ((pcl σ.sh.t + s) % 12))), (1, .int (iI s)), (0, .ref A.m)]) C dX4_transpose_152 rfl (by rw [hnL]; decide) rfl ?_
            have hbn : (b : Int) = if k + 1 = 13 then (if (hsg σ.sh.t σ.sh.m s) = 6 ∧ σ.fl = 1 then -6 else (hsg σ.sh.t σ.sh.m s)) else if (if 0 < (hsg σ.sh.t σ.sh.m s) then 2 * (hsg σ.sh.t σ.sh.m s) - 1 else -2 * (hsg σ.sh.t σ.sh.m s)) < k + 1 then (hsg σ.sh.t σ.sh.m s) else 100 := by
              have hb2 := hb
              rw [if_neg (by omega)] at hb2
              by_cases z : k ≤ 11
              · have := hg1 z; rw [if_neg (by omega)]; (repeat' split at hb2) <;> (repeat' split) <;> omega
              · have := hg2 (by omega); rw [if_pos (by omega)]; (repeat' split at hb2) <;> (repeat' split) <;> omega
            refine z_iinc (pc := 153) (k := 4) (L' := [(4, .int (iI (k + 1))), (3, .int (iI b)), (7, .int (iI 1)), (6, .int (iI 0)), (5, .int (iI (sgk k))), (2, .int (iI ((pcl σ.sh.t + s) % 12))), (1, .int (iI s)), (0, .ref A.m)]) C dX4_transpose_153 rfl (by rw [hnL]; decide) rfl ?_
            refine z_goto (pc := 156) (tgt := 47) C dX4_transpose_156 (by decide) ?_
            refine Z.weak (L' := [(4, .int (iI (k + 1))), (3, .int (iI b)), (2, .int (iI ((pcl σ.sh.t + s) % 12))), (1, .int (iI s)), (0, .ref A.m)]) (kc' := 0) (ks' := 0) [0, 1, 5, 6, 7] rfl (by omega) (by omega) ?_
            exact ih47 _ (by omega) (k + 1) b g47 ⟨gm_7, gv_7, gpa_7, gtx_7, gma_7, gna_7, gua_7, gla_7, gle_7, gqa_7, gd_7⟩ hkp47 (by omega) hbn rfl
          · refine z_iload (pc := 109) (j := 1) C dX4_transpose_109 rfl ?_
            refine z_bipush (pc := 111) C dX4_transpose_111 (by decide) ?_
            refine z_icmp_ne (pc := 113) (tgt := 133) C dX4_transpose_113 (by decide) (by omega) (by decide) (fun c113 => ?_) (fun c113 => ?_)
            · refine z_iconst (pc := 133) C dX4_transpose_133 ?_
              refine z_istore (pc := 134) (L' := [(7, .int (iI 0)), (6, .int (iI 0)), (5, .int (iI (sgk k))), (4, .int (iI k)), (3, .int (iI b)), (2, .int (iI ((pcl σ.sh.t + s) % 12))), (1, .int (iI s)), (0, .ref A.m)]) C dX4_transpose_134 (by rw [hnL]; decide) rfl ?_
              refine z_iload (pc := 136) (j := 1) C dX4_transpose_136 rfl ?_
              refine z_if_eq (pc := 138) (tgt := 151) C dX4_transpose_138 (by decide) (by decide) (fun _ => ?_) (fun z => absurd z (by decide))
              refine z_iload_n (pc := 151) (j := 4) C dX4_transpose_151 rfl rfl ?_
              refine z_istore_n (pc := 152) (L' := [(3, .int (iI b)), (7, .int (iI 0)), (6, .int (iI 0)), (5, .int (iI (sgk k))), (4, .int (iI k)), (2, .int (iI ((pcl σ.sh.t + s) % 12))), (1, .int (iI s)), (0, .ref A.m)]) C dX4_transpose_152 rfl (by rw [hnL]; decide) rfl ?_
              have hbn : (b : Int) = if k + 1 = 13 then (if (hsg σ.sh.t σ.sh.m s) = 6 ∧ σ.fl = 1 then -6 else (hsg σ.sh.t σ.sh.m s)) else if (if 0 < (hsg σ.sh.t σ.sh.m s) then 2 * (hsg σ.sh.t σ.sh.m s) - 1 else -2 * (hsg σ.sh.t σ.sh.m s)) < k + 1 then (hsg σ.sh.t σ.sh.m s) else 100 := by
                have hb2 := hb
                rw [if_neg (by omega)] at hb2
                by_cases z : k ≤ 11
                · have := hg1 z; rw [if_neg (by omega)]; (repeat' split at hb2) <;> (repeat' split) <;> omega
                · have := hg2 (by omega); rw [if_pos (by omega)]; (repeat' split at hb2) <;> (repeat' split) <;> omega
              refine z_iinc (pc := 153) (k := 4) (L' := [(4, .int (iI (k + 1))), (3, .int (iI b)), (7, .int (iI 0)), (6, .int (iI 0)), (5, .int (iI (sgk k))), (2, .int (iI ((pcl σ.sh.t + s) % 12))), (1, .int (iI s)), (0, .ref A.m)]) C dX4_transpose_153 rfl (by rw [hnL]; decide) rfl ?_
              refine z_goto (pc := 156) (tgt := 47) C dX4_transpose_156 (by decide) ?_
              refine Z.weak (L' := [(4, .int (iI (k + 1))), (3, .int (iI b)), (2, .int (iI ((pcl σ.sh.t + s) % 12))), (1, .int (iI s)), (0, .ref A.m)]) (kc' := 0) (ks' := 0) [0, 1, 5, 6, 7] rfl (by omega) (by omega) ?_
              exact ih47 _ (by omega) (k + 1) b g47 ⟨gm_7, gv_7, gpa_7, gtx_7, gma_7, gna_7, gua_7, gla_7, gle_7, gqa_7, gd_7⟩ hkp47 (by omega) hbn rfl
            · refine z_iload_n (pc := 116) (j := 3) C dX4_transpose_116 rfl rfl ?_
              refine z_bipush (pc := 117) C dX4_transpose_117 (by decide) ?_
              refine z_icmp_ne (pc := 119) (tgt := 133) C dX4_transpose_119 (by decide) (by omega) (by decide) (fun c119 => ?_) (fun c119 => ?_)
              · refine z_iconst (pc := 133) C dX4_transpose_133 ?_
                refine z_istore (pc := 134) (L' := [(7, .int (iI 0)), (6, .int (iI 0)), (5, .int (iI (sgk k))), (4, .int (iI k)), (3, .int (iI b)), (2, .int (iI ((pcl σ.sh.t + s) % 12))), (1, .int (iI s)), (0, .ref A.m)]) C dX4_transpose_134 (by rw [hnL]; decide) rfl ?_
                refine z_iload (pc := 136) (j := 1) C dX4_transpose_136 rfl ?_
                refine z_if_eq (pc := 138) (tgt := 151) C dX4_transpose_138 (by decide) (by decide) (fun _ => ?_) (fun z => absurd z (by decide))
                refine z_iload_n (pc := 151) (j := 4) C dX4_transpose_151 rfl rfl ?_
                refine z_istore_n (pc := 152) (L' := [(3, .int (iI b)), (7, .int (iI 0)), (6, .int (iI 0)), (5, .int (iI (sgk k))), (4, .int (iI k)), (2, .int (iI ((pcl σ.sh.t + s) % 12))), (1, .int (iI s)), (0, .ref A.m)]) C dX4_transpose_152 rfl (by rw [hnL]; decide) rfl ?_
                have hbn : (b : Int) = if k + 1 = 13 then (if (hsg σ.sh.t σ.sh.m s) = 6 ∧ σ.fl = 1 then -6 else (hsg σ.sh.t σ.sh.m s)) else if (if 0 < (hsg σ.sh.t σ.sh.m s) then 2 * (hsg σ.sh.t σ.sh.m s) - 1 else -2 * (hsg σ.sh.t σ.sh.m s)) < k + 1 then (hsg σ.sh.t σ.sh.m s) else 100 := by
                  have hb2 := hb
                  rw [if_neg (by omega)] at hb2
                  by_cases z : k ≤ 11
                  · have := hg1 z; rw [if_neg (by omega)]; (repeat' split at hb2) <;> (repeat' split) <;> omega
                  · have := hg2 (by omega); rw [if_pos (by omega)]; (repeat' split at hb2) <;> (repeat' split) <;> omega
                refine z_iinc (pc := 153) (k := 4) (L' := [(4, .int (iI (k + 1))), (3, .int (iI b)), (7, .int (iI 0)), (6, .int (iI 0)), (5, .int (iI (sgk k))), (2, .int (iI ((pcl σ.sh.t + s) % 12))), (1, .int (iI s)), (0, .ref A.m)]) C dX4_transpose_153 rfl (by rw [hnL]; decide) rfl ?_
                refine z_goto (pc := 156) (tgt := 47) C dX4_transpose_156 (by decide) ?_
                refine Z.weak (L' := [(4, .int (iI (k + 1))), (3, .int (iI b)), (2, .int (iI ((pcl σ.sh.t + s) % 12))), (1, .int (iI s)), (0, .ref A.m)]) (kc' := 0) (ks' := 0) [0, 1, 5, 6, 7] rfl (by omega) (by omega) ?_
                exact ih47 _ (by omega) (k + 1) b g47 ⟨gm_7, gv_7, gpa_7, gtx_7, gma_7, gna_7, gua_7, gla_7, gle_7, gqa_7, gd_7⟩ hkp47 (by omega) hbn rfl
              · refine z_aload_n (pc := 122) (j := 6) C dX4_transpose_122 rfl rfl ?_
                refine z_getfield (pc := 123) (v := .int (iI σ.fl)) C in_X4 rfl 6 (by decide) q2088 (fun _ z => z) gm_7 rfl dX4_transpose_123 ?_
                refine z_if_eq (pc := 126) (tgt := 133) C dX4_transpose_126 (by decide) (by omega) (fun c126 => ?_) (fun c126 => ?_)
                · refine z_iconst (pc := 133) C dX4_transpose_133 ?_
                  refine z_istore (pc := 134) (L' := [(7, .int (iI 0)), (6, .int (iI 0)), (5, .int (iI (sgk k))), (4, .int (iI k)), (3, .int (iI b)), (2, .int (iI ((pcl σ.sh.t + s) % 12))), (1, .int (iI s)), (0, .ref A.m)]) C dX4_transpose_134 (by rw [hnL]; decide) rfl ?_
                  refine z_iload (pc := 136) (j := 1) C dX4_transpose_136 rfl ?_
                  refine z_if_eq (pc := 138) (tgt := 151) C dX4_transpose_138 (by decide) (by decide) (fun _ => ?_) (fun z => absurd z (by decide))
                  refine z_iload_n (pc := 151) (j := 4) C dX4_transpose_151 rfl rfl ?_
                  refine z_istore_n (pc := 152) (L' := [(3, .int (iI b)), (7, .int (iI 0)), (6, .int (iI 0)), (5, .int (iI (sgk k))), (4, .int (iI k)), (2, .int (iI ((pcl σ.sh.t + s) % 12))), (1, .int (iI s)), (0, .ref A.m)]) C dX4_transpose_152 rfl (by rw [hnL]; decide) rfl ?_
                  have hbn : (b : Int) = if k + 1 = 13 then (if (hsg σ.sh.t σ.sh.m s) = 6 ∧ σ.fl = 1 then -6 else (hsg σ.sh.t σ.sh.m s)) else if (if 0 < (hsg σ.sh.t σ.sh.m s) then 2 * (hsg σ.sh.t σ.sh.m s) - 1 else -2 * (hsg σ.sh.t σ.sh.m s)) < k + 1 then (hsg σ.sh.t σ.sh.m s) else 100 := by
                    have hb2 := hb
                    rw [if_neg (by omega)] at hb2
                    by_cases z : k ≤ 11
                    · have := hg1 z; rw [if_neg (by omega)]; (repeat' split at hb2) <;> (repeat' split) <;> omega
                    · have := hg2 (by omega); rw [if_pos (by omega)]; (repeat' split at hb2) <;> (repeat' split) <;> omega
                  refine z_iinc (pc := 153) (k := 4) (L' := [(4, .int (iI (k + 1))), (3, .int (iI b)), (7, .int (iI 0)), (6, .int (iI 0)), (5, .int (iI (sgk k))), (2, .int (iI ((pcl σ.sh.t + s) % 12))), (1, .int (iI s)), (0, .ref A.m)]) C dX4_transpose_153 rfl (by rw [hnL]; decide) rfl ?_
                  refine z_goto (pc := 156) (tgt := 47) C dX4_transpose_156 (by decide) ?_
                  refine Z.weak (L' := [(4, .int (iI (k + 1))), (3, .int (iI b)), (2, .int (iI ((pcl σ.sh.t + s) % 12))), (1, .int (iI s)), (0, .ref A.m)]) (kc' := 0) (ks' := 0) [0, 1, 5, 6, 7] rfl (by omega) (by omega) ?_
                  exact ih47 _ (by omega) (k + 1) b g47 ⟨gm_7, gv_7, gpa_7, gtx_7, gma_7, gna_7, gua_7, gla_7, gle_7, gqa_7, gd_7⟩ hkp47 (by omega) hbn rfl
                · refine z_iconst (pc := 129) C dX4_transpose_129 ?_
                  refine z_goto (pc := 130) (tgt := 134) C dX4_transpose_130 (by decide) ?_
                  refine z_istore (pc := 134) (L' := [(7, .int (iI 1)), (6, .int (iI 0)), (5, .int (iI (sgk k))), (4, .int (iI k)), (3, .int (iI b)), (2, .int (iI ((pcl σ.sh.t + s) % 12))), (1, .int (iI s)), (0, .ref A.m)]) C dX4_transpose_134 (by rw [hnL]; decide) rfl ?_
                  refine z_iload (pc := 136) (j := 1) C dX4_transpose_136 rfl ?_
                  refine z_if_eq (pc := 138) (tgt := 151) C dX4_transpose_138 (by decide) (by decide) (fun _ => ?_) (fun z => absurd z (by decide))
                  refine z_iload_n (pc := 151) (j := 4) C dX4_transpose_151 rfl rfl ?_
                  refine z_istore_n (pc := 152) (L' := [(3, .int (iI b)), (7, .int (iI 1)), (6, .int (iI 0)), (5, .int (iI (sgk k))), (4, .int (iI k)), (2, .int (iI ((pcl σ.sh.t + s) % 12))), (1, .int (iI s)), (0, .ref A.m)]) C dX4_transpose_152 rfl (by rw [hnL]; decide) rfl ?_
                  have hbn : (b : Int) = if k + 1 = 13 then (if (hsg σ.sh.t σ.sh.m s) = 6 ∧ σ.fl = 1 then -6 else (hsg σ.sh.t σ.sh.m s)) else if (if 0 < (hsg σ.sh.t σ.sh.m s) then 2 * (hsg σ.sh.t σ.sh.m s) - 1 else -2 * (hsg σ.sh.t σ.sh.m s)) < k + 1 then (hsg σ.sh.t σ.sh.m s) else 100 := by
                    have hb2 := hb
                    rw [if_neg (by omega)] at hb2
                    by_cases z : k ≤ 11
                    · have := hg1 z; rw [if_neg (by omega)]; (repeat' split at hb2) <;> (repeat' split) <;> omega
                    · have := hg2 (by omega); rw [if_pos (by omega)]; (repeat' split at hb2) <;> (repeat' split) <;> omega
                  refine z_iinc (pc := 153) (k := 4) (L' := [(4, .int (iI (k + 1))), (3, .int (iI b)), (7, .int (iI 1)), (6, .int (iI 0)), (5, .int (iI (sgk k))), (2, .int (iI ((pcl σ.sh.t + s) % 12))), (1, .int (iI s)), (0, .ref A.m)]) C dX4_transpose_153 rfl (by rw [hnL]; decide) rfl ?_
                  refine z_goto (pc := 156) (tgt := 47) C dX4_transpose_156 (by decide) ?_
                  refine Z.weak (L' := [(4, .int (iI (k + 1))), (3, .int (iI b)), (2, .int (iI ((pcl σ.sh.t + s) % 12))), (1, .int (iI s)), (0, .ref A.m)]) (kc' := 0) (ks' := 0) [0, 1, 5, 6, 7] rfl (by omega) (by omega) ?_
                  exact ih47 _ (by omega) (k + 1) b g47 ⟨gm_7, gv_7, gpa_7, gtx_7, gma_7, gna_7, gua_7, gla_7, gle_7, gqa_7, gd_7⟩ hkp47 (by omega) hbn rfl
        · refine z_iconst (pc := 96) C dX4_transpose_96 ?_
          refine z_goto (pc := 97) (tgt := 101) C dX4_transpose_97 (by decide) ?_
          refine z_istore (pc := 101) (L' := [(6, .int (iI 1)), (5, .int (iI (sgk k))), (4, .int (iI k)), (3, .int (iI b)), (2, .int (iI ((pcl σ.sh.t + s) % 12))), (1, .int (iI s)), (0, .ref A.m)]) C dX4_transpose_101 (by rw [hnL]; decide) rfl ?_
          refine z_iload_n (pc := 103) (j := 3) C dX4_transpose_103 rfl rfl ?_
          refine z_bipush (pc := 104) C dX4_transpose_104 (by decide) ?_
          refine z_icmp_eq (pc := 106) (tgt := 129) C dX4_transpose_106 (by decide) (by omega) (by decide) (fun c106 => ?_) (fun c106 => ?_)
          · refine z_iconst (pc := 129) C dX4_transpose_129 ?_
            refine z_goto (pc := 130) (tgt := 134) C dX4_transpose_130 (by decide) ?_
            refine z_istore (pc := 134) (L' := [(7, .int (iI 1)), (6, .int (iI 1)), (5, .int (iI (sgk k))), (4, .int (iI k)), (3, .int (iI b)), (2, .int (iI ((pcl σ.sh.t + s) % 12))), (1, .int (iI s)), (0, .ref A.m)]) C dX4_transpose_134 (by rw [hnL]; decide) rfl ?_
            refine z_iload (pc := 136) (j := 1) C dX4_transpose_136 rfl ?_
            refine z_if_eq (pc := 138) (tgt := 151) C dX4_transpose_138 (by decide) (by decide) (fun z => absurd z (by decide)) (fun _ => ?_)
            refine z_iload (pc := 141) (j := 0) C dX4_transpose_141 rfl ?_
            refine z_if_eq (pc := 143) (tgt := 151) C dX4_transpose_143 (by decide) (by decide) (fun z => absurd z (by decide)) (fun _ => ?_)
            refine z_iload (pc := 146) (j := 2) C dX4_transpose_146 rfl ?_
            refine z_goto (pc := 148) (tgt := 152) C dX4_transpose_148 (by decide) ?_
            refine z_istore_n (pc := 152) (L' := [(3, .int (iI (sgk k))), (7, .int (iI 1)), (6, .int (iI 1)), (5, .int (iI (sgk k))), (4, .int (iI k)), (2, .int (iI ((pcl σ.sh.t + s) % 12))), (1, .int (iI s)), (0, .ref A.m)]) C dX4_transpose_152 rfl (by rw [hnL]; decide) rfl ?_
            have hbn : (sgk k : Int) = if k + 1 = 13 then (if (hsg σ.sh.t σ.sh.m s) = 6 ∧ σ.fl = 1 then -6 else (hsg σ.sh.t σ.sh.m s)) else if (if 0 < (hsg σ.sh.t σ.sh.m s) then 2 * (hsg σ.sh.t σ.sh.m s) - 1 else -2 * (hsg σ.sh.t σ.sh.m s)) < k + 1 then (hsg σ.sh.t σ.sh.m s) else 100 := by
              have hb2 := hb
              rw [if_neg (by omega)] at hb2
              by_cases z : k ≤ 11
              · have := hg1 z; rw [if_neg (by omega)]; (repeat' split at hb2) <;> (repeat' split) <;> omega
              · have := hg2 (by omega); rw [if_pos (by omega)]; (repeat' split at hb2) <;> (repeat' split) <;> omega
            refine z_iinc (pc := 153) (k := 4) (L' := [(4, .int (iI (k + 1))), (3, .int (iI (sgk k))), (7, .int (iI 1)), (6, .int (iI 1)), (5, .int (iI (sgk k))), (2, .int (iI ((pcl σ.sh.t + s) % 12))), (1, .int (iI s)), (0, .ref A.m)]) C dX4_transpose_153 rfl (by rw [hnL]; decide) rfl ?_
            refine z_goto (pc := 156) (tgt := 47) C dX4_transpose_156 (by decide) ?_
            refine Z.weak (L' := [(4, .int (iI (k + 1))), (3, .int (iI (sgk k))), (2, .int (iI ((pcl σ.sh.t + s) % 12))), (1, .int (iI s)), (0, .ref A.m)]) (kc' := 0) (ks' := 0) [0, 1, 5, 6, 7] rfl (by omega) (by omega) ?_
            exact ih47 _ (by omega) (k + 1) (sgk k) g47 ⟨gm_7, gv_7, gpa_7, gtx_7, gma_7, gna_7, gua_7, gla_7, gle_7, gqa_7, gd_7⟩ hkp47 (by omega) hbn rfl
          · refine z_iload (pc := 109) (j := 1) C dX4_transpose_109 rfl ?_
            refine z_bipush (pc := 111) C dX4_transpose_111 (by decide) ?_
            refine z_icmp_ne (pc := 113) (tgt := 133) C dX4_transpose_113 (by decide) (by omega) (by decide) (fun c113 => ?_) (fun c113 => ?_)
            · refine z_iconst (pc := 133) C dX4_transpose_133 ?_
              refine z_istore (pc := 134) (L' := [(7, .int (iI 0)), (6, .int (iI 1)), (5, .int (iI (sgk k))), (4, .int (iI k)), (3, .int (iI b)), (2, .int (iI ((pcl σ.sh.t + s) % 12))), (1, .int (iI s)), (0, .ref A.m)]) C dX4_transpose_134 (by rw [hnL]; decide) rfl ?_
              refine z_iload (pc := 136) (j := 1) C dX4_transpose_136 rfl ?_
              refine z_if_eq (pc := 138) (tgt := 151) C dX4_transpose_138 (by decide) (by decide) (fun z => absurd z (by decide)) (fun _ => ?_)
              refine z_iload (pc := 141) (j := 0) C dX4_transpose_141 rfl ?_
              refine z_if_eq (pc := 143) (tgt := 151) C dX4_transpose_143 (by decide) (by decide) (fun _ => ?_) (fun z => absurd z (by decide))
              refine z_iload_n (pc := 151) (j := 4) C dX4_transpose_151 rfl rfl ?_
              refine z_istore_n (pc := 152) (L' := [(3, .int (iI b)), (7, .int (iI 0)), (6, .int (iI 1)), (5, .int (iI (sgk k))), (4, .int (iI k)), (2, .int (iI ((pcl σ.sh.t + s) % 12))), (1, .int (iI s)), (0, .ref A.m)]) C dX4_transpose_152 rfl (by rw [hnL]; decide) rfl ?_
              have hbn : (b : Int) = if k + 1 = 13 then (if (hsg σ.sh.t σ.sh.m s) = 6 ∧ σ.fl = 1 then -6 else (hsg σ.sh.t σ.sh.m s)) else if (if 0 < (hsg σ.sh.t σ.sh.m s) then 2 * (hsg σ.sh.t σ.sh.m s) - 1 else -2 * (hsg σ.sh.t σ.sh.m s)) < k + 1 then (hsg σ.sh.t σ.sh.m s) else 100 := by
                have hb2 := hb
                rw [if_neg (by omega)] at hb2
                by_cases z : k ≤ 11
                · have := hg1 z; rw [if_neg (by omega)]; (repeat' split at hb2) <;> (repeat' split) <;> omega
                · have := hg2 (by omega); rw [if_pos (by omega)]; (repeat' split at hb2) <;> (repeat' split) <;> omega
              refine z_iinc (pc := 153) (k := 4) (L' := [(4, .int (iI (k + 1))), (3, .int (iI b)), (7, .int (iI 0)), (6, .int (iI 1)), (5, .int (iI (sgk k))), (2, .int (iI ((pcl σ.sh.t + s) % 12))), (1, .int (iI s)), (0, .ref A.m)]) C dX4_transpose_153 rfl (by rw [hnL]; decide) rfl ?_
              refine z_goto (pc := 156) (tgt := 47) C dX4_transpose_156 (by decide) ?_
              refine Z.weak (L' := [(4, .int (iI (k + 1))), (3, .int (iI b)), (2, .int (iI ((pcl σ.sh.t + s) % 12))), (1, .int (iI s)), (0, .ref A.m)]) (kc' := 0) (ks' := 0) [0, 1, 5, 6, 7] rfl (by omega) (by omega) ?_
              exact ih47 _ (by omega) (k + 1) b g47 ⟨gm_7, gv_7, gpa_7, gtx_7, gma_7, gna_7, gua_7, gla_7, gle_7, gqa_7, gd_7⟩ hkp47 (by omega) hbn rfl
            · refine z_iload_n (pc := 116) (j := 3) C dX4_transpose_116 rfl rfl ?_
              refine z_bipush (pc := 117) C dX4_transpose_117 (by decide) ?_
              refine z_icmp_ne (pc := 119) (tgt := 133) C dX4_transpose_119 (by decide) (by omega) (by decide) (fun c119 => ?_) (fun c119 => ?_)
              · refine z_iconst (pc := 133) C dX4_transpose_133 ?_
                refine z_istore (pc := 134) (L' := [(7, .int (iI 0)), (6, .int (iI 1)), (5, .int (iI (sgk k))), (4, .int (iI k)), (3, .int (iI b)), (2, .int (iI ((pcl σ.sh.t + s) % 12))), (1, .int (iI s)), (0, .ref A.m)]) C dX4_transpose_134 (by rw [hnL]; decide) rfl ?_
                refine z_iload (pc := 136) (j := 1) C dX4_transpose_136 rfl ?_
                refine z_if_eq (pc := 138) (tgt := 151) C dX4_transpose_138 (by decide) (by decide) (fun z => absurd z (by decide)) (fun _ => ?_)
                refine z_iload (pc := 141) (j := 0) C dX4_transpose_141 rfl ?_
                refine z_if_eq (pc := 143) (tgt := 151) C dX4_transpose_143 (by decide) (by decide) (fun _ => ?_) (fun z => absurd z (by decide))
                refine z_iload_n (pc := 151) (j := 4) C dX4_transpose_151 rfl rfl ?_
                refine z_istore_n (pc := 152) (L' := [(3, .int (iI b)), (7, .int (iI 0)), (6, .int (iI 1)), (5, .int (iI (sgk k))), (4, .int (iI k)), (2, .int (iI ((pcl σ.sh.t + s) % 12))), (1, .int (iI s)), (0, .ref A.m)]) C dX4_transpose_152 rfl (by rw [hnL]; decide) rfl ?_
                have hbn : (b : Int) = if k + 1 = 13 then (if (hsg σ.sh.t σ.sh.m s) = 6 ∧ σ.fl = 1 then -6 else (hsg σ.sh.t σ.sh.m s)) else if (if 0 < (hsg σ.sh.t σ.sh.m s) then 2 * (hsg σ.sh.t σ.sh.m s) - 1 else -2 * (hsg σ.sh.t σ.sh.m s)) < k + 1 then (hsg σ.sh.t σ.sh.m s) else 100 := by
                  have hb2 := hb
                  rw [if_neg (by omega)] at hb2
                  by_cases z : k ≤ 11
                  · have := hg1 z; rw [if_neg (by omega)]; (repeat' split at hb2) <;> (repeat' split) <;> omega
                  · have := hg2 (by omega); rw [if_pos (by omega)]; (repeat' split at hb2) <;> (repeat' split) <;> omega
                refine z_iinc (pc := 153) (k := 4) (L' := [(4, .int (iI (k + 1))), (3, .int (iI b)), (7, .int (iI 0)), (6, .int (iI 1)), (5, .int (iI (sgk k))), (2, .int (iI ((pcl σ.sh.t + s) % 12))), (1, .int (iI s)), (0, .ref A.m)]) C dX4_transpose_153 rfl (by rw [hnL]; decide) rfl ?_
                refine z_goto (pc := 156) (tgt := 47) C dX4_transpose_156 (by decide) ?_
                refine Z.weak (L' := [(4, .int (iI (k + 1))), (3, .int (iI b)), (2, .int (iI ((pcl σ.sh.t + s) % 12))), (1, .int (iI s)), (0, .ref A.m)]) (kc' := 0) (ks' := 0) [0, 1, 5, 6, 7] rfl (by omega) (by omega) ?_
                exact ih47 _ (by omega) (k + 1) b g47 ⟨gm_7, gv_7, gpa_7, gtx_7, gma_7, gna_7, gua_7, gla_7, gle_7, gqa_7, gd_7⟩ hkp47 (by omega) hbn rfl
              · refine z_aload_n (pc := 122) (j := 6) C dX4_transpose_122 rfl rfl ?_
                refine z_getfield (pc := 123) (v := .int (iI σ.fl)) C in_X4 rfl 6 (by decide) q2088 (fun _ z => z) gm_7 rfl dX4_transpose_123 ?_
                refine z_if_eq (pc := 126) (tgt := 133) C dX4_transpose_126 (by decide) (by omega) (fun c126 => ?_) (fun c126 => ?_)
                · refine z_iconst (pc := 133) C dX4_transpose_133 ?_
                  refine z_istore (pc := 134) (L' := [(7, .int (iI 0)), (6, .int (iI 1)), (5, .int (iI (sgk k))), (4, .int (iI k)), (3, .int (iI b)), (2, .int (iI ((pcl σ.sh.t + s) % 12))), (1, .int (iI s)), (0, .ref A.m)]) C dX4_transpose_134 (by rw [hnL]; decide) rfl ?_
                  refine z_iload (pc := 136) (j := 1) C dX4_transpose_136 rfl ?_
                  refine z_if_eq (pc := 138) (tgt := 151) C dX4_transpose_138 (by decide) (by decide) (fun z => absurd z (by decide)) (fun _ => ?_)
                  refine z_iload (pc := 141) (j := 0) C dX4_transpose_141 rfl ?_
                  refine z_if_eq (pc := 143) (tgt := 151) C dX4_transpose_143 (by decide) (by decide) (fun _ => ?_) (fun z => absurd z (by decide))
                  refine z_iload_n (pc := 151) (j := 4) C dX4_transpose_151 rfl rfl ?_
                  refine z_istore_n (pc := 152) (L' := [(3, .int (iI b)), (7, .int (iI 0)), (6, .int (iI 1)), (5, .int (iI (sgk k))), (4, .int (iI k)), (2, .int (iI ((pcl σ.sh.t + s) % 12))), (1, .int (iI s)), (0, .ref A.m)]) C dX4_transpose_152 rfl (by rw [hnL]; decide) rfl ?_
                  have hbn : (b : Int) = if k + 1 = 13 then (if (hsg σ.sh.t σ.sh.m s) = 6 ∧ σ.fl = 1 then -6 else (hsg σ.sh.t σ.sh.m s)) else if (if 0 < (hsg σ.sh.t σ.sh.m s) then 2 * (hsg σ.sh.t σ.sh.m s) - 1 else -2 * (hsg σ.sh.t σ.sh.m s)) < k + 1 then (hsg σ.sh.t σ.sh.m s) else 100 := by
                    have hb2 := hb
                    rw [if_neg (by omega)] at hb2
                    by_cases z : k ≤ 11
                    · have := hg1 z; rw [if_neg (by omega)]; (repeat' split at hb2) <;> (repeat' split) <;> omega
                    · have := hg2 (by omega); rw [if_pos (by omega)]; (repeat' split at hb2) <;> (repeat' split) <;> omega
                  refine z_iinc (pc := 153) (k := 4) (L' := [(4, .int (iI (k + 1))), (3, .int (iI b)), (7, .int (iI 0)), (6, .int (iI 1)), (5, .int (iI (sgk k))), (2, .int (iI ((pcl σ.sh.t + s) % 12))), (1, .int (iI s)), (0, .ref A.m)]) C dX4_transpose_153 rfl (by rw [hnL]; decide) rfl ?_
                  refine z_goto (pc := 156) (tgt := 47) C dX4_transpose_156 (by decide) ?_
                  refine Z.weak (L' := [(4, .int (iI (k + 1))), (3, .int (iI b)), (2, .int (iI ((pcl σ.sh.t + s) % 12))), (1, .int (iI s)), (0, .ref A.m)]) (kc' := 0) (ks' := 0) [0, 1, 5, 6, 7] rfl (by omega) (by omega) ?_
                  exact ih47 _ (by omega) (k + 1) b g47 ⟨gm_7, gv_7, gpa_7, gtx_7, gma_7, gna_7, gua_7, gla_7, gle_7, gqa_7, gd_7⟩ hkp47 (by omega) hbn rfl
                · refine z_iconst (pc := 129) C dX4_transpose_129 ?_
                  refine z_goto (pc := 130) (tgt := 134) C dX4_transpose_130 (by decide) ?_
                  refine z_istore (pc := 134) (L' := [(7, .int (iI 1)), (6, .int (iI 1)), (5, .int (iI (sgk k))), (4, .int (iI k)), (3, .int (iI b)), (2, .int (iI ((pcl σ.sh.t + s) % 12))), (1, .int (iI s)), (0, .ref A.m)]) C dX4_transpose_134 (by rw [hnL]; decide) rfl ?_
                  refine z_iload (pc := 136) (j := 1) C dX4_transpose_136 rfl ?_
                  refine z_if_eq (pc := 138) (tgt := 151) C dX4_transpose_138 (by decide) (by decide) (fun z => absurd z (by decide)) (fun _ => ?_)
                  refine z_iload (pc := 141) (j := 0) C dX4_transpose_141 rfl ?_
                  refine z_if_eq (pc := 143) (tgt := 151) C dX4_transpose_143 (by decide) (by decide) (fun z => absurd z (by decide)) (fun _ => ?_)
                  refine z_iload (pc := 146) (j := 2) C dX4_transpose_146 rfl ?_
                  refine z_goto (pc := 148) (tgt := 152) C dX4_transpose_148 (by decide) ?_
                  refine z_istore_n (pc := 152) (L' := [(3, .int (iI (sgk k))), (7, .int (iI 1)), (6, .int (iI 1)), (5, .int (iI (sgk k))), (4, .int (iI k)), (2, .int (iI ((pcl σ.sh.t + s) % 12))), (1, .int (iI s)), (0, .ref A.m)]) C dX4_transpose_152 rfl (by rw [hnL]; decide) rfl ?_
                  have hbn : (sgk k : Int) = if k + 1 = 13 then (if (hsg σ.sh.t σ.sh.m s) = 6 ∧ σ.fl = 1 then -6 else (hsg σ.sh.t σ.sh.m s)) else if (if 0 < (hsg σ.sh.t σ.sh.m s) then 2 * (hsg σ.sh.t σ.sh.m s) - 1 else -2 * (hsg σ.sh.t σ.sh.m s)) < k + 1 then (hsg σ.sh.t σ.sh.m s) else 100 := by
                    have hb2 := hb
                    rw [if_neg (by omega)] at hb2
                    by_cases z : k ≤ 11
                    · have := hg1 z; rw [if_neg (by omega)]; (repeat' split at hb2) <;> (repeat' split) <;> omega
                    · have := hg2 (by omega); rw [if_pos (by omega)]; (repeat' split at hb2) <;> (repeat' split) <;> omega
                  refine z_iinc (pc := 153) (k := 4) (L' := [(4, .int (iI (k + 1))), (3, .int (iI (sgk k))), (7, .int (iI 1)), (6, .int (iI 1)), (5, .int (iI (sgk k))), (2, .int (iI ((pcl σ.sh.t + s) % 12))), (1, .int (iI s)), (0, .ref A.m)]) C dX4_transpose_153 rfl (by rw [hnL]; decide) rfl ?_
                  refine z_goto (pc := 156) (tgt := 47) C dX4_transpose_156 (by decide) ?_
                  refine Z.weak (L' := [(4, .int (iI (k + 1))), (3, .int (iI (sgk k))), (2, .int (iI ((pcl σ.sh.t + s) % 12))), (1, .int (iI s)), (0, .ref A.m)]) (kc' := 0) (ks' := 0) [0, 1, 5, 6, 7] rfl (by omega) (by omega) ?_
                  exact ih47 _ (by omega) (k + 1) (sgk k) g47 ⟨gm_7, gv_7, gpa_7, gtx_7, gma_7, gna_7, gua_7, gla_7, gle_7, gqa_7, gd_7⟩ hkp47 (by omega) hbn rfl
  refine Z.weak (L' := [(4, .int (iI 0)), (3, .int (iI 100)), (2, .int (iI (((pcl σ.sh.t) + s) % 12))), (1, .int (iI s)), (0, .ref A.m)]) (kc' := 0) (ks' := 0) [0, 1, 2, 4, 3] rfl (by omega) (by omega) ?_
  exact loop47 _ 0 100 h3 ⟨gm_6, gv_6, gpa_6, gtx_6, gma_6, gna_6, gua_6, gla_6, gle_6, gqa_6, gd_6⟩ kh3 (by omega) (by rw [if_neg (by omega), if_neg (by split <;> omega)]) rfl
set_option maxHeartbeats 4000000 in
theorem md_transpose_b {l : Launch} (hl : l.stackTraces = false) {Γ : zCx} {h : zH} {A : zMA} {σ : zSt} {th : Int} (hW : mdW h A σ th) {s : Int} (hr : -2147483648 ≤ s ∧ s ≤ 2147483647) (hb : ¬ (-11 ≤ s ∧ s ≤ 11))  : zMet l yX4_transpose (ws_ yX4_transpose cX4_transpose 8 (some .int)) ({ frames := 1, cells := 0, slots := 0, locals := 22 }) Γ h [.ref A.m, .int (iI s)] (zrt (fun w h' => w = some (.int (iI (0))) ∧ mdW h' A σ 1 ∧ zkeep h h' [A.m, A.v, A.pa, A.tx, A.ma, A.na, A.ua, A.la])) 0 0 := by
  refine zMet.of (cc := cX4_transpose) hl (plainFor_of_name (by decide +kernel)) (Nat.le_of_ble_eq_true rfl) ?_
  intro X hXl hXΓ hXp C hnm hnL
  have C : zC X cX4_transpose RX4 (some .int) 1 22 [] := C
  have hnL : X.2.1.2.2.2.2 = 8 := hnL
  subst hXl hXΓ
  show Z X h 0 0 [(0, .ref A.m), (1, .int (iI s))] 0 []
  obtain ⟨ap, nt, rr, rq, rb, wh, nd, up, lo, V, P, T, M, N, U, W, hM, hS, hP, htq, hR, hsl, hslh⟩ := id hW
  obtain ⟨rsi, rff, rwd, rtl, rtx, rsh, rhi, rhl⟩ := id hR
  obtain ⟨rcl, rcr, rll, rlt, rkt, rkm, rks⟩ := id rsh
  obtain ⟨hsl1, hsl2, hsl3⟩ := id hsl
  have hTr := rtx
  have hTl := rtl
  obtain ⟨gm_1, gv_1, gpa_1, gtx_1, gma_1, gna_1, gua_1, gla_1, gle_1, gqa_1, gd_1⟩ := id hM
  refine z_aload_n (pc := 0) (j := 0) C dX4_transpose_0 rfl rfl ?_
  refine z_iconst (pc := 1) C dX4_transpose_1 ?_
  refine z_putfield (pc := 2) (fs' := [.ref A.v, .ref A.pa, .int (iI ((σ.hi.length : Nat) : Int)), .ref A.tx, .int (iI ((σ.tx.length : Nat) : Int)), .int (iI σ.si), .int (iI σ.fl), .int (iI σ.wd), .int (iI 0), .ref A.le, .ref A.qa, .int (iI ap), .int (iI nt), .int (iI rr), .int (iI rq), .int (iI rb), .int (iI wh), .ref A.ma, .ref A.na, .int (iI nd), .ref A.ua, .ref A.la, .int (iI up), .int (iI lo)]) C in_X4 tyX4 tyX4_ok nmX4 rfl 8 (by decide) q2090 (fun _ z => z) rfl rfl rfl (Nat.le_of_ble_eq_true rfl) gm_1 rfl dX4_transpose_2 ?_
  refine Z.nm (fun h2 eh2 => ?_)
  have kh2 : zkeep h h2 [A.m, A.v, A.pa, A.tx, A.ma, A.na, A.ua, A.la] := by rw [eh2]; exact zkeep.up zkeep.rf (Or.inl (by simp)) gm_1
  have fh2_0 : h2 A.m = some (true, .inr (3, [.ref A.v, .ref A.pa, .int (iI ((σ.hi.length : Nat) : Int)), .ref A.tx, .int (iI ((σ.tx.length : Nat) : Int)), .int (iI σ.si), .int (iI σ.fl), .int (iI σ.wd), .int (iI 0), .ref A.le, .ref A.qa, .int (iI ap), .int (iI nt), .int (iI rr), .int (iI rq), .int (iI rb), .int (iI wh), .ref A.ma, .ref A.na, .int (iI nd), .ref A.ua, .ref A.la, .int (iI up), .int (iI lo)])) := zse eh2
  have fh2_1 : h2 A.v = some (true, .inl (.int, 620, (mA V))) := zsn eh2 gv_1 (Ne.symm (zneA gm_1 gv_1))
  have fh2_2 : h2 A.pa = some (true, .inl (.int, 4960, (mA P))) := zsn eh2 gpa_1 (Ne.symm (zneA gm_1 gpa_1))
  have fh2_3 : h2 A.tx = some (true, .inl (.int, 200, (mA T))) := zsn eh2 gtx_1 (Ne.symm (zneA gm_1 gtx_1))
  have fh2_4 : h2 A.ma = some (true, .inl (.int, 620, (mA M))) := zsn eh2 gma_1 (Ne.symm (zneA gm_1 gma_1))
  have fh2_5 : h2 A.na = some (true, .inl (.int, 20, (mA N))) := zsn eh2 gna_1 (Ne.symm (zneA gm_1 gna_1))
  have fh2_6 : h2 A.ua = some (true, .inl (.int, 1200, (mA U))) := zsn eh2 gua_1 (Ne.symm (zneA gm_1 gua_1))
  have fh2_7 : h2 A.la = some (true, .inl (.int, 1200, (mA W))) := zsn eh2 gla_1 (Ne.symm (zneA gm_1 gla_1))
  refine z_iload_n (pc := 5) (j := 1) C dX4_transpose_5 rfl rfl ?_
  refine z_bipush (pc := 6) C dX4_transpose_6 (by decide) ?_
  refine z_bipush (pc := 8) C dX4_transpose_8 (by decide) ?_
  refine z_callS (pc := 10) (n := 3) (kc' := 0) (ks' := 0) C (m_in C.t (x := s) (a := (-11)) (b := 11) (by omega) (by decide) (by decide)) (lw_S q2164 q2165 q74 q2166) (by decide +kernel) ⟨by decide, by decide⟩ rfl rfl (Nat.le_of_ble_eq_true rfl) dX4_transpose_10 (by omega) (by omega) (zpk (st' := [.int (iI (if (-11) ≤ s ∧ s ≤ 11 then 1 else 0))]) rfl ?_) zrx
  rw [show ((if (-11) ≤ s ∧ s ≤ 11 then 1 else 0) : Int) = 0 from if_neg (by omega)]
  show Z X h2 0 0 [(0, .ref A.m), (1, .int (iI s))] 13 [.int (iI 0)]
  refine z_if_ne (pc := 13) (tgt := 22) C dX4_transpose_13 (by decide) (by decide) (fun z => absurd z (by decide)) (fun _ => ?_)
  refine z_aload_n (pc := 16) (j := 0) C dX4_transpose_16 rfl rfl ?_
  refine z_iconst (pc := 17) C dX4_transpose_17 ?_
  refine z_callV (pc := 18) (n := 1) (kc' := 0) (ks' := 0) C (m_fails C.t ⟨fh2_0, fh2_1, fh2_2, fh2_3, fh2_4, fh2_5, fh2_6, fh2_7, (kh2.n gle_1 (List.not_mem_cons_of_ne_of_not_mem (Ne.symm (zneA gm_1 gle_1)) (List.not_mem_cons_of_ne_of_not_mem (zneT gle_1 gv_1 (by simp)) (List.not_mem_cons_of_ne_of_not_mem (zneT gle_1 gpa_1 (by simp)) (List.not_mem_cons_of_ne_of_not_mem (zneT gle_1 gtx_1 (by simp)) (List.not_mem_cons_of_ne_of_not_mem (zneT gle_1 gma_1 (by simp)) (List.not_mem_cons_of_ne_of_not_mem (zneT gle_1 gna_1 (by simp)) (List.not_mem_cons_of_ne_of_not_mem (zneT gle_1 gua_1 (by simp)) (List.not_mem_cons_of_ne_of_not_mem (zneT gle_1 gla_1 (by simp)) List.not_mem_nil))))))))), (kh2.n gqa_1 (List.not_mem_cons_of_ne_of_not_mem (Ne.symm (zneA gm_1 gqa_1)) (List.not_mem_cons_of_ne_of_not_mem (zneT gqa_1 gv_1 (by simp)) (List.not_mem_cons_of_ne_of_not_mem (zneT gqa_1 gpa_1 (by simp)) (List.not_mem_cons_of_ne_of_not_mem (zneT gqa_1 gtx_1 (by simp)) (List.not_mem_cons_of_ne_of_not_mem (zneT gqa_1 gma_1 (by simp)) (List.not_mem_cons_of_ne_of_not_mem (zneT gqa_1 gna_1 (by simp)) (List.not_mem_cons_of_ne_of_not_mem (zneT gqa_1 gua_1 (by simp)) (List.not_mem_cons_of_ne_of_not_mem (zneT gqa_1 gla_1 (by simp)) List.not_mem_nil))))))))), gd_1⟩ (x := 1)) (lw_V q2167 q2169 qs27 q74 q2170) (by decide +kernel) ⟨by decide, by decide⟩ fh2_0 rfl rfl rfl (Nat.le_of_ble_eq_true rfl) dX4_transpose_18 (by omega) (by omega) (zrk fun w h3 hp => ?_) zrx
  obtain ⟨rfl, hM_5, k4⟩ := hp
  have kh3 : zkeep h h3 [A.m, A.v, A.pa, A.tx, A.ma, A.na, A.ua, A.la] := zkeep.loc kh2 k4 (fun q hq => Or.inl (Or.inr hq))
  have hM_5 : mM h3 A ((σ.hi.length : Nat) : Int) ((σ.tx.length : Nat) : Int) σ.si σ.fl σ.wd 1 ap nt rr rq rb wh nd up lo V P T M N U W := hM_5
  obtain ⟨gm_6, gv_6, gpa_6, gtx_6, gma_6, gna_6, gua_6, gla_6, gle_6, gqa_6, gd_6⟩ := id hM_5
  show Z X h3 0 0 [(0, .ref A.m), (1, .int (iI s))] 21 [.int (iI 0)]
  exact z_ireturn (pc := 21) C (by rw [hXp]; exact ⟨_, rfl, rfl, ⟨ap, nt, rr, rq, rb, wh, nd, up, lo, V, P, T, M, N, U, W, ⟨gm_6, gv_6, gpa_6, gtx_6, gma_6, gna_6, gua_6, gla_6, gle_6, gqa_6, gd_6⟩, hS, hP, htq, hR, hsl, hslh⟩, kh3⟩) dX4_transpose_21

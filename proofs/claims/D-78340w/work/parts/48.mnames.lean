/-! 48.mnames.lean.txt -/
set_option maxRecDepth 100000
abbrev cX4_tells : ByteArray := prog_11_method_35_code
def yX4_tells : MethodName := ⟨RX4, "tells", "(I)V"⟩
def dkwX4_tells_0 : List UInt8 := [42, 180, 0, 37, 42, 180, 0, 133, 27, 79, 42, 89, 180, 0, 133, 4, 96, 181, 0, 133, 177]
abbrev dktX4_tells_0 : List UInt8 := dkwX4_tells_0 ++ []
theorem dksX4_tells_0 : cX4_tells.data.toList.drop 0 = dktX4_tells_0 := by decide +kernel
abbrev cX4_tellsNote : ByteArray := prog_11_method_36_code
def yX4_tellsNote : MethodName := ⟨RX4, "tellsNote", "(I)V"⟩
def dkwX4_tellsNote_3 : List UInt8 := [16, 98, 182, 0, 136, 132, 4, 1, 167, 255, 225, 177]
abbrev dktX4_tellsNote_3 : List UInt8 := dkwX4_tellsNote_3 ++ []
def dkwX4_tellsNote_2 : List UInt8 := [21, 4, 28, 161, 0, 10, 21, 4, 28, 116, 162, 0, 24, 42, 28, 158, 0, 8, 16, 35, 167, 0, 5]
abbrev dktX4_tellsNote_2 : List UInt8 := dkwX4_tellsNote_2 ++ dktX4_tellsNote_3
def dkwX4_tellsNote_1 : List UInt8 := [132, 3, 249, 132, 2, 1, 167, 255, 245, 42, 42, 180, 0, 27, 29, 4, 96, 52, 182, 0, 136, 3, 54, 4]
abbrev dktX4_tellsNote_1 : List UInt8 := dkwX4_tellsNote_1 ++ dktX4_tellsNote_2
def dkwX4_tellsNote_0 : List UInt8 := [3, 61, 27, 62, 29, 2, 162, 0, 12, 132, 3, 7, 132, 2, 255, 167, 255, 245, 29, 8, 164, 0, 12]
abbrev dktX4_tellsNote_0 : List UInt8 := dkwX4_tellsNote_0 ++ dktX4_tellsNote_1
theorem dksX4_tellsNote_0 : cX4_tellsNote.data.toList.drop 0 = dktX4_tellsNote_0 := by decide +kernel
theorem dksX4_tellsNote_1 : cX4_tellsNote.data.toList.drop 23 = dktX4_tellsNote_1 := dk_seg dksX4_tellsNote_0 23 rfl rfl
theorem dksX4_tellsNote_2 : cX4_tellsNote.data.toList.drop 47 = dktX4_tellsNote_2 := dk_seg dksX4_tellsNote_1 24 rfl rfl
theorem dksX4_tellsNote_3 : cX4_tellsNote.data.toList.drop 70 = dktX4_tellsNote_3 := dk_seg dksX4_tellsNote_2 23 rfl rfl
abbrev cX4_names : ByteArray := prog_11_method_37_code
def yX4_names : MethodName := ⟨RX4, "names", "(I)V"⟩
def dkwX4_names_5 : List UInt8 := [177]
abbrev dktX4_names_5 : List UInt8 := dkwX4_names_5 ++ []
def dkwX4_names_4 : List UInt8 := [159, 0, 24, 42, 16, 47, 182, 0, 136, 42, 42, 180, 0, 7, 27, 184, 0, 94, 7, 96, 46, 182, 0, 140]
abbrev dktX4_names_4 : List UInt8 := dkwX4_names_4 ++ dktX4_names_5
def dkwX4_names_3 : List UInt8 := [52, 182, 0, 136, 132, 3, 1, 167, 255, 202, 42, 180, 0, 7, 27, 184, 0, 94, 7, 96, 46, 16, 100]
abbrev dktX4_names_3 : List UInt8 := dkwX4_names_3 ++ dktX4_names_4
def dkwX4_names_2 : List UInt8 := [167, 0, 28, 28, 42, 180, 0, 7, 27, 184, 0, 94, 6, 96, 46, 160, 0, 13, 42, 42, 180, 0, 31, 29]
abbrev dktX4_names_2 : List UInt8 := dkwX4_names_2 ++ dktX4_names_3
def dkwX4_names_1 : List UInt8 := [29, 42, 180, 0, 31, 190, 162, 0, 51, 42, 180, 0, 31, 29, 52, 16, 59, 160, 0, 9, 132, 2, 1]
abbrev dktX4_names_1 : List UInt8 := dkwX4_names_1 ++ dktX4_names_2
def dkwX4_names_0 : List UInt8 := [42, 3, 181, 0, 133, 42, 42, 180, 0, 7, 27, 184, 0, 94, 5, 96, 46, 182, 0, 140, 3, 61, 3, 62]
abbrev dktX4_names_0 : List UInt8 := dkwX4_names_0 ++ dktX4_names_1
theorem dksX4_names_0 : cX4_names.data.toList.drop 0 = dktX4_names_0 := by decide +kernel
theorem dksX4_names_1 : cX4_names.data.toList.drop 24 = dktX4_names_1 := dk_seg dksX4_names_0 24 rfl rfl
theorem dksX4_names_2 : cX4_names.data.toList.drop 47 = dktX4_names_2 := dk_seg dksX4_names_1 23 rfl rfl
theorem dksX4_names_3 : cX4_names.data.toList.drop 71 = dktX4_names_3 := dk_seg dksX4_names_2 24 rfl rfl
theorem dksX4_names_4 : cX4_names.data.toList.drop 94 = dktX4_names_4 := dk_seg dksX4_names_3 23 rfl rfl
theorem dksX4_names_5 : cX4_names.data.toList.drop 118 = dktX4_names_5 := dk_seg dksX4_names_4 24 rfl rfl
abbrev cX4_nameChar : ByteArray := prog_11_method_38_code
def yX4_nameChar : MethodName := ⟨RX4, "nameChar", "(II)I"⟩
def dkwX4_nameChar_1 : List UInt8 := [27, 182, 0, 143, 28, 42, 180, 0, 133, 162, 0, 12, 42, 180, 0, 37, 28, 46, 167, 0, 4, 2, 172]
abbrev dktX4_nameChar_1 : List UInt8 := dkwX4_nameChar_1 ++ []
def dkwX4_nameChar_0 : List UInt8 := [42, 3, 181, 0, 46, 42, 27, 182, 0, 127, 153, 0, 7, 28, 156, 0, 9, 42, 4, 182, 0, 101, 172, 42]
abbrev dktX4_nameChar_0 : List UInt8 := dkwX4_nameChar_0 ++ dktX4_nameChar_1
theorem dksX4_nameChar_0 : cX4_nameChar.data.toList.drop 0 = dktX4_nameChar_0 := by decide +kernel
theorem dksX4_nameChar_1 : cX4_nameChar.data.toList.drop 24 = dktX4_nameChar_1 := dk_seg dksX4_nameChar_0 24 rfl rfl
theorem dX4_tells_0 : decode cX4_tells 0 = .ok (.aload_n 0, 1) := dk_42 (dk_at dksX4_tells_0 0 rfl rfl)
theorem dX4_tells_1 : decode cX4_tells 1 = .ok (.getfield 37, 3) := dk_180 0 37 (dk_at dksX4_tells_0 1 rfl rfl)
theorem dX4_tells_4 : decode cX4_tells 4 = .ok (.aload_n 0, 1) := dk_42 (dk_at dksX4_tells_0 4 rfl rfl)
theorem dX4_tells_5 : decode cX4_tells 5 = .ok (.getfield 133, 3) := dk_180 0 133 (dk_at dksX4_tells_0 5 rfl rfl)
theorem dX4_tells_8 : decode cX4_tells 8 = .ok (.iload_n 1, 1) := dk_27 (dk_at dksX4_tells_0 8 rfl rfl)
theorem dX4_tells_9 : decode cX4_tells 9 = .ok (.iastore, 1) := dk_79 (dk_at dksX4_tells_0 9 rfl rfl)
theorem dX4_tells_10 : decode cX4_tells 10 = .ok (.aload_n 0, 1) := dk_42 (dk_at dksX4_tells_0 10 rfl rfl)
theorem dX4_tells_11 : decode cX4_tells 11 = .ok (.dup, 1) := dk_89 (dk_at dksX4_tells_0 11 rfl rfl)
theorem dX4_tells_12 : decode cX4_tells 12 = .ok (.getfield 133, 3) := dk_180 0 133 (dk_at dksX4_tells_0 12 rfl rfl)
theorem dX4_tells_15 : decode cX4_tells 15 = .ok (.iconst 1, 1) := dk_4 (dk_at dksX4_tells_0 15 rfl rfl)
theorem dX4_tells_16 : decode cX4_tells 16 = .ok (.iadd, 1) := dk_96 (dk_at dksX4_tells_0 16 rfl rfl)
theorem dX4_tells_17 : decode cX4_tells 17 = .ok (.putfield 133, 3) := dk_181 0 133 (dk_at dksX4_tells_0 17 rfl rfl)
theorem dX4_tells_20 : decode cX4_tells 20 = .ok (.return_, 1) := dk_177 (dk_at dksX4_tells_0 20 rfl rfl)
theorem dX4_tellsNote_0 : decode cX4_tellsNote 0 = .ok (.iconst 0, 1) := dk_3 (dk_at dksX4_tellsNote_0 0 rfl rfl)
theorem dX4_tellsNote_1 : decode cX4_tellsNote 1 = .ok (.istore_n 2, 1) := dk_61 (dk_at dksX4_tellsNote_0 1 rfl rfl)
theorem dX4_tellsNote_2 : decode cX4_tellsNote 2 = .ok (.iload_n 1, 1) := dk_27 (dk_at dksX4_tellsNote_0 2 rfl rfl)
theorem dX4_tellsNote_3 : decode cX4_tellsNote 3 = .ok (.istore_n 3, 1) := dk_62 (dk_at dksX4_tellsNote_0 3 rfl rfl)
theorem dX4_tellsNote_4 : decode cX4_tellsNote 4 = .ok (.iload_n 3, 1) := dk_29 (dk_at dksX4_tellsNote_0 4 rfl rfl)
theorem dX4_tellsNote_5 : decode cX4_tellsNote 5 = .ok (.iconst (-1), 1) := dk_2 (dk_at dksX4_tellsNote_0 5 rfl rfl)
theorem dX4_tellsNote_6 : decode cX4_tellsNote 6 = .ok (.if_icmp .ge 12, 3) := dk_162 0 12 (dk_at dksX4_tellsNote_0 6 rfl rfl)
theorem dX4_tellsNote_9 : decode cX4_tellsNote 9 = .ok (.iinc 3 7, 3) := dk_132 3 7 (dk_at dksX4_tellsNote_0 9 rfl rfl)
theorem dX4_tellsNote_12 : decode cX4_tellsNote 12 = .ok (.iinc 2 (-1), 3) := dk_132 2 255 (dk_at dksX4_tellsNote_0 12 rfl rfl)
theorem dX4_tellsNote_15 : decode cX4_tellsNote 15 = .ok (.goto (-11), 3) := dk_167 255 245 (dk_at dksX4_tellsNote_0 15 rfl rfl)
theorem dX4_tellsNote_18 : decode cX4_tellsNote 18 = .ok (.iload_n 3, 1) := dk_29 (dk_at dksX4_tellsNote_0 18 rfl rfl)
theorem dX4_tellsNote_19 : decode cX4_tellsNote 19 = .ok (.iconst 5, 1) := dk_8 (dk_at dksX4_tellsNote_0 19 rfl rfl)
theorem dX4_tellsNote_20 : decode cX4_tellsNote 20 = .ok (.if_icmp .le 12, 3) := dk_164 0 12 (dk_at dksX4_tellsNote_0 20 rfl rfl)
theorem dX4_tellsNote_23 : decode cX4_tellsNote 23 = .ok (.iinc 3 (-7), 3) := dk_132 3 249 (dk_at dksX4_tellsNote_1 0 rfl rfl)
theorem dX4_tellsNote_26 : decode cX4_tellsNote 26 = .ok (.iinc 2 1, 3) := dk_132 2 1 (dk_at dksX4_tellsNote_1 3 rfl rfl)
theorem dX4_tellsNote_29 : decode cX4_tellsNote 29 = .ok (.goto (-11), 3) := dk_167 255 245 (dk_at dksX4_tellsNote_1 6 rfl rfl)
theorem dX4_tellsNote_32 : decode cX4_tellsNote 32 = .ok (.aload_n 0, 1) := dk_42 (dk_at dksX4_tellsNote_1 9 rfl rfl)
theorem dX4_tellsNote_33 : decode cX4_tellsNote 33 = .ok (.aload_n 0, 1) := dk_42 (dk_at dksX4_tellsNote_1 10 rfl rfl)
theorem dX4_tellsNote_34 : decode cX4_tellsNote 34 = .ok (.getfield 27, 3) := dk_180 0 27 (dk_at dksX4_tellsNote_1 11 rfl rfl)
theorem dX4_tellsNote_37 : decode cX4_tellsNote 37 = .ok (.iload_n 3, 1) := dk_29 (dk_at dksX4_tellsNote_1 14 rfl rfl)
theorem dX4_tellsNote_38 : decode cX4_tellsNote 38 = .ok (.iconst 1, 1) := dk_4 (dk_at dksX4_tellsNote_1 15 rfl rfl)
theorem dX4_tellsNote_39 : decode cX4_tellsNote 39 = .ok (.iadd, 1) := dk_96 (dk_at dksX4_tellsNote_1 16 rfl rfl)
theorem dX4_tellsNote_40 : decode cX4_tellsNote 40 = .ok (.caload, 1) := dk_52 (dk_at dksX4_tellsNote_1 17 rfl rfl)
theorem dX4_tellsNote_41 : decode cX4_tellsNote 41 = .ok (.invokevirtual 136, 3) := dk_182 0 136 (dk_at dksX4_tellsNote_1 18 rfl rfl)
theorem dX4_tellsNote_44 : decode cX4_tellsNote 44 = .ok (.iconst 0, 1) := dk_3 (dk_at dksX4_tellsNote_1 21 rfl rfl)
theorem dX4_tellsNote_45 : decode cX4_tellsNote 45 = .ok (.istore 4, 2) := dk_54 4 (dk_at dksX4_tellsNote_1 22 rfl rfl)
theorem dX4_tellsNote_47 : decode cX4_tellsNote 47 = .ok (.iload 4, 2) := dk_21 4 (dk_at dksX4_tellsNote_2 0 rfl rfl)
theorem dX4_tellsNote_49 : decode cX4_tellsNote 49 = .ok (.iload_n 2, 1) := dk_28 (dk_at dksX4_tellsNote_2 2 rfl rfl)
theorem dX4_tellsNote_50 : decode cX4_tellsNote 50 = .ok (.if_icmp .lt 10, 3) := dk_161 0 10 (dk_at dksX4_tellsNote_2 3 rfl rfl)
theorem dX4_tellsNote_53 : decode cX4_tellsNote 53 = .ok (.iload 4, 2) := dk_21 4 (dk_at dksX4_tellsNote_2 6 rfl rfl)
theorem dX4_tellsNote_55 : decode cX4_tellsNote 55 = .ok (.iload_n 2, 1) := dk_28 (dk_at dksX4_tellsNote_2 8 rfl rfl)
theorem dX4_tellsNote_56 : decode cX4_tellsNote 56 = .ok (.ineg, 1) := dk_116 (dk_at dksX4_tellsNote_2 9 rfl rfl)
theorem dX4_tellsNote_57 : decode cX4_tellsNote 57 = .ok (.if_icmp .ge 24, 3) := dk_162 0 24 (dk_at dksX4_tellsNote_2 10 rfl rfl)
theorem dX4_tellsNote_60 : decode cX4_tellsNote 60 = .ok (.aload_n 0, 1) := dk_42 (dk_at dksX4_tellsNote_2 13 rfl rfl)
theorem dX4_tellsNote_61 : decode cX4_tellsNote 61 = .ok (.iload_n 2, 1) := dk_28 (dk_at dksX4_tellsNote_2 14 rfl rfl)
theorem dX4_tellsNote_62 : decode cX4_tellsNote 62 = .ok (.ifCond .le 8, 3) := dk_158 0 8 (dk_at dksX4_tellsNote_2 15 rfl rfl)
theorem dX4_tellsNote_65 : decode cX4_tellsNote 65 = .ok (.bipush 35, 2) := dk_16 35 (dk_at dksX4_tellsNote_2 18 rfl rfl)
theorem dX4_tellsNote_67 : decode cX4_tellsNote 67 = .ok (.goto 5, 3) := dk_167 0 5 (dk_at dksX4_tellsNote_2 20 rfl rfl)
theorem dX4_tellsNote_70 : decode cX4_tellsNote 70 = .ok (.bipush 98, 2) := dk_16 98 (dk_at dksX4_tellsNote_3 0 rfl rfl)
theorem dX4_tellsNote_72 : decode cX4_tellsNote 72 = .ok (.invokevirtual 136, 3) := dk_182 0 136 (dk_at dksX4_tellsNote_3 2 rfl rfl)
theorem dX4_tellsNote_75 : decode cX4_tellsNote 75 = .ok (.iinc 4 1, 3) := dk_132 4 1 (dk_at dksX4_tellsNote_3 5 rfl rfl)
theorem dX4_tellsNote_78 : decode cX4_tellsNote 78 = .ok (.goto (-31), 3) := dk_167 255 225 (dk_at dksX4_tellsNote_3 8 rfl rfl)
theorem dX4_tellsNote_81 : decode cX4_tellsNote 81 = .ok (.return_, 1) := dk_177 (dk_at dksX4_tellsNote_3 11 rfl rfl)
theorem dX4_names_0 : decode cX4_names 0 = .ok (.aload_n 0, 1) := dk_42 (dk_at dksX4_names_0 0 rfl rfl)
theorem dX4_names_1 : decode cX4_names 1 = .ok (.iconst 0, 1) := dk_3 (dk_at dksX4_names_0 1 rfl rfl)
theorem dX4_names_2 : decode cX4_names 2 = .ok (.putfield 133, 3) := dk_181 0 133 (dk_at dksX4_names_0 2 rfl rfl)
theorem dX4_names_5 : decode cX4_names 5 = .ok (.aload_n 0, 1) := dk_42 (dk_at dksX4_names_0 5 rfl rfl)
theorem dX4_names_6 : decode cX4_names 6 = .ok (.aload_n 0, 1) := dk_42 (dk_at dksX4_names_0 6 rfl rfl)
theorem dX4_names_7 : decode cX4_names 7 = .ok (.getfield 7, 3) := dk_180 0 7 (dk_at dksX4_names_0 7 rfl rfl)
theorem dX4_names_10 : decode cX4_names 10 = .ok (.iload_n 1, 1) := dk_27 (dk_at dksX4_names_0 10 rfl rfl)
theorem dX4_names_11 : decode cX4_names 11 = .ok (.invokestatic 94, 3) := dk_184 0 94 (dk_at dksX4_names_0 11 rfl rfl)
theorem dX4_names_14 : decode cX4_names 14 = .ok (.iconst 2, 1) := dk_5 (dk_at dksX4_names_0 14 rfl rfl)
theorem dX4_names_15 : decode cX4_names 15 = .ok (.iadd, 1) := dk_96 (dk_at dksX4_names_0 15 rfl rfl)
theorem dX4_names_16 : decode cX4_names 16 = .ok (.iaload, 1) := dk_46 (dk_at dksX4_names_0 16 rfl rfl)
theorem dX4_names_17 : decode cX4_names 17 = .ok (.invokevirtual 140, 3) := dk_182 0 140 (dk_at dksX4_names_0 17 rfl rfl)
theorem dX4_names_20 : decode cX4_names 20 = .ok (.iconst 0, 1) := dk_3 (dk_at dksX4_names_0 20 rfl rfl)
theorem dX4_names_21 : decode cX4_names 21 = .ok (.istore_n 2, 1) := dk_61 (dk_at dksX4_names_0 21 rfl rfl)
theorem dX4_names_22 : decode cX4_names 22 = .ok (.iconst 0, 1) := dk_3 (dk_at dksX4_names_0 22 rfl rfl)
theorem dX4_names_23 : decode cX4_names 23 = .ok (.istore_n 3, 1) := dk_62 (dk_at dksX4_names_0 23 rfl rfl)
theorem dX4_names_24 : decode cX4_names 24 = .ok (.iload_n 3, 1) := dk_29 (dk_at dksX4_names_1 0 rfl rfl)
theorem dX4_names_25 : decode cX4_names 25 = .ok (.aload_n 0, 1) := dk_42 (dk_at dksX4_names_1 1 rfl rfl)
theorem dX4_names_26 : decode cX4_names 26 = .ok (.getfield 31, 3) := dk_180 0 31 (dk_at dksX4_names_1 2 rfl rfl)
theorem dX4_names_29 : decode cX4_names 29 = .ok (.arraylength, 1) := dk_190 (dk_at dksX4_names_1 5 rfl rfl)
theorem dX4_names_30 : decode cX4_names 30 = .ok (.if_icmp .ge 51, 3) := dk_162 0 51 (dk_at dksX4_names_1 6 rfl rfl)
theorem dX4_names_33 : decode cX4_names 33 = .ok (.aload_n 0, 1) := dk_42 (dk_at dksX4_names_1 9 rfl rfl)
theorem dX4_names_34 : decode cX4_names 34 = .ok (.getfield 31, 3) := dk_180 0 31 (dk_at dksX4_names_1 10 rfl rfl)
theorem dX4_names_37 : decode cX4_names 37 = .ok (.iload_n 3, 1) := dk_29 (dk_at dksX4_names_1 13 rfl rfl)
theorem dX4_names_38 : decode cX4_names 38 = .ok (.caload, 1) := dk_52 (dk_at dksX4_names_1 14 rfl rfl)
theorem dX4_names_39 : decode cX4_names 39 = .ok (.bipush 59, 2) := dk_16 59 (dk_at dksX4_names_1 15 rfl rfl)
theorem dX4_names_41 : decode cX4_names 41 = .ok (.if_icmp .ne 9, 3) := dk_160 0 9 (dk_at dksX4_names_1 17 rfl rfl)
theorem dX4_names_44 : decode cX4_names 44 = .ok (.iinc 2 1, 3) := dk_132 2 1 (dk_at dksX4_names_1 20 rfl rfl)
theorem dX4_names_47 : decode cX4_names 47 = .ok (.goto 28, 3) := dk_167 0 28 (dk_at dksX4_names_2 0 rfl rfl)
theorem dX4_names_50 : decode cX4_names 50 = .ok (.iload_n 2, 1) := dk_28 (dk_at dksX4_names_2 3 rfl rfl)
theorem dX4_names_51 : decode cX4_names 51 = .ok (.aload_n 0, 1) := dk_42 (dk_at dksX4_names_2 4 rfl rfl)
theorem dX4_names_52 : decode cX4_names 52 = .ok (.getfield 7, 3) := dk_180 0 7 (dk_at dksX4_names_2 5 rfl rfl)
theorem dX4_names_55 : decode cX4_names 55 = .ok (.iload_n 1, 1) := dk_27 (dk_at dksX4_names_2 8 rfl rfl)
theorem dX4_names_56 : decode cX4_names 56 = .ok (.invokestatic 94, 3) := dk_184 0 94 (dk_at dksX4_names_2 9 rfl rfl)
theorem dX4_names_59 : decode cX4_names 59 = .ok (.iconst 3, 1) := dk_6 (dk_at dksX4_names_2 12 rfl rfl)
theorem dX4_names_60 : decode cX4_names 60 = .ok (.iadd, 1) := dk_96 (dk_at dksX4_names_2 13 rfl rfl)
theorem dX4_names_61 : decode cX4_names 61 = .ok (.iaload, 1) := dk_46 (dk_at dksX4_names_2 14 rfl rfl)
theorem dX4_names_62 : decode cX4_names 62 = .ok (.if_icmp .ne 13, 3) := dk_160 0 13 (dk_at dksX4_names_2 15 rfl rfl)
theorem dX4_names_65 : decode cX4_names 65 = .ok (.aload_n 0, 1) := dk_42 (dk_at dksX4_names_2 18 rfl rfl)
theorem dX4_names_66 : decode cX4_names 66 = .ok (.aload_n 0, 1) := dk_42 (dk_at dksX4_names_2 19 rfl rfl)
theorem dX4_names_67 : decode cX4_names 67 = .ok (.getfield 31, 3) := dk_180 0 31 (dk_at dksX4_names_2 20 rfl rfl)
theorem dX4_names_70 : decode cX4_names 70 = .ok (.iload_n 3, 1) := dk_29 (dk_at dksX4_names_2 23 rfl rfl)
theorem dX4_names_71 : decode cX4_names 71 = .ok (.caload, 1) := dk_52 (dk_at dksX4_names_3 0 rfl rfl)
theorem dX4_names_72 : decode cX4_names 72 = .ok (.invokevirtual 136, 3) := dk_182 0 136 (dk_at dksX4_names_3 1 rfl rfl)
theorem dX4_names_75 : decode cX4_names 75 = .ok (.iinc 3 1, 3) := dk_132 3 1 (dk_at dksX4_names_3 4 rfl rfl)
theorem dX4_names_78 : decode cX4_names 78 = .ok (.goto (-54), 3) := dk_167 255 202 (dk_at dksX4_names_3 7 rfl rfl)
theorem dX4_names_81 : decode cX4_names 81 = .ok (.aload_n 0, 1) := dk_42 (dk_at dksX4_names_3 10 rfl rfl)
theorem dX4_names_82 : decode cX4_names 82 = .ok (.getfield 7, 3) := dk_180 0 7 (dk_at dksX4_names_3 11 rfl rfl)
theorem dX4_names_85 : decode cX4_names 85 = .ok (.iload_n 1, 1) := dk_27 (dk_at dksX4_names_3 14 rfl rfl)
theorem dX4_names_86 : decode cX4_names 86 = .ok (.invokestatic 94, 3) := dk_184 0 94 (dk_at dksX4_names_3 15 rfl rfl)
theorem dX4_names_89 : decode cX4_names 89 = .ok (.iconst 4, 1) := dk_7 (dk_at dksX4_names_3 18 rfl rfl)
theorem dX4_names_90 : decode cX4_names 90 = .ok (.iadd, 1) := dk_96 (dk_at dksX4_names_3 19 rfl rfl)
theorem dX4_names_91 : decode cX4_names 91 = .ok (.iaload, 1) := dk_46 (dk_at dksX4_names_3 20 rfl rfl)
theorem dX4_names_92 : decode cX4_names 92 = .ok (.bipush 100, 2) := dk_16 100 (dk_at dksX4_names_3 21 rfl rfl)
theorem dX4_names_94 : decode cX4_names 94 = .ok (.if_icmp .eq 24, 3) := dk_159 0 24 (dk_at dksX4_names_4 0 rfl rfl)
theorem dX4_names_97 : decode cX4_names 97 = .ok (.aload_n 0, 1) := dk_42 (dk_at dksX4_names_4 3 rfl rfl)
theorem dX4_names_98 : decode cX4_names 98 = .ok (.bipush 47, 2) := dk_16 47 (dk_at dksX4_names_4 4 rfl rfl)
theorem dX4_names_100 : decode cX4_names 100 = .ok (.invokevirtual 136, 3) := dk_182 0 136 (dk_at dksX4_names_4 6 rfl rfl)
theorem dX4_names_103 : decode cX4_names 103 = .ok (.aload_n 0, 1) := dk_42 (dk_at dksX4_names_4 9 rfl rfl)
theorem dX4_names_104 : decode cX4_names 104 = .ok (.aload_n 0, 1) := dk_42 (dk_at dksX4_names_4 10 rfl rfl)
theorem dX4_names_105 : decode cX4_names 105 = .ok (.getfield 7, 3) := dk_180 0 7 (dk_at dksX4_names_4 11 rfl rfl)
theorem dX4_names_108 : decode cX4_names 108 = .ok (.iload_n 1, 1) := dk_27 (dk_at dksX4_names_4 14 rfl rfl)
theorem dX4_names_109 : decode cX4_names 109 = .ok (.invokestatic 94, 3) := dk_184 0 94 (dk_at dksX4_names_4 15 rfl rfl)
theorem dX4_names_112 : decode cX4_names 112 = .ok (.iconst 4, 1) := dk_7 (dk_at dksX4_names_4 18 rfl rfl)
theorem dX4_names_113 : decode cX4_names 113 = .ok (.iadd, 1) := dk_96 (dk_at dksX4_names_4 19 rfl rfl)
theorem dX4_names_114 : decode cX4_names 114 = .ok (.iaload, 1) := dk_46 (dk_at dksX4_names_4 20 rfl rfl)
theorem dX4_names_115 : decode cX4_names 115 = .ok (.invokevirtual 140, 3) := dk_182 0 140 (dk_at dksX4_names_4 21 rfl rfl)
theorem dX4_names_118 : decode cX4_names 118 = .ok (.return_, 1) := dk_177 (dk_at dksX4_names_5 0 rfl rfl)
theorem dX4_nameChar_0 : decode cX4_nameChar 0 = .ok (.aload_n 0, 1) := dk_42 (dk_at dksX4_nameChar_0 0 rfl rfl)
theorem dX4_nameChar_1 : decode cX4_nameChar 1 = .ok (.iconst 0, 1) := dk_3 (dk_at dksX4_nameChar_0 1 rfl rfl)
theorem dX4_nameChar_2 : decode cX4_nameChar 2 = .ok (.putfield 46, 3) := dk_181 0 46 (dk_at dksX4_nameChar_0 2 rfl rfl)
theorem dX4_nameChar_5 : decode cX4_nameChar 5 = .ok (.aload_n 0, 1) := dk_42 (dk_at dksX4_nameChar_0 5 rfl rfl)
theorem dX4_nameChar_6 : decode cX4_nameChar 6 = .ok (.iload_n 1, 1) := dk_27 (dk_at dksX4_nameChar_0 6 rfl rfl)
theorem dX4_nameChar_7 : decode cX4_nameChar 7 = .ok (.invokevirtual 127, 3) := dk_182 0 127 (dk_at dksX4_nameChar_0 7 rfl rfl)
theorem dX4_nameChar_10 : decode cX4_nameChar 10 = .ok (.ifCond .eq 7, 3) := dk_153 0 7 (dk_at dksX4_nameChar_0 10 rfl rfl)
theorem dX4_nameChar_13 : decode cX4_nameChar 13 = .ok (.iload_n 2, 1) := dk_28 (dk_at dksX4_nameChar_0 13 rfl rfl)
theorem dX4_nameChar_14 : decode cX4_nameChar 14 = .ok (.ifCond .ge 9, 3) := dk_156 0 9 (dk_at dksX4_nameChar_0 14 rfl rfl)
theorem dX4_nameChar_17 : decode cX4_nameChar 17 = .ok (.aload_n 0, 1) := dk_42 (dk_at dksX4_nameChar_0 17 rfl rfl)
theorem dX4_nameChar_18 : decode cX4_nameChar 18 = .ok (.iconst 1, 1) := dk_4 (dk_at dksX4_nameChar_0 18 rfl rfl)
theorem dX4_nameChar_19 : decode cX4_nameChar 19 = .ok (.invokevirtual 101, 3) := dk_182 0 101 (dk_at dksX4_nameChar_0 19 rfl rfl)
theorem dX4_nameChar_22 : decode cX4_nameChar 22 = .ok (.ireturn, 1) := dk_172 (dk_at dksX4_nameChar_0 22 rfl rfl)
theorem dX4_nameChar_23 : decode cX4_nameChar 23 = .ok (.aload_n 0, 1) := dk_42 (dk_at dksX4_nameChar_0 23 rfl rfl)
theorem dX4_nameChar_24 : decode cX4_nameChar 24 = .ok (.iload_n 1, 1) := dk_27 (dk_at dksX4_nameChar_1 0 rfl rfl)
theorem dX4_nameChar_25 : decode cX4_nameChar 25 = .ok (.invokevirtual 143, 3) := dk_182 0 143 (dk_at dksX4_nameChar_1 1 rfl rfl)
theorem dX4_nameChar_28 : decode cX4_nameChar 28 = .ok (.iload_n 2, 1) := dk_28 (dk_at dksX4_nameChar_1 4 rfl rfl)
theorem dX4_nameChar_29 : decode cX4_nameChar 29 = .ok (.aload_n 0, 1) := dk_42 (dk_at dksX4_nameChar_1 5 rfl rfl)
theorem dX4_nameChar_30 : decode cX4_nameChar 30 = .ok (.getfield 133, 3) := dk_180 0 133 (dk_at dksX4_nameChar_1 6 rfl rfl)
theorem dX4_nameChar_33 : decode cX4_nameChar 33 = .ok (.if_icmp .ge 12, 3) := dk_162 0 12 (dk_at dksX4_nameChar_1 9 rfl rfl)
theorem dX4_nameChar_36 : decode cX4_nameChar 36 = .ok (.aload_n 0, 1) := dk_42 (dk_at dksX4_nameChar_1 12 rfl rfl)
theorem dX4_nameChar_37 : decode cX4_nameChar 37 = .ok (.getfield 37, 3) := dk_180 0 37 (dk_at dksX4_nameChar_1 13 rfl rfl)
theorem dX4_nameChar_40 : decode cX4_nameChar 40 = .ok (.iload_n 2, 1) := dk_28 (dk_at dksX4_nameChar_1 16 rfl rfl)
theorem dX4_nameChar_41 : decode cX4_nameChar 41 = .ok (.iaload, 1) := dk_46 (dk_at dksX4_nameChar_1 17 rfl rfl)
theorem dX4_nameChar_42 : decode cX4_nameChar 42 = .ok (.goto 4, 3) := dk_167 0 4 (dk_at dksX4_nameChar_1 18 rfl rfl)
theorem dX4_nameChar_45 : decode cX4_nameChar 45 = .ok (.iconst (-1), 1) := dk_2 (dk_at dksX4_nameChar_1 21 rfl rfl)
theorem dX4_nameChar_46 : decode cX4_nameChar 46 = .ok (.ireturn, 1) := dk_172 (dk_at dksX4_nameChar_1 22 rfl rfl)
theorem q2100 : (Jvm.Cond.fieldLink "ChordSheetModel" (37 : Nat) "ChordSheetModel" "name" "[I") ∈ lw_all := lw_g (lw_at lw_m9 118 rfl) rfl
theorem q2101 : (Jvm.Cond.fieldLink "ChordSheetModel" (133 : Nat) "ChordSheetModel" "named" "I") ∈ lw_all := lw_g (lw_at lw_m9 119 rfl) rfl
theorem q2302 : (Jvm.Cond.methodLink "ChordSheetModel" (143 : Nat) ({ cls := "ChordSheetModel", name := "names", desc := "(I)V" } : Jvm.MethodName)) ∈ lw_all := lw_g (lw_at lw_m10 80 rfl) rfl
theorem q2304 : (Jvm.Cond.instanceMethod ({ cls := "ChordSheetModel", name := "names", desc := "(I)V" } : Jvm.MethodName)) ∈ lw_all := lw_g (lw_at lw_m10 82 rfl) rfl
theorem q2305 : (Jvm.Cond.code ({ cls := "ChordSheetModel", name := "names", desc := "(I)V" } : Jvm.MethodName) prog_11_method_37_code (4 : Nat) (Option.none : Option Jvm.ClassFile.FieldType)) ∈ lw_all := lw_g (lw_at lw_m10 83 rfl) rfl
theorem q2306 : (Jvm.Cond.methodLink "ChordSheetModel" (140 : Nat) ({ cls := "ChordSheetModel", name := "tellsNote", desc := "(I)V" } : Jvm.MethodName)) ∈ lw_all := lw_g (lw_at lw_m10 84 rfl) rfl
theorem q2308 : (Jvm.Cond.instanceMethod ({ cls := "ChordSheetModel", name := "tellsNote", desc := "(I)V" } : Jvm.MethodName)) ∈ lw_all := lw_g (lw_at lw_m10 86 rfl) rfl
theorem q2309 : (Jvm.Cond.code ({ cls := "ChordSheetModel", name := "tellsNote", desc := "(I)V" } : Jvm.MethodName) prog_11_method_36_code (5 : Nat) (Option.none : Option Jvm.ClassFile.FieldType)) ∈ lw_all := lw_g (lw_at lw_m10 87 rfl) rfl
theorem q2310 : (Jvm.Cond.methodLink "ChordSheetModel" (136 : Nat) ({ cls := "ChordSheetModel", name := "tells", desc := "(I)V" } : Jvm.MethodName)) ∈ lw_all := lw_g (lw_at lw_m10 88 rfl) rfl
theorem q2312 : (Jvm.Cond.instanceMethod ({ cls := "ChordSheetModel", name := "tells", desc := "(I)V" } : Jvm.MethodName)) ∈ lw_all := lw_g (lw_at lw_m10 90 rfl) rfl
theorem q2313 : (Jvm.Cond.code ({ cls := "ChordSheetModel", name := "tells", desc := "(I)V" } : Jvm.MethodName) prog_11_method_35_code (2 : Nat) (Option.none : Option Jvm.ClassFile.FieldType)) ∈ lw_all := lw_g (lw_at lw_m10 91 rfl) rfl
/-- a list is written from a place on -/
def wrL (N : Nat → Int) (n : Nat) (l : List Int) : Nat → Int := fun j => if n ≤ j ∧ j < n + l.length then l.getD (j - n) 0 else N j
theorem wrL_0 (N : Nat → Int) (n : Nat) : wrL N n [] = N := by
  funext j
  unfold wrL
  rw [if_neg (by simp only [List.length_nil]; omega)]
theorem wrL_s (N : Nat → Int) (n : Nat) (l : List Int) (c : Int) : updI (wrL N n l) (n + l.length) c = wrL N n (l ++ [c]) := by
  funext j
  unfold updI wrL
  by_cases e : j = n + l.length
  · rw [if_pos e, if_pos (by simp; omega), e, show n + l.length - n = l.length by omega, List.getD_eq_getElem?_getD, List.getElem?_append_right (Nat.le_refl _)]
    simp
  · rw [if_neg e]
    by_cases d : n ≤ j ∧ j < n + l.length
    · rw [if_pos d, if_pos (by simp; omega), List.getD_eq_getElem?_getD, List.getD_eq_getElem?_getD, List.getElem?_append_left (by omega)]
    · rw [if_neg d, if_neg (by simp; omega)]
theorem wrL_a (N : Nat → Int) (n : Nat) (l r : List Int) : wrL (wrL N n l) (n + l.length) r = wrL N n (l ++ r) := by
  funext j
  unfold wrL
  by_cases d : n + l.length ≤ j ∧ j < n + l.length + r.length
  · rw [if_pos d, if_pos (by simp; omega), List.getD_eq_getElem?_getD, List.getD_eq_getElem?_getD, List.getElem?_append_right (by omega)]
    congr 2
    omega
  · rw [if_neg d]
    by_cases e : n ≤ j ∧ j < n + l.length
    · rw [if_pos e, if_pos (by simp; omega), List.getD_eq_getElem?_getD, List.getD_eq_getElem?_getD, List.getElem?_append_left (by omega)]
    · rw [if_neg e, if_neg (by simp; omega)]
theorem wrL_at {N : Nat → Int} {l : List Int} {k : Nat} {d : Int} (h : l[k]? = some d) : wrL N 0 l k = d := by
  have hk := (List.getElem?_eq_some_iff.mp h).1
  unfold wrL
  rw [if_pos (by omega), Nat.sub_zero, List.getD_eq_getElem?_getD, h]
  rfl
def qpf (q : Nat) : Nat → List Int
  | 0 => []
  | k + 1 => if qaF k = 59 then qpf q k else if qcn k = q then qpf q k ++ [qaF k] else qpf q k
theorem qpf_e : ∀ q : Nat, q < 10 → qpf q 30 = qlt (q : Nat) := by decide
theorem qpf_l : ∀ q : Nat, q < 10 → ∀ k : Nat, k < 31 → (qpf q k).length ≤ 4 := by decide
set_option maxHeartbeats 4000000 in
theorem m_tells {l : Launch} (hl : l.stackTraces = false) {Γ : zCx} {h : zH} {A : zMA} {st ty si ff wd th ap nt rr rq rb wh nd up lo : Int} {V P T M N U W : Nat → Int} (hM : mM h A st ty si ff wd th ap nt rr rq rb wh nd up lo V P T M N U W) {c : Int} (hnd : 0 ≤ nd ∧ nd < 20)  : zMet l yX4_tells (ws_ yX4_tells cX4_tells 2 none) ({ frames := 0, cells := 0, slots := 0, locals := 0 }) Γ h [.ref A.m, .int (iI c)] (zrt (fun w h' => w = none ∧ mM h' A st ty si ff wd th ap nt rr rq rb wh (nd + 1) up lo V P T M (updI N nd.toNat c) U W ∧ zkeep h h' [A.m, A.v, A.pa, A.tx, A.ma, A.na, A.ua, A.la])) 0 0 := by
  refine zMet.of (cc := cX4_tells) hl (plainFor_of_name (by decide +kernel)) (Nat.le_of_ble_eq_true rfl) ?_
  intro X hXl hXΓ hXp C hnm hnL
  have C : zC X cX4_tells RX4 none 0 0 [] := C
  have hnL : X.2.1.2.2.2.2 = 2 := hnL
  subst hXl hXΓ
  show Z X h 0 0 [(0, .ref A.m), (1, .int (iI c))] 0 []
  obtain ⟨gm_1, gv_1, gpa_1, gtx_1, gma_1, gna_1, gua_1, gla_1, gle_1, gqa_1, gd_1⟩ := id hM
  refine z_aload_n (pc := 0) (j := 0) C dX4_tells_0 rfl rfl ?_
  refine z_getfield (pc := 1) (v := .ref A.na) C in_X4 rfl 18 (by decide) q2100 (fun _ z => z) gm_1 rfl dX4_tells_1 ?_
  refine z_aload_n (pc := 4) (j := 0) C dX4_tells_4 rfl rfl ?_
  refine z_getfield (pc := 5) (v := .int (iI nd)) C in_X4 rfl 19 (by decide) q2101 (fun _ z => z) gm_1 rfl dX4_tells_5 ?_
  refine z_iload_n (pc := 8) (j := 1) C dX4_tells_8 rfl rfl ?_
  refine z_iastore (pc := 9) (f' := (mA (updI N (Int.toNat nd) c))) C gna_1 (by omega) (mA_up _ _ _) dX4_tells_9 ?_
  refine Z.nm (fun h2 eh2 => ?_)
  have kh2 : zkeep h h2 [A.m, A.v, A.pa, A.tx, A.ma, A.na, A.ua, A.la] := by rw [eh2]; exact zkeep.up zkeep.rf (Or.inl (by simp)) gna_1
  have fh2_0 : h2 A.na = some (true, .inl (.int, 20, (mA (updI N (Int.toNat nd) c)))) := zse eh2
  have fh2_1 : h2 A.m = some (true, .inr (3, [.ref A.v, .ref A.pa, .int (iI st), .ref A.tx, .int (iI ty), .int (iI si), .int (iI ff), .int (iI wd), .int (iI th), .ref A.le, .ref A.qa, .int (iI ap), .int (iI nt), .int (iI rr), .int (iI rq), .int (iI rb), .int (iI wh), .ref A.ma, .ref A.na, .int (iI nd), .ref A.ua, .ref A.la, .int (iI up), .int (iI lo)])) := zsn eh2 gm_1 (zneA gm_1 gna_1)
  have fh2_2 : h2 A.v = some (true, .inl (.int, 620, (mA V))) := zsn eh2 gv_1 gd_1.2.2.2.1
  have fh2_3 : h2 A.pa = some (true, .inl (.int, 4960, (mA P))) := zsn eh2 gpa_1 gd_1.2.2.2.2.2.2.2.2.1
  have fh2_4 : h2 A.tx = some (true, .inl (.int, 200, (mA T))) := zsn eh2 gtx_1 gd_1.2.2.2.2.2.2.2.2.2.2.2.2.1
  have fh2_5 : h2 A.ma = some (true, .inl (.int, 620, (mA M))) := zsn eh2 gma_1 gd_1.2.2.2.2.2.2.2.2.2.2.2.2.2.2.2.1
  have fh2_6 : h2 A.ua = some (true, .inl (.int, 1200, (mA U))) := zsn eh2 gua_1 (Ne.symm gd_1.2.2.2.2.2.2.2.2.2.2.2.2.2.2.2.2.2.2.1)
  have fh2_7 : h2 A.la = some (true, .inl (.int, 1200, (mA W))) := zsn eh2 gla_1 (Ne.symm gd_1.2.2.2.2.2.2.2.2.2.2.2.2.2.2.2.2.2.2.2.1)
  refine z_aload_n (pc := 10) (j := 0) C dX4_tells_10 rfl rfl ?_
  refine z_dup (pc := 11) C dX4_tells_11 rfl ?_
  refine z_getfield (pc := 12) (v := .int (iI nd)) C in_X4 rfl 19 (by decide) q2101 (fun _ z => z) fh2_1 rfl dX4_tells_12 ?_
  refine z_iconst (pc := 15) C dX4_tells_15 ?_
  refine z_iadd (pc := 16) C dX4_tells_16 ?_
  refine z_putfield (pc := 17) (fs' := [.ref A.v, .ref A.pa, .int (iI st), .ref A.tx, .int (iI ty), .int (iI si), .int (iI ff), .int (iI wd), .int (iI th), .ref A.le, .ref A.qa, .int (iI ap), .int (iI nt), .int (iI rr), .int (iI rq), .int (iI rb), .int (iI wh), .ref A.ma, .ref A.na, .int (iI (nd + 1)), .ref A.ua, .ref A.la, .int (iI up), .int (iI lo)]) C in_X4 tyX4 tyX4_ok nmX4 rfl 19 (by decide) q2101 (fun _ z => z) rfl rfl rfl (Nat.le_of_ble_eq_true rfl) fh2_1 rfl dX4_tells_17 ?_
  refine Z.nm (fun h3 eh3 => ?_)
  have kh3 : zkeep h h3 [A.m, A.v, A.pa, A.tx, A.ma, A.na, A.ua, A.la] := by rw [eh3]; exact zkeep.up kh2 (Or.inl (by simp)) fh2_1
  have fh3_0 : h3 A.m = some (true, .inr (3, [.ref A.v, .ref A.pa, .int (iI st), .ref A.tx, .int (iI ty), .int (iI si), .int (iI ff), .int (iI wd), .int (iI th), .ref A.le, .ref A.qa, .int (iI ap), .int (iI nt), .int (iI rr), .int (iI rq), .int (iI rb), .int (iI wh), .ref A.ma, .ref A.na, .int (iI (nd + 1)), .ref A.ua, .ref A.la, .int (iI up), .int (iI lo)])) := zse eh3
  have fh3_1 : h3 A.v = some (true, .inl (.int, 620, (mA V))) := zsn eh3 fh2_2 (Ne.symm (zneA fh2_1 fh2_2))
  have fh3_2 : h3 A.pa = some (true, .inl (.int, 4960, (mA P))) := zsn eh3 fh2_3 (Ne.symm (zneA fh2_1 fh2_3))
  have fh3_3 : h3 A.tx = some (true, .inl (.int, 200, (mA T))) := zsn eh3 fh2_4 (Ne.symm (zneA fh2_1 fh2_4))
  have fh3_4 : h3 A.ma = some (true, .inl (.int, 620, (mA M))) := zsn eh3 fh2_5 (Ne.symm (zneA fh2_1 fh2_5))
  have fh3_5 : h3 A.ua = some (true, .inl (.int, 1200, (mA U))) := zsn eh3 fh2_6 (Ne.symm (zneA fh2_1 fh2_6))
  have fh3_6 : h3 A.la = some (true, .inl (.int, 1200, (mA W))) := zsn eh3 fh2_7 (Ne.symm (zneA fh2_1 fh2_7))
  have fh3_7 : h3 A.na = some (true, .inl (.int, 20, (mA (updI N (Int.toNat nd) c)))) := zsn eh3 fh2_0 (Ne.symm (zneA fh2_1 fh2_0))
  exact z_return (pc := 20) C (by rw [hXp]; exact ⟨_, rfl, rfl, ⟨fh3_0, fh3_1, fh3_2, fh3_3, fh3_4, fh3_7, fh3_5, fh3_6, (kh3.n gle_1 (List.not_mem_cons_of_ne_of_not_mem (Ne.symm (zneA gm_1 gle_1)) (List.not_mem_cons_of_ne_of_not_mem (zneT gle_1 gv_1 (by simp)) (List.not_mem_cons_of_ne_of_not_mem (zneT gle_1 gpa_1 (by simp)) (List.not_mem_cons_of_ne_of_not_mem (zneT gle_1 gtx_1 (by simp)) (List.not_mem_cons_of_ne_of_not_mem (zneT gle_1 gma_1 (by simp)) (List.not_mem_cons_of_ne_of_not_mem (zneT gle_1 gna_1 (by simp)) (List.not_mem_cons_of_ne_of_not_mem (zneT gle_1 gua_1 (by simp)) (List.not_mem_cons_of_ne_of_not_mem (zneT gle_1 gla_1 (by simp)) List.not_mem_nil))))))))), (kh3.n gqa_1 (List.not_mem_cons_of_ne_of_not_mem (Ne.symm (zneA gm_1 gqa_1)) (List.not_mem_cons_of_ne_of_not_mem (zneT gqa_1 gv_1 (by simp)) (List.not_mem_cons_of_ne_of_not_mem (zneT gqa_1 gpa_1 (by simp)) (List.not_mem_cons_of_ne_of_not_mem (zneT gqa_1 gtx_1 (by simp)) (List.not_mem_cons_of_ne_of_not_mem (zneT gqa_1 gma_1 (by simp)) (List.not_mem_cons_of_ne_of_not_mem (zneT gqa_1 gna_1 (by simp)) (List.not_mem_cons_of_ne_of_not_mem (zneT gqa_1 gua_1 (by simp)) (List.not_mem_cons_of_ne_of_not_mem (zneT gqa_1 gla_1 (by simp)) List.not_mem_nil))))))))), gd_1⟩, kh3⟩) dX4_tells_20
set_option maxHeartbeats 4000000 in
theorem m_tnote {l : Launch} (hl : l.stackTraces = false) {Γ : zCx} {h : zH} {A : zMA} {st ty si ff wd th ap nt rr rq rb wh nd up lo : Int} {V P T M N U W : Nat → Int} (hM : mM h A st ty si ff wd th ap nt rr rq rb wh nd up lo V P T M N U W) {p : Int} (hp : -15 ≤ p ∧ p ≤ 19) (hnd : 0 ≤ nd ∧ nd ≤ 16)  : zMet l yX4_tellsNote (ws_ yX4_tellsNote cX4_tellsNote 5 none) ({ frames := 1, cells := 0, slots := 0, locals := 21 }) Γ h [.ref A.m, .int (iI p)] (zrt (fun w h' => w = none ∧ mM h' A st ty si ff wd th ap nt rr rq rb wh (nd + ((nte p).length : Nat)) up lo V P T M (wrL N nd.toNat (nte p)) U W ∧ zkeep h h' [A.m, A.v, A.pa, A.tx, A.ma, A.na, A.ua, A.la])) 0 0 := by
  refine zMet.of (cc := cX4_tellsNote) hl (plainFor_of_name (by decide +kernel)) (Nat.le_of_ble_eq_true rfl) ?_
  intro X hXl hXΓ hXp C hnm hnL
  have C : zC X cX4_tellsNote RX4 none 1 21 [] := C
  have hnL : X.2.1.2.2.2.2 = 5 := hnL
  subst hXl hXΓ
  show Z X h 0 0 [(0, .ref A.m), (1, .int (iI p))] 0 []
  obtain ⟨gm_1, gv_1, gpa_1, gtx_1, gma_1, gna_1, gua_1, gla_1, gle_1, gqa_1, gd_1⟩ := id hM
  refine z_iconst (pc := 0) C dX4_tellsNote_0 ?_
  refine z_istore_n (pc := 1) (L' := [(2, .int (iI 0)), (0, .ref A.m), (1, .int (iI p))]) C dX4_tellsNote_1 rfl (by rw [hnL]; decide) rfl ?_
  refine z_iload_n (pc := 2) (j := 2) C dX4_tellsNote_2 rfl rfl ?_
  refine z_istore_n (pc := 3) (L' := [(3, .int (iI p)), (2, .int (iI 0)), (0, .ref A.m), (1, .int (iI p))]) C dX4_tellsNote_3 rfl (by rw [hnL]; decide) rfl ?_
  have loop4 : ∀ (n4 : Nat) (l : Int) (s : Int), (p = l + 7 * s ∧ -15 ≤ l ∧ l ≤ 19 ∧ s ≤ 0 ∧ (s = 0 ∨ l ≤ 5)) → ((20 - l).toNat) = n4 → Z X h 0 0 [(3, .int (iI l)), (2, .int (iI s)), (1, .int (iI p)), (0, .ref A.m)] 4 [] := by
    intro n4
    induction n4 using Nat.strongRecOn with
    | ind n4 ih4 =>
    intro l s hl_ hn4
    refine z_iload_n (pc := 4) (j := 0) C dX4_tellsNote_4 rfl rfl ?_
    refine z_iconst (pc := 5) C dX4_tellsNote_5 ?_
    refine z_icmp_ge (pc := 6) (tgt := 18) C dX4_tellsNote_6 (by decide) (by omega) (by decide) (fun c6 => ?_) (fun c6 => ?_)
    · have loop18 : ∀ (n18 : Nat) (l2 : Int) (s2 : Int), (p = l2 + 7 * s2 ∧ -1 ≤ l2 ∧ l2 ≤ 19 ∧ (s2 ≤ 0 → l2 ≤ 5 ∨ s2 = 0) ∧ (0 < s2 → 6 ≤ p)) → ((20 + l2).toNat) = n18 → Z X h 0 0 [(3, .int (iI l2)), (2, .int (iI s2)), (1, .int (iI p)), (0, .ref A.m)] 18 [] := by
        intro n18
        induction n18 using Nat.strongRecOn with
        | ind n18 ih18 =>
        intro l2 s2 hl2 hn18
        refine z_iload_n (pc := 18) (j := 0) C dX4_tellsNote_18 rfl rfl ?_
        refine z_iconst (pc := 19) C dX4_tellsNote_19 ?_
        refine z_icmp_le (pc := 20) (tgt := 32) C dX4_tellsNote_20 (by decide) (by omega) (by decide) (fun c20 => ?_) (fun c20 => ?_)
        · have hac : s2 = acc p := by unfold acc; omega
          have hlt : l2 + 1 = (p + 1) % 7 := by omega
          have hnc : nac p = (if 0 ≤ s2 then s2 else -s2).toNat := by unfold nac iabs; rw [← hac]
          have hnl := nac_r hp
          have hch : ltF (Int.toNat (l2 + 1)) = nch p := by rw [hlt]; rfl
          refine z_aload_n (pc := 32) (j := 3) C dX4_tellsNote_32 rfl rfl ?_
          refine z_aload_n (pc := 33) (j := 3) C dX4_tellsNote_33 rfl rfl ?_
          refine z_getfield (pc := 34) (v := .ref A.le) C in_X4 rfl 9 (by decide) q2091 (fun _ z => z) gm_1 rfl dX4_tellsNote_34 ?_
          refine z_iload_n (pc := 37) (j := 0) C dX4_tellsNote_37 rfl rfl ?_
          refine z_iconst (pc := 38) C dX4_tellsNote_38 ?_
          refine z_iadd (pc := 39) C dX4_tellsNote_39 ?_
          refine z_caload (pc := 40) (v := .int (iI (ltF (Int.toNat (l2 + 1))))) C gle_1 (by omega) rfl dX4_tellsNote_40 ?_
          refine z_callV (pc := 41) (n := 1) (kc' := 0) (ks' := 0) C (m_tells C.t ⟨gm_1, gv_1, gpa_1, gtx_1, gma_1, gna_1, gua_1, gla_1, gle_1, gqa_1, gd_1⟩ (c := ltF (Int.toNat (l2 + 1))) (by omega)) (lw_V q2310 q2312 qs44 q74 q2313) (by decide +kernel) ⟨by decide, by decide⟩ gm_1 rfl rfl rfl (Nat.le_of_ble_eq_true rfl) dX4_tellsNote_41 (by omega) (by omega) (zrk fun w h2 hp => ?_) zrx
          obtain ⟨rfl, hM_4, k3⟩ := hp
          have kh2 : zkeep h h2 [A.m, A.v, A.pa, A.tx, A.ma, A.na, A.ua, A.la] := zkeep.loc zkeep.rf k3 (fun q hq => Or.inl (Or.inr hq))
          have hM_4 : mM h2 A st ty si ff wd th ap nt rr rq rb wh (nd + 1) up lo V P T M (updI N (Int.toNat nd) (ltF (Int.toNat (l2 + 1)))) U W := hM_4
          obtain ⟨gm_5, gv_5, gpa_5, gtx_5, gma_5, gna_5, gua_5, gla_5, gle_5, gqa_5, gd_5⟩ := id hM_4
          show Z X h2 0 0 [(3, .int (iI l2)), (2, .int (iI s2)), (1, .int (iI p)), (0, .ref A.m)] 44 []
          refine z_iconst (pc := 44) C dX4_tellsNote_44 ?_
          refine z_istore (pc := 45) (L' := [(4, .int (iI 0)), (3, .int (iI l2)), (2, .int (iI s2)), (1, .int (iI p)), (0, .ref A.m)]) C dX4_tellsNote_45 (by rw [hnL]; decide) rfl ?_
          have hw1 : (updI N (Int.toNat nd) (ltF (Int.toNat (l2 + 1)))) = wrL N nd.toNat ([nch p] ++ List.replicate (0 : Int).toNat (ncs p)) := by
            have := wrL_s N nd.toNat [] (nch p)
            rw [wrL_0] at this
            rw [← hch, show nd.toNat = nd.toNat + ([] : List Int).length from rfl, hch]
            exact this
          have loop47 : ∀ (n47 : Nat) (k : Int) (Nv : Nat → Int) (nv : Int) (g47 : zH), (mM g47 A st ty si ff wd th ap nt rr rq rb wh nv up lo V P T M Nv U W) → (zkeep h g47 [A.m, A.v, A.pa, A.tx, A.ma, A.na, A.ua, A.la]) → (0 ≤ k ∧ k ≤ (nac p : Nat)) → (Nv = wrL N nd.toNat ([nch p] ++ List.replicate k.toNat (ncs p))) → (nv = nd + 1 + k) → (((nac p : Nat) - k).toNat) = n47 → Z X g47 0 0 [(4, .int (iI k)), (2, .int (iI s2)), (1, .int (iI p)), (0, .ref A.m)] 47 [] := by
            intro n47
            induction n47 using Nat.strongRecOn with
            | ind n47 ih47 =>
            intro k Nv nv g47 hMg47 hkp47 hk hN hnv hn47
            obtain ⟨gm_6, gv_6, gpa_6, gtx_6, gma_6, gna_6, gua_6, gla_6, gle_6, gqa_6, gd_6⟩ := id hMg47
            refine z_iload (pc := 47) (j := 0) C dX4_tellsNote_47 rfl ?_
            refine z_iload_n (pc := 49) (j := 1) C dX4_tellsNote_49 rfl rfl ?_
            refine z_icmp_lt (pc := 50) (tgt := 60) C dX4_tellsNote_50 (by decide) (by omega) (by omega) (fun c50 => ?_) (fun c50 => ?_)
            · refine z_aload_n (pc := 60) (j := 3) C dX4_tellsNote_60 rfl rfl ?_
              refine z_iload_n (pc := 61) (j := 1) C dX4_tellsNote_61 rfl rfl ?_
              refine z_if_le (pc := 62) (tgt := 70) C dX4_tellsNote_62 (by decide) (by omega) (fun c62 => ?_) (fun c62 => ?_)
              · refine z_bipush (pc := 70) C dX4_tellsNote_70 (by decide) ?_
                refine z_callV (pc := 72) (n := 1) (kc' := 0) (ks' := 0) C (m_tells C.t ⟨gm_6, gv_6, gpa_6, gtx_6, gma_6, gna_6, gua_6, gla_6, gle_6, gqa_6, gd_6⟩ (c := 98) (by omega)) (lw_V q2310 q2312 qs44 q74 q2313) (by decide +kernel) ⟨by decide, by decide⟩ gm_6 rfl rfl rfl (Nat.le_of_ble_eq_true rfl) dX4_tellsNote_72 (by omega) (by omega) (zrk fun w h7 hp => ?_) zrx
                obtain ⟨rfl, hM_9, k8⟩ := hp
                have kh7 : zkeep h h7 [A.m, A.v, A.pa, A.tx, A.ma, A.na, A.ua, A.la] := zkeep.loc hkp47 k8 (fun q hq => Or.inl (Or.inr hq))
                have hM_9 : mM h7 A st ty si ff wd th ap nt rr rq rb wh (nv + 1) up lo V P T M (updI Nv (Int.toNat nv) 98) U W := hM_9
                obtain ⟨gm_10, gv_10, gpa_10, gtx_10, gma_10, gna_10, gua_10, gla_10, gle_10, gqa_10, gd_10⟩ := id hM_9
                show Z X h7 0 0 [(4, .int (iI k)), (2, .int (iI s2)), (1, .int (iI p)), (0, .ref A.m)] 75 []
                have hcs : (98 : Int) = ncs p := by unfold ncs; split <;> omega
                have hNn : (updI Nv (Int.toNat nv) 98) = wrL N nd.toNat ([nch p] ++ List.replicate (k + 1).toNat (ncs p)) := by
                  have h1 := wrL_s N nd.toNat ([nch p] ++ List.replicate k.toNat (ncs p)) (ncs p)
                  rw [show (k + 1).toNat = k.toNat + 1 by omega, List.replicate_succ', ← List.append_assoc, ← h1, hN, hcs]
                  congr 1
                  simp only [List.length_append, List.length_replicate, List.length_cons, List.length_nil]
                  omega
                refine z_iinc (pc := 75) (k := 0) (L' := [(4, .int (iI (k + 1))), (2, .int (iI s2)), (1, .int (iI p)), (0, .ref A.m)]) C dX4_tellsNote_75 rfl (by rw [hnL]; decide) rfl ?_
                refine z_goto (pc := 78) (tgt := 47) C dX4_tellsNote_78 (by decide) ?_
                refine Z.weak (L' := [(4, .int (iI (k + 1))), (2, .int (iI s2)), (1, .int (iI p)), (0, .ref A.m)]) (kc' := 0) (ks' := 0) [0, 1, 2, 3] rfl (by omega) (by omega) ?_
                exact ih47 _ (by omega) (k + 1) (updI Nv (Int.toNat nv) 98) (nv + 1) h7 ⟨gm_10, gv_10, gpa_10, gtx_10, gma_10, gna_10, gua_10, gla_10, gle_10, gqa_10, gd_10⟩ kh7 (by omega) hNn (by omega) rfl
              · refine z_bipush (pc := 65) C dX4_tellsNote_65 (by decide) ?_
                refine z_goto (pc := 67) (tgt := 72) C dX4_tellsNote_67 (by decide) ?_
                refine z_callV (pc := 72) (n := 1) (kc' := 0) (ks' := 0) C (m_tells C.t ⟨gm_6, gv_6, gpa_6, gtx_6, gma_6, gna_6, gua_6, gla_6, gle_6, gqa_6, gd_6⟩ (c := 35) (by omega)) (lw_V q2310 q2312 qs44 q74 q2313) (by decide +kernel) ⟨by decide, by decide⟩ gm_6 rfl rfl rfl (Nat.le_of_ble_eq_true rfl) dX4_tellsNote_72 (by omega) (by omega) (zrk fun w h11 hp => ?_) zrx
                obtain ⟨rfl, hM_13, k12⟩ := hp
                have kh11 : zkeep h h11 [A.m, A.v, A.pa, A.tx, A.ma, A.na, A.ua, A.la] := zkeep.loc hkp47 k12 (fun q hq => Or.inl (Or.inr hq))
                have hM_13 : mM h11 A st ty si ff wd th ap nt rr rq rb wh (nv + 1) up lo V P T M (updI Nv (Int.toNat nv) 35) U W := hM_13
                obtain ⟨gm_14, gv_14, gpa_14, gtx_14, gma_14, gna_14, gua_14, gla_14, gle_14, gqa_14, gd_14⟩ := id hM_13
                show Z X h11 0 0 [(4, .int (iI k)), (2, .int (iI s2)), (1, .int (iI p)), (0, .ref A.m)] 75 []
                have hcs : (35 : Int) = ncs p := by unfold ncs; split <;> omega
                have hNn : (updI Nv (Int.toNat nv) 35) = wrL N nd.toNat ([nch p] ++ List.replicate (k + 1).toNat (ncs p)) := by
                  have h1 := wrL_s N nd.toNat ([nch p] ++ List.replicate k.toNat (ncs p)) (ncs p)
                  rw [show (k + 1).toNat = k.toNat + 1 by omega, List.replicate_succ', ← List.append_assoc, ← h1, hN, hcs]
                  congr 1
                  simp only [List.length_append, List.length_replicate, List.length_cons, List.length_nil]
                  omega
                refine z_iinc (pc := 75) (k := 0) (L' := [(4, .int (iI (k + 1))), (2, .int (iI s2)), (1, .int (iI p)), (0, .ref A.m)]) C dX4_tellsNote_75 rfl (by rw [hnL]; decide) rfl ?_
                refine z_goto (pc := 78) (tgt := 47) C dX4_tellsNote_78 (by decide) ?_
                refine Z.weak (L' := [(4, .int (iI (k + 1))), (2, .int (iI s2)), (1, .int (iI p)), (0, .ref A.m)]) (kc' := 0) (ks' := 0) [0, 1, 2, 3] rfl (by omega) (by omega) ?_
                exact ih47 _ (by omega) (k + 1) (updI Nv (Int.toNat nv) 35) (nv + 1) h11 ⟨gm_14, gv_14, gpa_14, gtx_14, gma_14, gna_14, gua_14, gla_14, gle_14, gqa_14, gd_14⟩ kh11 (by omega) hNn (by omega) rfl
            · refine z_iload (pc := 53) (j := 0) C dX4_tellsNote_53 rfl ?_
              refine z_iload_n (pc := 55) (j := 1) C dX4_tellsNote_55 rfl rfl ?_
              refine z_ineg (pc := 56) C dX4_tellsNote_56 ?_
              refine z_icmp_ge (pc := 57) (tgt := 81) C dX4_tellsNote_57 (by decide) (by omega) (by omega) (fun c57 => ?_) (fun c57 => ?_)
              · have hke : k.toNat = nac p := by omega
                have hNe : Nv = wrL N nd.toNat (nte p) := by rw [hN, hke]; rfl
                have hne : nv = nd + ((nte p).length : Nat) := by unfold nte; simp only [List.length_cons, List.length_replicate]; omega
                have hmz15 : mM g47 A st ty si ff wd th ap nt rr rq rb wh (nd + ((nte p).length : Nat)) up lo V P T M (wrL N nd.toNat (nte p)) U W := by rw [← hNe, ← hne]; exact ⟨gm_6, gv_6, gpa_6, gtx_6, gma_6, gna_6, gua_6, gla_6, gle_6, gqa_6, gd_6⟩
                exact z_return (pc := 81) C (by rw [hXp]; exact ⟨_, rfl, rfl, hmz15, hkp47⟩) dX4_tellsNote_81
              · refine z_aload_n (pc := 60) (j := 3) C dX4_tellsNote_60 rfl rfl ?_
                refine z_iload_n (pc := 61) (j := 1) C dX4_tellsNote_61 rfl rfl ?_
                refine z_if_le (pc := 62) (tgt := 70) C dX4_tellsNote_62 (by decide) (by omega) (fun c62 => ?_) (fun c62 => ?_)
                · refine z_bipush (pc := 70) C dX4_tellsNote_70 (by decide) ?_
                  refine z_callV (pc := 72) (n := 1) (kc' := 0) (ks' := 0) C (m_tells C.t ⟨gm_6, gv_6, gpa_6, gtx_6, gma_6, gna_6, gua_6, gla_6, gle_6, gqa_6, gd_6⟩ (c := 98) (by omega)) (lw_V q2310 q2312 qs44 q74 q2313) (by decide +kernel) ⟨by decide, by decide⟩ gm_6 rfl rfl rfl (Nat.le_of_ble_eq_true rfl) dX4_tellsNote_72 (by omega) (by omega) (zrk fun w h16 hp => ?_) zrx
                  obtain ⟨rfl, hM_18, k17⟩ := hp
                  have kh16 : zkeep h h16 [A.m, A.v, A.pa, A.tx, A.ma, A.na, A.ua, A.la] := zkeep.loc hkp47 k17 (fun q hq => Or.inl (Or.inr hq))
                  have hM_18 : mM h16 A st ty si ff wd th ap nt rr rq rb wh (nv + 1) up lo V P T M (updI Nv (Int.toNat nv) 98) U W := hM_18
                  obtain ⟨gm_19, gv_19, gpa_19, gtx_19, gma_19, gna_19, gua_19, gla_19, gle_19, gqa_19, gd_19⟩ := id hM_18
                  show Z X h16 0 0 [(4, .int (iI k)), (2, .int (iI s2)), (1, .int (iI p)), (0, .ref A.m)] 75 []
                  have hcs : (98 : Int) = ncs p := by unfold ncs; split <;> omega
                  have hNn : (updI Nv (Int.toNat nv) 98) = wrL N nd.toNat ([nch p] ++ List.replicate (k + 1).toNat (ncs p)) := by
                    have h1 := wrL_s N nd.toNat ([nch p] ++ List.replicate k.toNat (ncs p)) (ncs p)
                    rw [show (k + 1).toNat = k.toNat + 1 by omega, List.replicate_succ', ← List.append_assoc, ← h1, hN, hcs]
                    congr 1
                    simp only [List.length_append, List.length_replicate, List.length_cons, List.length_nil]
                    omega
                  refine z_iinc (pc := 75) (k := 0) (L' := [(4, .int (iI (k + 1))), (2, .int (iI s2)), (1, .int (iI p)), (0, .ref A.m)]) C dX4_tellsNote_75 rfl (by rw [hnL]; decide) rfl ?_
                  refine z_goto (pc := 78) (tgt := 47) C dX4_tellsNote_78 (by decide) ?_
                  refine Z.weak (L' := [(4, .int (iI (k + 1))), (2, .int (iI s2)), (1, .int (iI p)), (0, .ref A.m)]) (kc' := 0) (ks' := 0) [0, 1, 2, 3] rfl (by omega) (by omega) ?_
                  exact ih47 _ (by omega) (k + 1) (updI Nv (Int.toNat nv) 98) (nv + 1) h16 ⟨gm_19, gv_19, gpa_19, gtx_19, gma_19, gna_19, gua_19, gla_19, gle_19, gqa_19, gd_19⟩ kh16 (by omega) hNn (by omega) rfl
                · refine z_bipush (pc := 65) C dX4_tellsNote_65 (by decide) ?_
                  refine z_goto (pc := 67) (tgt := 72) C dX4_tellsNote_67 (by decide) ?_
                  refine z_callV (pc := 72) (n := 1) (kc' := 0) (ks' := 0) C (m_tells C.t ⟨gm_6, gv_6, gpa_6, gtx_6, gma_6, gna_6, gua_6, gla_6, gle_6, gqa_6, gd_6⟩ (c := 35) (by omega)) (lw_V q2310 q2312 qs44 q74 q2313) (by decide +kernel) ⟨by decide, by decide⟩ gm_6 rfl rfl rfl (Nat.le_of_ble_eq_true rfl) dX4_tellsNote_72 (by omega) (by omega) (zrk fun w h20 hp => ?_) zrx
                  obtain ⟨rfl, hM_22, k21⟩ := hp
                  have kh20 : zkeep h h20 [A.m, A.v, A.pa, A.tx, A.ma, A.na, A.ua, A.la] := zkeep.loc hkp47 k21 (fun q hq => Or.inl (Or.inr hq))
                  have hM_22 : mM h20 A st ty si ff wd th ap nt rr rq rb wh (nv + 1) up lo V P T M (updI Nv (Int.toNat nv) 35) U W := hM_22
                  obtain ⟨gm_23, gv_23, gpa_23, gtx_23, gma_23, gna_23, gua_23, gla_23, gle_23, gqa_23, gd_23⟩ := id hM_22
                  show Z X h20 0 0 [(4, .int (iI k)), (2, .int (iI s2)), (1, .int (iI p)), (0, .ref A.m)] 75 []
                  have hcs : (35 : Int) = ncs p := by unfold ncs; split <;> omega
                  have hNn : (updI Nv (Int.toNat nv) 35) = wrL N nd.toNat ([nch p] ++ List.replicate (k + 1).toNat (ncs p)) := by
                    have h1 := wrL_s N nd.toNat ([nch p] ++ List.replicate k.toNat (ncs p)) (ncs p)
                    rw [show (k + 1).toNat = k.toNat + 1 by omega, List.replicate_succ', ← List.append_assoc, ← h1, hN, hcs]
                    congr 1
                    simp only [List.length_append, List.length_replicate, List.length_cons, List.length_nil]
                    omega
                  refine z_iinc (pc := 75) (k := 0) (L' := [(4, .int (iI (k + 1))), (2, .int (iI s2)), (1, .int (iI p)), (0, .ref A.m)]) C dX4_tellsNote_75 rfl (by rw [hnL]; decide) rfl ?_
                  refine z_goto (pc := 78) (tgt := 47) C dX4_tellsNote_78 (by decide) ?_
                  refine Z.weak (L' := [(4, .int (iI (k + 1))), (2, .int (iI s2)), (1, .int (iI p)), (0, .ref A.m)]) (kc' := 0) (ks' := 0) [0, 1, 2, 3] rfl (by omega) (by omega) ?_
                  exact ih47 _ (by omega) (k + 1) (updI Nv (Int.toNat nv) 35) (nv + 1) h20 ⟨gm_23, gv_23, gpa_23, gtx_23, gma_23, gna_23, gua_23, gla_23, gle_23, gqa_23, gd_23⟩ kh20 (by omega) hNn (by omega) rfl
          refine Z.weak (L' := [(4, .int (iI 0)), (2, .int (iI s2)), (1, .int (iI p)), (0, .ref A.m)]) (kc' := 0) (ks' := 0) [0, 2, 3, 4] rfl (by omega) (by omega) ?_
          exact loop47 _ 0 (updI N (Int.toNat nd) (ltF (Int.toNat (l2 + 1)))) (nd + 1) h2 ⟨gm_5, gv_5, gpa_5, gtx_5, gma_5, gna_5, gua_5, gla_5, gle_5, gqa_5, gd_5⟩ kh2 (by omega) hw1 (by omega) rfl
        · refine z_iinc (pc := 23) (k := 0) (L' := [(3, .int (iI (l2 + (-7)))), (2, .int (iI s2)), (1, .int (iI p)), (0, .ref A.m)]) C dX4_tellsNote_23 rfl (by rw [hnL]; decide) rfl ?_
          refine z_iinc (pc := 26) (k := 1) (L' := [(2, .int (iI (s2 + 1))), (3, .int (iI (l2 + (-7)))), (1, .int (iI p)), (0, .ref A.m)]) C dX4_tellsNote_26 rfl (by rw [hnL]; decide) rfl ?_
          refine z_goto (pc := 29) (tgt := 18) C dX4_tellsNote_29 (by decide) ?_
          refine Z.weak (L' := [(3, .int (iI (l2 + (-7)))), (2, .int (iI (s2 + 1))), (1, .int (iI p)), (0, .ref A.m)]) (kc' := 0) (ks' := 0) [1, 0, 2, 3] rfl (by omega) (by omega) ?_
          exact ih18 _ (by omega) (l2 + (-7)) (s2 + 1) (by omega) rfl
      refine Z.weak (L' := [(3, .int (iI l)), (2, .int (iI s)), (1, .int (iI p)), (0, .ref A.m)]) (kc' := 0) (ks' := 0) [0, 1, 2, 3] rfl (by omega) (by omega) ?_
      exact loop18 _ l s (by omega) rfl
    · refine z_iinc (pc := 9) (k := 0) (L' := [(3, .int (iI (l + 7))), (2, .int (iI s)), (1, .int (iI p)), (0, .ref A.m)]) C dX4_tellsNote_9 rfl (by rw [hnL]; decide) rfl ?_
      refine z_iinc (pc := 12) (k := 1) (L' := [(2, .int (iI (s + (-1)))), (3, .int (iI (l + 7))), (1, .int (iI p)), (0, .ref A.m)]) C dX4_tellsNote_12 rfl (by rw [hnL]; decide) rfl ?_
      refine z_goto (pc := 15) (tgt := 4) C dX4_tellsNote_15 (by decide) ?_
      refine Z.weak (L' := [(3, .int (iI (l + 7))), (2, .int (iI (s + (-1)))), (1, .int (iI p)), (0, .ref A.m)]) (kc' := 0) (ks' := 0) [1, 0, 2, 3] rfl (by omega) (by omega) ?_
      exact ih4 _ (by omega) (l + 7) (s + (-1)) (by omega) rfl
  refine Z.weak (L' := [(3, .int (iI p)), (2, .int (iI 0)), (1, .int (iI p)), (0, .ref A.m)]) (kc' := 0) (ks' := 0) [0, 1, 3, 2] rfl (by omega) (by omega) ?_
  exact loop4 _ p 0 (by omega) rfl
set_option maxHeartbeats 4000000 in
theorem m_names {l : Launch} (hl : l.stackTraces = false) {Γ : zCx} {h : zH} {A : zMA} {st ty si ff wd th ap nt rr rq rb wh nd up lo : Int} {V P T M N U W : Nat → Int} (hM : mM h A st ty si ff wd th ap nt rr rq rb wh nd up lo V P T M N U W) {S : zSh} (hS : vS V S) (hsl : shL S) (hsr : shR S) {i : Int} {x : zCh} (hi : 0 ≤ i) (hx : S.cs[i.toNat]? = some x)  : zMet l yX4_names (ws_ yX4_names cX4_names 4 none) ({ frames := 2, cells := 0, slots := 0, locals := 45 }) Γ h [.ref A.m, .int (iI i)] (zrt (fun w h' => w = none ∧ mM h' A st ty si ff wd th ap nt rr rq rb wh ((((nmt x.2.2.1 x.2.2.2.1 x.2.2.2.2)).length : Nat) : Int) up lo V P T M (wrL N 0 (nmt x.2.2.1 x.2.2.2.1 x.2.2.2.2)) U W ∧ zkeep h h' [A.m, A.v, A.pa, A.tx, A.ma, A.na, A.ua, A.la])) 0 0 := by
  refine zMet.of (cc := cX4_names) hl (plainFor_of_name (by decide +kernel)) (Nat.le_of_ble_eq_true rfl) ?_
  intro X hXl hXΓ hXp C hnm hnL
  have C : zC X cX4_names RX4 none 2 45 [] := C
  have hnL : X.2.1.2.2.2.2 = 4 := hnL
  subst hXl hXΓ
  show Z X h 0 0 [(0, .ref A.m), (1, .int (iI i))] 0 []
  obtain ⟨gm_1, gv_1, gpa_1, gtx_1, gma_1, gna_1, gua_1, gla_1, gle_1, gqa_1, gd_1⟩ := id hM
  obtain ⟨hsl1, hsl2, hsl3⟩ := id hsl
  have hix := (List.getElem?_eq_some_iff.mp hx).1
  obtain ⟨hx1, hx2, hx3, hx4, hx5⟩ := hS.c hi hx
  obtain ⟨xr1, xr2, xr3, xr4, xr5⟩ := hsr.2.1 _ (List.mem_of_getElem? hx)
  refine z_aload_n (pc := 0) (j := 0) C dX4_names_0 rfl rfl ?_
  refine z_iconst (pc := 1) C dX4_names_1 ?_
  refine z_putfield (pc := 2) (fs' := [.ref A.v, .ref A.pa, .int (iI st), .ref A.tx, .int (iI ty), .int (iI si), .int (iI ff), .int (iI wd), .int (iI th), .ref A.le, .ref A.qa, .int (iI ap), .int (iI nt), .int (iI rr), .int (iI rq), .int (iI rb), .int (iI wh), .ref A.ma, .ref A.na, .int (iI 0), .ref A.ua, .ref A.la, .int (iI up), .int (iI lo)]) C in_X4 tyX4 tyX4_ok nmX4 rfl 19 (by decide) q2101 (fun _ z => z) rfl rfl rfl (Nat.le_of_ble_eq_true rfl) gm_1 rfl dX4_names_2 ?_
  refine Z.nm (fun h2 eh2 => ?_)
  have kh2 : zkeep h h2 [A.m, A.v, A.pa, A.tx, A.ma, A.na, A.ua, A.la] := by rw [eh2]; exact zkeep.up zkeep.rf (Or.inl (by simp)) gm_1
  have fh2_0 : h2 A.m = some (true, .inr (3, [.ref A.v, .ref A.pa, .int (iI st), .ref A.tx, .int (iI ty), .int (iI si), .int (iI ff), .int (iI wd), .int (iI th), .ref A.le, .ref A.qa, .int (iI ap), .int (iI nt), .int (iI rr), .int (iI rq), .int (iI rb), .int (iI wh), .ref A.ma, .ref A.na, .int (iI 0), .ref A.ua, .ref A.la, .int (iI up), .int (iI lo)])) := zse eh2
  have fh2_1 : h2 A.v = some (true, .inl (.int, 620, (mA V))) := zsn eh2 gv_1 (Ne.symm (zneA gm_1 gv_1))
  have fh2_2 : h2 A.pa = some (true, .inl (.int, 4960, (mA P))) := zsn eh2 gpa_1 (Ne.symm (zneA gm_1 gpa_1))
  have fh2_3 : h2 A.tx = some (true, .inl (.int, 200, (mA T))) := zsn eh2 gtx_1 (Ne.symm (zneA gm_1 gtx_1))
  have fh2_4 : h2 A.ma = some (true, .inl (.int, 620, (mA M))) := zsn eh2 gma_1 (Ne.symm (zneA gm_1 gma_1))
  have fh2_5 : h2 A.na = some (true, .inl (.int, 20, (mA N))) := zsn eh2 gna_1 (Ne.symm (zneA gm_1 gna_1))
  have fh2_6 : h2 A.ua = some (true, .inl (.int, 1200, (mA U))) := zsn eh2 gua_1 (Ne.symm (zneA gm_1 gua_1))
  have fh2_7 : h2 A.la = some (true, .inl (.int, 1200, (mA W))) := zsn eh2 gla_1 (Ne.symm (zneA gm_1 gla_1))
  refine z_aload_n (pc := 5) (j := 0) C dX4_names_5 rfl rfl ?_
  refine z_aload_n (pc := 6) (j := 0) C dX4_names_6 rfl rfl ?_
  refine z_getfield (pc := 7) (v := .ref A.v) C in_X4 rfl 0 (by decide) q2082 (fun _ z => z) fh2_0 rfl dX4_names_7 ?_
  refine z_iload_n (pc := 10) (j := 1) C dX4_names_10 rfl rfl ?_
  refine z_callS (pc := 11) (n := 1) (kc' := 0) (ks' := 0) C (m_chord C.t (x := i)) (lw_S q2203 q2204 q74 q2205) (by decide +kernel) ⟨by decide, by decide⟩ rfl rfl (Nat.le_of_ble_eq_true rfl) dX4_names_11 (by omega) (by omega) (zpk (st' := [.int (iI (210 + 5 * i)), .ref A.v, .ref A.m]) rfl ?_) zrx
  refine z_iconst (pc := 14) C dX4_names_14 ?_
  refine z_iadd (pc := 15) C dX4_names_15 ?_
  refine z_iaload (pc := 16) (v := .int (iI x.2.2.1)) C fh2_1 (by omega) (mA_e (vE hx3 (by omega))) dX4_names_16 ?_
  refine z_callV (pc := 17) (n := 1) (kc' := 0) (ks' := 0) C (m_tnote C.t ⟨fh2_0, fh2_1, fh2_2, fh2_3, fh2_4, fh2_5, fh2_6, fh2_7, (kh2.n gle_1 (List.not_mem_cons_of_ne_of_not_mem (Ne.symm (zneA gm_1 gle_1)) (List.not_mem_cons_of_ne_of_not_mem (zneT gle_1 gv_1 (by simp)) (List.not_mem_cons_of_ne_of_not_mem (zneT gle_1 gpa_1 (by simp)) (List.not_mem_cons_of_ne_of_not_mem (zneT gle_1 gtx_1 (by simp)) (List.not_mem_cons_of_ne_of_not_mem (zneT gle_1 gma_1 (by simp)) (List.not_mem_cons_of_ne_of_not_mem (zneT gle_1 gna_1 (by simp)) (List.not_mem_cons_of_ne_of_not_mem (zneT gle_1 gua_1 (by simp)) (List.not_mem_cons_of_ne_of_not_mem (zneT gle_1 gla_1 (by simp)) List.not_mem_nil))))))))), (kh2.n gqa_1 (List.not_mem_cons_of_ne_of_not_mem (Ne.symm (zneA gm_1 gqa_1)) (List.not_mem_cons_of_ne_of_not_mem (zneT gqa_1 gv_1 (by simp)) (List.not_mem_cons_of_ne_of_not_mem (zneT gqa_1 gpa_1 (by simp)) (List.not_mem_cons_of_ne_of_not_mem (zneT gqa_1 gtx_1 (by simp)) (List.not_mem_cons_of_ne_of_not_mem (zneT gqa_1 gma_1 (by simp)) (List.not_mem_cons_of_ne_of_not_mem (zneT gqa_1 gna_1 (by simp)) (List.not_mem_cons_of_ne_of_not_mem (zneT gqa_1 gua_1 (by simp)) (List.not_mem_cons_of_ne_of_not_mem (zneT gqa_1 gla_1 (by simp)) List.not_mem_nil))))))))), gd_1⟩ (p := x.2.2.1) (by omega) (by omega)) (lw_V q2306 q2308 qs43 q74 q2309) (by decide +kernel) ⟨by decide, by decide⟩ fh2_0 rfl rfl rfl (Nat.le_of_ble_eq_true rfl) dX4_names_17 (by omega) (by omega) (zrk fun w h3 hp => ?_) zrx
  obtain ⟨rfl, hM_5, k4⟩ := hp
  have kh3 : zkeep h h3 [A.m, A.v, A.pa, A.tx, A.ma, A.na, A.ua, A.la] := zkeep.loc kh2 k4 (fun q hq => Or.inl (Or.inr hq))
  have hM_5 : mM h3 A st ty si ff wd th ap nt rr rq rb wh (0 + ((nte x.2.2.1).length : Nat)) up lo V P T M (wrL N (Int.toNat 0) (nte x.2.2.1)) U W := hM_5
  obtain ⟨gm_6, gv_6, gpa_6, gtx_6, gma_6, gna_6, gua_6, gla_6, gle_6, gqa_6, gd_6⟩ := id hM_5
  show Z X h3 0 0 [(0, .ref A.m), (1, .int (iI i))] 20 []
  refine z_iconst (pc := 20) C dX4_names_20 ?_
  refine z_istore_n (pc := 21) (L' := [(2, .int (iI 0)), (0, .ref A.m), (1, .int (iI i))]) C dX4_names_21 rfl (by rw [hnL]; decide) rfl ?_
  refine z_iconst (pc := 22) C dX4_names_22 ?_
  refine z_istore_n (pc := 23) (L' := [(3, .int (iI 0)), (2, .int (iI 0)), (0, .ref A.m), (1, .int (iI i))]) C dX4_names_23 rfl (by rw [hnL]; decide) rfl ?_
  have hb0 : (wrL N (Int.toNat 0) (nte x.2.2.1)) = wrL N 0 (nte x.2.2.1 ++ qpf x.2.2.2.1.toNat (0 : Int).toNat) := by rw [show qpf x.2.2.2.1.toNat (0 : Int).toNat = [] from rfl, List.append_nil]; rfl
  have hntl := nte_r xr3
  have loop24 : ∀ (n24 : Nat) (k : Int) (n : Int) (Nv : Nat → Int) (nv : Int) (g24 : zH), (mM g24 A st ty si ff wd th ap nt rr rq rb wh nv up lo V P T M Nv U W) → (zkeep h g24 [A.m, A.v, A.pa, A.tx, A.ma, A.na, A.ua, A.la]) → (0 ≤ k ∧ k ≤ 30) → (n = (qcn k.toNat : Nat)) → (Nv = wrL N 0 (nte x.2.2.1 ++ qpf x.2.2.2.1.toNat k.toNat)) → (nv = ((nte x.2.2.1).length : Nat) + ((qpf x.2.2.2.1.toNat k.toNat).length : Nat)) → ((30 - k).toNat) = n24 → Z X g24 0 0 [(3, .int (iI k)), (2, .int (iI n)), (1, .int (iI i)), (0, .ref A.m)] 24 [] := by
    intro n24
    induction n24 using Nat.strongRecOn with
    | ind n24 ih24 =>
    intro k n Nv nv g24 hMg24 hkp24 hk hn hN hnv hn24
    obtain ⟨gm_7, gv_7, gpa_7, gtx_7, gma_7, gna_7, gua_7, gla_7, gle_7, gqa_7, gd_7⟩ := id hMg24
    refine z_iload_n (pc := 24) (j := 0) C dX4_names_24 rfl rfl ?_
    refine z_aload_n (pc := 25) (j := 3) C dX4_names_25 rfl rfl ?_
    refine z_getfield (pc := 26) (v := .ref A.qa) C in_X4 rfl 10 (by decide) q2092 (fun _ z => z) gm_7 rfl dX4_names_26 ?_
    refine z_alen (pc := 29) C gqa_7 dX4_names_29 ?_
    refine z_icmp_ge (pc := 30) (tgt := 81) C dX4_names_30 (by decide) (by omega) (by decide) (fun c30 => ?_) (fun c30 => ?_)
    · have hqe : qpf x.2.2.2.1.toNat k.toNat = qlt x.2.2.2.1 := by have := qpf_e x.2.2.2.1.toNat (by omega); rw [show (((x.2.2.2.1.toNat) : Nat) : Int) = x.2.2.2.1 by omega] at this; rw [show k.toNat = 30 by omega]; exact this
      rw [hqe] at hN hnv
      have hqll := qlt_l x.2.2.2.1
      refine z_aload_n (pc := 81) (j := 3) C dX4_names_81 rfl rfl ?_
      refine z_getfield (pc := 82) (v := .ref A.v) C in_X4 rfl 0 (by decide) q2082 (fun _ z => z) gm_7 rfl dX4_names_82 ?_
      refine z_iload_n (pc := 85) (j := 2) C dX4_names_85 rfl rfl ?_
      refine z_callS (pc := 86) (n := 1) (kc' := 0) (ks' := 0) C (m_chord C.t (x := i)) (lw_S q2203 q2204 q74 q2205) (by decide +kernel) ⟨by decide, by decide⟩ rfl rfl (Nat.le_of_ble_eq_true rfl) dX4_names_86 (by omega) (by omega) (zpk (st' := [.int (iI (210 + 5 * i)), .ref A.v]) rfl ?_) zrx
      refine z_iconst (pc := 89) C dX4_names_89 ?_
      refine z_iadd (pc := 90) C dX4_names_90 ?_
      refine z_iaload (pc := 91) (v := .int (iI x.2.2.2.2)) C gv_7 (by omega) (mA_e (vE hx5 (by omega))) dX4_names_91 ?_
      refine z_bipush (pc := 92) C dX4_names_92 (by decide) ?_
      refine z_icmp_eq (pc := 94) (tgt := 118) C dX4_names_94 (by decide) (by omega) (by decide) (fun c94 => ?_) (fun c94 => ?_)
      · have hnm : (nmt x.2.2.1 x.2.2.2.1 x.2.2.2.2) = nte x.2.2.1 ++ qlt x.2.2.2.1 := by unfold nmt; rw [if_pos (by omega)]; simp
        have hE1 : Nv = wrL N 0 (nmt x.2.2.1 x.2.2.2.1 x.2.2.2.2) := by rw [hnm]; exact hN
        have hE2 : (nv : Int) = ((((nmt x.2.2.1 x.2.2.2.1 x.2.2.2.2)).length : Nat) : Int) := by rw [hnm]; simp only [List.length_append]; omega
        have hmz8 : mM g24 A st ty si ff wd th ap nt rr rq rb wh ((((nmt x.2.2.1 x.2.2.2.1 x.2.2.2.2)).length : Nat) : Int) up lo V P T M (wrL N 0 (nmt x.2.2.1 x.2.2.2.1 x.2.2.2.2)) U W := by rw [← hE1, ← hE2]; exact ⟨gm_7, gv_7, gpa_7, gtx_7, gma_7, gna_7, gua_7, gla_7, gle_7, gqa_7, gd_7⟩
        exact z_return (pc := 118) C (by rw [hXp]; exact ⟨_, rfl, rfl, hmz8, hkp24⟩) dX4_names_118
      · refine z_aload_n (pc := 97) (j := 3) C dX4_names_97 rfl rfl ?_
        refine z_bipush (pc := 98) C dX4_names_98 (by decide) ?_
        refine z_callV (pc := 100) (n := 1) (kc' := 0) (ks' := 0) C (m_tells C.t ⟨gm_7, gv_7, gpa_7, gtx_7, gma_7, gna_7, gua_7, gla_7, gle_7, gqa_7, gd_7⟩ (c := 47) (by omega)) (lw_V q2310 q2312 qs44 q74 q2313) (by decide +kernel) ⟨by decide, by decide⟩ gm_7 rfl rfl rfl (Nat.le_of_ble_eq_true rfl) dX4_names_100 (by omega) (by omega) (zrk fun w h9 hp => ?_) zrx
        obtain ⟨rfl, hM_11, k10⟩ := hp
        have kh9 : zkeep h h9 [A.m, A.v, A.pa, A.tx, A.ma, A.na, A.ua, A.la] := zkeep.loc hkp24 k10 (fun q hq => Or.inl (Or.inr hq))
        have hM_11 : mM h9 A st ty si ff wd th ap nt rr rq rb wh (nv + 1) up lo V P T M (updI Nv (Int.toNat nv) 47) U W := hM_11
        obtain ⟨gm_12, gv_12, gpa_12, gtx_12, gma_12, gna_12, gua_12, gla_12, gle_12, gqa_12, gd_12⟩ := id hM_11
        show Z X h9 0 0 [(3, .int (iI k)), (2, .int (iI n)), (1, .int (iI i)), (0, .ref A.m)] 103 []
        refine z_aload_n (pc := 103) (j := 3) C dX4_names_103 rfl rfl ?_
        refine z_aload_n (pc := 104) (j := 3) C dX4_names_104 rfl rfl ?_
        refine z_getfield (pc := 105) (v := .ref A.v) C in_X4 rfl 0 (by decide) q2082 (fun _ z => z) gm_12 rfl dX4_names_105 ?_
        refine z_iload_n (pc := 108) (j := 2) C dX4_names_108 rfl rfl ?_
        refine z_callS (pc := 109) (n := 1) (kc' := 0) (ks' := 0) C (m_chord C.t (x := i)) (lw_S q2203 q2204 q74 q2205) (by decide +kernel) ⟨by decide, by decide⟩ rfl rfl (Nat.le_of_ble_eq_true rfl) dX4_names_109 (by omega) (by omega) (zpk (st' := [.int (iI (210 + 5 * i)), .ref A.v, .ref A.m]) rfl ?_) zrx
        refine z_iconst (pc := 112) C dX4_names_112 ?_
        refine z_iadd (pc := 113) C dX4_names_113 ?_
        refine z_iaload (pc := 114) (v := .int (iI x.2.2.2.2)) C gv_12 (by omega) (mA_e (vE hx5 (by omega))) dX4_names_114 ?_
        refine z_callV (pc := 115) (n := 1) (kc' := 0) (ks' := 0) C (m_tnote C.t ⟨gm_12, gv_12, gpa_12, gtx_12, gma_12, gna_12, gua_12, gla_12, gle_12, gqa_12, gd_12⟩ (p := x.2.2.2.2) (by omega) (by omega)) (lw_V q2306 q2308 qs43 q74 q2309) (by decide +kernel) ⟨by decide, by decide⟩ gm_12 rfl rfl rfl (Nat.le_of_ble_eq_true rfl) dX4_names_115 (by omega) (by omega) (zrk fun w h13 hp => ?_) zrx
        obtain ⟨rfl, hM_15, k14⟩ := hp
        have kh13 : zkeep h h13 [A.m, A.v, A.pa, A.tx, A.ma, A.na, A.ua, A.la] := zkeep.loc kh9 k14 (fun q hq => Or.inl (Or.inr hq))
        have hM_15 : mM h13 A st ty si ff wd th ap nt rr rq rb wh ((nv + 1) + ((nte x.2.2.2.2).length : Nat)) up lo V P T M (wrL (updI Nv (Int.toNat nv) 47) (Int.toNat (nv + 1)) (nte x.2.2.2.2)) U W := hM_15
        obtain ⟨gm_16, gv_16, gpa_16, gtx_16, gma_16, gna_16, gua_16, gla_16, gle_16, gqa_16, gd_16⟩ := id hM_15
        show Z X h13 0 0 [(3, .int (iI k)), (2, .int (iI n)), (1, .int (iI i)), (0, .ref A.m)] 118 []
        have hnm : (nmt x.2.2.1 x.2.2.2.1 x.2.2.2.2) = nte x.2.2.1 ++ qlt x.2.2.2.1 ++ [47] ++ nte x.2.2.2.2 := by unfold nmt; rw [if_neg (by omega)]; simp
        have hE1 : (wrL (updI Nv (Int.toNat nv) 47) (Int.toNat (nv + 1)) (nte x.2.2.2.2)) = wrL N 0 (nmt x.2.2.1 x.2.2.2.1 x.2.2.2.2) := by
          have h1 := wrL_s N 0 (nte x.2.2.1 ++ qlt x.2.2.2.1) 47
          have h2 := wrL_a N 0 (nte x.2.2.1 ++ qlt x.2.2.2.1 ++ [47]) (nte x.2.2.2.2)
          rw [hnm, ← h2, ← h1, hN]
          congr 1
          · congr 1
            simp only [List.length_append]; omega
          · simp only [List.length_append, List.length_cons, List.length_nil]; omega
        have hE2 : (((nv + 1) + ((nte x.2.2.2.2).length : Nat)) : Int) = ((((nmt x.2.2.1 x.2.2.2.1 x.2.2.2.2)).length : Nat) : Int) := by rw [hnm]; simp only [List.length_append, List.length_cons, List.length_nil]; omega
        have hmz17 : mM h13 A st ty si ff wd th ap nt rr rq rb wh ((((nmt x.2.2.1 x.2.2.2.1 x.2.2.2.2)).length : Nat) : Int) up lo V P T M (wrL N 0 (nmt x.2.2.1 x.2.2.2.1 x.2.2.2.2)) U W := by rw [← hE1, ← hE2]; exact ⟨gm_16, gv_16, gpa_16, gtx_16, gma_16, gna_16, gua_16, gla_16, gle_16, gqa_16, gd_16⟩
        exact z_return (pc := 118) C (by rw [hXp]; exact ⟨_, rfl, rfl, hmz17, kh13⟩) dX4_names_118
    · have hqs := qcn_s k.toNat (by omega)
      have hqr7 := qaF_r k.toNat (by omega)
      have hqc := qcn_le k.toNat (by omega)
      have hqpl := qpf_l x.2.2.2.1.toNat (by omega) k.toNat (by omega)
      refine z_aload_n (pc := 33) (j := 3) C dX4_names_33 rfl rfl ?_
      refine z_getfield (pc := 34) (v := .ref A.qa) C in_X4 rfl 10 (by decide) q2092 (fun _ z => z) gm_7 rfl dX4_names_34 ?_
      refine z_iload_n (pc := 37) (j := 0) C dX4_names_37 rfl rfl ?_
      refine z_caload (pc := 38) (v := .int (iI (qaF (Int.toNat k)))) C gqa_7 (by omega) rfl dX4_names_38 ?_
      refine z_bipush (pc := 39) C dX4_names_39 (by decide) ?_
      refine z_icmp_ne (pc := 41) (tgt := 50) C dX4_names_41 (by decide) (by omega) (by decide) (fun c41 => ?_) (fun c41 => ?_)
      · refine z_iload_n (pc := 50) (j := 1) C dX4_names_50 rfl rfl ?_
        refine z_aload_n (pc := 51) (j := 3) C dX4_names_51 rfl rfl ?_
        refine z_getfield (pc := 52) (v := .ref A.v) C in_X4 rfl 0 (by decide) q2082 (fun _ z => z) gm_7 rfl dX4_names_52 ?_
        refine z_iload_n (pc := 55) (j := 2) C dX4_names_55 rfl rfl ?_
        refine z_callS (pc := 56) (n := 1) (kc' := 0) (ks' := 0) C (m_chord C.t (x := i)) (lw_S q2203 q2204 q74 q2205) (by decide +kernel) ⟨by decide, by decide⟩ rfl rfl (Nat.le_of_ble_eq_true rfl) dX4_names_56 (by omega) (by omega) (zpk (st' := [.int (iI (210 + 5 * i)), .ref A.v, .int (iI n)]) rfl ?_) zrx
        refine z_iconst (pc := 59) C dX4_names_59 ?_
        refine z_iadd (pc := 60) C dX4_names_60 ?_
        refine z_iaload (pc := 61) (v := .int (iI x.2.2.2.1)) C gv_7 (by omega) (mA_e (vE hx4 (by omega))) dX4_names_61 ?_
        refine z_icmp_ne (pc := 62) (tgt := 75) C dX4_names_62 (by decide) (by omega) (by omega) (fun c62 => ?_) (fun c62 => ?_)
        · have hqp : qpf x.2.2.2.1.toNat (k + 1).toNat = qpf x.2.2.2.1.toNat k.toNat := by
            rw [show (k + 1).toNat = k.toNat + 1 by omega]
            rw [qpf, if_neg (by omega), if_neg (by omega)]
          have hNn : Nv = wrL N 0 (nte x.2.2.1 ++ qpf x.2.2.2.1.toNat (k + 1).toNat) := by rw [hqp]; exact hN
          have hnn : nv = ((nte x.2.2.1).length : Nat) + ((qpf x.2.2.2.1.toNat (k + 1).toNat).length : Nat) := by rw [hqp]; exact hnv
          refine z_iinc (pc := 75) (k := 0) (L' := [(3, .int (iI (k + 1))), (2, .int (iI n)), (1, .int (iI i)), (0, .ref A.m)]) C dX4_names_75 rfl (by rw [hnL]; decide) rfl ?_
          refine z_goto (pc := 78) (tgt := 24) C dX4_names_78 (by decide) ?_
          refine Z.weak (L' := [(3, .int (iI (k + 1))), (2, .int (iI n)), (1, .int (iI i)), (0, .ref A.m)]) (kc' := 0) (ks' := 0) [0, 1, 2, 3] rfl (by omega) (by omega) ?_
          exact ih24 _ (by omega) (k + 1) n Nv nv g24 ⟨gm_7, gv_7, gpa_7, gtx_7, gma_7, gna_7, gua_7, gla_7, gle_7, gqa_7, gd_7⟩ hkp24 (by omega) (by rw [show (k + 1).toNat = k.toNat + 1 by omega, hqs, if_neg (by omega)]; omega) hNn hnn rfl
        · refine z_aload_n (pc := 65) (j := 3) C dX4_names_65 rfl rfl ?_
          refine z_aload_n (pc := 66) (j := 3) C dX4_names_66 rfl rfl ?_
          refine z_getfield (pc := 67) (v := .ref A.qa) C in_X4 rfl 10 (by decide) q2092 (fun _ z => z) gm_7 rfl dX4_names_67 ?_
          refine z_iload_n (pc := 70) (j := 0) C dX4_names_70 rfl rfl ?_
          refine z_caload (pc := 71) (v := .int (iI (qaF (Int.toNat k)))) C gqa_7 (by omega) rfl dX4_names_71 ?_
          refine z_callV (pc := 72) (n := 1) (kc' := 0) (ks' := 0) C (m_tells C.t ⟨gm_7, gv_7, gpa_7, gtx_7, gma_7, gna_7, gua_7, gla_7, gle_7, gqa_7, gd_7⟩ (c := qaF (Int.toNat k)) (by omega)) (lw_V q2310 q2312 qs44 q74 q2313) (by decide +kernel) ⟨by decide, by decide⟩ gm_7 rfl rfl rfl (Nat.le_of_ble_eq_true rfl) dX4_names_72 (by omega) (by omega) (zrk fun w h18 hp => ?_) zrx
          obtain ⟨rfl, hM_20, k19⟩ := hp
          have kh18 : zkeep h h18 [A.m, A.v, A.pa, A.tx, A.ma, A.na, A.ua, A.la] := zkeep.loc hkp24 k19 (fun q hq => Or.inl (Or.inr hq))
          have hM_20 : mM h18 A st ty si ff wd th ap nt rr rq rb wh (nv + 1) up lo V P T M (updI Nv (Int.toNat nv) (qaF (Int.toNat k))) U W := hM_20
          obtain ⟨gm_21, gv_21, gpa_21, gtx_21, gma_21, gna_21, gua_21, gla_21, gle_21, gqa_21, gd_21⟩ := id hM_20
          show Z X h18 0 0 [(3, .int (iI k)), (2, .int (iI n)), (1, .int (iI i)), (0, .ref A.m)] 75 []
          have hqp : qpf x.2.2.2.1.toNat (k + 1).toNat = qpf x.2.2.2.1.toNat k.toNat ++ [qaF k.toNat] := by
            rw [show (k + 1).toNat = k.toNat + 1 by omega]
            rw [qpf, if_neg (by omega), if_pos (by omega)]
          have hNn : (updI Nv (Int.toNat nv) (qaF (Int.toNat k))) = wrL N 0 (nte x.2.2.1 ++ qpf x.2.2.2.1.toNat (k + 1).toNat) := by
            rw [hqp, ← List.append_assoc, ← wrL_s, hN]
            congr 1
            simp only [List.length_append]
            omega
          have hnn : (nv + 1) = ((nte x.2.2.1).length : Nat) + ((qpf x.2.2.2.1.toNat (k + 1).toNat).length : Nat) := by rw [hqp]; simp only [List.length_append, List.length_cons, List.length_nil]; omega
          refine z_iinc (pc := 75) (k := 0) (L' := [(3, .int (iI (k + 1))), (2, .int (iI n)), (1, .int (iI i)), (0, .ref A.m)]) C dX4_names_75 rfl (by rw [hnL]; decide) rfl ?_
          refine z_goto (pc := 78) (tgt := 24) C dX4_names_78 (by decide) ?_
          refine Z.weak (L' := [(3, .int (iI (k + 1))), (2, .int (iI n)), (1, .int (iI i)), (0, .ref A.m)]) (kc' := 0) (ks' := 0) [0, 1, 2, 3] rfl (by omega) (by omega) ?_
          exact ih24 _ (by omega) (k + 1) n (updI Nv (Int.toNat nv) (qaF (Int.toNat k))) (nv + 1) h18 ⟨gm_21, gv_21, gpa_21, gtx_21, gma_21, gna_21, gua_21, gla_21, gle_21, gqa_21, gd_21⟩ kh18 (by omega) (by rw [show (k + 1).toNat = k.toNat + 1 by omega, hqs, if_neg (by omega)]; omega) hNn hnn rfl
      · refine z_iinc (pc := 44) (k := 1) (L' := [(2, .int (iI (n + 1))), (3, .int (iI k)), (1, .int (iI i)), (0, .ref A.m)]) C dX4_names_44 rfl (by rw [hnL]; decide) rfl ?_
        refine z_goto (pc := 47) (tgt := 75) C dX4_names_47 (by decide) ?_
        have hqp : qpf x.2.2.2.1.toNat (k + 1).toNat = qpf x.2.2.2.1.toNat k.toNat := by
          rw [show (k + 1).toNat = k.toNat + 1 by omega]
          rw [qpf, if_pos (by omega)]
        have hNn : Nv = wrL N 0 (nte x.2.2.1 ++ qpf x.2.2.2.1.toNat (k + 1).toNat) := by rw [hqp]; exact hN
        have hnn : nv = ((nte x.2.2.1).length : Nat) + ((qpf x.2.2.2.1.toNat (k + 1).toNat).length : Nat) := by rw [hqp]; exact hnv
        refine z_iinc (pc := 75) (k := 1) (L' := [(3, .int (iI (k + 1))), (2, .int (iI (n + 1))), (1, .int (iI i)), (0, .ref A.m)]) C dX4_names_75 rfl (by rw [hnL]; decide) rfl ?_
        refine z_goto (pc := 78) (tgt := 24) C dX4_names_78 (by decide) ?_
        refine Z.weak (L' := [(3, .int (iI (k + 1))), (2, .int (iI (n + 1))), (1, .int (iI i)), (0, .ref A.m)]) (kc' := 0) (ks' := 0) [0, 1, 2, 3] rfl (by omega) (by omega) ?_
        exact ih24 _ (by omega) (k + 1) (n + 1) Nv nv g24 ⟨gm_7, gv_7, gpa_7, gtx_7, gma_7, gna_7, gua_7, gla_7, gle_7, gqa_7, gd_7⟩ hkp24 (by omega) (by rw [show (k + 1).toNat = k.toNat + 1 by omega, hqs, if_pos (by omega)]; omega) hNn hnn rfl
  refine Z.weak (L' := [(3, .int (iI 0)), (2, .int (iI 0)), (1, .int (iI i)), (0, .ref A.m)]) (kc' := 0) (ks' := 0) [0, 1, 3, 2] rfl (by omega) (by omega) ?_
  exact loop24 _ 0 0 (wrL N (Int.toNat 0) (nte x.2.2.1)) (0 + ((nte x.2.2.1).length : Nat)) h3 ⟨gm_6, gv_6, gpa_6, gtx_6, gma_6, gna_6, gua_6, gla_6, gle_6, gqa_6, gd_6⟩ kh3 (by omega) rfl hb0 (by simp only [Int.toNat_zero, qpf, List.length_nil]; omega) rfl
set_option maxHeartbeats 4000000 in
theorem md_nameChar {l : Launch} (hl : l.stackTraces = false) {Γ : zCx} {h : zH} {A : zMA} {σ : zSt} {th : Int} (hW : mdW h A σ th) {i : Int} {x : zCh} (hi : 0 ≤ i) (hx : σ.sh.cs[i.toNat]? = some x) {k d : Int} (hk : 0 ≤ k) (hd : (nmt x.2.2.1 x.2.2.2.1 x.2.2.2.2)[k.toNat]? = some d)  : zMet l yX4_nameChar (ws_ yX4_nameChar cX4_nameChar 3 (some .int)) ({ frames := 3, cells := 0, slots := 0, locals := 68 }) Γ h [.ref A.m, .int (iI i), .int (iI k)] (zrt (fun w h' => w = some (.int (iI (d))) ∧ mdW h' A σ 0 ∧ zkeep h h' [A.m, A.v, A.pa, A.tx, A.ma, A.na, A.ua, A.la])) 0 0 := by
  refine zMet.of (cc := cX4_nameChar) hl (plainFor_of_name (by decide +kernel)) (Nat.le_of_ble_eq_true rfl) ?_
  intro X hXl hXΓ hXp C hnm hnL
  have C : zC X cX4_nameChar RX4 (some .int) 3 68 [] := C
  have hnL : X.2.1.2.2.2.2 = 3 := hnL
  subst hXl hXΓ
  show Z X h 0 0 [(0, .ref A.m), (1, .int (iI i)), (2, .int (iI k))] 0 []
  obtain ⟨ap, nt, rr, rq, rb, wh, nd, up, lo, V, P, T, M, N, U, W, hM, hS, hP, htq, hR, hsl, hslh⟩ := id hW
  obtain ⟨rsi, rff, rwd, rtl, rtx, rsh, rhi, rhl⟩ := id hR
  obtain ⟨rcl, rcr, rll, rlt, rkt, rkm, rks⟩ := id rsh
  obtain ⟨hsl1, hsl2, hsl3⟩ := id hsl
  have hTr := rtx
  have hTl := rtl
  obtain ⟨gm_1, gv_1, gpa_1, gtx_1, gma_1, gna_1, gua_1, gla_1, gle_1, gqa_1, gd_1⟩ := id hM
  have hix := (List.getElem?_eq_some_iff.mp hx).1
  obtain ⟨hx1, hx2, hx3, hx4, hx5⟩ := hS.c hi hx
  obtain ⟨xr1, xr2, xr3, xr4, xr5⟩ := rcr _ (List.mem_of_getElem? hx)
  have hnml := nmt_r (q := x.2.2.2.1) xr3 xr5
  have hkl := (List.getElem?_eq_some_iff.mp hd).1
  refine z_aload_n (pc := 0) (j := 0) C dX4_nameChar_0 rfl rfl ?_
  refine z_iconst (pc := 1) C dX4_nameChar_1 ?_
  refine z_putfield (pc := 2) (fs' := [.ref A.v, .ref A.pa, .int (iI ((σ.hi.length : Nat) : Int)), .ref A.tx, .int (iI ((σ.tx.length : Nat) : Int)), .int (iI σ.si), .int (iI σ.fl), .int (iI σ.wd), .int (iI 0), .ref A.le, .ref A.qa, .int (iI ap), .int (iI nt), .int (iI rr), .int (iI rq), .int (iI rb), .int (iI wh), .ref A.ma, .ref A.na, .int (iI nd), .ref A.ua, .ref A.la, .int (iI up), .int (iI lo)]) C in_X4 tyX4 tyX4_ok nmX4 rfl 8 (by decide) q2090 (fun _ z => z) rfl rfl rfl (Nat.le_of_ble_eq_true rfl) gm_1 rfl dX4_nameChar_2 ?_
  refine Z.nm (fun h2 eh2 => ?_)
  have kh2 : zkeep h h2 [A.m, A.v, A.pa, A.tx, A.ma, A.na, A.ua, A.la] := by rw [eh2]; exact zkeep.up zkeep.rf (Or.inl (by simp)) gm_1
  have fh2_0 : h2 A.m = some (true, .inr (3, [.ref A.v, .ref A.pa, .int (iI ((σ.hi.length : Nat) : Int)), .ref A.tx, .int (iI ((σ.tx.length : Nat) : Int)), .int (iI σ.si), .int (iI σ.fl), .int (iI σ.wd), .int (iI 0), .ref A.le, .ref A.qa, .int (iI ap), .int (iI nt), .int (iI rr), .int (iI rq), .int (iI rb), .int (iI wh), .ref A.ma, .ref A.na, .int (iI nd), .ref A.ua, .ref A.la, .int (iI up), .int (iI lo)])) := zse eh2
  have fh2_1 : h2 A.v = some (true, .inl (.int, 620, (mA V))) := zsn eh2 gv_1 (Ne.symm (zneA gm_1 gv_1))
  have fh2_2 : h2 A.pa = some (true, .inl (.int, 4960, (mA P))) := zsn eh2 gpa_1 (Ne.symm (zneA gm_1 gpa_1))
  have fh2_3 : h2 A.tx = some (true, .inl (.int, 200, (mA T))) := zsn eh2 gtx_1 (Ne.symm (zneA gm_1 gtx_1))
  have fh2_4 : h2 A.ma = some (true, .inl (.int, 620, (mA M))) := zsn eh2 gma_1 (Ne.symm (zneA gm_1 gma_1))
  have fh2_5 : h2 A.na = some (true, .inl (.int, 20, (mA N))) := zsn eh2 gna_1 (Ne.symm (zneA gm_1 gna_1))
  have fh2_6 : h2 A.ua = some (true, .inl (.int, 1200, (mA U))) := zsn eh2 gua_1 (Ne.symm (zneA gm_1 gua_1))
  have fh2_7 : h2 A.la = some (true, .inl (.int, 1200, (mA W))) := zsn eh2 gla_1 (Ne.symm (zneA gm_1 gla_1))
  refine z_aload_n (pc := 5) (j := 0) C dX4_nameChar_5 rfl rfl ?_
  refine z_iload_n (pc := 6) (j := 1) C dX4_nameChar_6 rfl rfl ?_
  refine z_callV (pc := 7) (n := 1) (kc' := 0) (ks' := 0) C (m_isChord C.t ⟨fh2_0, fh2_1, fh2_2, fh2_3, fh2_4, fh2_5, fh2_6, fh2_7, (kh2.n gle_1 (List.not_mem_cons_of_ne_of_not_mem (Ne.symm (zneA gm_1 gle_1)) (List.not_mem_cons_of_ne_of_not_mem (zneT gle_1 gv_1 (by simp)) (List.not_mem_cons_of_ne_of_not_mem (zneT gle_1 gpa_1 (by simp)) (List.not_mem_cons_of_ne_of_not_mem (zneT gle_1 gtx_1 (by simp)) (List.not_mem_cons_of_ne_of_not_mem (zneT gle_1 gma_1 (by simp)) (List.not_mem_cons_of_ne_of_not_mem (zneT gle_1 gna_1 (by simp)) (List.not_mem_cons_of_ne_of_not_mem (zneT gle_1 gua_1 (by simp)) (List.not_mem_cons_of_ne_of_not_mem (zneT gle_1 gla_1 (by simp)) List.not_mem_nil))))))))), (kh2.n gqa_1 (List.not_mem_cons_of_ne_of_not_mem (Ne.symm (zneA gm_1 gqa_1)) (List.not_mem_cons_of_ne_of_not_mem (zneT gqa_1 gv_1 (by simp)) (List.not_mem_cons_of_ne_of_not_mem (zneT gqa_1 gpa_1 (by simp)) (List.not_mem_cons_of_ne_of_not_mem (zneT gqa_1 gtx_1 (by simp)) (List.not_mem_cons_of_ne_of_not_mem (zneT gqa_1 gma_1 (by simp)) (List.not_mem_cons_of_ne_of_not_mem (zneT gqa_1 gna_1 (by simp)) (List.not_mem_cons_of_ne_of_not_mem (zneT gqa_1 gua_1 (by simp)) (List.not_mem_cons_of_ne_of_not_mem (zneT gqa_1 gla_1 (by simp)) List.not_mem_nil))))))))), gd_1⟩ hS hsl (i := i) (by omega)) (lw_V q2278 q2280 qs41 q74 q2281) (by decide +kernel) ⟨by decide, by decide⟩ fh2_0 rfl rfl rfl (Nat.le_of_ble_eq_true rfl) dX4_nameChar_7 (by omega) (by omega) (zpk (st' := [.int (iI (if 0 ≤ i ∧ i ≤ ((σ.sh.cs.length : Nat) : Int) - 1 then 1 else 0))]) rfl ?_) zrx
  rw [show ((if 0 ≤ i ∧ i ≤ ((σ.sh.cs.length : Nat) : Int) - 1 then 1 else 0) : Int) = 1 from if_pos (by omega)]
  show Z X h2 0 0 [(0, .ref A.m), (1, .int (iI i)), (2, .int (iI k))] 10 [.int (iI 1)]
  refine z_if_eq (pc := 10) (tgt := 17) C dX4_nameChar_10 (by decide) (by decide) (fun z => absurd z (by decide)) (fun _ => ?_)
  refine z_iload_n (pc := 13) (j := 2) C dX4_nameChar_13 rfl rfl ?_
  refine z_if_ge (pc := 14) (tgt := 23) C dX4_nameChar_14 (by decide) (by omega) (fun c14 => ?_) (fun c14 => by exfalso; omega)
  refine z_aload_n (pc := 23) (j := 0) C dX4_nameChar_23 rfl rfl ?_
  refine z_iload_n (pc := 24) (j := 1) C dX4_nameChar_24 rfl rfl ?_
  refine z_callV (pc := 25) (n := 1) (kc' := 0) (ks' := 0) C (m_names C.t ⟨fh2_0, fh2_1, fh2_2, fh2_3, fh2_4, fh2_5, fh2_6, fh2_7, (kh2.n gle_1 (List.not_mem_cons_of_ne_of_not_mem (Ne.symm (zneA gm_1 gle_1)) (List.not_mem_cons_of_ne_of_not_mem (zneT gle_1 gv_1 (by simp)) (List.not_mem_cons_of_ne_of_not_mem (zneT gle_1 gpa_1 (by simp)) (List.not_mem_cons_of_ne_of_not_mem (zneT gle_1 gtx_1 (by simp)) (List.not_mem_cons_of_ne_of_not_mem (zneT gle_1 gma_1 (by simp)) (List.not_mem_cons_of_ne_of_not_mem (zneT gle_1 gna_1 (by simp)) (List.not_mem_cons_of_ne_of_not_mem (zneT gle_1 gua_1 (by simp)) (List.not_mem_cons_of_ne_of_not_mem (zneT gle_1 gla_1 (by simp)) List.not_mem_nil))))))))), (kh2.n gqa_1 (List.not_mem_cons_of_ne_of_not_mem (Ne.symm (zneA gm_1 gqa_1)) (List.not_mem_cons_of_ne_of_not_mem (zneT gqa_1 gv_1 (by simp)) (List.not_mem_cons_of_ne_of_not_mem (zneT gqa_1 gpa_1 (by simp)) (List.not_mem_cons_of_ne_of_not_mem (zneT gqa_1 gtx_1 (by simp)) (List.not_mem_cons_of_ne_of_not_mem (zneT gqa_1 gma_1 (by simp)) (List.not_mem_cons_of_ne_of_not_mem (zneT gqa_1 gna_1 (by simp)) (List.not_mem_cons_of_ne_of_not_mem (zneT gqa_1 gua_1 (by simp)) (List.not_mem_cons_of_ne_of_not_mem (zneT gqa_1 gla_1 (by simp)) List.not_mem_nil))))))))), gd_1⟩ hS hsl rsh (i := i) (by omega) hx) (lw_V q2302 q2304 qs42 q74 q2305) (by decide +kernel) ⟨by decide, by decide⟩ fh2_0 rfl rfl rfl (Nat.le_of_ble_eq_true rfl) dX4_nameChar_25 (by omega) (by omega) (zrk fun w h3 hp => ?_) zrx
  obtain ⟨rfl, hM_5, k4⟩ := hp
  have kh3 : zkeep h h3 [A.m, A.v, A.pa, A.tx, A.ma, A.na, A.ua, A.la] := zkeep.loc kh2 k4 (fun q hq => Or.inl (Or.inr hq))
  have hM_5 : mM h3 A ((σ.hi.length : Nat) : Int) ((σ.tx.length : Nat) : Int) σ.si σ.fl σ.wd 0 ap nt rr rq rb wh (((nmt x.2.2.1 x.2.2.2.1 x.2.2.2.2).length : Nat) : Int) up lo V P T M (wrL N 0 (nmt x.2.2.1 x.2.2.2.1 x.2.2.2.2)) U W := hM_5
  obtain ⟨gm_6, gv_6, gpa_6, gtx_6, gma_6, gna_6, gua_6, gla_6, gle_6, gqa_6, gd_6⟩ := id hM_5
  show Z X h3 0 0 [(0, .ref A.m), (1, .int (iI i)), (2, .int (iI k))] 28 []
  refine z_iload_n (pc := 28) (j := 2) C dX4_nameChar_28 rfl rfl ?_
  refine z_aload_n (pc := 29) (j := 0) C dX4_nameChar_29 rfl rfl ?_
  refine z_getfield (pc := 30) (v := .int (iI (((nmt x.2.2.1 x.2.2.2.1 x.2.2.2.2).length : Nat) : Int))) C in_X4 rfl 19 (by decide) q2101 (fun _ z => z) gm_6 rfl dX4_nameChar_30 ?_
  refine z_icmp_ge (pc := 33) (tgt := 45) C dX4_nameChar_33 (by decide) (by omega) (by omega) (fun c33 => by exfalso; omega) (fun c33 => ?_)
  refine z_aload_n (pc := 36) (j := 0) C dX4_nameChar_36 rfl rfl ?_
  refine z_getfield (pc := 37) (v := .ref A.na) C in_X4 rfl 18 (by decide) q2100 (fun _ z => z) gm_6 rfl dX4_nameChar_37 ?_
  refine z_iload_n (pc := 40) (j := 2) C dX4_nameChar_40 rfl rfl ?_
  refine z_iaload (pc := 41) (v := .int (iI d)) C gna_6 (by omega) (mA_e (vE (wrL_at hd) (by omega))) dX4_nameChar_41 ?_
  refine z_goto (pc := 42) (tgt := 46) C dX4_nameChar_42 (by decide) ?_
  exact z_ireturn (pc := 46) C (by rw [hXp]; exact ⟨_, rfl, rfl, ⟨ap, nt, rr, rq, rb, wh, (((nmt x.2.2.1 x.2.2.2.1 x.2.2.2.2).length : Nat) : Int), up, lo, V, P, T, M, (wrL N 0 (nmt x.2.2.1 x.2.2.2.1 x.2.2.2.2)), U, W, ⟨gm_6, gv_6, gpa_6, gtx_6, gma_6, gna_6, gua_6, gla_6, gle_6, gqa_6, gd_6⟩, hS, hP, htq, hR, hsl, hslh⟩, kh3⟩) dX4_nameChar_46
set_option maxHeartbeats 4000000 in
theorem md_nameChar2 {l : Launch} (hl : l.stackTraces = false) {Γ : zCx} {h : zH} {A : zMA} {σ : zSt} {th : Int} (hW : mdW h A σ th) {i : Int} {x : zCh} (hi : 0 ≤ i) (hx : σ.sh.cs[i.toNat]? = some x) {k : Int} (hkr : -2147483648 ≤ k ∧ k ≤ 2147483647) (hk : (((nmt x.2.2.1 x.2.2.2.1 x.2.2.2.2).length : Nat) : Int) ≤ k)  : zMet l yX4_nameChar (ws_ yX4_nameChar cX4_nameChar 3 (some .int)) ({ frames := 3, cells := 0, slots := 0, locals := 68 }) Γ h [.ref A.m, .int (iI i), .int (iI k)] (zrt (fun w h' => w = some (.int (iI (-1))) ∧ mdW h' A σ 0 ∧ zkeep h h' [A.m, A.v, A.pa, A.tx, A.ma, A.na, A.ua, A.la])) 0 0 := by
  refine zMet.of (cc := cX4_nameChar) hl (plainFor_of_name (by decide +kernel)) (Nat.le_of_ble_eq_true rfl) ?_
  intro X hXl hXΓ hXp C hnm hnL
  have C : zC X cX4_nameChar RX4 (some .int) 3 68 [] := C
  have hnL : X.2.1.2.2.2.2 = 3 := hnL
  subst hXl hXΓ
  show Z X h 0 0 [(0, .ref A.m), (1, .int (iI i)), (2, .int (iI k))] 0 []
  obtain ⟨ap, nt, rr, rq, rb, wh, nd, up, lo, V, P, T, M, N, U, W, hM, hS, hP, htq, hR, hsl, hslh⟩ := id hW
  obtain ⟨rsi, rff, rwd, rtl, rtx, rsh, rhi, rhl⟩ := id hR
  obtain ⟨rcl, rcr, rll, rlt, rkt, rkm, rks⟩ := id rsh
  obtain ⟨hsl1, hsl2, hsl3⟩ := id hsl
  have hTr := rtx
  have hTl := rtl
  obtain ⟨gm_1, gv_1, gpa_1, gtx_1, gma_1, gna_1, gua_1, gla_1, gle_1, gqa_1, gd_1⟩ := id hM
  have hix := (List.getElem?_eq_some_iff.mp hx).1
  obtain ⟨hx1, hx2, hx3, hx4, hx5⟩ := hS.c hi hx
  obtain ⟨xr1, xr2, xr3, xr4, xr5⟩ := rcr _ (List.mem_of_getElem? hx)
  have hnml := nmt_r (q := x.2.2.2.1) xr3 xr5
  refine z_aload_n (pc := 0) (j := 0) C dX4_nameChar_0 rfl rfl ?_
  refine z_iconst (pc := 1) C dX4_nameChar_1 ?_
  refine z_putfield (pc := 2) (fs' := [.ref A.v, .ref A.pa, .int (iI ((σ.hi.length : Nat) : Int)), .ref A.tx, .int (iI ((σ.tx.length : Nat) : Int)), .int (iI σ.si), .int (iI σ.fl), .int (iI σ.wd), .int (iI 0), .ref A.le, .ref A.qa, .int (iI ap), .int (iI nt), .int (iI rr), .int (iI rq), .int (iI rb), .int (iI wh), .ref A.ma, .ref A.na, .int (iI nd), .ref A.ua, .ref A.la, .int (iI up), .int (iI lo)]) C in_X4 tyX4 tyX4_ok nmX4 rfl 8 (by decide) q2090 (fun _ z => z) rfl rfl rfl (Nat.le_of_ble_eq_true rfl) gm_1 rfl dX4_nameChar_2 ?_
  refine Z.nm (fun h2 eh2 => ?_)
  have kh2 : zkeep h h2 [A.m, A.v, A.pa, A.tx, A.ma, A.na, A.ua, A.la] := by rw [eh2]; exact zkeep.up zkeep.rf (Or.inl (by simp)) gm_1
  have fh2_0 : h2 A.m = some (true, .inr (3, [.ref A.v, .ref A.pa, .int (iI ((σ.hi.length : Nat) : Int)), .ref A.tx, .int (iI ((σ.tx.length : Nat) : Int)), .int (iI σ.si), .int (iI σ.fl), .int (iI σ.wd), .int (iI 0), .ref A.le, .ref A.qa, .int (iI ap), .int (iI nt), .int (iI rr), .int (iI rq), .int (iI rb), .int (iI wh), .ref A.ma, .ref A.na, .int (iI nd), .ref A.ua, .ref A.la, .int (iI up), .int (iI lo)])) := zse eh2
  have fh2_1 : h2 A.v = some (true, .inl (.int, 620, (mA V))) := zsn eh2 gv_1 (Ne.symm (zneA gm_1 gv_1))
  have fh2_2 : h2 A.pa = some (true, .inl (.int, 4960, (mA P))) := zsn eh2 gpa_1 (Ne.symm (zneA gm_1 gpa_1))
  have fh2_3 : h2 A.tx = some (true, .inl (.int, 200, (mA T))) := zsn eh2 gtx_1 (Ne.symm (zneA gm_1 gtx_1))
  have fh2_4 : h2 A.ma = some (true, .inl (.int, 620, (mA M))) := zsn eh2 gma_1 (Ne.symm (zneA gm_1 gma_1))
  have fh2_5 : h2 A.na = some (true, .inl (.int, 20, (mA N))) := zsn eh2 gna_1 (Ne.symm (zneA gm_1 gna_1))
  have fh2_6 : h2 A.ua = some (true, .inl (.int, 1200, (mA U))) := zsn eh2 gua_1 (Ne.symm (zneA gm_1 gua_1))
  have fh2_7 : h2 A.la = some (true, .inl (.int, 1200, (mA W))) := zsn eh2 gla_1 (Ne.symm (zneA gm_1 gla_1))
  refine z_aload_n (pc := 5) (j := 0) C dX4_nameChar_5 rfl rfl ?_
  refine z_iload_n (pc := 6) (j := 1) C dX4_nameChar_6 rfl rfl ?_
  refine z_callV (pc := 7) (n := 1) (kc' := 0) (ks' := 0) C (m_isChord C.t ⟨fh2_0, fh2_1, fh2_2, fh2_3, fh2_4, fh2_5, fh2_6, fh2_7, (kh2.n gle_1 (List.not_mem_cons_of_ne_of_not_mem (Ne.symm (zneA gm_1 gle_1)) (List.not_mem_cons_of_ne_of_not_mem (zneT gle_1 gv_1 (by simp)) (List.not_mem_cons_of_ne_of_not_mem (zneT gle_1 gpa_1 (by simp)) (List.not_mem_cons_of_ne_of_not_mem (zneT gle_1 gtx_1 (by simp)) (List.not_mem_cons_of_ne_of_not_mem (zneT gle_1 gma_1 (by simp)) (List.not_mem_cons_of_ne_of_not_mem (zneT gle_1 gna_1 (by simp)) (List.not_mem_cons_of_ne_of_not_mem (zneT gle_1 gua_1 (by simp)) (List.not_mem_cons_of_ne_of_not_mem (zneT gle_1 gla_1 (by simp)) List.not_mem_nil))))))))), (kh2.n gqa_1 (List.not_mem_cons_of_ne_of_not_mem (Ne.symm (zneA gm_1 gqa_1)) (List.not_mem_cons_of_ne_of_not_mem (zneT gqa_1 gv_1 (by simp)) (List.not_mem_cons_of_ne_of_not_mem (zneT gqa_1 gpa_1 (by simp)) (List.not_mem_cons_of_ne_of_not_mem (zneT gqa_1 gtx_1 (by simp)) (List.not_mem_cons_of_ne_of_not_mem (zneT gqa_1 gma_1 (by simp)) (List.not_mem_cons_of_ne_of_not_mem (zneT gqa_1 gna_1 (by simp)) (List.not_mem_cons_of_ne_of_not_mem (zneT gqa_1 gua_1 (by simp)) (List.not_mem_cons_of_ne_of_not_mem (zneT gqa_1 gla_1 (by simp)) List.not_mem_nil))))))))), gd_1⟩ hS hsl (i := i) (by omega)) (lw_V q2278 q2280 qs41 q74 q2281) (by decide +kernel) ⟨by decide, by decide⟩ fh2_0 rfl rfl rfl (Nat.le_of_ble_eq_true rfl) dX4_nameChar_7 (by omega) (by omega) (zpk (st' := [.int (iI (if 0 ≤ i ∧ i ≤ ((σ.sh.cs.length : Nat) : Int) - 1 then 1 else 0))]) rfl ?_) zrx
  rw [show ((if 0 ≤ i ∧ i ≤ ((σ.sh.cs.length : Nat) : Int) - 1 then 1 else 0) : Int) = 1 from if_pos (by omega)]
  show Z X h2 0 0 [(0, .ref A.m), (1, .int (iI i)), (2, .int (iI k))] 10 [.int (iI 1)]
  refine z_if_eq (pc := 10) (tgt := 17) C dX4_nameChar_10 (by decide) (by decide) (fun z => absurd z (by decide)) (fun _ => ?_)
  refine z_iload_n (pc := 13) (j := 2) C dX4_nameChar_13 rfl rfl ?_
  refine z_if_ge (pc := 14) (tgt := 23) C dX4_nameChar_14 (by decide) (by omega) (fun c14 => ?_) (fun c14 => by exfalso; omega)
  refine z_aload_n (pc := 23) (j := 0) C dX4_nameChar_23 rfl rfl ?_
  refine z_iload_n (pc := 24) (j := 1) C dX4_nameChar_24 rfl rfl ?_
  refine z_callV (pc := 25) (n := 1) (kc' := 0) (ks' := 0) C (m_names C.t ⟨fh2_0, fh2_1, fh2_2, fh2_3, fh2_4, fh2_5, fh2_6, fh2_7, (kh2.n gle_1 (List.not_mem_cons_of_ne_of_not_mem (Ne.symm (zneA gm_1 gle_1)) (List.not_mem_cons_of_ne_of_not_mem (zneT gle_1 gv_1 (by simp)) (List.not_mem_cons_of_ne_of_not_mem (zneT gle_1 gpa_1 (by simp)) (List.not_mem_cons_of_ne_of_not_mem (zneT gle_1 gtx_1 (by simp)) (List.not_mem_cons_of_ne_of_not_mem (zneT gle_1 gma_1 (by simp)) (List.not_mem_cons_of_ne_of_not_mem (zneT gle_1 gna_1 (by simp)) (List.not_mem_cons_of_ne_of_not_mem (zneT gle_1 gua_1 (by simp)) (List.not_mem_cons_of_ne_of_not_mem (zneT gle_1 gla_1 (by simp)) List.not_mem_nil))))))))), (kh2.n gqa_1 (List.not_mem_cons_of_ne_of_not_mem (Ne.symm (zneA gm_1 gqa_1)) (List.not_mem_cons_of_ne_of_not_mem (zneT gqa_1 gv_1 (by simp)) (List.not_mem_cons_of_ne_of_not_mem (zneT gqa_1 gpa_1 (by simp)) (List.not_mem_cons_of_ne_of_not_mem (zneT gqa_1 gtx_1 (by simp)) (List.not_mem_cons_of_ne_of_not_mem (zneT gqa_1 gma_1 (by simp)) (List.not_mem_cons_of_ne_of_not_mem (zneT gqa_1 gna_1 (by simp)) (List.not_mem_cons_of_ne_of_not_mem (zneT gqa_1 gua_1 (by simp)) (List.not_mem_cons_of_ne_of_not_mem (zneT gqa_1 gla_1 (by simp)) List.not_mem_nil))))))))), gd_1⟩ hS hsl rsh (i := i) (by omega) hx) (lw_V q2302 q2304 qs42 q74 q2305) (by decide +kernel) ⟨by decide, by decide⟩ fh2_0 rfl rfl rfl (Nat.le_of_ble_eq_true rfl) dX4_nameChar_25 (by omega) (by omega) (zrk fun w h3 hp => ?_) zrx
  obtain ⟨rfl, hM_5, k4⟩ := hp
  have kh3 : zkeep h h3 [A.m, A.v, A.pa, A.tx, A.ma, A.na, A.ua, A.la] := zkeep.loc kh2 k4 (fun q hq => Or.inl (Or.inr hq))
  have hM_5 : mM h3 A ((σ.hi.length : Nat) : Int) ((σ.tx.length : Nat) : Int) σ.si σ.fl σ.wd 0 ap nt rr rq rb wh (((nmt x.2.2.1 x.2.2.2.1 x.2.2.2.2).length : Nat) : Int) up lo V P T M (wrL N 0 (nmt x.2.2.1 x.2.2.2.1 x.2.2.2.2)) U W := hM_5
  obtain ⟨gm_6, gv_6, gpa_6, gtx_6, gma_6, gna_6, gua_6, gla_6, gle_6, gqa_6, gd_6⟩ := id hM_5
  show Z X h3 0 0 [(0, .ref A.m), (1, .int (iI i)), (2, .int (iI k))] 28 []
  refine z_iload_n (pc := 28) (j := 2) C dX4_nameChar_28 rfl rfl ?_
  refine z_aload_n (pc := 29) (j := 0) C dX4_nameChar_29 rfl rfl ?_
  refine z_getfield (pc := 30) (v := .int (iI (((nmt x.2.2.1 x.2.2.2.1 x.2.2.2.2).length : Nat) : Int))) C in_X4 rfl 19 (by decide) q2101 (fun _ z => z) gm_6 rfl dX4_nameChar_30 ?_
  refine z_icmp_ge (pc := 33) (tgt := 45) C dX4_nameChar_33 (by decide) (by omega) (by omega) (fun c33 => ?_) (fun c33 => by exfalso; omega)
  refine z_iconst (pc := 45) C dX4_nameChar_45 ?_
  exact z_ireturn (pc := 46) C (by rw [hXp]; exact ⟨_, rfl, rfl, ⟨ap, nt, rr, rq, rb, wh, (((nmt x.2.2.1 x.2.2.2.1 x.2.2.2.2).length : Nat) : Int), up, lo, V, P, T, M, (wrL N 0 (nmt x.2.2.1 x.2.2.2.1 x.2.2.2.2)), U, W, ⟨gm_6, gv_6, gpa_6, gtx_6, gma_6, gna_6, gua_6, gla_6, gle_6, gqa_6, gd_6⟩, hS, hP, htq, hR, hsl, hslh⟩, kh3⟩) dX4_nameChar_46
set_option maxHeartbeats 4000000 in
theorem md_nameChar_b1 {l : Launch} (hl : l.stackTraces = false) {Γ : zCx} {h : zH} {A : zMA} {σ : zSt} {th : Int} (hW : mdW h A σ th) {i : Int} (hi : -2147483648 ≤ i ∧ i ≤ 2147483647) (hb : ¬ (0 ≤ i ∧ i < (σ.sh.cs.length : Nat))) {k : Int}  : zMet l yX4_nameChar (ws_ yX4_nameChar cX4_nameChar 3 (some .int)) ({ frames := 2, cells := 0, slots := 0, locals := 43 }) Γ h [.ref A.m, .int (iI i), .int (iI k)] (zrt (fun w h' => w = some (.int (iI (0))) ∧ mdW h' A σ 1 ∧ zkeep h h' [A.m, A.v, A.pa, A.tx, A.ma, A.na, A.ua, A.la])) 0 0 := by
  refine zMet.of (cc := cX4_nameChar) hl (plainFor_of_name (by decide +kernel)) (Nat.le_of_ble_eq_true rfl) ?_
  intro X hXl hXΓ hXp C hnm hnL
  have C : zC X cX4_nameChar RX4 (some .int) 2 43 [] := C
  have hnL : X.2.1.2.2.2.2 = 3 := hnL
  subst hXl hXΓ
  show Z X h 0 0 [(0, .ref A.m), (1, .int (iI i)), (2, .int (iI k))] 0 []
  obtain ⟨ap, nt, rr, rq, rb, wh, nd, up, lo, V, P, T, M, N, U, W, hM, hS, hP, htq, hR, hsl, hslh⟩ := id hW
  obtain ⟨rsi, rff, rwd, rtl, rtx, rsh, rhi, rhl⟩ := id hR
  obtain ⟨rcl, rcr, rll, rlt, rkt, rkm, rks⟩ := id rsh
  obtain ⟨hsl1, hsl2, hsl3⟩ := id hsl
  have hTr := rtx
  have hTl := rtl
  obtain ⟨gm_1, gv_1, gpa_1, gtx_1, gma_1, gna_1, gua_1, gla_1, gle_1, gqa_1, gd_1⟩ := id hM
  refine z_aload_n (pc := 0) (j := 0) C dX4_nameChar_0 rfl rfl ?_
  refine z_iconst (pc := 1) C dX4_nameChar_1 ?_
  refine z_putfield (pc := 2) (fs' := [.ref A.v, .ref A.pa, .int (iI ((σ.hi.length : Nat) : Int)), .ref A.tx, .int (iI ((σ.tx.length : Nat) : Int)), .int (iI σ.si), .int (iI σ.fl), .int (iI σ.wd), .int (iI 0), .ref A.le, .ref A.qa, .int (iI ap), .int (iI nt), .int (iI rr), .int (iI rq), .int (iI rb), .int (iI wh), .ref A.ma, .ref A.na, .int (iI nd), .ref A.ua, .ref A.la, .int (iI up), .int (iI lo)]) C in_X4 tyX4 tyX4_ok nmX4 rfl 8 (by decide) q2090 (fun _ z => z) rfl rfl rfl (Nat.le_of_ble_eq_true rfl) gm_1 rfl dX4_nameChar_2 ?_
  refine Z.nm (fun h2 eh2 => ?_)
  have kh2 : zkeep h h2 [A.m, A.v, A.pa, A.tx, A.ma, A.na, A.ua, A.la] := by rw [eh2]; exact zkeep.up zkeep.rf (Or.inl (by simp)) gm_1
  have fh2_0 : h2 A.m = some (true, .inr (3, [.ref A.v, .ref A.pa, .int (iI ((σ.hi.length : Nat) : Int)), .ref A.tx, .int (iI ((σ.tx.length : Nat) : Int)), .int (iI σ.si), .int (iI σ.fl), .int (iI σ.wd), .int (iI 0), .ref A.le, .ref A.qa, .int (iI ap), .int (iI nt), .int (iI rr), .int (iI rq), .int (iI rb), .int (iI wh), .ref A.ma, .ref A.na, .int (iI nd), .ref A.ua, .ref A.la, .int (iI up), .int (iI lo)])) := zse eh2
  have fh2_1 : h2 A.v = some (true, .inl (.int, 620, (mA V))) := zsn eh2 gv_1 (Ne.symm (zneA gm_1 gv_1))
  have fh2_2 : h2 A.pa = some (true, .inl (.int, 4960, (mA P))) := zsn eh2 gpa_1 (Ne.symm (zneA gm_1 gpa_1))
  have fh2_3 : h2 A.tx = some (true, .inl (.int, 200, (mA T))) := zsn eh2 gtx_1 (Ne.symm (zneA gm_1 gtx_1))
  have fh2_4 : h2 A.ma = some (true, .inl (.int, 620, (mA M))) := zsn eh2 gma_1 (Ne.symm (zneA gm_1 gma_1))
  have fh2_5 : h2 A.na = some (true, .inl (.int, 20, (mA N))) := zsn eh2 gna_1 (Ne.symm (zneA gm_1 gna_1))
  have fh2_6 : h2 A.ua = some (true, .inl (.int, 1200, (mA U))) := zsn eh2 gua_1 (Ne.symm (zneA gm_1 gua_1))
  have fh2_7 : h2 A.la = some (true, .inl (.int, 1200, (mA W))) := zsn eh2 gla_1 (Ne.symm (zneA gm_1 gla_1))
  refine z_aload_n (pc := 5) (j := 0) C dX4_nameChar_5 rfl rfl ?_
  refine z_iload_n (pc := 6) (j := 1) C dX4_nameChar_6 rfl rfl ?_
  refine z_callV (pc := 7) (n := 1) (kc' := 0) (ks' := 0) C (m_isChord C.t ⟨fh2_0, fh2_1, fh2_2, fh2_3, fh2_4, fh2_5, fh2_6, fh2_7, (kh2.n gle_1 (List.not_mem_cons_of_ne_of_not_mem (Ne.symm (zneA gm_1 gle_1)) (List.not_mem_cons_of_ne_of_not_mem (zneT gle_1 gv_1 (by simp)) (List.not_mem_cons_of_ne_of_not_mem (zneT gle_1 gpa_1 (by simp)) (List.not_mem_cons_of_ne_of_not_mem (zneT gle_1 gtx_1 (by simp)) (List.not_mem_cons_of_ne_of_not_mem (zneT gle_1 gma_1 (by simp)) (List.not_mem_cons_of_ne_of_not_mem (zneT gle_1 gna_1 (by simp)) (List.not_mem_cons_of_ne_of_not_mem (zneT gle_1 gua_1 (by simp)) (List.not_mem_cons_of_ne_of_not_mem (zneT gle_1 gla_1 (by simp)) List.not_mem_nil))))))))), (kh2.n gqa_1 (List.not_mem_cons_of_ne_of_not_mem (Ne.symm (zneA gm_1 gqa_1)) (List.not_mem_cons_of_ne_of_not_mem (zneT gqa_1 gv_1 (by simp)) (List.not_mem_cons_of_ne_of_not_mem (zneT gqa_1 gpa_1 (by simp)) (List.not_mem_cons_of_ne_of_not_mem (zneT gqa_1 gtx_1 (by simp)) (List.not_mem_cons_of_ne_of_not_mem (zneT gqa_1 gma_1 (by simp)) (List.not_mem_cons_of_ne_of_not_mem (zneT gqa_1 gna_1 (by simp)) (List.not_mem_cons_of_ne_of_not_mem (zneT gqa_1 gua_1 (by simp)) (List.not_mem_cons_of_ne_of_not_mem (zneT gqa_1 gla_1 (by simp)) List.not_mem_nil))))))))), gd_1⟩ hS hsl (i := i) (by omega)) (lw_V q2278 q2280 qs41 q74 q2281) (by decide +kernel) ⟨by decide, by decide⟩ fh2_0 rfl rfl rfl (Nat.le_of_ble_eq_true rfl) dX4_nameChar_7 (by omega) (by omega) (zpk (st' := [.int (iI (if 0 ≤ i ∧ i ≤ ((σ.sh.cs.length : Nat) : Int) - 1 then 1 else 0))]) rfl ?_) zrx
  rw [show ((if 0 ≤ i ∧ i ≤ ((σ.sh.cs.length : Nat) : Int) - 1 then 1 else 0) : Int) = 0 from if_neg (by omega)]
  show Z X h2 0 0 [(0, .ref A.m), (1, .int (iI i)), (2, .int (iI k))] 10 [.int (iI 0)]
  refine z_if_eq (pc := 10) (tgt := 17) C dX4_nameChar_10 (by decide) (by decide) (fun _ => ?_) (fun z => absurd z (by decide))
  refine z_aload_n (pc := 17) (j := 0) C dX4_nameChar_17 rfl rfl ?_
  refine z_iconst (pc := 18) C dX4_nameChar_18 ?_
  refine z_callV (pc := 19) (n := 1) (kc' := 0) (ks' := 0) C (m_fails C.t ⟨fh2_0, fh2_1, fh2_2, fh2_3, fh2_4, fh2_5, fh2_6, fh2_7, (kh2.n gle_1 (List.not_mem_cons_of_ne_of_not_mem (Ne.symm (zneA gm_1 gle_1)) (List.not_mem_cons_of_ne_of_not_mem (zneT gle_1 gv_1 (by simp)) (List.not_mem_cons_of_ne_of_not_mem (zneT gle_1 gpa_1 (by simp)) (List.not_mem_cons_of_ne_of_not_mem (zneT gle_1 gtx_1 (by simp)) (List.not_mem_cons_of_ne_of_not_mem (zneT gle_1 gma_1 (by simp)) (List.not_mem_cons_of_ne_of_not_mem (zneT gle_1 gna_1 (by simp)) (List.not_mem_cons_of_ne_of_not_mem (zneT gle_1 gua_1 (by simp)) (List.not_mem_cons_of_ne_of_not_mem (zneT gle_1 gla_1 (by simp)) List.not_mem_nil))))))))), (kh2.n gqa_1 (List.not_mem_cons_of_ne_of_not_mem (Ne.symm (zneA gm_1 gqa_1)) (List.not_mem_cons_of_ne_of_not_mem (zneT gqa_1 gv_1 (by simp)) (List.not_mem_cons_of_ne_of_not_mem (zneT gqa_1 gpa_1 (by simp)) (List.not_mem_cons_of_ne_of_not_mem (zneT gqa_1 gtx_1 (by simp)) (List.not_mem_cons_of_ne_of_not_mem (zneT gqa_1 gma_1 (by simp)) (List.not_mem_cons_of_ne_of_not_mem (zneT gqa_1 gna_1 (by simp)) (List.not_mem_cons_of_ne_of_not_mem (zneT gqa_1 gua_1 (by simp)) (List.not_mem_cons_of_ne_of_not_mem (zneT gqa_1 gla_1 (by simp)) List.not_mem_nil))))))))), gd_1⟩ (x := 1)) (lw_V q2167 q2169 qs27 q74 q2170) (by decide +kernel) ⟨by decide, by decide⟩ fh2_0 rfl rfl rfl (Nat.le_of_ble_eq_true rfl) dX4_nameChar_19 (by omega) (by omega) (zrk fun w h3 hp => ?_) zrx
  obtain ⟨rfl, hM_5, k4⟩ := hp
  have kh3 : zkeep h h3 [A.m, A.v, A.pa, A.tx, A.ma, A.na, A.ua, A.la] := zkeep.loc kh2 k4 (fun q hq => Or.inl (Or.inr hq))
  have hM_5 : mM h3 A ((σ.hi.length : Nat) : Int) ((σ.tx.length : Nat) : Int) σ.si σ.fl σ.wd 1 ap nt rr rq rb wh nd up lo V P T M N U W := hM_5
  obtain ⟨gm_6, gv_6, gpa_6, gtx_6, gma_6, gna_6, gua_6, gla_6, gle_6, gqa_6, gd_6⟩ := id hM_5
  show Z X h3 0 0 [(0, .ref A.m), (1, .int (iI i)), (2, .int (iI k))] 22 [.int (iI 0)]
  exact z_ireturn (pc := 22) C (by rw [hXp]; exact ⟨_, rfl, rfl, ⟨ap, nt, rr, rq, rb, wh, nd, up, lo, V, P, T, M, N, U, W, ⟨gm_6, gv_6, gpa_6, gtx_6, gma_6, gna_6, gua_6, gla_6, gle_6, gqa_6, gd_6⟩, hS, hP, htq, hR, hsl, hslh⟩, kh3⟩) dX4_nameChar_22
set_option maxHeartbeats 4000000 in
theorem md_nameChar_b2 {l : Launch} (hl : l.stackTraces = false) {Γ : zCx} {h : zH} {A : zMA} {σ : zSt} {th : Int} (hW : mdW h A σ th) {i : Int} {x : zCh} (hi : 0 ≤ i) (hx : σ.sh.cs[i.toNat]? = some x) {k : Int} (hkr : -2147483648 ≤ k ∧ k ≤ 2147483647) (hk : k < 0)  : zMet l yX4_nameChar (ws_ yX4_nameChar cX4_nameChar 3 (some .int)) ({ frames := 2, cells := 0, slots := 0, locals := 43 }) Γ h [.ref A.m, .int (iI i), .int (iI k)] (zrt (fun w h' => w = some (.int (iI (0))) ∧ mdW h' A σ 1 ∧ zkeep h h' [A.m, A.v, A.pa, A.tx, A.ma, A.na, A.ua, A.la])) 0 0 := by
  refine zMet.of (cc := cX4_nameChar) hl (plainFor_of_name (by decide +kernel)) (Nat.le_of_ble_eq_true rfl) ?_
  intro X hXl hXΓ hXp C hnm hnL
  have C : zC X cX4_nameChar RX4 (some .int) 2 43 [] := C
  have hnL : X.2.1.2.2.2.2 = 3 := hnL
  subst hXl hXΓ
  show Z X h 0 0 [(0, .ref A.m), (1, .int (iI i)), (2, .int (iI k))] 0 []
  obtain ⟨ap, nt, rr, rq, rb, wh, nd, up, lo, V, P, T, M, N, U, W, hM, hS, hP, htq, hR, hsl, hslh⟩ := id hW
  obtain ⟨rsi, rff, rwd, rtl, rtx, rsh, rhi, rhl⟩ := id hR
  obtain ⟨rcl, rcr, rll, rlt, rkt, rkm, rks⟩ := id rsh
  obtain ⟨hsl1, hsl2, hsl3⟩ := id hsl
  have hTr := rtx
  have hTl := rtl
  obtain ⟨gm_1, gv_1, gpa_1, gtx_1, gma_1, gna_1, gua_1, gla_1, gle_1, gqa_1, gd_1⟩ := id hM
  have hix := (List.getElem?_eq_some_iff.mp hx).1
  obtain ⟨hx1, hx2, hx3, hx4, hx5⟩ := hS.c hi hx
  obtain ⟨xr1, xr2, xr3, xr4, xr5⟩ := rcr _ (List.mem_of_getElem? hx)
  refine z_aload_n (pc := 0) (j := 0) C dX4_nameChar_0 rfl rfl ?_
  refine z_iconst (pc := 1) C dX4_nameChar_1 ?_
  refine z_putfield (pc := 2) (fs' := [.ref A.v, .ref A.pa, .int (iI ((σ.hi.length : Nat) : Int)), .ref A.tx, .int (iI ((σ.tx.length : Nat) : Int)), .int (iI σ.si), .int (iI σ.fl), .int (iI σ.wd), .int (iI 0), .ref A.le, .ref A.qa, .int (iI ap), .int (iI nt), .int (iI rr), .int (iI rq), .int (iI rb), .int (iI wh), .ref A.ma, .ref A.na, .int (iI nd), .ref A.ua, .ref A.la, .int (iI up), .int (iI lo)]) C in_X4 tyX4 tyX4_ok nmX4 rfl 8 (by decide) q2090 (fun _ z => z) rfl rfl rfl (Nat.le_of_ble_eq_true rfl) gm_1 rfl dX4_nameChar_2 ?_
  refine Z.nm (fun h2 eh2 => ?_)
  have kh2 : zkeep h h2 [A.m, A.v, A.pa, A.tx, A.ma, A.na, A.ua, A.la] := by rw [eh2]; exact zkeep.up zkeep.rf (Or.inl (by simp)) gm_1
  have fh2_0 : h2 A.m = some (true, .inr (3, [.ref A.v, .ref A.pa, .int (iI ((σ.hi.length : Nat) : Int)), .ref A.tx, .int (iI ((σ.tx.length : Nat) : Int)), .int (iI σ.si), .int (iI σ.fl), .int (iI σ.wd), .int (iI 0), .ref A.le, .ref A.qa, .int (iI ap), .int (iI nt), .int (iI rr), .int (iI rq), .int (iI rb), .int (iI wh), .ref A.ma, .ref A.na, .int (iI nd), .ref A.ua, .ref A.la, .int (iI up), .int (iI lo)])) := zse eh2
  have fh2_1 : h2 A.v = some (true, .inl (.int, 620, (mA V))) := zsn eh2 gv_1 (Ne.symm (zneA gm_1 gv_1))
  have fh2_2 : h2 A.pa = some (true, .inl (.int, 4960, (mA P))) := zsn eh2 gpa_1 (Ne.symm (zneA gm_1 gpa_1))
  have fh2_3 : h2 A.tx = some (true, .inl (.int, 200, (mA T))) := zsn eh2 gtx_1 (Ne.symm (zneA gm_1 gtx_1))
  have fh2_4 : h2 A.ma = some (true, .inl (.int, 620, (mA M))) := zsn eh2 gma_1 (Ne.symm (zneA gm_1 gma_1))
  have fh2_5 : h2 A.na = some (true, .inl (.int, 20, (mA N))) := zsn eh2 gna_1 (Ne.symm (zneA gm_1 gna_1))
  have fh2_6 : h2 A.ua = some (true, .inl (.int, 1200, (mA U))) := zsn eh2 gua_1 (Ne.symm (zneA gm_1 gua_1))
  have fh2_7 : h2 A.la = some (true, .inl (.int, 1200, (mA W))) := zsn eh2 gla_1 (Ne.symm (zneA gm_1 gla_1))
  refine z_aload_n (pc := 5) (j := 0) C dX4_nameChar_5 rfl rfl ?_
  refine z_iload_n (pc := 6) (j := 1) C dX4_nameChar_6 rfl rfl ?_
  refine z_callV (pc := 7) (n := 1) (kc' := 0) (ks' := 0) C (m_isChord C.t ⟨fh2_0, fh2_1, fh2_2, fh2_3, fh2_4, fh2_5, fh2_6, fh2_7, (kh2.n gle_1 (List.not_mem_cons_of_ne_of_not_mem (Ne.symm (zneA gm_1 gle_1)) (List.not_mem_cons_of_ne_of_not_mem (zneT gle_1 gv_1 (by simp)) (List.not_mem_cons_of_ne_of_not_mem (zneT gle_1 gpa_1 (by simp)) (List.not_mem_cons_of_ne_of_not_mem (zneT gle_1 gtx_1 (by simp)) (List.not_mem_cons_of_ne_of_not_mem (zneT gle_1 gma_1 (by simp)) (List.not_mem_cons_of_ne_of_not_mem (zneT gle_1 gna_1 (by simp)) (List.not_mem_cons_of_ne_of_not_mem (zneT gle_1 gua_1 (by simp)) (List.not_mem_cons_of_ne_of_not_mem (zneT gle_1 gla_1 (by simp)) List.not_mem_nil))))))))), (kh2.n gqa_1 (List.not_mem_cons_of_ne_of_not_mem (Ne.symm (zneA gm_1 gqa_1)) (List.not_mem_cons_of_ne_of_not_mem (zneT gqa_1 gv_1 (by simp)) (List.not_mem_cons_of_ne_of_not_mem (zneT gqa_1 gpa_1 (by simp)) (List.not_mem_cons_of_ne_of_not_mem (zneT gqa_1 gtx_1 (by simp)) (List.not_mem_cons_of_ne_of_not_mem (zneT gqa_1 gma_1 (by simp)) (List.not_mem_cons_of_ne_of_not_mem (zneT gqa_1 gna_1 (by simp)) (List.not_mem_cons_of_ne_of_not_mem (zneT gqa_1 gua_1 (by simp)) (List.not_mem_cons_of_ne_of_not_mem (zneT gqa_1 gla_1 (by simp)) List.not_mem_nil))))))))), gd_1⟩ hS hsl (i := i) (by omega)) (lw_V q2278 q2280 qs41 q74 q2281) (by decide +kernel) ⟨by decide, by decide⟩ fh2_0 rfl rfl rfl (Nat.le_of_ble_eq_true rfl) dX4_nameChar_7 (by omega) (by omega) (zpk (st' := [.int (iI (if 0 ≤ i ∧ i ≤ ((σ.sh.cs.length : Nat) : Int) - 1 then 1 else 0))]) rfl ?_) zrx
  rw [show ((if 0 ≤ i ∧ i ≤ ((σ.sh.cs.length : Nat) : Int) - 1 then 1 else 0) : Int) = 1 from if_pos (by omega)]
  show Z X h2 0 0 [(0, .ref A.m), (1, .int (iI i)), (2, .int (iI k))] 10 [.int (iI 1)]
  refine z_if_eq (pc := 10) (tgt := 17) C dX4_nameChar_10 (by decide) (by decide) (fun z => absurd z (by decide)) (fun _ => ?_)
  refine z_iload_n (pc := 13) (j := 2) C dX4_nameChar_13 rfl rfl ?_
  refine z_if_ge (pc := 14) (tgt := 23) C dX4_nameChar_14 (by decide) (by omega) (fun c14 => by exfalso; omega) (fun c14 => ?_)
  refine z_aload_n (pc := 17) (j := 0) C dX4_nameChar_17 rfl rfl ?_
  refine z_iconst (pc := 18) C dX4_nameChar_18 ?_
  refine z_callV (pc := 19) (n := 1) (kc' := 0) (ks' := 0) C (m_fails C.t ⟨fh2_0, fh2_1, fh2_2, fh2_3, fh2_4, fh2_5, fh2_6, fh2_7, (kh2.n gle_1 (List.not_mem_cons_of_ne_of_not_mem (Ne.symm (zneA gm_1 gle_1)) (List.not_mem_cons_of_ne_of_not_mem (zneT gle_1 gv_1 (by simp)) (List.not_mem_cons_of_ne_of_not_mem (zneT gle_1 gpa_1 (by simp)) (List.not_mem_cons_of_ne_of_not_mem (zneT gle_1 gtx_1 (by simp)) (List.not_mem_cons_of_ne_of_not_mem (zneT gle_1 gma_1 (by simp)) (List.not_mem_cons_of_ne_of_not_mem (zneT gle_1 gna_1 (by simp)) (List.not_mem_cons_of_ne_of_not_mem (zneT gle_1 gua_1 (by simp)) (List.not_mem_cons_of_ne_of_not_mem (zneT gle_1 gla_1 (by simp)) List.not_mem_nil))))))))), (kh2.n gqa_1 (List.not_mem_cons_of_ne_of_not_mem (Ne.symm (zneA gm_1 gqa_1)) (List.not_mem_cons_of_ne_of_not_mem (zneT gqa_1 gv_1 (by simp)) (List.not_mem_cons_of_ne_of_not_mem (zneT gqa_1 gpa_1 (by simp)) (List.not_mem_cons_of_ne_of_not_mem (zneT gqa_1 gtx_1 (by simp)) (List.not_mem_cons_of_ne_of_not_mem (zneT gqa_1 gma_1 (by simp)) (List.not_mem_cons_of_ne_of_not_mem (zneT gqa_1 gna_1 (by simp)) (List.not_mem_cons_of_ne_of_not_mem (zneT gqa_1 gua_1 (by simp)) (List.not_mem_cons_of_ne_of_not_mem (zneT gqa_1 gla_1 (by simp)) List.not_mem_nil))))))))), gd_1⟩ (x := 1)) (lw_V q2167 q2169 qs27 q74 q2170) (by decide +kernel) ⟨by decide, by decide⟩ fh2_0 rfl rfl rfl (Nat.le_of_ble_eq_true rfl) dX4_nameChar_19 (by omega) (by omega) (zrk fun w h3 hp => ?_) zrx
  obtain ⟨rfl, hM_5, k4⟩ := hp
  have kh3 : zkeep h h3 [A.m, A.v, A.pa, A.tx, A.ma, A.na, A.ua, A.la] := zkeep.loc kh2 k4 (fun q hq => Or.inl (Or.inr hq))
  have hM_5 : mM h3 A ((σ.hi.length : Nat) : Int) ((σ.tx.length : Nat) : Int) σ.si σ.fl σ.wd 1 ap nt rr rq rb wh nd up lo V P T M N U W := hM_5
  obtain ⟨gm_6, gv_6, gpa_6, gtx_6, gma_6, gna_6, gua_6, gla_6, gle_6, gqa_6, gd_6⟩ := id hM_5
  show Z X h3 0 0 [(0, .ref A.m), (1, .int (iI i)), (2, .int (iI k))] 22 [.int (iI 0)]
  exact z_ireturn (pc := 22) C (by rw [hXp]; exact ⟨_, rfl, rfl, ⟨ap, nt, rr, rq, rb, wh, nd, up, lo, V, P, T, M, N, U, W, ⟨gm_6, gv_6, gpa_6, gtx_6, gma_6, gna_6, gua_6, gla_6, gle_6, gqa_6, gd_6⟩, hS, hP, htq, hR, hsl, hslh⟩, kh3⟩) dX4_nameChar_22

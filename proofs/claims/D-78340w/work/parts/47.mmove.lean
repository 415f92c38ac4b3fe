/-! 47.mmove.lean.txt -/
set_option maxRecDepth 100000
abbrev cX4_comesTo : ByteArray := prog_11_method_42_code
def yX4_comesTo : MethodName := ⟨RX4, "comesTo", "(II)I"⟩
def dkwX4_comesTo_3 : List UInt8 := [132, 4, 1, 167, 255, 192, 29, 172]
abbrev dktX4_comesTo_3 : List UInt8 := dkwX4_comesTo_3 ++ []
def dkwX4_comesTo_2 : List UInt8 := [180, 0, 7, 21, 4, 184, 0, 94, 4, 96, 46, 28, 163, 0, 7, 4, 167, 0, 4, 3, 96, 62]
abbrev dktX4_comesTo_2 : List UInt8 := dkwX4_comesTo_2 ++ dktX4_comesTo_3
def dkwX4_comesTo_1 : List UInt8 := [184, 0, 94, 3, 96, 46, 54, 5, 29, 21, 5, 27, 161, 0, 25, 21, 5, 27, 160, 0, 23, 42]
abbrev dktX4_comesTo_1 : List UInt8 := dkwX4_comesTo_1 ++ dktX4_comesTo_2
def dkwX4_comesTo_0 : List UInt8 := [3, 62, 3, 54, 4, 21, 4, 42, 180, 0, 7, 4, 46, 162, 0, 59, 42, 180, 0, 7, 21, 4]
abbrev dktX4_comesTo_0 : List UInt8 := dkwX4_comesTo_0 ++ dktX4_comesTo_1
theorem dksX4_comesTo_0 : cX4_comesTo.data.toList.drop 0 = dktX4_comesTo_0 := by decide +kernel
theorem dksX4_comesTo_1 : cX4_comesTo.data.toList.drop 22 = dktX4_comesTo_1 := dk_seg dksX4_comesTo_0 22 rfl rfl
theorem dksX4_comesTo_2 : cX4_comesTo.data.toList.drop 44 = dktX4_comesTo_2 := dk_seg dksX4_comesTo_1 22 rfl rfl
theorem dksX4_comesTo_3 : cX4_comesTo.data.toList.drop 66 = dktX4_comesTo_3 := dk_seg dksX4_comesTo_2 22 rfl rfl
abbrev cX4_opens : ByteArray := prog_11_method_43_code
def yX4_opens : MethodName := ⟨RX4, "opens", "(I)V"⟩
def dkwX4_opens_2 : List UInt8 := [4, 92, 46, 4, 96, 79, 177]
abbrev dktX4_opens_2 : List UInt8 := dkwX4_opens_2 ++ []
def dkwX4_opens_1 : List UInt8 := [42, 180, 0, 7, 28, 42, 180, 0, 7, 28, 8, 100, 46, 79, 132, 2, 255, 167, 255, 229, 42, 180, 0, 7]
abbrev dktX4_opens_1 : List UInt8 := dkwX4_opens_1 ++ dktX4_opens_2
def dkwX4_opens_0 : List UInt8 := [42, 180, 0, 7, 4, 46, 184, 0, 94, 8, 96, 4, 100, 61, 28, 27, 184, 0, 94, 8, 96, 161, 0, 23]
abbrev dktX4_opens_0 : List UInt8 := dkwX4_opens_0 ++ dktX4_opens_1
theorem dksX4_opens_0 : cX4_opens.data.toList.drop 0 = dktX4_opens_0 := by decide +kernel
theorem dksX4_opens_1 : cX4_opens.data.toList.drop 24 = dktX4_opens_1 := dk_seg dksX4_opens_0 24 rfl rfl
theorem dksX4_opens_2 : cX4_opens.data.toList.drop 48 = dktX4_opens_2 := dk_seg dksX4_opens_1 24 rfl rfl
abbrev cX4_closes : ByteArray := prog_11_method_44_code
def yX4_closes : MethodName := ⟨RX4, "closes", "(I)V"⟩
def dkwX4_closes_3 : List UInt8 := [96, 3, 79, 132, 2, 1, 167, 255, 231, 177]
abbrev dktX4_closes_3 : List UInt8 := dkwX4_closes_3 ++ []
def dkwX4_closes_2 : List UInt8 := [167, 255, 226, 3, 61, 28, 8, 162, 0, 26, 42, 180, 0, 7, 42, 180, 0, 7, 4, 46, 184, 0, 94, 28]
abbrev dktX4_closes_2 : List UInt8 := dkwX4_closes_2 ++ dktX4_closes_3
def dkwX4_closes_1 : List UInt8 := [184, 0, 94, 162, 0, 23, 42, 180, 0, 7, 28, 42, 180, 0, 7, 28, 8, 96, 46, 79, 132, 2, 1]
abbrev dktX4_closes_1 : List UInt8 := dkwX4_closes_1 ++ dktX4_closes_2
def dkwX4_closes_0 : List UInt8 := [42, 180, 0, 7, 4, 92, 46, 4, 100, 79, 27, 184, 0, 94, 61, 28, 42, 180, 0, 7, 4, 46]
abbrev dktX4_closes_0 : List UInt8 := dkwX4_closes_0 ++ dktX4_closes_1
theorem dksX4_closes_0 : cX4_closes.data.toList.drop 0 = dktX4_closes_0 := by decide +kernel
theorem dksX4_closes_1 : cX4_closes.data.toList.drop 22 = dktX4_closes_1 := dk_seg dksX4_closes_0 22 rfl rfl
theorem dksX4_closes_2 : cX4_closes.data.toList.drop 45 = dktX4_closes_2 := dk_seg dksX4_closes_1 23 rfl rfl
theorem dksX4_closes_3 : cX4_closes.data.toList.drop 69 = dktX4_closes_3 := dk_seg dksX4_closes_2 24 rfl rfl
abbrev cX4_removeChord : ByteArray := prog_11_method_46_code
def yX4_removeChord : MethodName := ⟨RX4, "removeChord", "(I)I"⟩
def dkwX4_removeChord_1 : List UInt8 := [27, 182, 0, 158, 42, 180, 0, 7, 4, 46, 172]
abbrev dktX4_removeChord_1 : List UInt8 := dkwX4_removeChord_1 ++ []
def dkwX4_removeChord_0 : List UInt8 := [42, 3, 181, 0, 46, 42, 27, 182, 0, 127, 154, 0, 9, 42, 4, 182, 0, 101, 172, 42, 182, 0, 107, 42]
abbrev dktX4_removeChord_0 : List UInt8 := dkwX4_removeChord_0 ++ dktX4_removeChord_1
theorem dksX4_removeChord_0 : cX4_removeChord.data.toList.drop 0 = dktX4_removeChord_0 := by decide +kernel
theorem dksX4_removeChord_1 : cX4_removeChord.data.toList.drop 24 = dktX4_removeChord_1 := dk_seg dksX4_removeChord_0 24 rfl rfl
abbrev cX4_addChord : ByteArray := prog_11_method_45_code
def yX4_addChord : MethodName := ⟨RX4, "addChord", "(II)I"⟩
def dkwX4_addChord_4 : List UInt8 := [180, 0, 7, 29, 184, 0, 94, 4, 96, 28, 79, 42, 29, 184, 0, 94, 182, 0, 149, 29, 172]
abbrev dktX4_addChord_4 : List UInt8 := dkwX4_addChord_4 ++ []
def dkwX4_addChord_3 : List UInt8 := [28, 182, 0, 152, 62, 42, 29, 182, 0, 155, 42, 180, 0, 7, 29, 184, 0, 94, 3, 96, 27, 79, 42]
abbrev dktX4_addChord_3 : List UInt8 := dkwX4_addChord_3 ++ dktX4_addChord_4
def dkwX4_addChord_2 : List UInt8 := [182, 0, 101, 172, 42, 182, 0, 146, 154, 0, 10, 2, 42, 180, 0, 59, 100, 172, 42, 182, 0, 107, 42, 27]
abbrev dktX4_addChord_2 : List UInt8 := dkwX4_addChord_2 ++ dktX4_addChord_3
def dkwX4_addChord_1 : List UInt8 := [154, 0, 9, 42, 4, 182, 0, 101, 172, 42, 180, 0, 7, 4, 46, 16, 40, 160, 0, 9, 42, 5]
abbrev dktX4_addChord_1 : List UInt8 := dkwX4_addChord_1 ++ dktX4_addChord_2
def dkwX4_addChord_0 : List UInt8 := [42, 3, 181, 0, 46, 42, 27, 182, 0, 117, 153, 0, 16, 28, 3, 42, 27, 182, 0, 120, 184, 0, 97]
abbrev dktX4_addChord_0 : List UInt8 := dkwX4_addChord_0 ++ dktX4_addChord_1
theorem dksX4_addChord_0 : cX4_addChord.data.toList.drop 0 = dktX4_addChord_0 := by decide +kernel
theorem dksX4_addChord_1 : cX4_addChord.data.toList.drop 23 = dktX4_addChord_1 := dk_seg dksX4_addChord_0 23 rfl rfl
theorem dksX4_addChord_2 : cX4_addChord.data.toList.drop 45 = dktX4_addChord_2 := dk_seg dksX4_addChord_1 22 rfl rfl
theorem dksX4_addChord_3 : cX4_addChord.data.toList.drop 69 = dktX4_addChord_3 := dk_seg dksX4_addChord_2 24 rfl rfl
theorem dksX4_addChord_4 : cX4_addChord.data.toList.drop 92 = dktX4_addChord_4 := dk_seg dksX4_addChord_3 23 rfl rfl
abbrev cX4_moveChord : ByteArray := prog_11_method_47_code
def yX4_moveChord : MethodName := ⟨RX4, "moveChord", "(II)I"⟩
def dkwX4_moveChord_7 : List UInt8 := [6, 96, 21, 5, 79, 42, 180, 0, 7, 21, 7, 184, 0, 94, 7, 96, 21, 6, 79, 21, 7, 172]
abbrev dktX4_moveChord_7 : List UInt8 := dkwX4_moveChord_7 ++ []
def dkwX4_moveChord_6 : List UInt8 := [79, 42, 180, 0, 7, 21, 7, 184, 0, 94, 5, 96, 21, 4, 79, 42, 180, 0, 7, 21, 7, 184, 0, 94]
abbrev dktX4_moveChord_6 : List UInt8 := dkwX4_moveChord_6 ++ dktX4_moveChord_7
def dkwX4_moveChord_5 : List UInt8 := [180, 0, 7, 21, 7, 184, 0, 94, 3, 96, 29, 79, 42, 180, 0, 7, 21, 7, 184, 0, 94, 4, 96, 28]
abbrev dktX4_moveChord_5 : List UInt8 := dkwX4_moveChord_5 ++ dktX4_moveChord_6
def dkwX4_moveChord_4 : List UInt8 := [54, 6, 42, 27, 182, 0, 158, 42, 29, 28, 182, 0, 152, 54, 7, 42, 21, 7, 182, 0, 155, 42]
abbrev dktX4_moveChord_4 : List UInt8 := dkwX4_moveChord_4 ++ dktX4_moveChord_5
def dkwX4_moveChord_3 : List UInt8 := [180, 0, 7, 27, 184, 0, 94, 6, 96, 46, 54, 5, 42, 180, 0, 7, 27, 184, 0, 94, 7, 96, 46]
abbrev dktX4_moveChord_3 : List UInt8 := dkwX4_moveChord_3 ++ dktX4_moveChord_4
def dkwX4_moveChord_2 : List UInt8 := [27, 184, 0, 94, 3, 96, 46, 62, 42, 180, 0, 7, 27, 184, 0, 94, 5, 96, 46, 54, 4, 42]
abbrev dktX4_moveChord_2 : List UInt8 := dkwX4_moveChord_2 ++ dktX4_moveChord_3
def dkwX4_moveChord_1 : List UInt8 := [46, 182, 0, 120, 184, 0, 97, 154, 0, 9, 42, 4, 182, 0, 101, 172, 42, 182, 0, 107, 42, 180, 0, 7]
abbrev dktX4_moveChord_1 : List UInt8 := dkwX4_moveChord_1 ++ dktX4_moveChord_2
def dkwX4_moveChord_0 : List UInt8 := [42, 3, 181, 0, 46, 42, 27, 182, 0, 127, 153, 0, 24, 28, 3, 42, 42, 180, 0, 7, 27, 184, 0, 94]
abbrev dktX4_moveChord_0 : List UInt8 := dkwX4_moveChord_0 ++ dktX4_moveChord_1
theorem dksX4_moveChord_0 : cX4_moveChord.data.toList.drop 0 = dktX4_moveChord_0 := by decide +kernel
theorem dksX4_moveChord_1 : cX4_moveChord.data.toList.drop 24 = dktX4_moveChord_1 := dk_seg dksX4_moveChord_0 24 rfl rfl
theorem dksX4_moveChord_2 : cX4_moveChord.data.toList.drop 48 = dktX4_moveChord_2 := dk_seg dksX4_moveChord_1 24 rfl rfl
theorem dksX4_moveChord_3 : cX4_moveChord.data.toList.drop 70 = dktX4_moveChord_3 := dk_seg dksX4_moveChord_2 22 rfl rfl
theorem dksX4_moveChord_4 : cX4_moveChord.data.toList.drop 93 = dktX4_moveChord_4 := dk_seg dksX4_moveChord_3 23 rfl rfl
theorem dksX4_moveChord_5 : cX4_moveChord.data.toList.drop 115 = dktX4_moveChord_5 := dk_seg dksX4_moveChord_4 22 rfl rfl
theorem dksX4_moveChord_6 : cX4_moveChord.data.toList.drop 139 = dktX4_moveChord_6 := dk_seg dksX4_moveChord_5 24 rfl rfl
theorem dksX4_moveChord_7 : cX4_moveChord.data.toList.drop 163 = dktX4_moveChord_7 := dk_seg dksX4_moveChord_6 24 rfl rfl
theorem dX4_comesTo_0 : decode cX4_comesTo 0 = .ok (.iconst 0, 1) := dk_3 (dk_at dksX4_comesTo_0 0 rfl rfl)
theorem dX4_comesTo_1 : decode cX4_comesTo 1 = .ok (.istore_n 3, 1) := dk_62 (dk_at dksX4_comesTo_0 1 rfl rfl)
theorem dX4_comesTo_2 : decode cX4_comesTo 2 = .ok (.iconst 0, 1) := dk_3 (dk_at dksX4_comesTo_0 2 rfl rfl)
theorem dX4_comesTo_3 : decode cX4_comesTo 3 = .ok (.istore 4, 2) := dk_54 4 (dk_at dksX4_comesTo_0 3 rfl rfl)
theorem dX4_comesTo_5 : decode cX4_comesTo 5 = .ok (.iload 4, 2) := dk_21 4 (dk_at dksX4_comesTo_0 5 rfl rfl)
theorem dX4_comesTo_7 : decode cX4_comesTo 7 = .ok (.aload_n 0, 1) := dk_42 (dk_at dksX4_comesTo_0 7 rfl rfl)
theorem dX4_comesTo_8 : decode cX4_comesTo 8 = .ok (.getfield 7, 3) := dk_180 0 7 (dk_at dksX4_comesTo_0 8 rfl rfl)
theorem dX4_comesTo_11 : decode cX4_comesTo 11 = .ok (.iconst 1, 1) := dk_4 (dk_at dksX4_comesTo_0 11 rfl rfl)
theorem dX4_comesTo_12 : decode cX4_comesTo 12 = .ok (.iaload, 1) := dk_46 (dk_at dksX4_comesTo_0 12 rfl rfl)
theorem dX4_comesTo_13 : decode cX4_comesTo 13 = .ok (.if_icmp .ge 59, 3) := dk_162 0 59 (dk_at dksX4_comesTo_0 13 rfl rfl)
theorem dX4_comesTo_16 : decode cX4_comesTo 16 = .ok (.aload_n 0, 1) := dk_42 (dk_at dksX4_comesTo_0 16 rfl rfl)
theorem dX4_comesTo_17 : decode cX4_comesTo 17 = .ok (.getfield 7, 3) := dk_180 0 7 (dk_at dksX4_comesTo_0 17 rfl rfl)
theorem dX4_comesTo_20 : decode cX4_comesTo 20 = .ok (.iload 4, 2) := dk_21 4 (dk_at dksX4_comesTo_0 20 rfl rfl)
theorem dX4_comesTo_22 : decode cX4_comesTo 22 = .ok (.invokestatic 94, 3) := dk_184 0 94 (dk_at dksX4_comesTo_1 0 rfl rfl)
theorem dX4_comesTo_25 : decode cX4_comesTo 25 = .ok (.iconst 0, 1) := dk_3 (dk_at dksX4_comesTo_1 3 rfl rfl)
theorem dX4_comesTo_26 : decode cX4_comesTo 26 = .ok (.iadd, 1) := dk_96 (dk_at dksX4_comesTo_1 4 rfl rfl)
theorem dX4_comesTo_27 : decode cX4_comesTo 27 = .ok (.iaload, 1) := dk_46 (dk_at dksX4_comesTo_1 5 rfl rfl)
theorem dX4_comesTo_28 : decode cX4_comesTo 28 = .ok (.istore 5, 2) := dk_54 5 (dk_at dksX4_comesTo_1 6 rfl rfl)
theorem dX4_comesTo_30 : decode cX4_comesTo 30 = .ok (.iload_n 3, 1) := dk_29 (dk_at dksX4_comesTo_1 8 rfl rfl)
theorem dX4_comesTo_31 : decode cX4_comesTo 31 = .ok (.iload 5, 2) := dk_21 5 (dk_at dksX4_comesTo_1 9 rfl rfl)
theorem dX4_comesTo_33 : decode cX4_comesTo 33 = .ok (.iload_n 1, 1) := dk_27 (dk_at dksX4_comesTo_1 11 rfl rfl)
theorem dX4_comesTo_34 : decode cX4_comesTo 34 = .ok (.if_icmp .lt 25, 3) := dk_161 0 25 (dk_at dksX4_comesTo_1 12 rfl rfl)
theorem dX4_comesTo_37 : decode cX4_comesTo 37 = .ok (.iload 5, 2) := dk_21 5 (dk_at dksX4_comesTo_1 15 rfl rfl)
theorem dX4_comesTo_39 : decode cX4_comesTo 39 = .ok (.iload_n 1, 1) := dk_27 (dk_at dksX4_comesTo_1 17 rfl rfl)
theorem dX4_comesTo_40 : decode cX4_comesTo 40 = .ok (.if_icmp .ne 23, 3) := dk_160 0 23 (dk_at dksX4_comesTo_1 18 rfl rfl)
theorem dX4_comesTo_43 : decode cX4_comesTo 43 = .ok (.aload_n 0, 1) := dk_42 (dk_at dksX4_comesTo_1 21 rfl rfl)
theorem dX4_comesTo_44 : decode cX4_comesTo 44 = .ok (.getfield 7, 3) := dk_180 0 7 (dk_at dksX4_comesTo_2 0 rfl rfl)
theorem dX4_comesTo_47 : decode cX4_comesTo 47 = .ok (.iload 4, 2) := dk_21 4 (dk_at dksX4_comesTo_2 3 rfl rfl)
theorem dX4_comesTo_49 : decode cX4_comesTo 49 = .ok (.invokestatic 94, 3) := dk_184 0 94 (dk_at dksX4_comesTo_2 5 rfl rfl)
theorem dX4_comesTo_52 : decode cX4_comesTo 52 = .ok (.iconst 1, 1) := dk_4 (dk_at dksX4_comesTo_2 8 rfl rfl)
theorem dX4_comesTo_53 : decode cX4_comesTo 53 = .ok (.iadd, 1) := dk_96 (dk_at dksX4_comesTo_2 9 rfl rfl)
theorem dX4_comesTo_54 : decode cX4_comesTo 54 = .ok (.iaload, 1) := dk_46 (dk_at dksX4_comesTo_2 10 rfl rfl)
theorem dX4_comesTo_55 : decode cX4_comesTo 55 = .ok (.iload_n 2, 1) := dk_28 (dk_at dksX4_comesTo_2 11 rfl rfl)
theorem dX4_comesTo_56 : decode cX4_comesTo 56 = .ok (.if_icmp .gt 7, 3) := dk_163 0 7 (dk_at dksX4_comesTo_2 12 rfl rfl)
theorem dX4_comesTo_59 : decode cX4_comesTo 59 = .ok (.iconst 1, 1) := dk_4 (dk_at dksX4_comesTo_2 15 rfl rfl)
theorem dX4_comesTo_60 : decode cX4_comesTo 60 = .ok (.goto 4, 3) := dk_167 0 4 (dk_at dksX4_comesTo_2 16 rfl rfl)
theorem dX4_comesTo_63 : decode cX4_comesTo 63 = .ok (.iconst 0, 1) := dk_3 (dk_at dksX4_comesTo_2 19 rfl rfl)
theorem dX4_comesTo_64 : decode cX4_comesTo 64 = .ok (.iadd, 1) := dk_96 (dk_at dksX4_comesTo_2 20 rfl rfl)
theorem dX4_comesTo_65 : decode cX4_comesTo 65 = .ok (.istore_n 3, 1) := dk_62 (dk_at dksX4_comesTo_2 21 rfl rfl)
theorem dX4_comesTo_66 : decode cX4_comesTo 66 = .ok (.iinc 4 1, 3) := dk_132 4 1 (dk_at dksX4_comesTo_3 0 rfl rfl)
theorem dX4_comesTo_69 : decode cX4_comesTo 69 = .ok (.goto (-64), 3) := dk_167 255 192 (dk_at dksX4_comesTo_3 3 rfl rfl)
theorem dX4_comesTo_72 : decode cX4_comesTo 72 = .ok (.iload_n 3, 1) := dk_29 (dk_at dksX4_comesTo_3 6 rfl rfl)
theorem dX4_comesTo_73 : decode cX4_comesTo 73 = .ok (.ireturn, 1) := dk_172 (dk_at dksX4_comesTo_3 7 rfl rfl)
theorem dX4_opens_0 : decode cX4_opens 0 = .ok (.aload_n 0, 1) := dk_42 (dk_at dksX4_opens_0 0 rfl rfl)
theorem dX4_opens_1 : decode cX4_opens 1 = .ok (.getfield 7, 3) := dk_180 0 7 (dk_at dksX4_opens_0 1 rfl rfl)
theorem dX4_opens_4 : decode cX4_opens 4 = .ok (.iconst 1, 1) := dk_4 (dk_at dksX4_opens_0 4 rfl rfl)
theorem dX4_opens_5 : decode cX4_opens 5 = .ok (.iaload, 1) := dk_46 (dk_at dksX4_opens_0 5 rfl rfl)
theorem dX4_opens_6 : decode cX4_opens 6 = .ok (.invokestatic 94, 3) := dk_184 0 94 (dk_at dksX4_opens_0 6 rfl rfl)
theorem dX4_opens_9 : decode cX4_opens 9 = .ok (.iconst 5, 1) := dk_8 (dk_at dksX4_opens_0 9 rfl rfl)
theorem dX4_opens_10 : decode cX4_opens 10 = .ok (.iadd, 1) := dk_96 (dk_at dksX4_opens_0 10 rfl rfl)
theorem dX4_opens_11 : decode cX4_opens 11 = .ok (.iconst 1, 1) := dk_4 (dk_at dksX4_opens_0 11 rfl rfl)
theorem dX4_opens_12 : decode cX4_opens 12 = .ok (.isub, 1) := dk_100 (dk_at dksX4_opens_0 12 rfl rfl)
theorem dX4_opens_13 : decode cX4_opens 13 = .ok (.istore_n 2, 1) := dk_61 (dk_at dksX4_opens_0 13 rfl rfl)
theorem dX4_opens_14 : decode cX4_opens 14 = .ok (.iload_n 2, 1) := dk_28 (dk_at dksX4_opens_0 14 rfl rfl)
theorem dX4_opens_15 : decode cX4_opens 15 = .ok (.iload_n 1, 1) := dk_27 (dk_at dksX4_opens_0 15 rfl rfl)
theorem dX4_opens_16 : decode cX4_opens 16 = .ok (.invokestatic 94, 3) := dk_184 0 94 (dk_at dksX4_opens_0 16 rfl rfl)
theorem dX4_opens_19 : decode cX4_opens 19 = .ok (.iconst 5, 1) := dk_8 (dk_at dksX4_opens_0 19 rfl rfl)
theorem dX4_opens_20 : decode cX4_opens 20 = .ok (.iadd, 1) := dk_96 (dk_at dksX4_opens_0 20 rfl rfl)
theorem dX4_opens_21 : decode cX4_opens 21 = .ok (.if_icmp .lt 23, 3) := dk_161 0 23 (dk_at dksX4_opens_0 21 rfl rfl)
theorem dX4_opens_24 : decode cX4_opens 24 = .ok (.aload_n 0, 1) := dk_42 (dk_at dksX4_opens_1 0 rfl rfl)
theorem dX4_opens_25 : decode cX4_opens 25 = .ok (.getfield 7, 3) := dk_180 0 7 (dk_at dksX4_opens_1 1 rfl rfl)
theorem dX4_opens_28 : decode cX4_opens 28 = .ok (.iload_n 2, 1) := dk_28 (dk_at dksX4_opens_1 4 rfl rfl)
theorem dX4_opens_29 : decode cX4_opens 29 = .ok (.aload_n 0, 1) := dk_42 (dk_at dksX4_opens_1 5 rfl rfl)
theorem dX4_opens_30 : decode cX4_opens 30 = .ok (.getfield 7, 3) := dk_180 0 7 (dk_at dksX4_opens_1 6 rfl rfl)
theorem dX4_opens_33 : decode cX4_opens 33 = .ok (.iload_n 2, 1) := dk_28 (dk_at dksX4_opens_1 9 rfl rfl)
theorem dX4_opens_34 : decode cX4_opens 34 = .ok (.iconst 5, 1) := dk_8 (dk_at dksX4_opens_1 10 rfl rfl)
theorem dX4_opens_35 : decode cX4_opens 35 = .ok (.isub, 1) := dk_100 (dk_at dksX4_opens_1 11 rfl rfl)
theorem dX4_opens_36 : decode cX4_opens 36 = .ok (.iaload, 1) := dk_46 (dk_at dksX4_opens_1 12 rfl rfl)
theorem dX4_opens_37 : decode cX4_opens 37 = .ok (.iastore, 1) := dk_79 (dk_at dksX4_opens_1 13 rfl rfl)
theorem dX4_opens_38 : decode cX4_opens 38 = .ok (.iinc 2 (-1), 3) := dk_132 2 255 (dk_at dksX4_opens_1 14 rfl rfl)
theorem dX4_opens_41 : decode cX4_opens 41 = .ok (.goto (-27), 3) := dk_167 255 229 (dk_at dksX4_opens_1 17 rfl rfl)
theorem dX4_opens_44 : decode cX4_opens 44 = .ok (.aload_n 0, 1) := dk_42 (dk_at dksX4_opens_1 20 rfl rfl)
theorem dX4_opens_45 : decode cX4_opens 45 = .ok (.getfield 7, 3) := dk_180 0 7 (dk_at dksX4_opens_1 21 rfl rfl)
theorem dX4_opens_48 : decode cX4_opens 48 = .ok (.iconst 1, 1) := dk_4 (dk_at dksX4_opens_2 0 rfl rfl)
theorem dX4_opens_49 : decode cX4_opens 49 = .ok (.dup2, 1) := dk_92 (dk_at dksX4_opens_2 1 rfl rfl)
theorem dX4_opens_50 : decode cX4_opens 50 = .ok (.iaload, 1) := dk_46 (dk_at dksX4_opens_2 2 rfl rfl)
theorem dX4_opens_51 : decode cX4_opens 51 = .ok (.iconst 1, 1) := dk_4 (dk_at dksX4_opens_2 3 rfl rfl)
theorem dX4_opens_52 : decode cX4_opens 52 = .ok (.iadd, 1) := dk_96 (dk_at dksX4_opens_2 4 rfl rfl)
theorem dX4_opens_53 : decode cX4_opens 53 = .ok (.iastore, 1) := dk_79 (dk_at dksX4_opens_2 5 rfl rfl)
theorem dX4_opens_54 : decode cX4_opens 54 = .ok (.return_, 1) := dk_177 (dk_at dksX4_opens_2 6 rfl rfl)
theorem dX4_closes_0 : decode cX4_closes 0 = .ok (.aload_n 0, 1) := dk_42 (dk_at dksX4_closes_0 0 rfl rfl)
theorem dX4_closes_1 : decode cX4_closes 1 = .ok (.getfield 7, 3) := dk_180 0 7 (dk_at dksX4_closes_0 1 rfl rfl)
theorem dX4_closes_4 : decode cX4_closes 4 = .ok (.iconst 1, 1) := dk_4 (dk_at dksX4_closes_0 4 rfl rfl)
theorem dX4_closes_5 : decode cX4_closes 5 = .ok (.dup2, 1) := dk_92 (dk_at dksX4_closes_0 5 rfl rfl)
theorem dX4_closes_6 : decode cX4_closes 6 = .ok (.iaload, 1) := dk_46 (dk_at dksX4_closes_0 6 rfl rfl)
theorem dX4_closes_7 : decode cX4_closes 7 = .ok (.iconst 1, 1) := dk_4 (dk_at dksX4_closes_0 7 rfl rfl)
theorem dX4_closes_8 : decode cX4_closes 8 = .ok (.isub, 1) := dk_100 (dk_at dksX4_closes_0 8 rfl rfl)
theorem dX4_closes_9 : decode cX4_closes 9 = .ok (.iastore, 1) := dk_79 (dk_at dksX4_closes_0 9 rfl rfl)
theorem dX4_closes_10 : decode cX4_closes 10 = .ok (.iload_n 1, 1) := dk_27 (dk_at dksX4_closes_0 10 rfl rfl)
theorem dX4_closes_11 : decode cX4_closes 11 = .ok (.invokestatic 94, 3) := dk_184 0 94 (dk_at dksX4_closes_0 11 rfl rfl)
theorem dX4_closes_14 : decode cX4_closes 14 = .ok (.istore_n 2, 1) := dk_61 (dk_at dksX4_closes_0 14 rfl rfl)
theorem dX4_closes_15 : decode cX4_closes 15 = .ok (.iload_n 2, 1) := dk_28 (dk_at dksX4_closes_0 15 rfl rfl)
theorem dX4_closes_16 : decode cX4_closes 16 = .ok (.aload_n 0, 1) := dk_42 (dk_at dksX4_closes_0 16 rfl rfl)
theorem dX4_closes_17 : decode cX4_closes 17 = .ok (.getfield 7, 3) := dk_180 0 7 (dk_at dksX4_closes_0 17 rfl rfl)
theorem dX4_closes_20 : decode cX4_closes 20 = .ok (.iconst 1, 1) := dk_4 (dk_at dksX4_closes_0 20 rfl rfl)
theorem dX4_closes_21 : decode cX4_closes 21 = .ok (.iaload, 1) := dk_46 (dk_at dksX4_closes_0 21 rfl rfl)
theorem dX4_closes_22 : decode cX4_closes 22 = .ok (.invokestatic 94, 3) := dk_184 0 94 (dk_at dksX4_closes_1 0 rfl rfl)
theorem dX4_closes_25 : decode cX4_closes 25 = .ok (.if_icmp .ge 23, 3) := dk_162 0 23 (dk_at dksX4_closes_1 3 rfl rfl)
theorem dX4_closes_28 : decode cX4_closes 28 = .ok (.aload_n 0, 1) := dk_42 (dk_at dksX4_closes_1 6 rfl rfl)
theorem dX4_closes_29 : decode cX4_closes 29 = .ok (.getfield 7, 3) := dk_180 0 7 (dk_at dksX4_closes_1 7 rfl rfl)
theorem dX4_closes_32 : decode cX4_closes 32 = .ok (.iload_n 2, 1) := dk_28 (dk_at dksX4_closes_1 10 rfl rfl)
theorem dX4_closes_33 : decode cX4_closes 33 = .ok (.aload_n 0, 1) := dk_42 (dk_at dksX4_closes_1 11 rfl rfl)
theorem dX4_closes_34 : decode cX4_closes 34 = .ok (.getfield 7, 3) := dk_180 0 7 (dk_at dksX4_closes_1 12 rfl rfl)
theorem dX4_closes_37 : decode cX4_closes 37 = .ok (.iload_n 2, 1) := dk_28 (dk_at dksX4_closes_1 15 rfl rfl)
theorem dX4_closes_38 : decode cX4_closes 38 = .ok (.iconst 5, 1) := dk_8 (dk_at dksX4_closes_1 16 rfl rfl)
theorem dX4_closes_39 : decode cX4_closes 39 = .ok (.iadd, 1) := dk_96 (dk_at dksX4_closes_1 17 rfl rfl)
theorem dX4_closes_40 : decode cX4_closes 40 = .ok (.iaload, 1) := dk_46 (dk_at dksX4_closes_1 18 rfl rfl)
theorem dX4_closes_41 : decode cX4_closes 41 = .ok (.iastore, 1) := dk_79 (dk_at dksX4_closes_1 19 rfl rfl)
theorem dX4_closes_42 : decode cX4_closes 42 = .ok (.iinc 2 1, 3) := dk_132 2 1 (dk_at dksX4_closes_1 20 rfl rfl)
theorem dX4_closes_45 : decode cX4_closes 45 = .ok (.goto (-30), 3) := dk_167 255 226 (dk_at dksX4_closes_2 0 rfl rfl)
theorem dX4_closes_48 : decode cX4_closes 48 = .ok (.iconst 0, 1) := dk_3 (dk_at dksX4_closes_2 3 rfl rfl)
theorem dX4_closes_49 : decode cX4_closes 49 = .ok (.istore_n 2, 1) := dk_61 (dk_at dksX4_closes_2 4 rfl rfl)
theorem dX4_closes_50 : decode cX4_closes 50 = .ok (.iload_n 2, 1) := dk_28 (dk_at dksX4_closes_2 5 rfl rfl)
theorem dX4_closes_51 : decode cX4_closes 51 = .ok (.iconst 5, 1) := dk_8 (dk_at dksX4_closes_2 6 rfl rfl)
theorem dX4_closes_52 : decode cX4_closes 52 = .ok (.if_icmp .ge 26, 3) := dk_162 0 26 (dk_at dksX4_closes_2 7 rfl rfl)
theorem dX4_closes_55 : decode cX4_closes 55 = .ok (.aload_n 0, 1) := dk_42 (dk_at dksX4_closes_2 10 rfl rfl)
theorem dX4_closes_56 : decode cX4_closes 56 = .ok (.getfield 7, 3) := dk_180 0 7 (dk_at dksX4_closes_2 11 rfl rfl)
theorem dX4_closes_59 : decode cX4_closes 59 = .ok (.aload_n 0, 1) := dk_42 (dk_at dksX4_closes_2 14 rfl rfl)
theorem dX4_closes_60 : decode cX4_closes 60 = .ok (.getfield 7, 3) := dk_180 0 7 (dk_at dksX4_closes_2 15 rfl rfl)
theorem dX4_closes_63 : decode cX4_closes 63 = .ok (.iconst 1, 1) := dk_4 (dk_at dksX4_closes_2 18 rfl rfl)
theorem dX4_closes_64 : decode cX4_closes 64 = .ok (.iaload, 1) := dk_46 (dk_at dksX4_closes_2 19 rfl rfl)
theorem dX4_closes_65 : decode cX4_closes 65 = .ok (.invokestatic 94, 3) := dk_184 0 94 (dk_at dksX4_closes_2 20 rfl rfl)
theorem dX4_closes_68 : decode cX4_closes 68 = .ok (.iload_n 2, 1) := dk_28 (dk_at dksX4_closes_2 23 rfl rfl)
theorem dX4_closes_69 : decode cX4_closes 69 = .ok (.iadd, 1) := dk_96 (dk_at dksX4_closes_3 0 rfl rfl)
theorem dX4_closes_70 : decode cX4_closes 70 = .ok (.iconst 0, 1) := dk_3 (dk_at dksX4_closes_3 1 rfl rfl)
theorem dX4_closes_71 : decode cX4_closes 71 = .ok (.iastore, 1) := dk_79 (dk_at dksX4_closes_3 2 rfl rfl)
theorem dX4_closes_72 : decode cX4_closes 72 = .ok (.iinc 2 1, 3) := dk_132 2 1 (dk_at dksX4_closes_3 3 rfl rfl)
theorem dX4_closes_75 : decode cX4_closes 75 = .ok (.goto (-25), 3) := dk_167 255 231 (dk_at dksX4_closes_3 6 rfl rfl)
theorem dX4_closes_78 : decode cX4_closes 78 = .ok (.return_, 1) := dk_177 (dk_at dksX4_closes_3 9 rfl rfl)
theorem dX4_removeChord_0 : decode cX4_removeChord 0 = .ok (.aload_n 0, 1) := dk_42 (dk_at dksX4_removeChord_0 0 rfl rfl)
theorem dX4_removeChord_1 : decode cX4_removeChord 1 = .ok (.iconst 0, 1) := dk_3 (dk_at dksX4_removeChord_0 1 rfl rfl)
theorem dX4_removeChord_2 : decode cX4_removeChord 2 = .ok (.putfield 46, 3) := dk_181 0 46 (dk_at dksX4_removeChord_0 2 rfl rfl)
theorem dX4_removeChord_5 : decode cX4_removeChord 5 = .ok (.aload_n 0, 1) := dk_42 (dk_at dksX4_removeChord_0 5 rfl rfl)
theorem dX4_removeChord_6 : decode cX4_removeChord 6 = .ok (.iload_n 1, 1) := dk_27 (dk_at dksX4_removeChord_0 6 rfl rfl)
theorem dX4_removeChord_7 : decode cX4_removeChord 7 = .ok (.invokevirtual 127, 3) := dk_182 0 127 (dk_at dksX4_removeChord_0 7 rfl rfl)
theorem dX4_removeChord_10 : decode cX4_removeChord 10 = .ok (.ifCond .ne 9, 3) := dk_154 0 9 (dk_at dksX4_removeChord_0 10 rfl rfl)
theorem dX4_removeChord_13 : decode cX4_removeChord 13 = .ok (.aload_n 0, 1) := dk_42 (dk_at dksX4_removeChord_0 13 rfl rfl)
theorem dX4_removeChord_14 : decode cX4_removeChord 14 = .ok (.iconst 1, 1) := dk_4 (dk_at dksX4_removeChord_0 14 rfl rfl)
theorem dX4_removeChord_15 : decode cX4_removeChord 15 = .ok (.invokevirtual 101, 3) := dk_182 0 101 (dk_at dksX4_removeChord_0 15 rfl rfl)
theorem dX4_removeChord_18 : decode cX4_removeChord 18 = .ok (.ireturn, 1) := dk_172 (dk_at dksX4_removeChord_0 18 rfl rfl)
theorem dX4_removeChord_19 : decode cX4_removeChord 19 = .ok (.aload_n 0, 1) := dk_42 (dk_at dksX4_removeChord_0 19 rfl rfl)
theorem dX4_removeChord_20 : decode cX4_removeChord 20 = .ok (.invokevirtual 107, 3) := dk_182 0 107 (dk_at dksX4_removeChord_0 20 rfl rfl)
theorem dX4_removeChord_23 : decode cX4_removeChord 23 = .ok (.aload_n 0, 1) := dk_42 (dk_at dksX4_removeChord_0 23 rfl rfl)
theorem dX4_removeChord_24 : decode cX4_removeChord 24 = .ok (.iload_n 1, 1) := dk_27 (dk_at dksX4_removeChord_1 0 rfl rfl)
theorem dX4_removeChord_25 : decode cX4_removeChord 25 = .ok (.invokevirtual 158, 3) := dk_182 0 158 (dk_at dksX4_removeChord_1 1 rfl rfl)
theorem dX4_removeChord_28 : decode cX4_removeChord 28 = .ok (.aload_n 0, 1) := dk_42 (dk_at dksX4_removeChord_1 4 rfl rfl)
theorem dX4_removeChord_29 : decode cX4_removeChord 29 = .ok (.getfield 7, 3) := dk_180 0 7 (dk_at dksX4_removeChord_1 5 rfl rfl)
theorem dX4_removeChord_32 : decode cX4_removeChord 32 = .ok (.iconst 1, 1) := dk_4 (dk_at dksX4_removeChord_1 8 rfl rfl)
theorem dX4_removeChord_33 : decode cX4_removeChord 33 = .ok (.iaload, 1) := dk_46 (dk_at dksX4_removeChord_1 9 rfl rfl)
theorem dX4_removeChord_34 : decode cX4_removeChord 34 = .ok (.ireturn, 1) := dk_172 (dk_at dksX4_removeChord_1 10 rfl rfl)
theorem dX4_addChord_0 : decode cX4_addChord 0 = .ok (.aload_n 0, 1) := dk_42 (dk_at dksX4_addChord_0 0 rfl rfl)
theorem dX4_addChord_1 : decode cX4_addChord 1 = .ok (.iconst 0, 1) := dk_3 (dk_at dksX4_addChord_0 1 rfl rfl)
theorem dX4_addChord_2 : decode cX4_addChord 2 = .ok (.putfield 46, 3) := dk_181 0 46 (dk_at dksX4_addChord_0 2 rfl rfl)
theorem dX4_addChord_5 : decode cX4_addChord 5 = .ok (.aload_n 0, 1) := dk_42 (dk_at dksX4_addChord_0 5 rfl rfl)
theorem dX4_addChord_6 : decode cX4_addChord 6 = .ok (.iload_n 1, 1) := dk_27 (dk_at dksX4_addChord_0 6 rfl rfl)
theorem dX4_addChord_7 : decode cX4_addChord 7 = .ok (.invokevirtual 117, 3) := dk_182 0 117 (dk_at dksX4_addChord_0 7 rfl rfl)
theorem dX4_addChord_10 : decode cX4_addChord 10 = .ok (.ifCond .eq 16, 3) := dk_153 0 16 (dk_at dksX4_addChord_0 10 rfl rfl)
theorem dX4_addChord_13 : decode cX4_addChord 13 = .ok (.iload_n 2, 1) := dk_28 (dk_at dksX4_addChord_0 13 rfl rfl)
theorem dX4_addChord_14 : decode cX4_addChord 14 = .ok (.iconst 0, 1) := dk_3 (dk_at dksX4_addChord_0 14 rfl rfl)
theorem dX4_addChord_15 : decode cX4_addChord 15 = .ok (.aload_n 0, 1) := dk_42 (dk_at dksX4_addChord_0 15 rfl rfl)
theorem dX4_addChord_16 : decode cX4_addChord 16 = .ok (.iload_n 1, 1) := dk_27 (dk_at dksX4_addChord_0 16 rfl rfl)
theorem dX4_addChord_17 : decode cX4_addChord 17 = .ok (.invokevirtual 120, 3) := dk_182 0 120 (dk_at dksX4_addChord_0 17 rfl rfl)
theorem dX4_addChord_20 : decode cX4_addChord 20 = .ok (.invokestatic 97, 3) := dk_184 0 97 (dk_at dksX4_addChord_0 20 rfl rfl)
theorem dX4_addChord_23 : decode cX4_addChord 23 = .ok (.ifCond .ne 9, 3) := dk_154 0 9 (dk_at dksX4_addChord_1 0 rfl rfl)
theorem dX4_addChord_26 : decode cX4_addChord 26 = .ok (.aload_n 0, 1) := dk_42 (dk_at dksX4_addChord_1 3 rfl rfl)
theorem dX4_addChord_27 : decode cX4_addChord 27 = .ok (.iconst 1, 1) := dk_4 (dk_at dksX4_addChord_1 4 rfl rfl)
theorem dX4_addChord_28 : decode cX4_addChord 28 = .ok (.invokevirtual 101, 3) := dk_182 0 101 (dk_at dksX4_addChord_1 5 rfl rfl)
theorem dX4_addChord_31 : decode cX4_addChord 31 = .ok (.ireturn, 1) := dk_172 (dk_at dksX4_addChord_1 8 rfl rfl)
theorem dX4_addChord_32 : decode cX4_addChord 32 = .ok (.aload_n 0, 1) := dk_42 (dk_at dksX4_addChord_1 9 rfl rfl)
theorem dX4_addChord_33 : decode cX4_addChord 33 = .ok (.getfield 7, 3) := dk_180 0 7 (dk_at dksX4_addChord_1 10 rfl rfl)
theorem dX4_addChord_36 : decode cX4_addChord 36 = .ok (.iconst 1, 1) := dk_4 (dk_at dksX4_addChord_1 13 rfl rfl)
theorem dX4_addChord_37 : decode cX4_addChord 37 = .ok (.iaload, 1) := dk_46 (dk_at dksX4_addChord_1 14 rfl rfl)
theorem dX4_addChord_38 : decode cX4_addChord 38 = .ok (.bipush 40, 2) := dk_16 40 (dk_at dksX4_addChord_1 15 rfl rfl)
theorem dX4_addChord_40 : decode cX4_addChord 40 = .ok (.if_icmp .ne 9, 3) := dk_160 0 9 (dk_at dksX4_addChord_1 17 rfl rfl)
theorem dX4_addChord_43 : decode cX4_addChord 43 = .ok (.aload_n 0, 1) := dk_42 (dk_at dksX4_addChord_1 20 rfl rfl)
theorem dX4_addChord_44 : decode cX4_addChord 44 = .ok (.iconst 2, 1) := dk_5 (dk_at dksX4_addChord_1 21 rfl rfl)
theorem dX4_addChord_45 : decode cX4_addChord 45 = .ok (.invokevirtual 101, 3) := dk_182 0 101 (dk_at dksX4_addChord_2 0 rfl rfl)
theorem dX4_addChord_48 : decode cX4_addChord 48 = .ok (.ireturn, 1) := dk_172 (dk_at dksX4_addChord_2 3 rfl rfl)
theorem dX4_addChord_49 : decode cX4_addChord 49 = .ok (.aload_n 0, 1) := dk_42 (dk_at dksX4_addChord_2 4 rfl rfl)
theorem dX4_addChord_50 : decode cX4_addChord 50 = .ok (.invokevirtual 146, 3) := dk_182 0 146 (dk_at dksX4_addChord_2 5 rfl rfl)
theorem dX4_addChord_53 : decode cX4_addChord 53 = .ok (.ifCond .ne 10, 3) := dk_154 0 10 (dk_at dksX4_addChord_2 8 rfl rfl)
theorem dX4_addChord_56 : decode cX4_addChord 56 = .ok (.iconst (-1), 1) := dk_2 (dk_at dksX4_addChord_2 11 rfl rfl)
theorem dX4_addChord_57 : decode cX4_addChord 57 = .ok (.aload_n 0, 1) := dk_42 (dk_at dksX4_addChord_2 12 rfl rfl)
theorem dX4_addChord_58 : decode cX4_addChord 58 = .ok (.getfield 59, 3) := dk_180 0 59 (dk_at dksX4_addChord_2 13 rfl rfl)
theorem dX4_addChord_61 : decode cX4_addChord 61 = .ok (.isub, 1) := dk_100 (dk_at dksX4_addChord_2 16 rfl rfl)
theorem dX4_addChord_62 : decode cX4_addChord 62 = .ok (.ireturn, 1) := dk_172 (dk_at dksX4_addChord_2 17 rfl rfl)
theorem dX4_addChord_63 : decode cX4_addChord 63 = .ok (.aload_n 0, 1) := dk_42 (dk_at dksX4_addChord_2 18 rfl rfl)
theorem dX4_addChord_64 : decode cX4_addChord 64 = .ok (.invokevirtual 107, 3) := dk_182 0 107 (dk_at dksX4_addChord_2 19 rfl rfl)
theorem dX4_addChord_67 : decode cX4_addChord 67 = .ok (.aload_n 0, 1) := dk_42 (dk_at dksX4_addChord_2 22 rfl rfl)
theorem dX4_addChord_68 : decode cX4_addChord 68 = .ok (.iload_n 1, 1) := dk_27 (dk_at dksX4_addChord_2 23 rfl rfl)
theorem dX4_addChord_69 : decode cX4_addChord 69 = .ok (.iload_n 2, 1) := dk_28 (dk_at dksX4_addChord_3 0 rfl rfl)
theorem dX4_addChord_70 : decode cX4_addChord 70 = .ok (.invokevirtual 152, 3) := dk_182 0 152 (dk_at dksX4_addChord_3 1 rfl rfl)
theorem dX4_addChord_73 : decode cX4_addChord 73 = .ok (.istore_n 3, 1) := dk_62 (dk_at dksX4_addChord_3 4 rfl rfl)
theorem dX4_addChord_74 : decode cX4_addChord 74 = .ok (.aload_n 0, 1) := dk_42 (dk_at dksX4_addChord_3 5 rfl rfl)
theorem dX4_addChord_75 : decode cX4_addChord 75 = .ok (.iload_n 3, 1) := dk_29 (dk_at dksX4_addChord_3 6 rfl rfl)
theorem dX4_addChord_76 : decode cX4_addChord 76 = .ok (.invokevirtual 155, 3) := dk_182 0 155 (dk_at dksX4_addChord_3 7 rfl rfl)
theorem dX4_addChord_79 : decode cX4_addChord 79 = .ok (.aload_n 0, 1) := dk_42 (dk_at dksX4_addChord_3 10 rfl rfl)
theorem dX4_addChord_80 : decode cX4_addChord 80 = .ok (.getfield 7, 3) := dk_180 0 7 (dk_at dksX4_addChord_3 11 rfl rfl)
theorem dX4_addChord_83 : decode cX4_addChord 83 = .ok (.iload_n 3, 1) := dk_29 (dk_at dksX4_addChord_3 14 rfl rfl)
theorem dX4_addChord_84 : decode cX4_addChord 84 = .ok (.invokestatic 94, 3) := dk_184 0 94 (dk_at dksX4_addChord_3 15 rfl rfl)
theorem dX4_addChord_87 : decode cX4_addChord 87 = .ok (.iconst 0, 1) := dk_3 (dk_at dksX4_addChord_3 18 rfl rfl)
theorem dX4_addChord_88 : decode cX4_addChord 88 = .ok (.iadd, 1) := dk_96 (dk_at dksX4_addChord_3 19 rfl rfl)
theorem dX4_addChord_89 : decode cX4_addChord 89 = .ok (.iload_n 1, 1) := dk_27 (dk_at dksX4_addChord_3 20 rfl rfl)
theorem dX4_addChord_90 : decode cX4_addChord 90 = .ok (.iastore, 1) := dk_79 (dk_at dksX4_addChord_3 21 rfl rfl)
theorem dX4_addChord_91 : decode cX4_addChord 91 = .ok (.aload_n 0, 1) := dk_42 (dk_at dksX4_addChord_3 22 rfl rfl)
theorem dX4_addChord_92 : decode cX4_addChord 92 = .ok (.getfield 7, 3) := dk_180 0 7 (dk_at dksX4_addChord_4 0 rfl rfl)
theorem dX4_addChord_95 : decode cX4_addChord 95 = .ok (.iload_n 3, 1) := dk_29 (dk_at dksX4_addChord_4 3 rfl rfl)
theorem dX4_addChord_96 : decode cX4_addChord 96 = .ok (.invokestatic 94, 3) := dk_184 0 94 (dk_at dksX4_addChord_4 4 rfl rfl)
theorem dX4_addChord_99 : decode cX4_addChord 99 = .ok (.iconst 1, 1) := dk_4 (dk_at dksX4_addChord_4 7 rfl rfl)
theorem dX4_addChord_100 : decode cX4_addChord 100 = .ok (.iadd, 1) := dk_96 (dk_at dksX4_addChord_4 8 rfl rfl)
theorem dX4_addChord_101 : decode cX4_addChord 101 = .ok (.iload_n 2, 1) := dk_28 (dk_at dksX4_addChord_4 9 rfl rfl)
theorem dX4_addChord_102 : decode cX4_addChord 102 = .ok (.iastore, 1) := dk_79 (dk_at dksX4_addChord_4 10 rfl rfl)
theorem dX4_addChord_103 : decode cX4_addChord 103 = .ok (.aload_n 0, 1) := dk_42 (dk_at dksX4_addChord_4 11 rfl rfl)
theorem dX4_addChord_104 : decode cX4_addChord 104 = .ok (.iload_n 3, 1) := dk_29 (dk_at dksX4_addChord_4 12 rfl rfl)
theorem dX4_addChord_105 : decode cX4_addChord 105 = .ok (.invokestatic 94, 3) := dk_184 0 94 (dk_at dksX4_addChord_4 13 rfl rfl)
theorem dX4_addChord_108 : decode cX4_addChord 108 = .ok (.invokevirtual 149, 3) := dk_182 0 149 (dk_at dksX4_addChord_4 16 rfl rfl)
theorem dX4_addChord_111 : decode cX4_addChord 111 = .ok (.iload_n 3, 1) := dk_29 (dk_at dksX4_addChord_4 19 rfl rfl)
theorem dX4_addChord_112 : decode cX4_addChord 112 = .ok (.ireturn, 1) := dk_172 (dk_at dksX4_addChord_4 20 rfl rfl)
theorem dX4_moveChord_0 : decode cX4_moveChord 0 = .ok (.aload_n 0, 1) := dk_42 (dk_at dksX4_moveChord_0 0 rfl rfl)
theorem dX4_moveChord_1 : decode cX4_moveChord 1 = .ok (.iconst 0, 1) := dk_3 (dk_at dksX4_moveChord_0 1 rfl rfl)
theorem dX4_moveChord_2 : decode cX4_moveChord 2 = .ok (.putfield 46, 3) := dk_181 0 46 (dk_at dksX4_moveChord_0 2 rfl rfl)
theorem dX4_moveChord_5 : decode cX4_moveChord 5 = .ok (.aload_n 0, 1) := dk_42 (dk_at dksX4_moveChord_0 5 rfl rfl)
theorem dX4_moveChord_6 : decode cX4_moveChord 6 = .ok (.iload_n 1, 1) := dk_27 (dk_at dksX4_moveChord_0 6 rfl rfl)
theorem dX4_moveChord_7 : decode cX4_moveChord 7 = .ok (.invokevirtual 127, 3) := dk_182 0 127 (dk_at dksX4_moveChord_0 7 rfl rfl)
theorem dX4_moveChord_10 : decode cX4_moveChord 10 = .ok (.ifCond .eq 24, 3) := dk_153 0 24 (dk_at dksX4_moveChord_0 10 rfl rfl)
theorem dX4_moveChord_13 : decode cX4_moveChord 13 = .ok (.iload_n 2, 1) := dk_28 (dk_at dksX4_moveChord_0 13 rfl rfl)
theorem dX4_moveChord_14 : decode cX4_moveChord 14 = .ok (.iconst 0, 1) := dk_3 (dk_at dksX4_moveChord_0 14 rfl rfl)
theorem dX4_moveChord_15 : decode cX4_moveChord 15 = .ok (.aload_n 0, 1) := dk_42 (dk_at dksX4_moveChord_0 15 rfl rfl)
theorem dX4_moveChord_16 : decode cX4_moveChord 16 = .ok (.aload_n 0, 1) := dk_42 (dk_at dksX4_moveChord_0 16 rfl rfl)
theorem dX4_moveChord_17 : decode cX4_moveChord 17 = .ok (.getfield 7, 3) := dk_180 0 7 (dk_at dksX4_moveChord_0 17 rfl rfl)
theorem dX4_moveChord_20 : decode cX4_moveChord 20 = .ok (.iload_n 1, 1) := dk_27 (dk_at dksX4_moveChord_0 20 rfl rfl)
theorem dX4_moveChord_21 : decode cX4_moveChord 21 = .ok (.invokestatic 94, 3) := dk_184 0 94 (dk_at dksX4_moveChord_0 21 rfl rfl)
theorem dX4_moveChord_24 : decode cX4_moveChord 24 = .ok (.iaload, 1) := dk_46 (dk_at dksX4_moveChord_1 0 rfl rfl)
theorem dX4_moveChord_25 : decode cX4_moveChord 25 = .ok (.invokevirtual 120, 3) := dk_182 0 120 (dk_at dksX4_moveChord_1 1 rfl rfl)
theorem dX4_moveChord_28 : decode cX4_moveChord 28 = .ok (.invokestatic 97, 3) := dk_184 0 97 (dk_at dksX4_moveChord_1 4 rfl rfl)
theorem dX4_moveChord_31 : decode cX4_moveChord 31 = .ok (.ifCond .ne 9, 3) := dk_154 0 9 (dk_at dksX4_moveChord_1 7 rfl rfl)
theorem dX4_moveChord_34 : decode cX4_moveChord 34 = .ok (.aload_n 0, 1) := dk_42 (dk_at dksX4_moveChord_1 10 rfl rfl)
theorem dX4_moveChord_35 : decode cX4_moveChord 35 = .ok (.iconst 1, 1) := dk_4 (dk_at dksX4_moveChord_1 11 rfl rfl)
theorem dX4_moveChord_36 : decode cX4_moveChord 36 = .ok (.invokevirtual 101, 3) := dk_182 0 101 (dk_at dksX4_moveChord_1 12 rfl rfl)
theorem dX4_moveChord_39 : decode cX4_moveChord 39 = .ok (.ireturn, 1) := dk_172 (dk_at dksX4_moveChord_1 15 rfl rfl)
theorem dX4_moveChord_40 : decode cX4_moveChord 40 = .ok (.aload_n 0, 1) := dk_42 (dk_at dksX4_moveChord_1 16 rfl rfl)
theorem dX4_moveChord_41 : decode cX4_moveChord 41 = .ok (.invokevirtual 107, 3) := dk_182 0 107 (dk_at dksX4_moveChord_1 17 rfl rfl)
theorem dX4_moveChord_44 : decode cX4_moveChord 44 = .ok (.aload_n 0, 1) := dk_42 (dk_at dksX4_moveChord_1 20 rfl rfl)
theorem dX4_moveChord_45 : decode cX4_moveChord 45 = .ok (.getfield 7, 3) := dk_180 0 7 (dk_at dksX4_moveChord_1 21 rfl rfl)
theorem dX4_moveChord_48 : decode cX4_moveChord 48 = .ok (.iload_n 1, 1) := dk_27 (dk_at dksX4_moveChord_2 0 rfl rfl)
theorem dX4_moveChord_49 : decode cX4_moveChord 49 = .ok (.invokestatic 94, 3) := dk_184 0 94 (dk_at dksX4_moveChord_2 1 rfl rfl)
theorem dX4_moveChord_52 : decode cX4_moveChord 52 = .ok (.iconst 0, 1) := dk_3 (dk_at dksX4_moveChord_2 4 rfl rfl)
theorem dX4_moveChord_53 : decode cX4_moveChord 53 = .ok (.iadd, 1) := dk_96 (dk_at dksX4_moveChord_2 5 rfl rfl)
theorem dX4_moveChord_54 : decode cX4_moveChord 54 = .ok (.iaload, 1) := dk_46 (dk_at dksX4_moveChord_2 6 rfl rfl)
theorem dX4_moveChord_55 : decode cX4_moveChord 55 = .ok (.istore_n 3, 1) := dk_62 (dk_at dksX4_moveChord_2 7 rfl rfl)
theorem dX4_moveChord_56 : decode cX4_moveChord 56 = .ok (.aload_n 0, 1) := dk_42 (dk_at dksX4_moveChord_2 8 rfl rfl)
theorem dX4_moveChord_57 : decode cX4_moveChord 57 = .ok (.getfield 7, 3) := dk_180 0 7 (dk_at dksX4_moveChord_2 9 rfl rfl)
theorem dX4_moveChord_60 : decode cX4_moveChord 60 = .ok (.iload_n 1, 1) := dk_27 (dk_at dksX4_moveChord_2 12 rfl rfl)
theorem dX4_moveChord_61 : decode cX4_moveChord 61 = .ok (.invokestatic 94, 3) := dk_184 0 94 (dk_at dksX4_moveChord_2 13 rfl rfl)
theorem dX4_moveChord_64 : decode cX4_moveChord 64 = .ok (.iconst 2, 1) := dk_5 (dk_at dksX4_moveChord_2 16 rfl rfl)
theorem dX4_moveChord_65 : decode cX4_moveChord 65 = .ok (.iadd, 1) := dk_96 (dk_at dksX4_moveChord_2 17 rfl rfl)
theorem dX4_moveChord_66 : decode cX4_moveChord 66 = .ok (.iaload, 1) := dk_46 (dk_at dksX4_moveChord_2 18 rfl rfl)
theorem dX4_moveChord_67 : decode cX4_moveChord 67 = .ok (.istore 4, 2) := dk_54 4 (dk_at dksX4_moveChord_2 19 rfl rfl)
theorem dX4_moveChord_69 : decode cX4_moveChord 69 = .ok (.aload_n 0, 1) := dk_42 (dk_at dksX4_moveChord_2 21 rfl rfl)
theorem dX4_moveChord_70 : decode cX4_moveChord 70 = .ok (.getfield 7, 3) := dk_180 0 7 (dk_at dksX4_moveChord_3 0 rfl rfl)
theorem dX4_moveChord_73 : decode cX4_moveChord 73 = .ok (.iload_n 1, 1) := dk_27 (dk_at dksX4_moveChord_3 3 rfl rfl)
theorem dX4_moveChord_74 : decode cX4_moveChord 74 = .ok (.invokestatic 94, 3) := dk_184 0 94 (dk_at dksX4_moveChord_3 4 rfl rfl)
theorem dX4_moveChord_77 : decode cX4_moveChord 77 = .ok (.iconst 3, 1) := dk_6 (dk_at dksX4_moveChord_3 7 rfl rfl)
theorem dX4_moveChord_78 : decode cX4_moveChord 78 = .ok (.iadd, 1) := dk_96 (dk_at dksX4_moveChord_3 8 rfl rfl)
theorem dX4_moveChord_79 : decode cX4_moveChord 79 = .ok (.iaload, 1) := dk_46 (dk_at dksX4_moveChord_3 9 rfl rfl)
theorem dX4_moveChord_80 : decode cX4_moveChord 80 = .ok (.istore 5, 2) := dk_54 5 (dk_at dksX4_moveChord_3 10 rfl rfl)
theorem dX4_moveChord_82 : decode cX4_moveChord 82 = .ok (.aload_n 0, 1) := dk_42 (dk_at dksX4_moveChord_3 12 rfl rfl)
theorem dX4_moveChord_83 : decode cX4_moveChord 83 = .ok (.getfield 7, 3) := dk_180 0 7 (dk_at dksX4_moveChord_3 13 rfl rfl)
theorem dX4_moveChord_86 : decode cX4_moveChord 86 = .ok (.iload_n 1, 1) := dk_27 (dk_at dksX4_moveChord_3 16 rfl rfl)
theorem dX4_moveChord_87 : decode cX4_moveChord 87 = .ok (.invokestatic 94, 3) := dk_184 0 94 (dk_at dksX4_moveChord_3 17 rfl rfl)
theorem dX4_moveChord_90 : decode cX4_moveChord 90 = .ok (.iconst 4, 1) := dk_7 (dk_at dksX4_moveChord_3 20 rfl rfl)
theorem dX4_moveChord_91 : decode cX4_moveChord 91 = .ok (.iadd, 1) := dk_96 (dk_at dksX4_moveChord_3 21 rfl rfl)
theorem dX4_moveChord_92 : decode cX4_moveChord 92 = .ok (.iaload, 1) := dk_46 (dk_at dksX4_moveChord_3 22 rfl rfl)
theorem dX4_moveChord_93 : decode cX4_moveChord 93 = .ok (.istore 6, 2) := dk_54 6 (dk_at dksX4_moveChord_4 0 rfl rfl)
theorem dX4_moveChord_95 : decode cX4_moveChord 95 = .ok (.aload_n 0, 1) := dk_42 (dk_at dksX4_moveChord_4 2 rfl rfl)
theorem dX4_moveChord_96 : decode cX4_moveChord 96 = .ok (.iload_n 1, 1) := dk_27 (dk_at dksX4_moveChord_4 3 rfl rfl)
theorem dX4_moveChord_97 : decode cX4_moveChord 97 = .ok (.invokevirtual 158, 3) := dk_182 0 158 (dk_at dksX4_moveChord_4 4 rfl rfl)
theorem dX4_moveChord_100 : decode cX4_moveChord 100 = .ok (.aload_n 0, 1) := dk_42 (dk_at dksX4_moveChord_4 7 rfl rfl)
theorem dX4_moveChord_101 : decode cX4_moveChord 101 = .ok (.iload_n 3, 1) := dk_29 (dk_at dksX4_moveChord_4 8 rfl rfl)
theorem dX4_moveChord_102 : decode cX4_moveChord 102 = .ok (.iload_n 2, 1) := dk_28 (dk_at dksX4_moveChord_4 9 rfl rfl)
theorem dX4_moveChord_103 : decode cX4_moveChord 103 = .ok (.invokevirtual 152, 3) := dk_182 0 152 (dk_at dksX4_moveChord_4 10 rfl rfl)
theorem dX4_moveChord_106 : decode cX4_moveChord 106 = .ok (.istore 7, 2) := dk_54 7 (dk_at dksX4_moveChord_4 13 rfl rfl)
theorem dX4_moveChord_108 : decode cX4_moveChord 108 = .ok (.aload_n 0, 1) := dk_42 (dk_at dksX4_moveChord_4 15 rfl rfl)
theorem dX4_moveChord_109 : decode cX4_moveChord 109 = .ok (.iload 7, 2) := dk_21 7 (dk_at dksX4_moveChord_4 16 rfl rfl)
theorem dX4_moveChord_111 : decode cX4_moveChord 111 = .ok (.invokevirtual 155, 3) := dk_182 0 155 (dk_at dksX4_moveChord_4 18 rfl rfl)
theorem dX4_moveChord_114 : decode cX4_moveChord 114 = .ok (.aload_n 0, 1) := dk_42 (dk_at dksX4_moveChord_4 21 rfl rfl)
theorem dX4_moveChord_115 : decode cX4_moveChord 115 = .ok (.getfield 7, 3) := dk_180 0 7 (dk_at dksX4_moveChord_5 0 rfl rfl)
theorem dX4_moveChord_118 : decode cX4_moveChord 118 = .ok (.iload 7, 2) := dk_21 7 (dk_at dksX4_moveChord_5 3 rfl rfl)
theorem dX4_moveChord_120 : decode cX4_moveChord 120 = .ok (.invokestatic 94, 3) := dk_184 0 94 (dk_at dksX4_moveChord_5 5 rfl rfl)
theorem dX4_moveChord_123 : decode cX4_moveChord 123 = .ok (.iconst 0, 1) := dk_3 (dk_at dksX4_moveChord_5 8 rfl rfl)
theorem dX4_moveChord_124 : decode cX4_moveChord 124 = .ok (.iadd, 1) := dk_96 (dk_at dksX4_moveChord_5 9 rfl rfl)
theorem dX4_moveChord_125 : decode cX4_moveChord 125 = .ok (.iload_n 3, 1) := dk_29 (dk_at dksX4_moveChord_5 10 rfl rfl)
theorem dX4_moveChord_126 : decode cX4_moveChord 126 = .ok (.iastore, 1) := dk_79 (dk_at dksX4_moveChord_5 11 rfl rfl)
theorem dX4_moveChord_127 : decode cX4_moveChord 127 = .ok (.aload_n 0, 1) := dk_42 (dk_at dksX4_moveChord_5 12 rfl rfl)
theorem dX4_moveChord_128 : decode cX4_moveChord 128 = .ok (.getfield 7, 3) := dk_180 0 7 (dk_at dksX4_moveChord_5 13 rfl rfl)
theorem dX4_moveChord_131 : decode cX4_moveChord 131 = .ok (.iload 7, 2) := dk_21 7 (dk_at dksX4_moveChord_5 16 rfl rfl)
theorem dX4_moveChord_133 : decode cX4_moveChord 133 = .ok (.invokestatic 94, 3) := dk_184 0 94 (dk_at dksX4_moveChord_5 18 rfl rfl)
theorem dX4_moveChord_136 : decode cX4_moveChord 136 = .ok (.iconst 1, 1) := dk_4 (dk_at dksX4_moveChord_5 21 rfl rfl)
theorem dX4_moveChord_137 : decode cX4_moveChord 137 = .ok (.iadd, 1) := dk_96 (dk_at dksX4_moveChord_5 22 rfl rfl)
theorem dX4_moveChord_138 : decode cX4_moveChord 138 = .ok (.iload_n 2, 1) := dk_28 (dk_at dksX4_moveChord_5 23 rfl rfl)
theorem dX4_moveChord_139 : decode cX4_moveChord 139 = .ok (.iastore, 1) := dk_79 (dk_at dksX4_moveChord_6 0 rfl rfl)
theorem dX4_moveChord_140 : decode cX4_moveChord 140 = .ok (.aload_n 0, 1) := dk_42 (dk_at dksX4_moveChord_6 1 rfl rfl)
theorem dX4_moveChord_141 : decode cX4_moveChord 141 = .ok (.getfield 7, 3) := dk_180 0 7 (dk_at dksX4_moveChord_6 2 rfl rfl)
theorem dX4_moveChord_144 : decode cX4_moveChord 144 = .ok (.iload 7, 2) := dk_21 7 (dk_at dksX4_moveChord_6 5 rfl rfl)
theorem dX4_moveChord_146 : decode cX4_moveChord 146 = .ok (.invokestatic 94, 3) := dk_184 0 94 (dk_at dksX4_moveChord_6 7 rfl rfl)
theorem dX4_moveChord_149 : decode cX4_moveChord 149 = .ok (.iconst 2, 1) := dk_5 (dk_at dksX4_moveChord_6 10 rfl rfl)
theorem dX4_moveChord_150 : decode cX4_moveChord 150 = .ok (.iadd, 1) := dk_96 (dk_at dksX4_moveChord_6 11 rfl rfl)
theorem dX4_moveChord_151 : decode cX4_moveChord 151 = .ok (.iload 4, 2) := dk_21 4 (dk_at dksX4_moveChord_6 12 rfl rfl)
theorem dX4_moveChord_153 : decode cX4_moveChord 153 = .ok (.iastore, 1) := dk_79 (dk_at dksX4_moveChord_6 14 rfl rfl)
theorem dX4_moveChord_154 : decode cX4_moveChord 154 = .ok (.aload_n 0, 1) := dk_42 (dk_at dksX4_moveChord_6 15 rfl rfl)
theorem dX4_moveChord_155 : decode cX4_moveChord 155 = .ok (.getfield 7, 3) := dk_180 0 7 (dk_at dksX4_moveChord_6 16 rfl rfl)
theorem dX4_moveChord_158 : decode cX4_moveChord 158 = .ok (.iload 7, 2) := dk_21 7 (dk_at dksX4_moveChord_6 19 rfl rfl)
theorem dX4_moveChord_160 : decode cX4_moveChord 160 = .ok (.invokestatic 94, 3) := dk_184 0 94 (dk_at dksX4_moveChord_6 21 rfl rfl)
theorem dX4_moveChord_163 : decode cX4_moveChord 163 = .ok (.iconst 3, 1) := dk_6 (dk_at dksX4_moveChord_7 0 rfl rfl)
theorem dX4_moveChord_164 : decode cX4_moveChord 164 = .ok (.iadd, 1) := dk_96 (dk_at dksX4_moveChord_7 1 rfl rfl)
theorem dX4_moveChord_165 : decode cX4_moveChord 165 = .ok (.iload 5, 2) := dk_21 5 (dk_at dksX4_moveChord_7 2 rfl rfl)
theorem dX4_moveChord_167 : decode cX4_moveChord 167 = .ok (.iastore, 1) := dk_79 (dk_at dksX4_moveChord_7 4 rfl rfl)
theorem dX4_moveChord_168 : decode cX4_moveChord 168 = .ok (.aload_n 0, 1) := dk_42 (dk_at dksX4_moveChord_7 5 rfl rfl)
theorem dX4_moveChord_169 : decode cX4_moveChord 169 = .ok (.getfield 7, 3) := dk_180 0 7 (dk_at dksX4_moveChord_7 6 rfl rfl)
theorem dX4_moveChord_172 : decode cX4_moveChord 172 = .ok (.iload 7, 2) := dk_21 7 (dk_at dksX4_moveChord_7 9 rfl rfl)
theorem dX4_moveChord_174 : decode cX4_moveChord 174 = .ok (.invokestatic 94, 3) := dk_184 0 94 (dk_at dksX4_moveChord_7 11 rfl rfl)
theorem dX4_moveChord_177 : decode cX4_moveChord 177 = .ok (.iconst 4, 1) := dk_7 (dk_at dksX4_moveChord_7 14 rfl rfl)
theorem dX4_moveChord_178 : decode cX4_moveChord 178 = .ok (.iadd, 1) := dk_96 (dk_at dksX4_moveChord_7 15 rfl rfl)
theorem dX4_moveChord_179 : decode cX4_moveChord 179 = .ok (.iload 6, 2) := dk_21 6 (dk_at dksX4_moveChord_7 16 rfl rfl)
theorem dX4_moveChord_181 : decode cX4_moveChord 181 = .ok (.iastore, 1) := dk_79 (dk_at dksX4_moveChord_7 18 rfl rfl)
theorem dX4_moveChord_182 : decode cX4_moveChord 182 = .ok (.iload 7, 2) := dk_21 7 (dk_at dksX4_moveChord_7 19 rfl rfl)
theorem dX4_moveChord_184 : decode cX4_moveChord 184 = .ok (.ireturn, 1) := dk_172 (dk_at dksX4_moveChord_7 21 rfl rfl)
theorem q2330 : (Jvm.Cond.methodLink "ChordSheetModel" (152 : Nat) ({ cls := "ChordSheetModel", name := "comesTo", desc := "(II)I" } : Jvm.MethodName)) ∈ lw_all := lw_g (lw_at lw_m10 108 rfl) rfl
theorem q2332 : (Jvm.Cond.instanceMethod ({ cls := "ChordSheetModel", name := "comesTo", desc := "(II)I" } : Jvm.MethodName)) ∈ lw_all := lw_g (lw_at lw_m10 110 rfl) rfl
theorem q2333 : (Jvm.Cond.code ({ cls := "ChordSheetModel", name := "comesTo", desc := "(II)I" } : Jvm.MethodName) prog_11_method_42_code (6 : Nat) (Option.some Jvm.ClassFile.FieldType.int)) ∈ lw_all := lw_g (lw_at lw_m10 111 rfl) rfl
theorem q2334 : (Jvm.Cond.methodLink "ChordSheetModel" (155 : Nat) ({ cls := "ChordSheetModel", name := "opens", desc := "(I)V" } : Jvm.MethodName)) ∈ lw_all := lw_g (lw_at lw_m10 112 rfl) rfl
theorem q2336 : (Jvm.Cond.instanceMethod ({ cls := "ChordSheetModel", name := "opens", desc := "(I)V" } : Jvm.MethodName)) ∈ lw_all := lw_g (lw_at lw_m10 114 rfl) rfl
theorem q2337 : (Jvm.Cond.code ({ cls := "ChordSheetModel", name := "opens", desc := "(I)V" } : Jvm.MethodName) prog_11_method_43_code (3 : Nat) (Option.none : Option Jvm.ClassFile.FieldType)) ∈ lw_all := lw_g (lw_at lw_m10 115 rfl) rfl
theorem q2342 : (Jvm.Cond.methodLink "ChordSheetModel" (158 : Nat) ({ cls := "ChordSheetModel", name := "closes", desc := "(I)V" } : Jvm.MethodName)) ∈ lw_all := lw_g (lw_at lw_m10 120 rfl) rfl
theorem q2344 : (Jvm.Cond.instanceMethod ({ cls := "ChordSheetModel", name := "closes", desc := "(I)V" } : Jvm.MethodName)) ∈ lw_all := lw_g (lw_at lw_m10 122 rfl) rfl
theorem q2345 : (Jvm.Cond.code ({ cls := "ChordSheetModel", name := "closes", desc := "(I)V" } : Jvm.MethodName) prog_11_method_44_code (3 : Nat) (Option.none : Option Jvm.ClassFile.FieldType)) ∈ lw_all := lw_g (lw_at lw_m10 123 rfl) rfl
theorem opn_st {V V1 : Nat → Int} {n : Nat} {k : Int} (hk : 10 ≤ k) (hkn : k < 215 + 5 * (n : Nat)) (hq : ∀ j, V1 j = if k.toNat < j ∧ j < 215 + 5 * n then V (j - 5) else V j) : ∀ j, updI V1 (Int.toNat k) (V1 (Int.toNat (k - 5))) j = if (k + -1).toNat < j ∧ j < 215 + 5 * n then V (j - 5) else V j := by
  intro j
  unfold updI
  by_cases c : j = k.toNat
  · rw [if_pos c, if_pos (by omega), hq, if_neg (by omega), c]
    congr 1
    omega
  · rw [if_neg c, hq]
    by_cases d : k.toNat < j ∧ j < 215 + 5 * n
    · rw [if_pos d, if_pos (by omega)]
    · rw [if_neg d, if_neg (by omega)]
theorem cls_0 {V : Nat → Int} {n : Nat} {i : Int} {j : Nat} (hi : 0 ≤ i) : updI V 1 (((n : Nat) : Int) - 1) j = if j = 1 then ((n : Nat) : Int) - 1 else if 210 + 5 * i.toNat ≤ j ∧ j < (210 + 5 * i).toNat then V (j + 5) else V j := by
  by_cases c : j = 1
  · rw [if_pos c]; exact updI_eq c
  · rw [if_neg c, if_neg (by omega)]; exact updI_ne c rfl
theorem cls_st {V V1 : Nat → Int} {n : Nat} {i k : Int} (hi : 0 ≤ i) (hk : 210 + 5 * i ≤ k) (hq : ∀ j, V1 j = if j = 1 then ((n : Nat) : Int) - 1 else if 210 + 5 * i.toNat ≤ j ∧ j < k.toNat then V (j + 5) else V j) : ∀ j, updI V1 (Int.toNat k) (V1 (Int.toNat (k + 5))) j = if j = 1 then ((n : Nat) : Int) - 1 else if 210 + 5 * i.toNat ≤ j ∧ j < (k + 1).toNat then V (j + 5) else V j := by
  intro j
  unfold updI
  by_cases c : j = k.toNat
  · rw [if_pos c, if_neg (by omega), if_pos (by omega), hq, if_neg (by omega), if_neg (by omega), c]
    congr 1
    omega
  · rw [if_neg c, hq]
    by_cases d : j = 1
    · rw [if_pos d, if_pos d]
    · rw [if_neg d, if_neg d]
      by_cases e : 210 + 5 * i.toNat ≤ j ∧ j < k.toNat
      · rw [if_pos e, if_pos (by omega)]
      · rw [if_neg e, if_neg (by omega)]
theorem cls_z {V V2 : Nat → Int} {n : Nat} {i k : Int} (hk : 0 ≤ k ∧ k < 5) (hn : 1 ≤ n) (hq : ∀ j, V2 j = if j = 1 then ((n : Nat) : Int) - 1 else if 210 + 5 * i.toNat ≤ j ∧ j < 205 + 5 * n then V (j + 5) else if 205 + 5 * n ≤ j ∧ j < 205 + 5 * n + k.toNat then 0 else V j) : ∀ j, updI V2 (Int.toNat (210 + 5 * (((n : Nat) : Int) - 1) + k)) 0 j = if j = 1 then ((n : Nat) : Int) - 1 else if 210 + 5 * i.toNat ≤ j ∧ j < 205 + 5 * n then V (j + 5) else if 205 + 5 * n ≤ j ∧ j < 205 + 5 * n + (k + 1).toNat then 0 else V j := by
  intro j
  unfold updI
  by_cases c : j = (210 + 5 * (((n : Nat) : Int) - 1) + k).toNat
  · rw [if_pos c, if_neg (by omega), if_neg (by omega), if_pos (by omega)]
  · rw [if_neg c, hq]
    by_cases d : j = 1
    · rw [if_pos d, if_pos d]
    · rw [if_neg d, if_neg d]
      by_cases e : 210 + 5 * i.toNat ≤ j ∧ j < 205 + 5 * n
      · rw [if_pos e, if_pos e]
      · rw [if_neg e, if_neg e]
        by_cases f : 205 + 5 * n ≤ j ∧ j < 205 + 5 * n + k.toNat
        · rw [if_pos f, if_pos (by omega)]
        · rw [if_neg f, if_neg (by omega)]
theorem shL_ins {S : zSh} {c : zCh} (h : shL S) {cs : List zCh} (hc : cs.length < 40) {t m : Int} : shL (S.ls, zins c cs, t, m) := ⟨h.1, h.2.1, by show (zins c cs).length ≤ 40; rw [zins_l]; omega⟩
set_option maxHeartbeats 4000000 in
theorem m_comes {l : Launch} (hl : l.stackTraces = false) {Γ : zCx} {h : zH} {A : zMA} {st ty si ff wd th ap nt rr rq rb wh nd up lo : Int} {V P T M N U W : Nat → Int} (hM : mM h A st ty si ff wd th ap nt rr rq rb wh nd up lo V P T M N U W) {S : zSh} (hS : vS V S) (hsl : shL S) (hsr : shR S) {ln co : Int} (hln : -1000 ≤ ln ∧ ln ≤ 1000) (hco : -1000 ≤ co ∧ co ≤ 1000)  : zMet l yX4_comesTo (ws_ yX4_comesTo cX4_comesTo 6 (some .int)) ({ frames := 1, cells := 0, slots := 0, locals := 20 }) Γ h [.ref A.m, .int (iI ln), .int (iI co)] (zpure h (some (.int (iI (cmt ln co S.cs))))) 0 0 := by
  refine zMet.of (cc := cX4_comesTo) hl (plainFor_of_name (by decide +kernel)) (Nat.le_of_ble_eq_true rfl) ?_
  intro X hXl hXΓ hXp C hnm hnL
  have C : zC X cX4_comesTo RX4 (some .int) 1 20 [] := C
  have hnL : X.2.1.2.2.2.2 = 6 := hnL
  subst hXl hXΓ
  show Z X h 0 0 [(0, .ref A.m), (1, .int (iI ln)), (2, .int (iI co))] 0 []
  obtain ⟨gm_1, gv_1, gpa_1, gtx_1, gma_1, gna_1, gua_1, gla_1, gle_1, gqa_1, gd_1⟩ := id hM
  obtain ⟨hsl1, hsl2, hsl3⟩ := id hsl
  refine z_iconst (pc := 0) C dX4_comesTo_0 ?_
  refine z_istore_n (pc := 1) (L' := [(3, .int (iI 0)), (0, .ref A.m), (1, .int (iI ln)), (2, .int (iI co))]) C dX4_comesTo_1 rfl (by rw [hnL]; decide) rfl ?_
  refine z_iconst (pc := 2) C dX4_comesTo_2 ?_
  refine z_istore (pc := 3) (L' := [(4, .int (iI 0)), (3, .int (iI 0)), (0, .ref A.m), (1, .int (iI ln)), (2, .int (iI co))]) C dX4_comesTo_3 (by rw [hnL]; decide) rfl ?_
  have loop5 : ∀ (n5 : Nat) (i : Int) (z : Int), (0 ≤ i ∧ i ≤ (S.cs.length : Nat)) → (z + cmt ln co (S.cs.drop i.toNat) = cmt ln co S.cs) → (((S.cs.length : Nat) - i).toNat) = n5 → Z X h 0 0 [(4, .int (iI i)), (3, .int (iI z)), (2, .int (iI co)), (1, .int (iI ln)), (0, .ref A.m)] 5 [] := by
    intro n5
    induction n5 using Nat.strongRecOn with
    | ind n5 ih5 =>
    intro i z hi hd hn5
    refine z_iload (pc := 5) (j := 0) C dX4_comesTo_5 rfl ?_
    refine z_aload_n (pc := 7) (j := 4) C dX4_comesTo_7 rfl rfl ?_
    refine z_getfield (pc := 8) (v := .ref A.v) C in_X4 rfl 0 (by decide) q2082 (fun _ z => z) gm_1 rfl dX4_comesTo_8 ?_
    refine z_iconst (pc := 11) C dX4_comesTo_11 ?_
    refine z_iaload (pc := 12) (v := .int (iI ((S.cs.length : Nat) : Int))) C gv_1 (by omega) (mA_e (vE hS.2.1 (by omega))) dX4_comesTo_12 ?_
    refine z_icmp_ge (pc := 13) (tgt := 72) C dX4_comesTo_13 (by decide) (by omega) (by omega) (fun c13 => ?_) (fun c13 => ?_)
    · refine z_iload_n (pc := 72) (j := 1) C dX4_comesTo_72 rfl rfl ?_
      exact z_ireturn (pc := 73) C (by rw [hXp]; exact zpure_i (by rw [List.drop_of_length_le (by omega), cmt] at hd; omega) rfl) dX4_comesTo_73
    · obtain ⟨c_2, hc_2⟩ : ∃ x, S.cs[(i).toNat]? = some x := ⟨_, List.getElem?_eq_getElem (by omega)⟩
      obtain ⟨hx1_2, hx2_2, hx3_2, hx4_2, hx5_2⟩ := hS.c (i := i) (by omega) hc_2
      obtain ⟨xr1_2, xr2_2, xr3_2, xr4_2, xr5_2⟩ := hsr.2.1 _ (List.mem_of_getElem? hc_2)
      refine z_aload_n (pc := 16) (j := 4) C dX4_comesTo_16 rfl rfl ?_
      refine z_getfield (pc := 17) (v := .ref A.v) C in_X4 rfl 0 (by decide) q2082 (fun _ z => z) gm_1 rfl dX4_comesTo_17 ?_
      refine z_iload (pc := 20) (j := 0) C dX4_comesTo_20 rfl ?_
      refine z_callS (pc := 22) (n := 1) (kc' := 0) (ks' := 0) C (m_chord C.t (x := i)) (lw_S q2203 q2204 q74 q2205) (by decide +kernel) ⟨by decide, by decide⟩ rfl rfl (Nat.le_of_ble_eq_true rfl) dX4_comesTo_22 (by omega) (by omega) (zpk (st' := [.int (iI (210 + 5 * i)), .ref A.v]) rfl ?_) zrx
      refine z_iconst (pc := 25) C dX4_comesTo_25 ?_
      refine z_iadd (pc := 26) C dX4_comesTo_26 ?_
      refine z_iaload (pc := 27) (v := .int (iI c_2.1)) C gv_1 (by omega) (mA_e (vE hx1_2 (by omega))) dX4_comesTo_27 ?_
      refine z_istore (pc := 28) (L' := [(5, .int (iI c_2.1)), (4, .int (iI i)), (3, .int (iI z)), (2, .int (iI co)), (1, .int (iI ln)), (0, .ref A.m)]) C dX4_comesTo_28 (by rw [hnL]; decide) rfl ?_
      refine z_iload_n (pc := 30) (j := 2) C dX4_comesTo_30 rfl rfl ?_
      refine z_iload (pc := 31) (j := 0) C dX4_comesTo_31 rfl ?_
      refine z_iload_n (pc := 33) (j := 4) C dX4_comesTo_33 rfl rfl ?_
      refine z_icmp_lt (pc := 34) (tgt := 59) C dX4_comesTo_34 (by decide) (by omega) (by omega) (fun c34 => ?_) (fun c34 => ?_)
      · refine z_iconst (pc := 59) C dX4_comesTo_59 ?_
        refine z_goto (pc := 60) (tgt := 64) C dX4_comesTo_60 (by decide) ?_
        refine z_iadd (pc := 64) C dX4_comesTo_64 ?_
        refine z_istore_n (pc := 65) (L' := [(3, .int (iI (z + 1))), (5, .int (iI c_2.1)), (4, .int (iI i)), (2, .int (iI co)), (1, .int (iI ln)), (0, .ref A.m)]) C dX4_comesTo_65 rfl (by rw [hnL]; decide) rfl ?_
        refine z_iinc (pc := 66) (k := 2) (L' := [(4, .int (iI (i + 1))), (3, .int (iI (z + 1))), (5, .int (iI c_2.1)), (2, .int (iI co)), (1, .int (iI ln)), (0, .ref A.m)]) C dX4_comesTo_66 rfl (by rw [hnL]; decide) rfl ?_
        refine z_goto (pc := 69) (tgt := 5) C dX4_comesTo_69 (by decide) ?_
        refine Z.weak (L' := [(4, .int (iI (i + 1))), (3, .int (iI (z + 1))), (2, .int (iI co)), (1, .int (iI ln)), (0, .ref A.m)]) (kc' := 0) (ks' := 0) [0, 1, 3, 4, 5] rfl (by omega) (by omega) ?_
        exact ih5 _ (by omega) (i + 1) (z + 1) (by omega) (by rw [drop_step hc_2 (by omega), cmt] at hd; split at hd <;> omega) rfl
      · refine z_iload (pc := 37) (j := 0) C dX4_comesTo_37 rfl ?_
        refine z_iload_n (pc := 39) (j := 4) C dX4_comesTo_39 rfl rfl ?_
        refine z_icmp_ne (pc := 40) (tgt := 63) C dX4_comesTo_40 (by decide) (by omega) (by omega) (fun c40 => ?_) (fun c40 => ?_)
        · refine z_iconst (pc := 63) C dX4_comesTo_63 ?_
          refine z_iadd (pc := 64) C dX4_comesTo_64 ?_
          refine z_istore_n (pc := 65) (L' := [(3, .int (iI (z + 0))), (5, .int (iI c_2.1)), (4, .int (iI i)), (2, .int (iI co)), (1, .int (iI ln)), (0, .ref A.m)]) C dX4_comesTo_65 rfl (by rw [hnL]; decide) rfl ?_
          refine z_iinc (pc := 66) (k := 2) (L' := [(4, .int (iI (i + 1))), (3, .int (iI (z + 0))), (5, .int (iI c_2.1)), (2, .int (iI co)), (1, .int (iI ln)), (0, .ref A.m)]) C dX4_comesTo_66 rfl (by rw [hnL]; decide) rfl ?_
          refine z_goto (pc := 69) (tgt := 5) C dX4_comesTo_69 (by decide) ?_
          refine Z.weak (L' := [(4, .int (iI (i + 1))), (3, .int (iI (z + 0))), (2, .int (iI co)), (1, .int (iI ln)), (0, .ref A.m)]) (kc' := 0) (ks' := 0) [0, 1, 3, 4, 5] rfl (by omega) (by omega) ?_
          exact ih5 _ (by omega) (i + 1) (z + 0) (by omega) (by rw [drop_step hc_2 (by omega), cmt] at hd; split at hd <;> omega) rfl
        · refine z_aload_n (pc := 43) (j := 5) C dX4_comesTo_43 rfl rfl ?_
          refine z_getfield (pc := 44) (v := .ref A.v) C in_X4 rfl 0 (by decide) q2082 (fun _ z => z) gm_1 rfl dX4_comesTo_44 ?_
          refine z_iload (pc := 47) (j := 1) C dX4_comesTo_47 rfl ?_
          refine z_callS (pc := 49) (n := 1) (kc' := 0) (ks' := 0) C (m_chord C.t (x := i)) (lw_S q2203 q2204 q74 q2205) (by decide +kernel) ⟨by decide, by decide⟩ rfl rfl (Nat.le_of_ble_eq_true rfl) dX4_comesTo_49 (by omega) (by omega) (zpk (st' := [.int (iI (210 + 5 * i)), .ref A.v, .int (iI z)]) rfl ?_) zrx
          refine z_iconst (pc := 52) C dX4_comesTo_52 ?_
          refine z_iadd (pc := 53) C dX4_comesTo_53 ?_
          refine z_iaload (pc := 54) (v := .int (iI c_2.2.1)) C gv_1 (by omega) (mA_e (vE hx2_2 (by omega))) dX4_comesTo_54 ?_
          refine z_iload_n (pc := 55) (j := 3) C dX4_comesTo_55 rfl rfl ?_
          refine z_icmp_gt (pc := 56) (tgt := 63) C dX4_comesTo_56 (by decide) (by omega) (by omega) (fun c56 => ?_) (fun c56 => ?_)
          · refine z_iconst (pc := 63) C dX4_comesTo_63 ?_
            refine z_iadd (pc := 64) C dX4_comesTo_64 ?_
            refine z_istore_n (pc := 65) (L' := [(3, .int (iI (z + 0))), (5, .int (iI c_2.1)), (4, .int (iI i)), (2, .int (iI co)), (1, .int (iI ln)), (0, .ref A.m)]) C dX4_comesTo_65 rfl (by rw [hnL]; decide) rfl ?_
            refine z_iinc (pc := 66) (k := 2) (L' := [(4, .int (iI (i + 1))), (3, .int (iI (z + 0))), (5, .int (iI c_2.1)), (2, .int (iI co)), (1, .int (iI ln)), (0, .ref A.m)]) C dX4_comesTo_66 rfl (by rw [hnL]; decide) rfl ?_
            refine z_goto (pc := 69) (tgt := 5) C dX4_comesTo_69 (by decide) ?_
            refine Z.weak (L' := [(4, .int (iI (i + 1))), (3, .int (iI (z + 0))), (2, .int (iI co)), (1, .int (iI ln)), (0, .ref A.m)]) (kc' := 0) (ks' := 0) [0, 1, 3, 4, 5] rfl (by omega) (by omega) ?_
            exact ih5 _ (by omega) (i + 1) (z + 0) (by omega) (by rw [drop_step hc_2 (by omega), cmt] at hd; split at hd <;> omega) rfl
          · refine z_iconst (pc := 59) C dX4_comesTo_59 ?_
            refine z_goto (pc := 60) (tgt := 64) C dX4_comesTo_60 (by decide) ?_
            refine z_iadd (pc := 64) C dX4_comesTo_64 ?_
            refine z_istore_n (pc := 65) (L' := [(3, .int (iI (z + 1))), (5, .int (iI c_2.1)), (4, .int (iI i)), (2, .int (iI co)), (1, .int (iI ln)), (0, .ref A.m)]) C dX4_comesTo_65 rfl (by rw [hnL]; decide) rfl ?_
            refine z_iinc (pc := 66) (k := 2) (L' := [(4, .int (iI (i + 1))), (3, .int (iI (z + 1))), (5, .int (iI c_2.1)), (2, .int (iI co)), (1, .int (iI ln)), (0, .ref A.m)]) C dX4_comesTo_66 rfl (by rw [hnL]; decide) rfl ?_
            refine z_goto (pc := 69) (tgt := 5) C dX4_comesTo_69 (by decide) ?_
            refine Z.weak (L' := [(4, .int (iI (i + 1))), (3, .int (iI (z + 1))), (2, .int (iI co)), (1, .int (iI ln)), (0, .ref A.m)]) (kc' := 0) (ks' := 0) [0, 1, 3, 4, 5] rfl (by omega) (by omega) ?_
            exact ih5 _ (by omega) (i + 1) (z + 1) (by omega) (by rw [drop_step hc_2 (by omega), cmt] at hd; split at hd <;> omega) rfl
  refine Z.weak (L' := [(4, .int (iI 0)), (3, .int (iI 0)), (2, .int (iI co)), (1, .int (iI ln)), (0, .ref A.m)]) (kc' := 0) (ks' := 0) [0, 1, 4, 3, 2] rfl (by omega) (by omega) ?_
  exact loop5 _ 0 0 (by omega) (by simp) rfl
set_option maxHeartbeats 4000000 in
theorem m_opens {l : Launch} (hl : l.stackTraces = false) {Γ : zCx} {h : zH} {A : zMA} {st ty si ff wd th ap nt rr rq rb wh nd up lo : Int} {V P T M N U W : Nat → Int} (hM : mM h A st ty si ff wd th ap nt rr rq rb wh nd up lo V P T M N U W) {n : Nat} (hn : V 1 = ((n : Nat) : Int)) {i : Int} (hi : 0 ≤ i ∧ i ≤ (n : Nat)) (hn40 : n < 40)  : zMet l yX4_opens (ws_ yX4_opens cX4_opens 3 none) ({ frames := 1, cells := 0, slots := 0, locals := 20 }) Γ h [.ref A.m, .int (iI i)] (zrt (fun w h' => ∃ V', w = none ∧ mM h' A st ty si ff wd th ap nt rr rq rb wh nd up lo V' P T M N U W ∧ (∀ j, V' j = if j = 1 then ((n : Nat) : Int) + 1 else if 215 + 5 * i.toNat ≤ j ∧ j < 215 + 5 * n then V (j - 5) else V j) ∧ zkeep h h' [A.m, A.v, A.pa, A.tx, A.ma, A.na, A.ua, A.la])) 0 0 := by
  refine zMet.of (cc := cX4_opens) hl (plainFor_of_name (by decide +kernel)) (Nat.le_of_ble_eq_true rfl) ?_
  intro X hXl hXΓ hXp C hnm hnL
  have C : zC X cX4_opens RX4 none 1 20 [] := C
  have hnL : X.2.1.2.2.2.2 = 3 := hnL
  subst hXl hXΓ
  show Z X h 0 0 [(0, .ref A.m), (1, .int (iI i))] 0 []
  obtain ⟨gm_1, gv_1, gpa_1, gtx_1, gma_1, gna_1, gua_1, gla_1, gle_1, gqa_1, gd_1⟩ := id hM
  refine z_aload_n (pc := 0) (j := 0) C dX4_opens_0 rfl rfl ?_
  refine z_getfield (pc := 1) (v := .ref A.v) C in_X4 rfl 0 (by decide) q2082 (fun _ z => z) gm_1 rfl dX4_opens_1 ?_
  refine z_iconst (pc := 4) C dX4_opens_4 ?_
  refine z_iaload (pc := 5) (v := .int (iI ((n : Nat) : Int))) C gv_1 (by omega) (mA_e (vE hn (by omega))) dX4_opens_5 ?_
  refine z_callS (pc := 6) (n := 1) (kc' := 0) (ks' := 0) C (m_chord C.t (x := ((n : Nat) : Int))) (lw_S q2203 q2204 q74 q2205) (by decide +kernel) ⟨by decide, by decide⟩ rfl rfl (Nat.le_of_ble_eq_true rfl) dX4_opens_6 (by omega) (by omega) (zpk (st' := [.int (iI (210 + 5 * ((n : Nat) : Int)))]) rfl ?_) zrx
  refine z_iconst (pc := 9) C dX4_opens_9 ?_
  refine z_iadd (pc := 10) C dX4_opens_10 ?_
  refine z_iconst (pc := 11) C dX4_opens_11 ?_
  refine z_isub (pc := 12) C dX4_opens_12 ?_
  refine z_istore_n (pc := 13) (L' := [(2, .int (iI (((210 + 5 * ((n : Nat) : Int)) + 5) - 1))), (0, .ref A.m), (1, .int (iI i))]) C dX4_opens_13 rfl (by rw [hnL]; decide) rfl ?_
  have loop14 : ∀ (n14 : Nat) (k : Int) (V1 : Nat → Int) (g14 : zH), (mM g14 A st ty si ff wd th ap nt rr rq rb wh nd up lo V1 P T M N U W) → (zkeep h g14 [A.m, A.v, A.pa, A.tx, A.ma, A.na, A.ua, A.la]) → (214 + 5 * i ≤ k ∧ k ≤ 214 + 5 * (n : Nat)) → (∀ j, V1 j = if k.toNat < j ∧ j < 215 + 5 * n then V (j - 5) else V j) → ((k - 214 - 5 * i).toNat) = n14 → Z X g14 0 0 [(2, .int (iI k)), (1, .int (iI i)), (0, .ref A.m)] 14 [] := by
    intro n14
    induction n14 using Nat.strongRecOn with
    | ind n14 ih14 =>
    intro k V1 g14 hMg14 hkp14 hk hq hn14
    obtain ⟨gm_2, gv_2, gpa_2, gtx_2, gma_2, gna_2, gua_2, gla_2, gle_2, gqa_2, gd_2⟩ := id hMg14
    refine z_iload_n (pc := 14) (j := 0) C dX4_opens_14 rfl rfl ?_
    refine z_iload_n (pc := 15) (j := 1) C dX4_opens_15 rfl rfl ?_
    refine z_callS (pc := 16) (n := 1) (kc' := 0) (ks' := 0) C (m_chord C.t (x := i)) (lw_S q2203 q2204 q74 q2205) (by decide +kernel) ⟨by decide, by decide⟩ rfl rfl (Nat.le_of_ble_eq_true rfl) dX4_opens_16 (by omega) (by omega) (zpk (st' := [.int (iI (210 + 5 * i)), .int (iI k)]) rfl ?_) zrx
    refine z_iconst (pc := 19) C dX4_opens_19 ?_
    refine z_iadd (pc := 20) C dX4_opens_20 ?_
    refine z_icmp_lt (pc := 21) (tgt := 44) C dX4_opens_21 (by decide) (by omega) (by omega) (fun c21 => ?_) (fun c21 => ?_)
    · refine z_aload_n (pc := 44) (j := 2) C dX4_opens_44 rfl rfl ?_
      refine z_getfield (pc := 45) (v := .ref A.v) C in_X4 rfl 0 (by decide) q2082 (fun _ z => z) gm_2 rfl dX4_opens_45 ?_
      refine z_iconst (pc := 48) C dX4_opens_48 ?_
      refine z_dup2 (pc := 49) C dX4_opens_49 rfl rfl ?_
      refine z_iaload (pc := 50) (v := .int (iI ((n : Nat) : Int))) C gv_2 (by omega) (mA_e (vE (show V1 1 = _ from by rw [hq 1, if_neg (by omega)]; exact hn) (by omega))) dX4_opens_50 ?_
      refine z_iconst (pc := 51) C dX4_opens_51 ?_
      refine z_iadd (pc := 52) C dX4_opens_52 ?_
      refine z_iastore (pc := 53) (f' := (mA (updI V1 1 (((n : Nat) : Int) + 1)))) C gv_2 (by omega) (mA_up _ _ _) dX4_opens_53 ?_
      refine Z.nm (fun h3 eh3 => ?_)
      have kh3 : zkeep h h3 [A.m, A.v, A.pa, A.tx, A.ma, A.na, A.ua, A.la] := by rw [eh3]; exact zkeep.up hkp14 (Or.inl (by simp)) gv_2
      have fh3_0 : h3 A.v = some (true, .inl (.int, 620, (mA (updI V1 1 (((n : Nat) : Int) + 1))))) := zse eh3
      have fh3_1 : h3 A.m = some (true, .inr (3, [.ref A.v, .ref A.pa, .int (iI st), .ref A.tx, .int (iI ty), .int (iI si), .int (iI ff), .int (iI wd), .int (iI th), .ref A.le, .ref A.qa, .int (iI ap), .int (iI nt), .int (iI rr), .int (iI rq), .int (iI rb), .int (iI wh), .ref A.ma, .ref A.na, .int (iI nd), .ref A.ua, .ref A.la, .int (iI up), .int (iI lo)])) := zsn eh3 gm_2 (zneA gm_2 gv_2)
      have fh3_2 : h3 A.pa = some (true, .inl (.int, 4960, (mA P))) := zsn eh3 gpa_2 (Ne.symm gd_2.1)
      have fh3_3 : h3 A.tx = some (true, .inl (.int, 200, (mA T))) := zsn eh3 gtx_2 (Ne.symm gd_2.2.1)
      have fh3_4 : h3 A.ma = some (true, .inl (.int, 620, (mA M))) := zsn eh3 gma_2 (Ne.symm gd_2.2.2.1)
      have fh3_5 : h3 A.na = some (true, .inl (.int, 20, (mA N))) := zsn eh3 gna_2 (Ne.symm gd_2.2.2.2.1)
      have fh3_6 : h3 A.ua = some (true, .inl (.int, 1200, (mA U))) := zsn eh3 gua_2 (Ne.symm gd_2.2.2.2.2.1)
      have fh3_7 : h3 A.la = some (true, .inl (.int, 1200, (mA W))) := zsn eh3 gla_2 (Ne.symm gd_2.2.2.2.2.2.1)
      have fh3_8 : h3 A.le = some (true, .inl (.char, 7, (mA ltF))) := zsn eh3 gle_2 (zneT gle_2 gv_2 (by simp))
      have fh3_9 : h3 A.qa = some (true, .inl (.char, 30, (mA qaF))) := zsn eh3 gqa_2 (zneT gqa_2 gv_2 (by simp))
      have hOq : ∀ j, (updI V1 1 (((n : Nat) : Int) + 1)) j = if j = 1 then ((n : Nat) : Int) + 1 else if 215 + 5 * i.toNat ≤ j ∧ j < 215 + 5 * n then V (j - 5) else V j := fun j => by
        have hj := hq j
        by_cases c : j = 1
        · rw [if_pos c]; exact updI_eq c
        · rw [if_neg c]
          refine updI_ne c ?_
          rw [hj]
          by_cases d : 215 + 5 * i.toNat ≤ j ∧ j < 215 + 5 * n
          · rw [if_pos d, if_pos (by omega)]
          · rw [if_neg d, if_neg (by omega)]
      exact z_return (pc := 54) C (by rw [hXp]; exact ⟨_, rfl, (updI V1 1 (((n : Nat) : Int) + 1)), rfl, ⟨fh3_1, fh3_0, fh3_2, fh3_3, fh3_4, fh3_5, fh3_6, fh3_7, fh3_8, fh3_9, gd_2⟩, hOq, kh3⟩) dX4_opens_54
    · refine z_aload_n (pc := 24) (j := 2) C dX4_opens_24 rfl rfl ?_
      refine z_getfield (pc := 25) (v := .ref A.v) C in_X4 rfl 0 (by decide) q2082 (fun _ z => z) gm_2 rfl dX4_opens_25 ?_
      refine z_iload_n (pc := 28) (j := 0) C dX4_opens_28 rfl rfl ?_
      refine z_aload_n (pc := 29) (j := 2) C dX4_opens_29 rfl rfl ?_
      refine z_getfield (pc := 30) (v := .ref A.v) C in_X4 rfl 0 (by decide) q2082 (fun _ z => z) gm_2 rfl dX4_opens_30 ?_
      refine z_iload_n (pc := 33) (j := 0) C dX4_opens_33 rfl rfl ?_
      refine z_iconst (pc := 34) C dX4_opens_34 ?_
      refine z_isub (pc := 35) C dX4_opens_35 ?_
      refine z_iaload (pc := 36) (v := .int (iI (V1 (Int.toNat (k - 5))))) C gv_2 (by omega) rfl dX4_opens_36 ?_
      refine z_iastore (pc := 37) (f' := (mA (updI V1 (Int.toNat k) (V1 (Int.toNat (k - 5)))))) C gv_2 (by omega) (mA_up _ _ _) dX4_opens_37 ?_
      refine Z.nm (fun h4 eh4 => ?_)
      have kh4 : zkeep h h4 [A.m, A.v, A.pa, A.tx, A.ma, A.na, A.ua, A.la] := by rw [eh4]; exact zkeep.up hkp14 (Or.inl (by simp)) gv_2
      have fh4_0 : h4 A.v = some (true, .inl (.int, 620, (mA (updI V1 (Int.toNat k) (V1 (Int.toNat (k - 5))))))) := zse eh4
      have fh4_1 : h4 A.m = some (true, .inr (3, [.ref A.v, .ref A.pa, .int (iI st), .ref A.tx, .int (iI ty), .int (iI si), .int (iI ff), .int (iI wd), .int (iI th), .ref A.le, .ref A.qa, .int (iI ap), .int (iI nt), .int (iI rr), .int (iI rq), .int (iI rb), .int (iI wh), .ref A.ma, .ref A.na, .int (iI nd), .ref A.ua, .ref A.la, .int (iI up), .int (iI lo)])) := zsn eh4 gm_2 (zneA gm_2 gv_2)
      have fh4_2 : h4 A.pa = some (true, .inl (.int, 4960, (mA P))) := zsn eh4 gpa_2 (Ne.symm gd_2.1)
      have fh4_3 : h4 A.tx = some (true, .inl (.int, 200, (mA T))) := zsn eh4 gtx_2 (Ne.symm gd_2.2.1)
      have fh4_4 : h4 A.ma = some (true, .inl (.int, 620, (mA M))) := zsn eh4 gma_2 (Ne.symm gd_2.2.2.1)
      have fh4_5 : h4 A.na = some (true, .inl (.int, 20, (mA N))) := zsn eh4 gna_2 (Ne.symm gd_2.2.2.2.1)
      have fh4_6 : h4 A.ua = some (true, .inl (.int, 1200, (mA U))) := zsn eh4 gua_2 (Ne.symm gd_2.2.2.2.2.1)
      have fh4_7 : h4 A.la = some (true, .inl (.int, 1200, (mA W))) := zsn eh4 gla_2 (Ne.symm gd_2.2.2.2.2.2.1)
      have fh4_8 : h4 A.le = some (true, .inl (.char, 7, (mA ltF))) := zsn eh4 gle_2 (zneT gle_2 gv_2 (by simp))
      have fh4_9 : h4 A.qa = some (true, .inl (.char, 30, (mA qaF))) := zsn eh4 gqa_2 (zneT gqa_2 gv_2 (by simp))
      refine z_iinc (pc := 38) (k := 0) (L' := [(2, .int (iI (k + (-1)))), (1, .int (iI i)), (0, .ref A.m)]) C dX4_opens_38 rfl (by rw [hnL]; decide) rfl ?_
      refine z_goto (pc := 41) (tgt := 14) C dX4_opens_41 (by decide) ?_
      refine Z.weak (L' := [(2, .int (iI (k + (-1)))), (1, .int (iI i)), (0, .ref A.m)]) (kc' := 0) (ks' := 0) [0, 1, 2] rfl (by omega) (by omega) ?_
      exact ih14 _ (by omega) (k + (-1)) (updI V1 (Int.toNat k) (V1 (Int.toNat (k - 5)))) h4 ⟨fh4_1, fh4_0, fh4_2, fh4_3, fh4_4, fh4_5, fh4_6, fh4_7, fh4_8, fh4_9, gd_2⟩ kh4 (by omega) (opn_st (by omega) (by omega) hq) rfl
  refine Z.weak (L' := [(2, .int (iI (((210 + 5 * ((n : Nat) : Int)) + 5) - 1))), (1, .int (iI i)), (0, .ref A.m)]) (kc' := 0) (ks' := 0) [0, 2, 1] rfl (by omega) (by omega) ?_
  exact loop14 _ (((210 + 5 * ((n : Nat) : Int)) + 5) - 1) V h ⟨gm_1, gv_1, gpa_1, gtx_1, gma_1, gna_1, gua_1, gla_1, gle_1, gqa_1, gd_1⟩ zkeep.rf (by omega) (fun j => by rw [if_neg (by omega)]) rfl
set_option maxHeartbeats 4000000 in
theorem m_closes {l : Launch} (hl : l.stackTraces = false) {Γ : zCx} {h : zH} {A : zMA} {st ty si ff wd th ap nt rr rq rb wh nd up lo : Int} {V P T M N U W : Nat → Int} (hM : mM h A st ty si ff wd th ap nt rr rq rb wh nd up lo V P T M N U W) {n : Nat} (hn : V 1 = ((n : Nat) : Int)) {i : Int} (hi : 0 ≤ i ∧ i < (n : Nat)) (hn40 : n ≤ 40)  : zMet l yX4_closes (ws_ yX4_closes cX4_closes 3 none) ({ frames := 1, cells := 0, slots := 0, locals := 20 }) Γ h [.ref A.m, .int (iI i)] (zrt (fun w h' => ∃ V', w = none ∧ mM h' A st ty si ff wd th ap nt rr rq rb wh nd up lo V' P T M N U W ∧ (∀ j, V' j = if j = 1 then ((n : Nat) : Int) - 1 else if 210 + 5 * i.toNat ≤ j ∧ j < 205 + 5 * n then V (j + 5) else if 205 + 5 * n ≤ j ∧ j < 210 + 5 * n then 0 else V j) ∧ zkeep h h' [A.m, A.v, A.pa, A.tx, A.ma, A.na, A.ua, A.la])) 0 0 := by
  refine zMet.of (cc := cX4_closes) hl (plainFor_of_name (by decide +kernel)) (Nat.le_of_ble_eq_true rfl) ?_
  intro X hXl hXΓ hXp C hnm hnL
  have C : zC X cX4_closes RX4 none 1 20 [] := C
  have hnL : X.2.1.2.2.2.2 = 3 := hnL
  subst hXl hXΓ
  show Z X h 0 0 [(0, .ref A.m), (1, .int (iI i))] 0 []
  obtain ⟨gm_1, gv_1, gpa_1, gtx_1, gma_1, gna_1, gua_1, gla_1, gle_1, gqa_1, gd_1⟩ := id hM
  refine z_aload_n (pc := 0) (j := 0) C dX4_closes_0 rfl rfl ?_
  refine z_getfield (pc := 1) (v := .ref A.v) C in_X4 rfl 0 (by decide) q2082 (fun _ z => z) gm_1 rfl dX4_closes_1 ?_
  refine z_iconst (pc := 4) C dX4_closes_4 ?_
  refine z_dup2 (pc := 5) C dX4_closes_5 rfl rfl ?_
  refine z_iaload (pc := 6) (v := .int (iI ((n : Nat) : Int))) C gv_1 (by omega) (mA_e (vE hn (by omega))) dX4_closes_6 ?_
  refine z_iconst (pc := 7) C dX4_closes_7 ?_
  refine z_isub (pc := 8) C dX4_closes_8 ?_
  refine z_iastore (pc := 9) (f' := (mA (updI V 1 (((n : Nat) : Int) - 1)))) C gv_1 (by omega) (mA_up _ _ _) dX4_closes_9 ?_
  refine Z.nm (fun h2 eh2 => ?_)
  have kh2 : zkeep h h2 [A.m, A.v, A.pa, A.tx, A.ma, A.na, A.ua, A.la] := by rw [eh2]; exact zkeep.up zkeep.rf (Or.inl (by simp)) gv_1
  have fh2_0 : h2 A.v = some (true, .inl (.int, 620, (mA (updI V 1 (((n : Nat) : Int) - 1))))) := zse eh2
  have fh2_1 : h2 A.m = some (true, .inr (3, [.ref A.v, .ref A.pa, .int (iI st), .ref A.tx, .int (iI ty), .int (iI si), .int (iI ff), .int (iI wd), .int (iI th), .ref A.le, .ref A.qa, .int (iI ap), .int (iI nt), .int (iI rr), .int (iI rq), .int (iI rb), .int (iI wh), .ref A.ma, .ref A.na, .int (iI nd), .ref A.ua, .ref A.la, .int (iI up), .int (iI lo)])) := zsn eh2 gm_1 (zneA gm_1 gv_1)
  have fh2_2 : h2 A.pa = some (true, .inl (.int, 4960, (mA P))) := zsn eh2 gpa_1 (Ne.symm gd_1.1)
  have fh2_3 : h2 A.tx = some (true, .inl (.int, 200, (mA T))) := zsn eh2 gtx_1 (Ne.symm gd_1.2.1)
  have fh2_4 : h2 A.ma = some (true, .inl (.int, 620, (mA M))) := zsn eh2 gma_1 (Ne.symm gd_1.2.2.1)
  have fh2_5 : h2 A.na = some (true, .inl (.int, 20, (mA N))) := zsn eh2 gna_1 (Ne.symm gd_1.2.2.2.1)
  have fh2_6 : h2 A.ua = some (true, .inl (.int, 1200, (mA U))) := zsn eh2 gua_1 (Ne.symm gd_1.2.2.2.2.1)
  have fh2_7 : h2 A.la = some (true, .inl (.int, 1200, (mA W))) := zsn eh2 gla_1 (Ne.symm gd_1.2.2.2.2.2.1)
  refine z_iload_n (pc := 10) (j := 1) C dX4_closes_10 rfl rfl ?_
  refine z_callS (pc := 11) (n := 1) (kc' := 0) (ks' := 0) C (m_chord C.t (x := i)) (lw_S q2203 q2204 q74 q2205) (by decide +kernel) ⟨by decide, by decide⟩ rfl rfl (Nat.le_of_ble_eq_true rfl) dX4_closes_11 (by omega) (by omega) (zpk (st' := [.int (iI (210 + 5 * i))]) rfl ?_) zrx
  refine z_istore_n (pc := 14) (L' := [(2, .int (iI (210 + 5 * i))), (0, .ref A.m), (1, .int (iI i))]) C dX4_closes_14 rfl (by rw [hnL]; decide) rfl ?_
  have loop15 : ∀ (n15 : Nat) (k : Int) (V1 : Nat → Int) (g15 : zH), (mM g15 A st ty si ff wd th ap nt rr rq rb wh nd up lo V1 P T M N U W) → (zkeep h g15 [A.m, A.v, A.pa, A.tx, A.ma, A.na, A.ua, A.la]) → (210 + 5 * i ≤ k ∧ k ≤ 205 + 5 * ((n : Nat) : Int)) → (∀ j, V1 j = if j = 1 then ((n : Nat) : Int) - 1 else if 210 + 5 * i.toNat ≤ j ∧ j < k.toNat then V (j + 5) else V j) → ((205 + 5 * ((n : Nat) : Int) - k).toNat) = n15 → Z X g15 0 0 [(2, .int (iI k)), (1, .int (iI i)), (0, .ref A.m)] 15 [] := by
    intro n15
    induction n15 using Nat.strongRecOn with
    | ind n15 ih15 =>
    intro k V1 g15 hMg15 hkp15 hk hq hn15
    obtain ⟨gm_3, gv_3, gpa_3, gtx_3, gma_3, gna_3, gua_3, gla_3, gle_3, gqa_3, gd_3⟩ := id hMg15
    refine z_iload_n (pc := 15) (j := 0) C dX4_closes_15 rfl rfl ?_
    refine z_aload_n (pc := 16) (j := 2) C dX4_closes_16 rfl rfl ?_
    refine z_getfield (pc := 17) (v := .ref A.v) C in_X4 rfl 0 (by decide) q2082 (fun _ z => z) gm_3 rfl dX4_closes_17 ?_
    refine z_iconst (pc := 20) C dX4_closes_20 ?_
    refine z_iaload (pc := 21) (v := .int (iI (((n : Nat) : Int) - 1))) C gv_3 (by omega) (mA_e (vE (show V1 1 = _ from by rw [hq 1, if_pos rfl]) (by omega))) dX4_closes_21 ?_
    refine z_callS (pc := 22) (n := 1) (kc' := 0) (ks' := 0) C (m_chord C.t (x := ((n : Nat) : Int) - 1)) (lw_S q2203 q2204 q74 q2205) (by decide +kernel) ⟨by decide, by decide⟩ rfl rfl (Nat.le_of_ble_eq_true rfl) dX4_closes_22 (by omega) (by omega) (zpk (st' := [.int (iI (210 + 5 * (((n : Nat) : Int) - 1))), .int (iI k)]) rfl ?_) zrx
    refine z_icmp_ge (pc := 25) (tgt := 48) C dX4_closes_25 (by decide) (by omega) (by omega) (fun c25 => ?_) (fun c25 => ?_)
    · refine z_iconst (pc := 48) C dX4_closes_48 ?_
      refine z_istore_n (pc := 49) (L' := [(2, .int (iI 0)), (1, .int (iI i)), (0, .ref A.m)]) C dX4_closes_49 rfl (by rw [hnL]; decide) rfl ?_
      have hke : k = 205 + 5 * ((n : Nat) : Int) := by omega
      have loop50 : ∀ (n50 : Nat) (k2 : Int) (V2 : Nat → Int) (g50 : zH), (mM g50 A st ty si ff wd th ap nt rr rq rb wh nd up lo V2 P T M N U W) → (zkeep h g50 [A.m, A.v, A.pa, A.tx, A.ma, A.na, A.ua, A.la]) → (0 ≤ k2 ∧ k2 ≤ 5) → (∀ j, V2 j = if j = 1 then ((n : Nat) : Int) - 1 else if 210 + 5 * i.toNat ≤ j ∧ j < 205 + 5 * n then V (j + 5) else if 205 + 5 * n ≤ j ∧ j < 205 + 5 * n + k2.toNat then 0 else V j) → ((5 - k2).toNat) = n50 → Z X g50 0 0 [(2, .int (iI k2)), (1, .int (iI i)), (0, .ref A.m)] 50 [] := by
        intro n50
        induction n50 using Nat.strongRecOn with
        | ind n50 ih50 =>
        intro k2 V2 g50 hMg50 hkp50 hk2 hq2 hn50
        obtain ⟨gm_4, gv_4, gpa_4, gtx_4, gma_4, gna_4, gua_4, gla_4, gle_4, gqa_4, gd_4⟩ := id hMg50
        refine z_iload_n (pc := 50) (j := 0) C dX4_closes_50 rfl rfl ?_
        refine z_iconst (pc := 51) C dX4_closes_51 ?_
        refine z_icmp_ge (pc := 52) (tgt := 78) C dX4_closes_52 (by decide) (by omega) (by decide) (fun c52 => ?_) (fun c52 => ?_)
        · exact z_return (pc := 78) C (by rw [hXp]; exact ⟨_, rfl, V2, rfl, ⟨gm_4, gv_4, gpa_4, gtx_4, gma_4, gna_4, gua_4, gla_4, gle_4, gqa_4, gd_4⟩, (fun j => by rw [hq2 j, show 205 + 5 * n + k2.toNat = 210 + 5 * n by omega]), hkp50⟩) dX4_closes_78
        · refine z_aload_n (pc := 55) (j := 2) C dX4_closes_55 rfl rfl ?_
          refine z_getfield (pc := 56) (v := .ref A.v) C in_X4 rfl 0 (by decide) q2082 (fun _ z => z) gm_4 rfl dX4_closes_56 ?_
          refine z_aload_n (pc := 59) (j := 2) C dX4_closes_59 rfl rfl ?_
          refine z_getfield (pc := 60) (v := .ref A.v) C in_X4 rfl 0 (by decide) q2082 (fun _ z => z) gm_4 rfl dX4_closes_60 ?_
          refine z_iconst (pc := 63) C dX4_closes_63 ?_
          refine z_iaload (pc := 64) (v := .int (iI (((n : Nat) : Int) - 1))) C gv_4 (by omega) (mA_e (vE (show V2 1 = _ from by rw [hq2 1, if_pos rfl]) (by omega))) dX4_closes_64 ?_
          refine z_callS (pc := 65) (n := 1) (kc' := 0) (ks' := 0) C (m_chord C.t (x := ((n : Nat) : Int) - 1)) (lw_S q2203 q2204 q74 q2205) (by decide +kernel) ⟨by decide, by decide⟩ rfl rfl (Nat.le_of_ble_eq_true rfl) dX4_closes_65 (by omega) (by omega) (zpk (st' := [.int (iI (210 + 5 * (((n : Nat) : Int) - 1))), .ref A.v]) rfl ?_) zrx
          refine z_iload_n (pc := 68) (j := 0) C dX4_closes_68 rfl rfl ?_
          refine z_iadd (pc := 69) C dX4_closes_69 ?_
          refine z_iconst (pc := 70) C dX4_closes_70 ?_
          refine z_iastore (pc := 71) (f' := (mA (updI V2 (Int.toNat ((210 + 5 * (((n : Nat) : Int) - 1)) + k2)) 0))) C gv_4 (by omega) (mA_up _ _ _) dX4_closes_71 ?_
          refine Z.nm (fun h5 eh5 => ?_)
          have kh5 : zkeep h h5 [A.m, A.v, A.pa, A.tx, A.ma, A.na, A.ua, A.la] := by rw [eh5]; exact zkeep.up hkp50 (Or.inl (by simp)) gv_4
          have fh5_0 : h5 A.v = some (true, .inl (.int, 620, (mA (updI V2 (Int.toNat ((210 + 5 * (((n : Nat) : Int) - 1)) + k2)) 0)))) := zse eh5
          have fh5_1 : h5 A.m = some (true, .inr (3, [.ref A.v, .ref A.pa, .int (iI st), .ref A.tx, .int (iI ty), .int (iI si), .int (iI ff), .int (iI wd), .int (iI th), .ref A.le, .ref A.qa, .int (iI ap), .int (iI nt), .int (iI rr), .int (iI rq), .int (iI rb), .int (iI wh), .ref A.ma, .ref A.na, .int (iI nd), .ref A.ua, .ref A.la, .int (iI up), .int (iI lo)])) := zsn eh5 gm_4 (zneA gm_4 gv_4)
          have fh5_2 : h5 A.pa = some (true, .inl (.int, 4960, (mA P))) := zsn eh5 gpa_4 (Ne.symm gd_4.1)
          have fh5_3 : h5 A.tx = some (true, .inl (.int, 200, (mA T))) := zsn eh5 gtx_4 (Ne.symm gd_4.2.1)
          have fh5_4 : h5 A.ma = some (true, .inl (.int, 620, (mA M))) := zsn eh5 gma_4 (Ne.symm gd_4.2.2.1)
          have fh5_5 : h5 A.na = some (true, .inl (.int, 20, (mA N))) := zsn eh5 gna_4 (Ne.symm gd_4.2.2.2.1)
          have fh5_6 : h5 A.ua = some (true, .inl (.int, 1200, (mA U))) := zsn eh5 gua_4 (Ne.symm gd_4.2.2.2.2.1)
          have fh5_7 : h5 A.la = some (true, .inl (.int, 1200, (mA W))) := zsn eh5 gla_4 (Ne.symm gd_4.2.2.2.2.2.1)
          have fh5_8 : h5 A.le = some (true, .inl (.char, 7, (mA ltF))) := zsn eh5 gle_4 (zneT gle_4 gv_4 (by simp))
          have fh5_9 : h5 A.qa = some (true, .inl (.char, 30, (mA qaF))) := zsn eh5 gqa_4 (zneT gqa_4 gv_4 (by simp))
          refine z_iinc (pc := 72) (k := 0) (L' := [(2, .int (iI (k2 + 1))), (1, .int (iI i)), (0, .ref A.m)]) C dX4_closes_72 rfl (by rw [hnL]; decide) rfl ?_
          refine z_goto (pc := 75) (tgt := 50) C dX4_closes_75 (by decide) ?_
          refine Z.weak (L' := [(2, .int (iI (k2 + 1))), (1, .int (iI i)), (0, .ref A.m)]) (kc' := 0) (ks' := 0) [0, 1, 2] rfl (by omega) (by omega) ?_
          exact ih50 _ (by omega) (k2 + 1) (updI V2 (Int.toNat ((210 + 5 * (((n : Nat) : Int) - 1)) + k2)) 0) h5 ⟨fh5_1, fh5_0, fh5_2, fh5_3, fh5_4, fh5_5, fh5_6, fh5_7, fh5_8, fh5_9, gd_4⟩ kh5 (by omega) (cls_z (by omega) (by omega) hq2) rfl
      refine Z.weak (L' := [(2, .int (iI 0)), (1, .int (iI i)), (0, .ref A.m)]) (kc' := 0) (ks' := 0) [0, 1, 2] rfl (by omega) (by omega) ?_
      exact loop50 _ 0 V1 g15 ⟨gm_3, gv_3, gpa_3, gtx_3, gma_3, gna_3, gua_3, gla_3, gle_3, gqa_3, gd_3⟩ hkp15 (by omega) (fun j => by rw [hq j, show k.toNat = 205 + 5 * n by omega, if_neg (c := 205 + 5 * n ≤ j ∧ j < 205 + 5 * n + (0 : Int).toNat) (by omega)]) rfl
    · refine z_aload_n (pc := 28) (j := 2) C dX4_closes_28 rfl rfl ?_
      refine z_getfield (pc := 29) (v := .ref A.v) C in_X4 rfl 0 (by decide) q2082 (fun _ z => z) gm_3 rfl dX4_closes_29 ?_
      refine z_iload_n (pc := 32) (j := 0) C dX4_closes_32 rfl rfl ?_
      refine z_aload_n (pc := 33) (j := 2) C dX4_closes_33 rfl rfl ?_
      refine z_getfield (pc := 34) (v := .ref A.v) C in_X4 rfl 0 (by decide) q2082 (fun _ z => z) gm_3 rfl dX4_closes_34 ?_
      refine z_iload_n (pc := 37) (j := 0) C dX4_closes_37 rfl rfl ?_
      refine z_iconst (pc := 38) C dX4_closes_38 ?_
      refine z_iadd (pc := 39) C dX4_closes_39 ?_
      refine z_iaload (pc := 40) (v := .int (iI (V1 (Int.toNat (k + 5))))) C gv_3 (by omega) rfl dX4_closes_40 ?_
      refine z_iastore (pc := 41) (f' := (mA (updI V1 (Int.toNat k) (V1 (Int.toNat (k + 5)))))) C gv_3 (by omega) (mA_up _ _ _) dX4_closes_41 ?_
      refine Z.nm (fun h6 eh6 => ?_)
      have kh6 : zkeep h h6 [A.m, A.v, A.pa, A.tx, A.ma, A.na, A.ua, A.la] := by rw [eh6]; exact zkeep.up hkp15 (Or.inl (by simp)) gv_3
      have fh6_0 : h6 A.v = some (true, .inl (.int, 620, (mA (updI V1 (Int.toNat k) (V1 (Int.toNat (k + 5))))))) := zse eh6
      have fh6_1 : h6 A.m = some (true, .inr (3, [.ref A.v, .ref A.pa, .int (iI st), .ref A.tx, .int (iI ty), .int (iI si), .int (iI ff), .int (iI wd), .int (iI th), .ref A.le, .ref A.qa, .int (iI ap), .int (iI nt), .int (iI rr), .int (iI rq), .int (iI rb), .int (iI wh), .ref A.ma, .ref A.na, .int (iI nd), .ref A.ua, .ref A.la, .int (iI up), .int (iI lo)])) := zsn eh6 gm_3 (zneA gm_3 gv_3)
      have fh6_2 : h6 A.pa = some (true, .inl (.int, 4960, (mA P))) := zsn eh6 gpa_3 (Ne.symm gd_3.1)
      have fh6_3 : h6 A.tx = some (true, .inl (.int, 200, (mA T))) := zsn eh6 gtx_3 (Ne.symm gd_3.2.1)
      have fh6_4 : h6 A.ma = some (true, .inl (.int, 620, (mA M))) := zsn eh6 gma_3 (Ne.symm gd_3.2.2.1)
      have fh6_5 : h6 A.na = some (true, .inl (.int, 20, (mA N))) := zsn eh6 gna_3 (Ne.symm gd_3.2.2.2.1)
      have fh6_6 : h6 A.ua = some (true, .inl (.int, 1200, (mA U))) := zsn eh6 gua_3 (Ne.symm gd_3.2.2.2.2.1)
      have fh6_7 : h6 A.la = some (true, .inl (.int, 1200, (mA W))) := zsn eh6 gla_3 (Ne.symm gd_3.2.2.2.2.2.1)
      have fh6_8 : h6 A.le = some (true, .inl (.char, 7, (mA ltF))) := zsn eh6 gle_3 (zneT gle_3 gv_3 (by simp))
      have fh6_9 : h6 A.qa = some (true, .inl (.char, 30, (mA qaF))) := zsn eh6 gqa_3 (zneT gqa_3 gv_3 (by simp))
      refine z_iinc (pc := 42) (k := 0) (L' := [(2, .int (iI (k + 1))), (1, .int (iI i)), (0, .ref A.m)]) C dX4_closes_42 rfl (by rw [hnL]; decide) rfl ?_
      refine z_goto (pc := 45) (tgt := 15) C dX4_closes_45 (by decide) ?_
      refine Z.weak (L' := [(2, .int (iI (k + 1))), (1, .int (iI i)), (0, .ref A.m)]) (kc' := 0) (ks' := 0) [0, 1, 2] rfl (by omega) (by omega) ?_
      exact ih15 _ (by omega) (k + 1) (updI V1 (Int.toNat k) (V1 (Int.toNat (k + 5)))) h6 ⟨fh6_1, fh6_0, fh6_2, fh6_3, fh6_4, fh6_5, fh6_6, fh6_7, fh6_8, fh6_9, gd_3⟩ kh6 (by omega) (cls_st (by omega) (by omega) hq) rfl
  refine Z.weak (L' := [(2, .int (iI (210 + 5 * i))), (1, .int (iI i)), (0, .ref A.m)]) (kc' := 0) (ks' := 0) [0, 2, 1] rfl (by omega) (by omega) ?_
  exact loop15 _ (210 + 5 * i) (updI V 1 (((n : Nat) : Int) - 1)) h2 ⟨fh2_1, fh2_0, fh2_2, fh2_3, fh2_4, fh2_5, fh2_6, fh2_7, (kh2.n gle_1 (List.not_mem_cons_of_ne_of_not_mem (Ne.symm (zneA gm_1 gle_1)) (List.not_mem_cons_of_ne_of_not_mem (zneT gle_1 gv_1 (by simp)) (List.not_mem_cons_of_ne_of_not_mem (zneT gle_1 gpa_1 (by simp)) (List.not_mem_cons_of_ne_of_not_mem (zneT gle_1 gtx_1 (by simp)) (List.not_mem_cons_of_ne_of_not_mem (zneT gle_1 gma_1 (by simp)) (List.not_mem_cons_of_ne_of_not_mem (zneT gle_1 gna_1 (by simp)) (List.not_mem_cons_of_ne_of_not_mem (zneT gle_1 gua_1 (by simp)) (List.not_mem_cons_of_ne_of_not_mem (zneT gle_1 gla_1 (by simp)) List.not_mem_nil))))))))), (kh2.n gqa_1 (List.not_mem_cons_of_ne_of_not_mem (Ne.symm (zneA gm_1 gqa_1)) (List.not_mem_cons_of_ne_of_not_mem (zneT gqa_1 gv_1 (by simp)) (List.not_mem_cons_of_ne_of_not_mem (zneT gqa_1 gpa_1 (by simp)) (List.not_mem_cons_of_ne_of_not_mem (zneT gqa_1 gtx_1 (by simp)) (List.not_mem_cons_of_ne_of_not_mem (zneT gqa_1 gma_1 (by simp)) (List.not_mem_cons_of_ne_of_not_mem (zneT gqa_1 gna_1 (by simp)) (List.not_mem_cons_of_ne_of_not_mem (zneT gqa_1 gua_1 (by simp)) (List.not_mem_cons_of_ne_of_not_mem (zneT gqa_1 gla_1 (by simp)) List.not_mem_nil))))))))), gd_1⟩ kh2 (by omega) (fun j => cls_0 (by omega)) rfl
set_option maxHeartbeats 4000000 in
theorem md_removeChord {l : Launch} (hl : l.stackTraces = false) {Γ : zCx} {h : zH} {A : zMA} {σ : zSt} {th : Int} (hW : mdW h A σ th) {i : Int} (hi : 0 ≤ i ∧ i < (σ.sh.cs.length : Nat))  : zMet l yX4_removeChord (ws_ yX4_removeChord cX4_removeChord 2 (some .int)) ({ frames := 2, cells := 0, slots := 0, locals := 43 }) Γ h [.ref A.m, .int (iI i)] (zrt (fun w h' => w = some (.int (iI (((σ.sh.cs.length : Nat) : Int) - 1))) ∧ mdW h' A (σ.tx, σ.si, σ.fl, σ.wd, (σ.sh.ls, σ.sh.cs.eraseIdx i.toNat, σ.sh.t, σ.sh.m), hiP σ.hi σ.sh) 0 ∧ zkeep h h' [A.m, A.v, A.pa, A.tx, A.ma, A.na, A.ua, A.la])) 0 0 := by
  refine zMet.of (cc := cX4_removeChord) hl (plainFor_of_name (by decide +kernel)) (Nat.le_of_ble_eq_true rfl) ?_
  intro X hXl hXΓ hXp C hnm hnL
  have C : zC X cX4_removeChord RX4 (some .int) 2 43 [] := C
  have hnL : X.2.1.2.2.2.2 = 2 := hnL
  subst hXl hXΓ
  show Z X h 0 0 [(0, .ref A.m), (1, .int (iI i))] 0 []
  obtain ⟨ap, nt, rr, rq, rb, wh, nd, up, lo, V, P, T, M, N, U, W, hM, hS, hP, htq, hR, hsl, hslh⟩ := id hW
  obtain ⟨rsi, rff, rwd, rtl, rtx, rsh, rhi, rhl⟩ := id hR
  obtain ⟨rcl, rcr, rll, rlt, rkt, rkm, rks⟩ := id rsh
  obtain ⟨hsl1, hsl2, hsl3⟩ := id hsl
  have hTr := rtx
  have hTl := rtl
  obtain ⟨gm_1, gv_1, gpa_1, gtx_1, gma_1, gna_1, gua_1, gla_1, gle_1, gqa_1, gd_1⟩ := id hM
  refine z_aload_n (pc := 0) (j := 0) C dX4_removeChord_0 rfl rfl ?_
  refine z_iconst (pc := 1) C dX4_removeChord_1 ?_
  refine z_putfield (pc := 2) (fs' := [.ref A.v, .ref A.pa, .int (iI ((σ.hi.length : Nat) : Int)), .ref A.tx, .int (iI ((σ.tx.length : Nat) : Int)), .int (iI σ.si), .int (iI σ.fl), .int (iI σ.wd), .int (iI 0), .ref A.le, .ref A.qa, .int (iI ap), .int (iI nt), .int (iI rr), .int (iI rq), .int (iI rb), .int (iI wh), .ref A.ma, .ref A.na, .int (iI nd), .ref A.ua, .ref A.la, .int (iI up), .int (iI lo)]) C in_X4 tyX4 tyX4_ok nmX4 rfl 8 (by decide) q2090 (fun _ z => z) rfl rfl rfl (Nat.le_of_ble_eq_true rfl) gm_1 rfl dX4_removeChord_2 ?_
  refine Z.nm (fun h2 eh2 => ?_)
  have kh2 : zkeep h h2 [A.m, A.v, A.pa, A.tx, A.ma, A.na, A.ua, A.la] := by rw [eh2]; exact zkeep.up zkeep.rf (Or.inl (by simp)) gm_1
  have fh2_0 : h2 A.m = some (true, .inr (3, [.ref A.v, .ref A.pa, .int (iI ((σ.hi.length : Nat) : Int)), .ref A.tx, .int (iI ((σ.tx.length : Nat) : Int)), .int (iI σ.si), .int (iI σ.fl), .int (iI σ.wd), .int (iI 0), .ref A.le, .ref A.qa, .int (iI ap), .int (iI nt), .int (iI rr), .int (iI rq), .int (iI rb), .int (iI wh), .ref A.ma, .ref A.na, .int (iI nd), .ref A.ua, .ref A.la, .int (iI up), .int (iI lo)])) := zse eh2
  have fh2_1 : h2 A.v = some (true, .inl (.int, 620, (mA V))) := zsn eh2 gv_1 (Ne.symm (zneA gm_1 gv_1))
  have fh2_2 : h2 A.pa = some (true, .inl (.int, 4960, (mA P))) := zsn eh2 gpa_1 (Ne.symm (zneA gm_1 gpa_1))
  have fh2_3 : h2 A.tx = some (true, .inl (.int, 200, (mA T))) := zsn eh2 gtx_1 (Ne.symm (zneA gm_1 gtx_1))
  have fh2_4 : h2 A.ma = some (true, .inl (.int, 620, (mA M))) := zsn eh2 gma_1 (Ne.symm (zneA gm_1 gma_1))
  have fh2_5 : h2 A.na = some (true, .inl (.int, 20, (mA N))) := zsn eh2 gna_1 (Ne.symm (zneA gm_1 gna_1))
  have fh2_6 : h2 A.ua = some (true, .inl (.int, 1200, (mA U))) := zsn eh2 gua_1 (Ne.symm (zneA gm_1 gua_1))
  have fh2_7 : h2 A.la = some (true, .inl (.int, 1200, (mA W))) := zsn eh2 gla_1 (Ne.symm (zneA gm_1 gla_1))
  refine z_aload_n (pc := 5) (j := 0) C dX4_removeChord_5 rfl rfl ?_
  refine z_iload_n (pc := 6) (j := 1) C dX4_removeChord_6 rfl rfl ?_
  refine z_callV (pc := 7) (n := 1) (kc' := 0) (ks' := 0) C (m_isChord C.t ⟨fh2_0, fh2_1, fh2_2, fh2_3, fh2_4, fh2_5, fh2_6, fh2_7, (kh2.n gle_1 (List.not_mem_cons_of_ne_of_not_mem (Ne.symm (zneA gm_1 gle_1)) (List.not_mem_cons_of_ne_of_not_mem (zneT gle_1 gv_1 (by simp)) (List.not_mem_cons_of_ne_of_not_mem (zneT gle_1 gpa_1 (by simp)) (List.not_mem_cons_of_ne_of_not_mem (zneT gle_1 gtx_1 (by simp)) (List.not_mem_cons_of_ne_of_not_mem (zneT gle_1 gma_1 (by simp)) (List.not_mem_cons_of_ne_of_not_mem (zneT gle_1 gna_1 (by simp)) (List.not_mem_cons_of_ne_of_not_mem (zneT gle_1 gua_1 (by simp)) (List.not_mem_cons_of_ne_of_not_mem (zneT gle_1 gla_1 (by simp)) List.not_mem_nil))))))))), (kh2.n gqa_1 (List.not_mem_cons_of_ne_of_not_mem (Ne.symm (zneA gm_1 gqa_1)) (List.not_mem_cons_of_ne_of_not_mem (zneT gqa_1 gv_1 (by simp)) (List.not_mem_cons_of_ne_of_not_mem (zneT gqa_1 gpa_1 (by simp)) (List.not_mem_cons_of_ne_of_not_mem (zneT gqa_1 gtx_1 (by simp)) (List.not_mem_cons_of_ne_of_not_mem (zneT gqa_1 gma_1 (by simp)) (List.not_mem_cons_of_ne_of_not_mem (zneT gqa_1 gna_1 (by simp)) (List.not_mem_cons_of_ne_of_not_mem (zneT gqa_1 gua_1 (by simp)) (List.not_mem_cons_of_ne_of_not_mem (zneT gqa_1 gla_1 (by simp)) List.not_mem_nil))))))))), gd_1⟩ hS hsl (i := i) (by omega)) (lw_V q2278 q2280 qs41 q74 q2281) (by decide +kernel) ⟨by decide, by decide⟩ fh2_0 rfl rfl rfl (Nat.le_of_ble_eq_true rfl) dX4_removeChord_7 (by omega) (by omega) (zpk (st' := [.int (iI (if 0 ≤ i ∧ i ≤ ((σ.sh.cs.length : Nat) : Int) - 1 then 1 else 0))]) rfl ?_) zrx
  rw [show ((if 0 ≤ i ∧ i ≤ ((σ.sh.cs.length : Nat) : Int) - 1 then 1 else 0) : Int) = 1 from if_pos (by omega)]
  show Z X h2 0 0 [(0, .ref A.m), (1, .int (iI i))] 10 [.int (iI 1)]
  refine z_if_ne (pc := 10) (tgt := 19) C dX4_removeChord_10 (by decide) (by decide) (fun _ => ?_) (fun z => absurd z (by decide))
  refine z_aload_n (pc := 19) (j := 0) C dX4_removeChord_19 rfl rfl ?_
  refine z_callV (pc := 20) (n := 0) (kc' := 0) (ks' := 0) C (m_acts C.t ⟨fh2_0, fh2_1, fh2_2, fh2_3, fh2_4, fh2_5, fh2_6, fh2_7, (kh2.n gle_1 (List.not_mem_cons_of_ne_of_not_mem (Ne.symm (zneA gm_1 gle_1)) (List.not_mem_cons_of_ne_of_not_mem (zneT gle_1 gv_1 (by simp)) (List.not_mem_cons_of_ne_of_not_mem (zneT gle_1 gpa_1 (by simp)) (List.not_mem_cons_of_ne_of_not_mem (zneT gle_1 gtx_1 (by simp)) (List.not_mem_cons_of_ne_of_not_mem (zneT gle_1 gma_1 (by simp)) (List.not_mem_cons_of_ne_of_not_mem (zneT gle_1 gna_1 (by simp)) (List.not_mem_cons_of_ne_of_not_mem (zneT gle_1 gua_1 (by simp)) (List.not_mem_cons_of_ne_of_not_mem (zneT gle_1 gla_1 (by simp)) List.not_mem_nil))))))))), (kh2.n gqa_1 (List.not_mem_cons_of_ne_of_not_mem (Ne.symm (zneA gm_1 gqa_1)) (List.not_mem_cons_of_ne_of_not_mem (zneT gqa_1 gv_1 (by simp)) (List.not_mem_cons_of_ne_of_not_mem (zneT gqa_1 gpa_1 (by simp)) (List.not_mem_cons_of_ne_of_not_mem (zneT gqa_1 gtx_1 (by simp)) (List.not_mem_cons_of_ne_of_not_mem (zneT gqa_1 gma_1 (by simp)) (List.not_mem_cons_of_ne_of_not_mem (zneT gqa_1 gna_1 (by simp)) (List.not_mem_cons_of_ne_of_not_mem (zneT gqa_1 gua_1 (by simp)) (List.not_mem_cons_of_ne_of_not_mem (zneT gqa_1 gla_1 (by simp)) List.not_mem_nil))))))))), gd_1⟩ hS hsl hP hslh (by omega)) (lw_V q2206 q2208 qs34 q74 q2209) (by decide +kernel) ⟨by decide, by decide⟩ fh2_0 rfl rfl rfl (Nat.le_of_ble_eq_true rfl) dX4_removeChord_20 (by omega) (by omega) (zrk fun w h3 hp => ?_) zrx
  obtain ⟨P_5, rfl, hM_5, hPn_5, k4⟩ := hp
  have kh3 : zkeep h h3 [A.m, A.v, A.pa, A.tx, A.ma, A.na, A.ua, A.la] := zkeep.loc kh2 k4 (fun q hq => Or.inl (Or.inr hq))
  have hM_5 : mM h3 A (((hiP σ.hi σ.sh).length : Nat) : Int) ((σ.tx.length : Nat) : Int) σ.si σ.fl σ.wd 0 ap nt rr rq rb wh nd up lo V P_5 T M N U W := hM_5
  obtain ⟨gm_6, gv_6, gpa_6, gtx_6, gma_6, gna_6, gua_6, gla_6, gle_6, gqa_6, gd_6⟩ := id hM_5
  have hhl8 : (hiP σ.hi σ.sh).length ≤ 8 := hiP_l rhl
  have hslh2 : ∀ S ∈ hiP σ.hi σ.sh, shL S := hiP_m hslh hsl
  have rhi2 : ∀ S ∈ hiP σ.hi σ.sh, shR S := hiP_m rhi rsh
  show Z X h3 0 0 [(0, .ref A.m), (1, .int (iI i))] 23 []
  refine z_aload_n (pc := 23) (j := 0) C dX4_removeChord_23 rfl rfl ?_
  refine z_iload_n (pc := 24) (j := 1) C dX4_removeChord_24 rfl rfl ?_
  refine z_callV (pc := 25) (n := 1) (kc' := 0) (ks' := 0) C (m_closes C.t ⟨gm_6, gv_6, gpa_6, gtx_6, gma_6, gna_6, gua_6, gla_6, gle_6, gqa_6, gd_6⟩ (n := σ.sh.cs.length) hS.2.1 (i := i) (by omega) (by omega)) (lw_V q2342 q2344 qs49 q74 q2345) (by decide +kernel) ⟨by decide, by decide⟩ gm_6 rfl rfl rfl (Nat.le_of_ble_eq_true rfl) dX4_removeChord_25 (by omega) (by omega) (zrk fun w h7 hp => ?_) zrx
  obtain ⟨V_9, rfl, hM_9, hV_9, k8⟩ := hp
  have kh7 : zkeep h h7 [A.m, A.v, A.pa, A.tx, A.ma, A.na, A.ua, A.la] := zkeep.loc kh3 k8 (fun q hq => Or.inl (Or.inr hq))
  have hM_9 : mM h7 A (((hiP σ.hi σ.sh).length : Nat) : Int) ((σ.tx.length : Nat) : Int) σ.si σ.fl σ.wd 0 ap nt rr rq rb wh nd up lo V_9 P_5 T M N U W := hM_9
  obtain ⟨gm_10, gv_10, gpa_10, gtx_10, gma_10, gna_10, gua_10, gla_10, gle_10, gqa_10, gd_10⟩ := id hM_9
  have hSc : vS V_9 (σ.sh.ls, σ.sh.cs.eraseIdx (i).toNat, σ.sh.t, σ.sh.m) := vS.rm hS ⟨hsl2, by first | exact hsl3 | omega⟩ (by omega) hV_9
  have hcl9 : (σ.sh.cs.eraseIdx (i).toNat).length = σ.sh.cs.length - 1 := by rw [List.length_eraseIdx, if_pos (by omega)]
  show Z X h7 0 0 [(0, .ref A.m), (1, .int (iI i))] 28 []
  refine z_aload_n (pc := 28) (j := 0) C dX4_removeChord_28 rfl rfl ?_
  refine z_getfield (pc := 29) (v := .ref A.v) C in_X4 rfl 0 (by decide) q2082 (fun _ z => z) gm_10 rfl dX4_removeChord_29 ?_
  refine z_iconst (pc := 32) C dX4_removeChord_32 ?_
  refine z_iaload (pc := 33) (v := .int (iI (((σ.sh.cs.length : Nat) : Int) - 1))) C gv_10 (by omega) (mA_e (vE (show _ = ((σ.sh.cs.length : Nat) : Int) - 1 from by rw [hSc.2.1]; show ((((σ.sh.cs.eraseIdx i.toNat)).length : Nat) : Int) = _; omega) (by omega))) dX4_removeChord_33 ?_
  exact z_ireturn (pc := 34) C (by rw [hXp]; exact ⟨_, rfl, rfl, ⟨ap, nt, rr, rq, rb, wh, nd, up, lo, V_9, P_5, T, M, N, U, W, ⟨gm_10, gv_10, gpa_10, gtx_10, gma_10, gna_10, gua_10, gla_10, gle_10, gqa_10, gd_10⟩, hSc, hPn_5, htq, ⟨rsi, rff, rwd, rtl, rtx, ⟨Nat.le_trans (List.length_eraseIdx_le _ _) rcl, fun c hc => rcr c (List.mem_of_mem_eraseIdx hc), rll, rlt, rkt, rkm, rks⟩, rhi2, hhl8⟩, ⟨hsl1, hsl2, Nat.le_trans (List.length_eraseIdx_le _ _) hsl3⟩, hslh2⟩, kh7⟩) dX4_removeChord_34
set_option maxHeartbeats 4000000 in
theorem md_removeChord_b {l : Launch} (hl : l.stackTraces = false) {Γ : zCx} {h : zH} {A : zMA} {σ : zSt} {th : Int} (hW : mdW h A σ th) {i : Int} (hi : -2147483648 ≤ i ∧ i ≤ 2147483647) (hb : ¬ (0 ≤ i ∧ i < (σ.sh.cs.length : Nat)))  : zMet l yX4_removeChord (ws_ yX4_removeChord cX4_removeChord 2 (some .int)) ({ frames := 2, cells := 0, slots := 0, locals := 43 }) Γ h [.ref A.m, .int (iI i)] (zrt (fun w h' => w = some (.int (iI (0))) ∧ mdW h' A σ 1 ∧ zkeep h h' [A.m, A.v, A.pa, A.tx, A.ma, A.na, A.ua, A.la])) 0 0 := by
  refine zMet.of (cc := cX4_removeChord) hl (plainFor_of_name (by decide +kernel)) (Nat.le_of_ble_eq_true rfl) ?_
  intro X hXl hXΓ hXp C hnm hnL
  have C : zC X cX4_removeChord RX4 (some .int) 2 43 [] := C
  have hnL : X.2.1.2.2.2.2 = 2 := hnL
  subst hXl hXΓ
  show Z X h 0 0 [(0, .ref A.m), (1, .int (iI i))] 0 []
  obtain ⟨ap, nt, rr, rq, rb, wh, nd, up, lo, V, P, T, M, N, U, W, hM, hS, hP, htq, hR, hsl, hslh⟩ := id hW
  obtain ⟨rsi, rff, rwd, rtl, rtx, rsh, rhi, rhl⟩ := id hR
  obtain ⟨rcl, rcr, rll, rlt, rkt, rkm, rks⟩ := id rsh
  obtain ⟨hsl1, hsl2, hsl3⟩ := id hsl
  have hTr := rtx
  have hTl := rtl
  obtain ⟨gm_1, gv_1, gpa_1, gtx_1, gma_1, gna_1, gua_1, gla_1, gle_1, gqa_1, gd_1⟩ := id hM
  refine z_aload_n (pc := 0) (j := 0) C dX4_removeChord_0 rfl rfl ?_
  refine z_iconst (pc := 1) C dX4_removeChord_1 ?_
  refine z_putfield (pc := 2) (fs' := [.ref A.v, .ref A.pa, .int (iI ((σ.hi.length : Nat) : Int)), .ref A.tx, .int (iI ((σ.tx.length : Nat) : Int)), .int (iI σ.si), .int (iI σ.fl), .int (iI σ.wd), .int (iI 0), .ref A.le, .ref A.qa, .int (iI ap), .int (iI nt), .int (iI rr), .int (iI rq), .int (iI rb), .int (iI wh), .ref A.ma, .ref A.na, .int (iI nd), .ref A.ua, .ref A.la, .int (iI up), .int (iI lo)]) C in_X4 tyX4 tyX4_ok nmX4 rfl 8 (by decide) q2090 (fun _ z => z) rfl rfl rfl (Nat.le_of_ble_eq_true rfl) gm_1 rfl dX4_removeChord_2 ?_
  refine Z.nm (fun h2 eh2 => ?_)
  have kh2 : zkeep h h2 [A.m, A.v, A.pa, A.tx, A.ma, A.na, A.ua, A.la] := by rw [eh2]; exact zkeep.up zkeep.rf (Or.inl (by simp)) gm_1
  have fh2_0 : h2 A.m = some (true, .inr (3, [.ref A.v, .ref A.pa, .int (iI ((σ.hi.length : Nat) : Int)), .ref A.tx, .int (iI ((σ.tx.length : Nat) : Int)), .int (iI σ.si), .int (iI σ.fl), .int (iI σ.wd), .int (iI 0), .ref A.le, .ref A.qa, .int (iI ap), .int (iI nt), .int (iI rr), .int (iI rq), .int (iI rb), .int (iI wh), .ref A.ma, .ref A.na, .int (iI nd), .ref A.ua, .ref A.la, .int (iI up), .int (iI lo)])) := zse eh2
  have fh2_1 : h2 A.v = some (true, .inl (.int, 620, (mA V))) := zsn eh2 gv_1 (Ne.symm (zneA gm_1 gv_1))
  have fh2_2 : h2 A.pa = some (true, .inl (.int, 4960, (mA P))) := zsn eh2 gpa_1 (Ne.symm (zneA gm_1 gpa_1))
  have fh2_3 : h2 A.tx = some (true, .inl (.int, 200, (mA T))) := zsn eh2 gtx_1 (Ne.symm (zneA gm_1 gtx_1))
  have fh2_4 : h2 A.ma = some (true, .inl (.int, 620, (mA M))) := zsn eh2 gma_1 (Ne.symm (zneA gm_1 gma_1))
  have fh2_5 : h2 A.na = some (true, .inl (.int, 20, (mA N))) := zsn eh2 gna_1 (Ne.symm (zneA gm_1 gna_1))
  have fh2_6 : h2 A.ua = some (true, .inl (.int, 1200, (mA U))) := zsn eh2 gua_1 (Ne.symm (zneA gm_1 gua_1))
  have fh2_7 : h2 A.la = some (true, .inl (.int, 1200, (mA W))) := zsn eh2 gla_1 (Ne.symm (zneA gm_1 gla_1))
  refine z_aload_n (pc := 5) (j := 0) C dX4_removeChord_5 rfl rfl ?_
  refine z_iload_n (pc := 6) (j := 1) C dX4_removeChord_6 rfl rfl ?_
  refine z_callV (pc := 7) (n := 1) (kc' := 0) (ks' := 0) C (m_isChord C.t ⟨fh2_0, fh2_1, fh2_2, fh2_3, fh2_4, fh2_5, fh2_6, fh2_7, (kh2.n gle_1 (List.not_mem_cons_of_ne_of_not_mem (Ne.symm (zneA gm_1 gle_1)) (List.not_mem_cons_of_ne_of_not_mem (zneT gle_1 gv_1 (by simp)) (List.not_mem_cons_of_ne_of_not_mem (zneT gle_1 gpa_1 (by simp)) (List.not_mem_cons_of_ne_of_not_mem (zneT gle_1 gtx_1 (by simp)) (List.not_mem_cons_of_ne_of_not_mem (zneT gle_1 gma_1 (by simp)) (List.not_mem_cons_of_ne_of_not_mem (zneT gle_1 gna_1 (by simp)) (List.not_mem_cons_of_ne_of_not_mem (zneT gle_1 gua_1 (by simp)) (List.not_mem_cons_of_ne_of_not_mem (zneT gle_1 gla_1 (by simp)) List.not_mem_nil))))))))), (kh2.n gqa_1 (List.not_mem_cons_of_ne_of_not_mem (Ne.symm (zneA gm_1 gqa_1)) (List.not_mem_cons_of_ne_of_not_mem (zneT gqa_1 gv_1 (by simp)) (List.not_mem_cons_of_ne_of_not_mem (zneT gqa_1 gpa_1 (by simp)) (List.not_mem_cons_of_ne_of_not_mem (zneT gqa_1 gtx_1 (by simp)) (List.not_mem_cons_of_ne_of_not_mem (zneT gqa_1 gma_1 (by simp)) (List.not_mem_cons_of_ne_of_not_mem (zneT gqa_1 gna_1 (by simp)) (List.not_mem_cons_of_ne_of_not_mem (zneT gqa_1 gua_1 (by simp)) (List.not_mem_cons_of_ne_of_not_mem (zneT gqa_1 gla_1 (by simp)) List.not_mem_nil))))))))), gd_1⟩ hS hsl (i := i) (by omega)) (lw_V q2278 q2280 qs41 q74 q2281) (by decide +kernel) ⟨by decide, by decide⟩ fh2_0 rfl rfl rfl (Nat.le_of_ble_eq_true rfl) dX4_removeChord_7 (by omega) (by omega) (zpk (st' := [.int (iI (if 0 ≤ i ∧ i ≤ ((σ.sh.cs.length : Nat) : Int) - 1 then 1 else 0))]) rfl ?_) zrx
  rw [show ((if 0 ≤ i ∧ i ≤ ((σ.sh.cs.length : Nat) : Int) - 1 then 1 else 0) : Int) = 0 from if_neg (by omega)]
  show Z X h2 0 0 [(0, .ref A.m), (1, .int (iI i))] 10 [.int (iI 0)]
  refine z_if_ne (pc := 10) (tgt := 19) C dX4_removeChord_10 (by decide) (by decide) (fun z => absurd z (by decide)) (fun _ => ?_)
  refine z_aload_n (pc := 13) (j := 0) C dX4_removeChord_13 rfl rfl ?_
  refine z_iconst (pc := 14) C dX4_removeChord_14 ?_
  refine z_callV (pc := 15) (n := 1) (kc' := 0) (ks' := 0) C (m_fails C.t ⟨fh2_0, fh2_1, fh2_2, fh2_3, fh2_4, fh2_5, fh2_6, fh2_7, (kh2.n gle_1 (List.not_mem_cons_of_ne_of_not_mem (Ne.symm (zneA gm_1 gle_1)) (List.not_mem_cons_of_ne_of_not_mem (zneT gle_1 gv_1 (by simp)) (List.not_mem_cons_of_ne_of_not_mem (zneT gle_1 gpa_1 (by simp)) (List.not_mem_cons_of_ne_of_not_mem (zneT gle_1 gtx_1 (by simp)) (List.not_mem_cons_of_ne_of_not_mem (zneT gle_1 gma_1 (by simp)) (List.not_mem_cons_of_ne_of_not_mem (zneT gle_1 gna_1 (by simp)) (List.not_mem_cons_of_ne_of_not_mem (zneT gle_1 gua_1 (by simp)) (List.not_mem_cons_of_ne_of_not_mem (zneT gle_1 gla_1 (by simp)) List.not_mem_nil))))))))), (kh2.n gqa_1 (List.not_mem_cons_of_ne_of_not_mem (Ne.symm (zneA gm_1 gqa_1)) (List.not_mem_cons_of_ne_of_not_mem (zneT gqa_1 gv_1 (by simp)) (List.not_mem_cons_of_ne_of_not_mem (zneT gqa_1 gpa_1 (by simp)) (List.not_mem_cons_of_ne_of_not_mem (zneT gqa_1 gtx_1 (by simp)) (List.not_mem_cons_of_ne_of_not_mem (zneT gqa_1 gma_1 (by simp)) (List.not_mem_cons_of_ne_of_not_mem (zneT gqa_1 gna_1 (by simp)) (List.not_mem_cons_of_ne_of_not_mem (zneT gqa_1 gua_1 (by simp)) (List.not_mem_cons_of_ne_of_not_mem (zneT gqa_1 gla_1 (by simp)) List.not_mem_nil))))))))), gd_1⟩ (x := 1)) (lw_V q2167 q2169 qs27 q74 q2170) (by decide +kernel) ⟨by decide, by decide⟩ fh2_0 rfl rfl rfl (Nat.le_of_ble_eq_true rfl) dX4_removeChord_15 (by omega) (by omega) (zrk fun w h3 hp => ?_) zrx
  obtain ⟨rfl, hM_5, k4⟩ := hp
  have kh3 : zkeep h h3 [A.m, A.v, A.pa, A.tx, A.ma, A.na, A.ua, A.la] := zkeep.loc kh2 k4 (fun q hq => Or.inl (Or.inr hq))
  have hM_5 : mM h3 A ((σ.hi.length : Nat) : Int) ((σ.tx.length : Nat) : Int) σ.si σ.fl σ.wd 1 ap nt rr rq rb wh nd up lo V P T M N U W := hM_5
  obtain ⟨gm_6, gv_6, gpa_6, gtx_6, gma_6, gna_6, gua_6, gla_6, gle_6, gqa_6, gd_6⟩ := id hM_5
  show Z X h3 0 0 [(0, .ref A.m), (1, .int (iI i))] 18 [.int (iI 0)]
  exact z_ireturn (pc := 18) C (by rw [hXp]; exact ⟨_, rfl, rfl, ⟨ap, nt, rr, rq, rb, wh, nd, up, lo, V, P, T, M, N, U, W, ⟨gm_6, gv_6, gpa_6, gtx_6, gma_6, gna_6, gua_6, gla_6, gle_6, gqa_6, gd_6⟩, hS, hP, htq, hR, hsl, hslh⟩, kh3⟩) dX4_removeChord_18
set_option maxHeartbeats 4000000 in
theorem md_addChord {l : Launch} (hl : l.stackTraces = false) {Γ : zCx} {h : zH} {A : zMA} {σ : zSt} {th : Int} (hW : mdW h A σ th) {i : Int} {t : List Int} (hi : 0 ≤ i) (ht : σ.sh.ls[i.toNat]? = some t) {k : Int} (hk : 0 ≤ k ∧ k ≤ (t.length : Nat)) (h40 : σ.sh.cs.length < 40) (hso : csrt σ.sh.cs)  : zMet l yX4_addChord (ws_ yX4_addChord cX4_addChord 4 (some .int)) ({ frames := 4, cells := 0, slots := 0, locals := 91 }) Γ h [.ref A.m, .int (iI i), .int (iI k)] (zrt (fun w h' => ((∃ rt q b p', chp σ.tx 0 0 = .inr (rt, q, b, p') ∧ w = some (.int (iI (ipl (i, k, rt, q, b) σ.sh.cs))) ∧ mdW h' A ([], σ.si, σ.fl, σ.wd, (σ.sh.ls, zins (i, k, rt, q, b) σ.sh.cs, σ.sh.t, σ.sh.m), hiP σ.hi σ.sh) 0) ∨ (∃ y, chp σ.tx 0 0 = .inl y ∧ w = some (.int (iI (-1 - y))) ∧ mdW h' A σ 0)) ∧ zkeep h h' [A.m, A.v, A.pa, A.tx, A.ma, A.na, A.ua, A.la])) 0 0 := by
  refine zMet.of (cc := cX4_addChord) hl (plainFor_of_name (by decide +kernel)) (Nat.le_of_ble_eq_true rfl) ?_
  intro X hXl hXΓ hXp C hnm hnL
  have C : zC X cX4_addChord RX4 (some .int) 4 91 [] := C
  have hnL : X.2.1.2.2.2.2 = 4 := hnL
  subst hXl hXΓ
  show Z X h 0 0 [(0, .ref A.m), (1, .int (iI i)), (2, .int (iI k))] 0 []
  obtain ⟨ap, nt, rr, rq, rb, wh, nd, up, lo, V, P, T, M, N, U, W, hM, hS, hP, htq, hR, hsl, hslh⟩ := id hW
  obtain ⟨rsi, rff, rwd, rtl, rtx, rsh, rhi, rhl⟩ := id hR
  obtain ⟨rcl, rcr, rll, rlt, rkt, rkm, rks⟩ := id rsh
  obtain ⟨hsl1, hsl2, hsl3⟩ := id hsl
  have hTr := rtx
  have hTl := rtl
  obtain ⟨gm_1, gv_1, gpa_1, gtx_1, gma_1, gna_1, gua_1, gla_1, gle_1, gqa_1, gd_1⟩ := id hM
  have hit := (List.getElem?_eq_some_iff.mp ht).1
  have htl := rlt _ (List.mem_of_getElem? ht)
  refine z_aload_n (pc := 0) (j := 0) C dX4_addChord_0 rfl rfl ?_
  refine z_iconst (pc := 1) C dX4_addChord_1 ?_
  refine z_putfield (pc := 2) (fs' := [.ref A.v, .ref A.pa, .int (iI ((σ.hi.length : Nat) : Int)), .ref A.tx, .int (iI ((σ.tx.length : Nat) : Int)), .int (iI σ.si), .int (iI σ.fl), .int (iI σ.wd), .int (iI 0), .ref A.le, .ref A.qa, .int (iI ap), .int (iI nt), .int (iI rr), .int (iI rq), .int (iI rb), .int (iI wh), .ref A.ma, .ref A.na, .int (iI nd), .ref A.ua, .ref A.la, .int (iI up), .int (iI lo)]) C in_X4 tyX4 tyX4_ok nmX4 rfl 8 (by decide) q2090 (fun _ z => z) rfl rfl rfl (Nat.le_of_ble_eq_true rfl) gm_1 rfl dX4_addChord_2 ?_
  refine Z.nm (fun h2 eh2 => ?_)
  have kh2 : zkeep h h2 [A.m, A.v, A.pa, A.tx, A.ma, A.na, A.ua, A.la] := by rw [eh2]; exact zkeep.up zkeep.rf (Or.inl (by simp)) gm_1
  have fh2_0 : h2 A.m = some (true, .inr (3, [.ref A.v, .ref A.pa, .int (iI ((σ.hi.length : Nat) : Int)), .ref A.tx, .int (iI ((σ.tx.length : Nat) : Int)), .int (iI σ.si), .int (iI σ.fl), .int (iI σ.wd), .int (iI 0), .ref A.le, .ref A.qa, .int (iI ap), .int (iI nt), .int (iI rr), .int (iI rq), .int (iI rb), .int (iI wh), .ref A.ma, .ref A.na, .int (iI nd), .ref A.ua, .ref A.la, .int (iI up), .int (iI lo)])) := zse eh2
  have fh2_1 : h2 A.v = some (true, .inl (.int, 620, (mA V))) := zsn eh2 gv_1 (Ne.symm (zneA gm_1 gv_1))
  have fh2_2 : h2 A.pa = some (true, .inl (.int, 4960, (mA P))) := zsn eh2 gpa_1 (Ne.symm (zneA gm_1 gpa_1))
  have fh2_3 : h2 A.tx = some (true, .inl (.int, 200, (mA T))) := zsn eh2 gtx_1 (Ne.symm (zneA gm_1 gtx_1))
  have fh2_4 : h2 A.ma = some (true, .inl (.int, 620, (mA M))) := zsn eh2 gma_1 (Ne.symm (zneA gm_1 gma_1))
  have fh2_5 : h2 A.na = some (true, .inl (.int, 20, (mA N))) := zsn eh2 gna_1 (Ne.symm (zneA gm_1 gna_1))
  have fh2_6 : h2 A.ua = some (true, .inl (.int, 1200, (mA U))) := zsn eh2 gua_1 (Ne.symm (zneA gm_1 gua_1))
  have fh2_7 : h2 A.la = some (true, .inl (.int, 1200, (mA W))) := zsn eh2 gla_1 (Ne.symm (zneA gm_1 gla_1))
  refine z_aload_n (pc := 5) (j := 0) C dX4_addChord_5 rfl rfl ?_
  refine z_iload_n (pc := 6) (j := 1) C dX4_addChord_6 rfl rfl ?_
  refine z_callV (pc := 7) (n := 1) (kc' := 0) (ks' := 0) C (m_isLine C.t ⟨fh2_0, fh2_1, fh2_2, fh2_3, fh2_4, fh2_5, fh2_6, fh2_7, (kh2.n gle_1 (List.not_mem_cons_of_ne_of_not_mem (Ne.symm (zneA gm_1 gle_1)) (List.not_mem_cons_of_ne_of_not_mem (zneT gle_1 gv_1 (by simp)) (List.not_mem_cons_of_ne_of_not_mem (zneT gle_1 gpa_1 (by simp)) (List.not_mem_cons_of_ne_of_not_mem (zneT gle_1 gtx_1 (by simp)) (List.not_mem_cons_of_ne_of_not_mem (zneT gle_1 gma_1 (by simp)) (List.not_mem_cons_of_ne_of_not_mem (zneT gle_1 gna_1 (by simp)) (List.not_mem_cons_of_ne_of_not_mem (zneT gle_1 gua_1 (by simp)) (List.not_mem_cons_of_ne_of_not_mem (zneT gle_1 gla_1 (by simp)) List.not_mem_nil))))))))), (kh2.n gqa_1 (List.not_mem_cons_of_ne_of_not_mem (Ne.symm (zneA gm_1 gqa_1)) (List.not_mem_cons_of_ne_of_not_mem (zneT gqa_1 gv_1 (by simp)) (List.not_mem_cons_of_ne_of_not_mem (zneT gqa_1 gpa_1 (by simp)) (List.not_mem_cons_of_ne_of_not_mem (zneT gqa_1 gtx_1 (by simp)) (List.not_mem_cons_of_ne_of_not_mem (zneT gqa_1 gma_1 (by simp)) (List.not_mem_cons_of_ne_of_not_mem (zneT gqa_1 gna_1 (by simp)) (List.not_mem_cons_of_ne_of_not_mem (zneT gqa_1 gua_1 (by simp)) (List.not_mem_cons_of_ne_of_not_mem (zneT gqa_1 gla_1 (by simp)) List.not_mem_nil))))))))), gd_1⟩ hS hsl (i := i) (by omega)) (lw_V q2250 q2252 qs37 q74 q2253) (by decide +kernel) ⟨by decide, by decide⟩ fh2_0 rfl rfl rfl (Nat.le_of_ble_eq_true rfl) dX4_addChord_7 (by omega) (by omega) (zpk (st' := [.int (iI (if 0 ≤ i ∧ i ≤ ((σ.sh.ls.length : Nat) : Int) - 1 then 1 else 0))]) rfl ?_) zrx
  rw [show ((if 0 ≤ i ∧ i ≤ ((σ.sh.ls.length : Nat) : Int) - 1 then 1 else 0) : Int) = 1 from if_pos (by omega)]
  show Z X h2 0 0 [(0, .ref A.m), (1, .int (iI i)), (2, .int (iI k))] 10 [.int (iI 1)]
  refine z_if_eq (pc := 10) (tgt := 26) C dX4_addChord_10 (by decide) (by decide) (fun z => absurd z (by decide)) (fun _ => ?_)
  refine z_iload_n (pc := 13) (j := 2) C dX4_addChord_13 rfl rfl ?_
  refine z_iconst (pc := 14) C dX4_addChord_14 ?_
  refine z_aload_n (pc := 15) (j := 0) C dX4_addChord_15 rfl rfl ?_
  refine z_iload_n (pc := 16) (j := 1) C dX4_addChord_16 rfl rfl ?_
  refine z_callV (pc := 17) (n := 1) (kc' := 0) (ks' := 0) C (m_len C.t ⟨fh2_0, fh2_1, fh2_2, fh2_3, fh2_4, fh2_5, fh2_6, fh2_7, (kh2.n gle_1 (List.not_mem_cons_of_ne_of_not_mem (Ne.symm (zneA gm_1 gle_1)) (List.not_mem_cons_of_ne_of_not_mem (zneT gle_1 gv_1 (by simp)) (List.not_mem_cons_of_ne_of_not_mem (zneT gle_1 gpa_1 (by simp)) (List.not_mem_cons_of_ne_of_not_mem (zneT gle_1 gtx_1 (by simp)) (List.not_mem_cons_of_ne_of_not_mem (zneT gle_1 gma_1 (by simp)) (List.not_mem_cons_of_ne_of_not_mem (zneT gle_1 gna_1 (by simp)) (List.not_mem_cons_of_ne_of_not_mem (zneT gle_1 gua_1 (by simp)) (List.not_mem_cons_of_ne_of_not_mem (zneT gle_1 gla_1 (by simp)) List.not_mem_nil))))))))), (kh2.n gqa_1 (List.not_mem_cons_of_ne_of_not_mem (Ne.symm (zneA gm_1 gqa_1)) (List.not_mem_cons_of_ne_of_not_mem (zneT gqa_1 gv_1 (by simp)) (List.not_mem_cons_of_ne_of_not_mem (zneT gqa_1 gpa_1 (by simp)) (List.not_mem_cons_of_ne_of_not_mem (zneT gqa_1 gtx_1 (by simp)) (List.not_mem_cons_of_ne_of_not_mem (zneT gqa_1 gma_1 (by simp)) (List.not_mem_cons_of_ne_of_not_mem (zneT gqa_1 gna_1 (by simp)) (List.not_mem_cons_of_ne_of_not_mem (zneT gqa_1 gua_1 (by simp)) (List.not_mem_cons_of_ne_of_not_mem (zneT gqa_1 gla_1 (by simp)) List.not_mem_nil))))))))), gd_1⟩ hS hsl (i := i) (by omega) ht) (lw_V q2254 q2256 qs38 q74 q2257) (by decide +kernel) ⟨by decide, by decide⟩ fh2_0 rfl rfl rfl (Nat.le_of_ble_eq_true rfl) dX4_addChord_17 (by omega) (by omega) (zpk (st' := [.int (iI ((t.length : Nat) : Int)), .int (iI 0), .int (iI k)]) rfl ?_) zrx
  refine z_callS (pc := 20) (n := 3) (kc' := 0) (ks' := 0) C (m_in C.t (x := k) (a := 0) (b := ((t.length : Nat) : Int)) (by omega) (by decide) (by omega)) (lw_S q2164 q2165 q74 q2166) (by decide +kernel) ⟨by decide, by decide⟩ rfl rfl (Nat.le_of_ble_eq_true rfl) dX4_addChord_20 (by omega) (by omega) (zpk (st' := [.int (iI (if 0 ≤ k ∧ k ≤ ((t.length : Nat) : Int) then 1 else 0))]) rfl ?_) zrx
  rw [show ((if 0 ≤ k ∧ k ≤ ((t.length : Nat) : Int) then 1 else 0) : Int) = 1 from if_pos (by omega)]
  show Z X h2 0 0 [(0, .ref A.m), (1, .int (iI i)), (2, .int (iI k))] 23 [.int (iI 1)]
  refine z_if_ne (pc := 23) (tgt := 32) C dX4_addChord_23 (by decide) (by decide) (fun _ => ?_) (fun z => absurd z (by decide))
  refine z_aload_n (pc := 32) (j := 0) C dX4_addChord_32 rfl rfl ?_
  refine z_getfield (pc := 33) (v := .ref A.v) C in_X4 rfl 0 (by decide) q2082 (fun _ z => z) fh2_0 rfl dX4_addChord_33 ?_
  refine z_iconst (pc := 36) C dX4_addChord_36 ?_
  refine z_iaload (pc := 37) (v := .int (iI ((σ.sh.cs.length : Nat) : Int))) C fh2_1 (by omega) (mA_e (vE hS.2.1 (by omega))) dX4_addChord_37 ?_
  refine z_bipush (pc := 38) C dX4_addChord_38 (by decide) ?_
  refine z_icmp_ne (pc := 40) (tgt := 49) C dX4_addChord_40 (by decide) (by omega) (by decide) (fun c40 => ?_) (fun c40 => by exfalso; omega)
  refine z_aload_n (pc := 49) (j := 0) C dX4_addChord_49 rfl rfl ?_
  refine z_callV (pc := 50) (n := 0) (kc' := 0) (ks' := 0) C (m_isText C.t ⟨fh2_0, fh2_1, fh2_2, fh2_3, fh2_4, fh2_5, fh2_6, fh2_7, (kh2.n gle_1 (List.not_mem_cons_of_ne_of_not_mem (Ne.symm (zneA gm_1 gle_1)) (List.not_mem_cons_of_ne_of_not_mem (zneT gle_1 gv_1 (by simp)) (List.not_mem_cons_of_ne_of_not_mem (zneT gle_1 gpa_1 (by simp)) (List.not_mem_cons_of_ne_of_not_mem (zneT gle_1 gtx_1 (by simp)) (List.not_mem_cons_of_ne_of_not_mem (zneT gle_1 gma_1 (by simp)) (List.not_mem_cons_of_ne_of_not_mem (zneT gle_1 gna_1 (by simp)) (List.not_mem_cons_of_ne_of_not_mem (zneT gle_1 gua_1 (by simp)) (List.not_mem_cons_of_ne_of_not_mem (zneT gle_1 gla_1 (by simp)) List.not_mem_nil))))))))), (kh2.n gqa_1 (List.not_mem_cons_of_ne_of_not_mem (Ne.symm (zneA gm_1 gqa_1)) (List.not_mem_cons_of_ne_of_not_mem (zneT gqa_1 gv_1 (by simp)) (List.not_mem_cons_of_ne_of_not_mem (zneT gqa_1 gpa_1 (by simp)) (List.not_mem_cons_of_ne_of_not_mem (zneT gqa_1 gtx_1 (by simp)) (List.not_mem_cons_of_ne_of_not_mem (zneT gqa_1 gma_1 (by simp)) (List.not_mem_cons_of_ne_of_not_mem (zneT gqa_1 gna_1 (by simp)) (List.not_mem_cons_of_ne_of_not_mem (zneT gqa_1 gua_1 (by simp)) (List.not_mem_cons_of_ne_of_not_mem (zneT gqa_1 gla_1 (by simp)) List.not_mem_nil))))))))), gd_1⟩ htq hTr hTl) (lw_V q2318 q2320 qs45 q74 q2321) (by decide +kernel) ⟨by decide, by decide⟩ fh2_0 rfl rfl rfl (Nat.le_of_ble_eq_true rfl) dX4_addChord_50 (by omega) (by omega) (zrk fun w h3 hp => ?_) zrx
  obtain ⟨hq_5, k4⟩ := hp
  have kh3 : zkeep h h3 [A.m, A.v, A.pa, A.tx, A.ma, A.na, A.ua, A.la] := zkeep.loc kh2 k4 (fun q hq => Or.inl (Or.inr hq))
  rcases hq_5 with ⟨rt_5, q_5, b_5, pz_5, ntz_5, whz_5, hc_5, rfl, hM_5⟩ | ⟨x_5, ntz_5, rrz_5, rqz_5, rbz_5, whz_5, hc_5, rfl, hM_5⟩
  · have hM_5 : mM h3 A ((σ.hi.length : Nat) : Int) ((σ.tx.length : Nat) : Int) σ.si σ.fl σ.wd 0 (pz_5 - 1) ntz_5 rt_5 q_5 b_5 whz_5 nd up lo V P T M N U W := hM_5
    obtain ⟨gm_6, gv_6, gpa_6, gtx_6, gma_6, gna_6, gua_6, gla_6, gle_6, gqa_6, gd_6⟩ := id hM_5
    show Z X h3 0 0 [(0, .ref A.m), (1, .int (iI i)), (2, .int (iI k))] 53 [.int (iI 1)]
    have hcr_5 := chp_r (by decide) hc_5
    refine z_if_ne (pc := 53) (tgt := 63) C dX4_addChord_53 (by decide) (by decide) (fun _ => ?_) (fun z => absurd z (by decide))
    refine z_aload_n (pc := 63) (j := 0) C dX4_addChord_63 rfl rfl ?_
    refine z_callV (pc := 64) (n := 0) (kc' := 0) (ks' := 0) C (m_acts C.t ⟨gm_6, gv_6, gpa_6, gtx_6, gma_6, gna_6, gua_6, gla_6, gle_6, gqa_6, gd_6⟩ hS hsl hP hslh (by omega)) (lw_V q2206 q2208 qs34 q74 q2209) (by decide +kernel) ⟨by decide, by decide⟩ gm_6 rfl rfl rfl (Nat.le_of_ble_eq_true rfl) dX4_addChord_64 (by omega) (by omega) (zrk fun w h7 hp => ?_) zrx
    obtain ⟨P_9, rfl, hM_9, hPn_9, k8⟩ := hp
    have kh7 : zkeep h h7 [A.m, A.v, A.pa, A.tx, A.ma, A.na, A.ua, A.la] := zkeep.loc kh3 k8 (fun q hq => Or.inl (Or.inr hq))
    have hM_9 : mM h7 A (((hiP σ.hi σ.sh).length : Nat) : Int) ((σ.tx.length : Nat) : Int) σ.si σ.fl σ.wd 0 (pz_5 - 1) ntz_5 rt_5 q_5 b_5 whz_5 nd up lo V P_9 T M N U W := hM_9
    obtain ⟨gm_10, gv_10, gpa_10, gtx_10, gma_10, gna_10, gua_10, gla_10, gle_10, gqa_10, gd_10⟩ := id hM_9
    have hhl8 : (hiP σ.hi σ.sh).length ≤ 8 := hiP_l rhl
    have hslh2 : ∀ S ∈ hiP σ.hi σ.sh, shL S := hiP_m hslh hsl
    have rhi2 : ∀ S ∈ hiP σ.hi σ.sh, shR S := hiP_m rhi rsh
    show Z X h7 0 0 [(0, .ref A.m), (1, .int (iI i)), (2, .int (iI k))] 67 []
    refine z_aload_n (pc := 67) (j := 0) C dX4_addChord_67 rfl rfl ?_
    refine z_iload_n (pc := 68) (j := 1) C dX4_addChord_68 rfl rfl ?_
    refine z_iload_n (pc := 69) (j := 2) C dX4_addChord_69 rfl rfl ?_
    refine z_callV (pc := 70) (n := 2) (kc' := 0) (ks' := 0) C (m_comes C.t ⟨gm_10, gv_10, gpa_10, gtx_10, gma_10, gna_10, gua_10, gla_10, gle_10, gqa_10, gd_10⟩  hS hsl rsh (ln := i) (co := k) (by omega) (by omega)) (lw_V q2330 q2332 qs47 q74 q2333) (by decide +kernel) ⟨by decide, by decide⟩ gm_10 rfl rfl rfl (Nat.le_of_ble_eq_true rfl) dX4_addChord_70 (by omega) (by omega) (zpk (st' := [.int (iI (cmt i k σ.sh.cs))]) rfl ?_) zrx
    have hcm73 := cmt_r i k σ.sh.cs
    refine z_istore_n (pc := 73) (L' := [(3, .int (iI (cmt i k σ.sh.cs))), (0, .ref A.m), (1, .int (iI i)), (2, .int (iI k))]) C dX4_addChord_73 rfl (by rw [hnL]; decide) rfl ?_
    refine z_aload_n (pc := 74) (j := 1) C dX4_addChord_74 rfl rfl ?_
    refine z_iload_n (pc := 75) (j := 0) C dX4_addChord_75 rfl rfl ?_
    refine z_callV (pc := 76) (n := 1) (kc' := 0) (ks' := 0) C (m_opens C.t ⟨gm_10, gv_10, gpa_10, gtx_10, gma_10, gna_10, gua_10, gla_10, gle_10, gqa_10, gd_10⟩ (n := σ.sh.cs.length) hS.2.1 (i := cmt i k σ.sh.cs) (by omega) (by omega)) (lw_V q2334 q2336 qs48 q74 q2337) (by decide +kernel) ⟨by decide, by decide⟩ gm_10 rfl rfl rfl (Nat.le_of_ble_eq_true rfl) dX4_addChord_76 (by omega) (by omega) (zrk fun w h11 hp => ?_) zrx
    obtain ⟨V_13, rfl, hM_13, hV_13, k12⟩ := hp
    have kh11 : zkeep h h11 [A.m, A.v, A.pa, A.tx, A.ma, A.na, A.ua, A.la] := zkeep.loc kh7 k12 (fun q hq => Or.inl (Or.inr hq))
    have hM_13 : mM h11 A (((hiP σ.hi σ.sh).length : Nat) : Int) ((σ.tx.length : Nat) : Int) σ.si σ.fl σ.wd 0 (pz_5 - 1) ntz_5 rt_5 q_5 b_5 whz_5 nd up lo V_13 P_9 T M N U W := hM_13
    obtain ⟨gm_14, gv_14, gpa_14, gtx_14, gma_14, gna_14, gua_14, gla_14, gle_14, gqa_14, gd_14⟩ := id hM_13
    show Z X h11 0 0 [(3, .int (iI (cmt i k σ.sh.cs))), (0, .ref A.m), (1, .int (iI i)), (2, .int (iI k))] 79 []
    refine z_aload_n (pc := 79) (j := 1) C dX4_addChord_79 rfl rfl ?_
    refine z_getfield (pc := 80) (v := .ref A.v) C in_X4 rfl 0 (by decide) q2082 (fun _ z => z) gm_14 rfl dX4_addChord_80 ?_
    refine z_iload_n (pc := 83) (j := 0) C dX4_addChord_83 rfl rfl ?_
    refine z_callS (pc := 84) (n := 1) (kc' := 0) (ks' := 0) C (m_chord C.t (x := cmt i k σ.sh.cs)) (lw_S q2203 q2204 q74 q2205) (by decide +kernel) ⟨by decide, by decide⟩ rfl rfl (Nat.le_of_ble_eq_true rfl) dX4_addChord_84 (by omega) (by omega) (zpk (st' := [.int (iI (210 + 5 * (cmt i k σ.sh.cs))), .ref A.v]) rfl ?_) zrx
    refine z_iconst (pc := 87) C dX4_addChord_87 ?_
    refine z_iadd (pc := 88) C dX4_addChord_88 ?_
    refine z_iload_n (pc := 89) (j := 2) C dX4_addChord_89 rfl rfl ?_
    refine z_iastore (pc := 90) (f' := (mA (updI V_13 (Int.toNat ((210 + 5 * (cmt i k σ.sh.cs)) + 0)) i))) C gv_14 (by omega) (mA_up _ _ _) dX4_addChord_90 ?_
    refine Z.nm (fun h15 eh15 => ?_)
    have kh15 : zkeep h h15 [A.m, A.v, A.pa, A.tx, A.ma, A.na, A.ua, A.la] := by rw [eh15]; exact zkeep.up kh11 (Or.inl (by simp)) gv_14
    have fh15_0 : h15 A.v = some (true, .inl (.int, 620, (mA (updI V_13 (Int.toNat ((210 + 5 * (cmt i k σ.sh.cs)) + 0)) i)))) := zse eh15
    have fh15_1 : h15 A.m = some (true, .inr (3, [.ref A.v, .ref A.pa, .int (iI (((hiP σ.hi σ.sh).length : Nat) : Int)), .ref A.tx, .int (iI ((σ.tx.length : Nat) : Int)), .int (iI σ.si), .int (iI σ.fl), .int (iI σ.wd), .int (iI 0), .ref A.le, .ref A.qa, .int (iI (pz_5 - 1)), .int (iI ntz_5), .int (iI rt_5), .int (iI q_5), .int (iI b_5), .int (iI whz_5), .ref A.ma, .ref A.na, .int (iI nd), .ref A.ua, .ref A.la, .int (iI up), .int (iI lo)])) := zsn eh15 gm_14 (zneA gm_14 gv_14)
    have fh15_2 : h15 A.pa = some (true, .inl (.int, 4960, (mA P_9))) := zsn eh15 gpa_14 (Ne.symm gd_14.1)
    have fh15_3 : h15 A.tx = some (true, .inl (.int, 200, (mA T))) := zsn eh15 gtx_14 (Ne.symm gd_14.2.1)
    have fh15_4 : h15 A.ma = some (true, .inl (.int, 620, (mA M))) := zsn eh15 gma_14 (Ne.symm gd_14.2.2.1)
    have fh15_5 : h15 A.na = some (true, .inl (.int, 20, (mA N))) := zsn eh15 gna_14 (Ne.symm gd_14.2.2.2.1)
    have fh15_6 : h15 A.ua = some (true, .inl (.int, 1200, (mA U))) := zsn eh15 gua_14 (Ne.symm gd_14.2.2.2.2.1)
    have fh15_7 : h15 A.la = some (true, .inl (.int, 1200, (mA W))) := zsn eh15 gla_14 (Ne.symm gd_14.2.2.2.2.2.1)
    have fh15_8 : h15 A.le = some (true, .inl (.char, 7, (mA ltF))) := zsn eh15 gle_14 (zneT gle_14 gv_14 (by simp))
    have fh15_9 : h15 A.qa = some (true, .inl (.char, 30, (mA qaF))) := zsn eh15 gqa_14 (zneT gqa_14 gv_14 (by simp))
    refine z_aload_n (pc := 91) (j := 1) C dX4_addChord_91 rfl rfl ?_
    refine z_getfield (pc := 92) (v := .ref A.v) C in_X4 rfl 0 (by decide) q2082 (fun _ z => z) fh15_1 rfl dX4_addChord_92 ?_
    refine z_iload_n (pc := 95) (j := 0) C dX4_addChord_95 rfl rfl ?_
    refine z_callS (pc := 96) (n := 1) (kc' := 0) (ks' := 0) C (m_chord C.t (x := cmt i k σ.sh.cs)) (lw_S q2203 q2204 q74 q2205) (by decide +kernel) ⟨by decide, by decide⟩ rfl rfl (Nat.le_of_ble_eq_true rfl) dX4_addChord_96 (by omega) (by omega) (zpk (st' := [.int (iI (210 + 5 * (cmt i k σ.sh.cs))), .ref A.v]) rfl ?_) zrx
    refine z_iconst (pc := 99) C dX4_addChord_99 ?_
    refine z_iadd (pc := 100) C dX4_addChord_100 ?_
    refine z_iload_n (pc := 101) (j := 3) C dX4_addChord_101 rfl rfl ?_
    refine z_iastore (pc := 102) (f' := (mA (updI (updI V_13 (Int.toNat ((210 + 5 * (cmt i k σ.sh.cs)) + 0)) i) (Int.toNat ((210 + 5 * (cmt i k σ.sh.cs)) + 1)) k))) C fh15_0 (by omega) (mA_up _ _ _) dX4_addChord_102 ?_
    refine Z.nm (fun h16 eh16 => ?_)
    have kh16 : zkeep h h16 [A.m, A.v, A.pa, A.tx, A.ma, A.na, A.ua, A.la] := by rw [eh16]; exact zkeep.up kh15 (Or.inl (by simp)) fh15_0
    have fh16_0 : h16 A.v = some (true, .inl (.int, 620, (mA (updI (updI V_13 (Int.toNat ((210 + 5 * (cmt i k σ.sh.cs)) + 0)) i) (Int.toNat ((210 + 5 * (cmt i k σ.sh.cs)) + 1)) k)))) := zse eh16
    have fh16_1 : h16 A.m = some (true, .inr (3, [.ref A.v, .ref A.pa, .int (iI (((hiP σ.hi σ.sh).length : Nat) : Int)), .ref A.tx, .int (iI ((σ.tx.length : Nat) : Int)), .int (iI σ.si), .int (iI σ.fl), .int (iI σ.wd), .int (iI 0), .ref A.le, .ref A.qa, .int (iI (pz_5 - 1)), .int (iI ntz_5), .int (iI rt_5), .int (iI q_5), .int (iI b_5), .int (iI whz_5), .ref A.ma, .ref A.na, .int (iI nd), .ref A.ua, .ref A.la, .int (iI up), .int (iI lo)])) := zsn eh16 fh15_1 (zneA fh15_1 fh15_0)
    have fh16_2 : h16 A.pa = some (true, .inl (.int, 4960, (mA P_9))) := zsn eh16 fh15_2 (Ne.symm gd_14.1)
    have fh16_3 : h16 A.tx = some (true, .inl (.int, 200, (mA T))) := zsn eh16 fh15_3 (Ne.symm gd_14.2.1)
    have fh16_4 : h16 A.ma = some (true, .inl (.int, 620, (mA M))) := zsn eh16 fh15_4 (Ne.symm gd_14.2.2.1)
    have fh16_5 : h16 A.na = some (true, .inl (.int, 20, (mA N))) := zsn eh16 fh15_5 (Ne.symm gd_14.2.2.2.1)
    have fh16_6 : h16 A.ua = some (true, .inl (.int, 1200, (mA U))) := zsn eh16 fh15_6 (Ne.symm gd_14.2.2.2.2.1)
    have fh16_7 : h16 A.la = some (true, .inl (.int, 1200, (mA W))) := zsn eh16 fh15_7 (Ne.symm gd_14.2.2.2.2.2.1)
    have fh16_8 : h16 A.le = some (true, .inl (.char, 7, (mA ltF))) := zsn eh16 fh15_8 (zneT fh15_8 fh15_0 (by simp))
    have fh16_9 : h16 A.qa = some (true, .inl (.char, 30, (mA qaF))) := zsn eh16 fh15_9 (zneT fh15_9 fh15_0 (by simp))
    refine z_aload_n (pc := 103) (j := 1) C dX4_addChord_103 rfl rfl ?_
    refine z_iload_n (pc := 104) (j := 0) C dX4_addChord_104 rfl rfl ?_
    refine z_callS (pc := 105) (n := 1) (kc' := 0) (ks' := 0) C (m_chord C.t (x := cmt i k σ.sh.cs)) (lw_S q2203 q2204 q74 q2205) (by decide +kernel) ⟨by decide, by decide⟩ rfl rfl (Nat.le_of_ble_eq_true rfl) dX4_addChord_105 (by omega) (by omega) (zpk (st' := [.int (iI (210 + 5 * (cmt i k σ.sh.cs))), .ref A.m]) rfl ?_) zrx
    refine z_callV (pc := 108) (n := 1) (kc' := 0) (ks' := 0) C (m_puts C.t ⟨fh16_1, fh16_0, fh16_2, fh16_3, fh16_4, fh16_5, fh16_6, fh16_7, fh16_8, fh16_9, gd_14⟩ (c := 210 + 5 * (cmt i k σ.sh.cs)) (by omega)) (lw_V q2322 q2324 qs46 q74 q2325) (by decide +kernel) ⟨by decide, by decide⟩ fh16_1 rfl rfl rfl (Nat.le_of_ble_eq_true rfl) dX4_addChord_108 (by omega) (by omega) (zrk fun w h17 hp => ?_) zrx
    obtain ⟨rfl, hM_19, k18⟩ := hp
    have kh17 : zkeep h h17 [A.m, A.v, A.pa, A.tx, A.ma, A.na, A.ua, A.la] := zkeep.loc kh16 k18 (fun q hq => Or.inl (Or.inr hq))
    have hM_19 : mM h17 A (((hiP σ.hi σ.sh).length : Nat) : Int) 0 σ.si σ.fl σ.wd 0 (pz_5 - 1) ntz_5 rt_5 q_5 b_5 whz_5 nd up lo (updI (updI (updI (updI (updI V_13 (Int.toNat ((210 + 5 * (cmt i k σ.sh.cs)) + 0)) i) (Int.toNat ((210 + 5 * (cmt i k σ.sh.cs)) + 1)) k) (Int.toNat ((210 + 5 * (cmt i k σ.sh.cs)) + 2)) rt_5) (Int.toNat ((210 + 5 * (cmt i k σ.sh.cs)) + 3)) q_5) (Int.toNat ((210 + 5 * (cmt i k σ.sh.cs)) + 4)) b_5) P_9 T M N U W := hM_19
    obtain ⟨gm_20, gv_20, gpa_20, gtx_20, gma_20, gna_20, gua_20, gla_20, gle_20, gqa_20, gd_20⟩ := id hM_19
    show Z X h17 0 0 [(3, .int (iI (cmt i k σ.sh.cs))), (0, .ref A.m), (1, .int (iI i)), (2, .int (iI k))] 111 []
    refine z_iload_n (pc := 111) (j := 0) C dX4_addChord_111 rfl rfl ?_
    have hSn : vS (updI (updI (updI (updI (updI V_13 (Int.toNat ((210 + 5 * (cmt i k σ.sh.cs)) + 0)) i) (Int.toNat ((210 + 5 * (cmt i k σ.sh.cs)) + 1)) k) (Int.toNat ((210 + 5 * (cmt i k σ.sh.cs)) + 2)) rt_5) (Int.toNat ((210 + 5 * (cmt i k σ.sh.cs)) + 3)) q_5) (Int.toNat ((210 + 5 * (cmt i k σ.sh.cs)) + 4)) b_5) (σ.sh.ls, σ.sh.cs.take (cmt i k σ.sh.cs).toNat ++ ((i, k, rt_5, q_5, b_5) : zCh) :: σ.sh.cs.drop (cmt i k σ.sh.cs).toNat, σ.sh.t, σ.sh.m) := vS.ins hS ⟨hsl2, by show σ.sh.cs.length < 40; exact h40⟩ (by show (cmt i k σ.sh.cs).toNat ≤ σ.sh.cs.length; omega) (by simp only [updI, if_true] <;> (repeat' split) <;> first | rfl | omega | (rw [hV_13]; (repeat' split) <;> first | rfl | omega)) (fun j h1 h2 => by simp only [updI, if_true] <;> (repeat' split) <;> first | omega | (rw [hV_13]; (repeat' split) <;> first | rfl | omega)) (fun j h1 h2 => by simp only [updI, if_true] <;> (repeat' split) <;> first | omega | (rw [hV_13]; (repeat' split) <;> first | rfl | omega)) ⟨(by simp only [updI, if_true] <;> (repeat' split) <;> first | rfl | omega | (rw [hV_13]; (repeat' split) <;> first | rfl | omega)), (by simp only [updI, if_true] <;> (repeat' split) <;> first | rfl | omega | (rw [hV_13]; (repeat' split) <;> first | rfl | omega)), (by simp only [updI, if_true] <;> (repeat' split) <;> first | rfl | omega | (rw [hV_13]; (repeat' split) <;> first | rfl | omega)), (by simp only [updI, if_true] <;> (repeat' split) <;> first | rfl | omega | (rw [hV_13]; (repeat' split) <;> first | rfl | omega)), (by simp only [updI, if_true] <;> (repeat' split) <;> first | rfl | omega | (rw [hV_13]; (repeat' split) <;> first | rfl | omega))⟩
    have hci := cmt_i (ln := i) (co := k) (a := rt_5) (b := q_5) (d := b_5) hso
    have e9 : σ.sh.cs.take (cmt i k σ.sh.cs).toNat ++ ((i, k, rt_5, q_5, b_5) : zCh) :: σ.sh.cs.drop (cmt i k σ.sh.cs).toNat = zins ((i, k, rt_5, q_5, b_5) : zCh) σ.sh.cs := by rw [hci]; rfl
    have hSz : vS (updI (updI (updI (updI (updI V_13 (Int.toNat ((210 + 5 * (cmt i k σ.sh.cs)) + 0)) i) (Int.toNat ((210 + 5 * (cmt i k σ.sh.cs)) + 1)) k) (Int.toNat ((210 + 5 * (cmt i k σ.sh.cs)) + 2)) rt_5) (Int.toNat ((210 + 5 * (cmt i k σ.sh.cs)) + 3)) q_5) (Int.toNat ((210 + 5 * (cmt i k σ.sh.cs)) + 4)) b_5) (σ.sh.ls, zins ((i, k, rt_5, q_5, b_5) : zCh) σ.sh.cs, σ.sh.t, σ.sh.m) := by
      rw [e9] at hSn
      exact hSn
    have hRn : shR (σ.sh.ls, zins ((i, k, rt_5, q_5, b_5) : zCh) σ.sh.cs, σ.sh.t, σ.sh.m) := ⟨by show (zins ((i, k, rt_5, q_5, b_5) : zCh) σ.sh.cs).length ≤ 40; rw [zins_l]; omega, fun c hc => (zins_m hc).elim (fun e => e ▸ ⟨⟨by show (0 : Int) ≤ i; omega, by show i ≤ 300; omega⟩, ⟨by show (0 : Int) ≤ k; omega, by show k ≤ 300; omega⟩, hcr_5.1, hcr_5.2.1, hcr_5.2.2.1⟩) (rcr c), rll, rlt, rkt, rkm, rks⟩
    exact z_ireturn (pc := 112) C (by rw [hXp]; exact ⟨_, rfl, Or.inl ⟨rt_5, q_5, b_5, pz_5, hc_5, (by rw [hci]), ⟨pz_5 - 1, ntz_5, rt_5, q_5, b_5, whz_5, nd, up, lo, (updI (updI (updI (updI (updI V_13 (Int.toNat ((210 + 5 * (cmt i k σ.sh.cs)) + 0)) i) (Int.toNat ((210 + 5 * (cmt i k σ.sh.cs)) + 1)) k) (Int.toNat ((210 + 5 * (cmt i k σ.sh.cs)) + 2)) rt_5) (Int.toNat ((210 + 5 * (cmt i k σ.sh.cs)) + 3)) q_5) (Int.toNat ((210 + 5 * (cmt i k σ.sh.cs)) + 4)) b_5), P_9, T, M, N, U, W, ⟨gm_20, gv_20, gpa_20, gtx_20, gma_20, gna_20, gua_20, gla_20, gle_20, gqa_20, gd_20⟩, hSz, hPn_9, (fun j d e => by simp [zSt.tx] at e), ⟨rsi, rff, rwd, Nat.zero_le _, (fun _ h => nomatch h), hRn, rhi2, hhl8⟩, shL_ins hsl h40, hslh2⟩⟩, kh17⟩) dX4_addChord_112
  · have hM_5 : mM h3 A ((σ.hi.length : Nat) : Int) ((σ.tx.length : Nat) : Int) σ.si σ.fl σ.wd 0 x_5 ntz_5 rrz_5 rqz_5 rbz_5 whz_5 nd up lo V P T M N U W := hM_5
    obtain ⟨gm_21, gv_21, gpa_21, gtx_21, gma_21, gna_21, gua_21, gla_21, gle_21, gqa_21, gd_21⟩ := id hM_5
    show Z X h3 0 0 [(0, .ref A.m), (1, .int (iI i)), (2, .int (iI k))] 53 [.int (iI 0)]
    refine z_if_ne (pc := 53) (tgt := 63) C dX4_addChord_53 (by decide) (by decide) (fun z => absurd z (by decide)) (fun _ => ?_)
    refine z_iconst (pc := 56) C dX4_addChord_56 ?_
    refine z_aload_n (pc := 57) (j := 0) C dX4_addChord_57 rfl rfl ?_
    refine z_getfield (pc := 58) (v := .int (iI x_5)) C in_X4 rfl 11 (by decide) q2093 (fun _ z => z) gm_21 rfl dX4_addChord_58 ?_
    refine z_isub (pc := 61) C dX4_addChord_61 ?_
    exact z_ireturn (pc := 62) C (by rw [hXp]; exact ⟨_, rfl, Or.inr ⟨x_5, hc_5, rfl, ⟨x_5, ntz_5, rrz_5, rqz_5, rbz_5, whz_5, nd, up, lo, V, P, T, M, N, U, W, ⟨gm_21, gv_21, gpa_21, gtx_21, gma_21, gna_21, gua_21, gla_21, gle_21, gqa_21, gd_21⟩, hS, hP, htq, hR, hsl, hslh⟩⟩, kh3⟩) dX4_addChord_62
set_option maxHeartbeats 4000000 in
theorem md_addChord_b1 {l : Launch} (hl : l.stackTraces = false) {Γ : zCx} {h : zH} {A : zMA} {σ : zSt} {th : Int} (hW : mdW h A σ th) {i : Int} (hi : -2147483648 ≤ i ∧ i ≤ 2147483647) (hb : ¬ (0 ≤ i ∧ i < (σ.sh.ls.length : Nat))) {k : Int}  : zMet l yX4_addChord (ws_ yX4_addChord cX4_addChord 4 (some .int)) ({ frames := 2, cells := 0, slots := 0, locals := 43 }) Γ h [.ref A.m, .int (iI i), .int (iI k)] (zrt (fun w h' => w = some (.int (iI (0))) ∧ mdW h' A σ 1 ∧ zkeep h h' [A.m, A.v, A.pa, A.tx, A.ma, A.na, A.ua, A.la])) 0 0 := by
  refine zMet.of (cc := cX4_addChord) hl (plainFor_of_name (by decide +kernel)) (Nat.le_of_ble_eq_true rfl) ?_
  intro X hXl hXΓ hXp C hnm hnL
  have C : zC X cX4_addChord RX4 (some .int) 2 43 [] := C
  have hnL : X.2.1.2.2.2.2 = 4 := hnL
  subst hXl hXΓ
  show Z X h 0 0 [(0, .ref A.m), (1, .int (iI i)), (2, .int (iI k))] 0 []
  obtain ⟨ap, nt, rr, rq, rb, wh, nd, up, lo, V, P, T, M, N, U, W, hM, hS, hP, htq, hR, hsl, hslh⟩ := id hW
  obtain ⟨rsi, rff, rwd, rtl, rtx, rsh, rhi, rhl⟩ := id hR
  obtain ⟨rcl, rcr, rll, rlt, rkt, rkm, rks⟩ := id rsh
  obtain ⟨hsl1, hsl2, hsl3⟩ := id hsl
  have hTr := rtx
  have hTl := rtl
  obtain ⟨gm_1, gv_1, gpa_1, gtx_1, gma_1, gna_1, gua_1, gla_1, gle_1, gqa_1, gd_1⟩ := id hM
  refine z_aload_n (pc := 0) (j := 0) C dX4_addChord_0 rfl rfl ?_
  refine z_iconst (pc := 1) C dX4_addChord_1 ?_
  refine z_putfield (pc := 2) (fs' := [.ref A.v, .ref A.pa, .int (iI ((σ.hi.length : Nat) : Int)), .ref A.tx, .int (iI ((σ.tx.length : Nat) : Int)), .int (iI σ.si), .int (iI σ.fl), .int (iI σ.wd), .int (iI 0), .ref A.le, .ref A.qa, .int (iI ap), .int (iI nt), .int (iI rr), .int (iI rq), .int (iI rb), .int (iI wh), .ref A.ma, .ref A.na, .int (iI nd), .ref A.ua, .ref A.la, .int (iI up), .int (iI lo)]) C in_X4 tyX4 tyX4_ok nmX4 rfl 8 (by decide) q2090 (fun _ z => z) rfl rfl rfl (Nat.le_of_ble_eq_true rfl) gm_1 rfl dX4_addChord_2 ?_
  refine Z.nm (fun h2 eh2 => ?_)
  have kh2 : zkeep h h2 [A.m, A.v, A.pa, A.tx, A.ma, A.na, A.ua, A.la] := by rw [eh2]; exact zkeep.up zkeep.rf (Or.inl (by simp)) gm_1
  have fh2_0 : h2 A.m = some (true, .inr (3, [.ref A.v, .ref A.pa, .int (iI ((σ.hi.length : Nat) : Int)), .ref A.tx, .int (iI ((σ.tx.length : Nat) : Int)), .int (iI σ.si), .int (iI σ.fl), .int (iI σ.wd), .int (iI 0), .ref A.le, .ref A.qa, .int (iI ap), .int (iI nt), .int (iI rr), .int (iI rq), .int (iI rb), .int (iI wh), .ref A.ma, .ref A.na, .int (iI nd), .ref A.ua, .ref A.la, .int (iI up), .int (iI lo)])) := zse eh2
  have fh2_1 : h2 A.v = some (true, .inl (.int, 620, (mA V))) := zsn eh2 gv_1 (Ne.symm (zneA gm_1 gv_1))
  have fh2_2 : h2 A.pa = some (true, .inl (.int, 4960, (mA P))) := zsn eh2 gpa_1 (Ne.symm (zneA gm_1 gpa_1))
  have fh2_3 : h2 A.tx = some (true, .inl (.int, 200, (mA T))) := zsn eh2 gtx_1 (Ne.symm (zneA gm_1 gtx_1))
  have fh2_4 : h2 A.ma = some (true, .inl (.int, 620, (mA M))) := zsn eh2 gma_1 (Ne.symm (zneA gm_1 gma_1))
  have fh2_5 : h2 A.na = some (true, .inl (.int, 20, (mA N))) := zsn eh2 gna_1 (Ne.symm (zneA gm_1 gna_1))
  have fh2_6 : h2 A.ua = some (true, .inl (.int, 1200, (mA U))) := zsn eh2 gua_1 (Ne.symm (zneA gm_1 gua_1))
  have fh2_7 : h2 A.la = some (true, .inl (.int, 1200, (mA W))) := zsn eh2 gla_1 (Ne.symm (zneA gm_1 gla_1))
  refine z_aload_n (pc := 5) (j := 0) C dX4_addChord_5 rfl rfl ?_
  refine z_iload_n (pc := 6) (j := 1) C dX4_addChord_6 rfl rfl ?_
  refine z_callV (pc := 7) (n := 1) (kc' := 0) (ks' := 0) C (m_isLine C.t ⟨fh2_0, fh2_1, fh2_2, fh2_3, fh2_4, fh2_5, fh2_6, fh2_7, (kh2.n gle_1 (List.not_mem_cons_of_ne_of_not_mem (Ne.symm (zneA gm_1 gle_1)) (List.not_mem_cons_of_ne_of_not_mem (zneT gle_1 gv_1 (by simp)) (List.not_mem_cons_of_ne_of_not_mem (zneT gle_1 gpa_1 (by simp)) (List.not_mem_cons_of_ne_of_not_mem (zneT gle_1 gtx_1 (by simp)) (List.not_mem_cons_of_ne_of_not_mem (zneT gle_1 gma_1 (by simp)) (List.not_mem_cons_of_ne_of_not_mem (zneT gle_1 gna_1 (by simp)) (List.not_mem_cons_of_ne_of_not_mem (zneT gle_1 gua_1 (by simp)) (List.not_mem_cons_of_ne_of_not_mem (zneT gle_1 gla_1 (by simp)) List.not_mem_nil))))))))), (kh2.n gqa_1 (List.not_mem_cons_of_ne_of_not_mem (Ne.symm (zneA gm_1 gqa_1)) (List.not_mem_cons_of_ne_of_not_mem (zneT gqa_1 gv_1 (by simp)) (List.not_mem_cons_of_ne_of_not_mem (zneT gqa_1 gpa_1 (by simp)) (List.not_mem_cons_of_ne_of_not_mem (zneT gqa_1 gtx_1 (by simp)) (List.not_mem_cons_of_ne_of_not_mem (zneT gqa_1 gma_1 (by simp)) (List.not_mem_cons_of_ne_of_not_mem (zneT gqa_1 gna_1 (by simp)) (List.not_mem_cons_of_ne_of_not_mem (zneT gqa_1 gua_1 (by simp)) (List.not_mem_cons_of_ne_of_not_mem (zneT gqa_1 gla_1 (by simp)) List.not_mem_nil))))))))), gd_1⟩ hS hsl (i := i) (by omega)) (lw_V q2250 q2252 qs37 q74 q2253) (by decide +kernel) ⟨by decide, by decide⟩ fh2_0 rfl rfl rfl (Nat.le_of_ble_eq_true rfl) dX4_addChord_7 (by omega) (by omega) (zpk (st' := [.int (iI (if 0 ≤ i ∧ i ≤ ((σ.sh.ls.length : Nat) : Int) - 1 then 1 else 0))]) rfl ?_) zrx
  rw [show ((if 0 ≤ i ∧ i ≤ ((σ.sh.ls.length : Nat) : Int) - 1 then 1 else 0) : Int) = 0 from if_neg (by omega)]
  show Z X h2 0 0 [(0, .ref A.m), (1, .int (iI i)), (2, .int (iI k))] 10 [.int (iI 0)]
  refine z_if_eq (pc := 10) (tgt := 26) C dX4_addChord_10 (by decide) (by decide) (fun _ => ?_) (fun z => absurd z (by decide))
  refine z_aload_n (pc := 26) (j := 0) C dX4_addChord_26 rfl rfl ?_
  refine z_iconst (pc := 27) C dX4_addChord_27 ?_
  refine z_callV (pc := 28) (n := 1) (kc' := 0) (ks' := 0) C (m_fails C.t ⟨fh2_0, fh2_1, fh2_2, fh2_3, fh2_4, fh2_5, fh2_6, fh2_7, (kh2.n gle_1 (List.not_mem_cons_of_ne_of_not_mem (Ne.symm (zneA gm_1 gle_1)) (List.not_mem_cons_of_ne_of_not_mem (zneT gle_1 gv_1 (by simp)) (List.not_mem_cons_of_ne_of_not_mem (zneT gle_1 gpa_1 (by simp)) (List.not_mem_cons_of_ne_of_not_mem (zneT gle_1 gtx_1 (by simp)) (List.not_mem_cons_of_ne_of_not_mem (zneT gle_1 gma_1 (by simp)) (List.not_mem_cons_of_ne_of_not_mem (zneT gle_1 gna_1 (by simp)) (List.not_mem_cons_of_ne_of_not_mem (zneT gle_1 gua_1 (by simp)) (List.not_mem_cons_of_ne_of_not_mem (zneT gle_1 gla_1 (by simp)) List.not_mem_nil))))))))), (kh2.n gqa_1 (List.not_mem_cons_of_ne_of_not_mem (Ne.symm (zneA gm_1 gqa_1)) (List.not_mem_cons_of_ne_of_not_mem (zneT gqa_1 gv_1 (by simp)) (List.not_mem_cons_of_ne_of_not_mem (zneT gqa_1 gpa_1 (by simp)) (List.not_mem_cons_of_ne_of_not_mem (zneT gqa_1 gtx_1 (by simp)) (List.not_mem_cons_of_ne_of_not_mem (zneT gqa_1 gma_1 (by simp)) (List.not_mem_cons_of_ne_of_not_mem (zneT gqa_1 gna_1 (by simp)) (List.not_mem_cons_of_ne_of_not_mem (zneT gqa_1 gua_1 (by simp)) (List.not_mem_cons_of_ne_of_not_mem (zneT gqa_1 gla_1 (by simp)) List.not_mem_nil))))))))), gd_1⟩ (x := 1)) (lw_V q2167 q2169 qs27 q74 q2170) (by decide +kernel) ⟨by decide, by decide⟩ fh2_0 rfl rfl rfl (Nat.le_of_ble_eq_true rfl) dX4_addChord_28 (by omega) (by omega) (zrk fun w h3 hp => ?_) zrx
  obtain ⟨rfl, hM_5, k4⟩ := hp
  have kh3 : zkeep h h3 [A.m, A.v, A.pa, A.tx, A.ma, A.na, A.ua, A.la] := zkeep.loc kh2 k4 (fun q hq => Or.inl (Or.inr hq))
  have hM_5 : mM h3 A ((σ.hi.length : Nat) : Int) ((σ.tx.length : Nat) : Int) σ.si σ.fl σ.wd 1 ap nt rr rq rb wh nd up lo V P T M N U W := hM_5
  obtain ⟨gm_6, gv_6, gpa_6, gtx_6, gma_6, gna_6, gua_6, gla_6, gle_6, gqa_6, gd_6⟩ := id hM_5
  show Z X h3 0 0 [(0, .ref A.m), (1, .int (iI i)), (2, .int (iI k))] 31 [.int (iI 0)]
  exact z_ireturn (pc := 31) C (by rw [hXp]; exact ⟨_, rfl, rfl, ⟨ap, nt, rr, rq, rb, wh, nd, up, lo, V, P, T, M, N, U, W, ⟨gm_6, gv_6, gpa_6, gtx_6, gma_6, gna_6, gua_6, gla_6, gle_6, gqa_6, gd_6⟩, hS, hP, htq, hR, hsl, hslh⟩, kh3⟩) dX4_addChord_31
set_option maxHeartbeats 4000000 in
theorem md_addChord_b2 {l : Launch} (hl : l.stackTraces = false) {Γ : zCx} {h : zH} {A : zMA} {σ : zSt} {th : Int} (hW : mdW h A σ th) {i : Int} {t : List Int} (hi : 0 ≤ i) (ht : σ.sh.ls[i.toNat]? = some t) {k : Int} (hkr : -2147483648 ≤ k ∧ k ≤ 2147483647) (hb : ¬ (0 ≤ k ∧ k ≤ (t.length : Nat)))  : zMet l yX4_addChord (ws_ yX4_addChord cX4_addChord 4 (some .int)) ({ frames := 2, cells := 0, slots := 0, locals := 43 }) Γ h [.ref A.m, .int (iI i), .int (iI k)] (zrt (fun w h' => w = some (.int (iI (0))) ∧ mdW h' A σ 1 ∧ zkeep h h' [A.m, A.v, A.pa, A.tx, A.ma, A.na, A.ua, A.la])) 0 0 := by
  refine zMet.of (cc := cX4_addChord) hl (plainFor_of_name (by decide +kernel)) (Nat.le_of_ble_eq_true rfl) ?_
  intro X hXl hXΓ hXp C hnm hnL
  have C : zC X cX4_addChord RX4 (some .int) 2 43 [] := C
  have hnL : X.2.1.2.2.2.2 = 4 := hnL
  subst hXl hXΓ
  show Z X h 0 0 [(0, .ref A.m), (1, .int (iI i)), (2, .int (iI k))] 0 []
  obtain ⟨ap, nt, rr, rq, rb, wh, nd, up, lo, V, P, T, M, N, U, W, hM, hS, hP, htq, hR, hsl, hslh⟩ := id hW
  obtain ⟨rsi, rff, rwd, rtl, rtx, rsh, rhi, rhl⟩ := id hR
  obtain ⟨rcl, rcr, rll, rlt, rkt, rkm, rks⟩ := id rsh
  obtain ⟨hsl1, hsl2, hsl3⟩ := id hsl
  have hTr := rtx
  have hTl := rtl
  obtain ⟨gm_1, gv_1, gpa_1, gtx_1, gma_1, gna_1, gua_1, gla_1, gle_1, gqa_1, gd_1⟩ := id hM
  have hit := (List.getElem?_eq_some_iff.mp ht).1
  have htl := rlt _ (List.mem_of_getElem? ht)
  refine z_aload_n (pc := 0) (j := 0) C dX4_addChord_0 rfl rfl ?_
  refine z_iconst (pc := 1) C dX4_addChord_1 ?_
  refine z_putfield (pc := 2) (fs' := [.ref A.v, .ref A.pa, .int (iI ((σ.hi.length : Nat) : Int)), .ref A.tx, .int (iI ((σ.tx.length : Nat) : Int)), .int (iI σ.si), .int (iI σ.fl), .int (iI σ.wd), .int (iI 0), .ref A.le, .ref A.qa, .int (iI ap), .int (iI nt), .int (iI rr), .int (iI rq), .int (iI rb), .int (iI wh), .ref A.ma, .ref A.na, .int (iI nd), .ref A.ua, .ref A.la, .int (iI up), .int (iI lo)]) C in_X4 tyX4 tyX4_ok nmX4 rfl 8 (by decide) q2090 (fun _ z => z) rfl rfl rfl (Nat.le_of_ble_eq_true rfl) gm_1 rfl dX4_addChord_2 ?_
  refine Z.nm (fun h2 eh2 => ?_)
  have kh2 : zkeep h h2 [A.m, A.v, A.pa, A.tx, A.ma, A.na, A.ua, A.la] := by rw [eh2]; exact zkeep.up zkeep.rf (Or.inl (by simp)) gm_1
  have fh2_0 : h2 A.m = some (true, .inr (3, [.ref A.v, .ref A.pa, .int (iI ((σ.hi.length : Nat) : Int)), .ref A.tx, .int (iI ((σ.tx.length : Nat) : Int)), .int (iI σ.si), .int (iI σ.fl), .int (iI σ.wd), .int (iI 0), .ref A.le, .ref A.qa, .int (iI ap), .int (iI nt), .int (iI rr), .int (iI rq), .int (iI rb), .int (iI wh), .ref A.ma, .ref A.na, .int (iI nd), .ref A.ua, .ref A.la, .int (iI up), .int (iI lo)])) := zse eh2
  have fh2_1 : h2 A.v = some (true, .inl (.int, 620, (mA V))) := zsn eh2 gv_1 (Ne.symm (zneA gm_1 gv_1))
  have fh2_2 : h2 A.pa = some (true, .inl (.int, 4960, (mA P))) := zsn eh2 gpa_1 (Ne.symm (zneA gm_1 gpa_1))
  have fh2_3 : h2 A.tx = some (true, .inl (.int, 200, (mA T))) := zsn eh2 gtx_1 (Ne.symm (zneA gm_1 gtx_1))
  have fh2_4 : h2 A.ma = some (true, .inl (.int, 620, (mA M))) := zsn eh2 gma_1 (Ne.symm (zneA gm_1 gma_1))
  have fh2_5 : h2 A.na = some (true, .inl (.int, 20, (mA N))) := zsn eh2 gna_1 (Ne.symm (zneA gm_1 gna_1))
  have fh2_6 : h2 A.ua = some (true, .inl (.int, 1200, (mA U))) := zsn eh2 gua_1 (Ne.symm (zneA gm_1 gua_1))
  have fh2_7 : h2 A.la = some (true, .inl (.int, 1200, (mA W))) := zsn eh2 gla_1 (Ne.symm (zneA gm_1 gla_1))
  refine z_aload_n (pc := 5) (j := 0) C dX4_addChord_5 rfl rfl ?_
  refine z_iload_n (pc := 6) (j := 1) C dX4_addChord_6 rfl rfl ?_
  refine z_callV (pc := 7) (n := 1) (kc' := 0) (ks' := 0) C (m_isLine C.t ⟨fh2_0, fh2_1, fh2_2, fh2_3, fh2_4, fh2_5, fh2_6, fh2_7, (kh2.n gle_1 (List.not_mem_cons_of_ne_of_not_mem (Ne.symm (zneA gm_1 gle_1)) (List.not_mem_cons_of_ne_of_not_mem (zneT gle_1 gv_1 (by simp)) (List.not_mem_cons_of_ne_of_not_mem (zneT gle_1 gpa_1 (by simp)) (List.not_mem_cons_of_ne_of_not_mem (zneT gle_1 gtx_1 (by simp)) (List.not_mem_cons_of_ne_of_not_mem (zneT gle_1 gma_1 (by simp)) (List.not_mem_cons_of_ne_of_not_mem (zneT gle_1 gna_1 (by simp)) (List.not_mem_cons_of_ne_of_not_mem (zneT gle_1 gua_1 (by simp)) (List.not_mem_cons_of_ne_of_not_mem (zneT gle_1 gla_1 (by simp)) List.not_mem_nil))))))))), (kh2.n gqa_1 (List.not_mem_cons_of_ne_of_not_mem (Ne.symm (zneA gm_1 gqa_1)) (List.not_mem_cons_of_ne_of_not_mem (zneT gqa_1 gv_1 (by simp)) (List.not_mem_cons_of_ne_of_not_mem (zneT gqa_1 gpa_1 (by simp)) (List.not_mem_cons_of_ne_of_not_mem (zneT gqa_1 gtx_1 (by simp)) (List.not_mem_cons_of_ne_of_not_mem (zneT gqa_1 gma_1 (by simp)) (List.not_mem_cons_of_ne_of_not_mem (zneT gqa_1 gna_1 (by simp)) (List.not_mem_cons_of_ne_of_not_mem (zneT gqa_1 gua_1 (by simp)) (List.not_mem_cons_of_ne_of_not_mem (zneT gqa_1 gla_1 (by simp)) List.not_mem_nil))))))))), gd_1⟩ hS hsl (i := i) (by omega)) (lw_V q2250 q2252 qs37 q74 q2253) (by decide +kernel) ⟨by decide, by decide⟩ fh2_0 rfl rfl rfl (Nat.le_of_ble_eq_true rfl) dX4_addChord_7 (by omega) (by omega) (zpk (st' := [.int (iI (if 0 ≤ i ∧ i ≤ ((σ.sh.ls.length : Nat) : Int) - 1 then 1 else 0))]) rfl ?_) zrx
  rw [show ((if 0 ≤ i ∧ i ≤ ((σ.sh.ls.length : Nat) : Int) - 1 then 1 else 0) : Int) = 1 from if_pos (by omega)]
  show Z X h2 0 0 [(0, .ref A.m), (1, .int (iI i)), (2, .int (iI k))] 10 [.int (iI 1)]
  refine z_if_eq (pc := 10) (tgt := 26) C dX4_addChord_10 (by decide) (by decide) (fun z => absurd z (by decide)) (fun _ => ?_)
  refine z_iload_n (pc := 13) (j := 2) C dX4_addChord_13 rfl rfl ?_
  refine z_iconst (pc := 14) C dX4_addChord_14 ?_
  refine z_aload_n (pc := 15) (j := 0) C dX4_addChord_15 rfl rfl ?_
  refine z_iload_n (pc := 16) (j := 1) C dX4_addChord_16 rfl rfl ?_
  refine z_callV (pc := 17) (n := 1) (kc' := 0) (ks' := 0) C (m_len C.t ⟨fh2_0, fh2_1, fh2_2, fh2_3, fh2_4, fh2_5, fh2_6, fh2_7, (kh2.n gle_1 (List.not_mem_cons_of_ne_of_not_mem (Ne.symm (zneA gm_1 gle_1)) (List.not_mem_cons_of_ne_of_not_mem (zneT gle_1 gv_1 (by simp)) (List.not_mem_cons_of_ne_of_not_mem (zneT gle_1 gpa_1 (by simp)) (List.not_mem_cons_of_ne_of_not_mem (zneT gle_1 gtx_1 (by simp)) (List.not_mem_cons_of_ne_of_not_mem (zneT gle_1 gma_1 (by simp)) (List.not_mem_cons_of_ne_of_not_mem (zneT gle_1 gna_1 (by simp)) (List.not_mem_cons_of_ne_of_not_mem (zneT gle_1 gua_1 (by simp)) (List.not_mem_cons_of_ne_of_not_mem (zneT gle_1 gla_1 (by simp)) List.not_mem_nil))))))))), (kh2.n gqa_1 (List.not_mem_cons_of_ne_of_not_mem (Ne.symm (zneA gm_1 gqa_1)) (List.not_mem_cons_of_ne_of_not_mem (zneT gqa_1 gv_1 (by simp)) (List.not_mem_cons_of_ne_of_not_mem (zneT gqa_1 gpa_1 (by simp)) (List.not_mem_cons_of_ne_of_not_mem (zneT gqa_1 gtx_1 (by simp)) (List.not_mem_cons_of_ne_of_not_mem (zneT gqa_1 gma_1 (by simp)) (List.not_mem_cons_of_ne_of_not_mem (zneT gqa_1 gna_1 (by simp)) (List.not_mem_cons_of_ne_of_not_mem (zneT gqa_1 gua_1 (by simp)) (List.not_mem_cons_of_ne_of_not_mem (zneT gqa_1 gla_1 (by simp)) List.not_mem_nil))))))))), gd_1⟩ hS hsl (i := i) (by omega) ht) (lw_V q2254 q2256 qs38 q74 q2257) (by decide +kernel) ⟨by decide, by decide⟩ fh2_0 rfl rfl rfl (Nat.le_of_ble_eq_true rfl) dX4_addChord_17 (by omega) (by omega) (zpk (st' := [.int (iI ((t.length : Nat) : Int)), .int (iI 0), .int (iI k)]) rfl ?_) zrx
  refine z_callS (pc := 20) (n := 3) (kc' := 0) (ks' := 0) C (m_in C.t (x := k) (a := 0) (b := ((t.length : Nat) : Int)) (by omega) (by decide) (by omega)) (lw_S q2164 q2165 q74 q2166) (by decide +kernel) ⟨by decide, by decide⟩ rfl rfl (Nat.le_of_ble_eq_true rfl) dX4_addChord_20 (by omega) (by omega) (zpk (st' := [.int (iI (if 0 ≤ k ∧ k ≤ ((t.length : Nat) : Int) then 1 else 0))]) rfl ?_) zrx
  rw [show ((if 0 ≤ k ∧ k ≤ ((t.length : Nat) : Int) then 1 else 0) : Int) = 0 from if_neg (by omega)]
  show Z X h2 0 0 [(0, .ref A.m), (1, .int (iI i)), (2, .int (iI k))] 23 [.int (iI 0)]
  refine z_if_ne (pc := 23) (tgt := 32) C dX4_addChord_23 (by decide) (by decide) (fun z => absurd z (by decide)) (fun _ => ?_)
  refine z_aload_n (pc := 26) (j := 0) C dX4_addChord_26 rfl rfl ?_
  refine z_iconst (pc := 27) C dX4_addChord_27 ?_
  refine z_callV (pc := 28) (n := 1) (kc' := 0) (ks' := 0) C (m_fails C.t ⟨fh2_0, fh2_1, fh2_2, fh2_3, fh2_4, fh2_5, fh2_6, fh2_7, (kh2.n gle_1 (List.not_mem_cons_of_ne_of_not_mem (Ne.symm (zneA gm_1 gle_1)) (List.not_mem_cons_of_ne_of_not_mem (zneT gle_1 gv_1 (by simp)) (List.not_mem_cons_of_ne_of_not_mem (zneT gle_1 gpa_1 (by simp)) (List.not_mem_cons_of_ne_of_not_mem (zneT gle_1 gtx_1 (by simp)) (List.not_mem_cons_of_ne_of_not_mem (zneT gle_1 gma_1 (by simp)) (List.not_mem_cons_of_ne_of_not_mem (zneT gle_1 gna_1 (by simp)) (List.not_mem_cons_of_ne_of_not_mem (zneT gle_1 gua_1 (by simp)) (List.not_mem_cons_of_ne_of_not_mem (zneT gle_1 gla_1 (by simp)) List.not_mem_nil))))))))), (kh2.n gqa_1 (List.not_mem_cons_of_ne_of_not_mem (Ne.symm (zneA gm_1 gqa_1)) (List.not_mem_cons_of_ne_of_not_mem (zneT gqa_1 gv_1 (by simp)) (List.not_mem_cons_of_ne_of_not_mem (zneT gqa_1 gpa_1 (by simp)) (List.not_mem_cons_of_ne_of_not_mem (zneT gqa_1 gtx_1 (by simp)) (List.not_mem_cons_of_ne_of_not_mem (zneT gqa_1 gma_1 (by simp)) (List.not_mem_cons_of_ne_of_not_mem (zneT gqa_1 gna_1 (by simp)) (List.not_mem_cons_of_ne_of_not_mem (zneT gqa_1 gua_1 (by simp)) (List.not_mem_cons_of_ne_of_not_mem (zneT gqa_1 gla_1 (by simp)) List.not_mem_nil))))))))), gd_1⟩ (x := 1)) (lw_V q2167 q2169 qs27 q74 q2170) (by decide +kernel) ⟨by decide, by decide⟩ fh2_0 rfl rfl rfl (Nat.le_of_ble_eq_true rfl) dX4_addChord_28 (by omega) (by omega) (zrk fun w h3 hp => ?_) zrx
  obtain ⟨rfl, hM_5, k4⟩ := hp
  have kh3 : zkeep h h3 [A.m, A.v, A.pa, A.tx, A.ma, A.na, A.ua, A.la] := zkeep.loc kh2 k4 (fun q hq => Or.inl (Or.inr hq))
  have hM_5 : mM h3 A ((σ.hi.length : Nat) : Int) ((σ.tx.length : Nat) : Int) σ.si σ.fl σ.wd 1 ap nt rr rq rb wh nd up lo V P T M N U W := hM_5
  obtain ⟨gm_6, gv_6, gpa_6, gtx_6, gma_6, gna_6, gua_6, gla_6, gle_6, gqa_6, gd_6⟩ := id hM_5
  show Z X h3 0 0 [(0, .ref A.m), (1, .int (iI i)), (2, .int (iI k))] 31 [.int (iI 0)]
  exact z_ireturn (pc := 31) C (by rw [hXp]; exact ⟨_, rfl, rfl, ⟨ap, nt, rr, rq, rb, wh, nd, up, lo, V, P, T, M, N, U, W, ⟨gm_6, gv_6, gpa_6, gtx_6, gma_6, gna_6, gua_6, gla_6, gle_6, gqa_6, gd_6⟩, hS, hP, htq, hR, hsl, hslh⟩, kh3⟩) dX4_addChord_31
set_option maxHeartbeats 4000000 in
theorem md_addChord_b3 {l : Launch} (hl : l.stackTraces = false) {Γ : zCx} {h : zH} {A : zMA} {σ : zSt} {th : Int} (hW : mdW h A σ th) {i : Int} {t : List Int} (hi : 0 ≤ i) (ht : σ.sh.ls[i.toNat]? = some t) {k : Int} (hk : 0 ≤ k ∧ k ≤ (t.length : Nat)) (h40 : σ.sh.cs.length = 40)  : zMet l yX4_addChord (ws_ yX4_addChord cX4_addChord 4 (some .int)) ({ frames := 2, cells := 0, slots := 0, locals := 43 }) Γ h [.ref A.m, .int (iI i), .int (iI k)] (zrt (fun w h' => w = some (.int (iI (0))) ∧ mdW h' A σ 2 ∧ zkeep h h' [A.m, A.v, A.pa, A.tx, A.ma, A.na, A.ua, A.la])) 0 0 := by
  refine zMet.of (cc := cX4_addChord) hl (plainFor_of_name (by decide +kernel)) (Nat.le_of_ble_eq_true rfl) ?_
  intro X hXl hXΓ hXp C hnm hnL
  have C : zC X cX4_addChord RX4 (some .int) 2 43 [] := C
  have hnL : X.2.1.2.2.2.2 = 4 := hnL
  subst hXl hXΓ
  show Z X h 0 0 [(0, .ref A.m), (1, .int (iI i)), (2, .int (iI k))] 0 []
  obtain ⟨ap, nt, rr, rq, rb, wh, nd, up, lo, V, P, T, M, N, U, W, hM, hS, hP, htq, hR, hsl, hslh⟩ := id hW
  obtain ⟨rsi, rff, rwd, rtl, rtx, rsh, rhi, rhl⟩ := id hR
  obtain ⟨rcl, rcr, rll, rlt, rkt, rkm, rks⟩ := id rsh
  obtain ⟨hsl1, hsl2, hsl3⟩ := id hsl
  have hTr := rtx
  have hTl := rtl
  obtain ⟨gm_1, gv_1, gpa_1, gtx_1, gma_1, gna_1, gua_1, gla_1, gle_1, gqa_1, gd_1⟩ := id hM
  have hit := (List.getElem?_eq_some_iff.mp ht).1
  have htl := rlt _ (List.mem_of_getElem? ht)
  refine z_aload_n (pc := 0) (j := 0) C dX4_addChord_0 rfl rfl ?_
  refine z_iconst (pc := 1) C dX4_addChord_1 ?_
  refine z_putfield (pc := 2) (fs' := [.ref A.v, .ref A.pa, .int (iI ((σ.hi.length : Nat) : Int)), .ref A.tx, .int (iI ((σ.tx.length : Nat) : Int)), .int (iI σ.si), .int (iI σ.fl), .int (iI σ.wd), .int (iI 0), .ref A.le, .ref A.qa, .int (iI ap), .int (iI nt), .int (iI rr), .int (iI rq), .int (iI rb), .int (iI wh), .ref A.ma, .ref A.na, .int (iI nd), .ref A.ua, .ref A.la, .int (iI up), .int (iI lo)]) C in_X4 tyX4 tyX4_ok nmX4 rfl 8 (by decide) q2090 (fun _ z => z) rfl rfl rfl (Nat.le_of_ble_eq_true rfl) gm_1 rfl dX4_addChord_2 ?_
  refine Z.nm (fun h2 eh2 => ?_)
  have kh2 : zkeep h h2 [A.m, A.v, A.pa, A.tx, A.ma, A.na, A.ua, A.la] := by rw [eh2]; exact zkeep.up zkeep.rf (Or.inl (by simp)) gm_1
  have fh2_0 : h2 A.m = some (true, .inr (3, [.ref A.v, .ref A.pa, .int (iI ((σ.hi.length : Nat) : Int)), .ref A.tx, .int (iI ((σ.tx.length : Nat) : Int)), .int (iI σ.si), .int (iI σ.fl), .int (iI σ.wd), .int (iI 0), .ref A.le, .ref A.qa, .int (iI ap), .int (iI nt), .int (iI rr), .int (iI rq), .int (iI rb), .int (iI wh), .ref A.ma, .ref A.na, .int (iI nd), .ref A.ua, .ref A.la, .int (iI up), .int (iI lo)])) := zse eh2
  have fh2_1 : h2 A.v = some (true, .inl (.int, 620, (mA V))) := zsn eh2 gv_1 (Ne.symm (zneA gm_1 gv_1))
  have fh2_2 : h2 A.pa = some (true, .inl (.int, 4960, (mA P))) := zsn eh2 gpa_1 (Ne.symm (zneA gm_1 gpa_1))
  have fh2_3 : h2 A.tx = some (true, .inl (.int, 200, (mA T))) := zsn eh2 gtx_1 (Ne.symm (zneA gm_1 gtx_1))
  have fh2_4 : h2 A.ma = some (true, .inl (.int, 620, (mA M))) := zsn eh2 gma_1 (Ne.symm (zneA gm_1 gma_1))
  have fh2_5 : h2 A.na = some (true, .inl (.int, 20, (mA N))) := zsn eh2 gna_1 (Ne.symm (zneA gm_1 gna_1))
  have fh2_6 : h2 A.ua = some (true, .inl (.int, 1200, (mA U))) := zsn eh2 gua_1 (Ne.symm (zneA gm_1 gua_1))
  have fh2_7 : h2 A.la = some (true, .inl (.int, 1200, (mA W))) := zsn eh2 gla_1 (Ne.symm (zneA gm_1 gla_1))
  refine z_aload_n (pc := 5) (j := 0) C dX4_addChord_5 rfl rfl ?_
  refine z_iload_n (pc := 6) (j := 1) C dX4_addChord_6 rfl rfl ?_
  refine z_callV (pc := 7) (n := 1) (kc' := 0) (ks' := 0) C (m_isLine C.t ⟨fh2_0, fh2_1, fh2_2, fh2_3, fh2_4, fh2_5, fh2_6, fh2_7, (kh2.n gle_1 (List.not_mem_cons_of_ne_of_not_mem (Ne.symm (zneA gm_1 gle_1)) (List.not_mem_cons_of_ne_of_not_mem (zneT gle_1 gv_1 (by simp)) (List.not_mem_cons_of_ne_of_not_mem (zneT gle_1 gpa_1 (by simp)) (List.not_mem_cons_of_ne_of_not_mem (zneT gle_1 gtx_1 (by simp)) (List.not_mem_cons_of_ne_of_not_mem (zneT gle_1 gma_1 (by simp)) (List.not_mem_cons_of_ne_of_not_mem (zneT gle_1 gna_1 (by simp)) (List.not_mem_cons_of_ne_of_not_mem (zneT gle_1 gua_1 (by simp)) (List.not_mem_cons_of_ne_of_not_mem (zneT gle_1 gla_1 (by simp)) List.not_mem_nil))))))))), (kh2.n gqa_1 (List.not_mem_cons_of_ne_of_not_mem (Ne.symm (zneA gm_1 gqa_1)) (List.not_mem_cons_of_ne_of_not_mem (zneT gqa_1 gv_1 (by simp)) (List.not_mem_cons_of_ne_of_not_mem (zneT gqa_1 gpa_1 (by simp)) (List.not_mem_cons_of_ne_of_not_mem (zneT gqa_1 gtx_1 (by simp)) (List.not_mem_cons_of_ne_of_not_mem (zneT gqa_1 gma_1 (by simp)) (List.not_mem_cons_of_ne_of_not_mem (zneT gqa_1 gna_1 (by simp)) (List.not_mem_cons_of_ne_of_not_mem (zneT gqa_1 gua_1 (by simp)) (List.not_mem_cons_of_ne_of_not_mem (zneT gqa_1 gla_1 (by simp)) List.not_mem_nil))))))))), gd_1⟩ hS hsl (i := i) (by omega)) (lw_V q2250 q2252 qs37 q74 q2253) (by decide +kernel) ⟨by decide, by decide⟩ fh2_0 rfl rfl rfl (Nat.le_of_ble_eq_true rfl) dX4_addChord_7 (by omega) (by omega) (zpk (st' := [.int (iI (if 0 ≤ i ∧ i ≤ ((σ.sh.ls.length : Nat) : Int) - 1 then 1 else 0))]) rfl ?_) zrx
  rw [show ((if 0 ≤ i ∧ i ≤ ((σ.sh.ls.length : Nat) : Int) - 1 then 1 else 0) : Int) = 1 from if_pos (by omega)]
  show Z X h2 0 0 [(0, .ref A.m), (1, .int (iI i)), (2, .int (iI k))] 10 [.int (iI 1)]
  refine z_if_eq (pc := 10) (tgt := 26) C dX4_addChord_10 (by decide) (by decide) (fun z => absurd z (by decide)) (fun _ => ?_)
  refine z_iload_n (pc := 13) (j := 2) C dX4_addChord_13 rfl rfl ?_
  refine z_iconst (pc := 14) C dX4_addChord_14 ?_
  refine z_aload_n (pc := 15) (j := 0) C dX4_addChord_15 rfl rfl ?_
  refine z_iload_n (pc := 16) (j := 1) C dX4_addChord_16 rfl rfl ?_
  refine z_callV (pc := 17) (n := 1) (kc' := 0) (ks' := 0) C (m_len C.t ⟨fh2_0, fh2_1, fh2_2, fh2_3, fh2_4, fh2_5, fh2_6, fh2_7, (kh2.n gle_1 (List.not_mem_cons_of_ne_of_not_mem (Ne.symm (zneA gm_1 gle_1)) (List.not_mem_cons_of_ne_of_not_mem (zneT gle_1 gv_1 (by simp)) (List.not_mem_cons_of_ne_of_not_mem (zneT gle_1 gpa_1 (by simp)) (List.not_mem_cons_of_ne_of_not_mem (zneT gle_1 gtx_1 (by simp)) (List.not_mem_cons_of_ne_of_not_mem (zneT gle_1 gma_1 (by simp)) (List.not_mem_cons_of_ne_of_not_mem (zneT gle_1 gna_1 (by simp)) (List.not_mem_cons_of_ne_of_not_mem (zneT gle_1 gua_1 (by simp)) (List.not_mem_cons_of_ne_of_not_mem (zneT gle_1 gla_1 (by simp)) List.not_mem_nil))))))))), (kh2.n gqa_1 (List.not_mem_cons_of_ne_of_not_mem (Ne.symm (zneA gm_1 gqa_1)) (List.not_mem_cons_of_ne_of_not_mem (zneT gqa_1 gv_1 (by simp)) (List.not_mem_cons_of_ne_of_not_mem (zneT gqa_1 gpa_1 (by simp)) (List.not_mem_cons_of_ne_of_not_mem (zneT gqa_1 gtx_1 (by simp)) (List.not_mem_cons_of_ne_of_not_mem (zneT gqa_1 gma_1 (by simp)) (List.not_mem_cons_of_ne_of_not_mem (zneT gqa_1 gna_1 (by simp)) (List.not_mem_cons_of_ne_of_not_mem (zneT gqa_1 gua_1 (by simp)) (List.not_mem_cons_of_ne_of_not_mem (zneT gqa_1 gla_1 (by simp)) List.not_mem_nil))))))))), gd_1⟩ hS hsl (i := i) (by omega) ht) (lw_V q2254 q2256 qs38 q74 q2257) (by decide +kernel) ⟨by decide, by decide⟩ fh2_0 rfl rfl rfl (Nat.le_of_ble_eq_true rfl) dX4_addChord_17 (by omega) (by omega) (zpk (st' := [.int (iI ((t.length : Nat) : Int)), .int (iI 0), .int (iI k)]) rfl ?_) zrx
  refine z_callS (pc := 20) (n := 3) (kc' := 0) (ks' := 0) C (m_in C.t (x := k) (a := 0) (b := ((t.length : Nat) : Int)) (by omega) (by decide) (by omega)) (lw_S q2164 q2165 q74 q2166) (by decide +kernel) ⟨by decide, by decide⟩ rfl rfl (Nat.le_of_ble_eq_true rfl) dX4_addChord_20 (by omega) (by omega) (zpk (st' := [.int (iI (if 0 ≤ k ∧ k ≤ ((t.length : Nat) : Int) then 1 else 0))]) rfl ?_) zrx
  rw [show ((if 0 ≤ k ∧ k ≤ ((t.length : Nat) : Int) then 1 else 0) : Int) = 1 from if_pos (by omega)]
  show Z X h2 0 0 [(0, .ref A.m), (1, .int (iI i)), (2, .int (iI k))] 23 [.int (iI 1)]
  refine z_if_ne (pc := 23) (tgt := 32) C dX4_addChord_23 (by decide) (by decide) (fun _ => ?_) (fun z => absurd z (by decide))
  refine z_aload_n (pc := 32) (j := 0) C dX4_addChord_32 rfl rfl ?_
  refine z_getfield (pc := 33) (v := .ref A.v) C in_X4 rfl 0 (by decide) q2082 (fun _ z => z) fh2_0 rfl dX4_addChord_33 ?_
  refine z_iconst (pc := 36) C dX4_addChord_36 ?_
  refine z_iaload (pc := 37) (v := .int (iI ((σ.sh.cs.length : Nat) : Int))) C fh2_1 (by omega) (mA_e (vE hS.2.1 (by omega))) dX4_addChord_37 ?_
  refine z_bipush (pc := 38) C dX4_addChord_38 (by decide) ?_
  refine z_icmp_ne (pc := 40) (tgt := 49) C dX4_addChord_40 (by decide) (by omega) (by decide) (fun c40 => by exfalso; omega) (fun c40 => ?_)
  refine z_aload_n (pc := 43) (j := 0) C dX4_addChord_43 rfl rfl ?_
  refine z_iconst (pc := 44) C dX4_addChord_44 ?_
  refine z_callV (pc := 45) (n := 1) (kc' := 0) (ks' := 0) C (m_fails C.t ⟨fh2_0, fh2_1, fh2_2, fh2_3, fh2_4, fh2_5, fh2_6, fh2_7, (kh2.n gle_1 (List.not_mem_cons_of_ne_of_not_mem (Ne.symm (zneA gm_1 gle_1)) (List.not_mem_cons_of_ne_of_not_mem (zneT gle_1 gv_1 (by simp)) (List.not_mem_cons_of_ne_of_not_mem (zneT gle_1 gpa_1 (by simp)) (List.not_mem_cons_of_ne_of_not_mem (zneT gle_1 gtx_1 (by simp)) (List.not_mem_cons_of_ne_of_not_mem (zneT gle_1 gma_1 (by simp)) (List.not_mem_cons_of_ne_of_not_mem (zneT gle_1 gna_1 (by simp)) (List.not_mem_cons_of_ne_of_not_mem (zneT gle_1 gua_1 (by simp)) (List.not_mem_cons_of_ne_of_not_mem (zneT gle_1 gla_1 (by simp)) List.not_mem_nil))))))))), (kh2.n gqa_1 (List.not_mem_cons_of_ne_of_not_mem (Ne.symm (zneA gm_1 gqa_1)) (List.not_mem_cons_of_ne_of_not_mem (zneT gqa_1 gv_1 (by simp)) (List.not_mem_cons_of_ne_of_not_mem (zneT gqa_1 gpa_1 (by simp)) (List.not_mem_cons_of_ne_of_not_mem (zneT gqa_1 gtx_1 (by simp)) (List.not_mem_cons_of_ne_of_not_mem (zneT gqa_1 gma_1 (by simp)) (List.not_mem_cons_of_ne_of_not_mem (zneT gqa_1 gna_1 (by simp)) (List.not_mem_cons_of_ne_of_not_mem (zneT gqa_1 gua_1 (by simp)) (List.not_mem_cons_of_ne_of_not_mem (zneT gqa_1 gla_1 (by simp)) List.not_mem_nil))))))))), gd_1⟩ (x := 2)) (lw_V q2167 q2169 qs27 q74 q2170) (by decide +kernel) ⟨by decide, by decide⟩ fh2_0 rfl rfl rfl (Nat.le_of_ble_eq_true rfl) dX4_addChord_45 (by omega) (by omega) (zrk fun w h3 hp => ?_) zrx
  obtain ⟨rfl, hM_5, k4⟩ := hp
  have kh3 : zkeep h h3 [A.m, A.v, A.pa, A.tx, A.ma, A.na, A.ua, A.la] := zkeep.loc kh2 k4 (fun q hq => Or.inl (Or.inr hq))
  have hM_5 : mM h3 A ((σ.hi.length : Nat) : Int) ((σ.tx.length : Nat) : Int) σ.si σ.fl σ.wd 2 ap nt rr rq rb wh nd up lo V P T M N U W := hM_5
  obtain ⟨gm_6, gv_6, gpa_6, gtx_6, gma_6, gna_6, gua_6, gla_6, gle_6, gqa_6, gd_6⟩ := id hM_5
  show Z X h3 0 0 [(0, .ref A.m), (1, .int (iI i)), (2, .int (iI k))] 48 [.int (iI 0)]
  exact z_ireturn (pc := 48) C (by rw [hXp]; exact ⟨_, rfl, rfl, ⟨ap, nt, rr, rq, rb, wh, nd, up, lo, V, P, T, M, N, U, W, ⟨gm_6, gv_6, gpa_6, gtx_6, gma_6, gna_6, gua_6, gla_6, gle_6, gqa_6, gd_6⟩, hS, hP, htq, hR, hsl, hslh⟩, kh3⟩) dX4_addChord_48
set_option maxHeartbeats 4000000 in
theorem md_moveChord {l : Launch} (hl : l.stackTraces = false) {Γ : zCx} {h : zH} {A : zMA} {σ : zSt} {th : Int} (hW : mdW h A σ th) {i : Int} {x : zCh} (hi : 0 ≤ i) (hx : σ.sh.cs[i.toNat]? = some x) {t : List Int} (ht : σ.sh.ls[x.1.toNat]? = some t) {k : Int} (hk : 0 ≤ k ∧ k ≤ (t.length : Nat)) (hso : csrt σ.sh.cs)  : zMet l yX4_moveChord (ws_ yX4_moveChord cX4_moveChord 8 (some .int)) ({ frames := 2, cells := 0, slots := 0, locals := 45 }) Γ h [.ref A.m, .int (iI i), .int (iI k)] (zrt (fun w h' => w = some (.int (iI (ipl ((x.1, k, x.2.2.1, x.2.2.2.1, x.2.2.2.2) : zCh) (σ.sh.cs.eraseIdx i.toNat)))) ∧ mdW h' A (σ.tx, σ.si, σ.fl, σ.wd, (σ.sh.ls, zins ((x.1, k, x.2.2.1, x.2.2.2.1, x.2.2.2.2) : zCh) (σ.sh.cs.eraseIdx i.toNat), σ.sh.t, σ.sh.m), hiP σ.hi σ.sh) 0 ∧ zkeep h h' [A.m, A.v, A.pa, A.tx, A.ma, A.na, A.ua, A.la])) 0 0 := by
  refine zMet.of (cc := cX4_moveChord) hl (plainFor_of_name (by decide +kernel)) (Nat.le_of_ble_eq_true rfl) ?_
  intro X hXl hXΓ hXp C hnm hnL
  have C : zC X cX4_moveChord RX4 (some .int) 2 45 [] := C
  have hnL : X.2.1.2.2.2.2 = 8 := hnL
  subst hXl hXΓ
  show Z X h 0 0 [(0, .ref A.m), (1, .int (iI i)), (2, .int (iI k))] 0 []
  obtain ⟨ap, nt, rr, rq, rb, wh, nd, up, lo, V, P, T, M, N, U, W, hM, hS, hP, htq, hR, hsl, hslh⟩ := id hW
  obtain ⟨rsi, rff, rwd, rtl, rtx, rsh, rhi, rhl⟩ := id hR
  obtain ⟨rcl, rcr, rll, rlt, rkt, rkm, rks⟩ := id rsh
  obtain ⟨hsl1, hsl2, hsl3⟩ := id hsl
  have hTr := rtx
  have hTl := rtl
  obtain ⟨gm_1, gv_1, gpa_1, gtx_1, gma_1, gna_1, gua_1, gla_1, gle_1, gqa_1, gd_1⟩ := id hM
  have hit := (List.getElem?_eq_some_iff.mp ht).1
  have htl := rlt _ (List.mem_of_getElem? ht)
  have hix := (List.getElem?_eq_some_iff.mp hx).1
  obtain ⟨hx1, hx2, hx3, hx4, hx5⟩ := hS.c hi hx
  obtain ⟨xr1, xr2, xr3, xr4, xr5⟩ := rcr _ (List.mem_of_getElem? hx)
  have hcl8 : (σ.sh.cs.eraseIdx i.toNat).length = σ.sh.cs.length - 1 := by rw [List.length_eraseIdx, if_pos (by omega)]
  have hRc : shR (σ.sh.ls, σ.sh.cs.eraseIdx i.toNat, σ.sh.t, σ.sh.m) := ⟨Nat.le_trans (List.length_eraseIdx_le _ _) rcl, fun c hc => rcr c (List.mem_of_mem_eraseIdx hc), rll, rlt, rkt, rkm, rks⟩
  have hLc : shL (σ.sh.ls, σ.sh.cs.eraseIdx i.toNat, σ.sh.t, σ.sh.m) := ⟨hsl1, hsl2, Nat.le_trans (List.length_eraseIdx_le _ _) hsl3⟩
  have hsoc : csrt (σ.sh.cs.eraseIdx i.toNat) := hso.sublist (List.eraseIdx_sublist _ _)
  refine z_aload_n (pc := 0) (j := 0) C dX4_moveChord_0 rfl rfl ?_
  refine z_iconst (pc := 1) C dX4_moveChord_1 ?_
  refine z_putfield (pc := 2) (fs' := [.ref A.v, .ref A.pa, .int (iI ((σ.hi.length : Nat) : Int)), .ref A.tx, .int (iI ((σ.tx.length : Nat) : Int)), .int (iI σ.si), .int (iI σ.fl), .int (iI σ.wd), .int (iI 0), .ref A.le, .ref A.qa, .int (iI ap), .int (iI nt), .int (iI rr), .int (iI rq), .int (iI rb), .int (iI wh), .ref A.ma, .ref A.na, .int (iI nd), .ref A.ua, .ref A.la, .int (iI up), .int (iI lo)]) C in_X4 tyX4 tyX4_ok nmX4 rfl 8 (by decide) q2090 (fun _ z => z) rfl rfl rfl (Nat.le_of_ble_eq_true rfl) gm_1 rfl dX4_moveChord_2 ?_
  refine Z.nm (fun h2 eh2 => ?_)
  have kh2 : zkeep h h2 [A.m, A.v, A.pa, A.tx, A.ma, A.na, A.ua, A.la] := by rw [eh2]; exact zkeep.up zkeep.rf (Or.inl (by simp)) gm_1
  have fh2_0 : h2 A.m = some (true, .inr (3, [.ref A.v, .ref A.pa, .int (iI ((σ.hi.length : Nat) : Int)), .ref A.tx, .int (iI ((σ.tx.length : Nat) : Int)), .int (iI σ.si), .int (iI σ.fl), .int (iI σ.wd), .int (iI 0), .ref A.le, .ref A.qa, .int (iI ap), .int (iI nt), .int (iI rr), .int (iI rq), .int (iI rb), .int (iI wh), .ref A.ma, .ref A.na, .int (iI nd), .ref A.ua, .ref A.la, .int (iI up), .int (iI lo)])) := zse eh2
  have fh2_1 : h2 A.v = some (true, .inl (.int, 620, (mA V))) := zsn eh2 gv_1 (Ne.symm (zneA gm_1 gv_1))
  have fh2_2 : h2 A.pa = some (true, .inl (.int, 4960, (mA P))) := zsn eh2 gpa_1 (Ne.symm (zneA gm_1 gpa_1))
  have fh2_3 : h2 A.tx = some (true, .inl (.int, 200, (mA T))) := zsn eh2 gtx_1 (Ne.symm (zneA gm_1 gtx_1))
  have fh2_4 : h2 A.ma = some (true, .inl (.int, 620, (mA M))) := zsn eh2 gma_1 (Ne.symm (zneA gm_1 gma_1))
  have fh2_5 : h2 A.na = some (true, .inl (.int, 20, (mA N))) := zsn eh2 gna_1 (Ne.symm (zneA gm_1 gna_1))
  have fh2_6 : h2 A.ua = some (true, .inl (.int, 1200, (mA U))) := zsn eh2 gua_1 (Ne.symm (zneA gm_1 gua_1))
  have fh2_7 : h2 A.la = some (true, .inl (.int, 1200, (mA W))) := zsn eh2 gla_1 (Ne.symm (zneA gm_1 gla_1))
  refine z_aload_n (pc := 5) (j := 0) C dX4_moveChord_5 rfl rfl ?_
  refine z_iload_n (pc := 6) (j := 1) C dX4_moveChord_6 rfl rfl ?_
  refine z_callV (pc := 7) (n := 1) (kc' := 0) (ks' := 0) C (m_isChord C.t ⟨fh2_0, fh2_1, fh2_2, fh2_3, fh2_4, fh2_5, fh2_6, fh2_7, (kh2.n gle_1 (List.not_mem_cons_of_ne_of_not_mem (Ne.symm (zneA gm_1 gle_1)) (List.not_mem_cons_of_ne_of_not_mem (zneT gle_1 gv_1 (by simp)) (List.not_mem_cons_of_ne_of_not_mem (zneT gle_1 gpa_1 (by simp)) (List.not_mem_cons_of_ne_of_not_mem (zneT gle_1 gtx_1 (by simp)) (List.not_mem_cons_of_ne_of_not_mem (zneT gle_1 gma_1 (by simp)) (List.not_mem_cons_of_ne_of_not_mem (zneT gle_1 gna_1 (by simp)) (List.not_mem_cons_of_ne_of_not_mem (zneT gle_1 gua_1 (by simp)) (List.not_mem_cons_of_ne_of_not_mem (zneT gle_1 gla_1 (by simp)) List.not_mem_nil))))))))), (kh2.n gqa_1 (List.not_mem_cons_of_ne_of_not_mem (Ne.symm (zneA gm_1 gqa_1)) (List.not_mem_cons_of_ne_of_not_mem (zneT gqa_1 gv_1 (by simp)) (List.not_mem_cons_of_ne_of_not_mem (zneT gqa_1 gpa_1 (by simp)) (List.not_mem_cons_of_ne_of_not_mem (zneT gqa_1 gtx_1 (by simp)) (List.not_mem_cons_of_ne_of_not_mem (zneT gqa_1 gma_1 (by simp)) (List.not_mem_cons_of_ne_of_not_mem (zneT gqa_1 gna_1 (by simp)) (List.not_mem_cons_of_ne_of_not_mem (zneT gqa_1 gua_1 (by simp)) (List.not_mem_cons_of_ne_of_not_mem (zneT gqa_1 gla_1 (by simp)) List.not_mem_nil))))))))), gd_1⟩ hS hsl (i := i) (by omega)) (lw_V q2278 q2280 qs41 q74 q2281) (by decide +kernel) ⟨by decide, by decide⟩ fh2_0 rfl rfl rfl (Nat.le_of_ble_eq_true rfl) dX4_moveChord_7 (by omega) (by omega) (zpk (st' := [.int (iI (if 0 ≤ i ∧ i ≤ ((σ.sh.cs.length : Nat) : Int) - 1 then 1 else 0))]) rfl ?_) zrx
  rw [show ((if 0 ≤ i ∧ i ≤ ((σ.sh.cs.length : Nat) : Int) - 1 then 1 else 0) : Int) = 1 from if_pos (by omega)]
  show Z X h2 0 0 [(0, .ref A.m), (1, .int (iI i)), (2, .int (iI k))] 10 [.int (iI 1)]
  refine z_if_eq (pc := 10) (tgt := 34) C dX4_moveChord_10 (by decide) (by decide) (fun z => absurd z (by decide)) (fun _ => ?_)
  refine z_iload_n (pc := 13) (j := 2) C dX4_moveChord_13 rfl rfl ?_
  refine z_iconst (pc := 14) C dX4_moveChord_14 ?_
  refine z_aload_n (pc := 15) (j := 0) C dX4_moveChord_15 rfl rfl ?_
  refine z_aload_n (pc := 16) (j := 0) C dX4_moveChord_16 rfl rfl ?_
  refine z_getfield (pc := 17) (v := .ref A.v) C in_X4 rfl 0 (by decide) q2082 (fun _ z => z) fh2_0 rfl dX4_moveChord_17 ?_
  refine z_iload_n (pc := 20) (j := 1) C dX4_moveChord_20 rfl rfl ?_
  refine z_callS (pc := 21) (n := 1) (kc' := 0) (ks' := 0) C (m_chord C.t (x := i)) (lw_S q2203 q2204 q74 q2205) (by decide +kernel) ⟨by decide, by decide⟩ rfl rfl (Nat.le_of_ble_eq_true rfl) dX4_moveChord_21 (by omega) (by omega) (zpk (st' := [.int (iI (210 + 5 * i)), .ref A.v, .ref A.m, .int (iI 0), .int (iI k)]) rfl ?_) zrx
  refine z_iaload (pc := 24) (v := .int (iI x.1)) C fh2_1 (by omega) (mA_e (vE hx1 (by omega))) dX4_moveChord_24 ?_
  refine z_callV (pc := 25) (n := 1) (kc' := 0) (ks' := 0) C (m_len C.t ⟨fh2_0, fh2_1, fh2_2, fh2_3, fh2_4, fh2_5, fh2_6, fh2_7, (kh2.n gle_1 (List.not_mem_cons_of_ne_of_not_mem (Ne.symm (zneA gm_1 gle_1)) (List.not_mem_cons_of_ne_of_not_mem (zneT gle_1 gv_1 (by simp)) (List.not_mem_cons_of_ne_of_not_mem (zneT gle_1 gpa_1 (by simp)) (List.not_mem_cons_of_ne_of_not_mem (zneT gle_1 gtx_1 (by simp)) (List.not_mem_cons_of_ne_of_not_mem (zneT gle_1 gma_1 (by simp)) (List.not_mem_cons_of_ne_of_not_mem (zneT gle_1 gna_1 (by simp)) (List.not_mem_cons_of_ne_of_not_mem (zneT gle_1 gua_1 (by simp)) (List.not_mem_cons_of_ne_of_not_mem (zneT gle_1 gla_1 (by simp)) List.not_mem_nil))))))))), (kh2.n gqa_1 (List.not_mem_cons_of_ne_of_not_mem (Ne.symm (zneA gm_1 gqa_1)) (List.not_mem_cons_of_ne_of_not_mem (zneT gqa_1 gv_1 (by simp)) (List.not_mem_cons_of_ne_of_not_mem (zneT gqa_1 gpa_1 (by simp)) (List.not_mem_cons_of_ne_of_not_mem (zneT gqa_1 gtx_1 (by simp)) (List.not_mem_cons_of_ne_of_not_mem (zneT gqa_1 gma_1 (by simp)) (List.not_mem_cons_of_ne_of_not_mem (zneT gqa_1 gna_1 (by simp)) (List.not_mem_cons_of_ne_of_not_mem (zneT gqa_1 gua_1 (by simp)) (List.not_mem_cons_of_ne_of_not_mem (zneT gqa_1 gla_1 (by simp)) List.not_mem_nil))))))))), gd_1⟩ hS hsl (i := x.1) (by omega) ht) (lw_V q2254 q2256 qs38 q74 q2257) (by decide +kernel) ⟨by decide, by decide⟩ fh2_0 rfl rfl rfl (Nat.le_of_ble_eq_true rfl) dX4_moveChord_25 (by omega) (by omega) (zpk (st' := [.int (iI ((t.length : Nat) : Int)), .int (iI 0), .int (iI k)]) rfl ?_) zrx
  refine z_callS (pc := 28) (n := 3) (kc' := 0) (ks' := 0) C (m_in C.t (x := k) (a := 0) (b := ((t.length : Nat) : Int)) (by omega) (by decide) (by omega)) (lw_S q2164 q2165 q74 q2166) (by decide +kernel) ⟨by decide, by decide⟩ rfl rfl (Nat.le_of_ble_eq_true rfl) dX4_moveChord_28 (by omega) (by omega) (zpk (st' := [.int (iI (if 0 ≤ k ∧ k ≤ ((t.length : Nat) : Int) then 1 else 0))]) rfl ?_) zrx
  rw [show ((if 0 ≤ k ∧ k ≤ ((t.length : Nat) : Int) then 1 else 0) : Int) = 1 from if_pos (by omega)]
  show Z X h2 0 0 [(0, .ref A.m), (1, .int (iI i)), (2, .int (iI k))] 31 [.int (iI 1)]
  refine z_if_ne (pc := 31) (tgt := 40) C dX4_moveChord_31 (by decide) (by decide) (fun _ => ?_) (fun z => absurd z (by decide))
  refine z_aload_n (pc := 40) (j := 0) C dX4_moveChord_40 rfl rfl ?_
  refine z_callV (pc := 41) (n := 0) (kc' := 0) (ks' := 0) C (m_acts C.t ⟨fh2_0, fh2_1, fh2_2, fh2_3, fh2_4, fh2_5, fh2_6, fh2_7, (kh2.n gle_1 (List.not_mem_cons_of_ne_of_not_mem (Ne.symm (zneA gm_1 gle_1)) (List.not_mem_cons_of_ne_of_not_mem (zneT gle_1 gv_1 (by simp)) (List.not_mem_cons_of_ne_of_not_mem (zneT gle_1 gpa_1 (by simp)) (List.not_mem_cons_of_ne_of_not_mem (zneT gle_1 gtx_1 (by simp)) (List.not_mem_cons_of_ne_of_not_mem (zneT gle_1 gma_1 (by simp)) (List.not_mem_cons_of_ne_of_not_mem (zneT gle_1 gna_1 (by simp)) (List.not_mem_cons_of_ne_of_not_mem (zneT gle_1 gua_1 (by simp)) (List.not_mem_cons_of_ne_of_not_mem (zneT gle_1 gla_1 (by simp)) List.not_mem_nil))))))))), (kh2.n gqa_1 (List.not_mem_cons_of_ne_of_not_mem (Ne.symm (zneA gm_1 gqa_1)) (List.not_mem_cons_of_ne_of_not_mem (zneT gqa_1 gv_1 (by simp)) (List.not_mem_cons_of_ne_of_not_mem (zneT gqa_1 gpa_1 (by simp)) (List.not_mem_cons_of_ne_of_not_mem (zneT gqa_1 gtx_1 (by simp)) (List.not_mem_cons_of_ne_of_not_mem (zneT gqa_1 gma_1 (by simp)) (List.not_mem_cons_of_ne_of_not_mem (zneT gqa_1 gna_1 (by simp)) (List.not_mem_cons_of_ne_of_not_mem (zneT gqa_1 gua_1 (by simp)) (List.not_mem_cons_of_ne_of_not_mem (zneT gqa_1 gla_1 (by simp)) List.not_mem_nil))))))))), gd_1⟩ hS hsl hP hslh (by omega)) (lw_V q2206 q2208 qs34 q74 q2209) (by decide +kernel) ⟨by decide, by decide⟩ fh2_0 rfl rfl rfl (Nat.le_of_ble_eq_true rfl) dX4_moveChord_41 (by omega) (by omega) (zrk fun w h3 hp => ?_) zrx
  obtain ⟨P_5, rfl, hM_5, hPn_5, k4⟩ := hp
  have kh3 : zkeep h h3 [A.m, A.v, A.pa, A.tx, A.ma, A.na, A.ua, A.la] := zkeep.loc kh2 k4 (fun q hq => Or.inl (Or.inr hq))
  have hM_5 : mM h3 A (((hiP σ.hi σ.sh).length : Nat) : Int) ((σ.tx.length : Nat) : Int) σ.si σ.fl σ.wd 0 ap nt rr rq rb wh nd up lo V P_5 T M N U W := hM_5
  obtain ⟨gm_6, gv_6, gpa_6, gtx_6, gma_6, gna_6, gua_6, gla_6, gle_6, gqa_6, gd_6⟩ := id hM_5
  have hhl8 : (hiP σ.hi σ.sh).length ≤ 8 := hiP_l rhl
  have hslh2 : ∀ S ∈ hiP σ.hi σ.sh, shL S := hiP_m hslh hsl
  have rhi2 : ∀ S ∈ hiP σ.hi σ.sh, shR S := hiP_m rhi rsh
  show Z X h3 0 0 [(0, .ref A.m), (1, .int (iI i)), (2, .int (iI k))] 44 []
  refine z_aload_n (pc := 44) (j := 0) C dX4_moveChord_44 rfl rfl ?_
  refine z_getfield (pc := 45) (v := .ref A.v) C in_X4 rfl 0 (by decide) q2082 (fun _ z => z) gm_6 rfl dX4_moveChord_45 ?_
  refine z_iload_n (pc := 48) (j := 1) C dX4_moveChord_48 rfl rfl ?_
  refine z_callS (pc := 49) (n := 1) (kc' := 0) (ks' := 0) C (m_chord C.t (x := i)) (lw_S q2203 q2204 q74 q2205) (by decide +kernel) ⟨by decide, by decide⟩ rfl rfl (Nat.le_of_ble_eq_true rfl) dX4_moveChord_49 (by omega) (by omega) (zpk (st' := [.int (iI (210 + 5 * i)), .ref A.v]) rfl ?_) zrx
  refine z_iconst (pc := 52) C dX4_moveChord_52 ?_
  refine z_iadd (pc := 53) C dX4_moveChord_53 ?_
  refine z_iaload (pc := 54) (v := .int (iI x.1)) C gv_6 (by omega) (mA_e (vE hx1 (by omega))) dX4_moveChord_54 ?_
  refine z_istore_n (pc := 55) (L' := [(3, .int (iI x.1)), (0, .ref A.m), (1, .int (iI i)), (2, .int (iI k))]) C dX4_moveChord_55 rfl (by rw [hnL]; decide) rfl ?_
  refine z_aload_n (pc := 56) (j := 1) C dX4_moveChord_56 rfl rfl ?_
  refine z_getfield (pc := 57) (v := .ref A.v) C in_X4 rfl 0 (by decide) q2082 (fun _ z => z) gm_6 rfl dX4_moveChord_57 ?_
  refine z_iload_n (pc := 60) (j := 2) C dX4_moveChord_60 rfl rfl ?_
  refine z_callS (pc := 61) (n := 1) (kc' := 0) (ks' := 0) C (m_chord C.t (x := i)) (lw_S q2203 q2204 q74 q2205) (by decide +kernel) ⟨by decide, by decide⟩ rfl rfl (Nat.le_of_ble_eq_true rfl) dX4_moveChord_61 (by omega) (by omega) (zpk (st' := [.int (iI (210 + 5 * i)), .ref A.v]) rfl ?_) zrx
  refine z_iconst (pc := 64) C dX4_moveChord_64 ?_
  refine z_iadd (pc := 65) C dX4_moveChord_65 ?_
  refine z_iaload (pc := 66) (v := .int (iI x.2.2.1)) C gv_6 (by omega) (mA_e (vE hx3 (by omega))) dX4_moveChord_66 ?_
  refine z_istore (pc := 67) (L' := [(4, .int (iI x.2.2.1)), (3, .int (iI x.1)), (0, .ref A.m), (1, .int (iI i)), (2, .int (iI k))]) C dX4_moveChord_67 (by rw [hnL]; decide) rfl ?_
  refine z_aload_n (pc := 69) (j := 2) C dX4_moveChord_69 rfl rfl ?_
  refine z_getfield (pc := 70) (v := .ref A.v) C in_X4 rfl 0 (by decide) q2082 (fun _ z => z) gm_6 rfl dX4_moveChord_70 ?_
  refine z_iload_n (pc := 73) (j := 3) C dX4_moveChord_73 rfl rfl ?_
  refine z_callS (pc := 74) (n := 1) (kc' := 0) (ks' := 0) C (m_chord C.t (x := i)) (lw_S q2203 q2204 q74 q2205) (by decide +kernel) ⟨by decide, by decide⟩ rfl rfl (Nat.le_of_ble_eq_true rfl) dX4_moveChord_74 (by omega) (by omega) (zpk (st' := [.int (iI (210 + 5 * i)), .ref A.v]) rfl ?_) zrx
  refine z_iconst (pc := 77) C dX4_moveChord_77 ?_
  refine z_iadd (pc := 78) C dX4_moveChord_78 ?_
  refine z_iaload (pc := 79) (v := .int (iI x.2.2.2.1)) C gv_6 (by omega) (mA_e (vE hx4 (by omega))) dX4_moveChord_79 ?_
  refine z_istore (pc := 80) (L' := [(5, .int (iI x.2.2.2.1)), (4, .int (iI x.2.2.1)), (3, .int (iI x.1)), (0, .ref A.m), (1, .int (iI i)), (2, .int (iI k))]) C dX4_moveChord_80 (by rw [hnL]; decide) rfl ?_
  refine z_aload_n (pc := 82) (j := 3) C dX4_moveChord_82 rfl rfl ?_
  refine z_getfield (pc := 83) (v := .ref A.v) C in_X4 rfl 0 (by decide) q2082 (fun _ z => z) gm_6 rfl dX4_moveChord_83 ?_
  refine z_iload_n (pc := 86) (j := 4) C dX4_moveChord_86 rfl rfl ?_
  refine z_callS (pc := 87) (n := 1) (kc' := 0) (ks' := 0) C (m_chord C.t (x := i)) (lw_S q2203 q2204 q74 q2205) (by decide +kernel) ⟨by decide, by decide⟩ rfl rfl (Nat.le_of_ble_eq_true rfl) dX4_moveChord_87 (by omega) (by omega) (zpk (st' := [.int (iI (210 + 5 * i)), .ref A.v]) rfl ?_) zrx
  refine z_iconst (pc := 90) C dX4_moveChord_90 ?_
  refine z_iadd (pc := 91) C dX4_moveChord_91 ?_
  refine z_iaload (pc := 92) (v := .int (iI x.2.2.2.2)) C gv_6 (by omega) (mA_e (vE hx5 (by omega))) dX4_moveChord_92 ?_
  refine z_istore (pc := 93) (L' := [(6, .int (iI x.2.2.2.2)), (5, .int (iI x.2.2.2.1)), (4, .int (iI x.2.2.1)), (3, .int (iI x.1)), (0, .ref A.m), (1, .int (iI i)), (2, .int (iI k))]) C dX4_moveChord_93 (by rw [hnL]; decide) rfl ?_
  refine z_aload_n (pc := 95) (j := 4) C dX4_moveChord_95 rfl rfl ?_
  refine z_iload_n (pc := 96) (j := 5) C dX4_moveChord_96 rfl rfl ?_
  refine z_callV (pc := 97) (n := 1) (kc' := 0) (ks' := 0) C (m_closes C.t ⟨gm_6, gv_6, gpa_6, gtx_6, gma_6, gna_6, gua_6, gla_6, gle_6, gqa_6, gd_6⟩ (n := σ.sh.cs.length) hS.2.1 (i := i) (by omega) (by omega)) (lw_V q2342 q2344 qs49 q74 q2345) (by decide +kernel) ⟨by decide, by decide⟩ gm_6 rfl rfl rfl (Nat.le_of_ble_eq_true rfl) dX4_moveChord_97 (by omega) (by omega) (zrk fun w h7 hp => ?_) zrx
  obtain ⟨V_9, rfl, hM_9, hV_9, k8⟩ := hp
  have kh7 : zkeep h h7 [A.m, A.v, A.pa, A.tx, A.ma, A.na, A.ua, A.la] := zkeep.loc kh3 k8 (fun q hq => Or.inl (Or.inr hq))
  have hM_9 : mM h7 A (((hiP σ.hi σ.sh).length : Nat) : Int) ((σ.tx.length : Nat) : Int) σ.si σ.fl σ.wd 0 ap nt rr rq rb wh nd up lo V_9 P_5 T M N U W := hM_9
  obtain ⟨gm_10, gv_10, gpa_10, gtx_10, gma_10, gna_10, gua_10, gla_10, gle_10, gqa_10, gd_10⟩ := id hM_9
  have hSc : vS V_9 (σ.sh.ls, σ.sh.cs.eraseIdx (i).toNat, σ.sh.t, σ.sh.m) := vS.rm hS ⟨hsl2, by first | exact hsl3 | omega⟩ (by omega) hV_9
  have hcl9 : (σ.sh.cs.eraseIdx (i).toNat).length = σ.sh.cs.length - 1 := by rw [List.length_eraseIdx, if_pos (by omega)]
  show Z X h7 0 0 [(6, .int (iI x.2.2.2.2)), (5, .int (iI x.2.2.2.1)), (4, .int (iI x.2.2.1)), (3, .int (iI x.1)), (0, .ref A.m), (1, .int (iI i)), (2, .int (iI k))] 100 []
  refine z_aload_n (pc := 100) (j := 4) C dX4_moveChord_100 rfl rfl ?_
  refine z_iload_n (pc := 101) (j := 3) C dX4_moveChord_101 rfl rfl ?_
  refine z_iload_n (pc := 102) (j := 6) C dX4_moveChord_102 rfl rfl ?_
  refine z_callV (pc := 103) (n := 2) (kc' := 0) (ks' := 0) C (m_comes C.t ⟨gm_10, gv_10, gpa_10, gtx_10, gma_10, gna_10, gua_10, gla_10, gle_10, gqa_10, gd_10⟩ (S := ((σ.sh.ls, (σ.sh.cs.eraseIdx (i).toNat), σ.sh.t, σ.sh.m) : zSh)) hSc hLc hRc (ln := x.1) (co := k) (by omega) (by omega)) (lw_V q2330 q2332 qs47 q74 q2333) (by decide +kernel) ⟨by decide, by decide⟩ gm_10 rfl rfl rfl (Nat.le_of_ble_eq_true rfl) dX4_moveChord_103 (by omega) (by omega) (zpk (st' := [.int (iI (cmt x.1 k (σ.sh.cs.eraseIdx (i).toNat)))]) rfl ?_) zrx
  have hcm106 := cmt_r x.1 k (σ.sh.cs.eraseIdx (i).toNat)
  refine z_istore (pc := 106) (L' := [(7, .int (iI (cmt x.1 k (σ.sh.cs.eraseIdx (i).toNat)))), (6, .int (iI x.2.2.2.2)), (5, .int (iI x.2.2.2.1)), (4, .int (iI x.2.2.1)), (3, .int (iI x.1)), (0, .ref A.m), (1, .int (iI i)), (2, .int (iI k))]) C dX4_moveChord_106 (by rw [hnL]; decide) rfl ?_
  refine z_aload_n (pc := 108) (j := 5) C dX4_moveChord_108 rfl rfl ?_
  refine z_iload (pc := 109) (j := 0) C dX4_moveChord_109 rfl ?_
  refine z_callV (pc := 111) (n := 1) (kc' := 0) (ks' := 0) C (m_opens C.t ⟨gm_10, gv_10, gpa_10, gtx_10, gma_10, gna_10, gua_10, gla_10, gle_10, gqa_10, gd_10⟩ (n := (σ.sh.cs.eraseIdx (i).toNat).length) hSc.2.1 (i := cmt x.1 k (σ.sh.cs.eraseIdx (i).toNat)) (by omega) (by omega)) (lw_V q2334 q2336 qs48 q74 q2337) (by decide +kernel) ⟨by decide, by decide⟩ gm_10 rfl rfl rfl (Nat.le_of_ble_eq_true rfl) dX4_moveChord_111 (by omega) (by omega) (zrk fun w h11 hp => ?_) zrx
  obtain ⟨V_13, rfl, hM_13, hV_13, k12⟩ := hp
  have kh11 : zkeep h h11 [A.m, A.v, A.pa, A.tx, A.ma, A.na, A.ua, A.la] := zkeep.loc kh7 k12 (fun q hq => Or.inl (Or.inr hq))
  have hM_13 : mM h11 A (((hiP σ.hi σ.sh).length : Nat) : Int) ((σ.tx.length : Nat) : Int) σ.si σ.fl σ.wd 0 ap nt rr rq rb wh nd up lo V_13 P_5 T M N U W := hM_13
  obtain ⟨gm_14, gv_14, gpa_14, gtx_14, gma_14, gna_14, gua_14, gla_14, gle_14, gqa_14, gd_14⟩ := id hM_13
  show Z X h11 0 0 [(7, .int (iI (cmt x.1 k (σ.sh.cs.eraseIdx (i).toNat)))), (6, .int (iI x.2.2.2.2)), (5, .int (iI x.2.2.2.1)), (4, .int (iI x.2.2.1)), (3, .int (iI x.1)), (0, .ref A.m), (1, .int (iI i)), (2, .int (iI k))] 114 []
  refine z_aload_n (pc := 114) (j := 5) C dX4_moveChord_114 rfl rfl ?_
  refine z_getfield (pc := 115) (v := .ref A.v) C in_X4 rfl 0 (by decide) q2082 (fun _ z => z) gm_14 rfl dX4_moveChord_115 ?_
  refine z_iload (pc := 118) (j := 0) C dX4_moveChord_118 rfl ?_
  refine z_callS (pc := 120) (n := 1) (kc' := 0) (ks' := 0) C (m_chord C.t (x := cmt x.1 k (σ.sh.cs.eraseIdx (i).toNat))) (lw_S q2203 q2204 q74 q2205) (by decide +kernel) ⟨by decide, by decide⟩ rfl rfl (Nat.le_of_ble_eq_true rfl) dX4_moveChord_120 (by omega) (by omega) (zpk (st' := [.int (iI (210 + 5 * (cmt x.1 k (σ.sh.cs.eraseIdx (i).toNat)))), .ref A.v]) rfl ?_) zrx
  refine z_iconst (pc := 123) C dX4_moveChord_123 ?_
  refine z_iadd (pc := 124) C dX4_moveChord_124 ?_
  refine z_iload_n (pc := 125) (j := 4) C dX4_moveChord_125 rfl rfl ?_
  refine z_iastore (pc := 126) (f' := (mA (updI V_13 (Int.toNat ((210 + 5 * (cmt x.1 k (σ.sh.cs.eraseIdx (i).toNat))) + 0)) x.1))) C gv_14 (by omega) (mA_up _ _ _) dX4_moveChord_126 ?_
  refine Z.nm (fun h15 eh15 => ?_)
  have kh15 : zkeep h h15 [A.m, A.v, A.pa, A.tx, A.ma, A.na, A.ua, A.la] := by rw [eh15]; exact zkeep.up kh11 (Or.inl (by simp)) gv_14
  have fh15_0 : h15 A.v = some (true, .inl (.int, 620, (mA (updI V_13 (Int.toNat ((210 + 5 * (cmt x.1 k (σ.sh.cs.eraseIdx (i).toNat))) + 0)) x.1)))) := zse eh15
  have fh15_1 : h15 A.m = some (true, .inr (3, [.ref A.v, .ref A.pa, .int (iI (((hiP σ.hi σ.sh).length : Nat) : Int)), .ref A.tx, .int (iI ((σ.tx.length : Nat) : Int)), .int (iI σ.si), .int (iI σ.fl), .int (iI σ.wd), .int (iI 0), .ref A.le, .ref A.qa, .int (iI ap), .int (iI nt), .int (iI rr), .int (iI rq), .int (iI rb), .int (iI wh), .ref A.ma, .ref A.na, .int (iI nd), .ref A.ua, .ref A.la, .int (iI up), .int (iI lo)])) := zsn eh15 gm_14 (zneA gm_14 gv_14)
  have fh15_2 : h15 A.pa = some (true, .inl (.int, 4960, (mA P_5))) := zsn eh15 gpa_14 (Ne.symm gd_14.1)
  have fh15_3 : h15 A.tx = some (true, .inl (.int, 200, (mA T))) := zsn eh15 gtx_14 (Ne.symm gd_14.2.1)
  have fh15_4 : h15 A.ma = some (true, .inl (.int, 620, (mA M))) := zsn eh15 gma_14 (Ne.symm gd_14.2.2.1)
  have fh15_5 : h15 A.na = some (true, .inl (.int, 20, (mA N))) := zsn eh15 gna_14 (Ne.symm gd_14.2.2.2.1)
  have fh15_6 : h15 A.ua = some (true, .inl (.int, 1200, (mA U))) := zsn eh15 gua_14 (Ne.symm gd_14.2.2.2.2.1)
  have fh15_7 : h15 A.la = some (true, .inl (.int, 1200, (mA W))) := zsn eh15 gla_14 (Ne.symm gd_14.2.2.2.2.2.1)
  have fh15_8 : h15 A.le = some (true, .inl (.char, 7, (mA ltF))) := zsn eh15 gle_14 (zneT gle_14 gv_14 (by simp))
  have fh15_9 : h15 A.qa = some (true, .inl (.char, 30, (mA qaF))) := zsn eh15 gqa_14 (zneT gqa_14 gv_14 (by simp))
  refine z_aload_n (pc := 127) (j := 5) C dX4_moveChord_127 rfl rfl ?_
  refine z_getfield (pc := 128) (v := .ref A.v) C in_X4 rfl 0 (by decide) q2082 (fun _ z => z) fh15_1 rfl dX4_moveChord_128 ?_
  refine z_iload (pc := 131) (j := 0) C dX4_moveChord_131 rfl ?_
  refine z_callS (pc := 133) (n := 1) (kc' := 0) (ks' := 0) C (m_chord C.t (x := cmt x.1 k (σ.sh.cs.eraseIdx (i).toNat))) (lw_S q2203 q2204 q74 q2205) (by decide +kernel) ⟨by decide, by decide⟩ rfl rfl (Nat.le_of_ble_eq_true rfl) dX4_moveChord_133 (by omega) (by omega) (zpk (st' := [.int (iI (210 + 5 * (cmt x.1 k (σ.sh.cs.eraseIdx (i).toNat)))), .ref A.v]) rfl ?_) zrx
  refine z_iconst (pc := 136) C dX4_moveChord_136 ?_
  refine z_iadd (pc := 137) C dX4_moveChord_137 ?_
  refine z_iload_n (pc := 138) (j := 7) C dX4_moveChord_138 rfl rfl ?_
  refine z_iastore (pc := 139) (f' := (mA (updI (updI V_13 (Int.toNat ((210 + 5 * (cmt x.1 k (σ.sh.cs.eraseIdx (i).toNat))) + 0)) x.1) (Int.toNat ((210 + 5 * (cmt x.1 k (σ.sh.cs.eraseIdx (i).toNat))) + 1)) k))) C fh15_0 (by omega) (mA_up _ _ _) dX4_moveChord_139 ?_
  refine Z.nm (fun h16 eh16 => ?_)
  have kh16 : zkeep h h16 [A.m, A.v, A.pa, A.tx, A.ma, A.na, A.ua, A.la] := by rw [eh16]; exact zkeep.up kh15 (Or.inl (by simp)) fh15_0
  have fh16_0 : h16 A.v = some (true, .inl (.int, 620, (mA (updI (updI V_13 (Int.toNat ((210 + 5 * (cmt x.1 k (σ.sh.cs.eraseIdx (i).toNat))) + 0)) x.1) (Int.toNat ((210 + 5 * (cmt x.1 k (σ.sh.cs.eraseIdx (i).toNat))) + 1)) k)))) := zse eh16
  have fh16_1 : h16 A.m = some (true, .inr (3, [.ref A.v, .ref A.pa, .int (iI (((hiP σ.hi σ.sh).length : Nat) : Int)), .ref A.tx, .int (iI ((σ.tx.length : Nat) : Int)), .int (iI σ.si), .int (iI σ.fl), .int (iI σ.wd), .int (iI 0), .ref A.le, .ref A.qa, .int (iI ap), .int (iI nt), .int (iI rr), .int (iI rq), .int (iI rb), .int (iI wh), .ref A.ma, .ref A.na, .int (iI nd), .ref A.ua, .ref A.la, .int (iI up), .int (iI lo)])) := zsn eh16 fh15_1 (zneA fh15_1 fh15_0)
  have fh16_2 : h16 A.pa = some (true, .inl (.int, 4960, (mA P_5))) := zsn eh16 fh15_2 (Ne.symm gd_14.1)
  have fh16_3 : h16 A.tx = some (true, .inl (.int, 200, (mA T))) := zsn eh16 fh15_3 (Ne.symm gd_14.2.1)
  have fh16_4 : h16 A.ma = some (true, .inl (.int, 620, (mA M))) := zsn eh16 fh15_4 (Ne.symm gd_14.2.2.1)
  have fh16_5 : h16 A.na = some (true, .inl (.int, 20, (mA N))) := zsn eh16 fh15_5 (Ne.symm gd_14.2.2.2.1)
  have fh16_6 : h16 A.ua = some (true, .inl (.int, 1200, (mA U))) := zsn eh16 fh15_6 (Ne.symm gd_14.2.2.2.2.1)
  have fh16_7 : h16 A.la = some (true, .inl (.int, 1200, (mA W))) := zsn eh16 fh15_7 (Ne.symm gd_14.2.2.2.2.2.1)
  have fh16_8 : h16 A.le = some (true, .inl (.char, 7, (mA ltF))) := zsn eh16 fh15_8 (zneT fh15_8 fh15_0 (by simp))
  have fh16_9 : h16 A.qa = some (true, .inl (.char, 30, (mA qaF))) := zsn eh16 fh15_9 (zneT fh15_9 fh15_0 (by simp))
  refine z_aload_n (pc := 140) (j := 5) C dX4_moveChord_140 rfl rfl ?_
  refine z_getfield (pc := 141) (v := .ref A.v) C in_X4 rfl 0 (by decide) q2082 (fun _ z => z) fh16_1 rfl dX4_moveChord_141 ?_
  refine z_iload (pc := 144) (j := 0) C dX4_moveChord_144 rfl ?_
  refine z_callS (pc := 146) (n := 1) (kc' := 0) (ks' := 0) C (m_chord C.t (x := cmt x.1 k (σ.sh.cs.eraseIdx (i).toNat))) (lw_S q2203 q2204 q74 q2205) (by decide +kernel) ⟨by decide, by decide⟩ rfl rfl (Nat.le_of_ble_eq_true rfl) dX4_moveChord_146 (by omega) (by omega) (zpk (st' := [.int (iI (210 + 5 * (cmt x.1 k (σ.sh.cs.eraseIdx (i).toNat)))), .ref A.v]) rfl ?_) zrx
  refine z_iconst (pc := 149) C dX4_moveChord_149 ?_
  refine z_iadd (pc := 150) C dX4_moveChord_150 ?_
  refine z_iload (pc := 151) (j := 3) C dX4_moveChord_151 rfl ?_
  refine z_iastore (pc := 153) (f' := (mA (updI (updI (updI V_13 (Int.toNat ((210 + 5 * (cmt x.1 k (σ.sh.cs.eraseIdx (i).toNat))) + 0)) x.1) (Int.toNat ((210 + 5 * (cmt x.1 k (σ.sh.cs.eraseIdx (i).toNat))) + 1)) k) (Int.toNat ((210 + 5 * (cmt x.1 k (σ.sh.cs.eraseIdx (i).toNat))) + 2)) x.2.2.1))) C fh16_0 (by omega) (mA_up _ _ _) dX4_moveChord_153 ?_
  refine Z.nm (fun h17 eh17 => ?_)
  have kh17 : zkeep h h17 [A.m, A.v, A.pa, A.tx, A.ma, A.na, A.ua, A.la] := by rw [eh17]; exact zkeep.up kh16 (Or.inl (by simp)) fh16_0
  have fh17_0 : h17 A.v = some (true, .inl (.int, 620, (mA (updI (updI (updI V_13 (Int.toNat ((210 + 5 * (cmt x.1 k (σ.sh.cs.eraseIdx (i).toNat))) + 0)) x.1) (Int.toNat ((210 + 5 * (cmt x.1 k (σ.sh.cs.eraseIdx (i).toNat))) + 1)) k) (Int.toNat ((210 + 5 * (cmt x.1 k (σ.sh.cs.eraseIdx (i).toNat))) + 2)) x.2.2.1)))) := zse eh17
  have fh17_1 : h17 A.m = some (true, .inr (3, [.ref A.v, .ref A.pa, .int (iI (((hiP σ.hi σ.sh).length : Nat) : Int)), .ref A.tx, .int (iI ((σ.tx.length : Nat) : Int)), .int (iI σ.si), .int (iI σ.fl), .int (iI σ.wd), .int (iI 0), .ref A.le, .ref A.qa, .int (iI ap), .int (iI nt), .int (iI rr), .int (iI rq), .int (iI rb), .int (iI wh), .ref A.ma, .ref A.na, .int (iI nd), .ref A.ua, .ref A.la, .int (iI up), .int (iI lo)])) := zsn eh17 fh16_1 (zneA fh16_1 fh16_0)
  have fh17_2 : h17 A.pa = some (true, .inl (.int, 4960, (mA P_5))) := zsn eh17 fh16_2 (Ne.symm gd_14.1)
  have fh17_3 : h17 A.tx = some (true, .inl (.int, 200, (mA T))) := zsn eh17 fh16_3 (Ne.symm gd_14.2.1)
  have fh17_4 : h17 A.ma = some (true, .inl (.int, 620, (mA M))) := zsn eh17 fh16_4 (Ne.symm gd_14.2.2.1)
  have fh17_5 : h17 A.na = some (true, .inl (.int, 20, (mA N))) := zsn eh17 fh16_5 (Ne.symm gd_14.2.2.2.1)
  have fh17_6 : h17 A.ua = some (true, .inl (.int, 1200, (mA U))) := zsn eh17 fh16_6 (Ne.symm gd_14.2.2.2.2.1)
  have fh17_7 : h17 A.la = some (true, .inl (.int, 1200, (mA W))) := zsn eh17 fh16_7 (Ne.symm gd_14.2.2.2.2.2.1)
  have fh17_8 : h17 A.le = some (true, .inl (.char, 7, (mA ltF))) := zsn eh17 fh16_8 (zneT fh16_8 fh16_0 (by simp))
  have fh17_9 : h17 A.qa = some (true, .inl (.char, 30, (mA qaF))) := zsn eh17 fh16_9 (zneT fh16_9 fh16_0 (by simp))
  refine z_aload_n (pc := 154) (j := 5) C dX4_moveChord_154 rfl rfl ?_
  refine z_getfield (pc := 155) (v := .ref A.v) C in_X4 rfl 0 (by decide) q2082 (fun _ z => z) fh17_1 rfl dX4_moveChord_155 ?_
  refine z_iload (pc := 158) (j := 0) C dX4_moveChord_158 rfl ?_
  refine z_callS (pc := 160) (n := 1) (kc' := 0) (ks' := 0) C (m_chord C.t (x := cmt x.1 k (σ.sh.cs.eraseIdx (i).toNat))) (lw_S q2203 q2204 q74 q2205) (by decide +kernel) ⟨by decide, by decide⟩ rfl rfl (Nat.le_of_ble_eq_true rfl) dX4_moveChord_160 (by omega) (by omega) (zpk (st' := [.int (iI (210 + 5 * (cmt x.1 k (σ.sh.cs.eraseIdx (i).toNat)))), .ref A.v]) rfl ?_) zrx
  refine z_iconst (pc := 163) C dX4_moveChord_163 ?_
  refine z_iadd (pc := 164) C dX4_moveChord_164 ?_
  refine z_iload (pc := 165) (j := 2) C dX4_moveChord_165 rfl ?_
  refine z_iastore (pc := 167) (f' := (mA (updI (updI (updI (updI V_13 (Int.toNat ((210 + 5 * (cmt x.1 k (σ.sh.cs.eraseIdx (i).toNat))) + 0)) x.1) (Int.toNat ((210 + 5 * (cmt x.1 k (σ.sh.cs.eraseIdx (i).toNat))) + 1)) k) (Int.toNat ((210 + 5 * (cmt x.1 k (σ.sh.cs.eraseIdx (i).toNat))) + 2)) x.2.2.1) (Int.toNat ((210 + 5 * (cmt x.1 k (σ.sh.cs.eraseIdx (i).toNat))) + 3)) x.2.2.2.1))) C fh17_0 (by omega) (mA_up _ _ _) dX4_moveChord_167 ?_
  refine Z.nm (fun h18 eh18 => ?_)
  have kh18 : zkeep h h18 [A.m, A.v, A.pa, A.tx, A.ma, A.na, A.ua, A.la] := by rw [eh18]; exact zkeep.up kh17 (Or.inl (by simp)) fh17_0
  have fh18_0 : h18 A.v = some (true, .inl (.int, 620, (mA (updI (updI (updI (updI V_13 (Int.toNat ((210 + 5 * (cmt x.1 k (σ.sh.cs.eraseIdx (i).toNat))) + 0)) x.1) (Int.toNat ((210 + 5 * (cmt x.1 k (σ.sh.cs.eraseIdx (i).toNat))) + 1)) k) (Int.toNat ((210 + 5 * (cmt x.1 k (σ.sh.cs.eraseIdx (i).toNat))) + 2)) x.2.2.1) (Int.toNat ((210 + 5 * (cmt x.1 k (σ.sh.cs.eraseIdx (i).toNat))) + 3)) x.2.2.2.1)))) := zse eh18
  have fh18_1 : h18 A.m = some (true, .inr (3, [.ref A.v, .ref A.pa, .int (iI (((hiP σ.hi σ.sh).length : Nat) : Int)), .ref A.tx, .int (iI ((σ.tx.length : Nat) : Int)), .int (iI σ.si), .int (iI σ.fl), .int (iI σ.wd), .int (iI 0), .ref A.le, .ref A.qa, .int (iI ap), .int (iI nt), .int (iI rr), .int (iI rq), .int (iI rb), .int (iI wh), .ref A.ma, .ref A.na, .int (iI nd), .ref A.ua, .ref A.la, .int (iI up), .int (iI lo)])) := zsn eh18 fh17_1 (zneA fh17_1 fh17_0)
  have fh18_2 : h18 A.pa = some (true, .inl (.int, 4960, (mA P_5))) := zsn eh18 fh17_2 (Ne.symm gd_14.1)
  have fh18_3 : h18 A.tx = some (true, .inl (.int, 200, (mA T))) := zsn eh18 fh17_3 (Ne.symm gd_14.2.1)
  have fh18_4 : h18 A.ma = some (true, .inl (.int, 620, (mA M))) := zsn eh18 fh17_4 (Ne.symm gd_14.2.2.1)
  have fh18_5 : h18 A.na = some (true, .inl (.int, 20, (mA N))) := zsn eh18 fh17_5 (Ne.symm gd_14.2.2.2.1)
  have fh18_6 : h18 A.ua = some (true, .inl (.int, 1200, (mA U))) := zsn eh18 fh17_6 (Ne.symm gd_14.2.2.2.2.1)
  have fh18_7 : h18 A.la = some (true, .inl (.int, 1200, (mA W))) := zsn eh18 fh17_7 (Ne.symm gd_14.2.2.2.2.2.1)
  have fh18_8 : h18 A.le = some (true, .inl (.char, 7, (mA ltF))) := zsn eh18 fh17_8 (zneT fh17_8 fh17_0 (by simp))
  have fh18_9 : h18 A.qa = some (true, .inl (.char, 30, (mA qaF))) := zsn eh18 fh17_9 (zneT fh17_9 fh17_0 (by simp))
  refine z_aload_n (pc := 168) (j := 5) C dX4_moveChord_168 rfl rfl ?_
  refine z_getfield (pc := 169) (v := .ref A.v) C in_X4 rfl 0 (by decide) q2082 (fun _ z => z) fh18_1 rfl dX4_moveChord_169 ?_
  refine z_iload (pc := 172) (j := 0) C dX4_moveChord_172 rfl ?_
  refine z_callS (pc := 174) (n := 1) (kc' := 0) (ks' := 0) C (m_chord C.t (x := cmt x.1 k (σ.sh.cs.eraseIdx (i).toNat))) (lw_S q2203 q2204 q74 q2205) (by decide +kernel) ⟨by decide, by decide⟩ rfl rfl (Nat.le_of_ble_eq_true rfl) dX4_moveChord_174 (by omega) (by omega) (zpk (st' := [.int (iI (210 + 5 * (cmt x.1 k (σ.sh.cs.eraseIdx (i).toNat)))), .ref A.v]) rfl ?_) zrx
  refine z_iconst (pc := 177) C dX4_moveChord_177 ?_
  refine z_iadd (pc := 178) C dX4_moveChord_178 ?_
  refine z_iload (pc := 179) (j := 1) C dX4_moveChord_179 rfl ?_
  refine z_iastore (pc := 181) (f' := (mA (updI (updI (updI (updI (updI V_13 (Int.toNat ((210 + 5 * (cmt x.1 k (σ.sh.cs.eraseIdx (i).toNat))) + 0)) x.1) (Int.toNat ((210 + 5 * (cmt x.1 k (σ.sh.cs.eraseIdx (i).toNat))) + 1)) k) (Int.toNat ((210 + 5 * (cmt x.1 k (σ.sh.cs.eraseIdx (i).toNat))) + 2)) x.2.2.1) (Int.toNat ((210 + 5 * (cmt x.1 k (σ.sh.cs.eraseIdx (i).toNat))) + 3)) x.2.2.2.1) (Int.toNat ((210 + 5 * (cmt x.1 k (σ.sh.cs.eraseIdx (i).toNat))) + 4)) x.2.2.2.2))) C fh18_0 (by omega) (mA_up _ _ _) dX4_moveChord_181 ?_
  refine Z.nm (fun h19 eh19 => ?_)
  have kh19 : zkeep h h19 [A.m, A.v, A.pa, A.tx, A.ma, A.na, A.ua, A.la] := by rw [eh19]; exact zkeep.up kh18 (Or.inl (by simp)) fh18_0
  have fh19_0 : h19 A.v = some (true, .inl (.int, 620, (mA (updI (updI (updI (updI (updI V_13 (Int.toNat ((210 + 5 * (cmt x.1 k (σ.sh.cs.eraseIdx (i).toNat))) + 0)) x.1) (Int.toNat ((210 + 5 * (cmt x.1 k (σ.sh.cs.eraseIdx (i).toNat))) + 1)) k) (Int.toNat ((210 + 5 * (cmt x.1 k (σ.sh.cs.eraseIdx (i).toNat))) + 2)) x.2.2.1) (Int.toNat ((210 + 5 * (cmt x.1 k (σ.sh.cs.eraseIdx (i).toNat))) + 3)) x.2.2.2.1) (Int.toNat ((210 + 5 * (cmt x.1 k (σ.sh.cs.eraseIdx (i).toNat))) + 4)) x.2.2.2.2)))) := zse eh19
  have fh19_1 : h19 A.m = some (true, .inr (3, [.ref A.v, .ref A.pa, .int (iI (((hiP σ.hi σ.sh).length : Nat) : Int)), .ref A.tx, .int (iI ((σ.tx.length : Nat) : Int)), .int (iI σ.si), .int (iI σ.fl), .int (iI σ.wd), .int (iI 0), .ref A.le, .ref A.qa, .int (iI ap), .int (iI nt), .int (iI rr), .int (iI rq), .int (iI rb), .int (iI wh), .ref A.ma, .ref A.na, .int (iI nd), .ref A.ua, .ref A.la, .int (iI up), .int (iI lo)])) := zsn eh19 fh18_1 (zneA fh18_1 fh18_0)
  have fh19_2 : h19 A.pa = some (true, .inl (.int, 4960, (mA P_5))) := zsn eh19 fh18_2 (Ne.symm gd_14.1)
  have fh19_3 : h19 A.tx = some (true, .inl (.int, 200, (mA T))) := zsn eh19 fh18_3 (Ne.symm gd_14.2.1)
  have fh19_4 : h19 A.ma = some (true, .inl (.int, 620, (mA M))) := zsn eh19 fh18_4 (Ne.symm gd_14.2.2.1)
  have fh19_5 : h19 A.na = some (true, .inl (.int, 20, (mA N))) := zsn eh19 fh18_5 (Ne.symm gd_14.2.2.2.1)
  have fh19_6 : h19 A.ua = some (true, .inl (.int, 1200, (mA U))) := zsn eh19 fh18_6 (Ne.symm gd_14.2.2.2.2.1)
  have fh19_7 : h19 A.la = some (true, .inl (.int, 1200, (mA W))) := zsn eh19 fh18_7 (Ne.symm gd_14.2.2.2.2.2.1)
  have fh19_8 : h19 A.le = some (true, .inl (.char, 7, (mA ltF))) := zsn eh19 fh18_8 (zneT fh18_8 fh18_0 (by simp))
  have fh19_9 : h19 A.qa = some (true, .inl (.char, 30, (mA qaF))) := zsn eh19 fh18_9 (zneT fh18_9 fh18_0 (by simp))
  refine z_iload (pc := 182) (j := 0) C dX4_moveChord_182 rfl ?_
  have hz9 : (zSh.cs (σ.sh.ls, (σ.sh.cs.eraseIdx (i).toNat), σ.sh.t, σ.sh.m)).length = (σ.sh.cs.eraseIdx (i).toNat).length := rfl
  have hSn : vS (updI (updI (updI (updI (updI V_13 (Int.toNat ((210 + 5 * (cmt x.1 k (σ.sh.cs.eraseIdx (i).toNat))) + 0)) x.1) (Int.toNat ((210 + 5 * (cmt x.1 k (σ.sh.cs.eraseIdx (i).toNat))) + 1)) k) (Int.toNat ((210 + 5 * (cmt x.1 k (σ.sh.cs.eraseIdx (i).toNat))) + 2)) x.2.2.1) (Int.toNat ((210 + 5 * (cmt x.1 k (σ.sh.cs.eraseIdx (i).toNat))) + 3)) x.2.2.2.1) (Int.toNat ((210 + 5 * (cmt x.1 k (σ.sh.cs.eraseIdx (i).toNat))) + 4)) x.2.2.2.2) (σ.sh.ls, (σ.sh.cs.eraseIdx (i).toNat).take (cmt x.1 k (σ.sh.cs.eraseIdx (i).toNat)).toNat ++ ((x.1, k, x.2.2.1, x.2.2.2.1, x.2.2.2.2) : zCh) :: (σ.sh.cs.eraseIdx (i).toNat).drop (cmt x.1 k (σ.sh.cs.eraseIdx (i).toNat)).toNat, σ.sh.t, σ.sh.m) := vS.ins hSc ⟨hsl2, by show (σ.sh.cs.eraseIdx i.toNat).length < 40; omega⟩ (by show (cmt x.1 k (σ.sh.cs.eraseIdx (i).toNat)).toNat ≤ (σ.sh.cs.eraseIdx (i).toNat).length; omega) (by simp only [updI, if_true] <;> (repeat' split) <;> first | rfl | omega | (rw [hV_13]; (repeat' split) <;> first | rfl | omega)) (fun j h1 h2 => by simp only [updI, if_true] <;> (repeat' split) <;> first | omega | (rw [hV_13]; (repeat' split) <;> first | rfl | omega)) (fun j h1 h2 => by simp only [updI, if_true] <;> (repeat' split) <;> first | omega | (rw [hV_13]; (repeat' split) <;> first | rfl | omega)) ⟨(by simp only [updI, if_true] <;> (repeat' split) <;> first | rfl | omega | (rw [hV_13]; (repeat' split) <;> first | rfl | omega)), (by simp only [updI, if_true] <;> (repeat' split) <;> first | rfl | omega | (rw [hV_13]; (repeat' split) <;> first | rfl | omega)), (by simp only [updI, if_true] <;> (repeat' split) <;> first | rfl | omega | (rw [hV_13]; (repeat' split) <;> first | rfl | omega)), (by simp only [updI, if_true] <;> (repeat' split) <;> first | rfl | omega | (rw [hV_13]; (repeat' split) <;> first | rfl | omega)), (by simp only [updI, if_true] <;> (repeat' split) <;> first | rfl | omega | (rw [hV_13]; (repeat' split) <;> first | rfl | omega))⟩
  have hci := cmt_i (ln := x.1) (co := k) (a := x.2.2.1) (b := x.2.2.2.1) (d := x.2.2.2.2) hsoc
  have e9 : (σ.sh.cs.eraseIdx i.toNat).take (cmt x.1 k (σ.sh.cs.eraseIdx i.toNat)).toNat ++ ((x.1, k, x.2.2.1, x.2.2.2.1, x.2.2.2.2) : zCh) :: (σ.sh.cs.eraseIdx i.toNat).drop (cmt x.1 k (σ.sh.cs.eraseIdx i.toNat)).toNat = zins ((x.1, k, x.2.2.1, x.2.2.2.1, x.2.2.2.2) : zCh) (σ.sh.cs.eraseIdx i.toNat) := by rw [hci]; rfl
  have hSz : vS (updI (updI (updI (updI (updI V_13 (Int.toNat ((210 + 5 * (cmt x.1 k (σ.sh.cs.eraseIdx (i).toNat))) + 0)) x.1) (Int.toNat ((210 + 5 * (cmt x.1 k (σ.sh.cs.eraseIdx (i).toNat))) + 1)) k) (Int.toNat ((210 + 5 * (cmt x.1 k (σ.sh.cs.eraseIdx (i).toNat))) + 2)) x.2.2.1) (Int.toNat ((210 + 5 * (cmt x.1 k (σ.sh.cs.eraseIdx (i).toNat))) + 3)) x.2.2.2.1) (Int.toNat ((210 + 5 * (cmt x.1 k (σ.sh.cs.eraseIdx (i).toNat))) + 4)) x.2.2.2.2) (σ.sh.ls, zins ((x.1, k, x.2.2.1, x.2.2.2.1, x.2.2.2.2) : zCh) (σ.sh.cs.eraseIdx i.toNat), σ.sh.t, σ.sh.m) := by
    rw [e9] at hSn
    exact hSn
  have hRn : shR (σ.sh.ls, zins ((x.1, k, x.2.2.1, x.2.2.2.1, x.2.2.2.2) : zCh) (σ.sh.cs.eraseIdx i.toNat), σ.sh.t, σ.sh.m) := ⟨by show (zins ((x.1, k, x.2.2.1, x.2.2.2.1, x.2.2.2.2) : zCh) (σ.sh.cs.eraseIdx i.toNat)).length ≤ 40; rw [zins_l]; omega, fun c hc => (zins_m hc).elim (fun e => e ▸ ⟨xr1, ⟨by show (0 : Int) ≤ k; omega, by show k ≤ 300; omega⟩, xr3, xr4, xr5⟩) (fun hc => rcr c (List.mem_of_mem_eraseIdx hc)), rll, rlt, rkt, rkm, rks⟩
  exact z_ireturn (pc := 184) C (by rw [hXp]; exact ⟨_, rfl, (by rw [hci]), ⟨ap, nt, rr, rq, rb, wh, nd, up, lo, (updI (updI (updI (updI (updI V_13 (Int.toNat ((210 + 5 * (cmt x.1 k (σ.sh.cs.eraseIdx (i).toNat))) + 0)) x.1) (Int.toNat ((210 + 5 * (cmt x.1 k (σ.sh.cs.eraseIdx (i).toNat))) + 1)) k) (Int.toNat ((210 + 5 * (cmt x.1 k (σ.sh.cs.eraseIdx (i).toNat))) + 2)) x.2.2.1) (Int.toNat ((210 + 5 * (cmt x.1 k (σ.sh.cs.eraseIdx (i).toNat))) + 3)) x.2.2.2.1) (Int.toNat ((210 + 5 * (cmt x.1 k (σ.sh.cs.eraseIdx (i).toNat))) + 4)) x.2.2.2.2), P_5, T, M, N, U, W, ⟨fh19_1, fh19_0, fh19_2, fh19_3, fh19_4, fh19_5, fh19_6, fh19_7, fh19_8, fh19_9, gd_14⟩, hSz, hPn_5, htq, ⟨rsi, rff, rwd, rtl, rtx, hRn, rhi2, hhl8⟩, (shL_ins hsl (by omega)), hslh2⟩, kh19⟩) dX4_moveChord_184
set_option maxHeartbeats 4000000 in
theorem md_moveChord_b1 {l : Launch} (hl : l.stackTraces = false) {Γ : zCx} {h : zH} {A : zMA} {σ : zSt} {th : Int} (hW : mdW h A σ th) {i : Int} (hi : -2147483648 ≤ i ∧ i ≤ 2147483647) (hb : ¬ (0 ≤ i ∧ i < (σ.sh.cs.length : Nat))) {k : Int}  : zMet l yX4_moveChord (ws_ yX4_moveChord cX4_moveChord 8 (some .int)) ({ frames := 2, cells := 0, slots := 0, locals := 43 }) Γ h [.ref A.m, .int (iI i), .int (iI k)] (zrt (fun w h' => w = some (.int (iI (0))) ∧ mdW h' A σ 1 ∧ zkeep h h' [A.m, A.v, A.pa, A.tx, A.ma, A.na, A.ua, A.la])) 0 0 := by
  refine zMet.of (cc := cX4_moveChord) hl (plainFor_of_name (by decide +kernel)) (Nat.le_of_ble_eq_true rfl) ?_
  intro X hXl hXΓ hXp C hnm hnL
  have C : zC X cX4_moveChord RX4 (some .int) 2 43 [] := C
  have hnL : X.2.1.2.2.2.2 = 8 := hnL
  subst hXl hXΓ
  show Z X h 0 0 [(0, .ref A.m), (1, .int (iI i)), (2, .int (iI k))] 0 []
  obtain ⟨ap, nt, rr, rq, rb, wh, nd, up, lo, V, P, T, M, N, U, W, hM, hS, hP, htq, hR, hsl, hslh⟩ := id hW
  obtain ⟨rsi, rff, rwd, rtl, rtx, rsh, rhi, rhl⟩ := id hR
  obtain ⟨rcl, rcr, rll, rlt, rkt, rkm, rks⟩ := id rsh
  obtain ⟨hsl1, hsl2, hsl3⟩ := id hsl
  have hTr := rtx
  have hTl := rtl
  obtain ⟨gm_1, gv_1, gpa_1, gtx_1, gma_1, gna_1, gua_1, gla_1, gle_1, gqa_1, gd_1⟩ := id hM
  refine z_aload_n (pc := 0) (j := 0) C dX4_moveChord_0 rfl rfl ?_
  refine z_iconst (pc := 1) C dX4_moveChord_1 ?_
  refine z_putfield (pc := 2) (fs' := [.ref A.v, .ref A.pa, .int (iI ((σ.hi.length : Nat) : Int)), .ref A.tx, .int (iI ((σ.tx.length : Nat) : Int)), .int (iI σ.si), .int (iI σ.fl), .int (iI σ.wd), .int (iI 0), .ref A.le, .ref A.qa, .int (iI ap), .int (iI nt), .int (iI rr), .int (iI rq), .int (iI rb), .int (iI wh), .ref A.ma, .ref A.na, .int (iI nd), .ref A.ua, .ref A.la, .int (iI up), .int (iI lo)]) C in_X4 tyX4 tyX4_ok nmX4 rfl 8 (by decide) q2090 (fun _ z => z) rfl rfl rfl (Nat.le_of_ble_eq_true rfl) gm_1 rfl dX4_moveChord_2 ?_
  refine Z.nm (fun h2 eh2 => ?_)
  have kh2 : zkeep h h2 [A.m, A.v, A.pa, A.tx, A.ma, A.na, A.ua, A.la] := by rw [eh2]; exact zkeep.up zkeep.rf (Or.inl (by simp)) gm_1
  have fh2_0 : h2 A.m = some (true, .inr (3, [.ref A.v, .ref A.pa, .int (iI ((σ.hi.length : Nat) : Int)), .ref A.tx, .int (iI ((σ.tx.length : Nat) : Int)), .int (iI σ.si), .int (iI σ.fl), .int (iI σ.wd), .int (iI 0), .ref A.le, .ref A.qa, .int (iI ap), .int (iI nt), .int (iI rr), .int (iI rq), .int (iI rb), .int (iI wh), .ref A.ma, .ref A.na, .int (iI nd), .ref A.ua, .ref A.la, .int (iI up), .int (iI lo)])) := zse eh2
  have fh2_1 : h2 A.v = some (true, .inl (.int, 620, (mA V))) := zsn eh2 gv_1 (Ne.symm (zneA gm_1 gv_1))
  have fh2_2 : h2 A.pa = some (true, .inl (.int, 4960, (mA P))) := zsn eh2 gpa_1 (Ne.symm (zneA gm_1 gpa_1))
  have fh2_3 : h2 A.tx = some (true, .inl (.int, 200, (mA T))) := zsn eh2 gtx_1 (Ne.symm (zneA gm_1 gtx_1))
  have fh2_4 : h2 A.ma = some (true, .inl (.int, 620, (mA M))) := zsn eh2 gma_1 (Ne.symm (zneA gm_1 gma_1))
  have fh2_5 : h2 A.na = some (true, .inl (.int, 20, (mA N))) := zsn eh2 gna_1 (Ne.symm (zneA gm_1 gna_1))
  have fh2_6 : h2 A.ua = some (true, .inl (.int, 1200, (mA U))) := zsn eh2 gua_1 (Ne.symm (zneA gm_1 gua_1))
  have fh2_7 : h2 A.la = some (true, .inl (.int, 1200, (mA W))) := zsn eh2 gla_1 (Ne.symm (zneA gm_1 gla_1))
  refine z_aload_n (pc := 5) (j := 0) C dX4_moveChord_5 rfl rfl ?_
  refine z_iload_n (pc := 6) (j := 1) C dX4_moveChord_6 rfl rfl ?_
  refine z_callV (pc := 7) (n := 1) (kc' := 0) (ks' := 0) C (m_isChord C.t ⟨fh2_0, fh2_1, fh2_2, fh2_3, fh2_4, fh2_5, fh2_6, fh2_7, (kh2.n gle_1 (List.not_mem_cons_of_ne_of_not_mem (Ne.symm (zneA gm_1 gle_1)) (List.not_mem_cons_of_ne_of_not_mem (zneT gle_1 gv_1 (by simp)) (List.not_mem_cons_of_ne_of_not_mem (zneT gle_1 gpa_1 (by simp)) (List.not_mem_cons_of_ne_of_not_mem (zneT gle_1 gtx_1 (by simp)) (List.not_mem_cons_of_ne_of_not_mem (zneT gle_1 gma_1 (by simp)) (List.not_mem_cons_of_ne_of_not_mem (zneT gle_1 gna_1 (by simp)) (List.not_mem_cons_of_ne_of_not_mem (zneT gle_1 gua_1 (by simp)) (List.not_mem_cons_of_ne_of_not_mem (zneT gle_1 gla_1 (by simp)) List.not_mem_nil))))))))), (kh2.n gqa_1 (List.not_mem_cons_of_ne_of_not_mem (Ne.symm (zneA gm_1 gqa_1)) (List.not_mem_cons_of_ne_of_not_mem (zneT gqa_1 gv_1 (by simp)) (List.not_mem_cons_of_ne_of_not_mem (zneT gqa_1 gpa_1 (by simp)) (List.not_mem_cons_of_ne_of_not_mem (zneT gqa_1 gtx_1 (by simp)) (List.not_mem_cons_of_ne_of_not_mem (zneT gqa_1 gma_1 (by simp)) (List.not_mem_cons_of_ne_of_not_mem (zneT gqa_1 gna_1 (by simp)) (List.not_mem_cons_of_ne_of_not_mem (zneT gqa_1 gua_1 (by simp)) (List.not_mem_cons_of_ne_of_not_mem (zneT gqa_1 gla_1 (by simp)) List.not_mem_nil))))))))), gd_1⟩ hS hsl (i := i) (by omega)) (lw_V q2278 q2280 qs41 q74 q2281) (by decide +kernel) ⟨by decide, by decide⟩ fh2_0 rfl rfl rfl (Nat.le_of_ble_eq_true rfl) dX4_moveChord_7 (by omega) (by omega) (zpk (st' := [.int (iI (if 0 ≤ i ∧ i ≤ ((σ.sh.cs.length : Nat) : Int) - 1 then 1 else 0))]) rfl ?_) zrx
  rw [show ((if 0 ≤ i ∧ i ≤ ((σ.sh.cs.length : Nat) : Int) - 1 then 1 else 0) : Int) = 0 from if_neg (by omega)]
  show Z X h2 0 0 [(0, .ref A.m), (1, .int (iI i)), (2, .int (iI k))] 10 [.int (iI 0)]
  refine z_if_eq (pc := 10) (tgt := 34) C dX4_moveChord_10 (by decide) (by decide) (fun _ => ?_) (fun z => absurd z (by decide))
  refine z_aload_n (pc := 34) (j := 0) C dX4_moveChord_34 rfl rfl ?_
  refine z_iconst (pc := 35) C dX4_moveChord_35 ?_
  refine z_callV (pc := 36) (n := 1) (kc' := 0) (ks' := 0) C (m_fails C.t ⟨fh2_0, fh2_1, fh2_2, fh2_3, fh2_4, fh2_5, fh2_6, fh2_7, (kh2.n gle_1 (List.not_mem_cons_of_ne_of_not_mem (Ne.symm (zneA gm_1 gle_1)) (List.not_mem_cons_of_ne_of_not_mem (zneT gle_1 gv_1 (by simp)) (List.not_mem_cons_of_ne_of_not_mem (zneT gle_1 gpa_1 (by simp)) (List.not_mem_cons_of_ne_of_not_mem (zneT gle_1 gtx_1 (by simp)) (List.not_mem_cons_of_ne_of_not_mem (zneT gle_1 gma_1 (by simp)) (List.not_mem_cons_of_ne_of_not_mem (zneT gle_1 gna_1 (by simp)) (List.not_mem_cons_of_ne_of_not_mem (zneT gle_1 gua_1 (by simp)) (List.not_mem_cons_of_ne_of_not_mem (zneT gle_1 gla_1 (by simp)) List.not_mem_nil))))))))), (kh2.n gqa_1 (List.not_mem_cons_of_ne_of_not_mem (Ne.symm (zneA gm_1 gqa_1)) (List.not_mem_cons_of_ne_of_not_mem (zneT gqa_1 gv_1 (by simp)) (List.not_mem_cons_of_ne_of_not_mem (zneT gqa_1 gpa_1 (by simp)) (List.not_mem_cons_of_ne_of_not_mem (zneT gqa_1 gtx_1 (by simp)) (List.not_mem_cons_of_ne_of_not_mem (zneT gqa_1 gma_1 (by simp)) (List.not_mem_cons_of_ne_of_not_mem (zneT gqa_1 gna_1 (by simp)) (List.not_mem_cons_of_ne_of_not_mem (zneT gqa_1 gua_1 (by simp)) (List.not_mem_cons_of_ne_of_not_mem (zneT gqa_1 gla_1 (by simp)) List.not_mem_nil))))))))), gd_1⟩ (x := 1)) (lw_V q2167 q2169 qs27 q74 q2170) (by decide +kernel) ⟨by decide, by decide⟩ fh2_0 rfl rfl rfl (Nat.le_of_ble_eq_true rfl) dX4_moveChord_36 (by omega) (by omega) (zrk fun w h3 hp => ?_) zrx
  obtain ⟨rfl, hM_5, k4⟩ := hp
  have kh3 : zkeep h h3 [A.m, A.v, A.pa, A.tx, A.ma, A.na, A.ua, A.la] := zkeep.loc kh2 k4 (fun q hq => Or.inl (Or.inr hq))
  have hM_5 : mM h3 A ((σ.hi.length : Nat) : Int) ((σ.tx.length : Nat) : Int) σ.si σ.fl σ.wd 1 ap nt rr rq rb wh nd up lo V P T M N U W := hM_5
  obtain ⟨gm_6, gv_6, gpa_6, gtx_6, gma_6, gna_6, gua_6, gla_6, gle_6, gqa_6, gd_6⟩ := id hM_5
  show Z X h3 0 0 [(0, .ref A.m), (1, .int (iI i)), (2, .int (iI k))] 39 [.int (iI 0)]
  exact z_ireturn (pc := 39) C (by rw [hXp]; exact ⟨_, rfl, rfl, ⟨ap, nt, rr, rq, rb, wh, nd, up, lo, V, P, T, M, N, U, W, ⟨gm_6, gv_6, gpa_6, gtx_6, gma_6, gna_6, gua_6, gla_6, gle_6, gqa_6, gd_6⟩, hS, hP, htq, hR, hsl, hslh⟩, kh3⟩) dX4_moveChord_39
set_option maxHeartbeats 4000000 in
theorem md_moveChord_b2 {l : Launch} (hl : l.stackTraces = false) {Γ : zCx} {h : zH} {A : zMA} {σ : zSt} {th : Int} (hW : mdW h A σ th) {i : Int} {x : zCh} (hi : 0 ≤ i) (hx : σ.sh.cs[i.toNat]? = some x) {t : List Int} (ht : σ.sh.ls[x.1.toNat]? = some t) {k : Int} (hkr : -2147483648 ≤ k ∧ k ≤ 2147483647) (hb : ¬ (0 ≤ k ∧ k ≤ (t.length : Nat))) (hso : csrt σ.sh.cs)  : zMet l yX4_moveChord (ws_ yX4_moveChord cX4_moveChord 8 (some .int)) ({ frames := 2, cells := 0, slots := 0, locals := 43 }) Γ h [.ref A.m, .int (iI i), .int (iI k)] (zrt (fun w h' => w = some (.int (iI (0))) ∧ mdW h' A σ 1 ∧ zkeep h h' [A.m, A.v, A.pa, A.tx, A.ma, A.na, A.ua, A.la])) 0 0 := by
  refine zMet.of (cc := cX4_moveChord) hl (plainFor_of_name (by decide +kernel)) (Nat.le_of_ble_eq_true rfl) ?_
  intro X hXl hXΓ hXp C hnm hnL
  have C : zC X cX4_moveChord RX4 (some .int) 2 43 [] := C
  have hnL : X.2.1.2.2.2.2 = 8 := hnL
  subst hXl hXΓ
  show Z X h 0 0 [(0, .ref A.m), (1, .int (iI i)), (2, .int (iI k))] 0 []
  obtain ⟨ap, nt, rr, rq, rb, wh, nd, up, lo, V, P, T, M, N, U, W, hM, hS, hP, htq, hR, hsl, hslh⟩ := id hW
  obtain ⟨rsi, rff, rwd, rtl, rtx, rsh, rhi, rhl⟩ := id hR
  obtain ⟨rcl, rcr, rll, rlt, rkt, rkm, rks⟩ := id rsh
  obtain ⟨hsl1, hsl2, hsl3⟩ := id hsl
  have hTr := rtx
  have hTl := rtl
  obtain ⟨gm_1, gv_1, gpa_1, gtx_1, gma_1, gna_1, gua_1, gla_1, gle_1, gqa_1, gd_1⟩ := id hM
  have hit := (List.getElem?_eq_some_iff.mp ht).1
  have htl := rlt _ (List.mem_of_getElem? ht)
  have hix := (List.getElem?_eq_some_iff.mp hx).1
  obtain ⟨hx1, hx2, hx3, hx4, hx5⟩ := hS.c hi hx
  obtain ⟨xr1, xr2, xr3, xr4, xr5⟩ := rcr _ (List.mem_of_getElem? hx)
  have hcl8 : (σ.sh.cs.eraseIdx i.toNat).length = σ.sh.cs.length - 1 := by rw [List.length_eraseIdx, if_pos (by omega)]
  have hRc : shR (σ.sh.ls, σ.sh.cs.eraseIdx i.toNat, σ.sh.t, σ.sh.m) := ⟨Nat.le_trans (List.length_eraseIdx_le _ _) rcl, fun c hc => rcr c (List.mem_of_mem_eraseIdx hc), rll, rlt, rkt, rkm, rks⟩
  have hLc : shL (σ.sh.ls, σ.sh.cs.eraseIdx i.toNat, σ.sh.t, σ.sh.m) := ⟨hsl1, hsl2, Nat.le_trans (List.length_eraseIdx_le _ _) hsl3⟩
  have hsoc : csrt (σ.sh.cs.eraseIdx i.toNat) := hso.sublist (List.eraseIdx_sublist _ _)
  refine z_aload_n (pc := 0) (j := 0) C dX4_moveChord_0 rfl rfl ?_
  refine z_iconst (pc := 1) C dX4_moveChord_1 ?_
  refine z_putfield (pc := 2) (fs' := [.ref A.v, .ref A.pa, .int (iI ((σ.hi.length : Nat) : Int)), .ref A.tx, .int (iI ((σ.tx.length : Nat) : Int)), .int (iI σ.si), .int (iI σ.fl), .int (iI σ.wd), .int (iI 0), .ref A.le, .ref A.qa, .int (iI ap), .int (iI nt), .int (iI rr), .int (iI rq), .int (iI rb), .int (iI wh), .ref A.ma, .ref A.na, .int (iI nd), .ref A.ua, .ref A.la, .int (iI up), .int (iI lo)]) C in_X4 tyX4 tyX4_ok nmX4 rfl 8 (by decide) q2090 (fun _ z => z) rfl rfl rfl (Nat.le_of_ble_eq_true rfl) gm_1 rfl dX4_moveChord_2 ?_
  refine Z.nm (fun h2 eh2 => ?_)
  have kh2 : zkeep h h2 [A.m, A.v, A.pa, A.tx, A.ma, A.na, A.ua, A.la] := by rw [eh2]; exact zkeep.up zkeep.rf (Or.inl (by simp)) gm_1
  have fh2_0 : h2 A.m = some (true, .inr (3, [.ref A.v, .ref A.pa, .int (iI ((σ.hi.length : Nat) : Int)), .ref A.tx, .int (iI ((σ.tx.length : Nat) : Int)), .int (iI σ.si), .int (iI σ.fl), .int (iI σ.wd), .int (iI 0), .ref A.le, .ref A.qa, .int (iI ap), .int (iI nt), .int (iI rr), .int (iI rq), .int (iI rb), .int (iI wh), .ref A.ma, .ref A.na, .int (iI nd), .ref A.ua, .ref A.la, .int (iI up), .int (iI lo)])) := zse eh2
  have fh2_1 : h2 A.v = some (true, .inl (.int, 620, (mA V))) := zsn eh2 gv_1 (Ne.symm (zneA gm_1 gv_1))
  have fh2_2 : h2 A.pa = some (true, .inl (.int, 4960, (mA P))) := zsn eh2 gpa_1 (Ne.symm (zneA gm_1 gpa_1))
  have fh2_3 : h2 A.tx = some (true, .inl (.int, 200, (mA T))) := zsn eh2 gtx_1 (Ne.symm (zneA gm_1 gtx_1))
  have fh2_4 : h2 A.ma = some (true, .inl (.int, 620, (mA M))) := zsn eh2 gma_1 (Ne.symm (zneA gm_1 gma_1))
  have fh2_5 : h2 A.na = some (true, .inl (.int, 20, (mA N))) := zsn eh2 gna_1 (Ne.symm (zneA gm_1 gna_1))
  have fh2_6 : h2 A.ua = some (true, .inl (.int, 1200, (mA U))) := zsn eh2 gua_1 (Ne.symm (zneA gm_1 gua_1))
  have fh2_7 : h2 A.la = some (true, .inl (.int, 1200, (mA W))) := zsn eh2 gla_1 (Ne.symm (zneA gm_1 gla_1))
  refine z_aload_n (pc := 5) (j := 0) C dX4_moveChord_5 rfl rfl ?_
  refine z_iload_n (pc := 6) (j := 1) C dX4_moveChord_6 rfl rfl ?_
  refine z_callV (pc := 7) (n := 1) (kc' := 0) (ks' := 0) C (m_isChord C.t ⟨fh2_0, fh2_1, fh2_2, fh2_3, fh2_4, fh2_5, fh2_6, fh2_7, (kh2.n gle_1 (List.not_mem_cons_of_ne_of_not_mem (Ne.symm (zneA gm_1 gle_1)) (List.not_mem_cons_of_ne_of_not_mem (zneT gle_1 gv_1 (by simp)) (List.not_mem_cons_of_ne_of_not_mem (zneT gle_1 gpa_1 (by simp)) (List.not_mem_cons_of_ne_of_not_mem (zneT gle_1 gtx_1 (by simp)) (List.not_mem_cons_of_ne_of_not_mem (zneT gle_1 gma_1 (by simp)) (List.not_mem_cons_of_ne_of_not_mem (zneT gle_1 gna_1 (by simp)) (List.not_mem_cons_of_ne_of_not_mem (zneT gle_1 gua_1 (by simp)) (List.not_mem_cons_of_ne_of_not_mem (zneT gle_1 gla_1 (by simp)) List.not_mem_nil))))))))), (kh2.n gqa_1 (List.not_mem_cons_of_ne_of_not_mem (Ne.symm (zneA gm_1 gqa_1)) (List.not_mem_cons_of_ne_of_not_mem (zneT gqa_1 gv_1 (by simp)) (List.not_mem_cons_of_ne_of_not_mem (zneT gqa_1 gpa_1 (by simp)) (List.not_mem_cons_of_ne_of_not_mem (zneT gqa_1 gtx_1 (by simp)) (List.not_mem_cons_of_ne_of_not_mem (zneT gqa_1 gma_1 (by simp)) (List.not_mem_cons_of_ne_of_not_mem (zneT gqa_1 gna_1 (by simp)) (List.not_mem_cons_of_ne_of_not_mem (zneT gqa_1 gua_1 (by simp)) (List.not_mem_cons_of_ne_of_not_mem (zneT gqa_1 gla_1 (by simp)) List.not_mem_nil))))))))), gd_1⟩ hS hsl (i := i) (by omega)) (lw_V q2278 q2280 qs41 q74 q2281) (by decide +kernel) ⟨by decide, by decide⟩ fh2_0 rfl rfl rfl (Nat.le_of_ble_eq_true rfl) dX4_moveChord_7 (by omega) (by omega) (zpk (st' := [.int (iI (if 0 ≤ i ∧ i ≤ ((σ.sh.cs.length : Nat) : Int) - 1 then 1 else 0))]) rfl ?_) zrx
  rw [show ((if 0 ≤ i ∧ i ≤ ((σ.sh.cs.length : Nat) : Int) - 1 then 1 else 0) : Int) = 1 from if_pos (by omega)]
  show Z X h2 0 0 [(0, .ref A.m), (1, .int (iI i)), (2, .int (iI k))] 10 [.int (iI 1)]
  refine z_if_eq (pc := 10) (tgt := 34) C dX4_moveChord_10 (by decide) (by decide) (fun z => absurd z (by decide)) (fun _ => ?_)
  refine z_iload_n (pc := 13) (j := 2) C dX4_moveChord_13 rfl rfl ?_
  refine z_iconst (pc := 14) C dX4_moveChord_14 ?_
  refine z_aload_n (pc := 15) (j := 0) C dX4_moveChord_15 rfl rfl ?_
  refine z_aload_n (pc := 16) (j := 0) C dX4_moveChord_16 rfl rfl ?_
  refine z_getfield (pc := 17) (v := .ref A.v) C in_X4 rfl 0 (by decide) q2082 (fun _ z => z) fh2_0 rfl dX4_moveChord_17 ?_
  refine z_iload_n (pc := 20) (j := 1) C dX4_moveChord_20 rfl rfl ?_
  refine z_callS (pc := 21) (n := 1) (kc' := 0) (ks' := 0) C (m_chord C.t (x := i)) (lw_S q2203 q2204 q74 q2205) (by decide +kernel) ⟨by decide, by decide⟩ rfl rfl (Nat.le_of_ble_eq_true rfl) dX4_moveChord_21 (by omega) (by omega) (zpk (st' := [.int (iI (210 + 5 * i)), .ref A.v, .ref A.m, .int (iI 0), .int (iI k)]) rfl ?_) zrx
  refine z_iaload (pc := 24) (v := .int (iI x.1)) C fh2_1 (by omega) (mA_e (vE hx1 (by omega))) dX4_moveChord_24 ?_
  refine z_callV (pc := 25) (n := 1) (kc' := 0) (ks' := 0) C (m_len C.t ⟨fh2_0, fh2_1, fh2_2, fh2_3, fh2_4, fh2_5, fh2_6, fh2_7, (kh2.n gle_1 (List.not_mem_cons_of_ne_of_not_mem (Ne.symm (zneA gm_1 gle_1)) (List.not_mem_cons_of_ne_of_not_mem (zneT gle_1 gv_1 (by simp)) (List.not_mem_cons_of_ne_of_not_mem (zneT gle_1 gpa_1 (by simp)) (List.not_mem_cons_of_ne_of_not_mem (zneT gle_1 gtx_1 (by simp)) (List.not_mem_cons_of_ne_of_not_mem (zneT gle_1 gma_1 (by simp)) (List.not_mem_cons_of_ne_of_not_mem (zneT gle_1 gna_1 (by simp)) (List.not_mem_cons_of_ne_of_not_mem (zneT gle_1 gua_1 (by simp)) (List.not_mem_cons_of_ne_of_not_mem (zneT gle_1 gla_1 (by simp)) List.not_mem_nil))))))))), (kh2.n gqa_1 (List.not_mem_cons_of_ne_of_not_mem (Ne.symm (zneA gm_1 gqa_1)) (List.not_mem_cons_of_ne_of_not_mem (zneT gqa_1 gv_1 (by simp)) (List.not_mem_cons_of_ne_of_not_mem (zneT gqa_1 gpa_1 (by simp)) (List.not_mem_cons_of_ne_of_not_mem (zneT gqa_1 gtx_1 (by simp)) (List.not_mem_cons_of_ne_of_not_mem (zneT gqa_1 gma_1 (by simp)) (List.not_mem_cons_of_ne_of_not_mem (zneT gqa_1 gna_1 (by simp)) (List.not_mem_cons_of_ne_of_not_mem (zneT gqa_1 gua_1 (by simp)) (List.not_mem_cons_of_ne_of_not_mem (zneT gqa_1 gla_1 (by simp)) List.not_mem_nil))))))))), gd_1⟩ hS hsl (i := x.1) (by omega) ht) (lw_V q2254 q2256 qs38 q74 q2257) (by decide +kernel) ⟨by decide, by decide⟩ fh2_0 rfl rfl rfl (Nat.le_of_ble_eq_true rfl) dX4_moveChord_25 (by omega) (by omega) (zpk (st' := [.int (iI ((t.length : Nat) : Int)), .int (iI 0), .int (iI k)]) rfl ?_) zrx
  refine z_callS (pc := 28) (n := 3) (kc' := 0) (ks' := 0) C (m_in C.t (x := k) (a := 0) (b := ((t.length : Nat) : Int)) (by omega) (by decide) (by omega)) (lw_S q2164 q2165 q74 q2166) (by decide +kernel) ⟨by decide, by decide⟩ rfl rfl (Nat.le_of_ble_eq_true rfl) dX4_moveChord_28 (by omega) (by omega) (zpk (st' := [.int (iI (if 0 ≤ k ∧ k ≤ ((t.length : Nat) : Int) then 1 else 0))]) rfl ?_) zrx
  rw [show ((if 0 ≤ k ∧ k ≤ ((t.length : Nat) : Int) then 1 else 0) : Int) = 0 from if_neg (by omega)]
  show Z X h2 0 0 [(0, .ref A.m), (1, .int (iI i)), (2, .int (iI k))] 31 [.int (iI 0)]
  refine z_if_ne (pc := 31) (tgt := 40) C dX4_moveChord_31 (by decide) (by decide) (fun z => absurd z (by decide)) (fun _ => ?_)
  refine z_aload_n (pc := 34) (j := 0) C dX4_moveChord_34 rfl rfl ?_
  refine z_iconst (pc := 35) C dX4_moveChord_35 ?_
  refine z_callV (pc := 36) (n := 1) (kc' := 0) (ks' := 0) C (m_fails C.t ⟨fh2_0, fh2_1, fh2_2, fh2_3, fh2_4, fh2_5, fh2_6, fh2_7, (kh2.n gle_1 (List.not_mem_cons_of_ne_of_not_mem (Ne.symm (zneA gm_1 gle_1)) (List.not_mem_cons_of_ne_of_not_mem (zneT gle_1 gv_1 (by simp)) (List.not_mem_cons_of_ne_of_not_mem (zneT gle_1 gpa_1 (by simp)) (List.not_mem_cons_of_ne_of_not_mem (zneT gle_1 gtx_1 (by simp)) (List.not_mem_cons_of_ne_of_not_mem (zneT gle_1 gma_1 (by simp)) (List.not_mem_cons_of_ne_of_not_mem (zneT gle_1 gna_1 (by simp)) (List.not_mem_cons_of_ne_of_not_mem (zneT gle_1 gua_1 (by simp)) (List.not_mem_cons_of_ne_of_not_mem (zneT gle_1 gla_1 (by simp)) List.not_mem_nil))))))))), (kh2.n gqa_1 (List.not_mem_cons_of_ne_of_not_mem (Ne.symm (zneA gm_1 gqa_1)) (List.not_mem_cons_of_ne_of_not_mem (zneT gqa_1 gv_1 (by simp)) (List.not_mem_cons_of_ne_of_not_mem (zneT gqa_1 gpa_1 (by simp)) (List.not_mem_cons_of_ne_of_not_mem (zneT gqa_1 gtx_1 (by simp)) (List.not_mem_cons_of_ne_of_not_mem (zneT gqa_1 gma_1 (by simp)) (List.not_mem_cons_of_ne_of_not_mem (zneT gqa_1 gna_1 (by simp)) (List.not_mem_cons_of_ne_of_not_mem (zneT gqa_1 gua_1 (by simp)) (List.not_mem_cons_of_ne_of_not_mem (zneT gqa_1 gla_1 (by simp)) List.not_mem_nil))))))))), gd_1⟩ (x := 1)) (lw_V q2167 q2169 qs27 q74 q2170) (by decide +kernel) ⟨by decide, by decide⟩ fh2_0 rfl rfl rfl (Nat.le_of_ble_eq_true rfl) dX4_moveChord_36 (by omega) (by omega) (zrk fun w h3 hp => ?_) zrx
  obtain ⟨rfl, hM_5, k4⟩ := hp
  have kh3 : zkeep h h3 [A.m, A.v, A.pa, A.tx, A.ma, A.na, A.ua, A.la] := zkeep.loc kh2 k4 (fun q hq => Or.inl (Or.inr hq))
  have hM_5 : mM h3 A ((σ.hi.length : Nat) : Int) ((σ.tx.length : Nat) : Int) σ.si σ.fl σ.wd 1 ap nt rr rq rb wh nd up lo V P T M N U W := hM_5
  obtain ⟨gm_6, gv_6, gpa_6, gtx_6, gma_6, gna_6, gua_6, gla_6, gle_6, gqa_6, gd_6⟩ := id hM_5
  show Z X h3 0 0 [(0, .ref A.m), (1, .int (iI i)), (2, .int (iI k))] 39 [.int (iI 0)]
  exact z_ireturn (pc := 39) C (by rw [hXp]; exact ⟨_, rfl, rfl, ⟨ap, nt, rr, rq, rb, wh, nd, up, lo, V, P, T, M, N, U, W, ⟨gm_6, gv_6, gpa_6, gtx_6, gma_6, gna_6, gua_6, gla_6, gle_6, gqa_6, gd_6⟩, hS, hP, htq, hR, hsl, hslh⟩, kh3⟩) dX4_moveChord_39

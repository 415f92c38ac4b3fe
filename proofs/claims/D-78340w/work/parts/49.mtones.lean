/-! 49.mtones.lean.txt -/
set_option maxRecDepth 100000
abbrev cX4_tonesOf : ByteArray := prog_11_method_48_code
def yX4_tonesOf : MethodName := ⟨RX4, "tonesOf", "(I)I"⟩
def dkwX4_tonesOf_3 : List UInt8 := [17, 1, 17, 172, 17, 0, 161, 172, 17, 2, 145, 172, 17, 4, 149, 172]
abbrev dktX4_tonesOf_3 : List UInt8 := dkwX4_tonesOf_3 ++ []
def dkwX4_tonesOf_2 : List UInt8 := [17, 0, 145, 172, 17, 0, 137, 172, 17, 4, 145, 172, 17, 4, 137, 172, 17, 8, 145, 172, 16, 73, 172]
abbrev dktX4_tonesOf_2 : List UInt8 := dkwX4_tonesOf_2 ++ dktX4_tonesOf_3
def dkwX4_tonesOf_1 : List UInt8 := [170, 0, 0, 0, 0, 0, 86, 0, 0, 0, 0, 0, 0, 0, 8, 0, 0, 0, 51, 0, 0, 0, 55, 0, 0, 0, 59, 0, 0, 0, 63, 0, 0, 0, 67, 0, 0, 0, 71, 0, 0, 0, 74, 0, 0, 0, 78, 0, 0, 0, 82]
abbrev dktX4_tonesOf_1 : List UInt8 := dkwX4_tonesOf_1 ++ dktX4_tonesOf_2
def dkwX4_tonesOf_0 : List UInt8 := [26]
abbrev dktX4_tonesOf_0 : List UInt8 := dkwX4_tonesOf_0 ++ dktX4_tonesOf_1
theorem dksX4_tonesOf_0 : cX4_tonesOf.data.toList.drop 0 = dktX4_tonesOf_0 := by decide +kernel
theorem dksX4_tonesOf_1 : cX4_tonesOf.data.toList.drop 1 = dktX4_tonesOf_1 := dk_seg dksX4_tonesOf_0 1 rfl rfl
theorem dksX4_tonesOf_2 : cX4_tonesOf.data.toList.drop 52 = dktX4_tonesOf_2 := dk_seg dksX4_tonesOf_1 51 rfl rfl
theorem dksX4_tonesOf_3 : cX4_tonesOf.data.toList.drop 75 = dktX4_tonesOf_3 := dk_seg dksX4_tonesOf_2 23 rfl rfl
abbrev cX4_hasTone : ByteArray := prog_11_method_49_code
def yX4_hasTone : MethodName := ⟨RX4, "hasTone", "(II)Z"⟩
def dkwX4_hasTone_3 : List UInt8 := [184, 0, 52, 122, 4, 126, 4, 160, 0, 7, 4, 167, 0, 4, 3, 172]
abbrev dktX4_hasTone_3 : List UInt8 := dkwX4_hasTone_3 ++ []
def dkwX4_hasTone_2 : List UInt8 := [180, 0, 7, 29, 6, 96, 46, 184, 0, 164, 28, 42, 180, 0, 7, 29, 5, 96, 46, 184, 0, 161, 100]
abbrev dktX4_hasTone_2 : List UInt8 := dkwX4_hasTone_2 ++ dktX4_hasTone_3
def dkwX4_hasTone_1 : List UInt8 := [96, 46, 184, 0, 161, 28, 160, 0, 7, 4, 167, 0, 4, 3, 54, 4, 21, 4, 154, 0, 37, 42]
abbrev dktX4_hasTone_1 : List UInt8 := dkwX4_hasTone_1 ++ dktX4_hasTone_2
def dkwX4_hasTone_0 : List UInt8 := [27, 184, 0, 94, 62, 42, 180, 0, 7, 29, 7, 96, 46, 16, 100, 159, 0, 22, 42, 180, 0, 7, 29, 7]
abbrev dktX4_hasTone_0 : List UInt8 := dkwX4_hasTone_0 ++ dktX4_hasTone_1
theorem dksX4_hasTone_0 : cX4_hasTone.data.toList.drop 0 = dktX4_hasTone_0 := by decide +kernel
theorem dksX4_hasTone_1 : cX4_hasTone.data.toList.drop 24 = dktX4_hasTone_1 := dk_seg dksX4_hasTone_0 24 rfl rfl
theorem dksX4_hasTone_2 : cX4_hasTone.data.toList.drop 46 = dktX4_hasTone_2 := dk_seg dksX4_hasTone_1 22 rfl rfl
theorem dksX4_hasTone_3 : cX4_hasTone.data.toList.drop 69 = dktX4_hasTone_3 := dk_seg dksX4_hasTone_2 23 rfl rfl
abbrev cX4_commonTones : ByteArray := prog_11_method_50_code
def yX4_commonTones : MethodName := ⟨RX4, "commonTones", "(I)I"⟩
def dkwX4_commonTones_3 : List UInt8 := [167, 255, 219, 28, 172]
abbrev dktX4_commonTones_3 : List UInt8 := dkwX4_commonTones_3 ++ []
def dkwX4_commonTones_2 : List UInt8 := [153, 0, 18, 42, 27, 4, 96, 29, 182, 0, 167, 153, 0, 7, 4, 167, 0, 4, 3, 96, 61, 132, 3, 1]
abbrev dktX4_commonTones_2 : List UInt8 := dkwX4_commonTones_2 ++ dktX4_commonTones_3
def dkwX4_commonTones_1 : List UInt8 := [4, 182, 0, 101, 172, 3, 61, 3, 62, 29, 16, 12, 162, 0, 37, 28, 42, 27, 29, 182, 0, 167]
abbrev dktX4_commonTones_1 : List UInt8 := dkwX4_commonTones_1 ++ dktX4_commonTones_2
def dkwX4_commonTones_0 : List UInt8 := [42, 3, 181, 0, 46, 42, 27, 182, 0, 127, 153, 0, 13, 42, 27, 4, 96, 182, 0, 127, 154, 0, 9, 42]
abbrev dktX4_commonTones_0 : List UInt8 := dkwX4_commonTones_0 ++ dktX4_commonTones_1
theorem dksX4_commonTones_0 : cX4_commonTones.data.toList.drop 0 = dktX4_commonTones_0 := by decide +kernel
theorem dksX4_commonTones_1 : cX4_commonTones.data.toList.drop 24 = dktX4_commonTones_1 := dk_seg dksX4_commonTones_0 24 rfl rfl
theorem dksX4_commonTones_2 : cX4_commonTones.data.toList.drop 46 = dktX4_commonTones_2 := dk_seg dksX4_commonTones_1 22 rfl rfl
theorem dksX4_commonTones_3 : cX4_commonTones.data.toList.drop 70 = dktX4_commonTones_3 := dk_seg dksX4_commonTones_2 24 rfl rfl
abbrev cX4_degree : ByteArray := prog_11_method_53_code
def yX4_degree : MethodName := ⟨RX4, "degree", "(I)I"⟩
def dkwX4_degree_4 : List UInt8 := [21, 5, 28, 160, 0, 5, 29, 172, 132, 4, 1, 167, 255, 192, 3, 172]
abbrev dktX4_degree_4 : List UInt8 := dkwX4_degree_4 ++ []
def dkwX4_degree_3 : List UInt8 := [184, 0, 174, 54, 6, 29, 21, 6, 153, 0, 7, 4, 167, 0, 4, 3, 96, 62, 21, 6, 153, 0, 11]
abbrev dktX4_degree_3 : List UInt8 := dkwX4_degree_3 ++ dktX4_degree_4
def dkwX4_degree_2 : List UInt8 := [180, 0, 7, 5, 46, 184, 0, 161, 21, 4, 96, 184, 0, 52, 54, 5, 42, 182, 0, 171, 21, 5]
abbrev dktX4_degree_2 : List UInt8 := dkwX4_degree_2 ++ dktX4_degree_3
def dkwX4_degree_1 : List UInt8 := [184, 0, 94, 5, 96, 46, 184, 0, 161, 61, 3, 62, 3, 54, 4, 21, 4, 16, 12, 162, 0, 63, 42]
abbrev dktX4_degree_1 : List UInt8 := dkwX4_degree_1 ++ dktX4_degree_2
def dkwX4_degree_0 : List UInt8 := [42, 3, 181, 0, 46, 42, 27, 182, 0, 127, 154, 0, 9, 42, 4, 182, 0, 101, 172, 42, 180, 0, 7, 27]
abbrev dktX4_degree_0 : List UInt8 := dkwX4_degree_0 ++ dktX4_degree_1
theorem dksX4_degree_0 : cX4_degree.data.toList.drop 0 = dktX4_degree_0 := by decide +kernel
theorem dksX4_degree_1 : cX4_degree.data.toList.drop 24 = dktX4_degree_1 := dk_seg dksX4_degree_0 24 rfl rfl
theorem dksX4_degree_2 : cX4_degree.data.toList.drop 47 = dktX4_degree_2 := dk_seg dksX4_degree_1 23 rfl rfl
theorem dksX4_degree_3 : cX4_degree.data.toList.drop 69 = dktX4_degree_3 := dk_seg dksX4_degree_2 22 rfl rfl
theorem dksX4_degree_4 : cX4_degree.data.toList.drop 92 = dktX4_degree_4 := dk_seg dksX4_degree_3 23 rfl rfl
theorem dX4_tonesOf_0 : decode cX4_tonesOf 0 = .ok (.iload_n 0, 1) := dk_26 (dk_at dksX4_tonesOf_0 0 rfl rfl)
theorem dX4_tonesOf_1 : decode cX4_tonesOf 1 = .ok (.tableswitch 86 0 8 #[51, 55, 59, 63, 67, 71, 74, 78, 82], 51) := by decide +kernel
theorem dX4_tonesOf_52 : decode cX4_tonesOf 52 = .ok (.sipush 145, 3) := dk_17 0 145 (dk_at dksX4_tonesOf_2 0 rfl rfl)
theorem dX4_tonesOf_55 : decode cX4_tonesOf 55 = .ok (.ireturn, 1) := dk_172 (dk_at dksX4_tonesOf_2 3 rfl rfl)
theorem dX4_tonesOf_56 : decode cX4_tonesOf 56 = .ok (.sipush 137, 3) := dk_17 0 137 (dk_at dksX4_tonesOf_2 4 rfl rfl)
theorem dX4_tonesOf_59 : decode cX4_tonesOf 59 = .ok (.ireturn, 1) := dk_172 (dk_at dksX4_tonesOf_2 7 rfl rfl)
theorem dX4_tonesOf_60 : decode cX4_tonesOf 60 = .ok (.sipush 1169, 3) := dk_17 4 145 (dk_at dksX4_tonesOf_2 8 rfl rfl)
theorem dX4_tonesOf_63 : decode cX4_tonesOf 63 = .ok (.ireturn, 1) := dk_172 (dk_at dksX4_tonesOf_2 11 rfl rfl)
theorem dX4_tonesOf_64 : decode cX4_tonesOf 64 = .ok (.sipush 1161, 3) := dk_17 4 137 (dk_at dksX4_tonesOf_2 12 rfl rfl)
theorem dX4_tonesOf_67 : decode cX4_tonesOf 67 = .ok (.ireturn, 1) := dk_172 (dk_at dksX4_tonesOf_2 15 rfl rfl)
theorem dX4_tonesOf_68 : decode cX4_tonesOf 68 = .ok (.sipush 2193, 3) := dk_17 8 145 (dk_at dksX4_tonesOf_2 16 rfl rfl)
theorem dX4_tonesOf_71 : decode cX4_tonesOf 71 = .ok (.ireturn, 1) := dk_172 (dk_at dksX4_tonesOf_2 19 rfl rfl)
theorem dX4_tonesOf_72 : decode cX4_tonesOf 72 = .ok (.bipush 73, 2) := dk_16 73 (dk_at dksX4_tonesOf_2 20 rfl rfl)
theorem dX4_tonesOf_74 : decode cX4_tonesOf 74 = .ok (.ireturn, 1) := dk_172 (dk_at dksX4_tonesOf_2 22 rfl rfl)
theorem dX4_tonesOf_75 : decode cX4_tonesOf 75 = .ok (.sipush 273, 3) := dk_17 1 17 (dk_at dksX4_tonesOf_3 0 rfl rfl)
theorem dX4_tonesOf_78 : decode cX4_tonesOf 78 = .ok (.ireturn, 1) := dk_172 (dk_at dksX4_tonesOf_3 3 rfl rfl)
theorem dX4_tonesOf_79 : decode cX4_tonesOf 79 = .ok (.sipush 161, 3) := dk_17 0 161 (dk_at dksX4_tonesOf_3 4 rfl rfl)
theorem dX4_tonesOf_82 : decode cX4_tonesOf 82 = .ok (.ireturn, 1) := dk_172 (dk_at dksX4_tonesOf_3 7 rfl rfl)
theorem dX4_tonesOf_83 : decode cX4_tonesOf 83 = .ok (.sipush 657, 3) := dk_17 2 145 (dk_at dksX4_tonesOf_3 8 rfl rfl)
theorem dX4_tonesOf_86 : decode cX4_tonesOf 86 = .ok (.ireturn, 1) := dk_172 (dk_at dksX4_tonesOf_3 11 rfl rfl)
theorem dX4_tonesOf_87 : decode cX4_tonesOf 87 = .ok (.sipush 1173, 3) := dk_17 4 149 (dk_at dksX4_tonesOf_3 12 rfl rfl)
theorem dX4_tonesOf_90 : decode cX4_tonesOf 90 = .ok (.ireturn, 1) := dk_172 (dk_at dksX4_tonesOf_3 15 rfl rfl)
theorem dX4_hasTone_0 : decode cX4_hasTone 0 = .ok (.iload_n 1, 1) := dk_27 (dk_at dksX4_hasTone_0 0 rfl rfl)
theorem dX4_hasTone_1 : decode cX4_hasTone 1 = .ok (.invokestatic 94, 3) := dk_184 0 94 (dk_at dksX4_hasTone_0 1 rfl rfl)
theorem dX4_hasTone_4 : decode cX4_hasTone 4 = .ok (.istore_n 3, 1) := dk_62 (dk_at dksX4_hasTone_0 4 rfl rfl)
theorem dX4_hasTone_5 : decode cX4_hasTone 5 = .ok (.aload_n 0, 1) := dk_42 (dk_at dksX4_hasTone_0 5 rfl rfl)
theorem dX4_hasTone_6 : decode cX4_hasTone 6 = .ok (.getfield 7, 3) := dk_180 0 7 (dk_at dksX4_hasTone_0 6 rfl rfl)
theorem dX4_hasTone_9 : decode cX4_hasTone 9 = .ok (.iload_n 3, 1) := dk_29 (dk_at dksX4_hasTone_0 9 rfl rfl)
theorem dX4_hasTone_10 : decode cX4_hasTone 10 = .ok (.iconst 4, 1) := dk_7 (dk_at dksX4_hasTone_0 10 rfl rfl)
theorem dX4_hasTone_11 : decode cX4_hasTone 11 = .ok (.iadd, 1) := dk_96 (dk_at dksX4_hasTone_0 11 rfl rfl)
theorem dX4_hasTone_12 : decode cX4_hasTone 12 = .ok (.iaload, 1) := dk_46 (dk_at dksX4_hasTone_0 12 rfl rfl)
theorem dX4_hasTone_13 : decode cX4_hasTone 13 = .ok (.bipush 100, 2) := dk_16 100 (dk_at dksX4_hasTone_0 13 rfl rfl)
theorem dX4_hasTone_15 : decode cX4_hasTone 15 = .ok (.if_icmp .eq 22, 3) := dk_159 0 22 (dk_at dksX4_hasTone_0 15 rfl rfl)
theorem dX4_hasTone_18 : decode cX4_hasTone 18 = .ok (.aload_n 0, 1) := dk_42 (dk_at dksX4_hasTone_0 18 rfl rfl)
theorem dX4_hasTone_19 : decode cX4_hasTone 19 = .ok (.getfield 7, 3) := dk_180 0 7 (dk_at dksX4_hasTone_0 19 rfl rfl)
theorem dX4_hasTone_22 : decode cX4_hasTone 22 = .ok (.iload_n 3, 1) := dk_29 (dk_at dksX4_hasTone_0 22 rfl rfl)
theorem dX4_hasTone_23 : decode cX4_hasTone 23 = .ok (.iconst 4, 1) := dk_7 (dk_at dksX4_hasTone_0 23 rfl rfl)
theorem dX4_hasTone_24 : decode cX4_hasTone 24 = .ok (.iadd, 1) := dk_96 (dk_at dksX4_hasTone_1 0 rfl rfl)
theorem dX4_hasTone_25 : decode cX4_hasTone 25 = .ok (.iaload, 1) := dk_46 (dk_at dksX4_hasTone_1 1 rfl rfl)
theorem dX4_hasTone_26 : decode cX4_hasTone 26 = .ok (.invokestatic 161, 3) := dk_184 0 161 (dk_at dksX4_hasTone_1 2 rfl rfl)
theorem dX4_hasTone_29 : decode cX4_hasTone 29 = .ok (.iload_n 2, 1) := dk_28 (dk_at dksX4_hasTone_1 5 rfl rfl)
theorem dX4_hasTone_30 : decode cX4_hasTone 30 = .ok (.if_icmp .ne 7, 3) := dk_160 0 7 (dk_at dksX4_hasTone_1 6 rfl rfl)
theorem dX4_hasTone_33 : decode cX4_hasTone 33 = .ok (.iconst 1, 1) := dk_4 (dk_at dksX4_hasTone_1 9 rfl rfl)
theorem dX4_hasTone_34 : decode cX4_hasTone 34 = .ok (.goto 4, 3) := dk_167 0 4 (dk_at dksX4_hasTone_1 10 rfl rfl)
theorem dX4_hasTone_37 : decode cX4_hasTone 37 = .ok (.iconst 0, 1) := dk_3 (dk_at dksX4_hasTone_1 13 rfl rfl)
theorem dX4_hasTone_38 : decode cX4_hasTone 38 = .ok (.istore 4, 2) := dk_54 4 (dk_at dksX4_hasTone_1 14 rfl rfl)
theorem dX4_hasTone_40 : decode cX4_hasTone 40 = .ok (.iload 4, 2) := dk_21 4 (dk_at dksX4_hasTone_1 16 rfl rfl)
theorem dX4_hasTone_42 : decode cX4_hasTone 42 = .ok (.ifCond .ne 37, 3) := dk_154 0 37 (dk_at dksX4_hasTone_1 18 rfl rfl)
theorem dX4_hasTone_45 : decode cX4_hasTone 45 = .ok (.aload_n 0, 1) := dk_42 (dk_at dksX4_hasTone_1 21 rfl rfl)
theorem dX4_hasTone_46 : decode cX4_hasTone 46 = .ok (.getfield 7, 3) := dk_180 0 7 (dk_at dksX4_hasTone_2 0 rfl rfl)
theorem dX4_hasTone_49 : decode cX4_hasTone 49 = .ok (.iload_n 3, 1) := dk_29 (dk_at dksX4_hasTone_2 3 rfl rfl)
theorem dX4_hasTone_50 : decode cX4_hasTone 50 = .ok (.iconst 3, 1) := dk_6 (dk_at dksX4_hasTone_2 4 rfl rfl)
theorem dX4_hasTone_51 : decode cX4_hasTone 51 = .ok (.iadd, 1) := dk_96 (dk_at dksX4_hasTone_2 5 rfl rfl)
theorem dX4_hasTone_52 : decode cX4_hasTone 52 = .ok (.iaload, 1) := dk_46 (dk_at dksX4_hasTone_2 6 rfl rfl)
theorem dX4_hasTone_53 : decode cX4_hasTone 53 = .ok (.invokestatic 164, 3) := dk_184 0 164 (dk_at dksX4_hasTone_2 7 rfl rfl)
theorem dX4_hasTone_56 : decode cX4_hasTone 56 = .ok (.iload_n 2, 1) := dk_28 (dk_at dksX4_hasTone_2 10 rfl rfl)
theorem dX4_hasTone_57 : decode cX4_hasTone 57 = .ok (.aload_n 0, 1) := dk_42 (dk_at dksX4_hasTone_2 11 rfl rfl)
theorem dX4_hasTone_58 : decode cX4_hasTone 58 = .ok (.getfield 7, 3) := dk_180 0 7 (dk_at dksX4_hasTone_2 12 rfl rfl)
theorem dX4_hasTone_61 : decode cX4_hasTone 61 = .ok (.iload_n 3, 1) := dk_29 (dk_at dksX4_hasTone_2 15 rfl rfl)
theorem dX4_hasTone_62 : decode cX4_hasTone 62 = .ok (.iconst 2, 1) := dk_5 (dk_at dksX4_hasTone_2 16 rfl rfl)
theorem dX4_hasTone_63 : decode cX4_hasTone 63 = .ok (.iadd, 1) := dk_96 (dk_at dksX4_hasTone_2 17 rfl rfl)
theorem dX4_hasTone_64 : decode cX4_hasTone 64 = .ok (.iaload, 1) := dk_46 (dk_at dksX4_hasTone_2 18 rfl rfl)
theorem dX4_hasTone_65 : decode cX4_hasTone 65 = .ok (.invokestatic 161, 3) := dk_184 0 161 (dk_at dksX4_hasTone_2 19 rfl rfl)
theorem dX4_hasTone_68 : decode cX4_hasTone 68 = .ok (.isub, 1) := dk_100 (dk_at dksX4_hasTone_2 22 rfl rfl)
theorem dX4_hasTone_69 : decode cX4_hasTone 69 = .ok (.invokestatic 52, 3) := dk_184 0 52 (dk_at dksX4_hasTone_3 0 rfl rfl)
theorem dX4_hasTone_72 : decode cX4_hasTone 72 = .ok (.ishr, 1) := dk_122 (dk_at dksX4_hasTone_3 3 rfl rfl)
theorem dX4_hasTone_73 : decode cX4_hasTone 73 = .ok (.iconst 1, 1) := dk_4 (dk_at dksX4_hasTone_3 4 rfl rfl)
theorem dX4_hasTone_74 : decode cX4_hasTone 74 = .ok (.iand, 1) := dk_126 (dk_at dksX4_hasTone_3 5 rfl rfl)
theorem dX4_hasTone_75 : decode cX4_hasTone 75 = .ok (.iconst 1, 1) := dk_4 (dk_at dksX4_hasTone_3 6 rfl rfl)
theorem dX4_hasTone_76 : decode cX4_hasTone 76 = .ok (.if_icmp .ne 7, 3) := dk_160 0 7 (dk_at dksX4_hasTone_3 7 rfl rfl)
theorem dX4_hasTone_79 : decode cX4_hasTone 79 = .ok (.iconst 1, 1) := dk_4 (dk_at dksX4_hasTone_3 10 rfl rfl)
theorem dX4_hasTone_80 : decode cX4_hasTone 80 = .ok (.goto 4, 3) := dk_167 0 4 (dk_at dksX4_hasTone_3 11 rfl rfl)
theorem dX4_hasTone_83 : decode cX4_hasTone 83 = .ok (.iconst 0, 1) := dk_3 (dk_at dksX4_hasTone_3 14 rfl rfl)
theorem dX4_hasTone_84 : decode cX4_hasTone 84 = .ok (.ireturn, 1) := dk_172 (dk_at dksX4_hasTone_3 15 rfl rfl)
theorem dX4_commonTones_0 : decode cX4_commonTones 0 = .ok (.aload_n 0, 1) := dk_42 (dk_at dksX4_commonTones_0 0 rfl rfl)
theorem dX4_commonTones_1 : decode cX4_commonTones 1 = .ok (.iconst 0, 1) := dk_3 (dk_at dksX4_commonTones_0 1 rfl rfl)
theorem dX4_commonTones_2 : decode cX4_commonTones 2 = .ok (.putfield 46, 3) := dk_181 0 46 (dk_at dksX4_commonTones_0 2 rfl rfl)
theorem dX4_commonTones_5 : decode cX4_commonTones 5 = .ok (.aload_n 0, 1) := dk_42 (dk_at dksX4_commonTones_0 5 rfl rfl)
theorem dX4_commonTones_6 : decode cX4_commonTones 6 = .ok (.iload_n 1, 1) := dk_27 (dk_at dksX4_commonTones_0 6 rfl rfl)
theorem dX4_commonTones_7 : decode cX4_commonTones 7 = .ok (.invokevirtual 127, 3) := dk_182 0 127 (dk_at dksX4_commonTones_0 7 rfl rfl)
theorem dX4_commonTones_10 : decode cX4_commonTones 10 = .ok (.ifCond .eq 13, 3) := dk_153 0 13 (dk_at dksX4_commonTones_0 10 rfl rfl)
theorem dX4_commonTones_13 : decode cX4_commonTones 13 = .ok (.aload_n 0, 1) := dk_42 (dk_at dksX4_commonTones_0 13 rfl rfl)
theorem dX4_commonTones_14 : decode cX4_commonTones 14 = .ok (.iload_n 1, 1) := dk_27 (dk_at dksX4_commonTones_0 14 rfl rfl)
theorem dX4_commonTones_15 : decode cX4_commonTones 15 = .ok (.iconst 1, 1) := dk_4 (dk_at dksX4_commonTones_0 15 rfl rfl)
theorem dX4_commonTones_16 : decode cX4_commonTones 16 = .ok (.iadd, 1) := dk_96 (dk_at dksX4_commonTones_0 16 rfl rfl)
theorem dX4_commonTones_17 : decode cX4_commonTones 17 = .ok (.invokevirtual 127, 3) := dk_182 0 127 (dk_at dksX4_commonTones_0 17 rfl rfl)
theorem dX4_commonTones_20 : decode cX4_commonTones 20 = .ok (.ifCond .ne 9, 3) := dk_154 0 9 (dk_at dksX4_commonTones_0 20 rfl rfl)
theorem dX4_commonTones_23 : decode cX4_commonTones 23 = .ok (.aload_n 0, 1) := dk_42 (dk_at dksX4_commonTones_0 23 rfl rfl)
theorem dX4_commonTones_24 : decode cX4_commonTones 24 = .ok (.iconst 1, 1) := dk_4 (dk_at dksX4_commonTones_1 0 rfl rfl)
theorem dX4_commonTones_25 : decode cX4_commonTones 25 = .ok (.invokevirtual 101, 3) := dk_182 0 101 (dk_at dksX4_commonTones_1 1 rfl rfl)
theorem dX4_commonTones_28 : decode cX4_commonTones 28 = .ok (.ireturn, 1) := dk_172 (dk_at dksX4_commonTones_1 4 rfl rfl)
theorem dX4_commonTones_29 : decode cX4_commonTones 29 = .ok (.iconst 0, 1) := dk_3 (dk_at dksX4_commonTones_1 5 rfl rfl)
theorem dX4_commonTones_30 : decode cX4_commonTones 30 = .ok (.istore_n 2, 1) := dk_61 (dk_at dksX4_commonTones_1 6 rfl rfl)
theorem dX4_commonTones_31 : decode cX4_commonTones 31 = .ok (.iconst 0, 1) := dk_3 (dk_at dksX4_commonTones_1 7 rfl rfl)
theorem dX4_commonTones_32 : decode cX4_commonTones 32 = .ok (.istore_n 3, 1) := dk_62 (dk_at dksX4_commonTones_1 8 rfl rfl)
theorem dX4_commonTones_33 : decode cX4_commonTones 33 = .ok (.iload_n 3, 1) := dk_29 (dk_at dksX4_commonTones_1 9 rfl rfl)
theorem dX4_commonTones_34 : decode cX4_commonTones 34 = .ok (.bipush 12, 2) := dk_16 12 (dk_at dksX4_commonTones_1 10 rfl rfl)
theorem dX4_commonTones_36 : decode cX4_commonTones 36 = .ok (.if_icmp .ge 37, 3) := dk_162 0 37 (dk_at dksX4_commonTones_1 12 rfl rfl)
theorem dX4_commonTones_39 : decode cX4_commonTones 39 = .ok (.iload_n 2, 1) := dk_28 (dk_at dksX4_commonTones_1 15 rfl rfl)
theorem dX4_commonTones_40 : decode cX4_commonTones 40 = .ok (.aload_n 0, 1) := dk_42 (dk_at dksX4_commonTones_1 16 rfl rfl)
theorem dX4_commonTones_41 : decode cX4_commonTones 41 = .ok (.iload_n 1, 1) := dk_27 (dk_at dksX4_commonTones_1 17 rfl rfl)
theorem dX4_commonTones_42 : decode cX4_commonTones 42 = .ok (.iload_n 3, 1) := dk_29 (dk_at dksX4_commonTones_1 18 rfl rfl)
theorem dX4_commonTones_43 : decode cX4_commonTones 43 = .ok (.invokevirtual 167, 3) := dk_182 0 167 (dk_at dksX4_commonTones_1 19 rfl rfl)
theorem dX4_commonTones_46 : decode cX4_commonTones 46 = .ok (.ifCond .eq 18, 3) := dk_153 0 18 (dk_at dksX4_commonTones_2 0 rfl rfl)
theorem dX4_commonTones_49 : decode cX4_commonTones 49 = .ok (.aload_n 0, 1) := dk_42 (dk_at dksX4_commonTones_2 3 rfl rfl)
theorem dX4_commonTones_50 : decode cX4_commonTones 50 = .ok (.iload_n 1, 1) := dk_27 (dk_at dksX4_commonTones_2 4 rfl rfl)
theorem dX4_commonTones_51 : decode cX4_commonTones 51 = .ok (.iconst 1, 1) := dk_4 (dk_at dksX4_commonTones_2 5 rfl rfl)
theorem dX4_commonTones_52 : decode cX4_commonTones 52 = .ok (.iadd, 1) := dk_96 (dk_at dksX4_commonTones_2 6 rfl rfl)
theorem dX4_commonTones_53 : decode cX4_commonTones 53 = .ok (.iload_n 3, 1) := dk_29 (dk_at dksX4_commonTones_2 7 rfl rfl)
theorem dX4_commonTones_54 : decode cX4_commonTones 54 = .ok (.invokevirtual 167, 3) := dk_182 0 167 (dk_at dksX4_commonTones_2 8 rfl rfl)
theorem dX4_commonTones_57 : decode cX4_commonTones 57 = .ok (.ifCond .eq 7, 3) := dk_153 0 7 (dk_at dksX4_commonTones_2 11 rfl rfl)
theorem dX4_commonTones_60 : decode cX4_commonTones 60 = .ok (.iconst 1, 1) := dk_4 (dk_at dksX4_commonTones_2 14 rfl rfl)
theorem dX4_commonTones_61 : decode cX4_commonTones 61 = .ok (.goto 4, 3) := dk_167 0 4 (dk_at dksX4_commonTones_2 15 rfl rfl)
theorem dX4_commonTones_64 : decode cX4_commonTones 64 = .ok (.iconst 0, 1) := dk_3 (dk_at dksX4_commonTones_2 18 rfl rfl)
theorem dX4_commonTones_65 : decode cX4_commonTones 65 = .ok (.iadd, 1) := dk_96 (dk_at dksX4_commonTones_2 19 rfl rfl)
theorem dX4_commonTones_66 : decode cX4_commonTones 66 = .ok (.istore_n 2, 1) := dk_61 (dk_at dksX4_commonTones_2 20 rfl rfl)
theorem dX4_commonTones_67 : decode cX4_commonTones 67 = .ok (.iinc 3 1, 3) := dk_132 3 1 (dk_at dksX4_commonTones_2 21 rfl rfl)
theorem dX4_commonTones_70 : decode cX4_commonTones 70 = .ok (.goto (-37), 3) := dk_167 255 219 (dk_at dksX4_commonTones_3 0 rfl rfl)
theorem dX4_commonTones_73 : decode cX4_commonTones 73 = .ok (.iload_n 2, 1) := dk_28 (dk_at dksX4_commonTones_3 3 rfl rfl)
theorem dX4_commonTones_74 : decode cX4_commonTones 74 = .ok (.ireturn, 1) := dk_172 (dk_at dksX4_commonTones_3 4 rfl rfl)
theorem dX4_degree_0 : decode cX4_degree 0 = .ok (.aload_n 0, 1) := dk_42 (dk_at dksX4_degree_0 0 rfl rfl)
theorem dX4_degree_1 : decode cX4_degree 1 = .ok (.iconst 0, 1) := dk_3 (dk_at dksX4_degree_0 1 rfl rfl)
theorem dX4_degree_2 : decode cX4_degree 2 = .ok (.putfield 46, 3) := dk_181 0 46 (dk_at dksX4_degree_0 2 rfl rfl)
theorem dX4_degree_5 : decode cX4_degree 5 = .ok (.aload_n 0, 1) := dk_42 (dk_at dksX4_degree_0 5 rfl rfl)
theorem dX4_degree_6 : decode cX4_degree 6 = .ok (.iload_n 1, 1) := dk_27 (dk_at dksX4_degree_0 6 rfl rfl)
theorem dX4_degree_7 : decode cX4_degree 7 = .ok (.invokevirtual 127, 3) := dk_182 0 127 (dk_at dksX4_degree_0 7 rfl rfl)
theorem dX4_degree_10 : decode cX4_degree 10 = .ok (.ifCond .ne 9, 3) := dk_154 0 9 (dk_at dksX4_degree_0 10 rfl rfl)
theorem dX4_degree_13 : decode cX4_degree 13 = .ok (.aload_n 0, 1) := dk_42 (dk_at dksX4_degree_0 13 rfl rfl)
theorem dX4_degree_14 : decode cX4_degree 14 = .ok (.iconst 1, 1) := dk_4 (dk_at dksX4_degree_0 14 rfl rfl)
theorem dX4_degree_15 : decode cX4_degree 15 = .ok (.invokevirtual 101, 3) := dk_182 0 101 (dk_at dksX4_degree_0 15 rfl rfl)
theorem dX4_degree_18 : decode cX4_degree 18 = .ok (.ireturn, 1) := dk_172 (dk_at dksX4_degree_0 18 rfl rfl)
theorem dX4_degree_19 : decode cX4_degree 19 = .ok (.aload_n 0, 1) := dk_42 (dk_at dksX4_degree_0 19 rfl rfl)
theorem dX4_degree_20 : decode cX4_degree 20 = .ok (.getfield 7, 3) := dk_180 0 7 (dk_at dksX4_degree_0 20 rfl rfl)
theorem dX4_degree_23 : decode cX4_degree 23 = .ok (.iload_n 1, 1) := dk_27 (dk_at dksX4_degree_0 23 rfl rfl)
theorem dX4_degree_24 : decode cX4_degree 24 = .ok (.invokestatic 94, 3) := dk_184 0 94 (dk_at dksX4_degree_1 0 rfl rfl)
theorem dX4_degree_27 : decode cX4_degree 27 = .ok (.iconst 2, 1) := dk_5 (dk_at dksX4_degree_1 3 rfl rfl)
theorem dX4_degree_28 : decode cX4_degree 28 = .ok (.iadd, 1) := dk_96 (dk_at dksX4_degree_1 4 rfl rfl)
theorem dX4_degree_29 : decode cX4_degree 29 = .ok (.iaload, 1) := dk_46 (dk_at dksX4_degree_1 5 rfl rfl)
theorem dX4_degree_30 : decode cX4_degree 30 = .ok (.invokestatic 161, 3) := dk_184 0 161 (dk_at dksX4_degree_1 6 rfl rfl)
theorem dX4_degree_33 : decode cX4_degree 33 = .ok (.istore_n 2, 1) := dk_61 (dk_at dksX4_degree_1 9 rfl rfl)
theorem dX4_degree_34 : decode cX4_degree 34 = .ok (.iconst 0, 1) := dk_3 (dk_at dksX4_degree_1 10 rfl rfl)
theorem dX4_degree_35 : decode cX4_degree 35 = .ok (.istore_n 3, 1) := dk_62 (dk_at dksX4_degree_1 11 rfl rfl)
theorem dX4_degree_36 : decode cX4_degree 36 = .ok (.iconst 0, 1) := dk_3 (dk_at dksX4_degree_1 12 rfl rfl)
theorem dX4_degree_37 : decode cX4_degree 37 = .ok (.istore 4, 2) := dk_54 4 (dk_at dksX4_degree_1 13 rfl rfl)
theorem dX4_degree_39 : decode cX4_degree 39 = .ok (.iload 4, 2) := dk_21 4 (dk_at dksX4_degree_1 15 rfl rfl)
theorem dX4_degree_41 : decode cX4_degree 41 = .ok (.bipush 12, 2) := dk_16 12 (dk_at dksX4_degree_1 17 rfl rfl)
theorem dX4_degree_43 : decode cX4_degree 43 = .ok (.if_icmp .ge 63, 3) := dk_162 0 63 (dk_at dksX4_degree_1 19 rfl rfl)
theorem dX4_degree_46 : decode cX4_degree 46 = .ok (.aload_n 0, 1) := dk_42 (dk_at dksX4_degree_1 22 rfl rfl)
theorem dX4_degree_47 : decode cX4_degree 47 = .ok (.getfield 7, 3) := dk_180 0 7 (dk_at dksX4_degree_2 0 rfl rfl)
theorem dX4_degree_50 : decode cX4_degree 50 = .ok (.iconst 2, 1) := dk_5 (dk_at dksX4_degree_2 3 rfl rfl)
theorem dX4_degree_51 : decode cX4_degree 51 = .ok (.iaload, 1) := dk_46 (dk_at dksX4_degree_2 4 rfl rfl)
theorem dX4_degree_52 : decode cX4_degree 52 = .ok (.invokestatic 161, 3) := dk_184 0 161 (dk_at dksX4_degree_2 5 rfl rfl)
theorem dX4_degree_55 : decode cX4_degree 55 = .ok (.iload 4, 2) := dk_21 4 (dk_at dksX4_degree_2 8 rfl rfl)
theorem dX4_degree_57 : decode cX4_degree 57 = .ok (.iadd, 1) := dk_96 (dk_at dksX4_degree_2 10 rfl rfl)
theorem dX4_degree_58 : decode cX4_degree 58 = .ok (.invokestatic 52, 3) := dk_184 0 52 (dk_at dksX4_degree_2 11 rfl rfl)
theorem dX4_degree_61 : decode cX4_degree 61 = .ok (.istore 5, 2) := dk_54 5 (dk_at dksX4_degree_2 14 rfl rfl)
theorem dX4_degree_63 : decode cX4_degree 63 = .ok (.aload_n 0, 1) := dk_42 (dk_at dksX4_degree_2 16 rfl rfl)
theorem dX4_degree_64 : decode cX4_degree 64 = .ok (.invokevirtual 171, 3) := dk_182 0 171 (dk_at dksX4_degree_2 17 rfl rfl)
theorem dX4_degree_67 : decode cX4_degree 67 = .ok (.iload 5, 2) := dk_21 5 (dk_at dksX4_degree_2 20 rfl rfl)
theorem dX4_degree_69 : decode cX4_degree 69 = .ok (.invokestatic 174, 3) := dk_184 0 174 (dk_at dksX4_degree_3 0 rfl rfl)
theorem dX4_degree_72 : decode cX4_degree 72 = .ok (.istore 6, 2) := dk_54 6 (dk_at dksX4_degree_3 3 rfl rfl)
theorem dX4_degree_74 : decode cX4_degree 74 = .ok (.iload_n 3, 1) := dk_29 (dk_at dksX4_degree_3 5 rfl rfl)
theorem dX4_degree_75 : decode cX4_degree 75 = .ok (.iload 6, 2) := dk_21 6 (dk_at dksX4_degree_3 6 rfl rfl)
theorem dX4_degree_77 : decode cX4_degree 77 = .ok (.ifCond .eq 7, 3) := dk_153 0 7 (dk_at dksX4_degree_3 8 rfl rfl)
theorem dX4_degree_80 : decode cX4_degree 80 = .ok (.iconst 1, 1) := dk_4 (dk_at dksX4_degree_3 11 rfl rfl)
theorem dX4_degree_81 : decode cX4_degree 81 = .ok (.goto 4, 3) := dk_167 0 4 (dk_at dksX4_degree_3 12 rfl rfl)
theorem dX4_degree_84 : decode cX4_degree 84 = .ok (.iconst 0, 1) := dk_3 (dk_at dksX4_degree_3 15 rfl rfl)
theorem dX4_degree_85 : decode cX4_degree 85 = .ok (.iadd, 1) := dk_96 (dk_at dksX4_degree_3 16 rfl rfl)
theorem dX4_degree_86 : decode cX4_degree 86 = .ok (.istore_n 3, 1) := dk_62 (dk_at dksX4_degree_3 17 rfl rfl)
theorem dX4_degree_87 : decode cX4_degree 87 = .ok (.iload 6, 2) := dk_21 6 (dk_at dksX4_degree_3 18 rfl rfl)
theorem dX4_degree_89 : decode cX4_degree 89 = .ok (.ifCond .eq 11, 3) := dk_153 0 11 (dk_at dksX4_degree_3 20 rfl rfl)
theorem dX4_degree_92 : decode cX4_degree 92 = .ok (.iload 5, 2) := dk_21 5 (dk_at dksX4_degree_4 0 rfl rfl)
theorem dX4_degree_94 : decode cX4_degree 94 = .ok (.iload_n 2, 1) := dk_28 (dk_at dksX4_degree_4 2 rfl rfl)
theorem dX4_degree_95 : decode cX4_degree 95 = .ok (.if_icmp .ne 5, 3) := dk_160 0 5 (dk_at dksX4_degree_4 3 rfl rfl)
theorem dX4_degree_98 : decode cX4_degree 98 = .ok (.iload_n 3, 1) := dk_29 (dk_at dksX4_degree_4 6 rfl rfl)
theorem dX4_degree_99 : decode cX4_degree 99 = .ok (.ireturn, 1) := dk_172 (dk_at dksX4_degree_4 7 rfl rfl)
theorem dX4_degree_100 : decode cX4_degree 100 = .ok (.iinc 4 1, 3) := dk_132 4 1 (dk_at dksX4_degree_4 8 rfl rfl)
theorem dX4_degree_103 : decode cX4_degree 103 = .ok (.goto (-64), 3) := dk_167 255 192 (dk_at dksX4_degree_4 11 rfl rfl)
theorem dX4_degree_106 : decode cX4_degree 106 = .ok (.iconst 0, 1) := dk_3 (dk_at dksX4_degree_4 14 rfl rfl)
theorem dX4_degree_107 : decode cX4_degree 107 = .ok (.ireturn, 1) := dk_172 (dk_at dksX4_degree_4 15 rfl rfl)
theorem q2354 : (Jvm.Cond.methodLink "ChordSheetModel" (167 : Nat) ({ cls := "ChordSheetModel", name := "hasTone", desc := "(II)Z" } : Jvm.MethodName)) ∈ lw_all := lw_g (lw_at lw_m10 132 rfl) rfl
theorem q2356 : (Jvm.Cond.instanceMethod ({ cls := "ChordSheetModel", name := "hasTone", desc := "(II)Z" } : Jvm.MethodName)) ∈ lw_all := lw_g (lw_at lw_m10 134 rfl) rfl
theorem q2357 : (Jvm.Cond.code ({ cls := "ChordSheetModel", name := "hasTone", desc := "(II)Z" } : Jvm.MethodName) prog_11_method_49_code (5 : Nat) (Option.some Jvm.ClassFile.FieldType.boolean)) ∈ lw_all := lw_g (lw_at lw_m10 135 rfl) rfl
theorem q2358 : (Jvm.Cond.methodLink "ChordSheetModel" (164 : Nat) ({ cls := "ChordSheetModel", name := "tonesOf", desc := "(I)I" } : Jvm.MethodName)) ∈ lw_all := lw_g (lw_at lw_m10 136 rfl) rfl
theorem q2359 : (Jvm.Cond.static ({ cls := "ChordSheetModel", name := "tonesOf", desc := "(I)I" } : Jvm.MethodName)) ∈ lw_all := lw_g (lw_at lw_m10 137 rfl) rfl
theorem q2360 : (Jvm.Cond.code ({ cls := "ChordSheetModel", name := "tonesOf", desc := "(I)I" } : Jvm.MethodName) prog_11_method_48_code (1 : Nat) (Option.some Jvm.ClassFile.FieldType.int)) ∈ lw_all := lw_g (lw_at lw_m10 138 rfl) rfl
theorem hsb_t {a : Nat} {k : Int} (hk : 0 ≤ k) : hsb (a : Int) k = 1 ↔ a.testBit k.toNat = true := by
  unfold hsb
  rw [Nat.testBit_eq_decide_div_mod_eq]
  simp only [decide_eq_true_eq]
  have e : ((a : Nat) : Int) / 2 ^ k.toNat % 2 = ((a / 2 ^ k.toNat % 2 : Nat) : Int) := by
    rw [Int.natCast_emod, Int.natCast_ediv, Int.natCast_pow]
    rfl
  rw [e]
  split <;> omega
theorem tgo_b {r q : Int} : ∀ (f : Nat) (k : Int) (s : Nat) (p : Nat), 0 ≤ k → ((tgo r q f k s).testBit p = true ↔ (s.testBit p = true ∨ ∃ j : Int, k ≤ j ∧ j < k + (f : Nat) ∧ hsb (ivl q) j = 1 ∧ ((pcl r + j) % 12).toNat = p)) := by
  intro f
  induction f with
  | zero =>
    intro k s p _
    simp only [tgo]
    constructor
    · exact Or.inl
    · rintro (h | ⟨j, h1, h2, -⟩)
      · exact h
      · omega
  | succ f ih =>
    intro k s p hk
    simp only [tgo]
    rw [ih (k + 1) _ p (by omega)]
    by_cases c : hsb (ivl q) k = 1
    · rw [if_pos c, Nat.testBit_or]
      simp only [Bool.or_eq_true, Nat.testBit_two_pow, decide_eq_true_eq]
      constructor
      · rintro ((h | h) | ⟨j, h1, h2, h3, h4⟩)
        · exact Or.inl h
        · exact Or.inr ⟨k, Int.le_refl _, by omega, c, h⟩
        · exact Or.inr ⟨j, by omega, by omega, h3, h4⟩
      · rintro (h | ⟨j, h1, h2, h3, h4⟩)
        · exact Or.inl (Or.inl h)
        · by_cases e : j = k
          · subst e; exact Or.inl (Or.inr h4)
          · exact Or.inr ⟨j, by omega, by omega, h3, h4⟩
    · rw [if_neg c, Nat.or_zero]
      constructor
      · rintro (h | ⟨j, h1, h2, h3, h4⟩)
        · exact Or.inl h
        · exact Or.inr ⟨j, by omega, by omega, h3, h4⟩
      · rintro (h | ⟨j, h1, h2, h3, h4⟩)
        · exact Or.inl h
        · by_cases e : j = k
          · subst e; exact absurd h3 c
          · exact Or.inr ⟨j, by omega, by omega, h3, h4⟩
/-- whether a chord has a tone -/
abbrev hsT (x : zCh) (p : Int) : Prop := (x.2.2.2.2 ≠ 100 ∧ pcl x.2.2.2.2 = p) ∨ hsb (ivl x.2.2.2.1) ((p - pcl x.2.2.1) % 12) = 1
theorem tns_b {x : zCh} {p : Int} (hp : 0 ≤ p ∧ p < 12) : (tns x.2.2.1 x.2.2.2.1 x.2.2.2.2).testBit p.toNat = true ↔ hsT x p := by
  have h1 := pcl_r x.2.2.1
  have h2 := pcl_r x.2.2.2.2
  unfold tns
  rw [tgo_b 12 0 _ p.toNat (by decide)]
  constructor
  · rintro (h | ⟨j, a1, a2, a3, a4⟩)
    · left
      split at h
      · simp at h
      · next c =>
        rw [Nat.testBit_two_pow] at h
        simp only [decide_eq_true_eq] at h
        exact ⟨c, by omega⟩
    · right
      rw [show (p - pcl x.2.2.1) % 12 = j by omega]
      exact a3
  · rintro (⟨a, b⟩ | h)
    · left
      rw [if_neg a, Nat.testBit_two_pow]
      simp only [decide_eq_true_eq]
      omega
    · exact Or.inr ⟨(p - pcl x.2.2.1) % 12, by omega, by omega, h, by omega⟩
theorem pcnk_s {n k : Nat} : pcnk n (k + 1) = pcnk n k + if n.testBit k = true then 1 else 0 := by
  rw [pcnk, Nat.testBit_eq_decide_div_mod_eq]
  simp only [decide_eq_true_eq]
theorem cmn_st {x y : zCh} {p n n' : Int} (hp : 0 ≤ p ∧ p < 12) (hn : n = (pcnk (tns x.2.2.1 x.2.2.2.1 x.2.2.2.2 &&& tns y.2.2.1 y.2.2.2.1 y.2.2.2.2) p.toNat : Nat)) (h : (n' = n + 1 ∧ (if hsT x p then (1 : Int) else 0) ≠ 0 ∧ (if hsT y p then (1 : Int) else 0) ≠ 0) ∨ (n' = n + 0 ∧ ((if hsT x p then (1 : Int) else 0) = 0 ∨ (if hsT y p then (1 : Int) else 0) = 0))) : n' = (pcnk (tns x.2.2.1 x.2.2.2.1 x.2.2.2.2 &&& tns y.2.2.1 y.2.2.2.1 y.2.2.2.2) (p + 1).toNat : Nat) := by
  rw [show (p + 1).toNat = p.toNat + 1 by omega, pcnk_s, Nat.testBit_and]
  have hx := tns_b (x := x) hp
  have hy := tns_b (x := y) hp
  by_cases a : hsT x p
  · by_cases b : hsT y p
    · rw [if_pos a, if_pos b] at h
      rw [hx.mpr a, hy.mpr b]
      simp only [Bool.and_self, if_true]
      omega
    · rw [if_neg b] at h
      have : (tns y.2.2.1 y.2.2.2.1 y.2.2.2.2).testBit p.toNat = false := by
        rw [← Bool.not_eq_true]; exact fun z => b (hy.mp z)
      rw [this]
      simp only [Bool.and_false, Bool.false_eq_true, if_false]
      omega
  · rw [if_neg a] at h
    have : (tns x.2.2.1 x.2.2.2.1 x.2.2.2.2).testBit p.toNat = false := by
      rw [← Bool.not_eq_true]; exact fun z => a (hx.mp z)
    rw [this]
    simp only [Bool.false_and, Bool.false_eq_true, if_false]
    omega
theorem dgo_d {t m s : Int} : ∀ (f : Nat) (k n d : Int), s < k → dgo t m s f k n d = d := by
  intro f
  induction f with
  | zero => intro k n d _; rfl
  | succ f ih =>
    intro k n d h
    simp only [dgo]
    split
    · rw [ih _ _ _ (by omega), if_neg (by omega)]
    · exact ih _ _ _ (by omega)
theorem dgs_st {t m s k n n' D : Int} (hk : 0 ≤ k ∧ k < 12) (hd : dgo t m s (12 - k).toNat k n 0 = D) (h : (n' = n + 1 ∧ insc t m ((pcl t + k) % 12) = 1 ∧ k ≠ s) ∨ (n' = n + 0 ∧ insc t m ((pcl t + k) % 12) ≠ 1)) : dgo t m s (12 - (k + 1)).toNat (k + 1) n' 0 = D := by
  rw [show (12 - k).toNat = (12 - (k + 1)).toNat + 1 by omega, dgo, show (k + pcl t) % 12 = (pcl t + k) % 12 by omega] at hd
  rcases h with ⟨e, h1, h2⟩ | ⟨e, h1⟩
  · rw [if_pos h1, if_neg h2] at hd; rw [e]; exact hd
  · rw [if_neg h1] at hd; rw [e, Int.add_zero]; exact hd
theorem dgs_en {t m s k n D : Int} (hk : 0 ≤ k ∧ k < 12) (hd : dgo t m s (12 - k).toNat k n 0 = D) (h1 : insc t m ((pcl t + k) % 12) = 1) (h2 : k = s) : n + 1 = D := by
  rw [show (12 - k).toNat = (12 - (k + 1)).toNat + 1 by omega, dgo, show (k + pcl t) % 12 = (pcl t + k) % 12 by omega, if_pos h1, if_pos h2, dgo_d _ _ _ _ (by omega)] at hd
  exact hd
set_option maxHeartbeats 4000000 in
theorem m_tones {l : Launch} (hl : l.stackTraces = false) {Γ : zCx} {h : zH} {q : Int} (hq : 0 ≤ q ∧ q ≤ 9)  : zMet l yX4_tonesOf (ws_ yX4_tonesOf cX4_tonesOf 1 (some .int)) ({ frames := 0, cells := 0, slots := 0, locals := 0 }) Γ h [.int (iI q)] (zpure h (some (.int (iI (ivl q))))) 0 0 := by
  refine zMet.of (cc := cX4_tonesOf) hl (plainFor_of_name (by decide +kernel)) (Nat.le_of_ble_eq_true rfl) ?_
  intro X hXl hXΓ hXp C hnm hnL
  have C : zC X cX4_tonesOf RX4 (some .int) 0 0 [] := C
  have hnL : X.2.1.2.2.2.2 = 1 := hnL
  subst hXl hXΓ
  show Z X h 0 0 [(0, .int (iI q))] 0 []
  refine z_iload_n (pc := 0) (j := 0) C dX4_tonesOf_0 rfl rfl ?_
  rcases (show q = 0 ∨ q = 1 ∨ q = 2 ∨ q = 3 ∨ q = 4 ∨ q = 5 ∨ q = 6 ∨ q = 7 ∨ q = 8 ∨ (q < 0 ∨ 8 < q) by omega) with c1 | c1 | c1 | c1 | c1 | c1 | c1 | c1 | c1 | c1
  · refine z_tableIn (pc := 1) (tgt := 52) C dX4_tonesOf_1 (by omega) (by omega) (by omega) (by rw [c1]; rfl) (by decide) ?_
    refine z_sipush (pc := 52) C dX4_tonesOf_52 (by decide) ?_
    exact z_ireturn (pc := 55) C (by rw [hXp]; exact zpure_i (by unfold ivl; (repeat' split) <;> omega) rfl) dX4_tonesOf_55
  · refine z_tableIn (pc := 1) (tgt := 56) C dX4_tonesOf_1 (by omega) (by omega) (by omega) (by rw [c1]; rfl) (by decide) ?_
    refine z_sipush (pc := 56) C dX4_tonesOf_56 (by decide) ?_
    exact z_ireturn (pc := 59) C (by rw [hXp]; exact zpure_i (by unfold ivl; (repeat' split) <;> omega) rfl) dX4_tonesOf_59
  · refine z_tableIn (pc := 1) (tgt := 60) C dX4_tonesOf_1 (by omega) (by omega) (by omega) (by rw [c1]; rfl) (by decide) ?_
    refine z_sipush (pc := 60) C dX4_tonesOf_60 (by decide) ?_
    exact z_ireturn (pc := 63) C (by rw [hXp]; exact zpure_i (by unfold ivl; (repeat' split) <;> omega) rfl) dX4_tonesOf_63
  · refine z_tableIn (pc := 1) (tgt := 64) C dX4_tonesOf_1 (by omega) (by omega) (by omega) (by rw [c1]; rfl) (by decide) ?_
    refine z_sipush (pc := 64) C dX4_tonesOf_64 (by decide) ?_
    exact z_ireturn (pc := 67) C (by rw [hXp]; exact zpure_i (by unfold ivl; (repeat' split) <;> omega) rfl) dX4_tonesOf_67
  · refine z_tableIn (pc := 1) (tgt := 68) C dX4_tonesOf_1 (by omega) (by omega) (by omega) (by rw [c1]; rfl) (by decide) ?_
    refine z_sipush (pc := 68) C dX4_tonesOf_68 (by decide) ?_
    exact z_ireturn (pc := 71) C (by rw [hXp]; exact zpure_i (by unfold ivl; (repeat' split) <;> omega) rfl) dX4_tonesOf_71
  · refine z_tableIn (pc := 1) (tgt := 72) C dX4_tonesOf_1 (by omega) (by omega) (by omega) (by rw [c1]; rfl) (by decide) ?_
    refine z_bipush (pc := 72) C dX4_tonesOf_72 (by decide) ?_
    exact z_ireturn (pc := 74) C (by rw [hXp]; exact zpure_i (by unfold ivl; (repeat' split) <;> omega) rfl) dX4_tonesOf_74
  · refine z_tableIn (pc := 1) (tgt := 75) C dX4_tonesOf_1 (by omega) (by omega) (by omega) (by rw [c1]; rfl) (by decide) ?_
    refine z_sipush (pc := 75) C dX4_tonesOf_75 (by decide) ?_
    exact z_ireturn (pc := 78) C (by rw [hXp]; exact zpure_i (by unfold ivl; (repeat' split) <;> omega) rfl) dX4_tonesOf_78
  · refine z_tableIn (pc := 1) (tgt := 79) C dX4_tonesOf_1 (by omega) (by omega) (by omega) (by rw [c1]; rfl) (by decide) ?_
    refine z_sipush (pc := 79) C dX4_tonesOf_79 (by decide) ?_
    exact z_ireturn (pc := 82) C (by rw [hXp]; exact zpure_i (by unfold ivl; (repeat' split) <;> omega) rfl) dX4_tonesOf_82
  · refine z_tableIn (pc := 1) (tgt := 83) C dX4_tonesOf_1 (by omega) (by omega) (by omega) (by rw [c1]; rfl) (by decide) ?_
    refine z_sipush (pc := 83) C dX4_tonesOf_83 (by decide) ?_
    exact z_ireturn (pc := 86) C (by rw [hXp]; exact zpure_i (by unfold ivl; (repeat' split) <;> omega) rfl) dX4_tonesOf_86
  · refine z_tableOut (pc := 1) (tgt := 87) C dX4_tonesOf_1 (by omega) c1 (by decide) ?_
    refine z_sipush (pc := 87) C dX4_tonesOf_87 (by decide) ?_
    exact z_ireturn (pc := 90) C (by rw [hXp]; exact zpure_i (by unfold ivl; (repeat' split) <;> omega) rfl) dX4_tonesOf_90
set_option maxHeartbeats 4000000 in
theorem m_hasT {l : Launch} (hl : l.stackTraces = false) {Γ : zCx} {h : zH} {A : zMA} {st ty si ff wd th ap nt rr rq rb wh nd up lo : Int} {V P T M N U W : Nat → Int} (hM : mM h A st ty si ff wd th ap nt rr rq rb wh nd up lo V P T M N U W) {S : zSh} (hS : vS V S) (hsl : shL S) (hsr : shR S) {i : Int} {x : zCh} (hi : 0 ≤ i) (hx : S.cs[i.toNat]? = some x) {p : Int} (hp : 0 ≤ p ∧ p < 12)  : zMet l yX4_hasTone (ws_ yX4_hasTone cX4_hasTone 5 (some .boolean)) ({ frames := 2, cells := 0, slots := 0, locals := 40 }) Γ h [.ref A.m, .int (iI i), .int (iI p)] (zpure h (some (.int (iI (if hsT x p then 1 else 0))))) 0 0 := by
  refine zMet.of (cc := cX4_hasTone) hl (plainFor_of_name (by decide +kernel)) (Nat.le_of_ble_eq_true rfl) ?_
  intro X hXl hXΓ hXp C hnm hnL
  have C : zC X cX4_hasTone RX4 (some .boolean) 2 40 [] := C
  have hnL : X.2.1.2.2.2.2 = 5 := hnL
  subst hXl hXΓ
  show Z X h 0 0 [(0, .ref A.m), (1, .int (iI i)), (2, .int (iI p))] 0 []
  obtain ⟨gm_1, gv_1, gpa_1, gtx_1, gma_1, gna_1, gua_1, gla_1, gle_1, gqa_1, gd_1⟩ := id hM
  obtain ⟨hsl1, hsl2, hsl3⟩ := id hsl
  have hix := (List.getElem?_eq_some_iff.mp hx).1
  obtain ⟨hx1, hx2, hx3, hx4, hx5⟩ := hS.c hi hx
  obtain ⟨xr1, xr2, xr3, xr4, xr5⟩ := hsr.2.1 _ (List.mem_of_getElem? hx)
  refine z_iload_n (pc := 0) (j := 1) C dX4_hasTone_0 rfl rfl ?_
  refine z_callS (pc := 1) (n := 1) (kc' := 0) (ks' := 0) C (m_chord C.t (x := i)) (lw_S q2203 q2204 q74 q2205) (by decide +kernel) ⟨by decide, by decide⟩ rfl rfl (Nat.le_of_ble_eq_true rfl) dX4_hasTone_1 (by omega) (by omega) (zpk (st' := [.int (iI (210 + 5 * i))]) rfl ?_) zrx
  refine z_istore_n (pc := 4) (L' := [(3, .int (iI (210 + 5 * i))), (0, .ref A.m), (1, .int (iI i)), (2, .int (iI p))]) C dX4_hasTone_4 rfl (by rw [hnL]; decide) rfl ?_
  refine z_aload_n (pc := 5) (j := 1) C dX4_hasTone_5 rfl rfl ?_
  refine z_getfield (pc := 6) (v := .ref A.v) C in_X4 rfl 0 (by decide) q2082 (fun _ z => z) gm_1 rfl dX4_hasTone_6 ?_
  refine z_iload_n (pc := 9) (j := 0) C dX4_hasTone_9 rfl rfl ?_
  refine z_iconst (pc := 10) C dX4_hasTone_10 ?_
  refine z_iadd (pc := 11) C dX4_hasTone_11 ?_
  refine z_iaload (pc := 12) (v := .int (iI x.2.2.2.2)) C gv_1 (by omega) (mA_e (vE hx5 (by omega))) dX4_hasTone_12 ?_
  refine z_bipush (pc := 13) C dX4_hasTone_13 (by decide) ?_
  refine z_icmp_eq (pc := 15) (tgt := 37) C dX4_hasTone_15 (by decide) (by omega) (by decide) (fun c15 => ?_) (fun c15 => ?_)
  · refine z_iconst (pc := 37) C dX4_hasTone_37 ?_
    refine z_istore (pc := 38) (L' := [(4, .int (iI 0)), (3, .int (iI (210 + 5 * i))), (0, .ref A.m), (1, .int (iI i)), (2, .int (iI p))]) C dX4_hasTone_38 (by rw [hnL]; decide) rfl ?_
    refine z_iload (pc := 40) (j := 0) C dX4_hasTone_40 rfl ?_
    refine z_if_ne (pc := 42) (tgt := 79) C dX4_hasTone_42 (by decide) (by decide) (fun z => absurd z (by decide)) (fun _ => ?_)
    refine z_aload_n (pc := 45) (j := 2) C dX4_hasTone_45 rfl rfl ?_
    refine z_getfield (pc := 46) (v := .ref A.v) C in_X4 rfl 0 (by decide) q2082 (fun _ z => z) gm_1 rfl dX4_hasTone_46 ?_
    refine z_iload_n (pc := 49) (j := 1) C dX4_hasTone_49 rfl rfl ?_
    refine z_iconst (pc := 50) C dX4_hasTone_50 ?_
    refine z_iadd (pc := 51) C dX4_hasTone_51 ?_
    refine z_iaload (pc := 52) (v := .int (iI x.2.2.2.1)) C gv_1 (by omega) (mA_e (vE hx4 (by omega))) dX4_hasTone_52 ?_
    refine z_callS (pc := 53) (n := 1) (kc' := 0) (ks' := 0) C (m_tones C.t (q := x.2.2.2.1) (by omega)) (lw_S q2358 q2359 q74 q2360) (by decide +kernel) ⟨by decide, by decide⟩ rfl rfl (Nat.le_of_ble_eq_true rfl) dX4_hasTone_53 (by omega) (by omega) (zpk (st' := [.int (iI (ivl x.2.2.2.1))]) rfl ?_) zrx
    have hiv56 := ivl_r x.2.2.2.1
    refine z_iload_n (pc := 56) (j := 4) C dX4_hasTone_56 rfl rfl ?_
    refine z_aload_n (pc := 57) (j := 2) C dX4_hasTone_57 rfl rfl ?_
    refine z_getfield (pc := 58) (v := .ref A.v) C in_X4 rfl 0 (by decide) q2082 (fun _ z => z) gm_1 rfl dX4_hasTone_58 ?_
    refine z_iload_n (pc := 61) (j := 1) C dX4_hasTone_61 rfl rfl ?_
    refine z_iconst (pc := 62) C dX4_hasTone_62 ?_
    refine z_iadd (pc := 63) C dX4_hasTone_63 ?_
    refine z_iaload (pc := 64) (v := .int (iI x.2.2.1)) C gv_1 (by omega) (mA_e (vE hx3 (by omega))) dX4_hasTone_64 ?_
    refine z_callS (pc := 65) (n := 1) (kc' := 0) (ks' := 0) C (m_pitch C.t (x := x.2.2.1) (by omega)) (lw_S q2218 q2219 q74 q2220) (by decide +kernel) ⟨by decide, by decide⟩ rfl rfl (Nat.le_of_ble_eq_true rfl) dX4_hasTone_65 (by omega) (by omega) (zpk (st' := [.int (iI (pcl x.2.2.1)), .int (iI p), .int (iI (ivl x.2.2.2.1))]) rfl ?_) zrx
    have hpcl68 := pcl_r x.2.2.1
    refine z_isub (pc := 68) C dX4_hasTone_68 ?_
    refine z_callS (pc := 69) (n := 1) (kc' := 0) (ks' := 0) C (m_mod C.t (x := p - (pcl x.2.2.1)) (by omega)) (lw_S q2221 q2222 q74 q2223) (by decide +kernel) ⟨by decide, by decide⟩ rfl rfl (Nat.le_of_ble_eq_true rfl) dX4_hasTone_69 (by omega) (by omega) (zpk (st' := [.int (iI ((p - (pcl x.2.2.1)) % 12)), .int (iI (ivl x.2.2.2.1))]) rfl ?_) zrx
    refine z_ishrk (pc := 72) C (by omega) (by omega) dX4_hasTone_72 ?_
    refine z_iconst (pc := 73) C dX4_hasTone_73 ?_
    refine z_and1 (pc := 74) C ⟨Int.ediv_nonneg (by omega) (Int.pow_nonneg (by decide)), Int.le_trans (Int.ediv_le_self _ (by omega)) (by omega)⟩ dX4_hasTone_74 ?_
    refine z_iconst (pc := 75) C dX4_hasTone_75 ?_
    refine z_icmp_ne (pc := 76) (tgt := 83) C dX4_hasTone_76 (by decide) (by omega) (by decide) (fun c76 => ?_) (fun c76 => ?_)
    · refine z_iconst (pc := 83) C dX4_hasTone_83 ?_
      have hyes : ¬ hsT x p := by
        unfold hsT hsb
        rintro (⟨z1, z2⟩ | z)
        · omega
        · rw [if_neg (by omega)] at z; omega
      exact z_zreturn (pc := 84) C (by decide) (by rw [hXp]; exact zpure_i (by rw [if_neg hyes]) rfl) dX4_hasTone_84
    · refine z_iconst (pc := 79) C dX4_hasTone_79 ?_
      refine z_goto (pc := 80) (tgt := 84) C dX4_hasTone_80 (by decide) ?_
      have hyes : hsT x p := by unfold hsT hsb; first | exact Or.inl ⟨by omega, by omega⟩ | exact Or.inr (by rw [if_pos (by omega)])
      exact z_zreturn (pc := 84) C (by decide) (by rw [hXp]; exact zpure_i (by rw [if_pos hyes]) rfl) dX4_hasTone_84
  · refine z_aload_n (pc := 18) (j := 1) C dX4_hasTone_18 rfl rfl ?_
    refine z_getfield (pc := 19) (v := .ref A.v) C in_X4 rfl 0 (by decide) q2082 (fun _ z => z) gm_1 rfl dX4_hasTone_19 ?_
    refine z_iload_n (pc := 22) (j := 0) C dX4_hasTone_22 rfl rfl ?_
    refine z_iconst (pc := 23) C dX4_hasTone_23 ?_
    refine z_iadd (pc := 24) C dX4_hasTone_24 ?_
    refine z_iaload (pc := 25) (v := .int (iI x.2.2.2.2)) C gv_1 (by omega) (mA_e (vE hx5 (by omega))) dX4_hasTone_25 ?_
    refine z_callS (pc := 26) (n := 1) (kc' := 0) (ks' := 0) C (m_pitch C.t (x := x.2.2.2.2) (by omega)) (lw_S q2218 q2219 q74 q2220) (by decide +kernel) ⟨by decide, by decide⟩ rfl rfl (Nat.le_of_ble_eq_true rfl) dX4_hasTone_26 (by omega) (by omega) (zpk (st' := [.int (iI (pcl x.2.2.2.2))]) rfl ?_) zrx
    have hpcl29 := pcl_r x.2.2.2.2
    refine z_iload_n (pc := 29) (j := 3) C dX4_hasTone_29 rfl rfl ?_
    refine z_icmp_ne (pc := 30) (tgt := 37) C dX4_hasTone_30 (by decide) (by omega) (by omega) (fun c30 => ?_) (fun c30 => ?_)
    · refine z_iconst (pc := 37) C dX4_hasTone_37 ?_
      refine z_istore (pc := 38) (L' := [(4, .int (iI 0)), (3, .int (iI (210 + 5 * i))), (0, .ref A.m), (1, .int (iI i)), (2, .int (iI p))]) C dX4_hasTone_38 (by rw [hnL]; decide) rfl ?_
      refine z_iload (pc := 40) (j := 0) C dX4_hasTone_40 rfl ?_
      refine z_if_ne (pc := 42) (tgt := 79) C dX4_hasTone_42 (by decide) (by decide) (fun z => absurd z (by decide)) (fun _ => ?_)
      refine z_aload_n (pc := 45) (j := 2) C dX4_hasTone_45 rfl rfl ?_
      refine z_getfield (pc := 46) (v := .ref A.v) C in_X4 rfl 0 (by decide) q2082 (fun _ z => z) gm_1 rfl dX4_hasTone_46 ?_
      refine z_iload_n (pc := 49) (j := 1) C dX4_hasTone_49 rfl rfl ?_
      refine z_iconst (pc := 50) C dX4_hasTone_50 ?_
      refine z_iadd (pc := 51) C dX4_hasTone_51 ?_
      refine z_iaload (pc := 52) (v := .int (iI x.2.2.2.1)) C gv_1 (by omega) (mA_e (vE hx4 (by omega))) dX4_hasTone_52 ?_
      refine z_callS (pc := 53) (n := 1) (kc' := 0) (ks' := 0) C (m_tones C.t (q := x.2.2.2.1) (by omega)) (lw_S q2358 q2359 q74 q2360) (by decide +kernel) ⟨by decide, by decide⟩ rfl rfl (Nat.le_of_ble_eq_true rfl) dX4_hasTone_53 (by omega) (by omega) (zpk (st' := [.int (iI (ivl x.2.2.2.1))]) rfl ?_) zrx
      have hiv56 := ivl_r x.2.2.2.1
      refine z_iload_n (pc := 56) (j := 4) C dX4_hasTone_56 rfl rfl ?_
      refine z_aload_n (pc := 57) (j := 2) C dX4_hasTone_57 rfl rfl ?_
      refine z_getfield (pc := 58) (v := .ref A.v) C in_X4 rfl 0 (by decide) q2082 (fun _ z => z) gm_1 rfl dX4_hasTone_58 ?_
      refine z_iload_n (pc := 61) (j := 1) C dX4_hasTone_61 rfl rfl ?_
      refine z_iconst (pc := 62) C dX4_hasTone_62 ?_
      refine z_iadd (pc := 63) C dX4_hasTone_63 ?_
      refine z_iaload (pc := 64) (v := .int (iI x.2.2.1)) C gv_1 (by omega) (mA_e (vE hx3 (by omega))) dX4_hasTone_64 ?_
      refine z_callS (pc := 65) (n := 1) (kc' := 0) (ks' := 0) C (m_pitch C.t (x := x.2.2.1) (by omega)) (lw_S q2218 q2219 q74 q2220) (by decide +kernel) ⟨by decide, by decide⟩ rfl rfl (Nat.le_of_ble_eq_true rfl) dX4_hasTone_65 (by omega) (by omega) (zpk (st' := [.int (iI (pcl x.2.2.1)), .int (iI p), .int (iI (ivl x.2.2.2.1))]) rfl ?_) zrx
      have hpcl68 := pcl_r x.2.2.1
      refine z_isub (pc := 68) C dX4_hasTone_68 ?_
      refine z_callS (pc := 69) (n := 1) (kc' := 0) (ks' := 0) C (m_mod C.t (x := p - (pcl x.2.2.1)) (by omega)) (lw_S q2221 q2222 q74 q2223) (by decide +kernel) ⟨by decide, by decide⟩ rfl rfl (Nat.le_of_ble_eq_true rfl) dX4_hasTone_69 (by omega) (by omega) (zpk (st' := [.int (iI ((p - (pcl x.2.2.1)) % 12)), .int (iI (ivl x.2.2.2.1))]) rfl ?_) zrx
      refine z_ishrk (pc := 72) C (by omega) (by omega) dX4_hasTone_72 ?_
      refine z_iconst (pc := 73) C dX4_hasTone_73 ?_
      refine z_and1 (pc := 74) C ⟨Int.ediv_nonneg (by omega) (Int.pow_nonneg (by decide)), Int.le_trans (Int.ediv_le_self _ (by omega)) (by omega)⟩ dX4_hasTone_74 ?_
      refine z_iconst (pc := 75) C dX4_hasTone_75 ?_
      refine z_icmp_ne (pc := 76) (tgt := 83) C dX4_hasTone_76 (by decide) (by omega) (by decide) (fun c76 => ?_) (fun c76 => ?_)
      · refine z_iconst (pc := 83) C dX4_hasTone_83 ?_
        have hyes : ¬ hsT x p := by
          unfold hsT hsb
          rintro (⟨z1, z2⟩ | z)
          · omega
          · rw [if_neg (by omega)] at z; omega
        exact z_zreturn (pc := 84) C (by decide) (by rw [hXp]; exact zpure_i (by rw [if_neg hyes]) rfl) dX4_hasTone_84
      · refine z_iconst (pc := 79) C dX4_hasTone_79 ?_
        refine z_goto (pc := 80) (tgt := 84) C dX4_hasTone_80 (by decide) ?_
        have hyes : hsT x p := by unfold hsT hsb; first | exact Or.inl ⟨by omega, by omega⟩ | exact Or.inr (by rw [if_pos (by omega)])
        exact z_zreturn (pc := 84) C (by decide) (by rw [hXp]; exact zpure_i (by rw [if_pos hyes]) rfl) dX4_hasTone_84
    · refine z_iconst (pc := 33) C dX4_hasTone_33 ?_
      refine z_goto (pc := 34) (tgt := 38) C dX4_hasTone_34 (by decide) ?_
      refine z_istore (pc := 38) (L' := [(4, .int (iI 1)), (3, .int (iI (210 + 5 * i))), (0, .ref A.m), (1, .int (iI i)), (2, .int (iI p))]) C dX4_hasTone_38 (by rw [hnL]; decide) rfl ?_
      refine z_iload (pc := 40) (j := 0) C dX4_hasTone_40 rfl ?_
      refine z_if_ne (pc := 42) (tgt := 79) C dX4_hasTone_42 (by decide) (by decide) (fun _ => ?_) (fun z => absurd z (by decide))
      refine z_iconst (pc := 79) C dX4_hasTone_79 ?_
      refine z_goto (pc := 80) (tgt := 84) C dX4_hasTone_80 (by decide) ?_
      have hyes : hsT x p := by unfold hsT hsb; first | exact Or.inl ⟨by omega, by omega⟩ | exact Or.inr (by rw [if_pos (by omega)])
      exact z_zreturn (pc := 84) C (by decide) (by rw [hXp]; exact zpure_i (by rw [if_pos hyes]) rfl) dX4_hasTone_84
set_option maxHeartbeats 4000000 in
theorem md_common {l : Launch} (hl : l.stackTraces = false) {Γ : zCx} {h : zH} {A : zMA} {σ : zSt} {th : Int} (hW : mdW h A σ th) {i : Int} {x y : zCh} (hi : 0 ≤ i) (hx : σ.sh.cs[i.toNat]? = some x) (hy : σ.sh.cs[(i + 1).toNat]? = some y)  : zMet l yX4_commonTones (ws_ yX4_commonTones cX4_commonTones 4 (some .int)) ({ frames := 3, cells := 0, slots := 0, locals := 64 }) Γ h [.ref A.m, .int (iI i)] (zrt (fun w h' => w = some (.int (iI (((pcn ((tns x.2.2.1 x.2.2.2.1 x.2.2.2.2) &&& (tns y.2.2.1 y.2.2.2.1 y.2.2.2.2)) : Nat) : Int)))) ∧ mdW h' A σ 0 ∧ zkeep h h' [A.m, A.v, A.pa, A.tx, A.ma, A.na, A.ua, A.la])) 0 0 := by
  refine zMet.of (cc := cX4_commonTones) hl (plainFor_of_name (by decide +kernel)) (Nat.le_of_ble_eq_true rfl) ?_
  intro X hXl hXΓ hXp C hnm hnL
  have C : zC X cX4_commonTones RX4 (some .int) 3 64 [] := C
  have hnL : X.2.1.2.2.2.2 = 4 := hnL
  subst hXl hXΓ
  show Z X h 0 0 [(0, .ref A.m), (1, .int (iI i))] 0 []
  obtain ⟨ap, nt, rr, rq, rb, wh, nd, up, lo, V, P, T, M, N, U, W, hM, hS, hP, htq, hR, hsl, hslh⟩ := id hW
  obtain ⟨rsi, rff, rwd, rtl, rtx, rsh, rhi, rhl⟩ := id hR
  obtain ⟨rcl, rcr, rll, rlt, rkt, rkm, rks⟩ := id rsh
  obtain ⟨hsl1, hsl2, hsl3⟩ := id hsl
  have hTr := rtx
  have hTl := rtl
  obtain ⟨gm_1, gv_1, gpa_1, gtx_1, gma_1, gna_1, gua_1, gla_1, gle_1, gqa_1, gd_1⟩ := id hM
  have hix := (List.getElem?_eq_some_iff.mp hx).1
  have hiy := (List.getElem?_eq_some_iff.mp hy).1
  refine z_aload_n (pc := 0) (j := 0) C dX4_commonTones_0 rfl rfl ?_
  refine z_iconst (pc := 1) C dX4_commonTones_1 ?_
  refine z_putfield (pc := 2) (fs' := [.ref A.v, .ref A.pa, .int (iI ((σ.hi.length : Nat) : Int)), .ref A.tx, .int (iI ((σ.tx.length : Nat) : Int)), .int (iI σ.si), .int (iI σ.fl), .int (iI σ.wd), .int (iI 0), .ref A.le, .ref A.qa, .int (iI ap), .int (iI nt), .int (iI rr), .int (iI rq), .int (iI rb), .int (iI wh), .ref A.ma, .ref A.na, .int (iI nd), .ref A.ua, .ref A.la, .int (iI up), .int (iI lo)]) C in_X4 tyX4 tyX4_ok nmX4 rfl 8 (by decide) q2090 (fun _ z => z) rfl rfl rfl (Nat.le_of_ble_eq_true rfl) gm_1 rfl dX4_commonTones_2 ?_
  refine Z.nm (fun h2 eh2 => ?_)
  have kh2 : zkeep h h2 [A.m, A.v, A.pa, A.tx, A.ma, A.na, A.ua, A.la] := by rw [eh2]; exact zkeep.up zkeep.rf (Or.inl (by simp)) gm_1
  have fh2_0 : h2 A.m = some (true, .inr (3, [.ref A.v, .ref A.pa, .int (iI ((σ.hi.length : Nat) : Int)), .ref A.tx, .int (iI ((σ.tx.length : Nat) : Int)), .int (iI σ.si), .int (iI σ.fl), .int (iI σ.wd), .int (iI 0), .ref A.le, .ref A.qa, .int (iI ap), .int (iI nt), .int (iI rr), .int (iI rq), .int (iI rb), .int (iI wh), .ref A.ma, .ref A.na, .int (iI nd), .ref A.ua, .ref A.la, .int (iI up), .int (iI lo)])) := zse eh2
  have fh2_1 : h2 A.v = some (true, .inl (.int, 620, (mA V))) := zsn eh2 gv_1 (Ne.symm (zneA gm_1 gv_1))
  have fh2_2 : h2 A.pa = some (true, .inl (.int, 4960, (mA P))) := zsn eh2 gpa_1 (Ne.symm (zneA gm_1 gpa_1))
  have fh2_3 : h2 A.tx = some (true, .inl (.int, 200, (mA T))) := zsn eh2 gtx_1 (Ne.symm (zneA gm_1 gtx_1))
  have fh2_4 : h2 A.ma = some (true, .inl (.int, 620, (mA M))) := zsn eh2 gma_1 (Ne.symm (zneA gm_1 gma_1))
  have fh2_5 : h2 A.na = some (true, .inl (.int, 20, (mA N))) := zsn eh2 gna_1 (Ne.symm (zneA gm_1 gna_1))
  have fh2_6 : h2 A.ua = some (true, .inl (.int, 1200, (mA U))) := zsn eh2 gua_1 (Ne.symm (zneA gm_1 gua_1))
  have fh2_7 : h2 A.la = some (true, .inl (.int, 1200, (mA W))) := zsn eh2 gla_1 (Ne.symm (zneA gm_1 gla_1))
  refine z_aload_n (pc := 5) (j := 0) C dX4_commonTones_5 rfl rfl ?_
  refine z_iload_n (pc := 6) (j := 1) C dX4_commonTones_6 rfl rfl ?_
  refine z_callV (pc := 7) (n := 1) (kc' := 0) (ks' := 0) C (m_isChord C.t ⟨fh2_0, fh2_1, fh2_2, fh2_3, fh2_4, fh2_5, fh2_6, fh2_7, (kh2.n gle_1 (List.not_mem_cons_of_ne_of_not_mem (Ne.symm (zneA gm_1 gle_1)) (List.not_mem_cons_of_ne_of_not_mem (zneT gle_1 gv_1 (by simp)) (List.not_mem_cons_of_ne_of_not_mem (zneT gle_1 gpa_1 (by simp)) (List.not_mem_cons_of_ne_of_not_mem (zneT gle_1 gtx_1 (by simp)) (List.not_mem_cons_of_ne_of_not_mem (zneT gle_1 gma_1 (by simp)) (List.not_mem_cons_of_ne_of_not_mem (zneT gle_1 gna_1 (by simp)) (List.not_mem_cons_of_ne_of_not_mem (zneT gle_1 gua_1 (by simp)) (List.not_mem_cons_of_ne_of_not_mem (zneT gle_1 gla_1 (by simp)) List.not_mem_nil))))))))), (kh2.n gqa_1 (List.not_mem_cons_of_ne_of_not_mem (Ne.symm (zneA gm_1 gqa_1)) (List.not_mem_cons_of_ne_of_not_mem (zneT gqa_1 gv_1 (by simp)) (List.not_mem_cons_of_ne_of_not_mem (zneT gqa_1 gpa_1 (by simp)) (List.not_mem_cons_of_ne_of_not_mem (zneT gqa_1 gtx_1 (by simp)) (List.not_mem_cons_of_ne_of_not_mem (zneT gqa_1 gma_1 (by simp)) (List.not_mem_cons_of_ne_of_not_mem (zneT gqa_1 gna_1 (by simp)) (List.not_mem_cons_of_ne_of_not_mem (zneT gqa_1 gua_1 (by simp)) (List.not_mem_cons_of_ne_of_not_mem (zneT gqa_1 gla_1 (by simp)) List.not_mem_nil))))))))), gd_1⟩ hS hsl (i := i) (by omega)) (lw_V q2278 q2280 qs41 q74 q2281) (by decide +kernel) ⟨by decide, by decide⟩ fh2_0 rfl rfl rfl (Nat.le_of_ble_eq_true rfl) dX4_commonTones_7 (by omega) (by omega) (zpk (st' := [.int (iI (if 0 ≤ i ∧ i ≤ ((σ.sh.cs.length : Nat) : Int) - 1 then 1 else 0))]) rfl ?_) zrx
  rw [show ((if 0 ≤ i ∧ i ≤ ((σ.sh.cs.length : Nat) : Int) - 1 then 1 else 0) : Int) = 1 from if_pos (by omega)]
  show Z X h2 0 0 [(0, .ref A.m), (1, .int (iI i))] 10 [.int (iI 1)]
  refine z_if_eq (pc := 10) (tgt := 23) C dX4_commonTones_10 (by decide) (by decide) (fun z => absurd z (by decide)) (fun _ => ?_)
  refine z_aload_n (pc := 13) (j := 0) C dX4_commonTones_13 rfl rfl ?_
  refine z_iload_n (pc := 14) (j := 1) C dX4_commonTones_14 rfl rfl ?_
  refine z_iconst (pc := 15) C dX4_commonTones_15 ?_
  refine z_iadd (pc := 16) C dX4_commonTones_16 ?_
  refine z_callV (pc := 17) (n := 1) (kc' := 0) (ks' := 0) C (m_isChord C.t ⟨fh2_0, fh2_1, fh2_2, fh2_3, fh2_4, fh2_5, fh2_6, fh2_7, (kh2.n gle_1 (List.not_mem_cons_of_ne_of_not_mem (Ne.symm (zneA gm_1 gle_1)) (List.not_mem_cons_of_ne_of_not_mem (zneT gle_1 gv_1 (by simp)) (List.not_mem_cons_of_ne_of_not_mem (zneT gle_1 gpa_1 (by simp)) (List.not_mem_cons_of_ne_of_not_mem (zneT gle_1 gtx_1 (by simp)) (List.not_mem_cons_of_ne_of_not_mem (zneT gle_1 gma_1 (by simp)) (List.not_mem_cons_of_ne_of_not_mem (zneT gle_1 gna_1 (by simp)) (List.not_mem_cons_of_ne_of_not_mem (zneT gle_1 gua_1 (by simp)) (List.not_mem_cons_of_ne_of_not_mem (zneT gle_1 gla_1 (by simp)) List.not_mem_nil))))))))), (kh2.n gqa_1 (List.not_mem_cons_of_ne_of_not_mem (Ne.symm (zneA gm_1 gqa_1)) (List.not_mem_cons_of_ne_of_not_mem (zneT gqa_1 gv_1 (by simp)) (List.not_mem_cons_of_ne_of_not_mem (zneT gqa_1 gpa_1 (by simp)) (List.not_mem_cons_of_ne_of_not_mem (zneT gqa_1 gtx_1 (by simp)) (List.not_mem_cons_of_ne_of_not_mem (zneT gqa_1 gma_1 (by simp)) (List.not_mem_cons_of_ne_of_not_mem (zneT gqa_1 gna_1 (by simp)) (List.not_mem_cons_of_ne_of_not_mem (zneT gqa_1 gua_1 (by simp)) (List.not_mem_cons_of_ne_of_not_mem (zneT gqa_1 gla_1 (by simp)) List.not_mem_nil))))))))), gd_1⟩ hS hsl (i := i + 1) (by omega)) (lw_V q2278 q2280 qs41 q74 q2281) (by decide +kernel) ⟨by decide, by decide⟩ fh2_0 rfl rfl rfl (Nat.le_of_ble_eq_true rfl) dX4_commonTones_17 (by omega) (by omega) (zpk (st' := [.int (iI (if 0 ≤ i + 1 ∧ i + 1 ≤ ((σ.sh.cs.length : Nat) : Int) - 1 then 1 else 0))]) rfl ?_) zrx
  rw [show ((if 0 ≤ i + 1 ∧ i + 1 ≤ ((σ.sh.cs.length : Nat) : Int) - 1 then 1 else 0) : Int) = 1 from if_pos (by omega)]
  show Z X h2 0 0 [(0, .ref A.m), (1, .int (iI i))] 20 [.int (iI 1)]
  refine z_if_ne (pc := 20) (tgt := 29) C dX4_commonTones_20 (by decide) (by decide) (fun _ => ?_) (fun z => absurd z (by decide))
  refine z_iconst (pc := 29) C dX4_commonTones_29 ?_
  refine z_istore_n (pc := 30) (L' := [(2, .int (iI 0)), (0, .ref A.m), (1, .int (iI i))]) C dX4_commonTones_30 rfl (by rw [hnL]; decide) rfl ?_
  refine z_iconst (pc := 31) C dX4_commonTones_31 ?_
  refine z_istore_n (pc := 32) (L' := [(3, .int (iI 0)), (2, .int (iI 0)), (0, .ref A.m), (1, .int (iI i))]) C dX4_commonTones_32 rfl (by rw [hnL]; decide) rfl ?_
  have loop33 : ∀ (n33 : Nat) (p : Int) (n : Int) (g33 : zH), (mM g33 A ((σ.hi.length : Nat) : Int) ((σ.tx.length : Nat) : Int) σ.si σ.fl σ.wd 0 ap nt rr rq rb wh nd up lo V P T M N U W) → (zkeep h g33 [A.m, A.v, A.pa, A.tx, A.ma, A.na, A.ua, A.la]) → (0 ≤ p ∧ p ≤ 12) → (n = (pcnk ((tns x.2.2.1 x.2.2.2.1 x.2.2.2.2) &&& (tns y.2.2.1 y.2.2.2.1 y.2.2.2.2)) p.toNat : Nat)) → ((12 - p).toNat) = n33 → Z X g33 0 0 [(3, .int (iI p)), (2, .int (iI n)), (1, .int (iI i)), (0, .ref A.m)] 33 [] := by
    intro n33
    induction n33 using Nat.strongRecOn with
    | ind n33 ih33 =>
    intro p n g33 hMg33 hkp33 hp hn hn33
    obtain ⟨gm_3, gv_3, gpa_3, gtx_3, gma_3, gna_3, gua_3, gla_3, gle_3, gqa_3, gd_3⟩ := id hMg33
    refine z_iload_n (pc := 33) (j := 0) C dX4_commonTones_33 rfl rfl ?_
    refine z_bipush (pc := 34) C dX4_commonTones_34 (by decide) ?_
    refine z_icmp_ge (pc := 36) (tgt := 73) C dX4_commonTones_36 (by decide) (by omega) (by decide) (fun c36 => ?_) (fun c36 => ?_)
    · refine z_iload_n (pc := 73) (j := 1) C dX4_commonTones_73 rfl rfl ?_
      exact z_ireturn (pc := 74) C (by rw [hXp]; exact ⟨_, rfl, (by rw [hn, show p.toNat = 12 by omega]; rfl), ⟨ap, nt, rr, rq, rb, wh, nd, up, lo, V, P, T, M, N, U, W, ⟨gm_3, gv_3, gpa_3, gtx_3, gma_3, gna_3, gua_3, gla_3, gle_3, gqa_3, gd_3⟩, hS, hP, htq, hR, hsl, hslh⟩, hkp33⟩) dX4_commonTones_74
    · have hp9 : 0 ≤ p ∧ p < 12 := by omega
      refine z_iload_n (pc := 39) (j := 1) C dX4_commonTones_39 rfl rfl ?_
      refine z_aload_n (pc := 40) (j := 3) C dX4_commonTones_40 rfl rfl ?_
      refine z_iload_n (pc := 41) (j := 2) C dX4_commonTones_41 rfl rfl ?_
      refine z_iload_n (pc := 42) (j := 0) C dX4_commonTones_42 rfl rfl ?_
      refine z_callV (pc := 43) (n := 2) (kc' := 0) (ks' := 0) C (m_hasT C.t ⟨gm_3, gv_3, gpa_3, gtx_3, gma_3, gna_3, gua_3, gla_3, gle_3, gqa_3, gd_3⟩ hS hsl rsh (i := i) (by omega) hx (p := p) (by omega)) (lw_V q2354 q2356 qs50 q74 q2357) (by decide +kernel) ⟨by decide, by decide⟩ gm_3 rfl rfl rfl (Nat.le_of_ble_eq_true rfl) dX4_commonTones_43 (by omega) (by omega) (zpk (st' := [.int (iI (if hsT x p then 1 else 0)), .int (iI n)]) rfl ?_) zrx
      refine z_if_eq (pc := 46) (tgt := 64) C dX4_commonTones_46 (by decide) (by split <;> decide) (fun c46 => ?_) (fun c46 => ?_)
      · refine z_iconst (pc := 64) C dX4_commonTones_64 ?_
        refine z_iadd (pc := 65) C dX4_commonTones_65 ?_
        refine z_istore_n (pc := 66) (L' := [(2, .int (iI (n + 0))), (3, .int (iI p)), (1, .int (iI i)), (0, .ref A.m)]) C dX4_commonTones_66 rfl (by rw [hnL]; decide) rfl ?_
        refine z_iinc (pc := 67) (k := 1) (L' := [(3, .int (iI (p + 1))), (2, .int (iI (n + 0))), (1, .int (iI i)), (0, .ref A.m)]) C dX4_commonTones_67 rfl (by rw [hnL]; decide) rfl ?_
        refine z_goto (pc := 70) (tgt := 33) C dX4_commonTones_70 (by decide) ?_
        refine Z.weak (L' := [(3, .int (iI (p + 1))), (2, .int (iI (n + 0))), (1, .int (iI i)), (0, .ref A.m)]) (kc' := 0) (ks' := 0) [0, 1, 2, 3] rfl (by omega) (by omega) ?_
        exact ih33 _ (by omega) (p + 1) (n + 0) g33 ⟨gm_3, gv_3, gpa_3, gtx_3, gma_3, gna_3, gua_3, gla_3, gle_3, gqa_3, gd_3⟩ hkp33 (by omega) (cmn_st hp9 hn (Or.inr ⟨rfl, by omega⟩)) rfl
      · refine z_aload_n (pc := 49) (j := 3) C dX4_commonTones_49 rfl rfl ?_
        refine z_iload_n (pc := 50) (j := 2) C dX4_commonTones_50 rfl rfl ?_
        refine z_iconst (pc := 51) C dX4_commonTones_51 ?_
        refine z_iadd (pc := 52) C dX4_commonTones_52 ?_
        refine z_iload_n (pc := 53) (j := 0) C dX4_commonTones_53 rfl rfl ?_
        refine z_callV (pc := 54) (n := 2) (kc' := 0) (ks' := 0) C (m_hasT C.t ⟨gm_3, gv_3, gpa_3, gtx_3, gma_3, gna_3, gua_3, gla_3, gle_3, gqa_3, gd_3⟩ hS hsl rsh (i := i + 1) (by omega) hy (p := p) (by omega)) (lw_V q2354 q2356 qs50 q74 q2357) (by decide +kernel) ⟨by decide, by decide⟩ gm_3 rfl rfl rfl (Nat.le_of_ble_eq_true rfl) dX4_commonTones_54 (by omega) (by omega) (zpk (st' := [.int (iI (if hsT y p then 1 else 0)), .int (iI n)]) rfl ?_) zrx
        refine z_if_eq (pc := 57) (tgt := 64) C dX4_commonTones_57 (by decide) (by split <;> decide) (fun c57 => ?_) (fun c57 => ?_)
        · refine z_iconst (pc := 64) C dX4_commonTones_64 ?_
          refine z_iadd (pc := 65) C dX4_commonTones_65 ?_
          refine z_istore_n (pc := 66) (L' := [(2, .int (iI (n + 0))), (3, .int (iI p)), (1, .int (iI i)), (0, .ref A.m)]) C dX4_commonTones_66 rfl (by rw [hnL]; decide) rfl ?_
          refine z_iinc (pc := 67) (k := 1) (L' := [(3, .int (iI (p + 1))), (2, .int (iI (n + 0))), (1, .int (iI i)), (0, .ref A.m)]) C dX4_commonTones_67 rfl (by rw [hnL]; decide) rfl ?_
          refine z_goto (pc := 70) (tgt := 33) C dX4_commonTones_70 (by decide) ?_
          refine Z.weak (L' := [(3, .int (iI (p + 1))), (2, .int (iI (n + 0))), (1, .int (iI i)), (0, .ref A.m)]) (kc' := 0) (ks' := 0) [0, 1, 2, 3] rfl (by omega) (by omega) ?_
          exact ih33 _ (by omega) (p + 1) (n + 0) g33 ⟨gm_3, gv_3, gpa_3, gtx_3, gma_3, gna_3, gua_3, gla_3, gle_3, gqa_3, gd_3⟩ hkp33 (by omega) (cmn_st hp9 hn (Or.inr ⟨rfl, by omega⟩)) rfl
        · refine z_iconst (pc := 60) C dX4_commonTones_60 ?_
          refine z_goto (pc := 61) (tgt := 65) C dX4_commonTones_61 (by decide) ?_
          refine z_iadd (pc := 65) C dX4_commonTones_65 ?_
          refine z_istore_n (pc := 66) (L' := [(2, .int (iI (n + 1))), (3, .int (iI p)), (1, .int (iI i)), (0, .ref A.m)]) C dX4_commonTones_66 rfl (by rw [hnL]; decide) rfl ?_
          refine z_iinc (pc := 67) (k := 1) (L' := [(3, .int (iI (p + 1))), (2, .int (iI (n + 1))), (1, .int (iI i)), (0, .ref A.m)]) C dX4_commonTones_67 rfl (by rw [hnL]; decide) rfl ?_
          refine z_goto (pc := 70) (tgt := 33) C dX4_commonTones_70 (by decide) ?_
          refine Z.weak (L' := [(3, .int (iI (p + 1))), (2, .int (iI (n + 1))), (1, .int (iI i)), (0, .ref A.m)]) (kc' := 0) (ks' := 0) [0, 1, 2, 3] rfl (by omega) (by omega) ?_
          exact ih33 _ (by omega) (p + 1) (n + 1) g33 ⟨gm_3, gv_3, gpa_3, gtx_3, gma_3, gna_3, gua_3, gla_3, gle_3, gqa_3, gd_3⟩ hkp33 (by omega) (cmn_st hp9 hn (Or.inl ⟨rfl, by omega, by omega⟩)) rfl
  refine Z.weak (L' := [(3, .int (iI 0)), (2, .int (iI 0)), (1, .int (iI i)), (0, .ref A.m)]) (kc' := 0) (ks' := 0) [0, 1, 3, 2] rfl (by omega) (by omega) ?_
  exact loop33 _ 0 0 h2 ⟨fh2_0, fh2_1, fh2_2, fh2_3, fh2_4, fh2_5, fh2_6, fh2_7, (kh2.n gle_1 (List.not_mem_cons_of_ne_of_not_mem (Ne.symm (zneA gm_1 gle_1)) (List.not_mem_cons_of_ne_of_not_mem (zneT gle_1 gv_1 (by simp)) (List.not_mem_cons_of_ne_of_not_mem (zneT gle_1 gpa_1 (by simp)) (List.not_mem_cons_of_ne_of_not_mem (zneT gle_1 gtx_1 (by simp)) (List.not_mem_cons_of_ne_of_not_mem (zneT gle_1 gma_1 (by simp)) (List.not_mem_cons_of_ne_of_not_mem (zneT gle_1 gna_1 (by simp)) (List.not_mem_cons_of_ne_of_not_mem (zneT gle_1 gua_1 (by simp)) (List.not_mem_cons_of_ne_of_not_mem (zneT gle_1 gla_1 (by simp)) List.not_mem_nil))))))))), (kh2.n gqa_1 (List.not_mem_cons_of_ne_of_not_mem (Ne.symm (zneA gm_1 gqa_1)) (List.not_mem_cons_of_ne_of_not_mem (zneT gqa_1 gv_1 (by simp)) (List.not_mem_cons_of_ne_of_not_mem (zneT gqa_1 gpa_1 (by simp)) (List.not_mem_cons_of_ne_of_not_mem (zneT gqa_1 gtx_1 (by simp)) (List.not_mem_cons_of_ne_of_not_mem (zneT gqa_1 gma_1 (by simp)) (List.not_mem_cons_of_ne_of_not_mem (zneT gqa_1 gna_1 (by simp)) (List.not_mem_cons_of_ne_of_not_mem (zneT gqa_1 gua_1 (by simp)) (List.not_mem_cons_of_ne_of_not_mem (zneT gqa_1 gla_1 (by simp)) List.not_mem_nil))))))))), gd_1⟩ kh2 (by omega) rfl rfl
set_option maxHeartbeats 4000000 in
theorem md_common_b {l : Launch} (hl : l.stackTraces = false) {Γ : zCx} {h : zH} {A : zMA} {σ : zSt} {th : Int} (hW : mdW h A σ th) {i : Int} (hi : -2147483648 ≤ i ∧ i ≤ 2147483647) (hb : ¬ (0 ≤ i ∧ i < ((σ.sh.cs.length : Nat) : Int) - 1))  : zMet l yX4_commonTones (ws_ yX4_commonTones cX4_commonTones 4 (some .int)) ({ frames := 2, cells := 0, slots := 0, locals := 43 }) Γ h [.ref A.m, .int (iI i)] (zrt (fun w h' => w = some (.int (iI (0))) ∧ mdW h' A σ 1 ∧ zkeep h h' [A.m, A.v, A.pa, A.tx, A.ma, A.na, A.ua, A.la])) 0 0 := by
  refine zMet.of (cc := cX4_commonTones) hl (plainFor_of_name (by decide +kernel)) (Nat.le_of_ble_eq_true rfl) ?_
  intro X hXl hXΓ hXp C hnm hnL
  have C : zC X cX4_commonTones RX4 (some .int) 2 43 [] := C
  have hnL : X.2.1.2.2.2.2 = 4 := hnL
  subst hXl hXΓ
  show Z X h 0 0 [(0, .ref A.m), (1, .int (iI i))] 0 []
  obtain ⟨ap, nt, rr, rq, rb, wh, nd, up, lo, V, P, T, M, N, U, W, hM, hS, hP, htq, hR, hsl, hslh⟩ := id hW
  obtain ⟨rsi, rff, rwd, rtl, rtx, rsh, rhi, rhl⟩ := id hR
  obtain ⟨rcl, rcr, rll, rlt, rkt, rkm, rks⟩ := id rsh
  obtain ⟨hsl1, hsl2, hsl3⟩ := id hsl
  have hTr := rtx
  have hTl := rtl
  obtain ⟨gm_1, gv_1, gpa_1, gtx_1, gma_1, gna_1, gua_1, gla_1, gle_1, gqa_1, gd_1⟩ := id hM
  refine z_aload_n (pc := 0) (j := 0) C dX4_commonTones_0 rfl rfl ?_
  refine z_iconst (pc := 1) C dX4_commonTones_1 ?_
  refine z_putfield (pc := 2) (fs' := [.ref A.v, .ref A.pa, .int (iI ((σ.hi.length : Nat) : Int)), .ref A.tx, .int (iI ((σ.tx.length : Nat) : Int)), .int (iI σ.si), .int (iI σ.fl), .int (iI σ.wd), .int (iI 0), .ref A.le, .ref A.qa, .int (iI ap), .int (iI nt), .int (iI rr), .int (iI rq), .int (iI rb), .int (iI wh), .ref A.ma, .ref A.na, .int (iI nd), .ref A.ua, .ref A.la, .int (iI up), .int (iI lo)]) C in_X4 tyX4 tyX4_ok nmX4 rfl 8 (by decide) q2090 (fun _ z => z) rfl rfl rfl (Nat.le_of_ble_eq_true rfl) gm_1 rfl dX4_commonTones_2 ?_
  refine Z.nm (fun h2 eh2 => ?_)
  have kh2 : zkeep h h2 [A.m, A.v, A.pa, A.tx, A.ma, A.na, A.ua, A.la] := by rw [eh2]; exact zkeep.up zkeep.rf (Or.inl (by simp)) gm_1
  have fh2_0 : h2 A.m = some (true, .inr (3, [.ref A.v, .ref A.pa, .int (iI ((σ.hi.length : Nat) : Int)), .ref A.tx, .int (iI ((σ.tx.length : Nat) : Int)), .int (iI σ.si), .int (iI σ.fl), .int (iI σ.wd), .int (iI 0), .ref A.le, .ref A.qa, .int (iI ap), .int (iI nt), .int (iI rr), .int (iI rq), .int (iI rb), .int (iI wh), .ref A.ma, .ref A.na, .int (iI nd), .ref A.ua, .ref A.la, .int (iI up), .int (iI lo)])) := zse eh2
  have fh2_1 : h2 A.v = some (true, .inl (.int, 620, (mA V))) := zsn eh2 gv_1 (Ne.symm (zneA gm_1 gv_1))
  have fh2_2 : h2 A.pa = some (true, .inl (.int, 4960, (mA P))) := zsn eh2 gpa_1 (Ne.symm (zneA gm_1 gpa_1))
  have fh2_3 : h2 A.tx = some (true, .inl (.int, 200, (mA T))) := zsn eh2 gtx_1 (Ne.symm (zneA gm_1 gtx_1))
  have fh2_4 : h2 A.ma = some (true, .inl (.int, 620, (mA M))) := zsn eh2 gma_1 (Ne.symm (zneA gm_1 gma_1))
  have fh2_5 : h2 A.na = some (true, .inl (.int, 20, (mA N))) := zsn eh2 gna_1 (Ne.symm (zneA gm_1 gna_1))
  have fh2_6 : h2 A.ua = some (true, .inl (.int, 1200, (mA U))) := zsn eh2 gua_1 (Ne.symm (zneA gm_1 gua_1))
  have fh2_7 : h2 A.la = some (true, .inl (.int, 1200, (mA W))) := zsn eh2 gla_1 (Ne.symm (zneA gm_1 gla_1))
  refine z_aload_n (pc := 5) (j := 0) C dX4_commonTones_5 rfl rfl ?_
  refine z_iload_n (pc := 6) (j := 1) C dX4_commonTones_6 rfl rfl ?_
  refine z_callV (pc := 7) (n := 1) (kc' := 0) (ks' := 0) C (m_isChord C.t ⟨fh2_0, fh2_1, fh2_2, fh2_3, fh2_4, fh2_5, fh2_6, fh2_7, (kh2.n gle_1 (List.not_mem_cons_of_ne_of_not_mem (Ne.symm (zneA gm_1 gle_1)) (List.not_mem_cons_of_ne_of_not_mem (zneT gle_1 gv_1 (by simp)) (List.not_mem_cons_of_ne_of_not_mem (zneT gle_1 gpa_1 (by simp)) (List.not_mem_cons_of_ne_of_not_mem (zneT gle_1 gtx_1 (by simp)) (List.not_mem_cons_of_ne_of_not_mem (zneT gle_1 gma_1 (by simp)) (List.not_mem_cons_of_ne_of_not_mem (zneT gle_1 gna_1 (by simp)) (List.not_mem_cons_of_ne_of_not_mem (zneT gle_1 gua_1 (by simp)) (List.not_mem_cons_of_ne_of_not_mem (zneT gle_1 gla_1 (by simp)) List.not_mem_nil))))))))), (kh2.n gqa_1 (List.not_mem_cons_of_ne_of_not_mem (Ne.symm (zneA gm_1 gqa_1)) (List.not_mem_cons_of_ne_of_not_mem (zneT gqa_1 gv_1 (by simp)) (List.not_mem_cons_of_ne_of_not_mem (zneT gqa_1 gpa_1 (by simp)) (List.not_mem_cons_of_ne_of_not_mem (zneT gqa_1 gtx_1 (by simp)) (List.not_mem_cons_of_ne_of_not_mem (zneT gqa_1 gma_1 (by simp)) (List.not_mem_cons_of_ne_of_not_mem (zneT gqa_1 gna_1 (by simp)) (List.not_mem_cons_of_ne_of_not_mem (zneT gqa_1 gua_1 (by simp)) (List.not_mem_cons_of_ne_of_not_mem (zneT gqa_1 gla_1 (by simp)) List.not_mem_nil))))))))), gd_1⟩ hS hsl (i := i) (by omega)) (lw_V q2278 q2280 qs41 q74 q2281) (by decide +kernel) ⟨by decide, by decide⟩ fh2_0 rfl rfl rfl (Nat.le_of_ble_eq_true rfl) dX4_commonTones_7 (by omega) (by omega) (zpk (st' := [.int (iI (if 0 ≤ i ∧ i ≤ ((σ.sh.cs.length : Nat) : Int) - 1 then 1 else 0))]) rfl ?_) zrx
  refine z_if_eq (pc := 10) (tgt := 23) C dX4_commonTones_10 (by decide) (by split <;> decide) (fun c10 => ?_) (fun c10 => ?_)
  · refine z_aload_n (pc := 23) (j := 0) C dX4_commonTones_23 rfl rfl ?_
    refine z_iconst (pc := 24) C dX4_commonTones_24 ?_
    refine z_callV (pc := 25) (n := 1) (kc' := 0) (ks' := 0) C (m_fails C.t ⟨fh2_0, fh2_1, fh2_2, fh2_3, fh2_4, fh2_5, fh2_6, fh2_7, (kh2.n gle_1 (List.not_mem_cons_of_ne_of_not_mem (Ne.symm (zneA gm_1 gle_1)) (List.not_mem_cons_of_ne_of_not_mem (zneT gle_1 gv_1 (by simp)) (List.not_mem_cons_of_ne_of_not_mem (zneT gle_1 gpa_1 (by simp)) (List.not_mem_cons_of_ne_of_not_mem (zneT gle_1 gtx_1 (by simp)) (List.not_mem_cons_of_ne_of_not_mem (zneT gle_1 gma_1 (by simp)) (List.not_mem_cons_of_ne_of_not_mem (zneT gle_1 gna_1 (by simp)) (List.not_mem_cons_of_ne_of_not_mem (zneT gle_1 gua_1 (by simp)) (List.not_mem_cons_of_ne_of_not_mem (zneT gle_1 gla_1 (by simp)) List.not_mem_nil))))))))), (kh2.n gqa_1 (List.not_mem_cons_of_ne_of_not_mem (Ne.symm (zneA gm_1 gqa_1)) (List.not_mem_cons_of_ne_of_not_mem (zneT gqa_1 gv_1 (by simp)) (List.not_mem_cons_of_ne_of_not_mem (zneT gqa_1 gpa_1 (by simp)) (List.not_mem_cons_of_ne_of_not_mem (zneT gqa_1 gtx_1 (by simp)) (List.not_mem_cons_of_ne_of_not_mem (zneT gqa_1 gma_1 (by simp)) (List.not_mem_cons_of_ne_of_not_mem (zneT gqa_1 gna_1 (by simp)) (List.not_mem_cons_of_ne_of_not_mem (zneT gqa_1 gua_1 (by simp)) (List.not_mem_cons_of_ne_of_not_mem (zneT gqa_1 gla_1 (by simp)) List.not_mem_nil))))))))), gd_1⟩ (x := 1)) (lw_V q2167 q2169 qs27 q74 q2170) (by decide +kernel) ⟨by decide, by decide⟩ fh2_0 rfl rfl rfl (Nat.le_of_ble_eq_true rfl) dX4_commonTones_25 (by omega) (by omega) (zrk fun w h3 hp => ?_) zrx
    obtain ⟨rfl, hM_5, k4⟩ := hp
    have kh3 : zkeep h h3 [A.m, A.v, A.pa, A.tx, A.ma, A.na, A.ua, A.la] := zkeep.loc kh2 k4 (fun q hq => Or.inl (Or.inr hq))
    have hM_5 : mM h3 A ((σ.hi.length : Nat) : Int) ((σ.tx.length : Nat) : Int) σ.si σ.fl σ.wd 1 ap nt rr rq rb wh nd up lo V P T M N U W := hM_5
    obtain ⟨gm_6, gv_6, gpa_6, gtx_6, gma_6, gna_6, gua_6, gla_6, gle_6, gqa_6, gd_6⟩ := id hM_5
    show Z X h3 0 0 [(0, .ref A.m), (1, .int (iI i))] 28 [.int (iI 0)]
    exact z_ireturn (pc := 28) C (by rw [hXp]; exact ⟨_, rfl, rfl, ⟨ap, nt, rr, rq, rb, wh, nd, up, lo, V, P, T, M, N, U, W, ⟨gm_6, gv_6, gpa_6, gtx_6, gma_6, gna_6, gua_6, gla_6, gle_6, gqa_6, gd_6⟩, hS, hP, htq, hR, hsl, hslh⟩, kh3⟩) dX4_commonTones_28
  · have hib : 0 ≤ i ∧ i ≤ ((σ.sh.cs.length : Nat) : Int) - 1 := by split at c10 <;> omega
    refine z_aload_n (pc := 13) (j := 0) C dX4_commonTones_13 rfl rfl ?_
    refine z_iload_n (pc := 14) (j := 1) C dX4_commonTones_14 rfl rfl ?_
    refine z_iconst (pc := 15) C dX4_commonTones_15 ?_
    refine z_iadd (pc := 16) C dX4_commonTones_16 ?_
    refine z_callV (pc := 17) (n := 1) (kc' := 0) (ks' := 0) C (m_isChord C.t ⟨fh2_0, fh2_1, fh2_2, fh2_3, fh2_4, fh2_5, fh2_6, fh2_7, (kh2.n gle_1 (List.not_mem_cons_of_ne_of_not_mem (Ne.symm (zneA gm_1 gle_1)) (List.not_mem_cons_of_ne_of_not_mem (zneT gle_1 gv_1 (by simp)) (List.not_mem_cons_of_ne_of_not_mem (zneT gle_1 gpa_1 (by simp)) (List.not_mem_cons_of_ne_of_not_mem (zneT gle_1 gtx_1 (by simp)) (List.not_mem_cons_of_ne_of_not_mem (zneT gle_1 gma_1 (by simp)) (List.not_mem_cons_of_ne_of_not_mem (zneT gle_1 gna_1 (by simp)) (List.not_mem_cons_of_ne_of_not_mem (zneT gle_1 gua_1 (by simp)) (List.not_mem_cons_of_ne_of_not_mem (zneT gle_1 gla_1 (by simp)) List.not_mem_nil))))))))), (kh2.n gqa_1 (List.not_mem_cons_of_ne_of_not_mem (Ne.symm (zneA gm_1 gqa_1)) (List.not_mem_cons_of_ne_of_not_mem (zneT gqa_1 gv_1 (by simp)) (List.not_mem_cons_of_ne_of_not_mem (zneT gqa_1 gpa_1 (by simp)) (List.not_mem_cons_of_ne_of_not_mem (zneT gqa_1 gtx_1 (by simp)) (List.not_mem_cons_of_ne_of_not_mem (zneT gqa_1 gma_1 (by simp)) (List.not_mem_cons_of_ne_of_not_mem (zneT gqa_1 gna_1 (by simp)) (List.not_mem_cons_of_ne_of_not_mem (zneT gqa_1 gua_1 (by simp)) (List.not_mem_cons_of_ne_of_not_mem (zneT gqa_1 gla_1 (by simp)) List.not_mem_nil))))))))), gd_1⟩ hS hsl (i := i + 1) (by omega)) (lw_V q2278 q2280 qs41 q74 q2281) (by decide +kernel) ⟨by decide, by decide⟩ fh2_0 rfl rfl rfl (Nat.le_of_ble_eq_true rfl) dX4_commonTones_17 (by omega) (by omega) (zpk (st' := [.int (iI (if 0 ≤ i + 1 ∧ i + 1 ≤ ((σ.sh.cs.length : Nat) : Int) - 1 then 1 else 0))]) rfl ?_) zrx
    refine z_if_ne (pc := 20) (tgt := 29) C dX4_commonTones_20 (by decide) (by split <;> decide) (fun c20 => by exfalso; rw [if_neg (by omega)] at c20; exact absurd rfl c20) (fun c20 => ?_)
    refine z_aload_n (pc := 23) (j := 0) C dX4_commonTones_23 rfl rfl ?_
    refine z_iconst (pc := 24) C dX4_commonTones_24 ?_
    refine z_callV (pc := 25) (n := 1) (kc' := 0) (ks' := 0) C (m_fails C.t ⟨fh2_0, fh2_1, fh2_2, fh2_3, fh2_4, fh2_5, fh2_6, fh2_7, (kh2.n gle_1 (List.not_mem_cons_of_ne_of_not_mem (Ne.symm (zneA gm_1 gle_1)) (List.not_mem_cons_of_ne_of_not_mem (zneT gle_1 gv_1 (by simp)) (List.not_mem_cons_of_ne_of_not_mem (zneT gle_1 gpa_1 (by simp)) (List.not_mem_cons_of_ne_of_not_mem (zneT gle_1 gtx_1 (by simp)) (List.not_mem_cons_of_ne_of_not_mem (zneT gle_1 gma_1 (by simp)) (List.not_mem_cons_of_ne_of_not_mem (zneT gle_1 gna_1 (by simp)) (List.not_mem_cons_of_ne_of_not_mem (zneT gle_1 gua_1 (by simp)) (List.not_mem_cons_of_ne_of_not_mem (zneT gle_1 gla_1 (by simp)) List.not_mem_nil))))))))), (kh2.n gqa_1 (List.not_mem_cons_of_ne_of_not_mem (Ne.symm (zneA gm_1 gqa_1)) (List.not_mem_cons_of_ne_of_not_mem (zneT gqa_1 gv_1 (by simp)) (List.not_mem_cons_of_ne_of_not_mem (zneT gqa_1 gpa_1 (by simp)) (List.not_mem_cons_of_ne_of_not_mem (zneT gqa_1 gtx_1 (by simp)) (List.not_mem_cons_of_ne_of_not_mem (zneT gqa_1 gma_1 (by simp)) (List.not_mem_cons_of_ne_of_not_mem (zneT gqa_1 gna_1 (by simp)) (List.not_mem_cons_of_ne_of_not_mem (zneT gqa_1 gua_1 (by simp)) (List.not_mem_cons_of_ne_of_not_mem (zneT gqa_1 gla_1 (by simp)) List.not_mem_nil))))))))), gd_1⟩ (x := 1)) (lw_V q2167 q2169 qs27 q74 q2170) (by decide +kernel) ⟨by decide, by decide⟩ fh2_0 rfl rfl rfl (Nat.le_of_ble_eq_true rfl) dX4_commonTones_25 (by omega) (by omega) (zrk fun w h7 hp => ?_) zrx
    obtain ⟨rfl, hM_9, k8⟩ := hp
    have kh7 : zkeep h h7 [A.m, A.v, A.pa, A.tx, A.ma, A.na, A.ua, A.la] := zkeep.loc kh2 k8 (fun q hq => Or.inl (Or.inr hq))
    have hM_9 : mM h7 A ((σ.hi.length : Nat) : Int) ((σ.tx.length : Nat) : Int) σ.si σ.fl σ.wd 1 ap nt rr rq rb wh nd up lo V P T M N U W := hM_9
    obtain ⟨gm_10, gv_10, gpa_10, gtx_10, gma_10, gna_10, gua_10, gla_10, gle_10, gqa_10, gd_10⟩ := id hM_9
    show Z X h7 0 0 [(0, .ref A.m), (1, .int (iI i))] 28 [.int (iI 0)]
    exact z_ireturn (pc := 28) C (by rw [hXp]; exact ⟨_, rfl, rfl, ⟨ap, nt, rr, rq, rb, wh, nd, up, lo, V, P, T, M, N, U, W, ⟨gm_10, gv_10, gpa_10, gtx_10, gma_10, gna_10, gua_10, gla_10, gle_10, gqa_10, gd_10⟩, hS, hP, htq, hR, hsl, hslh⟩, kh7⟩) dX4_commonTones_28
set_option maxHeartbeats 4000000 in
theorem md_degree {l : Launch} (hl : l.stackTraces = false) {Γ : zCx} {h : zH} {A : zMA} {σ : zSt} {th : Int} (hW : mdW h A σ th) {i : Int} {x : zCh} (hi : 0 ≤ i) (hx : σ.sh.cs[i.toNat]? = some x)  : zMet l yX4_degree (ws_ yX4_degree cX4_degree 7 (some .int)) ({ frames := 3, cells := 0, slots := 0, locals := 63 }) Γ h [.ref A.m, .int (iI i)] (zrt (fun w h' => w = some (.int (iI (dgr σ.sh.t σ.sh.m (pcl x.2.2.1)))) ∧ mdW h' A σ 0 ∧ zkeep h h' [A.m, A.v, A.pa, A.tx, A.ma, A.na, A.ua, A.la])) 0 0 := by
  refine zMet.of (cc := cX4_degree) hl (plainFor_of_name (by decide +kernel)) (Nat.le_of_ble_eq_true rfl) ?_
  intro X hXl hXΓ hXp C hnm hnL
  have C : zC X cX4_degree RX4 (some .int) 3 63 [] := C
  have hnL : X.2.1.2.2.2.2 = 7 := hnL
  subst hXl hXΓ
  show Z X h 0 0 [(0, .ref A.m), (1, .int (iI i))] 0 []
  obtain ⟨ap, nt, rr, rq, rb, wh, nd, up, lo, V, P, T, M, N, U, W, hM, hS, hP, htq, hR, hsl, hslh⟩ := id hW
  obtain ⟨rsi, rff, rwd, rtl, rtx, rsh, rhi, rhl⟩ := id hR
  obtain ⟨rcl, rcr, rll, rlt, rkt, rkm, rks⟩ := id rsh
  obtain ⟨hsl1, hsl2, hsl3⟩ := id hsl
  have hTr := rtx
  have hTl := rtl
  obtain ⟨gm_1, gv_1, gpa_1, gtx_1, gma_1, gna_1, gua_1, gla_1, gle_1, gqa_1, gd_1⟩ := id hM
  have hix := (List.getElem?_eq_some_iff.mp hx).1
  obtain ⟨hx1, hx2, hx3, hx4, hx5⟩ := hS.c hi hx
  obtain ⟨xr1, xr2, xr3, xr4, xr5⟩ := rcr _ (List.mem_of_getElem? hx)
  refine z_aload_n (pc := 0) (j := 0) C dX4_degree_0 rfl rfl ?_
  refine z_iconst (pc := 1) C dX4_degree_1 ?_
  refine z_putfield (pc := 2) (fs' := [.ref A.v, .ref A.pa, .int (iI ((σ.hi.length : Nat) : Int)), .ref A.tx, .int (iI ((σ.tx.length : Nat) : Int)), .int (iI σ.si), .int (iI σ.fl), .int (iI σ.wd), .int (iI 0), .ref A.le, .ref A.qa, .int (iI ap), .int (iI nt), .int (iI rr), .int (iI rq), .int (iI rb), .int (iI wh), .ref A.ma, .ref A.na, .int (iI nd), .ref A.ua, .ref A.la, .int (iI up), .int (iI lo)]) C in_X4 tyX4 tyX4_ok nmX4 rfl 8 (by decide) q2090 (fun _ z => z) rfl rfl rfl (Nat.le_of_ble_eq_true rfl) gm_1 rfl dX4_degree_2 ?_
  refine Z.nm (fun h2 eh2 => ?_)
  have kh2 : zkeep h h2 [A.m, A.v, A.pa, A.tx, A.ma, A.na, A.ua, A.la] := by rw [eh2]; exact zkeep.up zkeep.rf (Or.inl (by simp)) gm_1
  have fh2_0 : h2 A.m = some (true, .inr (3, [.ref A.v, .ref A.pa, .int (iI ((σ.hi.length : Nat) : Int)), .ref A.tx, .int (iI ((σ.tx.length : Nat) : Int)), .int (iI σ.si), .int (iI σ.fl), .int (iI σ.wd), .int (iI 0), .ref A.le, .ref A.qa, .int (iI ap), .int (iI nt), .int (iI rr), .int (iI rq), .int (iI rb), .int (iI wh), .ref A.ma, .ref A.na, .int (iI nd), .ref A.ua, .ref A.la, .int (iI up), .int (iI lo)])) := zse eh2
  have fh2_1 : h2 A.v = some (true, .inl (.int, 620, (mA V))) := zsn eh2 gv_1 (Ne.symm (zneA gm_1 gv_1))
  have fh2_2 : h2 A.pa = some (true, .inl (.int, 4960, (mA P))) := zsn eh2 gpa_1 (Ne.symm (zneA gm_1 gpa_1))
  have fh2_3 : h2 A.tx = some (true, .inl (.int, 200, (mA T))) := zsn eh2 gtx_1 (Ne.symm (zneA gm_1 gtx_1))
  have fh2_4 : h2 A.ma = some (true, .inl (.int, 620, (mA M))) := zsn eh2 gma_1 (Ne.symm (zneA gm_1 gma_1))
  have fh2_5 : h2 A.na = some (true, .inl (.int, 20, (mA N))) := zsn eh2 gna_1 (Ne.symm (zneA gm_1 gna_1))
  have fh2_6 : h2 A.ua = some (true, .inl (.int, 1200, (mA U))) := zsn eh2 gua_1 (Ne.symm (zneA gm_1 gua_1))
  have fh2_7 : h2 A.la = some (true, .inl (.int, 1200, (mA W))) := zsn eh2 gla_1 (Ne.symm (zneA gm_1 gla_1))
  refine z_aload_n (pc := 5) (j := 0) C dX4_degree_5 rfl rfl ?_
  refine z_iload_n (pc := 6) (j := 1) C dX4_degree_6 rfl rfl ?_
  refine z_callV (pc := 7) (n := 1) (kc' := 0) (ks' := 0) C (m_isChord C.t ⟨fh2_0, fh2_1, fh2_2, fh2_3, fh2_4, fh2_5, fh2_6, fh2_7, (kh2.n gle_1 (List.not_mem_cons_of_ne_of_not_mem (Ne.symm (zneA gm_1 gle_1)) (List.not_mem_cons_of_ne_of_not_mem (zneT gle_1 gv_1 (by simp)) (List.not_mem_cons_of_ne_of_not_mem (zneT gle_1 gpa_1 (by simp)) (List.not_mem_cons_of_ne_of_not_mem (zneT gle_1 gtx_1 (by simp)) (List.not_mem_cons_of_ne_of_not_mem (zneT gle_1 gma_1 (by simp)) (List.not_mem_cons_of_ne_of_not_mem (zneT gle_1 gna_1 (by simp)) (List.not_mem_cons_of_ne_of_not_mem (zneT gle_1 gua_1 (by simp)) (List.not_mem_cons_of_ne_of_not_mem (zneT gle_1 gla_1 (by simp)) List.not_mem_nil))))))))), (kh2.n gqa_1 (List.not_mem_cons_of_ne_of_not_mem (Ne.symm (zneA gm_1 gqa_1)) (List.not_mem_cons_of_ne_of_not_mem (zneT gqa_1 gv_1 (by simp)) (List.not_mem_cons_of_ne_of_not_mem (zneT gqa_1 gpa_1 (by simp)) (List.not_mem_cons_of_ne_of_not_mem (zneT gqa_1 gtx_1 (by simp)) (List.not_mem_cons_of_ne_of_not_mem (zneT gqa_1 gma_1 (by simp)) (List.not_mem_cons_of_ne_of_not_mem (zneT gqa_1 gna_1 (by simp)) (List.not_mem_cons_of_ne_of_not_mem (zneT gqa_1 gua_1 (by simp)) (List.not_mem_cons_of_ne_of_not_mem (zneT gqa_1 gla_1 (by simp)) List.not_mem_nil))))))))), gd_1⟩ hS hsl (i := i) (by omega)) (lw_V q2278 q2280 qs41 q74 q2281) (by decide +kernel) ⟨by decide, by decide⟩ fh2_0 rfl rfl rfl (Nat.le_of_ble_eq_true rfl) dX4_degree_7 (by omega) (by omega) (zpk (st' := [.int (iI (if 0 ≤ i ∧ i ≤ ((σ.sh.cs.length : Nat) : Int) - 1 then 1 else 0))]) rfl ?_) zrx
  rw [show ((if 0 ≤ i ∧ i ≤ ((σ.sh.cs.length : Nat) : Int) - 1 then 1 else 0) : Int) = 1 from if_pos (by omega)]
  show Z X h2 0 0 [(0, .ref A.m), (1, .int (iI i))] 10 [.int (iI 1)]
  refine z_if_ne (pc := 10) (tgt := 19) C dX4_degree_10 (by decide) (by decide) (fun _ => ?_) (fun z => absurd z (by decide))
  refine z_aload_n (pc := 19) (j := 0) C dX4_degree_19 rfl rfl ?_
  refine z_getfield (pc := 20) (v := .ref A.v) C in_X4 rfl 0 (by decide) q2082 (fun _ z => z) fh2_0 rfl dX4_degree_20 ?_
  refine z_iload_n (pc := 23) (j := 1) C dX4_degree_23 rfl rfl ?_
  refine z_callS (pc := 24) (n := 1) (kc' := 0) (ks' := 0) C (m_chord C.t (x := i)) (lw_S q2203 q2204 q74 q2205) (by decide +kernel) ⟨by decide, by decide⟩ rfl rfl (Nat.le_of_ble_eq_true rfl) dX4_degree_24 (by omega) (by omega) (zpk (st' := [.int (iI (210 + 5 * i)), .ref A.v]) rfl ?_) zrx
  refine z_iconst (pc := 27) C dX4_degree_27 ?_
  refine z_iadd (pc := 28) C dX4_degree_28 ?_
  refine z_iaload (pc := 29) (v := .int (iI x.2.2.1)) C fh2_1 (by omega) (mA_e (vE hx3 (by omega))) dX4_degree_29 ?_
  refine z_callS (pc := 30) (n := 1) (kc' := 0) (ks' := 0) C (m_pitch C.t (x := x.2.2.1) (by omega)) (lw_S q2218 q2219 q74 q2220) (by decide +kernel) ⟨by decide, by decide⟩ rfl rfl (Nat.le_of_ble_eq_true rfl) dX4_degree_30 (by omega) (by omega) (zpk (st' := [.int (iI (pcl x.2.2.1))]) rfl ?_) zrx
  have hpcl33 := pcl_r x.2.2.1
  refine z_istore_n (pc := 33) (L' := [(2, .int (iI (pcl x.2.2.1))), (0, .ref A.m), (1, .int (iI i))]) C dX4_degree_33 rfl (by rw [hnL]; decide) rfl ?_
  refine z_iconst (pc := 34) C dX4_degree_34 ?_
  refine z_istore_n (pc := 35) (L' := [(3, .int (iI 0)), (2, .int (iI (pcl x.2.2.1))), (0, .ref A.m), (1, .int (iI i))]) C dX4_degree_35 rfl (by rw [hnL]; decide) rfl ?_
  refine z_iconst (pc := 36) C dX4_degree_36 ?_
  refine z_istore (pc := 37) (L' := [(4, .int (iI 0)), (3, .int (iI 0)), (2, .int (iI (pcl x.2.2.1))), (0, .ref A.m), (1, .int (iI i))]) C dX4_degree_37 (by rw [hnL]; decide) rfl ?_
  have loop39 : ∀ (n39 : Nat) (k : Int) (n : Int) (g39 : zH), (mM g39 A ((σ.hi.length : Nat) : Int) ((σ.tx.length : Nat) : Int) σ.si σ.fl σ.wd 0 ap nt rr rq rb wh nd up lo V P T M N U W) → (zkeep h g39 [A.m, A.v, A.pa, A.tx, A.ma, A.na, A.ua, A.la]) → (0 ≤ k ∧ k ≤ 12) → (dgo σ.sh.t σ.sh.m (((pcl x.2.2.1) - pcl σ.sh.t) % 12) (12 - k).toNat k n 0 = dgr σ.sh.t σ.sh.m (pcl x.2.2.1)) → ((12 - k).toNat) = n39 → Z X g39 0 0 [(4, .int (iI k)), (3, .int (iI n)), (2, .int (iI (pcl x.2.2.1))), (1, .int (iI i)), (0, .ref A.m)] 39 [] := by
    intro n39
    induction n39 using Nat.strongRecOn with
    | ind n39 ih39 =>
    intro k n g39 hMg39 hkp39 hk hd hn39
    obtain ⟨gm_3, gv_3, gpa_3, gtx_3, gma_3, gna_3, gua_3, gla_3, gle_3, gqa_3, gd_3⟩ := id hMg39
    refine z_iload (pc := 39) (j := 0) C dX4_degree_39 rfl ?_
    refine z_bipush (pc := 41) C dX4_degree_41 (by decide) ?_
    refine z_icmp_ge (pc := 43) (tgt := 106) C dX4_degree_43 (by decide) (by omega) (by decide) (fun c43 => ?_) (fun c43 => ?_)
    · refine z_iconst (pc := 106) C dX4_degree_106 ?_
      exact z_ireturn (pc := 107) C (by rw [hXp]; exact ⟨_, rfl, (by rw [show (12 - k).toNat = 0 by omega, dgo] at hd; rw [hd]), ⟨ap, nt, rr, rq, rb, wh, nd, up, lo, V, P, T, M, N, U, W, ⟨gm_3, gv_3, gpa_3, gtx_3, gma_3, gna_3, gua_3, gla_3, gle_3, gqa_3, gd_3⟩, hS, hP, htq, hR, hsl, hslh⟩, hkp39⟩) dX4_degree_107
    · have hk9 : 0 ≤ k ∧ k < 12 := by omega
      have hpt9 := pcl_r σ.sh.t
      have hpx9 := pcl_r x.2.2.1
      have hsr9 := sgn_r (t := σ.sh.t) rkm
      refine z_aload_n (pc := 46) (j := 4) C dX4_degree_46 rfl rfl ?_
      refine z_getfield (pc := 47) (v := .ref A.v) C in_X4 rfl 0 (by decide) q2082 (fun _ z => z) gm_3 rfl dX4_degree_47 ?_
      refine z_iconst (pc := 50) C dX4_degree_50 ?_
      refine z_iaload (pc := 51) (v := .int (iI σ.sh.t)) C gv_3 (by omega) (mA_e (vE hS.2.2.1 (by omega))) dX4_degree_51 ?_
      refine z_callS (pc := 52) (n := 1) (kc' := 0) (ks' := 0) C (m_pitch C.t (x := σ.sh.t) (by omega)) (lw_S q2218 q2219 q74 q2220) (by decide +kernel) ⟨by decide, by decide⟩ rfl rfl (Nat.le_of_ble_eq_true rfl) dX4_degree_52 (by omega) (by omega) (zpk (st' := [.int (iI (pcl σ.sh.t))]) rfl ?_) zrx
      have hpcl55 := pcl_r σ.sh.t
      refine z_iload (pc := 55) (j := 0) C dX4_degree_55 rfl ?_
      refine z_iadd (pc := 57) C dX4_degree_57 ?_
      refine z_callS (pc := 58) (n := 1) (kc' := 0) (ks' := 0) C (m_mod C.t (x := (pcl σ.sh.t) + k) (by omega)) (lw_S q2221 q2222 q74 q2223) (by decide +kernel) ⟨by decide, by decide⟩ rfl rfl (Nat.le_of_ble_eq_true rfl) dX4_degree_58 (by omega) (by omega) (zpk (st' := [.int (iI (((pcl σ.sh.t) + k) % 12))]) rfl ?_) zrx
      refine z_istore (pc := 61) (L' := [(5, .int (iI (((pcl σ.sh.t) + k) % 12))), (4, .int (iI k)), (3, .int (iI n)), (2, .int (iI (pcl x.2.2.1))), (1, .int (iI i)), (0, .ref A.m)]) C dX4_degree_61 (by rw [hnL]; decide) rfl ?_
      refine z_aload_n (pc := 63) (j := 5) C dX4_degree_63 rfl rfl ?_
      refine z_callV (pc := 64) (n := 0) (kc' := 0) (ks' := 0) C (m_sig C.t ⟨gm_3, gv_3, gpa_3, gtx_3, gma_3, gna_3, gua_3, gla_3, gle_3, gqa_3, gd_3⟩ hS rkm) (lw_V q2365 q2367 qs51 q74 q2368) (by decide +kernel) ⟨by decide, by decide⟩ gm_3 rfl rfl rfl (Nat.le_of_ble_eq_true rfl) dX4_degree_64 (by omega) (by omega) (zpk (st' := [.int (iI (sgn σ.sh.t σ.sh.m))]) rfl ?_) zrx
      refine z_iload (pc := 67) (j := 0) C dX4_degree_67 rfl ?_
      refine z_callS (pc := 69) (n := 2) (kc' := 0) (ks' := 0) C (m_scale C.t (s := sgn σ.sh.t σ.sh.m) (p := ((pcl σ.sh.t) + k) % 12) (by omega) (by omega)) (lw_S q2224 q2225 q74 q2226) (by decide +kernel) ⟨by decide, by decide⟩ rfl rfl (Nat.le_of_ble_eq_true rfl) dX4_degree_69 (by omega) (by omega) (zpk (st' := [.int (iI (iscl (sgn σ.sh.t σ.sh.m) (((pcl σ.sh.t) + k) % 12)))]) rfl ?_) zrx
      have hisc72 := iscl_r (sgn σ.sh.t σ.sh.m) (((pcl σ.sh.t) + k) % 12)
      rw [iscl_c]
      have hin70 := insc_r σ.sh.t σ.sh.m (((pcl σ.sh.t) + k) % 12)
      show Z X g39 0 0 [(5, .int (iI (((pcl σ.sh.t) + k) % 12))), (4, .int (iI k)), (3, .int (iI n)), (2, .int (iI (pcl x.2.2.1))), (1, .int (iI i)), (0, .ref A.m)] 72 [.int (iI (insc σ.sh.t σ.sh.m (((pcl σ.sh.t) + k) % 12)))]
      refine z_istore (pc := 72) (L' := [(6, .int (iI (insc σ.sh.t σ.sh.m (((pcl σ.sh.t) + k) % 12)))), (5, .int (iI (((pcl σ.sh.t) + k) % 12))), (4, .int (iI k)), (3, .int (iI n)), (2, .int (iI (pcl x.2.2.1))), (1, .int (iI i)), (0, .ref A.m)]) C dX4_degree_72 (by rw [hnL]; decide) rfl ?_
      refine z_iload_n (pc := 74) (j := 3) C dX4_degree_74 rfl rfl ?_
      refine z_iload (pc := 75) (j := 0) C dX4_degree_75 rfl ?_
      refine z_if_eq (pc := 77) (tgt := 84) C dX4_degree_77 (by decide) (by omega) (fun c77 => ?_) (fun c77 => ?_)
      · have hin72 : insc σ.sh.t σ.sh.m (((pcl σ.sh.t) + k) % 12) ≠ 1 := by omega
        refine z_iconst (pc := 84) C dX4_degree_84 ?_
        refine z_iadd (pc := 85) C dX4_degree_85 ?_
        refine z_istore_n (pc := 86) (L' := [(3, .int (iI (n + 0))), (6, .int (iI (insc σ.sh.t σ.sh.m (((pcl σ.sh.t) + k) % 12)))), (5, .int (iI (((pcl σ.sh.t) + k) % 12))), (4, .int (iI k)), (2, .int (iI (pcl x.2.2.1))), (1, .int (iI i)), (0, .ref A.m)]) C dX4_degree_86 rfl (by rw [hnL]; decide) rfl ?_
        refine z_iload (pc := 87) (j := 1) C dX4_degree_87 rfl ?_
        refine z_if_eq (pc := 89) (tgt := 100) C dX4_degree_89 (by decide) (by omega) (fun c89 => ?_) (fun c89 => by exfalso; omega)
        refine z_iinc (pc := 100) (k := 3) (L' := [(4, .int (iI (k + 1))), (3, .int (iI (n + 0))), (6, .int (iI (insc σ.sh.t σ.sh.m (((pcl σ.sh.t) + k) % 12)))), (5, .int (iI (((pcl σ.sh.t) + k) % 12))), (2, .int (iI (pcl x.2.2.1))), (1, .int (iI i)), (0, .ref A.m)]) C dX4_degree_100 rfl (by rw [hnL]; decide) rfl ?_
        refine z_goto (pc := 103) (tgt := 39) C dX4_degree_103 (by decide) ?_
        refine Z.weak (L' := [(4, .int (iI (k + 1))), (3, .int (iI (n + 0))), (2, .int (iI (pcl x.2.2.1))), (1, .int (iI i)), (0, .ref A.m)]) (kc' := 0) (ks' := 0) [0, 1, 4, 5, 6] rfl (by omega) (by omega) ?_
        exact ih39 _ (by omega) (k + 1) (n + 0) g39 ⟨gm_3, gv_3, gpa_3, gtx_3, gma_3, gna_3, gua_3, gla_3, gle_3, gqa_3, gd_3⟩ hkp39 (by omega) (dgs_st hk9 hd (Or.inr ⟨rfl, hin72⟩)) rfl
      · have hin72 : insc σ.sh.t σ.sh.m (((pcl σ.sh.t) + k) % 12) = 1 := by omega
        refine z_iconst (pc := 80) C dX4_degree_80 ?_
        refine z_goto (pc := 81) (tgt := 85) C dX4_degree_81 (by decide) ?_
        refine z_iadd (pc := 85) C dX4_degree_85 ?_
        refine z_istore_n (pc := 86) (L' := [(3, .int (iI (n + 1))), (6, .int (iI (insc σ.sh.t σ.sh.m (((pcl σ.sh.t) + k) % 12)))), (5, .int (iI (((pcl σ.sh.t) + k) % 12))), (4, .int (iI k)), (2, .int (iI (pcl x.2.2.1))), (1, .int (iI i)), (0, .ref A.m)]) C dX4_degree_86 rfl (by rw [hnL]; decide) rfl ?_
        refine z_iload (pc := 87) (j := 1) C dX4_degree_87 rfl ?_
        refine z_if_eq (pc := 89) (tgt := 100) C dX4_degree_89 (by decide) (by omega) (fun c89 => by exfalso; omega) (fun c89 => ?_)
        refine z_iload (pc := 92) (j := 2) C dX4_degree_92 rfl ?_
        refine z_iload_n (pc := 94) (j := 4) C dX4_degree_94 rfl rfl ?_
        refine z_icmp_ne (pc := 95) (tgt := 100) C dX4_degree_95 (by decide) (by omega) (by omega) (fun c95 => ?_) (fun c95 => ?_)
        · refine z_iinc (pc := 100) (k := 3) (L' := [(4, .int (iI (k + 1))), (3, .int (iI (n + 1))), (6, .int (iI (insc σ.sh.t σ.sh.m (((pcl σ.sh.t) + k) % 12)))), (5, .int (iI (((pcl σ.sh.t) + k) % 12))), (2, .int (iI (pcl x.2.2.1))), (1, .int (iI i)), (0, .ref A.m)]) C dX4_degree_100 rfl (by rw [hnL]; decide) rfl ?_
          refine z_goto (pc := 103) (tgt := 39) C dX4_degree_103 (by decide) ?_
          refine Z.weak (L' := [(4, .int (iI (k + 1))), (3, .int (iI (n + 1))), (2, .int (iI (pcl x.2.2.1))), (1, .int (iI i)), (0, .ref A.m)]) (kc' := 0) (ks' := 0) [0, 1, 4, 5, 6] rfl (by omega) (by omega) ?_
          exact ih39 _ (by omega) (k + 1) (n + 1) g39 ⟨gm_3, gv_3, gpa_3, gtx_3, gma_3, gna_3, gua_3, gla_3, gle_3, gqa_3, gd_3⟩ hkp39 (by omega) (dgs_st hk9 hd (Or.inl ⟨rfl, hin72, by omega⟩)) rfl
        · refine z_iload_n (pc := 98) (j := 0) C dX4_degree_98 rfl rfl ?_
          exact z_ireturn (pc := 99) C (by rw [hXp]; exact ⟨_, rfl, (by rw [dgs_en hk9 hd hin72 (by omega)]), ⟨ap, nt, rr, rq, rb, wh, nd, up, lo, V, P, T, M, N, U, W, ⟨gm_3, gv_3, gpa_3, gtx_3, gma_3, gna_3, gua_3, gla_3, gle_3, gqa_3, gd_3⟩, hS, hP, htq, hR, hsl, hslh⟩, hkp39⟩) dX4_degree_99
  refine Z.weak (L' := [(4, .int (iI 0)), (3, .int (iI 0)), (2, .int (iI (pcl x.2.2.1))), (1, .int (iI i)), (0, .ref A.m)]) (kc' := 0) (ks' := 0) [0, 1, 2, 4, 3] rfl (by omega) (by omega) ?_
  exact loop39 _ 0 0 h2 ⟨fh2_0, fh2_1, fh2_2, fh2_3, fh2_4, fh2_5, fh2_6, fh2_7, (kh2.n gle_1 (List.not_mem_cons_of_ne_of_not_mem (Ne.symm (zneA gm_1 gle_1)) (List.not_mem_cons_of_ne_of_not_mem (zneT gle_1 gv_1 (by simp)) (List.not_mem_cons_of_ne_of_not_mem (zneT gle_1 gpa_1 (by simp)) (List.not_mem_cons_of_ne_of_not_mem (zneT gle_1 gtx_1 (by simp)) (List.not_mem_cons_of_ne_of_not_mem (zneT gle_1 gma_1 (by simp)) (List.not_mem_cons_of_ne_of_not_mem (zneT gle_1 gna_1 (by simp)) (List.not_mem_cons_of_ne_of_not_mem (zneT gle_1 gua_1 (by simp)) (List.not_mem_cons_of_ne_of_not_mem (zneT gle_1 gla_1 (by simp)) List.not_mem_nil))))))))), (kh2.n gqa_1 (List.not_mem_cons_of_ne_of_not_mem (Ne.symm (zneA gm_1 gqa_1)) (List.not_mem_cons_of_ne_of_not_mem (zneT gqa_1 gv_1 (by simp)) (List.not_mem_cons_of_ne_of_not_mem (zneT gqa_1 gpa_1 (by simp)) (List.not_mem_cons_of_ne_of_not_mem (zneT gqa_1 gtx_1 (by simp)) (List.not_mem_cons_of_ne_of_not_mem (zneT gqa_1 gma_1 (by simp)) (List.not_mem_cons_of_ne_of_not_mem (zneT gqa_1 gna_1 (by simp)) (List.not_mem_cons_of_ne_of_not_mem (zneT gqa_1 gua_1 (by simp)) (List.not_mem_cons_of_ne_of_not_mem (zneT gqa_1 gla_1 (by simp)) List.not_mem_nil))))))))), gd_1⟩ kh2 (by omega) rfl rfl
set_option maxHeartbeats 4000000 in
theorem md_degree_b {l : Launch} (hl : l.stackTraces = false) {Γ : zCx} {h : zH} {A : zMA} {σ : zSt} {th : Int} (hW : mdW h A σ th) {i : Int} (hi : -2147483648 ≤ i ∧ i ≤ 2147483647) (hb : ¬ (0 ≤ i ∧ i < (σ.sh.cs.length : Nat)))  : zMet l yX4_degree (ws_ yX4_degree cX4_degree 7 (some .int)) ({ frames := 2, cells := 0, slots := 0, locals := 43 }) Γ h [.ref A.m, .int (iI i)] (zrt (fun w h' => w = some (.int (iI (0))) ∧ mdW h' A σ 1 ∧ zkeep h h' [A.m, A.v, A.pa, A.tx, A.ma, A.na, A.ua, A.la])) 0 0 := by
  refine zMet.of (cc := cX4_degree) hl (plainFor_of_name (by decide +kernel)) (Nat.le_of_ble_eq_true rfl) ?_
  intro X hXl hXΓ hXp C hnm hnL
  have C : zC X cX4_degree RX4 (some .int) 2 43 [] := C
  have hnL : X.2.1.2.2.2.2 = 7 := hnL
  subst hXl hXΓ
  show Z X h 0 0 [(0, .ref A.m), (1, .int (iI i))] 0 []
  obtain ⟨ap, nt, rr, rq, rb, wh, nd, up, lo, V, P, T, M, N, U, W, hM, hS, hP, htq, hR, hsl, hslh⟩ := id hW
  obtain ⟨rsi, rff, rwd, rtl, rtx, rsh, rhi, rhl⟩ := id hR
  obtain ⟨rcl, rcr, rll, rlt, rkt, rkm, rks⟩ := id rsh
  obtain ⟨hsl1, hsl2, hsl3⟩ := id hsl
  have hTr := rtx
  have hTl := rtl
  obtain ⟨gm_1, gv_1, gpa_1, gtx_1, gma_1, gna_1, gua_1, gla_1, gle_1, gqa_1, gd_1⟩ := id hM
  refine z_aload_n (pc := 0) (j := 0) C dX4_degree_0 rfl rfl ?_
  refine z_iconst (pc := 1) C dX4_degree_1 ?_
  refine z_putfield (pc := 2) (fs' := [.ref A.v, .ref A.pa, .int (iI ((σ.hi.length : Nat) : Int)), .ref A.tx, .int (iI ((σ.tx.length : Nat) : Int)), .int (iI σ.si), .int (iI σ.fl), .int (iI σ.wd), .int (iI 0), .ref A.le, .ref A.qa, .int (iI ap), .int (iI nt), .int (iI rr), .int (iI rq), .int (iI rb), .int (iI wh), .ref A.ma, .ref A.na, .int (iI nd), .ref A.ua, .ref A.la, .int (iI up), .int (iI lo)]) C in_X4 tyX4 tyX4_ok nmX4 rfl 8 (by decide) q2090 (fun _ z => z) rfl rfl rfl (Nat.le_of_ble_eq_true rfl) gm_1 rfl dX4_degree_2 ?_
  refine Z.nm (fun h2 eh2 => ?_)
  have kh2 : zkeep h h2 [A.m, A.v, A.pa, A.tx, A.ma, A.na, A.ua, A.la] := by rw [eh2]; exact zkeep.up zkeep.rf (Or.inl (by simp)) gm_1
  have fh2_0 : h2 A.m = some (true, .inr (3, [.ref A.v, .ref A.pa, .int (iI ((σ.hi.length : Nat) : Int)), .ref A.tx, .int (iI ((σ.tx.length : Nat) : Int)), .int (iI σ.si), .int (iI σ.fl), .int (iI σ.wd), .int (iI 0), .ref A.le, .ref A.qa, .int (iI ap), .int (iI nt), .int (iI rr), .int (iI rq), .int (iI rb), .int (iI wh), .ref A.ma, .ref A.na, .int (iI nd), .ref A.ua, .ref A.la, .int (iI up), .int (iI lo)])) := zse eh2
  have fh2_1 : h2 A.v = some (true, .inl (.int, 620, (mA V))) := zsn eh2 gv_1 (Ne.symm (zneA gm_1 gv_1))
  have fh2_2 : h2 A.pa = some (true, .inl (.int, 4960, (mA P))) := zsn eh2 gpa_1 (Ne.symm (zneA gm_1 gpa_1))
  have fh2_3 : h2 A.tx = some (true, .inl (.int, 200, (mA T))) := zsn eh2 gtx_1 (Ne.symm (zneA gm_1 gtx_1))
  have fh2_4 : h2 A.ma = some (true, .inl (.int, 620, (mA M))) := zsn eh2 gma_1 (Ne.symm (zneA gm_1 gma_1))
  have fh2_5 : h2 A.na = some (true, .inl (.int, 20, (mA N))) := zsn eh2 gna_1 (Ne.symm (zneA gm_1 gna_1))
  have fh2_6 : h2 A.ua = some (true, .inl (.int, 1200, (mA U))) := zsn eh2 gua_1 (Ne.symm (zneA gm_1 gua_1))
  have fh2_7 : h2 A.la = some (true, .inl (.int, 1200, (mA W))) := zsn eh2 gla_1 (Ne.symm (zneA gm_1 gla_1))
  refine z_aload_n (pc := 5) (j := 0) C dX4_degree_5 rfl rfl ?_
  refine z_iload_n (pc := 6) (j := 1) C dX4_degree_6 rfl rfl ?_
  refine z_callV (pc := 7) (n := 1) (kc' := 0) (ks' := 0) C (m_isChord C.t ⟨fh2_0, fh2_1, fh2_2, fh2_3, fh2_4, fh2_5, fh2_6, fh2_7, (kh2.n gle_1 (List.not_mem_cons_of_ne_of_not_mem (Ne.symm (zneA gm_1 gle_1)) (List.not_mem_cons_of_ne_of_not_mem (zneT gle_1 gv_1 (by simp)) (List.not_mem_cons_of_ne_of_not_mem (zneT gle_1 gpa_1 (by simp)) (List.not_mem_cons_of_ne_of_not_mem (zneT gle_1 gtx_1 (by simp)) (List.not_mem_cons_of_ne_of_not_mem (zneT gle_1 gma_1 (by simp)) (List.not_mem_cons_of_ne_of_not_mem (zneT gle_1 gna_1 (by simp)) (List.not_mem_cons_of_ne_of_not_mem (zneT gle_1 gua_1 (by simp)) (List.not_mem_cons_of_ne_of_not_mem (zneT gle_1 gla_1 (by simp)) List.not_mem_nil))))))))), (kh2.n gqa_1 (List.not_mem_cons_of_ne_of_not_mem (Ne.symm (zneA gm_1 gqa_1)) (List.not_mem_cons_of_ne_of_not_mem (zneT gqa_1 gv_1 (by simp)) (List.not_mem_cons_of_ne_of_not_mem (zneT gqa_1 gpa_1 (by simp)) (List.not_mem_cons_of_ne_of_not_mem (zneT gqa_1 gtx_1 (by simp)) (List.not_mem_cons_of_ne_of_not_mem (zneT gqa_1 gma_1 (by simp)) (List.not_mem_cons_of_ne_of_not_mem (zneT gqa_1 gna_1 (by simp)) (List.not_mem_cons_of_ne_of_not_mem (zneT gqa_1 gua_1 (by simp)) (List.not_mem_cons_of_ne_of_not_mem (zneT gqa_1 gla_1 (by simp)) List.not_mem_nil))))))))), gd_1⟩ hS hsl (i := i) (by omega)) (lw_V q2278 q2280 qs41 q74 q2281) (by decide +kernel) ⟨by decide, by decide⟩ fh2_0 rfl rfl rfl (Nat.le_of_ble_eq_true rfl) dX4_degree_7 (by omega) (by omega) (zpk (st' := [.int (iI (if 0 ≤ i ∧ i ≤ ((σ.sh.cs.length : Nat) : Int) - 1 then 1 else 0))]) rfl ?_) zrx
  rw [show ((if 0 ≤ i ∧ i ≤ ((σ.sh.cs.length : Nat) : Int) - 1 then 1 else 0) : Int) = 0 from if_neg (by omega)]
  show Z X h2 0 0 [(0, .ref A.m), (1, .int (iI i))] 10 [.int (iI 0)]
  refine z_if_ne (pc := 10) (tgt := 19) C dX4_degree_10 (by decide) (by decide) (fun z => absurd z (by decide)) (fun _ => ?_)
  refine z_aload_n (pc := 13) (j := 0) C dX4_degree_13 rfl rfl ?_
  refine z_iconst (pc := 14) C dX4_degree_14 ?_
  refine z_callV (pc := 15) (n := 1) (kc' := 0) (ks' := 0) C (m_fails C.t ⟨fh2_0, fh2_1, fh2_2, fh2_3, fh2_4, fh2_5, fh2_6, fh2_7, (kh2.n gle_1 (List.not_mem_cons_of_ne_of_not_mem (Ne.symm (zneA gm_1 gle_1)) (List.not_mem_cons_of_ne_of_not_mem (zneT gle_1 gv_1 (by simp)) (List.not_mem_cons_of_ne_of_not_mem (zneT gle_1 gpa_1 (by simp)) (List.not_mem_cons_of_ne_of_not_mem (zneT gle_1 gtx_1 (by simp)) (List.not_mem_cons_of_ne_of_not_mem (zneT gle_1 gma_1 (by simp)) (List.not_mem_cons_of_ne_of_not_mem (zneT gle_1 gna_1 (by simp)) (List.not_mem_cons_of_ne_of_not_mem (zneT gle_1 gua_1 (by simp)) (List.not_mem_cons_of_ne_of_not_mem (zneT gle_1 gla_1 (by simp)) List.not_mem_nil))))))))), (kh2.n gqa_1 (List.not_mem_cons_of_ne_of_not_mem (Ne.symm (zneA gm_1 gqa_1)) (List.not_mem_cons_of_ne_of_not_mem (zneT gqa_1 gv_1 (by simp)) (List.not_mem_cons_of_ne_of_not_mem (zneT gqa_1 gpa_1 (by simp)) (List.not_mem_cons_of_ne_of_not_mem (zneT gqa_1 gtx_1 (by simp)) (List.not_mem_cons_of_ne_of_not_mem (zneT gqa_1 gma_1 (by simp)) (List.not_mem_cons_of_ne_of_not_mem (zneT gqa_1 gna_1 (by simp)) (List.not_mem_cons_of_ne_of_not_mem (zneT gqa_1 gua_1 (by simp)) (List.not_mem_cons_of_ne_of_not_mem (zneT gqa_1 gla_1 (by simp)) List.not_mem_nil))))))))), gd_1⟩ (x := 1)) (lw_V q2167 q2169 qs27 q74 q2170) (by decide +kernel) ⟨by decide, by decide⟩ fh2_0 rfl rfl rfl (Nat.le_of_ble_eq_true rfl) dX4_degree_15 (by omega) (by omega) (zrk fun w h3 hp => ?_) zrx
  obtain ⟨rfl, hM_5, k4⟩ := hp
  have kh3 : zkeep h h3 [A.m, A.v, A.pa, A.tx, A.ma, A.na, A.ua, A.la] := zkeep.loc kh2 k4 (fun q hq => Or.inl (Or.inr hq))
  have hM_5 : mM h3 A ((σ.hi.length : Nat) : Int) ((σ.tx.length : Nat) : Int) σ.si σ.fl σ.wd 1 ap nt rr rq rb wh nd up lo V P T M N U W := hM_5
  obtain ⟨gm_6, gv_6, gpa_6, gtx_6, gma_6, gna_6, gua_6, gla_6, gle_6, gqa_6, gd_6⟩ := id hM_5
  show Z X h3 0 0 [(0, .ref A.m), (1, .int (iI i))] 18 [.int (iI 0)]
  exact z_ireturn (pc := 18) C (by rw [hXp]; exact ⟨_, rfl, rfl, ⟨ap, nt, rr, rq, rb, wh, nd, up, lo, V, P, T, M, N, U, W, ⟨gm_6, gv_6, gpa_6, gtx_6, gma_6, gna_6, gua_6, gla_6, gle_6, gqa_6, gd_6⟩, hS, hP, htq, hR, hsl, hslh⟩, kh3⟩) dX4_degree_18

/-! 29.name.lean.txt -/
set_option maxRecDepth 100000
abbrev cX1_nameChar : ByteArray := prog_1_method_32_code
def yX1_nameChar : MethodName := ⟨RX1, "nameChar", "(II)I"⟩
def dkwX1_nameChar_1 : List UInt8 := [182, 0, 77, 162, 0, 11, 45, 28, 182, 0, 86, 167, 0, 4, 2, 172]
abbrev dktX1_nameChar_1 : List UInt8 := dkwX1_nameChar_1 ++ []
def dkwX1_nameChar_0 : List UInt8 := [42, 27, 182, 0, 190, 182, 0, 208, 78, 28, 156, 0, 11, 187, 0, 60, 89, 183, 0, 62, 191, 28, 45]
abbrev dktX1_nameChar_0 : List UInt8 := dkwX1_nameChar_0 ++ dktX1_nameChar_1
theorem dksX1_nameChar_0 : cX1_nameChar.data.toList.drop 0 = dktX1_nameChar_0 := by decide +kernel
theorem dksX1_nameChar_1 : cX1_nameChar.data.toList.drop 23 = dktX1_nameChar_1 := dk_seg dksX1_nameChar_0 23 rfl rfl
abbrev cX1_fingerprint : ByteArray := prog_1_method_62_code
def yX1_fingerprint : MethodName := ⟨RX1, "fingerprint", "()J"⟩
def dkwX1_fingerprint_10 : List UInt8 := [153, 0, 7, 4, 167, 0, 4, 3, 133, 97, 173]
abbrev dktX1_fingerprint_10 : List UInt8 := dkwX1_fingerprint_10 ++ []
def dkwX1_fingerprint_9 : List UInt8 := [180, 0, 241, 180, 0, 251, 133, 97, 64, 20, 1, 105, 31, 105, 42, 180, 0, 31, 180, 0, 241, 180, 0, 254]
abbrev dktX1_fingerprint_9 : List UInt8 := dkwX1_fingerprint_9 ++ dktX1_fingerprint_10
def dkwX1_fingerprint_8 : List UInt8 := [25, 4, 180, 0, 205, 133, 97, 64, 132, 3, 1, 167, 255, 164, 20, 1, 105, 31, 105, 42, 180, 0, 31]
abbrev dktX1_fingerprint_8 : List UInt8 := dkwX1_fingerprint_8 ++ dktX1_fingerprint_9
def dkwX1_fingerprint_7 : List UInt8 := [20, 1, 105, 20, 1, 105, 31, 105, 25, 4, 180, 0, 199, 133, 97, 105, 25, 4, 180, 0, 202, 133, 97, 105]
abbrev dktX1_fingerprint_7 : List UInt8 := dkwX1_fingerprint_7 ++ dktX1_fingerprint_8
def dkwX1_fingerprint_6 : List UInt8 := [20, 1, 105, 31, 105, 25, 4, 180, 0, 194, 133, 97, 105, 25, 4, 180, 0, 196, 133, 97, 64, 20, 1, 105]
abbrev dktX1_fingerprint_6 : List UInt8 := dkwX1_fingerprint_6 ++ dktX1_fingerprint_7
def dkwX1_fingerprint_5 : List UInt8 := [162, 0, 84, 42, 180, 0, 31, 180, 0, 165, 29, 182, 0, 180, 192, 0, 188, 58, 4, 20, 1, 105]
abbrev dktX1_fingerprint_5 : List UInt8 := dkwX1_fingerprint_5 ++ dktX1_fingerprint_6
def dkwX1_fingerprint_4 : List UInt8 := [167, 255, 228, 132, 3, 1, 167, 255, 176, 3, 62, 29, 42, 180, 0, 31, 180, 0, 165, 182, 0, 168]
abbrev dktX1_fingerprint_4 : List UInt8 := dkwX1_fingerprint_4 ++ dktX1_fingerprint_5
def dkwX1_fingerprint_3 : List UInt8 := [182, 0, 77, 162, 0, 24, 20, 1, 105, 31, 105, 25, 4, 21, 5, 182, 0, 86, 133, 97, 64, 132, 5, 1]
abbrev dktX1_fingerprint_3 : List UInt8 := dkwX1_fingerprint_3 ++ dktX1_fingerprint_4
def dkwX1_fingerprint_2 : List UInt8 := [58, 4, 20, 1, 105, 31, 105, 25, 4, 182, 0, 77, 133, 97, 64, 3, 54, 5, 21, 5, 25, 4]
abbrev dktX1_fingerprint_2 : List UInt8 := dkwX1_fingerprint_2 ++ dktX1_fingerprint_3
def dkwX1_fingerprint_1 : List UInt8 := [180, 0, 44, 182, 0, 168, 162, 0, 72, 42, 180, 0, 31, 180, 0, 44, 29, 182, 0, 180, 192, 0, 78]
abbrev dktX1_fingerprint_1 : List UInt8 := dkwX1_fingerprint_1 ++ dktX1_fingerprint_2
def dkwX1_fingerprint_0 : List UInt8 := [20, 1, 103, 42, 180, 0, 31, 180, 0, 44, 182, 0, 168, 133, 97, 64, 3, 62, 29, 42, 180, 0, 31]
abbrev dktX1_fingerprint_0 : List UInt8 := dkwX1_fingerprint_0 ++ dktX1_fingerprint_1
theorem dksX1_fingerprint_0 : cX1_fingerprint.data.toList.drop 0 = dktX1_fingerprint_0 := by decide +kernel
theorem dksX1_fingerprint_1 : cX1_fingerprint.data.toList.drop 23 = dktX1_fingerprint_1 := dk_seg dksX1_fingerprint_0 23 rfl rfl
theorem dksX1_fingerprint_2 : cX1_fingerprint.data.toList.drop 46 = dktX1_fingerprint_2 := dk_seg dksX1_fingerprint_1 23 rfl rfl
theorem dksX1_fingerprint_3 : cX1_fingerprint.data.toList.drop 68 = dktX1_fingerprint_3 := dk_seg dksX1_fingerprint_2 22 rfl rfl
theorem dksX1_fingerprint_4 : cX1_fingerprint.data.toList.drop 92 = dktX1_fingerprint_4 := dk_seg dksX1_fingerprint_3 24 rfl rfl
theorem dksX1_fingerprint_5 : cX1_fingerprint.data.toList.drop 114 = dktX1_fingerprint_5 := dk_seg dksX1_fingerprint_4 22 rfl rfl
theorem dksX1_fingerprint_6 : cX1_fingerprint.data.toList.drop 136 = dktX1_fingerprint_6 := dk_seg dksX1_fingerprint_5 22 rfl rfl
theorem dksX1_fingerprint_7 : cX1_fingerprint.data.toList.drop 160 = dktX1_fingerprint_7 := dk_seg dksX1_fingerprint_6 24 rfl rfl
theorem dksX1_fingerprint_8 : cX1_fingerprint.data.toList.drop 184 = dktX1_fingerprint_8 := dk_seg dksX1_fingerprint_7 24 rfl rfl
theorem dksX1_fingerprint_9 : cX1_fingerprint.data.toList.drop 207 = dktX1_fingerprint_9 := dk_seg dksX1_fingerprint_8 23 rfl rfl
theorem dksX1_fingerprint_10 : cX1_fingerprint.data.toList.drop 231 = dktX1_fingerprint_10 := dk_seg dksX1_fingerprint_9 24 rfl rfl
theorem dX1_nameChar_0 : decode cX1_nameChar 0 = .ok (.aload_n 0, 1) := dk_42 (dk_at dksX1_nameChar_0 0 rfl rfl)
theorem dX1_nameChar_1 : decode cX1_nameChar 1 = .ok (.iload_n 1, 1) := dk_27 (dk_at dksX1_nameChar_0 1 rfl rfl)
theorem dX1_nameChar_2 : decode cX1_nameChar 2 = .ok (.invokevirtual 190, 3) := dk_182 0 190 (dk_at dksX1_nameChar_0 2 rfl rfl)
theorem dX1_nameChar_5 : decode cX1_nameChar 5 = .ok (.invokevirtual 208, 3) := dk_182 0 208 (dk_at dksX1_nameChar_0 5 rfl rfl)
theorem dX1_nameChar_8 : decode cX1_nameChar 8 = .ok (.astore_n 3, 1) := dk_78 (dk_at dksX1_nameChar_0 8 rfl rfl)
theorem dX1_nameChar_9 : decode cX1_nameChar 9 = .ok (.iload_n 2, 1) := dk_28 (dk_at dksX1_nameChar_0 9 rfl rfl)
theorem dX1_nameChar_10 : decode cX1_nameChar 10 = .ok (.ifCond .ge 11, 3) := dk_156 0 11 (dk_at dksX1_nameChar_0 10 rfl rfl)
theorem dX1_nameChar_13 : decode cX1_nameChar 13 = .ok (.new 60, 3) := dk_187 0 60 (dk_at dksX1_nameChar_0 13 rfl rfl)
theorem dX1_nameChar_16 : decode cX1_nameChar 16 = .ok (.dup, 1) := dk_89 (dk_at dksX1_nameChar_0 16 rfl rfl)
theorem dX1_nameChar_17 : decode cX1_nameChar 17 = .ok (.invokespecial 62, 3) := dk_183 0 62 (dk_at dksX1_nameChar_0 17 rfl rfl)
theorem dX1_nameChar_20 : decode cX1_nameChar 20 = .ok (.athrow, 1) := dk_191 (dk_at dksX1_nameChar_0 20 rfl rfl)
theorem dX1_nameChar_21 : decode cX1_nameChar 21 = .ok (.iload_n 2, 1) := dk_28 (dk_at dksX1_nameChar_0 21 rfl rfl)
theorem dX1_nameChar_22 : decode cX1_nameChar 22 = .ok (.aload_n 3, 1) := dk_45 (dk_at dksX1_nameChar_0 22 rfl rfl)
theorem dX1_nameChar_23 : decode cX1_nameChar 23 = .ok (.invokevirtual 77, 3) := dk_182 0 77 (dk_at dksX1_nameChar_1 0 rfl rfl)
theorem dX1_nameChar_26 : decode cX1_nameChar 26 = .ok (.if_icmp .ge 11, 3) := dk_162 0 11 (dk_at dksX1_nameChar_1 3 rfl rfl)
theorem dX1_nameChar_29 : decode cX1_nameChar 29 = .ok (.aload_n 3, 1) := dk_45 (dk_at dksX1_nameChar_1 6 rfl rfl)
theorem dX1_nameChar_30 : decode cX1_nameChar 30 = .ok (.iload_n 2, 1) := dk_28 (dk_at dksX1_nameChar_1 7 rfl rfl)
theorem dX1_nameChar_31 : decode cX1_nameChar 31 = .ok (.invokevirtual 86, 3) := dk_182 0 86 (dk_at dksX1_nameChar_1 8 rfl rfl)
theorem dX1_nameChar_34 : decode cX1_nameChar 34 = .ok (.goto 4, 3) := dk_167 0 4 (dk_at dksX1_nameChar_1 11 rfl rfl)
theorem dX1_nameChar_37 : decode cX1_nameChar 37 = .ok (.iconst (-1), 1) := dk_2 (dk_at dksX1_nameChar_1 14 rfl rfl)
theorem dX1_nameChar_38 : decode cX1_nameChar 38 = .ok (.ireturn, 1) := dk_172 (dk_at dksX1_nameChar_1 15 rfl rfl)
theorem dX1_fingerprint_0 : decode cX1_fingerprint 0 = .ok (.ldc2_w 359, 3) := dk_20 1 103 (dk_at dksX1_fingerprint_0 0 rfl rfl)
theorem dX1_fingerprint_3 : decode cX1_fingerprint 3 = .ok (.aload_n 0, 1) := dk_42 (dk_at dksX1_fingerprint_0 3 rfl rfl)
theorem dX1_fingerprint_4 : decode cX1_fingerprint 4 = .ok (.getfield 31, 3) := dk_180 0 31 (dk_at dksX1_fingerprint_0 4 rfl rfl)
theorem dX1_fingerprint_7 : decode cX1_fingerprint 7 = .ok (.getfield 44, 3) := dk_180 0 44 (dk_at dksX1_fingerprint_0 7 rfl rfl)
theorem dX1_fingerprint_10 : decode cX1_fingerprint 10 = .ok (.invokevirtual 168, 3) := dk_182 0 168 (dk_at dksX1_fingerprint_0 10 rfl rfl)
theorem dX1_fingerprint_13 : decode cX1_fingerprint 13 = .ok (.i2l, 1) := dk_133 (dk_at dksX1_fingerprint_0 13 rfl rfl)
theorem dX1_fingerprint_14 : decode cX1_fingerprint 14 = .ok (.ladd, 1) := dk_97 (dk_at dksX1_fingerprint_0 14 rfl rfl)
theorem dX1_fingerprint_15 : decode cX1_fingerprint 15 = .ok (.lstore_n 1, 1) := dk_64 (dk_at dksX1_fingerprint_0 15 rfl rfl)
theorem dX1_fingerprint_16 : decode cX1_fingerprint 16 = .ok (.iconst 0, 1) := dk_3 (dk_at dksX1_fingerprint_0 16 rfl rfl)
theorem dX1_fingerprint_17 : decode cX1_fingerprint 17 = .ok (.istore_n 3, 1) := dk_62 (dk_at dksX1_fingerprint_0 17 rfl rfl)
theorem dX1_fingerprint_18 : decode cX1_fingerprint 18 = .ok (.iload_n 3, 1) := dk_29 (dk_at dksX1_fingerprint_0 18 rfl rfl)
theorem dX1_fingerprint_19 : decode cX1_fingerprint 19 = .ok (.aload_n 0, 1) := dk_42 (dk_at dksX1_fingerprint_0 19 rfl rfl)
theorem dX1_fingerprint_20 : decode cX1_fingerprint 20 = .ok (.getfield 31, 3) := dk_180 0 31 (dk_at dksX1_fingerprint_0 20 rfl rfl)
theorem dX1_fingerprint_23 : decode cX1_fingerprint 23 = .ok (.getfield 44, 3) := dk_180 0 44 (dk_at dksX1_fingerprint_1 0 rfl rfl)
theorem dX1_fingerprint_26 : decode cX1_fingerprint 26 = .ok (.invokevirtual 168, 3) := dk_182 0 168 (dk_at dksX1_fingerprint_1 3 rfl rfl)
theorem dX1_fingerprint_29 : decode cX1_fingerprint 29 = .ok (.if_icmp .ge 72, 3) := dk_162 0 72 (dk_at dksX1_fingerprint_1 6 rfl rfl)
theorem dX1_fingerprint_32 : decode cX1_fingerprint 32 = .ok (.aload_n 0, 1) := dk_42 (dk_at dksX1_fingerprint_1 9 rfl rfl)
theorem dX1_fingerprint_33 : decode cX1_fingerprint 33 = .ok (.getfield 31, 3) := dk_180 0 31 (dk_at dksX1_fingerprint_1 10 rfl rfl)
theorem dX1_fingerprint_36 : decode cX1_fingerprint 36 = .ok (.getfield 44, 3) := dk_180 0 44 (dk_at dksX1_fingerprint_1 13 rfl rfl)
theorem dX1_fingerprint_39 : decode cX1_fingerprint 39 = .ok (.iload_n 3, 1) := dk_29 (dk_at dksX1_fingerprint_1 16 rfl rfl)
theorem dX1_fingerprint_40 : decode cX1_fingerprint 40 = .ok (.invokevirtual 180, 3) := dk_182 0 180 (dk_at dksX1_fingerprint_1 17 rfl rfl)
theorem dX1_fingerprint_43 : decode cX1_fingerprint 43 = .ok (.checkcast 78, 3) := dk_192 0 78 (dk_at dksX1_fingerprint_1 20 rfl rfl)
theorem dX1_fingerprint_46 : decode cX1_fingerprint 46 = .ok (.astore 4, 2) := dk_58 4 (dk_at dksX1_fingerprint_2 0 rfl rfl)
theorem dX1_fingerprint_48 : decode cX1_fingerprint 48 = .ok (.ldc2_w 361, 3) := dk_20 1 105 (dk_at dksX1_fingerprint_2 2 rfl rfl)
theorem dX1_fingerprint_51 : decode cX1_fingerprint 51 = .ok (.lload_n 1, 1) := dk_31 (dk_at dksX1_fingerprint_2 5 rfl rfl)
theorem dX1_fingerprint_52 : decode cX1_fingerprint 52 = .ok (.lmul, 1) := dk_105 (dk_at dksX1_fingerprint_2 6 rfl rfl)
theorem dX1_fingerprint_53 : decode cX1_fingerprint 53 = .ok (.aload 4, 2) := dk_25 4 (dk_at dksX1_fingerprint_2 7 rfl rfl)
theorem dX1_fingerprint_55 : decode cX1_fingerprint 55 = .ok (.invokevirtual 77, 3) := dk_182 0 77 (dk_at dksX1_fingerprint_2 9 rfl rfl)
theorem dX1_fingerprint_58 : decode cX1_fingerprint 58 = .ok (.i2l, 1) := dk_133 (dk_at dksX1_fingerprint_2 12 rfl rfl)
theorem dX1_fingerprint_59 : decode cX1_fingerprint 59 = .ok (.ladd, 1) := dk_97 (dk_at dksX1_fingerprint_2 13 rfl rfl)
theorem dX1_fingerprint_60 : decode cX1_fingerprint 60 = .ok (.lstore_n 1, 1) := dk_64 (dk_at dksX1_fingerprint_2 14 rfl rfl)
theorem dX1_fingerprint_61 : decode cX1_fingerprint 61 = .ok (.iconst 0, 1) := dk_3 (dk_at dksX1_fingerprint_2 15 rfl rfl)
theorem dX1_fingerprint_62 : decode cX1_fingerprint 62 = .ok (.istore 5, 2) := dk_54 5 (dk_at dksX1_fingerprint_2 16 rfl rfl)
theorem dX1_fingerprint_64 : decode cX1_fingerprint 64 = .ok (.iload 5, 2) := dk_21 5 (dk_at dksX1_fingerprint_2 18 rfl rfl)
theorem dX1_fingerprint_66 : decode cX1_fingerprint 66 = .ok (.aload 4, 2) := dk_25 4 (dk_at dksX1_fingerprint_2 20 rfl rfl)
theorem dX1_fingerprint_68 : decode cX1_fingerprint 68 = .ok (.invokevirtual 77, 3) := dk_182 0 77 (dk_at dksX1_fingerprint_3 0 rfl rfl)
theorem dX1_fingerprint_71 : decode cX1_fingerprint 71 = .ok (.if_icmp .ge 24, 3) := dk_162 0 24 (dk_at dksX1_fingerprint_3 3 rfl rfl)
theorem dX1_fingerprint_74 : decode cX1_fingerprint 74 = .ok (.ldc2_w 361, 3) := dk_20 1 105 (dk_at dksX1_fingerprint_3 6 rfl rfl)
theorem dX1_fingerprint_77 : decode cX1_fingerprint 77 = .ok (.lload_n 1, 1) := dk_31 (dk_at dksX1_fingerprint_3 9 rfl rfl)
theorem dX1_fingerprint_78 : decode cX1_fingerprint 78 = .ok (.lmul, 1) := dk_105 (dk_at dksX1_fingerprint_3 10 rfl rfl)
theorem dX1_fingerprint_79 : decode cX1_fingerprint 79 = .ok (.aload 4, 2) := dk_25 4 (dk_at dksX1_fingerprint_3 11 rfl rfl)
theorem dX1_fingerprint_81 : decode cX1_fingerprint 81 = .ok (.iload 5, 2) := dk_21 5 (dk_at dksX1_fingerprint_3 13 rfl rfl)
theorem dX1_fingerprint_83 : decode cX1_fingerprint 83 = .ok (.invokevirtual 86, 3) := dk_182 0 86 (dk_at dksX1_fingerprint_3 15 rfl rfl)
theorem dX1_fingerprint_86 : decode cX1_fingerprint 86 = .ok (.i2l, 1) := dk_133 (dk_at dksX1_fingerprint_3 18 rfl rfl)
theorem dX1_fingerprint_87 : decode cX1_fingerprint 87 = .ok (.ladd, 1) := dk_97 (dk_at dksX1_fingerprint_3 19 rfl rfl)
theorem dX1_fingerprint_88 : decode cX1_fingerprint 88 = .ok (.lstore_n 1, 1) := dk_64 (dk_at dksX1_fingerprint_3 20 rfl rfl)
theorem dX1_fingerprint_89 : decode cX1_fingerprint 89 = .ok (.iinc 5 1, 3) := dk_132 5 1 (dk_at dksX1_fingerprint_3 21 rfl rfl)
theorem dX1_fingerprint_92 : decode cX1_fingerprint 92 = .ok (.goto (-28), 3) := dk_167 255 228 (dk_at dksX1_fingerprint_4 0 rfl rfl)
theorem dX1_fingerprint_95 : decode cX1_fingerprint 95 = .ok (.iinc 3 1, 3) := dk_132 3 1 (dk_at dksX1_fingerprint_4 3 rfl rfl)
theorem dX1_fingerprint_98 : decode cX1_fingerprint 98 = .ok (.goto (-80), 3) := dk_167 255 176 (dk_at dksX1_fingerprint_4 6 rfl rfl)
theorem dX1_fingerprint_101 : decode cX1_fingerprint 101 = .ok (.iconst 0, 1) := dk_3 (dk_at dksX1_fingerprint_4 9 rfl rfl)
theorem dX1_fingerprint_102 : decode cX1_fingerprint 102 = .ok (.istore_n 3, 1) := dk_62 (dk_at dksX1_fingerprint_4 10 rfl rfl)
theorem dX1_fingerprint_103 : decode cX1_fingerprint 103 = .ok (.iload_n 3, 1) := dk_29 (dk_at dksX1_fingerprint_4 11 rfl rfl)
theorem dX1_fingerprint_104 : decode cX1_fingerprint 104 = .ok (.aload_n 0, 1) := dk_42 (dk_at dksX1_fingerprint_4 12 rfl rfl)
theorem dX1_fingerprint_105 : decode cX1_fingerprint 105 = .ok (.getfield 31, 3) := dk_180 0 31 (dk_at dksX1_fingerprint_4 13 rfl rfl)
theorem dX1_fingerprint_108 : decode cX1_fingerprint 108 = .ok (.getfield 165, 3) := dk_180 0 165 (dk_at dksX1_fingerprint_4 16 rfl rfl)
theorem dX1_fingerprint_111 : decode cX1_fingerprint 111 = .ok (.invokevirtual 168, 3) := dk_182 0 168 (dk_at dksX1_fingerprint_4 19 rfl rfl)
theorem dX1_fingerprint_114 : decode cX1_fingerprint 114 = .ok (.if_icmp .ge 84, 3) := dk_162 0 84 (dk_at dksX1_fingerprint_5 0 rfl rfl)
theorem dX1_fingerprint_117 : decode cX1_fingerprint 117 = .ok (.aload_n 0, 1) := dk_42 (dk_at dksX1_fingerprint_5 3 rfl rfl)
theorem dX1_fingerprint_118 : decode cX1_fingerprint 118 = .ok (.getfield 31, 3) := dk_180 0 31 (dk_at dksX1_fingerprint_5 4 rfl rfl)
theorem dX1_fingerprint_121 : decode cX1_fingerprint 121 = .ok (.getfield 165, 3) := dk_180 0 165 (dk_at dksX1_fingerprint_5 7 rfl rfl)
theorem dX1_fingerprint_124 : decode cX1_fingerprint 124 = .ok (.iload_n 3, 1) := dk_29 (dk_at dksX1_fingerprint_5 10 rfl rfl)
theorem dX1_fingerprint_125 : decode cX1_fingerprint 125 = .ok (.invokevirtual 180, 3) := dk_182 0 180 (dk_at dksX1_fingerprint_5 11 rfl rfl)
theorem dX1_fingerprint_128 : decode cX1_fingerprint 128 = .ok (.checkcast 188, 3) := dk_192 0 188 (dk_at dksX1_fingerprint_5 14 rfl rfl)
theorem dX1_fingerprint_131 : decode cX1_fingerprint 131 = .ok (.astore 4, 2) := dk_58 4 (dk_at dksX1_fingerprint_5 17 rfl rfl)
theorem dX1_fingerprint_133 : decode cX1_fingerprint 133 = .ok (.ldc2_w 361, 3) := dk_20 1 105 (dk_at dksX1_fingerprint_5 19 rfl rfl)
theorem dX1_fingerprint_136 : decode cX1_fingerprint 136 = .ok (.ldc2_w 361, 3) := dk_20 1 105 (dk_at dksX1_fingerprint_6 0 rfl rfl)
theorem dX1_fingerprint_139 : decode cX1_fingerprint 139 = .ok (.lload_n 1, 1) := dk_31 (dk_at dksX1_fingerprint_6 3 rfl rfl)
theorem dX1_fingerprint_140 : decode cX1_fingerprint 140 = .ok (.lmul, 1) := dk_105 (dk_at dksX1_fingerprint_6 4 rfl rfl)
theorem dX1_fingerprint_141 : decode cX1_fingerprint 141 = .ok (.aload 4, 2) := dk_25 4 (dk_at dksX1_fingerprint_6 5 rfl rfl)
theorem dX1_fingerprint_143 : decode cX1_fingerprint 143 = .ok (.getfield 194, 3) := dk_180 0 194 (dk_at dksX1_fingerprint_6 7 rfl rfl)
theorem dX1_fingerprint_146 : decode cX1_fingerprint 146 = .ok (.i2l, 1) := dk_133 (dk_at dksX1_fingerprint_6 10 rfl rfl)
theorem dX1_fingerprint_147 : decode cX1_fingerprint 147 = .ok (.ladd, 1) := dk_97 (dk_at dksX1_fingerprint_6 11 rfl rfl)
theorem dX1_fingerprint_148 : decode cX1_fingerprint 148 = .ok (.lmul, 1) := dk_105 (dk_at dksX1_fingerprint_6 12 rfl rfl)
theorem dX1_fingerprint_149 : decode cX1_fingerprint 149 = .ok (.aload 4, 2) := dk_25 4 (dk_at dksX1_fingerprint_6 13 rfl rfl)
theorem dX1_fingerprint_151 : decode cX1_fingerprint 151 = .ok (.getfield 196, 3) := dk_180 0 196 (dk_at dksX1_fingerprint_6 15 rfl rfl)
theorem dX1_fingerprint_154 : decode cX1_fingerprint 154 = .ok (.i2l, 1) := dk_133 (dk_at dksX1_fingerprint_6 18 rfl rfl)
theorem dX1_fingerprint_155 : decode cX1_fingerprint 155 = .ok (.ladd, 1) := dk_97 (dk_at dksX1_fingerprint_6 19 rfl rfl)
theorem dX1_fingerprint_156 : decode cX1_fingerprint 156 = .ok (.lstore_n 1, 1) := dk_64 (dk_at dksX1_fingerprint_6 20 rfl rfl)
theorem dX1_fingerprint_157 : decode cX1_fingerprint 157 = .ok (.ldc2_w 361, 3) := dk_20 1 105 (dk_at dksX1_fingerprint_6 21 rfl rfl)
theorem dX1_fingerprint_160 : decode cX1_fingerprint 160 = .ok (.ldc2_w 361, 3) := dk_20 1 105 (dk_at dksX1_fingerprint_7 0 rfl rfl)
theorem dX1_fingerprint_163 : decode cX1_fingerprint 163 = .ok (.ldc2_w 361, 3) := dk_20 1 105 (dk_at dksX1_fingerprint_7 3 rfl rfl)
theorem dX1_fingerprint_166 : decode cX1_fingerprint 166 = .ok (.lload_n 1, 1) := dk_31 (dk_at dksX1_fingerprint_7 6 rfl rfl)
theorem dX1_fingerprint_167 : decode cX1_fingerprint 167 = .ok (.lmul, 1) := dk_105 (dk_at dksX1_fingerprint_7 7 rfl rfl)
theorem dX1_fingerprint_168 : decode cX1_fingerprint 168 = .ok (.aload 4, 2) := dk_25 4 (dk_at dksX1_fingerprint_7 8 rfl rfl)
theorem dX1_fingerprint_170 : decode cX1_fingerprint 170 = .ok (.getfield 199, 3) := dk_180 0 199 (dk_at dksX1_fingerprint_7 10 rfl rfl)
theorem dX1_fingerprint_173 : decode cX1_fingerprint 173 = .ok (.i2l, 1) := dk_133 (dk_at dksX1_fingerprint_7 13 rfl rfl)
theorem dX1_fingerprint_174 : decode cX1_fingerprint 174 = .ok (.ladd, 1) := dk_97 (dk_at dksX1_fingerprint_7 14 rfl rfl)
theorem dX1_fingerprint_175 : decode cX1_fingerprint 175 = .ok (.lmul, 1) := dk_105 (dk_at dksX1_fingerprint_7 15 rfl rfl)
theorem dX1_fingerprint_176 : decode cX1_fingerprint 176 = .ok (.aload 4, 2) := dk_25 4 (dk_at dksX1_fingerprint_7 16 rfl rfl)
theorem dX1_fingerprint_178 : decode cX1_fingerprint 178 = .ok (.getfield 202, 3) := dk_180 0 202 (dk_at dksX1_fingerprint_7 18 rfl rfl)
theorem dX1_fingerprint_181 : decode cX1_fingerprint 181 = .ok (.i2l, 1) := dk_133 (dk_at dksX1_fingerprint_7 21 rfl rfl)
theorem dX1_fingerprint_182 : decode cX1_fingerprint 182 = .ok (.ladd, 1) := dk_97 (dk_at dksX1_fingerprint_7 22 rfl rfl)
theorem dX1_fingerprint_183 : decode cX1_fingerprint 183 = .ok (.lmul, 1) := dk_105 (dk_at dksX1_fingerprint_7 23 rfl rfl)
theorem dX1_fingerprint_184 : decode cX1_fingerprint 184 = .ok (.aload 4, 2) := dk_25 4 (dk_at dksX1_fingerprint_8 0 rfl rfl)
theorem dX1_fingerprint_186 : decode cX1_fingerprint 186 = .ok (.getfield 205, 3) := dk_180 0 205 (dk_at dksX1_fingerprint_8 2 rfl rfl)
theorem dX1_fingerprint_189 : decode cX1_fingerprint 189 = .ok (.i2l, 1) := dk_133 (dk_at dksX1_fingerprint_8 5 rfl rfl)
theorem dX1_fingerprint_190 : decode cX1_fingerprint 190 = .ok (.ladd, 1) := dk_97 (dk_at dksX1_fingerprint_8 6 rfl rfl)
theorem dX1_fingerprint_191 : decode cX1_fingerprint 191 = .ok (.lstore_n 1, 1) := dk_64 (dk_at dksX1_fingerprint_8 7 rfl rfl)
theorem dX1_fingerprint_192 : decode cX1_fingerprint 192 = .ok (.iinc 3 1, 3) := dk_132 3 1 (dk_at dksX1_fingerprint_8 8 rfl rfl)
theorem dX1_fingerprint_195 : decode cX1_fingerprint 195 = .ok (.goto (-92), 3) := dk_167 255 164 (dk_at dksX1_fingerprint_8 11 rfl rfl)
theorem dX1_fingerprint_198 : decode cX1_fingerprint 198 = .ok (.ldc2_w 361, 3) := dk_20 1 105 (dk_at dksX1_fingerprint_8 14 rfl rfl)
theorem dX1_fingerprint_201 : decode cX1_fingerprint 201 = .ok (.lload_n 1, 1) := dk_31 (dk_at dksX1_fingerprint_8 17 rfl rfl)
theorem dX1_fingerprint_202 : decode cX1_fingerprint 202 = .ok (.lmul, 1) := dk_105 (dk_at dksX1_fingerprint_8 18 rfl rfl)
theorem dX1_fingerprint_203 : decode cX1_fingerprint 203 = .ok (.aload_n 0, 1) := dk_42 (dk_at dksX1_fingerprint_8 19 rfl rfl)
theorem dX1_fingerprint_204 : decode cX1_fingerprint 204 = .ok (.getfield 31, 3) := dk_180 0 31 (dk_at dksX1_fingerprint_8 20 rfl rfl)
theorem dX1_fingerprint_207 : decode cX1_fingerprint 207 = .ok (.getfield 241, 3) := dk_180 0 241 (dk_at dksX1_fingerprint_9 0 rfl rfl)
theorem dX1_fingerprint_210 : decode cX1_fingerprint 210 = .ok (.getfield 251, 3) := dk_180 0 251 (dk_at dksX1_fingerprint_9 3 rfl rfl)
theorem dX1_fingerprint_213 : decode cX1_fingerprint 213 = .ok (.i2l, 1) := dk_133 (dk_at dksX1_fingerprint_9 6 rfl rfl)
theorem dX1_fingerprint_214 : decode cX1_fingerprint 214 = .ok (.ladd, 1) := dk_97 (dk_at dksX1_fingerprint_9 7 rfl rfl)
theorem dX1_fingerprint_215 : decode cX1_fingerprint 215 = .ok (.lstore_n 1, 1) := dk_64 (dk_at dksX1_fingerprint_9 8 rfl rfl)
theorem dX1_fingerprint_216 : decode cX1_fingerprint 216 = .ok (.ldc2_w 361, 3) := dk_20 1 105 (dk_at dksX1_fingerprint_9 9 rfl rfl)
theorem dX1_fingerprint_219 : decode cX1_fingerprint 219 = .ok (.lload_n 1, 1) := dk_31 (dk_at dksX1_fingerprint_9 12 rfl rfl)
theorem dX1_fingerprint_220 : decode cX1_fingerprint 220 = .ok (.lmul, 1) := dk_105 (dk_at dksX1_fingerprint_9 13 rfl rfl)
theorem dX1_fingerprint_221 : decode cX1_fingerprint 221 = .ok (.aload_n 0, 1) := dk_42 (dk_at dksX1_fingerprint_9 14 rfl rfl)
theorem dX1_fingerprint_222 : decode cX1_fingerprint 222 = .ok (.getfield 31, 3) := dk_180 0 31 (dk_at dksX1_fingerprint_9 15 rfl rfl)
theorem dX1_fingerprint_225 : decode cX1_fingerprint 225 = .ok (.getfield 241, 3) := dk_180 0 241 (dk_at dksX1_fingerprint_9 18 rfl rfl)
theorem dX1_fingerprint_228 : decode cX1_fingerprint 228 = .ok (.getfield 254, 3) := dk_180 0 254 (dk_at dksX1_fingerprint_9 21 rfl rfl)
theorem dX1_fingerprint_231 : decode cX1_fingerprint 231 = .ok (.ifCond .eq 7, 3) := dk_153 0 7 (dk_at dksX1_fingerprint_10 0 rfl rfl)
theorem dX1_fingerprint_234 : decode cX1_fingerprint 234 = .ok (.iconst 1, 1) := dk_4 (dk_at dksX1_fingerprint_10 3 rfl rfl)
theorem dX1_fingerprint_235 : decode cX1_fingerprint 235 = .ok (.goto 4, 3) := dk_167 0 4 (dk_at dksX1_fingerprint_10 4 rfl rfl)
theorem dX1_fingerprint_238 : decode cX1_fingerprint 238 = .ok (.iconst 0, 1) := dk_3 (dk_at dksX1_fingerprint_10 7 rfl rfl)
theorem dX1_fingerprint_239 : decode cX1_fingerprint 239 = .ok (.i2l, 1) := dk_133 (dk_at dksX1_fingerprint_10 8 rfl rfl)
theorem dX1_fingerprint_240 : decode cX1_fingerprint 240 = .ok (.ladd, 1) := dk_97 (dk_at dksX1_fingerprint_10 9 rfl rfl)
theorem dX1_fingerprint_241 : decode cX1_fingerprint 241 = .ok (.lreturn, 1) := dk_173 (dk_at dksX1_fingerprint_10 10 rfl rfl)
theorem q1632 : (Jvm.Cond.constantLong "ChordSheet" (359 : Nat) (1457 : Int64)) ∈ lw_all := lw_g (lw_at lw_m7 130 rfl) rfl
theorem q1634 : (Jvm.Cond.constantLong "ChordSheet" (361 : Nat) (31 : Int64)) ∈ lw_all := lw_g (lw_at lw_m7 132 rfl) rfl
theorem q1766 : (Jvm.Cond.methodLink "ChordSheet" (208 : Nat) ({ cls := "ChordSheet$Chord", name := "name", desc := "()Ljava/lang/String;" } : Jvm.MethodName)) ∈ lw_all := lw_g (lw_at lw_m8 24 rfl) rfl
theorem q1767 : (Jvm.Cond.instanceMethod ({ cls := "ChordSheet$Chord", name := "name", desc := "()Ljava/lang/String;" } : Jvm.MethodName)) ∈ lw_all := lw_g (lw_at lw_m8 25 rfl) rfl
theorem q1768 : (Jvm.Cond.selects "ChordSheet$Chord" ({ cls := "ChordSheet$Chord", name := "name", desc := "()Ljava/lang/String;" } : Jvm.MethodName) ({ cls := "ChordSheet$Chord", name := "name", desc := "()Ljava/lang/String;" } : Jvm.MethodName)) ∈ lw_all := lw_g (lw_at lw_m8 26 rfl) rfl
theorem q1769 : (Jvm.Cond.code ({ cls := "ChordSheet$Chord", name := "name", desc := "()Ljava/lang/String;" } : Jvm.MethodName) prog_2_method_7_code (2 : Nat) (Option.some (Jvm.ClassFile.FieldType.object "java/lang/String"))) ∈ lw_all := lw_g (lw_at lw_m8 27 rfl) rfl
def fpT : List Int → Int → Int
  | [], a => a
  | c :: r, a => fpT r (31 * a + c)
def fpL : List (List Int) → Int → Int
  | [], a => a
  | t :: r, a => fpL r (fpT t (31 * a + (t.length : Nat)))
def fpC : List zCh → Int → Int
  | [], a => a
  | c :: r, a => fpC r (31 * (31 * (31 * (31 * (31 * a + c.1) + c.2.1) + c.2.2.1) + c.2.2.2.1) + c.2.2.2.2)
def fpS_ (S : zSh) : Int := 31 * (31 * fpC S.cs (fpL S.ls (1457 + (S.ls.length : Nat))) + S.t) + S.m
set_option maxHeartbeats 4000000 in
theorem op_nameChar {l : Launch} (hl : l.stackTraces = false) {Γ : zCx} {h : zH} {c : Nat} {A : zWA} {σ : zSt} (hW : csW Γ h c A σ) {i : Int} {x : zCh} (hi : 0 ≤ i) (hx : σ.sh.cs[i.toNat]? = some x) {k d : Int} (hk : 0 ≤ k) (hd : (nmt x.2.2.1 x.2.2.2.1 x.2.2.2.2)[k.toNat]? = some d)  : zMet l yX1_nameChar (ws_ yX1_nameChar cX1_nameChar 4 (some .int)) ({ frames := 8, cells := 4, slots := 31, locals := 176 }) Γ h [.ref c, .int (iI i), .int (iI k)] (zrt (fun w h' => w = some (.int (iI (d))) ∧ zkeep h h' [])) 4 31 := by
  refine zMet.of (cc := cX1_nameChar) hl (plainFor_of_name (by decide +kernel)) (Nat.le_of_ble_eq_true rfl) ?_
  intro X hXl hXΓ hXp C hnm hnL
  have C : zC X cX1_nameChar RX1 (some .int) 8 176 [] := C
  have hnL : X.2.1.2.2.2.2 = 4 := hnL
  subst hXl hXΓ
  show Z X h 4 31 [(0, .ref c), (1, .int (iI i)), (2, .int (iI k))] 0 []
  obtain ⟨⟨tf, hc0, htx, hch⟩, hdq, ⟨lq, kq, lys, ys, hsx, hfl, hls, hl0, hyc, hkx⟩, hhi, hnd, hR⟩ := id hW
  obtain ⟨rsi, rff, rwd, rtl, rtx, rsh, rhi, rhl⟩ := id hR
  obtain ⟨rcl, rcr, rll, rlt, rkt, rkm, rks⟩ := rsh
  have hll := hls.len
  have hyl := hyc.len
  obtain ⟨lm, le0, ln0, lf, hlq, hle, hln, hlN, hlx⟩ := id hfl
  have hxw := hl0
  obtain ⟨mw, fw, law, lew, lzw, ltw, lnw, lcw, lxw, lqw⟩ := hxw
  have hcl := hyc.cl lxw
  have hxr0 := rcr _ (List.mem_of_getElem? hx)
  have hnl := nmt_r (q := x.2.2.2.1) hxr0.2.2.1 hxr0.2.2.2.2
  have hkl := (List.getElem?_eq_some_iff.mp hd).1
  refine z_aload_n (pc := 0) (j := 0) C dX1_nameChar_0 rfl rfl ?_
  refine z_iload_n (pc := 1) (j := 1) C dX1_nameChar_1 rfl rfl ?_
  refine z_callV (pc := 2) (n := 1) (kc' := 4) (ks' := 31) C (op_chord C.t hW (i := i) (by omega) hx) (lw_V q1727 q1729 qs16 q63 q1730) (by decide +kernel) ⟨by decide, by decide⟩ hc0 rfl rfl rfl (Nat.le_of_ble_eq_true rfl) dX1_nameChar_2 (by omega) (by omega) (zrk fun w h2 hp => ?_) zrx
  obtain ⟨q1, rfl, hs3, eh2⟩ := hp
  rw [eh2]
  have xrq1 := rcr _ (List.mem_of_getElem? hx)
  obtain ⟨xr1q1, xr2q1, xr3q1, xr4q1, xr5q1⟩ := id xrq1
  show Z X h 4 31 [(0, .ref c), (1, .int (iI i)), (2, .int (iI k))] 5 [.ref q1]
  refine z_callV (pc := 5) (n := 0) (kc' := 0) (ks' := 0) C (ct_C_name C.t hs3 (by omega) (by omega) (by omega)) (lw_V q1766 q1767 q1768 q89 q1769) (by decide +kernel) ⟨by decide, by decide⟩ hs3 rfl rfl rfl (Nat.le_of_ble_eq_true rfl) dX1_nameChar_5 (by omega) (by omega) (zrk fun w h5 hp => ?_) zrx
  obtain ⟨a4, rfl, hs7, fa4, k6⟩ := hp
  have kh5 : zkeep h h5 [] := zkeep.loc zkeep.rf k6 zall_nil
  have fh5_1 : h5 q1 = some (false, .inr (6, [.int (iI x.1), .int (iI x.2.1), .int (iI x.2.2.1), .int (iI x.2.2.2.1), .int (iI x.2.2.2.2)])) := k6.f hs3
  show Z X h5 0 0 [(0, .ref c), (1, .int (iI i)), (2, .int (iI k))] 8 [.ref a4]
  refine z_astore_n (pc := 8) (L' := [(3, .ref a4), (0, .ref c), (1, .int (iI i)), (2, .int (iI k))]) C dX1_nameChar_8 rfl (by rw [hnL]; decide) rfl ?_
  refine z_iload_n (pc := 9) (j := 3) C dX1_nameChar_9 rfl rfl ?_
  refine z_if_ge (pc := 10) (tgt := 21) C dX1_nameChar_10 (by decide) (by omega) (fun c10 => ?_) (fun c10 => by exfalso; omega)
  refine z_iload_n (pc := 21) (j := 3) C dX1_nameChar_21 rfl rfl ?_
  refine z_aload_n (pc := 22) (j := 0) C dX1_nameChar_22 rfl rfl ?_
  obtain ⟨hl_8, v_8, x_8, y_8, g_8, h1_8, h2_8, h3_8, h4_8⟩ := id (hs7)
  have h1_8 : h5 (a4) = some (false, .inr (13, [.ref v_8, .int (iI 0), .int x_8, .int y_8])) := h1_8
  refine z_callV (pc := 23) (n := 0) (kc' := 0) (ks' := 0) C (ct_S_length C.t hs7) (lw_V q1053 q468 q469 q83 q470) (by decide +kernel) ⟨by decide, by decide⟩ h1_8 rfl rfl rfl (Nat.le_of_ble_eq_true rfl) dX1_nameChar_23 (by omega) (by omega) (zpk (st' := [.int (iI (((nmt x.2.2.1 x.2.2.2.1 x.2.2.2.2).length : Nat) : Int)), .int (iI k)]) rfl ?_) zrx
  refine z_icmp_ge (pc := 26) (tgt := 37) C dX1_nameChar_26 (by decide) (by omega) (by omega) (fun c26 => by exfalso; omega) (fun c26 => ?_)
  refine z_aload_n (pc := 29) (j := 0) C dX1_nameChar_29 rfl rfl ?_
  refine z_iload_n (pc := 30) (j := 3) C dX1_nameChar_30 rfl rfl ?_
  refine z_callV (pc := 31) (n := 1) (kc' := 0) (ks' := 0) C (ct_S_charAt C.t hs7 (i := k) (c := d) hk hd) (lw_V q1635 q561 q562 q83 q563) (by decide +kernel) ⟨by decide, by decide⟩ h1_8 rfl rfl rfl (Nat.le_of_ble_eq_true rfl) dX1_nameChar_31 (by omega) (by omega) (zpk (st' := [.int (iI d)]) rfl ?_) zrx
  refine z_goto (pc := 34) (tgt := 38) C dX1_nameChar_34 (by decide) ?_
  exact z_ireturn (pc := 38) C (by rw [hXp]; exact ⟨_, rfl, rfl, kh5⟩) dX1_nameChar_38
set_option maxHeartbeats 4000000 in
theorem op_nameChar2 {l : Launch} (hl : l.stackTraces = false) {Γ : zCx} {h : zH} {c : Nat} {A : zWA} {σ : zSt} (hW : csW Γ h c A σ) {i : Int} {x : zCh} (hi : 0 ≤ i) (hx : σ.sh.cs[i.toNat]? = some x) {k : Int} (hkr : -2147483648 ≤ k ∧ k ≤ 2147483647) (hk : ((nmt x.2.2.1 x.2.2.2.1 x.2.2.2.2).length : Nat) ≤ k)  : zMet l yX1_nameChar (ws_ yX1_nameChar cX1_nameChar 4 (some .int)) ({ frames := 8, cells := 4, slots := 31, locals := 176 }) Γ h [.ref c, .int (iI i), .int (iI k)] (zrt (fun w h' => w = some (.int (iI (-1))) ∧ zkeep h h' [])) 4 31 := by
  refine zMet.of (cc := cX1_nameChar) hl (plainFor_of_name (by decide +kernel)) (Nat.le_of_ble_eq_true rfl) ?_
  intro X hXl hXΓ hXp C hnm hnL
  have C : zC X cX1_nameChar RX1 (some .int) 8 176 [] := C
  have hnL : X.2.1.2.2.2.2 = 4 := hnL
  subst hXl hXΓ
  show Z X h 4 31 [(0, .ref c), (1, .int (iI i)), (2, .int (iI k))] 0 []
  obtain ⟨⟨tf, hc0, htx, hch⟩, hdq, ⟨lq, kq, lys, ys, hsx, hfl, hls, hl0, hyc, hkx⟩, hhi, hnd, hR⟩ := id hW
  obtain ⟨rsi, rff, rwd, rtl, rtx, rsh, rhi, rhl⟩ := id hR
  obtain ⟨rcl, rcr, rll, rlt, rkt, rkm, rks⟩ := rsh
  have hll := hls.len
  have hyl := hyc.len
  obtain ⟨lm, le0, ln0, lf, hlq, hle, hln, hlN, hlx⟩ := id hfl
  have hxw := hl0
  obtain ⟨mw, fw, law, lew, lzw, ltw, lnw, lcw, lxw, lqw⟩ := hxw
  have hcl := hyc.cl lxw
  have hxr0 := rcr _ (List.mem_of_getElem? hx)
  have hnl := nmt_r (q := x.2.2.2.1) hxr0.2.2.1 hxr0.2.2.2.2
  refine z_aload_n (pc := 0) (j := 0) C dX1_nameChar_0 rfl rfl ?_
  refine z_iload_n (pc := 1) (j := 1) C dX1_nameChar_1 rfl rfl ?_
  refine z_callV (pc := 2) (n := 1) (kc' := 4) (ks' := 31) C (op_chord C.t hW (i := i) (by omega) hx) (lw_V q1727 q1729 qs16 q63 q1730) (by decide +kernel) ⟨by decide, by decide⟩ hc0 rfl rfl rfl (Nat.le_of_ble_eq_true rfl) dX1_nameChar_2 (by omega) (by omega) (zrk fun w h2 hp => ?_) zrx
  obtain ⟨q1, rfl, hs3, eh2⟩ := hp
  rw [eh2]
  have xrq1 := rcr _ (List.mem_of_getElem? hx)
  obtain ⟨xr1q1, xr2q1, xr3q1, xr4q1, xr5q1⟩ := id xrq1
  show Z X h 4 31 [(0, .ref c), (1, .int (iI i)), (2, .int (iI k))] 5 [.ref q1]
  refine z_callV (pc := 5) (n := 0) (kc' := 0) (ks' := 0) C (ct_C_name C.t hs3 (by omega) (by omega) (by omega)) (lw_V q1766 q1767 q1768 q89 q1769) (by decide +kernel) ⟨by decide, by decide⟩ hs3 rfl rfl rfl (Nat.le_of_ble_eq_true rfl) dX1_nameChar_5 (by omega) (by omega) (zrk fun w h5 hp => ?_) zrx
  obtain ⟨a4, rfl, hs7, fa4, k6⟩ := hp
  have kh5 : zkeep h h5 [] := zkeep.loc zkeep.rf k6 zall_nil
  have fh5_1 : h5 q1 = some (false, .inr (6, [.int (iI x.1), .int (iI x.2.1), .int (iI x.2.2.1), .int (iI x.2.2.2.1), .int (iI x.2.2.2.2)])) := k6.f hs3
  show Z X h5 0 0 [(0, .ref c), (1, .int (iI i)), (2, .int (iI k))] 8 [.ref a4]
  refine z_astore_n (pc := 8) (L' := [(3, .ref a4), (0, .ref c), (1, .int (iI i)), (2, .int (iI k))]) C dX1_nameChar_8 rfl (by rw [hnL]; decide) rfl ?_
  refine z_iload_n (pc := 9) (j := 3) C dX1_nameChar_9 rfl rfl ?_
  refine z_if_ge (pc := 10) (tgt := 21) C dX1_nameChar_10 (by decide) (by omega) (fun c10 => ?_) (fun c10 => by exfalso; omega)
  refine z_iload_n (pc := 21) (j := 3) C dX1_nameChar_21 rfl rfl ?_
  refine z_aload_n (pc := 22) (j := 0) C dX1_nameChar_22 rfl rfl ?_
  obtain ⟨hl_8, v_8, x_8, y_8, g_8, h1_8, h2_8, h3_8, h4_8⟩ := id (hs7)
  have h1_8 : h5 (a4) = some (false, .inr (13, [.ref v_8, .int (iI 0), .int x_8, .int y_8])) := h1_8
  refine z_callV (pc := 23) (n := 0) (kc' := 0) (ks' := 0) C (ct_S_length C.t hs7) (lw_V q1053 q468 q469 q83 q470) (by decide +kernel) ⟨by decide, by decide⟩ h1_8 rfl rfl rfl (Nat.le_of_ble_eq_true rfl) dX1_nameChar_23 (by omega) (by omega) (zpk (st' := [.int (iI (((nmt x.2.2.1 x.2.2.2.1 x.2.2.2.2).length : Nat) : Int)), .int (iI k)]) rfl ?_) zrx
  refine z_icmp_ge (pc := 26) (tgt := 37) C dX1_nameChar_26 (by decide) (by omega) (by omega) (fun c26 => ?_) (fun c26 => by exfalso; omega)
  refine z_iconst (pc := 37) C dX1_nameChar_37 ?_
  exact z_ireturn (pc := 38) C (by rw [hXp]; exact ⟨_, rfl, rfl, kh5⟩) dX1_nameChar_38
set_option maxHeartbeats 4000000 in
theorem op_nameChar_b1 {l : Launch} (hl : l.stackTraces = false) {Γ : zCx} {h : zH} {c : Nat} {A : zWA} {σ : zSt} (hW : csW Γ h c A σ) {i : Int} (hi : -2147483648 ≤ i ∧ i ≤ 2147483647) (hb : ¬ (0 ≤ i ∧ i < (σ.sh.cs.length : Nat))) {k : Int}  : zMet l yX1_nameChar (ws_ yX1_nameChar cX1_nameChar 4 (some .int)) ({ frames := 8, cells := 1, slots := 6, locals := 123 }) Γ h [.ref c, .int (iI i), .int (iI k)] (zthp h "java/lang/IndexOutOfBoundsException") 1 6 := by
  refine zMet.of (cc := cX1_nameChar) hl (plainFor_of_name (by decide +kernel)) (Nat.le_of_ble_eq_true rfl) ?_
  intro X hXl hXΓ hXp C hnm hnL
  have C : zC X cX1_nameChar RX1 (some .int) 8 123 [] := C
  have hnL : X.2.1.2.2.2.2 = 4 := hnL
  subst hXl hXΓ
  show Z X h 1 6 [(0, .ref c), (1, .int (iI i)), (2, .int (iI k))] 0 []
  obtain ⟨⟨tf, hc0, htx, hch⟩, hdq, ⟨lq, kq, lys, ys, hsx, hfl, hls, hl0, hyc, hkx⟩, hhi, hnd, hR⟩ := id hW
  obtain ⟨rsi, rff, rwd, rtl, rtx, rsh, rhi, rhl⟩ := id hR
  obtain ⟨rcl, rcr, rll, rlt, rkt, rkm, rks⟩ := rsh
  have hll := hls.len
  have hyl := hyc.len
  obtain ⟨lm, le0, ln0, lf, hlq, hle, hln, hlN, hlx⟩ := id hfl
  have hxw := hl0
  obtain ⟨mw, fw, law, lew, lzw, ltw, lnw, lcw, lxw, lqw⟩ := hxw
  have hcl := hyc.cl lxw
  refine z_aload_n (pc := 0) (j := 0) C dX1_nameChar_0 rfl rfl ?_
  refine z_iload_n (pc := 1) (j := 1) C dX1_nameChar_1 rfl rfl ?_
  refine z_callV (pc := 2) (n := 1) (kc' := 0) (ks' := 0) C (op_chord_b C.t hW (i := i) (by omega) (by omega)) (lw_V q1727 q1729 qs16 q63 q1730) (by decide +kernel) ⟨by decide, by decide⟩ hc0 rfl rfl rfl (Nat.le_of_ble_eq_true rfl) dX1_nameChar_2 (by omega) (by omega) zthk (zthx fun q2 h1 hp => ?_)
  rw [hp]
  exact zx_out C (fun x hx => nomatch hx) (by rw [hXp]; exact ⟨_, rfl, rfl⟩)
set_option maxHeartbeats 4000000 in
theorem op_nameChar_b2 {l : Launch} (hl : l.stackTraces = false) {Γ : zCx} {h : zH} {c : Nat} {A : zWA} {σ : zSt} (hW : csW Γ h c A σ) {i : Int} {x : zCh} (hi : 0 ≤ i) (hx : σ.sh.cs[i.toNat]? = some x) {k : Int} (hkr : -2147483648 ≤ k ∧ k ≤ 2147483647) (hk : k < 0)  : zMet l yX1_nameChar (ws_ yX1_nameChar cX1_nameChar 4 (some .int)) ({ frames := 8, cells := 5, slots := 37, locals := 176 }) Γ h [.ref c, .int (iI i), .int (iI k)] (zth "java/lang/IndexOutOfBoundsException" fun _ h' => zkeep h h' []) 5 37 := by
  refine zMet.of (cc := cX1_nameChar) hl (plainFor_of_name (by decide +kernel)) (Nat.le_of_ble_eq_true rfl) ?_
  intro X hXl hXΓ hXp C hnm hnL
  have C : zC X cX1_nameChar RX1 (some .int) 8 176 [] := C
  have hnL : X.2.1.2.2.2.2 = 4 := hnL
  subst hXl hXΓ
  show Z X h 5 37 [(0, .ref c), (1, .int (iI i)), (2, .int (iI k))] 0 []
  obtain ⟨⟨tf, hc0, htx, hch⟩, hdq, ⟨lq, kq, lys, ys, hsx, hfl, hls, hl0, hyc, hkx⟩, hhi, hnd, hR⟩ := id hW
  obtain ⟨rsi, rff, rwd, rtl, rtx, rsh, rhi, rhl⟩ := id hR
  obtain ⟨rcl, rcr, rll, rlt, rkt, rkm, rks⟩ := rsh
  have hll := hls.len
  have hyl := hyc.len
  obtain ⟨lm, le0, ln0, lf, hlq, hle, hln, hlN, hlx⟩ := id hfl
  have hxw := hl0
  obtain ⟨mw, fw, law, lew, lzw, ltw, lnw, lcw, lxw, lqw⟩ := hxw
  have hcl := hyc.cl lxw
  have hxr0 := rcr _ (List.mem_of_getElem? hx)
  have hnl := nmt_r (q := x.2.2.2.1) hxr0.2.2.1 hxr0.2.2.2.2
  refine z_aload_n (pc := 0) (j := 0) C dX1_nameChar_0 rfl rfl ?_
  refine z_iload_n (pc := 1) (j := 1) C dX1_nameChar_1 rfl rfl ?_
  refine z_callV (pc := 2) (n := 1) (kc' := 5) (ks' := 37) C (op_chord C.t hW (i := i) (by omega) hx) (lw_V q1727 q1729 qs16 q63 q1730) (by decide +kernel) ⟨by decide, by decide⟩ hc0 rfl rfl rfl (Nat.le_of_ble_eq_true rfl) dX1_nameChar_2 (by omega) (by omega) (zrk fun w h2 hp => ?_) zrx
  obtain ⟨q1, rfl, hs3, eh2⟩ := hp
  rw [eh2]
  have xrq1 := rcr _ (List.mem_of_getElem? hx)
  obtain ⟨xr1q1, xr2q1, xr3q1, xr4q1, xr5q1⟩ := id xrq1
  show Z X h 5 37 [(0, .ref c), (1, .int (iI i)), (2, .int (iI k))] 5 [.ref q1]
  refine z_callV (pc := 5) (n := 0) (kc' := 1) (ks' := 6) C (ct_C_name C.t hs3 (by omega) (by omega) (by omega)) (lw_V q1766 q1767 q1768 q89 q1769) (by decide +kernel) ⟨by decide, by decide⟩ hs3 rfl rfl rfl (Nat.le_of_ble_eq_true rfl) dX1_nameChar_5 (by omega) (by omega) (zrk fun w h5 hp => ?_) zrx
  obtain ⟨a4, rfl, hs7, fa4, k6⟩ := hp
  have kh5 : zkeep h h5 [] := zkeep.loc zkeep.rf k6 zall_nil
  have fh5_1 : h5 q1 = some (false, .inr (6, [.int (iI x.1), .int (iI x.2.1), .int (iI x.2.2.1), .int (iI x.2.2.2.1), .int (iI x.2.2.2.2)])) := k6.f hs3
  show Z X h5 1 6 [(0, .ref c), (1, .int (iI i)), (2, .int (iI k))] 8 [.ref a4]
  refine z_astore_n (pc := 8) (L' := [(3, .ref a4), (0, .ref c), (1, .int (iI i)), (2, .int (iI k))]) C dX1_nameChar_8 rfl (by rw [hnL]; decide) rfl ?_
  refine z_iload_n (pc := 9) (j := 3) C dX1_nameChar_9 rfl rfl ?_
  refine z_if_ge (pc := 10) (tgt := 21) C dX1_nameChar_10 (by decide) (by omega) (fun c10 => by exfalso; omega) (fun c10 => ?_)
  exact z_throw0 (pc := 13) (names := ["java/lang/RuntimeException", "java/lang/Exception"]) C q1698 q92 (by decide +kernel) (by decide +kernel) th_I (by decide +kernel) dX1_nameChar_13 dX1_nameChar_16 dX1_nameChar_17 dX1_nameChar_20 (fun x hx => nomatch hx) (by decide) (Nat.le_of_ble_eq_true rfl) (by omega) (by omega) (fun q => by rw [hXp]; exact ⟨_, rfl, kh5⟩)
set_option maxHeartbeats 4000000 in
theorem op_fingerprint {l : Launch} (hl : l.stackTraces = false) {Γ : zCx} {h : zH} {c : Nat} {A : zWA} {σ : zSt} (hW : csW Γ h c A σ)  : zMet l yX1_fingerprint (ws_ yX1_fingerprint cX1_fingerprint 6 (some .long)) ({ frames := 4, cells := 0, slots := 0, locals := 85 }) Γ h [.ref c] (zpure h (some (.long (lI (fpS_ σ.sh))))) 0 0 := by
  refine zMet.of (cc := cX1_fingerprint) hl (plainFor_of_name (by decide +kernel)) (Nat.le_of_ble_eq_true rfl) ?_
  intro X hXl hXΓ hXp C hnm hnL
  have C : zC X cX1_fingerprint RX1 (some .long) 4 85 [] := C
  have hnL : X.2.1.2.2.2.2 = 6 := hnL
  subst hXl hXΓ
  show Z X h 0 0 [(0, .ref c)] 0 []
  obtain ⟨⟨tf, hc0, htx, hch⟩, hdq, ⟨lq, kq, lys, ys, hsx, hfl, hls, hl0, hyc, hkx⟩, hhi, hnd, hR⟩ := id hW
  obtain ⟨rsi, rff, rwd, rtl, rtx, rsh, rhi, rhl⟩ := id hR
  obtain ⟨rcl, rcr, rll, rlt, rkt, rkm, rks⟩ := rsh
  have hll := hls.len
  have hyl := hyc.len
  obtain ⟨lm, le0, ln0, lf, hlq, hle, hln, hlN, hlx⟩ := id hfl
  have hxw := hl0
  obtain ⟨mw, fw, law, lew, lzw, ltw, lnw, lcw, lxw, lqw⟩ := hxw
  have hcl := hyc.cl lxw
  refine z_ldc2 (pc := 0) (v := lI 1457) C q1632 dX1_fingerprint_0 ?_
  refine z_aload_n (pc := 3) (j := 0) C dX1_fingerprint_3 rfl rfl ?_
  refine z_getfield (pc := 4) (v := .ref A.cu.s) C in_X1 rfl 5 (by decide) q282 (fun _ z => z) hc0 rfl dX1_fingerprint_4 ?_
  refine z_getfieldN (pc := 7) (v := .ref lq) C in_X2 rfl 0 (by decide) q167 (fun _ z => z) hsx rfl dX1_fingerprint_7 ?_
  refine z_callV (pc := 10) (n := 0) (kc' := 0) (ks' := 0) C (ct_L_size C.t hlq) (lw_V q995 q367 q368 q68 q369) (by decide +kernel) ⟨by decide, by decide⟩ hlq rfl rfl rfl (Nat.le_of_ble_eq_true rfl) dX1_fingerprint_10 (by omega) (by omega) (zpk (st' := [.int (iI ((lys.length : Nat) : Int)), .long (lI 1457)]) rfl ?_) zrx
  refine z_i2lI (pc := 13) C dX1_fingerprint_13 (by omega) ?_
  refine z_laddI (pc := 14) C dX1_fingerprint_14 ?_
  refine z_lstore_n (pc := 15) (L' := [(1, .long (lI (1457 + ((lys.length : Nat) : Int)))), (0, .ref c)]) C dX1_fingerprint_15 rfl (by rw [hnL]; decide) rfl ?_
  refine z_iconst (pc := 16) C dX1_fingerprint_16 ?_
  refine z_istore_n (pc := 17) (L' := [(3, .int (iI 0)), (1, .long (lI (1457 + ((lys.length : Nat) : Int)))), (0, .ref c)]) C dX1_fingerprint_17 rfl (by rw [hnL]; decide) rfl ?_
  have loop18 : ∀ (n18 : Nat) (i : Int) (a : Int), (0 ≤ i ∧ i ≤ (σ.sh.ls.length : Nat)) → (fpL (σ.sh.ls.drop i.toNat) a = fpL σ.sh.ls (1457 + (σ.sh.ls.length : Nat))) → (((σ.sh.ls.length : Nat) - i).toNat) = n18 → Z X h 0 0 [(3, .int (iI i)), (1, .long (lI a)), (0, .ref c)] 18 [] := by
    intro n18
    induction n18 using Nat.strongRecOn with
    | ind n18 ih18 =>
    intro i a hi hd hn18
    refine z_iload_n (pc := 18) (j := 0) C dX1_fingerprint_18 rfl rfl ?_
    refine z_aload_n (pc := 19) (j := 2) C dX1_fingerprint_19 rfl rfl ?_
    refine z_getfield (pc := 20) (v := .ref A.cu.s) C in_X1 rfl 5 (by decide) q282 (fun _ z => z) hc0 rfl dX1_fingerprint_20 ?_
    refine z_getfieldN (pc := 23) (v := .ref lq) C in_X2 rfl 0 (by decide) q167 (fun _ z => z) hsx rfl dX1_fingerprint_23 ?_
    refine z_callV (pc := 26) (n := 0) (kc' := 0) (ks' := 0) C (ct_L_size C.t hlq) (lw_V q995 q367 q368 q68 q369) (by decide +kernel) ⟨by decide, by decide⟩ hlq rfl rfl rfl (Nat.le_of_ble_eq_true rfl) dX1_fingerprint_26 (by omega) (by omega) (zpk (st' := [.int (iI ((lys.length : Nat) : Int)), .int (iI i)]) rfl ?_) zrx
    refine z_icmp_ge (pc := 29) (tgt := 101) C dX1_fingerprint_29 (by decide) (by omega) (by omega) (fun c29 => ?_) (fun c29 => ?_)
    · refine z_iconst (pc := 101) C dX1_fingerprint_101 ?_
      refine z_istore_n (pc := 102) (L' := [(3, .int (iI 0)), (1, .long (lI a)), (0, .ref c)]) C dX1_fingerprint_102 rfl (by rw [hnL]; decide) rfl ?_
      rw [List.drop_of_length_le (by omega), fpL] at hd
      have loop103 : ∀ (n103 : Nat) (i : Int) (b : Int), (0 ≤ i ∧ i ≤ (σ.sh.cs.length : Nat)) → (fpC (σ.sh.cs.drop i.toNat) b = fpC σ.sh.cs (fpL σ.sh.ls (1457 + (σ.sh.ls.length : Nat)))) → (((σ.sh.cs.length : Nat) - i).toNat) = n103 → Z X h 0 0 [(3, .int (iI i)), (1, .long (lI b)), (0, .ref c)] 103 [] := by
        intro n103
        induction n103 using Nat.strongRecOn with
        | ind n103 ih103 =>
        intro i b hi2 hd2 hn103
        refine z_iload_n (pc := 103) (j := 0) C dX1_fingerprint_103 rfl rfl ?_
        refine z_aload_n (pc := 104) (j := 2) C dX1_fingerprint_104 rfl rfl ?_
        refine z_getfield (pc := 105) (v := .ref A.cu.s) C in_X1 rfl 5 (by decide) q282 (fun _ z => z) hc0 rfl dX1_fingerprint_105 ?_
        refine z_getfieldN (pc := 108) (v := .ref A.cu.cq) C in_X2 rfl 1 (by decide) q172 (fun _ z => z) hsx rfl dX1_fingerprint_108 ?_
        refine z_callV (pc := 111) (n := 0) (kc' := 0) (ks' := 0) C (ct_L_size C.t law) (lw_V q995 q367 q368 q68 q369) (by decide +kernel) ⟨by decide, by decide⟩ law rfl rfl rfl (Nat.le_of_ble_eq_true rfl) dX1_fingerprint_111 (by omega) (by omega) (zpk (st' := [.int (iI ((ys.length : Nat) : Int)), .int (iI i)]) rfl ?_) zrx
        refine z_icmp_ge (pc := 114) (tgt := 198) C dX1_fingerprint_114 (by decide) (by omega) (by omega) (fun c114 => ?_) (fun c114 => ?_)
        · refine z_ldc2 (pc := 198) (v := lI 31) C q1634 dX1_fingerprint_198 ?_
          refine z_lload_n (pc := 201) (j := 1) C dX1_fingerprint_201 rfl rfl ?_
          refine z_lmulI (pc := 202) C dX1_fingerprint_202 ?_
          refine z_aload_n (pc := 203) (j := 2) C dX1_fingerprint_203 rfl rfl ?_
          refine z_getfield (pc := 204) (v := .ref A.cu.s) C in_X1 rfl 5 (by decide) q282 (fun _ z => z) hc0 rfl dX1_fingerprint_204 ?_
          refine z_getfieldN (pc := 207) (v := .ref kq) C in_X2 rfl 2 (by decide) q175 (fun _ z => z) hsx rfl dX1_fingerprint_207 ?_
          refine z_getfieldN (pc := 210) (v := .int (iI σ.sh.t)) C in_X3 rfl 0 (by decide) q125 (fun _ z => z) hkx rfl dX1_fingerprint_210 ?_
          refine z_i2lI (pc := 213) C dX1_fingerprint_213 (by omega) ?_
          refine z_laddI (pc := 214) C dX1_fingerprint_214 ?_
          refine z_lstore_n (pc := 215) (L' := [(1, .long (lI ((31 * b) + σ.sh.t))), (3, .int (iI i)), (0, .ref c)]) C dX1_fingerprint_215 rfl (by rw [hnL]; decide) rfl ?_
          refine z_ldc2 (pc := 216) (v := lI 31) C q1634 dX1_fingerprint_216 ?_
          refine z_lload_n (pc := 219) (j := 0) C dX1_fingerprint_219 rfl rfl ?_
          refine z_lmulI (pc := 220) C dX1_fingerprint_220 ?_
          refine z_aload_n (pc := 221) (j := 2) C dX1_fingerprint_221 rfl rfl ?_
          refine z_getfield (pc := 222) (v := .ref A.cu.s) C in_X1 rfl 5 (by decide) q282 (fun _ z => z) hc0 rfl dX1_fingerprint_222 ?_
          refine z_getfieldN (pc := 225) (v := .ref kq) C in_X2 rfl 2 (by decide) q175 (fun _ z => z) hsx rfl dX1_fingerprint_225 ?_
          refine z_getfieldN (pc := 228) (v := .int (iI σ.sh.m)) C in_X3 rfl 1 (by decide) q128 (fun _ z => z) hkx rfl dX1_fingerprint_228 ?_
          refine z_if_eq (pc := 231) (tgt := 238) C dX1_fingerprint_231 (by decide) (by omega) (fun c231 => ?_) (fun c231 => ?_)
          · refine z_iconst (pc := 238) C dX1_fingerprint_238 ?_
            refine z_i2lI (pc := 239) C dX1_fingerprint_239 (by decide) ?_
            refine z_laddI (pc := 240) C dX1_fingerprint_240 ?_
            exact z_lreturn (pc := 241) C (by rw [hXp]; exact ⟨_, rfl, (show some (Value.long (lI ((31 * ((31 * b) + σ.sh.t)) + 0))) = _ by rw [List.drop_of_length_le (by omega), fpC] at hd2; unfold fpS_; rw [← hd2]; congr 2; congr 1; omega), rfl⟩) dX1_fingerprint_241
          · refine z_iconst (pc := 234) C dX1_fingerprint_234 ?_
            refine z_goto (pc := 235) (tgt := 239) C dX1_fingerprint_235 (by decide) ?_
            refine z_i2lI (pc := 239) C dX1_fingerprint_239 (by decide) ?_
            refine z_laddI (pc := 240) C dX1_fingerprint_240 ?_
            exact z_lreturn (pc := 241) C (by rw [hXp]; exact ⟨_, rfl, (show some (Value.long (lI ((31 * ((31 * b) + σ.sh.t)) + 1))) = _ by rw [List.drop_of_length_le (by omega), fpC] at hd2; unfold fpS_; rw [← hd2]; congr 2; congr 1; omega), rfl⟩) dX1_fingerprint_241
        · refine z_aload_n (pc := 117) (j := 2) C dX1_fingerprint_117 rfl rfl ?_
          refine z_getfield (pc := 118) (v := .ref A.cu.s) C in_X1 rfl 5 (by decide) q282 (fun _ z => z) hc0 rfl dX1_fingerprint_118 ?_
          refine z_getfieldN (pc := 121) (v := .ref A.cu.cq) C in_X2 rfl 1 (by decide) q172 (fun _ z => z) hsx rfl dX1_fingerprint_121 ?_
          refine z_iload_n (pc := 124) (j := 0) C dX1_fingerprint_124 rfl rfl ?_
          obtain ⟨c_1, hc_1⟩ : ∃ x, σ.sh.cs[(i).toNat]? = some x := ⟨_, List.getElem?_eq_getElem (by omega)⟩
          obtain ⟨q_1, hq_1, ha_1⟩ := hcl _ _ hc_1
          obtain ⟨hr1_1, hr2_1, hr3_1, hr4_1, hr5_1⟩ := rcr _ (List.mem_of_getElem? hc_1)
          refine z_callV (pc := 125) (n := 1) (kc' := 0) (ks' := 0) C (ct_L_get C.t law lew (i := i) (by omega) (by omega) hq_1) (lw_V q1038 q904 q905 q68 q906) (by decide +kernel) ⟨by decide, by decide⟩ law rfl rfl rfl (Nat.le_of_ble_eq_true rfl) dX1_fingerprint_125 (by omega) (by omega) (zpk (st' := [.ref q_1]) rfl ?_) zrx
          refine z_castS (pc := 128) C q1039 rfl ha_1 dX1_fingerprint_128 ?_
          refine z_astore (pc := 131) (L' := [(4, .ref q_1), (3, .int (iI i)), (1, .long (lI b)), (0, .ref c)]) C dX1_fingerprint_131 (by rw [hnL]; decide) rfl ?_
          refine z_ldc2 (pc := 133) (v := lI 31) C q1634 dX1_fingerprint_133 ?_
          refine z_ldc2 (pc := 136) (v := lI 31) C q1634 dX1_fingerprint_136 ?_
          refine z_lload_n (pc := 139) (j := 2) C dX1_fingerprint_139 rfl rfl ?_
          refine z_lmulI (pc := 140) C dX1_fingerprint_140 ?_
          refine z_aload (pc := 141) (j := 0) C dX1_fingerprint_141 rfl ?_
          refine z_getfieldN (pc := 143) (v := .int (iI c_1.1)) C in_X7 rfl 0 (by decide) q593 (fun _ z => z) ha_1 rfl dX1_fingerprint_143 ?_
          refine z_i2lI (pc := 146) C dX1_fingerprint_146 (by omega) ?_
          refine z_laddI (pc := 147) C dX1_fingerprint_147 ?_
          refine z_lmulI (pc := 148) C dX1_fingerprint_148 ?_
          refine z_aload (pc := 149) (j := 0) C dX1_fingerprint_149 rfl ?_
          refine z_getfieldN (pc := 151) (v := .int (iI c_1.2.1)) C in_X7 rfl 1 (by decide) q597 (fun _ z => z) ha_1 rfl dX1_fingerprint_151 ?_
          refine z_i2lI (pc := 154) C dX1_fingerprint_154 (by omega) ?_
          refine z_laddI (pc := 155) C dX1_fingerprint_155 ?_
          refine z_lstore_n (pc := 156) (L' := [(1, .long (lI ((31 * ((31 * b) + c_1.1)) + c_1.2.1))), (4, .ref q_1), (3, .int (iI i)), (0, .ref c)]) C dX1_fingerprint_156 rfl (by rw [hnL]; decide) rfl ?_
          refine z_ldc2 (pc := 157) (v := lI 31) C q1634 dX1_fingerprint_157 ?_
          refine z_ldc2 (pc := 160) (v := lI 31) C q1634 dX1_fingerprint_160 ?_
          refine z_ldc2 (pc := 163) (v := lI 31) C q1634 dX1_fingerprint_163 ?_
          refine z_lload_n (pc := 166) (j := 0) C dX1_fingerprint_166 rfl rfl ?_
          refine z_lmulI (pc := 167) C dX1_fingerprint_167 ?_
          refine z_aload (pc := 168) (j := 1) C dX1_fingerprint_168 rfl ?_
          refine z_getfieldN (pc := 170) (v := .int (iI c_1.2.2.1)) C in_X7 rfl 2 (by decide) q600 (fun _ z => z) ha_1 rfl dX1_fingerprint_170 ?_
          refine z_i2lI (pc := 173) C dX1_fingerprint_173 (by omega) ?_
          refine z_laddI (pc := 174) C dX1_fingerprint_174 ?_
          refine z_lmulI (pc := 175) C dX1_fingerprint_175 ?_
          refine z_aload (pc := 176) (j := 1) C dX1_fingerprint_176 rfl ?_
          refine z_getfieldN (pc := 178) (v := .int (iI c_1.2.2.2.1)) C in_X7 rfl 3 (by decide) q602 (fun _ z => z) ha_1 rfl dX1_fingerprint_178 ?_
          refine z_i2lI (pc := 181) C dX1_fingerprint_181 (by omega) ?_
          refine z_laddI (pc := 182) C dX1_fingerprint_182 ?_
          refine z_lmulI (pc := 183) C dX1_fingerprint_183 ?_
          refine z_aload (pc := 184) (j := 1) C dX1_fingerprint_184 rfl ?_
          refine z_getfieldN (pc := 186) (v := .int (iI c_1.2.2.2.2)) C in_X7 rfl 4 (by decide) q604 (fun _ z => z) ha_1 rfl dX1_fingerprint_186 ?_
          refine z_i2lI (pc := 189) C dX1_fingerprint_189 (by omega) ?_
          refine z_laddI (pc := 190) C dX1_fingerprint_190 ?_
          refine z_lstore_n (pc := 191) (L' := [(1, .long (lI ((31 * ((31 * ((31 * ((31 * ((31 * b) + c_1.1)) + c_1.2.1)) + c_1.2.2.1)) + c_1.2.2.2.1)) + c_1.2.2.2.2))), (4, .ref q_1), (3, .int (iI i)), (0, .ref c)]) C dX1_fingerprint_191 rfl (by rw [hnL]; decide) rfl ?_
          refine z_iinc (pc := 192) (k := 2) (L' := [(3, .int (iI (i + 1))), (1, .long (lI ((31 * ((31 * ((31 * ((31 * ((31 * b) + c_1.1)) + c_1.2.1)) + c_1.2.2.1)) + c_1.2.2.2.1)) + c_1.2.2.2.2))), (4, .ref q_1), (0, .ref c)]) C dX1_fingerprint_192 rfl (by rw [hnL]; decide) rfl ?_
          refine z_goto (pc := 195) (tgt := 103) C dX1_fingerprint_195 (by decide) ?_
          refine Z.weak (L' := [(3, .int (iI (i + 1))), (1, .long (lI ((31 * ((31 * ((31 * ((31 * ((31 * b) + c_1.1)) + c_1.2.1)) + c_1.2.2.1)) + c_1.2.2.2.1)) + c_1.2.2.2.2))), (0, .ref c)]) (kc' := 0) (ks' := 0) [0, 1, 3] rfl (by omega) (by omega) ?_
          exact ih103 _ (by omega) (i + 1) ((31 * ((31 * ((31 * ((31 * ((31 * b) + c_1.1)) + c_1.2.1)) + c_1.2.2.1)) + c_1.2.2.2.1)) + c_1.2.2.2.2) (by omega) (by rw [drop_step hc_1 (by omega), fpC] at hd2; exact hd2) rfl
      refine Z.weak (L' := [(3, .int (iI 0)), (1, .long (lI a)), (0, .ref c)]) (kc' := 0) (ks' := 0) [0, 1, 2] rfl (by omega) (by omega) ?_
      exact loop103 _ 0 a (by omega) (by rw [hd]; rfl) rfl
    · refine z_aload_n (pc := 32) (j := 2) C dX1_fingerprint_32 rfl rfl ?_
      refine z_getfield (pc := 33) (v := .ref A.cu.s) C in_X1 rfl 5 (by decide) q282 (fun _ z => z) hc0 rfl dX1_fingerprint_33 ?_
      refine z_getfieldN (pc := 36) (v := .ref lq) C in_X2 rfl 0 (by decide) q167 (fun _ z => z) hsx rfl dX1_fingerprint_36 ?_
      refine z_iload_n (pc := 39) (j := 0) C dX1_fingerprint_39 rfl rfl ?_
      obtain ⟨t_2, ht_2⟩ : ∃ x, σ.sh.ls[(i).toNat]? = some x := ⟨_, List.getElem?_eq_getElem (by omega)⟩
      obtain ⟨q_2, hq_2, ha_2⟩ := (hls).at ht_2
      have htl_2 := rlt _ (List.mem_of_getElem? ht_2)
      have has_2 : ∀ c ∈ t_2, 0 ≤ c ∧ c < 128 := by obtain ⟨-, v, x, y, f, -, -, -, z⟩ := id ha_2; exact z
      obtain ⟨hl_3, v_3, x_3, y_3, g_3, h1_3, h2_3, h3_3, h4_3⟩ := id (ha_2)
      have h1_3 : h (q_2) = some (false, .inr (13, [.ref v_3, .int (iI 0), .int x_3, .int y_3])) := h1_3
      refine z_callV (pc := 40) (n := 1) (kc' := 0) (ks' := 0) C (ct_L_get C.t hlq hle (i := i) (by omega) (by omega) (hlx _ _ hq_2)) (lw_V q1038 q904 q905 q68 q906) (by decide +kernel) ⟨by decide, by decide⟩ hlq rfl rfl rfl (Nat.le_of_ble_eq_true rfl) dX1_fingerprint_40 (by omega) (by omega) (zpk (st' := [.ref q_2]) rfl ?_) zrx
      refine z_castS (pc := 43) C q1633 rfl h1_3 dX1_fingerprint_43 ?_
      refine z_astore (pc := 46) (L' := [(4, .ref q_2), (3, .int (iI i)), (1, .long (lI a)), (0, .ref c)]) C dX1_fingerprint_46 (by rw [hnL]; decide) rfl ?_
      refine z_ldc2 (pc := 48) (v := lI 31) C q1634 dX1_fingerprint_48 ?_
      refine z_lload_n (pc := 51) (j := 2) C dX1_fingerprint_51 rfl rfl ?_
      refine z_lmulI (pc := 52) C dX1_fingerprint_52 ?_
      refine z_aload (pc := 53) (j := 0) C dX1_fingerprint_53 rfl ?_
      refine z_callV (pc := 55) (n := 0) (kc' := 0) (ks' := 0) C (ct_S_length C.t ha_2) (lw_V q1053 q468 q469 q83 q470) (by decide +kernel) ⟨by decide, by decide⟩ h1_3 rfl rfl rfl (Nat.le_of_ble_eq_true rfl) dX1_fingerprint_55 (by omega) (by omega) (zpk (st' := [.int (iI ((t_2.length : Nat) : Int)), .long (lI (31 * a))]) rfl ?_) zrx
      refine z_i2lI (pc := 58) C dX1_fingerprint_58 (by omega) ?_
      refine z_laddI (pc := 59) C dX1_fingerprint_59 ?_
      refine z_lstore_n (pc := 60) (L' := [(1, .long (lI ((31 * a) + ((t_2.length : Nat) : Int)))), (4, .ref q_2), (3, .int (iI i)), (0, .ref c)]) C dX1_fingerprint_60 rfl (by rw [hnL]; decide) rfl ?_
      refine z_iconst (pc := 61) C dX1_fingerprint_61 ?_
      refine z_istore (pc := 62) (L' := [(5, .int (iI 0)), (1, .long (lI ((31 * a) + ((t_2.length : Nat) : Int)))), (4, .ref q_2), (3, .int (iI i)), (0, .ref c)]) C dX1_fingerprint_62 (by rw [hnL]; decide) rfl ?_
      have loop64 : ∀ (n64 : Nat) (j : Int) (a5 : Int), (0 ≤ j ∧ j ≤ (t_2.length : Nat)) → (fpT (t_2.drop j.toNat) a5 = fpT t_2 (31 * a + (t_2.length : Nat))) → (((t_2.length : Nat) - j).toNat) = n64 → Z X h 0 0 [(5, .int (iI j)), (4, .ref q_2), (3, .int (iI i)), (1, .long (lI a5)), (0, .ref c)] 64 [] := by
        intro n64
        induction n64 using Nat.strongRecOn with
        | ind n64 ih64 =>
        intro j a5 hj hd5 hn64
        refine z_iload (pc := 64) (j := 0) C dX1_fingerprint_64 rfl ?_
        refine z_aload (pc := 66) (j := 1) C dX1_fingerprint_66 rfl ?_
        refine z_callV (pc := 68) (n := 0) (kc' := 0) (ks' := 0) C (ct_S_length C.t ha_2) (lw_V q1053 q468 q469 q83 q470) (by decide +kernel) ⟨by decide, by decide⟩ h1_3 rfl rfl rfl (Nat.le_of_ble_eq_true rfl) dX1_fingerprint_68 (by omega) (by omega) (zpk (st' := [.int (iI ((t_2.length : Nat) : Int)), .int (iI j)]) rfl ?_) zrx
        refine z_icmp_ge (pc := 71) (tgt := 95) C dX1_fingerprint_71 (by decide) (by omega) (by omega) (fun c71 => ?_) (fun c71 => ?_)
        · refine z_iinc (pc := 95) (k := 2) (L' := [(3, .int (iI (i + 1))), (5, .int (iI j)), (4, .ref q_2), (1, .long (lI a5)), (0, .ref c)]) C dX1_fingerprint_95 rfl (by rw [hnL]; decide) rfl ?_
          refine z_goto (pc := 98) (tgt := 18) C dX1_fingerprint_98 (by decide) ?_
          refine Z.weak (L' := [(3, .int (iI (i + 1))), (1, .long (lI a5)), (0, .ref c)]) (kc' := 0) (ks' := 0) [0, 3, 4] rfl (by omega) (by omega) ?_
          exact ih18 _ (by omega) (i + 1) a5 (by omega) (by rw [drop_step ht_2 (by omega), fpL] at hd; rw [List.drop_of_length_le (by omega), fpT] at hd5; rw [hd5]; exact hd) rfl
        · refine z_ldc2 (pc := 74) (v := lI 31) C q1634 dX1_fingerprint_74 ?_
          refine z_lload_n (pc := 77) (j := 3) C dX1_fingerprint_77 rfl rfl ?_
          refine z_lmulI (pc := 78) C dX1_fingerprint_78 ?_
          refine z_aload (pc := 79) (j := 1) C dX1_fingerprint_79 rfl ?_
          refine z_iload (pc := 81) (j := 0) C dX1_fingerprint_81 rfl ?_
          obtain ⟨d83, hd83⟩ : ∃ x, t_2[(j).toNat]? = some x := ⟨_, List.getElem?_eq_getElem (by omega)⟩
          have hda := has_2 _ (List.mem_of_getElem? hd83)
          refine z_callV (pc := 83) (n := 1) (kc' := 0) (ks' := 0) C (ct_S_charAt C.t ha_2 (i := j) (c := d83) (by omega) hd83) (lw_V q1635 q561 q562 q83 q563) (by decide +kernel) ⟨by decide, by decide⟩ h1_3 rfl rfl rfl (Nat.le_of_ble_eq_true rfl) dX1_fingerprint_83 (by omega) (by omega) (zpk (st' := [.int (iI d83), .long (lI (31 * a5))]) rfl ?_) zrx
          refine z_i2lI (pc := 86) C dX1_fingerprint_86 (by omega) ?_
          refine z_laddI (pc := 87) C dX1_fingerprint_87 ?_
          refine z_lstore_n (pc := 88) (L' := [(1, .long (lI ((31 * a5) + d83))), (5, .int (iI j)), (4, .ref q_2), (3, .int (iI i)), (0, .ref c)]) C dX1_fingerprint_88 rfl (by rw [hnL]; decide) rfl ?_
          refine z_iinc (pc := 89) (k := 1) (L' := [(5, .int (iI (j + 1))), (1, .long (lI ((31 * a5) + d83))), (4, .ref q_2), (3, .int (iI i)), (0, .ref c)]) C dX1_fingerprint_89 rfl (by rw [hnL]; decide) rfl ?_
          refine z_goto (pc := 92) (tgt := 64) C dX1_fingerprint_92 (by decide) ?_
          refine Z.weak (L' := [(5, .int (iI (j + 1))), (4, .ref q_2), (3, .int (iI i)), (1, .long (lI ((31 * a5) + d83))), (0, .ref c)]) (kc' := 0) (ks' := 0) [0, 2, 3, 1, 4] rfl (by omega) (by omega) ?_
          exact ih64 _ (by omega) (j + 1) ((31 * a5) + d83) (by omega) (by rw [drop_step hd83 (by omega), fpT] at hd5; exact hd5) rfl
      refine Z.weak (L' := [(5, .int (iI 0)), (4, .ref q_2), (3, .int (iI i)), (1, .long (lI ((31 * a) + ((t_2.length : Nat) : Int)))), (0, .ref c)]) (kc' := 0) (ks' := 0) [0, 2, 3, 1, 4] rfl (by omega) (by omega) ?_
      exact loop64 _ 0 ((31 * a) + ((t_2.length : Nat) : Int)) (by omega) rfl rfl
  refine Z.weak (L' := [(3, .int (iI 0)), (1, .long (lI (1457 + ((lys.length : Nat) : Int)))), (0, .ref c)]) (kc' := 0) (ks' := 0) [0, 1, 2] rfl (by omega) (by omega) ?_
  exact loop18 _ 0 (1457 + ((lys.length : Nat) : Int)) (by omega) (by rw [hll]; rfl) rfl

/-! 27.respell.lean.txt -/
set_option maxRecDepth 100000
abbrev cX1_spelled : ByteArray := prog_1_method_48_code
def yX1_spelled : MethodName := ⟨RX1, "spelled", "(II)I"⟩
def dkwX1_spelled_1 : List UInt8 := [182, 1, 30, 172]
abbrev dktX1_spelled_1 : List UInt8 := dkwX1_spelled_1 ++ []
def dkwX1_spelled_0 : List UInt8 := [42, 180, 0, 31, 180, 0, 241, 27, 184, 0, 245, 28, 96, 16, 12, 184, 0, 69, 42, 180, 0, 13]
abbrev dktX1_spelled_0 : List UInt8 := dkwX1_spelled_0 ++ dktX1_spelled_1
theorem dksX1_spelled_0 : cX1_spelled.data.toList.drop 0 = dktX1_spelled_0 := by decide +kernel
theorem dksX1_spelled_1 : cX1_spelled.data.toList.drop 22 = dktX1_spelled_1 := dk_seg dksX1_spelled_0 22 rfl rfl
abbrev cX1_respell_2 : ByteArray := prog_1_method_47_code
def yX1_respell_2 : MethodName := ⟨RX1, "respell", "(I)I"⟩
def dkwX1_respell_2_5 : List UInt8 := [25, 4, 21, 5, 21, 6, 182, 1, 27, 182, 0, 219, 87, 132, 3, 1, 167, 255, 129, 28, 172]
abbrev dktX1_respell_2_5 : List UInt8 := dkwX1_respell_2_5 ++ []
def dkwX1_respell_2_4 : List UInt8 := [25, 4, 180, 0, 205, 160, 0, 7, 3, 167, 0, 4, 4, 96, 96, 61, 42, 180, 0, 31, 180, 0, 165, 29]
abbrev dktX1_respell_2_4 : List UInt8 := dkwX1_respell_2_4 ++ dktX1_respell_2_5
def dkwX1_respell_2_3 : List UInt8 := [182, 1, 24, 54, 6, 28, 21, 5, 25, 4, 180, 0, 199, 160, 0, 7, 3, 167, 0, 4, 4, 21, 6]
abbrev dktX1_respell_2_3 : List UInt8 := dkwX1_respell_2_3 ++ dktX1_respell_2_4
def dkwX1_respell_2_2 : List UInt8 := [25, 4, 180, 0, 205, 16, 100, 160, 0, 8, 16, 100, 167, 0, 13, 42, 25, 4, 180, 0, 205, 27]
abbrev dktX1_respell_2_2 : List UInt8 := dkwX1_respell_2_2 ++ dktX1_respell_2_3
def dkwX1_respell_2_1 : List UInt8 := [180, 0, 165, 29, 182, 0, 180, 192, 0, 188, 58, 4, 42, 25, 4, 180, 0, 199, 27, 182, 1, 24, 54, 5]
abbrev dktX1_respell_2_1 : List UInt8 := dkwX1_respell_2_1 ++ dktX1_respell_2_2
def dkwX1_respell_2_0 : List UInt8 := [3, 61, 3, 62, 29, 42, 180, 0, 31, 180, 0, 165, 182, 0, 168, 162, 0, 119, 42, 180, 0, 31]
abbrev dktX1_respell_2_0 : List UInt8 := dkwX1_respell_2_0 ++ dktX1_respell_2_1
theorem dksX1_respell_2_0 : cX1_respell_2.data.toList.drop 0 = dktX1_respell_2_0 := by decide +kernel
theorem dksX1_respell_2_1 : cX1_respell_2.data.toList.drop 22 = dktX1_respell_2_1 := dk_seg dksX1_respell_2_0 22 rfl rfl
theorem dksX1_respell_2_2 : cX1_respell_2.data.toList.drop 46 = dktX1_respell_2_2 := dk_seg dksX1_respell_2_1 24 rfl rfl
theorem dksX1_respell_2_3 : cX1_respell_2.data.toList.drop 68 = dktX1_respell_2_3 := dk_seg dksX1_respell_2_2 22 rfl rfl
theorem dksX1_respell_2_4 : cX1_respell_2.data.toList.drop 91 = dktX1_respell_2_4 := dk_seg dksX1_respell_2_3 23 rfl rfl
theorem dksX1_respell_2_5 : cX1_respell_2.data.toList.drop 115 = dktX1_respell_2_5 := dk_seg dksX1_respell_2_4 24 rfl rfl
abbrev cX1_respell : ByteArray := prog_1_method_50_code
def yX1_respell : MethodName := ⟨RX1, "respell", "()I"⟩
def dkwX1_respell_0 : List UInt8 := [42, 182, 0, 162, 42, 3, 182, 1, 40, 172]
abbrev dktX1_respell_0 : List UInt8 := dkwX1_respell_0 ++ []
theorem dksX1_respell_0 : cX1_respell.data.toList.drop 0 = dktX1_respell_0 := by decide +kernel
abbrev cX1_transpose : ByteArray := prog_1_method_49_code
def yX1_transpose : MethodName := ⟨RX1, "transpose", "(I)I"⟩
def dkwX1_transpose_2 : List UInt8 := [180, 0, 31, 180, 0, 241, 182, 1, 1, 172]
abbrev dktX1_transpose_2 : List UInt8 := dkwX1_transpose_2 ++ []
def dkwX1_transpose_1 : List UInt8 := [180, 0, 31, 180, 0, 241, 27, 42, 180, 0, 169, 182, 1, 37, 181, 0, 241, 42, 27, 182, 1, 40, 61, 42]
abbrev dktX1_transpose_1 : List UInt8 := dkwX1_transpose_1 ++ dktX1_transpose_2
def dkwX1_transpose_0 : List UInt8 := [27, 133, 20, 1, 33, 20, 1, 35, 184, 0, 56, 184, 0, 140, 42, 182, 0, 162, 42, 180, 0, 31, 42]
abbrev dktX1_transpose_0 : List UInt8 := dkwX1_transpose_0 ++ dktX1_transpose_1
theorem dksX1_transpose_0 : cX1_transpose.data.toList.drop 0 = dktX1_transpose_0 := by decide +kernel
theorem dksX1_transpose_1 : cX1_transpose.data.toList.drop 23 = dktX1_transpose_1 := dk_seg dksX1_transpose_0 23 rfl rfl
theorem dksX1_transpose_2 : cX1_transpose.data.toList.drop 47 = dktX1_transpose_2 := dk_seg dksX1_transpose_1 24 rfl rfl
theorem dX1_spelled_0 : decode cX1_spelled 0 = .ok (.aload_n 0, 1) := dk_42 (dk_at dksX1_spelled_0 0 rfl rfl)
theorem dX1_spelled_1 : decode cX1_spelled 1 = .ok (.getfield 31, 3) := dk_180 0 31 (dk_at dksX1_spelled_0 1 rfl rfl)
theorem dX1_spelled_4 : decode cX1_spelled 4 = .ok (.getfield 241, 3) := dk_180 0 241 (dk_at dksX1_spelled_0 4 rfl rfl)
theorem dX1_spelled_7 : decode cX1_spelled 7 = .ok (.iload_n 1, 1) := dk_27 (dk_at dksX1_spelled_0 7 rfl rfl)
theorem dX1_spelled_8 : decode cX1_spelled 8 = .ok (.invokestatic 245, 3) := dk_184 0 245 (dk_at dksX1_spelled_0 8 rfl rfl)
theorem dX1_spelled_11 : decode cX1_spelled 11 = .ok (.iload_n 2, 1) := dk_28 (dk_at dksX1_spelled_0 11 rfl rfl)
theorem dX1_spelled_12 : decode cX1_spelled 12 = .ok (.iadd, 1) := dk_96 (dk_at dksX1_spelled_0 12 rfl rfl)
theorem dX1_spelled_13 : decode cX1_spelled 13 = .ok (.bipush 12, 2) := dk_16 12 (dk_at dksX1_spelled_0 13 rfl rfl)
theorem dX1_spelled_15 : decode cX1_spelled 15 = .ok (.invokestatic 69, 3) := dk_184 0 69 (dk_at dksX1_spelled_0 15 rfl rfl)
theorem dX1_spelled_18 : decode cX1_spelled 18 = .ok (.aload_n 0, 1) := dk_42 (dk_at dksX1_spelled_0 18 rfl rfl)
theorem dX1_spelled_19 : decode cX1_spelled 19 = .ok (.getfield 13, 3) := dk_180 0 13 (dk_at dksX1_spelled_0 19 rfl rfl)
theorem dX1_spelled_22 : decode cX1_spelled 22 = .ok (.invokevirtual 286, 3) := dk_182 1 30 (dk_at dksX1_spelled_1 0 rfl rfl)
theorem dX1_spelled_25 : decode cX1_spelled 25 = .ok (.ireturn, 1) := dk_172 (dk_at dksX1_spelled_1 3 rfl rfl)
theorem dX1_respell_2_0 : decode cX1_respell_2 0 = .ok (.iconst 0, 1) := dk_3 (dk_at dksX1_respell_2_0 0 rfl rfl)
theorem dX1_respell_2_1 : decode cX1_respell_2 1 = .ok (.istore_n 2, 1) := dk_61 (dk_at dksX1_respell_2_0 1 rfl rfl)
theorem dX1_respell_2_2 : decode cX1_respell_2 2 = .ok (.iconst 0, 1) := dk_3 (dk_at dksX1_respell_2_0 2 rfl rfl)
theorem dX1_respell_2_3 : decode cX1_respell_2 3 = .ok (.istore_n 3, 1) := dk_62 (dk_at dksX1_respell_2_0 3 rfl rfl)
theorem dX1_respell_2_4 : decode cX1_respell_2 4 = .ok (.iload_n 3, 1) := dk_29 (dk_at dksX1_respell_2_0 4 rfl rfl)
theorem dX1_respell_2_5 : decode cX1_respell_2 5 = .ok (.aload_n 0, 1) := dk_42 (dk_at dksX1_respell_2_0 5 rfl rfl)
theorem dX1_respell_2_6 : decode cX1_respell_2 6 = .ok (.getfield 31, 3) := dk_180 0 31 (dk_at dksX1_respell_2_0 6 rfl rfl)
theorem dX1_respell_2_9 : decode cX1_respell_2 9 = .ok (.getfield 165, 3) := dk_180 0 165 (dk_at dksX1_respell_2_0 9 rfl rfl)
theorem dX1_respell_2_12 : decode cX1_respell_2 12 = .ok (.invokevirtual 168, 3) := dk_182 0 168 (dk_at dksX1_respell_2_0 12 rfl rfl)
theorem dX1_respell_2_15 : decode cX1_respell_2 15 = .ok (.if_icmp .ge 119, 3) := dk_162 0 119 (dk_at dksX1_respell_2_0 15 rfl rfl)
theorem dX1_respell_2_18 : decode cX1_respell_2 18 = .ok (.aload_n 0, 1) := dk_42 (dk_at dksX1_respell_2_0 18 rfl rfl)
theorem dX1_respell_2_19 : decode cX1_respell_2 19 = .ok (.getfield 31, 3) := dk_180 0 31 (dk_at dksX1_respell_2_0 19 rfl rfl)
theorem dX1_respell_2_22 : decode cX1_respell_2 22 = .ok (.getfield 165, 3) := dk_180 0 165 (dk_at dksX1_respell_2_1 0 rfl rfl)
theorem dX1_respell_2_25 : decode cX1_respell_2 25 = .ok (.iload_n 3, 1) := dk_29 (dk_at dksX1_respell_2_1 3 rfl rfl)
theorem dX1_respell_2_26 : decode cX1_respell_2 26 = .ok (.invokevirtual 180, 3) := dk_182 0 180 (dk_at dksX1_respell_2_1 4 rfl rfl)
theorem dX1_respell_2_29 : decode cX1_respell_2 29 = .ok (.checkcast 188, 3) := dk_192 0 188 (dk_at dksX1_respell_2_1 7 rfl rfl)
theorem dX1_respell_2_32 : decode cX1_respell_2 32 = .ok (.astore 4, 2) := dk_58 4 (dk_at dksX1_respell_2_1 10 rfl rfl)
theorem dX1_respell_2_34 : decode cX1_respell_2 34 = .ok (.aload_n 0, 1) := dk_42 (dk_at dksX1_respell_2_1 12 rfl rfl)
theorem dX1_respell_2_35 : decode cX1_respell_2 35 = .ok (.aload 4, 2) := dk_25 4 (dk_at dksX1_respell_2_1 13 rfl rfl)
theorem dX1_respell_2_37 : decode cX1_respell_2 37 = .ok (.getfield 199, 3) := dk_180 0 199 (dk_at dksX1_respell_2_1 15 rfl rfl)
theorem dX1_respell_2_40 : decode cX1_respell_2 40 = .ok (.iload_n 1, 1) := dk_27 (dk_at dksX1_respell_2_1 18 rfl rfl)
theorem dX1_respell_2_41 : decode cX1_respell_2 41 = .ok (.invokevirtual 280, 3) := dk_182 1 24 (dk_at dksX1_respell_2_1 19 rfl rfl)
theorem dX1_respell_2_44 : decode cX1_respell_2 44 = .ok (.istore 5, 2) := dk_54 5 (dk_at dksX1_respell_2_1 22 rfl rfl)
theorem dX1_respell_2_46 : decode cX1_respell_2 46 = .ok (.aload 4, 2) := dk_25 4 (dk_at dksX1_respell_2_2 0 rfl rfl)
theorem dX1_respell_2_48 : decode cX1_respell_2 48 = .ok (.getfield 205, 3) := dk_180 0 205 (dk_at dksX1_respell_2_2 2 rfl rfl)
theorem dX1_respell_2_51 : decode cX1_respell_2 51 = .ok (.bipush 100, 2) := dk_16 100 (dk_at dksX1_respell_2_2 5 rfl rfl)
theorem dX1_respell_2_53 : decode cX1_respell_2 53 = .ok (.if_icmp .ne 8, 3) := dk_160 0 8 (dk_at dksX1_respell_2_2 7 rfl rfl)
theorem dX1_respell_2_56 : decode cX1_respell_2 56 = .ok (.bipush 100, 2) := dk_16 100 (dk_at dksX1_respell_2_2 10 rfl rfl)
theorem dX1_respell_2_58 : decode cX1_respell_2 58 = .ok (.goto 13, 3) := dk_167 0 13 (dk_at dksX1_respell_2_2 12 rfl rfl)
theorem dX1_respell_2_61 : decode cX1_respell_2 61 = .ok (.aload_n 0, 1) := dk_42 (dk_at dksX1_respell_2_2 15 rfl rfl)
theorem dX1_respell_2_62 : decode cX1_respell_2 62 = .ok (.aload 4, 2) := dk_25 4 (dk_at dksX1_respell_2_2 16 rfl rfl)
theorem dX1_respell_2_64 : decode cX1_respell_2 64 = .ok (.getfield 205, 3) := dk_180 0 205 (dk_at dksX1_respell_2_2 18 rfl rfl)
theorem dX1_respell_2_67 : decode cX1_respell_2 67 = .ok (.iload_n 1, 1) := dk_27 (dk_at dksX1_respell_2_2 21 rfl rfl)
theorem dX1_respell_2_68 : decode cX1_respell_2 68 = .ok (.invokevirtual 280, 3) := dk_182 1 24 (dk_at dksX1_respell_2_3 0 rfl rfl)
theorem dX1_respell_2_71 : decode cX1_respell_2 71 = .ok (.istore 6, 2) := dk_54 6 (dk_at dksX1_respell_2_3 3 rfl rfl)
theorem dX1_respell_2_73 : decode cX1_respell_2 73 = .ok (.iload_n 2, 1) := dk_28 (dk_at dksX1_respell_2_3 5 rfl rfl)
theorem dX1_respell_2_74 : decode cX1_respell_2 74 = .ok (.iload 5, 2) := dk_21 5 (dk_at dksX1_respell_2_3 6 rfl rfl)
theorem dX1_respell_2_76 : decode cX1_respell_2 76 = .ok (.aload 4, 2) := dk_25 4 (dk_at dksX1_respell_2_3 8 rfl rfl)
theorem dX1_respell_2_78 : decode cX1_respell_2 78 = .ok (.getfield 199, 3) := dk_180 0 199 (dk_at dksX1_respell_2_3 10 rfl rfl)
theorem dX1_respell_2_81 : decode cX1_respell_2 81 = .ok (.if_icmp .ne 7, 3) := dk_160 0 7 (dk_at dksX1_respell_2_3 13 rfl rfl)
theorem dX1_respell_2_84 : decode cX1_respell_2 84 = .ok (.iconst 0, 1) := dk_3 (dk_at dksX1_respell_2_3 16 rfl rfl)
theorem dX1_respell_2_85 : decode cX1_respell_2 85 = .ok (.goto 4, 3) := dk_167 0 4 (dk_at dksX1_respell_2_3 17 rfl rfl)
theorem dX1_respell_2_88 : decode cX1_respell_2 88 = .ok (.iconst 1, 1) := dk_4 (dk_at dksX1_respell_2_3 20 rfl rfl)
theorem dX1_respell_2_89 : decode cX1_respell_2 89 = .ok (.iload 6, 2) := dk_21 6 (dk_at dksX1_respell_2_3 21 rfl rfl)
theorem dX1_respell_2_91 : decode cX1_respell_2 91 = .ok (.aload 4, 2) := dk_25 4 (dk_at dksX1_respell_2_4 0 rfl rfl)
theorem dX1_respell_2_93 : decode cX1_respell_2 93 = .ok (.getfield 205, 3) := dk_180 0 205 (dk_at dksX1_respell_2_4 2 rfl rfl)
theorem dX1_respell_2_96 : decode cX1_respell_2 96 = .ok (.if_icmp .ne 7, 3) := dk_160 0 7 (dk_at dksX1_respell_2_4 5 rfl rfl)
theorem dX1_respell_2_99 : decode cX1_respell_2 99 = .ok (.iconst 0, 1) := dk_3 (dk_at dksX1_respell_2_4 8 rfl rfl)
theorem dX1_respell_2_100 : decode cX1_respell_2 100 = .ok (.goto 4, 3) := dk_167 0 4 (dk_at dksX1_respell_2_4 9 rfl rfl)
theorem dX1_respell_2_103 : decode cX1_respell_2 103 = .ok (.iconst 1, 1) := dk_4 (dk_at dksX1_respell_2_4 12 rfl rfl)
theorem dX1_respell_2_104 : decode cX1_respell_2 104 = .ok (.iadd, 1) := dk_96 (dk_at dksX1_respell_2_4 13 rfl rfl)
theorem dX1_respell_2_105 : decode cX1_respell_2 105 = .ok (.iadd, 1) := dk_96 (dk_at dksX1_respell_2_4 14 rfl rfl)
theorem dX1_respell_2_106 : decode cX1_respell_2 106 = .ok (.istore_n 2, 1) := dk_61 (dk_at dksX1_respell_2_4 15 rfl rfl)
theorem dX1_respell_2_107 : decode cX1_respell_2 107 = .ok (.aload_n 0, 1) := dk_42 (dk_at dksX1_respell_2_4 16 rfl rfl)
theorem dX1_respell_2_108 : decode cX1_respell_2 108 = .ok (.getfield 31, 3) := dk_180 0 31 (dk_at dksX1_respell_2_4 17 rfl rfl)
theorem dX1_respell_2_111 : decode cX1_respell_2 111 = .ok (.getfield 165, 3) := dk_180 0 165 (dk_at dksX1_respell_2_4 20 rfl rfl)
theorem dX1_respell_2_114 : decode cX1_respell_2 114 = .ok (.iload_n 3, 1) := dk_29 (dk_at dksX1_respell_2_4 23 rfl rfl)
theorem dX1_respell_2_115 : decode cX1_respell_2 115 = .ok (.aload 4, 2) := dk_25 4 (dk_at dksX1_respell_2_5 0 rfl rfl)
theorem dX1_respell_2_117 : decode cX1_respell_2 117 = .ok (.iload 5, 2) := dk_21 5 (dk_at dksX1_respell_2_5 2 rfl rfl)
theorem dX1_respell_2_119 : decode cX1_respell_2 119 = .ok (.iload 6, 2) := dk_21 6 (dk_at dksX1_respell_2_5 4 rfl rfl)
theorem dX1_respell_2_121 : decode cX1_respell_2 121 = .ok (.invokevirtual 283, 3) := dk_182 1 27 (dk_at dksX1_respell_2_5 6 rfl rfl)
theorem dX1_respell_2_124 : decode cX1_respell_2 124 = .ok (.invokevirtual 219, 3) := dk_182 0 219 (dk_at dksX1_respell_2_5 9 rfl rfl)
theorem dX1_respell_2_127 : decode cX1_respell_2 127 = .ok (.pop, 1) := dk_87 (dk_at dksX1_respell_2_5 12 rfl rfl)
theorem dX1_respell_2_128 : decode cX1_respell_2 128 = .ok (.iinc 3 1, 3) := dk_132 3 1 (dk_at dksX1_respell_2_5 13 rfl rfl)
theorem dX1_respell_2_131 : decode cX1_respell_2 131 = .ok (.goto (-127), 3) := dk_167 255 129 (dk_at dksX1_respell_2_5 16 rfl rfl)
theorem dX1_respell_2_134 : decode cX1_respell_2 134 = .ok (.iload_n 2, 1) := dk_28 (dk_at dksX1_respell_2_5 19 rfl rfl)
theorem dX1_respell_2_135 : decode cX1_respell_2 135 = .ok (.ireturn, 1) := dk_172 (dk_at dksX1_respell_2_5 20 rfl rfl)
theorem dX1_respell_0 : decode cX1_respell 0 = .ok (.aload_n 0, 1) := dk_42 (dk_at dksX1_respell_0 0 rfl rfl)
theorem dX1_respell_1 : decode cX1_respell 1 = .ok (.invokevirtual 162, 3) := dk_182 0 162 (dk_at dksX1_respell_0 1 rfl rfl)
theorem dX1_respell_4 : decode cX1_respell 4 = .ok (.aload_n 0, 1) := dk_42 (dk_at dksX1_respell_0 4 rfl rfl)
theorem dX1_respell_5 : decode cX1_respell 5 = .ok (.iconst 0, 1) := dk_3 (dk_at dksX1_respell_0 5 rfl rfl)
theorem dX1_respell_6 : decode cX1_respell 6 = .ok (.invokevirtual 296, 3) := dk_182 1 40 (dk_at dksX1_respell_0 6 rfl rfl)
theorem dX1_respell_9 : decode cX1_respell 9 = .ok (.ireturn, 1) := dk_172 (dk_at dksX1_respell_0 9 rfl rfl)
theorem dX1_transpose_0 : decode cX1_transpose 0 = .ok (.iload_n 1, 1) := dk_27 (dk_at dksX1_transpose_0 0 rfl rfl)
theorem dX1_transpose_1 : decode cX1_transpose 1 = .ok (.i2l, 1) := dk_133 (dk_at dksX1_transpose_0 1 rfl rfl)
theorem dX1_transpose_2 : decode cX1_transpose 2 = .ok (.ldc2_w 289, 3) := dk_20 1 33 (dk_at dksX1_transpose_0 2 rfl rfl)
theorem dX1_transpose_5 : decode cX1_transpose 5 = .ok (.ldc2_w 291, 3) := dk_20 1 35 (dk_at dksX1_transpose_0 5 rfl rfl)
theorem dX1_transpose_8 : decode cX1_transpose 8 = .ok (.invokestatic 56, 3) := dk_184 0 56 (dk_at dksX1_transpose_0 8 rfl rfl)
theorem dX1_transpose_11 : decode cX1_transpose 11 = .ok (.invokestatic 140, 3) := dk_184 0 140 (dk_at dksX1_transpose_0 11 rfl rfl)
theorem dX1_transpose_14 : decode cX1_transpose 14 = .ok (.aload_n 0, 1) := dk_42 (dk_at dksX1_transpose_0 14 rfl rfl)
theorem dX1_transpose_15 : decode cX1_transpose 15 = .ok (.invokevirtual 162, 3) := dk_182 0 162 (dk_at dksX1_transpose_0 15 rfl rfl)
theorem dX1_transpose_18 : decode cX1_transpose 18 = .ok (.aload_n 0, 1) := dk_42 (dk_at dksX1_transpose_0 18 rfl rfl)
theorem dX1_transpose_19 : decode cX1_transpose 19 = .ok (.getfield 31, 3) := dk_180 0 31 (dk_at dksX1_transpose_0 19 rfl rfl)
theorem dX1_transpose_22 : decode cX1_transpose 22 = .ok (.aload_n 0, 1) := dk_42 (dk_at dksX1_transpose_0 22 rfl rfl)
theorem dX1_transpose_23 : decode cX1_transpose 23 = .ok (.getfield 31, 3) := dk_180 0 31 (dk_at dksX1_transpose_1 0 rfl rfl)
theorem dX1_transpose_26 : decode cX1_transpose 26 = .ok (.getfield 241, 3) := dk_180 0 241 (dk_at dksX1_transpose_1 3 rfl rfl)
theorem dX1_transpose_29 : decode cX1_transpose 29 = .ok (.iload_n 1, 1) := dk_27 (dk_at dksX1_transpose_1 6 rfl rfl)
theorem dX1_transpose_30 : decode cX1_transpose 30 = .ok (.aload_n 0, 1) := dk_42 (dk_at dksX1_transpose_1 7 rfl rfl)
theorem dX1_transpose_31 : decode cX1_transpose 31 = .ok (.getfield 169, 3) := dk_180 0 169 (dk_at dksX1_transpose_1 8 rfl rfl)
theorem dX1_transpose_34 : decode cX1_transpose 34 = .ok (.invokevirtual 293, 3) := dk_182 1 37 (dk_at dksX1_transpose_1 11 rfl rfl)
theorem dX1_transpose_37 : decode cX1_transpose 37 = .ok (.putfield 241, 3) := dk_181 0 241 (dk_at dksX1_transpose_1 14 rfl rfl)
theorem dX1_transpose_40 : decode cX1_transpose 40 = .ok (.aload_n 0, 1) := dk_42 (dk_at dksX1_transpose_1 17 rfl rfl)
theorem dX1_transpose_41 : decode cX1_transpose 41 = .ok (.iload_n 1, 1) := dk_27 (dk_at dksX1_transpose_1 18 rfl rfl)
theorem dX1_transpose_42 : decode cX1_transpose 42 = .ok (.invokevirtual 296, 3) := dk_182 1 40 (dk_at dksX1_transpose_1 19 rfl rfl)
theorem dX1_transpose_45 : decode cX1_transpose 45 = .ok (.istore_n 2, 1) := dk_61 (dk_at dksX1_transpose_1 22 rfl rfl)
theorem dX1_transpose_46 : decode cX1_transpose 46 = .ok (.aload_n 0, 1) := dk_42 (dk_at dksX1_transpose_1 23 rfl rfl)
theorem dX1_transpose_47 : decode cX1_transpose 47 = .ok (.getfield 31, 3) := dk_180 0 31 (dk_at dksX1_transpose_2 0 rfl rfl)
theorem dX1_transpose_50 : decode cX1_transpose 50 = .ok (.getfield 241, 3) := dk_180 0 241 (dk_at dksX1_transpose_2 3 rfl rfl)
theorem dX1_transpose_53 : decode cX1_transpose 53 = .ok (.invokevirtual 257, 3) := dk_182 1 1 (dk_at dksX1_transpose_2 6 rfl rfl)
theorem dX1_transpose_56 : decode cX1_transpose 56 = .ok (.ireturn, 1) := dk_172 (dk_at dksX1_transpose_2 9 rfl rfl)
theorem q1034 : (Jvm.Cond.methodLink "ChordSheet" (296 : Nat) ({ cls := "ChordSheet", name := "respell", desc := "(I)I" } : Jvm.MethodName)) ∈ lw_all := lw_g (lw_at lw_m5 12 rfl) rfl
theorem q1036 : (Jvm.Cond.instanceMethod ({ cls := "ChordSheet", name := "respell", desc := "(I)I" } : Jvm.MethodName)) ∈ lw_all := lw_g (lw_at lw_m5 14 rfl) rfl
theorem q1037 : (Jvm.Cond.code ({ cls := "ChordSheet", name := "respell", desc := "(I)I" } : Jvm.MethodName) prog_1_method_47_code (7 : Nat) (Option.some Jvm.ClassFile.FieldType.int)) ∈ lw_all := lw_g (lw_at lw_m5 15 rfl) rfl
theorem q1040 : (Jvm.Cond.methodLink "ChordSheet" (280 : Nat) ({ cls := "ChordSheet", name := "spelled", desc := "(II)I" } : Jvm.MethodName)) ∈ lw_all := lw_g (lw_at lw_m5 18 rfl) rfl
theorem q1042 : (Jvm.Cond.instanceMethod ({ cls := "ChordSheet", name := "spelled", desc := "(II)I" } : Jvm.MethodName)) ∈ lw_all := lw_g (lw_at lw_m5 20 rfl) rfl
theorem q1043 : (Jvm.Cond.code ({ cls := "ChordSheet", name := "spelled", desc := "(II)I" } : Jvm.MethodName) prog_1_method_48_code (3 : Nat) (Option.some Jvm.ClassFile.FieldType.int)) ∈ lw_all := lw_g (lw_at lw_m5 21 rfl) rfl
theorem q1045 : (Jvm.Cond.methodLink "ChordSheet" (286 : Nat) ({ cls := "ChordSheet$Key", name := "spelled", desc := "(IZ)I" } : Jvm.MethodName)) ∈ lw_all := lw_g (lw_at lw_m5 23 rfl) rfl
theorem q1046 : (Jvm.Cond.instanceMethod ({ cls := "ChordSheet$Key", name := "spelled", desc := "(IZ)I" } : Jvm.MethodName)) ∈ lw_all := lw_g (lw_at lw_m5 24 rfl) rfl
theorem q1047 : (Jvm.Cond.selects "ChordSheet$Key" ({ cls := "ChordSheet$Key", name := "spelled", desc := "(IZ)I" } : Jvm.MethodName) ({ cls := "ChordSheet$Key", name := "spelled", desc := "(IZ)I" } : Jvm.MethodName)) ∈ lw_all := lw_g (lw_at lw_m5 25 rfl) rfl
theorem q1048 : (Jvm.Cond.code ({ cls := "ChordSheet$Key", name := "spelled", desc := "(IZ)I" } : Jvm.MethodName) prog_3_method_6_code (5 : Nat) (Option.some Jvm.ClassFile.FieldType.int)) ∈ lw_all := lw_g (lw_at lw_m5 26 rfl) rfl
theorem q1060 : (Jvm.Cond.methodLink "ChordSheet" (283 : Nat) ({ cls := "ChordSheet$Chord", name := "with", desc := "(II)LChordSheet$Chord;" } : Jvm.MethodName)) ∈ lw_all := lw_g (lw_at lw_m5 38 rfl) rfl
theorem q1061 : (Jvm.Cond.instanceMethod ({ cls := "ChordSheet$Chord", name := "with", desc := "(II)LChordSheet$Chord;" } : Jvm.MethodName)) ∈ lw_all := lw_g (lw_at lw_m5 39 rfl) rfl
theorem q1062 : (Jvm.Cond.selects "ChordSheet$Chord" ({ cls := "ChordSheet$Chord", name := "with", desc := "(II)LChordSheet$Chord;" } : Jvm.MethodName) ({ cls := "ChordSheet$Chord", name := "with", desc := "(II)LChordSheet$Chord;" } : Jvm.MethodName)) ∈ lw_all := lw_g (lw_at lw_m5 40 rfl) rfl
theorem q1063 : (Jvm.Cond.code ({ cls := "ChordSheet$Chord", name := "with", desc := "(II)LChordSheet$Chord;" } : Jvm.MethodName) prog_2_method_3_code (3 : Nat) (Option.some (Jvm.ClassFile.FieldType.object "ChordSheet$Chord"))) ∈ lw_all := lw_g (lw_at lw_m5 41 rfl) rfl
theorem q1066 : (Jvm.Cond.methodLink "ChordSheet" (219 : Nat) ({ cls := "java/util/ArrayList", name := "set", desc := "(ILjava/lang/Object;)Ljava/lang/Object;" } : Jvm.MethodName)) ∈ lw_all := lw_g (lw_at lw_m5 44 rfl) rfl
theorem q1067 : (Jvm.Cond.instanceMethod ({ cls := "java/util/ArrayList", name := "set", desc := "(ILjava/lang/Object;)Ljava/lang/Object;" } : Jvm.MethodName)) ∈ lw_all := lw_g (lw_at lw_m5 45 rfl) rfl
theorem q1068 : (Jvm.Cond.selects "java/util/ArrayList" ({ cls := "java/util/ArrayList", name := "set", desc := "(ILjava/lang/Object;)Ljava/lang/Object;" } : Jvm.MethodName) ({ cls := "java/util/ArrayList", name := "set", desc := "(ILjava/lang/Object;)Ljava/lang/Object;" } : Jvm.MethodName)) ∈ lw_all := lw_g (lw_at lw_m5 46 rfl) rfl
theorem q1069 : (Jvm.Cond.code ({ cls := "java/util/ArrayList", name := "set", desc := "(ILjava/lang/Object;)Ljava/lang/Object;" } : Jvm.MethodName) prog_44_method_23_code (4 : Nat) (Option.some (Jvm.ClassFile.FieldType.object "java/lang/Object"))) ∈ lw_all := lw_g (lw_at lw_m5 47 rfl) rfl
theorem q1927 : (Jvm.Cond.constantLong "ChordSheet" (289 : Nat) (-11 : Int64)) ∈ lw_all := lw_g (lw_at lw_m8 185 rfl) rfl
theorem q1928 : (Jvm.Cond.constantLong "ChordSheet" (291 : Nat) (11 : Int64)) ∈ lw_all := lw_g (lw_at lw_m8 186 rfl) rfl
theorem q1929 : (Jvm.Cond.methodLink "ChordSheet" (293 : Nat) ({ cls := "ChordSheet$Key", name := "higher", desc := "(IZ)LChordSheet$Key;" } : Jvm.MethodName)) ∈ lw_all := lw_g (lw_at lw_m8 187 rfl) rfl
theorem q1930 : (Jvm.Cond.instanceMethod ({ cls := "ChordSheet$Key", name := "higher", desc := "(IZ)LChordSheet$Key;" } : Jvm.MethodName)) ∈ lw_all := lw_g (lw_at lw_m8 188 rfl) rfl
theorem q1931 : (Jvm.Cond.selects "ChordSheet$Key" ({ cls := "ChordSheet$Key", name := "higher", desc := "(IZ)LChordSheet$Key;" } : Jvm.MethodName) ({ cls := "ChordSheet$Key", name := "higher", desc := "(IZ)LChordSheet$Key;" } : Jvm.MethodName)) ∈ lw_all := lw_g (lw_at lw_m8 189 rfl) rfl
theorem q1932 : (Jvm.Cond.code ({ cls := "ChordSheet$Key", name := "higher", desc := "(IZ)LChordSheet$Key;" } : Jvm.MethodName) prog_3_method_8_code (6 : Nat) (Option.some (Jvm.ClassFile.FieldType.object "ChordSheet$Key"))) ∈ lw_all := lw_g (lw_at lw_m8 190 rfl) rfl
def rsv (t m si s p : Int) : Int := spl t m ((pcl p + s) % 12) si
/-- a chord spelled anew -/
def rsp (t m si s : Int) (c : zCh) : zCh := (c.1, c.2.1, rsv t m si s c.2.2.1, c.2.2.2.1, if c.2.2.2.2 = 100 then 100 else rsv t m si s c.2.2.2.2)
def rct (t m si s : Int) : List zCh → Int
  | [] => 0
  | c :: r => ((if rsv t m si s c.2.2.1 = c.2.2.1 then 0 else 1) + (if (if c.2.2.2.2 = 100 then 100 else rsv t m si s c.2.2.2.2) = c.2.2.2.2 then 0 else 1)) + rct t m si s r
theorem rsv_r {t m si s p : Int} (hs : -6 ≤ sgn t m ∧ sgn t m ≤ 6) : -15 ≤ rsv t m si s p ∧ rsv t m si s p ≤ 19 := by
  unfold rsv spl
  have h := plf_r (sgn t m - 3) ((pcl p + s) % 12)
  have ha : acc (plf (sgn t m - 3) ((pcl p + s) % 12)) = (plf (sgn t m - 3) ((pcl p + s) % 12) + 1) / 7 := rfl
  generalize plf (sgn t m - 3) ((pcl p + s) % 12) = q at h ha ⊢
  rw [ha]
  unfold iabs
  (repeat' split) <;> omega
theorem rsp_r {t m si s : Int} {c : zCh} (hs : -6 ≤ sgn t m ∧ sgn t m ≤ 6) (hc : crg c) : crg (rsp t m si s c) := by
  obtain ⟨h1, h2, h3, h4, h5⟩ := hc
  have a := rsv_r (si := si) (s := s) (p := c.2.2.1) hs
  have b := rsv_r (si := si) (s := s) (p := c.2.2.2.2) hs
  refine ⟨h1, h2, a, h4, ?_⟩
  show (if c.2.2.2.2 = 100 then (100 : Int) else _) = 100 ∨ (-15 ≤ (if c.2.2.2.2 = 100 then (100 : Int) else _) ∧ (if c.2.2.2.2 = 100 then (100 : Int) else _) ≤ 19)
  split
  · exact Or.inl rfl
  · exact Or.inr b
theorem mset_step {α : Type} (f : α → α) {cs : List α} {i : Int} {c : α} (h : cs[i.toNat]? = some c) (hi : 0 ≤ i) : ((cs.take i.toNat).map f ++ cs.drop i.toNat).set i.toNat (f c) = (cs.take (i + 1).toNat).map f ++ cs.drop (i + 1).toNat := by
  have h1 := (List.getElem?_eq_some_iff.mp h).1
  rw [drop_step h hi, ← take_step h hi, List.set_append_right _ _ (by simp; omega)]
  simp
  rw [show i.toNat - min i.toNat cs.length = 0 by omega]
  simp
theorem mget_step {α : Type} (f : α → α) {cs : List α} {i : Int} {c : α} (h : cs[i.toNat]? = some c) (hi : 0 ≤ i) : ((cs.take i.toNat).map f ++ cs.drop i.toNat)[i.toNat]? = some c := by
  have h1 := (List.getElem?_eq_some_iff.mp h).1
  rw [List.getElem?_append_right (by simp; omega)]
  simp
  rw [show i.toNat + (i.toNat - min i.toNat cs.length) = i.toNat by omega]
  exact h
theorem hgt_r {t m s fl : Int} (hm : m = 0 ∨ m = 1) : (-6 ≤ sgn (hgt t m s fl) m ∧ sgn (hgt t m s fl) m ≤ 6) ∧ (-20 ≤ hgt t m s fl ∧ hgt t m s fl ≤ 20) := by
  have h0 := plf_r (0 - 5) ((pcl t + s) % 12)
  have h3 := plf_r (3 - 5) ((pcl t + s) % 12)
  rcases hm with rfl | rfl
  · unfold sgn hgt hsg; simp only [show ¬ (0 : Int) = 1 by decide, if_false]; split <;> omega
  · unfold sgn hgt hsg; simp only [if_true]; split <;> omega
set_option maxHeartbeats 4000000 in
theorem ct_spelled {l : Launch} (hl : l.stackTraces = false) {Γ : zCx} {h : zH} {c s lq cq kq : Nat} {b0 : Bool} {v1 v2 v3 v4 v6 : Value} {si t m : Int} (hc0 : h c = some (true, .inr (0, [v1, v2, .int (iI si), v3, v4, .ref s, v6]))) (hs0 : h s = some (b0, .inr (1, [.ref lq, .ref cq, .ref kq]))) (hk0 : h kq = some (false, .inr (2, [.int (iI t), .int (iI m)]))) (hsi : si = 0 ∨ si = 1) (ht : -20 ≤ t ∧ t ≤ 20) (hm : m = 0 ∨ m = 1) {p sm : Int} (hp : -500 ≤ p ∧ p ≤ 500) (hsm : -11 ≤ sm ∧ sm ≤ 11)  : zMet l yX1_spelled (ws_ yX1_spelled cX1_spelled 3 (some .int)) ({ frames := 4, cells := 0, slots := 0, locals := 84 }) Γ h [.ref c, .int (iI p), .int (iI sm)] (zpure h (some (.int (iI (rsv t m si sm p))))) 0 0 := by
  refine zMet.of (cc := cX1_spelled) hl (plainFor_of_name (by decide +kernel)) (Nat.le_of_ble_eq_true rfl) ?_
  intro X hXl hXΓ hXp C hnm hnL
  have C : zC X cX1_spelled RX1 (some .int) 4 84 [] := C
  have hnL : X.2.1.2.2.2.2 = 3 := hnL
  subst hXl hXΓ
  show Z X h 0 0 [(0, .ref c), (1, .int (iI p)), (2, .int (iI sm))] 0 []
  refine z_aload_n (pc := 0) (j := 0) C dX1_spelled_0 rfl rfl ?_
  refine z_getfield (pc := 1) (v := .ref s) C in_X1 rfl 5 (by decide) q282 (fun _ z => z) hc0 rfl dX1_spelled_1 ?_
  refine z_getfieldN (pc := 4) (v := .ref kq) C in_X2 rfl 2 (by decide) q175 (fun _ z => z) hs0 rfl dX1_spelled_4 ?_
  refine z_iload_n (pc := 7) (j := 1) C dX1_spelled_7 rfl rfl ?_
  refine z_callS (pc := 8) (n := 1) (kc' := 0) (ks' := 0) C (ct_pcl C.t (p := p) (by omega)) (lw_S q1044 q897 q63 q898) (by decide +kernel) ⟨by decide, by decide⟩ rfl rfl (Nat.le_of_ble_eq_true rfl) dX1_spelled_8 (by omega) (by omega) (zpk (st' := [.int (iI (pcl p)), .ref kq]) rfl ?_) zrx
  have hpp := pcl_r p
  refine z_iload_n (pc := 11) (j := 2) C dX1_spelled_11 rfl rfl ?_
  refine z_iadd (pc := 12) C dX1_spelled_12 ?_
  refine z_bipush (pc := 13) C dX1_spelled_13 (by decide) ?_
  refine z_callS (pc := 15) (n := 2) (kc' := 0) (ks' := 0) C (ct_floorMod C.t (x := (pcl p) + sm) (y := 12) (by omega) (by decide)) (lw_S q899 q900 q71 q901) (by decide +kernel) ⟨by decide, by decide⟩ rfl rfl (Nat.le_of_ble_eq_true rfl) dX1_spelled_15 (by omega) (by omega) (zpk (st' := [.int (iI (((pcl p) + sm) % 12)), .ref kq]) rfl ?_) zrx
  refine z_aload_n (pc := 18) (j := 0) C dX1_spelled_18 rfl rfl ?_
  refine z_getfield (pc := 19) (v := .int (iI si)) C in_X1 rfl 2 (by decide) q277 (fun _ z => z) hc0 rfl dX1_spelled_19 ?_
  refine z_callV (pc := 22) (n := 2) (kc' := 0) (ks' := 0) C (ct_K_spl C.t (t := t) (m := m) hk0 (by omega) (by omega) (p := ((pcl p) + sm) % 12) (s := si) (by omega) (by omega)) (lw_V q1045 q1046 q1047 q65 q1048) (by decide +kernel) ⟨by decide, by decide⟩ hk0 rfl rfl rfl (Nat.le_of_ble_eq_true rfl) dX1_spelled_22 (by omega) (by omega) (zpk (st' := [.int (iI (spl t m (((pcl p) + sm) % 12) si))]) rfl ?_) zrx
  exact z_ireturn (pc := 25) C (by rw [hXp]; exact zpure_i rfl rfl) dX1_spelled_25
set_option maxHeartbeats 4000000 in
theorem ct_respell {l : Launch} (hl : l.stackTraces = false) {Γ : zCx} {h : zH} {c s lq cq kq : Nat} {b0 : Bool} {v1 v2 v3 v4 v6 : Value} {si t m : Int} (hc0 : h c = some (true, .inr (0, [v1, v2, .int (iI si), v3, v4, .ref s, v6]))) (hs0 : h s = some (b0, .inr (1, [.ref lq, .ref cq, .ref kq]))) (hk0 : h kq = some (false, .inr (2, [.int (iI t), .int (iI m)]))) (hsi : si = 0 ∨ si = 1) (ht : -20 ≤ t ∧ t ≤ 20) (hm : m = 0 ∨ m = 1) {e cap : Nat} {ys : List Nat} {cs : List zCh} (hl0 : lAt Γ h cq e ys cap) (hy : ycs h ys cs) (hrg : ∀ c ∈ cs, crg c) (hm100 : cs.length ≤ 1000) (hsg : -6 ≤ sgn t m ∧ sgn t m ≤ 6) {sm : Int} (hsm : -11 ≤ sm ∧ sm ≤ 11)  : zMet l yX1_respell_2 (ws_ yX1_respell_2 cX1_respell_2 7 (some .int)) ({ frames := 5, cells := cs.length, slots := (5 * cs.length), locals := 106 }) Γ h [.ref c, .int (iI sm)] (zrt (fun w h' => w = some (.int (iI (rct t m si sm cs))) ∧ ∃ zs, lAt Γ h' cq e zs cap ∧ ycs h' zs (cs.map (rsp t m si sm)) ∧ zkeep h h' [e])) cs.length (5 * cs.length) := by
  refine zMet.of (cc := cX1_respell_2) hl (plainFor_of_name (by decide +kernel)) (Nat.le_of_ble_eq_true rfl) ?_
  intro X hXl hXΓ hXp C hnm hnL
  have C : zC X cX1_respell_2 RX1 (some .int) 5 106 [] := C
  have hnL : X.2.1.2.2.2.2 = 7 := hnL
  subst hXl hXΓ
  show Z X h cs.length (5 * cs.length) [(0, .ref c), (1, .int (iI sm))] 0 []
  have hyl := hy.len
  have hx_1 := hl0
  obtain ⟨m_1, f_1, la_1, le_1, lz_1, lt_1, ln_1, lc_1, lx_1, lq_1⟩ := hx_1
  refine z_iconst (pc := 0) C dX1_respell_2_0 ?_
  refine z_istore_n (pc := 1) (L' := [(2, .int (iI 0)), (0, .ref c), (1, .int (iI sm))]) C dX1_respell_2_1 rfl (by rw [hnL]; decide) rfl ?_
  refine z_iconst (pc := 2) C dX1_respell_2_2 ?_
  refine z_istore_n (pc := 3) (L' := [(3, .int (iI 0)), (2, .int (iI 0)), (0, .ref c), (1, .int (iI sm))]) C dX1_respell_2_3 rfl (by rw [hnL]; decide) rfl ?_
  have loop4 : ∀ (n4 : Nat) (i : Int) (n : Int) (g : zH) (zs : List Nat), (0 ≤ i ∧ i ≤ (cs.length : Nat)) → (0 ≤ n ∧ n ≤ 2 * i) → (n + rct t m si sm (cs.drop i.toNat) = rct t m si sm cs) → (zkeep h g [e]) → (lAt X.Γ g cq e zs cap) → (ycs g zs ((cs.take i.toNat).map (rsp t m si sm) ++ cs.drop i.toNat)) → (((cs.length : Nat) - i).toNat) = n4 → Z X g (cs.length - i.toNat) (5 * (cs.length - i.toNat)) [(3, .int (iI i)), (2, .int (iI n)), (1, .int (iI sm)), (0, .ref c)] 4 [] := by
    intro n4
    induction n4 using Nat.strongRecOn with
    | ind n4 ih4 =>
    intro i n g zs hi hn hd hkp hla hzy hn4
    have hzl := hzy.len
    have hzl2 : zs.length = cs.length := by rw [hzl]; simp; omega
    have hx_2 := hla
    obtain ⟨m_2, f_2, la_2, le_2, lz_2, lt_2, ln_2, lc_2, lx_2, lq_2⟩ := hx_2
    refine z_iload_n (pc := 4) (j := 0) C dX1_respell_2_4 rfl rfl ?_
    refine z_aload_n (pc := 5) (j := 3) C dX1_respell_2_5 rfl rfl ?_
    refine z_getfield (pc := 6) (v := .ref s) C in_X1 rfl 5 (by decide) q282 (fun _ z => z) (hkp.n hc0 (List.not_mem_cons_of_ne_of_not_mem (zneA hc0 le_1) List.not_mem_nil)) rfl dX1_respell_2_6 ?_
    refine z_getfieldN (pc := 9) (v := .ref cq) C in_X2 rfl 1 (by decide) q172 (fun _ z => z) (hkp.n hs0 (List.not_mem_cons_of_ne_of_not_mem (zneA hs0 le_1) List.not_mem_nil)) rfl dX1_respell_2_9 ?_
    refine z_callV (pc := 12) (n := 0) (kc' := (cs.length - i.toNat)) (ks' := (5 * (cs.length - i.toNat))) C (ct_L_size C.t la_2) (lw_V q995 q367 q368 q68 q369) (by decide +kernel) ⟨by decide, by decide⟩ la_2 rfl rfl rfl (Nat.le_of_ble_eq_true rfl) dX1_respell_2_12 (by omega) (by omega) (zpk (st' := [.int (iI ((zs.length : Nat) : Int)), .int (iI i)]) rfl ?_) zrx
    refine z_icmp_ge (pc := 15) (tgt := 134) C dX1_respell_2_15 (by decide) (by omega) (by omega) (fun c15 => ?_) (fun c15 => ?_)
    · refine z_iload_n (pc := 134) (j := 1) C dX1_respell_2_134 rfl rfl ?_
      exact z_ireturn (pc := 135) C (by rw [hXp]; exact ⟨_, rfl, (by rw [List.drop_of_length_le (by omega), rct] at hd; rw [show n = rct t m si sm cs by omega]), zs, hla, (by rw [List.take_of_length_le (by omega), List.drop_of_length_le (by omega)] at hzy; simpa using hzy), hkp⟩) dX1_respell_2_135
    · refine z_aload_n (pc := 18) (j := 3) C dX1_respell_2_18 rfl rfl ?_
      refine z_getfield (pc := 19) (v := .ref s) C in_X1 rfl 5 (by decide) q282 (fun _ z => z) (hkp.n hc0 (List.not_mem_cons_of_ne_of_not_mem (zneA hc0 le_1) List.not_mem_nil)) rfl dX1_respell_2_19 ?_
      refine z_getfieldN (pc := 22) (v := .ref cq) C in_X2 rfl 1 (by decide) q172 (fun _ z => z) (hkp.n hs0 (List.not_mem_cons_of_ne_of_not_mem (zneA hs0 le_1) List.not_mem_nil)) rfl dX1_respell_2_22 ?_
      refine z_iload_n (pc := 25) (j := 0) C dX1_respell_2_25 rfl rfl ?_
      obtain ⟨c_3, hc_3⟩ : ∃ x, cs[(i).toNat]? = some x := ⟨_, List.getElem?_eq_getElem (by omega)⟩
      obtain ⟨q_3, hq_3, ha_3⟩ := hzy.at (mget_step (rsp t m si sm) hc_3 (by omega))
      have hr_3 := hrg _ (List.mem_of_getElem? hc_3)
      obtain ⟨hr1_3, hr2_3, hr3_3, hr4_3, hr5_3⟩ := id hr_3
      have hv1_3 := rsv_r (si := si) (s := sm) (p := c_3.2.2.1) hsg
      have hv2_3 := rsv_r (si := si) (s := sm) (p := c_3.2.2.2.2) hsg
      refine z_callV (pc := 26) (n := 1) (kc' := (cs.length - i.toNat)) (ks' := (5 * (cs.length - i.toNat))) C (ct_L_get C.t la_2 le_2 (i := i) (by omega) (by omega) (lx_2 _ _ hq_3)) (lw_V q1038 q904 q905 q68 q906) (by decide +kernel) ⟨by decide, by decide⟩ la_2 rfl rfl rfl (Nat.le_of_ble_eq_true rfl) dX1_respell_2_26 (by omega) (by omega) (zpk (st' := [.ref q_3]) rfl ?_) zrx
      refine z_castS (pc := 29) C q1039 rfl ha_3 dX1_respell_2_29 ?_
      refine z_astore (pc := 32) (L' := [(4, .ref q_3), (3, .int (iI i)), (2, .int (iI n)), (1, .int (iI sm)), (0, .ref c)]) C dX1_respell_2_32 (by rw [hnL]; decide) rfl ?_
      refine z_aload_n (pc := 34) (j := 4) C dX1_respell_2_34 rfl rfl ?_
      refine z_aload (pc := 35) (j := 0) C dX1_respell_2_35 rfl ?_
      refine z_getfieldN (pc := 37) (v := .int (iI c_3.2.2.1)) C in_X7 rfl 2 (by decide) q600 (fun _ z => z) ha_3 rfl dX1_respell_2_37 ?_
      refine z_iload_n (pc := 40) (j := 3) C dX1_respell_2_40 rfl rfl ?_
      refine z_callV (pc := 41) (n := 2) (kc' := (cs.length - i.toNat)) (ks' := (5 * (cs.length - i.toNat))) C (ct_spelled C.t (hkp.n hc0 (List.not_mem_cons_of_ne_of_not_mem (zneA hc0 le_1) List.not_mem_nil)) (hkp.n hs0 (List.not_mem_cons_of_ne_of_not_mem (zneA hs0 le_1) List.not_mem_nil)) (hkp.f hk0) (by omega) (by omega) (by omega) (p := c_3.2.2.1) (sm := sm) (by omega) (by omega)) (lw_V q1040 q1042 qs14 q63 q1043) (by decide +kernel) ⟨by decide, by decide⟩ (hkp.n hc0 (List.not_mem_cons_of_ne_of_not_mem (zneA hc0 le_1) List.not_mem_nil)) rfl rfl rfl (Nat.le_of_ble_eq_true rfl) dX1_respell_2_41 (by omega) (by omega) (zpk (st' := [.int (iI (rsv t m si sm c_3.2.2.1))]) rfl ?_) zrx
      refine z_istore (pc := 44) (L' := [(5, .int (iI (rsv t m si sm c_3.2.2.1))), (4, .ref q_3), (3, .int (iI i)), (2, .int (iI n)), (1, .int (iI sm)), (0, .ref c)]) C dX1_respell_2_44 (by rw [hnL]; decide) rfl ?_
      refine z_aload (pc := 46) (j := 1) C dX1_respell_2_46 rfl ?_
      refine z_getfieldN (pc := 48) (v := .int (iI c_3.2.2.2.2)) C in_X7 rfl 4 (by decide) q604 (fun _ z => z) ha_3 rfl dX1_respell_2_48 ?_
      refine z_bipush (pc := 51) C dX1_respell_2_51 (by decide) ?_
      refine z_icmp_ne (pc := 53) (tgt := 61) C dX1_respell_2_53 (by decide) (by omega) (by decide) (fun c53 => ?_) (fun c53 => ?_)
      · refine z_aload_n (pc := 61) (j := 5) C dX1_respell_2_61 rfl rfl ?_
        refine z_aload (pc := 62) (j := 1) C dX1_respell_2_62 rfl ?_
        refine z_getfieldN (pc := 64) (v := .int (iI c_3.2.2.2.2)) C in_X7 rfl 4 (by decide) q604 (fun _ z => z) ha_3 rfl dX1_respell_2_64 ?_
        refine z_iload_n (pc := 67) (j := 4) C dX1_respell_2_67 rfl rfl ?_
        refine z_callV (pc := 68) (n := 2) (kc' := (cs.length - i.toNat)) (ks' := (5 * (cs.length - i.toNat))) C (ct_spelled C.t (hkp.n hc0 (List.not_mem_cons_of_ne_of_not_mem (zneA hc0 le_1) List.not_mem_nil)) (hkp.n hs0 (List.not_mem_cons_of_ne_of_not_mem (zneA hs0 le_1) List.not_mem_nil)) (hkp.f hk0) (by omega) (by omega) (by omega) (p := c_3.2.2.2.2) (sm := sm) (by omega) (by omega)) (lw_V q1040 q1042 qs14 q63 q1043) (by decide +kernel) ⟨by decide, by decide⟩ (hkp.n hc0 (List.not_mem_cons_of_ne_of_not_mem (zneA hc0 le_1) List.not_mem_nil)) rfl rfl rfl (Nat.le_of_ble_eq_true rfl) dX1_respell_2_68 (by omega) (by omega) (zpk (st' := [.int (iI (rsv t m si sm c_3.2.2.2.2))]) rfl ?_) zrx
        refine z_istore (pc := 71) (L' := [(6, .int (iI (rsv t m si sm c_3.2.2.2.2))), (5, .int (iI (rsv t m si sm c_3.2.2.1))), (4, .ref q_3), (3, .int (iI i)), (2, .int (iI n)), (1, .int (iI sm)), (0, .ref c)]) C dX1_respell_2_71 (by rw [hnL]; decide) rfl ?_
        refine z_iload_n (pc := 73) (j := 4) C dX1_respell_2_73 rfl rfl ?_
        refine z_iload (pc := 74) (j := 1) C dX1_respell_2_74 rfl ?_
        refine z_aload (pc := 76) (j := 2) C dX1_respell_2_76 rfl ?_
        refine z_getfieldN (pc := 78) (v := .int (iI c_3.2.2.1)) C in_X7 rfl 2 (by decide) q600 (fun _ z => z) ha_3 rfl dX1_respell_2_78 ?_
        refine z_icmp_ne (pc := 81) (tgt := 88) C dX1_respell_2_81 (by decide) (by omega) (by omega) (fun c81 => ?_) (fun c81 => ?_)
        · refine z_iconst (pc := 88) C dX1_respell_2_88 ?_
          refine z_iload (pc := 89) (j := 0) C dX1_respell_2_89 rfl ?_
          refine z_aload (pc := 91) (j := 2) C dX1_respell_2_91 rfl ?_
          refine z_getfieldN (pc := 93) (v := .int (iI c_3.2.2.2.2)) C in_X7 rfl 4 (by decide) q604 (fun _ z => z) ha_3 rfl dX1_respell_2_93 ?_
          refine z_icmp_ne (pc := 96) (tgt := 103) C dX1_respell_2_96 (by decide) (by omega) (by omega) (fun c96 => ?_) (fun c96 => ?_)
          · refine z_iconst (pc := 103) C dX1_respell_2_103 ?_
            refine z_iadd (pc := 104) C dX1_respell_2_104 ?_
            refine z_iadd (pc := 105) C dX1_respell_2_105 ?_
            refine z_istore_n (pc := 106) (L' := [(2, .int (iI (n + (1 + 1)))), (6, .int (iI (rsv t m si sm c_3.2.2.2.2))), (5, .int (iI (rsv t m si sm c_3.2.2.1))), (4, .ref q_3), (3, .int (iI i)), (1, .int (iI sm)), (0, .ref c)]) C dX1_respell_2_106 rfl (by rw [hnL]; decide) rfl ?_
            refine z_aload_n (pc := 107) (j := 6) C dX1_respell_2_107 rfl rfl ?_
            refine z_getfield (pc := 108) (v := .ref s) C in_X1 rfl 5 (by decide) q282 (fun _ z => z) (hkp.n hc0 (List.not_mem_cons_of_ne_of_not_mem (zneA hc0 le_1) List.not_mem_nil)) rfl dX1_respell_2_108 ?_
            refine z_getfieldN (pc := 111) (v := .ref cq) C in_X2 rfl 1 (by decide) q172 (fun _ z => z) (hkp.n hs0 (List.not_mem_cons_of_ne_of_not_mem (zneA hs0 le_1) List.not_mem_nil)) rfl dX1_respell_2_111 ?_
            refine z_iload_n (pc := 114) (j := 4) C dX1_respell_2_114 rfl rfl ?_
            refine z_aload (pc := 115) (j := 3) C dX1_respell_2_115 rfl ?_
            refine z_iload (pc := 117) (j := 2) C dX1_respell_2_117 rfl ?_
            refine z_iload (pc := 119) (j := 1) C dX1_respell_2_119 rfl ?_
            refine z_callV (pc := 121) (n := 2) (kc' := ((cs.length - i.toNat) - 1)) (ks' := ((5 * (cs.length - i.toNat)) - 5)) C (ct_C_with C.t (r := rsv t m si sm c_3.2.2.1) (b := rsv t m si sm c_3.2.2.2.2) ha_3) (lw_V q1060 q1061 q1062 q89 q1063) (by decide +kernel) ⟨by decide, by decide⟩ ha_3 rfl rfl rfl (Nat.le_of_ble_eq_true rfl) dX1_respell_2_121 (by omega) (by omega) (zrk fun w h5 hp => ?_) zrx
            obtain ⟨a4, rfl, fka4, fa4, k6⟩ := hp
            have na4 : h a4 = none := hkp.none0 fa4 (List.not_mem_cons_of_ne_of_not_mem (Ne.symm (zneF le_2 fa4)) List.not_mem_nil)
            have kh5 : zkeep h h5 [e] := zkeep.loc hkp k6 zall_nil
            have fh5_1 : h5 cq = some (true, .inr (10, [.int (iI m_2), .ref e, .int (iI ((zs.length : Nat) : Int))])) := k6.n la_2 List.not_mem_nil
            have fh5_2 : h5 e = some ((decide (cap ≠ 0)), .inl ((.object "java/lang/Object"), cap, f_2)) := k6.n le_2 List.not_mem_nil
            have fh5_3 : h5 q_3 = some (false, .inr (6, [.int (iI c_3.1), .int (iI c_3.2.1), .int (iI c_3.2.2.1), .int (iI c_3.2.2.2.1), .int (iI c_3.2.2.2.2)])) := k6.f ha_3
            have ph5_1 : ∀ q ∈ zs, zel h5 q := zels.keep k6 lq_2
            show Z X h5 ((cs.length - i.toNat) - 1) ((5 * (cs.length - i.toNat)) - 5) [(2, .int (iI (n + (1 + 1)))), (6, .int (iI (rsv t m si sm c_3.2.2.2.2))), (5, .int (iI (rsv t m si sm c_3.2.2.1))), (4, .ref q_3), (3, .int (iI i)), (1, .int (iI sm)), (0, .ref c)] 124 [.ref a4, .int (iI i), .ref cq]
            refine z_callV (pc := 124) (n := 2) (kc' := ((cs.length - i.toNat) - 1)) (ks' := ((5 * (cs.length - i.toNat)) - 5)) C (ct_L_set C.t (lAt.mk (cap := cap) rfl rfl rfl fh5_1 fh5_2 lz_2 lt_2 ln_2 lc_2 lx_2 ph5_1) fka4 rfl q2508 (i := i) (by omega)) (lw_V q1066 q1067 q1068 q68 q1069) (by decide +kernel) ⟨by decide, by decide⟩ fh5_1 rfl rfl rfl (Nat.le_of_ble_eq_true rfl) dX1_respell_2_124 (by omega) (by omega) (zrk fun w h7 hp => ?_) zrx
            obtain ⟨o10, hoo10, rfl, hl8, k9⟩ := hp
            have kh7 : zkeep h h7 [e] := zkeep.loc kh5 k9 (zall_cons (Or.inl (Or.symm (Or.inl (by simp)))) zall_nil)
            have fh7_1 : h7 cq = some (true, .inr (10, [.int (iI m_2), .ref e, .int (iI ((zs.length : Nat) : Int))])) := k9.n fh5_1 (List.not_mem_cons_of_ne_of_not_mem (zneA fh5_1 fh5_2) List.not_mem_nil)
            have fh7_2 : h7 q_3 = some (false, .inr (6, [.int (iI c_3.1), .int (iI c_3.2.1), .int (iI c_3.2.2.1), .int (iI c_3.2.2.2.1), .int (iI c_3.2.2.2.2)])) := k9.f fh5_3
            have fh7_3 : h7 a4 = some (false, .inr (6, [.int (iI c_3.1), .int (iI c_3.2.1), .int (iI (rsv t m si sm c_3.2.2.1)), .int (iI c_3.2.2.2.1), .int (iI (rsv t m si sm c_3.2.2.2.2))])) := k9.f fka4
            have ph7_1 : ∀ q ∈ zs, zel h7 q := zels.keep k9 ph5_1
            show Z X h7 ((cs.length - i.toNat) - 1) ((5 * (cs.length - i.toNat)) - 5) [(2, .int (iI (n + (1 + 1)))), (6, .int (iI (rsv t m si sm c_3.2.2.2.2))), (5, .int (iI (rsv t m si sm c_3.2.2.1))), (4, .ref q_3), (3, .int (iI i)), (1, .int (iI sm)), (0, .ref c)] 127 [.ref o10]
            refine z_pop (pc := 127) C dX1_respell_2_127 rfl ?_
            refine z_iinc (pc := 128) (k := 4) (L' := [(3, .int (iI (i + 1))), (2, .int (iI (n + (1 + 1)))), (6, .int (iI (rsv t m si sm c_3.2.2.2.2))), (5, .int (iI (rsv t m si sm c_3.2.2.1))), (4, .ref q_3), (1, .int (iI sm)), (0, .ref c)]) C dX1_respell_2_128 rfl (by rw [hnL]; decide) rfl ?_
            refine z_goto (pc := 131) (tgt := 4) C dX1_respell_2_131 (by decide) ?_
            refine Z.weak (L' := [(3, .int (iI (i + 1))), (2, .int (iI (n + (1 + 1)))), (1, .int (iI sm)), (0, .ref c)]) (kc' := (cs.length - (i + 1).toNat)) (ks' := (5 * (cs.length - (i + 1).toNat))) [0, 1, 5, 6] rfl (by omega) (by omega) ?_
            exact ih4 _ (by omega) (i + 1) (n + (1 + 1)) h7 (zs.set i.toNat a4) (by omega) (by omega) (by rw [drop_step hc_3 (by omega), rct] at hd; (repeat' split at hd) <;> omega) kh7 hl8 (mset_step (rsp t m si sm) hc_3 (by omega) ▸ (hzy.keep ((zkeep.mono k6 (fun _ z => nomatch z)).trans k9)).st (show cAt h7 a4 (rsp t m si sm c_3) by unfold cAt rsp; rw [if_neg (by omega)]; exact fh7_3)) rfl
          · refine z_iconst (pc := 99) C dX1_respell_2_99 ?_
            refine z_goto (pc := 100) (tgt := 104) C dX1_respell_2_100 (by decide) ?_
            refine z_iadd (pc := 104) C dX1_respell_2_104 ?_
            refine z_iadd (pc := 105) C dX1_respell_2_105 ?_
            refine z_istore_n (pc := 106) (L' := [(2, .int (iI (n + (1 + 0)))), (6, .int (iI (rsv t m si sm c_3.2.2.2.2))), (5, .int (iI (rsv t m si sm c_3.2.2.1))), (4, .ref q_3), (3, .int (iI i)), (1, .int (iI sm)), (0, .ref c)]) C dX1_respell_2_106 rfl (by rw [hnL]; decide) rfl ?_
            refine z_aload_n (pc := 107) (j := 6) C dX1_respell_2_107 rfl rfl ?_
            refine z_getfield (pc := 108) (v := .ref s) C in_X1 rfl 5 (by decide) q282 (fun _ z => z) (hkp.n hc0 (List.not_mem_cons_of_ne_of_not_mem (zneA hc0 le_1) List.not_mem_nil)) rfl dX1_respell_2_108 ?_
            refine z_getfieldN (pc := 111) (v := .ref cq) C in_X2 rfl 1 (by decide) q172 (fun _ z => z) (hkp.n hs0 (List.not_mem_cons_of_ne_of_not_mem (zneA hs0 le_1) List.not_mem_nil)) rfl dX1_respell_2_111 ?_
            refine z_iload_n (pc := 114) (j := 4) C dX1_respell_2_114 rfl rfl ?_
            refine z_aload (pc := 115) (j := 3) C dX1_respell_2_115 rfl ?_
            refine z_iload (pc := 117) (j := 2) C dX1_respell_2_117 rfl ?_
            refine z_iload (pc := 119) (j := 1) C dX1_respell_2_119 rfl ?_
            refine z_callV (pc := 121) (n := 2) (kc' := ((cs.length - i.toNat) - 1)) (ks' := ((5 * (cs.length - i.toNat)) - 5)) C (ct_C_with C.t (r := rsv t m si sm c_3.2.2.1) (b := rsv t m si sm c_3.2.2.2.2) ha_3) (lw_V q1060 q1061 q1062 q89 q1063) (by decide +kernel) ⟨by decide, by decide⟩ ha_3 rfl rfl rfl (Nat.le_of_ble_eq_true rfl) dX1_respell_2_121 (by omega) (by omega) (zrk fun w h12 hp => ?_) zrx
            obtain ⟨a11, rfl, fka11, fa11, k13⟩ := hp
            have na11 : h a11 = none := hkp.none0 fa11 (List.not_mem_cons_of_ne_of_not_mem (Ne.symm (zneF le_2 fa11)) List.not_mem_nil)
            have kh12 : zkeep h h12 [e] := zkeep.loc hkp k13 zall_nil
            have fh12_1 : h12 cq = some (true, .inr (10, [.int (iI m_2), .ref e, .int (iI ((zs.length : Nat) : Int))])) := k13.n la_2 List.not_mem_nil
            have fh12_2 : h12 e = some ((decide (cap ≠ 0)), .inl ((.object "java/lang/Object"), cap, f_2)) := k13.n le_2 List.not_mem_nil
            have fh12_3 : h12 q_3 = some (false, .inr (6, [.int (iI c_3.1), .int (iI c_3.2.1), .int (iI c_3.2.2.1), .int (iI c_3.2.2.2.1), .int (iI c_3.2.2.2.2)])) := k13.f ha_3
            have ph12_1 : ∀ q ∈ zs, zel h12 q := zels.keep k13 lq_2
            show Z X h12 ((cs.length - i.toNat) - 1) ((5 * (cs.length - i.toNat)) - 5) [(2, .int (iI (n + (1 + 0)))), (6, .int (iI (rsv t m si sm c_3.2.2.2.2))), (5, .int (iI (rsv t m si sm c_3.2.2.1))), (4, .ref q_3), (3, .int (iI i)), (1, .int (iI sm)), (0, .ref c)] 124 [.ref a11, .int (iI i), .ref cq]
            refine z_callV (pc := 124) (n := 2) (kc' := ((cs.length - i.toNat) - 1)) (ks' := ((5 * (cs.length - i.toNat)) - 5)) C (ct_L_set C.t (lAt.mk (cap := cap) rfl rfl rfl fh12_1 fh12_2 lz_2 lt_2 ln_2 lc_2 lx_2 ph12_1) fka11 rfl q2508 (i := i) (by omega)) (lw_V q1066 q1067 q1068 q68 q1069) (by decide +kernel) ⟨by decide, by decide⟩ fh12_1 rfl rfl rfl (Nat.le_of_ble_eq_true rfl) dX1_respell_2_124 (by omega) (by omega) (zrk fun w h14 hp => ?_) zrx
            obtain ⟨o17, hoo17, rfl, hl15, k16⟩ := hp
            have kh14 : zkeep h h14 [e] := zkeep.loc kh12 k16 (zall_cons (Or.inl (Or.symm (Or.inl (by simp)))) zall_nil)
            have fh14_1 : h14 cq = some (true, .inr (10, [.int (iI m_2), .ref e, .int (iI ((zs.length : Nat) : Int))])) := k16.n fh12_1 (List.not_mem_cons_of_ne_of_not_mem (zneA fh12_1 fh12_2) List.not_mem_nil)
            have fh14_2 : h14 q_3 = some (false, .inr (6, [.int (iI c_3.1), .int (iI c_3.2.1), .int (iI c_3.2.2.1), .int (iI c_3.2.2.2.1), .int (iI c_3.2.2.2.2)])) := k16.f fh12_3
            have fh14_3 : h14 a11 = some (false, .inr (6, [.int (iI c_3.1), .int (iI c_3.2.1), .int (iI (rsv t m si sm c_3.2.2.1)), .int (iI c_3.2.2.2.1), .int (iI (rsv t m si sm c_3.2.2.2.2))])) := k16.f fka11
            have ph14_1 : ∀ q ∈ zs, zel h14 q := zels.keep k16 ph12_1
            show Z X h14 ((cs.length - i.toNat) - 1) ((5 * (cs.length - i.toNat)) - 5) [(2, .int (iI (n + (1 + 0)))), (6, .int (iI (rsv t m si sm c_3.2.2.2.2))), (5, .int (iI (rsv t m si sm c_3.2.2.1))), (4, .ref q_3), (3, .int (iI i)), (1, .int (iI sm)), (0, .ref c)] 127 [.ref o17]
            refine z_pop (pc := 127) C dX1_respell_2_127 rfl ?_
            refine z_iinc (pc := 128) (k := 4) (L' := [(3, .int (iI (i + 1))), (2, .int (iI (n + (1 + 0)))), (6, .int (iI (rsv t m si sm c_3.2.2.2.2))), (5, .int (iI (rsv t m si sm c_3.2.2.1))), (4, .ref q_3), (1, .int (iI sm)), (0, .ref c)]) C dX1_respell_2_128 rfl (by rw [hnL]; decide) rfl ?_
            refine z_goto (pc := 131) (tgt := 4) C dX1_respell_2_131 (by decide) ?_
            refine Z.weak (L' := [(3, .int (iI (i + 1))), (2, .int (iI (n + (1 + 0)))), (1, .int (iI sm)), (0, .ref c)]) (kc' := (cs.length - (i + 1).toNat)) (ks' := (5 * (cs.length - (i + 1).toNat))) [0, 1, 5, 6] rfl (by omega) (by omega) ?_
            exact ih4 _ (by omega) (i + 1) (n + (1 + 0)) h14 (zs.set i.toNat a11) (by omega) (by omega) (by rw [drop_step hc_3 (by omega), rct] at hd; (repeat' split at hd) <;> omega) kh14 hl15 (mset_step (rsp t m si sm) hc_3 (by omega) ▸ (hzy.keep ((zkeep.mono k13 (fun _ z => nomatch z)).trans k16)).st (show cAt h14 a11 (rsp t m si sm c_3) by unfold cAt rsp; rw [if_neg (by omega)]; exact fh14_3)) rfl
        · refine z_iconst (pc := 84) C dX1_respell_2_84 ?_
          refine z_goto (pc := 85) (tgt := 89) C dX1_respell_2_85 (by decide) ?_
          refine z_iload (pc := 89) (j := 0) C dX1_respell_2_89 rfl ?_
          refine z_aload (pc := 91) (j := 2) C dX1_respell_2_91 rfl ?_
          refine z_getfieldN (pc := 93) (v := .int (iI c_3.2.2.2.2)) C in_X7 rfl 4 (by decide) q604 (fun _ z => z) ha_3 rfl dX1_respell_2_93 ?_
          refine z_icmp_ne (pc := 96) (tgt := 103) C dX1_respell_2_96 (by decide) (by omega) (by omega) (fun c96 => ?_) (fun c96 => ?_)
          · refine z_iconst (pc := 103) C dX1_respell_2_103 ?_
            refine z_iadd (pc := 104) C dX1_respell_2_104 ?_
            refine z_iadd (pc := 105) C dX1_respell_2_105 ?_
            refine z_istore_n (pc := 106) (L' := [(2, .int (iI (n + (0 + 1)))), (6, .int (iI (rsv t m si sm c_3.2.2.2.2))), (5, .int (iI (rsv t m si sm c_3.2.2.1))), (4, .ref q_3), (3, .int (iI i)), (1, .int (iI sm)), (0, .ref c)]) C dX1_respell_2_106 rfl (by rw [hnL]; decide) rfl ?_
            refine z_aload_n (pc := 107) (j := 6) C dX1_respell_2_107 rfl rfl ?_
            refine z_getfield (pc := 108) (v := .ref s) C in_X1 rfl 5 (by decide) q282 (fun _ z => z) (hkp.n hc0 (List.not_mem_cons_of_ne_of_not_mem (zneA hc0 le_1) List.not_mem_nil)) rfl dX1_respell_2_108 ?_
            refine z_getfieldN (pc := 111) (v := .ref cq) C in_X2 rfl 1 (by decide) q172 (fun _ z => z) (hkp.n hs0 (List.not_mem_cons_of_ne_of_not_mem (zneA hs0 le_1) List.not_mem_nil)) rfl dX1_respell_2_111 ?_
            refine z_iload_n (pc := 114) (j := 4) C dX1_respell_2_114 rfl rfl ?_
            refine z_aload (pc := 115) (j := 3) C dX1_respell_2_115 rfl ?_
            refine z_iload (pc := 117) (j := 2) C dX1_respell_2_117 rfl ?_
            refine z_iload (pc := 119) (j := 1) C dX1_respell_2_119 rfl ?_
            refine z_callV (pc := 121) (n := 2) (kc' := ((cs.length - i.toNat) - 1)) (ks' := ((5 * (cs.length - i.toNat)) - 5)) C (ct_C_with C.t (r := rsv t m si sm c_3.2.2.1) (b := rsv t m si sm c_3.2.2.2.2) ha_3) (lw_V q1060 q1061 q1062 q89 q1063) (by decide +kernel) ⟨by decide, by decide⟩ ha_3 rfl rfl rfl (Nat.le_of_ble_eq_true rfl) dX1_respell_2_121 (by omega) (by omega) (zrk fun w h19 hp => ?_) zrx
            obtain ⟨a18, rfl, fka18, fa18, k20⟩ := hp
            have na18 : h a18 = none := hkp.none0 fa18 (List.not_mem_cons_of_ne_of_not_mem (Ne.symm (zneF le_2 fa18)) List.not_mem_nil)
            have kh19 : zkeep h h19 [e] := zkeep.loc hkp k20 zall_nil
            have fh19_1 : h19 cq = some (true, .inr (10, [.int (iI m_2), .ref e, .int (iI ((zs.length : Nat) : Int))])) := k20.n la_2 List.not_mem_nil
            have fh19_2 : h19 e = some ((decide (cap ≠ 0)), .inl ((.object "java/lang/Object"), cap, f_2)) := k20.n le_2 List.not_mem_nil
            have fh19_3 : h19 q_3 = some (false, .inr (6, [.int (iI c_3.1), .int (iI c_3.2.1), .int (iI c_3.2.2.1), .int (iI c_3.2.2.2.1), .int (iI c_3.2.2.2.2)])) := k20.f ha_3
            have ph19_1 : ∀ q ∈ zs, zel h19 q := zels.keep k20 lq_2
            show Z X h19 ((cs.length - i.toNat) - 1) ((5 * (cs.length - i.toNat)) - 5) [(2, .int (iI (n + (0 + 1)))), (6, .int (iI (rsv t m si sm c_3.2.2.2.2))), (5, .int (iI (rsv t m si sm c_3.2.2.1))), (4, .ref q_3), (3, .int (iI i)), (1, .int (iI sm)), (0, .ref c)] 124 [.ref a18, .int (iI i), .ref cq]
            refine z_callV (pc := 124) (n := 2) (kc' := ((cs.length - i.toNat) - 1)) (ks' := ((5 * (cs.length - i.toNat)) - 5)) C (ct_L_set C.t (lAt.mk (cap := cap) rfl rfl rfl fh19_1 fh19_2 lz_2 lt_2 ln_2 lc_2 lx_2 ph19_1) fka18 rfl q2508 (i := i) (by omega)) (lw_V q1066 q1067 q1068 q68 q1069) (by decide +kernel) ⟨by decide, by decide⟩ fh19_1 rfl rfl rfl (Nat.le_of_ble_eq_true rfl) dX1_respell_2_124 (by omega) (by omega) (zrk fun w h21 hp => ?_) zrx
            obtain ⟨o24, hoo24, rfl, hl22, k23⟩ := hp
            have kh21 : zkeep h h21 [e] := zkeep.loc kh19 k23 (zall_cons (Or.inl (Or.symm (Or.inl (by simp)))) zall_nil)
            have fh21_1 : h21 cq = some (true, .inr (10, [.int (iI m_2), .ref e, .int (iI ((zs.length : Nat) : Int))])) := k23.n fh19_1 (List.not_mem_cons_of_ne_of_not_mem (zneA fh19_1 fh19_2) List.not_mem_nil)
            have fh21_2 : h21 q_3 = some (false, .inr (6, [.int (iI c_3.1), .int (iI c_3.2.1), .int (iI c_3.2.2.1), .int (iI c_3.2.2.2.1), .int (iI c_3.2.2.2.2)])) := k23.f fh19_3
            have fh21_3 : h21 a18 = some (false, .inr (6, [.int (iI c_3.1), .int (iI c_3.2.1), .int (iI (rsv t m si sm c_3.2.2.1)), .int (iI c_3.2.2.2.1), .int (iI (rsv t m si sm c_3.2.2.2.2))])) := k23.f fka18
            have ph21_1 : ∀ q ∈ zs, zel h21 q := zels.keep k23 ph19_1
            show Z X h21 ((cs.length - i.toNat) - 1) ((5 * (cs.length - i.toNat)) - 5) [(2, .int (iI (n + (0 + 1)))), (6, .int (iI (rsv t m si sm c_3.2.2.2.2))), (5, .int (iI (rsv t m si sm c_3.2.2.1))), (4, .ref q_3), (3, .int (iI i)), (1, .int (iI sm)), (0, .ref c)] 127 [.ref o24]
            refine z_pop (pc := 127) C dX1_respell_2_127 rfl ?_
            refine z_iinc (pc := 128) (k := 4) (L' := [(3, .int (iI (i + 1))), (2, .int (iI (n + (0 + 1)))), (6, .int (iI (rsv t m si sm c_3.2.2.2.2))), (5, .int (iI (rsv t m si sm c_3.2.2.1))), (4, .ref q_3), (1, .int (iI sm)), (0, .ref c)]) C dX1_respell_2_128 rfl (by rw [hnL]; decide) rfl ?_
            refine z_goto (pc := 131) (tgt := 4) C dX1_respell_2_131 (by decide) ?_
            refine Z.weak (L' := [(3, .int (iI (i + 1))), (2, .int (iI (n + (0 + 1)))), (1, .int (iI sm)), (0, .ref c)]) (kc' := (cs.length - (i + 1).toNat)) (ks' := (5 * (cs.length - (i + 1).toNat))) [0, 1, 5, 6] rfl (by omega) (by omega) ?_
            exact ih4 _ (by omega) (i + 1) (n + (0 + 1)) h21 (zs.set i.toNat a18) (by omega) (by omega) (by rw [drop_step hc_3 (by omega), rct] at hd; (repeat' split at hd) <;> omega) kh21 hl22 (mset_step (rsp t m si sm) hc_3 (by omega) ▸ (hzy.keep ((zkeep.mono k20 (fun _ z => nomatch z)).trans k23)).st (show cAt h21 a18 (rsp t m si sm c_3) by unfold cAt rsp; rw [if_neg (by omega)]; exact fh21_3)) rfl
          · refine z_iconst (pc := 99) C dX1_respell_2_99 ?_
            refine z_goto (pc := 100) (tgt := 104) C dX1_respell_2_100 (by decide) ?_
            refine z_iadd (pc := 104) C dX1_respell_2_104 ?_
            refine z_iadd (pc := 105) C dX1_respell_2_105 ?_
            refine z_istore_n (pc := 106) (L' := [(2, .int (iI (n + (0 + 0)))), (6, .int (iI (rsv t m si sm c_3.2.2.2.2))), (5, .int (iI (rsv t m si sm c_3.2.2.1))), (4, .ref q_3), (3, .int (iI i)), (1, .int (iI sm)), (0, .ref c)]) C dX1_respell_2_106 rfl (by rw [hnL]; decide) rfl ?_
            refine z_aload_n (pc := 107) (j := 6) C dX1_respell_2_107 rfl rfl ?_
            refine z_getfield (pc := 108) (v := .ref s) C in_X1 rfl 5 (by decide) q282 (fun _ z => z) (hkp.n hc0 (List.not_mem_cons_of_ne_of_not_mem (zneA hc0 le_1) List.not_mem_nil)) rfl dX1_respell_2_108 ?_
            refine z_getfieldN (pc := 111) (v := .ref cq) C in_X2 rfl 1 (by decide) q172 (fun _ z => z) (hkp.n hs0 (List.not_mem_cons_of_ne_of_not_mem (zneA hs0 le_1) List.not_mem_nil)) rfl dX1_respell_2_111 ?_
            refine z_iload_n (pc := 114) (j := 4) C dX1_respell_2_114 rfl rfl ?_
            refine z_aload (pc := 115) (j := 3) C dX1_respell_2_115 rfl ?_
            refine z_iload (pc := 117) (j := 2) C dX1_respell_2_117 rfl ?_
            refine z_iload (pc := 119) (j := 1) C dX1_respell_2_119 rfl ?_
            refine z_callV (pc := 121) (n := 2) (kc' := ((cs.length - i.toNat) - 1)) (ks' := ((5 * (cs.length - i.toNat)) - 5)) C (ct_C_with C.t (r := rsv t m si sm c_3.2.2.1) (b := rsv t m si sm c_3.2.2.2.2) ha_3) (lw_V q1060 q1061 q1062 q89 q1063) (by decide +kernel) ⟨by decide, by decide⟩ ha_3 rfl rfl rfl (Nat.le_of_ble_eq_true rfl) dX1_respell_2_121 (by omega) (by omega) (zrk fun w h26 hp => ?_) zrx
            obtain ⟨a25, rfl, fka25, fa25, k27⟩ := hp
            have na25 : h a25 = none := hkp.none0 fa25 (List.not_mem_cons_of_ne_of_not_mem (Ne.symm (zneF le_2 fa25)) List.not_mem_nil)
            have kh26 : zkeep h h26 [e] := zkeep.loc hkp k27 zall_nil
            have fh26_1 : h26 cq = some (true, .inr (10, [.int (iI m_2), .ref e, .int (iI ((zs.length : Nat) : Int))])) := k27.n la_2 List.not_mem_nil
            have fh26_2 : h26 e = some ((decide (cap ≠ 0)), .inl ((.object "java/lang/Object"), cap, f_2)) := k27.n le_2 List.not_mem_nil
            have fh26_3 : h26 q_3 = some (false, .inr (6, [.int (iI c_3.1), .int (iI c_3.2.1), .int (iI c_3.2.2.1), .int (iI c_3.2.2.2.1), .int (iI c_3.2.2.2.2)])) := k27.f ha_3
            have ph26_1 : ∀ q ∈ zs, zel h26 q := zels.keep k27 lq_2
            show Z X h26 ((cs.length - i.toNat) - 1) ((5 * (cs.length - i.toNat)) - 5) [(2, .int (iI (n + (0 + 0)))), (6, .int (iI (rsv t m si sm c_3.2.2.2.2))), (5, .int (iI (rsv t m si sm c_3.2.2.1))), (4, .ref q_3), (3, .int (iI i)), (1, .int (iI sm)), (0, .ref c)] 124 [.ref a25, .int (iI i), .ref cq]
            refine z_callV (pc := 124) (n := 2) (kc' := ((cs.length - i.toNat) - 1)) (ks' := ((5 * (cs.length - i.toNat)) - 5)) C (ct_L_set C.t (lAt.mk (cap := cap) rfl rfl rfl fh26_1 fh26_2 lz_2 lt_2 ln_2 lc_2 lx_2 ph26_1) fka25 rfl q2508 (i := i) (by omega)) (lw_V q1066 q1067 q1068 q68 q1069) (by decide +kernel) ⟨by decide, by decide⟩ fh26_1 rfl rfl rfl (Nat.le_of_ble_eq_true rfl) dX1_respell_2_124 (by omega) (by omega) (zrk fun w h28 hp => ?_) zrx
            obtain ⟨o31, hoo31, rfl, hl29, k30⟩ := hp
            have kh28 : zkeep h h28 [e] := zkeep.loc kh26 k30 (zall_cons (Or.inl (Or.symm (Or.inl (by simp)))) zall_nil)
            have fh28_1 : h28 cq = some (true, .inr (10, [.int (iI m_2), .ref e, .int (iI ((zs.length : Nat) : Int))])) := k30.n fh26_1 (List.not_mem_cons_of_ne_of_not_mem (zneA fh26_1 fh26_2) List.not_mem_nil)
            have fh28_2 : h28 q_3 = some (false, .inr (6, [.int (iI c_3.1), .int (iI c_3.2.1), .int (iI c_3.2.2.1), .int (iI c_3.2.2.2.1), .int (iI c_3.2.2.2.2)])) := k30.f fh26_3
            have fh28_3 : h28 a25 = some (false, .inr (6, [.int (iI c_3.1), .int (iI c_3.2.1), .int (iI (rsv t m si sm c_3.2.2.1)), .int (iI c_3.2.2.2.1), .int (iI (rsv t m si sm c_3.2.2.2.2))])) := k30.f fka25
            have ph28_1 : ∀ q ∈ zs, zel h28 q := zels.keep k30 ph26_1
            show Z X h28 ((cs.length - i.toNat) - 1) ((5 * (cs.length - i.toNat)) - 5) [(2, .int (iI (n + (0 + 0)))), (6, .int (iI (rsv t m si sm c_3.2.2.2.2))), (5, .int (iI (rsv t m si sm c_3.2.2.1))), (4, .ref q_3), (3, .int (iI i)), (1, .int (iI sm)), (0, .ref c)] 127 [.ref o31]
            refine z_pop (pc := 127) C dX1_respell_2_127 rfl ?_
            refine z_iinc (pc := 128) (k := 4) (L' := [(3, .int (iI (i + 1))), (2, .int (iI (n + (0 + 0)))), (6, .int (iI (rsv t m si sm c_3.2.2.2.2))), (5, .int (iI (rsv t m si sm c_3.2.2.1))), (4, .ref q_3), (1, .int (iI sm)), (0, .ref c)]) C dX1_respell_2_128 rfl (by rw [hnL]; decide) rfl ?_
            refine z_goto (pc := 131) (tgt := 4) C dX1_respell_2_131 (by decide) ?_
            refine Z.weak (L' := [(3, .int (iI (i + 1))), (2, .int (iI (n + (0 + 0)))), (1, .int (iI sm)), (0, .ref c)]) (kc' := (cs.length - (i + 1).toNat)) (ks' := (5 * (cs.length - (i + 1).toNat))) [0, 1, 5, 6] rfl (by omega) (by omega) ?_
            exact ih4 _ (by omega) (i + 1) (n + (0 + 0)) h28 (zs.set i.toNat a25) (by omega) (by omega) (by rw [drop_step hc_3 (by omega), rct] at hd; (repeat' split at hd) <;> omega) kh28 hl29 (mset_step (rsp t m si sm) hc_3 (by omega) ▸ (hzy.keep ((zkeep.mono k27 (fun _ z => nomatch z)).trans k30)).st (show cAt h28 a25 (rsp t m si sm c_3) by unfold cAt rsp; rw [if_neg (by omega)]; exact fh28_3)) rfl
      · refine z_bipush (pc := 56) C dX1_respell_2_56 (by decide) ?_
        refine z_goto (pc := 58) (tgt := 71) C dX1_respell_2_58 (by decide) ?_
        refine z_istore (pc := 71) (L' := [(6, .int (iI 100)), (5, .int (iI (rsv t m si sm c_3.2.2.1))), (4, .ref q_3), (3, .int (iI i)), (2, .int (iI n)), (1, .int (iI sm)), (0, .ref c)]) C dX1_respell_2_71 (by rw [hnL]; decide) rfl ?_
        refine z_iload_n (pc := 73) (j := 4) C dX1_respell_2_73 rfl rfl ?_
        refine z_iload (pc := 74) (j := 1) C dX1_respell_2_74 rfl ?_
        refine z_aload (pc := 76) (j := 2) C dX1_respell_2_76 rfl ?_
        refine z_getfieldN (pc := 78) (v := .int (iI c_3.2.2.1)) C in_X7 rfl 2 (by decide) q600 (fun _ z => z) ha_3 rfl dX1_respell_2_78 ?_
        refine z_icmp_ne (pc := 81) (tgt := 88) C dX1_respell_2_81 (by decide) (by omega) (by omega) (fun c81 => ?_) (fun c81 => ?_)
        · refine z_iconst (pc := 88) C dX1_respell_2_88 ?_
          refine z_iload (pc := 89) (j := 0) C dX1_respell_2_89 rfl ?_
          refine z_aload (pc := 91) (j := 2) C dX1_respell_2_91 rfl ?_
          refine z_getfieldN (pc := 93) (v := .int (iI c_3.2.2.2.2)) C in_X7 rfl 4 (by decide) q604 (fun _ z => z) ha_3 rfl dX1_respell_2_93 ?_
          refine z_icmp_ne (pc := 96) (tgt := 103) C dX1_respell_2_96 (by decide) (by decide) (by omega) (fun c96 => ?_) (fun c96 => ?_)
          · refine z_iconst (pc := 103) C dX1_respell_2_103 ?_
            refine z_iadd (pc := 104) C dX1_respell_2_104 ?_
            refine z_iadd (pc := 105) C dX1_respell_2_105 ?_
            refine z_istore_n (pc := 106) (L' := [(2, .int (iI (n + (1 + 1)))), (6, .int (iI 100)), (5, .int (iI (rsv t m si sm c_3.2.2.1))), (4, .ref q_3), (3, .int (iI i)), (1, .int (iI sm)), (0, .ref c)]) C dX1_respell_2_106 rfl (by rw [hnL]; decide) rfl ?_
            refine z_aload_n (pc := 107) (j := 6) C dX1_respell_2_107 rfl rfl ?_
            refine z_getfield (pc := 108) (v := .ref s) C in_X1 rfl 5 (by decide) q282 (fun _ z => z) (hkp.n hc0 (List.not_mem_cons_of_ne_of_not_mem (zneA hc0 le_1) List.not_mem_nil)) rfl dX1_respell_2_108 ?_
            refine z_getfieldN (pc := 111) (v := .ref cq) C in_X2 rfl 1 (by decide) q172 (fun _ z => z) (hkp.n hs0 (List.not_mem_cons_of_ne_of_not_mem (zneA hs0 le_1) List.not_mem_nil)) rfl dX1_respell_2_111 ?_
            refine z_iload_n (pc := 114) (j := 4) C dX1_respell_2_114 rfl rfl ?_
            refine z_aload (pc := 115) (j := 3) C dX1_respell_2_115 rfl ?_
            refine z_iload (pc := 117) (j := 2) C dX1_respell_2_117 rfl ?_
            refine z_iload (pc := 119) (j := 1) C dX1_respell_2_119 rfl ?_
            refine z_callV (pc := 121) (n := 2) (kc' := ((cs.length - i.toNat) - 1)) (ks' := ((5 * (cs.length - i.toNat)) - 5)) C (ct_C_with C.t (r := rsv t m si sm c_3.2.2.1) (b := 100) ha_3) (lw_V q1060 q1061 q1062 q89 q1063) (by decide +kernel) ⟨by decide, by decide⟩ ha_3 rfl rfl rfl (Nat.le_of_ble_eq_true rfl) dX1_respell_2_121 (by omega) (by omega) (zrk fun w h33 hp => ?_) zrx
            obtain ⟨a32, rfl, fka32, fa32, k34⟩ := hp
            have na32 : h a32 = none := hkp.none0 fa32 (List.not_mem_cons_of_ne_of_not_mem (Ne.symm (zneF le_2 fa32)) List.not_mem_nil)
            have kh33 : zkeep h h33 [e] := zkeep.loc hkp k34 zall_nil
            have fh33_1 : h33 cq = some (true, .inr (10, [.int (iI m_2), .ref e, .int (iI ((zs.length : Nat) : Int))])) := k34.n la_2 List.not_mem_nil
            have fh33_2 : h33 e = some ((decide (cap ≠ 0)), .inl ((.object "java/lang/Object"), cap, f_2)) := k34.n le_2 List.not_mem_nil
            have fh33_3 : h33 q_3 = some (false, .inr (6, [.int (iI c_3.1), .int (iI c_3.2.1), .int (iI c_3.2.2.1), .int (iI c_3.2.2.2.1), .int (iI c_3.2.2.2.2)])) := k34.f ha_3
            have ph33_1 : ∀ q ∈ zs, zel h33 q := zels.keep k34 lq_2
            show Z X h33 ((cs.length - i.toNat) - 1) ((5 * (cs.length - i.toNat)) - 5) [(2, .int (iI (n + (1 + 1)))), (6, .int (iI 100)), (5, .int (iI (rsv t m si sm c_3.2.2.1))), (4, .ref q_3), (3, .int (iI i)), (1, .int (iI sm)), (0, .ref c)] 124 [.ref a32, .int (iI i), .ref cq]
            refine z_callV (pc := 124) (n := 2) (kc' := ((cs.length - i.toNat) - 1)) (ks' := ((5 * (cs.length - i.toNat)) - 5)) C (ct_L_set C.t (lAt.mk (cap := cap) rfl rfl rfl fh33_1 fh33_2 lz_2 lt_2 ln_2 lc_2 lx_2 ph33_1) fka32 rfl q2508 (i := i) (by omega)) (lw_V q1066 q1067 q1068 q68 q1069) (by decide +kernel) ⟨by decide, by decide⟩ fh33_1 rfl rfl rfl (Nat.le_of_ble_eq_true rfl) dX1_respell_2_124 (by omega) (by omega) (zrk fun w h35 hp => ?_) zrx
            obtain ⟨o38, hoo38, rfl, hl36, k37⟩ := hp
            have kh35 : zkeep h h35 [e] := zkeep.loc kh33 k37 (zall_cons (Or.inl (Or.symm (Or.inl (by simp)))) zall_nil)
            have fh35_1 : h35 cq = some (true, .inr (10, [.int (iI m_2), .ref e, .int (iI ((zs.length : Nat) : Int))])) := k37.n fh33_1 (List.not_mem_cons_of_ne_of_not_mem (zneA fh33_1 fh33_2) List.not_mem_nil)
            have fh35_2 : h35 q_3 = some (false, .inr (6, [.int (iI c_3.1), .int (iI c_3.2.1), .int (iI c_3.2.2.1), .int (iI c_3.2.2.2.1), .int (iI c_3.2.2.2.2)])) := k37.f fh33_3
            have fh35_3 : h35 a32 = some (false, .inr (6, [.int (iI c_3.1), .int (iI c_3.2.1), .int (iI (rsv t m si sm c_3.2.2.1)), .int (iI c_3.2.2.2.1), .int (iI 100)])) := k37.f fka32
            have ph35_1 : ∀ q ∈ zs, zel h35 q := zels.keep k37 ph33_1
            show Z X h35 ((cs.length - i.toNat) - 1) ((5 * (cs.length - i.toNat)) - 5) [(2, .int (iI (n + (1 + 1)))), (6, .int (iI 100)), (5, .int (iI (rsv t m si sm c_3.2.2.1))), (4, .ref q_3), (3, .int (iI i)), (1, .int (iI sm)), (0, .ref c)] 127 [.ref o38]
            refine z_pop (pc := 127) C dX1_respell_2_127 rfl ?_
            refine z_iinc (pc := 128) (k := 4) (L' := [(3, .int (iI (i + 1))), (2, .int (iI (n + (1 + 1)))), (6, .int (iI 100)), (5, .int (iI (rsv t m si sm c_3.2.2.1))), (4, .ref q_3), (1, .int (iI sm)), (0, .ref c)]) C dX1_respell_2_128 rfl (by rw [hnL]; decide) rfl ?_
            refine z_goto (pc := 131) (tgt := 4) C dX1_respell_2_131 (by decide) ?_
            refine Z.weak (L' := [(3, .int (iI (i + 1))), (2, .int (iI (n + (1 + 1)))), (1, .int (iI sm)), (0, .ref c)]) (kc' := (cs.length - (i + 1).toNat)) (ks' := (5 * (cs.length - (i + 1).toNat))) [0, 1, 5, 6] rfl (by omega) (by omega) ?_
            exact ih4 _ (by omega) (i + 1) (n + (1 + 1)) h35 (zs.set i.toNat a32) (by omega) (by omega) (by rw [drop_step hc_3 (by omega), rct] at hd; (repeat' split at hd) <;> omega) kh35 hl36 (mset_step (rsp t m si sm) hc_3 (by omega) ▸ (hzy.keep ((zkeep.mono k34 (fun _ z => nomatch z)).trans k37)).st (show cAt h35 a32 (rsp t m si sm c_3) by unfold cAt rsp; rw [if_pos (by omega)]; exact fh35_3)) rfl
          · refine z_iconst (pc := 99) C dX1_respell_2_99 ?_
            refine z_goto (pc := 100) (tgt := 104) C dX1_respell_2_100 (by decide) ?_
            refine z_iadd (pc := 104) C dX1_respell_2_104 ?_
            refine z_iadd (pc := 105) C dX1_respell_2_105 ?_
            refine z_istore_n (pc := 106) (L' := [(2, .int (iI (n + (1 + 0)))), (6, .int (iI 100)), (5, .int (iI (rsv t m si sm c_3.2.2.1))), (4, .ref q_3), (3, .int (iI i)), (1, .int (iI sm)), (0, .ref c)]) C dX1_respell_2_106 rfl (by rw [hnL]; decide) rfl ?_
            refine z_aload_n (pc := 107) (j := 6) C dX1_respell_2_107 rfl rfl ?_
            refine z_getfield (pc := 108) (v := .ref s) C in_X1 rfl 5 (by decide) q282 (fun _ z => z) (hkp.n hc0 (List.not_mem_cons_of_ne_of_not_mem (zneA hc0 le_1) List.not_mem_nil)) rfl dX1_respell_2_108 ?_
            refine z_getfieldN (pc := 111) (v := .ref cq) C in_X2 rfl 1 (by decide) q172 (fun _ z => z) (hkp.n hs0 (List.not_mem_cons_of_ne_of_not_mem (zneA hs0 le_1) List.not_mem_nil)) rfl dX1_respell_2_111 ?_
            refine z_iload_n (pc := 114) (j := 4) C dX1_respell_2_114 rfl rfl ?_
            refine z_aload (pc := 115) (j := 3) C dX1_respell_2_115 rfl ?_
            refine z_iload (pc := 117) (j := 2) C dX1_respell_2_117 rfl ?_
            refine z_iload (pc := 119) (j := 1) C dX1_respell_2_119 rfl ?_
            refine z_callV (pc := 121) (n := 2) (kc' := ((cs.length - i.toNat) - 1)) (ks' := ((5 * (cs.length - i.toNat)) - 5)) C (ct_C_with C.t (r := rsv t m si sm c_3.2.2.1) (b := 100) ha_3) (lw_V q1060 q1061 q1062 q89 q1063) (by decide +kernel) ⟨by decide, by decide⟩ ha_3 rfl rfl rfl (Nat.le_of_ble_eq_true rfl) dX1_respell_2_121 (by omega) (by omega) (zrk fun w h40 hp => ?_) zrx
            obtain ⟨a39, rfl, fka39, fa39, k41⟩ := hp
            have na39 : h a39 = none := hkp.none0 fa39 (List.not_mem_cons_of_ne_of_not_mem (Ne.symm (zneF le_2 fa39)) List.not_mem_nil)
            have kh40 : zkeep h h40 [e] := zkeep.loc hkp k41 zall_nil
            have fh40_1 : h40 cq = some (true, .inr (10, [.int (iI m_2), .ref e, .int (iI ((zs.length : Nat) : Int))])) := k41.n la_2 List.not_mem_nil
            have fh40_2 : h40 e = some ((decide (cap ≠ 0)), .inl ((.object "java/lang/Object"), cap, f_2)) := k41.n le_2 List.not_mem_nil
            have fh40_3 : h40 q_3 = some (false, .inr (6, [.int (iI c_3.1), .int (iI c_3.2.1), .int (iI c_3.2.2.1), .int (iI c_3.2.2.2.1), .int (iI c_3.2.2.2.2)])) := k41.f ha_3
            have ph40_1 : ∀ q ∈ zs, zel h40 q := zels.keep k41 lq_2
            show Z X h40 ((cs.length - i.toNat) - 1) ((5 * (cs.length - i.toNat)) - 5) [(2, .int (iI (n + (1 + 0)))), (6, .int (iI 100)), (5, .int (iI (rsv t m si sm c_3.2.2.1))), (4, .ref q_3), (3, .int (iI i)), (1, .int (iI sm)), (0, .ref c)] 124 [.ref a39, .int (iI i), .ref cq]
            refine z_callV (pc := 124) (n := 2) (kc' := ((cs.length - i.toNat) - 1)) (ks' := ((5 * (cs.length - i.toNat)) - 5)) C (ct_L_set C.t (lAt.mk (cap := cap) rfl rfl rfl fh40_1 fh40_2 lz_2 lt_2 ln_2 lc_2 lx_2 ph40_1) fka39 rfl q2508 (i := i) (by omega)) (lw_V q1066 q1067 q1068 q68 q1069) (by decide +kernel) ⟨by decide, by decide⟩ fh40_1 rfl rfl rfl (Nat.le_of_ble_eq_true rfl) dX1_respell_2_124 (by omega) (by omega) (zrk fun w h42 hp => ?_) zrx
            obtain ⟨o45, hoo45, rfl, hl43, k44⟩ := hp
            have kh42 : zkeep h h42 [e] := zkeep.loc kh40 k44 (zall_cons (Or.inl (Or.symm (Or.inl (by simp)))) zall_nil)
            have fh42_1 : h42 cq = some (true, .inr (10, [.int (iI m_2), .ref e, .int (iI ((zs.length : Nat) : Int))])) := k44.n fh40_1 (List.not_mem_cons_of_ne_of_not_mem (zneA fh40_1 fh40_2) List.not_mem_nil)
            have fh42_2 : h42 q_3 = some (false, .inr (6, [.int (iI c_3.1), .int (iI c_3.2.1), .int (iI c_3.2.2.1), .int (iI c_3.2.2.2.1), .int (iI c_3.2.2.2.2)])) := k44.f fh40_3
            have fh42_3 : h42 a39 = some (false, .inr (6, [.int (iI c_3.1), .int (iI c_3.2.1), .int (iI (rsv t m si sm c_3.2.2.1)), .int (iI c_3.2.2.2.1), .int (iI 100)])) := k44.f fka39
            have ph42_1 : ∀ q ∈ zs, zel h42 q := zels.keep k44 ph40_1
            show Z X h42 ((cs.length - i.toNat) - 1) ((5 * (cs.length - i.toNat)) - 5) [(2, .int (iI (n + (1 + 0)))), (6, .int (iI 100)), (5, .int (iI (rsv t m si sm c_3.2.2.1))), (4, .ref q_3), (3, .int (iI i)), (1, .int (iI sm)), (0, .ref c)] 127 [.ref o45]
            refine z_pop (pc := 127) C dX1_respell_2_127 rfl ?_
            refine z_iinc (pc := 128) (k := 4) (L' := [(3, .int (iI (i + 1))), (2, .int (iI (n + (1 + 0)))), (6, .int (iI 100)), (5, .int (iI (rsv t m si sm c_3.2.2.1))), (4, .ref q_3), (1, .int (iI sm)), (0, .ref c)]) C dX1_respell_2_128 rfl (by rw [hnL]; decide) rfl ?_
            refine z_goto (pc := 131) (tgt := 4) C dX1_respell_2_131 (by decide) ?_
            refine Z.weak (L' := [(3, .int (iI (i + 1))), (2, .int (iI (n + (1 + 0)))), (1, .int (iI sm)), (0, .ref c)]) (kc' := (cs.length - (i + 1).toNat)) (ks' := (5 * (cs.length - (i + 1).toNat))) [0, 1, 5, 6] rfl (by omega) (by omega) ?_
            exact ih4 _ (by omega) (i + 1) (n + (1 + 0)) h42 (zs.set i.toNat a39) (by omega) (by omega) (by rw [drop_step hc_3 (by omega), rct] at hd; (repeat' split at hd) <;> omega) kh42 hl43 (mset_step (rsp t m si sm) hc_3 (by omega) ▸ (hzy.keep ((zkeep.mono k41 (fun _ z => nomatch z)).trans k44)).st (show cAt h42 a39 (rsp t m si sm c_3) by unfold cAt rsp; rw [if_pos (by omega)]; exact fh42_3)) rfl
        · refine z_iconst (pc := 84) C dX1_respell_2_84 ?_
          refine z_goto (pc := 85) (tgt := 89) C dX1_respell_2_85 (by decide) ?_
          refine z_iload (pc := 89) (j := 0) C dX1_respell_2_89 rfl ?_
          refine z_aload (pc := 91) (j := 2) C dX1_respell_2_91 rfl ?_
          refine z_getfieldN (pc := 93) (v := .int (iI c_3.2.2.2.2)) C in_X7 rfl 4 (by decide) q604 (fun _ z => z) ha_3 rfl dX1_respell_2_93 ?_
          refine z_icmp_ne (pc := 96) (tgt := 103) C dX1_respell_2_96 (by decide) (by decide) (by omega) (fun c96 => ?_) (fun c96 => ?_)
          · refine z_iconst (pc := 103) C dX1_respell_2_103 ?_
            refine z_iadd (pc := 104) C dX1_respell_2_104 ?_
            refine z_iadd (pc := 105) C dX1_respell_2_105 ?_
            refine z_istore_n (pc := 106) (L' := [(2, .int (iI (n + (0 + 1)))), (6, .int (iI 100)), (5, .int (iI (rsv t m si sm c_3.2.2.1))), (4, .ref q_3), (3, .int (iI i)), (1, .int (iI sm)), (0, .ref c)]) C dX1_respell_2_106 rfl (by rw [hnL]; decide) rfl ?_
            refine z_aload_n (pc := 107) (j := 6) C dX1_respell_2_107 rfl rfl ?_
            refine z_getfield (pc := 108) (v := .ref s) C in_X1 rfl 5 (by decide) q282 (fun _ z => z) (hkp.n hc0 (List.not_mem_cons_of_ne_of_not_mem (zneA hc0 le_1) List.not_mem_nil)) rfl dX1_respell_2_108 ?_
            refine z_getfieldN (pc := 111) (v := .ref cq) C in_X2 rfl 1 (by decide) q172 (fun _ z => z) (hkp.n hs0 (List.not_mem_cons_of_ne_of_not_mem (zneA hs0 le_1) List.not_mem_nil)) rfl dX1_respell_2_111 ?_
            refine z_iload_n (pc := 114) (j := 4) C dX1_respell_2_114 rfl rfl ?_
            refine z_aload (pc := 115) (j := 3) C dX1_respell_2_115 rfl ?_
            refine z_iload (pc := 117) (j := 2) C dX1_respell_2_117 rfl ?_
            refine z_iload (pc := 119) (j := 1) C dX1_respell_2_119 rfl ?_
            refine z_callV (pc := 121) (n := 2) (kc' := ((cs.length - i.toNat) - 1)) (ks' := ((5 * (cs.length - i.toNat)) - 5)) C (ct_C_with C.t (r := rsv t m si sm c_3.2.2.1) (b := 100) ha_3) (lw_V q1060 q1061 q1062 q89 q1063) (by decide +kernel) ⟨by decide, by decide⟩ ha_3 rfl rfl rfl (Nat.le_of_ble_eq_true rfl) dX1_respell_2_121 (by omega) (by omega) (zrk fun w h47 hp => ?_) zrx
            obtain ⟨a46, rfl, fka46, fa46, k48⟩ := hp
            have na46 : h a46 = none := hkp.none0 fa46 (List.not_mem_cons_of_ne_of_not_mem (Ne.symm (zneF le_2 fa46)) List.not_mem_nil)
            have kh47 : zkeep h h47 [e] := zkeep.loc hkp k48 zall_nil
            have fh47_1 : h47 cq = some (true, .inr (10, [.int (iI m_2), .ref e, .int (iI ((zs.length : Nat) : Int))])) := k48.n la_2 List.not_mem_nil
            have fh47_2 : h47 e = some ((decide (cap ≠ 0)), .inl ((.object "java/lang/Object"), cap, f_2)) := k48.n le_2 List.not_mem_nil
            have fh47_3 : h47 q_3 = some (false, .inr (6, [.int (iI c_3.1), .int (iI c_3.2.1), .int (iI c_3.2.2.1), .int (iI c_3.2.2.2.1), .int (iI c_3.2.2.2.2)])) := k48.f ha_3
            have ph47_1 : ∀ q ∈ zs, zel h47 q := zels.keep k48 lq_2
            show Z X h47 ((cs.length - i.toNat) - 1) ((5 * (cs.length - i.toNat)) - 5) [(2, .int (iI (n + (0 + 1)))), (6, .int (iI 100)), (5, .int (iI (rsv t m si sm c_3.2.2.1))), (4, .ref q_3), (3, .int (iI i)), (1, .int (iI sm)), (0, .ref c)] 124 [.ref a46, .int (iI i), .ref cq]
            refine z_callV (pc := 124) (n := 2) (kc' := ((cs.length - i.toNat) - 1)) (ks' := ((5 * (cs.length - i.toNat)) - 5)) C (ct_L_set C.t (lAt.mk (cap := cap) rfl rfl rfl fh47_1 fh47_2 lz_2 lt_2 ln_2 lc_2 lx_2 ph47_1) fka46 rfl q2508 (i := i) (by omega)) (lw_V q1066 q1067 q1068 q68 q1069) (by decide +kernel) ⟨by decide, by decide⟩ fh47_1 rfl rfl rfl (Nat.le_of_ble_eq_true rfl) dX1_respell_2_124 (by omega) (by omega) (zrk fun w h49 hp => ?_) zrx
            obtain ⟨o52, hoo52, rfl, hl50, k51⟩ := hp
            have kh49 : zkeep h h49 [e] := zkeep.loc kh47 k51 (zall_cons (Or.inl (Or.symm (Or.inl (by simp)))) zall_nil)
            have fh49_1 : h49 cq = some (true, .inr (10, [.int (iI m_2), .ref e, .int (iI ((zs.length : Nat) : Int))])) := k51.n fh47_1 (List.not_mem_cons_of_ne_of_not_mem (zneA fh47_1 fh47_2) List.not_mem_nil)
            have fh49_2 : h49 q_3 = some (false, .inr (6, [.int (iI c_3.1), .int (iI c_3.2.1), .int (iI c_3.2.2.1), .int (iI c_3.2.2.2.1), .int (iI c_3.2.2.2.2)])) := k51.f fh47_3
            have fh49_3 : h49 a46 = some (false, .inr (6, [.int (iI c_3.1), .int (iI c_3.2.1), .int (iI (rsv t m si sm c_3.2.2.1)), .int (iI c_3.2.2.2.1), .int (iI 100)])) := k51.f fka46
            have ph49_1 : ∀ q ∈ zs, zel h49 q := zels.keep k51 ph47_1
            show Z X h49 ((cs.length - i.toNat) - 1) ((5 * (cs.length - i.toNat)) - 5) [(2, .int (iI (n + (0 + 1)))), (6, .int (iI 100)), (5, .int (iI (rsv t m si sm c_3.2.2.1))), (4, .ref q_3), (3, .int (iI i)), (1, .int (iI sm)), (0, .ref c)] 127 [.ref o52]
            refine z_pop (pc := 127) C dX1_respell_2_127 rfl ?_
            refine z_iinc (pc := 128) (k := 4) (L' := [(3, .int (iI (i + 1))), (2, .int (iI (n + (0 + 1)))), (6, .int (iI 100)), (5, .int (iI (rsv t m si sm c_3.2.2.1))), (4, .ref q_3), (1, .int (iI sm)), (0, .ref c)]) C dX1_respell_2_128 rfl (by rw [hnL]; decide) rfl ?_
            refine z_goto (pc := 131) (tgt := 4) C dX1_respell_2_131 (by decide) ?_
            refine Z.weak (L' := [(3, .int (iI (i + 1))), (2, .int (iI (n + (0 + 1)))), (1, .int (iI sm)), (0, .ref c)]) (kc' := (cs.length - (i + 1).toNat)) (ks' := (5 * (cs.length - (i + 1).toNat))) [0, 1, 5, 6] rfl (by omega) (by omega) ?_
            exact ih4 _ (by omega) (i + 1) (n + (0 + 1)) h49 (zs.set i.toNat a46) (by omega) (by omega) (by rw [drop_step hc_3 (by omega), rct] at hd; (repeat' split at hd) <;> omega) kh49 hl50 (mset_step (rsp t m si sm) hc_3 (by omega) ▸ (hzy.keep ((zkeep.mono k48 (fun _ z => nomatch z)).trans k51)).st (show cAt h49 a46 (rsp t m si sm c_3) by unfold cAt rsp; rw [if_pos (by omega)]; exact fh49_3)) rfl
          · refine z_iconst (pc := 99) C dX1_respell_2_99 ?_
            refine z_goto (pc := 100) (tgt := 104) C dX1_respell_2_100 (by decide) ?_
            refine z_iadd (pc := 104) C dX1_respell_2_104 ?_
            refine z_iadd (pc := 105) C dX1_respell_2_105 ?_
            refine z_istore_n (pc := 106) (L' := [(2, .int (iI (n + (0 + 0)))), (6, .int (iI 100)), (5, .int (iI (rsv t m si sm c_3.2.2.1))), (4, .ref q_3), (3, .int (iI i)), (1, .int (iI sm)), (0, .ref c)]) C dX1_respell_2_106 rfl (by rw [hnL]; decide) rfl ?_
            refine z_aload_n (pc := 107) (j := 6) C dX1_respell_2_107 rfl rfl ?_
            refine z_getfield (pc := 108) (v := .ref s) C in_X1 rfl 5 (by decide) q282 (fun _ z => z) (hkp.n hc0 (List.not_mem_cons_of_ne_of_not_mem (zneA hc0 le_1) List.not_mem_nil)) rfl dX1_respell_2_108 ?_
            refine z_getfieldN (pc := 111) (v := .ref cq) C in_X2 rfl 1 (by decide) q172 (fun _ z => z) (hkp.n hs0 (List.not_mem_cons_of_ne_of_not_mem (zneA hs0 le_1) List.not_mem_nil)) rfl dX1_respell_2_111 ?_
            refine z_iload_n (pc := 114) (j := 4) C dX1_respell_2_114 rfl rfl ?_
            refine z_aload (pc := 115) (j := 3) C dX1_respell_2_115 rfl ?_
            refine z_iload (pc := 117) (j := 2) C dX1_respell_2_117 rfl ?_
            refine z_iload (pc := 119) (j := 1) C dX1_respell_2_119 rfl ?_
            refine z_callV (pc := 121) (n := 2) (kc' := ((cs.length - i.toNat) - 1)) (ks' := ((5 * (cs.length - i.toNat)) - 5)) C (ct_C_with C.t (r := rsv t m si sm c_3.2.2.1) (b := 100) ha_3) (lw_V q1060 q1061 q1062 q89 q1063) (by decide +kernel) ⟨by decide, by decide⟩ ha_3 rfl rfl rfl (Nat.le_of_ble_eq_true rfl) dX1_respell_2_121 (by omega) (by omega) (zrk fun w h54 hp => ?_) zrx
            obtain ⟨a53, rfl, fka53, fa53, k55⟩ := hp
            have na53 : h a53 = none := hkp.none0 fa53 (List.not_mem_cons_of_ne_of_not_mem (Ne.symm (zneF le_2 fa53)) List.not_mem_nil)
            have kh54 : zkeep h h54 [e] := zkeep.loc hkp k55 zall_nil
            have fh54_1 : h54 cq = some (true, .inr (10, [.int (iI m_2), .ref e, .int (iI ((zs.length : Nat) : Int))])) := k55.n la_2 List.not_mem_nil
            have fh54_2 : h54 e = some ((decide (cap ≠ 0)), .inl ((.object "java/lang/Object"), cap, f_2)) := k55.n le_2 List.not_mem_nil
            have fh54_3 : h54 q_3 = some (false, .inr (6, [.int (iI c_3.1), .int (iI c_3.2.1), .int (iI c_3.2.2.1), .int (iI c_3.2.2.2.1), .int (iI c_3.2.2.2.2)])) := k55.f ha_3
            have ph54_1 : ∀ q ∈ zs, zel h54 q := zels.keep k55 lq_2
            show Z X h54 ((cs.length - i.toNat) - 1) ((5 * (cs.length - i.toNat)) - 5) [(2, .int (iI (n + (0 + 0)))), (6, .int (iI 100)), (5, .int (iI (rsv t m si sm c_3.2.2.1))), (4, .ref q_3), (3, .int (iI i)), (1, .int (iI sm)), (0, .ref c)] 124 [.ref a53, .int (iI i), .ref cq]
            refine z_callV (pc := 124) (n := 2) (kc' := ((cs.length - i.toNat) - 1)) (ks' := ((5 * (cs.length - i.toNat)) - 5)) C (ct_L_set C.t (lAt.mk (cap := cap) rfl rfl rfl fh54_1 fh54_2 lz_2 lt_2 ln_2 lc_2 lx_2 ph54_1) fka53 rfl q2508 (i := i) (by omega)) (lw_V q1066 q1067 q1068 q68 q1069) (by decide +kernel) ⟨by decide, by decide⟩ fh54_1 rfl rfl rfl (Nat.le_of_ble_eq_true rfl) dX1_respell_2_124 (by omega) (by omega) (zrk fun w h56 hp => ?_) zrx
            obtain ⟨o59, hoo59, rfl, hl57, k58⟩ := hp
            have kh56 : zkeep h h56 [e] := zkeep.loc kh54 k58 (zall_cons (Or.inl (Or.symm (Or.inl (by simp)))) zall_nil)
            have fh56_1 : h56 cq = some (true, .inr (10, [.int (iI m_2), .ref e, .int (iI ((zs.length : Nat) : Int))])) := k58.n fh54_1 (List.not_mem_cons_of_ne_of_not_mem (zneA fh54_1 fh54_2) List.not_mem_nil)
            have fh56_2 : h56 q_3 = some (false, .inr (6, [.int (iI c_3.1), .int (iI c_3.2.1), .int (iI c_3.2.2.1), .int (iI c_3.2.2.2.1), .int (iI c_3.2.2.2.2)])) := k58.f fh54_3
            have fh56_3 : h56 a53 = some (false, .inr (6, [.int (iI c_3.1), .int (iI c_3.2.1), .int (iI (rsv t m si sm c_3.2.2.1)), .int (iI c_3.2.2.2.1), .int (iI 100)])) := k58.f fka53
            have ph56_1 : ∀ q ∈ zs, zel h56 q := zels.keep k58 ph54_1
            show Z X h56 ((cs.length - i.toNat) - 1) ((5 * (cs.length - i.toNat)) - 5) [(2, .int (iI (n + (0 + 0)))), (6, .int (iI 100)), (5, .int (iI (rsv t m si sm c_3.2.2.1))), (4, .ref q_3), (3, .int (iI i)), (1, .int (iI sm)), (0, .ref c)] 127 [.ref o59]
            refine z_pop (pc := 127) C dX1_respell_2_127 rfl ?_
            refine z_iinc (pc := 128) (k := 4) (L' := [(3, .int (iI (i + 1))), (2, .int (iI (n + (0 + 0)))), (6, .int (iI 100)), (5, .int (iI (rsv t m si sm c_3.2.2.1))), (4, .ref q_3), (1, .int (iI sm)), (0, .ref c)]) C dX1_respell_2_128 rfl (by rw [hnL]; decide) rfl ?_
            refine z_goto (pc := 131) (tgt := 4) C dX1_respell_2_131 (by decide) ?_
            refine Z.weak (L' := [(3, .int (iI (i + 1))), (2, .int (iI (n + (0 + 0)))), (1, .int (iI sm)), (0, .ref c)]) (kc' := (cs.length - (i + 1).toNat)) (ks' := (5 * (cs.length - (i + 1).toNat))) [0, 1, 5, 6] rfl (by omega) (by omega) ?_
            exact ih4 _ (by omega) (i + 1) (n + (0 + 0)) h56 (zs.set i.toNat a53) (by omega) (by omega) (by rw [drop_step hc_3 (by omega), rct] at hd; (repeat' split at hd) <;> omega) kh56 hl57 (mset_step (rsp t m si sm) hc_3 (by omega) ▸ (hzy.keep ((zkeep.mono k55 (fun _ z => nomatch z)).trans k58)).st (show cAt h56 a53 (rsp t m si sm c_3) by unfold cAt rsp; rw [if_pos (by omega)]; exact fh56_3)) rfl
  refine Z.weak (L' := [(3, .int (iI 0)), (2, .int (iI 0)), (1, .int (iI sm)), (0, .ref c)]) (kc' := (cs.length - (0 : Int).toNat)) (ks' := (5 * (cs.length - (0 : Int).toNat))) [0, 1, 3, 2] rfl (by omega) (by omega) ?_
  exact loop4 _ 0 0 h ys (by omega) (by omega) (by simp) zkeep.rf hl0 (by simpa using hy) rfl
set_option maxHeartbeats 4000000 in
theorem op_respell {l : Launch} (hl : l.stackTraces = false) {Γ : zCx} {h : zH} {c : Nat} {A : zWA} {σ : zSt} (hW : csW Γ h c A σ)  : zMet l yX1_respell (ws_ yX1_respell cX1_respell 1 (some .int)) ({ frames := 9, cells := ((3 + bLC 0 σ.sh.ls.length + bLC 0 σ.sh.cs.length) + σ.sh.cs.length), slots := ((9 + bLS 0 σ.sh.ls.length + bLS 0 σ.sh.cs.length) + 5 * σ.sh.cs.length), locals := 194 }) Γ h [.ref c] (zrt (fun w h' => w = some (.int (iI (rct σ.sh.t σ.sh.m σ.si 0 σ.sh.cs))) ∧ ∃ A', wR Γ h c A h' A' (σ.kp.tx, σ.kp.si, σ.kp.fl, σ.kp.wd, (σ.kp.sh.ls, σ.kp.sh.cs.map (rsp σ.kp.sh.t σ.kp.sh.m σ.kp.si 0), σ.kp.sh.t, σ.kp.sh.m), σ.kp.hi))) ((3 + bLC 0 σ.sh.ls.length + bLC 0 σ.sh.cs.length) + σ.sh.cs.length) ((9 + bLS 0 σ.sh.ls.length + bLS 0 σ.sh.cs.length) + 5 * σ.sh.cs.length) := by
  refine zMet.of (cc := cX1_respell) hl (plainFor_of_name (by decide +kernel)) (Nat.le_of_ble_eq_true rfl) ?_
  intro X hXl hXΓ hXp C hnm hnL
  have C : zC X cX1_respell RX1 (some .int) 9 194 [] := C
  have hnL : X.2.1.2.2.2.2 = 1 := hnL
  subst hXl hXΓ
  show Z X h ((3 + bLC 0 σ.sh.ls.length + bLC 0 σ.sh.cs.length) + σ.sh.cs.length) ((9 + bLS 0 σ.sh.ls.length + bLS 0 σ.sh.cs.length) + 5 * σ.sh.cs.length) [(0, .ref c)] 0 []
  obtain ⟨⟨tf, hc0, htx, hch⟩, hdq, ⟨lq, kq, lys, ys, hsx, hfl, hls, hl0, hyc, hkx⟩, hhi, hnd, hR⟩ := id hW
  obtain ⟨rsi, rff, rwd, rtl, rtx, rsh, rhi, rhl⟩ := id hR
  obtain ⟨rcl, rcr, rll, rlt, rkt, rkm, rks⟩ := rsh
  have hll := hls.len
  have hyl := hyc.len
  obtain ⟨lm, le0, ln0, lf, hlq, hle, hln, hlN, hlx⟩ := id hfl
  have hxw := hl0
  obtain ⟨mw, fw, law, lew, lzw, ltw, lnw, lcw, lxw, lqw⟩ := hxw
  have hcl := hyc.cl lxw
  refine z_aload_n (pc := 0) (j := 0) C dX1_respell_0 rfl rfl ?_
  refine z_callV (pc := 1) (n := 0) (kc' := (((3 + bLC 0 σ.sh.ls.length + bLC 0 σ.sh.cs.length) + σ.sh.cs.length) - (3 + bLC 0 σ.sh.ls.length + bLC 0 σ.sh.cs.length))) (ks' := (((9 + bLS 0 σ.sh.ls.length + bLS 0 σ.sh.cs.length) + 5 * σ.sh.cs.length) - (9 + bLS 0 σ.sh.ls.length + bLS 0 σ.sh.cs.length))) C (op_keep C.t hW) (lw_V q931 q933 qs10 q63 q934) (by decide +kernel) ⟨by decide, by decide⟩ hc0 rfl rfl rfl (Nat.le_of_ble_eq_true rfl) dX1_respell_1 (by omega) (by omega) (zrk fun w h1 hp => ?_) zrx
  obtain ⟨rfl, A_2, hR_2, hcu_2⟩ := hp
  have hW_2 := hR_2.1
  have hk_2 := hR_2.2.1
  obtain ⟨⟨tf, hc0, htx, hch⟩, hdq, ⟨lq, kq, lys, ys, hsx, hfl, hls, hl0, hyc, hkx⟩, hhi, hnd, hR⟩ := id hW_2
  obtain ⟨rsi, rff, rwd, rtl, rtx, rsh, rhi, rhl⟩ := id hR
  obtain ⟨rcl, rcr, rll, rlt, rkt, rkm, rks⟩ := rsh
  have hll := hls.len
  have hyl := hyc.len
  obtain ⟨lm, le0, ln0, lf, hlq, hle, hln, hlN, hlx⟩ := id hfl
  have hxw := hl0
  obtain ⟨mw, fw, law, lew, lzw, ltw, lnw, lcw, lxw, lqw⟩ := hxw
  have hcl := hyc.cl lxw
  show Z X h1 (((3 + bLC 0 σ.sh.ls.length + bLC 0 σ.sh.cs.length) + σ.sh.cs.length) - (3 + bLC 0 σ.sh.ls.length + bLC 0 σ.sh.cs.length)) (((9 + bLS 0 σ.sh.ls.length + bLS 0 σ.sh.cs.length) + 5 * σ.sh.cs.length) - (9 + bLS 0 σ.sh.ls.length + bLS 0 σ.sh.cs.length)) [(0, .ref c)] 4 []
  have hkl : σ.kp.sh.cs.length = σ.sh.cs.length := rfl
  refine z_aload_n (pc := 4) (j := 0) C dX1_respell_4 rfl rfl ?_
  refine z_iconst (pc := 5) C dX1_respell_5 ?_
  refine z_callV (pc := 6) (n := 1) (kc' := ((((3 + bLC 0 σ.sh.ls.length + bLC 0 σ.sh.cs.length) + σ.sh.cs.length) - (3 + bLC 0 σ.sh.ls.length + bLC 0 σ.sh.cs.length)) - σ.kp.sh.cs.length)) (ks' := ((((9 + bLS 0 σ.sh.ls.length + bLS 0 σ.sh.cs.length) + 5 * σ.sh.cs.length) - (9 + bLS 0 σ.sh.ls.length + bLS 0 σ.sh.cs.length)) - (5 * σ.kp.sh.cs.length))) C (ct_respell C.t hc0 hsx hkx rsi (by omega) rkm (lAt.mk (cap := A_2.cu.cap) rfl rfl rfl law lew lzw ltw lnw lcw lxw lqw) hyc rcr (by omega) rks (sm := 0) (by omega)) (lw_V q1034 q1036 qs13 q63 q1037) (by decide +kernel) ⟨by decide, by decide⟩ hc0 rfl rfl rfl (Nat.le_of_ble_eq_true rfl) dX1_respell_6 (by omega) (by omega) (zrk fun w h3 hp => ?_) zrx
  obtain ⟨rfl, zs4, hl5, hz6, k7⟩ := hp
  have kh3 : zkeep h1 h3 [A_2.cu.e] := zkeep.loc zkeep.rf k7 (zall_cons (Or.inl (Or.symm (Or.inl (by simp)))) zall_nil)
  show Z X h3 ((((3 + bLC 0 σ.sh.ls.length + bLC 0 σ.sh.cs.length) + σ.sh.cs.length) - (3 + bLC 0 σ.sh.ls.length + bLC 0 σ.sh.cs.length)) - σ.kp.sh.cs.length) ((((9 + bLS 0 σ.sh.ls.length + bLS 0 σ.sh.cs.length) + 5 * σ.sh.cs.length) - (9 + bLS 0 σ.sh.ls.length + bLS 0 σ.sh.cs.length)) - (5 * σ.kp.sh.cs.length)) [(0, .ref c)] 9 [.int (iI (rct σ.kp.sh.t σ.kp.sh.m σ.kp.si 0 σ.kp.sh.cs))]
  exact z_ireturn (pc := 9) C (by rw [hXp]; exact ⟨_, rfl, rfl, _, wR.trans hR_2 (csW.upSh hW_2 (x := A_2.cu) (S := (σ.kp.sh.ls, σ.kp.sh.cs.map (rsp σ.kp.sh.t σ.kp.sh.m σ.kp.si 0), σ.kp.sh.t, σ.kp.sh.m)) (zkeep_fp hW_2.2.2.1 (kh3.mono (fun q hq => List.mem_cons_of_mem _ (List.mem_cons_of_mem _ hq)))) ⟨lq, kq, lys, zs4, (kh3.n hsx (List.not_mem_cons_of_ne_of_not_mem (zneA hsx lew) List.not_mem_nil)), hfl.keep kh3, hls.keep kh3, hl5, hz6, (kh3.f hkx)⟩ rfl (fun _ h1 => Or.inl h1) ⟨by show (σ.kp.sh.cs.map _).length ≤ 40; rw [List.length_map]; exact rcl, fun c hc => by obtain ⟨d, hd, rfl⟩ := List.mem_map.mp hc; exact rsp_r rks (rcr d hd), rll, rlt, rkt, rkm, rks⟩)⟩) dX1_respell_9
set_option maxHeartbeats 4000000 in
theorem op_transpose {l : Launch} (hl : l.stackTraces = false) {Γ : zCx} {h : zH} {c : Nat} {A : zWA} {σ : zSt} (hW : csW Γ h c A σ) {s : Int} (hs : -11 ≤ s ∧ s ≤ 11)  : zMet l yX1_transpose (ws_ yX1_transpose cX1_transpose 3 (some .int)) ({ frames := 9, cells := (1 + (3 + bLC 0 σ.sh.ls.length + bLC 0 σ.sh.cs.length) + σ.sh.cs.length), slots := (2 + (9 + bLS 0 σ.sh.ls.length + bLS 0 σ.sh.cs.length) + 5 * σ.sh.cs.length), locals := 194 }) Γ h [.ref c, .int (iI s)] (zrt (fun w h' => w = some (.int (iI (sgn (hgt σ.sh.t σ.sh.m s σ.fl) σ.sh.m))) ∧ ∃ A', wR Γ h c A h' A' (σ.kp.tx, σ.kp.si, σ.kp.fl, σ.kp.wd, (σ.kp.sh.ls, σ.kp.sh.cs.map (rsp (hgt σ.kp.sh.t σ.kp.sh.m s σ.kp.fl) σ.kp.sh.m σ.kp.si s), (hgt σ.kp.sh.t σ.kp.sh.m s σ.kp.fl), σ.kp.sh.m), σ.kp.hi))) (1 + (3 + bLC 0 σ.sh.ls.length + bLC 0 σ.sh.cs.length) + σ.sh.cs.length) (2 + (9 + bLS 0 σ.sh.ls.length + bLS 0 σ.sh.cs.length) + 5 * σ.sh.cs.length) := by
  refine zMet.of (cc := cX1_transpose) hl (plainFor_of_name (by decide +kernel)) (Nat.le_of_ble_eq_true rfl) ?_
  intro X hXl hXΓ hXp C hnm hnL
  have C : zC X cX1_transpose RX1 (some .int) 9 194 [] := C
  have hnL : X.2.1.2.2.2.2 = 3 := hnL
  subst hXl hXΓ
  show Z X h (1 + (3 + bLC 0 σ.sh.ls.length + bLC 0 σ.sh.cs.length) + σ.sh.cs.length) (2 + (9 + bLS 0 σ.sh.ls.length + bLS 0 σ.sh.cs.length) + 5 * σ.sh.cs.length) [(0, .ref c), (1, .int (iI s))] 0 []
  obtain ⟨⟨tf, hc0, htx, hch⟩, hdq, ⟨lq, kq, lys, ys, hsx, hfl, hls, hl0, hyc, hkx⟩, hhi, hnd, hR⟩ := id hW
  obtain ⟨rsi, rff, rwd, rtl, rtx, rsh, rhi, rhl⟩ := id hR
  obtain ⟨rcl, rcr, rll, rlt, rkt, rkm, rks⟩ := rsh
  have hll := hls.len
  have hyl := hyc.len
  obtain ⟨lm, le0, ln0, lf, hlq, hle, hln, hlN, hlx⟩ := id hfl
  have hxw := hl0
  obtain ⟨mw, fw, law, lew, lzw, ltw, lnw, lcw, lxw, lqw⟩ := hxw
  have hcl := hyc.cl lxw
  refine z_iload_n (pc := 0) (j := 1) C dX1_transpose_0 rfl rfl ?_
  refine z_i2lI (pc := 1) C dX1_transpose_1 (by omega) ?_
  refine z_ldc2 (pc := 2) (v := lI (-11)) C ((show (-11 : Int64) = lI (-11) by decide +kernel) ▸ q1927) dX1_transpose_2 ?_
  refine z_ldc2 (pc := 5) (v := lI 11) C q1928 dX1_transpose_5 ?_
  refine z_callS (pc := 8) (n := 3) (kc' := (1 + (3 + bLC 0 σ.sh.ls.length + bLC 0 σ.sh.cs.length) + σ.sh.cs.length)) (ks' := (2 + (9 + bLS 0 σ.sh.ls.length + bLS 0 σ.sh.cs.length) + 5 * σ.sh.cs.length)) C (ct_isIn C.t (a := s) (b := (-11)) (c := 11) (by omega) (by decide) (by decide)) (lw_S q1647 q1648 q63 q1649) (by decide +kernel) ⟨by decide, by decide⟩ rfl rfl (Nat.le_of_ble_eq_true rfl) dX1_transpose_8 (by omega) (by omega) (zpk (st' := [.int (iI (if (-11) ≤ s ∧ s ≤ 11 then 1 else 0))]) rfl ?_) zrx
  rw [show ((if (-11) ≤ s ∧ s ≤ 11 then 1 else 0) : Int) = 1 from if_pos (by omega)]
  show Z X h (1 + (3 + bLC 0 σ.sh.ls.length + bLC 0 σ.sh.cs.length) + σ.sh.cs.length) (2 + (9 + bLS 0 σ.sh.ls.length + bLS 0 σ.sh.cs.length) + 5 * σ.sh.cs.length) [(0, .ref c), (1, .int (iI s))] 11 [.int (iI 1)]
  refine z_callS (pc := 11) (n := 1) (kc' := (1 + (3 + bLC 0 σ.sh.ls.length + bLC 0 σ.sh.cs.length) + σ.sh.cs.length)) (ks' := (2 + (9 + bLS 0 σ.sh.ls.length + bLS 0 σ.sh.cs.length) + 5 * σ.sh.cs.length)) C (ct_chkA C.t) (lw_S q1650 q1651 q63 q1652) (by decide +kernel) ⟨by decide, by decide⟩ rfl rfl (Nat.le_of_ble_eq_true rfl) dX1_transpose_11 (by omega) (by omega) (zpk (st' := []) rfl ?_) zrx
  refine z_aload_n (pc := 14) (j := 0) C dX1_transpose_14 rfl rfl ?_
  refine z_callV (pc := 15) (n := 0) (kc' := ((1 + (3 + bLC 0 σ.sh.ls.length + bLC 0 σ.sh.cs.length) + σ.sh.cs.length) - (3 + bLC 0 σ.sh.ls.length + bLC 0 σ.sh.cs.length))) (ks' := ((2 + (9 + bLS 0 σ.sh.ls.length + bLS 0 σ.sh.cs.length) + 5 * σ.sh.cs.length) - (9 + bLS 0 σ.sh.ls.length + bLS 0 σ.sh.cs.length))) C (op_keep C.t hW) (lw_V q931 q933 qs10 q63 q934) (by decide +kernel) ⟨by decide, by decide⟩ hc0 rfl rfl rfl (Nat.le_of_ble_eq_true rfl) dX1_transpose_15 (by omega) (by omega) (zrk fun w h1 hp => ?_) zrx
  obtain ⟨rfl, A_2, hR_2, hcu_2⟩ := hp
  have hW_2 := hR_2.1
  have hk_2 := hR_2.2.1
  obtain ⟨⟨tf, hc0, htx, hch⟩, hdq, ⟨lq, kq, lys, ys, hsx, hfl, hls, hl0, hyc, hkx⟩, hhi, hnd, hR⟩ := id hW_2
  obtain ⟨rsi, rff, rwd, rtl, rtx, rsh, rhi, rhl⟩ := id hR
  obtain ⟨rcl, rcr, rll, rlt, rkt, rkm, rks⟩ := rsh
  have hll := hls.len
  have hyl := hyc.len
  obtain ⟨lm, le0, ln0, lf, hlq, hle, hln, hlN, hlx⟩ := id hfl
  have hxw := hl0
  obtain ⟨mw, fw, law, lew, lzw, ltw, lnw, lcw, lxw, lqw⟩ := hxw
  have hcl := hyc.cl lxw
  show Z X h1 ((1 + (3 + bLC 0 σ.sh.ls.length + bLC 0 σ.sh.cs.length) + σ.sh.cs.length) - (3 + bLC 0 σ.sh.ls.length + bLC 0 σ.sh.cs.length)) ((2 + (9 + bLS 0 σ.sh.ls.length + bLS 0 σ.sh.cs.length) + 5 * σ.sh.cs.length) - (9 + bLS 0 σ.sh.ls.length + bLS 0 σ.sh.cs.length)) [(0, .ref c), (1, .int (iI s))] 18 []
  have hkl : σ.kp.sh.cs.length = σ.sh.cs.length := rfl
  have hgr := hgt_r (t := σ.kp.sh.t) (m := σ.kp.sh.m) (s := s) (fl := σ.kp.fl) rkm
  refine z_aload_n (pc := 18) (j := 0) C dX1_transpose_18 rfl rfl ?_
  refine z_getfield (pc := 19) (v := .ref A_2.cu.s) C in_X1 rfl 5 (by decide) q282 (fun _ z => z) hc0 rfl dX1_transpose_19 ?_
  refine z_aload_n (pc := 22) (j := 0) C dX1_transpose_22 rfl rfl ?_
  refine z_getfield (pc := 23) (v := .ref A_2.cu.s) C in_X1 rfl 5 (by decide) q282 (fun _ z => z) hc0 rfl dX1_transpose_23 ?_
  refine z_getfieldN (pc := 26) (v := .ref kq) C in_X2 rfl 2 (by decide) q175 (fun _ z => z) hsx rfl dX1_transpose_26 ?_
  refine z_iload_n (pc := 29) (j := 1) C dX1_transpose_29 rfl rfl ?_
  refine z_aload_n (pc := 30) (j := 0) C dX1_transpose_30 rfl rfl ?_
  refine z_getfield (pc := 31) (v := .int (iI σ.kp.fl)) C in_X1 rfl 3 (by decide) q278 (fun _ z => z) hc0 rfl dX1_transpose_31 ?_
  refine z_callV (pc := 34) (n := 2) (kc' := (((1 + (3 + bLC 0 σ.sh.ls.length + bLC 0 σ.sh.cs.length) + σ.sh.cs.length) - (3 + bLC 0 σ.sh.ls.length + bLC 0 σ.sh.cs.length)) - 1)) (ks' := (((2 + (9 + bLS 0 σ.sh.ls.length + bLS 0 σ.sh.cs.length) + 5 * σ.sh.cs.length) - (9 + bLS 0 σ.sh.ls.length + bLS 0 σ.sh.cs.length)) - 2)) C (ct_K_higher C.t (s := s) (fl := σ.kp.fl) hkx (by omega) (by omega) (by omega) (by omega)) (lw_V q1929 q1930 q1931 q65 q1932) (by decide +kernel) ⟨by decide, by decide⟩ hkx rfl rfl rfl (Nat.le_of_ble_eq_true rfl) dX1_transpose_34 (by omega) (by omega) (zrk fun w h4 hp => ?_) zrx
  obtain ⟨a3, rfl, fka3, fa3, k5⟩ := hp
  have na3 : h1 a3 = none := fa3
  have kh4 : zkeep h1 h4 [A_2.cu.s, A_2.cu.e] := zkeep.loc zkeep.rf k5 zall_nil
  have fh4_1 : h4 A_2.cu.s = some (true, .inr (1, [.ref lq, .ref A_2.cu.cq, .ref kq])) := k5.n hsx List.not_mem_nil
  have fh4_2 : h4 A_2.cu.e = some ((decide (A_2.cu.cap ≠ 0)), .inl ((.object "java/lang/Object"), A_2.cu.cap, fw)) := k5.n lew List.not_mem_nil
  show Z X h4 (((1 + (3 + bLC 0 σ.sh.ls.length + bLC 0 σ.sh.cs.length) + σ.sh.cs.length) - (3 + bLC 0 σ.sh.ls.length + bLC 0 σ.sh.cs.length)) - 1) (((2 + (9 + bLS 0 σ.sh.ls.length + bLS 0 σ.sh.cs.length) + 5 * σ.sh.cs.length) - (9 + bLS 0 σ.sh.ls.length + bLS 0 σ.sh.cs.length)) - 2) [(0, .ref c), (1, .int (iI s))] 37 [.ref a3, .ref A_2.cu.s]
  refine z_putfieldN (pc := 37) (fs' := [.ref lq, .ref A_2.cu.cq, .ref a3]) C in_X2 tyX2 tyX2_ok nmX2 rfl 2 (by decide) q175 (fun _ z => z) rfl rfl rfl (Nat.le_of_ble_eq_true rfl) fh4_1 rfl dX1_transpose_37 ?_
  refine Z.nm (fun h6 eh6 => ?_)
  have kh6 : zkeep h1 h6 [A_2.cu.s, A_2.cu.e] := by rw [eh6]; exact zkeep.up kh4 (Or.inl (by simp)) fh4_1
  have fh6_0 : h6 A_2.cu.s = some (true, .inr (1, [.ref lq, .ref A_2.cu.cq, .ref a3])) := zse eh6
  have fh6_1 : h6 A_2.cu.e = some ((decide (A_2.cu.cap ≠ 0)), .inl ((.object "java/lang/Object"), A_2.cu.cap, fw)) := zsn eh6 fh4_2 (Ne.symm (zneA fh4_1 fh4_2))
  have fh6_2 : h6 a3 = some (false, .inr (2, [.int (iI (hgt σ.kp.sh.t σ.kp.sh.m s σ.kp.fl)), .int (iI σ.kp.sh.m)])) := zsn eh6 fka3 (zneW fka3 fh4_1)
  refine z_aload_n (pc := 40) (j := 0) C dX1_transpose_40 rfl rfl ?_
  refine z_iload_n (pc := 41) (j := 1) C dX1_transpose_41 rfl rfl ?_
  refine z_callV (pc := 42) (n := 1) (kc' := ((((1 + (3 + bLC 0 σ.sh.ls.length + bLC 0 σ.sh.cs.length) + σ.sh.cs.length) - (3 + bLC 0 σ.sh.ls.length + bLC 0 σ.sh.cs.length)) - 1) - σ.kp.sh.cs.length)) (ks' := ((((2 + (9 + bLS 0 σ.sh.ls.length + bLS 0 σ.sh.cs.length) + 5 * σ.sh.cs.length) - (9 + bLS 0 σ.sh.ls.length + bLS 0 σ.sh.cs.length)) - 2) - (5 * σ.kp.sh.cs.length))) C (ct_respell C.t (kh6.n hc0 (List.not_mem_cons_of_ne_of_not_mem (zneC hc0 hsx (by decide)) (List.not_mem_cons_of_ne_of_not_mem (zneA hc0 lew) List.not_mem_nil))) fh6_0 fh6_2 rsi (by omega) rkm (lAt.mk (cap := A_2.cu.cap) rfl rfl rfl (kh6.n law (List.not_mem_cons_of_ne_of_not_mem (zneC law hsx (by decide)) (List.not_mem_cons_of_ne_of_not_mem (zneA law lew) List.not_mem_nil))) fh6_1 lzw ltw lnw lcw lxw (zels.keep kh6 lqw)) (ycs.keep kh6 hyc) rcr (by omega) hgr.1 (sm := s) (by omega)) (lw_V q1034 q1036 qs13 q63 q1037) (by decide +kernel) ⟨by decide, by decide⟩ (kh6.n hc0 (List.not_mem_cons_of_ne_of_not_mem (zneC hc0 hsx (by decide)) (List.not_mem_cons_of_ne_of_not_mem (zneA hc0 lew) List.not_mem_nil))) rfl rfl rfl (Nat.le_of_ble_eq_true rfl) dX1_transpose_42 (by omega) (by omega) (zrk fun w h7 hp => ?_) zrx
  obtain ⟨rfl, zs8, hl9, hz10, k11⟩ := hp
  have kh7 : zkeep h1 h7 [A_2.cu.s, A_2.cu.e] := zkeep.loc kh6 k11 (zall_cons (Or.inl (Or.symm (Or.inl (by simp)))) zall_nil)
  have fh7_1 : h7 a3 = some (false, .inr (2, [.int (iI (hgt σ.kp.sh.t σ.kp.sh.m s σ.kp.fl)), .int (iI σ.kp.sh.m)])) := k11.f fh6_2
  have fh7_2 : h7 A_2.cu.s = some (true, .inr (1, [.ref lq, .ref A_2.cu.cq, .ref a3])) := k11.n fh6_0 (List.not_mem_cons_of_ne_of_not_mem (zneA fh6_0 fh6_1) List.not_mem_nil)
  show Z X h7 ((((1 + (3 + bLC 0 σ.sh.ls.length + bLC 0 σ.sh.cs.length) + σ.sh.cs.length) - (3 + bLC 0 σ.sh.ls.length + bLC 0 σ.sh.cs.length)) - 1) - σ.kp.sh.cs.length) ((((2 + (9 + bLS 0 σ.sh.ls.length + bLS 0 σ.sh.cs.length) + 5 * σ.sh.cs.length) - (9 + bLS 0 σ.sh.ls.length + bLS 0 σ.sh.cs.length)) - 2) - (5 * σ.kp.sh.cs.length)) [(0, .ref c), (1, .int (iI s))] 45 [.int (iI (rct (hgt σ.kp.sh.t σ.kp.sh.m s σ.kp.fl) σ.kp.sh.m σ.kp.si s σ.kp.sh.cs))]
  refine z_istore_n (pc := 45) (L' := [(2, .int (iI (rct (hgt σ.kp.sh.t σ.kp.sh.m s σ.kp.fl) σ.kp.sh.m σ.kp.si s σ.kp.sh.cs))), (0, .ref c), (1, .int (iI s))]) C dX1_transpose_45 rfl (by rw [hnL]; decide) rfl ?_
  refine z_aload_n (pc := 46) (j := 1) C dX1_transpose_46 rfl rfl ?_
  refine z_getfield (pc := 47) (v := .ref A_2.cu.s) C in_X1 rfl 5 (by decide) q282 (fun _ z => z) (kh7.n hc0 (List.not_mem_cons_of_ne_of_not_mem (zneC hc0 hsx (by decide)) (List.not_mem_cons_of_ne_of_not_mem (zneA hc0 lew) List.not_mem_nil))) rfl dX1_transpose_47 ?_
  refine z_getfieldN (pc := 50) (v := .ref a3) C in_X2 rfl 2 (by decide) q175 (fun _ z => z) fh7_2 rfl dX1_transpose_50 ?_
  refine z_callV (pc := 53) (n := 0) (kc' := ((((1 + (3 + bLC 0 σ.sh.ls.length + bLC 0 σ.sh.cs.length) + σ.sh.cs.length) - (3 + bLC 0 σ.sh.ls.length + bLC 0 σ.sh.cs.length)) - 1) - σ.kp.sh.cs.length)) (ks' := ((((2 + (9 + bLS 0 σ.sh.ls.length + bLS 0 σ.sh.cs.length) + 5 * σ.sh.cs.length) - (9 + bLS 0 σ.sh.ls.length + bLS 0 σ.sh.cs.length)) - 2) - (5 * σ.kp.sh.cs.length))) C (ct_K_sig C.t (t := hgt σ.kp.sh.t σ.kp.sh.m s σ.kp.fl) (m := σ.kp.sh.m) fh7_1 (by omega) (by omega)) (lw_V q1024 q921 q922 q65 q923) (by decide +kernel) ⟨by decide, by decide⟩ fh7_1 rfl rfl rfl (Nat.le_of_ble_eq_true rfl) dX1_transpose_53 (by omega) (by omega) (zpk (st' := [.int (iI (sgn (hgt σ.kp.sh.t σ.kp.sh.m s σ.kp.fl) σ.kp.sh.m))]) rfl ?_) zrx
  exact z_ireturn (pc := 56) C (by rw [hXp]; exact ⟨_, rfl, rfl, _, wR.trans hR_2 (csW.upSh hW_2 (x := A_2.cu) (S := (σ.kp.sh.ls, σ.kp.sh.cs.map (rsp (hgt σ.kp.sh.t σ.kp.sh.m s σ.kp.fl) σ.kp.sh.m σ.kp.si s), (hgt σ.kp.sh.t σ.kp.sh.m s σ.kp.fl), σ.kp.sh.m)) (zkeep_fp hW_2.2.2.1 (kh7.mono (fun q hq => by simp only [List.mem_cons, List.not_mem_nil, or_false] at hq ⊢; omega))) ⟨lq, a3, lys, zs8, fh7_2, hfl.keep kh7, hls.keep kh7, hl9, hz10, fh7_1⟩ rfl (fun _ h1 => Or.inl h1) ⟨by show (σ.kp.sh.cs.map _).length ≤ 40; rw [List.length_map]; exact rcl, fun c hc => by obtain ⟨d, hd, rfl⟩ := List.mem_map.mp hc; exact rsp_r hgr.1 (rcr d hd), rll, rlt, (hgt_r rkm).2, rkm, (hgt_r rkm).1⟩)⟩) dX1_transpose_56
set_option maxHeartbeats 4000000 in
theorem op_transpose_b {l : Launch} (hl : l.stackTraces = false) {Γ : zCx} {h : zH} {c : Nat} {A : zWA} {σ : zSt} (hW : csW Γ h c A σ) {s : Int} (hr : -2147483648 ≤ s ∧ s ≤ 2147483647) (hb : ¬ (-11 ≤ s ∧ s ≤ 11))  : zMet l yX1_transpose (ws_ yX1_transpose cX1_transpose 3 (some .int)) ({ frames := 7, cells := 1, slots := 6, locals := 101 }) Γ h [.ref c, .int (iI s)] (zthp h "java/lang/IllegalArgumentException") 1 6 := by
  refine zMet.of (cc := cX1_transpose) hl (plainFor_of_name (by decide +kernel)) (Nat.le_of_ble_eq_true rfl) ?_
  intro X hXl hXΓ hXp C hnm hnL
  have C : zC X cX1_transpose RX1 (some .int) 7 101 [] := C
  have hnL : X.2.1.2.2.2.2 = 3 := hnL
  subst hXl hXΓ
  show Z X h 1 6 [(0, .ref c), (1, .int (iI s))] 0 []
  obtain ⟨⟨tf, hc0, htx, hch⟩, hdq, ⟨lq, kq, lys, ys, hsx, hfl, hls, hl0, hyc, hkx⟩, hhi, hnd, hR⟩ := id hW
  obtain ⟨rsi, rff, rwd, rtl, rtx, rsh, rhi, rhl⟩ := id hR
  obtain ⟨rcl, rcr, rll, rlt, rkt, rkm, rks⟩ := rsh
  have hll := hls.len
  have hyl := hyc.len
  obtain ⟨lm, le0, ln0, lf, hlq, hle, hln, hlN, hlx⟩ := id hfl
  have hxw := hl0
  obtain ⟨mw, fw, law, lew, lzw, ltw, lnw, lcw, lxw, lqw⟩ := hxw
  have hcl := hyc.cl lxw
  refine z_iload_n (pc := 0) (j := 1) C dX1_transpose_0 rfl rfl ?_
  refine z_i2lI (pc := 1) C dX1_transpose_1 (by omega) ?_
  refine z_ldc2 (pc := 2) (v := lI (-11)) C ((show (-11 : Int64) = lI (-11) by decide +kernel) ▸ q1927) dX1_transpose_2 ?_
  refine z_ldc2 (pc := 5) (v := lI 11) C q1928 dX1_transpose_5 ?_
  refine z_callS (pc := 8) (n := 3) (kc' := 1) (ks' := 6) C (ct_isIn C.t (a := s) (b := (-11)) (c := 11) (by omega) (by decide) (by decide)) (lw_S q1647 q1648 q63 q1649) (by decide +kernel) ⟨by decide, by decide⟩ rfl rfl (Nat.le_of_ble_eq_true rfl) dX1_transpose_8 (by omega) (by omega) (zpk (st' := [.int (iI (if (-11) ≤ s ∧ s ≤ 11 then 1 else 0))]) rfl ?_) zrx
  rw [show ((if (-11) ≤ s ∧ s ≤ 11 then 1 else 0) : Int) = 0 from if_neg (by omega)]
  show Z X h 1 6 [(0, .ref c), (1, .int (iI s))] 11 [.int (iI 0)]
  refine z_callS (pc := 11) (n := 1) (kc' := 0) (ks' := 0) C (ct_chkAb C.t ) (lw_S q1650 q1651 q63 q1652) (by decide +kernel) ⟨by decide, by decide⟩ rfl rfl (Nat.le_of_ble_eq_true rfl) dX1_transpose_11 (by omega) (by omega) zthk (zthx fun q2 h1 hp => ?_)
  rw [hp]
  exact zx_out C (fun x hx => nomatch hx) (by rw [hXp]; exact ⟨_, rfl, rfl⟩)

/-! 53.minit.lean.txt -/
set_option maxRecDepth 100000
abbrev cX4_init : ByteArray := prog_11_method_1_code
def yX4_init : MethodName := ⟨RX4, "<init>", "()V"⟩
def dkwX4_init_13 : List UInt8 := [180, 0, 7, 3, 4, 79, 177]
abbrev dktX4_init_13 : List UInt8 := dkwX4_init_13 ++ []
def dkwX4_init_12 : List UInt8 := [181, 0, 37, 42, 17, 4, 176, 188, 10, 181, 0, 40, 42, 17, 4, 176, 188, 10, 181, 0, 43, 42]
abbrev dktX4_init_12 : List UInt8 := dkwX4_init_12 ++ dktX4_init_13
def dkwX4_init_11 : List UInt8 := [16, 29, 16, 59, 85, 181, 0, 31, 42, 17, 2, 108, 188, 10, 181, 0, 34, 42, 16, 20, 188, 10]
abbrev dktX4_init_11 : List UInt8 := dkwX4_init_11 ++ dktX4_init_12
def dkwX4_init_10 : List UInt8 := [16, 25, 16, 59, 85, 89, 16, 26, 16, 54, 85, 89, 16, 27, 16, 59, 85, 89, 16, 28, 16, 57, 85, 89]
abbrev dktX4_init_10 : List UInt8 := dkwX4_init_10 ++ dktX4_init_11
def dkwX4_init_9 : List UInt8 := [16, 21, 16, 115, 85, 89, 16, 22, 16, 117, 85, 89, 16, 23, 16, 115, 85, 89, 16, 24, 16, 52, 85, 89]
abbrev dktX4_init_9 : List UInt8 := dkwX4_init_9 ++ dktX4_init_10
def dkwX4_init_8 : List UInt8 := [16, 17, 16, 97, 85, 89, 16, 18, 16, 117, 85, 89, 16, 19, 16, 103, 85, 89, 16, 20, 16, 59, 85, 89]
abbrev dktX4_init_8 : List UInt8 := dkwX4_init_8 ++ dktX4_init_9
def dkwX4_init_7 : List UInt8 := [16, 13, 16, 100, 85, 89, 16, 14, 16, 105, 85, 89, 16, 15, 16, 109, 85, 89, 16, 16, 16, 59, 85, 89]
abbrev dktX4_init_7 : List UInt8 := dkwX4_init_7 ++ dktX4_init_8
def dkwX4_init_6 : List UInt8 := [16, 9, 16, 97, 85, 89, 16, 10, 16, 106, 85, 89, 16, 11, 16, 55, 85, 89, 16, 12, 16, 59, 85, 89]
abbrev dktX4_init_6 : List UInt8 := dkwX4_init_6 ++ dktX4_init_7
def dkwX4_init_5 : List UInt8 := [8, 16, 109, 85, 89, 16, 6, 16, 55, 85, 89, 16, 7, 16, 59, 85, 89, 16, 8, 16, 109, 85, 89]
abbrev dktX4_init_5 : List UInt8 := dkwX4_init_5 ++ dktX4_init_6
def dkwX4_init_4 : List UInt8 := [16, 59, 85, 89, 4, 16, 109, 85, 89, 5, 16, 59, 85, 89, 6, 16, 55, 85, 89, 7, 16, 59, 85, 89]
abbrev dktX4_init_4 : List UInt8 := dkwX4_init_4 ++ dktX4_init_5
def dkwX4_init_3 : List UInt8 := [16, 65, 85, 89, 8, 16, 69, 85, 89, 16, 6, 16, 66, 85, 181, 0, 27, 42, 16, 30, 188, 5, 89, 3]
abbrev dktX4_init_3 : List UInt8 := dkwX4_init_3 ++ dktX4_init_4
def dkwX4_init_2 : List UInt8 := [188, 5, 89, 3, 16, 70, 85, 89, 4, 16, 67, 85, 89, 5, 16, 71, 85, 89, 6, 16, 68, 85, 89, 7]
abbrev dktX4_init_2 : List UInt8 := dkwX4_init_2 ++ dktX4_init_3
def dkwX4_init_1 : List UInt8 := [17, 0, 200, 188, 10, 181, 0, 16, 42, 4, 181, 0, 19, 42, 17, 0, 200, 181, 0, 23, 42, 16, 7]
abbrev dktX4_init_1 : List UInt8 := dkwX4_init_1 ++ dktX4_init_2
def dkwX4_init_0 : List UInt8 := [42, 183, 0, 1, 42, 17, 2, 108, 188, 10, 181, 0, 7, 42, 17, 19, 96, 188, 10, 181, 0, 13, 42]
abbrev dktX4_init_0 : List UInt8 := dkwX4_init_0 ++ dktX4_init_1
theorem dksX4_init_0 : cX4_init.data.toList.drop 0 = dktX4_init_0 := by decide +kernel
theorem dksX4_init_1 : cX4_init.data.toList.drop 23 = dktX4_init_1 := dk_seg dksX4_init_0 23 rfl rfl
theorem dksX4_init_2 : cX4_init.data.toList.drop 46 = dktX4_init_2 := dk_seg dksX4_init_1 23 rfl rfl
theorem dksX4_init_3 : cX4_init.data.toList.drop 70 = dktX4_init_3 := dk_seg dksX4_init_2 24 rfl rfl
theorem dksX4_init_4 : cX4_init.data.toList.drop 94 = dktX4_init_4 := dk_seg dksX4_init_3 24 rfl rfl
theorem dksX4_init_5 : cX4_init.data.toList.drop 118 = dktX4_init_5 := dk_seg dksX4_init_4 24 rfl rfl
theorem dksX4_init_6 : cX4_init.data.toList.drop 141 = dktX4_init_6 := dk_seg dksX4_init_5 23 rfl rfl
theorem dksX4_init_7 : cX4_init.data.toList.drop 165 = dktX4_init_7 := dk_seg dksX4_init_6 24 rfl rfl
theorem dksX4_init_8 : cX4_init.data.toList.drop 189 = dktX4_init_8 := dk_seg dksX4_init_7 24 rfl rfl
theorem dksX4_init_9 : cX4_init.data.toList.drop 213 = dktX4_init_9 := dk_seg dksX4_init_8 24 rfl rfl
theorem dksX4_init_10 : cX4_init.data.toList.drop 237 = dktX4_init_10 := dk_seg dksX4_init_9 24 rfl rfl
theorem dksX4_init_11 : cX4_init.data.toList.drop 261 = dktX4_init_11 := dk_seg dksX4_init_10 24 rfl rfl
theorem dksX4_init_12 : cX4_init.data.toList.drop 283 = dktX4_init_12 := dk_seg dksX4_init_11 22 rfl rfl
theorem dksX4_init_13 : cX4_init.data.toList.drop 305 = dktX4_init_13 := dk_seg dksX4_init_12 22 rfl rfl
theorem dX4_init_0 : decode cX4_init 0 = .ok (.aload_n 0, 1) := dk_42 (dk_at dksX4_init_0 0 rfl rfl)
theorem dX4_init_1 : decode cX4_init 1 = .ok (.invokespecial 1, 3) := dk_183 0 1 (dk_at dksX4_init_0 1 rfl rfl)
theorem dX4_init_4 : decode cX4_init 4 = .ok (.aload_n 0, 1) := dk_42 (dk_at dksX4_init_0 4 rfl rfl)
theorem dX4_init_5 : decode cX4_init 5 = .ok (.sipush 620, 3) := dk_17 2 108 (dk_at dksX4_init_0 5 rfl rfl)
theorem dX4_init_8 : decode cX4_init 8 = .ok (.newarray .int, 2) := dk_188_10 (dk_at dksX4_init_0 8 rfl rfl)
theorem dX4_init_10 : decode cX4_init 10 = .ok (.putfield 7, 3) := dk_181 0 7 (dk_at dksX4_init_0 10 rfl rfl)
theorem dX4_init_13 : decode cX4_init 13 = .ok (.aload_n 0, 1) := dk_42 (dk_at dksX4_init_0 13 rfl rfl)
theorem dX4_init_14 : decode cX4_init 14 = .ok (.sipush 4960, 3) := dk_17 19 96 (dk_at dksX4_init_0 14 rfl rfl)
theorem dX4_init_17 : decode cX4_init 17 = .ok (.newarray .int, 2) := dk_188_10 (dk_at dksX4_init_0 17 rfl rfl)
theorem dX4_init_19 : decode cX4_init 19 = .ok (.putfield 13, 3) := dk_181 0 13 (dk_at dksX4_init_0 19 rfl rfl)
theorem dX4_init_22 : decode cX4_init 22 = .ok (.aload_n 0, 1) := dk_42 (dk_at dksX4_init_0 22 rfl rfl)
theorem dX4_init_23 : decode cX4_init 23 = .ok (.sipush 200, 3) := dk_17 0 200 (dk_at dksX4_init_1 0 rfl rfl)
theorem dX4_init_26 : decode cX4_init 26 = .ok (.newarray .int, 2) := dk_188_10 (dk_at dksX4_init_1 3 rfl rfl)
theorem dX4_init_28 : decode cX4_init 28 = .ok (.putfield 16, 3) := dk_181 0 16 (dk_at dksX4_init_1 5 rfl rfl)
theorem dX4_init_31 : decode cX4_init 31 = .ok (.aload_n 0, 1) := dk_42 (dk_at dksX4_init_1 8 rfl rfl)
theorem dX4_init_32 : decode cX4_init 32 = .ok (.iconst 1, 1) := dk_4 (dk_at dksX4_init_1 9 rfl rfl)
theorem dX4_init_33 : decode cX4_init 33 = .ok (.putfield 19, 3) := dk_181 0 19 (dk_at dksX4_init_1 10 rfl rfl)
theorem dX4_init_36 : decode cX4_init 36 = .ok (.aload_n 0, 1) := dk_42 (dk_at dksX4_init_1 13 rfl rfl)
theorem dX4_init_37 : decode cX4_init 37 = .ok (.sipush 200, 3) := dk_17 0 200 (dk_at dksX4_init_1 14 rfl rfl)
theorem dX4_init_40 : decode cX4_init 40 = .ok (.putfield 23, 3) := dk_181 0 23 (dk_at dksX4_init_1 17 rfl rfl)
theorem dX4_init_43 : decode cX4_init 43 = .ok (.aload_n 0, 1) := dk_42 (dk_at dksX4_init_1 20 rfl rfl)
theorem dX4_init_44 : decode cX4_init 44 = .ok (.bipush 7, 2) := dk_16 7 (dk_at dksX4_init_1 21 rfl rfl)
theorem dX4_init_46 : decode cX4_init 46 = .ok (.newarray .char, 2) := dk_188_5 (dk_at dksX4_init_2 0 rfl rfl)
theorem dX4_init_48 : decode cX4_init 48 = .ok (.dup, 1) := dk_89 (dk_at dksX4_init_2 2 rfl rfl)
theorem dX4_init_49 : decode cX4_init 49 = .ok (.iconst 0, 1) := dk_3 (dk_at dksX4_init_2 3 rfl rfl)
theorem dX4_init_50 : decode cX4_init 50 = .ok (.bipush 70, 2) := dk_16 70 (dk_at dksX4_init_2 4 rfl rfl)
theorem dX4_init_52 : decode cX4_init 52 = .ok (.castore, 1) := dk_85 (dk_at dksX4_init_2 6 rfl rfl)
theorem dX4_init_53 : decode cX4_init 53 = .ok (.dup, 1) := dk_89 (dk_at dksX4_init_2 7 rfl rfl)
theorem dX4_init_54 : decode cX4_init 54 = .ok (.iconst 1, 1) := dk_4 (dk_at dksX4_init_2 8 rfl rfl)
theorem dX4_init_55 : decode cX4_init 55 = .ok (.bipush 67, 2) := dk_16 67 (dk_at dksX4_init_2 9 rfl rfl)
theorem dX4_init_57 : decode cX4_init 57 = .ok (.castore, 1) := dk_85 (dk_at dksX4_init_2 11 rfl rfl)
theorem dX4_init_58 : decode cX4_init 58 = .ok (.dup, 1) := dk_89 (dk_at dksX4_init_2 12 rfl rfl)
theorem dX4_init_59 : decode cX4_init 59 = .ok (.iconst 2, 1) := dk_5 (dk_at dksX4_init_2 13 rfl rfl)
theorem dX4_init_60 : decode cX4_init 60 = .ok (.bipush 71, 2) := dk_16 71 (dk_at dksX4_init_2 14 rfl rfl)
theorem dX4_init_62 : decode cX4_init 62 = .ok (.castore, 1) := dk_85 (dk_at dksX4_init_2 16 rfl rfl)
theorem dX4_init_63 : decode cX4_init 63 = .ok (.dup, 1) := dk_89 (dk_at dksX4_init_2 17 rfl rfl)
theorem dX4_init_64 : decode cX4_init 64 = .ok (.iconst 3, 1) := dk_6 (dk_at dksX4_init_2 18 rfl rfl)
theorem dX4_init_65 : decode cX4_init 65 = .ok (.bipush 68, 2) := dk_16 68 (dk_at dksX4_init_2 19 rfl rfl)
theorem dX4_init_67 : decode cX4_init 67 = .ok (.castore, 1) := dk_85 (dk_at dksX4_init_2 21 rfl rfl)
theorem dX4_init_68 : decode cX4_init 68 = .ok (.dup, 1) := dk_89 (dk_at dksX4_init_2 22 rfl rfl)
theorem dX4_init_69 : decode cX4_init 69 = .ok (.iconst 4, 1) := dk_7 (dk_at dksX4_init_2 23 rfl rfl)
theorem dX4_init_70 : decode cX4_init 70 = .ok (.bipush 65, 2) := dk_16 65 (dk_at dksX4_init_3 0 rfl rfl)
theorem dX4_init_72 : decode cX4_init 72 = .ok (.castore, 1) := dk_85 (dk_at dksX4_init_3 2 rfl rfl)
theorem dX4_init_73 : decode cX4_init 73 = .ok (.dup, 1) := dk_89 (dk_at dksX4_init_3 3 rfl rfl)
theorem dX4_init_74 : decode cX4_init 74 = .ok (.iconst 5, 1) := dk_8 (dk_at dksX4_init_3 4 rfl rfl)
theorem dX4_init_75 : decode cX4_init 75 = .ok (.bipush 69, 2) := dk_16 69 (dk_at dksX4_init_3 5 rfl rfl)
theorem dX4_init_77 : decode cX4_init 77 = .ok (.castore, 1) := dk_85 (dk_at dksX4_init_3 7 rfl rfl)
theorem dX4_init_78 : decode cX4_init 78 = .ok (.dup, 1) := dk_89 (dk_at dksX4_init_3 8 rfl rfl)
theorem dX4_init_79 : decode cX4_init 79 = .ok (.bipush 6, 2) := dk_16 6 (dk_at dksX4_init_3 9 rfl rfl)
theorem dX4_init_81 : decode cX4_init 81 = .ok (.bipush 66, 2) := dk_16 66 (dk_at dksX4_init_3 11 rfl rfl)
theorem dX4_init_83 : decode cX4_init 83 = .ok (.castore, 1) := dk_85 (dk_at dksX4_init_3 13 rfl rfl)
theorem dX4_init_84 : decode cX4_init 84 = .ok (.putfield 27, 3) := dk_181 0 27 (dk_at dksX4_init_3 14 rfl rfl)
theorem dX4_init_87 : decode cX4_init 87 = .ok (.aload_n 0, 1) := dk_42 (dk_at dksX4_init_3 17 rfl rfl)
theorem dX4_init_88 : decode cX4_init 88 = .ok (.bipush 30, 2) := dk_16 30 (dk_at dksX4_init_3 18 rfl rfl)
theorem dX4_init_90 : decode cX4_init 90 = .ok (.newarray .char, 2) := dk_188_5 (dk_at dksX4_init_3 20 rfl rfl)
theorem dX4_init_92 : decode cX4_init 92 = .ok (.dup, 1) := dk_89 (dk_at dksX4_init_3 22 rfl rfl)
theorem dX4_init_93 : decode cX4_init 93 = .ok (.iconst 0, 1) := dk_3 (dk_at dksX4_init_3 23 rfl rfl)
theorem dX4_init_94 : decode cX4_init 94 = .ok (.bipush 59, 2) := dk_16 59 (dk_at dksX4_init_4 0 rfl rfl)
theorem dX4_init_96 : decode cX4_init 96 = .ok (.castore, 1) := dk_85 (dk_at dksX4_init_4 2 rfl rfl)
theorem dX4_init_97 : decode cX4_init 97 = .ok (.dup, 1) := dk_89 (dk_at dksX4_init_4 3 rfl rfl)
theorem dX4_init_98 : decode cX4_init 98 = .ok (.iconst 1, 1) := dk_4 (dk_at dksX4_init_4 4 rfl rfl)
theorem dX4_init_99 : decode cX4_init 99 = .ok (.bipush 109, 2) := dk_16 109 (dk_at dksX4_init_4 5 rfl rfl)
theorem dX4_init_101 : decode cX4_init 101 = .ok (.castore, 1) := dk_85 (dk_at dksX4_init_4 7 rfl rfl)
theorem dX4_init_102 : decode cX4_init 102 = .ok (.dup, 1) := dk_89 (dk_at dksX4_init_4 8 rfl rfl)
theorem dX4_init_103 : decode cX4_init 103 = .ok (.iconst 2, 1) := dk_5 (dk_at dksX4_init_4 9 rfl rfl)
theorem dX4_init_104 : decode cX4_init 104 = .ok (.bipush 59, 2) := dk_16 59 (dk_at dksX4_init_4 10 rfl rfl)
theorem dX4_init_106 : decode cX4_init 106 = .ok (.castore, 1) := dk_85 (dk_at dksX4_init_4 12 rfl rfl)
theorem dX4_init_107 : decode cX4_init 107 = .ok (.dup, 1) := dk_89 (dk_at dksX4_init_4 13 rfl rfl)
theorem dX4_init_108 : decode cX4_init 108 = .ok (.iconst 3, 1) := dk_6 (dk_at dksX4_init_4 14 rfl rfl)
theorem dX4_init_109 : decode cX4_init 109 = .ok (.bipush 55, 2) := dk_16 55 (dk_at dksX4_init_4 15 rfl rfl)
theorem dX4_init_111 : decode cX4_init 111 = .ok (.castore, 1) := dk_85 (dk_at dksX4_init_4 17 rfl rfl)
theorem dX4_init_112 : decode cX4_init 112 = .ok (.dup, 1) := dk_89 (dk_at dksX4_init_4 18 rfl rfl)
theorem dX4_init_113 : decode cX4_init 113 = .ok (.iconst 4, 1) := dk_7 (dk_at dksX4_init_4 19 rfl rfl)
theorem dX4_init_114 : decode cX4_init 114 = .ok (.bipush 59, 2) := dk_16 59 (dk_at dksX4_init_4 20 rfl rfl)
theorem dX4_init_116 : decode cX4_init 116 = .ok (.castore, 1) := dk_85 (dk_at dksX4_init_4 22 rfl rfl)
theorem dX4_init_117 : decode cX4_init 117 = .ok (.dup, 1) := dk_89 (dk_at dksX4_init_4 23 rfl rfl)
theorem dX4_init_118 : decode cX4_init 118 = .ok (.iconst 5, 1) := dk_8 (dk_at dksX4_init_5 0 rfl rfl)
theorem dX4_init_119 : decode cX4_init 119 = .ok (.bipush 109, 2) := dk_16 109 (dk_at dksX4_init_5 1 rfl rfl)
theorem dX4_init_121 : decode cX4_init 121 = .ok (.castore, 1) := dk_85 (dk_at dksX4_init_5 3 rfl rfl)
theorem dX4_init_122 : decode cX4_init 122 = .ok (.dup, 1) := dk_89 (dk_at dksX4_init_5 4 rfl rfl)
theorem dX4_init_123 : decode cX4_init 123 = .ok (.bipush 6, 2) := dk_16 6 (dk_at dksX4_init_5 5 rfl rfl)
theorem dX4_init_125 : decode cX4_init 125 = .ok (.bipush 55, 2) := dk_16 55 (dk_at dksX4_init_5 7 rfl rfl)
theorem dX4_init_127 : decode cX4_init 127 = .ok (.castore, 1) := dk_85 (dk_at dksX4_init_5 9 rfl rfl)
theorem dX4_init_128 : decode cX4_init 128 = .ok (.dup, 1) := dk_89 (dk_at dksX4_init_5 10 rfl rfl)
theorem dX4_init_129 : decode cX4_init 129 = .ok (.bipush 7, 2) := dk_16 7 (dk_at dksX4_init_5 11 rfl rfl)
theorem dX4_init_131 : decode cX4_init 131 = .ok (.bipush 59, 2) := dk_16 59 (dk_at dksX4_init_5 13 rfl rfl)
theorem dX4_init_133 : decode cX4_init 133 = .ok (.castore, 1) := dk_85 (dk_at dksX4_init_5 15 rfl rfl)
theorem dX4_init_134 : decode cX4_init 134 = .ok (.dup, 1) := dk_89 (dk_at dksX4_init_5 16 rfl rfl)
theorem dX4_init_135 : decode cX4_init 135 = .ok (.bipush 8, 2) := dk_16 8 (dk_at dksX4_init_5 17 rfl rfl)
theorem dX4_init_137 : decode cX4_init 137 = .ok (.bipush 109, 2) := dk_16 109 (dk_at dksX4_init_5 19 rfl rfl)
theorem dX4_init_139 : decode cX4_init 139 = .ok (.castore, 1) := dk_85 (dk_at dksX4_init_5 21 rfl rfl)
theorem dX4_init_140 : decode cX4_init 140 = .ok (.dup, 1) := dk_89 (dk_at dksX4_init_5 22 rfl rfl)
theorem dX4_init_141 : decode cX4_init 141 = .ok (.bipush 9, 2) := dk_16 9 (dk_at dksX4_init_6 0 rfl rfl)
theorem dX4_init_143 : decode cX4_init 143 = .ok (.bipush 97, 2) := dk_16 97 (dk_at dksX4_init_6 2 rfl rfl)
theorem dX4_init_145 : decode cX4_init 145 = .ok (.castore, 1) := dk_85 (dk_at dksX4_init_6 4 rfl rfl)
theorem dX4_init_146 : decode cX4_init 146 = .ok (.dup, 1) := dk_89 (dk_at dksX4_init_6 5 rfl rfl)
theorem dX4_init_147 : decode cX4_init 147 = .ok (.bipush 10, 2) := dk_16 10 (dk_at dksX4_init_6 6 rfl rfl)
theorem dX4_init_149 : decode cX4_init 149 = .ok (.bipush 106, 2) := dk_16 106 (dk_at dksX4_init_6 8 rfl rfl)
theorem dX4_init_151 : decode cX4_init 151 = .ok (.castore, 1) := dk_85 (dk_at dksX4_init_6 10 rfl rfl)
theorem dX4_init_152 : decode cX4_init 152 = .ok (.dup, 1) := dk_89 (dk_at dksX4_init_6 11 rfl rfl)
theorem dX4_init_153 : decode cX4_init 153 = .ok (.bipush 11, 2) := dk_16 11 (dk_at dksX4_init_6 12 rfl rfl)
theorem dX4_init_155 : decode cX4_init 155 = .ok (.bipush 55, 2) := dk_16 55 (dk_at dksX4_init_6 14 rfl rfl)
theorem dX4_init_157 : decode cX4_init 157 = .ok (.castore, 1) := dk_85 (dk_at dksX4_init_6 16 rfl rfl)
theorem dX4_init_158 : decode cX4_init 158 = .ok (.dup, 1) := dk_89 (dk_at dksX4_init_6 17 rfl rfl)
theorem dX4_init_159 : decode cX4_init 159 = .ok (.bipush 12, 2) := dk_16 12 (dk_at dksX4_init_6 18 rfl rfl)
theorem dX4_init_161 : decode cX4_init 161 = .ok (.bipush 59, 2) := dk_16 59 (dk_at dksX4_init_6 20 rfl rfl)
theorem dX4_init_163 : decode cX4_init 163 = .ok (.castore, 1) := dk_85 (dk_at dksX4_init_6 22 rfl rfl)
theorem dX4_init_164 : decode cX4_init 164 = .ok (.dup, 1) := dk_89 (dk_at dksX4_init_6 23 rfl rfl)
theorem dX4_init_165 : decode cX4_init 165 = .ok (.bipush 13, 2) := dk_16 13 (dk_at dksX4_init_7 0 rfl rfl)
theorem dX4_init_167 : decode cX4_init 167 = .ok (.bipush 100, 2) := dk_16 100 (dk_at dksX4_init_7 2 rfl rfl)
theorem dX4_init_169 : decode cX4_init 169 = .ok (.castore, 1) := dk_85 (dk_at dksX4_init_7 4 rfl rfl)
theorem dX4_init_170 : decode cX4_init 170 = .ok (.dup, 1) := dk_89 (dk_at dksX4_init_7 5 rfl rfl)
theorem dX4_init_171 : decode cX4_init 171 = .ok (.bipush 14, 2) := dk_16 14 (dk_at dksX4_init_7 6 rfl rfl)
theorem dX4_init_173 : decode cX4_init 173 = .ok (.bipush 105, 2) := dk_16 105 (dk_at dksX4_init_7 8 rfl rfl)
theorem dX4_init_175 : decode cX4_init 175 = .ok (.castore, 1) := dk_85 (dk_at dksX4_init_7 10 rfl rfl)
theorem dX4_init_176 : decode cX4_init 176 = .ok (.dup, 1) := dk_89 (dk_at dksX4_init_7 11 rfl rfl)
theorem dX4_init_177 : decode cX4_init 177 = .ok (.bipush 15, 2) := dk_16 15 (dk_at dksX4_init_7 12 rfl rfl)
theorem dX4_init_179 : decode cX4_init 179 = .ok (.bipush 109, 2) := dk_16 109 (dk_at dksX4_init_7 14 rfl rfl)
theorem dX4_init_181 : decode cX4_init 181 = .ok (.castore, 1) := dk_85 (dk_at dksX4_init_7 16 rfl rfl)
theorem dX4_init_182 : decode cX4_init 182 = .ok (.dup, 1) := dk_89 (dk_at dksX4_init_7 17 rfl rfl)
theorem dX4_init_183 : decode cX4_init 183 = .ok (.bipush 16, 2) := dk_16 16 (dk_at dksX4_init_7 18 rfl rfl)
theorem dX4_init_185 : decode cX4_init 185 = .ok (.bipush 59, 2) := dk_16 59 (dk_at dksX4_init_7 20 rfl rfl)
theorem dX4_init_187 : decode cX4_init 187 = .ok (.castore, 1) := dk_85 (dk_at dksX4_init_7 22 rfl rfl)
theorem dX4_init_188 : decode cX4_init 188 = .ok (.dup, 1) := dk_89 (dk_at dksX4_init_7 23 rfl rfl)
theorem dX4_init_189 : decode cX4_init 189 = .ok (.bipush 17, 2) := dk_16 17 (dk_at dksX4_init_8 0 rfl rfl)
theorem dX4_init_191 : decode cX4_init 191 = .ok (.bipush 97, 2) := dk_16 97 (dk_at dksX4_init_8 2 rfl rfl)
theorem dX4_init_193 : decode cX4_init 193 = .ok (.castore, 1) := dk_85 (dk_at dksX4_init_8 4 rfl rfl)
theorem dX4_init_194 : decode cX4_init 194 = .ok (.dup, 1) := dk_89 (dk_at dksX4_init_8 5 rfl rfl)
theorem dX4_init_195 : decode cX4_init 195 = .ok (.bipush 18, 2) := dk_16 18 (dk_at dksX4_init_8 6 rfl rfl)
theorem dX4_init_197 : decode cX4_init 197 = .ok (.bipush 117, 2) := dk_16 117 (dk_at dksX4_init_8 8 rfl rfl)
theorem dX4_init_199 : decode cX4_init 199 = .ok (.castore, 1) := dk_85 (dk_at dksX4_init_8 10 rfl rfl)
theorem dX4_init_200 : decode cX4_init 200 = .ok (.dup, 1) := dk_89 (dk_at dksX4_init_8 11 rfl rfl)
theorem dX4_init_201 : decode cX4_init 201 = .ok (.bipush 19, 2) := dk_16 19 (dk_at dksX4_init_8 12 rfl rfl)
theorem dX4_init_203 : decode cX4_init 203 = .ok (.bipush 103, 2) := dk_16 103 (dk_at dksX4_init_8 14 rfl rfl)
theorem dX4_init_205 : decode cX4_init 205 = .ok (.castore, 1) := dk_85 (dk_at dksX4_init_8 16 rfl rfl)
theorem dX4_init_206 : decode cX4_init 206 = .ok (.dup, 1) := dk_89 (dk_at dksX4_init_8 17 rfl rfl)
theorem dX4_init_207 : decode cX4_init 207 = .ok (.bipush 20, 2) := dk_16 20 (dk_at dksX4_init_8 18 rfl rfl)
theorem dX4_init_209 : decode cX4_init 209 = .ok (.bipush 59, 2) := dk_16 59 (dk_at dksX4_init_8 20 rfl rfl)
theorem dX4_init_211 : decode cX4_init 211 = .ok (.castore, 1) := dk_85 (dk_at dksX4_init_8 22 rfl rfl)
theorem dX4_init_212 : decode cX4_init 212 = .ok (.dup, 1) := dk_89 (dk_at dksX4_init_8 23 rfl rfl)
theorem dX4_init_213 : decode cX4_init 213 = .ok (.bipush 21, 2) := dk_16 21 (dk_at dksX4_init_9 0 rfl rfl)
theorem dX4_init_215 : decode cX4_init 215 = .ok (.bipush 115, 2) := dk_16 115 (dk_at dksX4_init_9 2 rfl rfl)
theorem dX4_init_217 : decode cX4_init 217 = .ok (.castore, 1) := dk_85 (dk_at dksX4_init_9 4 rfl rfl)
theorem dX4_init_218 : decode cX4_init 218 = .ok (.dup, 1) := dk_89 (dk_at dksX4_init_9 5 rfl rfl)
theorem dX4_init_219 : decode cX4_init 219 = .ok (.bipush 22, 2) := dk_16 22 (dk_at dksX4_init_9 6 rfl rfl)
theorem dX4_init_221 : decode cX4_init 221 = .ok (.bipush 117, 2) := dk_16 117 (dk_at dksX4_init_9 8 rfl rfl)
theorem dX4_init_223 : decode cX4_init 223 = .ok (.castore, 1) := dk_85 (dk_at dksX4_init_9 10 rfl rfl)
theorem dX4_init_224 : decode cX4_init 224 = .ok (.dup, 1) := dk_89 (dk_at dksX4_init_9 11 rfl rfl)
theorem dX4_init_225 : decode cX4_init 225 = .ok (.bipush 23, 2) := dk_16 23 (dk_at dksX4_init_9 12 rfl rfl)
theorem dX4_init_227 : decode cX4_init 227 = .ok (.bipush 115, 2) := dk_16 115 (dk_at dksX4_init_9 14 rfl rfl)
theorem dX4_init_229 : decode cX4_init 229 = .ok (.castore, 1) := dk_85 (dk_at dksX4_init_9 16 rfl rfl)
theorem dX4_init_230 : decode cX4_init 230 = .ok (.dup, 1) := dk_89 (dk_at dksX4_init_9 17 rfl rfl)
theorem dX4_init_231 : decode cX4_init 231 = .ok (.bipush 24, 2) := dk_16 24 (dk_at dksX4_init_9 18 rfl rfl)
theorem dX4_init_233 : decode cX4_init 233 = .ok (.bipush 52, 2) := dk_16 52 (dk_at dksX4_init_9 20 rfl rfl)
theorem dX4_init_235 : decode cX4_init 235 = .ok (.castore, 1) := dk_85 (dk_at dksX4_init_9 22 rfl rfl)
theorem dX4_init_236 : decode cX4_init 236 = .ok (.dup, 1) := dk_89 (dk_at dksX4_init_9 23 rfl rfl)
theorem dX4_init_237 : decode cX4_init 237 = .ok (.bipush 25, 2) := dk_16 25 (dk_at dksX4_init_10 0 rfl rfl)
theorem dX4_init_239 : decode cX4_init 239 = .ok (.bipush 59, 2) := dk_16 59 (dk_at dksX4_init_10 2 rfl rfl)
theorem dX4_init_241 : decode cX4_init 241 = .ok (.castore, 1) := dk_85 (dk_at dksX4_init_10 4 rfl rfl)
theorem dX4_init_242 : decode cX4_init 242 = .ok (.dup, 1) := dk_89 (dk_at dksX4_init_10 5 rfl rfl)
theorem dX4_init_243 : decode cX4_init 243 = .ok (.bipush 26, 2) := dk_16 26 (dk_at dksX4_init_10 6 rfl rfl)
theorem dX4_init_245 : decode cX4_init 245 = .ok (.bipush 54, 2) := dk_16 54 (dk_at dksX4_init_10 8 rfl rfl)
theorem dX4_init_247 : decode cX4_init 247 = .ok (.castore, 1) := dk_85 (dk_at dksX4_init_10 10 rfl rfl)
theorem dX4_init_248 : decode cX4_init 248 = .ok (.dup, 1) := dk_89 (dk_at dksX4_init_10 11 rfl rfl)
theorem dX4_init_249 : decode cX4_init 249 = .ok (.bipush 27, 2) := dk_16 27 (dk_at dksX4_init_10 12 rfl rfl)
theorem dX4_init_251 : decode cX4_init 251 = .ok (.bipush 59, 2) := dk_16 59 (dk_at dksX4_init_10 14 rfl rfl)
theorem dX4_init_253 : decode cX4_init 253 = .ok (.castore, 1) := dk_85 (dk_at dksX4_init_10 16 rfl rfl)
theorem dX4_init_254 : decode cX4_init 254 = .ok (.dup, 1) := dk_89 (dk_at dksX4_init_10 17 rfl rfl)
theorem dX4_init_255 : decode cX4_init 255 = .ok (.bipush 28, 2) := dk_16 28 (dk_at dksX4_init_10 18 rfl rfl)
theorem dX4_init_257 : decode cX4_init 257 = .ok (.bipush 57, 2) := dk_16 57 (dk_at dksX4_init_10 20 rfl rfl)
theorem dX4_init_259 : decode cX4_init 259 = .ok (.castore, 1) := dk_85 (dk_at dksX4_init_10 22 rfl rfl)
theorem dX4_init_260 : decode cX4_init 260 = .ok (.dup, 1) := dk_89 (dk_at dksX4_init_10 23 rfl rfl)
theorem dX4_init_261 : decode cX4_init 261 = .ok (.bipush 29, 2) := dk_16 29 (dk_at dksX4_init_11 0 rfl rfl)
theorem dX4_init_263 : decode cX4_init 263 = .ok (.bipush 59, 2) := dk_16 59 (dk_at dksX4_init_11 2 rfl rfl)
theorem dX4_init_265 : decode cX4_init 265 = .ok (.castore, 1) := dk_85 (dk_at dksX4_init_11 4 rfl rfl)
theorem dX4_init_266 : decode cX4_init 266 = .ok (.putfield 31, 3) := dk_181 0 31 (dk_at dksX4_init_11 5 rfl rfl)
theorem dX4_init_269 : decode cX4_init 269 = .ok (.aload_n 0, 1) := dk_42 (dk_at dksX4_init_11 8 rfl rfl)
theorem dX4_init_270 : decode cX4_init 270 = .ok (.sipush 620, 3) := dk_17 2 108 (dk_at dksX4_init_11 9 rfl rfl)
theorem dX4_init_273 : decode cX4_init 273 = .ok (.newarray .int, 2) := dk_188_10 (dk_at dksX4_init_11 12 rfl rfl)
theorem dX4_init_275 : decode cX4_init 275 = .ok (.putfield 34, 3) := dk_181 0 34 (dk_at dksX4_init_11 14 rfl rfl)
theorem dX4_init_278 : decode cX4_init 278 = .ok (.aload_n 0, 1) := dk_42 (dk_at dksX4_init_11 17 rfl rfl)
theorem dX4_init_279 : decode cX4_init 279 = .ok (.bipush 20, 2) := dk_16 20 (dk_at dksX4_init_11 18 rfl rfl)
theorem dX4_init_281 : decode cX4_init 281 = .ok (.newarray .int, 2) := dk_188_10 (dk_at dksX4_init_11 20 rfl rfl)
theorem dX4_init_283 : decode cX4_init 283 = .ok (.putfield 37, 3) := dk_181 0 37 (dk_at dksX4_init_12 0 rfl rfl)
theorem dX4_init_286 : decode cX4_init 286 = .ok (.aload_n 0, 1) := dk_42 (dk_at dksX4_init_12 3 rfl rfl)
theorem dX4_init_287 : decode cX4_init 287 = .ok (.sipush 1200, 3) := dk_17 4 176 (dk_at dksX4_init_12 4 rfl rfl)
theorem dX4_init_290 : decode cX4_init 290 = .ok (.newarray .int, 2) := dk_188_10 (dk_at dksX4_init_12 7 rfl rfl)
theorem dX4_init_292 : decode cX4_init 292 = .ok (.putfield 40, 3) := dk_181 0 40 (dk_at dksX4_init_12 9 rfl rfl)
theorem dX4_init_295 : decode cX4_init 295 = .ok (.aload_n 0, 1) := dk_42 (dk_at dksX4_init_12 12 rfl rfl)
theorem dX4_init_296 : decode cX4_init 296 = .ok (.sipush 1200, 3) := dk_17 4 176 (dk_at dksX4_init_12 13 rfl rfl)
theorem dX4_init_299 : decode cX4_init 299 = .ok (.newarray .int, 2) := dk_188_10 (dk_at dksX4_init_12 16 rfl rfl)
theorem dX4_init_301 : decode cX4_init 301 = .ok (.putfield 43, 3) := dk_181 0 43 (dk_at dksX4_init_12 18 rfl rfl)
theorem dX4_init_304 : decode cX4_init 304 = .ok (.aload_n 0, 1) := dk_42 (dk_at dksX4_init_12 21 rfl rfl)
theorem dX4_init_305 : decode cX4_init 305 = .ok (.getfield 7, 3) := dk_180 0 7 (dk_at dksX4_init_13 0 rfl rfl)
theorem dX4_init_308 : decode cX4_init 308 = .ok (.iconst 0, 1) := dk_3 (dk_at dksX4_init_13 3 rfl rfl)
theorem dX4_init_309 : decode cX4_init 309 = .ok (.iconst 1, 1) := dk_4 (dk_at dksX4_init_13 4 rfl rfl)
theorem dX4_init_310 : decode cX4_init 310 = .ok (.iastore, 1) := dk_79 (dk_at dksX4_init_13 5 rfl rfl)
theorem dX4_init_311 : decode cX4_init 311 = .ok (.return_, 1) := dk_177 (dk_at dksX4_init_13 6 rfl rfl)
theorem q2081 : (Jvm.Cond.methodLink "ChordSheetModel" (1 : Nat) ({ cls := "java/lang/Object", name := "<init>", desc := "()V" } : Jvm.MethodName)) ∈ lw_all := lw_g (lw_at lw_m9 99 rfl) rfl
theorem q2102 : (Jvm.Cond.fieldLink "ChordSheetModel" (40 : Nat) "ChordSheetModel" "upper" "[I") ∈ lw_all := lw_g (lw_at lw_m9 120 rfl) rfl
theorem q2103 : (Jvm.Cond.fieldLink "ChordSheetModel" (43 : Nat) "ChordSheetModel" "lower" "[I") ∈ lw_all := lw_g (lw_at lw_m9 121 rfl) rfl
theorem q2155 : (Jvm.Cond.arrayClass Jvm.ClassFile.FieldType.int) ∈ lw_all := lw_g (lw_at lw_m9 173 rfl) rfl
theorem ltF_z {j : Nat} (h : 7 ≤ j) : ltF j = 0 := by
  unfold ltF
  rw [List.getD_eq_getElem?_getD, List.getElem?_eq_none (by show 7 ≤ j; exact h)]
  rfl
theorem qaF_z {j : Nat} (h : 30 ≤ j) : qaF j = 0 := by
  unfold qaF
  rw [List.getD_eq_getElem?_getD, List.getElem?_eq_none (by show 30 ≤ j; exact h)]
  rfl
set_option maxHeartbeats 4000000 in
theorem md_init {l : Launch} (hl : l.stackTraces = false) {Γ : zCx} {h : zH} {m : Nat} (hm : h m = some (true, .inr (3, [.null, .null, .int (iI 0), .null, .int (iI 0), .int (iI 0), .int (iI 0), .int (iI 0), .int (iI 0), .null, .null, .int (iI 0), .int (iI 0), .int (iI 0), .int (iI 0), .int (iI 0), .int (iI 0), .null, .null, .int (iI 0), .null, .null, .int (iI 0), .int (iI 0)])))  : zMet l yX4_init (ws_ yX4_init cX4_init 1 none) ({ frames := 1, cells := 9, slots := 9000, locals := 12 }) Γ h [.ref m] (zrt (fun w h' => w = none ∧ ∃ A : zMA, A.m = m ∧ mdW h' A st0 0 ∧ zkeep h h' [m] ∧ ∀ q ∈ mFt A, q = m ∨ h q = none)) 9 9000 := by
  refine zMet.of (cc := cX4_init) hl (plainFor_of_name (by decide +kernel)) (Nat.le_of_ble_eq_true rfl) ?_
  intro X hXl hXΓ hXp C hnm hnL
  have C : zC X cX4_init RX4 none 1 12 [] := C
  have hnL : X.2.1.2.2.2.2 = 1 := hnL
  subst hXl hXΓ
  show Z X h 9 9000 [(0, .ref m)] 0 []
  refine z_aload_n (pc := 0) (j := 0) C dX4_init_0 rfl rfl ?_
  refine z_objInit (pc := 1) C q2081 q113 q114 (by decide) (by decide) dX4_init_1 ?_
  refine z_aload_n (pc := 4) (j := 0) C dX4_init_4 rfl rfl ?_
  refine z_sipush (pc := 5) C dX4_init_5 (by decide) ?_
  refine z_newarray (pc := 8) (kc' := 8) (ks' := 8380) (ty := .int) C rfl q2155 (by omega) (by simp [componentBytes] <;> omega) (by omega) (by omega) (by simp) dX4_init_8 (fun a1 fa1 => ?_)
  refine Z.nm (fun h2 eh2 => ?_)
  have na1 : h a1 = none := fa1
  have kh2 : zkeep h h2 [m] := by rw [eh2]; exact zkeep.born zkeep.rf fa1
  have fh2_0 : h2 a1 = some (true, .inl (.int, 620, fun _ => .int (iI 0))) := zse eh2
  have fh2_1 : h2 m = some (true, .inr (3, [.null, .null, .int (iI 0), .null, .int (iI 0), .int (iI 0), .int (iI 0), .int (iI 0), .int (iI 0), .null, .null, .int (iI 0), .int (iI 0), .int (iI 0), .int (iI 0), .int (iI 0), .int (iI 0), .null, .null, .int (iI 0), .null, .null, .int (iI 0), .int (iI 0)])) := zsn eh2 hm (zneF hm fa1)
  refine z_putfieldF (pc := 10) (fs' := [.ref a1, .null, .int (iI 0), .null, .int (iI 0), .int (iI 0), .int (iI 0), .int (iI 0), .int (iI 0), .null, .null, .int (iI 0), .int (iI 0), .int (iI 0), .int (iI 0), .int (iI 0), .int (iI 0), .null, .null, .int (iI 0), .null, .null, .int (iI 0), .int (iI 0)]) C hnm in_X4 tyX4 tyX4_ok nmX4 rfl 0 (by decide) q2082 (fun _ z => z) rfl rfl rfl rfl (Nat.le_of_ble_eq_true rfl) fh2_1 rfl dX4_init_10 ?_
  refine Z.nm (fun h3 eh3 => ?_)
  have kh3 : zkeep h h3 [m] := by rw [eh3]; exact zkeep.up kh2 (Or.inl (by simp)) fh2_1
  have fh3_0 : h3 m = some (true, .inr (3, [.ref a1, .null, .int (iI 0), .null, .int (iI 0), .int (iI 0), .int (iI 0), .int (iI 0), .int (iI 0), .null, .null, .int (iI 0), .int (iI 0), .int (iI 0), .int (iI 0), .int (iI 0), .int (iI 0), .null, .null, .int (iI 0), .null, .null, .int (iI 0), .int (iI 0)])) := zse eh3
  have fh3_1 : h3 a1 = some (true, .inl (.int, 620, fun _ => .int (iI 0))) := zsn eh3 fh2_0 (Ne.symm (zneF hm fa1))
  refine z_aload_n (pc := 13) (j := 0) C dX4_init_13 rfl rfl ?_
  refine z_sipush (pc := 14) C dX4_init_14 (by decide) ?_
  refine z_newarray (pc := 17) (kc' := 7) (ks' := 3420) (ty := .int) C rfl q2155 (by omega) (by simp [componentBytes] <;> omega) (by omega) (by omega) (by simp) dX4_init_17 (fun a4 fa4 => ?_)
  refine Z.nm (fun h5 eh5 => ?_)
  have na4 : h a4 = none := kh3.none0 fa4 (List.not_mem_cons_of_ne_of_not_mem (Ne.symm (zneF fh3_0 fa4)) List.not_mem_nil)
  have kh5 : zkeep h h5 [m] := by rw [eh5]; exact zkeep.born kh3 fa4
  have fh5_0 : h5 a4 = some (true, .inl (.int, 4960, fun _ => .int (iI 0))) := zse eh5
  have fh5_1 : h5 a1 = some (true, .inl (.int, 620, fun _ => .int (iI 0))) := zsn eh5 fh3_1 (zneF fh3_1 fa4)
  have fh5_2 : h5 m = some (true, .inr (3, [.ref a1, .null, .int (iI 0), .null, .int (iI 0), .int (iI 0), .int (iI 0), .int (iI 0), .int (iI 0), .null, .null, .int (iI 0), .int (iI 0), .int (iI 0), .int (iI 0), .int (iI 0), .int (iI 0), .null, .null, .int (iI 0), .null, .null, .int (iI 0), .int (iI 0)])) := zsn eh5 fh3_0 (zneF fh3_0 fa4)
  refine z_putfieldF (pc := 19) (fs' := [.ref a1, .ref a4, .int (iI 0), .null, .int (iI 0), .int (iI 0), .int (iI 0), .int (iI 0), .int (iI 0), .null, .null, .int (iI 0), .int (iI 0), .int (iI 0), .int (iI 0), .int (iI 0), .int (iI 0), .null, .null, .int (iI 0), .null, .null, .int (iI 0), .int (iI 0)]) C hnm in_X4 tyX4 tyX4_ok nmX4 rfl 1 (by decide) q2083 (fun _ z => z) rfl rfl rfl rfl (Nat.le_of_ble_eq_true rfl) fh5_2 rfl dX4_init_19 ?_
  refine Z.nm (fun h6 eh6 => ?_)
  have kh6 : zkeep h h6 [m] := by rw [eh6]; exact zkeep.up kh5 (Or.inl (by simp)) fh5_2
  have fh6_0 : h6 m = some (true, .inr (3, [.ref a1, .ref a4, .int (iI 0), .null, .int (iI 0), .int (iI 0), .int (iI 0), .int (iI 0), .int (iI 0), .null, .null, .int (iI 0), .int (iI 0), .int (iI 0), .int (iI 0), .int (iI 0), .int (iI 0), .null, .null, .int (iI 0), .null, .null, .int (iI 0), .int (iI 0)])) := zse eh6
  have fh6_1 : h6 a1 = some (true, .inl (.int, 620, fun _ => .int (iI 0))) := zsn eh6 fh5_1 (Ne.symm (zneF hm fa1))
  have fh6_2 : h6 a4 = some (true, .inl (.int, 4960, fun _ => .int (iI 0))) := zsn eh6 fh5_0 (Ne.symm (zneF fh3_0 fa4))
  refine z_aload_n (pc := 22) (j := 0) C dX4_init_22 rfl rfl ?_
  refine z_sipush (pc := 23) C dX4_init_23 (by decide) ?_
  refine z_newarray (pc := 26) (kc' := 6) (ks' := 3220) (ty := .int) C rfl q2155 (by omega) (by simp [componentBytes] <;> omega) (by omega) (by omega) (by simp) dX4_init_26 (fun a7 fa7 => ?_)
  refine Z.nm (fun h8 eh8 => ?_)
  have na7 : h a7 = none := kh6.none0 fa7 (List.not_mem_cons_of_ne_of_not_mem (Ne.symm (zneF fh6_0 fa7)) List.not_mem_nil)
  have kh8 : zkeep h h8 [m] := by rw [eh8]; exact zkeep.born kh6 fa7
  have fh8_0 : h8 a7 = some (true, .inl (.int, 200, fun _ => .int (iI 0))) := zse eh8
  have fh8_1 : h8 a1 = some (true, .inl (.int, 620, fun _ => .int (iI 0))) := zsn eh8 fh6_1 (zneF fh6_1 fa7)
  have fh8_2 : h8 a4 = some (true, .inl (.int, 4960, fun _ => .int (iI 0))) := zsn eh8 fh6_2 (zneF fh6_2 fa7)
  have fh8_3 : h8 m = some (true, .inr (3, [.ref a1, .ref a4, .int (iI 0), .null, .int (iI 0), .int (iI 0), .int (iI 0), .int (iI 0), .int (iI 0), .null, .null, .int (iI 0), .int (iI 0), .int (iI 0), .int (iI 0), .int (iI 0), .int (iI 0), .null, .null, .int (iI 0), .null, .null, .int (iI 0), .int (iI 0)])) := zsn eh8 fh6_0 (zneF fh6_0 fa7)
  refine z_putfieldF (pc := 28) (fs' := [.ref a1, .ref a4, .int (iI 0), .ref a7, .int (iI 0), .int (iI 0), .int (iI 0), .int (iI 0), .int (iI 0), .null, .null, .int (iI 0), .int (iI 0), .int (iI 0), .int (iI 0), .int (iI 0), .int (iI 0), .null, .null, .int (iI 0), .null, .null, .int (iI 0), .int (iI 0)]) C hnm in_X4 tyX4 tyX4_ok nmX4 rfl 3 (by decide) q2085 (fun _ z => z) rfl rfl rfl rfl (Nat.le_of_ble_eq_true rfl) fh8_3 rfl dX4_init_28 ?_
  refine Z.nm (fun h9 eh9 => ?_)
  have kh9 : zkeep h h9 [m] := by rw [eh9]; exact zkeep.up kh8 (Or.inl (by simp)) fh8_3
  have fh9_0 : h9 m = some (true, .inr (3, [.ref a1, .ref a4, .int (iI 0), .ref a7, .int (iI 0), .int (iI 0), .int (iI 0), .int (iI 0), .int (iI 0), .null, .null, .int (iI 0), .int (iI 0), .int (iI 0), .int (iI 0), .int (iI 0), .int (iI 0), .null, .null, .int (iI 0), .null, .null, .int (iI 0), .int (iI 0)])) := zse eh9
  have fh9_1 : h9 a1 = some (true, .inl (.int, 620, fun _ => .int (iI 0))) := zsn eh9 fh8_1 (Ne.symm (zneF hm fa1))
  have fh9_2 : h9 a4 = some (true, .inl (.int, 4960, fun _ => .int (iI 0))) := zsn eh9 fh8_2 (Ne.symm (zneF fh3_0 fa4))
  have fh9_3 : h9 a7 = some (true, .inl (.int, 200, fun _ => .int (iI 0))) := zsn eh9 fh8_0 (Ne.symm (zneF fh6_0 fa7))
  refine z_aload_n (pc := 31) (j := 0) C dX4_init_31 rfl rfl ?_
  refine z_iconst (pc := 32) C dX4_init_32 ?_
  refine z_putfield (pc := 33) (fs' := [.ref a1, .ref a4, .int (iI 0), .ref a7, .int (iI 0), .int (iI 1), .int (iI 0), .int (iI 0), .int (iI 0), .null, .null, .int (iI 0), .int (iI 0), .int (iI 0), .int (iI 0), .int (iI 0), .int (iI 0), .null, .null, .int (iI 0), .null, .null, .int (iI 0), .int (iI 0)]) C in_X4 tyX4 tyX4_ok nmX4 rfl 5 (by decide) q2087 (fun _ z => z) rfl (by decide) (by decide) (Nat.le_of_ble_eq_true rfl) fh9_0 rfl dX4_init_33 ?_
  refine Z.nm (fun h10 eh10 => ?_)
  have kh10 : zkeep h h10 [m] := by rw [eh10]; exact zkeep.up kh9 (Or.inl (by simp)) fh9_0
  have fh10_0 : h10 m = some (true, .inr (3, [.ref a1, .ref a4, .int (iI 0), .ref a7, .int (iI 0), .int (iI 1), .int (iI 0), .int (iI 0), .int (iI 0), .null, .null, .int (iI 0), .int (iI 0), .int (iI 0), .int (iI 0), .int (iI 0), .int (iI 0), .null, .null, .int (iI 0), .null, .null, .int (iI 0), .int (iI 0)])) := zse eh10
  have fh10_1 : h10 a1 = some (true, .inl (.int, 620, fun _ => .int (iI 0))) := zsn eh10 fh9_1 (Ne.symm (zneF hm fa1))
  have fh10_2 : h10 a4 = some (true, .inl (.int, 4960, fun _ => .int (iI 0))) := zsn eh10 fh9_2 (Ne.symm (zneF fh3_0 fa4))
  have fh10_3 : h10 a7 = some (true, .inl (.int, 200, fun _ => .int (iI 0))) := zsn eh10 fh9_3 (Ne.symm (zneF fh6_0 fa7))
  refine z_aload_n (pc := 36) (j := 0) C dX4_init_36 rfl rfl ?_
  refine z_sipush (pc := 37) C dX4_init_37 (by decide) ?_
  refine z_putfield (pc := 40) (fs' := [.ref a1, .ref a4, .int (iI 0), .ref a7, .int (iI 0), .int (iI 1), .int (iI 0), .int (iI 200), .int (iI 0), .null, .null, .int (iI 0), .int (iI 0), .int (iI 0), .int (iI 0), .int (iI 0), .int (iI 0), .null, .null, .int (iI 0), .null, .null, .int (iI 0), .int (iI 0)]) C in_X4 tyX4 tyX4_ok nmX4 rfl 7 (by decide) q2089 (fun _ z => z) rfl rfl rfl (Nat.le_of_ble_eq_true rfl) fh10_0 rfl dX4_init_40 ?_
  refine Z.nm (fun h11 eh11 => ?_)
  have kh11 : zkeep h h11 [m] := by rw [eh11]; exact zkeep.up kh10 (Or.inl (by simp)) fh10_0
  have fh11_0 : h11 m = some (true, .inr (3, [.ref a1, .ref a4, .int (iI 0), .ref a7, .int (iI 0), .int (iI 1), .int (iI 0), .int (iI 200), .int (iI 0), .null, .null, .int (iI 0), .int (iI 0), .int (iI 0), .int (iI 0), .int (iI 0), .int (iI 0), .null, .null, .int (iI 0), .null, .null, .int (iI 0), .int (iI 0)])) := zse eh11
  have fh11_1 : h11 a1 = some (true, .inl (.int, 620, fun _ => .int (iI 0))) := zsn eh11 fh10_1 (Ne.symm (zneF hm fa1))
  have fh11_2 : h11 a4 = some (true, .inl (.int, 4960, fun _ => .int (iI 0))) := zsn eh11 fh10_2 (Ne.symm (zneF fh3_0 fa4))
  have fh11_3 : h11 a7 = some (true, .inl (.int, 200, fun _ => .int (iI 0))) := zsn eh11 fh10_3 (Ne.symm (zneF fh6_0 fa7))
  refine z_aload_n (pc := 43) (j := 0) C dX4_init_43 rfl rfl ?_
  refine z_bipush (pc := 44) C dX4_init_44 (by decide) ?_
  refine z_newarray (pc := 46) (kc' := 5) (ks' := 3213) (ty := .char) C rfl q134 (by omega) (by simp [componentBytes] <;> omega) (by omega) (by omega) (by simp) dX4_init_46 (fun a12 fa12 => ?_)
  refine Z.nm (fun h13 eh13 => ?_)
  have na12 : h a12 = none := kh11.none0 fa12 (List.not_mem_cons_of_ne_of_not_mem (Ne.symm (zneF fh11_0 fa12)) List.not_mem_nil)
  have kh13 : zkeep h h13 [m] := by rw [eh13]; exact zkeep.born kh11 fa12
  have fh13_0 : h13 a12 = some (true, .inl (.char, 7, fun _ => .int (iI 0))) := zse eh13
  have fh13_1 : h13 a1 = some (true, .inl (.int, 620, fun _ => .int (iI 0))) := zsn eh13 fh11_1 (zneF fh11_1 fa12)
  have fh13_2 : h13 a4 = some (true, .inl (.int, 4960, fun _ => .int (iI 0))) := zsn eh13 fh11_2 (zneF fh11_2 fa12)
  have fh13_3 : h13 a7 = some (true, .inl (.int, 200, fun _ => .int (iI 0))) := zsn eh13 fh11_3 (zneF fh11_3 fa12)
  have fh13_4 : h13 m = some (true, .inr (3, [.ref a1, .ref a4, .int (iI 0), .ref a7, .int (iI 0), .int (iI 1), .int (iI 0), .int (iI 200), .int (iI 0), .null, .null, .int (iI 0), .int (iI 0), .int (iI 0), .int (iI 0), .int (iI 0), .int (iI 0), .null, .null, .int (iI 0), .null, .null, .int (iI 0), .int (iI 0)])) := zsn eh13 fh11_0 (zneF fh11_0 fa12)
  refine z_dup (pc := 48) C dX4_init_48 rfl ?_
  refine z_iconst (pc := 49) C dX4_init_49 ?_
  refine z_bipush (pc := 50) C dX4_init_50 (by decide) ?_
  refine z_castore (pc := 52) (f' := updV (fun _ => .int (iI 0)) (Int.toNat 0) (.int (iI 70))) C (i_nc (by decide) (by decide)) fh13_0 (by omega) rfl dX4_init_52 ?_
  refine Z.nm (fun h14 eh14 => ?_)
  have kh14 : zkeep h h14 [m] := by rw [eh14]; exact zkeep.up kh13 (Or.inr na12) fh13_0
  have fh14_0 : h14 a12 = some (true, .inl (.char, 7, updV (fun _ => .int (iI 0)) (Int.toNat 0) (.int (iI 70)))) := zse eh14
  have fh14_1 : h14 a1 = some (true, .inl (.int, 620, fun _ => .int (iI 0))) := zsn eh14 fh13_1 (zneF fh11_1 fa12)
  have fh14_2 : h14 a4 = some (true, .inl (.int, 4960, fun _ => .int (iI 0))) := zsn eh14 fh13_2 (zneF fh11_2 fa12)
  have fh14_3 : h14 a7 = some (true, .inl (.int, 200, fun _ => .int (iI 0))) := zsn eh14 fh13_3 (zneF fh11_3 fa12)
  have fh14_4 : h14 m = some (true, .inr (3, [.ref a1, .ref a4, .int (iI 0), .ref a7, .int (iI 0), .int (iI 1), .int (iI 0), .int (iI 200), .int (iI 0), .null, .null, .int (iI 0), .int (iI 0), .int (iI 0), .int (iI 0), .int (iI 0), .int (iI 0), .null, .null, .int (iI 0), .null, .null, .int (iI 0), .int (iI 0)])) := zsn eh14 fh13_4 (zneF fh11_0 fa12)
  refine z_dup (pc := 53) C dX4_init_53 rfl ?_
  refine z_iconst (pc := 54) C dX4_init_54 ?_
  refine z_bipush (pc := 55) C dX4_init_55 (by decide) ?_
  refine z_castore (pc := 57) (f' := updV (updV (fun _ => .int (iI 0)) (Int.toNat 0) (.int (iI 70))) (Int.toNat 1) (.int (iI 67))) C (i_nc (by decide) (by decide)) fh14_0 (by omega) rfl dX4_init_57 ?_
  refine Z.nm (fun h15 eh15 => ?_)
  have kh15 : zkeep h h15 [m] := by rw [eh15]; exact zkeep.up kh14 (Or.inr na12) fh14_0
  have fh15_0 : h15 a12 = some (true, .inl (.char, 7, updV (updV (fun _ => .int (iI 0)) (Int.toNat 0) (.int (iI 70))) (Int.toNat 1) (.int (iI 67)))) := zse eh15
  have fh15_1 : h15 a1 = some (true, .inl (.int, 620, fun _ => .int (iI 0))) := zsn eh15 fh14_1 (zneF fh11_1 fa12)
  have fh15_2 : h15 a4 = some (true, .inl (.int, 4960, fun _ => .int (iI 0))) := zsn eh15 fh14_2 (zneF fh11_2 fa12)
  have fh15_3 : h15 a7 = some (true, .inl (.int, 200, fun _ => .int (iI 0))) := zsn eh15 fh14_3 (zneF fh11_3 fa12)
  have fh15_4 : h15 m = some (true, .inr (3, [.ref a1, .ref a4, .int (iI 0), .ref a7, .int (iI 0), .int (iI 1), .int (iI 0), .int (iI 200), .int (iI 0), .null, .null, .int (iI 0), .int (iI 0), .int (iI 0), .int (iI 0), .int (iI 0), .int (iI 0), .null, .null, .int (iI 0), .null, .null, .int (iI 0), .int (iI 0)])) := zsn eh15 fh14_4 (zneF fh11_0 fa12)
  refine z_dup (pc := 58) C dX4_init_58 rfl ?_
  refine z_iconst (pc := 59) C dX4_init_59 ?_
  refine z_bipush (pc := 60) C dX4_init_60 (by decide) ?_
  refine z_castore (pc := 62) (f' := updV (updV (updV (fun _ => .int (iI 0)) (Int.toNat 0) (.int (iI 70))) (Int.toNat 1) (.int (iI 67))) (Int.toNat 2) (.int (iI 71))) C (i_nc (by decide) (by decide)) fh15_0 (by omega) rfl dX4_init_62 ?_
  refine Z.nm (fun h16 eh16 => ?_)
  have kh16 : zkeep h h16 [m] := by rw [eh16]; exact zkeep.up kh15 (Or.inr na12) fh15_0
  have fh16_0 : h16 a12 = some (true, .inl (.char, 7, updV (updV (updV (fun _ => .int (iI 0)) (Int.toNat 0) (.int (iI 70))) (Int.toNat 1) (.int (iI 67))) (Int.toNat 2) (.int (iI 71)))) := zse eh16
  have fh16_1 : h16 a1 = some (true, .inl (.int, 620, fun _ => .int (iI 0))) := zsn eh16 fh15_1 (zneF fh11_1 fa12)
  have fh16_2 : h16 a4 = some (true, .inl (.int, 4960, fun _ => .int (iI 0))) := zsn eh16 fh15_2 (zneF fh11_2 fa12)
  have fh16_3 : h16 a7 = some (true, .inl (.int, 200, fun _ => .int (iI 0))) := zsn eh16 fh15_3 (zneF fh11_3 fa12)
  have fh16_4 : h16 m = some (true, .inr (3, [.ref a1, .ref a4, .int (iI 0), .ref a7, .int (iI 0), .int (iI 1), .int (iI 0), .int (iI 200), .int (iI 0), .null, .null, .int (iI 0), .int (iI 0), .int (iI 0), .int (iI 0), .int (iI 0), .int (iI 0), .null, .null, .int (iI 0), .null, .null, .int (iI 0), .int (iI 0)])) := zsn eh16 fh15_4 (zneF fh11_0 fa12)
  refine z_dup (pc := 63) C dX4_init_63 rfl ?_
  refine z_iconst (pc := 64) C dX4_init_64 ?_
  refine z_bipush (pc := 65) C dX4_init_65 (by decide) ?_
  refine z_castore (pc := 67) (f' := updV (updV (updV (updV (fun _ => .int (iI 0)) (Int.toNat 0) (.int (iI 70))) (Int.toNat 1) (.int (iI 67))) (Int.toNat 2) (.int (iI 71))) (Int.toNat 3) (.int (iI 68))) C (i_nc (by decide) (by decide)) fh16_0 (by omega) rfl dX4_init_67 ?_
  refine Z.nm (fun h17 eh17 => ?_)
  have kh17 : zkeep h h17 [m] := by rw [eh17]; exact zkeep.up kh16 (Or.inr na12) fh16_0
  have fh17_0 : h17 a12 = some (true, .inl (.char, 7, updV (updV (updV (updV (fun _ => .int (iI 0)) (Int.toNat 0) (.int (iI 70))) (Int.toNat 1) (.int (iI 67))) (Int.toNat 2) (.int (iI 71))) (Int.toNat 3) (.int (iI 68)))) := zse eh17
  have fh17_1 : h17 a1 = some (true, .inl (.int, 620, fun _ => .int (iI 0))) := zsn eh17 fh16_1 (zneF fh11_1 fa12)
  have fh17_2 : h17 a4 = some (true, .inl (.int, 4960, fun _ => .int (iI 0))) := zsn eh17 fh16_2 (zneF fh11_2 fa12)
  have fh17_3 : h17 a7 = some (true, .inl (.int, 200, fun _ => .int (iI 0))) := zsn eh17 fh16_3 (zneF fh11_3 fa12)
  have fh17_4 : h17 m = some (true, .inr (3, [.ref a1, .ref a4, .int (iI 0), .ref a7, .int (iI 0), .int (iI 1), .int (iI 0), .int (iI 200), .int (iI 0), .null, .null, .int (iI 0), .int (iI 0), .int (iI 0), .int (iI 0), .int (iI 0), .int (iI 0), .null, .null, .int (iI 0), .null, .null, .int (iI 0), .int (iI 0)])) := zsn eh17 fh16_4 (zneF fh11_0 fa12)
  refine z_dup (pc := 68) C dX4_init_68 rfl ?_
  refine z_iconst (pc := 69) C dX4_init_69 ?_
  refine z_bipush (pc := 70) C dX4_init_70 (by decide) ?_
  refine z_castore (pc := 72) (f' := updV (updV (updV (updV (updV (fun _ => .int (iI 0)) (Int.toNat 0) (.int (iI 70))) (Int.toNat 1) (.int (iI 67))) (Int.toNat 2) (.int (iI 71))) (Int.toNat 3) (.int (iI 68))) (Int.toNat 4) (.int (iI 65))) C (i_nc (by decide) (by decide)) fh17_0 (by omega) rfl dX4_init_72 ?_
  refine Z.nm (fun h18 eh18 => ?_)
  have kh18 : zkeep h h18 [m] := by rw [eh18]; exact zkeep.up kh17 (Or.inr na12) fh17_0
  have fh18_0 : h18 a12 = some (true, .inl (.char, 7, updV (updV (updV (updV (updV (fun _ => .int (iI 0)) (Int.toNat 0) (.int (iI 70))) (Int.toNat 1) (.int (iI 67))) (Int.toNat 2) (.int (iI 71))) (Int.toNat 3) (.int (iI 68))) (Int.toNat 4) (.int (iI 65)))) := zse eh18
  have fh18_1 : h18 a1 = some (true, .inl (.int, 620, fun _ => .int (iI 0))) := zsn eh18 fh17_1 (zneF fh11_1 fa12)
  have fh18_2 : h18 a4 = some (true, .inl (.int, 4960, fun _ => .int (iI 0))) := zsn eh18 fh17_2 (zneF fh11_2 fa12)
  have fh18_3 : h18 a7 = some (true, .inl (.int, 200, fun _ => .int (iI 0))) := zsn eh18 fh17_3 (zneF fh11_3 fa12)
  have fh18_4 : h18 m = some (true, .inr (3, [.ref a1, .ref a4, .int (iI 0), .ref a7, .int (iI 0), .int (iI 1), .int (iI 0), .int (iI 200), .int (iI 0), .null, .null, .int (iI 0), .int (iI 0), .int (iI 0), .int (iI 0), .int (iI 0), .int (iI 0), .null, .null, .int (iI 0), .null, .null, .int (iI 0), .int (iI 0)])) := zsn eh18 fh17_4 (zneF fh11_0 fa12)
  refine z_dup (pc := 73) C dX4_init_73 rfl ?_
  refine z_iconst (pc := 74) C dX4_init_74 ?_
  refine z_bipush (pc := 75) C dX4_init_75 (by decide) ?_
  refine z_castore (pc := 77) (f' := updV (updV (updV (updV (updV (updV (fun _ => .int (iI 0)) (Int.toNat 0) (.int (iI 70))) (Int.toNat 1) (.int (iI 67))) (Int.toNat 2) (.int (iI 71))) (Int.toNat 3) (.int (iI 68))) (Int.toNat 4) (.int (iI 65))) (Int.toNat 5) (.int (iI 69))) C (i_nc (by decide) (by decide)) fh18_0 (by omega) rfl dX4_init_77 ?_
  refine Z.nm (fun h19 eh19 => ?_)
  have kh19 : zkeep h h19 [m] := by rw [eh19]; exact zkeep.up kh18 (Or.inr na12) fh18_0
  have fh19_0 : h19 a12 = some (true, .inl (.char, 7, updV (updV (updV (updV (updV (updV (fun _ => .int (iI 0)) (Int.toNat 0) (.int (iI 70))) (Int.toNat 1) (.int (iI 67))) (Int.toNat 2) (.int (iI 71))) (Int.toNat 3) (.int (iI 68))) (Int.toNat 4) (.int (iI 65))) (Int.toNat 5) (.int (iI 69)))) := zse eh19
  have fh19_1 : h19 a1 = some (true, .inl (.int, 620, fun _ => .int (iI 0))) := zsn eh19 fh18_1 (zneF fh11_1 fa12)
  have fh19_2 : h19 a4 = some (true, .inl (.int, 4960, fun _ => .int (iI 0))) := zsn eh19 fh18_2 (zneF fh11_2 fa12)
  have fh19_3 : h19 a7 = some (true, .inl (.int, 200, fun _ => .int (iI 0))) := zsn eh19 fh18_3 (zneF fh11_3 fa12)
  have fh19_4 : h19 m = some (true, .inr (3, [.ref a1, .ref a4, .int (iI 0), .ref a7, .int (iI 0), .int (iI 1), .int (iI 0), .int (iI 200), .int (iI 0), .null, .null, .int (iI 0), .int (iI 0), .int (iI 0), .int (iI 0), .int (iI 0), .int (iI 0), .null, .null, .int (iI 0), .null, .null, .int (iI 0), .int (iI 0)])) := zsn eh19 fh18_4 (zneF fh11_0 fa12)
  refine z_dup (pc := 78) C dX4_init_78 rfl ?_
  refine z_bipush (pc := 79) C dX4_init_79 (by decide) ?_
  refine z_bipush (pc := 81) C dX4_init_81 (by decide) ?_
  refine z_castore (pc := 83) (f' := updV (updV (updV (updV (updV (updV (updV (fun _ => .int (iI 0)) (Int.toNat 0) (.int (iI 70))) (Int.toNat 1) (.int (iI 67))) (Int.toNat 2) (.int (iI 71))) (Int.toNat 3) (.int (iI 68))) (Int.toNat 4) (.int (iI 65))) (Int.toNat 5) (.int (iI 69))) (Int.toNat 6) (.int (iI 66))) C (i_nc (by decide) (by decide)) fh19_0 (by omega) rfl dX4_init_83 ?_
  refine Z.nm (fun h20 eh20 => ?_)
  have kh20 : zkeep h h20 [m] := by rw [eh20]; exact zkeep.up kh19 (Or.inr na12) fh19_0
  have fh20_0 : h20 a12 = some (true, .inl (.char, 7, updV (updV (updV (updV (updV (updV (updV (fun _ => .int (iI 0)) (Int.toNat 0) (.int (iI 70))) (Int.toNat 1) (.int (iI 67))) (Int.toNat 2) (.int (iI 71))) (Int.toNat 3) (.int (iI 68))) (Int.toNat 4) (.int (iI 65))) (Int.toNat 5) (.int (iI 69))) (Int.toNat 6) (.int (iI 66)))) := zse eh20
  have fh20_1 : h20 a1 = some (true, .inl (.int, 620, fun _ => .int (iI 0))) := zsn eh20 fh19_1 (zneF fh11_1 fa12)
  have fh20_2 : h20 a4 = some (true, .inl (.int, 4960, fun _ => .int (iI 0))) := zsn eh20 fh19_2 (zneF fh11_2 fa12)
  have fh20_3 : h20 a7 = some (true, .inl (.int, 200, fun _ => .int (iI 0))) := zsn eh20 fh19_3 (zneF fh11_3 fa12)
  have fh20_4 : h20 m = some (true, .inr (3, [.ref a1, .ref a4, .int (iI 0), .ref a7, .int (iI 0), .int (iI 1), .int (iI 0), .int (iI 200), .int (iI 0), .null, .null, .int (iI 0), .int (iI 0), .int (iI 0), .int (iI 0), .int (iI 0), .int (iI 0), .null, .null, .int (iI 0), .null, .null, .int (iI 0), .int (iI 0)])) := zsn eh20 fh19_4 (zneF fh11_0 fa12)
  refine z_putfieldF (pc := 84) (fs' := [.ref a1, .ref a4, .int (iI 0), .ref a7, .int (iI 0), .int (iI 1), .int (iI 0), .int (iI 200), .int (iI 0), .ref a12, .null, .int (iI 0), .int (iI 0), .int (iI 0), .int (iI 0), .int (iI 0), .int (iI 0), .null, .null, .int (iI 0), .null, .null, .int (iI 0), .int (iI 0)]) C hnm in_X4 tyX4 tyX4_ok nmX4 rfl 9 (by decide) q2091 (fun _ z => z) rfl rfl rfl rfl (Nat.le_of_ble_eq_true rfl) fh20_4 rfl dX4_init_84 ?_
  refine Z.nm (fun h21 eh21 => ?_)
  have kh21 : zkeep h h21 [m] := by rw [eh21]; exact zkeep.up kh20 (Or.inl (by simp)) fh20_4
  have fh21_0 : h21 m = some (true, .inr (3, [.ref a1, .ref a4, .int (iI 0), .ref a7, .int (iI 0), .int (iI 1), .int (iI 0), .int (iI 200), .int (iI 0), .ref a12, .null, .int (iI 0), .int (iI 0), .int (iI 0), .int (iI 0), .int (iI 0), .int (iI 0), .null, .null, .int (iI 0), .null, .null, .int (iI 0), .int (iI 0)])) := zse eh21
  have fh21_1 : h21 a1 = some (true, .inl (.int, 620, fun _ => .int (iI 0))) := zsn eh21 fh20_1 (Ne.symm (zneF hm fa1))
  have fh21_2 : h21 a4 = some (true, .inl (.int, 4960, fun _ => .int (iI 0))) := zsn eh21 fh20_2 (Ne.symm (zneF fh3_0 fa4))
  have fh21_3 : h21 a7 = some (true, .inl (.int, 200, fun _ => .int (iI 0))) := zsn eh21 fh20_3 (Ne.symm (zneF fh6_0 fa7))
  have fh21_4 : h21 a12 = some (true, .inl (.char, 7, updV (updV (updV (updV (updV (updV (updV (fun _ => .int (iI 0)) (Int.toNat 0) (.int (iI 70))) (Int.toNat 1) (.int (iI 67))) (Int.toNat 2) (.int (iI 71))) (Int.toNat 3) (.int (iI 68))) (Int.toNat 4) (.int (iI 65))) (Int.toNat 5) (.int (iI 69))) (Int.toNat 6) (.int (iI 66)))) := zsn eh21 fh20_0 (Ne.symm (zneF fh11_0 fa12))
  refine z_aload_n (pc := 87) (j := 0) C dX4_init_87 rfl rfl ?_
  refine z_bipush (pc := 88) C dX4_init_88 (by decide) ?_
  refine z_newarray (pc := 90) (kc' := 4) (ks' := 3183) (ty := .char) C rfl q134 (by omega) (by simp [componentBytes] <;> omega) (by omega) (by omega) (by simp) dX4_init_90 (fun a22 fa22 => ?_)
  refine Z.nm (fun h23 eh23 => ?_)
  have na22 : h a22 = none := kh21.none0 fa22 (List.not_mem_cons_of_ne_of_not_mem (Ne.symm (zneF fh21_0 fa22)) List.not_mem_nil)
  have kh23 : zkeep h h23 [m] := by rw [eh23]; exact zkeep.born kh21 fa22
  have fh23_0 : h23 a22 = some (true, .inl (.char, 30, fun _ => .int (iI 0))) := zse eh23
  have fh23_1 : h23 a1 = some (true, .inl (.int, 620, fun _ => .int (iI 0))) := zsn eh23 fh21_1 (zneF fh21_1 fa22)
  have fh23_2 : h23 a4 = some (true, .inl (.int, 4960, fun _ => .int (iI 0))) := zsn eh23 fh21_2 (zneF fh21_2 fa22)
  have fh23_3 : h23 a7 = some (true, .inl (.int, 200, fun _ => .int (iI 0))) := zsn eh23 fh21_3 (zneF fh21_3 fa22)
  have fh23_4 : h23 a12 = some (true, .inl (.char, 7, updV (updV (updV (updV (updV (updV (updV (fun _ => .int (iI 0)) (Int.toNat 0) (.int (iI 70))) (Int.toNat 1) (.int (iI 67))) (Int.toNat 2) (.int (iI 71))) (Int.toNat 3) (.int (iI 68))) (Int.toNat 4) (.int (iI 65))) (Int.toNat 5) (.int (iI 69))) (Int.toNat 6) (.int (iI 66)))) := zsn eh23 fh21_4 (zneF fh21_4 fa22)
  have fh23_5 : h23 m = some (true, .inr (3, [.ref a1, .ref a4, .int (iI 0), .ref a7, .int (iI 0), .int (iI 1), .int (iI 0), .int (iI 200), .int (iI 0), .ref a12, .null, .int (iI 0), .int (iI 0), .int (iI 0), .int (iI 0), .int (iI 0), .int (iI 0), .null, .null, .int (iI 0), .null, .null, .int (iI 0), .int (iI 0)])) := zsn eh23 fh21_0 (zneF fh21_0 fa22)
  refine z_dup (pc := 92) C dX4_init_92 rfl ?_
  refine z_iconst (pc := 93) C dX4_init_93 ?_
  refine z_bipush (pc := 94) C dX4_init_94 (by decide) ?_
  refine z_castore (pc := 96) (f' := updV (fun _ => .int (iI 0)) (Int.toNat 0) (.int (iI 59))) C (i_nc (by decide) (by decide)) fh23_0 (by omega) rfl dX4_init_96 ?_
  refine Z.nm (fun h24 eh24 => ?_)
  have kh24 : zkeep h h24 [m] := by rw [eh24]; exact zkeep.up kh23 (Or.inr na22) fh23_0
  have fh24_0 : h24 a22 = some (true, .inl (.char, 30, updV (fun _ => .int (iI 0)) (Int.toNat 0) (.int (iI 59)))) := zse eh24
  have fh24_1 : h24 a1 = some (true, .inl (.int, 620, fun _ => .int (iI 0))) := zsn eh24 fh23_1 (zneF fh21_1 fa22)
  have fh24_2 : h24 a4 = some (true, .inl (.int, 4960, fun _ => .int (iI 0))) := zsn eh24 fh23_2 (zneF fh21_2 fa22)
  have fh24_3 : h24 a7 = some (true, .inl (.int, 200, fun _ => .int (iI 0))) := zsn eh24 fh23_3 (zneF fh21_3 fa22)
  have fh24_4 : h24 a12 = some (true, .inl (.char, 7, updV (updV (updV (updV (updV (updV (updV (fun _ => .int (iI 0)) (Int.toNat 0) (.int (iI 70))) (Int.toNat 1) (.int (iI 67))) (Int.toNat 2) (.int (iI 71))) (Int.toNat 3) (.int (iI 68))) (Int.toNat 4) (.int (iI 65))) (Int.toNat 5) (.int (iI 69))) (Int.toNat 6) (.int (iI 66)))) := zsn eh24 fh23_4 (zneF fh21_4 fa22)
  have fh24_5 : h24 m = some (true, .inr (3, [.ref a1, .ref a4, .int (iI 0), .ref a7, .int (iI 0), .int (iI 1), .int (iI 0), .int (iI 200), .int (iI 0), .ref a12, .null, .int (iI 0), .int (iI 0), .int (iI 0), .int (iI 0), .int (iI 0), .int (iI 0), .null, .null, .int (iI 0), .null, .null, .int (iI 0), .int (iI 0)])) := zsn eh24 fh23_5 (zneF fh21_0 fa22)
  refine z_dup (pc := 97) C dX4_init_97 rfl ?_
  refine z_iconst (pc := 98) C dX4_init_98 ?_
  refine z_bipush (pc := 99) C dX4_init_99 (by decide) ?_
  refine z_castore (pc := 101) (f' := updV (updV (fun _ => .int (iI 0)) (Int.toNat 0) (.int (iI 59))) (Int.toNat 1) (.int (iI 109))) C (i_nc (by decide) (by decide)) fh24_0 (by omega) rfl dX4_init_101 ?_
  refine Z.nm (fun h25 eh25 => ?_)
  have kh25 : zkeep h h25 [m] := by rw [eh25]; exact zkeep.up kh24 (Or.inr na22) fh24_0
  have fh25_0 : h25 a22 = some (true, .inl (.char, 30, updV (updV (fun _ => .int (iI 0)) (Int.toNat 0) (.int (iI 59))) (Int.toNat 1) (.int (iI 109)))) := zse eh25
  have fh25_1 : h25 a1 = some (true, .inl (.int, 620, fun _ => .int (iI 0))) := zsn eh25 fh24_1 (zneF fh21_1 fa22)
  have fh25_2 : h25 a4 = some (true, .inl (.int, 4960, fun _ => .int (iI 0))) := zsn eh25 fh24_2 (zneF fh21_2 fa22)
  have fh25_3 : h25 a7 = some (true, .inl (.int, 200, fun _ => .int (iI 0))) := zsn eh25 fh24_3 (zneF fh21_3 fa22)
  have fh25_4 : h25 a12 = some (true, .inl (.char, 7, updV (updV (updV (updV (updV (updV (updV (fun _ => .int (iI 0)) (Int.toNat 0) (.int (iI 70))) (Int.toNat 1) (.int (iI 67))) (Int.toNat 2) (.int (iI 71))) (Int.toNat 3) (.int (iI 68))) (Int.toNat 4) (.int (iI 65))) (Int.toNat 5) (.int (iI 69))) (Int.toNat 6) (.int (iI 66)))) := zsn eh25 fh24_4 (zneF fh21_4 fa22)
  have fh25_5 : h25 m = some (true, .inr (3, [.ref a1, .ref a4, .int (iI 0), .ref a7, .int (iI 0), .int (iI 1), .int (iI 0), .int (iI 200), .int (iI 0), .ref a12, .null, .int (iI 0), .int (iI 0), .int (iI 0), .int (iI 0), .int (iI 0), .int (iI 0), .null, .null, .int (iI 0), .null, .null, .int (iI 0), .int (iI 0)])) := zsn eh25 fh24_5 (zneF fh21_0 fa22)
  refine z_dup (pc := 102) C dX4_init_102 rfl ?_
  refine z_iconst (pc := 103) C dX4_init_103 ?_
  refine z_bipush (pc := 104) C dX4_init_104 (by decide) ?_
  refine z_castore (pc := 106) (f' := updV (updV (updV (fun _ => .int (iI 0)) (Int.toNat 0) (.int (iI 59))) (Int.toNat 1) (.int (iI 109))) (Int.toNat 2) (.int (iI 59))) C (i_nc (by decide) (by decide)) fh25_0 (by omega) rfl dX4_init_106 ?_
  refine Z.nm (fun h26 eh26 => ?_)
  have kh26 : zkeep h h26 [m] := by rw [eh26]; exact zkeep.up kh25 (Or.inr na22) fh25_0
  have fh26_0 : h26 a22 = some (true, .inl (.char, 30, updV (updV (updV (fun _ => .int (iI 0)) (Int.toNat 0) (.int (iI 59))) (Int.toNat 1) (.int (iI 109))) (Int.toNat 2) (.int (iI 59)))) := zse eh26
  have fh26_1 : h26 a1 = some (true, .inl (.int, 620, fun _ => .int (iI 0))) := zsn eh26 fh25_1 (zneF fh21_1 fa22)
  have fh26_2 : h26 a4 = some (true, .inl (.int, 4960, fun _ => .int (iI 0))) := zsn eh26 fh25_2 (zneF fh21_2 fa22)
  have fh26_3 : h26 a7 = some (true, .inl (.int, 200, fun _ => .int (iI 0))) := zsn eh26 fh25_3 (zneF fh21_3 fa22)
  have fh26_4 : h26 a12 = some (true, .inl (.char, 7, updV (updV (updV (updV (updV (updV (updV (fun _ => .int (iI 0)) (Int.toNat 0) (.int (iI 70))) (Int.toNat 1) (.int (iI 67))) (Int.toNat 2) (.int (iI 71))) (Int.toNat 3) (.int (iI 68))) (Int.toNat 4) (.int (iI 65))) (Int.toNat 5) (.int (iI 69))) (Int.toNat 6) (.int (iI 66)))) := zsn eh26 fh25_4 (zneF fh21_4 fa22)
  have fh26_5 : h26 m = some (true, .inr (3, [.ref a1, .ref a4, .int (iI 0), .ref a7, .int (iI 0), .int (iI 1), .int (iI 0), .int (iI 200), .int (iI 0), .ref a12, .null, .int (iI 0), .int (iI 0), .int (iI 0), .int (iI 0), .int (iI 0), .int (iI 0), .null, .null, .int (iI 0), .null, .null, .int (iI 0), .int (iI 0)])) := zsn eh26 fh25_5 (zneF fh21_0 fa22)
  refine z_dup (pc := 107) C dX4_init_107 rfl ?_
  refine z_iconst (pc := 108) C dX4_init_108 ?_
  refine z_bipush (pc := 109) C dX4_init_109 (by decide) ?_
  refine z_castore (pc := 111) (f' := updV (updV (updV (updV (fun _ => .int (iI 0)) (Int.toNat 0) (.int (iI 59))) (Int.toNat 1) (.int (iI 109))) (Int.toNat 2) (.int (iI 59))) (Int.toNat 3) (.int (iI 55))) C (i_nc (by decide) (by decide)) fh26_0 (by omega) rfl dX4_init_111 ?_
  refine Z.nm (fun h27 eh27 => ?_)
  have kh27 : zkeep h h27 [m] := by rw [eh27]; exact zkeep.up kh26 (Or.inr na22) fh26_0
  have fh27_0 : h27 a22 = some (true, .inl (.char, 30, updV (updV (updV (updV (fun _ => .int (iI 0)) (Int.toNat 0) (.int (iI 59))) (Int.toNat 1) (.int (iI 109))) (Int.toNat 2) (.int (iI 59))) (Int.toNat 3) (.int (iI 55)))) := zse eh27
  have fh27_1 : h27 a1 = some (true, .inl (.int, 620, fun _ => .int (iI 0))) := zsn eh27 fh26_1 (zneF fh21_1 fa22)
  have fh27_2 : h27 a4 = some (true, .inl (.int, 4960, fun _ => .int (iI 0))) := zsn eh27 fh26_2 (zneF fh21_2 fa22)
  have fh27_3 : h27 a7 = some (true, .inl (.int, 200, fun _ => .int (iI 0))) := zsn eh27 fh26_3 (zneF fh21_3 fa22)
  have fh27_4 : h27 a12 = some (true, .inl (.char, 7, updV (updV (updV (updV (updV (updV (updV (fun _ => .int (iI 0)) (Int.toNat 0) (.int (iI 70))) (Int.toNat 1) (.int (iI 67))) (Int.toNat 2) (.int (iI 71))) (Int.toNat 3) (.int (iI 68))) (Int.toNat 4) (.int (iI 65))) (Int.toNat 5) (.int (iI 69))) (Int.toNat 6) (.int (iI 66)))) := zsn eh27 fh26_4 (zneF fh21_4 fa22)
  have fh27_5 : h27 m = some (true, .inr (3, [.ref a1, .ref a4, .int (iI 0), .ref a7, .int (iI 0), .int (iI 1), .int (iI 0), .int (iI 200), .int (iI 0), .ref a12, .null, .int (iI 0), .int (iI 0), .int (iI 0), .int (iI 0), .int (iI 0), .int (iI 0), .null, .null, .int (iI 0), .null, .null, .int (iI 0), .int (iI 0)])) := zsn eh27 fh26_5 (zneF fh21_0 fa22)
  refine z_dup (pc := 112) C dX4_init_112 rfl ?_
  refine z_iconst (pc := 113) C dX4_init_113 ?_
  refine z_bipush (pc := 114) C dX4_init_114 (by decide) ?_
  refine z_castore (pc := 116) (f' := updV (updV (updV (updV (updV (fun _ => .int (iI 0)) (Int.toNat 0) (.int (iI 59))) (Int.toNat 1) (.int (iI 109))) (Int.toNat 2) (.int (iI 59))) (Int.toNat 3) (.int (iI 55))) (Int.toNat 4) (.int (iI 59))) C (i_nc (by decide) (by decide)) fh27_0 (by omega) rfl dX4_init_116 ?_
  refine Z.nm (fun h28 eh28 => ?_)
  have kh28 : zkeep h h28 [m] := by rw [eh28]; exact zkeep.up kh27 (Or.inr na22) fh27_0
  have fh28_0 : h28 a22 = some (true, .inl (.char, 30, updV (updV (updV (updV (updV (fun _ => .int (iI 0)) (Int.toNat 0) (.int (iI 59))) (Int.toNat 1) (.int (iI 109))) (Int.toNat 2) (.int (iI 59))) (Int.toNat 3) (.int (iI 55))) (Int.toNat 4) (.int (iI 59)))) := zse eh28
  have fh28_1 : h28 a1 = some (true, .inl (.int, 620, fun _ => .int (iI 0))) := zsn eh28 fh27_1 (zneF fh21_1 fa22)
  have fh28_2 : h28 a4 = some (true, .inl (.int, 4960, fun _ => .int (iI 0))) := zsn eh28 fh27_2 (zneF fh21_2 fa22)
  have fh28_3 : h28 a7 = some (true, .inl (.int, 200, fun _ => .int (iI 0))) := zsn eh28 fh27_3 (zneF fh21_3 fa22)
  have fh28_4 : h28 a12 = some (true, .inl (.char, 7, updV (updV (updV (updV (updV (updV (updV (fun _ => .int (iI 0)) (Int.toNat 0) (.int (iI 70))) (Int.toNat 1) (.int (iI 67))) (Int.toNat 2) (.int (iI 71))) (Int.toNat 3) (.int (iI 68))) (Int.toNat 4) (.int (iI 65))) (Int.toNat 5) (.int (iI 69))) (Int.toNat 6) (.int (iI 66)))) := zsn eh28 fh27_4 (zneF fh21_4 fa22)
  have fh28_5 : h28 m = some (true, .inr (3, [.ref a1, .ref a4, .int (iI 0), .ref a7, .int (iI 0), .int (iI 1), .int (iI 0), .int (iI 200), .int (iI 0), .ref a12, .null, .int (iI 0), .int (iI 0), .int (iI 0), .int (iI 0), .int (iI 0), .int (iI 0), .null, .null, .int (iI 0), .null, .null, .int (iI 0), .int (iI 0)])) := zsn eh28 fh27_5 (zneF fh21_0 fa22)
  refine z_dup (pc := 117) C dX4_init_117 rfl ?_
  refine z_iconst (pc := 118) C dX4_init_118 ?_
  refine z_bipush (pc := 119) C dX4_init_119 (by decide) ?_
  refine z_castore (pc := 121) (f' := updV (updV (updV (updV (updV (updV (fun _ => .int (iI 0)) (Int.toNat 0) (.int (iI 59))) (Int.toNat 1) (.int (iI 109))) (Int.toNat 2) (.int (iI 59))) (Int.toNat 3) (.int (iI 55))) (Int.toNat 4) (.int (iI 59))) (Int.toNat 5) (.int (iI 109))) C (i_nc (by decide) (by decide)) fh28_0 (by omega) rfl dX4_init_121 ?_
  refine Z.nm (fun h29 eh29 => ?_)
  have kh29 : zkeep h h29 [m] := by rw [eh29]; exact zkeep.up kh28 (Or.inr na22) fh28_0
  have fh29_0 : h29 a22 = some (true, .inl (.char, 30, updV (updV (updV (updV (updV (updV (fun _ => .int (iI 0)) (Int.toNat 0) (.int (iI 59))) (Int.toNat 1) (.int (iI 109))) (Int.toNat 2) (.int (iI 59))) (Int.toNat 3) (.int (iI 55))) (Int.toNat 4) (.int (iI 59))) (Int.toNat 5) (.int (iI 109)))) := zse eh29
  have fh29_1 : h29 a1 = some (true, .inl (.int, 620, fun _ => .int (iI 0))) := zsn eh29 fh28_1 (zneF fh21_1 fa22)
  have fh29_2 : h29 a4 = some (true, .inl (.int, 4960, fun _ => .int (iI 0))) := zsn eh29 fh28_2 (zneF fh21_2 fa22)
  have fh29_3 : h29 a7 = some (true, .inl (.int, 200, fun _ => .int (iI 0))) := zsn eh29 fh28_3 (zneF fh21_3 fa22)
  have fh29_4 : h29 a12 = some (true, .inl (.char, 7, updV (updV (updV (updV (updV (updV (updV (fun _ => .int (iI 0)) (Int.toNat 0) (.int (iI 70))) (Int.toNat 1) (.int (iI 67))) (Int.toNat 2) (.int (iI 71))) (Int.toNat 3) (.int (iI 68))) (Int.toNat 4) (.int (iI 65))) (Int.toNat 5) (.int (iI 69))) (Int.toNat 6) (.int (iI 66)))) := zsn eh29 fh28_4 (zneF fh21_4 fa22)
  have fh29_5 : h29 m = some (true, .inr (3, [.ref a1, .ref a4, .int (iI 0), .ref a7, .int (iI 0), .int (iI 1), .int (iI 0), .int (iI 200), .int (iI 0), .ref a12, .null, .int (iI 0), .int (iI 0), .int (iI 0), .int (iI 0), .int (iI 0), .int (iI 0), .null, .null, .int (iI 0), .null, .null, .int (iI 0), .int (iI 0)])) := zsn eh29 fh28_5 (zneF fh21_0 fa22)
  refine z_dup (pc := 122) C dX4_init_122 rfl ?_
  refine z_bipush (pc := 123) C dX4_init_123 (by decide) ?_
  refine z_bipush (pc := 125) C dX4_init_125 (by decide) ?_
  refine z_castore (pc := 127) (f' := updV (updV (updV (updV (updV (updV (updV (fun _ => .int (iI 0)) (Int.toNat 0) (.int (iI 59))) (Int.toNat 1) (.int (iI 109))) (Int.toNat 2) (.int (iI 59))) (Int.toNat 3) (.int (iI 55))) (Int.toNat 4) (.int (iI 59))) (Int.toNat 5) (.int (iI 109))) (Int.toNat 6) (.int (iI 55))) C (i_nc (by decide) (by decide)) fh29_0 (by omega) rfl dX4_init_127 ?_
  refine Z.nm (fun h30 eh30 => ?_)
  have kh30 : zkeep h h30 [m] := by rw [eh30]; exact zkeep.up kh29 (Or.inr na22) fh29_0
  have fh30_0 : h30 a22 = some (true, .inl (.char, 30, updV (updV (updV (updV (updV (updV (updV (fun _ => .int (iI 0)) (Int.toNat 0) (.int (iI 59))) (Int.toNat 1) (.int (iI 109))) (Int.toNat 2) (.int (iI 59))) (Int.toNat 3) (.int (iI 55))) (Int.toNat 4) (.int (iI 59))) (Int.toNat 5) (.int (iI 109))) (Int.toNat 6) (.int (iI 55)))) := zse eh30
  have fh30_1 : h30 a1 = some (true, .inl (.int, 620, fun _ => .int (iI 0))) := zsn eh30 fh29_1 (zneF fh21_1 fa22)
  have fh30_2 : h30 a4 = some (true, .inl (.int, 4960, fun _ => .int (iI 0))) := zsn eh30 fh29_2 (zneF fh21_2 fa22)
  have fh30_3 : h30 a7 = some (true, .inl (.int, 200, fun _ => .int (iI 0))) := zsn eh30 fh29_3 (zneF fh21_3 fa22)
  have fh30_4 : h30 a12 = some (true, .inl (.char, 7, updV (updV (updV (updV (updV (updV (updV (fun _ => .int (iI 0)) (Int.toNat 0) (.int (iI 70))) (Int.toNat 1) (.int (iI 67))) (Int.toNat 2) (.int (iI 71))) (Int.toNat 3) (.int (iI 68))) (Int.toNat 4) (.int (iI 65))) (Int.toNat 5) (.int (iI 69))) (Int.toNat 6) (.int (iI 66)))) := zsn eh30 fh29_4 (zneF fh21_4 fa22)
  have fh30_5 : h30 m = some (true, .inr (3, [.ref a1, .ref a4, .int (iI 0), .ref a7, .int (iI 0), .int (iI 1), .int (iI 0), .int (iI 200), .int (iI 0), .ref a12, .null, .int (iI 0), .int (iI 0), .int (iI 0), .int (iI 0), .int (iI 0), .int (iI 0), .null, .null, .int (iI 0), .null, .null, .int (iI 0), .int (iI 0)])) := zsn eh30 fh29_5 (zneF fh21_0 fa22)
  refine z_dup (pc := 128) C dX4_init_128 rfl ?_
  refine z_bipush (pc := 129) C dX4_init_129 (by decide) ?_
  refine z_bipush (pc := 131) C dX4_init_131 (by decide) ?_
  refine z_castore (pc := 133) (f' := updV (updV (updV (updV (updV (updV (updV (updV (fun _ => .int (iI 0)) (Int.toNat 0) (.int (iI 59))) (Int.toNat 1) (.int (iI 109))) (Int.toNat 2) (.int (iI 59))) (Int.toNat 3) (.int (iI 55))) (Int.toNat 4) (.int (iI 59))) (Int.toNat 5) (.int (iI 109))) (Int.toNat 6) (.int (iI 55))) (Int.toNat 7) (.int (iI 59))) C (i_nc (by decide) (by decide)) fh30_0 (by omega) rfl dX4_init_133 ?_
  refine Z.nm (fun h31 eh31 => ?_)
  have kh31 : zkeep h h31 [m] := by rw [eh31]; exact zkeep.up kh30 (Or.inr na22) fh30_0
  have fh31_0 : h31 a22 = some (true, .inl (.char, 30, updV (updV (updV (updV (updV (updV (updV (updV (fun _ => .int (iI 0)) (Int.toNat 0) (.int (iI 59))) (Int.toNat 1) (.int (iI 109))) (Int.toNat 2) (.int (iI 59))) (Int.toNat 3) (.int (iI 55))) (Int.toNat 4) (.int (iI 59))) (Int.toNat 5) (.int (iI 109))) (Int.toNat 6) (.int (iI 55))) (Int.toNat 7) (.int (iI 59)))) := zse eh31
  have fh31_1 : h31 a1 = some (true, .inl (.int, 620, fun _ => .int (iI 0))) := zsn eh31 fh30_1 (zneF fh21_1 fa22)
  have fh31_2 : h31 a4 = some (true, .inl (.int, 4960, fun _ => .int (iI 0))) := zsn eh31 fh30_2 (zneF fh21_2 fa22)
  have fh31_3 : h31 a7 = some (true, .inl (.int, 200, fun _ => .int (iI 0))) := zsn eh31 fh30_3 (zneF fh21_3 fa22)
  have fh31_4 : h31 a12 = some (true, .inl (.char, 7, updV (updV (updV (updV (updV (updV (updV (fun _ => .int (iI 0)) (Int.toNat 0) (.int (iI 70))) (Int.toNat 1) (.int (iI 67))) (Int.toNat 2) (.int (iI 71))) (Int.toNat 3) (.int (iI 68))) (Int.toNat 4) (.int (iI 65))) (Int.toNat 5) (.int (iI 69))) (Int.toNat 6) (.int (iI 66)))) := zsn eh31 fh30_4 (zneF fh21_4 fa22)
  have fh31_5 : h31 m = some (true, .inr (3, [.ref a1, .ref a4, .int (iI 0), .ref a7, .int (iI 0), .int (iI 1), .int (iI 0), .int (iI 200), .int (iI 0), .ref a12, .null, .int (iI 0), .int (iI 0), .int (iI 0), .int (iI 0), .int (iI 0), .int (iI 0), .null, .null, .int (iI 0), .null, .null, .int (iI 0), .int (iI 0)])) := zsn eh31 fh30_5 (zneF fh21_0 fa22)
  refine z_dup (pc := 134) C dX4_init_134 rfl ?_
  refine z_bipush (pc := 135) C dX4_init_135 (by decide) ?_
  refine z_bipush (pc := 137) C dX4_init_137 (by decide) ?_
  refine z_castore (pc := 139) (f' := updV (updV (updV (updV (updV (updV (updV (updV (updV (fun _ => .int (iI 0)) (Int.toNat 0) (.int (iI 59))) (Int.toNat 1) (.int (iI 109))) (Int.toNat 2) (.int (iI 59))) (Int.toNat 3) (.int (iI 55))) (Int.toNat 4) (.int (iI 59))) (Int.toNat 5) (.int (iI 109))) (Int.toNat 6) (.int (iI 55))) (Int.toNat 7) (.int (iI 59))) (Int.toNat 8) (.int (iI 109))) C (i_nc (by decide) (by decide)) fh31_0 (by omega) rfl dX4_init_139 ?_
  refine Z.nm (fun h32 eh32 => ?_)
  have kh32 : zkeep h h32 [m] := by rw [eh32]; exact zkeep.up kh31 (Or.inr na22) fh31_0
  have fh32_0 : h32 a22 = some (true, .inl (.char, 30, updV (updV (updV (updV (updV (updV (updV (updV (updV (fun _ => .int (iI 0)) (Int.toNat 0) (.int (iI 59))) (Int.toNat 1) (.int (iI 109))) (Int.toNat 2) (.int (iI 59))) (Int.toNat 3) (.int (iI 55))) (Int.toNat 4) (.int (iI 59))) (Int.toNat 5) (.int (iI 109))) (Int.toNat 6) (.int (iI 55))) (Int.toNat 7) (.int (iI 59))) (Int.toNat 8) (.int (iI 109)))) := zse eh32
  have fh32_1 : h32 a1 = some (true, .inl (.int, 620, fun _ => .int (iI 0))) := zsn eh32 fh31_1 (zneF fh21_1 fa22)
  have fh32_2 : h32 a4 = some (true, .inl (.int, 4960, fun _ => .int (iI 0))) := zsn eh32 fh31_2 (zneF fh21_2 fa22)
  have fh32_3 : h32 a7 = some (true, .inl (.int, 200, fun _ => .int (iI 0))) := zsn eh32 fh31_3 (zneF fh21_3 fa22)
  have fh32_4 : h32 a12 = some (true, .inl (.char, 7, updV (updV (updV (updV (updV (updV (updV (fun _ => .int (iI 0)) (Int.toNat 0) (.int (iI 70))) (Int.toNat 1) (.int (iI 67))) (Int.toNat 2) (.int (iI 71))) (Int.toNat 3) (.int (iI 68))) (Int.toNat 4) (.int (iI 65))) (Int.toNat 5) (.int (iI 69))) (Int.toNat 6) (.int (iI 66)))) := zsn eh32 fh31_4 (zneF fh21_4 fa22)
  have fh32_5 : h32 m = some (true, .inr (3, [.ref a1, .ref a4, .int (iI 0), .ref a7, .int (iI 0), .int (iI 1), .int (iI 0), .int (iI 200), .int (iI 0), .ref a12, .null, .int (iI 0), .int (iI 0), .int (iI 0), .int (iI 0), .int (iI 0), .int (iI 0), .null, .null, .int (iI 0), .null, .null, .int (iI 0), .int (iI 0)])) := zsn eh32 fh31_5 (zneF fh21_0 fa22)
  refine z_dup (pc := 140) C dX4_init_140 rfl ?_
  refine z_bipush (pc := 141) C dX4_init_141 (by decide) ?_
  refine z_bipush (pc := 143) C dX4_init_143 (by decide) ?_
  refine z_castore (pc := 145) (f' := updV (updV (updV (updV (updV (updV (updV (updV (updV (updV (fun _ => .int (iI 0)) (Int.toNat 0) (.int (iI 59))) (Int.toNat 1) (.int (iI 109))) (Int.toNat 2) (.int (iI 59))) (Int.toNat 3) (.int (iI 55))) (Int.toNat 4) (.int (iI 59))) (Int.toNat 5) (.int (iI 109))) (Int.toNat 6) (.int (iI 55))) (Int.toNat 7) (.int (iI 59))) (Int.toNat 8) (.int (iI 109))) (Int.toNat 9) (.int (iI 97))) C (i_nc (by decide) (by decide)) fh32_0 (by omega) rfl dX4_init_145 ?_
  refine Z.nm (fun h33 eh33 => ?_)
  have kh33 : zkeep h h33 [m] := by rw [eh33]; exact zkeep.up kh32 (Or.inr na22) fh32_0
  have fh33_0 : h33 a22 = some (true, .inl (.char, 30, updV (updV (updV (updV (updV (updV (updV (updV (updV (updV (fun _ => .int (iI 0)) (Int.toNat 0) (.int (iI 59))) (Int.toNat 1) (.int (iI 109))) (Int.toNat 2) (.int (iI 59))) (Int.toNat 3) (.int (iI 55))) (Int.toNat 4) (.int (iI 59))) (Int.toNat 5) (.int (iI 109))) (Int.toNat 6) (.int (iI 55))) (Int.toNat 7) (.int (iI 59))) (Int.toNat 8) (.int (iI 109))) (Int.toNat 9) (.int (iI 97)))) := zse eh33
  have fh33_1 : h33 a1 = some (true, .inl (.int, 620, fun _ => .int (iI 0))) := zsn eh33 fh32_1 (zneF fh21_1 fa22)
  have fh33_2 : h33 a4 = some (true, .inl (.int, 4960, fun _ => .int (iI 0))) := zsn eh33 fh32_2 (zneF fh21_2 fa22)
  have fh33_3 : h33 a7 = some (true, .inl (.int, 200, fun _ => .int (iI 0))) := zsn eh33 fh32_3 (zneF fh21_3 fa22)
  have fh33_4 : h33 a12 = some (true, .inl (.char, 7, updV (updV (updV (updV (updV (updV (updV (fun _ => .int (iI 0)) (Int.toNat 0) (.int (iI 70))) (Int.toNat 1) (.int (iI 67))) (Int.toNat 2) (.int (iI 71))) (Int.toNat 3) (.int (iI 68))) (Int.toNat 4) (.int (iI 65))) (Int.toNat 5) (.int (iI 69))) (Int.toNat 6) (.int (iI 66)))) := zsn eh33 fh32_4 (zneF fh21_4 fa22)
  have fh33_5 : h33 m = some (true, .inr (3, [.ref a1, .ref a4, .int (iI 0), .ref a7, .int (iI 0), .int (iI 1), .int (iI 0), .int (iI 200), .int (iI 0), .ref a12, .null, .int (iI 0), .int (iI 0), .int (iI 0), .int (iI 0), .int (iI 0), .int (iI 0), .null, .null, .int (iI 0), .null, .null, .int (iI 0), .int (iI 0)])) := zsn eh33 fh32_5 (zneF fh21_0 fa22)
  refine z_dup (pc := 146) C dX4_init_146 rfl ?_
  refine z_bipush (pc := 147) C dX4_init_147 (by decide) ?_
  refine z_bipush (pc := 149) C dX4_init_149 (by decide) ?_
  refine z_castore (pc := 151) (f' := updV (updV (updV (updV (updV (updV (updV (updV (updV (updV (updV (fun _ => .int (iI 0)) (Int.toNat 0) (.int (iI 59))) (Int.toNat 1) (.int (iI 109))) (Int.toNat 2) (.int (iI 59))) (Int.toNat 3) (.int (iI 55))) (Int.toNat 4) (.int (iI 59))) (Int.toNat 5) (.int (iI 109))) (Int.toNat 6) (.int (iI 55))) (Int.toNat 7) (.int (iI 59))) (Int.toNat 8) (.int (iI 109))) (Int.toNat 9) (.int (iI 97))) (Int.toNat 10) (.int (iI 106))) C (i_nc (by decide) (by decide)) fh33_0 (by omega) rfl dX4_init_151 ?_
  refine Z.nm (fun h34 eh34 => ?_)
  have kh34 : zkeep h h34 [m] := by rw [eh34]; exact zkeep.up kh33 (Or.inr na22) fh33_0
  have fh34_0 : h34 a22 = some (true, .inl (.char, 30, updV (updV (updV (updV (updV (updV (updV (updV (updV (updV (updV (fun _ => .int (iI 0)) (Int.toNat 0) (.int (iI 59))) (Int.toNat 1) (.int (iI 109))) (Int.toNat 2) (.int (iI 59))) (Int.toNat 3) (.int (iI 55))) (Int.toNat 4) (.int (iI 59))) (Int.toNat 5) (.int (iI 109))) (Int.toNat 6) (.int (iI 55))) (Int.toNat 7) (.int (iI 59))) (Int.toNat 8) (.int (iI 109))) (Int.toNat 9) (.int (iI 97))) (Int.toNat 10) (.int (iI 106)))) := zse eh34
  have fh34_1 : h34 a1 = some (true, .inl (.int, 620, fun _ => .int (iI 0))) := zsn eh34 fh33_1 (zneF fh21_1 fa22)
  have fh34_2 : h34 a4 = some (true, .inl (.int, 4960, fun _ => .int (iI 0))) := zsn eh34 fh33_2 (zneF fh21_2 fa22)
  have fh34_3 : h34 a7 = some (true, .inl (.int, 200, fun _ => .int (iI 0))) := zsn eh34 fh33_3 (zneF fh21_3 fa22)
  have fh34_4 : h34 a12 = some (true, .inl (.char, 7, updV (updV (updV (updV (updV (updV (updV (fun _ => .int (iI 0)) (Int.toNat 0) (.int (iI 70))) (Int.toNat 1) (.int (iI 67))) (Int.toNat 2) (.int (iI 71))) (Int.toNat 3) (.int (iI 68))) (Int.toNat 4) (.int (iI 65))) (Int.toNat 5) (.int (iI 69))) (Int.toNat 6) (.int (iI 66)))) := zsn eh34 fh33_4 (zneF fh21_4 fa22)
  have fh34_5 : h34 m = some (true, .inr (3, [.ref a1, .ref a4, .int (iI 0), .ref a7, .int (iI 0), .int (iI 1), .int (iI 0), .int (iI 200), .int (iI 0), .ref a12, .null, .int (iI 0), .int (iI 0), .int (iI 0), .int (iI 0), .int (iI 0), .int (iI 0), .null, .null, .int (iI 0), .null, .null, .int (iI 0), .int (iI 0)])) := zsn eh34 fh33_5 (zneF fh21_0 fa22)
  refine z_dup (pc := 152) C dX4_init_152 rfl ?_
  refine z_bipush (pc := 153) C dX4_init_153 (by decide) ?_
  refine z_bipush (pc := 155) C dX4_init_155 (by decide) ?_
  refine z_castore (pc := 157) (f' := updV (updV (updV (updV (updV (updV (updV (updV (updV (updV (updV (updV (fun _ => .int (iI 0)) (Int.toNat 0) (.int (iI 59))) (Int.toNat 1) (.int (iI 109))) (Int.toNat 2) (.int (iI 59))) (Int.toNat 3) (.int (iI 55))) (Int.toNat 4) (.int (iI 59))) (Int.toNat 5) (.int (iI 109))) (Int.toNat 6) (.int (iI 55))) (Int.toNat 7) (.int (iI 59))) (Int.toNat 8) (.int (iI 109))) (Int.toNat 9) (.int (iI 97))) (Int.toNat 10) (.int (iI 106))) (Int.toNat 11) (.int (iI 55))) C (i_nc (by decide) (by decide)) fh34_0 (by omega) rfl dX4_init_157 ?_
  refine Z.nm (fun h35 eh35 => ?_)
  have kh35 : zkeep h h35 [m] := by rw [eh35]; exact zkeep.up kh34 (Or.inr na22) fh34_0
  have fh35_0 : h35 a22 = some (true, .inl (.char, 30, updV (updV (updV (updV (updV (updV (updV (updV (updV (updV (updV (updV (fun _ => .int (iI 0)) (Int.toNat 0) (.int (iI 59))) (Int.toNat 1) (.int (iI 109))) (Int.toNat 2) (.int (iI 59))) (Int.toNat 3) (.int (iI 55))) (Int.toNat 4) (.int (iI 59))) (Int.toNat 5) (.int (iI 109))) (Int.toNat 6) (.int (iI 55))) (Int.toNat 7) (.int (iI 59))) (Int.toNat 8) (.int (iI 109))) (Int.toNat 9) (.int (iI 97))) (Int.toNat 10) (.int (iI 106))) (Int.toNat 11) (.int (iI 55)))) := zse eh35
  have fh35_1 : h35 a1 = some (true, .inl (.int, 620, fun _ => .int (iI 0))) := zsn eh35 fh34_1 (zneF fh21_1 fa22)
  have fh35_2 : h35 a4 = some (true, .inl (.int, 4960, fun _ => .int (iI 0))) := zsn eh35 fh34_2 (zneF fh21_2 fa22)
  have fh35_3 : h35 a7 = some (true, .inl (.int, 200, fun _ => .int (iI 0))) := zsn eh35 fh34_3 (zneF fh21_3 fa22)
  have fh35_4 : h35 a12 = some (true, .inl (.char, 7, updV (updV (updV (updV (updV (updV (updV (fun _ => .int (iI 0)) (Int.toNat 0) (.int (iI 70))) (Int.toNat 1) (.int (iI 67))) (Int.toNat 2) (.int (iI 71))) (Int.toNat 3) (.int (iI 68))) (Int.toNat 4) (.int (iI 65))) (Int.toNat 5) (.int (iI 69))) (Int.toNat 6) (.int (iI 66)))) := zsn eh35 fh34_4 (zneF fh21_4 fa22)
  have fh35_5 : h35 m = some (true, .inr (3, [.ref a1, .ref a4, .int (iI 0), .ref a7, .int (iI 0), .int (iI 1), .int (iI 0), .int (iI 200), .int (iI 0), .ref a12, .null, .int (iI 0), .int (iI 0), .int (iI 0), .int (iI 0), .int (iI 0), .int (iI 0), .null, .null, .int (iI 0), .null, .null, .int (iI 0), .int (iI 0)])) := zsn eh35 fh34_5 (zneF fh21_0 fa22)
  refine z_dup (pc := 158) C dX4_init_158 rfl ?_
  refine z_bipush (pc := 159) C dX4_init_159 (by decide) ?_
  refine z_bipush (pc := 161) C dX4_init_161 (by decide) ?_
  refine z_castore (pc := 163) (f' := updV (updV (updV (updV (updV (updV (updV (updV (updV (updV (updV (updV (updV (fun _ => .int (iI 0)) (Int.toNat 0) (.int (iI 59))) (Int.toNat 1) (.int (iI 109))) (Int.toNat 2) (.int (iI 59))) (Int.toNat 3) (.int (iI 55))) (Int.toNat 4) (.int (iI 59))) (Int.toNat 5) (.int (iI 109))) (Int.toNat 6) (.int (iI 55))) (Int.toNat 7) (.int (iI 59))) (Int.toNat 8) (.int (iI 109))) (Int.toNat 9) (.int (iI 97))) (Int.toNat 10) (.int (iI 106))) (Int.toNat 11) (.int (iI 55))) (Int.toNat 12) (.int (iI 59))) C (i_nc (by decide) (by decide)) fh35_0 (by omega) rfl dX4_init_163 ?_
  refine Z.nm (fun h36 eh36 => ?_)
  have kh36 : zkeep h h36 [m] := by rw [eh36]; exact zkeep.up kh35 (Or.inr na22) fh35_0
  have fh36_0 : h36 a22 = some (true, .inl (.char, 30, updV (updV (updV (updV (updV (updV (updV (updV (updV (updV (updV (updV (updV (fun _ => .int (iI 0)) (Int.toNat 0) (.int (iI 59))) (Int.toNat 1) (.int (iI 109))) (Int.toNat 2) (.int (iI 59))) (Int.toNat 3) (.int (iI 55))) (Int.toNat 4) (.int (iI 59))) (Int.toNat 5) (.int (iI 109))) (Int.toNat 6) (.int (iI 55))) (Int.toNat 7) (.int (iI 59))) (Int.toNat 8) (.int (iI 109))) (Int.toNat 9) (.int (iI 97))) (Int.toNat 10) (.int (iI 106))) (Int.toNat 11) (.int (iI 55))) (Int.toNat 12) (.int (iI 59)))) := zse eh36
  have fh36_1 : h36 a1 = some (true, .inl (.int, 620, fun _ => .int (iI 0))) := zsn eh36 fh35_1 (zneF fh21_1 fa22)
  have fh36_2 : h36 a4 = some (true, .inl (.int, 4960, fun _ => .int (iI 0))) := zsn eh36 fh35_2 (zneF fh21_2 fa22)
  have fh36_3 : h36 a7 = some (true, .inl (.int, 200, fun _ => .int (iI 0))) := zsn eh36 fh35_3 (zneF fh21_3 fa22)
  have fh36_4 : h36 a12 = some (true, .inl (.char, 7, updV (updV (updV (updV (updV (updV (updV (fun _ => .int (iI 0)) (Int.toNat 0) (.int (iI 70))) (Int.toNat 1) (.int (iI 67))) (Int.toNat 2) (.int (iI 71))) (Int.toNat 3) (.int (iI 68))) (Int.toNat 4) (.int (iI 65))) (Int.toNat 5) (.int (iI 69))) (Int.toNat 6) (.int (iI 66)))) := zsn eh36 fh35_4 (zneF fh21_4 fa22)
  have fh36_5 : h36 m = some (true, .inr (3, [.ref a1, .ref a4, .int (iI 0), .ref a7, .int (iI 0), .int (iI 1), .int (iI 0), .int (iI 200), .int (iI 0), .ref a12, .null, .int (iI 0), .int (iI 0), .int (iI 0), .int (iI 0), .int (iI 0), .int (iI 0), .null, .null, .int (iI 0), .null, .null, .int (iI 0), .int (iI 0)])) := zsn eh36 fh35_5 (zneF fh21_0 fa22)
  refine z_dup (pc := 164) C dX4_init_164 rfl ?_
  refine z_bipush (pc := 165) C dX4_init_165 (by decide) ?_
  refine z_bipush (pc := 167) C dX4_init_167 (by decide) ?_
  refine z_castore (pc := 169) (f' := updV (updV (updV (updV (updV (updV (updV (updV (updV (updV (updV (updV (updV (updV (fun _ => .int (iI 0)) (Int.toNat 0) (.int (iI 59))) (Int.toNat 1) (.int (iI 109))) (Int.toNat 2) (.int (iI 59))) (Int.toNat 3) (.int (iI 55))) (Int.toNat 4) (.int (iI 59))) (Int.toNat 5) (.int (iI 109))) (Int.toNat 6) (.int (iI 55))) (Int.toNat 7) (.int (iI 59))) (Int.toNat 8) (.int (iI 109))) (Int.toNat 9) (.int (iI 97))) (Int.toNat 10) (.int (iI 106))) (Int.toNat 11) (.int (iI 55))) (Int.toNat 12) (.int (iI 59))) (Int.toNat 13) (.int (iI 100))) C (i_nc (by decide) (by decide)) fh36_0 (by omega) rfl dX4_init_169 ?_
  refine Z.nm (fun h37 eh37 => ?_)
  have kh37 : zkeep h h37 [m] := by rw [eh37]; exact zkeep.up kh36 (Or.inr na22) fh36_0
  have fh37_0 : h37 a22 = some (true, .inl (.char, 30, updV (updV (updV (updV (updV (updV (updV (updV (updV (updV (updV (updV (updV (updV (fun _ => .int (iI 0)) (Int.toNat 0) (.int (iI 59))) (Int.toNat 1) (.int (iI 109))) (Int.toNat 2) (.int (iI 59))) (Int.toNat 3) (.int (iI 55))) (Int.toNat 4) (.int (iI 59))) (Int.toNat 5) (.int (iI 109))) (Int.toNat 6) (.int (iI 55))) (Int.toNat 7) (.int (iI 59))) (Int.toNat 8) (.int (iI 109))) (Int.toNat 9) (.int (iI 97))) (Int.toNat 10) (.int (iI 106))) (Int.toNat 11) (.int (iI 55))) (Int.toNat 12) (.int (iI 59))) (Int.toNat 13) (.int (iI 100)))) := zse eh37
  have fh37_1 : h37 a1 = some (true, .inl (.int, 620, fun _ => .int (iI 0))) := zsn eh37 fh36_1 (zneF fh21_1 fa22)
  have fh37_2 : h37 a4 = some (true, .inl (.int, 4960, fun _ => .int (iI 0))) := zsn eh37 fh36_2 (zneF fh21_2 fa22)
  have fh37_3 : h37 a7 = some (true, .inl (.int, 200, fun _ => .int (iI 0))) := zsn eh37 fh36_3 (zneF fh21_3 fa22)
  have fh37_4 : h37 a12 = some (true, .inl (.char, 7, updV (updV (updV (updV (updV (updV (updV (fun _ => .int (iI 0)) (Int.toNat 0) (.int (iI 70))) (Int.toNat 1) (.int (iI 67))) (Int.toNat 2) (.int (iI 71))) (Int.toNat 3) (.int (iI 68))) (Int.toNat 4) (.int (iI 65))) (Int.toNat 5) (.int (iI 69))) (Int.toNat 6) (.int (iI 66)))) := zsn eh37 fh36_4 (zneF fh21_4 fa22)
  have fh37_5 : h37 m = some (true, .inr (3, [.ref a1, .ref a4, .int (iI 0), .ref a7, .int (iI 0), .int (iI 1), .int (iI 0), .int (iI 200), .int (iI 0), .ref a12, .null, .int (iI 0), .int (iI 0), .int (iI 0), .int (iI 0), .int (iI 0), .int (iI 0), .null, .null, .int (iI 0), .null, .null, .int (iI 0), .int (iI 0)])) := zsn eh37 fh36_5 (zneF fh21_0 fa22)
  refine z_dup (pc := 170) C dX4_init_170 rfl ?_
  refine z_bipush (pc := 171) C dX4_init_171 (by decide) ?_
  refine z_bipush (pc := 173) C dX4_init_173 (by decide) ?_
  refine z_castore (pc := 175) (f' := updV (updV (updV (updV (updV (updV (updV (updV (updV (updV (updV (updV (updV (updV (updV (fun _ => .int (iI 0)) (Int.toNat 0) (.int (iI 59))) (Int.toNat 1) (.int (iI 109))) (Int.toNat 2) (.int (iI 59))) (Int.toNat 3) (.int (iI 55))) (Int.toNat 4) (.int (iI 59))) (Int.toNat 5) (.int (iI 109))) (Int.toNat 6) (.int (iI 55))) (Int.toNat 7) (.int (iI 59))) (Int.toNat 8) (.int (iI 109))) (Int.toNat 9) (.int (iI 97))) (Int.toNat 10) (.int (iI 106))) (Int.toNat 11) (.int (iI 55))) (Int.toNat 12) (.int (iI 59))) (Int.toNat 13) (.int (iI 100))) (Int.toNat 14) (.int (iI 105))) C (i_nc (by decide) (by decide)) fh37_0 (by omega) rfl dX4_init_175 ?_
  refine Z.nm (fun h38 eh38 => ?_)
  have kh38 : zkeep h h38 [m] := by rw [eh38]; exact zkeep.up kh37 (Or.inr na22) fh37_0
  have fh38_0 : h38 a22 = some (true, .inl (.char, 30, updV (updV (updV (updV (updV (updV (updV (updV (updV (updV (updV (updV (updV (updV (updV (fun _ => .int (iI 0)) (Int.toNat 0) (.int (iI 59))) (Int.toNat 1) (.int (iI 109))) (Int.toNat 2) (.int (iI 59))) (Int.toNat 3) (.int (iI 55))) (Int.toNat 4) (.int (iI 59))) (Int.toNat 5) (.int (iI 109))) (Int.toNat 6) (.int (iI 55))) (Int.toNat 7) (.int (iI 59))) (Int.toNat 8) (.int (iI 109))) (Int.toNat 9) (.int (iI 97))) (Int.toNat 10) (.int (iI 106))) (Int.toNat 11) (.int (iI 55))) (Int.toNat 12) (.int (iI 59))) (Int.toNat 13) (.int (iI 100))) (Int.toNat 14) (.int (iI 105)))) := zse eh38
  have fh38_1 : h38 a1 = some (true, .inl (.int, 620, fun _ => .int (iI 0))) := zsn eh38 fh37_1 (zneF fh21_1 fa22)
  have fh38_2 : h38 a4 = some (true, .inl (.int, 4960, fun _ => .int (iI 0))) := zsn eh38 fh37_2 (zneF fh21_2 fa22)
  have fh38_3 : h38 a7 = some (true, .inl (.int, 200, fun _ => .int (iI 0))) := zsn eh38 fh37_3 (zneF fh21_3 fa22)
  have fh38_4 : h38 a12 = some (true, .inl (.char, 7, updV (updV (updV (updV (updV (updV (updV (fun _ => .int (iI 0)) (Int.toNat 0) (.int (iI 70))) (Int.toNat 1) (.int (iI 67))) (Int.toNat 2) (.int (iI 71))) (Int.toNat 3) (.int (iI 68))) (Int.toNat 4) (.int (iI 65))) (Int.toNat 5) (.int (iI 69))) (Int.toNat 6) (.int (iI 66)))) := zsn eh38 fh37_4 (zneF fh21_4 fa22)
  have fh38_5 : h38 m = some (true, .inr (3, [.ref a1, .ref a4, .int (iI 0), .ref a7, .int (iI 0), .int (iI 1), .int (iI 0), .int (iI 200), .int (iI 0), .ref a12, .null, .int (iI 0), .int (iI 0), .int (iI 0), .int (iI 0), .int (iI 0), .int (iI 0), .null, .null, .int (iI 0), .null, .null, .int (iI 0), .int (iI 0)])) := zsn eh38 fh37_5 (zneF fh21_0 fa22)
  refine z_dup (pc := 176) C dX4_init_176 rfl ?_
  refine z_bipush (pc := 177) C dX4_init_177 (by decide) ?_
  refine z_bipush (pc := 179) C dX4_init_179 (by decide) ?_
  refine z_castore (pc := 181) (f' := updV (updV (updV (updV (updV (updV (updV (updV (updV (updV (updV (updV (updV (updV (updV (updV (fun _ => .int (iI 0)) (Int.toNat 0) (.int (iI 59))) (Int.toNat 1) (.int (iI 109))) (Int.toNat 2) (.int (iI 59))) (Int.toNat 3) (.int (iI 55))) (Int.toNat 4) (.int (iI 59))) (Int.toNat 5) (.int (iI 109))) (Int.toNat 6) (.int (iI 55))) (Int.toNat 7) (.int (iI 59))) (Int.toNat 8) (.int (iI 109))) (Int.toNat 9) (.int (iI 97))) (Int.toNat 10) (.int (iI 106))) (Int.toNat 11) (.int (iI 55))) (Int.toNat 12) (.int (iI 59))) (Int.toNat 13) (.int (iI 100))) (Int.toNat 14) (.int (iI 105))) (Int.toNat 15) (.int (iI 109))) C (i_nc (by decide) (by decide)) fh38_0 (by omega) rfl dX4_init_181 ?_
  refine Z.nm (fun h39 eh39 => ?_)
  have kh39 : zkeep h h39 [m] := by rw [eh39]; exact zkeep.up kh38 (Or.inr na22) fh38_0
  have fh39_0 : h39 a22 = some (true, .inl (.char, 30, updV (updV (updV (updV (updV (updV (updV (updV (updV (updV (updV (updV (updV (updV (updV (updV (fun _ => .int (iI 0)) (Int.toNat 0) (.int (iI 59))) (Int.toNat 1) (.int (iI 109))) (Int.toNat 2) (.int (iI 59))) (Int.toNat 3) (.int (iI 55))) (Int.toNat 4) (.int (iI 59))) (Int.toNat 5) (.int (iI 109))) (Int.toNat 6) (.int (iI 55))) (Int.toNat 7) (.int (iI 59))) (Int.toNat 8) (.int (iI 109))) (Int.toNat 9) (.int (iI 97))) (Int.toNat 10) (.int (iI 106))) (Int.toNat 11) (.int (iI 55))) (Int.toNat 12) (.int (iI 59))) (Int.toNat 13) (.int (iI 100))) (Int.toNat 14) (.int (iI 105))) (Int.toNat 15) (.int (iI 109)))) := zse eh39
  have fh39_1 : h39 a1 = some (true, .inl (.int, 620, fun _ => .int (iI 0))) := zsn eh39 fh38_1 (zneF fh21_1 fa22)
  have fh39_2 : h39 a4 = some (true, .inl (.int, 4960, fun _ => .int (iI 0))) := zsn eh39 fh38_2 (zneF fh21_2 fa22)
  have fh39_3 : h39 a7 = some (true, .inl (.int, 200, fun _ => .int (iI 0))) := zsn eh39 fh38_3 (zneF fh21_3 fa22)
  have fh39_4 : h39 a12 = some (true, .inl (.char, 7, updV (updV (updV (updV (updV (updV (updV (fun _ => .int (iI 0)) (Int.toNat 0) (.int (iI 70))) (Int.toNat 1) (.int (iI 67))) (Int.toNat 2) (.int (iI 71))) (Int.toNat 3) (.int (iI 68))) (Int.toNat 4) (.int (iI 65))) (Int.toNat 5) (.int (iI 69))) (Int.toNat 6) (.int (iI 66)))) := zsn eh39 fh38_4 (zneF fh21_4 fa22)
  have fh39_5 : h39 m = some (true, .inr (3, [.ref a1, .ref a4, .int (iI 0), .ref a7, .int (iI 0), .int (iI 1), .int (iI 0), .int (iI 200), .int (iI 0), .ref a12, .null, .int (iI 0), .int (iI 0), .int (iI 0), .int (iI 0), .int (iI 0), .int (iI 0), .null, .null, .int (iI 0), .null, .null, .int (iI 0), .int (iI 0)])) := zsn eh39 fh38_5 (zneF fh21_0 fa22)
  refine z_dup (pc := 182) C dX4_init_182 rfl ?_
  refine z_bipush (pc := 183) C dX4_init_183 (by decide) ?_
  refine z_bipush (pc := 185) C dX4_init_185 (by decide) ?_
  refine z_castore (pc := 187) (f' := updV (updV (updV (updV (updV (updV (updV (updV (updV (updV (updV (updV (updV (updV (updV (updV (updV (fun _ => .int (iI 0)) (Int.toNat 0) (.int (iI 59))) (Int.toNat 1) (.int (iI 109))) (Int.toNat 2) (.int (iI 59))) (Int.toNat 3) (.int (iI 55))) (Int.toNat 4) (.int (iI 59))) (Int.toNat 5) (.int (iI 109))) (Int.toNat 6) (.int (iI 55))) (Int.toNat 7) (.int (iI 59))) (Int.toNat 8) (.int (iI 109))) (Int.toNat 9) (.int (iI 97))) (Int.toNat 10) (.int (iI 106))) (Int.toNat 11) (.int (iI 55))) (Int.toNat 12) (.int (iI 59))) (Int.toNat 13) (.int (iI 100))) (Int.toNat 14) (.int (iI 105))) (Int.toNat 15) (.int (iI 109))) (Int.toNat 16) (.int (iI 59))) C (i_nc (by decide) (by decide)) fh39_0 (by omega) rfl dX4_init_187 ?_
  refine Z.nm (fun h40 eh40 => ?_)
  have kh40 : zkeep h h40 [m] := by rw [eh40]; exact zkeep.up kh39 (Or.inr na22) fh39_0
  have fh40_0 : h40 a22 = some (true, .inl (.char, 30, updV (updV (updV (updV (updV (updV (updV (updV (updV (updV (updV (updV (updV (updV (updV (updV (updV (fun _ => .int (iI 0)) (Int.toNat 0) (.int (iI 59))) (Int.toNat 1) (.int (iI 109))) (Int.toNat 2) (.int (iI 59))) (Int.toNat 3) (.int (iI 55))) (Int.toNat 4) (.int (iI 59))) (Int.toNat 5) (.int (iI 109))) (Int.toNat 6) (.int (iI 55))) (Int.toNat 7) (.int (iI 59))) (Int.toNat 8) (.int (iI 109))) (Int.toNat 9) (.int (iI 97))) (Int.toNat 10) (.int (iI 106))) (Int.toNat 11) (.int (iI 55))) (Int.toNat 12) (.int (iI 59))) (Int.toNat 13) (.int (iI 100))) (Int.toNat 14) (.int (iI 105))) (Int.toNat 15) (.int (iI 109))) (Int.toNat 16) (.int (iI 59)))) := zse eh40
  have fh40_1 : h40 a1 = some (true, .inl (.int, 620, fun _ => .int (iI 0))) := zsn eh40 fh39_1 (zneF fh21_1 fa22)
  have fh40_2 : h40 a4 = some (true, .inl (.int, 4960, fun _ => .int (iI 0))) := zsn eh40 fh39_2 (zneF fh21_2 fa22)
  have fh40_3 : h40 a7 = some (true, .inl (.int, 200, fun _ => .int (iI 0))) := zsn eh40 fh39_3 (zneF fh21_3 fa22)
  have fh40_4 : h40 a12 = some (true, .inl (.char, 7, updV (updV (updV (updV (updV (updV (updV (fun _ => .int (iI 0)) (Int.toNat 0) (.int (iI 70))) (Int.toNat 1) (.int (iI 67))) (Int.toNat 2) (.int (iI 71))) (Int.toNat 3) (.int (iI 68))) (Int.toNat 4) (.int (iI 65))) (Int.toNat 5) (.int (iI 69))) (Int.toNat 6) (.int (iI 66)))) := zsn eh40 fh39_4 (zneF fh21_4 fa22)
  have fh40_5 : h40 m = some (true, .inr (3, [.ref a1, .ref a4, .int (iI 0), .ref a7, .int (iI 0), .int (iI 1), .int (iI 0), .int (iI 200), .int (iI 0), .ref a12, .null, .int (iI 0), .int (iI 0), .int (iI 0), .int (iI 0), .int (iI 0), .int (iI 0), .null, .null, .int (iI 0), .null, .null, .int (iI 0), .int (iI 0)])) := zsn eh40 fh39_5 (zneF fh21_0 fa22)
  refine z_dup (pc := 188) C dX4_init_188 rfl ?_
  refine z_bipush (pc := 189) C dX4_init_189 (by decide) ?_
  refine z_bipush (pc := 191) C dX4_init_191 (by decide) ?_
  refine z_castore (pc := 193) (f' := updV (updV (updV (updV (updV (updV (updV (updV (updV (updV (updV (updV (updV (updV (updV (updV (updV (updV (fun _ => .int (iI 0)) (Int.toNat 0) (.int (iI 59))) (Int.toNat 1) (.int (iI 109))) (Int.toNat 2) (.int (iI 59))) (Int.toNat 3) (.int (iI 55))) (Int.toNat 4) (.int (iI 59))) (Int.toNat 5) (.int (iI 109))) (Int.toNat 6) (.int (iI 55))) (Int.toNat 7) (.int (iI 59))) (Int.toNat 8) (.int (iI 109))) (Int.toNat 9) (.int (iI 97))) (Int.toNat 10) (.int (iI 106))) (Int.toNat 11) (.int (iI 55))) (Int.toNat 12) (.int (iI 59))) (Int.toNat 13) (.int (iI 100))) (Int.toNat 14) (.int (iI 105))) (Int.toNat 15) (.int (iI 109))) (Int.toNat 16) (.int (iI 59))) (Int.toNat 17) (.int (iI 97))) C (i_nc (by decide) (by decide)) fh40_0 (by omega) rfl dX4_init_193 ?_
  refine Z.nm (fun h41 eh41 => ?_)
  have kh41 : zkeep h h41 [m] := by rw [eh41]; exact zkeep.up kh40 (Or.inr na22) fh40_0
  have fh41_0 : h41 a22 = some (true, .inl (.char, 30, updV (updV (updV (updV (updV (updV (updV (updV (updV (updV (updV (updV (updV (updV (updV (updV (updV (updV (fun _ => .int (iI 0)) (Int.toNat 0) (.int (iI 59))) (Int.toNat 1) (.int (iI 109))) (Int.toNat 2) (.int (iI 59))) (Int.toNat 3) (.int (iI 55))) (Int.toNat 4) (.int (iI 59))) (Int.toNat 5) (.int (iI 109))) (Int.toNat 6) (.int (iI 55))) (Int.toNat 7) (.int (iI 59))) (Int.toNat 8) (.int (iI 109))) (Int.toNat 9) (.int (iI 97))) (Int.toNat 10) (.int (iI 106))) (Int.toNat 11) (.int (iI 55))) (Int.toNat 12) (.int (iI 59))) (Int.toNat 13) (.int (iI 100))) (Int.toNat 14) (.int (iI 105))) (Int.toNat 15) (.int (iI 109))) (Int.toNat 16) (.int (iI 59))) (Int.toNat 17) (.int (iI 97)))) := zse eh41
  have fh41_1 : h41 a1 = some (true, .inl (.int, 620, fun _ => .int (iI 0))) := zsn eh41 fh40_1 (zneF fh21_1 fa22)
  have fh41_2 : h41 a4 = some (true, .inl (.int, 4960, fun _ => .int (iI 0))) := zsn eh41 fh40_2 (zneF fh21_2 fa22)
  have fh41_3 : h41 a7 = some (true, .inl (.int, 200, fun _ => .int (iI 0))) := zsn eh41 fh40_3 (zneF fh21_3 fa22)
  have fh41_4 : h41 a12 = some (true, .inl (.char, 7, updV (updV (updV (updV (updV (updV (updV (fun _ => .int (iI 0)) (Int.toNat 0) (.int (iI 70))) (Int.toNat 1) (.int (iI 67))) (Int.toNat 2) (.int (iI 71))) (Int.toNat 3) (.int (iI 68))) (Int.toNat 4) (.int (iI 65))) (Int.toNat 5) (.int (iI 69))) (Int.toNat 6) (.int (iI 66)))) := zsn eh41 fh40_4 (zneF fh21_4 fa22)
  have fh41_5 : h41 m = some (true, .inr (3, [.ref a1, .ref a4, .int (iI 0), .ref a7, .int (iI 0), .int (iI 1), .int (iI 0), .int (iI 200), .int (iI 0), .ref a12, .null, .int (iI 0), .int (iI 0), .int (iI 0), .int (iI 0), .int (iI 0), .int (iI 0), .null, .null, .int (iI 0), .null, .null, .int (iI 0), .int (iI 0)])) := zsn eh41 fh40_5 (zneF fh21_0 fa22)
  refine z_dup (pc := 194) C dX4_init_194 rfl ?_
  refine z_bipush (pc := 195) C dX4_init_195 (by decide) ?_
  refine z_bipush (pc := 197) C dX4_init_197 (by decide) ?_
  refine z_castore (pc := 199) (f' := updV (updV (updV (updV (updV (updV (updV (updV (updV (updV (updV (updV (updV (updV (updV (updV (updV (updV (updV (fun _ => .int (iI 0)) (Int.toNat 0) (.int (iI 59))) (Int.toNat 1) (.int (iI 109))) (Int.toNat 2) (.int (iI 59))) (Int.toNat 3) (.int (iI 55))) (Int.toNat 4) (.int (iI 59))) (Int.toNat 5) (.int (iI 109))) (Int.toNat 6) (.int (iI 55))) (Int.toNat 7) (.int (iI 59))) (Int.toNat 8) (.int (iI 109))) (Int.toNat 9) (.int (iI 97))) (Int.toNat 10) (.int (iI 106))) (Int.toNat 11) (.int (iI 55))) (Int.toNat 12) (.int (iI 59))) (Int.toNat 13) (.int (iI 100))) (Int.toNat 14) (.int (iI 105))) (Int.toNat 15) (.int (iI 109))) (Int.toNat 16) (.int (iI 59))) (Int.toNat 17) (.int (iI 97))) (Int.toNat 18) (.int (iI 117))) C (i_nc (by decide) (by decide)) fh41_0 (by omega) rfl dX4_init_199 ?_
  refine Z.nm (fun h42 eh42 => ?_)
  have kh42 : zkeep h h42 [m] := by rw [eh42]; exact zkeep.up kh41 (Or.inr na22) fh41_0
  have fh42_0 : h42 a22 = some (true, .inl (.char, 30, updV (updV (updV (updV (updV (updV (updV (updV (updV (updV (updV (updV (updV (updV (updV (updV (updV (updV (updV (fun _ => .int (iI 0)) (Int.toNat 0) (.int (iI 59))) (Int.toNat 1) (.int (iI 109))) (Int.toNat 2) (.int (iI 59))) (Int.toNat 3) (.int (iI 55))) (Int.toNat 4) (.int (iI 59))) (Int.toNat 5) (.int (iI 109))) (Int.toNat 6) (.int (iI 55))) (Int.toNat 7) (.int (iI 59))) (Int.toNat 8) (.int (iI 109))) (Int.toNat 9) (.int (iI 97))) (Int.toNat 10) (.int (iI 106))) (Int.toNat 11) (.int (iI 55))) (Int.toNat 12) (.int (iI 59))) (Int.toNat 13) (.int (iI 100))) (Int.toNat 14) (.int (iI 105))) (Int.toNat 15) (.int (iI 109))) (Int.toNat 16) (.int (iI 59))) (Int.toNat 17) (.int (iI 97))) (Int.toNat 18) (.int (iI 117)))) := zse eh42
  have fh42_1 : h42 a1 = some (true, .inl (.int, 620, fun _ => .int (iI 0))) := zsn eh42 fh41_1 (zneF fh21_1 fa22)
  have fh42_2 : h42 a4 = some (true, .inl (.int, 4960, fun _ => .int (iI 0))) := zsn eh42 fh41_2 (zneF fh21_2 fa22)
  have fh42_3 : h42 a7 = some (true, .inl (.int, 200, fun _ => .int (iI 0))) := zsn eh42 fh41_3 (zneF fh21_3 fa22)
  have fh42_4 : h42 a12 = some (true, .inl (.char, 7, updV (updV (updV (updV (updV (updV (updV (fun _ => .int (iI 0)) (Int.toNat 0) (.int (iI 70))) (Int.toNat 1) (.int (iI 67))) (Int.toNat 2) (.int (iI 71))) (Int.toNat 3) (.int (iI 68))) (Int.toNat 4) (.int (iI 65))) (Int.toNat 5) (.int (iI 69))) (Int.toNat 6) (.int (iI 66)))) := zsn eh42 fh41_4 (zneF fh21_4 fa22)
  have fh42_5 : h42 m = some (true, .inr (3, [.ref a1, .ref a4, .int (iI 0), .ref a7, .int (iI 0), .int (iI 1), .int (iI 0), .int (iI 200), .int (iI 0), .ref a12, .null, .int (iI 0), .int (iI 0), .int (iI 0), .int (iI 0), .int (iI 0), .int (iI 0), .null, .null, .int (iI 0), .null, .null, .int (iI 0), .int (iI 0)])) := zsn eh42 fh41_5 (zneF fh21_0 fa22)
  refine z_dup (pc := 200) C dX4_init_200 rfl ?_
  refine z_bipush (pc := 201) C dX4_init_201 (by decide) ?_
  refine z_bipush (pc := 203) C dX4_init_203 (by decide) ?_
  refine z_castore (pc := 205) (f' := updV (updV (updV (updV (updV (updV (updV (updV (updV (updV (updV (updV (updV (updV (updV (updV (updV (updV (updV (updV (fun _ => .int (iI 0)) (Int.toNat 0) (.int (iI 59))) (Int.toNat 1) (.int (iI 109))) (Int.toNat 2) (.int (iI 59))) (Int.toNat 3) (.int (iI 55))) (Int.toNat 4) (.int (iI 59))) (Int.toNat 5) (.int (iI 109))) (Int.toNat 6) (.int (iI 55))) (Int.toNat 7) (.int (iI 59))) (Int.toNat 8) (.int (iI 109))) (Int.toNat 9) (.int (iI 97))) (Int.toNat 10) (.int (iI 106))) (Int.toNat 11) (.int (iI 55))) (Int.toNat 12) (.int (iI 59))) (Int.toNat 13) (.int (iI 100))) (Int.toNat 14) (.int (iI 105))) (Int.toNat 15) (.int (iI 109))) (Int.toNat 16) (.int (iI 59))) (Int.toNat 17) (.int (iI 97))) (Int.toNat 18) (.int (iI 117))) (Int.toNat 19) (.int (iI 103))) C (i_nc (by decide) (by decide)) fh42_0 (by omega) rfl dX4_init_205 ?_
  refine Z.nm (fun h43 eh43 => ?_)
  have kh43 : zkeep h h43 [m] := by rw [eh43]; exact zkeep.up kh42 (Or.inr na22) fh42_0
  have fh43_0 : h43 a22 = some (true, .inl (.char, 30, updV (updV (updV (updV (updV (updV (updV (updV (updV (updV (updV (updV (updV (updV (updV (updV (updV (updV (updV (updV (fun _ => .int (iI 0)) (Int.toNat 0) (.int (iI 59))) (Int.toNat 1) (.int (iI 109))) (Int.toNat 2) (.int (iI 59))) (Int.toNat 3) (.int (iI 55))) (Int.toNat 4) (.int (iI 59))) (Int.toNat 5) (.int (iI 109))) (Int.toNat 6) (.int (iI 55))) (Int.toNat 7) (.int (iI 59))) (Int.toNat 8) (.int (iI 109))) (Int.toNat 9) (.int (iI 97))) (Int.toNat 10) (.int (iI 106))) (Int.toNat 11) (.int (iI 55))) (Int.toNat 12) (.int (iI 59))) (Int.toNat 13) (.int (iI 100))) (Int.toNat 14) (.int (iI 105))) (Int.toNat 15) (.int (iI 109))) (Int.toNat 16) (.int (iI 59))) (Int.toNat 17) (.int (iI 97))) (Int.toNat 18) (.int (iI 117))) (Int.toNat 19) (.int (iI 103)))) := zse eh43
  have fh43_1 : h43 a1 = some (true, .inl (.int, 620, fun _ => .int (iI 0))) := zsn eh43 fh42_1 (zneF fh21_1 fa22)
  have fh43_2 : h43 a4 = some (true, .inl (.int, 4960, fun _ => .int (iI 0))) := zsn eh43 fh42_2 (zneF fh21_2 fa22)
  have fh43_3 : h43 a7 = some (true, .inl (.int, 200, fun _ => .int (iI 0))) := zsn eh43 fh42_3 (zneF fh21_3 fa22)
  have fh43_4 : h43 a12 = some (true, .inl (.char, 7, updV (updV (updV (updV (updV (updV (updV (fun _ => .int (iI 0)) (Int.toNat 0) (.int (iI 70))) (Int.toNat 1) (.int (iI 67))) (Int.toNat 2) (.int (iI 71))) (Int.toNat 3) (.int (iI 68))) (Int.toNat 4) (.int (iI 65))) (Int.toNat 5) (.int (iI 69))) (Int.toNat 6) (.int (iI 66)))) := zsn eh43 fh42_4 (zneF fh21_4 fa22)
  have fh43_5 : h43 m = some (true, .inr (3, [.ref a1, .ref a4, .int (iI 0), .ref a7, .int (iI 0), .int (iI 1), .int (iI 0), .int (iI 200), .int (iI 0), .ref a12, .null, .int (iI 0), .int (iI 0), .int (iI 0), .int (iI 0), .int (iI 0), .int (iI 0), .null, .null, .int (iI 0), .null, .null, .int (iI 0), .int (iI 0)])) := zsn eh43 fh42_5 (zneF fh21_0 fa22)
  refine z_dup (pc := 206) C dX4_init_206 rfl ?_
  refine z_bipush (pc := 207) C dX4_init_207 (by decide) ?_
  refine z_bipush (pc := 209) C dX4_init_209 (by decide) ?_
  refine z_castore (pc := 211) (f' := updV (updV (updV (updV (updV (updV (updV (updV (updV (updV (updV (updV (updV (updV (updV (updV (updV (updV (updV (updV (updV (fun _ => .int (iI 0)) (Int.toNat 0) (.int (iI 59))) (Int.toNat 1) (.int (iI 109))) (Int.toNat 2) (.int (iI 59))) (Int.toNat 3) (.int (iI 55))) (Int.toNat 4) (.int (iI 59))) (Int.toNat 5) (.int (iI 109))) (Int.toNat 6) (.int (iI 55))) (Int.toNat 7) (.int (iI 59))) (Int.toNat 8) (.int (iI 109))) (Int.toNat 9) (.int (iI 97))) (Int.toNat 10) (.int (iI 106))) (Int.toNat 11) (.int (iI 55))) (Int.toNat 12) (.int (iI 59))) (Int.toNat 13) (.int (iI 100))) (Int.toNat 14) (.int (iI 105))) (Int.toNat 15) (.int (iI 109))) (Int.toNat 16) (.int (iI 59))) (Int.toNat 17) (.int (iI 97))) (Int.toNat 18) (.int (iI 117))) (Int.toNat 19) (.int (iI 103))) (Int.toNat 20) (.int (iI 59))) C (i_nc (by decide) (by decide)) fh43_0 (by omega) rfl dX4_init_211 ?_
  refine Z.nm (fun h44 eh44 => ?_)
  have kh44 : zkeep h h44 [m] := by rw [eh44]; exact zkeep.up kh43 (Or.inr na22) fh43_0
  have fh44_0 : h44 a22 = some (true, .inl (.char, 30, updV (updV (updV (updV (updV (updV (updV (updV (updV (updV (updV (updV (updV (updV (updV (updV (updV (updV (updV (updV (updV (fun _ => .int (iI 0)) (Int.toNat 0) (.int (iI 59))) (Int.toNat 1) (.int (iI 109))) (Int.toNat 2) (.int (iI 59))) (Int.toNat 3) (.int (iI 55))) (Int.toNat 4) (.int (iI 59))) (Int.toNat 5) (.int (iI 109))) (Int.toNat 6) (.int (iI 55))) (Int.toNat 7) (.int (iI 59))) (Int.toNat 8) (.int (iI 109))) (Int.toNat 9) (.int (iI 97))) (Int.toNat 10) (.int (iI 106))) (Int.toNat 11) (.int (iI 55))) (Int.toNat 12) (.int (iI 59))) (Int.toNat 13) (.int (iI 100))) (Int.toNat 14) (.int (iI 105))) (Int.toNat 15) (.int (iI 109))) (Int.toNat 16) (.int (iI 59))) (Int.toNat 17) (.int (iI 97))) (Int.toNat 18) (.int (iI 117))) (Int.toNat 19) (.int (iI 103))) (Int.toNat 20) (.int (iI 59)))) := zse eh44
  have fh44_1 : h44 a1 = some (true, .inl (.int, 620, fun _ => .int (iI 0))) := zsn eh44 fh43_1 (zneF fh21_1 fa22)
  have fh44_2 : h44 a4 = some (true, .inl (.int, 4960, fun _ => .int (iI 0))) := zsn eh44 fh43_2 (zneF fh21_2 fa22)
  have fh44_3 : h44 a7 = some (true, .inl (.int, 200, fun _ => .int (iI 0))) := zsn eh44 fh43_3 (zneF fh21_3 fa22)
  have fh44_4 : h44 a12 = some (true, .inl (.char, 7, updV (updV (updV (updV (updV (updV (updV (fun _ => .int (iI 0)) (Int.toNat 0) (.int (iI 70))) (Int.toNat 1) (.int (iI 67))) (Int.toNat 2) (.int (iI 71))) (Int.toNat 3) (.int (iI 68))) (Int.toNat 4) (.int (iI 65))) (Int.toNat 5) (.int (iI 69))) (Int.toNat 6) (.int (iI 66)))) := zsn eh44 fh43_4 (zneF fh21_4 fa22)
  have fh44_5 : h44 m = some (true, .inr (3, [.ref a1, .ref a4, .int (iI 0), .ref a7, .int (iI 0), .int (iI 1), .int (iI 0), .int (iI 200), .int (iI 0), .ref a12, .null, .int (iI 0), .int (iI 0), .int (iI 0), .int (iI 0), .int (iI 0), .int (iI 0), .null, .null, .int (iI 0), .null, .null, .int (iI 0), .int (iI 0)])) := zsn eh44 fh43_5 (zneF fh21_0 fa22)
  refine z_dup (pc := 212) C dX4_init_212 rfl ?_
  refine z_bipush (pc := 213) C dX4_init_213 (by decide) ?_
  refine z_bipush (pc := 215) C dX4_init_215 (by decide) ?_
  refine z_castore (pc := 217) (f' := updV (updV (updV (updV (updV (updV (updV (updV (updV (updV (updV (updV (updV (updV (updV (updV (updV (updV (updV (updV (updV (updV (fun _ => .int (iI 0)) (Int.toNat 0) (.int (iI 59))) (Int.toNat 1) (.int (iI 109))) (Int.toNat 2) (.int (iI 59))) (Int.toNat 3) (.int (iI 55))) (Int.toNat 4) (.int (iI 59))) (Int.toNat 5) (.int (iI 109))) (Int.toNat 6) (.int (iI 55))) (Int.toNat 7) (.int (iI 59))) (Int.toNat 8) (.int (iI 109))) (Int.toNat 9) (.int (iI 97))) (Int.toNat 10) (.int (iI 106))) (Int.toNat 11) (.int (iI 55))) (Int.toNat 12) (.int (iI 59))) (Int.toNat 13) (.int (iI 100))) (Int.toNat 14) (.int (iI 105))) (Int.toNat 15) (.int (iI 109))) (Int.toNat 16) (.int (iI 59))) (Int.toNat 17) (.int (iI 97))) (Int.toNat 18) (.int (iI 117))) (Int.toNat 19) (.int (iI 103))) (Int.toNat 20) (.int (iI 59))) (Int.toNat 21) (.int (iI 115))) C (i_nc (by decide) (by decide)) fh44_0 (by omega) rfl dX4_init_217 ?_
  refine Z.nm (fun h45 eh45 => ?_)
  have kh45 : zkeep h h45 [m] := by rw [eh45]; exact zkeep.up kh44 (Or.inr na22) fh44_0
  have fh45_0 : h45 a22 = some (true, .inl (.char, 30, updV (updV (updV (updV (updV (updV (updV (updV (updV (updV (updV (updV (updV (updV (updV (updV (updV (updV (updV (updV (updV (updV (fun _ => .int (iI 0)) (Int.toNat 0) (.int (iI 59))) (Int.toNat 1) (.int (iI 109))) (Int.toNat 2) (.int (iI 59))) (Int.toNat 3) (.int (iI 55))) (Int.toNat 4) (.int (iI 59))) (Int.toNat 5) (.int (iI 109))) (Int.toNat 6) (.int (iI 55))) (Int.toNat 7) (.int (iI 59))) (Int.toNat 8) (.int (iI 109))) (Int.toNat 9) (.int (iI 97))) (Int.toNat 10) (.int (iI 106))) (Int.toNat 11) (.int (iI 55))) (Int.toNat 12) (.int (iI 59))) (Int.toNat 13) (.int (iI 100))) (Int.toNat 14) (.int (iI 105))) (Int.toNat 15) (.int (iI 109))) (Int.toNat 16) (.int (iI 59))) (Int.toNat 17) (.int (iI 97))) (Int.toNat 18) (.int (iI 117))) (Int.toNat 19) (.int (iI 103))) (Int.toNat 20) (.int (iI 59))) (Int.toNat 21) (.int (iI 115)))) := zse eh45
  have fh45_1 : h45 a1 = some (true, .inl (.int, 620, fun _ => .int (iI 0))) := zsn eh45 fh44_1 (zneF fh21_1 fa22)
  have fh45_2 : h45 a4 = some (true, .inl (.int, 4960, fun _ => .int (iI 0))) := zsn eh45 fh44_2 (zneF fh21_2 fa22)
  have fh45_3 : h45 a7 = some (true, .inl (.int, 200, fun _ => .int (iI 0))) := zsn eh45 fh44_3 (zneF fh21_3 fa22)
  have fh45_4 : h45 a12 = some (true, .inl (.char, 7, updV (updV (updV (updV (updV (updV (updV (fun _ => .int (iI 0)) (Int.toNat 0) (.int (iI 70))) (Int.toNat 1) (.int (iI 67))) (Int.toNat 2) (.int (iI 71))) (Int.toNat 3) (.int (iI 68))) (Int.toNat 4) (.int (iI 65))) (Int.toNat 5) (.int (iI 69))) (Int.toNat 6) (.int (iI 66)))) := zsn eh45 fh44_4 (zneF fh21_4 fa22)
  have fh45_5 : h45 m = some (true, .inr (3, [.ref a1, .ref a4, .int (iI 0), .ref a7, .int (iI 0), .int (iI 1), .int (iI 0), .int (iI 200), .int (iI 0), .ref a12, .null, .int (iI 0), .int (iI 0), .int (iI 0), .int (iI 0), .int (iI 0), .int (iI 0), .null, .null, .int (iI 0), .null, .null, .int (iI 0), .int (iI 0)])) := zsn eh45 fh44_5 (zneF fh21_0 fa22)
  refine z_dup (pc := 218) C dX4_init_218 rfl ?_
  refine z_bipush (pc := 219) C dX4_init_219 (by decide) ?_
  refine z_bipush (pc := 221) C dX4_init_221 (by decide) ?_
  refine z_castore (pc := 223) (f' := updV (updV (updV (updV (updV (updV (updV (updV (updV (updV (updV (updV (updV (updV (updV (updV (updV (updV (updV (updV (updV (updV (updV (fun _ => .int (iI 0)) (Int.toNat 0) (.int (iI 59))) (Int.toNat 1) (.int (iI 109))) (Int.toNat 2) (.int (iI 59))) (Int.toNat 3) (.int (iI 55))) (Int.toNat 4) (.int (iI 59))) (Int.toNat 5) (.int (iI 109))) (Int.toNat 6) (.int (iI 55))) (Int.toNat 7) (.int (iI 59))) (Int.toNat 8) (.int (iI 109))) (Int.toNat 9) (.int (iI 97))) (Int.toNat 10) (.int (iI 106))) (Int.toNat 11) (.int (iI 55))) (Int.toNat 12) (.int (iI 59))) (Int.toNat 13) (.int (iI 100))) (Int.toNat 14) (.int (iI 105))) (Int.toNat 15) (.int (iI 109))) (Int.toNat 16) (.int (iI 59))) (Int.toNat 17) (.int (iI 97))) (Int.toNat 18) (.int (iI 117))) (Int.toNat 19) (.int (iI 103))) (Int.toNat 20) (.int (iI 59))) (Int.toNat 21) (.int (iI 115))) (Int.toNat 22) (.int (iI 117))) C (i_nc (by decide) (by decide)) fh45_0 (by omega) rfl dX4_init_223 ?_
  refine Z.nm (fun h46 eh46 => ?_)
  have kh46 : zkeep h h46 [m] := by rw [eh46]; exact zkeep.up kh45 (Or.inr na22) fh45_0
  have fh46_0 : h46 a22 = some (true, .inl (.char, 30, updV (updV (updV (updV (updV (updV (updV (updV (updV (updV (updV (updV (updV (updV (updV (updV (updV (updV (updV (updV (updV (updV (updV (fun _ => .int (iI 0)) (Int.toNat 0) (.int (iI 59))) (Int.toNat 1) (.int (iI 109))) (Int.toNat 2) (.int (iI 59))) (Int.toNat 3) (.int (iI 55))) (Int.toNat 4) (.int (iI 59))) (Int.toNat 5) (.int (iI 109))) (Int.toNat 6) (.int (iI 55))) (Int.toNat 7) (.int (iI 59))) (Int.toNat 8) (.int (iI 109))) (Int.toNat 9) (.int (iI 97))) (Int.toNat 10) (.int (iI 106))) (Int.toNat 11) (.int (iI 55))) (Int.toNat 12) (.int (iI 59))) (Int.toNat 13) (.int (iI 100))) (Int.toNat 14) (.int (iI 105))) (Int.toNat 15) (.int (iI 109))) (Int.toNat 16) (.int (iI 59))) (Int.toNat 17) (.int (iI 97))) (Int.toNat 18) (.int (iI 117))) (Int.toNat 19) (.int (iI 103))) (Int.toNat 20) (.int (iI 59))) (Int.toNat 21) (.int (iI 115))) (Int.toNat 22) (.int (iI 117)))) := zse eh46
  have fh46_1 : h46 a1 = some (true, .inl (.int, 620, fun _ => .int (iI 0))) := zsn eh46 fh45_1 (zneF fh21_1 fa22)
  have fh46_2 : h46 a4 = some (true, .inl (.int, 4960, fun _ => .int (iI 0))) := zsn eh46 fh45_2 (zneF fh21_2 fa22)
  have fh46_3 : h46 a7 = some (true, .inl (.int, 200, fun _ => .int (iI 0))) := zsn eh46 fh45_3 (zneF fh21_3 fa22)
  have fh46_4 : h46 a12 = some (true, .inl (.char, 7, updV (updV (updV (updV (updV (updV (updV (fun _ => .int (iI 0)) (Int.toNat 0) (.int (iI 70))) (Int.toNat 1) (.int (iI 67))) (Int.toNat 2) (.int (iI 71))) (Int.toNat 3) (.int (iI 68))) (Int.toNat 4) (.int (iI 65))) (Int.toNat 5) (.int (iI 69))) (Int.toNat 6) (.int (iI 66)))) := zsn eh46 fh45_4 (zneF fh21_4 fa22)
  have fh46_5 : h46 m = some (true, .inr (3, [.ref a1, .ref a4, .int (iI 0), .ref a7, .int (iI 0), .int (iI 1), .int (iI 0), .int (iI 200), .int (iI 0), .ref a12, .null, .int (iI 0), .int (iI 0), .int (iI 0), .int (iI 0), .int (iI 0), .int (iI 0), .null, .null, .int (iI 0), .null, .null, .int (iI 0), .int (iI 0)])) := zsn eh46 fh45_5 (zneF fh21_0 fa22)
  refine z_dup (pc := 224) C dX4_init_224 rfl ?_
  refine z_bipush (pc := 225) C dX4_init_225 (by decide) ?_
  refine z_bipush (pc := 227) C dX4_init_227 (by decide) ?_
  refine z_castore (pc := 229) (f' := updV (updV (updV (updV (updV (updV (updV (updV (updV (updV (updV (updV (updV (updV (updV (updV (updV (updV (updV (updV (updV (updV (updV (updV (fun _ => .int (iI 0)) (Int.toNat 0) (.int (iI 59))) (Int.toNat 1) (.int (iI 109))) (Int.toNat 2) (.int (iI 59))) (Int.toNat 3) (.int (iI 55))) (Int.toNat 4) (.int (iI 59))) (Int.toNat 5) (.int (iI 109))) (Int.toNat 6) (.int (iI 55))) (Int.toNat 7) (.int (iI 59))) (Int.toNat 8) (.int (iI 109))) (Int.toNat 9) (.int (iI 97))) (Int.toNat 10) (.int (iI 106))) (Int.toNat 11) (.int (iI 55))) (Int.toNat 12) (.int (iI 59))) (Int.toNat 13) (.int (iI 100))) (Int.toNat 14) (.int (iI 105))) (Int.toNat 15) (.int (iI 109))) (Int.toNat 16) (.int (iI 59))) (Int.toNat 17) (.int (iI 97))) (Int.toNat 18) (.int (iI 117))) (Int.toNat 19) (.int (iI 103))) (Int.toNat 20) (.int (iI 59))) (Int.toNat 21) (.int (iI 115))) (Int.toNat 22) (.int (iI 117))) (Int.toNat 23) (.int (iI 115))) C (i_nc (by decide) (by decide)) fh46_0 (by omega) rfl dX4_init_229 ?_
  refine Z.nm (fun h47 eh47 => ?_)
  have kh47 : zkeep h h47 [m] := by rw [eh47]; exact zkeep.up kh46 (Or.inr na22) fh46_0
  have fh47_0 : h47 a22 = some (true, .inl (.char, 30, updV (updV (updV (updV (updV (updV (updV (updV (updV (updV (updV (updV (updV (updV (updV (updV (updV (updV (updV (updV (updV (updV (updV (updV (fun _ => .int (iI 0)) (Int.toNat 0) (.int (iI 59))) (Int.toNat 1) (.int (iI 109))) (Int.toNat 2) (.int (iI 59))) (Int.toNat 3) (.int (iI 55))) (Int.toNat 4) (.int (iI 59))) (Int.toNat 5) (.int (iI 109))) (Int.toNat 6) (.int (iI 55))) (Int.toNat 7) (.int (iI 59))) (Int.toNat 8) (.int (iI 109))) (Int.toNat 9) (.int (iI 97))) (Int.toNat 10) (.int (iI 106))) (Int.toNat 11) (.int (iI 55))) (Int.toNat 12) (.int (iI 59))) (Int.toNat 13) (.int (iI 100))) (Int.toNat 14) (.int (iI 105))) (Int.toNat 15) (.int (iI 109))) (Int.toNat 16) (.int (iI 59))) (Int.toNat 17) (.int (iI 97))) (Int.toNat 18) (.int (iI 117))) (Int.toNat 19) (.int (iI 103))) (Int.toNat 20) (.int (iI 59))) (Int.toNat 21) (.int (iI 115))) (Int.toNat 22) (.int (iI 117))) (Int.toNat 23) (.int (iI 115)))) := zse eh47
  have fh47_1 : h47 a1 = some (true, .inl (.int, 620, fun _ => .int (iI 0))) := zsn eh47 fh46_1 (zneF fh21_1 fa22)
  have fh47_2 : h47 a4 = some (true, .inl (.int, 4960, fun _ => .int (iI 0))) := zsn eh47 fh46_2 (zneF fh21_2 fa22)
  have fh47_3 : h47 a7 = some (true, .inl (.int, 200, fun _ => .int (iI 0))) := zsn eh47 fh46_3 (zneF fh21_3 fa22)
  have fh47_4 : h47 a12 = some (true, .inl (.char, 7, updV (updV (updV (updV (updV (updV (updV (fun _ => .int (iI 0)) (Int.toNat 0) (.int (iI 70))) (Int.toNat 1) (.int (iI 67))) (Int.toNat 2) (.int (iI 71))) (Int.toNat 3) (.int (iI 68))) (Int.toNat 4) (.int (iI 65))) (Int.toNat 5) (.int (iI 69))) (Int.toNat 6) (.int (iI 66)))) := zsn eh47 fh46_4 (zneF fh21_4 fa22)
  have fh47_5 : h47 m = some (true, .inr (3, [.ref a1, .ref a4, .int (iI 0), .ref a7, .int (iI 0), .int (iI 1), .int (iI 0), .int (iI 200), .int (iI 0), .ref a12, .null, .int (iI 0), .int (iI 0), .int (iI 0), .int (iI 0), .int (iI 0), .int (iI 0), .null, .null, .int (iI 0), .null, .null, .int (iI 0), .int (iI 0)])) := zsn eh47 fh46_5 (zneF fh21_0 fa22)
  refine z_dup (pc := 230) C dX4_init_230 rfl ?_
  refine z_bipush (pc := 231) C dX4_init_231 (by decide) ?_
  refine z_bipush (pc := 233) C dX4_init_233 (by decide) ?_
  refine z_castore (pc := 235) (f' := updV (updV (updV (updV (updV (updV (updV (updV (updV (updV (updV (updV (updV (updV (updV (updV (updV (updV (updV (updV (updV (updV (updV (updV (updV (fun _ => .int (iI 0)) (Int.toNat 0) (.int (iI 59))) (Int.toNat 1) (.int (iI 109))) (Int.toNat 2) (.int (iI 59))) (Int.toNat 3) (.int (iI 55))) (Int.toNat 4) (.int (iI 59))) (Int.toNat 5) (.int (iI 109))) (Int.toNat 6) (.int (iI 55))) (Int.toNat 7) (.int (iI 59))) (Int.toNat 8) (.int (iI 109))) (Int.toNat 9) (.int (iI 97))) (Int.toNat 10) (.int (iI 106))) (Int.toNat 11) (.int (iI 55))) (Int.toNat 12) (.int (iI 59))) (Int.toNat 13) (.int (iI 100))) (Int.toNat 14) (.int (iI 105))) (Int.toNat 15) (.int (iI 109))) (Int.toNat 16) (.int (iI 59))) (Int.toNat 17) (.int (iI 97))) (Int.toNat 18) (.int (iI 117))) (Int.toNat 19) (.int (iI 103))) (Int.toNat 20) (.int (iI 59))) (Int.toNat 21) (.int (iI 115))) (Int.toNat 22) (.int (iI 117))) (Int.toNat 23) (.int (iI 115))) (Int.toNat 24) (.int (iI 52))) C (i_nc (by decide) (by decide)) fh47_0 (by omega) rfl dX4_init_235 ?_
  refine Z.nm (fun h48 eh48 => ?_)
  have kh48 : zkeep h h48 [m] := by rw [eh48]; exact zkeep.up kh47 (Or.inr na22) fh47_0
  have fh48_0 : h48 a22 = some (true, .inl (.char, 30, updV (updV (updV (updV (updV (updV (updV (updV (updV (updV (updV (updV (updV (updV (updV (updV (updV (updV (updV (updV (updV (updV (updV (updV (updV (fun _ => .int (iI 0)) (Int.toNat 0) (.int (iI 59))) (Int.toNat 1) (.int (iI 109))) (Int.toNat 2) (.int (iI 59))) (Int.toNat 3) (.int (iI 55))) (Int.toNat 4) (.int (iI 59))) (Int.toNat 5) (.int (iI 109))) (Int.toNat 6) (.int (iI 55))) (Int.toNat 7) (.int (iI 59))) (Int.toNat 8) (.int (iI 109))) (Int.toNat 9) (.int (iI 97))) (Int.toNat 10) (.int (iI 106))) (Int.toNat 11) (.int (iI 55))) (Int.toNat 12) (.int (iI 59))) (Int.toNat 13) (.int (iI 100))) (Int.toNat 14) (.int (iI 105))) (Int.toNat 15) (.int (iI 109))) (Int.toNat 16) (.int (iI 59))) (Int.toNat 17) (.int (iI 97))) (Int.toNat 18) (.int (iI 117))) (Int.toNat 19) (.int (iI 103))) (Int.toNat 20) (.int (iI 59))) (Int.toNat 21) (.int (iI 115))) (Int.toNat 22) (.int (iI 117))) (Int.toNat 23) (.int (iI 115))) (Int.toNat 24) (.int (iI 52)))) := zse eh48
  have fh48_1 : h48 a1 = some (true, .inl (.int, 620, fun _ => .int (iI 0))) := zsn eh48 fh47_1 (zneF fh21_1 fa22)
  have fh48_2 : h48 a4 = some (true, .inl (.int, 4960, fun _ => .int (iI 0))) := zsn eh48 fh47_2 (zneF fh21_2 fa22)
  have fh48_3 : h48 a7 = some (true, .inl (.int, 200, fun _ => .int (iI 0))) := zsn eh48 fh47_3 (zneF fh21_3 fa22)
  have fh48_4 : h48 a12 = some (true, .inl (.char, 7, updV (updV (updV (updV (updV (updV (updV (fun _ => .int (iI 0)) (Int.toNat 0) (.int (iI 70))) (Int.toNat 1) (.int (iI 67))) (Int.toNat 2) (.int (iI 71))) (Int.toNat 3) (.int (iI 68))) (Int.toNat 4) (.int (iI 65))) (Int.toNat 5) (.int (iI 69))) (Int.toNat 6) (.int (iI 66)))) := zsn eh48 fh47_4 (zneF fh21_4 fa22)
  have fh48_5 : h48 m = some (true, .inr (3, [.ref a1, .ref a4, .int (iI 0), .ref a7, .int (iI 0), .int (iI 1), .int (iI 0), .int (iI 200), .int (iI 0), .ref a12, .null, .int (iI 0), .int (iI 0), .int (iI 0), .int (iI 0), .int (iI 0), .int (iI 0), .null, .null, .int (iI 0), .null, .null, .int (iI 0), .int (iI 0)])) := zsn eh48 fh47_5 (zneF fh21_0 fa22)
  refine z_dup (pc := 236) C dX4_init_236 rfl ?_
  refine z_bipush (pc := 237) C dX4_init_237 (by decide) ?_
  refine z_bipush (pc := 239) C dX4_init_239 (by decide) ?_
  refine z_castore (pc := 241) (f' := updV (updV (updV (updV (updV (updV (updV (updV (updV (updV (updV (updV (updV (updV (updV (updV (updV (updV (updV (updV (updV (updV (updV (updV (updV (updV (fun _ => .int (iI 0)) (Int.toNat 0) (.int (iI 59))) (Int.toNat 1) (.int (iI 109))) (Int.toNat 2) (.int (iI 59))) (Int.toNat 3) (.int (iI 55))) (Int.toNat 4) (.int (iI 59))) (Int.toNat 5) (.int (iI 109))) (Int.toNat 6) (.int (iI 55))) (Int.toNat 7) (.int (iI 59))) (Int.toNat 8) (.int (iI 109))) (Int.toNat 9) (.int (iI 97))) (Int.toNat 10) (.int (iI 106))) (Int.toNat 11) (.int (iI 55))) (Int.toNat 12) (.int (iI 59))) (Int.toNat 13) (.int (iI 100))) (Int.toNat 14) (.int (iI 105))) (Int.toNat 15) (.int (iI 109))) (Int.toNat 16) (.int (iI 59))) (Int.toNat 17) (.int (iI 97))) (Int.toNat 18) (.int (iI 117))) (Int.toNat 19) (.int (iI 103))) (Int.toNat 20) (.int (iI 59))) (Int.toNat 21) (.int (iI 115))) (Int.toNat 22) (.int (iI 117))) (Int.toNat 23) (.int (iI 115))) (Int.toNat 24) (.int (iI 52))) (Int.toNat 25) (.int (iI 59))) C (i_nc (by decide) (by decide)) fh48_0 (by omega) rfl dX4_init_241 ?_
  refine Z.nm (fun h49 eh49 => ?_)
  have kh49 : zkeep h h49 [m] := by rw [eh49]; exact zkeep.up kh48 (Or.inr na22) fh48_0
  have fh49_0 : h49 a22 = some (true, .inl (.char, 30, updV (updV (updV (updV (updV (updV (updV (updV (updV (updV (updV (updV (updV (updV (updV (updV (updV (updV (updV (updV (updV (updV (updV (updV (updV (updV (fun _ => .int (iI 0)) (Int.toNat 0) (.int (iI 59))) (Int.toNat 1) (.int (iI 109))) (Int.toNat 2) (.int (iI 59))) (Int.toNat 3) (.int (iI 55))) (Int.toNat 4) (.int (iI 59))) (Int.toNat 5) (.int (iI 109))) (Int.toNat 6) (.int (iI 55))) (Int.toNat 7) (.int (iI 59))) (Int.toNat 8) (.int (iI 109))) (Int.toNat 9) (.int (iI 97))) (Int.toNat 10) (.int (iI 106))) (Int.toNat 11) (.int (iI 55))) (Int.toNat 12) (.int (iI 59))) (Int.toNat 13) (.int (iI 100))) (Int.toNat 14) (.int (iI 105))) (Int.toNat 15) (.int (iI 109))) (Int.toNat 16) (.int (iI 59))) (Int.toNat 17) (.int (iI 97))) (Int.toNat 18) (.int (iI 117))) (Int.toNat 19) (.int (iI 103))) (Int.toNat 20) (.int (iI 59))) (Int.toNat 21) (.int (iI 115))) (Int.toNat 22) (.int (iI 117))) (Int.toNat 23) (.int (iI 115))) (Int.toNat 24) (.int (iI 52))) (Int.toNat 25) (.int (iI 59)))) := zse eh49
  have fh49_1 : h49 a1 = some (true, .inl (.int, 620, fun _ => .int (iI 0))) := zsn eh49 fh48_1 (zneF fh21_1 fa22)
  have fh49_2 : h49 a4 = some (true, .inl (.int, 4960, fun _ => .int (iI 0))) := zsn eh49 fh48_2 (zneF fh21_2 fa22)
  have fh49_3 : h49 a7 = some (true, .inl (.int, 200, fun _ => .int (iI 0))) := zsn eh49 fh48_3 (zneF fh21_3 fa22)
  have fh49_4 : h49 a12 = some (true, .inl (.char, 7, updV (updV (updV (updV (updV (updV (updV (fun _ => .int (iI 0)) (Int.toNat 0) (.int (iI 70))) (Int.toNat 1) (.int (iI 67))) (Int.toNat 2) (.int (iI 71))) (Int.toNat 3) (.int (iI 68))) (Int.toNat 4) (.int (iI 65))) (Int.toNat 5) (.int (iI 69))) (Int.toNat 6) (.int (iI 66)))) := zsn eh49 fh48_4 (zneF fh21_4 fa22)
  have fh49_5 : h49 m = some (true, .inr (3, [.ref a1, .ref a4, .int (iI 0), .ref a7, .int (iI 0), .int (iI 1), .int (iI 0), .int (iI 200), .int (iI 0), .ref a12, .null, .int (iI 0), .int (iI 0), .int (iI 0), .int (iI 0), .int (iI 0), .int (iI 0), .null, .null, .int (iI 0), .null, .null, .int (iI 0), .int (iI 0)])) := zsn eh49 fh48_5 (zneF fh21_0 fa22)
  refine z_dup (pc := 242) C dX4_init_242 rfl ?_
  refine z_bipush (pc := 243) C dX4_init_243 (by decide) ?_
  refine z_bipush (pc := 245) C dX4_init_245 (by decide) ?_
  refine z_castore (pc := 247) (f' := updV (updV (updV (updV (updV (updV (updV (updV (updV (updV (updV (updV (updV (updV (updV (updV (updV (updV (updV (updV (updV (updV (updV (updV (updV (updV (updV (fun _ => .int (iI 0)) (Int.toNat 0) (.int (iI 59))) (Int.toNat 1) (.int (iI 109))) (Int.toNat 2) (.int (iI 59))) (Int.toNat 3) (.int (iI 55))) (Int.toNat 4) (.int (iI 59))) (Int.toNat 5) (.int (iI 109))) (Int.toNat 6) (.int (iI 55))) (Int.toNat 7) (.int (iI 59))) (Int.toNat 8) (.int (iI 109))) (Int.toNat 9) (.int (iI 97))) (Int.toNat 10) (.int (iI 106))) (Int.toNat 11) (.int (iI 55))) (Int.toNat 12) (.int (iI 59))) (Int.toNat 13) (.int (iI 100))) (Int.toNat 14) (.int (iI 105))) (Int.toNat 15) (.int (iI 109))) (Int.toNat 16) (.int (iI 59))) (Int.toNat 17) (.int (iI 97))) (Int.toNat 18) (.int (iI 117))) (Int.toNat 19) (.int (iI 103))) (Int.toNat 20) (.int (iI 59))) (Int.toNat 21) (.int (iI 115))) (Int.toNat 22) (.int (iI 117))) (Int.toNat 23) (.int (iI 115))) (Int.toNat 24) (.int (iI 52))) (Int.toNat 25) (.int (iI 59))) (Int.toNat 26) (.int (iI 54))) C (i_nc (by decide) (by decide)) fh49_0 (by omega) rfl dX4_init_247 ?_
  refine Z.nm (fun h50 eh50 => ?_)
  have kh50 : zkeep h h50 [m] := by rw [eh50]; exact zkeep.up kh49 (Or.inr na22) fh49_0
  have fh50_0 : h50 a22 = some (true, .inl (.char, 30, updV (updV (updV (updV (updV (updV (updV (updV (updV (updV (updV (updV (updV (updV (updV (updV (updV (updV (updV (updV (updV (updV (updV (updV (updV (updV (updV (fun _ => .int (iI 0)) (Int.toNat 0) (.int (iI 59))) (Int.toNat 1) (.int (iI 109))) (Int.toNat 2) (.int (iI 59))) (Int.toNat 3) (.int (iI 55))) (Int.toNat 4) (.int (iI 59))) (Int.toNat 5) (.int (iI 109))) (Int.toNat 6) (.int (iI 55))) (Int.toNat 7) (.int (iI 59))) (Int.toNat 8) (.int (iI 109))) (Int.toNat 9) (.int (iI 97))) (Int.toNat 10) (.int (iI 106))) (Int.toNat 11) (.int (iI 55))) (Int.toNat 12) (.int (iI 59))) (Int.toNat 13) (.int (iI 100))) (Int.toNat 14) (.int (iI 105))) (Int.toNat 15) (.int (iI 109))) (Int.toNat 16) (.int (iI 59))) (Int.toNat 17) (.int (iI 97))) (Int.toNat 18) (.int (iI 117))) (Int.toNat 19) (.int (iI 103))) (Int.toNat 20) (.int (iI 59))) (Int.toNat 21) (.int (iI 115))) (Int.toNat 22) (.int (iI 117))) (Int.toNat 23) (.int (iI 115))) (Int.toNat 24) (.int (iI 52))) (Int.toNat 25) (.int (iI 59))) (Int.toNat 26) (.int (iI 54)))) := zse eh50
  have fh50_1 : h50 a1 = some (true, .inl (.int, 620, fun _ => .int (iI 0))) := zsn eh50 fh49_1 (zneF fh21_1 fa22)
  have fh50_2 : h50 a4 = some (true, .inl (.int, 4960, fun _ => .int (iI 0))) := zsn eh50 fh49_2 (zneF fh21_2 fa22)
  have fh50_3 : h50 a7 = some (true, .inl (.int, 200, fun _ => .int (iI 0))) := zsn eh50 fh49_3 (zneF fh21_3 fa22)
  have fh50_4 : h50 a12 = some (true, .inl (.char, 7, updV (updV (updV (updV (updV (updV (updV (fun _ => .int (iI 0)) (Int.toNat 0) (.int (iI 70))) (Int.toNat 1) (.int (iI 67))) (Int.toNat 2) (.int (iI 71))) (Int.toNat 3) (.int (iI 68))) (Int.toNat 4) (.int (iI 65))) (Int.toNat 5) (.int (iI 69))) (Int.toNat 6) (.int (iI 66)))) := zsn eh50 fh49_4 (zneF fh21_4 fa22)
  have fh50_5 : h50 m = some (true, .inr (3, [.ref a1, .ref a4, .int (iI 0), .ref a7, .int (iI 0), .int (iI 1), .int (iI 0), .int (iI 200), .int (iI 0), .ref a12, .null, .int (iI 0), .int (iI 0), .int (iI 0), .int (iI 0), .int (iI 0), .int (iI 0), .null, .null, .int (iI 0), .null, .null, .int (iI 0), .int (iI 0)])) := zsn eh50 fh49_5 (zneF fh21_0 fa22)
  refine z_dup (pc := 248) C dX4_init_248 rfl ?_
  refine z_bipush (pc := 249) C dX4_init_249 (by decide) ?_
  refine z_bipush (pc := 251) C dX4_init_251 (by decide) ?_
  refine z_castore (pc := 253) (f' := updV (updV (updV (updV (updV (updV (updV (updV (updV (updV (updV (updV (updV (updV (updV (updV (updV (updV (updV (updV (updV (updV (updV (updV (updV (updV (updV (updV (fun _ => .int (iI 0)) (Int.toNat 0) (.int (iI 59))) (Int.toNat 1) (.int (iI 109))) (Int.toNat 2) (.int (iI 59))) (Int.toNat 3) (.int (iI 55))) (Int.toNat 4) (.int (iI 59))) (Int.toNat 5) (.int (iI 109))) (Int.toNat 6) (.int (iI 55))) (Int.toNat 7) (.int (iI 59))) (Int.toNat 8) (.int (iI 109))) (Int.toNat 9) (.int (iI 97))) (Int.toNat 10) (.int (iI 106))) (Int.toNat 11) (.int (iI 55))) (Int.toNat 12) (.int (iI 59))) (Int.toNat 13) (.int (iI 100))) (Int.toNat 14) (.int (iI 105))) (Int.toNat 15) (.int (iI 109))) (Int.toNat 16) (.int (iI 59))) (Int.toNat 17) (.int (iI 97))) (Int.toNat 18) (.int (iI 117))) (Int.toNat 19) (.int (iI 103))) (Int.toNat 20) (.int (iI 59))) (Int.toNat 21) (.int (iI 115))) (Int.toNat 22) (.int (iI 117))) (Int.toNat 23) (.int (iI 115))) (Int.toNat 24) (.int (iI 52))) (Int.toNat 25) (.int (iI 59))) (Int.toNat 26) (.int (iI 54))) (Int.toNat 27) (.int (iI 59))) C (i_nc (by decide) (by decide)) fh50_0 (by omega) rfl dX4_init_253 ?_
  refine Z.nm (fun h51 eh51 => ?_)
  have kh51 : zkeep h h51 [m] := by rw [eh51]; exact zkeep.up kh50 (Or.inr na22) fh50_0
  have fh51_0 : h51 a22 = some (true, .inl (.char, 30, updV (updV (updV (updV (updV (updV (updV (updV (updV (updV (updV (updV (updV (updV (updV (updV (updV (updV (updV (updV (updV (updV (updV (updV (updV (updV (updV (updV (fun _ => .int (iI 0)) (Int.toNat 0) (.int (iI 59))) (Int.toNat 1) (.int (iI 109))) (Int.toNat 2) (.int (iI 59))) (Int.toNat 3) (.int (iI 55))) (Int.toNat 4) (.int (iI 59))) (Int.toNat 5) (.int (iI 109))) (Int.toNat 6) (.int (iI 55))) (Int.toNat 7) (.int (iI 59))) (Int.toNat 8) (.int (iI 109))) (Int.toNat 9) (.int (iI 97))) (Int.toNat 10) (.int (iI 106))) (Int.toNat 11) (.int (iI 55))) (Int.toNat 12) (.int (iI 59))) (Int.toNat 13) (.int (iI 100))) (Int.toNat 14) (.int (iI 105))) (Int.toNat 15) (.int (iI 109))) (Int.toNat 16) (.int (iI 59))) (Int.toNat 17) (.int (iI 97))) (Int.toNat 18) (.int (iI 117))) (Int.toNat 19) (.int (iI 103))) (Int.toNat 20) (.int (iI 59))) (Int.toNat 21) (.int (iI 115))) (Int.toNat 22) (.int (iI 117))) (Int.toNat 23) (.int (iI 115))) (Int.toNat 24) (.int (iI 52))) (Int.toNat 25) (.int (iI 59))) (Int.toNat 26) (.int (iI 54))) (Int.toNat 27) (.int (iI 59)))) := zse eh51
  have fh51_1 : h51 a1 = some (true, .inl (.int, 620, fun _ => .int (iI 0))) := zsn eh51 fh50_1 (zneF fh21_1 fa22)
  have fh51_2 : h51 a4 = some (true, .inl (.int, 4960, fun _ => .int (iI 0))) := zsn eh51 fh50_2 (zneF fh21_2 fa22)
  have fh51_3 : h51 a7 = some (true, .inl (.int, 200, fun _ => .int (iI 0))) := zsn eh51 fh50_3 (zneF fh21_3 fa22)
  have fh51_4 : h51 a12 = some (true, .inl (.char, 7, updV (updV (updV (updV (updV (updV (updV (fun _ => .int (iI 0)) (Int.toNat 0) (.int (iI 70))) (Int.toNat 1) (.int (iI 67))) (Int.toNat 2) (.int (iI 71))) (Int.toNat 3) (.int (iI 68))) (Int.toNat 4) (.int (iI 65))) (Int.toNat 5) (.int (iI 69))) (Int.toNat 6) (.int (iI 66)))) := zsn eh51 fh50_4 (zneF fh21_4 fa22)
  have fh51_5 : h51 m = some (true, .inr (3, [.ref a1, .ref a4, .int (iI 0), .ref a7, .int (iI 0), .int (iI 1), .int (iI 0), .int (iI 200), .int (iI 0), .ref a12, .null, .int (iI 0), .int (iI 0), .int (iI 0), .int (iI 0), .int (iI 0), .int (iI 0), .null, .null, .int (iI 0), .null, .null, .int (iI 0), .int (iI 0)])) := zsn eh51 fh50_5 (zneF fh21_0 fa22)
  refine z_dup (pc := 254) C dX4_init_254 rfl ?_
  refine z_bipush (pc := 255) C dX4_init_255 (by decide) ?_
  refine z_bipush (pc := 257) C dX4_init_257 (by decide) ?_
  refine z_castore (pc := 259) (f' := updV (updV (updV (updV (updV (updV (updV (updV (updV (updV (updV (updV (updV (updV (updV (updV (updV (updV (updV (updV (updV (updV (updV (updV (updV (updV (updV (updV (updV (fun _ => .int (iI 0)) (Int.toNat 0) (.int (iI 59))) (Int.toNat 1) (.int (iI 109))) (Int.toNat 2) (.int (iI 59))) (Int.toNat 3) (.int (iI 55))) (Int.toNat 4) (.int (iI 59))) (Int.toNat 5) (.int (iI 109))) (Int.toNat 6) (.int (iI 55))) (Int.toNat 7) (.int (iI 59))) (Int.toNat 8) (.int (iI 109))) (Int.toNat 9) (.int (iI 97))) (Int.toNat 10) (.int (iI 106))) (Int.toNat 11) (.int (iI 55))) (Int.toNat 12) (.int (iI 59))) (Int.toNat 13) (.int (iI 100))) (Int.toNat 14) (.int (iI 105))) (Int.toNat 15) (.int (iI 109))) (Int.toNat 16) (.int (iI 59))) (Int.toNat 17) (.int (iI 97))) (Int.toNat 18) (.int (iI 117))) (Int.toNat 19) (.int (iI 103))) (Int.toNat 20) (.int (iI 59))) (Int.toNat 21) (.int (iI 115))) (Int.toNat 22) (.int (iI 117))) (Int.toNat 23) (.int (iI 115))) (Int.toNat 24) (.int (iI 52))) (Int.toNat 25) (.int (iI 59))) (Int.toNat 26) (.int (iI 54))) (Int.toNat 27) (.int (iI 59))) (Int.toNat 28) (.int (iI 57))) C (i_nc (by decide) (by decide)) fh51_0 (by omega) rfl dX4_init_259 ?_
  refine Z.nm (fun h52 eh52 => ?_)
  have kh52 : zkeep h h52 [m] := by rw [eh52]; exact zkeep.up kh51 (Or.inr na22) fh51_0
  have fh52_0 : h52 a22 = some (true, .inl (.char, 30, updV (updV (updV (updV (updV (updV (updV (updV (updV (updV (updV (updV (updV (updV (updV (updV (updV (updV (updV (updV (updV (updV (updV (updV (updV (updV (updV (updV (updV (fun _ => .int (iI 0)) (Int.toNat 0) (.int (iI 59))) (Int.toNat 1) (.int (iI 109))) (Int.toNat 2) (.int (iI 59))) (Int.toNat 3) (.int (iI 55))) (Int.toNat 4) (.int (iI 59))) (Int.toNat 5) (.int (iI 109))) (Int.toNat 6) (.int (iI 55))) (Int.toNat 7) (.int (iI 59))) (Int.toNat 8) (.int (iI 109))) (Int.toNat 9) (.int (iI 97))) (Int.toNat 10) (.int (iI 106))) (Int.toNat 11) (.int (iI 55))) (Int.toNat 12) (.int (iI 59))) (Int.toNat 13) (.int (iI 100))) (Int.toNat 14) (.int (iI 105))) (Int.toNat 15) (.int (iI 109))) (Int.toNat 16) (.int (iI 59))) (Int.toNat 17) (.int (iI 97))) (Int.toNat 18) (.int (iI 117))) (Int.toNat 19) (.int (iI 103))) (Int.toNat 20) (.int (iI 59))) (Int.toNat 21) (.int (iI 115))) (Int.toNat 22) (.int (iI 117))) (Int.toNat 23) (.int (iI 115))) (Int.toNat 24) (.int (iI 52))) (Int.toNat 25) (.int (iI 59))) (Int.toNat 26) (.int (iI 54))) (Int.toNat 27) (.int (iI 59))) (Int.toNat 28) (.int (iI 57)))) := zse eh52
  have fh52_1 : h52 a1 = some (true, .inl (.int, 620, fun _ => .int (iI 0))) := zsn eh52 fh51_1 (zneF fh21_1 fa22)
  have fh52_2 : h52 a4 = some (true, .inl (.int, 4960, fun _ => .int (iI 0))) := zsn eh52 fh51_2 (zneF fh21_2 fa22)
  have fh52_3 : h52 a7 = some (true, .inl (.int, 200, fun _ => .int (iI 0))) := zsn eh52 fh51_3 (zneF fh21_3 fa22)
  have fh52_4 : h52 a12 = some (true, .inl (.char, 7, updV (updV (updV (updV (updV (updV (updV (fun _ => .int (iI 0)) (Int.toNat 0) (.int (iI 70))) (Int.toNat 1) (.int (iI 67))) (Int.toNat 2) (.int (iI 71))) (Int.toNat 3) (.int (iI 68))) (Int.toNat 4) (.int (iI 65))) (Int.toNat 5) (.int (iI 69))) (Int.toNat 6) (.int (iI 66)))) := zsn eh52 fh51_4 (zneF fh21_4 fa22)
  have fh52_5 : h52 m = some (true, .inr (3, [.ref a1, .ref a4, .int (iI 0), .ref a7, .int (iI 0), .int (iI 1), .int (iI 0), .int (iI 200), .int (iI 0), .ref a12, .null, .int (iI 0), .int (iI 0), .int (iI 0), .int (iI 0), .int (iI 0), .int (iI 0), .null, .null, .int (iI 0), .null, .null, .int (iI 0), .int (iI 0)])) := zsn eh52 fh51_5 (zneF fh21_0 fa22)
  refine z_dup (pc := 260) C dX4_init_260 rfl ?_
  refine z_bipush (pc := 261) C dX4_init_261 (by decide) ?_
  refine z_bipush (pc := 263) C dX4_init_263 (by decide) ?_
  refine z_castore (pc := 265) (f' := updV (updV (updV (updV (updV (updV (updV (updV (updV (updV (updV (updV (updV (updV (updV (updV (updV (updV (updV (updV (updV (updV (updV (updV (updV (updV (updV (updV (updV (updV (fun _ => .int (iI 0)) (Int.toNat 0) (.int (iI 59))) (Int.toNat 1) (.int (iI 109))) (Int.toNat 2) (.int (iI 59))) (Int.toNat 3) (.int (iI 55))) (Int.toNat 4) (.int (iI 59))) (Int.toNat 5) (.int (iI 109))) (Int.toNat 6) (.int (iI 55))) (Int.toNat 7) (.int (iI 59))) (Int.toNat 8) (.int (iI 109))) (Int.toNat 9) (.int (iI 97))) (Int.toNat 10) (.int (iI 106))) (Int.toNat 11) (.int (iI 55))) (Int.toNat 12) (.int (iI 59))) (Int.toNat 13) (.int (iI 100))) (Int.toNat 14) (.int (iI 105))) (Int.toNat 15) (.int (iI 109))) (Int.toNat 16) (.int (iI 59))) (Int.toNat 17) (.int (iI 97))) (Int.toNat 18) (.int (iI 117))) (Int.toNat 19) (.int (iI 103))) (Int.toNat 20) (.int (iI 59))) (Int.toNat 21) (.int (iI 115))) (Int.toNat 22) (.int (iI 117))) (Int.toNat 23) (.int (iI 115))) (Int.toNat 24) (.int (iI 52))) (Int.toNat 25) (.int (iI 59))) (Int.toNat 26) (.int (iI 54))) (Int.toNat 27) (.int (iI 59))) (Int.toNat 28) (.int (iI 57))) (Int.toNat 29) (.int (iI 59))) C (i_nc (by decide) (by decide)) fh52_0 (by omega) rfl dX4_init_265 ?_
  refine Z.nm (fun h53 eh53 => ?_)
  have kh53 : zkeep h h53 [m] := by rw [eh53]; exact zkeep.up kh52 (Or.inr na22) fh52_0
  have fh53_0 : h53 a22 = some (true, .inl (.char, 30, updV (updV (updV (updV (updV (updV (updV (updV (updV (updV (updV (updV (updV (updV (updV (updV (updV (updV (updV (updV (updV (updV (updV (updV (updV (updV (updV (updV (updV (updV (fun _ => .int (iI 0)) (Int.toNat 0) (.int (iI 59))) (Int.toNat 1) (.int (iI 109))) (Int.toNat 2) (.int (iI 59))) (Int.toNat 3) (.int (iI 55))) (Int.toNat 4) (.int (iI 59))) (Int.toNat 5) (.int (iI 109))) (Int.toNat 6) (.int (iI 55))) (Int.toNat 7) (.int (iI 59))) (Int.toNat 8) (.int (iI 109))) (Int.toNat 9) (.int (iI 97))) (Int.toNat 10) (.int (iI 106))) (Int.toNat 11) (.int (iI 55))) (Int.toNat 12) (.int (iI 59))) (Int.toNat 13) (.int (iI 100))) (Int.toNat 14) (.int (iI 105))) (Int.toNat 15) (.int (iI 109))) (Int.toNat 16) (.int (iI 59))) (Int.toNat 17) (.int (iI 97))) (Int.toNat 18) (.int (iI 117))) (Int.toNat 19) (.int (iI 103))) (Int.toNat 20) (.int (iI 59))) (Int.toNat 21) (.int (iI 115))) (Int.toNat 22) (.int (iI 117))) (Int.toNat 23) (.int (iI 115))) (Int.toNat 24) (.int (iI 52))) (Int.toNat 25) (.int (iI 59))) (Int.toNat 26) (.int (iI 54))) (Int.toNat 27) (.int (iI 59))) (Int.toNat 28) (.int (iI 57))) (Int.toNat 29) (.int (iI 59)))) := zse eh53
  have fh53_1 : h53 a1 = some (true, .inl (.int, 620, fun _ => .int (iI 0))) := zsn eh53 fh52_1 (zneF fh21_1 fa22)
  have fh53_2 : h53 a4 = some (true, .inl (.int, 4960, fun _ => .int (iI 0))) := zsn eh53 fh52_2 (zneF fh21_2 fa22)
  have fh53_3 : h53 a7 = some (true, .inl (.int, 200, fun _ => .int (iI 0))) := zsn eh53 fh52_3 (zneF fh21_3 fa22)
  have fh53_4 : h53 a12 = some (true, .inl (.char, 7, updV (updV (updV (updV (updV (updV (updV (fun _ => .int (iI 0)) (Int.toNat 0) (.int (iI 70))) (Int.toNat 1) (.int (iI 67))) (Int.toNat 2) (.int (iI 71))) (Int.toNat 3) (.int (iI 68))) (Int.toNat 4) (.int (iI 65))) (Int.toNat 5) (.int (iI 69))) (Int.toNat 6) (.int (iI 66)))) := zsn eh53 fh52_4 (zneF fh21_4 fa22)
  have fh53_5 : h53 m = some (true, .inr (3, [.ref a1, .ref a4, .int (iI 0), .ref a7, .int (iI 0), .int (iI 1), .int (iI 0), .int (iI 200), .int (iI 0), .ref a12, .null, .int (iI 0), .int (iI 0), .int (iI 0), .int (iI 0), .int (iI 0), .int (iI 0), .null, .null, .int (iI 0), .null, .null, .int (iI 0), .int (iI 0)])) := zsn eh53 fh52_5 (zneF fh21_0 fa22)
  refine z_putfieldF (pc := 266) (fs' := [.ref a1, .ref a4, .int (iI 0), .ref a7, .int (iI 0), .int (iI 1), .int (iI 0), .int (iI 200), .int (iI 0), .ref a12, .ref a22, .int (iI 0), .int (iI 0), .int (iI 0), .int (iI 0), .int (iI 0), .int (iI 0), .null, .null, .int (iI 0), .null, .null, .int (iI 0), .int (iI 0)]) C hnm in_X4 tyX4 tyX4_ok nmX4 rfl 10 (by decide) q2092 (fun _ z => z) rfl rfl rfl rfl (Nat.le_of_ble_eq_true rfl) fh53_5 rfl dX4_init_266 ?_
  refine Z.nm (fun h54 eh54 => ?_)
  have kh54 : zkeep h h54 [m] := by rw [eh54]; exact zkeep.up kh53 (Or.inl (by simp)) fh53_5
  have fh54_0 : h54 m = some (true, .inr (3, [.ref a1, .ref a4, .int (iI 0), .ref a7, .int (iI 0), .int (iI 1), .int (iI 0), .int (iI 200), .int (iI 0), .ref a12, .ref a22, .int (iI 0), .int (iI 0), .int (iI 0), .int (iI 0), .int (iI 0), .int (iI 0), .null, .null, .int (iI 0), .null, .null, .int (iI 0), .int (iI 0)])) := zse eh54
  have fh54_1 : h54 a1 = some (true, .inl (.int, 620, fun _ => .int (iI 0))) := zsn eh54 fh53_1 (Ne.symm (zneF hm fa1))
  have fh54_2 : h54 a4 = some (true, .inl (.int, 4960, fun _ => .int (iI 0))) := zsn eh54 fh53_2 (Ne.symm (zneF fh3_0 fa4))
  have fh54_3 : h54 a7 = some (true, .inl (.int, 200, fun _ => .int (iI 0))) := zsn eh54 fh53_3 (Ne.symm (zneF fh6_0 fa7))
  have fh54_4 : h54 a12 = some (true, .inl (.char, 7, updV (updV (updV (updV (updV (updV (updV (fun _ => .int (iI 0)) (Int.toNat 0) (.int (iI 70))) (Int.toNat 1) (.int (iI 67))) (Int.toNat 2) (.int (iI 71))) (Int.toNat 3) (.int (iI 68))) (Int.toNat 4) (.int (iI 65))) (Int.toNat 5) (.int (iI 69))) (Int.toNat 6) (.int (iI 66)))) := zsn eh54 fh53_4 (Ne.symm (zneF fh11_0 fa12))
  have fh54_5 : h54 a22 = some (true, .inl (.char, 30, updV (updV (updV (updV (updV (updV (updV (updV (updV (updV (updV (updV (updV (updV (updV (updV (updV (updV (updV (updV (updV (updV (updV (updV (updV (updV (updV (updV (updV (updV (fun _ => .int (iI 0)) (Int.toNat 0) (.int (iI 59))) (Int.toNat 1) (.int (iI 109))) (Int.toNat 2) (.int (iI 59))) (Int.toNat 3) (.int (iI 55))) (Int.toNat 4) (.int (iI 59))) (Int.toNat 5) (.int (iI 109))) (Int.toNat 6) (.int (iI 55))) (Int.toNat 7) (.int (iI 59))) (Int.toNat 8) (.int (iI 109))) (Int.toNat 9) (.int (iI 97))) (Int.toNat 10) (.int (iI 106))) (Int.toNat 11) (.int (iI 55))) (Int.toNat 12) (.int (iI 59))) (Int.toNat 13) (.int (iI 100))) (Int.toNat 14) (.int (iI 105))) (Int.toNat 15) (.int (iI 109))) (Int.toNat 16) (.int (iI 59))) (Int.toNat 17) (.int (iI 97))) (Int.toNat 18) (.int (iI 117))) (Int.toNat 19) (.int (iI 103))) (Int.toNat 20) (.int (iI 59))) (Int.toNat 21) (.int (iI 115))) (Int.toNat 22) (.int (iI 117))) (Int.toNat 23) (.int (iI 115))) (Int.toNat 24) (.int (iI 52))) (Int.toNat 25) (.int (iI 59))) (Int.toNat 26) (.int (iI 54))) (Int.toNat 27) (.int (iI 59))) (Int.toNat 28) (.int (iI 57))) (Int.toNat 29) (.int (iI 59)))) := zsn eh54 fh53_0 (Ne.symm (zneF fh21_0 fa22))
  refine z_aload_n (pc := 269) (j := 0) C dX4_init_269 rfl rfl ?_
  refine z_sipush (pc := 270) C dX4_init_270 (by decide) ?_
  refine z_newarray (pc := 273) (kc' := 3) (ks' := 2563) (ty := .int) C rfl q2155 (by omega) (by simp [componentBytes] <;> omega) (by omega) (by omega) (by simp) dX4_init_273 (fun a55 fa55 => ?_)
  refine Z.nm (fun h56 eh56 => ?_)
  have na55 : h a55 = none := kh54.none0 fa55 (List.not_mem_cons_of_ne_of_not_mem (Ne.symm (zneF fh54_0 fa55)) List.not_mem_nil)
  have kh56 : zkeep h h56 [m] := by rw [eh56]; exact zkeep.born kh54 fa55
  have fh56_0 : h56 a55 = some (true, .inl (.int, 620, fun _ => .int (iI 0))) := zse eh56
  have fh56_1 : h56 a1 = some (true, .inl (.int, 620, fun _ => .int (iI 0))) := zsn eh56 fh54_1 (zneF fh54_1 fa55)
  have fh56_2 : h56 a4 = some (true, .inl (.int, 4960, fun _ => .int (iI 0))) := zsn eh56 fh54_2 (zneF fh54_2 fa55)
  have fh56_3 : h56 a7 = some (true, .inl (.int, 200, fun _ => .int (iI 0))) := zsn eh56 fh54_3 (zneF fh54_3 fa55)
  have fh56_4 : h56 a12 = some (true, .inl (.char, 7, updV (updV (updV (updV (updV (updV (updV (fun _ => .int (iI 0)) (Int.toNat 0) (.int (iI 70))) (Int.toNat 1) (.int (iI 67))) (Int.toNat 2) (.int (iI 71))) (Int.toNat 3) (.int (iI 68))) (Int.toNat 4) (.int (iI 65))) (Int.toNat 5) (.int (iI 69))) (Int.toNat 6) (.int (iI 66)))) := zsn eh56 fh54_4 (zneF fh54_4 fa55)
  have fh56_5 : h56 a22 = some (true, .inl (.char, 30, updV (updV (updV (updV (updV (updV (updV (updV (updV (updV (updV (updV (updV (updV (updV (updV (updV (updV (updV (updV (updV (updV (updV (updV (updV (updV (updV (updV (updV (updV (fun _ => .int (iI 0)) (Int.toNat 0) (.int (iI 59))) (Int.toNat 1) (.int (iI 109))) (Int.toNat 2) (.int (iI 59))) (Int.toNat 3) (.int (iI 55))) (Int.toNat 4) (.int (iI 59))) (Int.toNat 5) (.int (iI 109))) (Int.toNat 6) (.int (iI 55))) (Int.toNat 7) (.int (iI 59))) (Int.toNat 8) (.int (iI 109))) (Int.toNat 9) (.int (iI 97))) (Int.toNat 10) (.int (iI 106))) (Int.toNat 11) (.int (iI 55))) (Int.toNat 12) (.int (iI 59))) (Int.toNat 13) (.int (iI 100))) (Int.toNat 14) (.int (iI 105))) (Int.toNat 15) (.int (iI 109))) (Int.toNat 16) (.int (iI 59))) (Int.toNat 17) (.int (iI 97))) (Int.toNat 18) (.int (iI 117))) (Int.toNat 19) (.int (iI 103))) (Int.toNat 20) (.int (iI 59))) (Int.toNat 21) (.int (iI 115))) (Int.toNat 22) (.int (iI 117))) (Int.toNat 23) (.int (iI 115))) (Int.toNat 24) (.int (iI 52))) (Int.toNat 25) (.int (iI 59))) (Int.toNat 26) (.int (iI 54))) (Int.toNat 27) (.int (iI 59))) (Int.toNat 28) (.int (iI 57))) (Int.toNat 29) (.int (iI 59)))) := zsn eh56 fh54_5 (zneF fh54_5 fa55)
  have fh56_6 : h56 m = some (true, .inr (3, [.ref a1, .ref a4, .int (iI 0), .ref a7, .int (iI 0), .int (iI 1), .int (iI 0), .int (iI 200), .int (iI 0), .ref a12, .ref a22, .int (iI 0), .int (iI 0), .int (iI 0), .int (iI 0), .int (iI 0), .int (iI 0), .null, .null, .int (iI 0), .null, .null, .int (iI 0), .int (iI 0)])) := zsn eh56 fh54_0 (zneF fh54_0 fa55)
  refine z_putfieldF (pc := 275) (fs' := [.ref a1, .ref a4, .int (iI 0), .ref a7, .int (iI 0), .int (iI 1), .int (iI 0), .int (iI 200), .int (iI 0), .ref a12, .ref a22, .int (iI 0), .int (iI 0), .int (iI 0), .int (iI 0), .int (iI 0), .int (iI 0), .ref a55, .null, .int (iI 0), .null, .null, .int (iI 0), .int (iI 0)]) C hnm in_X4 tyX4 tyX4_ok nmX4 rfl 17 (by decide) q2099 (fun _ z => z) rfl rfl rfl rfl (Nat.le_of_ble_eq_true rfl) fh56_6 rfl dX4_init_275 ?_
  refine Z.nm (fun h57 eh57 => ?_)
  have kh57 : zkeep h h57 [m] := by rw [eh57]; exact zkeep.up kh56 (Or.inl (by simp)) fh56_6
  have fh57_0 : h57 m = some (true, .inr (3, [.ref a1, .ref a4, .int (iI 0), .ref a7, .int (iI 0), .int (iI 1), .int (iI 0), .int (iI 200), .int (iI 0), .ref a12, .ref a22, .int (iI 0), .int (iI 0), .int (iI 0), .int (iI 0), .int (iI 0), .int (iI 0), .ref a55, .null, .int (iI 0), .null, .null, .int (iI 0), .int (iI 0)])) := zse eh57
  have fh57_1 : h57 a1 = some (true, .inl (.int, 620, fun _ => .int (iI 0))) := zsn eh57 fh56_1 (Ne.symm (zneF hm fa1))
  have fh57_2 : h57 a4 = some (true, .inl (.int, 4960, fun _ => .int (iI 0))) := zsn eh57 fh56_2 (Ne.symm (zneF fh3_0 fa4))
  have fh57_3 : h57 a7 = some (true, .inl (.int, 200, fun _ => .int (iI 0))) := zsn eh57 fh56_3 (Ne.symm (zneF fh6_0 fa7))
  have fh57_4 : h57 a12 = some (true, .inl (.char, 7, updV (updV (updV (updV (updV (updV (updV (fun _ => .int (iI 0)) (Int.toNat 0) (.int (iI 70))) (Int.toNat 1) (.int (iI 67))) (Int.toNat 2) (.int (iI 71))) (Int.toNat 3) (.int (iI 68))) (Int.toNat 4) (.int (iI 65))) (Int.toNat 5) (.int (iI 69))) (Int.toNat 6) (.int (iI 66)))) := zsn eh57 fh56_4 (Ne.symm (zneF fh11_0 fa12))
  have fh57_5 : h57 a22 = some (true, .inl (.char, 30, updV (updV (updV (updV (updV (updV (updV (updV (updV (updV (updV (updV (updV (updV (updV (updV (updV (updV (updV (updV (updV (updV (updV (updV (updV (updV (updV (updV (updV (updV (fun _ => .int (iI 0)) (Int.toNat 0) (.int (iI 59))) (Int.toNat 1) (.int (iI 109))) (Int.toNat 2) (.int (iI 59))) (Int.toNat 3) (.int (iI 55))) (Int.toNat 4) (.int (iI 59))) (Int.toNat 5) (.int (iI 109))) (Int.toNat 6) (.int (iI 55))) (Int.toNat 7) (.int (iI 59))) (Int.toNat 8) (.int (iI 109))) (Int.toNat 9) (.int (iI 97))) (Int.toNat 10) (.int (iI 106))) (Int.toNat 11) (.int (iI 55))) (Int.toNat 12) (.int (iI 59))) (Int.toNat 13) (.int (iI 100))) (Int.toNat 14) (.int (iI 105))) (Int.toNat 15) (.int (iI 109))) (Int.toNat 16) (.int (iI 59))) (Int.toNat 17) (.int (iI 97))) (Int.toNat 18) (.int (iI 117))) (Int.toNat 19) (.int (iI 103))) (Int.toNat 20) (.int (iI 59))) (Int.toNat 21) (.int (iI 115))) (Int.toNat 22) (.int (iI 117))) (Int.toNat 23) (.int (iI 115))) (Int.toNat 24) (.int (iI 52))) (Int.toNat 25) (.int (iI 59))) (Int.toNat 26) (.int (iI 54))) (Int.toNat 27) (.int (iI 59))) (Int.toNat 28) (.int (iI 57))) (Int.toNat 29) (.int (iI 59)))) := zsn eh57 fh56_5 (Ne.symm (zneF fh21_0 fa22))
  have fh57_6 : h57 a55 = some (true, .inl (.int, 620, fun _ => .int (iI 0))) := zsn eh57 fh56_0 (Ne.symm (zneF fh54_0 fa55))
  refine z_aload_n (pc := 278) (j := 0) C dX4_init_278 rfl rfl ?_
  refine z_bipush (pc := 279) C dX4_init_279 (by decide) ?_
  refine z_newarray (pc := 281) (kc' := 2) (ks' := 2543) (ty := .int) C rfl q2155 (by omega) (by simp [componentBytes] <;> omega) (by omega) (by omega) (by simp) dX4_init_281 (fun a58 fa58 => ?_)
  refine Z.nm (fun h59 eh59 => ?_)
  have na58 : h a58 = none := kh57.none0 fa58 (List.not_mem_cons_of_ne_of_not_mem (Ne.symm (zneF fh57_0 fa58)) List.not_mem_nil)
  have kh59 : zkeep h h59 [m] := by rw [eh59]; exact zkeep.born kh57 fa58
  have fh59_0 : h59 a58 = some (true, .inl (.int, 20, fun _ => .int (iI 0))) := zse eh59
  have fh59_1 : h59 a1 = some (true, .inl (.int, 620, fun _ => .int (iI 0))) := zsn eh59 fh57_1 (zneF fh57_1 fa58)
  have fh59_2 : h59 a4 = some (true, .inl (.int, 4960, fun _ => .int (iI 0))) := zsn eh59 fh57_2 (zneF fh57_2 fa58)
  have fh59_3 : h59 a7 = some (true, .inl (.int, 200, fun _ => .int (iI 0))) := zsn eh59 fh57_3 (zneF fh57_3 fa58)
  have fh59_4 : h59 a12 = some (true, .inl (.char, 7, updV (updV (updV (updV (updV (updV (updV (fun _ => .int (iI 0)) (Int.toNat 0) (.int (iI 70))) (Int.toNat 1) (.int (iI 67))) (Int.toNat 2) (.int (iI 71))) (Int.toNat 3) (.int (iI 68))) (Int.toNat 4) (.int (iI 65))) (Int.toNat 5) (.int (iI 69))) (Int.toNat 6) (.int (iI 66)))) := zsn eh59 fh57_4 (zneF fh57_4 fa58)
  have fh59_5 : h59 a22 = some (true, .inl (.char, 30, updV (updV (updV (updV (updV (updV (updV (updV (updV (updV (updV (updV (updV (updV (updV (updV (updV (updV (updV (updV (updV (updV (updV (updV (updV (updV (updV (updV (updV (updV (fun _ => .int (iI 0)) (Int.toNat 0) (.int (iI 59))) (Int.toNat 1) (.int (iI 109))) (Int.toNat 2) (.int (iI 59))) (Int.toNat 3) (.int (iI 55))) (Int.toNat 4) (.int (iI 59))) (Int.toNat 5) (.int (iI 109))) (Int.toNat 6) (.int (iI 55))) (Int.toNat 7) (.int (iI 59))) (Int.toNat 8) (.int (iI 109))) (Int.toNat 9) (.int (iI 97))) (Int.toNat 10) (.int (iI 106))) (Int.toNat 11) (.int (iI 55))) (Int.toNat 12) (.int (iI 59))) (Int.toNat 13) (.int (iI 100))) (Int.toNat 14) (.int (iI 105))) (Int.toNat 15) (.int (iI 109))) (Int.toNat 16) (.int (iI 59))) (Int.toNat 17) (.int (iI 97))) (Int.toNat 18) (.int (iI 117))) (Int.toNat 19) (.int (iI 103))) (Int.toNat 20) (.int (iI 59))) (Int.toNat 21) (.int (iI 115))) (Int.toNat 22) (.int (iI 117))) (Int.toNat 23) (.int (iI 115))) (Int.toNat 24) (.int (iI 52))) (Int.toNat 25) (.int (iI 59))) (Int.toNat 26) (.int (iI 54))) (Int.toNat 27) (.int (iI 59))) (Int.toNat 28) (.int (iI 57))) (Int.toNat 29) (.int (iI 59)))) := zsn eh59 fh57_5 (zneF fh57_5 fa58)
  have fh59_6 : h59 a55 = some (true, .inl (.int, 620, fun _ => .int (iI 0))) := zsn eh59 fh57_6 (zneF fh57_6 fa58)
  have fh59_7 : h59 m = some (true, .inr (3, [.ref a1, .ref a4, .int (iI 0), .ref a7, .int (iI 0), .int (iI 1), .int (iI 0), .int (iI 200), .int (iI 0), .ref a12, .ref a22, .int (iI 0), .int (iI 0), .int (iI 0), .int (iI 0), .int (iI 0), .int (iI 0), .ref a55, .null, .int (iI 0), .null, .null, .int (iI 0), .int (iI 0)])) := zsn eh59 fh57_0 (zneF fh57_0 fa58)
  refine z_putfieldF (pc := 283) (fs' := [.ref a1, .ref a4, .int (iI 0), .ref a7, .int (iI 0), .int (iI 1), .int (iI 0), .int (iI 200), .int (iI 0), .ref a12, .ref a22, .int (iI 0), .int (iI 0), .int (iI 0), .int (iI 0), .int (iI 0), .int (iI 0), .ref a55, .ref a58, .int (iI 0), .null, .null, .int (iI 0), .int (iI 0)]) C hnm in_X4 tyX4 tyX4_ok nmX4 rfl 18 (by decide) q2100 (fun _ z => z) rfl rfl rfl rfl (Nat.le_of_ble_eq_true rfl) fh59_7 rfl dX4_init_283 ?_
  refine Z.nm (fun h60 eh60 => ?_)
  have kh60 : zkeep h h60 [m] := by rw [eh60]; exact zkeep.up kh59 (Or.inl (by simp)) fh59_7
  have fh60_0 : h60 m = some (true, .inr (3, [.ref a1, .ref a4, .int (iI 0), .ref a7, .int (iI 0), .int (iI 1), .int (iI 0), .int (iI 200), .int (iI 0), .ref a12, .ref a22, .int (iI 0), .int (iI 0), .int (iI 0), .int (iI 0), .int (iI 0), .int (iI 0), .ref a55, .ref a58, .int (iI 0), .null, .null, .int (iI 0), .int (iI 0)])) := zse eh60
  have fh60_1 : h60 a1 = some (true, .inl (.int, 620, fun _ => .int (iI 0))) := zsn eh60 fh59_1 (Ne.symm (zneF hm fa1))
  have fh60_2 : h60 a4 = some (true, .inl (.int, 4960, fun _ => .int (iI 0))) := zsn eh60 fh59_2 (Ne.symm (zneF fh3_0 fa4))
  have fh60_3 : h60 a7 = some (true, .inl (.int, 200, fun _ => .int (iI 0))) := zsn eh60 fh59_3 (Ne.symm (zneF fh6_0 fa7))
  have fh60_4 : h60 a12 = some (true, .inl (.char, 7, updV (updV (updV (updV (updV (updV (updV (fun _ => .int (iI 0)) (Int.toNat 0) (.int (iI 70))) (Int.toNat 1) (.int (iI 67))) (Int.toNat 2) (.int (iI 71))) (Int.toNat 3) (.int (iI 68))) (Int.toNat 4) (.int (iI 65))) (Int.toNat 5) (.int (iI 69))) (Int.toNat 6) (.int (iI 66)))) := zsn eh60 fh59_4 (Ne.symm (zneF fh11_0 fa12))
  have fh60_5 : h60 a22 = some (true, .inl (.char, 30, updV (updV (updV (updV (updV (updV (updV (updV (updV (updV (updV (updV (updV (updV (updV (updV (updV (updV (updV (updV (updV (updV (updV (updV (updV (updV (updV (updV (updV (updV (fun _ => .int (iI 0)) (Int.toNat 0) (.int (iI 59))) (Int.toNat 1) (.int (iI 109))) (Int.toNat 2) (.int (iI 59))) (Int.toNat 3) (.int (iI 55))) (Int.toNat 4) (.int (iI 59))) (Int.toNat 5) (.int (iI 109))) (Int.toNat 6) (.int (iI 55))) (Int.toNat 7) (.int (iI 59))) (Int.toNat 8) (.int (iI 109))) (Int.toNat 9) (.int (iI 97))) (Int.toNat 10) (.int (iI 106))) (Int.toNat 11) (.int (iI 55))) (Int.toNat 12) (.int (iI 59))) (Int.toNat 13) (.int (iI 100))) (Int.toNat 14) (.int (iI 105))) (Int.toNat 15) (.int (iI 109))) (Int.toNat 16) (.int (iI 59))) (Int.toNat 17) (.int (iI 97))) (Int.toNat 18) (.int (iI 117))) (Int.toNat 19) (.int (iI 103))) (Int.toNat 20) (.int (iI 59))) (Int.toNat 21) (.int (iI 115))) (Int.toNat 22) (.int (iI 117))) (Int.toNat 23) (.int (iI 115))) (Int.toNat 24) (.int (iI 52))) (Int.toNat 25) (.int (iI 59))) (Int.toNat 26) (.int (iI 54))) (Int.toNat 27) (.int (iI 59))) (Int.toNat 28) (.int (iI 57))) (Int.toNat 29) (.int (iI 59)))) := zsn eh60 fh59_5 (Ne.symm (zneF fh21_0 fa22))
  have fh60_6 : h60 a55 = some (true, .inl (.int, 620, fun _ => .int (iI 0))) := zsn eh60 fh59_6 (Ne.symm (zneF fh54_0 fa55))
  have fh60_7 : h60 a58 = some (true, .inl (.int, 20, fun _ => .int (iI 0))) := zsn eh60 fh59_0 (Ne.symm (zneF fh57_0 fa58))
  refine z_aload_n (pc := 286) (j := 0) C dX4_init_286 rfl rfl ?_
  refine z_sipush (pc := 287) C dX4_init_287 (by decide) ?_
  refine z_newarray (pc := 290) (kc' := 1) (ks' := 1343) (ty := .int) C rfl q2155 (by omega) (by simp [componentBytes] <;> omega) (by omega) (by omega) (by simp) dX4_init_290 (fun a61 fa61 => ?_)
  refine Z.nm (fun h62 eh62 => ?_)
  have na61 : h a61 = none := kh60.none0 fa61 (List.not_mem_cons_of_ne_of_not_mem (Ne.symm (zneF fh60_0 fa61)) List.not_mem_nil)
  have kh62 : zkeep h h62 [m] := by rw [eh62]; exact zkeep.born kh60 fa61
  have fh62_0 : h62 a61 = some (true, .inl (.int, 1200, fun _ => .int (iI 0))) := zse eh62
  have fh62_1 : h62 a1 = some (true, .inl (.int, 620, fun _ => .int (iI 0))) := zsn eh62 fh60_1 (zneF fh60_1 fa61)
  have fh62_2 : h62 a4 = some (true, .inl (.int, 4960, fun _ => .int (iI 0))) := zsn eh62 fh60_2 (zneF fh60_2 fa61)
  have fh62_3 : h62 a7 = some (true, .inl (.int, 200, fun _ => .int (iI 0))) := zsn eh62 fh60_3 (zneF fh60_3 fa61)
  have fh62_4 : h62 a12 = some (true, .inl (.char, 7, updV (updV (updV (updV (updV (updV (updV (fun _ => .int (iI 0)) (Int.toNat 0) (.int (iI 70))) (Int.toNat 1) (.int (iI 67))) (Int.toNat 2) (.int (iI 71))) (Int.toNat 3) (.int (iI 68))) (Int.toNat 4) (.int (iI 65))) (Int.toNat 5) (.int (iI 69))) (Int.toNat 6) (.int (iI 66)))) := zsn eh62 fh60_4 (zneF fh60_4 fa61)
  have fh62_5 : h62 a22 = some (true, .inl (.char, 30, updV (updV (updV (updV (updV (updV (updV (updV (updV (updV (updV (updV (updV (updV (updV (updV (updV (updV (updV (updV (updV (updV (updV (updV (updV (updV (updV (updV (updV (updV (fun _ => .int (iI 0)) (Int.toNat 0) (.int (iI 59))) (Int.toNat 1) (.int (iI 109))) (Int.toNat 2) (.int (iI 59))) (Int.toNat 3) (.int (iI 55))) (Int.toNat 4) (.int (iI 59))) (Int.toNat 5) (.int (iI 109))) (Int.toNat 6) (.int (iI 55))) (Int.toNat 7) (.int (iI 59))) (Int.toNat 8) (.int (iI 109))) (Int.toNat 9) (.int (iI 97))) (Int.toNat 10) (.int (iI 106))) (Int.toNat 11) (.int (iI 55))) (Int.toNat 12) (.int (iI 59))) (Int.toNat 13) (.int (iI 100))) (Int.toNat 14) (.int (iI 105))) (Int.toNat 15) (.int (iI 109))) (Int.toNat 16) (.int (iI 59))) (Int.toNat 17) (.int (iI 97))) (Int.toNat 18) (.int (iI 117))) (Int.toNat 19) (.int (iI 103))) (Int.toNat 20) (.int (iI 59))) (Int.toNat 21) (.int (iI 115))) (Int.toNat 22) (.int (iI 117))) (Int.toNat 23) (.int (iI 115))) (Int.toNat 24) (.int (iI 52))) (Int.toNat 25) (.int (iI 59))) (Int.toNat 26) (.int (iI 54))) (Int.toNat 27) (.int (iI 59))) (Int.toNat 28) (.int (iI 57))) (Int.toNat 29) (.int (iI 59)))) := zsn eh62 fh60_5 (zneF fh60_5 fa61)
  have fh62_6 : h62 a55 = some (true, .inl (.int, 620, fun _ => .int (iI 0))) := zsn eh62 fh60_6 (zneF fh60_6 fa61)
  have fh62_7 : h62 a58 = some (true, .inl (.int, 20, fun _ => .int (iI 0))) := zsn eh62 fh60_7 (zneF fh60_7 fa61)
  have fh62_8 : h62 m = some (true, .inr (3, [.ref a1, .ref a4, .int (iI 0), .ref a7, .int (iI 0), .int (iI 1), .int (iI 0), .int (iI 200), .int (iI 0), .ref a12, .ref a22, .int (iI 0), .int (iI 0), .int (iI 0), .int (iI 0), .int (iI 0), .int (iI 0), .ref a55, .ref a58, .int (iI 0), .null, .null, .int (iI 0), .int (iI 0)])) := zsn eh62 fh60_0 (zneF fh60_0 fa61)
  refine z_putfieldF (pc := 292) (fs' := [.ref a1, .ref a4, .int (iI 0), .ref a7, .int (iI 0), .int (iI 1), .int (iI 0), .int (iI 200), .int (iI 0), .ref a12, .ref a22, .int (iI 0), .int (iI 0), .int (iI 0), .int (iI 0), .int (iI 0), .int (iI 0), .ref a55, .ref a58, .int (iI 0), .ref a61, .null, .int (iI 0), .int (iI 0)]) C hnm in_X4 tyX4 tyX4_ok nmX4 rfl 20 (by decide) q2102 (fun _ z => z) rfl rfl rfl rfl (Nat.le_of_ble_eq_true rfl) fh62_8 rfl dX4_init_292 ?_
  refine Z.nm (fun h63 eh63 => ?_)
  have kh63 : zkeep h h63 [m] := by rw [eh63]; exact zkeep.up kh62 (Or.inl (by simp)) fh62_8
  have fh63_0 : h63 m = some (true, .inr (3, [.ref a1, .ref a4, .int (iI 0), .ref a7, .int (iI 0), .int (iI 1), .int (iI 0), .int (iI 200), .int (iI 0), .ref a12, .ref a22, .int (iI 0), .int (iI 0), .int (iI 0), .int (iI 0), .int (iI 0), .int (iI 0), .ref a55, .ref a58, .int (iI 0), .ref a61, .null, .int (iI 0), .int (iI 0)])) := zse eh63
  have fh63_1 : h63 a1 = some (true, .inl (.int, 620, fun _ => .int (iI 0))) := zsn eh63 fh62_1 (Ne.symm (zneF hm fa1))
  have fh63_2 : h63 a4 = some (true, .inl (.int, 4960, fun _ => .int (iI 0))) := zsn eh63 fh62_2 (Ne.symm (zneF fh3_0 fa4))
  have fh63_3 : h63 a7 = some (true, .inl (.int, 200, fun _ => .int (iI 0))) := zsn eh63 fh62_3 (Ne.symm (zneF fh6_0 fa7))
  have fh63_4 : h63 a12 = some (true, .inl (.char, 7, updV (updV (updV (updV (updV (updV (updV (fun _ => .int (iI 0)) (Int.toNat 0) (.int (iI 70))) (Int.toNat 1) (.int (iI 67))) (Int.toNat 2) (.int (iI 71))) (Int.toNat 3) (.int (iI 68))) (Int.toNat 4) (.int (iI 65))) (Int.toNat 5) (.int (iI 69))) (Int.toNat 6) (.int (iI 66)))) := zsn eh63 fh62_4 (Ne.symm (zneF fh11_0 fa12))
  have fh63_5 : h63 a22 = some (true, .inl (.char, 30, updV (updV (updV (updV (updV (updV (updV (updV (updV (updV (updV (updV (updV (updV (updV (updV (updV (updV (updV (updV (updV (updV (updV (updV (updV (updV (updV (updV (updV (updV (fun _ => .int (iI 0)) (Int.toNat 0) (.int (iI 59))) (Int.toNat 1) (.int (iI 109))) (Int.toNat 2) (.int (iI 59))) (Int.toNat 3) (.int (iI 55))) (Int.toNat 4) (.int (iI 59))) (Int.toNat 5) (.int (iI 109))) (Int.toNat 6) (.int (iI 55))) (Int.toNat 7) (.int (iI 59))) (Int.toNat 8) (.int (iI 109))) (Int.toNat 9) (.int (iI 97))) (Int.toNat 10) (.int (iI 106))) (Int.toNat 11) (.int (iI 55))) (Int.toNat 12) (.int (iI 59))) (Int.toNat 13) (.int (iI 100))) (Int.toNat 14) (.int (iI 105))) (Int.toNat 15) (.int (iI 109))) (Int.toNat 16) (.int (iI 59))) (Int.toNat 17) (.int (iI 97))) (Int.toNat 18) (.int (iI 117))) (Int.toNat 19) (.int (iI 103))) (Int.toNat 20) (.int (iI 59))) (Int.toNat 21) (.int (iI 115))) (Int.toNat 22) (.int (iI 117))) (Int.toNat 23) (.int (iI 115))) (Int.toNat 24) (.int (iI 52))) (Int.toNat 25) (.int (iI 59))) (Int.toNat 26) (.int (iI 54))) (Int.toNat 27) (.int (iI 59))) (Int.toNat 28) (.int (iI 57))) (Int.toNat 29) (.int (iI 59)))) := zsn eh63 fh62_5 (Ne.symm (zneF fh21_0 fa22))
  have fh63_6 : h63 a55 = some (true, .inl (.int, 620, fun _ => .int (iI 0))) := zsn eh63 fh62_6 (Ne.symm (zneF fh54_0 fa55))
  have fh63_7 : h63 a58 = some (true, .inl (.int, 20, fun _ => .int (iI 0))) := zsn eh63 fh62_7 (Ne.symm (zneF fh57_0 fa58))
  have fh63_8 : h63 a61 = some (true, .inl (.int, 1200, fun _ => .int (iI 0))) := zsn eh63 fh62_0 (Ne.symm (zneF fh60_0 fa61))
  refine z_aload_n (pc := 295) (j := 0) C dX4_init_295 rfl rfl ?_
  refine z_sipush (pc := 296) C dX4_init_296 (by decide) ?_
  refine z_newarray (pc := 299) (kc' := 0) (ks' := 143) (ty := .int) C rfl q2155 (by omega) (by simp [componentBytes] <;> omega) (by omega) (by omega) (by simp) dX4_init_299 (fun a64 fa64 => ?_)
  refine Z.nm (fun h65 eh65 => ?_)
  have na64 : h a64 = none := kh63.none0 fa64 (List.not_mem_cons_of_ne_of_not_mem (Ne.symm (zneF fh63_0 fa64)) List.not_mem_nil)
  have kh65 : zkeep h h65 [m] := by rw [eh65]; exact zkeep.born kh63 fa64
  have fh65_0 : h65 a64 = some (true, .inl (.int, 1200, fun _ => .int (iI 0))) := zse eh65
  have fh65_1 : h65 a1 = some (true, .inl (.int, 620, fun _ => .int (iI 0))) := zsn eh65 fh63_1 (zneF fh63_1 fa64)
  have fh65_2 : h65 a4 = some (true, .inl (.int, 4960, fun _ => .int (iI 0))) := zsn eh65 fh63_2 (zneF fh63_2 fa64)
  have fh65_3 : h65 a7 = some (true, .inl (.int, 200, fun _ => .int (iI 0))) := zsn eh65 fh63_3 (zneF fh63_3 fa64)
  have fh65_4 : h65 a12 = some (true, .inl (.char, 7, updV (updV (updV (updV (updV (updV (updV (fun _ => .int (iI 0)) (Int.toNat 0) (.int (iI 70))) (Int.toNat 1) (.int (iI 67))) (Int.toNat 2) (.int (iI 71))) (Int.toNat 3) (.int (iI 68))) (Int.toNat 4) (.int (iI 65))) (Int.toNat 5) (.int (iI 69))) (Int.toNat 6) (.int (iI 66)))) := zsn eh65 fh63_4 (zneF fh63_4 fa64)
  have fh65_5 : h65 a22 = some (true, .inl (.char, 30, updV (updV (updV (updV (updV (updV (updV (updV (updV (updV (updV (updV (updV (updV (updV (updV (updV (updV (updV (updV (updV (updV (updV (updV (updV (updV (updV (updV (updV (updV (fun _ => .int (iI 0)) (Int.toNat 0) (.int (iI 59))) (Int.toNat 1) (.int (iI 109))) (Int.toNat 2) (.int (iI 59))) (Int.toNat 3) (.int (iI 55))) (Int.toNat 4) (.int (iI 59))) (Int.toNat 5) (.int (iI 109))) (Int.toNat 6) (.int (iI 55))) (Int.toNat 7) (.int (iI 59))) (Int.toNat 8) (.int (iI 109))) (Int.toNat 9) (.int (iI 97))) (Int.toNat 10) (.int (iI 106))) (Int.toNat 11) (.int (iI 55))) (Int.toNat 12) (.int (iI 59))) (Int.toNat 13) (.int (iI 100))) (Int.toNat 14) (.int (iI 105))) (Int.toNat 15) (.int (iI 109))) (Int.toNat 16) (.int (iI 59))) (Int.toNat 17) (.int (iI 97))) (Int.toNat 18) (.int (iI 117))) (Int.toNat 19) (.int (iI 103))) (Int.toNat 20) (.int (iI 59))) (Int.toNat 21) (.int (iI 115))) (Int.toNat 22) (.int (iI 117))) (Int.toNat 23) (.int (iI 115))) (Int.toNat 24) (.int (iI 52))) (Int.toNat 25) (.int (iI 59))) (Int.toNat 26) (.int (iI 54))) (Int.toNat 27) (.int (iI 59))) (Int.toNat 28) (.int (iI 57))) (Int.toNat 29) (.int (iI 59)))) := zsn eh65 fh63_5 (zneF fh63_5 fa64)
  have fh65_6 : h65 a55 = some (true, .inl (.int, 620, fun _ => .int (iI 0))) := zsn eh65 fh63_6 (zneF fh63_6 fa64)
  have fh65_7 : h65 a58 = some (true, .inl (.int, 20, fun _ => .int (iI 0))) := zsn eh65 fh63_7 (zneF fh63_7 fa64)
  have fh65_8 : h65 a61 = some (true, .inl (.int, 1200, fun _ => .int (iI 0))) := zsn eh65 fh63_8 (zneF fh63_8 fa64)
  have fh65_9 : h65 m = some (true, .inr (3, [.ref a1, .ref a4, .int (iI 0), .ref a7, .int (iI 0), .int (iI 1), .int (iI 0), .int (iI 200), .int (iI 0), .ref a12, .ref a22, .int (iI 0), .int (iI 0), .int (iI 0), .int (iI 0), .int (iI 0), .int (iI 0), .ref a55, .ref a58, .int (iI 0), .ref a61, .null, .int (iI 0), .int (iI 0)])) := zsn eh65 fh63_0 (zneF fh63_0 fa64)
  refine z_putfieldF (pc := 301) (fs' := [.ref a1, .ref a4, .int (iI 0), .ref a7, .int (iI 0), .int (iI 1), .int (iI 0), .int (iI 200), .int (iI 0), .ref a12, .ref a22, .int (iI 0), .int (iI 0), .int (iI 0), .int (iI 0), .int (iI 0), .int (iI 0), .ref a55, .ref a58, .int (iI 0), .ref a61, .ref a64, .int (iI 0), .int (iI 0)]) C hnm in_X4 tyX4 tyX4_ok nmX4 rfl 21 (by decide) q2103 (fun _ z => z) rfl rfl rfl rfl (Nat.le_of_ble_eq_true rfl) fh65_9 rfl dX4_init_301 ?_
  refine Z.nm (fun h66 eh66 => ?_)
  have kh66 : zkeep h h66 [m] := by rw [eh66]; exact zkeep.up kh65 (Or.inl (by simp)) fh65_9
  have fh66_0 : h66 m = some (true, .inr (3, [.ref a1, .ref a4, .int (iI 0), .ref a7, .int (iI 0), .int (iI 1), .int (iI 0), .int (iI 200), .int (iI 0), .ref a12, .ref a22, .int (iI 0), .int (iI 0), .int (iI 0), .int (iI 0), .int (iI 0), .int (iI 0), .ref a55, .ref a58, .int (iI 0), .ref a61, .ref a64, .int (iI 0), .int (iI 0)])) := zse eh66
  have fh66_1 : h66 a1 = some (true, .inl (.int, 620, fun _ => .int (iI 0))) := zsn eh66 fh65_1 (Ne.symm (zneF hm fa1))
  have fh66_2 : h66 a4 = some (true, .inl (.int, 4960, fun _ => .int (iI 0))) := zsn eh66 fh65_2 (Ne.symm (zneF fh3_0 fa4))
  have fh66_3 : h66 a7 = some (true, .inl (.int, 200, fun _ => .int (iI 0))) := zsn eh66 fh65_3 (Ne.symm (zneF fh6_0 fa7))
  have fh66_4 : h66 a12 = some (true, .inl (.char, 7, updV (updV (updV (updV (updV (updV (updV (fun _ => .int (iI 0)) (Int.toNat 0) (.int (iI 70))) (Int.toNat 1) (.int (iI 67))) (Int.toNat 2) (.int (iI 71))) (Int.toNat 3) (.int (iI 68))) (Int.toNat 4) (.int (iI 65))) (Int.toNat 5) (.int (iI 69))) (Int.toNat 6) (.int (iI 66)))) := zsn eh66 fh65_4 (Ne.symm (zneF fh11_0 fa12))
  have fh66_5 : h66 a22 = some (true, .inl (.char, 30, updV (updV (updV (updV (updV (updV (updV (updV (updV (updV (updV (updV (updV (updV (updV (updV (updV (updV (updV (updV (updV (updV (updV (updV (updV (updV (updV (updV (updV (updV (fun _ => .int (iI 0)) (Int.toNat 0) (.int (iI 59))) (Int.toNat 1) (.int (iI 109))) (Int.toNat 2) (.int (iI 59))) (Int.toNat 3) (.int (iI 55))) (Int.toNat 4) (.int (iI 59))) (Int.toNat 5) (.int (iI 109))) (Int.toNat 6) (.int (iI 55))) (Int.toNat 7) (.int (iI 59))) (Int.toNat 8) (.int (iI 109))) (Int.toNat 9) (.int (iI 97))) (Int.toNat 10) (.int (iI 106))) (Int.toNat 11) (.int (iI 55))) (Int.toNat 12) (.int (iI 59))) (Int.toNat 13) (.int (iI 100))) (Int.toNat 14) (.int (iI 105))) (Int.toNat 15) (.int (iI 109))) (Int.toNat 16) (.int (iI 59))) (Int.toNat 17) (.int (iI 97))) (Int.toNat 18) (.int (iI 117))) (Int.toNat 19) (.int (iI 103))) (Int.toNat 20) (.int (iI 59))) (Int.toNat 21) (.int (iI 115))) (Int.toNat 22) (.int (iI 117))) (Int.toNat 23) (.int (iI 115))) (Int.toNat 24) (.int (iI 52))) (Int.toNat 25) (.int (iI 59))) (Int.toNat 26) (.int (iI 54))) (Int.toNat 27) (.int (iI 59))) (Int.toNat 28) (.int (iI 57))) (Int.toNat 29) (.int (iI 59)))) := zsn eh66 fh65_5 (Ne.symm (zneF fh21_0 fa22))
  have fh66_6 : h66 a55 = some (true, .inl (.int, 620, fun _ => .int (iI 0))) := zsn eh66 fh65_6 (Ne.symm (zneF fh54_0 fa55))
  have fh66_7 : h66 a58 = some (true, .inl (.int, 20, fun _ => .int (iI 0))) := zsn eh66 fh65_7 (Ne.symm (zneF fh57_0 fa58))
  have fh66_8 : h66 a61 = some (true, .inl (.int, 1200, fun _ => .int (iI 0))) := zsn eh66 fh65_8 (Ne.symm (zneF fh60_0 fa61))
  have fh66_9 : h66 a64 = some (true, .inl (.int, 1200, fun _ => .int (iI 0))) := zsn eh66 fh65_0 (Ne.symm (zneF fh63_0 fa64))
  refine z_aload_n (pc := 304) (j := 0) C dX4_init_304 rfl rfl ?_
  refine z_getfield (pc := 305) (v := .ref a1) C in_X4 rfl 0 (by decide) q2082 (fun _ z => z) fh66_0 rfl dX4_init_305 ?_
  refine z_iconst (pc := 308) C dX4_init_308 ?_
  refine z_iconst (pc := 309) C dX4_init_309 ?_
  refine z_iastore (pc := 310) (f' := updV (fun _ => .int (iI 0)) (Int.toNat 0) (.int (iI 1))) C fh66_1 (by omega) rfl dX4_init_310 ?_
  refine Z.nm (fun h67 eh67 => ?_)
  have kh67 : zkeep h h67 [m] := by rw [eh67]; exact zkeep.up kh66 (Or.inr na1) fh66_1
  have fh67_0 : h67 a1 = some (true, .inl (.int, 620, updV (fun _ => .int (iI 0)) (Int.toNat 0) (.int (iI 1)))) := zse eh67
  have fh67_1 : h67 a4 = some (true, .inl (.int, 4960, fun _ => .int (iI 0))) := zsn eh67 fh66_2 (Ne.symm (zneF fh3_1 fa4))
  have fh67_2 : h67 a7 = some (true, .inl (.int, 200, fun _ => .int (iI 0))) := zsn eh67 fh66_3 (Ne.symm (zneF fh6_1 fa7))
  have fh67_3 : h67 a12 = some (true, .inl (.char, 7, updV (updV (updV (updV (updV (updV (updV (fun _ => .int (iI 0)) (Int.toNat 0) (.int (iI 70))) (Int.toNat 1) (.int (iI 67))) (Int.toNat 2) (.int (iI 71))) (Int.toNat 3) (.int (iI 68))) (Int.toNat 4) (.int (iI 65))) (Int.toNat 5) (.int (iI 69))) (Int.toNat 6) (.int (iI 66)))) := zsn eh67 fh66_4 (Ne.symm (zneF fh11_1 fa12))
  have fh67_4 : h67 a22 = some (true, .inl (.char, 30, updV (updV (updV (updV (updV (updV (updV (updV (updV (updV (updV (updV (updV (updV (updV (updV (updV (updV (updV (updV (updV (updV (updV (updV (updV (updV (updV (updV (updV (updV (fun _ => .int (iI 0)) (Int.toNat 0) (.int (iI 59))) (Int.toNat 1) (.int (iI 109))) (Int.toNat 2) (.int (iI 59))) (Int.toNat 3) (.int (iI 55))) (Int.toNat 4) (.int (iI 59))) (Int.toNat 5) (.int (iI 109))) (Int.toNat 6) (.int (iI 55))) (Int.toNat 7) (.int (iI 59))) (Int.toNat 8) (.int (iI 109))) (Int.toNat 9) (.int (iI 97))) (Int.toNat 10) (.int (iI 106))) (Int.toNat 11) (.int (iI 55))) (Int.toNat 12) (.int (iI 59))) (Int.toNat 13) (.int (iI 100))) (Int.toNat 14) (.int (iI 105))) (Int.toNat 15) (.int (iI 109))) (Int.toNat 16) (.int (iI 59))) (Int.toNat 17) (.int (iI 97))) (Int.toNat 18) (.int (iI 117))) (Int.toNat 19) (.int (iI 103))) (Int.toNat 20) (.int (iI 59))) (Int.toNat 21) (.int (iI 115))) (Int.toNat 22) (.int (iI 117))) (Int.toNat 23) (.int (iI 115))) (Int.toNat 24) (.int (iI 52))) (Int.toNat 25) (.int (iI 59))) (Int.toNat 26) (.int (iI 54))) (Int.toNat 27) (.int (iI 59))) (Int.toNat 28) (.int (iI 57))) (Int.toNat 29) (.int (iI 59)))) := zsn eh67 fh66_5 (Ne.symm (zneF fh21_1 fa22))
  have fh67_5 : h67 a55 = some (true, .inl (.int, 620, fun _ => .int (iI 0))) := zsn eh67 fh66_6 (Ne.symm (zneF fh54_1 fa55))
  have fh67_6 : h67 a58 = some (true, .inl (.int, 20, fun _ => .int (iI 0))) := zsn eh67 fh66_7 (Ne.symm (zneF fh57_1 fa58))
  have fh67_7 : h67 a61 = some (true, .inl (.int, 1200, fun _ => .int (iI 0))) := zsn eh67 fh66_8 (Ne.symm (zneF fh60_1 fa61))
  have fh67_8 : h67 a64 = some (true, .inl (.int, 1200, fun _ => .int (iI 0))) := zsn eh67 fh66_9 (Ne.symm (zneF fh63_1 fa64))
  have fh67_9 : h67 m = some (true, .inr (3, [.ref a1, .ref a4, .int (iI 0), .ref a7, .int (iI 0), .int (iI 1), .int (iI 0), .int (iI 200), .int (iI 0), .ref a12, .ref a22, .int (iI 0), .int (iI 0), .int (iI 0), .int (iI 0), .int (iI 0), .int (iI 0), .ref a55, .ref a58, .int (iI 0), .ref a61, .ref a64, .int (iI 0), .int (iI 0)])) := zsn eh67 fh66_0 (zneF hm fa1)
  have hvM : h67 a1 = some (true, .inl (.int, 620, mA (updI (fun _ => 0) 0 1))) := by
    rw [show mA (updI (fun _ => 0) 0 1) = updV (fun _ => .int (iI 0)) (Int.toNat 0) (.int (iI 1)) from (mA_up (fun _ => 0) 0 1).symm]
    exact fh67_0
  have ele : updV (updV (updV (updV (updV (updV (updV (fun _ => .int (iI 0)) (Int.toNat 0) (.int (iI 70))) (Int.toNat 1) (.int (iI 67))) (Int.toNat 2) (.int (iI 71))) (Int.toNat 3) (.int (iI 68))) (Int.toNat 4) (.int (iI 65))) (Int.toNat 5) (.int (iI 69))) (Int.toNat 6) (.int (iI 66)) = mA ltF := by
    funext j
    unfold mA
    simp only [updV]
    (repeat' split) <;> first | (rename_i hz; subst hz; rfl) | (rw [ltF_z (by omega)])
  have hleM : h67 a12 = some (true, .inl (.char, 7, mA ltF)) := ele ▸ fh67_3
  have eqa : updV (updV (updV (updV (updV (updV (updV (updV (updV (updV (updV (updV (updV (updV (updV (updV (updV (updV (updV (updV (updV (updV (updV (updV (updV (updV (updV (updV (updV (updV (fun _ => .int (iI 0)) (Int.toNat 0) (.int (iI 59))) (Int.toNat 1) (.int (iI 109))) (Int.toNat 2) (.int (iI 59))) (Int.toNat 3) (.int (iI 55))) (Int.toNat 4) (.int (iI 59))) (Int.toNat 5) (.int (iI 109))) (Int.toNat 6) (.int (iI 55))) (Int.toNat 7) (.int (iI 59))) (Int.toNat 8) (.int (iI 109))) (Int.toNat 9) (.int (iI 97))) (Int.toNat 10) (.int (iI 106))) (Int.toNat 11) (.int (iI 55))) (Int.toNat 12) (.int (iI 59))) (Int.toNat 13) (.int (iI 100))) (Int.toNat 14) (.int (iI 105))) (Int.toNat 15) (.int (iI 109))) (Int.toNat 16) (.int (iI 59))) (Int.toNat 17) (.int (iI 97))) (Int.toNat 18) (.int (iI 117))) (Int.toNat 19) (.int (iI 103))) (Int.toNat 20) (.int (iI 59))) (Int.toNat 21) (.int (iI 115))) (Int.toNat 22) (.int (iI 117))) (Int.toNat 23) (.int (iI 115))) (Int.toNat 24) (.int (iI 52))) (Int.toNat 25) (.int (iI 59))) (Int.toNat 26) (.int (iI 54))) (Int.toNat 27) (.int (iI 59))) (Int.toNat 28) (.int (iI 57))) (Int.toNat 29) (.int (iI 59)) = mA qaF := by
    funext j
    unfold mA
    simp only [updV]
    (repeat' split) <;> first | (rename_i hz; subst hz; rfl) | (rw [qaF_z (by omega)])
  have hqaM : h67 a22 = some (true, .inl (.char, 30, mA qaF)) := eqa ▸ fh67_4
  have hfr : ∀ q ∈ mFt ((m, a1, a4, a7, a12, a22, a55, a58, a61, a64) : zMA), q = m ∨ h q = none := (fun q hq => by
    simp only [mFt, zMA.m, zMA.v, zMA.pa, zMA.tx, zMA.ma, zMA.na, zMA.ua, zMA.la, List.mem_cons, List.not_mem_nil, or_false] at hq
    rcases hq with e | e | e | e | e | e | e | e
    · exact Or.inl e
    · exact Or.inr (e ▸ na1)
    · exact Or.inr (e ▸ na4)
    · exact Or.inr (e ▸ na7)
    · exact Or.inr (e ▸ na55)
    · exact Or.inr (e ▸ na58)
    · exact Or.inr (e ▸ na61)
    · exact Or.inr (e ▸ na64))
  exact z_return (pc := 311) C (by rw [hXp]; exact ⟨_, rfl, rfl, ((m, a1, a4, a7, a12, a22, a55, a58, a61, a64) : zMA), rfl, ⟨0, 0, 0, 0, 0, 0, 0, 0, 0, updI (fun _ => 0) 0 1, (fun _ => 0), (fun _ => 0), (fun _ => 0), (fun _ => 0), (fun _ => 0), (fun _ => 0), ⟨fh67_9, hvM, fh67_1, fh67_2, fh67_5, fh67_6, fh67_7, fh67_8, hleM, hqaM, (zneF fh3_1 fa4), (zneF fh6_1 fa7), (zneF fh54_1 fa55), (zneF fh57_1 fa58), (zneF fh60_1 fa61), (zneF fh63_1 fa64), (zneF fh6_2 fa7), (zneF fh54_2 fa55), (zneF fh57_2 fa58), (zneF fh60_2 fa61), (zneF fh63_2 fa64), (zneF fh54_3 fa55), (zneF fh57_3 fa58), (zneF fh60_3 fa61), (zneF fh63_3 fa64), (zneF fh57_6 fa58), (zneF fh60_6 fa61), (zneF fh63_6 fa64), (zneF fh60_7 fa61), (zneF fh63_7 fa64), (zneF fh63_8 fa64)⟩, ⟨rfl, rfl, rfl, rfl, (fun j hj => by have hj : j ≤ 1 := hj; rcases (show j = 0 ∨ j = 1 by omega) with e | e <;> subst e <;> rfl), (fun i x hx => by simp [st0, zSt.sh, zSh.cs] at hx), (fun j d hd => by simp [st0, zSt.sh, zSh.ls] at hd)⟩, (fun i S hS => by simp [st0, zSt.hi] at hS), (fun j d e => by simp [st0, zSt.tx] at e), st0_R, (by decide), (fun _ z => nomatch z)⟩, kh67, hfr⟩) dX4_init_311

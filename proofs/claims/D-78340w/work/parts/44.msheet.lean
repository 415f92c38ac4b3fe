/-! 44.msheet.lean.txt -/
set_option maxRecDepth 100000
abbrev cX4_readsSheet : ByteArray := prog_11_method_14_code
def yX4_readsSheet : MethodName := ⟨RX4, "readsSheet", "()Z"⟩
def dkwX4_readsSheet_13 : List UInt8 := [79, 4, 172]
abbrev dktX4_readsSheet_13 : List UInt8 := dkwX4_readsSheet_13 ++ []
def dkwX4_readsSheet_12 : List UInt8 := [180, 0, 59, 4, 96, 181, 0, 59, 167, 255, 1, 42, 180, 0, 34, 7, 42, 180, 0, 34, 3, 46, 96, 27]
abbrev dktX4_readsSheet_12 : List UInt8 := dkwX4_readsSheet_12 ++ dktX4_readsSheet_13
def dkwX4_readsSheet_11 : List UInt8 := [180, 0, 34, 17, 1, 159, 27, 96, 42, 42, 180, 0, 59, 182, 0, 62, 79, 132, 1, 1, 42, 89]
abbrev dktX4_readsSheet_11 : List UInt8 := dkwX4_readsSheet_11 ++ dktX4_readsSheet_12
def dkwX4_readsSheet_10 : List UInt8 := [42, 180, 0, 34, 3, 46, 96, 27, 79, 42, 180, 0, 34, 3, 92, 46, 4, 96, 79, 167, 0, 24, 42]
abbrev dktX4_readsSheet_10 : List UInt8 := dkwX4_readsSheet_10 ++ dktX4_readsSheet_11
def dkwX4_readsSheet_9 : List UInt8 := [4, 96, 79, 167, 0, 64, 42, 42, 180, 0, 59, 182, 0, 62, 16, 47, 160, 0, 30, 42, 180, 0, 34, 7]
abbrev dktX4_readsSheet_9 : List UInt8 := dkwX4_readsSheet_9 ++ dktX4_readsSheet_10
def dkwX4_readsSheet_8 : List UInt8 := [42, 180, 0, 87, 79, 42, 180, 0, 34, 28, 7, 96, 42, 180, 0, 81, 79, 42, 180, 0, 34, 4, 92, 46]
abbrev dktX4_readsSheet_8 : List UInt8 := dkwX4_readsSheet_8 ++ dktX4_readsSheet_9
def dkwX4_readsSheet_7 : List UInt8 := [4, 100, 46, 100, 79, 42, 180, 0, 34, 28, 5, 96, 42, 180, 0, 78, 79, 42, 180, 0, 34, 28, 6, 96]
abbrev dktX4_readsSheet_7 : List UInt8 := dkwX4_readsSheet_7 ++ dktX4_readsSheet_8
def dkwX4_readsSheet_6 : List UInt8 := [46, 4, 100, 79, 42, 180, 0, 34, 28, 4, 96, 27, 42, 180, 0, 34, 7, 42, 180, 0, 34, 3, 46, 96]
abbrev dktX4_readsSheet_6 : List UInt8 := dkwX4_readsSheet_6 ++ dktX4_readsSheet_7
def dkwX4_readsSheet_5 : List UInt8 := [3, 172, 42, 180, 0, 34, 4, 46, 184, 0, 94, 61, 42, 180, 0, 34, 28, 3, 96, 42, 180, 0, 34, 3]
abbrev dktX4_readsSheet_5 : List UInt8 := dkwX4_readsSheet_5 ++ dktX4_readsSheet_6
def dkwX4_readsSheet_4 : List UInt8 := [16, 91, 160, 0, 124, 42, 89, 180, 0, 59, 4, 96, 181, 0, 59, 42, 16, 93, 182, 0, 90, 154, 0, 5]
abbrev dktX4_readsSheet_4 : List UInt8 := dkwX4_readsSheet_4 ++ dktX4_readsSheet_5
def dkwX4_readsSheet_3 : List UInt8 := [160, 0, 16, 42, 180, 0, 34, 4, 46, 16, 40, 160, 0, 5, 3, 172, 42, 42, 180, 0, 59, 182, 0, 62]
abbrev dktX4_readsSheet_3 : List UInt8 := dkwX4_readsSheet_3 ++ dktX4_readsSheet_4
def dkwX4_readsSheet_2 : List UInt8 := [42, 42, 180, 0, 59, 182, 0, 62, 16, 93, 159, 0, 27, 42, 42, 180, 0, 59, 182, 0, 62, 16, 91]
abbrev dktX4_readsSheet_2 : List UInt8 := dkwX4_readsSheet_2 ++ dktX4_readsSheet_3
def dkwX4_readsSheet_1 : List UInt8 := [180, 0, 34, 3, 4, 79, 3, 60, 42, 3, 181, 0, 59, 42, 180, 0, 59, 42, 180, 0, 56, 162, 0, 250]
abbrev dktX4_readsSheet_1 : List UInt8 := dkwX4_readsSheet_1 ++ dktX4_readsSheet_2
def dkwX4_readsSheet_0 : List UInt8 := [3, 60, 27, 17, 2, 108, 162, 0, 16, 42, 180, 0, 34, 27, 3, 79, 132, 1, 1, 167, 255, 239, 42]
abbrev dktX4_readsSheet_0 : List UInt8 := dkwX4_readsSheet_0 ++ dktX4_readsSheet_1
theorem dksX4_readsSheet_0 : cX4_readsSheet.data.toList.drop 0 = dktX4_readsSheet_0 := by decide +kernel
theorem dksX4_readsSheet_1 : cX4_readsSheet.data.toList.drop 23 = dktX4_readsSheet_1 := dk_seg dksX4_readsSheet_0 23 rfl rfl
theorem dksX4_readsSheet_2 : cX4_readsSheet.data.toList.drop 47 = dktX4_readsSheet_2 := dk_seg dksX4_readsSheet_1 24 rfl rfl
theorem dksX4_readsSheet_3 : cX4_readsSheet.data.toList.drop 70 = dktX4_readsSheet_3 := dk_seg dksX4_readsSheet_2 23 rfl rfl
theorem dksX4_readsSheet_4 : cX4_readsSheet.data.toList.drop 94 = dktX4_readsSheet_4 := dk_seg dksX4_readsSheet_3 24 rfl rfl
theorem dksX4_readsSheet_5 : cX4_readsSheet.data.toList.drop 118 = dktX4_readsSheet_5 := dk_seg dksX4_readsSheet_4 24 rfl rfl
theorem dksX4_readsSheet_6 : cX4_readsSheet.data.toList.drop 142 = dktX4_readsSheet_6 := dk_seg dksX4_readsSheet_5 24 rfl rfl
theorem dksX4_readsSheet_7 : cX4_readsSheet.data.toList.drop 166 = dktX4_readsSheet_7 := dk_seg dksX4_readsSheet_6 24 rfl rfl
theorem dksX4_readsSheet_8 : cX4_readsSheet.data.toList.drop 190 = dktX4_readsSheet_8 := dk_seg dksX4_readsSheet_7 24 rfl rfl
theorem dksX4_readsSheet_9 : cX4_readsSheet.data.toList.drop 214 = dktX4_readsSheet_9 := dk_seg dksX4_readsSheet_8 24 rfl rfl
theorem dksX4_readsSheet_10 : cX4_readsSheet.data.toList.drop 238 = dktX4_readsSheet_10 := dk_seg dksX4_readsSheet_9 24 rfl rfl
theorem dksX4_readsSheet_11 : cX4_readsSheet.data.toList.drop 261 = dktX4_readsSheet_11 := dk_seg dksX4_readsSheet_10 23 rfl rfl
theorem dksX4_readsSheet_12 : cX4_readsSheet.data.toList.drop 283 = dktX4_readsSheet_12 := dk_seg dksX4_readsSheet_11 22 rfl rfl
theorem dksX4_readsSheet_13 : cX4_readsSheet.data.toList.drop 307 = dktX4_readsSheet_13 := dk_seg dksX4_readsSheet_12 24 rfl rfl
theorem dX4_readsSheet_0 : decode cX4_readsSheet 0 = .ok (.iconst 0, 1) := dk_3 (dk_at dksX4_readsSheet_0 0 rfl rfl)
theorem dX4_readsSheet_1 : decode cX4_readsSheet 1 = .ok (.istore_n 1, 1) := dk_60 (dk_at dksX4_readsSheet_0 1 rfl rfl)
theorem dX4_readsSheet_2 : decode cX4_readsSheet 2 = .ok (.iload_n 1, 1) := dk_27 (dk_at dksX4_readsSheet_0 2 rfl rfl)
theorem dX4_readsSheet_3 : decode cX4_readsSheet 3 = .ok (.sipush 620, 3) := dk_17 2 108 (dk_at dksX4_readsSheet_0 3 rfl rfl)
theorem dX4_readsSheet_6 : decode cX4_readsSheet 6 = .ok (.if_icmp .ge 16, 3) := dk_162 0 16 (dk_at dksX4_readsSheet_0 6 rfl rfl)
theorem dX4_readsSheet_9 : decode cX4_readsSheet 9 = .ok (.aload_n 0, 1) := dk_42 (dk_at dksX4_readsSheet_0 9 rfl rfl)
theorem dX4_readsSheet_10 : decode cX4_readsSheet 10 = .ok (.getfield 34, 3) := dk_180 0 34 (dk_at dksX4_readsSheet_0 10 rfl rfl)
theorem dX4_readsSheet_13 : decode cX4_readsSheet 13 = .ok (.iload_n 1, 1) := dk_27 (dk_at dksX4_readsSheet_0 13 rfl rfl)
theorem dX4_readsSheet_14 : decode cX4_readsSheet 14 = .ok (.iconst 0, 1) := dk_3 (dk_at dksX4_readsSheet_0 14 rfl rfl)
theorem dX4_readsSheet_15 : decode cX4_readsSheet 15 = .ok (.iastore, 1) := dk_79 (dk_at dksX4_readsSheet_0 15 rfl rfl)
theorem dX4_readsSheet_16 : decode cX4_readsSheet 16 = .ok (.iinc 1 1, 3) := dk_132 1 1 (dk_at dksX4_readsSheet_0 16 rfl rfl)
theorem dX4_readsSheet_19 : decode cX4_readsSheet 19 = .ok (.goto (-17), 3) := dk_167 255 239 (dk_at dksX4_readsSheet_0 19 rfl rfl)
theorem dX4_readsSheet_22 : decode cX4_readsSheet 22 = .ok (.aload_n 0, 1) := dk_42 (dk_at dksX4_readsSheet_0 22 rfl rfl)
theorem dX4_readsSheet_23 : decode cX4_readsSheet 23 = .ok (.getfield 34, 3) := dk_180 0 34 (dk_at dksX4_readsSheet_1 0 rfl rfl)
theorem dX4_readsSheet_26 : decode cX4_readsSheet 26 = .ok (.iconst 0, 1) := dk_3 (dk_at dksX4_readsSheet_1 3 rfl rfl)
theorem dX4_readsSheet_27 : decode cX4_readsSheet 27 = .ok (.iconst 1, 1) := dk_4 (dk_at dksX4_readsSheet_1 4 rfl rfl)
theorem dX4_readsSheet_28 : decode cX4_readsSheet 28 = .ok (.iastore, 1) := dk_79 (dk_at dksX4_readsSheet_1 5 rfl rfl)
theorem dX4_readsSheet_29 : decode cX4_readsSheet 29 = .ok (.iconst 0, 1) := dk_3 (dk_at dksX4_readsSheet_1 6 rfl rfl)
theorem dX4_readsSheet_30 : decode cX4_readsSheet 30 = .ok (.istore_n 1, 1) := dk_60 (dk_at dksX4_readsSheet_1 7 rfl rfl)
theorem dX4_readsSheet_31 : decode cX4_readsSheet 31 = .ok (.aload_n 0, 1) := dk_42 (dk_at dksX4_readsSheet_1 8 rfl rfl)
theorem dX4_readsSheet_32 : decode cX4_readsSheet 32 = .ok (.iconst 0, 1) := dk_3 (dk_at dksX4_readsSheet_1 9 rfl rfl)
theorem dX4_readsSheet_33 : decode cX4_readsSheet 33 = .ok (.putfield 59, 3) := dk_181 0 59 (dk_at dksX4_readsSheet_1 10 rfl rfl)
theorem dX4_readsSheet_36 : decode cX4_readsSheet 36 = .ok (.aload_n 0, 1) := dk_42 (dk_at dksX4_readsSheet_1 13 rfl rfl)
theorem dX4_readsSheet_37 : decode cX4_readsSheet 37 = .ok (.getfield 59, 3) := dk_180 0 59 (dk_at dksX4_readsSheet_1 14 rfl rfl)
theorem dX4_readsSheet_40 : decode cX4_readsSheet 40 = .ok (.aload_n 0, 1) := dk_42 (dk_at dksX4_readsSheet_1 17 rfl rfl)
theorem dX4_readsSheet_41 : decode cX4_readsSheet 41 = .ok (.getfield 56, 3) := dk_180 0 56 (dk_at dksX4_readsSheet_1 18 rfl rfl)
theorem dX4_readsSheet_44 : decode cX4_readsSheet 44 = .ok (.if_icmp .ge 250, 3) := dk_162 0 250 (dk_at dksX4_readsSheet_1 21 rfl rfl)
theorem dX4_readsSheet_47 : decode cX4_readsSheet 47 = .ok (.aload_n 0, 1) := dk_42 (dk_at dksX4_readsSheet_2 0 rfl rfl)
theorem dX4_readsSheet_48 : decode cX4_readsSheet 48 = .ok (.aload_n 0, 1) := dk_42 (dk_at dksX4_readsSheet_2 1 rfl rfl)
theorem dX4_readsSheet_49 : decode cX4_readsSheet 49 = .ok (.getfield 59, 3) := dk_180 0 59 (dk_at dksX4_readsSheet_2 2 rfl rfl)
theorem dX4_readsSheet_52 : decode cX4_readsSheet 52 = .ok (.invokevirtual 62, 3) := dk_182 0 62 (dk_at dksX4_readsSheet_2 5 rfl rfl)
theorem dX4_readsSheet_55 : decode cX4_readsSheet 55 = .ok (.bipush 93, 2) := dk_16 93 (dk_at dksX4_readsSheet_2 8 rfl rfl)
theorem dX4_readsSheet_57 : decode cX4_readsSheet 57 = .ok (.if_icmp .eq 27, 3) := dk_159 0 27 (dk_at dksX4_readsSheet_2 10 rfl rfl)
theorem dX4_readsSheet_60 : decode cX4_readsSheet 60 = .ok (.aload_n 0, 1) := dk_42 (dk_at dksX4_readsSheet_2 13 rfl rfl)
theorem dX4_readsSheet_61 : decode cX4_readsSheet 61 = .ok (.aload_n 0, 1) := dk_42 (dk_at dksX4_readsSheet_2 14 rfl rfl)
theorem dX4_readsSheet_62 : decode cX4_readsSheet 62 = .ok (.getfield 59, 3) := dk_180 0 59 (dk_at dksX4_readsSheet_2 15 rfl rfl)
theorem dX4_readsSheet_65 : decode cX4_readsSheet 65 = .ok (.invokevirtual 62, 3) := dk_182 0 62 (dk_at dksX4_readsSheet_2 18 rfl rfl)
theorem dX4_readsSheet_68 : decode cX4_readsSheet 68 = .ok (.bipush 91, 2) := dk_16 91 (dk_at dksX4_readsSheet_2 21 rfl rfl)
theorem dX4_readsSheet_70 : decode cX4_readsSheet 70 = .ok (.if_icmp .ne 16, 3) := dk_160 0 16 (dk_at dksX4_readsSheet_3 0 rfl rfl)
theorem dX4_readsSheet_73 : decode cX4_readsSheet 73 = .ok (.aload_n 0, 1) := dk_42 (dk_at dksX4_readsSheet_3 3 rfl rfl)
theorem dX4_readsSheet_74 : decode cX4_readsSheet 74 = .ok (.getfield 34, 3) := dk_180 0 34 (dk_at dksX4_readsSheet_3 4 rfl rfl)
theorem dX4_readsSheet_77 : decode cX4_readsSheet 77 = .ok (.iconst 1, 1) := dk_4 (dk_at dksX4_readsSheet_3 7 rfl rfl)
theorem dX4_readsSheet_78 : decode cX4_readsSheet 78 = .ok (.iaload, 1) := dk_46 (dk_at dksX4_readsSheet_3 8 rfl rfl)
theorem dX4_readsSheet_79 : decode cX4_readsSheet 79 = .ok (.bipush 40, 2) := dk_16 40 (dk_at dksX4_readsSheet_3 9 rfl rfl)
theorem dX4_readsSheet_81 : decode cX4_readsSheet 81 = .ok (.if_icmp .ne 5, 3) := dk_160 0 5 (dk_at dksX4_readsSheet_3 11 rfl rfl)
theorem dX4_readsSheet_84 : decode cX4_readsSheet 84 = .ok (.iconst 0, 1) := dk_3 (dk_at dksX4_readsSheet_3 14 rfl rfl)
theorem dX4_readsSheet_85 : decode cX4_readsSheet 85 = .ok (.ireturn, 1) := dk_172 (dk_at dksX4_readsSheet_3 15 rfl rfl)
theorem dX4_readsSheet_86 : decode cX4_readsSheet 86 = .ok (.aload_n 0, 1) := dk_42 (dk_at dksX4_readsSheet_3 16 rfl rfl)
theorem dX4_readsSheet_87 : decode cX4_readsSheet 87 = .ok (.aload_n 0, 1) := dk_42 (dk_at dksX4_readsSheet_3 17 rfl rfl)
theorem dX4_readsSheet_88 : decode cX4_readsSheet 88 = .ok (.getfield 59, 3) := dk_180 0 59 (dk_at dksX4_readsSheet_3 18 rfl rfl)
theorem dX4_readsSheet_91 : decode cX4_readsSheet 91 = .ok (.invokevirtual 62, 3) := dk_182 0 62 (dk_at dksX4_readsSheet_3 21 rfl rfl)
theorem dX4_readsSheet_94 : decode cX4_readsSheet 94 = .ok (.bipush 91, 2) := dk_16 91 (dk_at dksX4_readsSheet_4 0 rfl rfl)
theorem dX4_readsSheet_96 : decode cX4_readsSheet 96 = .ok (.if_icmp .ne 124, 3) := dk_160 0 124 (dk_at dksX4_readsSheet_4 2 rfl rfl)
theorem dX4_readsSheet_99 : decode cX4_readsSheet 99 = .ok (.aload_n 0, 1) := dk_42 (dk_at dksX4_readsSheet_4 5 rfl rfl)
theorem dX4_readsSheet_100 : decode cX4_readsSheet 100 = .ok (.dup, 1) := dk_89 (dk_at dksX4_readsSheet_4 6 rfl rfl)
theorem dX4_readsSheet_101 : decode cX4_readsSheet 101 = .ok (.getfield 59, 3) := dk_180 0 59 (dk_at dksX4_readsSheet_4 7 rfl rfl)
theorem dX4_readsSheet_104 : decode cX4_readsSheet 104 = .ok (.iconst 1, 1) := dk_4 (dk_at dksX4_readsSheet_4 10 rfl rfl)
theorem dX4_readsSheet_105 : decode cX4_readsSheet 105 = .ok (.iadd, 1) := dk_96 (dk_at dksX4_readsSheet_4 11 rfl rfl)
theorem dX4_readsSheet_106 : decode cX4_readsSheet 106 = .ok (.putfield 59, 3) := dk_181 0 59 (dk_at dksX4_readsSheet_4 12 rfl rfl)
theorem dX4_readsSheet_109 : decode cX4_readsSheet 109 = .ok (.aload_n 0, 1) := dk_42 (dk_at dksX4_readsSheet_4 15 rfl rfl)
theorem dX4_readsSheet_110 : decode cX4_readsSheet 110 = .ok (.bipush 93, 2) := dk_16 93 (dk_at dksX4_readsSheet_4 16 rfl rfl)
theorem dX4_readsSheet_112 : decode cX4_readsSheet 112 = .ok (.invokevirtual 90, 3) := dk_182 0 90 (dk_at dksX4_readsSheet_4 18 rfl rfl)
theorem dX4_readsSheet_115 : decode cX4_readsSheet 115 = .ok (.ifCond .ne 5, 3) := dk_154 0 5 (dk_at dksX4_readsSheet_4 21 rfl rfl)
theorem dX4_readsSheet_118 : decode cX4_readsSheet 118 = .ok (.iconst 0, 1) := dk_3 (dk_at dksX4_readsSheet_5 0 rfl rfl)
theorem dX4_readsSheet_119 : decode cX4_readsSheet 119 = .ok (.ireturn, 1) := dk_172 (dk_at dksX4_readsSheet_5 1 rfl rfl)
theorem dX4_readsSheet_120 : decode cX4_readsSheet 120 = .ok (.aload_n 0, 1) := dk_42 (dk_at dksX4_readsSheet_5 2 rfl rfl)
theorem dX4_readsSheet_121 : decode cX4_readsSheet 121 = .ok (.getfield 34, 3) := dk_180 0 34 (dk_at dksX4_readsSheet_5 3 rfl rfl)
theorem dX4_readsSheet_124 : decode cX4_readsSheet 124 = .ok (.iconst 1, 1) := dk_4 (dk_at dksX4_readsSheet_5 6 rfl rfl)
theorem dX4_readsSheet_125 : decode cX4_readsSheet 125 = .ok (.iaload, 1) := dk_46 (dk_at dksX4_readsSheet_5 7 rfl rfl)
theorem dX4_readsSheet_126 : decode cX4_readsSheet 126 = .ok (.invokestatic 94, 3) := dk_184 0 94 (dk_at dksX4_readsSheet_5 8 rfl rfl)
theorem dX4_readsSheet_129 : decode cX4_readsSheet 129 = .ok (.istore_n 2, 1) := dk_61 (dk_at dksX4_readsSheet_5 11 rfl rfl)
theorem dX4_readsSheet_130 : decode cX4_readsSheet 130 = .ok (.aload_n 0, 1) := dk_42 (dk_at dksX4_readsSheet_5 12 rfl rfl)
theorem dX4_readsSheet_131 : decode cX4_readsSheet 131 = .ok (.getfield 34, 3) := dk_180 0 34 (dk_at dksX4_readsSheet_5 13 rfl rfl)
theorem dX4_readsSheet_134 : decode cX4_readsSheet 134 = .ok (.iload_n 2, 1) := dk_28 (dk_at dksX4_readsSheet_5 16 rfl rfl)
theorem dX4_readsSheet_135 : decode cX4_readsSheet 135 = .ok (.iconst 0, 1) := dk_3 (dk_at dksX4_readsSheet_5 17 rfl rfl)
theorem dX4_readsSheet_136 : decode cX4_readsSheet 136 = .ok (.iadd, 1) := dk_96 (dk_at dksX4_readsSheet_5 18 rfl rfl)
theorem dX4_readsSheet_137 : decode cX4_readsSheet 137 = .ok (.aload_n 0, 1) := dk_42 (dk_at dksX4_readsSheet_5 19 rfl rfl)
theorem dX4_readsSheet_138 : decode cX4_readsSheet 138 = .ok (.getfield 34, 3) := dk_180 0 34 (dk_at dksX4_readsSheet_5 20 rfl rfl)
theorem dX4_readsSheet_141 : decode cX4_readsSheet 141 = .ok (.iconst 0, 1) := dk_3 (dk_at dksX4_readsSheet_5 23 rfl rfl)
theorem dX4_readsSheet_142 : decode cX4_readsSheet 142 = .ok (.iaload, 1) := dk_46 (dk_at dksX4_readsSheet_6 0 rfl rfl)
theorem dX4_readsSheet_143 : decode cX4_readsSheet 143 = .ok (.iconst 1, 1) := dk_4 (dk_at dksX4_readsSheet_6 1 rfl rfl)
theorem dX4_readsSheet_144 : decode cX4_readsSheet 144 = .ok (.isub, 1) := dk_100 (dk_at dksX4_readsSheet_6 2 rfl rfl)
theorem dX4_readsSheet_145 : decode cX4_readsSheet 145 = .ok (.iastore, 1) := dk_79 (dk_at dksX4_readsSheet_6 3 rfl rfl)
theorem dX4_readsSheet_146 : decode cX4_readsSheet 146 = .ok (.aload_n 0, 1) := dk_42 (dk_at dksX4_readsSheet_6 4 rfl rfl)
theorem dX4_readsSheet_147 : decode cX4_readsSheet 147 = .ok (.getfield 34, 3) := dk_180 0 34 (dk_at dksX4_readsSheet_6 5 rfl rfl)
theorem dX4_readsSheet_150 : decode cX4_readsSheet 150 = .ok (.iload_n 2, 1) := dk_28 (dk_at dksX4_readsSheet_6 8 rfl rfl)
theorem dX4_readsSheet_151 : decode cX4_readsSheet 151 = .ok (.iconst 1, 1) := dk_4 (dk_at dksX4_readsSheet_6 9 rfl rfl)
theorem dX4_readsSheet_152 : decode cX4_readsSheet 152 = .ok (.iadd, 1) := dk_96 (dk_at dksX4_readsSheet_6 10 rfl rfl)
theorem dX4_readsSheet_153 : decode cX4_readsSheet 153 = .ok (.iload_n 1, 1) := dk_27 (dk_at dksX4_readsSheet_6 11 rfl rfl)
theorem dX4_readsSheet_154 : decode cX4_readsSheet 154 = .ok (.aload_n 0, 1) := dk_42 (dk_at dksX4_readsSheet_6 12 rfl rfl)
theorem dX4_readsSheet_155 : decode cX4_readsSheet 155 = .ok (.getfield 34, 3) := dk_180 0 34 (dk_at dksX4_readsSheet_6 13 rfl rfl)
theorem dX4_readsSheet_158 : decode cX4_readsSheet 158 = .ok (.iconst 4, 1) := dk_7 (dk_at dksX4_readsSheet_6 16 rfl rfl)
theorem dX4_readsSheet_159 : decode cX4_readsSheet 159 = .ok (.aload_n 0, 1) := dk_42 (dk_at dksX4_readsSheet_6 17 rfl rfl)
theorem dX4_readsSheet_160 : decode cX4_readsSheet 160 = .ok (.getfield 34, 3) := dk_180 0 34 (dk_at dksX4_readsSheet_6 18 rfl rfl)
theorem dX4_readsSheet_163 : decode cX4_readsSheet 163 = .ok (.iconst 0, 1) := dk_3 (dk_at dksX4_readsSheet_6 21 rfl rfl)
theorem dX4_readsSheet_164 : decode cX4_readsSheet 164 = .ok (.iaload, 1) := dk_46 (dk_at dksX4_readsSheet_6 22 rfl rfl)
theorem dX4_readsSheet_165 : decode cX4_readsSheet 165 = .ok (.iadd, 1) := dk_96 (dk_at dksX4_readsSheet_6 23 rfl rfl)
theorem dX4_readsSheet_166 : decode cX4_readsSheet 166 = .ok (.iconst 1, 1) := dk_4 (dk_at dksX4_readsSheet_7 0 rfl rfl)
theorem dX4_readsSheet_167 : decode cX4_readsSheet 167 = .ok (.isub, 1) := dk_100 (dk_at dksX4_readsSheet_7 1 rfl rfl)
theorem dX4_readsSheet_168 : decode cX4_readsSheet 168 = .ok (.iaload, 1) := dk_46 (dk_at dksX4_readsSheet_7 2 rfl rfl)
theorem dX4_readsSheet_169 : decode cX4_readsSheet 169 = .ok (.isub, 1) := dk_100 (dk_at dksX4_readsSheet_7 3 rfl rfl)
theorem dX4_readsSheet_170 : decode cX4_readsSheet 170 = .ok (.iastore, 1) := dk_79 (dk_at dksX4_readsSheet_7 4 rfl rfl)
theorem dX4_readsSheet_171 : decode cX4_readsSheet 171 = .ok (.aload_n 0, 1) := dk_42 (dk_at dksX4_readsSheet_7 5 rfl rfl)
theorem dX4_readsSheet_172 : decode cX4_readsSheet 172 = .ok (.getfield 34, 3) := dk_180 0 34 (dk_at dksX4_readsSheet_7 6 rfl rfl)
theorem dX4_readsSheet_175 : decode cX4_readsSheet 175 = .ok (.iload_n 2, 1) := dk_28 (dk_at dksX4_readsSheet_7 9 rfl rfl)
theorem dX4_readsSheet_176 : decode cX4_readsSheet 176 = .ok (.iconst 2, 1) := dk_5 (dk_at dksX4_readsSheet_7 10 rfl rfl)
theorem dX4_readsSheet_177 : decode cX4_readsSheet 177 = .ok (.iadd, 1) := dk_96 (dk_at dksX4_readsSheet_7 11 rfl rfl)
theorem dX4_readsSheet_178 : decode cX4_readsSheet 178 = .ok (.aload_n 0, 1) := dk_42 (dk_at dksX4_readsSheet_7 12 rfl rfl)
theorem dX4_readsSheet_179 : decode cX4_readsSheet 179 = .ok (.getfield 78, 3) := dk_180 0 78 (dk_at dksX4_readsSheet_7 13 rfl rfl)
theorem dX4_readsSheet_182 : decode cX4_readsSheet 182 = .ok (.iastore, 1) := dk_79 (dk_at dksX4_readsSheet_7 16 rfl rfl)
theorem dX4_readsSheet_183 : decode cX4_readsSheet 183 = .ok (.aload_n 0, 1) := dk_42 (dk_at dksX4_readsSheet_7 17 rfl rfl)
theorem dX4_readsSheet_184 : decode cX4_readsSheet 184 = .ok (.getfield 34, 3) := dk_180 0 34 (dk_at dksX4_readsSheet_7 18 rfl rfl)
theorem dX4_readsSheet_187 : decode cX4_readsSheet 187 = .ok (.iload_n 2, 1) := dk_28 (dk_at dksX4_readsSheet_7 21 rfl rfl)
theorem dX4_readsSheet_188 : decode cX4_readsSheet 188 = .ok (.iconst 3, 1) := dk_6 (dk_at dksX4_readsSheet_7 22 rfl rfl)
theorem dX4_readsSheet_189 : decode cX4_readsSheet 189 = .ok (.iadd, 1) := dk_96 (dk_at dksX4_readsSheet_7 23 rfl rfl)
theorem dX4_readsSheet_190 : decode cX4_readsSheet 190 = .ok (.aload_n 0, 1) := dk_42 (dk_at dksX4_readsSheet_8 0 rfl rfl)
theorem dX4_readsSheet_191 : decode cX4_readsSheet 191 = .ok (.getfield 87, 3) := dk_180 0 87 (dk_at dksX4_readsSheet_8 1 rfl rfl)
theorem dX4_readsSheet_194 : decode cX4_readsSheet 194 = .ok (.iastore, 1) := dk_79 (dk_at dksX4_readsSheet_8 4 rfl rfl)
theorem dX4_readsSheet_195 : decode cX4_readsSheet 195 = .ok (.aload_n 0, 1) := dk_42 (dk_at dksX4_readsSheet_8 5 rfl rfl)
theorem dX4_readsSheet_196 : decode cX4_readsSheet 196 = .ok (.getfield 34, 3) := dk_180 0 34 (dk_at dksX4_readsSheet_8 6 rfl rfl)
theorem dX4_readsSheet_199 : decode cX4_readsSheet 199 = .ok (.iload_n 2, 1) := dk_28 (dk_at dksX4_readsSheet_8 9 rfl rfl)
theorem dX4_readsSheet_200 : decode cX4_readsSheet 200 = .ok (.iconst 4, 1) := dk_7 (dk_at dksX4_readsSheet_8 10 rfl rfl)
theorem dX4_readsSheet_201 : decode cX4_readsSheet 201 = .ok (.iadd, 1) := dk_96 (dk_at dksX4_readsSheet_8 11 rfl rfl)
theorem dX4_readsSheet_202 : decode cX4_readsSheet 202 = .ok (.aload_n 0, 1) := dk_42 (dk_at dksX4_readsSheet_8 12 rfl rfl)
theorem dX4_readsSheet_203 : decode cX4_readsSheet 203 = .ok (.getfield 81, 3) := dk_180 0 81 (dk_at dksX4_readsSheet_8 13 rfl rfl)
theorem dX4_readsSheet_206 : decode cX4_readsSheet 206 = .ok (.iastore, 1) := dk_79 (dk_at dksX4_readsSheet_8 16 rfl rfl)
theorem dX4_readsSheet_207 : decode cX4_readsSheet 207 = .ok (.aload_n 0, 1) := dk_42 (dk_at dksX4_readsSheet_8 17 rfl rfl)
theorem dX4_readsSheet_208 : decode cX4_readsSheet 208 = .ok (.getfield 34, 3) := dk_180 0 34 (dk_at dksX4_readsSheet_8 18 rfl rfl)
theorem dX4_readsSheet_211 : decode cX4_readsSheet 211 = .ok (.iconst 1, 1) := dk_4 (dk_at dksX4_readsSheet_8 21 rfl rfl)
theorem dX4_readsSheet_212 : decode cX4_readsSheet 212 = .ok (.dup2, 1) := dk_92 (dk_at dksX4_readsSheet_8 22 rfl rfl)
theorem dX4_readsSheet_213 : decode cX4_readsSheet 213 = .ok (.iaload, 1) := dk_46 (dk_at dksX4_readsSheet_8 23 rfl rfl)
theorem dX4_readsSheet_214 : decode cX4_readsSheet 214 = .ok (.iconst 1, 1) := dk_4 (dk_at dksX4_readsSheet_9 0 rfl rfl)
theorem dX4_readsSheet_215 : decode cX4_readsSheet 215 = .ok (.iadd, 1) := dk_96 (dk_at dksX4_readsSheet_9 1 rfl rfl)
theorem dX4_readsSheet_216 : decode cX4_readsSheet 216 = .ok (.iastore, 1) := dk_79 (dk_at dksX4_readsSheet_9 2 rfl rfl)
theorem dX4_readsSheet_217 : decode cX4_readsSheet 217 = .ok (.goto 64, 3) := dk_167 0 64 (dk_at dksX4_readsSheet_9 3 rfl rfl)
theorem dX4_readsSheet_220 : decode cX4_readsSheet 220 = .ok (.aload_n 0, 1) := dk_42 (dk_at dksX4_readsSheet_9 6 rfl rfl)
theorem dX4_readsSheet_221 : decode cX4_readsSheet 221 = .ok (.aload_n 0, 1) := dk_42 (dk_at dksX4_readsSheet_9 7 rfl rfl)
theorem dX4_readsSheet_222 : decode cX4_readsSheet 222 = .ok (.getfield 59, 3) := dk_180 0 59 (dk_at dksX4_readsSheet_9 8 rfl rfl)
theorem dX4_readsSheet_225 : decode cX4_readsSheet 225 = .ok (.invokevirtual 62, 3) := dk_182 0 62 (dk_at dksX4_readsSheet_9 11 rfl rfl)
theorem dX4_readsSheet_228 : decode cX4_readsSheet 228 = .ok (.bipush 47, 2) := dk_16 47 (dk_at dksX4_readsSheet_9 14 rfl rfl)
theorem dX4_readsSheet_230 : decode cX4_readsSheet 230 = .ok (.if_icmp .ne 30, 3) := dk_160 0 30 (dk_at dksX4_readsSheet_9 16 rfl rfl)
theorem dX4_readsSheet_233 : decode cX4_readsSheet 233 = .ok (.aload_n 0, 1) := dk_42 (dk_at dksX4_readsSheet_9 19 rfl rfl)
theorem dX4_readsSheet_234 : decode cX4_readsSheet 234 = .ok (.getfield 34, 3) := dk_180 0 34 (dk_at dksX4_readsSheet_9 20 rfl rfl)
theorem dX4_readsSheet_237 : decode cX4_readsSheet 237 = .ok (.iconst 4, 1) := dk_7 (dk_at dksX4_readsSheet_9 23 rfl rfl)
theorem dX4_readsSheet_238 : decode cX4_readsSheet 238 = .ok (.aload_n 0, 1) := dk_42 (dk_at dksX4_readsSheet_10 0 rfl rfl)
theorem dX4_readsSheet_239 : decode cX4_readsSheet 239 = .ok (.getfield 34, 3) := dk_180 0 34 (dk_at dksX4_readsSheet_10 1 rfl rfl)
theorem dX4_readsSheet_242 : decode cX4_readsSheet 242 = .ok (.iconst 0, 1) := dk_3 (dk_at dksX4_readsSheet_10 4 rfl rfl)
theorem dX4_readsSheet_243 : decode cX4_readsSheet 243 = .ok (.iaload, 1) := dk_46 (dk_at dksX4_readsSheet_10 5 rfl rfl)
theorem dX4_readsSheet_244 : decode cX4_readsSheet 244 = .ok (.iadd, 1) := dk_96 (dk_at dksX4_readsSheet_10 6 rfl rfl)
theorem dX4_readsSheet_245 : decode cX4_readsSheet 245 = .ok (.iload_n 1, 1) := dk_27 (dk_at dksX4_readsSheet_10 7 rfl rfl)
theorem dX4_readsSheet_246 : decode cX4_readsSheet 246 = .ok (.iastore, 1) := dk_79 (dk_at dksX4_readsSheet_10 8 rfl rfl)
theorem dX4_readsSheet_247 : decode cX4_readsSheet 247 = .ok (.aload_n 0, 1) := dk_42 (dk_at dksX4_readsSheet_10 9 rfl rfl)
theorem dX4_readsSheet_248 : decode cX4_readsSheet 248 = .ok (.getfield 34, 3) := dk_180 0 34 (dk_at dksX4_readsSheet_10 10 rfl rfl)
theorem dX4_readsSheet_251 : decode cX4_readsSheet 251 = .ok (.iconst 0, 1) := dk_3 (dk_at dksX4_readsSheet_10 13 rfl rfl)
theorem dX4_readsSheet_252 : decode cX4_readsSheet 252 = .ok (.dup2, 1) := dk_92 (dk_at dksX4_readsSheet_10 14 rfl rfl)
theorem dX4_readsSheet_253 : decode cX4_readsSheet 253 = .ok (.iaload, 1) := dk_46 (dk_at dksX4_readsSheet_10 15 rfl rfl)
theorem dX4_readsSheet_254 : decode cX4_readsSheet 254 = .ok (.iconst 1, 1) := dk_4 (dk_at dksX4_readsSheet_10 16 rfl rfl)
theorem dX4_readsSheet_255 : decode cX4_readsSheet 255 = .ok (.iadd, 1) := dk_96 (dk_at dksX4_readsSheet_10 17 rfl rfl)
theorem dX4_readsSheet_256 : decode cX4_readsSheet 256 = .ok (.iastore, 1) := dk_79 (dk_at dksX4_readsSheet_10 18 rfl rfl)
theorem dX4_readsSheet_257 : decode cX4_readsSheet 257 = .ok (.goto 24, 3) := dk_167 0 24 (dk_at dksX4_readsSheet_10 19 rfl rfl)
theorem dX4_readsSheet_260 : decode cX4_readsSheet 260 = .ok (.aload_n 0, 1) := dk_42 (dk_at dksX4_readsSheet_10 22 rfl rfl)
theorem dX4_readsSheet_261 : decode cX4_readsSheet 261 = .ok (.getfield 34, 3) := dk_180 0 34 (dk_at dksX4_readsSheet_11 0 rfl rfl)
theorem dX4_readsSheet_264 : decode cX4_readsSheet 264 = .ok (.sipush 415, 3) := dk_17 1 159 (dk_at dksX4_readsSheet_11 3 rfl rfl)
theorem dX4_readsSheet_267 : decode cX4_readsSheet 267 = .ok (.iload_n 1, 1) := dk_27 (dk_at dksX4_readsSheet_11 6 rfl rfl)
theorem dX4_readsSheet_268 : decode cX4_readsSheet 268 = .ok (.iadd, 1) := dk_96 (dk_at dksX4_readsSheet_11 7 rfl rfl)
theorem dX4_readsSheet_269 : decode cX4_readsSheet 269 = .ok (.aload_n 0, 1) := dk_42 (dk_at dksX4_readsSheet_11 8 rfl rfl)
theorem dX4_readsSheet_270 : decode cX4_readsSheet 270 = .ok (.aload_n 0, 1) := dk_42 (dk_at dksX4_readsSheet_11 9 rfl rfl)
theorem dX4_readsSheet_271 : decode cX4_readsSheet 271 = .ok (.getfield 59, 3) := dk_180 0 59 (dk_at dksX4_readsSheet_11 10 rfl rfl)
theorem dX4_readsSheet_274 : decode cX4_readsSheet 274 = .ok (.invokevirtual 62, 3) := dk_182 0 62 (dk_at dksX4_readsSheet_11 13 rfl rfl)
theorem dX4_readsSheet_277 : decode cX4_readsSheet 277 = .ok (.iastore, 1) := dk_79 (dk_at dksX4_readsSheet_11 16 rfl rfl)
theorem dX4_readsSheet_278 : decode cX4_readsSheet 278 = .ok (.iinc 1 1, 3) := dk_132 1 1 (dk_at dksX4_readsSheet_11 17 rfl rfl)
theorem dX4_readsSheet_281 : decode cX4_readsSheet 281 = .ok (.aload_n 0, 1) := dk_42 (dk_at dksX4_readsSheet_11 20 rfl rfl)
theorem dX4_readsSheet_282 : decode cX4_readsSheet 282 = .ok (.dup, 1) := dk_89 (dk_at dksX4_readsSheet_11 21 rfl rfl)
theorem dX4_readsSheet_283 : decode cX4_readsSheet 283 = .ok (.getfield 59, 3) := dk_180 0 59 (dk_at dksX4_readsSheet_12 0 rfl rfl)
theorem dX4_readsSheet_286 : decode cX4_readsSheet 286 = .ok (.iconst 1, 1) := dk_4 (dk_at dksX4_readsSheet_12 3 rfl rfl)
theorem dX4_readsSheet_287 : decode cX4_readsSheet 287 = .ok (.iadd, 1) := dk_96 (dk_at dksX4_readsSheet_12 4 rfl rfl)
theorem dX4_readsSheet_288 : decode cX4_readsSheet 288 = .ok (.putfield 59, 3) := dk_181 0 59 (dk_at dksX4_readsSheet_12 5 rfl rfl)
theorem dX4_readsSheet_291 : decode cX4_readsSheet 291 = .ok (.goto (-255), 3) := dk_167 255 1 (dk_at dksX4_readsSheet_12 8 rfl rfl)
theorem dX4_readsSheet_294 : decode cX4_readsSheet 294 = .ok (.aload_n 0, 1) := dk_42 (dk_at dksX4_readsSheet_12 11 rfl rfl)
theorem dX4_readsSheet_295 : decode cX4_readsSheet 295 = .ok (.getfield 34, 3) := dk_180 0 34 (dk_at dksX4_readsSheet_12 12 rfl rfl)
theorem dX4_readsSheet_298 : decode cX4_readsSheet 298 = .ok (.iconst 4, 1) := dk_7 (dk_at dksX4_readsSheet_12 15 rfl rfl)
theorem dX4_readsSheet_299 : decode cX4_readsSheet 299 = .ok (.aload_n 0, 1) := dk_42 (dk_at dksX4_readsSheet_12 16 rfl rfl)
theorem dX4_readsSheet_300 : decode cX4_readsSheet 300 = .ok (.getfield 34, 3) := dk_180 0 34 (dk_at dksX4_readsSheet_12 17 rfl rfl)
theorem dX4_readsSheet_303 : decode cX4_readsSheet 303 = .ok (.iconst 0, 1) := dk_3 (dk_at dksX4_readsSheet_12 20 rfl rfl)
theorem dX4_readsSheet_304 : decode cX4_readsSheet 304 = .ok (.iaload, 1) := dk_46 (dk_at dksX4_readsSheet_12 21 rfl rfl)
theorem dX4_readsSheet_305 : decode cX4_readsSheet 305 = .ok (.iadd, 1) := dk_96 (dk_at dksX4_readsSheet_12 22 rfl rfl)
theorem dX4_readsSheet_306 : decode cX4_readsSheet 306 = .ok (.iload_n 1, 1) := dk_27 (dk_at dksX4_readsSheet_12 23 rfl rfl)
theorem dX4_readsSheet_307 : decode cX4_readsSheet 307 = .ok (.iastore, 1) := dk_79 (dk_at dksX4_readsSheet_13 0 rfl rfl)
theorem dX4_readsSheet_308 : decode cX4_readsSheet 308 = .ok (.iconst 1, 1) := dk_4 (dk_at dksX4_readsSheet_13 1 rfl rfl)
theorem dX4_readsSheet_309 : decode cX4_readsSheet 309 = .ok (.ireturn, 1) := dk_172 (dk_at dksX4_readsSheet_13 2 rfl rfl)
theorem q2099 : (Jvm.Cond.fieldLink "ChordSheetModel" (34 : Nat) "ChordSheetModel" "made" "[I") ∈ lw_all := lw_g (lw_at lw_m9 117 rfl) rfl
theorem q2187 : (Jvm.Cond.methodLink "ChordSheetModel" (90 : Nat) ({ cls := "ChordSheetModel", name := "readsChord", desc := "(I)Z" } : Jvm.MethodName)) ∈ lw_all := lw_g (lw_at lw_m9 205 rfl) rfl
theorem q2189 : (Jvm.Cond.instanceMethod ({ cls := "ChordSheetModel", name := "readsChord", desc := "(I)Z" } : Jvm.MethodName)) ∈ lw_all := lw_g (lw_at lw_m9 207 rfl) rfl
theorem q2190 : (Jvm.Cond.code ({ cls := "ChordSheetModel", name := "readsChord", desc := "(I)Z" } : Jvm.MethodName) prog_11_method_13_code (7 : Nat) (Option.some Jvm.ClassFile.FieldType.boolean)) ∈ lw_all := lw_g (lw_at lw_m9 208 rfl) rfl
theorem updI_ne {V : Nat → Int} {i j : Nat} {v x : Int} (h : j ≠ i) (e : V j = x) : updI V i v j = x := by unfold updI; rw [if_neg h]; exact e
theorem updI_eq {V : Nat → Int} {i j : Nat} {v : Int} (h : j = i) : updI V i v j = v := by unfold updI; rw [if_pos h]
theorem sga_l {T : List Int} {p : Int} (h : p < (T.length : Nat)) : sga T p = tch T p := by
  unfold sga tch lch
  rw [if_pos h, if_pos h]
/-- what is made while a text is read -/
def rdS (M : Nat → Int) (ls : List (List Int)) (cs : List zCh) (cur : List Int) : Prop := M 0 = (ls.length : Nat) + 1 ∧ M 1 = (cs.length : Nat) ∧ M 2 = 0 ∧ M 3 = 0 ∧ (∀ j : Nat, j ≤ ls.length → M (4 + j) = (lsm (ls.take j) : Nat)) ∧ (∀ (i : Nat) (x : zCh), cs[i]? = some x → M (210 + 5 * i) = x.1 ∧ M (210 + 5 * i + 1) = x.2.1 ∧ M (210 + 5 * i + 2) = x.2.2.1 ∧ M (210 + 5 * i + 3) = x.2.2.2.1 ∧ M (210 + 5 * i + 4) = x.2.2.2.2) ∧ ∀ (j : Nat) (d : Int), (ls.flatten ++ cur)[j]? = some d → M (415 + j) = d
section
variable {M M' : Nat → Int} {ls : List (List Int)} {cs : List zCh} {cur : List Int}
theorem flat_l (ls : List (List Int)) : ls.flatten.length = lsm ls := by rw [List.length_flatten]; rfl
theorem rdS.lz (h : rdS M ls cs cur) : M (4 + ls.length) = ((lsm ls : Nat) : Int) := by
  have := h.2.2.2.2.1 ls.length (Nat.le_refl _)
  rwa [List.take_length] at this
theorem rdS.le {c : Int} (h : rdS M ls cs cur) (hb : ls.length ≤ 201 ∧ cs.length ≤ 40) (e1 : ∀ j, j ≠ 415 + (lsm ls + cur.length) → M' j = M j) (e2 : M' (415 + (lsm ls + cur.length)) = c) : rdS M' ls cs (cur ++ [c]) := by
  obtain ⟨h1, h2, h3, h4, h5, h6, h7⟩ := h
  refine ⟨by rw [e1 _ (by omega)]; exact h1, by rw [e1 _ (by omega)]; exact h2, by rw [e1 _ (by omega)]; exact h3, by rw [e1 _ (by omega)]; exact h4, fun j hj => by rw [e1 _ (by omega)]; exact h5 j hj, fun i x hx => ?_, fun j d hd => ?_⟩
  · have hi := (List.getElem?_eq_some_iff.mp hx).1
    obtain ⟨a1, a2, a3, a4, a5⟩ := h6 i x hx
    exact ⟨by rw [e1 _ (by omega)]; exact a1, by rw [e1 _ (by omega)]; exact a2, by rw [e1 _ (by omega)]; exact a3, by rw [e1 _ (by omega)]; exact a4, by rw [e1 _ (by omega)]; exact a5⟩
  · rw [← List.append_assoc] at hd
    have hl := flat_l ls
    by_cases q : j < (ls.flatten ++ cur).length
    · rw [List.getElem?_append_left q] at hd
      rw [List.length_append, hl] at q
      rw [e1 _ (by omega)]
      exact h7 j d hd
    · rw [List.getElem?_append_right (by omega)] at hd
      have hj := (List.getElem?_eq_some_iff.mp hd).1
      rw [List.length_append, hl] at q hd hj
      simp only [List.length_cons, List.length_nil] at hj
      rw [show j - (lsm ls + cur.length) = 0 by omega] at hd
      simp at hd
      rw [show j = lsm ls + cur.length by omega, e2, hd]
theorem rdS.sl (h : rdS M ls cs cur) (hb : ls.length ≤ 200 ∧ cs.length ≤ 40) (e1 : ∀ j, j ≠ 0 → j ≠ 5 + ls.length → M' j = M j) (e2 : M' 0 = (ls.length : Nat) + 2) (e3 : M' (5 + ls.length) = ((lsm ls + cur.length : Nat) : Int)) : rdS M' (ls ++ [cur]) cs [] := by
  obtain ⟨h1, h2, h3, h4, h5, h6, h7⟩ := h
  refine ⟨by rw [e2]; simp; omega, by rw [e1 _ (by omega) (by omega)]; exact h2, by rw [e1 _ (by omega) (by omega)]; exact h3, by rw [e1 _ (by omega) (by omega)]; exact h4, fun j hj => ?_, fun i x hx => ?_, fun j d hd => ?_⟩
  · simp only [List.length_append, List.length_cons, List.length_nil] at hj
    by_cases q : j = ls.length + 1
    · rw [q, show 4 + (ls.length + 1) = 5 + ls.length by omega, e3, List.take_of_length_le (by simp), lsm_app]
    · rw [e1 _ (by omega) (by omega), List.take_append_of_le_length (by omega)]
      exact h5 j (by omega)
  · have hi := (List.getElem?_eq_some_iff.mp hx).1
    obtain ⟨a1, a2, a3, a4, a5⟩ := h6 i x hx
    exact ⟨by rw [e1 _ (by omega) (by omega)]; exact a1, by rw [e1 _ (by omega) (by omega)]; exact a2, by rw [e1 _ (by omega) (by omega)]; exact a3, by rw [e1 _ (by omega) (by omega)]; exact a4, by rw [e1 _ (by omega) (by omega)]; exact a5⟩
  · rw [e1 _ (by omega) (by omega)]
    refine h7 j d ?_
    simpa using hd
theorem rdS.ch {rt q b : Int} (h : rdS M ls cs cur) (hb : ls.length ≤ 201 ∧ cs.length < 40) (e1 : ∀ j, j ≠ 1 → (j < 210 + 5 * cs.length ∨ 215 + 5 * cs.length ≤ j) → M' j = M j) (e2 : M' 1 = (cs.length : Nat) + 1) (e3 : M' (210 + 5 * cs.length) = (ls.length : Nat) ∧ M' (210 + 5 * cs.length + 1) = (cur.length : Nat) ∧ M' (210 + 5 * cs.length + 2) = rt ∧ M' (210 + 5 * cs.length + 3) = q ∧ M' (210 + 5 * cs.length + 4) = b) : rdS M' ls (cs ++ [(((ls.length : Nat) : Int), ((cur.length : Nat) : Int), rt, q, b)]) cur := by
  obtain ⟨h1, h2, h3, h4, h5, h6, h7⟩ := h
  refine ⟨by rw [e1 _ (by omega) (by omega)]; exact h1, by rw [e2]; simp, by rw [e1 _ (by omega) (by omega)]; exact h3, by rw [e1 _ (by omega) (by omega)]; exact h4, fun j hj => by rw [e1 _ (by omega) (by omega)]; exact h5 j hj, fun i x hx => ?_, fun j d hd => by rw [e1 _ (by omega) (by omega)]; exact h7 j d hd⟩
  have hi := (List.getElem?_eq_some_iff.mp hx).1
  simp only [List.length_append, List.length_cons, List.length_nil] at hi
  by_cases c : i < cs.length
  · rw [List.getElem?_append_left c] at hx
    obtain ⟨a1, a2, a3, a4, a5⟩ := h6 i x hx
    exact ⟨by rw [e1 _ (by omega) (by omega)]; exact a1, by rw [e1 _ (by omega) (by omega)]; exact a2, by rw [e1 _ (by omega) (by omega)]; exact a3, by rw [e1 _ (by omega) (by omega)]; exact a4, by rw [e1 _ (by omega) (by omega)]; exact a5⟩
  · rw [List.getElem?_append_right (by omega), show i - cs.length = 0 by omega] at hx
    simp at hx
    subst hx
    rw [show i = cs.length by omega]
    exact e3
theorem rdS.en (h : rdS M ls cs cur) (hb : ls.length ≤ 200 ∧ cs.length ≤ 40) (e1 : ∀ j, j ≠ 5 + ls.length → M' j = M j) (e3 : M' (5 + ls.length) = ((lsm ls + cur.length : Nat) : Int)) : vS M' (ls ++ [cur], cs, 0, 0) := by
  obtain ⟨h1, h2, h3, h4, h5, h6, h7⟩ := h
  refine ⟨by rw [e1 _ (by omega), h1]; show _ = (((ls ++ [cur]).length : Nat) : Int); simp, by rw [e1 _ (by omega)]; exact h2, by rw [e1 _ (by omega)]; exact h3, by rw [e1 _ (by omega)]; exact h4, fun j hj => ?_, fun i x hx => ?_, fun j d hd => ?_⟩
  · have hj : j ≤ (ls ++ [cur]).length := hj
    show M' (4 + j) = ((lsm ((ls ++ [cur]).take j) : Nat) : Int)
    simp only [List.length_append, List.length_cons, List.length_nil] at hj
    by_cases q : j = ls.length + 1
    · rw [q, show 4 + (ls.length + 1) = 5 + ls.length by omega, e3, List.take_of_length_le (by simp), lsm_app]
    · rw [e1 _ (by omega), List.take_append_of_le_length (by omega)]
      exact h5 j (by omega)
  · have hx : cs[i]? = some x := hx
    have hi := (List.getElem?_eq_some_iff.mp hx).1
    obtain ⟨a1, a2, a3, a4, a5⟩ := h6 i x hx
    exact ⟨by rw [e1 _ (by omega)]; exact a1, by rw [e1 _ (by omega)]; exact a2, by rw [e1 _ (by omega)]; exact a3, by rw [e1 _ (by omega)]; exact a4, by rw [e1 _ (by omega)]; exact a5⟩
  · have hd : (ls ++ [cur]).flatten[j]? = some d := hd
    rw [e1 _ (by omega)]
    refine h7 j d ?_
    rw [← hd]
    congr 1
    simp
end
set_option maxHeartbeats 4000000 in
theorem m_sheet {l : Launch} (hl : l.stackTraces = false) {Γ : zCx} {h : zH} {tq : List Int} {A : zMA} {st si ff wd th ap nt rr rq rb wh nd up lo : Int} {V P T M N U W : Nat → Int} (hM : mM h A st ((tq.length : Nat) : Int) si ff wd th ap nt rr rq rb wh nd up lo V P T M N U W) (htq : txA tq T) (hTr : ∀ c ∈ tq, 32 ≤ c ∧ c ≤ 126) (hTl : tq.length ≤ 200)  : zMet l yX4_readsSheet (ws_ yX4_readsSheet cX4_readsSheet 3 (some .boolean)) ({ frames := 3, cells := 0, slots := 0, locals := 71 }) Γ h [.ref A.m] (zrt (fun w h' => ((∃ ls cs M' a' n' r' q' b' w', (rsh tq (tq.length + 1) 0 [] [] [] = .inr (ls, cs) ∧ vS M' (ls, cs, 0, 0)) ∧ w = some (.int (iI (1))) ∧ mM h' A st ((tq.length : Nat) : Int) si ff wd th a' n' r' q' b' w' nd up lo V P T M' N U W) ∨ (∃ y M' n' r' q' b' w', (rsh tq (tq.length + 1) 0 [] [] [] = .inl y) ∧ w = some (.int (iI (0))) ∧ mM h' A st ((tq.length : Nat) : Int) si ff wd th y n' r' q' b' w' nd up lo V P T M' N U W)) ∧ zkeep h h' [A.m, A.v, A.pa, A.tx, A.ma, A.na, A.ua, A.la])) 0 0 := by
  refine zMet.of (cc := cX4_readsSheet) hl (plainFor_of_name (by decide +kernel)) (Nat.le_of_ble_eq_true rfl) ?_
  intro X hXl hXΓ hXp C hnm hnL
  have C : zC X cX4_readsSheet RX4 (some .boolean) 3 71 [] := C
  have hnL : X.2.1.2.2.2.2 = 3 := hnL
  subst hXl hXΓ
  show Z X h 0 0 [(0, .ref A.m)] 0 []
  obtain ⟨gm_1, gv_1, gpa_1, gtx_1, gma_1, gna_1, gua_1, gla_1, gle_1, gqa_1, gd_1⟩ := id hM
  refine z_iconst (pc := 0) C dX4_readsSheet_0 ?_
  refine z_istore_n (pc := 1) (L' := [(1, .int (iI 0)), (0, .ref A.m)]) C dX4_readsSheet_1 rfl (by rw [hnL]; decide) rfl ?_
  have loop2 : ∀ (n2 : Nat) (k : Int) (Mz : Nat → Int) (g2 : zH), (mM g2 A st ((tq.length : Nat) : Int) si ff wd th ap nt rr rq rb wh nd up lo V P T Mz N U W) → (zkeep h g2 [A.m, A.v, A.pa, A.tx, A.ma, A.na, A.ua, A.la]) → (0 ≤ k ∧ k ≤ 620) → (∀ j, j < k.toNat → Mz j = 0) → ((620 - k).toNat) = n2 → Z X g2 0 0 [(1, .int (iI k)), (0, .ref A.m)] 2 [] := by
    intro n2
    induction n2 using Nat.strongRecOn with
    | ind n2 ih2 =>
    intro k Mz g2 hMg2 hkp2 hk hz hn2
    obtain ⟨gm_2, gv_2, gpa_2, gtx_2, gma_2, gna_2, gua_2, gla_2, gle_2, gqa_2, gd_2⟩ := id hMg2
    refine z_iload_n (pc := 2) (j := 0) C dX4_readsSheet_2 rfl rfl ?_
    refine z_sipush (pc := 3) C dX4_readsSheet_3 (by decide) ?_
    refine z_icmp_ge (pc := 6) (tgt := 22) C dX4_readsSheet_6 (by decide) (by omega) (by decide) (fun c6 => ?_) (fun c6 => ?_)
    · refine z_aload_n (pc := 22) (j := 1) C dX4_readsSheet_22 rfl rfl ?_
      refine z_getfield (pc := 23) (v := .ref A.ma) C in_X4 rfl 17 (by decide) q2099 (fun _ z => z) gm_2 rfl dX4_readsSheet_23 ?_
      refine z_iconst (pc := 26) C dX4_readsSheet_26 ?_
      refine z_iconst (pc := 27) C dX4_readsSheet_27 ?_
      refine z_iastore (pc := 28) (f' := (mA (updI Mz 0 1))) C gma_2 (by omega) (mA_up _ _ _) dX4_readsSheet_28 ?_
      refine Z.nm (fun h3 eh3 => ?_)
      have kh3 : zkeep h h3 [A.m, A.v, A.pa, A.tx, A.ma, A.na, A.ua, A.la] := by rw [eh3]; exact zkeep.up hkp2 (Or.inl (by simp)) gma_2
      have fh3_0 : h3 A.ma = some (true, .inl (.int, 620, (mA (updI Mz 0 1)))) := zse eh3
      have fh3_1 : h3 A.m = some (true, .inr (3, [.ref A.v, .ref A.pa, .int (iI st), .ref A.tx, .int (iI ((tq.length : Nat) : Int)), .int (iI si), .int (iI ff), .int (iI wd), .int (iI th), .ref A.le, .ref A.qa, .int (iI ap), .int (iI nt), .int (iI rr), .int (iI rq), .int (iI rb), .int (iI wh), .ref A.ma, .ref A.na, .int (iI nd), .ref A.ua, .ref A.la, .int (iI up), .int (iI lo)])) := zsn eh3 gm_2 (zneA gm_2 gma_2)
      have fh3_2 : h3 A.v = some (true, .inl (.int, 620, (mA V))) := zsn eh3 gv_2 gd_2.2.2.1
      have fh3_3 : h3 A.pa = some (true, .inl (.int, 4960, (mA P))) := zsn eh3 gpa_2 gd_2.2.2.2.2.2.2.2.1
      have fh3_4 : h3 A.tx = some (true, .inl (.int, 200, (mA T))) := zsn eh3 gtx_2 gd_2.2.2.2.2.2.2.2.2.2.2.2.1
      have fh3_5 : h3 A.na = some (true, .inl (.int, 20, (mA N))) := zsn eh3 gna_2 (Ne.symm gd_2.2.2.2.2.2.2.2.2.2.2.2.2.2.2.2.1)
      have fh3_6 : h3 A.ua = some (true, .inl (.int, 1200, (mA U))) := zsn eh3 gua_2 (Ne.symm gd_2.2.2.2.2.2.2.2.2.2.2.2.2.2.2.2.2.1)
      have fh3_7 : h3 A.la = some (true, .inl (.int, 1200, (mA W))) := zsn eh3 gla_2 (Ne.symm gd_2.2.2.2.2.2.2.2.2.2.2.2.2.2.2.2.2.2.1)
      have fh3_8 : h3 A.le = some (true, .inl (.char, 7, (mA ltF))) := zsn eh3 gle_2 (zneT gle_2 gma_2 (by simp))
      have fh3_9 : h3 A.qa = some (true, .inl (.char, 30, (mA qaF))) := zsn eh3 gqa_2 (zneT gqa_2 gma_2 (by simp))
      refine z_iconst (pc := 29) C dX4_readsSheet_29 ?_
      refine z_istore_n (pc := 30) (L' := [(1, .int (iI 0)), (0, .ref A.m)]) C dX4_readsSheet_30 rfl (by rw [hnL]; decide) rfl ?_
      refine z_aload_n (pc := 31) (j := 1) C dX4_readsSheet_31 rfl rfl ?_
      refine z_iconst (pc := 32) C dX4_readsSheet_32 ?_
      refine z_putfield (pc := 33) (fs' := [.ref A.v, .ref A.pa, .int (iI st), .ref A.tx, .int (iI ((tq.length : Nat) : Int)), .int (iI si), .int (iI ff), .int (iI wd), .int (iI th), .ref A.le, .ref A.qa, .int (iI 0), .int (iI nt), .int (iI rr), .int (iI rq), .int (iI rb), .int (iI wh), .ref A.ma, .ref A.na, .int (iI nd), .ref A.ua, .ref A.la, .int (iI up), .int (iI lo)]) C in_X4 tyX4 tyX4_ok nmX4 rfl 11 (by decide) q2093 (fun _ z => z) rfl rfl rfl (Nat.le_of_ble_eq_true rfl) fh3_1 rfl dX4_readsSheet_33 ?_
      refine Z.nm (fun h4 eh4 => ?_)
      have kh4 : zkeep h h4 [A.m, A.v, A.pa, A.tx, A.ma, A.na, A.ua, A.la] := by rw [eh4]; exact zkeep.up kh3 (Or.inl (by simp)) fh3_1
      have fh4_0 : h4 A.m = some (true, .inr (3, [.ref A.v, .ref A.pa, .int (iI st), .ref A.tx, .int (iI ((tq.length : Nat) : Int)), .int (iI si), .int (iI ff), .int (iI wd), .int (iI th), .ref A.le, .ref A.qa, .int (iI 0), .int (iI nt), .int (iI rr), .int (iI rq), .int (iI rb), .int (iI wh), .ref A.ma, .ref A.na, .int (iI nd), .ref A.ua, .ref A.la, .int (iI up), .int (iI lo)])) := zse eh4
      have fh4_1 : h4 A.v = some (true, .inl (.int, 620, (mA V))) := zsn eh4 fh3_2 (Ne.symm (zneA fh3_1 fh3_2))
      have fh4_2 : h4 A.pa = some (true, .inl (.int, 4960, (mA P))) := zsn eh4 fh3_3 (Ne.symm (zneA fh3_1 fh3_3))
      have fh4_3 : h4 A.tx = some (true, .inl (.int, 200, (mA T))) := zsn eh4 fh3_4 (Ne.symm (zneA fh3_1 fh3_4))
      have fh4_4 : h4 A.na = some (true, .inl (.int, 20, (mA N))) := zsn eh4 fh3_5 (Ne.symm (zneA fh3_1 fh3_5))
      have fh4_5 : h4 A.ua = some (true, .inl (.int, 1200, (mA U))) := zsn eh4 fh3_6 (Ne.symm (zneA fh3_1 fh3_6))
      have fh4_6 : h4 A.la = some (true, .inl (.int, 1200, (mA W))) := zsn eh4 fh3_7 (Ne.symm (zneA fh3_1 fh3_7))
      have fh4_7 : h4 A.le = some (true, .inl (.char, 7, (mA ltF))) := zsn eh4 fh3_8 (Ne.symm (zneA fh3_1 fh3_8))
      have fh4_8 : h4 A.qa = some (true, .inl (.char, 30, (mA qaF))) := zsn eh4 fh3_9 (Ne.symm (zneA fh3_1 fh3_9))
      have fh4_9 : h4 A.ma = some (true, .inl (.int, 620, (mA (updI Mz 0 1)))) := zsn eh4 fh3_0 (Ne.symm (zneA fh3_1 fh3_0))
      have hz6 : ∀ j, j < 620 → Mz j = 0 := fun j hj => hz j (by omega)
      have loop36 : ∀ (n36 : Nat) (p : Int) (ls : List (List Int)) (cs : List zCh) (cur : List Int) (Mv : Nat → Int) (v1 : Int) (v2 : Int) (v3 : Int) (v4 : Int) (v5 : Int) (g36 : zH), (mM g36 A st ((tq.length : Nat) : Int) si ff wd th p v1 v2 v3 v4 v5 nd up lo V P T Mv N U W) → (zkeep h g36 [A.m, A.v, A.pa, A.tx, A.ma, A.na, A.ua, A.la]) → (0 ≤ p ∧ p ≤ (tq.length : Nat)) → (rdS Mv ls cs cur) → (rvI p ls cs cur) → (∃ f, (tq.length : Nat) - p < ((f : Nat) : Int) ∧ rsh tq f p ls cs cur = rsh tq (tq.length + 1) 0 [] [] []) → ((((tq.length : Nat) : Int) - p).toNat) = n36 → Z X g36 0 0 [(1, .int (iI ((lsm ls + cur.length : Nat) : Int))), (0, .ref A.m)] 36 [] := by
        intro n36
        induction n36 using Nat.strongRecOn with
        | ind n36 ih36 =>
        intro p ls cs cur Mv v1 v2 v3 v4 v5 g36 hMg36 hkp36 hp hrd hrv hd hn36
        obtain ⟨gm_5, gv_5, gpa_5, gtx_5, gma_5, gna_5, gua_5, gla_5, gle_5, gqa_5, gd_5⟩ := id hMg36
        obtain ⟨f0, hf0, hd0⟩ := hd
        obtain ⟨f1, rfl⟩ : ∃ f1, f0 = f1 + 1 := ⟨f0 - 1, by omega⟩
        obtain ⟨hrc, hrcr, hrl, hrp⟩ := id hrv
        refine z_aload_n (pc := 36) (j := 1) C dX4_readsSheet_36 rfl rfl ?_
        refine z_getfield (pc := 37) (v := .int (iI p)) C in_X4 rfl 11 (by decide) q2093 (fun _ z => z) gm_5 rfl dX4_readsSheet_37 ?_
        refine z_aload_n (pc := 40) (j := 1) C dX4_readsSheet_40 rfl rfl ?_
        refine z_getfield (pc := 41) (v := .int (iI ((tq.length : Nat) : Int))) C in_X4 rfl 4 (by decide) q2086 (fun _ z => z) gm_5 rfl dX4_readsSheet_41 ?_
        refine z_icmp_ge (pc := 44) (tgt := 294) C dX4_readsSheet_44 (by decide) (by omega) (by omega) (fun c44 => ?_) (fun c44 => ?_)
        · refine z_aload_n (pc := 294) (j := 1) C dX4_readsSheet_294 rfl rfl ?_
          refine z_getfield (pc := 295) (v := .ref A.ma) C in_X4 rfl 17 (by decide) q2099 (fun _ z => z) gm_5 rfl dX4_readsSheet_295 ?_
          refine z_iconst (pc := 298) C dX4_readsSheet_298 ?_
          refine z_aload_n (pc := 299) (j := 1) C dX4_readsSheet_299 rfl rfl ?_
          refine z_getfield (pc := 300) (v := .ref A.ma) C in_X4 rfl 17 (by decide) q2099 (fun _ z => z) gm_5 rfl dX4_readsSheet_300 ?_
          refine z_iconst (pc := 303) C dX4_readsSheet_303 ?_
          refine z_iaload (pc := 304) (v := .int (iI (((ls.length : Nat) : Int) + 1))) C gma_5 (by omega) (mA_e (vE hrd.1 (by omega))) dX4_readsSheet_304 ?_
          refine z_iadd (pc := 305) C dX4_readsSheet_305 ?_
          refine z_iload_n (pc := 306) (j := 0) C dX4_readsSheet_306 rfl rfl ?_
          refine z_iastore (pc := 307) (f' := (mA (updI Mv (Int.toNat (4 + (((ls.length : Nat) : Int) + 1))) ((lsm ls + cur.length : Nat) : Int)))) C gma_5 (by omega) (mA_up _ _ _) dX4_readsSheet_307 ?_
          refine Z.nm (fun h6 eh6 => ?_)
          have kh6 : zkeep h h6 [A.m, A.v, A.pa, A.tx, A.ma, A.na, A.ua, A.la] := by rw [eh6]; exact zkeep.up hkp36 (Or.inl (by simp)) gma_5
          have fh6_0 : h6 A.ma = some (true, .inl (.int, 620, (mA (updI Mv (Int.toNat (4 + (((ls.length : Nat) : Int) + 1))) ((lsm ls + cur.length : Nat) : Int))))) := zse eh6
          have fh6_1 : h6 A.m = some (true, .inr (3, [.ref A.v, .ref A.pa, .int (iI st), .ref A.tx, .int (iI ((tq.length : Nat) : Int)), .int (iI si), .int (iI ff), .int (iI wd), .int (iI th), .ref A.le, .ref A.qa, .int (iI p), .int (iI v1), .int (iI v2), .int (iI v3), .int (iI v4), .int (iI v5), .ref A.ma, .ref A.na, .int (iI nd), .ref A.ua, .ref A.la, .int (iI up), .int (iI lo)])) := zsn eh6 gm_5 (zneA gm_5 gma_5)
          have fh6_2 : h6 A.v = some (true, .inl (.int, 620, (mA V))) := zsn eh6 gv_5 gd_5.2.2.1
          have fh6_3 : h6 A.pa = some (true, .inl (.int, 4960, (mA P))) := zsn eh6 gpa_5 gd_5.2.2.2.2.2.2.2.1
          have fh6_4 : h6 A.tx = some (true, .inl (.int, 200, (mA T))) := zsn eh6 gtx_5 gd_5.2.2.2.2.2.2.2.2.2.2.2.1
          have fh6_5 : h6 A.na = some (true, .inl (.int, 20, (mA N))) := zsn eh6 gna_5 (Ne.symm gd_5.2.2.2.2.2.2.2.2.2.2.2.2.2.2.2.1)
          have fh6_6 : h6 A.ua = some (true, .inl (.int, 1200, (mA U))) := zsn eh6 gua_5 (Ne.symm gd_5.2.2.2.2.2.2.2.2.2.2.2.2.2.2.2.2.1)
          have fh6_7 : h6 A.la = some (true, .inl (.int, 1200, (mA W))) := zsn eh6 gla_5 (Ne.symm gd_5.2.2.2.2.2.2.2.2.2.2.2.2.2.2.2.2.2.1)
          have fh6_8 : h6 A.le = some (true, .inl (.char, 7, (mA ltF))) := zsn eh6 gle_5 (zneT gle_5 gma_5 (by simp))
          have fh6_9 : h6 A.qa = some (true, .inl (.char, 30, (mA qaF))) := zsn eh6 gqa_5 (zneT gqa_5 gma_5 (by simp))
          refine z_iconst (pc := 308) C dX4_readsSheet_308 ?_
          have hvS : vS (updI Mv (Int.toNat (4 + (((ls.length : Nat) : Int) + 1))) ((lsm ls + cur.length : Nat) : Int)) (ls ++ [cur], cs, 0, 0) := hrd.en (by omega) (fun j h1 => by simp only [updI, if_true] <;> (repeat' split) <;> first | rfl | omega) (by simp only [updI, if_true] <;> (repeat' split) <;> first | rfl | omega)
          exact z_zreturn (pc := 309) C (by decide) (by rw [hXp]; exact ⟨_, rfl, Or.inl ⟨ls ++ [cur], cs, (updI Mv (Int.toNat (4 + (((ls.length : Nat) : Int) + 1))) ((lsm ls + cur.length : Nat) : Int)), p, v1, v2, v3, v4, v5, ⟨(by rw [← hd0]; exact rsh_end (by omega)), hvS⟩, rfl, ⟨fh6_1, fh6_2, fh6_3, fh6_4, fh6_0, fh6_5, fh6_6, fh6_7, fh6_8, fh6_9, gd_5⟩⟩, kh6⟩) dX4_readsSheet_309
        · have hg93 := sga_t (T := tq) p 93 (by decide)
          have hg91 := sga_t (T := tq) p 91 (by decide)
          have hg47 := sga_t (T := tq) p 47 (by decide)
          have hgl := sga_l (T := tq) (p := p) (by omega)
          refine z_aload_n (pc := 47) (j := 1) C dX4_readsSheet_47 rfl rfl ?_
          refine z_aload_n (pc := 48) (j := 1) C dX4_readsSheet_48 rfl rfl ?_
          refine z_getfield (pc := 49) (v := .int (iI p)) C in_X4 rfl 11 (by decide) q2093 (fun _ z => z) gm_5 rfl dX4_readsSheet_49 ?_
          refine z_callV (pc := 52) (n := 1) (kc' := 0) (ks' := 0) C (m_sign C.t ⟨gm_5, gv_5, gpa_5, gtx_5, gma_5, gna_5, gua_5, gla_5, gle_5, gqa_5, gd_5⟩ htq hTr hTl (i := p) (by omega)) (lw_V q2183 q2185 qs29 q74 q2186) (by decide +kernel) ⟨by decide, by decide⟩ gm_5 rfl rfl rfl (Nat.le_of_ble_eq_true rfl) dX4_readsSheet_52 (by omega) (by omega) (zpk (st' := [.int (iI (sga tq p))]) rfl ?_) zrx
          have hsg55 := sga_r hTr (i := p) (by omega)
          refine z_bipush (pc := 55) C dX4_readsSheet_55 (by decide) ?_
          refine z_icmp_eq (pc := 57) (tgt := 84) C dX4_readsSheet_57 (by decide) (by omega) (by decide) (fun c57 => ?_) (fun c57 => ?_)
          · refine z_iconst (pc := 84) C dX4_readsSheet_84 ?_
            exact z_zreturn (pc := 85) C (by decide) (by rw [hXp]; exact ⟨_, rfl, Or.inr ⟨p, Mv, v1, v2, v3, v4, v5, (by rw [← hd0]; exact rsh_bad (by omega) (by omega)), rfl, ⟨gm_5, gv_5, gpa_5, gtx_5, gma_5, gna_5, gua_5, gla_5, gle_5, gqa_5, gd_5⟩⟩, hkp36⟩) dX4_readsSheet_85
          · refine z_aload_n (pc := 60) (j := 1) C dX4_readsSheet_60 rfl rfl ?_
            refine z_aload_n (pc := 61) (j := 1) C dX4_readsSheet_61 rfl rfl ?_
            refine z_getfield (pc := 62) (v := .int (iI p)) C in_X4 rfl 11 (by decide) q2093 (fun _ z => z) gm_5 rfl dX4_readsSheet_62 ?_
            refine z_callV (pc := 65) (n := 1) (kc' := 0) (ks' := 0) C (m_sign C.t ⟨gm_5, gv_5, gpa_5, gtx_5, gma_5, gna_5, gua_5, gla_5, gle_5, gqa_5, gd_5⟩ htq hTr hTl (i := p) (by omega)) (lw_V q2183 q2185 qs29 q74 q2186) (by decide +kernel) ⟨by decide, by decide⟩ gm_5 rfl rfl rfl (Nat.le_of_ble_eq_true rfl) dX4_readsSheet_65 (by omega) (by omega) (zpk (st' := [.int (iI (sga tq p))]) rfl ?_) zrx
            have hsg68 := sga_r hTr (i := p) (by omega)
            refine z_bipush (pc := 68) C dX4_readsSheet_68 (by decide) ?_
            refine z_icmp_ne (pc := 70) (tgt := 86) C dX4_readsSheet_70 (by decide) (by omega) (by decide) (fun c70 => ?_) (fun c70 => ?_)
            · refine z_aload_n (pc := 86) (j := 1) C dX4_readsSheet_86 rfl rfl ?_
              refine z_aload_n (pc := 87) (j := 1) C dX4_readsSheet_87 rfl rfl ?_
              refine z_getfield (pc := 88) (v := .int (iI p)) C in_X4 rfl 11 (by decide) q2093 (fun _ z => z) gm_5 rfl dX4_readsSheet_88 ?_
              refine z_callV (pc := 91) (n := 1) (kc' := 0) (ks' := 0) C (m_sign C.t ⟨gm_5, gv_5, gpa_5, gtx_5, gma_5, gna_5, gua_5, gla_5, gle_5, gqa_5, gd_5⟩ htq hTr hTl (i := p) (by omega)) (lw_V q2183 q2185 qs29 q74 q2186) (by decide +kernel) ⟨by decide, by decide⟩ gm_5 rfl rfl rfl (Nat.le_of_ble_eq_true rfl) dX4_readsSheet_91 (by omega) (by omega) (zpk (st' := [.int (iI (sga tq p))]) rfl ?_) zrx
              have hsg94 := sga_r hTr (i := p) (by omega)
              refine z_bipush (pc := 94) C dX4_readsSheet_94 (by decide) ?_
              refine z_icmp_ne (pc := 96) (tgt := 220) C dX4_readsSheet_96 (by decide) (by omega) (by decide) (fun c96 => ?_) (fun c96 => by exfalso; omega)
              refine z_aload_n (pc := 220) (j := 1) C dX4_readsSheet_220 rfl rfl ?_
              refine z_aload_n (pc := 221) (j := 1) C dX4_readsSheet_221 rfl rfl ?_
              refine z_getfield (pc := 222) (v := .int (iI p)) C in_X4 rfl 11 (by decide) q2093 (fun _ z => z) gm_5 rfl dX4_readsSheet_222 ?_
              refine z_callV (pc := 225) (n := 1) (kc' := 0) (ks' := 0) C (m_sign C.t ⟨gm_5, gv_5, gpa_5, gtx_5, gma_5, gna_5, gua_5, gla_5, gle_5, gqa_5, gd_5⟩ htq hTr hTl (i := p) (by omega)) (lw_V q2183 q2185 qs29 q74 q2186) (by decide +kernel) ⟨by decide, by decide⟩ gm_5 rfl rfl rfl (Nat.le_of_ble_eq_true rfl) dX4_readsSheet_225 (by omega) (by omega) (zpk (st' := [.int (iI (sga tq p))]) rfl ?_) zrx
              have hsg228 := sga_r hTr (i := p) (by omega)
              refine z_bipush (pc := 228) C dX4_readsSheet_228 (by decide) ?_
              refine z_icmp_ne (pc := 230) (tgt := 260) C dX4_readsSheet_230 (by decide) (by omega) (by decide) (fun c230 => ?_) (fun c230 => ?_)
              · refine z_aload_n (pc := 260) (j := 1) C dX4_readsSheet_260 rfl rfl ?_
                refine z_getfield (pc := 261) (v := .ref A.ma) C in_X4 rfl 17 (by decide) q2099 (fun _ z => z) gm_5 rfl dX4_readsSheet_261 ?_
                refine z_sipush (pc := 264) C dX4_readsSheet_264 (by decide) ?_
                refine z_iload_n (pc := 267) (j := 0) C dX4_readsSheet_267 rfl rfl ?_
                refine z_iadd (pc := 268) C dX4_readsSheet_268 ?_
                refine z_aload_n (pc := 269) (j := 1) C dX4_readsSheet_269 rfl rfl ?_
                refine z_aload_n (pc := 270) (j := 1) C dX4_readsSheet_270 rfl rfl ?_
                refine z_getfield (pc := 271) (v := .int (iI p)) C in_X4 rfl 11 (by decide) q2093 (fun _ z => z) gm_5 rfl dX4_readsSheet_271 ?_
                refine z_callV (pc := 274) (n := 1) (kc' := 0) (ks' := 0) C (m_sign C.t ⟨gm_5, gv_5, gpa_5, gtx_5, gma_5, gna_5, gua_5, gla_5, gle_5, gqa_5, gd_5⟩ htq hTr hTl (i := p) (by omega)) (lw_V q2183 q2185 qs29 q74 q2186) (by decide +kernel) ⟨by decide, by decide⟩ gm_5 rfl rfl rfl (Nat.le_of_ble_eq_true rfl) dX4_readsSheet_274 (by omega) (by omega) (zpk (st' := [.int (iI (sga tq p)), .int (iI (415 + ((lsm ls + cur.length : Nat) : Int))), .ref A.ma]) rfl ?_) zrx
                have hsg277 := sga_r hTr (i := p) (by omega)
                refine z_iastore (pc := 277) (f' := (mA (updI Mv (Int.toNat (415 + ((lsm ls + cur.length : Nat) : Int))) (sga tq p)))) C gma_5 (by omega) (mA_up _ _ _) dX4_readsSheet_277 ?_
                refine Z.nm (fun h7 eh7 => ?_)
                have kh7 : zkeep h h7 [A.m, A.v, A.pa, A.tx, A.ma, A.na, A.ua, A.la] := by rw [eh7]; exact zkeep.up hkp36 (Or.inl (by simp)) gma_5
                have fh7_0 : h7 A.ma = some (true, .inl (.int, 620, (mA (updI Mv (Int.toNat (415 + ((lsm ls + cur.length : Nat) : Int))) (sga tq p))))) := zse eh7
                have fh7_1 : h7 A.m = some (true, .inr (3, [.ref A.v, .ref A.pa, .int (iI st), .ref A.tx, .int (iI ((tq.length : Nat) : Int)), .int (iI si), .int (iI ff), .int (iI wd), .int (iI th), .ref A.le, .ref A.qa, .int (iI p), .int (iI v1), .int (iI v2), .int (iI v3), .int (iI v4), .int (iI v5), .ref A.ma, .ref A.na, .int (iI nd), .ref A.ua, .ref A.la, .int (iI up), .int (iI lo)])) := zsn eh7 gm_5 (zneA gm_5 gma_5)
                have fh7_2 : h7 A.v = some (true, .inl (.int, 620, (mA V))) := zsn eh7 gv_5 gd_5.2.2.1
                have fh7_3 : h7 A.pa = some (true, .inl (.int, 4960, (mA P))) := zsn eh7 gpa_5 gd_5.2.2.2.2.2.2.2.1
                have fh7_4 : h7 A.tx = some (true, .inl (.int, 200, (mA T))) := zsn eh7 gtx_5 gd_5.2.2.2.2.2.2.2.2.2.2.2.1
                have fh7_5 : h7 A.na = some (true, .inl (.int, 20, (mA N))) := zsn eh7 gna_5 (Ne.symm gd_5.2.2.2.2.2.2.2.2.2.2.2.2.2.2.2.1)
                have fh7_6 : h7 A.ua = some (true, .inl (.int, 1200, (mA U))) := zsn eh7 gua_5 (Ne.symm gd_5.2.2.2.2.2.2.2.2.2.2.2.2.2.2.2.2.1)
                have fh7_7 : h7 A.la = some (true, .inl (.int, 1200, (mA W))) := zsn eh7 gla_5 (Ne.symm gd_5.2.2.2.2.2.2.2.2.2.2.2.2.2.2.2.2.2.1)
                have fh7_8 : h7 A.le = some (true, .inl (.char, 7, (mA ltF))) := zsn eh7 gle_5 (zneT gle_5 gma_5 (by simp))
                have fh7_9 : h7 A.qa = some (true, .inl (.char, 30, (mA qaF))) := zsn eh7 gqa_5 (zneT gqa_5 gma_5 (by simp))
                refine z_iinc (pc := 278) (k := 0) (L' := [(1, .int (iI (((lsm ls + cur.length : Nat) : Int) + 1))), (0, .ref A.m)]) C dX4_readsSheet_278 rfl (by rw [hnL]; decide) rfl ?_
                have hrdN : rdS (updI Mv (Int.toNat (415 + ((lsm ls + cur.length : Nat) : Int))) (sga tq p)) ls cs (cur ++ [tch tq p]) := hrd.le (by omega) (fun j h1 => by simp only [updI, if_true] <;> (repeat' split) <;> first | rfl | omega) (by simp only [updI, if_true] <;> (repeat' split) <;> first | rfl | omega)
                refine z_aload_n (pc := 281) (j := 1) C dX4_readsSheet_281 rfl rfl ?_
                refine z_dup (pc := 282) C dX4_readsSheet_282 rfl ?_
                refine z_getfield (pc := 283) (v := .int (iI p)) C in_X4 rfl 11 (by decide) q2093 (fun _ z => z) fh7_1 rfl dX4_readsSheet_283 ?_
                refine z_iconst (pc := 286) C dX4_readsSheet_286 ?_
                refine z_iadd (pc := 287) C dX4_readsSheet_287 ?_
                refine z_putfield (pc := 288) (fs' := [.ref A.v, .ref A.pa, .int (iI st), .ref A.tx, .int (iI ((tq.length : Nat) : Int)), .int (iI si), .int (iI ff), .int (iI wd), .int (iI th), .ref A.le, .ref A.qa, .int (iI (p + 1)), .int (iI v1), .int (iI v2), .int (iI v3), .int (iI v4), .int (iI v5), .ref A.ma, .ref A.na, .int (iI nd), .ref A.ua, .ref A.la, .int (iI up), .int (iI lo)]) C in_X4 tyX4 tyX4_ok nmX4 rfl 11 (by decide) q2093 (fun _ z => z) rfl rfl rfl (Nat.le_of_ble_eq_true rfl) fh7_1 rfl dX4_readsSheet_288 ?_
                refine Z.nm (fun h8 eh8 => ?_)
                have kh8 : zkeep h h8 [A.m, A.v, A.pa, A.tx, A.ma, A.na, A.ua, A.la] := by rw [eh8]; exact zkeep.up kh7 (Or.inl (by simp)) fh7_1
                have fh8_0 : h8 A.m = some (true, .inr (3, [.ref A.v, .ref A.pa, .int (iI st), .ref A.tx, .int (iI ((tq.length : Nat) : Int)), .int (iI si), .int (iI ff), .int (iI wd), .int (iI th), .ref A.le, .ref A.qa, .int (iI (p + 1)), .int (iI v1), .int (iI v2), .int (iI v3), .int (iI v4), .int (iI v5), .ref A.ma, .ref A.na, .int (iI nd), .ref A.ua, .ref A.la, .int (iI up), .int (iI lo)])) := zse eh8
                have fh8_1 : h8 A.v = some (true, .inl (.int, 620, (mA V))) := zsn eh8 fh7_2 (Ne.symm (zneA fh7_1 fh7_2))
                have fh8_2 : h8 A.pa = some (true, .inl (.int, 4960, (mA P))) := zsn eh8 fh7_3 (Ne.symm (zneA fh7_1 fh7_3))
                have fh8_3 : h8 A.tx = some (true, .inl (.int, 200, (mA T))) := zsn eh8 fh7_4 (Ne.symm (zneA fh7_1 fh7_4))
                have fh8_4 : h8 A.na = some (true, .inl (.int, 20, (mA N))) := zsn eh8 fh7_5 (Ne.symm (zneA fh7_1 fh7_5))
                have fh8_5 : h8 A.ua = some (true, .inl (.int, 1200, (mA U))) := zsn eh8 fh7_6 (Ne.symm (zneA fh7_1 fh7_6))
                have fh8_6 : h8 A.la = some (true, .inl (.int, 1200, (mA W))) := zsn eh8 fh7_7 (Ne.symm (zneA fh7_1 fh7_7))
                have fh8_7 : h8 A.le = some (true, .inl (.char, 7, (mA ltF))) := zsn eh8 fh7_8 (Ne.symm (zneA fh7_1 fh7_8))
                have fh8_8 : h8 A.qa = some (true, .inl (.char, 30, (mA qaF))) := zsn eh8 fh7_9 (Ne.symm (zneA fh7_1 fh7_9))
                have fh8_9 : h8 A.ma = some (true, .inl (.int, 620, (mA (updI Mv (Int.toNat (415 + ((lsm ls + cur.length : Nat) : Int))) (sga tq p))))) := zsn eh8 fh7_0 (Ne.symm (zneA fh7_1 fh7_0))
                have ez9 : (((lsm ls + cur.length : Nat) : Int) + 1 : Int) = ((lsm ls + (cur ++ [tch tq p]).length : Nat) : Int) := by rw [List.length_append]; simp only [List.length_cons, List.length_nil]; omega
                have ez9g : ∀ z : Int, z = ((lsm ls + (cur ++ [tch tq p]).length : Nat) : Int) → Z X h8 0 0 [(1, .int (iI ((lsm ls + (cur ++ [tch tq p]).length : Nat) : Int))), (0, .ref A.m)] 291 [] → Z X h8 0 0 [(1, .int (iI z)), (0, .ref A.m)] 291 [] := fun z hz G => by rw [hz]; exact G
                refine ez9g _ ez9 ?_
                refine z_goto (pc := 291) (tgt := 36) C dX4_readsSheet_291 (by decide) ?_
                refine Z.weak (L' := [(1, .int (iI ((lsm ls + (cur ++ [tch tq p]).length : Nat) : Int))), (0, .ref A.m)]) (kc' := 0) (ks' := 0) [0, 1] rfl (by omega) (by omega) ?_
                exact ih36 _ (by omega) (p + 1) ls cs (cur ++ [tch tq p]) (updI Mv (Int.toNat (415 + ((lsm ls + cur.length : Nat) : Int))) (sga tq p)) v1 v2 v3 v4 v5 h8 ⟨fh8_0, fh8_1, fh8_2, fh8_3, fh8_9, fh8_4, fh8_5, fh8_6, fh8_7, fh8_8, gd_5⟩ kh8 (by omega) hrdN (hrv.le (by omega)) ⟨f1, by omega, by rw [← hd0]; exact (rsh_le (by omega) (by omega) (by omega) (by omega)).symm⟩ rfl
              · refine z_aload_n (pc := 233) (j := 1) C dX4_readsSheet_233 rfl rfl ?_
                refine z_getfield (pc := 234) (v := .ref A.ma) C in_X4 rfl 17 (by decide) q2099 (fun _ z => z) gm_5 rfl dX4_readsSheet_234 ?_
                refine z_iconst (pc := 237) C dX4_readsSheet_237 ?_
                refine z_aload_n (pc := 238) (j := 1) C dX4_readsSheet_238 rfl rfl ?_
                refine z_getfield (pc := 239) (v := .ref A.ma) C in_X4 rfl 17 (by decide) q2099 (fun _ z => z) gm_5 rfl dX4_readsSheet_239 ?_
                refine z_iconst (pc := 242) C dX4_readsSheet_242 ?_
                refine z_iaload (pc := 243) (v := .int (iI (((ls.length : Nat) : Int) + 1))) C gma_5 (by omega) (mA_e (vE hrd.1 (by omega))) dX4_readsSheet_243 ?_
                refine z_iadd (pc := 244) C dX4_readsSheet_244 ?_
                refine z_iload_n (pc := 245) (j := 0) C dX4_readsSheet_245 rfl rfl ?_
                refine z_iastore (pc := 246) (f' := (mA (updI Mv (Int.toNat (4 + (((ls.length : Nat) : Int) + 1))) ((lsm ls + cur.length : Nat) : Int)))) C gma_5 (by omega) (mA_up _ _ _) dX4_readsSheet_246 ?_
                refine Z.nm (fun h10 eh10 => ?_)
                have kh10 : zkeep h h10 [A.m, A.v, A.pa, A.tx, A.ma, A.na, A.ua, A.la] := by rw [eh10]; exact zkeep.up hkp36 (Or.inl (by simp)) gma_5
                have fh10_0 : h10 A.ma = some (true, .inl (.int, 620, (mA (updI Mv (Int.toNat (4 + (((ls.length : Nat) : Int) + 1))) ((lsm ls + cur.length : Nat) : Int))))) := zse eh10
                have fh10_1 : h10 A.m = some (true, .inr (3, [.ref A.v, .ref A.pa, .int (iI st), .ref A.tx, .int (iI ((tq.length : Nat) : Int)), .int (iI si), .int (iI ff), .int (iI wd), .int (iI th), .ref A.le, .ref A.qa, .int (iI p), .int (iI v1), .int (iI v2), .int (iI v3), .int (iI v4), .int (iI v5), .ref A.ma, .ref A.na, .int (iI nd), .ref A.ua, .ref A.la, .int (iI up), .int (iI lo)])) := zsn eh10 gm_5 (zneA gm_5 gma_5)
                have fh10_2 : h10 A.v = some (true, .inl (.int, 620, (mA V))) := zsn eh10 gv_5 gd_5.2.2.1
                have fh10_3 : h10 A.pa = some (true, .inl (.int, 4960, (mA P))) := zsn eh10 gpa_5 gd_5.2.2.2.2.2.2.2.1
                have fh10_4 : h10 A.tx = some (true, .inl (.int, 200, (mA T))) := zsn eh10 gtx_5 gd_5.2.2.2.2.2.2.2.2.2.2.2.1
                have fh10_5 : h10 A.na = some (true, .inl (.int, 20, (mA N))) := zsn eh10 gna_5 (Ne.symm gd_5.2.2.2.2.2.2.2.2.2.2.2.2.2.2.2.1)
                have fh10_6 : h10 A.ua = some (true, .inl (.int, 1200, (mA U))) := zsn eh10 gua_5 (Ne.symm gd_5.2.2.2.2.2.2.2.2.2.2.2.2.2.2.2.2.1)
                have fh10_7 : h10 A.la = some (true, .inl (.int, 1200, (mA W))) := zsn eh10 gla_5 (Ne.symm gd_5.2.2.2.2.2.2.2.2.2.2.2.2.2.2.2.2.2.1)
                have fh10_8 : h10 A.le = some (true, .inl (.char, 7, (mA ltF))) := zsn eh10 gle_5 (zneT gle_5 gma_5 (by simp))
                have fh10_9 : h10 A.qa = some (true, .inl (.char, 30, (mA qaF))) := zsn eh10 gqa_5 (zneT gqa_5 gma_5 (by simp))
                refine z_aload_n (pc := 247) (j := 1) C dX4_readsSheet_247 rfl rfl ?_
                refine z_getfield (pc := 248) (v := .ref A.ma) C in_X4 rfl 17 (by decide) q2099 (fun _ z => z) fh10_1 rfl dX4_readsSheet_248 ?_
                refine z_iconst (pc := 251) C dX4_readsSheet_251 ?_
                refine z_dup2 (pc := 252) C dX4_readsSheet_252 rfl rfl ?_
                refine z_iaload (pc := 253) (v := .int (iI (((ls.length : Nat) : Int) + 1))) C fh10_0 (by omega) (mA_e (vE (updI_ne (by omega) hrd.1) (by omega))) dX4_readsSheet_253 ?_
                refine z_iconst (pc := 254) C dX4_readsSheet_254 ?_
                refine z_iadd (pc := 255) C dX4_readsSheet_255 ?_
                refine z_iastore (pc := 256) (f' := (mA (updI (updI Mv (Int.toNat (4 + (((ls.length : Nat) : Int) + 1))) ((lsm ls + cur.length : Nat) : Int)) 0 ((((ls.length : Nat) : Int) + 1) + 1)))) C fh10_0 (by omega) (mA_up _ _ _) dX4_readsSheet_256 ?_
                refine Z.nm (fun h11 eh11 => ?_)
                have kh11 : zkeep h h11 [A.m, A.v, A.pa, A.tx, A.ma, A.na, A.ua, A.la] := by rw [eh11]; exact zkeep.up kh10 (Or.inl (by simp)) fh10_0
                have fh11_0 : h11 A.ma = some (true, .inl (.int, 620, (mA (updI (updI Mv (Int.toNat (4 + (((ls.length : Nat) : Int) + 1))) ((lsm ls + cur.length : Nat) : Int)) 0 ((((ls.length : Nat) : Int) + 1) + 1))))) := zse eh11
                have fh11_1 : h11 A.m = some (true, .inr (3, [.ref A.v, .ref A.pa, .int (iI st), .ref A.tx, .int (iI ((tq.length : Nat) : Int)), .int (iI si), .int (iI ff), .int (iI wd), .int (iI th), .ref A.le, .ref A.qa, .int (iI p), .int (iI v1), .int (iI v2), .int (iI v3), .int (iI v4), .int (iI v5), .ref A.ma, .ref A.na, .int (iI nd), .ref A.ua, .ref A.la, .int (iI up), .int (iI lo)])) := zsn eh11 fh10_1 (zneA fh10_1 fh10_0)
                have fh11_2 : h11 A.v = some (true, .inl (.int, 620, (mA V))) := zsn eh11 fh10_2 gd_5.2.2.1
                have fh11_3 : h11 A.pa = some (true, .inl (.int, 4960, (mA P))) := zsn eh11 fh10_3 gd_5.2.2.2.2.2.2.2.1
                have fh11_4 : h11 A.tx = some (true, .inl (.int, 200, (mA T))) := zsn eh11 fh10_4 gd_5.2.2.2.2.2.2.2.2.2.2.2.1
                have fh11_5 : h11 A.na = some (true, .inl (.int, 20, (mA N))) := zsn eh11 fh10_5 (Ne.symm gd_5.2.2.2.2.2.2.2.2.2.2.2.2.2.2.2.1)
                have fh11_6 : h11 A.ua = some (true, .inl (.int, 1200, (mA U))) := zsn eh11 fh10_6 (Ne.symm gd_5.2.2.2.2.2.2.2.2.2.2.2.2.2.2.2.2.1)
                have fh11_7 : h11 A.la = some (true, .inl (.int, 1200, (mA W))) := zsn eh11 fh10_7 (Ne.symm gd_5.2.2.2.2.2.2.2.2.2.2.2.2.2.2.2.2.2.1)
                have fh11_8 : h11 A.le = some (true, .inl (.char, 7, (mA ltF))) := zsn eh11 fh10_8 (zneT fh10_8 fh10_0 (by simp))
                have fh11_9 : h11 A.qa = some (true, .inl (.char, 30, (mA qaF))) := zsn eh11 fh10_9 (zneT fh10_9 fh10_0 (by simp))
                refine z_goto (pc := 257) (tgt := 281) C dX4_readsSheet_257 (by decide) ?_
                have hrdN : rdS (updI (updI Mv (Int.toNat (4 + (((ls.length : Nat) : Int) + 1))) ((lsm ls + cur.length : Nat) : Int)) 0 ((((ls.length : Nat) : Int) + 1) + 1)) (ls ++ [cur]) cs [] := hrd.sl (by omega) (fun j h1 h2 => by simp only [updI, if_true] <;> (repeat' split) <;> first | rfl | omega) (by simp only [updI, if_true] <;> (repeat' split) <;> first | rfl | omega) (by simp only [updI, if_true] <;> (repeat' split) <;> first | rfl | omega)
                refine z_aload_n (pc := 281) (j := 1) C dX4_readsSheet_281 rfl rfl ?_
                refine z_dup (pc := 282) C dX4_readsSheet_282 rfl ?_
                refine z_getfield (pc := 283) (v := .int (iI p)) C in_X4 rfl 11 (by decide) q2093 (fun _ z => z) fh11_1 rfl dX4_readsSheet_283 ?_
                refine z_iconst (pc := 286) C dX4_readsSheet_286 ?_
                refine z_iadd (pc := 287) C dX4_readsSheet_287 ?_
                refine z_putfield (pc := 288) (fs' := [.ref A.v, .ref A.pa, .int (iI st), .ref A.tx, .int (iI ((tq.length : Nat) : Int)), .int (iI si), .int (iI ff), .int (iI wd), .int (iI th), .ref A.le, .ref A.qa, .int (iI (p + 1)), .int (iI v1), .int (iI v2), .int (iI v3), .int (iI v4), .int (iI v5), .ref A.ma, .ref A.na, .int (iI nd), .ref A.ua, .ref A.la, .int (iI up), .int (iI lo)]) C in_X4 tyX4 tyX4_ok nmX4 rfl 11 (by decide) q2093 (fun _ z => z) rfl rfl rfl (Nat.le_of_ble_eq_true rfl) fh11_1 rfl dX4_readsSheet_288 ?_
                refine Z.nm (fun h12 eh12 => ?_)
                have kh12 : zkeep h h12 [A.m, A.v, A.pa, A.tx, A.ma, A.na, A.ua, A.la] := by rw [eh12]; exact zkeep.up kh11 (Or.inl (by simp)) fh11_1
                have fh12_0 : h12 A.m = some (true, .inr (3, [.ref A.v, .ref A.pa, .int (iI st), .ref A.tx, .int (iI ((tq.length : Nat) : Int)), .int (iI si), .int (iI ff), .int (iI wd), .int (iI th), .ref A.le, .ref A.qa, .int (iI (p + 1)), .int (iI v1), .int (iI v2), .int (iI v3), .int (iI v4), .int (iI v5), .ref A.ma, .ref A.na, .int (iI nd), .ref A.ua, .ref A.la, .int (iI up), .int (iI lo)])) := zse eh12
                have fh12_1 : h12 A.v = some (true, .inl (.int, 620, (mA V))) := zsn eh12 fh11_2 (Ne.symm (zneA fh11_1 fh11_2))
                have fh12_2 : h12 A.pa = some (true, .inl (.int, 4960, (mA P))) := zsn eh12 fh11_3 (Ne.symm (zneA fh11_1 fh11_3))
                have fh12_3 : h12 A.tx = some (true, .inl (.int, 200, (mA T))) := zsn eh12 fh11_4 (Ne.symm (zneA fh11_1 fh11_4))
                have fh12_4 : h12 A.na = some (true, .inl (.int, 20, (mA N))) := zsn eh12 fh11_5 (Ne.symm (zneA fh11_1 fh11_5))
                have fh12_5 : h12 A.ua = some (true, .inl (.int, 1200, (mA U))) := zsn eh12 fh11_6 (Ne.symm (zneA fh11_1 fh11_6))
                have fh12_6 : h12 A.la = some (true, .inl (.int, 1200, (mA W))) := zsn eh12 fh11_7 (Ne.symm (zneA fh11_1 fh11_7))
                have fh12_7 : h12 A.le = some (true, .inl (.char, 7, (mA ltF))) := zsn eh12 fh11_8 (Ne.symm (zneA fh11_1 fh11_8))
                have fh12_8 : h12 A.qa = some (true, .inl (.char, 30, (mA qaF))) := zsn eh12 fh11_9 (Ne.symm (zneA fh11_1 fh11_9))
                have fh12_9 : h12 A.ma = some (true, .inl (.int, 620, (mA (updI (updI Mv (Int.toNat (4 + (((ls.length : Nat) : Int) + 1))) ((lsm ls + cur.length : Nat) : Int)) 0 ((((ls.length : Nat) : Int) + 1) + 1))))) := zsn eh12 fh11_0 (Ne.symm (zneA fh11_1 fh11_0))
                have ez13 : (((lsm ls + cur.length : Nat) : Int) : Int) = ((lsm (ls ++ [cur]) + ([] : List Int).length : Nat) : Int) := by rw [lsm_app]; rfl
                have ez13g : ∀ z : Int, z = ((lsm (ls ++ [cur]) + ([] : List Int).length : Nat) : Int) → Z X h12 0 0 [(1, .int (iI ((lsm (ls ++ [cur]) + ([] : List Int).length : Nat) : Int))), (0, .ref A.m)] 291 [] → Z X h12 0 0 [(1, .int (iI z)), (0, .ref A.m)] 291 [] := fun z hz G => by rw [hz]; exact G
                refine ez13g _ ez13 ?_
                refine z_goto (pc := 291) (tgt := 36) C dX4_readsSheet_291 (by decide) ?_
                refine Z.weak (L' := [(1, .int (iI ((lsm (ls ++ [cur]) + ([] : List Int).length : Nat) : Int))), (0, .ref A.m)]) (kc' := 0) (ks' := 0) [0, 1] rfl (by omega) (by omega) ?_
                exact ih36 _ (by omega) (p + 1) (ls ++ [cur]) cs ([]) (updI (updI Mv (Int.toNat (4 + (((ls.length : Nat) : Int) + 1))) ((lsm ls + cur.length : Nat) : Int)) 0 ((((ls.length : Nat) : Int) + 1) + 1)) v1 v2 v3 v4 v5 h12 ⟨fh12_0, fh12_1, fh12_2, fh12_3, fh12_9, fh12_4, fh12_5, fh12_6, fh12_7, fh12_8, gd_5⟩ kh12 (by omega) hrdN (hrv.sl (by omega)) ⟨f1, by omega, by rw [← hd0]; exact (rsh_sl (by omega) (by omega) (by omega) (by omega)).symm⟩ rfl
            · refine z_aload_n (pc := 73) (j := 1) C dX4_readsSheet_73 rfl rfl ?_
              refine z_getfield (pc := 74) (v := .ref A.ma) C in_X4 rfl 17 (by decide) q2099 (fun _ z => z) gm_5 rfl dX4_readsSheet_74 ?_
              refine z_iconst (pc := 77) C dX4_readsSheet_77 ?_
              refine z_iaload (pc := 78) (v := .int (iI ((cs.length : Nat) : Int))) C gma_5 (by omega) (mA_e (vE hrd.2.1 (by omega))) dX4_readsSheet_78 ?_
              refine z_bipush (pc := 79) C dX4_readsSheet_79 (by decide) ?_
              refine z_icmp_ne (pc := 81) (tgt := 86) C dX4_readsSheet_81 (by decide) (by omega) (by decide) (fun c81 => ?_) (fun c81 => ?_)
              · refine z_aload_n (pc := 86) (j := 1) C dX4_readsSheet_86 rfl rfl ?_
                refine z_aload_n (pc := 87) (j := 1) C dX4_readsSheet_87 rfl rfl ?_
                refine z_getfield (pc := 88) (v := .int (iI p)) C in_X4 rfl 11 (by decide) q2093 (fun _ z => z) gm_5 rfl dX4_readsSheet_88 ?_
                refine z_callV (pc := 91) (n := 1) (kc' := 0) (ks' := 0) C (m_sign C.t ⟨gm_5, gv_5, gpa_5, gtx_5, gma_5, gna_5, gua_5, gla_5, gle_5, gqa_5, gd_5⟩ htq hTr hTl (i := p) (by omega)) (lw_V q2183 q2185 qs29 q74 q2186) (by decide +kernel) ⟨by decide, by decide⟩ gm_5 rfl rfl rfl (Nat.le_of_ble_eq_true rfl) dX4_readsSheet_91 (by omega) (by omega) (zpk (st' := [.int (iI (sga tq p))]) rfl ?_) zrx
                have hsg94 := sga_r hTr (i := p) (by omega)
                refine z_bipush (pc := 94) C dX4_readsSheet_94 (by decide) ?_
                refine z_icmp_ne (pc := 96) (tgt := 220) C dX4_readsSheet_96 (by decide) (by omega) (by decide) (fun c96 => by exfalso; omega) (fun c96 => ?_)
                refine z_aload_n (pc := 99) (j := 1) C dX4_readsSheet_99 rfl rfl ?_
                refine z_dup (pc := 100) C dX4_readsSheet_100 rfl ?_
                refine z_getfield (pc := 101) (v := .int (iI p)) C in_X4 rfl 11 (by decide) q2093 (fun _ z => z) gm_5 rfl dX4_readsSheet_101 ?_
                refine z_iconst (pc := 104) C dX4_readsSheet_104 ?_
                refine z_iadd (pc := 105) C dX4_readsSheet_105 ?_
                refine z_putfield (pc := 106) (fs' := [.ref A.v, .ref A.pa, .int (iI st), .ref A.tx, .int (iI ((tq.length : Nat) : Int)), .int (iI si), .int (iI ff), .int (iI wd), .int (iI th), .ref A.le, .ref A.qa, .int (iI (p + 1)), .int (iI v1), .int (iI v2), .int (iI v3), .int (iI v4), .int (iI v5), .ref A.ma, .ref A.na, .int (iI nd), .ref A.ua, .ref A.la, .int (iI up), .int (iI lo)]) C in_X4 tyX4 tyX4_ok nmX4 rfl 11 (by decide) q2093 (fun _ z => z) rfl rfl rfl (Nat.le_of_ble_eq_true rfl) gm_5 rfl dX4_readsSheet_106 ?_
                refine Z.nm (fun h14 eh14 => ?_)
                have kh14 : zkeep h h14 [A.m, A.v, A.pa, A.tx, A.ma, A.na, A.ua, A.la] := by rw [eh14]; exact zkeep.up hkp36 (Or.inl (by simp)) gm_5
                have fh14_0 : h14 A.m = some (true, .inr (3, [.ref A.v, .ref A.pa, .int (iI st), .ref A.tx, .int (iI ((tq.length : Nat) : Int)), .int (iI si), .int (iI ff), .int (iI wd), .int (iI th), .ref A.le, .ref A.qa, .int (iI (p + 1)), .int (iI v1), .int (iI v2), .int (iI v3), .int (iI v4), .int (iI v5), .ref A.ma, .ref A.na, .int (iI nd), .ref A.ua, .ref A.la, .int (iI up), .int (iI lo)])) := zse eh14
                have fh14_1 : h14 A.v = some (true, .inl (.int, 620, (mA V))) := zsn eh14 gv_5 (Ne.symm (zneA gm_5 gv_5))
                have fh14_2 : h14 A.pa = some (true, .inl (.int, 4960, (mA P))) := zsn eh14 gpa_5 (Ne.symm (zneA gm_5 gpa_5))
                have fh14_3 : h14 A.tx = some (true, .inl (.int, 200, (mA T))) := zsn eh14 gtx_5 (Ne.symm (zneA gm_5 gtx_5))
                have fh14_4 : h14 A.ma = some (true, .inl (.int, 620, (mA Mv))) := zsn eh14 gma_5 (Ne.symm (zneA gm_5 gma_5))
                have fh14_5 : h14 A.na = some (true, .inl (.int, 20, (mA N))) := zsn eh14 gna_5 (Ne.symm (zneA gm_5 gna_5))
                have fh14_6 : h14 A.ua = some (true, .inl (.int, 1200, (mA U))) := zsn eh14 gua_5 (Ne.symm (zneA gm_5 gua_5))
                have fh14_7 : h14 A.la = some (true, .inl (.int, 1200, (mA W))) := zsn eh14 gla_5 (Ne.symm (zneA gm_5 gla_5))
                have fh14_8 : h14 A.le = some (true, .inl (.char, 7, (mA ltF))) := zsn eh14 gle_5 (Ne.symm (zneA gm_5 gle_5))
                have fh14_9 : h14 A.qa = some (true, .inl (.char, 30, (mA qaF))) := zsn eh14 gqa_5 (Ne.symm (zneA gm_5 gqa_5))
                refine z_aload_n (pc := 109) (j := 1) C dX4_readsSheet_109 rfl rfl ?_
                refine z_bipush (pc := 110) C dX4_readsSheet_110 (by decide) ?_
                refine z_callV (pc := 112) (n := 1) (kc' := 0) (ks' := 0) C (m_chord_ C.t ⟨fh14_0, fh14_1, fh14_2, fh14_3, fh14_4, fh14_5, fh14_6, fh14_7, fh14_8, fh14_9, gd_5⟩ htq hTr hTl (e := 93) (e' := 93) (Or.inr ⟨rfl, rfl⟩) (by omega)) (lw_V q2187 q2189 qs30 q74 q2190) (by decide +kernel) ⟨by decide, by decide⟩ fh14_0 rfl rfl rfl (Nat.le_of_ble_eq_true rfl) dX4_readsSheet_112 (by omega) (by omega) (zrk fun w h15 hp => ?_) zrx
                obtain ⟨hq_17, k16⟩ := hp
                have kh15 : zkeep h h15 [A.m, A.v, A.pa, A.tx, A.ma, A.na, A.ua, A.la] := zkeep.loc kh14 k16 (fun q hq => Or.inl (Or.inr hq))
                rcases hq_17 with ⟨rt_17, q_17, b_17, pz_17, ntz_17, whz_17, hc_17, rfl, hM_17⟩ | ⟨x_17, ntz_17, rrz_17, rqz_17, rbz_17, whz_17, hc_17, rfl, hM_17⟩
                · have hM_17 : mM h15 A st ((tq.length : Nat) : Int) si ff wd th (pz_17 - 1) ntz_17 rt_17 q_17 b_17 whz_17 nd up lo V P T Mv N U W := hM_17
                  obtain ⟨gm_18, gv_18, gpa_18, gtx_18, gma_18, gna_18, gua_18, gla_18, gle_18, gqa_18, gd_18⟩ := id hM_17
                  show Z X h15 0 0 [(1, .int (iI ((lsm ls + cur.length : Nat) : Int))), (0, .ref A.m)] 115 [.int (iI 1)]
                  refine z_if_ne (pc := 115) (tgt := 120) C dX4_readsSheet_115 (by decide) (by decide) (fun _ => ?_) (fun z => absurd z (by decide))
                  have hcr := chp_r (by omega) hc_17
                  have hcu := chp_u (by decide) hc_17
                  refine z_aload_n (pc := 120) (j := 1) C dX4_readsSheet_120 rfl rfl ?_
                  refine z_getfield (pc := 121) (v := .ref A.ma) C in_X4 rfl 17 (by decide) q2099 (fun _ z => z) gm_18 rfl dX4_readsSheet_121 ?_
                  refine z_iconst (pc := 124) C dX4_readsSheet_124 ?_
                  refine z_iaload (pc := 125) (v := .int (iI ((cs.length : Nat) : Int))) C gma_18 (by omega) (mA_e (vE hrd.2.1 (by omega))) dX4_readsSheet_125 ?_
                  refine z_callS (pc := 126) (n := 1) (kc' := 0) (ks' := 0) C (m_chord C.t (x := ((cs.length : Nat) : Int))) (lw_S q2203 q2204 q74 q2205) (by decide +kernel) ⟨by decide, by decide⟩ rfl rfl (Nat.le_of_ble_eq_true rfl) dX4_readsSheet_126 (by omega) (by omega) (zpk (st' := [.int (iI (210 + 5 * ((cs.length : Nat) : Int)))]) rfl ?_) zrx
                  refine z_istore_n (pc := 129) (L' := [(2, .int (iI (210 + 5 * ((cs.length : Nat) : Int)))), (1, .int (iI ((lsm ls + cur.length : Nat) : Int))), (0, .ref A.m)]) C dX4_readsSheet_129 rfl (by rw [hnL]; decide) rfl ?_
                  refine z_aload_n (pc := 130) (j := 2) C dX4_readsSheet_130 rfl rfl ?_
                  refine z_getfield (pc := 131) (v := .ref A.ma) C in_X4 rfl 17 (by decide) q2099 (fun _ z => z) gm_18 rfl dX4_readsSheet_131 ?_
                  refine z_iload_n (pc := 134) (j := 0) C dX4_readsSheet_134 rfl rfl ?_
                  refine z_iconst (pc := 135) C dX4_readsSheet_135 ?_
                  refine z_iadd (pc := 136) C dX4_readsSheet_136 ?_
                  refine z_aload_n (pc := 137) (j := 2) C dX4_readsSheet_137 rfl rfl ?_
                  refine z_getfield (pc := 138) (v := .ref A.ma) C in_X4 rfl 17 (by decide) q2099 (fun _ z => z) gm_18 rfl dX4_readsSheet_138 ?_
                  refine z_iconst (pc := 141) C dX4_readsSheet_141 ?_
                  refine z_iaload (pc := 142) (v := .int (iI (((ls.length : Nat) : Int) + 1))) C gma_18 (by omega) (mA_e (vE hrd.1 (by omega))) dX4_readsSheet_142 ?_
                  refine z_iconst (pc := 143) C dX4_readsSheet_143 ?_
                  refine z_isub (pc := 144) C dX4_readsSheet_144 ?_
                  refine z_iastore (pc := 145) (f' := (mA (updI Mv (Int.toNat ((210 + 5 * ((cs.length : Nat) : Int)) + 0)) ((((ls.length : Nat) : Int) + 1) - 1)))) C gma_18 (by omega) (mA_up _ _ _) dX4_readsSheet_145 ?_
                  refine Z.nm (fun h19 eh19 => ?_)
                  have kh19 : zkeep h h19 [A.m, A.v, A.pa, A.tx, A.ma, A.na, A.ua, A.la] := by rw [eh19]; exact zkeep.up kh15 (Or.inl (by simp)) gma_18
                  have fh19_0 : h19 A.ma = some (true, .inl (.int, 620, (mA (updI Mv (Int.toNat ((210 + 5 * ((cs.length : Nat) : Int)) + 0)) ((((ls.length : Nat) : Int) + 1) - 1))))) := zse eh19
                  have fh19_1 : h19 A.m = some (true, .inr (3, [.ref A.v, .ref A.pa, .int (iI st), .ref A.tx, .int (iI ((tq.length : Nat) : Int)), .int (iI si), .int (iI ff), .int (iI wd), .int (iI th), .ref A.le, .ref A.qa, .int (iI (pz_17 - 1)), .int (iI ntz_17), .int (iI rt_17), .int (iI q_17), .int (iI b_17), .int (iI whz_17), .ref A.ma, .ref A.na, .int (iI nd), .ref A.ua, .ref A.la, .int (iI up), .int (iI lo)])) := zsn eh19 gm_18 (zneA gm_18 gma_18)
                  have fh19_2 : h19 A.v = some (true, .inl (.int, 620, (mA V))) := zsn eh19 gv_18 gd_18.2.2.1
                  have fh19_3 : h19 A.pa = some (true, .inl (.int, 4960, (mA P))) := zsn eh19 gpa_18 gd_18.2.2.2.2.2.2.2.1
                  have fh19_4 : h19 A.tx = some (true, .inl (.int, 200, (mA T))) := zsn eh19 gtx_18 gd_18.2.2.2.2.2.2.2.2.2.2.2.1
                  have fh19_5 : h19 A.na = some (true, .inl (.int, 20, (mA N))) := zsn eh19 gna_18 (Ne.symm gd_18.2.2.2.2.2.2.2.2.2.2.2.2.2.2.2.1)
                  have fh19_6 : h19 A.ua = some (true, .inl (.int, 1200, (mA U))) := zsn eh19 gua_18 (Ne.symm gd_18.2.2.2.2.2.2.2.2.2.2.2.2.2.2.2.2.1)
                  have fh19_7 : h19 A.la = some (true, .inl (.int, 1200, (mA W))) := zsn eh19 gla_18 (Ne.symm gd_18.2.2.2.2.2.2.2.2.2.2.2.2.2.2.2.2.2.1)
                  have fh19_8 : h19 A.le = some (true, .inl (.char, 7, (mA ltF))) := zsn eh19 gle_18 (zneT gle_18 gma_18 (by simp))
                  have fh19_9 : h19 A.qa = some (true, .inl (.char, 30, (mA qaF))) := zsn eh19 gqa_18 (zneT gqa_18 gma_18 (by simp))
                  refine z_aload_n (pc := 146) (j := 2) C dX4_readsSheet_146 rfl rfl ?_
                  refine z_getfield (pc := 147) (v := .ref A.ma) C in_X4 rfl 17 (by decide) q2099 (fun _ z => z) fh19_1 rfl dX4_readsSheet_147 ?_
                  refine z_iload_n (pc := 150) (j := 0) C dX4_readsSheet_150 rfl rfl ?_
                  refine z_iconst (pc := 151) C dX4_readsSheet_151 ?_
                  refine z_iadd (pc := 152) C dX4_readsSheet_152 ?_
                  refine z_iload_n (pc := 153) (j := 1) C dX4_readsSheet_153 rfl rfl ?_
                  refine z_aload_n (pc := 154) (j := 2) C dX4_readsSheet_154 rfl rfl ?_
                  refine z_getfield (pc := 155) (v := .ref A.ma) C in_X4 rfl 17 (by decide) q2099 (fun _ z => z) fh19_1 rfl dX4_readsSheet_155 ?_
                  refine z_iconst (pc := 158) C dX4_readsSheet_158 ?_
                  refine z_aload_n (pc := 159) (j := 2) C dX4_readsSheet_159 rfl rfl ?_
                  refine z_getfield (pc := 160) (v := .ref A.ma) C in_X4 rfl 17 (by decide) q2099 (fun _ z => z) fh19_1 rfl dX4_readsSheet_160 ?_
                  refine z_iconst (pc := 163) C dX4_readsSheet_163 ?_
                  refine z_iaload (pc := 164) (v := .int (iI (((ls.length : Nat) : Int) + 1))) C fh19_0 (by omega) (mA_e (vE (updI_ne (by omega) hrd.1) (by omega))) dX4_readsSheet_164 ?_
                  refine z_iadd (pc := 165) C dX4_readsSheet_165 ?_
                  refine z_iconst (pc := 166) C dX4_readsSheet_166 ?_
                  refine z_isub (pc := 167) C dX4_readsSheet_167 ?_
                  refine z_iaload (pc := 168) (v := .int (iI ((lsm ls : Nat) : Int))) C fh19_0 (by omega) (mA_e (vE (updI_ne (by omega) hrd.lz) (by omega))) dX4_readsSheet_168 ?_
                  refine z_isub (pc := 169) C dX4_readsSheet_169 ?_
                  refine z_iastore (pc := 170) (f' := (mA (updI (updI Mv (Int.toNat ((210 + 5 * ((cs.length : Nat) : Int)) + 0)) ((((ls.length : Nat) : Int) + 1) - 1)) (Int.toNat ((210 + 5 * ((cs.length : Nat) : Int)) + 1)) (((lsm ls + cur.length : Nat) : Int) - ((lsm ls : Nat) : Int))))) C fh19_0 (by omega) (mA_up _ _ _) dX4_readsSheet_170 ?_
                  refine Z.nm (fun h20 eh20 => ?_)
                  have kh20 : zkeep h h20 [A.m, A.v, A.pa, A.tx, A.ma, A.na, A.ua, A.la] := by rw [eh20]; exact zkeep.up kh19 (Or.inl (by simp)) fh19_0
                  have fh20_0 : h20 A.ma = some (true, .inl (.int, 620, (mA (updI (updI Mv (Int.toNat ((210 + 5 * ((cs.length : Nat) : Int)) + 0)) ((((ls.length : Nat) : Int) + 1) - 1)) (Int.toNat ((210 + 5 * ((cs.length : Nat) : Int)) + 1)) (((lsm ls + cur.length : Nat) : Int) - ((lsm ls : Nat) : Int)))))) := zse eh20
                  have fh20_1 : h20 A.m = some (true, .inr (3, [.ref A.v, .ref A.pa, .int (iI st), .ref A.tx, .int (iI ((tq.length : Nat) : Int)), .int (iI si), .int (iI ff), .int (iI wd), .int (iI th), .ref A.le, .ref A.qa, .int (iI (pz_17 - 1)), .int (iI ntz_17), .int (iI rt_17), .int (iI q_17), .int (iI b_17), .int (iI whz_17), .ref A.ma, .ref A.na, .int (iI nd), .ref A.ua, .ref A.la, .int (iI up), .int (iI lo)])) := zsn eh20 fh19_1 (zneA fh19_1 fh19_0)
                  have fh20_2 : h20 A.v = some (true, .inl (.int, 620, (mA V))) := zsn eh20 fh19_2 gd_18.2.2.1
                  have fh20_3 : h20 A.pa = some (true, .inl (.int, 4960, (mA P))) := zsn eh20 fh19_3 gd_18.2.2.2.2.2.2.2.1
                  have fh20_4 : h20 A.tx = some (true, .inl (.int, 200, (mA T))) := zsn eh20 fh19_4 gd_18.2.2.2.2.2.2.2.2.2.2.2.1
                  have fh20_5 : h20 A.na = some (true, .inl (.int, 20, (mA N))) := zsn eh20 fh19_5 (Ne.symm gd_18.2.2.2.2.2.2.2.2.2.2.2.2.2.2.2.1)
                  have fh20_6 : h20 A.ua = some (true, .inl (.int, 1200, (mA U))) := zsn eh20 fh19_6 (Ne.symm gd_18.2.2.2.2.2.2.2.2.2.2.2.2.2.2.2.2.1)
                  have fh20_7 : h20 A.la = some (true, .inl (.int, 1200, (mA W))) := zsn eh20 fh19_7 (Ne.symm gd_18.2.2.2.2.2.2.2.2.2.2.2.2.2.2.2.2.2.1)
                  have fh20_8 : h20 A.le = some (true, .inl (.char, 7, (mA ltF))) := zsn eh20 fh19_8 (zneT fh19_8 fh19_0 (by simp))
                  have fh20_9 : h20 A.qa = some (true, .inl (.char, 30, (mA qaF))) := zsn eh20 fh19_9 (zneT fh19_9 fh19_0 (by simp))
                  refine z_aload_n (pc := 171) (j := 2) C dX4_readsSheet_171 rfl rfl ?_
                  refine z_getfield (pc := 172) (v := .ref A.ma) C in_X4 rfl 17 (by decide) q2099 (fun _ z => z) fh20_1 rfl dX4_readsSheet_172 ?_
                  refine z_iload_n (pc := 175) (j := 0) C dX4_readsSheet_175 rfl rfl ?_
                  refine z_iconst (pc := 176) C dX4_readsSheet_176 ?_
                  refine z_iadd (pc := 177) C dX4_readsSheet_177 ?_
                  refine z_aload_n (pc := 178) (j := 2) C dX4_readsSheet_178 rfl rfl ?_
                  refine z_getfield (pc := 179) (v := .int (iI rt_17)) C in_X4 rfl 13 (by decide) q2095 (fun _ z => z) fh20_1 rfl dX4_readsSheet_179 ?_
                  refine z_iastore (pc := 182) (f' := (mA (updI (updI (updI Mv (Int.toNat ((210 + 5 * ((cs.length : Nat) : Int)) + 0)) ((((ls.length : Nat) : Int) + 1) - 1)) (Int.toNat ((210 + 5 * ((cs.length : Nat) : Int)) + 1)) (((lsm ls + cur.length : Nat) : Int) - ((lsm ls : Nat) : Int))) (Int.toNat ((210 + 5 * ((cs.length : Nat) : Int)) + 2)) rt_17))) C fh20_0 (by omega) (mA_up _ _ _) dX4_readsSheet_182 ?_
                  refine Z.nm (fun h21 eh21 => ?_)
                  have kh21 : zkeep h h21 [A.m, A.v, A.pa, A.tx, A.ma, A.na, A.ua, A.la] := by rw [eh21]; exact zkeep.up kh20 (Or.inl (by simp)) fh20_0
                  have fh21_0 : h21 A.ma = some (true, .inl (.int, 620, (mA (updI (updI (updI Mv (Int.toNat ((210 + 5 * ((cs.length : Nat) : Int)) + 0)) ((((ls.length : Nat) : Int) + 1) - 1)) (Int.toNat ((210 + 5 * ((cs.length : Nat) : Int)) + 1)) (((lsm ls + cur.length : Nat) : Int) - ((lsm ls : Nat) : Int))) (Int.toNat ((210 + 5 * ((cs.length : Nat) : Int)) + 2)) rt_17)))) := zse eh21
                  have fh21_1 : h21 A.m = some (true, .inr (3, [.ref A.v, .ref A.pa, .int (iI st), .ref A.tx, .int (iI ((tq.length : Nat) : Int)), .int (iI si), .int (iI ff), .int (iI wd), .int (iI th), .ref A.le, .ref A.qa, .int (iI (pz_17 - 1)), .int (iI ntz_17), .int (iI rt_17), .int (iI q_17), .int (iI b_17), .int (iI whz_17), .ref A.ma, .ref A.na, .int (iI nd), .ref A.ua, .ref A.la, .int (iI up), .int (iI lo)])) := zsn eh21 fh20_1 (zneA fh20_1 fh20_0)
                  have fh21_2 : h21 A.v = some (true, .inl (.int, 620, (mA V))) := zsn eh21 fh20_2 gd_18.2.2.1
                  have fh21_3 : h21 A.pa = some (true, .inl (.int, 4960, (mA P))) := zsn eh21 fh20_3 gd_18.2.2.2.2.2.2.2.1
                  have fh21_4 : h21 A.tx = some (true, .inl (.int, 200, (mA T))) := zsn eh21 fh20_4 gd_18.2.2.2.2.2.2.2.2.2.2.2.1
                  have fh21_5 : h21 A.na = some (true, .inl (.int, 20, (mA N))) := zsn eh21 fh20_5 (Ne.symm gd_18.2.2.2.2.2.2.2.2.2.2.2.2.2.2.2.1)
                  have fh21_6 : h21 A.ua = some (true, .inl (.int, 1200, (mA U))) := zsn eh21 fh20_6 (Ne.symm gd_18.2.2.2.2.2.2.2.2.2.2.2.2.2.2.2.2.1)
                  have fh21_7 : h21 A.la = some (true, .inl (.int, 1200, (mA W))) := zsn eh21 fh20_7 (Ne.symm gd_18.2.2.2.2.2.2.2.2.2.2.2.2.2.2.2.2.2.1)
                  have fh21_8 : h21 A.le = some (true, .inl (.char, 7, (mA ltF))) := zsn eh21 fh20_8 (zneT fh20_8 fh20_0 (by simp))
                  have fh21_9 : h21 A.qa = some (true, .inl (.char, 30, (mA qaF))) := zsn eh21 fh20_9 (zneT fh20_9 fh20_0 (by simp))
                  refine z_aload_n (pc := 183) (j := 2) C dX4_readsSheet_183 rfl rfl ?_
                  refine z_getfield (pc := 184) (v := .ref A.ma) C in_X4 rfl 17 (by decide) q2099 (fun _ z => z) fh21_1 rfl dX4_readsSheet_184 ?_
                  refine z_iload_n (pc := 187) (j := 0) C dX4_readsSheet_187 rfl rfl ?_
                  refine z_iconst (pc := 188) C dX4_readsSheet_188 ?_
                  refine z_iadd (pc := 189) C dX4_readsSheet_189 ?_
                  refine z_aload_n (pc := 190) (j := 2) C dX4_readsSheet_190 rfl rfl ?_
                  refine z_getfield (pc := 191) (v := .int (iI q_17)) C in_X4 rfl 14 (by decide) q2096 (fun _ z => z) fh21_1 rfl dX4_readsSheet_191 ?_
                  refine z_iastore (pc := 194) (f' := (mA (updI (updI (updI (updI Mv (Int.toNat ((210 + 5 * ((cs.length : Nat) : Int)) + 0)) ((((ls.length : Nat) : Int) + 1) - 1)) (Int.toNat ((210 + 5 * ((cs.length : Nat) : Int)) + 1)) (((lsm ls + cur.length : Nat) : Int) - ((lsm ls : Nat) : Int))) (Int.toNat ((210 + 5 * ((cs.length : Nat) : Int)) + 2)) rt_17) (Int.toNat ((210 + 5 * ((cs.length : Nat) : Int)) + 3)) q_17))) C fh21_0 (by omega) (mA_up _ _ _) dX4_readsSheet_194 ?_
                  refine Z.nm (fun h22 eh22 => ?_)
                  have kh22 : zkeep h h22 [A.m, A.v, A.pa, A.tx, A.ma, A.na, A.ua, A.la] := by rw [eh22]; exact zkeep.up kh21 (Or.inl (by simp)) fh21_0
                  have fh22_0 : h22 A.ma = some (true, .inl (.int, 620, (mA (updI (updI (updI (updI Mv (Int.toNat ((210 + 5 * ((cs.length : Nat) : Int)) + 0)) ((((ls.length : Nat) : Int) + 1) - 1)) (Int.toNat ((210 + 5 * ((cs.length : Nat) : Int)) + 1)) (((lsm ls + cur.length : Nat) : Int) - ((lsm ls : Nat) : Int))) (Int.toNat ((210 + 5 * ((cs.length : Nat) : Int)) + 2)) rt_17) (Int.toNat ((210 + 5 * ((cs.length : Nat) : Int)) + 3)) q_17)))) := zse eh22
                  have fh22_1 : h22 A.m = some (true, .inr (3, [.ref A.v, .ref A.pa, .int (iI st), .ref A.tx, .int (iI ((tq.length : Nat) : Int)), .int (iI si), .int (iI ff), .int (iI wd), .int (iI th), .ref A.le, .ref A.qa, .int (iI (pz_17 - 1)), .int (iI ntz_17), .int (iI rt_17), .int (iI q_17), .int (iI b_17), .int (iI whz_17), .ref A.ma, .ref A.na, .int (iI nd), .ref A.ua, .ref A.la, .int (iI up), .int (iI lo)])) := zsn eh22 fh21_1 (zneA fh21_1 fh21_0)
                  have fh22_2 : h22 A.v = some (true, .inl (.int, 620, (mA V))) := zsn eh22 fh21_2 gd_18.2.2.1
                  have fh22_3 : h22 A.pa = some (true, .inl (.int, 4960, (mA P))) := zsn eh22 fh21_3 gd_18.2.2.2.2.2.2.2.1
                  have fh22_4 : h22 A.tx = some (true, .inl (.int, 200, (mA T))) := zsn eh22 fh21_4 gd_18.2.2.2.2.2.2.2.2.2.2.2.1
                  have fh22_5 : h22 A.na = some (true, .inl (.int, 20, (mA N))) := zsn eh22 fh21_5 (Ne.symm gd_18.2.2.2.2.2.2.2.2.2.2.2.2.2.2.2.1)
                  have fh22_6 : h22 A.ua = some (true, .inl (.int, 1200, (mA U))) := zsn eh22 fh21_6 (Ne.symm gd_18.2.2.2.2.2.2.2.2.2.2.2.2.2.2.2.2.1)
                  have fh22_7 : h22 A.la = some (true, .inl (.int, 1200, (mA W))) := zsn eh22 fh21_7 (Ne.symm gd_18.2.2.2.2.2.2.2.2.2.2.2.2.2.2.2.2.2.1)
                  have fh22_8 : h22 A.le = some (true, .inl (.char, 7, (mA ltF))) := zsn eh22 fh21_8 (zneT fh21_8 fh21_0 (by simp))
                  have fh22_9 : h22 A.qa = some (true, .inl (.char, 30, (mA qaF))) := zsn eh22 fh21_9 (zneT fh21_9 fh21_0 (by simp))
                  refine z_aload_n (pc := 195) (j := 2) C dX4_readsSheet_195 rfl rfl ?_
                  refine z_getfield (pc := 196) (v := .ref A.ma) C in_X4 rfl 17 (by decide) q2099 (fun _ z => z) fh22_1 rfl dX4_readsSheet_196 ?_
                  refine z_iload_n (pc := 199) (j := 0) C dX4_readsSheet_199 rfl rfl ?_
                  refine z_iconst (pc := 200) C dX4_readsSheet_200 ?_
                  refine z_iadd (pc := 201) C dX4_readsSheet_201 ?_
                  refine z_aload_n (pc := 202) (j := 2) C dX4_readsSheet_202 rfl rfl ?_
                  refine z_getfield (pc := 203) (v := .int (iI b_17)) C in_X4 rfl 15 (by decide) q2097 (fun _ z => z) fh22_1 rfl dX4_readsSheet_203 ?_
                  refine z_iastore (pc := 206) (f' := (mA (updI (updI (updI (updI (updI Mv (Int.toNat ((210 + 5 * ((cs.length : Nat) : Int)) + 0)) ((((ls.length : Nat) : Int) + 1) - 1)) (Int.toNat ((210 + 5 * ((cs.length : Nat) : Int)) + 1)) (((lsm ls + cur.length : Nat) : Int) - ((lsm ls : Nat) : Int))) (Int.toNat ((210 + 5 * ((cs.length : Nat) : Int)) + 2)) rt_17) (Int.toNat ((210 + 5 * ((cs.length : Nat) : Int)) + 3)) q_17) (Int.toNat ((210 + 5 * ((cs.length : Nat) : Int)) + 4)) b_17))) C fh22_0 (by omega) (mA_up _ _ _) dX4_readsSheet_206 ?_
                  refine Z.nm (fun h23 eh23 => ?_)
                  have kh23 : zkeep h h23 [A.m, A.v, A.pa, A.tx, A.ma, A.na, A.ua, A.la] := by rw [eh23]; exact zkeep.up kh22 (Or.inl (by simp)) fh22_0
                  have fh23_0 : h23 A.ma = some (true, .inl (.int, 620, (mA (updI (updI (updI (updI (updI Mv (Int.toNat ((210 + 5 * ((cs.length : Nat) : Int)) + 0)) ((((ls.length : Nat) : Int) + 1) - 1)) (Int.toNat ((210 + 5 * ((cs.length : Nat) : Int)) + 1)) (((lsm ls + cur.length : Nat) : Int) - ((lsm ls : Nat) : Int))) (Int.toNat ((210 + 5 * ((cs.length : Nat) : Int)) + 2)) rt_17) (Int.toNat ((210 + 5 * ((cs.length : Nat) : Int)) + 3)) q_17) (Int.toNat ((210 + 5 * ((cs.length : Nat) : Int)) + 4)) b_17)))) := zse eh23
                  have fh23_1 : h23 A.m = some (true, .inr (3, [.ref A.v, .ref A.pa, .int (iI st), .ref A.tx, .int (iI ((tq.length : Nat) : Int)), .int (iI si), .int (iI ff), .int (iI wd), .int (iI th), .ref A.le, .ref A.qa, .int (iI (pz_17 - 1)), .int (iI ntz_17), .int (iI rt_17), .int (iI q_17), .int (iI b_17), .int (iI whz_17), .ref A.ma, .ref A.na, .int (iI nd), .ref A.ua, .ref A.la, .int (iI up), .int (iI lo)])) := zsn eh23 fh22_1 (zneA fh22_1 fh22_0)
                  have fh23_2 : h23 A.v = some (true, .inl (.int, 620, (mA V))) := zsn eh23 fh22_2 gd_18.2.2.1
                  have fh23_3 : h23 A.pa = some (true, .inl (.int, 4960, (mA P))) := zsn eh23 fh22_3 gd_18.2.2.2.2.2.2.2.1
                  have fh23_4 : h23 A.tx = some (true, .inl (.int, 200, (mA T))) := zsn eh23 fh22_4 gd_18.2.2.2.2.2.2.2.2.2.2.2.1
                  have fh23_5 : h23 A.na = some (true, .inl (.int, 20, (mA N))) := zsn eh23 fh22_5 (Ne.symm gd_18.2.2.2.2.2.2.2.2.2.2.2.2.2.2.2.1)
                  have fh23_6 : h23 A.ua = some (true, .inl (.int, 1200, (mA U))) := zsn eh23 fh22_6 (Ne.symm gd_18.2.2.2.2.2.2.2.2.2.2.2.2.2.2.2.2.1)
                  have fh23_7 : h23 A.la = some (true, .inl (.int, 1200, (mA W))) := zsn eh23 fh22_7 (Ne.symm gd_18.2.2.2.2.2.2.2.2.2.2.2.2.2.2.2.2.2.1)
                  have fh23_8 : h23 A.le = some (true, .inl (.char, 7, (mA ltF))) := zsn eh23 fh22_8 (zneT fh22_8 fh22_0 (by simp))
                  have fh23_9 : h23 A.qa = some (true, .inl (.char, 30, (mA qaF))) := zsn eh23 fh22_9 (zneT fh22_9 fh22_0 (by simp))
                  refine z_aload_n (pc := 207) (j := 2) C dX4_readsSheet_207 rfl rfl ?_
                  refine z_getfield (pc := 208) (v := .ref A.ma) C in_X4 rfl 17 (by decide) q2099 (fun _ z => z) fh23_1 rfl dX4_readsSheet_208 ?_
                  refine z_iconst (pc := 211) C dX4_readsSheet_211 ?_
                  refine z_dup2 (pc := 212) C dX4_readsSheet_212 rfl rfl ?_
                  refine z_iaload (pc := 213) (v := .int (iI ((cs.length : Nat) : Int))) C fh23_0 (by omega) (mA_e (vE (updI_ne (by omega) (updI_ne (by omega) (updI_ne (by omega) (updI_ne (by omega) (updI_ne (by omega) hrd.2.1))))) (by omega))) dX4_readsSheet_213 ?_
                  refine z_iconst (pc := 214) C dX4_readsSheet_214 ?_
                  refine z_iadd (pc := 215) C dX4_readsSheet_215 ?_
                  refine z_iastore (pc := 216) (f' := (mA (updI (updI (updI (updI (updI (updI Mv (Int.toNat ((210 + 5 * ((cs.length : Nat) : Int)) + 0)) ((((ls.length : Nat) : Int) + 1) - 1)) (Int.toNat ((210 + 5 * ((cs.length : Nat) : Int)) + 1)) (((lsm ls + cur.length : Nat) : Int) - ((lsm ls : Nat) : Int))) (Int.toNat ((210 + 5 * ((cs.length : Nat) : Int)) + 2)) rt_17) (Int.toNat ((210 + 5 * ((cs.length : Nat) : Int)) + 3)) q_17) (Int.toNat ((210 + 5 * ((cs.length : Nat) : Int)) + 4)) b_17) 1 (((cs.length : Nat) : Int) + 1)))) C fh23_0 (by omega) (mA_up _ _ _) dX4_readsSheet_216 ?_
                  refine Z.nm (fun h24 eh24 => ?_)
                  have kh24 : zkeep h h24 [A.m, A.v, A.pa, A.tx, A.ma, A.na, A.ua, A.la] := by rw [eh24]; exact zkeep.up kh23 (Or.inl (by simp)) fh23_0
                  have fh24_0 : h24 A.ma = some (true, .inl (.int, 620, (mA (updI (updI (updI (updI (updI (updI Mv (Int.toNat ((210 + 5 * ((cs.length : Nat) : Int)) + 0)) ((((ls.length : Nat) : Int) + 1) - 1)) (Int.toNat ((210 + 5 * ((cs.length : Nat) : Int)) + 1)) (((lsm ls + cur.length : Nat) : Int) - ((lsm ls : Nat) : Int))) (Int.toNat ((210 + 5 * ((cs.length : Nat) : Int)) + 2)) rt_17) (Int.toNat ((210 + 5 * ((cs.length : Nat) : Int)) + 3)) q_17) (Int.toNat ((210 + 5 * ((cs.length : Nat) : Int)) + 4)) b_17) 1 (((cs.length : Nat) : Int) + 1))))) := zse eh24
                  have fh24_1 : h24 A.m = some (true, .inr (3, [.ref A.v, .ref A.pa, .int (iI st), .ref A.tx, .int (iI ((tq.length : Nat) : Int)), .int (iI si), .int (iI ff), .int (iI wd), .int (iI th), .ref A.le, .ref A.qa, .int (iI (pz_17 - 1)), .int (iI ntz_17), .int (iI rt_17), .int (iI q_17), .int (iI b_17), .int (iI whz_17), .ref A.ma, .ref A.na, .int (iI nd), .ref A.ua, .ref A.la, .int (iI up), .int (iI lo)])) := zsn eh24 fh23_1 (zneA fh23_1 fh23_0)
                  have fh24_2 : h24 A.v = some (true, .inl (.int, 620, (mA V))) := zsn eh24 fh23_2 gd_18.2.2.1
                  have fh24_3 : h24 A.pa = some (true, .inl (.int, 4960, (mA P))) := zsn eh24 fh23_3 gd_18.2.2.2.2.2.2.2.1
                  have fh24_4 : h24 A.tx = some (true, .inl (.int, 200, (mA T))) := zsn eh24 fh23_4 gd_18.2.2.2.2.2.2.2.2.2.2.2.1
                  have fh24_5 : h24 A.na = some (true, .inl (.int, 20, (mA N))) := zsn eh24 fh23_5 (Ne.symm gd_18.2.2.2.2.2.2.2.2.2.2.2.2.2.2.2.1)
                  have fh24_6 : h24 A.ua = some (true, .inl (.int, 1200, (mA U))) := zsn eh24 fh23_6 (Ne.symm gd_18.2.2.2.2.2.2.2.2.2.2.2.2.2.2.2.2.1)
                  have fh24_7 : h24 A.la = some (true, .inl (.int, 1200, (mA W))) := zsn eh24 fh23_7 (Ne.symm gd_18.2.2.2.2.2.2.2.2.2.2.2.2.2.2.2.2.2.1)
                  have fh24_8 : h24 A.le = some (true, .inl (.char, 7, (mA ltF))) := zsn eh24 fh23_8 (zneT fh23_8 fh23_0 (by simp))
                  have fh24_9 : h24 A.qa = some (true, .inl (.char, 30, (mA qaF))) := zsn eh24 fh23_9 (zneT fh23_9 fh23_0 (by simp))
                  refine z_goto (pc := 217) (tgt := 281) C dX4_readsSheet_217 (by decide) ?_
                  have hrdN : rdS (updI (updI (updI (updI (updI (updI Mv (Int.toNat ((210 + 5 * ((cs.length : Nat) : Int)) + 0)) ((((ls.length : Nat) : Int) + 1) - 1)) (Int.toNat ((210 + 5 * ((cs.length : Nat) : Int)) + 1)) (((lsm ls + cur.length : Nat) : Int) - ((lsm ls : Nat) : Int))) (Int.toNat ((210 + 5 * ((cs.length : Nat) : Int)) + 2)) rt_17) (Int.toNat ((210 + 5 * ((cs.length : Nat) : Int)) + 3)) q_17) (Int.toNat ((210 + 5 * ((cs.length : Nat) : Int)) + 4)) b_17) 1 (((cs.length : Nat) : Int) + 1)) ls (cs ++ [((((ls.length : Nat) : Int), ((cur.length : Nat) : Int), rt_17, q_17, b_17) : zCh)]) cur := hrd.ch (by omega) (fun j h1 h2 => by simp only [updI, if_true] <;> (repeat' split) <;> first | rfl | omega) (by simp only [updI, if_true] <;> (repeat' split) <;> first | rfl | omega) ⟨(by simp only [updI, if_true] <;> (repeat' split) <;> first | rfl | omega), (by simp only [updI, if_true] <;> (repeat' split) <;> first | rfl | omega), (by simp only [updI, if_true] <;> (repeat' split) <;> first | rfl | omega), (by simp only [updI, if_true] <;> (repeat' split) <;> first | rfl | omega), (by simp only [updI, if_true] <;> (repeat' split) <;> first | rfl | omega)⟩
                  have hrx : pz_17 = pz_17 - 1 + 1 := by omega
                  refine z_aload_n (pc := 281) (j := 2) C dX4_readsSheet_281 rfl rfl ?_
                  refine z_dup (pc := 282) C dX4_readsSheet_282 rfl ?_
                  refine z_getfield (pc := 283) (v := .int (iI (pz_17 - 1))) C in_X4 rfl 11 (by decide) q2093 (fun _ z => z) fh24_1 rfl dX4_readsSheet_283 ?_
                  refine z_iconst (pc := 286) C dX4_readsSheet_286 ?_
                  refine z_iadd (pc := 287) C dX4_readsSheet_287 ?_
                  refine z_putfield (pc := 288) (fs' := [.ref A.v, .ref A.pa, .int (iI st), .ref A.tx, .int (iI ((tq.length : Nat) : Int)), .int (iI si), .int (iI ff), .int (iI wd), .int (iI th), .ref A.le, .ref A.qa, .int (iI ((pz_17 - 1) + 1)), .int (iI ntz_17), .int (iI rt_17), .int (iI q_17), .int (iI b_17), .int (iI whz_17), .ref A.ma, .ref A.na, .int (iI nd), .ref A.ua, .ref A.la, .int (iI up), .int (iI lo)]) C in_X4 tyX4 tyX4_ok nmX4 rfl 11 (by decide) q2093 (fun _ z => z) rfl rfl rfl (Nat.le_of_ble_eq_true rfl) fh24_1 rfl dX4_readsSheet_288 ?_
                  refine Z.nm (fun h25 eh25 => ?_)
                  have kh25 : zkeep h h25 [A.m, A.v, A.pa, A.tx, A.ma, A.na, A.ua, A.la] := by rw [eh25]; exact zkeep.up kh24 (Or.inl (by simp)) fh24_1
                  have fh25_0 : h25 A.m = some (true, .inr (3, [.ref A.v, .ref A.pa, .int (iI st), .ref A.tx, .int (iI ((tq.length : Nat) : Int)), .int (iI si), .int (iI ff), .int (iI wd), .int (iI th), .ref A.le, .ref A.qa, .int (iI ((pz_17 - 1) + 1)), .int (iI ntz_17), .int (iI rt_17), .int (iI q_17), .int (iI b_17), .int (iI whz_17), .ref A.ma, .ref A.na, .int (iI nd), .ref A.ua, .ref A.la, .int (iI up), .int (iI lo)])) := zse eh25
                  have fh25_1 : h25 A.v = some (true, .inl (.int, 620, (mA V))) := zsn eh25 fh24_2 (Ne.symm (zneA fh24_1 fh24_2))
                  have fh25_2 : h25 A.pa = some (true, .inl (.int, 4960, (mA P))) := zsn eh25 fh24_3 (Ne.symm (zneA fh24_1 fh24_3))
                  have fh25_3 : h25 A.tx = some (true, .inl (.int, 200, (mA T))) := zsn eh25 fh24_4 (Ne.symm (zneA fh24_1 fh24_4))
                  have fh25_4 : h25 A.na = some (true, .inl (.int, 20, (mA N))) := zsn eh25 fh24_5 (Ne.symm (zneA fh24_1 fh24_5))
                  have fh25_5 : h25 A.ua = some (true, .inl (.int, 1200, (mA U))) := zsn eh25 fh24_6 (Ne.symm (zneA fh24_1 fh24_6))
                  have fh25_6 : h25 A.la = some (true, .inl (.int, 1200, (mA W))) := zsn eh25 fh24_7 (Ne.symm (zneA fh24_1 fh24_7))
                  have fh25_7 : h25 A.le = some (true, .inl (.char, 7, (mA ltF))) := zsn eh25 fh24_8 (Ne.symm (zneA fh24_1 fh24_8))
                  have fh25_8 : h25 A.qa = some (true, .inl (.char, 30, (mA qaF))) := zsn eh25 fh24_9 (Ne.symm (zneA fh24_1 fh24_9))
                  have fh25_9 : h25 A.ma = some (true, .inl (.int, 620, (mA (updI (updI (updI (updI (updI (updI Mv (Int.toNat ((210 + 5 * ((cs.length : Nat) : Int)) + 0)) ((((ls.length : Nat) : Int) + 1) - 1)) (Int.toNat ((210 + 5 * ((cs.length : Nat) : Int)) + 1)) (((lsm ls + cur.length : Nat) : Int) - ((lsm ls : Nat) : Int))) (Int.toNat ((210 + 5 * ((cs.length : Nat) : Int)) + 2)) rt_17) (Int.toNat ((210 + 5 * ((cs.length : Nat) : Int)) + 3)) q_17) (Int.toNat ((210 + 5 * ((cs.length : Nat) : Int)) + 4)) b_17) 1 (((cs.length : Nat) : Int) + 1))))) := zsn eh25 fh24_0 (Ne.symm (zneA fh24_1 fh24_0))
                  refine z_goto (pc := 291) (tgt := 36) C dX4_readsSheet_291 (by decide) ?_
                  refine Z.weak (L' := [(1, .int (iI ((lsm ls + cur.length : Nat) : Int))), (0, .ref A.m)]) (kc' := 0) (ks' := 0) [1, 2] rfl (by omega) (by omega) ?_
                  exact ih36 _ (by omega) ((pz_17 - 1) + 1) ls (cs ++ [((((ls.length : Nat) : Int), ((cur.length : Nat) : Int), rt_17, q_17, b_17) : zCh)]) cur (updI (updI (updI (updI (updI (updI Mv (Int.toNat ((210 + 5 * ((cs.length : Nat) : Int)) + 0)) ((((ls.length : Nat) : Int) + 1) - 1)) (Int.toNat ((210 + 5 * ((cs.length : Nat) : Int)) + 1)) (((lsm ls + cur.length : Nat) : Int) - ((lsm ls : Nat) : Int))) (Int.toNat ((210 + 5 * ((cs.length : Nat) : Int)) + 2)) rt_17) (Int.toNat ((210 + 5 * ((cs.length : Nat) : Int)) + 3)) q_17) (Int.toNat ((210 + 5 * ((cs.length : Nat) : Int)) + 4)) b_17) 1 (((cs.length : Nat) : Int) + 1)) ntz_17 rt_17 q_17 b_17 whz_17 h25 ⟨fh25_0, fh25_1, fh25_2, fh25_3, fh25_9, fh25_4, fh25_5, fh25_6, fh25_7, fh25_8, gd_18⟩ kh25 (by omega) hrdN (hrx ▸ hrv.ch (by omega) (by omega) ⟨hcr.1, hcr.2.1, hcr.2.2.1⟩) (hrx ▸ ⟨f1, by omega, by rw [← hd0]; exact (rsh_co (by omega) (by omega) (by omega) hc_17).symm⟩) rfl
                · have hM_17 : mM h15 A st ((tq.length : Nat) : Int) si ff wd th x_17 ntz_17 rrz_17 rqz_17 rbz_17 whz_17 nd up lo V P T Mv N U W := hM_17
                  obtain ⟨gm_26, gv_26, gpa_26, gtx_26, gma_26, gna_26, gua_26, gla_26, gle_26, gqa_26, gd_26⟩ := id hM_17
                  show Z X h15 0 0 [(1, .int (iI ((lsm ls + cur.length : Nat) : Int))), (0, .ref A.m)] 115 [.int (iI 0)]
                  refine z_if_ne (pc := 115) (tgt := 120) C dX4_readsSheet_115 (by decide) (by decide) (fun z => absurd z (by decide)) (fun _ => ?_)
                  refine z_iconst (pc := 118) C dX4_readsSheet_118 ?_
                  exact z_zreturn (pc := 119) C (by decide) (by rw [hXp]; exact ⟨_, rfl, Or.inr ⟨x_17, Mv, ntz_17, rrz_17, rqz_17, rbz_17, whz_17, (by rw [← hd0]; exact rsh_cb (by omega) (by omega) (by omega) hc_17), rfl, ⟨gm_26, gv_26, gpa_26, gtx_26, gma_26, gna_26, gua_26, gla_26, gle_26, gqa_26, gd_26⟩⟩, kh15⟩) dX4_readsSheet_119
              · refine z_iconst (pc := 84) C dX4_readsSheet_84 ?_
                exact z_zreturn (pc := 85) C (by decide) (by rw [hXp]; exact ⟨_, rfl, Or.inr ⟨p, Mv, v1, v2, v3, v4, v5, (by rw [← hd0]; exact rsh_bad (by omega) (by omega)), rfl, ⟨gm_5, gv_5, gpa_5, gtx_5, gma_5, gna_5, gua_5, gla_5, gle_5, gqa_5, gd_5⟩⟩, hkp36⟩) dX4_readsSheet_85
      refine Z.weak (L' := [(1, .int (iI 0)), (0, .ref A.m)]) (kc' := 0) (ks' := 0) [0, 1] rfl (by omega) (by omega) ?_
      exact loop36 _ 0 ([]) ([]) ([]) (updI Mz 0 1) nt rr rq rb wh h4 ⟨fh4_0, fh4_1, fh4_2, fh4_3, fh4_9, fh4_4, fh4_5, fh4_6, fh4_7, fh4_8, gd_2⟩ kh4 (by omega) ⟨updI_eq rfl, updI_ne (by decide) (hz6 _ (by decide)), updI_ne (by decide) (hz6 _ (by decide)), updI_ne (by decide) (hz6 _ (by decide)), (fun j hj => updI_ne (by omega) (by rw [hz6 _ (by simp at hj; omega)]; simp [lsm])), (fun i x hx => by simp at hx), (fun j d hd => by simp at hd)⟩ ⟨by decide, (fun _ z => nomatch z), by decide, by decide⟩ ⟨tq.length + 1, by omega, rfl⟩ rfl
    · refine z_aload_n (pc := 9) (j := 1) C dX4_readsSheet_9 rfl rfl ?_
      refine z_getfield (pc := 10) (v := .ref A.ma) C in_X4 rfl 17 (by decide) q2099 (fun _ z => z) gm_2 rfl dX4_readsSheet_10 ?_
      refine z_iload_n (pc := 13) (j := 0) C dX4_readsSheet_13 rfl rfl ?_
      refine z_iconst (pc := 14) C dX4_readsSheet_14 ?_
      refine z_iastore (pc := 15) (f' := (mA (updI Mz (Int.toNat k) 0))) C gma_2 (by omega) (mA_up _ _ _) dX4_readsSheet_15 ?_
      refine Z.nm (fun h27 eh27 => ?_)
      have kh27 : zkeep h h27 [A.m, A.v, A.pa, A.tx, A.ma, A.na, A.ua, A.la] := by rw [eh27]; exact zkeep.up hkp2 (Or.inl (by simp)) gma_2
      have fh27_0 : h27 A.ma = some (true, .inl (.int, 620, (mA (updI Mz (Int.toNat k) 0)))) := zse eh27
      have fh27_1 : h27 A.m = some (true, .inr (3, [.ref A.v, .ref A.pa, .int (iI st), .ref A.tx, .int (iI ((tq.length : Nat) : Int)), .int (iI si), .int (iI ff), .int (iI wd), .int (iI th), .ref A.le, .ref A.qa, .int (iI ap), .int (iI nt), .int (iI rr), .int (iI rq), .int (iI rb), .int (iI wh), .ref A.ma, .ref A.na, .int (iI nd), .ref A.ua, .ref A.la, .int (iI up), .int (iI lo)])) := zsn eh27 gm_2 (zneA gm_2 gma_2)
      have fh27_2 : h27 A.v = some (true, .inl (.int, 620, (mA V))) := zsn eh27 gv_2 gd_2.2.2.1
      have fh27_3 : h27 A.pa = some (true, .inl (.int, 4960, (mA P))) := zsn eh27 gpa_2 gd_2.2.2.2.2.2.2.2.1
      have fh27_4 : h27 A.tx = some (true, .inl (.int, 200, (mA T))) := zsn eh27 gtx_2 gd_2.2.2.2.2.2.2.2.2.2.2.2.1
      have fh27_5 : h27 A.na = some (true, .inl (.int, 20, (mA N))) := zsn eh27 gna_2 (Ne.symm gd_2.2.2.2.2.2.2.2.2.2.2.2.2.2.2.2.1)
      have fh27_6 : h27 A.ua = some (true, .inl (.int, 1200, (mA U))) := zsn eh27 gua_2 (Ne.symm gd_2.2.2.2.2.2.2.2.2.2.2.2.2.2.2.2.2.1)
      have fh27_7 : h27 A.la = some (true, .inl (.int, 1200, (mA W))) := zsn eh27 gla_2 (Ne.symm gd_2.2.2.2.2.2.2.2.2.2.2.2.2.2.2.2.2.2.1)
      have fh27_8 : h27 A.le = some (true, .inl (.char, 7, (mA ltF))) := zsn eh27 gle_2 (zneT gle_2 gma_2 (by simp))
      have fh27_9 : h27 A.qa = some (true, .inl (.char, 30, (mA qaF))) := zsn eh27 gqa_2 (zneT gqa_2 gma_2 (by simp))
      refine z_iinc (pc := 16) (k := 0) (L' := [(1, .int (iI (k + 1))), (0, .ref A.m)]) C dX4_readsSheet_16 rfl (by rw [hnL]; decide) rfl ?_
      refine z_goto (pc := 19) (tgt := 2) C dX4_readsSheet_19 (by decide) ?_
      refine Z.weak (L' := [(1, .int (iI (k + 1))), (0, .ref A.m)]) (kc' := 0) (ks' := 0) [0, 1] rfl (by omega) (by omega) ?_
      exact ih2 _ (by omega) (k + 1) (updI Mz (Int.toNat k) 0) h27 ⟨fh27_1, fh27_2, fh27_3, fh27_4, fh27_0, fh27_5, fh27_6, fh27_7, fh27_8, fh27_9, gd_2⟩ kh27 (by omega) (fun j hj => (Nat.lt_or_ge j k.toNat).elim (fun g => updI_ne (by omega) (hz j g)) (fun g => updI_eq (by omega))) rfl
  refine Z.weak (L' := [(1, .int (iI 0)), (0, .ref A.m)]) (kc' := 0) (ks' := 0) [0, 1] rfl (by omega) (by omega) ?_
  exact loop2 _ 0 M h ⟨gm_1, gv_1, gpa_1, gtx_1, gma_1, gna_1, gua_1, gla_1, gle_1, gqa_1, gd_1⟩ zkeep.rf (by omega) (fun j hj => by omega) rfl

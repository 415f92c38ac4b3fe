/-! 37.resize.lean.txt -/
set_option maxRecDepth 100000
abbrev cJ25_resize : ByteArray := prog_48_method_17_code
def yJ25_resize : MethodName := ⟨RJ25, "resize", "()[Ljava/util/HashMap$Node;"⟩
def dkwJ25_resize_15 : List UInt8 := [25, 6, 176]
abbrev dktJ25_resize_15 : List UInt8 := dkwJ25_resize_15 ++ []
def dkwJ25_resize_14 : List UInt8 := [198, 0, 18, 25, 12, 1, 181, 0, 177, 25, 6, 21, 7, 28, 96, 25, 11, 83, 132, 7, 1, 167, 255, 57]
abbrev dktJ25_resize_14 : List UInt8 := dkwJ25_resize_14 ++ dktJ25_resize_15
def dkwJ25_resize_13 : List UInt8 := [199, 255, 185, 25, 10, 198, 0, 16, 25, 10, 1, 181, 0, 177, 25, 6, 21, 7, 25, 9, 83, 25, 12]
abbrev dktJ25_resize_13 : List UInt8 := dkwJ25_resize_13 ++ dktJ25_resize_14
def dkwJ25_resize_12 : List UInt8 := [25, 8, 58, 11, 167, 0, 10, 25, 12, 25, 8, 181, 0, 177, 25, 8, 58, 12, 25, 13, 89, 58, 8]
abbrev dktJ25_resize_12 : List UInt8 := dkwJ25_resize_12 ++ dktJ25_resize_13
def dkwJ25_resize_11 : List UInt8 := [58, 9, 167, 0, 10, 25, 10, 25, 8, 181, 0, 177, 25, 8, 58, 10, 167, 0, 26, 25, 12, 199, 0, 10]
abbrev dktJ25_resize_11 : List UInt8 := dkwJ25_resize_11 ++ dktJ25_resize_12
def dkwJ25_resize_10 : List UInt8 := [25, 8, 180, 0, 177, 58, 13, 25, 8, 180, 0, 168, 28, 126, 154, 0, 29, 25, 10, 199, 0, 10, 25, 8]
abbrev dktJ25_resize_10 : List UInt8 := dkwJ25_resize_10 ++ dktJ25_resize_11
def dkwJ25_resize_9 : List UInt8 := [42, 25, 6, 21, 7, 28, 182, 0, 211, 167, 0, 127, 1, 58, 9, 1, 58, 10, 1, 58, 11, 1, 58, 12]
abbrev dktJ25_resize_9 : List UInt8 := dkwJ25_resize_9 ++ dktJ25_resize_10
def dkwJ25_resize_8 : List UInt8 := [21, 4, 4, 100, 126, 25, 8, 83, 167, 0, 152, 25, 8, 193, 0, 180, 153, 0, 20, 25, 8, 192, 0, 180]
abbrev dktJ25_resize_8 : List UInt8 := dkwJ25_resize_8 ++ dktJ25_resize_9
def dkwJ25_resize_7 : List UInt8 := [198, 0, 183, 43, 21, 7, 1, 83, 25, 8, 180, 0, 177, 199, 0, 21, 25, 6, 25, 8, 180, 0, 168]
abbrev dktJ25_resize_7 : List UInt8 := dkwJ25_resize_7 ++ dktJ25_resize_8
def dkwJ25_resize_6 : List UInt8 := [181, 0, 105, 43, 198, 0, 208, 3, 54, 7, 21, 7, 28, 162, 0, 199, 43, 21, 7, 50, 89, 58, 8]
abbrev dktJ25_resize_6 : List UInt8 := dkwJ25_resize_6 ++ dktJ25_resize_7
def dkwJ25_resize_5 : List UInt8 := [167, 0, 5, 18, 209, 54, 5, 42, 21, 5, 181, 0, 88, 21, 4, 189, 0, 163, 58, 6, 42, 25, 6]
abbrev dktJ25_resize_5 : List UInt8 := dkwJ25_resize_5 ++ dktJ25_resize_6
def dkwJ25_resize_4 : List UInt8 := [180, 0, 81, 106, 56, 6, 21, 4, 18, 42, 162, 0, 17, 23, 6, 18, 210, 150, 156, 0, 9, 23, 6, 139]
abbrev dktJ25_resize_4 : List UInt8 := dkwJ25_resize_4 ++ dktJ25_resize_5
def dkwJ25_resize_3 : List UInt8 := [54, 4, 167, 0, 11, 16, 16, 54, 4, 16, 12, 54, 5, 21, 5, 154, 0, 38, 21, 4, 134, 42]
abbrev dktJ25_resize_3 : List UInt8 := dkwJ25_resize_3 ++ dktJ25_resize_4
def dkwJ25_resize_2 : List UInt8 := [18, 42, 162, 0, 35, 28, 16, 16, 161, 0, 29, 29, 4, 120, 54, 5, 167, 0, 21, 29, 158, 0, 9, 29]
abbrev dktJ25_resize_2 : List UInt8 := dkwJ25_resize_2 ++ dktJ25_resize_3
def dkwJ25_resize_1 : List UInt8 := [28, 158, 0, 42, 28, 18, 42, 161, 0, 11, 42, 18, 209, 181, 0, 88, 43, 176, 28, 4, 120, 89, 54, 4]
abbrev dktJ25_resize_1 : List UInt8 := dkwJ25_resize_1 ++ dktJ25_resize_2
def dkwJ25_resize_0 : List UInt8 := [42, 180, 0, 105, 76, 43, 199, 0, 7, 3, 167, 0, 5, 43, 190, 61, 42, 180, 0, 88, 62, 3, 54, 5]
abbrev dktJ25_resize_0 : List UInt8 := dkwJ25_resize_0 ++ dktJ25_resize_1
theorem dksJ25_resize_0 : cJ25_resize.data.toList.drop 0 = dktJ25_resize_0 := by decide +kernel
theorem dksJ25_resize_1 : cJ25_resize.data.toList.drop 24 = dktJ25_resize_1 := dk_seg dksJ25_resize_0 24 rfl rfl
theorem dksJ25_resize_2 : cJ25_resize.data.toList.drop 48 = dktJ25_resize_2 := dk_seg dksJ25_resize_1 24 rfl rfl
theorem dksJ25_resize_3 : cJ25_resize.data.toList.drop 72 = dktJ25_resize_3 := dk_seg dksJ25_resize_2 24 rfl rfl
theorem dksJ25_resize_4 : cJ25_resize.data.toList.drop 94 = dktJ25_resize_4 := dk_seg dksJ25_resize_3 22 rfl rfl
theorem dksJ25_resize_5 : cJ25_resize.data.toList.drop 118 = dktJ25_resize_5 := dk_seg dksJ25_resize_4 24 rfl rfl
theorem dksJ25_resize_6 : cJ25_resize.data.toList.drop 141 = dktJ25_resize_6 := dk_seg dksJ25_resize_5 23 rfl rfl
theorem dksJ25_resize_7 : cJ25_resize.data.toList.drop 164 = dktJ25_resize_7 := dk_seg dksJ25_resize_6 23 rfl rfl
theorem dksJ25_resize_8 : cJ25_resize.data.toList.drop 187 = dktJ25_resize_8 := dk_seg dksJ25_resize_7 23 rfl rfl
theorem dksJ25_resize_9 : cJ25_resize.data.toList.drop 211 = dktJ25_resize_9 := dk_seg dksJ25_resize_8 24 rfl rfl
theorem dksJ25_resize_10 : cJ25_resize.data.toList.drop 235 = dktJ25_resize_10 := dk_seg dksJ25_resize_9 24 rfl rfl
theorem dksJ25_resize_11 : cJ25_resize.data.toList.drop 259 = dktJ25_resize_11 := dk_seg dksJ25_resize_10 24 rfl rfl
theorem dksJ25_resize_12 : cJ25_resize.data.toList.drop 283 = dktJ25_resize_12 := dk_seg dksJ25_resize_11 24 rfl rfl
theorem dksJ25_resize_13 : cJ25_resize.data.toList.drop 306 = dktJ25_resize_13 := dk_seg dksJ25_resize_12 23 rfl rfl
theorem dksJ25_resize_14 : cJ25_resize.data.toList.drop 329 = dktJ25_resize_14 := dk_seg dksJ25_resize_13 23 rfl rfl
theorem dksJ25_resize_15 : cJ25_resize.data.toList.drop 353 = dktJ25_resize_15 := dk_seg dksJ25_resize_14 24 rfl rfl
theorem dJ25_resize_0 : decode cJ25_resize 0 = .ok (.aload_n 0, 1) := dk_42 (dk_at dksJ25_resize_0 0 rfl rfl)
theorem dJ25_resize_1 : decode cJ25_resize 1 = .ok (.getfield 105, 3) := dk_180 0 105 (dk_at dksJ25_resize_0 1 rfl rfl)
theorem dJ25_resize_4 : decode cJ25_resize 4 = .ok (.astore_n 1, 1) := dk_76 (dk_at dksJ25_resize_0 4 rfl rfl)
theorem dJ25_resize_5 : decode cJ25_resize 5 = .ok (.aload_n 1, 1) := dk_43 (dk_at dksJ25_resize_0 5 rfl rfl)
theorem dJ25_resize_6 : decode cJ25_resize 6 = .ok (.ifnonnull 7, 3) := dk_199 0 7 (dk_at dksJ25_resize_0 6 rfl rfl)
theorem dJ25_resize_13 : decode cJ25_resize 13 = .ok (.aload_n 1, 1) := dk_43 (dk_at dksJ25_resize_0 13 rfl rfl)
theorem dJ25_resize_14 : decode cJ25_resize 14 = .ok (.arraylength, 1) := dk_190 (dk_at dksJ25_resize_0 14 rfl rfl)
theorem dJ25_resize_15 : decode cJ25_resize 15 = .ok (.istore_n 2, 1) := dk_61 (dk_at dksJ25_resize_0 15 rfl rfl)
theorem dJ25_resize_16 : decode cJ25_resize 16 = .ok (.aload_n 0, 1) := dk_42 (dk_at dksJ25_resize_0 16 rfl rfl)
theorem dJ25_resize_17 : decode cJ25_resize 17 = .ok (.getfield 88, 3) := dk_180 0 88 (dk_at dksJ25_resize_0 17 rfl rfl)
theorem dJ25_resize_20 : decode cJ25_resize 20 = .ok (.istore_n 3, 1) := dk_62 (dk_at dksJ25_resize_0 20 rfl rfl)
theorem dJ25_resize_21 : decode cJ25_resize 21 = .ok (.iconst 0, 1) := dk_3 (dk_at dksJ25_resize_0 21 rfl rfl)
theorem dJ25_resize_22 : decode cJ25_resize 22 = .ok (.istore 5, 2) := dk_54 5 (dk_at dksJ25_resize_0 22 rfl rfl)
theorem dJ25_resize_24 : decode cJ25_resize 24 = .ok (.iload_n 2, 1) := dk_28 (dk_at dksJ25_resize_1 0 rfl rfl)
theorem dJ25_resize_25 : decode cJ25_resize 25 = .ok (.ifCond .le 42, 3) := dk_158 0 42 (dk_at dksJ25_resize_1 1 rfl rfl)
theorem dJ25_resize_28 : decode cJ25_resize 28 = .ok (.iload_n 2, 1) := dk_28 (dk_at dksJ25_resize_1 4 rfl rfl)
theorem dJ25_resize_29 : decode cJ25_resize 29 = .ok (.ldc 42, 2) := dk_18 42 (dk_at dksJ25_resize_1 5 rfl rfl)
theorem dJ25_resize_31 : decode cJ25_resize 31 = .ok (.if_icmp .lt 11, 3) := dk_161 0 11 (dk_at dksJ25_resize_1 7 rfl rfl)
theorem dJ25_resize_42 : decode cJ25_resize 42 = .ok (.iload_n 2, 1) := dk_28 (dk_at dksJ25_resize_1 18 rfl rfl)
theorem dJ25_resize_43 : decode cJ25_resize 43 = .ok (.iconst 1, 1) := dk_4 (dk_at dksJ25_resize_1 19 rfl rfl)
theorem dJ25_resize_44 : decode cJ25_resize 44 = .ok (.ishl, 1) := dk_120 (dk_at dksJ25_resize_1 20 rfl rfl)
theorem dJ25_resize_45 : decode cJ25_resize 45 = .ok (.dup, 1) := dk_89 (dk_at dksJ25_resize_1 21 rfl rfl)
theorem dJ25_resize_46 : decode cJ25_resize 46 = .ok (.istore 4, 2) := dk_54 4 (dk_at dksJ25_resize_1 22 rfl rfl)
theorem dJ25_resize_48 : decode cJ25_resize 48 = .ok (.ldc 42, 2) := dk_18 42 (dk_at dksJ25_resize_2 0 rfl rfl)
theorem dJ25_resize_50 : decode cJ25_resize 50 = .ok (.if_icmp .ge 35, 3) := dk_162 0 35 (dk_at dksJ25_resize_2 2 rfl rfl)
theorem dJ25_resize_53 : decode cJ25_resize 53 = .ok (.iload_n 2, 1) := dk_28 (dk_at dksJ25_resize_2 5 rfl rfl)
theorem dJ25_resize_54 : decode cJ25_resize 54 = .ok (.bipush 16, 2) := dk_16 16 (dk_at dksJ25_resize_2 6 rfl rfl)
theorem dJ25_resize_56 : decode cJ25_resize 56 = .ok (.if_icmp .lt 29, 3) := dk_161 0 29 (dk_at dksJ25_resize_2 8 rfl rfl)
theorem dJ25_resize_59 : decode cJ25_resize 59 = .ok (.iload_n 3, 1) := dk_29 (dk_at dksJ25_resize_2 11 rfl rfl)
theorem dJ25_resize_60 : decode cJ25_resize 60 = .ok (.iconst 1, 1) := dk_4 (dk_at dksJ25_resize_2 12 rfl rfl)
theorem dJ25_resize_61 : decode cJ25_resize 61 = .ok (.ishl, 1) := dk_120 (dk_at dksJ25_resize_2 13 rfl rfl)
theorem dJ25_resize_62 : decode cJ25_resize 62 = .ok (.istore 5, 2) := dk_54 5 (dk_at dksJ25_resize_2 14 rfl rfl)
theorem dJ25_resize_64 : decode cJ25_resize 64 = .ok (.goto 21, 3) := dk_167 0 21 (dk_at dksJ25_resize_2 16 rfl rfl)
theorem dJ25_resize_85 : decode cJ25_resize 85 = .ok (.iload 5, 2) := dk_21 5 (dk_at dksJ25_resize_3 13 rfl rfl)
theorem dJ25_resize_87 : decode cJ25_resize 87 = .ok (.ifCond .ne 38, 3) := dk_154 0 38 (dk_at dksJ25_resize_3 15 rfl rfl)
theorem dJ25_resize_125 : decode cJ25_resize 125 = .ok (.aload_n 0, 1) := dk_42 (dk_at dksJ25_resize_5 7 rfl rfl)
theorem dJ25_resize_126 : decode cJ25_resize 126 = .ok (.iload 5, 2) := dk_21 5 (dk_at dksJ25_resize_5 8 rfl rfl)
theorem dJ25_resize_128 : decode cJ25_resize 128 = .ok (.putfield 88, 3) := dk_181 0 88 (dk_at dksJ25_resize_5 10 rfl rfl)
theorem dJ25_resize_131 : decode cJ25_resize 131 = .ok (.iload 4, 2) := dk_21 4 (dk_at dksJ25_resize_5 13 rfl rfl)
theorem dJ25_resize_133 : decode cJ25_resize 133 = .ok (.anewarray 163, 3) := dk_189 0 163 (dk_at dksJ25_resize_5 15 rfl rfl)
theorem dJ25_resize_136 : decode cJ25_resize 136 = .ok (.astore 6, 2) := dk_58 6 (dk_at dksJ25_resize_5 18 rfl rfl)
theorem dJ25_resize_138 : decode cJ25_resize 138 = .ok (.aload_n 0, 1) := dk_42 (dk_at dksJ25_resize_5 20 rfl rfl)
theorem dJ25_resize_139 : decode cJ25_resize 139 = .ok (.aload 6, 2) := dk_25 6 (dk_at dksJ25_resize_5 21 rfl rfl)
theorem dJ25_resize_141 : decode cJ25_resize 141 = .ok (.putfield 105, 3) := dk_181 0 105 (dk_at dksJ25_resize_6 0 rfl rfl)
theorem dJ25_resize_144 : decode cJ25_resize 144 = .ok (.aload_n 1, 1) := dk_43 (dk_at dksJ25_resize_6 3 rfl rfl)
theorem dJ25_resize_145 : decode cJ25_resize 145 = .ok (.ifnull 208, 3) := dk_198 0 208 (dk_at dksJ25_resize_6 4 rfl rfl)
theorem dJ25_resize_148 : decode cJ25_resize 148 = .ok (.iconst 0, 1) := dk_3 (dk_at dksJ25_resize_6 7 rfl rfl)
theorem dJ25_resize_149 : decode cJ25_resize 149 = .ok (.istore 7, 2) := dk_54 7 (dk_at dksJ25_resize_6 8 rfl rfl)
theorem dJ25_resize_151 : decode cJ25_resize 151 = .ok (.iload 7, 2) := dk_21 7 (dk_at dksJ25_resize_6 10 rfl rfl)
theorem dJ25_resize_153 : decode cJ25_resize 153 = .ok (.iload_n 2, 1) := dk_28 (dk_at dksJ25_resize_6 12 rfl rfl)
theorem dJ25_resize_154 : decode cJ25_resize 154 = .ok (.if_icmp .ge 199, 3) := dk_162 0 199 (dk_at dksJ25_resize_6 13 rfl rfl)
theorem dJ25_resize_157 : decode cJ25_resize 157 = .ok (.aload_n 1, 1) := dk_43 (dk_at dksJ25_resize_6 16 rfl rfl)
theorem dJ25_resize_158 : decode cJ25_resize 158 = .ok (.iload 7, 2) := dk_21 7 (dk_at dksJ25_resize_6 17 rfl rfl)
theorem dJ25_resize_160 : decode cJ25_resize 160 = .ok (.aaload, 1) := dk_50 (dk_at dksJ25_resize_6 19 rfl rfl)
theorem dJ25_resize_161 : decode cJ25_resize 161 = .ok (.dup, 1) := dk_89 (dk_at dksJ25_resize_6 20 rfl rfl)
theorem dJ25_resize_162 : decode cJ25_resize 162 = .ok (.astore 8, 2) := dk_58 8 (dk_at dksJ25_resize_6 21 rfl rfl)
theorem dJ25_resize_164 : decode cJ25_resize 164 = .ok (.ifnull 183, 3) := dk_198 0 183 (dk_at dksJ25_resize_7 0 rfl rfl)
theorem dJ25_resize_167 : decode cJ25_resize 167 = .ok (.aload_n 1, 1) := dk_43 (dk_at dksJ25_resize_7 3 rfl rfl)
theorem dJ25_resize_168 : decode cJ25_resize 168 = .ok (.iload 7, 2) := dk_21 7 (dk_at dksJ25_resize_7 4 rfl rfl)
theorem dJ25_resize_170 : decode cJ25_resize 170 = .ok (.aconst_null, 1) := dk_1 (dk_at dksJ25_resize_7 6 rfl rfl)
theorem dJ25_resize_171 : decode cJ25_resize 171 = .ok (.aastore, 1) := dk_83 (dk_at dksJ25_resize_7 7 rfl rfl)
theorem dJ25_resize_172 : decode cJ25_resize 172 = .ok (.aload 8, 2) := dk_25 8 (dk_at dksJ25_resize_7 8 rfl rfl)
theorem dJ25_resize_174 : decode cJ25_resize 174 = .ok (.getfield 177, 3) := dk_180 0 177 (dk_at dksJ25_resize_7 10 rfl rfl)
theorem dJ25_resize_177 : decode cJ25_resize 177 = .ok (.ifnonnull 21, 3) := dk_199 0 21 (dk_at dksJ25_resize_7 13 rfl rfl)
theorem dJ25_resize_180 : decode cJ25_resize 180 = .ok (.aload 6, 2) := dk_25 6 (dk_at dksJ25_resize_7 16 rfl rfl)
theorem dJ25_resize_182 : decode cJ25_resize 182 = .ok (.aload 8, 2) := dk_25 8 (dk_at dksJ25_resize_7 18 rfl rfl)
theorem dJ25_resize_184 : decode cJ25_resize 184 = .ok (.getfield 168, 3) := dk_180 0 168 (dk_at dksJ25_resize_7 20 rfl rfl)
theorem dJ25_resize_187 : decode cJ25_resize 187 = .ok (.iload 4, 2) := dk_21 4 (dk_at dksJ25_resize_8 0 rfl rfl)
theorem dJ25_resize_189 : decode cJ25_resize 189 = .ok (.iconst 1, 1) := dk_4 (dk_at dksJ25_resize_8 2 rfl rfl)
theorem dJ25_resize_190 : decode cJ25_resize 190 = .ok (.isub, 1) := dk_100 (dk_at dksJ25_resize_8 3 rfl rfl)
theorem dJ25_resize_191 : decode cJ25_resize 191 = .ok (.iand, 1) := dk_126 (dk_at dksJ25_resize_8 4 rfl rfl)
theorem dJ25_resize_192 : decode cJ25_resize 192 = .ok (.aload 8, 2) := dk_25 8 (dk_at dksJ25_resize_8 5 rfl rfl)
theorem dJ25_resize_194 : decode cJ25_resize 194 = .ok (.aastore, 1) := dk_83 (dk_at dksJ25_resize_8 7 rfl rfl)
theorem dJ25_resize_195 : decode cJ25_resize 195 = .ok (.goto 152, 3) := dk_167 0 152 (dk_at dksJ25_resize_8 8 rfl rfl)
theorem dJ25_resize_198 : decode cJ25_resize 198 = .ok (.aload 8, 2) := dk_25 8 (dk_at dksJ25_resize_8 11 rfl rfl)
theorem dJ25_resize_200 : decode cJ25_resize 200 = .ok (.instanceof 180, 3) := dk_193 0 180 (dk_at dksJ25_resize_8 13 rfl rfl)
theorem dJ25_resize_203 : decode cJ25_resize 203 = .ok (.ifCond .eq 20, 3) := dk_153 0 20 (dk_at dksJ25_resize_8 16 rfl rfl)
theorem dJ25_resize_223 : decode cJ25_resize 223 = .ok (.aconst_null, 1) := dk_1 (dk_at dksJ25_resize_9 12 rfl rfl)
theorem dJ25_resize_224 : decode cJ25_resize 224 = .ok (.astore 9, 2) := dk_58 9 (dk_at dksJ25_resize_9 13 rfl rfl)
theorem dJ25_resize_226 : decode cJ25_resize 226 = .ok (.aconst_null, 1) := dk_1 (dk_at dksJ25_resize_9 15 rfl rfl)
theorem dJ25_resize_227 : decode cJ25_resize 227 = .ok (.astore 10, 2) := dk_58 10 (dk_at dksJ25_resize_9 16 rfl rfl)
theorem dJ25_resize_229 : decode cJ25_resize 229 = .ok (.aconst_null, 1) := dk_1 (dk_at dksJ25_resize_9 18 rfl rfl)
theorem dJ25_resize_230 : decode cJ25_resize 230 = .ok (.astore 11, 2) := dk_58 11 (dk_at dksJ25_resize_9 19 rfl rfl)
theorem dJ25_resize_232 : decode cJ25_resize 232 = .ok (.aconst_null, 1) := dk_1 (dk_at dksJ25_resize_9 21 rfl rfl)
theorem dJ25_resize_233 : decode cJ25_resize 233 = .ok (.astore 12, 2) := dk_58 12 (dk_at dksJ25_resize_9 22 rfl rfl)
theorem dJ25_resize_235 : decode cJ25_resize 235 = .ok (.aload 8, 2) := dk_25 8 (dk_at dksJ25_resize_10 0 rfl rfl)
theorem dJ25_resize_237 : decode cJ25_resize 237 = .ok (.getfield 177, 3) := dk_180 0 177 (dk_at dksJ25_resize_10 2 rfl rfl)
theorem dJ25_resize_240 : decode cJ25_resize 240 = .ok (.astore 13, 2) := dk_58 13 (dk_at dksJ25_resize_10 5 rfl rfl)
theorem dJ25_resize_242 : decode cJ25_resize 242 = .ok (.aload 8, 2) := dk_25 8 (dk_at dksJ25_resize_10 7 rfl rfl)
theorem dJ25_resize_244 : decode cJ25_resize 244 = .ok (.getfield 168, 3) := dk_180 0 168 (dk_at dksJ25_resize_10 9 rfl rfl)
theorem dJ25_resize_247 : decode cJ25_resize 247 = .ok (.iload_n 2, 1) := dk_28 (dk_at dksJ25_resize_10 12 rfl rfl)
theorem dJ25_resize_248 : decode cJ25_resize 248 = .ok (.iand, 1) := dk_126 (dk_at dksJ25_resize_10 13 rfl rfl)
theorem dJ25_resize_249 : decode cJ25_resize 249 = .ok (.ifCond .ne 29, 3) := dk_154 0 29 (dk_at dksJ25_resize_10 14 rfl rfl)
theorem dJ25_resize_252 : decode cJ25_resize 252 = .ok (.aload 10, 2) := dk_25 10 (dk_at dksJ25_resize_10 17 rfl rfl)
theorem dJ25_resize_254 : decode cJ25_resize 254 = .ok (.ifnonnull 10, 3) := dk_199 0 10 (dk_at dksJ25_resize_10 19 rfl rfl)
theorem dJ25_resize_257 : decode cJ25_resize 257 = .ok (.aload 8, 2) := dk_25 8 (dk_at dksJ25_resize_10 22 rfl rfl)
theorem dJ25_resize_259 : decode cJ25_resize 259 = .ok (.astore 9, 2) := dk_58 9 (dk_at dksJ25_resize_11 0 rfl rfl)
theorem dJ25_resize_261 : decode cJ25_resize 261 = .ok (.goto 10, 3) := dk_167 0 10 (dk_at dksJ25_resize_11 2 rfl rfl)
theorem dJ25_resize_264 : decode cJ25_resize 264 = .ok (.aload 10, 2) := dk_25 10 (dk_at dksJ25_resize_11 5 rfl rfl)
theorem dJ25_resize_266 : decode cJ25_resize 266 = .ok (.aload 8, 2) := dk_25 8 (dk_at dksJ25_resize_11 7 rfl rfl)
theorem dJ25_resize_268 : decode cJ25_resize 268 = .ok (.putfield 177, 3) := dk_181 0 177 (dk_at dksJ25_resize_11 9 rfl rfl)
theorem dJ25_resize_271 : decode cJ25_resize 271 = .ok (.aload 8, 2) := dk_25 8 (dk_at dksJ25_resize_11 12 rfl rfl)
theorem dJ25_resize_273 : decode cJ25_resize 273 = .ok (.astore 10, 2) := dk_58 10 (dk_at dksJ25_resize_11 14 rfl rfl)
theorem dJ25_resize_275 : decode cJ25_resize 275 = .ok (.goto 26, 3) := dk_167 0 26 (dk_at dksJ25_resize_11 16 rfl rfl)
theorem dJ25_resize_278 : decode cJ25_resize 278 = .ok (.aload 12, 2) := dk_25 12 (dk_at dksJ25_resize_11 19 rfl rfl)
theorem dJ25_resize_280 : decode cJ25_resize 280 = .ok (.ifnonnull 10, 3) := dk_199 0 10 (dk_at dksJ25_resize_11 21 rfl rfl)
theorem dJ25_resize_283 : decode cJ25_resize 283 = .ok (.aload 8, 2) := dk_25 8 (dk_at dksJ25_resize_12 0 rfl rfl)
theorem dJ25_resize_285 : decode cJ25_resize 285 = .ok (.astore 11, 2) := dk_58 11 (dk_at dksJ25_resize_12 2 rfl rfl)
theorem dJ25_resize_287 : decode cJ25_resize 287 = .ok (.goto 10, 3) := dk_167 0 10 (dk_at dksJ25_resize_12 4 rfl rfl)
theorem dJ25_resize_290 : decode cJ25_resize 290 = .ok (.aload 12, 2) := dk_25 12 (dk_at dksJ25_resize_12 7 rfl rfl)
theorem dJ25_resize_292 : decode cJ25_resize 292 = .ok (.aload 8, 2) := dk_25 8 (dk_at dksJ25_resize_12 9 rfl rfl)
theorem dJ25_resize_294 : decode cJ25_resize 294 = .ok (.putfield 177, 3) := dk_181 0 177 (dk_at dksJ25_resize_12 11 rfl rfl)
theorem dJ25_resize_297 : decode cJ25_resize 297 = .ok (.aload 8, 2) := dk_25 8 (dk_at dksJ25_resize_12 14 rfl rfl)
theorem dJ25_resize_299 : decode cJ25_resize 299 = .ok (.astore 12, 2) := dk_58 12 (dk_at dksJ25_resize_12 16 rfl rfl)
theorem dJ25_resize_301 : decode cJ25_resize 301 = .ok (.aload 13, 2) := dk_25 13 (dk_at dksJ25_resize_12 18 rfl rfl)
theorem dJ25_resize_303 : decode cJ25_resize 303 = .ok (.dup, 1) := dk_89 (dk_at dksJ25_resize_12 20 rfl rfl)
theorem dJ25_resize_304 : decode cJ25_resize 304 = .ok (.astore 8, 2) := dk_58 8 (dk_at dksJ25_resize_12 21 rfl rfl)
theorem dJ25_resize_306 : decode cJ25_resize 306 = .ok (.ifnonnull (-71), 3) := dk_199 255 185 (dk_at dksJ25_resize_13 0 rfl rfl)
theorem dJ25_resize_309 : decode cJ25_resize 309 = .ok (.aload 10, 2) := dk_25 10 (dk_at dksJ25_resize_13 3 rfl rfl)
theorem dJ25_resize_311 : decode cJ25_resize 311 = .ok (.ifnull 16, 3) := dk_198 0 16 (dk_at dksJ25_resize_13 5 rfl rfl)
theorem dJ25_resize_314 : decode cJ25_resize 314 = .ok (.aload 10, 2) := dk_25 10 (dk_at dksJ25_resize_13 8 rfl rfl)
theorem dJ25_resize_316 : decode cJ25_resize 316 = .ok (.aconst_null, 1) := dk_1 (dk_at dksJ25_resize_13 10 rfl rfl)
theorem dJ25_resize_317 : decode cJ25_resize 317 = .ok (.putfield 177, 3) := dk_181 0 177 (dk_at dksJ25_resize_13 11 rfl rfl)
theorem dJ25_resize_320 : decode cJ25_resize 320 = .ok (.aload 6, 2) := dk_25 6 (dk_at dksJ25_resize_13 14 rfl rfl)
theorem dJ25_resize_322 : decode cJ25_resize 322 = .ok (.iload 7, 2) := dk_21 7 (dk_at dksJ25_resize_13 16 rfl rfl)
theorem dJ25_resize_324 : decode cJ25_resize 324 = .ok (.aload 9, 2) := dk_25 9 (dk_at dksJ25_resize_13 18 rfl rfl)
theorem dJ25_resize_326 : decode cJ25_resize 326 = .ok (.aastore, 1) := dk_83 (dk_at dksJ25_resize_13 20 rfl rfl)
theorem dJ25_resize_327 : decode cJ25_resize 327 = .ok (.aload 12, 2) := dk_25 12 (dk_at dksJ25_resize_13 21 rfl rfl)
theorem dJ25_resize_329 : decode cJ25_resize 329 = .ok (.ifnull 18, 3) := dk_198 0 18 (dk_at dksJ25_resize_14 0 rfl rfl)
theorem dJ25_resize_332 : decode cJ25_resize 332 = .ok (.aload 12, 2) := dk_25 12 (dk_at dksJ25_resize_14 3 rfl rfl)
theorem dJ25_resize_334 : decode cJ25_resize 334 = .ok (.aconst_null, 1) := dk_1 (dk_at dksJ25_resize_14 5 rfl rfl)
theorem dJ25_resize_335 : decode cJ25_resize 335 = .ok (.putfield 177, 3) := dk_181 0 177 (dk_at dksJ25_resize_14 6 rfl rfl)
theorem dJ25_resize_338 : decode cJ25_resize 338 = .ok (.aload 6, 2) := dk_25 6 (dk_at dksJ25_resize_14 9 rfl rfl)
theorem dJ25_resize_340 : decode cJ25_resize 340 = .ok (.iload 7, 2) := dk_21 7 (dk_at dksJ25_resize_14 11 rfl rfl)
theorem dJ25_resize_342 : decode cJ25_resize 342 = .ok (.iload_n 2, 1) := dk_28 (dk_at dksJ25_resize_14 13 rfl rfl)
theorem dJ25_resize_343 : decode cJ25_resize 343 = .ok (.iadd, 1) := dk_96 (dk_at dksJ25_resize_14 14 rfl rfl)
theorem dJ25_resize_344 : decode cJ25_resize 344 = .ok (.aload 11, 2) := dk_25 11 (dk_at dksJ25_resize_14 15 rfl rfl)
theorem dJ25_resize_346 : decode cJ25_resize 346 = .ok (.aastore, 1) := dk_83 (dk_at dksJ25_resize_14 17 rfl rfl)
theorem dJ25_resize_347 : decode cJ25_resize 347 = .ok (.iinc 7 1, 3) := dk_132 7 1 (dk_at dksJ25_resize_14 18 rfl rfl)
theorem dJ25_resize_350 : decode cJ25_resize 350 = .ok (.goto (-199), 3) := dk_167 255 57 (dk_at dksJ25_resize_14 21 rfl rfl)
theorem dJ25_resize_353 : decode cJ25_resize 353 = .ok (.aload 6, 2) := dk_25 6 (dk_at dksJ25_resize_15 0 rfl rfl)
theorem dJ25_resize_355 : decode cJ25_resize 355 = .ok (.areturn, 1) := dk_176 (dk_at dksJ25_resize_15 2 rfl rfl)
theorem q1091 : (Jvm.Cond.fieldLink "java/util/HashMap" (88 : Nat) "java/util/HashMap" "threshold" "I") ∈ lw_all := lw_g (lw_at lw_m5 69 rfl) rfl
theorem q1483 : (Jvm.Cond.constant "java/util/HashMap" (42 : Nat) (1073741824 : Int32)) ∈ lw_all := lw_g (lw_at lw_m6 221 rfl) rfl
theorem q1487 : (Jvm.Cond.arrayOver (Jvm.ClassFile.FieldType.object "java/util/HashMap$Node")) ∈ lw_tbl := lw_at lw_m6 225 rfl
theorem nodup_inj {α β : Type} {f : α → β} : ∀ {l : List α}, (l.map f).Nodup → ∀ {a b : α}, a ∈ l → b ∈ l → f a = f b → a = b := by
  intro l
  induction l with
  | nil => intro _ a b h; cases h
  | cons x r ih =>
    intro h a b ha hb e
    rw [List.map_cons, List.nodup_cons] at h
    rcases List.mem_cons.mp ha with g | g <;> rcases List.mem_cons.mp hb with k | k
    · rw [g, k]
    · exact absurd (List.mem_map_of_mem (f := f) k) (by rw [← e, g]; exact h.1)
    · exact absurd (List.mem_map_of_mem (f := f) g) (by rw [e, k]; exact h.1)
    · exact ih h.2 g k e
theorem chn.keep {g g1 : zH} {S : List Nat} (k : zkeep g g1 S) : ∀ {l : List zEn} {v : Value}, chn g v l → (∀ e ∈ l, e.n ∉ S) → chn g1 v l := by
  intro l
  induction l with
  | nil => intro v h _; exact h
  | cons a r ih =>
    intro v h hs
    obtain ⟨h1, nx, h2, h3⟩ := h
    exact ⟨h1, nx, k.n h2 (hs a List.mem_cons_self), ih h3 fun e he => hs e (List.mem_cons_of_mem _ he)⟩
/-- a chain, the last node's link open -/
def sg (h : zH) : Value → List zEn → Prop
  | _, [] => True
  | v, e :: r => v = .ref e.n ∧ ∃ nx, nAt h e nx ∧ sg h nx r
theorem sg.keep {g g1 : zH} {S : List Nat} (k : zkeep g g1 S) : ∀ {l : List zEn} {v : Value}, sg g v l → (∀ e ∈ l, e.n ∉ S) → sg g1 v l := by
  intro l
  induction l with
  | nil => intro v h _; exact trivial
  | cons a r ih =>
    intro v h hs
    obtain ⟨h1, nx, h2, h3⟩ := h
    exact ⟨h1, nx, k.n h2 (hs a List.mem_cons_self), ih h3 fun e he => hs e (List.mem_cons_of_mem _ he)⟩
theorem sg.app {g g1 : zH} {z x : zEn} (k : zkeep g g1 [z.n]) (hz : nAt g1 z (.ref x.n)) (hx : ∃ nx, nAt g1 x nx) : ∀ {l : List zEn} {v : Value}, sg g v (l ++ [z]) → (∀ e ∈ l, e.n ≠ z.n) → sg g1 v (l ++ [z] ++ [x]) := by
  intro l
  induction l with
  | nil =>
    intro v h _
    obtain ⟨h1, nx, h2, h3⟩ := h
    obtain ⟨ny, hy⟩ := hx
    exact ⟨h1, _, hz, rfl, ny, hy, trivial⟩
  | cons a r ih =>
    intro v h hs
    obtain ⟨h1, nx, h2, h3⟩ := h
    exact ⟨h1, nx, k.n h2 (by simpa using hs a List.mem_cons_self), ih h3 fun e he => hs e (List.mem_cons_of_mem _ he)⟩
theorem sg.close {g g1 : zH} {z : zEn} (k : zkeep g g1 [z.n]) (hz : nAt g1 z .null) : ∀ {l : List zEn} {v : Value}, sg g v (l ++ [z]) → (∀ e ∈ l, e.n ≠ z.n) → chn g1 v (l ++ [z]) := by
  intro l
  induction l with
  | nil =>
    intro v h _
    obtain ⟨h1, nx, h2, h3⟩ := h
    exact ⟨h1, _, hz, rfl⟩
  | cons a r ih =>
    intro v h hs
    obtain ⟨h1, nx, h2, h3⟩ := h
    exact ⟨h1, nx, k.n h2 (by simpa using hs a List.mem_cons_self), ih h3 fun e he => hs e (List.mem_cons_of_mem _ he)⟩
theorem sg.hd {g : zH} {v : Value} {l : List zEn} {z : zEn} (h : sg g v (l ++ [z])) : ∃ a ∈ l ++ [z], v = .ref a.n := by
  cases l with
  | nil => exact ⟨z, by simp, h.1⟩
  | cons a r => exact ⟨a, by simp, h.1⟩
def os (g : zH) (hd tl : Value) (l : List zEn) : Prop := (l = [] ∧ hd = .null ∧ tl = .null) ∨ ∃ l' z, l = l' ++ [z] ∧ tl = .ref z.n ∧ sg g hd l
theorem os.keep {g g1 : zH} {S : List Nat} (k : zkeep g g1 S) {hd tl : Value} {l : List zEn} (h : os g hd tl l) (hs : ∀ e ∈ l, e.n ∉ S) : os g1 hd tl l := by
  rcases h with h | ⟨l', z, h1, h2, h3⟩
  · exact Or.inl h
  · exact Or.inr ⟨l', z, h1, h2, h3.keep k hs⟩
abbrev lob (cap : Nat) (e : zEn) : Prop := e.c.toNat / cap % 2 = 0
def fl (cap : Nat) (l : List zEn) : List zEn := l.filter (fun e => decide (lob cap e))
def fh (cap : Nat) (l : List zEn) : List zEn := l.filter (fun e => !decide (lob cap e))
theorem bin_lo {cap i : Nat} {es : List zEn} (hc : cap = 16 ∨ cap = 32) (hi : i < cap) : bin (2 * cap) i es = fl cap (bin cap i es) := by
  unfold bin fl
  rw [List.filter_filter]
  refine List.filter_congr fun e _ => ?_
  rw [Bool.eq_iff_iff]
  simp only [beq_iff_eq, Bool.and_eq_true, decide_eq_true_eq, lob]
  rcases hc with e | e <;> subst e <;> omega
theorem bin_hi {cap i : Nat} {es : List zEn} (hc : cap = 16 ∨ cap = 32) (hi : i < cap) : bin (2 * cap) (i + cap) es = fh cap (bin cap i es) := by
  unfold bin fh
  rw [List.filter_filter]
  refine List.filter_congr fun e _ => ?_
  rw [Bool.eq_iff_iff]
  simp only [beq_iff_eq, Bool.and_eq_true, Bool.not_eq_true', decide_eq_false_iff_not, lob]
  rcases hc with e | e <;> subst e <;> omega
def mFp (m tb : Nat) (es : List zEn) : List Nat := m :: tb :: es.map zEn.n
/-- what stands beside the bin at hand while a table grows -/
def rzF (h0 g : zH) (cap i : Nat) (es : List zEn) (M : List Nat) (f0 f1 : Nat → Value) : Prop :=
  (∀ j, i < j → j < cap → chn g (f0 j) (bin cap j es)) ∧ (∀ j, j < i → chn g (f1 j) (bin (2 * cap) j es) ∧ chn g (f1 (j + cap)) (bin (2 * cap) (j + cap) es)) ∧ (∀ e ∈ es, ∃ nx, nAt g e nx) ∧ zkeep h0 g M
def rzJ (h0 g : zH) (cap i : Nat) (es : List zEn) (M : List Nat) (f0 f1 : Nat → Value) : Prop :=
  (∀ j, i ≤ j → j < cap → chn g (f0 j) (bin cap j es)) ∧ (∀ j, j < i → chn g (f1 j) (bin (2 * cap) j es) ∧ chn g (f1 (j + cap)) (bin (2 * cap) (j + cap) es)) ∧ (∀ e ∈ es, ∃ nx, nAt g e nx) ∧ zkeep h0 g M ∧ ∀ j, i ≤ j → j < cap → f1 j = .null ∧ f1 (j + cap) = .null
theorem rzJ.F {h0 g : zH} {cap i : Nat} {es : List zEn} {M : List Nat} {f0 f1 : Nat → Value} (h : rzJ h0 g cap i es M f0 f1) : rzF h0 g cap i es M f0 f1 := ⟨fun j h1 h2 => h.1 j (by omega) h2, h.2.1, h.2.2.1, h.2.2.2.1⟩
/-- a cell that is no node changes -/
theorem rzF.tab {h0 g g1 : zH} {cap i q : Nat} {es : List zEn} {M : List Nat} {f0 f1 : Nat → Value} (h : rzF h0 g cap i es M f0 f1) (k : zkeep g g1 [q]) (hq : q ∈ M ∨ h0 q = none) (hn : ∀ e ∈ es, e.n ≠ q) : rzF h0 g1 cap i es M f0 f1 := by
  obtain ⟨h1, h2, h3, h4⟩ := h
  have hn' : ∀ {n i : Nat}, ∀ e ∈ bin n i es, e.n ∉ [q] := fun e he => by simpa using hn e (bin_m he).1
  refine ⟨fun j a b => (h1 j a b).keep k hn', fun j a => ⟨(h2 j a).1.keep k hn', (h2 j a).2.keep k hn'⟩, fun e he => ?_, zkeep.loc h4 k fun x hx => Or.inl ?_⟩
  · obtain ⟨nx, hx⟩ := h3 e he
    exact ⟨nx, k.n hx (by simpa using hn e he)⟩
  · rw [List.mem_singleton.mp hx]
    exact hq.symm
/-- a node of the bin at hand changes -/
theorem rzF.up {h0 g g1 : zH} {cap i : Nat} {es : List zEn} {M : List Nat} {f0 f1 : Nat → Value} (hi : i < cap) (h : rzF h0 g cap i es M f0 f1) (hnd : (es.map zEn.n).Nodup) (hM : ∀ e ∈ es, e.n ∈ M) {z : zEn} {v : Value} (hz : z ∈ bin cap i es) (k : zkeep g g1 [z.n]) (hv : nAt g1 z v) : rzF h0 g1 cap i es M f0 f1 := by
  obtain ⟨h1, h2, h3, h4⟩ := h
  have hzm := bin_m hz
  have ha : ∀ {n j : Nat}, (∀ e ∈ bin n j es, e ≠ z) → ∀ e ∈ bin n j es, e.n ∉ [z.n] := fun hh e he => by
    intro q
    exact hh e he (nodup_inj hnd (bin_m he).1 hzm.1 (List.mem_singleton.mp q))
  refine ⟨fun j a b => (h1 j a b).keep k (ha fun e he q => ?_), fun j a => ⟨(h2 j a).1.keep k (ha fun e he q => ?_), (h2 j a).2.keep k (ha fun e he q => ?_)⟩, fun e he => ?_, zkeep.loc h4 k fun x hx => Or.inl (Or.inr ?_)⟩
  · have := (bin_m he).2
    rw [q, hzm.2] at this; omega
  · have h5 := (bin_m he).2
    rw [q] at h5
    have := Nat.mod_mul_left_mod z.c.toNat 2 cap
    rw [h5, hzm.2, Nat.mod_eq_of_lt (by omega)] at this
    omega
  · have h5 := (bin_m he).2
    rw [q] at h5
    have := Nat.mod_mul_left_mod z.c.toNat 2 cap
    rw [h5, hzm.2, Nat.add_mod_right, Nat.mod_eq_of_lt (by omega)] at this
    omega
  · by_cases q : e.n = z.n
    · have := nodup_inj hnd he hzm.1 q
      exact ⟨v, this ▸ hv⟩
    · obtain ⟨nx, hx⟩ := h3 e he
      exact ⟨nx, k.n hx (by simpa using q)⟩
  · rw [List.mem_singleton.mp hx]
    exact hM z hzm.1
theorem rzJ.init {h g : zH} {m cap : Nat} {es : List zEn} {f : Nat → Value} {mfs : List Value} {M : List Nat} (hc : ∀ i, i < cap → chn h (f i) (bin cap i es)) (hD : ∀ e ∈ es, ∃ nx, nAt h e nx) (hm : h m = some (true, .inr (14, mfs))) (k : zkeep h g [m]) (hM : m ∈ M) : rzJ h g cap 0 es M f (fun _ => .null) := by
  have hn : ∀ e ∈ es, e.n ∉ [m] := fun e he => by
    obtain ⟨nx, hx⟩ := hD e he
    simpa using zneC hx hm (by decide)
  refine ⟨fun j _ b => (hc j b).keep k fun e he => hn e (bin_m he).1, fun j a => absurd a (Nat.not_lt_zero _), fun e he => ?_, k.mono fun q hq => by rw [List.mem_singleton.mp hq]; exact hM, fun j _ _ => ⟨rfl, rfl⟩⟩
  obtain ⟨nx, hx⟩ := hD e he
  exact ⟨nx, k.n hx (hn e he)⟩
/-- inside a bin: p is dealt out, from cv on xs is still to be -/
def rzI (h0 g : zH) (cap i : Nat) (es : List zEn) (M : List Nat) (f0 f1 : Nat → Value) (p xs : List zEn) (cv a9 a10 a11 a12 : Value) : Prop :=
  rzF h0 g cap i es M f0 f1 ∧ bin cap i es = p ++ xs ∧ chn g cv xs ∧ os g a9 a10 (fl cap p) ∧ os g a11 a12 (fh cap p)
theorem fl_m {cap : Nat} {l : List zEn} {e : zEn} : e ∈ fl cap l ↔ e ∈ l ∧ lob cap e := by unfold fl; rw [List.mem_filter]; simp
theorem fh_m {cap : Nat} {l : List zEn} {e : zEn} : e ∈ fh cap l ↔ e ∈ l ∧ ¬ lob cap e := by unfold fh; rw [List.mem_filter]; simp
theorem fl_y {cap : Nat} {p : List zEn} {x : zEn} (h : lob cap x) : fl cap (p ++ [x]) = fl cap p ++ [x] ∧ fh cap (p ++ [x]) = fh cap p := by
  have e : decide (lob cap x) = true := decide_eq_true h
  unfold fl fh
  simp only [List.filter_append, List.filter_cons, List.filter_nil, e, Bool.not_true, Bool.not_false, Bool.false_eq_true, if_true, if_false, List.append_nil, and_self]
theorem fl_n {cap : Nat} {p : List zEn} {x : zEn} (h : ¬ lob cap x) : fl cap (p ++ [x]) = fl cap p ∧ fh cap (p ++ [x]) = fh cap p ++ [x] := by
  have e : decide (lob cap x) = false := decide_eq_false h
  unfold fl fh
  simp only [List.filter_append, List.filter_cons, List.filter_nil, e, Bool.not_true, Bool.not_false, Bool.false_eq_true, if_true, if_false, List.append_nil, and_self]
section
variable {h0 g : zH} {cap i : Nat} {es : List zEn} {M : List Nat} {f0 f1 : Nat → Value} {p y : List zEn} {x : zEn} {cv a9 a10 a11 a12 : Value}
theorem rzI.lo0 (h : rzI h0 g cap i es M f0 f1 p (x :: y) cv a9 .null a11 a12) (hl : lob cap x) {nx : Value} (hx : nAt g x nx) (hy : chn g nx y) : rzI h0 g cap i es M f0 f1 (p ++ [x]) y nx (.ref x.n) (.ref x.n) a11 a12 := by
  obtain ⟨h1, h2, h3, h4, h5⟩ := h
  refine ⟨h1, by rw [h2]; simp, hy, ?_, by rw [(fl_y hl).2]; exact h5⟩
  rw [(fl_y hl).1]
  rcases h4 with ⟨q, -⟩ | ⟨l', z, -, q, -⟩
  · rw [q]
    exact Or.inr ⟨[], x, rfl, rfl, rfl, nx, hx, trivial⟩
  · cases q
theorem rzI.hi0 (h : rzI h0 g cap i es M f0 f1 p (x :: y) cv a9 a10 a11 .null) (hl : ¬ lob cap x) {nx : Value} (hx : nAt g x nx) (hy : chn g nx y) : rzI h0 g cap i es M f0 f1 (p ++ [x]) y nx a9 a10 (.ref x.n) (.ref x.n) := by
  obtain ⟨h1, h2, h3, h4, h5⟩ := h
  refine ⟨h1, by rw [h2]; simp, hy, by rw [(fl_n hl).1]; exact h4, ?_⟩
  rw [(fl_n hl).2]
  rcases h5 with ⟨q, -⟩ | ⟨l', z, -, q, -⟩
  · rw [q]
    exact Or.inr ⟨[], x, rfl, rfl, rfl, nx, hx, trivial⟩
  · cases q
/-- addresses of the bin are told apart -/
theorem bin_nd (hnd : (es.map zEn.n).Nodup) {p q : List zEn} (hb : bin cap i es = p ++ q) : (∀ e ∈ p, ∀ d ∈ q, e.n ≠ d.n) ∧ (p.map zEn.n).Nodup ∧ (q.map zEn.n).Nodup ∧ (∀ e ∈ p ++ q, e ∈ es) := by
  have h1 : ((p ++ q).map zEn.n).Nodup := by
    rw [← hb]
    exact hnd.sublist (List.Sublist.map _ List.filter_sublist)
  rw [List.map_append, List.nodup_append] at h1
  exact ⟨fun e he d hd => h1.2.2 _ (List.mem_map_of_mem he) _ (List.mem_map_of_mem hd), h1.1, h1.2.1, fun e he => (bin_m (by rw [hb]; exact he)).1⟩
theorem last_ne {l' : List zEn} {z : zEn} {φ : zEn → Bool} {p : List zEn} (hp : (p.map zEn.n).Nodup) (h : p.filter φ = l' ++ [z]) : ∀ e ∈ l', e.n ≠ z.n := by
  have h1 : ((l' ++ [z]).map zEn.n).Nodup := by
    rw [← h]
    exact hp.sublist (List.Sublist.map _ List.filter_sublist)
  rw [List.map_append, List.nodup_append] at h1
  exact fun e he => h1.2.2 _ (List.mem_map_of_mem he) _ (by simp)
theorem rzI.lo1 (hi : i < cap) (hnd : (es.map zEn.n).Nodup) (hM : ∀ e ∈ es, e.n ∈ M) {z : zEn} {l' : List zEn} (h : rzI h0 g cap i es M f0 f1 p (x :: y) cv a9 (.ref z.n) a11 a12) (hz : fl cap p = l' ++ [z]) (hs : sg g a9 (l' ++ [z])) (hl : lob cap x) {nx : Value} (hx : nAt g x nx) (hy : chn g nx y) {g1 : zH} (k : zkeep g g1 [z.n]) (hzn : nAt g1 z (.ref x.n)) : rzI h0 g1 cap i es M f0 f1 (p ++ [x]) y nx a9 (.ref x.n) a11 a12 := by
  obtain ⟨h1, h2, h3, h4, h5⟩ := h
  obtain ⟨b1, b2, b3, b4⟩ := bin_nd hnd h2
  have zp : z ∈ p ∧ lob cap z := fl_m.mp (by rw [hz]; simp)
  refine ⟨h1.up hi hnd hM (by rw [h2]; exact List.mem_append_left _ zp.1) k hzn, by rw [h2]; simp, hy.keep k fun e he => by simpa using Ne.symm (b1 z zp.1 e (List.mem_cons_of_mem _ he)), ?_, ?_⟩
  · rw [(fl_y hl).1, hz]
    exact Or.inr ⟨l' ++ [z], x, rfl, rfl, hs.app k hzn ⟨nx, k.n hx (by simpa using Ne.symm (b1 z zp.1 x List.mem_cons_self))⟩ (last_ne b2 hz)⟩
  · rw [(fl_y hl).2]
    refine h5.keep k fun e he => ?_
    have he' := fh_m.mp he
    intro q
    exact he'.2 (nodup_inj b2 he'.1 zp.1 (List.mem_singleton.mp q) ▸ zp.2)
theorem rzI.hi1 (hi : i < cap) (hnd : (es.map zEn.n).Nodup) (hM : ∀ e ∈ es, e.n ∈ M) {z : zEn} {l' : List zEn} (h : rzI h0 g cap i es M f0 f1 p (x :: y) cv a9 a10 a11 (.ref z.n)) (hz : fh cap p = l' ++ [z]) (hs : sg g a11 (l' ++ [z])) (hl : ¬ lob cap x) {nx : Value} (hx : nAt g x nx) (hy : chn g nx y) {g1 : zH} (k : zkeep g g1 [z.n]) (hzn : nAt g1 z (.ref x.n)) : rzI h0 g1 cap i es M f0 f1 (p ++ [x]) y nx a9 a10 a11 (.ref x.n) := by
  obtain ⟨h1, h2, h3, h4, h5⟩ := h
  obtain ⟨b1, b2, b3, b4⟩ := bin_nd hnd h2
  have zp : z ∈ p ∧ ¬ lob cap z := fh_m.mp (by rw [hz]; simp)
  refine ⟨h1.up hi hnd hM (by rw [h2]; exact List.mem_append_left _ zp.1) k hzn, by rw [h2]; simp, hy.keep k fun e he => by simpa using Ne.symm (b1 z zp.1 e (List.mem_cons_of_mem _ he)), ?_, ?_⟩
  · rw [(fl_n hl).1]
    refine h4.keep k fun e he => ?_
    have he' := fl_m.mp he
    intro q
    exact zp.2 (nodup_inj b2 he'.1 zp.1 (List.mem_singleton.mp q) ▸ he'.2)
  · rw [(fl_n hl).2, hz]
    exact Or.inr ⟨l' ++ [z], x, rfl, rfl, hs.app k hzn ⟨nx, k.n hx (by simpa using Ne.symm (b1 z zp.1 x List.mem_cons_self))⟩ (last_ne b2 hz)⟩
/-- the bin is dealt out: the lower part lies in a chain from v on -/
def rzC (h0 g : zH) (cap i : Nat) (es : List zEn) (M : List Nat) (f0 f1 : Nat → Value) (v a11 a12 : Value) : Prop := rzF h0 g cap i es M f0 f1 ∧ chn g v (bin (2 * cap) i es) ∧ os g a11 a12 (fh cap (bin cap i es))
def rzD (h0 g : zH) (cap i : Nat) (es : List zEn) (M : List Nat) (f0 f1 : Nat → Value) (v u : Value) : Prop := rzF h0 g cap i es M f0 f1 ∧ chn g v (bin (2 * cap) i es) ∧ chn g u (bin (2 * cap) (i + cap) es)
theorem rzI.c0 (hc : cap = 16 ∨ cap = 32) (hi : i < cap) (h : rzI h0 g cap i es M f0 f1 p [] cv a9 .null a11 a12) : rzC h0 g cap i es M f0 f1 .null a11 a12 := by
  obtain ⟨h1, h2, h3, h4, h5⟩ := h
  rw [List.append_nil] at h2
  refine ⟨h1, ?_, by rw [h2]; exact h5⟩
  rw [bin_lo hc hi, h2]
  rcases h4 with ⟨q, -⟩ | ⟨l', z, -, q, -⟩
  · rw [q]; exact rfl
  · cases q
theorem rzI.c1 (hc : cap = 16 ∨ cap = 32) (hi : i < cap) (hnd : (es.map zEn.n).Nodup) (hM : ∀ e ∈ es, e.n ∈ M) {z : zEn} {l' : List zEn} (h : rzI h0 g cap i es M f0 f1 p [] cv a9 (.ref z.n) a11 a12) (hz : fl cap p = l' ++ [z]) (hs : sg g a9 (l' ++ [z])) {g1 : zH} (k : zkeep g g1 [z.n]) (hzn : nAt g1 z .null) : rzC h0 g1 cap i es M f0 f1 a9 a11 a12 := by
  obtain ⟨h1, h2, h3, h4, h5⟩ := h
  obtain ⟨b1, b2, b3, b4⟩ := bin_nd hnd h2
  have zp : z ∈ p ∧ lob cap z := fl_m.mp (by rw [hz]; simp)
  rw [List.append_nil] at h2
  refine ⟨h1.up hi hnd hM (by rw [h2]; exact zp.1) k hzn, ?_, ?_⟩
  · rw [bin_lo hc hi, h2, hz]
    exact hs.close k hzn (last_ne b2 hz)
  · rw [h2]
    refine h5.keep k fun e he => ?_
    have he' := fh_m.mp he
    intro q
    exact he'.2 (nodup_inj b2 he'.1 zp.1 (List.mem_singleton.mp q) ▸ zp.2)
theorem rzC.tab {v : Value} {q : Nat} {g1 : zH} (h : rzC h0 g cap i es M f0 f1 v a11 a12) (k : zkeep g g1 [q]) (hq : q ∈ M ∨ h0 q = none) (hn : ∀ e ∈ es, e.n ≠ q) : rzC h0 g1 cap i es M f0 f1 v a11 a12 :=
  ⟨h.1.tab k hq hn, h.2.1.keep k fun e he => by simpa using hn e (bin_m he).1, h.2.2.keep k fun e he => by simpa using hn e (bin_m (fh_m.mp he).1).1⟩
theorem rzD.tab {v u : Value} {q : Nat} {g1 : zH} (h : rzD h0 g cap i es M f0 f1 v u) (k : zkeep g g1 [q]) (hq : q ∈ M ∨ h0 q = none) (hn : ∀ e ∈ es, e.n ≠ q) : rzD h0 g1 cap i es M f0 f1 v u :=
  ⟨h.1.tab k hq hn, h.2.1.keep k fun e he => by simpa using hn e (bin_m he).1, h.2.2.keep k fun e he => by simpa using hn e (bin_m he).1⟩
theorem rzC.d0 (hc : cap = 16 ∨ cap = 32) (hi : i < cap) {v : Value} (h : rzC h0 g cap i es M f0 f1 v a11 .null) : rzD h0 g cap i es M f0 f1 v .null := by
  obtain ⟨h1, h2, h3⟩ := h
  refine ⟨h1, h2, ?_⟩
  rw [bin_hi hc hi]
  rcases h3 with ⟨q, -⟩ | ⟨l', z, -, q, -⟩
  · rw [q]; exact rfl
  · cases q
theorem rzC.d1 (hc : cap = 16 ∨ cap = 32) (hi : i < cap) (hnd : (es.map zEn.n).Nodup) (hM : ∀ e ∈ es, e.n ∈ M) {v : Value} {z : zEn} {l' : List zEn} (h : rzC h0 g cap i es M f0 f1 v a11 (.ref z.n)) (hz : fh cap (bin cap i es) = l' ++ [z]) (hs : sg g a11 (l' ++ [z])) {g1 : zH} (k : zkeep g g1 [z.n]) (hzn : nAt g1 z .null) : rzD h0 g1 cap i es M f0 f1 v a11 := by
  obtain ⟨h1, h2, h3⟩ := h
  have zp : z ∈ bin cap i es ∧ ¬ lob cap z := fh_m.mp (by rw [hz]; simp)
  have b2 : ((bin cap i es).map zEn.n).Nodup := hnd.sublist (List.Sublist.map _ List.filter_sublist)
  refine ⟨h1.up hi hnd hM zp.1 k hzn, h2.keep k fun e he => ?_, ?_⟩
  · rw [bin_lo hc hi] at he
    have he' := fl_m.mp he
    intro q
    exact zp.2 (nodup_inj b2 he'.1 zp.1 (List.mem_singleton.mp q) ▸ he'.2)
  · rw [bin_hi hc hi, hz]
    exact hs.close k hzn (last_ne b2 hz)
/-- the next bin -/
theorem rzD.J {v u : Value} {f1' f0' : Nat → Value} (hi : i < cap) (hN : ∀ j, i ≤ j → j < cap → f1 j = .null ∧ f1 (j + cap) = .null) (h : rzD h0 g cap i es M f0 f1 v u) (e0 : ∀ j, i < j → f0' j = f0 j) (e1 : f1' i = v) (e2 : f1' (i + cap) = u) (e3 : ∀ j, j ≠ i → j ≠ i + cap → f1' j = f1 j) : rzJ h0 g cap (i + 1) es M f0' f1' := by
  obtain ⟨⟨h1, h2, h3, h4⟩, h5, h6⟩ := h
  refine ⟨fun j a b => by rw [e0 j (by omega)]; exact h1 j (by omega) b, fun j a => ?_, h3, h4, fun j a b => ?_⟩
  · by_cases q : j = i
    · subst q; rw [e1, e2]; exact ⟨h5, h6⟩
    · rw [e3 j q (by omega), e3 (j + cap) (by omega) (by omega)]; exact h2 j (by omega)
  · rw [e3 j (by omega) (by omega), e3 (j + cap) (by omega) (by omega)]; exact hN j (by omega) b
theorem rzF.D0 (hc : cap = 16 ∨ cap = 32) (hi : i < cap) (h : rzF h0 g cap i es M f0 f1) (hb : bin cap i es = []) : rzD h0 g cap i es M f0 f1 .null .null := by
  refine ⟨h, ?_, ?_⟩
  · rw [bin_lo hc hi, hb]; exact rfl
  · rw [bin_hi hc hi, hb]; exact rfl
theorem rzF.D1 (hc : cap = 16 ∨ cap = 32) (hi : i < cap) (h : rzF h0 g cap i es M f0 f1) (hb : bin cap i es = [x]) (hx : nAt g x .null) : rzD h0 g cap i es M f0 f1 (if lob cap x then .ref x.n else .null) (if lob cap x then .null else .ref x.n) := by
  refine ⟨h, ?_, ?_⟩
  · rw [bin_lo hc hi, hb]
    unfold fl
    by_cases q : lob cap x
    · have e : decide (lob cap x) = true := decide_eq_true q
      rw [if_pos q]
      simp only [List.filter_cons, List.filter_nil, e, if_true]
      exact ⟨rfl, _, hx, rfl⟩
    · have e : decide (lob cap x) = false := decide_eq_false q
      rw [if_neg q]
      simp only [List.filter_cons, List.filter_nil, e, Bool.false_eq_true, if_false]
      exact rfl
  · rw [bin_hi hc hi, hb]
    unfold fh
    by_cases q : lob cap x
    · have e : decide (lob cap x) = true := decide_eq_true q
      rw [if_pos q]
      simp only [List.filter_cons, List.filter_nil, e, Bool.not_true, Bool.false_eq_true, if_false]
      exact rfl
    · have e : decide (lob cap x) = false := decide_eq_false q
      rw [if_neg q]
      simp only [List.filter_cons, List.filter_nil, e, Bool.not_false, if_true]
      exact ⟨rfl, _, hx, rfl⟩
end
theorem iand_oA : ∀ c : Nat, c < 240 → iI (c : Int) &&& iI 16 = iI (if c / 16 % 2 = 0 then 0 else 16) ∧ iI (c : Int) &&& iI 32 = iI (if c / 32 % 2 = 0 then 0 else 32) := by decide +kernel
theorem iand_o {cap : Nat} {c : Int} (hc : cap = 16 ∨ cap = 32) (h : 0 ≤ c ∧ c < 240) : iI c &&& iI ((cap : Nat) : Int) = iI (if c.toNat / cap % 2 = 0 then 0 else ((cap : Nat) : Int)) := by
  have h1 := iand_oA c.toNat (by omega)
  rw [show ((c.toNat : Nat) : Int) = c by omega] at h1
  rcases hc with e | e <;> subst e
  · exact h1.1
  · exact h1.2
theorem iand_cA : ∀ c : Nat, c < 240 → iI (c : Int) &&& iI 31 = iI ((c % 32 : Nat) : Int) ∧ iI (c : Int) &&& iI 63 = iI ((c % 64 : Nat) : Int) := by decide +kernel
theorem iand_c {cap : Nat} {c : Int} (hc : cap = 16 ∨ cap = 32) (h : 0 ≤ c ∧ c < 240) : iI c &&& iI (((2 * cap : Nat) : Int) - 1) = iI ((c.toNat % (2 * cap) : Nat) : Int) := by
  have h1 := iand_cA c.toNat (by omega)
  rw [show ((c.toNat : Nat) : Int) = c by omega] at h1
  rcases hc with e | e <;> subst e
  · exact h1.1
  · exact h1.2
set_option maxHeartbeats 4000000 in
theorem ct_M_resize {l : Launch} (hl : l.stackTraces = false) {Γ : zCx} {h : zH} {m tb cap : Nat} {es : List zEn} {sz : Int} {lf : Value} (hm : mpA h m tb cap es sz lf) (hc2 : cap = 16 ∨ cap = 32)  : zMet l yJ25_resize (ws_ yJ25_resize cJ25_resize 14 (some (.array (.object "java/util/HashMap$Node")))) ({ frames := 0, cells := 1, slots := 2 * cap, locals := 0 }) Γ h [.ref m] (zrt (fun w h' => ∃ t1, w = some (.ref t1) ∧ mpA h' m t1 (2 * cap) es sz lf ∧ h t1 = none ∧ zkeep h h' (mFp m tb es))) 1 (2 * cap) := by
  refine zMet.of (cc := cJ25_resize) hl (plainFor_of_name (by decide +kernel)) (Nat.le_of_ble_eq_true rfl) ?_
  intro X hXl hXΓ hXp C hnm hnL
  have C : zC X cJ25_resize RJ25 (some (.array (.object "java/util/HashMap$Node"))) 0 0 [] := C
  have hnL : X.2.1.2.2.2.2 = 14 := hnL
  subst hXl hXΓ
  show Z X h 1 (2 * cap) [(0, .ref m)] 0 []
  obtain ⟨⟨mc, f, hmf, htb, hch⟩, hcap, hnd, hcd, hks⟩ := id hm
  have hMe : ∀ e ∈ es, e.n ∈ mFp m tb es := fun e he => by unfold mFp; exact List.mem_cons_of_mem _ (List.mem_cons_of_mem _ (List.mem_map_of_mem he))
  refine z_aload_n (pc := 0) (j := 0) C dJ25_resize_0 rfl rfl ?_
  refine z_getfield (pc := 1) (v := .ref tb) C in_J25 rfl 2 (by decide) q1088 (fun _ z => z) hmf rfl dJ25_resize_1 ?_
  refine z_astore_n (pc := 4) (L' := [(1, .ref tb), (0, .ref m)]) C dJ25_resize_4 rfl (by rw [hnL]; decide) rfl ?_
  refine z_aload_n (pc := 5) (j := 0) C dJ25_resize_5 rfl rfl ?_
  refine z_ifnonnull (pc := 6) (tgt := 13) C dJ25_resize_6 (by decide) ?_
  refine z_aload_n (pc := 13) (j := 0) C dJ25_resize_13 rfl rfl ?_
  refine z_alen (pc := 14) C htb dJ25_resize_14 ?_
  refine z_istore_n (pc := 15) (L' := [(2, .int (iI ((cap : Nat) : Int))), (1, .ref tb), (0, .ref m)]) C dJ25_resize_15 rfl (by rw [hnL]; decide) rfl ?_
  refine z_aload_n (pc := 16) (j := 2) C dJ25_resize_16 rfl rfl ?_
  refine z_getfield (pc := 17) (v := .int (iI ((cap - cap / 4 : Nat) : Int))) C in_J25 rfl 6 (by decide) q1091 (fun _ z => z) hmf rfl dJ25_resize_17 ?_
  refine z_istore_n (pc := 20) (L' := [(3, .int (iI ((cap - cap / 4 : Nat) : Int))), (2, .int (iI ((cap : Nat) : Int))), (1, .ref tb), (0, .ref m)]) C dJ25_resize_20 rfl (by rw [hnL]; decide) rfl ?_
  refine z_iconst (pc := 21) C dJ25_resize_21 ?_
  refine z_istore (pc := 22) (L' := [(5, .int (iI 0)), (3, .int (iI ((cap - cap / 4 : Nat) : Int))), (2, .int (iI ((cap : Nat) : Int))), (1, .ref tb), (0, .ref m)]) C dJ25_resize_22 (by rw [hnL]; decide) rfl ?_
  refine z_iload_n (pc := 24) (j := 2) C dJ25_resize_24 rfl rfl ?_
  refine z_if_le (pc := 25) (tgt := 67) C dJ25_resize_25 (by decide) (by omega) (fun c25 => by exfalso; omega) (fun c25 => ?_)
  refine z_iload_n (pc := 28) (j := 2) C dJ25_resize_28 rfl rfl ?_
  refine z_ldc (pc := 29) (v := iI 1073741824) C q1483 dJ25_resize_29 ?_
  refine z_icmp_lt (pc := 31) (tgt := 42) C dJ25_resize_31 (by decide) (by omega) (by decide) (fun c31 => ?_) (fun c31 => by exfalso; omega)
  refine z_iload_n (pc := 42) (j := 2) C dJ25_resize_42 rfl rfl ?_
  refine z_iconst (pc := 43) C dJ25_resize_43 ?_
  refine z_ishl1 (pc := 44) C dJ25_resize_44 ?_
  rw [show ((((cap : Nat) : Int) * 2) : Int) = ((2 * cap : Nat) : Int) from by omega]
  show Z X h 1 (2 * cap) [(5, .int (iI 0)), (3, .int (iI ((cap - cap / 4 : Nat) : Int))), (2, .int (iI ((cap : Nat) : Int))), (1, .ref tb), (0, .ref m)] 45 [.int (iI ((2 * cap : Nat) : Int))]
  refine z_dup (pc := 45) C dJ25_resize_45 rfl ?_
  refine z_istore (pc := 46) (L' := [(4, .int (iI ((2 * cap : Nat) : Int))), (5, .int (iI 0)), (3, .int (iI ((cap - cap / 4 : Nat) : Int))), (2, .int (iI ((cap : Nat) : Int))), (1, .ref tb), (0, .ref m)]) C dJ25_resize_46 (by rw [hnL]; decide) rfl ?_
  refine z_ldc (pc := 48) (v := iI 1073741824) C q1483 dJ25_resize_48 ?_
  refine z_icmp_ge (pc := 50) (tgt := 85) C dJ25_resize_50 (by decide) (by omega) (by decide) (fun c50 => by exfalso; omega) (fun c50 => ?_)
  refine z_iload_n (pc := 53) (j := 3) C dJ25_resize_53 rfl rfl ?_
  refine z_bipush (pc := 54) C dJ25_resize_54 (by decide) ?_
  refine z_icmp_lt (pc := 56) (tgt := 85) C dJ25_resize_56 (by decide) (by omega) (by decide) (fun c56 => by exfalso; omega) (fun c56 => ?_)
  refine z_iload_n (pc := 59) (j := 2) C dJ25_resize_59 rfl rfl ?_
  refine z_iconst (pc := 60) C dJ25_resize_60 ?_
  refine z_ishl1 (pc := 61) C dJ25_resize_61 ?_
  rw [show ((((cap - cap / 4 : Nat) : Int) * 2) : Int) = ((2 * cap - 2 * cap / 4 : Nat) : Int) from by omega]
  show Z X h 1 (2 * cap) [(4, .int (iI ((2 * cap : Nat) : Int))), (5, .int (iI 0)), (3, .int (iI ((cap - cap / 4 : Nat) : Int))), (2, .int (iI ((cap : Nat) : Int))), (1, .ref tb), (0, .ref m)] 62 [.int (iI ((2 * cap - 2 * cap / 4 : Nat) : Int))]
  refine z_istore (pc := 62) (L' := [(5, .int (iI ((2 * cap - 2 * cap / 4 : Nat) : Int))), (4, .int (iI ((2 * cap : Nat) : Int))), (3, .int (iI ((cap - cap / 4 : Nat) : Int))), (2, .int (iI ((cap : Nat) : Int))), (1, .ref tb), (0, .ref m)]) C dJ25_resize_62 (by rw [hnL]; decide) rfl ?_
  refine z_goto (pc := 64) (tgt := 85) C dJ25_resize_64 (by decide) ?_
  refine z_iload (pc := 85) (j := 0) C dJ25_resize_85 rfl ?_
  refine z_if_ne (pc := 87) (tgt := 125) C dJ25_resize_87 (by decide) (by omega) (fun c87 => ?_) (fun c87 => by exfalso; omega)
  refine z_aload_n (pc := 125) (j := 5) C dJ25_resize_125 rfl rfl ?_
  refine z_iload (pc := 126) (j := 0) C dJ25_resize_126 rfl ?_
  refine z_putfield (pc := 128) (fs' := [.null, .null, .ref tb, .null, .int (iI sz), .int (iI mc), .int (iI ((2 * cap - 2 * cap / 4 : Nat) : Int)), lf]) C in_J25 tyJ25 tyJ25_ok nmJ25 rfl 6 (by decide) q1091 (fun _ z => z) rfl rfl rfl (Nat.le_of_ble_eq_true rfl) hmf rfl dJ25_resize_128 ?_
  refine Z.nm (fun h1 eh1 => ?_)
  have kh1 : zkeep h h1 [m] := by rw [eh1]; exact zkeep.up zkeep.rf (Or.inl (by simp)) hmf
  have fh1_0 : h1 m = some (true, .inr (14, [.null, .null, .ref tb, .null, .int (iI sz), .int (iI mc), .int (iI ((2 * cap - 2 * cap / 4 : Nat) : Int)), lf])) := zse eh1
  refine z_iload (pc := 131) (j := 1) C dJ25_resize_131 rfl ?_
  refine z_anewarray (pc := 133) (kc' := 0) (ks' := (2 * cap - (2 * cap))) C q1486 q1487 (by omega) (by omega) (by omega) dJ25_resize_133 (fun a2 fa2 => ?_)
  refine Z.nm (fun h3 eh3 => ?_)
  have na2 : h a2 = none := kh1.none0 fa2 (List.not_mem_cons_of_ne_of_not_mem (Ne.symm (zneF fh1_0 fa2)) List.not_mem_nil)
  have kh3 : zkeep h h3 [m] := by rw [eh3]; exact zkeep.born kh1 fa2
  have fh3_0 : h3 a2 = some (true, .inl ((.object "java/util/HashMap$Node"), (2 * cap), fun _ => .null)) := zse eh3
  have fh3_1 : h3 m = some (true, .inr (14, [.null, .null, .ref tb, .null, .int (iI sz), .int (iI mc), .int (iI ((2 * cap - 2 * cap / 4 : Nat) : Int)), lf])) := zsn eh3 fh1_0 (zneF fh1_0 fa2)
  refine z_astore (pc := 136) (L' := [(6, .ref a2), (5, .int (iI ((2 * cap - 2 * cap / 4 : Nat) : Int))), (4, .int (iI ((2 * cap : Nat) : Int))), (3, .int (iI ((cap - cap / 4 : Nat) : Int))), (2, .int (iI ((cap : Nat) : Int))), (1, .ref tb), (0, .ref m)]) C dJ25_resize_136 (by rw [hnL]; decide) rfl ?_
  refine z_aload_n (pc := 138) (j := 6) C dJ25_resize_138 rfl rfl ?_
  refine z_aload (pc := 139) (j := 0) C dJ25_resize_139 rfl ?_
  refine z_putfield (pc := 141) (fs' := [.null, .null, .ref a2, .null, .int (iI sz), .int (iI mc), .int (iI ((2 * cap - 2 * cap / 4 : Nat) : Int)), lf]) C in_J25 tyJ25 tyJ25_ok nmJ25 rfl 2 (by decide) q1088 (fun _ z => z) rfl rfl rfl (Nat.le_of_ble_eq_true rfl) fh3_1 rfl dJ25_resize_141 ?_
  refine Z.nm (fun h4 eh4 => ?_)
  have kh4 : zkeep h h4 [m] := by rw [eh4]; exact zkeep.up kh3 (Or.inl (by simp)) fh3_1
  have fh4_0 : h4 m = some (true, .inr (14, [.null, .null, .ref a2, .null, .int (iI sz), .int (iI mc), .int (iI ((2 * cap - 2 * cap / 4 : Nat) : Int)), lf])) := zse eh4
  have fh4_1 : h4 a2 = some (true, .inl ((.object "java/util/HashMap$Node"), (2 * cap), fun _ => .null)) := zsn eh4 fh3_0 (Ne.symm (zneF fh1_0 fa2))
  refine z_aload_n (pc := 144) (j := 5) C dJ25_resize_144 rfl rfl ?_
  refine z_ifnull (pc := 145) C dJ25_resize_145 ?_
  refine z_iconst (pc := 148) C dJ25_resize_148 ?_
  refine z_istore (pc := 149) (L' := [(7, .int (iI 0)), (6, .ref a2), (5, .int (iI ((2 * cap - 2 * cap / 4 : Nat) : Int))), (4, .int (iI ((2 * cap : Nat) : Int))), (3, .int (iI ((cap - cap / 4 : Nat) : Int))), (2, .int (iI ((cap : Nat) : Int))), (1, .ref tb), (0, .ref m)]) C dJ25_resize_149 (by rw [hnL]; decide) rfl ?_
  have loop151 : ∀ (n151 : Nat) (i : Int) (g : zH) (f0 : Nat → Value) (f1 : Nat → Value), (0 ≤ i ∧ i ≤ ((cap : Nat) : Int)) → (g m = some (true, .inr (14, [.null, .null, .ref a2, .null, .int (iI sz), .int (iI mc), .int (iI ((2 * cap - 2 * cap / 4 : Nat) : Int)), lf]))) → (g tb = some (true, .inl ((.object "java/util/HashMap$Node"), cap, f0))) → (g a2 = some (true, .inl ((.object "java/util/HashMap$Node"), (2 * cap), f1))) → (tb ≠ a2) → (rzJ h g cap i.toNat es (mFp m tb es) f0 f1) → ((((cap : Nat) : Int) - i).toNat) = n151 → Z X g 0 0 [(7, .int (iI i)), (6, .ref a2), (4, .int (iI ((2 * cap : Nat) : Int))), (2, .int (iI ((cap : Nat) : Int))), (1, .ref tb), (0, .ref m)] 151 [] := by
    intro n151
    induction n151 using Nat.strongRecOn with
    | ind n151 ih151 =>
    intro i g f0 f1 hi hmg ht0 ht1 hTT hJ hn151
    refine z_iload (pc := 151) (j := 0) C dJ25_resize_151 rfl ?_
    refine z_iload_n (pc := 153) (j := 3) C dJ25_resize_153 rfl rfl ?_
    refine z_icmp_ge (pc := 154) (tgt := 353) C dJ25_resize_154 (by decide) (by omega) (by omega) (fun c154 => ?_) (fun c154 => ?_)
    · obtain ⟨hJ1, hJ2, hJ3, hJ4, hJ5⟩ := id hJ
      have hchn : ∀ j, j < 2 * cap → chn g (f1 j) (bin (2 * cap) j es) := fun j hj => by
        by_cases q : j < cap
        · exact (hJ2 j (by omega)).1
        · have := (hJ2 (j - cap) (by omega)).2
          rwa [show j - cap + cap = j by omega] at this
      refine z_aload (pc := 353) (j := 1) C dJ25_resize_353 rfl ?_
      exact z_areturn (pc := 355) C (Or.inr ⟨_, rfl⟩) (Or.inr ⟨_, rfl⟩) (by rw [hXp]; exact ⟨_, rfl, a2, rfl, ⟨⟨_, f1, hmg, ht1, hchn⟩, (by omega), hnd, hcd, fun e he => (hks e he).keep hJ4⟩, na2, hJ4⟩) dJ25_resize_355
    · refine z_aload_n (pc := 157) (j := 4) C dJ25_resize_157 rfl rfl ?_
      refine z_iload (pc := 158) (j := 0) C dJ25_resize_158 rfl ?_
      have hic : i.toNat < cap := by omega
      obtain ⟨hJ1, hJ2, hJ3, hJ4, hJ5⟩ := id hJ
      have hF := hJ.F
      have hbi := hJ1 i.toNat (Nat.le_refl _) hic
      have hn0 : ∀ e ∈ es, e.n ≠ tb := fun e he => by obtain ⟨nx, hx⟩ := hJ3 e he; exact zneA hx ht0
      have hn1 : ∀ e ∈ es, e.n ≠ a2 := fun e he => by obtain ⟨nx, hx⟩ := hJ3 e he; exact zneA hx ht1
      rcases hl : bin cap i.toNat es with _ | ⟨x0, r0⟩
      · rw [hl] at hbi
        have hb0 : f0 i.toNat = .null := hbi
        have hD := rzF.D0 hc2 hic hF hl
        have hJn : rzJ h g cap (i + 1).toNat es (mFp m tb es) f0 f1 := by
          rw [show (i + 1).toNat = i.toNat + 1 by omega]
          exact hD.J hic hJ5 (fun _ _ => rfl) (hJ5 _ (Nat.le_refl _) hic).1 (hJ5 _ (Nat.le_refl _) hic).2 (fun _ _ _ => rfl)
        refine z_aaload (pc := 160) (v := .null) C ht0 (by omega) hb0 dJ25_resize_160 ?_
        refine z_dup (pc := 161) C dJ25_resize_161 rfl ?_
        refine z_astoreN (pc := 162) (L' := [(8, .null), (7, .int (iI i)), (6, .ref a2), (4, .int (iI ((2 * cap : Nat) : Int))), (2, .int (iI ((cap : Nat) : Int))), (1, .ref tb), (0, .ref m)]) C dJ25_resize_162 (by rw [hnL]; decide) rfl ?_
        refine z_ifnullN (pc := 164) (tgt := 347) C dJ25_resize_164 (by decide) ?_
        refine z_iinc (pc := 347) (k := 1) (L' := [(7, .int (iI (i + 1))), (8, .null), (6, .ref a2), (4, .int (iI ((2 * cap : Nat) : Int))), (2, .int (iI ((cap : Nat) : Int))), (1, .ref tb), (0, .ref m)]) C dJ25_resize_347 rfl (by rw [hnL]; decide) rfl ?_
        refine z_goto (pc := 350) (tgt := 151) C dJ25_resize_350 (by decide) ?_
        refine Z.weak (L' := [(7, .int (iI (i + 1))), (6, .ref a2), (4, .int (iI ((2 * cap : Nat) : Int))), (2, .int (iI ((cap : Nat) : Int))), (1, .ref tb), (0, .ref m)]) (kc' := 0) (ks' := 0) [0, 2, 3, 4, 5, 6] rfl (by omega) (by omega) ?_
        exact ih151 _ (by omega) (i + 1) g f0 f1 (by omega) hmg ht0 ht1 hTT hJn rfl
      · have hb2 := hbi
        rw [hl] at hb2
        obtain ⟨hb1, nx0, hn0x, hr0⟩ := id hb2
        have hxm : x0 ∈ es := (bin_m (by rw [hl]; exact List.mem_cons_self)).1
        have hxc := (hks x0 hxm).r
        rcases r0 with _ | ⟨x2, r2⟩
        · have hr0 : nx0 = .null := hr0
          subst hr0
          refine z_aaload (pc := 160) (v := .ref x0.n) C ht0 (by omega) hb1 dJ25_resize_160 ?_
          refine z_dup (pc := 161) C dJ25_resize_161 rfl ?_
          refine z_astore (pc := 162) (L' := [(8, .ref x0.n), (7, .int (iI i)), (6, .ref a2), (4, .int (iI ((2 * cap : Nat) : Int))), (2, .int (iI ((cap : Nat) : Int))), (1, .ref tb), (0, .ref m)]) C dJ25_resize_162 (by rw [hnL]; decide) rfl ?_
          refine z_ifnull (pc := 164) C dJ25_resize_164 ?_
          refine z_aload_n (pc := 167) (j := 5) C dJ25_resize_167 rfl rfl ?_
          refine z_iload (pc := 168) (j := 1) C dJ25_resize_168 rfl ?_
          refine z_null (pc := 170) C dJ25_resize_170 ?_
          refine z_aastoreN (pc := 171) (f' := updV f0 (Int.toNat i) (.null)) C ht0 (by omega) rfl dJ25_resize_171 ?_
          refine Z.nm (fun h5 eh5 => ?_)
          have kh5 : zkeep g h5 [tb] := by rw [eh5]; exact zkeep.up zkeep.rf (Or.inl (by simp)) ht0
          have fh5_0 : h5 tb = some (true, .inl ((.object "java/util/HashMap$Node"), cap, updV f0 (Int.toNat i) (.null))) := zse eh5
          have hFt := hF.tab kh5 (Or.inl (by simp [mFp])) hn0
          have e0t : ∀ j, i.toNat < j → updV f0 (Int.toNat i) (.null) j = f0 j := fun j hj => by simp only [updV]; rw [if_neg (by omega)]
          refine z_aload (pc := 172) (j := 0) C dJ25_resize_172 rfl ?_
          refine z_getfield (pc := 174) (v := .null) C in_J28 rfl 3 (by decide) q1520 (fun _ z => z) (kh5.n hn0x (List.not_mem_cons_of_ne_of_not_mem (zneA hn0x ht0) List.not_mem_nil)) rfl dJ25_resize_174 ?_
          refine z_ifnonnullN (pc := 177) C dJ25_resize_177 ?_
          refine z_aload (pc := 180) (j := 2) C dJ25_resize_180 rfl ?_
          refine z_aload (pc := 182) (j := 0) C dJ25_resize_182 rfl ?_
          refine z_getfield (pc := 184) (v := .int (iI x0.c)) C in_J28 rfl 0 (by decide) q1509 (fun _ z => z) (kh5.n hn0x (List.not_mem_cons_of_ne_of_not_mem (zneA hn0x ht0) List.not_mem_nil)) rfl dJ25_resize_184 ?_
          refine z_iload (pc := 187) (j := 3) C dJ25_resize_187 rfl ?_
          refine z_iconst (pc := 189) C dJ25_resize_189 ?_
          refine z_isub (pc := 190) C dJ25_resize_190 ?_
          refine z_iand (pc := 191) C dJ25_resize_191 (iand_c hc2 hxc) ?_
          show Z X h5 0 0 [(8, .ref x0.n), (7, .int (iI i)), (6, .ref a2), (4, .int (iI ((2 * cap : Nat) : Int))), (2, .int (iI ((cap : Nat) : Int))), (1, .ref tb), (0, .ref m)] 192 [.int (iI ((x0.c.toNat % (2 * cap) : Nat) : Int)), .ref a2]
          refine z_aload (pc := 192) (j := 0) C dJ25_resize_192 rfl ?_
          have hm2 := (bin_m (show x0 ∈ bin cap i.toNat es by rw [hl]; exact List.mem_cons_self)).2
          have hml : x0.c.toNat % (2 * cap) = if lob cap x0 then i.toNat else i.toNat + cap := by simp only [lob]; split <;> (rcases hc2 with e | e <;> subst e <;> omega)
          refine z_aastore (pc := 194) (f' := updV f1 (Int.toNat ((x0.c.toNat % (2 * cap) : Nat) : Int)) (.ref x0.n)) C rfl (Or.inl rfl) (kh5.n hn0x (List.not_mem_cons_of_ne_of_not_mem (zneA hn0x ht0) List.not_mem_nil)) (kh5.n ht1 (List.not_mem_cons_of_ne_of_not_mem (Ne.symm hTT) List.not_mem_nil)) ⟨by omega, by have := Nat.mod_lt x0.c.toNat (show 0 < 2 * cap by omega); omega⟩ rfl dJ25_resize_194 ?_
          refine Z.nm (fun h6 eh6 => ?_)
          have kh6 : zkeep h5 h6 [a2] := by rw [eh6]; exact zkeep.up zkeep.rf (Or.inl (by simp)) (kh5.n ht1 (List.not_mem_cons_of_ne_of_not_mem (Ne.symm hTT) List.not_mem_nil))
          have fh6_0 : h6 a2 = some (true, .inl ((.object "java/util/HashMap$Node"), (2 * cap), updV f1 (Int.toNat ((x0.c.toNat % (2 * cap) : Nat) : Int)) (.ref x0.n))) := zse eh6
          have hFu := hFt.tab kh6 (Or.inr na2) hn1
          have hD := rzF.D1 hc2 hic hFu hl (kh6.n (kh5.n hn0x (List.not_mem_cons_of_ne_of_not_mem (zneA hn0x ht0) List.not_mem_nil)) (List.not_mem_cons_of_ne_of_not_mem (zneA (kh5.n hn0x (List.not_mem_cons_of_ne_of_not_mem (zneA hn0x ht0) List.not_mem_nil)) (kh5.n ht1 (List.not_mem_cons_of_ne_of_not_mem (Ne.symm hTT) List.not_mem_nil))) List.not_mem_nil))
          have hJn : rzJ h h6 cap (i + 1).toNat es (mFp m tb es) (updV f0 (Int.toNat i) (.null)) (updV f1 (Int.toNat ((x0.c.toNat % (2 * cap) : Nat) : Int)) (.ref x0.n)) := by
            rw [show (i + 1).toNat = i.toNat + 1 by omega]
            have hN := hJ5 _ (Nat.le_refl _) hic
            refine hD.J hic hJ5 e0t ?_ ?_ (fun j a b => ?_)
            · simp only [updV, Int.toNat_natCast, hml]
              (repeat' split) <;> first | rfl | omega | exact hN.1
            · simp only [updV, Int.toNat_natCast, hml]
              (repeat' split) <;> first | rfl | omega | exact hN.2
            · simp only [updV, Int.toNat_natCast, hml]
              (repeat' split) <;> first | rfl | omega
          refine z_goto (pc := 195) (tgt := 347) C dJ25_resize_195 (by decide) ?_
          refine z_iinc (pc := 347) (k := 1) (L' := [(7, .int (iI (i + 1))), (8, .ref x0.n), (6, .ref a2), (4, .int (iI ((2 * cap : Nat) : Int))), (2, .int (iI ((cap : Nat) : Int))), (1, .ref tb), (0, .ref m)]) C dJ25_resize_347 rfl (by rw [hnL]; decide) rfl ?_
          refine z_goto (pc := 350) (tgt := 151) C dJ25_resize_350 (by decide) ?_
          refine Z.weak (L' := [(7, .int (iI (i + 1))), (6, .ref a2), (4, .int (iI ((2 * cap : Nat) : Int))), (2, .int (iI ((cap : Nat) : Int))), (1, .ref tb), (0, .ref m)]) (kc' := 0) (ks' := 0) [0, 2, 3, 4, 5, 6] rfl (by omega) (by omega) ?_
          exact ih151 _ (by omega) (i + 1) h6 (updV f0 (Int.toNat i) (.null)) (updV f1 (Int.toNat ((x0.c.toNat % (2 * cap) : Nat) : Int)) (.ref x0.n)) (by omega) (kh6.n (kh5.n hmg (List.not_mem_cons_of_ne_of_not_mem (zneA hmg ht0) List.not_mem_nil)) (List.not_mem_cons_of_ne_of_not_mem (zneA (kh5.n hmg (List.not_mem_cons_of_ne_of_not_mem (zneA hmg ht0) List.not_mem_nil)) (kh5.n ht1 (List.not_mem_cons_of_ne_of_not_mem (Ne.symm hTT) List.not_mem_nil))) List.not_mem_nil)) (kh6.n fh5_0 (List.not_mem_cons_of_ne_of_not_mem hTT List.not_mem_nil)) fh6_0 hTT hJn rfl
        · obtain ⟨hv2, nx2, hn2, hr2⟩ := id hr0
          subst hv2
          refine z_aaload (pc := 160) (v := .ref x0.n) C ht0 (by omega) hb1 dJ25_resize_160 ?_
          refine z_dup (pc := 161) C dJ25_resize_161 rfl ?_
          refine z_astore (pc := 162) (L' := [(8, .ref x0.n), (7, .int (iI i)), (6, .ref a2), (4, .int (iI ((2 * cap : Nat) : Int))), (2, .int (iI ((cap : Nat) : Int))), (1, .ref tb), (0, .ref m)]) C dJ25_resize_162 (by rw [hnL]; decide) rfl ?_
          refine z_ifnull (pc := 164) C dJ25_resize_164 ?_
          refine z_aload_n (pc := 167) (j := 5) C dJ25_resize_167 rfl rfl ?_
          refine z_iload (pc := 168) (j := 1) C dJ25_resize_168 rfl ?_
          refine z_null (pc := 170) C dJ25_resize_170 ?_
          refine z_aastoreN (pc := 171) (f' := updV f0 (Int.toNat i) (.null)) C ht0 (by omega) rfl dJ25_resize_171 ?_
          refine Z.nm (fun h7 eh7 => ?_)
          have kh7 : zkeep g h7 [tb] := by rw [eh7]; exact zkeep.up zkeep.rf (Or.inl (by simp)) ht0
          have fh7_0 : h7 tb = some (true, .inl ((.object "java/util/HashMap$Node"), cap, updV f0 (Int.toNat i) (.null))) := zse eh7
          have hFt := hF.tab kh7 (Or.inl (by simp [mFp])) hn0
          have e0t : ∀ j, i.toNat < j → updV f0 (Int.toNat i) (.null) j = f0 j := fun j hj => by simp only [updV]; rw [if_neg (by omega)]
          refine z_aload (pc := 172) (j := 0) C dJ25_resize_172 rfl ?_
          refine z_getfield (pc := 174) (v := .ref x2.n) C in_J28 rfl 3 (by decide) q1520 (fun _ z => z) (kh7.n hn0x (List.not_mem_cons_of_ne_of_not_mem (zneA hn0x ht0) List.not_mem_nil)) rfl dJ25_resize_174 ?_
          refine z_ifnonnull (pc := 177) (tgt := 198) C dJ25_resize_177 (by decide) ?_
          refine z_aload (pc := 198) (j := 0) C dJ25_resize_198 rfl ?_
          refine z_instNo (pc := 200) C q1258 (by decide) rfl (kh7.n hn0x (List.not_mem_cons_of_ne_of_not_mem (zneA hn0x ht0) List.not_mem_nil)) dJ25_resize_200 ?_
          refine z_if_eq (pc := 203) (tgt := 223) C dJ25_resize_203 (by decide) (by decide) (fun _ => ?_) (fun z => absurd z (by decide))
          refine z_null (pc := 223) C dJ25_resize_223 ?_
          refine z_astoreN (pc := 224) (L' := [(9, .null), (8, .ref x0.n), (7, .int (iI i)), (6, .ref a2), (4, .int (iI ((2 * cap : Nat) : Int))), (2, .int (iI ((cap : Nat) : Int))), (1, .ref tb), (0, .ref m)]) C dJ25_resize_224 (by rw [hnL]; decide) rfl ?_
          refine z_null (pc := 226) C dJ25_resize_226 ?_
          refine z_astoreN (pc := 227) (L' := [(10, .null), (9, .null), (8, .ref x0.n), (7, .int (iI i)), (6, .ref a2), (4, .int (iI ((2 * cap : Nat) : Int))), (2, .int (iI ((cap : Nat) : Int))), (1, .ref tb), (0, .ref m)]) C dJ25_resize_227 (by rw [hnL]; decide) rfl ?_
          refine z_null (pc := 229) C dJ25_resize_229 ?_
          refine z_astoreN (pc := 230) (L' := [(11, .null), (10, .null), (9, .null), (8, .ref x0.n), (7, .int (iI i)), (6, .ref a2), (4, .int (iI ((2 * cap : Nat) : Int))), (2, .int (iI ((cap : Nat) : Int))), (1, .ref tb), (0, .ref m)]) C dJ25_resize_230 (by rw [hnL]; decide) rfl ?_
          refine z_null (pc := 232) C dJ25_resize_232 ?_
          refine z_astoreN (pc := 233) (L' := [(12, .null), (11, .null), (10, .null), (9, .null), (8, .ref x0.n), (7, .int (iI i)), (6, .ref a2), (4, .int (iI ((2 * cap : Nat) : Int))), (2, .int (iI ((cap : Nat) : Int))), (1, .ref tb), (0, .ref m)]) C dJ25_resize_233 (by rw [hnL]; decide) rfl ?_
          have tail : ∀ (g3 : zH) (p : List zEn) (cv a9 a10 a11 a12 : Value), (g3 m = some (true, .inr (14, [.null, .null, .ref a2, .null, .int (iI sz), .int (iI mc), .int (iI ((2 * cap - 2 * cap / 4 : Nat) : Int)), lf]))) → (g3 tb = some (true, .inl ((.object "java/util/HashMap$Node"), cap, updV f0 (Int.toNat i) (.null)))) → (g3 a2 = some (true, .inl ((.object "java/util/HashMap$Node"), (2 * cap), f1))) → rzI h g3 cap i.toNat es (mFp m tb es) (updV f0 (Int.toNat i) (.null)) f1 p [] cv a9 a10 a11 a12 → Z X g3 0 0 [(12, a12), (11, a11), (10, a10), (9, a9), (7, .int (iI i)), (6, .ref a2), (4, .int (iI ((2 * cap : Nat) : Int))), (2, .int (iI ((cap : Nat) : Int))), (1, .ref tb), (0, .ref m)] 309 [] := by
            intro g3 p cv a9 a10 a11 a12 hmg3 ht03 ht13 hE
            obtain ⟨hE1, hE2, hE3, hE4, hE5⟩ := id hE
            obtain ⟨hP1, hP2, hP3, hP4⟩ := bin_nd hnd hE2
            rcases hE4 with ⟨hu1, hu2, hu3⟩ | ⟨l6, z6, hu2, hu3, hu4⟩
            · subst hu3
              show Z X g3 0 0 [(12, a12), (11, a11), (10, .null), (9, a9), (7, .int (iI i)), (6, .ref a2), (4, .int (iI ((2 * cap : Nat) : Int))), (2, .int (iI ((cap : Nat) : Int))), (1, .ref tb), (0, .ref m)] 309 []
              have hC := hE.c0 hc2 hic
              refine z_aloadN (pc := 309) (j := 2) C dJ25_resize_309 rfl ?_
              refine z_ifnullN (pc := 311) (tgt := 327) C dJ25_resize_311 (by decide) ?_
              rcases hC.2.2 with ⟨ht1_, ht2, ht3⟩ | ⟨l7, z7, ht2, ht3, ht4⟩
              · subst ht3
                show Z X g3 0 0 [(12, .null), (11, a11), (10, .null), (9, a9), (7, .int (iI i)), (6, .ref a2), (4, .int (iI ((2 * cap : Nat) : Int))), (2, .int (iI ((cap : Nat) : Int))), (1, .ref tb), (0, .ref m)] 327 []
                have hD := hC.d0 hc2 hic
                refine z_aloadN (pc := 327) (j := 0) C dJ25_resize_327 rfl ?_
                refine z_ifnullN (pc := 329) (tgt := 347) C dJ25_resize_329 (by decide) ?_
                have hN := hJ5 _ (Nat.le_refl _) hic
                have hJn : rzJ h g3 cap (i + 1).toNat es (mFp m tb es) (updV f0 (Int.toNat i) (.null)) (f1) := by
                  rw [show (i + 1).toNat = i.toNat + 1 by omega]
                  exact hD.J (f1 := f1) hic hJ5 (fun j hj => rfl) (by first | rfl | exact hN.1 | exact hN.2 | (simp only [updV, if_true] <;> first | rfl | ((repeat' split) <;> first | rfl | omega | exact hN.1 | exact hN.2))) (by first | rfl | exact hN.1 | exact hN.2 | (simp only [updV, if_true] <;> first | rfl | ((repeat' split) <;> first | rfl | omega | exact hN.1 | exact hN.2))) (fun j a b => by first | rfl | (simp only [updV] <;> first | rfl | ((repeat' split) <;> first | rfl | omega)))
                refine z_iinc (pc := 347) (k := 4) (L' := [(7, .int (iI (i + 1))), (12, .null), (11, a11), (10, .null), (9, a9), (6, .ref a2), (4, .int (iI ((2 * cap : Nat) : Int))), (2, .int (iI ((cap : Nat) : Int))), (1, .ref tb), (0, .ref m)]) C dJ25_resize_347 rfl (by rw [hnL]; decide) rfl ?_
                refine z_goto (pc := 350) (tgt := 151) C dJ25_resize_350 (by decide) ?_
                refine Z.weak (L' := [(7, .int (iI (i + 1))), (6, .ref a2), (4, .int (iI ((2 * cap : Nat) : Int))), (2, .int (iI ((cap : Nat) : Int))), (1, .ref tb), (0, .ref m)]) (kc' := 0) (ks' := 0) [0, 5, 6, 7, 8, 9] rfl (by omega) (by omega) ?_
                exact ih151 _ (by omega) (i + 1) g3 (updV f0 (Int.toNat i) (.null)) f1 (by omega) hmg3 ht03 ht13 hTT hJn rfl
              · subst ht3
                rw [ht2] at ht4
                obtain ⟨a7, ha7, hav7⟩ := ht4.hd
                have ham7 := fh_m.mp (show a7 ∈ fh cap (bin cap i.toNat es) by rw [ht2]; exact ha7)
                have hae7 := (bin_m ham7.1).1
                subst hav7
                have hzp7 := (fh_m (cap := cap) (l := bin cap i.toNat es) (e := z7)).mp (by rw [ht2]; simp)
                have hze7 := (bin_m hzp7.1).1
                obtain ⟨nz7, hzn7⟩ := hC.1.2.2.1 z7 hze7
                show Z X g3 0 0 [(12, .ref z7.n), (11, .ref a7.n), (10, .null), (9, a9), (7, .int (iI i)), (6, .ref a2), (4, .int (iI ((2 * cap : Nat) : Int))), (2, .int (iI ((cap : Nat) : Int))), (1, .ref tb), (0, .ref m)] 327 []
                refine z_aload (pc := 327) (j := 0) C dJ25_resize_327 rfl ?_
                refine z_ifnull (pc := 329) C dJ25_resize_329 ?_
                refine z_aload (pc := 332) (j := 0) C dJ25_resize_332 rfl ?_
                refine z_null (pc := 334) C dJ25_resize_334 ?_
                refine z_putfield (pc := 335) (fs' := [.int (iI z7.c), .ref z7.k, .ref z7.v, .null]) C in_J28 tyJ28 tyJ28_ok nmJ28 rfl 3 (by decide) q1520 (fun _ z => z) rfl rfl rfl (Nat.le_of_ble_eq_true rfl) hzn7 rfl dJ25_resize_335 ?_
                refine Z.nm (fun h8 eh8 => ?_)
                have kh8 : zkeep g3 h8 [z7.n] := by rw [eh8]; exact zkeep.up zkeep.rf (Or.inl (by simp)) hzn7
                have fh8_0 : h8 z7.n = some (true, .inr (15, [.int (iI z7.c), .ref z7.k, .ref z7.v, .null])) := zse eh8
                have hD := hC.d1 hc2 hic hnd hMe ht2 ht4 kh8 fh8_0
                obtain ⟨na7, han7⟩ := hD.1.2.2.1 a7 hae7
                refine z_aload (pc := 338) (j := 5) C dJ25_resize_338 rfl ?_
                refine z_iload (pc := 340) (j := 4) C dJ25_resize_340 rfl ?_
                refine z_iload_n (pc := 342) (j := 7) C dJ25_resize_342 rfl rfl ?_
                refine z_iadd (pc := 343) C dJ25_resize_343 ?_
                refine z_aload (pc := 344) (j := 1) C dJ25_resize_344 rfl ?_
                refine z_aastore (pc := 346) (f' := updV f1 (Int.toNat (i + ((cap : Nat) : Int))) (.ref a7.n)) C rfl (Or.inl rfl) han7 (kh8.n ht13 (List.not_mem_cons_of_ne_of_not_mem (Ne.symm (zneA hzn7 ht13)) List.not_mem_nil)) (by omega) rfl dJ25_resize_346 ?_
                refine Z.nm (fun h9 eh9 => ?_)
                have kh9 : zkeep h8 h9 [a2] := by rw [eh9]; exact zkeep.up zkeep.rf (Or.inl (by simp)) (kh8.n ht13 (List.not_mem_cons_of_ne_of_not_mem (Ne.symm (zneA hzn7 ht13)) List.not_mem_nil))
                have fh9_0 : h9 a2 = some (true, .inl ((.object "java/util/HashMap$Node"), (2 * cap), updV f1 (Int.toNat (i + ((cap : Nat) : Int))) (.ref a7.n))) := zse eh9
                have hD := hD.tab kh9 (Or.inr na2) hn1
                have hN := hJ5 _ (Nat.le_refl _) hic
                have hJn : rzJ h h9 cap (i + 1).toNat es (mFp m tb es) (updV f0 (Int.toNat i) (.null)) (updV f1 (Int.toNat (i + ((cap : Nat) : Int))) (.ref a7.n)) := by
                  rw [show (i + 1).toNat = i.toNat + 1 by omega]
                  exact hD.J (f1 := f1) hic hJ5 (fun j hj => rfl) (by first | rfl | exact hN.1 | exact hN.2 | (simp only [updV, if_true] <;> first | rfl | ((repeat' split) <;> first | rfl | omega | exact hN.1 | exact hN.2))) (by first | rfl | exact hN.1 | exact hN.2 | (simp only [updV, if_true] <;> first | rfl | ((repeat' split) <;> first | rfl | omega | exact hN.1 | exact hN.2))) (fun j a b => by first | rfl | (simp only [updV] <;> first | rfl | ((repeat' split) <;> first | rfl | omega)))
                refine z_iinc (pc := 347) (k := 4) (L' := [(7, .int (iI (i + 1))), (12, .ref z7.n), (11, .ref a7.n), (10, .null), (9, a9), (6, .ref a2), (4, .int (iI ((2 * cap : Nat) : Int))), (2, .int (iI ((cap : Nat) : Int))), (1, .ref tb), (0, .ref m)]) C dJ25_resize_347 rfl (by rw [hnL]; decide) rfl ?_
                refine z_goto (pc := 350) (tgt := 151) C dJ25_resize_350 (by decide) ?_
                refine Z.weak (L' := [(7, .int (iI (i + 1))), (6, .ref a2), (4, .int (iI ((2 * cap : Nat) : Int))), (2, .int (iI ((cap : Nat) : Int))), (1, .ref tb), (0, .ref m)]) (kc' := 0) (ks' := 0) [0, 5, 6, 7, 8, 9] rfl (by omega) (by omega) ?_
                exact ih151 _ (by omega) (i + 1) h9 (updV f0 (Int.toNat i) (.null)) (updV f1 (Int.toNat (i + ((cap : Nat) : Int))) (.ref a7.n)) (by omega) (kh9.n (kh8.n hmg3 (List.not_mem_cons_of_ne_of_not_mem (zneC hmg3 hzn7 (by decide)) List.not_mem_nil)) (List.not_mem_cons_of_ne_of_not_mem (zneA (kh8.n hmg3 (List.not_mem_cons_of_ne_of_not_mem (zneC hmg3 hzn7 (by decide)) List.not_mem_nil)) (kh8.n ht13 (List.not_mem_cons_of_ne_of_not_mem (Ne.symm (zneA hzn7 ht13)) List.not_mem_nil))) List.not_mem_nil)) (kh9.n (kh8.n ht03 (List.not_mem_cons_of_ne_of_not_mem (Ne.symm (zneA hzn7 ht03)) List.not_mem_nil)) (List.not_mem_cons_of_ne_of_not_mem hTT List.not_mem_nil)) fh9_0 hTT hJn rfl
            · subst hu3
              rw [hu2] at hu4
              obtain ⟨a6, ha6, hav⟩ := hu4.hd
              have ham : a6 ∈ p := (fl_m.mp (by rw [hu2]; exact ha6)).1
              have hae := hP4 a6 (List.mem_append_left _ ham)
              subst hav
              have hzp := (fl_m (cap := cap) (l := p) (e := z6)).mp (by rw [hu2]; simp)
              have hze := hP4 z6 (List.mem_append_left _ hzp.1)
              obtain ⟨nz, hzn⟩ := hE1.2.2.1 z6 hze
              show Z X g3 0 0 [(12, a12), (11, a11), (10, .ref z6.n), (9, .ref a6.n), (7, .int (iI i)), (6, .ref a2), (4, .int (iI ((2 * cap : Nat) : Int))), (2, .int (iI ((cap : Nat) : Int))), (1, .ref tb), (0, .ref m)] 309 []
              refine z_aload (pc := 309) (j := 2) C dJ25_resize_309 rfl ?_
              refine z_ifnull (pc := 311) C dJ25_resize_311 ?_
              refine z_aload (pc := 314) (j := 2) C dJ25_resize_314 rfl ?_
              refine z_null (pc := 316) C dJ25_resize_316 ?_
              refine z_putfield (pc := 317) (fs' := [.int (iI z6.c), .ref z6.k, .ref z6.v, .null]) C in_J28 tyJ28 tyJ28_ok nmJ28 rfl 3 (by decide) q1520 (fun _ z => z) rfl rfl rfl (Nat.le_of_ble_eq_true rfl) hzn rfl dJ25_resize_317 ?_
              refine Z.nm (fun h10 eh10 => ?_)
              have kh10 : zkeep g3 h10 [z6.n] := by rw [eh10]; exact zkeep.up zkeep.rf (Or.inl (by simp)) hzn
              have fh10_0 : h10 z6.n = some (true, .inr (15, [.int (iI z6.c), .ref z6.k, .ref z6.v, .null])) := zse eh10
              have hC := hE.c1 hc2 hic hnd hMe hu2 hu4 kh10 fh10_0
              obtain ⟨na, han⟩ := hC.1.2.2.1 a6 hae
              refine z_aload (pc := 320) (j := 5) C dJ25_resize_320 rfl ?_
              refine z_iload (pc := 322) (j := 4) C dJ25_resize_322 rfl ?_
              refine z_aload (pc := 324) (j := 3) C dJ25_resize_324 rfl ?_
              refine z_aastore (pc := 326) (f' := updV f1 (Int.toNat i) (.ref a6.n)) C rfl (Or.inl rfl) han (kh10.n ht13 (List.not_mem_cons_of_ne_of_not_mem (Ne.symm (zneA hzn ht13)) List.not_mem_nil)) (by omega) rfl dJ25_resize_326 ?_
              refine Z.nm (fun h11 eh11 => ?_)
              have kh11 : zkeep h10 h11 [a2] := by rw [eh11]; exact zkeep.up zkeep.rf (Or.inl (by simp)) (kh10.n ht13 (List.not_mem_cons_of_ne_of_not_mem (Ne.symm (zneA hzn ht13)) List.not_mem_nil))
              have fh11_0 : h11 a2 = some (true, .inl ((.object "java/util/HashMap$Node"), (2 * cap), updV f1 (Int.toNat i) (.ref a6.n))) := zse eh11
              have hC := hC.tab kh11 (Or.inr na2) hn1
              rcases hC.2.2 with ⟨ht1_, ht2, ht3⟩ | ⟨l7, z7, ht2, ht3, ht4⟩
              · subst ht3
                show Z X h11 0 0 [(12, .null), (11, a11), (10, .ref z6.n), (9, .ref a6.n), (7, .int (iI i)), (6, .ref a2), (4, .int (iI ((2 * cap : Nat) : Int))), (2, .int (iI ((cap : Nat) : Int))), (1, .ref tb), (0, .ref m)] 327 []
                have hD := hC.d0 hc2 hic
                refine z_aloadN (pc := 327) (j := 0) C dJ25_resize_327 rfl ?_
                refine z_ifnullN (pc := 329) (tgt := 347) C dJ25_resize_329 (by decide) ?_
                have hN := hJ5 _ (Nat.le_refl _) hic
                have hJn : rzJ h h11 cap (i + 1).toNat es (mFp m tb es) (updV f0 (Int.toNat i) (.null)) (updV f1 (Int.toNat i) (.ref a6.n)) := by
                  rw [show (i + 1).toNat = i.toNat + 1 by omega]
                  exact hD.J (f1 := f1) hic hJ5 (fun j hj => rfl) (by first | rfl | exact hN.1 | exact hN.2 | (simp only [updV, if_true] <;> first | rfl | ((repeat' split) <;> first | rfl | omega | exact hN.1 | exact hN.2))) (by first | rfl | exact hN.1 | exact hN.2 | (simp only [updV, if_true] <;> first | rfl | ((repeat' split) <;> first | rfl | omega | exact hN.1 | exact hN.2))) (fun j a b => by first | rfl | (simp only [updV] <;> first | rfl | ((repeat' split) <;> first | rfl | omega)))
                refine z_iinc (pc := 347) (k := 4) (L' := [(7, .int (iI (i + 1))), (12, .null), (11, a11), (10, .ref z6.n), (9, .ref a6.n), (6, .ref a2), (4, .int (iI ((2 * cap : Nat) : Int))), (2, .int (iI ((cap : Nat) : Int))), (1, .ref tb), (0, .ref m)]) C dJ25_resize_347 rfl (by rw [hnL]; decide) rfl ?_
                refine z_goto (pc := 350) (tgt := 151) C dJ25_resize_350 (by decide) ?_
                refine Z.weak (L' := [(7, .int (iI (i + 1))), (6, .ref a2), (4, .int (iI ((2 * cap : Nat) : Int))), (2, .int (iI ((cap : Nat) : Int))), (1, .ref tb), (0, .ref m)]) (kc' := 0) (ks' := 0) [0, 5, 6, 7, 8, 9] rfl (by omega) (by omega) ?_
                exact ih151 _ (by omega) (i + 1) h11 (updV f0 (Int.toNat i) (.null)) (updV f1 (Int.toNat i) (.ref a6.n)) (by omega) (kh11.n (kh10.n hmg3 (List.not_mem_cons_of_ne_of_not_mem (zneC hmg3 hzn (by decide)) List.not_mem_nil)) (List.not_mem_cons_of_ne_of_not_mem (zneA (kh10.n hmg3 (List.not_mem_cons_of_ne_of_not_mem (zneC hmg3 hzn (by decide)) List.not_mem_nil)) (kh10.n ht13 (List.not_mem_cons_of_ne_of_not_mem (Ne.symm (zneA hzn ht13)) List.not_mem_nil))) List.not_mem_nil)) (kh11.n (kh10.n ht03 (List.not_mem_cons_of_ne_of_not_mem (Ne.symm (zneA hzn ht03)) List.not_mem_nil)) (List.not_mem_cons_of_ne_of_not_mem hTT List.not_mem_nil)) fh11_0 hTT hJn rfl
              · subst ht3
                rw [ht2] at ht4
                obtain ⟨a7, ha7, hav7⟩ := ht4.hd
                have ham7 := fh_m.mp (show a7 ∈ fh cap (bin cap i.toNat es) by rw [ht2]; exact ha7)
                have hae7 := (bin_m ham7.1).1
                subst hav7
                have hzp7 := (fh_m (cap := cap) (l := bin cap i.toNat es) (e := z7)).mp (by rw [ht2]; simp)
                have hze7 := (bin_m hzp7.1).1
                obtain ⟨nz7, hzn7⟩ := hC.1.2.2.1 z7 hze7
                show Z X h11 0 0 [(12, .ref z7.n), (11, .ref a7.n), (10, .ref z6.n), (9, .ref a6.n), (7, .int (iI i)), (6, .ref a2), (4, .int (iI ((2 * cap : Nat) : Int))), (2, .int (iI ((cap : Nat) : Int))), (1, .ref tb), (0, .ref m)] 327 []
                refine z_aload (pc := 327) (j := 0) C dJ25_resize_327 rfl ?_
                refine z_ifnull (pc := 329) C dJ25_resize_329 ?_
                refine z_aload (pc := 332) (j := 0) C dJ25_resize_332 rfl ?_
                refine z_null (pc := 334) C dJ25_resize_334 ?_
                refine z_putfield (pc := 335) (fs' := [.int (iI z7.c), .ref z7.k, .ref z7.v, .null]) C in_J28 tyJ28 tyJ28_ok nmJ28 rfl 3 (by decide) q1520 (fun _ z => z) rfl rfl rfl (Nat.le_of_ble_eq_true rfl) hzn7 rfl dJ25_resize_335 ?_
                refine Z.nm (fun h12 eh12 => ?_)
                have kh12 : zkeep h11 h12 [z7.n] := by rw [eh12]; exact zkeep.up zkeep.rf (Or.inl (by simp)) hzn7
                have fh12_0 : h12 z7.n = some (true, .inr (15, [.int (iI z7.c), .ref z7.k, .ref z7.v, .null])) := zse eh12
                have hD := hC.d1 hc2 hic hnd hMe ht2 ht4 kh12 fh12_0
                obtain ⟨na7, han7⟩ := hD.1.2.2.1 a7 hae7
                refine z_aload (pc := 338) (j := 5) C dJ25_resize_338 rfl ?_
                refine z_iload (pc := 340) (j := 4) C dJ25_resize_340 rfl ?_
                refine z_iload_n (pc := 342) (j := 7) C dJ25_resize_342 rfl rfl ?_
                refine z_iadd (pc := 343) C dJ25_resize_343 ?_
                refine z_aload (pc := 344) (j := 1) C dJ25_resize_344 rfl ?_
                refine z_aastore (pc := 346) (f' := updV (updV f1 (Int.toNat i) (.ref a6.n)) (Int.toNat (i + ((cap : Nat) : Int))) (.ref a7.n)) C rfl (Or.inl rfl) han7 (kh12.n fh11_0 (List.not_mem_cons_of_ne_of_not_mem (Ne.symm (zneA hzn7 fh11_0)) List.not_mem_nil)) (by omega) rfl dJ25_resize_346 ?_
                refine Z.nm (fun h13 eh13 => ?_)
                have kh13 : zkeep h12 h13 [a2] := by rw [eh13]; exact zkeep.up zkeep.rf (Or.inl (by simp)) (kh12.n fh11_0 (List.not_mem_cons_of_ne_of_not_mem (Ne.symm (zneA hzn7 fh11_0)) List.not_mem_nil))
                have fh13_0 : h13 a2 = some (true, .inl ((.object "java/util/HashMap$Node"), (2 * cap), updV (updV f1 (Int.toNat i) (.ref a6.n)) (Int.toNat (i + ((cap : Nat) : Int))) (.ref a7.n))) := zse eh13
                have hD := hD.tab kh13 (Or.inr na2) hn1
                have hN := hJ5 _ (Nat.le_refl _) hic
                have hJn : rzJ h h13 cap (i + 1).toNat es (mFp m tb es) (updV f0 (Int.toNat i) (.null)) (updV (updV f1 (Int.toNat i) (.ref a6.n)) (Int.toNat (i + ((cap : Nat) : Int))) (.ref a7.n)) := by
                  rw [show (i + 1).toNat = i.toNat + 1 by omega]
                  exact hD.J (f1 := f1) hic hJ5 (fun j hj => rfl) (by first | rfl | exact hN.1 | exact hN.2 | (simp only [updV, if_true] <;> first | rfl | ((repeat' split) <;> first | rfl | omega | exact hN.1 | exact hN.2))) (by first | rfl | exact hN.1 | exact hN.2 | (simp only [updV, if_true] <;> first | rfl | ((repeat' split) <;> first | rfl | omega | exact hN.1 | exact hN.2))) (fun j a b => by first | rfl | (simp only [updV] <;> first | rfl | ((repeat' split) <;> first | rfl | omega)))
                refine z_iinc (pc := 347) (k := 4) (L' := [(7, .int (iI (i + 1))), (12, .ref z7.n), (11, .ref a7.n), (10, .ref z6.n), (9, .ref a6.n), (6, .ref a2), (4, .int (iI ((2 * cap : Nat) : Int))), (2, .int (iI ((cap : Nat) : Int))), (1, .ref tb), (0, .ref m)]) C dJ25_resize_347 rfl (by rw [hnL]; decide) rfl ?_
                refine z_goto (pc := 350) (tgt := 151) C dJ25_resize_350 (by decide) ?_
                refine Z.weak (L' := [(7, .int (iI (i + 1))), (6, .ref a2), (4, .int (iI ((2 * cap : Nat) : Int))), (2, .int (iI ((cap : Nat) : Int))), (1, .ref tb), (0, .ref m)]) (kc' := 0) (ks' := 0) [0, 5, 6, 7, 8, 9] rfl (by omega) (by omega) ?_
                exact ih151 _ (by omega) (i + 1) h13 (updV f0 (Int.toNat i) (.null)) (updV (updV f1 (Int.toNat i) (.ref a6.n)) (Int.toNat (i + ((cap : Nat) : Int))) (.ref a7.n)) (by omega) (kh13.n (kh12.n (kh11.n (kh10.n hmg3 (List.not_mem_cons_of_ne_of_not_mem (zneC hmg3 hzn (by decide)) List.not_mem_nil)) (List.not_mem_cons_of_ne_of_not_mem (zneA (kh10.n hmg3 (List.not_mem_cons_of_ne_of_not_mem (zneC hmg3 hzn (by decide)) List.not_mem_nil)) (kh10.n ht13 (List.not_mem_cons_of_ne_of_not_mem (Ne.symm (zneA hzn ht13)) List.not_mem_nil))) List.not_mem_nil)) (List.not_mem_cons_of_ne_of_not_mem (zneC (kh11.n (kh10.n hmg3 (List.not_mem_cons_of_ne_of_not_mem (zneC hmg3 hzn (by decide)) List.not_mem_nil)) (List.not_mem_cons_of_ne_of_not_mem (zneA (kh10.n hmg3 (List.not_mem_cons_of_ne_of_not_mem (zneC hmg3 hzn (by decide)) List.not_mem_nil)) (kh10.n ht13 (List.not_mem_cons_of_ne_of_not_mem (Ne.symm (zneA hzn ht13)) List.not_mem_nil))) List.not_mem_nil)) hzn7 (by decide)) List.not_mem_nil)) (List.not_mem_cons_of_ne_of_not_mem (zneA (kh12.n (kh11.n (kh10.n hmg3 (List.not_mem_cons_of_ne_of_not_mem (zneC hmg3 hzn (by decide)) List.not_mem_nil)) (List.not_mem_cons_of_ne_of_not_mem (zneA (kh10.n hmg3 (List.not_mem_cons_of_ne_of_not_mem (zneC hmg3 hzn (by decide)) List.not_mem_nil)) (kh10.n ht13 (List.not_mem_cons_of_ne_of_not_mem (Ne.symm (zneA hzn ht13)) List.not_mem_nil))) List.not_mem_nil)) (List.not_mem_cons_of_ne_of_not_mem (zneC (kh11.n (kh10.n hmg3 (List.not_mem_cons_of_ne_of_not_mem (zneC hmg3 hzn (by decide)) List.not_mem_nil)) (List.not_mem_cons_of_ne_of_not_mem (zneA (kh10.n hmg3 (List.not_mem_cons_of_ne_of_not_mem (zneC hmg3 hzn (by decide)) List.not_mem_nil)) (kh10.n ht13 (List.not_mem_cons_of_ne_of_not_mem (Ne.symm (zneA hzn ht13)) List.not_mem_nil))) List.not_mem_nil)) hzn7 (by decide)) List.not_mem_nil)) (kh12.n fh11_0 (List.not_mem_cons_of_ne_of_not_mem (Ne.symm (zneA hzn7 fh11_0)) List.not_mem_nil))) List.not_mem_nil)) (kh13.n (kh12.n (kh11.n (kh10.n ht03 (List.not_mem_cons_of_ne_of_not_mem (Ne.symm (zneA hzn ht03)) List.not_mem_nil)) (List.not_mem_cons_of_ne_of_not_mem hTT List.not_mem_nil)) (List.not_mem_cons_of_ne_of_not_mem (Ne.symm (zneA hzn7 (kh11.n (kh10.n ht03 (List.not_mem_cons_of_ne_of_not_mem (Ne.symm (zneA hzn ht03)) List.not_mem_nil)) (List.not_mem_cons_of_ne_of_not_mem hTT List.not_mem_nil)))) List.not_mem_nil)) (List.not_mem_cons_of_ne_of_not_mem hTT List.not_mem_nil)) fh13_0 hTT hJn rfl
          have hI0 : rzI h h7 cap i.toNat es (mFp m tb es) (updV f0 (Int.toNat i) (.null)) f1 [] (x0 :: x2 :: r2) (.ref x0.n) .null .null .null .null := ⟨⟨fun j a b => by rw [e0t j a]; exact hFt.1 j a b, hFt.2⟩, by rw [hl]; rfl, (hb1 ▸ hb2 : chn g (.ref x0.n) (x0 :: x2 :: r2)).keep kh7 (fun e he => by simpa using hn0 e (bin_m (by rw [hl]; exact he)).1), Or.inl ⟨rfl, rfl, rfl⟩, Or.inl ⟨rfl, rfl, rfl⟩⟩
          have loop235 : ∀ (n235 : Nat) (g2 : zH) (p : List zEn) (x : zEn) (y : List zEn) (a9 : Value) (a10 : Value) (a11 : Value) (a12 : Value), (g2 m = some (true, .inr (14, [.null, .null, .ref a2, .null, .int (iI sz), .int (iI mc), .int (iI ((2 * cap - 2 * cap / 4 : Nat) : Int)), lf]))) → (g2 tb = some (true, .inl ((.object "java/util/HashMap$Node"), cap, updV f0 (Int.toNat i) (.null)))) → (g2 a2 = some (true, .inl ((.object "java/util/HashMap$Node"), (2 * cap), f1))) → (rzI h g2 cap i.toNat es (mFp m tb es) (updV f0 (Int.toNat i) (.null)) f1 p (x :: y) (.ref x.n) a9 a10 a11 a12) → y.length = n235 → Z X g2 0 0 [(12, a12), (11, a11), (10, a10), (9, a9), (8, .ref x.n), (7, .int (iI i)), (6, .ref a2), (4, .int (iI ((2 * cap : Nat) : Int))), (2, .int (iI ((cap : Nat) : Int))), (1, .ref tb), (0, .ref m)] 235 [] := by
            intro n235
            induction n235 using Nat.strongRecOn with
            | ind n235 ih235 =>
            intro g2 p x y a9 a10 a11 a12 hmg2 ht02 ht12 hI hn235
            obtain ⟨hI1, hI2, hI3, hI4, hI5⟩ := id hI
            obtain ⟨-, nx, hxn, hyc⟩ := id hI3
            have hxe : x ∈ es := (bin_m (by rw [hI2]; simp)).1
            have hxc := (hks x hxe).r
            obtain ⟨hN1, hN2, hN3, hN4⟩ := bin_nd hnd hI2
            rcases y with _ | ⟨x2, y2⟩
            · have hyc0 : nx = .null := hyc
              subst hyc0
              rcases hI4 with ⟨hn4_, hp4, hq4⟩ | ⟨l4, z4, hz4, ht4, hs4⟩
              · subst hp4 hq4
                rcases hI5 with ⟨hn5_, hp5, hq5⟩ | ⟨l5, z5, hz5, ht5, hs5⟩
                · subst hp5 hq5
                  show Z X g2 0 0 [(12, .null), (11, .null), (10, .null), (9, .null), (8, .ref x.n), (7, .int (iI i)), (6, .ref a2), (4, .int (iI ((2 * cap : Nat) : Int))), (2, .int (iI ((cap : Nat) : Int))), (1, .ref tb), (0, .ref m)] 235 []
                  refine z_aload (pc := 235) (j := 4) C dJ25_resize_235 rfl ?_
                  refine z_getfield (pc := 237) (v := .null) C in_J28 rfl 3 (by decide) q1520 (fun _ z => z) hxn rfl dJ25_resize_237 ?_
                  refine z_astoreN (pc := 240) (L' := [(13, .null), (12, .null), (11, .null), (10, .null), (9, .null), (8, .ref x.n), (7, .int (iI i)), (6, .ref a2), (4, .int (iI ((2 * cap : Nat) : Int))), (2, .int (iI ((cap : Nat) : Int))), (1, .ref tb), (0, .ref m)]) C dJ25_resize_240 (by rw [hnL]; decide) rfl ?_
                  refine z_aload (pc := 242) (j := 5) C dJ25_resize_242 rfl ?_
                  refine z_getfield (pc := 244) (v := .int (iI x.c)) C in_J28 rfl 0 (by decide) q1509 (fun _ z => z) hxn rfl dJ25_resize_244 ?_
                  refine z_iload_n (pc := 247) (j := 9) C dJ25_resize_247 rfl rfl ?_
                  refine z_iand (pc := 248) C dJ25_resize_248 (iand_o hc2 hxc) ?_
                  show Z X g2 0 0 [(13, .null), (12, .null), (11, .null), (10, .null), (9, .null), (8, .ref x.n), (7, .int (iI i)), (6, .ref a2), (4, .int (iI ((2 * cap : Nat) : Int))), (2, .int (iI ((cap : Nat) : Int))), (1, .ref tb), (0, .ref m)] 249 [.int (iI (if x.c.toNat / cap % 2 = 0 then 0 else ((cap : Nat) : Int)))]
                  refine z_if_ne (pc := 249) (tgt := 278) C dJ25_resize_249 (by decide) (by omega) (fun c249 => ?_) (fun c249 => ?_)
                  · have hlo : ¬ lob cap x := by simp only [lob]; split at c249 <;> omega
                    have hI2n := hI.hi0 hlo hxn hyc
                    refine z_aloadN (pc := 278) (j := 1) C dJ25_resize_278 rfl ?_
                    refine z_ifnonnullN (pc := 280) C dJ25_resize_280 ?_
                    refine z_aload (pc := 283) (j := 5) C dJ25_resize_283 rfl ?_
                    refine z_astore (pc := 285) (L' := [(11, .ref x.n), (13, .null), (12, .null), (10, .null), (9, .null), (8, .ref x.n), (7, .int (iI i)), (6, .ref a2), (4, .int (iI ((2 * cap : Nat) : Int))), (2, .int (iI ((cap : Nat) : Int))), (1, .ref tb), (0, .ref m)]) C dJ25_resize_285 (by rw [hnL]; decide) rfl ?_
                    refine z_goto (pc := 287) (tgt := 297) C dJ25_resize_287 (by decide) ?_
                    refine z_aload (pc := 297) (j := 5) C dJ25_resize_297 rfl ?_
                    refine z_astore (pc := 299) (L' := [(12, .ref x.n), (11, .ref x.n), (13, .null), (10, .null), (9, .null), (8, .ref x.n), (7, .int (iI i)), (6, .ref a2), (4, .int (iI ((2 * cap : Nat) : Int))), (2, .int (iI ((cap : Nat) : Int))), (1, .ref tb), (0, .ref m)]) C dJ25_resize_299 (by rw [hnL]; decide) rfl ?_
                    refine z_aloadN (pc := 301) (j := 2) C dJ25_resize_301 rfl ?_
                    refine z_dup (pc := 303) C dJ25_resize_303 rfl ?_
                    refine z_astoreN (pc := 304) (L' := [(8, .null), (12, .ref x.n), (11, .ref x.n), (13, .null), (10, .null), (9, .null), (7, .int (iI i)), (6, .ref a2), (4, .int (iI ((2 * cap : Nat) : Int))), (2, .int (iI ((cap : Nat) : Int))), (1, .ref tb), (0, .ref m)]) C dJ25_resize_304 (by rw [hnL]; decide) rfl ?_
                    refine z_ifnonnullN (pc := 306) C dJ25_resize_306 ?_
                    refine Z.weak (L' := [(12, .ref x.n), (11, .ref x.n), (10, .null), (9, .null), (7, .int (iI i)), (6, .ref a2), (4, .int (iI ((2 * cap : Nat) : Int))), (2, .int (iI ((cap : Nat) : Int))), (1, .ref tb), (0, .ref m)]) (kc' := 0) (ks' := 0) [1, 2, 4, 5, 6, 7, 8, 9, 10, 11] rfl (by omega) (by omega) ?_
                    exact tail _ _ _ _ _ _ _ hmg2 ht02 ht12 hI2n
                  · have hlo : lob cap x := by simp only [lob]; split at c249 <;> omega
                    have hI2n := hI.lo0 hlo hxn hyc
                    refine z_aloadN (pc := 252) (j := 3) C dJ25_resize_252 rfl ?_
                    refine z_ifnonnullN (pc := 254) C dJ25_resize_254 ?_
                    refine z_aload (pc := 257) (j := 5) C dJ25_resize_257 rfl ?_
                    refine z_astore (pc := 259) (L' := [(9, .ref x.n), (13, .null), (12, .null), (11, .null), (10, .null), (8, .ref x.n), (7, .int (iI i)), (6, .ref a2), (4, .int (iI ((2 * cap : Nat) : Int))), (2, .int (iI ((cap : Nat) : Int))), (1, .ref tb), (0, .ref m)]) C dJ25_resize_259 (by rw [hnL]; decide) rfl ?_
                    refine z_goto (pc := 261) (tgt := 271) C dJ25_resize_261 (by decide) ?_
                    refine z_aload (pc := 271) (j := 5) C dJ25_resize_271 rfl ?_
                    refine z_astore (pc := 273) (L' := [(10, .ref x.n), (9, .ref x.n), (13, .null), (12, .null), (11, .null), (8, .ref x.n), (7, .int (iI i)), (6, .ref a2), (4, .int (iI ((2 * cap : Nat) : Int))), (2, .int (iI ((cap : Nat) : Int))), (1, .ref tb), (0, .ref m)]) C dJ25_resize_273 (by rw [hnL]; decide) rfl ?_
                    refine z_goto (pc := 275) (tgt := 301) C dJ25_resize_275 (by decide) ?_
                    refine z_aloadN (pc := 301) (j := 2) C dJ25_resize_301 rfl ?_
                    refine z_dup (pc := 303) C dJ25_resize_303 rfl ?_
                    refine z_astoreN (pc := 304) (L' := [(8, .null), (10, .ref x.n), (9, .ref x.n), (13, .null), (12, .null), (11, .null), (7, .int (iI i)), (6, .ref a2), (4, .int (iI ((2 * cap : Nat) : Int))), (2, .int (iI ((cap : Nat) : Int))), (1, .ref tb), (0, .ref m)]) C dJ25_resize_304 (by rw [hnL]; decide) rfl ?_
                    refine z_ifnonnullN (pc := 306) C dJ25_resize_306 ?_
                    refine Z.weak (L' := [(12, .null), (11, .null), (10, .ref x.n), (9, .ref x.n), (7, .int (iI i)), (6, .ref a2), (4, .int (iI ((2 * cap : Nat) : Int))), (2, .int (iI ((cap : Nat) : Int))), (1, .ref tb), (0, .ref m)]) (kc' := 0) (ks' := 0) [4, 5, 1, 2, 6, 7, 8, 9, 10, 11] rfl (by omega) (by omega) ?_
                    exact tail _ _ _ _ _ _ _ hmg2 ht02 ht12 hI2n
                · rw [hz5] at hs5
                  obtain ⟨a5, ha5, hav5⟩ := hs5.hd
                  subst ht5 hav5
                  show Z X g2 0 0 [(12, .ref z5.n), (11, .ref a5.n), (10, .null), (9, .null), (8, .ref x.n), (7, .int (iI i)), (6, .ref a2), (4, .int (iI ((2 * cap : Nat) : Int))), (2, .int (iI ((cap : Nat) : Int))), (1, .ref tb), (0, .ref m)] 235 []
                  refine z_aload (pc := 235) (j := 4) C dJ25_resize_235 rfl ?_
                  refine z_getfield (pc := 237) (v := .null) C in_J28 rfl 3 (by decide) q1520 (fun _ z => z) hxn rfl dJ25_resize_237 ?_
                  refine z_astoreN (pc := 240) (L' := [(13, .null), (12, .ref z5.n), (11, .ref a5.n), (10, .null), (9, .null), (8, .ref x.n), (7, .int (iI i)), (6, .ref a2), (4, .int (iI ((2 * cap : Nat) : Int))), (2, .int (iI ((cap : Nat) : Int))), (1, .ref tb), (0, .ref m)]) C dJ25_resize_240 (by rw [hnL]; decide) rfl ?_
                  refine z_aload (pc := 242) (j := 5) C dJ25_resize_242 rfl ?_
                  refine z_getfield (pc := 244) (v := .int (iI x.c)) C in_J28 rfl 0 (by decide) q1509 (fun _ z => z) hxn rfl dJ25_resize_244 ?_
                  refine z_iload_n (pc := 247) (j := 9) C dJ25_resize_247 rfl rfl ?_
                  refine z_iand (pc := 248) C dJ25_resize_248 (iand_o hc2 hxc) ?_
                  show Z X g2 0 0 [(13, .null), (12, .ref z5.n), (11, .ref a5.n), (10, .null), (9, .null), (8, .ref x.n), (7, .int (iI i)), (6, .ref a2), (4, .int (iI ((2 * cap : Nat) : Int))), (2, .int (iI ((cap : Nat) : Int))), (1, .ref tb), (0, .ref m)] 249 [.int (iI (if x.c.toNat / cap % 2 = 0 then 0 else ((cap : Nat) : Int)))]
                  refine z_if_ne (pc := 249) (tgt := 278) C dJ25_resize_249 (by decide) (by omega) (fun c249 => ?_) (fun c249 => ?_)
                  · have hlo : ¬ lob cap x := by simp only [lob]; split at c249 <;> omega
                    have hzp := (fh_m (cap := cap) (l := p) (e := z5)).mp (by rw [hz5]; simp)
                    have hze := hN4 z5 (List.mem_append_left _ hzp.1)
                    have hzx := hN1 z5 hzp.1 x List.mem_cons_self
                    obtain ⟨nz, hzn⟩ := hI1.2.2.1 z5 hze
                    refine z_aload (pc := 278) (j := 1) C dJ25_resize_278 rfl ?_
                    refine z_ifnonnull (pc := 280) (tgt := 290) C dJ25_resize_280 (by decide) ?_
                    refine z_aload (pc := 290) (j := 1) C dJ25_resize_290 rfl ?_
                    refine z_aload (pc := 292) (j := 5) C dJ25_resize_292 rfl ?_
                    refine z_putfield (pc := 294) (fs' := [.int (iI z5.c), .ref z5.k, .ref z5.v, .ref x.n]) C in_J28 tyJ28 tyJ28_ok nmJ28 rfl 3 (by decide) q1520 (fun _ z => z) rfl rfl rfl (Nat.le_of_ble_eq_true rfl) hzn rfl dJ25_resize_294 ?_
                    refine Z.nm (fun h14 eh14 => ?_)
                    have kh14 : zkeep g2 h14 [z5.n] := by rw [eh14]; exact zkeep.up zkeep.rf (Or.inl (by simp)) hzn
                    have fh14_0 : h14 z5.n = some (true, .inr (15, [.int (iI z5.c), .ref z5.k, .ref z5.v, .ref x.n])) := zse eh14
                    have hI2n := rzI.hi1 hic hnd hMe hI hz5 hs5 hlo hxn hyc kh14 fh14_0
                    refine z_aload (pc := 297) (j := 5) C dJ25_resize_297 rfl ?_
                    refine z_astore (pc := 299) (L' := [(12, .ref x.n), (13, .null), (11, .ref a5.n), (10, .null), (9, .null), (8, .ref x.n), (7, .int (iI i)), (6, .ref a2), (4, .int (iI ((2 * cap : Nat) : Int))), (2, .int (iI ((cap : Nat) : Int))), (1, .ref tb), (0, .ref m)]) C dJ25_resize_299 (by rw [hnL]; decide) rfl ?_
                    refine z_aloadN (pc := 301) (j := 1) C dJ25_resize_301 rfl ?_
                    refine z_dup (pc := 303) C dJ25_resize_303 rfl ?_
                    refine z_astoreN (pc := 304) (L' := [(8, .null), (12, .ref x.n), (13, .null), (11, .ref a5.n), (10, .null), (9, .null), (7, .int (iI i)), (6, .ref a2), (4, .int (iI ((2 * cap : Nat) : Int))), (2, .int (iI ((cap : Nat) : Int))), (1, .ref tb), (0, .ref m)]) C dJ25_resize_304 (by rw [hnL]; decide) rfl ?_
                    refine z_ifnonnullN (pc := 306) C dJ25_resize_306 ?_
                    refine Z.weak (L' := [(12, .ref x.n), (11, .ref a5.n), (10, .null), (9, .null), (7, .int (iI i)), (6, .ref a2), (4, .int (iI ((2 * cap : Nat) : Int))), (2, .int (iI ((cap : Nat) : Int))), (1, .ref tb), (0, .ref m)]) (kc' := 0) (ks' := 0) [1, 3, 4, 5, 6, 7, 8, 9, 10, 11] rfl (by omega) (by omega) ?_
                    exact tail _ _ _ _ _ _ _ (kh14.n hmg2 (List.not_mem_cons_of_ne_of_not_mem (zneC hmg2 hzn (by decide)) List.not_mem_nil)) (kh14.n ht02 (List.not_mem_cons_of_ne_of_not_mem (Ne.symm (zneA hzn ht02)) List.not_mem_nil)) (kh14.n ht12 (List.not_mem_cons_of_ne_of_not_mem (Ne.symm (zneA hzn ht12)) List.not_mem_nil)) hI2n
                  · have hlo : lob cap x := by simp only [lob]; split at c249 <;> omega
                    have hI2n := hI.lo0 hlo hxn hyc
                    refine z_aloadN (pc := 252) (j := 3) C dJ25_resize_252 rfl ?_
                    refine z_ifnonnullN (pc := 254) C dJ25_resize_254 ?_
                    refine z_aload (pc := 257) (j := 5) C dJ25_resize_257 rfl ?_
                    refine z_astore (pc := 259) (L' := [(9, .ref x.n), (13, .null), (12, .ref z5.n), (11, .ref a5.n), (10, .null), (8, .ref x.n), (7, .int (iI i)), (6, .ref a2), (4, .int (iI ((2 * cap : Nat) : Int))), (2, .int (iI ((cap : Nat) : Int))), (1, .ref tb), (0, .ref m)]) C dJ25_resize_259 (by rw [hnL]; decide) rfl ?_
                    refine z_goto (pc := 261) (tgt := 271) C dJ25_resize_261 (by decide) ?_
                    refine z_aload (pc := 271) (j := 5) C dJ25_resize_271 rfl ?_
                    refine z_astore (pc := 273) (L' := [(10, .ref x.n), (9, .ref x.n), (13, .null), (12, .ref z5.n), (11, .ref a5.n), (8, .ref x.n), (7, .int (iI i)), (6, .ref a2), (4, .int (iI ((2 * cap : Nat) : Int))), (2, .int (iI ((cap : Nat) : Int))), (1, .ref tb), (0, .ref m)]) C dJ25_resize_273 (by rw [hnL]; decide) rfl ?_
                    refine z_goto (pc := 275) (tgt := 301) C dJ25_resize_275 (by decide) ?_
                    refine z_aloadN (pc := 301) (j := 2) C dJ25_resize_301 rfl ?_
                    refine z_dup (pc := 303) C dJ25_resize_303 rfl ?_
                    refine z_astoreN (pc := 304) (L' := [(8, .null), (10, .ref x.n), (9, .ref x.n), (13, .null), (12, .ref z5.n), (11, .ref a5.n), (7, .int (iI i)), (6, .ref a2), (4, .int (iI ((2 * cap : Nat) : Int))), (2, .int (iI ((cap : Nat) : Int))), (1, .ref tb), (0, .ref m)]) C dJ25_resize_304 (by rw [hnL]; decide) rfl ?_
                    refine z_ifnonnullN (pc := 306) C dJ25_resize_306 ?_
                    refine Z.weak (L' := [(12, .ref z5.n), (11, .ref a5.n), (10, .ref x.n), (9, .ref x.n), (7, .int (iI i)), (6, .ref a2), (4, .int (iI ((2 * cap : Nat) : Int))), (2, .int (iI ((cap : Nat) : Int))), (1, .ref tb), (0, .ref m)]) (kc' := 0) (ks' := 0) [4, 5, 1, 2, 6, 7, 8, 9, 10, 11] rfl (by omega) (by omega) ?_
                    exact tail _ _ _ _ _ _ _ hmg2 ht02 ht12 hI2n
              · rw [hz4] at hs4
                obtain ⟨a4, ha4, hav4⟩ := hs4.hd
                subst ht4 hav4
                rcases hI5 with ⟨hn5_, hp5, hq5⟩ | ⟨l5, z5, hz5, ht5, hs5⟩
                · subst hp5 hq5
                  show Z X g2 0 0 [(12, .null), (11, .null), (10, .ref z4.n), (9, .ref a4.n), (8, .ref x.n), (7, .int (iI i)), (6, .ref a2), (4, .int (iI ((2 * cap : Nat) : Int))), (2, .int (iI ((cap : Nat) : Int))), (1, .ref tb), (0, .ref m)] 235 []
                  refine z_aload (pc := 235) (j := 4) C dJ25_resize_235 rfl ?_
                  refine z_getfield (pc := 237) (v := .null) C in_J28 rfl 3 (by decide) q1520 (fun _ z => z) hxn rfl dJ25_resize_237 ?_
                  refine z_astoreN (pc := 240) (L' := [(13, .null), (12, .null), (11, .null), (10, .ref z4.n), (9, .ref a4.n), (8, .ref x.n), (7, .int (iI i)), (6, .ref a2), (4, .int (iI ((2 * cap : Nat) : Int))), (2, .int (iI ((cap : Nat) : Int))), (1, .ref tb), (0, .ref m)]) C dJ25_resize_240 (by rw [hnL]; decide) rfl ?_
                  refine z_aload (pc := 242) (j := 5) C dJ25_resize_242 rfl ?_
                  refine z_getfield (pc := 244) (v := .int (iI x.c)) C in_J28 rfl 0 (by decide) q1509 (fun _ z => z) hxn rfl dJ25_resize_244 ?_
                  refine z_iload_n (pc := 247) (j := 9) C dJ25_resize_247 rfl rfl ?_
                  refine z_iand (pc := 248) C dJ25_resize_248 (iand_o hc2 hxc) ?_
                  show Z X g2 0 0 [(13, .null), (12, .null), (11, .null), (10, .ref z4.n), (9, .ref a4.n), (8, .ref x.n), (7, .int (iI i)), (6, .ref a2), (4, .int (iI ((2 * cap : Nat) : Int))), (2, .int (iI ((cap : Nat) : Int))), (1, .ref tb), (0, .ref m)] 249 [.int (iI (if x.c.toNat / cap % 2 = 0 then 0 else ((cap : Nat) : Int)))]
                  refine z_if_ne (pc := 249) (tgt := 278) C dJ25_resize_249 (by decide) (by omega) (fun c249 => ?_) (fun c249 => ?_)
                  · have hlo : ¬ lob cap x := by simp only [lob]; split at c249 <;> omega
                    have hI2n := hI.hi0 hlo hxn hyc
                    refine z_aloadN (pc := 278) (j := 1) C dJ25_resize_278 rfl ?_
                    refine z_ifnonnullN (pc := 280) C dJ25_resize_280 ?_
                    refine z_aload (pc := 283) (j := 5) C dJ25_resize_283 rfl ?_
                    refine z_astore (pc := 285) (L' := [(11, .ref x.n), (13, .null), (12, .null), (10, .ref z4.n), (9, .ref a4.n), (8, .ref x.n), (7, .int (iI i)), (6, .ref a2), (4, .int (iI ((2 * cap : Nat) : Int))), (2, .int (iI ((cap : Nat) : Int))), (1, .ref tb), (0, .ref m)]) C dJ25_resize_285 (by rw [hnL]; decide) rfl ?_
                    refine z_goto (pc := 287) (tgt := 297) C dJ25_resize_287 (by decide) ?_
                    refine z_aload (pc := 297) (j := 5) C dJ25_resize_297 rfl ?_
                    refine z_astore (pc := 299) (L' := [(12, .ref x.n), (11, .ref x.n), (13, .null), (10, .ref z4.n), (9, .ref a4.n), (8, .ref x.n), (7, .int (iI i)), (6, .ref a2), (4, .int (iI ((2 * cap : Nat) : Int))), (2, .int (iI ((cap : Nat) : Int))), (1, .ref tb), (0, .ref m)]) C dJ25_resize_299 (by rw [hnL]; decide) rfl ?_
                    refine z_aloadN (pc := 301) (j := 2) C dJ25_resize_301 rfl ?_
                    refine z_dup (pc := 303) C dJ25_resize_303 rfl ?_
                    refine z_astoreN (pc := 304) (L' := [(8, .null), (12, .ref x.n), (11, .ref x.n), (13, .null), (10, .ref z4.n), (9, .ref a4.n), (7, .int (iI i)), (6, .ref a2), (4, .int (iI ((2 * cap : Nat) : Int))), (2, .int (iI ((cap : Nat) : Int))), (1, .ref tb), (0, .ref m)]) C dJ25_resize_304 (by rw [hnL]; decide) rfl ?_
                    refine z_ifnonnullN (pc := 306) C dJ25_resize_306 ?_
                    refine Z.weak (L' := [(12, .ref x.n), (11, .ref x.n), (10, .ref z4.n), (9, .ref a4.n), (7, .int (iI i)), (6, .ref a2), (4, .int (iI ((2 * cap : Nat) : Int))), (2, .int (iI ((cap : Nat) : Int))), (1, .ref tb), (0, .ref m)]) (kc' := 0) (ks' := 0) [1, 2, 4, 5, 6, 7, 8, 9, 10, 11] rfl (by omega) (by omega) ?_
                    exact tail _ _ _ _ _ _ _ hmg2 ht02 ht12 hI2n
                  · have hlo : lob cap x := by simp only [lob]; split at c249 <;> omega
                    have hzp := (fl_m (cap := cap) (l := p) (e := z4)).mp (by rw [hz4]; simp)
                    have hze := hN4 z4 (List.mem_append_left _ hzp.1)
                    have hzx := hN1 z4 hzp.1 x List.mem_cons_self
                    obtain ⟨nz, hzn⟩ := hI1.2.2.1 z4 hze
                    refine z_aload (pc := 252) (j := 3) C dJ25_resize_252 rfl ?_
                    refine z_ifnonnull (pc := 254) (tgt := 264) C dJ25_resize_254 (by decide) ?_
                    refine z_aload (pc := 264) (j := 3) C dJ25_resize_264 rfl ?_
                    refine z_aload (pc := 266) (j := 5) C dJ25_resize_266 rfl ?_
                    refine z_putfield (pc := 268) (fs' := [.int (iI z4.c), .ref z4.k, .ref z4.v, .ref x.n]) C in_J28 tyJ28 tyJ28_ok nmJ28 rfl 3 (by decide) q1520 (fun _ z => z) rfl rfl rfl (Nat.le_of_ble_eq_true rfl) hzn rfl dJ25_resize_268 ?_
                    refine Z.nm (fun h15 eh15 => ?_)
                    have kh15 : zkeep g2 h15 [z4.n] := by rw [eh15]; exact zkeep.up zkeep.rf (Or.inl (by simp)) hzn
                    have fh15_0 : h15 z4.n = some (true, .inr (15, [.int (iI z4.c), .ref z4.k, .ref z4.v, .ref x.n])) := zse eh15
                    have hI2n := rzI.lo1 hic hnd hMe hI hz4 hs4 hlo hxn hyc kh15 fh15_0
                    refine z_aload (pc := 271) (j := 5) C dJ25_resize_271 rfl ?_
                    refine z_astore (pc := 273) (L' := [(10, .ref x.n), (13, .null), (12, .null), (11, .null), (9, .ref a4.n), (8, .ref x.n), (7, .int (iI i)), (6, .ref a2), (4, .int (iI ((2 * cap : Nat) : Int))), (2, .int (iI ((cap : Nat) : Int))), (1, .ref tb), (0, .ref m)]) C dJ25_resize_273 (by rw [hnL]; decide) rfl ?_
                    refine z_goto (pc := 275) (tgt := 301) C dJ25_resize_275 (by decide) ?_
                    refine z_aloadN (pc := 301) (j := 1) C dJ25_resize_301 rfl ?_
                    refine z_dup (pc := 303) C dJ25_resize_303 rfl ?_
                    refine z_astoreN (pc := 304) (L' := [(8, .null), (10, .ref x.n), (13, .null), (12, .null), (11, .null), (9, .ref a4.n), (7, .int (iI i)), (6, .ref a2), (4, .int (iI ((2 * cap : Nat) : Int))), (2, .int (iI ((cap : Nat) : Int))), (1, .ref tb), (0, .ref m)]) C dJ25_resize_304 (by rw [hnL]; decide) rfl ?_
                    refine z_ifnonnullN (pc := 306) C dJ25_resize_306 ?_
                    refine Z.weak (L' := [(12, .null), (11, .null), (10, .ref x.n), (9, .ref a4.n), (7, .int (iI i)), (6, .ref a2), (4, .int (iI ((2 * cap : Nat) : Int))), (2, .int (iI ((cap : Nat) : Int))), (1, .ref tb), (0, .ref m)]) (kc' := 0) (ks' := 0) [3, 4, 1, 5, 6, 7, 8, 9, 10, 11] rfl (by omega) (by omega) ?_
                    exact tail _ _ _ _ _ _ _ (kh15.n hmg2 (List.not_mem_cons_of_ne_of_not_mem (zneC hmg2 hzn (by decide)) List.not_mem_nil)) (kh15.n ht02 (List.not_mem_cons_of_ne_of_not_mem (Ne.symm (zneA hzn ht02)) List.not_mem_nil)) (kh15.n ht12 (List.not_mem_cons_of_ne_of_not_mem (Ne.symm (zneA hzn ht12)) List.not_mem_nil)) hI2n
                · rw [hz5] at hs5
                  obtain ⟨a5, ha5, hav5⟩ := hs5.hd
                  subst ht5 hav5
                  show Z X g2 0 0 [(12, .ref z5.n), (11, .ref a5.n), (10, .ref z4.n), (9, .ref a4.n), (8, .ref x.n), (7, .int (iI i)), (6, .ref a2), (4, .int (iI ((2 * cap : Nat) : Int))), (2, .int (iI ((cap : Nat) : Int))), (1, .ref tb), (0, .ref m)] 235 []
                  refine z_aload (pc := 235) (j := 4) C dJ25_resize_235 rfl ?_
                  refine z_getfield (pc := 237) (v := .null) C in_J28 rfl 3 (by decide) q1520 (fun _ z => z) hxn rfl dJ25_resize_237 ?_
                  refine z_astoreN (pc := 240) (L' := [(13, .null), (12, .ref z5.n), (11, .ref a5.n), (10, .ref z4.n), (9, .ref a4.n), (8, .ref x.n), (7, .int (iI i)), (6, .ref a2), (4, .int (iI ((2 * cap : Nat) : Int))), (2, .int (iI ((cap : Nat) : Int))), (1, .ref tb), (0, .ref m)]) C dJ25_resize_240 (by rw [hnL]; decide) rfl ?_
                  refine z_aload (pc := 242) (j := 5) C dJ25_resize_242 rfl ?_
                  refine z_getfield (pc := 244) (v := .int (iI x.c)) C in_J28 rfl 0 (by decide) q1509 (fun _ z => z) hxn rfl dJ25_resize_244 ?_
                  refine z_iload_n (pc := 247) (j := 9) C dJ25_resize_247 rfl rfl ?_
                  refine z_iand (pc := 248) C dJ25_resize_248 (iand_o hc2 hxc) ?_
                  show Z X g2 0 0 [(13, .null), (12, .ref z5.n), (11, .ref a5.n), (10, .ref z4.n), (9, .ref a4.n), (8, .ref x.n), (7, .int (iI i)), (6, .ref a2), (4, .int (iI ((2 * cap : Nat) : Int))), (2, .int (iI ((cap : Nat) : Int))), (1, .ref tb), (0, .ref m)] 249 [.int (iI (if x.c.toNat / cap % 2 = 0 then 0 else ((cap : Nat) : Int)))]
                  refine z_if_ne (pc := 249) (tgt := 278) C dJ25_resize_249 (by decide) (by omega) (fun c249 => ?_) (fun c249 => ?_)
                  · have hlo : ¬ lob cap x := by simp only [lob]; split at c249 <;> omega
                    have hzp := (fh_m (cap := cap) (l := p) (e := z5)).mp (by rw [hz5]; simp)
                    have hze := hN4 z5 (List.mem_append_left _ hzp.1)
                    have hzx := hN1 z5 hzp.1 x List.mem_cons_self
                    obtain ⟨nz, hzn⟩ := hI1.2.2.1 z5 hze
                    refine z_aload (pc := 278) (j := 1) C dJ25_resize_278 rfl ?_
                    refine z_ifnonnull (pc := 280) (tgt := 290) C dJ25_resize_280 (by decide) ?_
                    refine z_aload (pc := 290) (j := 1) C dJ25_resize_290 rfl ?_
                    refine z_aload (pc := 292) (j := 5) C dJ25_resize_292 rfl ?_
                    refine z_putfield (pc := 294) (fs' := [.int (iI z5.c), .ref z5.k, .ref z5.v, .ref x.n]) C in_J28 tyJ28 tyJ28_ok nmJ28 rfl 3 (by decide) q1520 (fun _ z => z) rfl rfl rfl (Nat.le_of_ble_eq_true rfl) hzn rfl dJ25_resize_294 ?_
                    refine Z.nm (fun h16 eh16 => ?_)
                    have kh16 : zkeep g2 h16 [z5.n] := by rw [eh16]; exact zkeep.up zkeep.rf (Or.inl (by simp)) hzn
                    have fh16_0 : h16 z5.n = some (true, .inr (15, [.int (iI z5.c), .ref z5.k, .ref z5.v, .ref x.n])) := zse eh16
                    have hI2n := rzI.hi1 hic hnd hMe hI hz5 hs5 hlo hxn hyc kh16 fh16_0
                    refine z_aload (pc := 297) (j := 5) C dJ25_resize_297 rfl ?_
                    refine z_astore (pc := 299) (L' := [(12, .ref x.n), (13, .null), (11, .ref a5.n), (10, .ref z4.n), (9, .ref a4.n), (8, .ref x.n), (7, .int (iI i)), (6, .ref a2), (4, .int (iI ((2 * cap : Nat) : Int))), (2, .int (iI ((cap : Nat) : Int))), (1, .ref tb), (0, .ref m)]) C dJ25_resize_299 (by rw [hnL]; decide) rfl ?_
                    refine z_aloadN (pc := 301) (j := 1) C dJ25_resize_301 rfl ?_
                    refine z_dup (pc := 303) C dJ25_resize_303 rfl ?_
                    refine z_astoreN (pc := 304) (L' := [(8, .null), (12, .ref x.n), (13, .null), (11, .ref a5.n), (10, .ref z4.n), (9, .ref a4.n), (7, .int (iI i)), (6, .ref a2), (4, .int (iI ((2 * cap : Nat) : Int))), (2, .int (iI ((cap : Nat) : Int))), (1, .ref tb), (0, .ref m)]) C dJ25_resize_304 (by rw [hnL]; decide) rfl ?_
                    refine z_ifnonnullN (pc := 306) C dJ25_resize_306 ?_
                    refine Z.weak (L' := [(12, .ref x.n), (11, .ref a5.n), (10, .ref z4.n), (9, .ref a4.n), (7, .int (iI i)), (6, .ref a2), (4, .int (iI ((2 * cap : Nat) : Int))), (2, .int (iI ((cap : Nat) : Int))), (1, .ref tb), (0, .ref m)]) (kc' := 0) (ks' := 0) [1, 3, 4, 5, 6, 7, 8, 9, 10, 11] rfl (by omega) (by omega) ?_
                    exact tail _ _ _ _ _ _ _ (kh16.n hmg2 (List.not_mem_cons_of_ne_of_not_mem (zneC hmg2 hzn (by decide)) List.not_mem_nil)) (kh16.n ht02 (List.not_mem_cons_of_ne_of_not_mem (Ne.symm (zneA hzn ht02)) List.not_mem_nil)) (kh16.n ht12 (List.not_mem_cons_of_ne_of_not_mem (Ne.symm (zneA hzn ht12)) List.not_mem_nil)) hI2n
                  · have hlo : lob cap x := by simp only [lob]; split at c249 <;> omega
                    have hzp := (fl_m (cap := cap) (l := p) (e := z4)).mp (by rw [hz4]; simp)
                    have hze := hN4 z4 (List.mem_append_left _ hzp.1)
                    have hzx := hN1 z4 hzp.1 x List.mem_cons_self
                    obtain ⟨nz, hzn⟩ := hI1.2.2.1 z4 hze
                    refine z_aload (pc := 252) (j := 3) C dJ25_resize_252 rfl ?_
                    refine z_ifnonnull (pc := 254) (tgt := 264) C dJ25_resize_254 (by decide) ?_
                    refine z_aload (pc := 264) (j := 3) C dJ25_resize_264 rfl ?_
                    refine z_aload (pc := 266) (j := 5) C dJ25_resize_266 rfl ?_
                    refine z_putfield (pc := 268) (fs' := [.int (iI z4.c), .ref z4.k, .ref z4.v, .ref x.n]) C in_J28 tyJ28 tyJ28_ok nmJ28 rfl 3 (by decide) q1520 (fun _ z => z) rfl rfl rfl (Nat.le_of_ble_eq_true rfl) hzn rfl dJ25_resize_268 ?_
                    refine Z.nm (fun h17 eh17 => ?_)
                    have kh17 : zkeep g2 h17 [z4.n] := by rw [eh17]; exact zkeep.up zkeep.rf (Or.inl (by simp)) hzn
                    have fh17_0 : h17 z4.n = some (true, .inr (15, [.int (iI z4.c), .ref z4.k, .ref z4.v, .ref x.n])) := zse eh17
                    have hI2n := rzI.lo1 hic hnd hMe hI hz4 hs4 hlo hxn hyc kh17 fh17_0
                    refine z_aload (pc := 271) (j := 5) C dJ25_resize_271 rfl ?_
                    refine z_astore (pc := 273) (L' := [(10, .ref x.n), (13, .null), (12, .ref z5.n), (11, .ref a5.n), (9, .ref a4.n), (8, .ref x.n), (7, .int (iI i)), (6, .ref a2), (4, .int (iI ((2 * cap : Nat) : Int))), (2, .int (iI ((cap : Nat) : Int))), (1, .ref tb), (0, .ref m)]) C dJ25_resize_273 (by rw [hnL]; decide) rfl ?_
                    refine z_goto (pc := 275) (tgt := 301) C dJ25_resize_275 (by decide) ?_
                    refine z_aloadN (pc := 301) (j := 1) C dJ25_resize_301 rfl ?_
                    refine z_dup (pc := 303) C dJ25_resize_303 rfl ?_
                    refine z_astoreN (pc := 304) (L' := [(8, .null), (10, .ref x.n), (13, .null), (12, .ref z5.n), (11, .ref a5.n), (9, .ref a4.n), (7, .int (iI i)), (6, .ref a2), (4, .int (iI ((2 * cap : Nat) : Int))), (2, .int (iI ((cap : Nat) : Int))), (1, .ref tb), (0, .ref m)]) C dJ25_resize_304 (by rw [hnL]; decide) rfl ?_
                    refine z_ifnonnullN (pc := 306) C dJ25_resize_306 ?_
                    refine Z.weak (L' := [(12, .ref z5.n), (11, .ref a5.n), (10, .ref x.n), (9, .ref a4.n), (7, .int (iI i)), (6, .ref a2), (4, .int (iI ((2 * cap : Nat) : Int))), (2, .int (iI ((cap : Nat) : Int))), (1, .ref tb), (0, .ref m)]) (kc' := 0) (ks' := 0) [3, 4, 1, 5, 6, 7, 8, 9, 10, 11] rfl (by omega) (by omega) ?_
                    exact tail _ _ _ _ _ _ _ (kh17.n hmg2 (List.not_mem_cons_of_ne_of_not_mem (zneC hmg2 hzn (by decide)) List.not_mem_nil)) (kh17.n ht02 (List.not_mem_cons_of_ne_of_not_mem (Ne.symm (zneA hzn ht02)) List.not_mem_nil)) (kh17.n ht12 (List.not_mem_cons_of_ne_of_not_mem (Ne.symm (zneA hzn ht12)) List.not_mem_nil)) hI2n
            · obtain ⟨hv4, nx4, hn4, hr4⟩ := id hyc
              subst hv4
              rcases hI4 with ⟨hn4_, hp4, hq4⟩ | ⟨l4, z4, hz4, ht4, hs4⟩
              · subst hp4 hq4
                rcases hI5 with ⟨hn5_, hp5, hq5⟩ | ⟨l5, z5, hz5, ht5, hs5⟩
                · subst hp5 hq5
                  show Z X g2 0 0 [(12, .null), (11, .null), (10, .null), (9, .null), (8, .ref x.n), (7, .int (iI i)), (6, .ref a2), (4, .int (iI ((2 * cap : Nat) : Int))), (2, .int (iI ((cap : Nat) : Int))), (1, .ref tb), (0, .ref m)] 235 []
                  refine z_aload (pc := 235) (j := 4) C dJ25_resize_235 rfl ?_
                  refine z_getfield (pc := 237) (v := .ref x2.n) C in_J28 rfl 3 (by decide) q1520 (fun _ z => z) hxn rfl dJ25_resize_237 ?_
                  refine z_astore (pc := 240) (L' := [(13, .ref x2.n), (12, .null), (11, .null), (10, .null), (9, .null), (8, .ref x.n), (7, .int (iI i)), (6, .ref a2), (4, .int (iI ((2 * cap : Nat) : Int))), (2, .int (iI ((cap : Nat) : Int))), (1, .ref tb), (0, .ref m)]) C dJ25_resize_240 (by rw [hnL]; decide) rfl ?_
                  refine z_aload (pc := 242) (j := 5) C dJ25_resize_242 rfl ?_
                  refine z_getfield (pc := 244) (v := .int (iI x.c)) C in_J28 rfl 0 (by decide) q1509 (fun _ z => z) hxn rfl dJ25_resize_244 ?_
                  refine z_iload_n (pc := 247) (j := 9) C dJ25_resize_247 rfl rfl ?_
                  refine z_iand (pc := 248) C dJ25_resize_248 (iand_o hc2 hxc) ?_
                  show Z X g2 0 0 [(13, .ref x2.n), (12, .null), (11, .null), (10, .null), (9, .null), (8, .ref x.n), (7, .int (iI i)), (6, .ref a2), (4, .int (iI ((2 * cap : Nat) : Int))), (2, .int (iI ((cap : Nat) : Int))), (1, .ref tb), (0, .ref m)] 249 [.int (iI (if x.c.toNat / cap % 2 = 0 then 0 else ((cap : Nat) : Int)))]
                  refine z_if_ne (pc := 249) (tgt := 278) C dJ25_resize_249 (by decide) (by omega) (fun c249 => ?_) (fun c249 => ?_)
                  · have hlo : ¬ lob cap x := by simp only [lob]; split at c249 <;> omega
                    have hI2n := hI.hi0 hlo hxn hyc
                    refine z_aloadN (pc := 278) (j := 1) C dJ25_resize_278 rfl ?_
                    refine z_ifnonnullN (pc := 280) C dJ25_resize_280 ?_
                    refine z_aload (pc := 283) (j := 5) C dJ25_resize_283 rfl ?_
                    refine z_astore (pc := 285) (L' := [(11, .ref x.n), (13, .ref x2.n), (12, .null), (10, .null), (9, .null), (8, .ref x.n), (7, .int (iI i)), (6, .ref a2), (4, .int (iI ((2 * cap : Nat) : Int))), (2, .int (iI ((cap : Nat) : Int))), (1, .ref tb), (0, .ref m)]) C dJ25_resize_285 (by rw [hnL]; decide) rfl ?_
                    refine z_goto (pc := 287) (tgt := 297) C dJ25_resize_287 (by decide) ?_
                    refine z_aload (pc := 297) (j := 5) C dJ25_resize_297 rfl ?_
                    refine z_astore (pc := 299) (L' := [(12, .ref x.n), (11, .ref x.n), (13, .ref x2.n), (10, .null), (9, .null), (8, .ref x.n), (7, .int (iI i)), (6, .ref a2), (4, .int (iI ((2 * cap : Nat) : Int))), (2, .int (iI ((cap : Nat) : Int))), (1, .ref tb), (0, .ref m)]) C dJ25_resize_299 (by rw [hnL]; decide) rfl ?_
                    refine z_aload (pc := 301) (j := 2) C dJ25_resize_301 rfl ?_
                    refine z_dup (pc := 303) C dJ25_resize_303 rfl ?_
                    refine z_astore (pc := 304) (L' := [(8, .ref x2.n), (12, .ref x.n), (11, .ref x.n), (13, .ref x2.n), (10, .null), (9, .null), (7, .int (iI i)), (6, .ref a2), (4, .int (iI ((2 * cap : Nat) : Int))), (2, .int (iI ((cap : Nat) : Int))), (1, .ref tb), (0, .ref m)]) C dJ25_resize_304 (by rw [hnL]; decide) rfl ?_
                    refine z_ifnonnull (pc := 306) (tgt := 235) C dJ25_resize_306 (by decide) ?_
                    refine Z.weak (L' := [(12, .ref x.n), (11, .ref x.n), (10, .null), (9, .null), (8, .ref x2.n), (7, .int (iI i)), (6, .ref a2), (4, .int (iI ((2 * cap : Nat) : Int))), (2, .int (iI ((cap : Nat) : Int))), (1, .ref tb), (0, .ref m)]) (kc' := 0) (ks' := 0) [1, 2, 4, 5, 0, 6, 7, 8, 9, 10, 11] rfl (by omega) (by omega) ?_
                    exact ih235 _ (by rw [← hn235]; exact Nat.lt_succ_self _) g2 (p ++ [x]) x2 y2 .null .null (.ref x.n) (.ref x.n) hmg2 ht02 ht12 hI2n rfl
                  · have hlo : lob cap x := by simp only [lob]; split at c249 <;> omega
                    have hI2n := hI.lo0 hlo hxn hyc
                    refine z_aloadN (pc := 252) (j := 3) C dJ25_resize_252 rfl ?_
                    refine z_ifnonnullN (pc := 254) C dJ25_resize_254 ?_
                    refine z_aload (pc := 257) (j := 5) C dJ25_resize_257 rfl ?_
                    refine z_astore (pc := 259) (L' := [(9, .ref x.n), (13, .ref x2.n), (12, .null), (11, .null), (10, .null), (8, .ref x.n), (7, .int (iI i)), (6, .ref a2), (4, .int (iI ((2 * cap : Nat) : Int))), (2, .int (iI ((cap : Nat) : Int))), (1, .ref tb), (0, .ref m)]) C dJ25_resize_259 (by rw [hnL]; decide) rfl ?_
                    refine z_goto (pc := 261) (tgt := 271) C dJ25_resize_261 (by decide) ?_
                    refine z_aload (pc := 271) (j := 5) C dJ25_resize_271 rfl ?_
                    refine z_astore (pc := 273) (L' := [(10, .ref x.n), (9, .ref x.n), (13, .ref x2.n), (12, .null), (11, .null), (8, .ref x.n), (7, .int (iI i)), (6, .ref a2), (4, .int (iI ((2 * cap : Nat) : Int))), (2, .int (iI ((cap : Nat) : Int))), (1, .ref tb), (0, .ref m)]) C dJ25_resize_273 (by rw [hnL]; decide) rfl ?_
                    refine z_goto (pc := 275) (tgt := 301) C dJ25_resize_275 (by decide) ?_
                    refine z_aload (pc := 301) (j := 2) C dJ25_resize_301 rfl ?_
                    refine z_dup (pc := 303) C dJ25_resize_303 rfl ?_
                    refine z_astore (pc := 304) (L' := [(8, .ref x2.n), (10, .ref x.n), (9, .ref x.n), (13, .ref x2.n), (12, .null), (11, .null), (7, .int (iI i)), (6, .ref a2), (4, .int (iI ((2 * cap : Nat) : Int))), (2, .int (iI ((cap : Nat) : Int))), (1, .ref tb), (0, .ref m)]) C dJ25_resize_304 (by rw [hnL]; decide) rfl ?_
                    refine z_ifnonnull (pc := 306) (tgt := 235) C dJ25_resize_306 (by decide) ?_
                    refine Z.weak (L' := [(12, .null), (11, .null), (10, .ref x.n), (9, .ref x.n), (8, .ref x2.n), (7, .int (iI i)), (6, .ref a2), (4, .int (iI ((2 * cap : Nat) : Int))), (2, .int (iI ((cap : Nat) : Int))), (1, .ref tb), (0, .ref m)]) (kc' := 0) (ks' := 0) [4, 5, 1, 2, 0, 6, 7, 8, 9, 10, 11] rfl (by omega) (by omega) ?_
                    exact ih235 _ (by rw [← hn235]; exact Nat.lt_succ_self _) g2 (p ++ [x]) x2 y2 (.ref x.n) (.ref x.n) .null .null hmg2 ht02 ht12 hI2n rfl
                · rw [hz5] at hs5
                  obtain ⟨a5, ha5, hav5⟩ := hs5.hd
                  subst ht5 hav5
                  show Z X g2 0 0 [(12, .ref z5.n), (11, .ref a5.n), (10, .null), (9, .null), (8, .ref x.n), (7, .int (iI i)), (6, .ref a2), (4, .int (iI ((2 * cap : Nat) : Int))), (2, .int (iI ((cap : Nat) : Int))), (1, .ref tb), (0, .ref m)] 235 []
                  refine z_aload (pc := 235) (j := 4) C dJ25_resize_235 rfl ?_
                  refine z_getfield (pc := 237) (v := .ref x2.n) C in_J28 rfl 3 (by decide) q1520 (fun _ z => z) hxn rfl dJ25_resize_237 ?_
                  refine z_astore (pc := 240) (L' := [(13, .ref x2.n), (12, .ref z5.n), (11, .ref a5.n), (10, .null), (9, .null), (8, .ref x.n), (7, .int (iI i)), (6, .ref a2), (4, .int (iI ((2 * cap : Nat) : Int))), (2, .int (iI ((cap : Nat) : Int))), (1, .ref tb), (0, .ref m)]) C dJ25_resize_240 (by rw [hnL]; decide) rfl ?_
                  refine z_aload (pc := 242) (j := 5) C dJ25_resize_242 rfl ?_
                  refine z_getfield (pc := 244) (v := .int (iI x.c)) C in_J28 rfl 0 (by decide) q1509 (fun _ z => z) hxn rfl dJ25_resize_244 ?_
                  refine z_iload_n (pc := 247) (j := 9) C dJ25_resize_247 rfl rfl ?_
                  refine z_iand (pc := 248) C dJ25_resize_248 (iand_o hc2 hxc) ?_
                  show Z X g2 0 0 [(13, .ref x2.n), (12, .ref z5.n), (11, .ref a5.n), (10, .null), (9, .null), (8, .ref x.n), (7, .int (iI i)), (6, .ref a2), (4, .int (iI ((2 * cap : Nat) : Int))), (2, .int (iI ((cap : Nat) : Int))), (1, .ref tb), (0, .ref m)] 249 [.int (iI (if x.c.toNat / cap % 2 = 0 then 0 else ((cap : Nat) : Int)))]
                  refine z_if_ne (pc := 249) (tgt := 278) C dJ25_resize_249 (by decide) (by omega) (fun c249 => ?_) (fun c249 => ?_)
                  · have hlo : ¬ lob cap x := by simp only [lob]; split at c249 <;> omega
                    have hzp := (fh_m (cap := cap) (l := p) (e := z5)).mp (by rw [hz5]; simp)
                    have hze := hN4 z5 (List.mem_append_left _ hzp.1)
                    have hzx := hN1 z5 hzp.1 x List.mem_cons_self
                    obtain ⟨nz, hzn⟩ := hI1.2.2.1 z5 hze
                    refine z_aload (pc := 278) (j := 1) C dJ25_resize_278 rfl ?_
                    refine z_ifnonnull (pc := 280) (tgt := 290) C dJ25_resize_280 (by decide) ?_
                    refine z_aload (pc := 290) (j := 1) C dJ25_resize_290 rfl ?_
                    refine z_aload (pc := 292) (j := 5) C dJ25_resize_292 rfl ?_
                    refine z_putfield (pc := 294) (fs' := [.int (iI z5.c), .ref z5.k, .ref z5.v, .ref x.n]) C in_J28 tyJ28 tyJ28_ok nmJ28 rfl 3 (by decide) q1520 (fun _ z => z) rfl rfl rfl (Nat.le_of_ble_eq_true rfl) hzn rfl dJ25_resize_294 ?_
                    refine Z.nm (fun h18 eh18 => ?_)
                    have kh18 : zkeep g2 h18 [z5.n] := by rw [eh18]; exact zkeep.up zkeep.rf (Or.inl (by simp)) hzn
                    have fh18_0 : h18 z5.n = some (true, .inr (15, [.int (iI z5.c), .ref z5.k, .ref z5.v, .ref x.n])) := zse eh18
                    have hI2n := rzI.hi1 hic hnd hMe hI hz5 hs5 hlo hxn hyc kh18 fh18_0
                    refine z_aload (pc := 297) (j := 5) C dJ25_resize_297 rfl ?_
                    refine z_astore (pc := 299) (L' := [(12, .ref x.n), (13, .ref x2.n), (11, .ref a5.n), (10, .null), (9, .null), (8, .ref x.n), (7, .int (iI i)), (6, .ref a2), (4, .int (iI ((2 * cap : Nat) : Int))), (2, .int (iI ((cap : Nat) : Int))), (1, .ref tb), (0, .ref m)]) C dJ25_resize_299 (by rw [hnL]; decide) rfl ?_
                    refine z_aload (pc := 301) (j := 1) C dJ25_resize_301 rfl ?_
                    refine z_dup (pc := 303) C dJ25_resize_303 rfl ?_
                    refine z_astore (pc := 304) (L' := [(8, .ref x2.n), (12, .ref x.n), (13, .ref x2.n), (11, .ref a5.n), (10, .null), (9, .null), (7, .int (iI i)), (6, .ref a2), (4, .int (iI ((2 * cap : Nat) : Int))), (2, .int (iI ((cap : Nat) : Int))), (1, .ref tb), (0, .ref m)]) C dJ25_resize_304 (by rw [hnL]; decide) rfl ?_
                    refine z_ifnonnull (pc := 306) (tgt := 235) C dJ25_resize_306 (by decide) ?_
                    refine Z.weak (L' := [(12, .ref x.n), (11, .ref a5.n), (10, .null), (9, .null), (8, .ref x2.n), (7, .int (iI i)), (6, .ref a2), (4, .int (iI ((2 * cap : Nat) : Int))), (2, .int (iI ((cap : Nat) : Int))), (1, .ref tb), (0, .ref m)]) (kc' := 0) (ks' := 0) [1, 3, 4, 5, 0, 6, 7, 8, 9, 10, 11] rfl (by omega) (by omega) ?_
                    exact ih235 _ (by rw [← hn235]; exact Nat.lt_succ_self _) h18 (p ++ [x]) x2 y2 .null .null (.ref a5.n) (.ref x.n) (kh18.n hmg2 (List.not_mem_cons_of_ne_of_not_mem (zneC hmg2 hzn (by decide)) List.not_mem_nil)) (kh18.n ht02 (List.not_mem_cons_of_ne_of_not_mem (Ne.symm (zneA hzn ht02)) List.not_mem_nil)) (kh18.n ht12 (List.not_mem_cons_of_ne_of_not_mem (Ne.symm (zneA hzn ht12)) List.not_mem_nil)) hI2n rfl
                  · have hlo : lob cap x := by simp only [lob]; split at c249 <;> omega
                    have hI2n := hI.lo0 hlo hxn hyc
                    refine z_aloadN (pc := 252) (j := 3) C dJ25_resize_252 rfl ?_
                    refine z_ifnonnullN (pc := 254) C dJ25_resize_254 ?_
                    refine z_aload (pc := 257) (j := 5) C dJ25_resize_257 rfl ?_
                    refine z_astore (pc := 259) (L' := [(9, .ref x.n), (13, .ref x2.n), (12, .ref z5.n), (11, .ref a5.n), (10, .null), (8, .ref x.n), (7, .int (iI i)), (6, .ref a2), (4, .int (iI ((2 * cap : Nat) : Int))), (2, .int (iI ((cap : Nat) : Int))), (1, .ref tb), (0, .ref m)]) C dJ25_resize_259 (by rw [hnL]; decide) rfl ?_
                    refine z_goto (pc := 261) (tgt := 271) C dJ25_resize_261 (by decide) ?_
                    refine z_aload (pc := 271) (j := 5) C dJ25_resize_271 rfl ?_
                    refine z_astore (pc := 273) (L' := [(10, .ref x.n), (9, .ref x.n), (13, .ref x2.n), (12, .ref z5.n), (11, .ref a5.n), (8, .ref x.n), (7, .int (iI i)), (6, .ref a2), (4, .int (iI ((2 * cap : Nat) : Int))), (2, .int (iI ((cap : Nat) : Int))), (1, .ref tb), (0, .ref m)]) C dJ25_resize_273 (by rw [hnL]; decide) rfl ?_
                    refine z_goto (pc := 275) (tgt := 301) C dJ25_resize_275 (by decide) ?_
                    refine z_aload (pc := 301) (j := 2) C dJ25_resize_301 rfl ?_
                    refine z_dup (pc := 303) C dJ25_resize_303 rfl ?_
                    refine z_astore (pc := 304) (L' := [(8, .ref x2.n), (10, .ref x.n), (9, .ref x.n), (13, .ref x2.n), (12, .ref z5.n), (11, .ref a5.n), (7, .int (iI i)), (6, .ref a2), (4, .int (iI ((2 * cap : Nat) : Int))), (2, .int (iI ((cap : Nat) : Int))), (1, .ref tb), (0, .ref m)]) C dJ25_resize_304 (by rw [hnL]; decide) rfl ?_
                    refine z_ifnonnull (pc := 306) (tgt := 235) C dJ25_resize_306 (by decide) ?_
                    refine Z.weak (L' := [(12, .ref z5.n), (11, .ref a5.n), (10, .ref x.n), (9, .ref x.n), (8, .ref x2.n), (7, .int (iI i)), (6, .ref a2), (4, .int (iI ((2 * cap : Nat) : Int))), (2, .int (iI ((cap : Nat) : Int))), (1, .ref tb), (0, .ref m)]) (kc' := 0) (ks' := 0) [4, 5, 1, 2, 0, 6, 7, 8, 9, 10, 11] rfl (by omega) (by omega) ?_
                    exact ih235 _ (by rw [← hn235]; exact Nat.lt_succ_self _) g2 (p ++ [x]) x2 y2 (.ref x.n) (.ref x.n) (.ref a5.n) (.ref z5.n) hmg2 ht02 ht12 hI2n rfl
              · rw [hz4] at hs4
                obtain ⟨a4, ha4, hav4⟩ := hs4.hd
                subst ht4 hav4
                rcases hI5 with ⟨hn5_, hp5, hq5⟩ | ⟨l5, z5, hz5, ht5, hs5⟩
                · subst hp5 hq5
                  show Z X g2 0 0 [(12, .null), (11, .null), (10, .ref z4.n), (9, .ref a4.n), (8, .ref x.n), (7, .int (iI i)), (6, .ref a2), (4, .int (iI ((2 * cap : Nat) : Int))), (2, .int (iI ((cap : Nat) : Int))), (1, .ref tb), (0, .ref m)] 235 []
                  refine z_aload (pc := 235) (j := 4) C dJ25_resize_235 rfl ?_
                  refine z_getfield (pc := 237) (v := .ref x2.n) C in_J28 rfl 3 (by decide) q1520 (fun _ z => z) hxn rfl dJ25_resize_237 ?_
                  refine z_astore (pc := 240) (L' := [(13, .ref x2.n), (12, .null), (11, .null), (10, .ref z4.n), (9, .ref a4.n), (8, .ref x.n), (7, .int (iI i)), (6, .ref a2), (4, .int (iI ((2 * cap : Nat) : Int))), (2, .int (iI ((cap : Nat) : Int))), (1, .ref tb), (0, .ref m)]) C dJ25_resize_240 (by rw [hnL]; decide) rfl ?_
                  refine z_aload (pc := 242) (j := 5) C dJ25_resize_242 rfl ?_
                  refine z_getfield (pc := 244) (v := .int (iI x.c)) C in_J28 rfl 0 (by decide) q1509 (fun _ z => z) hxn rfl dJ25_resize_244 ?_
                  refine z_iload_n (pc := 247) (j := 9) C dJ25_resize_247 rfl rfl ?_
                  refine z_iand (pc := 248) C dJ25_resize_248 (iand_o hc2 hxc) ?_
                  show Z X g2 0 0 [(13, .ref x2.n), (12, .null), (11, .null), (10, .ref z4.n), (9, .ref a4.n), (8, .ref x.n), (7, .int (iI i)), (6, .ref a2), (4, .int (iI ((2 * cap : Nat) : Int))), (2, .int (iI ((cap : Nat) : Int))), (1, .ref tb), (0, .ref m)] 249 [.int (iI (if x.c.toNat / cap % 2 = 0 then 0 else ((cap : Nat) : Int)))]
                  refine z_if_ne (pc := 249) (tgt := 278) C dJ25_resize_249 (by decide) (by omega) (fun c249 => ?_) (fun c249 => ?_)
                  · have hlo : ¬ lob cap x := by simp only [lob]; split at c249 <;> omega
                    have hI2n := hI.hi0 hlo hxn hyc
                    refine z_aloadN (pc := 278) (j := 1) C dJ25_resize_278 rfl ?_
                    refine z_ifnonnullN (pc := 280) C dJ25_resize_280 ?_
                    refine z_aload (pc := 283) (j := 5) C dJ25_resize_283 rfl ?_
                    refine z_astore (pc := 285) (L' := [(11, .ref x.n), (13, .ref x2.n), (12, .null), (10, .ref z4.n), (9, .ref a4.n), (8, .ref x.n), (7, .int (iI i)), (6, .ref a2), (4, .int (iI ((2 * cap : Nat) : Int))), (2, .int (iI ((cap : Nat) : Int))), (1, .ref tb), (0, .ref m)]) C dJ25_resize_285 (by rw [hnL]; decide) rfl ?_
                    refine z_goto (pc := 287) (tgt := 297) C dJ25_resize_287 (by decide) ?_
                    refine z_aload (pc := 297) (j := 5) C dJ25_resize_297 rfl ?_
                    refine z_astore (pc := 299) (L' := [(12, .ref x.n), (11, .ref x.n), (13, .ref x2.n), (10, .ref z4.n), (9, .ref a4.n), (8, .ref x.n), (7, .int (iI i)), (6, .ref a2), (4, .int (iI ((2 * cap : Nat) : Int))), (2, .int (iI ((cap : Nat) : Int))), (1, .ref tb), (0, .ref m)]) C dJ25_resize_299 (by rw [hnL]; decide) rfl ?_
                    refine z_aload (pc := 301) (j := 2) C dJ25_resize_301 rfl ?_
                    refine z_dup (pc := 303) C dJ25_resize_303 rfl ?_
                    refine z_astore (pc := 304) (L' := [(8, .ref x2.n), (12, .ref x.n), (11, .ref x.n), (13, .ref x2.n), (10, .ref z4.n), (9, .ref a4.n), (7, .int (iI i)), (6, .ref a2), (4, .int (iI ((2 * cap : Nat) : Int))), (2, .int (iI ((cap : Nat) : Int))), (1, .ref tb), (0, .ref m)]) C dJ25_resize_304 (by rw [hnL]; decide) rfl ?_
                    refine z_ifnonnull (pc := 306) (tgt := 235) C dJ25_resize_306 (by decide) ?_
                    refine Z.weak (L' := [(12, .ref x.n), (11, .ref x.n), (10, .ref z4.n), (9, .ref a4.n), (8, .ref x2.n), (7, .int (iI i)), (6, .ref a2), (4, .int (iI ((2 * cap : Nat) : Int))), (2, .int (iI ((cap : Nat) : Int))), (1, .ref tb), (0, .ref m)]) (kc' := 0) (ks' := 0) [1, 2, 4, 5, 0, 6, 7, 8, 9, 10, 11] rfl (by omega) (by omega) ?_
                    exact ih235 _ (by rw [← hn235]; exact Nat.lt_succ_self _) g2 (p ++ [x]) x2 y2 (.ref a4.n) (.ref z4.n) (.ref x.n) (.ref x.n) hmg2 ht02 ht12 hI2n rfl
                  · have hlo : lob cap x := by simp only [lob]; split at c249 <;> omega
                    have hzp := (fl_m (cap := cap) (l := p) (e := z4)).mp (by rw [hz4]; simp)
                    have hze := hN4 z4 (List.mem_append_left _ hzp.1)
                    have hzx := hN1 z4 hzp.1 x List.mem_cons_self
                    obtain ⟨nz, hzn⟩ := hI1.2.2.1 z4 hze
                    refine z_aload (pc := 252) (j := 3) C dJ25_resize_252 rfl ?_
                    refine z_ifnonnull (pc := 254) (tgt := 264) C dJ25_resize_254 (by decide) ?_
                    refine z_aload (pc := 264) (j := 3) C dJ25_resize_264 rfl ?_
                    refine z_aload (pc := 266) (j := 5) C dJ25_resize_266 rfl ?_
                    refine z_putfield (pc := 268) (fs' := [.int (iI z4.c), .ref z4.k, .ref z4.v, .ref x.n]) C in_J28 tyJ28 tyJ28_ok nmJ28 rfl 3 (by decide) q1520 (fun _ z => z) rfl rfl rfl (Nat.le_of_ble_eq_true rfl) hzn rfl dJ25_resize_268 ?_
                    refine Z.nm (fun h19 eh19 => ?_)
                    have kh19 : zkeep g2 h19 [z4.n] := by rw [eh19]; exact zkeep.up zkeep.rf (Or.inl (by simp)) hzn
                    have fh19_0 : h19 z4.n = some (true, .inr (15, [.int (iI z4.c), .ref z4.k, .ref z4.v, .ref x.n])) := zse eh19
                    have hI2n := rzI.lo1 hic hnd hMe hI hz4 hs4 hlo hxn hyc kh19 fh19_0
                    refine z_aload (pc := 271) (j := 5) C dJ25_resize_271 rfl ?_
                    refine z_astore (pc := 273) (L' := [(10, .ref x.n), (13, .ref x2.n), (12, .null), (11, .null), (9, .ref a4.n), (8, .ref x.n), (7, .int (iI i)), (6, .ref a2), (4, .int (iI ((2 * cap : Nat) : Int))), (2, .int (iI ((cap : Nat) : Int))), (1, .ref tb), (0, .ref m)]) C dJ25_resize_273 (by rw [hnL]; decide) rfl ?_
                    refine z_goto (pc := 275) (tgt := 301) C dJ25_resize_275 (by decide) ?_
                    refine z_aload (pc := 301) (j := 1) C dJ25_resize_301 rfl ?_
                    refine z_dup (pc := 303) C dJ25_resize_303 rfl ?_
                    refine z_astore (pc := 304) (L' := [(8, .ref x2.n), (10, .ref x.n), (13, .ref x2.n), (12, .null), (11, .null), (9, .ref a4.n), (7, .int (iI i)), (6, .ref a2), (4, .int (iI ((2 * cap : Nat) : Int))), (2, .int (iI ((cap : Nat) : Int))), (1, .ref tb), (0, .ref m)]) C dJ25_resize_304 (by rw [hnL]; decide) rfl ?_
                    refine z_ifnonnull (pc := 306) (tgt := 235) C dJ25_resize_306 (by decide) ?_
                    refine Z.weak (L' := [(12, .null), (11, .null), (10, .ref x.n), (9, .ref a4.n), (8, .ref x2.n), (7, .int (iI i)), (6, .ref a2), (4, .int (iI ((2 * cap : Nat) : Int))), (2, .int (iI ((cap : Nat) : Int))), (1, .ref tb), (0, .ref m)]) (kc' := 0) (ks' := 0) [3, 4, 1, 5, 0, 6, 7, 8, 9, 10, 11] rfl (by omega) (by omega) ?_
                    exact ih235 _ (by rw [← hn235]; exact Nat.lt_succ_self _) h19 (p ++ [x]) x2 y2 (.ref a4.n) (.ref x.n) .null .null (kh19.n hmg2 (List.not_mem_cons_of_ne_of_not_mem (zneC hmg2 hzn (by decide)) List.not_mem_nil)) (kh19.n ht02 (List.not_mem_cons_of_ne_of_not_mem (Ne.symm (zneA hzn ht02)) List.not_mem_nil)) (kh19.n ht12 (List.not_mem_cons_of_ne_of_not_mem (Ne.symm (zneA hzn ht12)) List.not_mem_nil)) hI2n rfl
                · rw [hz5] at hs5
                  obtain ⟨a5, ha5, hav5⟩ := hs5.hd
                  subst ht5 hav5
                  show Z X g2 0 0 [(12, .ref z5.n), (11, .ref a5.n), (10, .ref z4.n), (9, .ref a4.n), (8, .ref x.n), (7, .int (iI i)), (6, .ref a2), (4, .int (iI ((2 * cap : Nat) : Int))), (2, .int (iI ((cap : Nat) : Int))), (1, .ref tb), (0, .ref m)] 235 []
                  refine z_aload (pc := 235) (j := 4) C dJ25_resize_235 rfl ?_
                  refine z_getfield (pc := 237) (v := .ref x2.n) C in_J28 rfl 3 (by decide) q1520 (fun _ z => z) hxn rfl dJ25_resize_237 ?_
                  refine z_astore (pc := 240) (L' := [(13, .ref x2.n), (12, .ref z5.n), (11, .ref a5.n), (10, .ref z4.n), (9, .ref a4.n), (8, .ref x.n), (7, .int (iI i)), (6, .ref a2), (4, .int (iI ((2 * cap : Nat) : Int))), (2, .int (iI ((cap : Nat) : Int))), (1, .ref tb), (0, .ref m)]) C dJ25_resize_240 (by rw [hnL]; decide) rfl ?_
                  refine z_aload (pc := 242) (j := 5) C dJ25_resize_242 rfl ?_
                  refine z_getfield (pc := 244) (v := .int (iI x.c)) C in_J28 rfl 0 (by decide) q1509 (fun _ z => z) hxn rfl dJ25_resize_244 ?_
                  refine z_iload_n (pc := 247) (j := 9) C dJ25_resize_247 rfl rfl ?_
                  refine z_iand (pc := 248) C dJ25_resize_248 (iand_o hc2 hxc) ?_
                  show Z X g2 0 0 [(13, .ref x2.n), (12, .ref z5.n), (11, .ref a5.n), (10, .ref z4.n), (9, .ref a4.n), (8, .ref x.n), (7, .int (iI i)), (6, .ref a2), (4, .int (iI ((2 * cap : Nat) : Int))), (2, .int (iI ((cap : Nat) : Int))), (1, .ref tb), (0, .ref m)] 249 [.int (iI (if x.c.toNat / cap % 2 = 0 then 0 else ((cap : Nat) : Int)))]
                  refine z_if_ne (pc := 249) (tgt := 278) C dJ25_resize_249 (by decide) (by omega) (fun c249 => ?_) (fun c249 => ?_)
                  · have hlo : ¬ lob cap x := by simp only [lob]; split at c249 <;> omega
                    have hzp := (fh_m (cap := cap) (l := p) (e := z5)).mp (by rw [hz5]; simp)
                    have hze := hN4 z5 (List.mem_append_left _ hzp.1)
                    have hzx := hN1 z5 hzp.1 x List.mem_cons_self
                    obtain ⟨nz, hzn⟩ := hI1.2.2.1 z5 hze
                    refine z_aload (pc := 278) (j := 1) C dJ25_resize_278 rfl ?_
                    refine z_ifnonnull (pc := 280) (tgt := 290) C dJ25_resize_280 (by decide) ?_
                    refine z_aload (pc := 290) (j := 1) C dJ25_resize_290 rfl ?_
                    refine z_aload (pc := 292) (j := 5) C dJ25_resize_292 rfl ?_
                    refine z_putfield (pc := 294) (fs' := [.int (iI z5.c), .ref z5.k, .ref z5.v, .ref x.n]) C in_J28 tyJ28 tyJ28_ok nmJ28 rfl 3 (by decide) q1520 (fun _ z => z) rfl rfl rfl (Nat.le_of_ble_eq_true rfl) hzn rfl dJ25_resize_294 ?_
                    refine Z.nm (fun h20 eh20 => ?_)
                    have kh20 : zkeep g2 h20 [z5.n] := by rw [eh20]; exact zkeep.up zkeep.rf (Or.inl (by simp)) hzn
                    have fh20_0 : h20 z5.n = some (true, .inr (15, [.int (iI z5.c), .ref z5.k, .ref z5.v, .ref x.n])) := zse eh20
                    have hI2n := rzI.hi1 hic hnd hMe hI hz5 hs5 hlo hxn hyc kh20 fh20_0
                    refine z_aload (pc := 297) (j := 5) C dJ25_resize_297 rfl ?_
                    refine z_astore (pc := 299) (L' := [(12, .ref x.n), (13, .ref x2.n), (11, .ref a5.n), (10, .ref z4.n), (9, .ref a4.n), (8, .ref x.n), (7, .int (iI i)), (6, .ref a2), (4, .int (iI ((2 * cap : Nat) : Int))), (2, .int (iI ((cap : Nat) : Int))), (1, .ref tb), (0, .ref m)]) C dJ25_resize_299 (by rw [hnL]; decide) rfl ?_
                    refine z_aload (pc := 301) (j := 1) C dJ25_resize_301 rfl ?_
                    refine z_dup (pc := 303) C dJ25_resize_303 rfl ?_
                    refine z_astore (pc := 304) (L' := [(8, .ref x2.n), (12, .ref x.n), (13, .ref x2.n), (11, .ref a5.n), (10, .ref z4.n), (9, .ref a4.n), (7, .int (iI i)), (6, .ref a2), (4, .int (iI ((2 * cap : Nat) : Int))), (2, .int (iI ((cap : Nat) : Int))), (1, .ref tb), (0, .ref m)]) C dJ25_resize_304 (by rw [hnL]; decide) rfl ?_
                    refine z_ifnonnull (pc := 306) (tgt := 235) C dJ25_resize_306 (by decide) ?_
                    refine Z.weak (L' := [(12, .ref x.n), (11, .ref a5.n), (10, .ref z4.n), (9, .ref a4.n), (8, .ref x2.n), (7, .int (iI i)), (6, .ref a2), (4, .int (iI ((2 * cap : Nat) : Int))), (2, .int (iI ((cap : Nat) : Int))), (1, .ref tb), (0, .ref m)]) (kc' := 0) (ks' := 0) [1, 3, 4, 5, 0, 6, 7, 8, 9, 10, 11] rfl (by omega) (by omega) ?_
                    exact ih235 _ (by rw [← hn235]; exact Nat.lt_succ_self _) h20 (p ++ [x]) x2 y2 (.ref a4.n) (.ref z4.n) (.ref a5.n) (.ref x.n) (kh20.n hmg2 (List.not_mem_cons_of_ne_of_not_mem (zneC hmg2 hzn (by decide)) List.not_mem_nil)) (kh20.n ht02 (List.not_mem_cons_of_ne_of_not_mem (Ne.symm (zneA hzn ht02)) List.not_mem_nil)) (kh20.n ht12 (List.not_mem_cons_of_ne_of_not_mem (Ne.symm (zneA hzn ht12)) List.not_mem_nil)) hI2n rfl
                  · have hlo : lob cap x := by simp only [lob]; split at c249 <;> omega
                    have hzp := (fl_m (cap := cap) (l := p) (e := z4)).mp (by rw [hz4]; simp)
                    have hze := hN4 z4 (List.mem_append_left _ hzp.1)
                    have hzx := hN1 z4 hzp.1 x List.mem_cons_self
                    obtain ⟨nz, hzn⟩ := hI1.2.2.1 z4 hze
                    refine z_aload (pc := 252) (j := 3) C dJ25_resize_252 rfl ?_
                    refine z_ifnonnull (pc := 254) (tgt := 264) C dJ25_resize_254 (by decide) ?_
                    refine z_aload (pc := 264) (j := 3) C dJ25_resize_264 rfl ?_
                    refine z_aload (pc := 266) (j := 5) C dJ25_resize_266 rfl ?_
                    refine z_putfield (pc := 268) (fs' := [.int (iI z4.c), .ref z4.k, .ref z4.v, .ref x.n]) C in_J28 tyJ28 tyJ28_ok nmJ28 rfl 3 (by decide) q1520 (fun _ z => z) rfl rfl rfl (Nat.le_of_ble_eq_true rfl) hzn rfl dJ25_resize_268 ?_
                    refine Z.nm (fun h21 eh21 => ?_)
                    have kh21 : zkeep g2 h21 [z4.n] := by rw [eh21]; exact zkeep.up zkeep.rf (Or.inl (by simp)) hzn
                    have fh21_0 : h21 z4.n = some (true, .inr (15, [.int (iI z4.c), .ref z4.k, .ref z4.v, .ref x.n])) := zse eh21
                    have hI2n := rzI.lo1 hic hnd hMe hI hz4 hs4 hlo hxn hyc kh21 fh21_0
                    refine z_aload (pc := 271) (j := 5) C dJ25_resize_271 rfl ?_
                    refine z_astore (pc := 273) (L' := [(10, .ref x.n), (13, .ref x2.n), (12, .ref z5.n), (11, .ref a5.n), (9, .ref a4.n), (8, .ref x.n), (7, .int (iI i)), (6, .ref a2), (4, .int (iI ((2 * cap : Nat) : Int))), (2, .int (iI ((cap : Nat) : Int))), (1, .ref tb), (0, .ref m)]) C dJ25_resize_273 (by rw [hnL]; decide) rfl ?_
                    refine z_goto (pc := 275) (tgt := 301) C dJ25_resize_275 (by decide) ?_
                    refine z_aload (pc := 301) (j := 1) C dJ25_resize_301 rfl ?_
                    refine z_dup (pc := 303) C dJ25_resize_303 rfl ?_
                    refine z_astore (pc := 304) (L' := [(8, .ref x2.n), (10, .ref x.n), (13, .ref x2.n), (12, .ref z5.n), (11, .ref a5.n), (9, .ref a4.n), (7, .int (iI i)), (6, .ref a2), (4, .int (iI ((2 * cap : Nat) : Int))), (2, .int (iI ((cap : Nat) : Int))), (1, .ref tb), (0, .ref m)]) C dJ25_resize_304 (by rw [hnL]; decide) rfl ?_
                    refine z_ifnonnull (pc := 306) (tgt := 235) C dJ25_resize_306 (by decide) ?_
                    refine Z.weak (L' := [(12, .ref z5.n), (11, .ref a5.n), (10, .ref x.n), (9, .ref a4.n), (8, .ref x2.n), (7, .int (iI i)), (6, .ref a2), (4, .int (iI ((2 * cap : Nat) : Int))), (2, .int (iI ((cap : Nat) : Int))), (1, .ref tb), (0, .ref m)]) (kc' := 0) (ks' := 0) [3, 4, 1, 5, 0, 6, 7, 8, 9, 10, 11] rfl (by omega) (by omega) ?_
                    exact ih235 _ (by rw [← hn235]; exact Nat.lt_succ_self _) h21 (p ++ [x]) x2 y2 (.ref a4.n) (.ref x.n) (.ref a5.n) (.ref z5.n) (kh21.n hmg2 (List.not_mem_cons_of_ne_of_not_mem (zneC hmg2 hzn (by decide)) List.not_mem_nil)) (kh21.n ht02 (List.not_mem_cons_of_ne_of_not_mem (Ne.symm (zneA hzn ht02)) List.not_mem_nil)) (kh21.n ht12 (List.not_mem_cons_of_ne_of_not_mem (Ne.symm (zneA hzn ht12)) List.not_mem_nil)) hI2n rfl
          refine Z.weak (L' := [(12, .null), (11, .null), (10, .null), (9, .null), (8, .ref x0.n), (7, .int (iI i)), (6, .ref a2), (4, .int (iI ((2 * cap : Nat) : Int))), (2, .int (iI ((cap : Nat) : Int))), (1, .ref tb), (0, .ref m)]) (kc' := 0) (ks' := 0) [0, 1, 2, 3, 4, 5, 6, 7, 8, 9, 10] rfl (by omega) (by omega) ?_
          exact loop235 _ h7 ([]) x0 (x2 :: r2) .null .null .null .null (kh7.n hmg (List.not_mem_cons_of_ne_of_not_mem (zneA hmg ht0) List.not_mem_nil)) fh7_0 (kh7.n ht1 (List.not_mem_cons_of_ne_of_not_mem (Ne.symm hTT) List.not_mem_nil)) hI0 rfl
  refine Z.weak (L' := [(7, .int (iI 0)), (6, .ref a2), (4, .int (iI ((2 * cap : Nat) : Int))), (2, .int (iI ((cap : Nat) : Int))), (1, .ref tb), (0, .ref m)]) (kc' := 0) (ks' := 0) [0, 1, 3, 5, 6, 7] rfl (by omega) (by omega) ?_
  exact loop151 _ 0 h4 f (fun _ => .null) (by omega) fh4_0 (kh4.n htb (List.not_mem_cons_of_ne_of_not_mem (Ne.symm (zneA hmf htb)) List.not_mem_nil)) fh4_1 (zneF htb na2) (rzJ.init hch (fun e he => hm.nd he) hmf kh4 (by simp [mFp])) rfl

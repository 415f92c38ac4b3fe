/-! 38.put.lean.txt -/
set_option maxRecDepth 100000
abbrev cJ25_treeifyBin : ByteArray := prog_48_method_18_code
def yJ25_treeifyBin : MethodName := ⟨RJ25, "treeifyBin", "([Ljava/util/HashMap$Node;I)V"⟩
def dkwJ25_treeifyBin_4 : List UInt8 := [21, 4, 25, 6, 91, 83, 198, 0, 9, 25, 6, 43, 182, 0, 224, 177]
abbrev dktJ25_treeifyBin_4 : List UInt8 := dkwJ25_treeifyBin_4 ++ []
def dkwJ25_treeifyBin_3 : List UInt8 := [25, 7, 25, 8, 181, 0, 223, 25, 8, 58, 7, 25, 5, 180, 0, 177, 89, 58, 5, 199, 255, 209, 43]
abbrev dktJ25_treeifyBin_3 : List UInt8 := dkwJ25_treeifyBin_3 ++ dktJ25_treeifyBin_4
def dkwJ25_treeifyBin_2 : List UInt8 := [182, 0, 215, 58, 8, 25, 7, 199, 0, 10, 25, 8, 58, 6, 167, 0, 17, 25, 8, 25, 7, 181, 0, 219]
abbrev dktJ25_treeifyBin_2 : List UInt8 := dkwJ25_treeifyBin_2 ++ dktJ25_treeifyBin_3
def dkwJ25_treeifyBin_1 : List UInt8 := [100, 28, 126, 89, 54, 4, 50, 89, 58, 5, 198, 0, 75, 1, 58, 6, 1, 58, 7, 42, 25, 5, 1]
abbrev dktJ25_treeifyBin_1 : List UInt8 := dkwJ25_treeifyBin_1 ++ dktJ25_treeifyBin_2
def dkwJ25_treeifyBin_0 : List UInt8 := [43, 198, 0, 12, 43, 190, 89, 62, 16, 64, 162, 0, 11, 42, 182, 0, 117, 87, 167, 0, 91, 43, 29, 4]
abbrev dktJ25_treeifyBin_0 : List UInt8 := dkwJ25_treeifyBin_0 ++ dktJ25_treeifyBin_1
theorem dksJ25_treeifyBin_0 : cJ25_treeifyBin.data.toList.drop 0 = dktJ25_treeifyBin_0 := by decide +kernel
theorem dksJ25_treeifyBin_1 : cJ25_treeifyBin.data.toList.drop 24 = dktJ25_treeifyBin_1 := dk_seg dksJ25_treeifyBin_0 24 rfl rfl
theorem dksJ25_treeifyBin_2 : cJ25_treeifyBin.data.toList.drop 47 = dktJ25_treeifyBin_2 := dk_seg dksJ25_treeifyBin_1 23 rfl rfl
theorem dksJ25_treeifyBin_3 : cJ25_treeifyBin.data.toList.drop 71 = dktJ25_treeifyBin_3 := dk_seg dksJ25_treeifyBin_2 24 rfl rfl
theorem dksJ25_treeifyBin_4 : cJ25_treeifyBin.data.toList.drop 94 = dktJ25_treeifyBin_4 := dk_seg dksJ25_treeifyBin_3 23 rfl rfl
abbrev cJ25_putVal : ByteArray := prog_48_method_16_code
def yJ25_putVal : MethodName := ⟨RJ25, "putVal", "(ILjava/lang/Object;Ljava/lang/Object;ZZ)Ljava/lang/Object;"⟩
def dkwJ25_putVal_12 : List UInt8 := [181, 0, 156, 42, 180, 0, 88, 164, 0, 8, 42, 182, 0, 117, 87, 42, 21, 5, 182, 0, 205, 1, 176]
abbrev dktJ25_putVal_12 : List UInt8 := dkwJ25_putVal_12 ++ []
def dkwJ25_putVal_11 : List UInt8 := [182, 0, 198, 25, 12, 176, 42, 89, 180, 0, 202, 4, 96, 181, 0, 202, 42, 89, 180, 0, 156, 4, 96, 90]
abbrev dktJ25_putVal_11 : List UInt8 := dkwJ25_putVal_11 ++ dktJ25_putVal_12
def dkwJ25_putVal_10 : List UInt8 := [180, 0, 162, 58, 12, 21, 4, 153, 0, 8, 25, 12, 199, 0, 9, 25, 10, 45, 181, 0, 162, 42, 25, 10]
abbrev dktJ25_putVal_10 : List UInt8 := dkwJ25_putVal_10 ++ dktJ25_putVal_11
def dkwJ25_putVal_9 : List UInt8 := [153, 0, 6, 167, 0, 13, 25, 10, 58, 7, 132, 12, 1, 167, 255, 171, 25, 10, 198, 0, 35, 25, 10]
abbrev dktJ25_putVal_9 : List UInt8 := dkwJ25_putVal_9 ++ dktJ25_putVal_10
def dkwJ25_putVal_8 : List UInt8 := [25, 10, 180, 0, 170, 89, 58, 11, 44, 165, 0, 29, 44, 198, 0, 15, 44, 25, 11, 182, 0, 173]
abbrev dktJ25_putVal_8 : List UInt8 := dkwJ25_putVal_8 ++ dktJ25_putVal_9
def dkwJ25_putVal_7 : List UInt8 := [16, 7, 161, 0, 60, 42, 25, 6, 27, 182, 0, 194, 167, 0, 50, 25, 10, 180, 0, 168, 27, 160, 0, 31]
abbrev dktJ25_putVal_7 : List UInt8 := dkwJ25_putVal_7 ++ dktJ25_putVal_8
def dkwJ25_putVal_6 : List UInt8 := [180, 0, 177, 89, 58, 10, 199, 0, 33, 25, 7, 42, 27, 44, 45, 1, 182, 0, 186, 181, 0, 177, 21, 12]
abbrev dktJ25_putVal_6 : List UInt8 := dkwJ25_putVal_6 ++ dktJ25_putVal_7
def dkwJ25_putVal_5 : List UInt8 := [192, 0, 180, 42, 25, 6, 27, 44, 45, 182, 0, 190, 58, 10, 167, 0, 94, 3, 54, 12, 25, 7]
abbrev dktJ25_putVal_5 : List UInt8 := dkwJ25_putVal_5 ++ dktJ25_putVal_6
def dkwJ25_putVal_4 : List UInt8 := [182, 0, 173, 153, 0, 10, 25, 7, 58, 10, 167, 0, 121, 25, 7, 193, 0, 180, 153, 0, 22, 25, 7]
abbrev dktJ25_putVal_4 : List UInt8 := dkwJ25_putVal_4 ++ dktJ25_putVal_5
def dkwJ25_putVal_3 : List UInt8 := [160, 0, 35, 25, 7, 180, 0, 170, 89, 58, 11, 44, 165, 0, 16, 44, 198, 0, 19, 44, 25, 11]
abbrev dktJ25_putVal_3 : List UInt8 := dkwJ25_putVal_3 ++ dktJ25_putVal_4
def dkwJ25_putVal_2 : List UInt8 := [25, 6, 21, 9, 42, 27, 44, 45, 1, 182, 0, 186, 83, 167, 0, 199, 25, 7, 180, 0, 168, 27]
abbrev dktJ25_putVal_2 : List UInt8 := dkwJ25_putVal_2 ++ dktJ25_putVal_3
def dkwJ25_putVal_1 : List UInt8 := [58, 6, 190, 54, 8, 25, 6, 21, 8, 4, 100, 27, 126, 89, 54, 9, 50, 89, 58, 7, 199, 0, 19]
abbrev dktJ25_putVal_1 : List UInt8 := dkwJ25_putVal_1 ++ dktJ25_putVal_2
def dkwJ25_putVal_0 : List UInt8 := [42, 180, 0, 105, 89, 58, 6, 198, 0, 12, 25, 6, 190, 89, 54, 8, 154, 0, 13, 42, 182, 0, 117, 89]
abbrev dktJ25_putVal_0 : List UInt8 := dkwJ25_putVal_0 ++ dktJ25_putVal_1
theorem dksJ25_putVal_0 : cJ25_putVal.data.toList.drop 0 = dktJ25_putVal_0 := by decide +kernel
theorem dksJ25_putVal_1 : cJ25_putVal.data.toList.drop 24 = dktJ25_putVal_1 := dk_seg dksJ25_putVal_0 24 rfl rfl
theorem dksJ25_putVal_2 : cJ25_putVal.data.toList.drop 47 = dktJ25_putVal_2 := dk_seg dksJ25_putVal_1 23 rfl rfl
theorem dksJ25_putVal_3 : cJ25_putVal.data.toList.drop 69 = dktJ25_putVal_3 := dk_seg dksJ25_putVal_2 22 rfl rfl
theorem dksJ25_putVal_4 : cJ25_putVal.data.toList.drop 91 = dktJ25_putVal_4 := dk_seg dksJ25_putVal_3 22 rfl rfl
theorem dksJ25_putVal_5 : cJ25_putVal.data.toList.drop 114 = dktJ25_putVal_5 := dk_seg dksJ25_putVal_4 23 rfl rfl
theorem dksJ25_putVal_6 : cJ25_putVal.data.toList.drop 136 = dktJ25_putVal_6 := dk_seg dksJ25_putVal_5 22 rfl rfl
theorem dksJ25_putVal_7 : cJ25_putVal.data.toList.drop 160 = dktJ25_putVal_7 := dk_seg dksJ25_putVal_6 24 rfl rfl
theorem dksJ25_putVal_8 : cJ25_putVal.data.toList.drop 184 = dktJ25_putVal_8 := dk_seg dksJ25_putVal_7 24 rfl rfl
theorem dksJ25_putVal_9 : cJ25_putVal.data.toList.drop 206 = dktJ25_putVal_9 := dk_seg dksJ25_putVal_8 22 rfl rfl
theorem dksJ25_putVal_10 : cJ25_putVal.data.toList.drop 229 = dktJ25_putVal_10 := dk_seg dksJ25_putVal_9 23 rfl rfl
theorem dksJ25_putVal_11 : cJ25_putVal.data.toList.drop 253 = dktJ25_putVal_11 := dk_seg dksJ25_putVal_10 24 rfl rfl
theorem dksJ25_putVal_12 : cJ25_putVal.data.toList.drop 277 = dktJ25_putVal_12 := dk_seg dksJ25_putVal_11 24 rfl rfl
theorem dJ25_resize_9 : decode cJ25_resize 9 = .ok (.iconst 0, 1) := dk_3 (dk_at dksJ25_resize_0 9 rfl rfl)
theorem dJ25_resize_10 : decode cJ25_resize 10 = .ok (.goto 5, 3) := dk_167 0 5 (dk_at dksJ25_resize_0 10 rfl rfl)
theorem dJ25_resize_67 : decode cJ25_resize 67 = .ok (.iload_n 3, 1) := dk_29 (dk_at dksJ25_resize_2 19 rfl rfl)
theorem dJ25_resize_68 : decode cJ25_resize 68 = .ok (.ifCond .le 9, 3) := dk_158 0 9 (dk_at dksJ25_resize_2 20 rfl rfl)
theorem dJ25_resize_77 : decode cJ25_resize 77 = .ok (.bipush 16, 2) := dk_16 16 (dk_at dksJ25_resize_3 5 rfl rfl)
theorem dJ25_resize_79 : decode cJ25_resize 79 = .ok (.istore 4, 2) := dk_54 4 (dk_at dksJ25_resize_3 7 rfl rfl)
theorem dJ25_resize_81 : decode cJ25_resize 81 = .ok (.bipush 12, 2) := dk_16 12 (dk_at dksJ25_resize_3 9 rfl rfl)
theorem dJ25_resize_83 : decode cJ25_resize 83 = .ok (.istore 5, 2) := dk_54 5 (dk_at dksJ25_resize_3 11 rfl rfl)
theorem dJ25_treeifyBin_0 : decode cJ25_treeifyBin 0 = .ok (.aload_n 1, 1) := dk_43 (dk_at dksJ25_treeifyBin_0 0 rfl rfl)
theorem dJ25_treeifyBin_1 : decode cJ25_treeifyBin 1 = .ok (.ifnull 12, 3) := dk_198 0 12 (dk_at dksJ25_treeifyBin_0 1 rfl rfl)
theorem dJ25_treeifyBin_4 : decode cJ25_treeifyBin 4 = .ok (.aload_n 1, 1) := dk_43 (dk_at dksJ25_treeifyBin_0 4 rfl rfl)
theorem dJ25_treeifyBin_5 : decode cJ25_treeifyBin 5 = .ok (.arraylength, 1) := dk_190 (dk_at dksJ25_treeifyBin_0 5 rfl rfl)
theorem dJ25_treeifyBin_6 : decode cJ25_treeifyBin 6 = .ok (.dup, 1) := dk_89 (dk_at dksJ25_treeifyBin_0 6 rfl rfl)
theorem dJ25_treeifyBin_7 : decode cJ25_treeifyBin 7 = .ok (.istore_n 3, 1) := dk_62 (dk_at dksJ25_treeifyBin_0 7 rfl rfl)
theorem dJ25_treeifyBin_8 : decode cJ25_treeifyBin 8 = .ok (.bipush 64, 2) := dk_16 64 (dk_at dksJ25_treeifyBin_0 8 rfl rfl)
theorem dJ25_treeifyBin_10 : decode cJ25_treeifyBin 10 = .ok (.if_icmp .ge 11, 3) := dk_162 0 11 (dk_at dksJ25_treeifyBin_0 10 rfl rfl)
theorem dJ25_treeifyBin_13 : decode cJ25_treeifyBin 13 = .ok (.aload_n 0, 1) := dk_42 (dk_at dksJ25_treeifyBin_0 13 rfl rfl)
theorem dJ25_treeifyBin_14 : decode cJ25_treeifyBin 14 = .ok (.invokevirtual 117, 3) := dk_182 0 117 (dk_at dksJ25_treeifyBin_0 14 rfl rfl)
theorem dJ25_treeifyBin_17 : decode cJ25_treeifyBin 17 = .ok (.pop, 1) := dk_87 (dk_at dksJ25_treeifyBin_0 17 rfl rfl)
theorem dJ25_treeifyBin_18 : decode cJ25_treeifyBin 18 = .ok (.goto 91, 3) := dk_167 0 91 (dk_at dksJ25_treeifyBin_0 18 rfl rfl)
theorem dJ25_treeifyBin_109 : decode cJ25_treeifyBin 109 = .ok (.return_, 1) := dk_177 (dk_at dksJ25_treeifyBin_4 15 rfl rfl)
theorem dJ25_putVal_0 : decode cJ25_putVal 0 = .ok (.aload_n 0, 1) := dk_42 (dk_at dksJ25_putVal_0 0 rfl rfl)
theorem dJ25_putVal_1 : decode cJ25_putVal 1 = .ok (.getfield 105, 3) := dk_180 0 105 (dk_at dksJ25_putVal_0 1 rfl rfl)
theorem dJ25_putVal_4 : decode cJ25_putVal 4 = .ok (.dup, 1) := dk_89 (dk_at dksJ25_putVal_0 4 rfl rfl)
theorem dJ25_putVal_5 : decode cJ25_putVal 5 = .ok (.astore 6, 2) := dk_58 6 (dk_at dksJ25_putVal_0 5 rfl rfl)
theorem dJ25_putVal_7 : decode cJ25_putVal 7 = .ok (.ifnull 12, 3) := dk_198 0 12 (dk_at dksJ25_putVal_0 7 rfl rfl)
theorem dJ25_putVal_10 : decode cJ25_putVal 10 = .ok (.aload 6, 2) := dk_25 6 (dk_at dksJ25_putVal_0 10 rfl rfl)
theorem dJ25_putVal_12 : decode cJ25_putVal 12 = .ok (.arraylength, 1) := dk_190 (dk_at dksJ25_putVal_0 12 rfl rfl)
theorem dJ25_putVal_13 : decode cJ25_putVal 13 = .ok (.dup, 1) := dk_89 (dk_at dksJ25_putVal_0 13 rfl rfl)
theorem dJ25_putVal_14 : decode cJ25_putVal 14 = .ok (.istore 8, 2) := dk_54 8 (dk_at dksJ25_putVal_0 14 rfl rfl)
theorem dJ25_putVal_16 : decode cJ25_putVal 16 = .ok (.ifCond .ne 13, 3) := dk_154 0 13 (dk_at dksJ25_putVal_0 16 rfl rfl)
theorem dJ25_putVal_19 : decode cJ25_putVal 19 = .ok (.aload_n 0, 1) := dk_42 (dk_at dksJ25_putVal_0 19 rfl rfl)
theorem dJ25_putVal_20 : decode cJ25_putVal 20 = .ok (.invokevirtual 117, 3) := dk_182 0 117 (dk_at dksJ25_putVal_0 20 rfl rfl)
theorem dJ25_putVal_23 : decode cJ25_putVal 23 = .ok (.dup, 1) := dk_89 (dk_at dksJ25_putVal_0 23 rfl rfl)
theorem dJ25_putVal_24 : decode cJ25_putVal 24 = .ok (.astore 6, 2) := dk_58 6 (dk_at dksJ25_putVal_1 0 rfl rfl)
theorem dJ25_putVal_26 : decode cJ25_putVal 26 = .ok (.arraylength, 1) := dk_190 (dk_at dksJ25_putVal_1 2 rfl rfl)
theorem dJ25_putVal_27 : decode cJ25_putVal 27 = .ok (.istore 8, 2) := dk_54 8 (dk_at dksJ25_putVal_1 3 rfl rfl)
theorem dJ25_putVal_29 : decode cJ25_putVal 29 = .ok (.aload 6, 2) := dk_25 6 (dk_at dksJ25_putVal_1 5 rfl rfl)
theorem dJ25_putVal_31 : decode cJ25_putVal 31 = .ok (.iload 8, 2) := dk_21 8 (dk_at dksJ25_putVal_1 7 rfl rfl)
theorem dJ25_putVal_33 : decode cJ25_putVal 33 = .ok (.iconst 1, 1) := dk_4 (dk_at dksJ25_putVal_1 9 rfl rfl)
theorem dJ25_putVal_34 : decode cJ25_putVal 34 = .ok (.isub, 1) := dk_100 (dk_at dksJ25_putVal_1 10 rfl rfl)
theorem dJ25_putVal_35 : decode cJ25_putVal 35 = .ok (.iload_n 1, 1) := dk_27 (dk_at dksJ25_putVal_1 11 rfl rfl)
theorem dJ25_putVal_36 : decode cJ25_putVal 36 = .ok (.iand, 1) := dk_126 (dk_at dksJ25_putVal_1 12 rfl rfl)
theorem dJ25_putVal_37 : decode cJ25_putVal 37 = .ok (.dup, 1) := dk_89 (dk_at dksJ25_putVal_1 13 rfl rfl)
theorem dJ25_putVal_38 : decode cJ25_putVal 38 = .ok (.istore 9, 2) := dk_54 9 (dk_at dksJ25_putVal_1 14 rfl rfl)
theorem dJ25_putVal_40 : decode cJ25_putVal 40 = .ok (.aaload, 1) := dk_50 (dk_at dksJ25_putVal_1 16 rfl rfl)
theorem dJ25_putVal_41 : decode cJ25_putVal 41 = .ok (.dup, 1) := dk_89 (dk_at dksJ25_putVal_1 17 rfl rfl)
theorem dJ25_putVal_42 : decode cJ25_putVal 42 = .ok (.astore 7, 2) := dk_58 7 (dk_at dksJ25_putVal_1 18 rfl rfl)
theorem dJ25_putVal_44 : decode cJ25_putVal 44 = .ok (.ifnonnull 19, 3) := dk_199 0 19 (dk_at dksJ25_putVal_1 20 rfl rfl)
theorem dJ25_putVal_47 : decode cJ25_putVal 47 = .ok (.aload 6, 2) := dk_25 6 (dk_at dksJ25_putVal_2 0 rfl rfl)
theorem dJ25_putVal_49 : decode cJ25_putVal 49 = .ok (.iload 9, 2) := dk_21 9 (dk_at dksJ25_putVal_2 2 rfl rfl)
theorem dJ25_putVal_51 : decode cJ25_putVal 51 = .ok (.aload_n 0, 1) := dk_42 (dk_at dksJ25_putVal_2 4 rfl rfl)
theorem dJ25_putVal_52 : decode cJ25_putVal 52 = .ok (.iload_n 1, 1) := dk_27 (dk_at dksJ25_putVal_2 5 rfl rfl)
theorem dJ25_putVal_53 : decode cJ25_putVal 53 = .ok (.aload_n 2, 1) := dk_44 (dk_at dksJ25_putVal_2 6 rfl rfl)
theorem dJ25_putVal_54 : decode cJ25_putVal 54 = .ok (.aload_n 3, 1) := dk_45 (dk_at dksJ25_putVal_2 7 rfl rfl)
theorem dJ25_putVal_55 : decode cJ25_putVal 55 = .ok (.aconst_null, 1) := dk_1 (dk_at dksJ25_putVal_2 8 rfl rfl)
theorem dJ25_putVal_56 : decode cJ25_putVal 56 = .ok (.invokevirtual 186, 3) := dk_182 0 186 (dk_at dksJ25_putVal_2 9 rfl rfl)
theorem dJ25_putVal_59 : decode cJ25_putVal 59 = .ok (.aastore, 1) := dk_83 (dk_at dksJ25_putVal_2 12 rfl rfl)
theorem dJ25_putVal_60 : decode cJ25_putVal 60 = .ok (.goto 199, 3) := dk_167 0 199 (dk_at dksJ25_putVal_2 13 rfl rfl)
theorem dJ25_putVal_63 : decode cJ25_putVal 63 = .ok (.aload 7, 2) := dk_25 7 (dk_at dksJ25_putVal_2 16 rfl rfl)
theorem dJ25_putVal_65 : decode cJ25_putVal 65 = .ok (.getfield 168, 3) := dk_180 0 168 (dk_at dksJ25_putVal_2 18 rfl rfl)
theorem dJ25_putVal_68 : decode cJ25_putVal 68 = .ok (.iload_n 1, 1) := dk_27 (dk_at dksJ25_putVal_2 21 rfl rfl)
theorem dJ25_putVal_69 : decode cJ25_putVal 69 = .ok (.if_icmp .ne 35, 3) := dk_160 0 35 (dk_at dksJ25_putVal_3 0 rfl rfl)
theorem dJ25_putVal_104 : decode cJ25_putVal 104 = .ok (.aload 7, 2) := dk_25 7 (dk_at dksJ25_putVal_4 13 rfl rfl)
theorem dJ25_putVal_106 : decode cJ25_putVal 106 = .ok (.instanceof 180, 3) := dk_193 0 180 (dk_at dksJ25_putVal_4 15 rfl rfl)
theorem dJ25_putVal_109 : decode cJ25_putVal 109 = .ok (.ifCond .eq 22, 3) := dk_153 0 22 (dk_at dksJ25_putVal_4 18 rfl rfl)
theorem dJ25_putVal_131 : decode cJ25_putVal 131 = .ok (.iconst 0, 1) := dk_3 (dk_at dksJ25_putVal_5 17 rfl rfl)
theorem dJ25_putVal_132 : decode cJ25_putVal 132 = .ok (.istore 12, 2) := dk_54 12 (dk_at dksJ25_putVal_5 18 rfl rfl)
theorem dJ25_putVal_134 : decode cJ25_putVal 134 = .ok (.aload 7, 2) := dk_25 7 (dk_at dksJ25_putVal_5 20 rfl rfl)
theorem dJ25_putVal_136 : decode cJ25_putVal 136 = .ok (.getfield 177, 3) := dk_180 0 177 (dk_at dksJ25_putVal_6 0 rfl rfl)
theorem dJ25_putVal_139 : decode cJ25_putVal 139 = .ok (.dup, 1) := dk_89 (dk_at dksJ25_putVal_6 3 rfl rfl)
theorem dJ25_putVal_140 : decode cJ25_putVal 140 = .ok (.astore 10, 2) := dk_58 10 (dk_at dksJ25_putVal_6 4 rfl rfl)
theorem dJ25_putVal_142 : decode cJ25_putVal 142 = .ok (.ifnonnull 33, 3) := dk_199 0 33 (dk_at dksJ25_putVal_6 6 rfl rfl)
theorem dJ25_putVal_145 : decode cJ25_putVal 145 = .ok (.aload 7, 2) := dk_25 7 (dk_at dksJ25_putVal_6 9 rfl rfl)
theorem dJ25_putVal_147 : decode cJ25_putVal 147 = .ok (.aload_n 0, 1) := dk_42 (dk_at dksJ25_putVal_6 11 rfl rfl)
theorem dJ25_putVal_148 : decode cJ25_putVal 148 = .ok (.iload_n 1, 1) := dk_27 (dk_at dksJ25_putVal_6 12 rfl rfl)
theorem dJ25_putVal_149 : decode cJ25_putVal 149 = .ok (.aload_n 2, 1) := dk_44 (dk_at dksJ25_putVal_6 13 rfl rfl)
theorem dJ25_putVal_150 : decode cJ25_putVal 150 = .ok (.aload_n 3, 1) := dk_45 (dk_at dksJ25_putVal_6 14 rfl rfl)
theorem dJ25_putVal_151 : decode cJ25_putVal 151 = .ok (.aconst_null, 1) := dk_1 (dk_at dksJ25_putVal_6 15 rfl rfl)
theorem dJ25_putVal_152 : decode cJ25_putVal 152 = .ok (.invokevirtual 186, 3) := dk_182 0 186 (dk_at dksJ25_putVal_6 16 rfl rfl)
theorem dJ25_putVal_155 : decode cJ25_putVal 155 = .ok (.putfield 177, 3) := dk_181 0 177 (dk_at dksJ25_putVal_6 19 rfl rfl)
theorem dJ25_putVal_158 : decode cJ25_putVal 158 = .ok (.iload 12, 2) := dk_21 12 (dk_at dksJ25_putVal_6 22 rfl rfl)
theorem dJ25_putVal_160 : decode cJ25_putVal 160 = .ok (.bipush 7, 2) := dk_16 7 (dk_at dksJ25_putVal_7 0 rfl rfl)
theorem dJ25_putVal_162 : decode cJ25_putVal 162 = .ok (.if_icmp .lt 60, 3) := dk_161 0 60 (dk_at dksJ25_putVal_7 2 rfl rfl)
theorem dJ25_putVal_165 : decode cJ25_putVal 165 = .ok (.aload_n 0, 1) := dk_42 (dk_at dksJ25_putVal_7 5 rfl rfl)
theorem dJ25_putVal_166 : decode cJ25_putVal 166 = .ok (.aload 6, 2) := dk_25 6 (dk_at dksJ25_putVal_7 6 rfl rfl)
theorem dJ25_putVal_168 : decode cJ25_putVal 168 = .ok (.iload_n 1, 1) := dk_27 (dk_at dksJ25_putVal_7 8 rfl rfl)
theorem dJ25_putVal_169 : decode cJ25_putVal 169 = .ok (.invokevirtual 194, 3) := dk_182 0 194 (dk_at dksJ25_putVal_7 9 rfl rfl)
theorem dJ25_putVal_172 : decode cJ25_putVal 172 = .ok (.goto 50, 3) := dk_167 0 50 (dk_at dksJ25_putVal_7 12 rfl rfl)
theorem dJ25_putVal_175 : decode cJ25_putVal 175 = .ok (.aload 10, 2) := dk_25 10 (dk_at dksJ25_putVal_7 15 rfl rfl)
theorem dJ25_putVal_177 : decode cJ25_putVal 177 = .ok (.getfield 168, 3) := dk_180 0 168 (dk_at dksJ25_putVal_7 17 rfl rfl)
theorem dJ25_putVal_180 : decode cJ25_putVal 180 = .ok (.iload_n 1, 1) := dk_27 (dk_at dksJ25_putVal_7 20 rfl rfl)
theorem dJ25_putVal_181 : decode cJ25_putVal 181 = .ok (.if_icmp .ne 31, 3) := dk_160 0 31 (dk_at dksJ25_putVal_7 21 rfl rfl)
theorem dJ25_putVal_212 : decode cJ25_putVal 212 = .ok (.aload 10, 2) := dk_25 10 (dk_at dksJ25_putVal_9 6 rfl rfl)
theorem dJ25_putVal_214 : decode cJ25_putVal 214 = .ok (.astore 7, 2) := dk_58 7 (dk_at dksJ25_putVal_9 8 rfl rfl)
theorem dJ25_putVal_216 : decode cJ25_putVal 216 = .ok (.iinc 12 1, 3) := dk_132 12 1 (dk_at dksJ25_putVal_9 10 rfl rfl)
theorem dJ25_putVal_219 : decode cJ25_putVal 219 = .ok (.goto (-85), 3) := dk_167 255 171 (dk_at dksJ25_putVal_9 13 rfl rfl)
theorem dJ25_putVal_222 : decode cJ25_putVal 222 = .ok (.aload 10, 2) := dk_25 10 (dk_at dksJ25_putVal_9 16 rfl rfl)
theorem dJ25_putVal_224 : decode cJ25_putVal 224 = .ok (.ifnull 35, 3) := dk_198 0 35 (dk_at dksJ25_putVal_9 18 rfl rfl)
theorem dJ25_putVal_259 : decode cJ25_putVal 259 = .ok (.aload_n 0, 1) := dk_42 (dk_at dksJ25_putVal_11 6 rfl rfl)
theorem dJ25_putVal_260 : decode cJ25_putVal 260 = .ok (.dup, 1) := dk_89 (dk_at dksJ25_putVal_11 7 rfl rfl)
theorem dJ25_putVal_261 : decode cJ25_putVal 261 = .ok (.getfield 202, 3) := dk_180 0 202 (dk_at dksJ25_putVal_11 8 rfl rfl)
theorem dJ25_putVal_264 : decode cJ25_putVal 264 = .ok (.iconst 1, 1) := dk_4 (dk_at dksJ25_putVal_11 11 rfl rfl)
theorem dJ25_putVal_265 : decode cJ25_putVal 265 = .ok (.iadd, 1) := dk_96 (dk_at dksJ25_putVal_11 12 rfl rfl)
theorem dJ25_putVal_266 : decode cJ25_putVal 266 = .ok (.putfield 202, 3) := dk_181 0 202 (dk_at dksJ25_putVal_11 13 rfl rfl)
theorem dJ25_putVal_269 : decode cJ25_putVal 269 = .ok (.aload_n 0, 1) := dk_42 (dk_at dksJ25_putVal_11 16 rfl rfl)
theorem dJ25_putVal_270 : decode cJ25_putVal 270 = .ok (.dup, 1) := dk_89 (dk_at dksJ25_putVal_11 17 rfl rfl)
theorem dJ25_putVal_271 : decode cJ25_putVal 271 = .ok (.getfield 156, 3) := dk_180 0 156 (dk_at dksJ25_putVal_11 18 rfl rfl)
theorem dJ25_putVal_274 : decode cJ25_putVal 274 = .ok (.iconst 1, 1) := dk_4 (dk_at dksJ25_putVal_11 21 rfl rfl)
theorem dJ25_putVal_275 : decode cJ25_putVal 275 = .ok (.iadd, 1) := dk_96 (dk_at dksJ25_putVal_11 22 rfl rfl)
theorem dJ25_putVal_276 : decode cJ25_putVal 276 = .ok (.dup_x1, 1) := dk_90 (dk_at dksJ25_putVal_11 23 rfl rfl)
theorem dJ25_putVal_277 : decode cJ25_putVal 277 = .ok (.putfield 156, 3) := dk_181 0 156 (dk_at dksJ25_putVal_12 0 rfl rfl)
theorem dJ25_putVal_280 : decode cJ25_putVal 280 = .ok (.aload_n 0, 1) := dk_42 (dk_at dksJ25_putVal_12 3 rfl rfl)
theorem dJ25_putVal_281 : decode cJ25_putVal 281 = .ok (.getfield 88, 3) := dk_180 0 88 (dk_at dksJ25_putVal_12 4 rfl rfl)
theorem dJ25_putVal_284 : decode cJ25_putVal 284 = .ok (.if_icmp .le 8, 3) := dk_164 0 8 (dk_at dksJ25_putVal_12 7 rfl rfl)
theorem dJ25_putVal_287 : decode cJ25_putVal 287 = .ok (.aload_n 0, 1) := dk_42 (dk_at dksJ25_putVal_12 10 rfl rfl)
theorem dJ25_putVal_288 : decode cJ25_putVal 288 = .ok (.invokevirtual 117, 3) := dk_182 0 117 (dk_at dksJ25_putVal_12 11 rfl rfl)
theorem dJ25_putVal_291 : decode cJ25_putVal 291 = .ok (.pop, 1) := dk_87 (dk_at dksJ25_putVal_12 14 rfl rfl)
theorem dJ25_putVal_292 : decode cJ25_putVal 292 = .ok (.aload_n 0, 1) := dk_42 (dk_at dksJ25_putVal_12 15 rfl rfl)
theorem dJ25_putVal_293 : decode cJ25_putVal 293 = .ok (.iload 5, 2) := dk_21 5 (dk_at dksJ25_putVal_12 16 rfl rfl)
theorem dJ25_putVal_295 : decode cJ25_putVal 295 = .ok (.invokevirtual 205, 3) := dk_182 0 205 (dk_at dksJ25_putVal_12 18 rfl rfl)
theorem dJ25_putVal_298 : decode cJ25_putVal 298 = .ok (.aconst_null, 1) := dk_1 (dk_at dksJ25_putVal_12 21 rfl rfl)
theorem dJ25_putVal_299 : decode cJ25_putVal 299 = .ok (.areturn, 1) := dk_176 (dk_at dksJ25_putVal_12 22 rfl rfl)
theorem q1089 : (Jvm.Cond.fieldLink "java/util/HashMap" (156 : Nat) "java/util/HashMap" "size" "I") ∈ lw_all := lw_g (lw_at lw_m5 67 rfl) rfl
theorem q1090 : (Jvm.Cond.fieldLink "java/util/HashMap" (202 : Nat) "java/util/HashMap" "modCount" "I") ∈ lw_all := lw_g (lw_at lw_m5 68 rfl) rfl
theorem q1479 : (Jvm.Cond.methodLink "java/util/HashMap" (117 : Nat) ({ cls := "java/util/HashMap", name := "resize", desc := "()[Ljava/util/HashMap$Node;" } : Jvm.MethodName)) ∈ lw_all := lw_g (lw_at lw_m6 217 rfl) rfl
theorem q1480 : (Jvm.Cond.instanceMethod ({ cls := "java/util/HashMap", name := "resize", desc := "()[Ljava/util/HashMap$Node;" } : Jvm.MethodName)) ∈ lw_all := lw_g (lw_at lw_m6 218 rfl) rfl
theorem q1481 : (Jvm.Cond.selects "java/util/HashMap" ({ cls := "java/util/HashMap", name := "resize", desc := "()[Ljava/util/HashMap$Node;" } : Jvm.MethodName) ({ cls := "java/util/HashMap", name := "resize", desc := "()[Ljava/util/HashMap$Node;" } : Jvm.MethodName)) ∈ lw_all := lw_g (lw_at lw_m6 219 rfl) rfl
theorem q1482 : (Jvm.Cond.code ({ cls := "java/util/HashMap", name := "resize", desc := "()[Ljava/util/HashMap$Node;" } : Jvm.MethodName) prog_48_method_17_code (14 : Nat) (Option.some (Jvm.ClassFile.FieldType.array (Jvm.ClassFile.FieldType.object "java/util/HashMap$Node")))) ∈ lw_all := lw_g (lw_at lw_m6 220 rfl) rfl
theorem q1549 : (Jvm.Cond.methodLink "java/util/HashMap" (186 : Nat) ({ cls := "java/util/HashMap", name := "newNode", desc := "(ILjava/lang/Object;Ljava/lang/Object;Ljava/util/HashMap$Node;)Ljava/util/HashMap$Node;" } : Jvm.MethodName)) ∈ lw_all := lw_g (lw_at lw_m7 47 rfl) rfl
theorem q1550 : (Jvm.Cond.instanceMethod ({ cls := "java/util/HashMap", name := "newNode", desc := "(ILjava/lang/Object;Ljava/lang/Object;Ljava/util/HashMap$Node;)Ljava/util/HashMap$Node;" } : Jvm.MethodName)) ∈ lw_all := lw_g (lw_at lw_m7 48 rfl) rfl
theorem q1551 : (Jvm.Cond.selects "java/util/HashMap" ({ cls := "java/util/HashMap", name := "newNode", desc := "(ILjava/lang/Object;Ljava/lang/Object;Ljava/util/HashMap$Node;)Ljava/util/HashMap$Node;" } : Jvm.MethodName) ({ cls := "java/util/HashMap", name := "newNode", desc := "(ILjava/lang/Object;Ljava/lang/Object;Ljava/util/HashMap$Node;)Ljava/util/HashMap$Node;" } : Jvm.MethodName)) ∈ lw_all := lw_g (lw_at lw_m7 49 rfl) rfl
theorem q1552 : (Jvm.Cond.code ({ cls := "java/util/HashMap", name := "newNode", desc := "(ILjava/lang/Object;Ljava/lang/Object;Ljava/util/HashMap$Node;)Ljava/util/HashMap$Node;" } : Jvm.MethodName) prog_48_method_46_code (5 : Nat) (Option.some (Jvm.ClassFile.FieldType.object "java/util/HashMap$Node"))) ∈ lw_all := lw_g (lw_at lw_m7 50 rfl) rfl
theorem q1594 : (Jvm.Cond.methodLink "java/util/HashMap" (194 : Nat) ({ cls := "java/util/HashMap", name := "treeifyBin", desc := "([Ljava/util/HashMap$Node;I)V" } : Jvm.MethodName)) ∈ lw_all := lw_g (lw_at lw_m7 92 rfl) rfl
theorem q1595 : (Jvm.Cond.instanceMethod ({ cls := "java/util/HashMap", name := "treeifyBin", desc := "([Ljava/util/HashMap$Node;I)V" } : Jvm.MethodName)) ∈ lw_all := lw_g (lw_at lw_m7 93 rfl) rfl
theorem q1596 : (Jvm.Cond.selects "java/util/HashMap" ({ cls := "java/util/HashMap", name := "treeifyBin", desc := "([Ljava/util/HashMap$Node;I)V" } : Jvm.MethodName) ({ cls := "java/util/HashMap", name := "treeifyBin", desc := "([Ljava/util/HashMap$Node;I)V" } : Jvm.MethodName)) ∈ lw_all := lw_g (lw_at lw_m7 94 rfl) rfl
theorem q1597 : (Jvm.Cond.code ({ cls := "java/util/HashMap", name := "treeifyBin", desc := "([Ljava/util/HashMap$Node;I)V" } : Jvm.MethodName) prog_48_method_18_code (9 : Nat) (Option.none : Option Jvm.ClassFile.FieldType)) ∈ lw_all := lw_g (lw_at lw_m7 95 rfl) rfl
theorem q1607 : (Jvm.Cond.methodLink "java/util/HashMap" (205 : Nat) ({ cls := "java/util/HashMap", name := "afterNodeInsertion", desc := "(Z)V" } : Jvm.MethodName)) ∈ lw_all := lw_g (lw_at lw_m7 105 rfl) rfl
theorem q1608 : (Jvm.Cond.instanceMethod ({ cls := "java/util/HashMap", name := "afterNodeInsertion", desc := "(Z)V" } : Jvm.MethodName)) ∈ lw_all := lw_g (lw_at lw_m7 106 rfl) rfl
theorem q1609 : (Jvm.Cond.selects "java/util/HashMap" ({ cls := "java/util/HashMap", name := "afterNodeInsertion", desc := "(Z)V" } : Jvm.MethodName) ({ cls := "java/util/HashMap", name := "afterNodeInsertion", desc := "(Z)V" } : Jvm.MethodName)) ∈ lw_all := lw_g (lw_at lw_m7 107 rfl) rfl
theorem q1610 : (Jvm.Cond.code ({ cls := "java/util/HashMap", name := "afterNodeInsertion", desc := "(Z)V" } : Jvm.MethodName) prog_48_method_52_code (2 : Nat) (Option.none : Option Jvm.ClassFile.FieldType)) ∈ lw_all := lw_g (lw_at lw_m7 108 rfl) rfl
theorem zEn.mk_n (n k v : Nat) (c : Int) : zEn.n (n, k, v, c) = n := rfl
/-- the size changes -/
theorem mpA.sz {h h1 : zH} {m tb cap : Nat} {es : List zEn} {sz sz' mc' : Int} {lf : Value} (hm : mpA h m tb cap es sz lf) (k : zkeep h h1 [m]) (hf : h1 m = some (true, .inr (14, [.null, .null, .ref tb, .null, .int (iI sz'), .int (iI mc'), .int (iI ((cap - cap / 4 : Nat) : Int)), lf]))) : mpA h1 m tb cap es sz' lf := by
  have hD : ∀ e ∈ es, ∃ nx, nAt h e nx := fun e he => hm.nd he
  obtain ⟨⟨mc, f, h1', h2, h3⟩, h4, h5, h6, h7⟩ := hm
  have hn : ∀ e ∈ es, e.n ∉ [m] := fun e he => by
    obtain ⟨nx, hx⟩ := hD e he
    simpa using zneC hx h1' (by decide)
  exact ⟨⟨mc', f, hf, k.n h2 (by simpa using Ne.symm (zneA h1' h2)), fun i hi => (h3 i hi).keep k fun e he => hn e (bin_m he).1⟩, h4, h5, h6, fun e he => (h7 e he).keep k⟩
theorem bin_app {n i : Nat} {es : List zEn} {e : zEn} : bin n i (es ++ [e]) = if e.c.toNat % n = i then bin n i es ++ [e] else bin n i es := by
  unfold bin
  rw [List.filter_append]
  by_cases c : e.c.toNat % n = i
  · rw [if_pos c]
    have : (e.c.toNat % n == i) = true := by simpa using c
    simp only [List.filter_cons, List.filter_nil, this, if_true]
  · rw [if_neg c]
    have : (e.c.toNat % n == i) = false := by simpa using c
    simp only [List.filter_cons, List.filter_nil, this, Bool.false_eq_true, if_false, List.append_nil]
theorem eOK.app {h h1 : zH} {es : List zEn} {S : List Nat} {n k v : Nat} {c : Int} (ho : eOK h es) (z : zkeep h h1 S) (hn : ∀ e ∈ es, e.n ≠ n) (hc : ∀ e ∈ es, e.c ≠ c) (hk : kAt h k c) : eOK h1 (es ++ [(n, k, v, c)]) := by
  obtain ⟨h1', h2, h3⟩ := ho
  refine ⟨?_, ?_, fun e he => ?_⟩
  · rw [List.map_append, List.nodup_append]
    refine ⟨h1', by simp, fun a ha b hb e => ?_⟩
    obtain ⟨d, hd, rfl⟩ := List.mem_map.mp ha
    simp only [List.map_cons, List.map_nil, List.mem_cons, List.not_mem_nil, or_false] at hb
    exact hn d hd (e.trans hb)
  · rw [List.map_append, List.nodup_append]
    refine ⟨h2, by simp, fun a ha b hb e => ?_⟩
    obtain ⟨d, hd, rfl⟩ := List.mem_map.mp ha
    simp only [List.map_cons, List.map_nil, List.mem_cons, List.not_mem_nil, or_false] at hb
    exact hc d hd (e.trans hb)
  · rcases List.mem_append.mp he with g | g
    · exact (h3 e g).keep z
    · rw [List.mem_singleton.mp g]
      exact hk.keep z
/-- a new node at the head of an empty bin -/
theorem mpA.add0 {h h1 h2 : zH} {m tb cap : Nat} {es : List zEn} {sz : Int} {lf : Value} (hm : mpA h m tb cap es sz lf) {n k v : Nat} {c : Int} (hk : kAt h k c) (hab : ∀ e ∈ es, e.c ≠ c) (hn : h n = none) (k1 : zkeep h h1 []) (k2 : zkeep h1 h2 [tb]) (hnn : h2 n = some (true, .inr (15, [.int (iI c), .ref k, .ref v, .null]))) {f f' : Nat → Value} (htb : h tb = some (true, .inl (.object "java/util/HashMap$Node", cap, f))) (htb2 : h2 tb = some (true, .inl (.object "java/util/HashMap$Node", cap, f'))) (hb : bin cap (c.toNat % cap) es = []) (e1 : f' (c.toNat % cap) = .ref n) (e2 : ∀ j, j ≠ c.toNat % cap → f' j = f j) : mpA h2 m tb cap (es ++ [(n, k, v, c)]) sz lf := by
  have hD : ∀ e ∈ es, ∃ nx, nAt h e nx := fun e he => hm.nd he
  obtain ⟨⟨mc, g, g1, g2, g3⟩, g4, g5⟩ := hm
  have hfg : g = f := by rw [g2] at htb; cases htb; rfl
  subst hfg
  have kk : zkeep h h2 [tb] := zkeep.loc (k1.mono fun _ z => nomatch z) k2 fun q hq => Or.inl (Or.inr hq)
  have hne : ∀ e ∈ es, e.n ≠ tb := fun e he => by
    obtain ⟨nx, hx⟩ := hD e he
    exact zneA hx g2
  refine ⟨⟨mc, f', kk.n g1 (by simpa using zneA g1 g2), htb2, fun i hi => ?_⟩, g4, g5.app kk (fun e he => ?_) hab hk⟩
  · rw [bin_app]
    by_cases q : c.toNat % cap = i
    · rw [if_pos (show (zEn.c (n, k, v, c)).toNat % cap = i from q), ← q, hb, e1]
      exact ⟨rfl, _, hnn, rfl⟩
    · rw [if_neg (show ¬ (zEn.c (n, k, v, c)).toNat % cap = i from q), e2 i (fun z => q z.symm)]
      exact (g3 i hi).keep kk fun e he => by simpa using hne e (bin_m he).1
  · obtain ⟨nx, hx⟩ := hD e he
    exact zneF hx hn
theorem chn.app {h h2 : zH} {x en : zEn} {S : List Nat} (kk : zkeep h h2 S) (hS : ∀ q ∈ S, q = x.n ∨ h q = none) (hx2 : nAt h2 x (.ref en.n)) (hen : nAt h2 en .null) : ∀ {pre : List zEn} {v : Value}, chn h v (pre ++ [x]) → (∀ e ∈ pre, e.n ≠ x.n) → chn h2 v (pre ++ [x] ++ [en]) := by
  intro pre
  induction pre with
  | nil =>
    intro v hc _
    obtain ⟨h1, nx, h3, h4⟩ := hc
    exact ⟨h1, _, hx2, rfl, _, hen, rfl⟩
  | cons a r ih =>
    intro v hc hp
    obtain ⟨h1, nx, h3, h4⟩ := hc
    refine ⟨h1, nx, kk.n h3 fun z => ?_, ih h4 fun e he => hp e (List.mem_cons_of_mem _ he)⟩
    rcases hS _ z with e | e
    · exact hp a List.mem_cons_self e
    · exact (zneF h3 e) rfl
/-- a new node at the end of a chain -/
theorem mpA.add1 {h h1 h2 : zH} {m tb cap : Nat} {es : List zEn} {sz : Int} {lf : Value} (hm : mpA h m tb cap es sz lf) {n k v : Nat} {c : Int} (hk : kAt h k c) (hab : ∀ e ∈ es, e.c ≠ c) (hn : h n = none) (k1 : zkeep h h1 []) {x : zEn} {pre : List zEn} (k2 : zkeep h1 h2 [x.n]) (hnn : h2 n = some (true, .inr (15, [.int (iI c), .ref k, .ref v, .null]))) (hb : bin cap (c.toNat % cap) es = pre ++ [x]) (hx : nAt h2 x (.ref n)) : mpA h2 m tb cap (es ++ [(n, k, v, c)]) sz lf := by
  have hD : ∀ e ∈ es, ∃ nx, nAt h e nx := fun e he => hm.nd he
  obtain ⟨⟨mc, g, g1, g2, g3⟩, g4, g5⟩ := hm
  have hxe : x ∈ es := (bin_m (by rw [hb]; simp)).1
  have hxm : x.c.toNat % cap = c.toNat % cap := (bin_m (show x ∈ bin cap (c.toNat % cap) es by rw [hb]; simp)).2
  have kk : zkeep h h2 [x.n] := zkeep.loc (k1.mono fun _ z => nomatch z) k2 fun q hq => Or.inl (Or.inr hq)
  obtain ⟨nx0, hx0⟩ := hD x hxe
  refine ⟨⟨mc, g, kk.n g1 (by simpa using zneC g1 hx0 (by decide)), kk.n g2 (by simpa using Ne.symm (zneA hx0 g2)), fun i hi => ?_⟩, g4, g5.app kk (fun e he => ?_) hab hk⟩
  · rw [bin_app]
    by_cases q : c.toNat % cap = i
    · rw [if_pos (show (zEn.c (n, k, v, c)).toNat % cap = i from q), ← q, hb]
      have hch := g3 (c.toNat % cap) (by rw [q]; exact hi)
      rw [hb] at hch
      have hnd : ((pre ++ [x]).map zEn.n).Nodup := by
        rw [← hb]
        exact g5.1.sublist (List.Sublist.map _ List.filter_sublist)
      rw [List.map_append, List.nodup_append] at hnd
      exact hch.app (en := (n, k, v, c)) kk (fun q hq => Or.inl (List.mem_singleton.mp hq)) hx hnn fun e he => hnd.2.2 _ (List.mem_map_of_mem he) _ (by simp)
    · rw [if_neg (show ¬ (zEn.c (n, k, v, c)).toNat % cap = i from q)]
      refine (g3 i hi).keep kk fun e he => ?_
      have h5 := (bin_m he)
      intro z
      have := nodup_inj g5.1 h5.1 hxe (List.mem_singleton.mp z)
      rw [this, hxm] at h5
      exact q h5.2
  · obtain ⟨nx, hx⟩ := hD e he
    exact zneF hx hn
theorem nodup_le : ∀ (n : Nat) (l : List Nat), l.Nodup → (∀ x ∈ l, x < n) → l.length ≤ n := by
  intro n
  induction n with
  | zero =>
    intro l _ h
    cases l with
    | nil => exact Nat.le_refl _
    | cons a r => exact absurd (h a List.mem_cons_self) (Nat.not_lt_zero _)
  | succ n ih =>
    intro l hl h
    by_cases hm : n ∈ l
    · have h1 := ih (l.erase n) (hl.erase n) (fun x hx => by
        have h2 := h x (List.mem_of_mem_erase hx)
        have h3 : x ≠ n := fun e => by
          rw [e] at hx
          exact (List.Nodup.not_mem_erase hl) hx
        omega)
      rw [List.length_erase_of_mem hm] at h1
      omega
    · have := ih l hl (fun x hx => by
        have h2 := h x hx
        have h3 : x ≠ n := fun e => hm (e ▸ hx)
        omega)
      omega
/-- a bin of 64 holds few -/
theorem bin_few {h : zH} {es : List zEn} (ho : eOK h es) (i : Nat) : (bin 64 i es).length ≤ 4 := by
  have h1 : ((bin 64 i es).map fun e => e.c.toNat / 64).Nodup := by
    have h2 : ((bin 64 i es).map zEn.c).Nodup := ho.2.1.sublist (List.Sublist.map _ List.filter_sublist)
    have h3 : ∀ e ∈ bin 64 i es, e.c.toNat % 64 = i ∧ 0 ≤ e.c := fun e he => ⟨(bin_m he).2, (ho.2.2 e (bin_m he).1).r.1⟩
    generalize bin 64 i es = l at h2 h3
    induction l with
    | nil => simp
    | cons a r ih =>
      rw [List.map_cons, List.nodup_cons] at h2 ⊢
      refine ⟨fun z => ?_, ih h2.2 fun e he => h3 e (List.mem_cons_of_mem _ he)⟩
      obtain ⟨d, hd, e⟩ := List.mem_map.mp z
      apply h2.1
      have ha := h3 a List.mem_cons_self
      have hd2 := h3 d (List.mem_cons_of_mem _ hd)
      have : a.c = d.c := by
        have e' : d.c.toNat / 64 = a.c.toNat / 64 := e
        omega
      rw [this]
      exact List.mem_map_of_mem hd
  have := nodup_le 4 _ h1 (fun x hx => by
    obtain ⟨e, he, rfl⟩ := List.mem_map.mp hx
    have := (ho.2.2 e (bin_m he).1).r
    show e.c.toNat / 64 < 4
    omega)
  simpa using this
/-- a cell of a map -/
def mkd : zE → Prop
  | .inl (ty, _, _) => ty = .object "java/util/HashMap$Node"
  | .inr (ci, _) => ci = 14 ∨ ci = 15
/-- all that is no map is kept -/
def mKp (h H : zH) : Prop := ∀ q x, h q = some x → (x.1 = false ∨ ¬ mkd x.2) → H q = some x
theorem mKp.trans {h H H2 : zH} (a : mKp h H) (b : mKp H H2) : mKp h H2 := fun q x e n => b q x (a q x e n) n
theorem mKp.of {h H : zH} {T : List Nat} (k : zkeep h H T) (hT : ∀ q ∈ T, ∃ y, h q = some y ∧ mkd y.2) : mKp h H := by
  intro q x e n
  refine k q x e (n.imp_right fun hn hq => ?_)
  obtain ⟨y, hy, hm⟩ := hT q hq
  rw [e] at hy
  cases hy
  exact hn hm
/-- of later: what was new for an earlier heap is new still -/
def mLt (h H : zH) (S S2 : List Nat) : Prop := ∀ h0, zkeep h0 h [] → (∀ q ∈ S, h0 q = none) → zkeep h0 H [] ∧ ∀ q ∈ S2, h0 q = none
theorem mLt.trans {h H H2 : zH} {S S1 S2 : List Nat} (a : mLt h H S S1) (b : mLt H H2 S1 S2) : mLt h H2 S S2 := fun h0 k n => by
  have := a h0 k n
  exact b h0 this.1 this.2
theorem mLt.keep {h H : zH} {S T : List Nat} (k : zkeep h H T) (hT : ∀ q ∈ T, q ∈ S) : mLt h H S S := fun h0 k0 n => ⟨zkeep.loc k0 k fun q hq => Or.inl (Or.inl (n q (hT q hq))), n⟩
theorem mLt.rz {h H : zH} {m tb t1 : Nat} {es : List zEn} (k : zkeep h H (mFp m tb es)) (ht : h t1 = none) : mLt h H (mFp m tb es) (mFp m t1 es) := fun h0 k0 n => by
  refine ⟨zkeep.loc k0 k fun q hq => Or.inl (Or.inl (n q hq)), fun q hq => ?_⟩
  unfold mFp at hq n
  rcases List.mem_cons.mp hq with e | hq
  · rw [e]; exact n m (by simp)
  rcases List.mem_cons.mp hq with e | hq
  · rw [e]; exact k0.none0 ht List.not_mem_nil
  · exact n q (List.mem_cons_of_mem _ (List.mem_cons_of_mem _ hq))
theorem mLt.new {h h1 H : zH} {m tb n k v : Nat} {c : Int} {es : List zEn} {T : List Nat} (k1 : zkeep h h1 []) (hn : h n = none) (k2 : zkeep h1 H T) (hT : ∀ q ∈ T, q ∈ mFp m tb es) : mLt h H (mFp m tb es) (mFp m tb (es ++ [(n, k, v, c)])) := fun h0 k0 nn => by
  have k3 : zkeep h0 h1 [] := zkeep.loc k0 k1 fun q hq => nomatch hq
  refine ⟨zkeep.loc k3 k2 fun q hq => Or.inl (Or.inl (nn q (hT q hq))), fun q hq => ?_⟩
  unfold mFp at hq nn
  rcases List.mem_cons.mp hq with e | hq
  · rw [e]; exact nn m (by simp)
  rcases List.mem_cons.mp hq with e | hq
  · rw [e]; exact nn tb (by simp)
  rw [List.map_append, List.mem_append] at hq
  rcases hq with g | g
  · exact nn q (List.mem_cons_of_mem _ (List.mem_cons_of_mem _ g))
  · simp only [List.map_cons, List.map_nil, List.mem_cons, List.not_mem_nil, or_false] at g
    rw [g]; exact k0.none0 hn List.not_mem_nil
theorem mkd.r1 {h : zH} {q : Nat} {b : Bool} {fs : List Value} (e : h q = some (b, .inr (14, fs))) : ∃ y, h q = some y ∧ mkd y.2 := ⟨(b, .inr (14, fs)), e, (Or.inl rfl : (14 : Nat) = 14 ∨ (14 : Nat) = 15)⟩
theorem mkd.r2 {h : zH} {q : Nat} {b : Bool} {fs : List Value} (e : h q = some (b, .inr (15, fs))) : ∃ y, h q = some y ∧ mkd y.2 := ⟨(b, .inr (15, fs)), e, (Or.inr rfl : (15 : Nat) = 14 ∨ (15 : Nat) = 15)⟩
theorem mkd.r3 {h : zH} {q n : Nat} {b : Bool} {f : Nat → Value} (e : h q = some (b, .inl (.object "java/util/HashMap$Node", n, f))) : ∃ y, h q = some y ∧ mkd y.2 := ⟨(b, .inl (.object "java/util/HashMap$Node", n, f)), e, (rfl : FieldType.object "java/util/HashMap$Node" = .object "java/util/HashMap$Node")⟩
theorem mpA.kd {h : zH} {m tb cap : Nat} {es : List zEn} {sz : Int} {lf : Value} (hm : mpA h m tb cap es sz lf) : ∀ q ∈ mFp m tb es, ∃ y, h q = some y ∧ mkd y.2 := by
  intro q hq
  have hD : ∀ e ∈ es, ∃ nx, nAt h e nx := fun e he => hm.nd he
  obtain ⟨⟨mc, f, g1, g2, g3⟩, -⟩ := hm
  unfold mFp at hq
  rcases List.mem_cons.mp hq with e | hq
  · rw [e]; exact mkd.r1 g1
  rcases List.mem_cons.mp hq with e | hq
  · rw [e]; exact mkd.r3 g2
  · obtain ⟨d, hd, e⟩ := List.mem_map.mp hq
    obtain ⟨nx, hx⟩ := hD d hd
    rw [← e]; exact mkd.r2 hx
set_option maxHeartbeats 4000000 in
theorem ct_M_resize0 {l : Launch} (hl : l.stackTraces = false) {Γ : zCx} {h : zH} {m : Nat} {lf : Value} (hm : mp0 h m lf)  : zMet l yJ25_resize (ws_ yJ25_resize cJ25_resize 14 (some (.array (.object "java/util/HashMap$Node")))) ({ frames := 0, cells := 1, slots := 16, locals := 0 }) Γ h [.ref m] (zrt (fun w h' => ∃ t1, w = some (.ref t1) ∧ mpA h' m t1 16 [] 0 lf ∧ h t1 = none ∧ zkeep h h' [m])) 1 16 := by
  refine zMet.of (cc := cJ25_resize) hl (plainFor_of_name (by decide +kernel)) (Nat.le_of_ble_eq_true rfl) ?_
  intro X hXl hXΓ hXp C hnm hnL
  have C : zC X cJ25_resize RJ25 (some (.array (.object "java/util/HashMap$Node"))) 0 0 [] := C
  have hnL : X.2.1.2.2.2.2 = 14 := hnL
  subst hXl hXΓ
  show Z X h 1 16 [(0, .ref m)] 0 []
  have hmf : h m = _ := hm
  refine z_aload_n (pc := 0) (j := 0) C dJ25_resize_0 rfl rfl ?_
  refine z_getfield (pc := 1) (v := .null) C in_J25 rfl 2 (by decide) q1088 (fun _ z => z) hmf rfl dJ25_resize_1 ?_
  refine z_astore_nN (pc := 4) (L' := [(1, .null), (0, .ref m)]) C dJ25_resize_4 rfl (by rw [hnL]; decide) rfl ?_
  refine z_aload_nN (pc := 5) (j := 0) C dJ25_resize_5 rfl rfl ?_
  refine z_ifnonnullN (pc := 6) C dJ25_resize_6 ?_
  refine z_iconst (pc := 9) C dJ25_resize_9 ?_
  refine z_goto (pc := 10) (tgt := 15) C dJ25_resize_10 (by decide) ?_
  refine z_istore_n (pc := 15) (L' := [(2, .int (iI 0)), (1, .null), (0, .ref m)]) C dJ25_resize_15 rfl (by rw [hnL]; decide) rfl ?_
  refine z_aload_n (pc := 16) (j := 2) C dJ25_resize_16 rfl rfl ?_
  refine z_getfield (pc := 17) (v := .int (iI 0)) C in_J25 rfl 6 (by decide) q1091 (fun _ z => z) hmf rfl dJ25_resize_17 ?_
  refine z_istore_n (pc := 20) (L' := [(3, .int (iI 0)), (2, .int (iI 0)), (1, .null), (0, .ref m)]) C dJ25_resize_20 rfl (by rw [hnL]; decide) rfl ?_
  refine z_iconst (pc := 21) C dJ25_resize_21 ?_
  refine z_istore (pc := 22) (L' := [(5, .int (iI 0)), (3, .int (iI 0)), (2, .int (iI 0)), (1, .null), (0, .ref m)]) C dJ25_resize_22 (by rw [hnL]; decide) rfl ?_
  refine z_iload_n (pc := 24) (j := 2) C dJ25_resize_24 rfl rfl ?_
  refine z_if_le (pc := 25) (tgt := 67) C dJ25_resize_25 (by decide) (by decide) (fun _ => ?_) (fun z => absurd z (by decide))
  refine z_iload_n (pc := 67) (j := 1) C dJ25_resize_67 rfl rfl ?_
  refine z_if_le (pc := 68) (tgt := 77) C dJ25_resize_68 (by decide) (by decide) (fun _ => ?_) (fun z => absurd z (by decide))
  refine z_bipush (pc := 77) C dJ25_resize_77 (by decide) ?_
  refine z_istore (pc := 79) (L' := [(4, .int (iI 16)), (5, .int (iI 0)), (3, .int (iI 0)), (2, .int (iI 0)), (1, .null), (0, .ref m)]) C dJ25_resize_79 (by rw [hnL]; decide) rfl ?_
  refine z_bipush (pc := 81) C dJ25_resize_81 (by decide) ?_
  refine z_istore (pc := 83) (L' := [(5, .int (iI 12)), (4, .int (iI 16)), (3, .int (iI 0)), (2, .int (iI 0)), (1, .null), (0, .ref m)]) C dJ25_resize_83 (by rw [hnL]; decide) rfl ?_
  refine z_iload (pc := 85) (j := 0) C dJ25_resize_85 rfl ?_
  refine z_if_ne (pc := 87) (tgt := 125) C dJ25_resize_87 (by decide) (by decide) (fun _ => ?_) (fun z => absurd z (by decide))
  refine z_aload_n (pc := 125) (j := 5) C dJ25_resize_125 rfl rfl ?_
  refine z_iload (pc := 126) (j := 0) C dJ25_resize_126 rfl ?_
  rw [show ((12) : Int) = ((16 - 16 / 4 : Nat) : Int) from rfl]
  show Z X h 1 16 [(5, .int (iI 12)), (4, .int (iI 16)), (3, .int (iI 0)), (2, .int (iI 0)), (1, .null), (0, .ref m)] 128 [.int (iI ((16 - 16 / 4 : Nat) : Int)), .ref m]
  refine z_putfield (pc := 128) (fs' := [.null, .null, .null, .null, .int (iI 0), .int (iI 0), .int (iI ((16 - 16 / 4 : Nat) : Int)), lf]) C in_J25 tyJ25 tyJ25_ok nmJ25 rfl 6 (by decide) q1091 (fun _ z => z) rfl rfl rfl (Nat.le_of_ble_eq_true rfl) hmf rfl dJ25_resize_128 ?_
  refine Z.nm (fun h1 eh1 => ?_)
  have kh1 : zkeep h h1 [m] := by rw [eh1]; exact zkeep.up zkeep.rf (Or.inl (by simp)) hmf
  have fh1_0 : h1 m = some (true, .inr (14, [.null, .null, .null, .null, .int (iI 0), .int (iI 0), .int (iI ((16 - 16 / 4 : Nat) : Int)), lf])) := zse eh1
  refine z_iload (pc := 131) (j := 1) C dJ25_resize_131 rfl ?_
  refine z_anewarray (pc := 133) (kc' := 0) (ks' := 0) C q1486 q1487 (by omega) (by omega) (by omega) dJ25_resize_133 (fun a2 fa2 => ?_)
  refine Z.nm (fun h3 eh3 => ?_)
  have na2 : h a2 = none := kh1.none0 fa2 (List.not_mem_cons_of_ne_of_not_mem (Ne.symm (zneF fh1_0 fa2)) List.not_mem_nil)
  have kh3 : zkeep h h3 [m] := by rw [eh3]; exact zkeep.born kh1 fa2
  have fh3_0 : h3 a2 = some (true, .inl ((.object "java/util/HashMap$Node"), 16, fun _ => .null)) := zse eh3
  have fh3_1 : h3 m = some (true, .inr (14, [.null, .null, .null, .null, .int (iI 0), .int (iI 0), .int (iI ((16 - 16 / 4 : Nat) : Int)), lf])) := zsn eh3 fh1_0 (zneF fh1_0 fa2)
  refine z_astore (pc := 136) (L' := [(6, .ref a2), (5, .int (iI 12)), (4, .int (iI 16)), (3, .int (iI 0)), (2, .int (iI 0)), (1, .null), (0, .ref m)]) C dJ25_resize_136 (by rw [hnL]; decide) rfl ?_
  refine z_aload_n (pc := 138) (j := 6) C dJ25_resize_138 rfl rfl ?_
  refine z_aload (pc := 139) (j := 0) C dJ25_resize_139 rfl ?_
  refine z_putfield (pc := 141) (fs' := [.null, .null, .ref a2, .null, .int (iI 0), .int (iI 0), .int (iI ((16 - 16 / 4 : Nat) : Int)), lf]) C in_J25 tyJ25 tyJ25_ok nmJ25 rfl 2 (by decide) q1088 (fun _ z => z) rfl rfl rfl (Nat.le_of_ble_eq_true rfl) fh3_1 rfl dJ25_resize_141 ?_
  refine Z.nm (fun h4 eh4 => ?_)
  have kh4 : zkeep h h4 [m] := by rw [eh4]; exact zkeep.up kh3 (Or.inl (by simp)) fh3_1
  have fh4_0 : h4 m = some (true, .inr (14, [.null, .null, .ref a2, .null, .int (iI 0), .int (iI 0), .int (iI ((16 - 16 / 4 : Nat) : Int)), lf])) := zse eh4
  have fh4_1 : h4 a2 = some (true, .inl ((.object "java/util/HashMap$Node"), 16, fun _ => .null)) := zsn eh4 fh3_0 (Ne.symm (zneF fh1_0 fa2))
  refine z_aload_nN (pc := 144) (j := 5) C dJ25_resize_144 rfl rfl ?_
  refine z_ifnullN (pc := 145) (tgt := 353) C dJ25_resize_145 (by decide) ?_
  refine z_aload (pc := 353) (j := 0) C dJ25_resize_353 rfl ?_
  exact z_areturn (pc := 355) C (Or.inr ⟨_, rfl⟩) (Or.inr ⟨_, rfl⟩) (by rw [hXp]; exact ⟨_, rfl, a2, rfl, ⟨⟨0, _, fh4_0, fh4_1, fun i hi => rfl⟩, Or.inl rfl, by simp, by simp, (fun _ z => nomatch z)⟩, na2, kh4⟩) dJ25_resize_355
set_option maxHeartbeats 4000000 in
theorem ct_M_tree {l : Launch} (hl : l.stackTraces = false) {Γ : zCx} {h : zH} {m tb cap : Nat} {es : List zEn} {sz : Int} {lf : Value} (hm : mpA h m tb cap es sz lf) (hc2 : cap = 16 ∨ cap = 32) {c : Int}  : zMet l yJ25_treeifyBin (ws_ yJ25_treeifyBin cJ25_treeifyBin 9 none) ({ frames := 1, cells := 1, slots := 2 * cap, locals := 33 }) Γ h [.ref m, .ref tb, .int (iI c)] (zrt (fun w h' => w = none ∧ ∃ t1, mpA h' m t1 (2 * cap) es sz lf ∧ h t1 = none ∧ zkeep h h' (mFp m tb es))) 1 (2 * cap) := by
  refine zMet.of (cc := cJ25_treeifyBin) hl (plainFor_of_name (by decide +kernel)) (Nat.le_of_ble_eq_true rfl) ?_
  intro X hXl hXΓ hXp C hnm hnL
  have C : zC X cJ25_treeifyBin RJ25 none 1 33 [] := C
  have hnL : X.2.1.2.2.2.2 = 9 := hnL
  subst hXl hXΓ
  show Z X h 1 (2 * cap) [(0, .ref m), (1, .ref tb), (2, .int (iI c))] 0 []
  obtain ⟨⟨mc, f, hmf, htb, hch⟩, hcap, hnd, hcd, hks⟩ := id hm
  have hMe : ∀ e ∈ es, e.n ∈ mFp m tb es := fun e he => by unfold mFp; exact List.mem_cons_of_mem _ (List.mem_cons_of_mem _ (List.mem_map_of_mem he))
  refine z_aload_n (pc := 0) (j := 1) C dJ25_treeifyBin_0 rfl rfl ?_
  refine z_ifnull (pc := 1) C dJ25_treeifyBin_1 ?_
  refine z_aload_n (pc := 4) (j := 1) C dJ25_treeifyBin_4 rfl rfl ?_
  refine z_alen (pc := 5) C htb dJ25_treeifyBin_5 ?_
  refine z_dup (pc := 6) C dJ25_treeifyBin_6 rfl ?_
  refine z_istore_n (pc := 7) (L' := [(3, .int (iI ((cap : Nat) : Int))), (0, .ref m), (1, .ref tb), (2, .int (iI c))]) C dJ25_treeifyBin_7 rfl (by rw [hnL]; decide) rfl ?_
  refine z_bipush (pc := 8) C dJ25_treeifyBin_8 (by decide) ?_
  refine z_icmp_ge (pc := 10) (tgt := 21) C dJ25_treeifyBin_10 (by decide) (by omega) (by decide) (fun c10 => by exfalso; omega) (fun c10 => ?_)
  refine z_aload_n (pc := 13) (j := 1) C dJ25_treeifyBin_13 rfl rfl ?_
  refine z_callV (pc := 14) (n := 0) (kc' := 0) (ks' := (2 * cap - 2 * cap)) C (ct_M_resize C.t hm (by omega) ) (lw_V q1479 q1480 q1481 q97 q1482) (by decide +kernel) ⟨by decide, by decide⟩ hmf rfl rfl rfl (Nat.le_of_ble_eq_true rfl) dJ25_treeifyBin_14 (by omega) (by omega) (zrk fun w h1 hp => ?_) zrx
  obtain ⟨t_2, rfl, hmp_2, ft_2, k3⟩ := hp
  obtain ⟨⟨mc_2, f_2, hmf_2, -⟩, -⟩ := id hmp_2
  show Z X h1 0 (2 * cap - 2 * cap) [(3, .int (iI ((cap : Nat) : Int))), (0, .ref m), (1, .ref tb), (2, .int (iI c))] 17 [.ref t_2]
  refine z_pop (pc := 17) C dJ25_treeifyBin_17 rfl ?_
  refine z_goto (pc := 18) (tgt := 109) C dJ25_treeifyBin_18 (by decide) ?_
  exact z_return (pc := 109) C (by rw [hXp]; exact ⟨_, rfl, rfl, t_2, hmp_2, ft_2, k3⟩) dJ25_treeifyBin_109
set_option maxHeartbeats 4000000 in
theorem ct_M_putVal {l : Launch} (hl : l.stackTraces = false) {Γ : zCx} {h : zH} {m tb cap : Nat} {es : List zEn} {sz : Int} {lf : Value} (hm : mpA h m tb cap es sz lf) {k : Nat} {c : Int} (hk : kAt h k c) {v : Nat} (hab : ∀ e ∈ es, e.c ≠ c) (hz : sz = ((es.length : Nat) : Int) ∧ es.length ≤ 45)  : zMet l yJ25_putVal (ws_ yJ25_putVal cJ25_putVal 13 (some (.object "java/lang/Object"))) ({ frames := 3, cells := 3, slots := 132, locals := 61 }) Γ h [.ref m, .int (iI c), .ref k, .ref v, .int (iI 0), .int (iI 1)] (zrt (fun w h' => w = some .null ∧ ∃ n tb' cap', mpA h' m tb' cap' (es ++ [(n, k, v, c)]) (sz + 1) lf ∧ mLt h h' (mFp m tb es) (mFp m tb' (es ++ [(n, k, v, c)])) ∧ mKp h h')) 3 132 := by
  refine zMet.of (cc := cJ25_putVal) hl (plainFor_of_name (by decide +kernel)) (Nat.le_of_ble_eq_true rfl) ?_
  intro X hXl hXΓ hXp C hnm hnL
  have C : zC X cJ25_putVal RJ25 (some (.object "java/lang/Object")) 3 61 [] := C
  have hnL : X.2.1.2.2.2.2 = 13 := hnL
  subst hXl hXΓ
  show Z X h 3 132 [(0, .ref m), (1, .int (iI c)), (2, .ref k), (3, .ref v), (4, .int (iI 0)), (5, .int (iI 1))] 0 []
  obtain ⟨⟨mc, f, hmf, htb, hch⟩, hcap, hnd, hcd, hks⟩ := id hm
  obtain ⟨kr, kq, kb, hkf, hkr, hkq, hkb, hkc⟩ := id hk
  have hcr := hk.r
  have tail : ∀ (H : zH) (n tb2 cap2 : Nat), mpA H m tb2 cap2 (es ++ [(n, k, v, c)]) sz lf → mLt h H (mFp m tb es) (mFp m tb2 (es ++ [(n, k, v, c)])) → mKp h H → Z X H 1 64 [(5, .int (iI 1)), (0, .ref m)] 259 [] := by
    intro H n tb2 cap2 hmA hlt hkp
    obtain ⟨⟨mc2, f2, hmf2, htb2, hch2⟩, hcap2, -⟩ := id hmA
    refine z_aload_n (pc := 259) (j := 1) C dJ25_putVal_259 rfl rfl ?_
    refine z_dup (pc := 260) C dJ25_putVal_260 rfl ?_
    refine z_getfield (pc := 261) (v := .int (iI mc2)) C in_J25 rfl 5 (by decide) q1090 (fun _ z => z) hmf2 rfl dJ25_putVal_261 ?_
    refine z_iconst (pc := 264) C dJ25_putVal_264 ?_
    refine z_iadd (pc := 265) C dJ25_putVal_265 ?_
    refine z_putfield (pc := 266) (fs' := [.null, .null, .ref tb2, .null, .int (iI sz), .int (iI (mc2 + 1)), .int (iI ((cap2 - cap2 / 4 : Nat) : Int)), lf]) C in_J25 tyJ25 tyJ25_ok nmJ25 rfl 5 (by decide) q1090 (fun _ z => z) rfl rfl rfl (Nat.le_of_ble_eq_true rfl) hmf2 rfl dJ25_putVal_266 ?_
    refine Z.nm (fun h1 eh1 => ?_)
    have kh1 : zkeep H h1 [m] := by rw [eh1]; exact zkeep.up zkeep.rf (Or.inl (by simp)) hmf2
    have fh1_0 : h1 m = some (true, .inr (14, [.null, .null, .ref tb2, .null, .int (iI sz), .int (iI (mc2 + 1)), .int (iI ((cap2 - cap2 / 4 : Nat) : Int)), lf])) := zse eh1
    refine z_aload_n (pc := 269) (j := 1) C dJ25_putVal_269 rfl rfl ?_
    refine z_dup (pc := 270) C dJ25_putVal_270 rfl ?_
    refine z_getfield (pc := 271) (v := .int (iI sz)) C in_J25 rfl 4 (by decide) q1089 (fun _ z => z) fh1_0 rfl dJ25_putVal_271 ?_
    refine z_iconst (pc := 274) C dJ25_putVal_274 ?_
    refine z_iadd (pc := 275) C dJ25_putVal_275 ?_
    refine z_dup_x1 (pc := 276) C dJ25_putVal_276 rfl rfl ?_
    refine z_putfield (pc := 277) (fs' := [.null, .null, .ref tb2, .null, .int (iI (sz + 1)), .int (iI (mc2 + 1)), .int (iI ((cap2 - cap2 / 4 : Nat) : Int)), lf]) C in_J25 tyJ25 tyJ25_ok nmJ25 rfl 4 (by decide) q1089 (fun _ z => z) rfl rfl rfl (Nat.le_of_ble_eq_true rfl) fh1_0 rfl dJ25_putVal_277 ?_
    refine Z.nm (fun h2 eh2 => ?_)
    have kh2 : zkeep H h2 [m] := by rw [eh2]; exact zkeep.up kh1 (Or.inl (by simp)) fh1_0
    have fh2_0 : h2 m = some (true, .inr (14, [.null, .null, .ref tb2, .null, .int (iI (sz + 1)), .int (iI (mc2 + 1)), .int (iI ((cap2 - cap2 / 4 : Nat) : Int)), lf])) := zse eh2
    have hmB := hmA.sz kh2 fh2_0
    have hlB := hlt.trans (mLt.keep kh2 (fun q hq => by rw [List.mem_singleton.mp hq]; simp [mFp]))
    have hkB := hkp.trans (mKp.of kh2 (fun q hq => hmA.kd q (by rw [List.mem_singleton.mp hq]; simp [mFp])))
    refine z_aload_n (pc := 280) (j := 1) C dJ25_putVal_280 rfl rfl ?_
    refine z_getfield (pc := 281) (v := .int (iI ((cap2 - cap2 / 4 : Nat) : Int))) C in_J25 rfl 6 (by decide) q1091 (fun _ z => z) fh2_0 rfl dJ25_putVal_281 ?_
    refine z_icmp_le (pc := 284) (tgt := 292) C dJ25_putVal_284 (by decide) (by omega) (by omega) (fun c284 => ?_) (fun c284 => ?_)
    · refine z_aload_n (pc := 292) (j := 1) C dJ25_putVal_292 rfl rfl ?_
      refine z_iload (pc := 293) (j := 0) C dJ25_putVal_293 rfl ?_
      refine z_callV (pc := 295) (n := 1) (kc' := 1) (ks' := 64) C (ct_M_after C.t (m := m) (b := 1)) (lw_V q1607 q1608 q1609 q97 q1610) (by decide +kernel) ⟨by decide, by decide⟩ fh2_0 rfl rfl rfl (Nat.le_of_ble_eq_true rfl) dJ25_putVal_295 (by omega) (by omega) (zpk (st' := []) rfl ?_) zrx
      refine z_null (pc := 298) C dJ25_putVal_298 ?_
      exact z_areturn (pc := 299) C (Or.inl ⟨_, rfl⟩) (Or.inl rfl) (by rw [hXp]; exact ⟨_, rfl, rfl, n, tb2, cap2, hmB, hlB, hkB⟩) dJ25_putVal_299
    · refine z_aload_n (pc := 287) (j := 1) C dJ25_putVal_287 rfl rfl ?_
      have hc3 : cap2 = 16 ∨ cap2 = 32 := by omega
      refine z_callV (pc := 288) (n := 0) (kc' := 0) (ks' := (64 - 2 * cap2)) C (ct_M_resize C.t hmB (by omega) ) (lw_V q1479 q1480 q1481 q97 q1482) (by decide +kernel) ⟨by decide, by decide⟩ fh2_0 rfl rfl rfl (Nat.le_of_ble_eq_true rfl) dJ25_putVal_288 (by omega) (by omega) (zrk fun w h3 hp => ?_) zrx
      obtain ⟨t_4, rfl, hmp_4, ft_4, k5⟩ := hp
      obtain ⟨⟨mc_4, f_4, hmf_4, -⟩, -⟩ := id hmp_4
      show Z X h3 0 (64 - 2 * cap2) [(5, .int (iI 1)), (0, .ref m)] 291 [.ref t_4]
      refine z_pop (pc := 291) C dJ25_putVal_291 rfl ?_
      refine z_aload_n (pc := 292) (j := 1) C dJ25_putVal_292 rfl rfl ?_
      refine z_iload (pc := 293) (j := 0) C dJ25_putVal_293 rfl ?_
      refine z_callV (pc := 295) (n := 1) (kc' := 0) (ks' := (64 - 2 * cap2)) C (ct_M_after C.t (m := m) (b := 1)) (lw_V q1607 q1608 q1609 q97 q1610) (by decide +kernel) ⟨by decide, by decide⟩ hmf_4 rfl rfl rfl (Nat.le_of_ble_eq_true rfl) dJ25_putVal_295 (by omega) (by omega) (zpk (st' := []) rfl ?_) zrx
      refine z_null (pc := 298) C dJ25_putVal_298 ?_
      exact z_areturn (pc := 299) C (Or.inl ⟨_, rfl⟩) (Or.inl rfl) (by rw [hXp]; exact ⟨_, rfl, rfl, n, t_4, _, hmp_4, hlB.trans (mLt.rz k5 ft_4), hkB.trans (mKp.of k5 hmB.kd)⟩) dJ25_putVal_299
  refine z_aload_n (pc := 0) (j := 0) C dJ25_putVal_0 rfl rfl ?_
  refine z_getfield (pc := 1) (v := .ref tb) C in_J25 rfl 2 (by decide) q1088 (fun _ z => z) hmf rfl dJ25_putVal_1 ?_
  refine z_dup (pc := 4) C dJ25_putVal_4 rfl ?_
  refine z_astore (pc := 5) (L' := [(6, .ref tb), (0, .ref m), (1, .int (iI c)), (2, .ref k), (3, .ref v), (4, .int (iI 0)), (5, .int (iI 1))]) C dJ25_putVal_5 (by rw [hnL]; decide) rfl ?_
  refine z_ifnull (pc := 7) C dJ25_putVal_7 ?_
  refine z_aload (pc := 10) (j := 0) C dJ25_putVal_10 rfl ?_
  refine z_alen (pc := 12) C htb dJ25_putVal_12 ?_
  refine z_dup (pc := 13) C dJ25_putVal_13 rfl ?_
  refine z_istore (pc := 14) (L' := [(8, .int (iI ((cap : Nat) : Int))), (6, .ref tb), (0, .ref m), (1, .int (iI c)), (2, .ref k), (3, .ref v), (4, .int (iI 0)), (5, .int (iI 1))]) C dJ25_putVal_14 (by rw [hnL]; decide) rfl ?_
  refine z_if_ne (pc := 16) (tgt := 29) C dJ25_putVal_16 (by decide) (by omega) (fun c16 => ?_) (fun c16 => by exfalso; omega)
  refine z_aload (pc := 29) (j := 1) C dJ25_putVal_29 rfl ?_
  refine z_iload (pc := 31) (j := 0) C dJ25_putVal_31 rfl ?_
  refine z_iconst (pc := 33) C dJ25_putVal_33 ?_
  refine z_isub (pc := 34) C dJ25_putVal_34 ?_
  refine z_iload_n (pc := 35) (j := 3) C dJ25_putVal_35 rfl rfl ?_
  refine z_iand (pc := 36) C dJ25_putVal_36 (iand_m hcap hcr) ?_
  show Z X h 3 132 [(8, .int (iI ((cap : Nat) : Int))), (6, .ref tb), (0, .ref m), (1, .int (iI c)), (2, .ref k), (3, .ref v), (4, .int (iI 0)), (5, .int (iI 1))] 37 [.int (iI (((c.toNat % cap) : Nat) : Int)), .ref tb]
  refine z_dup (pc := 37) C dJ25_putVal_37 rfl ?_
  refine z_istore (pc := 38) (L' := [(9, .int (iI (((c.toNat % cap) : Nat) : Int))), (8, .int (iI ((cap : Nat) : Int))), (6, .ref tb), (0, .ref m), (1, .int (iI c)), (2, .ref k), (3, .ref v), (4, .int (iI 0)), (5, .int (iI 1))]) C dJ25_putVal_38 (by rw [hnL]; decide) rfl ?_
  have hb := hch (c.toNat % cap) (Nat.mod_lt _ (by omega))
  rcases hl : bin cap (c.toNat % cap) es with _ | ⟨e, r⟩
  · have hb0 : f ((c.toNat % cap : Nat) : Int).toNat = .null := by rw [hl] at hb; exact hb
    refine z_aaload (pc := 40) (v := .null) C htb ⟨by omega, by have := Nat.mod_lt c.toNat (show 0 < cap by omega); omega⟩ hb0 dJ25_putVal_40 ?_
    refine z_dup (pc := 41) C dJ25_putVal_41 rfl ?_
    refine z_astoreN (pc := 42) (L' := [(7, .null), (9, .int (iI (((c.toNat % cap) : Nat) : Int))), (8, .int (iI ((cap : Nat) : Int))), (6, .ref tb), (0, .ref m), (1, .int (iI c)), (2, .ref k), (3, .ref v), (4, .int (iI 0)), (5, .int (iI 1))]) C dJ25_putVal_42 (by rw [hnL]; decide) rfl ?_
    refine z_ifnonnullN (pc := 44) C dJ25_putVal_44 ?_
    refine z_aload (pc := 47) (j := 3) C dJ25_putVal_47 rfl ?_
    refine z_iload (pc := 49) (j := 1) C dJ25_putVal_49 rfl ?_
    refine z_aload_n (pc := 51) (j := 4) C dJ25_putVal_51 rfl rfl ?_
    refine z_iload_n (pc := 52) (j := 5) C dJ25_putVal_52 rfl rfl ?_
    refine z_aload_n (pc := 53) (j := 6) C dJ25_putVal_53 rfl rfl ?_
    refine z_aload_n (pc := 54) (j := 7) C dJ25_putVal_54 rfl rfl ?_
    refine z_null (pc := 55) C dJ25_putVal_55 ?_
    refine z_callV (pc := 56) (n := 4) (kc' := 2) (ks' := 128) C (ct_M_newNode C.t (m := m) (c := c) (k := k) (v := v)) (lw_V q1549 q1550 q1551 q97 q1552) (by decide +kernel) ⟨by decide, by decide⟩ hmf rfl rfl rfl (Nat.le_of_ble_eq_true rfl) dJ25_putVal_56 (by omega) (by omega) (zrk fun w h6 hp => ?_) zrx
    obtain ⟨a7, rfl, fq8, fa7, k9⟩ := hp
    have na7 : h a7 = none := fa7
    have kh6 : zkeep h h6 [] := zkeep.loc zkeep.rf k9 zall_nil
    show Z X h6 2 128 [(7, .null), (9, .int (iI (((c.toNat % cap) : Nat) : Int))), (8, .int (iI ((cap : Nat) : Int))), (6, .ref tb), (0, .ref m), (1, .int (iI c)), (2, .ref k), (3, .ref v), (4, .int (iI 0)), (5, .int (iI 1))] 59 [.ref a7, .int (iI (((c.toNat % cap) : Nat) : Int)), .ref tb]
    refine z_aastore (pc := 59) (f' := updV f (Int.toNat (((c.toNat % cap) : Nat) : Int)) (.ref a7)) C rfl (Or.inl rfl) fq8 (kh6.n htb List.not_mem_nil) ⟨by omega, by have := Nat.mod_lt c.toNat (show 0 < cap by omega); omega⟩ rfl dJ25_putVal_59 ?_
    refine Z.nm (fun h10 eh10 => ?_)
    have kh10 : zkeep h6 h10 [tb] := by rw [eh10]; exact zkeep.up zkeep.rf (Or.inl (by simp)) (kh6.n htb List.not_mem_nil)
    have fh10_0 : h10 tb = some (true, .inl ((.object "java/util/HashMap$Node"), cap, updV f (Int.toNat (((c.toNat % cap) : Nat) : Int)) (.ref a7))) := zse eh10
    have hA := mpA.add0 hm hk hab na7 kh6 kh10 (kh10.n fq8 (List.not_mem_cons_of_ne_of_not_mem (zneA fq8 (kh6.n htb List.not_mem_nil)) List.not_mem_nil)) htb fh10_0 hl (by simp only [updV, Int.toNat_natCast, if_true]) (fun j hj => by simp only [updV, Int.toNat_natCast]; rw [if_neg hj])
    refine z_goto (pc := 60) (tgt := 259) C dJ25_putVal_60 (by decide) ?_
    refine Z.weak (L' := [(5, .int (iI 1)), (0, .ref m)]) (kc' := 1) (ks' := 64) [9, 4] rfl (by omega) (by omega) ?_
    exact tail _ a7 tb cap hA ((mLt.new kh6 na7 kh10 (fun q hq => by rw [List.mem_singleton.mp hq]; simp [mFp]))) (((mKp.of kh6 (fun _ z => nomatch z)).trans (mKp.of kh10 (fun q hq => by rw [List.mem_singleton.mp hq]; exact mkd.r3 (kh6.n htb List.not_mem_nil)))))
  · have hb2 := hb
    rw [hl] at hb2
    obtain ⟨hb1, nx, hn, hr⟩ := id hb2
    have hme : e ∈ es := (bin_m (by rw [hl]; exact List.mem_cons_self)).1
    have hce := (hks e hme).r
    have hne := hab e hme
    refine z_aaload (pc := 40) (v := .ref e.n) C htb ⟨by omega, by have := Nat.mod_lt c.toNat (show 0 < cap by omega); omega⟩ hb1 dJ25_putVal_40 ?_
    refine z_dup (pc := 41) C dJ25_putVal_41 rfl ?_
    refine z_astore (pc := 42) (L' := [(7, .ref e.n), (9, .int (iI (((c.toNat % cap) : Nat) : Int))), (8, .int (iI ((cap : Nat) : Int))), (6, .ref tb), (0, .ref m), (1, .int (iI c)), (2, .ref k), (3, .ref v), (4, .int (iI 0)), (5, .int (iI 1))]) C dJ25_putVal_42 (by rw [hnL]; decide) rfl ?_
    refine z_ifnonnull (pc := 44) (tgt := 63) C dJ25_putVal_44 (by decide) ?_
    refine z_aload (pc := 63) (j := 0) C dJ25_putVal_63 rfl ?_
    refine z_getfield (pc := 65) (v := .int (iI e.c)) C in_J28 rfl 0 (by decide) q1509 (fun _ z => z) hn rfl dJ25_putVal_65 ?_
    refine z_iload_n (pc := 68) (j := 5) C dJ25_putVal_68 rfl rfl ?_
    refine z_icmp_ne (pc := 69) (tgt := 104) C dJ25_putVal_69 (by decide) (by omega) (by omega) (fun c69 => ?_) (fun c69 => by exfalso; omega)
    refine z_aload (pc := 104) (j := 0) C dJ25_putVal_104 rfl ?_
    refine z_instNo (pc := 106) C q1258 (by decide) rfl hn dJ25_putVal_106 ?_
    refine z_if_eq (pc := 109) (tgt := 131) C dJ25_putVal_109 (by decide) (by decide) (fun _ => ?_) (fun z => absurd z (by decide))
    refine z_iconst (pc := 131) C dJ25_putVal_131 ?_
    refine z_istore (pc := 132) (L' := [(12, .int (iI 0)), (7, .ref e.n), (9, .int (iI (((c.toNat % cap) : Nat) : Int))), (8, .int (iI ((cap : Nat) : Int))), (6, .ref tb), (0, .ref m), (1, .int (iI c)), (2, .ref k), (3, .ref v), (4, .int (iI 0)), (5, .int (iI 1))]) C dJ25_putVal_132 (by rw [hnL]; decide) rfl ?_
    have loop134 : ∀ (n134 : Nat) (pre : List zEn) (x : zEn) (y : List zEn), (bin cap (c.toNat % cap) es = pre ++ x :: y) → (chn h (.ref x.n) (x :: y)) → y.length = n134 → Z X h 3 132 [(12, .int (iI ((pre.length : Nat) : Int))), (7, .ref x.n), (6, .ref tb), (5, .int (iI 1)), (3, .ref v), (2, .ref k), (1, .int (iI c)), (0, .ref m)] 134 [] := by
      intro n134
      induction n134 using Nat.strongRecOn with
      | ind n134 ih134 =>
      intro pre x y hpb hcn hn134
      obtain ⟨-, nx3, hn3, hr3⟩ := id hcn
      rcases y with _ | ⟨x2, y2⟩
      · have hr3 : nx3 = .null := hr3
        subst hr3
        refine z_aload (pc := 134) (j := 1) C dJ25_putVal_134 rfl ?_
        refine z_getfield (pc := 136) (v := .null) C in_J28 rfl 3 (by decide) q1520 (fun _ z => z) hn3 rfl dJ25_putVal_136 ?_
        refine z_dup (pc := 139) C dJ25_putVal_139 rfl ?_
        refine z_astoreN (pc := 140) (L' := [(10, .null), (12, .int (iI ((pre.length : Nat) : Int))), (7, .ref x.n), (6, .ref tb), (5, .int (iI 1)), (3, .ref v), (2, .ref k), (1, .int (iI c)), (0, .ref m)]) C dJ25_putVal_140 (by rw [hnL]; decide) rfl ?_
        refine z_ifnonnullN (pc := 142) C dJ25_putVal_142 ?_
        refine z_aload (pc := 145) (j := 2) C dJ25_putVal_145 rfl ?_
        refine z_aload_n (pc := 147) (j := 8) C dJ25_putVal_147 rfl rfl ?_
        refine z_iload_n (pc := 148) (j := 7) C dJ25_putVal_148 rfl rfl ?_
        refine z_aload_n (pc := 149) (j := 6) C dJ25_putVal_149 rfl rfl ?_
        refine z_aload_n (pc := 150) (j := 5) C dJ25_putVal_150 rfl rfl ?_
        refine z_null (pc := 151) C dJ25_putVal_151 ?_
        refine z_callV (pc := 152) (n := 4) (kc' := 2) (ks' := 128) C (ct_M_newNode C.t (m := m) (c := c) (k := k) (v := v)) (lw_V q1549 q1550 q1551 q97 q1552) (by decide +kernel) ⟨by decide, by decide⟩ hmf rfl rfl rfl (Nat.le_of_ble_eq_true rfl) dJ25_putVal_152 (by omega) (by omega) (zrk fun w h11 hp => ?_) zrx
        obtain ⟨a12, rfl, fq13, fa12, k14⟩ := hp
        have na12 : h a12 = none := fa12
        have kh11 : zkeep h h11 [] := zkeep.loc zkeep.rf k14 zall_nil
        show Z X h11 2 128 [(10, .null), (12, .int (iI ((pre.length : Nat) : Int))), (7, .ref x.n), (6, .ref tb), (5, .int (iI 1)), (3, .ref v), (2, .ref k), (1, .int (iI c)), (0, .ref m)] 155 [.ref a12, .ref x.n]
        refine z_putfield (pc := 155) (fs' := [.int (iI x.c), .ref x.k, .ref x.v, .ref a12]) C in_J28 tyJ28 tyJ28_ok nmJ28 rfl 3 (by decide) q1520 (fun _ z => z) rfl rfl rfl (Nat.le_of_ble_eq_true rfl) (kh11.n hn3 List.not_mem_nil) rfl dJ25_putVal_155 ?_
        refine Z.nm (fun h15 eh15 => ?_)
        have kh15 : zkeep h11 h15 [x.n] := by rw [eh15]; exact zkeep.up zkeep.rf (Or.inl (by simp)) (kh11.n hn3 List.not_mem_nil)
        have fh15_0 : h15 x.n = some (true, .inr (15, [.int (iI x.c), .ref x.k, .ref x.v, .ref a12])) := zse eh15
        have hA := mpA.add1 hm hk hab na12 kh11 kh15 (kh15.n fq13 (List.not_mem_cons_of_ne_of_not_mem (Ne.symm (zneF hn3 fa12)) List.not_mem_nil)) hpb fh15_0
        have hxe9 : x ∈ es := (bin_m (by rw [hpb]; simp)).1
        have hlA := ((mLt.new (m := m) (tb := tb) (k := k) (v := v) (c := c) kh11 na12 kh15 (fun q hq => by rw [List.mem_singleton.mp hq]; exact List.mem_cons_of_mem _ (List.mem_cons_of_mem _ (List.mem_map_of_mem hxe9)))))
        have hkA := ((mKp.of kh11 (fun _ z => nomatch z)).trans (mKp.of kh15 (fun q hq => by rw [List.mem_singleton.mp hq]; exact mkd.r2 (kh11.n hn3 List.not_mem_nil))))
        have hpl : pre.length ≤ es.length := by
          have h9 := List.length_filter_le (fun e : zEn => e.c.toNat % cap == (c.toNat % cap)) es
          have h10 := congrArg List.length hpb
          unfold bin at h10
          rw [List.length_append] at h10
          omega
        have hfew : cap = 64 → pre.length < 4 := fun z => by have := bin_few ⟨hnd, hcd, hks⟩ (c.toNat % cap); rw [← z, hpb] at this; simp at this; omega
        refine z_iload (pc := 158) (j := 1) C dJ25_putVal_158 rfl ?_
        refine z_bipush (pc := 160) C dJ25_putVal_160 (by decide) ?_
        refine z_icmp_lt (pc := 162) (tgt := 222) C dJ25_putVal_162 (by decide) (by omega) (by decide) (fun c162 => ?_) (fun c162 => ?_)
        · refine z_aloadN (pc := 222) (j := 0) C dJ25_putVal_222 rfl ?_
          refine z_ifnullN (pc := 224) (tgt := 259) C dJ25_putVal_224 (by decide) ?_
          refine Z.weak (L' := [(5, .int (iI 1)), (0, .ref m)]) (kc' := 1) (ks' := 64) [4, 8] rfl (by omega) (by omega) ?_
          exact tail _ a12 tb cap hA hlA hkA
        · have hc3 : cap = 16 ∨ cap = 32 := by omega
          refine z_aload_n (pc := 165) (j := 8) C dJ25_putVal_165 rfl rfl ?_
          refine z_aload (pc := 166) (j := 3) C dJ25_putVal_166 rfl ?_
          refine z_iload_n (pc := 168) (j := 7) C dJ25_putVal_168 rfl rfl ?_
          refine z_callV (pc := 169) (n := 2) (kc' := 1) (ks' := (128 - 2 * cap)) C (ct_M_tree C.t hA (by omega) (c := c)) (lw_V q1594 q1595 q1596 q97 q1597) (by decide +kernel) ⟨by decide, by decide⟩ (kh15.n (kh11.n hmf List.not_mem_nil) (List.not_mem_cons_of_ne_of_not_mem (zneC (kh11.n hmf List.not_mem_nil) (kh11.n hn3 List.not_mem_nil) (by decide)) List.not_mem_nil)) rfl rfl rfl (Nat.le_of_ble_eq_true rfl) dJ25_putVal_169 (by omega) (by omega) (zrk fun w h16 hp => ?_) zrx
          obtain ⟨rfl, t_17, hmp_17, ft_17, k18⟩ := hp
          obtain ⟨⟨mc_17, f_17, hmf_17, -⟩, -⟩ := id hmp_17
          show Z X h16 1 (128 - 2 * cap) [(10, .null), (12, .int (iI ((pre.length : Nat) : Int))), (7, .ref x.n), (6, .ref tb), (5, .int (iI 1)), (3, .ref v), (2, .ref k), (1, .int (iI c)), (0, .ref m)] 172 []
          refine z_goto (pc := 172) (tgt := 222) C dJ25_putVal_172 (by decide) ?_
          refine z_aloadN (pc := 222) (j := 0) C dJ25_putVal_222 rfl ?_
          refine z_ifnullN (pc := 224) (tgt := 259) C dJ25_putVal_224 (by decide) ?_
          refine Z.weak (L' := [(5, .int (iI 1)), (0, .ref m)]) (kc' := 1) (ks' := 64) [4, 8] rfl (by omega) (by omega) ?_
          exact tail _ a12 t_17 _ hmp_17 (hlA.trans (mLt.rz k18 ft_17)) (hkA.trans (mKp.of k18 hA.kd))
      · obtain ⟨hv4, nx4, hn4, hr4⟩ := id hr3
        subst hv4
        have hme4 : x2 ∈ es := (bin_m (by rw [hpb]; simp)).1
        have hce4 := (hks x2 hme4).r
        have hne4 := hab x2 hme4
        refine z_aload (pc := 134) (j := 1) C dJ25_putVal_134 rfl ?_
        refine z_getfield (pc := 136) (v := .ref x2.n) C in_J28 rfl 3 (by decide) q1520 (fun _ z => z) hn3 rfl dJ25_putVal_136 ?_
        refine z_dup (pc := 139) C dJ25_putVal_139 rfl ?_
        refine z_astore (pc := 140) (L' := [(10, .ref x2.n), (12, .int (iI ((pre.length : Nat) : Int))), (7, .ref x.n), (6, .ref tb), (5, .int (iI 1)), (3, .ref v), (2, .ref k), (1, .int (iI c)), (0, .ref m)]) C dJ25_putVal_140 (by rw [hnL]; decide) rfl ?_
        refine z_ifnonnull (pc := 142) (tgt := 175) C dJ25_putVal_142 (by decide) ?_
        refine z_aload (pc := 175) (j := 0) C dJ25_putVal_175 rfl ?_
        refine z_getfield (pc := 177) (v := .int (iI x2.c)) C in_J28 rfl 0 (by decide) q1509 (fun _ z => z) hn4 rfl dJ25_putVal_177 ?_
        refine z_iload_n (pc := 180) (j := 7) C dJ25_putVal_180 rfl rfl ?_
        refine z_icmp_ne (pc := 181) (tgt := 212) C dJ25_putVal_181 (by decide) (by omega) (by omega) (fun c181 => ?_) (fun c181 => by exfalso; omega)
        refine z_aload (pc := 212) (j := 0) C dJ25_putVal_212 rfl ?_
        refine z_astore (pc := 214) (L' := [(7, .ref x2.n), (10, .ref x2.n), (12, .int (iI ((pre.length : Nat) : Int))), (6, .ref tb), (5, .int (iI 1)), (3, .ref v), (2, .ref k), (1, .int (iI c)), (0, .ref m)]) C dJ25_putVal_214 (by rw [hnL]; decide) rfl ?_
        refine z_iinc (pc := 216) (k := 2) (L' := [(12, .int (iI (((pre.length : Nat) : Int) + 1))), (7, .ref x2.n), (10, .ref x2.n), (6, .ref tb), (5, .int (iI 1)), (3, .ref v), (2, .ref k), (1, .int (iI c)), (0, .ref m)]) C dJ25_putVal_216 rfl (by rw [hnL]; decide) rfl ?_
        rw [show ((pre.length : Nat) : Int) + 1 = (((pre ++ [x]).length : Nat) : Int) by simp]
        show Z X h 3 132 [(12, .int (iI (((pre ++ [x]).length : Nat) : Int))), (7, .ref x2.n), (10, .ref x2.n), (6, .ref tb), (5, .int (iI 1)), (3, .ref v), (2, .ref k), (1, .int (iI c)), (0, .ref m)] 219 []
        refine z_goto (pc := 219) (tgt := 134) C dJ25_putVal_219 (by decide) ?_
        refine Z.weak (L' := [(12, .int (iI (((pre ++ [x]).length : Nat) : Int))), (7, .ref x2.n), (6, .ref tb), (5, .int (iI 1)), (3, .ref v), (2, .ref k), (1, .int (iI c)), (0, .ref m)]) (kc' := 3) (ks' := 132) [0, 1, 3, 4, 5, 6, 7, 8] rfl (by omega) (by omega) ?_
        exact ih134 _ (by rw [← hn134]; exact Nat.lt_succ_self _) (pre ++ [x]) x2 y2 (by rw [hpb]; simp) hr3 rfl
    refine Z.weak (L' := [(12, .int (iI 0)), (7, .ref e.n), (6, .ref tb), (5, .int (iI 1)), (3, .ref v), (2, .ref k), (1, .int (iI c)), (0, .ref m)]) (kc' := 3) (ks' := 132) [0, 1, 4, 10, 8, 7, 6, 5] rfl (by omega) (by omega) ?_
    exact loop134 _ ([]) e r hl (hb1 ▸ hb2) rfl
set_option maxHeartbeats 4000000 in
theorem ct_M_putVal0 {l : Launch} (hl : l.stackTraces = false) {Γ : zCx} {h : zH} {m : Nat} {lf : Value} (hm : mp0 h m lf) {k : Nat} {c : Int} (hk : kAt h k c) {v : Nat}  : zMet l yJ25_putVal (ws_ yJ25_putVal cJ25_putVal 13 (some (.object "java/lang/Object"))) ({ frames := 3, cells := 3, slots := 132, locals := 60 }) Γ h [.ref m, .int (iI c), .ref k, .ref v, .int (iI 0), .int (iI 1)] (zrt (fun w h' => w = some .null ∧ ∃ n tb' cap', mpA h' m tb' cap' [(n, k, v, c)] 1 lf ∧ mLt h h' [m] (mFp m tb' [(n, k, v, c)]) ∧ mKp h h')) 3 132 := by
  refine zMet.of (cc := cJ25_putVal) hl (plainFor_of_name (by decide +kernel)) (Nat.le_of_ble_eq_true rfl) ?_
  intro X hXl hXΓ hXp C hnm hnL
  have C : zC X cJ25_putVal RJ25 (some (.object "java/lang/Object")) 3 60 [] := C
  have hnL : X.2.1.2.2.2.2 = 13 := hnL
  subst hXl hXΓ
  show Z X h 3 132 [(0, .ref m), (1, .int (iI c)), (2, .ref k), (3, .ref v), (4, .int (iI 0)), (5, .int (iI 1))] 0 []
  have hmf : h m = _ := hm
  obtain ⟨kr, kq, kb, hkf, hkr, hkq, hkb, hkc⟩ := id hk
  have hcr := hk.r
  refine z_aload_n (pc := 0) (j := 0) C dJ25_putVal_0 rfl rfl ?_
  refine z_getfield (pc := 1) (v := .null) C in_J25 rfl 2 (by decide) q1088 (fun _ z => z) hmf rfl dJ25_putVal_1 ?_
  refine z_dup (pc := 4) C dJ25_putVal_4 rfl ?_
  refine z_astoreN (pc := 5) (L' := [(6, .null), (0, .ref m), (1, .int (iI c)), (2, .ref k), (3, .ref v), (4, .int (iI 0)), (5, .int (iI 1))]) C dJ25_putVal_5 (by rw [hnL]; decide) rfl ?_
  refine z_ifnullN (pc := 7) (tgt := 19) C dJ25_putVal_7 (by decide) ?_
  refine z_aload_n (pc := 19) (j := 1) C dJ25_putVal_19 rfl rfl ?_
  refine z_callV (pc := 20) (n := 0) (kc' := 2) (ks' := 116) C (ct_M_resize0 C.t hm) (lw_V q1479 q1480 q1481 q97 q1482) (by decide +kernel) ⟨by decide, by decide⟩ hmf rfl rfl rfl (Nat.le_of_ble_eq_true rfl) dJ25_putVal_20 (by omega) (by omega) (zrk fun w h1 hp => ?_) zrx
  obtain ⟨tb, rfl, hm1, ftb, k2⟩ := hp
  have hl0 : mLt h h1 [m] (mFp m tb []) := fun h0 k0 n => ⟨zkeep.loc k0 k2 (fun q hq => Or.inl (Or.inl (n q hq))), fun q hq => by
    unfold mFp at hq
    simp only [List.map_nil, List.mem_cons, List.not_mem_nil, or_false] at hq
    rcases hq with e | e
    · rw [e]; exact n m (by simp)
    · rw [e]; exact k0.none0 ftb List.not_mem_nil⟩
  have hk0 : mKp h h1 := mKp.of k2 (fun q hq => by rw [List.mem_singleton.mp hq]; exact mkd.r1 hmf)
  have hk1 := hk.keep k2
  obtain ⟨cap, es, sz, hcap16, hes, hsz, hmA⟩ : ∃ (cap : Nat) (es : List zEn) (sz : Int), cap = 16 ∧ es = [] ∧ sz = 0 ∧ mpA h1 m tb cap es sz lf := ⟨16, [], 0, rfl, rfl, rfl, hm1⟩
  have hz : sz = ((es.length : Nat) : Int) ∧ es.length ≤ 45 := by rw [hsz, hes]; exact ⟨rfl, by decide⟩
  have hab : ∀ e ∈ es, e.c ≠ c := fun e he => by rw [hes] at he; cases he
  obtain ⟨⟨mc, f, hmf1, htb, hch⟩, hcap, hnd, hcd, hks⟩ := id hmA
  obtain ⟨kr1, kq1, kb1, hkf1, -⟩ := id hk1
  have hl1 : mLt h h1 [m] (mFp m tb es) := by rw [hes]; exact hl0
  have tail : ∀ (H : zH) (n tb2 cap2 : Nat), mpA H m tb2 cap2 (es ++ [(n, k, v, c)]) sz lf → mLt h H [m] (mFp m tb2 (es ++ [(n, k, v, c)])) → mKp h H → Z X H 1 64 [(5, .int (iI 1)), (0, .ref m)] 259 [] := by
    intro H n tb2 cap2 hmA hlt hkp
    obtain ⟨⟨mc2, f2, hmf2, htb2, hch2⟩, hcap2, -⟩ := id hmA
    refine z_aload_n (pc := 259) (j := 1) C dJ25_putVal_259 rfl rfl ?_
    refine z_dup (pc := 260) C dJ25_putVal_260 rfl ?_
    refine z_getfield (pc := 261) (v := .int (iI mc2)) C in_J25 rfl 5 (by decide) q1090 (fun _ z => z) hmf2 rfl dJ25_putVal_261 ?_
    refine z_iconst (pc := 264) C dJ25_putVal_264 ?_
    refine z_iadd (pc := 265) C dJ25_putVal_265 ?_
    refine z_putfield (pc := 266) (fs' := [.null, .null, .ref tb2, .null, .int (iI sz), .int (iI (mc2 + 1)), .int (iI ((cap2 - cap2 / 4 : Nat) : Int)), lf]) C in_J25 tyJ25 tyJ25_ok nmJ25 rfl 5 (by decide) q1090 (fun _ z => z) rfl rfl rfl (Nat.le_of_ble_eq_true rfl) hmf2 rfl dJ25_putVal_266 ?_
    refine Z.nm (fun h3 eh3 => ?_)
    have kh3 : zkeep H h3 [m] := by rw [eh3]; exact zkeep.up zkeep.rf (Or.inl (by simp)) hmf2
    have fh3_0 : h3 m = some (true, .inr (14, [.null, .null, .ref tb2, .null, .int (iI sz), .int (iI (mc2 + 1)), .int (iI ((cap2 - cap2 / 4 : Nat) : Int)), lf])) := zse eh3
    refine z_aload_n (pc := 269) (j := 1) C dJ25_putVal_269 rfl rfl ?_
    refine z_dup (pc := 270) C dJ25_putVal_270 rfl ?_
    refine z_getfield (pc := 271) (v := .int (iI sz)) C in_J25 rfl 4 (by decide) q1089 (fun _ z => z) fh3_0 rfl dJ25_putVal_271 ?_
    refine z_iconst (pc := 274) C dJ25_putVal_274 ?_
    refine z_iadd (pc := 275) C dJ25_putVal_275 ?_
    refine z_dup_x1 (pc := 276) C dJ25_putVal_276 rfl rfl ?_
    refine z_putfield (pc := 277) (fs' := [.null, .null, .ref tb2, .null, .int (iI (sz + 1)), .int (iI (mc2 + 1)), .int (iI ((cap2 - cap2 / 4 : Nat) : Int)), lf]) C in_J25 tyJ25 tyJ25_ok nmJ25 rfl 4 (by decide) q1089 (fun _ z => z) rfl rfl rfl (Nat.le_of_ble_eq_true rfl) fh3_0 rfl dJ25_putVal_277 ?_
    refine Z.nm (fun h4 eh4 => ?_)
    have kh4 : zkeep H h4 [m] := by rw [eh4]; exact zkeep.up kh3 (Or.inl (by simp)) fh3_0
    have fh4_0 : h4 m = some (true, .inr (14, [.null, .null, .ref tb2, .null, .int (iI (sz + 1)), .int (iI (mc2 + 1)), .int (iI ((cap2 - cap2 / 4 : Nat) : Int)), lf])) := zse eh4
    have hmB := hmA.sz kh4 fh4_0
    have hlB := hlt.trans (mLt.keep kh4 (fun q hq => by rw [List.mem_singleton.mp hq]; simp [mFp]))
    have hkB := hkp.trans (mKp.of kh4 (fun q hq => hmA.kd q (by rw [List.mem_singleton.mp hq]; simp [mFp])))
    refine z_aload_n (pc := 280) (j := 1) C dJ25_putVal_280 rfl rfl ?_
    refine z_getfield (pc := 281) (v := .int (iI ((cap2 - cap2 / 4 : Nat) : Int))) C in_J25 rfl 6 (by decide) q1091 (fun _ z => z) fh4_0 rfl dJ25_putVal_281 ?_
    refine z_icmp_le (pc := 284) (tgt := 292) C dJ25_putVal_284 (by decide) (by omega) (by omega) (fun c284 => ?_) (fun c284 => by exfalso; have : cap2 = 16 ∨ cap2 = 32 ∨ cap2 = 64 := hcap2; omega)
    refine z_aload_n (pc := 292) (j := 1) C dJ25_putVal_292 rfl rfl ?_
    refine z_iload (pc := 293) (j := 0) C dJ25_putVal_293 rfl ?_
    refine z_callV (pc := 295) (n := 1) (kc' := 1) (ks' := 64) C (ct_M_after C.t (m := m) (b := 1)) (lw_V q1607 q1608 q1609 q97 q1610) (by decide +kernel) ⟨by decide, by decide⟩ fh4_0 rfl rfl rfl (Nat.le_of_ble_eq_true rfl) dJ25_putVal_295 (by omega) (by omega) (zpk (st' := []) rfl ?_) zrx
    refine z_null (pc := 298) C dJ25_putVal_298 ?_
    exact z_areturn (pc := 299) C (Or.inl ⟨_, rfl⟩) (Or.inl rfl) (by rw [hXp]; exact ⟨_, rfl, rfl, n, tb2, cap2, (by rw [hes, hsz] at hmB; exact hmB), (by rw [hes] at hlB; exact hlB), hkB⟩) dJ25_putVal_299
  show Z X h1 2 116 [(6, .null), (0, .ref m), (1, .int (iI c)), (2, .ref k), (3, .ref v), (4, .int (iI 0)), (5, .int (iI 1))] 23 [.ref tb]
  refine z_dup (pc := 23) C dJ25_putVal_23 rfl ?_
  refine z_astore (pc := 24) (L' := [(6, .ref tb), (0, .ref m), (1, .int (iI c)), (2, .ref k), (3, .ref v), (4, .int (iI 0)), (5, .int (iI 1))]) C dJ25_putVal_24 (by rw [hnL]; decide) rfl ?_
  refine z_alen (pc := 26) C htb dJ25_putVal_26 ?_
  refine z_istore (pc := 27) (L' := [(8, .int (iI ((cap : Nat) : Int))), (6, .ref tb), (0, .ref m), (1, .int (iI c)), (2, .ref k), (3, .ref v), (4, .int (iI 0)), (5, .int (iI 1))]) C dJ25_putVal_27 (by rw [hnL]; decide) rfl ?_
  refine z_aload (pc := 29) (j := 1) C dJ25_putVal_29 rfl ?_
  refine z_iload (pc := 31) (j := 0) C dJ25_putVal_31 rfl ?_
  refine z_iconst (pc := 33) C dJ25_putVal_33 ?_
  refine z_isub (pc := 34) C dJ25_putVal_34 ?_
  refine z_iload_n (pc := 35) (j := 3) C dJ25_putVal_35 rfl rfl ?_
  refine z_iand (pc := 36) C dJ25_putVal_36 (iand_m hcap hcr) ?_
  show Z X h1 2 116 [(8, .int (iI ((cap : Nat) : Int))), (6, .ref tb), (0, .ref m), (1, .int (iI c)), (2, .ref k), (3, .ref v), (4, .int (iI 0)), (5, .int (iI 1))] 37 [.int (iI (((c.toNat % cap) : Nat) : Int)), .ref tb]
  refine z_dup (pc := 37) C dJ25_putVal_37 rfl ?_
  refine z_istore (pc := 38) (L' := [(9, .int (iI (((c.toNat % cap) : Nat) : Int))), (8, .int (iI ((cap : Nat) : Int))), (6, .ref tb), (0, .ref m), (1, .int (iI c)), (2, .ref k), (3, .ref v), (4, .int (iI 0)), (5, .int (iI 1))]) C dJ25_putVal_38 (by rw [hnL]; decide) rfl ?_
  have hb := hch (c.toNat % cap) (Nat.mod_lt _ (by omega))
  have hl : bin cap (c.toNat % cap) es = [] := by rw [hes]; rfl
  have hb0 : f ((c.toNat % cap : Nat) : Int).toNat = .null := by rw [hl] at hb; exact hb
  refine z_aaload (pc := 40) (v := .null) C htb ⟨by omega, by have := Nat.mod_lt c.toNat (show 0 < cap by omega); omega⟩ hb0 dJ25_putVal_40 ?_
  refine z_dup (pc := 41) C dJ25_putVal_41 rfl ?_
  refine z_astoreN (pc := 42) (L' := [(7, .null), (9, .int (iI (((c.toNat % cap) : Nat) : Int))), (8, .int (iI ((cap : Nat) : Int))), (6, .ref tb), (0, .ref m), (1, .int (iI c)), (2, .ref k), (3, .ref v), (4, .int (iI 0)), (5, .int (iI 1))]) C dJ25_putVal_42 (by rw [hnL]; decide) rfl ?_
  refine z_ifnonnullN (pc := 44) C dJ25_putVal_44 ?_
  refine z_aload (pc := 47) (j := 3) C dJ25_putVal_47 rfl ?_
  refine z_iload (pc := 49) (j := 1) C dJ25_putVal_49 rfl ?_
  refine z_aload_n (pc := 51) (j := 4) C dJ25_putVal_51 rfl rfl ?_
  refine z_iload_n (pc := 52) (j := 5) C dJ25_putVal_52 rfl rfl ?_
  refine z_aload_n (pc := 53) (j := 6) C dJ25_putVal_53 rfl rfl ?_
  refine z_aload_n (pc := 54) (j := 7) C dJ25_putVal_54 rfl rfl ?_
  refine z_null (pc := 55) C dJ25_putVal_55 ?_
  refine z_callV (pc := 56) (n := 4) (kc' := 1) (ks' := 112) C (ct_M_newNode C.t (m := m) (c := c) (k := k) (v := v)) (lw_V q1549 q1550 q1551 q97 q1552) (by decide +kernel) ⟨by decide, by decide⟩ hmf1 rfl rfl rfl (Nat.le_of_ble_eq_true rfl) dJ25_putVal_56 (by omega) (by omega) (zrk fun w h5 hp => ?_) zrx
  obtain ⟨a6, rfl, fq7, fa6, k8⟩ := hp
  have na6 : h1 a6 = none := fa6
  have kh5 : zkeep h1 h5 [] := zkeep.loc zkeep.rf k8 zall_nil
  show Z X h5 1 112 [(7, .null), (9, .int (iI (((c.toNat % cap) : Nat) : Int))), (8, .int (iI ((cap : Nat) : Int))), (6, .ref tb), (0, .ref m), (1, .int (iI c)), (2, .ref k), (3, .ref v), (4, .int (iI 0)), (5, .int (iI 1))] 59 [.ref a6, .int (iI (((c.toNat % cap) : Nat) : Int)), .ref tb]
  refine z_aastore (pc := 59) (f' := updV f (Int.toNat (((c.toNat % cap) : Nat) : Int)) (.ref a6)) C rfl (Or.inl rfl) fq7 (kh5.n htb List.not_mem_nil) ⟨by omega, by have := Nat.mod_lt c.toNat (show 0 < cap by omega); omega⟩ rfl dJ25_putVal_59 ?_
  refine Z.nm (fun h9 eh9 => ?_)
  have kh9 : zkeep h5 h9 [tb] := by rw [eh9]; exact zkeep.up zkeep.rf (Or.inl (by simp)) (kh5.n htb List.not_mem_nil)
  have fh9_0 : h9 tb = some (true, .inl ((.object "java/util/HashMap$Node"), cap, updV f (Int.toNat (((c.toNat % cap) : Nat) : Int)) (.ref a6))) := zse eh9
  have hA := mpA.add0 hmA hk1 hab na6 kh5 kh9 (kh9.n fq7 (List.not_mem_cons_of_ne_of_not_mem (zneA fq7 (kh5.n htb List.not_mem_nil)) List.not_mem_nil)) htb fh9_0 hl (by simp only [updV, Int.toNat_natCast, if_true]) (fun j hj => by simp only [updV, Int.toNat_natCast]; rw [if_neg hj])
  refine z_goto (pc := 60) (tgt := 259) C dJ25_putVal_60 (by decide) ?_
  refine Z.weak (L' := [(5, .int (iI 1)), (0, .ref m)]) (kc' := 1) (ks' := 64) [9, 4] rfl (by omega) (by omega) ?_
  exact tail _ a6 tb cap hA (hl1.trans ((mLt.new kh5 na6 kh9 (fun q hq => by rw [List.mem_singleton.mp hq]; simp [mFp])))) ((hk0.trans ((mKp.of kh5 (fun _ z => nomatch z)).trans (mKp.of kh9 (fun q hq => by rw [List.mem_singleton.mp hq]; exact mkd.r3 (kh5.n htb List.not_mem_nil))))))

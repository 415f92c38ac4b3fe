/-! 36.map.lean.txt -/
set_option maxRecDepth 100000
abbrev cJ25_hash : ByteArray := prog_48_method_1_code
def yJ25_hash : MethodName := ⟨RJ25, "hash", "(Ljava/lang/Object;)I"⟩
def dkwJ25_hash_0 : List UInt8 := [42, 199, 0, 7, 3, 167, 0, 14, 42, 182, 0, 1, 89, 60, 27, 16, 16, 124, 130, 172]
abbrev dktJ25_hash_0 : List UInt8 := dkwJ25_hash_0 ++ []
theorem dksJ25_hash_0 : cJ25_hash.data.toList.drop 0 = dktJ25_hash_0 := by decide +kernel
abbrev cJ25_getNode : ByteArray := prog_48_method_13_code
def yJ25_getNode : MethodName := ⟨RJ25, "getNode", "(Ljava/lang/Object;)Ljava/util/HashMap$Node;"⟩
def dkwJ25_getNode_6 : List UInt8 := [89, 58, 4, 199, 255, 210, 1, 176]
abbrev dktJ25_getNode_6 : List UInt8 := dkwJ25_getNode_6 ++ []
def dkwJ25_getNode_5 : List UInt8 := [165, 0, 16, 43, 198, 0, 15, 43, 25, 7, 182, 0, 173, 153, 0, 6, 25, 4, 176, 25, 4, 180, 0, 177]
abbrev dktJ25_getNode_5 : List UInt8 := dkwJ25_getNode_5 ++ dktJ25_getNode_6
def dkwJ25_getNode_4 : List UInt8 := [43, 182, 0, 182, 176, 25, 4, 180, 0, 168, 21, 6, 160, 0, 31, 25, 4, 180, 0, 170, 89, 58, 7, 43]
abbrev dktJ25_getNode_4 : List UInt8 := dkwJ25_getNode_4 ++ dktJ25_getNode_5
def dkwJ25_getNode_3 : List UInt8 := [176, 45, 180, 0, 177, 89, 58, 4, 198, 0, 70, 45, 193, 0, 180, 153, 0, 14, 45, 192, 0, 180, 21, 6]
abbrev dktJ25_getNode_3 : List UInt8 := dkwJ25_getNode_3 ++ dktJ25_getNode_4
def dkwJ25_getNode_2 : List UInt8 := [180, 0, 170, 89, 58, 7, 43, 165, 0, 16, 43, 198, 0, 14, 43, 25, 7, 182, 0, 173, 153, 0, 5, 45]
abbrev dktJ25_getNode_2 : List UInt8 := dkwJ25_getNode_2 ++ dktJ25_getNode_3
def dkwJ25_getNode_1 : List UInt8 := [184, 0, 149, 89, 54, 6, 126, 50, 89, 78, 198, 0, 115, 45, 180, 0, 168, 21, 6, 160, 0, 29, 45]
abbrev dktJ25_getNode_1 : List UInt8 := dkwJ25_getNode_1 ++ dktJ25_getNode_2
def dkwJ25_getNode_0 : List UInt8 := [42, 180, 0, 105, 89, 77, 198, 0, 142, 44, 190, 89, 54, 5, 158, 0, 134, 44, 21, 5, 4, 100, 43]
abbrev dktJ25_getNode_0 : List UInt8 := dkwJ25_getNode_0 ++ dktJ25_getNode_1
theorem dksJ25_getNode_0 : cJ25_getNode.data.toList.drop 0 = dktJ25_getNode_0 := by decide +kernel
theorem dksJ25_getNode_1 : cJ25_getNode.data.toList.drop 23 = dktJ25_getNode_1 := dk_seg dksJ25_getNode_0 23 rfl rfl
theorem dksJ25_getNode_2 : cJ25_getNode.data.toList.drop 46 = dktJ25_getNode_2 := dk_seg dksJ25_getNode_1 23 rfl rfl
theorem dksJ25_getNode_3 : cJ25_getNode.data.toList.drop 70 = dktJ25_getNode_3 := dk_seg dksJ25_getNode_2 24 rfl rfl
theorem dksJ25_getNode_4 : cJ25_getNode.data.toList.drop 94 = dktJ25_getNode_4 := dk_seg dksJ25_getNode_3 24 rfl rfl
theorem dksJ25_getNode_5 : cJ25_getNode.data.toList.drop 118 = dktJ25_getNode_5 := dk_seg dksJ25_getNode_4 24 rfl rfl
theorem dksJ25_getNode_6 : cJ25_getNode.data.toList.drop 142 = dktJ25_getNode_6 := dk_seg dksJ25_getNode_5 24 rfl rfl
abbrev cJ25_get : ByteArray := prog_48_method_12_code
def yJ25_get : MethodName := ⟨RJ25, "get", "(Ljava/lang/Object;)Ljava/lang/Object;"⟩
def dkwJ25_get_0 : List UInt8 := [42, 43, 182, 0, 158, 89, 77, 199, 0, 7, 1, 167, 0, 7, 44, 180, 0, 162, 176]
abbrev dktJ25_get_0 : List UInt8 := dkwJ25_get_0 ++ []
theorem dksJ25_get_0 : cJ25_get.data.toList.drop 0 = dktJ25_get_0 := by decide +kernel
def RJ24 : String := "java/util/AbstractMap"
abbrev cJ24_init : ByteArray := prog_42_method_1_code
def yJ24_init : MethodName := ⟨RJ24, "<init>", "()V"⟩
abbrev cJ25_init : ByteArray := prog_48_method_7_code
def yJ25_init : MethodName := ⟨RJ25, "<init>", "()V"⟩
def dkwJ25_init_0 : List UInt8 := [42, 183, 0, 43, 42, 18, 92, 181, 0, 81, 177]
abbrev dktJ25_init_0 : List UInt8 := dkwJ25_init_0 ++ []
theorem dksJ25_init_0 : cJ25_init.data.toList.drop 0 = dktJ25_init_0 := by decide +kernel
abbrev cJ28_init : ByteArray := prog_49_method_1_code
def yJ28_init : MethodName := ⟨RJ28, "<init>", "(ILjava/lang/Object;Ljava/lang/Object;Ljava/util/HashMap$Node;)V"⟩
def dkwJ28_init_1 : List UInt8 := [181, 0, 20, 177]
abbrev dktJ28_init_1 : List UInt8 := dkwJ28_init_1 ++ []
def dkwJ28_init_0 : List UInt8 := [42, 183, 0, 1, 42, 27, 181, 0, 7, 42, 44, 181, 0, 13, 42, 45, 181, 0, 17, 42, 25, 4]
abbrev dktJ28_init_0 : List UInt8 := dkwJ28_init_0 ++ dktJ28_init_1
theorem dksJ28_init_0 : cJ28_init.data.toList.drop 0 = dktJ28_init_0 := by decide +kernel
theorem dksJ28_init_1 : cJ28_init.data.toList.drop 22 = dktJ28_init_1 := dk_seg dksJ28_init_0 22 rfl rfl
abbrev cJ25_newNode : ByteArray := prog_48_method_46_code
def yJ25_newNode : MethodName := ⟨RJ25, "newNode", "(ILjava/lang/Object;Ljava/lang/Object;Ljava/util/HashMap$Node;)Ljava/util/HashMap$Node;"⟩
def dkwJ25_newNode_0 : List UInt8 := [187, 0, 163, 89, 27, 44, 45, 25, 4, 183, 1, 119, 176]
abbrev dktJ25_newNode_0 : List UInt8 := dkwJ25_newNode_0 ++ []
theorem dksJ25_newNode_0 : cJ25_newNode.data.toList.drop 0 = dktJ25_newNode_0 := by decide +kernel
abbrev cJ25_afterNodeInsertion : ByteArray := prog_48_method_52_code
def yJ25_afterNodeInsertion : MethodName := ⟨RJ25, "afterNodeInsertion", "(Z)V"⟩
theorem dJ25_hash_0 : decode cJ25_hash 0 = .ok (.aload_n 0, 1) := dk_42 (dk_at dksJ25_hash_0 0 rfl rfl)
theorem dJ25_hash_1 : decode cJ25_hash 1 = .ok (.ifnonnull 7, 3) := dk_199 0 7 (dk_at dksJ25_hash_0 1 rfl rfl)
theorem dJ25_hash_8 : decode cJ25_hash 8 = .ok (.aload_n 0, 1) := dk_42 (dk_at dksJ25_hash_0 8 rfl rfl)
theorem dJ25_hash_9 : decode cJ25_hash 9 = .ok (.invokevirtual 1, 3) := dk_182 0 1 (dk_at dksJ25_hash_0 9 rfl rfl)
theorem dJ25_hash_12 : decode cJ25_hash 12 = .ok (.dup, 1) := dk_89 (dk_at dksJ25_hash_0 12 rfl rfl)
theorem dJ25_hash_13 : decode cJ25_hash 13 = .ok (.istore_n 1, 1) := dk_60 (dk_at dksJ25_hash_0 13 rfl rfl)
theorem dJ25_hash_14 : decode cJ25_hash 14 = .ok (.iload_n 1, 1) := dk_27 (dk_at dksJ25_hash_0 14 rfl rfl)
theorem dJ25_hash_15 : decode cJ25_hash 15 = .ok (.bipush 16, 2) := dk_16 16 (dk_at dksJ25_hash_0 15 rfl rfl)
theorem dJ25_hash_17 : decode cJ25_hash 17 = .ok (.iushr, 1) := dk_124 (dk_at dksJ25_hash_0 17 rfl rfl)
theorem dJ25_hash_18 : decode cJ25_hash 18 = .ok (.ixor, 1) := dk_130 (dk_at dksJ25_hash_0 18 rfl rfl)
theorem dJ25_hash_19 : decode cJ25_hash 19 = .ok (.ireturn, 1) := dk_172 (dk_at dksJ25_hash_0 19 rfl rfl)
theorem dJ25_getNode_0 : decode cJ25_getNode 0 = .ok (.aload_n 0, 1) := dk_42 (dk_at dksJ25_getNode_0 0 rfl rfl)
theorem dJ25_getNode_1 : decode cJ25_getNode 1 = .ok (.getfield 105, 3) := dk_180 0 105 (dk_at dksJ25_getNode_0 1 rfl rfl)
theorem dJ25_getNode_4 : decode cJ25_getNode 4 = .ok (.dup, 1) := dk_89 (dk_at dksJ25_getNode_0 4 rfl rfl)
theorem dJ25_getNode_5 : decode cJ25_getNode 5 = .ok (.astore_n 2, 1) := dk_77 (dk_at dksJ25_getNode_0 5 rfl rfl)
theorem dJ25_getNode_6 : decode cJ25_getNode 6 = .ok (.ifnull 142, 3) := dk_198 0 142 (dk_at dksJ25_getNode_0 6 rfl rfl)
theorem dJ25_getNode_9 : decode cJ25_getNode 9 = .ok (.aload_n 2, 1) := dk_44 (dk_at dksJ25_getNode_0 9 rfl rfl)
theorem dJ25_getNode_10 : decode cJ25_getNode 10 = .ok (.arraylength, 1) := dk_190 (dk_at dksJ25_getNode_0 10 rfl rfl)
theorem dJ25_getNode_11 : decode cJ25_getNode 11 = .ok (.dup, 1) := dk_89 (dk_at dksJ25_getNode_0 11 rfl rfl)
theorem dJ25_getNode_12 : decode cJ25_getNode 12 = .ok (.istore 5, 2) := dk_54 5 (dk_at dksJ25_getNode_0 12 rfl rfl)
theorem dJ25_getNode_14 : decode cJ25_getNode 14 = .ok (.ifCond .le 134, 3) := dk_158 0 134 (dk_at dksJ25_getNode_0 14 rfl rfl)
theorem dJ25_getNode_17 : decode cJ25_getNode 17 = .ok (.aload_n 2, 1) := dk_44 (dk_at dksJ25_getNode_0 17 rfl rfl)
theorem dJ25_getNode_18 : decode cJ25_getNode 18 = .ok (.iload 5, 2) := dk_21 5 (dk_at dksJ25_getNode_0 18 rfl rfl)
theorem dJ25_getNode_20 : decode cJ25_getNode 20 = .ok (.iconst 1, 1) := dk_4 (dk_at dksJ25_getNode_0 20 rfl rfl)
theorem dJ25_getNode_21 : decode cJ25_getNode 21 = .ok (.isub, 1) := dk_100 (dk_at dksJ25_getNode_0 21 rfl rfl)
theorem dJ25_getNode_22 : decode cJ25_getNode 22 = .ok (.aload_n 1, 1) := dk_43 (dk_at dksJ25_getNode_0 22 rfl rfl)
theorem dJ25_getNode_23 : decode cJ25_getNode 23 = .ok (.invokestatic 149, 3) := dk_184 0 149 (dk_at dksJ25_getNode_1 0 rfl rfl)
theorem dJ25_getNode_26 : decode cJ25_getNode 26 = .ok (.dup, 1) := dk_89 (dk_at dksJ25_getNode_1 3 rfl rfl)
theorem dJ25_getNode_27 : decode cJ25_getNode 27 = .ok (.istore 6, 2) := dk_54 6 (dk_at dksJ25_getNode_1 4 rfl rfl)
theorem dJ25_getNode_29 : decode cJ25_getNode 29 = .ok (.iand, 1) := dk_126 (dk_at dksJ25_getNode_1 6 rfl rfl)
theorem dJ25_getNode_30 : decode cJ25_getNode 30 = .ok (.aaload, 1) := dk_50 (dk_at dksJ25_getNode_1 7 rfl rfl)
theorem dJ25_getNode_31 : decode cJ25_getNode 31 = .ok (.dup, 1) := dk_89 (dk_at dksJ25_getNode_1 8 rfl rfl)
theorem dJ25_getNode_32 : decode cJ25_getNode 32 = .ok (.astore_n 3, 1) := dk_78 (dk_at dksJ25_getNode_1 9 rfl rfl)
theorem dJ25_getNode_33 : decode cJ25_getNode 33 = .ok (.ifnull 115, 3) := dk_198 0 115 (dk_at dksJ25_getNode_1 10 rfl rfl)
theorem dJ25_getNode_36 : decode cJ25_getNode 36 = .ok (.aload_n 3, 1) := dk_45 (dk_at dksJ25_getNode_1 13 rfl rfl)
theorem dJ25_getNode_37 : decode cJ25_getNode 37 = .ok (.getfield 168, 3) := dk_180 0 168 (dk_at dksJ25_getNode_1 14 rfl rfl)
theorem dJ25_getNode_40 : decode cJ25_getNode 40 = .ok (.iload 6, 2) := dk_21 6 (dk_at dksJ25_getNode_1 17 rfl rfl)
theorem dJ25_getNode_42 : decode cJ25_getNode 42 = .ok (.if_icmp .ne 29, 3) := dk_160 0 29 (dk_at dksJ25_getNode_1 19 rfl rfl)
theorem dJ25_getNode_45 : decode cJ25_getNode 45 = .ok (.aload_n 3, 1) := dk_45 (dk_at dksJ25_getNode_1 22 rfl rfl)
theorem dJ25_getNode_46 : decode cJ25_getNode 46 = .ok (.getfield 170, 3) := dk_180 0 170 (dk_at dksJ25_getNode_2 0 rfl rfl)
theorem dJ25_getNode_49 : decode cJ25_getNode 49 = .ok (.dup, 1) := dk_89 (dk_at dksJ25_getNode_2 3 rfl rfl)
theorem dJ25_getNode_50 : decode cJ25_getNode 50 = .ok (.astore 7, 2) := dk_58 7 (dk_at dksJ25_getNode_2 4 rfl rfl)
theorem dJ25_getNode_52 : decode cJ25_getNode 52 = .ok (.aload_n 1, 1) := dk_43 (dk_at dksJ25_getNode_2 6 rfl rfl)
theorem dJ25_getNode_53 : decode cJ25_getNode 53 = .ok (.if_acmp .eq 16, 3) := dk_165 0 16 (dk_at dksJ25_getNode_2 7 rfl rfl)
theorem dJ25_getNode_56 : decode cJ25_getNode 56 = .ok (.aload_n 1, 1) := dk_43 (dk_at dksJ25_getNode_2 10 rfl rfl)
theorem dJ25_getNode_57 : decode cJ25_getNode 57 = .ok (.ifnull 14, 3) := dk_198 0 14 (dk_at dksJ25_getNode_2 11 rfl rfl)
theorem dJ25_getNode_60 : decode cJ25_getNode 60 = .ok (.aload_n 1, 1) := dk_43 (dk_at dksJ25_getNode_2 14 rfl rfl)
theorem dJ25_getNode_61 : decode cJ25_getNode 61 = .ok (.aload 7, 2) := dk_25 7 (dk_at dksJ25_getNode_2 15 rfl rfl)
theorem dJ25_getNode_63 : decode cJ25_getNode 63 = .ok (.invokevirtual 173, 3) := dk_182 0 173 (dk_at dksJ25_getNode_2 17 rfl rfl)
theorem dJ25_getNode_66 : decode cJ25_getNode 66 = .ok (.ifCond .eq 5, 3) := dk_153 0 5 (dk_at dksJ25_getNode_2 20 rfl rfl)
theorem dJ25_getNode_69 : decode cJ25_getNode 69 = .ok (.aload_n 3, 1) := dk_45 (dk_at dksJ25_getNode_2 23 rfl rfl)
theorem dJ25_getNode_70 : decode cJ25_getNode 70 = .ok (.areturn, 1) := dk_176 (dk_at dksJ25_getNode_3 0 rfl rfl)
theorem dJ25_getNode_71 : decode cJ25_getNode 71 = .ok (.aload_n 3, 1) := dk_45 (dk_at dksJ25_getNode_3 1 rfl rfl)
theorem dJ25_getNode_72 : decode cJ25_getNode 72 = .ok (.getfield 177, 3) := dk_180 0 177 (dk_at dksJ25_getNode_3 2 rfl rfl)
theorem dJ25_getNode_75 : decode cJ25_getNode 75 = .ok (.dup, 1) := dk_89 (dk_at dksJ25_getNode_3 5 rfl rfl)
theorem dJ25_getNode_76 : decode cJ25_getNode 76 = .ok (.astore 4, 2) := dk_58 4 (dk_at dksJ25_getNode_3 6 rfl rfl)
theorem dJ25_getNode_78 : decode cJ25_getNode 78 = .ok (.ifnull 70, 3) := dk_198 0 70 (dk_at dksJ25_getNode_3 8 rfl rfl)
theorem dJ25_getNode_81 : decode cJ25_getNode 81 = .ok (.aload_n 3, 1) := dk_45 (dk_at dksJ25_getNode_3 11 rfl rfl)
theorem dJ25_getNode_82 : decode cJ25_getNode 82 = .ok (.instanceof 180, 3) := dk_193 0 180 (dk_at dksJ25_getNode_3 12 rfl rfl)
theorem dJ25_getNode_85 : decode cJ25_getNode 85 = .ok (.ifCond .eq 14, 3) := dk_153 0 14 (dk_at dksJ25_getNode_3 15 rfl rfl)
theorem dJ25_getNode_99 : decode cJ25_getNode 99 = .ok (.aload 4, 2) := dk_25 4 (dk_at dksJ25_getNode_4 5 rfl rfl)
theorem dJ25_getNode_101 : decode cJ25_getNode 101 = .ok (.getfield 168, 3) := dk_180 0 168 (dk_at dksJ25_getNode_4 7 rfl rfl)
theorem dJ25_getNode_104 : decode cJ25_getNode 104 = .ok (.iload 6, 2) := dk_21 6 (dk_at dksJ25_getNode_4 10 rfl rfl)
theorem dJ25_getNode_106 : decode cJ25_getNode 106 = .ok (.if_icmp .ne 31, 3) := dk_160 0 31 (dk_at dksJ25_getNode_4 12 rfl rfl)
theorem dJ25_getNode_109 : decode cJ25_getNode 109 = .ok (.aload 4, 2) := dk_25 4 (dk_at dksJ25_getNode_4 15 rfl rfl)
theorem dJ25_getNode_111 : decode cJ25_getNode 111 = .ok (.getfield 170, 3) := dk_180 0 170 (dk_at dksJ25_getNode_4 17 rfl rfl)
theorem dJ25_getNode_114 : decode cJ25_getNode 114 = .ok (.dup, 1) := dk_89 (dk_at dksJ25_getNode_4 20 rfl rfl)
theorem dJ25_getNode_115 : decode cJ25_getNode 115 = .ok (.astore 7, 2) := dk_58 7 (dk_at dksJ25_getNode_4 21 rfl rfl)
theorem dJ25_getNode_117 : decode cJ25_getNode 117 = .ok (.aload_n 1, 1) := dk_43 (dk_at dksJ25_getNode_4 23 rfl rfl)
theorem dJ25_getNode_118 : decode cJ25_getNode 118 = .ok (.if_acmp .eq 16, 3) := dk_165 0 16 (dk_at dksJ25_getNode_5 0 rfl rfl)
theorem dJ25_getNode_121 : decode cJ25_getNode 121 = .ok (.aload_n 1, 1) := dk_43 (dk_at dksJ25_getNode_5 3 rfl rfl)
theorem dJ25_getNode_122 : decode cJ25_getNode 122 = .ok (.ifnull 15, 3) := dk_198 0 15 (dk_at dksJ25_getNode_5 4 rfl rfl)
theorem dJ25_getNode_125 : decode cJ25_getNode 125 = .ok (.aload_n 1, 1) := dk_43 (dk_at dksJ25_getNode_5 7 rfl rfl)
theorem dJ25_getNode_126 : decode cJ25_getNode 126 = .ok (.aload 7, 2) := dk_25 7 (dk_at dksJ25_getNode_5 8 rfl rfl)
theorem dJ25_getNode_128 : decode cJ25_getNode 128 = .ok (.invokevirtual 173, 3) := dk_182 0 173 (dk_at dksJ25_getNode_5 10 rfl rfl)
theorem dJ25_getNode_131 : decode cJ25_getNode 131 = .ok (.ifCond .eq 6, 3) := dk_153 0 6 (dk_at dksJ25_getNode_5 13 rfl rfl)
theorem dJ25_getNode_134 : decode cJ25_getNode 134 = .ok (.aload 4, 2) := dk_25 4 (dk_at dksJ25_getNode_5 16 rfl rfl)
theorem dJ25_getNode_136 : decode cJ25_getNode 136 = .ok (.areturn, 1) := dk_176 (dk_at dksJ25_getNode_5 18 rfl rfl)
theorem dJ25_getNode_137 : decode cJ25_getNode 137 = .ok (.aload 4, 2) := dk_25 4 (dk_at dksJ25_getNode_5 19 rfl rfl)
theorem dJ25_getNode_139 : decode cJ25_getNode 139 = .ok (.getfield 177, 3) := dk_180 0 177 (dk_at dksJ25_getNode_5 21 rfl rfl)
theorem dJ25_getNode_142 : decode cJ25_getNode 142 = .ok (.dup, 1) := dk_89 (dk_at dksJ25_getNode_6 0 rfl rfl)
theorem dJ25_getNode_143 : decode cJ25_getNode 143 = .ok (.astore 4, 2) := dk_58 4 (dk_at dksJ25_getNode_6 1 rfl rfl)
theorem dJ25_getNode_145 : decode cJ25_getNode 145 = .ok (.ifnonnull (-46), 3) := dk_199 255 210 (dk_at dksJ25_getNode_6 3 rfl rfl)
theorem dJ25_getNode_148 : decode cJ25_getNode 148 = .ok (.aconst_null, 1) := dk_1 (dk_at dksJ25_getNode_6 6 rfl rfl)
theorem dJ25_getNode_149 : decode cJ25_getNode 149 = .ok (.areturn, 1) := dk_176 (dk_at dksJ25_getNode_6 7 rfl rfl)
theorem dJ25_get_0 : decode cJ25_get 0 = .ok (.aload_n 0, 1) := dk_42 (dk_at dksJ25_get_0 0 rfl rfl)
theorem dJ25_get_1 : decode cJ25_get 1 = .ok (.aload_n 1, 1) := dk_43 (dk_at dksJ25_get_0 1 rfl rfl)
theorem dJ25_get_2 : decode cJ25_get 2 = .ok (.invokevirtual 158, 3) := dk_182 0 158 (dk_at dksJ25_get_0 2 rfl rfl)
theorem dJ25_get_5 : decode cJ25_get 5 = .ok (.dup, 1) := dk_89 (dk_at dksJ25_get_0 5 rfl rfl)
theorem dJ25_get_6 : decode cJ25_get 6 = .ok (.astore_n 2, 1) := dk_77 (dk_at dksJ25_get_0 6 rfl rfl)
theorem dJ25_get_7 : decode cJ25_get 7 = .ok (.ifnonnull 7, 3) := dk_199 0 7 (dk_at dksJ25_get_0 7 rfl rfl)
theorem dJ25_get_10 : decode cJ25_get 10 = .ok (.aconst_null, 1) := dk_1 (dk_at dksJ25_get_0 10 rfl rfl)
theorem dJ25_get_11 : decode cJ25_get 11 = .ok (.goto 7, 3) := dk_167 0 7 (dk_at dksJ25_get_0 11 rfl rfl)
theorem dJ25_get_14 : decode cJ25_get 14 = .ok (.aload_n 2, 1) := dk_44 (dk_at dksJ25_get_0 14 rfl rfl)
theorem dJ25_get_15 : decode cJ25_get 15 = .ok (.getfield 162, 3) := dk_180 0 162 (dk_at dksJ25_get_0 15 rfl rfl)
theorem dJ25_get_18 : decode cJ25_get 18 = .ok (.areturn, 1) := dk_176 (dk_at dksJ25_get_0 18 rfl rfl)
theorem dJ24_init_0 : decode cJ24_init 0 = .ok (.aload_n 0, 1) := by decide +kernel
theorem dJ24_init_1 : decode cJ24_init 1 = .ok (.invokespecial 1, 3) := by decide +kernel
theorem dJ24_init_4 : decode cJ24_init 4 = .ok (.return_, 1) := by decide +kernel
theorem dJ25_init_0 : decode cJ25_init 0 = .ok (.aload_n 0, 1) := dk_42 (dk_at dksJ25_init_0 0 rfl rfl)
theorem dJ25_init_1 : decode cJ25_init 1 = .ok (.invokespecial 43, 3) := dk_183 0 43 (dk_at dksJ25_init_0 1 rfl rfl)
theorem dJ25_init_4 : decode cJ25_init 4 = .ok (.aload_n 0, 1) := dk_42 (dk_at dksJ25_init_0 4 rfl rfl)
theorem dJ25_init_5 : decode cJ25_init 5 = .ok (.ldc 92, 2) := dk_18 92 (dk_at dksJ25_init_0 5 rfl rfl)
theorem dJ25_init_7 : decode cJ25_init 7 = .ok (.putfield 81, 3) := dk_181 0 81 (dk_at dksJ25_init_0 7 rfl rfl)
theorem dJ25_init_10 : decode cJ25_init 10 = .ok (.return_, 1) := dk_177 (dk_at dksJ25_init_0 10 rfl rfl)
theorem dJ28_init_0 : decode cJ28_init 0 = .ok (.aload_n 0, 1) := dk_42 (dk_at dksJ28_init_0 0 rfl rfl)
theorem dJ28_init_1 : decode cJ28_init 1 = .ok (.invokespecial 1, 3) := dk_183 0 1 (dk_at dksJ28_init_0 1 rfl rfl)
theorem dJ28_init_4 : decode cJ28_init 4 = .ok (.aload_n 0, 1) := dk_42 (dk_at dksJ28_init_0 4 rfl rfl)
theorem dJ28_init_5 : decode cJ28_init 5 = .ok (.iload_n 1, 1) := dk_27 (dk_at dksJ28_init_0 5 rfl rfl)
theorem dJ28_init_6 : decode cJ28_init 6 = .ok (.putfield 7, 3) := dk_181 0 7 (dk_at dksJ28_init_0 6 rfl rfl)
theorem dJ28_init_9 : decode cJ28_init 9 = .ok (.aload_n 0, 1) := dk_42 (dk_at dksJ28_init_0 9 rfl rfl)
theorem dJ28_init_10 : decode cJ28_init 10 = .ok (.aload_n 2, 1) := dk_44 (dk_at dksJ28_init_0 10 rfl rfl)
theorem dJ28_init_11 : decode cJ28_init 11 = .ok (.putfield 13, 3) := dk_181 0 13 (dk_at dksJ28_init_0 11 rfl rfl)
theorem dJ28_init_14 : decode cJ28_init 14 = .ok (.aload_n 0, 1) := dk_42 (dk_at dksJ28_init_0 14 rfl rfl)
theorem dJ28_init_15 : decode cJ28_init 15 = .ok (.aload_n 3, 1) := dk_45 (dk_at dksJ28_init_0 15 rfl rfl)
theorem dJ28_init_16 : decode cJ28_init 16 = .ok (.putfield 17, 3) := dk_181 0 17 (dk_at dksJ28_init_0 16 rfl rfl)
theorem dJ28_init_19 : decode cJ28_init 19 = .ok (.aload_n 0, 1) := dk_42 (dk_at dksJ28_init_0 19 rfl rfl)
theorem dJ28_init_20 : decode cJ28_init 20 = .ok (.aload 4, 2) := dk_25 4 (dk_at dksJ28_init_0 20 rfl rfl)
theorem dJ28_init_22 : decode cJ28_init 22 = .ok (.putfield 20, 3) := dk_181 0 20 (dk_at dksJ28_init_1 0 rfl rfl)
theorem dJ28_init_25 : decode cJ28_init 25 = .ok (.return_, 1) := dk_177 (dk_at dksJ28_init_1 3 rfl rfl)
theorem dJ25_newNode_0 : decode cJ25_newNode 0 = .ok (.new 163, 3) := dk_187 0 163 (dk_at dksJ25_newNode_0 0 rfl rfl)
theorem dJ25_newNode_3 : decode cJ25_newNode 3 = .ok (.dup, 1) := dk_89 (dk_at dksJ25_newNode_0 3 rfl rfl)
theorem dJ25_newNode_4 : decode cJ25_newNode 4 = .ok (.iload_n 1, 1) := dk_27 (dk_at dksJ25_newNode_0 4 rfl rfl)
theorem dJ25_newNode_5 : decode cJ25_newNode 5 = .ok (.aload_n 2, 1) := dk_44 (dk_at dksJ25_newNode_0 5 rfl rfl)
theorem dJ25_newNode_6 : decode cJ25_newNode 6 = .ok (.aload_n 3, 1) := dk_45 (dk_at dksJ25_newNode_0 6 rfl rfl)
theorem dJ25_newNode_7 : decode cJ25_newNode 7 = .ok (.aload 4, 2) := dk_25 4 (dk_at dksJ25_newNode_0 7 rfl rfl)
theorem dJ25_newNode_9 : decode cJ25_newNode 9 = .ok (.invokespecial 375, 3) := dk_183 1 119 (dk_at dksJ25_newNode_0 9 rfl rfl)
theorem dJ25_newNode_12 : decode cJ25_newNode 12 = .ok (.areturn, 1) := dk_176 (dk_at dksJ25_newNode_0 12 rfl rfl)
theorem dJ25_afterNodeInsertion_0 : decode cJ25_afterNodeInsertion 0 = .ok (.return_, 1) := by decide +kernel
theorem q103 : (Jvm.Cond.initialized "java/util/HashMap$Node") ∈ lw_all := lw_g (lw_at lw_m1 41 rfl) rfl
theorem q1083 : (Jvm.Cond.methodLink "java/util/HashMap" (43 : Nat) ({ cls := "java/util/AbstractMap", name := "<init>", desc := "()V" } : Jvm.MethodName)) ∈ lw_all := lw_g (lw_at lw_m5 61 rfl) rfl
theorem q1084 : (Jvm.Cond.instanceMethod ({ cls := "java/util/AbstractMap", name := "<init>", desc := "()V" } : Jvm.MethodName)) ∈ lw_all := lw_g (lw_at lw_m5 62 rfl) rfl
theorem q1085 : (Jvm.Cond.code ({ cls := "java/util/AbstractMap", name := "<init>", desc := "()V" } : Jvm.MethodName) prog_42_method_1_code (1 : Nat) (Option.none : Option Jvm.ClassFile.FieldType)) ∈ lw_all := lw_g (lw_at lw_m5 63 rfl) rfl
theorem q1086 : (Jvm.Cond.methodLink "java/util/AbstractMap" (1 : Nat) ({ cls := "java/lang/Object", name := "<init>", desc := "()V" } : Jvm.MethodName)) ∈ lw_all := lw_g (lw_at lw_m5 64 rfl) rfl
theorem q1087 : (Jvm.Cond.constantFloat "java/util/HashMap" (92 : Nat) (1061158912 : UInt32)) ∈ lw_all := lw_g (lw_at lw_m5 65 rfl) rfl
theorem q1088 : (Jvm.Cond.fieldLink "java/util/HashMap" (105 : Nat) "java/util/HashMap" "table" "[Ljava/util/HashMap$Node;") ∈ lw_all := lw_g (lw_at lw_m5 66 rfl) rfl
theorem q1092 : (Jvm.Cond.fieldLink "java/util/HashMap" (81 : Nat) "java/util/HashMap" "loadFactor" "F") ∈ lw_all := lw_g (lw_at lw_m5 70 rfl) rfl
theorem q1137 : (Jvm.Cond.methodLink "java/util/HashMap" (158 : Nat) ({ cls := "java/util/HashMap", name := "getNode", desc := "(Ljava/lang/Object;)Ljava/util/HashMap$Node;" } : Jvm.MethodName)) ∈ lw_all := lw_g (lw_at lw_m5 115 rfl) rfl
theorem q1138 : (Jvm.Cond.instanceMethod ({ cls := "java/util/HashMap", name := "getNode", desc := "(Ljava/lang/Object;)Ljava/util/HashMap$Node;" } : Jvm.MethodName)) ∈ lw_all := lw_g (lw_at lw_m5 116 rfl) rfl
theorem q1139 : (Jvm.Cond.selects "java/util/HashMap" ({ cls := "java/util/HashMap", name := "getNode", desc := "(Ljava/lang/Object;)Ljava/util/HashMap$Node;" } : Jvm.MethodName) ({ cls := "java/util/HashMap", name := "getNode", desc := "(Ljava/lang/Object;)Ljava/util/HashMap$Node;" } : Jvm.MethodName)) ∈ lw_all := lw_g (lw_at lw_m5 117 rfl) rfl
theorem q1140 : (Jvm.Cond.code ({ cls := "java/util/HashMap", name := "getNode", desc := "(Ljava/lang/Object;)Ljava/util/HashMap$Node;" } : Jvm.MethodName) prog_48_method_13_code (8 : Nat) (Option.some (Jvm.ClassFile.FieldType.object "java/util/HashMap$Node"))) ∈ lw_all := lw_g (lw_at lw_m5 118 rfl) rfl
theorem q1141 : (Jvm.Cond.methodLink "java/util/HashMap" (149 : Nat) ({ cls := "java/util/HashMap", name := "hash", desc := "(Ljava/lang/Object;)I" } : Jvm.MethodName)) ∈ lw_all := lw_g (lw_at lw_m5 119 rfl) rfl
theorem q1142 : (Jvm.Cond.static ({ cls := "java/util/HashMap", name := "hash", desc := "(Ljava/lang/Object;)I" } : Jvm.MethodName)) ∈ lw_all := lw_g (lw_at lw_m5 120 rfl) rfl
theorem q1143 : (Jvm.Cond.code ({ cls := "java/util/HashMap", name := "hash", desc := "(Ljava/lang/Object;)I" } : Jvm.MethodName) prog_48_method_1_code (2 : Nat) (Option.some Jvm.ClassFile.FieldType.int)) ∈ lw_all := lw_g (lw_at lw_m5 121 rfl) rfl
theorem q1144 : (Jvm.Cond.declares ({ cls := "java/lang/Object", name := "hashCode", desc := "()I" } : Jvm.MethodName)) ∈ lw_tbl := lw_at lw_m5 122 rfl
theorem q1145 : (Jvm.Cond.methodLink "java/util/HashMap" (1 : Nat) ({ cls := "java/lang/Object", name := "hashCode", desc := "()I" } : Jvm.MethodName)) ∈ lw_all := lw_g (lw_at lw_m5 123 rfl) rfl
theorem q1147 : (Jvm.Cond.sameMethod "java/lang/Object" "java/lang/Object" "hashCode" "()I") ∈ lw_all := lw_g (lw_at lw_m5 125 rfl) rfl
theorem q1153 : (Jvm.Cond.selects "ChordSheet$Shape" ({ cls := "java/lang/Object", name := "hashCode", desc := "()I" } : Jvm.MethodName) ({ cls := "ChordSheet$Shape", name := "hashCode", desc := "()I" } : Jvm.MethodName)) ∈ lw_all := lw_g (lw_at lw_m5 131 rfl) rfl
theorem q1154 : (Jvm.Cond.instanceMethod ({ cls := "ChordSheet$Shape", name := "hashCode", desc := "()I" } : Jvm.MethodName)) ∈ lw_all := lw_g (lw_at lw_m5 132 rfl) rfl
theorem q1155 : (Jvm.Cond.code ({ cls := "ChordSheet$Shape", name := "hashCode", desc := "()I" } : Jvm.MethodName) prog_6_method_5_code (1 : Nat) (Option.some Jvm.ClassFile.FieldType.int)) ∈ lw_all := lw_g (lw_at lw_m5 133 rfl) rfl
theorem q1226 : (Jvm.Cond.methodLink "java/util/HashMap" (173 : Nat) ({ cls := "java/lang/Object", name := "equals", desc := "(Ljava/lang/Object;)Z" } : Jvm.MethodName)) ∈ lw_all := lw_g (lw_at lw_m5 204 rfl) rfl
theorem q1227 : (Jvm.Cond.instanceMethod ({ cls := "java/lang/Object", name := "equals", desc := "(Ljava/lang/Object;)Z" } : Jvm.MethodName)) ∈ lw_all := lw_g (lw_at lw_m5 205 rfl) rfl
theorem q1228 : (Jvm.Cond.sameMethod "java/lang/Object" "java/lang/Object" "equals" "(Ljava/lang/Object;)Z") ∈ lw_all := lw_g (lw_at lw_m5 206 rfl) rfl
theorem q1234 : (Jvm.Cond.selects "ChordSheet$Shape" ({ cls := "java/lang/Object", name := "equals", desc := "(Ljava/lang/Object;)Z" } : Jvm.MethodName) ({ cls := "ChordSheet$Shape", name := "equals", desc := "(Ljava/lang/Object;)Z" } : Jvm.MethodName)) ∈ lw_all := lw_g (lw_at lw_m5 212 rfl) rfl
theorem q1235 : (Jvm.Cond.instanceMethod ({ cls := "ChordSheet$Shape", name := "equals", desc := "(Ljava/lang/Object;)Z" } : Jvm.MethodName)) ∈ lw_all := lw_g (lw_at lw_m5 213 rfl) rfl
theorem q1236 : (Jvm.Cond.code ({ cls := "ChordSheet$Shape", name := "equals", desc := "(Ljava/lang/Object;)Z" } : Jvm.MethodName) prog_6_method_4_code (3 : Nat) (Option.some Jvm.ClassFile.FieldType.boolean)) ∈ lw_all := lw_g (lw_at lw_m5 214 rfl) rfl
theorem q1257 : (Jvm.Cond.code ({ cls := "java/lang/Object", name := "equals", desc := "(Ljava/lang/Object;)Z" } : Jvm.MethodName) object_method_4_code (2 : Nat) (Option.some Jvm.ClassFile.FieldType.boolean)) ∈ lw_all := lw_g (lw_at lw_m5 235 rfl) rfl
theorem q1258 : (Jvm.Cond.classLink "java/util/HashMap" (180 : Nat) "java/util/HashMap$TreeNode") ∈ lw_all := lw_g (lw_at lw_m5 236 rfl) rfl
theorem q1486 : (Jvm.Cond.classLink "java/util/HashMap" (163 : Nat) "java/util/HashMap$Node") ∈ lw_all := lw_g (lw_at lw_m6 224 rfl) rfl
theorem q1501 : (Jvm.Cond.instantiable "java/util/HashMap$Node" (4 : Nat)) ∈ lw_all := lw_g (lw_at lw_m6 239 rfl) rfl
theorem q1502 : (Jvm.Cond.methodLink "java/util/HashMap" (375 : Nat) ({ cls := "java/util/HashMap$Node", name := "<init>", desc := "(ILjava/lang/Object;Ljava/lang/Object;Ljava/util/HashMap$Node;)V" } : Jvm.MethodName)) ∈ lw_all := lw_g (lw_at lw_m7 0 rfl) rfl
theorem q1503 : (Jvm.Cond.instanceMethod ({ cls := "java/util/HashMap$Node", name := "<init>", desc := "(ILjava/lang/Object;Ljava/lang/Object;Ljava/util/HashMap$Node;)V" } : Jvm.MethodName)) ∈ lw_all := lw_g (lw_at lw_m7 1 rfl) rfl
theorem q1504 : (Jvm.Cond.code ({ cls := "java/util/HashMap$Node", name := "<init>", desc := "(ILjava/lang/Object;Ljava/lang/Object;Ljava/util/HashMap$Node;)V" } : Jvm.MethodName) prog_49_method_1_code (5 : Nat) (Option.none : Option Jvm.ClassFile.FieldType)) ∈ lw_all := lw_g (lw_at lw_m7 2 rfl) rfl
theorem q1505 : (Jvm.Cond.methodLink "java/util/HashMap$Node" (1 : Nat) ({ cls := "java/lang/Object", name := "<init>", desc := "()V" } : Jvm.MethodName)) ∈ lw_all := lw_g (lw_at lw_m7 3 rfl) rfl
theorem q1506 : (Jvm.Cond.fieldLink "java/util/HashMap$Node" (7 : Nat) "java/util/HashMap$Node" "hash" "I") ∈ lw_all := lw_g (lw_at lw_m7 4 rfl) rfl
theorem q1509 : (Jvm.Cond.fieldLink "java/util/HashMap" (168 : Nat) "java/util/HashMap$Node" "hash" "I") ∈ lw_all := lw_g (lw_at lw_m7 7 rfl) rfl
theorem q1510 : (Jvm.Cond.fieldLink "java/util/HashMap$Node" (13 : Nat) "java/util/HashMap$Node" "key" "Ljava/lang/Object;") ∈ lw_all := lw_g (lw_at lw_m7 8 rfl) rfl
theorem q1513 : (Jvm.Cond.fieldLink "java/util/HashMap" (170 : Nat) "java/util/HashMap$Node" "key" "Ljava/lang/Object;") ∈ lw_all := lw_g (lw_at lw_m7 11 rfl) rfl
theorem q1514 : (Jvm.Cond.fieldLink "java/util/HashMap$Node" (17 : Nat) "java/util/HashMap$Node" "value" "Ljava/lang/Object;") ∈ lw_all := lw_g (lw_at lw_m7 12 rfl) rfl
theorem q1515 : (Jvm.Cond.fieldLink "java/util/HashMap" (162 : Nat) "java/util/HashMap$Node" "value" "Ljava/lang/Object;") ∈ lw_all := lw_g (lw_at lw_m7 13 rfl) rfl
theorem q1516 : (Jvm.Cond.fieldLink "java/util/HashMap$Node" (20 : Nat) "java/util/HashMap$Node" "next" "Ljava/util/HashMap$Node;") ∈ lw_all := lw_g (lw_at lw_m7 14 rfl) rfl
theorem q1520 : (Jvm.Cond.fieldLink "java/util/HashMap" (177 : Nat) "java/util/HashMap$Node" "next" "Ljava/util/HashMap$Node;") ∈ lw_all := lw_g (lw_at lw_m7 18 rfl) rfl
theorem q96 : (Jvm.Cond.initialized "java/util/AbstractMap") ∈ lw_all := lw_g (lw_at lw_m1 34 rfl) rfl
theorem q97 : (Jvm.Cond.initialized "java/util/HashMap") ∈ lw_all := lw_g (lw_at lw_m1 35 rfl) rfl
/-- an entry: its node, key, value, code -/
abbrev zEn : Type := Nat × Nat × Nat × Int
def zEn.n (e : zEn) : Nat := e.1
def zEn.k (e : zEn) : Nat := e.2.1
def zEn.v (e : zEn) : Nat := e.2.2.1
def zEn.c (e : zEn) : Int := e.2.2.2
/-- a shape with a code -/
def kAt (h : zH) (k : Nat) (c : Int) : Prop := ∃ r q b : Int, h k = some (false, .inr (7, [.int (iI r), .int (iI q), .int (iI b)])) ∧ (0 ≤ r ∧ r < 12) ∧ (0 ≤ q ∧ q ≤ 9) ∧ (b = 0 ∨ b = 1) ∧ c = scode r q b
theorem kAt.keep {h h' : zH} {k : Nat} {c : Int} {S : List Nat} (z : zkeep h h' S) (hk : kAt h k c) : kAt h' k c := by
  obtain ⟨r, q, b, h1, h2⟩ := hk
  exact ⟨r, q, b, z.f h1, h2⟩
theorem kAt.r {h : zH} {k : Nat} {c : Int} (hk : kAt h k c) : 0 ≤ c ∧ c < 240 := by
  obtain ⟨r, q, b, h1, h2, h3, h4, h5⟩ := hk
  unfold scode at h5
  omega
def nAt (h : zH) (e : zEn) (nx : Value) : Prop := h e.n = some (true, .inr (15, [.int (iI e.c), .ref e.k, .ref e.v, nx]))
/-- a chain of nodes -/
def chn (h : zH) : Value → List zEn → Prop
  | v, [] => v = .null
  | v, e :: r => v = .ref e.n ∧ ∃ nx, nAt h e nx ∧ chn h nx r
def bin (n i : Nat) (es : List zEn) : List zEn := es.filter (fun e => e.c.toNat % n == i)
theorem bin_m {n i : Nat} {es : List zEn} {e : zEn} (h : e ∈ bin n i es) : e ∈ es ∧ e.c.toNat % n = i := by
  unfold bin at h
  rw [List.mem_filter] at h
  exact ⟨h.1, by simpa using h.2⟩
def eOK (h : zH) (es : List zEn) : Prop := (es.map zEn.n).Nodup ∧ (es.map zEn.c).Nodup ∧ ∀ e ∈ es, kAt h e.k e.c
/-- a map that was never filled -/
def mp0 (h : zH) (m : Nat) (lf : Value) : Prop := h m = some (true, .inr (14, [.null, .null, .null, .null, .int (iI 0), .int (iI 0), .int (iI 0), lf]))
/-- a map with a table of cap bins -/
def mpA (h : zH) (m tb cap : Nat) (es : List zEn) (sz : Int) (lf : Value) : Prop := (∃ (mc : Int) (f : Nat → Value), h m = some (true, .inr (14, [.null, .null, .ref tb, .null, .int (iI sz), .int (iI mc), .int (iI ((cap - cap / 4 : Nat) : Int)), lf])) ∧ h tb = some (true, .inl (.object "java/util/HashMap$Node", cap, f)) ∧ ∀ i, i < cap → chn h (f i) (bin cap i es)) ∧ (cap = 16 ∨ cap = 32 ∨ cap = 64) ∧ eOK h es
def fndV : List zEn → Int → Value
  | [], _ => .null
  | e :: r, c => if e.c = c then .ref e.n else fndV r c
theorem iand_mA : ∀ c : Nat, c < 240 → iI 15 &&& iI (c : Int) = iI ((c % 16 : Nat) : Int) ∧ iI 31 &&& iI (c : Int) = iI ((c % 32 : Nat) : Int) ∧ iI 63 &&& iI (c : Int) = iI ((c % 64 : Nat) : Int) := by decide +kernel
theorem iand_m {cap : Nat} {c : Int} (hc : cap = 16 ∨ cap = 32 ∨ cap = 64) (h : 0 ≤ c ∧ c < 240) : iI (((cap : Nat) : Int) - 1) &&& iI c = iI ((c.toNat % cap : Nat) : Int) := by
  have h1 := iand_mA c.toNat (by omega)
  rw [show ((c.toNat : Nat) : Int) = c by omega] at h1
  rcases hc with e | e | e <;> subst e
  · exact h1.1
  · exact h1.2.1
  · exact h1.2.2
theorem hsh_A : ∀ c : Nat, c < 240 → iI (c : Int) ^^^ (ushr (iI (c : Int)) (iI 16)) = iI (c : Int) := by decide +kernel
theorem hsh {c : Int} (h : 0 ≤ c ∧ c < 240) : iI c ^^^ (ushr (iI c) (iI 16)) = iI c := by
  have h1 := hsh_A c.toNat (by omega)
  rwa [show ((c.toNat : Nat) : Int) = c by omega] at h1
theorem fndV_c : ∀ (l : List zEn) (c : Int), ((∀ e ∈ l, e.c ≠ c) ∧ fndV l c = .null) ∨ ∃ e ∈ l, e.c = c ∧ fndV l c = .ref e.n := by
  intro l c
  induction l with
  | nil => exact Or.inl ⟨(fun _ z => nomatch z), rfl⟩
  | cons a r ih =>
    by_cases h : a.c = c
    · exact Or.inr ⟨a, List.mem_cons_self, h, by rw [fndV, if_pos h]⟩
    · rcases ih with ⟨h1, h2⟩ | ⟨e, h1, h2, h3⟩
      · refine Or.inl ⟨fun e he => ?_, by rw [fndV, if_neg h, h2]⟩
        rcases List.mem_cons.mp he with g | g
        · rw [g]; exact h
        · exact h1 e g
      · exact Or.inr ⟨e, List.mem_cons_of_mem _ h1, h2, by rw [fndV, if_neg h, h3]⟩
theorem bin_no {n : Nat} {es : List zEn} {c : Int} (h : ∀ e ∈ bin n (c.toNat % n) es, e.c ≠ c) : ∀ e ∈ es, e.c ≠ c := by
  intro e he hc
  refine h e ?_ hc
  unfold bin
  rw [List.mem_filter]
  exact ⟨he, by rw [hc]; simp⟩
theorem mpA.nd {h : zH} {m tb cap : Nat} {es : List zEn} {sz : Int} {lf : Value} (hm : mpA h m tb cap es sz lf) {e : zEn} (he : e ∈ es) : ∃ nx, nAt h e nx := by
  obtain ⟨⟨mc, f, hmf, htb, hch⟩, hcap, -⟩ := hm
  have hb := hch (e.c.toNat % cap) (Nat.mod_lt _ (by omega))
  have hi : e ∈ bin cap (e.c.toNat % cap) es := by unfold bin; rw [List.mem_filter]; exact ⟨he, by simp⟩
  generalize bin cap (e.c.toNat % cap) es = l at hb hi
  generalize f (e.c.toNat % cap) = v at hb
  induction l generalizing v with
  | nil => cases hi
  | cons a r ih =>
    obtain ⟨-, nx, h1, h2⟩ := hb
    rcases List.mem_cons.mp hi with g | g
    · exact ⟨nx, g ▸ h1⟩
    · exact ih g _ h2
set_option maxHeartbeats 4000000 in
theorem ct_M_hash {l : Launch} (hl : l.stackTraces = false) {Γ : zCx} {h : zH} {k : Nat} {c : Int} (hk : kAt h k c)  : zMet l yJ25_hash (ws_ yJ25_hash cJ25_hash 2 (some .int)) ({ frames := 1, cells := 0, slots := 0, locals := 20 }) Γ h [.ref k] (zpure h (some (.int (iI c)))) 0 0 := by
  refine zMet.of (cc := cJ25_hash) hl (plainFor_of_name (by decide +kernel)) (Nat.le_of_ble_eq_true rfl) ?_
  intro X hXl hXΓ hXp C hnm hnL
  have C : zC X cJ25_hash RJ25 (some .int) 1 20 [] := C
  have hnL : X.2.1.2.2.2.2 = 2 := hnL
  subst hXl hXΓ
  show Z X h 0 0 [(0, .ref k)] 0 []
  obtain ⟨kr, kq, kb, hkf, hkr, hkq, hkb, hkc⟩ := id hk
  have hcr := hk.r
  refine z_aload_n (pc := 0) (j := 0) C dJ25_hash_0 rfl rfl ?_
  refine z_ifnonnull (pc := 1) (tgt := 8) C dJ25_hash_1 (by decide) ?_
  refine z_aload_n (pc := 8) (j := 0) C dJ25_hash_8 rfl rfl ?_
  refine z_callO (pc := 9) (n := 0) (kc' := 0) (ks' := 0) C (ct_H_hash C.t hkf (by omega) (by omega) (by omega)) q1155 q1145 q1147 q1153 q1154 q98 (va_Decl.abs (C.K.2.1 _ q1144 rfl)) (by decide +kernel) ⟨by decide, by decide⟩ hkf rfl rfl rfl (Nat.le_of_ble_eq_true rfl) dJ25_hash_9 (by omega) (by omega) (zpk (st' := [.int (iI (scode kr kq kb))]) rfl ?_) zrx
  rw [show ((scode kr kq kb) : Int) = c from by rw [hkc]]
  show Z X h 0 0 [(0, .ref k)] 12 [.int (iI c)]
  refine z_dup (pc := 12) C dJ25_hash_12 rfl ?_
  refine z_istore_n (pc := 13) (L' := [(1, .int (iI c)), (0, .ref k)]) C dJ25_hash_13 rfl (by rw [hnL]; decide) rfl ?_
  refine z_iload_n (pc := 14) (j := 0) C dJ25_hash_14 rfl rfl ?_
  refine z_bipush (pc := 15) C dJ25_hash_15 (by decide) ?_
  refine z_iushr (pc := 17) C dJ25_hash_17 (z := ushr (iI c) (iI 16)) rfl ?_
  refine z_ixor (pc := 18) C dJ25_hash_18 (hsh hcr) ?_
  show Z X h 0 0 [(1, .int (iI c)), (0, .ref k)] 19 [.int (iI c)]
  exact z_ireturn (pc := 19) C (by rw [hXp]; exact zpure_i rfl rfl) dJ25_hash_19
set_option maxHeartbeats 4000000 in
theorem ct_M_getNode {l : Launch} (hl : l.stackTraces = false) {Γ : zCx} {h : zH} {m tb cap : Nat} {es : List zEn} {sz : Int} {lf : Value} (hm : mpA h m tb cap es sz lf) {k : Nat} {c : Int} (hk : kAt h k c)  : zMet l yJ25_getNode (ws_ yJ25_getNode cJ25_getNode 8 (some (.object "java/util/HashMap$Node"))) ({ frames := 2, cells := 0, slots := 0, locals := 41 }) Γ h [.ref m, .ref k] (zrt (fun w h' => w = some (fndV (bin cap (c.toNat % cap) es) c) ∧ h' = h)) 0 0 := by
  refine zMet.of (cc := cJ25_getNode) hl (plainFor_of_name (by decide +kernel)) (Nat.le_of_ble_eq_true rfl) ?_
  intro X hXl hXΓ hXp C hnm hnL
  have C : zC X cJ25_getNode RJ25 (some (.object "java/util/HashMap$Node")) 2 41 [] := C
  have hnL : X.2.1.2.2.2.2 = 8 := hnL
  subst hXl hXΓ
  show Z X h 0 0 [(0, .ref m), (1, .ref k)] 0 []
  obtain ⟨⟨mc, f, hmf, htb, hch⟩, hcap, hnd, hcd, hks⟩ := id hm
  obtain ⟨kr, kq, kb, hkf, hkr, hkq, hkb, hkc⟩ := id hk
  have hcr := hk.r
  refine z_aload_n (pc := 0) (j := 0) C dJ25_getNode_0 rfl rfl ?_
  refine z_getfield (pc := 1) (v := .ref tb) C in_J25 rfl 2 (by decide) q1088 (fun _ z => z) hmf rfl dJ25_getNode_1 ?_
  refine z_dup (pc := 4) C dJ25_getNode_4 rfl ?_
  refine z_astore_n (pc := 5) (L' := [(2, .ref tb), (0, .ref m), (1, .ref k)]) C dJ25_getNode_5 rfl (by rw [hnL]; decide) rfl ?_
  refine z_ifnull (pc := 6) C dJ25_getNode_6 ?_
  refine z_aload_n (pc := 9) (j := 0) C dJ25_getNode_9 rfl rfl ?_
  refine z_alen (pc := 10) C htb dJ25_getNode_10 ?_
  refine z_dup (pc := 11) C dJ25_getNode_11 rfl ?_
  refine z_istore (pc := 12) (L' := [(5, .int (iI ((cap : Nat) : Int))), (2, .ref tb), (0, .ref m), (1, .ref k)]) C dJ25_getNode_12 (by rw [hnL]; decide) rfl ?_
  refine z_if_le (pc := 14) (tgt := 148) C dJ25_getNode_14 (by decide) (by omega) (fun c14 => by exfalso; omega) (fun c14 => ?_)
  refine z_aload_n (pc := 17) (j := 1) C dJ25_getNode_17 rfl rfl ?_
  refine z_iload (pc := 18) (j := 0) C dJ25_getNode_18 rfl ?_
  refine z_iconst (pc := 20) C dJ25_getNode_20 ?_
  refine z_isub (pc := 21) C dJ25_getNode_21 ?_
  refine z_aload_n (pc := 22) (j := 3) C dJ25_getNode_22 rfl rfl ?_
  refine z_callS (pc := 23) (n := 1) (kc' := 0) (ks' := 0) C (ct_M_hash C.t hk) (lw_S q1141 q1142 q97 q1143) (by decide +kernel) ⟨by decide, by decide⟩ rfl rfl (Nat.le_of_ble_eq_true rfl) dJ25_getNode_23 (by omega) (by omega) (zpk (st' := [.int (iI c), .int (iI (((cap : Nat) : Int) - 1)), .ref tb]) rfl ?_) zrx
  refine z_dup (pc := 26) C dJ25_getNode_26 rfl ?_
  refine z_istore (pc := 27) (L' := [(6, .int (iI c)), (5, .int (iI ((cap : Nat) : Int))), (2, .ref tb), (0, .ref m), (1, .ref k)]) C dJ25_getNode_27 (by rw [hnL]; decide) rfl ?_
  refine z_iand (pc := 29) C dJ25_getNode_29 (iand_m hcap hcr) ?_
  show Z X h 0 0 [(6, .int (iI c)), (5, .int (iI ((cap : Nat) : Int))), (2, .ref tb), (0, .ref m), (1, .ref k)] 30 [.int (iI (((c.toNat % cap) : Nat) : Int)), .ref tb]
  have hb := hch (c.toNat % cap) (Nat.mod_lt _ (by omega))
  rcases hl : bin cap (c.toNat % cap) es with _ | ⟨e, r⟩
  · rw [hl] at hb
    have hb : f ((c.toNat % cap : Nat) : Int).toNat = .null := hb
    refine z_aaload (pc := 30) (v := .null) C htb ⟨by omega, by have := Nat.mod_lt c.toNat (show 0 < cap by omega); omega⟩ hb dJ25_getNode_30 ?_
    refine z_dup (pc := 31) C dJ25_getNode_31 rfl ?_
    refine z_astore_nN (pc := 32) (L' := [(3, .null), (6, .int (iI c)), (5, .int (iI ((cap : Nat) : Int))), (2, .ref tb), (0, .ref m), (1, .ref k)]) C dJ25_getNode_32 rfl (by rw [hnL]; decide) rfl ?_
    refine z_ifnullN (pc := 33) (tgt := 148) C dJ25_getNode_33 (by decide) ?_
    refine z_null (pc := 148) C dJ25_getNode_148 ?_
    exact z_areturn (pc := 149) C (Or.inl ⟨_, rfl⟩) (Or.inl rfl) (by rw [hXp]; exact ⟨_, rfl, (by rw [hl, fndV]), rfl⟩) dJ25_getNode_149
  · rw [hl] at hb
    obtain ⟨hv, nx, hn, hr⟩ := id hb
    have hme : e ∈ es := (bin_m (by rw [hl]; exact List.mem_cons_self)).1
    have hke_1 := hks e hme
    obtain ⟨r_1, q_1, b_1, hkf_1, hkr_1, hkq_1, hkb_1, hkc_1⟩ := hke_1
    have hcb_1 : 0 ≤ e.c ∧ e.c < 240 := (hks e hme).r
    rcases r with _ | ⟨e2, r2⟩
    · have hr : nx = .null := hr
      subst hr
      refine z_aaload (pc := 30) (v := .ref e.n) C htb ⟨by omega, by have := Nat.mod_lt c.toNat (show 0 < cap by omega); omega⟩ hb.1 dJ25_getNode_30 ?_
      refine z_dup (pc := 31) C dJ25_getNode_31 rfl ?_
      refine z_astore_n (pc := 32) (L' := [(3, .ref e.n), (6, .int (iI c)), (5, .int (iI ((cap : Nat) : Int))), (2, .ref tb), (0, .ref m), (1, .ref k)]) C dJ25_getNode_32 rfl (by rw [hnL]; decide) rfl ?_
      refine z_ifnull (pc := 33) C dJ25_getNode_33 ?_
      refine z_aload_n (pc := 36) (j := 0) C dJ25_getNode_36 rfl rfl ?_
      refine z_getfield (pc := 37) (v := .int (iI e.c)) C in_J28 rfl 0 (by decide) q1509 (fun _ z => z) hn rfl dJ25_getNode_37 ?_
      refine z_iload (pc := 40) (j := 1) C dJ25_getNode_40 rfl ?_
      refine z_icmp_ne (pc := 42) (tgt := 71) C dJ25_getNode_42 (by decide) (by omega) (by omega) (fun c42 => ?_) (fun c42 => ?_)
      · refine z_aload_n (pc := 71) (j := 0) C dJ25_getNode_71 rfl rfl ?_
        refine z_getfield (pc := 72) (v := .null) C in_J28 rfl 3 (by decide) q1520 (fun _ z => z) hn rfl dJ25_getNode_72 ?_
        refine z_dup (pc := 75) C dJ25_getNode_75 rfl ?_
        refine z_astoreN (pc := 76) (L' := [(4, .null), (3, .ref e.n), (6, .int (iI c)), (5, .int (iI ((cap : Nat) : Int))), (2, .ref tb), (0, .ref m), (1, .ref k)]) C dJ25_getNode_76 (by rw [hnL]; decide) rfl ?_
        refine z_ifnullN (pc := 78) (tgt := 148) C dJ25_getNode_78 (by decide) ?_
        refine z_null (pc := 148) C dJ25_getNode_148 ?_
        exact z_areturn (pc := 149) C (Or.inl ⟨_, rfl⟩) (Or.inl rfl) (by rw [hXp]; exact ⟨_, rfl, (by rw [hl, fndV, if_neg (by omega), fndV]), rfl⟩) dJ25_getNode_149
      · refine z_aload_n (pc := 45) (j := 0) C dJ25_getNode_45 rfl rfl ?_
        refine z_getfield (pc := 46) (v := .ref e.k) C in_J28 rfl 1 (by decide) q1513 (fun _ z => z) hn rfl dJ25_getNode_46 ?_
        refine z_dup (pc := 49) C dJ25_getNode_49 rfl ?_
        refine z_astore (pc := 50) (L' := [(7, .ref e.k), (3, .ref e.n), (6, .int (iI c)), (5, .int (iI ((cap : Nat) : Int))), (2, .ref tb), (0, .ref m), (1, .ref k)]) C dJ25_getNode_50 (by rw [hnL]; decide) rfl ?_
        refine z_aload_n (pc := 52) (j := 6) C dJ25_getNode_52 rfl rfl ?_
        refine z_acmp_eq (pc := 53) (tgt := 69) C dJ25_getNode_53 (by decide) (fun c53 => ?_) (fun c53 => ?_)
        · refine z_aload_n (pc := 69) (j := 1) C dJ25_getNode_69 rfl rfl ?_
          exact z_areturn (pc := 70) C (Or.inl ⟨_, rfl⟩) (Or.inr ⟨_, rfl⟩) (by rw [hXp]; exact ⟨_, rfl, (by rw [hl, fndV, if_pos (by omega)]), rfl⟩) dJ25_getNode_70
        · refine z_aload_n (pc := 56) (j := 6) C dJ25_getNode_56 rfl rfl ?_
          refine z_ifnull (pc := 57) C dJ25_getNode_57 ?_
          refine z_aload_n (pc := 60) (j := 6) C dJ25_getNode_60 rfl rfl ?_
          refine z_aload (pc := 61) (j := 0) C dJ25_getNode_61 rfl ?_
          refine z_callO (pc := 63) (n := 1) (kc' := 0) (ks' := 0) C (ct_H_eq C.t hkf (by omega) (by omega) (by omega) hkf_1 (by omega) (by omega) (by omega)) q1236 q1226 q1228 q1234 q1235 q98 (va_Decl.of (C.w _ q1227) (C.w _ q1257)) (by decide +kernel) ⟨by decide, by decide⟩ hkf rfl rfl rfl (Nat.le_of_ble_eq_true rfl) dJ25_getNode_63 (by omega) (by omega) (zpk (st' := [.int (iI (if scode kr kq kb = scode r_1 q_1 b_1 then 1 else 0))]) rfl ?_) zrx
          rw [show ((if scode kr kq kb = scode r_1 q_1 b_1 then 1 else 0) : Int) = 1 from if_pos (by omega)]
          show Z X h 0 0 [(7, .ref e.k), (3, .ref e.n), (6, .int (iI c)), (5, .int (iI ((cap : Nat) : Int))), (2, .ref tb), (0, .ref m), (1, .ref k)] 66 [.int (iI 1)]
          refine z_if_eq (pc := 66) (tgt := 71) C dJ25_getNode_66 (by decide) (by decide) (fun z => absurd z (by decide)) (fun _ => ?_)
          refine z_aload_n (pc := 69) (j := 1) C dJ25_getNode_69 rfl rfl ?_
          exact z_areturn (pc := 70) C (Or.inl ⟨_, rfl⟩) (Or.inr ⟨_, rfl⟩) (by rw [hXp]; exact ⟨_, rfl, (by rw [hl, fndV, if_pos (by omega)]), rfl⟩) dJ25_getNode_70
    · obtain ⟨hv2, nx2, hn2, hr2⟩ := id hr
      subst hv2
      refine z_aaload (pc := 30) (v := .ref e.n) C htb ⟨by omega, by have := Nat.mod_lt c.toNat (show 0 < cap by omega); omega⟩ hb.1 dJ25_getNode_30 ?_
      refine z_dup (pc := 31) C dJ25_getNode_31 rfl ?_
      refine z_astore_n (pc := 32) (L' := [(3, .ref e.n), (6, .int (iI c)), (5, .int (iI ((cap : Nat) : Int))), (2, .ref tb), (0, .ref m), (1, .ref k)]) C dJ25_getNode_32 rfl (by rw [hnL]; decide) rfl ?_
      refine z_ifnull (pc := 33) C dJ25_getNode_33 ?_
      refine z_aload_n (pc := 36) (j := 0) C dJ25_getNode_36 rfl rfl ?_
      refine z_getfield (pc := 37) (v := .int (iI e.c)) C in_J28 rfl 0 (by decide) q1509 (fun _ z => z) hn rfl dJ25_getNode_37 ?_
      refine z_iload (pc := 40) (j := 1) C dJ25_getNode_40 rfl ?_
      refine z_icmp_ne (pc := 42) (tgt := 71) C dJ25_getNode_42 (by decide) (by omega) (by omega) (fun c42 => ?_) (fun c42 => ?_)
      · refine z_aload_n (pc := 71) (j := 0) C dJ25_getNode_71 rfl rfl ?_
        refine z_getfield (pc := 72) (v := .ref e2.n) C in_J28 rfl 3 (by decide) q1520 (fun _ z => z) hn rfl dJ25_getNode_72 ?_
        refine z_dup (pc := 75) C dJ25_getNode_75 rfl ?_
        refine z_astore (pc := 76) (L' := [(4, .ref e2.n), (3, .ref e.n), (6, .int (iI c)), (5, .int (iI ((cap : Nat) : Int))), (2, .ref tb), (0, .ref m), (1, .ref k)]) C dJ25_getNode_76 (by rw [hnL]; decide) rfl ?_
        refine z_ifnull (pc := 78) C dJ25_getNode_78 ?_
        refine z_aload_n (pc := 81) (j := 1) C dJ25_getNode_81 rfl rfl ?_
        refine z_instNo (pc := 82) C q1258 (by decide) rfl hn dJ25_getNode_82 ?_
        refine z_if_eq (pc := 85) (tgt := 99) C dJ25_getNode_85 (by decide) (by decide) (fun _ => ?_) (fun z => absurd z (by decide))
        have loop99 : ∀ (n99 : Nat) (x : zEn) (y : List zEn), (chn h (.ref x.n) (x :: y)) → (∀ z ∈ x :: y, z ∈ es) → (fndV (x :: y) c = fndV (bin cap (c.toNat % cap) es) c) → y.length = n99 → Z X h 0 0 [(6, .int (iI c)), (4, .ref x.n), (1, .ref k), (0, .ref m)] 99 [] := by
          intro n99
          induction n99 using Nat.strongRecOn with
          | ind n99 ih99 =>
          intro x y hcn hmem hfd hn99
          obtain ⟨-, nx3, hn3, hr3⟩ := id hcn
          have hme3 := hmem x List.mem_cons_self
          have hke_2 := hks x hme3
          obtain ⟨r_2, q_2, b_2, hkf_2, hkr_2, hkq_2, hkb_2, hkc_2⟩ := hke_2
          have hcb_2 : 0 ≤ x.c ∧ x.c < 240 := (hks x hme3).r
          rcases y with _ | ⟨x2, y2⟩
          · have hr3 : nx3 = .null := hr3
            subst hr3
            refine z_aload (pc := 99) (j := 1) C dJ25_getNode_99 rfl ?_
            refine z_getfield (pc := 101) (v := .int (iI x.c)) C in_J28 rfl 0 (by decide) q1509 (fun _ z => z) hn3 rfl dJ25_getNode_101 ?_
            refine z_iload (pc := 104) (j := 0) C dJ25_getNode_104 rfl ?_
            refine z_icmp_ne (pc := 106) (tgt := 137) C dJ25_getNode_106 (by decide) (by omega) (by omega) (fun c106 => ?_) (fun c106 => ?_)
            · refine z_aload (pc := 137) (j := 1) C dJ25_getNode_137 rfl ?_
              refine z_getfield (pc := 139) (v := .null) C in_J28 rfl 3 (by decide) q1520 (fun _ z => z) hn3 rfl dJ25_getNode_139 ?_
              refine z_dup (pc := 142) C dJ25_getNode_142 rfl ?_
              refine z_astoreN (pc := 143) (L' := [(4, .null), (6, .int (iI c)), (1, .ref k), (0, .ref m)]) C dJ25_getNode_143 (by rw [hnL]; decide) rfl ?_
              refine z_ifnonnullN (pc := 145) C dJ25_getNode_145 ?_
              refine z_null (pc := 148) C dJ25_getNode_148 ?_
              exact z_areturn (pc := 149) C (Or.inl ⟨_, rfl⟩) (Or.inl rfl) (by rw [hXp]; exact ⟨_, rfl, (by rw [← hfd, fndV, if_neg (by omega), fndV]), rfl⟩) dJ25_getNode_149
            · refine z_aload (pc := 109) (j := 1) C dJ25_getNode_109 rfl ?_
              refine z_getfield (pc := 111) (v := .ref x.k) C in_J28 rfl 1 (by decide) q1513 (fun _ z => z) hn3 rfl dJ25_getNode_111 ?_
              refine z_dup (pc := 114) C dJ25_getNode_114 rfl ?_
              refine z_astore (pc := 115) (L' := [(7, .ref x.k), (6, .int (iI c)), (4, .ref x.n), (1, .ref k), (0, .ref m)]) C dJ25_getNode_115 (by rw [hnL]; decide) rfl ?_
              refine z_aload_n (pc := 117) (j := 3) C dJ25_getNode_117 rfl rfl ?_
              refine z_acmp_eq (pc := 118) (tgt := 134) C dJ25_getNode_118 (by decide) (fun c118 => ?_) (fun c118 => ?_)
              · refine z_aload (pc := 134) (j := 2) C dJ25_getNode_134 rfl ?_
                exact z_areturn (pc := 136) C (Or.inl ⟨_, rfl⟩) (Or.inr ⟨_, rfl⟩) (by rw [hXp]; exact ⟨_, rfl, (by rw [← hfd, fndV, if_pos (by omega)]), rfl⟩) dJ25_getNode_136
              · refine z_aload_n (pc := 121) (j := 3) C dJ25_getNode_121 rfl rfl ?_
                refine z_ifnull (pc := 122) C dJ25_getNode_122 ?_
                refine z_aload_n (pc := 125) (j := 3) C dJ25_getNode_125 rfl rfl ?_
                refine z_aload (pc := 126) (j := 0) C dJ25_getNode_126 rfl ?_
                refine z_callO (pc := 128) (n := 1) (kc' := 0) (ks' := 0) C (ct_H_eq C.t hkf (by omega) (by omega) (by omega) hkf_2 (by omega) (by omega) (by omega)) q1236 q1226 q1228 q1234 q1235 q98 (va_Decl.of (C.w _ q1227) (C.w _ q1257)) (by decide +kernel) ⟨by decide, by decide⟩ hkf rfl rfl rfl (Nat.le_of_ble_eq_true rfl) dJ25_getNode_128 (by omega) (by omega) (zpk (st' := [.int (iI (if scode kr kq kb = scode r_2 q_2 b_2 then 1 else 0))]) rfl ?_) zrx
                rw [show ((if scode kr kq kb = scode r_2 q_2 b_2 then 1 else 0) : Int) = 1 from if_pos (by omega)]
                show Z X h 0 0 [(7, .ref x.k), (6, .int (iI c)), (4, .ref x.n), (1, .ref k), (0, .ref m)] 131 [.int (iI 1)]
                refine z_if_eq (pc := 131) (tgt := 137) C dJ25_getNode_131 (by decide) (by decide) (fun z => absurd z (by decide)) (fun _ => ?_)
                refine z_aload (pc := 134) (j := 2) C dJ25_getNode_134 rfl ?_
                exact z_areturn (pc := 136) C (Or.inl ⟨_, rfl⟩) (Or.inr ⟨_, rfl⟩) (by rw [hXp]; exact ⟨_, rfl, (by rw [← hfd, fndV, if_pos (by omega)]), rfl⟩) dJ25_getNode_136
          · obtain ⟨hv4, nx4, hn4, hr4⟩ := id hr3
            subst hv4
            refine z_aload (pc := 99) (j := 1) C dJ25_getNode_99 rfl ?_
            refine z_getfield (pc := 101) (v := .int (iI x.c)) C in_J28 rfl 0 (by decide) q1509 (fun _ z => z) hn3 rfl dJ25_getNode_101 ?_
            refine z_iload (pc := 104) (j := 0) C dJ25_getNode_104 rfl ?_
            refine z_icmp_ne (pc := 106) (tgt := 137) C dJ25_getNode_106 (by decide) (by omega) (by omega) (fun c106 => ?_) (fun c106 => ?_)
            · refine z_aload (pc := 137) (j := 1) C dJ25_getNode_137 rfl ?_
              refine z_getfield (pc := 139) (v := .ref x2.n) C in_J28 rfl 3 (by decide) q1520 (fun _ z => z) hn3 rfl dJ25_getNode_139 ?_
              refine z_dup (pc := 142) C dJ25_getNode_142 rfl ?_
              refine z_astore (pc := 143) (L' := [(4, .ref x2.n), (6, .int (iI c)), (1, .ref k), (0, .ref m)]) C dJ25_getNode_143 (by rw [hnL]; decide) rfl ?_
              refine z_ifnonnull (pc := 145) (tgt := 99) C dJ25_getNode_145 (by decide) ?_
              refine Z.weak (L' := [(6, .int (iI c)), (4, .ref x2.n), (1, .ref k), (0, .ref m)]) (kc' := 0) (ks' := 0) [1, 0, 2, 3] rfl (by omega) (by omega) ?_
              exact ih99 _ (by rw [← hn99]; exact Nat.lt_succ_self _) x2 y2 hr3 (fun z hz => hmem z (List.mem_cons_of_mem _ hz)) (by rw [← hfd, fndV, fndV, fndV, if_neg (show ¬ x.c = c by omega)]) rfl
            · refine z_aload (pc := 109) (j := 1) C dJ25_getNode_109 rfl ?_
              refine z_getfield (pc := 111) (v := .ref x.k) C in_J28 rfl 1 (by decide) q1513 (fun _ z => z) hn3 rfl dJ25_getNode_111 ?_
              refine z_dup (pc := 114) C dJ25_getNode_114 rfl ?_
              refine z_astore (pc := 115) (L' := [(7, .ref x.k), (6, .int (iI c)), (4, .ref x.n), (1, .ref k), (0, .ref m)]) C dJ25_getNode_115 (by rw [hnL]; decide) rfl ?_
              refine z_aload_n (pc := 117) (j := 3) C dJ25_getNode_117 rfl rfl ?_
              refine z_acmp_eq (pc := 118) (tgt := 134) C dJ25_getNode_118 (by decide) (fun c118 => ?_) (fun c118 => ?_)
              · refine z_aload (pc := 134) (j := 2) C dJ25_getNode_134 rfl ?_
                exact z_areturn (pc := 136) C (Or.inl ⟨_, rfl⟩) (Or.inr ⟨_, rfl⟩) (by rw [hXp]; exact ⟨_, rfl, (by rw [← hfd, fndV, if_pos (by omega)]), rfl⟩) dJ25_getNode_136
              · refine z_aload_n (pc := 121) (j := 3) C dJ25_getNode_121 rfl rfl ?_
                refine z_ifnull (pc := 122) C dJ25_getNode_122 ?_
                refine z_aload_n (pc := 125) (j := 3) C dJ25_getNode_125 rfl rfl ?_
                refine z_aload (pc := 126) (j := 0) C dJ25_getNode_126 rfl ?_
                refine z_callO (pc := 128) (n := 1) (kc' := 0) (ks' := 0) C (ct_H_eq C.t hkf (by omega) (by omega) (by omega) hkf_2 (by omega) (by omega) (by omega)) q1236 q1226 q1228 q1234 q1235 q98 (va_Decl.of (C.w _ q1227) (C.w _ q1257)) (by decide +kernel) ⟨by decide, by decide⟩ hkf rfl rfl rfl (Nat.le_of_ble_eq_true rfl) dJ25_getNode_128 (by omega) (by omega) (zpk (st' := [.int (iI (if scode kr kq kb = scode r_2 q_2 b_2 then 1 else 0))]) rfl ?_) zrx
                rw [show ((if scode kr kq kb = scode r_2 q_2 b_2 then 1 else 0) : Int) = 1 from if_pos (by omega)]
                show Z X h 0 0 [(7, .ref x.k), (6, .int (iI c)), (4, .ref x.n), (1, .ref k), (0, .ref m)] 131 [.int (iI 1)]
                refine z_if_eq (pc := 131) (tgt := 137) C dJ25_getNode_131 (by decide) (by decide) (fun z => absurd z (by decide)) (fun _ => ?_)
                refine z_aload (pc := 134) (j := 2) C dJ25_getNode_134 rfl ?_
                exact z_areturn (pc := 136) C (Or.inl ⟨_, rfl⟩) (Or.inr ⟨_, rfl⟩) (by rw [hXp]; exact ⟨_, rfl, (by rw [← hfd, fndV, if_pos (by omega)]), rfl⟩) dJ25_getNode_136
        refine Z.weak (L' := [(6, .int (iI c)), (4, .ref e2.n), (1, .ref k), (0, .ref m)]) (kc' := 0) (ks' := 0) [2, 0, 6, 5] rfl (by omega) (by omega) ?_
        exact loop99 _ e2 r2 hr (fun z hz => (bin_m (by rw [hl]; exact List.mem_cons_of_mem _ hz)).1) (by rw [hl, fndV, fndV, fndV, if_neg (show ¬ e.c = c by omega)]) rfl
      · refine z_aload_n (pc := 45) (j := 0) C dJ25_getNode_45 rfl rfl ?_
        refine z_getfield (pc := 46) (v := .ref e.k) C in_J28 rfl 1 (by decide) q1513 (fun _ z => z) hn rfl dJ25_getNode_46 ?_
        refine z_dup (pc := 49) C dJ25_getNode_49 rfl ?_
        refine z_astore (pc := 50) (L' := [(7, .ref e.k), (3, .ref e.n), (6, .int (iI c)), (5, .int (iI ((cap : Nat) : Int))), (2, .ref tb), (0, .ref m), (1, .ref k)]) C dJ25_getNode_50 (by rw [hnL]; decide) rfl ?_
        refine z_aload_n (pc := 52) (j := 6) C dJ25_getNode_52 rfl rfl ?_
        refine z_acmp_eq (pc := 53) (tgt := 69) C dJ25_getNode_53 (by decide) (fun c53 => ?_) (fun c53 => ?_)
        · refine z_aload_n (pc := 69) (j := 1) C dJ25_getNode_69 rfl rfl ?_
          exact z_areturn (pc := 70) C (Or.inl ⟨_, rfl⟩) (Or.inr ⟨_, rfl⟩) (by rw [hXp]; exact ⟨_, rfl, (by rw [hl, fndV, if_pos (by omega)]), rfl⟩) dJ25_getNode_70
        · refine z_aload_n (pc := 56) (j := 6) C dJ25_getNode_56 rfl rfl ?_
          refine z_ifnull (pc := 57) C dJ25_getNode_57 ?_
          refine z_aload_n (pc := 60) (j := 6) C dJ25_getNode_60 rfl rfl ?_
          refine z_aload (pc := 61) (j := 0) C dJ25_getNode_61 rfl ?_
          refine z_callO (pc := 63) (n := 1) (kc' := 0) (ks' := 0) C (ct_H_eq C.t hkf (by omega) (by omega) (by omega) hkf_1 (by omega) (by omega) (by omega)) q1236 q1226 q1228 q1234 q1235 q98 (va_Decl.of (C.w _ q1227) (C.w _ q1257)) (by decide +kernel) ⟨by decide, by decide⟩ hkf rfl rfl rfl (Nat.le_of_ble_eq_true rfl) dJ25_getNode_63 (by omega) (by omega) (zpk (st' := [.int (iI (if scode kr kq kb = scode r_1 q_1 b_1 then 1 else 0))]) rfl ?_) zrx
          rw [show ((if scode kr kq kb = scode r_1 q_1 b_1 then 1 else 0) : Int) = 1 from if_pos (by omega)]
          show Z X h 0 0 [(7, .ref e.k), (3, .ref e.n), (6, .int (iI c)), (5, .int (iI ((cap : Nat) : Int))), (2, .ref tb), (0, .ref m), (1, .ref k)] 66 [.int (iI 1)]
          refine z_if_eq (pc := 66) (tgt := 71) C dJ25_getNode_66 (by decide) (by decide) (fun z => absurd z (by decide)) (fun _ => ?_)
          refine z_aload_n (pc := 69) (j := 1) C dJ25_getNode_69 rfl rfl ?_
          exact z_areturn (pc := 70) C (Or.inl ⟨_, rfl⟩) (Or.inr ⟨_, rfl⟩) (by rw [hXp]; exact ⟨_, rfl, (by rw [hl, fndV, if_pos (by omega)]), rfl⟩) dJ25_getNode_70
set_option maxHeartbeats 4000000 in
theorem ct_M_get {l : Launch} (hl : l.stackTraces = false) {Γ : zCx} {h : zH} {m tb cap : Nat} {es : List zEn} {sz : Int} {lf : Value} (hm : mpA h m tb cap es sz lf) {k : Nat} {c : Int} (hk : kAt h k c)  : zMet l yJ25_get (ws_ yJ25_get cJ25_get 3 (some (.object "java/lang/Object"))) ({ frames := 3, cells := 0, slots := 0, locals := 68 }) Γ h [.ref m, .ref k] (zrt (fun w h' => (((∀ e ∈ es, e.c ≠ c) ∧ w = some .null) ∨ ∃ e ∈ es, e.c = c ∧ w = some (.ref e.v)) ∧ h' = h)) 0 0 := by
  refine zMet.of (cc := cJ25_get) hl (plainFor_of_name (by decide +kernel)) (Nat.le_of_ble_eq_true rfl) ?_
  intro X hXl hXΓ hXp C hnm hnL
  have C : zC X cJ25_get RJ25 (some (.object "java/lang/Object")) 3 68 [] := C
  have hnL : X.2.1.2.2.2.2 = 3 := hnL
  subst hXl hXΓ
  show Z X h 0 0 [(0, .ref m), (1, .ref k)] 0 []
  obtain ⟨⟨mc, f, hmf, htb, hch⟩, hcap, hnd, hcd, hks⟩ := id hm
  obtain ⟨kr, kq, kb, hkf, hkr, hkq, hkb, hkc⟩ := id hk
  have hcr := hk.r
  refine z_aload_n (pc := 0) (j := 0) C dJ25_get_0 rfl rfl ?_
  refine z_aload_n (pc := 1) (j := 1) C dJ25_get_1 rfl rfl ?_
  refine z_callV (pc := 2) (n := 1) (kc' := 0) (ks' := 0) C (ct_M_getNode C.t hm hk) (lw_V q1137 q1138 q1139 q97 q1140) (by decide +kernel) ⟨by decide, by decide⟩ hmf rfl rfl rfl (Nat.le_of_ble_eq_true rfl) dJ25_get_2 (by omega) (by omega) (zrk fun w h1 hp => ?_) zrx
  obtain ⟨rfl, eh1⟩ := hp
  rw [eh1]
  rcases fndV_c (bin cap (c.toNat % cap) es) c with ⟨hf1, hf2⟩ | ⟨e, he, hf1, hf3⟩
  · rw [hf2]
    show Z X h 0 0 [(0, .ref m), (1, .ref k)] 5 [.null]
    refine z_dup (pc := 5) C dJ25_get_5 rfl ?_
    refine z_astore_nN (pc := 6) (L' := [(2, .null), (0, .ref m), (1, .ref k)]) C dJ25_get_6 rfl (by rw [hnL]; decide) rfl ?_
    refine z_ifnonnullN (pc := 7) C dJ25_get_7 ?_
    refine z_null (pc := 10) C dJ25_get_10 ?_
    refine z_goto (pc := 11) (tgt := 18) C dJ25_get_11 (by decide) ?_
    exact z_areturn (pc := 18) C (Or.inl ⟨_, rfl⟩) (Or.inl rfl) (by rw [hXp]; exact ⟨_, rfl, Or.inl ⟨bin_no hf1, rfl⟩, rfl⟩) dJ25_get_18
  · rw [hf3]
    obtain ⟨nx, hn⟩ := hm.nd (bin_m he).1
    show Z X h 0 0 [(0, .ref m), (1, .ref k)] 5 [.ref e.n]
    refine z_dup (pc := 5) C dJ25_get_5 rfl ?_
    refine z_astore_n (pc := 6) (L' := [(2, .ref e.n), (0, .ref m), (1, .ref k)]) C dJ25_get_6 rfl (by rw [hnL]; decide) rfl ?_
    refine z_ifnonnull (pc := 7) (tgt := 14) C dJ25_get_7 (by decide) ?_
    refine z_aload_n (pc := 14) (j := 0) C dJ25_get_14 rfl rfl ?_
    refine z_getfield (pc := 15) (v := .ref e.v) C in_J28 rfl 2 (by decide) q1515 (fun _ z => z) hn rfl dJ25_get_15 ?_
    exact z_areturn (pc := 18) C (Or.inl ⟨_, rfl⟩) (Or.inr ⟨_, rfl⟩) (by rw [hXp]; exact ⟨_, rfl, Or.inr ⟨e, (bin_m he).1, hf1, rfl⟩, rfl⟩) dJ25_get_18
set_option maxHeartbeats 4000000 in
theorem ct_M_getNode0 {l : Launch} (hl : l.stackTraces = false) {Γ : zCx} {h : zH} {m : Nat} {lf : Value} (hm : mp0 h m lf) {k : Nat}  : zMet l yJ25_getNode (ws_ yJ25_getNode cJ25_getNode 8 (some (.object "java/util/HashMap$Node"))) ({ frames := 0, cells := 0, slots := 0, locals := 0 }) Γ h [.ref m, .ref k] (zpure h (some .null)) 0 0 := by
  refine zMet.of (cc := cJ25_getNode) hl (plainFor_of_name (by decide +kernel)) (Nat.le_of_ble_eq_true rfl) ?_
  intro X hXl hXΓ hXp C hnm hnL
  have C : zC X cJ25_getNode RJ25 (some (.object "java/util/HashMap$Node")) 0 0 [] := C
  have hnL : X.2.1.2.2.2.2 = 8 := hnL
  subst hXl hXΓ
  show Z X h 0 0 [(0, .ref m), (1, .ref k)] 0 []
  have hmf : h m = _ := hm
  refine z_aload_n (pc := 0) (j := 0) C dJ25_getNode_0 rfl rfl ?_
  refine z_getfield (pc := 1) (v := .null) C in_J25 rfl 2 (by decide) q1088 (fun _ z => z) hmf rfl dJ25_getNode_1 ?_
  refine z_dup (pc := 4) C dJ25_getNode_4 rfl ?_
  refine z_astore_nN (pc := 5) (L' := [(2, .null), (0, .ref m), (1, .ref k)]) C dJ25_getNode_5 rfl (by rw [hnL]; decide) rfl ?_
  refine z_ifnullN (pc := 6) (tgt := 148) C dJ25_getNode_6 (by decide) ?_
  refine z_null (pc := 148) C dJ25_getNode_148 ?_
  exact z_areturn (pc := 149) C (Or.inl ⟨_, rfl⟩) (Or.inl rfl) (by rw [hXp]; exact zpure_v rfl rfl) dJ25_getNode_149
set_option maxHeartbeats 4000000 in
theorem ct_M_get0 {l : Launch} (hl : l.stackTraces = false) {Γ : zCx} {h : zH} {m : Nat} {lf : Value} (hm : mp0 h m lf) {k : Nat}  : zMet l yJ25_get (ws_ yJ25_get cJ25_get 3 (some (.object "java/lang/Object"))) ({ frames := 1, cells := 0, slots := 0, locals := 27 }) Γ h [.ref m, .ref k] (zpure h (some .null)) 0 0 := by
  refine zMet.of (cc := cJ25_get) hl (plainFor_of_name (by decide +kernel)) (Nat.le_of_ble_eq_true rfl) ?_
  intro X hXl hXΓ hXp C hnm hnL
  have C : zC X cJ25_get RJ25 (some (.object "java/lang/Object")) 1 27 [] := C
  have hnL : X.2.1.2.2.2.2 = 3 := hnL
  subst hXl hXΓ
  show Z X h 0 0 [(0, .ref m), (1, .ref k)] 0 []
  have hmf : h m = _ := hm
  refine z_aload_n (pc := 0) (j := 0) C dJ25_get_0 rfl rfl ?_
  refine z_aload_n (pc := 1) (j := 1) C dJ25_get_1 rfl rfl ?_
  refine z_callV (pc := 2) (n := 1) (kc' := 0) (ks' := 0) C (ct_M_getNode0 C.t hm (k := k)) (lw_V q1137 q1138 q1139 q97 q1140) (by decide +kernel) ⟨by decide, by decide⟩ hmf rfl rfl rfl (Nat.le_of_ble_eq_true rfl) dJ25_get_2 (by omega) (by omega) (zpk (st' := [.null]) rfl ?_) zrx
  refine z_dup (pc := 5) C dJ25_get_5 rfl ?_
  refine z_astore_nN (pc := 6) (L' := [(2, .null), (0, .ref m), (1, .ref k)]) C dJ25_get_6 rfl (by rw [hnL]; decide) rfl ?_
  refine z_ifnonnullN (pc := 7) C dJ25_get_7 ?_
  refine z_null (pc := 10) C dJ25_get_10 ?_
  refine z_goto (pc := 11) (tgt := 18) C dJ25_get_11 (by decide) ?_
  exact z_areturn (pc := 18) C (Or.inl ⟨_, rfl⟩) (Or.inl rfl) (by rw [hXp]; exact zpure_v rfl rfl) dJ25_get_18
set_option maxHeartbeats 4000000 in
theorem ct_AM_init {l : Launch} (hl : l.stackTraces = false) {Γ : zCx} {h : zH} {m : Nat}  : zMet l yJ24_init (ws_ yJ24_init cJ24_init 1 none) ({ frames := 1, cells := 0, slots := 0, locals := 12 }) Γ h [.ref m] (zpure h none) 0 0 := by
  refine zMet.of (cc := cJ24_init) hl (plainFor_of_name (by decide +kernel)) (Nat.le_of_ble_eq_true rfl) ?_
  intro X hXl hXΓ hXp C hnm hnL
  have C : zC X cJ24_init RJ24 none 1 12 [] := C
  have hnL : X.2.1.2.2.2.2 = 1 := hnL
  subst hXl hXΓ
  show Z X h 0 0 [(0, .ref m)] 0 []
  refine z_aload_n (pc := 0) (j := 0) C dJ24_init_0 rfl rfl ?_
  refine z_objInit (pc := 1) C q1086 q113 q114 (by decide) (by decide) dJ24_init_1 ?_
  exact z_return (pc := 4) C (by rw [hXp]; exact zpure_v rfl rfl) dJ24_init_4
set_option maxHeartbeats 4000000 in
theorem ct_M_init {l : Launch} (hl : l.stackTraces = false) {Γ : zCx} {h : zH} {m : Nat} (hm : h m = some (true, .inr (14, [.null, .null, .null, .null, .int (iI 0), .int (iI 0), .int (iI 0), .float 0]))) : zMet l yJ25_init (ws_ yJ25_init cJ25_init 1 none) ({ frames := 2, cells := 0, slots := 0, locals := 32 }) Γ h [.ref m] (zrt (fun w h' => w = none ∧ mp0 h' m (.float 1061158912) ∧ zkeep h h' [m])) 0 0 := by
  refine zMet.of (cc := cJ25_init) hl (plainFor_of_name (by decide +kernel)) (Nat.le_of_ble_eq_true rfl) ?_
  intro X hXl hXΓ hXp C hnm hnL
  have C : zC X cJ25_init RJ25 none 2 32 [] := C
  have hnL : X.2.1.2.2.2.2 = 1 := hnL
  subst hXl hXΓ
  show Z X h 0 0 [(0, .ref m)] 0 []
  refine z_aload_n (pc := 0) (j := 0) C dJ25_init_0 rfl rfl ?_
  refine z_callI (pc := 1) (n := 0) (kc' := 0) (ks' := 0) C (ct_AM_init C.t (m := m)) q1085 q96 q1083 q1084 rfl (by decide +kernel) ⟨by decide, by decide⟩ rfl rfl (Nat.le_of_ble_eq_true rfl) dJ25_init_1 (by omega) (by omega) (zpk (st' := []) rfl ?_) zrx
  refine z_aload_n (pc := 4) (j := 0) C dJ25_init_4 rfl rfl ?_
  refine z_ldcf (pc := 5) (v := 1061158912) C q1087 dJ25_init_5 ?_
  refine z_putfieldF (pc := 7) (fs' := [.null, .null, .null, .null, .int (iI 0), .int (iI 0), .int (iI 0), .float 1061158912]) C hnm in_J25 tyJ25 tyJ25_ok nmJ25 rfl 7 (by decide) q1092 (fun _ z => z) rfl rfl rfl rfl (Nat.le_of_ble_eq_true rfl) hm rfl dJ25_init_7 ?_
  refine Z.nm (fun h1 eh1 => ?_)
  have kh1 : zkeep h h1 [m] := by rw [eh1]; exact zkeep.up zkeep.rf (Or.inl (by simp)) hm
  have fh1_0 : h1 m = some (true, .inr (14, [.null, .null, .null, .null, .int (iI 0), .int (iI 0), .int (iI 0), .float 1061158912])) := zse eh1
  exact z_return (pc := 10) C (by rw [hXp]; exact ⟨_, rfl, rfl, fh1_0, kh1⟩) dJ25_init_10
set_option maxHeartbeats 4000000 in
theorem ct_N_init {l : Launch} (hl : l.stackTraces = false) {Γ : zCx} {h : zH} {n k v : Nat} {c : Int} (hn : h n = some (true, .inr (15, [.int (iI 0), .null, .null, .null]))) : zMet l yJ28_init (ws_ yJ28_init cJ28_init 5 none) ({ frames := 1, cells := 0, slots := 0, locals := 12 }) Γ h [.ref n, .int (iI c), .ref k, .ref v, .null] (zrt (fun w h' => w = none ∧ h' n = some (true, .inr (15, [.int (iI c), .ref k, .ref v, .null])) ∧ zkeep h h' [n])) 0 0 := by
  refine zMet.of (cc := cJ28_init) hl (plainFor_of_name (by decide +kernel)) (Nat.le_of_ble_eq_true rfl) ?_
  intro X hXl hXΓ hXp C hnm hnL
  have C : zC X cJ28_init RJ28 none 1 12 [] := C
  have hnL : X.2.1.2.2.2.2 = 5 := hnL
  subst hXl hXΓ
  show Z X h 0 0 [(0, .ref n), (1, .int (iI c)), (2, .ref k), (3, .ref v), (4, .null)] 0 []
  refine z_aload_n (pc := 0) (j := 0) C dJ28_init_0 rfl rfl ?_
  refine z_objInit (pc := 1) C q1505 q113 q114 (by decide) (by decide) dJ28_init_1 ?_
  refine z_aload_n (pc := 4) (j := 0) C dJ28_init_4 rfl rfl ?_
  refine z_iload_n (pc := 5) (j := 1) C dJ28_init_5 rfl rfl ?_
  refine z_putfieldF (pc := 6) (fs' := [.int (iI c), .null, .null, .null]) C hnm in_J28 tyJ28 tyJ28_ok nmJ28 rfl 0 (by decide) q1506 (fun _ z => z) rfl rfl rfl rfl (Nat.le_of_ble_eq_true rfl) hn rfl dJ28_init_6 ?_
  refine Z.nm (fun h1 eh1 => ?_)
  have kh1 : zkeep h h1 [n] := by rw [eh1]; exact zkeep.up zkeep.rf (Or.inl (by simp)) hn
  have fh1_0 : h1 n = some (true, .inr (15, [.int (iI c), .null, .null, .null])) := zse eh1
  refine z_aload_n (pc := 9) (j := 0) C dJ28_init_9 rfl rfl ?_
  refine z_aload_n (pc := 10) (j := 2) C dJ28_init_10 rfl rfl ?_
  refine z_putfieldF (pc := 11) (fs' := [.int (iI c), .ref k, .null, .null]) C hnm in_J28 tyJ28 tyJ28_ok nmJ28 rfl 1 (by decide) q1510 (fun _ z => z) rfl rfl rfl rfl (Nat.le_of_ble_eq_true rfl) fh1_0 rfl dJ28_init_11 ?_
  refine Z.nm (fun h2 eh2 => ?_)
  have kh2 : zkeep h h2 [n] := by rw [eh2]; exact zkeep.up kh1 (Or.inl (by simp)) fh1_0
  have fh2_0 : h2 n = some (true, .inr (15, [.int (iI c), .ref k, .null, .null])) := zse eh2
  refine z_aload_n (pc := 14) (j := 0) C dJ28_init_14 rfl rfl ?_
  refine z_aload_n (pc := 15) (j := 3) C dJ28_init_15 rfl rfl ?_
  refine z_putfield (pc := 16) (fs' := [.int (iI c), .ref k, .ref v, .null]) C in_J28 tyJ28 tyJ28_ok nmJ28 rfl 2 (by decide) q1514 (fun _ z => z) rfl rfl rfl (Nat.le_of_ble_eq_true rfl) fh2_0 rfl dJ28_init_16 ?_
  refine Z.nm (fun h3 eh3 => ?_)
  have kh3 : zkeep h h3 [n] := by rw [eh3]; exact zkeep.up kh2 (Or.inl (by simp)) fh2_0
  have fh3_0 : h3 n = some (true, .inr (15, [.int (iI c), .ref k, .ref v, .null])) := zse eh3
  refine z_aload_n (pc := 19) (j := 0) C dJ28_init_19 rfl rfl ?_
  refine z_aloadN (pc := 20) (j := 4) C dJ28_init_20 rfl ?_
  refine z_putfield (pc := 22) (fs' := [.int (iI c), .ref k, .ref v, .null]) C in_J28 tyJ28 tyJ28_ok nmJ28 rfl 3 (by decide) q1516 (fun _ z => z) rfl rfl rfl (Nat.le_of_ble_eq_true rfl) fh3_0 rfl dJ28_init_22 ?_
  refine Z.nm (fun h4 eh4 => ?_)
  have kh4 : zkeep h h4 [n] := by rw [eh4]; exact zkeep.up kh3 (Or.inl (by simp)) fh3_0
  have fh4_0 : h4 n = some (true, .inr (15, [.int (iI c), .ref k, .ref v, .null])) := zse eh4
  exact z_return (pc := 25) C (by rw [hXp]; exact ⟨_, rfl, rfl, fh4_0, kh4⟩) dJ28_init_25
set_option maxHeartbeats 4000000 in
theorem ct_M_newNode {l : Launch} (hl : l.stackTraces = false) {Γ : zCx} {h : zH} {m k v : Nat} {c : Int}  : zMet l yJ25_newNode (ws_ yJ25_newNode cJ25_newNode 5 (some (.object "java/util/HashMap$Node"))) ({ frames := 2, cells := 1, slots := 4, locals := 36 }) Γ h [.ref m, .int (iI c), .ref k, .ref v, .null] (zrt (fun w h' => ∃ n, w = some (.ref n) ∧ h' n = some (true, .inr (15, [.int (iI c), .ref k, .ref v, .null])) ∧ h n = none ∧ zkeep h h' [])) 1 4 := by
  refine zMet.of (cc := cJ25_newNode) hl (plainFor_of_name (by decide +kernel)) (Nat.le_of_ble_eq_true rfl) ?_
  intro X hXl hXΓ hXp C hnm hnL
  have C : zC X cJ25_newNode RJ25 (some (.object "java/util/HashMap$Node")) 2 36 [] := C
  have hnL : X.2.1.2.2.2.2 = 5 := hnL
  subst hXl hXΓ
  show Z X h 1 4 [(0, .ref m), (1, .int (iI c)), (2, .ref k), (3, .ref v), (4, .null)] 0 []
  refine z_new (pc := 0) (ci := 15) (kc' := 0) (ks' := 0) (fs := [.int (iI 0), .null, .null, .null]) C in_J28 tyJ28 tyJ28_ok rfl q1486 q1501 q103 df_J28 (by omega) (by omega) dJ25_newNode_0 (fun a1 fa1 => ?_)
  refine Z.nm (fun h2 eh2 => ?_)
  have na1 : h a1 = none := fa1
  have kh2 : zkeep h h2 [] := by rw [eh2]; exact zkeep.born zkeep.rf fa1
  have fh2_0 : h2 a1 = some (true, .inr (15, [.int (iI 0), .null, .null, .null])) := zse eh2
  refine z_dup (pc := 3) C dJ25_newNode_3 rfl ?_
  refine z_iload_n (pc := 4) (j := 1) C dJ25_newNode_4 rfl rfl ?_
  refine z_aload_n (pc := 5) (j := 2) C dJ25_newNode_5 rfl rfl ?_
  refine z_aload_n (pc := 6) (j := 3) C dJ25_newNode_6 rfl rfl ?_
  refine z_aloadN (pc := 7) (j := 4) C dJ25_newNode_7 rfl ?_
  refine z_callI (pc := 9) (n := 4) (kc' := 0) (ks' := 0) C (ct_N_init C.t fh2_0 (c := c) (k := k) (v := v)) q1504 q103 q1502 q1503 rfl (by decide +kernel) ⟨by decide, by decide⟩ rfl rfl (Nat.le_of_ble_eq_true rfl) dJ25_newNode_9 (by omega) (by omega) (zrk fun w h3 hp => ?_) zrx
  obtain ⟨rfl, fq4, k5⟩ := hp
  have kh3 : zkeep h h3 [] := zkeep.loc kh2 k5 (zall_cons (Or.inl (Or.symm (Or.inr na1))) zall_nil)
  show Z X h3 0 0 [(0, .ref m), (1, .int (iI c)), (2, .ref k), (3, .ref v), (4, .null)] 12 [.ref a1]
  exact z_areturn (pc := 12) C (Or.inl ⟨_, rfl⟩) (Or.inr ⟨_, rfl⟩) (by rw [hXp]; exact ⟨_, rfl, a1, rfl, fq4, na1, kh3⟩) dJ25_newNode_12
set_option maxHeartbeats 4000000 in
theorem ct_M_after {l : Launch} (hl : l.stackTraces = false) {Γ : zCx} {h : zH} {m : Nat} {b : Int}  : zMet l yJ25_afterNodeInsertion (ws_ yJ25_afterNodeInsertion cJ25_afterNodeInsertion 2 none) ({ frames := 0, cells := 0, slots := 0, locals := 0 }) Γ h [.ref m, .int (iI b)] (zpure h none) 0 0 := by
  refine zMet.of (cc := cJ25_afterNodeInsertion) hl (plainFor_of_name (by decide +kernel)) (Nat.le_of_ble_eq_true rfl) ?_
  intro X hXl hXΓ hXp C hnm hnL
  have C : zC X cJ25_afterNodeInsertion RJ25 none 0 0 [] := C
  have hnL : X.2.1.2.2.2.2 = 2 := hnL
  subst hXl hXΓ
  show Z X h 0 0 [(0, .ref m), (1, .int (iI b))] 0 []
  exact z_return (pc := 0) C (by rw [hXp]; exact zpure_v rfl rfl) dJ25_afterNodeInsertion_0

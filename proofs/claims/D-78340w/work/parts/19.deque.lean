/-! 19.deque.lean.txt -/
set_option maxRecDepth 100000
abbrev cJ3_sub : ByteArray := prog_43_method_9_code
def yJ3_sub : MethodName := ⟨RJ3, "sub", "(III)I"⟩
def dkwJ3_sub_0 : List UInt8 := [26, 27, 100, 89, 59, 156, 0, 7, 26, 28, 96, 59, 26, 172]
abbrev dktJ3_sub_0 : List UInt8 := dkwJ3_sub_0 ++ []
theorem dksJ3_sub_0 : cJ3_sub.data.toList.drop 0 = dktJ3_sub_0 := by decide +kernel
abbrev cJ3_inc : ByteArray := prog_43_method_6_code
def yJ3_inc : MethodName := ⟨RJ3, "inc", "(II)I"⟩
def dkwJ3_inc_0 : List UInt8 := [132, 0, 1, 26, 27, 161, 0, 5, 3, 59, 26, 172]
abbrev dktJ3_inc_0 : List UInt8 := dkwJ3_inc_0 ++ []
theorem dksJ3_inc_0 : cJ3_inc.data.toList.drop 0 = dktJ3_inc_0 := by decide +kernel
abbrev cJ3_dec : ByteArray := prog_43_method_7_code
def yJ3_dec : MethodName := ⟨RJ3, "dec", "(II)I"⟩
def dkwJ3_dec_0 : List UInt8 := [132, 0, 255, 26, 156, 0, 7, 27, 4, 100, 59, 26, 172]
abbrev dktJ3_dec_0 : List UInt8 := dkwJ3_dec_0 ++ []
theorem dksJ3_dec_0 : cJ3_dec.data.toList.drop 0 = dktJ3_dec_0 := by decide +kernel
abbrev cJ3_elementAt : ByteArray := prog_43_method_10_code
def yJ3_elementAt : MethodName := ⟨RJ3, "elementAt", "([Ljava/lang/Object;I)Ljava/lang/Object;"⟩
def dkwJ3_elementAt_0 : List UInt8 := [42, 27, 50, 176]
abbrev dktJ3_elementAt_0 : List UInt8 := dkwJ3_elementAt_0 ++ []
theorem dksJ3_elementAt_0 : cJ3_elementAt.data.toList.drop 0 = dktJ3_elementAt_0 := by decide +kernel
abbrev cJ3_init : ByteArray := prog_43_method_4_code
def yJ3_init : MethodName := ⟨RJ3, "<init>", "(I)V"⟩
def dkwJ3_init_1 : List UInt8 := [167, 0, 6, 27, 4, 96, 189, 0, 47, 181, 0, 3, 177]
abbrev dktJ3_init_1 : List UInt8 := dkwJ3_init_1 ++ []
def dkwJ3_init_0 : List UInt8 := [42, 183, 0, 42, 42, 27, 4, 162, 0, 7, 4, 167, 0, 17, 27, 18, 41, 160, 0, 8, 18, 41]
abbrev dktJ3_init_0 : List UInt8 := dkwJ3_init_0 ++ dktJ3_init_1
theorem dksJ3_init_0 : cJ3_init.data.toList.drop 0 = dktJ3_init_0 := by decide +kernel
theorem dksJ3_init_1 : cJ3_init.data.toList.drop 22 = dktJ3_init_1 := dk_seg dksJ3_init_0 22 rfl rfl
abbrev cJ3_size : ByteArray := prog_43_method_37_code
def yJ3_size : MethodName := ⟨RJ3, "size", "()I"⟩
def dkwJ3_size_0 : List UInt8 := [42, 180, 0, 20, 42, 180, 0, 24, 42, 180, 0, 3, 190, 184, 0, 127, 172]
abbrev dktJ3_size_0 : List UInt8 := dkwJ3_size_0 ++ []
theorem dksJ3_size_0 : cJ3_size.data.toList.drop 0 = dktJ3_size_0 := by decide +kernel
abbrev cJ3_isEmpty : ByteArray := prog_43_method_38_code
def yJ3_isEmpty : MethodName := ⟨RJ3, "isEmpty", "()Z"⟩
def dkwJ3_isEmpty_0 : List UInt8 := [42, 180, 0, 24, 42, 180, 0, 20, 160, 0, 7, 4, 167, 0, 4, 3, 172]
abbrev dktJ3_isEmpty_0 : List UInt8 := dkwJ3_isEmpty_0 ++ []
theorem dksJ3_isEmpty_0 : cJ3_isEmpty.data.toList.drop 0 = dktJ3_isEmpty_0 := by decide +kernel
abbrev cJ3_addLast : ByteArray := prog_43_method_13_code
def yJ3_addLast : MethodName := ⟨RJ3, "addLast", "(Ljava/lang/Object;)V"⟩
def dkwJ3_addLast_2 : List UInt8 := [182, 0, 71, 177]
abbrev dktJ3_addLast_2 : List UInt8 := dkwJ3_addLast_2 ++ []
def dkwJ3_addLast_1 : List UInt8 := [42, 180, 0, 24, 42, 42, 180, 0, 20, 44, 190, 184, 0, 74, 90, 181, 0, 20, 160, 0, 8, 42, 4]
abbrev dktJ3_addLast_1 : List UInt8 := dkwJ3_addLast_1 ++ dktJ3_addLast_2
def dkwJ3_addLast_0 : List UInt8 := [43, 199, 0, 11, 187, 0, 65, 89, 183, 0, 67, 191, 42, 180, 0, 3, 77, 44, 42, 180, 0, 20, 43, 83]
abbrev dktJ3_addLast_0 : List UInt8 := dkwJ3_addLast_0 ++ dktJ3_addLast_1
theorem dksJ3_addLast_0 : cJ3_addLast.data.toList.drop 0 = dktJ3_addLast_0 := by decide +kernel
theorem dksJ3_addLast_1 : cJ3_addLast.data.toList.drop 24 = dktJ3_addLast_1 := dk_seg dksJ3_addLast_0 24 rfl rfl
theorem dksJ3_addLast_2 : cJ3_addLast.data.toList.drop 47 = dktJ3_addLast_2 := dk_seg dksJ3_addLast_1 23 rfl rfl
abbrev cJ3_pollFirst : ByteArray := prog_43_method_20_code
def yJ3_pollFirst : MethodName := ⟨RJ3, "pollFirst", "()Ljava/lang/Object;"⟩
def dkwJ3_pollFirst_1 : List UInt8 := [42, 28, 43, 190, 184, 0, 74, 181, 0, 24, 45, 176]
abbrev dktJ3_pollFirst_1 : List UInt8 := dkwJ3_pollFirst_1 ++ []
def dkwJ3_pollFirst_0 : List UInt8 := [42, 180, 0, 3, 89, 76, 42, 180, 0, 24, 89, 61, 184, 0, 103, 78, 45, 198, 0, 17, 43, 28, 1, 83]
abbrev dktJ3_pollFirst_0 : List UInt8 := dkwJ3_pollFirst_0 ++ dktJ3_pollFirst_1
theorem dksJ3_pollFirst_0 : cJ3_pollFirst.data.toList.drop 0 = dktJ3_pollFirst_0 := by decide +kernel
theorem dksJ3_pollFirst_1 : cJ3_pollFirst.data.toList.drop 24 = dktJ3_pollFirst_1 := dk_seg dksJ3_pollFirst_0 24 rfl rfl
abbrev cJ3_removeFirst : ByteArray := prog_43_method_18_code
def yJ3_removeFirst : MethodName := ⟨RJ3, "removeFirst", "()Ljava/lang/Object;"⟩
def dkwJ3_removeFirst_0 : List UInt8 := [42, 182, 0, 93, 76, 43, 199, 0, 11, 187, 0, 97, 89, 183, 0, 99, 191, 43, 176]
abbrev dktJ3_removeFirst_0 : List UInt8 := dkwJ3_removeFirst_0 ++ []
theorem dksJ3_removeFirst_0 : cJ3_removeFirst.data.toList.drop 0 = dktJ3_removeFirst_0 := by decide +kernel
abbrev cJ3_pollLast : ByteArray := prog_43_method_21_code
def yJ3_pollLast : MethodName := ⟨RJ3, "pollLast", "()Ljava/lang/Object;"⟩
def dkwJ3_pollLast_1 : List UInt8 := [198, 0, 12, 43, 42, 28, 90, 181, 0, 20, 1, 83, 45, 176]
abbrev dktJ3_pollLast_1 : List UInt8 := dkwJ3_pollLast_1 ++ []
def dkwJ3_pollLast_0 : List UInt8 := [42, 180, 0, 3, 89, 76, 42, 180, 0, 20, 43, 190, 184, 0, 68, 89, 61, 184, 0, 103, 78, 45]
abbrev dktJ3_pollLast_0 : List UInt8 := dkwJ3_pollLast_0 ++ dktJ3_pollLast_1
theorem dksJ3_pollLast_0 : cJ3_pollLast.data.toList.drop 0 = dktJ3_pollLast_0 := by decide +kernel
theorem dksJ3_pollLast_1 : cJ3_pollLast.data.toList.drop 22 = dktJ3_pollLast_1 := dk_seg dksJ3_pollLast_0 22 rfl rfl
abbrev cJ3_removeLast : ByteArray := prog_43_method_19_code
def yJ3_removeLast : MethodName := ⟨RJ3, "removeLast", "()Ljava/lang/Object;"⟩
def dkwJ3_removeLast_0 : List UInt8 := [42, 182, 0, 100, 76, 43, 199, 0, 11, 187, 0, 97, 89, 183, 0, 99, 191, 43, 176]
abbrev dktJ3_removeLast_0 : List UInt8 := dkwJ3_removeLast_0 ++ []
theorem dksJ3_removeLast_0 : cJ3_removeLast.data.toList.drop 0 = dktJ3_removeLast_0 := by decide +kernel
theorem dJ3_sub_0 : decode cJ3_sub 0 = .ok (.iload_n 0, 1) := dk_26 (dk_at dksJ3_sub_0 0 rfl rfl)
theorem dJ3_sub_1 : decode cJ3_sub 1 = .ok (.iload_n 1, 1) := dk_27 (dk_at dksJ3_sub_0 1 rfl rfl)
theorem dJ3_sub_2 : decode cJ3_sub 2 = .ok (.isub, 1) := dk_100 (dk_at dksJ3_sub_0 2 rfl rfl)
theorem dJ3_sub_3 : decode cJ3_sub 3 = .ok (.dup, 1) := dk_89 (dk_at dksJ3_sub_0 3 rfl rfl)
theorem dJ3_sub_4 : decode cJ3_sub 4 = .ok (.istore_n 0, 1) := dk_59 (dk_at dksJ3_sub_0 4 rfl rfl)
theorem dJ3_sub_5 : decode cJ3_sub 5 = .ok (.ifCond .ge 7, 3) := dk_156 0 7 (dk_at dksJ3_sub_0 5 rfl rfl)
theorem dJ3_sub_8 : decode cJ3_sub 8 = .ok (.iload_n 0, 1) := dk_26 (dk_at dksJ3_sub_0 8 rfl rfl)
theorem dJ3_sub_9 : decode cJ3_sub 9 = .ok (.iload_n 2, 1) := dk_28 (dk_at dksJ3_sub_0 9 rfl rfl)
theorem dJ3_sub_10 : decode cJ3_sub 10 = .ok (.iadd, 1) := dk_96 (dk_at dksJ3_sub_0 10 rfl rfl)
theorem dJ3_sub_11 : decode cJ3_sub 11 = .ok (.istore_n 0, 1) := dk_59 (dk_at dksJ3_sub_0 11 rfl rfl)
theorem dJ3_sub_12 : decode cJ3_sub 12 = .ok (.iload_n 0, 1) := dk_26 (dk_at dksJ3_sub_0 12 rfl rfl)
theorem dJ3_sub_13 : decode cJ3_sub 13 = .ok (.ireturn, 1) := dk_172 (dk_at dksJ3_sub_0 13 rfl rfl)
theorem dJ3_inc_0 : decode cJ3_inc 0 = .ok (.iinc 0 1, 3) := dk_132 0 1 (dk_at dksJ3_inc_0 0 rfl rfl)
theorem dJ3_inc_3 : decode cJ3_inc 3 = .ok (.iload_n 0, 1) := dk_26 (dk_at dksJ3_inc_0 3 rfl rfl)
theorem dJ3_inc_4 : decode cJ3_inc 4 = .ok (.iload_n 1, 1) := dk_27 (dk_at dksJ3_inc_0 4 rfl rfl)
theorem dJ3_inc_5 : decode cJ3_inc 5 = .ok (.if_icmp .lt 5, 3) := dk_161 0 5 (dk_at dksJ3_inc_0 5 rfl rfl)
theorem dJ3_inc_8 : decode cJ3_inc 8 = .ok (.iconst 0, 1) := dk_3 (dk_at dksJ3_inc_0 8 rfl rfl)
theorem dJ3_inc_9 : decode cJ3_inc 9 = .ok (.istore_n 0, 1) := dk_59 (dk_at dksJ3_inc_0 9 rfl rfl)
theorem dJ3_inc_10 : decode cJ3_inc 10 = .ok (.iload_n 0, 1) := dk_26 (dk_at dksJ3_inc_0 10 rfl rfl)
theorem dJ3_inc_11 : decode cJ3_inc 11 = .ok (.ireturn, 1) := dk_172 (dk_at dksJ3_inc_0 11 rfl rfl)
theorem dJ3_dec_0 : decode cJ3_dec 0 = .ok (.iinc 0 (-1), 3) := dk_132 0 255 (dk_at dksJ3_dec_0 0 rfl rfl)
theorem dJ3_dec_3 : decode cJ3_dec 3 = .ok (.iload_n 0, 1) := dk_26 (dk_at dksJ3_dec_0 3 rfl rfl)
theorem dJ3_dec_4 : decode cJ3_dec 4 = .ok (.ifCond .ge 7, 3) := dk_156 0 7 (dk_at dksJ3_dec_0 4 rfl rfl)
theorem dJ3_dec_7 : decode cJ3_dec 7 = .ok (.iload_n 1, 1) := dk_27 (dk_at dksJ3_dec_0 7 rfl rfl)
theorem dJ3_dec_8 : decode cJ3_dec 8 = .ok (.iconst 1, 1) := dk_4 (dk_at dksJ3_dec_0 8 rfl rfl)
theorem dJ3_dec_9 : decode cJ3_dec 9 = .ok (.isub, 1) := dk_100 (dk_at dksJ3_dec_0 9 rfl rfl)
theorem dJ3_dec_10 : decode cJ3_dec 10 = .ok (.istore_n 0, 1) := dk_59 (dk_at dksJ3_dec_0 10 rfl rfl)
theorem dJ3_dec_11 : decode cJ3_dec 11 = .ok (.iload_n 0, 1) := dk_26 (dk_at dksJ3_dec_0 11 rfl rfl)
theorem dJ3_dec_12 : decode cJ3_dec 12 = .ok (.ireturn, 1) := dk_172 (dk_at dksJ3_dec_0 12 rfl rfl)
theorem dJ3_elementAt_0 : decode cJ3_elementAt 0 = .ok (.aload_n 0, 1) := dk_42 (dk_at dksJ3_elementAt_0 0 rfl rfl)
theorem dJ3_elementAt_1 : decode cJ3_elementAt 1 = .ok (.iload_n 1, 1) := dk_27 (dk_at dksJ3_elementAt_0 1 rfl rfl)
theorem dJ3_elementAt_2 : decode cJ3_elementAt 2 = .ok (.aaload, 1) := dk_50 (dk_at dksJ3_elementAt_0 2 rfl rfl)
theorem dJ3_elementAt_3 : decode cJ3_elementAt 3 = .ok (.areturn, 1) := dk_176 (dk_at dksJ3_elementAt_0 3 rfl rfl)
theorem dJ3_init_0 : decode cJ3_init 0 = .ok (.aload_n 0, 1) := dk_42 (dk_at dksJ3_init_0 0 rfl rfl)
theorem dJ3_init_1 : decode cJ3_init 1 = .ok (.invokespecial 42, 3) := dk_183 0 42 (dk_at dksJ3_init_0 1 rfl rfl)
theorem dJ3_init_4 : decode cJ3_init 4 = .ok (.aload_n 0, 1) := dk_42 (dk_at dksJ3_init_0 4 rfl rfl)
theorem dJ3_init_5 : decode cJ3_init 5 = .ok (.iload_n 1, 1) := dk_27 (dk_at dksJ3_init_0 5 rfl rfl)
theorem dJ3_init_6 : decode cJ3_init 6 = .ok (.iconst 1, 1) := dk_4 (dk_at dksJ3_init_0 6 rfl rfl)
theorem dJ3_init_7 : decode cJ3_init 7 = .ok (.if_icmp .ge 7, 3) := dk_162 0 7 (dk_at dksJ3_init_0 7 rfl rfl)
theorem dJ3_init_14 : decode cJ3_init 14 = .ok (.iload_n 1, 1) := dk_27 (dk_at dksJ3_init_0 14 rfl rfl)
theorem dJ3_init_15 : decode cJ3_init 15 = .ok (.ldc 41, 2) := dk_18 41 (dk_at dksJ3_init_0 15 rfl rfl)
theorem dJ3_init_17 : decode cJ3_init 17 = .ok (.if_icmp .ne 8, 3) := dk_160 0 8 (dk_at dksJ3_init_0 17 rfl rfl)
theorem dJ3_init_25 : decode cJ3_init 25 = .ok (.iload_n 1, 1) := dk_27 (dk_at dksJ3_init_1 3 rfl rfl)
theorem dJ3_init_26 : decode cJ3_init 26 = .ok (.iconst 1, 1) := dk_4 (dk_at dksJ3_init_1 4 rfl rfl)
theorem dJ3_init_27 : decode cJ3_init 27 = .ok (.iadd, 1) := dk_96 (dk_at dksJ3_init_1 5 rfl rfl)
theorem dJ3_init_28 : decode cJ3_init 28 = .ok (.anewarray 47, 3) := dk_189 0 47 (dk_at dksJ3_init_1 6 rfl rfl)
theorem dJ3_init_31 : decode cJ3_init 31 = .ok (.putfield 3, 3) := dk_181 0 3 (dk_at dksJ3_init_1 9 rfl rfl)
theorem dJ3_init_34 : decode cJ3_init 34 = .ok (.return_, 1) := dk_177 (dk_at dksJ3_init_1 12 rfl rfl)
theorem dJ3_size_0 : decode cJ3_size 0 = .ok (.aload_n 0, 1) := dk_42 (dk_at dksJ3_size_0 0 rfl rfl)
theorem dJ3_size_1 : decode cJ3_size 1 = .ok (.getfield 20, 3) := dk_180 0 20 (dk_at dksJ3_size_0 1 rfl rfl)
theorem dJ3_size_4 : decode cJ3_size 4 = .ok (.aload_n 0, 1) := dk_42 (dk_at dksJ3_size_0 4 rfl rfl)
theorem dJ3_size_5 : decode cJ3_size 5 = .ok (.getfield 24, 3) := dk_180 0 24 (dk_at dksJ3_size_0 5 rfl rfl)
theorem dJ3_size_8 : decode cJ3_size 8 = .ok (.aload_n 0, 1) := dk_42 (dk_at dksJ3_size_0 8 rfl rfl)
theorem dJ3_size_9 : decode cJ3_size 9 = .ok (.getfield 3, 3) := dk_180 0 3 (dk_at dksJ3_size_0 9 rfl rfl)
theorem dJ3_size_12 : decode cJ3_size 12 = .ok (.arraylength, 1) := dk_190 (dk_at dksJ3_size_0 12 rfl rfl)
theorem dJ3_size_13 : decode cJ3_size 13 = .ok (.invokestatic 127, 3) := dk_184 0 127 (dk_at dksJ3_size_0 13 rfl rfl)
theorem dJ3_size_16 : decode cJ3_size 16 = .ok (.ireturn, 1) := dk_172 (dk_at dksJ3_size_0 16 rfl rfl)
theorem dJ3_isEmpty_0 : decode cJ3_isEmpty 0 = .ok (.aload_n 0, 1) := dk_42 (dk_at dksJ3_isEmpty_0 0 rfl rfl)
theorem dJ3_isEmpty_1 : decode cJ3_isEmpty 1 = .ok (.getfield 24, 3) := dk_180 0 24 (dk_at dksJ3_isEmpty_0 1 rfl rfl)
theorem dJ3_isEmpty_4 : decode cJ3_isEmpty 4 = .ok (.aload_n 0, 1) := dk_42 (dk_at dksJ3_isEmpty_0 4 rfl rfl)
theorem dJ3_isEmpty_5 : decode cJ3_isEmpty 5 = .ok (.getfield 20, 3) := dk_180 0 20 (dk_at dksJ3_isEmpty_0 5 rfl rfl)
theorem dJ3_isEmpty_8 : decode cJ3_isEmpty 8 = .ok (.if_icmp .ne 7, 3) := dk_160 0 7 (dk_at dksJ3_isEmpty_0 8 rfl rfl)
theorem dJ3_isEmpty_11 : decode cJ3_isEmpty 11 = .ok (.iconst 1, 1) := dk_4 (dk_at dksJ3_isEmpty_0 11 rfl rfl)
theorem dJ3_isEmpty_12 : decode cJ3_isEmpty 12 = .ok (.goto 4, 3) := dk_167 0 4 (dk_at dksJ3_isEmpty_0 12 rfl rfl)
theorem dJ3_isEmpty_15 : decode cJ3_isEmpty 15 = .ok (.iconst 0, 1) := dk_3 (dk_at dksJ3_isEmpty_0 15 rfl rfl)
theorem dJ3_isEmpty_16 : decode cJ3_isEmpty 16 = .ok (.ireturn, 1) := dk_172 (dk_at dksJ3_isEmpty_0 16 rfl rfl)
theorem dJ3_addLast_0 : decode cJ3_addLast 0 = .ok (.aload_n 1, 1) := dk_43 (dk_at dksJ3_addLast_0 0 rfl rfl)
theorem dJ3_addLast_1 : decode cJ3_addLast 1 = .ok (.ifnonnull 11, 3) := dk_199 0 11 (dk_at dksJ3_addLast_0 1 rfl rfl)
theorem dJ3_addLast_12 : decode cJ3_addLast 12 = .ok (.aload_n 0, 1) := dk_42 (dk_at dksJ3_addLast_0 12 rfl rfl)
theorem dJ3_addLast_13 : decode cJ3_addLast 13 = .ok (.getfield 3, 3) := dk_180 0 3 (dk_at dksJ3_addLast_0 13 rfl rfl)
theorem dJ3_addLast_16 : decode cJ3_addLast 16 = .ok (.astore_n 2, 1) := dk_77 (dk_at dksJ3_addLast_0 16 rfl rfl)
theorem dJ3_addLast_17 : decode cJ3_addLast 17 = .ok (.aload_n 2, 1) := dk_44 (dk_at dksJ3_addLast_0 17 rfl rfl)
theorem dJ3_addLast_18 : decode cJ3_addLast 18 = .ok (.aload_n 0, 1) := dk_42 (dk_at dksJ3_addLast_0 18 rfl rfl)
theorem dJ3_addLast_19 : decode cJ3_addLast 19 = .ok (.getfield 20, 3) := dk_180 0 20 (dk_at dksJ3_addLast_0 19 rfl rfl)
theorem dJ3_addLast_22 : decode cJ3_addLast 22 = .ok (.aload_n 1, 1) := dk_43 (dk_at dksJ3_addLast_0 22 rfl rfl)
theorem dJ3_addLast_23 : decode cJ3_addLast 23 = .ok (.aastore, 1) := dk_83 (dk_at dksJ3_addLast_0 23 rfl rfl)
theorem dJ3_addLast_24 : decode cJ3_addLast 24 = .ok (.aload_n 0, 1) := dk_42 (dk_at dksJ3_addLast_1 0 rfl rfl)
theorem dJ3_addLast_25 : decode cJ3_addLast 25 = .ok (.getfield 24, 3) := dk_180 0 24 (dk_at dksJ3_addLast_1 1 rfl rfl)
theorem dJ3_addLast_28 : decode cJ3_addLast 28 = .ok (.aload_n 0, 1) := dk_42 (dk_at dksJ3_addLast_1 4 rfl rfl)
theorem dJ3_addLast_29 : decode cJ3_addLast 29 = .ok (.aload_n 0, 1) := dk_42 (dk_at dksJ3_addLast_1 5 rfl rfl)
theorem dJ3_addLast_30 : decode cJ3_addLast 30 = .ok (.getfield 20, 3) := dk_180 0 20 (dk_at dksJ3_addLast_1 6 rfl rfl)
theorem dJ3_addLast_33 : decode cJ3_addLast 33 = .ok (.aload_n 2, 1) := dk_44 (dk_at dksJ3_addLast_1 9 rfl rfl)
theorem dJ3_addLast_34 : decode cJ3_addLast 34 = .ok (.arraylength, 1) := dk_190 (dk_at dksJ3_addLast_1 10 rfl rfl)
theorem dJ3_addLast_35 : decode cJ3_addLast 35 = .ok (.invokestatic 74, 3) := dk_184 0 74 (dk_at dksJ3_addLast_1 11 rfl rfl)
theorem dJ3_addLast_38 : decode cJ3_addLast 38 = .ok (.dup_x1, 1) := dk_90 (dk_at dksJ3_addLast_1 14 rfl rfl)
theorem dJ3_addLast_39 : decode cJ3_addLast 39 = .ok (.putfield 20, 3) := dk_181 0 20 (dk_at dksJ3_addLast_1 15 rfl rfl)
theorem dJ3_addLast_42 : decode cJ3_addLast 42 = .ok (.if_icmp .ne 8, 3) := dk_160 0 8 (dk_at dksJ3_addLast_1 18 rfl rfl)
theorem dJ3_addLast_50 : decode cJ3_addLast 50 = .ok (.return_, 1) := dk_177 (dk_at dksJ3_addLast_2 3 rfl rfl)
theorem dJ3_pollFirst_0 : decode cJ3_pollFirst 0 = .ok (.aload_n 0, 1) := dk_42 (dk_at dksJ3_pollFirst_0 0 rfl rfl)
theorem dJ3_pollFirst_1 : decode cJ3_pollFirst 1 = .ok (.getfield 3, 3) := dk_180 0 3 (dk_at dksJ3_pollFirst_0 1 rfl rfl)
theorem dJ3_pollFirst_4 : decode cJ3_pollFirst 4 = .ok (.dup, 1) := dk_89 (dk_at dksJ3_pollFirst_0 4 rfl rfl)
theorem dJ3_pollFirst_5 : decode cJ3_pollFirst 5 = .ok (.astore_n 1, 1) := dk_76 (dk_at dksJ3_pollFirst_0 5 rfl rfl)
theorem dJ3_pollFirst_6 : decode cJ3_pollFirst 6 = .ok (.aload_n 0, 1) := dk_42 (dk_at dksJ3_pollFirst_0 6 rfl rfl)
theorem dJ3_pollFirst_7 : decode cJ3_pollFirst 7 = .ok (.getfield 24, 3) := dk_180 0 24 (dk_at dksJ3_pollFirst_0 7 rfl rfl)
theorem dJ3_pollFirst_10 : decode cJ3_pollFirst 10 = .ok (.dup, 1) := dk_89 (dk_at dksJ3_pollFirst_0 10 rfl rfl)
theorem dJ3_pollFirst_11 : decode cJ3_pollFirst 11 = .ok (.istore_n 2, 1) := dk_61 (dk_at dksJ3_pollFirst_0 11 rfl rfl)
theorem dJ3_pollFirst_12 : decode cJ3_pollFirst 12 = .ok (.invokestatic 103, 3) := dk_184 0 103 (dk_at dksJ3_pollFirst_0 12 rfl rfl)
theorem dJ3_pollFirst_15 : decode cJ3_pollFirst 15 = .ok (.astore_n 3, 1) := dk_78 (dk_at dksJ3_pollFirst_0 15 rfl rfl)
theorem dJ3_pollFirst_16 : decode cJ3_pollFirst 16 = .ok (.aload_n 3, 1) := dk_45 (dk_at dksJ3_pollFirst_0 16 rfl rfl)
theorem dJ3_pollFirst_17 : decode cJ3_pollFirst 17 = .ok (.ifnull 17, 3) := dk_198 0 17 (dk_at dksJ3_pollFirst_0 17 rfl rfl)
theorem dJ3_pollFirst_20 : decode cJ3_pollFirst 20 = .ok (.aload_n 1, 1) := dk_43 (dk_at dksJ3_pollFirst_0 20 rfl rfl)
theorem dJ3_pollFirst_21 : decode cJ3_pollFirst 21 = .ok (.iload_n 2, 1) := dk_28 (dk_at dksJ3_pollFirst_0 21 rfl rfl)
theorem dJ3_pollFirst_22 : decode cJ3_pollFirst 22 = .ok (.aconst_null, 1) := dk_1 (dk_at dksJ3_pollFirst_0 22 rfl rfl)
theorem dJ3_pollFirst_23 : decode cJ3_pollFirst 23 = .ok (.aastore, 1) := dk_83 (dk_at dksJ3_pollFirst_0 23 rfl rfl)
theorem dJ3_pollFirst_24 : decode cJ3_pollFirst 24 = .ok (.aload_n 0, 1) := dk_42 (dk_at dksJ3_pollFirst_1 0 rfl rfl)
theorem dJ3_pollFirst_25 : decode cJ3_pollFirst 25 = .ok (.iload_n 2, 1) := dk_28 (dk_at dksJ3_pollFirst_1 1 rfl rfl)
theorem dJ3_pollFirst_26 : decode cJ3_pollFirst 26 = .ok (.aload_n 1, 1) := dk_43 (dk_at dksJ3_pollFirst_1 2 rfl rfl)
theorem dJ3_pollFirst_27 : decode cJ3_pollFirst 27 = .ok (.arraylength, 1) := dk_190 (dk_at dksJ3_pollFirst_1 3 rfl rfl)
theorem dJ3_pollFirst_28 : decode cJ3_pollFirst 28 = .ok (.invokestatic 74, 3) := dk_184 0 74 (dk_at dksJ3_pollFirst_1 4 rfl rfl)
theorem dJ3_pollFirst_31 : decode cJ3_pollFirst 31 = .ok (.putfield 24, 3) := dk_181 0 24 (dk_at dksJ3_pollFirst_1 7 rfl rfl)
theorem dJ3_pollFirst_34 : decode cJ3_pollFirst 34 = .ok (.aload_n 3, 1) := dk_45 (dk_at dksJ3_pollFirst_1 10 rfl rfl)
theorem dJ3_pollFirst_35 : decode cJ3_pollFirst 35 = .ok (.areturn, 1) := dk_176 (dk_at dksJ3_pollFirst_1 11 rfl rfl)
theorem dJ3_removeFirst_0 : decode cJ3_removeFirst 0 = .ok (.aload_n 0, 1) := dk_42 (dk_at dksJ3_removeFirst_0 0 rfl rfl)
theorem dJ3_removeFirst_1 : decode cJ3_removeFirst 1 = .ok (.invokevirtual 93, 3) := dk_182 0 93 (dk_at dksJ3_removeFirst_0 1 rfl rfl)
theorem dJ3_removeFirst_4 : decode cJ3_removeFirst 4 = .ok (.astore_n 1, 1) := dk_76 (dk_at dksJ3_removeFirst_0 4 rfl rfl)
theorem dJ3_removeFirst_5 : decode cJ3_removeFirst 5 = .ok (.aload_n 1, 1) := dk_43 (dk_at dksJ3_removeFirst_0 5 rfl rfl)
theorem dJ3_removeFirst_6 : decode cJ3_removeFirst 6 = .ok (.ifnonnull 11, 3) := dk_199 0 11 (dk_at dksJ3_removeFirst_0 6 rfl rfl)
theorem dJ3_removeFirst_17 : decode cJ3_removeFirst 17 = .ok (.aload_n 1, 1) := dk_43 (dk_at dksJ3_removeFirst_0 17 rfl rfl)
theorem dJ3_removeFirst_18 : decode cJ3_removeFirst 18 = .ok (.areturn, 1) := dk_176 (dk_at dksJ3_removeFirst_0 18 rfl rfl)
theorem dJ3_pollLast_0 : decode cJ3_pollLast 0 = .ok (.aload_n 0, 1) := dk_42 (dk_at dksJ3_pollLast_0 0 rfl rfl)
theorem dJ3_pollLast_1 : decode cJ3_pollLast 1 = .ok (.getfield 3, 3) := dk_180 0 3 (dk_at dksJ3_pollLast_0 1 rfl rfl)
theorem dJ3_pollLast_4 : decode cJ3_pollLast 4 = .ok (.dup, 1) := dk_89 (dk_at dksJ3_pollLast_0 4 rfl rfl)
theorem dJ3_pollLast_5 : decode cJ3_pollLast 5 = .ok (.astore_n 1, 1) := dk_76 (dk_at dksJ3_pollLast_0 5 rfl rfl)
theorem dJ3_pollLast_6 : decode cJ3_pollLast 6 = .ok (.aload_n 0, 1) := dk_42 (dk_at dksJ3_pollLast_0 6 rfl rfl)
theorem dJ3_pollLast_7 : decode cJ3_pollLast 7 = .ok (.getfield 20, 3) := dk_180 0 20 (dk_at dksJ3_pollLast_0 7 rfl rfl)
theorem dJ3_pollLast_10 : decode cJ3_pollLast 10 = .ok (.aload_n 1, 1) := dk_43 (dk_at dksJ3_pollLast_0 10 rfl rfl)
theorem dJ3_pollLast_11 : decode cJ3_pollLast 11 = .ok (.arraylength, 1) := dk_190 (dk_at dksJ3_pollLast_0 11 rfl rfl)
theorem dJ3_pollLast_12 : decode cJ3_pollLast 12 = .ok (.invokestatic 68, 3) := dk_184 0 68 (dk_at dksJ3_pollLast_0 12 rfl rfl)
theorem dJ3_pollLast_15 : decode cJ3_pollLast 15 = .ok (.dup, 1) := dk_89 (dk_at dksJ3_pollLast_0 15 rfl rfl)
theorem dJ3_pollLast_16 : decode cJ3_pollLast 16 = .ok (.istore_n 2, 1) := dk_61 (dk_at dksJ3_pollLast_0 16 rfl rfl)
theorem dJ3_pollLast_17 : decode cJ3_pollLast 17 = .ok (.invokestatic 103, 3) := dk_184 0 103 (dk_at dksJ3_pollLast_0 17 rfl rfl)
theorem dJ3_pollLast_20 : decode cJ3_pollLast 20 = .ok (.astore_n 3, 1) := dk_78 (dk_at dksJ3_pollLast_0 20 rfl rfl)
theorem dJ3_pollLast_21 : decode cJ3_pollLast 21 = .ok (.aload_n 3, 1) := dk_45 (dk_at dksJ3_pollLast_0 21 rfl rfl)
theorem dJ3_pollLast_22 : decode cJ3_pollLast 22 = .ok (.ifnull 12, 3) := dk_198 0 12 (dk_at dksJ3_pollLast_1 0 rfl rfl)
theorem dJ3_pollLast_25 : decode cJ3_pollLast 25 = .ok (.aload_n 1, 1) := dk_43 (dk_at dksJ3_pollLast_1 3 rfl rfl)
theorem dJ3_pollLast_26 : decode cJ3_pollLast 26 = .ok (.aload_n 0, 1) := dk_42 (dk_at dksJ3_pollLast_1 4 rfl rfl)
theorem dJ3_pollLast_27 : decode cJ3_pollLast 27 = .ok (.iload_n 2, 1) := dk_28 (dk_at dksJ3_pollLast_1 5 rfl rfl)
theorem dJ3_pollLast_28 : decode cJ3_pollLast 28 = .ok (.dup_x1, 1) := dk_90 (dk_at dksJ3_pollLast_1 6 rfl rfl)
theorem dJ3_pollLast_29 : decode cJ3_pollLast 29 = .ok (.putfield 20, 3) := dk_181 0 20 (dk_at dksJ3_pollLast_1 7 rfl rfl)
theorem dJ3_pollLast_32 : decode cJ3_pollLast 32 = .ok (.aconst_null, 1) := dk_1 (dk_at dksJ3_pollLast_1 10 rfl rfl)
theorem dJ3_pollLast_33 : decode cJ3_pollLast 33 = .ok (.aastore, 1) := dk_83 (dk_at dksJ3_pollLast_1 11 rfl rfl)
theorem dJ3_pollLast_34 : decode cJ3_pollLast 34 = .ok (.aload_n 3, 1) := dk_45 (dk_at dksJ3_pollLast_1 12 rfl rfl)
theorem dJ3_pollLast_35 : decode cJ3_pollLast 35 = .ok (.areturn, 1) := dk_176 (dk_at dksJ3_pollLast_1 13 rfl rfl)
theorem dJ3_removeLast_0 : decode cJ3_removeLast 0 = .ok (.aload_n 0, 1) := dk_42 (dk_at dksJ3_removeLast_0 0 rfl rfl)
theorem dJ3_removeLast_1 : decode cJ3_removeLast 1 = .ok (.invokevirtual 100, 3) := dk_182 0 100 (dk_at dksJ3_removeLast_0 1 rfl rfl)
theorem dJ3_removeLast_4 : decode cJ3_removeLast 4 = .ok (.astore_n 1, 1) := dk_76 (dk_at dksJ3_removeLast_0 4 rfl rfl)
theorem dJ3_removeLast_5 : decode cJ3_removeLast 5 = .ok (.aload_n 1, 1) := dk_43 (dk_at dksJ3_removeLast_0 5 rfl rfl)
theorem dJ3_removeLast_6 : decode cJ3_removeLast 6 = .ok (.ifnonnull 11, 3) := dk_199 0 11 (dk_at dksJ3_removeLast_0 6 rfl rfl)
theorem dJ3_removeLast_17 : decode cJ3_removeLast 17 = .ok (.aload_n 1, 1) := dk_43 (dk_at dksJ3_removeLast_0 17 rfl rfl)
theorem dJ3_removeLast_18 : decode cJ3_removeLast 18 = .ok (.areturn, 1) := dk_176 (dk_at dksJ3_removeLast_0 18 rfl rfl)
theorem q188 : (Jvm.Cond.methodLink "java/util/ArrayDeque" (42 : Nat) ({ cls := "java/util/AbstractCollection", name := "<init>", desc := "()V" } : Jvm.MethodName)) ∈ lw_all := lw_g (lw_at lw_m1 126 rfl) rfl
theorem q189 : (Jvm.Cond.constant "java/util/ArrayDeque" (41 : Nat) (2147483647 : Int32)) ∈ lw_all := lw_g (lw_at lw_m1 127 rfl) rfl
theorem q190 : (Jvm.Cond.classLink "java/util/ArrayDeque" (47 : Nat) "java/lang/Object") ∈ lw_all := lw_g (lw_at lw_m1 128 rfl) rfl
theorem q192 : (Jvm.Cond.fieldLink "java/util/ArrayDeque" (3 : Nat) "java/util/ArrayDeque" "elements" "[Ljava/lang/Object;") ∈ lw_all := lw_g (lw_at lw_m1 130 rfl) rfl
theorem q193 : (Jvm.Cond.fieldLink "java/util/ArrayDeque" (24 : Nat) "java/util/ArrayDeque" "head" "I") ∈ lw_all := lw_g (lw_at lw_m1 131 rfl) rfl
theorem q194 : (Jvm.Cond.fieldLink "java/util/ArrayDeque" (20 : Nat) "java/util/ArrayDeque" "tail" "I") ∈ lw_all := lw_g (lw_at lw_m1 132 rfl) rfl
theorem q2069 : (Jvm.Cond.methodLink "java/util/ArrayDeque" (100 : Nat) ({ cls := "java/util/ArrayDeque", name := "pollLast", desc := "()Ljava/lang/Object;" } : Jvm.MethodName)) ∈ lw_all := lw_g (lw_at lw_m9 87 rfl) rfl
theorem q2070 : (Jvm.Cond.instanceMethod ({ cls := "java/util/ArrayDeque", name := "pollLast", desc := "()Ljava/lang/Object;" } : Jvm.MethodName)) ∈ lw_all := lw_g (lw_at lw_m9 88 rfl) rfl
theorem q2071 : (Jvm.Cond.selects "java/util/ArrayDeque" ({ cls := "java/util/ArrayDeque", name := "pollLast", desc := "()Ljava/lang/Object;" } : Jvm.MethodName) ({ cls := "java/util/ArrayDeque", name := "pollLast", desc := "()Ljava/lang/Object;" } : Jvm.MethodName)) ∈ lw_all := lw_g (lw_at lw_m9 89 rfl) rfl
theorem q2072 : (Jvm.Cond.code ({ cls := "java/util/ArrayDeque", name := "pollLast", desc := "()Ljava/lang/Object;" } : Jvm.MethodName) prog_43_method_21_code (4 : Nat) (Option.some (Jvm.ClassFile.FieldType.object "java/lang/Object"))) ∈ lw_all := lw_g (lw_at lw_m9 90 rfl) rfl
theorem q2073 : (Jvm.Cond.methodLink "java/util/ArrayDeque" (68 : Nat) ({ cls := "java/util/ArrayDeque", name := "dec", desc := "(II)I" } : Jvm.MethodName)) ∈ lw_all := lw_g (lw_at lw_m9 91 rfl) rfl
theorem q2074 : (Jvm.Cond.static ({ cls := "java/util/ArrayDeque", name := "dec", desc := "(II)I" } : Jvm.MethodName)) ∈ lw_all := lw_g (lw_at lw_m9 92 rfl) rfl
theorem q2075 : (Jvm.Cond.code ({ cls := "java/util/ArrayDeque", name := "dec", desc := "(II)I" } : Jvm.MethodName) prog_43_method_7_code (2 : Nat) (Option.some Jvm.ClassFile.FieldType.int)) ∈ lw_all := lw_g (lw_at lw_m9 93 rfl) rfl
theorem q69 : (Jvm.Cond.initialized "java/util/ArrayDeque") ∈ lw_all := lw_g (lw_at lw_m1 7 rfl) rfl
theorem q939 : (Jvm.Cond.methodLink "java/util/ArrayDeque" (127 : Nat) ({ cls := "java/util/ArrayDeque", name := "sub", desc := "(III)I" } : Jvm.MethodName)) ∈ lw_all := lw_g (lw_at lw_m4 157 rfl) rfl
theorem q940 : (Jvm.Cond.static ({ cls := "java/util/ArrayDeque", name := "sub", desc := "(III)I" } : Jvm.MethodName)) ∈ lw_all := lw_g (lw_at lw_m4 158 rfl) rfl
theorem q941 : (Jvm.Cond.code ({ cls := "java/util/ArrayDeque", name := "sub", desc := "(III)I" } : Jvm.MethodName) prog_43_method_9_code (3 : Nat) (Option.some Jvm.ClassFile.FieldType.int)) ∈ lw_all := lw_g (lw_at lw_m4 159 rfl) rfl
theorem q946 : (Jvm.Cond.methodLink "java/util/ArrayDeque" (93 : Nat) ({ cls := "java/util/ArrayDeque", name := "pollFirst", desc := "()Ljava/lang/Object;" } : Jvm.MethodName)) ∈ lw_all := lw_g (lw_at lw_m4 164 rfl) rfl
theorem q947 : (Jvm.Cond.instanceMethod ({ cls := "java/util/ArrayDeque", name := "pollFirst", desc := "()Ljava/lang/Object;" } : Jvm.MethodName)) ∈ lw_all := lw_g (lw_at lw_m4 165 rfl) rfl
theorem q948 : (Jvm.Cond.selects "java/util/ArrayDeque" ({ cls := "java/util/ArrayDeque", name := "pollFirst", desc := "()Ljava/lang/Object;" } : Jvm.MethodName) ({ cls := "java/util/ArrayDeque", name := "pollFirst", desc := "()Ljava/lang/Object;" } : Jvm.MethodName)) ∈ lw_all := lw_g (lw_at lw_m4 166 rfl) rfl
theorem q949 : (Jvm.Cond.code ({ cls := "java/util/ArrayDeque", name := "pollFirst", desc := "()Ljava/lang/Object;" } : Jvm.MethodName) prog_43_method_20_code (4 : Nat) (Option.some (Jvm.ClassFile.FieldType.object "java/lang/Object"))) ∈ lw_all := lw_g (lw_at lw_m4 167 rfl) rfl
theorem q950 : (Jvm.Cond.methodLink "java/util/ArrayDeque" (103 : Nat) ({ cls := "java/util/ArrayDeque", name := "elementAt", desc := "([Ljava/lang/Object;I)Ljava/lang/Object;" } : Jvm.MethodName)) ∈ lw_all := lw_g (lw_at lw_m4 168 rfl) rfl
theorem q951 : (Jvm.Cond.static ({ cls := "java/util/ArrayDeque", name := "elementAt", desc := "([Ljava/lang/Object;I)Ljava/lang/Object;" } : Jvm.MethodName)) ∈ lw_all := lw_g (lw_at lw_m4 169 rfl) rfl
theorem q952 : (Jvm.Cond.code ({ cls := "java/util/ArrayDeque", name := "elementAt", desc := "([Ljava/lang/Object;I)Ljava/lang/Object;" } : Jvm.MethodName) prog_43_method_10_code (2 : Nat) (Option.some (Jvm.ClassFile.FieldType.object "java/lang/Object"))) ∈ lw_all := lw_g (lw_at lw_m4 170 rfl) rfl
theorem q953 : (Jvm.Cond.methodLink "java/util/ArrayDeque" (74 : Nat) ({ cls := "java/util/ArrayDeque", name := "inc", desc := "(II)I" } : Jvm.MethodName)) ∈ lw_all := lw_g (lw_at lw_m4 171 rfl) rfl
theorem q954 : (Jvm.Cond.static ({ cls := "java/util/ArrayDeque", name := "inc", desc := "(II)I" } : Jvm.MethodName)) ∈ lw_all := lw_g (lw_at lw_m4 172 rfl) rfl
theorem q955 : (Jvm.Cond.code ({ cls := "java/util/ArrayDeque", name := "inc", desc := "(II)I" } : Jvm.MethodName) prog_43_method_6_code (2 : Nat) (Option.some Jvm.ClassFile.FieldType.int)) ∈ lw_all := lw_g (lw_at lw_m4 173 rfl) rfl
/-- an ArrayDeque of ten places at a, its array at e: xs, the first first -/
def dAt (h : zH) (a e : Nat) (xs : List Nat) : Prop := ∃ (hd : Nat) (f : Nat → Value), hd < 10 ∧ xs.length ≤ 9 ∧ h a = some (true, .inr (11, [.ref e, .int (iI ((hd : Nat) : Int)), .int (iI (((hd + xs.length) % 10 : Nat) : Int))])) ∧ h e = some (true, .inl (.object "java/lang/Object", 10, f)) ∧ ∀ (j q : Nat), xs[j]? = some q → f ((hd + j) % 10) = .ref q
theorem dAt.mk {h : zH} {a e hd : Nat} {xs : List Nat} {u v : Int} {f : Nat → Value} (h0 : hd < 10) (hl : xs.length ≤ 9) (hu : u = ((hd : Nat) : Int)) (hv : v = (((hd + xs.length) % 10 : Nat) : Int)) (h1 : h a = some (true, .inr (11, [.ref e, .int (iI u), .int (iI v)]))) (h2 : h e = some (true, .inl (.object "java/lang/Object", 10, f))) (h3 : ∀ (j q : Nat), xs[j]? = some q → f ((hd + j) % 10) = .ref q) : dAt h a e xs := by
  subst hu hv
  exact ⟨hd, f, h0, hl, h1, h2, h3⟩
theorem dAt.keep {h h' : zH} {a e : Nat} {xs S : List Nat} (k : zkeep h h' S) (hd : dAt h a e xs) (h1 : a ∉ S) (h2 : e ∉ S) : dAt h' a e xs := by
  obtain ⟨i, f, g1, g2, g3, g4, g5⟩ := hd
  exact ⟨i, f, g1, g2, k.n g3 h1, k.n g4 h2, g5⟩
theorem dx_add {xs : List Nat} {f : Nat → Value} {hd q : Nat} (h0 : hd < 10) (hl : xs.length ≤ 8) (h3 : ∀ (j q : Nat), xs[j]? = some q → f ((hd + j) % 10) = .ref q) : ∀ (j p : Nat), (xs ++ [q])[j]? = some p → updV f ((hd + xs.length) % 10) (.ref q) ((hd + j) % 10) = .ref p := by
  intro j p e
  have hj := (List.getElem?_eq_some_iff.mp e).1
  simp at hj
  rcases Nat.lt_or_ge j xs.length with g | g
  · rw [List.getElem?_append_left g] at e
    simp only [updV, if_neg (show ¬ (hd + j) % 10 = (hd + xs.length) % 10 by omega)]
    exact h3 j p e
  · have e2 : j = xs.length := by omega
    subst e2
    rw [List.getElem?_append_right (Nat.le_refl _), Nat.sub_self] at e
    simp only [updV, if_pos]
    cases e
    rfl
theorem dx_first {xs : List Nat} {f : Nat → Value} {hd q : Nat} (h0 : hd < 10) (hl : (q :: xs).length ≤ 9) (h3 : ∀ (j p : Nat), (q :: xs)[j]? = some p → f ((hd + j) % 10) = .ref p) : ∀ (j p : Nat), xs[j]? = some p → updV f hd .null (((hd + 1) % 10 + j) % 10) = .ref p := by
  intro j p e
  have hj := (List.getElem?_eq_some_iff.mp e).1
  simp at hl
  simp only [updV, if_neg (show ¬ ((hd + 1) % 10 + j) % 10 = hd by omega)]
  rw [show ((hd + 1) % 10 + j) % 10 = (hd + (j + 1)) % 10 by omega]
  exact h3 (j + 1) p (by rw [List.getElem?_cons_succ]; exact e)
theorem dx_last {xs : List Nat} {f : Nat → Value} {hd q k : Nat} (h0 : hd < 10) (hl : (xs ++ [q]).length ≤ 9) (h3 : ∀ (j p : Nat), (xs ++ [q])[j]? = some p → f ((hd + j) % 10) = .ref p) (hk : k = (hd + xs.length) % 10) : ∀ (j p : Nat), xs[j]? = some p → updV f k .null ((hd + j) % 10) = .ref p := by
  intro j p e
  have hj := (List.getElem?_eq_some_iff.mp e).1
  simp at hl
  simp only [updV, if_neg (show ¬ (hd + j) % 10 = k by omega)]
  exact h3 j p (by rw [List.getElem?_append_left hj]; exact e)
set_option maxHeartbeats 4000000 in
theorem ct_D_sub {l : Launch} (hl : l.stackTraces = false) {Γ : zCx} {h : zH} {i j m : Int} (hi : 0 ≤ i ∧ i < m) (hj : 0 ≤ j ∧ j < m) (hm : m ≤ 1000) : zMet l yJ3_sub (ws_ yJ3_sub cJ3_sub 3 (some .int)) ({ frames := 0, cells := 0, slots := 0, locals := 0 }) Γ h [.int (iI i), .int (iI j), .int (iI m)] (zpure h (some (.int (iI (if i - j < 0 then i - j + m else i - j))))) 0 0 := by
  refine zMet.of (cc := cJ3_sub) hl (plainFor_of_name (by decide +kernel)) (Nat.le_of_ble_eq_true rfl) ?_
  intro X hXl hXΓ hXp C hnm hnL
  have C : zC X cJ3_sub RJ3 (some .int) 0 0 [] := C
  have hnL : X.2.1.2.2.2.2 = 3 := hnL
  subst hXl hXΓ
  show Z X h 0 0 [(0, .int (iI i)), (1, .int (iI j)), (2, .int (iI m))] 0 []
  refine z_iload_n (pc := 0) (j := 0) C dJ3_sub_0 rfl rfl ?_
  refine z_iload_n (pc := 1) (j := 1) C dJ3_sub_1 rfl rfl ?_
  refine z_isub (pc := 2) C dJ3_sub_2 ?_
  refine z_dup (pc := 3) C dJ3_sub_3 rfl ?_
  refine z_istore_n (pc := 4) (L' := [(0, .int (iI (i - j))), (1, .int (iI j)), (2, .int (iI m))]) C dJ3_sub_4 rfl (by rw [hnL]; decide) rfl ?_
  refine z_if_ge (pc := 5) (tgt := 12) C dJ3_sub_5 (by decide) (by omega) (fun c5 => ?_) (fun c5 => ?_)
  · refine z_iload_n (pc := 12) (j := 0) C dJ3_sub_12 rfl rfl ?_
    exact z_ireturn (pc := 13) C (by rw [hXp]; exact zpure_i (by split <;> omega) rfl) dJ3_sub_13
  · refine z_iload_n (pc := 8) (j := 0) C dJ3_sub_8 rfl rfl ?_
    refine z_iload_n (pc := 9) (j := 2) C dJ3_sub_9 rfl rfl ?_
    refine z_iadd (pc := 10) C dJ3_sub_10 ?_
    refine z_istore_n (pc := 11) (L' := [(0, .int (iI ((i - j) + m))), (1, .int (iI j)), (2, .int (iI m))]) C dJ3_sub_11 rfl (by rw [hnL]; decide) rfl ?_
    refine z_iload_n (pc := 12) (j := 0) C dJ3_sub_12 rfl rfl ?_
    exact z_ireturn (pc := 13) C (by rw [hXp]; exact zpure_i (by split <;> omega) rfl) dJ3_sub_13
set_option maxHeartbeats 4000000 in
theorem ct_D_inc {l : Launch} (hl : l.stackTraces = false) {Γ : zCx} {h : zH} {i m : Int} (hi : 0 ≤ i ∧ i < m) (hm : m ≤ 1000) : zMet l yJ3_inc (ws_ yJ3_inc cJ3_inc 2 (some .int)) ({ frames := 0, cells := 0, slots := 0, locals := 0 }) Γ h [.int (iI i), .int (iI m)] (zpure h (some (.int (iI (if i + 1 < m then i + 1 else 0))))) 0 0 := by
  refine zMet.of (cc := cJ3_inc) hl (plainFor_of_name (by decide +kernel)) (Nat.le_of_ble_eq_true rfl) ?_
  intro X hXl hXΓ hXp C hnm hnL
  have C : zC X cJ3_inc RJ3 (some .int) 0 0 [] := C
  have hnL : X.2.1.2.2.2.2 = 2 := hnL
  subst hXl hXΓ
  show Z X h 0 0 [(0, .int (iI i)), (1, .int (iI m))] 0 []
  refine z_iinc (pc := 0) (k := 0) (L' := [(0, .int (iI (i + 1))), (1, .int (iI m))]) C dJ3_inc_0 rfl (by rw [hnL]; decide) rfl ?_
  refine z_iload_n (pc := 3) (j := 0) C dJ3_inc_3 rfl rfl ?_
  refine z_iload_n (pc := 4) (j := 1) C dJ3_inc_4 rfl rfl ?_
  refine z_icmp_lt (pc := 5) (tgt := 10) C dJ3_inc_5 (by decide) (by omega) (by omega) (fun c5 => ?_) (fun c5 => ?_)
  · refine z_iload_n (pc := 10) (j := 0) C dJ3_inc_10 rfl rfl ?_
    exact z_ireturn (pc := 11) C (by rw [hXp]; exact zpure_i (by split <;> omega) rfl) dJ3_inc_11
  · refine z_iconst (pc := 8) C dJ3_inc_8 ?_
    refine z_istore_n (pc := 9) (L' := [(0, .int (iI 0)), (1, .int (iI m))]) C dJ3_inc_9 rfl (by rw [hnL]; decide) rfl ?_
    refine z_iload_n (pc := 10) (j := 0) C dJ3_inc_10 rfl rfl ?_
    exact z_ireturn (pc := 11) C (by rw [hXp]; exact zpure_i (by split <;> omega) rfl) dJ3_inc_11
set_option maxHeartbeats 4000000 in
theorem ct_D_dec {l : Launch} (hl : l.stackTraces = false) {Γ : zCx} {h : zH} {i m : Int} (hi : 0 ≤ i ∧ i < m) (hm : m ≤ 1000) : zMet l yJ3_dec (ws_ yJ3_dec cJ3_dec 2 (some .int)) ({ frames := 0, cells := 0, slots := 0, locals := 0 }) Γ h [.int (iI i), .int (iI m)] (zpure h (some (.int (iI (if i + (-1) < 0 then m - 1 else i + (-1)))))) 0 0 := by
  refine zMet.of (cc := cJ3_dec) hl (plainFor_of_name (by decide +kernel)) (Nat.le_of_ble_eq_true rfl) ?_
  intro X hXl hXΓ hXp C hnm hnL
  have C : zC X cJ3_dec RJ3 (some .int) 0 0 [] := C
  have hnL : X.2.1.2.2.2.2 = 2 := hnL
  subst hXl hXΓ
  show Z X h 0 0 [(0, .int (iI i)), (1, .int (iI m))] 0 []
  refine z_iinc (pc := 0) (k := 0) (L' := [(0, .int (iI (i + (-1)))), (1, .int (iI m))]) C dJ3_dec_0 rfl (by rw [hnL]; decide) rfl ?_
  refine z_iload_n (pc := 3) (j := 0) C dJ3_dec_3 rfl rfl ?_
  refine z_if_ge (pc := 4) (tgt := 11) C dJ3_dec_4 (by decide) (by omega) (fun c4 => ?_) (fun c4 => ?_)
  · refine z_iload_n (pc := 11) (j := 0) C dJ3_dec_11 rfl rfl ?_
    exact z_ireturn (pc := 12) C (by rw [hXp]; exact zpure_i (by split <;> omega) rfl) dJ3_dec_12
  · refine z_iload_n (pc := 7) (j := 1) C dJ3_dec_7 rfl rfl ?_
    refine z_iconst (pc := 8) C dJ3_dec_8 ?_
    refine z_isub (pc := 9) C dJ3_dec_9 ?_
    refine z_istore_n (pc := 10) (L' := [(0, .int (iI (m - 1))), (1, .int (iI m))]) C dJ3_dec_10 rfl (by rw [hnL]; decide) rfl ?_
    refine z_iload_n (pc := 11) (j := 0) C dJ3_dec_11 rfl rfl ?_
    exact z_ireturn (pc := 12) C (by rw [hXp]; exact zpure_i (by split <;> omega) rfl) dJ3_dec_12
set_option maxHeartbeats 4000000 in
theorem ct_D_elem {l : Launch} (hl : l.stackTraces = false) {Γ : zCx} {h : zH} {e n : Nat} {fl : Bool} {f : Nat → Value} (he : h e = some (fl, .inl (.object "java/lang/Object", n, f))) {i : Int} (hi : 0 ≤ i ∧ i < n ∧ i ≤ 1000) {q : Nat} (hq : f i.toNat = .ref q) : zMet l yJ3_elementAt (ws_ yJ3_elementAt cJ3_elementAt 2 (some (.object "java/lang/Object"))) ({ frames := 0, cells := 0, slots := 0, locals := 0 }) Γ h [.ref e, .int (iI i)] (zpure h (some (.ref q))) 0 0 := by
  refine zMet.of (cc := cJ3_elementAt) hl (plainFor_of_name (by decide +kernel)) (Nat.le_of_ble_eq_true rfl) ?_
  intro X hXl hXΓ hXp C hnm hnL
  have C : zC X cJ3_elementAt RJ3 (some (.object "java/lang/Object")) 0 0 [] := C
  have hnL : X.2.1.2.2.2.2 = 2 := hnL
  subst hXl hXΓ
  show Z X h 0 0 [(0, .ref e), (1, .int (iI i))] 0 []
  refine z_aload_n (pc := 0) (j := 0) C dJ3_elementAt_0 rfl rfl ?_
  refine z_iload_n (pc := 1) (j := 1) C dJ3_elementAt_1 rfl rfl ?_
  refine z_aaload (pc := 2) (v := .ref q) C he (by omega) hq dJ3_elementAt_2 ?_
  exact z_areturn (pc := 3) C (Or.inl ⟨_, rfl⟩) (Or.inr ⟨_, rfl⟩) (by rw [hXp]; exact zpure_v rfl rfl) dJ3_elementAt_3
set_option maxHeartbeats 4000000 in
theorem ct_D_init {l : Launch} (hl : l.stackTraces = false) {Γ : zCx} {h : zH} {a : Nat} (ha : h a = some (true, .inr (11, [.null, .int (iI 0), .int (iI 0)]))) : zMet l yJ3_init (ws_ yJ3_init cJ3_init 2 none) ({ frames := 2, cells := 1, slots := 10, locals := 32 }) Γ h [.ref a, .int (iI 9)] (zrt (fun w h' => w = none ∧ ∃ e, dAt h' a e [] ∧ h e = none ∧ zkeep h h' [a])) 1 10 := by
  refine zMet.of (cc := cJ3_init) hl (plainFor_of_name (by decide +kernel)) (Nat.le_of_ble_eq_true rfl) ?_
  intro X hXl hXΓ hXp C hnm hnL
  have C : zC X cJ3_init RJ3 none 2 32 [] := C
  have hnL : X.2.1.2.2.2.2 = 2 := hnL
  subst hXl hXΓ
  show Z X h 1 10 [(0, .ref a), (1, .int (iI 9))] 0 []
  refine z_aload_n (pc := 0) (j := 0) C dJ3_init_0 rfl rfl ?_
  refine z_callI (pc := 1) (n := 0) (kc' := 1) (ks' := 10) C (ct_AC_init C.t (a := a)) q149 q66 q188 q148 rfl (by decide +kernel) ⟨by decide, by decide⟩ rfl rfl (Nat.le_of_ble_eq_true rfl) dJ3_init_1 (by omega) (by omega) (zpk (st' := []) rfl ?_) zrx
  refine z_aload_n (pc := 4) (j := 0) C dJ3_init_4 rfl rfl ?_
  refine z_iload_n (pc := 5) (j := 1) C dJ3_init_5 rfl rfl ?_
  refine z_iconst (pc := 6) C dJ3_init_6 ?_
  refine z_icmp_ge (pc := 7) (tgt := 14) C dJ3_init_7 (by decide) (by decide) (by decide) (fun _ => ?_) (fun z => absurd z (by decide))
  refine z_iload_n (pc := 14) (j := 1) C dJ3_init_14 rfl rfl ?_
  refine z_ldc (pc := 15) (v := iI 2147483647) C q189 dJ3_init_15 ?_
  refine z_icmp_ne (pc := 17) (tgt := 25) C dJ3_init_17 (by decide) (by decide) (by decide) (fun _ => ?_) (fun z => absurd z (by decide))
  refine z_iload_n (pc := 25) (j := 1) C dJ3_init_25 rfl rfl ?_
  refine z_iconst (pc := 26) C dJ3_init_26 ?_
  refine z_iadd (pc := 27) C dJ3_init_27 ?_
  rw [show (9 : Int) + 1 = 10 from rfl]
  show Z X h 1 10 [(0, .ref a), (1, .int (iI 9))] 28 [.int (iI 10), .ref a]
  refine z_anewarray (pc := 28) (kc' := 0) (ks' := 0) C q190 q191 (by omega) (by omega) (by omega) dJ3_init_28 (fun a1 fa1 => ?_)
  refine Z.nm (fun h2 eh2 => ?_)
  have na1 : h a1 = none := fa1
  have kh2 : zkeep h h2 [a] := by rw [eh2]; exact zkeep.born zkeep.rf fa1
  have fh2_0 : h2 a1 = some (true, .inl ((.object "java/lang/Object"), 10, fun _ => .null)) := zse eh2
  have fh2_1 : h2 a = some (true, .inr (11, [.null, .int (iI 0), .int (iI 0)])) := zsn eh2 ha (zneF ha fa1)
  refine z_putfield (pc := 31) (fs' := [.ref a1, .int (iI 0), .int (iI 0)]) C in_J3 tyJ3 tyJ3_ok nmJ3 rfl 0 (by decide) q192 (fun _ z => z) rfl rfl rfl (Nat.le_of_ble_eq_true rfl) fh2_1 rfl dJ3_init_31 ?_
  refine Z.nm (fun h3 eh3 => ?_)
  have kh3 : zkeep h h3 [a] := by rw [eh3]; exact zkeep.up kh2 (Or.inl (by simp)) fh2_1
  have fh3_0 : h3 a = some (true, .inr (11, [.ref a1, .int (iI 0), .int (iI 0)])) := zse eh3
  have fh3_1 : h3 a1 = some (true, .inl ((.object "java/lang/Object"), 10, fun _ => .null)) := zsn eh3 fh2_0 (Ne.symm (zneF ha fa1))
  exact z_return (pc := 34) C (by rw [hXp]; exact ⟨_, rfl, rfl, a1, dAt.mk (hd := 0) (xs := []) (by decide) (by decide) rfl rfl fh3_0 fh3_1 (fun j q e => by simp at e), na1, kh3⟩) dJ3_init_34
set_option maxHeartbeats 4000000 in
theorem ct_D_size {l : Launch} (hl : l.stackTraces = false) {Γ : zCx} {h : zH} {a e : Nat} {xs : List Nat} (hd0 : dAt h a e xs)  : zMet l yJ3_size (ws_ yJ3_size cJ3_size 1 (some .int)) ({ frames := 1, cells := 0, slots := 0, locals := 22 }) Γ h [.ref a] (zpure h (some (.int (iI ((xs.length : Nat) : Int))))) 0 0 := by
  refine zMet.of (cc := cJ3_size) hl (plainFor_of_name (by decide +kernel)) (Nat.le_of_ble_eq_true rfl) ?_
  intro X hXl hXΓ hXp C hnm hnL
  have C : zC X cJ3_size RJ3 (some .int) 1 22 [] := C
  have hnL : X.2.1.2.2.2.2 = 1 := hnL
  subst hXl hXΓ
  show Z X h 0 0 [(0, .ref a)] 0 []
  obtain ⟨hd, f, d0, dl, da, de, dx⟩ := hd0
  refine z_aload_n (pc := 0) (j := 0) C dJ3_size_0 rfl rfl ?_
  refine z_getfield (pc := 1) (v := .int (iI (((hd + xs.length) % 10 : Nat) : Int))) C in_J3 rfl 2 (by decide) q194 (fun _ z => z) da rfl dJ3_size_1 ?_
  refine z_aload_n (pc := 4) (j := 0) C dJ3_size_4 rfl rfl ?_
  refine z_getfield (pc := 5) (v := .int (iI ((hd : Nat) : Int))) C in_J3 rfl 1 (by decide) q193 (fun _ z => z) da rfl dJ3_size_5 ?_
  refine z_aload_n (pc := 8) (j := 0) C dJ3_size_8 rfl rfl ?_
  refine z_getfield (pc := 9) (v := .ref e) C in_J3 rfl 0 (by decide) q192 (fun _ z => z) da rfl dJ3_size_9 ?_
  refine z_alen (pc := 12) C de dJ3_size_12 ?_
  refine z_callS (pc := 13) (n := 3) (kc' := 0) (ks' := 0) C (ct_D_sub C.t (i := (((hd + xs.length) % 10 : Nat) : Int)) (j := ((hd : Nat) : Int)) (m := 10) (by omega) (by omega) (by omega)) (lw_S q939 q940 q69 q941) (by decide +kernel) ⟨by decide, by decide⟩ rfl rfl (Nat.le_of_ble_eq_true rfl) dJ3_size_13 (by omega) (by omega) (zpk (st' := [.int (iI (if (((hd + xs.length) % 10 : Nat) : Int) - ((hd : Nat) : Int) < 0 then (((hd + xs.length) % 10 : Nat) : Int) - ((hd : Nat) : Int) + 10 else (((hd + xs.length) % 10 : Nat) : Int) - ((hd : Nat) : Int)))]) rfl ?_) zrx
  exact z_ireturn (pc := 16) C (by rw [hXp]; exact zpure_i (by split <;> omega) rfl) dJ3_size_16
set_option maxHeartbeats 4000000 in
theorem ct_D_isEmpty {l : Launch} (hl : l.stackTraces = false) {Γ : zCx} {h : zH} {a e : Nat} {xs : List Nat} (hd0 : dAt h a e xs)  : zMet l yJ3_isEmpty (ws_ yJ3_isEmpty cJ3_isEmpty 1 (some .boolean)) ({ frames := 0, cells := 0, slots := 0, locals := 0 }) Γ h [.ref a] (zpure h (some (.int (iI (if xs.length = 0 then 1 else 0))))) 0 0 := by
  refine zMet.of (cc := cJ3_isEmpty) hl (plainFor_of_name (by decide +kernel)) (Nat.le_of_ble_eq_true rfl) ?_
  intro X hXl hXΓ hXp C hnm hnL
  have C : zC X cJ3_isEmpty RJ3 (some .boolean) 0 0 [] := C
  have hnL : X.2.1.2.2.2.2 = 1 := hnL
  subst hXl hXΓ
  show Z X h 0 0 [(0, .ref a)] 0 []
  obtain ⟨hd, f, d0, dl, da, de, dx⟩ := hd0
  refine z_aload_n (pc := 0) (j := 0) C dJ3_isEmpty_0 rfl rfl ?_
  refine z_getfield (pc := 1) (v := .int (iI ((hd : Nat) : Int))) C in_J3 rfl 1 (by decide) q193 (fun _ z => z) da rfl dJ3_isEmpty_1 ?_
  refine z_aload_n (pc := 4) (j := 0) C dJ3_isEmpty_4 rfl rfl ?_
  refine z_getfield (pc := 5) (v := .int (iI (((hd + xs.length) % 10 : Nat) : Int))) C in_J3 rfl 2 (by decide) q194 (fun _ z => z) da rfl dJ3_isEmpty_5 ?_
  refine z_icmp_ne (pc := 8) (tgt := 15) C dJ3_isEmpty_8 (by decide) (by omega) (by omega) (fun c8 => ?_) (fun c8 => ?_)
  · refine z_iconst (pc := 15) C dJ3_isEmpty_15 ?_
    exact z_zreturn (pc := 16) C (by decide) (by rw [hXp]; exact zpure_i (by split <;> omega) rfl) dJ3_isEmpty_16
  · refine z_iconst (pc := 11) C dJ3_isEmpty_11 ?_
    refine z_goto (pc := 12) (tgt := 16) C dJ3_isEmpty_12 (by decide) ?_
    exact z_zreturn (pc := 16) C (by decide) (by rw [hXp]; exact zpure_i (by split <;> omega) rfl) dJ3_isEmpty_16
set_option maxHeartbeats 4000000 in
theorem ct_D_addLast {l : Launch} (hl : l.stackTraces = false) {Γ : zCx} {h : zH} {a e : Nat} {xs : List Nat} (hd0 : dAt h a e xs) {q ci : Nat} {fq : Bool} {qs : List Value} {r : vw_C} (hq : h q = some (fq, .inr (ci, qs))) (hr : zcl[ci]? = some r) (hc : Cond.castable r.1 "java/lang/Object" ∈ lw_tbl) (hl8 : xs.length ≤ 8) : zMet l yJ3_addLast (ws_ yJ3_addLast cJ3_addLast 3 none) ({ frames := 1, cells := 0, slots := 0, locals := 21 }) Γ h [.ref a, .ref q] (zrt (fun w h' => w = none ∧ dAt h' a e (xs ++ [q]) ∧ zkeep h h' [a, e])) 0 0 := by
  refine zMet.of (cc := cJ3_addLast) hl (plainFor_of_name (by decide +kernel)) (Nat.le_of_ble_eq_true rfl) ?_
  intro X hXl hXΓ hXp C hnm hnL
  have C : zC X cJ3_addLast RJ3 none 1 21 [] := C
  have hnL : X.2.1.2.2.2.2 = 3 := hnL
  subst hXl hXΓ
  show Z X h 0 0 [(0, .ref a), (1, .ref q)] 0 []
  obtain ⟨hd, f, d0, dl, da, de, dx⟩ := hd0
  refine z_aload_n (pc := 0) (j := 1) C dJ3_addLast_0 rfl rfl ?_
  refine z_ifnonnull (pc := 1) (tgt := 12) C dJ3_addLast_1 (by decide) ?_
  refine z_aload_n (pc := 12) (j := 0) C dJ3_addLast_12 rfl rfl ?_
  refine z_getfield (pc := 13) (v := .ref e) C in_J3 rfl 0 (by decide) q192 (fun _ z => z) da rfl dJ3_addLast_13 ?_
  refine z_astore_n (pc := 16) (L' := [(2, .ref e), (0, .ref a), (1, .ref q)]) C dJ3_addLast_16 rfl (by rw [hnL]; decide) rfl ?_
  refine z_aload_n (pc := 17) (j := 0) C dJ3_addLast_17 rfl rfl ?_
  refine z_aload_n (pc := 18) (j := 1) C dJ3_addLast_18 rfl rfl ?_
  refine z_getfield (pc := 19) (v := .int (iI (((hd + xs.length) % 10 : Nat) : Int))) C in_J3 rfl 2 (by decide) q194 (fun _ z => z) da rfl dJ3_addLast_19 ?_
  refine z_aload_n (pc := 22) (j := 2) C dJ3_addLast_22 rfl rfl ?_
  refine z_aastore (pc := 23) (f' := updV f (Int.toNat (((hd + xs.length) % 10 : Nat) : Int)) (.ref q)) C hr (Or.inr hc) hq de (by omega) rfl dJ3_addLast_23 ?_
  refine Z.nm (fun h1 eh1 => ?_)
  have kh1 : zkeep h h1 [a, e] := by rw [eh1]; exact zkeep.up zkeep.rf (Or.inl (by simp)) de
  have fh1_0 : h1 e = some (true, .inl ((.object "java/lang/Object"), 10, updV f (Int.toNat (((hd + xs.length) % 10 : Nat) : Int)) (.ref q))) := zse eh1
  have fh1_1 : h1 a = some (true, .inr (11, [.ref e, .int (iI ((hd : Nat) : Int)), .int (iI (((hd + xs.length) % 10 : Nat) : Int))])) := zsn eh1 da (zneA da de)
  refine z_aload_n (pc := 24) (j := 1) C dJ3_addLast_24 rfl rfl ?_
  refine z_getfield (pc := 25) (v := .int (iI ((hd : Nat) : Int))) C in_J3 rfl 1 (by decide) q193 (fun _ z => z) fh1_1 rfl dJ3_addLast_25 ?_
  refine z_aload_n (pc := 28) (j := 1) C dJ3_addLast_28 rfl rfl ?_
  refine z_aload_n (pc := 29) (j := 1) C dJ3_addLast_29 rfl rfl ?_
  refine z_getfield (pc := 30) (v := .int (iI (((hd + xs.length) % 10 : Nat) : Int))) C in_J3 rfl 2 (by decide) q194 (fun _ z => z) fh1_1 rfl dJ3_addLast_30 ?_
  refine z_aload_n (pc := 33) (j := 0) C dJ3_addLast_33 rfl rfl ?_
  refine z_alen (pc := 34) C fh1_0 dJ3_addLast_34 ?_
  refine z_callS (pc := 35) (n := 2) (kc' := 0) (ks' := 0) C (ct_D_inc C.t (i := (((hd + xs.length) % 10 : Nat) : Int)) (m := 10) (by omega) (by omega)) (lw_S q953 q954 q69 q955) (by decide +kernel) ⟨by decide, by decide⟩ rfl rfl (Nat.le_of_ble_eq_true rfl) dJ3_addLast_35 (by omega) (by omega) (zpk (st' := [.int (iI (if (((hd + xs.length) % 10 : Nat) : Int) + 1 < 10 then (((hd + xs.length) % 10 : Nat) : Int) + 1 else 0)), .ref a, .int (iI ((hd : Nat) : Int))]) rfl ?_) zrx
  refine z_dup_x1 (pc := 38) C dJ3_addLast_38 rfl rfl ?_
  refine z_putfield (pc := 39) (fs' := [.ref e, .int (iI ((hd : Nat) : Int)), .int (iI (if (((hd + xs.length) % 10 : Nat) : Int) + 1 < 10 then (((hd + xs.length) % 10 : Nat) : Int) + 1 else 0))]) C in_J3 tyJ3 tyJ3_ok nmJ3 rfl 2 (by decide) q194 (fun _ z => z) rfl rfl rfl (Nat.le_of_ble_eq_true rfl) fh1_1 rfl dJ3_addLast_39 ?_
  refine Z.nm (fun h2 eh2 => ?_)
  have kh2 : zkeep h h2 [a, e] := by rw [eh2]; exact zkeep.up kh1 (Or.inl (by simp)) fh1_1
  have fh2_0 : h2 a = some (true, .inr (11, [.ref e, .int (iI ((hd : Nat) : Int)), .int (iI (if (((hd + xs.length) % 10 : Nat) : Int) + 1 < 10 then (((hd + xs.length) % 10 : Nat) : Int) + 1 else 0))])) := zse eh2
  have fh2_1 : h2 e = some (true, .inl ((.object "java/lang/Object"), 10, updV f (Int.toNat (((hd + xs.length) % 10 : Nat) : Int)) (.ref q))) := zsn eh2 fh1_0 (Ne.symm (zneA fh1_1 fh1_0))
  refine z_icmp_ne (pc := 42) (tgt := 50) C dJ3_addLast_42 (by decide) (by omega) (by omega) (fun c42 => ?_) (fun c42 => by exfalso; split at c42 <;> omega)
  exact z_return (pc := 50) C (by rw [hXp]; exact ⟨_, rfl, rfl, dAt.mk d0 (by simp; omega) rfl (by simp; split <;> omega) fh2_0 fh2_1 (dx_add d0 hl8 dx), kh2⟩) dJ3_addLast_50
set_option maxHeartbeats 4000000 in
theorem ct_D_pollFirst {l : Launch} (hl : l.stackTraces = false) {Γ : zCx} {h : zH} {a e : Nat} {xs : List Nat} {q : Nat} (hd0 : dAt h a e (q :: xs))  : zMet l yJ3_pollFirst (ws_ yJ3_pollFirst cJ3_pollFirst 4 (some (.object "java/lang/Object"))) ({ frames := 1, cells := 0, slots := 0, locals := 21 }) Γ h [.ref a] (zrt (fun w h' => w = some (.ref q) ∧ dAt h' a e xs ∧ zkeep h h' [a, e])) 0 0 := by
  refine zMet.of (cc := cJ3_pollFirst) hl (plainFor_of_name (by decide +kernel)) (Nat.le_of_ble_eq_true rfl) ?_
  intro X hXl hXΓ hXp C hnm hnL
  have C : zC X cJ3_pollFirst RJ3 (some (.object "java/lang/Object")) 1 21 [] := C
  have hnL : X.2.1.2.2.2.2 = 4 := hnL
  subst hXl hXΓ
  show Z X h 0 0 [(0, .ref a)] 0 []
  obtain ⟨hd, f, d0, dl, da, de, dx⟩ := hd0
  refine z_aload_n (pc := 0) (j := 0) C dJ3_pollFirst_0 rfl rfl ?_
  refine z_getfield (pc := 1) (v := .ref e) C in_J3 rfl 0 (by decide) q192 (fun _ z => z) da rfl dJ3_pollFirst_1 ?_
  refine z_dup (pc := 4) C dJ3_pollFirst_4 rfl ?_
  refine z_astore_n (pc := 5) (L' := [(1, .ref e), (0, .ref a)]) C dJ3_pollFirst_5 rfl (by rw [hnL]; decide) rfl ?_
  refine z_aload_n (pc := 6) (j := 1) C dJ3_pollFirst_6 rfl rfl ?_
  refine z_getfield (pc := 7) (v := .int (iI ((hd : Nat) : Int))) C in_J3 rfl 1 (by decide) q193 (fun _ z => z) da rfl dJ3_pollFirst_7 ?_
  refine z_dup (pc := 10) C dJ3_pollFirst_10 rfl ?_
  refine z_istore_n (pc := 11) (L' := [(2, .int (iI ((hd : Nat) : Int))), (1, .ref e), (0, .ref a)]) C dJ3_pollFirst_11 rfl (by rw [hnL]; decide) rfl ?_
  refine z_callS (pc := 12) (n := 2) (kc' := 0) (ks' := 0) C (ct_D_elem C.t de (i := ((hd : Nat) : Int)) (by omega) (by have := dx 0 q rfl; rw [Nat.add_zero, Nat.mod_eq_of_lt d0] at this; simpa using this)) (lw_S q950 q951 q69 q952) (by decide +kernel) ⟨by decide, by decide⟩ rfl rfl (Nat.le_of_ble_eq_true rfl) dJ3_pollFirst_12 (by omega) (by omega) (zpk (st' := [.ref q]) rfl ?_) zrx
  refine z_astore_n (pc := 15) (L' := [(3, .ref q), (2, .int (iI ((hd : Nat) : Int))), (1, .ref e), (0, .ref a)]) C dJ3_pollFirst_15 rfl (by rw [hnL]; decide) rfl ?_
  refine z_aload_n (pc := 16) (j := 0) C dJ3_pollFirst_16 rfl rfl ?_
  refine z_ifnull (pc := 17) C dJ3_pollFirst_17 ?_
  refine z_aload_n (pc := 20) (j := 2) C dJ3_pollFirst_20 rfl rfl ?_
  refine z_iload_n (pc := 21) (j := 1) C dJ3_pollFirst_21 rfl rfl ?_
  refine z_null (pc := 22) C dJ3_pollFirst_22 ?_
  refine z_aastoreN (pc := 23) (f' := updV f (Int.toNat ((hd : Nat) : Int)) (.null)) C de (by omega) rfl dJ3_pollFirst_23 ?_
  refine Z.nm (fun h1 eh1 => ?_)
  have kh1 : zkeep h h1 [a, e] := by rw [eh1]; exact zkeep.up zkeep.rf (Or.inl (by simp)) de
  have fh1_0 : h1 e = some (true, .inl ((.object "java/lang/Object"), 10, updV f (Int.toNat ((hd : Nat) : Int)) (.null))) := zse eh1
  have fh1_1 : h1 a = some (true, .inr (11, [.ref e, .int (iI ((hd : Nat) : Int)), .int (iI (((hd + (q :: xs).length) % 10 : Nat) : Int))])) := zsn eh1 da (zneA da de)
  refine z_aload_n (pc := 24) (j := 3) C dJ3_pollFirst_24 rfl rfl ?_
  refine z_iload_n (pc := 25) (j := 1) C dJ3_pollFirst_25 rfl rfl ?_
  refine z_aload_n (pc := 26) (j := 2) C dJ3_pollFirst_26 rfl rfl ?_
  refine z_alen (pc := 27) C fh1_0 dJ3_pollFirst_27 ?_
  refine z_callS (pc := 28) (n := 2) (kc' := 0) (ks' := 0) C (ct_D_inc C.t (i := ((hd : Nat) : Int)) (m := 10) (by omega) (by omega)) (lw_S q953 q954 q69 q955) (by decide +kernel) ⟨by decide, by decide⟩ rfl rfl (Nat.le_of_ble_eq_true rfl) dJ3_pollFirst_28 (by omega) (by omega) (zpk (st' := [.int (iI (if ((hd : Nat) : Int) + 1 < 10 then ((hd : Nat) : Int) + 1 else 0)), .ref a]) rfl ?_) zrx
  refine z_putfield (pc := 31) (fs' := [.ref e, .int (iI (if ((hd : Nat) : Int) + 1 < 10 then ((hd : Nat) : Int) + 1 else 0)), .int (iI (((hd + (q :: xs).length) % 10 : Nat) : Int))]) C in_J3 tyJ3 tyJ3_ok nmJ3 rfl 1 (by decide) q193 (fun _ z => z) rfl rfl rfl (Nat.le_of_ble_eq_true rfl) fh1_1 rfl dJ3_pollFirst_31 ?_
  refine Z.nm (fun h2 eh2 => ?_)
  have kh2 : zkeep h h2 [a, e] := by rw [eh2]; exact zkeep.up kh1 (Or.inl (by simp)) fh1_1
  have fh2_0 : h2 a = some (true, .inr (11, [.ref e, .int (iI (if ((hd : Nat) : Int) + 1 < 10 then ((hd : Nat) : Int) + 1 else 0)), .int (iI (((hd + (q :: xs).length) % 10 : Nat) : Int))])) := zse eh2
  have fh2_1 : h2 e = some (true, .inl ((.object "java/lang/Object"), 10, updV f (Int.toNat ((hd : Nat) : Int)) (.null))) := zsn eh2 fh1_0 (Ne.symm (zneA fh1_1 fh1_0))
  refine z_aload_n (pc := 34) (j := 0) C dJ3_pollFirst_34 rfl rfl ?_
  exact z_areturn (pc := 35) C (Or.inl ⟨_, rfl⟩) (Or.inr ⟨_, rfl⟩) (by rw [hXp]; exact ⟨_, rfl, rfl, dAt.mk (hd := (hd + 1) % 10) (by omega) (by simp at dl; omega) (by split <;> omega) (by simp; omega) fh2_0 fh2_1 (dx_first d0 dl dx), kh2⟩) dJ3_pollFirst_35
set_option maxHeartbeats 4000000 in
theorem ct_D_removeFirst {l : Launch} (hl : l.stackTraces = false) {Γ : zCx} {h : zH} {a e : Nat} {xs : List Nat} {q : Nat} (hd0 : dAt h a e (q :: xs))  : zMet l yJ3_removeFirst (ws_ yJ3_removeFirst cJ3_removeFirst 2 (some (.object "java/lang/Object"))) ({ frames := 2, cells := 0, slots := 0, locals := 44 }) Γ h [.ref a] (zrt (fun w h' => w = some (.ref q) ∧ dAt h' a e xs ∧ zkeep h h' [a, e])) 0 0 := by
  refine zMet.of (cc := cJ3_removeFirst) hl (plainFor_of_name (by decide +kernel)) (Nat.le_of_ble_eq_true rfl) ?_
  intro X hXl hXΓ hXp C hnm hnL
  have C : zC X cJ3_removeFirst RJ3 (some (.object "java/lang/Object")) 2 44 [] := C
  have hnL : X.2.1.2.2.2.2 = 2 := hnL
  subst hXl hXΓ
  show Z X h 0 0 [(0, .ref a)] 0 []
  have hd1 := hd0
  obtain ⟨hd, f, d0, dl, da, de, dx⟩ := hd1
  refine z_aload_n (pc := 0) (j := 0) C dJ3_removeFirst_0 rfl rfl ?_
  refine z_callV (pc := 1) (n := 0) (kc' := 0) (ks' := 0) C (ct_D_pollFirst C.t hd0) (lw_V q946 q947 q948 q69 q949) (by decide +kernel) ⟨by decide, by decide⟩ da rfl rfl rfl (Nat.le_of_ble_eq_true rfl) dJ3_removeFirst_1 (by omega) (by omega) (zrk fun w h1 hp => ?_) zrx
  obtain ⟨rfl, hl2, k3⟩ := hp
  have kh1 : zkeep h h1 [a, e] := zkeep.loc zkeep.rf k3 (zall_cons (Or.inl (Or.symm (Or.inl (by simp)))) (zall_cons (Or.inl (Or.symm (Or.inl (by simp)))) zall_nil))
  obtain ⟨hd_4, f_4, d0_4, dl_4, da_4, de_4, dx_4⟩ := id hl2
  show Z X h1 0 0 [(0, .ref a)] 4 [.ref q]
  refine z_astore_n (pc := 4) (L' := [(1, .ref q), (0, .ref a)]) C dJ3_removeFirst_4 rfl (by rw [hnL]; decide) rfl ?_
  refine z_aload_n (pc := 5) (j := 0) C dJ3_removeFirst_5 rfl rfl ?_
  refine z_ifnonnull (pc := 6) (tgt := 17) C dJ3_removeFirst_6 (by decide) ?_
  refine z_aload_n (pc := 17) (j := 0) C dJ3_removeFirst_17 rfl rfl ?_
  exact z_areturn (pc := 18) C (Or.inl ⟨_, rfl⟩) (Or.inr ⟨_, rfl⟩) (by rw [hXp]; exact ⟨_, rfl, rfl, hl2, kh1⟩) dJ3_removeFirst_18
set_option maxHeartbeats 4000000 in
theorem ct_D_pollLast {l : Launch} (hl : l.stackTraces = false) {Γ : zCx} {h : zH} {a e : Nat} {xs : List Nat} {q : Nat} (hd0 : dAt h a e (xs ++ [q]))  : zMet l yJ3_pollLast (ws_ yJ3_pollLast cJ3_pollLast 4 (some (.object "java/lang/Object"))) ({ frames := 1, cells := 0, slots := 0, locals := 21 }) Γ h [.ref a] (zrt (fun w h' => w = some (.ref q) ∧ dAt h' a e xs ∧ zkeep h h' [a, e])) 0 0 := by
  refine zMet.of (cc := cJ3_pollLast) hl (plainFor_of_name (by decide +kernel)) (Nat.le_of_ble_eq_true rfl) ?_
  intro X hXl hXΓ hXp C hnm hnL
  have C : zC X cJ3_pollLast RJ3 (some (.object "java/lang/Object")) 1 21 [] := C
  have hnL : X.2.1.2.2.2.2 = 4 := hnL
  subst hXl hXΓ
  show Z X h 0 0 [(0, .ref a)] 0 []
  obtain ⟨hd, f, d0, dl, da, de, dx⟩ := hd0
  refine z_aload_n (pc := 0) (j := 0) C dJ3_pollLast_0 rfl rfl ?_
  refine z_getfield (pc := 1) (v := .ref e) C in_J3 rfl 0 (by decide) q192 (fun _ z => z) da rfl dJ3_pollLast_1 ?_
  refine z_dup (pc := 4) C dJ3_pollLast_4 rfl ?_
  refine z_astore_n (pc := 5) (L' := [(1, .ref e), (0, .ref a)]) C dJ3_pollLast_5 rfl (by rw [hnL]; decide) rfl ?_
  refine z_aload_n (pc := 6) (j := 1) C dJ3_pollLast_6 rfl rfl ?_
  refine z_getfield (pc := 7) (v := .int (iI (((hd + (xs ++ [q]).length) % 10 : Nat) : Int))) C in_J3 rfl 2 (by decide) q194 (fun _ z => z) da rfl dJ3_pollLast_7 ?_
  refine z_aload_n (pc := 10) (j := 0) C dJ3_pollLast_10 rfl rfl ?_
  refine z_alen (pc := 11) C de dJ3_pollLast_11 ?_
  refine z_callS (pc := 12) (n := 2) (kc' := 0) (ks' := 0) C (ct_D_dec C.t (i := (((hd + (xs ++ [q]).length) % 10 : Nat) : Int)) (m := 10) (by omega) (by omega)) (lw_S q2073 q2074 q69 q2075) (by decide +kernel) ⟨by decide, by decide⟩ rfl rfl (Nat.le_of_ble_eq_true rfl) dJ3_pollLast_12 (by omega) (by omega) (zpk (st' := [.int (iI (if (((hd + (xs ++ [q]).length) % 10 : Nat) : Int) + (-1) < 0 then 10 - 1 else (((hd + (xs ++ [q]).length) % 10 : Nat) : Int) + (-1))), .ref e]) rfl ?_) zrx
  have hk : (if (((hd + (xs ++ [q]).length) % 10 : Nat) : Int) + (-1) < 0 then 10 - 1 else (((hd + (xs ++ [q]).length) % 10 : Nat) : Int) + (-1)) = (((hd + xs.length) % 10 : Nat) : Int) := by simp at dl ⊢; split <;> omega
  rw [hk]
  show Z X h 0 0 [(1, .ref e), (0, .ref a)] 15 [.int (iI (((hd + xs.length) % 10 : Nat) : Int)), .ref e]
  refine z_dup (pc := 15) C dJ3_pollLast_15 rfl ?_
  refine z_istore_n (pc := 16) (L' := [(2, .int (iI (((hd + xs.length) % 10 : Nat) : Int))), (1, .ref e), (0, .ref a)]) C dJ3_pollLast_16 rfl (by rw [hnL]; decide) rfl ?_
  refine z_callS (pc := 17) (n := 2) (kc' := 0) (ks' := 0) C (ct_D_elem C.t de (i := (((hd + xs.length) % 10 : Nat) : Int)) (by omega) (dx xs.length q (by simp))) (lw_S q950 q951 q69 q952) (by decide +kernel) ⟨by decide, by decide⟩ rfl rfl (Nat.le_of_ble_eq_true rfl) dJ3_pollLast_17 (by omega) (by omega) (zpk (st' := [.ref q]) rfl ?_) zrx
  refine z_astore_n (pc := 20) (L' := [(3, .ref q), (2, .int (iI (((hd + xs.length) % 10 : Nat) : Int))), (1, .ref e), (0, .ref a)]) C dJ3_pollLast_20 rfl (by rw [hnL]; decide) rfl ?_
  refine z_aload_n (pc := 21) (j := 0) C dJ3_pollLast_21 rfl rfl ?_
  refine z_ifnull (pc := 22) C dJ3_pollLast_22 ?_
  refine z_aload_n (pc := 25) (j := 2) C dJ3_pollLast_25 rfl rfl ?_
  refine z_aload_n (pc := 26) (j := 3) C dJ3_pollLast_26 rfl rfl ?_
  refine z_iload_n (pc := 27) (j := 1) C dJ3_pollLast_27 rfl rfl ?_
  refine z_dup_x1 (pc := 28) C dJ3_pollLast_28 rfl rfl ?_
  refine z_putfield (pc := 29) (fs' := [.ref e, .int (iI ((hd : Nat) : Int)), .int (iI (((hd + xs.length) % 10 : Nat) : Int))]) C in_J3 tyJ3 tyJ3_ok nmJ3 rfl 2 (by decide) q194 (fun _ z => z) rfl rfl rfl (Nat.le_of_ble_eq_true rfl) da rfl dJ3_pollLast_29 ?_
  refine Z.nm (fun h1 eh1 => ?_)
  have kh1 : zkeep h h1 [a, e] := by rw [eh1]; exact zkeep.up zkeep.rf (Or.inl (by simp)) da
  have fh1_0 : h1 a = some (true, .inr (11, [.ref e, .int (iI ((hd : Nat) : Int)), .int (iI (((hd + xs.length) % 10 : Nat) : Int))])) := zse eh1
  have fh1_1 : h1 e = some (true, .inl ((.object "java/lang/Object"), 10, f)) := zsn eh1 de (Ne.symm (zneA da de))
  refine z_null (pc := 32) C dJ3_pollLast_32 ?_
  refine z_aastoreN (pc := 33) (f' := updV f (Int.toNat (((hd + xs.length) % 10 : Nat) : Int)) (.null)) C fh1_1 (by omega) rfl dJ3_pollLast_33 ?_
  refine Z.nm (fun h2 eh2 => ?_)
  have kh2 : zkeep h h2 [a, e] := by rw [eh2]; exact zkeep.up kh1 (Or.inl (by simp)) fh1_1
  have fh2_0 : h2 e = some (true, .inl ((.object "java/lang/Object"), 10, updV f (Int.toNat (((hd + xs.length) % 10 : Nat) : Int)) (.null))) := zse eh2
  have fh2_1 : h2 a = some (true, .inr (11, [.ref e, .int (iI ((hd : Nat) : Int)), .int (iI (((hd + xs.length) % 10 : Nat) : Int))])) := zsn eh2 fh1_0 (zneA fh1_0 fh1_1)
  refine z_aload_n (pc := 34) (j := 0) C dJ3_pollLast_34 rfl rfl ?_
  exact z_areturn (pc := 35) C (Or.inl ⟨_, rfl⟩) (Or.inr ⟨_, rfl⟩) (by rw [hXp]; exact ⟨_, rfl, rfl, dAt.mk d0 (by simp at dl; omega) rfl rfl fh2_1 fh2_0 (dx_last d0 dl dx rfl), kh2⟩) dJ3_pollLast_35
set_option maxHeartbeats 4000000 in
theorem ct_D_removeLast {l : Launch} (hl : l.stackTraces = false) {Γ : zCx} {h : zH} {a e : Nat} {xs : List Nat} {q : Nat} (hd0 : dAt h a e (xs ++ [q]))  : zMet l yJ3_removeLast (ws_ yJ3_removeLast cJ3_removeLast 2 (some (.object "java/lang/Object"))) ({ frames := 2, cells := 0, slots := 0, locals := 44 }) Γ h [.ref a] (zrt (fun w h' => w = some (.ref q) ∧ dAt h' a e xs ∧ zkeep h h' [a, e])) 0 0 := by
  refine zMet.of (cc := cJ3_removeLast) hl (plainFor_of_name (by decide +kernel)) (Nat.le_of_ble_eq_true rfl) ?_
  intro X hXl hXΓ hXp C hnm hnL
  have C : zC X cJ3_removeLast RJ3 (some (.object "java/lang/Object")) 2 44 [] := C
  have hnL : X.2.1.2.2.2.2 = 2 := hnL
  subst hXl hXΓ
  show Z X h 0 0 [(0, .ref a)] 0 []
  have hd1 := hd0
  obtain ⟨hd, f, d0, dl, da, de, dx⟩ := hd1
  refine z_aload_n (pc := 0) (j := 0) C dJ3_removeLast_0 rfl rfl ?_
  refine z_callV (pc := 1) (n := 0) (kc' := 0) (ks' := 0) C (ct_D_pollLast C.t hd0) (lw_V q2069 q2070 q2071 q69 q2072) (by decide +kernel) ⟨by decide, by decide⟩ da rfl rfl rfl (Nat.le_of_ble_eq_true rfl) dJ3_removeLast_1 (by omega) (by omega) (zrk fun w h1 hp => ?_) zrx
  obtain ⟨rfl, hl2, k3⟩ := hp
  have kh1 : zkeep h h1 [a, e] := zkeep.loc zkeep.rf k3 (zall_cons (Or.inl (Or.symm (Or.inl (by simp)))) (zall_cons (Or.inl (Or.symm (Or.inl (by simp)))) zall_nil))
  obtain ⟨hd_4, f_4, d0_4, dl_4, da_4, de_4, dx_4⟩ := id hl2
  show Z X h1 0 0 [(0, .ref a)] 4 [.ref q]
  refine z_astore_n (pc := 4) (L' := [(1, .ref q), (0, .ref a)]) C dJ3_removeLast_4 rfl (by rw [hnL]; decide) rfl ?_
  refine z_aload_n (pc := 5) (j := 0) C dJ3_removeLast_5 rfl rfl ?_
  refine z_ifnonnull (pc := 6) (tgt := 17) C dJ3_removeLast_6 (by decide) ?_
  refine z_aload_n (pc := 17) (j := 0) C dJ3_removeLast_17 rfl rfl ?_
  exact z_areturn (pc := 18) C (Or.inl ⟨_, rfl⟩) (Or.inr ⟨_, rfl⟩) (by rw [hXp]; exact ⟨_, rfl, rfl, hl2, kh1⟩) dJ3_removeLast_18

/-! 18.list.lean.txt -/
set_option maxRecDepth 100000
def RJ0 : String := "java/util/AbstractCollection"
abbrev cJ0_init : ByteArray := prog_40_method_1_code
def yJ0_init : MethodName := ⟨RJ0, "<init>", "()V"⟩
def RJ1 : String := "java/util/AbstractList"
abbrev cJ1_init : ByteArray := prog_41_method_1_code
def yJ1_init : MethodName := ⟨RJ1, "<init>", "()V"⟩
def dkwJ1_init_0 : List UInt8 := [42, 183, 0, 1, 42, 3, 181, 0, 7, 177]
abbrev dktJ1_init_0 : List UInt8 := dkwJ1_init_0 ++ []
theorem dksJ1_init_0 : cJ1_init.data.toList.drop 0 = dktJ1_init_0 := by decide +kernel
abbrev cJ2_init : ByteArray := prog_44_method_2_code
def yJ2_init : MethodName := ⟨RJ2, "<init>", "()V"⟩
def dkwJ2_init_0 : List UInt8 := [42, 183, 0, 1, 42, 178, 0, 39, 181, 0, 9, 177]
abbrev dktJ2_init_0 : List UInt8 := dkwJ2_init_0 ++ []
theorem dksJ2_init_0 : cJ2_init.data.toList.drop 0 = dktJ2_init_0 := by decide +kernel
abbrev cJ2_size : ByteArray := prog_44_method_8_code
def yJ2_size : MethodName := ⟨RJ2, "size", "()I"⟩
abbrev cJ2_elementData : ByteArray := prog_44_method_18_code
def yJ2_elementData : MethodName := ⟨RJ2, "elementData", "(I)Ljava/lang/Object;"⟩
def dkwJ2_elementData_0 : List UInt8 := [42, 180, 0, 9, 27, 50, 176]
abbrev dktJ2_elementData_0 : List UInt8 := dkwJ2_elementData_0 ++ []
theorem dksJ2_elementData_0 : cJ2_elementData.data.toList.drop 0 = dktJ2_elementData_0 := by decide +kernel
abbrev cJ2_get : ByteArray := prog_44_method_20_code
def yJ2_get : MethodName := ⟨RJ2, "get", "(I)Ljava/lang/Object;"⟩
def dkwJ2_get_0 : List UInt8 := [27, 42, 180, 0, 48, 184, 0, 118, 87, 42, 27, 182, 0, 123, 176]
abbrev dktJ2_get_0 : List UInt8 := dkwJ2_get_0 ++ []
theorem dksJ2_get_0 : cJ2_get.data.toList.drop 0 = dktJ2_get_0 := by decide +kernel
abbrev cJ2_set : ByteArray := prog_44_method_23_code
def yJ2_set : MethodName := ⟨RJ2, "set", "(ILjava/lang/Object;)Ljava/lang/Object;"⟩
def dkwJ2_set_0 : List UInt8 := [27, 42, 180, 0, 48, 184, 0, 118, 87, 42, 27, 182, 0, 123, 78, 42, 180, 0, 9, 27, 44, 83, 45, 176]
abbrev dktJ2_set_0 : List UInt8 := dkwJ2_set_0 ++ []
theorem dksJ2_set_0 : cJ2_set.data.toList.drop 0 = dktJ2_set_0 := by decide +kernel
abbrev cJ6_copyOf_2 : ByteArray := prog_45_method_120_code
def yJ6_copyOf_2 : MethodName := ⟨RJ6, "copyOf", "([Ljava/lang/Object;ILjava/lang/Class;)[Ljava/lang/Object;"⟩
def dkwJ6_copyOf_2_1 : List UInt8 := [78, 42, 3, 45, 3, 42, 190, 27, 184, 1, 48, 184, 0, 150, 45, 176]
abbrev dktJ6_copyOf_2_1 : List UInt8 := dkwJ6_copyOf_2_1 ++ []
def dkwJ6_copyOf_2_0 : List UInt8 := [44, 18, 110, 166, 0, 10, 27, 189, 0, 2, 167, 0, 14, 44, 182, 0, 90, 27, 184, 0, 95, 192, 0, 110]
abbrev dktJ6_copyOf_2_0 : List UInt8 := dkwJ6_copyOf_2_0 ++ dktJ6_copyOf_2_1
theorem dksJ6_copyOf_2_0 : cJ6_copyOf_2.data.toList.drop 0 = dktJ6_copyOf_2_0 := by decide +kernel
theorem dksJ6_copyOf_2_1 : cJ6_copyOf_2.data.toList.drop 24 = dktJ6_copyOf_2_1 := dk_seg dksJ6_copyOf_2_0 24 rfl rfl
abbrev cJ6_copyOf : ByteArray := prog_45_method_119_code
def yJ6_copyOf : MethodName := ⟨RJ6, "copyOf", "([Ljava/lang/Object;I)[Ljava/lang/Object;"⟩
def dkwJ6_copyOf_0 : List UInt8 := [42, 27, 42, 182, 0, 86, 184, 1, 44, 176]
abbrev dktJ6_copyOf_0 : List UInt8 := dkwJ6_copyOf_0 ++ []
theorem dksJ6_copyOf_0 : cJ6_copyOf.data.toList.drop 0 = dktJ6_copyOf_0 := by decide +kernel
abbrev cJ2_grow_2 : ByteArray := prog_44_method_6_code
def yJ2_grow_2 : MethodName := ⟨RJ2, "grow", "(I)[Ljava/lang/Object;"⟩
def dkwJ2_grow_2_2 : List UInt8 := [27, 184, 0, 79, 189, 0, 7, 90, 181, 0, 9, 176]
abbrev dktJ2_grow_2_2 : List UInt8 := dkwJ2_grow_2_2 ++ []
def dkwJ2_grow_2_1 : List UInt8 := [28, 4, 122, 184, 0, 73, 62, 42, 42, 180, 0, 9, 29, 184, 0, 66, 90, 181, 0, 9, 176, 42, 16, 10]
abbrev dktJ2_grow_2_1 : List UInt8 := dkwJ2_grow_2_1 ++ dktJ2_grow_2_2
def dkwJ2_grow_2_0 : List UInt8 := [42, 180, 0, 9, 190, 61, 28, 157, 0, 13, 42, 180, 0, 9, 178, 0, 39, 165, 0, 28, 28, 27, 28, 100]
abbrev dktJ2_grow_2_0 : List UInt8 := dkwJ2_grow_2_0 ++ dktJ2_grow_2_1
theorem dksJ2_grow_2_0 : cJ2_grow_2.data.toList.drop 0 = dktJ2_grow_2_0 := by decide +kernel
theorem dksJ2_grow_2_1 : cJ2_grow_2.data.toList.drop 24 = dktJ2_grow_2_1 := dk_seg dksJ2_grow_2_0 24 rfl rfl
theorem dksJ2_grow_2_2 : cJ2_grow_2.data.toList.drop 48 = dktJ2_grow_2_2 := dk_seg dksJ2_grow_2_1 24 rfl rfl
abbrev cJ2_grow : ByteArray := prog_44_method_7_code
def yJ2_grow : MethodName := ⟨RJ2, "grow", "()[Ljava/lang/Object;"⟩
def dkwJ2_grow_0 : List UInt8 := [42, 42, 180, 0, 48, 4, 96, 182, 0, 69, 176]
abbrev dktJ2_grow_0 : List UInt8 := dkwJ2_grow_0 ++ []
theorem dksJ2_grow_0 : cJ2_grow.data.toList.drop 0 = dktJ2_grow_0 := by decide +kernel
abbrev cJ2_add_2 : ByteArray := prog_44_method_24_code
def yJ2_add_2 : MethodName := ⟨RJ2, "add", "(Ljava/lang/Object;[Ljava/lang/Object;I)V"⟩
def dkwJ2_add_2_0 : List UInt8 := [29, 44, 190, 160, 0, 8, 42, 182, 0, 129, 77, 44, 29, 43, 83, 42, 29, 4, 96, 181, 0, 48, 177]
abbrev dktJ2_add_2_0 : List UInt8 := dkwJ2_add_2_0 ++ []
theorem dksJ2_add_2_0 : cJ2_add_2.data.toList.drop 0 = dktJ2_add_2_0 := by decide +kernel
abbrev cJ2_add : ByteArray := prog_44_method_25_code
def yJ2_add : MethodName := ⟨RJ2, "add", "(Ljava/lang/Object;)Z"⟩
def dkwJ2_add_1 : List UInt8 := [172]
abbrev dktJ2_add_1 : List UInt8 := dkwJ2_add_1 ++ []
def dkwJ2_add_0 : List UInt8 := [42, 89, 180, 0, 63, 4, 96, 181, 0, 63, 42, 43, 42, 180, 0, 9, 42, 180, 0, 48, 182, 0, 131, 4]
abbrev dktJ2_add_0 : List UInt8 := dkwJ2_add_0 ++ dktJ2_add_1
theorem dksJ2_add_0 : cJ2_add.data.toList.drop 0 = dktJ2_add_0 := by decide +kernel
theorem dksJ2_add_1 : cJ2_add.data.toList.drop 24 = dktJ2_add_1 := dk_seg dksJ2_add_0 24 rfl rfl
abbrev cJ2_rangeCheckForAdd : ByteArray := prog_44_method_45_code
def yJ2_rangeCheckForAdd : MethodName := ⟨RJ2, "rangeCheckForAdd", "(I)V"⟩
def dkwJ2_rangeCheckForAdd_1 : List UInt8 := [191, 177]
abbrev dktJ2_rangeCheckForAdd_1 : List UInt8 := dkwJ2_rangeCheckForAdd_1 ++ []
def dkwJ2_rangeCheckForAdd_0 : List UInt8 := [27, 42, 180, 0, 48, 163, 0, 7, 27, 156, 0, 16, 187, 0, 187, 89, 42, 27, 182, 0, 198, 183, 0, 193]
abbrev dktJ2_rangeCheckForAdd_0 : List UInt8 := dkwJ2_rangeCheckForAdd_0 ++ dktJ2_rangeCheckForAdd_1
theorem dksJ2_rangeCheckForAdd_0 : cJ2_rangeCheckForAdd.data.toList.drop 0 = dktJ2_rangeCheckForAdd_0 := by decide +kernel
theorem dksJ2_rangeCheckForAdd_1 : cJ2_rangeCheckForAdd.data.toList.drop 24 = dktJ2_rangeCheckForAdd_1 := dk_seg dksJ2_rangeCheckForAdd_0 24 rfl rfl
abbrev cJ2_add_3 : ByteArray := prog_44_method_26_code
def yJ2_add_3 : MethodName := ⟨RJ2, "add", "(ILjava/lang/Object;)V"⟩
def dkwJ2_add_3_2 : List UInt8 := [29, 27, 100, 184, 0, 112, 25, 4, 27, 44, 83, 42, 29, 4, 96, 181, 0, 48, 177]
abbrev dktJ2_add_3_2 : List UInt8 := dkwJ2_add_3_2 ++ []
def dkwJ2_add_3_1 : List UInt8 := [180, 0, 9, 89, 58, 4, 190, 160, 0, 9, 42, 182, 0, 129, 58, 4, 25, 4, 27, 25, 4, 27, 4, 96]
abbrev dktJ2_add_3_1 : List UInt8 := dkwJ2_add_3_1 ++ dktJ2_add_3_2
def dkwJ2_add_3_0 : List UInt8 := [42, 27, 182, 0, 135, 42, 89, 180, 0, 63, 4, 96, 181, 0, 63, 42, 180, 0, 48, 89, 62, 42]
abbrev dktJ2_add_3_0 : List UInt8 := dkwJ2_add_3_0 ++ dktJ2_add_3_1
theorem dksJ2_add_3_0 : cJ2_add_3.data.toList.drop 0 = dktJ2_add_3_0 := by decide +kernel
theorem dksJ2_add_3_1 : cJ2_add_3.data.toList.drop 22 = dktJ2_add_3_1 := dk_seg dksJ2_add_3_0 22 rfl rfl
theorem dksJ2_add_3_2 : cJ2_add_3.data.toList.drop 46 = dktJ2_add_3_2 := dk_seg dksJ2_add_3_1 24 rfl rfl
abbrev cJ2_fastRemove : ByteArray := prog_44_method_39_code
def yJ2_fastRemove : MethodName := ⟨RJ2, "fastRemove", "([Ljava/lang/Object;I)V"⟩
def dkwJ2_fastRemove_1 : List UInt8 := [4, 96, 43, 28, 29, 28, 100, 184, 0, 112, 43, 42, 29, 90, 181, 0, 48, 1, 83, 177]
abbrev dktJ2_fastRemove_1 : List UInt8 := dkwJ2_fastRemove_1 ++ []
def dkwJ2_fastRemove_0 : List UInt8 := [42, 89, 180, 0, 63, 4, 96, 181, 0, 63, 42, 180, 0, 48, 4, 100, 89, 62, 28, 164, 0, 15, 43, 28]
abbrev dktJ2_fastRemove_0 : List UInt8 := dkwJ2_fastRemove_0 ++ dktJ2_fastRemove_1
theorem dksJ2_fastRemove_0 : cJ2_fastRemove.data.toList.drop 0 = dktJ2_fastRemove_0 := by decide +kernel
theorem dksJ2_fastRemove_1 : cJ2_fastRemove.data.toList.drop 24 = dktJ2_fastRemove_1 := dk_seg dksJ2_fastRemove_0 24 rfl rfl
abbrev cJ2_remove : ByteArray := prog_44_method_29_code
def yJ2_remove : MethodName := ⟨RJ2, "remove", "(I)Ljava/lang/Object;"⟩
def dkwJ2_remove_1 : List UInt8 := [45, 176]
abbrev dktJ2_remove_1 : List UInt8 := dkwJ2_remove_1 ++ []
def dkwJ2_remove_0 : List UInt8 := [27, 42, 180, 0, 48, 184, 0, 118, 87, 42, 180, 0, 9, 77, 44, 27, 50, 78, 42, 44, 27, 182, 0, 144]
abbrev dktJ2_remove_0 : List UInt8 := dkwJ2_remove_0 ++ dktJ2_remove_1
theorem dksJ2_remove_0 : cJ2_remove.data.toList.drop 0 = dktJ2_remove_0 := by decide +kernel
theorem dksJ2_remove_1 : cJ2_remove.data.toList.drop 24 = dktJ2_remove_1 := dk_seg dksJ2_remove_0 24 rfl rfl
theorem dJ0_init_0 : decode cJ0_init 0 = .ok (.aload_n 0, 1) := by decide +kernel
theorem dJ0_init_1 : decode cJ0_init 1 = .ok (.invokespecial 1, 3) := by decide +kernel
theorem dJ0_init_4 : decode cJ0_init 4 = .ok (.return_, 1) := by decide +kernel
theorem dJ1_init_0 : decode cJ1_init 0 = .ok (.aload_n 0, 1) := dk_42 (dk_at dksJ1_init_0 0 rfl rfl)
theorem dJ1_init_1 : decode cJ1_init 1 = .ok (.invokespecial 1, 3) := dk_183 0 1 (dk_at dksJ1_init_0 1 rfl rfl)
theorem dJ1_init_4 : decode cJ1_init 4 = .ok (.aload_n 0, 1) := dk_42 (dk_at dksJ1_init_0 4 rfl rfl)
theorem dJ1_init_5 : decode cJ1_init 5 = .ok (.iconst 0, 1) := dk_3 (dk_at dksJ1_init_0 5 rfl rfl)
theorem dJ1_init_6 : decode cJ1_init 6 = .ok (.putfield 7, 3) := dk_181 0 7 (dk_at dksJ1_init_0 6 rfl rfl)
theorem dJ1_init_9 : decode cJ1_init 9 = .ok (.return_, 1) := dk_177 (dk_at dksJ1_init_0 9 rfl rfl)
theorem dJ2_init_0 : decode cJ2_init 0 = .ok (.aload_n 0, 1) := dk_42 (dk_at dksJ2_init_0 0 rfl rfl)
theorem dJ2_init_1 : decode cJ2_init 1 = .ok (.invokespecial 1, 3) := dk_183 0 1 (dk_at dksJ2_init_0 1 rfl rfl)
theorem dJ2_init_4 : decode cJ2_init 4 = .ok (.aload_n 0, 1) := dk_42 (dk_at dksJ2_init_0 4 rfl rfl)
theorem dJ2_init_5 : decode cJ2_init 5 = .ok (.getstatic 39, 3) := dk_178 0 39 (dk_at dksJ2_init_0 5 rfl rfl)
theorem dJ2_init_8 : decode cJ2_init 8 = .ok (.putfield 9, 3) := dk_181 0 9 (dk_at dksJ2_init_0 8 rfl rfl)
theorem dJ2_init_11 : decode cJ2_init 11 = .ok (.return_, 1) := dk_177 (dk_at dksJ2_init_0 11 rfl rfl)
theorem dJ2_size_0 : decode cJ2_size 0 = .ok (.aload_n 0, 1) := by decide +kernel
theorem dJ2_size_1 : decode cJ2_size 1 = .ok (.getfield 48, 3) := by decide +kernel
theorem dJ2_size_4 : decode cJ2_size 4 = .ok (.ireturn, 1) := by decide +kernel
theorem dJ2_elementData_0 : decode cJ2_elementData 0 = .ok (.aload_n 0, 1) := dk_42 (dk_at dksJ2_elementData_0 0 rfl rfl)
theorem dJ2_elementData_1 : decode cJ2_elementData 1 = .ok (.getfield 9, 3) := dk_180 0 9 (dk_at dksJ2_elementData_0 1 rfl rfl)
theorem dJ2_elementData_4 : decode cJ2_elementData 4 = .ok (.iload_n 1, 1) := dk_27 (dk_at dksJ2_elementData_0 4 rfl rfl)
theorem dJ2_elementData_5 : decode cJ2_elementData 5 = .ok (.aaload, 1) := dk_50 (dk_at dksJ2_elementData_0 5 rfl rfl)
theorem dJ2_elementData_6 : decode cJ2_elementData 6 = .ok (.areturn, 1) := dk_176 (dk_at dksJ2_elementData_0 6 rfl rfl)
theorem dJ2_get_0 : decode cJ2_get 0 = .ok (.iload_n 1, 1) := dk_27 (dk_at dksJ2_get_0 0 rfl rfl)
theorem dJ2_get_1 : decode cJ2_get 1 = .ok (.aload_n 0, 1) := dk_42 (dk_at dksJ2_get_0 1 rfl rfl)
theorem dJ2_get_2 : decode cJ2_get 2 = .ok (.getfield 48, 3) := dk_180 0 48 (dk_at dksJ2_get_0 2 rfl rfl)
theorem dJ2_get_5 : decode cJ2_get 5 = .ok (.invokestatic 118, 3) := dk_184 0 118 (dk_at dksJ2_get_0 5 rfl rfl)
theorem dJ2_get_8 : decode cJ2_get 8 = .ok (.pop, 1) := dk_87 (dk_at dksJ2_get_0 8 rfl rfl)
theorem dJ2_get_9 : decode cJ2_get 9 = .ok (.aload_n 0, 1) := dk_42 (dk_at dksJ2_get_0 9 rfl rfl)
theorem dJ2_get_10 : decode cJ2_get 10 = .ok (.iload_n 1, 1) := dk_27 (dk_at dksJ2_get_0 10 rfl rfl)
theorem dJ2_get_11 : decode cJ2_get 11 = .ok (.invokevirtual 123, 3) := dk_182 0 123 (dk_at dksJ2_get_0 11 rfl rfl)
theorem dJ2_get_14 : decode cJ2_get 14 = .ok (.areturn, 1) := dk_176 (dk_at dksJ2_get_0 14 rfl rfl)
theorem dJ2_set_0 : decode cJ2_set 0 = .ok (.iload_n 1, 1) := dk_27 (dk_at dksJ2_set_0 0 rfl rfl)
theorem dJ2_set_1 : decode cJ2_set 1 = .ok (.aload_n 0, 1) := dk_42 (dk_at dksJ2_set_0 1 rfl rfl)
theorem dJ2_set_2 : decode cJ2_set 2 = .ok (.getfield 48, 3) := dk_180 0 48 (dk_at dksJ2_set_0 2 rfl rfl)
theorem dJ2_set_5 : decode cJ2_set 5 = .ok (.invokestatic 118, 3) := dk_184 0 118 (dk_at dksJ2_set_0 5 rfl rfl)
theorem dJ2_set_8 : decode cJ2_set 8 = .ok (.pop, 1) := dk_87 (dk_at dksJ2_set_0 8 rfl rfl)
theorem dJ2_set_9 : decode cJ2_set 9 = .ok (.aload_n 0, 1) := dk_42 (dk_at dksJ2_set_0 9 rfl rfl)
theorem dJ2_set_10 : decode cJ2_set 10 = .ok (.iload_n 1, 1) := dk_27 (dk_at dksJ2_set_0 10 rfl rfl)
theorem dJ2_set_11 : decode cJ2_set 11 = .ok (.invokevirtual 123, 3) := dk_182 0 123 (dk_at dksJ2_set_0 11 rfl rfl)
theorem dJ2_set_14 : decode cJ2_set 14 = .ok (.astore_n 3, 1) := dk_78 (dk_at dksJ2_set_0 14 rfl rfl)
theorem dJ2_set_15 : decode cJ2_set 15 = .ok (.aload_n 0, 1) := dk_42 (dk_at dksJ2_set_0 15 rfl rfl)
theorem dJ2_set_16 : decode cJ2_set 16 = .ok (.getfield 9, 3) := dk_180 0 9 (dk_at dksJ2_set_0 16 rfl rfl)
theorem dJ2_set_19 : decode cJ2_set 19 = .ok (.iload_n 1, 1) := dk_27 (dk_at dksJ2_set_0 19 rfl rfl)
theorem dJ2_set_20 : decode cJ2_set 20 = .ok (.aload_n 2, 1) := dk_44 (dk_at dksJ2_set_0 20 rfl rfl)
theorem dJ2_set_21 : decode cJ2_set 21 = .ok (.aastore, 1) := dk_83 (dk_at dksJ2_set_0 21 rfl rfl)
theorem dJ2_set_22 : decode cJ2_set 22 = .ok (.aload_n 3, 1) := dk_45 (dk_at dksJ2_set_0 22 rfl rfl)
theorem dJ2_set_23 : decode cJ2_set 23 = .ok (.areturn, 1) := dk_176 (dk_at dksJ2_set_0 23 rfl rfl)
theorem dJ6_copyOf_2_0 : decode cJ6_copyOf_2 0 = .ok (.aload_n 2, 1) := dk_44 (dk_at dksJ6_copyOf_2_0 0 rfl rfl)
theorem dJ6_copyOf_2_1 : decode cJ6_copyOf_2 1 = .ok (.ldc 110, 2) := dk_18 110 (dk_at dksJ6_copyOf_2_0 1 rfl rfl)
theorem dJ6_copyOf_2_3 : decode cJ6_copyOf_2 3 = .ok (.if_acmp .ne 10, 3) := dk_166 0 10 (dk_at dksJ6_copyOf_2_0 3 rfl rfl)
theorem dJ6_copyOf_2_6 : decode cJ6_copyOf_2 6 = .ok (.iload_n 1, 1) := dk_27 (dk_at dksJ6_copyOf_2_0 6 rfl rfl)
theorem dJ6_copyOf_2_7 : decode cJ6_copyOf_2 7 = .ok (.anewarray 2, 3) := dk_189 0 2 (dk_at dksJ6_copyOf_2_0 7 rfl rfl)
theorem dJ6_copyOf_2_10 : decode cJ6_copyOf_2 10 = .ok (.goto 14, 3) := dk_167 0 14 (dk_at dksJ6_copyOf_2_0 10 rfl rfl)
theorem dJ6_copyOf_2_24 : decode cJ6_copyOf_2 24 = .ok (.astore_n 3, 1) := dk_78 (dk_at dksJ6_copyOf_2_1 0 rfl rfl)
theorem dJ6_copyOf_2_25 : decode cJ6_copyOf_2 25 = .ok (.aload_n 0, 1) := dk_42 (dk_at dksJ6_copyOf_2_1 1 rfl rfl)
theorem dJ6_copyOf_2_26 : decode cJ6_copyOf_2 26 = .ok (.iconst 0, 1) := dk_3 (dk_at dksJ6_copyOf_2_1 2 rfl rfl)
theorem dJ6_copyOf_2_27 : decode cJ6_copyOf_2 27 = .ok (.aload_n 3, 1) := dk_45 (dk_at dksJ6_copyOf_2_1 3 rfl rfl)
theorem dJ6_copyOf_2_28 : decode cJ6_copyOf_2 28 = .ok (.iconst 0, 1) := dk_3 (dk_at dksJ6_copyOf_2_1 4 rfl rfl)
theorem dJ6_copyOf_2_29 : decode cJ6_copyOf_2 29 = .ok (.aload_n 0, 1) := dk_42 (dk_at dksJ6_copyOf_2_1 5 rfl rfl)
theorem dJ6_copyOf_2_30 : decode cJ6_copyOf_2 30 = .ok (.arraylength, 1) := dk_190 (dk_at dksJ6_copyOf_2_1 6 rfl rfl)
theorem dJ6_copyOf_2_31 : decode cJ6_copyOf_2 31 = .ok (.iload_n 1, 1) := dk_27 (dk_at dksJ6_copyOf_2_1 7 rfl rfl)
theorem dJ6_copyOf_2_32 : decode cJ6_copyOf_2 32 = .ok (.invokestatic 304, 3) := dk_184 1 48 (dk_at dksJ6_copyOf_2_1 8 rfl rfl)
theorem dJ6_copyOf_2_35 : decode cJ6_copyOf_2 35 = .ok (.invokestatic 150, 3) := dk_184 0 150 (dk_at dksJ6_copyOf_2_1 11 rfl rfl)
theorem dJ6_copyOf_2_38 : decode cJ6_copyOf_2 38 = .ok (.aload_n 3, 1) := dk_45 (dk_at dksJ6_copyOf_2_1 14 rfl rfl)
theorem dJ6_copyOf_2_39 : decode cJ6_copyOf_2 39 = .ok (.areturn, 1) := dk_176 (dk_at dksJ6_copyOf_2_1 15 rfl rfl)
theorem dJ6_copyOf_0 : decode cJ6_copyOf 0 = .ok (.aload_n 0, 1) := dk_42 (dk_at dksJ6_copyOf_0 0 rfl rfl)
theorem dJ6_copyOf_1 : decode cJ6_copyOf 1 = .ok (.iload_n 1, 1) := dk_27 (dk_at dksJ6_copyOf_0 1 rfl rfl)
theorem dJ6_copyOf_2 : decode cJ6_copyOf 2 = .ok (.aload_n 0, 1) := dk_42 (dk_at dksJ6_copyOf_0 2 rfl rfl)
theorem dJ6_copyOf_3 : decode cJ6_copyOf 3 = .ok (.invokevirtual 86, 3) := dk_182 0 86 (dk_at dksJ6_copyOf_0 3 rfl rfl)
theorem dJ6_copyOf_6 : decode cJ6_copyOf 6 = .ok (.invokestatic 300, 3) := dk_184 1 44 (dk_at dksJ6_copyOf_0 6 rfl rfl)
theorem dJ6_copyOf_9 : decode cJ6_copyOf 9 = .ok (.areturn, 1) := dk_176 (dk_at dksJ6_copyOf_0 9 rfl rfl)
theorem dJ2_grow_2_0 : decode cJ2_grow_2 0 = .ok (.aload_n 0, 1) := dk_42 (dk_at dksJ2_grow_2_0 0 rfl rfl)
theorem dJ2_grow_2_1 : decode cJ2_grow_2 1 = .ok (.getfield 9, 3) := dk_180 0 9 (dk_at dksJ2_grow_2_0 1 rfl rfl)
theorem dJ2_grow_2_4 : decode cJ2_grow_2 4 = .ok (.arraylength, 1) := dk_190 (dk_at dksJ2_grow_2_0 4 rfl rfl)
theorem dJ2_grow_2_5 : decode cJ2_grow_2 5 = .ok (.istore_n 2, 1) := dk_61 (dk_at dksJ2_grow_2_0 5 rfl rfl)
theorem dJ2_grow_2_6 : decode cJ2_grow_2 6 = .ok (.iload_n 2, 1) := dk_28 (dk_at dksJ2_grow_2_0 6 rfl rfl)
theorem dJ2_grow_2_7 : decode cJ2_grow_2 7 = .ok (.ifCond .gt 13, 3) := dk_157 0 13 (dk_at dksJ2_grow_2_0 7 rfl rfl)
theorem dJ2_grow_2_10 : decode cJ2_grow_2 10 = .ok (.aload_n 0, 1) := dk_42 (dk_at dksJ2_grow_2_0 10 rfl rfl)
theorem dJ2_grow_2_11 : decode cJ2_grow_2 11 = .ok (.getfield 9, 3) := dk_180 0 9 (dk_at dksJ2_grow_2_0 11 rfl rfl)
theorem dJ2_grow_2_14 : decode cJ2_grow_2 14 = .ok (.getstatic 39, 3) := dk_178 0 39 (dk_at dksJ2_grow_2_0 14 rfl rfl)
theorem dJ2_grow_2_17 : decode cJ2_grow_2 17 = .ok (.if_acmp .eq 28, 3) := dk_165 0 28 (dk_at dksJ2_grow_2_0 17 rfl rfl)
theorem dJ2_grow_2_20 : decode cJ2_grow_2 20 = .ok (.iload_n 2, 1) := dk_28 (dk_at dksJ2_grow_2_0 20 rfl rfl)
theorem dJ2_grow_2_21 : decode cJ2_grow_2 21 = .ok (.iload_n 1, 1) := dk_27 (dk_at dksJ2_grow_2_0 21 rfl rfl)
theorem dJ2_grow_2_22 : decode cJ2_grow_2 22 = .ok (.iload_n 2, 1) := dk_28 (dk_at dksJ2_grow_2_0 22 rfl rfl)
theorem dJ2_grow_2_23 : decode cJ2_grow_2 23 = .ok (.isub, 1) := dk_100 (dk_at dksJ2_grow_2_0 23 rfl rfl)
theorem dJ2_grow_2_24 : decode cJ2_grow_2 24 = .ok (.iload_n 2, 1) := dk_28 (dk_at dksJ2_grow_2_1 0 rfl rfl)
theorem dJ2_grow_2_25 : decode cJ2_grow_2 25 = .ok (.iconst 1, 1) := dk_4 (dk_at dksJ2_grow_2_1 1 rfl rfl)
theorem dJ2_grow_2_26 : decode cJ2_grow_2 26 = .ok (.ishr, 1) := dk_122 (dk_at dksJ2_grow_2_1 2 rfl rfl)
theorem dJ2_grow_2_27 : decode cJ2_grow_2 27 = .ok (.invokestatic 73, 3) := dk_184 0 73 (dk_at dksJ2_grow_2_1 3 rfl rfl)
theorem dJ2_grow_2_30 : decode cJ2_grow_2 30 = .ok (.istore_n 3, 1) := dk_62 (dk_at dksJ2_grow_2_1 6 rfl rfl)
theorem dJ2_grow_2_31 : decode cJ2_grow_2 31 = .ok (.aload_n 0, 1) := dk_42 (dk_at dksJ2_grow_2_1 7 rfl rfl)
theorem dJ2_grow_2_32 : decode cJ2_grow_2 32 = .ok (.aload_n 0, 1) := dk_42 (dk_at dksJ2_grow_2_1 8 rfl rfl)
theorem dJ2_grow_2_33 : decode cJ2_grow_2 33 = .ok (.getfield 9, 3) := dk_180 0 9 (dk_at dksJ2_grow_2_1 9 rfl rfl)
theorem dJ2_grow_2_36 : decode cJ2_grow_2 36 = .ok (.iload_n 3, 1) := dk_29 (dk_at dksJ2_grow_2_1 12 rfl rfl)
theorem dJ2_grow_2_37 : decode cJ2_grow_2 37 = .ok (.invokestatic 66, 3) := dk_184 0 66 (dk_at dksJ2_grow_2_1 13 rfl rfl)
theorem dJ2_grow_2_40 : decode cJ2_grow_2 40 = .ok (.dup_x1, 1) := dk_90 (dk_at dksJ2_grow_2_1 16 rfl rfl)
theorem dJ2_grow_2_41 : decode cJ2_grow_2 41 = .ok (.putfield 9, 3) := dk_181 0 9 (dk_at dksJ2_grow_2_1 17 rfl rfl)
theorem dJ2_grow_2_44 : decode cJ2_grow_2 44 = .ok (.areturn, 1) := dk_176 (dk_at dksJ2_grow_2_1 20 rfl rfl)
theorem dJ2_grow_2_45 : decode cJ2_grow_2 45 = .ok (.aload_n 0, 1) := dk_42 (dk_at dksJ2_grow_2_1 21 rfl rfl)
theorem dJ2_grow_2_46 : decode cJ2_grow_2 46 = .ok (.bipush 10, 2) := dk_16 10 (dk_at dksJ2_grow_2_1 22 rfl rfl)
theorem dJ2_grow_2_48 : decode cJ2_grow_2 48 = .ok (.iload_n 1, 1) := dk_27 (dk_at dksJ2_grow_2_2 0 rfl rfl)
theorem dJ2_grow_2_49 : decode cJ2_grow_2 49 = .ok (.invokestatic 79, 3) := dk_184 0 79 (dk_at dksJ2_grow_2_2 1 rfl rfl)
theorem dJ2_grow_2_52 : decode cJ2_grow_2 52 = .ok (.anewarray 7, 3) := dk_189 0 7 (dk_at dksJ2_grow_2_2 4 rfl rfl)
theorem dJ2_grow_2_55 : decode cJ2_grow_2 55 = .ok (.dup_x1, 1) := dk_90 (dk_at dksJ2_grow_2_2 7 rfl rfl)
theorem dJ2_grow_2_56 : decode cJ2_grow_2 56 = .ok (.putfield 9, 3) := dk_181 0 9 (dk_at dksJ2_grow_2_2 8 rfl rfl)
theorem dJ2_grow_2_59 : decode cJ2_grow_2 59 = .ok (.areturn, 1) := dk_176 (dk_at dksJ2_grow_2_2 11 rfl rfl)
theorem dJ2_grow_0 : decode cJ2_grow 0 = .ok (.aload_n 0, 1) := dk_42 (dk_at dksJ2_grow_0 0 rfl rfl)
theorem dJ2_grow_1 : decode cJ2_grow 1 = .ok (.aload_n 0, 1) := dk_42 (dk_at dksJ2_grow_0 1 rfl rfl)
theorem dJ2_grow_2 : decode cJ2_grow 2 = .ok (.getfield 48, 3) := dk_180 0 48 (dk_at dksJ2_grow_0 2 rfl rfl)
theorem dJ2_grow_5 : decode cJ2_grow 5 = .ok (.iconst 1, 1) := dk_4 (dk_at dksJ2_grow_0 5 rfl rfl)
theorem dJ2_grow_6 : decode cJ2_grow 6 = .ok (.iadd, 1) := dk_96 (dk_at dksJ2_grow_0 6 rfl rfl)
theorem dJ2_grow_7 : decode cJ2_grow 7 = .ok (.invokevirtual 69, 3) := dk_182 0 69 (dk_at dksJ2_grow_0 7 rfl rfl)
theorem dJ2_grow_10 : decode cJ2_grow 10 = .ok (.areturn, 1) := dk_176 (dk_at dksJ2_grow_0 10 rfl rfl)
theorem dJ2_add_2_0 : decode cJ2_add_2 0 = .ok (.iload_n 3, 1) := dk_29 (dk_at dksJ2_add_2_0 0 rfl rfl)
theorem dJ2_add_2_1 : decode cJ2_add_2 1 = .ok (.aload_n 2, 1) := dk_44 (dk_at dksJ2_add_2_0 1 rfl rfl)
theorem dJ2_add_2_2 : decode cJ2_add_2 2 = .ok (.arraylength, 1) := dk_190 (dk_at dksJ2_add_2_0 2 rfl rfl)
theorem dJ2_add_2_3 : decode cJ2_add_2 3 = .ok (.if_icmp .ne 8, 3) := dk_160 0 8 (dk_at dksJ2_add_2_0 3 rfl rfl)
theorem dJ2_add_2_6 : decode cJ2_add_2 6 = .ok (.aload_n 0, 1) := dk_42 (dk_at dksJ2_add_2_0 6 rfl rfl)
theorem dJ2_add_2_7 : decode cJ2_add_2 7 = .ok (.invokevirtual 129, 3) := dk_182 0 129 (dk_at dksJ2_add_2_0 7 rfl rfl)
theorem dJ2_add_2_10 : decode cJ2_add_2 10 = .ok (.astore_n 2, 1) := dk_77 (dk_at dksJ2_add_2_0 10 rfl rfl)
theorem dJ2_add_2_11 : decode cJ2_add_2 11 = .ok (.aload_n 2, 1) := dk_44 (dk_at dksJ2_add_2_0 11 rfl rfl)
theorem dJ2_add_2_12 : decode cJ2_add_2 12 = .ok (.iload_n 3, 1) := dk_29 (dk_at dksJ2_add_2_0 12 rfl rfl)
theorem dJ2_add_2_13 : decode cJ2_add_2 13 = .ok (.aload_n 1, 1) := dk_43 (dk_at dksJ2_add_2_0 13 rfl rfl)
theorem dJ2_add_2_14 : decode cJ2_add_2 14 = .ok (.aastore, 1) := dk_83 (dk_at dksJ2_add_2_0 14 rfl rfl)
theorem dJ2_add_2_15 : decode cJ2_add_2 15 = .ok (.aload_n 0, 1) := dk_42 (dk_at dksJ2_add_2_0 15 rfl rfl)
theorem dJ2_add_2_16 : decode cJ2_add_2 16 = .ok (.iload_n 3, 1) := dk_29 (dk_at dksJ2_add_2_0 16 rfl rfl)
theorem dJ2_add_2_17 : decode cJ2_add_2 17 = .ok (.iconst 1, 1) := dk_4 (dk_at dksJ2_add_2_0 17 rfl rfl)
theorem dJ2_add_2_18 : decode cJ2_add_2 18 = .ok (.iadd, 1) := dk_96 (dk_at dksJ2_add_2_0 18 rfl rfl)
theorem dJ2_add_2_19 : decode cJ2_add_2 19 = .ok (.putfield 48, 3) := dk_181 0 48 (dk_at dksJ2_add_2_0 19 rfl rfl)
theorem dJ2_add_2_22 : decode cJ2_add_2 22 = .ok (.return_, 1) := dk_177 (dk_at dksJ2_add_2_0 22 rfl rfl)
theorem dJ2_add_0 : decode cJ2_add 0 = .ok (.aload_n 0, 1) := dk_42 (dk_at dksJ2_add_0 0 rfl rfl)
theorem dJ2_add_1 : decode cJ2_add 1 = .ok (.dup, 1) := dk_89 (dk_at dksJ2_add_0 1 rfl rfl)
theorem dJ2_add_2 : decode cJ2_add 2 = .ok (.getfield 63, 3) := dk_180 0 63 (dk_at dksJ2_add_0 2 rfl rfl)
theorem dJ2_add_5 : decode cJ2_add 5 = .ok (.iconst 1, 1) := dk_4 (dk_at dksJ2_add_0 5 rfl rfl)
theorem dJ2_add_6 : decode cJ2_add 6 = .ok (.iadd, 1) := dk_96 (dk_at dksJ2_add_0 6 rfl rfl)
theorem dJ2_add_7 : decode cJ2_add 7 = .ok (.putfield 63, 3) := dk_181 0 63 (dk_at dksJ2_add_0 7 rfl rfl)
theorem dJ2_add_10 : decode cJ2_add 10 = .ok (.aload_n 0, 1) := dk_42 (dk_at dksJ2_add_0 10 rfl rfl)
theorem dJ2_add_11 : decode cJ2_add 11 = .ok (.aload_n 1, 1) := dk_43 (dk_at dksJ2_add_0 11 rfl rfl)
theorem dJ2_add_12 : decode cJ2_add 12 = .ok (.aload_n 0, 1) := dk_42 (dk_at dksJ2_add_0 12 rfl rfl)
theorem dJ2_add_13 : decode cJ2_add 13 = .ok (.getfield 9, 3) := dk_180 0 9 (dk_at dksJ2_add_0 13 rfl rfl)
theorem dJ2_add_16 : decode cJ2_add 16 = .ok (.aload_n 0, 1) := dk_42 (dk_at dksJ2_add_0 16 rfl rfl)
theorem dJ2_add_17 : decode cJ2_add 17 = .ok (.getfield 48, 3) := dk_180 0 48 (dk_at dksJ2_add_0 17 rfl rfl)
theorem dJ2_add_20 : decode cJ2_add 20 = .ok (.invokevirtual 131, 3) := dk_182 0 131 (dk_at dksJ2_add_0 20 rfl rfl)
theorem dJ2_add_23 : decode cJ2_add 23 = .ok (.iconst 1, 1) := dk_4 (dk_at dksJ2_add_0 23 rfl rfl)
theorem dJ2_add_24 : decode cJ2_add 24 = .ok (.ireturn, 1) := dk_172 (dk_at dksJ2_add_1 0 rfl rfl)
theorem dJ2_rangeCheckForAdd_0 : decode cJ2_rangeCheckForAdd 0 = .ok (.iload_n 1, 1) := dk_27 (dk_at dksJ2_rangeCheckForAdd_0 0 rfl rfl)
theorem dJ2_rangeCheckForAdd_1 : decode cJ2_rangeCheckForAdd 1 = .ok (.aload_n 0, 1) := dk_42 (dk_at dksJ2_rangeCheckForAdd_0 1 rfl rfl)
theorem dJ2_rangeCheckForAdd_2 : decode cJ2_rangeCheckForAdd 2 = .ok (.getfield 48, 3) := dk_180 0 48 (dk_at dksJ2_rangeCheckForAdd_0 2 rfl rfl)
theorem dJ2_rangeCheckForAdd_5 : decode cJ2_rangeCheckForAdd 5 = .ok (.if_icmp .gt 7, 3) := dk_163 0 7 (dk_at dksJ2_rangeCheckForAdd_0 5 rfl rfl)
theorem dJ2_rangeCheckForAdd_8 : decode cJ2_rangeCheckForAdd 8 = .ok (.iload_n 1, 1) := dk_27 (dk_at dksJ2_rangeCheckForAdd_0 8 rfl rfl)
theorem dJ2_rangeCheckForAdd_9 : decode cJ2_rangeCheckForAdd 9 = .ok (.ifCond .ge 16, 3) := dk_156 0 16 (dk_at dksJ2_rangeCheckForAdd_0 9 rfl rfl)
theorem dJ2_rangeCheckForAdd_25 : decode cJ2_rangeCheckForAdd 25 = .ok (.return_, 1) := dk_177 (dk_at dksJ2_rangeCheckForAdd_1 1 rfl rfl)
theorem dJ2_add_3_0 : decode cJ2_add_3 0 = .ok (.aload_n 0, 1) := dk_42 (dk_at dksJ2_add_3_0 0 rfl rfl)
theorem dJ2_add_3_1 : decode cJ2_add_3 1 = .ok (.iload_n 1, 1) := dk_27 (dk_at dksJ2_add_3_0 1 rfl rfl)
theorem dJ2_add_3_2 : decode cJ2_add_3 2 = .ok (.invokevirtual 135, 3) := dk_182 0 135 (dk_at dksJ2_add_3_0 2 rfl rfl)
theorem dJ2_add_3_5 : decode cJ2_add_3 5 = .ok (.aload_n 0, 1) := dk_42 (dk_at dksJ2_add_3_0 5 rfl rfl)
theorem dJ2_add_3_6 : decode cJ2_add_3 6 = .ok (.dup, 1) := dk_89 (dk_at dksJ2_add_3_0 6 rfl rfl)
theorem dJ2_add_3_7 : decode cJ2_add_3 7 = .ok (.getfield 63, 3) := dk_180 0 63 (dk_at dksJ2_add_3_0 7 rfl rfl)
theorem dJ2_add_3_10 : decode cJ2_add_3 10 = .ok (.iconst 1, 1) := dk_4 (dk_at dksJ2_add_3_0 10 rfl rfl)
theorem dJ2_add_3_11 : decode cJ2_add_3 11 = .ok (.iadd, 1) := dk_96 (dk_at dksJ2_add_3_0 11 rfl rfl)
theorem dJ2_add_3_12 : decode cJ2_add_3 12 = .ok (.putfield 63, 3) := dk_181 0 63 (dk_at dksJ2_add_3_0 12 rfl rfl)
theorem dJ2_add_3_15 : decode cJ2_add_3 15 = .ok (.aload_n 0, 1) := dk_42 (dk_at dksJ2_add_3_0 15 rfl rfl)
theorem dJ2_add_3_16 : decode cJ2_add_3 16 = .ok (.getfield 48, 3) := dk_180 0 48 (dk_at dksJ2_add_3_0 16 rfl rfl)
theorem dJ2_add_3_19 : decode cJ2_add_3 19 = .ok (.dup, 1) := dk_89 (dk_at dksJ2_add_3_0 19 rfl rfl)
theorem dJ2_add_3_20 : decode cJ2_add_3 20 = .ok (.istore_n 3, 1) := dk_62 (dk_at dksJ2_add_3_0 20 rfl rfl)
theorem dJ2_add_3_21 : decode cJ2_add_3 21 = .ok (.aload_n 0, 1) := dk_42 (dk_at dksJ2_add_3_0 21 rfl rfl)
theorem dJ2_add_3_22 : decode cJ2_add_3 22 = .ok (.getfield 9, 3) := dk_180 0 9 (dk_at dksJ2_add_3_1 0 rfl rfl)
theorem dJ2_add_3_25 : decode cJ2_add_3 25 = .ok (.dup, 1) := dk_89 (dk_at dksJ2_add_3_1 3 rfl rfl)
theorem dJ2_add_3_26 : decode cJ2_add_3 26 = .ok (.astore 4, 2) := dk_58 4 (dk_at dksJ2_add_3_1 4 rfl rfl)
theorem dJ2_add_3_28 : decode cJ2_add_3 28 = .ok (.arraylength, 1) := dk_190 (dk_at dksJ2_add_3_1 6 rfl rfl)
theorem dJ2_add_3_29 : decode cJ2_add_3 29 = .ok (.if_icmp .ne 9, 3) := dk_160 0 9 (dk_at dksJ2_add_3_1 7 rfl rfl)
theorem dJ2_add_3_32 : decode cJ2_add_3 32 = .ok (.aload_n 0, 1) := dk_42 (dk_at dksJ2_add_3_1 10 rfl rfl)
theorem dJ2_add_3_33 : decode cJ2_add_3 33 = .ok (.invokevirtual 129, 3) := dk_182 0 129 (dk_at dksJ2_add_3_1 11 rfl rfl)
theorem dJ2_add_3_36 : decode cJ2_add_3 36 = .ok (.astore 4, 2) := dk_58 4 (dk_at dksJ2_add_3_1 14 rfl rfl)
theorem dJ2_add_3_38 : decode cJ2_add_3 38 = .ok (.aload 4, 2) := dk_25 4 (dk_at dksJ2_add_3_1 16 rfl rfl)
theorem dJ2_add_3_40 : decode cJ2_add_3 40 = .ok (.iload_n 1, 1) := dk_27 (dk_at dksJ2_add_3_1 18 rfl rfl)
theorem dJ2_add_3_41 : decode cJ2_add_3 41 = .ok (.aload 4, 2) := dk_25 4 (dk_at dksJ2_add_3_1 19 rfl rfl)
theorem dJ2_add_3_43 : decode cJ2_add_3 43 = .ok (.iload_n 1, 1) := dk_27 (dk_at dksJ2_add_3_1 21 rfl rfl)
theorem dJ2_add_3_44 : decode cJ2_add_3 44 = .ok (.iconst 1, 1) := dk_4 (dk_at dksJ2_add_3_1 22 rfl rfl)
theorem dJ2_add_3_45 : decode cJ2_add_3 45 = .ok (.iadd, 1) := dk_96 (dk_at dksJ2_add_3_1 23 rfl rfl)
theorem dJ2_add_3_46 : decode cJ2_add_3 46 = .ok (.iload_n 3, 1) := dk_29 (dk_at dksJ2_add_3_2 0 rfl rfl)
theorem dJ2_add_3_47 : decode cJ2_add_3 47 = .ok (.iload_n 1, 1) := dk_27 (dk_at dksJ2_add_3_2 1 rfl rfl)
theorem dJ2_add_3_48 : decode cJ2_add_3 48 = .ok (.isub, 1) := dk_100 (dk_at dksJ2_add_3_2 2 rfl rfl)
theorem dJ2_add_3_49 : decode cJ2_add_3 49 = .ok (.invokestatic 112, 3) := dk_184 0 112 (dk_at dksJ2_add_3_2 3 rfl rfl)
theorem dJ2_add_3_52 : decode cJ2_add_3 52 = .ok (.aload 4, 2) := dk_25 4 (dk_at dksJ2_add_3_2 6 rfl rfl)
theorem dJ2_add_3_54 : decode cJ2_add_3 54 = .ok (.iload_n 1, 1) := dk_27 (dk_at dksJ2_add_3_2 8 rfl rfl)
theorem dJ2_add_3_55 : decode cJ2_add_3 55 = .ok (.aload_n 2, 1) := dk_44 (dk_at dksJ2_add_3_2 9 rfl rfl)
theorem dJ2_add_3_56 : decode cJ2_add_3 56 = .ok (.aastore, 1) := dk_83 (dk_at dksJ2_add_3_2 10 rfl rfl)
theorem dJ2_add_3_57 : decode cJ2_add_3 57 = .ok (.aload_n 0, 1) := dk_42 (dk_at dksJ2_add_3_2 11 rfl rfl)
theorem dJ2_add_3_58 : decode cJ2_add_3 58 = .ok (.iload_n 3, 1) := dk_29 (dk_at dksJ2_add_3_2 12 rfl rfl)
theorem dJ2_add_3_59 : decode cJ2_add_3 59 = .ok (.iconst 1, 1) := dk_4 (dk_at dksJ2_add_3_2 13 rfl rfl)
theorem dJ2_add_3_60 : decode cJ2_add_3 60 = .ok (.iadd, 1) := dk_96 (dk_at dksJ2_add_3_2 14 rfl rfl)
theorem dJ2_add_3_61 : decode cJ2_add_3 61 = .ok (.putfield 48, 3) := dk_181 0 48 (dk_at dksJ2_add_3_2 15 rfl rfl)
theorem dJ2_add_3_64 : decode cJ2_add_3 64 = .ok (.return_, 1) := dk_177 (dk_at dksJ2_add_3_2 18 rfl rfl)
theorem dJ2_fastRemove_0 : decode cJ2_fastRemove 0 = .ok (.aload_n 0, 1) := dk_42 (dk_at dksJ2_fastRemove_0 0 rfl rfl)
theorem dJ2_fastRemove_1 : decode cJ2_fastRemove 1 = .ok (.dup, 1) := dk_89 (dk_at dksJ2_fastRemove_0 1 rfl rfl)
theorem dJ2_fastRemove_2 : decode cJ2_fastRemove 2 = .ok (.getfield 63, 3) := dk_180 0 63 (dk_at dksJ2_fastRemove_0 2 rfl rfl)
theorem dJ2_fastRemove_5 : decode cJ2_fastRemove 5 = .ok (.iconst 1, 1) := dk_4 (dk_at dksJ2_fastRemove_0 5 rfl rfl)
theorem dJ2_fastRemove_6 : decode cJ2_fastRemove 6 = .ok (.iadd, 1) := dk_96 (dk_at dksJ2_fastRemove_0 6 rfl rfl)
theorem dJ2_fastRemove_7 : decode cJ2_fastRemove 7 = .ok (.putfield 63, 3) := dk_181 0 63 (dk_at dksJ2_fastRemove_0 7 rfl rfl)
theorem dJ2_fastRemove_10 : decode cJ2_fastRemove 10 = .ok (.aload_n 0, 1) := dk_42 (dk_at dksJ2_fastRemove_0 10 rfl rfl)
theorem dJ2_fastRemove_11 : decode cJ2_fastRemove 11 = .ok (.getfield 48, 3) := dk_180 0 48 (dk_at dksJ2_fastRemove_0 11 rfl rfl)
theorem dJ2_fastRemove_14 : decode cJ2_fastRemove 14 = .ok (.iconst 1, 1) := dk_4 (dk_at dksJ2_fastRemove_0 14 rfl rfl)
theorem dJ2_fastRemove_15 : decode cJ2_fastRemove 15 = .ok (.isub, 1) := dk_100 (dk_at dksJ2_fastRemove_0 15 rfl rfl)
theorem dJ2_fastRemove_16 : decode cJ2_fastRemove 16 = .ok (.dup, 1) := dk_89 (dk_at dksJ2_fastRemove_0 16 rfl rfl)
theorem dJ2_fastRemove_17 : decode cJ2_fastRemove 17 = .ok (.istore_n 3, 1) := dk_62 (dk_at dksJ2_fastRemove_0 17 rfl rfl)
theorem dJ2_fastRemove_18 : decode cJ2_fastRemove 18 = .ok (.iload_n 2, 1) := dk_28 (dk_at dksJ2_fastRemove_0 18 rfl rfl)
theorem dJ2_fastRemove_19 : decode cJ2_fastRemove 19 = .ok (.if_icmp .le 15, 3) := dk_164 0 15 (dk_at dksJ2_fastRemove_0 19 rfl rfl)
theorem dJ2_fastRemove_22 : decode cJ2_fastRemove 22 = .ok (.aload_n 1, 1) := dk_43 (dk_at dksJ2_fastRemove_0 22 rfl rfl)
theorem dJ2_fastRemove_23 : decode cJ2_fastRemove 23 = .ok (.iload_n 2, 1) := dk_28 (dk_at dksJ2_fastRemove_0 23 rfl rfl)
theorem dJ2_fastRemove_24 : decode cJ2_fastRemove 24 = .ok (.iconst 1, 1) := dk_4 (dk_at dksJ2_fastRemove_1 0 rfl rfl)
theorem dJ2_fastRemove_25 : decode cJ2_fastRemove 25 = .ok (.iadd, 1) := dk_96 (dk_at dksJ2_fastRemove_1 1 rfl rfl)
theorem dJ2_fastRemove_26 : decode cJ2_fastRemove 26 = .ok (.aload_n 1, 1) := dk_43 (dk_at dksJ2_fastRemove_1 2 rfl rfl)
theorem dJ2_fastRemove_27 : decode cJ2_fastRemove 27 = .ok (.iload_n 2, 1) := dk_28 (dk_at dksJ2_fastRemove_1 3 rfl rfl)
theorem dJ2_fastRemove_28 : decode cJ2_fastRemove 28 = .ok (.iload_n 3, 1) := dk_29 (dk_at dksJ2_fastRemove_1 4 rfl rfl)
theorem dJ2_fastRemove_29 : decode cJ2_fastRemove 29 = .ok (.iload_n 2, 1) := dk_28 (dk_at dksJ2_fastRemove_1 5 rfl rfl)
theorem dJ2_fastRemove_30 : decode cJ2_fastRemove 30 = .ok (.isub, 1) := dk_100 (dk_at dksJ2_fastRemove_1 6 rfl rfl)
theorem dJ2_fastRemove_31 : decode cJ2_fastRemove 31 = .ok (.invokestatic 112, 3) := dk_184 0 112 (dk_at dksJ2_fastRemove_1 7 rfl rfl)
theorem dJ2_fastRemove_34 : decode cJ2_fastRemove 34 = .ok (.aload_n 1, 1) := dk_43 (dk_at dksJ2_fastRemove_1 10 rfl rfl)
theorem dJ2_fastRemove_35 : decode cJ2_fastRemove 35 = .ok (.aload_n 0, 1) := dk_42 (dk_at dksJ2_fastRemove_1 11 rfl rfl)
theorem dJ2_fastRemove_36 : decode cJ2_fastRemove 36 = .ok (.iload_n 3, 1) := dk_29 (dk_at dksJ2_fastRemove_1 12 rfl rfl)
theorem dJ2_fastRemove_37 : decode cJ2_fastRemove 37 = .ok (.dup_x1, 1) := dk_90 (dk_at dksJ2_fastRemove_1 13 rfl rfl)
theorem dJ2_fastRemove_38 : decode cJ2_fastRemove 38 = .ok (.putfield 48, 3) := dk_181 0 48 (dk_at dksJ2_fastRemove_1 14 rfl rfl)
theorem dJ2_fastRemove_41 : decode cJ2_fastRemove 41 = .ok (.aconst_null, 1) := dk_1 (dk_at dksJ2_fastRemove_1 17 rfl rfl)
theorem dJ2_fastRemove_42 : decode cJ2_fastRemove 42 = .ok (.aastore, 1) := dk_83 (dk_at dksJ2_fastRemove_1 18 rfl rfl)
theorem dJ2_fastRemove_43 : decode cJ2_fastRemove 43 = .ok (.return_, 1) := dk_177 (dk_at dksJ2_fastRemove_1 19 rfl rfl)
theorem dJ2_remove_0 : decode cJ2_remove 0 = .ok (.iload_n 1, 1) := dk_27 (dk_at dksJ2_remove_0 0 rfl rfl)
theorem dJ2_remove_1 : decode cJ2_remove 1 = .ok (.aload_n 0, 1) := dk_42 (dk_at dksJ2_remove_0 1 rfl rfl)
theorem dJ2_remove_2 : decode cJ2_remove 2 = .ok (.getfield 48, 3) := dk_180 0 48 (dk_at dksJ2_remove_0 2 rfl rfl)
theorem dJ2_remove_5 : decode cJ2_remove 5 = .ok (.invokestatic 118, 3) := dk_184 0 118 (dk_at dksJ2_remove_0 5 rfl rfl)
theorem dJ2_remove_8 : decode cJ2_remove 8 = .ok (.pop, 1) := dk_87 (dk_at dksJ2_remove_0 8 rfl rfl)
theorem dJ2_remove_9 : decode cJ2_remove 9 = .ok (.aload_n 0, 1) := dk_42 (dk_at dksJ2_remove_0 9 rfl rfl)
theorem dJ2_remove_10 : decode cJ2_remove 10 = .ok (.getfield 9, 3) := dk_180 0 9 (dk_at dksJ2_remove_0 10 rfl rfl)
theorem dJ2_remove_13 : decode cJ2_remove 13 = .ok (.astore_n 2, 1) := dk_77 (dk_at dksJ2_remove_0 13 rfl rfl)
theorem dJ2_remove_14 : decode cJ2_remove 14 = .ok (.aload_n 2, 1) := dk_44 (dk_at dksJ2_remove_0 14 rfl rfl)
theorem dJ2_remove_15 : decode cJ2_remove 15 = .ok (.iload_n 1, 1) := dk_27 (dk_at dksJ2_remove_0 15 rfl rfl)
theorem dJ2_remove_16 : decode cJ2_remove 16 = .ok (.aaload, 1) := dk_50 (dk_at dksJ2_remove_0 16 rfl rfl)
theorem dJ2_remove_17 : decode cJ2_remove 17 = .ok (.astore_n 3, 1) := dk_78 (dk_at dksJ2_remove_0 17 rfl rfl)
theorem dJ2_remove_18 : decode cJ2_remove 18 = .ok (.aload_n 0, 1) := dk_42 (dk_at dksJ2_remove_0 18 rfl rfl)
theorem dJ2_remove_19 : decode cJ2_remove 19 = .ok (.aload_n 2, 1) := dk_44 (dk_at dksJ2_remove_0 19 rfl rfl)
theorem dJ2_remove_20 : decode cJ2_remove 20 = .ok (.iload_n 1, 1) := dk_27 (dk_at dksJ2_remove_0 20 rfl rfl)
theorem dJ2_remove_21 : decode cJ2_remove 21 = .ok (.invokevirtual 144, 3) := dk_182 0 144 (dk_at dksJ2_remove_0 21 rfl rfl)
theorem dJ2_remove_24 : decode cJ2_remove 24 = .ok (.aload_n 3, 1) := dk_45 (dk_at dksJ2_remove_1 0 rfl rfl)
theorem dJ2_remove_25 : decode cJ2_remove 25 = .ok (.areturn, 1) := dk_176 (dk_at dksJ2_remove_1 1 rfl rfl)
theorem q144 : (Jvm.Cond.methodLink "java/util/ArrayList" (1 : Nat) ({ cls := "java/util/AbstractList", name := "<init>", desc := "()V" } : Jvm.MethodName)) ∈ lw_all := lw_g (lw_at lw_m1 82 rfl) rfl
theorem q145 : (Jvm.Cond.instanceMethod ({ cls := "java/util/AbstractList", name := "<init>", desc := "()V" } : Jvm.MethodName)) ∈ lw_all := lw_g (lw_at lw_m1 83 rfl) rfl
theorem q146 : (Jvm.Cond.code ({ cls := "java/util/AbstractList", name := "<init>", desc := "()V" } : Jvm.MethodName) prog_41_method_1_code (1 : Nat) (Option.none : Option Jvm.ClassFile.FieldType)) ∈ lw_all := lw_g (lw_at lw_m1 84 rfl) rfl
theorem q147 : (Jvm.Cond.methodLink "java/util/AbstractList" (1 : Nat) ({ cls := "java/util/AbstractCollection", name := "<init>", desc := "()V" } : Jvm.MethodName)) ∈ lw_all := lw_g (lw_at lw_m1 85 rfl) rfl
theorem q148 : (Jvm.Cond.instanceMethod ({ cls := "java/util/AbstractCollection", name := "<init>", desc := "()V" } : Jvm.MethodName)) ∈ lw_all := lw_g (lw_at lw_m1 86 rfl) rfl
theorem q149 : (Jvm.Cond.code ({ cls := "java/util/AbstractCollection", name := "<init>", desc := "()V" } : Jvm.MethodName) prog_40_method_1_code (1 : Nat) (Option.none : Option Jvm.ClassFile.FieldType)) ∈ lw_all := lw_g (lw_at lw_m1 87 rfl) rfl
theorem q150 : (Jvm.Cond.methodLink "java/util/AbstractCollection" (1 : Nat) ({ cls := "java/lang/Object", name := "<init>", desc := "()V" } : Jvm.MethodName)) ∈ lw_all := lw_g (lw_at lw_m1 88 rfl) rfl
theorem q151 : (Jvm.Cond.fieldLink "java/util/ArrayList" (39 : Nat) "java/util/ArrayList" "DEFAULTCAPACITY_EMPTY_ELEMENTDATA" "[Ljava/lang/Object;") ∈ lw_all := lw_g (lw_at lw_m1 89 rfl) rfl
theorem q153 : (Jvm.Cond.fieldLink "java/util/ArrayList" (9 : Nat) "java/util/ArrayList" "elementData" "[Ljava/lang/Object;") ∈ lw_all := lw_g (lw_at lw_m1 91 rfl) rfl
theorem q154 : (Jvm.Cond.fieldLink "java/util/ArrayList" (48 : Nat) "java/util/ArrayList" "size" "I") ∈ lw_all := lw_g (lw_at lw_m1 92 rfl) rfl
theorem q155 : (Jvm.Cond.fieldLink "java/util/AbstractList" (7 : Nat) "java/util/AbstractList" "modCount" "I") ∈ lw_all := lw_g (lw_at lw_m1 93 rfl) rfl
theorem q156 : (Jvm.Cond.fieldLink "java/util/ArrayList" (63 : Nat) "java/util/ArrayList" "modCount" "I") ∈ lw_all := lw_g (lw_at lw_m1 94 rfl) rfl
theorem q157 : (Jvm.Cond.sameField "java/util/ArrayList" "java/util/AbstractList" "modCount" "I") ∈ lw_all := lw_g (lw_at lw_m1 95 rfl) rfl
theorem q1814 : (Jvm.Cond.methodLink "java/util/ArrayList" (135 : Nat) ({ cls := "java/util/ArrayList", name := "rangeCheckForAdd", desc := "(I)V" } : Jvm.MethodName)) ∈ lw_all := lw_g (lw_at lw_m8 72 rfl) rfl
theorem q1816 : (Jvm.Cond.instanceMethod ({ cls := "java/util/ArrayList", name := "rangeCheckForAdd", desc := "(I)V" } : Jvm.MethodName)) ∈ lw_all := lw_g (lw_at lw_m8 74 rfl) rfl
theorem q1817 : (Jvm.Cond.code ({ cls := "java/util/ArrayList", name := "rangeCheckForAdd", desc := "(I)V" } : Jvm.MethodName) prog_44_method_45_code (2 : Nat) (Option.none : Option Jvm.ClassFile.FieldType)) ∈ lw_all := lw_g (lw_at lw_m8 75 rfl) rfl
theorem q1831 : (Jvm.Cond.methodLink "java/util/ArrayList" (112 : Nat) ({ cls := "java/lang/System", name := "arraycopy", desc := "(Ljava/lang/Object;ILjava/lang/Object;II)V" } : Jvm.MethodName)) ∈ lw_all := lw_g (lw_at lw_m8 89 rfl) rfl
theorem q1843 : (Jvm.Cond.methodLink "java/util/ArrayList" (144 : Nat) ({ cls := "java/util/ArrayList", name := "fastRemove", desc := "([Ljava/lang/Object;I)V" } : Jvm.MethodName)) ∈ lw_all := lw_g (lw_at lw_m8 101 rfl) rfl
theorem q1845 : (Jvm.Cond.instanceMethod ({ cls := "java/util/ArrayList", name := "fastRemove", desc := "([Ljava/lang/Object;I)V" } : Jvm.MethodName)) ∈ lw_all := lw_g (lw_at lw_m8 103 rfl) rfl
theorem q1846 : (Jvm.Cond.code ({ cls := "java/util/ArrayList", name := "fastRemove", desc := "([Ljava/lang/Object;I)V" } : Jvm.MethodName) prog_44_method_39_code (4 : Nat) (Option.none : Option Jvm.ClassFile.FieldType)) ∈ lw_all := lw_g (lw_at lw_m8 104 rfl) rfl
theorem q191 : (Jvm.Cond.arrayOver (Jvm.ClassFile.FieldType.object "java/lang/Object")) ∈ lw_tbl := lw_at lw_m1 129 rfl
theorem q207 : (Jvm.Cond.methodLink "java/util/ArrayList" (131 : Nat) ({ cls := "java/util/ArrayList", name := "add", desc := "(Ljava/lang/Object;[Ljava/lang/Object;I)V" } : Jvm.MethodName)) ∈ lw_all := lw_g (lw_at lw_m1 145 rfl) rfl
theorem q209 : (Jvm.Cond.instanceMethod ({ cls := "java/util/ArrayList", name := "add", desc := "(Ljava/lang/Object;[Ljava/lang/Object;I)V" } : Jvm.MethodName)) ∈ lw_all := lw_g (lw_at lw_m1 147 rfl) rfl
theorem q210 : (Jvm.Cond.code ({ cls := "java/util/ArrayList", name := "add", desc := "(Ljava/lang/Object;[Ljava/lang/Object;I)V" } : Jvm.MethodName) prog_44_method_24_code (4 : Nat) (Option.none : Option Jvm.ClassFile.FieldType)) ∈ lw_all := lw_g (lw_at lw_m1 148 rfl) rfl
theorem q211 : (Jvm.Cond.methodLink "java/util/ArrayList" (129 : Nat) ({ cls := "java/util/ArrayList", name := "grow", desc := "()[Ljava/lang/Object;" } : Jvm.MethodName)) ∈ lw_all := lw_g (lw_at lw_m1 149 rfl) rfl
theorem q213 : (Jvm.Cond.instanceMethod ({ cls := "java/util/ArrayList", name := "grow", desc := "()[Ljava/lang/Object;" } : Jvm.MethodName)) ∈ lw_all := lw_g (lw_at lw_m1 151 rfl) rfl
theorem q214 : (Jvm.Cond.code ({ cls := "java/util/ArrayList", name := "grow", desc := "()[Ljava/lang/Object;" } : Jvm.MethodName) prog_44_method_7_code (1 : Nat) (Option.some (Jvm.ClassFile.FieldType.array (Jvm.ClassFile.FieldType.object "java/lang/Object")))) ∈ lw_all := lw_g (lw_at lw_m1 152 rfl) rfl
theorem q215 : (Jvm.Cond.methodLink "java/util/ArrayList" (69 : Nat) ({ cls := "java/util/ArrayList", name := "grow", desc := "(I)[Ljava/lang/Object;" } : Jvm.MethodName)) ∈ lw_all := lw_g (lw_at lw_m1 153 rfl) rfl
theorem q217 : (Jvm.Cond.instanceMethod ({ cls := "java/util/ArrayList", name := "grow", desc := "(I)[Ljava/lang/Object;" } : Jvm.MethodName)) ∈ lw_all := lw_g (lw_at lw_m1 155 rfl) rfl
theorem q218 : (Jvm.Cond.code ({ cls := "java/util/ArrayList", name := "grow", desc := "(I)[Ljava/lang/Object;" } : Jvm.MethodName) prog_44_method_6_code (4 : Nat) (Option.some (Jvm.ClassFile.FieldType.array (Jvm.ClassFile.FieldType.object "java/lang/Object")))) ∈ lw_all := lw_g (lw_at lw_m1 156 rfl) rfl
theorem q219 : (Jvm.Cond.methodLink "java/util/ArrayList" (73 : Nat) ({ cls := "jdk/internal/util/ArraysSupport", name := "newLength", desc := "(III)I" } : Jvm.MethodName)) ∈ lw_all := lw_g (lw_at lw_m1 157 rfl) rfl
theorem q229 : (Jvm.Cond.methodLink "java/util/ArrayList" (66 : Nat) ({ cls := "java/util/Arrays", name := "copyOf", desc := "([Ljava/lang/Object;I)[Ljava/lang/Object;" } : Jvm.MethodName)) ∈ lw_all := lw_g (lw_at lw_m1 167 rfl) rfl
theorem q230 : (Jvm.Cond.static ({ cls := "java/util/Arrays", name := "copyOf", desc := "([Ljava/lang/Object;I)[Ljava/lang/Object;" } : Jvm.MethodName)) ∈ lw_all := lw_g (lw_at lw_m1 168 rfl) rfl
theorem q231 : (Jvm.Cond.code ({ cls := "java/util/Arrays", name := "copyOf", desc := "([Ljava/lang/Object;I)[Ljava/lang/Object;" } : Jvm.MethodName) prog_45_method_119_code (2 : Nat) (Option.some (Jvm.ClassFile.FieldType.array (Jvm.ClassFile.FieldType.object "java/lang/Object")))) ∈ lw_all := lw_g (lw_at lw_m1 169 rfl) rfl
theorem q232 : (Jvm.Cond.methodLink "java/util/Arrays" (86 : Nat) ({ cls := "java/lang/Object", name := "getClass", desc := "()Ljava/lang/Class;" } : Jvm.MethodName)) ∈ lw_all := lw_g (lw_at lw_m1 170 rfl) rfl
theorem q233 : (Jvm.Cond.instanceMethod ({ cls := "java/lang/Object", name := "getClass", desc := "()Ljava/lang/Class;" } : Jvm.MethodName)) ∈ lw_all := lw_g (lw_at lw_m1 171 rfl) rfl
theorem q2523 : (Jvm.Cond.selects "[Ljava/lang/Object;" ({ cls := "java/lang/Object", name := "getClass", desc := "()Ljava/lang/Class;" } : Jvm.MethodName) ({ cls := "java/lang/Object", name := "getClass", desc := "()Ljava/lang/Class;" } : Jvm.MethodName)) ∈ lw_all := lw_g (lw_at lw_m11 61 rfl) rfl
theorem q2524 : (Jvm.Cond.declares ({ cls := "java/lang/Object", name := "getClass", desc := "()Ljava/lang/Class;" } : Jvm.MethodName)) ∈ lw_tbl := lw_at lw_m11 62 rfl
theorem q259 : (Jvm.Cond.native ({ cls := "java/lang/Object", name := "getClass", desc := "()Ljava/lang/Class;" } : Jvm.MethodName)) ∈ lw_all := lw_g (lw_at lw_m1 197 rfl) rfl
theorem q260 : (Jvm.Cond.methodLink "java/util/Arrays" (300 : Nat) ({ cls := "java/util/Arrays", name := "copyOf", desc := "([Ljava/lang/Object;ILjava/lang/Class;)[Ljava/lang/Object;" } : Jvm.MethodName)) ∈ lw_all := lw_g (lw_at lw_m1 198 rfl) rfl
theorem q261 : (Jvm.Cond.static ({ cls := "java/util/Arrays", name := "copyOf", desc := "([Ljava/lang/Object;ILjava/lang/Class;)[Ljava/lang/Object;" } : Jvm.MethodName)) ∈ lw_all := lw_g (lw_at lw_m1 199 rfl) rfl
theorem q262 : (Jvm.Cond.code ({ cls := "java/util/Arrays", name := "copyOf", desc := "([Ljava/lang/Object;ILjava/lang/Class;)[Ljava/lang/Object;" } : Jvm.MethodName) prog_45_method_120_code (4 : Nat) (Option.some (Jvm.ClassFile.FieldType.array (Jvm.ClassFile.FieldType.object "java/lang/Object")))) ∈ lw_all := lw_g (lw_at lw_m1 200 rfl) rfl
theorem q263 : (Jvm.Cond.classLink "java/util/Arrays" (110 : Nat) "[Ljava/lang/Object;") ∈ lw_all := lw_g (lw_at lw_m1 201 rfl) rfl
theorem q264 : (Jvm.Cond.classLink "java/util/Arrays" (2 : Nat) "java/lang/Object") ∈ lw_all := lw_g (lw_at lw_m1 202 rfl) rfl
theorem q271 : (Jvm.Cond.methodLink "java/util/ArrayList" (79 : Nat) ({ cls := "java/lang/Math", name := "max", desc := "(II)I" } : Jvm.MethodName)) ∈ lw_all := lw_g (lw_at lw_m1 209 rfl) rfl
theorem q272 : (Jvm.Cond.classLink "java/util/ArrayList" (7 : Nat) "java/lang/Object") ∈ lw_all := lw_g (lw_at lw_m1 210 rfl) rfl
theorem q66 : (Jvm.Cond.initialized "java/util/AbstractCollection") ∈ lw_all := lw_g (lw_at lw_m1 4 rfl) rfl
theorem q67 : (Jvm.Cond.initialized "java/util/AbstractList") ∈ lw_all := lw_g (lw_at lw_m1 5 rfl) rfl
theorem q68 : (Jvm.Cond.initialized "java/util/ArrayList") ∈ lw_all := lw_g (lw_at lw_m1 6 rfl) rfl
theorem q907 : (Jvm.Cond.methodLink "java/util/ArrayList" (118 : Nat) ({ cls := "java/util/Objects", name := "checkIndex", desc := "(II)I" } : Jvm.MethodName)) ∈ lw_all := lw_g (lw_at lw_m4 125 rfl) rfl
theorem q908 : (Jvm.Cond.static ({ cls := "java/util/Objects", name := "checkIndex", desc := "(II)I" } : Jvm.MethodName)) ∈ lw_all := lw_g (lw_at lw_m4 126 rfl) rfl
theorem q909 : (Jvm.Cond.code ({ cls := "java/util/Objects", name := "checkIndex", desc := "(II)I" } : Jvm.MethodName) prog_55_method_17_code (2 : Nat) (Option.some Jvm.ClassFile.FieldType.int)) ∈ lw_all := lw_g (lw_at lw_m4 127 rfl) rfl
theorem q911 : (Jvm.Cond.methodLink "java/util/ArrayList" (123 : Nat) ({ cls := "java/util/ArrayList", name := "elementData", desc := "(I)Ljava/lang/Object;" } : Jvm.MethodName)) ∈ lw_all := lw_g (lw_at lw_m4 129 rfl) rfl
theorem q912 : (Jvm.Cond.instanceMethod ({ cls := "java/util/ArrayList", name := "elementData", desc := "(I)Ljava/lang/Object;" } : Jvm.MethodName)) ∈ lw_all := lw_g (lw_at lw_m4 130 rfl) rfl
theorem q913 : (Jvm.Cond.selects "java/util/ArrayList" ({ cls := "java/util/ArrayList", name := "elementData", desc := "(I)Ljava/lang/Object;" } : Jvm.MethodName) ({ cls := "java/util/ArrayList", name := "elementData", desc := "(I)Ljava/lang/Object;" } : Jvm.MethodName)) ∈ lw_all := lw_g (lw_at lw_m4 131 rfl) rfl
theorem q914 : (Jvm.Cond.code ({ cls := "java/util/ArrayList", name := "elementData", desc := "(I)Ljava/lang/Object;" } : Jvm.MethodName) prog_44_method_18_code (2 : Nat) (Option.some (Jvm.ClassFile.FieldType.object "java/lang/Object"))) ∈ lw_all := lw_g (lw_at lw_m4 132 rfl) rfl
theorem q95 : (Jvm.Cond.initialized "java/util/Objects") ∈ lw_all := lw_g (lw_at lw_m1 33 rfl) rfl
/-- an element of a list: an object that changes no more, known as an Object -/
def zel (h : zH) (q : Nat) : Prop := ∃ (ci : Nat) (fs : List Value) (r : vw_C), h q = some (false, .inr (ci, fs)) ∧ zcl[ci]? = some r ∧ Cond.castable r.1 "java/lang/Object" ∈ lw_tbl
theorem zel.keep {h h' : zH} {q : Nat} {S : List Nat} (k : zkeep h h' S) (hq : zel h q) : zel h' q := by
  obtain ⟨ci, fs, r, h1, h2⟩ := hq
  exact ⟨ci, fs, r, k.f h1, h2⟩
theorem zels.keep {h h' : zH} {xs : List Nat} {S : List Nat} (k : zkeep h h' S) (hq : ∀ q ∈ xs, zel h q) : ∀ q ∈ xs, zel h' q := fun q e => (hq q e).keep k
/-- an ArrayList at a, its array at e, of cap places: the elements xs -/
def lAt (Γ : zCx) (h : zH) (a e : Nat) (xs : List Nat) (cap : Nat) : Prop := ∃ (m : Int) (f : Nat → Value), h a = some (true, .inr (10, [.int (iI m), .ref e, .int (iI ((xs.length : Nat) : Int))])) ∧ h e = some (decide (cap ≠ 0), .inl (.object "java/lang/Object", cap, f)) ∧ (cap = 0 → e = Γ.2.2.2 0) ∧ (cap = 0 ∨ 10 ≤ cap) ∧ xs.length ≤ cap ∧ cap ≤ 100000 ∧ (∀ (j q : Nat), xs[j]? = some q → f j = .ref q) ∧ ∀ q ∈ xs, zel h q
theorem lAt.mk {Γ : zCx} {h : zH} {a e cap n : Nat} {xs : List Nat} {m k : Int} {b : Bool} {f : Nat → Value} (hk : k = (xs.length : Nat)) (hc : n = cap) (hb : b = decide (cap ≠ 0)) (h1 : h a = some (true, .inr (10, [.int (iI m), .ref e, .int (iI k)]))) (h2 : h e = some (b, .inl (.object "java/lang/Object", n, f))) (h3 : cap = 0 → e = Γ.2.2.2 0) (h4 : cap = 0 ∨ 10 ≤ cap) (h5 : xs.length ≤ cap) (h6 : cap ≤ 100000) (h7 : ∀ (j q : Nat), xs[j]? = some q → f j = .ref q) (h8 : ∀ q ∈ xs, zel h q) : lAt Γ h a e xs cap := by
  subst hk hc hb
  exact ⟨m, f, h1, h2, h3, h4, h5, h6, h7, h8⟩
theorem lAt.keep {Γ : zCx} {h h' : zH} {a e cap : Nat} {xs : List Nat} {S : List Nat} (k : zkeep h h' S) (hb : lAt Γ h a e xs cap) (h1 : a ∉ S) (h2 : cap = 0 ∨ e ∉ S) : lAt Γ h' a e xs cap := by
  obtain ⟨m, f, g1, g2, g3, g4, g5, g6, g7, g8⟩ := hb
  refine ⟨m, f, k.n g1 h1, ?_, g3, g4, g5, g6, g7, zels.keep k g8⟩
  rcases h2 with c | c
  · subst c
    exact k.f g2
  · exact k.n g2 c
theorem Z.const0 {X : zT} {cc : ByteArray} {own : String} {ret : Option FieldType} {nf nl : Nat} {hh : List ExceptionTableEntry} {h : zH} {kc ks : Nat} {L : List (Nat × Value)} {pc : Nat} {st : List Value} (C : zC X cc own ret nf nl hh) (K : ∀ f, h (X.Γ.2.2.2 0) = some (false, .inl (.object "java/lang/Object", 0, f)) → Z X h kc ks L pc st) : Z X h kc ks L pc st := by
  intro H locs cells slots ls hS
  obtain ⟨f, hf⟩ := C.K.2.2.2.2.1
  exact K f (hS.1.1 _ _ hf).2 H locs cells slots ls hS
theorem Z.constS {X : zT} {cc : ByteArray} {own : String} {ret : Option FieldType} {nf nl : Nat} {hh : List ExceptionTableEntry} {h : zH} {kc ks : Nat} {L : List (Nat × Value)} {pc : Nat} {st : List Value} (C : zC X cc own ret nf nl hh) (i : Nat) {r : String × Nat × String} (hr : zstr[i]? = some r) (K : sAt h (X.Γ.2.2.2 (i + 2)) (zch r.2.2) → Z X h kc ks L pc st) : Z X h kc ks L pc st := by
  intro H locs cells slots ls hS
  refine K ?_ H locs cells slots ls hS
  obtain ⟨hl, v, x, y, f, h1, h2, h3⟩ := C.K.2.2.2.2.2 i r hr
  exact ⟨hl, v, x, y, f, (hS.1.1 _ _ h1).2, (hS.1.1 _ _ h2).2, h3⟩
/-- the room of a list of cap places that must hold n -/
def lcap (cap n : Nat) : Nat := if n ≤ cap then cap else if cap = 0 then max 10 n else cap + max (n - cap) (cap / 2)
def lC (cap n : Nat) : Nat := if n ≤ cap then 0 else 1
def lS (cap n : Nat) : Nat := if n ≤ cap then 0 else lcap cap n
def bLC (cap n : Nat) : Nat := n - cap
def bLS (cap n : Nat) : Nat := if n ≤ cap then 0 else 6 * n + 10 - 4 * cap
theorem lC_b {cap n N : Nat} (h : n ≤ N) (h0 : cap = 0 ∨ 10 ≤ cap) : lC cap n + bLC (lcap cap n) N ≤ bLC cap N := by unfold lC bLC lcap; split <;> (try split) <;> omega
theorem lS_b {cap n N : Nat} (h : n ≤ N) (h0 : cap = 0 ∨ 10 ≤ cap) : lS cap n + bLS (lcap cap n) N ≤ bLS cap N := by unfold lS bLS lcap; split <;> (try split) <;> (try split) <;> (try split) <;> omega
theorem lcap_ge {cap n : Nat} : n ≤ lcap cap n := by unfold lcap; split <;> (try split) <;> omega
theorem lcap_le {cap n : Nat} (h1 : cap ≤ 100000) (h2 : n ≤ 40000) : lcap cap n ≤ 100000 := by unfold lcap; split <;> (try split) <;> omega
theorem lcap_z {cap n : Nat} (h : cap = 0 ∨ 10 ≤ cap) : lcap cap n = 0 ∨ 10 ≤ lcap cap n := by unfold lcap; split <;> (try split) <;> omega
theorem lx_fit {h : zH} {xs : List Nat} {f : Nat → Value} {i : Nat} (h7 : ∀ (j q : Nat), xs[j]? = some q → f j = .ref q) (h8 : ∀ q ∈ xs, zel h q) (hi : i < xs.length) : zfit "java/lang/Object" h (f i) := by
  have e := h7 i _ (List.getElem?_eq_getElem hi)
  obtain ⟨ci, fs, r, g1, g2, g3⟩ := h8 _ (List.getElem_mem hi)
  exact Or.inr ⟨_, _, _, _, _, e, g1, g2, Or.inr g3⟩
theorem zfit.keep {h h' : zH} {E : String} {v : Value} {S : List Nat} (k : zkeep h h' S) (hz : zfit E h v) (hS : ∀ q, v = .ref q → ∀ x, h q = some x → x.1 = false ∨ q ∉ S) : zfit E h' v := by
  rcases hz with e | ⟨q, fl, ci, fs, r, e, h1, h2⟩
  · exact Or.inl e
  · exact Or.inr ⟨q, fl, ci, fs, r, e, k q _ h1 (hS q e _ h1), h2⟩
theorem zfit.keep0 {h h' : zH} {E : String} {v : Value} (k : zkeep h h' []) (hz : zfit E h v) : zfit E h' v := hz.keep k fun _ _ _ _ => Or.inr List.not_mem_nil
theorem lx_set {xs : List Nat} {f : Nat → Value} {i q : Nat} (h7 : ∀ (j q : Nat), xs[j]? = some q → f j = .ref q) (hi : i < xs.length) : ∀ (j p : Nat), (xs.set i q)[j]? = some p → updV f i (.ref q) j = .ref p := by
  intro j p e
  rw [List.getElem?_set] at e
  simp only [updV]
  by_cases hj : i = j
  · subst hj
    rw [if_pos rfl, if_pos hi] at e
    cases e
    rw [if_pos rfl]
  · rw [if_neg hj] at e
    rw [if_neg (fun z => hj z.symm)]
    exact h7 j p e
theorem lx_app {xs : List Nat} {f : Nat → Value} {q : Nat} (h7 : ∀ (j q : Nat), xs[j]? = some q → f j = .ref q) : ∀ (j p : Nat), (xs ++ [q])[j]? = some p → updV f xs.length (.ref q) j = .ref p := by
  intro j p e
  rcases Nat.lt_trichotomy j xs.length with g | g | g
  · rw [List.getElem?_append_left g] at e
    simp only [updV, if_neg (Nat.ne_of_lt g)]
    exact h7 j p e
  · subst g
    rw [List.getElem?_append_right (Nat.le_refl _), Nat.sub_self] at e
    simp only [updV, if_pos]
    cases e
    rfl
  · rw [List.getElem?_eq_none (by simp; omega)] at e
    cases e
theorem lq_app {h' : zH} {xs : List Nat} {q : Nat} (h8 : ∀ q ∈ xs, zel h' q) (hq : zel h' q) : ∀ p ∈ xs ++ [q], zel h' p := fun p hp => (List.mem_append.mp hp).elim (h8 p) (fun e => by rw [List.mem_singleton.mp e]; exact hq)
theorem lx_inl {xs : List Nat} {i : Int} {q : Nat} (hi : 0 ≤ i ∧ i ≤ (xs.length : Nat)) : ((xs.length : Nat) : Int) + 1 = (((xs.take i.toNat ++ q :: xs.drop i.toNat).length : Nat) : Int) := by
  simp
  omega
theorem lx_ins {xs : List Nat} {f : Nat → Value} {i : Int} {q : Nat} (h7 : ∀ (j q : Nat), xs[j]? = some q → f j = .ref q) (hi : 0 ≤ i ∧ i ≤ (xs.length : Nat)) : ∀ (j p : Nat), (xs.take i.toNat ++ q :: xs.drop i.toNat)[j]? = some p → updV (va_cpy f f i.toNat (i + 1).toNat (((xs.length : Nat) : Int) - i).toNat) i.toNat (.ref q) j = .ref p := by
  intro j p e
  have hl : (xs.take i.toNat).length = i.toNat := by simp; omega
  rcases Nat.lt_trichotomy j i.toNat with g | g | g
  · rw [List.getElem?_append_left (by omega), List.getElem?_take, if_pos g] at e
    simp only [updV, if_neg (Nat.ne_of_lt g)]
    rw [va_cpy, if_neg (by omega)]
    exact h7 j p e
  · rw [List.getElem?_append_right (by omega), hl, g, Nat.sub_self] at e
    simp only [updV, g, if_pos]
    cases e
    rfl
  · rw [List.getElem?_append_right (by omega), hl, show j - i.toNat = (j - 1 - i.toNat) + 1 by omega, List.getElem?_cons_succ, List.getElem?_drop] at e
    have hj := (List.getElem?_eq_some_iff.mp e).1
    simp only [updV, if_neg (Nat.ne_of_gt g)]
    rw [va_cpy, if_pos (by omega), show i.toNat + (j - (i + 1).toNat) = i.toNat + (j - 1 - i.toNat) by omega]
    exact h7 _ p e
theorem lq_ins {h' : zH} {xs : List Nat} {i q : Nat} (h8 : ∀ q ∈ xs, zel h' q) (hq : zel h' q) : ∀ p ∈ xs.take i ++ q :: xs.drop i, zel h' p := by
  intro p hp
  rcases List.mem_append.mp hp with e | e
  · exact h8 p (List.mem_of_mem_take e)
  · rcases List.mem_cons.mp e with e | e
    · rw [e]; exact hq
    · exact h8 p (List.mem_of_mem_drop e)
theorem lx_rml {xs : List Nat} {i : Int} (hi : 0 ≤ i ∧ i < (xs.length : Nat)) : ((xs.length : Nat) : Int) - 1 = (((xs.eraseIdx i.toNat).length : Nat) : Int) := by
  rw [List.length_eraseIdx, if_pos (by omega)]
  omega
theorem lx_rm {xs : List Nat} {f : Nat → Value} {i : Int} (h7 : ∀ (j q : Nat), xs[j]? = some q → f j = .ref q) (hi : 0 ≤ i ∧ i < (xs.length : Nat)) : ∀ (j p : Nat), (xs.eraseIdx i.toNat)[j]? = some p → updV (va_cpy f f (i + 1).toNat i.toNat (((xs.length : Nat) : Int) - 1 - i).toNat) (((xs.length : Nat) : Int) - 1).toNat .null j = .ref p := by
  intro j p e
  have hj := (List.getElem?_eq_some_iff.mp e).1
  have hl := lx_rml hi
  rw [List.getElem?_eraseIdx] at e
  simp only [updV, if_neg (show ¬ j = (((xs.length : Nat) : Int) - 1).toNat by omega)]
  by_cases g : j < i.toNat
  · rw [if_pos g] at e
    rw [va_cpy, if_neg (by omega)]
    exact h7 j p e
  · rw [if_neg g] at e
    rw [va_cpy, if_pos (by omega), show (i + 1).toNat + (j - i.toNat) = j + 1 by omega]
    exact h7 _ p e
theorem lx_rm1 {xs : List Nat} {f : Nat → Value} {i : Int} (h7 : ∀ (j q : Nat), xs[j]? = some q → f j = .ref q) (hi : 0 ≤ i ∧ i < (xs.length : Nat) ∧ (xs.length : Nat) - 1 ≤ i) : ∀ (j p : Nat), (xs.eraseIdx i.toNat)[j]? = some p → updV f (((xs.length : Nat) : Int) - 1).toNat .null j = .ref p := by
  intro j p e
  have hj := (List.getElem?_eq_some_iff.mp e).1
  have hl := lx_rml (xs := xs) (i := i) ⟨hi.1, hi.2.1⟩
  rw [List.getElem?_eraseIdx, if_pos (by omega)] at e
  simp only [updV, if_neg (show ¬ j = (((xs.length : Nat) : Int) - 1).toNat by omega)]
  exact h7 j p e
theorem lq_rm {h' : zH} {xs : List Nat} {i : Nat} (h8 : ∀ q ∈ xs, zel h' q) : ∀ p ∈ xs.eraseIdx i, zel h' p := fun p hp => h8 p (List.mem_of_mem_eraseIdx hp)
/-- what a list's change may touch -/
theorem lAt.fz {Γ : zCx} {h h1 : zH} {a e cap : Nat} {xs S : List Nat} (hl : lAt Γ h1 a e xs cap) (hm : (e ∈ S ∨ h e = none) ∨ cap = 0) : (h e = none ∨ e ∈ S) ∨ ∃ x, h1 e = some (false, x) := by
  rcases hm with g | g
  · exact Or.inl g.symm
  · obtain ⟨m, f, -, g2, -⟩ := hl
    subst g
    exact Or.inr ⟨_, g2⟩
theorem zmayL {Γ : zCx} {h g g1 : zH} {a u e1 cap cap' : Nat} {xs xs' S : List Nat} (hm : (u ∈ S ∨ h u = none) ∨ cap = 0) (pre : lAt Γ g a u xs cap) (post : lAt Γ g1 a e1 xs' cap') (hc : cap' ≠ 0) (he : e1 = u ∨ g e1 = none) (k : zkeep h g S) (k1 : zkeep g g1 [a, u]) : e1 ∈ S ∨ h e1 = none := by
  rcases he with e | e
  · subst e
    rcases hm with g0 | g0
    · exact g0
    · obtain ⟨m, f, -, p2, -⟩ := pre
      obtain ⟨m', f', -, q2, -⟩ := post
      subst g0
      have := k1.f p2
      rw [this] at q2
      cases cap' with
      | zero => exact absurd rfl hc
      | succ n => simp at q2
  · by_cases hS : e1 ∈ S
    · exact Or.inl hS
    · exact Or.inr (k.none0 e hS)
theorem zel.of {h : zH} {q ci : Nat} {qs : List Value} {r : vw_C} (hq : h q = some (false, .inr (ci, qs))) (hr : zcl[ci]? = some r) (hc : Cond.castable r.1 "java/lang/Object" ∈ lw_tbl) : zel h q := ⟨ci, qs, r, hq, hr, hc⟩
theorem lq_set {h h' : zH} {xs : List Nat} {i q : Nat} (h8 : ∀ q ∈ xs, zel h' q) (hq : zel h' q) : ∀ p ∈ xs.set i q, zel h' p := fun p hp => (List.mem_or_eq_of_mem_set hp).elim (h8 p) (fun e => e ▸ hq)
set_option maxHeartbeats 4000000 in
theorem ct_AC_init {l : Launch} (hl : l.stackTraces = false) {Γ : zCx} {h : zH} {a : Nat} : zMet l yJ0_init (ws_ yJ0_init cJ0_init 1 none) ({ frames := 1, cells := 0, slots := 0, locals := 12 }) Γ h [.ref a] (zpure h none) 0 0 := by
  refine zMet.of (cc := cJ0_init) hl (plainFor_of_name (by decide +kernel)) (Nat.le_of_ble_eq_true rfl) ?_
  intro X hXl hXΓ hXp C hnm hnL
  have C : zC X cJ0_init RJ0 none 1 12 [] := C
  have hnL : X.2.1.2.2.2.2 = 1 := hnL
  subst hXl hXΓ
  show Z X h 0 0 [(0, .ref a)] 0 []
  refine z_aload_n (pc := 0) (j := 0) C dJ0_init_0 rfl rfl ?_
  refine z_objInit (pc := 1) C q150 q113 q114 (by decide) (by decide) dJ0_init_1 ?_
  exact z_return (pc := 4) C (by rw [hXp]; exact zpure_v rfl rfl) dJ0_init_4
set_option maxHeartbeats 4000000 in
theorem ct_L_List0 {l : Launch} (hl : l.stackTraces = false) {Γ : zCx} {h : zH} {a : Nat} (ha : h a = some (true, .inr (10, [.int (iI 0), .null, .int (iI 0)])))  : zMet l yJ1_init (ws_ yJ1_init cJ1_init 1 none) ({ frames := 2, cells := 0, slots := 0, locals := 32 }) Γ h [.ref a] (zrt (fun w h' => w = none ∧ h' a = some (true, .inr (10, [.int (iI 0), .null, .int (iI 0)])) ∧ zkeep h h' [a])) 0 0 := by
  refine zMet.of (cc := cJ1_init) hl (plainFor_of_name (by decide +kernel)) (Nat.le_of_ble_eq_true rfl) ?_
  intro X hXl hXΓ hXp C hnm hnL
  have C : zC X cJ1_init RJ1 none 2 32 [] := C
  have hnL : X.2.1.2.2.2.2 = 1 := hnL
  subst hXl hXΓ
  show Z X h 0 0 [(0, .ref a)] 0 []
  refine z_aload_n (pc := 0) (j := 0) C dJ1_init_0 rfl rfl ?_
  refine z_callI (pc := 1) (n := 0) (kc' := 0) (ks' := 0) C (ct_AC_init C.t (a := a)) q149 q66 q147 q148 rfl (by decide +kernel) ⟨by decide, by decide⟩ rfl rfl (Nat.le_of_ble_eq_true rfl) dJ1_init_1 (by omega) (by omega) (zpk (st' := []) rfl ?_) zrx
  refine z_aload_n (pc := 4) (j := 0) C dJ1_init_4 rfl rfl ?_
  refine z_iconst (pc := 5) C dJ1_init_5 ?_
  refine z_putfield (pc := 6) (fs' := [.int (iI 0), .null, .int (iI 0)]) C in_J2 tyJ2 tyJ2_ok nmJ2 rfl 0 (by decide) q155 (fun _ z => z) rfl rfl rfl (Nat.le_of_ble_eq_true rfl) ha rfl dJ1_init_6 ?_
  refine Z.nm (fun h1 eh1 => ?_)
  have kh1 : zkeep h h1 [a] := by rw [eh1]; exact zkeep.up zkeep.rf (Or.inl (by simp)) ha
  have fh1_0 : h1 a = some (true, .inr (10, [.int (iI 0), .null, .int (iI 0)])) := zse eh1
  exact z_return (pc := 9) C (by rw [hXp]; exact ⟨_, rfl, rfl, fh1_0, kh1⟩) dJ1_init_9
set_option maxHeartbeats 4000000 in
theorem ct_L_init {l : Launch} (hl : l.stackTraces = false) {Γ : zCx} {h : zH} {a : Nat} (ha : h a = some (true, .inr (10, [.int (iI 0), .null, .int (iI 0)])))  : zMet l yJ2_init (ws_ yJ2_init cJ2_init 1 none) ({ frames := 3, cells := 0, slots := 0, locals := 52 }) Γ h [.ref a] (zrt (fun w h' => w = none ∧ lAt Γ h' a (Γ.2.2.2 0) [] 0 ∧ zkeep h h' [a])) 0 0 := by
  refine zMet.of (cc := cJ2_init) hl (plainFor_of_name (by decide +kernel)) (Nat.le_of_ble_eq_true rfl) ?_
  intro X hXl hXΓ hXp C hnm hnL
  have C : zC X cJ2_init RJ2 none 3 52 [] := C
  have hnL : X.2.1.2.2.2.2 = 1 := hnL
  subst hXl hXΓ
  show Z X h 0 0 [(0, .ref a)] 0 []
  refine Z.const0 C (fun f0 le => ?_)
  refine z_aload_n (pc := 0) (j := 0) C dJ2_init_0 rfl rfl ?_
  refine z_callI (pc := 1) (n := 0) (kc' := 0) (ks' := 0) C (ct_L_List0 C.t ha) q146 q67 q144 q145 rfl (by decide +kernel) ⟨by decide, by decide⟩ rfl rfl (Nat.le_of_ble_eq_true rfl) dJ2_init_1 (by omega) (by omega) (zrk fun w h1 hp => ?_) zrx
  obtain ⟨rfl, fq2, k3⟩ := hp
  have kh1 : zkeep h h1 [a] := zkeep.loc zkeep.rf k3 (zall_cons (Or.inl (Or.symm (Or.inl (by simp)))) zall_nil)
  show Z X h1 0 0 [(0, .ref a)] 4 []
  refine z_aload_n (pc := 4) (j := 0) C dJ2_init_4 rfl rfl ?_
  refine z_emptyE (pc := 5) C q151 dJ2_init_5 ?_
  refine z_putfield (pc := 8) (fs' := [.int (iI 0), .ref (X.Γ.2.2.2 0), .int (iI 0)]) C in_J2 tyJ2 tyJ2_ok nmJ2 rfl 1 (by decide) q153 (fun _ z => z) rfl rfl rfl (Nat.le_of_ble_eq_true rfl) fq2 rfl dJ2_init_8 ?_
  refine Z.nm (fun h4 eh4 => ?_)
  have kh4 : zkeep h h4 [a] := by rw [eh4]; exact zkeep.up kh1 (Or.inl (by simp)) fq2
  have fh4_0 : h4 a = some (true, .inr (10, [.int (iI 0), .ref (X.Γ.2.2.2 0), .int (iI 0)])) := zse eh4
  exact z_return (pc := 11) C (by rw [hXp]; exact ⟨_, rfl, rfl, lAt.mk (xs := []) (b := false) rfl rfl (by decide) fh4_0 (kh4.f le) (fun _ => rfl) (Or.inl rfl) (Nat.le_refl _) (by decide) (fun j q e => by simp at e) (fun q hq => nomatch hq), kh4⟩) dJ2_init_11
set_option maxHeartbeats 4000000 in
theorem ct_L_size {l : Launch} (hl : l.stackTraces = false) {Γ : zCx} {h : zH} {a e : Nat} {fl : Bool} {m : Value} {n : Int} (ha : h a = some (fl, .inr (10, [m, .ref e, .int (iI n)]))) : zMet l yJ2_size (ws_ yJ2_size cJ2_size 1 (some .int)) ({ frames := 0, cells := 0, slots := 0, locals := 0 }) Γ h [.ref a] (zpure h (some (.int (iI n)))) 0 0 := by
  refine zMet.of (cc := cJ2_size) hl (plainFor_of_name (by decide +kernel)) (Nat.le_of_ble_eq_true rfl) ?_
  intro X hXl hXΓ hXp C hnm hnL
  have C : zC X cJ2_size RJ2 (some .int) 0 0 [] := C
  have hnL : X.2.1.2.2.2.2 = 1 := hnL
  subst hXl hXΓ
  show Z X h 0 0 [(0, .ref a)] 0 []
  refine z_aload_n (pc := 0) (j := 0) C dJ2_size_0 rfl rfl ?_
  refine z_getfield (pc := 1) (v := .int (iI n)) C in_J2 rfl 2 (by decide) q154 (fun _ z => z) ha rfl dJ2_size_1 ?_
  exact z_ireturn (pc := 4) C (by rw [hXp]; exact zpure_v rfl rfl) dJ2_size_4
set_option maxHeartbeats 4000000 in
theorem ct_L_elem {l : Launch} (hl : l.stackTraces = false) {Γ : zCx} {h : zH} {a e : Nat} {fl f2 : Bool} {m : Value} {n : Nat} (ha : h a = some (fl, .inr (10, [m, .ref e, .int (iI ((n : Nat) : Int))]))) {cap : Nat} {f : Nat → Value} (he : h e = some (f2, .inl (.object "java/lang/Object", cap, f))) {i : Int} (hi : 0 ≤ i ∧ i < (n : Nat)) (hn : n ≤ cap ∧ cap ≤ 100000) {q : Nat} (hq : f i.toNat = .ref q)  : zMet l yJ2_elementData (ws_ yJ2_elementData cJ2_elementData 2 (some (.object "java/lang/Object"))) ({ frames := 0, cells := 0, slots := 0, locals := 0 }) Γ h [.ref a, .int (iI i)] (zpure h (some (.ref q))) 0 0 := by
  refine zMet.of (cc := cJ2_elementData) hl (plainFor_of_name (by decide +kernel)) (Nat.le_of_ble_eq_true rfl) ?_
  intro X hXl hXΓ hXp C hnm hnL
  have C : zC X cJ2_elementData RJ2 (some (.object "java/lang/Object")) 0 0 [] := C
  have hnL : X.2.1.2.2.2.2 = 2 := hnL
  subst hXl hXΓ
  show Z X h 0 0 [(0, .ref a), (1, .int (iI i))] 0 []
  refine z_aload_n (pc := 0) (j := 0) C dJ2_elementData_0 rfl rfl ?_
  refine z_getfield (pc := 1) (v := .ref e) C in_J2 rfl 1 (by decide) q153 (fun _ z => z) ha rfl dJ2_elementData_1 ?_
  refine z_iload_n (pc := 4) (j := 1) C dJ2_elementData_4 rfl rfl ?_
  refine z_aaload (pc := 5) (v := .ref q) C he (by omega) hq dJ2_elementData_5 ?_
  exact z_areturn (pc := 6) C (Or.inl ⟨_, rfl⟩) (Or.inr ⟨_, rfl⟩) (by rw [hXp]; exact zpure_v rfl rfl) dJ2_elementData_6
set_option maxHeartbeats 4000000 in
theorem ct_L_get {l : Launch} (hl : l.stackTraces = false) {Γ : zCx} {h : zH} {a e : Nat} {fl f2 : Bool} {m : Value} {n : Nat} (ha : h a = some (fl, .inr (10, [m, .ref e, .int (iI ((n : Nat) : Int))]))) {cap : Nat} {f : Nat → Value} (he : h e = some (f2, .inl (.object "java/lang/Object", cap, f))) {i : Int} (hi : 0 ≤ i ∧ i < (n : Nat)) (hn : n ≤ cap ∧ cap ≤ 100000) {q : Nat} (hq : f i.toNat = .ref q)  : zMet l yJ2_get (ws_ yJ2_get cJ2_get 2 (some (.object "java/lang/Object"))) ({ frames := 2, cells := 0, slots := 0, locals := 43 }) Γ h [.ref a, .int (iI i)] (zpure h (some (.ref q))) 0 0 := by
  refine zMet.of (cc := cJ2_get) hl (plainFor_of_name (by decide +kernel)) (Nat.le_of_ble_eq_true rfl) ?_
  intro X hXl hXΓ hXp C hnm hnL
  have C : zC X cJ2_get RJ2 (some (.object "java/lang/Object")) 2 43 [] := C
  have hnL : X.2.1.2.2.2.2 = 2 := hnL
  subst hXl hXΓ
  show Z X h 0 0 [(0, .ref a), (1, .int (iI i))] 0 []
  refine z_iload_n (pc := 0) (j := 1) C dJ2_get_0 rfl rfl ?_
  refine z_aload_n (pc := 1) (j := 0) C dJ2_get_1 rfl rfl ?_
  refine z_getfield (pc := 2) (v := .int (iI ((n : Nat) : Int))) C in_J2 rfl 2 (by decide) q154 (fun _ z => z) ha rfl dJ2_get_2 ?_
  refine z_callS (pc := 5) (n := 2) (kc' := 0) (ks' := 0) C (ct_O_check C.t (i := i) (n := ((n : Nat) : Int)) (by omega)) (lw_S q907 q908 q95 q909) (by decide +kernel) ⟨by decide, by decide⟩ rfl rfl (Nat.le_of_ble_eq_true rfl) dJ2_get_5 (by omega) (by omega) (zpk (st' := [.int (iI i)]) rfl ?_) zrx
  refine z_pop (pc := 8) C dJ2_get_8 rfl ?_
  refine z_aload_n (pc := 9) (j := 0) C dJ2_get_9 rfl rfl ?_
  refine z_iload_n (pc := 10) (j := 1) C dJ2_get_10 rfl rfl ?_
  refine z_callV (pc := 11) (n := 1) (kc' := 0) (ks' := 0) C (ct_L_elem C.t ha he (i := i) hi hn hq) (lw_V q911 q912 q913 q68 q914) (by decide +kernel) ⟨by decide, by decide⟩ ha rfl rfl rfl (Nat.le_of_ble_eq_true rfl) dJ2_get_11 (by omega) (by omega) (zpk (st' := [.ref q]) rfl ?_) zrx
  exact z_areturn (pc := 14) C (Or.inl ⟨_, rfl⟩) (Or.inr ⟨_, rfl⟩) (by rw [hXp]; exact zpure_v rfl rfl) dJ2_get_14
set_option maxHeartbeats 4000000 in
theorem ct_L_set {l : Launch} (hl : l.stackTraces = false) {Γ : zCx} {h : zH} {a e : Nat} {xs : List Nat} {cap : Nat} (hl0 : lAt Γ h a e xs cap) {q : Nat} {ci : Nat} {qs : List Value} {r : vw_C} (hq : h q = some (false, .inr (ci, qs))) (hr : zcl[ci]? = some r) (hc : Cond.castable r.1 "java/lang/Object" ∈ lw_tbl) {i : Int} (hi : 0 ≤ i ∧ i < (xs.length : Nat)) : zMet l yJ2_set (ws_ yJ2_set cJ2_set 4 (some (.object "java/lang/Object"))) ({ frames := 2, cells := 0, slots := 0, locals := 43 }) Γ h [.ref a, .int (iI i), .ref q] (zrt (fun w h' => ∃ old, xs[i.toNat]? = some old ∧ w = some (.ref old) ∧ lAt Γ h' a e (xs.set i.toNat q) cap ∧ zkeep h h' [e])) 0 0 := by
  refine zMet.of (cc := cJ2_set) hl (plainFor_of_name (by decide +kernel)) (Nat.le_of_ble_eq_true rfl) ?_
  intro X hXl hXΓ hXp C hnm hnL
  have C : zC X cJ2_set RJ2 (some (.object "java/lang/Object")) 2 43 [] := C
  have hnL : X.2.1.2.2.2.2 = 4 := hnL
  subst hXl hXΓ
  show Z X h 0 0 [(0, .ref a), (1, .int (iI i)), (2, .ref q)] 0 []
  obtain ⟨m, f, la, le, lz, lt, ln, lc, lx, lq⟩ := hl0
  have ht0 : decide (cap ≠ 0) = true := decide_eq_true (by omega)
  have ht := ht0
  rw [ht0] at le
  obtain ⟨old, hold⟩ : ∃ old, xs[i.toNat]? = some old := ⟨_, List.getElem?_eq_getElem (by omega)⟩
  refine z_iload_n (pc := 0) (j := 1) C dJ2_set_0 rfl rfl ?_
  refine z_aload_n (pc := 1) (j := 0) C dJ2_set_1 rfl rfl ?_
  refine z_getfield (pc := 2) (v := .int (iI ((xs.length : Nat) : Int))) C in_J2 rfl 2 (by decide) q154 (fun _ z => z) la rfl dJ2_set_2 ?_
  refine z_callS (pc := 5) (n := 2) (kc' := 0) (ks' := 0) C (ct_O_check C.t (i := i) (n := ((xs.length : Nat) : Int)) (by omega)) (lw_S q907 q908 q95 q909) (by decide +kernel) ⟨by decide, by decide⟩ rfl rfl (Nat.le_of_ble_eq_true rfl) dJ2_set_5 (by omega) (by omega) (zpk (st' := [.int (iI i)]) rfl ?_) zrx
  refine z_pop (pc := 8) C dJ2_set_8 rfl ?_
  refine z_aload_n (pc := 9) (j := 0) C dJ2_set_9 rfl rfl ?_
  refine z_iload_n (pc := 10) (j := 1) C dJ2_set_10 rfl rfl ?_
  refine z_callV (pc := 11) (n := 1) (kc' := 0) (ks' := 0) C (ct_L_elem C.t la le (i := i) (by omega) (by omega) (lx _ _ hold)) (lw_V q911 q912 q913 q68 q914) (by decide +kernel) ⟨by decide, by decide⟩ la rfl rfl rfl (Nat.le_of_ble_eq_true rfl) dJ2_set_11 (by omega) (by omega) (zpk (st' := [.ref old]) rfl ?_) zrx
  refine z_astore_n (pc := 14) (L' := [(3, .ref old), (0, .ref a), (1, .int (iI i)), (2, .ref q)]) C dJ2_set_14 rfl (by rw [hnL]; decide) rfl ?_
  refine z_aload_n (pc := 15) (j := 1) C dJ2_set_15 rfl rfl ?_
  refine z_getfield (pc := 16) (v := .ref e) C in_J2 rfl 1 (by decide) q153 (fun _ z => z) la rfl dJ2_set_16 ?_
  refine z_iload_n (pc := 19) (j := 2) C dJ2_set_19 rfl rfl ?_
  refine z_aload_n (pc := 20) (j := 3) C dJ2_set_20 rfl rfl ?_
  refine z_aastore (pc := 21) (f' := updV f (Int.toNat i) (.ref q)) C hr (Or.inr hc) hq le (by omega) rfl dJ2_set_21 ?_
  refine Z.nm (fun h1 eh1 => ?_)
  have kh1 : zkeep h h1 [e] := by rw [eh1]; exact zkeep.up zkeep.rf (Or.inl (by simp)) le
  have fh1_0 : h1 e = some (true, .inl ((.object "java/lang/Object"), cap, updV f (Int.toNat i) (.ref q))) := zse eh1
  refine z_aload_n (pc := 22) (j := 0) C dJ2_set_22 rfl rfl ?_
  exact z_areturn (pc := 23) C (Or.inl ⟨_, rfl⟩) (Or.inr ⟨_, rfl⟩) (by rw [hXp]; exact ⟨_, rfl, old, hold, rfl, lAt.mk (by simp) rfl ht0.symm (kh1.n la (List.not_mem_cons_of_ne_of_not_mem (zneA la le) List.not_mem_nil)) fh1_0 lz lt (by simpa using ln) lc (lx_set lx (by omega)) (lq_set (h := h) (zels.keep kh1 lq) (zel.of (kh1.f hq) hr hc)), kh1⟩) dJ2_set_23
set_option maxHeartbeats 4000000 in
theorem ct_A_copyO3 {l : Launch} (hl : l.stackTraces = false) {Γ : zCx} {h : zH} {e cap : Nat} {f2 : Bool} {f : Nat → Value} (he : h e = some (f2, .inl (.object "java/lang/Object", cap, f))) (hc : cap ≤ 100000) {m : Int} (hm : cap < m ∧ m ≤ 400000) (hfit : ∀ i, i < cap → zfit "java/lang/Object" h (f i))  : zMet l yJ6_copyOf_2 (ws_ yJ6_copyOf_2 cJ6_copyOf_2 4 (some (.array (.object "java/lang/Object")))) ({ frames := 1, cells := 1, slots := m.toNat, locals := 21 }) Γ h [.ref e, .int (iI m), .ref (Γ.2.2.2 1)] (zrt (fun w h' => ∃ (a : Nat) (g : Nat → Value), w = some (.ref a) ∧ h a = none ∧ h' = zup h a (true, .inl (.object "java/lang/Object", m.toNat, g)) ∧ ∀ j, j < cap → g j = f j)) 1 m.toNat := by
  refine zMet.of (cc := cJ6_copyOf_2) hl (plainFor_of_name (by decide +kernel)) (Nat.le_of_ble_eq_true rfl) ?_
  intro X hXl hXΓ hXp C hnm hnL
  have C : zC X cJ6_copyOf_2 RJ6 (some (.array (.object "java/lang/Object"))) 1 21 [] := C
  have hnL : X.2.1.2.2.2.2 = 4 := hnL
  subst hXl hXΓ
  show Z X h 1 m.toNat [(0, .ref e), (1, .int (iI m)), (2, .ref (X.Γ.2.2.2 1))] 0 []
  refine z_aload_n (pc := 0) (j := 2) C dJ6_copyOf_2_0 rfl rfl ?_
  refine z_ldcMO (pc := 1) C q263 dJ6_copyOf_2_1 ?_
  refine z_acmp_ne (pc := 3) (tgt := 13) C dJ6_copyOf_2_3 (by decide) (fun c3 => by exfalso; exact c3 rfl) (fun c3 => ?_)
  refine z_iload_n (pc := 6) (j := 1) C dJ6_copyOf_2_6 rfl rfl ?_
  refine z_anewarray (pc := 7) (kc' := 0) (ks' := (m.toNat - m.toNat)) C q264 q191 (by omega) (by omega) (by omega) dJ6_copyOf_2_7 (fun a1 fa1 => ?_)
  refine Z.nm (fun h2 eh2 => ?_)
  have na1 : h a1 = none := fa1
  have kh2 : zkeep h h2 [] := by rw [eh2]; exact zkeep.born zkeep.rf fa1
  have fh2_0 : h2 a1 = some (true, .inl ((.object "java/lang/Object"), m.toNat, fun _ => .null)) := zse eh2
  refine z_goto (pc := 10) (tgt := 24) C dJ6_copyOf_2_10 (by decide) ?_
  refine z_astore_n (pc := 24) (L' := [(3, .ref a1), (0, .ref e), (1, .int (iI m)), (2, .ref (X.Γ.2.2.2 1))]) C dJ6_copyOf_2_24 rfl (by rw [hnL]; decide) rfl ?_
  refine z_aload_n (pc := 25) (j := 1) C dJ6_copyOf_2_25 rfl rfl ?_
  refine z_iconst (pc := 26) C dJ6_copyOf_2_26 ?_
  refine z_aload_n (pc := 27) (j := 0) C dJ6_copyOf_2_27 rfl rfl ?_
  refine z_iconst (pc := 28) C dJ6_copyOf_2_28 ?_
  refine z_aload_n (pc := 29) (j := 1) C dJ6_copyOf_2_29 rfl rfl ?_
  refine z_alen (pc := 30) C (kh2.n he List.not_mem_nil) dJ6_copyOf_2_30 ?_
  refine z_iload_n (pc := 31) (j := 2) C dJ6_copyOf_2_31 rfl rfl ?_
  refine z_callS (pc := 32) (n := 2) (kc' := 0) (ks' := (m.toNat - m.toNat)) C (ct_min C.t (x := ((cap : Nat) : Int)) (y := m) (by omega) (by omega)) (lw_S q265 q266 q71 q267) (by decide +kernel) ⟨by decide, by decide⟩ rfl rfl (Nat.le_of_ble_eq_true rfl) dJ6_copyOf_2_32 (by omega) (by omega) (zpk (st' := [.int (iI (min ((cap : Nat) : Int) m)), .int (iI 0), .ref a1, .int (iI 0), .ref e]) rfl ?_) zrx
  have hfit2 : ∀ i, i < cap → zfit "java/lang/Object" h2 (f i) := fun i hi => (hfit i hi).keep0 kh2
  refine z_copyQ (pc := 35) (g' := va_cpy f (fun _ => .null) (Int.toNat 0) (Int.toNat 0) (Int.toNat (min ((cap : Nat) : Int) m))) C q268 q270 q269 q73 (kh2.n he List.not_mem_nil) fh2_0 (by omega) (by omega) (by omega) (fun i hi => by have := hfit2 i (by omega); simpa using this) rfl (by decide) (by decide) dJ6_copyOf_2_35 ?_
  refine Z.nm (fun h3 eh3 => ?_)
  have kh3 : zkeep h h3 [] := by rw [eh3]; exact zkeep.up kh2 (Or.inr na1) fh2_0
  have fh3_0 : h3 a1 = some (true, .inl ((.object "java/lang/Object"), m.toNat, va_cpy f (fun _ => .null) (Int.toNat 0) (Int.toNat 0) (Int.toNat (min ((cap : Nat) : Int) m)))) := zse eh3
  refine z_aload_n (pc := 38) (j := 0) C dJ6_copyOf_2_38 rfl rfl ?_
  exact z_areturn (pc := 39) C (Or.inr ⟨_, rfl⟩) (Or.inr ⟨_, rfl⟩) (by rw [hXp]; exact ⟨_, rfl, a1, _, rfl, fa1, by rw [eh3, eh2, zup_zup], fun j hj => by rw [va_cpy, if_pos (by omega)]; simp⟩) dJ6_copyOf_2_39
set_option maxHeartbeats 4000000 in
theorem ct_A_copyO {l : Launch} (hl : l.stackTraces = false) {Γ : zCx} {h : zH} {e cap : Nat} {f2 : Bool} {f : Nat → Value} (he : h e = some (f2, .inl (.object "java/lang/Object", cap, f))) (hc : cap ≤ 100000) {m : Int} (hm : cap < m ∧ m ≤ 400000) (hfit : ∀ i, i < cap → zfit "java/lang/Object" h (f i))  : zMet l yJ6_copyOf (ws_ yJ6_copyOf cJ6_copyOf 2 (some (.array (.object "java/lang/Object")))) ({ frames := 2, cells := 1, slots := m.toNat, locals := 44 }) Γ h [.ref e, .int (iI m)] (zrt (fun w h' => ∃ (a : Nat) (g : Nat → Value), w = some (.ref a) ∧ h a = none ∧ h' = zup h a (true, .inl (.object "java/lang/Object", m.toNat, g)) ∧ ∀ j, j < cap → g j = f j)) 1 m.toNat := by
  refine zMet.of (cc := cJ6_copyOf) hl (plainFor_of_name (by decide +kernel)) (Nat.le_of_ble_eq_true rfl) ?_
  intro X hXl hXΓ hXp C hnm hnL
  have C : zC X cJ6_copyOf RJ6 (some (.array (.object "java/lang/Object"))) 2 44 [] := C
  have hnL : X.2.1.2.2.2.2 = 2 := hnL
  subst hXl hXΓ
  show Z X h 1 m.toNat [(0, .ref e), (1, .int (iI m))] 0 []
  refine z_aload_n (pc := 0) (j := 0) C dJ6_copyOf_0 rfl rfl ?_
  refine z_iload_n (pc := 1) (j := 1) C dJ6_copyOf_1 rfl rfl ?_
  refine z_aload_n (pc := 2) (j := 0) C dJ6_copyOf_2 rfl rfl ?_
  refine z_getClassO (pc := 3) C q232 q2524 q2523 q233 q259 he (by decide) (Nat.le_of_ble_eq_true rfl) dJ6_copyOf_3 ?_
  refine z_callS (pc := 6) (n := 3) (kc' := 0) (ks' := (m.toNat - m.toNat)) C (ct_A_copyO3 C.t he (by omega) (m := m) (by omega) hfit) (lw_S q260 q261 q72 q262) (by decide +kernel) ⟨by decide, by decide⟩ rfl rfl (Nat.le_of_ble_eq_true rfl) dJ6_copyOf_6 (by omega) (by omega) (zrk fun w h3 hp => ?_) zrx
  obtain ⟨a1, g2, rfl, fa1, eh3, g21⟩ := hp
  have na1 : h a1 = none := fa1
  have kh3 : zkeep h h3 [] := by rw [eh3]; exact zkeep.born zkeep.rf fa1
  have fh3_0 : h3 a1 = some (true, .inl ((.object "java/lang/Object"), m.toNat, g2)) := zse eh3
  show Z X h3 0 (m.toNat - m.toNat) [(0, .ref e), (1, .int (iI m))] 9 [.ref a1]
  exact z_areturn (pc := 9) C (Or.inr ⟨_, rfl⟩) (Or.inr ⟨_, rfl⟩) (by rw [hXp]; exact ⟨_, rfl, a1, g2, rfl, fa1, eh3, g21⟩) dJ6_copyOf_9
set_option maxHeartbeats 4000000 in
theorem ct_L_grow1 {l : Launch} (hl : l.stackTraces = false) {Γ : zCx} {h : zH} {a e : Nat} {xs : List Nat} {cap : Nat} (hl0 : lAt Γ h a e xs cap) (hf : xs.length = cap) (hc : cap ≤ 30000)  : zMet l yJ2_grow_2 (ws_ yJ2_grow_2 cJ2_grow_2 4 (some (.array (.object "java/lang/Object")))) ({ frames := 3, cells := 1, slots := lcap cap (cap + 1), locals := 65 }) Γ h [.ref a, .int (iI (((cap : Nat) : Int) + 1))] (zrt (fun w h' => ∃ e', w = some (.ref e') ∧ lAt Γ h' a e' xs (lcap cap (cap + 1)) ∧ h e' = none ∧ zkeep h h' [a])) 1 (lcap cap (cap + 1)) := by
  refine zMet.of (cc := cJ2_grow_2) hl (plainFor_of_name (by decide +kernel)) (Nat.le_of_ble_eq_true rfl) ?_
  intro X hXl hXΓ hXp C hnm hnL
  have C : zC X cJ2_grow_2 RJ2 (some (.array (.object "java/lang/Object"))) 3 65 [] := C
  have hnL : X.2.1.2.2.2.2 = 4 := hnL
  subst hXl hXΓ
  show Z X h 1 (lcap cap (cap + 1)) [(0, .ref a), (1, .int (iI (((cap : Nat) : Int) + 1)))] 0 []
  obtain ⟨m, f, la, le, lz, lt, ln, lc, lx, lq⟩ := hl0
  refine Z.const0 C (fun f0 le0 => ?_)
  have hfit : ∀ i, i < cap → zfit "java/lang/Object" h (f i) := fun i hi => lx_fit lx lq (by omega)
  have hg : lcap cap (cap + 1) = if cap = 0 then 10 else cap + max 1 (cap / 2) := by unfold lcap; split <;> (try split) <;> omega
  refine z_aload_n (pc := 0) (j := 0) C dJ2_grow_2_0 rfl rfl ?_
  refine z_getfield (pc := 1) (v := .ref e) C in_J2 rfl 1 (by decide) q153 (fun _ z => z) la rfl dJ2_grow_2_1 ?_
  refine z_alen (pc := 4) C le dJ2_grow_2_4 ?_
  refine z_istore_n (pc := 5) (L' := [(2, .int (iI ((cap : Nat) : Int))), (0, .ref a), (1, .int (iI (((cap : Nat) : Int) + 1)))]) C dJ2_grow_2_5 rfl (by rw [hnL]; decide) rfl ?_
  refine z_iload_n (pc := 6) (j := 0) C dJ2_grow_2_6 rfl rfl ?_
  refine z_if_gt (pc := 7) (tgt := 20) C dJ2_grow_2_7 (by decide) (by omega) (fun c7 => ?_) (fun c7 => ?_)
  · refine z_iload_n (pc := 20) (j := 0) C dJ2_grow_2_20 rfl rfl ?_
    refine z_iload_n (pc := 21) (j := 2) C dJ2_grow_2_21 rfl rfl ?_
    refine z_iload_n (pc := 22) (j := 0) C dJ2_grow_2_22 rfl rfl ?_
    refine z_isub (pc := 23) C dJ2_grow_2_23 ?_
    refine z_iload_n (pc := 24) (j := 0) C dJ2_grow_2_24 rfl rfl ?_
    refine z_iconst (pc := 25) C dJ2_grow_2_25 ?_
    refine z_ishr1 (pc := 26) C (by omega) dJ2_grow_2_26 ?_
    refine z_callS (pc := 27) (n := 3) (kc' := 1) (ks' := (lcap cap (cap + 1))) C (ct_A_newLength C.t (o := ((cap : Nat) : Int)) (a := (((cap : Nat) : Int) + 1) - ((cap : Nat) : Int)) (b := ((cap : Nat) : Int) / 2) (by omega) (by omega) (by omega)) (lw_S q219 q220 q70 q221) (by decide +kernel) ⟨by decide, by decide⟩ rfl rfl (Nat.le_of_ble_eq_true rfl) dJ2_grow_2_27 (by omega) (by omega) (zpk (st' := [.int (iI (((cap : Nat) : Int) + max ((((cap : Nat) : Int) + 1) - ((cap : Nat) : Int)) (((cap : Nat) : Int) / 2)))]) rfl ?_) zrx
    refine z_istore_n (pc := 30) (L' := [(3, .int (iI (((cap : Nat) : Int) + max ((((cap : Nat) : Int) + 1) - ((cap : Nat) : Int)) (((cap : Nat) : Int) / 2)))), (2, .int (iI ((cap : Nat) : Int))), (0, .ref a), (1, .int (iI (((cap : Nat) : Int) + 1)))]) C dJ2_grow_2_30 rfl (by rw [hnL]; decide) rfl ?_
    refine z_aload_n (pc := 31) (j := 2) C dJ2_grow_2_31 rfl rfl ?_
    refine z_aload_n (pc := 32) (j := 2) C dJ2_grow_2_32 rfl rfl ?_
    refine z_getfield (pc := 33) (v := .ref e) C in_J2 rfl 1 (by decide) q153 (fun _ z => z) la rfl dJ2_grow_2_33 ?_
    refine z_iload_n (pc := 36) (j := 0) C dJ2_grow_2_36 rfl rfl ?_
    refine z_callS (pc := 37) (n := 2) (kc' := 0) (ks' := (lcap cap (cap + 1) - (((cap : Nat) : Int) + max ((((cap : Nat) : Int) + 1) - ((cap : Nat) : Int)) (((cap : Nat) : Int) / 2)).toNat)) C (ct_A_copyO C.t le (by omega) (m := ((cap : Nat) : Int) + max ((((cap : Nat) : Int) + 1) - ((cap : Nat) : Int)) (((cap : Nat) : Int) / 2)) (by omega) hfit) (lw_S q229 q230 q72 q231) (by decide +kernel) ⟨by decide, by decide⟩ rfl rfl (Nat.le_of_ble_eq_true rfl) dJ2_grow_2_37 (by omega) (by rw [hg, if_neg (by omega)]; omega) (zrk fun w h3 hp => ?_) zrx
    obtain ⟨a1, g2, rfl, fa1, eh3, g21⟩ := hp
    have na1 : h a1 = none := fa1
    have kh3 : zkeep h h3 [a] := by rw [eh3]; exact zkeep.born zkeep.rf fa1
    have fh3_0 : h3 a1 = some (true, .inl ((.object "java/lang/Object"), (((cap : Nat) : Int) + max ((((cap : Nat) : Int) + 1) - ((cap : Nat) : Int)) (((cap : Nat) : Int) / 2)).toNat, g2)) := zse eh3
    have fh3_1 : h3 a = some (true, .inr (10, [.int (iI m), .ref e, .int (iI ((xs.length : Nat) : Int))])) := zsn eh3 la (zneF la fa1)
    show Z X h3 0 (lcap cap (cap + 1) - (((cap : Nat) : Int) + max ((((cap : Nat) : Int) + 1) - ((cap : Nat) : Int)) (((cap : Nat) : Int) / 2)).toNat) [(3, .int (iI (((cap : Nat) : Int) + max ((((cap : Nat) : Int) + 1) - ((cap : Nat) : Int)) (((cap : Nat) : Int) / 2)))), (2, .int (iI ((cap : Nat) : Int))), (0, .ref a), (1, .int (iI (((cap : Nat) : Int) + 1)))] 40 [.ref a1, .ref a]
    refine z_dup_x1 (pc := 40) C dJ2_grow_2_40 rfl rfl ?_
    refine z_putfield (pc := 41) (fs' := [.int (iI m), .ref a1, .int (iI ((xs.length : Nat) : Int))]) C in_J2 tyJ2 tyJ2_ok nmJ2 rfl 1 (by decide) q153 (fun _ z => z) rfl rfl rfl (Nat.le_of_ble_eq_true rfl) fh3_1 rfl dJ2_grow_2_41 ?_
    refine Z.nm (fun h4 eh4 => ?_)
    have kh4 : zkeep h h4 [a] := by rw [eh4]; exact zkeep.up kh3 (Or.inl (by simp)) fh3_1
    have fh4_0 : h4 a = some (true, .inr (10, [.int (iI m), .ref a1, .int (iI ((xs.length : Nat) : Int))])) := zse eh4
    have fh4_1 : h4 a1 = some (true, .inl ((.object "java/lang/Object"), (((cap : Nat) : Int) + max ((((cap : Nat) : Int) + 1) - ((cap : Nat) : Int)) (((cap : Nat) : Int) / 2)).toNat, g2)) := zsn eh4 fh3_0 (Ne.symm (zneF la fa1))
    exact z_areturn (pc := 44) C (Or.inr ⟨_, rfl⟩) (Or.inr ⟨_, rfl⟩) (by rw [hXp]; exact ⟨_, rfl, a1, rfl, lAt.mk rfl (by rw [hg, if_neg (by omega)]; omega) (by rw [hg, if_neg (by omega)]; simp <;> omega) fh4_0 fh4_1 (fun z => by rw [hg, if_neg (by omega)] at z; omega) (lcap_z lt) (Nat.le_trans ln (Nat.le_trans (Nat.le_succ _) lcap_ge)) (lcap_le lc (by omega)) (fun j q z => by rw [g21 j (by have := (List.getElem?_eq_some_iff.mp z).1; omega)]; exact lx j q z) (zels.keep kh4 lq), na1, kh4⟩) dJ2_grow_2_44
  · refine z_aload_n (pc := 10) (j := 1) C dJ2_grow_2_10 rfl rfl ?_
    refine z_getfield (pc := 11) (v := .ref e) C in_J2 rfl 1 (by decide) q153 (fun _ z => z) la rfl dJ2_grow_2_11 ?_
    refine z_emptyE (pc := 14) C q151 dJ2_grow_2_14 ?_
    refine z_acmp_eq (pc := 17) (tgt := 45) C dJ2_grow_2_17 (by decide) (fun c17 => ?_) (fun c17 => by exfalso; exact c17 (lz (by omega)))
    refine z_aload_n (pc := 45) (j := 1) C dJ2_grow_2_45 rfl rfl ?_
    refine z_bipush (pc := 46) C dJ2_grow_2_46 (by decide) ?_
    refine z_iload_n (pc := 48) (j := 2) C dJ2_grow_2_48 rfl rfl ?_
    refine z_callS (pc := 49) (n := 2) (kc' := 1) (ks' := (lcap cap (cap + 1))) C (ct_max C.t (x := 10) (y := ((cap : Nat) : Int) + 1) (by omega) (by omega)) (lw_S q271 q223 q71 q224) (by decide +kernel) ⟨by decide, by decide⟩ rfl rfl (Nat.le_of_ble_eq_true rfl) dJ2_grow_2_49 (by omega) (by omega) (zpk (st' := [.int (iI (max 10 (((cap : Nat) : Int) + 1))), .ref a]) rfl ?_) zrx
    refine z_anewarray (pc := 52) (kc' := 0) (ks' := (lcap cap (cap + 1) - (max 10 (((cap : Nat) : Int) + 1)).toNat)) C q272 q191 (by omega) (by omega) (by rw [hg, if_pos (by omega)]; omega) dJ2_grow_2_52 (fun a5 fa5 => ?_)
    refine Z.nm (fun h6 eh6 => ?_)
    have na5 : h a5 = none := fa5
    have kh6 : zkeep h h6 [a] := by rw [eh6]; exact zkeep.born zkeep.rf fa5
    have fh6_0 : h6 a5 = some (true, .inl ((.object "java/lang/Object"), (max 10 (((cap : Nat) : Int) + 1)).toNat, fun _ => .null)) := zse eh6
    have fh6_1 : h6 a = some (true, .inr (10, [.int (iI m), .ref e, .int (iI ((xs.length : Nat) : Int))])) := zsn eh6 la (zneF la fa5)
    refine z_dup_x1 (pc := 55) C dJ2_grow_2_55 rfl rfl ?_
    refine z_putfield (pc := 56) (fs' := [.int (iI m), .ref a5, .int (iI ((xs.length : Nat) : Int))]) C in_J2 tyJ2 tyJ2_ok nmJ2 rfl 1 (by decide) q153 (fun _ z => z) rfl rfl rfl (Nat.le_of_ble_eq_true rfl) fh6_1 rfl dJ2_grow_2_56 ?_
    refine Z.nm (fun h7 eh7 => ?_)
    have kh7 : zkeep h h7 [a] := by rw [eh7]; exact zkeep.up kh6 (Or.inl (by simp)) fh6_1
    have fh7_0 : h7 a = some (true, .inr (10, [.int (iI m), .ref a5, .int (iI ((xs.length : Nat) : Int))])) := zse eh7
    have fh7_1 : h7 a5 = some (true, .inl ((.object "java/lang/Object"), (max 10 (((cap : Nat) : Int) + 1)).toNat, fun _ => .null)) := zsn eh7 fh6_0 (Ne.symm (zneF la fa5))
    exact z_areturn (pc := 59) C (Or.inr ⟨_, rfl⟩) (Or.inr ⟨_, rfl⟩) (by rw [hXp]; exact ⟨_, rfl, a5, rfl, lAt.mk rfl (by rw [hg, if_pos (by omega)]; omega) (by rw [hg, if_pos (by omega)]; decide) fh7_0 fh7_1 (fun z => by rw [hg, if_pos (by omega)] at z; omega) (lcap_z lt) (Nat.le_trans ln (Nat.le_trans (Nat.le_succ _) lcap_ge)) (lcap_le lc (by omega)) (fun j q z => by have := (List.getElem?_eq_some_iff.mp z).1; omega) (zels.keep kh7 lq), na5, kh7⟩) dJ2_grow_2_59
set_option maxHeartbeats 4000000 in
theorem ct_L_grow {l : Launch} (hl : l.stackTraces = false) {Γ : zCx} {h : zH} {a e : Nat} {xs : List Nat} {cap : Nat} (hl0 : lAt Γ h a e xs cap) (hf : xs.length = cap) (hc : cap ≤ 30000)  : zMet l yJ2_grow (ws_ yJ2_grow cJ2_grow 1 (some (.array (.object "java/lang/Object")))) ({ frames := 4, cells := 1, slots := lcap cap (cap + 1), locals := 88 }) Γ h [.ref a] (zrt (fun w h' => ∃ e', w = some (.ref e') ∧ lAt Γ h' a e' xs (lcap cap (cap + 1)) ∧ h e' = none ∧ zkeep h h' [a])) 1 (lcap cap (cap + 1)) := by
  refine zMet.of (cc := cJ2_grow) hl (plainFor_of_name (by decide +kernel)) (Nat.le_of_ble_eq_true rfl) ?_
  intro X hXl hXΓ hXp C hnm hnL
  have C : zC X cJ2_grow RJ2 (some (.array (.object "java/lang/Object"))) 4 88 [] := C
  have hnL : X.2.1.2.2.2.2 = 1 := hnL
  subst hXl hXΓ
  show Z X h 1 (lcap cap (cap + 1)) [(0, .ref a)] 0 []
  have hl1 := hl0
  obtain ⟨m, f, la, le, lz, lt, ln, lc, lx, lq⟩ := hl0
  refine z_aload_n (pc := 0) (j := 0) C dJ2_grow_0 rfl rfl ?_
  refine z_aload_n (pc := 1) (j := 0) C dJ2_grow_1 rfl rfl ?_
  refine z_getfield (pc := 2) (v := .int (iI ((xs.length : Nat) : Int))) C in_J2 rfl 2 (by decide) q154 (fun _ z => z) la rfl dJ2_grow_2 ?_
  refine z_iconst (pc := 5) C dJ2_grow_5 ?_
  refine z_iadd (pc := 6) C dJ2_grow_6 ?_
  rw [hf]
  show Z X h 1 (lcap cap (cap + 1)) [(0, .ref a)] 7 [.int (iI (((cap : Nat) : Int) + 1)), .ref a]
  refine z_callV (pc := 7) (n := 1) (kc' := 0) (ks' := (lcap cap (cap + 1) - lcap cap (cap + 1))) C (ct_L_grow1 C.t hl1 (by omega) (by omega)) (lw_V q215 q217 qs2 q68 q218) (by decide +kernel) ⟨by decide, by decide⟩ la rfl rfl rfl (Nat.le_of_ble_eq_true rfl) dJ2_grow_7 (by omega) (by omega) (zrk fun w h1 hp => ?_) zrx
  obtain ⟨e2, rfl, hl3, fe2, k4⟩ := hp
  have ne2 : h e2 = none := fe2
  have kh1 : zkeep h h1 [a] := zkeep.loc zkeep.rf k4 (zall_cons (Or.inl (Or.symm (Or.inl (by simp)))) zall_nil)
  show Z X h1 0 (lcap cap (cap + 1) - lcap cap (cap + 1)) [(0, .ref a)] 10 [.ref e2]
  exact z_areturn (pc := 10) C (Or.inr ⟨_, rfl⟩) (Or.inr ⟨_, rfl⟩) (by rw [hXp]; exact ⟨_, rfl, e2, rfl, hl3, ne2, kh1⟩) dJ2_grow_10
set_option maxHeartbeats 4000000 in
theorem ct_L_add3 {l : Launch} (hl : l.stackTraces = false) {Γ : zCx} {h : zH} {a e : Nat} {xs : List Nat} {cap : Nat} (hl0 : lAt Γ h a e xs cap) {q : Nat} {ci : Nat} {qs : List Value} {r : vw_C} (hq : h q = some (false, .inr (ci, qs))) (hr : zcl[ci]? = some r) (hc : Cond.castable r.1 "java/lang/Object" ∈ lw_tbl) (hn : xs.length ≤ 20000)  : zMet l yJ2_add_2 (ws_ yJ2_add_2 cJ2_add_2 4 none) ({ frames := 5, cells := lC cap (xs.length + 1), slots := lS cap (xs.length + 1), locals := 108 }) Γ h [.ref a, .ref q, .ref e, .int (iI ((xs.length : Nat) : Int))] (zrt (fun w h' => w = none ∧ ∃ e', lAt Γ h' a e' (xs ++ [q]) (lcap cap (xs.length + 1)) ∧ (e' = e ∨ h e' = none) ∧ zkeep h h' [a, e])) (lC cap (xs.length + 1)) (lS cap (xs.length + 1)) := by
  refine zMet.of (cc := cJ2_add_2) hl (plainFor_of_name (by decide +kernel)) (Nat.le_of_ble_eq_true rfl) ?_
  intro X hXl hXΓ hXp C hnm hnL
  have C : zC X cJ2_add_2 RJ2 none 5 108 [] := C
  have hnL : X.2.1.2.2.2.2 = 4 := hnL
  subst hXl hXΓ
  show Z X h (lC cap (xs.length + 1)) (lS cap (xs.length + 1)) [(0, .ref a), (1, .ref q), (2, .ref e), (3, .int (iI ((xs.length : Nat) : Int)))] 0 []
  have hx := hl0
  obtain ⟨m, f, la, le, lz, lt, ln, lc, lx, lq⟩ := hx
  refine z_iload_n (pc := 0) (j := 3) C dJ2_add_2_0 rfl rfl ?_
  refine z_aload_n (pc := 1) (j := 2) C dJ2_add_2_1 rfl rfl ?_
  refine z_alen (pc := 2) C le dJ2_add_2_2 ?_
  refine z_icmp_ne (pc := 3) (tgt := 11) C dJ2_add_2_3 (by decide) (by omega) (by omega) (fun c3 => ?_) (fun c3 => ?_)
  · have ht : decide (cap ≠ 0) = true := decide_eq_true (by omega)
    rw [ht] at le
    refine z_aload_n (pc := 11) (j := 2) C dJ2_add_2_11 rfl rfl ?_
    refine z_iload_n (pc := 12) (j := 3) C dJ2_add_2_12 rfl rfl ?_
    refine z_aload_n (pc := 13) (j := 1) C dJ2_add_2_13 rfl rfl ?_
    refine z_aastore (pc := 14) (f' := updV f (Int.toNat ((xs.length : Nat) : Int)) (.ref q)) C hr (Or.inr hc) hq le (by have := lcap_ge (cap := cap) (n := cap + 1); omega) rfl dJ2_add_2_14 ?_
    refine Z.nm (fun h1 eh1 => ?_)
    have kh1 : zkeep h h1 [a, e] := by rw [eh1]; exact zkeep.up zkeep.rf (Or.inl (by simp)) le
    have fh1_0 : h1 e = some (true, .inl ((.object "java/lang/Object"), cap, updV f (Int.toNat ((xs.length : Nat) : Int)) (.ref q))) := zse eh1
    have fh1_1 : h1 a = some (true, .inr (10, [.int (iI m), .ref e, .int (iI ((xs.length : Nat) : Int))])) := zsn eh1 la (zneA la le)
    refine z_aload_n (pc := 15) (j := 0) C dJ2_add_2_15 rfl rfl ?_
    refine z_iload_n (pc := 16) (j := 3) C dJ2_add_2_16 rfl rfl ?_
    refine z_iconst (pc := 17) C dJ2_add_2_17 ?_
    refine z_iadd (pc := 18) C dJ2_add_2_18 ?_
    refine z_putfield (pc := 19) (fs' := [.int (iI m), .ref e, .int (iI (((xs.length : Nat) : Int) + 1))]) C in_J2 tyJ2 tyJ2_ok nmJ2 rfl 2 (by decide) q154 (fun _ z => z) rfl rfl rfl (Nat.le_of_ble_eq_true rfl) fh1_1 rfl dJ2_add_2_19 ?_
    refine Z.nm (fun h2 eh2 => ?_)
    have kh2 : zkeep h h2 [a, e] := by rw [eh2]; exact zkeep.up kh1 (Or.inl (by simp)) fh1_1
    have fh2_0 : h2 a = some (true, .inr (10, [.int (iI m), .ref e, .int (iI (((xs.length : Nat) : Int) + 1))])) := zse eh2
    have fh2_1 : h2 e = some (true, .inl ((.object "java/lang/Object"), cap, updV f (Int.toNat ((xs.length : Nat) : Int)) (.ref q))) := zsn eh2 fh1_0 (Ne.symm (zneA fh1_1 fh1_0))
    exact z_return (pc := 22) C (by rw [hXp]; exact ⟨_, rfl, rfl, e, lAt.mk (by simp) (by rw [lcap, if_pos (by omega)]) (by rw [lcap, if_pos (by omega)]; exact ht.symm) fh2_0 fh2_1 (by rw [lcap, if_pos (by omega)]; exact lz) (lcap_z lt) (by simp; exact lcap_ge) (lcap_le lc (by omega)) (lx_app lx) (lq_app (zels.keep kh2 lq) (zel.of (kh2.f hq) hr hc)), Or.inl rfl, kh2⟩) dJ2_add_2_22
  · refine z_aload_n (pc := 6) (j := 0) C dJ2_add_2_6 rfl rfl ?_
    refine z_callV (pc := 7) (n := 0) (kc' := (lC cap (xs.length + 1) - 1)) (ks' := (lS cap (xs.length + 1) - lcap cap (cap + 1))) C (ct_L_grow C.t hl0 (by omega) (by omega)) (lw_V q211 q213 qs1 q68 q214) (by decide +kernel) ⟨by decide, by decide⟩ la rfl rfl rfl (Nat.le_of_ble_eq_true rfl) dJ2_add_2_7 (by rw [lC, if_neg (by omega)]; omega) (by rw [lS, if_neg (by omega), show xs.length = cap by omega]; omega) (zrk fun w h3 hp => ?_) zrx
    obtain ⟨e4, rfl, hl5, fe4, k6⟩ := hp
    have ne4 : h e4 = none := fe4
    have kh3 : zkeep h h3 [a, e] := zkeep.loc zkeep.rf k6 (zall_cons (Or.inl (Or.symm (Or.inl (by simp)))) zall_nil)
    show Z X h3 (lC cap (xs.length + 1) - 1) (lS cap (xs.length + 1) - lcap cap (cap + 1)) [(0, .ref a), (1, .ref q), (2, .ref e), (3, .int (iI ((xs.length : Nat) : Int)))] 10 [.ref e4]
    have hx2 := hl5
    obtain ⟨m2, f2, la2, le2, lz2, lt2, ln2, lc2, lx2, lq2⟩ := hx2
    have ht2 : decide (lcap cap (cap + 1) ≠ 0) = true := decide_eq_true (by have := lcap_ge (cap := cap) (n := cap + 1); omega)
    rw [ht2] at le2
    refine z_astore_n (pc := 10) (L' := [(2, .ref e4), (0, .ref a), (1, .ref q), (3, .int (iI ((xs.length : Nat) : Int)))]) C dJ2_add_2_10 rfl (by rw [hnL]; decide) rfl ?_
    refine z_aload_n (pc := 11) (j := 0) C dJ2_add_2_11 rfl rfl ?_
    refine z_iload_n (pc := 12) (j := 3) C dJ2_add_2_12 rfl rfl ?_
    refine z_aload_n (pc := 13) (j := 2) C dJ2_add_2_13 rfl rfl ?_
    refine z_aastore (pc := 14) (f' := updV f2 (Int.toNat ((xs.length : Nat) : Int)) (.ref q)) C hr (Or.inr hc) (kh3.f hq) le2 (by have := lcap_ge (cap := cap) (n := cap + 1); omega) rfl dJ2_add_2_14 ?_
    refine Z.nm (fun h7 eh7 => ?_)
    have kh7 : zkeep h h7 [a, e] := by rw [eh7]; exact zkeep.up kh3 (Or.inr ne4) le2
    have fh7_0 : h7 e4 = some (true, .inl ((.object "java/lang/Object"), lcap cap (cap + 1), updV f2 (Int.toNat ((xs.length : Nat) : Int)) (.ref q))) := zse eh7
    have fh7_1 : h7 a = some (true, .inr (10, [.int (iI m2), .ref e4, .int (iI ((xs.length : Nat) : Int))])) := zsn eh7 la2 (zneA la2 le2)
    have sh7 : zkeep h3 h7 [e4] := zkeep.one eh7 le2
    have ph7_1 : ∀ q ∈ xs, zel h7 q := zels.keep sh7 lq2
    refine z_aload_n (pc := 15) (j := 1) C dJ2_add_2_15 rfl rfl ?_
    refine z_iload_n (pc := 16) (j := 3) C dJ2_add_2_16 rfl rfl ?_
    refine z_iconst (pc := 17) C dJ2_add_2_17 ?_
    refine z_iadd (pc := 18) C dJ2_add_2_18 ?_
    refine z_putfield (pc := 19) (fs' := [.int (iI m2), .ref e4, .int (iI (((xs.length : Nat) : Int) + 1))]) C in_J2 tyJ2 tyJ2_ok nmJ2 rfl 2 (by decide) q154 (fun _ z => z) rfl rfl rfl (Nat.le_of_ble_eq_true rfl) fh7_1 rfl dJ2_add_2_19 ?_
    refine Z.nm (fun h8 eh8 => ?_)
    have kh8 : zkeep h h8 [a, e] := by rw [eh8]; exact zkeep.up kh7 (Or.inl (by simp)) fh7_1
    have fh8_0 : h8 a = some (true, .inr (10, [.int (iI m2), .ref e4, .int (iI (((xs.length : Nat) : Int) + 1))])) := zse eh8
    have fh8_1 : h8 e4 = some (true, .inl ((.object "java/lang/Object"), lcap cap (cap + 1), updV f2 (Int.toNat ((xs.length : Nat) : Int)) (.ref q))) := zsn eh8 fh7_0 (Ne.symm (zneA fh7_1 fh7_0))
    have sh8 : zkeep h7 h8 [a] := zkeep.one eh8 fh7_1
    have ph8_1 : ∀ q ∈ xs, zel h8 q := zels.keep sh8 ph7_1
    exact z_return (pc := 22) C (by rw [hXp]; exact ⟨_, rfl, rfl, e4, lAt.mk (by simp) (by rw [show xs.length = cap by omega]) (by rw [show xs.length = cap by omega]; exact ht2.symm) fh8_0 fh8_1 (by rw [show xs.length = cap by omega]; exact lz2) (lcap_z lt) (by simp; exact lcap_ge) (lcap_le lc (by omega)) (lx_app lx2) (lq_app ph8_1 (zel.of (kh8.f hq) hr hc)), Or.inr ne4, kh8⟩) dJ2_add_2_22
set_option maxHeartbeats 4000000 in
theorem ct_L_add {l : Launch} (hl : l.stackTraces = false) {Γ : zCx} {h : zH} {a e : Nat} {xs : List Nat} {cap : Nat} (hl0 : lAt Γ h a e xs cap) {q : Nat} {ci : Nat} {qs : List Value} {r : vw_C} (hq : h q = some (false, .inr (ci, qs))) (hr : zcl[ci]? = some r) (hc : Cond.castable r.1 "java/lang/Object" ∈ lw_tbl) (hn : xs.length ≤ 20000)  : zMet l yJ2_add (ws_ yJ2_add cJ2_add 2 (some .boolean)) ({ frames := 6, cells := lC cap (xs.length + 1), slots := lS cap (xs.length + 1), locals := 131 }) Γ h [.ref a, .ref q] (zrt (fun w h' => w = some (.int (iI 1)) ∧ ∃ e', lAt Γ h' a e' (xs ++ [q]) (lcap cap (xs.length + 1)) ∧ (e' = e ∨ h e' = none) ∧ zkeep h h' [a, e])) (lC cap (xs.length + 1)) (lS cap (xs.length + 1)) := by
  refine zMet.of (cc := cJ2_add) hl (plainFor_of_name (by decide +kernel)) (Nat.le_of_ble_eq_true rfl) ?_
  intro X hXl hXΓ hXp C hnm hnL
  have C : zC X cJ2_add RJ2 (some .boolean) 6 131 [] := C
  have hnL : X.2.1.2.2.2.2 = 2 := hnL
  subst hXl hXΓ
  show Z X h (lC cap (xs.length + 1)) (lS cap (xs.length + 1)) [(0, .ref a), (1, .ref q)] 0 []
  have hl1 := hl0
  have hx := hl0
  obtain ⟨m, f, la, le, lz, lt, ln, lc, lx, lq⟩ := hx
  refine z_aload_n (pc := 0) (j := 0) C dJ2_add_0 rfl rfl ?_
  refine z_dup (pc := 1) C dJ2_add_1 rfl ?_
  refine z_getfield (pc := 2) (v := .int (iI m)) C in_J2 rfl 0 (by decide) q156 (u_same (C.w _ q157)) la rfl dJ2_add_2 ?_
  refine z_iconst (pc := 5) C dJ2_add_5 ?_
  refine z_iadd (pc := 6) C dJ2_add_6 ?_
  refine z_putfield (pc := 7) (fs' := [.int (iI (m + 1)), .ref e, .int (iI ((xs.length : Nat) : Int))]) C in_J2 tyJ2 tyJ2_ok nmJ2 rfl 0 (by decide) q156 (u_same (C.w _ q157)) rfl rfl rfl (Nat.le_of_ble_eq_true rfl) la rfl dJ2_add_7 ?_
  refine Z.nm (fun h1 eh1 => ?_)
  have kh1 : zkeep h h1 [a, e] := by rw [eh1]; exact zkeep.up zkeep.rf (Or.inl (by simp)) la
  have fh1_0 : h1 a = some (true, .inr (10, [.int (iI (m + 1)), .ref e, .int (iI ((xs.length : Nat) : Int))])) := zse eh1
  have fh1_1 : h1 e = some ((decide (cap ≠ 0)), .inl ((.object "java/lang/Object"), cap, f)) := zsn eh1 le (Ne.symm (zneA la le))
  refine z_aload_n (pc := 10) (j := 0) C dJ2_add_10 rfl rfl ?_
  refine z_aload_n (pc := 11) (j := 1) C dJ2_add_11 rfl rfl ?_
  refine z_aload_n (pc := 12) (j := 0) C dJ2_add_12 rfl rfl ?_
  refine z_getfield (pc := 13) (v := .ref e) C in_J2 rfl 1 (by decide) q153 (fun _ z => z) fh1_0 rfl dJ2_add_13 ?_
  refine z_aload_n (pc := 16) (j := 0) C dJ2_add_16 rfl rfl ?_
  refine z_getfield (pc := 17) (v := .int (iI ((xs.length : Nat) : Int))) C in_J2 rfl 2 (by decide) q154 (fun _ z => z) fh1_0 rfl dJ2_add_17 ?_
  refine z_callV (pc := 20) (n := 3) (kc' := (lC cap (xs.length + 1) - lC cap (xs.length + 1))) (ks' := (lS cap (xs.length + 1) - lS cap (xs.length + 1))) C (ct_L_add3 C.t (lAt.mk (cap := cap) rfl rfl rfl fh1_0 fh1_1 lz lt ln lc lx (zels.keep kh1 lq)) (kh1.f hq) hr hc (by first | omega | (simp; omega))) (lw_V q207 q209 qs0 q68 q210) (by decide +kernel) ⟨by decide, by decide⟩ fh1_0 rfl rfl rfl (Nat.le_of_ble_eq_true rfl) dJ2_add_20 (by omega) (by omega) (zrk fun w h2 hp => ?_) zrx
  obtain ⟨rfl, e3, hl4, he5, k6⟩ := hp
  have de3 : e3 ∈ ([a, e] : List Nat) ∨ h e3 = none := zmayL (Or.inl (Or.inl (by simp))) (lAt.mk (cap := cap) rfl rfl rfl fh1_0 fh1_1 lz lt ln lc lx (zels.keep kh1 lq)) hl4 (by have := lcap_ge (cap := cap) (n := xs.length + 1); omega) he5 kh1 k6
  have ge3 : e3 = e ∨ h e3 = none := he5.imp_right (fun z => kh1.none0 z (List.not_mem_cons_of_ne_of_not_mem (Ne.symm (zneF fh1_0 z)) (List.not_mem_cons_of_ne_of_not_mem (Ne.symm (zneF fh1_1 z)) List.not_mem_nil)))
  have kh2 : zkeep h h2 [a, e] := zkeep.loc kh1 k6 (zall_cons (Or.inl (Or.symm (Or.inl (by simp)))) (zall_cons (Or.inl (Or.symm (Or.inl (by simp)))) zall_nil))
  show Z X h2 (lC cap (xs.length + 1) - lC cap (xs.length + 1)) (lS cap (xs.length + 1) - lS cap (xs.length + 1)) [(0, .ref a), (1, .ref q)] 23 []
  refine z_iconst (pc := 23) C dJ2_add_23 ?_
  exact z_zreturn (pc := 24) C (by decide) (by rw [hXp]; exact ⟨_, rfl, rfl, e3, hl4, ge3, kh2⟩) dJ2_add_24
set_option maxHeartbeats 4000000 in
theorem ct_L_rcfa {l : Launch} (hl : l.stackTraces = false) {Γ : zCx} {h : zH} {a e : Nat} {fl : Bool} {m : Value} {n i : Int} (ha : h a = some (fl, .inr (10, [m, .ref e, .int (iI n)]))) (hi : 0 ≤ i ∧ i ≤ n) (hn : n ≤ 100000) : zMet l yJ2_rangeCheckForAdd (ws_ yJ2_rangeCheckForAdd cJ2_rangeCheckForAdd 2 none) ({ frames := 0, cells := 0, slots := 0, locals := 0 }) Γ h [.ref a, .int (iI i)] (zpure h none) 0 0 := by
  refine zMet.of (cc := cJ2_rangeCheckForAdd) hl (plainFor_of_name (by decide +kernel)) (Nat.le_of_ble_eq_true rfl) ?_
  intro X hXl hXΓ hXp C hnm hnL
  have C : zC X cJ2_rangeCheckForAdd RJ2 none 0 0 [] := C
  have hnL : X.2.1.2.2.2.2 = 2 := hnL
  subst hXl hXΓ
  show Z X h 0 0 [(0, .ref a), (1, .int (iI i))] 0 []
  refine z_iload_n (pc := 0) (j := 1) C dJ2_rangeCheckForAdd_0 rfl rfl ?_
  refine z_aload_n (pc := 1) (j := 0) C dJ2_rangeCheckForAdd_1 rfl rfl ?_
  refine z_getfield (pc := 2) (v := .int (iI n)) C in_J2 rfl 2 (by decide) q154 (fun _ z => z) ha rfl dJ2_rangeCheckForAdd_2 ?_
  refine z_icmp_gt (pc := 5) (tgt := 12) C dJ2_rangeCheckForAdd_5 (by decide) (by omega) (by omega) (fun c5 => by exfalso; omega) (fun c5 => ?_)
  refine z_iload_n (pc := 8) (j := 1) C dJ2_rangeCheckForAdd_8 rfl rfl ?_
  refine z_if_ge (pc := 9) (tgt := 25) C dJ2_rangeCheckForAdd_9 (by decide) (by omega) (fun c9 => ?_) (fun c9 => by exfalso; omega)
  exact z_return (pc := 25) C (by rw [hXp]; exact zpure_v rfl rfl) dJ2_rangeCheckForAdd_25
set_option maxHeartbeats 4000000 in
theorem ct_L_addI {l : Launch} (hl : l.stackTraces = false) {Γ : zCx} {h : zH} {a e : Nat} {xs : List Nat} {cap : Nat} (hl0 : lAt Γ h a e xs cap) {q : Nat} {ci : Nat} {qs : List Value} {r : vw_C} (hq : h q = some (false, .inr (ci, qs))) (hr : zcl[ci]? = some r) (hc : Cond.castable r.1 "java/lang/Object" ∈ lw_tbl) (hn : xs.length ≤ 20000) {i : Int} (hi : 0 ≤ i ∧ i ≤ (xs.length : Nat)) : zMet l yJ2_add_3 (ws_ yJ2_add_3 cJ2_add_3 5 none) ({ frames := 5, cells := lC cap (xs.length + 1), slots := lS cap (xs.length + 1), locals := 108 }) Γ h [.ref a, .int (iI i), .ref q] (zrt (fun w h' => w = none ∧ ∃ e', lAt Γ h' a e' (xs.take i.toNat ++ q :: xs.drop i.toNat) (lcap cap (xs.length + 1)) ∧ (e' = e ∨ h e' = none) ∧ zkeep h h' [a, e])) (lC cap (xs.length + 1)) (lS cap (xs.length + 1)) := by
  refine zMet.of (cc := cJ2_add_3) hl (plainFor_of_name (by decide +kernel)) (Nat.le_of_ble_eq_true rfl) ?_
  intro X hXl hXΓ hXp C hnm hnL
  have C : zC X cJ2_add_3 RJ2 none 5 108 [] := C
  have hnL : X.2.1.2.2.2.2 = 5 := hnL
  subst hXl hXΓ
  show Z X h (lC cap (xs.length + 1)) (lS cap (xs.length + 1)) [(0, .ref a), (1, .int (iI i)), (2, .ref q)] 0 []
  have hl1 := hl0
  have hx := hl0
  obtain ⟨m, f, la, le, lz, lt, ln, lc, lx, lq⟩ := hx
  refine z_aload_n (pc := 0) (j := 0) C dJ2_add_3_0 rfl rfl ?_
  refine z_iload_n (pc := 1) (j := 1) C dJ2_add_3_1 rfl rfl ?_
  refine z_callV (pc := 2) (n := 1) (kc' := (lC cap (xs.length + 1))) (ks' := (lS cap (xs.length + 1))) C (ct_L_rcfa C.t la (i := i) (by omega) (by omega)) (lw_V q1814 q1816 qs18 q68 q1817) (by decide +kernel) ⟨by decide, by decide⟩ la rfl rfl rfl (Nat.le_of_ble_eq_true rfl) dJ2_add_3_2 (by omega) (by omega) (zpk (st' := []) rfl ?_) zrx
  refine z_aload_n (pc := 5) (j := 0) C dJ2_add_3_5 rfl rfl ?_
  refine z_dup (pc := 6) C dJ2_add_3_6 rfl ?_
  refine z_getfield (pc := 7) (v := .int (iI m)) C in_J2 rfl 0 (by decide) q156 (u_same (C.w _ q157)) la rfl dJ2_add_3_7 ?_
  refine z_iconst (pc := 10) C dJ2_add_3_10 ?_
  refine z_iadd (pc := 11) C dJ2_add_3_11 ?_
  refine z_putfield (pc := 12) (fs' := [.int (iI (m + 1)), .ref e, .int (iI ((xs.length : Nat) : Int))]) C in_J2 tyJ2 tyJ2_ok nmJ2 rfl 0 (by decide) q156 (u_same (C.w _ q157)) rfl rfl rfl (Nat.le_of_ble_eq_true rfl) la rfl dJ2_add_3_12 ?_
  refine Z.nm (fun h1 eh1 => ?_)
  have kh1 : zkeep h h1 [a, e] := by rw [eh1]; exact zkeep.up zkeep.rf (Or.inl (by simp)) la
  have fh1_0 : h1 a = some (true, .inr (10, [.int (iI (m + 1)), .ref e, .int (iI ((xs.length : Nat) : Int))])) := zse eh1
  have fh1_1 : h1 e = some ((decide (cap ≠ 0)), .inl ((.object "java/lang/Object"), cap, f)) := zsn eh1 le (Ne.symm (zneA la le))
  refine z_aload_n (pc := 15) (j := 0) C dJ2_add_3_15 rfl rfl ?_
  refine z_getfield (pc := 16) (v := .int (iI ((xs.length : Nat) : Int))) C in_J2 rfl 2 (by decide) q154 (fun _ z => z) fh1_0 rfl dJ2_add_3_16 ?_
  refine z_dup (pc := 19) C dJ2_add_3_19 rfl ?_
  refine z_istore_n (pc := 20) (L' := [(3, .int (iI ((xs.length : Nat) : Int))), (0, .ref a), (1, .int (iI i)), (2, .ref q)]) C dJ2_add_3_20 rfl (by rw [hnL]; decide) rfl ?_
  refine z_aload_n (pc := 21) (j := 1) C dJ2_add_3_21 rfl rfl ?_
  refine z_getfield (pc := 22) (v := .ref e) C in_J2 rfl 1 (by decide) q153 (fun _ z => z) fh1_0 rfl dJ2_add_3_22 ?_
  refine z_dup (pc := 25) C dJ2_add_3_25 rfl ?_
  refine z_astore (pc := 26) (L' := [(4, .ref e), (3, .int (iI ((xs.length : Nat) : Int))), (0, .ref a), (1, .int (iI i)), (2, .ref q)]) C dJ2_add_3_26 (by rw [hnL]; decide) rfl ?_
  refine z_alen (pc := 28) C fh1_1 dJ2_add_3_28 ?_
  refine z_icmp_ne (pc := 29) (tgt := 38) C dJ2_add_3_29 (by decide) (by omega) (by omega) (fun c29 => ?_) (fun c29 => ?_)
  · have ht : decide (cap ≠ 0) = true := decide_eq_true (by omega)
    rw [ht] at fh1_1
    refine z_aload (pc := 38) (j := 0) C dJ2_add_3_38 rfl ?_
    refine z_iload_n (pc := 40) (j := 3) C dJ2_add_3_40 rfl rfl ?_
    refine z_aload (pc := 41) (j := 0) C dJ2_add_3_41 rfl ?_
    refine z_iload_n (pc := 43) (j := 3) C dJ2_add_3_43 rfl rfl ?_
    refine z_iconst (pc := 44) C dJ2_add_3_44 ?_
    refine z_iadd (pc := 45) C dJ2_add_3_45 ?_
    refine z_iload_n (pc := 46) (j := 1) C dJ2_add_3_46 rfl rfl ?_
    refine z_iload_n (pc := 47) (j := 3) C dJ2_add_3_47 rfl rfl ?_
    refine z_isub (pc := 48) C dJ2_add_3_48 ?_
    have hft : ∀ j, j < xs.length → zfit "java/lang/Object" h1 (f j) := fun j hj => lx_fit lx (zels.keep kh1 lq) hj
    refine z_copyQ (pc := 49) (g' := va_cpy f f (Int.toNat i) (Int.toNat (i + 1)) (Int.toNat (((xs.length : Nat) : Int) - i))) C q1831 q270 q269 q73 fh1_1 fh1_1 (by omega) (by have := lcap_ge (cap := cap) (n := cap + 1); omega) (by omega) (fun j hj => hft _ (by omega)) rfl (by decide) (by decide) dJ2_add_3_49 ?_
    refine Z.nm (fun h2 eh2 => ?_)
    have kh2 : zkeep h h2 [a, e] := by rw [eh2]; exact zkeep.up kh1 (Or.inl (by simp)) fh1_1
    have fh2_0 : h2 e = some (true, .inl ((.object "java/lang/Object"), cap, va_cpy f f (Int.toNat i) (Int.toNat (i + 1)) (Int.toNat (((xs.length : Nat) : Int) - i)))) := zse eh2
    have fh2_1 : h2 a = some (true, .inr (10, [.int (iI (m + 1)), .ref e, .int (iI ((xs.length : Nat) : Int))])) := zsn eh2 fh1_0 (zneA fh1_0 fh1_1)
    refine z_aload (pc := 52) (j := 0) C dJ2_add_3_52 rfl ?_
    refine z_iload_n (pc := 54) (j := 3) C dJ2_add_3_54 rfl rfl ?_
    refine z_aload_n (pc := 55) (j := 4) C dJ2_add_3_55 rfl rfl ?_
    refine z_aastore (pc := 56) (f' := updV (va_cpy f f (Int.toNat i) (Int.toNat (i + 1)) (Int.toNat (((xs.length : Nat) : Int) - i))) (Int.toNat i) (.ref q)) C hr (Or.inr hc) (kh2.f hq) fh2_0 (by have := lcap_ge (cap := cap) (n := cap + 1); omega) rfl dJ2_add_3_56 ?_
    refine Z.nm (fun h3 eh3 => ?_)
    have kh3 : zkeep h h3 [a, e] := by rw [eh3]; exact zkeep.up kh2 (Or.inl (by simp)) fh2_0
    have fh3_0 : h3 e = some (true, .inl ((.object "java/lang/Object"), cap, updV (va_cpy f f (Int.toNat i) (Int.toNat (i + 1)) (Int.toNat (((xs.length : Nat) : Int) - i))) (Int.toNat i) (.ref q))) := zse eh3
    have fh3_1 : h3 a = some (true, .inr (10, [.int (iI (m + 1)), .ref e, .int (iI ((xs.length : Nat) : Int))])) := zsn eh3 fh2_1 (zneA fh2_1 fh2_0)
    refine z_aload_n (pc := 57) (j := 2) C dJ2_add_3_57 rfl rfl ?_
    refine z_iload_n (pc := 58) (j := 1) C dJ2_add_3_58 rfl rfl ?_
    refine z_iconst (pc := 59) C dJ2_add_3_59 ?_
    refine z_iadd (pc := 60) C dJ2_add_3_60 ?_
    refine z_putfield (pc := 61) (fs' := [.int (iI (m + 1)), .ref e, .int (iI (((xs.length : Nat) : Int) + 1))]) C in_J2 tyJ2 tyJ2_ok nmJ2 rfl 2 (by decide) q154 (fun _ z => z) rfl rfl rfl (Nat.le_of_ble_eq_true rfl) fh3_1 rfl dJ2_add_3_61 ?_
    refine Z.nm (fun h4 eh4 => ?_)
    have kh4 : zkeep h h4 [a, e] := by rw [eh4]; exact zkeep.up kh3 (Or.inl (by simp)) fh3_1
    have fh4_0 : h4 a = some (true, .inr (10, [.int (iI (m + 1)), .ref e, .int (iI (((xs.length : Nat) : Int) + 1))])) := zse eh4
    have fh4_1 : h4 e = some (true, .inl ((.object "java/lang/Object"), cap, updV (va_cpy f f (Int.toNat i) (Int.toNat (i + 1)) (Int.toNat (((xs.length : Nat) : Int) - i))) (Int.toNat i) (.ref q))) := zsn eh4 fh3_0 (Ne.symm (zneA fh3_1 fh3_0))
    exact z_return (pc := 64) C (by rw [hXp]; exact ⟨_, rfl, rfl, e, lAt.mk (lx_inl hi) (by rw [lcap, if_pos (by omega)]) (by rw [lcap, if_pos (by omega)]; exact ht.symm) fh4_0 fh4_1 (by rw [lcap, if_pos (by omega)]; exact lz) (lcap_z lt) (by have := lx_inl (q := q) hi; have := lcap_ge (cap := cap) (n := xs.length + 1); omega) (lcap_le lc (by omega)) (lx_ins lx hi) (lq_ins (zels.keep kh4 lq) (zel.of (kh4.f hq) hr hc)), Or.inl rfl, kh4⟩) dJ2_add_3_64
  · refine z_aload_n (pc := 32) (j := 2) C dJ2_add_3_32 rfl rfl ?_
    refine z_callV (pc := 33) (n := 0) (kc' := (lC cap (xs.length + 1) - 1)) (ks' := (lS cap (xs.length + 1) - lcap cap (cap + 1))) C (ct_L_grow C.t (lAt.mk (cap := cap) rfl rfl rfl fh1_0 fh1_1 lz lt ln lc lx (zels.keep kh1 lq)) (by omega) (by omega)) (lw_V q211 q213 qs1 q68 q214) (by decide +kernel) ⟨by decide, by decide⟩ fh1_0 rfl rfl rfl (Nat.le_of_ble_eq_true rfl) dJ2_add_3_33 (by rw [lC, if_neg (by omega)]; omega) (by rw [lS, if_neg (by omega), show xs.length = cap by omega]; omega) (zrk fun w h5 hp => ?_) zrx
    obtain ⟨e6, rfl, hl7, fe6, k8⟩ := hp
    have ne6 : h e6 = none := kh1.none0 fe6 (List.not_mem_cons_of_ne_of_not_mem (Ne.symm (zneF fh1_0 fe6)) (List.not_mem_cons_of_ne_of_not_mem (Ne.symm (zneF fh1_1 fe6)) List.not_mem_nil))
    have kh5 : zkeep h h5 [a, e] := zkeep.loc kh1 k8 (zall_cons (Or.inl (Or.symm (Or.inl (by simp)))) zall_nil)
    show Z X h5 (lC cap (xs.length + 1) - 1) (lS cap (xs.length + 1) - lcap cap (cap + 1)) [(4, .ref e), (3, .int (iI ((xs.length : Nat) : Int))), (0, .ref a), (1, .int (iI i)), (2, .ref q)] 36 [.ref e6]
    have hx2 := hl7
    obtain ⟨m2, f2, la2, le2, lz2, lt2, ln2, lc2, lx2, lq2⟩ := hx2
    have ht2 : decide (lcap cap (cap + 1) ≠ 0) = true := decide_eq_true (by have := lcap_ge (cap := cap) (n := cap + 1); omega)
    rw [ht2] at le2
    refine z_astore (pc := 36) (L' := [(4, .ref e6), (3, .int (iI ((xs.length : Nat) : Int))), (0, .ref a), (1, .int (iI i)), (2, .ref q)]) C dJ2_add_3_36 (by rw [hnL]; decide) rfl ?_
    refine z_aload (pc := 38) (j := 0) C dJ2_add_3_38 rfl ?_
    refine z_iload_n (pc := 40) (j := 3) C dJ2_add_3_40 rfl rfl ?_
    refine z_aload (pc := 41) (j := 0) C dJ2_add_3_41 rfl ?_
    refine z_iload_n (pc := 43) (j := 3) C dJ2_add_3_43 rfl rfl ?_
    refine z_iconst (pc := 44) C dJ2_add_3_44 ?_
    refine z_iadd (pc := 45) C dJ2_add_3_45 ?_
    refine z_iload_n (pc := 46) (j := 1) C dJ2_add_3_46 rfl rfl ?_
    refine z_iload_n (pc := 47) (j := 3) C dJ2_add_3_47 rfl rfl ?_
    refine z_isub (pc := 48) C dJ2_add_3_48 ?_
    have hft : ∀ j, j < xs.length → zfit "java/lang/Object" h5 (f2 j) := fun j hj => lx_fit lx2 lq2 hj
    refine z_copyQ (pc := 49) (g' := va_cpy f2 f2 (Int.toNat i) (Int.toNat (i + 1)) (Int.toNat (((xs.length : Nat) : Int) - i))) C q1831 q270 q269 q73 le2 le2 (by omega) (by have := lcap_ge (cap := cap) (n := cap + 1); omega) (by omega) (fun j hj => hft _ (by omega)) rfl (by decide) (by decide) dJ2_add_3_49 ?_
    refine Z.nm (fun h9 eh9 => ?_)
    have kh9 : zkeep h h9 [a, e] := by rw [eh9]; exact zkeep.up kh5 (Or.inr ne6) le2
    have fh9_0 : h9 e6 = some (true, .inl ((.object "java/lang/Object"), lcap cap (cap + 1), va_cpy f2 f2 (Int.toNat i) (Int.toNat (i + 1)) (Int.toNat (((xs.length : Nat) : Int) - i)))) := zse eh9
    have fh9_1 : h9 a = some (true, .inr (10, [.int (iI m2), .ref e6, .int (iI ((xs.length : Nat) : Int))])) := zsn eh9 la2 (zneA la2 le2)
    have sh9 : zkeep h5 h9 [e6] := zkeep.one eh9 le2
    have ph9_1 : ∀ q ∈ xs, zel h9 q := zels.keep sh9 lq2
    refine z_aload (pc := 52) (j := 0) C dJ2_add_3_52 rfl ?_
    refine z_iload_n (pc := 54) (j := 3) C dJ2_add_3_54 rfl rfl ?_
    refine z_aload_n (pc := 55) (j := 4) C dJ2_add_3_55 rfl rfl ?_
    refine z_aastore (pc := 56) (f' := updV (va_cpy f2 f2 (Int.toNat i) (Int.toNat (i + 1)) (Int.toNat (((xs.length : Nat) : Int) - i))) (Int.toNat i) (.ref q)) C hr (Or.inr hc) (kh9.f hq) fh9_0 (by have := lcap_ge (cap := cap) (n := cap + 1); omega) rfl dJ2_add_3_56 ?_
    refine Z.nm (fun h10 eh10 => ?_)
    have kh10 : zkeep h h10 [a, e] := by rw [eh10]; exact zkeep.up kh9 (Or.inr ne6) fh9_0
    have fh10_0 : h10 e6 = some (true, .inl ((.object "java/lang/Object"), lcap cap (cap + 1), updV (va_cpy f2 f2 (Int.toNat i) (Int.toNat (i + 1)) (Int.toNat (((xs.length : Nat) : Int) - i))) (Int.toNat i) (.ref q))) := zse eh10
    have fh10_1 : h10 a = some (true, .inr (10, [.int (iI m2), .ref e6, .int (iI ((xs.length : Nat) : Int))])) := zsn eh10 fh9_1 (zneA fh9_1 fh9_0)
    have sh10 : zkeep h9 h10 [e6] := zkeep.one eh10 fh9_0
    have ph10_1 : ∀ q ∈ xs, zel h10 q := zels.keep sh10 ph9_1
    refine z_aload_n (pc := 57) (j := 2) C dJ2_add_3_57 rfl rfl ?_
    refine z_iload_n (pc := 58) (j := 1) C dJ2_add_3_58 rfl rfl ?_
    refine z_iconst (pc := 59) C dJ2_add_3_59 ?_
    refine z_iadd (pc := 60) C dJ2_add_3_60 ?_
    refine z_putfield (pc := 61) (fs' := [.int (iI m2), .ref e6, .int (iI (((xs.length : Nat) : Int) + 1))]) C in_J2 tyJ2 tyJ2_ok nmJ2 rfl 2 (by decide) q154 (fun _ z => z) rfl rfl rfl (Nat.le_of_ble_eq_true rfl) fh10_1 rfl dJ2_add_3_61 ?_
    refine Z.nm (fun h11 eh11 => ?_)
    have kh11 : zkeep h h11 [a, e] := by rw [eh11]; exact zkeep.up kh10 (Or.inl (by simp)) fh10_1
    have fh11_0 : h11 a = some (true, .inr (10, [.int (iI m2), .ref e6, .int (iI (((xs.length : Nat) : Int) + 1))])) := zse eh11
    have fh11_1 : h11 e6 = some (true, .inl ((.object "java/lang/Object"), lcap cap (cap + 1), updV (va_cpy f2 f2 (Int.toNat i) (Int.toNat (i + 1)) (Int.toNat (((xs.length : Nat) : Int) - i))) (Int.toNat i) (.ref q))) := zsn eh11 fh10_0 (Ne.symm (zneA fh10_1 fh10_0))
    have sh11 : zkeep h10 h11 [a] := zkeep.one eh11 fh10_1
    have ph11_1 : ∀ q ∈ xs, zel h11 q := zels.keep sh11 ph10_1
    exact z_return (pc := 64) C (by rw [hXp]; exact ⟨_, rfl, rfl, e6, lAt.mk (lx_inl hi) (by rw [show xs.length = cap by omega]) (by rw [show xs.length = cap by omega]; exact ht2.symm) fh11_0 fh11_1 (by rw [show xs.length = cap by omega]; exact lz2) (lcap_z lt) (by have := lx_inl (q := q) hi; have := lcap_ge (cap := cap) (n := xs.length + 1); omega) (lcap_le lc (by omega)) (lx_ins lx2 hi) (lq_ins ph11_1 (zel.of (kh11.f hq) hr hc)), Or.inr ne6, kh11⟩) dJ2_add_3_64
set_option maxHeartbeats 4000000 in
theorem ct_L_fastRm {l : Launch} (hl : l.stackTraces = false) {Γ : zCx} {h : zH} {a e : Nat} {xs : List Nat} {cap : Nat} (hl0 : lAt Γ h a e xs cap) {i : Int} (hi : 0 ≤ i ∧ i < (xs.length : Nat)) : zMet l yJ2_fastRemove (ws_ yJ2_fastRemove cJ2_fastRemove 4 none) ({ frames := 1, cells := 0, slots := 0, locals := 18 }) Γ h [.ref a, .ref e, .int (iI i)] (zrt (fun w h' => w = none ∧ lAt Γ h' a e (xs.eraseIdx i.toNat) cap ∧ zkeep h h' [a, e])) 0 0 := by
  refine zMet.of (cc := cJ2_fastRemove) hl (plainFor_of_name (by decide +kernel)) (Nat.le_of_ble_eq_true rfl) ?_
  intro X hXl hXΓ hXp C hnm hnL
  have C : zC X cJ2_fastRemove RJ2 none 1 18 [] := C
  have hnL : X.2.1.2.2.2.2 = 4 := hnL
  subst hXl hXΓ
  show Z X h 0 0 [(0, .ref a), (1, .ref e), (2, .int (iI i))] 0 []
  have hl1 := hl0
  obtain ⟨m, f, la, le, lz, lt, ln, lc, lx, lq⟩ := hl0
  have ht0 : decide (cap ≠ 0) = true := decide_eq_true (by omega)
  have ht := ht0
  rw [ht0] at le
  refine z_aload_n (pc := 0) (j := 0) C dJ2_fastRemove_0 rfl rfl ?_
  refine z_dup (pc := 1) C dJ2_fastRemove_1 rfl ?_
  refine z_getfield (pc := 2) (v := .int (iI m)) C in_J2 rfl 0 (by decide) q156 (u_same (C.w _ q157)) la rfl dJ2_fastRemove_2 ?_
  refine z_iconst (pc := 5) C dJ2_fastRemove_5 ?_
  refine z_iadd (pc := 6) C dJ2_fastRemove_6 ?_
  refine z_putfield (pc := 7) (fs' := [.int (iI (m + 1)), .ref e, .int (iI ((xs.length : Nat) : Int))]) C in_J2 tyJ2 tyJ2_ok nmJ2 rfl 0 (by decide) q156 (u_same (C.w _ q157)) rfl rfl rfl (Nat.le_of_ble_eq_true rfl) la rfl dJ2_fastRemove_7 ?_
  refine Z.nm (fun h1 eh1 => ?_)
  have kh1 : zkeep h h1 [a, e] := by rw [eh1]; exact zkeep.up zkeep.rf (Or.inl (by simp)) la
  have fh1_0 : h1 a = some (true, .inr (10, [.int (iI (m + 1)), .ref e, .int (iI ((xs.length : Nat) : Int))])) := zse eh1
  have fh1_1 : h1 e = some (true, .inl ((.object "java/lang/Object"), cap, f)) := zsn eh1 le (Ne.symm (zneA la le))
  refine z_aload_n (pc := 10) (j := 0) C dJ2_fastRemove_10 rfl rfl ?_
  refine z_getfield (pc := 11) (v := .int (iI ((xs.length : Nat) : Int))) C in_J2 rfl 2 (by decide) q154 (fun _ z => z) fh1_0 rfl dJ2_fastRemove_11 ?_
  refine z_iconst (pc := 14) C dJ2_fastRemove_14 ?_
  refine z_isub (pc := 15) C dJ2_fastRemove_15 ?_
  refine z_dup (pc := 16) C dJ2_fastRemove_16 rfl ?_
  refine z_istore_n (pc := 17) (L' := [(3, .int (iI (((xs.length : Nat) : Int) - 1))), (0, .ref a), (1, .ref e), (2, .int (iI i))]) C dJ2_fastRemove_17 rfl (by rw [hnL]; decide) rfl ?_
  refine z_iload_n (pc := 18) (j := 3) C dJ2_fastRemove_18 rfl rfl ?_
  refine z_icmp_le (pc := 19) (tgt := 34) C dJ2_fastRemove_19 (by decide) (by omega) (by omega) (fun c19 => ?_) (fun c19 => ?_)
  · refine z_aload_n (pc := 34) (j := 2) C dJ2_fastRemove_34 rfl rfl ?_
    refine z_aload_n (pc := 35) (j := 1) C dJ2_fastRemove_35 rfl rfl ?_
    refine z_iload_n (pc := 36) (j := 0) C dJ2_fastRemove_36 rfl rfl ?_
    refine z_dup_x1 (pc := 37) C dJ2_fastRemove_37 rfl rfl ?_
    refine z_putfield (pc := 38) (fs' := [.int (iI (m + 1)), .ref e, .int (iI (((xs.length : Nat) : Int) - 1))]) C in_J2 tyJ2 tyJ2_ok nmJ2 rfl 2 (by decide) q154 (fun _ z => z) rfl rfl rfl (Nat.le_of_ble_eq_true rfl) fh1_0 rfl dJ2_fastRemove_38 ?_
    refine Z.nm (fun h2 eh2 => ?_)
    have kh2 : zkeep h h2 [a, e] := by rw [eh2]; exact zkeep.up kh1 (Or.inl (by simp)) fh1_0
    have fh2_0 : h2 a = some (true, .inr (10, [.int (iI (m + 1)), .ref e, .int (iI (((xs.length : Nat) : Int) - 1))])) := zse eh2
    have fh2_1 : h2 e = some (true, .inl ((.object "java/lang/Object"), cap, f)) := zsn eh2 fh1_1 (Ne.symm (zneA fh1_0 fh1_1))
    refine z_null (pc := 41) C dJ2_fastRemove_41 ?_
    refine z_aastoreN (pc := 42) (f' := updV f (Int.toNat (((xs.length : Nat) : Int) - 1)) (.null)) C fh2_1 (by omega) rfl dJ2_fastRemove_42 ?_
    refine Z.nm (fun h3 eh3 => ?_)
    have kh3 : zkeep h h3 [a, e] := by rw [eh3]; exact zkeep.up kh2 (Or.inl (by simp)) fh2_1
    have fh3_0 : h3 e = some (true, .inl ((.object "java/lang/Object"), cap, updV f (Int.toNat (((xs.length : Nat) : Int) - 1)) (.null))) := zse eh3
    have fh3_1 : h3 a = some (true, .inr (10, [.int (iI (m + 1)), .ref e, .int (iI (((xs.length : Nat) : Int) - 1))])) := zsn eh3 fh2_0 (zneA fh2_0 fh2_1)
    exact z_return (pc := 43) C (by rw [hXp]; exact ⟨_, rfl, rfl, lAt.mk (lx_rml hi) rfl ht0.symm fh3_1 fh3_0 lz lt (by have := lx_rml hi; omega) lc (lx_rm1 lx (by omega)) (lq_rm (zels.keep kh3 lq)), kh3⟩) dJ2_fastRemove_43
  · refine z_aload_n (pc := 22) (j := 2) C dJ2_fastRemove_22 rfl rfl ?_
    refine z_iload_n (pc := 23) (j := 3) C dJ2_fastRemove_23 rfl rfl ?_
    refine z_iconst (pc := 24) C dJ2_fastRemove_24 ?_
    refine z_iadd (pc := 25) C dJ2_fastRemove_25 ?_
    refine z_aload_n (pc := 26) (j := 2) C dJ2_fastRemove_26 rfl rfl ?_
    refine z_iload_n (pc := 27) (j := 3) C dJ2_fastRemove_27 rfl rfl ?_
    refine z_iload_n (pc := 28) (j := 0) C dJ2_fastRemove_28 rfl rfl ?_
    refine z_iload_n (pc := 29) (j := 3) C dJ2_fastRemove_29 rfl rfl ?_
    refine z_isub (pc := 30) C dJ2_fastRemove_30 ?_
    have hft : ∀ j, j < xs.length → zfit "java/lang/Object" h1 (f j) := fun j hj => lx_fit lx (zels.keep kh1 lq) hj
    refine z_copyQ (pc := 31) (g' := va_cpy f f (Int.toNat (i + 1)) (Int.toNat i) (Int.toNat ((((xs.length : Nat) : Int) - 1) - i))) C q1831 q270 q269 q73 fh1_1 fh1_1 (by omega) (by omega) (by omega) (fun j hj => hft _ (by omega)) rfl (by decide) (by decide) dJ2_fastRemove_31 ?_
    refine Z.nm (fun h4 eh4 => ?_)
    have kh4 : zkeep h h4 [a, e] := by rw [eh4]; exact zkeep.up kh1 (Or.inl (by simp)) fh1_1
    have fh4_0 : h4 e = some (true, .inl ((.object "java/lang/Object"), cap, va_cpy f f (Int.toNat (i + 1)) (Int.toNat i) (Int.toNat ((((xs.length : Nat) : Int) - 1) - i)))) := zse eh4
    have fh4_1 : h4 a = some (true, .inr (10, [.int (iI (m + 1)), .ref e, .int (iI ((xs.length : Nat) : Int))])) := zsn eh4 fh1_0 (zneA fh1_0 fh1_1)
    refine z_aload_n (pc := 34) (j := 2) C dJ2_fastRemove_34 rfl rfl ?_
    refine z_aload_n (pc := 35) (j := 1) C dJ2_fastRemove_35 rfl rfl ?_
    refine z_iload_n (pc := 36) (j := 0) C dJ2_fastRemove_36 rfl rfl ?_
    refine z_dup_x1 (pc := 37) C dJ2_fastRemove_37 rfl rfl ?_
    refine z_putfield (pc := 38) (fs' := [.int (iI (m + 1)), .ref e, .int (iI (((xs.length : Nat) : Int) - 1))]) C in_J2 tyJ2 tyJ2_ok nmJ2 rfl 2 (by decide) q154 (fun _ z => z) rfl rfl rfl (Nat.le_of_ble_eq_true rfl) fh4_1 rfl dJ2_fastRemove_38 ?_
    refine Z.nm (fun h5 eh5 => ?_)
    have kh5 : zkeep h h5 [a, e] := by rw [eh5]; exact zkeep.up kh4 (Or.inl (by simp)) fh4_1
    have fh5_0 : h5 a = some (true, .inr (10, [.int (iI (m + 1)), .ref e, .int (iI (((xs.length : Nat) : Int) - 1))])) := zse eh5
    have fh5_1 : h5 e = some (true, .inl ((.object "java/lang/Object"), cap, va_cpy f f (Int.toNat (i + 1)) (Int.toNat i) (Int.toNat ((((xs.length : Nat) : Int) - 1) - i)))) := zsn eh5 fh4_0 (Ne.symm (zneA fh4_1 fh4_0))
    refine z_null (pc := 41) C dJ2_fastRemove_41 ?_
    refine z_aastoreN (pc := 42) (f' := updV (va_cpy f f (Int.toNat (i + 1)) (Int.toNat i) (Int.toNat ((((xs.length : Nat) : Int) - 1) - i))) (Int.toNat (((xs.length : Nat) : Int) - 1)) (.null)) C fh5_1 (by omega) rfl dJ2_fastRemove_42 ?_
    refine Z.nm (fun h6 eh6 => ?_)
    have kh6 : zkeep h h6 [a, e] := by rw [eh6]; exact zkeep.up kh5 (Or.inl (by simp)) fh5_1
    have fh6_0 : h6 e = some (true, .inl ((.object "java/lang/Object"), cap, updV (va_cpy f f (Int.toNat (i + 1)) (Int.toNat i) (Int.toNat ((((xs.length : Nat) : Int) - 1) - i))) (Int.toNat (((xs.length : Nat) : Int) - 1)) (.null))) := zse eh6
    have fh6_1 : h6 a = some (true, .inr (10, [.int (iI (m + 1)), .ref e, .int (iI (((xs.length : Nat) : Int) - 1))])) := zsn eh6 fh5_0 (zneA fh5_0 fh5_1)
    exact z_return (pc := 43) C (by rw [hXp]; exact ⟨_, rfl, rfl, lAt.mk (lx_rml hi) rfl ht0.symm fh6_1 fh6_0 lz lt (by have := lx_rml hi; omega) lc (lx_rm lx hi) (lq_rm (zels.keep kh6 lq)), kh6⟩) dJ2_fastRemove_43
set_option maxHeartbeats 4000000 in
theorem ct_L_remove {l : Launch} (hl : l.stackTraces = false) {Γ : zCx} {h : zH} {a e : Nat} {xs : List Nat} {cap : Nat} (hl0 : lAt Γ h a e xs cap) {i : Int} (hi : 0 ≤ i ∧ i < (xs.length : Nat)) : zMet l yJ2_remove (ws_ yJ2_remove cJ2_remove 4 (some (.object "java/lang/Object"))) ({ frames := 2, cells := 0, slots := 0, locals := 43 }) Γ h [.ref a, .int (iI i)] (zrt (fun w h' => ∃ old, xs[i.toNat]? = some old ∧ w = some (.ref old) ∧ lAt Γ h' a e (xs.eraseIdx i.toNat) cap ∧ zkeep h h' [a, e])) 0 0 := by
  refine zMet.of (cc := cJ2_remove) hl (plainFor_of_name (by decide +kernel)) (Nat.le_of_ble_eq_true rfl) ?_
  intro X hXl hXΓ hXp C hnm hnL
  have C : zC X cJ2_remove RJ2 (some (.object "java/lang/Object")) 2 43 [] := C
  have hnL : X.2.1.2.2.2.2 = 4 := hnL
  subst hXl hXΓ
  show Z X h 0 0 [(0, .ref a), (1, .int (iI i))] 0 []
  have hl1 := hl0
  obtain ⟨m, f, la, le, lz, lt, ln, lc, lx, lq⟩ := hl0
  have ht0 : decide (cap ≠ 0) = true := decide_eq_true (by omega)
  have ht := ht0
  rw [ht0] at le
  obtain ⟨old, hold⟩ : ∃ old, xs[i.toNat]? = some old := ⟨_, List.getElem?_eq_getElem (by omega)⟩
  refine z_iload_n (pc := 0) (j := 1) C dJ2_remove_0 rfl rfl ?_
  refine z_aload_n (pc := 1) (j := 0) C dJ2_remove_1 rfl rfl ?_
  refine z_getfield (pc := 2) (v := .int (iI ((xs.length : Nat) : Int))) C in_J2 rfl 2 (by decide) q154 (fun _ z => z) la rfl dJ2_remove_2 ?_
  refine z_callS (pc := 5) (n := 2) (kc' := 0) (ks' := 0) C (ct_O_check C.t (i := i) (n := ((xs.length : Nat) : Int)) (by omega)) (lw_S q907 q908 q95 q909) (by decide +kernel) ⟨by decide, by decide⟩ rfl rfl (Nat.le_of_ble_eq_true rfl) dJ2_remove_5 (by omega) (by omega) (zpk (st' := [.int (iI i)]) rfl ?_) zrx
  refine z_pop (pc := 8) C dJ2_remove_8 rfl ?_
  refine z_aload_n (pc := 9) (j := 0) C dJ2_remove_9 rfl rfl ?_
  refine z_getfield (pc := 10) (v := .ref e) C in_J2 rfl 1 (by decide) q153 (fun _ z => z) la rfl dJ2_remove_10 ?_
  refine z_astore_n (pc := 13) (L' := [(2, .ref e), (0, .ref a), (1, .int (iI i))]) C dJ2_remove_13 rfl (by rw [hnL]; decide) rfl ?_
  refine z_aload_n (pc := 14) (j := 0) C dJ2_remove_14 rfl rfl ?_
  refine z_iload_n (pc := 15) (j := 2) C dJ2_remove_15 rfl rfl ?_
  refine z_aaload (pc := 16) (v := .ref old) C le (by omega) (lx _ _ hold) dJ2_remove_16 ?_
  refine z_astore_n (pc := 17) (L' := [(3, .ref old), (2, .ref e), (0, .ref a), (1, .int (iI i))]) C dJ2_remove_17 rfl (by rw [hnL]; decide) rfl ?_
  refine z_aload_n (pc := 18) (j := 2) C dJ2_remove_18 rfl rfl ?_
  refine z_aload_n (pc := 19) (j := 1) C dJ2_remove_19 rfl rfl ?_
  refine z_iload_n (pc := 20) (j := 3) C dJ2_remove_20 rfl rfl ?_
  refine z_callV (pc := 21) (n := 2) (kc' := 0) (ks' := 0) C (ct_L_fastRm C.t hl1 (i := i) (by omega)) (lw_V q1843 q1845 qs20 q68 q1846) (by decide +kernel) ⟨by decide, by decide⟩ la rfl rfl rfl (Nat.le_of_ble_eq_true rfl) dJ2_remove_21 (by omega) (by omega) (zrk fun w h1 hp => ?_) zrx
  obtain ⟨rfl, hl2, k3⟩ := hp
  have kh1 : zkeep h h1 [a, e] := zkeep.loc zkeep.rf k3 (zall_cons (Or.inl (Or.symm (Or.inl (by simp)))) (zall_cons (Or.inl (Or.symm (Or.inl (by simp)))) zall_nil))
  show Z X h1 0 0 [(3, .ref old), (2, .ref e), (0, .ref a), (1, .int (iI i))] 24 []
  refine z_aload_n (pc := 24) (j := 0) C dJ2_remove_24 rfl rfl ?_
  exact z_areturn (pc := 25) C (Or.inl ⟨_, rfl⟩) (Or.inr ⟨_, rfl⟩) (by rw [hXp]; exact ⟨_, rfl, old, hold, rfl, hl2, kh1⟩) dJ2_remove_25

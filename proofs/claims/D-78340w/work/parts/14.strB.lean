/-! 14.strB.lean.txt -/
set_option maxRecDepth 100000
abbrev cJ12_ensureCapacityInternal : ByteArray := prog_13_method_9_code
def yJ12_ensureCapacityInternal : MethodName := ⟨RJ12, "ensureCapacityInternal", "(I)V"⟩
def dkwJ12_ensureCapacityInternal_1 : List UInt8 := [182, 0, 104, 42, 180, 0, 22, 120, 184, 0, 108, 181, 0, 15, 177]
abbrev dktJ12_ensureCapacityInternal_1 : List UInt8 := dkwJ12_ensureCapacityInternal_1 ++ []
def dkwJ12_ensureCapacityInternal_0 : List UInt8 := [42, 180, 0, 15, 190, 42, 180, 0, 22, 122, 61, 27, 28, 100, 158, 0, 24, 42, 42, 180, 0, 15, 42, 27]
abbrev dktJ12_ensureCapacityInternal_0 : List UInt8 := dkwJ12_ensureCapacityInternal_0 ++ dktJ12_ensureCapacityInternal_1
theorem dksJ12_ensureCapacityInternal_0 : cJ12_ensureCapacityInternal.data.toList.drop 0 = dktJ12_ensureCapacityInternal_0 := by decide +kernel
theorem dksJ12_ensureCapacityInternal_1 : cJ12_ensureCapacityInternal.data.toList.drop 24 = dktJ12_ensureCapacityInternal_1 := dk_seg dksJ12_ensureCapacityInternal_0 24 rfl rfl
abbrev cJ12_append_3 : ByteArray := prog_13_method_31_code
def yJ12_append_3 : MethodName := ⟨RJ12, "append", "(C)Ljava/lang/AbstractStringBuilder;"⟩
def dkwJ12_append_3_3 : List UInt8 := [181, 0, 79, 27, 184, 0, 197, 42, 176]
abbrev dktJ12_append_3_3 : List UInt8 := dkwJ12_append_3_3 ++ []
def dkwJ12_append_3_2 : List UInt8 := [182, 0, 83, 153, 0, 7, 42, 182, 0, 195, 42, 180, 0, 15, 42, 89, 180, 0, 79, 90, 4, 96]
abbrev dktJ12_append_3_2 : List UInt8 := dkwJ12_append_3_2 ++ dktJ12_append_3_3
def dkwJ12_append_3_1 : List UInt8 := [42, 180, 0, 15, 42, 89, 180, 0, 79, 90, 4, 96, 181, 0, 79, 27, 145, 84, 167, 0, 33, 42]
abbrev dktJ12_append_3_1 : List UInt8 := dkwJ12_append_3_1 ++ dktJ12_append_3_2
def dkwJ12_append_3_0 : List UInt8 := [42, 42, 180, 0, 79, 4, 96, 182, 0, 100, 42, 182, 0, 83, 153, 0, 31, 27, 184, 0, 191, 153, 0, 24]
abbrev dktJ12_append_3_0 : List UInt8 := dkwJ12_append_3_0 ++ dktJ12_append_3_1
theorem dksJ12_append_3_0 : cJ12_append_3.data.toList.drop 0 = dktJ12_append_3_0 := by decide +kernel
theorem dksJ12_append_3_1 : cJ12_append_3.data.toList.drop 24 = dktJ12_append_3_1 := dk_seg dksJ12_append_3_0 24 rfl rfl
theorem dksJ12_append_3_2 : cJ12_append_3.data.toList.drop 46 = dktJ12_append_3_2 := dk_seg dksJ12_append_3_1 22 rfl rfl
theorem dksJ12_append_3_3 : cJ12_append_3.data.toList.drop 68 = dktJ12_append_3_3 := dk_seg dksJ12_append_3_2 22 rfl rfl
abbrev cJ13_append_3 : ByteArray := prog_31_method_14_code
def yJ13_append_3 : MethodName := ⟨RJ13, "append", "(C)Ljava/lang/StringBuilder;"⟩
def dkwJ13_append_3_0 : List UInt8 := [42, 27, 183, 0, 50, 87, 42, 176]
abbrev dktJ13_append_3_0 : List UInt8 := dkwJ13_append_3_0 ++ []
theorem dksJ13_append_3_0 : cJ13_append_3.data.toList.drop 0 = dktJ13_append_3_0 := by decide +kernel
abbrev cJ14_getBytes : ByteArray := prog_30_method_147_code
def yJ14_getBytes : MethodName := ⟨RJ14, "getBytes", "([BIB)V"⟩
def dkwJ14_getBytes_1 : List UInt8 := [184, 0, 212, 167, 0, 18, 42, 180, 0, 9, 3, 43, 28, 42, 180, 0, 9, 190, 184, 0, 106, 177]
abbrev dktJ14_getBytes_1 : List UInt8 := dkwJ14_getBytes_1 ++ []
def dkwJ14_getBytes_0 : List UInt8 := [42, 182, 1, 79, 29, 160, 0, 23, 42, 180, 0, 9, 3, 43, 28, 29, 120, 42, 180, 0, 9, 190]
abbrev dktJ14_getBytes_0 : List UInt8 := dkwJ14_getBytes_0 ++ dktJ14_getBytes_1
theorem dksJ14_getBytes_0 : cJ14_getBytes.data.toList.drop 0 = dktJ14_getBytes_0 := by decide +kernel
theorem dksJ14_getBytes_1 : cJ14_getBytes.data.toList.drop 22 = dktJ14_getBytes_1 := dk_seg dksJ14_getBytes_0 22 rfl rfl
abbrev cJ12_inflateIfNeededFor : ByteArray := prog_13_method_71_code
def yJ12_inflateIfNeededFor : MethodName := ⟨RJ12, "inflateIfNeededFor", "(Ljava/lang/String;)V"⟩
def dkwJ12_inflateIfNeededFor_0 : List UInt8 := [178, 0, 18, 153, 0, 18, 42, 180, 0, 22, 43, 182, 0, 40, 159, 0, 7, 42, 182, 0, 195, 177]
abbrev dktJ12_inflateIfNeededFor_0 : List UInt8 := dkwJ12_inflateIfNeededFor_0 ++ []
theorem dksJ12_inflateIfNeededFor_0 : cJ12_inflateIfNeededFor.data.toList.drop 0 = dktJ12_inflateIfNeededFor_0 := by decide +kernel
abbrev cJ12_putStringAt : ByteArray := prog_13_method_73_code
def yJ12_putStringAt : MethodName := ⟨RJ12, "putStringAt", "(ILjava/lang/String;)V"⟩
def dkwJ12_putStringAt_0 : List UInt8 := [42, 44, 182, 1, 141, 44, 42, 180, 0, 15, 27, 42, 180, 0, 22, 182, 1, 143, 177]
abbrev dktJ12_putStringAt_0 : List UInt8 := dkwJ12_putStringAt_0 ++ []
theorem dksJ12_putStringAt_0 : cJ12_putStringAt.data.toList.drop 0 = dktJ12_putStringAt_0 := by decide +kernel
abbrev cJ12_append_2 : ByteArray := prog_13_method_22_code
def yJ12_append_2 : MethodName := ⟨RJ12, "append", "(Ljava/lang/String;)Ljava/lang/AbstractStringBuilder;"⟩
def dkwJ12_append_2_1 : List UInt8 := [42, 42, 180, 0, 79, 43, 182, 0, 208, 42, 89, 180, 0, 79, 28, 96, 181, 0, 79, 42, 176]
abbrev dktJ12_append_2_1 : List UInt8 := dkwJ12_append_2_1 ++ []
def dkwJ12_append_2_0 : List UInt8 := [43, 199, 0, 8, 42, 182, 0, 204, 176, 43, 182, 0, 32, 61, 42, 42, 180, 0, 79, 28, 96, 182, 0, 100]
abbrev dktJ12_append_2_0 : List UInt8 := dkwJ12_append_2_0 ++ dktJ12_append_2_1
theorem dksJ12_append_2_0 : cJ12_append_2.data.toList.drop 0 = dktJ12_append_2_0 := by decide +kernel
theorem dksJ12_append_2_1 : cJ12_append_2.data.toList.drop 24 = dktJ12_append_2_1 := dk_seg dksJ12_append_2_0 24 rfl rfl
abbrev cJ13_append_2 : ByteArray := prog_31_method_7_code
def yJ13_append_2 : MethodName := ⟨RJ13, "append", "(Ljava/lang/String;)Ljava/lang/StringBuilder;"⟩
def dkwJ13_append_2_0 : List UInt8 := [42, 43, 183, 0, 29, 87, 42, 176]
abbrev dktJ13_append_2_0 : List UInt8 := dkwJ13_append_2_0 ++ []
theorem dksJ13_append_2_0 : cJ13_append_2.data.toList.drop 0 = dktJ13_append_2_0 := by decide +kernel
theorem dJ12_ensureCapacityInternal_0 : decode cJ12_ensureCapacityInternal 0 = .ok (.aload_n 0, 1) := dk_42 (dk_at dksJ12_ensureCapacityInternal_0 0 rfl rfl)
theorem dJ12_ensureCapacityInternal_1 : decode cJ12_ensureCapacityInternal 1 = .ok (.getfield 15, 3) := dk_180 0 15 (dk_at dksJ12_ensureCapacityInternal_0 1 rfl rfl)
theorem dJ12_ensureCapacityInternal_4 : decode cJ12_ensureCapacityInternal 4 = .ok (.arraylength, 1) := dk_190 (dk_at dksJ12_ensureCapacityInternal_0 4 rfl rfl)
theorem dJ12_ensureCapacityInternal_5 : decode cJ12_ensureCapacityInternal 5 = .ok (.aload_n 0, 1) := dk_42 (dk_at dksJ12_ensureCapacityInternal_0 5 rfl rfl)
theorem dJ12_ensureCapacityInternal_6 : decode cJ12_ensureCapacityInternal 6 = .ok (.getfield 22, 3) := dk_180 0 22 (dk_at dksJ12_ensureCapacityInternal_0 6 rfl rfl)
theorem dJ12_ensureCapacityInternal_9 : decode cJ12_ensureCapacityInternal 9 = .ok (.ishr, 1) := dk_122 (dk_at dksJ12_ensureCapacityInternal_0 9 rfl rfl)
theorem dJ12_ensureCapacityInternal_10 : decode cJ12_ensureCapacityInternal 10 = .ok (.istore_n 2, 1) := dk_61 (dk_at dksJ12_ensureCapacityInternal_0 10 rfl rfl)
theorem dJ12_ensureCapacityInternal_11 : decode cJ12_ensureCapacityInternal 11 = .ok (.iload_n 1, 1) := dk_27 (dk_at dksJ12_ensureCapacityInternal_0 11 rfl rfl)
theorem dJ12_ensureCapacityInternal_12 : decode cJ12_ensureCapacityInternal 12 = .ok (.iload_n 2, 1) := dk_28 (dk_at dksJ12_ensureCapacityInternal_0 12 rfl rfl)
theorem dJ12_ensureCapacityInternal_13 : decode cJ12_ensureCapacityInternal 13 = .ok (.isub, 1) := dk_100 (dk_at dksJ12_ensureCapacityInternal_0 13 rfl rfl)
theorem dJ12_ensureCapacityInternal_14 : decode cJ12_ensureCapacityInternal 14 = .ok (.ifCond .le 24, 3) := dk_158 0 24 (dk_at dksJ12_ensureCapacityInternal_0 14 rfl rfl)
theorem dJ12_ensureCapacityInternal_17 : decode cJ12_ensureCapacityInternal 17 = .ok (.aload_n 0, 1) := dk_42 (dk_at dksJ12_ensureCapacityInternal_0 17 rfl rfl)
theorem dJ12_ensureCapacityInternal_18 : decode cJ12_ensureCapacityInternal 18 = .ok (.aload_n 0, 1) := dk_42 (dk_at dksJ12_ensureCapacityInternal_0 18 rfl rfl)
theorem dJ12_ensureCapacityInternal_19 : decode cJ12_ensureCapacityInternal 19 = .ok (.getfield 15, 3) := dk_180 0 15 (dk_at dksJ12_ensureCapacityInternal_0 19 rfl rfl)
theorem dJ12_ensureCapacityInternal_22 : decode cJ12_ensureCapacityInternal 22 = .ok (.aload_n 0, 1) := dk_42 (dk_at dksJ12_ensureCapacityInternal_0 22 rfl rfl)
theorem dJ12_ensureCapacityInternal_23 : decode cJ12_ensureCapacityInternal 23 = .ok (.iload_n 1, 1) := dk_27 (dk_at dksJ12_ensureCapacityInternal_0 23 rfl rfl)
theorem dJ12_ensureCapacityInternal_24 : decode cJ12_ensureCapacityInternal 24 = .ok (.invokevirtual 104, 3) := dk_182 0 104 (dk_at dksJ12_ensureCapacityInternal_1 0 rfl rfl)
theorem dJ12_ensureCapacityInternal_27 : decode cJ12_ensureCapacityInternal 27 = .ok (.aload_n 0, 1) := dk_42 (dk_at dksJ12_ensureCapacityInternal_1 3 rfl rfl)
theorem dJ12_ensureCapacityInternal_28 : decode cJ12_ensureCapacityInternal 28 = .ok (.getfield 22, 3) := dk_180 0 22 (dk_at dksJ12_ensureCapacityInternal_1 4 rfl rfl)
theorem dJ12_ensureCapacityInternal_31 : decode cJ12_ensureCapacityInternal 31 = .ok (.ishl, 1) := dk_120 (dk_at dksJ12_ensureCapacityInternal_1 7 rfl rfl)
theorem dJ12_ensureCapacityInternal_32 : decode cJ12_ensureCapacityInternal 32 = .ok (.invokestatic 108, 3) := dk_184 0 108 (dk_at dksJ12_ensureCapacityInternal_1 8 rfl rfl)
theorem dJ12_ensureCapacityInternal_35 : decode cJ12_ensureCapacityInternal 35 = .ok (.putfield 15, 3) := dk_181 0 15 (dk_at dksJ12_ensureCapacityInternal_1 11 rfl rfl)
theorem dJ12_ensureCapacityInternal_38 : decode cJ12_ensureCapacityInternal 38 = .ok (.return_, 1) := dk_177 (dk_at dksJ12_ensureCapacityInternal_1 14 rfl rfl)
theorem dJ12_append_3_0 : decode cJ12_append_3 0 = .ok (.aload_n 0, 1) := dk_42 (dk_at dksJ12_append_3_0 0 rfl rfl)
theorem dJ12_append_3_1 : decode cJ12_append_3 1 = .ok (.aload_n 0, 1) := dk_42 (dk_at dksJ12_append_3_0 1 rfl rfl)
theorem dJ12_append_3_2 : decode cJ12_append_3 2 = .ok (.getfield 79, 3) := dk_180 0 79 (dk_at dksJ12_append_3_0 2 rfl rfl)
theorem dJ12_append_3_5 : decode cJ12_append_3 5 = .ok (.iconst 1, 1) := dk_4 (dk_at dksJ12_append_3_0 5 rfl rfl)
theorem dJ12_append_3_6 : decode cJ12_append_3 6 = .ok (.iadd, 1) := dk_96 (dk_at dksJ12_append_3_0 6 rfl rfl)
theorem dJ12_append_3_7 : decode cJ12_append_3 7 = .ok (.invokevirtual 100, 3) := dk_182 0 100 (dk_at dksJ12_append_3_0 7 rfl rfl)
theorem dJ12_append_3_10 : decode cJ12_append_3 10 = .ok (.aload_n 0, 1) := dk_42 (dk_at dksJ12_append_3_0 10 rfl rfl)
theorem dJ12_append_3_11 : decode cJ12_append_3 11 = .ok (.invokevirtual 83, 3) := dk_182 0 83 (dk_at dksJ12_append_3_0 11 rfl rfl)
theorem dJ12_append_3_14 : decode cJ12_append_3 14 = .ok (.ifCond .eq 31, 3) := dk_153 0 31 (dk_at dksJ12_append_3_0 14 rfl rfl)
theorem dJ12_append_3_17 : decode cJ12_append_3 17 = .ok (.iload_n 1, 1) := dk_27 (dk_at dksJ12_append_3_0 17 rfl rfl)
theorem dJ12_append_3_18 : decode cJ12_append_3 18 = .ok (.invokestatic 191, 3) := dk_184 0 191 (dk_at dksJ12_append_3_0 18 rfl rfl)
theorem dJ12_append_3_21 : decode cJ12_append_3 21 = .ok (.ifCond .eq 24, 3) := dk_153 0 24 (dk_at dksJ12_append_3_0 21 rfl rfl)
theorem dJ12_append_3_24 : decode cJ12_append_3 24 = .ok (.aload_n 0, 1) := dk_42 (dk_at dksJ12_append_3_1 0 rfl rfl)
theorem dJ12_append_3_25 : decode cJ12_append_3 25 = .ok (.getfield 15, 3) := dk_180 0 15 (dk_at dksJ12_append_3_1 1 rfl rfl)
theorem dJ12_append_3_28 : decode cJ12_append_3 28 = .ok (.aload_n 0, 1) := dk_42 (dk_at dksJ12_append_3_1 4 rfl rfl)
theorem dJ12_append_3_29 : decode cJ12_append_3 29 = .ok (.dup, 1) := dk_89 (dk_at dksJ12_append_3_1 5 rfl rfl)
theorem dJ12_append_3_30 : decode cJ12_append_3 30 = .ok (.getfield 79, 3) := dk_180 0 79 (dk_at dksJ12_append_3_1 6 rfl rfl)
theorem dJ12_append_3_33 : decode cJ12_append_3 33 = .ok (.dup_x1, 1) := dk_90 (dk_at dksJ12_append_3_1 9 rfl rfl)
theorem dJ12_append_3_34 : decode cJ12_append_3 34 = .ok (.iconst 1, 1) := dk_4 (dk_at dksJ12_append_3_1 10 rfl rfl)
theorem dJ12_append_3_35 : decode cJ12_append_3 35 = .ok (.iadd, 1) := dk_96 (dk_at dksJ12_append_3_1 11 rfl rfl)
theorem dJ12_append_3_36 : decode cJ12_append_3 36 = .ok (.putfield 79, 3) := dk_181 0 79 (dk_at dksJ12_append_3_1 12 rfl rfl)
theorem dJ12_append_3_39 : decode cJ12_append_3 39 = .ok (.iload_n 1, 1) := dk_27 (dk_at dksJ12_append_3_1 15 rfl rfl)
theorem dJ12_append_3_40 : decode cJ12_append_3 40 = .ok (.i2b, 1) := dk_145 (dk_at dksJ12_append_3_1 16 rfl rfl)
theorem dJ12_append_3_41 : decode cJ12_append_3 41 = .ok (.bastore, 1) := dk_84 (dk_at dksJ12_append_3_1 17 rfl rfl)
theorem dJ12_append_3_42 : decode cJ12_append_3 42 = .ok (.goto 33, 3) := dk_167 0 33 (dk_at dksJ12_append_3_1 18 rfl rfl)
theorem dJ12_append_3_75 : decode cJ12_append_3 75 = .ok (.aload_n 0, 1) := dk_42 (dk_at dksJ12_append_3_3 7 rfl rfl)
theorem dJ12_append_3_76 : decode cJ12_append_3 76 = .ok (.areturn, 1) := dk_176 (dk_at dksJ12_append_3_3 8 rfl rfl)
theorem dJ13_append_3_0 : decode cJ13_append_3 0 = .ok (.aload_n 0, 1) := dk_42 (dk_at dksJ13_append_3_0 0 rfl rfl)
theorem dJ13_append_3_1 : decode cJ13_append_3 1 = .ok (.iload_n 1, 1) := dk_27 (dk_at dksJ13_append_3_0 1 rfl rfl)
theorem dJ13_append_3_2 : decode cJ13_append_3 2 = .ok (.invokespecial 50, 3) := dk_183 0 50 (dk_at dksJ13_append_3_0 2 rfl rfl)
theorem dJ13_append_3_5 : decode cJ13_append_3 5 = .ok (.pop, 1) := dk_87 (dk_at dksJ13_append_3_0 5 rfl rfl)
theorem dJ13_append_3_6 : decode cJ13_append_3 6 = .ok (.aload_n 0, 1) := dk_42 (dk_at dksJ13_append_3_0 6 rfl rfl)
theorem dJ13_append_3_7 : decode cJ13_append_3 7 = .ok (.areturn, 1) := dk_176 (dk_at dksJ13_append_3_0 7 rfl rfl)
theorem dJ14_getBytes_0 : decode cJ14_getBytes 0 = .ok (.aload_n 0, 1) := dk_42 (dk_at dksJ14_getBytes_0 0 rfl rfl)
theorem dJ14_getBytes_1 : decode cJ14_getBytes 1 = .ok (.invokevirtual 335, 3) := dk_182 1 79 (dk_at dksJ14_getBytes_0 1 rfl rfl)
theorem dJ14_getBytes_4 : decode cJ14_getBytes 4 = .ok (.iload_n 3, 1) := dk_29 (dk_at dksJ14_getBytes_0 4 rfl rfl)
theorem dJ14_getBytes_5 : decode cJ14_getBytes 5 = .ok (.if_icmp .ne 23, 3) := dk_160 0 23 (dk_at dksJ14_getBytes_0 5 rfl rfl)
theorem dJ14_getBytes_8 : decode cJ14_getBytes 8 = .ok (.aload_n 0, 1) := dk_42 (dk_at dksJ14_getBytes_0 8 rfl rfl)
theorem dJ14_getBytes_9 : decode cJ14_getBytes 9 = .ok (.getfield 9, 3) := dk_180 0 9 (dk_at dksJ14_getBytes_0 9 rfl rfl)
theorem dJ14_getBytes_12 : decode cJ14_getBytes 12 = .ok (.iconst 0, 1) := dk_3 (dk_at dksJ14_getBytes_0 12 rfl rfl)
theorem dJ14_getBytes_13 : decode cJ14_getBytes 13 = .ok (.aload_n 1, 1) := dk_43 (dk_at dksJ14_getBytes_0 13 rfl rfl)
theorem dJ14_getBytes_14 : decode cJ14_getBytes 14 = .ok (.iload_n 2, 1) := dk_28 (dk_at dksJ14_getBytes_0 14 rfl rfl)
theorem dJ14_getBytes_15 : decode cJ14_getBytes 15 = .ok (.iload_n 3, 1) := dk_29 (dk_at dksJ14_getBytes_0 15 rfl rfl)
theorem dJ14_getBytes_16 : decode cJ14_getBytes 16 = .ok (.ishl, 1) := dk_120 (dk_at dksJ14_getBytes_0 16 rfl rfl)
theorem dJ14_getBytes_17 : decode cJ14_getBytes 17 = .ok (.aload_n 0, 1) := dk_42 (dk_at dksJ14_getBytes_0 17 rfl rfl)
theorem dJ14_getBytes_18 : decode cJ14_getBytes 18 = .ok (.getfield 9, 3) := dk_180 0 9 (dk_at dksJ14_getBytes_0 18 rfl rfl)
theorem dJ14_getBytes_21 : decode cJ14_getBytes 21 = .ok (.arraylength, 1) := dk_190 (dk_at dksJ14_getBytes_0 21 rfl rfl)
theorem dJ14_getBytes_22 : decode cJ14_getBytes 22 = .ok (.invokestatic 212, 3) := dk_184 0 212 (dk_at dksJ14_getBytes_1 0 rfl rfl)
theorem dJ14_getBytes_25 : decode cJ14_getBytes 25 = .ok (.goto 18, 3) := dk_167 0 18 (dk_at dksJ14_getBytes_1 3 rfl rfl)
theorem dJ14_getBytes_43 : decode cJ14_getBytes 43 = .ok (.return_, 1) := dk_177 (dk_at dksJ14_getBytes_1 21 rfl rfl)
theorem dJ12_inflateIfNeededFor_0 : decode cJ12_inflateIfNeededFor 0 = .ok (.getstatic 18, 3) := dk_178 0 18 (dk_at dksJ12_inflateIfNeededFor_0 0 rfl rfl)
theorem dJ12_inflateIfNeededFor_3 : decode cJ12_inflateIfNeededFor 3 = .ok (.ifCond .eq 18, 3) := dk_153 0 18 (dk_at dksJ12_inflateIfNeededFor_0 3 rfl rfl)
theorem dJ12_inflateIfNeededFor_6 : decode cJ12_inflateIfNeededFor 6 = .ok (.aload_n 0, 1) := dk_42 (dk_at dksJ12_inflateIfNeededFor_0 6 rfl rfl)
theorem dJ12_inflateIfNeededFor_7 : decode cJ12_inflateIfNeededFor 7 = .ok (.getfield 22, 3) := dk_180 0 22 (dk_at dksJ12_inflateIfNeededFor_0 7 rfl rfl)
theorem dJ12_inflateIfNeededFor_10 : decode cJ12_inflateIfNeededFor 10 = .ok (.aload_n 1, 1) := dk_43 (dk_at dksJ12_inflateIfNeededFor_0 10 rfl rfl)
theorem dJ12_inflateIfNeededFor_11 : decode cJ12_inflateIfNeededFor 11 = .ok (.invokevirtual 40, 3) := dk_182 0 40 (dk_at dksJ12_inflateIfNeededFor_0 11 rfl rfl)
theorem dJ12_inflateIfNeededFor_14 : decode cJ12_inflateIfNeededFor 14 = .ok (.if_icmp .eq 7, 3) := dk_159 0 7 (dk_at dksJ12_inflateIfNeededFor_0 14 rfl rfl)
theorem dJ12_inflateIfNeededFor_21 : decode cJ12_inflateIfNeededFor 21 = .ok (.return_, 1) := dk_177 (dk_at dksJ12_inflateIfNeededFor_0 21 rfl rfl)
theorem dJ12_putStringAt_0 : decode cJ12_putStringAt 0 = .ok (.aload_n 0, 1) := dk_42 (dk_at dksJ12_putStringAt_0 0 rfl rfl)
theorem dJ12_putStringAt_1 : decode cJ12_putStringAt 1 = .ok (.aload_n 2, 1) := dk_44 (dk_at dksJ12_putStringAt_0 1 rfl rfl)
theorem dJ12_putStringAt_2 : decode cJ12_putStringAt 2 = .ok (.invokevirtual 397, 3) := dk_182 1 141 (dk_at dksJ12_putStringAt_0 2 rfl rfl)
theorem dJ12_putStringAt_5 : decode cJ12_putStringAt 5 = .ok (.aload_n 2, 1) := dk_44 (dk_at dksJ12_putStringAt_0 5 rfl rfl)
theorem dJ12_putStringAt_6 : decode cJ12_putStringAt 6 = .ok (.aload_n 0, 1) := dk_42 (dk_at dksJ12_putStringAt_0 6 rfl rfl)
theorem dJ12_putStringAt_7 : decode cJ12_putStringAt 7 = .ok (.getfield 15, 3) := dk_180 0 15 (dk_at dksJ12_putStringAt_0 7 rfl rfl)
theorem dJ12_putStringAt_10 : decode cJ12_putStringAt 10 = .ok (.iload_n 1, 1) := dk_27 (dk_at dksJ12_putStringAt_0 10 rfl rfl)
theorem dJ12_putStringAt_11 : decode cJ12_putStringAt 11 = .ok (.aload_n 0, 1) := dk_42 (dk_at dksJ12_putStringAt_0 11 rfl rfl)
theorem dJ12_putStringAt_12 : decode cJ12_putStringAt 12 = .ok (.getfield 22, 3) := dk_180 0 22 (dk_at dksJ12_putStringAt_0 12 rfl rfl)
theorem dJ12_putStringAt_15 : decode cJ12_putStringAt 15 = .ok (.invokevirtual 399, 3) := dk_182 1 143 (dk_at dksJ12_putStringAt_0 15 rfl rfl)
theorem dJ12_putStringAt_18 : decode cJ12_putStringAt 18 = .ok (.return_, 1) := dk_177 (dk_at dksJ12_putStringAt_0 18 rfl rfl)
theorem dJ12_append_2_0 : decode cJ12_append_2 0 = .ok (.aload_n 1, 1) := dk_43 (dk_at dksJ12_append_2_0 0 rfl rfl)
theorem dJ12_append_2_1 : decode cJ12_append_2 1 = .ok (.ifnonnull 8, 3) := dk_199 0 8 (dk_at dksJ12_append_2_0 1 rfl rfl)
theorem dJ12_append_2_9 : decode cJ12_append_2 9 = .ok (.aload_n 1, 1) := dk_43 (dk_at dksJ12_append_2_0 9 rfl rfl)
theorem dJ12_append_2_10 : decode cJ12_append_2 10 = .ok (.invokevirtual 32, 3) := dk_182 0 32 (dk_at dksJ12_append_2_0 10 rfl rfl)
theorem dJ12_append_2_13 : decode cJ12_append_2 13 = .ok (.istore_n 2, 1) := dk_61 (dk_at dksJ12_append_2_0 13 rfl rfl)
theorem dJ12_append_2_14 : decode cJ12_append_2 14 = .ok (.aload_n 0, 1) := dk_42 (dk_at dksJ12_append_2_0 14 rfl rfl)
theorem dJ12_append_2_15 : decode cJ12_append_2 15 = .ok (.aload_n 0, 1) := dk_42 (dk_at dksJ12_append_2_0 15 rfl rfl)
theorem dJ12_append_2_16 : decode cJ12_append_2 16 = .ok (.getfield 79, 3) := dk_180 0 79 (dk_at dksJ12_append_2_0 16 rfl rfl)
theorem dJ12_append_2_19 : decode cJ12_append_2 19 = .ok (.iload_n 2, 1) := dk_28 (dk_at dksJ12_append_2_0 19 rfl rfl)
theorem dJ12_append_2_20 : decode cJ12_append_2 20 = .ok (.iadd, 1) := dk_96 (dk_at dksJ12_append_2_0 20 rfl rfl)
theorem dJ12_append_2_21 : decode cJ12_append_2 21 = .ok (.invokevirtual 100, 3) := dk_182 0 100 (dk_at dksJ12_append_2_0 21 rfl rfl)
theorem dJ12_append_2_24 : decode cJ12_append_2 24 = .ok (.aload_n 0, 1) := dk_42 (dk_at dksJ12_append_2_1 0 rfl rfl)
theorem dJ12_append_2_25 : decode cJ12_append_2 25 = .ok (.aload_n 0, 1) := dk_42 (dk_at dksJ12_append_2_1 1 rfl rfl)
theorem dJ12_append_2_26 : decode cJ12_append_2 26 = .ok (.getfield 79, 3) := dk_180 0 79 (dk_at dksJ12_append_2_1 2 rfl rfl)
theorem dJ12_append_2_29 : decode cJ12_append_2 29 = .ok (.aload_n 1, 1) := dk_43 (dk_at dksJ12_append_2_1 5 rfl rfl)
theorem dJ12_append_2_30 : decode cJ12_append_2 30 = .ok (.invokevirtual 208, 3) := dk_182 0 208 (dk_at dksJ12_append_2_1 6 rfl rfl)
theorem dJ12_append_2_33 : decode cJ12_append_2 33 = .ok (.aload_n 0, 1) := dk_42 (dk_at dksJ12_append_2_1 9 rfl rfl)
theorem dJ12_append_2_34 : decode cJ12_append_2 34 = .ok (.dup, 1) := dk_89 (dk_at dksJ12_append_2_1 10 rfl rfl)
theorem dJ12_append_2_35 : decode cJ12_append_2 35 = .ok (.getfield 79, 3) := dk_180 0 79 (dk_at dksJ12_append_2_1 11 rfl rfl)
theorem dJ12_append_2_38 : decode cJ12_append_2 38 = .ok (.iload_n 2, 1) := dk_28 (dk_at dksJ12_append_2_1 14 rfl rfl)
theorem dJ12_append_2_39 : decode cJ12_append_2 39 = .ok (.iadd, 1) := dk_96 (dk_at dksJ12_append_2_1 15 rfl rfl)
theorem dJ12_append_2_40 : decode cJ12_append_2 40 = .ok (.putfield 79, 3) := dk_181 0 79 (dk_at dksJ12_append_2_1 16 rfl rfl)
theorem dJ12_append_2_43 : decode cJ12_append_2 43 = .ok (.aload_n 0, 1) := dk_42 (dk_at dksJ12_append_2_1 19 rfl rfl)
theorem dJ12_append_2_44 : decode cJ12_append_2 44 = .ok (.areturn, 1) := dk_176 (dk_at dksJ12_append_2_1 20 rfl rfl)
theorem dJ13_append_2_0 : decode cJ13_append_2 0 = .ok (.aload_n 0, 1) := dk_42 (dk_at dksJ13_append_2_0 0 rfl rfl)
theorem dJ13_append_2_1 : decode cJ13_append_2 1 = .ok (.aload_n 1, 1) := dk_43 (dk_at dksJ13_append_2_0 1 rfl rfl)
theorem dJ13_append_2_2 : decode cJ13_append_2 2 = .ok (.invokespecial 29, 3) := dk_183 0 29 (dk_at dksJ13_append_2_0 2 rfl rfl)
theorem dJ13_append_2_5 : decode cJ13_append_2 5 = .ok (.pop, 1) := dk_87 (dk_at dksJ13_append_2_0 5 rfl rfl)
theorem dJ13_append_2_6 : decode cJ13_append_2 6 = .ok (.aload_n 0, 1) := dk_42 (dk_at dksJ13_append_2_0 6 rfl rfl)
theorem dJ13_append_2_7 : decode cJ13_append_2 7 = .ok (.areturn, 1) := dk_176 (dk_at dksJ13_append_2_0 7 rfl rfl)
theorem q2482 : (Jvm.Cond.sameMethod "java/lang/AbstractStringBuilder" "java/lang/AbstractStringBuilder" "ensureCapacityInternal" "(I)V") ∈ lw_all := lw_g (lw_at lw_m11 20 rfl) rfl
theorem q2483 : (Jvm.Cond.sameMethod "java/lang/AbstractStringBuilder" "java/lang/AbstractStringBuilder" "newCapacity" "(I)I") ∈ lw_all := lw_g (lw_at lw_m11 21 rfl) rfl
theorem q2484 : (Jvm.Cond.sameMethod "java/lang/AbstractStringBuilder" "java/lang/AbstractStringBuilder" "append" "(Ljava/lang/String;)Ljava/lang/AbstractStringBuilder;") ∈ lw_all := lw_g (lw_at lw_m11 22 rfl) rfl
theorem q2486 : (Jvm.Cond.sameMethod "java/lang/AbstractStringBuilder" "java/lang/AbstractStringBuilder" "putStringAt" "(ILjava/lang/String;)V") ∈ lw_all := lw_g (lw_at lw_m11 24 rfl) rfl
theorem q2487 : (Jvm.Cond.sameMethod "java/lang/AbstractStringBuilder" "java/lang/AbstractStringBuilder" "inflateIfNeededFor" "(Ljava/lang/String;)V") ∈ lw_all := lw_g (lw_at lw_m11 25 rfl) rfl
theorem q2490 : (Jvm.Cond.sameMethod "java/lang/AbstractStringBuilder" "java/lang/AbstractStringBuilder" "append" "(C)Ljava/lang/AbstractStringBuilder;") ∈ lw_all := lw_g (lw_at lw_m11 28 rfl) rfl
theorem q468 : (Jvm.Cond.instanceMethod ({ cls := "java/lang/String", name := "length", desc := "()I" } : Jvm.MethodName)) ∈ lw_all := lw_g (lw_at lw_m2 166 rfl) rfl
theorem q469 : (Jvm.Cond.selects "java/lang/String" ({ cls := "java/lang/String", name := "length", desc := "()I" } : Jvm.MethodName) ({ cls := "java/lang/String", name := "length", desc := "()I" } : Jvm.MethodName)) ∈ lw_all := lw_g (lw_at lw_m2 167 rfl) rfl
theorem q470 : (Jvm.Cond.code ({ cls := "java/lang/String", name := "length", desc := "()I" } : Jvm.MethodName) prog_30_method_54_code (1 : Nat) (Option.some Jvm.ClassFile.FieldType.int)) ∈ lw_all := lw_g (lw_at lw_m2 168 rfl) rfl
theorem q637 : (Jvm.Cond.instanceMethod ({ cls := "java/lang/AbstractStringBuilder", name := "isLatin1", desc := "()Z" } : Jvm.MethodName)) ∈ lw_all := lw_g (lw_at lw_m3 95 rfl) rfl
theorem q638 : (Jvm.Cond.sameMethod "java/lang/AbstractStringBuilder" "java/lang/AbstractStringBuilder" "isLatin1" "()Z") ∈ lw_all := lw_g (lw_at lw_m3 96 rfl) rfl
theorem q639 : (Jvm.Cond.selects "java/lang/StringBuilder" ({ cls := "java/lang/AbstractStringBuilder", name := "isLatin1", desc := "()Z" } : Jvm.MethodName) ({ cls := "java/lang/AbstractStringBuilder", name := "isLatin1", desc := "()Z" } : Jvm.MethodName)) ∈ lw_all := lw_g (lw_at lw_m3 97 rfl) rfl
theorem q640 : (Jvm.Cond.code ({ cls := "java/lang/AbstractStringBuilder", name := "isLatin1", desc := "()Z" } : Jvm.MethodName) prog_13_method_68_code (1 : Nat) (Option.some Jvm.ClassFile.FieldType.boolean)) ∈ lw_all := lw_g (lw_at lw_m3 98 rfl) rfl
theorem q673 : (Jvm.Cond.methodLink "java/lang/AbstractStringBuilder" (100 : Nat) ({ cls := "java/lang/AbstractStringBuilder", name := "ensureCapacityInternal", desc := "(I)V" } : Jvm.MethodName)) ∈ lw_all := lw_g (lw_at lw_m3 131 rfl) rfl
theorem q675 : (Jvm.Cond.instanceMethod ({ cls := "java/lang/AbstractStringBuilder", name := "ensureCapacityInternal", desc := "(I)V" } : Jvm.MethodName)) ∈ lw_all := lw_g (lw_at lw_m3 133 rfl) rfl
theorem q676 : (Jvm.Cond.code ({ cls := "java/lang/AbstractStringBuilder", name := "ensureCapacityInternal", desc := "(I)V" } : Jvm.MethodName) prog_13_method_9_code (3 : Nat) (Option.none : Option Jvm.ClassFile.FieldType)) ∈ lw_all := lw_g (lw_at lw_m3 134 rfl) rfl
theorem q677 : (Jvm.Cond.methodLink "java/lang/AbstractStringBuilder" (104 : Nat) ({ cls := "java/lang/AbstractStringBuilder", name := "newCapacity", desc := "(I)I" } : Jvm.MethodName)) ∈ lw_all := lw_g (lw_at lw_m3 135 rfl) rfl
theorem q679 : (Jvm.Cond.instanceMethod ({ cls := "java/lang/AbstractStringBuilder", name := "newCapacity", desc := "(I)I" } : Jvm.MethodName)) ∈ lw_all := lw_g (lw_at lw_m3 137 rfl) rfl
theorem q680 : (Jvm.Cond.code ({ cls := "java/lang/AbstractStringBuilder", name := "newCapacity", desc := "(I)I" } : Jvm.MethodName) prog_13_method_10_code (6 : Nat) (Option.some Jvm.ClassFile.FieldType.int)) ∈ lw_all := lw_g (lw_at lw_m3 138 rfl) rfl
theorem q683 : (Jvm.Cond.methodLink "java/lang/AbstractStringBuilder" (108 : Nat) ({ cls := "java/util/Arrays", name := "copyOf", desc := "([BI)[B" } : Jvm.MethodName)) ∈ lw_all := lw_g (lw_at lw_m3 141 rfl) rfl
theorem q684 : (Jvm.Cond.static ({ cls := "java/util/Arrays", name := "copyOf", desc := "([BI)[B" } : Jvm.MethodName)) ∈ lw_all := lw_g (lw_at lw_m3 142 rfl) rfl
theorem q685 : (Jvm.Cond.code ({ cls := "java/util/Arrays", name := "copyOf", desc := "([BI)[B" } : Jvm.MethodName) prog_45_method_121_code (3 : Nat) (Option.some (Jvm.ClassFile.FieldType.array Jvm.ClassFile.FieldType.byte))) ∈ lw_all := lw_g (lw_at lw_m3 143 rfl) rfl
theorem q693 : (Jvm.Cond.methodLink "java/lang/AbstractStringBuilder" (83 : Nat) ({ cls := "java/lang/AbstractStringBuilder", name := "isLatin1", desc := "()Z" } : Jvm.MethodName)) ∈ lw_all := lw_g (lw_at lw_m3 151 rfl) rfl
theorem q717 : (Jvm.Cond.methodLink "java/lang/StringBuilder" (29 : Nat) ({ cls := "java/lang/AbstractStringBuilder", name := "append", desc := "(Ljava/lang/String;)Ljava/lang/AbstractStringBuilder;" } : Jvm.MethodName)) ∈ lw_all := lw_g (lw_at lw_m3 175 rfl) rfl
theorem q718 : (Jvm.Cond.instanceMethod ({ cls := "java/lang/AbstractStringBuilder", name := "append", desc := "(Ljava/lang/String;)Ljava/lang/AbstractStringBuilder;" } : Jvm.MethodName)) ∈ lw_all := lw_g (lw_at lw_m3 176 rfl) rfl
theorem q719 : (Jvm.Cond.code ({ cls := "java/lang/AbstractStringBuilder", name := "append", desc := "(Ljava/lang/String;)Ljava/lang/AbstractStringBuilder;" } : Jvm.MethodName) prog_13_method_22_code (3 : Nat) (Option.some (Jvm.ClassFile.FieldType.object "java/lang/AbstractStringBuilder"))) ∈ lw_all := lw_g (lw_at lw_m3 177 rfl) rfl
theorem q72 : (Jvm.Cond.initialized "java/util/Arrays") ∈ lw_all := lw_g (lw_at lw_m1 10 rfl) rfl
theorem q727 : (Jvm.Cond.methodLink "java/lang/AbstractStringBuilder" (32 : Nat) ({ cls := "java/lang/String", name := "length", desc := "()I" } : Jvm.MethodName)) ∈ lw_all := lw_g (lw_at lw_m3 185 rfl) rfl
theorem q728 : (Jvm.Cond.methodLink "java/lang/AbstractStringBuilder" (208 : Nat) ({ cls := "java/lang/AbstractStringBuilder", name := "putStringAt", desc := "(ILjava/lang/String;)V" } : Jvm.MethodName)) ∈ lw_all := lw_g (lw_at lw_m3 186 rfl) rfl
theorem q730 : (Jvm.Cond.instanceMethod ({ cls := "java/lang/AbstractStringBuilder", name := "putStringAt", desc := "(ILjava/lang/String;)V" } : Jvm.MethodName)) ∈ lw_all := lw_g (lw_at lw_m3 188 rfl) rfl
theorem q731 : (Jvm.Cond.code ({ cls := "java/lang/AbstractStringBuilder", name := "putStringAt", desc := "(ILjava/lang/String;)V" } : Jvm.MethodName) prog_13_method_73_code (3 : Nat) (Option.none : Option Jvm.ClassFile.FieldType)) ∈ lw_all := lw_g (lw_at lw_m3 189 rfl) rfl
theorem q732 : (Jvm.Cond.methodLink "java/lang/AbstractStringBuilder" (397 : Nat) ({ cls := "java/lang/AbstractStringBuilder", name := "inflateIfNeededFor", desc := "(Ljava/lang/String;)V" } : Jvm.MethodName)) ∈ lw_all := lw_g (lw_at lw_m3 190 rfl) rfl
theorem q734 : (Jvm.Cond.instanceMethod ({ cls := "java/lang/AbstractStringBuilder", name := "inflateIfNeededFor", desc := "(Ljava/lang/String;)V" } : Jvm.MethodName)) ∈ lw_all := lw_g (lw_at lw_m3 192 rfl) rfl
theorem q735 : (Jvm.Cond.code ({ cls := "java/lang/AbstractStringBuilder", name := "inflateIfNeededFor", desc := "(Ljava/lang/String;)V" } : Jvm.MethodName) prog_13_method_71_code (2 : Nat) (Option.none : Option Jvm.ClassFile.FieldType)) ∈ lw_all := lw_g (lw_at lw_m3 193 rfl) rfl
theorem q736 : (Jvm.Cond.methodLink "java/lang/AbstractStringBuilder" (40 : Nat) ({ cls := "java/lang/String", name := "coder", desc := "()B" } : Jvm.MethodName)) ∈ lw_all := lw_g (lw_at lw_m3 194 rfl) rfl
theorem q756 : (Jvm.Cond.methodLink "java/lang/AbstractStringBuilder" (399 : Nat) ({ cls := "java/lang/String", name := "getBytes", desc := "([BIB)V" } : Jvm.MethodName)) ∈ lw_all := lw_g (lw_at lw_m3 214 rfl) rfl
theorem q757 : (Jvm.Cond.instanceMethod ({ cls := "java/lang/String", name := "getBytes", desc := "([BIB)V" } : Jvm.MethodName)) ∈ lw_all := lw_g (lw_at lw_m3 215 rfl) rfl
theorem q758 : (Jvm.Cond.selects "java/lang/String" ({ cls := "java/lang/String", name := "getBytes", desc := "([BIB)V" } : Jvm.MethodName) ({ cls := "java/lang/String", name := "getBytes", desc := "([BIB)V" } : Jvm.MethodName)) ∈ lw_all := lw_g (lw_at lw_m3 216 rfl) rfl
theorem q759 : (Jvm.Cond.code ({ cls := "java/lang/String", name := "getBytes", desc := "([BIB)V" } : Jvm.MethodName) prog_30_method_147_code (4 : Nat) (Option.none : Option Jvm.ClassFile.FieldType)) ∈ lw_all := lw_g (lw_at lw_m3 217 rfl) rfl
theorem q760 : (Jvm.Cond.methodLink "java/lang/String" (212 : Nat) ({ cls := "java/lang/System", name := "arraycopy", desc := "(Ljava/lang/Object;ILjava/lang/Object;II)V" } : Jvm.MethodName)) ∈ lw_all := lw_g (lw_at lw_m3 218 rfl) rfl
theorem q872 : (Jvm.Cond.methodLink "java/lang/StringBuilder" (50 : Nat) ({ cls := "java/lang/AbstractStringBuilder", name := "append", desc := "(C)Ljava/lang/AbstractStringBuilder;" } : Jvm.MethodName)) ∈ lw_all := lw_g (lw_at lw_m4 90 rfl) rfl
theorem q873 : (Jvm.Cond.instanceMethod ({ cls := "java/lang/AbstractStringBuilder", name := "append", desc := "(C)Ljava/lang/AbstractStringBuilder;" } : Jvm.MethodName)) ∈ lw_all := lw_g (lw_at lw_m4 91 rfl) rfl
theorem q874 : (Jvm.Cond.code ({ cls := "java/lang/AbstractStringBuilder", name := "append", desc := "(C)Ljava/lang/AbstractStringBuilder;" } : Jvm.MethodName) prog_13_method_31_code (2 : Nat) (Option.some (Jvm.ClassFile.FieldType.object "java/lang/AbstractStringBuilder"))) ∈ lw_all := lw_g (lw_at lw_m4 92 rfl) rfl
theorem q875 : (Jvm.Cond.methodLink "java/lang/AbstractStringBuilder" (191 : Nat) ({ cls := "java/lang/StringLatin1", name := "canEncode", desc := "(C)Z" } : Jvm.MethodName)) ∈ lw_all := lw_g (lw_at lw_m4 93 rfl) rfl
theorem q876 : (Jvm.Cond.static ({ cls := "java/lang/StringLatin1", name := "canEncode", desc := "(C)Z" } : Jvm.MethodName)) ∈ lw_all := lw_g (lw_at lw_m4 94 rfl) rfl
theorem q877 : (Jvm.Cond.code ({ cls := "java/lang/StringLatin1", name := "canEncode", desc := "(C)Z" } : Jvm.MethodName) prog_33_method_3_code (1 : Nat) (Option.some Jvm.ClassFile.FieldType.boolean)) ∈ lw_all := lw_g (lw_at lw_m4 95 rfl) rfl
theorem bAt.mk {h : zH} {b v : Nat} {t : List Int} {cap n : Nat} {z : Int32} {e : Int} {f : Nat → Value} (he : e = (t.length : Nat)) (hc : n = cap) (h1 : h b = some (true, .inr (12, [.ref v, .int (iI 0), .int z, .int (iI e)]))) (h2 : h v = some (true, .inl (.byte, n, f))) (h3 : t.length ≤ cap) (h4 : cap ≤ 100000) (h5 : ∀ (j : Nat) (c : Int), t[j]? = some c → f j = .int (iI c)) (h6 : ∀ j, j < cap → ∃ c, f j = .int (iI c) ∧ -128 ≤ c ∧ c < 128) (h7 : ∀ c ∈ t, 0 ≤ c ∧ c < 128) : bAt h b v t cap := by
  subst he hc
  exact ⟨z, f, h1, h2, h3, h4, h5, h6, h7⟩
def gC (cap n : Nat) : Nat := if n ≤ cap then 0 else 1
def gS (cap n : Nat) : Nat := if n ≤ cap then 0 else gcap cap n
theorem gcap_le {cap n : Nat} (h1 : cap ≤ 100000) (h2 : n ≤ 40000) : gcap cap n ≤ 100000 := by unfold gcap; split <;> omega
theorem gx_con {t : List Int} {cap : Nat} {f g : Nat → Value} (hlen : t.length ≤ cap) (h : ∀ (j : Nat) (c : Int), t[j]? = some c → f j = .int (iI c)) (hg : ∀ j, j < cap → g j = f j) : ∀ (j : Nat) (c : Int), t[j]? = some c → g j = .int (iI c) := by
  intro j c e
  have hj := (List.getElem?_eq_some_iff.mp e).1
  rw [hg j (by omega)]
  exact h j c e
theorem gx_fit {cap n : Nat} {f g : Nat → Value} (h : ∀ j, j < cap → ∃ c, f j = .int (iI c) ∧ -128 ≤ c ∧ c < 128) (hg : ∀ j, j < cap → g j = f j) (h0 : ∀ j, cap ≤ j → g j = .int (iI 0)) : ∀ j, j < n → ∃ c, g j = .int (iI c) ∧ -128 ≤ c ∧ c < 128 := by
  intro j _
  rcases Nat.lt_or_ge j cap with e | e
  · rw [hg j e]; exact h j e
  · exact ⟨0, h0 j e, by decide, by decide⟩
/-- a letter more -/
theorem gx_put {t : List Int} {cap : Nat} {f : Nat → Value} {c : Int} (hlt : t.length < cap) (h : ∀ (j : Nat) (c : Int), t[j]? = some c → f j = .int (iI c)) : ∀ (j : Nat) (d : Int), (t ++ [c])[j]? = some d → updV f t.length (.int (iI c)) j = .int (iI d) := by
  intro j d e
  rcases Nat.lt_trichotomy j t.length with g | g | g
  · rw [List.getElem?_append_left g] at e
    simp only [updV, if_neg (Nat.ne_of_lt g)]
    exact h j d e
  · subst g
    rw [List.getElem?_append_right (Nat.le_refl _), Nat.sub_self] at e
    simp only [updV, if_pos]
    cases e
    rfl
  · rw [List.getElem?_eq_none (by simp; omega)] at e
    cases e
theorem gx_pfit {cap k : Nat} {f : Nat → Value} {c : Int} (hc : -128 ≤ c ∧ c < 128) (h : ∀ j, j < cap → ∃ c, f j = .int (iI c) ∧ -128 ≤ c ∧ c < 128) : ∀ j, j < cap → ∃ c', updV f k (.int (iI c)) j = .int (iI c') ∧ -128 ≤ c' ∧ c' < 128 := by
  intro j hj
  simp only [updV]
  split
  · exact ⟨c, rfl, hc⟩
  · exact h j hj
theorem gx_asc {t : List Int} {c : Int} (h : ∀ c ∈ t, 0 ≤ c ∧ c < 128) (hc : 0 ≤ c ∧ c < 128) : ∀ d ∈ t ++ [c], 0 ≤ d ∧ d < 128 := by
  intro d hd
  rcases List.mem_append.mp hd with e | e
  · exact h d e
  · rw [List.mem_singleton.mp e]; exact hc
theorem bAt.keep {h h' : zH} {b v : Nat} {t : List Int} {cap : Nat} {S : List Nat} (k : zkeep h h' S) (hb : bAt h b v t cap) (h1 : b ∉ S) (h2 : v ∉ S) : bAt h' b v t cap := by
  obtain ⟨z, f, g1, g2, g3⟩ := hb
  exact ⟨z, f, k.n g1 h1, k.n g2 h2, g3⟩
theorem gq_lo {g f : Nat → Value} {i n : Nat} : ∀ j, j < i → va_cpy g f 0 i n j = f j := fun j hj => by rw [va_cpy, if_neg (by omega)]
theorem gq_hi {g f : Nat → Value} {i n : Nat} : ∀ j, i + n ≤ j → va_cpy g f 0 i n j = f j := fun j hj => by rw [va_cpy, if_neg (by omega)]
theorem gq_mid {s : List Int} {g f : Nat → Value} {i : Nat} (h : ∀ (j : Nat) (c : Int), s[j]? = some c → g j = .int (iI c)) : ∀ (j : Nat) (c : Int), s[j]? = some c → va_cpy g f 0 i s.length (i + j) = .int (iI c) := by
  intro j c e
  have hj := (List.getElem?_eq_some_iff.mp e).1
  rw [va_cpy, if_pos (by omega), show 0 + (i + j - i) = j by omega]
  exact h j c e
theorem gs_con {t s : List Int} {f q : Nat → Value} (h1 : ∀ j, j < t.length → q j = f j) (h2 : ∀ (j : Nat) (c : Int), s[j]? = some c → q (t.length + j) = .int (iI c)) (h : ∀ (j : Nat) (c : Int), t[j]? = some c → f j = .int (iI c)) : ∀ (j : Nat) (d : Int), (t ++ s)[j]? = some d → q j = .int (iI d) := by
  intro j d e
  rcases Nat.lt_or_ge j t.length with g | g
  · rw [List.getElem?_append_left g] at e
    rw [h1 j g]
    exact h j d e
  · rw [List.getElem?_append_right g] at e
    have := h2 _ _ e
    rwa [show t.length + (j - t.length) = j by omega] at this
theorem gs_fit {t s : List Int} {cap : Nat} {f q : Nat → Value} (h1 : ∀ j, j < t.length → q j = f j) (h2 : ∀ (j : Nat) (c : Int), s[j]? = some c → q (t.length + j) = .int (iI c)) (h3 : ∀ j, t.length + s.length ≤ j → q j = f j) (h : ∀ j, j < cap → ∃ c, f j = .int (iI c) ∧ -128 ≤ c ∧ c < 128) (hs : ∀ c ∈ s, 0 ≤ c ∧ c < 128) : ∀ j, j < cap → ∃ c, q j = .int (iI c) ∧ -128 ≤ c ∧ c < 128 := by
  intro j hj
  rcases Nat.lt_or_ge j t.length with g | g
  · rw [h1 j g]; exact h j hj
  · rcases Nat.lt_or_ge j (t.length + s.length) with g2 | g2
    · have hk : j - t.length < s.length := by omega
      have e := h2 _ _ (List.getElem?_eq_getElem hk)
      rw [show t.length + (j - t.length) = j by omega] at e
      have := hs _ (List.getElem_mem hk)
      exact ⟨_, e, by omega, by omega⟩
    · rw [h3 j g2]; exact h j hj
theorem gs_asc {t s : List Int} (h : ∀ c ∈ t, 0 ≤ c ∧ c < 128) (h2 : ∀ c ∈ s, 0 ≤ c ∧ c < 128) : ∀ d ∈ t ++ s, 0 ≤ d ∧ d < 128 := by
  intro d hd
  rcases List.mem_append.mp hd with e | e
  · exact h d e
  · exact h2 d e
set_option maxHeartbeats 4000000 in
theorem ct_B_ensure {l : Launch} (hl : l.stackTraces = false) {Γ : zCx} {h : zH} {b v : Nat} {t : List Int} {cap : Nat} (hb : bAt h b v t cap) {m : Int} (hm : 0 ≤ m ∧ m ≤ 40000) : zMet l yJ12_ensureCapacityInternal (ws_ yJ12_ensureCapacityInternal cJ12_ensureCapacityInternal 3 none) ({ frames := 3, cells := gC cap m.toNat, slots := gS cap m.toNat, locals := 69 }) Γ h [.ref b, .int (iI m)] (zrt (fun w h' => w = none ∧ ∃ v', bAt h' b v' t (gcap cap m.toNat) ∧ (v' = v ∨ h v' = none) ∧ zkeep h h' [b])) (gC cap m.toNat) (gS cap m.toNat) := by
  refine zMet.of (cc := cJ12_ensureCapacityInternal) hl (plainFor_of_name (by decide +kernel)) (Nat.le_of_ble_eq_true rfl) ?_
  intro X hXl hXΓ hXp C hnm hnL
  have C : zC X cJ12_ensureCapacityInternal RJ12 none 3 69 [] := C
  have hnL : X.2.1.2.2.2.2 = 3 := hnL
  subst hXl hXΓ
  show Z X h (gC cap m.toNat) (gS cap m.toNat) [(0, .ref b), (1, .int (iI m))] 0 []
  obtain ⟨z, fb, hb1, hv1, hlen, hcap, hcon, hfit, hasc⟩ := hb
  refine z_aload_n (pc := 0) (j := 0) C dJ12_ensureCapacityInternal_0 rfl rfl ?_
  refine z_getfield (pc := 1) (v := .ref v) C in_J13 rfl 0 (by decide) q348 (fun _ z => z) hb1 rfl dJ12_ensureCapacityInternal_1 ?_
  refine z_alen (pc := 4) C hv1 dJ12_ensureCapacityInternal_4 ?_
  refine z_aload_n (pc := 5) (j := 0) C dJ12_ensureCapacityInternal_5 rfl rfl ?_
  refine z_getfield (pc := 6) (v := .int (iI 0)) C in_J13 rfl 1 (by decide) q349 (fun _ z => z) hb1 rfl dJ12_ensureCapacityInternal_6 ?_
  refine z_ishr0 (pc := 9) C dJ12_ensureCapacityInternal_9 ?_
  refine z_istore_n (pc := 10) (L' := [(2, .int (iI ((cap : Nat) : Int))), (0, .ref b), (1, .int (iI m))]) C dJ12_ensureCapacityInternal_10 rfl (by rw [hnL]; decide) rfl ?_
  refine z_iload_n (pc := 11) (j := 2) C dJ12_ensureCapacityInternal_11 rfl rfl ?_
  refine z_iload_n (pc := 12) (j := 0) C dJ12_ensureCapacityInternal_12 rfl rfl ?_
  refine z_isub (pc := 13) C dJ12_ensureCapacityInternal_13 ?_
  refine z_if_le (pc := 14) (tgt := 38) C dJ12_ensureCapacityInternal_14 (by decide) (by omega) (fun c14 => ?_) (fun c14 => ?_)
  · exact z_return (pc := 38) C (by rw [hXp]; exact ⟨_, rfl, rfl, v, bAt.mk rfl (by unfold gcap; rw [if_pos (by omega)]) hb1 hv1 (by have := gcap_ge2 cap m.toNat; omega) (gcap_le hcap (by omega)) hcon (by unfold gcap; rw [if_pos (by omega)]; exact hfit) hasc, Or.inl rfl, zkeep.rf⟩) dJ12_ensureCapacityInternal_38
  · have hgC : gC cap m.toNat = 1 := by unfold gC; rw [if_neg (by omega)]
    have hgS : gS cap m.toNat = cap + max (m.toNat - cap) (cap + 2) := by unfold gS gcap; rw [if_neg (by omega), if_neg (by omega)]
    refine z_aload_n (pc := 17) (j := 1) C dJ12_ensureCapacityInternal_17 rfl rfl ?_
    refine z_aload_n (pc := 18) (j := 1) C dJ12_ensureCapacityInternal_18 rfl rfl ?_
    refine z_getfield (pc := 19) (v := .ref v) C in_J13 rfl 0 (by decide) q348 (fun _ z => z) hb1 rfl dJ12_ensureCapacityInternal_19 ?_
    refine z_aload_n (pc := 22) (j := 1) C dJ12_ensureCapacityInternal_22 rfl rfl ?_
    refine z_iload_n (pc := 23) (j := 2) C dJ12_ensureCapacityInternal_23 rfl rfl ?_
    refine z_callU (pc := 24) (n := 1) (kc' := (gC cap m.toNat)) (ks' := (gS cap m.toNat)) C (ct_B_newCapacity C.t hb1 hv1 (by omega) (m := m) (by omega)) q680 q677 q2483 (Or.inr ⟨rfl, by decide⟩) q679 q81 (by decide +kernel) ⟨by decide, by decide⟩ hb1 rfl rfl rfl (Nat.le_of_ble_eq_true rfl) dJ12_ensureCapacityInternal_24 (by omega) (by omega) (zpk (st' := [.int (iI (((cap : Nat) : Int) + max (m - ((cap : Nat) : Int)) (((cap : Nat) : Int) + 2))), .ref v, .ref b]) rfl ?_) zrx
    refine z_aload_n (pc := 27) (j := 1) C dJ12_ensureCapacityInternal_27 rfl rfl ?_
    refine z_getfield (pc := 28) (v := .int (iI 0)) C in_J13 rfl 1 (by decide) q349 (fun _ z => z) hb1 rfl dJ12_ensureCapacityInternal_28 ?_
    refine z_ishl0 (pc := 31) C dJ12_ensureCapacityInternal_31 ?_
    refine z_callS (pc := 32) (n := 2) (kc' := (gC cap m.toNat - 1)) (ks' := (gS cap m.toNat - (((cap : Nat) : Int) + max (m - ((cap : Nat) : Int)) (((cap : Nat) : Int) + 2)).toNat)) C (ct_A_copyOf C.t hv1 (by omega) (m := ((cap : Nat) : Int) + max (m - ((cap : Nat) : Int)) (((cap : Nat) : Int) + 2)) (by omega) hfit) (lw_S q683 q684 q72 q685) (by decide +kernel) ⟨by decide, by decide⟩ rfl rfl (Nat.le_of_ble_eq_true rfl) dJ12_ensureCapacityInternal_32 (by omega) (by omega) (zrk fun w h3 hp => ?_) zrx
    obtain ⟨a1, g2, rfl, fa1, eh3, g21, g22⟩ := hp
    have na1 : h a1 = none := fa1
    have kh3 : zkeep h h3 [b] := by rw [eh3]; exact zkeep.born zkeep.rf fa1
    have fh3_0 : h3 a1 = some (true, .inl (.byte, (((cap : Nat) : Int) + max (m - ((cap : Nat) : Int)) (((cap : Nat) : Int) + 2)).toNat, g2)) := zse eh3
    have fh3_1 : h3 b = some (true, .inr (12, [.ref v, .int (iI 0), .int z, .int (iI ((t.length : Nat) : Int))])) := zsn eh3 hb1 (zneF hb1 fa1)
    show Z X h3 (gC cap m.toNat - 1) (gS cap m.toNat - (((cap : Nat) : Int) + max (m - ((cap : Nat) : Int)) (((cap : Nat) : Int) + 2)).toNat) [(2, .int (iI ((cap : Nat) : Int))), (0, .ref b), (1, .int (iI m))] 35 [.ref a1, .ref b]
    refine z_putfield (pc := 35) (fs' := [.ref a1, .int (iI 0), .int z, .int (iI ((t.length : Nat) : Int))]) C in_J13 tyJ13 tyJ13_ok nmJ13 rfl 0 (by decide) q348 (fun _ z => z) rfl rfl rfl (Nat.le_of_ble_eq_true rfl) fh3_1 rfl dJ12_ensureCapacityInternal_35 ?_
    refine Z.nm (fun h4 eh4 => ?_)
    have kh4 : zkeep h h4 [b] := by rw [eh4]; exact zkeep.up kh3 (Or.inl (by simp)) fh3_1
    have fh4_0 : h4 b = some (true, .inr (12, [.ref a1, .int (iI 0), .int z, .int (iI ((t.length : Nat) : Int))])) := zse eh4
    have fh4_1 : h4 a1 = some (true, .inl (.byte, (((cap : Nat) : Int) + max (m - ((cap : Nat) : Int)) (((cap : Nat) : Int) + 2)).toNat, g2)) := zsn eh4 fh3_0 (Ne.symm (zneF hb1 fa1))
    exact z_return (pc := 38) C (by rw [hXp]; exact ⟨_, rfl, rfl, a1, bAt.mk rfl (by unfold gcap; rw [if_neg (by omega)]; omega) fh4_0 fh4_1 (by have := gcap_ge2 cap m.toNat; omega) (gcap_le hcap (by omega)) (gx_con hlen hcon g21) (gx_fit hfit g21 g22) hasc, Or.inr na1, kh4⟩) dJ12_ensureCapacityInternal_38
set_option maxHeartbeats 4000000 in
theorem ct_B_appC0 {l : Launch} (hl : l.stackTraces = false) {Γ : zCx} {h : zH} {b v : Nat} {t : List Int} {cap : Nat} (hb : bAt h b v t cap) {c : Int} (hc : 0 ≤ c ∧ c < 128) (ht : t.length + 1 ≤ 40000)  : zMet l yJ12_append_3 (ws_ yJ12_append_3 cJ12_append_3 2 (some (.object "java/lang/AbstractStringBuilder"))) ({ frames := 4, cells := gC cap (t.length + 1), slots := gS cap (t.length + 1), locals := 91 }) Γ h [.ref b, .int (iI c)] (zrt (fun w h' => w = some (.ref b) ∧ ∃ v', bAt h' b v' (t ++ [c]) (gcap cap (t.length + 1)) ∧ (v' = v ∨ h v' = none) ∧ zkeep h h' [b, v])) (gC cap (t.length + 1)) (gS cap (t.length + 1)) := by
  refine zMet.of (cc := cJ12_append_3) hl (plainFor_of_name (by decide +kernel)) (Nat.le_of_ble_eq_true rfl) ?_
  intro X hXl hXΓ hXp C hnm hnL
  have C : zC X cJ12_append_3 RJ12 (some (.object "java/lang/AbstractStringBuilder")) 4 91 [] := C
  have hnL : X.2.1.2.2.2.2 = 2 := hnL
  subst hXl hXΓ
  show Z X h (gC cap (t.length + 1)) (gS cap (t.length + 1)) [(0, .ref b), (1, .int (iI c))] 0 []
  have hb0 := hb
  obtain ⟨z, fb, hb1, hv1, hlen, hcap, hcon, hfit, hasc⟩ := hb
  have eTL : (((t.length : Nat) : Int) + 1).toNat = t.length + 1 := by omega
  refine z_aload_n (pc := 0) (j := 0) C dJ12_append_3_0 rfl rfl ?_
  refine z_aload_n (pc := 1) (j := 0) C dJ12_append_3_1 rfl rfl ?_
  refine z_getfield (pc := 2) (v := .int (iI ((t.length : Nat) : Int))) C in_J13 rfl 3 (by decide) q352 (fun _ z => z) hb1 rfl dJ12_append_3_2 ?_
  refine z_iconst (pc := 5) C dJ12_append_3_5 ?_
  refine z_iadd (pc := 6) C dJ12_append_3_6 ?_
  refine z_callU (pc := 7) (n := 1) (kc' := (gC cap (t.length + 1) - gC cap (((t.length : Nat) : Int) + 1).toNat)) (ks' := (gS cap (t.length + 1) - gS cap (((t.length : Nat) : Int) + 1).toNat)) C (ct_B_ensure C.t hb0 (m := ((t.length : Nat) : Int) + 1) (by omega)) q676 q673 q2482 (Or.inr ⟨rfl, by decide⟩) q675 q81 (by decide +kernel) ⟨by decide, by decide⟩ hb1 rfl rfl rfl (Nat.le_of_ble_eq_true rfl) dJ12_append_3_7 (by rw [eTL]; omega) (by rw [eTL]; omega) (zrk fun w h1 hp => ?_) zrx
  obtain ⟨rfl, v2, hb3, hv4, k5⟩ := hp
  have dv2 : v2 ∈ ([b, v] : List Nat) ∨ h v2 = none := zmay (Or.inl (by simp)) hv4 zkeep.rf
  have kh1 : zkeep h h1 [b, v] := zkeep.loc zkeep.rf k5 (zall_cons (Or.inl (Or.symm (Or.inl (by simp)))) zall_nil)
  have fh1_1 : h1 v = some (true, .inl (.byte, cap, fb)) := k5.n hv1 (List.not_mem_cons_of_ne_of_not_mem (Ne.symm (zneA hb1 hv1)) List.not_mem_nil)
  have hx_6 := hb3
  obtain ⟨z_6, f_6, hb_6, hv_6, hlen_6, hcap_6, hcon_6, hfit_6, hasc_6⟩ := hx_6
  show Z X h1 (gC cap (t.length + 1) - gC cap (((t.length : Nat) : Int) + 1).toNat) (gS cap (t.length + 1) - gS cap (((t.length : Nat) : Int) + 1).toNat) [(0, .ref b), (1, .int (iI c))] 10 []
  refine z_aload_n (pc := 10) (j := 0) C dJ12_append_3_10 rfl rfl ?_
  refine z_callU (pc := 11) (n := 0) (kc' := (gC cap (t.length + 1) - gC cap (((t.length : Nat) : Int) + 1).toNat)) (ks' := (gS cap (t.length + 1) - gS cap (((t.length : Nat) : Int) + 1).toNat)) C (ct_B_isLatin1 (cap := 0) (f := fun _ => .null) C.t hb_6) q640 q693 q638 (Or.inl q639) q637 q81 (by decide +kernel) ⟨by decide, by decide⟩ hb_6 rfl rfl rfl (Nat.le_of_ble_eq_true rfl) dJ12_append_3_11 (by omega) (by omega) (zpk (st' := [.int (iI 1)]) rfl ?_) zrx
  refine z_if_eq (pc := 14) (tgt := 45) C dJ12_append_3_14 (by decide) (by decide) (fun z => absurd z (by decide)) (fun _ => ?_)
  refine z_iload_n (pc := 17) (j := 1) C dJ12_append_3_17 rfl rfl ?_
  refine z_callS (pc := 18) (n := 1) (kc' := (gC cap (t.length + 1) - gC cap (((t.length : Nat) : Int) + 1).toNat)) (ks' := (gS cap (t.length + 1) - gS cap (((t.length : Nat) : Int) + 1).toNat)) C (ct_L_canC C.t (c := c) (by omega)) (lw_S q875 q876 q86 q877) (by decide +kernel) ⟨by decide, by decide⟩ rfl rfl (Nat.le_of_ble_eq_true rfl) dJ12_append_3_18 (by omega) (by omega) (zpk (st' := [.int (iI 1)]) rfl ?_) zrx
  refine z_if_eq (pc := 21) (tgt := 45) C dJ12_append_3_21 (by decide) (by decide) (fun z => absurd z (by decide)) (fun _ => ?_)
  refine z_aload_n (pc := 24) (j := 0) C dJ12_append_3_24 rfl rfl ?_
  refine z_getfield (pc := 25) (v := .ref v2) C in_J13 rfl 0 (by decide) q348 (fun _ z => z) hb_6 rfl dJ12_append_3_25 ?_
  refine z_aload_n (pc := 28) (j := 0) C dJ12_append_3_28 rfl rfl ?_
  refine z_dup (pc := 29) C dJ12_append_3_29 rfl ?_
  refine z_getfield (pc := 30) (v := .int (iI ((t.length : Nat) : Int))) C in_J13 rfl 3 (by decide) q352 (fun _ z => z) hb_6 rfl dJ12_append_3_30 ?_
  refine z_dup_x1 (pc := 33) C dJ12_append_3_33 rfl rfl ?_
  refine z_iconst (pc := 34) C dJ12_append_3_34 ?_
  refine z_iadd (pc := 35) C dJ12_append_3_35 ?_
  refine z_putfield (pc := 36) (fs' := [.ref v2, .int (iI 0), .int z_6, .int (iI (((t.length : Nat) : Int) + 1))]) C in_J13 tyJ13 tyJ13_ok nmJ13 rfl 3 (by decide) q352 (fun _ z => z) rfl rfl rfl (Nat.le_of_ble_eq_true rfl) hb_6 rfl dJ12_append_3_36 ?_
  refine Z.nm (fun h7 eh7 => ?_)
  have kh7 : zkeep h h7 [b, v] := by rw [eh7]; exact zkeep.up kh1 (Or.inl (by simp)) hb_6
  have fh7_0 : h7 b = some (true, .inr (12, [.ref v2, .int (iI 0), .int z_6, .int (iI (((t.length : Nat) : Int) + 1))])) := zse eh7
  have fh7_1 : h7 v2 = some (true, .inl (.byte, gcap cap (((t.length : Nat) : Int) + 1).toNat, f_6)) := zsn eh7 hv_6 (Ne.symm (zneA hb_6 hv_6))
  refine z_iload_n (pc := 39) (j := 1) C dJ12_append_3_39 rfl rfl ?_
  refine z_i2bI (pc := 40) C (by omega) dJ12_append_3_40 ?_
  refine z_bastore (pc := 41) (f' := updV f_6 t.length (.int (iI c))) C (i_nb (by omega) (by omega)) fh7_1 (by rw [eTL]; have := gcap_ge cap (t.length + 1); omega) rfl dJ12_append_3_41 ?_
  refine Z.nm (fun h8 eh8 => ?_)
  have kh8 : zkeep h h8 [b, v] := by rw [eh8]; exact zkeep.up kh7 dv2 fh7_1
  have fh8_0 : h8 v2 = some (true, .inl (.byte, gcap cap (((t.length : Nat) : Int) + 1).toNat, updV f_6 t.length (.int (iI c)))) := zse eh8
  have fh8_1 : h8 b = some (true, .inr (12, [.ref v2, .int (iI 0), .int z_6, .int (iI (((t.length : Nat) : Int) + 1))])) := zsn eh8 fh7_0 (zneA fh7_0 fh7_1)
  refine z_goto (pc := 42) (tgt := 75) C dJ12_append_3_42 (by decide) ?_
  refine z_aload_n (pc := 75) (j := 0) C dJ12_append_3_75 rfl rfl ?_
  exact z_areturn (pc := 76) C (Or.inl ⟨_, rfl⟩) (Or.inr ⟨_, rfl⟩) (by rw [hXp]; exact ⟨_, rfl, rfl, v2, bAt.mk (by simp) (by rw [eTL]) fh8_1 fh8_0 (by simp; exact gcap_ge cap (t.length + 1)) (gcap_le hcap (by omega)) (gx_put (cap := gcap cap (t.length + 1)) (by rw [eTL] at hlen_6; have := gcap_ge cap (t.length + 1); omega) hcon_6) (by rw [← eTL]; exact gx_pfit (by omega) hfit_6) (gx_asc hasc_6 hc), hv4, kh8⟩) dJ12_append_3_76
set_option maxHeartbeats 4000000 in
theorem ct_B_appC {l : Launch} (hl : l.stackTraces = false) {Γ : zCx} {h : zH} {b v : Nat} {t : List Int} {cap : Nat} (hb : bAt h b v t cap) {c : Int} (hc : 0 ≤ c ∧ c < 128) (ht : t.length + 1 ≤ 40000)  : zMet l yJ13_append_3 (ws_ yJ13_append_3 cJ13_append_3 2 (some (.object "java/lang/StringBuilder"))) ({ frames := 5, cells := gC cap (t.length + 1), slots := gS cap (t.length + 1), locals := 112 }) Γ h [.ref b, .int (iI c)] (zrt (fun w h' => w = some (.ref b) ∧ ∃ v', bAt h' b v' (t ++ [c]) (gcap cap (t.length + 1)) ∧ (v' = v ∨ h v' = none) ∧ zkeep h h' [b, v])) (gC cap (t.length + 1)) (gS cap (t.length + 1)) := by
  refine zMet.of (cc := cJ13_append_3) hl (plainFor_of_name (by decide +kernel)) (Nat.le_of_ble_eq_true rfl) ?_
  intro X hXl hXΓ hXp C hnm hnL
  have C : zC X cJ13_append_3 RJ13 (some (.object "java/lang/StringBuilder")) 5 112 [] := C
  have hnL : X.2.1.2.2.2.2 = 2 := hnL
  subst hXl hXΓ
  show Z X h (gC cap (t.length + 1)) (gS cap (t.length + 1)) [(0, .ref b), (1, .int (iI c))] 0 []
  have hb0 := hb
  obtain ⟨z, fb, hb1, hv1, hlen, hcap, hcon, hfit, hasc⟩ := hb
  refine z_aload_n (pc := 0) (j := 0) C dJ13_append_3_0 rfl rfl ?_
  refine z_iload_n (pc := 1) (j := 1) C dJ13_append_3_1 rfl rfl ?_
  refine z_callSU (pc := 2) (n := 1) (kc' := (gC cap (t.length + 1) - gC cap (t.length + 1))) (ks' := (gS cap (t.length + 1) - gS cap (t.length + 1))) C (ct_B_appC0 C.t hb0 (c := c) (by omega) (by omega)) q874 q872 q2490 q361 q873 q81 (by decide +kernel) ⟨by decide, by decide⟩ hb1 rfl rfl rfl (Nat.le_of_ble_eq_true rfl) dJ13_append_3_2 (by omega) (by omega) (zrk fun w h1 hp => ?_) zrx
  obtain ⟨rfl, v2, hb3, hv4, k5⟩ := hp
  have dv2 : v2 ∈ ([b, v] : List Nat) ∨ h v2 = none := zmay (Or.inl (by simp)) hv4 zkeep.rf
  have kh1 : zkeep h h1 [b, v] := zkeep.loc zkeep.rf k5 (zall_cons (Or.inl (Or.symm (Or.inl (by simp)))) (zall_cons (Or.inl (Or.symm (Or.inl (by simp)))) zall_nil))
  have hx_6 := hb3
  obtain ⟨z_6, f_6, hb_6, hv_6, hlen_6, hcap_6, hcon_6, hfit_6, hasc_6⟩ := hx_6
  show Z X h1 (gC cap (t.length + 1) - gC cap (t.length + 1)) (gS cap (t.length + 1) - gS cap (t.length + 1)) [(0, .ref b), (1, .int (iI c))] 5 [.ref b]
  refine z_pop (pc := 5) C dJ13_append_3_5 rfl ?_
  refine z_aload_n (pc := 6) (j := 0) C dJ13_append_3_6 rfl rfl ?_
  exact z_areturn (pc := 7) C (Or.inl ⟨_, rfl⟩) (Or.inr ⟨_, rfl⟩) (by rw [hXp]; exact ⟨_, rfl, rfl, v2, hb3, hv4, kh1⟩) dJ13_append_3_7
set_option maxHeartbeats 4000000 in
theorem ct_S_getBytes {l : Launch} (hl : l.stackTraces = false) {Γ : zCx} {h : zH} {a va : Nat} {fl f2 : Bool} {x y : Value} {s : List Int} {g : Nat → Value} (ha : h a = some (fl, .inr (13, [.ref va, .int (iI 0), x, y]))) (hva : h va = some (f2, .inl (.byte, s.length, g))) (hs1 : ∀ (j : Nat) (c : Int), s[j]? = some c → g j = .int (iI c)) (hs2 : ∀ c ∈ s, 0 ≤ c ∧ c < 128) (hs3 : s.length ≤ 20000) {v : Nat} {cap : Nat} {f : Nat → Value} (hv : h v = some (true, .inl (.byte, cap, f))) {i : Int} (hi : 0 ≤ i ∧ i + s.length ≤ cap) (hcap : cap ≤ 100000) : zMet l yJ14_getBytes (ws_ yJ14_getBytes cJ14_getBytes 4 none) ({ frames := 1, cells := 0, slots := 0, locals := 20 }) Γ h [.ref a, .ref v, .int (iI i), .int (iI 0)] (zrt (fun w h' => w = none ∧ ∃ q, h' = zup h v (true, .inl (.byte, cap, q)) ∧ (∀ j, j < i.toNat → q j = f j) ∧ (∀ (j : Nat) (c : Int), s[j]? = some c → q (i.toNat + j) = .int (iI c)) ∧ ∀ j, i.toNat + s.length ≤ j → q j = f j)) 0 0 := by
  refine zMet.of (cc := cJ14_getBytes) hl (plainFor_of_name (by decide +kernel)) (Nat.le_of_ble_eq_true rfl) ?_
  intro X hXl hXΓ hXp C hnm hnL
  have C : zC X cJ14_getBytes RJ14 none 1 20 [] := C
  have hnL : X.2.1.2.2.2.2 = 4 := hnL
  subst hXl hXΓ
  show Z X h 0 0 [(0, .ref a), (1, .ref v), (2, .int (iI i)), (3, .int (iI 0))] 0 []
  refine z_aload_n (pc := 0) (j := 0) C dJ14_getBytes_0 rfl rfl ?_
  refine z_callV (pc := 1) (n := 0) (kc' := 0) (ks' := 0) C (ct_S_coder C.t ha) (lw_V q471 q472 q473 q83 q474) (by decide +kernel) ⟨by decide, by decide⟩ ha rfl rfl rfl (Nat.le_of_ble_eq_true rfl) dJ14_getBytes_1 (by omega) (by omega) (zpk (st' := [.int (iI 0)]) rfl ?_) zrx
  refine z_iload_n (pc := 4) (j := 3) C dJ14_getBytes_4 rfl rfl ?_
  refine z_icmp_ne (pc := 5) (tgt := 28) C dJ14_getBytes_5 (by decide) (by decide) (by decide) (fun z => absurd z (by decide)) (fun _ => ?_)
  refine z_aload_n (pc := 8) (j := 0) C dJ14_getBytes_8 rfl rfl ?_
  refine z_getfield (pc := 9) (v := .ref va) C in_J14 rfl 0 (by decide) q787 (fun _ z => z) ha rfl dJ14_getBytes_9 ?_
  refine z_iconst (pc := 12) C dJ14_getBytes_12 ?_
  refine z_aload_n (pc := 13) (j := 1) C dJ14_getBytes_13 rfl rfl ?_
  refine z_iload_n (pc := 14) (j := 2) C dJ14_getBytes_14 rfl rfl ?_
  refine z_iload_n (pc := 15) (j := 3) C dJ14_getBytes_15 rfl rfl ?_
  refine z_ishl0 (pc := 16) C dJ14_getBytes_16 ?_
  refine z_aload_n (pc := 17) (j := 0) C dJ14_getBytes_17 rfl rfl ?_
  refine z_getfield (pc := 18) (v := .ref va) C in_J14 rfl 0 (by decide) q787 (fun _ z => z) ha rfl dJ14_getBytes_18 ?_
  refine z_alen (pc := 21) C hva dJ14_getBytes_21 ?_
  refine z_copyP (pc := 22) (g' := va_cpy g f (Int.toNat 0) (Int.toNat i) (Int.toNat ((s.length : Nat) : Int))) C q760 q270 q269 q73 rfl hva hv (by omega) (by omega) (by omega) (fun i hi => by
    have e : i < s.length := by omega
    have e2 := hs1 i _ (List.getElem?_eq_getElem e)
    simp only [Int.toNat_zero, Nat.zero_add, e2]
    have e3 := hs2 _ (List.getElem_mem e)
    exact ⟨i_fb (by omega) (by omega), _, rfl⟩) rfl (by decide) (by decide) dJ14_getBytes_22 ?_
  refine Z.nm (fun h1 eh1 => ?_)
  have kh1 : zkeep h h1 [v] := by rw [eh1]; exact zkeep.up zkeep.rf (Or.inl (by simp)) hv
  have fh1_0 : h1 v = some (true, .inl (.byte, cap, va_cpy g f (Int.toNat 0) (Int.toNat i) (Int.toNat ((s.length : Nat) : Int)))) := zse eh1
  refine z_goto (pc := 25) (tgt := 43) C dJ14_getBytes_25 (by decide) ?_
  exact z_return (pc := 43) C (by rw [hXp]; exact ⟨_, rfl, rfl, _, eh1, gq_lo, gq_mid hs1, gq_hi⟩) dJ14_getBytes_43
set_option maxHeartbeats 4000000 in
theorem ct_B_inflNo {l : Launch} (hl : l.stackTraces = false) {Γ : zCx} {h : zH} {b v : Nat} {z : Value} {n : Int} {cap : Nat} {f : Nat → Value} (hb : h b = some (true, .inr (12, [.ref v, .int (iI 0), z, .int (iI n)]))) {a va : Nat} {fl : Bool} {x y : Value} (ha : h a = some (fl, .inr (13, [.ref va, .int (iI 0), x, y])))  : zMet l yJ12_inflateIfNeededFor (ws_ yJ12_inflateIfNeededFor cJ12_inflateIfNeededFor 2 none) ({ frames := 1, cells := 0, slots := 0, locals := 20 }) Γ h [.ref b, .ref a] (zpure h none) 0 0 := by
  refine zMet.of (cc := cJ12_inflateIfNeededFor) hl (plainFor_of_name (by decide +kernel)) (Nat.le_of_ble_eq_true rfl) ?_
  intro X hXl hXΓ hXp C hnm hnL
  have C : zC X cJ12_inflateIfNeededFor RJ12 none 1 20 [] := C
  have hnL : X.2.1.2.2.2.2 = 2 := hnL
  subst hXl hXΓ
  show Z X h 0 0 [(0, .ref b), (1, .ref a)] 0 []
  refine z_compact (pc := 0) C q339 dJ12_inflateIfNeededFor_0 ?_
  refine z_if_eq (pc := 3) (tgt := 21) C dJ12_inflateIfNeededFor_3 (by decide) (by decide) (fun z => absurd z (by decide)) (fun _ => ?_)
  refine z_aload_n (pc := 6) (j := 0) C dJ12_inflateIfNeededFor_6 rfl rfl ?_
  refine z_getfield (pc := 7) (v := .int (iI 0)) C in_J13 rfl 1 (by decide) q349 (fun _ z => z) hb rfl dJ12_inflateIfNeededFor_7 ?_
  refine z_aload_n (pc := 10) (j := 1) C dJ12_inflateIfNeededFor_10 rfl rfl ?_
  refine z_callV (pc := 11) (n := 0) (kc' := 0) (ks' := 0) C (ct_S_coder C.t ha) (lw_V q736 q472 q473 q83 q474) (by decide +kernel) ⟨by decide, by decide⟩ ha rfl rfl rfl (Nat.le_of_ble_eq_true rfl) dJ12_inflateIfNeededFor_11 (by omega) (by omega) (zpk (st' := [.int (iI 0), .int (iI 0)]) rfl ?_) zrx
  refine z_icmp_eq (pc := 14) (tgt := 21) C dJ12_inflateIfNeededFor_14 (by decide) (by decide) (by decide) (fun _ => ?_) (fun z => absurd z (by decide))
  exact z_return (pc := 21) C (by rw [hXp]; exact zpure_v rfl rfl) dJ12_inflateIfNeededFor_21
set_option maxHeartbeats 4000000 in
theorem ct_B_putStr {l : Launch} (hl : l.stackTraces = false) {Γ : zCx} {h : zH} {b v : Nat} {z : Value} {n : Int} {cap : Nat} {f : Nat → Value} (hb : h b = some (true, .inr (12, [.ref v, .int (iI 0), z, .int (iI n)]))) (hv : h v = some (true, .inl (.byte, cap, f))) (hcap : cap ≤ 100000) {a va : Nat} {fl f2 : Bool} {x y : Value} {s : List Int} {g : Nat → Value} (ha : h a = some (fl, .inr (13, [.ref va, .int (iI 0), x, y]))) (hva : h va = some (f2, .inl (.byte, s.length, g))) (hs1 : ∀ (j : Nat) (c : Int), s[j]? = some c → g j = .int (iI c)) (hs2 : ∀ c ∈ s, 0 ≤ c ∧ c < 128) (hs3 : s.length ≤ 20000) {i : Int} (hi : 0 ≤ i ∧ i + s.length ≤ cap) : zMet l yJ12_putStringAt (ws_ yJ12_putStringAt cJ12_putStringAt 3 none) ({ frames := 2, cells := 0, slots := 0, locals := 43 }) Γ h [.ref b, .int (iI i), .ref a] (zrt (fun w h' => w = none ∧ ∃ q, h' = zup h v (true, .inl (.byte, cap, q)) ∧ (∀ j, j < i.toNat → q j = f j) ∧ (∀ (j : Nat) (c : Int), s[j]? = some c → q (i.toNat + j) = .int (iI c)) ∧ ∀ j, i.toNat + s.length ≤ j → q j = f j)) 0 0 := by
  refine zMet.of (cc := cJ12_putStringAt) hl (plainFor_of_name (by decide +kernel)) (Nat.le_of_ble_eq_true rfl) ?_
  intro X hXl hXΓ hXp C hnm hnL
  have C : zC X cJ12_putStringAt RJ12 none 2 43 [] := C
  have hnL : X.2.1.2.2.2.2 = 3 := hnL
  subst hXl hXΓ
  show Z X h 0 0 [(0, .ref b), (1, .int (iI i)), (2, .ref a)] 0 []
  refine z_aload_n (pc := 0) (j := 0) C dJ12_putStringAt_0 rfl rfl ?_
  refine z_aload_n (pc := 1) (j := 2) C dJ12_putStringAt_1 rfl rfl ?_
  refine z_callU (pc := 2) (n := 1) (kc' := 0) (ks' := 0) C (ct_B_inflNo (cap := 0) (f := fun _ => .null) C.t hb ha) q735 q732 q2487 (Or.inr ⟨rfl, by decide⟩) q734 q81 (by decide +kernel) ⟨by decide, by decide⟩ hb rfl rfl rfl (Nat.le_of_ble_eq_true rfl) dJ12_putStringAt_2 (by omega) (by omega) (zpk (st' := []) rfl ?_) zrx
  refine z_aload_n (pc := 5) (j := 2) C dJ12_putStringAt_5 rfl rfl ?_
  refine z_aload_n (pc := 6) (j := 0) C dJ12_putStringAt_6 rfl rfl ?_
  refine z_getfield (pc := 7) (v := .ref v) C in_J13 rfl 0 (by decide) q348 (fun _ z => z) hb rfl dJ12_putStringAt_7 ?_
  refine z_iload_n (pc := 10) (j := 1) C dJ12_putStringAt_10 rfl rfl ?_
  refine z_aload_n (pc := 11) (j := 0) C dJ12_putStringAt_11 rfl rfl ?_
  refine z_getfield (pc := 12) (v := .int (iI 0)) C in_J13 rfl 1 (by decide) q349 (fun _ z => z) hb rfl dJ12_putStringAt_12 ?_
  refine z_callV (pc := 15) (n := 3) (kc' := 0) (ks' := 0) C (ct_S_getBytes C.t ha hva hs1 hs2 hs3 hv (i := i) (by omega) (by omega)) (lw_V q756 q757 q758 q83 q759) (by decide +kernel) ⟨by decide, by decide⟩ ha rfl rfl rfl (Nat.le_of_ble_eq_true rfl) dJ12_putStringAt_15 (by omega) (by omega) (zrk fun w h1 hp => ?_) zrx
  obtain ⟨rfl, q2, eh1, q21, q22, q23⟩ := hp
  have kh1 : zkeep h h1 [v] := by rw [eh1]; exact zkeep.up zkeep.rf (Or.inl (by simp)) hv
  have fh1_0 : h1 v = some (true, .inl (.byte, cap, q2)) := zse eh1
  show Z X h1 0 0 [(0, .ref b), (1, .int (iI i)), (2, .ref a)] 18 []
  exact z_return (pc := 18) C (by rw [hXp]; exact ⟨_, rfl, rfl, _, eh1, q21, q22, q23⟩) dJ12_putStringAt_18
set_option maxHeartbeats 4000000 in
theorem ct_S_length1 {l : Launch} (hl : l.stackTraces = false) {Γ : zCx} {h : zH} {a va : Nat} {fl f2 : Bool} {x y : Value} {s : List Int} {g : Nat → Value} (ha : h a = some (fl, .inr (13, [.ref va, .int (iI 0), x, y]))) (hva : h va = some (f2, .inl (.byte, s.length, g))) (hs1 : ∀ (j : Nat) (c : Int), s[j]? = some c → g j = .int (iI c)) (hs2 : ∀ c ∈ s, 0 ≤ c ∧ c < 128) (hs3 : s.length ≤ 20000)  : zMet l yJ14_length (ws_ yJ14_length cJ14_length 1 (some .int)) ({ frames := 1, cells := 0, slots := 0, locals := 20 }) Γ h [.ref a] (zpure h (some (.int (iI (s.length : Nat))))) 0 0 := by
  refine zMet.of (cc := cJ14_length) hl (plainFor_of_name (by decide +kernel)) (Nat.le_of_ble_eq_true rfl) ?_
  intro X hXl hXΓ hXp C hnm hnL
  have C : zC X cJ14_length RJ14 (some .int) 1 20 [] := C
  have hnL : X.2.1.2.2.2.2 = 1 := hnL
  subst hXl hXΓ
  show Z X h 0 0 [(0, .ref a)] 0 []
  refine z_aload_n (pc := 0) (j := 0) C dJ14_length_0 rfl rfl ?_
  refine z_getfield (pc := 1) (v := .ref va) C in_J14 rfl 0 (by decide) q787 (fun _ z => z) ha rfl dJ14_length_1 ?_
  refine z_alen (pc := 4) C hva dJ14_length_4 ?_
  refine z_aload_n (pc := 5) (j := 0) C dJ14_length_5 rfl rfl ?_
  refine z_callV (pc := 6) (n := 0) (kc' := 0) (ks' := 0) C (ct_S_coder C.t ha) (lw_V q471 q472 q473 q83 q474) (by decide +kernel) ⟨by decide, by decide⟩ ha rfl rfl rfl (Nat.le_of_ble_eq_true rfl) dJ14_length_6 (by omega) (by omega) (zpk (st' := [.int (iI 0), .int (iI ((s.length : Nat) : Int))]) rfl ?_) zrx
  refine z_ishr0 (pc := 9) C dJ14_length_9 ?_
  exact z_ireturn (pc := 10) C (by rw [hXp]; exact zpure_i (by omega) rfl) dJ14_length_10
set_option maxHeartbeats 4000000 in
theorem ct_B_appS0 {l : Launch} (hl : l.stackTraces = false) {Γ : zCx} {h : zH} {b v : Nat} {t : List Int} {cap : Nat} (hb : bAt h b v t cap) {a va : Nat} {fl f2 : Bool} {x y : Value} {s : List Int} {g : Nat → Value} (ha : h a = some (fl, .inr (13, [.ref va, .int (iI 0), x, y]))) (hva : h va = some (f2, .inl (.byte, s.length, g))) (hs1 : ∀ (j : Nat) (c : Int), s[j]? = some c → g j = .int (iI c)) (hs2 : ∀ c ∈ s, 0 ≤ c ∧ c < 128) (hs3 : s.length ≤ 20000) (hne : va ≠ v) (ht : t.length + s.length ≤ 40000) : zMet l yJ12_append_2 (ws_ yJ12_append_2 cJ12_append_2 3 (some (.object "java/lang/AbstractStringBuilder"))) ({ frames := 4, cells := gC cap (t.length + s.length), slots := gS cap (t.length + s.length), locals := 91 }) Γ h [.ref b, .ref a] (zrt (fun w h' => w = some (.ref b) ∧ ∃ v', bAt h' b v' (t ++ s) (gcap cap (t.length + s.length)) ∧ (v' = v ∨ h v' = none) ∧ zkeep h h' [b, v])) (gC cap (t.length + s.length)) (gS cap (t.length + s.length)) := by
  refine zMet.of (cc := cJ12_append_2) hl (plainFor_of_name (by decide +kernel)) (Nat.le_of_ble_eq_true rfl) ?_
  intro X hXl hXΓ hXp C hnm hnL
  have C : zC X cJ12_append_2 RJ12 (some (.object "java/lang/AbstractStringBuilder")) 4 91 [] := C
  have hnL : X.2.1.2.2.2.2 = 3 := hnL
  subst hXl hXΓ
  show Z X h (gC cap (t.length + s.length)) (gS cap (t.length + s.length)) [(0, .ref b), (1, .ref a)] 0 []
  have hb0 := hb
  obtain ⟨z, fb, hb1, hv1, hlen, hcap, hcon, hfit, hasc⟩ := hb
  have eTL : (((t.length : Nat) : Int) + ((s.length : Nat) : Int)).toNat = t.length + s.length := by omega
  refine z_aload_n (pc := 0) (j := 1) C dJ12_append_2_0 rfl rfl ?_
  refine z_ifnonnull (pc := 1) (tgt := 9) C dJ12_append_2_1 (by decide) ?_
  refine z_aload_n (pc := 9) (j := 1) C dJ12_append_2_9 rfl rfl ?_
  refine z_callV (pc := 10) (n := 0) (kc' := (gC cap (t.length + s.length))) (ks' := (gS cap (t.length + s.length))) C (ct_S_length1 C.t ha hva hs1 hs2 hs3) (lw_V q727 q468 q469 q83 q470) (by decide +kernel) ⟨by decide, by decide⟩ ha rfl rfl rfl (Nat.le_of_ble_eq_true rfl) dJ12_append_2_10 (by omega) (by omega) (zpk (st' := [.int (iI ((s.length : Nat) : Int))]) rfl ?_) zrx
  refine z_istore_n (pc := 13) (L' := [(2, .int (iI ((s.length : Nat) : Int))), (0, .ref b), (1, .ref a)]) C dJ12_append_2_13 rfl (by rw [hnL]; decide) rfl ?_
  refine z_aload_n (pc := 14) (j := 1) C dJ12_append_2_14 rfl rfl ?_
  refine z_aload_n (pc := 15) (j := 1) C dJ12_append_2_15 rfl rfl ?_
  refine z_getfield (pc := 16) (v := .int (iI ((t.length : Nat) : Int))) C in_J13 rfl 3 (by decide) q352 (fun _ z => z) hb1 rfl dJ12_append_2_16 ?_
  refine z_iload_n (pc := 19) (j := 0) C dJ12_append_2_19 rfl rfl ?_
  refine z_iadd (pc := 20) C dJ12_append_2_20 ?_
  refine z_callU (pc := 21) (n := 1) (kc' := (gC cap (t.length + s.length) - gC cap (((t.length : Nat) : Int) + ((s.length : Nat) : Int)).toNat)) (ks' := (gS cap (t.length + s.length) - gS cap (((t.length : Nat) : Int) + ((s.length : Nat) : Int)).toNat)) C (ct_B_ensure C.t hb0 (m := ((t.length : Nat) : Int) + ((s.length : Nat) : Int)) (by omega)) q676 q673 q2482 (Or.inr ⟨rfl, by decide⟩) q675 q81 (by decide +kernel) ⟨by decide, by decide⟩ hb1 rfl rfl rfl (Nat.le_of_ble_eq_true rfl) dJ12_append_2_21 (by rw [eTL]; omega) (by rw [eTL]; omega) (zrk fun w h1 hp => ?_) zrx
  obtain ⟨rfl, v2, hb3, hv4, k5⟩ := hp
  have dv2 : v2 ∈ ([b, v] : List Nat) ∨ h v2 = none := zmay (Or.inl (by simp)) hv4 zkeep.rf
  have kh1 : zkeep h h1 [b, v] := zkeep.loc zkeep.rf k5 (zall_cons (Or.inl (Or.symm (Or.inl (by simp)))) zall_nil)
  have fh1_1 : h1 v = some (true, .inl (.byte, cap, fb)) := k5.n hv1 (List.not_mem_cons_of_ne_of_not_mem (Ne.symm (zneA hb1 hv1)) List.not_mem_nil)
  have hx_6 := hb3
  obtain ⟨z_6, f_6, hb_6, hv_6, hlen_6, hcap_6, hcon_6, hfit_6, hasc_6⟩ := hx_6
  show Z X h1 (gC cap (t.length + s.length) - gC cap (((t.length : Nat) : Int) + ((s.length : Nat) : Int)).toNat) (gS cap (t.length + s.length) - gS cap (((t.length : Nat) : Int) + ((s.length : Nat) : Int)).toNat) [(2, .int (iI ((s.length : Nat) : Int))), (0, .ref b), (1, .ref a)] 24 []
  have ne_v2 : va ≠ v2 := by
    rcases hv4 with e | e
    · rw [e]; exact hne
    · exact zneF hva e
  refine z_aload_n (pc := 24) (j := 1) C dJ12_append_2_24 rfl rfl ?_
  refine z_aload_n (pc := 25) (j := 1) C dJ12_append_2_25 rfl rfl ?_
  refine z_getfield (pc := 26) (v := .int (iI ((t.length : Nat) : Int))) C in_J13 rfl 3 (by decide) q352 (fun _ z => z) hb_6 rfl dJ12_append_2_26 ?_
  refine z_aload_n (pc := 29) (j := 2) C dJ12_append_2_29 rfl rfl ?_
  refine z_callU (pc := 30) (n := 2) (kc' := (gC cap (t.length + s.length) - gC cap (((t.length : Nat) : Int) + ((s.length : Nat) : Int)).toNat)) (ks' := (gS cap (t.length + s.length) - gS cap (((t.length : Nat) : Int) + ((s.length : Nat) : Int)).toNat)) C (ct_B_putStr C.t hb_6 hv_6 (by rw [eTL]; exact gcap_le hcap (by omega)) (kh1.n ha (List.not_mem_cons_of_ne_of_not_mem (zneC ha hb1 (by decide)) (List.not_mem_cons_of_ne_of_not_mem (zneA ha hv1) List.not_mem_nil))) (kh1.n hva (List.not_mem_cons_of_ne_of_not_mem (Ne.symm (zneA hb1 hva)) (List.not_mem_cons_of_ne_of_not_mem hne List.not_mem_nil))) hs1 hs2 hs3 (i := ((t.length : Nat) : Int)) (by rw [eTL]; have := gcap_ge cap (t.length + s.length); omega)) q731 q728 q2486 (Or.inr ⟨rfl, by decide⟩) q730 q81 (by decide +kernel) ⟨by decide, by decide⟩ hb_6 rfl rfl rfl (Nat.le_of_ble_eq_true rfl) dJ12_append_2_30 (by omega) (by omega) (zrk fun w h7 hp => ?_) zrx
  obtain ⟨rfl, q8, eh7, q81, q82, q83⟩ := hp
  have kh7 : zkeep h h7 [b, v] := by rw [eh7]; exact zkeep.up kh1 dv2 hv_6
  have fh7_0 : h7 v2 = some (true, .inl (.byte, gcap cap (((t.length : Nat) : Int) + ((s.length : Nat) : Int)).toNat, q8)) := zse eh7
  have fh7_1 : h7 b = some (true, .inr (12, [.ref v2, .int (iI 0), .int z_6, .int (iI ((t.length : Nat) : Int))])) := zsn eh7 hb_6 (zneA hb_6 hv_6)
  show Z X h7 (gC cap (t.length + s.length) - gC cap (((t.length : Nat) : Int) + ((s.length : Nat) : Int)).toNat) (gS cap (t.length + s.length) - gS cap (((t.length : Nat) : Int) + ((s.length : Nat) : Int)).toNat) [(2, .int (iI ((s.length : Nat) : Int))), (0, .ref b), (1, .ref a)] 33 []
  refine z_aload_n (pc := 33) (j := 1) C dJ12_append_2_33 rfl rfl ?_
  refine z_dup (pc := 34) C dJ12_append_2_34 rfl ?_
  refine z_getfield (pc := 35) (v := .int (iI ((t.length : Nat) : Int))) C in_J13 rfl 3 (by decide) q352 (fun _ z => z) fh7_1 rfl dJ12_append_2_35 ?_
  refine z_iload_n (pc := 38) (j := 0) C dJ12_append_2_38 rfl rfl ?_
  refine z_iadd (pc := 39) C dJ12_append_2_39 ?_
  refine z_putfield (pc := 40) (fs' := [.ref v2, .int (iI 0), .int z_6, .int (iI (((t.length : Nat) : Int) + ((s.length : Nat) : Int)))]) C in_J13 tyJ13 tyJ13_ok nmJ13 rfl 3 (by decide) q352 (fun _ z => z) rfl rfl rfl (Nat.le_of_ble_eq_true rfl) fh7_1 rfl dJ12_append_2_40 ?_
  refine Z.nm (fun h9 eh9 => ?_)
  have kh9 : zkeep h h9 [b, v] := by rw [eh9]; exact zkeep.up kh7 (Or.inl (by simp)) fh7_1
  have fh9_0 : h9 b = some (true, .inr (12, [.ref v2, .int (iI 0), .int z_6, .int (iI (((t.length : Nat) : Int) + ((s.length : Nat) : Int)))])) := zse eh9
  have fh9_1 : h9 v2 = some (true, .inl (.byte, gcap cap (((t.length : Nat) : Int) + ((s.length : Nat) : Int)).toNat, q8)) := zsn eh9 fh7_0 (Ne.symm (zneA fh7_1 fh7_0))
  refine z_aload_n (pc := 43) (j := 1) C dJ12_append_2_43 rfl rfl ?_
  exact z_areturn (pc := 44) C (Or.inl ⟨_, rfl⟩) (Or.inr ⟨_, rfl⟩) (by rw [hXp]; exact ⟨_, rfl, rfl, v2, bAt.mk (by simp) (by rw [eTL]) fh9_0 fh9_1 (by simp; exact gcap_ge cap (t.length + s.length)) (gcap_le hcap (by omega)) (gs_con q81 q82 hcon_6) (by rw [← eTL]; exact gs_fit q81 q82 q83 hfit_6 hs2) (gs_asc hasc_6 hs2), hv4, kh9⟩) dJ12_append_2_44
set_option maxHeartbeats 4000000 in
theorem ct_B_appS {l : Launch} (hl : l.stackTraces = false) {Γ : zCx} {h : zH} {b v : Nat} {t : List Int} {cap : Nat} (hb : bAt h b v t cap) {a va : Nat} {fl f2 : Bool} {x y : Value} {s : List Int} {g : Nat → Value} (ha : h a = some (fl, .inr (13, [.ref va, .int (iI 0), x, y]))) (hva : h va = some (f2, .inl (.byte, s.length, g))) (hs1 : ∀ (j : Nat) (c : Int), s[j]? = some c → g j = .int (iI c)) (hs2 : ∀ c ∈ s, 0 ≤ c ∧ c < 128) (hs3 : s.length ≤ 20000) (hne : va ≠ v) (ht : t.length + s.length ≤ 40000) : zMet l yJ13_append_2 (ws_ yJ13_append_2 cJ13_append_2 2 (some (.object "java/lang/StringBuilder"))) ({ frames := 5, cells := gC cap (t.length + s.length), slots := gS cap (t.length + s.length), locals := 113 }) Γ h [.ref b, .ref a] (zrt (fun w h' => w = some (.ref b) ∧ ∃ v', bAt h' b v' (t ++ s) (gcap cap (t.length + s.length)) ∧ (v' = v ∨ h v' = none) ∧ zkeep h h' [b, v])) (gC cap (t.length + s.length)) (gS cap (t.length + s.length)) := by
  refine zMet.of (cc := cJ13_append_2) hl (plainFor_of_name (by decide +kernel)) (Nat.le_of_ble_eq_true rfl) ?_
  intro X hXl hXΓ hXp C hnm hnL
  have C : zC X cJ13_append_2 RJ13 (some (.object "java/lang/StringBuilder")) 5 113 [] := C
  have hnL : X.2.1.2.2.2.2 = 2 := hnL
  subst hXl hXΓ
  show Z X h (gC cap (t.length + s.length)) (gS cap (t.length + s.length)) [(0, .ref b), (1, .ref a)] 0 []
  have hb0 := hb
  obtain ⟨z, fb, hb1, hv1, hlen, hcap, hcon, hfit, hasc⟩ := hb
  refine z_aload_n (pc := 0) (j := 0) C dJ13_append_2_0 rfl rfl ?_
  refine z_aload_n (pc := 1) (j := 1) C dJ13_append_2_1 rfl rfl ?_
  refine z_callSU (pc := 2) (n := 1) (kc' := (gC cap (t.length + s.length) - gC cap (t.length + s.length))) (ks' := (gS cap (t.length + s.length) - gS cap (t.length + s.length))) C (ct_B_appS0 C.t hb0 ha hva hs1 hs2 hs3 hne (by omega)) q719 q717 q2484 q361 q718 q81 (by decide +kernel) ⟨by decide, by decide⟩ hb1 rfl rfl rfl (Nat.le_of_ble_eq_true rfl) dJ13_append_2_2 (by omega) (by omega) (zrk fun w h1 hp => ?_) zrx
  obtain ⟨rfl, v2, hb3, hv4, k5⟩ := hp
  have dv2 : v2 ∈ ([b, v] : List Nat) ∨ h v2 = none := zmay (Or.inl (by simp)) hv4 zkeep.rf
  have kh1 : zkeep h h1 [b, v] := zkeep.loc zkeep.rf k5 (zall_cons (Or.inl (Or.symm (Or.inl (by simp)))) (zall_cons (Or.inl (Or.symm (Or.inl (by simp)))) zall_nil))
  have hx_6 := hb3
  obtain ⟨z_6, f_6, hb_6, hv_6, hlen_6, hcap_6, hcon_6, hfit_6, hasc_6⟩ := hx_6
  show Z X h1 (gC cap (t.length + s.length) - gC cap (t.length + s.length)) (gS cap (t.length + s.length) - gS cap (t.length + s.length)) [(0, .ref b), (1, .ref a)] 5 [.ref b]
  have ne_x : va ≠ v2 := by
    rcases hv4 with e | e
    · rw [e]; exact hne
    · exact zneF hva e
  refine z_pop (pc := 5) C dJ13_append_2_5 rfl ?_
  refine z_aload_n (pc := 6) (j := 0) C dJ13_append_2_6 rfl rfl ?_
  exact z_areturn (pc := 7) C (Or.inl ⟨_, rfl⟩) (Or.inr ⟨_, rfl⟩) (by rw [hXp]; exact ⟨_, rfl, rfl, v2, hb3, hv4, kh1⟩) dJ13_append_2_7

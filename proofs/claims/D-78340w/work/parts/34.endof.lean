/-! 34.endof.lean.txt -/
set_option maxRecDepth 100000
abbrev cX10_addColumn : ByteArray := prog_5_method_6_code
def yX10_addColumn : MethodName := ⟨RX10, "addColumn", "(I)V"⟩
def dkwX10_addColumn_0 : List UInt8 := [42, 27, 182, 0, 95, 42, 180, 0, 20, 42, 180, 0, 47, 27, 182, 0, 60, 182, 0, 55, 87, 177]
abbrev dktX10_addColumn_0 : List UInt8 := dkwX10_addColumn_0 ++ []
theorem dksX10_addColumn_0 : cX10_addColumn.data.toList.drop 0 = dktX10_addColumn_0 := by decide +kernel
abbrev cX10_fits : ByteArray := prog_5_method_7_code
def yX10_fits : MethodName := ⟨RX10, "fits", "()Z"⟩
def dkwX10_fits_1 : List UInt8 := [42, 180, 0, 1, 180, 0, 99, 163, 0, 7, 4, 167, 0, 4, 3, 172]
abbrev dktX10_fits_1 : List UInt8 := dkwX10_fits_1 ++ []
def dkwX10_fits_0 : List UInt8 := [42, 180, 0, 16, 182, 0, 51, 42, 180, 0, 1, 180, 0, 99, 163, 0, 24, 42, 180, 0, 20, 182, 0, 51]
abbrev dktX10_fits_0 : List UInt8 := dkwX10_fits_0 ++ dktX10_fits_1
theorem dksX10_fits_0 : cX10_fits.data.toList.drop 0 = dktX10_fits_0 := by decide +kernel
theorem dksX10_fits_1 : cX10_fits.data.toList.drop 24 = dktX10_fits_1 := dk_seg dksX10_fits_0 24 rfl rfl
abbrev cX10_init : ByteArray := prog_5_method_1_code
def yX10_init : MethodName := ⟨RX10, "<init>", "(LChordSheet;I)V"⟩
def dkwX10_init_2 : List UInt8 := [192, 0, 45, 181, 0, 47, 177]
abbrev dktX10_init_2 : List UInt8 := dkwX10_init_2 ++ []
def dkwX10_init_1 : List UInt8 := [89, 183, 0, 15, 181, 0, 20, 42, 28, 181, 0, 23, 42, 43, 180, 0, 27, 180, 0, 33, 28, 182, 0, 39]
abbrev dktX10_init_1 : List UInt8 := dkwX10_init_1 ++ dktX10_init_2
def dkwX10_init_0 : List UInt8 := [42, 43, 181, 0, 1, 42, 183, 0, 7, 42, 187, 0, 13, 89, 183, 0, 15, 181, 0, 16, 42, 187, 0, 13]
abbrev dktX10_init_0 : List UInt8 := dkwX10_init_0 ++ dktX10_init_1
theorem dksX10_init_0 : cX10_init.data.toList.drop 0 = dktX10_init_0 := by decide +kernel
theorem dksX10_init_1 : cX10_init.data.toList.drop 24 = dktX10_init_1 := dk_seg dksX10_init_0 24 rfl rfl
theorem dksX10_init_2 : cX10_init.data.toList.drop 48 = dktX10_init_2 := dk_seg dksX10_init_1 24 rfl rfl
abbrev cX1_isBreak : ByteArray := prog_1_method_53_code
def yX1_isBreak : MethodName := ⟨RX1, "isBreak", "(Ljava/lang/String;I)Z"⟩
def dkwX1_isBreak_1 : List UInt8 := [4, 100, 182, 0, 86, 16, 32, 160, 0, 7, 4, 167, 0, 4, 3, 172]
abbrev dktX1_isBreak_1 : List UInt8 := dkwX1_isBreak_1 ++ []
def dkwX1_isBreak_0 : List UInt8 := [27, 153, 0, 33, 27, 42, 182, 0, 77, 159, 0, 25, 42, 27, 182, 0, 86, 16, 32, 159, 0, 19, 42, 27]
abbrev dktX1_isBreak_0 : List UInt8 := dkwX1_isBreak_0 ++ dktX1_isBreak_1
theorem dksX1_isBreak_0 : cX1_isBreak.data.toList.drop 0 = dktX1_isBreak_0 := by decide +kernel
theorem dksX1_isBreak_1 : cX1_isBreak.data.toList.drop 24 = dktX1_isBreak_1 := dk_seg dksX1_isBreak_0 24 rfl rfl
abbrev cX1_endOf : ByteArray := prog_1_method_54_code
def yX1_endOf : MethodName := ⟨RX1, "endOf", "(II)I"⟩
def dkwX1_endOf_4 : List UInt8 := [21, 6, 4, 96, 54, 5, 132, 6, 1, 167, 255, 184, 45, 182, 0, 77, 172]
abbrev dktX1_endOf_4 : List UInt8 := dkwX1_endOf_4 ++ []
def dkwX1_endOf_3 : List UInt8 := [96, 184, 1, 62, 153, 0, 25, 21, 5, 155, 0, 14, 25, 4, 182, 1, 66, 154, 0, 6, 21, 5, 172]
abbrev dktX1_endOf_3 : List UInt8 := dkwX1_endOf_3 ++ dktX1_endOf_4
def dkwX1_endOf_2 : List UInt8 := [21, 6, 4, 96, 45, 182, 0, 77, 160, 0, 12, 25, 4, 21, 6, 4, 96, 182, 1, 59, 45, 21, 6, 4]
abbrev dktX1_endOf_2 : List UInt8 := dkwX1_endOf_2 ++ dktX1_endOf_3
def dkwX1_endOf_1 : List UInt8 := [58, 4, 2, 54, 5, 28, 54, 6, 21, 6, 45, 182, 0, 77, 162, 0, 69, 25, 4, 21, 6, 182, 1, 56]
abbrev dktX1_endOf_1 : List UInt8 := dkwX1_endOf_1 ++ dktX1_endOf_2
def dkwX1_endOf_0 : List UInt8 := [42, 180, 0, 31, 180, 0, 44, 27, 182, 0, 180, 192, 0, 78, 78, 187, 1, 51, 89, 42, 27, 183, 1, 53]
abbrev dktX1_endOf_0 : List UInt8 := dkwX1_endOf_0 ++ dktX1_endOf_1
theorem dksX1_endOf_0 : cX1_endOf.data.toList.drop 0 = dktX1_endOf_0 := by decide +kernel
theorem dksX1_endOf_1 : cX1_endOf.data.toList.drop 24 = dktX1_endOf_1 := dk_seg dksX1_endOf_0 24 rfl rfl
theorem dksX1_endOf_2 : cX1_endOf.data.toList.drop 48 = dktX1_endOf_2 := dk_seg dksX1_endOf_1 24 rfl rfl
theorem dksX1_endOf_3 : cX1_endOf.data.toList.drop 72 = dktX1_endOf_3 := dk_seg dksX1_endOf_2 24 rfl rfl
theorem dksX1_endOf_4 : cX1_endOf.data.toList.drop 95 = dktX1_endOf_4 := dk_seg dksX1_endOf_3 23 rfl rfl
theorem dX10_addColumn_0 : decode cX10_addColumn 0 = .ok (.aload_n 0, 1) := dk_42 (dk_at dksX10_addColumn_0 0 rfl rfl)
theorem dX10_addColumn_1 : decode cX10_addColumn 1 = .ok (.iload_n 1, 1) := dk_27 (dk_at dksX10_addColumn_0 1 rfl rfl)
theorem dX10_addColumn_2 : decode cX10_addColumn 2 = .ok (.invokevirtual 95, 3) := dk_182 0 95 (dk_at dksX10_addColumn_0 2 rfl rfl)
theorem dX10_addColumn_5 : decode cX10_addColumn 5 = .ok (.aload_n 0, 1) := dk_42 (dk_at dksX10_addColumn_0 5 rfl rfl)
theorem dX10_addColumn_6 : decode cX10_addColumn 6 = .ok (.getfield 20, 3) := dk_180 0 20 (dk_at dksX10_addColumn_0 6 rfl rfl)
theorem dX10_addColumn_9 : decode cX10_addColumn 9 = .ok (.aload_n 0, 1) := dk_42 (dk_at dksX10_addColumn_0 9 rfl rfl)
theorem dX10_addColumn_10 : decode cX10_addColumn 10 = .ok (.getfield 47, 3) := dk_180 0 47 (dk_at dksX10_addColumn_0 10 rfl rfl)
theorem dX10_addColumn_13 : decode cX10_addColumn 13 = .ok (.iload_n 1, 1) := dk_27 (dk_at dksX10_addColumn_0 13 rfl rfl)
theorem dX10_addColumn_14 : decode cX10_addColumn 14 = .ok (.invokevirtual 60, 3) := dk_182 0 60 (dk_at dksX10_addColumn_0 14 rfl rfl)
theorem dX10_addColumn_17 : decode cX10_addColumn 17 = .ok (.invokevirtual 55, 3) := dk_182 0 55 (dk_at dksX10_addColumn_0 17 rfl rfl)
theorem dX10_addColumn_20 : decode cX10_addColumn 20 = .ok (.pop, 1) := dk_87 (dk_at dksX10_addColumn_0 20 rfl rfl)
theorem dX10_addColumn_21 : decode cX10_addColumn 21 = .ok (.return_, 1) := dk_177 (dk_at dksX10_addColumn_0 21 rfl rfl)
theorem dX10_fits_0 : decode cX10_fits 0 = .ok (.aload_n 0, 1) := dk_42 (dk_at dksX10_fits_0 0 rfl rfl)
theorem dX10_fits_1 : decode cX10_fits 1 = .ok (.getfield 16, 3) := dk_180 0 16 (dk_at dksX10_fits_0 1 rfl rfl)
theorem dX10_fits_4 : decode cX10_fits 4 = .ok (.invokevirtual 51, 3) := dk_182 0 51 (dk_at dksX10_fits_0 4 rfl rfl)
theorem dX10_fits_7 : decode cX10_fits 7 = .ok (.aload_n 0, 1) := dk_42 (dk_at dksX10_fits_0 7 rfl rfl)
theorem dX10_fits_8 : decode cX10_fits 8 = .ok (.getfield 1, 3) := dk_180 0 1 (dk_at dksX10_fits_0 8 rfl rfl)
theorem dX10_fits_11 : decode cX10_fits 11 = .ok (.getfield 99, 3) := dk_180 0 99 (dk_at dksX10_fits_0 11 rfl rfl)
theorem dX10_fits_14 : decode cX10_fits 14 = .ok (.if_icmp .gt 24, 3) := dk_163 0 24 (dk_at dksX10_fits_0 14 rfl rfl)
theorem dX10_fits_17 : decode cX10_fits 17 = .ok (.aload_n 0, 1) := dk_42 (dk_at dksX10_fits_0 17 rfl rfl)
theorem dX10_fits_18 : decode cX10_fits 18 = .ok (.getfield 20, 3) := dk_180 0 20 (dk_at dksX10_fits_0 18 rfl rfl)
theorem dX10_fits_21 : decode cX10_fits 21 = .ok (.invokevirtual 51, 3) := dk_182 0 51 (dk_at dksX10_fits_0 21 rfl rfl)
theorem dX10_fits_24 : decode cX10_fits 24 = .ok (.aload_n 0, 1) := dk_42 (dk_at dksX10_fits_1 0 rfl rfl)
theorem dX10_fits_25 : decode cX10_fits 25 = .ok (.getfield 1, 3) := dk_180 0 1 (dk_at dksX10_fits_1 1 rfl rfl)
theorem dX10_fits_28 : decode cX10_fits 28 = .ok (.getfield 99, 3) := dk_180 0 99 (dk_at dksX10_fits_1 4 rfl rfl)
theorem dX10_fits_31 : decode cX10_fits 31 = .ok (.if_icmp .gt 7, 3) := dk_163 0 7 (dk_at dksX10_fits_1 7 rfl rfl)
theorem dX10_fits_34 : decode cX10_fits 34 = .ok (.iconst 1, 1) := dk_4 (dk_at dksX10_fits_1 10 rfl rfl)
theorem dX10_fits_35 : decode cX10_fits 35 = .ok (.goto 4, 3) := dk_167 0 4 (dk_at dksX10_fits_1 11 rfl rfl)
theorem dX10_fits_38 : decode cX10_fits 38 = .ok (.iconst 0, 1) := dk_3 (dk_at dksX10_fits_1 14 rfl rfl)
theorem dX10_fits_39 : decode cX10_fits 39 = .ok (.ireturn, 1) := dk_172 (dk_at dksX10_fits_1 15 rfl rfl)
theorem dX10_init_0 : decode cX10_init 0 = .ok (.aload_n 0, 1) := dk_42 (dk_at dksX10_init_0 0 rfl rfl)
theorem dX10_init_1 : decode cX10_init 1 = .ok (.aload_n 1, 1) := dk_43 (dk_at dksX10_init_0 1 rfl rfl)
theorem dX10_init_2 : decode cX10_init 2 = .ok (.putfield 1, 3) := dk_181 0 1 (dk_at dksX10_init_0 2 rfl rfl)
theorem dX10_init_5 : decode cX10_init 5 = .ok (.aload_n 0, 1) := dk_42 (dk_at dksX10_init_0 5 rfl rfl)
theorem dX10_init_6 : decode cX10_init 6 = .ok (.invokespecial 7, 3) := dk_183 0 7 (dk_at dksX10_init_0 6 rfl rfl)
theorem dX10_init_9 : decode cX10_init 9 = .ok (.aload_n 0, 1) := dk_42 (dk_at dksX10_init_0 9 rfl rfl)
theorem dX10_init_10 : decode cX10_init 10 = .ok (.new 13, 3) := dk_187 0 13 (dk_at dksX10_init_0 10 rfl rfl)
theorem dX10_init_13 : decode cX10_init 13 = .ok (.dup, 1) := dk_89 (dk_at dksX10_init_0 13 rfl rfl)
theorem dX10_init_14 : decode cX10_init 14 = .ok (.invokespecial 15, 3) := dk_183 0 15 (dk_at dksX10_init_0 14 rfl rfl)
theorem dX10_init_17 : decode cX10_init 17 = .ok (.putfield 16, 3) := dk_181 0 16 (dk_at dksX10_init_0 17 rfl rfl)
theorem dX10_init_20 : decode cX10_init 20 = .ok (.aload_n 0, 1) := dk_42 (dk_at dksX10_init_0 20 rfl rfl)
theorem dX10_init_21 : decode cX10_init 21 = .ok (.new 13, 3) := dk_187 0 13 (dk_at dksX10_init_0 21 rfl rfl)
theorem dX10_init_24 : decode cX10_init 24 = .ok (.dup, 1) := dk_89 (dk_at dksX10_init_1 0 rfl rfl)
theorem dX10_init_25 : decode cX10_init 25 = .ok (.invokespecial 15, 3) := dk_183 0 15 (dk_at dksX10_init_1 1 rfl rfl)
theorem dX10_init_28 : decode cX10_init 28 = .ok (.putfield 20, 3) := dk_181 0 20 (dk_at dksX10_init_1 4 rfl rfl)
theorem dX10_init_31 : decode cX10_init 31 = .ok (.aload_n 0, 1) := dk_42 (dk_at dksX10_init_1 7 rfl rfl)
theorem dX10_init_32 : decode cX10_init 32 = .ok (.iload_n 2, 1) := dk_28 (dk_at dksX10_init_1 8 rfl rfl)
theorem dX10_init_33 : decode cX10_init 33 = .ok (.putfield 23, 3) := dk_181 0 23 (dk_at dksX10_init_1 9 rfl rfl)
theorem dX10_init_36 : decode cX10_init 36 = .ok (.aload_n 0, 1) := dk_42 (dk_at dksX10_init_1 12 rfl rfl)
theorem dX10_init_37 : decode cX10_init 37 = .ok (.aload_n 1, 1) := dk_43 (dk_at dksX10_init_1 13 rfl rfl)
theorem dX10_init_38 : decode cX10_init 38 = .ok (.getfield 27, 3) := dk_180 0 27 (dk_at dksX10_init_1 14 rfl rfl)
theorem dX10_init_41 : decode cX10_init 41 = .ok (.getfield 33, 3) := dk_180 0 33 (dk_at dksX10_init_1 17 rfl rfl)
theorem dX10_init_44 : decode cX10_init 44 = .ok (.iload_n 2, 1) := dk_28 (dk_at dksX10_init_1 20 rfl rfl)
theorem dX10_init_45 : decode cX10_init 45 = .ok (.invokevirtual 39, 3) := dk_182 0 39 (dk_at dksX10_init_1 21 rfl rfl)
theorem dX10_init_48 : decode cX10_init 48 = .ok (.checkcast 45, 3) := dk_192 0 45 (dk_at dksX10_init_2 0 rfl rfl)
theorem dX10_init_51 : decode cX10_init 51 = .ok (.putfield 47, 3) := dk_181 0 47 (dk_at dksX10_init_2 3 rfl rfl)
theorem dX10_init_54 : decode cX10_init 54 = .ok (.return_, 1) := dk_177 (dk_at dksX10_init_2 6 rfl rfl)
theorem dX1_isBreak_0 : decode cX1_isBreak 0 = .ok (.iload_n 1, 1) := dk_27 (dk_at dksX1_isBreak_0 0 rfl rfl)
theorem dX1_isBreak_1 : decode cX1_isBreak 1 = .ok (.ifCond .eq 33, 3) := dk_153 0 33 (dk_at dksX1_isBreak_0 1 rfl rfl)
theorem dX1_isBreak_4 : decode cX1_isBreak 4 = .ok (.iload_n 1, 1) := dk_27 (dk_at dksX1_isBreak_0 4 rfl rfl)
theorem dX1_isBreak_5 : decode cX1_isBreak 5 = .ok (.aload_n 0, 1) := dk_42 (dk_at dksX1_isBreak_0 5 rfl rfl)
theorem dX1_isBreak_6 : decode cX1_isBreak 6 = .ok (.invokevirtual 77, 3) := dk_182 0 77 (dk_at dksX1_isBreak_0 6 rfl rfl)
theorem dX1_isBreak_9 : decode cX1_isBreak 9 = .ok (.if_icmp .eq 25, 3) := dk_159 0 25 (dk_at dksX1_isBreak_0 9 rfl rfl)
theorem dX1_isBreak_12 : decode cX1_isBreak 12 = .ok (.aload_n 0, 1) := dk_42 (dk_at dksX1_isBreak_0 12 rfl rfl)
theorem dX1_isBreak_13 : decode cX1_isBreak 13 = .ok (.iload_n 1, 1) := dk_27 (dk_at dksX1_isBreak_0 13 rfl rfl)
theorem dX1_isBreak_14 : decode cX1_isBreak 14 = .ok (.invokevirtual 86, 3) := dk_182 0 86 (dk_at dksX1_isBreak_0 14 rfl rfl)
theorem dX1_isBreak_17 : decode cX1_isBreak 17 = .ok (.bipush 32, 2) := dk_16 32 (dk_at dksX1_isBreak_0 17 rfl rfl)
theorem dX1_isBreak_19 : decode cX1_isBreak 19 = .ok (.if_icmp .eq 19, 3) := dk_159 0 19 (dk_at dksX1_isBreak_0 19 rfl rfl)
theorem dX1_isBreak_22 : decode cX1_isBreak 22 = .ok (.aload_n 0, 1) := dk_42 (dk_at dksX1_isBreak_0 22 rfl rfl)
theorem dX1_isBreak_23 : decode cX1_isBreak 23 = .ok (.iload_n 1, 1) := dk_27 (dk_at dksX1_isBreak_0 23 rfl rfl)
theorem dX1_isBreak_24 : decode cX1_isBreak 24 = .ok (.iconst 1, 1) := dk_4 (dk_at dksX1_isBreak_1 0 rfl rfl)
theorem dX1_isBreak_25 : decode cX1_isBreak 25 = .ok (.isub, 1) := dk_100 (dk_at dksX1_isBreak_1 1 rfl rfl)
theorem dX1_isBreak_26 : decode cX1_isBreak 26 = .ok (.invokevirtual 86, 3) := dk_182 0 86 (dk_at dksX1_isBreak_1 2 rfl rfl)
theorem dX1_isBreak_29 : decode cX1_isBreak 29 = .ok (.bipush 32, 2) := dk_16 32 (dk_at dksX1_isBreak_1 5 rfl rfl)
theorem dX1_isBreak_31 : decode cX1_isBreak 31 = .ok (.if_icmp .ne 7, 3) := dk_160 0 7 (dk_at dksX1_isBreak_1 7 rfl rfl)
theorem dX1_isBreak_34 : decode cX1_isBreak 34 = .ok (.iconst 1, 1) := dk_4 (dk_at dksX1_isBreak_1 10 rfl rfl)
theorem dX1_isBreak_35 : decode cX1_isBreak 35 = .ok (.goto 4, 3) := dk_167 0 4 (dk_at dksX1_isBreak_1 11 rfl rfl)
theorem dX1_isBreak_38 : decode cX1_isBreak 38 = .ok (.iconst 0, 1) := dk_3 (dk_at dksX1_isBreak_1 14 rfl rfl)
theorem dX1_isBreak_39 : decode cX1_isBreak 39 = .ok (.ireturn, 1) := dk_172 (dk_at dksX1_isBreak_1 15 rfl rfl)
theorem dX1_endOf_0 : decode cX1_endOf 0 = .ok (.aload_n 0, 1) := dk_42 (dk_at dksX1_endOf_0 0 rfl rfl)
theorem dX1_endOf_1 : decode cX1_endOf 1 = .ok (.getfield 31, 3) := dk_180 0 31 (dk_at dksX1_endOf_0 1 rfl rfl)
theorem dX1_endOf_4 : decode cX1_endOf 4 = .ok (.getfield 44, 3) := dk_180 0 44 (dk_at dksX1_endOf_0 4 rfl rfl)
theorem dX1_endOf_7 : decode cX1_endOf 7 = .ok (.iload_n 1, 1) := dk_27 (dk_at dksX1_endOf_0 7 rfl rfl)
theorem dX1_endOf_8 : decode cX1_endOf 8 = .ok (.invokevirtual 180, 3) := dk_182 0 180 (dk_at dksX1_endOf_0 8 rfl rfl)
theorem dX1_endOf_11 : decode cX1_endOf 11 = .ok (.checkcast 78, 3) := dk_192 0 78 (dk_at dksX1_endOf_0 11 rfl rfl)
theorem dX1_endOf_14 : decode cX1_endOf 14 = .ok (.astore_n 3, 1) := dk_78 (dk_at dksX1_endOf_0 14 rfl rfl)
theorem dX1_endOf_15 : decode cX1_endOf 15 = .ok (.new 307, 3) := dk_187 1 51 (dk_at dksX1_endOf_0 15 rfl rfl)
theorem dX1_endOf_18 : decode cX1_endOf 18 = .ok (.dup, 1) := dk_89 (dk_at dksX1_endOf_0 18 rfl rfl)
theorem dX1_endOf_19 : decode cX1_endOf 19 = .ok (.aload_n 0, 1) := dk_42 (dk_at dksX1_endOf_0 19 rfl rfl)
theorem dX1_endOf_20 : decode cX1_endOf 20 = .ok (.iload_n 1, 1) := dk_27 (dk_at dksX1_endOf_0 20 rfl rfl)
theorem dX1_endOf_21 : decode cX1_endOf 21 = .ok (.invokespecial 309, 3) := dk_183 1 53 (dk_at dksX1_endOf_0 21 rfl rfl)
theorem dX1_endOf_24 : decode cX1_endOf 24 = .ok (.astore 4, 2) := dk_58 4 (dk_at dksX1_endOf_1 0 rfl rfl)
theorem dX1_endOf_26 : decode cX1_endOf 26 = .ok (.iconst (-1), 1) := dk_2 (dk_at dksX1_endOf_1 2 rfl rfl)
theorem dX1_endOf_27 : decode cX1_endOf 27 = .ok (.istore 5, 2) := dk_54 5 (dk_at dksX1_endOf_1 3 rfl rfl)
theorem dX1_endOf_29 : decode cX1_endOf 29 = .ok (.iload_n 2, 1) := dk_28 (dk_at dksX1_endOf_1 5 rfl rfl)
theorem dX1_endOf_30 : decode cX1_endOf 30 = .ok (.istore 6, 2) := dk_54 6 (dk_at dksX1_endOf_1 6 rfl rfl)
theorem dX1_endOf_32 : decode cX1_endOf 32 = .ok (.iload 6, 2) := dk_21 6 (dk_at dksX1_endOf_1 8 rfl rfl)
theorem dX1_endOf_34 : decode cX1_endOf 34 = .ok (.aload_n 3, 1) := dk_45 (dk_at dksX1_endOf_1 10 rfl rfl)
theorem dX1_endOf_35 : decode cX1_endOf 35 = .ok (.invokevirtual 77, 3) := dk_182 0 77 (dk_at dksX1_endOf_1 11 rfl rfl)
theorem dX1_endOf_38 : decode cX1_endOf 38 = .ok (.if_icmp .ge 69, 3) := dk_162 0 69 (dk_at dksX1_endOf_1 14 rfl rfl)
theorem dX1_endOf_41 : decode cX1_endOf 41 = .ok (.aload 4, 2) := dk_25 4 (dk_at dksX1_endOf_1 17 rfl rfl)
theorem dX1_endOf_43 : decode cX1_endOf 43 = .ok (.iload 6, 2) := dk_21 6 (dk_at dksX1_endOf_1 19 rfl rfl)
theorem dX1_endOf_45 : decode cX1_endOf 45 = .ok (.invokevirtual 312, 3) := dk_182 1 56 (dk_at dksX1_endOf_1 21 rfl rfl)
theorem dX1_endOf_48 : decode cX1_endOf 48 = .ok (.iload 6, 2) := dk_21 6 (dk_at dksX1_endOf_2 0 rfl rfl)
theorem dX1_endOf_50 : decode cX1_endOf 50 = .ok (.iconst 1, 1) := dk_4 (dk_at dksX1_endOf_2 2 rfl rfl)
theorem dX1_endOf_51 : decode cX1_endOf 51 = .ok (.iadd, 1) := dk_96 (dk_at dksX1_endOf_2 3 rfl rfl)
theorem dX1_endOf_52 : decode cX1_endOf 52 = .ok (.aload_n 3, 1) := dk_45 (dk_at dksX1_endOf_2 4 rfl rfl)
theorem dX1_endOf_53 : decode cX1_endOf 53 = .ok (.invokevirtual 77, 3) := dk_182 0 77 (dk_at dksX1_endOf_2 5 rfl rfl)
theorem dX1_endOf_56 : decode cX1_endOf 56 = .ok (.if_icmp .ne 12, 3) := dk_160 0 12 (dk_at dksX1_endOf_2 8 rfl rfl)
theorem dX1_endOf_59 : decode cX1_endOf 59 = .ok (.aload 4, 2) := dk_25 4 (dk_at dksX1_endOf_2 11 rfl rfl)
theorem dX1_endOf_61 : decode cX1_endOf 61 = .ok (.iload 6, 2) := dk_21 6 (dk_at dksX1_endOf_2 13 rfl rfl)
theorem dX1_endOf_63 : decode cX1_endOf 63 = .ok (.iconst 1, 1) := dk_4 (dk_at dksX1_endOf_2 15 rfl rfl)
theorem dX1_endOf_64 : decode cX1_endOf 64 = .ok (.iadd, 1) := dk_96 (dk_at dksX1_endOf_2 16 rfl rfl)
theorem dX1_endOf_65 : decode cX1_endOf 65 = .ok (.invokevirtual 315, 3) := dk_182 1 59 (dk_at dksX1_endOf_2 17 rfl rfl)
theorem dX1_endOf_68 : decode cX1_endOf 68 = .ok (.aload_n 3, 1) := dk_45 (dk_at dksX1_endOf_2 20 rfl rfl)
theorem dX1_endOf_69 : decode cX1_endOf 69 = .ok (.iload 6, 2) := dk_21 6 (dk_at dksX1_endOf_2 21 rfl rfl)
theorem dX1_endOf_71 : decode cX1_endOf 71 = .ok (.iconst 1, 1) := dk_4 (dk_at dksX1_endOf_2 23 rfl rfl)
theorem dX1_endOf_72 : decode cX1_endOf 72 = .ok (.iadd, 1) := dk_96 (dk_at dksX1_endOf_3 0 rfl rfl)
theorem dX1_endOf_73 : decode cX1_endOf 73 = .ok (.invokestatic 318, 3) := dk_184 1 62 (dk_at dksX1_endOf_3 1 rfl rfl)
theorem dX1_endOf_76 : decode cX1_endOf 76 = .ok (.ifCond .eq 25, 3) := dk_153 0 25 (dk_at dksX1_endOf_3 4 rfl rfl)
theorem dX1_endOf_79 : decode cX1_endOf 79 = .ok (.iload 5, 2) := dk_21 5 (dk_at dksX1_endOf_3 7 rfl rfl)
theorem dX1_endOf_81 : decode cX1_endOf 81 = .ok (.ifCond .lt 14, 3) := dk_155 0 14 (dk_at dksX1_endOf_3 9 rfl rfl)
theorem dX1_endOf_84 : decode cX1_endOf 84 = .ok (.aload 4, 2) := dk_25 4 (dk_at dksX1_endOf_3 12 rfl rfl)
theorem dX1_endOf_86 : decode cX1_endOf 86 = .ok (.invokevirtual 322, 3) := dk_182 1 66 (dk_at dksX1_endOf_3 14 rfl rfl)
theorem dX1_endOf_89 : decode cX1_endOf 89 = .ok (.ifCond .ne 6, 3) := dk_154 0 6 (dk_at dksX1_endOf_3 17 rfl rfl)
theorem dX1_endOf_92 : decode cX1_endOf 92 = .ok (.iload 5, 2) := dk_21 5 (dk_at dksX1_endOf_3 20 rfl rfl)
theorem dX1_endOf_94 : decode cX1_endOf 94 = .ok (.ireturn, 1) := dk_172 (dk_at dksX1_endOf_3 22 rfl rfl)
theorem dX1_endOf_95 : decode cX1_endOf 95 = .ok (.iload 6, 2) := dk_21 6 (dk_at dksX1_endOf_4 0 rfl rfl)
theorem dX1_endOf_97 : decode cX1_endOf 97 = .ok (.iconst 1, 1) := dk_4 (dk_at dksX1_endOf_4 2 rfl rfl)
theorem dX1_endOf_98 : decode cX1_endOf 98 = .ok (.iadd, 1) := dk_96 (dk_at dksX1_endOf_4 3 rfl rfl)
theorem dX1_endOf_99 : decode cX1_endOf 99 = .ok (.istore 5, 2) := dk_54 5 (dk_at dksX1_endOf_4 4 rfl rfl)
theorem dX1_endOf_101 : decode cX1_endOf 101 = .ok (.iinc 6 1, 3) := dk_132 6 1 (dk_at dksX1_endOf_4 6 rfl rfl)
theorem dX1_endOf_104 : decode cX1_endOf 104 = .ok (.goto (-72), 3) := dk_167 255 184 (dk_at dksX1_endOf_4 9 rfl rfl)
theorem dX1_endOf_107 : decode cX1_endOf 107 = .ok (.aload_n 3, 1) := dk_45 (dk_at dksX1_endOf_4 12 rfl rfl)
theorem dX1_endOf_108 : decode cX1_endOf 108 = .ok (.invokevirtual 77, 3) := dk_182 0 77 (dk_at dksX1_endOf_4 13 rfl rfl)
theorem dX1_endOf_111 : decode cX1_endOf 111 = .ok (.ireturn, 1) := dk_172 (dk_at dksX1_endOf_4 16 rfl rfl)
theorem q166 : (Jvm.Cond.fieldLinkNest "ChordSheet$Rows" (33 : Nat) "ChordSheet$Sheet" "lines" "Ljava/util/ArrayList;" "ChordSheet") ∈ lw_tbl := lw_at lw_m1 104 rfl
theorem q1953 : (Jvm.Cond.classLink "ChordSheet" (307 : Nat) "ChordSheet$Rows") ∈ lw_all := lw_g (lw_at lw_m8 211 rfl) rfl
theorem q1954 : (Jvm.Cond.instantiable "ChordSheet$Rows" (5 : Nat)) ∈ lw_all := lw_g (lw_at lw_m8 212 rfl) rfl
theorem q1955 : (Jvm.Cond.methodLink "ChordSheet" (309 : Nat) ({ cls := "ChordSheet$Rows", name := "<init>", desc := "(LChordSheet;I)V" } : Jvm.MethodName)) ∈ lw_all := lw_g (lw_at lw_m8 213 rfl) rfl
theorem q1956 : (Jvm.Cond.instanceMethod ({ cls := "ChordSheet$Rows", name := "<init>", desc := "(LChordSheet;I)V" } : Jvm.MethodName)) ∈ lw_all := lw_g (lw_at lw_m8 214 rfl) rfl
theorem q1957 : (Jvm.Cond.code ({ cls := "ChordSheet$Rows", name := "<init>", desc := "(LChordSheet;I)V" } : Jvm.MethodName) prog_5_method_1_code (3 : Nat) (Option.none : Option Jvm.ClassFile.FieldType)) ∈ lw_all := lw_g (lw_at lw_m8 215 rfl) rfl
theorem q1958 : (Jvm.Cond.methodLink "ChordSheet$Rows" (7 : Nat) ({ cls := "java/lang/Object", name := "<init>", desc := "()V" } : Jvm.MethodName)) ∈ lw_all := lw_g (lw_at lw_m8 216 rfl) rfl
theorem q1959 : (Jvm.Cond.classLink "ChordSheet$Rows" (13 : Nat) "java/lang/StringBuilder") ∈ lw_all := lw_g (lw_at lw_m8 217 rfl) rfl
theorem q1960 : (Jvm.Cond.methodLink "ChordSheet$Rows" (15 : Nat) ({ cls := "java/lang/StringBuilder", name := "<init>", desc := "()V" } : Jvm.MethodName)) ∈ lw_all := lw_g (lw_at lw_m8 218 rfl) rfl
theorem q1962 : (Jvm.Cond.classLink "ChordSheet$Rows" (45 : Nat) "java/lang/String") ∈ lw_all := lw_g (lw_at lw_m8 220 rfl) rfl
theorem q1982 : (Jvm.Cond.methodLink "ChordSheet" (312 : Nat) ({ cls := "ChordSheet$Rows", name := "addColumn", desc := "(I)V" } : Jvm.MethodName)) ∈ lw_all := lw_g (lw_at lw_m9 0 rfl) rfl
theorem q1983 : (Jvm.Cond.instanceMethod ({ cls := "ChordSheet$Rows", name := "addColumn", desc := "(I)V" } : Jvm.MethodName)) ∈ lw_all := lw_g (lw_at lw_m9 1 rfl) rfl
theorem q1984 : (Jvm.Cond.selects "ChordSheet$Rows" ({ cls := "ChordSheet$Rows", name := "addColumn", desc := "(I)V" } : Jvm.MethodName) ({ cls := "ChordSheet$Rows", name := "addColumn", desc := "(I)V" } : Jvm.MethodName)) ∈ lw_all := lw_g (lw_at lw_m9 2 rfl) rfl
theorem q1985 : (Jvm.Cond.code ({ cls := "ChordSheet$Rows", name := "addColumn", desc := "(I)V" } : Jvm.MethodName) prog_5_method_6_code (2 : Nat) (Option.none : Option Jvm.ClassFile.FieldType)) ∈ lw_all := lw_g (lw_at lw_m9 3 rfl) rfl
theorem q1986 : (Jvm.Cond.methodLink "ChordSheet$Rows" (95 : Nat) ({ cls := "ChordSheet$Rows", name := "addChords", desc := "(I)V" } : Jvm.MethodName)) ∈ lw_all := lw_g (lw_at lw_m9 4 rfl) rfl
theorem q1987 : (Jvm.Cond.instanceMethod ({ cls := "ChordSheet$Rows", name := "addChords", desc := "(I)V" } : Jvm.MethodName)) ∈ lw_all := lw_g (lw_at lw_m9 5 rfl) rfl
theorem q1988 : (Jvm.Cond.selects "ChordSheet$Rows" ({ cls := "ChordSheet$Rows", name := "addChords", desc := "(I)V" } : Jvm.MethodName) ({ cls := "ChordSheet$Rows", name := "addChords", desc := "(I)V" } : Jvm.MethodName)) ∈ lw_all := lw_g (lw_at lw_m9 6 rfl) rfl
theorem q1989 : (Jvm.Cond.code ({ cls := "ChordSheet$Rows", name := "addChords", desc := "(I)V" } : Jvm.MethodName) prog_5_method_5_code (4 : Nat) (Option.none : Option Jvm.ClassFile.FieldType)) ∈ lw_all := lw_g (lw_at lw_m9 7 rfl) rfl
theorem q2009 : (Jvm.Cond.methodLink "ChordSheet" (315 : Nat) ({ cls := "ChordSheet$Rows", name := "addChords", desc := "(I)V" } : Jvm.MethodName)) ∈ lw_all := lw_g (lw_at lw_m9 27 rfl) rfl
theorem q2010 : (Jvm.Cond.methodLink "ChordSheet" (318 : Nat) ({ cls := "ChordSheet", name := "isBreak", desc := "(Ljava/lang/String;I)Z" } : Jvm.MethodName)) ∈ lw_all := lw_g (lw_at lw_m9 28 rfl) rfl
theorem q2011 : (Jvm.Cond.static ({ cls := "ChordSheet", name := "isBreak", desc := "(Ljava/lang/String;I)Z" } : Jvm.MethodName)) ∈ lw_all := lw_g (lw_at lw_m9 29 rfl) rfl
theorem q2012 : (Jvm.Cond.code ({ cls := "ChordSheet", name := "isBreak", desc := "(Ljava/lang/String;I)Z" } : Jvm.MethodName) prog_1_method_53_code (2 : Nat) (Option.some Jvm.ClassFile.FieldType.boolean)) ∈ lw_all := lw_g (lw_at lw_m9 30 rfl) rfl
theorem q2013 : (Jvm.Cond.methodLink "ChordSheet" (322 : Nat) ({ cls := "ChordSheet$Rows", name := "fits", desc := "()Z" } : Jvm.MethodName)) ∈ lw_all := lw_g (lw_at lw_m9 31 rfl) rfl
theorem q2014 : (Jvm.Cond.instanceMethod ({ cls := "ChordSheet$Rows", name := "fits", desc := "()Z" } : Jvm.MethodName)) ∈ lw_all := lw_g (lw_at lw_m9 32 rfl) rfl
theorem q2015 : (Jvm.Cond.selects "ChordSheet$Rows" ({ cls := "ChordSheet$Rows", name := "fits", desc := "()Z" } : Jvm.MethodName) ({ cls := "ChordSheet$Rows", name := "fits", desc := "()Z" } : Jvm.MethodName)) ∈ lw_all := lw_g (lw_at lw_m9 33 rfl) rfl
theorem q2016 : (Jvm.Cond.code ({ cls := "ChordSheet$Rows", name := "fits", desc := "()Z" } : Jvm.MethodName) prog_5_method_7_code (1 : Nat) (Option.some Jvm.ClassFile.FieldType.boolean)) ∈ lw_all := lw_g (lw_at lw_m9 34 rfl) rfl
theorem q280 : (Jvm.Cond.fieldLinkNest "ChordSheet$Rows" (99 : Nat) "ChordSheet" "width" "I" "ChordSheet") ∈ lw_tbl := lw_at lw_m1 218 rfl
abbrev brk (T : List Int) (k : Int) : Prop := k = 0 ∨ k = (T.length : Nat) ∨ (lch T k ≠ 32 ∧ lch T (k - 1) = 32)
abbrev fts (wd : Int) (s : zRw) : Prop := ((s.1.length : Nat) : Int) ≤ wd ∧ ((s.2.length : Nat) : Int) ≤ wd
/-- the rows with n columns from a column on -/
def lco (T : List Int) (ln : Int) (cs : List zCh) (fr : Int) : Nat → zRw
  | 0 => ([], [])
  | n + 1 => rco T ln cs (lco T ln cs fr n) (fr + (n : Nat))
/-- the rows of a part of a line; to its end with the chords there -/
def lay (T : List Int) (ln : Int) (cs : List zCh) (fr to : Int) : zRw :=
  if to = (T.length : Nat) then rac T ln to cs (lco T ln cs fr (to - fr).toNat) else lco T ln cs fr (to - fr).toNat
/-- how many chords of a line stand from a column on and ahead of another -/
def rnn (ln a b : Int) : List zCh → Nat
  | [] => 0
  | x :: r => (if x.1 = ln ∧ a ≤ x.2.1 ∧ x.2.1 < b then 1 else 0) + rnn ln a b r
theorem rnn_0 (ln a : Int) (cs : List zCh) : rnn ln a a cs = 0 := by
  induction cs with
  | nil => rfl
  | cons x r ih => simp only [rnn, ih]; rw [if_neg (by omega)]
theorem rnn_s {ln a b : Int} (h : a ≤ b) (cs : List zCh) : rnn ln a (b + 1) cs = rnn ln a b cs + rcn ln b cs := by
  induction cs with
  | nil => rfl
  | cons x r ih =>
    simp only [rnn, rcn, ih]
    split <;> split <;> split <;> omega
theorem rnn_le (ln a b : Int) (cs : List zCh) : rnn ln a b cs ≤ cs.length := by
  induction cs with
  | nil => exact Nat.le_refl _
  | cons x r ih =>
    simp only [rnn, List.length_cons]
    split <;> omega
theorem lco_u {T : List Int} {ln : Int} {cs : List zCh} (hc : ∀ c ∈ cs, crg c) {fr : Int} : ∀ n : Nat, (lco T ln cs fr n).1.length ≤ n + 12 * rnn ln fr (fr + (n : Nat)) cs ∧ (lco T ln cs fr n).2.length ≤ n + 12 * rnn ln fr (fr + (n : Nat)) cs := by
  intro n
  induction n with
  | zero => exact ⟨Nat.zero_le _, Nat.zero_le _⟩
  | succ n ih =>
    have h1 := rac_u (T := T) (ln := ln) (col := fr + (n : Nat)) cs _ _ hc ih
    have h2 := rnn_s (ln := ln) (a := fr) (b := fr + (n : Nat)) (by omega) cs
    have e : fr + ((n + 1 : Nat) : Int) = fr + (n : Nat) + 1 := by omega
    rw [e]
    simp only [lco, rco, List.length_append, List.length_cons, List.length_nil]
    omega
theorem lay_u {T : List Int} {ln : Int} {cs : List zCh} (hc : ∀ c ∈ cs, crg c) {fr to : Int} (h : 0 ≤ fr ∧ fr ≤ to ∧ to ≤ (T.length : Nat)) : (lay T ln cs fr to).1.length ≤ T.length + 12 * cs.length ∧ (lay T ln cs fr to).2.length ≤ T.length + 12 * cs.length := by
  have h1 := lco_u (T := T) (ln := ln) hc (fr := fr) (to - fr).toNat
  rw [show fr + (((to - fr).toNat : Nat) : Int) = to by omega] at h1
  have h2 := rnn_le ln fr to cs
  have h3 := rnn_le ln fr (to + 1) cs
  have h4 := rnn_s (ln := ln) (a := fr) (b := to) (by omega) cs
  unfold lay
  split
  · have h5 := rac_u (T := T) (ln := ln) (col := to) cs _ _ hc h1
    omega
  · omega
theorem lco_lay {T : List Int} {ln : Int} {cs : List zCh} {fr to : Int} : (lco T ln cs fr (to - fr).toNat).1.length ≤ (lay T ln cs fr to).1.length ∧ (lco T ln cs fr (to - fr).toNat).2.length ≤ (lay T ln cs fr to).2.length := by
  unfold lay
  split
  · exact rac_m _ _ _ _ _
  · exact ⟨Nat.le_refl _, Nat.le_refl _⟩
theorem lco_s {T : List Int} {ln : Int} {cs : List zCh} {fr k : Int} (h : fr ≤ k) : lco T ln cs fr (k + 1 - fr).toNat = rco T ln cs (lco T ln cs fr (k - fr).toNat) k := by
  rw [show (k + 1 - fr).toNat = (k - fr).toNat + 1 by omega, lco, show fr + (((k - fr).toNat : Nat) : Int) = k by omega]
/-- where the pair ends: the end of now, or from a place on -/
def eog (T : List Int) (ln : Int) (cs : List zCh) (wd fr : Int) : Nat → Int → Int → Int
  | 0, _, _ => (T.length : Nat)
  | f + 1, k, e =>
    if k < (T.length : Nat) then
      if brk T (k + 1) then
        if 0 ≤ e ∧ ¬ fts wd (lay T ln cs fr (k + 1)) then e else eog T ln cs wd fr f (k + 1) (k + 1)
      else eog T ln cs wd fr f (k + 1) e
    else (T.length : Nat)
def endo (T : List Int) (ln : Int) (cs : List zCh) (wd fr : Int) : Int := eog T ln cs wd fr (T.length + 1) fr (-1)
section
variable {T : List Int} {ln : Int} {cs : List zCh} {wd fr : Int} {f : Nat} {k e : Int}
theorem eog_o (h : ¬ k < (T.length : Nat)) : eog T ln cs wd fr (f + 1) k e = (T.length : Nat) := by rw [eog, if_neg h]
theorem eog_r (h : k < (T.length : Nat)) (hb : brk T (k + 1)) (he : 0 ≤ e) (hf : ¬ fts wd (lay T ln cs fr (k + 1))) : eog T ln cs wd fr (f + 1) k e = e := by rw [eog, if_pos h, if_pos hb, if_pos ⟨he, hf⟩]
theorem eog_e (h : k < (T.length : Nat)) (hb : brk T (k + 1)) (hf : ¬ (0 ≤ e ∧ ¬ fts wd (lay T ln cs fr (k + 1)))) : eog T ln cs wd fr (f + 1) k e = eog T ln cs wd fr f (k + 1) (k + 1) := by rw [eog, if_pos h, if_pos hb, if_neg hf]
theorem eog_n (h : k < (T.length : Nat)) (hb : ¬ brk T (k + 1)) : eog T ln cs wd fr (f + 1) k e = eog T ln cs wd fr f (k + 1) e := by rw [eog, if_pos h, if_neg hb]
theorem eog_b : ∀ (f : Nat) (k e : Int), fr ≤ k → k ≤ (T.length : Nat) → (T.length : Nat) - k < ((f : Nat) : Int) → (e = -1 ∨ (fr + 1 ≤ e ∧ e ≤ (T.length : Nat))) → (fr < (T.length : Nat) → fr + 1 ≤ eog T ln cs wd fr f k e) ∧ eog T ln cs wd fr f k e ≤ (T.length : Nat) ∧ (¬ fr < (T.length : Nat) → eog T ln cs wd fr f k e = (T.length : Nat)) := by
  intro f
  induction f with
  | zero => intro k e h1 h2 h3; omega
  | succ f ih =>
    intro k e h1 h2 h3 h4
    simp only [eog]
    split
    · split
      · split
        · omega
        · exact ih _ _ (by omega) (by omega) (by omega) (Or.inr ⟨by omega, by omega⟩)
      · exact ih _ _ (by omega) (by omega) (by omega) h4
    · omega
theorem endo_b (h : 0 ≤ fr ∧ fr ≤ (T.length : Nat)) : (fr < (T.length : Nat) → fr + 1 ≤ endo T ln cs wd fr) ∧ endo T ln cs wd fr ≤ (T.length : Nat) ∧ (¬ fr < (T.length : Nat) → endo T ln cs wd fr = (T.length : Nat)) := eog_b _ _ _ (by omega) (by omega) (by omega) (Or.inl rfl)
end
def eC (L C : Nat) : Nat := 8 + 2 * kcC (L + 12 * C) + 4 * C
def eS (L C : Nat) : Nat := 60 + 2 * kcS (L + 12 * C) + 31 * C
theorem cqf {h : zH} {cq e n m : Nat} {mw : Int} (hyl : n = m) (p : h cq = some (true, .inr (10, [.int (iI mw), .ref e, .int (iI ((n : Nat) : Int))]))) : h cq = some (true, .inr (10, [.int (iI mw), .ref e, .int (iI ((m : Nat) : Int))])) := hyl ▸ p
set_option maxHeartbeats 4000000 in
theorem ct_W_addCol {l : Launch} (hl : l.stackTraces = false) {Γ : zCx} {h : zH} {rw q b1 b2 c : Nat} {ln : Int} {T : List Int} (hrw : h rw = some (false, .inr (9, [.int (iI ln), .ref q, .ref b1, .ref b2, .ref c]))) (hq : sAt h q T) (hT : T.length ≤ 200) {v1 v2 : Nat} {u lo : List Int} (hb1 : bAt h b1 v1 u (kap u.length)) (hb2 : bAt h b2 v2 lo (kap lo.length)) (hnb : b1 ≠ b2) (hnv : v1 ≠ v2) {tx s lq cq e cap : Nat} {fc fs fq fe : Bool} {c1 c2 c3 c6 c7 mq : Value} {wd : Int} {cs : List zCh} {f : Nat → Value} (hc0 : h c = some (fc, .inr (0, [.ref tx, c1, c2, c3, .int (iI wd), .ref s, c6]))) (hs : h s = some (fs, .inr (1, [.ref lq, .ref cq, c7]))) (hcq : h cq = some (fq, .inr (10, [mq, .ref e, .int (iI ((cs.length : Nat) : Int))]))) (he : h e = some (fe, .inl (.object "java/lang/Object", cap, f))) (hcl : clA h f cs) (hcn : cs.length ≤ cap ∧ cap ≤ 100000) (hrg : ∀ c ∈ cs, crg c) (hc40 : cs.length ≤ 1000) {k : Int} (hk : 0 ≤ k ∧ k < (T.length : Nat)) (hln : 0 ≤ ln ∧ ln ≤ 1000) (hM : (rco T ln cs (u, lo) k).1.length ≤ 1000 ∧ (rco T ln cs (u, lo) k).2.length ≤ 1000)  : zMet l yX10_addColumn (ws_ yX10_addColumn cX10_addColumn 2 none) ({ frames := 10, cells := (wC (rco T ln cs (u, lo) k) + 4 * rcn ln k cs - wC (u, lo)), slots := (wS (rco T ln cs (u, lo) k) + 31 * rcn ln k cs - wS (u, lo)), locals := 220 }) Γ h [.ref rw, .int (iI k)] (zrt (fun w h' => w = none ∧ ∃ v1' v2', bAt h' b1 v1' ((rco T ln cs (u, lo) k)).1 (kap ((rco T ln cs (u, lo) k)).1.length) ∧ bAt h' b2 v2' ((rco T ln cs (u, lo) k)).2 (kap ((rco T ln cs (u, lo) k)).2.length) ∧ (v1' ∈ [b1, v1, b2, v2] ∨ h v1' = none) ∧ (v2' ∈ [b1, v1, b2, v2] ∨ h v2' = none) ∧ v1' ≠ v2' ∧ zkeep h h' [b1, v1, b2, v2])) (wC (rco T ln cs (u, lo) k) + 4 * rcn ln k cs - wC (u, lo)) (wS (rco T ln cs (u, lo) k) + 31 * rcn ln k cs - wS (u, lo)) := by
  refine zMet.of (cc := cX10_addColumn) hl (plainFor_of_name (by decide +kernel)) (Nat.le_of_ble_eq_true rfl) ?_
  intro X hXl hXΓ hXp C hnm hnL
  have C : zC X cX10_addColumn RX10 none 10 220 [] := C
  have hnL : X.2.1.2.2.2.2 = 2 := hnL
  subst hXl hXΓ
  show Z X h (wC (rco T ln cs (u, lo) k) + 4 * rcn ln k cs - wC (u, lo)) (wS (rco T ln cs (u, lo) k) + 31 * rcn ln k cs - wS (u, lo)) [(0, .ref rw), (1, .int (iI k))] 0 []
  obtain ⟨hl_1, v_1, x_1, y_1, g_1, h1_1, h2_1, h3_1, h4_1⟩ := id (hq)
  have h1_1 : h (q) = some (false, .inr (13, [.ref v_1, .int (iI 0), .int x_1, .int y_1])) := h1_1
  have h4T : ∀ c ∈ T, 0 ≤ c ∧ c < 128 := by obtain ⟨-, v, x, y, f, -, -, -, z⟩ := id hq; exact z
  have hbk1 := hb1
  obtain ⟨z1, f1, hbR1, hvR1, hlen1, hcap1, hcon1, hfit1, hasc1⟩ := id hb1
  have hbk2 := hb2
  obtain ⟨z2, f2, hbR2, hvR2, hlen2, hcap2, hcon2, hfit2, hasc2⟩ := id hb2
  have hw0 : wC (rco T ln cs (u, lo) k) = kcC (rac T ln k cs (u, lo)).1.length + kcC ((rac T ln k cs (u, lo)).2 ++ [lch T k]).length := rfl
  have hw1 : wC (rac T ln k cs (u, lo)) = kcC (rac T ln k cs (u, lo)).1.length + kcC (rac T ln k cs (u, lo)).2.length := rfl
  have hw2 : wS (rco T ln cs (u, lo) k) = kcS (rac T ln k cs (u, lo)).1.length + kcS ((rac T ln k cs (u, lo)).2 ++ [lch T k]).length := rfl
  have hw3 : wS (rac T ln k cs (u, lo)) = kcS (rac T ln k cs (u, lo)).1.length + kcS (rac T ln k cs (u, lo)).2.length := rfl
  have hmm := kc_m (a := (rac T ln k cs (u, lo)).2.length) (b := ((rac T ln k cs (u, lo)).2 ++ [lch T k]).length) (by simp)
  have hrm := rac_m T ln k cs (u, lo)
  have hk1 : kcC u.length ≤ kcC (rac T ln k cs (u, lo)).1.length ∧ kcS u.length ≤ kcS (rac T ln k cs (u, lo)).1.length := kc_m hrm.1
  have hk2 : kcC lo.length ≤ kcC (rac T ln k cs (u, lo)).2.length ∧ kcS lo.length ≤ kcS (rac T ln k cs (u, lo)).2.length := kc_m hrm.2
  have hw4 : wC (u, lo) = kcC u.length + kcC lo.length := rfl
  have hw5 : wS (u, lo) = kcS u.length + kcS lo.length := rfl
  have hM1 : (rac T ln k cs (u, lo)).1.length ≤ 1000 := hM.1
  have hM2 : ((rac T ln k cs (u, lo)).2 ++ [lch T k]).length ≤ 1000 := hM.2
  have hM3 : (rac T ln k cs (u, lo)).2.length ≤ 1000 := by simp only [List.length_append] at hM2; omega
  refine z_aload_n (pc := 0) (j := 0) C dX10_addColumn_0 rfl rfl ?_
  refine z_iload_n (pc := 1) (j := 1) C dX10_addColumn_1 rfl rfl ?_
  refine z_callV (pc := 2) (n := 1) (kc' := ((wC (rco T ln cs (u, lo) k) + 4 * rcn ln k cs - wC (u, lo)) - (wC (rac T ln k cs (u, lo)) + 4 * rcn ln k cs - wC (u, lo)))) (ks' := ((wS (rco T ln cs (u, lo) k) + 31 * rcn ln k cs - wS (u, lo)) - (wS (rac T ln k cs (u, lo)) + 31 * rcn ln k cs - wS (u, lo)))) C (ct_W_addC C.t hrw hq hT hbk1 hbk2 hnb hnv hc0 hs hcq he hcl hcn hrg hc40 (col := k) (by omega) hln ⟨hM1, hM3⟩) (lw_V q1986 q1987 q1988 q106 q1989) (by decide +kernel) ⟨by decide, by decide⟩ hrw rfl rfl rfl (Nat.le_of_ble_eq_true rfl) dX10_addColumn_2 (by omega) (by omega) (zrk fun w h2 hp => ?_) zrx
  obtain ⟨rfl, vx_3, vy_3, hb1_3, hb2_3, hm1_3, hm2_3, hne_3, k4⟩ := hp
  have dvx_3 : vx_3 ∈ ([b1, v1, b2, v2] : List Nat) ∨ h vx_3 = none := zmayM hm1_3 (zall_cons (Or.inl (by simp)) (zall_cons (Or.inl (by simp)) (zall_cons (Or.inl (by simp)) (zall_cons (Or.inl (by simp)) zall_nil)))) zkeep.rf
  have dvy_3 : vy_3 ∈ ([b1, v1, b2, v2] : List Nat) ∨ h vy_3 = none := zmayM hm2_3 (zall_cons (Or.inl (by simp)) (zall_cons (Or.inl (by simp)) (zall_cons (Or.inl (by simp)) (zall_cons (Or.inl (by simp)) zall_nil)))) zkeep.rf
  have kh2 : zkeep h h2 [b1, v1, b2, v2] := zkeep.loc zkeep.rf k4 (zall_cons (Or.inl (Or.symm (Or.inl (by simp)))) (zall_cons (Or.inl (Or.symm (Or.inl (by simp)))) (zall_cons (Or.inl (Or.symm (Or.inl (by simp)))) (zall_cons (Or.inl (Or.symm (Or.inl (by simp)))) zall_nil))))
  have hx_5 := hb1_3
  obtain ⟨z_5, f_5, hb_5, hv_5, hlen_5, hcap_5, hcon_5, hfit_5, hasc_5⟩ := hx_5
  have hx_6 := hb2_3
  obtain ⟨z_6, f_6, hb_6, hv_6, hlen_6, hcap_6, hcon_6, hfit_6, hasc_6⟩ := hx_6
  show Z X h2 ((wC (rco T ln cs (u, lo) k) + 4 * rcn ln k cs - wC (u, lo)) - (wC (rac T ln k cs (u, lo)) + 4 * rcn ln k cs - wC (u, lo))) ((wS (rco T ln cs (u, lo) k) + 31 * rcn ln k cs - wS (u, lo)) - (wS (rac T ln k cs (u, lo)) + 31 * rcn ln k cs - wS (u, lo))) [(0, .ref rw), (1, .int (iI k))] 5 []
  refine z_aload_n (pc := 5) (j := 0) C dX10_addColumn_5 rfl rfl ?_
  refine z_getfield (pc := 6) (v := .ref b2) C in_X10 rfl 3 (by decide) q1968 (fun _ z => z) (kh2.f hrw) rfl dX10_addColumn_6 ?_
  refine z_aload_n (pc := 9) (j := 0) C dX10_addColumn_9 rfl rfl ?_
  refine z_getfield (pc := 10) (v := .ref q) C in_X10 rfl 1 (by decide) q1964 (fun _ z => z) (kh2.f hrw) rfl dX10_addColumn_10 ?_
  refine z_iload_n (pc := 13) (j := 1) C dX10_addColumn_13 rfl rfl ?_
  have hch14 := lch_at (T := T) (k := k) (by omega)
  have hcr14 := h4T _ (List.mem_of_getElem? hch14)
  refine z_callV (pc := 14) (n := 1) (kc' := ((wC (rco T ln cs (u, lo) k) + 4 * rcn ln k cs - wC (u, lo)) - (wC (rac T ln k cs (u, lo)) + 4 * rcn ln k cs - wC (u, lo)))) (ks' := ((wS (rco T ln cs (u, lo) k) + 31 * rcn ln k cs - wS (u, lo)) - (wS (rac T ln k cs (u, lo)) + 31 * rcn ln k cs - wS (u, lo)))) C (ct_S_charAt C.t (sAt.keep kh2 hq) (i := k) (c := lch T k) (by omega) hch14) (lw_V q2002 q561 q562 q83 q563) (by decide +kernel) ⟨by decide, by decide⟩ (kh2.f h1_1) rfl rfl rfl (Nat.le_of_ble_eq_true rfl) dX10_addColumn_14 (by omega) (by omega) (zpk (st' := [.int (iI (lch T k)), .ref b2]) rfl ?_) zrx
  refine z_callV (pc := 17) (n := 1) (kc' := (((wC (rco T ln cs (u, lo) k) + 4 * rcn ln k cs - wC (u, lo)) - (wC (rac T ln k cs (u, lo)) + 4 * rcn ln k cs - wC (u, lo))) - (kcC (((rac T ln k cs (u, lo)).2) ++ [lch T k]).length - kcC ((rac T ln k cs (u, lo)).2).length))) (ks' := (((wS (rco T ln cs (u, lo) k) + 31 * rcn ln k cs - wS (u, lo)) - (wS (rac T ln k cs (u, lo)) + 31 * rcn ln k cs - wS (u, lo))) - (kcS (((rac T ln k cs (u, lo)).2) ++ [lch T k]).length - kcS ((rac T ln k cs (u, lo)).2).length))) C (ct_B_appCk C.t hb2_3 (c := lch T k) (by omega) (by simp only [List.length_append, List.length_cons, List.length_nil] at hM2; omega)) (lw_V q2006 q869 q870 q82 q871) (by decide +kernel) ⟨by decide, by decide⟩ hb_6 rfl rfl rfl (Nat.le_of_ble_eq_true rfl) dX10_addColumn_17 (by omega) (by omega) (zrk fun w h7 hp => ?_) zrx
  obtain ⟨rfl, v8, hb9, hv10, k11⟩ := hp
  have hsv8 : vx_3 ≠ v8 := vsepM hb_6 hv_5 hne_3 (hv10.imp_left (fun e => by rw [e]; simp))
  have dv8 : v8 ∈ ([b1, v1, b2, v2] : List Nat) ∨ h v8 = none := zmay dvy_3 hv10 kh2
  have kh7 : zkeep h h7 [b1, v1, b2, v2] := zkeep.loc kh2 k11 (zall_cons (Or.inl (Or.symm (Or.inl (by simp)))) (zall_cons (Or.inl (Or.symm dvy_3)) zall_nil))
  have fh7_1 : h7 b1 = some (true, .inr (12, [.ref vx_3, .int (iI 0), .int z_5, .int (iI ((((rac T ln k cs (u, lo)).1).length : Nat) : Int))])) := k11.n hb_5 (List.not_mem_cons_of_ne_of_not_mem hnb (List.not_mem_cons_of_ne_of_not_mem (zneA hb_5 hv_6) List.not_mem_nil))
  have fh7_2 : h7 vx_3 = some (true, .inl (.byte, kap (rac T ln k cs (u, lo)).1.length, f_5)) := k11.n hv_5 (List.not_mem_cons_of_ne_of_not_mem (Ne.symm (zneA hb_6 hv_5)) (List.not_mem_cons_of_ne_of_not_mem hne_3 List.not_mem_nil))
  have hx_12 := hb9
  obtain ⟨z_12, f_12, hb_12, hv_12, hlen_12, hcap_12, hcon_12, hfit_12, hasc_12⟩ := hx_12
  show Z X h7 (((wC (rco T ln cs (u, lo) k) + 4 * rcn ln k cs - wC (u, lo)) - (wC (rac T ln k cs (u, lo)) + 4 * rcn ln k cs - wC (u, lo))) - (kcC (((rac T ln k cs (u, lo)).2) ++ [lch T k]).length - kcC ((rac T ln k cs (u, lo)).2).length)) (((wS (rco T ln cs (u, lo) k) + 31 * rcn ln k cs - wS (u, lo)) - (wS (rac T ln k cs (u, lo)) + 31 * rcn ln k cs - wS (u, lo))) - (kcS (((rac T ln k cs (u, lo)).2) ++ [lch T k]).length - kcS ((rac T ln k cs (u, lo)).2).length)) [(0, .ref rw), (1, .int (iI k))] 20 [.ref b2]
  refine z_pop (pc := 20) C dX10_addColumn_20 rfl ?_
  exact z_return (pc := 21) C (by rw [hXp]; exact ⟨_, rfl, rfl, vx_3, v8, (bAt.mk rfl rfl fh7_1 fh7_2 hlen_5 hcap_5 hcon_5 hfit_5 hasc_5), hb9, dvx_3, dv8, hsv8, kh7⟩) dX10_addColumn_21
set_option maxHeartbeats 4000000 in
theorem ct_W_fits {l : Launch} (hl : l.stackTraces = false) {Γ : zCx} {h : zH} {rw q b1 b2 c : Nat} {ln : Int} {T : List Int} (hrw : h rw = some (false, .inr (9, [.int (iI ln), .ref q, .ref b1, .ref b2, .ref c]))) (hq : sAt h q T) (hT : T.length ≤ 200) {v1 v2 : Nat} {u lo : List Int} (hb1 : bAt h b1 v1 u (kap u.length)) (hb2 : bAt h b2 v2 lo (kap lo.length)) (hnb : b1 ≠ b2) (hnv : v1 ≠ v2) {tx s : Nat} {fc : Bool} {c1 c2 c3 c6 : Value} {wd : Int} (hwd : 0 ≤ wd ∧ wd ≤ 1000) (hul : u.length ≤ 1000) (hll : lo.length ≤ 1000) (hc0 : h c = some (fc, .inr (0, [.ref tx, c1, c2, c3, .int (iI wd), .ref s, c6])))  : zMet l yX10_fits (ws_ yX10_fits cX10_fits 1 (some .boolean)) ({ frames := 2, cells := 0, slots := 0, locals := 40 }) Γ h [.ref rw] (zpure h (some (.int (iI (if fts wd (u, lo) then 1 else 0))))) 0 0 := by
  refine zMet.of (cc := cX10_fits) hl (plainFor_of_name (by decide +kernel)) (Nat.le_of_ble_eq_true rfl) ?_
  intro X hXl hXΓ hXp C hnm hnL
  have C : zC X cX10_fits RX10 (some .boolean) 2 40 [] := C
  have hnL : X.2.1.2.2.2.2 = 1 := hnL
  subst hXl hXΓ
  show Z X h 0 0 [(0, .ref rw)] 0 []
  obtain ⟨hl_1, v_1, x_1, y_1, g_1, h1_1, h2_1, h3_1, h4_1⟩ := id (hq)
  have h1_1 : h (q) = some (false, .inr (13, [.ref v_1, .int (iI 0), .int x_1, .int y_1])) := h1_1
  have h4T : ∀ c ∈ T, 0 ≤ c ∧ c < 128 := by obtain ⟨-, v, x, y, f, -, -, -, z⟩ := id hq; exact z
  have hbk1 := hb1
  obtain ⟨z1, f1, hbR1, hvR1, hlen1, hcap1, hcon1, hfit1, hasc1⟩ := id hb1
  have hbk2 := hb2
  obtain ⟨z2, f2, hbR2, hvR2, hlen2, hcap2, hcon2, hfit2, hasc2⟩ := id hb2
  refine z_aload_n (pc := 0) (j := 0) C dX10_fits_0 rfl rfl ?_
  refine z_getfield (pc := 1) (v := .ref b1) C in_X10 rfl 2 (by decide) q1966 (fun _ z => z) hrw rfl dX10_fits_1 ?_
  refine z_callV (pc := 4) (n := 0) (kc' := 0) (ks' := 0) C (ct_B_length (cap := 0) (f := fun _ => .null) C.t hbR1) (lw_V q1996 q439 q440 q82 q441) (by decide +kernel) ⟨by decide, by decide⟩ hbR1 rfl rfl rfl (Nat.le_of_ble_eq_true rfl) dX10_fits_4 (by omega) (by omega) (zpk (st' := [.int (iI ((u.length : Nat) : Int))]) rfl ?_) zrx
  refine z_aload_n (pc := 7) (j := 0) C dX10_fits_7 rfl rfl ?_
  refine z_getfield (pc := 8) (v := .ref c) C in_X10 rfl 4 (by decide) q1970 (fun _ z => z) hrw rfl dX10_fits_8 ?_
  refine z_getfieldN (pc := 11) (v := .int (iI wd)) C in_X1 rfl 4 (by decide) q280 (fun _ z => z) hc0 rfl dX10_fits_11 ?_
  refine z_icmp_gt (pc := 14) (tgt := 38) C dX10_fits_14 (by decide) (by omega) (by omega) (fun c14 => ?_) (fun c14 => ?_)
  · refine z_iconst (pc := 38) C dX10_fits_38 ?_
    exact z_zreturn (pc := 39) C (by decide) (by rw [hXp]; exact zpure_i (by rw [if_neg (by simp only [fts]; omega)]) rfl) dX10_fits_39
  · refine z_aload_n (pc := 17) (j := 0) C dX10_fits_17 rfl rfl ?_
    refine z_getfield (pc := 18) (v := .ref b2) C in_X10 rfl 3 (by decide) q1968 (fun _ z => z) hrw rfl dX10_fits_18 ?_
    refine z_callV (pc := 21) (n := 0) (kc' := 0) (ks' := 0) C (ct_B_length (cap := 0) (f := fun _ => .null) C.t hbR2) (lw_V q1996 q439 q440 q82 q441) (by decide +kernel) ⟨by decide, by decide⟩ hbR2 rfl rfl rfl (Nat.le_of_ble_eq_true rfl) dX10_fits_21 (by omega) (by omega) (zpk (st' := [.int (iI ((lo.length : Nat) : Int))]) rfl ?_) zrx
    refine z_aload_n (pc := 24) (j := 0) C dX10_fits_24 rfl rfl ?_
    refine z_getfield (pc := 25) (v := .ref c) C in_X10 rfl 4 (by decide) q1970 (fun _ z => z) hrw rfl dX10_fits_25 ?_
    refine z_getfieldN (pc := 28) (v := .int (iI wd)) C in_X1 rfl 4 (by decide) q280 (fun _ z => z) hc0 rfl dX10_fits_28 ?_
    refine z_icmp_gt (pc := 31) (tgt := 38) C dX10_fits_31 (by decide) (by omega) (by omega) (fun c31 => ?_) (fun c31 => ?_)
    · refine z_iconst (pc := 38) C dX10_fits_38 ?_
      exact z_zreturn (pc := 39) C (by decide) (by rw [hXp]; exact zpure_i (by rw [if_neg (by simp only [fts]; omega)]) rfl) dX10_fits_39
    · refine z_iconst (pc := 34) C dX10_fits_34 ?_
      refine z_goto (pc := 35) (tgt := 39) C dX10_fits_35 (by decide) ?_
      exact z_zreturn (pc := 39) C (by decide) (by rw [hXp]; exact zpure_i (by rw [if_pos (by simp only [fts]; omega)]) rfl) dX10_fits_39
set_option maxHeartbeats 4000000 in
theorem ct_W_init {l : Launch} (hl : l.stackTraces = false) {Γ : zCx} {h : zH} {rw c tx s lq cq le ln0 q : Nat} {fc fs fl fle : Bool} {c1 c2 c3 c4 c6 c7 lm : Value} {lys : List Nat} {lf : Nat → Value} {ln : Int} {T : List Int} (hrw : h rw = some (true, .inr (9, [.int (iI 0), .null, .null, .null, .null]))) (hc0 : h c = some (fc, .inr (0, [.ref tx, c1, c2, c3, c4, .ref s, c6]))) (hs : h s = some (fs, .inr (1, [.ref lq, .ref cq, c7]))) (hlq : h lq = some (fl, .inr (10, [lm, .ref le, .int (iI ((lys.length : Nat) : Int))]))) (hle : h le = some (fle, .inl (.object "java/lang/Object", ln0, lf))) (hli : 0 ≤ ln ∧ ln < (lys.length : Nat)) (hn0 : lys.length ≤ ln0 ∧ ln0 ≤ 100000) (hlf : lf ln.toNat = .ref q) (hq : sAt h q T)  : zMet l yX10_init (ws_ yX10_init cX10_init 3 none) ({ frames := 3, cells := 4, slots := 40, locals := 64 }) Γ h [.ref rw, .ref c, .int (iI ln)] (zrt (fun w h' => w = none ∧ ∃ b1 v1 b2 v2, h' rw = some (false, .inr (9, [.int (iI ln), .ref q, .ref b1, .ref b2, .ref c])) ∧ bAt h' b1 v1 [] (kap ([] : List Int).length) ∧ bAt h' b2 v2 [] (kap ([] : List Int).length) ∧ h b1 = none ∧ h v1 = none ∧ h b2 = none ∧ h v2 = none ∧ b1 ≠ b2 ∧ v1 ≠ v2 ∧ zkeep h h' [rw])) 4 40 := by
  refine zMet.of (cc := cX10_init) hl (plainFor_of_name (by decide +kernel)) (Nat.le_of_ble_eq_true rfl) ?_
  intro X hXl hXΓ hXp C hnm hnL
  have C : zC X cX10_init RX10 none 3 64 [] := C
  have hnL : X.2.1.2.2.2.2 = 3 := hnL
  subst hXl hXΓ
  show Z X h 4 40 [(0, .ref rw), (1, .ref c), (2, .int (iI ln))] 0 []
  refine z_aload_n (pc := 0) (j := 0) C dX10_init_0 rfl rfl ?_
  refine z_aload_n (pc := 1) (j := 1) C dX10_init_1 rfl rfl ?_
  refine z_putfieldF (pc := 2) (fs' := [.int (iI 0), .null, .null, .null, .ref c]) C hnm in_X10 tyX10 tyX10_ok nmX10 rfl 4 (by decide) q1970 (fun _ z => z) rfl rfl rfl rfl (Nat.le_of_ble_eq_true rfl) hrw rfl dX10_init_2 ?_
  refine Z.nm (fun h1 eh1 => ?_)
  have kh1 : zkeep h h1 [rw] := by rw [eh1]; exact zkeep.up zkeep.rf (Or.inl (by simp)) hrw
  have fh1_0 : h1 rw = some (true, .inr (9, [.int (iI 0), .null, .null, .null, .ref c])) := zse eh1
  refine z_aload_n (pc := 5) (j := 0) C dX10_init_5 rfl rfl ?_
  refine z_objInit (pc := 6) C q1958 q113 q114 (by decide) (by decide) dX10_init_6 ?_
  refine z_aload_n (pc := 9) (j := 0) C dX10_init_9 rfl rfl ?_
  refine z_new (pc := 10) (ci := 12) (kc' := 3) (ks' := 36) (fs := [.null, .int (iI 0), .int (iI 0), .int (iI 0)]) C in_J13 tyJ13 tyJ13_ok rfl q1959 q331 q82 df_J13 (by omega) (by omega) dX10_init_10 (fun a2 fa2 => ?_)
  refine Z.nm (fun h3 eh3 => ?_)
  have na2 : h a2 = none := kh1.none0 fa2 (List.not_mem_cons_of_ne_of_not_mem (Ne.symm (zneF fh1_0 fa2)) List.not_mem_nil)
  have kh3 : zkeep h h3 [rw] := by rw [eh3]; exact zkeep.born kh1 fa2
  have fh3_0 : h3 a2 = some (true, .inr (12, [.null, .int (iI 0), .int (iI 0), .int (iI 0)])) := zse eh3
  have fh3_1 : h3 rw = some (true, .inr (9, [.int (iI 0), .null, .null, .null, .ref c])) := zsn eh3 fh1_0 (zneF fh1_0 fa2)
  refine z_dup (pc := 13) C dX10_init_13 rfl ?_
  refine z_callI (pc := 14) (n := 0) (kc' := 2) (ks' := 20) C (ct_B_init16 C.t fh3_0 ) q334 q82 q1960 q333 rfl (by decide +kernel) ⟨by decide, by decide⟩ rfl rfl (Nat.le_of_ble_eq_true rfl) dX10_init_14 (by omega) (by omega) (zrk fun w h4 hp => ?_) zrx
  obtain ⟨rfl, v5, hb6, fv5, k7⟩ := hp
  have nv5 : h v5 = none := kh3.none0 fv5 (List.not_mem_cons_of_ne_of_not_mem (Ne.symm (zneF fh3_1 fv5)) List.not_mem_nil)
  have kh4 : zkeep h h4 [rw] := zkeep.loc kh3 k7 (zall_cons (Or.inl (Or.symm (Or.inr na2))) zall_nil)
  have fh4_1 : h4 rw = some (true, .inr (9, [.int (iI 0), .null, .null, .null, .ref c])) := k7.n fh3_1 (List.not_mem_cons_of_ne_of_not_mem (zneF fh1_0 fa2) List.not_mem_nil)
  have hx_8 := hb6
  obtain ⟨z_8, f_8, hb_8, hv_8, hlen_8, hcap_8, hcon_8, hfit_8, hasc_8⟩ := hx_8
  show Z X h4 2 20 [(0, .ref rw), (1, .ref c), (2, .int (iI ln))] 17 [.ref a2, .ref rw]
  refine z_putfieldF (pc := 17) (fs' := [.int (iI 0), .null, .ref a2, .null, .ref c]) C hnm in_X10 tyX10 tyX10_ok nmX10 rfl 2 (by decide) q1966 (fun _ z => z) rfl rfl rfl rfl (Nat.le_of_ble_eq_true rfl) fh4_1 rfl dX10_init_17 ?_
  refine Z.nm (fun h9 eh9 => ?_)
  have kh9 : zkeep h h9 [rw] := by rw [eh9]; exact zkeep.up kh4 (Or.inl (by simp)) fh4_1
  have fh9_0 : h9 rw = some (true, .inr (9, [.int (iI 0), .null, .ref a2, .null, .ref c])) := zse eh9
  have fh9_1 : h9 a2 = some (true, .inr (12, [.ref v5, .int (iI 0), .int z_8, .int (iI ((([]).length : Nat) : Int))])) := zsn eh9 hb_8 (Ne.symm (zneF fh1_0 fa2))
  have fh9_2 : h9 v5 = some (true, .inl (.byte, 16, f_8)) := zsn eh9 hv_8 (Ne.symm (zneA fh4_1 hv_8))
  refine z_aload_n (pc := 20) (j := 0) C dX10_init_20 rfl rfl ?_
  refine z_new (pc := 21) (ci := 12) (kc' := 1) (ks' := 16) (fs := [.null, .int (iI 0), .int (iI 0), .int (iI 0)]) C in_J13 tyJ13 tyJ13_ok rfl q1959 q331 q82 df_J13 (by omega) (by omega) dX10_init_21 (fun a10 fa10 => ?_)
  refine Z.nm (fun h11 eh11 => ?_)
  have na10 : h a10 = none := kh9.none0 fa10 (List.not_mem_cons_of_ne_of_not_mem (Ne.symm (zneF fh9_0 fa10)) List.not_mem_nil)
  have kh11 : zkeep h h11 [rw] := by rw [eh11]; exact zkeep.born kh9 fa10
  have fh11_0 : h11 a10 = some (true, .inr (12, [.null, .int (iI 0), .int (iI 0), .int (iI 0)])) := zse eh11
  have fh11_1 : h11 a2 = some (true, .inr (12, [.ref v5, .int (iI 0), .int z_8, .int (iI ((([]).length : Nat) : Int))])) := zsn eh11 fh9_1 (zneF fh9_1 fa10)
  have fh11_2 : h11 v5 = some (true, .inl (.byte, 16, f_8)) := zsn eh11 fh9_2 (zneF fh9_2 fa10)
  have fh11_3 : h11 rw = some (true, .inr (9, [.int (iI 0), .null, .ref a2, .null, .ref c])) := zsn eh11 fh9_0 (zneF fh9_0 fa10)
  refine z_dup (pc := 24) C dX10_init_24 rfl ?_
  refine z_callI (pc := 25) (n := 0) (kc' := 0) (ks' := 0) C (ct_B_init16 C.t fh11_0 ) q334 q82 q1960 q333 rfl (by decide +kernel) ⟨by decide, by decide⟩ rfl rfl (Nat.le_of_ble_eq_true rfl) dX10_init_25 (by omega) (by omega) (zrk fun w h12 hp => ?_) zrx
  obtain ⟨rfl, v13, hb14, fv13, k15⟩ := hp
  have nv13 : h v13 = none := kh11.none0 fv13 (List.not_mem_cons_of_ne_of_not_mem (Ne.symm (zneF fh11_3 fv13)) List.not_mem_nil)
  have kh12 : zkeep h h12 [rw] := zkeep.loc kh11 k15 (zall_cons (Or.inl (Or.symm (Or.inr na10))) zall_nil)
  have fh12_1 : h12 a2 = some (true, .inr (12, [.ref v5, .int (iI 0), .int z_8, .int (iI ((([]).length : Nat) : Int))])) := k15.n fh11_1 (List.not_mem_cons_of_ne_of_not_mem (zneF fh9_1 fa10) List.not_mem_nil)
  have fh12_2 : h12 v5 = some (true, .inl (.byte, 16, f_8)) := k15.n fh11_2 (List.not_mem_cons_of_ne_of_not_mem (zneF fh9_2 fa10) List.not_mem_nil)
  have fh12_3 : h12 rw = some (true, .inr (9, [.int (iI 0), .null, .ref a2, .null, .ref c])) := k15.n fh11_3 (List.not_mem_cons_of_ne_of_not_mem (zneF fh9_0 fa10) List.not_mem_nil)
  have hx_16 := hb14
  obtain ⟨z_16, f_16, hb_16, hv_16, hlen_16, hcap_16, hcon_16, hfit_16, hasc_16⟩ := hx_16
  show Z X h12 0 0 [(0, .ref rw), (1, .ref c), (2, .int (iI ln))] 28 [.ref a10, .ref rw]
  refine z_putfieldF (pc := 28) (fs' := [.int (iI 0), .null, .ref a2, .ref a10, .ref c]) C hnm in_X10 tyX10 tyX10_ok nmX10 rfl 3 (by decide) q1968 (fun _ z => z) rfl rfl rfl rfl (Nat.le_of_ble_eq_true rfl) fh12_3 rfl dX10_init_28 ?_
  refine Z.nm (fun h17 eh17 => ?_)
  have kh17 : zkeep h h17 [rw] := by rw [eh17]; exact zkeep.up kh12 (Or.inl (by simp)) fh12_3
  have fh17_0 : h17 rw = some (true, .inr (9, [.int (iI 0), .null, .ref a2, .ref a10, .ref c])) := zse eh17
  have fh17_1 : h17 a2 = some (true, .inr (12, [.ref v5, .int (iI 0), .int z_8, .int (iI ((([]).length : Nat) : Int))])) := zsn eh17 fh12_1 (Ne.symm (zneF fh1_0 fa2))
  have fh17_2 : h17 v5 = some (true, .inl (.byte, 16, f_8)) := zsn eh17 fh12_2 (Ne.symm (zneA fh12_3 fh12_2))
  have fh17_3 : h17 a10 = some (true, .inr (12, [.ref v13, .int (iI 0), .int z_16, .int (iI ((([]).length : Nat) : Int))])) := zsn eh17 hb_16 (Ne.symm (zneF fh9_0 fa10))
  have fh17_4 : h17 v13 = some (true, .inl (.byte, 16, f_16)) := zsn eh17 hv_16 (Ne.symm (zneA fh12_3 hv_16))
  refine z_aload_n (pc := 31) (j := 0) C dX10_init_31 rfl rfl ?_
  refine z_iload_n (pc := 32) (j := 2) C dX10_init_32 rfl rfl ?_
  refine z_putfieldF (pc := 33) (fs' := [.int (iI ln), .null, .ref a2, .ref a10, .ref c]) C hnm in_X10 tyX10 tyX10_ok nmX10 rfl 0 (by decide) q1963 (fun _ z => z) rfl rfl rfl rfl (Nat.le_of_ble_eq_true rfl) fh17_0 rfl dX10_init_33 ?_
  refine Z.nm (fun h18 eh18 => ?_)
  have kh18 : zkeep h h18 [rw] := by rw [eh18]; exact zkeep.up kh17 (Or.inl (by simp)) fh17_0
  have fh18_0 : h18 rw = some (true, .inr (9, [.int (iI ln), .null, .ref a2, .ref a10, .ref c])) := zse eh18
  have fh18_1 : h18 a2 = some (true, .inr (12, [.ref v5, .int (iI 0), .int z_8, .int (iI ((([]).length : Nat) : Int))])) := zsn eh18 fh17_1 (Ne.symm (zneF fh1_0 fa2))
  have fh18_2 : h18 v5 = some (true, .inl (.byte, 16, f_8)) := zsn eh18 fh17_2 (Ne.symm (zneA fh17_0 fh17_2))
  have fh18_3 : h18 a10 = some (true, .inr (12, [.ref v13, .int (iI 0), .int z_16, .int (iI ((([]).length : Nat) : Int))])) := zsn eh18 fh17_3 (Ne.symm (zneF fh9_0 fa10))
  have fh18_4 : h18 v13 = some (true, .inl (.byte, 16, f_16)) := zsn eh18 fh17_4 (Ne.symm (zneA fh17_0 fh17_4))
  refine z_aload_n (pc := 36) (j := 0) C dX10_init_36 rfl rfl ?_
  refine z_aload_n (pc := 37) (j := 1) C dX10_init_37 rfl rfl ?_
  refine z_getfieldN (pc := 38) (v := .ref s) C in_X1 rfl 5 (by decide) q281 (fun _ z => z) (kh18.n hc0 (List.not_mem_cons_of_ne_of_not_mem (zneC hc0 hrw (by decide)) List.not_mem_nil)) rfl dX10_init_38 ?_
  refine z_getfieldN (pc := 41) (v := .ref lq) C in_X2 rfl 0 (by decide) q166 (fun _ z => z) (kh18.n hs (List.not_mem_cons_of_ne_of_not_mem (zneC hs hrw (by decide)) List.not_mem_nil)) rfl dX10_init_41 ?_
  refine z_iload_n (pc := 44) (j := 2) C dX10_init_44 rfl rfl ?_
  obtain ⟨hl_19, v_19, x_19, y_19, g_19, h1_19, h2_19, h3_19, h4_19⟩ := id ((sAt.keep kh18 hq))
  have h1_19 : h18 (q) = some (false, .inr (13, [.ref v_19, .int (iI 0), .int x_19, .int y_19])) := h1_19
  refine z_callV (pc := 45) (n := 1) (kc' := 0) (ks' := 0) C (ct_L_get C.t (kh18.n hlq (List.not_mem_cons_of_ne_of_not_mem (zneC hlq hrw (by decide)) List.not_mem_nil)) (kh18.n hle (List.not_mem_cons_of_ne_of_not_mem (Ne.symm (zneA hrw hle)) List.not_mem_nil)) (i := ln) (by omega) (by omega) hlf) (lw_V q1961 q904 q905 q68 q906) (by decide +kernel) ⟨by decide, by decide⟩ (kh18.n hlq (List.not_mem_cons_of_ne_of_not_mem (zneC hlq hrw (by decide)) List.not_mem_nil)) rfl rfl rfl (Nat.le_of_ble_eq_true rfl) dX10_init_45 (by omega) (by omega) (zpk (st' := [.ref q, .ref rw]) rfl ?_) zrx
  refine z_castS (pc := 48) C q1962 rfl h1_19 dX10_init_48 ?_
  refine z_putfieldF (pc := 51) (fs' := [.int (iI ln), .ref q, .ref a2, .ref a10, .ref c]) C hnm in_X10 tyX10 tyX10_ok nmX10 rfl 1 (by decide) q1964 (fun _ z => z) rfl rfl rfl rfl (Nat.le_of_ble_eq_true rfl) fh18_0 rfl dX10_init_51 ?_
  refine Z.nm (fun h20 eh20 => ?_)
  have kh20 : zkeep h h20 [rw] := by rw [eh20]; exact zkeep.up kh18 (Or.inl (by simp)) fh18_0
  have fh20_0 : h20 rw = some (true, .inr (9, [.int (iI ln), .ref q, .ref a2, .ref a10, .ref c])) := zse eh20
  have fh20_1 : h20 a2 = some (true, .inr (12, [.ref v5, .int (iI 0), .int z_8, .int (iI ((([]).length : Nat) : Int))])) := zsn eh20 fh18_1 (Ne.symm (zneF fh1_0 fa2))
  have fh20_2 : h20 v5 = some (true, .inl (.byte, 16, f_8)) := zsn eh20 fh18_2 (Ne.symm (zneA fh18_0 fh18_2))
  have fh20_3 : h20 a10 = some (true, .inr (12, [.ref v13, .int (iI 0), .int z_16, .int (iI ((([]).length : Nat) : Int))])) := zsn eh20 fh18_3 (Ne.symm (zneF fh9_0 fa10))
  have fh20_4 : h20 v13 = some (true, .inl (.byte, 16, f_16)) := zsn eh20 fh18_4 (Ne.symm (zneA fh18_0 fh18_4))
  have fh20_5 : h20 q = some (false, .inr (13, [.ref v_19, .int (iI 0), .int x_19, .int y_19])) := zsn eh20 h1_19 (zneW h1_19 fh18_0)
  have fh20_6 : h20 v_19 = some (false, .inl (.byte, T.length, g_19)) := zsn eh20 h2_19 (zneW h2_19 fh18_0)
  refine Z.freeze fh20_0 ?_
  refine Z.nm (fun h21 eh21 => ?_)
  have kh21 : zkeep h h21 [rw] := by rw [eh21]; exact zkeep.up kh20 (Or.inl (by simp)) fh20_0
  have fh21_0 : h21 rw = some (false, .inr (9, [.int (iI ln), .ref q, .ref a2, .ref a10, .ref c])) := zse eh21
  have fh21_1 : h21 a2 = some (true, .inr (12, [.ref v5, .int (iI 0), .int z_8, .int (iI ((([]).length : Nat) : Int))])) := zsn eh21 fh20_1 (Ne.symm (zneF fh1_0 fa2))
  have fh21_2 : h21 v5 = some (true, .inl (.byte, 16, f_8)) := zsn eh21 fh20_2 (Ne.symm (zneA fh20_0 fh20_2))
  have fh21_3 : h21 a10 = some (true, .inr (12, [.ref v13, .int (iI 0), .int z_16, .int (iI ((([]).length : Nat) : Int))])) := zsn eh21 fh20_3 (Ne.symm (zneF fh9_0 fa10))
  have fh21_4 : h21 v13 = some (true, .inl (.byte, 16, f_16)) := zsn eh21 fh20_4 (Ne.symm (zneA fh20_0 fh20_4))
  have fh21_5 : h21 q = some (false, .inr (13, [.ref v_19, .int (iI 0), .int x_19, .int y_19])) := zsn eh21 fh20_5 (zneW fh20_5 fh20_0)
  have fh21_6 : h21 v_19 = some (false, .inl (.byte, T.length, g_19)) := zsn eh21 fh20_6 (zneW fh20_6 fh20_0)
  exact z_return (pc := 54) C (by rw [hXp]; exact ⟨_, rfl, rfl, a2, v5, a10, v13, fh21_0, (bAt.mk rfl rfl fh21_1 fh21_2 hlen_8 hcap_8 hcon_8 hfit_8 hasc_8), (bAt.mk rfl rfl fh21_3 fh21_4 hlen_16 hcap_16 hcon_16 hfit_16 hasc_16), na2, nv5, na10, nv13, (zneF fh9_1 fa10), (zneF fh11_2 fv13), kh21⟩) dX10_init_54
set_option maxHeartbeats 4000000 in
theorem ct_brk {l : Launch} (hl : l.stackTraces = false) {Γ : zCx} {h : zH} {q : Nat} {T : List Int} (hq : sAt h q T) (hT : T.length ≤ 200) {k : Int} (hk : 0 ≤ k ∧ k ≤ (T.length : Nat))  : zMet l yX1_isBreak (ws_ yX1_isBreak cX1_isBreak 2 (some .boolean)) ({ frames := 4, cells := 0, slots := 0, locals := 85 }) Γ h [.ref q, .int (iI k)] (zpure h (some (.int (iI (if brk T k then 1 else 0))))) 0 0 := by
  refine zMet.of (cc := cX1_isBreak) hl (plainFor_of_name (by decide +kernel)) (Nat.le_of_ble_eq_true rfl) ?_
  intro X hXl hXΓ hXp C hnm hnL
  have C : zC X cX1_isBreak RX1 (some .boolean) 4 85 [] := C
  have hnL : X.2.1.2.2.2.2 = 2 := hnL
  subst hXl hXΓ
  show Z X h 0 0 [(0, .ref q), (1, .int (iI k))] 0 []
  obtain ⟨hl_1, v_1, x_1, y_1, g_1, h1_1, h2_1, h3_1, h4_1⟩ := id (hq)
  have h1_1 : h (q) = some (false, .inr (13, [.ref v_1, .int (iI 0), .int x_1, .int y_1])) := h1_1
  have h4T : ∀ c ∈ T, 0 ≤ c ∧ c < 128 := by obtain ⟨-, v, x, y, f, -, -, -, z⟩ := id hq; exact z
  refine z_iload_n (pc := 0) (j := 1) C dX1_isBreak_0 rfl rfl ?_
  refine z_if_eq (pc := 1) (tgt := 34) C dX1_isBreak_1 (by decide) (by omega) (fun c1 => ?_) (fun c1 => ?_)
  · refine z_iconst (pc := 34) C dX1_isBreak_34 ?_
    refine z_goto (pc := 35) (tgt := 39) C dX1_isBreak_35 (by decide) ?_
    exact z_zreturn (pc := 39) C (by decide) (by rw [hXp]; exact zpure_i (by rw [if_pos (by omega)]) rfl) dX1_isBreak_39
  · refine z_iload_n (pc := 4) (j := 1) C dX1_isBreak_4 rfl rfl ?_
    refine z_aload_n (pc := 5) (j := 0) C dX1_isBreak_5 rfl rfl ?_
    refine z_callV (pc := 6) (n := 0) (kc' := 0) (ks' := 0) C (ct_S_length C.t hq) (lw_V q1053 q468 q469 q83 q470) (by decide +kernel) ⟨by decide, by decide⟩ h1_1 rfl rfl rfl (Nat.le_of_ble_eq_true rfl) dX1_isBreak_6 (by omega) (by omega) (zpk (st' := [.int (iI ((T.length : Nat) : Int)), .int (iI k)]) rfl ?_) zrx
    refine z_icmp_eq (pc := 9) (tgt := 34) C dX1_isBreak_9 (by decide) (by omega) (by omega) (fun c9 => ?_) (fun c9 => ?_)
    · refine z_iconst (pc := 34) C dX1_isBreak_34 ?_
      refine z_goto (pc := 35) (tgt := 39) C dX1_isBreak_35 (by decide) ?_
      exact z_zreturn (pc := 39) C (by decide) (by rw [hXp]; exact zpure_i (by rw [if_pos (by omega)]) rfl) dX1_isBreak_39
    · refine z_aload_n (pc := 12) (j := 0) C dX1_isBreak_12 rfl rfl ?_
      refine z_iload_n (pc := 13) (j := 1) C dX1_isBreak_13 rfl rfl ?_
      have hch14 := lch_at (T := T) (k := k) (by omega)
      have hcr14 := h4T _ (List.mem_of_getElem? hch14)
      refine z_callV (pc := 14) (n := 1) (kc' := 0) (ks' := 0) C (ct_S_charAt C.t hq (i := k) (c := lch T k) (by omega) hch14) (lw_V q1635 q561 q562 q83 q563) (by decide +kernel) ⟨by decide, by decide⟩ h1_1 rfl rfl rfl (Nat.le_of_ble_eq_true rfl) dX1_isBreak_14 (by omega) (by omega) (zpk (st' := [.int (iI (lch T k))]) rfl ?_) zrx
      refine z_bipush (pc := 17) C dX1_isBreak_17 (by decide) ?_
      refine z_icmp_eq (pc := 19) (tgt := 38) C dX1_isBreak_19 (by decide) (by omega) (by decide) (fun c19 => ?_) (fun c19 => ?_)
      · refine z_iconst (pc := 38) C dX1_isBreak_38 ?_
        exact z_zreturn (pc := 39) C (by decide) (by rw [hXp]; exact zpure_i (by rw [if_neg (by omega)]) rfl) dX1_isBreak_39
      · refine z_aload_n (pc := 22) (j := 0) C dX1_isBreak_22 rfl rfl ?_
        refine z_iload_n (pc := 23) (j := 1) C dX1_isBreak_23 rfl rfl ?_
        refine z_iconst (pc := 24) C dX1_isBreak_24 ?_
        refine z_isub (pc := 25) C dX1_isBreak_25 ?_
        have hch26 := lch_at (T := T) (k := k - 1) (by omega)
        have hcr26 := h4T _ (List.mem_of_getElem? hch26)
        refine z_callV (pc := 26) (n := 1) (kc' := 0) (ks' := 0) C (ct_S_charAt C.t hq (i := k - 1) (c := lch T (k - 1)) (by omega) hch26) (lw_V q1635 q561 q562 q83 q563) (by decide +kernel) ⟨by decide, by decide⟩ h1_1 rfl rfl rfl (Nat.le_of_ble_eq_true rfl) dX1_isBreak_26 (by omega) (by omega) (zpk (st' := [.int (iI (lch T (k - 1)))]) rfl ?_) zrx
        refine z_bipush (pc := 29) C dX1_isBreak_29 (by decide) ?_
        refine z_icmp_ne (pc := 31) (tgt := 38) C dX1_isBreak_31 (by decide) (by omega) (by decide) (fun c31 => ?_) (fun c31 => ?_)
        · refine z_iconst (pc := 38) C dX1_isBreak_38 ?_
          exact z_zreturn (pc := 39) C (by decide) (by rw [hXp]; exact zpure_i (by rw [if_neg (by omega)]) rfl) dX1_isBreak_39
        · refine z_iconst (pc := 34) C dX1_isBreak_34 ?_
          refine z_goto (pc := 35) (tgt := 39) C dX1_isBreak_35 (by decide) ?_
          exact z_zreturn (pc := 39) C (by decide) (by rw [hXp]; exact zpure_i (by rw [if_pos (by omega)]) rfl) dX1_isBreak_39
set_option maxHeartbeats 4000000 in
theorem op_endOf {l : Launch} (hl : l.stackTraces = false) {Γ : zCx} {h : zH} {c : Nat} {A : zWA} {σ : zSt} (hW : csW Γ h c A σ) {i : Int} {t : List Int} (hi : 0 ≤ i) (ht : σ.sh.ls[i.toNat]? = some t) {fr : Int} (hfr : 0 ≤ fr ∧ fr ≤ (t.length : Nat))  : zMet l yX1_endOf (ws_ yX1_endOf cX1_endOf 7 (some .int)) ({ frames := 11, cells := eC t.length σ.sh.cs.length, slots := eS t.length σ.sh.cs.length, locals := 241 }) Γ h [.ref c, .int (iI i), .int (iI fr)] (zrt (fun w h' => w = some (.int (iI (endo t i σ.sh.cs σ.wd fr))) ∧ zkeep h h' [])) (eC t.length σ.sh.cs.length) (eS t.length σ.sh.cs.length) := by
  refine zMet.of (cc := cX1_endOf) hl (plainFor_of_name (by decide +kernel)) (Nat.le_of_ble_eq_true rfl) ?_
  intro X hXl hXΓ hXp C hnm hnL
  have C : zC X cX1_endOf RX1 (some .int) 11 241 [] := C
  have hnL : X.2.1.2.2.2.2 = 7 := hnL
  subst hXl hXΓ
  show Z X h (eC t.length σ.sh.cs.length) (eS t.length σ.sh.cs.length) [(0, .ref c), (1, .int (iI i)), (2, .int (iI fr))] 0 []
  obtain ⟨⟨tf, hc0, htx, hch⟩, hdq, ⟨lq, kq, lys, ys, hsx, hfl, hls, hl0, hyc, hkx⟩, hhi, hnd, hR⟩ := id hW
  obtain ⟨rsi, rff, rwd, rtl, rtx, rsh, rhi, rhl⟩ := id hR
  obtain ⟨rcl, rcr, rll, rlt, rkt, rkm, rks⟩ := rsh
  have hll := hls.len
  have hyl := hyc.len
  obtain ⟨lm, le0, ln0, lf, hlq, hle, hln, hlN, hlx⟩ := id hfl
  have hxw := hl0
  obtain ⟨mw, fw, law, lew, lzw, ltw, lnw, lcw, lxw, lqw⟩ := hxw
  have hcl := hyc.cl lxw
  have hit := (List.getElem?_eq_some_iff.mp ht).1
  have hT := rlt _ (List.mem_of_getElem? ht)
  obtain ⟨lqq, hlqq, hsq⟩ := (hls).at ht
  obtain ⟨hl_1, v_1, x_1, y_1, g_1, h1_1, h2_1, h3_1, h4_1⟩ := id (hsq)
  have h1_1 : h (lqq) = some (false, .inr (13, [.ref v_1, .int (iI 0), .int x_1, .int y_1])) := h1_1
  have h4T : ∀ c ∈ t, 0 ≤ c ∧ c < 128 := by obtain ⟨-, v, x, y, f, -, -, -, z⟩ := id hsq; exact z
  refine z_aload_n (pc := 0) (j := 0) C dX1_endOf_0 rfl rfl ?_
  refine z_getfield (pc := 1) (v := .ref A.cu.s) C in_X1 rfl 5 (by decide) q282 (fun _ z => z) hc0 rfl dX1_endOf_1 ?_
  refine z_getfieldN (pc := 4) (v := .ref lq) C in_X2 rfl 0 (by decide) q167 (fun _ z => z) hsx rfl dX1_endOf_4 ?_
  refine z_iload_n (pc := 7) (j := 1) C dX1_endOf_7 rfl rfl ?_
  refine z_callV (pc := 8) (n := 1) (kc' := (eC t.length σ.sh.cs.length)) (ks' := (eS t.length σ.sh.cs.length)) C (ct_L_get C.t hlq hle (i := i) (by omega) (by omega) (hlx _ _ hlqq)) (lw_V q1038 q904 q905 q68 q906) (by decide +kernel) ⟨by decide, by decide⟩ hlq rfl rfl rfl (Nat.le_of_ble_eq_true rfl) dX1_endOf_8 (by omega) (by omega) (zpk (st' := [.ref lqq]) rfl ?_) zrx
  refine z_castS (pc := 11) C q1633 rfl h1_1 dX1_endOf_11 ?_
  refine z_astore_n (pc := 14) (L' := [(3, .ref lqq), (0, .ref c), (1, .int (iI i)), (2, .int (iI fr))]) C dX1_endOf_14 rfl (by rw [hnL]; decide) rfl ?_
  have hEC : eC t.length σ.sh.cs.length = 8 + 2 * kcC (t.length + 12 * σ.sh.cs.length) + 4 * σ.sh.cs.length := rfl
  have hES : eS t.length σ.sh.cs.length = 60 + 2 * kcS (t.length + 12 * σ.sh.cs.length) + 31 * σ.sh.cs.length := rfl
  refine z_new (pc := 15) (ci := 9) (kc' := (eC t.length σ.sh.cs.length - 1)) (ks' := (eS t.length σ.sh.cs.length - 5)) (fs := [.int (iI 0), .null, .null, .null, .null]) C in_X10 tyX10 tyX10_ok rfl q1953 q1954 q106 df_X10 (by omega) (by omega) dX1_endOf_15 (fun a2 fa2 => ?_)
  refine Z.nm (fun h3 eh3 => ?_)
  have na2 : h a2 = none := fa2
  have kh3 : zkeep h h3 [] := by rw [eh3]; exact zkeep.born zkeep.rf fa2
  have fh3_0 : h3 a2 = some (true, .inr (9, [.int (iI 0), .null, .null, .null, .null])) := zse eh3
  refine z_dup (pc := 18) C dX1_endOf_18 rfl ?_
  refine z_aload_n (pc := 19) (j := 1) C dX1_endOf_19 rfl rfl ?_
  refine z_iload_n (pc := 20) (j := 2) C dX1_endOf_20 rfl rfl ?_
  refine z_callI (pc := 21) (n := 2) (kc' := ((eC t.length σ.sh.cs.length - 1) - 4)) (ks' := ((eS t.length σ.sh.cs.length - 5) - 40)) C (ct_W_init C.t fh3_0 (kh3.n hc0 List.not_mem_nil) (kh3.n hsx List.not_mem_nil) (kh3.f hlq) (kh3.f hle) (by omega) (by omega) (hlx _ _ hlqq) (sAt.keep kh3 hsq)) q1957 q106 q1955 q1956 rfl (by decide +kernel) ⟨by decide, by decide⟩ rfl rfl (Nat.le_of_ble_eq_true rfl) dX1_endOf_21 (by omega) (by omega) (zrk fun w h4 hp => ?_) zrx
  obtain ⟨rfl, bx_5, vx_5, by_5, vy_5, hrw_5, hb1_5, hb2_5, fbx_5, fvx_5, fby_5, fvy_5, hnb_5, hnv_5, k6⟩ := hp
  have nbx_5 : h bx_5 = none := kh3.none0 fbx_5 List.not_mem_nil
  have nvx_5 : h vx_5 = none := kh3.none0 fvx_5 List.not_mem_nil
  have nby_5 : h by_5 = none := kh3.none0 fby_5 List.not_mem_nil
  have nvy_5 : h vy_5 = none := kh3.none0 fvy_5 List.not_mem_nil
  have kh4 : zkeep h h4 [] := zkeep.loc kh3 k6 (zall_cons (Or.inl (Or.symm (Or.inr na2))) zall_nil)
  have hx_7 := hb1_5
  obtain ⟨z_7, f_7, hb_7, hv_7, hlen_7, hcap_7, hcon_7, hfit_7, hasc_7⟩ := hx_7
  have hx_8 := hb2_5
  obtain ⟨z_8, f_8, hb_8, hv_8, hlen_8, hcap_8, hcon_8, hfit_8, hasc_8⟩ := hx_8
  show Z X h4 ((eC t.length σ.sh.cs.length - 1) - 4) ((eS t.length σ.sh.cs.length - 5) - 40) [(3, .ref lqq), (0, .ref c), (1, .int (iI i)), (2, .int (iI fr))] 24 [.ref a2]
  refine z_astore (pc := 24) (L' := [(4, .ref a2), (3, .ref lqq), (0, .ref c), (1, .int (iI i)), (2, .int (iI fr))]) C dX1_endOf_24 (by rw [hnL]; decide) rfl ?_
  refine z_iconst (pc := 26) C dX1_endOf_26 ?_
  refine z_istore (pc := 27) (L' := [(5, .int (iI (-1))), (4, .ref a2), (3, .ref lqq), (0, .ref c), (1, .int (iI i)), (2, .int (iI fr))]) C dX1_endOf_27 (by rw [hnL]; decide) rfl ?_
  have hw00 : wC (([] : List Int), ([] : List Int)) = 0 := rfl
  have hw01 : wS (([] : List Int), ([] : List Int)) = 0 := rfl
  have hr00 := rnn_0 i fr σ.sh.cs
  refine z_iload_n (pc := 29) (j := 5) C dX1_endOf_29 rfl rfl ?_
  refine z_istore (pc := 30) (L' := [(6, .int (iI fr)), (5, .int (iI (-1))), (4, .ref a2), (3, .ref lqq), (0, .ref c), (1, .int (iI i)), (2, .int (iI fr))]) C dX1_endOf_30 (by rw [hnL]; decide) rfl ?_
  have loop32 : ∀ (n32 : Nat) (k : Int) (g : zH) (u2 : List Int) (l2 : List Int) (x1 : Nat) (x2 : Nat) (e : Int), (fr ≤ k ∧ k ≤ ((t.length : Nat) : Int)) → (zkeep h g []) → (g a2 = some (false, .inr (9, [.int (iI i), .ref lqq, .ref bx_5, .ref by_5, .ref c]))) → (k < (t.length : Nat) → (u2, l2) = lco t i σ.sh.cs fr (k - fr).toNat) → (bAt g bx_5 x1 u2 (kap u2.length)) → (bAt g by_5 x2 l2 (kap l2.length)) → (h x1 = none) → (h x2 = none) → (x1 ≠ x2) → (e = -1 ∨ (fr + 1 ≤ e ∧ e ≤ (t.length : Nat))) → (∃ f, (t.length : Nat) - k < ((f : Nat) : Int) ∧ eog t i σ.sh.cs σ.wd fr f k e = endo t i σ.sh.cs σ.wd fr) → ((((t.length : Nat) : Int) - k).toNat) = n32 → Z X g (if k < ((t.length : Nat) : Int) then 2 * kcC (t.length + 12 * σ.sh.cs.length) + 4 * σ.sh.cs.length - 4 * rnn i fr k σ.sh.cs - wC (u2, l2) else 0) (if k < ((t.length : Nat) : Int) then 2 * kcS (t.length + 12 * σ.sh.cs.length) + 31 * σ.sh.cs.length - 31 * rnn i fr k σ.sh.cs - wS (u2, l2) else 0) [(6, .int (iI k)), (5, .int (iI e)), (4, .ref a2), (3, .ref lqq), (2, .int (iI fr)), (1, .int (iI i)), (0, .ref c)] 32 [] := by
    intro n32
    induction n32 using Nat.strongRecOn with
    | ind n32 ih32 =>
    intro k g u2 l2 x1 x2 e hk hkp hrwg hst hB1 hB2 hm1 hm2 hnx he hd hn32
    have hx_9 := hB1
    obtain ⟨z_9, f_9, hb_9, hv_9, hlen_9, hcap_9, hcon_9, hfit_9, hasc_9⟩ := hx_9
    have hx_10 := hB2
    obtain ⟨z_10, f_10, hb_10, hv_10, hlen_10, hcap_10, hcon_10, hfit_10, hasc_10⟩ := hx_10
    have nx1 := hm1
    have nx2 := hm2
    refine z_iload (pc := 32) (j := 0) C dX1_endOf_32 rfl ?_
    refine z_aload_n (pc := 34) (j := 3) C dX1_endOf_34 rfl rfl ?_
    refine z_callV (pc := 35) (n := 0) (kc' := (if k < ((t.length : Nat) : Int) then 2 * kcC (t.length + 12 * σ.sh.cs.length) + 4 * σ.sh.cs.length - 4 * rnn i fr k σ.sh.cs - wC (u2, l2) else 0)) (ks' := (if k < ((t.length : Nat) : Int) then 2 * kcS (t.length + 12 * σ.sh.cs.length) + 31 * σ.sh.cs.length - 31 * rnn i fr k σ.sh.cs - wS (u2, l2) else 0)) C (ct_S_length C.t (sAt.keep hkp hsq)) (lw_V q1053 q468 q469 q83 q470) (by decide +kernel) ⟨by decide, by decide⟩ (hkp.f h1_1) rfl rfl rfl (Nat.le_of_ble_eq_true rfl) dX1_endOf_35 (by omega) (by omega) (zpk (st' := [.int (iI ((t.length : Nat) : Int)), .int (iI k)]) rfl ?_) zrx
    refine z_icmp_ge (pc := 38) (tgt := 107) C dX1_endOf_38 (by decide) (by omega) (by omega) (fun c38 => ?_) (fun c38 => ?_)
    · refine z_aload_n (pc := 107) (j := 3) C dX1_endOf_107 rfl rfl ?_
      refine z_callV (pc := 108) (n := 0) (kc' := (if k < ((t.length : Nat) : Int) then 2 * kcC (t.length + 12 * σ.sh.cs.length) + 4 * σ.sh.cs.length - 4 * rnn i fr k σ.sh.cs - wC (u2, l2) else 0)) (ks' := (if k < ((t.length : Nat) : Int) then 2 * kcS (t.length + 12 * σ.sh.cs.length) + 31 * σ.sh.cs.length - 31 * rnn i fr k σ.sh.cs - wS (u2, l2) else 0)) C (ct_S_length C.t (sAt.keep hkp hsq)) (lw_V q1053 q468 q469 q83 q470) (by decide +kernel) ⟨by decide, by decide⟩ (hkp.f h1_1) rfl rfl rfl (Nat.le_of_ble_eq_true rfl) dX1_endOf_108 (by omega) (by omega) (zpk (st' := [.int (iI ((t.length : Nat) : Int))]) rfl ?_) zrx
      exact z_ireturn (pc := 111) C (by rw [hXp]; exact ⟨_, rfl, (by obtain ⟨f0, hf0, hd0⟩ := hd; obtain ⟨f1, rfl⟩ : ∃ f1, f0 = f1 + 1 := ⟨f0 - 1, by omega⟩; rw [← hd0]; exact congrArg (fun z => some (Value.int (iI z))) (eog_o (by omega)).symm), hkp⟩) dX1_endOf_111
    · rw [if_pos (show k < ((t.length : Nat) : Int) by omega), if_pos (show k < ((t.length : Nat) : Int) by omega)]
      show Z X g (2 * kcC (t.length + 12 * σ.sh.cs.length) + 4 * σ.sh.cs.length - 4 * rnn i fr k σ.sh.cs - wC (u2, l2)) (2 * kcS (t.length + 12 * σ.sh.cs.length) + 31 * σ.sh.cs.length - 31 * rnn i fr k σ.sh.cs - wS (u2, l2)) [(6, .int (iI k)), (5, .int (iI e)), (4, .ref a2), (3, .ref lqq), (2, .int (iI fr)), (1, .int (iI i)), (0, .ref c)] 41 []
      have hst0 : (u2, l2) = lco t i σ.sh.cs fr (k - fr).toNat := hst (by omega)
      have hls0 : lco t i σ.sh.cs fr (k + 1 - fr).toNat = rco t i σ.sh.cs (u2, l2) k := by rw [hst0]; exact lco_s (by omega)
      have hlu := lay_u (T := t) (ln := i) rcr (fr := fr) (to := k + 1) (by omega)
      have hly := lco_lay (T := t) (ln := i) (cs := σ.sh.cs) (fr := fr) (to := k + 1)
      rw [hls0] at hly
      have hrm := rac_m t i k σ.sh.cs (u2, l2)
      have hrc : (rac t i k σ.sh.cs (u2, l2)).1.length ≤ (rco t i σ.sh.cs (u2, l2) k).1.length ∧ (rac t i k σ.sh.cs (u2, l2)).2.length ≤ (rco t i σ.sh.cs (u2, l2) k).2.length := ⟨Nat.le_refl _, by simp [rco]⟩
      have hrn0 := rnn_s (ln := i) (a := fr) (b := k) (by omega) σ.sh.cs
      have hrn1 := rnn_s (ln := i) (a := fr) (b := k + 1) (by omega) σ.sh.cs
      have hrn2 := rnn_le i fr (k + 1) σ.sh.cs
      have hrn3 := rnn_le i fr (k + 1 + 1) σ.sh.cs
      have hU : u2.length ≤ (rco t i σ.sh.cs (u2, l2) k).1.length := by have := hrm.1; simp only at this; omega
      have hV : l2.length ≤ (rco t i σ.sh.cs (u2, l2) k).2.length := by have := hrm.2; simp only at this; omega
      have hc1 : wC (u2, l2) ≤ wC (rco t i σ.sh.cs (u2, l2) k) := Nat.add_le_add (kc_m hU).1 (kc_m hV).1
      have hc2 : wS (u2, l2) ≤ wS (rco t i σ.sh.cs (u2, l2) k) := Nat.add_le_add (kc_m hU).2 (kc_m hV).2
      have hcR : wC (rco t i σ.sh.cs (u2, l2) k) ≤ 2 * kcC (t.length + 12 * σ.sh.cs.length) := by have h1 := kc_m (a := (rco t i σ.sh.cs (u2, l2) k).1.length) (b := (t.length + 12 * σ.sh.cs.length)) (by omega); have h2 := kc_m (a := (rco t i σ.sh.cs (u2, l2) k).2.length) (b := (t.length + 12 * σ.sh.cs.length)) (by omega); have h3 : wC (rco t i σ.sh.cs (u2, l2) k) = kcC (rco t i σ.sh.cs (u2, l2) k).1.length + kcC (rco t i σ.sh.cs (u2, l2) k).2.length := rfl; omega
      have hcS : wS (rco t i σ.sh.cs (u2, l2) k) ≤ 2 * kcS (t.length + 12 * σ.sh.cs.length) := by have h1 := kc_m (a := (rco t i σ.sh.cs (u2, l2) k).1.length) (b := (t.length + 12 * σ.sh.cs.length)) (by omega); have h2 := kc_m (a := (rco t i σ.sh.cs (u2, l2) k).2.length) (b := (t.length + 12 * σ.sh.cs.length)) (by omega); have h3 : wS (rco t i σ.sh.cs (u2, l2) k) = kcS (rco t i σ.sh.cs (u2, l2) k).1.length + kcS (rco t i σ.sh.cs (u2, l2) k).2.length := rfl; omega
      have hMc : (rco t i σ.sh.cs (u2, l2) k).1.length ≤ 1000 ∧ (rco t i σ.sh.cs (u2, l2) k).2.length ≤ 1000 := ⟨by omega, by omega⟩
      have hpe : ((rco t i σ.sh.cs (u2, l2) k).1, (rco t i σ.sh.cs (u2, l2) k).2) = (rco t i σ.sh.cs (u2, l2) k) := rfl
      obtain ⟨f0, hf0, hd0⟩ := hd
      obtain ⟨f1, rfl⟩ : ∃ f1, f0 = f1 + 1 := ⟨f0 - 1, by omega⟩
      refine z_aload (pc := 41) (j := 2) C dX1_endOf_41 rfl ?_
      refine z_iload (pc := 43) (j := 0) C dX1_endOf_43 rfl ?_
      refine z_callV (pc := 45) (n := 1) (kc' := ((2 * kcC (t.length + 12 * σ.sh.cs.length) + 4 * σ.sh.cs.length - 4 * rnn i fr k σ.sh.cs - wC (u2, l2)) - (wC (rco t i σ.sh.cs (u2, l2) k) + 4 * rcn i k σ.sh.cs - wC (u2, l2)))) (ks' := ((2 * kcS (t.length + 12 * σ.sh.cs.length) + 31 * σ.sh.cs.length - 31 * rnn i fr k σ.sh.cs - wS (u2, l2)) - (wS (rco t i σ.sh.cs (u2, l2) k) + 31 * rcn i k σ.sh.cs - wS (u2, l2)))) C (ct_W_addCol C.t hrwg (sAt.keep hkp hsq) hT hB1 hB2 hnb_5 hnx (hkp.n hc0 List.not_mem_nil) (hkp.n hsx List.not_mem_nil) (cqf hyl (hkp.n law List.not_mem_nil)) (hkp.n lew List.not_mem_nil) (clA.keep hkp hcl) ⟨by omega, by omega⟩ rcr (by omega) (k := k) (by omega) ⟨by omega, by omega⟩ hMc) (lw_V q1982 q1983 q1984 q106 q1985) (by decide +kernel) ⟨by decide, by decide⟩ hrwg rfl rfl rfl (Nat.le_of_ble_eq_true rfl) dX1_endOf_45 (by omega) (by omega) (zrk fun w h11 hp => ?_) zrx
      obtain ⟨rfl, vx_12, vy_12, hb1_12, hb2_12, hm1_12, hm2_12, hne_12, k13⟩ := hp
      have dvx_12 : vx_12 ∈ ([] : List Nat) ∨ h vx_12 = none := zmayM hm1_12 (zall_cons (Or.inr nbx_5) (zall_cons (Or.inr hm1) (zall_cons (Or.inr nby_5) (zall_cons (Or.inr hm2) zall_nil)))) hkp
      have dvy_12 : vy_12 ∈ ([] : List Nat) ∨ h vy_12 = none := zmayM hm2_12 (zall_cons (Or.inr nbx_5) (zall_cons (Or.inr hm1) (zall_cons (Or.inr nby_5) (zall_cons (Or.inr hm2) zall_nil)))) hkp
      have nvx_12 : h vx_12 = none := dvx_12.resolve_left List.not_mem_nil
      have nvy_12 : h vy_12 = none := dvy_12.resolve_left List.not_mem_nil
      have kh11 : zkeep h h11 [] := zkeep.loc hkp k13 (zall_cons (Or.inl (Or.symm (Or.inr nbx_5))) (zall_cons (Or.inl (Or.symm (Or.inr hm1))) (zall_cons (Or.inl (Or.symm (Or.inr nby_5))) (zall_cons (Or.inl (Or.symm (Or.inr hm2))) zall_nil))))
      have fh11_1 : h11 a2 = some (false, .inr (9, [.int (iI i), .ref lqq, .ref bx_5, .ref by_5, .ref c])) := k13.f hrwg
      have hx_14 := hb1_12
      obtain ⟨z_14, f_14, hb_14, hv_14, hlen_14, hcap_14, hcon_14, hfit_14, hasc_14⟩ := hx_14
      have hx_15 := hb2_12
      obtain ⟨z_15, f_15, hb_15, hv_15, hlen_15, hcap_15, hcon_15, hfit_15, hasc_15⟩ := hx_15
      show Z X h11 ((2 * kcC (t.length + 12 * σ.sh.cs.length) + 4 * σ.sh.cs.length - 4 * rnn i fr k σ.sh.cs - wC (u2, l2)) - (wC (rco t i σ.sh.cs (u2, l2) k) + 4 * rcn i k σ.sh.cs - wC (u2, l2))) ((2 * kcS (t.length + 12 * σ.sh.cs.length) + 31 * σ.sh.cs.length - 31 * rnn i fr k σ.sh.cs - wS (u2, l2)) - (wS (rco t i σ.sh.cs (u2, l2) k) + 31 * rcn i k σ.sh.cs - wS (u2, l2))) [(6, .int (iI k)), (5, .int (iI e)), (4, .ref a2), (3, .ref lqq), (2, .int (iI fr)), (1, .int (iI i)), (0, .ref c)] 48 []
      refine z_iload (pc := 48) (j := 0) C dX1_endOf_48 rfl ?_
      refine z_iconst (pc := 50) C dX1_endOf_50 ?_
      refine z_iadd (pc := 51) C dX1_endOf_51 ?_
      refine z_aload_n (pc := 52) (j := 3) C dX1_endOf_52 rfl rfl ?_
      refine z_callV (pc := 53) (n := 0) (kc' := ((2 * kcC (t.length + 12 * σ.sh.cs.length) + 4 * σ.sh.cs.length - 4 * rnn i fr k σ.sh.cs - wC (u2, l2)) - (wC (rco t i σ.sh.cs (u2, l2) k) + 4 * rcn i k σ.sh.cs - wC (u2, l2)))) (ks' := ((2 * kcS (t.length + 12 * σ.sh.cs.length) + 31 * σ.sh.cs.length - 31 * rnn i fr k σ.sh.cs - wS (u2, l2)) - (wS (rco t i σ.sh.cs (u2, l2) k) + 31 * rcn i k σ.sh.cs - wS (u2, l2)))) C (ct_S_length C.t (sAt.keep kh11 hsq)) (lw_V q1053 q468 q469 q83 q470) (by decide +kernel) ⟨by decide, by decide⟩ (kh11.f h1_1) rfl rfl rfl (Nat.le_of_ble_eq_true rfl) dX1_endOf_53 (by omega) (by omega) (zpk (st' := [.int (iI ((t.length : Nat) : Int)), .int (iI (k + 1))]) rfl ?_) zrx
      refine z_icmp_ne (pc := 56) (tgt := 68) C dX1_endOf_56 (by decide) (by omega) (by omega) (fun c56 => ?_) (fun c56 => ?_)
      · have hpc1 : wC ((rco t i σ.sh.cs (u2, l2) k).1, (rco t i σ.sh.cs (u2, l2) k).2) = wC (rco t i σ.sh.cs (u2, l2) k) := rfl
        have hpc2 : wS ((rco t i σ.sh.cs (u2, l2) k).1, (rco t i σ.sh.cs (u2, l2) k).2) = wS (rco t i σ.sh.cs (u2, l2) k) := rfl
        have hly5 : lay t i σ.sh.cs fr (k + 1) = ((rco t i σ.sh.cs (u2, l2) k).1, (rco t i σ.sh.cs (u2, l2) k).2) := by unfold lay; rw [if_neg (by omega), hls0]
        have hXl := hMc.1
        have hXm := hMc.2
        refine z_aload_n (pc := 68) (j := 3) C dX1_endOf_68 rfl rfl ?_
        refine z_iload (pc := 69) (j := 0) C dX1_endOf_69 rfl ?_
        refine z_iconst (pc := 71) C dX1_endOf_71 ?_
        refine z_iadd (pc := 72) C dX1_endOf_72 ?_
        refine z_callS (pc := 73) (n := 2) (kc' := ((2 * kcC (t.length + 12 * σ.sh.cs.length) + 4 * σ.sh.cs.length - 4 * rnn i fr k σ.sh.cs - wC (u2, l2)) - (wC (rco t i σ.sh.cs (u2, l2) k) + 4 * rcn i k σ.sh.cs - wC (u2, l2)))) (ks' := ((2 * kcS (t.length + 12 * σ.sh.cs.length) + 31 * σ.sh.cs.length - 31 * rnn i fr k σ.sh.cs - wS (u2, l2)) - (wS (rco t i σ.sh.cs (u2, l2) k) + 31 * rcn i k σ.sh.cs - wS (u2, l2)))) C (ct_brk C.t (sAt.keep kh11 hsq) hT (k := k + 1) (by omega)) (lw_S q2010 q2011 q63 q2012) (by decide +kernel) ⟨by decide, by decide⟩ rfl rfl (Nat.le_of_ble_eq_true rfl) dX1_endOf_73 (by omega) (by omega) (zpk (st' := [.int (iI (if brk t (k + 1) then 1 else 0))]) rfl ?_) zrx
        refine z_if_eq (pc := 76) (tgt := 101) C dX1_endOf_76 (by decide) (by omega) (fun c76 => ?_) (fun c76 => ?_)
        · refine z_iinc (pc := 101) (k := 0) (L' := [(6, .int (iI (k + 1))), (5, .int (iI e)), (4, .ref a2), (3, .ref lqq), (2, .int (iI fr)), (1, .int (iI i)), (0, .ref c)]) C dX1_endOf_101 rfl (by rw [hnL]; decide) rfl ?_
          refine z_goto (pc := 104) (tgt := 32) C dX1_endOf_104 (by decide) ?_
          refine Z.weak (L' := [(6, .int (iI (k + 1))), (5, .int (iI e)), (4, .ref a2), (3, .ref lqq), (2, .int (iI fr)), (1, .int (iI i)), (0, .ref c)]) (kc' := if (k + 1) < ((t.length : Nat) : Int) then 2 * kcC (t.length + 12 * σ.sh.cs.length) + 4 * σ.sh.cs.length - 4 * rnn i fr (k + 1) σ.sh.cs - wC (((rco t i σ.sh.cs (u2, l2) k).1), ((rco t i σ.sh.cs (u2, l2) k).2)) else 0) (ks' := if (k + 1) < ((t.length : Nat) : Int) then 2 * kcS (t.length + 12 * σ.sh.cs.length) + 31 * σ.sh.cs.length - 31 * rnn i fr (k + 1) σ.sh.cs - wS (((rco t i σ.sh.cs (u2, l2) k).1), ((rco t i σ.sh.cs (u2, l2) k).2)) else 0) [0, 1, 2, 3, 4, 5, 6] rfl (by first | omega | (split <;> omega)) (by first | omega | (split <;> omega)) ?_
          exact ih32 _ (by omega) (k + 1) h11 ((rco t i σ.sh.cs (u2, l2) k).1) ((rco t i σ.sh.cs (u2, l2) k).2) vx_12 vy_12 e (by omega) kh11 fh11_1 (fun _ => hls0.symm) hb1_12 hb2_12 nvx_12 nvy_12 hne_12 (by omega) ⟨f1, by omega, by rw [← hd0]; exact (eog_n (by omega) (by omega)).symm⟩ rfl
        · refine z_iload (pc := 79) (j := 1) C dX1_endOf_79 rfl ?_
          refine z_if_lt (pc := 81) (tgt := 95) C dX1_endOf_81 (by decide) (by omega) (fun c81 => ?_) (fun c81 => ?_)
          · refine z_iload (pc := 95) (j := 0) C dX1_endOf_95 rfl ?_
            refine z_iconst (pc := 97) C dX1_endOf_97 ?_
            refine z_iadd (pc := 98) C dX1_endOf_98 ?_
            refine z_istore (pc := 99) (L' := [(5, .int (iI (k + 1))), (6, .int (iI k)), (4, .ref a2), (3, .ref lqq), (2, .int (iI fr)), (1, .int (iI i)), (0, .ref c)]) C dX1_endOf_99 (by rw [hnL]; decide) rfl ?_
            refine z_iinc (pc := 101) (k := 1) (L' := [(6, .int (iI (k + 1))), (5, .int (iI (k + 1))), (4, .ref a2), (3, .ref lqq), (2, .int (iI fr)), (1, .int (iI i)), (0, .ref c)]) C dX1_endOf_101 rfl (by rw [hnL]; decide) rfl ?_
            refine z_goto (pc := 104) (tgt := 32) C dX1_endOf_104 (by decide) ?_
            refine Z.weak (L' := [(6, .int (iI (k + 1))), (5, .int (iI (k + 1))), (4, .ref a2), (3, .ref lqq), (2, .int (iI fr)), (1, .int (iI i)), (0, .ref c)]) (kc' := if (k + 1) < ((t.length : Nat) : Int) then 2 * kcC (t.length + 12 * σ.sh.cs.length) + 4 * σ.sh.cs.length - 4 * rnn i fr (k + 1) σ.sh.cs - wC (((rco t i σ.sh.cs (u2, l2) k).1), ((rco t i σ.sh.cs (u2, l2) k).2)) else 0) (ks' := if (k + 1) < ((t.length : Nat) : Int) then 2 * kcS (t.length + 12 * σ.sh.cs.length) + 31 * σ.sh.cs.length - 31 * rnn i fr (k + 1) σ.sh.cs - wS (((rco t i σ.sh.cs (u2, l2) k).1), ((rco t i σ.sh.cs (u2, l2) k).2)) else 0) [0, 1, 2, 3, 4, 5, 6] rfl (by first | omega | (split <;> omega)) (by first | omega | (split <;> omega)) ?_
            exact ih32 _ (by omega) (k + 1) h11 ((rco t i σ.sh.cs (u2, l2) k).1) ((rco t i σ.sh.cs (u2, l2) k).2) vx_12 vy_12 (k + 1) (by omega) kh11 fh11_1 (fun _ => hls0.symm) hb1_12 hb2_12 nvx_12 nvy_12 hne_12 (by omega) ⟨f1, by omega, by rw [← hd0]; exact (eog_e (by omega) (by omega) (by rw [hly5]; omega)).symm⟩ rfl
          · refine z_aload (pc := 84) (j := 2) C dX1_endOf_84 rfl ?_
            refine z_callV (pc := 86) (n := 0) (kc' := ((2 * kcC (t.length + 12 * σ.sh.cs.length) + 4 * σ.sh.cs.length - 4 * rnn i fr k σ.sh.cs - wC (u2, l2)) - (wC (rco t i σ.sh.cs (u2, l2) k) + 4 * rcn i k σ.sh.cs - wC (u2, l2)))) (ks' := ((2 * kcS (t.length + 12 * σ.sh.cs.length) + 31 * σ.sh.cs.length - 31 * rnn i fr k σ.sh.cs - wS (u2, l2)) - (wS (rco t i σ.sh.cs (u2, l2) k) + 31 * rcn i k σ.sh.cs - wS (u2, l2)))) C (ct_W_fits C.t fh11_1 (sAt.keep kh11 hsq) hT hb1_12 hb2_12 hnb_5 hne_12 (wd := σ.wd) (by omega) (by omega) (by omega) (kh11.n hc0 List.not_mem_nil)) (lw_V q2013 q2014 q2015 q106 q2016) (by decide +kernel) ⟨by decide, by decide⟩ fh11_1 rfl rfl rfl (Nat.le_of_ble_eq_true rfl) dX1_endOf_86 (by omega) (by omega) (zpk (st' := [.int (iI (if fts σ.wd (((rco t i σ.sh.cs (u2, l2) k).1), ((rco t i σ.sh.cs (u2, l2) k).2)) then 1 else 0))]) rfl ?_) zrx
            refine z_if_ne (pc := 89) (tgt := 95) C dX1_endOf_89 (by decide) (by omega) (fun c89 => ?_) (fun c89 => ?_)
            · refine z_iload (pc := 95) (j := 0) C dX1_endOf_95 rfl ?_
              refine z_iconst (pc := 97) C dX1_endOf_97 ?_
              refine z_iadd (pc := 98) C dX1_endOf_98 ?_
              refine z_istore (pc := 99) (L' := [(5, .int (iI (k + 1))), (6, .int (iI k)), (4, .ref a2), (3, .ref lqq), (2, .int (iI fr)), (1, .int (iI i)), (0, .ref c)]) C dX1_endOf_99 (by rw [hnL]; decide) rfl ?_
              refine z_iinc (pc := 101) (k := 1) (L' := [(6, .int (iI (k + 1))), (5, .int (iI (k + 1))), (4, .ref a2), (3, .ref lqq), (2, .int (iI fr)), (1, .int (iI i)), (0, .ref c)]) C dX1_endOf_101 rfl (by rw [hnL]; decide) rfl ?_
              refine z_goto (pc := 104) (tgt := 32) C dX1_endOf_104 (by decide) ?_
              refine Z.weak (L' := [(6, .int (iI (k + 1))), (5, .int (iI (k + 1))), (4, .ref a2), (3, .ref lqq), (2, .int (iI fr)), (1, .int (iI i)), (0, .ref c)]) (kc' := if (k + 1) < ((t.length : Nat) : Int) then 2 * kcC (t.length + 12 * σ.sh.cs.length) + 4 * σ.sh.cs.length - 4 * rnn i fr (k + 1) σ.sh.cs - wC (((rco t i σ.sh.cs (u2, l2) k).1), ((rco t i σ.sh.cs (u2, l2) k).2)) else 0) (ks' := if (k + 1) < ((t.length : Nat) : Int) then 2 * kcS (t.length + 12 * σ.sh.cs.length) + 31 * σ.sh.cs.length - 31 * rnn i fr (k + 1) σ.sh.cs - wS (((rco t i σ.sh.cs (u2, l2) k).1), ((rco t i σ.sh.cs (u2, l2) k).2)) else 0) [0, 1, 2, 3, 4, 5, 6] rfl (by first | omega | (split <;> omega)) (by first | omega | (split <;> omega)) ?_
              exact ih32 _ (by omega) (k + 1) h11 ((rco t i σ.sh.cs (u2, l2) k).1) ((rco t i σ.sh.cs (u2, l2) k).2) vx_12 vy_12 (k + 1) (by omega) kh11 fh11_1 (fun _ => hls0.symm) hb1_12 hb2_12 nvx_12 nvy_12 hne_12 (by omega) ⟨f1, by omega, by rw [← hd0]; exact (eog_e (by omega) (by omega) (by rw [hly5]; omega)).symm⟩ rfl
            · refine z_iload (pc := 92) (j := 1) C dX1_endOf_92 rfl ?_
              exact z_ireturn (pc := 94) C (by rw [hXp]; exact ⟨_, rfl, (by rw [← hd0]; exact congrArg (fun z => some (Value.int (iI z))) (eog_r (by omega) (by omega) (by omega) (by rw [hly5]; omega)).symm), kh11⟩) dX1_endOf_94
      · have hly2 : lay t i σ.sh.cs fr (k + 1) = (rac t i (k + 1) σ.sh.cs ((rco t i σ.sh.cs (u2, l2) k).1, (rco t i σ.sh.cs (u2, l2) k).2)) := by unfold lay; rw [if_pos (by omega), hls0]
        rw [hly2] at hlu
        have hrm2 := rac_m t i (k + 1) σ.sh.cs ((rco t i σ.sh.cs (u2, l2) k).1, (rco t i σ.sh.cs (u2, l2) k).2)
        have hMx : (rac t i (k + 1) σ.sh.cs ((rco t i σ.sh.cs (u2, l2) k).1, (rco t i σ.sh.cs (u2, l2) k).2)).1.length ≤ 1000 ∧ (rac t i (k + 1) σ.sh.cs ((rco t i σ.sh.cs (u2, l2) k).1, (rco t i σ.sh.cs (u2, l2) k).2)).2.length ≤ 1000 := ⟨by omega, by omega⟩
        have hc3 : wC (rco t i σ.sh.cs (u2, l2) k) ≤ wC (rac t i (k + 1) σ.sh.cs ((rco t i σ.sh.cs (u2, l2) k).1, (rco t i σ.sh.cs (u2, l2) k).2)) := Nat.add_le_add (kc_m hrm2.1).1 (kc_m hrm2.2).1
        have hc4 : wS (rco t i σ.sh.cs (u2, l2) k) ≤ wS (rac t i (k + 1) σ.sh.cs ((rco t i σ.sh.cs (u2, l2) k).1, (rco t i σ.sh.cs (u2, l2) k).2)) := Nat.add_le_add (kc_m hrm2.1).2 (kc_m hrm2.2).2
        have hcX : wC (rac t i (k + 1) σ.sh.cs ((rco t i σ.sh.cs (u2, l2) k).1, (rco t i σ.sh.cs (u2, l2) k).2)) ≤ 2 * kcC (t.length + 12 * σ.sh.cs.length) := by have h1 := kc_m (a := (rac t i (k + 1) σ.sh.cs ((rco t i σ.sh.cs (u2, l2) k).1, (rco t i σ.sh.cs (u2, l2) k).2)).1.length) (b := (t.length + 12 * σ.sh.cs.length)) (by omega); have h2 := kc_m (a := (rac t i (k + 1) σ.sh.cs ((rco t i σ.sh.cs (u2, l2) k).1, (rco t i σ.sh.cs (u2, l2) k).2)).2.length) (b := (t.length + 12 * σ.sh.cs.length)) (by omega); have h3 : wC (rac t i (k + 1) σ.sh.cs ((rco t i σ.sh.cs (u2, l2) k).1, (rco t i σ.sh.cs (u2, l2) k).2)) = kcC (rac t i (k + 1) σ.sh.cs ((rco t i σ.sh.cs (u2, l2) k).1, (rco t i σ.sh.cs (u2, l2) k).2)).1.length + kcC (rac t i (k + 1) σ.sh.cs ((rco t i σ.sh.cs (u2, l2) k).1, (rco t i σ.sh.cs (u2, l2) k).2)).2.length := rfl; omega
        have hcY : wS (rac t i (k + 1) σ.sh.cs ((rco t i σ.sh.cs (u2, l2) k).1, (rco t i σ.sh.cs (u2, l2) k).2)) ≤ 2 * kcS (t.length + 12 * σ.sh.cs.length) := by have h1 := kc_m (a := (rac t i (k + 1) σ.sh.cs ((rco t i σ.sh.cs (u2, l2) k).1, (rco t i σ.sh.cs (u2, l2) k).2)).1.length) (b := (t.length + 12 * σ.sh.cs.length)) (by omega); have h2 := kc_m (a := (rac t i (k + 1) σ.sh.cs ((rco t i σ.sh.cs (u2, l2) k).1, (rco t i σ.sh.cs (u2, l2) k).2)).2.length) (b := (t.length + 12 * σ.sh.cs.length)) (by omega); have h3 : wS (rac t i (k + 1) σ.sh.cs ((rco t i σ.sh.cs (u2, l2) k).1, (rco t i σ.sh.cs (u2, l2) k).2)) = kcS (rac t i (k + 1) σ.sh.cs ((rco t i σ.sh.cs (u2, l2) k).1, (rco t i σ.sh.cs (u2, l2) k).2)).1.length + kcS (rac t i (k + 1) σ.sh.cs ((rco t i σ.sh.cs (u2, l2) k).1, (rco t i σ.sh.cs (u2, l2) k).2)).2.length := rfl; omega
        have hpe2 : ((rac t i (k + 1) σ.sh.cs ((rco t i σ.sh.cs (u2, l2) k).1, (rco t i σ.sh.cs (u2, l2) k).2)).1, (rac t i (k + 1) σ.sh.cs ((rco t i σ.sh.cs (u2, l2) k).1, (rco t i σ.sh.cs (u2, l2) k).2)).2) = (rac t i (k + 1) σ.sh.cs ((rco t i σ.sh.cs (u2, l2) k).1, (rco t i σ.sh.cs (u2, l2) k).2)) := rfl
        have hpe3 : wC ((rco t i σ.sh.cs (u2, l2) k).1, (rco t i σ.sh.cs (u2, l2) k).2) = wC (rco t i σ.sh.cs (u2, l2) k) := rfl
        have hpe4 : wS ((rco t i σ.sh.cs (u2, l2) k).1, (rco t i σ.sh.cs (u2, l2) k).2) = wS (rco t i σ.sh.cs (u2, l2) k) := rfl
        refine z_aload (pc := 59) (j := 2) C dX1_endOf_59 rfl ?_
        refine z_iload (pc := 61) (j := 0) C dX1_endOf_61 rfl ?_
        refine z_iconst (pc := 63) C dX1_endOf_63 ?_
        refine z_iadd (pc := 64) C dX1_endOf_64 ?_
        refine z_callV (pc := 65) (n := 1) (kc' := (((2 * kcC (t.length + 12 * σ.sh.cs.length) + 4 * σ.sh.cs.length - 4 * rnn i fr k σ.sh.cs - wC (u2, l2)) - (wC (rco t i σ.sh.cs (u2, l2) k) + 4 * rcn i k σ.sh.cs - wC (u2, l2))) - (wC (rac t i (k + 1) σ.sh.cs (((rco t i σ.sh.cs (u2, l2) k).1), ((rco t i σ.sh.cs (u2, l2) k).2))) + 4 * rcn i (k + 1) σ.sh.cs - wC (((rco t i σ.sh.cs (u2, l2) k).1), ((rco t i σ.sh.cs (u2, l2) k).2))))) (ks' := (((2 * kcS (t.length + 12 * σ.sh.cs.length) + 31 * σ.sh.cs.length - 31 * rnn i fr k σ.sh.cs - wS (u2, l2)) - (wS (rco t i σ.sh.cs (u2, l2) k) + 31 * rcn i k σ.sh.cs - wS (u2, l2))) - (wS (rac t i (k + 1) σ.sh.cs (((rco t i σ.sh.cs (u2, l2) k).1), ((rco t i σ.sh.cs (u2, l2) k).2))) + 31 * rcn i (k + 1) σ.sh.cs - wS (((rco t i σ.sh.cs (u2, l2) k).1), ((rco t i σ.sh.cs (u2, l2) k).2))))) C (ct_W_addC C.t fh11_1 (sAt.keep kh11 hsq) hT hb1_12 hb2_12 hnb_5 hne_12 (kh11.n hc0 List.not_mem_nil) (kh11.n hsx List.not_mem_nil) (cqf hyl (kh11.n law List.not_mem_nil)) (kh11.n lew List.not_mem_nil) (clA.keep kh11 hcl) ⟨by omega, by omega⟩ rcr (by omega) (col := k + 1) (by omega) ⟨by omega, by omega⟩ hMx) (lw_V q2009 q1987 q1988 q106 q1989) (by decide +kernel) ⟨by decide, by decide⟩ fh11_1 rfl rfl rfl (Nat.le_of_ble_eq_true rfl) dX1_endOf_65 (by omega) (by omega) (zrk fun w h16 hp => ?_) zrx
        obtain ⟨rfl, vx_17, vy_17, hb1_17, hb2_17, hm1_17, hm2_17, hne_17, k18⟩ := hp
        have dvx_17 : vx_17 ∈ ([] : List Nat) ∨ h vx_17 = none := zmayM hm1_17 (zall_cons (Or.inr nbx_5) (zall_cons dvx_12 (zall_cons (Or.inr nby_5) (zall_cons dvy_12 zall_nil)))) kh11
        have dvy_17 : vy_17 ∈ ([] : List Nat) ∨ h vy_17 = none := zmayM hm2_17 (zall_cons (Or.inr nbx_5) (zall_cons dvx_12 (zall_cons (Or.inr nby_5) (zall_cons dvy_12 zall_nil)))) kh11
        have nvx_17 : h vx_17 = none := dvx_17.resolve_left List.not_mem_nil
        have nvy_17 : h vy_17 = none := dvy_17.resolve_left List.not_mem_nil
        have kh16 : zkeep h h16 [] := zkeep.loc kh11 k18 (zall_cons (Or.inl (Or.symm (Or.inr nbx_5))) (zall_cons (Or.inl (Or.symm dvx_12)) (zall_cons (Or.inl (Or.symm (Or.inr nby_5))) (zall_cons (Or.inl (Or.symm dvy_12)) zall_nil))))
        have fh16_1 : h16 a2 = some (false, .inr (9, [.int (iI i), .ref lqq, .ref bx_5, .ref by_5, .ref c])) := k18.f fh11_1
        have hx_19 := hb1_17
        obtain ⟨z_19, f_19, hb_19, hv_19, hlen_19, hcap_19, hcon_19, hfit_19, hasc_19⟩ := hx_19
        have hx_20 := hb2_17
        obtain ⟨z_20, f_20, hb_20, hv_20, hlen_20, hcap_20, hcon_20, hfit_20, hasc_20⟩ := hx_20
        show Z X h16 (((2 * kcC (t.length + 12 * σ.sh.cs.length) + 4 * σ.sh.cs.length - 4 * rnn i fr k σ.sh.cs - wC (u2, l2)) - (wC (rco t i σ.sh.cs (u2, l2) k) + 4 * rcn i k σ.sh.cs - wC (u2, l2))) - (wC (rac t i (k + 1) σ.sh.cs (((rco t i σ.sh.cs (u2, l2) k).1), ((rco t i σ.sh.cs (u2, l2) k).2))) + 4 * rcn i (k + 1) σ.sh.cs - wC (((rco t i σ.sh.cs (u2, l2) k).1), ((rco t i σ.sh.cs (u2, l2) k).2)))) (((2 * kcS (t.length + 12 * σ.sh.cs.length) + 31 * σ.sh.cs.length - 31 * rnn i fr k σ.sh.cs - wS (u2, l2)) - (wS (rco t i σ.sh.cs (u2, l2) k) + 31 * rcn i k σ.sh.cs - wS (u2, l2))) - (wS (rac t i (k + 1) σ.sh.cs (((rco t i σ.sh.cs (u2, l2) k).1), ((rco t i σ.sh.cs (u2, l2) k).2))) + 31 * rcn i (k + 1) σ.sh.cs - wS (((rco t i σ.sh.cs (u2, l2) k).1), ((rco t i σ.sh.cs (u2, l2) k).2)))) [(6, .int (iI k)), (5, .int (iI e)), (4, .ref a2), (3, .ref lqq), (2, .int (iI fr)), (1, .int (iI i)), (0, .ref c)] 68 []
        have hpc1 : wC ((rco t i σ.sh.cs (u2, l2) k).1, (rco t i σ.sh.cs (u2, l2) k).2) = wC (rco t i σ.sh.cs (u2, l2) k) := rfl
        have hpc2 : wS ((rco t i σ.sh.cs (u2, l2) k).1, (rco t i σ.sh.cs (u2, l2) k).2) = wS (rco t i σ.sh.cs (u2, l2) k) := rfl
        have hly5 : lay t i σ.sh.cs fr (k + 1) = ((rac t i (k + 1) σ.sh.cs ((rco t i σ.sh.cs (u2, l2) k).1, (rco t i σ.sh.cs (u2, l2) k).2)).1, (rac t i (k + 1) σ.sh.cs ((rco t i σ.sh.cs (u2, l2) k).1, (rco t i σ.sh.cs (u2, l2) k).2)).2) := hly2
        have hpc3 : wC ((rac t i (k + 1) σ.sh.cs ((rco t i σ.sh.cs (u2, l2) k).1, (rco t i σ.sh.cs (u2, l2) k).2)).1, (rac t i (k + 1) σ.sh.cs ((rco t i σ.sh.cs (u2, l2) k).1, (rco t i σ.sh.cs (u2, l2) k).2)).2) = wC (rac t i (k + 1) σ.sh.cs ((rco t i σ.sh.cs (u2, l2) k).1, (rco t i σ.sh.cs (u2, l2) k).2)) := rfl
        have hpc4 : wS ((rac t i (k + 1) σ.sh.cs ((rco t i σ.sh.cs (u2, l2) k).1, (rco t i σ.sh.cs (u2, l2) k).2)).1, (rac t i (k + 1) σ.sh.cs ((rco t i σ.sh.cs (u2, l2) k).1, (rco t i σ.sh.cs (u2, l2) k).2)).2) = wS (rac t i (k + 1) σ.sh.cs ((rco t i σ.sh.cs (u2, l2) k).1, (rco t i σ.sh.cs (u2, l2) k).2)) := rfl
        have hXl := hMx.1
        have hXm := hMx.2
        refine z_aload_n (pc := 68) (j := 3) C dX1_endOf_68 rfl rfl ?_
        refine z_iload (pc := 69) (j := 0) C dX1_endOf_69 rfl ?_
        refine z_iconst (pc := 71) C dX1_endOf_71 ?_
        refine z_iadd (pc := 72) C dX1_endOf_72 ?_
        refine z_callS (pc := 73) (n := 2) (kc' := (((2 * kcC (t.length + 12 * σ.sh.cs.length) + 4 * σ.sh.cs.length - 4 * rnn i fr k σ.sh.cs - wC (u2, l2)) - (wC (rco t i σ.sh.cs (u2, l2) k) + 4 * rcn i k σ.sh.cs - wC (u2, l2))) - (wC (rac t i (k + 1) σ.sh.cs (((rco t i σ.sh.cs (u2, l2) k).1), ((rco t i σ.sh.cs (u2, l2) k).2))) + 4 * rcn i (k + 1) σ.sh.cs - wC (((rco t i σ.sh.cs (u2, l2) k).1), ((rco t i σ.sh.cs (u2, l2) k).2))))) (ks' := (((2 * kcS (t.length + 12 * σ.sh.cs.length) + 31 * σ.sh.cs.length - 31 * rnn i fr k σ.sh.cs - wS (u2, l2)) - (wS (rco t i σ.sh.cs (u2, l2) k) + 31 * rcn i k σ.sh.cs - wS (u2, l2))) - (wS (rac t i (k + 1) σ.sh.cs (((rco t i σ.sh.cs (u2, l2) k).1), ((rco t i σ.sh.cs (u2, l2) k).2))) + 31 * rcn i (k + 1) σ.sh.cs - wS (((rco t i σ.sh.cs (u2, l2) k).1), ((rco t i σ.sh.cs (u2, l2) k).2))))) C (ct_brk C.t (sAt.keep kh16 hsq) hT (k := k + 1) (by omega)) (lw_S q2010 q2011 q63 q2012) (by decide +kernel) ⟨by decide, by decide⟩ rfl rfl (Nat.le_of_ble_eq_true rfl) dX1_endOf_73 (by omega) (by omega) (zpk (st' := [.int (iI (if brk t (k + 1) then 1 else 0))]) rfl ?_) zrx
        refine z_if_eq (pc := 76) (tgt := 101) C dX1_endOf_76 (by decide) (by omega) (fun c76 => ?_) (fun c76 => ?_)
        · refine z_iinc (pc := 101) (k := 0) (L' := [(6, .int (iI (k + 1))), (5, .int (iI e)), (4, .ref a2), (3, .ref lqq), (2, .int (iI fr)), (1, .int (iI i)), (0, .ref c)]) C dX1_endOf_101 rfl (by rw [hnL]; decide) rfl ?_
          refine z_goto (pc := 104) (tgt := 32) C dX1_endOf_104 (by decide) ?_
          refine Z.weak (L' := [(6, .int (iI (k + 1))), (5, .int (iI e)), (4, .ref a2), (3, .ref lqq), (2, .int (iI fr)), (1, .int (iI i)), (0, .ref c)]) (kc' := if (k + 1) < ((t.length : Nat) : Int) then 2 * kcC (t.length + 12 * σ.sh.cs.length) + 4 * σ.sh.cs.length - 4 * rnn i fr (k + 1) σ.sh.cs - wC (((rac t i (k + 1) σ.sh.cs (((rco t i σ.sh.cs (u2, l2) k).1), ((rco t i σ.sh.cs (u2, l2) k).2))).1), ((rac t i (k + 1) σ.sh.cs (((rco t i σ.sh.cs (u2, l2) k).1), ((rco t i σ.sh.cs (u2, l2) k).2))).2)) else 0) (ks' := if (k + 1) < ((t.length : Nat) : Int) then 2 * kcS (t.length + 12 * σ.sh.cs.length) + 31 * σ.sh.cs.length - 31 * rnn i fr (k + 1) σ.sh.cs - wS (((rac t i (k + 1) σ.sh.cs (((rco t i σ.sh.cs (u2, l2) k).1), ((rco t i σ.sh.cs (u2, l2) k).2))).1), ((rac t i (k + 1) σ.sh.cs (((rco t i σ.sh.cs (u2, l2) k).1), ((rco t i σ.sh.cs (u2, l2) k).2))).2)) else 0) [0, 1, 2, 3, 4, 5, 6] rfl (by first | omega | (split <;> omega)) (by first | omega | (split <;> omega)) ?_
          exact ih32 _ (by omega) (k + 1) h16 ((rac t i (k + 1) σ.sh.cs (((rco t i σ.sh.cs (u2, l2) k).1), ((rco t i σ.sh.cs (u2, l2) k).2))).1) ((rac t i (k + 1) σ.sh.cs (((rco t i σ.sh.cs (u2, l2) k).1), ((rco t i σ.sh.cs (u2, l2) k).2))).2) vx_17 vy_17 e (by omega) kh16 fh16_1 (fun z => by omega) hb1_17 hb2_17 nvx_17 nvy_17 hne_17 (by omega) ⟨f1, by omega, by rw [← hd0]; exact (eog_n (by omega) (by omega)).symm⟩ rfl
        · refine z_iload (pc := 79) (j := 1) C dX1_endOf_79 rfl ?_
          refine z_if_lt (pc := 81) (tgt := 95) C dX1_endOf_81 (by decide) (by omega) (fun c81 => ?_) (fun c81 => ?_)
          · refine z_iload (pc := 95) (j := 0) C dX1_endOf_95 rfl ?_
            refine z_iconst (pc := 97) C dX1_endOf_97 ?_
            refine z_iadd (pc := 98) C dX1_endOf_98 ?_
            refine z_istore (pc := 99) (L' := [(5, .int (iI (k + 1))), (6, .int (iI k)), (4, .ref a2), (3, .ref lqq), (2, .int (iI fr)), (1, .int (iI i)), (0, .ref c)]) C dX1_endOf_99 (by rw [hnL]; decide) rfl ?_
            refine z_iinc (pc := 101) (k := 1) (L' := [(6, .int (iI (k + 1))), (5, .int (iI (k + 1))), (4, .ref a2), (3, .ref lqq), (2, .int (iI fr)), (1, .int (iI i)), (0, .ref c)]) C dX1_endOf_101 rfl (by rw [hnL]; decide) rfl ?_
            refine z_goto (pc := 104) (tgt := 32) C dX1_endOf_104 (by decide) ?_
            refine Z.weak (L' := [(6, .int (iI (k + 1))), (5, .int (iI (k + 1))), (4, .ref a2), (3, .ref lqq), (2, .int (iI fr)), (1, .int (iI i)), (0, .ref c)]) (kc' := if (k + 1) < ((t.length : Nat) : Int) then 2 * kcC (t.length + 12 * σ.sh.cs.length) + 4 * σ.sh.cs.length - 4 * rnn i fr (k + 1) σ.sh.cs - wC (((rac t i (k + 1) σ.sh.cs (((rco t i σ.sh.cs (u2, l2) k).1), ((rco t i σ.sh.cs (u2, l2) k).2))).1), ((rac t i (k + 1) σ.sh.cs (((rco t i σ.sh.cs (u2, l2) k).1), ((rco t i σ.sh.cs (u2, l2) k).2))).2)) else 0) (ks' := if (k + 1) < ((t.length : Nat) : Int) then 2 * kcS (t.length + 12 * σ.sh.cs.length) + 31 * σ.sh.cs.length - 31 * rnn i fr (k + 1) σ.sh.cs - wS (((rac t i (k + 1) σ.sh.cs (((rco t i σ.sh.cs (u2, l2) k).1), ((rco t i σ.sh.cs (u2, l2) k).2))).1), ((rac t i (k + 1) σ.sh.cs (((rco t i σ.sh.cs (u2, l2) k).1), ((rco t i σ.sh.cs (u2, l2) k).2))).2)) else 0) [0, 1, 2, 3, 4, 5, 6] rfl (by first | omega | (split <;> omega)) (by first | omega | (split <;> omega)) ?_
            exact ih32 _ (by omega) (k + 1) h16 ((rac t i (k + 1) σ.sh.cs (((rco t i σ.sh.cs (u2, l2) k).1), ((rco t i σ.sh.cs (u2, l2) k).2))).1) ((rac t i (k + 1) σ.sh.cs (((rco t i σ.sh.cs (u2, l2) k).1), ((rco t i σ.sh.cs (u2, l2) k).2))).2) vx_17 vy_17 (k + 1) (by omega) kh16 fh16_1 (fun z => by omega) hb1_17 hb2_17 nvx_17 nvy_17 hne_17 (by omega) ⟨f1, by omega, by rw [← hd0]; exact (eog_e (by omega) (by omega) (by rw [hly5]; omega)).symm⟩ rfl
          · refine z_aload (pc := 84) (j := 2) C dX1_endOf_84 rfl ?_
            refine z_callV (pc := 86) (n := 0) (kc' := (((2 * kcC (t.length + 12 * σ.sh.cs.length) + 4 * σ.sh.cs.length - 4 * rnn i fr k σ.sh.cs - wC (u2, l2)) - (wC (rco t i σ.sh.cs (u2, l2) k) + 4 * rcn i k σ.sh.cs - wC (u2, l2))) - (wC (rac t i (k + 1) σ.sh.cs (((rco t i σ.sh.cs (u2, l2) k).1), ((rco t i σ.sh.cs (u2, l2) k).2))) + 4 * rcn i (k + 1) σ.sh.cs - wC (((rco t i σ.sh.cs (u2, l2) k).1), ((rco t i σ.sh.cs (u2, l2) k).2))))) (ks' := (((2 * kcS (t.length + 12 * σ.sh.cs.length) + 31 * σ.sh.cs.length - 31 * rnn i fr k σ.sh.cs - wS (u2, l2)) - (wS (rco t i σ.sh.cs (u2, l2) k) + 31 * rcn i k σ.sh.cs - wS (u2, l2))) - (wS (rac t i (k + 1) σ.sh.cs (((rco t i σ.sh.cs (u2, l2) k).1), ((rco t i σ.sh.cs (u2, l2) k).2))) + 31 * rcn i (k + 1) σ.sh.cs - wS (((rco t i σ.sh.cs (u2, l2) k).1), ((rco t i σ.sh.cs (u2, l2) k).2))))) C (ct_W_fits C.t fh16_1 (sAt.keep kh16 hsq) hT hb1_17 hb2_17 hnb_5 hne_17 (wd := σ.wd) (by omega) (by omega) (by omega) (kh16.n hc0 List.not_mem_nil)) (lw_V q2013 q2014 q2015 q106 q2016) (by decide +kernel) ⟨by decide, by decide⟩ fh16_1 rfl rfl rfl (Nat.le_of_ble_eq_true rfl) dX1_endOf_86 (by omega) (by omega) (zpk (st' := [.int (iI (if fts σ.wd (((rac t i (k + 1) σ.sh.cs (((rco t i σ.sh.cs (u2, l2) k).1), ((rco t i σ.sh.cs (u2, l2) k).2))).1), ((rac t i (k + 1) σ.sh.cs (((rco t i σ.sh.cs (u2, l2) k).1), ((rco t i σ.sh.cs (u2, l2) k).2))).2)) then 1 else 0))]) rfl ?_) zrx
            refine z_if_ne (pc := 89) (tgt := 95) C dX1_endOf_89 (by decide) (by omega) (fun c89 => ?_) (fun c89 => ?_)
            · refine z_iload (pc := 95) (j := 0) C dX1_endOf_95 rfl ?_
              refine z_iconst (pc := 97) C dX1_endOf_97 ?_
              refine z_iadd (pc := 98) C dX1_endOf_98 ?_
              refine z_istore (pc := 99) (L' := [(5, .int (iI (k + 1))), (6, .int (iI k)), (4, .ref a2), (3, .ref lqq), (2, .int (iI fr)), (1, .int (iI i)), (0, .ref c)]) C dX1_endOf_99 (by rw [hnL]; decide) rfl ?_
              refine z_iinc (pc := 101) (k := 1) (L' := [(6, .int (iI (k + 1))), (5, .int (iI (k + 1))), (4, .ref a2), (3, .ref lqq), (2, .int (iI fr)), (1, .int (iI i)), (0, .ref c)]) C dX1_endOf_101 rfl (by rw [hnL]; decide) rfl ?_
              refine z_goto (pc := 104) (tgt := 32) C dX1_endOf_104 (by decide) ?_
              refine Z.weak (L' := [(6, .int (iI (k + 1))), (5, .int (iI (k + 1))), (4, .ref a2), (3, .ref lqq), (2, .int (iI fr)), (1, .int (iI i)), (0, .ref c)]) (kc' := if (k + 1) < ((t.length : Nat) : Int) then 2 * kcC (t.length + 12 * σ.sh.cs.length) + 4 * σ.sh.cs.length - 4 * rnn i fr (k + 1) σ.sh.cs - wC (((rac t i (k + 1) σ.sh.cs (((rco t i σ.sh.cs (u2, l2) k).1), ((rco t i σ.sh.cs (u2, l2) k).2))).1), ((rac t i (k + 1) σ.sh.cs (((rco t i σ.sh.cs (u2, l2) k).1), ((rco t i σ.sh.cs (u2, l2) k).2))).2)) else 0) (ks' := if (k + 1) < ((t.length : Nat) : Int) then 2 * kcS (t.length + 12 * σ.sh.cs.length) + 31 * σ.sh.cs.length - 31 * rnn i fr (k + 1) σ.sh.cs - wS (((rac t i (k + 1) σ.sh.cs (((rco t i σ.sh.cs (u2, l2) k).1), ((rco t i σ.sh.cs (u2, l2) k).2))).1), ((rac t i (k + 1) σ.sh.cs (((rco t i σ.sh.cs (u2, l2) k).1), ((rco t i σ.sh.cs (u2, l2) k).2))).2)) else 0) [0, 1, 2, 3, 4, 5, 6] rfl (by first | omega | (split <;> omega)) (by first | omega | (split <;> omega)) ?_
              exact ih32 _ (by omega) (k + 1) h16 ((rac t i (k + 1) σ.sh.cs (((rco t i σ.sh.cs (u2, l2) k).1), ((rco t i σ.sh.cs (u2, l2) k).2))).1) ((rac t i (k + 1) σ.sh.cs (((rco t i σ.sh.cs (u2, l2) k).1), ((rco t i σ.sh.cs (u2, l2) k).2))).2) vx_17 vy_17 (k + 1) (by omega) kh16 fh16_1 (fun z => by omega) hb1_17 hb2_17 nvx_17 nvy_17 hne_17 (by omega) ⟨f1, by omega, by rw [← hd0]; exact (eog_e (by omega) (by omega) (by rw [hly5]; omega)).symm⟩ rfl
            · refine z_iload (pc := 92) (j := 1) C dX1_endOf_92 rfl ?_
              exact z_ireturn (pc := 94) C (by rw [hXp]; exact ⟨_, rfl, (by rw [← hd0]; exact congrArg (fun z => some (Value.int (iI z))) (eog_r (by omega) (by omega) (by omega) (by rw [hly5]; omega)).symm), kh16⟩) dX1_endOf_94
  refine Z.weak (L' := [(6, .int (iI fr)), (5, .int (iI (-1))), (4, .ref a2), (3, .ref lqq), (2, .int (iI fr)), (1, .int (iI i)), (0, .ref c)]) (kc' := if fr < ((t.length : Nat) : Int) then 2 * kcC (t.length + 12 * σ.sh.cs.length) + 4 * σ.sh.cs.length - 4 * rnn i fr fr σ.sh.cs - wC (([] : List Int), ([] : List Int)) else 0) (ks' := if fr < ((t.length : Nat) : Int) then 2 * kcS (t.length + 12 * σ.sh.cs.length) + 31 * σ.sh.cs.length - 31 * rnn i fr fr σ.sh.cs - wS (([] : List Int), ([] : List Int)) else 0) [0, 1, 2, 3, 6, 5, 4] rfl (by first | omega | (split <;> omega)) (by first | omega | (split <;> omega)) ?_
  exact loop32 _ fr h4 ([] : List Int) ([] : List Int) vx_5 vy_5 (-1) (by omega) kh4 hrw_5 (fun _ => by rw [show (fr - fr).toNat = 0 by omega]; rfl) hb1_5 hb2_5 nvx_5 nvy_5 hnv_5 (Or.inl rfl) ⟨t.length + 1, by omega, rfl⟩ rfl

/-! 33.rows.lean.txt -/
set_option maxRecDepth 100000
abbrev cX10_fill : ByteArray := prog_5_method_2_code
def yX10_fill : MethodName := ⟨RX10, "fill", "(Ljava/lang/StringBuilder;IC)V"⟩
def dkwX10_fill_0 : List UInt8 := [42, 182, 0, 51, 27, 162, 0, 12, 42, 28, 182, 0, 55, 87, 167, 255, 242, 177]
abbrev dktX10_fill_0 : List UInt8 := dkwX10_fill_0 ++ []
theorem dksX10_fill_0 : cX10_fill.data.toList.drop 0 = dktX10_fill_0 := by decide +kernel
abbrev cX10_isInWord : ByteArray := prog_5_method_3_code
def yX10_isInWord : MethodName := ⟨RX10, "isInWord", "(I)Z"⟩
def dkwX10_isInWord_2 : List UInt8 := [167, 0, 4, 3, 172]
abbrev dktX10_isInWord_2 : List UInt8 := dkwX10_isInWord_2 ++ []
def dkwX10_isInWord_1 : List UInt8 := [182, 0, 60, 16, 32, 159, 0, 20, 42, 180, 0, 47, 27, 182, 0, 60, 16, 32, 159, 0, 7, 4]
abbrev dktX10_isInWord_1 : List UInt8 := dkwX10_isInWord_1 ++ dktX10_isInWord_2
def dkwX10_isInWord_0 : List UInt8 := [27, 158, 0, 46, 27, 42, 180, 0, 47, 182, 0, 59, 162, 0, 35, 42, 180, 0, 47, 27, 4, 100]
abbrev dktX10_isInWord_0 : List UInt8 := dkwX10_isInWord_0 ++ dktX10_isInWord_1
theorem dksX10_isInWord_0 : cX10_isInWord.data.toList.drop 0 = dktX10_isInWord_0 := by decide +kernel
theorem dksX10_isInWord_1 : cX10_isInWord.data.toList.drop 22 = dktX10_isInWord_1 := dk_seg dksX10_isInWord_0 22 rfl rfl
theorem dksX10_isInWord_2 : cX10_isInWord.data.toList.drop 44 = dktX10_isInWord_2 := dk_seg dksX10_isInWord_1 22 rfl rfl
abbrev cX10_add : ByteArray := prog_5_method_4_code
def yX10_add : MethodName := ⟨RX10, "add", "(LChordSheet$Chord;)V"⟩
def dkwX10_add_3 : List UInt8 := [177]
abbrev dktX10_add_3 : List UInt8 := dkwX10_add_3 ++ []
def dkwX10_add_2 : List UInt8 := [42, 180, 0, 20, 182, 0, 51, 16, 32, 184, 0, 73, 42, 180, 0, 16, 43, 182, 0, 77, 182, 0, 81, 87]
abbrev dktX10_add_2 : List UInt8 := dkwX10_add_2 ++ dktX10_add_3
def dkwX10_add_1 : List UInt8 := [43, 180, 0, 64, 182, 0, 69, 153, 0, 8, 16, 45, 167, 0, 5, 16, 32, 184, 0, 73, 42, 180, 0, 16]
abbrev dktX10_add_1 : List UInt8 := dkwX10_add_1 ++ dktX10_add_2
def dkwX10_add_0 : List UInt8 := [42, 180, 0, 16, 182, 0, 51, 158, 0, 37, 42, 180, 0, 20, 42, 180, 0, 16, 182, 0, 51, 4, 96, 42]
abbrev dktX10_add_0 : List UInt8 := dkwX10_add_0 ++ dktX10_add_1
theorem dksX10_add_0 : cX10_add.data.toList.drop 0 = dktX10_add_0 := by decide +kernel
theorem dksX10_add_1 : cX10_add.data.toList.drop 24 = dktX10_add_1 := dk_seg dksX10_add_0 24 rfl rfl
theorem dksX10_add_2 : cX10_add.data.toList.drop 48 = dktX10_add_2 := dk_seg dksX10_add_1 24 rfl rfl
theorem dksX10_add_3 : cX10_add.data.toList.drop 72 = dktX10_add_3 := dk_seg dksX10_add_2 24 rfl rfl
abbrev cX10_addChords : ByteArray := prog_5_method_5_code
def yX10_addChords : MethodName := ⟨RX10, "addChords", "(I)V"⟩
def dkwX10_addChords_2 : List UInt8 := [160, 0, 16, 45, 180, 0, 64, 27, 160, 0, 8, 42, 45, 182, 0, 91, 132, 2, 1, 167, 255, 194, 177]
abbrev dktX10_addChords_2 : List UInt8 := dkwX10_addChords_2 ++ []
def dkwX10_addChords_1 : List UInt8 := [180, 0, 27, 180, 0, 84, 28, 182, 0, 39, 192, 0, 65, 78, 45, 180, 0, 90, 42, 180, 0, 23]
abbrev dktX10_addChords_1 : List UInt8 := dkwX10_addChords_1 ++ dktX10_addChords_2
def dkwX10_addChords_0 : List UInt8 := [3, 61, 28, 42, 180, 0, 1, 180, 0, 27, 180, 0, 84, 182, 0, 87, 162, 0, 51, 42, 180, 0, 1]
abbrev dktX10_addChords_0 : List UInt8 := dkwX10_addChords_0 ++ dktX10_addChords_1
theorem dksX10_addChords_0 : cX10_addChords.data.toList.drop 0 = dktX10_addChords_0 := by decide +kernel
theorem dksX10_addChords_1 : cX10_addChords.data.toList.drop 23 = dktX10_addChords_1 := dk_seg dksX10_addChords_0 23 rfl rfl
theorem dksX10_addChords_2 : cX10_addChords.data.toList.drop 45 = dktX10_addChords_2 := dk_seg dksX10_addChords_1 22 rfl rfl
theorem dX10_fill_0 : decode cX10_fill 0 = .ok (.aload_n 0, 1) := dk_42 (dk_at dksX10_fill_0 0 rfl rfl)
theorem dX10_fill_1 : decode cX10_fill 1 = .ok (.invokevirtual 51, 3) := dk_182 0 51 (dk_at dksX10_fill_0 1 rfl rfl)
theorem dX10_fill_4 : decode cX10_fill 4 = .ok (.iload_n 1, 1) := dk_27 (dk_at dksX10_fill_0 4 rfl rfl)
theorem dX10_fill_5 : decode cX10_fill 5 = .ok (.if_icmp .ge 12, 3) := dk_162 0 12 (dk_at dksX10_fill_0 5 rfl rfl)
theorem dX10_fill_8 : decode cX10_fill 8 = .ok (.aload_n 0, 1) := dk_42 (dk_at dksX10_fill_0 8 rfl rfl)
theorem dX10_fill_9 : decode cX10_fill 9 = .ok (.iload_n 2, 1) := dk_28 (dk_at dksX10_fill_0 9 rfl rfl)
theorem dX10_fill_10 : decode cX10_fill 10 = .ok (.invokevirtual 55, 3) := dk_182 0 55 (dk_at dksX10_fill_0 10 rfl rfl)
theorem dX10_fill_13 : decode cX10_fill 13 = .ok (.pop, 1) := dk_87 (dk_at dksX10_fill_0 13 rfl rfl)
theorem dX10_fill_14 : decode cX10_fill 14 = .ok (.goto (-14), 3) := dk_167 255 242 (dk_at dksX10_fill_0 14 rfl rfl)
theorem dX10_fill_17 : decode cX10_fill 17 = .ok (.return_, 1) := dk_177 (dk_at dksX10_fill_0 17 rfl rfl)
theorem dX10_isInWord_0 : decode cX10_isInWord 0 = .ok (.iload_n 1, 1) := dk_27 (dk_at dksX10_isInWord_0 0 rfl rfl)
theorem dX10_isInWord_1 : decode cX10_isInWord 1 = .ok (.ifCond .le 46, 3) := dk_158 0 46 (dk_at dksX10_isInWord_0 1 rfl rfl)
theorem dX10_isInWord_4 : decode cX10_isInWord 4 = .ok (.iload_n 1, 1) := dk_27 (dk_at dksX10_isInWord_0 4 rfl rfl)
theorem dX10_isInWord_5 : decode cX10_isInWord 5 = .ok (.aload_n 0, 1) := dk_42 (dk_at dksX10_isInWord_0 5 rfl rfl)
theorem dX10_isInWord_6 : decode cX10_isInWord 6 = .ok (.getfield 47, 3) := dk_180 0 47 (dk_at dksX10_isInWord_0 6 rfl rfl)
theorem dX10_isInWord_9 : decode cX10_isInWord 9 = .ok (.invokevirtual 59, 3) := dk_182 0 59 (dk_at dksX10_isInWord_0 9 rfl rfl)
theorem dX10_isInWord_12 : decode cX10_isInWord 12 = .ok (.if_icmp .ge 35, 3) := dk_162 0 35 (dk_at dksX10_isInWord_0 12 rfl rfl)
theorem dX10_isInWord_15 : decode cX10_isInWord 15 = .ok (.aload_n 0, 1) := dk_42 (dk_at dksX10_isInWord_0 15 rfl rfl)
theorem dX10_isInWord_16 : decode cX10_isInWord 16 = .ok (.getfield 47, 3) := dk_180 0 47 (dk_at dksX10_isInWord_0 16 rfl rfl)
theorem dX10_isInWord_19 : decode cX10_isInWord 19 = .ok (.iload_n 1, 1) := dk_27 (dk_at dksX10_isInWord_0 19 rfl rfl)
theorem dX10_isInWord_20 : decode cX10_isInWord 20 = .ok (.iconst 1, 1) := dk_4 (dk_at dksX10_isInWord_0 20 rfl rfl)
theorem dX10_isInWord_21 : decode cX10_isInWord 21 = .ok (.isub, 1) := dk_100 (dk_at dksX10_isInWord_0 21 rfl rfl)
theorem dX10_isInWord_22 : decode cX10_isInWord 22 = .ok (.invokevirtual 60, 3) := dk_182 0 60 (dk_at dksX10_isInWord_1 0 rfl rfl)
theorem dX10_isInWord_25 : decode cX10_isInWord 25 = .ok (.bipush 32, 2) := dk_16 32 (dk_at dksX10_isInWord_1 3 rfl rfl)
theorem dX10_isInWord_27 : decode cX10_isInWord 27 = .ok (.if_icmp .eq 20, 3) := dk_159 0 20 (dk_at dksX10_isInWord_1 5 rfl rfl)
theorem dX10_isInWord_30 : decode cX10_isInWord 30 = .ok (.aload_n 0, 1) := dk_42 (dk_at dksX10_isInWord_1 8 rfl rfl)
theorem dX10_isInWord_31 : decode cX10_isInWord 31 = .ok (.getfield 47, 3) := dk_180 0 47 (dk_at dksX10_isInWord_1 9 rfl rfl)
theorem dX10_isInWord_34 : decode cX10_isInWord 34 = .ok (.iload_n 1, 1) := dk_27 (dk_at dksX10_isInWord_1 12 rfl rfl)
theorem dX10_isInWord_35 : decode cX10_isInWord 35 = .ok (.invokevirtual 60, 3) := dk_182 0 60 (dk_at dksX10_isInWord_1 13 rfl rfl)
theorem dX10_isInWord_38 : decode cX10_isInWord 38 = .ok (.bipush 32, 2) := dk_16 32 (dk_at dksX10_isInWord_1 16 rfl rfl)
theorem dX10_isInWord_40 : decode cX10_isInWord 40 = .ok (.if_icmp .eq 7, 3) := dk_159 0 7 (dk_at dksX10_isInWord_1 18 rfl rfl)
theorem dX10_isInWord_43 : decode cX10_isInWord 43 = .ok (.iconst 1, 1) := dk_4 (dk_at dksX10_isInWord_1 21 rfl rfl)
theorem dX10_isInWord_44 : decode cX10_isInWord 44 = .ok (.goto 4, 3) := dk_167 0 4 (dk_at dksX10_isInWord_2 0 rfl rfl)
theorem dX10_isInWord_47 : decode cX10_isInWord 47 = .ok (.iconst 0, 1) := dk_3 (dk_at dksX10_isInWord_2 3 rfl rfl)
theorem dX10_isInWord_48 : decode cX10_isInWord 48 = .ok (.ireturn, 1) := dk_172 (dk_at dksX10_isInWord_2 4 rfl rfl)
theorem dX10_add_0 : decode cX10_add 0 = .ok (.aload_n 0, 1) := dk_42 (dk_at dksX10_add_0 0 rfl rfl)
theorem dX10_add_1 : decode cX10_add 1 = .ok (.getfield 16, 3) := dk_180 0 16 (dk_at dksX10_add_0 1 rfl rfl)
theorem dX10_add_4 : decode cX10_add 4 = .ok (.invokevirtual 51, 3) := dk_182 0 51 (dk_at dksX10_add_0 4 rfl rfl)
theorem dX10_add_7 : decode cX10_add 7 = .ok (.ifCond .le 37, 3) := dk_158 0 37 (dk_at dksX10_add_0 7 rfl rfl)
theorem dX10_add_10 : decode cX10_add 10 = .ok (.aload_n 0, 1) := dk_42 (dk_at dksX10_add_0 10 rfl rfl)
theorem dX10_add_11 : decode cX10_add 11 = .ok (.getfield 20, 3) := dk_180 0 20 (dk_at dksX10_add_0 11 rfl rfl)
theorem dX10_add_14 : decode cX10_add 14 = .ok (.aload_n 0, 1) := dk_42 (dk_at dksX10_add_0 14 rfl rfl)
theorem dX10_add_15 : decode cX10_add 15 = .ok (.getfield 16, 3) := dk_180 0 16 (dk_at dksX10_add_0 15 rfl rfl)
theorem dX10_add_18 : decode cX10_add 18 = .ok (.invokevirtual 51, 3) := dk_182 0 51 (dk_at dksX10_add_0 18 rfl rfl)
theorem dX10_add_21 : decode cX10_add 21 = .ok (.iconst 1, 1) := dk_4 (dk_at dksX10_add_0 21 rfl rfl)
theorem dX10_add_22 : decode cX10_add 22 = .ok (.iadd, 1) := dk_96 (dk_at dksX10_add_0 22 rfl rfl)
theorem dX10_add_23 : decode cX10_add 23 = .ok (.aload_n 0, 1) := dk_42 (dk_at dksX10_add_0 23 rfl rfl)
theorem dX10_add_24 : decode cX10_add 24 = .ok (.aload_n 1, 1) := dk_43 (dk_at dksX10_add_1 0 rfl rfl)
theorem dX10_add_25 : decode cX10_add 25 = .ok (.getfield 64, 3) := dk_180 0 64 (dk_at dksX10_add_1 1 rfl rfl)
theorem dX10_add_28 : decode cX10_add 28 = .ok (.invokevirtual 69, 3) := dk_182 0 69 (dk_at dksX10_add_1 4 rfl rfl)
theorem dX10_add_31 : decode cX10_add 31 = .ok (.ifCond .eq 8, 3) := dk_153 0 8 (dk_at dksX10_add_1 7 rfl rfl)
theorem dX10_add_34 : decode cX10_add 34 = .ok (.bipush 45, 2) := dk_16 45 (dk_at dksX10_add_1 10 rfl rfl)
theorem dX10_add_36 : decode cX10_add 36 = .ok (.goto 5, 3) := dk_167 0 5 (dk_at dksX10_add_1 12 rfl rfl)
theorem dX10_add_39 : decode cX10_add 39 = .ok (.bipush 32, 2) := dk_16 32 (dk_at dksX10_add_1 15 rfl rfl)
theorem dX10_add_41 : decode cX10_add 41 = .ok (.invokestatic 73, 3) := dk_184 0 73 (dk_at dksX10_add_1 17 rfl rfl)
theorem dX10_add_44 : decode cX10_add 44 = .ok (.aload_n 0, 1) := dk_42 (dk_at dksX10_add_1 20 rfl rfl)
theorem dX10_add_45 : decode cX10_add 45 = .ok (.getfield 16, 3) := dk_180 0 16 (dk_at dksX10_add_1 21 rfl rfl)
theorem dX10_add_48 : decode cX10_add 48 = .ok (.aload_n 0, 1) := dk_42 (dk_at dksX10_add_2 0 rfl rfl)
theorem dX10_add_49 : decode cX10_add 49 = .ok (.getfield 20, 3) := dk_180 0 20 (dk_at dksX10_add_2 1 rfl rfl)
theorem dX10_add_52 : decode cX10_add 52 = .ok (.invokevirtual 51, 3) := dk_182 0 51 (dk_at dksX10_add_2 4 rfl rfl)
theorem dX10_add_55 : decode cX10_add 55 = .ok (.bipush 32, 2) := dk_16 32 (dk_at dksX10_add_2 7 rfl rfl)
theorem dX10_add_57 : decode cX10_add 57 = .ok (.invokestatic 73, 3) := dk_184 0 73 (dk_at dksX10_add_2 9 rfl rfl)
theorem dX10_add_60 : decode cX10_add 60 = .ok (.aload_n 0, 1) := dk_42 (dk_at dksX10_add_2 12 rfl rfl)
theorem dX10_add_61 : decode cX10_add 61 = .ok (.getfield 16, 3) := dk_180 0 16 (dk_at dksX10_add_2 13 rfl rfl)
theorem dX10_add_64 : decode cX10_add 64 = .ok (.aload_n 1, 1) := dk_43 (dk_at dksX10_add_2 16 rfl rfl)
theorem dX10_add_65 : decode cX10_add 65 = .ok (.invokevirtual 77, 3) := dk_182 0 77 (dk_at dksX10_add_2 17 rfl rfl)
theorem dX10_add_68 : decode cX10_add 68 = .ok (.invokevirtual 81, 3) := dk_182 0 81 (dk_at dksX10_add_2 20 rfl rfl)
theorem dX10_add_71 : decode cX10_add 71 = .ok (.pop, 1) := dk_87 (dk_at dksX10_add_2 23 rfl rfl)
theorem dX10_add_72 : decode cX10_add 72 = .ok (.return_, 1) := dk_177 (dk_at dksX10_add_3 0 rfl rfl)
theorem dX10_addChords_0 : decode cX10_addChords 0 = .ok (.iconst 0, 1) := dk_3 (dk_at dksX10_addChords_0 0 rfl rfl)
theorem dX10_addChords_1 : decode cX10_addChords 1 = .ok (.istore_n 2, 1) := dk_61 (dk_at dksX10_addChords_0 1 rfl rfl)
theorem dX10_addChords_2 : decode cX10_addChords 2 = .ok (.iload_n 2, 1) := dk_28 (dk_at dksX10_addChords_0 2 rfl rfl)
theorem dX10_addChords_3 : decode cX10_addChords 3 = .ok (.aload_n 0, 1) := dk_42 (dk_at dksX10_addChords_0 3 rfl rfl)
theorem dX10_addChords_4 : decode cX10_addChords 4 = .ok (.getfield 1, 3) := dk_180 0 1 (dk_at dksX10_addChords_0 4 rfl rfl)
theorem dX10_addChords_7 : decode cX10_addChords 7 = .ok (.getfield 27, 3) := dk_180 0 27 (dk_at dksX10_addChords_0 7 rfl rfl)
theorem dX10_addChords_10 : decode cX10_addChords 10 = .ok (.getfield 84, 3) := dk_180 0 84 (dk_at dksX10_addChords_0 10 rfl rfl)
theorem dX10_addChords_13 : decode cX10_addChords 13 = .ok (.invokevirtual 87, 3) := dk_182 0 87 (dk_at dksX10_addChords_0 13 rfl rfl)
theorem dX10_addChords_16 : decode cX10_addChords 16 = .ok (.if_icmp .ge 51, 3) := dk_162 0 51 (dk_at dksX10_addChords_0 16 rfl rfl)
theorem dX10_addChords_19 : decode cX10_addChords 19 = .ok (.aload_n 0, 1) := dk_42 (dk_at dksX10_addChords_0 19 rfl rfl)
theorem dX10_addChords_20 : decode cX10_addChords 20 = .ok (.getfield 1, 3) := dk_180 0 1 (dk_at dksX10_addChords_0 20 rfl rfl)
theorem dX10_addChords_23 : decode cX10_addChords 23 = .ok (.getfield 27, 3) := dk_180 0 27 (dk_at dksX10_addChords_1 0 rfl rfl)
theorem dX10_addChords_26 : decode cX10_addChords 26 = .ok (.getfield 84, 3) := dk_180 0 84 (dk_at dksX10_addChords_1 3 rfl rfl)
theorem dX10_addChords_29 : decode cX10_addChords 29 = .ok (.iload_n 2, 1) := dk_28 (dk_at dksX10_addChords_1 6 rfl rfl)
theorem dX10_addChords_30 : decode cX10_addChords 30 = .ok (.invokevirtual 39, 3) := dk_182 0 39 (dk_at dksX10_addChords_1 7 rfl rfl)
theorem dX10_addChords_33 : decode cX10_addChords 33 = .ok (.checkcast 65, 3) := dk_192 0 65 (dk_at dksX10_addChords_1 10 rfl rfl)
theorem dX10_addChords_36 : decode cX10_addChords 36 = .ok (.astore_n 3, 1) := dk_78 (dk_at dksX10_addChords_1 13 rfl rfl)
theorem dX10_addChords_37 : decode cX10_addChords 37 = .ok (.aload_n 3, 1) := dk_45 (dk_at dksX10_addChords_1 14 rfl rfl)
theorem dX10_addChords_38 : decode cX10_addChords 38 = .ok (.getfield 90, 3) := dk_180 0 90 (dk_at dksX10_addChords_1 15 rfl rfl)
theorem dX10_addChords_41 : decode cX10_addChords 41 = .ok (.aload_n 0, 1) := dk_42 (dk_at dksX10_addChords_1 18 rfl rfl)
theorem dX10_addChords_42 : decode cX10_addChords 42 = .ok (.getfield 23, 3) := dk_180 0 23 (dk_at dksX10_addChords_1 19 rfl rfl)
theorem dX10_addChords_45 : decode cX10_addChords 45 = .ok (.if_icmp .ne 16, 3) := dk_160 0 16 (dk_at dksX10_addChords_2 0 rfl rfl)
theorem dX10_addChords_48 : decode cX10_addChords 48 = .ok (.aload_n 3, 1) := dk_45 (dk_at dksX10_addChords_2 3 rfl rfl)
theorem dX10_addChords_49 : decode cX10_addChords 49 = .ok (.getfield 64, 3) := dk_180 0 64 (dk_at dksX10_addChords_2 4 rfl rfl)
theorem dX10_addChords_52 : decode cX10_addChords 52 = .ok (.iload_n 1, 1) := dk_27 (dk_at dksX10_addChords_2 7 rfl rfl)
theorem dX10_addChords_53 : decode cX10_addChords 53 = .ok (.if_icmp .ne 8, 3) := dk_160 0 8 (dk_at dksX10_addChords_2 8 rfl rfl)
theorem dX10_addChords_56 : decode cX10_addChords 56 = .ok (.aload_n 0, 1) := dk_42 (dk_at dksX10_addChords_2 11 rfl rfl)
theorem dX10_addChords_57 : decode cX10_addChords 57 = .ok (.aload_n 3, 1) := dk_45 (dk_at dksX10_addChords_2 12 rfl rfl)
theorem dX10_addChords_58 : decode cX10_addChords 58 = .ok (.invokevirtual 91, 3) := dk_182 0 91 (dk_at dksX10_addChords_2 13 rfl rfl)
theorem dX10_addChords_61 : decode cX10_addChords 61 = .ok (.iinc 2 1, 3) := dk_132 2 1 (dk_at dksX10_addChords_2 16 rfl rfl)
theorem dX10_addChords_64 : decode cX10_addChords 64 = .ok (.goto (-62), 3) := dk_167 255 194 (dk_at dksX10_addChords_2 19 rfl rfl)
theorem dX10_addChords_67 : decode cX10_addChords 67 = .ok (.return_, 1) := dk_177 (dk_at dksX10_addChords_2 22 rfl rfl)
theorem q106 : (Jvm.Cond.initialized "ChordSheet$Rows") ∈ lw_all := lw_g (lw_at lw_m1 44 rfl) rfl
theorem q170 : (Jvm.Cond.fieldLinkNest "ChordSheet$Rows" (84 : Nat) "ChordSheet$Sheet" "chords" "Ljava/util/ArrayList;" "ChordSheet") ∈ lw_tbl := lw_at lw_m1 108 rfl
theorem q1961 : (Jvm.Cond.methodLink "ChordSheet$Rows" (39 : Nat) ({ cls := "java/util/ArrayList", name := "get", desc := "(I)Ljava/lang/Object;" } : Jvm.MethodName)) ∈ lw_all := lw_g (lw_at lw_m8 219 rfl) rfl
theorem q1963 : (Jvm.Cond.fieldLink "ChordSheet$Rows" (23 : Nat) "ChordSheet$Rows" "line" "I") ∈ lw_all := lw_g (lw_at lw_m8 221 rfl) rfl
theorem q1964 : (Jvm.Cond.fieldLink "ChordSheet$Rows" (47 : Nat) "ChordSheet$Rows" "lyrics" "Ljava/lang/String;") ∈ lw_all := lw_g (lw_at lw_m8 222 rfl) rfl
theorem q1966 : (Jvm.Cond.fieldLink "ChordSheet$Rows" (16 : Nat) "ChordSheet$Rows" "chordRow" "Ljava/lang/StringBuilder;") ∈ lw_all := lw_g (lw_at lw_m8 224 rfl) rfl
theorem q1968 : (Jvm.Cond.fieldLink "ChordSheet$Rows" (20 : Nat) "ChordSheet$Rows" "lyricRow" "Ljava/lang/StringBuilder;") ∈ lw_all := lw_g (lw_at lw_m8 226 rfl) rfl
theorem q1970 : (Jvm.Cond.fieldLink "ChordSheet$Rows" (1 : Nat) "ChordSheet$Rows" "this$0" "LChordSheet;") ∈ lw_all := lw_g (lw_at lw_m8 228 rfl) rfl
theorem q1990 : (Jvm.Cond.methodLink "ChordSheet$Rows" (87 : Nat) ({ cls := "java/util/ArrayList", name := "size", desc := "()I" } : Jvm.MethodName)) ∈ lw_all := lw_g (lw_at lw_m9 8 rfl) rfl
theorem q1991 : (Jvm.Cond.classLink "ChordSheet$Rows" (65 : Nat) "ChordSheet$Chord") ∈ lw_all := lw_g (lw_at lw_m9 9 rfl) rfl
theorem q1992 : (Jvm.Cond.methodLink "ChordSheet$Rows" (91 : Nat) ({ cls := "ChordSheet$Rows", name := "add", desc := "(LChordSheet$Chord;)V" } : Jvm.MethodName)) ∈ lw_all := lw_g (lw_at lw_m9 10 rfl) rfl
theorem q1994 : (Jvm.Cond.instanceMethod ({ cls := "ChordSheet$Rows", name := "add", desc := "(LChordSheet$Chord;)V" } : Jvm.MethodName)) ∈ lw_all := lw_g (lw_at lw_m9 12 rfl) rfl
theorem q1995 : (Jvm.Cond.code ({ cls := "ChordSheet$Rows", name := "add", desc := "(LChordSheet$Chord;)V" } : Jvm.MethodName) prog_5_method_4_code (2 : Nat) (Option.none : Option Jvm.ClassFile.FieldType)) ∈ lw_all := lw_g (lw_at lw_m9 13 rfl) rfl
theorem q1996 : (Jvm.Cond.methodLink "ChordSheet$Rows" (51 : Nat) ({ cls := "java/lang/StringBuilder", name := "length", desc := "()I" } : Jvm.MethodName)) ∈ lw_all := lw_g (lw_at lw_m9 14 rfl) rfl
theorem q1997 : (Jvm.Cond.methodLink "ChordSheet$Rows" (69 : Nat) ({ cls := "ChordSheet$Rows", name := "isInWord", desc := "(I)Z" } : Jvm.MethodName)) ∈ lw_all := lw_g (lw_at lw_m9 15 rfl) rfl
theorem q1999 : (Jvm.Cond.instanceMethod ({ cls := "ChordSheet$Rows", name := "isInWord", desc := "(I)Z" } : Jvm.MethodName)) ∈ lw_all := lw_g (lw_at lw_m9 17 rfl) rfl
theorem q2000 : (Jvm.Cond.code ({ cls := "ChordSheet$Rows", name := "isInWord", desc := "(I)Z" } : Jvm.MethodName) prog_5_method_3_code (2 : Nat) (Option.some Jvm.ClassFile.FieldType.boolean)) ∈ lw_all := lw_g (lw_at lw_m9 18 rfl) rfl
theorem q2001 : (Jvm.Cond.methodLink "ChordSheet$Rows" (59 : Nat) ({ cls := "java/lang/String", name := "length", desc := "()I" } : Jvm.MethodName)) ∈ lw_all := lw_g (lw_at lw_m9 19 rfl) rfl
theorem q2002 : (Jvm.Cond.methodLink "ChordSheet$Rows" (60 : Nat) ({ cls := "java/lang/String", name := "charAt", desc := "(I)C" } : Jvm.MethodName)) ∈ lw_all := lw_g (lw_at lw_m9 20 rfl) rfl
theorem q2003 : (Jvm.Cond.methodLink "ChordSheet$Rows" (73 : Nat) ({ cls := "ChordSheet$Rows", name := "fill", desc := "(Ljava/lang/StringBuilder;IC)V" } : Jvm.MethodName)) ∈ lw_all := lw_g (lw_at lw_m9 21 rfl) rfl
theorem q2004 : (Jvm.Cond.static ({ cls := "ChordSheet$Rows", name := "fill", desc := "(Ljava/lang/StringBuilder;IC)V" } : Jvm.MethodName)) ∈ lw_all := lw_g (lw_at lw_m9 22 rfl) rfl
theorem q2005 : (Jvm.Cond.code ({ cls := "ChordSheet$Rows", name := "fill", desc := "(Ljava/lang/StringBuilder;IC)V" } : Jvm.MethodName) prog_5_method_2_code (3 : Nat) (Option.none : Option Jvm.ClassFile.FieldType)) ∈ lw_all := lw_g (lw_at lw_m9 23 rfl) rfl
theorem q2006 : (Jvm.Cond.methodLink "ChordSheet$Rows" (55 : Nat) ({ cls := "java/lang/StringBuilder", name := "append", desc := "(C)Ljava/lang/StringBuilder;" } : Jvm.MethodName)) ∈ lw_all := lw_g (lw_at lw_m9 24 rfl) rfl
theorem q2007 : (Jvm.Cond.methodLink "ChordSheet$Rows" (77 : Nat) ({ cls := "ChordSheet$Chord", name := "name", desc := "()Ljava/lang/String;" } : Jvm.MethodName)) ∈ lw_all := lw_g (lw_at lw_m9 25 rfl) rfl
theorem q2008 : (Jvm.Cond.methodLink "ChordSheet$Rows" (81 : Nat) ({ cls := "java/lang/StringBuilder", name := "append", desc := "(Ljava/lang/String;)Ljava/lang/StringBuilder;" } : Jvm.MethodName)) ∈ lw_all := lw_g (lw_at lw_m9 26 rfl) rfl
theorem q281 : (Jvm.Cond.fieldLinkNest "ChordSheet$Rows" (27 : Nat) "ChordSheet" "sheet" "LChordSheet$Sheet;" "ChordSheet") ∈ lw_tbl := lw_at lw_m1 219 rfl
theorem q592 : (Jvm.Cond.fieldLinkNest "ChordSheet$Rows" (90 : Nat) "ChordSheet$Chord" "line" "I" "ChordSheet") ∈ lw_tbl := lw_at lw_m3 50 rfl
theorem q596 : (Jvm.Cond.fieldLinkNest "ChordSheet$Rows" (64 : Nat) "ChordSheet$Chord" "column" "I" "ChordSheet") ∈ lw_tbl := lw_at lw_m3 54 rfl
/-- the room of a row of n letters, and what it has cost -/
def kap (n : Nat) : Nat := if n ≤ 16 then 16 else if n ≤ 34 then 34 else if n ≤ 70 then 70 else if n ≤ 142 then 142 else if n ≤ 286 then 286 else if n ≤ 574 then 574 else 1150
def kcC (n : Nat) : Nat := if n ≤ 16 then 0 else if n ≤ 34 then 1 else if n ≤ 70 then 2 else if n ≤ 142 then 3 else if n ≤ 286 then 4 else if n ≤ 574 then 5 else 6
def kcS (n : Nat) : Nat := if n ≤ 16 then 0 else if n ≤ 34 then 34 else if n ≤ 70 then 104 else if n ≤ 142 then 246 else if n ≤ 286 then 532 else if n ≤ 574 then 1106 else 2256
theorem kap_c (n : Nat) : (n ≤ 16 ∧ kap n = 16 ∧ kcC n = 0 ∧ kcS n = 0) ∨ (16 < n ∧ n ≤ 34 ∧ kap n = 34 ∧ kcC n = 1 ∧ kcS n = 34) ∨ (34 < n ∧ n ≤ 70 ∧ kap n = 70 ∧ kcC n = 2 ∧ kcS n = 104) ∨ (70 < n ∧ n ≤ 142 ∧ kap n = 142 ∧ kcC n = 3 ∧ kcS n = 246) ∨ (142 < n ∧ n ≤ 286 ∧ kap n = 286 ∧ kcC n = 4 ∧ kcS n = 532) ∨ (286 < n ∧ n ≤ 574 ∧ kap n = 574 ∧ kcC n = 5 ∧ kcS n = 1106) ∨ (574 < n ∧ kap n = 1150 ∧ kcC n = 6 ∧ kcS n = 2256) := by
  unfold kap kcC kcS
  by_cases h1 : n ≤ 16
  · simp [h1]
  by_cases h2 : n ≤ 34
  · simp [h1, h2]; omega
  by_cases h3 : n ≤ 70
  · simp [h1, h2, h3]; omega
  by_cases h4 : n ≤ 142
  · simp [h1, h2, h3, h4]; omega
  by_cases h5 : n ≤ 286
  · simp [h1, h2, h3, h4, h5]; omega
  by_cases h6 : n ≤ 574
  · simp [h1, h2, h3, h4, h5, h6]; omega
  · simp [h1, h2, h3, h4, h5, h6]; omega
theorem kap_st {a b : Nat} (h : a ≤ b) (h2 : b ≤ a + 13) (h3 : b ≤ 1150) : gcap (kap a) b = kap b ∧ gC (kap a) b = kcC b - kcC a ∧ gS (kap a) b = kcS b - kcS a := by
  have ha := kap_c a
  have hb := kap_c b
  unfold gC gS gcap
  by_cases e : b ≤ kap a
  · simp only [e, if_true]
    rcases ha with h | h | h | h | h | h | h <;> rcases hb with g | g | g | g | g | g | g <;> omega
  · simp only [e, if_false]
    rcases ha with h | h | h | h | h | h | h <;> rcases hb with g | g | g | g | g | g | g <;> omega
theorem kc_m {a b : Nat} (h : a ≤ b) : kcC a ≤ kcC b ∧ kcS a ≤ kcS b := by
  have ha := kap_c a
  have hb := kap_c b
  rcases ha with h | h | h | h | h | h | h <;> rcases hb with g | g | g | g | g | g | g <;> omega
/-- both rows: of chords, of lyrics -/
abbrev zRw : Type := List Int × List Int
def wC (s : zRw) : Nat := kcC s.1.length + kcC s.2.length
def wS (s : zRw) : Nat := kcS s.1.length + kcS s.2.length
def fll (t : List Int) (n c : Int) : List Int := t ++ List.replicate (n - (t.length : Nat)).toNat c
theorem fll_l (t : List Int) (n c : Int) : (fll t n c).length = t.length + (n - (t.length : Nat)).toNat := by simp [fll]
def lch (T : List Int) (k : Int) : Int := T.getD k.toNat 0
abbrev inw (T : List Int) (k : Int) : Prop := 0 < k ∧ k < (T.length : Nat) ∧ lch T (k - 1) ≠ 32 ∧ lch T k ≠ 32
def rad (T : List Int) (s : zRw) (x : zCh) : zRw :=
  if s.1.length = 0 then (fll s.1 (s.2.length : Nat) 32 ++ nmt x.2.2.1 x.2.2.2.1 x.2.2.2.2, s.2)
  else (fll s.1 ((fll s.2 ((s.1.length : Nat) + 1) (if inw T x.2.1 then 45 else 32)).length : Nat) 32 ++ nmt x.2.2.1 x.2.2.2.1 x.2.2.2.2, fll s.2 ((s.1.length : Nat) + 1) (if inw T x.2.1 then 45 else 32))
def rac (T : List Int) (ln col : Int) : List zCh → zRw → zRw
  | [], s => s
  | x :: r, s => rac T ln col r (if x.1 = ln ∧ x.2.1 = col then rad T s x else s)
def rcn (ln col : Int) : List zCh → Nat
  | [] => 0
  | x :: r => (if x.1 = ln ∧ x.2.1 = col then 1 else 0) + rcn ln col r
def rco (T : List Int) (ln : Int) (cs : List zCh) (s : zRw) (k : Int) : zRw := ((rac T ln k cs s).1, (rac T ln k cs s).2 ++ [lch T k])
theorem lch_at {T : List Int} {k : Int} (h : 0 ≤ k ∧ k < (T.length : Nat)) : T[k.toNat]? = some (lch T k) := by
  unfold lch
  rw [List.getElem?_eq_getElem (by omega), List.getD_eq_getElem?_getD, List.getElem?_eq_getElem (by omega)]
  rfl
theorem rad_0 {T u l : List Int} {x : zCh} (h : u.length = 0) : rad T (u, l) x = (fll u (l.length : Nat) 32 ++ nmt x.2.2.1 x.2.2.2.1 x.2.2.2.2, l) := by
  unfold rad
  rw [if_pos h]
theorem rad_w {T u l : List Int} {x : zCh} (h : u.length ≠ 0) (hw : inw T x.2.1) : rad T (u, l) x = (fll u ((fll l ((u.length : Nat) + 1) 45).length : Nat) 32 ++ nmt x.2.2.1 x.2.2.2.1 x.2.2.2.2, fll l ((u.length : Nat) + 1) 45) := by
  unfold rad
  rw [if_neg h, if_pos hw]
theorem rad_n {T u l : List Int} {x : zCh} (h : u.length ≠ 0) (hw : ¬ inw T x.2.1) : rad T (u, l) x = (fll u ((fll l ((u.length : Nat) + 1) 32).length : Nat) 32 ++ nmt x.2.2.1 x.2.2.2.1 x.2.2.2.2, fll l ((u.length : Nat) + 1) 32) := by
  unfold rad
  rw [if_neg h, if_neg hw]
theorem rad_m (T : List Int) (s : zRw) (x : zCh) : s.1.length ≤ (rad T s x).1.length ∧ s.2.length ≤ (rad T s x).2.length := by
  unfold rad
  split <;> simp only [List.length_append, fll_l] <;> omega
theorem rac_m (T : List Int) (ln col : Int) : ∀ (cs : List zCh) (s : zRw), s.1.length ≤ (rac T ln col cs s).1.length ∧ s.2.length ≤ (rac T ln col cs s).2.length := by
  intro cs
  induction cs with
  | nil => intro s; exact ⟨Nat.le_refl _, Nat.le_refl _⟩
  | cons x r ih =>
    intro s
    simp only [rac]
    have h1 := ih (if x.1 = ln ∧ x.2.1 = col then rad T s x else s)
    have h2 := rad_m T s x
    split at h1
    · next c => rw [if_pos c]; omega
    · next c => rw [if_neg c]; exact h1
/-- how long rows get -/
theorem rad_u {T : List Int} {s : zRw} {x : zCh} {N : Nat} (hx : crg x) (h : s.1.length ≤ N ∧ s.2.length ≤ N) : (rad T s x).1.length ≤ N + 12 ∧ (rad T s x).2.length ≤ N + 12 := by
  have := nmt_r (q := x.2.2.2.1) hx.2.2.1 hx.2.2.2.2
  unfold rad
  split <;> simp only [List.length_append, fll_l] <;> omega
theorem rac_u {T : List Int} {ln col : Int} : ∀ (cs : List zCh) (s : zRw) (N : Nat), (∀ c ∈ cs, crg c) → (s.1.length ≤ N ∧ s.2.length ≤ N) → (rac T ln col cs s).1.length ≤ N + 12 * rcn ln col cs ∧ (rac T ln col cs s).2.length ≤ N + 12 * rcn ln col cs := by
  intro cs
  induction cs with
  | nil => intro s N _ h; exact h
  | cons x r ih =>
    intro s N hc h
    simp only [rac, rcn]
    by_cases c : x.1 = ln ∧ x.2.1 = col
    · rw [if_pos c, if_pos c]
      have := ih (rad T s x) (N + 12) (fun c h => hc c (List.mem_cons_of_mem _ h)) (rad_u (hc x List.mem_cons_self) h)
      omega
    · rw [if_neg c, if_neg c]
      have := ih s N (fun c h => hc c (List.mem_cons_of_mem _ h)) h
      omega
theorem vsepM {h : zH} {b v v' x n : Nat} {fb fx : Bool} {o : Nat × List Value} {ty : FieldType} {f : Nat → Value} (hb : h b = some (fb, .inr o)) (hx : h x = some (fx, .inl (ty, n, f))) (hne : x ≠ v) (hv : v' ∈ [b, v] ∨ h v' = none) : x ≠ v' := by
  intro e
  subst e
  rcases hv with m | m
  · simp only [List.mem_cons, List.not_mem_nil, or_false] at m
    rcases m with e | e
    · rw [e, hb] at hx; cases hx
    · exact hne e
  · rw [m] at hx; cases hx
theorem ct_B_appCk {l : Launch} (hl : l.stackTraces = false) {Γ : zCx} {h : zH} {b v : Nat} {t : List Int} (hb : bAt h b v t (kap t.length)) {c : Int} (hc : 0 ≤ c ∧ c < 128) (ht : t.length + 1 ≤ 1150) : zMet l yJ13_append_3 (ws_ yJ13_append_3 cJ13_append_3 2 (some (.object "java/lang/StringBuilder"))) (({ frames := 5, cells := (kcC (t ++ [c]).length - kcC t.length), slots := (kcS (t ++ [c]).length - kcS t.length), locals := 112 })) Γ h [.ref b, .int (iI c)] (zrt (fun w h' => w = some (.ref b) ∧ ∃ v', bAt h' b v' (t ++ [c]) (kap (t ++ [c]).length) ∧ (v' = v ∨ h v' = none) ∧ zkeep h h' [b, v])) (kcC (t ++ [c]).length - kcC t.length) (kcS (t ++ [c]).length - kcS t.length) := by
  have H := ct_B_appC hl hb hc (by omega) (Γ := Γ)
  have e : (t ++ [c]).length = t.length + 1 := by simp
  obtain ⟨e1, e2, e3⟩ := kap_st (a := t.length) (b := t.length + 1) (by omega) (by omega) ht
  rw [e1, e2, e3, ← e] at H
  exact H
theorem ct_B_appSk {l : Launch} (hl : l.stackTraces = false) {Γ : zCx} {h : zH} {b v : Nat} {t : List Int} (hb : bAt h b v t (kap t.length)) {a : Nat} {s : List Int} (hs : sAt h a s) (hsl : s.length ≤ 12) (ht : (t ++ s).length ≤ 1150) : zMet l yJ13_append_2 (ws_ yJ13_append_2 cJ13_append_2 2 (some (.object "java/lang/StringBuilder"))) (({ frames := 5, cells := (kcC (t ++ s).length - kcC t.length), slots := (kcS (t ++ s).length - kcS t.length), locals := 113 })) Γ h [.ref b, .ref a] (zrt (fun w h' => w = some (.ref b) ∧ ∃ v', bAt h' b v' (t ++ s) (kap (t ++ s).length) ∧ (v' = v ∨ h v' = none) ∧ zkeep h h' [b, v])) (kcC (t ++ s).length - kcC t.length) (kcS (t ++ s).length - kcS t.length) := by
  have e : (t ++ s).length = t.length + s.length := by simp
  have H := ct_B_appSt hl hb hs (by omega) (by omega) (Γ := Γ)
  obtain ⟨e1, e2, e3⟩ := kap_st (a := t.length) (b := t.length + s.length) (by omega) (by omega) (by omega)
  rw [e1, e2, e3, ← e] at H
  exact H
theorem fll_e {t : List Int} {n c : Int} {j : Nat} (h : j = (n - (t.length : Nat)).toNat) : fll t n c = t ++ List.replicate j c := by rw [h]; rfl
theorem fill_st {h : zH} {b v j : Nat} {t : List Int} {c : Int} (H : bAt h b v ((t ++ List.replicate j c) ++ [c]) (kap ((t ++ List.replicate j c) ++ [c]).length)) : bAt h b v (t ++ List.replicate (j + 1) c) (kap (t ++ List.replicate (j + 1) c).length) := by
  rw [List.append_assoc, ← List.replicate_succ'] at H
  exact H
set_option maxHeartbeats 4000000 in
theorem ct_W_fill {l : Launch} (hl : l.stackTraces = false) {Γ : zCx} {h : zH} {b v : Nat} {t : List Int} (hb : bAt h b v t (kap t.length)) {n c : Int} (hc : 0 ≤ c ∧ c < 128) (hn : 0 ≤ n ∧ n ≤ 1100) (hF : (fll t n c).length ≤ 1100)  : zMet l yX10_fill (ws_ yX10_fill cX10_fill 3 none) ({ frames := 6, cells := (kcC (fll t n c).length - kcC t.length), slots := (kcS (fll t n c).length - kcS t.length), locals := 133 }) Γ h [.ref b, .int (iI n), .int (iI c)] (zrt (fun w h' => w = none ∧ ∃ v', bAt h' b v' (fll t n c) (kap (fll t n c).length) ∧ (v' ∈ [b, v] ∨ h v' = none) ∧ zkeep h h' [b, v])) (kcC (fll t n c).length - kcC t.length) (kcS (fll t n c).length - kcS t.length) := by
  refine zMet.of (cc := cX10_fill) hl (plainFor_of_name (by decide +kernel)) (Nat.le_of_ble_eq_true rfl) ?_
  intro X hXl hXΓ hXp C hnm hnL
  have C : zC X cX10_fill RX10 none 6 133 [] := C
  have hnL : X.2.1.2.2.2.2 = 3 := hnL
  subst hXl hXΓ
  show Z X h (kcC (fll t n c).length - kcC t.length) (kcS (fll t n c).length - kcS t.length) [(0, .ref b), (1, .int (iI n)), (2, .int (iI c))] 0 []
  have hb0 := hb
  obtain ⟨z, f, hb1, hv1, hlen, hcap, hcon, hfit, hasc⟩ := hb
  have loop0 : ∀ (n0 : Nat) (j : Nat) (g : zH) (u : Nat), (j ≤ (n - (t.length : Nat)).toNat) → (zkeep h g [b, v]) → (u ∈ [b, v] ∨ h u = none) → (bAt g b u (t ++ List.replicate j c) (kap (t ++ List.replicate j c).length)) → ((n - (t.length : Nat)).toNat - j) = n0 → Z X g (kcC (fll t n c).length - kcC (t ++ List.replicate j c).length) (kcS (fll t n c).length - kcS (t ++ List.replicate j c).length) [(2, .int (iI c)), (1, .int (iI n)), (0, .ref b)] 0 [] := by
    intro n0
    induction n0 using Nat.strongRecOn with
    | ind n0 ih0 =>
    intro j g u hj hkp hm hb2 hn0
    have hx_1 := hb2
    obtain ⟨z_1, f_1, hb_1, hv_1, hlen_1, hcap_1, hcon_1, hfit_1, hasc_1⟩ := hx_1
    refine z_aload_n (pc := 0) (j := 2) C dX10_fill_0 rfl rfl ?_
    have hfl := fll_l t n c
    have hmm := kc_m (a := (t ++ List.replicate (j + 1) c).length) (b := (fll t n c).length)
    refine z_callV (pc := 1) (n := 0) (kc' := (kcC (fll t n c).length - kcC (t ++ List.replicate j c).length)) (ks' := (kcS (fll t n c).length - kcS (t ++ List.replicate j c).length)) C (ct_B_length (cap := 0) (f := fun _ => .null) C.t hb_1) (lw_V q1996 q439 q440 q82 q441) (by decide +kernel) ⟨by decide, by decide⟩ hb_1 rfl rfl rfl (Nat.le_of_ble_eq_true rfl) dX10_fill_1 (by omega) (by omega) (zpk (st' := [.int (iI (((t ++ List.replicate j c).length : Nat) : Int))]) rfl ?_) zrx
    refine z_iload_n (pc := 4) (j := 1) C dX10_fill_4 rfl rfl ?_
    refine z_icmp_ge (pc := 5) (tgt := 17) C dX10_fill_5 (by decide) (by omega) (by omega) (fun c5 => ?_) (fun c5 => ?_)
    · have hje : j = (n - (t.length : Nat)).toNat := by (simp only [List.length_append, List.length_replicate] at c5; omega)
      exact z_return (pc := 17) C (by rw [hXp]; exact ⟨_, rfl, rfl, u, (by rw [fll_e hje]; exact hb2), hm, hkp⟩) dX10_fill_17
    · refine z_aload_n (pc := 8) (j := 2) C dX10_fill_8 rfl rfl ?_
      refine z_iload_n (pc := 9) (j := 0) C dX10_fill_9 rfl rfl ?_
      have hjl : (t ++ List.replicate j c).length = t.length + j := by simp
      have hm1 := kc_m (a := (t ++ List.replicate j c).length) (b := (t ++ List.replicate j c ++ [c]).length) (by simp)
      have hm2 := kc_m (a := (t ++ List.replicate j c ++ [c]).length) (b := (fll t n c).length) (by simp only [List.length_append, List.length_replicate, List.length_cons, List.length_nil] at c5 hfl ⊢; omega)
      refine z_callV (pc := 10) (n := 1) (kc' := (kcC (fll t n c).length - kcC (t ++ List.replicate j c).length - (kcC ((t ++ List.replicate j c) ++ [c]).length - kcC (t ++ List.replicate j c).length))) (ks' := (kcS (fll t n c).length - kcS (t ++ List.replicate j c).length - (kcS ((t ++ List.replicate j c) ++ [c]).length - kcS (t ++ List.replicate j c).length))) C (ct_B_appCk C.t hb2 (c := c) (by omega) (by simp only [List.length_append, List.length_replicate] at c5 hjl ⊢; omega)) (lw_V q2006 q869 q870 q82 q871) (by decide +kernel) ⟨by decide, by decide⟩ hb_1 rfl rfl rfl (Nat.le_of_ble_eq_true rfl) dX10_fill_10 (by omega) (by omega) (zrk fun w h2 hp => ?_) zrx
      obtain ⟨rfl, v3, hb4, hv5, k6⟩ := hp
      have dv3 : v3 ∈ ([b, v] : List Nat) ∨ h v3 = none := zmay hm hv5 hkp
      have kh2 : zkeep h h2 [b, v] := zkeep.loc hkp k6 (zall_cons (Or.inl (Or.symm (Or.inl (by simp)))) (zall_cons (Or.inl (Or.symm hm)) zall_nil))
      have hx_7 := hb4
      obtain ⟨z_7, f_7, hb_7, hv_7, hlen_7, hcap_7, hcon_7, hfit_7, hasc_7⟩ := hx_7
      show Z X h2 (kcC (fll t n c).length - kcC (t ++ List.replicate j c).length - (kcC ((t ++ List.replicate j c) ++ [c]).length - kcC (t ++ List.replicate j c).length)) (kcS (fll t n c).length - kcS (t ++ List.replicate j c).length - (kcS ((t ++ List.replicate j c) ++ [c]).length - kcS (t ++ List.replicate j c).length)) [(2, .int (iI c)), (1, .int (iI n)), (0, .ref b)] 13 [.ref b]
      refine z_pop (pc := 13) C dX10_fill_13 rfl ?_
      refine z_goto (pc := 14) (tgt := 0) C dX10_fill_14 (by decide) ?_
      refine Z.weak (L' := [(2, .int (iI c)), (1, .int (iI n)), (0, .ref b)]) (kc' := kcC (fll t n c).length - kcC (t ++ List.replicate (j + 1) c).length) (ks' := kcS (fll t n c).length - kcS (t ++ List.replicate (j + 1) c).length) [0, 1, 2] rfl (by first | (simp only [List.replicate_zero, List.append_nil]; exact Nat.le_refl _) | (rw [show (t ++ List.replicate (j + 1) c) = (t ++ List.replicate j c ++ [c]) by rw [List.append_assoc, ← List.replicate_succ']]; omega)) (by first | (simp only [List.replicate_zero, List.append_nil]; exact Nat.le_refl _) | (rw [show (t ++ List.replicate (j + 1) c) = (t ++ List.replicate j c ++ [c]) by rw [List.append_assoc, ← List.replicate_succ']]; omega)) ?_
      exact ih0 _ (by simp only [List.length_append, List.length_replicate] at c5; omega) (j + 1) h2 v3 (by simp only [List.length_append, List.length_replicate] at c5; omega) kh2 dv3 (fill_st hb4) rfl
  refine Z.weak (L' := [(2, .int (iI c)), (1, .int (iI n)), (0, .ref b)]) (kc' := kcC (fll t n c).length - kcC (t ++ List.replicate 0 c).length) (ks' := kcS (fll t n c).length - kcS (t ++ List.replicate 0 c).length) [2, 1, 0] rfl (by first | (simp only [List.replicate_zero, List.append_nil]; exact Nat.le_refl _) | (rw [show (t ++ List.replicate (j + 1) c) = (t ++ List.replicate j c ++ [c]) by rw [List.append_assoc, ← List.replicate_succ']]; omega)) (by first | (simp only [List.replicate_zero, List.append_nil]; exact Nat.le_refl _) | (rw [show (t ++ List.replicate (j + 1) c) = (t ++ List.replicate j c ++ [c]) by rw [List.append_assoc, ← List.replicate_succ']]; omega)) ?_
  exact loop0 _ 0 h v (by omega) zkeep.rf (Or.inl (by simp)) (by simpa using hb0) rfl
set_option maxHeartbeats 4000000 in
theorem ct_W_inw {l : Launch} (hl : l.stackTraces = false) {Γ : zCx} {h : zH} {rw q b1 b2 c : Nat} {ln : Int} {T : List Int} (hrw : h rw = some (false, .inr (9, [.int (iI ln), .ref q, .ref b1, .ref b2, .ref c]))) (hq : sAt h q T) (hT : T.length ≤ 200) {k : Int} (hk : 0 ≤ k ∧ k ≤ 1000)  : zMet l yX10_isInWord (ws_ yX10_isInWord cX10_isInWord 2 (some .boolean)) ({ frames := 4, cells := 0, slots := 0, locals := 85 }) Γ h [.ref rw, .int (iI k)] (zpure h (some (.int (iI (if inw T k then 1 else 0))))) 0 0 := by
  refine zMet.of (cc := cX10_isInWord) hl (plainFor_of_name (by decide +kernel)) (Nat.le_of_ble_eq_true rfl) ?_
  intro X hXl hXΓ hXp C hnm hnL
  have C : zC X cX10_isInWord RX10 (some .boolean) 4 85 [] := C
  have hnL : X.2.1.2.2.2.2 = 2 := hnL
  subst hXl hXΓ
  show Z X h 0 0 [(0, .ref rw), (1, .int (iI k))] 0 []
  obtain ⟨hl_1, v_1, x_1, y_1, g_1, h1_1, h2_1, h3_1, h4_1⟩ := id (hq)
  have h1_1 : h (q) = some (false, .inr (13, [.ref v_1, .int (iI 0), .int x_1, .int y_1])) := h1_1
  have h4T : ∀ c ∈ T, 0 ≤ c ∧ c < 128 := by obtain ⟨-, v, x, y, f, -, -, -, z⟩ := id hq; exact z
  refine z_iload_n (pc := 0) (j := 1) C dX10_isInWord_0 rfl rfl ?_
  refine z_if_le (pc := 1) (tgt := 47) C dX10_isInWord_1 (by decide) (by omega) (fun c1 => ?_) (fun c1 => ?_)
  · refine z_iconst (pc := 47) C dX10_isInWord_47 ?_
    exact z_zreturn (pc := 48) C (by decide) (by rw [hXp]; exact zpure_i (by rw [if_neg (by omega)]) rfl) dX10_isInWord_48
  · refine z_iload_n (pc := 4) (j := 1) C dX10_isInWord_4 rfl rfl ?_
    refine z_aload_n (pc := 5) (j := 0) C dX10_isInWord_5 rfl rfl ?_
    refine z_getfield (pc := 6) (v := .ref q) C in_X10 rfl 1 (by decide) q1964 (fun _ z => z) hrw rfl dX10_isInWord_6 ?_
    refine z_callV (pc := 9) (n := 0) (kc' := 0) (ks' := 0) C (ct_S_length C.t hq) (lw_V q2001 q468 q469 q83 q470) (by decide +kernel) ⟨by decide, by decide⟩ h1_1 rfl rfl rfl (Nat.le_of_ble_eq_true rfl) dX10_isInWord_9 (by omega) (by omega) (zpk (st' := [.int (iI ((T.length : Nat) : Int)), .int (iI k)]) rfl ?_) zrx
    refine z_icmp_ge (pc := 12) (tgt := 47) C dX10_isInWord_12 (by decide) (by omega) (by omega) (fun c12 => ?_) (fun c12 => ?_)
    · refine z_iconst (pc := 47) C dX10_isInWord_47 ?_
      exact z_zreturn (pc := 48) C (by decide) (by rw [hXp]; exact zpure_i (by rw [if_neg (by omega)]) rfl) dX10_isInWord_48
    · refine z_aload_n (pc := 15) (j := 0) C dX10_isInWord_15 rfl rfl ?_
      refine z_getfield (pc := 16) (v := .ref q) C in_X10 rfl 1 (by decide) q1964 (fun _ z => z) hrw rfl dX10_isInWord_16 ?_
      refine z_iload_n (pc := 19) (j := 1) C dX10_isInWord_19 rfl rfl ?_
      refine z_iconst (pc := 20) C dX10_isInWord_20 ?_
      refine z_isub (pc := 21) C dX10_isInWord_21 ?_
      have hch22 := lch_at (T := T) (k := k - 1) (by omega)
      have hcr22 := h4T _ (List.mem_of_getElem? hch22)
      refine z_callV (pc := 22) (n := 1) (kc' := 0) (ks' := 0) C (ct_S_charAt C.t hq (i := k - 1) (c := lch T (k - 1)) (by omega) hch22) (lw_V q2002 q561 q562 q83 q563) (by decide +kernel) ⟨by decide, by decide⟩ h1_1 rfl rfl rfl (Nat.le_of_ble_eq_true rfl) dX10_isInWord_22 (by omega) (by omega) (zpk (st' := [.int (iI (lch T (k - 1)))]) rfl ?_) zrx
      refine z_bipush (pc := 25) C dX10_isInWord_25 (by decide) ?_
      refine z_icmp_eq (pc := 27) (tgt := 47) C dX10_isInWord_27 (by decide) (by omega) (by decide) (fun c27 => ?_) (fun c27 => ?_)
      · refine z_iconst (pc := 47) C dX10_isInWord_47 ?_
        exact z_zreturn (pc := 48) C (by decide) (by rw [hXp]; exact zpure_i (by rw [if_neg (by omega)]) rfl) dX10_isInWord_48
      · refine z_aload_n (pc := 30) (j := 0) C dX10_isInWord_30 rfl rfl ?_
        refine z_getfield (pc := 31) (v := .ref q) C in_X10 rfl 1 (by decide) q1964 (fun _ z => z) hrw rfl dX10_isInWord_31 ?_
        refine z_iload_n (pc := 34) (j := 1) C dX10_isInWord_34 rfl rfl ?_
        have hch35 := lch_at (T := T) (k := k) (by omega)
        have hcr35 := h4T _ (List.mem_of_getElem? hch35)
        refine z_callV (pc := 35) (n := 1) (kc' := 0) (ks' := 0) C (ct_S_charAt C.t hq (i := k) (c := lch T k) (by omega) hch35) (lw_V q2002 q561 q562 q83 q563) (by decide +kernel) ⟨by decide, by decide⟩ h1_1 rfl rfl rfl (Nat.le_of_ble_eq_true rfl) dX10_isInWord_35 (by omega) (by omega) (zpk (st' := [.int (iI (lch T k))]) rfl ?_) zrx
        refine z_bipush (pc := 38) C dX10_isInWord_38 (by decide) ?_
        refine z_icmp_eq (pc := 40) (tgt := 47) C dX10_isInWord_40 (by decide) (by omega) (by decide) (fun c40 => ?_) (fun c40 => ?_)
        · refine z_iconst (pc := 47) C dX10_isInWord_47 ?_
          exact z_zreturn (pc := 48) C (by decide) (by rw [hXp]; exact zpure_i (by rw [if_neg (by omega)]) rfl) dX10_isInWord_48
        · refine z_iconst (pc := 43) C dX10_isInWord_43 ?_
          refine z_goto (pc := 44) (tgt := 48) C dX10_isInWord_44 (by decide) ?_
          exact z_zreturn (pc := 48) C (by decide) (by rw [hXp]; exact zpure_i (by rw [if_pos (by omega)]) rfl) dX10_isInWord_48
set_option maxHeartbeats 4000000 in
theorem ct_W_add {l : Launch} (hl : l.stackTraces = false) {Γ : zCx} {h : zH} {rw q b1 b2 c : Nat} {ln : Int} {T : List Int} (hrw : h rw = some (false, .inr (9, [.int (iI ln), .ref q, .ref b1, .ref b2, .ref c]))) (hq : sAt h q T) (hT : T.length ≤ 200) {v1 v2 : Nat} {u lo : List Int} (hb1 : bAt h b1 v1 u (kap u.length)) (hb2 : bAt h b2 v2 lo (kap lo.length)) (hnb : b1 ≠ b2) (hnv : v1 ≠ v2) {k : Nat} {x : zCh} (hk : cAt h k x) (hkr : crg x) (hM : (rad T (u, lo) x).1.length ≤ 1100 ∧ (rad T (u, lo) x).2.length ≤ 1100) (hul : u.length ≤ 1000) (hll : lo.length ≤ 1000)  : zMet l yX10_add (ws_ yX10_add cX10_add 2 none) ({ frames := 8, cells := (wC (rad T (u, lo) x) + 4 - wC (u, lo)), slots := (wS (rad T (u, lo) x) + 31 - wS (u, lo)), locals := 176 }) Γ h [.ref rw, .ref k] (zrt (fun w h' => w = none ∧ ∃ v1' v2', bAt h' b1 v1' (rad T (u, lo) x).1 (kap (rad T (u, lo) x).1.length) ∧ bAt h' b2 v2' (rad T (u, lo) x).2 (kap (rad T (u, lo) x).2.length) ∧ (v1' ∈ [b1, v1, b2, v2] ∨ h v1' = none) ∧ (v2' ∈ [b1, v1, b2, v2] ∨ h v2' = none) ∧ v1' ≠ v2' ∧ zkeep h h' [b1, v1, b2, v2])) (wC (rad T (u, lo) x) + 4 - wC (u, lo)) (wS (rad T (u, lo) x) + 31 - wS (u, lo)) := by
  refine zMet.of (cc := cX10_add) hl (plainFor_of_name (by decide +kernel)) (Nat.le_of_ble_eq_true rfl) ?_
  intro X hXl hXΓ hXp C hnm hnL
  have C : zC X cX10_add RX10 none 8 176 [] := C
  have hnL : X.2.1.2.2.2.2 = 2 := hnL
  subst hXl hXΓ
  show Z X h (wC (rad T (u, lo) x) + 4 - wC (u, lo)) (wS (rad T (u, lo) x) + 31 - wS (u, lo)) [(0, .ref rw), (1, .ref k)] 0 []
  obtain ⟨hl_1, v_1, x_1, y_1, g_1, h1_1, h2_1, h3_1, h4_1⟩ := id (hq)
  have h1_1 : h (q) = some (false, .inr (13, [.ref v_1, .int (iI 0), .int x_1, .int y_1])) := h1_1
  have h4T : ∀ c ∈ T, 0 ≤ c ∧ c < 128 := by obtain ⟨-, v, x, y, f, -, -, -, z⟩ := id hq; exact z
  have hbk1 := hb1
  obtain ⟨z1, f1, hbR1, hvR1, hlen1, hcap1, hcon1, hfit1, hasc1⟩ := id hb1
  have hbk2 := hb2
  obtain ⟨z2, f2, hbR2, hvR2, hlen2, hcap2, hcon2, hfit2, hasc2⟩ := id hb2
  obtain ⟨xr1, xr2, xr3, xr4, xr5⟩ := id hkr
  have hnl := nmt_r (q := x.2.2.2.1) xr3 xr5
  refine z_aload_n (pc := 0) (j := 0) C dX10_add_0 rfl rfl ?_
  refine z_getfield (pc := 1) (v := .ref b1) C in_X10 rfl 2 (by decide) q1966 (fun _ z => z) hrw rfl dX10_add_1 ?_
  refine z_callV (pc := 4) (n := 0) (kc' := (wC (rad T (u, lo) x) + 4 - wC (u, lo))) (ks' := (wS (rad T (u, lo) x) + 31 - wS (u, lo))) C (ct_B_length (cap := 0) (f := fun _ => .null) C.t hbR1) (lw_V q1996 q439 q440 q82 q441) (by decide +kernel) ⟨by decide, by decide⟩ hbR1 rfl rfl rfl (Nat.le_of_ble_eq_true rfl) dX10_add_4 (by omega) (by omega) (zpk (st' := [.int (iI ((u.length : Nat) : Int))]) rfl ?_) zrx
  refine z_if_le (pc := 7) (tgt := 44) C dX10_add_7 (by decide) (by omega) (fun c7 => ?_) (fun c7 => ?_)
  · have erd : rad T (u, lo) x = (fll u (((lo).length : Nat) : Int) 32 ++ nmt x.2.2.1 x.2.2.2.1 x.2.2.2.2, lo) := rad_0 (by omega)
    have hM1 : (fll u (((lo).length : Nat) : Int) 32 ++ nmt x.2.2.1 x.2.2.2.1 x.2.2.2.2).length ≤ 1100 := by have := hM.1; rw [erd] at this; exact this
    have hM2 : (lo).length ≤ 1100 := by have := hM.2; rw [erd] at this; exact this
    have hM3 : (fll u (((lo).length : Nat) : Int) 32).length ≤ 1100 := by simp only [List.length_append] at hM1; omega
    have hwC : wC (rad T (u, lo) x) = kcC (fll u (((lo).length : Nat) : Int) 32 ++ nmt x.2.2.1 x.2.2.2.1 x.2.2.2.2).length + kcC (lo).length := by rw [erd]; rfl
    have hwS : wS (rad T (u, lo) x) = kcS (fll u (((lo).length : Nat) : Int) 32 ++ nmt x.2.2.1 x.2.2.2.1 x.2.2.2.2).length + kcS (lo).length := by rw [erd]; rfl
    have hwC0 : wC (u, lo) = kcC u.length + kcC lo.length := rfl
    have hwS0 : wS (u, lo) = kcS u.length + kcS lo.length := rfl
    have km1 := kc_m (a := u.length) (b := (fll u (((lo).length : Nat) : Int) 32).length) (by rw [fll_l]; omega)
    have km2 := kc_m (a := (fll u (((lo).length : Nat) : Int) 32).length) (b := (fll u (((lo).length : Nat) : Int) 32 ++ nmt x.2.2.1 x.2.2.2.1 x.2.2.2.2).length) (by simp)
    have km3 := kc_m (a := lo.length) (b := (lo).length) (by exact Nat.le_refl _)
    refine z_aload_n (pc := 44) (j := 0) C dX10_add_44 rfl rfl ?_
    refine z_getfield (pc := 45) (v := .ref b1) C in_X10 rfl 2 (by decide) q1966 (fun _ z => z) hrw rfl dX10_add_45 ?_
    refine z_aload_n (pc := 48) (j := 0) C dX10_add_48 rfl rfl ?_
    refine z_getfield (pc := 49) (v := .ref b2) C in_X10 rfl 3 (by decide) q1968 (fun _ z => z) hrw rfl dX10_add_49 ?_
    refine z_callV (pc := 52) (n := 0) (kc' := (wC (rad T (u, lo) x) + 4 - wC (u, lo))) (ks' := (wS (rad T (u, lo) x) + 31 - wS (u, lo))) C (ct_B_length (cap := 0) (f := fun _ => .null) C.t hbR2) (lw_V q1996 q439 q440 q82 q441) (by decide +kernel) ⟨by decide, by decide⟩ hbR2 rfl rfl rfl (Nat.le_of_ble_eq_true rfl) dX10_add_52 (by omega) (by omega) (zpk (st' := [.int (iI ((lo.length : Nat) : Int)), .ref b1]) rfl ?_) zrx
    refine z_bipush (pc := 55) C dX10_add_55 (by decide) ?_
    refine z_callS (pc := 57) (n := 3) (kc' := ((wC (rad T (u, lo) x) + 4 - wC (u, lo)) - (kcC (fll u ((lo.length : Nat) : Int) 32).length - kcC u.length))) (ks' := ((wS (rad T (u, lo) x) + 31 - wS (u, lo)) - (kcS (fll u ((lo.length : Nat) : Int) 32).length - kcS u.length))) C (ct_W_fill C.t hbk1 (n := ((lo.length : Nat) : Int)) (c := 32) (by decide) (by omega) hM3) (lw_S q2003 q2004 q106 q2005) (by decide +kernel) ⟨by decide, by decide⟩ rfl rfl (Nat.le_of_ble_eq_true rfl) dX10_add_57 (by omega) (by omega) (zrk fun w h2 hp => ?_) zrx
    obtain ⟨rfl, v3, hb4, hv5, k6⟩ := hp
    have hsv3 : v2 ≠ v3 := vsepM hbR1 hvR2 (Ne.symm hnv) hv5
    have dv3 : v3 ∈ ([b1, v1, b2, v2] : List Nat) ∨ h v3 = none := zmayM hv5 (zall_cons (Or.inl (by simp)) (zall_cons (Or.inl (by simp)) zall_nil)) zkeep.rf
    have kh2 : zkeep h h2 [b1, v1, b2, v2] := zkeep.loc zkeep.rf k6 (zall_cons (Or.inl (Or.symm (Or.inl (by simp)))) (zall_cons (Or.inl (Or.symm (Or.inl (by simp)))) zall_nil))
    have fh2_1 : h2 b2 = some (true, .inr (12, [.ref v2, .int (iI 0), .int z2, .int (iI ((lo.length : Nat) : Int))])) := k6.n hbR2 (List.not_mem_cons_of_ne_of_not_mem (Ne.symm hnb) (List.not_mem_cons_of_ne_of_not_mem (zneA hbR2 hvR1) List.not_mem_nil))
    have fh2_2 : h2 v2 = some (true, .inl (.byte, kap lo.length, f2)) := k6.n hvR2 (List.not_mem_cons_of_ne_of_not_mem (Ne.symm (zneA hbR1 hvR2)) (List.not_mem_cons_of_ne_of_not_mem (Ne.symm hnv) List.not_mem_nil))
    have hx_7 := hb4
    obtain ⟨z_7, f_7, hb_7, hv_7, hlen_7, hcap_7, hcon_7, hfit_7, hasc_7⟩ := hx_7
    show Z X h2 ((wC (rad T (u, lo) x) + 4 - wC (u, lo)) - (kcC (fll u ((lo.length : Nat) : Int) 32).length - kcC u.length)) ((wS (rad T (u, lo) x) + 31 - wS (u, lo)) - (kcS (fll u ((lo.length : Nat) : Int) 32).length - kcS u.length)) [(0, .ref rw), (1, .ref k)] 60 []
    refine z_aload_n (pc := 60) (j := 0) C dX10_add_60 rfl rfl ?_
    refine z_getfield (pc := 61) (v := .ref b1) C in_X10 rfl 2 (by decide) q1966 (fun _ z => z) (kh2.f hrw) rfl dX10_add_61 ?_
    refine z_aload_n (pc := 64) (j := 1) C dX10_add_64 rfl rfl ?_
    refine z_callV (pc := 65) (n := 0) (kc' := (((wC (rad T (u, lo) x) + 4 - wC (u, lo)) - (kcC (fll u ((lo.length : Nat) : Int) 32).length - kcC u.length)) - 4)) (ks' := (((wS (rad T (u, lo) x) + 31 - wS (u, lo)) - (kcS (fll u ((lo.length : Nat) : Int) 32).length - kcS u.length)) - 31)) C (ct_C_name C.t (kh2.f hk) (by omega) (by omega) (by omega)) (lw_V q2007 q1767 q1768 q89 q1769) (by decide +kernel) ⟨by decide, by decide⟩ (kh2.f hk) rfl rfl rfl (Nat.le_of_ble_eq_true rfl) dX10_add_65 (by omega) (by omega) (zrk fun w h9 hp => ?_) zrx
    obtain ⟨a8, rfl, hs11, fa8, k10⟩ := hp
    have kh9 : zkeep h h9 [b1, v1, b2, v2] := zkeep.loc kh2 k10 zall_nil
    have fh9_1 : h9 b2 = some (true, .inr (12, [.ref v2, .int (iI 0), .int z2, .int (iI ((lo.length : Nat) : Int))])) := k10.n fh2_1 List.not_mem_nil
    have fh9_2 : h9 v2 = some (true, .inl (.byte, kap lo.length, f2)) := k10.n fh2_2 List.not_mem_nil
    have fh9_3 : h9 b1 = some (true, .inr (12, [.ref v3, .int (iI 0), .int z_7, .int (iI (((fll u ((lo.length : Nat) : Int) 32).length : Nat) : Int))])) := k10.n hb_7 List.not_mem_nil
    have fh9_4 : h9 v3 = some (true, .inl (.byte, kap (fll u ((lo.length : Nat) : Int) 32).length, f_7)) := k10.n hv_7 List.not_mem_nil
    show Z X h9 (((wC (rad T (u, lo) x) + 4 - wC (u, lo)) - (kcC (fll u ((lo.length : Nat) : Int) 32).length - kcC u.length)) - 4) (((wS (rad T (u, lo) x) + 31 - wS (u, lo)) - (kcS (fll u ((lo.length : Nat) : Int) 32).length - kcS u.length)) - 31) [(0, .ref rw), (1, .ref k)] 68 [.ref a8, .ref b1]
    refine z_callV (pc := 68) (n := 1) (kc' := ((((wC (rad T (u, lo) x) + 4 - wC (u, lo)) - (kcC (fll u ((lo.length : Nat) : Int) 32).length - kcC u.length)) - 4) - (kcC ((fll u ((lo.length : Nat) : Int) 32) ++ (nmt x.2.2.1 x.2.2.2.1 x.2.2.2.2)).length - kcC (fll u ((lo.length : Nat) : Int) 32).length))) (ks' := ((((wS (rad T (u, lo) x) + 31 - wS (u, lo)) - (kcS (fll u ((lo.length : Nat) : Int) 32).length - kcS u.length)) - 31) - (kcS ((fll u ((lo.length : Nat) : Int) 32) ++ (nmt x.2.2.1 x.2.2.2.1 x.2.2.2.2)).length - kcS (fll u ((lo.length : Nat) : Int) 32).length))) C (ct_B_appSk C.t (bAt.mk rfl rfl fh9_3 fh9_4 hlen_7 hcap_7 hcon_7 hfit_7 hasc_7) hs11 (by omega) (by omega)) (lw_V q2008 q714 q715 q82 q716) (by decide +kernel) ⟨by decide, by decide⟩ fh9_3 rfl rfl rfl (Nat.le_of_ble_eq_true rfl) dX10_add_68 (by omega) (by omega) (zrk fun w h12 hp => ?_) zrx
    obtain ⟨rfl, v13, hb14, hv15, k16⟩ := hp
    have hsv13 : v2 ≠ v13 := vsepM fh9_3 fh9_2 hsv3 (hv15.imp_left (fun e => by rw [e]; simp))
    have dv13 : v13 ∈ ([b1, v1, b2, v2] : List Nat) ∨ h v13 = none := zmay dv3 hv15 kh9
    have kh12 : zkeep h h12 [b1, v1, b2, v2] := zkeep.loc kh9 k16 (zall_cons (Or.inl (Or.symm (Or.inl (by simp)))) (zall_cons (Or.inl (Or.symm dv3)) zall_nil))
    have fh12_1 : h12 b2 = some (true, .inr (12, [.ref v2, .int (iI 0), .int z2, .int (iI ((lo.length : Nat) : Int))])) := k16.n fh9_1 (List.not_mem_cons_of_ne_of_not_mem (Ne.symm hnb) (List.not_mem_cons_of_ne_of_not_mem (zneA fh9_1 fh9_4) List.not_mem_nil))
    have fh12_2 : h12 v2 = some (true, .inl (.byte, kap lo.length, f2)) := k16.n fh9_2 (List.not_mem_cons_of_ne_of_not_mem (Ne.symm (zneA fh9_3 fh9_2)) (List.not_mem_cons_of_ne_of_not_mem hsv3 List.not_mem_nil))
    have ph12_1 : sAt h12 a8 (nmt x.2.2.1 x.2.2.2.1 x.2.2.2.2) := sAt.keep k16 hs11
    have hx_17 := hb14
    obtain ⟨z_17, f_17, hb_17, hv_17, hlen_17, hcap_17, hcon_17, hfit_17, hasc_17⟩ := hx_17
    show Z X h12 ((((wC (rad T (u, lo) x) + 4 - wC (u, lo)) - (kcC (fll u ((lo.length : Nat) : Int) 32).length - kcC u.length)) - 4) - (kcC ((fll u ((lo.length : Nat) : Int) 32) ++ (nmt x.2.2.1 x.2.2.2.1 x.2.2.2.2)).length - kcC (fll u ((lo.length : Nat) : Int) 32).length)) ((((wS (rad T (u, lo) x) + 31 - wS (u, lo)) - (kcS (fll u ((lo.length : Nat) : Int) 32).length - kcS u.length)) - 31) - (kcS ((fll u ((lo.length : Nat) : Int) 32) ++ (nmt x.2.2.1 x.2.2.2.1 x.2.2.2.2)).length - kcS (fll u ((lo.length : Nat) : Int) 32).length)) [(0, .ref rw), (1, .ref k)] 71 [.ref b1]
    refine z_pop (pc := 71) C dX10_add_71 rfl ?_
    exact z_return (pc := 72) C (by rw [hXp]; exact ⟨_, rfl, rfl, v13, v2, (by rw [erd]; exact hb14), (by rw [erd]; exact (bAt.mk rfl rfl fh12_1 fh12_2 hlen2 hcap2 hcon2 hfit2 hasc2)), dv13, (Or.inl (by simp)), (Ne.symm hsv13), kh12⟩) dX10_add_72
  · refine z_aload_n (pc := 10) (j := 0) C dX10_add_10 rfl rfl ?_
    refine z_getfield (pc := 11) (v := .ref b2) C in_X10 rfl 3 (by decide) q1968 (fun _ z => z) hrw rfl dX10_add_11 ?_
    refine z_aload_n (pc := 14) (j := 0) C dX10_add_14 rfl rfl ?_
    refine z_getfield (pc := 15) (v := .ref b1) C in_X10 rfl 2 (by decide) q1966 (fun _ z => z) hrw rfl dX10_add_15 ?_
    refine z_callV (pc := 18) (n := 0) (kc' := (wC (rad T (u, lo) x) + 4 - wC (u, lo))) (ks' := (wS (rad T (u, lo) x) + 31 - wS (u, lo))) C (ct_B_length (cap := 0) (f := fun _ => .null) C.t hbR1) (lw_V q1996 q439 q440 q82 q441) (by decide +kernel) ⟨by decide, by decide⟩ hbR1 rfl rfl rfl (Nat.le_of_ble_eq_true rfl) dX10_add_18 (by omega) (by omega) (zpk (st' := [.int (iI ((u.length : Nat) : Int)), .ref b2]) rfl ?_) zrx
    refine z_iconst (pc := 21) C dX10_add_21 ?_
    refine z_iadd (pc := 22) C dX10_add_22 ?_
    refine z_aload_n (pc := 23) (j := 0) C dX10_add_23 rfl rfl ?_
    refine z_aload_n (pc := 24) (j := 1) C dX10_add_24 rfl rfl ?_
    refine z_getfieldN (pc := 25) (v := .int (iI x.2.1)) C in_X7 rfl 1 (by decide) q596 (fun _ z => z) hk rfl dX10_add_25 ?_
    refine z_callV (pc := 28) (n := 1) (kc' := (wC (rad T (u, lo) x) + 4 - wC (u, lo))) (ks' := (wS (rad T (u, lo) x) + 31 - wS (u, lo))) C (ct_W_inw C.t hrw hq hT (k := x.2.1) (by omega)) (lw_V q1997 q1999 qs23 q106 q2000) (by decide +kernel) ⟨by decide, by decide⟩ hrw rfl rfl rfl (Nat.le_of_ble_eq_true rfl) dX10_add_28 (by omega) (by omega) (zpk (st' := [.int (iI (if inw T x.2.1 then 1 else 0)), .int (iI (((u.length : Nat) : Int) + 1)), .ref b2]) rfl ?_) zrx
    refine z_if_eq (pc := 31) (tgt := 39) C dX10_add_31 (by decide) (by omega) (fun c31 => ?_) (fun c31 => ?_)
    · have erd : rad T (u, lo) x = (fll u (((fll lo (((u.length : Nat) : Int) + 1) 32).length : Nat) : Int) 32 ++ nmt x.2.2.1 x.2.2.2.1 x.2.2.2.2, fll lo (((u.length : Nat) : Int) + 1) 32) := rad_n (by omega) (by omega)
      have hM1 : (fll u (((fll lo (((u.length : Nat) : Int) + 1) 32).length : Nat) : Int) 32 ++ nmt x.2.2.1 x.2.2.2.1 x.2.2.2.2).length ≤ 1100 := by have := hM.1; rw [erd] at this; exact this
      have hM2 : (fll lo (((u.length : Nat) : Int) + 1) 32).length ≤ 1100 := by have := hM.2; rw [erd] at this; exact this
      have hM3 : (fll u (((fll lo (((u.length : Nat) : Int) + 1) 32).length : Nat) : Int) 32).length ≤ 1100 := by simp only [List.length_append] at hM1; omega
      have hwC : wC (rad T (u, lo) x) = kcC (fll u (((fll lo (((u.length : Nat) : Int) + 1) 32).length : Nat) : Int) 32 ++ nmt x.2.2.1 x.2.2.2.1 x.2.2.2.2).length + kcC (fll lo (((u.length : Nat) : Int) + 1) 32).length := by rw [erd]; rfl
      have hwS : wS (rad T (u, lo) x) = kcS (fll u (((fll lo (((u.length : Nat) : Int) + 1) 32).length : Nat) : Int) 32 ++ nmt x.2.2.1 x.2.2.2.1 x.2.2.2.2).length + kcS (fll lo (((u.length : Nat) : Int) + 1) 32).length := by rw [erd]; rfl
      have hwC0 : wC (u, lo) = kcC u.length + kcC lo.length := rfl
      have hwS0 : wS (u, lo) = kcS u.length + kcS lo.length := rfl
      have km1 := kc_m (a := u.length) (b := (fll u (((fll lo (((u.length : Nat) : Int) + 1) 32).length : Nat) : Int) 32).length) (by rw [fll_l]; omega)
      have km2 := kc_m (a := (fll u (((fll lo (((u.length : Nat) : Int) + 1) 32).length : Nat) : Int) 32).length) (b := (fll u (((fll lo (((u.length : Nat) : Int) + 1) 32).length : Nat) : Int) 32 ++ nmt x.2.2.1 x.2.2.2.1 x.2.2.2.2).length) (by simp)
      have km3 := kc_m (a := lo.length) (b := (fll lo (((u.length : Nat) : Int) + 1) 32).length) (by rw [fll_l]; omega)
      have hfl2 := fll_l lo (((u.length : Nat) : Int) + 1) 32
      refine z_bipush (pc := 39) C dX10_add_39 (by decide) ?_
      refine z_callS (pc := 41) (n := 3) (kc' := ((wC (rad T (u, lo) x) + 4 - wC (u, lo)) - (kcC (fll lo (((u.length : Nat) : Int) + 1) 32).length - kcC lo.length))) (ks' := ((wS (rad T (u, lo) x) + 31 - wS (u, lo)) - (kcS (fll lo (((u.length : Nat) : Int) + 1) 32).length - kcS lo.length))) C (ct_W_fill C.t hbk2 (n := ((u.length : Nat) : Int) + 1) (c := 32) (by decide) (by omega) hM2) (lw_S q2003 q2004 q106 q2005) (by decide +kernel) ⟨by decide, by decide⟩ rfl rfl (Nat.le_of_ble_eq_true rfl) dX10_add_41 (by omega) (by omega) (zrk fun w h18 hp => ?_) zrx
      obtain ⟨rfl, v19, hb20, hv21, k22⟩ := hp
      have hsv19 : v1 ≠ v19 := vsepM hbR2 hvR1 hnv hv21
      have dv19 : v19 ∈ ([b1, v1, b2, v2] : List Nat) ∨ h v19 = none := zmayM hv21 (zall_cons (Or.inl (by simp)) (zall_cons (Or.inl (by simp)) zall_nil)) zkeep.rf
      have kh18 : zkeep h h18 [b1, v1, b2, v2] := zkeep.loc zkeep.rf k22 (zall_cons (Or.inl (Or.symm (Or.inl (by simp)))) (zall_cons (Or.inl (Or.symm (Or.inl (by simp)))) zall_nil))
      have fh18_1 : h18 b1 = some (true, .inr (12, [.ref v1, .int (iI 0), .int z1, .int (iI ((u.length : Nat) : Int))])) := k22.n hbR1 (List.not_mem_cons_of_ne_of_not_mem hnb (List.not_mem_cons_of_ne_of_not_mem (zneA hbR1 hvR2) List.not_mem_nil))
      have fh18_2 : h18 v1 = some (true, .inl (.byte, kap u.length, f1)) := k22.n hvR1 (List.not_mem_cons_of_ne_of_not_mem (Ne.symm (zneA hbR2 hvR1)) (List.not_mem_cons_of_ne_of_not_mem hnv List.not_mem_nil))
      have hx_23 := hb20
      obtain ⟨z_23, f_23, hb_23, hv_23, hlen_23, hcap_23, hcon_23, hfit_23, hasc_23⟩ := hx_23
      show Z X h18 ((wC (rad T (u, lo) x) + 4 - wC (u, lo)) - (kcC (fll lo (((u.length : Nat) : Int) + 1) 32).length - kcC lo.length)) ((wS (rad T (u, lo) x) + 31 - wS (u, lo)) - (kcS (fll lo (((u.length : Nat) : Int) + 1) 32).length - kcS lo.length)) [(0, .ref rw), (1, .ref k)] 44 []
      refine z_aload_n (pc := 44) (j := 0) C dX10_add_44 rfl rfl ?_
      refine z_getfield (pc := 45) (v := .ref b1) C in_X10 rfl 2 (by decide) q1966 (fun _ z => z) (kh18.f hrw) rfl dX10_add_45 ?_
      refine z_aload_n (pc := 48) (j := 0) C dX10_add_48 rfl rfl ?_
      refine z_getfield (pc := 49) (v := .ref b2) C in_X10 rfl 3 (by decide) q1968 (fun _ z => z) (kh18.f hrw) rfl dX10_add_49 ?_
      refine z_callV (pc := 52) (n := 0) (kc' := ((wC (rad T (u, lo) x) + 4 - wC (u, lo)) - (kcC (fll lo (((u.length : Nat) : Int) + 1) 32).length - kcC lo.length))) (ks' := ((wS (rad T (u, lo) x) + 31 - wS (u, lo)) - (kcS (fll lo (((u.length : Nat) : Int) + 1) 32).length - kcS lo.length))) C (ct_B_length (cap := 0) (f := fun _ => .null) C.t hb_23) (lw_V q1996 q439 q440 q82 q441) (by decide +kernel) ⟨by decide, by decide⟩ hb_23 rfl rfl rfl (Nat.le_of_ble_eq_true rfl) dX10_add_52 (by omega) (by omega) (zpk (st' := [.int (iI (((fll lo (((u.length : Nat) : Int) + 1) 32).length : Nat) : Int)), .ref b1]) rfl ?_) zrx
      refine z_bipush (pc := 55) C dX10_add_55 (by decide) ?_
      refine z_callS (pc := 57) (n := 3) (kc' := (((wC (rad T (u, lo) x) + 4 - wC (u, lo)) - (kcC (fll lo (((u.length : Nat) : Int) + 1) 32).length - kcC lo.length)) - (kcC (fll u (((fll lo (((u.length : Nat) : Int) + 1) 32).length : Nat) : Int) 32).length - kcC u.length))) (ks' := (((wS (rad T (u, lo) x) + 31 - wS (u, lo)) - (kcS (fll lo (((u.length : Nat) : Int) + 1) 32).length - kcS lo.length)) - (kcS (fll u (((fll lo (((u.length : Nat) : Int) + 1) 32).length : Nat) : Int) 32).length - kcS u.length))) C (ct_W_fill C.t (bAt.mk rfl rfl fh18_1 fh18_2 hlen1 hcap1 hcon1 hfit1 hasc1) (n := (((fll lo (((u.length : Nat) : Int) + 1) 32).length : Nat) : Int)) (c := 32) (by decide) (by omega) hM3) (lw_S q2003 q2004 q106 q2005) (by decide +kernel) ⟨by decide, by decide⟩ rfl rfl (Nat.le_of_ble_eq_true rfl) dX10_add_57 (by omega) (by omega) (zrk fun w h24 hp => ?_) zrx
      obtain ⟨rfl, v25, hb26, hv27, k28⟩ := hp
      have hsv25 : v19 ≠ v25 := vsepM fh18_1 hv_23 (Ne.symm hsv19) hv27
      have dv25 : v25 ∈ ([b1, v1, b2, v2] : List Nat) ∨ h v25 = none := zmayM hv27 (zall_cons (Or.inl (by simp)) (zall_cons (Or.inl (by simp)) zall_nil)) kh18
      have kh24 : zkeep h h24 [b1, v1, b2, v2] := zkeep.loc kh18 k28 (zall_cons (Or.inl (Or.symm (Or.inl (by simp)))) (zall_cons (Or.inl (Or.symm (Or.inl (by simp)))) zall_nil))
      have fh24_1 : h24 b2 = some (true, .inr (12, [.ref v19, .int (iI 0), .int z_23, .int (iI (((fll lo (((u.length : Nat) : Int) + 1) 32).length : Nat) : Int))])) := k28.n hb_23 (List.not_mem_cons_of_ne_of_not_mem (Ne.symm hnb) (List.not_mem_cons_of_ne_of_not_mem (zneA hb_23 fh18_2) List.not_mem_nil))
      have fh24_2 : h24 v19 = some (true, .inl (.byte, kap (fll lo (((u.length : Nat) : Int) + 1) 32).length, f_23)) := k28.n hv_23 (List.not_mem_cons_of_ne_of_not_mem (Ne.symm (zneA fh18_1 hv_23)) (List.not_mem_cons_of_ne_of_not_mem (Ne.symm hsv19) List.not_mem_nil))
      have hx_29 := hb26
      obtain ⟨z_29, f_29, hb_29, hv_29, hlen_29, hcap_29, hcon_29, hfit_29, hasc_29⟩ := hx_29
      show Z X h24 (((wC (rad T (u, lo) x) + 4 - wC (u, lo)) - (kcC (fll lo (((u.length : Nat) : Int) + 1) 32).length - kcC lo.length)) - (kcC (fll u (((fll lo (((u.length : Nat) : Int) + 1) 32).length : Nat) : Int) 32).length - kcC u.length)) (((wS (rad T (u, lo) x) + 31 - wS (u, lo)) - (kcS (fll lo (((u.length : Nat) : Int) + 1) 32).length - kcS lo.length)) - (kcS (fll u (((fll lo (((u.length : Nat) : Int) + 1) 32).length : Nat) : Int) 32).length - kcS u.length)) [(0, .ref rw), (1, .ref k)] 60 []
      refine z_aload_n (pc := 60) (j := 0) C dX10_add_60 rfl rfl ?_
      refine z_getfield (pc := 61) (v := .ref b1) C in_X10 rfl 2 (by decide) q1966 (fun _ z => z) (kh24.f hrw) rfl dX10_add_61 ?_
      refine z_aload_n (pc := 64) (j := 1) C dX10_add_64 rfl rfl ?_
      refine z_callV (pc := 65) (n := 0) (kc' := ((((wC (rad T (u, lo) x) + 4 - wC (u, lo)) - (kcC (fll lo (((u.length : Nat) : Int) + 1) 32).length - kcC lo.length)) - (kcC (fll u (((fll lo (((u.length : Nat) : Int) + 1) 32).length : Nat) : Int) 32).length - kcC u.length)) - 4)) (ks' := ((((wS (rad T (u, lo) x) + 31 - wS (u, lo)) - (kcS (fll lo (((u.length : Nat) : Int) + 1) 32).length - kcS lo.length)) - (kcS (fll u (((fll lo (((u.length : Nat) : Int) + 1) 32).length : Nat) : Int) 32).length - kcS u.length)) - 31)) C (ct_C_name C.t (kh24.f hk) (by omega) (by omega) (by omega)) (lw_V q2007 q1767 q1768 q89 q1769) (by decide +kernel) ⟨by decide, by decide⟩ (kh24.f hk) rfl rfl rfl (Nat.le_of_ble_eq_true rfl) dX10_add_65 (by omega) (by omega) (zrk fun w h31 hp => ?_) zrx
      obtain ⟨a30, rfl, hs33, fa30, k32⟩ := hp
      have kh31 : zkeep h h31 [b1, v1, b2, v2] := zkeep.loc kh24 k32 zall_nil
      have fh31_1 : h31 b2 = some (true, .inr (12, [.ref v19, .int (iI 0), .int z_23, .int (iI (((fll lo (((u.length : Nat) : Int) + 1) 32).length : Nat) : Int))])) := k32.n fh24_1 List.not_mem_nil
      have fh31_2 : h31 v19 = some (true, .inl (.byte, kap (fll lo (((u.length : Nat) : Int) + 1) 32).length, f_23)) := k32.n fh24_2 List.not_mem_nil
      have fh31_3 : h31 b1 = some (true, .inr (12, [.ref v25, .int (iI 0), .int z_29, .int (iI (((fll u (((fll lo (((u.length : Nat) : Int) + 1) 32).length : Nat) : Int) 32).length : Nat) : Int))])) := k32.n hb_29 List.not_mem_nil
      have fh31_4 : h31 v25 = some (true, .inl (.byte, kap (fll u (((fll lo (((u.length : Nat) : Int) + 1) 32).length : Nat) : Int) 32).length, f_29)) := k32.n hv_29 List.not_mem_nil
      show Z X h31 ((((wC (rad T (u, lo) x) + 4 - wC (u, lo)) - (kcC (fll lo (((u.length : Nat) : Int) + 1) 32).length - kcC lo.length)) - (kcC (fll u (((fll lo (((u.length : Nat) : Int) + 1) 32).length : Nat) : Int) 32).length - kcC u.length)) - 4) ((((wS (rad T (u, lo) x) + 31 - wS (u, lo)) - (kcS (fll lo (((u.length : Nat) : Int) + 1) 32).length - kcS lo.length)) - (kcS (fll u (((fll lo (((u.length : Nat) : Int) + 1) 32).length : Nat) : Int) 32).length - kcS u.length)) - 31) [(0, .ref rw), (1, .ref k)] 68 [.ref a30, .ref b1]
      refine z_callV (pc := 68) (n := 1) (kc' := (((((wC (rad T (u, lo) x) + 4 - wC (u, lo)) - (kcC (fll lo (((u.length : Nat) : Int) + 1) 32).length - kcC lo.length)) - (kcC (fll u (((fll lo (((u.length : Nat) : Int) + 1) 32).length : Nat) : Int) 32).length - kcC u.length)) - 4) - (kcC ((fll u (((fll lo (((u.length : Nat) : Int) + 1) 32).length : Nat) : Int) 32) ++ (nmt x.2.2.1 x.2.2.2.1 x.2.2.2.2)).length - kcC (fll u (((fll lo (((u.length : Nat) : Int) + 1) 32).length : Nat) : Int) 32).length))) (ks' := (((((wS (rad T (u, lo) x) + 31 - wS (u, lo)) - (kcS (fll lo (((u.length : Nat) : Int) + 1) 32).length - kcS lo.length)) - (kcS (fll u (((fll lo (((u.length : Nat) : Int) + 1) 32).length : Nat) : Int) 32).length - kcS u.length)) - 31) - (kcS ((fll u (((fll lo (((u.length : Nat) : Int) + 1) 32).length : Nat) : Int) 32) ++ (nmt x.2.2.1 x.2.2.2.1 x.2.2.2.2)).length - kcS (fll u (((fll lo (((u.length : Nat) : Int) + 1) 32).length : Nat) : Int) 32).length))) C (ct_B_appSk C.t (bAt.mk rfl rfl fh31_3 fh31_4 hlen_29 hcap_29 hcon_29 hfit_29 hasc_29) hs33 (by omega) (by omega)) (lw_V q2008 q714 q715 q82 q716) (by decide +kernel) ⟨by decide, by decide⟩ fh31_3 rfl rfl rfl (Nat.le_of_ble_eq_true rfl) dX10_add_68 (by omega) (by omega) (zrk fun w h34 hp => ?_) zrx
      obtain ⟨rfl, v35, hb36, hv37, k38⟩ := hp
      have hsv35 : v19 ≠ v35 := vsepM fh31_3 fh31_2 hsv25 (hv37.imp_left (fun e => by rw [e]; simp))
      have dv35 : v35 ∈ ([b1, v1, b2, v2] : List Nat) ∨ h v35 = none := zmay dv25 hv37 kh31
      have kh34 : zkeep h h34 [b1, v1, b2, v2] := zkeep.loc kh31 k38 (zall_cons (Or.inl (Or.symm (Or.inl (by simp)))) (zall_cons (Or.inl (Or.symm dv25)) zall_nil))
      have fh34_1 : h34 b2 = some (true, .inr (12, [.ref v19, .int (iI 0), .int z_23, .int (iI (((fll lo (((u.length : Nat) : Int) + 1) 32).length : Nat) : Int))])) := k38.n fh31_1 (List.not_mem_cons_of_ne_of_not_mem (Ne.symm hnb) (List.not_mem_cons_of_ne_of_not_mem (zneA fh31_1 fh31_4) List.not_mem_nil))
      have fh34_2 : h34 v19 = some (true, .inl (.byte, kap (fll lo (((u.length : Nat) : Int) + 1) 32).length, f_23)) := k38.n fh31_2 (List.not_mem_cons_of_ne_of_not_mem (Ne.symm (zneA fh31_3 fh31_2)) (List.not_mem_cons_of_ne_of_not_mem hsv25 List.not_mem_nil))
      have ph34_1 : sAt h34 a30 (nmt x.2.2.1 x.2.2.2.1 x.2.2.2.2) := sAt.keep k38 hs33
      have hx_39 := hb36
      obtain ⟨z_39, f_39, hb_39, hv_39, hlen_39, hcap_39, hcon_39, hfit_39, hasc_39⟩ := hx_39
      show Z X h34 (((((wC (rad T (u, lo) x) + 4 - wC (u, lo)) - (kcC (fll lo (((u.length : Nat) : Int) + 1) 32).length - kcC lo.length)) - (kcC (fll u (((fll lo (((u.length : Nat) : Int) + 1) 32).length : Nat) : Int) 32).length - kcC u.length)) - 4) - (kcC ((fll u (((fll lo (((u.length : Nat) : Int) + 1) 32).length : Nat) : Int) 32) ++ (nmt x.2.2.1 x.2.2.2.1 x.2.2.2.2)).length - kcC (fll u (((fll lo (((u.length : Nat) : Int) + 1) 32).length : Nat) : Int) 32).length)) (((((wS (rad T (u, lo) x) + 31 - wS (u, lo)) - (kcS (fll lo (((u.length : Nat) : Int) + 1) 32).length - kcS lo.length)) - (kcS (fll u (((fll lo (((u.length : Nat) : Int) + 1) 32).length : Nat) : Int) 32).length - kcS u.length)) - 31) - (kcS ((fll u (((fll lo (((u.length : Nat) : Int) + 1) 32).length : Nat) : Int) 32) ++ (nmt x.2.2.1 x.2.2.2.1 x.2.2.2.2)).length - kcS (fll u (((fll lo (((u.length : Nat) : Int) + 1) 32).length : Nat) : Int) 32).length)) [(0, .ref rw), (1, .ref k)] 71 [.ref b1]
      refine z_pop (pc := 71) C dX10_add_71 rfl ?_
      exact z_return (pc := 72) C (by rw [hXp]; exact ⟨_, rfl, rfl, v35, v19, (by rw [erd]; exact hb36), (by rw [erd]; exact (bAt.mk rfl rfl fh34_1 fh34_2 hlen_23 hcap_23 hcon_23 hfit_23 hasc_23)), dv35, dv19, (Ne.symm hsv35), kh34⟩) dX10_add_72
    · have erd : rad T (u, lo) x = (fll u (((fll lo (((u.length : Nat) : Int) + 1) 45).length : Nat) : Int) 32 ++ nmt x.2.2.1 x.2.2.2.1 x.2.2.2.2, fll lo (((u.length : Nat) : Int) + 1) 45) := rad_w (by omega) (by omega)
      have hM1 : (fll u (((fll lo (((u.length : Nat) : Int) + 1) 45).length : Nat) : Int) 32 ++ nmt x.2.2.1 x.2.2.2.1 x.2.2.2.2).length ≤ 1100 := by have := hM.1; rw [erd] at this; exact this
      have hM2 : (fll lo (((u.length : Nat) : Int) + 1) 45).length ≤ 1100 := by have := hM.2; rw [erd] at this; exact this
      have hM3 : (fll u (((fll lo (((u.length : Nat) : Int) + 1) 45).length : Nat) : Int) 32).length ≤ 1100 := by simp only [List.length_append] at hM1; omega
      have hwC : wC (rad T (u, lo) x) = kcC (fll u (((fll lo (((u.length : Nat) : Int) + 1) 45).length : Nat) : Int) 32 ++ nmt x.2.2.1 x.2.2.2.1 x.2.2.2.2).length + kcC (fll lo (((u.length : Nat) : Int) + 1) 45).length := by rw [erd]; rfl
      have hwS : wS (rad T (u, lo) x) = kcS (fll u (((fll lo (((u.length : Nat) : Int) + 1) 45).length : Nat) : Int) 32 ++ nmt x.2.2.1 x.2.2.2.1 x.2.2.2.2).length + kcS (fll lo (((u.length : Nat) : Int) + 1) 45).length := by rw [erd]; rfl
      have hwC0 : wC (u, lo) = kcC u.length + kcC lo.length := rfl
      have hwS0 : wS (u, lo) = kcS u.length + kcS lo.length := rfl
      have km1 := kc_m (a := u.length) (b := (fll u (((fll lo (((u.length : Nat) : Int) + 1) 45).length : Nat) : Int) 32).length) (by rw [fll_l]; omega)
      have km2 := kc_m (a := (fll u (((fll lo (((u.length : Nat) : Int) + 1) 45).length : Nat) : Int) 32).length) (b := (fll u (((fll lo (((u.length : Nat) : Int) + 1) 45).length : Nat) : Int) 32 ++ nmt x.2.2.1 x.2.2.2.1 x.2.2.2.2).length) (by simp)
      have km3 := kc_m (a := lo.length) (b := (fll lo (((u.length : Nat) : Int) + 1) 45).length) (by rw [fll_l]; omega)
      have hfl2 := fll_l lo (((u.length : Nat) : Int) + 1) 45
      refine z_bipush (pc := 34) C dX10_add_34 (by decide) ?_
      refine z_goto (pc := 36) (tgt := 41) C dX10_add_36 (by decide) ?_
      refine z_callS (pc := 41) (n := 3) (kc' := ((wC (rad T (u, lo) x) + 4 - wC (u, lo)) - (kcC (fll lo (((u.length : Nat) : Int) + 1) 45).length - kcC lo.length))) (ks' := ((wS (rad T (u, lo) x) + 31 - wS (u, lo)) - (kcS (fll lo (((u.length : Nat) : Int) + 1) 45).length - kcS lo.length))) C (ct_W_fill C.t hbk2 (n := ((u.length : Nat) : Int) + 1) (c := 45) (by decide) (by omega) hM2) (lw_S q2003 q2004 q106 q2005) (by decide +kernel) ⟨by decide, by decide⟩ rfl rfl (Nat.le_of_ble_eq_true rfl) dX10_add_41 (by omega) (by omega) (zrk fun w h40 hp => ?_) zrx
      obtain ⟨rfl, v41, hb42, hv43, k44⟩ := hp
      have hsv41 : v1 ≠ v41 := vsepM hbR2 hvR1 hnv hv43
      have dv41 : v41 ∈ ([b1, v1, b2, v2] : List Nat) ∨ h v41 = none := zmayM hv43 (zall_cons (Or.inl (by simp)) (zall_cons (Or.inl (by simp)) zall_nil)) zkeep.rf
      have kh40 : zkeep h h40 [b1, v1, b2, v2] := zkeep.loc zkeep.rf k44 (zall_cons (Or.inl (Or.symm (Or.inl (by simp)))) (zall_cons (Or.inl (Or.symm (Or.inl (by simp)))) zall_nil))
      have fh40_1 : h40 b1 = some (true, .inr (12, [.ref v1, .int (iI 0), .int z1, .int (iI ((u.length : Nat) : Int))])) := k44.n hbR1 (List.not_mem_cons_of_ne_of_not_mem hnb (List.not_mem_cons_of_ne_of_not_mem (zneA hbR1 hvR2) List.not_mem_nil))
      have fh40_2 : h40 v1 = some (true, .inl (.byte, kap u.length, f1)) := k44.n hvR1 (List.not_mem_cons_of_ne_of_not_mem (Ne.symm (zneA hbR2 hvR1)) (List.not_mem_cons_of_ne_of_not_mem hnv List.not_mem_nil))
      have hx_45 := hb42
      obtain ⟨z_45, f_45, hb_45, hv_45, hlen_45, hcap_45, hcon_45, hfit_45, hasc_45⟩ := hx_45
      show Z X h40 ((wC (rad T (u, lo) x) + 4 - wC (u, lo)) - (kcC (fll lo (((u.length : Nat) : Int) + 1) 45).length - kcC lo.length)) ((wS (rad T (u, lo) x) + 31 - wS (u, lo)) - (kcS (fll lo (((u.length : Nat) : Int) + 1) 45).length - kcS lo.length)) [(0, .ref rw), (1, .ref k)] 44 []
      refine z_aload_n (pc := 44) (j := 0) C dX10_add_44 rfl rfl ?_
      refine z_getfield (pc := 45) (v := .ref b1) C in_X10 rfl 2 (by decide) q1966 (fun _ z => z) (kh40.f hrw) rfl dX10_add_45 ?_
      refine z_aload_n (pc := 48) (j := 0) C dX10_add_48 rfl rfl ?_
      refine z_getfield (pc := 49) (v := .ref b2) C in_X10 rfl 3 (by decide) q1968 (fun _ z => z) (kh40.f hrw) rfl dX10_add_49 ?_
      refine z_callV (pc := 52) (n := 0) (kc' := ((wC (rad T (u, lo) x) + 4 - wC (u, lo)) - (kcC (fll lo (((u.length : Nat) : Int) + 1) 45).length - kcC lo.length))) (ks' := ((wS (rad T (u, lo) x) + 31 - wS (u, lo)) - (kcS (fll lo (((u.length : Nat) : Int) + 1) 45).length - kcS lo.length))) C (ct_B_length (cap := 0) (f := fun _ => .null) C.t hb_45) (lw_V q1996 q439 q440 q82 q441) (by decide +kernel) ⟨by decide, by decide⟩ hb_45 rfl rfl rfl (Nat.le_of_ble_eq_true rfl) dX10_add_52 (by omega) (by omega) (zpk (st' := [.int (iI (((fll lo (((u.length : Nat) : Int) + 1) 45).length : Nat) : Int)), .ref b1]) rfl ?_) zrx
      refine z_bipush (pc := 55) C dX10_add_55 (by decide) ?_
      refine z_callS (pc := 57) (n := 3) (kc' := (((wC (rad T (u, lo) x) + 4 - wC (u, lo)) - (kcC (fll lo (((u.length : Nat) : Int) + 1) 45).length - kcC lo.length)) - (kcC (fll u (((fll lo (((u.length : Nat) : Int) + 1) 45).length : Nat) : Int) 32).length - kcC u.length))) (ks' := (((wS (rad T (u, lo) x) + 31 - wS (u, lo)) - (kcS (fll lo (((u.length : Nat) : Int) + 1) 45).length - kcS lo.length)) - (kcS (fll u (((fll lo (((u.length : Nat) : Int) + 1) 45).length : Nat) : Int) 32).length - kcS u.length))) C (ct_W_fill C.t (bAt.mk rfl rfl fh40_1 fh40_2 hlen1 hcap1 hcon1 hfit1 hasc1) (n := (((fll lo (((u.length : Nat) : Int) + 1) 45).length : Nat) : Int)) (c := 32) (by decide) (by omega) hM3) (lw_S q2003 q2004 q106 q2005) (by decide +kernel) ⟨by decide, by decide⟩ rfl rfl (Nat.le_of_ble_eq_true rfl) dX10_add_57 (by omega) (by omega) (zrk fun w h46 hp => ?_) zrx
      obtain ⟨rfl, v47, hb48, hv49, k50⟩ := hp
      have hsv47 : v41 ≠ v47 := vsepM fh40_1 hv_45 (Ne.symm hsv41) hv49
      have dv47 : v47 ∈ ([b1, v1, b2, v2] : List Nat) ∨ h v47 = none := zmayM hv49 (zall_cons (Or.inl (by simp)) (zall_cons (Or.inl (by simp)) zall_nil)) kh40
      have kh46 : zkeep h h46 [b1, v1, b2, v2] := zkeep.loc kh40 k50 (zall_cons (Or.inl (Or.symm (Or.inl (by simp)))) (zall_cons (Or.inl (Or.symm (Or.inl (by simp)))) zall_nil))
      have fh46_1 : h46 b2 = some (true, .inr (12, [.ref v41, .int (iI 0), .int z_45, .int (iI (((fll lo (((u.length : Nat) : Int) + 1) 45).length : Nat) : Int))])) := k50.n hb_45 (List.not_mem_cons_of_ne_of_not_mem (Ne.symm hnb) (List.not_mem_cons_of_ne_of_not_mem (zneA hb_45 fh40_2) List.not_mem_nil))
      have fh46_2 : h46 v41 = some (true, .inl (.byte, kap (fll lo (((u.length : Nat) : Int) + 1) 45).length, f_45)) := k50.n hv_45 (List.not_mem_cons_of_ne_of_not_mem (Ne.symm (zneA fh40_1 hv_45)) (List.not_mem_cons_of_ne_of_not_mem (Ne.symm hsv41) List.not_mem_nil))
      have hx_51 := hb48
      obtain ⟨z_51, f_51, hb_51, hv_51, hlen_51, hcap_51, hcon_51, hfit_51, hasc_51⟩ := hx_51
      show Z X h46 (((wC (rad T (u, lo) x) + 4 - wC (u, lo)) - (kcC (fll lo (((u.length : Nat) : Int) + 1) 45).length - kcC lo.length)) - (kcC (fll u (((fll lo (((u.length : Nat) : Int) + 1) 45).length : Nat) : Int) 32).length - kcC u.length)) (((wS (rad T (u, lo) x) + 31 - wS (u, lo)) - (kcS (fll lo (((u.length : Nat) : Int) + 1) 45).length - kcS lo.length)) - (kcS (fll u (((fll lo (((u.length : Nat) : Int) + 1) 45).length : Nat) : Int) 32).length - kcS u.length)) [(0, .ref rw), (1, .ref k)] 60 []
      refine z_aload_n (pc := 60) (j := 0) C dX10_add_60 rfl rfl ?_
      refine z_getfield (pc := 61) (v := .ref b1) C in_X10 rfl 2 (by decide) q1966 (fun _ z => z) (kh46.f hrw) rfl dX10_add_61 ?_
      refine z_aload_n (pc := 64) (j := 1) C dX10_add_64 rfl rfl ?_
      refine z_callV (pc := 65) (n := 0) (kc' := ((((wC (rad T (u, lo) x) + 4 - wC (u, lo)) - (kcC (fll lo (((u.length : Nat) : Int) + 1) 45).length - kcC lo.length)) - (kcC (fll u (((fll lo (((u.length : Nat) : Int) + 1) 45).length : Nat) : Int) 32).length - kcC u.length)) - 4)) (ks' := ((((wS (rad T (u, lo) x) + 31 - wS (u, lo)) - (kcS (fll lo (((u.length : Nat) : Int) + 1) 45).length - kcS lo.length)) - (kcS (fll u (((fll lo (((u.length : Nat) : Int) + 1) 45).length : Nat) : Int) 32).length - kcS u.length)) - 31)) C (ct_C_name C.t (kh46.f hk) (by omega) (by omega) (by omega)) (lw_V q2007 q1767 q1768 q89 q1769) (by decide +kernel) ⟨by decide, by decide⟩ (kh46.f hk) rfl rfl rfl (Nat.le_of_ble_eq_true rfl) dX10_add_65 (by omega) (by omega) (zrk fun w h53 hp => ?_) zrx
      obtain ⟨a52, rfl, hs55, fa52, k54⟩ := hp
      have kh53 : zkeep h h53 [b1, v1, b2, v2] := zkeep.loc kh46 k54 zall_nil
      have fh53_1 : h53 b2 = some (true, .inr (12, [.ref v41, .int (iI 0), .int z_45, .int (iI (((fll lo (((u.length : Nat) : Int) + 1) 45).length : Nat) : Int))])) := k54.n fh46_1 List.not_mem_nil
      have fh53_2 : h53 v41 = some (true, .inl (.byte, kap (fll lo (((u.length : Nat) : Int) + 1) 45).length, f_45)) := k54.n fh46_2 List.not_mem_nil
      have fh53_3 : h53 b1 = some (true, .inr (12, [.ref v47, .int (iI 0), .int z_51, .int (iI (((fll u (((fll lo (((u.length : Nat) : Int) + 1) 45).length : Nat) : Int) 32).length : Nat) : Int))])) := k54.n hb_51 List.not_mem_nil
      have fh53_4 : h53 v47 = some (true, .inl (.byte, kap (fll u (((fll lo (((u.length : Nat) : Int) + 1) 45).length : Nat) : Int) 32).length, f_51)) := k54.n hv_51 List.not_mem_nil
      show Z X h53 ((((wC (rad T (u, lo) x) + 4 - wC (u, lo)) - (kcC (fll lo (((u.length : Nat) : Int) + 1) 45).length - kcC lo.length)) - (kcC (fll u (((fll lo (((u.length : Nat) : Int) + 1) 45).length : Nat) : Int) 32).length - kcC u.length)) - 4) ((((wS (rad T (u, lo) x) + 31 - wS (u, lo)) - (kcS (fll lo (((u.length : Nat) : Int) + 1) 45).length - kcS lo.length)) - (kcS (fll u (((fll lo (((u.length : Nat) : Int) + 1) 45).length : Nat) : Int) 32).length - kcS u.length)) - 31) [(0, .ref rw), (1, .ref k)] 68 [.ref a52, .ref b1]
      refine z_callV (pc := 68) (n := 1) (kc' := (((((wC (rad T (u, lo) x) + 4 - wC (u, lo)) - (kcC (fll lo (((u.length : Nat) : Int) + 1) 45).length - kcC lo.length)) - (kcC (fll u (((fll lo (((u.length : Nat) : Int) + 1) 45).length : Nat) : Int) 32).length - kcC u.length)) - 4) - (kcC ((fll u (((fll lo (((u.length : Nat) : Int) + 1) 45).length : Nat) : Int) 32) ++ (nmt x.2.2.1 x.2.2.2.1 x.2.2.2.2)).length - kcC (fll u (((fll lo (((u.length : Nat) : Int) + 1) 45).length : Nat) : Int) 32).length))) (ks' := (((((wS (rad T (u, lo) x) + 31 - wS (u, lo)) - (kcS (fll lo (((u.length : Nat) : Int) + 1) 45).length - kcS lo.length)) - (kcS (fll u (((fll lo (((u.length : Nat) : Int) + 1) 45).length : Nat) : Int) 32).length - kcS u.length)) - 31) - (kcS ((fll u (((fll lo (((u.length : Nat) : Int) + 1) 45).length : Nat) : Int) 32) ++ (nmt x.2.2.1 x.2.2.2.1 x.2.2.2.2)).length - kcS (fll u (((fll lo (((u.length : Nat) : Int) + 1) 45).length : Nat) : Int) 32).length))) C (ct_B_appSk C.t (bAt.mk rfl rfl fh53_3 fh53_4 hlen_51 hcap_51 hcon_51 hfit_51 hasc_51) hs55 (by omega) (by omega)) (lw_V q2008 q714 q715 q82 q716) (by decide +kernel) ⟨by decide, by decide⟩ fh53_3 rfl rfl rfl (Nat.le_of_ble_eq_true rfl) dX10_add_68 (by omega) (by omega) (zrk fun w h56 hp => ?_) zrx
      obtain ⟨rfl, v57, hb58, hv59, k60⟩ := hp
      have hsv57 : v41 ≠ v57 := vsepM fh53_3 fh53_2 hsv47 (hv59.imp_left (fun e => by rw [e]; simp))
      have dv57 : v57 ∈ ([b1, v1, b2, v2] : List Nat) ∨ h v57 = none := zmay dv47 hv59 kh53
      have kh56 : zkeep h h56 [b1, v1, b2, v2] := zkeep.loc kh53 k60 (zall_cons (Or.inl (Or.symm (Or.inl (by simp)))) (zall_cons (Or.inl (Or.symm dv47)) zall_nil))
      have fh56_1 : h56 b2 = some (true, .inr (12, [.ref v41, .int (iI 0), .int z_45, .int (iI (((fll lo (((u.length : Nat) : Int) + 1) 45).length : Nat) : Int))])) := k60.n fh53_1 (List.not_mem_cons_of_ne_of_not_mem (Ne.symm hnb) (List.not_mem_cons_of_ne_of_not_mem (zneA fh53_1 fh53_4) List.not_mem_nil))
      have fh56_2 : h56 v41 = some (true, .inl (.byte, kap (fll lo (((u.length : Nat) : Int) + 1) 45).length, f_45)) := k60.n fh53_2 (List.not_mem_cons_of_ne_of_not_mem (Ne.symm (zneA fh53_3 fh53_2)) (List.not_mem_cons_of_ne_of_not_mem hsv47 List.not_mem_nil))
      have ph56_1 : sAt h56 a52 (nmt x.2.2.1 x.2.2.2.1 x.2.2.2.2) := sAt.keep k60 hs55
      have hx_61 := hb58
      obtain ⟨z_61, f_61, hb_61, hv_61, hlen_61, hcap_61, hcon_61, hfit_61, hasc_61⟩ := hx_61
      show Z X h56 (((((wC (rad T (u, lo) x) + 4 - wC (u, lo)) - (kcC (fll lo (((u.length : Nat) : Int) + 1) 45).length - kcC lo.length)) - (kcC (fll u (((fll lo (((u.length : Nat) : Int) + 1) 45).length : Nat) : Int) 32).length - kcC u.length)) - 4) - (kcC ((fll u (((fll lo (((u.length : Nat) : Int) + 1) 45).length : Nat) : Int) 32) ++ (nmt x.2.2.1 x.2.2.2.1 x.2.2.2.2)).length - kcC (fll u (((fll lo (((u.length : Nat) : Int) + 1) 45).length : Nat) : Int) 32).length)) (((((wS (rad T (u, lo) x) + 31 - wS (u, lo)) - (kcS (fll lo (((u.length : Nat) : Int) + 1) 45).length - kcS lo.length)) - (kcS (fll u (((fll lo (((u.length : Nat) : Int) + 1) 45).length : Nat) : Int) 32).length - kcS u.length)) - 31) - (kcS ((fll u (((fll lo (((u.length : Nat) : Int) + 1) 45).length : Nat) : Int) 32) ++ (nmt x.2.2.1 x.2.2.2.1 x.2.2.2.2)).length - kcS (fll u (((fll lo (((u.length : Nat) : Int) + 1) 45).length : Nat) : Int) 32).length)) [(0, .ref rw), (1, .ref k)] 71 [.ref b1]
      refine z_pop (pc := 71) C dX10_add_71 rfl ?_
      exact z_return (pc := 72) C (by rw [hXp]; exact ⟨_, rfl, rfl, v57, v41, (by rw [erd]; exact hb58), (by rw [erd]; exact (bAt.mk rfl rfl fh56_1 fh56_2 hlen_45 hcap_45 hcon_45 hfit_45 hasc_45)), dv57, dv41, (Ne.symm hsv57), kh56⟩) dX10_add_72
set_option maxHeartbeats 4000000 in
theorem ct_W_addC {l : Launch} (hl : l.stackTraces = false) {Γ : zCx} {h : zH} {rw q b1 b2 c : Nat} {ln : Int} {T : List Int} (hrw : h rw = some (false, .inr (9, [.int (iI ln), .ref q, .ref b1, .ref b2, .ref c]))) (hq : sAt h q T) (hT : T.length ≤ 200) {v1 v2 : Nat} {u lo : List Int} (hb1 : bAt h b1 v1 u (kap u.length)) (hb2 : bAt h b2 v2 lo (kap lo.length)) (hnb : b1 ≠ b2) (hnv : v1 ≠ v2) {tx s lq cq e cap : Nat} {fc fs fq fe : Bool} {c1 c2 c3 c6 c7 mq : Value} {wd : Int} {cs : List zCh} {f : Nat → Value} (hc0 : h c = some (fc, .inr (0, [.ref tx, c1, c2, c3, .int (iI wd), .ref s, c6]))) (hs : h s = some (fs, .inr (1, [.ref lq, .ref cq, c7]))) (hcq : h cq = some (fq, .inr (10, [mq, .ref e, .int (iI ((cs.length : Nat) : Int))]))) (he : h e = some (fe, .inl (.object "java/lang/Object", cap, f))) (hcl : clA h f cs) (hcn : cs.length ≤ cap ∧ cap ≤ 100000) (hrg : ∀ c ∈ cs, crg c) (hc40 : cs.length ≤ 1000) {col : Int} (hco : -1000 ≤ col ∧ col ≤ 1000) (hln : 0 ≤ ln ∧ ln ≤ 1000) (hM : (rac T ln col cs (u, lo)).1.length ≤ 1000 ∧ (rac T ln col cs (u, lo)).2.length ≤ 1000)  : zMet l yX10_addChords (ws_ yX10_addChords cX10_addChords 4 none) ({ frames := 9, cells := (wC (rac T ln col cs (u, lo)) + 4 * rcn ln col cs - wC (u, lo)), slots := (wS (rac T ln col cs (u, lo)) + 31 * rcn ln col cs - wS (u, lo)), locals := 197 }) Γ h [.ref rw, .int (iI col)] (zrt (fun w h' => w = none ∧ ∃ v1' v2', bAt h' b1 v1' ((rac T ln col cs (u, lo))).1 (kap ((rac T ln col cs (u, lo))).1.length) ∧ bAt h' b2 v2' ((rac T ln col cs (u, lo))).2 (kap ((rac T ln col cs (u, lo))).2.length) ∧ (v1' ∈ [b1, v1, b2, v2] ∨ h v1' = none) ∧ (v2' ∈ [b1, v1, b2, v2] ∨ h v2' = none) ∧ v1' ≠ v2' ∧ zkeep h h' [b1, v1, b2, v2])) (wC (rac T ln col cs (u, lo)) + 4 * rcn ln col cs - wC (u, lo)) (wS (rac T ln col cs (u, lo)) + 31 * rcn ln col cs - wS (u, lo)) := by
  refine zMet.of (cc := cX10_addChords) hl (plainFor_of_name (by decide +kernel)) (Nat.le_of_ble_eq_true rfl) ?_
  intro X hXl hXΓ hXp C hnm hnL
  have C : zC X cX10_addChords RX10 none 9 197 [] := C
  have hnL : X.2.1.2.2.2.2 = 4 := hnL
  subst hXl hXΓ
  show Z X h (wC (rac T ln col cs (u, lo)) + 4 * rcn ln col cs - wC (u, lo)) (wS (rac T ln col cs (u, lo)) + 31 * rcn ln col cs - wS (u, lo)) [(0, .ref rw), (1, .int (iI col))] 0 []
  obtain ⟨hl_1, v_1, x_1, y_1, g_1, h1_1, h2_1, h3_1, h4_1⟩ := id (hq)
  have h1_1 : h (q) = some (false, .inr (13, [.ref v_1, .int (iI 0), .int x_1, .int y_1])) := h1_1
  have h4T : ∀ c ∈ T, 0 ≤ c ∧ c < 128 := by obtain ⟨-, v, x, y, f, -, -, -, z⟩ := id hq; exact z
  have hbk1 := hb1
  obtain ⟨z1, f1, hbR1, hvR1, hlen1, hcap1, hcon1, hfit1, hasc1⟩ := id hb1
  have hbk2 := hb2
  obtain ⟨z2, f2, hbR2, hvR2, hlen2, hcap2, hcon2, hfit2, hasc2⟩ := id hb2
  refine z_iconst (pc := 0) C dX10_addChords_0 ?_
  refine z_istore_n (pc := 1) (L' := [(2, .int (iI 0)), (0, .ref rw), (1, .int (iI col))]) C dX10_addChords_1 rfl (by rw [hnL]; decide) rfl ?_
  have loop2 : ∀ (n2 : Nat) (i : Int) (g : zH) (u2 : List Int) (l2 : List Int) (x1 : Nat) (x2 : Nat), (0 ≤ i ∧ i ≤ (cs.length : Nat)) → (zkeep h g [b1, v1, b2, v2]) → (rac T ln col (cs.drop i.toNat) (u2, l2) = (rac T ln col cs (u, lo))) → (bAt g b1 x1 u2 (kap u2.length)) → (bAt g b2 x2 l2 (kap l2.length)) → (x1 ∈ [b1, v1, b2, v2] ∨ h x1 = none) → (x2 ∈ [b1, v1, b2, v2] ∨ h x2 = none) → (x1 ≠ x2) → (((cs.length : Nat) - i).toNat) = n2 → Z X g (wC (rac T ln col cs (u, lo)) + 4 * rcn ln col (cs.drop i.toNat) - wC (u2, l2)) (wS (rac T ln col cs (u, lo)) + 31 * rcn ln col (cs.drop i.toNat) - wS (u2, l2)) [(2, .int (iI i)), (1, .int (iI col)), (0, .ref rw)] 2 [] := by
    intro n2
    induction n2 using Nat.strongRecOn with
    | ind n2 ih2 =>
    intro i g u2 l2 x1 x2 hi hkp hd hB1 hB2 hm1 hm2 hnx hn2
    have hx_2 := hB1
    obtain ⟨z_2, f_2, hb_2, hv_2, hlen_2, hcap_2, hcon_2, hfit_2, hasc_2⟩ := hx_2
    have hx_3 := hB2
    obtain ⟨z_3, f_3, hb_3, hv_3, hlen_3, hcap_3, hcon_3, hfit_3, hasc_3⟩ := hx_3
    refine z_iload_n (pc := 2) (j := 0) C dX10_addChords_2 rfl rfl ?_
    refine z_aload_n (pc := 3) (j := 2) C dX10_addChords_3 rfl rfl ?_
    refine z_getfield (pc := 4) (v := .ref c) C in_X10 rfl 4 (by decide) q1970 (fun _ z => z) (hkp.f hrw) rfl dX10_addChords_4 ?_
    refine z_getfieldN (pc := 7) (v := .ref s) C in_X1 rfl 5 (by decide) q281 (fun _ z => z) (hkp.n hc0 (List.not_mem_cons_of_ne_of_not_mem (zneC hc0 hbR1 (by decide)) (List.not_mem_cons_of_ne_of_not_mem (zneA hc0 hvR1) (List.not_mem_cons_of_ne_of_not_mem (zneC hc0 hbR2 (by decide)) (List.not_mem_cons_of_ne_of_not_mem (zneA hc0 hvR2) List.not_mem_nil))))) rfl dX10_addChords_7 ?_
    refine z_getfieldN (pc := 10) (v := .ref cq) C in_X2 rfl 1 (by decide) q170 (fun _ z => z) (hkp.n hs (List.not_mem_cons_of_ne_of_not_mem (zneC hs hbR1 (by decide)) (List.not_mem_cons_of_ne_of_not_mem (zneA hs hvR1) (List.not_mem_cons_of_ne_of_not_mem (zneC hs hbR2 (by decide)) (List.not_mem_cons_of_ne_of_not_mem (zneA hs hvR2) List.not_mem_nil))))) rfl dX10_addChords_10 ?_
    refine z_callV (pc := 13) (n := 0) (kc' := (wC (rac T ln col cs (u, lo)) + 4 * rcn ln col (cs.drop i.toNat) - wC (u2, l2))) (ks' := (wS (rac T ln col cs (u, lo)) + 31 * rcn ln col (cs.drop i.toNat) - wS (u2, l2))) C (ct_L_size C.t (hkp.n hcq (List.not_mem_cons_of_ne_of_not_mem (zneC hcq hbR1 (by decide)) (List.not_mem_cons_of_ne_of_not_mem (zneA hcq hvR1) (List.not_mem_cons_of_ne_of_not_mem (zneC hcq hbR2 (by decide)) (List.not_mem_cons_of_ne_of_not_mem (zneA hcq hvR2) List.not_mem_nil)))))) (lw_V q1990 q367 q368 q68 q369) (by decide +kernel) ⟨by decide, by decide⟩ (hkp.n hcq (List.not_mem_cons_of_ne_of_not_mem (zneC hcq hbR1 (by decide)) (List.not_mem_cons_of_ne_of_not_mem (zneA hcq hvR1) (List.not_mem_cons_of_ne_of_not_mem (zneC hcq hbR2 (by decide)) (List.not_mem_cons_of_ne_of_not_mem (zneA hcq hvR2) List.not_mem_nil))))) rfl rfl rfl (Nat.le_of_ble_eq_true rfl) dX10_addChords_13 (by omega) (by omega) (zpk (st' := [.int (iI ((cs.length : Nat) : Int)), .int (iI i)]) rfl ?_) zrx
    refine z_icmp_ge (pc := 16) (tgt := 67) C dX10_addChords_16 (by decide) (by omega) (by omega) (fun c16 => ?_) (fun c16 => ?_)
    · have hfin : u2 = ((rac T ln col cs (u, lo))).1 ∧ l2 = ((rac T ln col cs (u, lo))).2 := by rw [List.drop_of_length_le (by omega), rac] at hd; rw [← hd]; exact ⟨rfl, rfl⟩
      exact z_return (pc := 67) C (by rw [hXp]; exact ⟨_, rfl, rfl, x1, x2, (by rw [← hfin.1]; exact hB1), (by rw [← hfin.2]; exact hB2), hm1, hm2, hnx, hkp⟩) dX10_addChords_67
    · refine z_aload_n (pc := 19) (j := 2) C dX10_addChords_19 rfl rfl ?_
      refine z_getfield (pc := 20) (v := .ref c) C in_X10 rfl 4 (by decide) q1970 (fun _ z => z) (hkp.f hrw) rfl dX10_addChords_20 ?_
      refine z_getfieldN (pc := 23) (v := .ref s) C in_X1 rfl 5 (by decide) q281 (fun _ z => z) (hkp.n hc0 (List.not_mem_cons_of_ne_of_not_mem (zneC hc0 hbR1 (by decide)) (List.not_mem_cons_of_ne_of_not_mem (zneA hc0 hvR1) (List.not_mem_cons_of_ne_of_not_mem (zneC hc0 hbR2 (by decide)) (List.not_mem_cons_of_ne_of_not_mem (zneA hc0 hvR2) List.not_mem_nil))))) rfl dX10_addChords_23 ?_
      refine z_getfieldN (pc := 26) (v := .ref cq) C in_X2 rfl 1 (by decide) q170 (fun _ z => z) (hkp.n hs (List.not_mem_cons_of_ne_of_not_mem (zneC hs hbR1 (by decide)) (List.not_mem_cons_of_ne_of_not_mem (zneA hs hvR1) (List.not_mem_cons_of_ne_of_not_mem (zneC hs hbR2 (by decide)) (List.not_mem_cons_of_ne_of_not_mem (zneA hs hvR2) List.not_mem_nil))))) rfl dX10_addChords_26 ?_
      refine z_iload_n (pc := 29) (j := 0) C dX10_addChords_29 rfl rfl ?_
      obtain ⟨c_4, hc_4⟩ : ∃ x, cs[(i).toNat]? = some x := ⟨_, List.getElem?_eq_getElem (by omega)⟩
      obtain ⟨q_4, hq_4, ha_4⟩ := (clA.keep hkp hcl) _ _ hc_4
      have hr_4 := hrg _ (List.mem_of_getElem? hc_4)
      have hr1_4 := hr_4.1
      have hr2_4 := hr_4.2.1
      have hr3_4 := hr_4.2.2.1
      have hr4_4 := hr_4.2.2.2.1
      have hr5_4 := hr_4.2.2.2.2
      have hds := drop_step hc_4 (by omega)
      have hrn : rcn ln col (cs.drop i.toNat) = (if c_4.1 = ln ∧ c_4.2.1 = col then 1 else 0) + rcn ln col (cs.drop (i + 1).toNat) := by rw [hds]; rfl
      have hrd : rac T ln col (cs.drop (i + 1).toNat) (if c_4.1 = ln ∧ c_4.2.1 = col then rad T (u2, l2) c_4 else (u2, l2)) = (rac T ln col cs (u, lo)) := by rw [hds] at hd; exact hd
      refine z_callV (pc := 30) (n := 1) (kc' := (wC (rac T ln col cs (u, lo)) + 4 * rcn ln col (cs.drop i.toNat) - wC (u2, l2))) (ks' := (wS (rac T ln col cs (u, lo)) + 31 * rcn ln col (cs.drop i.toNat) - wS (u2, l2))) C (ct_L_get C.t (hkp.n hcq (List.not_mem_cons_of_ne_of_not_mem (zneC hcq hbR1 (by decide)) (List.not_mem_cons_of_ne_of_not_mem (zneA hcq hvR1) (List.not_mem_cons_of_ne_of_not_mem (zneC hcq hbR2 (by decide)) (List.not_mem_cons_of_ne_of_not_mem (zneA hcq hvR2) List.not_mem_nil))))) (hkp.n he (List.not_mem_cons_of_ne_of_not_mem (Ne.symm (zneA hbR1 he)) (List.not_mem_cons_of_ne_of_not_mem (zneT he hvR1 (by simp)) (List.not_mem_cons_of_ne_of_not_mem (Ne.symm (zneA hbR2 he)) (List.not_mem_cons_of_ne_of_not_mem (zneT he hvR2 (by simp)) List.not_mem_nil))))) (i := i) (by omega) (by omega) hq_4) (lw_V q1961 q904 q905 q68 q906) (by decide +kernel) ⟨by decide, by decide⟩ (hkp.n hcq (List.not_mem_cons_of_ne_of_not_mem (zneC hcq hbR1 (by decide)) (List.not_mem_cons_of_ne_of_not_mem (zneA hcq hvR1) (List.not_mem_cons_of_ne_of_not_mem (zneC hcq hbR2 (by decide)) (List.not_mem_cons_of_ne_of_not_mem (zneA hcq hvR2) List.not_mem_nil))))) rfl rfl rfl (Nat.le_of_ble_eq_true rfl) dX10_addChords_30 (by omega) (by omega) (zpk (st' := [.ref q_4]) rfl ?_) zrx
      refine z_castS (pc := 33) C q1991 rfl ha_4 dX10_addChords_33 ?_
      refine z_astore_n (pc := 36) (L' := [(3, .ref q_4), (2, .int (iI i)), (1, .int (iI col)), (0, .ref rw)]) C dX10_addChords_36 rfl (by rw [hnL]; decide) rfl ?_
      refine z_aload_n (pc := 37) (j := 0) C dX10_addChords_37 rfl rfl ?_
      refine z_getfieldN (pc := 38) (v := .int (iI c_4.1)) C in_X7 rfl 0 (by decide) q592 (fun _ z => z) ha_4 rfl dX10_addChords_38 ?_
      refine z_aload_n (pc := 41) (j := 3) C dX10_addChords_41 rfl rfl ?_
      refine z_getfield (pc := 42) (v := .int (iI ln)) C in_X10 rfl 0 (by decide) q1963 (fun _ z => z) (hkp.f hrw) rfl dX10_addChords_42 ?_
      refine z_icmp_ne (pc := 45) (tgt := 61) C dX10_addChords_45 (by decide) (by omega) (by omega) (fun c45 => ?_) (fun c45 => ?_)
      · rw [if_neg (by omega)] at hrn hrd
        have hdn := hrd
        refine z_iinc (pc := 61) (k := 1) (L' := [(2, .int (iI (i + 1))), (3, .ref q_4), (1, .int (iI col)), (0, .ref rw)]) C dX10_addChords_61 rfl (by rw [hnL]; decide) rfl ?_
        refine z_goto (pc := 64) (tgt := 2) C dX10_addChords_64 (by decide) ?_
        refine Z.weak (L' := [(2, .int (iI (i + 1))), (1, .int (iI col)), (0, .ref rw)]) (kc' := wC (rac T ln col cs (u, lo)) + 4 * rcn ln col (cs.drop (i + 1).toNat) - wC (u2, l2)) (ks' := wS (rac T ln col cs (u, lo)) + 31 * rcn ln col (cs.drop (i + 1).toNat) - wS (u2, l2)) [0, 2, 3] rfl (by first | (simp only [Int.toNat_zero, List.drop_zero]; exact Nat.le_refl _) | omega) (by first | (simp only [Int.toNat_zero, List.drop_zero]; exact Nat.le_refl _) | omega) ?_
        exact ih2 _ (by omega) (i + 1) g u2 l2 x1 x2 (by omega) hkp hdn hB1 hB2 hm1 hm2 hnx rfl
      · refine z_aload_n (pc := 48) (j := 0) C dX10_addChords_48 rfl rfl ?_
        refine z_getfieldN (pc := 49) (v := .int (iI c_4.2.1)) C in_X7 rfl 1 (by decide) q596 (fun _ z => z) ha_4 rfl dX10_addChords_49 ?_
        refine z_iload_n (pc := 52) (j := 2) C dX10_addChords_52 rfl rfl ?_
        refine z_icmp_ne (pc := 53) (tgt := 61) C dX10_addChords_53 (by decide) (by omega) (by omega) (fun c53 => ?_) (fun c53 => ?_)
        · rw [if_neg (by omega)] at hrn hrd
          have hdn := hrd
          refine z_iinc (pc := 61) (k := 1) (L' := [(2, .int (iI (i + 1))), (3, .ref q_4), (1, .int (iI col)), (0, .ref rw)]) C dX10_addChords_61 rfl (by rw [hnL]; decide) rfl ?_
          refine z_goto (pc := 64) (tgt := 2) C dX10_addChords_64 (by decide) ?_
          refine Z.weak (L' := [(2, .int (iI (i + 1))), (1, .int (iI col)), (0, .ref rw)]) (kc' := wC (rac T ln col cs (u, lo)) + 4 * rcn ln col (cs.drop (i + 1).toNat) - wC (u2, l2)) (ks' := wS (rac T ln col cs (u, lo)) + 31 * rcn ln col (cs.drop (i + 1).toNat) - wS (u2, l2)) [0, 2, 3] rfl (by first | (simp only [Int.toNat_zero, List.drop_zero]; exact Nat.le_refl _) | omega) (by first | (simp only [Int.toNat_zero, List.drop_zero]; exact Nat.le_refl _) | omega) ?_
          exact ih2 _ (by omega) (i + 1) g u2 l2 x1 x2 (by omega) hkp hdn hB1 hB2 hm1 hm2 hnx rfl
        · rw [if_pos ⟨by omega, by omega⟩] at hrn hrd
          have hrm := rac_m T ln col (cs.drop (i + 1).toNat) (rad T (u2, l2) c_4)
          rw [hrd] at hrm
          have hdn := hrd
          have hrm0 := rad_m T (u2, l2) c_4
          have hMa : (rad T (u2, l2) c_4).1.length ≤ 1100 ∧ (rad T (u2, l2) c_4).2.length ≤ 1100 := ⟨by omega, by omega⟩
          have hUa : u2.length ≤ 1000 := by have := hrm0.1; have := hrm.1; simp only at *; omega
          have hLa : l2.length ≤ 1000 := by have := hrm0.2; have := hrm.2; simp only at *; omega
          have hw1 : wC (u2, l2) ≤ wC (rad T (u2, l2) c_4) := Nat.add_le_add (kc_m hrm0.1).1 (kc_m hrm0.2).1
          have hw2 : wS (u2, l2) ≤ wS (rad T (u2, l2) c_4) := Nat.add_le_add (kc_m hrm0.1).2 (kc_m hrm0.2).2
          have hw3 : wC (rad T (u2, l2) c_4) ≤ wC (rac T ln col cs (u, lo)) := Nat.add_le_add (kc_m hrm.1).1 (kc_m hrm.2).1
          have hw4 : wS (rad T (u2, l2) c_4) ≤ wS (rac T ln col cs (u, lo)) := Nat.add_le_add (kc_m hrm.1).2 (kc_m hrm.2).2
          have hpw1 : wC ((rad T (u2, l2) c_4).1, (rad T (u2, l2) c_4).2) = wC (rad T (u2, l2) c_4) := rfl
          have hpw2 : wS ((rad T (u2, l2) c_4).1, (rad T (u2, l2) c_4).2) = wS (rad T (u2, l2) c_4) := rfl
          have hpr : ((rad T (u2, l2) c_4).1, (rad T (u2, l2) c_4).2) = rad T (u2, l2) c_4 := rfl
          refine z_aload_n (pc := 56) (j := 3) C dX10_addChords_56 rfl rfl ?_
          refine z_aload_n (pc := 57) (j := 0) C dX10_addChords_57 rfl rfl ?_
          refine z_callV (pc := 58) (n := 1) (kc' := (wC (rac T ln col cs (u, lo)) + 4 * rcn ln col (cs.drop i.toNat) - wC (u2, l2) - (wC (rad T (u2, l2) c_4) + 4 - wC (u2, l2)))) (ks' := (wS (rac T ln col cs (u, lo)) + 31 * rcn ln col (cs.drop i.toNat) - wS (u2, l2) - (wS (rad T (u2, l2) c_4) + 31 - wS (u2, l2)))) C (ct_W_add C.t (hkp.f hrw) (sAt.keep hkp hq) hT hB1 hB2 hnb hnx ha_4 hr_4 hMa hUa hLa) (lw_V q1992 q1994 qs22 q106 q1995) (by decide +kernel) ⟨by decide, by decide⟩ (hkp.f hrw) rfl rfl rfl (Nat.le_of_ble_eq_true rfl) dX10_addChords_58 (by omega) (by omega) (zrk fun w h5 hp => ?_) zrx
          obtain ⟨rfl, vx_6, vy_6, hb1_6, hb2_6, hm1_6, hm2_6, hne_6, k7⟩ := hp
          have dvx_6 : vx_6 ∈ ([b1, v1, b2, v2] : List Nat) ∨ h vx_6 = none := zmayM hm1_6 (zall_cons (Or.inl (by simp)) (zall_cons hm1 (zall_cons (Or.inl (by simp)) (zall_cons hm2 zall_nil)))) hkp
          have dvy_6 : vy_6 ∈ ([b1, v1, b2, v2] : List Nat) ∨ h vy_6 = none := zmayM hm2_6 (zall_cons (Or.inl (by simp)) (zall_cons hm1 (zall_cons (Or.inl (by simp)) (zall_cons hm2 zall_nil)))) hkp
          have kh5 : zkeep h h5 [b1, v1, b2, v2] := zkeep.loc hkp k7 (zall_cons (Or.inl (Or.symm (Or.inl (by simp)))) (zall_cons (Or.inl (Or.symm hm1)) (zall_cons (Or.inl (Or.symm (Or.inl (by simp)))) (zall_cons (Or.inl (Or.symm hm2)) zall_nil))))
          have fh5_1 : h5 q_4 = some (false, .inr (6, [.int (iI c_4.1), .int (iI c_4.2.1), .int (iI c_4.2.2.1), .int (iI c_4.2.2.2.1), .int (iI c_4.2.2.2.2)])) := k7.f ha_4
          have hx_8 := hb1_6
          obtain ⟨z_8, f_8, hb_8, hv_8, hlen_8, hcap_8, hcon_8, hfit_8, hasc_8⟩ := hx_8
          have hx_9 := hb2_6
          obtain ⟨z_9, f_9, hb_9, hv_9, hlen_9, hcap_9, hcon_9, hfit_9, hasc_9⟩ := hx_9
          show Z X h5 (wC (rac T ln col cs (u, lo)) + 4 * rcn ln col (cs.drop i.toNat) - wC (u2, l2) - (wC (rad T (u2, l2) c_4) + 4 - wC (u2, l2))) (wS (rac T ln col cs (u, lo)) + 31 * rcn ln col (cs.drop i.toNat) - wS (u2, l2) - (wS (rad T (u2, l2) c_4) + 31 - wS (u2, l2))) [(3, .ref q_4), (2, .int (iI i)), (1, .int (iI col)), (0, .ref rw)] 61 []
          refine z_iinc (pc := 61) (k := 1) (L' := [(2, .int (iI (i + 1))), (3, .ref q_4), (1, .int (iI col)), (0, .ref rw)]) C dX10_addChords_61 rfl (by rw [hnL]; decide) rfl ?_
          refine z_goto (pc := 64) (tgt := 2) C dX10_addChords_64 (by decide) ?_
          refine Z.weak (L' := [(2, .int (iI (i + 1))), (1, .int (iI col)), (0, .ref rw)]) (kc' := wC (rac T ln col cs (u, lo)) + 4 * rcn ln col (cs.drop (i + 1).toNat) - wC (((rad T (u2, l2) c_4).1), ((rad T (u2, l2) c_4).2))) (ks' := wS (rac T ln col cs (u, lo)) + 31 * rcn ln col (cs.drop (i + 1).toNat) - wS (((rad T (u2, l2) c_4).1), ((rad T (u2, l2) c_4).2))) [0, 2, 3] rfl (by first | (simp only [Int.toNat_zero, List.drop_zero]; exact Nat.le_refl _) | omega) (by first | (simp only [Int.toNat_zero, List.drop_zero]; exact Nat.le_refl _) | omega) ?_
          exact ih2 _ (by omega) (i + 1) h5 ((rad T (u2, l2) c_4).1) ((rad T (u2, l2) c_4).2) vx_6 vy_6 (by omega) kh5 hdn hb1_6 hb2_6 dvx_6 dvy_6 hne_6 rfl
  refine Z.weak (L' := [(2, .int (iI 0)), (1, .int (iI col)), (0, .ref rw)]) (kc' := wC (rac T ln col cs (u, lo)) + 4 * rcn ln col (cs.drop (0 : Int).toNat) - wC (u, lo)) (ks' := wS (rac T ln col cs (u, lo)) + 31 * rcn ln col (cs.drop (0 : Int).toNat) - wS (u, lo)) [0, 2, 1] rfl (by first | (simp only [Int.toNat_zero, List.drop_zero]; exact Nat.le_refl _) | omega) (by first | (simp only [Int.toNat_zero, List.drop_zero]; exact Nat.le_refl _) | omega) ?_
  exact loop2 _ 0 h u lo v1 v2 (by omega) zkeep.rf rfl hbk1 hbk2 (Or.inl (by simp)) (Or.inl (by simp)) hnv rfl

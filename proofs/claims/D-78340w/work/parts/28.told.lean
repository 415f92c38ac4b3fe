/-! 28.told.lean.txt -/
set_option maxRecDepth 100000
abbrev cX5_init : ByteArray := prog_4_method_1_code
def yX5_init : MethodName := ⟨RX5, "<init>", "(LChordSheet;)V"⟩
def dkwX5_init_0 : List UInt8 := [42, 43, 181, 0, 3, 42, 183, 0, 9, 177]
abbrev dktX5_init_0 : List UInt8 := dkwX5_init_0 ++ []
theorem dksX5_init_0 : cX5_init.data.toList.drop 0 = dktX5_init_0 := by decide +kernel
abbrev cX1_told : ByteArray := prog_1_method_33_code
def yX1_told : MethodName := ⟨RX1, "told", "(II)LChordSheet$Chord;"⟩
def dkwX1_told_0 : List UInt8 := [187, 0, 150, 89, 42, 183, 0, 152, 27, 28, 3, 182, 0, 212, 78, 42, 3, 181, 0, 144, 45, 176]
abbrev dktX1_told_0 : List UInt8 := dkwX1_told_0 ++ []
theorem dksX1_told_0 : cX1_told.data.toList.drop 0 = dktX1_told_0 := by decide +kernel
abbrev cX1_setChord : ByteArray := prog_1_method_34_code
def yX1_setChord : MethodName := ⟨RX1, "setChord", "(I)I"⟩
def dkwX1_setChord_1 : List UInt8 := [180, 0, 31, 180, 0, 165, 27, 45, 182, 0, 219, 87, 3, 172, 78, 2, 45, 180, 0, 159, 100, 172]
abbrev dktX1_setChord_1 : List UInt8 := dkwX1_setChord_1 ++ []
def dkwX1_setChord_0 : List UInt8 := [42, 27, 182, 0, 190, 77, 42, 44, 180, 0, 194, 44, 180, 0, 196, 182, 0, 215, 78, 42, 182, 0, 162, 42]
abbrev dktX1_setChord_0 : List UInt8 := dkwX1_setChord_0 ++ dktX1_setChord_1
theorem dksX1_setChord_0 : cX1_setChord.data.toList.drop 0 = dktX1_setChord_0 := by decide +kernel
theorem dksX1_setChord_1 : cX1_setChord.data.toList.drop 24 = dktX1_setChord_1 := dk_seg dksX1_setChord_0 24 rfl rfl
abbrev cX1_addChord : ByteArray := prog_1_method_35_code
def yX1_addChord : MethodName := ⟨RX1, "addChord", "(II)I"⟩
def dkwX1_addChord_2 : List UInt8 := [42, 180, 0, 31, 45, 182, 0, 223, 172, 78, 2, 45, 180, 0, 159, 100, 172]
abbrev dktX1_addChord_2 : List UInt8 := dkwX1_addChord_2 ++ []
def dkwX1_addChord_1 : List UInt8 := [16, 40, 162, 0, 7, 4, 167, 0, 4, 3, 184, 0, 147, 42, 27, 28, 182, 0, 215, 78, 42, 182, 0, 162]
abbrev dktX1_addChord_1 : List UInt8 := dkwX1_addChord_1 ++ dktX1_addChord_2
def dkwX1_addChord_0 : List UInt8 := [28, 42, 27, 182, 0, 184, 182, 0, 77, 4, 96, 184, 0, 176, 42, 180, 0, 31, 180, 0, 165, 182, 0, 168]
abbrev dktX1_addChord_0 : List UInt8 := dkwX1_addChord_0 ++ dktX1_addChord_1
theorem dksX1_addChord_0 : cX1_addChord.data.toList.drop 0 = dktX1_addChord_0 := by decide +kernel
theorem dksX1_addChord_1 : cX1_addChord.data.toList.drop 24 = dktX1_addChord_1 := dk_seg dksX1_addChord_0 24 rfl rfl
theorem dksX1_addChord_2 : cX1_addChord.data.toList.drop 48 = dktX1_addChord_2 := dk_seg dksX1_addChord_1 24 rfl rfl
theorem dX5_init_0 : decode cX5_init 0 = .ok (.aload_n 0, 1) := dk_42 (dk_at dksX5_init_0 0 rfl rfl)
theorem dX5_init_1 : decode cX5_init 1 = .ok (.aload_n 1, 1) := dk_43 (dk_at dksX5_init_0 1 rfl rfl)
theorem dX5_init_2 : decode cX5_init 2 = .ok (.putfield 3, 3) := dk_181 0 3 (dk_at dksX5_init_0 2 rfl rfl)
theorem dX5_init_5 : decode cX5_init 5 = .ok (.aload_n 0, 1) := dk_42 (dk_at dksX5_init_0 5 rfl rfl)
theorem dX5_init_6 : decode cX5_init 6 = .ok (.invokespecial 9, 3) := dk_183 0 9 (dk_at dksX5_init_0 6 rfl rfl)
theorem dX5_init_9 : decode cX5_init 9 = .ok (.return_, 1) := dk_177 (dk_at dksX5_init_0 9 rfl rfl)
theorem dX1_told_0 : decode cX1_told 0 = .ok (.new 150, 3) := dk_187 0 150 (dk_at dksX1_told_0 0 rfl rfl)
theorem dX1_told_3 : decode cX1_told 3 = .ok (.dup, 1) := dk_89 (dk_at dksX1_told_0 3 rfl rfl)
theorem dX1_told_4 : decode cX1_told 4 = .ok (.aload_n 0, 1) := dk_42 (dk_at dksX1_told_0 4 rfl rfl)
theorem dX1_told_5 : decode cX1_told 5 = .ok (.invokespecial 152, 3) := dk_183 0 152 (dk_at dksX1_told_0 5 rfl rfl)
theorem dX1_told_8 : decode cX1_told 8 = .ok (.iload_n 1, 1) := dk_27 (dk_at dksX1_told_0 8 rfl rfl)
theorem dX1_told_9 : decode cX1_told 9 = .ok (.iload_n 2, 1) := dk_28 (dk_at dksX1_told_0 9 rfl rfl)
theorem dX1_told_10 : decode cX1_told 10 = .ok (.iconst 0, 1) := dk_3 (dk_at dksX1_told_0 10 rfl rfl)
theorem dX1_told_11 : decode cX1_told 11 = .ok (.invokevirtual 212, 3) := dk_182 0 212 (dk_at dksX1_told_0 11 rfl rfl)
theorem dX1_told_14 : decode cX1_told 14 = .ok (.astore_n 3, 1) := dk_78 (dk_at dksX1_told_0 14 rfl rfl)
theorem dX1_told_15 : decode cX1_told 15 = .ok (.aload_n 0, 1) := dk_42 (dk_at dksX1_told_0 15 rfl rfl)
theorem dX1_told_16 : decode cX1_told 16 = .ok (.iconst 0, 1) := dk_3 (dk_at dksX1_told_0 16 rfl rfl)
theorem dX1_told_17 : decode cX1_told 17 = .ok (.putfield 144, 3) := dk_181 0 144 (dk_at dksX1_told_0 17 rfl rfl)
theorem dX1_told_20 : decode cX1_told 20 = .ok (.aload_n 3, 1) := dk_45 (dk_at dksX1_told_0 20 rfl rfl)
theorem dX1_told_21 : decode cX1_told 21 = .ok (.areturn, 1) := dk_176 (dk_at dksX1_told_0 21 rfl rfl)
theorem dX1_setChord_0 : decode cX1_setChord 0 = .ok (.aload_n 0, 1) := dk_42 (dk_at dksX1_setChord_0 0 rfl rfl)
theorem dX1_setChord_1 : decode cX1_setChord 1 = .ok (.iload_n 1, 1) := dk_27 (dk_at dksX1_setChord_0 1 rfl rfl)
theorem dX1_setChord_2 : decode cX1_setChord 2 = .ok (.invokevirtual 190, 3) := dk_182 0 190 (dk_at dksX1_setChord_0 2 rfl rfl)
theorem dX1_setChord_5 : decode cX1_setChord 5 = .ok (.astore_n 2, 1) := dk_77 (dk_at dksX1_setChord_0 5 rfl rfl)
theorem dX1_setChord_6 : decode cX1_setChord 6 = .ok (.aload_n 0, 1) := dk_42 (dk_at dksX1_setChord_0 6 rfl rfl)
theorem dX1_setChord_7 : decode cX1_setChord 7 = .ok (.aload_n 2, 1) := dk_44 (dk_at dksX1_setChord_0 7 rfl rfl)
theorem dX1_setChord_8 : decode cX1_setChord 8 = .ok (.getfield 194, 3) := dk_180 0 194 (dk_at dksX1_setChord_0 8 rfl rfl)
theorem dX1_setChord_11 : decode cX1_setChord 11 = .ok (.aload_n 2, 1) := dk_44 (dk_at dksX1_setChord_0 11 rfl rfl)
theorem dX1_setChord_12 : decode cX1_setChord 12 = .ok (.getfield 196, 3) := dk_180 0 196 (dk_at dksX1_setChord_0 12 rfl rfl)
theorem dX1_setChord_15 : decode cX1_setChord 15 = .ok (.invokevirtual 215, 3) := dk_182 0 215 (dk_at dksX1_setChord_0 15 rfl rfl)
theorem dX1_setChord_18 : decode cX1_setChord 18 = .ok (.astore_n 3, 1) := dk_78 (dk_at dksX1_setChord_0 18 rfl rfl)
theorem dX1_setChord_19 : decode cX1_setChord 19 = .ok (.aload_n 0, 1) := dk_42 (dk_at dksX1_setChord_0 19 rfl rfl)
theorem dX1_setChord_20 : decode cX1_setChord 20 = .ok (.invokevirtual 162, 3) := dk_182 0 162 (dk_at dksX1_setChord_0 20 rfl rfl)
theorem dX1_setChord_23 : decode cX1_setChord 23 = .ok (.aload_n 0, 1) := dk_42 (dk_at dksX1_setChord_0 23 rfl rfl)
theorem dX1_setChord_24 : decode cX1_setChord 24 = .ok (.getfield 31, 3) := dk_180 0 31 (dk_at dksX1_setChord_1 0 rfl rfl)
theorem dX1_setChord_27 : decode cX1_setChord 27 = .ok (.getfield 165, 3) := dk_180 0 165 (dk_at dksX1_setChord_1 3 rfl rfl)
theorem dX1_setChord_30 : decode cX1_setChord 30 = .ok (.iload_n 1, 1) := dk_27 (dk_at dksX1_setChord_1 6 rfl rfl)
theorem dX1_setChord_31 : decode cX1_setChord 31 = .ok (.aload_n 3, 1) := dk_45 (dk_at dksX1_setChord_1 7 rfl rfl)
theorem dX1_setChord_32 : decode cX1_setChord 32 = .ok (.invokevirtual 219, 3) := dk_182 0 219 (dk_at dksX1_setChord_1 8 rfl rfl)
theorem dX1_setChord_35 : decode cX1_setChord 35 = .ok (.pop, 1) := dk_87 (dk_at dksX1_setChord_1 11 rfl rfl)
theorem dX1_setChord_36 : decode cX1_setChord 36 = .ok (.iconst 0, 1) := dk_3 (dk_at dksX1_setChord_1 12 rfl rfl)
theorem dX1_setChord_37 : decode cX1_setChord 37 = .ok (.ireturn, 1) := dk_172 (dk_at dksX1_setChord_1 13 rfl rfl)
theorem dX1_setChord_38 : decode cX1_setChord 38 = .ok (.astore_n 3, 1) := dk_78 (dk_at dksX1_setChord_1 14 rfl rfl)
theorem dX1_setChord_39 : decode cX1_setChord 39 = .ok (.iconst (-1), 1) := dk_2 (dk_at dksX1_setChord_1 15 rfl rfl)
theorem dX1_setChord_40 : decode cX1_setChord 40 = .ok (.aload_n 3, 1) := dk_45 (dk_at dksX1_setChord_1 16 rfl rfl)
theorem dX1_setChord_41 : decode cX1_setChord 41 = .ok (.getfield 159, 3) := dk_180 0 159 (dk_at dksX1_setChord_1 17 rfl rfl)
theorem dX1_setChord_44 : decode cX1_setChord 44 = .ok (.isub, 1) := dk_100 (dk_at dksX1_setChord_1 20 rfl rfl)
theorem dX1_setChord_45 : decode cX1_setChord 45 = .ok (.ireturn, 1) := dk_172 (dk_at dksX1_setChord_1 21 rfl rfl)
theorem dX1_addChord_0 : decode cX1_addChord 0 = .ok (.iload_n 2, 1) := dk_28 (dk_at dksX1_addChord_0 0 rfl rfl)
theorem dX1_addChord_1 : decode cX1_addChord 1 = .ok (.aload_n 0, 1) := dk_42 (dk_at dksX1_addChord_0 1 rfl rfl)
theorem dX1_addChord_2 : decode cX1_addChord 2 = .ok (.iload_n 1, 1) := dk_27 (dk_at dksX1_addChord_0 2 rfl rfl)
theorem dX1_addChord_3 : decode cX1_addChord 3 = .ok (.invokevirtual 184, 3) := dk_182 0 184 (dk_at dksX1_addChord_0 3 rfl rfl)
theorem dX1_addChord_6 : decode cX1_addChord 6 = .ok (.invokevirtual 77, 3) := dk_182 0 77 (dk_at dksX1_addChord_0 6 rfl rfl)
theorem dX1_addChord_9 : decode cX1_addChord 9 = .ok (.iconst 1, 1) := dk_4 (dk_at dksX1_addChord_0 9 rfl rfl)
theorem dX1_addChord_10 : decode cX1_addChord 10 = .ok (.iadd, 1) := dk_96 (dk_at dksX1_addChord_0 10 rfl rfl)
theorem dX1_addChord_11 : decode cX1_addChord 11 = .ok (.invokestatic 176, 3) := dk_184 0 176 (dk_at dksX1_addChord_0 11 rfl rfl)
theorem dX1_addChord_14 : decode cX1_addChord 14 = .ok (.aload_n 0, 1) := dk_42 (dk_at dksX1_addChord_0 14 rfl rfl)
theorem dX1_addChord_15 : decode cX1_addChord 15 = .ok (.getfield 31, 3) := dk_180 0 31 (dk_at dksX1_addChord_0 15 rfl rfl)
theorem dX1_addChord_18 : decode cX1_addChord 18 = .ok (.getfield 165, 3) := dk_180 0 165 (dk_at dksX1_addChord_0 18 rfl rfl)
theorem dX1_addChord_21 : decode cX1_addChord 21 = .ok (.invokevirtual 168, 3) := dk_182 0 168 (dk_at dksX1_addChord_0 21 rfl rfl)
theorem dX1_addChord_24 : decode cX1_addChord 24 = .ok (.bipush 40, 2) := dk_16 40 (dk_at dksX1_addChord_1 0 rfl rfl)
theorem dX1_addChord_26 : decode cX1_addChord 26 = .ok (.if_icmp .ge 7, 3) := dk_162 0 7 (dk_at dksX1_addChord_1 2 rfl rfl)
theorem dX1_addChord_29 : decode cX1_addChord 29 = .ok (.iconst 1, 1) := dk_4 (dk_at dksX1_addChord_1 5 rfl rfl)
theorem dX1_addChord_30 : decode cX1_addChord 30 = .ok (.goto 4, 3) := dk_167 0 4 (dk_at dksX1_addChord_1 6 rfl rfl)
theorem dX1_addChord_33 : decode cX1_addChord 33 = .ok (.iconst 0, 1) := dk_3 (dk_at dksX1_addChord_1 9 rfl rfl)
theorem dX1_addChord_34 : decode cX1_addChord 34 = .ok (.invokestatic 147, 3) := dk_184 0 147 (dk_at dksX1_addChord_1 10 rfl rfl)
theorem dX1_addChord_37 : decode cX1_addChord 37 = .ok (.aload_n 0, 1) := dk_42 (dk_at dksX1_addChord_1 13 rfl rfl)
theorem dX1_addChord_38 : decode cX1_addChord 38 = .ok (.iload_n 1, 1) := dk_27 (dk_at dksX1_addChord_1 14 rfl rfl)
theorem dX1_addChord_39 : decode cX1_addChord 39 = .ok (.iload_n 2, 1) := dk_28 (dk_at dksX1_addChord_1 15 rfl rfl)
theorem dX1_addChord_40 : decode cX1_addChord 40 = .ok (.invokevirtual 215, 3) := dk_182 0 215 (dk_at dksX1_addChord_1 16 rfl rfl)
theorem dX1_addChord_43 : decode cX1_addChord 43 = .ok (.astore_n 3, 1) := dk_78 (dk_at dksX1_addChord_1 19 rfl rfl)
theorem dX1_addChord_44 : decode cX1_addChord 44 = .ok (.aload_n 0, 1) := dk_42 (dk_at dksX1_addChord_1 20 rfl rfl)
theorem dX1_addChord_45 : decode cX1_addChord 45 = .ok (.invokevirtual 162, 3) := dk_182 0 162 (dk_at dksX1_addChord_1 21 rfl rfl)
theorem dX1_addChord_48 : decode cX1_addChord 48 = .ok (.aload_n 0, 1) := dk_42 (dk_at dksX1_addChord_2 0 rfl rfl)
theorem dX1_addChord_49 : decode cX1_addChord 49 = .ok (.getfield 31, 3) := dk_180 0 31 (dk_at dksX1_addChord_2 1 rfl rfl)
theorem dX1_addChord_52 : decode cX1_addChord 52 = .ok (.aload_n 3, 1) := dk_45 (dk_at dksX1_addChord_2 4 rfl rfl)
theorem dX1_addChord_53 : decode cX1_addChord 53 = .ok (.invokevirtual 223, 3) := dk_182 0 223 (dk_at dksX1_addChord_2 5 rfl rfl)
theorem dX1_addChord_56 : decode cX1_addChord 56 = .ok (.ireturn, 1) := dk_172 (dk_at dksX1_addChord_2 8 rfl rfl)
theorem dX1_addChord_57 : decode cX1_addChord 57 = .ok (.astore_n 3, 1) := dk_78 (dk_at dksX1_addChord_2 9 rfl rfl)
theorem dX1_addChord_58 : decode cX1_addChord 58 = .ok (.iconst (-1), 1) := dk_2 (dk_at dksX1_addChord_2 10 rfl rfl)
theorem dX1_addChord_59 : decode cX1_addChord 59 = .ok (.aload_n 3, 1) := dk_45 (dk_at dksX1_addChord_2 11 rfl rfl)
theorem dX1_addChord_60 : decode cX1_addChord 60 = .ok (.getfield 159, 3) := dk_180 0 159 (dk_at dksX1_addChord_2 12 rfl rfl)
theorem dX1_addChord_63 : decode cX1_addChord 63 = .ok (.isub, 1) := dk_100 (dk_at dksX1_addChord_2 15 rfl rfl)
theorem dX1_addChord_64 : decode cX1_addChord 64 = .ok (.ireturn, 1) := dk_172 (dk_at dksX1_addChord_2 16 rfl rfl)
theorem q1791 : (Jvm.Cond.methodLink "ChordSheet" (215 : Nat) ({ cls := "ChordSheet", name := "told", desc := "(II)LChordSheet$Chord;" } : Jvm.MethodName)) ∈ lw_all := lw_g (lw_at lw_m8 49 rfl) rfl
theorem q1793 : (Jvm.Cond.instanceMethod ({ cls := "ChordSheet", name := "told", desc := "(II)LChordSheet$Chord;" } : Jvm.MethodName)) ∈ lw_all := lw_g (lw_at lw_m8 51 rfl) rfl
theorem q1794 : (Jvm.Cond.code ({ cls := "ChordSheet", name := "told", desc := "(II)LChordSheet$Chord;" } : Jvm.MethodName) prog_1_method_33_code (4 : Nat) (Option.some (Jvm.ClassFile.FieldType.object "ChordSheet$Chord"))) ∈ lw_all := lw_g (lw_at lw_m8 52 rfl) rfl
theorem q1795 : (Jvm.Cond.methodLink "ChordSheet" (212 : Nat) ({ cls := "ChordSheet$Reader", name := "chord", desc := "(IIC)LChordSheet$Chord;" } : Jvm.MethodName)) ∈ lw_all := lw_g (lw_at lw_m8 53 rfl) rfl
theorem q308 : (Jvm.Cond.classLink "ChordSheet" (157 : Nat) "ChordSheet$TextError") ∈ lw_all := lw_g (lw_at lw_m2 6 rfl) rfl
theorem q309 : (Jvm.Cond.classLink "ChordSheet" (150 : Nat) "ChordSheet$Reader") ∈ lw_all := lw_g (lw_at lw_m2 7 rfl) rfl
theorem q310 : (Jvm.Cond.instantiable "ChordSheet$Reader" (2 : Nat)) ∈ lw_all := lw_g (lw_at lw_m2 8 rfl) rfl
theorem q311 : (Jvm.Cond.methodLinkNest "ChordSheet" (152 : Nat) ({ cls := "ChordSheet$Reader", name := "<init>", desc := "(LChordSheet;)V" } : Jvm.MethodName) "ChordSheet") ∈ lw_tbl := lw_at lw_m2 9 rfl
theorem q312 : (Jvm.Cond.instanceMethod ({ cls := "ChordSheet$Reader", name := "<init>", desc := "(LChordSheet;)V" } : Jvm.MethodName)) ∈ lw_all := lw_g (lw_at lw_m2 10 rfl) rfl
theorem q313 : (Jvm.Cond.code ({ cls := "ChordSheet$Reader", name := "<init>", desc := "(LChordSheet;)V" } : Jvm.MethodName) prog_4_method_1_code (2 : Nat) (Option.none : Option Jvm.ClassFile.FieldType)) ∈ lw_all := lw_g (lw_at lw_m2 11 rfl) rfl
theorem q314 : (Jvm.Cond.methodLink "ChordSheet$Reader" (9 : Nat) ({ cls := "java/lang/Object", name := "<init>", desc := "()V" } : Jvm.MethodName)) ∈ lw_all := lw_g (lw_at lw_m2 12 rfl) rfl
theorem q372 : (Jvm.Cond.castable "ChordSheet$TextError" "ChordSheet$TextError") ∈ lw_tbl := lw_at lw_m2 70 rfl
theorem q422 : (Jvm.Cond.fieldLinkNest "ChordSheet" (159 : Nat) "ChordSheet$TextError" "position" "I" "ChordSheet") ∈ lw_tbl := lw_at lw_m2 120 rfl
theorem q446 : (Jvm.Cond.instanceMethod ({ cls := "ChordSheet$Reader", name := "chord", desc := "(IIC)LChordSheet$Chord;" } : Jvm.MethodName)) ∈ lw_all := lw_g (lw_at lw_m2 144 rfl) rfl
theorem q447 : (Jvm.Cond.selects "ChordSheet$Reader" ({ cls := "ChordSheet$Reader", name := "chord", desc := "(IIC)LChordSheet$Chord;" } : Jvm.MethodName) ({ cls := "ChordSheet$Reader", name := "chord", desc := "(IIC)LChordSheet$Chord;" } : Jvm.MethodName)) ∈ lw_all := lw_g (lw_at lw_m2 145 rfl) rfl
theorem q448 : (Jvm.Cond.code ({ cls := "ChordSheet$Reader", name := "chord", desc := "(IIC)LChordSheet$Chord;" } : Jvm.MethodName) prog_4_method_8_code (8 : Nat) (Option.some (Jvm.ClassFile.FieldType.object "ChordSheet$Chord"))) ∈ lw_all := lw_g (lw_at lw_m2 146 rfl) rfl
/-- the text is used up -/
def zSt.c0 (σ : zSt) : zSt := ([], σ.si, σ.fl, σ.wd, σ.sh, σ.hi)
theorem chp_l {T : List Int} {p e y : Int} (hp : 0 ≤ p) (h : chp T p e = .inl y) : True := trivial
set_option maxHeartbeats 4000000 in
theorem ct_R_init {l : Launch} (hl : l.stackTraces = false) {Γ : zCx} {h : zH} {r c : Nat} (hr : h r = some (true, .inr (4, [.int (iI 0), .null]))) : zMet l yX5_init (ws_ yX5_init cX5_init 2 none) ({ frames := 1, cells := 0, slots := 0, locals := 12 }) Γ h [.ref r, .ref c] (zrt (fun w h' => w = none ∧ h' r = some (true, .inr (4, [.int (iI 0), .ref c])) ∧ zkeep h h' [r])) 0 0 := by
  refine zMet.of (cc := cX5_init) hl (plainFor_of_name (by decide +kernel)) (Nat.le_of_ble_eq_true rfl) ?_
  intro X hXl hXΓ hXp C hnm hnL
  have C : zC X cX5_init RX5 none 1 12 [] := C
  have hnL : X.2.1.2.2.2.2 = 2 := hnL
  subst hXl hXΓ
  show Z X h 0 0 [(0, .ref r), (1, .ref c)] 0 []
  refine z_aload_n (pc := 0) (j := 0) C dX5_init_0 rfl rfl ?_
  refine z_aload_n (pc := 1) (j := 1) C dX5_init_1 rfl rfl ?_
  refine z_putfieldF (pc := 2) (fs' := [.int (iI 0), .ref c]) C hnm in_X5 tyX5 tyX5_ok nmX5 rfl 1 (by decide) q316 (fun _ z => z) rfl rfl rfl rfl (Nat.le_of_ble_eq_true rfl) hr rfl dX5_init_2 ?_
  refine Z.nm (fun h1 eh1 => ?_)
  have kh1 : zkeep h h1 [r] := by rw [eh1]; exact zkeep.up zkeep.rf (Or.inl (by simp)) hr
  have fh1_0 : h1 r = some (true, .inr (4, [.int (iI 0), .ref c])) := zse eh1
  refine z_aload_n (pc := 5) (j := 0) C dX5_init_5 rfl rfl ?_
  refine z_objInit (pc := 6) C q314 q113 q114 (by decide) (by decide) dX5_init_6 ?_
  exact z_return (pc := 9) C (by rw [hXp]; exact ⟨_, rfl, rfl, fh1_0, kh1⟩) dX5_init_9
set_option maxHeartbeats 4000000 in
theorem op_told {l : Launch} (hl : l.stackTraces = false) {Γ : zCx} {h : zH} {c : Nat} {A : zWA} {σ : zSt} (hW : csW Γ h c A σ) {ln co : Int}  : zMet l yX1_told (ws_ yX1_told cX1_told 4 (some (.object "ChordSheet$Chord"))) ({ frames := 8, cells := 5, slots := 30, locals := 182 }) Γ h [.ref c, .int (iI ln), .int (iI co)] (zb "ChordSheet$TextError" (fun w h' => ∃ rt q b p' k', chp σ.tx 0 0 = .inr (rt, q, b, p') ∧ w = some (.ref k') ∧ cAt h' k' (ln, co, rt, q, b) ∧ csW Γ h' c A σ.c0 ∧ zkeep h h' [c]) (fun q h' => ∃ x, chp σ.tx 0 0 = .inl x ∧ teA h' q x ∧ csW Γ h' c A σ ∧ zkeep h h' [c])) 5 30 := by
  refine zMet.of (cc := cX1_told) hl (plainFor_of_name (by decide +kernel)) (Nat.le_of_ble_eq_true rfl) ?_
  intro X hXl hXΓ hXp C hnm hnL
  have C : zC X cX1_told RX1 (some (.object "ChordSheet$Chord")) 8 182 [] := C
  have hnL : X.2.1.2.2.2.2 = 4 := hnL
  subst hXl hXΓ
  show Z X h 5 30 [(0, .ref c), (1, .int (iI ln)), (2, .int (iI co))] 0 []
  obtain ⟨⟨tf, hc0, htx, hch⟩, hdq, ⟨lq, kq, lys, ys, hsx, hfl, hls, hl0, hyc, hkx⟩, hhi, hnd, hR⟩ := id hW
  obtain ⟨rsi, rff, rwd, rtl, rtx, rsh, rhi, rhl⟩ := id hR
  obtain ⟨rcl, rcr, rll, rlt, rkt, rkm, rks⟩ := rsh
  have hll := hls.len
  have hyl := hyc.len
  obtain ⟨lm, le0, ln0, lf, hlq, hle, hln, hlN, hlx⟩ := id hfl
  have hxw := hl0
  obtain ⟨mw, fw, law, lew, lzw, ltw, lnw, lcw, lxw, lqw⟩ := hxw
  have hcl := hyc.cl lxw
  have rsh0 := hR.2.2.2.2.2.1
  refine z_new (pc := 0) (ci := 4) (kc' := 4) (ks' := 28) (fs := [.int (iI 0), .null]) C in_X5 tyX5 tyX5_ok rfl q309 q310 q80 df_X5 (by omega) (by omega) dX1_told_0 (fun a1 fa1 => ?_)
  refine Z.nm (fun h2 eh2 => ?_)
  have na1 : h a1 = none := fa1
  have kh2 : zkeep h h2 [c] := by rw [eh2]; exact zkeep.born zkeep.rf fa1
  have fh2_0 : h2 a1 = some (true, .inr (4, [.int (iI 0), .null])) := zse eh2
  have fh2_1 : h2 c = some (true, .inr (0, [.ref A.tx, .int (iI ((σ.tx.length : Nat) : Int)), .int (iI σ.si), .int (iI σ.fl), .int (iI σ.wd), .ref A.cu.s, .ref A.dq])) := zsn eh2 hc0 (zneF hc0 fa1)
  refine z_dup (pc := 3) C dX1_told_3 rfl ?_
  refine z_aload_n (pc := 4) (j := 0) C dX1_told_4 rfl rfl ?_
  refine z_callIN (pc := 5) (n := 1) (kc' := 4) (ks' := 28) C (ct_R_init C.t fh2_0 (c := c)) q313 q311 q80 q312 rfl (by decide +kernel) ⟨by decide, by decide⟩ rfl rfl (Nat.le_of_ble_eq_true rfl) dX1_told_5 (by omega) (by omega) (zrk fun w h3 hp => ?_) zrx
  obtain ⟨rfl, fq4, k5⟩ := hp
  have kh3 : zkeep h h3 [c] := zkeep.loc kh2 k5 (zall_cons (Or.inl (Or.symm (Or.inr na1))) zall_nil)
  have fh3_1 : h3 c = some (true, .inr (0, [.ref A.tx, .int (iI ((σ.tx.length : Nat) : Int)), .int (iI σ.si), .int (iI σ.fl), .int (iI σ.wd), .ref A.cu.s, .ref A.dq])) := k5.n fh2_1 (List.not_mem_cons_of_ne_of_not_mem (zneF hc0 fa1) List.not_mem_nil)
  show Z X h3 4 28 [(0, .ref c), (1, .int (iI ln)), (2, .int (iI co))] 8 [.ref a1]
  refine z_iload_n (pc := 8) (j := 1) C dX1_told_8 rfl rfl ?_
  refine z_iload_n (pc := 9) (j := 2) C dX1_told_9 rfl rfl ?_
  refine z_iconst (pc := 10) C dX1_told_10 ?_
  refine z_callV (pc := 11) (n := 3) (kc' := 0) (ks' := 0) C (ct_R_chord C.t (p := 0) fq4 fh3_1 (kh3.n htx (List.not_mem_cons_of_ne_of_not_mem (Ne.symm (zneA hc0 htx)) List.not_mem_nil)) hch rtx rtl (by omega) (ln := ln) (co := co) (e := 0) (by omega)) (lw_V q1795 q446 q447 q80 q448) (by decide +kernel) ⟨by decide, by decide⟩ fq4 rfl rfl rfl (Nat.le_of_ble_eq_true rfl) dX1_told_11 (by omega) (by omega) (zbk fun w h6 hp => ?_) (zbx fun q8 h7 hp => ?_)
  · obtain ⟨rt_9, q_9, b_9, p_9, a_9, hcp_9, rfl, fk_9, fa_9, hr_9, k10⟩ := hp
    have na_9 : h a_9 = none := kh3.none0 fa_9 (List.not_mem_cons_of_ne_of_not_mem (Ne.symm (zneF fh3_1 fa_9)) List.not_mem_nil)
    have kh6 : zkeep h h6 [c] := zkeep.loc kh3 k10 (zall_cons (Or.inl (Or.symm (Or.inr na1))) zall_nil)
    have fh6_1 : h6 c = some (true, .inr (0, [.ref A.tx, .int (iI ((σ.tx.length : Nat) : Int)), .int (iI σ.si), .int (iI σ.fl), .int (iI σ.wd), .ref A.cu.s, .ref A.dq])) := k10.n fh3_1 (List.not_mem_cons_of_ne_of_not_mem (zneF hc0 fa1) List.not_mem_nil)
    show Z X h6 0 0 [(0, .ref c), (1, .int (iI ln)), (2, .int (iI co))] 14 [.ref a_9]
    refine z_astore_n (pc := 14) (L' := [(3, .ref a_9), (0, .ref c), (1, .int (iI ln)), (2, .int (iI co))]) C dX1_told_14 rfl (by rw [hnL]; decide) rfl ?_
    refine z_aload_n (pc := 15) (j := 1) C dX1_told_15 rfl rfl ?_
    refine z_iconst (pc := 16) C dX1_told_16 ?_
    refine z_putfield (pc := 17) (fs' := [.ref A.tx, .int (iI 0), .int (iI σ.si), .int (iI σ.fl), .int (iI σ.wd), .ref A.cu.s, .ref A.dq]) C in_X1 tyX1 tyX1_ok nmX1 rfl 1 (by decide) q276 (fun _ z => z) rfl rfl rfl (Nat.le_of_ble_eq_true rfl) fh6_1 rfl dX1_told_17 ?_
    refine Z.nm (fun h11 eh11 => ?_)
    have kh11 : zkeep h h11 [c] := by rw [eh11]; exact zkeep.up kh6 (Or.inl (by simp)) fh6_1
    have fh11_0 : h11 c = some (true, .inr (0, [.ref A.tx, .int (iI 0), .int (iI σ.si), .int (iI σ.fl), .int (iI σ.wd), .ref A.cu.s, .ref A.dq])) := zse eh11
    have fh11_1 : h11 a1 = some (true, .inr (4, [.int (iI p_9), .ref c])) := zsn eh11 hr_9 (Ne.symm (zneF hc0 fa1))
    have fh11_2 : h11 a_9 = some (false, .inr (6, [.int (iI ln), .int (iI co), .int (iI rt_9), .int (iI q_9), .int (iI b_9)])) := zsn eh11 fk_9 (zneW fk_9 fh6_1)
    refine z_aload_n (pc := 20) (j := 0) C dX1_told_20 rfl rfl ?_
    exact z_areturn (pc := 21) C (Or.inl ⟨_, rfl⟩) (Or.inr ⟨_, rfl⟩) (by rw [hXp]; exact Or.inl ⟨_, rfl, rt_9, q_9, b_9, p_9, a_9, hcp_9, rfl, fh11_2, csW.upC (τ := σ.c0) hW (kh11.mono (by simp)) rfl fh11_0 (kh11.n htx (List.not_mem_cons_of_ne_of_not_mem (Ne.symm (zneA hc0 htx)) List.not_mem_nil)) (fun j d e => by simp [zSt.tx, zSt.c0] at e) rfl rfl ⟨rsi, rff, rwd, Nat.zero_le _, (fun _ h => nomatch h), rsh0, rhi, rhl⟩, kh11⟩) dX1_told_21
  · obtain ⟨x_12, hcp_12, hte_12, fq8, k13⟩ := hp
    have nq8 : h q8 = none := kh3.none0 fq8 (List.not_mem_cons_of_ne_of_not_mem (Ne.symm (zneF fh3_1 fq8)) List.not_mem_nil)
    have kh7 : zkeep h h7 [c] := zkeep.loc kh3 k13 (zall_cons (Or.inl (Or.symm (Or.inr na1))) zall_nil)
    have fh7_1 : h7 c = some (true, .inr (0, [.ref A.tx, .int (iI ((σ.tx.length : Nat) : Int)), .int (iI σ.si), .int (iI σ.fl), .int (iI σ.wd), .ref A.cu.s, .ref A.dq])) := k13.n fh3_1 (List.not_mem_cons_of_ne_of_not_mem (zneF hc0 fa1) List.not_mem_nil)
    exact zx_out C (fun x hx => nomatch hx) (by rw [hXp]; exact Or.inr ⟨_, rfl, x_12, hcp_12, hte_12, csW.upC (τ := σ) hW (kh7.mono (by simp)) rfl fh7_1 (kh7.n htx (List.not_mem_cons_of_ne_of_not_mem (Ne.symm (zneA hc0 htx)) List.not_mem_nil)) hch rfl rfl hR, kh7⟩)
set_option maxHeartbeats 4000000 in
theorem op_setChord {l : Launch} (hl : l.stackTraces = false) {Γ : zCx} {h : zH} {c : Nat} {A : zWA} {σ : zSt} (hW : csW Γ h c A σ) {i : Int} {x : zCh} (hi : 0 ≤ i) (hx : σ.sh.cs[i.toNat]? = some x)  : zMet l yX1_setChord (wsW_ yX1_setChord cX1_setChord 4 (some .int) [(6, 37, 38, 157)]) ({ frames := 9, cells := (5 + (3 + bLC 0 σ.sh.ls.length + bLC 0 σ.sh.cs.length)), slots := (30 + (9 + bLS 0 σ.sh.ls.length + bLS 0 σ.sh.cs.length)), locals := 205 }) Γ h [.ref c, .int (iI i)] (zrt (fun w h' => (∃ rt q b p', chp σ.tx 0 0 = .inr (rt, q, b, p') ∧ w = some (.int (iI (0))) ∧ ∃ A', wR Γ h c A h' A' (σ.c0.kp.tx, σ.c0.kp.si, σ.c0.kp.fl, σ.c0.kp.wd, (σ.c0.kp.sh.ls, σ.c0.kp.sh.cs.set i.toNat (x.1, x.2.1, rt, q, b), σ.c0.kp.sh.t, σ.c0.kp.sh.m), σ.c0.kp.hi)) ∨ (∃ y, chp σ.tx 0 0 = .inl y ∧ w = some (.int (iI (-1 - y))) ∧ csW Γ h' c A σ ∧ zkeep h h' [c]))) (5 + (3 + bLC 0 σ.sh.ls.length + bLC 0 σ.sh.cs.length)) (30 + (9 + bLS 0 σ.sh.ls.length + bLS 0 σ.sh.cs.length)) := by
  refine zMet.ofH (cc := cX1_setChord) hl (by decide +kernel) (Nat.le_of_ble_eq_true rfl) ?_
  intro X hXl hXΓ hXp C hnm hnL
  have C : zC X cX1_setChord RX1 (some .int) 9 205 (tableOf [(6, 37, 38, 157)]) := C
  have hnL : X.2.1.2.2.2.2 = 4 := hnL
  subst hXl hXΓ
  show Z X h (5 + (3 + bLC 0 σ.sh.ls.length + bLC 0 σ.sh.cs.length)) (30 + (9 + bLS 0 σ.sh.ls.length + bLS 0 σ.sh.cs.length)) [(0, .ref c), (1, .int (iI i))] 0 []
  obtain ⟨⟨tf, hc0, htx, hch⟩, hdq, ⟨lq, kq, lys, ys, hsx, hfl, hls, hl0, hyc, hkx⟩, hhi, hnd, hR⟩ := id hW
  obtain ⟨rsi, rff, rwd, rtl, rtx, rsh, rhi, rhl⟩ := id hR
  obtain ⟨rcl, rcr, rll, rlt, rkt, rkm, rks⟩ := rsh
  have hll := hls.len
  have hyl := hyc.len
  obtain ⟨lm, le0, ln0, lf, hlq, hle, hln, hlN, hlx⟩ := id hfl
  have hxw := hl0
  obtain ⟨mw, fw, law, lew, lzw, ltw, lnw, lcw, lxw, lqw⟩ := hxw
  have hcl := hyc.cl lxw
  have hxr0 := rcr _ (List.mem_of_getElem? hx)
  refine z_aload_n (pc := 0) (j := 0) C dX1_setChord_0 rfl rfl ?_
  refine z_iload_n (pc := 1) (j := 1) C dX1_setChord_1 rfl rfl ?_
  refine z_callV (pc := 2) (n := 1) (kc' := (5 + (3 + bLC 0 σ.sh.ls.length + bLC 0 σ.sh.cs.length))) (ks' := (30 + (9 + bLS 0 σ.sh.ls.length + bLS 0 σ.sh.cs.length))) C (op_chord C.t hW (i := i) (by omega) hx) (lw_V q1727 q1729 qs16 q63 q1730) (by decide +kernel) ⟨by decide, by decide⟩ hc0 rfl rfl rfl (Nat.le_of_ble_eq_true rfl) dX1_setChord_2 (by omega) (by omega) (zrk fun w h2 hp => ?_) zrx
  obtain ⟨q1, rfl, hs3, eh2⟩ := hp
  rw [eh2]
  have xrq1 := rcr _ (List.mem_of_getElem? hx)
  obtain ⟨xr1q1, xr2q1, xr3q1, xr4q1, xr5q1⟩ := id xrq1
  show Z X h (5 + (3 + bLC 0 σ.sh.ls.length + bLC 0 σ.sh.cs.length)) (30 + (9 + bLS 0 σ.sh.ls.length + bLS 0 σ.sh.cs.length)) [(0, .ref c), (1, .int (iI i))] 5 [.ref q1]
  refine z_astore_n (pc := 5) (L' := [(2, .ref q1), (0, .ref c), (1, .int (iI i))]) C dX1_setChord_5 rfl (by rw [hnL]; decide) rfl ?_
  refine z_aload_n (pc := 6) (j := 1) C dX1_setChord_6 rfl rfl ?_
  refine z_aload_n (pc := 7) (j := 0) C dX1_setChord_7 rfl rfl ?_
  refine z_getfieldN (pc := 8) (v := .int (iI x.1)) C in_X7 rfl 0 (by decide) q593 (fun _ z => z) hs3 rfl dX1_setChord_8 ?_
  refine z_aload_n (pc := 11) (j := 0) C dX1_setChord_11 rfl rfl ?_
  refine z_getfieldN (pc := 12) (v := .int (iI x.2.1)) C in_X7 rfl 1 (by decide) q597 (fun _ z => z) hs3 rfl dX1_setChord_12 ?_
  refine z_callV (pc := 15) (n := 2) (kc' := ((5 + (3 + bLC 0 σ.sh.ls.length + bLC 0 σ.sh.cs.length)) - 5)) (ks' := ((30 + (9 + bLS 0 σ.sh.ls.length + bLS 0 σ.sh.cs.length)) - 30)) C (op_told C.t hW (ln := x.1) (co := x.2.1)) (lw_V q1791 q1793 qs17 q63 q1794) (by decide +kernel) ⟨by decide, by decide⟩ hc0 rfl rfl rfl (Nat.le_of_ble_eq_true rfl) dX1_setChord_15 (by omega) (by omega) (zbk fun w h4 hp => ?_) (zbx fun q6 h5 hp => ?_)
  · obtain ⟨rt_7, q_7, b_7, p_7, a_7, hcp_7, rfl, fk_7, hW_7, k8⟩ := hp
    have hcr_7 := chp_r (by decide) hcp_7
    have kh4 : zkeep h h4 [c] := zkeep.loc zkeep.rf k8 (zall_cons (Or.inl (Or.symm (Or.inl (by simp)))) zall_nil)
    have fh4_1 : h4 q1 = some (false, .inr (6, [.int (iI x.1), .int (iI x.2.1), .int (iI x.2.2.1), .int (iI x.2.2.2.1), .int (iI x.2.2.2.2)])) := k8.f hs3
    obtain ⟨⟨tf_7, hcc_7, -⟩, -⟩ := id hW_7
    have hbb0 : bLC 0 σ.c0.sh.ls.length = bLC 0 σ.sh.ls.length := rfl
    have hbb1 : bLC 0 σ.c0.sh.cs.length = bLC 0 σ.sh.cs.length := rfl
    have hbb2 : bLS 0 σ.c0.sh.ls.length = bLS 0 σ.sh.ls.length := rfl
    have hbb3 : bLS 0 σ.c0.sh.cs.length = bLS 0 σ.sh.cs.length := rfl
    show Z X h4 ((5 + (3 + bLC 0 σ.sh.ls.length + bLC 0 σ.sh.cs.length)) - 5) ((30 + (9 + bLS 0 σ.sh.ls.length + bLS 0 σ.sh.cs.length)) - 30) [(2, .ref q1), (0, .ref c), (1, .int (iI i))] 18 [.ref a_7]
    refine z_astore_n (pc := 18) (L' := [(3, .ref a_7), (2, .ref q1), (0, .ref c), (1, .int (iI i))]) C dX1_setChord_18 rfl (by rw [hnL]; decide) rfl ?_
    refine z_aload_n (pc := 19) (j := 2) C dX1_setChord_19 rfl rfl ?_
    refine z_callV (pc := 20) (n := 0) (kc' := (((5 + (3 + bLC 0 σ.sh.ls.length + bLC 0 σ.sh.cs.length)) - 5) - (3 + bLC 0 σ.c0.sh.ls.length + bLC 0 σ.c0.sh.cs.length))) (ks' := (((30 + (9 + bLS 0 σ.sh.ls.length + bLS 0 σ.sh.cs.length)) - 30) - (9 + bLS 0 σ.c0.sh.ls.length + bLS 0 σ.c0.sh.cs.length))) C (op_keep C.t hW_7) (lw_V q931 q933 qs10 q63 q934) (by decide +kernel) ⟨by decide, by decide⟩ hcc_7 rfl rfl rfl (Nat.le_of_ble_eq_true rfl) dX1_setChord_20 (by omega) (by omega) (zrk fun w h9 hp => ?_) zrx
    obtain ⟨rfl, A_10, hR_10, hcu_10⟩ := hp
    have hW_10 := hR_10.1
    have hk_10 := hR_10.2.1
    have fz11 : h9 q1 = some (false, .inr (6, [.int (iI x.1), .int (iI x.2.1), .int (iI x.2.2.1), .int (iI x.2.2.2.1), .int (iI x.2.2.2.2)])) := hk_10.f fh4_1
    have fz12 : h9 a_7 = some (false, .inr (6, [.int (iI x.1), .int (iI x.2.1), .int (iI rt_7), .int (iI q_7), .int (iI b_7)])) := hk_10.f fk_7
    obtain ⟨⟨tf, hc0, htx, hch⟩, hdq, ⟨lq, kq, lys, ys, hsx, hfl, hls, hl0, hyc, hkx⟩, hhi, hnd, hR⟩ := id hW_10
    obtain ⟨rsi, rff, rwd, rtl, rtx, rsh, rhi, rhl⟩ := id hR
    obtain ⟨rcl, rcr, rll, rlt, rkt, rkm, rks⟩ := rsh
    have hll := hls.len
    have hyl := hyc.len
    obtain ⟨lm, le0, ln0, lf, hlq, hle, hln, hlN, hlx⟩ := id hfl
    have hxw := hl0
    obtain ⟨mw, fw, law, lew, lzw, ltw, lnw, lcw, lxw, lqw⟩ := hxw
    have hcl := hyc.cl lxw
    show Z X h9 (((5 + (3 + bLC 0 σ.sh.ls.length + bLC 0 σ.sh.cs.length)) - 5) - (3 + bLC 0 σ.c0.sh.ls.length + bLC 0 σ.c0.sh.cs.length)) (((30 + (9 + bLS 0 σ.sh.ls.length + bLS 0 σ.sh.cs.length)) - 30) - (9 + bLS 0 σ.c0.sh.ls.length + bLS 0 σ.c0.sh.cs.length)) [(3, .ref a_7), (2, .ref q1), (0, .ref c), (1, .int (iI i))] 23 []
    have hi2 : 0 ≤ i ∧ i < (σ.c0.kp.sh.cs.length : Nat) := ⟨hi, by have := (List.getElem?_eq_some_iff.mp hx).1; show i < (σ.sh.cs.length : Nat); omega⟩
    refine z_aload_n (pc := 23) (j := 2) C dX1_setChord_23 rfl rfl ?_
    refine z_getfield (pc := 24) (v := .ref A_10.cu.s) C in_X1 rfl 5 (by decide) q282 (fun _ z => z) hc0 rfl dX1_setChord_24 ?_
    refine z_getfieldN (pc := 27) (v := .ref A_10.cu.cq) C in_X2 rfl 1 (by decide) q172 (fun _ z => z) hsx rfl dX1_setChord_27 ?_
    refine z_iload_n (pc := 30) (j := 3) C dX1_setChord_30 rfl rfl ?_
    refine z_aload_n (pc := 31) (j := 0) C dX1_setChord_31 rfl rfl ?_
    refine z_callV (pc := 32) (n := 2) (kc' := (((5 + (3 + bLC 0 σ.sh.ls.length + bLC 0 σ.sh.cs.length)) - 5) - (3 + bLC 0 σ.c0.sh.ls.length + bLC 0 σ.c0.sh.cs.length))) (ks' := (((30 + (9 + bLS 0 σ.sh.ls.length + bLS 0 σ.sh.cs.length)) - 30) - (9 + bLS 0 σ.c0.sh.ls.length + bLS 0 σ.c0.sh.cs.length))) C (ct_L_set C.t (lAt.mk (cap := A_10.cu.cap) rfl rfl rfl law lew lzw ltw lnw lcw lxw lqw) fz12 rfl q2508 (i := i) (by omega)) (lw_V q1066 q1067 q1068 q68 q1069) (by decide +kernel) ⟨by decide, by decide⟩ law rfl rfl rfl (Nat.le_of_ble_eq_true rfl) dX1_setChord_32 (by omega) (by omega) (zrk fun w h13 hp => ?_) zrx
    obtain ⟨o16, hoo16, rfl, hl14, k15⟩ := hp
    have kh13 : zkeep h9 h13 [A_10.cu.e] := zkeep.loc zkeep.rf k15 (zall_cons (Or.inl (Or.symm (Or.inl (by simp)))) zall_nil)
    have fh13_1 : h13 q1 = some (false, .inr (6, [.int (iI x.1), .int (iI x.2.1), .int (iI x.2.2.1), .int (iI x.2.2.2.1), .int (iI x.2.2.2.2)])) := k15.f fz11
    have fh13_2 : h13 a_7 = some (false, .inr (6, [.int (iI x.1), .int (iI x.2.1), .int (iI rt_7), .int (iI q_7), .int (iI b_7)])) := k15.f fz12
    show Z X h13 (((5 + (3 + bLC 0 σ.sh.ls.length + bLC 0 σ.sh.cs.length)) - 5) - (3 + bLC 0 σ.c0.sh.ls.length + bLC 0 σ.c0.sh.cs.length)) (((30 + (9 + bLS 0 σ.sh.ls.length + bLS 0 σ.sh.cs.length)) - 30) - (9 + bLS 0 σ.c0.sh.ls.length + bLS 0 σ.c0.sh.cs.length)) [(3, .ref a_7), (2, .ref q1), (0, .ref c), (1, .int (iI i))] 35 [.ref o16]
    refine z_pop (pc := 35) C dX1_setChord_35 rfl ?_
    refine z_iconst (pc := 36) C dX1_setChord_36 ?_
    exact z_ireturn (pc := 37) C (by rw [hXp]; exact ⟨_, rfl, Or.inl ⟨rt_7, q_7, b_7, p_7, hcp_7, rfl, _, wR.trans (wR.trans ⟨hW_7, kh4.mono (by simp [fpW]), fun _ h9 => Or.inl h9⟩ hR_10) (csW.upSh hW_10 (x := A_10.cu) (S := (σ.c0.kp.sh.ls, σ.c0.kp.sh.cs.set i.toNat ((x.1, x.2.1, rt_7, q_7, b_7) : zCh), σ.c0.kp.sh.t, σ.c0.kp.sh.m)) (zkeep_fp hW_10.2.2.1 (kh13.mono (fun q hq => List.mem_cons_of_mem _ (List.mem_cons_of_mem _ hq)))) ⟨lq, kq, lys, ys.set i.toNat a_7, (kh13.n hsx (List.not_mem_cons_of_ne_of_not_mem (zneA hsx lew) List.not_mem_nil)), hfl.keep kh13, hls.keep kh13, hl14, (hyc.keep kh13).st (c := ((x.1, x.2.1, rt_7, q_7, b_7) : zCh)) fh13_2, (kh13.f hkx)⟩ rfl (fun _ h9 => Or.inl h9) ⟨by show (σ.c0.kp.sh.cs.set i.toNat _).length ≤ 40; rw [List.length_set]; exact rcl, fun c hc => (List.mem_or_eq_of_mem_set hc).elim (rcr c) (fun e => e ▸ ⟨hxr0.1, hxr0.2.1, hcr_7.1, hcr_7.2.1, hcr_7.2.2.1⟩), rll, rlt, rkt, rkm, rks⟩)⟩⟩) dX1_setChord_37
  · obtain ⟨x_17, hcp_17, hte_17, hW_17, k18⟩ := hp
    have kh5 : zkeep h h5 [c] := zkeep.loc zkeep.rf k18 (zall_cons (Or.inl (Or.symm (Or.inl (by simp)))) zall_nil)
    have fh5_1 : h5 q1 = some (false, .inr (6, [.int (iI x.1), .int (iI x.2.1), .int (iI x.2.2.1), .int (iI x.2.2.2.1), .int (iI x.2.2.2.2)])) := k18.f hs3
    have hxr_17 := chp_l (by decide) hcp_17
    refine zx_catch C [] _ [] rfl (fun z hz => nomatch hz) (by decide) (by decide) q308 q372 ?_
    show Z X h5 ((5 + (3 + bLC 0 σ.sh.ls.length + bLC 0 σ.sh.cs.length)) - 5) ((30 + (9 + bLS 0 σ.sh.ls.length + bLS 0 σ.sh.cs.length)) - 30) [(2, .ref q1), (0, .ref c), (1, .int (iI i))] 38 [.ref q6]
    refine z_astore_n (pc := 38) (L' := [(3, .ref q6), (2, .ref q1), (0, .ref c), (1, .int (iI i))]) C dX1_setChord_38 rfl (by rw [hnL]; decide) rfl ?_
    refine z_iconst (pc := 39) C dX1_setChord_39 ?_
    refine z_aload_n (pc := 40) (j := 0) C dX1_setChord_40 rfl rfl ?_
    refine z_getfieldN (pc := 41) (v := .int (iI x_17)) C in_X6 rfl 6 (by decide) q422 (fun _ z => z) hte_17 rfl dX1_setChord_41 ?_
    refine z_isub (pc := 44) C dX1_setChord_44 ?_
    exact z_ireturn (pc := 45) C (by rw [hXp]; exact ⟨_, rfl, Or.inr ⟨x_17, hcp_17, rfl, hW_17, kh5⟩⟩) dX1_setChord_45
set_option maxHeartbeats 4000000 in
theorem op_setChord_b {l : Launch} (hl : l.stackTraces = false) {Γ : zCx} {h : zH} {c : Nat} {A : zWA} {σ : zSt} (hW : csW Γ h c A σ) {i : Int} (hi : -2147483648 ≤ i ∧ i ≤ 2147483647) (hb : ¬ (0 ≤ i ∧ i < (σ.sh.cs.length : Nat)))  : zMet l yX1_setChord (wsW_ yX1_setChord cX1_setChord 4 (some .int) [(6, 37, 38, 157)]) ({ frames := 8, cells := 1, slots := 6, locals := 123 }) Γ h [.ref c, .int (iI i)] (zthp h "java/lang/IndexOutOfBoundsException") 1 6 := by
  refine zMet.ofH (cc := cX1_setChord) hl (by decide +kernel) (Nat.le_of_ble_eq_true rfl) ?_
  intro X hXl hXΓ hXp C hnm hnL
  have C : zC X cX1_setChord RX1 (some .int) 8 123 (tableOf [(6, 37, 38, 157)]) := C
  have hnL : X.2.1.2.2.2.2 = 4 := hnL
  subst hXl hXΓ
  show Z X h 1 6 [(0, .ref c), (1, .int (iI i))] 0 []
  obtain ⟨⟨tf, hc0, htx, hch⟩, hdq, ⟨lq, kq, lys, ys, hsx, hfl, hls, hl0, hyc, hkx⟩, hhi, hnd, hR⟩ := id hW
  obtain ⟨rsi, rff, rwd, rtl, rtx, rsh, rhi, rhl⟩ := id hR
  obtain ⟨rcl, rcr, rll, rlt, rkt, rkm, rks⟩ := rsh
  have hll := hls.len
  have hyl := hyc.len
  obtain ⟨lm, le0, ln0, lf, hlq, hle, hln, hlN, hlx⟩ := id hfl
  have hxw := hl0
  obtain ⟨mw, fw, law, lew, lzw, ltw, lnw, lcw, lxw, lqw⟩ := hxw
  have hcl := hyc.cl lxw
  refine z_aload_n (pc := 0) (j := 0) C dX1_setChord_0 rfl rfl ?_
  refine z_iload_n (pc := 1) (j := 1) C dX1_setChord_1 rfl rfl ?_
  refine z_callV (pc := 2) (n := 1) (kc' := 0) (ks' := 0) C (op_chord_b C.t hW (i := i) (by omega) (by omega)) (lw_V q1727 q1729 qs16 q63 q1730) (by decide +kernel) ⟨by decide, by decide⟩ hc0 rfl rfl rfl (Nat.le_of_ble_eq_true rfl) dX1_setChord_2 (by omega) (by omega) zthk (zthx fun q2 h1 hp => ?_)
  rw [hp]
  exact zx_out C (by decide) (by rw [hXp]; exact ⟨_, rfl, rfl⟩)
set_option maxHeartbeats 4000000 in
theorem op_addChord {l : Launch} (hl : l.stackTraces = false) {Γ : zCx} {h : zH} {c : Nat} {A : zWA} {σ : zSt} (hW : csW Γ h c A σ) {i : Int} {t : List Int} (hi : 0 ≤ i) (ht : σ.sh.ls[i.toNat]? = some t) {k : Int} (hk : 0 ≤ k ∧ k ≤ (t.length : Nat)) (h40 : σ.sh.cs.length < 40)  : zMet l yX1_addChord (wsW_ yX1_addChord cX1_addChord 4 (some .int) [(37, 56, 57, 157)]) ({ frames := 9, cells := (6 + (3 + bLC 0 σ.sh.ls.length + bLC 0 σ.sh.cs.length)), slots := (90 + (9 + bLS 0 σ.sh.ls.length + bLS 0 σ.sh.cs.length)), locals := 205 }) Γ h [.ref c, .int (iI i), .int (iI k)] (zrt (fun w h' => (∃ rt q b p', chp σ.tx 0 0 = .inr (rt, q, b, p') ∧ w = some (.int (iI (ipl (i, k, rt, q, b) σ.c0.kp.sh.cs))) ∧ ∃ A', wR Γ h c A h' A' (σ.c0.kp.tx, σ.c0.kp.si, σ.c0.kp.fl, σ.c0.kp.wd, (σ.c0.kp.sh.ls, zins (i, k, rt, q, b) σ.c0.kp.sh.cs, σ.c0.kp.sh.t, σ.c0.kp.sh.m), σ.c0.kp.hi)) ∨ (∃ y, chp σ.tx 0 0 = .inl y ∧ w = some (.int (iI (-1 - y))) ∧ csW Γ h' c A σ ∧ zkeep h h' [c]))) (6 + (3 + bLC 0 σ.sh.ls.length + bLC 0 σ.sh.cs.length)) (90 + (9 + bLS 0 σ.sh.ls.length + bLS 0 σ.sh.cs.length)) := by
  refine zMet.ofH (cc := cX1_addChord) hl (by decide +kernel) (Nat.le_of_ble_eq_true rfl) ?_
  intro X hXl hXΓ hXp C hnm hnL
  have C : zC X cX1_addChord RX1 (some .int) 9 205 (tableOf [(37, 56, 57, 157)]) := C
  have hnL : X.2.1.2.2.2.2 = 4 := hnL
  subst hXl hXΓ
  show Z X h (6 + (3 + bLC 0 σ.sh.ls.length + bLC 0 σ.sh.cs.length)) (90 + (9 + bLS 0 σ.sh.ls.length + bLS 0 σ.sh.cs.length)) [(0, .ref c), (1, .int (iI i)), (2, .int (iI k))] 0 []
  obtain ⟨⟨tf, hc0, htx, hch⟩, hdq, ⟨lq, kq, lys, ys, hsx, hfl, hls, hl0, hyc, hkx⟩, hhi, hnd, hR⟩ := id hW
  obtain ⟨rsi, rff, rwd, rtl, rtx, rsh, rhi, rhl⟩ := id hR
  obtain ⟨rcl, rcr, rll, rlt, rkt, rkm, rks⟩ := rsh
  have hll := hls.len
  have hyl := hyc.len
  obtain ⟨lm, le0, ln0, lf, hlq, hle, hln, hlN, hlx⟩ := id hfl
  have hxw := hl0
  obtain ⟨mw, fw, law, lew, lzw, ltw, lnw, lcw, lxw, lqw⟩ := hxw
  have hcl := hyc.cl lxw
  have htl := rlt _ (List.mem_of_getElem? ht)
  have hil := (List.getElem?_eq_some_iff.mp ht).1
  refine z_iload_n (pc := 0) (j := 2) C dX1_addChord_0 rfl rfl ?_
  refine z_aload_n (pc := 1) (j := 0) C dX1_addChord_1 rfl rfl ?_
  refine z_iload_n (pc := 2) (j := 1) C dX1_addChord_2 rfl rfl ?_
  refine z_callV (pc := 3) (n := 1) (kc' := (6 + (3 + bLC 0 σ.sh.ls.length + bLC 0 σ.sh.cs.length))) (ks' := (90 + (9 + bLS 0 σ.sh.ls.length + bLS 0 σ.sh.cs.length))) C (op_line C.t hW (i := i) (by omega) ht) (lw_V q1691 q1693 qs15 q63 q1694) (by decide +kernel) ⟨by decide, by decide⟩ hc0 rfl rfl rfl (Nat.le_of_ble_eq_true rfl) dX1_addChord_3 (by omega) (by omega) (zrk fun w h2 hp => ?_) zrx
  obtain ⟨q1, rfl, hs3, eh2⟩ := hp
  rw [eh2]
  show Z X h (6 + (3 + bLC 0 σ.sh.ls.length + bLC 0 σ.sh.cs.length)) (90 + (9 + bLS 0 σ.sh.ls.length + bLS 0 σ.sh.cs.length)) [(0, .ref c), (1, .int (iI i)), (2, .int (iI k))] 6 [.ref q1, .int (iI k)]
  obtain ⟨hl_4, v_4, x_4, y_4, g_4, h1_4, h2_4, h3_4, h4_4⟩ := id (hs3)
  have h1_4 : h (q1) = some (false, .inr (13, [.ref v_4, .int (iI 0), .int x_4, .int y_4])) := h1_4
  refine z_callV (pc := 6) (n := 0) (kc' := (6 + (3 + bLC 0 σ.sh.ls.length + bLC 0 σ.sh.cs.length))) (ks' := (90 + (9 + bLS 0 σ.sh.ls.length + bLS 0 σ.sh.cs.length))) C (ct_S_length C.t hs3) (lw_V q1053 q468 q469 q83 q470) (by decide +kernel) ⟨by decide, by decide⟩ h1_4 rfl rfl rfl (Nat.le_of_ble_eq_true rfl) dX1_addChord_6 (by omega) (by omega) (zpk (st' := [.int (iI ((t.length : Nat) : Int)), .int (iI k)]) rfl ?_) zrx
  refine z_iconst (pc := 9) C dX1_addChord_9 ?_
  refine z_iadd (pc := 10) C dX1_addChord_10 ?_
  refine z_callS (pc := 11) (n := 2) (kc' := (6 + (3 + bLC 0 σ.sh.ls.length + bLC 0 σ.sh.cs.length))) (ks' := (90 + (9 + bLS 0 σ.sh.ls.length + bLS 0 σ.sh.cs.length))) C (ct_chkI C.t (i := k) (n := ((t.length : Nat) : Int) + 1) (by omega) (by omega)) (lw_S q1695 q1696 q63 q1697) (by decide +kernel) ⟨by decide, by decide⟩ rfl rfl (Nat.le_of_ble_eq_true rfl) dX1_addChord_11 (by omega) (by omega) (zpk (st' := []) rfl ?_) zrx
  refine z_aload_n (pc := 14) (j := 0) C dX1_addChord_14 rfl rfl ?_
  refine z_getfield (pc := 15) (v := .ref A.cu.s) C in_X1 rfl 5 (by decide) q282 (fun _ z => z) hc0 rfl dX1_addChord_15 ?_
  refine z_getfieldN (pc := 18) (v := .ref A.cu.cq) C in_X2 rfl 1 (by decide) q172 (fun _ z => z) hsx rfl dX1_addChord_18 ?_
  refine z_callV (pc := 21) (n := 0) (kc' := (6 + (3 + bLC 0 σ.sh.ls.length + bLC 0 σ.sh.cs.length))) (ks' := (90 + (9 + bLS 0 σ.sh.ls.length + bLS 0 σ.sh.cs.length))) C (ct_L_size C.t law) (lw_V q995 q367 q368 q68 q369) (by decide +kernel) ⟨by decide, by decide⟩ law rfl rfl rfl (Nat.le_of_ble_eq_true rfl) dX1_addChord_21 (by omega) (by omega) (zpk (st' := [.int (iI ((ys.length : Nat) : Int))]) rfl ?_) zrx
  refine z_bipush (pc := 24) C dX1_addChord_24 (by decide) ?_
  refine z_icmp_ge (pc := 26) (tgt := 33) C dX1_addChord_26 (by decide) (by omega) (by decide) (fun c26 => by exfalso; omega) (fun c26 => ?_)
  refine z_iconst (pc := 29) C dX1_addChord_29 ?_
  refine z_goto (pc := 30) (tgt := 34) C dX1_addChord_30 (by decide) ?_
  refine z_callS (pc := 34) (n := 1) (kc' := (6 + (3 + bLC 0 σ.sh.ls.length + bLC 0 σ.sh.cs.length))) (ks' := (90 + (9 + bLS 0 σ.sh.ls.length + bLS 0 σ.sh.cs.length))) C (ct_chkS C.t) (lw_S q1664 q1665 q63 q1666) (by decide +kernel) ⟨by decide, by decide⟩ rfl rfl (Nat.le_of_ble_eq_true rfl) dX1_addChord_34 (by omega) (by omega) (zpk (st' := []) rfl ?_) zrx
  refine z_aload_n (pc := 37) (j := 0) C dX1_addChord_37 rfl rfl ?_
  refine z_iload_n (pc := 38) (j := 1) C dX1_addChord_38 rfl rfl ?_
  refine z_iload_n (pc := 39) (j := 2) C dX1_addChord_39 rfl rfl ?_
  refine z_callV (pc := 40) (n := 2) (kc' := ((6 + (3 + bLC 0 σ.sh.ls.length + bLC 0 σ.sh.cs.length)) - 5)) (ks' := ((90 + (9 + bLS 0 σ.sh.ls.length + bLS 0 σ.sh.cs.length)) - 30)) C (op_told C.t hW (ln := i) (co := k)) (lw_V q1791 q1793 qs17 q63 q1794) (by decide +kernel) ⟨by decide, by decide⟩ hc0 rfl rfl rfl (Nat.le_of_ble_eq_true rfl) dX1_addChord_40 (by omega) (by omega) (zbk fun w h5 hp => ?_) (zbx fun q7 h6 hp => ?_)
  · obtain ⟨rt_8, q_8, b_8, p_8, a_8, hcp_8, rfl, fk_8, hW_8, k9⟩ := hp
    have hcr_8 := chp_r (by decide) hcp_8
    have kh5 : zkeep h h5 [c] := zkeep.loc zkeep.rf k9 (zall_cons (Or.inl (Or.symm (Or.inl (by simp)))) zall_nil)
    have ph5_1 : sAt h5 q1 t := sAt.keep k9 hs3
    obtain ⟨⟨tf_8, hcc_8, -⟩, -⟩ := id hW_8
    have hbb0 : bLC 0 σ.c0.sh.ls.length = bLC 0 σ.sh.ls.length := rfl
    have hbb1 : bLC 0 σ.c0.sh.cs.length = bLC 0 σ.sh.cs.length := rfl
    have hbb2 : bLS 0 σ.c0.sh.ls.length = bLS 0 σ.sh.ls.length := rfl
    have hbb3 : bLS 0 σ.c0.sh.cs.length = bLS 0 σ.sh.cs.length := rfl
    show Z X h5 ((6 + (3 + bLC 0 σ.sh.ls.length + bLC 0 σ.sh.cs.length)) - 5) ((90 + (9 + bLS 0 σ.sh.ls.length + bLS 0 σ.sh.cs.length)) - 30) [(0, .ref c), (1, .int (iI i)), (2, .int (iI k))] 43 [.ref a_8]
    refine z_astore_n (pc := 43) (L' := [(3, .ref a_8), (0, .ref c), (1, .int (iI i)), (2, .int (iI k))]) C dX1_addChord_43 rfl (by rw [hnL]; decide) rfl ?_
    refine z_aload_n (pc := 44) (j := 1) C dX1_addChord_44 rfl rfl ?_
    refine z_callV (pc := 45) (n := 0) (kc' := (((6 + (3 + bLC 0 σ.sh.ls.length + bLC 0 σ.sh.cs.length)) - 5) - (3 + bLC 0 σ.c0.sh.ls.length + bLC 0 σ.c0.sh.cs.length))) (ks' := (((90 + (9 + bLS 0 σ.sh.ls.length + bLS 0 σ.sh.cs.length)) - 30) - (9 + bLS 0 σ.c0.sh.ls.length + bLS 0 σ.c0.sh.cs.length))) C (op_keep C.t hW_8) (lw_V q931 q933 qs10 q63 q934) (by decide +kernel) ⟨by decide, by decide⟩ hcc_8 rfl rfl rfl (Nat.le_of_ble_eq_true rfl) dX1_addChord_45 (by omega) (by omega) (zrk fun w h10 hp => ?_) zrx
    obtain ⟨rfl, A_11, hR_11, hcu_11⟩ := hp
    have hW_11 := hR_11.1
    have hk_11 := hR_11.2.1
    have fz12 : h10 a_8 = some (false, .inr (6, [.int (iI i), .int (iI k), .int (iI rt_8), .int (iI q_8), .int (iI b_8)])) := hk_11.f fk_8
    obtain ⟨⟨tf, hc0, htx, hch⟩, hdq, ⟨lq, kq, lys, ys, hsx, hfl, hls, hl0, hyc, hkx⟩, hhi, hnd, hR⟩ := id hW_11
    obtain ⟨rsi, rff, rwd, rtl, rtx, rsh, rhi, rhl⟩ := id hR
    obtain ⟨rcl, rcr, rll, rlt, rkt, rkm, rks⟩ := rsh
    have hll := hls.len
    have hyl := hyc.len
    obtain ⟨lm, le0, ln0, lf, hlq, hle, hln, hlN, hlx⟩ := id hfl
    have hxw := hl0
    obtain ⟨mw, fw, law, lew, lzw, ltw, lnw, lcw, lxw, lqw⟩ := hxw
    have hcl := hyc.cl lxw
    show Z X h10 (((6 + (3 + bLC 0 σ.sh.ls.length + bLC 0 σ.sh.cs.length)) - 5) - (3 + bLC 0 σ.c0.sh.ls.length + bLC 0 σ.c0.sh.cs.length)) (((90 + (9 + bLS 0 σ.sh.ls.length + bLS 0 σ.sh.cs.length)) - 30) - (9 + bLS 0 σ.c0.sh.ls.length + bLS 0 σ.c0.sh.cs.length)) [(3, .ref a_8), (0, .ref c), (1, .int (iI i)), (2, .int (iI k))] 48 []
    have hkl : σ.c0.kp.sh.cs.length = σ.sh.cs.length := rfl
    have hlC : lC A_11.cu.cap (ys.length + 1) ≤ 1 := by unfold lC; split <;> omega
    have hlS : lS A_11.cu.cap (ys.length + 1) ≤ 60 := by unfold lS lcap; (repeat' split) <;> omega
    refine z_aload_n (pc := 48) (j := 1) C dX1_addChord_48 rfl rfl ?_
    refine z_getfield (pc := 49) (v := .ref A_11.cu.s) C in_X1 rfl 5 (by decide) q282 (fun _ z => z) hc0 rfl dX1_addChord_49 ?_
    refine z_aload_n (pc := 52) (j := 0) C dX1_addChord_52 rfl rfl ?_
    refine z_callV (pc := 53) (n := 1) (kc' := ((((6 + (3 + bLC 0 σ.sh.ls.length + bLC 0 σ.sh.cs.length)) - 5) - (3 + bLC 0 σ.c0.sh.ls.length + bLC 0 σ.c0.sh.cs.length)) - lC A_11.cu.cap (ys.length + 1))) (ks' := ((((90 + (9 + bLS 0 σ.sh.ls.length + bLS 0 σ.sh.cs.length)) - 30) - (9 + bLS 0 σ.c0.sh.ls.length + bLS 0 σ.c0.sh.cs.length)) - lS A_11.cu.cap (ys.length + 1))) C (ct_S_insert C.t hsx (lAt.mk (cap := A_11.cu.cap) rfl rfl rfl law lew lzw ltw lnw lcw lxw lqw) hyc rcr (by omega) (c := ((i, k, rt_8, q_8, b_8) : zCh)) fz12 ⟨⟨by show (0 : Int) ≤ i; omega, by show i ≤ 300; omega⟩, ⟨by show (0 : Int) ≤ k; omega, by show k ≤ 300; omega⟩, hcr_8.1, hcr_8.2.1, hcr_8.2.2.1⟩) (lw_V q1803 q1804 q1805 q64 q1806) (by decide +kernel) ⟨by decide, by decide⟩ hsx rfl rfl rfl (Nat.le_of_ble_eq_true rfl) dX1_addChord_53 (by omega) (by omega) (zrk fun w h13 hp => ?_) zrx
    obtain ⟨rfl, e14, hl15, he16, k17⟩ := hp
    have de14 : e14 ∈ ([A_11.cu.cq, A_11.cu.e] : List Nat) ∨ h10 e14 = none := zmayL (Or.inl (Or.inl (by simp))) (lAt.mk (cap := A_11.cu.cap) rfl rfl rfl law lew lzw ltw lnw lcw lxw lqw) hl15 (by have := lcap_ge (cap := A_11.cu.cap) (n := ys.length + 1); omega) he16 zkeep.rf k17
    have kh13 : zkeep h10 h13 [A_11.cu.cq, A_11.cu.e] := zkeep.loc zkeep.rf k17 (zall_cons (Or.inl (Or.symm (Or.inl (by simp)))) (zall_cons (Or.inl (Or.symm (Or.inl (by simp)))) zall_nil))
    have fh13_1 : h13 a_8 = some (false, .inr (6, [.int (iI i), .int (iI k), .int (iI rt_8), .int (iI q_8), .int (iI b_8)])) := k17.f fz12
    show Z X h13 ((((6 + (3 + bLC 0 σ.sh.ls.length + bLC 0 σ.sh.cs.length)) - 5) - (3 + bLC 0 σ.c0.sh.ls.length + bLC 0 σ.c0.sh.cs.length)) - lC A_11.cu.cap (ys.length + 1)) ((((90 + (9 + bLS 0 σ.sh.ls.length + bLS 0 σ.sh.cs.length)) - 30) - (9 + bLS 0 σ.c0.sh.ls.length + bLS 0 σ.c0.sh.cs.length)) - lS A_11.cu.cap (ys.length + 1)) [(3, .ref a_8), (0, .ref c), (1, .int (iI i)), (2, .int (iI k))] 56 [.int (iI (ipl ((i, k, rt_8, q_8, b_8) : zCh) σ.c0.kp.sh.cs))]
    exact z_ireturn (pc := 56) C (by rw [hXp]; exact ⟨_, rfl, Or.inl ⟨rt_8, q_8, b_8, p_8, hcp_8, rfl, _, wR.trans (wR.trans ⟨hW_8, kh5.mono (by simp [fpW]), fun _ h10 => Or.inl h10⟩ hR_11) (csW.upSh hW_11 (x := ((A_11.cu.s, A_11.cu.cq, e14, lcap A_11.cu.cap (ys.length + 1)) : zSA)) (S := (σ.c0.kp.sh.ls, zins ((i, k, rt_8, q_8, b_8) : zCh) σ.c0.kp.sh.cs, σ.c0.kp.sh.t, σ.c0.kp.sh.m)) (zkeep_fp hW_11.2.2.1 (kh13.mono (fun q hq => List.mem_cons_of_mem _ hq))) ⟨lq, kq, lys, ys.take (ipl ((i, k, rt_8, q_8, b_8) : zCh) σ.c0.kp.sh.cs).toNat ++ a_8 :: ys.drop (ipl ((i, k, rt_8, q_8, b_8) : zCh) σ.c0.kp.sh.cs).toNat, (kh13.n hsx (List.not_mem_cons_of_ne_of_not_mem (zneC hsx law (by decide)) (List.not_mem_cons_of_ne_of_not_mem (zneA hsx lew) List.not_mem_nil))), hfl.keep kh13, hls.keep kh13, hl15, (hyc.keep kh13).ins (c := ((i, k, rt_8, q_8, b_8) : zCh)) fh13_1, (kh13.f hkx)⟩ rfl (fp_ins hW_11.2.2.1 de14 hl0 kh13 hl15) ⟨by show (zins ((i, k, rt_8, q_8, b_8) : zCh) σ.c0.kp.sh.cs).length ≤ 40; rw [zins_l]; omega, fun c hc => (zins_m hc).elim (fun e => e ▸ ⟨⟨by show (0 : Int) ≤ i; omega, by show i ≤ 300; omega⟩, ⟨by show (0 : Int) ≤ k; omega, by show k ≤ 300; omega⟩, hcr_8.1, hcr_8.2.1, hcr_8.2.2.1⟩) (rcr c), rll, rlt, rkt, rkm, rks⟩)⟩⟩) dX1_addChord_56
  · obtain ⟨x_18, hcp_18, hte_18, hW_18, k19⟩ := hp
    have kh6 : zkeep h h6 [c] := zkeep.loc zkeep.rf k19 (zall_cons (Or.inl (Or.symm (Or.inl (by simp)))) zall_nil)
    have ph6_1 : sAt h6 q1 t := sAt.keep k19 hs3
    have hxr_18 := chp_l (by decide) hcp_18
    refine zx_catch C [] _ [] rfl (fun z hz => nomatch hz) (by decide) (by decide) q308 q372 ?_
    show Z X h6 ((6 + (3 + bLC 0 σ.sh.ls.length + bLC 0 σ.sh.cs.length)) - 5) ((90 + (9 + bLS 0 σ.sh.ls.length + bLS 0 σ.sh.cs.length)) - 30) [(0, .ref c), (1, .int (iI i)), (2, .int (iI k))] 57 [.ref q7]
    refine z_astore_n (pc := 57) (L' := [(3, .ref q7), (0, .ref c), (1, .int (iI i)), (2, .int (iI k))]) C dX1_addChord_57 rfl (by rw [hnL]; decide) rfl ?_
    refine z_iconst (pc := 58) C dX1_addChord_58 ?_
    refine z_aload_n (pc := 59) (j := 0) C dX1_addChord_59 rfl rfl ?_
    refine z_getfieldN (pc := 60) (v := .int (iI x_18)) C in_X6 rfl 6 (by decide) q422 (fun _ z => z) hte_18 rfl dX1_addChord_60 ?_
    refine z_isub (pc := 63) C dX1_addChord_63 ?_
    exact z_ireturn (pc := 64) C (by rw [hXp]; exact ⟨_, rfl, Or.inr ⟨x_18, hcp_18, rfl, hW_18, kh6⟩⟩) dX1_addChord_64
set_option maxHeartbeats 4000000 in
theorem op_addChord_b1 {l : Launch} (hl : l.stackTraces = false) {Γ : zCx} {h : zH} {c : Nat} {A : zWA} {σ : zSt} (hW : csW Γ h c A σ) {i : Int} (hi : -2147483648 ≤ i ∧ i ≤ 2147483647) (hb : ¬ (0 ≤ i ∧ i < (σ.sh.ls.length : Nat))) {k : Int}  : zMet l yX1_addChord (wsW_ yX1_addChord cX1_addChord 4 (some .int) [(37, 56, 57, 157)]) ({ frames := 8, cells := 1, slots := 6, locals := 123 }) Γ h [.ref c, .int (iI i), .int (iI k)] (zthp h "java/lang/IndexOutOfBoundsException") 1 6 := by
  refine zMet.ofH (cc := cX1_addChord) hl (by decide +kernel) (Nat.le_of_ble_eq_true rfl) ?_
  intro X hXl hXΓ hXp C hnm hnL
  have C : zC X cX1_addChord RX1 (some .int) 8 123 (tableOf [(37, 56, 57, 157)]) := C
  have hnL : X.2.1.2.2.2.2 = 4 := hnL
  subst hXl hXΓ
  show Z X h 1 6 [(0, .ref c), (1, .int (iI i)), (2, .int (iI k))] 0 []
  obtain ⟨⟨tf, hc0, htx, hch⟩, hdq, ⟨lq, kq, lys, ys, hsx, hfl, hls, hl0, hyc, hkx⟩, hhi, hnd, hR⟩ := id hW
  obtain ⟨rsi, rff, rwd, rtl, rtx, rsh, rhi, rhl⟩ := id hR
  obtain ⟨rcl, rcr, rll, rlt, rkt, rkm, rks⟩ := rsh
  have hll := hls.len
  have hyl := hyc.len
  obtain ⟨lm, le0, ln0, lf, hlq, hle, hln, hlN, hlx⟩ := id hfl
  have hxw := hl0
  obtain ⟨mw, fw, law, lew, lzw, ltw, lnw, lcw, lxw, lqw⟩ := hxw
  have hcl := hyc.cl lxw
  refine z_iload_n (pc := 0) (j := 2) C dX1_addChord_0 rfl rfl ?_
  refine z_aload_n (pc := 1) (j := 0) C dX1_addChord_1 rfl rfl ?_
  refine z_iload_n (pc := 2) (j := 1) C dX1_addChord_2 rfl rfl ?_
  refine z_callV (pc := 3) (n := 1) (kc' := 0) (ks' := 0) C (op_line_b C.t hW (i := i) (by omega) (by omega)) (lw_V q1691 q1693 qs15 q63 q1694) (by decide +kernel) ⟨by decide, by decide⟩ hc0 rfl rfl rfl (Nat.le_of_ble_eq_true rfl) dX1_addChord_3 (by omega) (by omega) zthk (zthx fun q2 h1 hp => ?_)
  rw [hp]
  exact zx_out C (by decide) (by rw [hXp]; exact ⟨_, rfl, rfl⟩)
set_option maxHeartbeats 4000000 in
theorem op_addChord_b2 {l : Launch} (hl : l.stackTraces = false) {Γ : zCx} {h : zH} {c : Nat} {A : zWA} {σ : zSt} (hW : csW Γ h c A σ) {i : Int} {t : List Int} (hi : 0 ≤ i) (ht : σ.sh.ls[i.toNat]? = some t) {k : Int} (hkr : -2147483648 ≤ k ∧ k ≤ 2147483647) (hb : ¬ (0 ≤ k ∧ k ≤ (t.length : Nat)))  : zMet l yX1_addChord (wsW_ yX1_addChord cX1_addChord 4 (some .int) [(37, 56, 57, 157)]) ({ frames := 7, cells := 1, slots := 6, locals := 102 }) Γ h [.ref c, .int (iI i), .int (iI k)] (zthp h "java/lang/IndexOutOfBoundsException") 1 6 := by
  refine zMet.ofH (cc := cX1_addChord) hl (by decide +kernel) (Nat.le_of_ble_eq_true rfl) ?_
  intro X hXl hXΓ hXp C hnm hnL
  have C : zC X cX1_addChord RX1 (some .int) 7 102 (tableOf [(37, 56, 57, 157)]) := C
  have hnL : X.2.1.2.2.2.2 = 4 := hnL
  subst hXl hXΓ
  show Z X h 1 6 [(0, .ref c), (1, .int (iI i)), (2, .int (iI k))] 0 []
  obtain ⟨⟨tf, hc0, htx, hch⟩, hdq, ⟨lq, kq, lys, ys, hsx, hfl, hls, hl0, hyc, hkx⟩, hhi, hnd, hR⟩ := id hW
  obtain ⟨rsi, rff, rwd, rtl, rtx, rsh, rhi, rhl⟩ := id hR
  obtain ⟨rcl, rcr, rll, rlt, rkt, rkm, rks⟩ := rsh
  have hll := hls.len
  have hyl := hyc.len
  obtain ⟨lm, le0, ln0, lf, hlq, hle, hln, hlN, hlx⟩ := id hfl
  have hxw := hl0
  obtain ⟨mw, fw, law, lew, lzw, ltw, lnw, lcw, lxw, lqw⟩ := hxw
  have hcl := hyc.cl lxw
  have htl := rlt _ (List.mem_of_getElem? ht)
  refine z_iload_n (pc := 0) (j := 2) C dX1_addChord_0 rfl rfl ?_
  refine z_aload_n (pc := 1) (j := 0) C dX1_addChord_1 rfl rfl ?_
  refine z_iload_n (pc := 2) (j := 1) C dX1_addChord_2 rfl rfl ?_
  refine z_callV (pc := 3) (n := 1) (kc' := 1) (ks' := 6) C (op_line C.t hW (i := i) (by omega) ht) (lw_V q1691 q1693 qs15 q63 q1694) (by decide +kernel) ⟨by decide, by decide⟩ hc0 rfl rfl rfl (Nat.le_of_ble_eq_true rfl) dX1_addChord_3 (by omega) (by omega) (zrk fun w h2 hp => ?_) zrx
  obtain ⟨q1, rfl, hs3, eh2⟩ := hp
  rw [eh2]
  show Z X h 1 6 [(0, .ref c), (1, .int (iI i)), (2, .int (iI k))] 6 [.ref q1, .int (iI k)]
  obtain ⟨hl_4, v_4, x_4, y_4, g_4, h1_4, h2_4, h3_4, h4_4⟩ := id (hs3)
  have h1_4 : h (q1) = some (false, .inr (13, [.ref v_4, .int (iI 0), .int x_4, .int y_4])) := h1_4
  refine z_callV (pc := 6) (n := 0) (kc' := 1) (ks' := 6) C (ct_S_length C.t hs3) (lw_V q1053 q468 q469 q83 q470) (by decide +kernel) ⟨by decide, by decide⟩ h1_4 rfl rfl rfl (Nat.le_of_ble_eq_true rfl) dX1_addChord_6 (by omega) (by omega) (zpk (st' := [.int (iI ((t.length : Nat) : Int)), .int (iI k)]) rfl ?_) zrx
  refine z_iconst (pc := 9) C dX1_addChord_9 ?_
  refine z_iadd (pc := 10) C dX1_addChord_10 ?_
  refine z_callS (pc := 11) (n := 2) (kc' := 0) (ks' := 0) C (ct_chkIb C.t (i := k) (n := ((t.length : Nat) : Int) + 1) (by omega) (by omega)) (lw_S q1695 q1696 q63 q1697) (by decide +kernel) ⟨by decide, by decide⟩ rfl rfl (Nat.le_of_ble_eq_true rfl) dX1_addChord_11 (by omega) (by omega) zthk (zthx fun q6 h5 hp => ?_)
  rw [hp]
  exact zx_out C (by decide) (by rw [hXp]; exact ⟨_, rfl, rfl⟩)
set_option maxHeartbeats 4000000 in
theorem op_addChord_b3 {l : Launch} (hl : l.stackTraces = false) {Γ : zCx} {h : zH} {c : Nat} {A : zWA} {σ : zSt} (hW : csW Γ h c A σ) {i : Int} {t : List Int} (hi : 0 ≤ i) (ht : σ.sh.ls[i.toNat]? = some t) {k : Int} (hk : 0 ≤ k ∧ k ≤ (t.length : Nat)) (h40 : σ.sh.cs.length = 40)  : zMet l yX1_addChord (wsW_ yX1_addChord cX1_addChord 4 (some .int) [(37, 56, 57, 157)]) ({ frames := 7, cells := 1, slots := 6, locals := 101 }) Γ h [.ref c, .int (iI i), .int (iI k)] (zthp h "java/lang/IllegalStateException") 1 6 := by
  refine zMet.ofH (cc := cX1_addChord) hl (by decide +kernel) (Nat.le_of_ble_eq_true rfl) ?_
  intro X hXl hXΓ hXp C hnm hnL
  have C : zC X cX1_addChord RX1 (some .int) 7 101 (tableOf [(37, 56, 57, 157)]) := C
  have hnL : X.2.1.2.2.2.2 = 4 := hnL
  subst hXl hXΓ
  show Z X h 1 6 [(0, .ref c), (1, .int (iI i)), (2, .int (iI k))] 0 []
  obtain ⟨⟨tf, hc0, htx, hch⟩, hdq, ⟨lq, kq, lys, ys, hsx, hfl, hls, hl0, hyc, hkx⟩, hhi, hnd, hR⟩ := id hW
  obtain ⟨rsi, rff, rwd, rtl, rtx, rsh, rhi, rhl⟩ := id hR
  obtain ⟨rcl, rcr, rll, rlt, rkt, rkm, rks⟩ := rsh
  have hll := hls.len
  have hyl := hyc.len
  obtain ⟨lm, le0, ln0, lf, hlq, hle, hln, hlN, hlx⟩ := id hfl
  have hxw := hl0
  obtain ⟨mw, fw, law, lew, lzw, ltw, lnw, lcw, lxw, lqw⟩ := hxw
  have hcl := hyc.cl lxw
  have htl := rlt _ (List.mem_of_getElem? ht)
  refine z_iload_n (pc := 0) (j := 2) C dX1_addChord_0 rfl rfl ?_
  refine z_aload_n (pc := 1) (j := 0) C dX1_addChord_1 rfl rfl ?_
  refine z_iload_n (pc := 2) (j := 1) C dX1_addChord_2 rfl rfl ?_
  refine z_callV (pc := 3) (n := 1) (kc' := 1) (ks' := 6) C (op_line C.t hW (i := i) (by omega) ht) (lw_V q1691 q1693 qs15 q63 q1694) (by decide +kernel) ⟨by decide, by decide⟩ hc0 rfl rfl rfl (Nat.le_of_ble_eq_true rfl) dX1_addChord_3 (by omega) (by omega) (zrk fun w h2 hp => ?_) zrx
  obtain ⟨q1, rfl, hs3, eh2⟩ := hp
  rw [eh2]
  show Z X h 1 6 [(0, .ref c), (1, .int (iI i)), (2, .int (iI k))] 6 [.ref q1, .int (iI k)]
  obtain ⟨hl_4, v_4, x_4, y_4, g_4, h1_4, h2_4, h3_4, h4_4⟩ := id (hs3)
  have h1_4 : h (q1) = some (false, .inr (13, [.ref v_4, .int (iI 0), .int x_4, .int y_4])) := h1_4
  refine z_callV (pc := 6) (n := 0) (kc' := 1) (ks' := 6) C (ct_S_length C.t hs3) (lw_V q1053 q468 q469 q83 q470) (by decide +kernel) ⟨by decide, by decide⟩ h1_4 rfl rfl rfl (Nat.le_of_ble_eq_true rfl) dX1_addChord_6 (by omega) (by omega) (zpk (st' := [.int (iI ((t.length : Nat) : Int)), .int (iI k)]) rfl ?_) zrx
  refine z_iconst (pc := 9) C dX1_addChord_9 ?_
  refine z_iadd (pc := 10) C dX1_addChord_10 ?_
  refine z_callS (pc := 11) (n := 2) (kc' := 1) (ks' := 6) C (ct_chkI C.t (i := k) (n := ((t.length : Nat) : Int) + 1) (by omega) (by omega)) (lw_S q1695 q1696 q63 q1697) (by decide +kernel) ⟨by decide, by decide⟩ rfl rfl (Nat.le_of_ble_eq_true rfl) dX1_addChord_11 (by omega) (by omega) (zpk (st' := []) rfl ?_) zrx
  refine z_aload_n (pc := 14) (j := 0) C dX1_addChord_14 rfl rfl ?_
  refine z_getfield (pc := 15) (v := .ref A.cu.s) C in_X1 rfl 5 (by decide) q282 (fun _ z => z) hc0 rfl dX1_addChord_15 ?_
  refine z_getfieldN (pc := 18) (v := .ref A.cu.cq) C in_X2 rfl 1 (by decide) q172 (fun _ z => z) hsx rfl dX1_addChord_18 ?_
  refine z_callV (pc := 21) (n := 0) (kc' := 1) (ks' := 6) C (ct_L_size C.t law) (lw_V q995 q367 q368 q68 q369) (by decide +kernel) ⟨by decide, by decide⟩ law rfl rfl rfl (Nat.le_of_ble_eq_true rfl) dX1_addChord_21 (by omega) (by omega) (zpk (st' := [.int (iI ((ys.length : Nat) : Int))]) rfl ?_) zrx
  refine z_bipush (pc := 24) C dX1_addChord_24 (by decide) ?_
  refine z_icmp_ge (pc := 26) (tgt := 33) C dX1_addChord_26 (by decide) (by omega) (by decide) (fun c26 => ?_) (fun c26 => by exfalso; omega)
  refine z_iconst (pc := 33) C dX1_addChord_33 ?_
  refine z_callS (pc := 34) (n := 1) (kc' := 0) (ks' := 0) C (ct_chkSb C.t ) (lw_S q1664 q1665 q63 q1666) (by decide +kernel) ⟨by decide, by decide⟩ rfl rfl (Nat.le_of_ble_eq_true rfl) dX1_addChord_34 (by omega) (by omega) zthk (zthx fun q6 h5 hp => ?_)
  rw [hp]
  exact zx_out C (by decide) (by rw [hXp]; exact ⟨_, rfl, rfl⟩)

/-! 31.sheet.lean.txt -/
set_option maxRecDepth 100000
abbrev cX5_sheet : ByteArray := prog_4_method_9_code
def yX5_sheet : MethodName := ⟨RX5, "sheet", "()LChordSheet$Sheet;"⟩
def dkwX5_sheet_7 : List UInt8 := [182, 0, 110, 182, 0, 106, 87, 43, 43, 182, 0, 121, 181, 0, 125, 43, 176]
abbrev dktX5_sheet_7 : List UInt8 := dkwX5_sheet_7 ++ []
def dkwX5_sheet_6 : List UInt8 := [87, 44, 3, 182, 0, 114, 167, 0, 9, 44, 29, 182, 0, 117, 87, 167, 255, 125, 43, 180, 0, 98, 44]
abbrev dktX5_sheet_6 : List UInt8 := dkwX5_sheet_6 ++ dktX5_sheet_7
def dkwX5_sheet_5 : List UInt8 := [182, 0, 106, 87, 167, 0, 35, 29, 16, 47, 160, 0, 23, 43, 180, 0, 98, 44, 182, 0, 110, 182, 0, 106]
abbrev dktX5_sheet_5 : List UInt8 := dkwX5_sheet_5 ++ dktX5_sheet_6
def dkwX5_sheet_4 : List UInt8 := [160, 0, 31, 43, 180, 0, 89, 42, 43, 180, 0, 98, 182, 0, 93, 44, 182, 0, 101, 16, 93, 182, 0, 102]
abbrev dktX5_sheet_4 : List UInt8 := dkwX5_sheet_4 ++ dktX5_sheet_5
def dkwX5_sheet_3 : List UInt8 := [89, 42, 180, 0, 15, 183, 0, 40, 191, 42, 89, 180, 0, 15, 4, 96, 181, 0, 15, 29, 16, 91]
abbrev dktX5_sheet_3 : List UInt8 := dkwX5_sheet_3 ++ dktX5_sheet_4
def dkwX5_sheet_2 : List UInt8 := [159, 0, 21, 29, 16, 91, 160, 0, 27, 43, 180, 0, 89, 182, 0, 93, 16, 40, 160, 0, 15, 187, 0, 38]
abbrev dktX5_sheet_2 : List UInt8 := dkwX5_sheet_2 ++ dktX5_sheet_3
def dkwX5_sheet_1 : List UInt8 := [77, 42, 180, 0, 15, 42, 180, 0, 3, 180, 0, 19, 162, 0, 123, 42, 182, 0, 28, 62, 29, 16, 93]
abbrev dktX5_sheet_1 : List UInt8 := dkwX5_sheet_1 ++ dktX5_sheet_2
def dkwX5_sheet_0 : List UInt8 := [187, 0, 76, 89, 187, 0, 78, 89, 3, 3, 183, 0, 80, 183, 0, 83, 76, 187, 0, 86, 89, 183, 0, 88]
abbrev dktX5_sheet_0 : List UInt8 := dkwX5_sheet_0 ++ dktX5_sheet_1
theorem dksX5_sheet_0 : cX5_sheet.data.toList.drop 0 = dktX5_sheet_0 := by decide +kernel
theorem dksX5_sheet_1 : cX5_sheet.data.toList.drop 24 = dktX5_sheet_1 := dk_seg dksX5_sheet_0 24 rfl rfl
theorem dksX5_sheet_2 : cX5_sheet.data.toList.drop 47 = dktX5_sheet_2 := dk_seg dksX5_sheet_1 23 rfl rfl
theorem dksX5_sheet_3 : cX5_sheet.data.toList.drop 71 = dktX5_sheet_3 := dk_seg dksX5_sheet_2 24 rfl rfl
theorem dksX5_sheet_4 : cX5_sheet.data.toList.drop 93 = dktX5_sheet_4 := dk_seg dksX5_sheet_3 22 rfl rfl
theorem dksX5_sheet_5 : cX5_sheet.data.toList.drop 117 = dktX5_sheet_5 := dk_seg dksX5_sheet_4 24 rfl rfl
theorem dksX5_sheet_6 : cX5_sheet.data.toList.drop 141 = dktX5_sheet_6 := dk_seg dksX5_sheet_5 24 rfl rfl
theorem dksX5_sheet_7 : cX5_sheet.data.toList.drop 164 = dktX5_sheet_7 := dk_seg dksX5_sheet_6 23 rfl rfl
theorem dX5_sheet_0 : decode cX5_sheet 0 = .ok (.new 76, 3) := dk_187 0 76 (dk_at dksX5_sheet_0 0 rfl rfl)
theorem dX5_sheet_3 : decode cX5_sheet 3 = .ok (.dup, 1) := dk_89 (dk_at dksX5_sheet_0 3 rfl rfl)
theorem dX5_sheet_4 : decode cX5_sheet 4 = .ok (.new 78, 3) := dk_187 0 78 (dk_at dksX5_sheet_0 4 rfl rfl)
theorem dX5_sheet_7 : decode cX5_sheet 7 = .ok (.dup, 1) := dk_89 (dk_at dksX5_sheet_0 7 rfl rfl)
theorem dX5_sheet_8 : decode cX5_sheet 8 = .ok (.iconst 0, 1) := dk_3 (dk_at dksX5_sheet_0 8 rfl rfl)
theorem dX5_sheet_9 : decode cX5_sheet 9 = .ok (.iconst 0, 1) := dk_3 (dk_at dksX5_sheet_0 9 rfl rfl)
theorem dX5_sheet_10 : decode cX5_sheet 10 = .ok (.invokespecial 80, 3) := dk_183 0 80 (dk_at dksX5_sheet_0 10 rfl rfl)
theorem dX5_sheet_13 : decode cX5_sheet 13 = .ok (.invokespecial 83, 3) := dk_183 0 83 (dk_at dksX5_sheet_0 13 rfl rfl)
theorem dX5_sheet_16 : decode cX5_sheet 16 = .ok (.astore_n 1, 1) := dk_76 (dk_at dksX5_sheet_0 16 rfl rfl)
theorem dX5_sheet_17 : decode cX5_sheet 17 = .ok (.new 86, 3) := dk_187 0 86 (dk_at dksX5_sheet_0 17 rfl rfl)
theorem dX5_sheet_20 : decode cX5_sheet 20 = .ok (.dup, 1) := dk_89 (dk_at dksX5_sheet_0 20 rfl rfl)
theorem dX5_sheet_21 : decode cX5_sheet 21 = .ok (.invokespecial 88, 3) := dk_183 0 88 (dk_at dksX5_sheet_0 21 rfl rfl)
theorem dX5_sheet_24 : decode cX5_sheet 24 = .ok (.astore_n 2, 1) := dk_77 (dk_at dksX5_sheet_1 0 rfl rfl)
theorem dX5_sheet_25 : decode cX5_sheet 25 = .ok (.aload_n 0, 1) := dk_42 (dk_at dksX5_sheet_1 1 rfl rfl)
theorem dX5_sheet_26 : decode cX5_sheet 26 = .ok (.getfield 15, 3) := dk_180 0 15 (dk_at dksX5_sheet_1 2 rfl rfl)
theorem dX5_sheet_29 : decode cX5_sheet 29 = .ok (.aload_n 0, 1) := dk_42 (dk_at dksX5_sheet_1 5 rfl rfl)
theorem dX5_sheet_30 : decode cX5_sheet 30 = .ok (.getfield 3, 3) := dk_180 0 3 (dk_at dksX5_sheet_1 6 rfl rfl)
theorem dX5_sheet_33 : decode cX5_sheet 33 = .ok (.getfield 19, 3) := dk_180 0 19 (dk_at dksX5_sheet_1 9 rfl rfl)
theorem dX5_sheet_36 : decode cX5_sheet 36 = .ok (.if_icmp .ge 123, 3) := dk_162 0 123 (dk_at dksX5_sheet_1 12 rfl rfl)
theorem dX5_sheet_39 : decode cX5_sheet 39 = .ok (.aload_n 0, 1) := dk_42 (dk_at dksX5_sheet_1 15 rfl rfl)
theorem dX5_sheet_40 : decode cX5_sheet 40 = .ok (.invokevirtual 28, 3) := dk_182 0 28 (dk_at dksX5_sheet_1 16 rfl rfl)
theorem dX5_sheet_43 : decode cX5_sheet 43 = .ok (.istore_n 3, 1) := dk_62 (dk_at dksX5_sheet_1 19 rfl rfl)
theorem dX5_sheet_44 : decode cX5_sheet 44 = .ok (.iload_n 3, 1) := dk_29 (dk_at dksX5_sheet_1 20 rfl rfl)
theorem dX5_sheet_45 : decode cX5_sheet 45 = .ok (.bipush 93, 2) := dk_16 93 (dk_at dksX5_sheet_1 21 rfl rfl)
theorem dX5_sheet_47 : decode cX5_sheet 47 = .ok (.if_icmp .eq 21, 3) := dk_159 0 21 (dk_at dksX5_sheet_2 0 rfl rfl)
theorem dX5_sheet_50 : decode cX5_sheet 50 = .ok (.iload_n 3, 1) := dk_29 (dk_at dksX5_sheet_2 3 rfl rfl)
theorem dX5_sheet_51 : decode cX5_sheet 51 = .ok (.bipush 91, 2) := dk_16 91 (dk_at dksX5_sheet_2 4 rfl rfl)
theorem dX5_sheet_53 : decode cX5_sheet 53 = .ok (.if_icmp .ne 27, 3) := dk_160 0 27 (dk_at dksX5_sheet_2 6 rfl rfl)
theorem dX5_sheet_56 : decode cX5_sheet 56 = .ok (.aload_n 1, 1) := dk_43 (dk_at dksX5_sheet_2 9 rfl rfl)
theorem dX5_sheet_57 : decode cX5_sheet 57 = .ok (.getfield 89, 3) := dk_180 0 89 (dk_at dksX5_sheet_2 10 rfl rfl)
theorem dX5_sheet_60 : decode cX5_sheet 60 = .ok (.invokevirtual 93, 3) := dk_182 0 93 (dk_at dksX5_sheet_2 13 rfl rfl)
theorem dX5_sheet_63 : decode cX5_sheet 63 = .ok (.bipush 40, 2) := dk_16 40 (dk_at dksX5_sheet_2 16 rfl rfl)
theorem dX5_sheet_65 : decode cX5_sheet 65 = .ok (.if_icmp .ne 15, 3) := dk_160 0 15 (dk_at dksX5_sheet_2 18 rfl rfl)
theorem dX5_sheet_68 : decode cX5_sheet 68 = .ok (.new 38, 3) := dk_187 0 38 (dk_at dksX5_sheet_2 21 rfl rfl)
theorem dX5_sheet_71 : decode cX5_sheet 71 = .ok (.dup, 1) := dk_89 (dk_at dksX5_sheet_3 0 rfl rfl)
theorem dX5_sheet_72 : decode cX5_sheet 72 = .ok (.aload_n 0, 1) := dk_42 (dk_at dksX5_sheet_3 1 rfl rfl)
theorem dX5_sheet_73 : decode cX5_sheet 73 = .ok (.getfield 15, 3) := dk_180 0 15 (dk_at dksX5_sheet_3 2 rfl rfl)
theorem dX5_sheet_76 : decode cX5_sheet 76 = .ok (.invokespecial 40, 3) := dk_183 0 40 (dk_at dksX5_sheet_3 5 rfl rfl)
theorem dX5_sheet_79 : decode cX5_sheet 79 = .ok (.athrow, 1) := dk_191 (dk_at dksX5_sheet_3 8 rfl rfl)
theorem dX5_sheet_80 : decode cX5_sheet 80 = .ok (.aload_n 0, 1) := dk_42 (dk_at dksX5_sheet_3 9 rfl rfl)
theorem dX5_sheet_81 : decode cX5_sheet 81 = .ok (.dup, 1) := dk_89 (dk_at dksX5_sheet_3 10 rfl rfl)
theorem dX5_sheet_82 : decode cX5_sheet 82 = .ok (.getfield 15, 3) := dk_180 0 15 (dk_at dksX5_sheet_3 11 rfl rfl)
theorem dX5_sheet_85 : decode cX5_sheet 85 = .ok (.iconst 1, 1) := dk_4 (dk_at dksX5_sheet_3 14 rfl rfl)
theorem dX5_sheet_86 : decode cX5_sheet 86 = .ok (.iadd, 1) := dk_96 (dk_at dksX5_sheet_3 15 rfl rfl)
theorem dX5_sheet_87 : decode cX5_sheet 87 = .ok (.putfield 15, 3) := dk_181 0 15 (dk_at dksX5_sheet_3 16 rfl rfl)
theorem dX5_sheet_90 : decode cX5_sheet 90 = .ok (.iload_n 3, 1) := dk_29 (dk_at dksX5_sheet_3 19 rfl rfl)
theorem dX5_sheet_91 : decode cX5_sheet 91 = .ok (.bipush 91, 2) := dk_16 91 (dk_at dksX5_sheet_3 20 rfl rfl)
theorem dX5_sheet_93 : decode cX5_sheet 93 = .ok (.if_icmp .ne 31, 3) := dk_160 0 31 (dk_at dksX5_sheet_4 0 rfl rfl)
theorem dX5_sheet_96 : decode cX5_sheet 96 = .ok (.aload_n 1, 1) := dk_43 (dk_at dksX5_sheet_4 3 rfl rfl)
theorem dX5_sheet_97 : decode cX5_sheet 97 = .ok (.getfield 89, 3) := dk_180 0 89 (dk_at dksX5_sheet_4 4 rfl rfl)
theorem dX5_sheet_100 : decode cX5_sheet 100 = .ok (.aload_n 0, 1) := dk_42 (dk_at dksX5_sheet_4 7 rfl rfl)
theorem dX5_sheet_101 : decode cX5_sheet 101 = .ok (.aload_n 1, 1) := dk_43 (dk_at dksX5_sheet_4 8 rfl rfl)
theorem dX5_sheet_102 : decode cX5_sheet 102 = .ok (.getfield 98, 3) := dk_180 0 98 (dk_at dksX5_sheet_4 9 rfl rfl)
theorem dX5_sheet_105 : decode cX5_sheet 105 = .ok (.invokevirtual 93, 3) := dk_182 0 93 (dk_at dksX5_sheet_4 12 rfl rfl)
theorem dX5_sheet_108 : decode cX5_sheet 108 = .ok (.aload_n 2, 1) := dk_44 (dk_at dksX5_sheet_4 15 rfl rfl)
theorem dX5_sheet_109 : decode cX5_sheet 109 = .ok (.invokevirtual 101, 3) := dk_182 0 101 (dk_at dksX5_sheet_4 16 rfl rfl)
theorem dX5_sheet_112 : decode cX5_sheet 112 = .ok (.bipush 93, 2) := dk_16 93 (dk_at dksX5_sheet_4 19 rfl rfl)
theorem dX5_sheet_114 : decode cX5_sheet 114 = .ok (.invokevirtual 102, 3) := dk_182 0 102 (dk_at dksX5_sheet_4 21 rfl rfl)
theorem dX5_sheet_117 : decode cX5_sheet 117 = .ok (.invokevirtual 106, 3) := dk_182 0 106 (dk_at dksX5_sheet_5 0 rfl rfl)
theorem dX5_sheet_120 : decode cX5_sheet 120 = .ok (.pop, 1) := dk_87 (dk_at dksX5_sheet_5 3 rfl rfl)
theorem dX5_sheet_121 : decode cX5_sheet 121 = .ok (.goto 35, 3) := dk_167 0 35 (dk_at dksX5_sheet_5 4 rfl rfl)
theorem dX5_sheet_124 : decode cX5_sheet 124 = .ok (.iload_n 3, 1) := dk_29 (dk_at dksX5_sheet_5 7 rfl rfl)
theorem dX5_sheet_125 : decode cX5_sheet 125 = .ok (.bipush 47, 2) := dk_16 47 (dk_at dksX5_sheet_5 8 rfl rfl)
theorem dX5_sheet_127 : decode cX5_sheet 127 = .ok (.if_icmp .ne 23, 3) := dk_160 0 23 (dk_at dksX5_sheet_5 10 rfl rfl)
theorem dX5_sheet_130 : decode cX5_sheet 130 = .ok (.aload_n 1, 1) := dk_43 (dk_at dksX5_sheet_5 13 rfl rfl)
theorem dX5_sheet_131 : decode cX5_sheet 131 = .ok (.getfield 98, 3) := dk_180 0 98 (dk_at dksX5_sheet_5 14 rfl rfl)
theorem dX5_sheet_134 : decode cX5_sheet 134 = .ok (.aload_n 2, 1) := dk_44 (dk_at dksX5_sheet_5 17 rfl rfl)
theorem dX5_sheet_135 : decode cX5_sheet 135 = .ok (.invokevirtual 110, 3) := dk_182 0 110 (dk_at dksX5_sheet_5 18 rfl rfl)
theorem dX5_sheet_138 : decode cX5_sheet 138 = .ok (.invokevirtual 106, 3) := dk_182 0 106 (dk_at dksX5_sheet_5 21 rfl rfl)
theorem dX5_sheet_141 : decode cX5_sheet 141 = .ok (.pop, 1) := dk_87 (dk_at dksX5_sheet_6 0 rfl rfl)
theorem dX5_sheet_142 : decode cX5_sheet 142 = .ok (.aload_n 2, 1) := dk_44 (dk_at dksX5_sheet_6 1 rfl rfl)
theorem dX5_sheet_143 : decode cX5_sheet 143 = .ok (.iconst 0, 1) := dk_3 (dk_at dksX5_sheet_6 2 rfl rfl)
theorem dX5_sheet_144 : decode cX5_sheet 144 = .ok (.invokevirtual 114, 3) := dk_182 0 114 (dk_at dksX5_sheet_6 3 rfl rfl)
theorem dX5_sheet_147 : decode cX5_sheet 147 = .ok (.goto 9, 3) := dk_167 0 9 (dk_at dksX5_sheet_6 6 rfl rfl)
theorem dX5_sheet_150 : decode cX5_sheet 150 = .ok (.aload_n 2, 1) := dk_44 (dk_at dksX5_sheet_6 9 rfl rfl)
theorem dX5_sheet_151 : decode cX5_sheet 151 = .ok (.iload_n 3, 1) := dk_29 (dk_at dksX5_sheet_6 10 rfl rfl)
theorem dX5_sheet_152 : decode cX5_sheet 152 = .ok (.invokevirtual 117, 3) := dk_182 0 117 (dk_at dksX5_sheet_6 11 rfl rfl)
theorem dX5_sheet_155 : decode cX5_sheet 155 = .ok (.pop, 1) := dk_87 (dk_at dksX5_sheet_6 14 rfl rfl)
theorem dX5_sheet_156 : decode cX5_sheet 156 = .ok (.goto (-131), 3) := dk_167 255 125 (dk_at dksX5_sheet_6 15 rfl rfl)
theorem dX5_sheet_159 : decode cX5_sheet 159 = .ok (.aload_n 1, 1) := dk_43 (dk_at dksX5_sheet_6 18 rfl rfl)
theorem dX5_sheet_160 : decode cX5_sheet 160 = .ok (.getfield 98, 3) := dk_180 0 98 (dk_at dksX5_sheet_6 19 rfl rfl)
theorem dX5_sheet_163 : decode cX5_sheet 163 = .ok (.aload_n 2, 1) := dk_44 (dk_at dksX5_sheet_6 22 rfl rfl)
theorem dX5_sheet_164 : decode cX5_sheet 164 = .ok (.invokevirtual 110, 3) := dk_182 0 110 (dk_at dksX5_sheet_7 0 rfl rfl)
theorem dX5_sheet_167 : decode cX5_sheet 167 = .ok (.invokevirtual 106, 3) := dk_182 0 106 (dk_at dksX5_sheet_7 3 rfl rfl)
theorem dX5_sheet_170 : decode cX5_sheet 170 = .ok (.pop, 1) := dk_87 (dk_at dksX5_sheet_7 6 rfl rfl)
theorem dX5_sheet_171 : decode cX5_sheet 171 = .ok (.aload_n 1, 1) := dk_43 (dk_at dksX5_sheet_7 7 rfl rfl)
theorem dX5_sheet_172 : decode cX5_sheet 172 = .ok (.aload_n 1, 1) := dk_43 (dk_at dksX5_sheet_7 8 rfl rfl)
theorem dX5_sheet_173 : decode cX5_sheet 173 = .ok (.invokevirtual 121, 3) := dk_182 0 121 (dk_at dksX5_sheet_7 9 rfl rfl)
theorem dX5_sheet_176 : decode cX5_sheet 176 = .ok (.putfield 125, 3) := dk_181 0 125 (dk_at dksX5_sheet_7 12 rfl rfl)
theorem dX5_sheet_179 : decode cX5_sheet 179 = .ok (.aload_n 1, 1) := dk_43 (dk_at dksX5_sheet_7 15 rfl rfl)
theorem dX5_sheet_180 : decode cX5_sheet 180 = .ok (.areturn, 1) := dk_176 (dk_at dksX5_sheet_7 16 rfl rfl)
theorem q168 : (Jvm.Cond.fieldLinkNest "ChordSheet$Reader" (98 : Nat) "ChordSheet$Sheet" "lines" "Ljava/util/ArrayList;" "ChordSheet") ∈ lw_tbl := lw_at lw_m1 106 rfl
theorem q171 : (Jvm.Cond.fieldLinkNest "ChordSheet$Reader" (89 : Nat) "ChordSheet$Sheet" "chords" "Ljava/util/ArrayList;" "ChordSheet") ∈ lw_tbl := lw_at lw_m1 109 rfl
theorem q174 : (Jvm.Cond.fieldLinkNest "ChordSheet$Reader" (125 : Nat) "ChordSheet$Sheet" "key" "LChordSheet$Key;" "ChordSheet") ∈ lw_tbl := lw_at lw_m1 112 rfl
theorem q326 : (Jvm.Cond.classLink "ChordSheet$Reader" (76 : Nat) "ChordSheet$Sheet") ∈ lw_all := lw_g (lw_at lw_m2 24 rfl) rfl
theorem q327 : (Jvm.Cond.classLink "ChordSheet$Reader" (78 : Nat) "ChordSheet$Key") ∈ lw_all := lw_g (lw_at lw_m2 25 rfl) rfl
theorem q328 : (Jvm.Cond.methodLink "ChordSheet$Reader" (80 : Nat) ({ cls := "ChordSheet$Key", name := "<init>", desc := "(IZ)V" } : Jvm.MethodName)) ∈ lw_all := lw_g (lw_at lw_m2 26 rfl) rfl
theorem q329 : (Jvm.Cond.methodLink "ChordSheet$Reader" (83 : Nat) ({ cls := "ChordSheet$Sheet", name := "<init>", desc := "(LChordSheet$Key;)V" } : Jvm.MethodName)) ∈ lw_all := lw_g (lw_at lw_m2 27 rfl) rfl
theorem q330 : (Jvm.Cond.classLink "ChordSheet$Reader" (86 : Nat) "java/lang/StringBuilder") ∈ lw_all := lw_g (lw_at lw_m2 28 rfl) rfl
theorem q332 : (Jvm.Cond.methodLink "ChordSheet$Reader" (88 : Nat) ({ cls := "java/lang/StringBuilder", name := "<init>", desc := "()V" } : Jvm.MethodName)) ∈ lw_all := lw_g (lw_at lw_m2 30 rfl) rfl
theorem q333 : (Jvm.Cond.instanceMethod ({ cls := "java/lang/StringBuilder", name := "<init>", desc := "()V" } : Jvm.MethodName)) ∈ lw_all := lw_g (lw_at lw_m2 31 rfl) rfl
theorem q334 : (Jvm.Cond.code ({ cls := "java/lang/StringBuilder", name := "<init>", desc := "()V" } : Jvm.MethodName) prog_31_method_1_code (1 : Nat) (Option.none : Option Jvm.ClassFile.FieldType)) ∈ lw_all := lw_g (lw_at lw_m2 32 rfl) rfl
theorem q366 : (Jvm.Cond.methodLink "ChordSheet$Reader" (93 : Nat) ({ cls := "java/util/ArrayList", name := "size", desc := "()I" } : Jvm.MethodName)) ∈ lw_all := lw_g (lw_at lw_m2 64 rfl) rfl
theorem q438 : (Jvm.Cond.methodLink "ChordSheet$Reader" (101 : Nat) ({ cls := "java/lang/StringBuilder", name := "length", desc := "()I" } : Jvm.MethodName)) ∈ lw_all := lw_g (lw_at lw_m2 136 rfl) rfl
theorem q440 : (Jvm.Cond.selects "java/lang/StringBuilder" ({ cls := "java/lang/StringBuilder", name := "length", desc := "()I" } : Jvm.MethodName) ({ cls := "java/lang/StringBuilder", name := "length", desc := "()I" } : Jvm.MethodName)) ∈ lw_all := lw_g (lw_at lw_m2 138 rfl) rfl
theorem q445 : (Jvm.Cond.methodLink "ChordSheet$Reader" (102 : Nat) ({ cls := "ChordSheet$Reader", name := "chord", desc := "(IIC)LChordSheet$Chord;" } : Jvm.MethodName)) ∈ lw_all := lw_g (lw_at lw_m2 143 rfl) rfl
theorem q616 : (Jvm.Cond.methodLink "ChordSheet$Reader" (106 : Nat) ({ cls := "java/util/ArrayList", name := "add", desc := "(Ljava/lang/Object;)Z" } : Jvm.MethodName)) ∈ lw_all := lw_g (lw_at lw_m3 74 rfl) rfl
theorem q617 : (Jvm.Cond.methodLink "ChordSheet$Reader" (110 : Nat) ({ cls := "java/lang/StringBuilder", name := "toString", desc := "()Ljava/lang/String;" } : Jvm.MethodName)) ∈ lw_all := lw_g (lw_at lw_m3 75 rfl) rfl
theorem q800 : (Jvm.Cond.methodLink "ChordSheet$Reader" (114 : Nat) ({ cls := "java/lang/StringBuilder", name := "setLength", desc := "(I)V" } : Jvm.MethodName)) ∈ lw_all := lw_g (lw_at lw_m4 18 rfl) rfl
theorem q801 : (Jvm.Cond.instanceMethod ({ cls := "java/lang/StringBuilder", name := "setLength", desc := "(I)V" } : Jvm.MethodName)) ∈ lw_all := lw_g (lw_at lw_m4 19 rfl) rfl
theorem q802 : (Jvm.Cond.selects "java/lang/StringBuilder" ({ cls := "java/lang/StringBuilder", name := "setLength", desc := "(I)V" } : Jvm.MethodName) ({ cls := "java/lang/StringBuilder", name := "setLength", desc := "(I)V" } : Jvm.MethodName)) ∈ lw_all := lw_g (lw_at lw_m4 20 rfl) rfl
theorem q803 : (Jvm.Cond.code ({ cls := "java/lang/StringBuilder", name := "setLength", desc := "(I)V" } : Jvm.MethodName) prog_31_method_89_code (2 : Nat) (Option.none : Option Jvm.ClassFile.FieldType)) ∈ lw_all := lw_g (lw_at lw_m4 21 rfl) rfl
theorem q868 : (Jvm.Cond.methodLink "ChordSheet$Reader" (117 : Nat) ({ cls := "java/lang/StringBuilder", name := "append", desc := "(C)Ljava/lang/StringBuilder;" } : Jvm.MethodName)) ∈ lw_all := lw_g (lw_at lw_m4 86 rfl) rfl
theorem q881 : (Jvm.Cond.methodLink "ChordSheet$Reader" (121 : Nat) ({ cls := "ChordSheet$Sheet", name := "likeliest", desc := "()LChordSheet$Key;" } : Jvm.MethodName)) ∈ lw_all := lw_g (lw_at lw_m4 99 rfl) rfl
theorem lsep {Γ : zCx} {h h' : zH} {a1 u1 cap1 a2 u2 cap2 e' cap' : Nat} {xs1 xs2 xs' : List Nat} (l1 : lAt Γ h a1 u1 xs1 cap1) (l2 : lAt Γ h a2 u2 xs2 cap2) (hd : u1 ≠ u2 ∨ (cap1 = 0 ∧ cap2 = 0)) (he : e' = u1 ∨ h e' = none) (l1' : lAt Γ h' a1 e' xs' cap') (k : zkeep h h' [a1, u1]) : e' ≠ u2 ∨ (cap' = 0 ∧ cap2 = 0) := by
  obtain ⟨m1, f1, p1, p2, p3⟩ := l1
  obtain ⟨m2, f2, q1, q2, q3⟩ := l2
  obtain ⟨m3, f3, r1, r2, r3⟩ := l1'
  rcases he with e | e
  · subst e
    rcases hd with g | ⟨g1, g2⟩
    · exact Or.inl g
    · right
      refine ⟨?_, g2⟩
      subst g1
      have := k.f p2
      rw [this] at r2
      cases cap' with
      | zero => rfl
      | succ n => simp at r2
  · left
    intro z
    rw [z, q2] at e
    cases e
def lsm (ls : List (List Int)) : Nat := (ls.map List.length).sum
theorem lsm_app (ls : List (List Int)) (t : List Int) : lsm (ls ++ [t]) = lsm ls + t.length := by simp [lsm]
theorem lsm_m {ls : List (List Int)} {l : List Int} (h : l ∈ ls) : l.length ≤ lsm ls := by
  induction ls with
  | nil => cases h
  | cons a r ih =>
    have e : lsm (a :: r) = a.length + lsm r := by simp [lsm]
    rcases List.mem_cons.mp h with g | g
    · subst g; omega
    · have := ih g; omega
/-- what stands while a text is read -/
def rvI (p : Int) (ls : List (List Int)) (cs : List zCh) (cur : List Int) : Prop := cs.length ≤ 40 ∧ (∀ c ∈ cs, crg c) ∧ ((lsm ls + cur.length + ls.length + 3 * cs.length : Nat) : Int) ≤ p ∧ p ≤ 200
theorem rvI.le {p : Int} {ls : List (List Int)} {cs : List zCh} {cur : List Int} {d : Int} (h : rvI p ls cs cur) (hp : p + 1 ≤ 200) : rvI (p + 1) ls cs (cur ++ [d]) := by
  obtain ⟨h1, h2, h3, h4⟩ := h
  refine ⟨h1, h2, ?_, hp⟩
  simp only [List.length_append, List.length_cons, List.length_nil]
  omega
theorem rvI.sl {p : Int} {ls : List (List Int)} {cs : List zCh} {cur : List Int} (h : rvI p ls cs cur) (hp : p + 1 ≤ 200) : rvI (p + 1) (ls ++ [cur]) cs [] := by
  obtain ⟨h1, h2, h3, h4⟩ := h
  refine ⟨h1, h2, ?_, hp⟩
  rw [lsm_app]
  simp only [List.length_append, List.length_cons, List.length_nil]
  omega
theorem rvI.ch {p p' rt q b : Int} {ls : List (List Int)} {cs : List zCh} {cur : List Int} (h : rvI p ls cs cur) (h40 : ¬ cs.length = 40) (hp : p + 3 ≤ p' ∧ p' ≤ 200) (hc : (-15 ≤ rt ∧ rt ≤ 19) ∧ (0 ≤ q ∧ q ≤ 9) ∧ (b = 100 ∨ (-15 ≤ b ∧ b ≤ 19))) : rvI p' ls (cs ++ [(((ls.length : Nat) : Int), ((cur.length : Nat) : Int), rt, q, b)]) cur := by
  obtain ⟨h1, h2, h3, h4⟩ := h
  refine ⟨by simp; omega, fun c hm => ?_, ?_, hp.2⟩
  · rcases List.mem_append.mp hm with e | e
    · exact h2 c e
    · rw [List.mem_singleton.mp e]
      exact ⟨by show (0 : Int) ≤ (ls.length : Nat) ∧ ((ls.length : Nat) : Int) ≤ 300; omega, by show (0 : Int) ≤ (cur.length : Nat) ∧ ((cur.length : Nat) : Int) ≤ 300; omega, hc.1, hc.2.1, hc.2.2⟩
  · simp only [List.length_append, List.length_cons, List.length_nil]
    omega
/-- a text is read from a place on: the lines that are whole, the chords, the line at hand -/
def rsh (T : List Int) : Nat → Int → List (List Int) → List zCh → List Int → Int ⊕ (List (List Int) × List zCh)
  | 0, _, ls, cs, cur => .inr (ls ++ [cur], cs)
  | f + 1, p, ls, cs, cur =>
    if p < (T.length : Nat) then
      if tch T p = 93 ∨ (tch T p = 91 ∧ cs.length = 40) then .inl p
      else if tch T p = 91 then
        match chp T (p + 1) 93 with
        | .inl x => .inl x
        | .inr (rt, q, b, p') => rsh T f p' ls (cs ++ [(((ls.length : Nat) : Int), ((cur.length : Nat) : Int), rt, q, b)]) cur
      else if tch T p = 47 then rsh T f (p + 1) (ls ++ [cur]) cs []
      else rsh T f (p + 1) ls cs (cur ++ [tch T p])
    else .inr (ls ++ [cur], cs)
section
variable {T : List Int} {f : Nat} {p : Int} {ls : List (List Int)} {cs : List zCh} {cur : List Int}
theorem rsh_end (h : ¬ p < (T.length : Nat)) : rsh T (f + 1) p ls cs cur = .inr (ls ++ [cur], cs) := by rw [rsh, if_neg h]
theorem rsh_bad (h : p < (T.length : Nat)) (hb : tch T p = 93 ∨ (tch T p = 91 ∧ cs.length = 40)) : rsh T (f + 1) p ls cs cur = .inl p := by rw [rsh, if_pos h, if_pos hb]
theorem rsh_cb {x : Int} (h : p < (T.length : Nat)) (hb : ¬ (tch T p = 93 ∨ (tch T p = 91 ∧ cs.length = 40))) (h1 : tch T p = 91) (hc : chp T (p + 1) 93 = .inl x) : rsh T (f + 1) p ls cs cur = .inl x := by rw [rsh, if_pos h, if_neg hb, if_pos h1, hc]
theorem rsh_co {rt q b p' : Int} (h : p < (T.length : Nat)) (hb : ¬ (tch T p = 93 ∨ (tch T p = 91 ∧ cs.length = 40))) (h1 : tch T p = 91) (hc : chp T (p + 1) 93 = .inr (rt, q, b, p')) : rsh T (f + 1) p ls cs cur = rsh T f p' ls (cs ++ [(((ls.length : Nat) : Int), ((cur.length : Nat) : Int), rt, q, b)]) cur := by rw [rsh, if_pos h, if_neg hb, if_pos h1, hc]
theorem rsh_sl (h : p < (T.length : Nat)) (hb : ¬ (tch T p = 93 ∨ (tch T p = 91 ∧ cs.length = 40))) (h1 : ¬ tch T p = 91) (h2 : tch T p = 47) : rsh T (f + 1) p ls cs cur = rsh T f (p + 1) (ls ++ [cur]) cs [] := by rw [rsh, if_pos h, if_neg hb, if_neg h1, if_pos h2]
theorem rsh_le (h : p < (T.length : Nat)) (hb : ¬ (tch T p = 93 ∨ (tch T p = 91 ∧ cs.length = 40))) (h1 : ¬ tch T p = 91) (h2 : ¬ tch T p = 47) : rsh T (f + 1) p ls cs cur = rsh T f (p + 1) ls cs (cur ++ [tch T p]) := by rw [rsh, if_pos h, if_neg hb, if_neg h1, if_neg h2]
end
theorem chp_u {T : List Int} {p e rt q b p' : Int} (he : e ≠ 0) (h : chp T p e = .inr (rt, q, b, p')) : p' ≤ (T.length : Nat) ∧ p + 2 ≤ p' := by
  have kn : ∀ p, p + 1 ≤ nen T p := by intro p; unfold nen; split <;> omega
  have kp : nen T p ≤ cp2 T p := by unfold cp2 cp1; omega
  have k0 := kn p
  have k1 := kn (cp2 T p + 1)
  unfold chp at h
  split at h
  · split at h
    · split at h
      · split at h
        · split at h
          · simp only [Sum.inr.injEq, Prod.mk.injEq] at h
            omega
          · simp only [reduceCtorEq] at h
        · simp only [reduceCtorEq] at h
      · split at h
        · simp only [Sum.inr.injEq, Prod.mk.injEq] at h
          omega
        · simp only [reduceCtorEq] at h
    · simp only [reduceCtorEq] at h
  · simp only [reduceCtorEq] at h
set_option maxHeartbeats 4000000 in
theorem ct_R_sheet {l : Launch} (hl : l.stackTraces = false) {Γ : zCx} {h : zH} {r c tx : Nat} {tf : Nat → Value} {T : List Int} {c2 c3 c4 c5 c6 : Value} (hr : h r = some (true, .inr (4, [.int (iI 0), .ref c]))) (hc0 : h c = some (true, .inr (0, [.ref tx, .int (iI ((T.length : Nat) : Int)), c2, c3, c4, c5, c6]))) (htx : h tx = some (true, .inl (.char, 200, tf))) (hch : ∀ (j : Nat) (d : Int), T[j]? = some d → tf j = .int (iI d)) (hT : ∀ c ∈ T, 32 ≤ c ∧ c ≤ 126) (hTl : T.length ≤ 200)  : zMet l yX5_sheet (ws_ yX5_sheet cX5_sheet 4 (some (.object "ChordSheet$Sheet"))) ({ frames := 8, cells := 1300, slots := 8800, locals := 182 }) Γ h [.ref r] (zb "ChordSheet$TextError" (fun w h' => ∃ ls cs x, rsh T (T.length + 1) 0 [] [] [] = .inr (ls, cs) ∧ rvI 200 (ls.take 0) cs [] ∧ w = some (.ref x.s) ∧ shW Γ h' x (ls, cs, (lik cs).1, (lik cs).2) ∧ (∀ q ∈ fpS x, h q = none) ∧ zkeep h h' [r]) (fun q h' => ∃ y, rsh T (T.length + 1) 0 [] [] [] = .inl y ∧ teA h' q y ∧ h q = none ∧ zkeep h h' [r])) 1300 8800 := by
  refine zMet.of (cc := cX5_sheet) hl (plainFor_of_name (by decide +kernel)) (Nat.le_of_ble_eq_true rfl) ?_
  intro X hXl hXΓ hXp C hnm hnL
  have C : zC X cX5_sheet RX5 (some (.object "ChordSheet$Sheet")) 8 182 [] := C
  have hnL : X.2.1.2.2.2.2 = 4 := hnL
  subst hXl hXΓ
  show Z X h 1300 8800 [(0, .ref r)] 0 []
  have rtx := hT
  have rtl := hTl
  refine z_new (pc := 0) (ci := 1) (kc' := 1299) (ks' := 8797) (fs := [.null, .null, .null]) C in_X2 tyX2 tyX2_ok rfl q326 q116 q64 df_X2 (by omega) (by omega) dX5_sheet_0 (fun a1 fa1 => ?_)
  refine Z.nm (fun h2 eh2 => ?_)
  have na1 : h a1 = none := fa1
  have kh2 : zkeep h h2 [r] := by rw [eh2]; exact zkeep.born zkeep.rf fa1
  have fh2_0 : h2 a1 = some (true, .inr (1, [.null, .null, .null])) := zse eh2
  have fh2_1 : h2 r = some (true, .inr (4, [.int (iI 0), .ref c])) := zsn eh2 hr (zneF hr fa1)
  refine z_dup (pc := 3) C dX5_sheet_3 rfl ?_
  refine z_new (pc := 4) (ci := 2) (kc' := 1298) (ks' := 8795) (fs := [.int (iI 0), .int (iI 0)]) C in_X3 tyX3 tyX3_ok rfl q327 q118 q65 df_X3 (by omega) (by omega) dX5_sheet_4 (fun a3 fa3 => ?_)
  refine Z.nm (fun h4 eh4 => ?_)
  have na3 : h a3 = none := kh2.none0 fa3 (List.not_mem_cons_of_ne_of_not_mem (Ne.symm (zneF fh2_1 fa3)) List.not_mem_nil)
  have kh4 : zkeep h h4 [r] := by rw [eh4]; exact zkeep.born kh2 fa3
  have fh4_0 : h4 a3 = some (true, .inr (2, [.int (iI 0), .int (iI 0)])) := zse eh4
  have fh4_1 : h4 r = some (true, .inr (4, [.int (iI 0), .ref c])) := zsn eh4 fh2_1 (zneF fh2_1 fa3)
  have fh4_2 : h4 a1 = some (true, .inr (1, [.null, .null, .null])) := zsn eh4 fh2_0 (zneF fh2_0 fa3)
  refine z_dup (pc := 7) C dX5_sheet_7 rfl ?_
  refine z_iconst (pc := 8) C dX5_sheet_8 ?_
  refine z_iconst (pc := 9) C dX5_sheet_9 ?_
  refine z_callI (pc := 10) (n := 2) (kc' := 1298) (ks' := 8795) C (ct_K_init C.t (t := 0) (m := 0) fh4_0 (by omega)) q121 q65 q328 q120 rfl (by decide +kernel) ⟨by decide, by decide⟩ rfl rfl (Nat.le_of_ble_eq_true rfl) dX5_sheet_10 (by omega) (by omega) (zrk fun w h5 hp => ?_) zrx
  obtain ⟨rfl, fq6, k7⟩ := hp
  have kh5 : zkeep h h5 [r] := zkeep.loc kh4 k7 (zall_cons (Or.inl (Or.symm (Or.inr na3))) zall_nil)
  have fh5_1 : h5 r = some (true, .inr (4, [.int (iI 0), .ref c])) := k7.n fh4_1 (List.not_mem_cons_of_ne_of_not_mem (zneF fh2_1 fa3) List.not_mem_nil)
  have fh5_2 : h5 a1 = some (true, .inr (1, [.null, .null, .null])) := k7.n fh4_2 (List.not_mem_cons_of_ne_of_not_mem (zneF fh2_0 fa3) List.not_mem_nil)
  show Z X h5 1298 8795 [(0, .ref r)] 13 [.ref a3, .ref a1, .ref a1]
  refine z_callI (pc := 13) (n := 1) (kc' := 1296) (ks' := 8789) C (ct_S_init C.t fh5_2 (kq := a3)) q137 q64 q329 q136 rfl (by decide +kernel) ⟨by decide, by decide⟩ rfl rfl (Nat.le_of_ble_eq_true rfl) dX5_sheet_13 (by omega) (by omega) (zrk fun w h8 hp => ?_) zrx
  obtain ⟨rfl, lq_10, cq_10, fs11, hllq_10, hlcq_10, flq_10, fcq_10, hne_10, k9⟩ := hp
  have nlq_10 : h lq_10 = none := kh5.none0 flq_10 (List.not_mem_cons_of_ne_of_not_mem (Ne.symm (zneF fh5_1 flq_10)) List.not_mem_nil)
  have ncq_10 : h cq_10 = none := kh5.none0 fcq_10 (List.not_mem_cons_of_ne_of_not_mem (Ne.symm (zneF fh5_1 fcq_10)) List.not_mem_nil)
  have kh8 : zkeep h h8 [r] := zkeep.loc kh5 k9 (zall_cons (Or.inl (Or.symm (Or.inr na1))) zall_nil)
  have fh8_1 : h8 r = some (true, .inr (4, [.int (iI 0), .ref c])) := k9.n fh5_1 (List.not_mem_cons_of_ne_of_not_mem (zneF hr fa1) List.not_mem_nil)
  have fh8_2 : h8 a3 = some (false, .inr (2, [.int (iI 0), .int (iI 0)])) := k9.f fq6
  have hx_12 := hllq_10
  obtain ⟨m_12, f_12, la_12, le_12, lz_12, lt_12, ln_12, lc_12, lx_12, lq_12⟩ := hx_12
  have le_12 : h8 (X.Γ.2.2.2 0) = some (false, .inl (.object "java/lang/Object", 0, f_12)) := le_12
  have hx_13 := hlcq_10
  obtain ⟨m_13, f_13, la_13, le_13, lz_13, lt_13, ln_13, lc_13, lx_13, lq_13⟩ := hx_13
  have le_13 : h8 (X.Γ.2.2.2 0) = some (false, .inl (.object "java/lang/Object", 0, f_13)) := le_13
  show Z X h8 1296 8789 [(0, .ref r)] 16 [.ref a1]
  refine z_astore_n (pc := 16) (L' := [(1, .ref a1), (0, .ref r)]) C dX5_sheet_16 rfl (by rw [hnL]; decide) rfl ?_
  refine z_new (pc := 17) (ci := 12) (kc' := 1295) (ks' := 8785) (fs := [.null, .int (iI 0), .int (iI 0), .int (iI 0)]) C in_J13 tyJ13 tyJ13_ok rfl q330 q331 q82 df_J13 (by omega) (by omega) dX5_sheet_17 (fun a14 fa14 => ?_)
  refine Z.nm (fun h15 eh15 => ?_)
  have na14 : h a14 = none := kh8.none0 fa14 (List.not_mem_cons_of_ne_of_not_mem (Ne.symm (zneF fh8_1 fa14)) List.not_mem_nil)
  have kh15 : zkeep h h15 [r] := by rw [eh15]; exact zkeep.born kh8 fa14
  have fh15_0 : h15 a14 = some (true, .inr (12, [.null, .int (iI 0), .int (iI 0), .int (iI 0)])) := zse eh15
  have fh15_1 : h15 r = some (true, .inr (4, [.int (iI 0), .ref c])) := zsn eh15 fh8_1 (zneF fh8_1 fa14)
  have fh15_2 : h15 a3 = some (false, .inr (2, [.int (iI 0), .int (iI 0)])) := zsn eh15 fh8_2 (zneF fh8_2 fa14)
  have fh15_3 : h15 a1 = some (true, .inr (1, [.ref lq_10, .ref cq_10, .ref a3])) := zsn eh15 fs11 (zneF fs11 fa14)
  have fh15_4 : h15 lq_10 = some (true, .inr (10, [.int (iI m_12), .ref (X.Γ.2.2.2 0), .int (iI ((([] : List Nat).length : Nat) : Int))])) := zsn eh15 la_12 (zneF la_12 fa14)
  have fh15_5 : h15 (X.Γ.2.2.2 0) = some (false, .inl ((.object "java/lang/Object"), 0, f_13)) := zsn eh15 le_13 (zneF le_13 fa14)
  have fh15_6 : h15 cq_10 = some (true, .inr (10, [.int (iI m_13), .ref (X.Γ.2.2.2 0), .int (iI ((([] : List Nat).length : Nat) : Int))])) := zsn eh15 la_13 (zneF la_13 fa14)
  have sh15 : zkeep h8 h15 [] := zkeep.one0 eh15 fa14
  have ph15_1 : ∀ q ∈ ([] : List Nat), zel h15 q := zels.keep sh15 lq_12
  have ph15_2 : ∀ q ∈ ([] : List Nat), zel h15 q := zels.keep sh15 lq_13
  refine z_dup (pc := 20) C dX5_sheet_20 rfl ?_
  refine z_callI (pc := 21) (n := 0) (kc' := 1294) (ks' := 8769) C (ct_B_init16 C.t fh15_0 ) q334 q82 q332 q333 rfl (by decide +kernel) ⟨by decide, by decide⟩ rfl rfl (Nat.le_of_ble_eq_true rfl) dX5_sheet_21 (by omega) (by omega) (zrk fun w h16 hp => ?_) zrx
  obtain ⟨rfl, v17, hb18, fv17, k19⟩ := hp
  have nv17 : h v17 = none := kh15.none0 fv17 (List.not_mem_cons_of_ne_of_not_mem (Ne.symm (zneF fh15_1 fv17)) List.not_mem_nil)
  have kh16 : zkeep h h16 [r] := zkeep.loc kh15 k19 (zall_cons (Or.inl (Or.symm (Or.inr na14))) zall_nil)
  have fh16_1 : h16 r = some (true, .inr (4, [.int (iI 0), .ref c])) := k19.n fh15_1 (List.not_mem_cons_of_ne_of_not_mem (zneF fh8_1 fa14) List.not_mem_nil)
  have fh16_2 : h16 a3 = some (false, .inr (2, [.int (iI 0), .int (iI 0)])) := k19.f fh15_2
  have fh16_3 : h16 a1 = some (true, .inr (1, [.ref lq_10, .ref cq_10, .ref a3])) := k19.n fh15_3 (List.not_mem_cons_of_ne_of_not_mem (zneF fs11 fa14) List.not_mem_nil)
  have fh16_4 : h16 lq_10 = some (true, .inr (10, [.int (iI m_12), .ref (X.Γ.2.2.2 0), .int (iI ((([] : List Nat).length : Nat) : Int))])) := k19.n fh15_4 (List.not_mem_cons_of_ne_of_not_mem (zneF la_12 fa14) List.not_mem_nil)
  have fh16_5 : h16 (X.Γ.2.2.2 0) = some (false, .inl ((.object "java/lang/Object"), 0, f_13)) := k19.f fh15_5
  have fh16_6 : h16 cq_10 = some (true, .inr (10, [.int (iI m_13), .ref (X.Γ.2.2.2 0), .int (iI ((([] : List Nat).length : Nat) : Int))])) := k19.n fh15_6 (List.not_mem_cons_of_ne_of_not_mem (zneF la_13 fa14) List.not_mem_nil)
  have ph16_1 : ∀ q ∈ ([] : List Nat), zel h16 q := zels.keep k19 ph15_1
  have ph16_2 : ∀ q ∈ ([] : List Nat), zel h16 q := zels.keep k19 ph15_2
  have hx_20 := hb18
  obtain ⟨z_20, f_20, hb_20, hv_20, hlen_20, hcap_20, hcon_20, hfit_20, hasc_20⟩ := hx_20
  show Z X h16 1294 8769 [(1, .ref a1), (0, .ref r)] 24 [.ref a14]
  have hz1 : bLC 0 202 = 202 := rfl
  have hz2 : bLC 0 41 = 41 := rfl
  have hz3 : bC 16 201 = 185 := rfl
  have hz4 : bLS 0 202 = 1222 := rfl
  have hz5 : bLS 0 41 = 256 := rfl
  have hz6 : bS 16 201 = 780 := rfl
  refine z_astore_n (pc := 24) (L' := [(2, .ref a14), (1, .ref a1), (0, .ref r)]) C dX5_sheet_24 rfl (by rw [hnL]; decide) rfl ?_
  have loop25 : ∀ (n25 : Nat) (p : Int) (g : zH) (lys : List Nat) (ys : List Nat) (ls : List (List Int)) (cs : List zCh) (cur : List Int) (u1 : Nat) (cap1 : Nat) (u2 : Nat) (cap2 : Nat) (v : Nat) (bcap : Nat), (0 ≤ p ∧ p ≤ (T.length : Nat)) → (zkeep h g [r]) → (g r = some (true, .inr (4, [.int (iI p), .ref c]))) → (g a1 = some (true, .inr (1, [.ref lq_10, .ref cq_10, .ref a3]))) → (lAt X.Γ g lq_10 u1 lys cap1) → (lAt X.Γ g cq_10 u2 ys cap2) → (bAt g a14 v cur bcap) → (sls g lys ls) → (ycs g ys cs) → ((u1 ∈ [r] ∨ h u1 = none) ∨ cap1 = 0) → ((u2 ∈ [r] ∨ h u2 = none) ∨ cap2 = 0) → (v ∈ [r] ∨ h v = none) → (u1 ≠ u2 ∨ (cap1 = 0 ∧ cap2 = 0)) → (rvI p ls cs cur) → (∃ f, (T.length : Nat) - p < ((f : Nat) : Int) ∧ rsh T f p ls cs cur = rsh T (T.length + 1) 0 [] [] []) → ((((T.length : Nat) : Int) - p).toNat) = n25 → Z X g (4 * (T.length - p.toNat) + bLC cap1 202 + bLC cap2 41 + bC bcap 201 + 29) (31 * (T.length - p.toNat) + cur.length + bLS cap1 202 + bLS cap2 41 + bS bcap 201 + 60) [(2, .ref a14), (1, .ref a1), (0, .ref r)] 25 [] := by
    intro n25
    induction n25 using Nat.strongRecOn with
    | ind n25 ih25 =>
    intro p g lys ys ls cs cur u1 cap1 u2 cap2 v bcap hp hkp hru hs1 hla hlb hbb hsl hyc hm1 hm2 hmv hdj hrv hd hn25
    have hx_21 := hbb
    obtain ⟨z_21, f_21, hb_21, hv_21, hlen_21, hcap_21, hcon_21, hfit_21, hasc_21⟩ := hx_21
    obtain ⟨f0, hf0, hd0⟩ := hd
    obtain ⟨f1, rfl⟩ : ∃ f1, f0 = f1 + 1 := ⟨f0 - 1, by omega⟩
    obtain ⟨hrc, hrcr, hrl, hrp⟩ := id hrv
    have hll := hsl.len
    have hyl := hyc.len
    have hdj0 := hdj
    rcases hdj with hneA | ⟨hz1, hz2⟩
    · have hx_22 := hla
      obtain ⟨m_22, f_22, la_22, le_22, lz_22, lt_22, ln_22, lc_22, lx_22, lq_22⟩ := hx_22
      have hx_23 := hlb
      obtain ⟨m_23, f_23, la_23, le_23, lz_23, lt_23, ln_23, lc_23, lx_23, lq_23⟩ := hx_23
      refine z_aload_n (pc := 25) (j := 2) C dX5_sheet_25 rfl rfl ?_
      refine z_getfield (pc := 26) (v := .int (iI p)) C in_X5 rfl 0 (by decide) q315 (fun _ z => z) hru rfl dX5_sheet_26 ?_
      refine z_aload_n (pc := 29) (j := 2) C dX5_sheet_29 rfl rfl ?_
      refine z_getfield (pc := 30) (v := .ref c) C in_X5 rfl 1 (by decide) q316 (fun _ z => z) hru rfl dX5_sheet_30 ?_
      refine z_getfieldN (pc := 33) (v := .int (iI ((T.length : Nat) : Int))) C in_X1 rfl 1 (by decide) q275 (fun _ z => z) (hkp.n hc0 (List.not_mem_cons_of_ne_of_not_mem (zneC hc0 hr (by decide)) List.not_mem_nil)) rfl dX5_sheet_33 ?_
      refine z_icmp_ge (pc := 36) (tgt := 159) C dX5_sheet_36 (by decide) (by omega) (by omega) (fun c36 => ?_) (fun c36 => ?_)
      · refine z_aload_n (pc := 159) (j := 1) C dX5_sheet_159 rfl rfl ?_
        refine z_getfieldN (pc := 160) (v := .ref lq_10) C in_X2 rfl 0 (by decide) q168 (fun _ z => z) hs1 rfl dX5_sheet_160 ?_
        refine z_aload_n (pc := 163) (j := 0) C dX5_sheet_163 rfl rfl ?_
        refine z_callV (pc := 164) (n := 0) (kc' := (4 * (T.length - p.toNat) + bLC cap1 202 + bLC cap2 41 + bC bcap 201 + 29 - 2)) (ks' := (31 * (T.length - p.toNat) + cur.length + bLS cap1 202 + bLS cap2 41 + bS bcap 201 + 60 - (cur.length + 4))) C (ct_B_toString C.t hbb) (lw_V q617 q618 q619 q82 q620) (by decide +kernel) ⟨by decide, by decide⟩ hb_21 rfl rfl rfl (Nat.le_of_ble_eq_true rfl) dX5_sheet_164 (by omega) (by omega) (zrk fun w h25 hp => ?_) zrx
        obtain ⟨a24, rfl, hs27, fa24, k26⟩ := hp
        have na24 : h a24 = none := hkp.none0 fa24 (List.not_mem_cons_of_ne_of_not_mem (Ne.symm (zneF hru fa24)) List.not_mem_nil)
        have kh25 : zkeep h h25 [r] := zkeep.loc hkp k26 zall_nil
        have fh25_1 : h25 r = some (true, .inr (4, [.int (iI p), .ref c])) := k26.n hru List.not_mem_nil
        have fh25_2 : h25 a1 = some (true, .inr (1, [.ref lq_10, .ref cq_10, .ref a3])) := k26.n hs1 List.not_mem_nil
        have fh25_3 : h25 a14 = some (true, .inr (12, [.ref v, .int (iI 0), .int z_21, .int (iI ((cur.length : Nat) : Int))])) := k26.n hb_21 List.not_mem_nil
        have fh25_4 : h25 v = some (true, .inl (.byte, bcap, f_21)) := k26.n hv_21 List.not_mem_nil
        have fh25_5 : h25 lq_10 = some (true, .inr (10, [.int (iI m_22), .ref u1, .int (iI ((lys.length : Nat) : Int))])) := k26.n la_22 List.not_mem_nil
        have fh25_6 : h25 u1 = some ((decide (cap1 ≠ 0)), .inl ((.object "java/lang/Object"), cap1, f_22)) := k26.n le_22 List.not_mem_nil
        have fh25_7 : h25 cq_10 = some (true, .inr (10, [.int (iI m_23), .ref u2, .int (iI ((ys.length : Nat) : Int))])) := k26.n la_23 List.not_mem_nil
        have fh25_8 : h25 u2 = some ((decide (cap2 ≠ 0)), .inl ((.object "java/lang/Object"), cap2, f_23)) := k26.n le_23 List.not_mem_nil
        have ph25_1 : sls h25 lys ls := sls.keep k26 hsl
        have ph25_2 : ycs h25 ys cs := ycs.keep k26 hyc
        have ph25_3 : ∀ q ∈ lys, zel h25 q := zels.keep k26 lq_22
        have ph25_4 : ∀ q ∈ ys, zel h25 q := zels.keep k26 lq_23
        show Z X h25 (4 * (T.length - p.toNat) + bLC cap1 202 + bLC cap2 41 + bC bcap 201 + 29 - 2) (31 * (T.length - p.toNat) + cur.length + bLS cap1 202 + bLS cap2 41 + bS bcap 201 + 60 - (cur.length + 4)) [(2, .ref a14), (1, .ref a1), (0, .ref r)] 167 [.ref a24, .ref lq_10]
        obtain ⟨hl_28, v_28, x_28, y_28, g_28, h1_28, h2_28, h3_28, h4_28⟩ := id (hs27)
        have h1_28 : h25 (a24) = some (false, .inr (13, [.ref v_28, .int (iI 0), .int x_28, .int y_28])) := h1_28
        have pa_29 := (lAt.mk (cap := cap1) rfl rfl rfl fh25_5 fh25_6 lz_22 lt_22 ln_22 lc_22 lx_22 ph25_3)
        have pb_29 := (lAt.mk (cap := cap2) rfl rfl rfl fh25_7 fh25_8 lz_23 lt_23 ln_23 lc_23 lx_23 ph25_4)
        have hB_29 := lC_b (cap := cap1) (n := lys.length + 1) (N := 202) (by omega) lt_22
        have hC_29 := lS_b (cap := cap1) (n := lys.length + 1) (N := 202) (by omega) lt_22
        refine z_callV (pc := 167) (n := 1) (kc' := ((4 * (T.length - p.toNat) + bLC cap1 202 + bLC cap2 41 + bC bcap 201 + 29 - 2) - lC cap1 (lys.length + 1))) (ks' := ((31 * (T.length - p.toNat) + cur.length + bLS cap1 202 + bLS cap2 41 + bS bcap 201 + 60 - (cur.length + 4)) - lS cap1 (lys.length + 1))) C (ct_L_add C.t (lAt.mk (cap := cap1) rfl rfl rfl fh25_5 fh25_6 lz_22 lt_22 ln_22 lc_22 lx_22 ph25_3) h1_28 rfl q2509 (by first | omega | (simp; omega))) (lw_V q616 q204 q205 q68 q206) (by decide +kernel) ⟨by decide, by decide⟩ fh25_5 rfl rfl rfl (Nat.le_of_ble_eq_true rfl) dX5_sheet_167 (by omega) (by omega) (zrk fun w h30 hp => ?_) zrx
        obtain ⟨rfl, e31, hl32, he33, k34⟩ := hp
        have de31 : e31 ∈ ([r] : List Nat) ∨ h e31 = none := zmayL hm1 (lAt.mk (cap := cap1) rfl rfl rfl fh25_5 fh25_6 lz_22 lt_22 ln_22 lc_22 lx_22 ph25_3) hl32 (by have := lcap_ge (cap := cap1) (n := lys.length + 1); omega) he33 kh25 k34
        have ge31 : e31 = u1 ∨ h e31 = none := he33.imp_right (fun z => kh25.none0 z (List.not_mem_cons_of_ne_of_not_mem (Ne.symm (zneF fh25_1 z)) List.not_mem_nil))
        have kh30 : zkeep h h30 [r] := zkeep.loc kh25 k34 (zall_cons (Or.inl (Or.symm (Or.inr nlq_10))) (zall_cons (lAt.fz (lAt.mk (cap := cap1) rfl rfl rfl fh25_5 fh25_6 lz_22 lt_22 ln_22 lc_22 lx_22 ph25_3) hm1) zall_nil))
        have fh30_1 : h30 r = some (true, .inr (4, [.int (iI p), .ref c])) := k34.n fh25_1 (List.not_mem_cons_of_ne_of_not_mem (zneC fh25_1 fh25_5 (by decide)) (List.not_mem_cons_of_ne_of_not_mem (zneA fh25_1 fh25_6) List.not_mem_nil))
        have fh30_2 : h30 a1 = some (true, .inr (1, [.ref lq_10, .ref cq_10, .ref a3])) := k34.n fh25_2 (List.not_mem_cons_of_ne_of_not_mem (zneC fh25_2 fh25_5 (by decide)) (List.not_mem_cons_of_ne_of_not_mem (zneA fh25_2 fh25_6) List.not_mem_nil))
        have fh30_3 : h30 a14 = some (true, .inr (12, [.ref v, .int (iI 0), .int z_21, .int (iI ((cur.length : Nat) : Int))])) := k34.n fh25_3 (List.not_mem_cons_of_ne_of_not_mem (Ne.symm (zneF la_12 fa14)) (List.not_mem_cons_of_ne_of_not_mem (zneA fh25_3 fh25_6) List.not_mem_nil))
        have fh30_4 : h30 v = some (true, .inl (.byte, bcap, f_21)) := k34.n fh25_4 (List.not_mem_cons_of_ne_of_not_mem (Ne.symm (zneA fh25_5 fh25_4)) (List.not_mem_cons_of_ne_of_not_mem (zneT fh25_4 fh25_6 (by simp)) List.not_mem_nil))
        have fh30_5 : h30 cq_10 = some (true, .inr (10, [.int (iI m_23), .ref u2, .int (iI ((ys.length : Nat) : Int))])) := k34.n fh25_7 (List.not_mem_cons_of_ne_of_not_mem (Ne.symm hne_10) (List.not_mem_cons_of_ne_of_not_mem (zneA fh25_7 fh25_6) List.not_mem_nil))
        have fh30_6 : h30 u2 = some ((decide (cap2 ≠ 0)), .inl ((.object "java/lang/Object"), cap2, f_23)) := k34.n fh25_8 (List.not_mem_cons_of_ne_of_not_mem (Ne.symm (zneA fh25_5 fh25_8)) (List.not_mem_cons_of_ne_of_not_mem (Ne.symm hneA) List.not_mem_nil))
        have fh30_7 : h30 a24 = some (false, .inr (13, [.ref v_28, .int (iI 0), .int x_28, .int y_28])) := k34.f h1_28
        have fh30_8 : h30 v_28 = some (false, .inl (.byte, cur.length, g_28)) := k34.f h2_28
        have ph30_1 : sls h30 lys ls := sls.keep k34 ph25_1
        have ph30_2 : ycs h30 ys cs := ycs.keep k34 ph25_2
        have ph30_3 : ∀ q ∈ lys, zel h30 q := zels.keep k34 ph25_3
        have ph30_4 : ∀ q ∈ ys, zel h30 q := zels.keep k34 ph25_4
        have ph30_5 : sAt h30 a24 cur := sAt.keep k34 hs27
        show Z X h30 ((4 * (T.length - p.toNat) + bLC cap1 202 + bLC cap2 41 + bC bcap 201 + 29 - 2) - lC cap1 (lys.length + 1)) ((31 * (T.length - p.toNat) + cur.length + bLS cap1 202 + bLS cap2 41 + bS bcap 201 + 60 - (cur.length + 4)) - lS cap1 (lys.length + 1)) [(2, .ref a14), (1, .ref a1), (0, .ref r)] 170 [.int (iI 1)]
        have hdj_29 := lsep pa_29 pb_29 hdj0 he33 hl32 k34
        have hdk_29 : e31 ≠ u2 := hdj_29.resolve_right (fun z => by have := lcap_ge (cap := cap1) (n := lys.length + 1); have := z.1; omega)
        have hx_35 := hl32
        obtain ⟨m_35, f_35, la_35, le_35, lz_35, lt_35, ln_35, lc_35, lx_35, lq_35⟩ := hx_35
        have hsl_36 := (ph30_1).app ph30_5
        refine z_pop (pc := 170) C dX5_sheet_170 rfl ?_
        refine z_aload_n (pc := 171) (j := 1) C dX5_sheet_171 rfl rfl ?_
        refine z_aload_n (pc := 172) (j := 1) C dX5_sheet_172 rfl rfl ?_
        have hcl := (ph30_2).cl lx_23
        have hcqf : h30 cq_10 = some (true, .inr (10, [.int (iI m_23), .ref u2, .int (iI ((cs.length : Nat) : Int))])) := hyl ▸ fh30_5
        refine z_callV (pc := 173) (n := 0) (kc' := (((4 * (T.length - p.toNat) + bLC cap1 202 + bLC cap2 41 + bC bcap 201 + 29 - 2) - lC cap1 (lys.length + 1)) - 27)) (ks' := (((31 * (T.length - p.toNat) + cur.length + bLS cap1 202 + bLS cap2 41 + bS bcap 201 + 60 - (cur.length + 4)) - lS cap1 (lys.length + 1)) - 54)) C (ct_S_lik C.t fh30_2 hcqf fh30_6 hcl ⟨by omega, lc_23⟩ hrcr (by omega)) (lw_V q881 q882 q883 q64 q884) (by decide +kernel) ⟨by decide, by decide⟩ fh30_2 rfl rfl rfl (Nat.le_of_ble_eq_true rfl) dX5_sheet_173 (by omega) (by omega) (zrk fun w h37 hp => ?_) zrx
        obtain ⟨a39, rfl, fka39, k38⟩ := hp
        have kh37 : zkeep h h37 [r] := zkeep.loc kh30 k38 zall_nil
        have fh37_1 : h37 r = some (true, .inr (4, [.int (iI p), .ref c])) := k38.n fh30_1 List.not_mem_nil
        have fh37_2 : h37 a1 = some (true, .inr (1, [.ref lq_10, .ref cq_10, .ref a3])) := k38.n fh30_2 List.not_mem_nil
        have fh37_3 : h37 a14 = some (true, .inr (12, [.ref v, .int (iI 0), .int z_21, .int (iI ((cur.length : Nat) : Int))])) := k38.n fh30_3 List.not_mem_nil
        have fh37_4 : h37 v = some (true, .inl (.byte, bcap, f_21)) := k38.n fh30_4 List.not_mem_nil
        have fh37_5 : h37 cq_10 = some (true, .inr (10, [.int (iI m_23), .ref u2, .int (iI ((ys.length : Nat) : Int))])) := k38.n fh30_5 List.not_mem_nil
        have fh37_6 : h37 u2 = some ((decide (cap2 ≠ 0)), .inl ((.object "java/lang/Object"), cap2, f_23)) := k38.n fh30_6 List.not_mem_nil
        have fh37_7 : h37 a24 = some (false, .inr (13, [.ref v_28, .int (iI 0), .int x_28, .int y_28])) := k38.f fh30_7
        have fh37_8 : h37 v_28 = some (false, .inl (.byte, cur.length, g_28)) := k38.f fh30_8
        have fh37_9 : h37 lq_10 = some (true, .inr (10, [.int (iI m_35), .ref e31, .int (iI (((lys ++ [a24]).length : Nat) : Int))])) := k38.n la_35 List.not_mem_nil
        have fh37_10 : h37 e31 = some ((decide (lcap cap1 (lys.length + 1) ≠ 0)), .inl ((.object "java/lang/Object"), lcap cap1 (lys.length + 1), f_35)) := k38.n le_35 List.not_mem_nil
        have ph37_1 : sls h37 (lys ++ [a24]) (ls ++ [cur]) := sls.keep k38 hsl_36
        have ph37_2 : ycs h37 ys cs := ycs.keep k38 ph30_2
        have ph37_3 : ∀ q ∈ lys ++ [a24], zel h37 q := zels.keep k38 lq_35
        have ph37_4 : ∀ q ∈ ys, zel h37 q := zels.keep k38 ph30_4
        have ph37_5 : sAt h37 a24 cur := sAt.keep k38 ph30_5
        have ph37_6 : clA h37 f_23 cs := clA.keep k38 hcl
        show Z X h37 (((4 * (T.length - p.toNat) + bLC cap1 202 + bLC cap2 41 + bC bcap 201 + 29 - 2) - lC cap1 (lys.length + 1)) - 27) (((31 * (T.length - p.toNat) + cur.length + bLS cap1 202 + bLS cap2 41 + bS bcap 201 + 60 - (cur.length + 4)) - lS cap1 (lys.length + 1)) - 54) [(2, .ref a14), (1, .ref a1), (0, .ref r)] 176 [.ref a39, .ref a1]
        refine z_putfieldN (pc := 176) (fs' := [.ref lq_10, .ref cq_10, .ref a39]) C in_X2 tyX2 tyX2_ok nmX2 rfl 2 (by decide) q174 (fun _ z => z) rfl rfl rfl (Nat.le_of_ble_eq_true rfl) fh37_2 rfl dX5_sheet_176 ?_
        refine Z.nm (fun h40 eh40 => ?_)
        have kh40 : zkeep h h40 [r] := by rw [eh40]; exact zkeep.up kh37 (Or.inr na1) fh37_2
        have fh40_0 : h40 a1 = some (true, .inr (1, [.ref lq_10, .ref cq_10, .ref a39])) := zse eh40
        have fh40_1 : h40 r = some (true, .inr (4, [.int (iI p), .ref c])) := zsn eh40 fh37_1 (zneF hr fa1)
        have fh40_2 : h40 a14 = some (true, .inr (12, [.ref v, .int (iI 0), .int z_21, .int (iI ((cur.length : Nat) : Int))])) := zsn eh40 fh37_3 (Ne.symm (zneF fs11 fa14))
        have fh40_3 : h40 v = some (true, .inl (.byte, bcap, f_21)) := zsn eh40 fh37_4 (Ne.symm (zneA fh37_2 fh37_4))
        have fh40_4 : h40 cq_10 = some (true, .inr (10, [.int (iI m_23), .ref u2, .int (iI ((ys.length : Nat) : Int))])) := zsn eh40 fh37_5 (zneC fh37_5 fh37_2 (by decide))
        have fh40_5 : h40 u2 = some ((decide (cap2 ≠ 0)), .inl ((.object "java/lang/Object"), cap2, f_23)) := zsn eh40 fh37_6 (Ne.symm (zneA fh37_2 fh37_6))
        have fh40_6 : h40 a24 = some (false, .inr (13, [.ref v_28, .int (iI 0), .int x_28, .int y_28])) := zsn eh40 fh37_7 (zneW fh37_7 fh37_2)
        have fh40_7 : h40 v_28 = some (false, .inl (.byte, cur.length, g_28)) := zsn eh40 fh37_8 (zneW fh37_8 fh37_2)
        have fh40_8 : h40 lq_10 = some (true, .inr (10, [.int (iI m_35), .ref e31, .int (iI (((lys ++ [a24]).length : Nat) : Int))])) := zsn eh40 fh37_9 (zneC fh37_9 fh37_2 (by decide))
        have fh40_9 : h40 e31 = some ((decide (lcap cap1 (lys.length + 1) ≠ 0)), .inl ((.object "java/lang/Object"), lcap cap1 (lys.length + 1), f_35)) := zsn eh40 fh37_10 (Ne.symm (zneA fh37_2 fh37_10))
        have fh40_10 : h40 a39 = some (false, .inr (2, [.int (iI ((lik cs).1)), .int (iI ((lik cs).2))])) := zsn eh40 fka39 (zneW fka39 fh37_2)
        have sh40 : zkeep h37 h40 [a1] := zkeep.one eh40 fh37_2
        have ph40_1 : sls h40 (lys ++ [a24]) (ls ++ [cur]) := sls.keep sh40 ph37_1
        have ph40_2 : ycs h40 ys cs := ycs.keep sh40 ph37_2
        have ph40_3 : ∀ q ∈ lys ++ [a24], zel h40 q := zels.keep sh40 ph37_3
        have ph40_4 : ∀ q ∈ ys, zel h40 q := zels.keep sh40 ph37_4
        have ph40_5 : sAt h40 a24 cur := sAt.keep sh40 ph37_5
        have ph40_6 : clA h40 f_23 cs := clA.keep sh40 ph37_6
        refine z_aload_n (pc := 179) (j := 1) C dX5_sheet_179 rfl rfl ?_
        have hlz := (lAt.mk (cap := lcap cap1 (lys.length + 1)) rfl rfl rfl fh40_8 fh40_9 lz_35 lt_35 ln_35 lc_35 lx_35 ph40_3)
        refine Z.freezeL hlz (fun h41 hfl k42 => ?_)
        have kh41 : zkeep h h41 [r] := zkeep.loc kh40 k42 (zall_cons (Or.inl (Or.symm (Or.inr nlq_10))) (zall_cons (Or.inl (Or.symm de31)) zall_nil))
        have fh41_1 : h41 r = some (true, .inr (4, [.int (iI p), .ref c])) := k42.n fh40_1 (List.not_mem_cons_of_ne_of_not_mem (zneC fh40_1 fh40_8 (by decide)) (List.not_mem_cons_of_ne_of_not_mem (zneA fh40_1 fh40_9) List.not_mem_nil))
        have fh41_2 : h41 a14 = some (true, .inr (12, [.ref v, .int (iI 0), .int z_21, .int (iI ((cur.length : Nat) : Int))])) := k42.n fh40_2 (List.not_mem_cons_of_ne_of_not_mem (Ne.symm (zneF la_12 fa14)) (List.not_mem_cons_of_ne_of_not_mem (zneA fh40_2 fh40_9) List.not_mem_nil))
        have fh41_3 : h41 v = some (true, .inl (.byte, bcap, f_21)) := k42.n fh40_3 (List.not_mem_cons_of_ne_of_not_mem (Ne.symm (zneA fh40_8 fh40_3)) (List.not_mem_cons_of_ne_of_not_mem (zneT fh40_3 fh40_9 (by simp)) List.not_mem_nil))
        have fh41_4 : h41 cq_10 = some (true, .inr (10, [.int (iI m_23), .ref u2, .int (iI ((ys.length : Nat) : Int))])) := k42.n fh40_4 (List.not_mem_cons_of_ne_of_not_mem (Ne.symm hne_10) (List.not_mem_cons_of_ne_of_not_mem (zneA fh40_4 fh40_9) List.not_mem_nil))
        have fh41_5 : h41 u2 = some ((decide (cap2 ≠ 0)), .inl ((.object "java/lang/Object"), cap2, f_23)) := k42.n fh40_5 (List.not_mem_cons_of_ne_of_not_mem (Ne.symm (zneA fh40_8 fh40_5)) (List.not_mem_cons_of_ne_of_not_mem (Ne.symm hdk_29) List.not_mem_nil))
        have fh41_6 : h41 a24 = some (false, .inr (13, [.ref v_28, .int (iI 0), .int x_28, .int y_28])) := k42.f fh40_6
        have fh41_7 : h41 v_28 = some (false, .inl (.byte, cur.length, g_28)) := k42.f fh40_7
        have fh41_8 : h41 a39 = some (false, .inr (2, [.int (iI ((lik cs).1)), .int (iI ((lik cs).2))])) := k42.f fh40_10
        have fh41_9 : h41 a1 = some (true, .inr (1, [.ref lq_10, .ref cq_10, .ref a39])) := k42.n fh40_0 (List.not_mem_cons_of_ne_of_not_mem (zneC fh40_0 fh40_8 (by decide)) (List.not_mem_cons_of_ne_of_not_mem (zneA fh40_0 fh40_9) List.not_mem_nil))
        have ph41_1 : sls h41 (lys ++ [a24]) (ls ++ [cur]) := sls.keep k42 ph40_1
        have ph41_2 : ycs h41 ys cs := ycs.keep k42 ph40_2
        have ph41_3 : ∀ q ∈ ys, zel h41 q := zels.keep k42 ph40_4
        have ph41_4 : sAt h41 a24 cur := sAt.keep k42 ph40_5
        have ph41_5 : clA h41 f_23 cs := clA.keep k42 ph40_6
        exact z_areturn (pc := 180) C (Or.inl ⟨_, rfl⟩) (Or.inr ⟨_, rfl⟩) (by rw [hXp]; exact Or.inl ⟨_, rfl, ls ++ [cur], cs, ((a1, cq_10, u2, cap2) : zSA), (by rw [← hd0]; exact rsh_end (by omega)), ⟨hrc, hrcr, (by simp [lsm]; omega), by decide⟩, rfl, ⟨lq_10, a39, _, ys, fh41_9, hfl, ph41_1, (lAt.mk (cap := cap2) rfl rfl rfl fh41_4 fh41_5 lz_23 lt_23 ln_23 lc_23 lx_23 ph41_3), ph41_2, fh41_8⟩, fpx_new na1 ncq_10 (hm2.imp_left (fun z => z.resolve_left (by simpa using Ne.symm (zneA fh41_1 fh41_5)))), kh41⟩) dX5_sheet_180
      · refine z_aload_n (pc := 39) (j := 2) C dX5_sheet_39 rfl rfl ?_
        refine z_callV (pc := 40) (n := 0) (kc' := (4 * (T.length - p.toNat) + bLC cap1 202 + bLC cap2 41 + bC bcap 201 + 29)) (ks' := (31 * (T.length - p.toNat) + cur.length + bLS cap1 202 + bLS cap2 41 + bS bcap 201 + 60)) C (ct_R_peek C.t (p := p) hru (hkp.n hc0 (List.not_mem_cons_of_ne_of_not_mem (zneC hc0 hr (by decide)) List.not_mem_nil)) (hkp.n htx (List.not_mem_cons_of_ne_of_not_mem (Ne.symm (zneA hr htx)) List.not_mem_nil)) hch hT hTl (by omega)) (lw_V q362 q364 qs3 q80 q365) (by decide +kernel) ⟨by decide, by decide⟩ hru rfl rfl rfl (Nat.le_of_ble_eq_true rfl) dX5_sheet_40 (by omega) (by omega) (zpk (st' := [.int (iI (tch T p))]) rfl ?_) zrx
        have htr43 := tch_r hT (p := p) (by omega)
        refine z_istore_n (pc := 43) (L' := [(3, .int (iI (tch T p))), (2, .ref a14), (1, .ref a1), (0, .ref r)]) C dX5_sheet_43 rfl (by rw [hnL]; decide) rfl ?_
        refine z_iload_n (pc := 44) (j := 0) C dX5_sheet_44 rfl rfl ?_
        refine z_bipush (pc := 45) C dX5_sheet_45 (by decide) ?_
        refine z_icmp_eq (pc := 47) (tgt := 68) C dX5_sheet_47 (by decide) (by omega) (by decide) (fun c47 => ?_) (fun c47 => ?_)
        · refine z_new (pc := 68) (ci := 5) (kc' := (4 * (T.length - p.toNat) + bLC cap1 202 + bLC cap2 41 + bC bcap 201 + 29 - 1)) (ks' := (31 * (T.length - p.toNat) + cur.length + bLS cap1 202 + bLS cap2 41 + bS bcap 201 + 60 - 7)) (fs := [.null, .null, .null, .null, .null, .int (iI 0), .int (iI 0)]) C in_X6 tyX6 tyX6_ok rfl q370 q371 q85 df_X6 (by omega) (by omega) dX5_sheet_68 (fun a43 fa43 => ?_)
          refine Z.nm (fun h44 eh44 => ?_)
          have na43 : h a43 = none := hkp.none0 fa43 (List.not_mem_cons_of_ne_of_not_mem (Ne.symm (zneF hru fa43)) List.not_mem_nil)
          have kh44 : zkeep h h44 [r] := by rw [eh44]; exact zkeep.born hkp fa43
          have fh44_0 : h44 a43 = some (true, .inr (5, [.null, .null, .null, .null, .null, .int (iI 0), .int (iI 0)])) := zse eh44
          have fh44_1 : h44 r = some (true, .inr (4, [.int (iI p), .ref c])) := zsn eh44 hru (zneF hru fa43)
          have fh44_2 : h44 a1 = some (true, .inr (1, [.ref lq_10, .ref cq_10, .ref a3])) := zsn eh44 hs1 (zneF hs1 fa43)
          have fh44_3 : h44 a14 = some (true, .inr (12, [.ref v, .int (iI 0), .int z_21, .int (iI ((cur.length : Nat) : Int))])) := zsn eh44 hb_21 (zneF hb_21 fa43)
          have fh44_4 : h44 v = some (true, .inl (.byte, bcap, f_21)) := zsn eh44 hv_21 (zneF hv_21 fa43)
          have fh44_5 : h44 lq_10 = some (true, .inr (10, [.int (iI m_22), .ref u1, .int (iI ((lys.length : Nat) : Int))])) := zsn eh44 la_22 (zneF la_22 fa43)
          have fh44_6 : h44 u1 = some ((decide (cap1 ≠ 0)), .inl ((.object "java/lang/Object"), cap1, f_22)) := zsn eh44 le_22 (zneF le_22 fa43)
          have fh44_7 : h44 cq_10 = some (true, .inr (10, [.int (iI m_23), .ref u2, .int (iI ((ys.length : Nat) : Int))])) := zsn eh44 la_23 (zneF la_23 fa43)
          have fh44_8 : h44 u2 = some ((decide (cap2 ≠ 0)), .inl ((.object "java/lang/Object"), cap2, f_23)) := zsn eh44 le_23 (zneF le_23 fa43)
          have sh44 : zkeep g h44 [] := zkeep.one0 eh44 fa43
          have ph44_1 : sls h44 lys ls := sls.keep sh44 hsl
          have ph44_2 : ycs h44 ys cs := ycs.keep sh44 hyc
          have ph44_3 : ∀ q ∈ lys, zel h44 q := zels.keep sh44 lq_22
          have ph44_4 : ∀ q ∈ ys, zel h44 q := zels.keep sh44 lq_23
          refine z_dup (pc := 71) C dX5_sheet_71 rfl ?_
          refine z_aload_n (pc := 72) (j := 3) C dX5_sheet_72 rfl rfl ?_
          refine z_getfield (pc := 73) (v := .int (iI p)) C in_X5 rfl 0 (by decide) q315 (fun _ z => z) fh44_1 rfl dX5_sheet_73 ?_
          refine z_callI (pc := 76) (n := 1) (kc' := (4 * (T.length - p.toNat) + bLC cap1 202 + bLC cap2 41 + bC bcap 201 + 29 - 1)) (ks' := (31 * (T.length - p.toNat) + cur.length + bLS cap1 202 + bLS cap2 41 + bS bcap 201 + 60 - 7)) C (ct_TE_init C.t fh44_0 (p := p)) q414 q85 q412 q413 rfl (by decide +kernel) ⟨by decide, by decide⟩ rfl rfl (Nat.le_of_ble_eq_true rfl) dX5_sheet_76 (by omega) (by omega) (zrk fun w h45 hp => ?_) zrx
          obtain ⟨rfl, fq46, k47⟩ := hp
          have kh45 : zkeep h h45 [r] := zkeep.loc kh44 k47 (zall_cons (Or.inl (Or.symm (Or.inr na43))) zall_nil)
          have fh45_1 : h45 r = some (true, .inr (4, [.int (iI p), .ref c])) := k47.n fh44_1 (List.not_mem_cons_of_ne_of_not_mem (zneF hru fa43) List.not_mem_nil)
          have fh45_2 : h45 a1 = some (true, .inr (1, [.ref lq_10, .ref cq_10, .ref a3])) := k47.n fh44_2 (List.not_mem_cons_of_ne_of_not_mem (zneF hs1 fa43) List.not_mem_nil)
          have fh45_3 : h45 a14 = some (true, .inr (12, [.ref v, .int (iI 0), .int z_21, .int (iI ((cur.length : Nat) : Int))])) := k47.n fh44_3 (List.not_mem_cons_of_ne_of_not_mem (zneF hb_21 fa43) List.not_mem_nil)
          have fh45_4 : h45 v = some (true, .inl (.byte, bcap, f_21)) := k47.n fh44_4 (List.not_mem_cons_of_ne_of_not_mem (zneF hv_21 fa43) List.not_mem_nil)
          have fh45_5 : h45 lq_10 = some (true, .inr (10, [.int (iI m_22), .ref u1, .int (iI ((lys.length : Nat) : Int))])) := k47.n fh44_5 (List.not_mem_cons_of_ne_of_not_mem (zneF la_22 fa43) List.not_mem_nil)
          have fh45_6 : h45 u1 = some ((decide (cap1 ≠ 0)), .inl ((.object "java/lang/Object"), cap1, f_22)) := k47.n fh44_6 (List.not_mem_cons_of_ne_of_not_mem (zneF le_22 fa43) List.not_mem_nil)
          have fh45_7 : h45 cq_10 = some (true, .inr (10, [.int (iI m_23), .ref u2, .int (iI ((ys.length : Nat) : Int))])) := k47.n fh44_7 (List.not_mem_cons_of_ne_of_not_mem (zneF la_23 fa43) List.not_mem_nil)
          have fh45_8 : h45 u2 = some ((decide (cap2 ≠ 0)), .inl ((.object "java/lang/Object"), cap2, f_23)) := k47.n fh44_8 (List.not_mem_cons_of_ne_of_not_mem (zneF le_23 fa43) List.not_mem_nil)
          have ph45_1 : sls h45 lys ls := sls.keep k47 ph44_1
          have ph45_2 : ycs h45 ys cs := ycs.keep k47 ph44_2
          have ph45_3 : ∀ q ∈ lys, zel h45 q := zels.keep k47 ph44_3
          have ph45_4 : ∀ q ∈ ys, zel h45 q := zels.keep k47 ph44_4
          show Z X h45 (4 * (T.length - p.toNat) + bLC cap1 202 + bLC cap2 41 + bC bcap 201 + 29 - 1) (31 * (T.length - p.toNat) + cur.length + bLS cap1 202 + bLS cap2 41 + bS bcap 201 + 60 - 7) [(3, .int (iI (tch T p))), (2, .ref a14), (1, .ref a1), (0, .ref r)] 79 [.ref a43]
          refine z_athrow (pc := 79) C rfl fq46 dX5_sheet_79 ?_
          exact zx_out C (fun x hx => nomatch hx) (by rw [hXp]; exact Or.inr ⟨_, rfl, p, (by rw [← hd0]; exact rsh_bad (by omega) (by omega)), fq46, na43, kh45⟩)
        · refine z_iload_n (pc := 50) (j := 0) C dX5_sheet_50 rfl rfl ?_
          refine z_bipush (pc := 51) C dX5_sheet_51 (by decide) ?_
          refine z_icmp_ne (pc := 53) (tgt := 80) C dX5_sheet_53 (by decide) (by omega) (by decide) (fun c53 => ?_) (fun c53 => ?_)
          · refine z_aload_n (pc := 80) (j := 3) C dX5_sheet_80 rfl rfl ?_
            refine z_dup (pc := 81) C dX5_sheet_81 rfl ?_
            refine z_getfield (pc := 82) (v := .int (iI p)) C in_X5 rfl 0 (by decide) q315 (fun _ z => z) hru rfl dX5_sheet_82 ?_
            refine z_iconst (pc := 85) C dX5_sheet_85 ?_
            refine z_iadd (pc := 86) C dX5_sheet_86 ?_
            refine z_putfield (pc := 87) (fs' := [.int (iI (p + 1)), .ref c]) C in_X5 tyX5 tyX5_ok nmX5 rfl 0 (by decide) q315 (fun _ z => z) rfl rfl rfl (Nat.le_of_ble_eq_true rfl) hru rfl dX5_sheet_87 ?_
            refine Z.nm (fun h48 eh48 => ?_)
            have kh48 : zkeep h h48 [r] := by rw [eh48]; exact zkeep.up hkp (Or.inl (by simp)) hru
            have fh48_0 : h48 r = some (true, .inr (4, [.int (iI (p + 1)), .ref c])) := zse eh48
            have fh48_1 : h48 a1 = some (true, .inr (1, [.ref lq_10, .ref cq_10, .ref a3])) := zsn eh48 hs1 (Ne.symm (zneF hr fa1))
            have fh48_2 : h48 a14 = some (true, .inr (12, [.ref v, .int (iI 0), .int z_21, .int (iI ((cur.length : Nat) : Int))])) := zsn eh48 hb_21 (Ne.symm (zneF fh8_1 fa14))
            have fh48_3 : h48 v = some (true, .inl (.byte, bcap, f_21)) := zsn eh48 hv_21 (Ne.symm (zneA hru hv_21))
            have fh48_4 : h48 lq_10 = some (true, .inr (10, [.int (iI m_22), .ref u1, .int (iI ((lys.length : Nat) : Int))])) := zsn eh48 la_22 (zneC la_22 hru (by decide))
            have fh48_5 : h48 u1 = some ((decide (cap1 ≠ 0)), .inl ((.object "java/lang/Object"), cap1, f_22)) := zsn eh48 le_22 (Ne.symm (zneA hru le_22))
            have fh48_6 : h48 cq_10 = some (true, .inr (10, [.int (iI m_23), .ref u2, .int (iI ((ys.length : Nat) : Int))])) := zsn eh48 la_23 (zneC la_23 hru (by decide))
            have fh48_7 : h48 u2 = some ((decide (cap2 ≠ 0)), .inl ((.object "java/lang/Object"), cap2, f_23)) := zsn eh48 le_23 (Ne.symm (zneA hru le_23))
            have sh48 : zkeep g h48 [r] := zkeep.one eh48 hru
            have ph48_1 : sls h48 lys ls := sls.keep sh48 hsl
            have ph48_2 : ycs h48 ys cs := ycs.keep sh48 hyc
            have ph48_3 : ∀ q ∈ lys, zel h48 q := zels.keep sh48 lq_22
            have ph48_4 : ∀ q ∈ ys, zel h48 q := zels.keep sh48 lq_23
            refine z_iload_n (pc := 90) (j := 0) C dX5_sheet_90 rfl rfl ?_
            refine z_bipush (pc := 91) C dX5_sheet_91 (by decide) ?_
            refine z_icmp_ne (pc := 93) (tgt := 124) C dX5_sheet_93 (by decide) (by omega) (by decide) (fun c93 => ?_) (fun c93 => by exfalso; omega)
            refine z_iload_n (pc := 124) (j := 0) C dX5_sheet_124 rfl rfl ?_
            refine z_bipush (pc := 125) C dX5_sheet_125 (by decide) ?_
            refine z_icmp_ne (pc := 127) (tgt := 150) C dX5_sheet_127 (by decide) (by omega) (by decide) (fun c127 => ?_) (fun c127 => ?_)
            · refine z_aload_n (pc := 150) (j := 1) C dX5_sheet_150 rfl rfl ?_
              refine z_iload_n (pc := 151) (j := 0) C dX5_sheet_151 rfl rfl ?_
              have hB152 := gC_b (cap := bcap) (n := cur.length + 1) (N := 201) (by omega)
              have hC152 := gS_b (cap := bcap) (n := cur.length + 1) (N := 201) (by omega)
              refine z_callV (pc := 152) (n := 1) (kc' := (4 * (T.length - p.toNat) + bLC cap1 202 + bLC cap2 41 + bC bcap 201 + 29 - gC bcap (cur.length + 1))) (ks' := (31 * (T.length - p.toNat) + cur.length + bLS cap1 202 + bLS cap2 41 + bS bcap 201 + 60 - gS bcap (cur.length + 1))) C (ct_B_appC C.t (bAt.mk rfl rfl fh48_2 fh48_3 hlen_21 hcap_21 hcon_21 hfit_21 hasc_21) (c := tch T p) (by omega) (by omega)) (lw_V q868 q869 q870 q82 q871) (by decide +kernel) ⟨by decide, by decide⟩ fh48_2 rfl rfl rfl (Nat.le_of_ble_eq_true rfl) dX5_sheet_152 (by omega) (by omega) (zrk fun w h49 hp => ?_) zrx
              obtain ⟨rfl, v50, hb51, hv52, k53⟩ := hp
              have dv50 : v50 ∈ ([r] : List Nat) ∨ h v50 = none := zmay hmv hv52 kh48
              have kh49 : zkeep h h49 [r] := zkeep.loc kh48 k53 (zall_cons (Or.inl (Or.symm (Or.inr na14))) (zall_cons (Or.inl (Or.symm hmv)) zall_nil))
              have fh49_1 : h49 a1 = some (true, .inr (1, [.ref lq_10, .ref cq_10, .ref a3])) := k53.n fh48_1 (List.not_mem_cons_of_ne_of_not_mem (zneF fs11 fa14) (List.not_mem_cons_of_ne_of_not_mem (zneA fh48_1 fh48_3) List.not_mem_nil))
              have fh49_2 : h49 lq_10 = some (true, .inr (10, [.int (iI m_22), .ref u1, .int (iI ((lys.length : Nat) : Int))])) := k53.n fh48_4 (List.not_mem_cons_of_ne_of_not_mem (zneF la_12 fa14) (List.not_mem_cons_of_ne_of_not_mem (zneA fh48_4 fh48_3) List.not_mem_nil))
              have fh49_3 : h49 u1 = some ((decide (cap1 ≠ 0)), .inl ((.object "java/lang/Object"), cap1, f_22)) := k53.n fh48_5 (List.not_mem_cons_of_ne_of_not_mem (Ne.symm (zneA fh48_2 fh48_5)) (List.not_mem_cons_of_ne_of_not_mem (zneT fh48_5 fh48_3 (by simp)) List.not_mem_nil))
              have fh49_4 : h49 cq_10 = some (true, .inr (10, [.int (iI m_23), .ref u2, .int (iI ((ys.length : Nat) : Int))])) := k53.n fh48_6 (List.not_mem_cons_of_ne_of_not_mem (zneF la_13 fa14) (List.not_mem_cons_of_ne_of_not_mem (zneA fh48_6 fh48_3) List.not_mem_nil))
              have fh49_5 : h49 u2 = some ((decide (cap2 ≠ 0)), .inl ((.object "java/lang/Object"), cap2, f_23)) := k53.n fh48_7 (List.not_mem_cons_of_ne_of_not_mem (Ne.symm (zneA fh48_2 fh48_7)) (List.not_mem_cons_of_ne_of_not_mem (zneT fh48_7 fh48_3 (by simp)) List.not_mem_nil))
              have fh49_6 : h49 r = some (true, .inr (4, [.int (iI (p + 1)), .ref c])) := k53.n fh48_0 (List.not_mem_cons_of_ne_of_not_mem (zneF fh8_1 fa14) (List.not_mem_cons_of_ne_of_not_mem (zneA fh48_0 fh48_3) List.not_mem_nil))
              have ph49_1 : sls h49 lys ls := sls.keep k53 ph48_1
              have ph49_2 : ycs h49 ys cs := ycs.keep k53 ph48_2
              have ph49_3 : ∀ q ∈ lys, zel h49 q := zels.keep k53 ph48_3
              have ph49_4 : ∀ q ∈ ys, zel h49 q := zels.keep k53 ph48_4
              have hx_54 := hb51
              obtain ⟨z_54, f_54, hb_54, hv_54, hlen_54, hcap_54, hcon_54, hfit_54, hasc_54⟩ := hx_54
              show Z X h49 (4 * (T.length - p.toNat) + bLC cap1 202 + bLC cap2 41 + bC bcap 201 + 29 - gC bcap (cur.length + 1)) (31 * (T.length - p.toNat) + cur.length + bLS cap1 202 + bLS cap2 41 + bS bcap 201 + 60 - gS bcap (cur.length + 1)) [(3, .int (iI (tch T p))), (2, .ref a14), (1, .ref a1), (0, .ref r)] 155 [.ref a14]
              refine z_pop (pc := 155) C dX5_sheet_155 rfl ?_
              refine z_goto (pc := 156) (tgt := 25) C dX5_sheet_156 (by decide) ?_
              refine Z.weak (L' := [(2, .ref a14), (1, .ref a1), (0, .ref r)]) (kc' := 4 * (T.length - (p + 1).toNat) + bLC cap1 202 + bLC cap2 41 + bC (gcap bcap (cur.length + 1)) 201 + 29) (ks' := 31 * (T.length - (p + 1).toNat) + (cur ++ [tch T p]).length + bLS cap1 202 + bLS cap2 41 + bS (gcap bcap (cur.length + 1)) 201 + 60) [1, 2, 3] rfl (by omega) (by first | omega | (simp only [List.length_append, List.length_cons, List.length_nil] at *; omega)) ?_
              exact ih25 _ (by omega) (p + 1) h49 lys ys ls cs (cur ++ [tch T p]) u1 cap1 u2 cap2 v50 (gcap bcap (cur.length + 1)) (by omega) kh49 fh49_6 fh49_1 (lAt.mk (cap := cap1) rfl rfl rfl fh49_2 fh49_3 lz_22 lt_22 ln_22 lc_22 lx_22 ph49_3) (lAt.mk (cap := cap2) rfl rfl rfl fh49_4 fh49_5 lz_23 lt_23 ln_23 lc_23 lx_23 ph49_4) hb51 ph49_1 ph49_2 hm1 hm2 dv50 hdj0 (hrv.le (by omega)) ⟨f1, by omega, by rw [← hd0]; exact (rsh_le (by omega) (by omega) (by omega) (by omega)).symm⟩ rfl
            · refine z_aload_n (pc := 130) (j := 2) C dX5_sheet_130 rfl rfl ?_
              refine z_getfieldN (pc := 131) (v := .ref lq_10) C in_X2 rfl 0 (by decide) q168 (fun _ z => z) fh48_1 rfl dX5_sheet_131 ?_
              refine z_aload_n (pc := 134) (j := 1) C dX5_sheet_134 rfl rfl ?_
              refine z_callV (pc := 135) (n := 0) (kc' := (4 * (T.length - p.toNat) + bLC cap1 202 + bLC cap2 41 + bC bcap 201 + 29 - 2)) (ks' := (31 * (T.length - p.toNat) + cur.length + bLS cap1 202 + bLS cap2 41 + bS bcap 201 + 60 - (cur.length + 4))) C (ct_B_toString C.t (bAt.mk rfl rfl fh48_2 fh48_3 hlen_21 hcap_21 hcon_21 hfit_21 hasc_21)) (lw_V q617 q618 q619 q82 q620) (by decide +kernel) ⟨by decide, by decide⟩ fh48_2 rfl rfl rfl (Nat.le_of_ble_eq_true rfl) dX5_sheet_135 (by omega) (by omega) (zrk fun w h56 hp => ?_) zrx
              obtain ⟨a55, rfl, hs58, fa55, k57⟩ := hp
              have na55 : h a55 = none := kh48.none0 fa55 (List.not_mem_cons_of_ne_of_not_mem (Ne.symm (zneF fh48_0 fa55)) List.not_mem_nil)
              have kh56 : zkeep h h56 [r] := zkeep.loc kh48 k57 zall_nil
              have fh56_1 : h56 a1 = some (true, .inr (1, [.ref lq_10, .ref cq_10, .ref a3])) := k57.n fh48_1 List.not_mem_nil
              have fh56_2 : h56 a14 = some (true, .inr (12, [.ref v, .int (iI 0), .int z_21, .int (iI ((cur.length : Nat) : Int))])) := k57.n fh48_2 List.not_mem_nil
              have fh56_3 : h56 v = some (true, .inl (.byte, bcap, f_21)) := k57.n fh48_3 List.not_mem_nil
              have fh56_4 : h56 lq_10 = some (true, .inr (10, [.int (iI m_22), .ref u1, .int (iI ((lys.length : Nat) : Int))])) := k57.n fh48_4 List.not_mem_nil
              have fh56_5 : h56 u1 = some ((decide (cap1 ≠ 0)), .inl ((.object "java/lang/Object"), cap1, f_22)) := k57.n fh48_5 List.not_mem_nil
              have fh56_6 : h56 cq_10 = some (true, .inr (10, [.int (iI m_23), .ref u2, .int (iI ((ys.length : Nat) : Int))])) := k57.n fh48_6 List.not_mem_nil
              have fh56_7 : h56 u2 = some ((decide (cap2 ≠ 0)), .inl ((.object "java/lang/Object"), cap2, f_23)) := k57.n fh48_7 List.not_mem_nil
              have fh56_8 : h56 r = some (true, .inr (4, [.int (iI (p + 1)), .ref c])) := k57.n fh48_0 List.not_mem_nil
              have ph56_1 : sls h56 lys ls := sls.keep k57 ph48_1
              have ph56_2 : ycs h56 ys cs := ycs.keep k57 ph48_2
              have ph56_3 : ∀ q ∈ lys, zel h56 q := zels.keep k57 ph48_3
              have ph56_4 : ∀ q ∈ ys, zel h56 q := zels.keep k57 ph48_4
              show Z X h56 (4 * (T.length - p.toNat) + bLC cap1 202 + bLC cap2 41 + bC bcap 201 + 29 - 2) (31 * (T.length - p.toNat) + cur.length + bLS cap1 202 + bLS cap2 41 + bS bcap 201 + 60 - (cur.length + 4)) [(3, .int (iI (tch T p))), (2, .ref a14), (1, .ref a1), (0, .ref r)] 138 [.ref a55, .ref lq_10]
              obtain ⟨hl_59, v_59, x_59, y_59, g_59, h1_59, h2_59, h3_59, h4_59⟩ := id (hs58)
              have h1_59 : h56 (a55) = some (false, .inr (13, [.ref v_59, .int (iI 0), .int x_59, .int y_59])) := h1_59
              have pa_60 := (lAt.mk (cap := cap1) rfl rfl rfl fh56_4 fh56_5 lz_22 lt_22 ln_22 lc_22 lx_22 ph56_3)
              have pb_60 := (lAt.mk (cap := cap2) rfl rfl rfl fh56_6 fh56_7 lz_23 lt_23 ln_23 lc_23 lx_23 ph56_4)
              have hB_60 := lC_b (cap := cap1) (n := lys.length + 1) (N := 202) (by omega) lt_22
              have hC_60 := lS_b (cap := cap1) (n := lys.length + 1) (N := 202) (by omega) lt_22
              refine z_callV (pc := 138) (n := 1) (kc' := ((4 * (T.length - p.toNat) + bLC cap1 202 + bLC cap2 41 + bC bcap 201 + 29 - 2) - lC cap1 (lys.length + 1))) (ks' := ((31 * (T.length - p.toNat) + cur.length + bLS cap1 202 + bLS cap2 41 + bS bcap 201 + 60 - (cur.length + 4)) - lS cap1 (lys.length + 1))) C (ct_L_add C.t (lAt.mk (cap := cap1) rfl rfl rfl fh56_4 fh56_5 lz_22 lt_22 ln_22 lc_22 lx_22 ph56_3) h1_59 rfl q2509 (by first | omega | (simp; omega))) (lw_V q616 q204 q205 q68 q206) (by decide +kernel) ⟨by decide, by decide⟩ fh56_4 rfl rfl rfl (Nat.le_of_ble_eq_true rfl) dX5_sheet_138 (by omega) (by omega) (zrk fun w h61 hp => ?_) zrx
              obtain ⟨rfl, e62, hl63, he64, k65⟩ := hp
              have de62 : e62 ∈ ([r] : List Nat) ∨ h e62 = none := zmayL hm1 (lAt.mk (cap := cap1) rfl rfl rfl fh56_4 fh56_5 lz_22 lt_22 ln_22 lc_22 lx_22 ph56_3) hl63 (by have := lcap_ge (cap := cap1) (n := lys.length + 1); omega) he64 kh56 k65
              have ge62 : e62 = u1 ∨ h e62 = none := he64.imp_right (fun z => kh56.none0 z (List.not_mem_cons_of_ne_of_not_mem (Ne.symm (zneF fh56_8 z)) List.not_mem_nil))
              have kh61 : zkeep h h61 [r] := zkeep.loc kh56 k65 (zall_cons (Or.inl (Or.symm (Or.inr nlq_10))) (zall_cons (lAt.fz (lAt.mk (cap := cap1) rfl rfl rfl fh56_4 fh56_5 lz_22 lt_22 ln_22 lc_22 lx_22 ph56_3) hm1) zall_nil))
              have fh61_1 : h61 a1 = some (true, .inr (1, [.ref lq_10, .ref cq_10, .ref a3])) := k65.n fh56_1 (List.not_mem_cons_of_ne_of_not_mem (zneC fh56_1 fh56_4 (by decide)) (List.not_mem_cons_of_ne_of_not_mem (zneA fh56_1 fh56_5) List.not_mem_nil))
              have fh61_2 : h61 a14 = some (true, .inr (12, [.ref v, .int (iI 0), .int z_21, .int (iI ((cur.length : Nat) : Int))])) := k65.n fh56_2 (List.not_mem_cons_of_ne_of_not_mem (Ne.symm (zneF la_12 fa14)) (List.not_mem_cons_of_ne_of_not_mem (zneA fh56_2 fh56_5) List.not_mem_nil))
              have fh61_3 : h61 v = some (true, .inl (.byte, bcap, f_21)) := k65.n fh56_3 (List.not_mem_cons_of_ne_of_not_mem (Ne.symm (zneA fh56_4 fh56_3)) (List.not_mem_cons_of_ne_of_not_mem (zneT fh56_3 fh56_5 (by simp)) List.not_mem_nil))
              have fh61_4 : h61 cq_10 = some (true, .inr (10, [.int (iI m_23), .ref u2, .int (iI ((ys.length : Nat) : Int))])) := k65.n fh56_6 (List.not_mem_cons_of_ne_of_not_mem (Ne.symm hne_10) (List.not_mem_cons_of_ne_of_not_mem (zneA fh56_6 fh56_5) List.not_mem_nil))
              have fh61_5 : h61 u2 = some ((decide (cap2 ≠ 0)), .inl ((.object "java/lang/Object"), cap2, f_23)) := k65.n fh56_7 (List.not_mem_cons_of_ne_of_not_mem (Ne.symm (zneA fh56_4 fh56_7)) (List.not_mem_cons_of_ne_of_not_mem (Ne.symm hneA) List.not_mem_nil))
              have fh61_6 : h61 r = some (true, .inr (4, [.int (iI (p + 1)), .ref c])) := k65.n fh56_8 (List.not_mem_cons_of_ne_of_not_mem (zneC fh56_8 fh56_4 (by decide)) (List.not_mem_cons_of_ne_of_not_mem (zneA fh56_8 fh56_5) List.not_mem_nil))
              have fh61_7 : h61 a55 = some (false, .inr (13, [.ref v_59, .int (iI 0), .int x_59, .int y_59])) := k65.f h1_59
              have fh61_8 : h61 v_59 = some (false, .inl (.byte, cur.length, g_59)) := k65.f h2_59
              have ph61_1 : sls h61 lys ls := sls.keep k65 ph56_1
              have ph61_2 : ycs h61 ys cs := ycs.keep k65 ph56_2
              have ph61_3 : ∀ q ∈ lys, zel h61 q := zels.keep k65 ph56_3
              have ph61_4 : ∀ q ∈ ys, zel h61 q := zels.keep k65 ph56_4
              have ph61_5 : sAt h61 a55 cur := sAt.keep k65 hs58
              show Z X h61 ((4 * (T.length - p.toNat) + bLC cap1 202 + bLC cap2 41 + bC bcap 201 + 29 - 2) - lC cap1 (lys.length + 1)) ((31 * (T.length - p.toNat) + cur.length + bLS cap1 202 + bLS cap2 41 + bS bcap 201 + 60 - (cur.length + 4)) - lS cap1 (lys.length + 1)) [(3, .int (iI (tch T p))), (2, .ref a14), (1, .ref a1), (0, .ref r)] 141 [.int (iI 1)]
              have hdj_60 := lsep pa_60 pb_60 hdj0 he64 hl63 k65
              have hdk_60 : e62 ≠ u2 := hdj_60.resolve_right (fun z => by have := lcap_ge (cap := cap1) (n := lys.length + 1); have := z.1; omega)
              have hx_66 := hl63
              obtain ⟨m_66, f_66, la_66, le_66, lz_66, lt_66, ln_66, lc_66, lx_66, lq_66⟩ := hx_66
              have hsl_67 := (ph61_1).app ph61_5
              refine z_pop (pc := 141) C dX5_sheet_141 rfl ?_
              refine z_aload_n (pc := 142) (j := 1) C dX5_sheet_142 rfl rfl ?_
              refine z_iconst (pc := 143) C dX5_sheet_143 ?_
              refine z_callV (pc := 144) (n := 1) (kc' := ((4 * (T.length - p.toNat) + bLC cap1 202 + bLC cap2 41 + bC bcap 201 + 29 - 2) - lC cap1 (lys.length + 1))) (ks' := ((31 * (T.length - p.toNat) + cur.length + bLS cap1 202 + bLS cap2 41 + bS bcap 201 + 60 - (cur.length + 4)) - lS cap1 (lys.length + 1))) C (ct_B_setLen C.t (bAt.mk rfl rfl fh61_2 fh61_3 hlen_21 hcap_21 hcon_21 hfit_21 hasc_21)) (lw_V q800 q801 q802 q82 q803) (by decide +kernel) ⟨by decide, by decide⟩ fh61_2 rfl rfl rfl (Nat.le_of_ble_eq_true rfl) dX5_sheet_144 (by omega) (by omega) (zrk fun w h68 hp => ?_) zrx
              obtain ⟨rfl, hb69, k70⟩ := hp
              have kh68 : zkeep h h68 [r] := zkeep.loc kh61 k70 (zall_cons (Or.inl (Or.symm (Or.inr na14))) zall_nil)
              have fh68_1 : h68 a1 = some (true, .inr (1, [.ref lq_10, .ref cq_10, .ref a3])) := k70.n fh61_1 (List.not_mem_cons_of_ne_of_not_mem (zneF fs11 fa14) List.not_mem_nil)
              have fh68_2 : h68 v = some (true, .inl (.byte, bcap, f_21)) := k70.n fh61_3 (List.not_mem_cons_of_ne_of_not_mem (Ne.symm (zneA fh61_2 fh61_3)) List.not_mem_nil)
              have fh68_3 : h68 cq_10 = some (true, .inr (10, [.int (iI m_23), .ref u2, .int (iI ((ys.length : Nat) : Int))])) := k70.n fh61_4 (List.not_mem_cons_of_ne_of_not_mem (zneF la_13 fa14) List.not_mem_nil)
              have fh68_4 : h68 u2 = some ((decide (cap2 ≠ 0)), .inl ((.object "java/lang/Object"), cap2, f_23)) := k70.n fh61_5 (List.not_mem_cons_of_ne_of_not_mem (Ne.symm (zneA fh61_2 fh61_5)) List.not_mem_nil)
              have fh68_5 : h68 r = some (true, .inr (4, [.int (iI (p + 1)), .ref c])) := k70.n fh61_6 (List.not_mem_cons_of_ne_of_not_mem (zneF fh8_1 fa14) List.not_mem_nil)
              have fh68_6 : h68 a55 = some (false, .inr (13, [.ref v_59, .int (iI 0), .int x_59, .int y_59])) := k70.f fh61_7
              have fh68_7 : h68 v_59 = some (false, .inl (.byte, cur.length, g_59)) := k70.f fh61_8
              have fh68_8 : h68 lq_10 = some (true, .inr (10, [.int (iI m_66), .ref e62, .int (iI (((lys ++ [a55]).length : Nat) : Int))])) := k70.n la_66 (List.not_mem_cons_of_ne_of_not_mem (zneF la_12 fa14) List.not_mem_nil)
              have fh68_9 : h68 e62 = some ((decide (lcap cap1 (lys.length + 1) ≠ 0)), .inl ((.object "java/lang/Object"), lcap cap1 (lys.length + 1), f_66)) := k70.n le_66 (List.not_mem_cons_of_ne_of_not_mem (Ne.symm (zneA fh61_2 le_66)) List.not_mem_nil)
              have ph68_1 : sls h68 (lys ++ [a55]) (ls ++ [cur]) := sls.keep k70 hsl_67
              have ph68_2 : ycs h68 ys cs := ycs.keep k70 ph61_2
              have ph68_3 : ∀ q ∈ lys ++ [a55], zel h68 q := zels.keep k70 lq_66
              have ph68_4 : ∀ q ∈ ys, zel h68 q := zels.keep k70 ph61_4
              have ph68_5 : sAt h68 a55 cur := sAt.keep k70 ph61_5
              have hx_71 := hb69
              obtain ⟨z_71, f_71, hb_71, hv_71, hlen_71, hcap_71, hcon_71, hfit_71, hasc_71⟩ := hx_71
              show Z X h68 ((4 * (T.length - p.toNat) + bLC cap1 202 + bLC cap2 41 + bC bcap 201 + 29 - 2) - lC cap1 (lys.length + 1)) ((31 * (T.length - p.toNat) + cur.length + bLS cap1 202 + bLS cap2 41 + bS bcap 201 + 60 - (cur.length + 4)) - lS cap1 (lys.length + 1)) [(3, .int (iI (tch T p))), (2, .ref a14), (1, .ref a1), (0, .ref r)] 147 []
              refine z_goto (pc := 147) (tgt := 156) C dX5_sheet_147 (by decide) ?_
              refine z_goto (pc := 156) (tgt := 25) C dX5_sheet_156 (by decide) ?_
              refine Z.weak (L' := [(2, .ref a14), (1, .ref a1), (0, .ref r)]) (kc' := 4 * (T.length - (p + 1).toNat) + bLC (lcap cap1 (lys.length + 1)) 202 + bLC cap2 41 + bC bcap 201 + 29) (ks' := 31 * (T.length - (p + 1).toNat) + ([]).length + bLS (lcap cap1 (lys.length + 1)) 202 + bLS cap2 41 + bS bcap 201 + 60) [1, 2, 3] rfl (by omega) (by first | omega | (simp only [List.length_append, List.length_cons, List.length_nil] at *; omega)) ?_
              exact ih25 _ (by omega) (p + 1) h68 (lys ++ [a55]) ys (ls ++ [cur]) cs ([]) e62 (lcap cap1 (lys.length + 1)) u2 cap2 v bcap (by omega) kh68 fh68_5 fh68_1 (lAt.mk (cap := lcap cap1 (lys.length + 1)) rfl rfl rfl fh68_8 fh68_9 lz_66 lt_66 ln_66 lc_66 lx_66 ph68_3) (lAt.mk (cap := cap2) rfl rfl rfl fh68_3 fh68_4 lz_23 lt_23 ln_23 lc_23 lx_23 ph68_4) hb69 ph68_1 ph68_2 (Or.inl de62) hm2 hmv hdj_60 (hrv.sl (by omega)) ⟨f1, by omega, by rw [← hd0]; exact (rsh_sl (by omega) (by omega) (by omega) (by omega)).symm⟩ rfl
          · refine z_aload_n (pc := 56) (j := 2) C dX5_sheet_56 rfl rfl ?_
            refine z_getfieldN (pc := 57) (v := .ref cq_10) C in_X2 rfl 1 (by decide) q171 (fun _ z => z) hs1 rfl dX5_sheet_57 ?_
            refine z_callV (pc := 60) (n := 0) (kc' := (4 * (T.length - p.toNat) + bLC cap1 202 + bLC cap2 41 + bC bcap 201 + 29)) (ks' := (31 * (T.length - p.toNat) + cur.length + bLS cap1 202 + bLS cap2 41 + bS bcap 201 + 60)) C (ct_L_size C.t la_23) (lw_V q366 q367 q368 q68 q369) (by decide +kernel) ⟨by decide, by decide⟩ la_23 rfl rfl rfl (Nat.le_of_ble_eq_true rfl) dX5_sheet_60 (by omega) (by omega) (zpk (st' := [.int (iI ((ys.length : Nat) : Int))]) rfl ?_) zrx
            refine z_bipush (pc := 63) C dX5_sheet_63 (by decide) ?_
            refine z_icmp_ne (pc := 65) (tgt := 80) C dX5_sheet_65 (by decide) (by omega) (by decide) (fun c65 => ?_) (fun c65 => ?_)
            · refine z_aload_n (pc := 80) (j := 3) C dX5_sheet_80 rfl rfl ?_
              refine z_dup (pc := 81) C dX5_sheet_81 rfl ?_
              refine z_getfield (pc := 82) (v := .int (iI p)) C in_X5 rfl 0 (by decide) q315 (fun _ z => z) hru rfl dX5_sheet_82 ?_
              refine z_iconst (pc := 85) C dX5_sheet_85 ?_
              refine z_iadd (pc := 86) C dX5_sheet_86 ?_
              refine z_putfield (pc := 87) (fs' := [.int (iI (p + 1)), .ref c]) C in_X5 tyX5 tyX5_ok nmX5 rfl 0 (by decide) q315 (fun _ z => z) rfl rfl rfl (Nat.le_of_ble_eq_true rfl) hru rfl dX5_sheet_87 ?_
              refine Z.nm (fun h72 eh72 => ?_)
              have kh72 : zkeep h h72 [r] := by rw [eh72]; exact zkeep.up hkp (Or.inl (by simp)) hru
              have fh72_0 : h72 r = some (true, .inr (4, [.int (iI (p + 1)), .ref c])) := zse eh72
              have fh72_1 : h72 a1 = some (true, .inr (1, [.ref lq_10, .ref cq_10, .ref a3])) := zsn eh72 hs1 (Ne.symm (zneF hr fa1))
              have fh72_2 : h72 a14 = some (true, .inr (12, [.ref v, .int (iI 0), .int z_21, .int (iI ((cur.length : Nat) : Int))])) := zsn eh72 hb_21 (Ne.symm (zneF fh8_1 fa14))
              have fh72_3 : h72 v = some (true, .inl (.byte, bcap, f_21)) := zsn eh72 hv_21 (Ne.symm (zneA hru hv_21))
              have fh72_4 : h72 lq_10 = some (true, .inr (10, [.int (iI m_22), .ref u1, .int (iI ((lys.length : Nat) : Int))])) := zsn eh72 la_22 (zneC la_22 hru (by decide))
              have fh72_5 : h72 u1 = some ((decide (cap1 ≠ 0)), .inl ((.object "java/lang/Object"), cap1, f_22)) := zsn eh72 le_22 (Ne.symm (zneA hru le_22))
              have fh72_6 : h72 cq_10 = some (true, .inr (10, [.int (iI m_23), .ref u2, .int (iI ((ys.length : Nat) : Int))])) := zsn eh72 la_23 (zneC la_23 hru (by decide))
              have fh72_7 : h72 u2 = some ((decide (cap2 ≠ 0)), .inl ((.object "java/lang/Object"), cap2, f_23)) := zsn eh72 le_23 (Ne.symm (zneA hru le_23))
              have sh72 : zkeep g h72 [r] := zkeep.one eh72 hru
              have ph72_1 : sls h72 lys ls := sls.keep sh72 hsl
              have ph72_2 : ycs h72 ys cs := ycs.keep sh72 hyc
              have ph72_3 : ∀ q ∈ lys, zel h72 q := zels.keep sh72 lq_22
              have ph72_4 : ∀ q ∈ ys, zel h72 q := zels.keep sh72 lq_23
              refine z_iload_n (pc := 90) (j := 0) C dX5_sheet_90 rfl rfl ?_
              refine z_bipush (pc := 91) C dX5_sheet_91 (by decide) ?_
              refine z_icmp_ne (pc := 93) (tgt := 124) C dX5_sheet_93 (by decide) (by omega) (by decide) (fun c93 => by exfalso; omega) (fun c93 => ?_)
              refine z_aload_n (pc := 96) (j := 2) C dX5_sheet_96 rfl rfl ?_
              refine z_getfieldN (pc := 97) (v := .ref cq_10) C in_X2 rfl 1 (by decide) q171 (fun _ z => z) fh72_1 rfl dX5_sheet_97 ?_
              refine z_aload_n (pc := 100) (j := 3) C dX5_sheet_100 rfl rfl ?_
              refine z_aload_n (pc := 101) (j := 2) C dX5_sheet_101 rfl rfl ?_
              refine z_getfieldN (pc := 102) (v := .ref lq_10) C in_X2 rfl 0 (by decide) q168 (fun _ z => z) fh72_1 rfl dX5_sheet_102 ?_
              refine z_callV (pc := 105) (n := 0) (kc' := (4 * (T.length - p.toNat) + bLC cap1 202 + bLC cap2 41 + bC bcap 201 + 29)) (ks' := (31 * (T.length - p.toNat) + cur.length + bLS cap1 202 + bLS cap2 41 + bS bcap 201 + 60)) C (ct_L_size C.t fh72_4) (lw_V q366 q367 q368 q68 q369) (by decide +kernel) ⟨by decide, by decide⟩ fh72_4 rfl rfl rfl (Nat.le_of_ble_eq_true rfl) dX5_sheet_105 (by omega) (by omega) (zpk (st' := [.int (iI ((lys.length : Nat) : Int)), .ref r, .ref cq_10]) rfl ?_) zrx
              rw [show ((((lys.length : Nat) : Int)) : Int) = ((ls.length : Nat) : Int) from by rw [hll]]
              show Z X h72 (4 * (T.length - p.toNat) + bLC cap1 202 + bLC cap2 41 + bC bcap 201 + 29) (31 * (T.length - p.toNat) + cur.length + bLS cap1 202 + bLS cap2 41 + bS bcap 201 + 60) [(3, .int (iI (tch T p))), (2, .ref a14), (1, .ref a1), (0, .ref r)] 108 [.int (iI ((ls.length : Nat) : Int)), .ref r, .ref cq_10]
              refine z_aload_n (pc := 108) (j := 1) C dX5_sheet_108 rfl rfl ?_
              refine z_callV (pc := 109) (n := 0) (kc' := (4 * (T.length - p.toNat) + bLC cap1 202 + bLC cap2 41 + bC bcap 201 + 29)) (ks' := (31 * (T.length - p.toNat) + cur.length + bLS cap1 202 + bLS cap2 41 + bS bcap 201 + 60)) C (ct_B_length (cap := 0) (f := fun _ => .null) C.t fh72_2) (lw_V q438 q439 q440 q82 q441) (by decide +kernel) ⟨by decide, by decide⟩ fh72_2 rfl rfl rfl (Nat.le_of_ble_eq_true rfl) dX5_sheet_109 (by omega) (by omega) (zpk (st' := [.int (iI ((cur.length : Nat) : Int)), .int (iI ((ls.length : Nat) : Int)), .ref r, .ref cq_10]) rfl ?_) zrx
              refine z_bipush (pc := 112) C dX5_sheet_112 (by decide) ?_
              refine z_callV (pc := 114) (n := 3) (kc' := (4 * (T.length - p.toNat) + bLC cap1 202 + bLC cap2 41 + bC bcap 201 + 29 - 4)) (ks' := (31 * (T.length - p.toNat) + cur.length + bLS cap1 202 + bLS cap2 41 + bS bcap 201 + 60 - 28)) C (ct_R_chord C.t (p := p + 1) fh72_0 (kh72.n hc0 (List.not_mem_cons_of_ne_of_not_mem (zneC hc0 hr (by decide)) List.not_mem_nil)) (kh72.n htx (List.not_mem_cons_of_ne_of_not_mem (Ne.symm (zneA hr htx)) List.not_mem_nil)) hch rtx rtl (by omega) (ln := ((ls.length : Nat) : Int)) (co := ((cur.length : Nat) : Int)) (e := 93) (by omega)) (lw_V q445 q446 q447 q80 q448) (by decide +kernel) ⟨by decide, by decide⟩ fh72_0 rfl rfl rfl (Nat.le_of_ble_eq_true rfl) dX5_sheet_114 (by omega) (by omega) (zbk fun w h73 hp => ?_) (zbx fun q75 h74 hp => ?_)
              · obtain ⟨rt_76, q_76, b_76, p_76, a_76, hcp_76, rfl, fk_76, fa_76, hr_76, k77⟩ := hp
                have na_76 : h a_76 = none := kh72.none0 fa_76 (List.not_mem_cons_of_ne_of_not_mem (Ne.symm (zneF fh72_0 fa_76)) List.not_mem_nil)
                have kh73 : zkeep h h73 [r] := zkeep.loc kh72 k77 (zall_cons (Or.inl (Or.symm (Or.inl (by simp)))) zall_nil)
                have fh73_1 : h73 a1 = some (true, .inr (1, [.ref lq_10, .ref cq_10, .ref a3])) := k77.n fh72_1 (List.not_mem_cons_of_ne_of_not_mem (Ne.symm (zneF hr fa1)) List.not_mem_nil)
                have fh73_2 : h73 a14 = some (true, .inr (12, [.ref v, .int (iI 0), .int z_21, .int (iI ((cur.length : Nat) : Int))])) := k77.n fh72_2 (List.not_mem_cons_of_ne_of_not_mem (Ne.symm (zneF fh8_1 fa14)) List.not_mem_nil)
                have fh73_3 : h73 v = some (true, .inl (.byte, bcap, f_21)) := k77.n fh72_3 (List.not_mem_cons_of_ne_of_not_mem (Ne.symm (zneA fh72_0 fh72_3)) List.not_mem_nil)
                have fh73_4 : h73 lq_10 = some (true, .inr (10, [.int (iI m_22), .ref u1, .int (iI ((lys.length : Nat) : Int))])) := k77.n fh72_4 (List.not_mem_cons_of_ne_of_not_mem (zneC fh72_4 fh72_0 (by decide)) List.not_mem_nil)
                have fh73_5 : h73 u1 = some ((decide (cap1 ≠ 0)), .inl ((.object "java/lang/Object"), cap1, f_22)) := k77.n fh72_5 (List.not_mem_cons_of_ne_of_not_mem (Ne.symm (zneA fh72_0 fh72_5)) List.not_mem_nil)
                have fh73_6 : h73 cq_10 = some (true, .inr (10, [.int (iI m_23), .ref u2, .int (iI ((ys.length : Nat) : Int))])) := k77.n fh72_6 (List.not_mem_cons_of_ne_of_not_mem (zneC fh72_6 fh72_0 (by decide)) List.not_mem_nil)
                have fh73_7 : h73 u2 = some ((decide (cap2 ≠ 0)), .inl ((.object "java/lang/Object"), cap2, f_23)) := k77.n fh72_7 (List.not_mem_cons_of_ne_of_not_mem (Ne.symm (zneA fh72_0 fh72_7)) List.not_mem_nil)
                have ph73_1 : sls h73 lys ls := sls.keep k77 ph72_1
                have ph73_2 : ycs h73 ys cs := ycs.keep k77 ph72_2
                have ph73_3 : ∀ q ∈ lys, zel h73 q := zels.keep k77 ph72_3
                have ph73_4 : ∀ q ∈ ys, zel h73 q := zels.keep k77 ph72_4
                show Z X h73 (4 * (T.length - p.toNat) + bLC cap1 202 + bLC cap2 41 + bC bcap 201 + 29 - 4) (31 * (T.length - p.toNat) + cur.length + bLS cap1 202 + bLS cap2 41 + bS bcap 201 + 60 - 28) [(3, .int (iI (tch T p))), (2, .ref a14), (1, .ref a1), (0, .ref r)] 117 [.ref a_76, .ref cq_10]
                have hcr_76 := chp_r (by omega) hcp_76
                have hcu_76 := chp_u (by decide) hcp_76
                have pa_78 := (lAt.mk (cap := cap2) rfl rfl rfl fh73_6 fh73_7 lz_23 lt_23 ln_23 lc_23 lx_23 ph73_4)
                have pb_78 := (lAt.mk (cap := cap1) rfl rfl rfl fh73_4 fh73_5 lz_22 lt_22 ln_22 lc_22 lx_22 ph73_3)
                have hB_78 := lC_b (cap := cap2) (n := ys.length + 1) (N := 41) (by omega) lt_23
                have hC_78 := lS_b (cap := cap2) (n := ys.length + 1) (N := 41) (by omega) lt_23
                refine z_callV (pc := 117) (n := 1) (kc' := ((4 * (T.length - p.toNat) + bLC cap1 202 + bLC cap2 41 + bC bcap 201 + 29 - 4) - lC cap2 (ys.length + 1))) (ks' := ((31 * (T.length - p.toNat) + cur.length + bLS cap1 202 + bLS cap2 41 + bS bcap 201 + 60 - 28) - lS cap2 (ys.length + 1))) C (ct_L_add C.t (lAt.mk (cap := cap2) rfl rfl rfl fh73_6 fh73_7 lz_23 lt_23 ln_23 lc_23 lx_23 ph73_4) fk_76 rfl q2508 (by first | omega | (simp; omega))) (lw_V q616 q204 q205 q68 q206) (by decide +kernel) ⟨by decide, by decide⟩ fh73_6 rfl rfl rfl (Nat.le_of_ble_eq_true rfl) dX5_sheet_117 (by omega) (by omega) (zrk fun w h79 hp => ?_) zrx
                obtain ⟨rfl, e80, hl81, he82, k83⟩ := hp
                have de80 : e80 ∈ ([r] : List Nat) ∨ h e80 = none := zmayL hm2 (lAt.mk (cap := cap2) rfl rfl rfl fh73_6 fh73_7 lz_23 lt_23 ln_23 lc_23 lx_23 ph73_4) hl81 (by have := lcap_ge (cap := cap2) (n := ys.length + 1); omega) he82 kh73 k83
                have ge80 : e80 = u2 ∨ h e80 = none := he82.imp_right (fun z => kh73.none0 z (List.not_mem_cons_of_ne_of_not_mem (Ne.symm (zneF hr_76 z)) List.not_mem_nil))
                have kh79 : zkeep h h79 [r] := zkeep.loc kh73 k83 (zall_cons (Or.inl (Or.symm (Or.inr ncq_10))) (zall_cons (lAt.fz (lAt.mk (cap := cap2) rfl rfl rfl fh73_6 fh73_7 lz_23 lt_23 ln_23 lc_23 lx_23 ph73_4) hm2) zall_nil))
                have fh79_1 : h79 a1 = some (true, .inr (1, [.ref lq_10, .ref cq_10, .ref a3])) := k83.n fh73_1 (List.not_mem_cons_of_ne_of_not_mem (zneC fh73_1 fh73_6 (by decide)) (List.not_mem_cons_of_ne_of_not_mem (zneA fh73_1 fh73_7) List.not_mem_nil))
                have fh79_2 : h79 a14 = some (true, .inr (12, [.ref v, .int (iI 0), .int z_21, .int (iI ((cur.length : Nat) : Int))])) := k83.n fh73_2 (List.not_mem_cons_of_ne_of_not_mem (Ne.symm (zneF la_13 fa14)) (List.not_mem_cons_of_ne_of_not_mem (zneA fh73_2 fh73_7) List.not_mem_nil))
                have fh79_3 : h79 v = some (true, .inl (.byte, bcap, f_21)) := k83.n fh73_3 (List.not_mem_cons_of_ne_of_not_mem (Ne.symm (zneA fh73_6 fh73_3)) (List.not_mem_cons_of_ne_of_not_mem (zneT fh73_3 fh73_7 (by simp)) List.not_mem_nil))
                have fh79_4 : h79 lq_10 = some (true, .inr (10, [.int (iI m_22), .ref u1, .int (iI ((lys.length : Nat) : Int))])) := k83.n fh73_4 (List.not_mem_cons_of_ne_of_not_mem hne_10 (List.not_mem_cons_of_ne_of_not_mem (zneA fh73_4 fh73_7) List.not_mem_nil))
                have fh79_5 : h79 u1 = some ((decide (cap1 ≠ 0)), .inl ((.object "java/lang/Object"), cap1, f_22)) := k83.n fh73_5 (List.not_mem_cons_of_ne_of_not_mem (Ne.symm (zneA fh73_6 fh73_5)) (List.not_mem_cons_of_ne_of_not_mem hneA List.not_mem_nil))
                have fh79_6 : h79 r = some (true, .inr (4, [.int (iI p_76), .ref c])) := k83.n hr_76 (List.not_mem_cons_of_ne_of_not_mem (zneC hr_76 fh73_6 (by decide)) (List.not_mem_cons_of_ne_of_not_mem (zneA hr_76 fh73_7) List.not_mem_nil))
                have fh79_7 : h79 a_76 = some (false, .inr (6, [.int (iI ((ls.length : Nat) : Int)), .int (iI ((cur.length : Nat) : Int)), .int (iI rt_76), .int (iI q_76), .int (iI b_76)])) := k83.f fk_76
                have ph79_1 : sls h79 lys ls := sls.keep k83 ph73_1
                have ph79_2 : ycs h79 ys cs := ycs.keep k83 ph73_2
                have ph79_3 : ∀ q ∈ lys, zel h79 q := zels.keep k83 ph73_3
                have ph79_4 : ∀ q ∈ ys, zel h79 q := zels.keep k83 ph73_4
                show Z X h79 ((4 * (T.length - p.toNat) + bLC cap1 202 + bLC cap2 41 + bC bcap 201 + 29 - 4) - lC cap2 (ys.length + 1)) ((31 * (T.length - p.toNat) + cur.length + bLS cap1 202 + bLS cap2 41 + bS bcap 201 + 60 - 28) - lS cap2 (ys.length + 1)) [(3, .int (iI (tch T p))), (2, .ref a14), (1, .ref a1), (0, .ref r)] 120 [.int (iI 1)]
                have hdj_78 := (lsep pa_78 pb_78 ((hdj0).imp Ne.symm And.symm) he82 hl81 k83).imp Ne.symm And.symm
                have hdk_78 : e80 ≠ u1 := (hdj_78.imp Ne.symm And.symm).resolve_right (fun z => by have := lcap_ge (cap := cap2) (n := ys.length + 1); have := z.1; omega)
                have hx_84 := hl81
                obtain ⟨m_84, f_84, la_84, le_84, lz_84, lt_84, ln_84, lc_84, lx_84, lq_84⟩ := hx_84
                have hyc2 := (ph79_2).app (c := ((((ls.length : Nat) : Int), ((cur.length : Nat) : Int), rt_76, q_76, b_76) : zCh)) fh79_7
                refine z_pop (pc := 120) C dX5_sheet_120 rfl ?_
                refine z_goto (pc := 121) (tgt := 156) C dX5_sheet_121 (by decide) ?_
                refine z_goto (pc := 156) (tgt := 25) C dX5_sheet_156 (by decide) ?_
                refine Z.weak (L' := [(2, .ref a14), (1, .ref a1), (0, .ref r)]) (kc' := 4 * (T.length - p_76.toNat) + bLC cap1 202 + bLC (lcap cap2 (ys.length + 1)) 41 + bC bcap 201 + 29) (ks' := 31 * (T.length - p_76.toNat) + cur.length + bLS cap1 202 + bLS (lcap cap2 (ys.length + 1)) 41 + bS bcap 201 + 60) [1, 2, 3] rfl (by omega) (by first | omega | (simp only [List.length_append, List.length_cons, List.length_nil] at *; omega)) ?_
                exact ih25 _ (by omega) p_76 h79 lys (ys ++ [a_76]) ls (cs ++ [((((ls.length : Nat) : Int), ((cur.length : Nat) : Int), rt_76, q_76, b_76) : zCh)]) cur u1 cap1 e80 (lcap cap2 (ys.length + 1)) v bcap (by omega) kh79 fh79_6 fh79_1 (lAt.mk (cap := cap1) rfl rfl rfl fh79_4 fh79_5 lz_22 lt_22 ln_22 lc_22 lx_22 ph79_3) hl81 (bAt.mk rfl rfl fh79_2 fh79_3 hlen_21 hcap_21 hcon_21 hfit_21 hasc_21) ph79_1 hyc2 hm1 (Or.inl de80) hmv hdj_78 (hrv.ch (by omega) (by omega) ⟨hcr_76.1, hcr_76.2.1, hcr_76.2.2.1⟩) ⟨f1, by omega, by rw [← hd0]; exact (rsh_co (by omega) (by omega) (by omega) hcp_76).symm⟩ rfl
              · obtain ⟨x_85, hcp_85, hte_85, fq75, k86⟩ := hp
                have nq75 : h q75 = none := kh72.none0 fq75 (List.not_mem_cons_of_ne_of_not_mem (Ne.symm (zneF fh72_0 fq75)) List.not_mem_nil)
                have kh74 : zkeep h h74 [r] := zkeep.loc kh72 k86 (zall_cons (Or.inl (Or.symm (Or.inl (by simp)))) zall_nil)
                have fh74_1 : h74 a1 = some (true, .inr (1, [.ref lq_10, .ref cq_10, .ref a3])) := k86.n fh72_1 (List.not_mem_cons_of_ne_of_not_mem (Ne.symm (zneF hr fa1)) List.not_mem_nil)
                have fh74_2 : h74 a14 = some (true, .inr (12, [.ref v, .int (iI 0), .int z_21, .int (iI ((cur.length : Nat) : Int))])) := k86.n fh72_2 (List.not_mem_cons_of_ne_of_not_mem (Ne.symm (zneF fh8_1 fa14)) List.not_mem_nil)
                have fh74_3 : h74 v = some (true, .inl (.byte, bcap, f_21)) := k86.n fh72_3 (List.not_mem_cons_of_ne_of_not_mem (Ne.symm (zneA fh72_0 fh72_3)) List.not_mem_nil)
                have fh74_4 : h74 lq_10 = some (true, .inr (10, [.int (iI m_22), .ref u1, .int (iI ((lys.length : Nat) : Int))])) := k86.n fh72_4 (List.not_mem_cons_of_ne_of_not_mem (zneC fh72_4 fh72_0 (by decide)) List.not_mem_nil)
                have fh74_5 : h74 u1 = some ((decide (cap1 ≠ 0)), .inl ((.object "java/lang/Object"), cap1, f_22)) := k86.n fh72_5 (List.not_mem_cons_of_ne_of_not_mem (Ne.symm (zneA fh72_0 fh72_5)) List.not_mem_nil)
                have fh74_6 : h74 cq_10 = some (true, .inr (10, [.int (iI m_23), .ref u2, .int (iI ((ys.length : Nat) : Int))])) := k86.n fh72_6 (List.not_mem_cons_of_ne_of_not_mem (zneC fh72_6 fh72_0 (by decide)) List.not_mem_nil)
                have fh74_7 : h74 u2 = some ((decide (cap2 ≠ 0)), .inl ((.object "java/lang/Object"), cap2, f_23)) := k86.n fh72_7 (List.not_mem_cons_of_ne_of_not_mem (Ne.symm (zneA fh72_0 fh72_7)) List.not_mem_nil)
                have ph74_1 : sls h74 lys ls := sls.keep k86 ph72_1
                have ph74_2 : ycs h74 ys cs := ycs.keep k86 ph72_2
                have ph74_3 : ∀ q ∈ lys, zel h74 q := zels.keep k86 ph72_3
                have ph74_4 : ∀ q ∈ ys, zel h74 q := zels.keep k86 ph72_4
                exact zx_out C (fun x hx => nomatch hx) (by rw [hXp]; exact Or.inr ⟨_, rfl, x_85, (by rw [← hd0]; exact rsh_cb (by omega) (by omega) (by omega) hcp_85), hte_85, nq75, kh74⟩)
            · refine z_new (pc := 68) (ci := 5) (kc' := (4 * (T.length - p.toNat) + bLC cap1 202 + bLC cap2 41 + bC bcap 201 + 29 - 1)) (ks' := (31 * (T.length - p.toNat) + cur.length + bLS cap1 202 + bLS cap2 41 + bS bcap 201 + 60 - 7)) (fs := [.null, .null, .null, .null, .null, .int (iI 0), .int (iI 0)]) C in_X6 tyX6 tyX6_ok rfl q370 q371 q85 df_X6 (by omega) (by omega) dX5_sheet_68 (fun a87 fa87 => ?_)
              refine Z.nm (fun h88 eh88 => ?_)
              have na87 : h a87 = none := hkp.none0 fa87 (List.not_mem_cons_of_ne_of_not_mem (Ne.symm (zneF hru fa87)) List.not_mem_nil)
              have kh88 : zkeep h h88 [r] := by rw [eh88]; exact zkeep.born hkp fa87
              have fh88_0 : h88 a87 = some (true, .inr (5, [.null, .null, .null, .null, .null, .int (iI 0), .int (iI 0)])) := zse eh88
              have fh88_1 : h88 r = some (true, .inr (4, [.int (iI p), .ref c])) := zsn eh88 hru (zneF hru fa87)
              have fh88_2 : h88 a1 = some (true, .inr (1, [.ref lq_10, .ref cq_10, .ref a3])) := zsn eh88 hs1 (zneF hs1 fa87)
              have fh88_3 : h88 a14 = some (true, .inr (12, [.ref v, .int (iI 0), .int z_21, .int (iI ((cur.length : Nat) : Int))])) := zsn eh88 hb_21 (zneF hb_21 fa87)
              have fh88_4 : h88 v = some (true, .inl (.byte, bcap, f_21)) := zsn eh88 hv_21 (zneF hv_21 fa87)
              have fh88_5 : h88 lq_10 = some (true, .inr (10, [.int (iI m_22), .ref u1, .int (iI ((lys.length : Nat) : Int))])) := zsn eh88 la_22 (zneF la_22 fa87)
              have fh88_6 : h88 u1 = some ((decide (cap1 ≠ 0)), .inl ((.object "java/lang/Object"), cap1, f_22)) := zsn eh88 le_22 (zneF le_22 fa87)
              have fh88_7 : h88 cq_10 = some (true, .inr (10, [.int (iI m_23), .ref u2, .int (iI ((ys.length : Nat) : Int))])) := zsn eh88 la_23 (zneF la_23 fa87)
              have fh88_8 : h88 u2 = some ((decide (cap2 ≠ 0)), .inl ((.object "java/lang/Object"), cap2, f_23)) := zsn eh88 le_23 (zneF le_23 fa87)
              have sh88 : zkeep g h88 [] := zkeep.one0 eh88 fa87
              have ph88_1 : sls h88 lys ls := sls.keep sh88 hsl
              have ph88_2 : ycs h88 ys cs := ycs.keep sh88 hyc
              have ph88_3 : ∀ q ∈ lys, zel h88 q := zels.keep sh88 lq_22
              have ph88_4 : ∀ q ∈ ys, zel h88 q := zels.keep sh88 lq_23
              refine z_dup (pc := 71) C dX5_sheet_71 rfl ?_
              refine z_aload_n (pc := 72) (j := 3) C dX5_sheet_72 rfl rfl ?_
              refine z_getfield (pc := 73) (v := .int (iI p)) C in_X5 rfl 0 (by decide) q315 (fun _ z => z) fh88_1 rfl dX5_sheet_73 ?_
              refine z_callI (pc := 76) (n := 1) (kc' := (4 * (T.length - p.toNat) + bLC cap1 202 + bLC cap2 41 + bC bcap 201 + 29 - 1)) (ks' := (31 * (T.length - p.toNat) + cur.length + bLS cap1 202 + bLS cap2 41 + bS bcap 201 + 60 - 7)) C (ct_TE_init C.t fh88_0 (p := p)) q414 q85 q412 q413 rfl (by decide +kernel) ⟨by decide, by decide⟩ rfl rfl (Nat.le_of_ble_eq_true rfl) dX5_sheet_76 (by omega) (by omega) (zrk fun w h89 hp => ?_) zrx
              obtain ⟨rfl, fq90, k91⟩ := hp
              have kh89 : zkeep h h89 [r] := zkeep.loc kh88 k91 (zall_cons (Or.inl (Or.symm (Or.inr na87))) zall_nil)
              have fh89_1 : h89 r = some (true, .inr (4, [.int (iI p), .ref c])) := k91.n fh88_1 (List.not_mem_cons_of_ne_of_not_mem (zneF hru fa87) List.not_mem_nil)
              have fh89_2 : h89 a1 = some (true, .inr (1, [.ref lq_10, .ref cq_10, .ref a3])) := k91.n fh88_2 (List.not_mem_cons_of_ne_of_not_mem (zneF hs1 fa87) List.not_mem_nil)
              have fh89_3 : h89 a14 = some (true, .inr (12, [.ref v, .int (iI 0), .int z_21, .int (iI ((cur.length : Nat) : Int))])) := k91.n fh88_3 (List.not_mem_cons_of_ne_of_not_mem (zneF hb_21 fa87) List.not_mem_nil)
              have fh89_4 : h89 v = some (true, .inl (.byte, bcap, f_21)) := k91.n fh88_4 (List.not_mem_cons_of_ne_of_not_mem (zneF hv_21 fa87) List.not_mem_nil)
              have fh89_5 : h89 lq_10 = some (true, .inr (10, [.int (iI m_22), .ref u1, .int (iI ((lys.length : Nat) : Int))])) := k91.n fh88_5 (List.not_mem_cons_of_ne_of_not_mem (zneF la_22 fa87) List.not_mem_nil)
              have fh89_6 : h89 u1 = some ((decide (cap1 ≠ 0)), .inl ((.object "java/lang/Object"), cap1, f_22)) := k91.n fh88_6 (List.not_mem_cons_of_ne_of_not_mem (zneF le_22 fa87) List.not_mem_nil)
              have fh89_7 : h89 cq_10 = some (true, .inr (10, [.int (iI m_23), .ref u2, .int (iI ((ys.length : Nat) : Int))])) := k91.n fh88_7 (List.not_mem_cons_of_ne_of_not_mem (zneF la_23 fa87) List.not_mem_nil)
              have fh89_8 : h89 u2 = some ((decide (cap2 ≠ 0)), .inl ((.object "java/lang/Object"), cap2, f_23)) := k91.n fh88_8 (List.not_mem_cons_of_ne_of_not_mem (zneF le_23 fa87) List.not_mem_nil)
              have ph89_1 : sls h89 lys ls := sls.keep k91 ph88_1
              have ph89_2 : ycs h89 ys cs := ycs.keep k91 ph88_2
              have ph89_3 : ∀ q ∈ lys, zel h89 q := zels.keep k91 ph88_3
              have ph89_4 : ∀ q ∈ ys, zel h89 q := zels.keep k91 ph88_4
              show Z X h89 (4 * (T.length - p.toNat) + bLC cap1 202 + bLC cap2 41 + bC bcap 201 + 29 - 1) (31 * (T.length - p.toNat) + cur.length + bLS cap1 202 + bLS cap2 41 + bS bcap 201 + 60 - 7) [(3, .int (iI (tch T p))), (2, .ref a14), (1, .ref a1), (0, .ref r)] 79 [.ref a87]
              refine z_athrow (pc := 79) C rfl fq90 dX5_sheet_79 ?_
              exact zx_out C (fun x hx => nomatch hx) (by rw [hXp]; exact Or.inr ⟨_, rfl, p, (by rw [← hd0]; exact rsh_bad (by omega) (by omega)), fq90, na87, kh89⟩)
    · subst hz1 hz2
      have hz1 : u1 = (X.Γ.2.2.2 0) := by obtain ⟨m, f, -, -, z, -⟩ := id hla; exact z rfl
      have hz2 : u2 = (X.Γ.2.2.2 0) := by obtain ⟨m, f, -, -, z, -⟩ := id hlb; exact z rfl
      subst hz1 hz2
      have hx_92 := hla
      obtain ⟨m_92, f_92, la_92, le_92, lz_92, lt_92, ln_92, lc_92, lx_92, lq_92⟩ := hx_92
      have le_92 : g (X.Γ.2.2.2 0) = some (false, .inl (.object "java/lang/Object", 0, f_92)) := le_92
      have hx_93 := hlb
      obtain ⟨m_93, f_93, la_93, le_93, lz_93, lt_93, ln_93, lc_93, lx_93, lq_93⟩ := hx_93
      have le_93 : g (X.Γ.2.2.2 0) = some (false, .inl (.object "java/lang/Object", 0, f_93)) := le_93
      refine z_aload_n (pc := 25) (j := 2) C dX5_sheet_25 rfl rfl ?_
      refine z_getfield (pc := 26) (v := .int (iI p)) C in_X5 rfl 0 (by decide) q315 (fun _ z => z) hru rfl dX5_sheet_26 ?_
      refine z_aload_n (pc := 29) (j := 2) C dX5_sheet_29 rfl rfl ?_
      refine z_getfield (pc := 30) (v := .ref c) C in_X5 rfl 1 (by decide) q316 (fun _ z => z) hru rfl dX5_sheet_30 ?_
      refine z_getfieldN (pc := 33) (v := .int (iI ((T.length : Nat) : Int))) C in_X1 rfl 1 (by decide) q275 (fun _ z => z) (hkp.n hc0 (List.not_mem_cons_of_ne_of_not_mem (zneC hc0 hr (by decide)) List.not_mem_nil)) rfl dX5_sheet_33 ?_
      refine z_icmp_ge (pc := 36) (tgt := 159) C dX5_sheet_36 (by decide) (by omega) (by omega) (fun c36 => ?_) (fun c36 => ?_)
      · refine z_aload_n (pc := 159) (j := 1) C dX5_sheet_159 rfl rfl ?_
        refine z_getfieldN (pc := 160) (v := .ref lq_10) C in_X2 rfl 0 (by decide) q168 (fun _ z => z) hs1 rfl dX5_sheet_160 ?_
        refine z_aload_n (pc := 163) (j := 0) C dX5_sheet_163 rfl rfl ?_
        refine z_callV (pc := 164) (n := 0) (kc' := (4 * (T.length - p.toNat) + bLC 0 202 + bLC 0 41 + bC bcap 201 + 29 - 2)) (ks' := (31 * (T.length - p.toNat) + cur.length + bLS 0 202 + bLS 0 41 + bS bcap 201 + 60 - (cur.length + 4))) C (ct_B_toString C.t hbb) (lw_V q617 q618 q619 q82 q620) (by decide +kernel) ⟨by decide, by decide⟩ hb_21 rfl rfl rfl (Nat.le_of_ble_eq_true rfl) dX5_sheet_164 (by omega) (by omega) (zrk fun w h95 hp => ?_) zrx
        obtain ⟨a94, rfl, hs97, fa94, k96⟩ := hp
        have na94 : h a94 = none := hkp.none0 fa94 (List.not_mem_cons_of_ne_of_not_mem (Ne.symm (zneF hru fa94)) List.not_mem_nil)
        have kh95 : zkeep h h95 [r] := zkeep.loc hkp k96 zall_nil
        have fh95_1 : h95 r = some (true, .inr (4, [.int (iI p), .ref c])) := k96.n hru List.not_mem_nil
        have fh95_2 : h95 a1 = some (true, .inr (1, [.ref lq_10, .ref cq_10, .ref a3])) := k96.n hs1 List.not_mem_nil
        have fh95_3 : h95 a14 = some (true, .inr (12, [.ref v, .int (iI 0), .int z_21, .int (iI ((cur.length : Nat) : Int))])) := k96.n hb_21 List.not_mem_nil
        have fh95_4 : h95 v = some (true, .inl (.byte, bcap, f_21)) := k96.n hv_21 List.not_mem_nil
        have fh95_5 : h95 lq_10 = some (true, .inr (10, [.int (iI m_92), .ref (X.Γ.2.2.2 0), .int (iI ((lys.length : Nat) : Int))])) := k96.n la_92 List.not_mem_nil
        have fh95_6 : h95 (X.Γ.2.2.2 0) = some (false, .inl ((.object "java/lang/Object"), 0, f_93)) := k96.f le_93
        have fh95_7 : h95 cq_10 = some (true, .inr (10, [.int (iI m_93), .ref (X.Γ.2.2.2 0), .int (iI ((ys.length : Nat) : Int))])) := k96.n la_93 List.not_mem_nil
        have ph95_1 : sls h95 lys ls := sls.keep k96 hsl
        have ph95_2 : ycs h95 ys cs := ycs.keep k96 hyc
        have ph95_3 : ∀ q ∈ lys, zel h95 q := zels.keep k96 lq_92
        have ph95_4 : ∀ q ∈ ys, zel h95 q := zels.keep k96 lq_93
        show Z X h95 (4 * (T.length - p.toNat) + bLC 0 202 + bLC 0 41 + bC bcap 201 + 29 - 2) (31 * (T.length - p.toNat) + cur.length + bLS 0 202 + bLS 0 41 + bS bcap 201 + 60 - (cur.length + 4)) [(2, .ref a14), (1, .ref a1), (0, .ref r)] 167 [.ref a94, .ref lq_10]
        obtain ⟨hl_98, v_98, x_98, y_98, g_98, h1_98, h2_98, h3_98, h4_98⟩ := id (hs97)
        have h1_98 : h95 (a94) = some (false, .inr (13, [.ref v_98, .int (iI 0), .int x_98, .int y_98])) := h1_98
        have pa_99 := (lAt.mk (cap := 0) rfl rfl rfl fh95_5 fh95_6 lz_92 lt_92 ln_92 lc_92 (fun j q z => by have := (List.getElem?_eq_some_iff.mp z).1; omega) ph95_3)
        have pb_99 := (lAt.mk (cap := 0) rfl rfl rfl fh95_7 fh95_6 lz_93 lt_93 ln_93 lc_93 (fun j q z => by have := (List.getElem?_eq_some_iff.mp z).1; omega) ph95_4)
        have hB_99 := lC_b (cap := 0) (n := lys.length + 1) (N := 202) (by omega) lt_92
        have hC_99 := lS_b (cap := 0) (n := lys.length + 1) (N := 202) (by omega) lt_92
        refine z_callV (pc := 167) (n := 1) (kc' := ((4 * (T.length - p.toNat) + bLC 0 202 + bLC 0 41 + bC bcap 201 + 29 - 2) - lC 0 (lys.length + 1))) (ks' := ((31 * (T.length - p.toNat) + cur.length + bLS 0 202 + bLS 0 41 + bS bcap 201 + 60 - (cur.length + 4)) - lS 0 (lys.length + 1))) C (ct_L_add C.t (lAt.mk (cap := 0) rfl rfl rfl fh95_5 fh95_6 lz_92 lt_92 ln_92 lc_92 (fun j q z => by have := (List.getElem?_eq_some_iff.mp z).1; omega) ph95_3) h1_98 rfl q2509 (by first | omega | (simp; omega))) (lw_V q616 q204 q205 q68 q206) (by decide +kernel) ⟨by decide, by decide⟩ fh95_5 rfl rfl rfl (Nat.le_of_ble_eq_true rfl) dX5_sheet_167 (by omega) (by omega) (zrk fun w h100 hp => ?_) zrx
        obtain ⟨rfl, e101, hl102, he103, k104⟩ := hp
        have de101 : e101 ∈ ([r] : List Nat) ∨ h e101 = none := zmayL (Or.inr rfl) (lAt.mk (cap := 0) rfl rfl rfl fh95_5 fh95_6 lz_92 lt_92 ln_92 lc_92 (fun j q z => by have := (List.getElem?_eq_some_iff.mp z).1; omega) ph95_3) hl102 (by have := lcap_ge (cap := 0) (n := lys.length + 1); omega) he103 kh95 k104
        have ge101 : e101 = (X.Γ.2.2.2 0) ∨ h e101 = none := he103.imp_right (fun z => kh95.none0 z (List.not_mem_cons_of_ne_of_not_mem (Ne.symm (zneF fh95_1 z)) List.not_mem_nil))
        have kh100 : zkeep h h100 [r] := zkeep.loc kh95 k104 (zall_cons (Or.inl (Or.symm (Or.inr nlq_10))) (zall_cons (lAt.fz (lAt.mk (cap := 0) rfl rfl rfl fh95_5 fh95_6 lz_92 lt_92 ln_92 lc_92 (fun j q z => by have := (List.getElem?_eq_some_iff.mp z).1; omega) ph95_3) (Or.inr rfl)) zall_nil))
        have fh100_1 : h100 r = some (true, .inr (4, [.int (iI p), .ref c])) := k104.n fh95_1 (List.not_mem_cons_of_ne_of_not_mem (zneC fh95_1 fh95_5 (by decide)) (List.not_mem_cons_of_ne_of_not_mem (Ne.symm (zneW fh95_6 fh95_1)) List.not_mem_nil))
        have fh100_2 : h100 a1 = some (true, .inr (1, [.ref lq_10, .ref cq_10, .ref a3])) := k104.n fh95_2 (List.not_mem_cons_of_ne_of_not_mem (zneC fh95_2 fh95_5 (by decide)) (List.not_mem_cons_of_ne_of_not_mem (Ne.symm (zneW fh95_6 fh95_2)) List.not_mem_nil))
        have fh100_3 : h100 a14 = some (true, .inr (12, [.ref v, .int (iI 0), .int z_21, .int (iI ((cur.length : Nat) : Int))])) := k104.n fh95_3 (List.not_mem_cons_of_ne_of_not_mem (Ne.symm (zneF la_12 fa14)) (List.not_mem_cons_of_ne_of_not_mem (Ne.symm (zneF le_13 fa14)) List.not_mem_nil))
        have fh100_4 : h100 v = some (true, .inl (.byte, bcap, f_21)) := k104.n fh95_4 (List.not_mem_cons_of_ne_of_not_mem (Ne.symm (zneA fh95_5 fh95_4)) (List.not_mem_cons_of_ne_of_not_mem (Ne.symm (zneW fh95_6 fh95_4)) List.not_mem_nil))
        have fh100_5 : h100 (X.Γ.2.2.2 0) = some (false, .inl ((.object "java/lang/Object"), 0, f_93)) := k104.f fh95_6
        have fh100_6 : h100 cq_10 = some (true, .inr (10, [.int (iI m_93), .ref (X.Γ.2.2.2 0), .int (iI ((ys.length : Nat) : Int))])) := k104.n fh95_7 (List.not_mem_cons_of_ne_of_not_mem (Ne.symm hne_10) (List.not_mem_cons_of_ne_of_not_mem (Ne.symm (zneW fh95_6 fh95_7)) List.not_mem_nil))
        have fh100_7 : h100 a94 = some (false, .inr (13, [.ref v_98, .int (iI 0), .int x_98, .int y_98])) := k104.f h1_98
        have fh100_8 : h100 v_98 = some (false, .inl (.byte, cur.length, g_98)) := k104.f h2_98
        have ph100_1 : sls h100 lys ls := sls.keep k104 ph95_1
        have ph100_2 : ycs h100 ys cs := ycs.keep k104 ph95_2
        have ph100_3 : ∀ q ∈ lys, zel h100 q := zels.keep k104 ph95_3
        have ph100_4 : ∀ q ∈ ys, zel h100 q := zels.keep k104 ph95_4
        have ph100_5 : sAt h100 a94 cur := sAt.keep k104 hs97
        show Z X h100 ((4 * (T.length - p.toNat) + bLC 0 202 + bLC 0 41 + bC bcap 201 + 29 - 2) - lC 0 (lys.length + 1)) ((31 * (T.length - p.toNat) + cur.length + bLS 0 202 + bLS 0 41 + bS bcap 201 + 60 - (cur.length + 4)) - lS 0 (lys.length + 1)) [(2, .ref a14), (1, .ref a1), (0, .ref r)] 170 [.int (iI 1)]
        have hdj_99 := lsep pa_99 pb_99 hdj0 he103 hl102 k104
        have hdk_99 : e101 ≠ (X.Γ.2.2.2 0) := hdj_99.resolve_right (fun z => by have := lcap_ge (cap := 0) (n := lys.length + 1); have := z.1; omega)
        have hx_105 := hl102
        obtain ⟨m_105, f_105, la_105, le_105, lz_105, lt_105, ln_105, lc_105, lx_105, lq_105⟩ := hx_105
        have hsl_106 := (ph100_1).app ph100_5
        refine z_pop (pc := 170) C dX5_sheet_170 rfl ?_
        refine z_aload_n (pc := 171) (j := 1) C dX5_sheet_171 rfl rfl ?_
        refine z_aload_n (pc := 172) (j := 1) C dX5_sheet_172 rfl rfl ?_
        have hcl := (ph100_2).cl lx_93
        have hcqf : h100 cq_10 = some (true, .inr (10, [.int (iI m_93), .ref (X.Γ.2.2.2 0), .int (iI ((cs.length : Nat) : Int))])) := hyl ▸ fh100_6
        refine z_callV (pc := 173) (n := 0) (kc' := (((4 * (T.length - p.toNat) + bLC 0 202 + bLC 0 41 + bC bcap 201 + 29 - 2) - lC 0 (lys.length + 1)) - 27)) (ks' := (((31 * (T.length - p.toNat) + cur.length + bLS 0 202 + bLS 0 41 + bS bcap 201 + 60 - (cur.length + 4)) - lS 0 (lys.length + 1)) - 54)) C (ct_S_lik C.t fh100_2 hcqf fh100_5 hcl ⟨by omega, lc_93⟩ hrcr (by omega)) (lw_V q881 q882 q883 q64 q884) (by decide +kernel) ⟨by decide, by decide⟩ fh100_2 rfl rfl rfl (Nat.le_of_ble_eq_true rfl) dX5_sheet_173 (by omega) (by omega) (zrk fun w h107 hp => ?_) zrx
        obtain ⟨a109, rfl, fka109, k108⟩ := hp
        have kh107 : zkeep h h107 [r] := zkeep.loc kh100 k108 zall_nil
        have fh107_1 : h107 r = some (true, .inr (4, [.int (iI p), .ref c])) := k108.n fh100_1 List.not_mem_nil
        have fh107_2 : h107 a1 = some (true, .inr (1, [.ref lq_10, .ref cq_10, .ref a3])) := k108.n fh100_2 List.not_mem_nil
        have fh107_3 : h107 a14 = some (true, .inr (12, [.ref v, .int (iI 0), .int z_21, .int (iI ((cur.length : Nat) : Int))])) := k108.n fh100_3 List.not_mem_nil
        have fh107_4 : h107 v = some (true, .inl (.byte, bcap, f_21)) := k108.n fh100_4 List.not_mem_nil
        have fh107_5 : h107 (X.Γ.2.2.2 0) = some (false, .inl ((.object "java/lang/Object"), 0, f_93)) := k108.f fh100_5
        have fh107_6 : h107 cq_10 = some (true, .inr (10, [.int (iI m_93), .ref (X.Γ.2.2.2 0), .int (iI ((ys.length : Nat) : Int))])) := k108.n fh100_6 List.not_mem_nil
        have fh107_7 : h107 a94 = some (false, .inr (13, [.ref v_98, .int (iI 0), .int x_98, .int y_98])) := k108.f fh100_7
        have fh107_8 : h107 v_98 = some (false, .inl (.byte, cur.length, g_98)) := k108.f fh100_8
        have fh107_9 : h107 lq_10 = some (true, .inr (10, [.int (iI m_105), .ref e101, .int (iI (((lys ++ [a94]).length : Nat) : Int))])) := k108.n la_105 List.not_mem_nil
        have fh107_10 : h107 e101 = some ((decide (lcap 0 (lys.length + 1) ≠ 0)), .inl ((.object "java/lang/Object"), lcap 0 (lys.length + 1), f_105)) := k108.n le_105 List.not_mem_nil
        have ph107_1 : sls h107 (lys ++ [a94]) (ls ++ [cur]) := sls.keep k108 hsl_106
        have ph107_2 : ycs h107 ys cs := ycs.keep k108 ph100_2
        have ph107_3 : ∀ q ∈ lys ++ [a94], zel h107 q := zels.keep k108 lq_105
        have ph107_4 : ∀ q ∈ ys, zel h107 q := zels.keep k108 ph100_4
        have ph107_5 : sAt h107 a94 cur := sAt.keep k108 ph100_5
        have ph107_6 : clA h107 f_93 cs := clA.keep k108 hcl
        show Z X h107 (((4 * (T.length - p.toNat) + bLC 0 202 + bLC 0 41 + bC bcap 201 + 29 - 2) - lC 0 (lys.length + 1)) - 27) (((31 * (T.length - p.toNat) + cur.length + bLS 0 202 + bLS 0 41 + bS bcap 201 + 60 - (cur.length + 4)) - lS 0 (lys.length + 1)) - 54) [(2, .ref a14), (1, .ref a1), (0, .ref r)] 176 [.ref a109, .ref a1]
        refine z_putfieldN (pc := 176) (fs' := [.ref lq_10, .ref cq_10, .ref a109]) C in_X2 tyX2 tyX2_ok nmX2 rfl 2 (by decide) q174 (fun _ z => z) rfl rfl rfl (Nat.le_of_ble_eq_true rfl) fh107_2 rfl dX5_sheet_176 ?_
        refine Z.nm (fun h110 eh110 => ?_)
        have kh110 : zkeep h h110 [r] := by rw [eh110]; exact zkeep.up kh107 (Or.inr na1) fh107_2
        have fh110_0 : h110 a1 = some (true, .inr (1, [.ref lq_10, .ref cq_10, .ref a109])) := zse eh110
        have fh110_1 : h110 r = some (true, .inr (4, [.int (iI p), .ref c])) := zsn eh110 fh107_1 (zneF hr fa1)
        have fh110_2 : h110 a14 = some (true, .inr (12, [.ref v, .int (iI 0), .int z_21, .int (iI ((cur.length : Nat) : Int))])) := zsn eh110 fh107_3 (Ne.symm (zneF fs11 fa14))
        have fh110_3 : h110 v = some (true, .inl (.byte, bcap, f_21)) := zsn eh110 fh107_4 (Ne.symm (zneA fh107_2 fh107_4))
        have fh110_4 : h110 (X.Γ.2.2.2 0) = some (false, .inl ((.object "java/lang/Object"), 0, f_93)) := zsn eh110 fh107_5 (zneW fh107_5 fh107_2)
        have fh110_5 : h110 cq_10 = some (true, .inr (10, [.int (iI m_93), .ref (X.Γ.2.2.2 0), .int (iI ((ys.length : Nat) : Int))])) := zsn eh110 fh107_6 (zneC fh107_6 fh107_2 (by decide))
        have fh110_6 : h110 a94 = some (false, .inr (13, [.ref v_98, .int (iI 0), .int x_98, .int y_98])) := zsn eh110 fh107_7 (zneW fh107_7 fh107_2)
        have fh110_7 : h110 v_98 = some (false, .inl (.byte, cur.length, g_98)) := zsn eh110 fh107_8 (zneW fh107_8 fh107_2)
        have fh110_8 : h110 lq_10 = some (true, .inr (10, [.int (iI m_105), .ref e101, .int (iI (((lys ++ [a94]).length : Nat) : Int))])) := zsn eh110 fh107_9 (zneC fh107_9 fh107_2 (by decide))
        have fh110_9 : h110 e101 = some ((decide (lcap 0 (lys.length + 1) ≠ 0)), .inl ((.object "java/lang/Object"), lcap 0 (lys.length + 1), f_105)) := zsn eh110 fh107_10 (Ne.symm (zneA fh107_2 fh107_10))
        have fh110_10 : h110 a109 = some (false, .inr (2, [.int (iI ((lik cs).1)), .int (iI ((lik cs).2))])) := zsn eh110 fka109 (zneW fka109 fh107_2)
        have sh110 : zkeep h107 h110 [a1] := zkeep.one eh110 fh107_2
        have ph110_1 : sls h110 (lys ++ [a94]) (ls ++ [cur]) := sls.keep sh110 ph107_1
        have ph110_2 : ycs h110 ys cs := ycs.keep sh110 ph107_2
        have ph110_3 : ∀ q ∈ lys ++ [a94], zel h110 q := zels.keep sh110 ph107_3
        have ph110_4 : ∀ q ∈ ys, zel h110 q := zels.keep sh110 ph107_4
        have ph110_5 : sAt h110 a94 cur := sAt.keep sh110 ph107_5
        have ph110_6 : clA h110 f_93 cs := clA.keep sh110 ph107_6
        refine z_aload_n (pc := 179) (j := 1) C dX5_sheet_179 rfl rfl ?_
        have hlz := (lAt.mk (cap := lcap 0 (lys.length + 1)) rfl rfl rfl fh110_8 fh110_9 lz_105 lt_105 ln_105 lc_105 lx_105 ph110_3)
        refine Z.freezeL hlz (fun h111 hfl k112 => ?_)
        have kh111 : zkeep h h111 [r] := zkeep.loc kh110 k112 (zall_cons (Or.inl (Or.symm (Or.inr nlq_10))) (zall_cons (Or.inl (Or.symm de101)) zall_nil))
        have fh111_1 : h111 r = some (true, .inr (4, [.int (iI p), .ref c])) := k112.n fh110_1 (List.not_mem_cons_of_ne_of_not_mem (zneC fh110_1 fh110_8 (by decide)) (List.not_mem_cons_of_ne_of_not_mem (zneA fh110_1 fh110_9) List.not_mem_nil))
        have fh111_2 : h111 a14 = some (true, .inr (12, [.ref v, .int (iI 0), .int z_21, .int (iI ((cur.length : Nat) : Int))])) := k112.n fh110_2 (List.not_mem_cons_of_ne_of_not_mem (Ne.symm (zneF la_12 fa14)) (List.not_mem_cons_of_ne_of_not_mem (zneA fh110_2 fh110_9) List.not_mem_nil))
        have fh111_3 : h111 v = some (true, .inl (.byte, bcap, f_21)) := k112.n fh110_3 (List.not_mem_cons_of_ne_of_not_mem (Ne.symm (zneA fh110_8 fh110_3)) (List.not_mem_cons_of_ne_of_not_mem (zneT fh110_3 fh110_9 (by simp)) List.not_mem_nil))
        have fh111_4 : h111 (X.Γ.2.2.2 0) = some (false, .inl ((.object "java/lang/Object"), 0, f_93)) := k112.f fh110_4
        have fh111_5 : h111 cq_10 = some (true, .inr (10, [.int (iI m_93), .ref (X.Γ.2.2.2 0), .int (iI ((ys.length : Nat) : Int))])) := k112.n fh110_5 (List.not_mem_cons_of_ne_of_not_mem (Ne.symm hne_10) (List.not_mem_cons_of_ne_of_not_mem (zneA fh110_5 fh110_9) List.not_mem_nil))
        have fh111_6 : h111 a94 = some (false, .inr (13, [.ref v_98, .int (iI 0), .int x_98, .int y_98])) := k112.f fh110_6
        have fh111_7 : h111 v_98 = some (false, .inl (.byte, cur.length, g_98)) := k112.f fh110_7
        have fh111_8 : h111 a109 = some (false, .inr (2, [.int (iI ((lik cs).1)), .int (iI ((lik cs).2))])) := k112.f fh110_10
        have fh111_9 : h111 a1 = some (true, .inr (1, [.ref lq_10, .ref cq_10, .ref a109])) := k112.n fh110_0 (List.not_mem_cons_of_ne_of_not_mem (zneC fh110_0 fh110_8 (by decide)) (List.not_mem_cons_of_ne_of_not_mem (zneA fh110_0 fh110_9) List.not_mem_nil))
        have ph111_1 : sls h111 (lys ++ [a94]) (ls ++ [cur]) := sls.keep k112 ph110_1
        have ph111_2 : ycs h111 ys cs := ycs.keep k112 ph110_2
        have ph111_3 : ∀ q ∈ ys, zel h111 q := zels.keep k112 ph110_4
        have ph111_4 : sAt h111 a94 cur := sAt.keep k112 ph110_5
        have ph111_5 : clA h111 f_93 cs := clA.keep k112 ph110_6
        exact z_areturn (pc := 180) C (Or.inl ⟨_, rfl⟩) (Or.inr ⟨_, rfl⟩) (by rw [hXp]; exact Or.inl ⟨_, rfl, ls ++ [cur], cs, ((a1, cq_10, (X.Γ.2.2.2 0), 0) : zSA), (by rw [← hd0]; exact rsh_end (by omega)), ⟨hrc, hrcr, (by simp [lsm]; omega), by decide⟩, rfl, ⟨lq_10, a109, _, ys, fh111_9, hfl, ph111_1, (lAt.mk (cap := 0) rfl rfl rfl fh111_5 fh111_4 lz_93 lt_93 ln_93 lc_93 (fun j q z => by have := (List.getElem?_eq_some_iff.mp z).1; omega) ph111_3), ph111_2, fh111_8⟩, fpx_new na1 ncq_10 (Or.inr rfl), kh111⟩) dX5_sheet_180
      · refine z_aload_n (pc := 39) (j := 2) C dX5_sheet_39 rfl rfl ?_
        refine z_callV (pc := 40) (n := 0) (kc' := (4 * (T.length - p.toNat) + bLC 0 202 + bLC 0 41 + bC bcap 201 + 29)) (ks' := (31 * (T.length - p.toNat) + cur.length + bLS 0 202 + bLS 0 41 + bS bcap 201 + 60)) C (ct_R_peek C.t (p := p) hru (hkp.n hc0 (List.not_mem_cons_of_ne_of_not_mem (zneC hc0 hr (by decide)) List.not_mem_nil)) (hkp.n htx (List.not_mem_cons_of_ne_of_not_mem (Ne.symm (zneA hr htx)) List.not_mem_nil)) hch hT hTl (by omega)) (lw_V q362 q364 qs3 q80 q365) (by decide +kernel) ⟨by decide, by decide⟩ hru rfl rfl rfl (Nat.le_of_ble_eq_true rfl) dX5_sheet_40 (by omega) (by omega) (zpk (st' := [.int (iI (tch T p))]) rfl ?_) zrx
        have htr43 := tch_r hT (p := p) (by omega)
        refine z_istore_n (pc := 43) (L' := [(3, .int (iI (tch T p))), (2, .ref a14), (1, .ref a1), (0, .ref r)]) C dX5_sheet_43 rfl (by rw [hnL]; decide) rfl ?_
        refine z_iload_n (pc := 44) (j := 0) C dX5_sheet_44 rfl rfl ?_
        refine z_bipush (pc := 45) C dX5_sheet_45 (by decide) ?_
        refine z_icmp_eq (pc := 47) (tgt := 68) C dX5_sheet_47 (by decide) (by omega) (by decide) (fun c47 => ?_) (fun c47 => ?_)
        · refine z_new (pc := 68) (ci := 5) (kc' := (4 * (T.length - p.toNat) + bLC 0 202 + bLC 0 41 + bC bcap 201 + 29 - 1)) (ks' := (31 * (T.length - p.toNat) + cur.length + bLS 0 202 + bLS 0 41 + bS bcap 201 + 60 - 7)) (fs := [.null, .null, .null, .null, .null, .int (iI 0), .int (iI 0)]) C in_X6 tyX6 tyX6_ok rfl q370 q371 q85 df_X6 (by omega) (by omega) dX5_sheet_68 (fun a113 fa113 => ?_)
          refine Z.nm (fun h114 eh114 => ?_)
          have na113 : h a113 = none := hkp.none0 fa113 (List.not_mem_cons_of_ne_of_not_mem (Ne.symm (zneF hru fa113)) List.not_mem_nil)
          have kh114 : zkeep h h114 [r] := by rw [eh114]; exact zkeep.born hkp fa113
          have fh114_0 : h114 a113 = some (true, .inr (5, [.null, .null, .null, .null, .null, .int (iI 0), .int (iI 0)])) := zse eh114
          have fh114_1 : h114 r = some (true, .inr (4, [.int (iI p), .ref c])) := zsn eh114 hru (zneF hru fa113)
          have fh114_2 : h114 a1 = some (true, .inr (1, [.ref lq_10, .ref cq_10, .ref a3])) := zsn eh114 hs1 (zneF hs1 fa113)
          have fh114_3 : h114 a14 = some (true, .inr (12, [.ref v, .int (iI 0), .int z_21, .int (iI ((cur.length : Nat) : Int))])) := zsn eh114 hb_21 (zneF hb_21 fa113)
          have fh114_4 : h114 v = some (true, .inl (.byte, bcap, f_21)) := zsn eh114 hv_21 (zneF hv_21 fa113)
          have fh114_5 : h114 lq_10 = some (true, .inr (10, [.int (iI m_92), .ref (X.Γ.2.2.2 0), .int (iI ((lys.length : Nat) : Int))])) := zsn eh114 la_92 (zneF la_92 fa113)
          have fh114_6 : h114 (X.Γ.2.2.2 0) = some (false, .inl ((.object "java/lang/Object"), 0, f_93)) := zsn eh114 le_93 (zneF le_93 fa113)
          have fh114_7 : h114 cq_10 = some (true, .inr (10, [.int (iI m_93), .ref (X.Γ.2.2.2 0), .int (iI ((ys.length : Nat) : Int))])) := zsn eh114 la_93 (zneF la_93 fa113)
          have sh114 : zkeep g h114 [] := zkeep.one0 eh114 fa113
          have ph114_1 : sls h114 lys ls := sls.keep sh114 hsl
          have ph114_2 : ycs h114 ys cs := ycs.keep sh114 hyc
          have ph114_3 : ∀ q ∈ lys, zel h114 q := zels.keep sh114 lq_92
          have ph114_4 : ∀ q ∈ ys, zel h114 q := zels.keep sh114 lq_93
          refine z_dup (pc := 71) C dX5_sheet_71 rfl ?_
          refine z_aload_n (pc := 72) (j := 3) C dX5_sheet_72 rfl rfl ?_
          refine z_getfield (pc := 73) (v := .int (iI p)) C in_X5 rfl 0 (by decide) q315 (fun _ z => z) fh114_1 rfl dX5_sheet_73 ?_
          refine z_callI (pc := 76) (n := 1) (kc' := (4 * (T.length - p.toNat) + bLC 0 202 + bLC 0 41 + bC bcap 201 + 29 - 1)) (ks' := (31 * (T.length - p.toNat) + cur.length + bLS 0 202 + bLS 0 41 + bS bcap 201 + 60 - 7)) C (ct_TE_init C.t fh114_0 (p := p)) q414 q85 q412 q413 rfl (by decide +kernel) ⟨by decide, by decide⟩ rfl rfl (Nat.le_of_ble_eq_true rfl) dX5_sheet_76 (by omega) (by omega) (zrk fun w h115 hp => ?_) zrx
          obtain ⟨rfl, fq116, k117⟩ := hp
          have kh115 : zkeep h h115 [r] := zkeep.loc kh114 k117 (zall_cons (Or.inl (Or.symm (Or.inr na113))) zall_nil)
          have fh115_1 : h115 r = some (true, .inr (4, [.int (iI p), .ref c])) := k117.n fh114_1 (List.not_mem_cons_of_ne_of_not_mem (zneF hru fa113) List.not_mem_nil)
          have fh115_2 : h115 a1 = some (true, .inr (1, [.ref lq_10, .ref cq_10, .ref a3])) := k117.n fh114_2 (List.not_mem_cons_of_ne_of_not_mem (zneF hs1 fa113) List.not_mem_nil)
          have fh115_3 : h115 a14 = some (true, .inr (12, [.ref v, .int (iI 0), .int z_21, .int (iI ((cur.length : Nat) : Int))])) := k117.n fh114_3 (List.not_mem_cons_of_ne_of_not_mem (zneF hb_21 fa113) List.not_mem_nil)
          have fh115_4 : h115 v = some (true, .inl (.byte, bcap, f_21)) := k117.n fh114_4 (List.not_mem_cons_of_ne_of_not_mem (zneF hv_21 fa113) List.not_mem_nil)
          have fh115_5 : h115 lq_10 = some (true, .inr (10, [.int (iI m_92), .ref (X.Γ.2.2.2 0), .int (iI ((lys.length : Nat) : Int))])) := k117.n fh114_5 (List.not_mem_cons_of_ne_of_not_mem (zneF la_92 fa113) List.not_mem_nil)
          have fh115_6 : h115 (X.Γ.2.2.2 0) = some (false, .inl ((.object "java/lang/Object"), 0, f_93)) := k117.f fh114_6
          have fh115_7 : h115 cq_10 = some (true, .inr (10, [.int (iI m_93), .ref (X.Γ.2.2.2 0), .int (iI ((ys.length : Nat) : Int))])) := k117.n fh114_7 (List.not_mem_cons_of_ne_of_not_mem (zneF la_93 fa113) List.not_mem_nil)
          have ph115_1 : sls h115 lys ls := sls.keep k117 ph114_1
          have ph115_2 : ycs h115 ys cs := ycs.keep k117 ph114_2
          have ph115_3 : ∀ q ∈ lys, zel h115 q := zels.keep k117 ph114_3
          have ph115_4 : ∀ q ∈ ys, zel h115 q := zels.keep k117 ph114_4
          show Z X h115 (4 * (T.length - p.toNat) + bLC 0 202 + bLC 0 41 + bC bcap 201 + 29 - 1) (31 * (T.length - p.toNat) + cur.length + bLS 0 202 + bLS 0 41 + bS bcap 201 + 60 - 7) [(3, .int (iI (tch T p))), (2, .ref a14), (1, .ref a1), (0, .ref r)] 79 [.ref a113]
          refine z_athrow (pc := 79) C rfl fq116 dX5_sheet_79 ?_
          exact zx_out C (fun x hx => nomatch hx) (by rw [hXp]; exact Or.inr ⟨_, rfl, p, (by rw [← hd0]; exact rsh_bad (by omega) (by omega)), fq116, na113, kh115⟩)
        · refine z_iload_n (pc := 50) (j := 0) C dX5_sheet_50 rfl rfl ?_
          refine z_bipush (pc := 51) C dX5_sheet_51 (by decide) ?_
          refine z_icmp_ne (pc := 53) (tgt := 80) C dX5_sheet_53 (by decide) (by omega) (by decide) (fun c53 => ?_) (fun c53 => ?_)
          · refine z_aload_n (pc := 80) (j := 3) C dX5_sheet_80 rfl rfl ?_
            refine z_dup (pc := 81) C dX5_sheet_81 rfl ?_
            refine z_getfield (pc := 82) (v := .int (iI p)) C in_X5 rfl 0 (by decide) q315 (fun _ z => z) hru rfl dX5_sheet_82 ?_
            refine z_iconst (pc := 85) C dX5_sheet_85 ?_
            refine z_iadd (pc := 86) C dX5_sheet_86 ?_
            refine z_putfield (pc := 87) (fs' := [.int (iI (p + 1)), .ref c]) C in_X5 tyX5 tyX5_ok nmX5 rfl 0 (by decide) q315 (fun _ z => z) rfl rfl rfl (Nat.le_of_ble_eq_true rfl) hru rfl dX5_sheet_87 ?_
            refine Z.nm (fun h118 eh118 => ?_)
            have kh118 : zkeep h h118 [r] := by rw [eh118]; exact zkeep.up hkp (Or.inl (by simp)) hru
            have fh118_0 : h118 r = some (true, .inr (4, [.int (iI (p + 1)), .ref c])) := zse eh118
            have fh118_1 : h118 a1 = some (true, .inr (1, [.ref lq_10, .ref cq_10, .ref a3])) := zsn eh118 hs1 (Ne.symm (zneF hr fa1))
            have fh118_2 : h118 a14 = some (true, .inr (12, [.ref v, .int (iI 0), .int z_21, .int (iI ((cur.length : Nat) : Int))])) := zsn eh118 hb_21 (Ne.symm (zneF fh8_1 fa14))
            have fh118_3 : h118 v = some (true, .inl (.byte, bcap, f_21)) := zsn eh118 hv_21 (Ne.symm (zneA hru hv_21))
            have fh118_4 : h118 lq_10 = some (true, .inr (10, [.int (iI m_92), .ref (X.Γ.2.2.2 0), .int (iI ((lys.length : Nat) : Int))])) := zsn eh118 la_92 (zneC la_92 hru (by decide))
            have fh118_5 : h118 (X.Γ.2.2.2 0) = some (false, .inl ((.object "java/lang/Object"), 0, f_93)) := zsn eh118 le_93 (zneW le_93 hru)
            have fh118_6 : h118 cq_10 = some (true, .inr (10, [.int (iI m_93), .ref (X.Γ.2.2.2 0), .int (iI ((ys.length : Nat) : Int))])) := zsn eh118 la_93 (zneC la_93 hru (by decide))
            have sh118 : zkeep g h118 [r] := zkeep.one eh118 hru
            have ph118_1 : sls h118 lys ls := sls.keep sh118 hsl
            have ph118_2 : ycs h118 ys cs := ycs.keep sh118 hyc
            have ph118_3 : ∀ q ∈ lys, zel h118 q := zels.keep sh118 lq_92
            have ph118_4 : ∀ q ∈ ys, zel h118 q := zels.keep sh118 lq_93
            refine z_iload_n (pc := 90) (j := 0) C dX5_sheet_90 rfl rfl ?_
            refine z_bipush (pc := 91) C dX5_sheet_91 (by decide) ?_
            refine z_icmp_ne (pc := 93) (tgt := 124) C dX5_sheet_93 (by decide) (by omega) (by decide) (fun c93 => ?_) (fun c93 => by exfalso; omega)
            refine z_iload_n (pc := 124) (j := 0) C dX5_sheet_124 rfl rfl ?_
            refine z_bipush (pc := 125) C dX5_sheet_125 (by decide) ?_
            refine z_icmp_ne (pc := 127) (tgt := 150) C dX5_sheet_127 (by decide) (by omega) (by decide) (fun c127 => ?_) (fun c127 => ?_)
            · refine z_aload_n (pc := 150) (j := 1) C dX5_sheet_150 rfl rfl ?_
              refine z_iload_n (pc := 151) (j := 0) C dX5_sheet_151 rfl rfl ?_
              have hB152 := gC_b (cap := bcap) (n := cur.length + 1) (N := 201) (by omega)
              have hC152 := gS_b (cap := bcap) (n := cur.length + 1) (N := 201) (by omega)
              refine z_callV (pc := 152) (n := 1) (kc' := (4 * (T.length - p.toNat) + bLC 0 202 + bLC 0 41 + bC bcap 201 + 29 - gC bcap (cur.length + 1))) (ks' := (31 * (T.length - p.toNat) + cur.length + bLS 0 202 + bLS 0 41 + bS bcap 201 + 60 - gS bcap (cur.length + 1))) C (ct_B_appC C.t (bAt.mk rfl rfl fh118_2 fh118_3 hlen_21 hcap_21 hcon_21 hfit_21 hasc_21) (c := tch T p) (by omega) (by omega)) (lw_V q868 q869 q870 q82 q871) (by decide +kernel) ⟨by decide, by decide⟩ fh118_2 rfl rfl rfl (Nat.le_of_ble_eq_true rfl) dX5_sheet_152 (by omega) (by omega) (zrk fun w h119 hp => ?_) zrx
              obtain ⟨rfl, v120, hb121, hv122, k123⟩ := hp
              have dv120 : v120 ∈ ([r] : List Nat) ∨ h v120 = none := zmay hmv hv122 kh118
              have kh119 : zkeep h h119 [r] := zkeep.loc kh118 k123 (zall_cons (Or.inl (Or.symm (Or.inr na14))) (zall_cons (Or.inl (Or.symm hmv)) zall_nil))
              have fh119_1 : h119 a1 = some (true, .inr (1, [.ref lq_10, .ref cq_10, .ref a3])) := k123.n fh118_1 (List.not_mem_cons_of_ne_of_not_mem (zneF fs11 fa14) (List.not_mem_cons_of_ne_of_not_mem (zneA fh118_1 fh118_3) List.not_mem_nil))
              have fh119_2 : h119 lq_10 = some (true, .inr (10, [.int (iI m_92), .ref (X.Γ.2.2.2 0), .int (iI ((lys.length : Nat) : Int))])) := k123.n fh118_4 (List.not_mem_cons_of_ne_of_not_mem (zneF la_12 fa14) (List.not_mem_cons_of_ne_of_not_mem (zneA fh118_4 fh118_3) List.not_mem_nil))
              have fh119_3 : h119 (X.Γ.2.2.2 0) = some (false, .inl ((.object "java/lang/Object"), 0, f_93)) := k123.f fh118_5
              have fh119_4 : h119 cq_10 = some (true, .inr (10, [.int (iI m_93), .ref (X.Γ.2.2.2 0), .int (iI ((ys.length : Nat) : Int))])) := k123.n fh118_6 (List.not_mem_cons_of_ne_of_not_mem (zneF la_13 fa14) (List.not_mem_cons_of_ne_of_not_mem (zneA fh118_6 fh118_3) List.not_mem_nil))
              have fh119_5 : h119 r = some (true, .inr (4, [.int (iI (p + 1)), .ref c])) := k123.n fh118_0 (List.not_mem_cons_of_ne_of_not_mem (zneF fh8_1 fa14) (List.not_mem_cons_of_ne_of_not_mem (zneA fh118_0 fh118_3) List.not_mem_nil))
              have ph119_1 : sls h119 lys ls := sls.keep k123 ph118_1
              have ph119_2 : ycs h119 ys cs := ycs.keep k123 ph118_2
              have ph119_3 : ∀ q ∈ lys, zel h119 q := zels.keep k123 ph118_3
              have ph119_4 : ∀ q ∈ ys, zel h119 q := zels.keep k123 ph118_4
              have hx_124 := hb121
              obtain ⟨z_124, f_124, hb_124, hv_124, hlen_124, hcap_124, hcon_124, hfit_124, hasc_124⟩ := hx_124
              show Z X h119 (4 * (T.length - p.toNat) + bLC 0 202 + bLC 0 41 + bC bcap 201 + 29 - gC bcap (cur.length + 1)) (31 * (T.length - p.toNat) + cur.length + bLS 0 202 + bLS 0 41 + bS bcap 201 + 60 - gS bcap (cur.length + 1)) [(3, .int (iI (tch T p))), (2, .ref a14), (1, .ref a1), (0, .ref r)] 155 [.ref a14]
              refine z_pop (pc := 155) C dX5_sheet_155 rfl ?_
              refine z_goto (pc := 156) (tgt := 25) C dX5_sheet_156 (by decide) ?_
              refine Z.weak (L' := [(2, .ref a14), (1, .ref a1), (0, .ref r)]) (kc' := 4 * (T.length - (p + 1).toNat) + bLC 0 202 + bLC 0 41 + bC (gcap bcap (cur.length + 1)) 201 + 29) (ks' := 31 * (T.length - (p + 1).toNat) + (cur ++ [tch T p]).length + bLS 0 202 + bLS 0 41 + bS (gcap bcap (cur.length + 1)) 201 + 60) [1, 2, 3] rfl (by omega) (by first | omega | (simp only [List.length_append, List.length_cons, List.length_nil] at *; omega)) ?_
              exact ih25 _ (by omega) (p + 1) h119 lys ys ls cs (cur ++ [tch T p]) (X.Γ.2.2.2 0) 0 (X.Γ.2.2.2 0) 0 v120 (gcap bcap (cur.length + 1)) (by omega) kh119 fh119_5 fh119_1 (lAt.mk (cap := 0) rfl rfl rfl fh119_2 fh119_3 lz_92 lt_92 ln_92 lc_92 (fun j q z => by have := (List.getElem?_eq_some_iff.mp z).1; omega) ph119_3) (lAt.mk (cap := 0) rfl rfl rfl fh119_4 fh119_3 lz_93 lt_93 ln_93 lc_93 (fun j q z => by have := (List.getElem?_eq_some_iff.mp z).1; omega) ph119_4) hb121 ph119_1 ph119_2 (Or.inr rfl) (Or.inr rfl) dv120 hdj0 (hrv.le (by omega)) ⟨f1, by omega, by rw [← hd0]; exact (rsh_le (by omega) (by omega) (by omega) (by omega)).symm⟩ rfl
            · refine z_aload_n (pc := 130) (j := 2) C dX5_sheet_130 rfl rfl ?_
              refine z_getfieldN (pc := 131) (v := .ref lq_10) C in_X2 rfl 0 (by decide) q168 (fun _ z => z) fh118_1 rfl dX5_sheet_131 ?_
              refine z_aload_n (pc := 134) (j := 1) C dX5_sheet_134 rfl rfl ?_
              refine z_callV (pc := 135) (n := 0) (kc' := (4 * (T.length - p.toNat) + bLC 0 202 + bLC 0 41 + bC bcap 201 + 29 - 2)) (ks' := (31 * (T.length - p.toNat) + cur.length + bLS 0 202 + bLS 0 41 + bS bcap 201 + 60 - (cur.length + 4))) C (ct_B_toString C.t (bAt.mk rfl rfl fh118_2 fh118_3 hlen_21 hcap_21 hcon_21 hfit_21 hasc_21)) (lw_V q617 q618 q619 q82 q620) (by decide +kernel) ⟨by decide, by decide⟩ fh118_2 rfl rfl rfl (Nat.le_of_ble_eq_true rfl) dX5_sheet_135 (by omega) (by omega) (zrk fun w h126 hp => ?_) zrx
              obtain ⟨a125, rfl, hs128, fa125, k127⟩ := hp
              have na125 : h a125 = none := kh118.none0 fa125 (List.not_mem_cons_of_ne_of_not_mem (Ne.symm (zneF fh118_0 fa125)) List.not_mem_nil)
              have kh126 : zkeep h h126 [r] := zkeep.loc kh118 k127 zall_nil
              have fh126_1 : h126 a1 = some (true, .inr (1, [.ref lq_10, .ref cq_10, .ref a3])) := k127.n fh118_1 List.not_mem_nil
              have fh126_2 : h126 a14 = some (true, .inr (12, [.ref v, .int (iI 0), .int z_21, .int (iI ((cur.length : Nat) : Int))])) := k127.n fh118_2 List.not_mem_nil
              have fh126_3 : h126 v = some (true, .inl (.byte, bcap, f_21)) := k127.n fh118_3 List.not_mem_nil
              have fh126_4 : h126 lq_10 = some (true, .inr (10, [.int (iI m_92), .ref (X.Γ.2.2.2 0), .int (iI ((lys.length : Nat) : Int))])) := k127.n fh118_4 List.not_mem_nil
              have fh126_5 : h126 (X.Γ.2.2.2 0) = some (false, .inl ((.object "java/lang/Object"), 0, f_93)) := k127.f fh118_5
              have fh126_6 : h126 cq_10 = some (true, .inr (10, [.int (iI m_93), .ref (X.Γ.2.2.2 0), .int (iI ((ys.length : Nat) : Int))])) := k127.n fh118_6 List.not_mem_nil
              have fh126_7 : h126 r = some (true, .inr (4, [.int (iI (p + 1)), .ref c])) := k127.n fh118_0 List.not_mem_nil
              have ph126_1 : sls h126 lys ls := sls.keep k127 ph118_1
              have ph126_2 : ycs h126 ys cs := ycs.keep k127 ph118_2
              have ph126_3 : ∀ q ∈ lys, zel h126 q := zels.keep k127 ph118_3
              have ph126_4 : ∀ q ∈ ys, zel h126 q := zels.keep k127 ph118_4
              show Z X h126 (4 * (T.length - p.toNat) + bLC 0 202 + bLC 0 41 + bC bcap 201 + 29 - 2) (31 * (T.length - p.toNat) + cur.length + bLS 0 202 + bLS 0 41 + bS bcap 201 + 60 - (cur.length + 4)) [(3, .int (iI (tch T p))), (2, .ref a14), (1, .ref a1), (0, .ref r)] 138 [.ref a125, .ref lq_10]
              obtain ⟨hl_129, v_129, x_129, y_129, g_129, h1_129, h2_129, h3_129, h4_129⟩ := id (hs128)
              have h1_129 : h126 (a125) = some (false, .inr (13, [.ref v_129, .int (iI 0), .int x_129, .int y_129])) := h1_129
              have pa_130 := (lAt.mk (cap := 0) rfl rfl rfl fh126_4 fh126_5 lz_92 lt_92 ln_92 lc_92 (fun j q z => by have := (List.getElem?_eq_some_iff.mp z).1; omega) ph126_3)
              have pb_130 := (lAt.mk (cap := 0) rfl rfl rfl fh126_6 fh126_5 lz_93 lt_93 ln_93 lc_93 (fun j q z => by have := (List.getElem?_eq_some_iff.mp z).1; omega) ph126_4)
              have hB_130 := lC_b (cap := 0) (n := lys.length + 1) (N := 202) (by omega) lt_92
              have hC_130 := lS_b (cap := 0) (n := lys.length + 1) (N := 202) (by omega) lt_92
              refine z_callV (pc := 138) (n := 1) (kc' := ((4 * (T.length - p.toNat) + bLC 0 202 + bLC 0 41 + bC bcap 201 + 29 - 2) - lC 0 (lys.length + 1))) (ks' := ((31 * (T.length - p.toNat) + cur.length + bLS 0 202 + bLS 0 41 + bS bcap 201 + 60 - (cur.length + 4)) - lS 0 (lys.length + 1))) C (ct_L_add C.t (lAt.mk (cap := 0) rfl rfl rfl fh126_4 fh126_5 lz_92 lt_92 ln_92 lc_92 (fun j q z => by have := (List.getElem?_eq_some_iff.mp z).1; omega) ph126_3) h1_129 rfl q2509 (by first | omega | (simp; omega))) (lw_V q616 q204 q205 q68 q206) (by decide +kernel) ⟨by decide, by decide⟩ fh126_4 rfl rfl rfl (Nat.le_of_ble_eq_true rfl) dX5_sheet_138 (by omega) (by omega) (zrk fun w h131 hp => ?_) zrx
              obtain ⟨rfl, e132, hl133, he134, k135⟩ := hp
              have de132 : e132 ∈ ([r] : List Nat) ∨ h e132 = none := zmayL (Or.inr rfl) (lAt.mk (cap := 0) rfl rfl rfl fh126_4 fh126_5 lz_92 lt_92 ln_92 lc_92 (fun j q z => by have := (List.getElem?_eq_some_iff.mp z).1; omega) ph126_3) hl133 (by have := lcap_ge (cap := 0) (n := lys.length + 1); omega) he134 kh126 k135
              have ge132 : e132 = (X.Γ.2.2.2 0) ∨ h e132 = none := he134.imp_right (fun z => kh126.none0 z (List.not_mem_cons_of_ne_of_not_mem (Ne.symm (zneF fh126_7 z)) List.not_mem_nil))
              have kh131 : zkeep h h131 [r] := zkeep.loc kh126 k135 (zall_cons (Or.inl (Or.symm (Or.inr nlq_10))) (zall_cons (lAt.fz (lAt.mk (cap := 0) rfl rfl rfl fh126_4 fh126_5 lz_92 lt_92 ln_92 lc_92 (fun j q z => by have := (List.getElem?_eq_some_iff.mp z).1; omega) ph126_3) (Or.inr rfl)) zall_nil))
              have fh131_1 : h131 a1 = some (true, .inr (1, [.ref lq_10, .ref cq_10, .ref a3])) := k135.n fh126_1 (List.not_mem_cons_of_ne_of_not_mem (zneC fh126_1 fh126_4 (by decide)) (List.not_mem_cons_of_ne_of_not_mem (Ne.symm (zneW fh126_5 fh126_1)) List.not_mem_nil))
              have fh131_2 : h131 a14 = some (true, .inr (12, [.ref v, .int (iI 0), .int z_21, .int (iI ((cur.length : Nat) : Int))])) := k135.n fh126_2 (List.not_mem_cons_of_ne_of_not_mem (Ne.symm (zneF la_12 fa14)) (List.not_mem_cons_of_ne_of_not_mem (Ne.symm (zneF le_13 fa14)) List.not_mem_nil))
              have fh131_3 : h131 v = some (true, .inl (.byte, bcap, f_21)) := k135.n fh126_3 (List.not_mem_cons_of_ne_of_not_mem (Ne.symm (zneA fh126_4 fh126_3)) (List.not_mem_cons_of_ne_of_not_mem (Ne.symm (zneW fh126_5 fh126_3)) List.not_mem_nil))
              have fh131_4 : h131 (X.Γ.2.2.2 0) = some (false, .inl ((.object "java/lang/Object"), 0, f_93)) := k135.f fh126_5
              have fh131_5 : h131 cq_10 = some (true, .inr (10, [.int (iI m_93), .ref (X.Γ.2.2.2 0), .int (iI ((ys.length : Nat) : Int))])) := k135.n fh126_6 (List.not_mem_cons_of_ne_of_not_mem (Ne.symm hne_10) (List.not_mem_cons_of_ne_of_not_mem (Ne.symm (zneW fh126_5 fh126_6)) List.not_mem_nil))
              have fh131_6 : h131 r = some (true, .inr (4, [.int (iI (p + 1)), .ref c])) := k135.n fh126_7 (List.not_mem_cons_of_ne_of_not_mem (zneC fh126_7 fh126_4 (by decide)) (List.not_mem_cons_of_ne_of_not_mem (Ne.symm (zneW fh126_5 fh126_7)) List.not_mem_nil))
              have fh131_7 : h131 a125 = some (false, .inr (13, [.ref v_129, .int (iI 0), .int x_129, .int y_129])) := k135.f h1_129
              have fh131_8 : h131 v_129 = some (false, .inl (.byte, cur.length, g_129)) := k135.f h2_129
              have ph131_1 : sls h131 lys ls := sls.keep k135 ph126_1
              have ph131_2 : ycs h131 ys cs := ycs.keep k135 ph126_2
              have ph131_3 : ∀ q ∈ lys, zel h131 q := zels.keep k135 ph126_3
              have ph131_4 : ∀ q ∈ ys, zel h131 q := zels.keep k135 ph126_4
              have ph131_5 : sAt h131 a125 cur := sAt.keep k135 hs128
              show Z X h131 ((4 * (T.length - p.toNat) + bLC 0 202 + bLC 0 41 + bC bcap 201 + 29 - 2) - lC 0 (lys.length + 1)) ((31 * (T.length - p.toNat) + cur.length + bLS 0 202 + bLS 0 41 + bS bcap 201 + 60 - (cur.length + 4)) - lS 0 (lys.length + 1)) [(3, .int (iI (tch T p))), (2, .ref a14), (1, .ref a1), (0, .ref r)] 141 [.int (iI 1)]
              have hdj_130 := lsep pa_130 pb_130 hdj0 he134 hl133 k135
              have hdk_130 : e132 ≠ (X.Γ.2.2.2 0) := hdj_130.resolve_right (fun z => by have := lcap_ge (cap := 0) (n := lys.length + 1); have := z.1; omega)
              have hx_136 := hl133
              obtain ⟨m_136, f_136, la_136, le_136, lz_136, lt_136, ln_136, lc_136, lx_136, lq_136⟩ := hx_136
              have hsl_137 := (ph131_1).app ph131_5
              refine z_pop (pc := 141) C dX5_sheet_141 rfl ?_
              refine z_aload_n (pc := 142) (j := 1) C dX5_sheet_142 rfl rfl ?_
              refine z_iconst (pc := 143) C dX5_sheet_143 ?_
              refine z_callV (pc := 144) (n := 1) (kc' := ((4 * (T.length - p.toNat) + bLC 0 202 + bLC 0 41 + bC bcap 201 + 29 - 2) - lC 0 (lys.length + 1))) (ks' := ((31 * (T.length - p.toNat) + cur.length + bLS 0 202 + bLS 0 41 + bS bcap 201 + 60 - (cur.length + 4)) - lS 0 (lys.length + 1))) C (ct_B_setLen C.t (bAt.mk rfl rfl fh131_2 fh131_3 hlen_21 hcap_21 hcon_21 hfit_21 hasc_21)) (lw_V q800 q801 q802 q82 q803) (by decide +kernel) ⟨by decide, by decide⟩ fh131_2 rfl rfl rfl (Nat.le_of_ble_eq_true rfl) dX5_sheet_144 (by omega) (by omega) (zrk fun w h138 hp => ?_) zrx
              obtain ⟨rfl, hb139, k140⟩ := hp
              have kh138 : zkeep h h138 [r] := zkeep.loc kh131 k140 (zall_cons (Or.inl (Or.symm (Or.inr na14))) zall_nil)
              have fh138_1 : h138 a1 = some (true, .inr (1, [.ref lq_10, .ref cq_10, .ref a3])) := k140.n fh131_1 (List.not_mem_cons_of_ne_of_not_mem (zneF fs11 fa14) List.not_mem_nil)
              have fh138_2 : h138 v = some (true, .inl (.byte, bcap, f_21)) := k140.n fh131_3 (List.not_mem_cons_of_ne_of_not_mem (Ne.symm (zneA fh131_2 fh131_3)) List.not_mem_nil)
              have fh138_3 : h138 (X.Γ.2.2.2 0) = some (false, .inl ((.object "java/lang/Object"), 0, f_93)) := k140.f fh131_4
              have fh138_4 : h138 cq_10 = some (true, .inr (10, [.int (iI m_93), .ref (X.Γ.2.2.2 0), .int (iI ((ys.length : Nat) : Int))])) := k140.n fh131_5 (List.not_mem_cons_of_ne_of_not_mem (zneF la_13 fa14) List.not_mem_nil)
              have fh138_5 : h138 r = some (true, .inr (4, [.int (iI (p + 1)), .ref c])) := k140.n fh131_6 (List.not_mem_cons_of_ne_of_not_mem (zneF fh8_1 fa14) List.not_mem_nil)
              have fh138_6 : h138 a125 = some (false, .inr (13, [.ref v_129, .int (iI 0), .int x_129, .int y_129])) := k140.f fh131_7
              have fh138_7 : h138 v_129 = some (false, .inl (.byte, cur.length, g_129)) := k140.f fh131_8
              have fh138_8 : h138 lq_10 = some (true, .inr (10, [.int (iI m_136), .ref e132, .int (iI (((lys ++ [a125]).length : Nat) : Int))])) := k140.n la_136 (List.not_mem_cons_of_ne_of_not_mem (zneF la_12 fa14) List.not_mem_nil)
              have fh138_9 : h138 e132 = some ((decide (lcap 0 (lys.length + 1) ≠ 0)), .inl ((.object "java/lang/Object"), lcap 0 (lys.length + 1), f_136)) := k140.n le_136 (List.not_mem_cons_of_ne_of_not_mem (Ne.symm (zneA fh131_2 le_136)) List.not_mem_nil)
              have ph138_1 : sls h138 (lys ++ [a125]) (ls ++ [cur]) := sls.keep k140 hsl_137
              have ph138_2 : ycs h138 ys cs := ycs.keep k140 ph131_2
              have ph138_3 : ∀ q ∈ lys ++ [a125], zel h138 q := zels.keep k140 lq_136
              have ph138_4 : ∀ q ∈ ys, zel h138 q := zels.keep k140 ph131_4
              have ph138_5 : sAt h138 a125 cur := sAt.keep k140 ph131_5
              have hx_141 := hb139
              obtain ⟨z_141, f_141, hb_141, hv_141, hlen_141, hcap_141, hcon_141, hfit_141, hasc_141⟩ := hx_141
              show Z X h138 ((4 * (T.length - p.toNat) + bLC 0 202 + bLC 0 41 + bC bcap 201 + 29 - 2) - lC 0 (lys.length + 1)) ((31 * (T.length - p.toNat) + cur.length + bLS 0 202 + bLS 0 41 + bS bcap 201 + 60 - (cur.length + 4)) - lS 0 (lys.length + 1)) [(3, .int (iI (tch T p))), (2, .ref a14), (1, .ref a1), (0, .ref r)] 147 []
              refine z_goto (pc := 147) (tgt := 156) C dX5_sheet_147 (by decide) ?_
              refine z_goto (pc := 156) (tgt := 25) C dX5_sheet_156 (by decide) ?_
              refine Z.weak (L' := [(2, .ref a14), (1, .ref a1), (0, .ref r)]) (kc' := 4 * (T.length - (p + 1).toNat) + bLC (lcap 0 (lys.length + 1)) 202 + bLC 0 41 + bC bcap 201 + 29) (ks' := 31 * (T.length - (p + 1).toNat) + ([]).length + bLS (lcap 0 (lys.length + 1)) 202 + bLS 0 41 + bS bcap 201 + 60) [1, 2, 3] rfl (by omega) (by first | omega | (simp only [List.length_append, List.length_cons, List.length_nil] at *; omega)) ?_
              exact ih25 _ (by omega) (p + 1) h138 (lys ++ [a125]) ys (ls ++ [cur]) cs ([]) e132 (lcap 0 (lys.length + 1)) (X.Γ.2.2.2 0) 0 v bcap (by omega) kh138 fh138_5 fh138_1 (lAt.mk (cap := lcap 0 (lys.length + 1)) rfl rfl rfl fh138_8 fh138_9 lz_136 lt_136 ln_136 lc_136 lx_136 ph138_3) (lAt.mk (cap := 0) rfl rfl rfl fh138_4 fh138_3 lz_93 lt_93 ln_93 lc_93 (fun j q z => by have := (List.getElem?_eq_some_iff.mp z).1; omega) ph138_4) hb139 ph138_1 ph138_2 (Or.inl de132) (Or.inr rfl) hmv hdj_130 (hrv.sl (by omega)) ⟨f1, by omega, by rw [← hd0]; exact (rsh_sl (by omega) (by omega) (by omega) (by omega)).symm⟩ rfl
          · refine z_aload_n (pc := 56) (j := 2) C dX5_sheet_56 rfl rfl ?_
            refine z_getfieldN (pc := 57) (v := .ref cq_10) C in_X2 rfl 1 (by decide) q171 (fun _ z => z) hs1 rfl dX5_sheet_57 ?_
            refine z_callV (pc := 60) (n := 0) (kc' := (4 * (T.length - p.toNat) + bLC 0 202 + bLC 0 41 + bC bcap 201 + 29)) (ks' := (31 * (T.length - p.toNat) + cur.length + bLS 0 202 + bLS 0 41 + bS bcap 201 + 60)) C (ct_L_size C.t la_93) (lw_V q366 q367 q368 q68 q369) (by decide +kernel) ⟨by decide, by decide⟩ la_93 rfl rfl rfl (Nat.le_of_ble_eq_true rfl) dX5_sheet_60 (by omega) (by omega) (zpk (st' := [.int (iI ((ys.length : Nat) : Int))]) rfl ?_) zrx
            refine z_bipush (pc := 63) C dX5_sheet_63 (by decide) ?_
            refine z_icmp_ne (pc := 65) (tgt := 80) C dX5_sheet_65 (by decide) (by omega) (by decide) (fun c65 => ?_) (fun c65 => ?_)
            · refine z_aload_n (pc := 80) (j := 3) C dX5_sheet_80 rfl rfl ?_
              refine z_dup (pc := 81) C dX5_sheet_81 rfl ?_
              refine z_getfield (pc := 82) (v := .int (iI p)) C in_X5 rfl 0 (by decide) q315 (fun _ z => z) hru rfl dX5_sheet_82 ?_
              refine z_iconst (pc := 85) C dX5_sheet_85 ?_
              refine z_iadd (pc := 86) C dX5_sheet_86 ?_
              refine z_putfield (pc := 87) (fs' := [.int (iI (p + 1)), .ref c]) C in_X5 tyX5 tyX5_ok nmX5 rfl 0 (by decide) q315 (fun _ z => z) rfl rfl rfl (Nat.le_of_ble_eq_true rfl) hru rfl dX5_sheet_87 ?_
              refine Z.nm (fun h142 eh142 => ?_)
              have kh142 : zkeep h h142 [r] := by rw [eh142]; exact zkeep.up hkp (Or.inl (by simp)) hru
              have fh142_0 : h142 r = some (true, .inr (4, [.int (iI (p + 1)), .ref c])) := zse eh142
              have fh142_1 : h142 a1 = some (true, .inr (1, [.ref lq_10, .ref cq_10, .ref a3])) := zsn eh142 hs1 (Ne.symm (zneF hr fa1))
              have fh142_2 : h142 a14 = some (true, .inr (12, [.ref v, .int (iI 0), .int z_21, .int (iI ((cur.length : Nat) : Int))])) := zsn eh142 hb_21 (Ne.symm (zneF fh8_1 fa14))
              have fh142_3 : h142 v = some (true, .inl (.byte, bcap, f_21)) := zsn eh142 hv_21 (Ne.symm (zneA hru hv_21))
              have fh142_4 : h142 lq_10 = some (true, .inr (10, [.int (iI m_92), .ref (X.Γ.2.2.2 0), .int (iI ((lys.length : Nat) : Int))])) := zsn eh142 la_92 (zneC la_92 hru (by decide))
              have fh142_5 : h142 (X.Γ.2.2.2 0) = some (false, .inl ((.object "java/lang/Object"), 0, f_93)) := zsn eh142 le_93 (zneW le_93 hru)
              have fh142_6 : h142 cq_10 = some (true, .inr (10, [.int (iI m_93), .ref (X.Γ.2.2.2 0), .int (iI ((ys.length : Nat) : Int))])) := zsn eh142 la_93 (zneC la_93 hru (by decide))
              have sh142 : zkeep g h142 [r] := zkeep.one eh142 hru
              have ph142_1 : sls h142 lys ls := sls.keep sh142 hsl
              have ph142_2 : ycs h142 ys cs := ycs.keep sh142 hyc
              have ph142_3 : ∀ q ∈ lys, zel h142 q := zels.keep sh142 lq_92
              have ph142_4 : ∀ q ∈ ys, zel h142 q := zels.keep sh142 lq_93
              refine z_iload_n (pc := 90) (j := 0) C dX5_sheet_90 rfl rfl ?_
              refine z_bipush (pc := 91) C dX5_sheet_91 (by decide) ?_
              refine z_icmp_ne (pc := 93) (tgt := 124) C dX5_sheet_93 (by decide) (by omega) (by decide) (fun c93 => by exfalso; omega) (fun c93 => ?_)
              refine z_aload_n (pc := 96) (j := 2) C dX5_sheet_96 rfl rfl ?_
              refine z_getfieldN (pc := 97) (v := .ref cq_10) C in_X2 rfl 1 (by decide) q171 (fun _ z => z) fh142_1 rfl dX5_sheet_97 ?_
              refine z_aload_n (pc := 100) (j := 3) C dX5_sheet_100 rfl rfl ?_
              refine z_aload_n (pc := 101) (j := 2) C dX5_sheet_101 rfl rfl ?_
              refine z_getfieldN (pc := 102) (v := .ref lq_10) C in_X2 rfl 0 (by decide) q168 (fun _ z => z) fh142_1 rfl dX5_sheet_102 ?_
              refine z_callV (pc := 105) (n := 0) (kc' := (4 * (T.length - p.toNat) + bLC 0 202 + bLC 0 41 + bC bcap 201 + 29)) (ks' := (31 * (T.length - p.toNat) + cur.length + bLS 0 202 + bLS 0 41 + bS bcap 201 + 60)) C (ct_L_size C.t fh142_4) (lw_V q366 q367 q368 q68 q369) (by decide +kernel) ⟨by decide, by decide⟩ fh142_4 rfl rfl rfl (Nat.le_of_ble_eq_true rfl) dX5_sheet_105 (by omega) (by omega) (zpk (st' := [.int (iI ((lys.length : Nat) : Int)), .ref r, .ref cq_10]) rfl ?_) zrx
              rw [show ((((lys.length : Nat) : Int)) : Int) = ((ls.length : Nat) : Int) from by rw [hll]]
              show Z X h142 (4 * (T.length - p.toNat) + bLC 0 202 + bLC 0 41 + bC bcap 201 + 29) (31 * (T.length - p.toNat) + cur.length + bLS 0 202 + bLS 0 41 + bS bcap 201 + 60) [(3, .int (iI (tch T p))), (2, .ref a14), (1, .ref a1), (0, .ref r)] 108 [.int (iI ((ls.length : Nat) : Int)), .ref r, .ref cq_10]
              refine z_aload_n (pc := 108) (j := 1) C dX5_sheet_108 rfl rfl ?_
              refine z_callV (pc := 109) (n := 0) (kc' := (4 * (T.length - p.toNat) + bLC 0 202 + bLC 0 41 + bC bcap 201 + 29)) (ks' := (31 * (T.length - p.toNat) + cur.length + bLS 0 202 + bLS 0 41 + bS bcap 201 + 60)) C (ct_B_length (cap := 0) (f := fun _ => .null) C.t fh142_2) (lw_V q438 q439 q440 q82 q441) (by decide +kernel) ⟨by decide, by decide⟩ fh142_2 rfl rfl rfl (Nat.le_of_ble_eq_true rfl) dX5_sheet_109 (by omega) (by omega) (zpk (st' := [.int (iI ((cur.length : Nat) : Int)), .int (iI ((ls.length : Nat) : Int)), .ref r, .ref cq_10]) rfl ?_) zrx
              refine z_bipush (pc := 112) C dX5_sheet_112 (by decide) ?_
              refine z_callV (pc := 114) (n := 3) (kc' := (4 * (T.length - p.toNat) + bLC 0 202 + bLC 0 41 + bC bcap 201 + 29 - 4)) (ks' := (31 * (T.length - p.toNat) + cur.length + bLS 0 202 + bLS 0 41 + bS bcap 201 + 60 - 28)) C (ct_R_chord C.t (p := p + 1) fh142_0 (kh142.n hc0 (List.not_mem_cons_of_ne_of_not_mem (zneC hc0 hr (by decide)) List.not_mem_nil)) (kh142.n htx (List.not_mem_cons_of_ne_of_not_mem (Ne.symm (zneA hr htx)) List.not_mem_nil)) hch rtx rtl (by omega) (ln := ((ls.length : Nat) : Int)) (co := ((cur.length : Nat) : Int)) (e := 93) (by omega)) (lw_V q445 q446 q447 q80 q448) (by decide +kernel) ⟨by decide, by decide⟩ fh142_0 rfl rfl rfl (Nat.le_of_ble_eq_true rfl) dX5_sheet_114 (by omega) (by omega) (zbk fun w h143 hp => ?_) (zbx fun q145 h144 hp => ?_)
              · obtain ⟨rt_146, q_146, b_146, p_146, a_146, hcp_146, rfl, fk_146, fa_146, hr_146, k147⟩ := hp
                have na_146 : h a_146 = none := kh142.none0 fa_146 (List.not_mem_cons_of_ne_of_not_mem (Ne.symm (zneF fh142_0 fa_146)) List.not_mem_nil)
                have kh143 : zkeep h h143 [r] := zkeep.loc kh142 k147 (zall_cons (Or.inl (Or.symm (Or.inl (by simp)))) zall_nil)
                have fh143_1 : h143 a1 = some (true, .inr (1, [.ref lq_10, .ref cq_10, .ref a3])) := k147.n fh142_1 (List.not_mem_cons_of_ne_of_not_mem (Ne.symm (zneF hr fa1)) List.not_mem_nil)
                have fh143_2 : h143 a14 = some (true, .inr (12, [.ref v, .int (iI 0), .int z_21, .int (iI ((cur.length : Nat) : Int))])) := k147.n fh142_2 (List.not_mem_cons_of_ne_of_not_mem (Ne.symm (zneF fh8_1 fa14)) List.not_mem_nil)
                have fh143_3 : h143 v = some (true, .inl (.byte, bcap, f_21)) := k147.n fh142_3 (List.not_mem_cons_of_ne_of_not_mem (Ne.symm (zneA fh142_0 fh142_3)) List.not_mem_nil)
                have fh143_4 : h143 lq_10 = some (true, .inr (10, [.int (iI m_92), .ref (X.Γ.2.2.2 0), .int (iI ((lys.length : Nat) : Int))])) := k147.n fh142_4 (List.not_mem_cons_of_ne_of_not_mem (zneC fh142_4 fh142_0 (by decide)) List.not_mem_nil)
                have fh143_5 : h143 (X.Γ.2.2.2 0) = some (false, .inl ((.object "java/lang/Object"), 0, f_93)) := k147.f fh142_5
                have fh143_6 : h143 cq_10 = some (true, .inr (10, [.int (iI m_93), .ref (X.Γ.2.2.2 0), .int (iI ((ys.length : Nat) : Int))])) := k147.n fh142_6 (List.not_mem_cons_of_ne_of_not_mem (zneC fh142_6 fh142_0 (by decide)) List.not_mem_nil)
                have ph143_1 : sls h143 lys ls := sls.keep k147 ph142_1
                have ph143_2 : ycs h143 ys cs := ycs.keep k147 ph142_2
                have ph143_3 : ∀ q ∈ lys, zel h143 q := zels.keep k147 ph142_3
                have ph143_4 : ∀ q ∈ ys, zel h143 q := zels.keep k147 ph142_4
                show Z X h143 (4 * (T.length - p.toNat) + bLC 0 202 + bLC 0 41 + bC bcap 201 + 29 - 4) (31 * (T.length - p.toNat) + cur.length + bLS 0 202 + bLS 0 41 + bS bcap 201 + 60 - 28) [(3, .int (iI (tch T p))), (2, .ref a14), (1, .ref a1), (0, .ref r)] 117 [.ref a_146, .ref cq_10]
                have hcr_146 := chp_r (by omega) hcp_146
                have hcu_146 := chp_u (by decide) hcp_146
                have pa_148 := (lAt.mk (cap := 0) rfl rfl rfl fh143_6 fh143_5 lz_93 lt_93 ln_93 lc_93 (fun j q z => by have := (List.getElem?_eq_some_iff.mp z).1; omega) ph143_4)
                have pb_148 := (lAt.mk (cap := 0) rfl rfl rfl fh143_4 fh143_5 lz_92 lt_92 ln_92 lc_92 (fun j q z => by have := (List.getElem?_eq_some_iff.mp z).1; omega) ph143_3)
                have hB_148 := lC_b (cap := 0) (n := ys.length + 1) (N := 41) (by omega) lt_93
                have hC_148 := lS_b (cap := 0) (n := ys.length + 1) (N := 41) (by omega) lt_93
                refine z_callV (pc := 117) (n := 1) (kc' := ((4 * (T.length - p.toNat) + bLC 0 202 + bLC 0 41 + bC bcap 201 + 29 - 4) - lC 0 (ys.length + 1))) (ks' := ((31 * (T.length - p.toNat) + cur.length + bLS 0 202 + bLS 0 41 + bS bcap 201 + 60 - 28) - lS 0 (ys.length + 1))) C (ct_L_add C.t (lAt.mk (cap := 0) rfl rfl rfl fh143_6 fh143_5 lz_93 lt_93 ln_93 lc_93 (fun j q z => by have := (List.getElem?_eq_some_iff.mp z).1; omega) ph143_4) fk_146 rfl q2508 (by first | omega | (simp; omega))) (lw_V q616 q204 q205 q68 q206) (by decide +kernel) ⟨by decide, by decide⟩ fh143_6 rfl rfl rfl (Nat.le_of_ble_eq_true rfl) dX5_sheet_117 (by omega) (by omega) (zrk fun w h149 hp => ?_) zrx
                obtain ⟨rfl, e150, hl151, he152, k153⟩ := hp
                have de150 : e150 ∈ ([r] : List Nat) ∨ h e150 = none := zmayL (Or.inr rfl) (lAt.mk (cap := 0) rfl rfl rfl fh143_6 fh143_5 lz_93 lt_93 ln_93 lc_93 (fun j q z => by have := (List.getElem?_eq_some_iff.mp z).1; omega) ph143_4) hl151 (by have := lcap_ge (cap := 0) (n := ys.length + 1); omega) he152 kh143 k153
                have ge150 : e150 = (X.Γ.2.2.2 0) ∨ h e150 = none := he152.imp_right (fun z => kh143.none0 z (List.not_mem_cons_of_ne_of_not_mem (Ne.symm (zneF hr_146 z)) List.not_mem_nil))
                have kh149 : zkeep h h149 [r] := zkeep.loc kh143 k153 (zall_cons (Or.inl (Or.symm (Or.inr ncq_10))) (zall_cons (lAt.fz (lAt.mk (cap := 0) rfl rfl rfl fh143_6 fh143_5 lz_93 lt_93 ln_93 lc_93 (fun j q z => by have := (List.getElem?_eq_some_iff.mp z).1; omega) ph143_4) (Or.inr rfl)) zall_nil))
                have fh149_1 : h149 a1 = some (true, .inr (1, [.ref lq_10, .ref cq_10, .ref a3])) := k153.n fh143_1 (List.not_mem_cons_of_ne_of_not_mem (zneC fh143_1 fh143_6 (by decide)) (List.not_mem_cons_of_ne_of_not_mem (Ne.symm (zneW fh143_5 fh143_1)) List.not_mem_nil))
                have fh149_2 : h149 a14 = some (true, .inr (12, [.ref v, .int (iI 0), .int z_21, .int (iI ((cur.length : Nat) : Int))])) := k153.n fh143_2 (List.not_mem_cons_of_ne_of_not_mem (Ne.symm (zneF la_13 fa14)) (List.not_mem_cons_of_ne_of_not_mem (Ne.symm (zneF le_13 fa14)) List.not_mem_nil))
                have fh149_3 : h149 v = some (true, .inl (.byte, bcap, f_21)) := k153.n fh143_3 (List.not_mem_cons_of_ne_of_not_mem (Ne.symm (zneA fh143_6 fh143_3)) (List.not_mem_cons_of_ne_of_not_mem (Ne.symm (zneW fh143_5 fh143_3)) List.not_mem_nil))
                have fh149_4 : h149 lq_10 = some (true, .inr (10, [.int (iI m_92), .ref (X.Γ.2.2.2 0), .int (iI ((lys.length : Nat) : Int))])) := k153.n fh143_4 (List.not_mem_cons_of_ne_of_not_mem hne_10 (List.not_mem_cons_of_ne_of_not_mem (Ne.symm (zneW fh143_5 fh143_4)) List.not_mem_nil))
                have fh149_5 : h149 (X.Γ.2.2.2 0) = some (false, .inl ((.object "java/lang/Object"), 0, f_93)) := k153.f fh143_5
                have fh149_6 : h149 r = some (true, .inr (4, [.int (iI p_146), .ref c])) := k153.n hr_146 (List.not_mem_cons_of_ne_of_not_mem (zneC hr_146 fh143_6 (by decide)) (List.not_mem_cons_of_ne_of_not_mem (Ne.symm (zneW fh143_5 hr_146)) List.not_mem_nil))
                have fh149_7 : h149 a_146 = some (false, .inr (6, [.int (iI ((ls.length : Nat) : Int)), .int (iI ((cur.length : Nat) : Int)), .int (iI rt_146), .int (iI q_146), .int (iI b_146)])) := k153.f fk_146
                have ph149_1 : sls h149 lys ls := sls.keep k153 ph143_1
                have ph149_2 : ycs h149 ys cs := ycs.keep k153 ph143_2
                have ph149_3 : ∀ q ∈ lys, zel h149 q := zels.keep k153 ph143_3
                have ph149_4 : ∀ q ∈ ys, zel h149 q := zels.keep k153 ph143_4
                show Z X h149 ((4 * (T.length - p.toNat) + bLC 0 202 + bLC 0 41 + bC bcap 201 + 29 - 4) - lC 0 (ys.length + 1)) ((31 * (T.length - p.toNat) + cur.length + bLS 0 202 + bLS 0 41 + bS bcap 201 + 60 - 28) - lS 0 (ys.length + 1)) [(3, .int (iI (tch T p))), (2, .ref a14), (1, .ref a1), (0, .ref r)] 120 [.int (iI 1)]
                have hdj_148 := (lsep pa_148 pb_148 ((hdj0).imp Ne.symm And.symm) he152 hl151 k153).imp Ne.symm And.symm
                have hdk_148 : e150 ≠ (X.Γ.2.2.2 0) := (hdj_148.imp Ne.symm And.symm).resolve_right (fun z => by have := lcap_ge (cap := 0) (n := ys.length + 1); have := z.1; omega)
                have hx_154 := hl151
                obtain ⟨m_154, f_154, la_154, le_154, lz_154, lt_154, ln_154, lc_154, lx_154, lq_154⟩ := hx_154
                have hyc2 := (ph149_2).app (c := ((((ls.length : Nat) : Int), ((cur.length : Nat) : Int), rt_146, q_146, b_146) : zCh)) fh149_7
                refine z_pop (pc := 120) C dX5_sheet_120 rfl ?_
                refine z_goto (pc := 121) (tgt := 156) C dX5_sheet_121 (by decide) ?_
                refine z_goto (pc := 156) (tgt := 25) C dX5_sheet_156 (by decide) ?_
                refine Z.weak (L' := [(2, .ref a14), (1, .ref a1), (0, .ref r)]) (kc' := 4 * (T.length - p_146.toNat) + bLC 0 202 + bLC (lcap 0 (ys.length + 1)) 41 + bC bcap 201 + 29) (ks' := 31 * (T.length - p_146.toNat) + cur.length + bLS 0 202 + bLS (lcap 0 (ys.length + 1)) 41 + bS bcap 201 + 60) [1, 2, 3] rfl (by omega) (by first | omega | (simp only [List.length_append, List.length_cons, List.length_nil] at *; omega)) ?_
                exact ih25 _ (by omega) p_146 h149 lys (ys ++ [a_146]) ls (cs ++ [((((ls.length : Nat) : Int), ((cur.length : Nat) : Int), rt_146, q_146, b_146) : zCh)]) cur (X.Γ.2.2.2 0) 0 e150 (lcap 0 (ys.length + 1)) v bcap (by omega) kh149 fh149_6 fh149_1 (lAt.mk (cap := 0) rfl rfl rfl fh149_4 fh149_5 lz_92 lt_92 ln_92 lc_92 (fun j q z => by have := (List.getElem?_eq_some_iff.mp z).1; omega) ph149_3) hl151 (bAt.mk rfl rfl fh149_2 fh149_3 hlen_21 hcap_21 hcon_21 hfit_21 hasc_21) ph149_1 hyc2 (Or.inr rfl) (Or.inl de150) hmv hdj_148 (hrv.ch (by omega) (by omega) ⟨hcr_146.1, hcr_146.2.1, hcr_146.2.2.1⟩) ⟨f1, by omega, by rw [← hd0]; exact (rsh_co (by omega) (by omega) (by omega) hcp_146).symm⟩ rfl
              · obtain ⟨x_155, hcp_155, hte_155, fq145, k156⟩ := hp
                have nq145 : h q145 = none := kh142.none0 fq145 (List.not_mem_cons_of_ne_of_not_mem (Ne.symm (zneF fh142_0 fq145)) List.not_mem_nil)
                have kh144 : zkeep h h144 [r] := zkeep.loc kh142 k156 (zall_cons (Or.inl (Or.symm (Or.inl (by simp)))) zall_nil)
                have fh144_1 : h144 a1 = some (true, .inr (1, [.ref lq_10, .ref cq_10, .ref a3])) := k156.n fh142_1 (List.not_mem_cons_of_ne_of_not_mem (Ne.symm (zneF hr fa1)) List.not_mem_nil)
                have fh144_2 : h144 a14 = some (true, .inr (12, [.ref v, .int (iI 0), .int z_21, .int (iI ((cur.length : Nat) : Int))])) := k156.n fh142_2 (List.not_mem_cons_of_ne_of_not_mem (Ne.symm (zneF fh8_1 fa14)) List.not_mem_nil)
                have fh144_3 : h144 v = some (true, .inl (.byte, bcap, f_21)) := k156.n fh142_3 (List.not_mem_cons_of_ne_of_not_mem (Ne.symm (zneA fh142_0 fh142_3)) List.not_mem_nil)
                have fh144_4 : h144 lq_10 = some (true, .inr (10, [.int (iI m_92), .ref (X.Γ.2.2.2 0), .int (iI ((lys.length : Nat) : Int))])) := k156.n fh142_4 (List.not_mem_cons_of_ne_of_not_mem (zneC fh142_4 fh142_0 (by decide)) List.not_mem_nil)
                have fh144_5 : h144 (X.Γ.2.2.2 0) = some (false, .inl ((.object "java/lang/Object"), 0, f_93)) := k156.f fh142_5
                have fh144_6 : h144 cq_10 = some (true, .inr (10, [.int (iI m_93), .ref (X.Γ.2.2.2 0), .int (iI ((ys.length : Nat) : Int))])) := k156.n fh142_6 (List.not_mem_cons_of_ne_of_not_mem (zneC fh142_6 fh142_0 (by decide)) List.not_mem_nil)
                have ph144_1 : sls h144 lys ls := sls.keep k156 ph142_1
                have ph144_2 : ycs h144 ys cs := ycs.keep k156 ph142_2
                have ph144_3 : ∀ q ∈ lys, zel h144 q := zels.keep k156 ph142_3
                have ph144_4 : ∀ q ∈ ys, zel h144 q := zels.keep k156 ph142_4
                exact zx_out C (fun x hx => nomatch hx) (by rw [hXp]; exact Or.inr ⟨_, rfl, x_155, (by rw [← hd0]; exact rsh_cb (by omega) (by omega) (by omega) hcp_155), hte_155, nq145, kh144⟩)
            · refine z_new (pc := 68) (ci := 5) (kc' := (4 * (T.length - p.toNat) + bLC 0 202 + bLC 0 41 + bC bcap 201 + 29 - 1)) (ks' := (31 * (T.length - p.toNat) + cur.length + bLS 0 202 + bLS 0 41 + bS bcap 201 + 60 - 7)) (fs := [.null, .null, .null, .null, .null, .int (iI 0), .int (iI 0)]) C in_X6 tyX6 tyX6_ok rfl q370 q371 q85 df_X6 (by omega) (by omega) dX5_sheet_68 (fun a157 fa157 => ?_)
              refine Z.nm (fun h158 eh158 => ?_)
              have na157 : h a157 = none := hkp.none0 fa157 (List.not_mem_cons_of_ne_of_not_mem (Ne.symm (zneF hru fa157)) List.not_mem_nil)
              have kh158 : zkeep h h158 [r] := by rw [eh158]; exact zkeep.born hkp fa157
              have fh158_0 : h158 a157 = some (true, .inr (5, [.null, .null, .null, .null, .null, .int (iI 0), .int (iI 0)])) := zse eh158
              have fh158_1 : h158 r = some (true, .inr (4, [.int (iI p), .ref c])) := zsn eh158 hru (zneF hru fa157)
              have fh158_2 : h158 a1 = some (true, .inr (1, [.ref lq_10, .ref cq_10, .ref a3])) := zsn eh158 hs1 (zneF hs1 fa157)
              have fh158_3 : h158 a14 = some (true, .inr (12, [.ref v, .int (iI 0), .int z_21, .int (iI ((cur.length : Nat) : Int))])) := zsn eh158 hb_21 (zneF hb_21 fa157)
              have fh158_4 : h158 v = some (true, .inl (.byte, bcap, f_21)) := zsn eh158 hv_21 (zneF hv_21 fa157)
              have fh158_5 : h158 lq_10 = some (true, .inr (10, [.int (iI m_92), .ref (X.Γ.2.2.2 0), .int (iI ((lys.length : Nat) : Int))])) := zsn eh158 la_92 (zneF la_92 fa157)
              have fh158_6 : h158 (X.Γ.2.2.2 0) = some (false, .inl ((.object "java/lang/Object"), 0, f_93)) := zsn eh158 le_93 (zneF le_93 fa157)
              have fh158_7 : h158 cq_10 = some (true, .inr (10, [.int (iI m_93), .ref (X.Γ.2.2.2 0), .int (iI ((ys.length : Nat) : Int))])) := zsn eh158 la_93 (zneF la_93 fa157)
              have sh158 : zkeep g h158 [] := zkeep.one0 eh158 fa157
              have ph158_1 : sls h158 lys ls := sls.keep sh158 hsl
              have ph158_2 : ycs h158 ys cs := ycs.keep sh158 hyc
              have ph158_3 : ∀ q ∈ lys, zel h158 q := zels.keep sh158 lq_92
              have ph158_4 : ∀ q ∈ ys, zel h158 q := zels.keep sh158 lq_93
              refine z_dup (pc := 71) C dX5_sheet_71 rfl ?_
              refine z_aload_n (pc := 72) (j := 3) C dX5_sheet_72 rfl rfl ?_
              refine z_getfield (pc := 73) (v := .int (iI p)) C in_X5 rfl 0 (by decide) q315 (fun _ z => z) fh158_1 rfl dX5_sheet_73 ?_
              refine z_callI (pc := 76) (n := 1) (kc' := (4 * (T.length - p.toNat) + bLC 0 202 + bLC 0 41 + bC bcap 201 + 29 - 1)) (ks' := (31 * (T.length - p.toNat) + cur.length + bLS 0 202 + bLS 0 41 + bS bcap 201 + 60 - 7)) C (ct_TE_init C.t fh158_0 (p := p)) q414 q85 q412 q413 rfl (by decide +kernel) ⟨by decide, by decide⟩ rfl rfl (Nat.le_of_ble_eq_true rfl) dX5_sheet_76 (by omega) (by omega) (zrk fun w h159 hp => ?_) zrx
              obtain ⟨rfl, fq160, k161⟩ := hp
              have kh159 : zkeep h h159 [r] := zkeep.loc kh158 k161 (zall_cons (Or.inl (Or.symm (Or.inr na157))) zall_nil)
              have fh159_1 : h159 r = some (true, .inr (4, [.int (iI p), .ref c])) := k161.n fh158_1 (List.not_mem_cons_of_ne_of_not_mem (zneF hru fa157) List.not_mem_nil)
              have fh159_2 : h159 a1 = some (true, .inr (1, [.ref lq_10, .ref cq_10, .ref a3])) := k161.n fh158_2 (List.not_mem_cons_of_ne_of_not_mem (zneF hs1 fa157) List.not_mem_nil)
              have fh159_3 : h159 a14 = some (true, .inr (12, [.ref v, .int (iI 0), .int z_21, .int (iI ((cur.length : Nat) : Int))])) := k161.n fh158_3 (List.not_mem_cons_of_ne_of_not_mem (zneF hb_21 fa157) List.not_mem_nil)
              have fh159_4 : h159 v = some (true, .inl (.byte, bcap, f_21)) := k161.n fh158_4 (List.not_mem_cons_of_ne_of_not_mem (zneF hv_21 fa157) List.not_mem_nil)
              have fh159_5 : h159 lq_10 = some (true, .inr (10, [.int (iI m_92), .ref (X.Γ.2.2.2 0), .int (iI ((lys.length : Nat) : Int))])) := k161.n fh158_5 (List.not_mem_cons_of_ne_of_not_mem (zneF la_92 fa157) List.not_mem_nil)
              have fh159_6 : h159 (X.Γ.2.2.2 0) = some (false, .inl ((.object "java/lang/Object"), 0, f_93)) := k161.f fh158_6
              have fh159_7 : h159 cq_10 = some (true, .inr (10, [.int (iI m_93), .ref (X.Γ.2.2.2 0), .int (iI ((ys.length : Nat) : Int))])) := k161.n fh158_7 (List.not_mem_cons_of_ne_of_not_mem (zneF la_93 fa157) List.not_mem_nil)
              have ph159_1 : sls h159 lys ls := sls.keep k161 ph158_1
              have ph159_2 : ycs h159 ys cs := ycs.keep k161 ph158_2
              have ph159_3 : ∀ q ∈ lys, zel h159 q := zels.keep k161 ph158_3
              have ph159_4 : ∀ q ∈ ys, zel h159 q := zels.keep k161 ph158_4
              show Z X h159 (4 * (T.length - p.toNat) + bLC 0 202 + bLC 0 41 + bC bcap 201 + 29 - 1) (31 * (T.length - p.toNat) + cur.length + bLS 0 202 + bLS 0 41 + bS bcap 201 + 60 - 7) [(3, .int (iI (tch T p))), (2, .ref a14), (1, .ref a1), (0, .ref r)] 79 [.ref a157]
              refine z_athrow (pc := 79) C rfl fq160 dX5_sheet_79 ?_
              exact zx_out C (fun x hx => nomatch hx) (by rw [hXp]; exact Or.inr ⟨_, rfl, p, (by rw [← hd0]; exact rsh_bad (by omega) (by omega)), fq160, na157, kh159⟩)
  refine Z.weak (L' := [(2, .ref a14), (1, .ref a1), (0, .ref r)]) (kc' := 4 * (T.length - (0 : Int).toNat) + bLC 0 202 + bLC 0 41 + bC 16 201 + 29) (ks' := 31 * (T.length - (0 : Int).toNat) + ([]).length + bLS 0 202 + bLS 0 41 + bS 16 201 + 60) [0, 1, 2] rfl (by omega) (by first | omega | (simp only [List.length_append, List.length_cons, List.length_nil] at *; omega)) ?_
  exact loop25 _ 0 h16 ([] : List Nat) ([] : List Nat) ([]) ([]) ([]) (X.Γ.2.2.2 0) 0 (X.Γ.2.2.2 0) 0 v17 16 (by omega) kh16 fh16_1 fh16_3 (lAt.mk (cap := 0) rfl rfl rfl fh16_4 fh16_5 lz_12 lt_12 ln_12 lc_12 (fun j q e => by simp at e) ph16_1) (lAt.mk (cap := 0) rfl rfl rfl fh16_6 fh16_5 lz_13 lt_13 ln_13 lc_13 (fun j q e => by simp at e) ph16_2) hb18 ⟨[], rfl, rfl, fun _ z => nomatch z⟩ ⟨[], rfl, rfl, fun _ z => nomatch z⟩ (Or.inr rfl) (Or.inr rfl) (Or.inr nv17) (Or.inr ⟨rfl, rfl⟩) ⟨by decide, (fun _ z => nomatch z), by decide, by decide⟩ ⟨T.length + 1, by omega, rfl⟩ rfl

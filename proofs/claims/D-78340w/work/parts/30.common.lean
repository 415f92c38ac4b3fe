/-! 30.common.lean.txt -/
set_option maxRecDepth 100000
def RJ19 : String := "java/lang/Integer"
abbrev cJ19_bitCount : ByteArray := prog_24_method_49_code
def yJ19_bitCount : MethodName := ⟨RJ19, "bitCount", "(I)I"⟩
def dkwJ19_bitCount_2 : List UInt8 := [26, 16, 63, 126, 172]
abbrev dktJ19_bitCount_2 : List UInt8 := dkwJ19_bitCount_2 ++ []
def dkwJ19_bitCount_1 : List UInt8 := [26, 26, 7, 124, 96, 19, 1, 11, 126, 59, 26, 26, 16, 8, 124, 96, 59, 26, 26, 16, 16, 124, 96, 59]
abbrev dktJ19_bitCount_1 : List UInt8 := dkwJ19_bitCount_1 ++ dktJ19_bitCount_2
def dkwJ19_bitCount_0 : List UInt8 := [26, 26, 4, 124, 19, 1, 9, 126, 100, 59, 26, 19, 1, 10, 126, 26, 5, 124, 19, 1, 10, 126, 96, 59]
abbrev dktJ19_bitCount_0 : List UInt8 := dkwJ19_bitCount_0 ++ dktJ19_bitCount_1
theorem dksJ19_bitCount_0 : cJ19_bitCount.data.toList.drop 0 = dktJ19_bitCount_0 := by decide +kernel
theorem dksJ19_bitCount_1 : cJ19_bitCount.data.toList.drop 24 = dktJ19_bitCount_1 := dk_seg dksJ19_bitCount_0 24 rfl rfl
theorem dksJ19_bitCount_2 : cJ19_bitCount.data.toList.drop 48 = dktJ19_bitCount_2 := dk_seg dksJ19_bitCount_1 24 rfl rfl
abbrev cX1_commonTones : ByteArray := prog_1_method_38_code
def yX1_commonTones : MethodName := ⟨RX1, "commonTones", "(I)I"⟩
def dkwX1_commonTones_1 : List UInt8 := [42, 27, 4, 96, 182, 0, 190, 182, 0, 233, 126, 184, 0, 236, 172]
abbrev dktX1_commonTones_1 : List UInt8 := dkwX1_commonTones_1 ++ []
def dkwX1_commonTones_0 : List UInt8 := [27, 42, 180, 0, 31, 180, 0, 165, 182, 0, 168, 4, 100, 184, 0, 176, 42, 27, 182, 0, 190, 182, 0, 233]
abbrev dktX1_commonTones_0 : List UInt8 := dkwX1_commonTones_0 ++ dktX1_commonTones_1
theorem dksX1_commonTones_0 : cX1_commonTones.data.toList.drop 0 = dktX1_commonTones_0 := by decide +kernel
theorem dksX1_commonTones_1 : cX1_commonTones.data.toList.drop 24 = dktX1_commonTones_1 := dk_seg dksX1_commonTones_0 24 rfl rfl
theorem dJ19_bitCount_0 : decode cJ19_bitCount 0 = .ok (.iload_n 0, 1) := dk_26 (dk_at dksJ19_bitCount_0 0 rfl rfl)
theorem dJ19_bitCount_1 : decode cJ19_bitCount 1 = .ok (.iload_n 0, 1) := dk_26 (dk_at dksJ19_bitCount_0 1 rfl rfl)
theorem dJ19_bitCount_2 : decode cJ19_bitCount 2 = .ok (.iconst 1, 1) := dk_4 (dk_at dksJ19_bitCount_0 2 rfl rfl)
theorem dJ19_bitCount_3 : decode cJ19_bitCount 3 = .ok (.iushr, 1) := dk_124 (dk_at dksJ19_bitCount_0 3 rfl rfl)
theorem dJ19_bitCount_4 : decode cJ19_bitCount 4 = .ok (.ldc_w 265, 3) := dk_19 1 9 (dk_at dksJ19_bitCount_0 4 rfl rfl)
theorem dJ19_bitCount_7 : decode cJ19_bitCount 7 = .ok (.iand, 1) := dk_126 (dk_at dksJ19_bitCount_0 7 rfl rfl)
theorem dJ19_bitCount_8 : decode cJ19_bitCount 8 = .ok (.isub, 1) := dk_100 (dk_at dksJ19_bitCount_0 8 rfl rfl)
theorem dJ19_bitCount_9 : decode cJ19_bitCount 9 = .ok (.istore_n 0, 1) := dk_59 (dk_at dksJ19_bitCount_0 9 rfl rfl)
theorem dJ19_bitCount_10 : decode cJ19_bitCount 10 = .ok (.iload_n 0, 1) := dk_26 (dk_at dksJ19_bitCount_0 10 rfl rfl)
theorem dJ19_bitCount_11 : decode cJ19_bitCount 11 = .ok (.ldc_w 266, 3) := dk_19 1 10 (dk_at dksJ19_bitCount_0 11 rfl rfl)
theorem dJ19_bitCount_14 : decode cJ19_bitCount 14 = .ok (.iand, 1) := dk_126 (dk_at dksJ19_bitCount_0 14 rfl rfl)
theorem dJ19_bitCount_15 : decode cJ19_bitCount 15 = .ok (.iload_n 0, 1) := dk_26 (dk_at dksJ19_bitCount_0 15 rfl rfl)
theorem dJ19_bitCount_16 : decode cJ19_bitCount 16 = .ok (.iconst 2, 1) := dk_5 (dk_at dksJ19_bitCount_0 16 rfl rfl)
theorem dJ19_bitCount_17 : decode cJ19_bitCount 17 = .ok (.iushr, 1) := dk_124 (dk_at dksJ19_bitCount_0 17 rfl rfl)
theorem dJ19_bitCount_18 : decode cJ19_bitCount 18 = .ok (.ldc_w 266, 3) := dk_19 1 10 (dk_at dksJ19_bitCount_0 18 rfl rfl)
theorem dJ19_bitCount_21 : decode cJ19_bitCount 21 = .ok (.iand, 1) := dk_126 (dk_at dksJ19_bitCount_0 21 rfl rfl)
theorem dJ19_bitCount_22 : decode cJ19_bitCount 22 = .ok (.iadd, 1) := dk_96 (dk_at dksJ19_bitCount_0 22 rfl rfl)
theorem dJ19_bitCount_23 : decode cJ19_bitCount 23 = .ok (.istore_n 0, 1) := dk_59 (dk_at dksJ19_bitCount_0 23 rfl rfl)
theorem dJ19_bitCount_24 : decode cJ19_bitCount 24 = .ok (.iload_n 0, 1) := dk_26 (dk_at dksJ19_bitCount_1 0 rfl rfl)
theorem dJ19_bitCount_25 : decode cJ19_bitCount 25 = .ok (.iload_n 0, 1) := dk_26 (dk_at dksJ19_bitCount_1 1 rfl rfl)
theorem dJ19_bitCount_26 : decode cJ19_bitCount 26 = .ok (.iconst 4, 1) := dk_7 (dk_at dksJ19_bitCount_1 2 rfl rfl)
theorem dJ19_bitCount_27 : decode cJ19_bitCount 27 = .ok (.iushr, 1) := dk_124 (dk_at dksJ19_bitCount_1 3 rfl rfl)
theorem dJ19_bitCount_28 : decode cJ19_bitCount 28 = .ok (.iadd, 1) := dk_96 (dk_at dksJ19_bitCount_1 4 rfl rfl)
theorem dJ19_bitCount_29 : decode cJ19_bitCount 29 = .ok (.ldc_w 267, 3) := dk_19 1 11 (dk_at dksJ19_bitCount_1 5 rfl rfl)
theorem dJ19_bitCount_32 : decode cJ19_bitCount 32 = .ok (.iand, 1) := dk_126 (dk_at dksJ19_bitCount_1 8 rfl rfl)
theorem dJ19_bitCount_33 : decode cJ19_bitCount 33 = .ok (.istore_n 0, 1) := dk_59 (dk_at dksJ19_bitCount_1 9 rfl rfl)
theorem dJ19_bitCount_34 : decode cJ19_bitCount 34 = .ok (.iload_n 0, 1) := dk_26 (dk_at dksJ19_bitCount_1 10 rfl rfl)
theorem dJ19_bitCount_35 : decode cJ19_bitCount 35 = .ok (.iload_n 0, 1) := dk_26 (dk_at dksJ19_bitCount_1 11 rfl rfl)
theorem dJ19_bitCount_36 : decode cJ19_bitCount 36 = .ok (.bipush 8, 2) := dk_16 8 (dk_at dksJ19_bitCount_1 12 rfl rfl)
theorem dJ19_bitCount_38 : decode cJ19_bitCount 38 = .ok (.iushr, 1) := dk_124 (dk_at dksJ19_bitCount_1 14 rfl rfl)
theorem dJ19_bitCount_39 : decode cJ19_bitCount 39 = .ok (.iadd, 1) := dk_96 (dk_at dksJ19_bitCount_1 15 rfl rfl)
theorem dJ19_bitCount_40 : decode cJ19_bitCount 40 = .ok (.istore_n 0, 1) := dk_59 (dk_at dksJ19_bitCount_1 16 rfl rfl)
theorem dJ19_bitCount_41 : decode cJ19_bitCount 41 = .ok (.iload_n 0, 1) := dk_26 (dk_at dksJ19_bitCount_1 17 rfl rfl)
theorem dJ19_bitCount_42 : decode cJ19_bitCount 42 = .ok (.iload_n 0, 1) := dk_26 (dk_at dksJ19_bitCount_1 18 rfl rfl)
theorem dJ19_bitCount_43 : decode cJ19_bitCount 43 = .ok (.bipush 16, 2) := dk_16 16 (dk_at dksJ19_bitCount_1 19 rfl rfl)
theorem dJ19_bitCount_45 : decode cJ19_bitCount 45 = .ok (.iushr, 1) := dk_124 (dk_at dksJ19_bitCount_1 21 rfl rfl)
theorem dJ19_bitCount_46 : decode cJ19_bitCount 46 = .ok (.iadd, 1) := dk_96 (dk_at dksJ19_bitCount_1 22 rfl rfl)
theorem dJ19_bitCount_47 : decode cJ19_bitCount 47 = .ok (.istore_n 0, 1) := dk_59 (dk_at dksJ19_bitCount_1 23 rfl rfl)
theorem dJ19_bitCount_48 : decode cJ19_bitCount 48 = .ok (.iload_n 0, 1) := dk_26 (dk_at dksJ19_bitCount_2 0 rfl rfl)
theorem dJ19_bitCount_49 : decode cJ19_bitCount 49 = .ok (.bipush 63, 2) := dk_16 63 (dk_at dksJ19_bitCount_2 1 rfl rfl)
theorem dJ19_bitCount_51 : decode cJ19_bitCount 51 = .ok (.iand, 1) := dk_126 (dk_at dksJ19_bitCount_2 3 rfl rfl)
theorem dJ19_bitCount_52 : decode cJ19_bitCount 52 = .ok (.ireturn, 1) := dk_172 (dk_at dksJ19_bitCount_2 4 rfl rfl)
theorem dX1_commonTones_0 : decode cX1_commonTones 0 = .ok (.iload_n 1, 1) := dk_27 (dk_at dksX1_commonTones_0 0 rfl rfl)
theorem dX1_commonTones_1 : decode cX1_commonTones 1 = .ok (.aload_n 0, 1) := dk_42 (dk_at dksX1_commonTones_0 1 rfl rfl)
theorem dX1_commonTones_2 : decode cX1_commonTones 2 = .ok (.getfield 31, 3) := dk_180 0 31 (dk_at dksX1_commonTones_0 2 rfl rfl)
theorem dX1_commonTones_5 : decode cX1_commonTones 5 = .ok (.getfield 165, 3) := dk_180 0 165 (dk_at dksX1_commonTones_0 5 rfl rfl)
theorem dX1_commonTones_8 : decode cX1_commonTones 8 = .ok (.invokevirtual 168, 3) := dk_182 0 168 (dk_at dksX1_commonTones_0 8 rfl rfl)
theorem dX1_commonTones_11 : decode cX1_commonTones 11 = .ok (.iconst 1, 1) := dk_4 (dk_at dksX1_commonTones_0 11 rfl rfl)
theorem dX1_commonTones_12 : decode cX1_commonTones 12 = .ok (.isub, 1) := dk_100 (dk_at dksX1_commonTones_0 12 rfl rfl)
theorem dX1_commonTones_13 : decode cX1_commonTones 13 = .ok (.invokestatic 176, 3) := dk_184 0 176 (dk_at dksX1_commonTones_0 13 rfl rfl)
theorem dX1_commonTones_16 : decode cX1_commonTones 16 = .ok (.aload_n 0, 1) := dk_42 (dk_at dksX1_commonTones_0 16 rfl rfl)
theorem dX1_commonTones_17 : decode cX1_commonTones 17 = .ok (.iload_n 1, 1) := dk_27 (dk_at dksX1_commonTones_0 17 rfl rfl)
theorem dX1_commonTones_18 : decode cX1_commonTones 18 = .ok (.invokevirtual 190, 3) := dk_182 0 190 (dk_at dksX1_commonTones_0 18 rfl rfl)
theorem dX1_commonTones_21 : decode cX1_commonTones 21 = .ok (.invokevirtual 233, 3) := dk_182 0 233 (dk_at dksX1_commonTones_0 21 rfl rfl)
theorem dX1_commonTones_24 : decode cX1_commonTones 24 = .ok (.aload_n 0, 1) := dk_42 (dk_at dksX1_commonTones_1 0 rfl rfl)
theorem dX1_commonTones_25 : decode cX1_commonTones 25 = .ok (.iload_n 1, 1) := dk_27 (dk_at dksX1_commonTones_1 1 rfl rfl)
theorem dX1_commonTones_26 : decode cX1_commonTones 26 = .ok (.iconst 1, 1) := dk_4 (dk_at dksX1_commonTones_1 2 rfl rfl)
theorem dX1_commonTones_27 : decode cX1_commonTones 27 = .ok (.iadd, 1) := dk_96 (dk_at dksX1_commonTones_1 3 rfl rfl)
theorem dX1_commonTones_28 : decode cX1_commonTones 28 = .ok (.invokevirtual 190, 3) := dk_182 0 190 (dk_at dksX1_commonTones_1 4 rfl rfl)
theorem dX1_commonTones_31 : decode cX1_commonTones 31 = .ok (.invokevirtual 233, 3) := dk_182 0 233 (dk_at dksX1_commonTones_1 7 rfl rfl)
theorem dX1_commonTones_34 : decode cX1_commonTones 34 = .ok (.iand, 1) := dk_126 (dk_at dksX1_commonTones_1 10 rfl rfl)
theorem dX1_commonTones_35 : decode cX1_commonTones 35 = .ok (.invokestatic 236, 3) := dk_184 0 236 (dk_at dksX1_commonTones_1 11 rfl rfl)
theorem dX1_commonTones_38 : decode cX1_commonTones 38 = .ok (.ireturn, 1) := dk_172 (dk_at dksX1_commonTones_1 14 rfl rfl)
theorem q1865 : (Jvm.Cond.methodLink "ChordSheet" (233 : Nat) ({ cls := "ChordSheet$Chord", name := "tones", desc := "()I" } : Jvm.MethodName)) ∈ lw_all := lw_g (lw_at lw_m8 123 rfl) rfl
theorem q1866 : (Jvm.Cond.instanceMethod ({ cls := "ChordSheet$Chord", name := "tones", desc := "()I" } : Jvm.MethodName)) ∈ lw_all := lw_g (lw_at lw_m8 124 rfl) rfl
theorem q1867 : (Jvm.Cond.selects "ChordSheet$Chord" ({ cls := "ChordSheet$Chord", name := "tones", desc := "()I" } : Jvm.MethodName) ({ cls := "ChordSheet$Chord", name := "tones", desc := "()I" } : Jvm.MethodName)) ∈ lw_all := lw_g (lw_at lw_m8 125 rfl) rfl
theorem q1868 : (Jvm.Cond.code ({ cls := "ChordSheet$Chord", name := "tones", desc := "()I" } : Jvm.MethodName) prog_2_method_5_code (3 : Nat) (Option.some Jvm.ClassFile.FieldType.int)) ∈ lw_all := lw_g (lw_at lw_m8 126 rfl) rfl
theorem q1873 : (Jvm.Cond.methodLink "ChordSheet" (236 : Nat) ({ cls := "java/lang/Integer", name := "bitCount", desc := "(I)I" } : Jvm.MethodName)) ∈ lw_all := lw_g (lw_at lw_m8 131 rfl) rfl
theorem q1874 : (Jvm.Cond.static ({ cls := "java/lang/Integer", name := "bitCount", desc := "(I)I" } : Jvm.MethodName)) ∈ lw_all := lw_g (lw_at lw_m8 132 rfl) rfl
theorem q1875 : (Jvm.Cond.code ({ cls := "java/lang/Integer", name := "bitCount", desc := "(I)I" } : Jvm.MethodName) prog_24_method_49_code (1 : Nat) (Option.some Jvm.ClassFile.FieldType.int)) ∈ lw_all := lw_g (lw_at lw_m8 133 rfl) rfl
theorem q1876 : (Jvm.Cond.constant "java/lang/Integer" (265 : Nat) (1431655765 : Int32)) ∈ lw_all := lw_g (lw_at lw_m8 134 rfl) rfl
theorem q1877 : (Jvm.Cond.constant "java/lang/Integer" (266 : Nat) (858993459 : Int32)) ∈ lw_all := lw_g (lw_at lw_m8 135 rfl) rfl
theorem q1878 : (Jvm.Cond.constant "java/lang/Integer" (267 : Nat) (252645135 : Int32)) ∈ lw_all := lw_g (lw_at lw_m8 136 rfl) rfl
theorem q91 : (Jvm.Cond.initialized "java/lang/Integer") ∈ lw_all := lw_g (lw_at lw_m1 29 rfl) rfl
theorem z_iaddR {X : zT} {cc : ByteArray} {own : String} {ret : Option FieldType} {nf nl : Nat} {hh : List ExceptionTableEntry} {h : zH} {kc ks : Nat} {L : List (Nat × Value)} {pc : Nat} {st : List Value} (C : zC X cc own ret nf nl hh) {x y : Int32} (d : decode cc pc = .ok (.iadd, 1)) (K : Z X h kc ks L (pc + 1) (.int (x + y) :: st)) : Z X h kc ks L pc (.int y :: .int x :: st) := by
  have := z_iadd C (a := x.toInt) (b := y.toInt) d (st := st) (h := h) (kc := kc) (ks := ks) (L := L) (by rw [← iI_add, iI_toInt, iI_toInt]; exact K)
  rwa [iI_toInt, iI_toInt] at this
theorem z_isubR {X : zT} {cc : ByteArray} {own : String} {ret : Option FieldType} {nf nl : Nat} {hh : List ExceptionTableEntry} {h : zH} {kc ks : Nat} {L : List (Nat × Value)} {pc : Nat} {st : List Value} (C : zC X cc own ret nf nl hh) {x y : Int32} (d : decode cc pc = .ok (.isub, 1)) (K : Z X h kc ks L (pc + 1) (.int (x - y) :: st)) : Z X h kc ks L pc (.int y :: .int x :: st) := by
  have := z_isub C (a := x.toInt) (b := y.toInt) d (st := st) (h := h) (kc := kc) (ks := ks) (L := L) (by rw [← iI_sub, iI_toInt, iI_toInt]; exact K)
  rwa [iI_toInt, iI_toInt] at this
theorem z_ldcw {X : zT} {cc : ByteArray} {own : String} {ret : Option FieldType} {nf nl : Nat} {hh : List ExceptionTableEntry} {h : zH} {kc ks : Nat} {L : List (Nat × Value)} {pc : Nat} {st : List Value} (C : zC X cc own ret nf nl hh) {index : Nat} {v : Int32} (q : Cond.constant own index v ∈ lw_all) (d : decode cc pc = .ok (.ldc_w index, 3)) (K : Z X h kc ks L (pc + 3) (.int v :: st)) : Z X h kc ks L pc st :=
  fun H locs cells slots ls hS => lv_ldcw C.x C.b C.o (C.w _ q) d (K H locs cells slots ls hS)
def ushr (x y : Int32) : Int32 := (x.toUInt32 >>> (y.toUInt32 &&& Int32.toUInt32 31)).toInt32
def bcnt (x : Int32) : Int32 :=
  let a := x - (ushr x 1 &&& 1431655765)
  let b := (a &&& 858993459) + (ushr a 2 &&& 858993459)
  let c := (b + ushr b 4) &&& 252645135
  let d := c + ushr c 8
  let e := d + ushr d 16
  e &&& 63
/-- how many of the first k places of a set are in it -/
def pcnk (n : Nat) : Nat → Nat
  | 0 => 0
  | k + 1 => pcnk n k + if n / 2 ^ k % 2 = 1 then 1 else 0
def pcn (n : Nat) : Nat := pcnk n 12
theorem bcnt_all : ∀ a < 64, ∀ b < 64, bcnt (iI ((64 * a + b : Nat) : Int)) = iI ((pcn (64 * a + b) : Nat) : Int) := by decide +kernel
theorem bcnt_eq {n : Nat} (h : n < 4096) : bcnt (iI (n : Int)) = iI ((pcn n : Nat) : Int) := by
  have := bcnt_all (n / 64) (by omega) (n % 64) (by omega)
  rwa [show 64 * (n / 64) + n % 64 = n by omega] at this
theorem iI_andN {a b : Nat} (ha : a < 2147483648) (hb : b < 2147483648) : iI (a : Nat) &&& iI (b : Nat) = iI ((a &&& b : Nat) : Int) := by
  have hab : a &&& b < 2147483648 := Nat.lt_of_le_of_lt Nat.and_le_left ha
  apply Int32.toBitVec_inj.mp
  apply BitVec.eq_of_toNat_eq
  have e : ∀ n : Nat, n < 2147483648 → (iI (n : Int)).toBitVec.toNat = n := by
    intro n hn
    show (BitVec.ofInt 32 (n : Int)).toNat = n
    rw [BitVec.toNat_ofInt]
    omega
  rw [Int32.toBitVec_and, BitVec.toNat_and, e _ ha, e _ hb, e _ hab]
theorem tns_lt (r q b : Int) : tns r q b < 4096 := by
  unfold tns
  have h0 : (if b = 100 then 0 else 2 ^ (pcl b).toNat) < 4096 := by
    have := pcl_r b
    split
    · decide
    · exact p12 this
  exact tgo_lt 12 0 _ h0
set_option maxHeartbeats 4000000 in
theorem ct_bitc {l : Launch} (hl : l.stackTraces = false) {Γ : zCx} {h : zH} {x : Int32}  : zMet l yJ19_bitCount (ws_ yJ19_bitCount cJ19_bitCount 1 (some .int)) ({ frames := 0, cells := 0, slots := 0, locals := 0 }) Γ h [.int x] (zpure h (some (.int (bcnt x)))) 0 0 := by
  refine zMet.of (cc := cJ19_bitCount) hl (plainFor_of_name (by decide +kernel)) (Nat.le_of_ble_eq_true rfl) ?_
  intro X hXl hXΓ hXp C hnm hnL
  have C : zC X cJ19_bitCount RJ19 (some .int) 0 0 [] := C
  have hnL : X.2.1.2.2.2.2 = 1 := hnL
  subst hXl hXΓ
  show Z X h 0 0 [(0, .int x)] 0 []
  refine z_iload_n (pc := 0) (j := 0) C dJ19_bitCount_0 rfl rfl ?_
  refine z_iload_n (pc := 1) (j := 0) C dJ19_bitCount_1 rfl rfl ?_
  refine z_iconst (pc := 2) C dJ19_bitCount_2 ?_
  show Z X h 0 0 [(0, .int x)] 3 [.int (1 : Int32), .int x, .int x]
  refine z_iushr (pc := 3) (x := x) (y := (1 : Int32)) C dJ19_bitCount_3 rfl ?_
  show Z X h 0 0 [(0, .int x)] 4 [.int (ushr x (1 : Int32)), .int x]
  refine z_ldcw (pc := 4) (v := 1431655765) C q1876 dJ19_bitCount_4 ?_
  refine z_iand (pc := 7) (x := ushr x (1 : Int32)) (y := (1431655765 : Int32)) C dJ19_bitCount_7 rfl ?_
  show Z X h 0 0 [(0, .int x)] 8 [.int ((ushr x (1 : Int32)) &&& (1431655765 : Int32)), .int x]
  refine z_isubR (pc := 8) (x := x) (y := (ushr x (1 : Int32)) &&& (1431655765 : Int32)) C dJ19_bitCount_8 ?_
  show Z X h 0 0 [(0, .int x)] 9 [.int (x - ((ushr x (1 : Int32)) &&& (1431655765 : Int32)))]
  refine z_istore_n (pc := 9) (L' := [(0, .int (x - ((ushr x (1 : Int32)) &&& (1431655765 : Int32))))]) C dJ19_bitCount_9 rfl (by rw [hnL]; decide) rfl ?_
  refine z_iload_n (pc := 10) (j := 0) C dJ19_bitCount_10 rfl rfl ?_
  refine z_ldcw (pc := 11) (v := 858993459) C q1877 dJ19_bitCount_11 ?_
  refine z_iand (pc := 14) (x := x - ((ushr x (1 : Int32)) &&& (1431655765 : Int32))) (y := (858993459 : Int32)) C dJ19_bitCount_14 rfl ?_
  show Z X h 0 0 [(0, .int (x - ((ushr x (1 : Int32)) &&& (1431655765 : Int32))))] 15 [.int ((x - ((ushr x (1 : Int32)) &&& (1431655765 : Int32))) &&& (858993459 : Int32))]
  refine z_iload_n (pc := 15) (j := 0) C dJ19_bitCount_15 rfl rfl ?_
  refine z_iconst (pc := 16) C dJ19_bitCount_16 ?_
  show Z X h 0 0 [(0, .int (x - ((ushr x (1 : Int32)) &&& (1431655765 : Int32))))] 17 [.int (2 : Int32), .int (x - ((ushr x (1 : Int32)) &&& (1431655765 : Int32))), .int ((x - ((ushr x (1 : Int32)) &&& (1431655765 : Int32))) &&& (858993459 : Int32))]
  refine z_iushr (pc := 17) (x := x - ((ushr x (1 : Int32)) &&& (1431655765 : Int32))) (y := (2 : Int32)) C dJ19_bitCount_17 rfl ?_
  show Z X h 0 0 [(0, .int (x - ((ushr x (1 : Int32)) &&& (1431655765 : Int32))))] 18 [.int (ushr (x - ((ushr x (1 : Int32)) &&& (1431655765 : Int32))) (2 : Int32)), .int ((x - ((ushr x (1 : Int32)) &&& (1431655765 : Int32))) &&& (858993459 : Int32))]
  refine z_ldcw (pc := 18) (v := 858993459) C q1877 dJ19_bitCount_18 ?_
  refine z_iand (pc := 21) (x := ushr (x - ((ushr x (1 : Int32)) &&& (1431655765 : Int32))) (2 : Int32)) (y := (858993459 : Int32)) C dJ19_bitCount_21 rfl ?_
  show Z X h 0 0 [(0, .int (x - ((ushr x (1 : Int32)) &&& (1431655765 : Int32))))] 22 [.int ((ushr (x - ((ushr x (1 : Int32)) &&& (1431655765 : Int32))) (2 : Int32)) &&& (858993459 : Int32)), .int ((x - ((ushr x (1 : Int32)) &&& (1431655765 : Int32))) &&& (858993459 : Int32))]
  refine z_iaddR (pc := 22) (x := (x - ((ushr x (1 : Int32)) &&& (1431655765 : Int32))) &&& (858993459 : Int32)) (y := (ushr (x - ((ushr x (1 : Int32)) &&& (1431655765 : Int32))) (2 : Int32)) &&& (858993459 : Int32)) C dJ19_bitCount_22 ?_
  show Z X h 0 0 [(0, .int (x - ((ushr x (1 : Int32)) &&& (1431655765 : Int32))))] 23 [.int (((x - ((ushr x (1 : Int32)) &&& (1431655765 : Int32))) &&& (858993459 : Int32)) + ((ushr (x - ((ushr x (1 : Int32)) &&& (1431655765 : Int32))) (2 : Int32)) &&& (858993459 : Int32)))]
  refine z_istore_n (pc := 23) (L' := [(0, .int (((x - ((ushr x (1 : Int32)) &&& (1431655765 : Int32))) &&& (858993459 : Int32)) + ((ushr (x - ((ushr x (1 : Int32)) &&& (1431655765 : Int32))) (2 : Int32)) &&& (858993459 : Int32))))]) C dJ19_bitCount_23 rfl (by rw [hnL]; decide) rfl ?_
  refine z_iload_n (pc := 24) (j := 0) C dJ19_bitCount_24 rfl rfl ?_
  refine z_iload_n (pc := 25) (j := 0) C dJ19_bitCount_25 rfl rfl ?_
  refine z_iconst (pc := 26) C dJ19_bitCount_26 ?_
  show Z X h 0 0 [(0, .int (((x - ((ushr x (1 : Int32)) &&& (1431655765 : Int32))) &&& (858993459 : Int32)) + ((ushr (x - ((ushr x (1 : Int32)) &&& (1431655765 : Int32))) (2 : Int32)) &&& (858993459 : Int32))))] 27 [.int (4 : Int32), .int (((x - ((ushr x (1 : Int32)) &&& (1431655765 : Int32))) &&& (858993459 : Int32)) + ((ushr (x - ((ushr x (1 : Int32)) &&& (1431655765 : Int32))) (2 : Int32)) &&& (858993459 : Int32))), .int (((x - ((ushr x (1 : Int32)) &&& (1431655765 : Int32))) &&& (858993459 : Int32)) + ((ushr (x - ((ushr x (1 : Int32)) &&& (1431655765 : Int32))) (2 : Int32)) &&& (858993459 : Int32)))]
  refine z_iushr (pc := 27) (x := ((x - ((ushr x (1 : Int32)) &&& (1431655765 : Int32))) &&& (858993459 : Int32)) + ((ushr (x - ((ushr x (1 : Int32)) &&& (1431655765 : Int32))) (2 : Int32)) &&& (858993459 : Int32))) (y := (4 : Int32)) C dJ19_bitCount_27 rfl ?_
  show Z X h 0 0 [(0, .int (((x - ((ushr x (1 : Int32)) &&& (1431655765 : Int32))) &&& (858993459 : Int32)) + ((ushr (x - ((ushr x (1 : Int32)) &&& (1431655765 : Int32))) (2 : Int32)) &&& (858993459 : Int32))))] 28 [.int (ushr (((x - ((ushr x (1 : Int32)) &&& (1431655765 : Int32))) &&& (858993459 : Int32)) + ((ushr (x - ((ushr x (1 : Int32)) &&& (1431655765 : Int32))) (2 : Int32)) &&& (858993459 : Int32))) (4 : Int32)), .int (((x - ((ushr x (1 : Int32)) &&& (1431655765 : Int32))) &&& (858993459 : Int32)) + ((ushr (x - ((ushr x (1 : Int32)) &&& (1431655765 : Int32))) (2 : Int32)) &&& (858993459 : Int32)))]
  refine z_iaddR (pc := 28) (x := ((x - ((ushr x (1 : Int32)) &&& (1431655765 : Int32))) &&& (858993459 : Int32)) + ((ushr (x - ((ushr x (1 : Int32)) &&& (1431655765 : Int32))) (2 : Int32)) &&& (858993459 : Int32))) (y := ushr (((x - ((ushr x (1 : Int32)) &&& (1431655765 : Int32))) &&& (858993459 : Int32)) + ((ushr (x - ((ushr x (1 : Int32)) &&& (1431655765 : Int32))) (2 : Int32)) &&& (858993459 : Int32))) (4 : Int32)) C dJ19_bitCount_28 ?_
  show Z X h 0 0 [(0, .int (((x - ((ushr x (1 : Int32)) &&& (1431655765 : Int32))) &&& (858993459 : Int32)) + ((ushr (x - ((ushr x (1 : Int32)) &&& (1431655765 : Int32))) (2 : Int32)) &&& (858993459 : Int32))))] 29 [.int ((((x - ((ushr x (1 : Int32)) &&& (1431655765 : Int32))) &&& (858993459 : Int32)) + ((ushr (x - ((ushr x (1 : Int32)) &&& (1431655765 : Int32))) (2 : Int32)) &&& (858993459 : Int32))) + (ushr (((x - ((ushr x (1 : Int32)) &&& (1431655765 : Int32))) &&& (858993459 : Int32)) + ((ushr (x - ((ushr x (1 : Int32)) &&& (1431655765 : Int32))) (2 : Int32)) &&& (858993459 : Int32))) (4 : Int32)))]
  refine z_ldcw (pc := 29) (v := 252645135) C q1878 dJ19_bitCount_29 ?_
  refine z_iand (pc := 32) (x := (((x - ((ushr x (1 : Int32)) &&& (1431655765 : Int32))) &&& (858993459 : Int32)) + ((ushr (x - ((ushr x (1 : Int32)) &&& (1431655765 : Int32))) (2 : Int32)) &&& (858993459 : Int32))) + (ushr (((x - ((ushr x (1 : Int32)) &&& (1431655765 : Int32))) &&& (858993459 : Int32)) + ((ushr (x - ((ushr x (1 : Int32)) &&& (1431655765 : Int32))) (2 : Int32)) &&& (858993459 : Int32))) (4 : Int32))) (y := (252645135 : Int32)) C dJ19_bitCount_32 rfl ?_
  show Z X h 0 0 [(0, .int (((x - ((ushr x (1 : Int32)) &&& (1431655765 : Int32))) &&& (858993459 : Int32)) + ((ushr (x - ((ushr x (1 : Int32)) &&& (1431655765 : Int32))) (2 : Int32)) &&& (858993459 : Int32))))] 33 [.int (((((x - ((ushr x (1 : Int32)) &&& (1431655765 : Int32))) &&& (858993459 : Int32)) + ((ushr (x - ((ushr x (1 : Int32)) &&& (1431655765 : Int32))) (2 : Int32)) &&& (858993459 : Int32))) + (ushr (((x - ((ushr x (1 : Int32)) &&& (1431655765 : Int32))) &&& (858993459 : Int32)) + ((ushr (x - ((ushr x (1 : Int32)) &&& (1431655765 : Int32))) (2 : Int32)) &&& (858993459 : Int32))) (4 : Int32))) &&& (252645135 : Int32))]
  refine z_istore_n (pc := 33) (L' := [(0, .int (((((x - ((ushr x (1 : Int32)) &&& (1431655765 : Int32))) &&& (858993459 : Int32)) + ((ushr (x - ((ushr x (1 : Int32)) &&& (1431655765 : Int32))) (2 : Int32)) &&& (858993459 : Int32))) + (ushr (((x - ((ushr x (1 : Int32)) &&& (1431655765 : Int32))) &&& (858993459 : Int32)) + ((ushr (x - ((ushr x (1 : Int32)) &&& (1431655765 : Int32))) (2 : Int32)) &&& (858993459 : Int32))) (4 : Int32))) &&& (252645135 : Int32)))]) C dJ19_bitCount_33 rfl (by rw [hnL]; decide) rfl ?_
  refine z_iload_n (pc := 34) (j := 0) C dJ19_bitCount_34 rfl rfl ?_
  refine z_iload_n (pc := 35) (j := 0) C dJ19_bitCount_35 rfl rfl ?_
  refine z_bipush (pc := 36) C dJ19_bitCount_36 (by decide) ?_
  show Z X h 0 0 [(0, .int (((((x - ((ushr x (1 : Int32)) &&& (1431655765 : Int32))) &&& (858993459 : Int32)) + ((ushr (x - ((ushr x (1 : Int32)) &&& (1431655765 : Int32))) (2 : Int32)) &&& (858993459 : Int32))) + (ushr (((x - ((ushr x (1 : Int32)) &&& (1431655765 : Int32))) &&& (858993459 : Int32)) + ((ushr (x - ((ushr x (1 : Int32)) &&& (1431655765 : Int32))) (2 : Int32)) &&& (858993459 : Int32))) (4 : Int32))) &&& (252645135 : Int32)))] 38 [.int (8 : Int32), .int (((((x - ((ushr x (1 : Int32)) &&& (1431655765 : Int32))) &&& (858993459 : Int32)) + ((ushr (x - ((ushr x (1 : Int32)) &&& (1431655765 : Int32))) (2 : Int32)) &&& (858993459 : Int32))) + (ushr (((x - ((ushr x (1 : Int32)) &&& (1431655765 : Int32))) &&& (858993459 : Int32)) + ((ushr (x - ((ushr x (1 : Int32)) &&& (1431655765 : Int32))) (2 : Int32)) &&& (858993459 : Int32))) (4 : Int32))) &&& (252645135 : Int32)), .int (((((x - ((ushr x (1 : Int32)) &&& (1431655765 : Int32))) &&& (858993459 : Int32)) + ((ushr (x - ((ushr x (1 : Int32)) &&& (1431655765 : Int32))) (2 : Int32)) &&& (858993459 : Int32))) + (ushr (((x - ((ushr x (1 : Int32)) &&& (1431655765 : Int32))) &&& (858993459 : Int32)) + ((ushr (x - ((ushr x (1 : Int32)) &&& (1431655765 : Int32))) (2 : Int32)) &&& (858993459 : Int32))) (4 : Int32))) &&& (252645135 : Int32))]
  refine z_iushr (pc := 38) (x := ((((x - ((ushr x (1 : Int32)) &&& (1431655765 : Int32))) &&& (858993459 : Int32)) + ((ushr (x - ((ushr x (1 : Int32)) &&& (1431655765 : Int32))) (2 : Int32)) &&& (858993459 : Int32))) + (ushr (((x - ((ushr x (1 : Int32)) &&& (1431655765 : Int32))) &&& (858993459 : Int32)) + ((ushr (x - ((ushr x (1 : Int32)) &&& (1431655765 : Int32))) (2 : Int32)) &&& (858993459 : Int32))) (4 : Int32))) &&& (252645135 : Int32)) (y := (8 : Int32)) C dJ19_bitCount_38 rfl ?_
  show Z X h 0 0 [(0, .int (((((x - ((ushr x (1 : Int32)) &&& (1431655765 : Int32))) &&& (858993459 : Int32)) + ((ushr (x - ((ushr x (1 : Int32)) &&& (1431655765 : Int32))) (2 : Int32)) &&& (858993459 : Int32))) + (ushr (((x - ((ushr x (1 : Int32)) &&& (1431655765 : Int32))) &&& (858993459 : Int32)) + ((ushr (x - ((ushr x (1 : Int32)) &&& (1431655765 : Int32))) (2 : Int32)) &&& (858993459 : Int32))) (4 : Int32))) &&& (252645135 : Int32)))] 39 [.int (ushr (((((x - ((ushr x (1 : Int32)) &&& (1431655765 : Int32))) &&& (858993459 : Int32)) + ((ushr (x - ((ushr x (1 : Int32)) &&& (1431655765 : Int32))) (2 : Int32)) &&& (858993459 : Int32))) + (ushr (((x - ((ushr x (1 : Int32)) &&& (1431655765 : Int32))) &&& (858993459 : Int32)) + ((ushr (x - ((ushr x (1 : Int32)) &&& (1431655765 : Int32))) (2 : Int32)) &&& (858993459 : Int32))) (4 : Int32))) &&& (252645135 : Int32)) (8 : Int32)), .int (((((x - ((ushr x (1 : Int32)) &&& (1431655765 : Int32))) &&& (858993459 : Int32)) + ((ushr (x - ((ushr x (1 : Int32)) &&& (1431655765 : Int32))) (2 : Int32)) &&& (858993459 : Int32))) + (ushr (((x - ((ushr x (1 : Int32)) &&& (1431655765 : Int32))) &&& (858993459 : Int32)) + ((ushr (x - ((ushr x (1 : Int32)) &&& (1431655765 : Int32))) (2 : Int32)) &&& (858993459 : Int32))) (4 : Int32))) &&& (252645135 : Int32))]
  refine z_iaddR (pc := 39) (x := ((((x - ((ushr x (1 : Int32)) &&& (1431655765 : Int32))) &&& (858993459 : Int32)) + ((ushr (x - ((ushr x (1 : Int32)) &&& (1431655765 : Int32))) (2 : Int32)) &&& (858993459 : Int32))) + (ushr (((x - ((ushr x (1 : Int32)) &&& (1431655765 : Int32))) &&& (858993459 : Int32)) + ((ushr (x - ((ushr x (1 : Int32)) &&& (1431655765 : Int32))) (2 : Int32)) &&& (858993459 : Int32))) (4 : Int32))) &&& (252645135 : Int32)) (y := ushr (((((x - ((ushr x (1 : Int32)) &&& (1431655765 : Int32))) &&& (858993459 : Int32)) + ((ushr (x - ((ushr x (1 : Int32)) &&& (1431655765 : Int32))) (2 : Int32)) &&& (858993459 : Int32))) + (ushr (((x - ((ushr x (1 : Int32)) &&& (1431655765 : Int32))) &&& (858993459 : Int32)) + ((ushr (x - ((ushr x (1 : Int32)) &&& (1431655765 : Int32))) (2 : Int32)) &&& (858993459 : Int32))) (4 : Int32))) &&& (252645135 : Int32)) (8 : Int32)) C dJ19_bitCount_39 ?_
  show Z X h 0 0 [(0, .int (((((x - ((ushr x (1 : Int32)) &&& (1431655765 : Int32))) &&& (858993459 : Int32)) + ((ushr (x - ((ushr x (1 : Int32)) &&& (1431655765 : Int32))) (2 : Int32)) &&& (858993459 : Int32))) + (ushr (((x - ((ushr x (1 : Int32)) &&& (1431655765 : Int32))) &&& (858993459 : Int32)) + ((ushr (x - ((ushr x (1 : Int32)) &&& (1431655765 : Int32))) (2 : Int32)) &&& (858993459 : Int32))) (4 : Int32))) &&& (252645135 : Int32)))] 40 [.int ((((((x - ((ushr x (1 : Int32)) &&& (1431655765 : Int32))) &&& (858993459 : Int32)) + ((ushr (x - ((ushr x (1 : Int32)) &&& (1431655765 : Int32))) (2 : Int32)) &&& (858993459 : Int32))) + (ushr (((x - ((ushr x (1 : Int32)) &&& (1431655765 : Int32))) &&& (858993459 : Int32)) + ((ushr (x - ((ushr x (1 : Int32)) &&& (1431655765 : Int32))) (2 : Int32)) &&& (858993459 : Int32))) (4 : Int32))) &&& (252645135 : Int32)) + (ushr (((((x - ((ushr x (1 : Int32)) &&& (1431655765 : Int32))) &&& (858993459 : Int32)) + ((ushr (x - ((ushr x (1 : Int32)) &&& (1431655765 : Int32))) (2 : Int32)) &&& (858993459 : Int32))) + (ushr (((x - ((ushr x (1 : Int32)) &&& (1431655765 : Int32))) &&& (858993459 : Int32)) + ((ushr (x - ((ushr x (1 : Int32)) &&& (1431655765 : Int32))) (2 : Int32)) &&& (858993459 : Int32))) (4 : Int32))) &&& (252645135 : Int32)) (8 : Int32)))]
  refine z_istore_n (pc := 40) (L' := [(0, .int ((((((x - ((ushr x (1 : Int32)) &&& (1431655765 : Int32))) &&& (858993459 : Int32)) + ((ushr (x - ((ushr x (1 : Int32)) &&& (1431655765 : Int32))) (2 : Int32)) &&& (858993459 : Int32))) + (ushr (((x - ((ushr x (1 : Int32)) &&& (1431655765 : Int32))) &&& (858993459 : Int32)) + ((ushr (x - ((ushr x (1 : Int32)) &&& (1431655765 : Int32))) (2 : Int32)) &&& (858993459 : Int32))) (4 : Int32))) &&& (252645135 : Int32)) + (ushr (((((x - ((ushr x (1 : Int32)) &&& (1431655765 : Int32))) &&& (858993459 : Int32)) + ((ushr (x - ((ushr x (1 : Int32)) &&& (1431655765 : Int32))) (2 : Int32)) &&& (858993459 : Int32))) + (ushr (((x - ((ushr x (1 : Int32)) &&& (1431655765 : Int32))) &&& (858993459 : Int32)) + ((ushr (x - ((ushr x (1 : Int32)) &&& (1431655765 : Int32))) (2 : Int32)) &&& (858993459 : Int32))) (4 : Int32))) &&& (252645135 : Int32)) (8 : Int32))))]) C dJ19_bitCount_40 rfl (by rw [hnL]; decide) rfl ?_
  refine z_iload_n (pc := 41) (j := 0) C dJ19_bitCount_41 rfl rfl ?_
  refine z_iload_n (pc := 42) (j := 0) C dJ19_bitCount_42 rfl rfl ?_
  refine z_bipush (pc := 43) C dJ19_bitCount_43 (by decide) ?_
  show Z X h 0 0 [(0, .int ((((((x - ((ushr x (1 : Int32)) &&& (1431655765 : Int32))) &&& (858993459 : Int32)) + ((ushr (x - ((ushr x (1 : Int32)) &&& (1431655765 : Int32))) (2 : Int32)) &&& (858993459 : Int32))) + (ushr (((x - ((ushr x (1 : Int32)) &&& (1431655765 : Int32))) &&& (858993459 : Int32)) + ((ushr (x - ((ushr x (1 : Int32)) &&& (1431655765 : Int32))) (2 : Int32)) &&& (858993459 : Int32))) (4 : Int32))) &&& (252645135 : Int32)) + (ushr (((((x - ((ushr x (1 : Int32)) &&& (1431655765 : Int32))) &&& (858993459 : Int32)) + ((ushr (x - ((ushr x (1 : Int32)) &&& (1431655765 : Int32))) (2 : Int32)) &&& (858993459 : Int32))) + (ushr (((x - ((ushr x (1 : Int32)) &&& (1431655765 : Int32))) &&& (858993459 : Int32)) + ((ushr (x - ((ushr x (1 : Int32)) &&& (1431655765 : Int32))) (2 : Int32)) &&& (858993459 : Int32))) (4 : Int32))) &&& (252645135 : Int32)) (8 : Int32))))] 45 [.int (16 : Int32), .int ((((((x - ((ushr x (1 : Int32)) &&& (1431655765 : Int32))) &&& (858993459 : Int32)) + ((ushr (x - ((ushr x (1 : Int32)) &&& (1431655765 : Int32))) (2 : Int32)) &&& (858993459 : Int32))) + (ushr (((x - ((ushr x (1 : Int32)) &&& (1431655765 : Int32))) &&& (858993459 : Int32)) + ((ushr (x - ((ushr x (1 : Int32)) &&& (1431655765 : Int32))) (2 : Int32)) &&& (858993459 : Int32))) (4 : Int32))) &&& (252645135 : Int32)) + (ushr (((((x - ((ushr x (1 : Int32)) &&& (1431655765 : Int32))) &&& (858993459 : Int32)) + ((ushr (x - ((ushr x (1 : Int32)) &&& (1431655765 : Int32))) (2 : Int32)) &&& (858993459 : Int32))) + (ushr (((x - ((ushr x (1 : Int32)) &&& (1431655765 : Int32))) &&& (858993459 : Int32)) + ((ushr (x - ((ushr x (1 : Int32)) &&& (1431655765 : Int32))) (2 : Int32)) &&& (858993459 : Int32))) (4 : Int32))) &&& (252645135 : Int32)) (8 : Int32))), .int ((((((x - ((ushr x (1 : Int32)) &&& (1431655765 : Int32))) &&& (858993459 : Int32)) + ((ushr (x - ((ushr x (1 : Int32)) &&& (1431655765 : Int32))) (2 : Int32)) &&& (858993459 : Int32))) + (ushr (((x - ((ushr x (1 : Int32)) &&& (1431655765 : Int32))) &&& (858993459 : Int32)) + ((ushr (x - ((ushr x (1 : Int32)) &&& (1431655765 : Int32))) (2 : Int32)) &&& (858993459 : Int32))) (4 : Int32))) &&& (252645135 : Int32)) + (ushr (((((x - ((ushr x (1 : Int32)) &&& (1431655765 : Int32))) &&& (858993459 : Int32)) + ((ushr (x - ((ushr x (1 : Int32)) &&& (1431655765 : Int32))) (2 : Int32)) &&& (858993459 : Int32))) + (ushr (((x - ((ushr x (1 : Int32)) &&& (1431655765 : Int32))) &&& (858993459 : Int32)) + ((ushr (x - ((ushr x (1 : Int32)) &&& (1431655765 : Int32))) (2 : Int32)) &&& (858993459 : Int32))) (4 : Int32))) &&& (252645135 : Int32)) (8 : Int32)))]
  refine z_iushr (pc := 45) (x := (((((x - ((ushr x (1 : Int32)) &&& (1431655765 : Int32))) &&& (858993459 : Int32)) + ((ushr (x - ((ushr x (1 : Int32)) &&& (1431655765 : Int32))) (2 : Int32)) &&& (858993459 : Int32))) + (ushr (((x - ((ushr x (1 : Int32)) &&& (1431655765 : Int32))) &&& (858993459 : Int32)) + ((ushr (x - ((ushr x (1 : Int32)) &&& (1431655765 : Int32))) (2 : Int32)) &&& (858993459 : Int32))) (4 : Int32))) &&& (252645135 : Int32)) + (ushr (((((x - ((ushr x (1 : Int32)) &&& (1431655765 : Int32))) &&& (858993459 : Int32)) + ((ushr (x - ((ushr x (1 : Int32)) &&& (1431655765 : Int32))) (2 : Int32)) &&& (858993459 : Int32))) + (ushr (((x - ((ushr x (1 : Int32)) &&& (1431655765 : Int32))) &&& (858993459 : Int32)) + ((ushr (x - ((ushr x (1 : Int32)) &&& (1431655765 : Int32))) (2 : Int32)) &&& (858993459 : Int32))) (4 : Int32))) &&& (252645135 : Int32)) (8 : Int32))) (y := (16 : Int32)) C dJ19_bitCount_45 rfl ?_
  show Z X h 0 0 [(0, .int ((((((x - ((ushr x (1 : Int32)) &&& (1431655765 : Int32))) &&& (858993459 : Int32)) + ((ushr (x - ((ushr x (1 : Int32)) &&& (1431655765 : Int32))) (2 : Int32)) &&& (858993459 : Int32))) + (ushr (((x - ((ushr x (1 : Int32)) &&& (1431655765 : Int32))) &&& (858993459 : Int32)) + ((ushr (x - ((ushr x (1 : Int32)) &&& (1431655765 : Int32))) (2 : Int32)) &&& (858993459 : Int32))) (4 : Int32))) &&& (252645135 : Int32)) + (ushr (((((x - ((ushr x (1 : Int32)) &&& (1431655765 : Int32))) &&& (858993459 : Int32)) + ((ushr (x - ((ushr x (1 : Int32)) &&& (1431655765 : Int32))) (2 : Int32)) &&& (858993459 : Int32))) + (ushr (((x - ((ushr x (1 : Int32)) &&& (1431655765 : Int32))) &&& (858993459 : Int32)) + ((ushr (x - ((ushr x (1 : Int32)) &&& (1431655765 : Int32))) (2 : Int32)) &&& (858993459 : Int32))) (4 : Int32))) &&& (252645135 : Int32)) (8 : Int32))))] 46 [.int (ushr ((((((x - ((ushr x (1 : Int32)) &&& (1431655765 : Int32))) &&& (858993459 : Int32)) + ((ushr (x - ((ushr x (1 : Int32)) &&& (1431655765 : Int32))) (2 : Int32)) &&& (858993459 : Int32))) + (ushr (((x - ((ushr x (1 : Int32)) &&& (1431655765 : Int32))) &&& (858993459 : Int32)) + ((ushr (x - ((ushr x (1 : Int32)) &&& (1431655765 : Int32))) (2 : Int32)) &&& (858993459 : Int32))) (4 : Int32))) &&& (252645135 : Int32)) + (ushr (((((x - ((ushr x (1 : Int32)) &&& (1431655765 : Int32))) &&& (858993459 : Int32)) + ((ushr (x - ((ushr x (1 : Int32)) &&& (1431655765 : Int32))) (2 : Int32)) &&& (858993459 : Int32))) + (ushr (((x - ((ushr x (1 : Int32)) &&& (1431655765 : Int32))) &&& (858993459 : Int32)) + ((ushr (x - ((ushr x (1 : Int32)) &&& (1431655765 : Int32))) (2 : Int32)) &&& (858993459 : Int32))) (4 : Int32))) &&& (252645135 : Int32)) (8 : Int32))) (16 : Int32)), .int ((((((x - ((ushr x (1 : Int32)) &&& (1431655765 : Int32))) &&& (858993459 : Int32)) + ((ushr (x - ((ushr x (1 : Int32)) &&& (1431655765 : Int32))) (2 : Int32)) &&& (858993459 : Int32))) + (ushr (((x - ((ushr x (1 : Int32)) &&& (1431655765 : Int32))) &&& (858993459 : Int32)) + ((ushr (x - ((ushr x (1 : Int32)) &&& (1431655765 : Int32))) (2 : Int32)) &&& (858993459 : Int32))) (4 : Int32))) &&& (252645135 : Int32)) + (ushr (((((x - ((ushr x (1 : Int32)) &&& (1431655765 : Int32))) &&& (858993459 : Int32)) + ((ushr (x - ((ushr x (1 : Int32)) &&& (1431655765 : Int32))) (2 : Int32)) &&& (858993459 : Int32))) + (ushr (((x - ((ushr x (1 : Int32)) &&& (1431655765 : Int32))) &&& (858993459 : Int32)) + ((ushr (x - ((ushr x (1 : Int32)) &&& (1431655765 : Int32))) (2 : Int32)) &&& (858993459 : Int32))) (4 : Int32))) &&& (252645135 : Int32)) (8 : Int32)))]
  refine z_iaddR (pc := 46) (x := (((((x - ((ushr x (1 : Int32)) &&& (1431655765 : Int32))) &&& (858993459 : Int32)) + ((ushr (x - ((ushr x (1 : Int32)) &&& (1431655765 : Int32))) (2 : Int32)) &&& (858993459 : Int32))) + (ushr (((x - ((ushr x (1 : Int32)) &&& (1431655765 : Int32))) &&& (858993459 : Int32)) + ((ushr (x - ((ushr x (1 : Int32)) &&& (1431655765 : Int32))) (2 : Int32)) &&& (858993459 : Int32))) (4 : Int32))) &&& (252645135 : Int32)) + (ushr (((((x - ((ushr x (1 : Int32)) &&& (1431655765 : Int32))) &&& (858993459 : Int32)) + ((ushr (x - ((ushr x (1 : Int32)) &&& (1431655765 : Int32))) (2 : Int32)) &&& (858993459 : Int32))) + (ushr (((x - ((ushr x (1 : Int32)) &&& (1431655765 : Int32))) &&& (858993459 : Int32)) + ((ushr (x - ((ushr x (1 : Int32)) &&& (1431655765 : Int32))) (2 : Int32)) &&& (858993459 : Int32))) (4 : Int32))) &&& (252645135 : Int32)) (8 : Int32))) (y := ushr ((((((x - ((ushr x (1 : Int32)) &&& (1431655765 : Int32))) &&& (858993459 : Int32)) + ((ushr (x - ((ushr x (1 : Int32)) &&& (1431655765 : Int32))) (2 : Int32)) &&& (858993459 : Int32))) + (ushr (((x - ((ushr x (1 : Int32)) &&& (1431655765 : Int32))) &&& (858993459 : Int32)) + ((ushr (x - ((ushr x (1 : Int32)) &&& (1431655765 : Int32))) (2 : Int32)) &&& (858993459 : Int32))) (4 : Int32))) &&& (252645135 : Int32)) + (ushr (((((x - ((ushr x (1 : Int32)) &&& (1431655765 : Int32))) &&& (858993459 : Int32)) + ((ushr (x - ((ushr x (1 : Int32)) &&& (1431655765 : Int32))) (2 : Int32)) &&& (858993459 : Int32))) + (ushr (((x - ((ushr x (1 : Int32)) &&& (1431655765 : Int32))) &&& (858993459 : Int32)) + ((ushr (x - ((ushr x (1 : Int32)) &&& (1431655765 : Int32))) (2 : Int32)) &&& (858993459 : Int32))) (4 : Int32))) &&& (252645135 : Int32)) (8 : Int32))) (16 : Int32)) C dJ19_bitCount_46 ?_
  show Z X h 0 0 [(0, .int ((((((x - ((ushr x (1 : Int32)) &&& (1431655765 : Int32))) &&& (858993459 : Int32)) + ((ushr (x - ((ushr x (1 : Int32)) &&& (1431655765 : Int32))) (2 : Int32)) &&& (858993459 : Int32))) + (ushr (((x - ((ushr x (1 : Int32)) &&& (1431655765 : Int32))) &&& (858993459 : Int32)) + ((ushr (x - ((ushr x (1 : Int32)) &&& (1431655765 : Int32))) (2 : Int32)) &&& (858993459 : Int32))) (4 : Int32))) &&& (252645135 : Int32)) + (ushr (((((x - ((ushr x (1 : Int32)) &&& (1431655765 : Int32))) &&& (858993459 : Int32)) + ((ushr (x - ((ushr x (1 : Int32)) &&& (1431655765 : Int32))) (2 : Int32)) &&& (858993459 : Int32))) + (ushr (((x - ((ushr x (1 : Int32)) &&& (1431655765 : Int32))) &&& (858993459 : Int32)) + ((ushr (x - ((ushr x (1 : Int32)) &&& (1431655765 : Int32))) (2 : Int32)) &&& (858993459 : Int32))) (4 : Int32))) &&& (252645135 : Int32)) (8 : Int32))))] 47 [.int (((((((x - ((ushr x (1 : Int32)) &&& (1431655765 : Int32))) &&& (858993459 : Int32)) + ((ushr (x - ((ushr x (1 : Int32)) &&& (1431655765 : Int32))) (2 : Int32)) &&& (858993459 : Int32))) + (ushr (((x - ((ushr x (1 : Int32)) &&& (1431655765 : Int32))) &&& (858993459 : Int32)) + ((ushr (x - ((ushr x (1 : Int32)) &&& (1431655765 : Int32))) (2 : Int32)) &&& (858993459 : Int32))) (4 : Int32))) &&& (252645135 : Int32)) + (ushr (((((x - ((ushr x (1 : Int32)) &&& (1431655765 : Int32))) &&& (858993459 : Int32)) + ((ushr (x - ((ushr x (1 : Int32)) &&& (1431655765 : Int32))) (2 : Int32)) &&& (858993459 : Int32))) + (ushr (((x - ((ushr x (1 : Int32)) &&& (1431655765 : Int32))) &&& (858993459 : Int32)) + ((ushr (x - ((ushr x (1 : Int32)) &&& (1431655765 : Int32))) (2 : Int32)) &&& (858993459 : Int32))) (4 : Int32))) &&& (252645135 : Int32)) (8 : Int32))) + (ushr ((((((x - ((ushr x (1 : Int32)) &&& (1431655765 : Int32))) &&& (858993459 : Int32)) + ((ushr (x - ((ushr x (1 : Int32)) &&& (1431655765 : Int32))) (2 : Int32)) &&& (858993459 : Int32))) + (ushr (((x - ((ushr x (1 : Int32)) &&& (1431655765 : Int32))) &&& (858993459 : Int32)) + ((ushr (x - ((ushr x (1 : Int32)) &&& (1431655765 : Int32))) (2 : Int32)) &&& (858993459 : Int32))) (4 : Int32))) &&& (252645135 : Int32)) + (ushr (((((x - ((ushr x (1 : Int32)) &&& (1431655765 : Int32))) &&& (858993459 : Int32)) + ((ushr (x - ((ushr x (1 : Int32)) &&& (1431655765 : Int32))) (2 : Int32)) &&& (858993459 : Int32))) + (ushr (((x - ((ushr x (1 : Int32)) &&& (1431655765 : Int32))) &&& (858993459 : Int32)) + ((ushr (x - ((ushr x (1 : Int32)) &&& (1431655765 : Int32))) (2 : Int32)) &&& (858993459 : Int32))) (4 : Int32))) &&& (252645135 : Int32)) (8 : Int32))) (16 : Int32)))]
  refine z_istore_n (pc := 47) (L' := [(0, .int (((((((x - ((ushr x (1 : Int32)) &&& (1431655765 : Int32))) &&& (858993459 : Int32)) + ((ushr (x - ((ushr x (1 : Int32)) &&& (1431655765 : Int32))) (2 : Int32)) &&& (858993459 : Int32))) + (ushr (((x - ((ushr x (1 : Int32)) &&& (1431655765 : Int32))) &&& (858993459 : Int32)) + ((ushr (x - ((ushr x (1 : Int32)) &&& (1431655765 : Int32))) (2 : Int32)) &&& (858993459 : Int32))) (4 : Int32))) &&& (252645135 : Int32)) + (ushr (((((x - ((ushr x (1 : Int32)) &&& (1431655765 : Int32))) &&& (858993459 : Int32)) + ((ushr (x - ((ushr x (1 : Int32)) &&& (1431655765 : Int32))) (2 : Int32)) &&& (858993459 : Int32))) + (ushr (((x - ((ushr x (1 : Int32)) &&& (1431655765 : Int32))) &&& (858993459 : Int32)) + ((ushr (x - ((ushr x (1 : Int32)) &&& (1431655765 : Int32))) (2 : Int32)) &&& (858993459 : Int32))) (4 : Int32))) &&& (252645135 : Int32)) (8 : Int32))) + (ushr ((((((x - ((ushr x (1 : Int32)) &&& (1431655765 : Int32))) &&& (858993459 : Int32)) + ((ushr (x - ((ushr x (1 : Int32)) &&& (1431655765 : Int32))) (2 : Int32)) &&& (858993459 : Int32))) + (ushr (((x - ((ushr x (1 : Int32)) &&& (1431655765 : Int32))) &&& (858993459 : Int32)) + ((ushr (x - ((ushr x (1 : Int32)) &&& (1431655765 : Int32))) (2 : Int32)) &&& (858993459 : Int32))) (4 : Int32))) &&& (252645135 : Int32)) + (ushr (((((x - ((ushr x (1 : Int32)) &&& (1431655765 : Int32))) &&& (858993459 : Int32)) + ((ushr (x - ((ushr x (1 : Int32)) &&& (1431655765 : Int32))) (2 : Int32)) &&& (858993459 : Int32))) + (ushr (((x - ((ushr x (1 : Int32)) &&& (1431655765 : Int32))) &&& (858993459 : Int32)) + ((ushr (x - ((ushr x (1 : Int32)) &&& (1431655765 : Int32))) (2 : Int32)) &&& (858993459 : Int32))) (4 : Int32))) &&& (252645135 : Int32)) (8 : Int32))) (16 : Int32))))]) C dJ19_bitCount_47 rfl (by rw [hnL]; decide) rfl ?_
  refine z_iload_n (pc := 48) (j := 0) C dJ19_bitCount_48 rfl rfl ?_
  refine z_bipush (pc := 49) C dJ19_bitCount_49 (by decide) ?_
  show Z X h 0 0 [(0, .int (((((((x - ((ushr x (1 : Int32)) &&& (1431655765 : Int32))) &&& (858993459 : Int32)) + ((ushr (x - ((ushr x (1 : Int32)) &&& (1431655765 : Int32))) (2 : Int32)) &&& (858993459 : Int32))) + (ushr (((x - ((ushr x (1 : Int32)) &&& (1431655765 : Int32))) &&& (858993459 : Int32)) + ((ushr (x - ((ushr x (1 : Int32)) &&& (1431655765 : Int32))) (2 : Int32)) &&& (858993459 : Int32))) (4 : Int32))) &&& (252645135 : Int32)) + (ushr (((((x - ((ushr x (1 : Int32)) &&& (1431655765 : Int32))) &&& (858993459 : Int32)) + ((ushr (x - ((ushr x (1 : Int32)) &&& (1431655765 : Int32))) (2 : Int32)) &&& (858993459 : Int32))) + (ushr (((x - ((ushr x (1 : Int32)) &&& (1431655765 : Int32))) &&& (858993459 : Int32)) + ((ushr (x - ((ushr x (1 : Int32)) &&& (1431655765 : Int32))) (2 : Int32)) &&& (858993459 : Int32))) (4 : Int32))) &&& (252645135 : Int32)) (8 : Int32))) + (ushr ((((((x - ((ushr x (1 : Int32)) &&& (1431655765 : Int32))) &&& (858993459 : Int32)) + ((ushr (x - ((ushr x (1 : Int32)) &&& (1431655765 : Int32))) (2 : Int32)) &&& (858993459 : Int32))) + (ushr (((x - ((ushr x (1 : Int32)) &&& (1431655765 : Int32))) &&& (858993459 : Int32)) + ((ushr (x - ((ushr x (1 : Int32)) &&& (1431655765 : Int32))) (2 : Int32)) &&& (858993459 : Int32))) (4 : Int32))) &&& (252645135 : Int32)) + (ushr (((((x - ((ushr x (1 : Int32)) &&& (1431655765 : Int32))) &&& (858993459 : Int32)) + ((ushr (x - ((ushr x (1 : Int32)) &&& (1431655765 : Int32))) (2 : Int32)) &&& (858993459 : Int32))) + (ushr (((x - ((ushr x (1 : Int32)) &&& (1431655765 : Int32))) &&& (858993459 : Int32)) + ((ushr (x - ((ushr x (1 : Int32)) &&& (1431655765 : Int32))) (2 : Int32)) &&& (858993459 : Int32))) (4 : Int32))) &&& (252645135 : Int32)) (8 : Int32))) (16 : Int32))))] 51 [.int (63 : Int32), .int (((((((x - ((ushr x (1 : Int32)) &&& (1431655765 : Int32))) &&& (858993459 : Int32)) + ((ushr (x - ((ushr x (1 : Int32)) &&& (1431655765 : Int32))) (2 : Int32)) &&& (858993459 : Int32))) + (ushr (((x - ((ushr x (1 : Int32)) &&& (1431655765 : Int32))) &&& (858993459 : Int32)) + ((ushr (x - ((ushr x (1 : Int32)) &&& (1431655765 : Int32))) (2 : Int32)) &&& (858993459 : Int32))) (4 : Int32))) &&& (252645135 : Int32)) + (ushr (((((x - ((ushr x (1 : Int32)) &&& (1431655765 : Int32))) &&& (858993459 : Int32)) + ((ushr (x - ((ushr x (1 : Int32)) &&& (1431655765 : Int32))) (2 : Int32)) &&& (858993459 : Int32))) + (ushr (((x - ((ushr x (1 : Int32)) &&& (1431655765 : Int32))) &&& (858993459 : Int32)) + ((ushr (x - ((ushr x (1 : Int32)) &&& (1431655765 : Int32))) (2 : Int32)) &&& (858993459 : Int32))) (4 : Int32))) &&& (252645135 : Int32)) (8 : Int32))) + (ushr ((((((x - ((ushr x (1 : Int32)) &&& (1431655765 : Int32))) &&& (858993459 : Int32)) + ((ushr (x - ((ushr x (1 : Int32)) &&& (1431655765 : Int32))) (2 : Int32)) &&& (858993459 : Int32))) + (ushr (((x - ((ushr x (1 : Int32)) &&& (1431655765 : Int32))) &&& (858993459 : Int32)) + ((ushr (x - ((ushr x (1 : Int32)) &&& (1431655765 : Int32))) (2 : Int32)) &&& (858993459 : Int32))) (4 : Int32))) &&& (252645135 : Int32)) + (ushr (((((x - ((ushr x (1 : Int32)) &&& (1431655765 : Int32))) &&& (858993459 : Int32)) + ((ushr (x - ((ushr x (1 : Int32)) &&& (1431655765 : Int32))) (2 : Int32)) &&& (858993459 : Int32))) + (ushr (((x - ((ushr x (1 : Int32)) &&& (1431655765 : Int32))) &&& (858993459 : Int32)) + ((ushr (x - ((ushr x (1 : Int32)) &&& (1431655765 : Int32))) (2 : Int32)) &&& (858993459 : Int32))) (4 : Int32))) &&& (252645135 : Int32)) (8 : Int32))) (16 : Int32)))]
  refine z_iand (pc := 51) (x := ((((((x - ((ushr x (1 : Int32)) &&& (1431655765 : Int32))) &&& (858993459 : Int32)) + ((ushr (x - ((ushr x (1 : Int32)) &&& (1431655765 : Int32))) (2 : Int32)) &&& (858993459 : Int32))) + (ushr (((x - ((ushr x (1 : Int32)) &&& (1431655765 : Int32))) &&& (858993459 : Int32)) + ((ushr (x - ((ushr x (1 : Int32)) &&& (1431655765 : Int32))) (2 : Int32)) &&& (858993459 : Int32))) (4 : Int32))) &&& (252645135 : Int32)) + (ushr (((((x - ((ushr x (1 : Int32)) &&& (1431655765 : Int32))) &&& (858993459 : Int32)) + ((ushr (x - ((ushr x (1 : Int32)) &&& (1431655765 : Int32))) (2 : Int32)) &&& (858993459 : Int32))) + (ushr (((x - ((ushr x (1 : Int32)) &&& (1431655765 : Int32))) &&& (858993459 : Int32)) + ((ushr (x - ((ushr x (1 : Int32)) &&& (1431655765 : Int32))) (2 : Int32)) &&& (858993459 : Int32))) (4 : Int32))) &&& (252645135 : Int32)) (8 : Int32))) + (ushr ((((((x - ((ushr x (1 : Int32)) &&& (1431655765 : Int32))) &&& (858993459 : Int32)) + ((ushr (x - ((ushr x (1 : Int32)) &&& (1431655765 : Int32))) (2 : Int32)) &&& (858993459 : Int32))) + (ushr (((x - ((ushr x (1 : Int32)) &&& (1431655765 : Int32))) &&& (858993459 : Int32)) + ((ushr (x - ((ushr x (1 : Int32)) &&& (1431655765 : Int32))) (2 : Int32)) &&& (858993459 : Int32))) (4 : Int32))) &&& (252645135 : Int32)) + (ushr (((((x - ((ushr x (1 : Int32)) &&& (1431655765 : Int32))) &&& (858993459 : Int32)) + ((ushr (x - ((ushr x (1 : Int32)) &&& (1431655765 : Int32))) (2 : Int32)) &&& (858993459 : Int32))) + (ushr (((x - ((ushr x (1 : Int32)) &&& (1431655765 : Int32))) &&& (858993459 : Int32)) + ((ushr (x - ((ushr x (1 : Int32)) &&& (1431655765 : Int32))) (2 : Int32)) &&& (858993459 : Int32))) (4 : Int32))) &&& (252645135 : Int32)) (8 : Int32))) (16 : Int32))) (y := (63 : Int32)) C dJ19_bitCount_51 rfl ?_
  show Z X h 0 0 [(0, .int (((((((x - ((ushr x (1 : Int32)) &&& (1431655765 : Int32))) &&& (858993459 : Int32)) + ((ushr (x - ((ushr x (1 : Int32)) &&& (1431655765 : Int32))) (2 : Int32)) &&& (858993459 : Int32))) + (ushr (((x - ((ushr x (1 : Int32)) &&& (1431655765 : Int32))) &&& (858993459 : Int32)) + ((ushr (x - ((ushr x (1 : Int32)) &&& (1431655765 : Int32))) (2 : Int32)) &&& (858993459 : Int32))) (4 : Int32))) &&& (252645135 : Int32)) + (ushr (((((x - ((ushr x (1 : Int32)) &&& (1431655765 : Int32))) &&& (858993459 : Int32)) + ((ushr (x - ((ushr x (1 : Int32)) &&& (1431655765 : Int32))) (2 : Int32)) &&& (858993459 : Int32))) + (ushr (((x - ((ushr x (1 : Int32)) &&& (1431655765 : Int32))) &&& (858993459 : Int32)) + ((ushr (x - ((ushr x (1 : Int32)) &&& (1431655765 : Int32))) (2 : Int32)) &&& (858993459 : Int32))) (4 : Int32))) &&& (252645135 : Int32)) (8 : Int32))) + (ushr ((((((x - ((ushr x (1 : Int32)) &&& (1431655765 : Int32))) &&& (858993459 : Int32)) + ((ushr (x - ((ushr x (1 : Int32)) &&& (1431655765 : Int32))) (2 : Int32)) &&& (858993459 : Int32))) + (ushr (((x - ((ushr x (1 : Int32)) &&& (1431655765 : Int32))) &&& (858993459 : Int32)) + ((ushr (x - ((ushr x (1 : Int32)) &&& (1431655765 : Int32))) (2 : Int32)) &&& (858993459 : Int32))) (4 : Int32))) &&& (252645135 : Int32)) + (ushr (((((x - ((ushr x (1 : Int32)) &&& (1431655765 : Int32))) &&& (858993459 : Int32)) + ((ushr (x - ((ushr x (1 : Int32)) &&& (1431655765 : Int32))) (2 : Int32)) &&& (858993459 : Int32))) + (ushr (((x - ((ushr x (1 : Int32)) &&& (1431655765 : Int32))) &&& (858993459 : Int32)) + ((ushr (x - ((ushr x (1 : Int32)) &&& (1431655765 : Int32))) (2 : Int32)) &&& (858993459 : Int32))) (4 : Int32))) &&& (252645135 : Int32)) (8 : Int32))) (16 : Int32))))] 52 [.int ((((((((x - ((ushr x (1 : Int32)) &&& (1431655765 : Int32))) &&& (858993459 : Int32)) + ((ushr (x - ((ushr x (1 : Int32)) &&& (1431655765 : Int32))) (2 : Int32)) &&& (858993459 : Int32))) + (ushr (((x - ((ushr x (1 : Int32)) &&& (1431655765 : Int32))) &&& (858993459 : Int32)) + ((ushr (x - ((ushr x (1 : Int32)) &&& (1431655765 : Int32))) (2 : Int32)) &&& (858993459 : Int32))) (4 : Int32))) &&& (252645135 : Int32)) + (ushr (((((x - ((ushr x (1 : Int32)) &&& (1431655765 : Int32))) &&& (858993459 : Int32)) + ((ushr (x - ((ushr x (1 : Int32)) &&& (1431655765 : Int32))) (2 : Int32)) &&& (858993459 : Int32))) + (ushr (((x - ((ushr x (1 : Int32)) &&& (1431655765 : Int32))) &&& (858993459 : Int32)) + ((ushr (x - ((ushr x (1 : Int32)) &&& (1431655765 : Int32))) (2 : Int32)) &&& (858993459 : Int32))) (4 : Int32))) &&& (252645135 : Int32)) (8 : Int32))) + (ushr ((((((x - ((ushr x (1 : Int32)) &&& (1431655765 : Int32))) &&& (858993459 : Int32)) + ((ushr (x - ((ushr x (1 : Int32)) &&& (1431655765 : Int32))) (2 : Int32)) &&& (858993459 : Int32))) + (ushr (((x - ((ushr x (1 : Int32)) &&& (1431655765 : Int32))) &&& (858993459 : Int32)) + ((ushr (x - ((ushr x (1 : Int32)) &&& (1431655765 : Int32))) (2 : Int32)) &&& (858993459 : Int32))) (4 : Int32))) &&& (252645135 : Int32)) + (ushr (((((x - ((ushr x (1 : Int32)) &&& (1431655765 : Int32))) &&& (858993459 : Int32)) + ((ushr (x - ((ushr x (1 : Int32)) &&& (1431655765 : Int32))) (2 : Int32)) &&& (858993459 : Int32))) + (ushr (((x - ((ushr x (1 : Int32)) &&& (1431655765 : Int32))) &&& (858993459 : Int32)) + ((ushr (x - ((ushr x (1 : Int32)) &&& (1431655765 : Int32))) (2 : Int32)) &&& (858993459 : Int32))) (4 : Int32))) &&& (252645135 : Int32)) (8 : Int32))) (16 : Int32))) &&& (63 : Int32))]
  exact z_ireturn (pc := 52) C (by rw [hXp]; exact ⟨_, rfl, rfl, rfl⟩) dJ19_bitCount_52
set_option maxHeartbeats 4000000 in
theorem op_common {l : Launch} (hl : l.stackTraces = false) {Γ : zCx} {h : zH} {c : Nat} {A : zWA} {σ : zSt} (hW : csW Γ h c A σ) {i : Int} {x y : zCh} (hi : 0 ≤ i) (hx : σ.sh.cs[i.toNat]? = some x) (hy : σ.sh.cs[(i + 1).toNat]? = some y)  : zMet l yX1_commonTones (ws_ yX1_commonTones cX1_commonTones 2 (some .int)) ({ frames := 4, cells := 0, slots := 0, locals := 85 }) Γ h [.ref c, .int (iI i)] (zpure h (some (.int (iI ((pcn ((tns x.2.2.1 x.2.2.2.1 x.2.2.2.2) &&& (tns y.2.2.1 y.2.2.2.1 y.2.2.2.2)) : Nat) : Int))))) 0 0 := by
  refine zMet.of (cc := cX1_commonTones) hl (plainFor_of_name (by decide +kernel)) (Nat.le_of_ble_eq_true rfl) ?_
  intro X hXl hXΓ hXp C hnm hnL
  have C : zC X cX1_commonTones RX1 (some .int) 4 85 [] := C
  have hnL : X.2.1.2.2.2.2 = 2 := hnL
  subst hXl hXΓ
  show Z X h 0 0 [(0, .ref c), (1, .int (iI i))] 0 []
  obtain ⟨⟨tf, hc0, htx, hch⟩, hdq, ⟨lq, kq, lys, ys, hsx, hfl, hls, hl0, hyc, hkx⟩, hhi, hnd, hR⟩ := id hW
  obtain ⟨rsi, rff, rwd, rtl, rtx, rsh, rhi, rhl⟩ := id hR
  obtain ⟨rcl, rcr, rll, rlt, rkt, rkm, rks⟩ := rsh
  have hll := hls.len
  have hyl := hyc.len
  obtain ⟨lm, le0, ln0, lf, hlq, hle, hln, hlN, hlx⟩ := id hfl
  have hxw := hl0
  obtain ⟨mw, fw, law, lew, lzw, ltw, lnw, lcw, lxw, lqw⟩ := hxw
  have hcl := hyc.cl lxw
  have hiy := (List.getElem?_eq_some_iff.mp hy).1
  refine z_iload_n (pc := 0) (j := 1) C dX1_commonTones_0 rfl rfl ?_
  refine z_aload_n (pc := 1) (j := 0) C dX1_commonTones_1 rfl rfl ?_
  refine z_getfield (pc := 2) (v := .ref A.cu.s) C in_X1 rfl 5 (by decide) q282 (fun _ z => z) hc0 rfl dX1_commonTones_2 ?_
  refine z_getfieldN (pc := 5) (v := .ref A.cu.cq) C in_X2 rfl 1 (by decide) q172 (fun _ z => z) hsx rfl dX1_commonTones_5 ?_
  refine z_callV (pc := 8) (n := 0) (kc' := 0) (ks' := 0) C (ct_L_size C.t law) (lw_V q995 q367 q368 q68 q369) (by decide +kernel) ⟨by decide, by decide⟩ law rfl rfl rfl (Nat.le_of_ble_eq_true rfl) dX1_commonTones_8 (by omega) (by omega) (zpk (st' := [.int (iI ((ys.length : Nat) : Int)), .int (iI i)]) rfl ?_) zrx
  refine z_iconst (pc := 11) C dX1_commonTones_11 ?_
  refine z_isub (pc := 12) C dX1_commonTones_12 ?_
  refine z_callS (pc := 13) (n := 2) (kc' := 0) (ks' := 0) C (ct_chkI C.t (i := i) (n := ((ys.length : Nat) : Int) - 1) (by omega) (by omega)) (lw_S q1695 q1696 q63 q1697) (by decide +kernel) ⟨by decide, by decide⟩ rfl rfl (Nat.le_of_ble_eq_true rfl) dX1_commonTones_13 (by omega) (by omega) (zpk (st' := []) rfl ?_) zrx
  refine z_aload_n (pc := 16) (j := 0) C dX1_commonTones_16 rfl rfl ?_
  refine z_iload_n (pc := 17) (j := 1) C dX1_commonTones_17 rfl rfl ?_
  refine z_callV (pc := 18) (n := 1) (kc' := 0) (ks' := 0) C (op_chord C.t hW (i := i) (by omega) hx) (lw_V q1727 q1729 qs16 q63 q1730) (by decide +kernel) ⟨by decide, by decide⟩ hc0 rfl rfl rfl (Nat.le_of_ble_eq_true rfl) dX1_commonTones_18 (by omega) (by omega) (zrk fun w h2 hp => ?_) zrx
  obtain ⟨q1, rfl, hs3, eh2⟩ := hp
  rw [eh2]
  have xrq1 := rcr _ (List.mem_of_getElem? hx)
  obtain ⟨xr1q1, xr2q1, xr3q1, xr4q1, xr5q1⟩ := id xrq1
  show Z X h 0 0 [(0, .ref c), (1, .int (iI i))] 21 [.ref q1]
  refine z_callV (pc := 21) (n := 0) (kc' := 0) (ks' := 0) C (ct_C_tones C.t hs3 (by omega) (by omega) (by omega)) (lw_V q1865 q1866 q1867 q89 q1868) (by decide +kernel) ⟨by decide, by decide⟩ hs3 rfl rfl rfl (Nat.le_of_ble_eq_true rfl) dX1_commonTones_21 (by omega) (by omega) (zpk (st' := [.int (iI ((tns x.2.2.1 x.2.2.2.1 x.2.2.2.2 : Nat) : Int))]) rfl ?_) zrx
  refine z_aload_n (pc := 24) (j := 0) C dX1_commonTones_24 rfl rfl ?_
  refine z_iload_n (pc := 25) (j := 1) C dX1_commonTones_25 rfl rfl ?_
  refine z_iconst (pc := 26) C dX1_commonTones_26 ?_
  refine z_iadd (pc := 27) C dX1_commonTones_27 ?_
  refine z_callV (pc := 28) (n := 1) (kc' := 0) (ks' := 0) C (op_chord C.t hW (i := i + 1) (by omega) hy) (lw_V q1727 q1729 qs16 q63 q1730) (by decide +kernel) ⟨by decide, by decide⟩ hc0 rfl rfl rfl (Nat.le_of_ble_eq_true rfl) dX1_commonTones_28 (by omega) (by omega) (zrk fun w h5 hp => ?_) zrx
  obtain ⟨q4, rfl, hs6, eh5⟩ := hp
  rw [eh5]
  have xrq4 := rcr _ (List.mem_of_getElem? hy)
  obtain ⟨xr1q4, xr2q4, xr3q4, xr4q4, xr5q4⟩ := id xrq4
  show Z X h 0 0 [(0, .ref c), (1, .int (iI i))] 31 [.ref q4, .int (iI ((tns x.2.2.1 x.2.2.2.1 x.2.2.2.2 : Nat) : Int))]
  refine z_callV (pc := 31) (n := 0) (kc' := 0) (ks' := 0) C (ct_C_tones C.t hs6 (by omega) (by omega) (by omega)) (lw_V q1865 q1866 q1867 q89 q1868) (by decide +kernel) ⟨by decide, by decide⟩ hs6 rfl rfl rfl (Nat.le_of_ble_eq_true rfl) dX1_commonTones_31 (by omega) (by omega) (zpk (st' := [.int (iI ((tns y.2.2.1 y.2.2.2.1 y.2.2.2.2 : Nat) : Int)), .int (iI ((tns x.2.2.1 x.2.2.2.1 x.2.2.2.2 : Nat) : Int))]) rfl ?_) zrx
  have hx12 : (tns x.2.2.1 x.2.2.2.1 x.2.2.2.2) < 4096 := tns_lt _ _ _
  have hy12 : (tns y.2.2.1 y.2.2.2.1 y.2.2.2.2) < 4096 := tns_lt _ _ _
  refine z_iand (pc := 34) C dX1_commonTones_34 (iI_andN (by omega) (by omega)) ?_
  have hxy12 : (tns x.2.2.1 x.2.2.2.1 x.2.2.2.2) &&& (tns y.2.2.1 y.2.2.2.1 y.2.2.2.2) < 4096 := Nat.lt_of_le_of_lt Nat.and_le_left hx12
  refine z_callS (pc := 35) (n := 1) (kc' := 0) (ks' := 0) C (ct_bitc C.t (x := iI ((tns x.2.2.1 x.2.2.2.1 x.2.2.2.2 &&& tns y.2.2.1 y.2.2.2.1 y.2.2.2.2 : Nat) : Int))) (lw_S q1873 q1874 q91 q1875) (by decide +kernel) ⟨by decide, by decide⟩ rfl rfl (Nat.le_of_ble_eq_true rfl) dX1_commonTones_35 (by omega) (by omega) (zpk (st' := [.int (iI ((pcn (tns x.2.2.1 x.2.2.2.1 x.2.2.2.2 &&& tns y.2.2.1 y.2.2.2.1 y.2.2.2.2) : Nat) : Int))]) (by rw [bcnt_eq (by omega)]; rfl) ?_) zrx
  exact z_ireturn (pc := 38) C (by rw [hXp]; exact zpure_i rfl rfl) dX1_commonTones_38
set_option maxHeartbeats 4000000 in
theorem ct_chkIb2 {l : Launch} (hl : l.stackTraces = false) {Γ : zCx} {h : zH} {i n : Int} (hr : -2147483648 ≤ i ∧ i ≤ 2147483647 ∧ -1000 ≤ n ∧ n ≤ 2147483647) (hi : ¬ (0 ≤ i ∧ i < n)) : zMet l yX1_checkIndex (ws_ yX1_checkIndex cX1_checkIndex 2 none) ({ frames := 6, cells := 1, slots := 6, locals := 81 }) Γ h [.int (iI i), .int (iI n)] (zthp h "java/lang/IndexOutOfBoundsException") 1 6 := by
  refine zMet.of (cc := cX1_checkIndex) hl (plainFor_of_name (by decide +kernel)) (Nat.le_of_ble_eq_true rfl) ?_
  intro X hXl hXΓ hXp C hnm hnL
  have C : zC X cX1_checkIndex RX1 none 6 81 [] := C
  have hnL : X.2.1.2.2.2.2 = 2 := hnL
  subst hXl hXΓ
  show Z X h 1 6 [(0, .int (iI i)), (1, .int (iI n))] 0 []
  refine z_iload_n (pc := 0) (j := 0) C dX1_checkIndex_0 rfl rfl ?_
  refine z_i2lI (pc := 1) C dX1_checkIndex_1 (by omega) ?_
  refine z_lconst (pc := 2) (v := lI 0) C dX1_checkIndex_2 (by decide) ?_
  refine z_iload_n (pc := 3) (j := 1) C dX1_checkIndex_3 rfl rfl ?_
  refine z_i2lI (pc := 4) C dX1_checkIndex_4 (by omega) ?_
  refine z_lconst (pc := 5) (v := lI 1) C dX1_checkIndex_5 (by decide) ?_
  refine z_lsubI (pc := 6) C dX1_checkIndex_6 ?_
  refine z_callS (pc := 7) (n := 3) (kc' := 1) (ks' := 6) C (ct_isIn C.t (a := i) (b := 0) (c := n - 1) (by omega) (by decide) (by omega)) (lw_S q1647 q1648 q63 q1649) (by decide +kernel) ⟨by decide, by decide⟩ rfl rfl (Nat.le_of_ble_eq_true rfl) dX1_checkIndex_7 (by omega) (by omega) (zpk (st' := [.int (iI (if 0 ≤ i ∧ i ≤ n - 1 then 1 else 0))]) rfl ?_) zrx
  rw [show ((if 0 ≤ i ∧ i ≤ n - 1 then 1 else 0) : Int) = 0 from if_neg (by omega)]
  show Z X h 1 6 [(0, .int (iI i)), (1, .int (iI n))] 10 [.int (iI 0)]
  refine z_if_ne (pc := 10) (tgt := 21) C dX1_checkIndex_10 (by decide) (by decide) (fun z => absurd z (by decide)) (fun _ => ?_)
  exact z_throw0 (pc := 13) (names := ["java/lang/RuntimeException", "java/lang/Exception"]) C q1698 q92 (by decide +kernel) (by decide +kernel) th_I (by decide +kernel) dX1_checkIndex_13 dX1_checkIndex_16 dX1_checkIndex_17 dX1_checkIndex_20 (fun x hx => nomatch hx) (by decide) (Nat.le_of_ble_eq_true rfl) (by omega) (by omega) (fun q => by rw [hXp]; exact ⟨_, rfl, rfl⟩)
set_option maxHeartbeats 4000000 in
theorem op_common_b {l : Launch} (hl : l.stackTraces = false) {Γ : zCx} {h : zH} {c : Nat} {A : zWA} {σ : zSt} (hW : csW Γ h c A σ) {i : Int} (hi : -2147483648 ≤ i ∧ i ≤ 2147483647) (hb : ¬ (0 ≤ i ∧ i < ((σ.sh.cs.length : Nat) : Int) - 1))  : zMet l yX1_commonTones (ws_ yX1_commonTones cX1_commonTones 2 (some .int)) ({ frames := 7, cells := 1, slots := 6, locals := 102 }) Γ h [.ref c, .int (iI i)] (zthp h "java/lang/IndexOutOfBoundsException") 1 6 := by
  refine zMet.of (cc := cX1_commonTones) hl (plainFor_of_name (by decide +kernel)) (Nat.le_of_ble_eq_true rfl) ?_
  intro X hXl hXΓ hXp C hnm hnL
  have C : zC X cX1_commonTones RX1 (some .int) 7 102 [] := C
  have hnL : X.2.1.2.2.2.2 = 2 := hnL
  subst hXl hXΓ
  show Z X h 1 6 [(0, .ref c), (1, .int (iI i))] 0 []
  obtain ⟨⟨tf, hc0, htx, hch⟩, hdq, ⟨lq, kq, lys, ys, hsx, hfl, hls, hl0, hyc, hkx⟩, hhi, hnd, hR⟩ := id hW
  obtain ⟨rsi, rff, rwd, rtl, rtx, rsh, rhi, rhl⟩ := id hR
  obtain ⟨rcl, rcr, rll, rlt, rkt, rkm, rks⟩ := rsh
  have hll := hls.len
  have hyl := hyc.len
  obtain ⟨lm, le0, ln0, lf, hlq, hle, hln, hlN, hlx⟩ := id hfl
  have hxw := hl0
  obtain ⟨mw, fw, law, lew, lzw, ltw, lnw, lcw, lxw, lqw⟩ := hxw
  have hcl := hyc.cl lxw
  refine z_iload_n (pc := 0) (j := 1) C dX1_commonTones_0 rfl rfl ?_
  refine z_aload_n (pc := 1) (j := 0) C dX1_commonTones_1 rfl rfl ?_
  refine z_getfield (pc := 2) (v := .ref A.cu.s) C in_X1 rfl 5 (by decide) q282 (fun _ z => z) hc0 rfl dX1_commonTones_2 ?_
  refine z_getfieldN (pc := 5) (v := .ref A.cu.cq) C in_X2 rfl 1 (by decide) q172 (fun _ z => z) hsx rfl dX1_commonTones_5 ?_
  refine z_callV (pc := 8) (n := 0) (kc' := 1) (ks' := 6) C (ct_L_size C.t law) (lw_V q995 q367 q368 q68 q369) (by decide +kernel) ⟨by decide, by decide⟩ law rfl rfl rfl (Nat.le_of_ble_eq_true rfl) dX1_commonTones_8 (by omega) (by omega) (zpk (st' := [.int (iI ((ys.length : Nat) : Int)), .int (iI i)]) rfl ?_) zrx
  refine z_iconst (pc := 11) C dX1_commonTones_11 ?_
  refine z_isub (pc := 12) C dX1_commonTones_12 ?_
  refine z_callS (pc := 13) (n := 2) (kc' := 0) (ks' := 0) C (ct_chkIb2 C.t (i := i) (n := ((ys.length : Nat) : Int) - 1) (by omega) (by omega)) (lw_S q1695 q1696 q63 q1697) (by decide +kernel) ⟨by decide, by decide⟩ rfl rfl (Nat.le_of_ble_eq_true rfl) dX1_commonTones_13 (by omega) (by omega) zthk (zthx fun q2 h1 hp => ?_)
  rw [hp]
  exact zx_out C (fun x hx => nomatch hx) (by rw [hXp]; exact ⟨_, rfl, rfl⟩)

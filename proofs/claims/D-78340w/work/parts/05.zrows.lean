/-! ===== Z rows: one instruction each, ints as integers ===== -/
set_option maxRecDepth 100000
def iI (e : Int) : Int32 := Int32.ofInt e
theorem iI_add (a b : Int) : iI a + iI b = iI (a + b) := (Int32.ofInt_add a b).symm
theorem iI_sub (a b : Int) : iI a - iI b = iI (a - b) := (Int32.ofInt_sub a b).symm
theorem iI_mul (a b : Int) : iI a * iI b = iI (a * b) := (Int32.ofInt_mul a b).symm
theorem iI_neg (a : Int) : -iI a = iI (-a) := (Int32.ofInt_neg a).symm
theorem iI_int {a : Int} (h1 : -2147483648 ≤ a) (h2 : a ≤ 2147483647) : (iI a).toInt = a := by
  unfold iI
  rw [Int32.toInt_ofInt, Int.bmod_def]
  simp only [Int32.size]
  split <;> omega
theorem iI_toInt (x : Int32) : iI x.toInt = x := Int32.ofInt_toInt x
theorem iI_eq {a b : Int} (a1 : -2147483648 ≤ a) (a2 : a ≤ 2147483647) (b1 : -2147483648 ≤ b) (b2 : b ≤ 2147483647) : iI a = iI b ↔ a = b := by
  constructor
  · intro h
    have h1 := congrArg Int32.toInt h
    rwa [iI_int a1 a2, iI_int b1 b2] at h1
  · intro h; rw [h]
theorem iI_lt {a b : Int} (a1 : -2147483648 ≤ a) (a2 : a ≤ 2147483647) (b1 : -2147483648 ≤ b) (b2 : b ≤ 2147483647) : iI a < iI b ↔ a < b := by
  rw [Int32.lt_iff_toInt_lt, iI_int a1 a2, iI_int b1 b2]
theorem iI_le {a b : Int} (a1 : -2147483648 ≤ a) (a2 : a ≤ 2147483647) (b1 : -2147483648 ≤ b) (b2 : b ≤ 2147483647) : iI a ≤ iI b ↔ a ≤ b := by
  rw [Int32.le_iff_toInt_le, iI_int a1 a2, iI_int b1 b2]
theorem iI_nat {a : Int} (h1 : 0 ≤ a) (h2 : a ≤ 2147483647) : (iI a).toNatClampNeg = a.toNat := by
  show (iI a).toInt.toNat = _
  rw [iI_int (by omega) h2]
theorem iI_in {a : Int} {n : Nat} (h1 : 0 ≤ a) (h2 : a < n) (h3 : a ≤ 2147483647) : vp_in (iI a) n := by
  unfold vp_in
  rw [iI_nat h1 h3, show (0 : Int32) = iI 0 from rfl, iI_lt (by omega) h3 (by decide) (by decide)]
  omega
theorem iI_ofNat (n : Nat) : Int32.ofNat n = iI (n : Int) := by
  unfold iI
  exact (Int32.ofInt_eq_ofNat).symm
theorem iI_0 : (0 : Int32) = iI 0 := rfl
section ZROWS
variable {X : zT} {cc : ByteArray} {own : String} {ret : Option FieldType} {nf nl : Nat} {hh : List ExceptionTableEntry} {h : zH} {kc ks : Nat} {L : List (Nat × Value)} {pc : Nat} {st : List Value}

theorem z_iconst (C : zC X cc own ret nf nl hh) {n : Int} (d : decode cc pc = .ok (.iconst n, 1)) (K : Z X h kc ks L (pc + 1) (.int (iI n) :: st)) : Z X h kc ks L pc (st) :=
  fun H locs cells slots ls hS => lv_iconst C.x C.b d rfl (K H locs cells slots ls hS)
theorem z_bipush (C : zC X cc own ret nf nl hh) {n : Int} (d : decode cc pc = .ok (.bipush n, 2)) (hv : (Int8.ofInt n).toInt32 = iI n) (K : Z X h kc ks L (pc + 2) (.int (iI n) :: st)) : Z X h kc ks L pc (st) :=
  fun H locs cells slots ls hS => lv_bipush C.x C.b d hv (K H locs cells slots ls hS)
theorem z_sipush (C : zC X cc own ret nf nl hh) {n : Int} (d : decode cc pc = .ok (.sipush n, 3)) (hv : (Int16.ofInt n).toInt32 = iI n) (K : Z X h kc ks L (pc + 3) (.int (iI n) :: st)) : Z X h kc ks L pc (st) :=
  fun H locs cells slots ls hS => lv_sipush C.x C.b d hv (K H locs cells slots ls hS)
theorem z_lconst (C : zC X cc own ret nf nl hh) {n : Fin 2} {v : Int64} (d : decode cc pc = .ok (.lconst n, 1)) (hv : Int64.ofNat (n : Nat) = v) (K : Z X h kc ks L (pc + 1) (.long v :: st)) : Z X h kc ks L pc (st) :=
  fun H locs cells slots ls hS => lv_lconst C.x C.b d hv (K H locs cells slots ls hS)
theorem z_iload_n (C : zC X cc own ret nf nl hh) {k : Fin 4} {i j : Nat} {x : Int32} (d : decode cc pc = .ok (.iload_n k, 1)) (hi : (k : Nat) = i) (hl : L[j]? = some (i, .int x)) (K : Z X h kc ks L (pc + 1) (.int x :: st)) : Z X h kc ks L pc (st) :=
  fun H locs cells slots ls hS => lv_iload_n C.x C.b d hi (lv_at hS.2.2.2.2 j hl) (K H locs cells slots ls hS)
theorem z_iload (C : zC X cc own ret nf nl hh) {i j : Nat} {x : Int32} (d : decode cc pc = .ok (.iload i, 2)) (hl : L[j]? = some (i, .int x)) (K : Z X h kc ks L (pc + 2) (.int x :: st)) : Z X h kc ks L pc (st) :=
  fun H locs cells slots ls hS => lv_iload C.x C.b d (lv_at hS.2.2.2.2 j hl) (K H locs cells slots ls hS)
theorem z_lload_n (C : zC X cc own ret nf nl hh) {k : Fin 4} {i j : Nat} {x : Int64} (d : decode cc pc = .ok (.lload_n k, 1)) (hi : (k : Nat) = i) (hl : L[j]? = some (i, .long x)) (K : Z X h kc ks L (pc + 1) (.long x :: st)) : Z X h kc ks L pc (st) :=
  fun H locs cells slots ls hS => lv_lload_n C.x C.b d hi (lv_at hS.2.2.2.2 j hl) (K H locs cells slots ls hS)
theorem z_lload (C : zC X cc own ret nf nl hh) {i j : Nat} {x : Int64} (d : decode cc pc = .ok (.lload i, 2)) (hl : L[j]? = some (i, .long x)) (K : Z X h kc ks L (pc + 2) (.long x :: st)) : Z X h kc ks L pc (st) :=
  fun H locs cells slots ls hS => lv_lload C.x C.b d (lv_at hS.2.2.2.2 j hl) (K H locs cells slots ls hS)
theorem z_aload_n (C : zC X cc own ret nf nl hh) {k : Fin 4} {i j : Nat} {x : Nat} (d : decode cc pc = .ok (.aload_n k, 1)) (hi : (k : Nat) = i) (hl : L[j]? = some (i, .ref x)) (K : Z X h kc ks L (pc + 1) (.ref x :: st)) : Z X h kc ks L pc (st) :=
  fun H locs cells slots ls hS => lv_aload_n C.x C.b d hi (lv_at hS.2.2.2.2 j hl) (K H locs cells slots ls hS)
theorem z_aload (C : zC X cc own ret nf nl hh) {i j : Nat} {x : Nat} (d : decode cc pc = .ok (.aload i, 2)) (hl : L[j]? = some (i, .ref x)) (K : Z X h kc ks L (pc + 2) (.ref x :: st)) : Z X h kc ks L pc (st) :=
  fun H locs cells slots ls hS => lv_aload C.x C.b d (lv_at hS.2.2.2.2 j hl) (K H locs cells slots ls hS)
theorem z_aload_nN (C : zC X cc own ret nf nl hh) {k : Fin 4} {i j : Nat} (d : decode cc pc = .ok (.aload_n k, 1)) (hi : (k : Nat) = i) (hl : L[j]? = some (i, .null)) (K : Z X h kc ks L (pc + 1) (.null :: st)) : Z X h kc ks L pc (st) :=
  fun H locs cells slots ls hS => lv_aload_nN C.x C.b d hi (lv_at hS.2.2.2.2 j hl) (K H locs cells slots ls hS)
theorem z_aloadN (C : zC X cc own ret nf nl hh) {i j : Nat} (d : decode cc pc = .ok (.aload i, 2)) (hl : L[j]? = some (i, .null)) (K : Z X h kc ks L (pc + 2) (.null :: st)) : Z X h kc ks L pc (st) :=
  fun H locs cells slots ls hS => lv_aloadN C.x C.b d (lv_at hS.2.2.2.2 j hl) (K H locs cells slots ls hS)
theorem z_istore_n (C : zC X cc own ret nf nl hh) {k : Fin 4} {i : Nat} {x : Int32} {L' : List (Nat × Value)} (d : decode cc pc = .ok (.istore_n k, 1)) (hi : (k : Nat) = i) (hn : i < X.2.1.2.2.2.2) (hl : (i, Value.int x) :: L.filter (fun q => !(q.1 == i) && !(q.1 + 1 == i && q.2.category == 2)) = L') (K : Z X h kc ks L' (pc + 1) st) : Z X h kc ks L pc (.int x :: st) :=
  fun H locs cells slots ls hS => lv_istore_n C.x C.b d hi hS.2.2.2.2 hn hl fun ls' hL => K H locs cells slots ls' ⟨hS.1, hS.2.1, hS.2.2.1, hS.2.2.2.1, hL⟩
theorem z_istore (C : zC X cc own ret nf nl hh) {i : Nat} {x : Int32} {L' : List (Nat × Value)} (d : decode cc pc = .ok (.istore i, 2)) (hn : i < X.2.1.2.2.2.2) (hl : (i, Value.int x) :: L.filter (fun q => !(q.1 == i) && !(q.1 + 1 == i && q.2.category == 2)) = L') (K : Z X h kc ks L' (pc + 2) st) : Z X h kc ks L pc (.int x :: st) :=
  fun H locs cells slots ls hS => lv_istore C.x C.b d hS.2.2.2.2 hn hl fun ls' hL => K H locs cells slots ls' ⟨hS.1, hS.2.1, hS.2.2.1, hS.2.2.2.1, hL⟩
theorem z_astore_n (C : zC X cc own ret nf nl hh) {k : Fin 4} {i : Nat} {x : Nat} {L' : List (Nat × Value)} (d : decode cc pc = .ok (.astore_n k, 1)) (hi : (k : Nat) = i) (hn : i < X.2.1.2.2.2.2) (hl : (i, Value.ref x) :: L.filter (fun q => !(q.1 == i) && !(q.1 + 1 == i && q.2.category == 2)) = L') (K : Z X h kc ks L' (pc + 1) st) : Z X h kc ks L pc (.ref x :: st) :=
  fun H locs cells slots ls hS => lv_astore_n C.x C.b d hi hS.2.2.2.2 hn hl fun ls' hL => K H locs cells slots ls' ⟨hS.1, hS.2.1, hS.2.2.1, hS.2.2.2.1, hL⟩
theorem z_astore (C : zC X cc own ret nf nl hh) {i : Nat} {x : Nat} {L' : List (Nat × Value)} (d : decode cc pc = .ok (.astore i, 2)) (hn : i < X.2.1.2.2.2.2) (hl : (i, Value.ref x) :: L.filter (fun q => !(q.1 == i) && !(q.1 + 1 == i && q.2.category == 2)) = L') (K : Z X h kc ks L' (pc + 2) st) : Z X h kc ks L pc (.ref x :: st) :=
  fun H locs cells slots ls hS => lv_astore C.x C.b d hS.2.2.2.2 hn hl fun ls' hL => K H locs cells slots ls' ⟨hS.1, hS.2.1, hS.2.2.1, hS.2.2.2.1, hL⟩
theorem z_astore_nN (C : zC X cc own ret nf nl hh) {k : Fin 4} {i : Nat} {L' : List (Nat × Value)} (d : decode cc pc = .ok (.astore_n k, 1)) (hi : (k : Nat) = i) (hn : i < X.2.1.2.2.2.2) (hl : (i, Value.null) :: L.filter (fun q => !(q.1 == i) && !(q.1 + 1 == i && q.2.category == 2)) = L') (K : Z X h kc ks L' (pc + 1) st) : Z X h kc ks L pc (.null :: st) :=
  fun H locs cells slots ls hS => lv_astore_nN C.x C.b d hi hS.2.2.2.2 hn hl fun ls' hL => K H locs cells slots ls' ⟨hS.1, hS.2.1, hS.2.2.1, hS.2.2.2.1, hL⟩
theorem z_astoreN (C : zC X cc own ret nf nl hh) {i : Nat} {L' : List (Nat × Value)} (d : decode cc pc = .ok (.astore i, 2)) (hn : i < X.2.1.2.2.2.2) (hl : (i, Value.null) :: L.filter (fun q => !(q.1 == i) && !(q.1 + 1 == i && q.2.category == 2)) = L') (K : Z X h kc ks L' (pc + 2) st) : Z X h kc ks L pc (.null :: st) :=
  fun H locs cells slots ls hS => lv_astoreN C.x C.b d hS.2.2.2.2 hn hl fun ls' hL => K H locs cells slots ls' ⟨hS.1, hS.2.1, hS.2.2.1, hS.2.2.2.1, hL⟩
theorem z_lstore_n (C : zC X cc own ret nf nl hh) {k : Fin 4} {i : Nat} {x : Int64} {L' : List (Nat × Value)} (d : decode cc pc = .ok (.lstore_n k, 1)) (hi : (k : Nat) = i) (hn : i + 1 < X.2.1.2.2.2.2) (hl : (i, Value.long x) :: L.filter (fun q => !(q.1 == i) && (!(q.1 == i + 1) && !(q.1 + 1 == i && q.2.category == 2))) = L') (K : Z X h kc ks L' (pc + 1) st) : Z X h kc ks L pc (.long x :: st) :=
  fun H locs cells slots ls hS => lv_lstore_n C.x C.b d hi hS.2.2.2.2 hn hl fun ls' hL => K H locs cells slots ls' ⟨hS.1, hS.2.1, hS.2.2.1, hS.2.2.2.1, hL⟩
theorem z_lstore (C : zC X cc own ret nf nl hh) {i : Nat} {x : Int64} {L' : List (Nat × Value)} (d : decode cc pc = .ok (.lstore i, 2)) (hn : i + 1 < X.2.1.2.2.2.2) (hl : (i, Value.long x) :: L.filter (fun q => !(q.1 == i) && (!(q.1 == i + 1) && !(q.1 + 1 == i && q.2.category == 2))) = L') (K : Z X h kc ks L' (pc + 2) st) : Z X h kc ks L pc (.long x :: st) :=
  fun H locs cells slots ls hS => lv_lstore C.x C.b d hS.2.2.2.2 hn hl fun ls' hL => K H locs cells slots ls' ⟨hS.1, hS.2.1, hS.2.2.1, hS.2.2.2.1, hL⟩
theorem z_iinc (C : zC X cc own ret nf nl hh) {i k : Nat} {n a : Int} {L' : List (Nat × Value)} (d : decode cc pc = .ok (.iinc i n, 3)) (hk : L[k]? = some (i, .int (iI a))) (hn : i < X.2.1.2.2.2.2) (hl : (i, Value.int (iI (a + n))) :: L.filter (fun q => !(q.1 == i) && !(q.1 + 1 == i && q.2.category == 2)) = L') (K : Z X h kc ks L' (pc + 3) st) : Z X h kc ks L pc st :=
  fun H locs cells slots ls hS => lv_iinc C.x C.b d hS.2.2.2.2 hk (iI_add a n) hn hl fun ls' hL => K H locs cells slots ls' ⟨hS.1, hS.2.1, hS.2.2.1, hS.2.2.2.1, hL⟩
theorem z_iadd (C : zC X cc own ret nf nl hh) {a b : Int} (d : decode cc pc = .ok (.iadd, 1)) (K : Z X h kc ks L (pc + 1) (.int (iI (a + b)) :: st)) : Z X h kc ks L pc (.int (iI b) :: .int (iI a) :: st) :=
  fun H locs cells slots ls hS => lv_iadd C.x C.b d (by rw [iI_add]; exact (K H locs cells slots ls hS))
theorem z_isub (C : zC X cc own ret nf nl hh) {a b : Int} (d : decode cc pc = .ok (.isub, 1)) (K : Z X h kc ks L (pc + 1) (.int (iI (a - b)) :: st)) : Z X h kc ks L pc (.int (iI b) :: .int (iI a) :: st) :=
  fun H locs cells slots ls hS => lv_isub C.x C.b d (by rw [iI_sub]; exact (K H locs cells slots ls hS))
theorem z_imul (C : zC X cc own ret nf nl hh) {a b : Int} (d : decode cc pc = .ok (.imul, 1)) (K : Z X h kc ks L (pc + 1) (.int (iI (a * b)) :: st)) : Z X h kc ks L pc (.int (iI b) :: .int (iI a) :: st) :=
  fun H locs cells slots ls hS => lv_imul C.x C.b d (by rw [iI_mul]; exact (K H locs cells slots ls hS))
theorem z_ineg (C : zC X cc own ret nf nl hh) {a : Int} (d : decode cc pc = .ok (.ineg, 1)) (K : Z X h kc ks L (pc + 1) (.int (iI (-a)) :: st)) : Z X h kc ks L pc (.int (iI a) :: st) :=
  fun H locs cells slots ls hS => lv_ineg C.x C.b d (by rw [iI_neg]; exact (K H locs cells slots ls hS))
theorem z_iand (C : zC X cc own ret nf nl hh) {x y z : Int32} (d : decode cc pc = .ok (.iand, 1)) (hz : x &&& y = z) (K : Z X h kc ks L (pc + 1) (.int z :: st)) : Z X h kc ks L pc (.int y :: .int x :: st) :=
  fun H locs cells slots ls hS => lv_iand C.x C.b d (by rw [hz]; exact (K H locs cells slots ls hS))
theorem z_ior (C : zC X cc own ret nf nl hh) {x y z : Int32} (d : decode cc pc = .ok (.ior, 1)) (hz : x ||| y = z) (K : Z X h kc ks L (pc + 1) (.int z :: st)) : Z X h kc ks L pc (.int y :: .int x :: st) :=
  fun H locs cells slots ls hS => lv_ior C.x C.b d (by rw [hz]; exact (K H locs cells slots ls hS))
theorem z_ixor (C : zC X cc own ret nf nl hh) {x y z : Int32} (d : decode cc pc = .ok (.ixor, 1)) (hz : x ^^^ y = z) (K : Z X h kc ks L (pc + 1) (.int z :: st)) : Z X h kc ks L pc (.int y :: .int x :: st) :=
  fun H locs cells slots ls hS => lv_ixor C.x C.b d (by rw [hz]; exact (K H locs cells slots ls hS))
theorem z_ishl (C : zC X cc own ret nf nl hh) {x y z : Int32} (d : decode cc pc = .ok (.ishl, 1)) (hz : x <<< (y &&& 31) = z) (K : Z X h kc ks L (pc + 1) (.int z :: st)) : Z X h kc ks L pc (.int y :: .int x :: st) :=
  fun H locs cells slots ls hS => lv_ishl C.x C.b d (by rw [hz]; exact (K H locs cells slots ls hS))
theorem z_ishr (C : zC X cc own ret nf nl hh) {x y z : Int32} (d : decode cc pc = .ok (.ishr, 1)) (hz : x >>> (y &&& 31) = z) (K : Z X h kc ks L (pc + 1) (.int z :: st)) : Z X h kc ks L pc (.int y :: .int x :: st) :=
  fun H locs cells slots ls hS => lv_ishr C.x C.b d (by rw [hz]; exact (K H locs cells slots ls hS))
theorem z_iushr (C : zC X cc own ret nf nl hh) {x y z : Int32} (d : decode cc pc = .ok (.iushr, 1)) (hz : (x.toUInt32 >>> (y.toUInt32 &&& Int32.toUInt32 31)).toInt32 = z) (K : Z X h kc ks L (pc + 1) (.int z :: st)) : Z X h kc ks L pc (.int y :: .int x :: st) :=
  fun H locs cells slots ls hS => lv_iushr C.x C.b d hz (K H locs cells slots ls hS)
theorem z_idiv (C : zC X cc own ret nf nl hh) {x y z : Int32} (d : decode cc pc = .ok (.idiv, 1)) (hne : ¬ y = 0) (hz : x / y = z) (K : Z X h kc ks L (pc + 1) (.int z :: st)) : Z X h kc ks L pc (.int y :: .int x :: st) :=
  fun H locs cells slots ls hS => lv_idiv C.x C.b d hne (by rw [hz]; exact (K H locs cells slots ls hS))
theorem z_irem (C : zC X cc own ret nf nl hh) {x y z : Int32} (d : decode cc pc = .ok (.irem, 1)) (hne : ¬ y = 0) (hz : x - x / y * y = z) (K : Z X h kc ks L (pc + 1) (.int z :: st)) : Z X h kc ks L pc (.int y :: .int x :: st) :=
  fun H locs cells slots ls hS => lv_irem C.x C.b d hne (by rw [hz]; exact (K H locs cells slots ls hS))
theorem z_ladd (C : zC X cc own ret nf nl hh) {x y z : Int64} (d : decode cc pc = .ok (.ladd, 1)) (hz : x + y = z) (K : Z X h kc ks L (pc + 1) (.long z :: st)) : Z X h kc ks L pc (.long y :: .long x :: st) :=
  fun H locs cells slots ls hS => lv_ladd C.x C.b d (by rw [hz]; exact (K H locs cells slots ls hS))
theorem z_lsub (C : zC X cc own ret nf nl hh) {x y z : Int64} (d : decode cc pc = .ok (.lsub, 1)) (hz : x - y = z) (K : Z X h kc ks L (pc + 1) (.long z :: st)) : Z X h kc ks L pc (.long y :: .long x :: st) :=
  fun H locs cells slots ls hS => lv_lsub C.x C.b d (by rw [hz]; exact (K H locs cells slots ls hS))
theorem z_lmul (C : zC X cc own ret nf nl hh) {x y z : Int64} (d : decode cc pc = .ok (.lmul, 1)) (hz : x * y = z) (K : Z X h kc ks L (pc + 1) (.long z :: st)) : Z X h kc ks L pc (.long y :: .long x :: st) :=
  fun H locs cells slots ls hS => lv_lmul C.x C.b d (by rw [hz]; exact (K H locs cells slots ls hS))
theorem z_i2l (C : zC X cc own ret nf nl hh) {x : Int32} {v : Int64} (d : decode cc pc = .ok (.i2l, 1)) (hv : x.toInt64 = v) (K : Z X h kc ks L (pc + 1) (.long v :: st)) : Z X h kc ks L pc (.int x :: st) :=
  fun H locs cells slots ls hS => lv_i2l C.x C.b d hv (K H locs cells slots ls hS)
theorem z_l2i (C : zC X cc own ret nf nl hh) {x : Int64} {v : Int32} (d : decode cc pc = .ok (.l2i, 1)) (hv : x.toInt32 = v) (K : Z X h kc ks L (pc + 1) (.int v :: st)) : Z X h kc ks L pc (.long x :: st) :=
  fun H locs cells slots ls hS => lv_l2i C.x C.b d hv (K H locs cells slots ls hS)
theorem z_i2c (C : zC X cc own ret nf nl hh) {x v : Int32} (d : decode cc pc = .ok (.i2c, 1)) (hv : (x.toUInt32 % 65536).toInt32 = v) (K : Z X h kc ks L (pc + 1) (.int v :: st)) : Z X h kc ks L pc (.int x :: st) :=
  fun H locs cells slots ls hS => lv_i2c C.x C.b d hv (K H locs cells slots ls hS)
theorem z_i2b (C : zC X cc own ret nf nl hh) {x v : Int32} (d : decode cc pc = .ok (.i2b, 1)) (hv : x.toInt8.toInt32 = v) (K : Z X h kc ks L (pc + 1) (.int v :: st)) : Z X h kc ks L pc (.int x :: st) :=
  fun H locs cells slots ls hS => lv_i2b C.x C.b d hv (K H locs cells slots ls hS)
theorem z_dup (C : zC X cc own ret nf nl hh) {va : Value} (d : decode cc pc = .ok (.dup, 1)) (hva : va.category = 1) (K : Z X h kc ks L (pc + 1) (va :: va :: st)) : Z X h kc ks L pc (va :: st) :=
  fun H locs cells slots ls hS => lv_dup C.x C.b d hva (K H locs cells slots ls hS)
theorem z_pop (C : zC X cc own ret nf nl hh) {va : Value} (d : decode cc pc = .ok (.pop, 1)) (hva : va.category = 1) (K : Z X h kc ks L (pc + 1) (st)) : Z X h kc ks L pc (va :: st) :=
  fun H locs cells slots ls hS => lv_pop C.x C.b d hva (K H locs cells slots ls hS)
theorem z_pop2 (C : zC X cc own ret nf nl hh) {va : Value} (d : decode cc pc = .ok (.pop2, 1)) (hva : va.category = 2) (K : Z X h kc ks L (pc + 1) (st)) : Z X h kc ks L pc (va :: st) :=
  fun H locs cells slots ls hS => lv_pop2_2 C.x C.b d hva (K H locs cells slots ls hS)
theorem z_dup_x1 (C : zC X cc own ret nf nl hh) {va vb : Value} (d : decode cc pc = .ok (.dup_x1, 1)) (hva : va.category = 1) (hvb : vb.category = 1) (K : Z X h kc ks L (pc + 1) (va :: vb :: va :: st)) : Z X h kc ks L pc (va :: vb :: st) :=
  fun H locs cells slots ls hS => lv_dup_x1 C.x C.b d hva hvb (K H locs cells slots ls hS)
theorem z_dup_x2 (C : zC X cc own ret nf nl hh) {va vb vd : Value} (d : decode cc pc = .ok (.dup_x2, 1)) (hva : va.category = 1) (hvb : vb.category = 1) (hvd : vd.category = 1) (K : Z X h kc ks L (pc + 1) (va :: vb :: vd :: va :: st)) : Z X h kc ks L pc (va :: vb :: vd :: st) :=
  fun H locs cells slots ls hS => lv_dup_x2 C.x C.b d hva hvb hvd (K H locs cells slots ls hS)
theorem z_dup2 (C : zC X cc own ret nf nl hh) {va vb : Value} (d : decode cc pc = .ok (.dup2, 1)) (hva : va.category = 1) (hvb : vb.category = 1) (K : Z X h kc ks L (pc + 1) (va :: vb :: va :: vb :: st)) : Z X h kc ks L pc (va :: vb :: st) :=
  fun H locs cells slots ls hS => lv_dup2_11 C.x C.b d hva hvb (K H locs cells slots ls hS)
theorem z_dup2_2 (C : zC X cc own ret nf nl hh) {va : Value} (d : decode cc pc = .ok (.dup2, 1)) (hva : va.category = 2) (K : Z X h kc ks L (pc + 1) (va :: va :: st)) : Z X h kc ks L pc (va :: st) :=
  fun H locs cells slots ls hS => lv_dup2_2 C.x C.b d hva (K H locs cells slots ls hS)
theorem z_null (C : zC X cc own ret nf nl hh) (d : decode cc pc = .ok (.aconst_null, 1)) (K : Z X h kc ks L (pc + 1) (.null :: st)) : Z X h kc ks L pc (st) :=
  fun H locs cells slots ls hS => lv_null C.x C.b d (K H locs cells slots ls hS)
theorem z_goto (C : zC X cc own ret nf nl hh) {off : Int} {tgt : Nat} (d : decode cc pc = .ok (.goto off, 3)) (ht : (pc : Int) + off = (tgt : Int)) (K : Z X h kc ks L tgt (st)) : Z X h kc ks L pc (st) :=
  fun H locs cells slots ls hS => lv_goto C.x C.b d ht (K H locs cells slots ls hS)
theorem z_ifnonnull (C : zC X cc own ret nf nl hh) {x : Nat} {off : Int} {tgt : Nat} (d : decode cc pc = .ok (.ifnonnull off, 3)) (ht : (pc : Int) + off = (tgt : Int)) (K : Z X h kc ks L tgt (st)) : Z X h kc ks L pc (.ref x :: st) :=
  fun H locs cells slots ls hS => lv_ifnonnull C.x C.b d ht (K H locs cells slots ls hS)
theorem z_ifnull (C : zC X cc own ret nf nl hh) {x : Nat} {off : Int} (d : decode cc pc = .ok (.ifnull off, 3)) (K : Z X h kc ks L (pc + 3) (st)) : Z X h kc ks L pc (.ref x :: st) :=
  fun H locs cells slots ls hS => lv_ifnull C.x C.b d (K H locs cells slots ls hS)
theorem z_ifnullN (C : zC X cc own ret nf nl hh) {off : Int} {tgt : Nat} (d : decode cc pc = .ok (.ifnull off, 3)) (ht : (pc : Int) + off = (tgt : Int)) (K : Z X h kc ks L tgt (st)) : Z X h kc ks L pc (.null :: st) :=
  fun H locs cells slots ls hS => lv_ifnullN C.x C.b d ht (K H locs cells slots ls hS)
theorem z_ifnonnullN (C : zC X cc own ret nf nl hh) {off : Int} (d : decode cc pc = .ok (.ifnonnull off, 3)) (K : Z X h kc ks L (pc + 3) (st)) : Z X h kc ks L pc (.null :: st) :=
  fun H locs cells slots ls hS => lv_ifnonnullN C.x C.b d (K H locs cells slots ls hS)
theorem iI_ne {a b : Int} (a1 : -2147483648 ≤ a) (a2 : a ≤ 2147483647) (b1 : -2147483648 ≤ b) (b2 : b ≤ 2147483647) : ¬ iI a = iI b ↔ ¬ a = b := not_congr (iI_eq a1 a2 b1 b2)
-- kit: icmp_eq: x = y; if_eq: x = 0
theorem z_icmp_eq (C : zC X cc own ret nf nl hh) {a b : Int} {off : Int} {tgt : Nat} (d : decode cc pc = .ok (.if_icmp .eq off, 3)) (ht : (pc : Int) + off = (tgt : Int)) (ra : -2147483648 ≤ a ∧ a ≤ 2147483647) (rb : -2147483648 ≤ b ∧ b ≤ 2147483647) (kt : a = b → Z X h kc ks L tgt st) (kf : ¬ (a = b) → Z X h kc ks L (pc + 3) st) : Z X h kc ks L pc (.int (iI b) :: .int (iI a) :: st) :=
  fun H locs cells slots ls hS => lv_icmp_eq C.x C.b d ht (fun z => kt ((iI_eq ra.1 ra.2 rb.1 rb.2).mp z) H locs cells slots ls hS) (fun z => kf ((fun y => z ((iI_eq ra.1 ra.2 rb.1 rb.2).mpr y))) H locs cells slots ls hS)
theorem z_if_eq (C : zC X cc own ret nf nl hh) {a : Int} {off : Int} {tgt : Nat} (d : decode cc pc = .ok (.ifCond .eq off, 3)) (ht : (pc : Int) + off = (tgt : Int)) (ra : -2147483648 ≤ a ∧ a ≤ 2147483647) (kt : a = 0 → Z X h kc ks L tgt st) (kf : ¬ (a = 0) → Z X h kc ks L (pc + 3) st) : Z X h kc ks L pc (.int (iI a) :: st) :=
  fun H locs cells slots ls hS => lv_if_eq C.x C.b d ht (fun z => kt ((iI_eq ra.1 ra.2 (by decide) (by decide)).mp z) H locs cells slots ls hS) (fun z => kf ((fun y => z ((iI_eq ra.1 ra.2 (by decide) (by decide)).mpr y))) H locs cells slots ls hS)
-- kit: icmp_ne: ¬ x = y; if_ne: ¬ x = 0
theorem z_icmp_ne (C : zC X cc own ret nf nl hh) {a b : Int} {off : Int} {tgt : Nat} (d : decode cc pc = .ok (.if_icmp .ne off, 3)) (ht : (pc : Int) + off = (tgt : Int)) (ra : -2147483648 ≤ a ∧ a ≤ 2147483647) (rb : -2147483648 ≤ b ∧ b ≤ 2147483647) (kt : ¬ a = b → Z X h kc ks L tgt st) (kf : a = b → Z X h kc ks L (pc + 3) st) : Z X h kc ks L pc (.int (iI b) :: .int (iI a) :: st) :=
  fun H locs cells slots ls hS => lv_icmp_ne C.x C.b d ht (fun z => kt ((iI_ne ra.1 ra.2 rb.1 rb.2).mp z) H locs cells slots ls hS) (fun z => kf ((iI_eq ra.1 ra.2 rb.1 rb.2).mp z) H locs cells slots ls hS)
theorem z_if_ne (C : zC X cc own ret nf nl hh) {a : Int} {off : Int} {tgt : Nat} (d : decode cc pc = .ok (.ifCond .ne off, 3)) (ht : (pc : Int) + off = (tgt : Int)) (ra : -2147483648 ≤ a ∧ a ≤ 2147483647) (kt : ¬ a = 0 → Z X h kc ks L tgt st) (kf : a = 0 → Z X h kc ks L (pc + 3) st) : Z X h kc ks L pc (.int (iI a) :: st) :=
  fun H locs cells slots ls hS => lv_if_ne C.x C.b d ht (fun z => kt ((iI_ne ra.1 ra.2 (by decide) (by decide)).mp z) H locs cells slots ls hS) (fun z => kf ((iI_eq ra.1 ra.2 (by decide) (by decide)).mp z) H locs cells slots ls hS)
-- kit: icmp_lt: x < y; if_lt: x < 0
theorem z_icmp_lt (C : zC X cc own ret nf nl hh) {a b : Int} {off : Int} {tgt : Nat} (d : decode cc pc = .ok (.if_icmp .lt off, 3)) (ht : (pc : Int) + off = (tgt : Int)) (ra : -2147483648 ≤ a ∧ a ≤ 2147483647) (rb : -2147483648 ≤ b ∧ b ≤ 2147483647) (kt : a < b → Z X h kc ks L tgt st) (kf : ¬ (a < b) → Z X h kc ks L (pc + 3) st) : Z X h kc ks L pc (.int (iI b) :: .int (iI a) :: st) :=
  fun H locs cells slots ls hS => lv_icmp_lt C.x C.b d ht (fun z => kt ((iI_lt ra.1 ra.2 rb.1 rb.2).mp z) H locs cells slots ls hS) (fun z => kf ((fun y => z ((iI_lt ra.1 ra.2 rb.1 rb.2).mpr y))) H locs cells slots ls hS)
theorem z_if_lt (C : zC X cc own ret nf nl hh) {a : Int} {off : Int} {tgt : Nat} (d : decode cc pc = .ok (.ifCond .lt off, 3)) (ht : (pc : Int) + off = (tgt : Int)) (ra : -2147483648 ≤ a ∧ a ≤ 2147483647) (kt : a < 0 → Z X h kc ks L tgt st) (kf : ¬ (a < 0) → Z X h kc ks L (pc + 3) st) : Z X h kc ks L pc (.int (iI a) :: st) :=
  fun H locs cells slots ls hS => lv_if_lt C.x C.b d ht (fun z => kt ((iI_lt ra.1 ra.2 (by decide) (by decide)).mp z) H locs cells slots ls hS) (fun z => kf ((fun y => z ((iI_lt ra.1 ra.2 (by decide) (by decide)).mpr y))) H locs cells slots ls hS)
-- kit: icmp_ge: y ≤ x; if_ge: 0 ≤ x
theorem z_icmp_ge (C : zC X cc own ret nf nl hh) {a b : Int} {off : Int} {tgt : Nat} (d : decode cc pc = .ok (.if_icmp .ge off, 3)) (ht : (pc : Int) + off = (tgt : Int)) (ra : -2147483648 ≤ a ∧ a ≤ 2147483647) (rb : -2147483648 ≤ b ∧ b ≤ 2147483647) (kt : b ≤ a → Z X h kc ks L tgt st) (kf : ¬ (b ≤ a) → Z X h kc ks L (pc + 3) st) : Z X h kc ks L pc (.int (iI b) :: .int (iI a) :: st) :=
  fun H locs cells slots ls hS => lv_icmp_ge C.x C.b d ht (fun z => kt ((iI_le rb.1 rb.2 ra.1 ra.2).mp z) H locs cells slots ls hS) (fun z => kf ((fun y => z ((iI_le rb.1 rb.2 ra.1 ra.2).mpr y))) H locs cells slots ls hS)
theorem z_if_ge (C : zC X cc own ret nf nl hh) {a : Int} {off : Int} {tgt : Nat} (d : decode cc pc = .ok (.ifCond .ge off, 3)) (ht : (pc : Int) + off = (tgt : Int)) (ra : -2147483648 ≤ a ∧ a ≤ 2147483647) (kt : 0 ≤ a → Z X h kc ks L tgt st) (kf : ¬ (0 ≤ a) → Z X h kc ks L (pc + 3) st) : Z X h kc ks L pc (.int (iI a) :: st) :=
  fun H locs cells slots ls hS => lv_if_ge C.x C.b d ht (fun z => kt ((iI_le (by decide) (by decide) ra.1 ra.2).mp z) H locs cells slots ls hS) (fun z => kf ((fun y => z ((iI_le (by decide) (by decide) ra.1 ra.2).mpr y))) H locs cells slots ls hS)
-- kit: icmp_gt: y < x; if_gt: 0 < x
theorem z_icmp_gt (C : zC X cc own ret nf nl hh) {a b : Int} {off : Int} {tgt : Nat} (d : decode cc pc = .ok (.if_icmp .gt off, 3)) (ht : (pc : Int) + off = (tgt : Int)) (ra : -2147483648 ≤ a ∧ a ≤ 2147483647) (rb : -2147483648 ≤ b ∧ b ≤ 2147483647) (kt : b < a → Z X h kc ks L tgt st) (kf : ¬ (b < a) → Z X h kc ks L (pc + 3) st) : Z X h kc ks L pc (.int (iI b) :: .int (iI a) :: st) :=
  fun H locs cells slots ls hS => lv_icmp_gt C.x C.b d ht (fun z => kt ((iI_lt rb.1 rb.2 ra.1 ra.2).mp z) H locs cells slots ls hS) (fun z => kf ((fun y => z ((iI_lt rb.1 rb.2 ra.1 ra.2).mpr y))) H locs cells slots ls hS)
theorem z_if_gt (C : zC X cc own ret nf nl hh) {a : Int} {off : Int} {tgt : Nat} (d : decode cc pc = .ok (.ifCond .gt off, 3)) (ht : (pc : Int) + off = (tgt : Int)) (ra : -2147483648 ≤ a ∧ a ≤ 2147483647) (kt : 0 < a → Z X h kc ks L tgt st) (kf : ¬ (0 < a) → Z X h kc ks L (pc + 3) st) : Z X h kc ks L pc (.int (iI a) :: st) :=
  fun H locs cells slots ls hS => lv_if_gt C.x C.b d ht (fun z => kt ((iI_lt (by decide) (by decide) ra.1 ra.2).mp z) H locs cells slots ls hS) (fun z => kf ((fun y => z ((iI_lt (by decide) (by decide) ra.1 ra.2).mpr y))) H locs cells slots ls hS)
-- kit: icmp_le: x ≤ y; if_le: x ≤ 0
theorem z_icmp_le (C : zC X cc own ret nf nl hh) {a b : Int} {off : Int} {tgt : Nat} (d : decode cc pc = .ok (.if_icmp .le off, 3)) (ht : (pc : Int) + off = (tgt : Int)) (ra : -2147483648 ≤ a ∧ a ≤ 2147483647) (rb : -2147483648 ≤ b ∧ b ≤ 2147483647) (kt : a ≤ b → Z X h kc ks L tgt st) (kf : ¬ (a ≤ b) → Z X h kc ks L (pc + 3) st) : Z X h kc ks L pc (.int (iI b) :: .int (iI a) :: st) :=
  fun H locs cells slots ls hS => lv_icmp_le C.x C.b d ht (fun z => kt ((iI_le ra.1 ra.2 rb.1 rb.2).mp z) H locs cells slots ls hS) (fun z => kf ((fun y => z ((iI_le ra.1 ra.2 rb.1 rb.2).mpr y))) H locs cells slots ls hS)
theorem z_if_le (C : zC X cc own ret nf nl hh) {a : Int} {off : Int} {tgt : Nat} (d : decode cc pc = .ok (.ifCond .le off, 3)) (ht : (pc : Int) + off = (tgt : Int)) (ra : -2147483648 ≤ a ∧ a ≤ 2147483647) (kt : a ≤ 0 → Z X h kc ks L tgt st) (kf : ¬ (a ≤ 0) → Z X h kc ks L (pc + 3) st) : Z X h kc ks L pc (.int (iI a) :: st) :=
  fun H locs cells slots ls hS => lv_if_le C.x C.b d ht (fun z => kt ((iI_le ra.1 ra.2 (by decide) (by decide)).mp z) H locs cells slots ls hS) (fun z => kf ((fun y => z ((iI_le ra.1 ra.2 (by decide) (by decide)).mpr y))) H locs cells slots ls hS)
theorem z_acmp_eq (C : zC X cc own ret nf nl hh) {x y : Nat} {off : Int} {tgt : Nat} (d : decode cc pc = .ok (.if_acmp .eq off, 3)) (ht : (pc : Int) + off = (tgt : Int)) (kt : x = y → Z X h kc ks L tgt st) (kf : ¬ (x = y) → Z X h kc ks L (pc + 3) st) : Z X h kc ks L pc (.ref y :: .ref x :: st) :=
  fun H locs cells slots ls hS => lv_acmp_eq (rx := some x) (ry := some y) C.x C.b d ht (fun z => kt (by simpa using z) H locs cells slots ls hS) (fun z => kf (by simpa using z) H locs cells slots ls hS)
theorem z_acmp_ne (C : zC X cc own ret nf nl hh) {x y : Nat} {off : Int} {tgt : Nat} (d : decode cc pc = .ok (.if_acmp .ne off, 3)) (ht : (pc : Int) + off = (tgt : Int)) (kt : ¬ x = y → Z X h kc ks L tgt st) (kf : ¬ (¬ x = y) → Z X h kc ks L (pc + 3) st) : Z X h kc ks L pc (.ref y :: .ref x :: st) :=
  fun H locs cells slots ls hS => lv_acmp_ne (rx := some x) (ry := some y) C.x C.b d ht (fun z => kt (by simpa using z) H locs cells slots ls hS) (fun z => kf (by simpa using z) H locs cells slots ls hS)
theorem z_lcmp (C : zC X cc own ret nf nl hh) {x y : Int64} {v : Int32} (d : decode cc pc = .ok (.lcmp, 1)) (hv : lg_cmp x y = v) (K : Z X h kc ks L (pc + 1) (.int v :: st)) : Z X h kc ks L pc (.long y :: .long x :: st) :=
  fun H locs cells slots ls hS => W.lcmp C.x C.b d (by rw [hv]; exact K H locs cells slots ls hS)
theorem z_tableIn (C : zC X cc own ret nf nl hh) {dflt lo hi : Int} {offs : Array Int} {len : Nat} {a off : Int} {tgt : Nat} (d : decode cc pc = .ok (.tableswitch dflt lo hi offs, len)) (ra : -2147483648 ≤ a ∧ a ≤ 2147483647) (h1 : ¬ a < lo) (h2 : ¬ hi < a) (ho : offs[(a - lo).toNat]? = some off) (ht : (pc : Int) + off = (tgt : Int)) (K : Z X h kc ks L tgt st) : Z X h kc ks L pc (.int (iI a) :: st) :=
  fun H locs cells slots ls hS => lv_tableIn C.x C.b d (by rw [iI_int ra.1 ra.2]; exact h1) (by rw [iI_int ra.1 ra.2]; exact h2) (by rw [iI_int ra.1 ra.2]; exact ho) ht (K H locs cells slots ls hS)
theorem z_tableOut (C : zC X cc own ret nf nl hh) {dflt lo hi : Int} {offs : Array Int} {len : Nat} {a : Int} {tgt : Nat} (d : decode cc pc = .ok (.tableswitch dflt lo hi offs, len)) (ra : -2147483648 ≤ a ∧ a ≤ 2147483647) (h1 : a < lo ∨ hi < a) (ht : (pc : Int) + dflt = (tgt : Int)) (K : Z X h kc ks L tgt st) : Z X h kc ks L pc (.int (iI a) :: st) :=
  fun H locs cells slots ls hS => lv_tableOut C.x C.b d (by rw [iI_int ra.1 ra.2]; exact h1) ht (K H locs cells slots ls hS)
theorem z_lookup (C : zC X cc own ret nf nl hh) {dflt : Int} {ps : Array (Int × Int)} {len : Nat} {a off : Int} {tgt : Nat} (d : decode cc pc = .ok (.lookupswitch dflt ps, len)) (hp : (ps.toList.zip (ps.toList.drop 1)).all (fun (a, next) => a.1 < next.1) = true) (ra : -2147483648 ≤ a ∧ a ≤ 2147483647) (ho : Op.lookupswitch.offset ps.toList dflt a = off) (ht : (pc : Int) + off = (tgt : Int)) (K : Z X h kc ks L tgt st) : Z X h kc ks L pc (.int (iI a) :: st) :=
  fun H locs cells slots ls hS => lv_lookup C.x C.b d hp (by rw [iI_int ra.1 ra.2]; exact ho) ht (K H locs cells slots ls hS)
theorem z_ldc (C : zC X cc own ret nf nl hh) {index : Nat} {v : Int32} (q : Cond.constant own index v ∈ lw_all) (d : decode cc pc = .ok (.ldc index, 2)) (K : Z X h kc ks L (pc + 2) (.int v :: st)) : Z X h kc ks L pc st :=
  fun H locs cells slots ls hS => lv_ldc C.x C.b C.o (C.w _ q) d (K H locs cells slots ls hS)
theorem z_ldc2 (C : zC X cc own ret nf nl hh) {index : Nat} {v : Int64} (q : Cond.constantLong own index v ∈ lw_all) (d : decode cc pc = .ok (.ldc2_w index, 3)) (K : Z X h kc ks L (pc + 3) (.long v :: st)) : Z X h kc ks L pc st :=
  fun H locs cells slots ls hS => lv_ldc2 C.x C.b C.o (C.w _ q) d (K H locs cells slots ls hS)
/-- a text constant, by its place in zstr -/
theorem z_ldcS (C : zC X cc own ret nf nl hh) (i : Nat) {index : Nat} {tx : String} (hi : zstr[i]? = some (own, index, tx)) (d : decode cc pc = .ok (.ldc index, 2)) (K : Z X h kc ks L (pc + 2) (.ref (X.Γ.2.2.2 (i + 2)) :: st)) : Z X h kc ks L pc st :=
  fun H locs cells slots ls hS => va_ldcS C.x C.b C.o (C.K.2.2.1.2.2.2.2.2.2 i _ hi) d (K H locs cells slots ls hS)
theorem Z.weak {L' : List (Nat × Value)} {kc' ks' : Nat} (is : List Nat) (hL : lv_pick L is = L') (hc : kc' ≤ kc) (hs : ks' ≤ ks) (K : Z X h kc' ks' L' pc st) : Z X h kc ks L pc st :=
  fun H locs cells slots ls hS => K H locs cells slots ls ⟨hS.1, hS.2.1, by have := hS.2.2.1; omega, by have := hS.2.2.2.1; omega, lv_sub hS.2.2.2.2 is hL⟩
end ZROWS


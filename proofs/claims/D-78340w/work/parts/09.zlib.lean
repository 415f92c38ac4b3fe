/-! ===== shapes of posts, arithmetic ===== -/
set_option maxRecDepth 100000
/-- it returns -/
def zrt (P : Option Value → zH → Prop) : zR → zH → Prop := fun r h' => ∃ v, r = .inl v ∧ P v h'
/-- it returns v and leaves the heap -/
def zpure (h : zH) (v : Option Value) : zR → zH → Prop := zrt fun w h' => w = v ∧ h' = h
theorem zrk {X : zT} {kc ks : Nat} {L : List (Nat × Value)} {pc : Nat} {st : List Value} {P : Option Value → zH → Prop} (k : ∀ v h', P v h' → Z X h' kc ks L (pc + 3) (v.toList ++ st)) : ∀ v h', zrt P (.inl v) h' → Z X h' kc ks L (pc + 3) (v.toList ++ st) := by
  intro v h' hp
  obtain ⟨w, e, hP⟩ := hp
  cases e
  exact k v h' hP
theorem zrx {X : zT} {kc ks : Nat} {L : List (Nat × Value)} {pc : Nat} {P : Option Value → zH → Prop} : ∀ E q h', zrt P (.inr (E, q)) h' → ZX X h' kc ks L pc E q := by
  intro E q h' hp
  obtain ⟨w, e, -⟩ := hp
  cases e
theorem zpk {X : zT} {h : zH} {kc ks : Nat} {L : List (Nat × Value)} {pc : Nat} {st st' : List Value} {w : Option Value} (hst : w.toList ++ st = st') (k : Z X h kc ks L (pc + 3) st') : ∀ v h', zpure h w (.inl v) h' → Z X h' kc ks L (pc + 3) (v.toList ++ st) := by
  intro v h' hp
  obtain ⟨w', e, rfl, rfl⟩ := hp
  cases e
  rw [hst]
  exact k
theorem zpure_i {h h' : zH} {a b : Int} (e : a = b) (eh : h' = h) : zpure h (some (.int (iI b))) (.inl (some (.int (iI a)))) h' := ⟨_, rfl, by rw [e], eh⟩
theorem zpure_v {h h' : zH} {v w : Option Value} (e : v = w) (eh : h' = h) : zpure h w (.inl v) h' := ⟨_, rfl, e, eh⟩
theorem Z.nm {X : zT} {h : zH} {kc ks : Nat} {L : List (Nat × Value)} {pc : Nat} {st : List Value} (K : ∀ h1, h1 = h → Z X h1 kc ks L pc st) : Z X h kc ks L pc st := K h rfl
theorem zne {h : zH} {a b : Nat} {x y : zX} (ha : h a = some x) (hb : h b = some y) (hxy : x ≠ y) : a ≠ b := by
  intro e
  rw [e, hb] at ha
  cases ha
  exact hxy rfl
/-- objects of two classes -/
theorem zneC {h : zH} {a b ci cj : Nat} {f1 f2 : Bool} {fs gs : List Value} (ha : h a = some (f1, .inr (ci, fs))) (hb : h b = some (f2, .inr (cj, gs))) (e : ci ≠ cj) : a ≠ b := zne ha hb (fun z => e (by injection z with _ z; injection z with z; injection z))
/-- an object and an array -/
theorem zneA {h : zH} {a b ci : Nat} {f1 f2 : Bool} {fs : List Value} {x : FieldType × Nat × (Nat → Value)} (ha : h a = some (f1, .inr (ci, fs))) (hb : h b = some (f2, .inl x)) : a ≠ b := zne ha hb (fun z => by injection z with _ z; cases z)
/-- arrays of two kinds -/
theorem zneT {h : zH} {a b n1 n2 : Nat} {f1 f2 : Bool} {t1 t2 : FieldType} {g1 g2 : Nat → Value} (ha : h a = some (f1, .inl (t1, n1, g1))) (hb : h b = some (f2, .inl (t2, n2, g2))) (e : t1 ≠ t2) : a ≠ b := zne ha hb (fun z => e (by injection z with _ z; injection z with z; injection z))
theorem zneF {h : zH} {a b : Nat} {x : zX} (ha : h a = some x) (hb : h b = none) : a ≠ b := by
  intro e
  rw [e, hb] at ha
  cases ha
theorem zse {h1 h : zH} {a : Nat} {x : zX} (e : h1 = zup h a x) : h1 a = some x := by rw [e]; exact zup_s
theorem zsn {h1 h : zH} {a b : Nat} {x : zX} {y : Option zX} (e : h1 = zup h a x) (hb : h b = y) (hne : b ≠ a) : h1 b = y := by rw [e, zup_n hne]; exact hb
/-! ints -/
theorem iI_div {a b : Int} (a1 : -2147483648 ≤ a) (a2 : a ≤ 2147483647) (b1 : 0 < b) (b2 : b ≤ 2147483647) : iI a / iI b = iI (a.tdiv b) := by
  unfold iI
  rw [Int32.ofInt_tdiv] <;> first | (show (-2147483648 : Int) ≤ _; omega) | (show _ ≤ (2147483647 : Int); omega)
theorem iI_rem {a b : Int} (a1 : -2147483648 ≤ a) (a2 : a ≤ 2147483647) (b1 : 0 < b) (b2 : b ≤ 2147483647) : iI a - iI a / iI b * iI b = iI (a.tmod b) := by
  rw [iI_div a1 a2 b1 b2, iI_mul, iI_sub, Int.tmod_def, Int.mul_comm]
theorem iI_xorlt {a b : Int} (a1 : -2147483648 ≤ a) (a2 : a ≤ 2147483647) (b1 : -2147483648 ≤ b) (b2 : b ≤ 2147483647) : 0 ≤ (iI a ^^^ iI b).toInt ↔ (0 ≤ a ↔ 0 ≤ b) := by
  have key : ∀ x : Int32, (0 ≤ x.toInt ↔ x.toBitVec.msb = false) := by
    intro x
    have h := BitVec.msb_eq_toInt (x := x.toBitVec)
    have e : x.toBitVec.toInt = x.toInt := rfl
    rw [e] at h
    rw [h]
    simp
  have ha := key (iI a)
  have hb := key (iI b)
  rw [iI_int a1 a2] at ha
  rw [iI_int b1 b2] at hb
  rw [key, Int32.toBitVec_xor, BitVec.msb_xor, ha, hb]
  cases (iI a).toBitVec.msb <;> cases (iI b).toBitVec.msb <;> simp
def lI (e : Int) : Int64 := Int64.ofInt e
theorem lI_int {a : Int} (h1 : -9223372036854775808 ≤ a) (h2 : a ≤ 9223372036854775807) : (lI a).toInt = a := by
  unfold lI
  rw [Int64.toInt_ofInt, Int.bmod_def]
  simp only [Int64.size]
  split <;> omega
theorem lI_sub (a b : Int) : lI a - lI b = lI (a - b) := (Int64.ofInt_sub a b).symm
theorem lI_add (a b : Int) : lI a + lI b = lI (a + b) := (Int64.ofInt_add a b).symm
theorem lI_mul (a b : Int) : lI a * lI b = lI (a * b) := (Int64.ofInt_mul a b).symm
theorem iI_l {a : Int} (h1 : -2147483648 ≤ a) (h2 : a ≤ 2147483647) : (iI a).toInt64 = lI a := by
  apply Int64.toInt_inj.mp
  rw [Int32.toInt_toInt64, iI_int h1 h2, lI_int (by omega) (by omega)]
theorem lI_lt {a b : Int} (a1 : -9223372036854775808 ≤ a) (a2 : a ≤ 9223372036854775807) (b1 : -9223372036854775808 ≤ b) (b2 : b ≤ 9223372036854775807) : lI a < lI b ↔ a < b := by
  rw [Int64.lt_iff_toInt_lt, lI_int a1 a2, lI_int b1 b2]
theorem lI_eq {a b : Int} (a1 : -9223372036854775808 ≤ a) (a2 : a ≤ 9223372036854775807) (b1 : -9223372036854775808 ≤ b) (b2 : b ≤ 9223372036854775807) : lI a = lI b ↔ a = b := by
  rw [← Int64.toInt_inj, lI_int a1 a2, lI_int b1 b2]
section ZL
variable {X : zT} {cc : ByteArray} {own : String} {ret : Option FieldType} {nf nl : Nat} {hh : List ExceptionTableEntry} {h : zH} {kc ks : Nat} {L : List (Nat × Value)} {pc : Nat} {st : List Value}
theorem z_lcmp3 (C : zC X cc own ret nf nl hh) {a b : Int} (d : decode cc pc = .ok (.lcmp, 1)) (ra : -9223372036854775808 ≤ a ∧ a ≤ 9223372036854775807) (rb : -9223372036854775808 ≤ b ∧ b ≤ 9223372036854775807) (K1 : a = b → Z X h kc ks L (pc + 1) (.int (iI 0) :: st)) (K2 : b < a → Z X h kc ks L (pc + 1) (.int (iI 1) :: st)) (K3 : a < b → Z X h kc ks L (pc + 1) (.int (iI (-1)) :: st)) : Z X h kc ks L pc (.long (lI b) :: .long (lI a) :: st) := by
  rcases Int.lt_trichotomy a b with c | c | c
  · refine z_lcmp C (v := iI (-1)) d ?_ (K3 c)
    have h1 := (lI_lt ra.1 ra.2 rb.1 rb.2).mpr c
    have h2 : ¬ lI b < lI a := fun z => by have := (lI_lt rb.1 rb.2 ra.1 ra.2).mp z; omega
    have h3 : ¬ lI a = lI b := fun z => by have := (lI_eq ra.1 ra.2 rb.1 rb.2).mp z; omega
    simp [lg_cmp, h2, h3, iI]
    try rfl
  · refine z_lcmp C (v := iI 0) d ?_ (K1 c)
    subst c
    simp [lg_cmp, iI]
    try rfl
  · refine z_lcmp C (v := iI 1) d ?_ (K2 c)
    have h2 := (lI_lt rb.1 rb.2 ra.1 ra.2).mpr c
    simp [lg_cmp, h2, iI]
    try rfl
theorem z_i2lI (C : zC X cc own ret nf nl hh) {a : Int} (d : decode cc pc = .ok (.i2l, 1)) (ra : -2147483648 ≤ a ∧ a ≤ 2147483647) (K : Z X h kc ks L (pc + 1) (.long (lI a) :: st)) : Z X h kc ks L pc (.int (iI a) :: st) := z_i2l C d (iI_l ra.1 ra.2) K
theorem z_lsubI (C : zC X cc own ret nf nl hh) {a b : Int} (d : decode cc pc = .ok (.lsub, 1)) (K : Z X h kc ks L (pc + 1) (.long (lI (a - b)) :: st)) : Z X h kc ks L pc (.long (lI b) :: .long (lI a) :: st) := z_lsub C d (lI_sub a b) K
theorem z_laddI (C : zC X cc own ret nf nl hh) {a b : Int} (d : decode cc pc = .ok (.ladd, 1)) (K : Z X h kc ks L (pc + 1) (.long (lI (a + b)) :: st)) : Z X h kc ks L pc (.long (lI b) :: .long (lI a) :: st) := z_ladd C d (lI_add a b) K
theorem z_lmulI (C : zC X cc own ret nf nl hh) {a b : Int} (d : decode cc pc = .ok (.lmul, 1)) (K : Z X h kc ks L (pc + 1) (.long (lI (a * b)) :: st)) : Z X h kc ks L pc (.long (lI b) :: .long (lI a) :: st) := z_lmul C d (lI_mul a b) K
theorem z_idivI (C : zC X cc own ret nf nl hh) {a b : Int} (d : decode cc pc = .ok (.idiv, 1)) (ra : -2147483648 ≤ a ∧ a ≤ 2147483647) (rb : 0 < b ∧ b ≤ 2147483647) (K : Z X h kc ks L (pc + 1) (.int (iI (a.tdiv b)) :: st)) : Z X h kc ks L pc (.int (iI b) :: .int (iI a) :: st) :=
  z_idiv C d (fun z => by have := (iI_eq (by omega) rb.2 (by decide) (by decide)).mp (show iI b = iI 0 from z); omega) (iI_div ra.1 ra.2 rb.1 rb.2) K
theorem z_iremI (C : zC X cc own ret nf nl hh) {a b : Int} (d : decode cc pc = .ok (.irem, 1)) (ra : -2147483648 ≤ a ∧ a ≤ 2147483647) (rb : 0 < b ∧ b ≤ 2147483647) (K : Z X h kc ks L (pc + 1) (.int (iI (a.tmod b)) :: st)) : Z X h kc ks L pc (.int (iI b) :: .int (iI a) :: st) :=
  z_irem C d (fun z => by have := (iI_eq (by omega) rb.2 (by decide) (by decide)).mp (show iI b = iI 0 from z); omega) (iI_rem ra.1 ra.2 rb.1 rb.2) K
/-- ixor: only its sign is told -/
theorem z_ixorI (C : zC X cc own ret nf nl hh) {a b : Int} (d : decode cc pc = .ok (.ixor, 1)) (ra : -2147483648 ≤ a ∧ a ≤ 2147483647) (rb : -2147483648 ≤ b ∧ b ≤ 2147483647) (K : ∀ x : Int, -2147483648 ≤ x → x ≤ 2147483647 → (0 ≤ x ↔ (0 ≤ a ↔ 0 ≤ b)) → Z X h kc ks L (pc + 1) (.int (iI x) :: st)) : Z X h kc ks L pc (.int (iI b) :: .int (iI a) :: st) := by
  refine z_ixor (z := iI (iI a ^^^ iI b).toInt) C d (by rw [iI_toInt]) (K _ (by have := (iI a ^^^ iI b).le_toInt; simpa using this) (by have := (iI a ^^^ iI b).toInt_lt; omega) (iI_xorlt ra.1 ra.2 rb.1 rb.2))
end ZL

/-! ===== small bit rows over integers; pictures of texts, builders, lists ===== -/
set_option maxRecDepth 100000
theorem iI_nI {a : Int} (h : 0 ≤ a) : iI a = nI a.toNat := by
  rw [show nI a.toNat = iI (a.toNat : Int) from iI_ofNat _, Int.toNat_of_nonneg h]
theorem iI_and255 {c : Int} (h1 : 0 ≤ c) (h2 : c < 256) : iI c &&& iI 255 = iI c := by
  rw [iI_nI h1, pk_andN (by omega) 8 (show (iI 255).toBitVec.toNat = 2 ^ 8 - 1 by decide), Nat.mod_eq_of_lt (by omega)]
theorem iI_shr0 (a : Int) : iI a >>> (iI 0 &&& 31) = iI a := sb_shr0 _
theorem iI_shl0 (a : Int) : iI a <<< (iI 0 &&& 31) = iI a := sb_shl0 _
theorem iI_shr1 {a : Int} (h1 : 0 ≤ a) (h2 : a ≤ 2147483647) : iI a >>> (iI 1 &&& 31) = iI (a / 2) := by
  rw [iI_nI h1, pk_shrN (by omega) _ 1 (by decide), iI_nI (by omega)]
  congr 1
  omega
theorem iI_shl1 (a : Int) : iI a <<< (iI 1 &&& 31) = iI (a * 2) := by
  rw [← iI_mul]
  apply Int32.toBitVec_inj.mp
  have h := pk_shl (iI a) (iI 1 &&& 31) 1 (by decide)
  apply BitVec.eq_of_toNat_eq
  rw [h, Int32.toBitVec_mul, BitVec.toNat_mul]
  rfl
theorem iI_i2c {c : Int} (h1 : 0 ≤ c) (h2 : c < 65536) : ((iI c).toUInt32 % 65536).toInt32 = iI c := lg_i2c_word (by rw [iI_int (by omega) (by omega)]; exact h1) (by rw [iI_int (by omega) (by omega)]; exact h2)
theorem iI_i2b {c : Int} (h1 : -128 ≤ c) (h2 : c < 128) : (iI c).toInt8.toInt32 = iI c := by
  apply Int32.toInt_inj.mp
  rw [Int8.toInt_toInt32, Int32.toInt_toInt8, iI_int (by omega) (by omega), Int.bmod_def]
  split <;> omega
theorem i_nb {c : Int} (h1 : -128 ≤ c) (h2 : c < 128) : narrow .byte (.int (iI c)) = .int (iI c) := by
  have := iI_i2b h1 h2
  show Value.int _ = _
  exact congrArg Value.int this
theorem i_fb {c : Int} (h1 : -128 ≤ c) (h2 : c < 128) : fits .byte (.int (iI c)) = true := by
  have := pk_fb (iI c)
  rwa [iI_i2b h1 h2] at this
theorem i_nc {c : Int} (h1 : 0 ≤ c) (h2 : c < 65536) : narrow .char (.int (iI c)) = .int (iI c) := by
  rw [iI_nI h1]
  exact (pk_charN (by omega)).1
theorem i_nz {c : Int} (h1 : 0 ≤ c) (h2 : c ≤ 1) : narrow .boolean (.int (iI c)) = .int (iI c) := by
  have e : c = 0 ∨ c = 1 := by omega
  rcases e with rfl | rfl <;> decide
theorem i_fz {c : Int} (h1 : 0 ≤ c) (h2 : c ≤ 1) : fits .boolean (.int (iI c)) = true := by
  have e : c = 0 ∨ c = 1 := by omega
  rcases e with rfl | rfl <;> decide
section ZB
variable {X : zT} {cc : ByteArray} {own : String} {ret : Option FieldType} {nf nl : Nat} {hh : List ExceptionTableEntry} {h : zH} {kc ks : Nat} {L : List (Nat × Value)} {pc : Nat} {st : List Value}
theorem z_and255 (C : zC X cc own ret nf nl hh) {c : Int} (hc : 0 ≤ c ∧ c < 256) (d : decode cc pc = .ok (.iand, 1)) (K : Z X h kc ks L (pc + 1) (.int (iI c) :: st)) : Z X h kc ks L pc (.int (iI 255) :: .int (iI c) :: st) := z_iand C d (iI_and255 hc.1 hc.2) K
theorem z_ishr0 (C : zC X cc own ret nf nl hh) {a : Int} (d : decode cc pc = .ok (.ishr, 1)) (K : Z X h kc ks L (pc + 1) (.int (iI a) :: st)) : Z X h kc ks L pc (.int (iI 0) :: .int (iI a) :: st) := z_ishr C d (iI_shr0 a) K
theorem z_ishr1 (C : zC X cc own ret nf nl hh) {a : Int} (ha : 0 ≤ a ∧ a ≤ 2147483647) (d : decode cc pc = .ok (.ishr, 1)) (K : Z X h kc ks L (pc + 1) (.int (iI (a / 2)) :: st)) : Z X h kc ks L pc (.int (iI 1) :: .int (iI a) :: st) := z_ishr C d (iI_shr1 ha.1 ha.2) K
theorem z_ishl0 (C : zC X cc own ret nf nl hh) {a : Int} (d : decode cc pc = .ok (.ishl, 1)) (K : Z X h kc ks L (pc + 1) (.int (iI a) :: st)) : Z X h kc ks L pc (.int (iI 0) :: .int (iI a) :: st) := z_ishl C d (iI_shl0 a) K
theorem z_ishl1 (C : zC X cc own ret nf nl hh) {a : Int} (d : decode cc pc = .ok (.ishl, 1)) (K : Z X h kc ks L (pc + 1) (.int (iI (a * 2)) :: st)) : Z X h kc ks L pc (.int (iI 1) :: .int (iI a) :: st) := z_ishl C d (iI_shl1 a) K
theorem z_i2cI (C : zC X cc own ret nf nl hh) {c : Int} (hc : 0 ≤ c ∧ c < 65536) (d : decode cc pc = .ok (.i2c, 1)) (K : Z X h kc ks L (pc + 1) (.int (iI c) :: st)) : Z X h kc ks L pc (.int (iI c) :: st) := z_i2c C d (iI_i2c hc.1 hc.2) K
theorem z_i2bI (C : zC X cc own ret nf nl hh) {c : Int} (hc : -128 ≤ c ∧ c < 128) (d : decode cc pc = .ok (.i2b, 1)) (K : Z X h kc ks L (pc + 1) (.int (iI c) :: st)) : Z X h kc ks L pc (.int (iI c) :: st) := z_i2b C d (iI_i2b hc.1 hc.2) K
end ZB
/-- a StringBuilder at b with its bytes at v: the text t, room for cap -/
def bAt (h : zH) (b v : Nat) (t : List Int) (cap : Nat) : Prop := ∃ (z : Int32) (f : Nat → Value), h b = some (true, .inr (12, [.ref v, .int (iI 0), .int z, .int (iI t.length)])) ∧ h v = some (true, .inl (.byte, cap, f)) ∧ t.length ≤ cap ∧ cap ≤ 100000 ∧ (∀ (j : Nat) (c : Int), t[j]? = some c → f j = .int (iI c)) ∧ (∀ j, j < cap → ∃ c, f j = .int (iI c) ∧ -128 ≤ c ∧ c < 128) ∧ ∀ c ∈ t, 0 ≤ c ∧ c < 128
/-- all that was there, and is frozen or isn't one of S, is there still -/
def zkeep (h h' : zH) (S : List Nat) : Prop := ∀ q x, h q = some x → (x.1 = false ∨ q ∉ S) → h' q = some x
theorem zkeep.rf {h : zH} {S : List Nat} : zkeep h h S := fun _ _ e _ => e
theorem zkeep.n {h h' : zH} {S : List Nat} (k : zkeep h h' S) {q : Nat} {x : zX} (e : h q = some x) (n : q ∉ S) : h' q = some x := k q x e (Or.inr n)
theorem zkeep.f {h h' : zH} {S : List Nat} (k : zkeep h h' S) {q : Nat} {x : zE} (e : h q = some (false, x)) : h' q = some (false, x) := k q _ e (Or.inl rfl)
theorem zkeep.trans {h h1 h2 : zH} {S : List Nat} (a : zkeep h h1 S) (b : zkeep h1 h2 S) : zkeep h h2 S := fun q x e n => b q x (a q x e n) n
theorem zkeep.mono {h h' : zH} {S S' : List Nat} (a : zkeep h h' S) (hs : ∀ q ∈ S, q ∈ S') : zkeep h h' S' := fun q x e n => a q x e (n.imp_right fun g z => g (hs q z))
/-- a write: at one of S or at a place that is new -/
theorem zkeep.up {h h1 : zH} {S : List Nat} {a : Nat} {x : zX} {e0 : zE} (k : zkeep h h1 S) (ha : a ∈ S ∨ h a = none) (hw : h1 a = some (true, e0)) : zkeep h (zup h1 a x) S := by
  intro q y e n
  have hk := k q y e n
  have hne : q ≠ a := by
    intro z
    subst z
    rcases n with n | n
    · rw [hw] at hk; cases hk; cases n
    · rcases ha with g | g
      · exact n g
      · rw [g] at e; cases e
  rw [zup_n hne]
  exact hk
/-- a birth -/
theorem zkeep.born {h h1 : zH} {S : List Nat} {a : Nat} {x : zX} (k : zkeep h h1 S) (hw : h1 a = none) : zkeep h (zup h1 a x) S := by
  intro q y e n
  have hk := k q y e n
  have hne : q ≠ a := by
    intro z
    subst z
    rw [hw] at hk; cases hk
  rw [zup_n hne]
  exact hk
theorem zkeep.none0 {h h1 : zH} {S : List Nat} {a : Nat} (k : zkeep h h1 S) (ha : h1 a = none) (hS : a ∉ S) : h a = none := by
  cases e : h a with
  | none => rfl
  | some x =>
    have := k a x e (Or.inr hS)
    rw [ha] at this
    cases this
theorem zkeep.loc {h h1 h2 : zH} {S T : List Nat} (k : zkeep h h1 S) (k2 : zkeep h1 h2 T) (hT : ∀ q ∈ T, (h q = none ∨ q ∈ S) ∨ ∃ x, h1 q = some (false, x)) : zkeep h h2 S := by
  intro q x e n
  have hk := k q x e n
  refine k2 q x hk ?_
  rcases n with n | n
  · exact Or.inl n
  · by_cases hq : q ∈ T
    · rcases hT q hq with (g | g) | ⟨y, g⟩
      · rw [g] at e; cases e
      · exact absurd g n
      · rw [hk] at g
        cases g
        exact Or.inl rfl
    · exact Or.inr hq
/-- frozen and not frozen are two -/
theorem zneW {h : zH} {a b : Nat} {x y : zE} (ha : h a = some (false, x)) (hb : h b = some (true, y)) : a ≠ b := by
  intro e
  rw [e, hb] at ha
  cases ha
theorem zkeep.one {h h1 : zH} {a : Nat} {x : zX} {e0 : zE} (e : h1 = zup h a x) (hw : h a = some (true, e0)) : zkeep h h1 [a] := by rw [e]; exact zkeep.up zkeep.rf (Or.inl (by simp)) hw
theorem zkeep.one0 {h h1 : zH} {a : Nat} {x : zX} (e : h1 = zup h a x) (hw : h a = none) : zkeep h h1 [] := by rw [e]; exact zkeep.born zkeep.rf hw
theorem zall_nil {P : Nat → Prop} : ∀ q ∈ ([] : List Nat), P q := fun _ h => nomatch h
theorem zall_cons {P : Nat → Prop} {a : Nat} {l : List Nat} (h1 : P a) (h2 : ∀ q ∈ l, P q) : ∀ q ∈ a :: l, P q := fun q hq => (List.mem_cons.mp hq).elim (fun e => by rw [e]; exact h1) (h2 q)
theorem sAt.keep {h h' : zH} {a : Nat} {t : List Int} {S : List Nat} (k : zkeep h h' S) (hs : sAt h a t) : sAt h' a t := by
  obtain ⟨hl, v, x, y, f, h1, h2, h3⟩ := hs
  exact ⟨hl, v, x, y, f, k.f h1, k.f h2, h3⟩
theorem Z.freeze {X : zT} {h : zH} {kc ks : Nat} {L : List (Nat × Value)} {pc : Nat} {st : List Value} {a : Nat} {e : zE} (ha : h a = some (true, e)) (K : Z X (zup h a (false, e)) kc ks L pc st) : Z X h kc ks L pc st :=
  fun H locs cells slots ls hS => K H locs cells slots ls ⟨hS.1.freeze ha, hS.2⟩
/-- the room of a builder of cap places that must hold n -/
def gcap (cap n : Nat) : Nat := if n ≤ cap then cap else cap + max (n - cap) (cap + 2)
theorem gcap_ge (cap n : Nat) : n ≤ gcap cap n := by unfold gcap; split <;> omega
theorem gcap_ge2 (cap n : Nat) : cap ≤ gcap cap n := by unfold gcap; split <;> omega
theorem zmay {h hp : zH} {S : List Nat} {v v1 : Nat} (hm : v ∈ S ∨ h v = none) (hv : v1 = v ∨ hp v1 = none) (k : zkeep h hp S) : v1 ∈ S ∨ h v1 = none := by
  rcases hv with e | e
  · rw [e]; exact hm
  · by_cases hS : v1 ∈ S
    · exact Or.inl hS
    · exact Or.inr (k.none0 e hS)

/-! 46.mput.lean.txt -/
set_option maxRecDepth 100000
abbrev cX4_puts : ByteArray := prog_11_method_40_code
def yX4_puts : MethodName := ⟨RX4, "puts", "(I)V"⟩
def dkwX4_puts_1 : List UInt8 := [42, 180, 0, 7, 27, 7, 96, 42, 180, 0, 81, 79, 42, 3, 181, 0, 56, 177]
abbrev dktX4_puts_1 : List UInt8 := dkwX4_puts_1 ++ []
def dkwX4_puts_0 : List UInt8 := [42, 180, 0, 7, 27, 5, 96, 42, 180, 0, 78, 79, 42, 180, 0, 7, 27, 6, 96, 42, 180, 0, 87, 79]
abbrev dktX4_puts_0 : List UInt8 := dkwX4_puts_0 ++ dktX4_puts_1
theorem dksX4_puts_0 : cX4_puts.data.toList.drop 0 = dktX4_puts_0 := by decide +kernel
theorem dksX4_puts_1 : cX4_puts.data.toList.drop 24 = dktX4_puts_1 := dk_seg dksX4_puts_0 24 rfl rfl
abbrev cX4_isText : ByteArray := prog_11_method_39_code
def yX4_isText : MethodName := ⟨RX4, "isText", "()Z"⟩
def dkwX4_isText_0 : List UInt8 := [42, 3, 181, 0, 59, 42, 2, 182, 0, 90, 172]
abbrev dktX4_isText_0 : List UInt8 := dkwX4_isText_0 ++ []
theorem dksX4_isText_0 : cX4_isText.data.toList.drop 0 = dktX4_isText_0 := by decide +kernel
abbrev cX4_setChord : ByteArray := prog_11_method_41_code
def yX4_setChord : MethodName := ⟨RX4, "setChord", "(I)I"⟩
def dkwX4_setChord_1 : List UInt8 := [154, 0, 10, 2, 42, 180, 0, 59, 100, 172, 42, 182, 0, 107, 42, 27, 184, 0, 94, 182, 0, 149, 3, 172]
abbrev dktX4_setChord_1 : List UInt8 := dkwX4_setChord_1 ++ []
def dkwX4_setChord_0 : List UInt8 := [42, 3, 181, 0, 46, 42, 27, 182, 0, 127, 154, 0, 9, 42, 4, 182, 0, 101, 172, 42, 182, 0, 146]
abbrev dktX4_setChord_0 : List UInt8 := dkwX4_setChord_0 ++ dktX4_setChord_1
theorem dksX4_setChord_0 : cX4_setChord.data.toList.drop 0 = dktX4_setChord_0 := by decide +kernel
theorem dksX4_setChord_1 : cX4_setChord.data.toList.drop 23 = dktX4_setChord_1 := dk_seg dksX4_setChord_0 23 rfl rfl
theorem dX4_puts_0 : decode cX4_puts 0 = .ok (.aload_n 0, 1) := dk_42 (dk_at dksX4_puts_0 0 rfl rfl)
theorem dX4_puts_1 : decode cX4_puts 1 = .ok (.getfield 7, 3) := dk_180 0 7 (dk_at dksX4_puts_0 1 rfl rfl)
theorem dX4_puts_4 : decode cX4_puts 4 = .ok (.iload_n 1, 1) := dk_27 (dk_at dksX4_puts_0 4 rfl rfl)
theorem dX4_puts_5 : decode cX4_puts 5 = .ok (.iconst 2, 1) := dk_5 (dk_at dksX4_puts_0 5 rfl rfl)
theorem dX4_puts_6 : decode cX4_puts 6 = .ok (.iadd, 1) := dk_96 (dk_at dksX4_puts_0 6 rfl rfl)
theorem dX4_puts_7 : decode cX4_puts 7 = .ok (.aload_n 0, 1) := dk_42 (dk_at dksX4_puts_0 7 rfl rfl)
theorem dX4_puts_8 : decode cX4_puts 8 = .ok (.getfield 78, 3) := dk_180 0 78 (dk_at dksX4_puts_0 8 rfl rfl)
theorem dX4_puts_11 : decode cX4_puts 11 = .ok (.iastore, 1) := dk_79 (dk_at dksX4_puts_0 11 rfl rfl)
theorem dX4_puts_12 : decode cX4_puts 12 = .ok (.aload_n 0, 1) := dk_42 (dk_at dksX4_puts_0 12 rfl rfl)
theorem dX4_puts_13 : decode cX4_puts 13 = .ok (.getfield 7, 3) := dk_180 0 7 (dk_at dksX4_puts_0 13 rfl rfl)
theorem dX4_puts_16 : decode cX4_puts 16 = .ok (.iload_n 1, 1) := dk_27 (dk_at dksX4_puts_0 16 rfl rfl)
theorem dX4_puts_17 : decode cX4_puts 17 = .ok (.iconst 3, 1) := dk_6 (dk_at dksX4_puts_0 17 rfl rfl)
theorem dX4_puts_18 : decode cX4_puts 18 = .ok (.iadd, 1) := dk_96 (dk_at dksX4_puts_0 18 rfl rfl)
theorem dX4_puts_19 : decode cX4_puts 19 = .ok (.aload_n 0, 1) := dk_42 (dk_at dksX4_puts_0 19 rfl rfl)
theorem dX4_puts_20 : decode cX4_puts 20 = .ok (.getfield 87, 3) := dk_180 0 87 (dk_at dksX4_puts_0 20 rfl rfl)
theorem dX4_puts_23 : decode cX4_puts 23 = .ok (.iastore, 1) := dk_79 (dk_at dksX4_puts_0 23 rfl rfl)
theorem dX4_puts_24 : decode cX4_puts 24 = .ok (.aload_n 0, 1) := dk_42 (dk_at dksX4_puts_1 0 rfl rfl)
theorem dX4_puts_25 : decode cX4_puts 25 = .ok (.getfield 7, 3) := dk_180 0 7 (dk_at dksX4_puts_1 1 rfl rfl)
theorem dX4_puts_28 : decode cX4_puts 28 = .ok (.iload_n 1, 1) := dk_27 (dk_at dksX4_puts_1 4 rfl rfl)
theorem dX4_puts_29 : decode cX4_puts 29 = .ok (.iconst 4, 1) := dk_7 (dk_at dksX4_puts_1 5 rfl rfl)
theorem dX4_puts_30 : decode cX4_puts 30 = .ok (.iadd, 1) := dk_96 (dk_at dksX4_puts_1 6 rfl rfl)
theorem dX4_puts_31 : decode cX4_puts 31 = .ok (.aload_n 0, 1) := dk_42 (dk_at dksX4_puts_1 7 rfl rfl)
theorem dX4_puts_32 : decode cX4_puts 32 = .ok (.getfield 81, 3) := dk_180 0 81 (dk_at dksX4_puts_1 8 rfl rfl)
theorem dX4_puts_35 : decode cX4_puts 35 = .ok (.iastore, 1) := dk_79 (dk_at dksX4_puts_1 11 rfl rfl)
theorem dX4_puts_36 : decode cX4_puts 36 = .ok (.aload_n 0, 1) := dk_42 (dk_at dksX4_puts_1 12 rfl rfl)
theorem dX4_puts_37 : decode cX4_puts 37 = .ok (.iconst 0, 1) := dk_3 (dk_at dksX4_puts_1 13 rfl rfl)
theorem dX4_puts_38 : decode cX4_puts 38 = .ok (.putfield 56, 3) := dk_181 0 56 (dk_at dksX4_puts_1 14 rfl rfl)
theorem dX4_puts_41 : decode cX4_puts 41 = .ok (.return_, 1) := dk_177 (dk_at dksX4_puts_1 17 rfl rfl)
theorem dX4_isText_0 : decode cX4_isText 0 = .ok (.aload_n 0, 1) := dk_42 (dk_at dksX4_isText_0 0 rfl rfl)
theorem dX4_isText_1 : decode cX4_isText 1 = .ok (.iconst 0, 1) := dk_3 (dk_at dksX4_isText_0 1 rfl rfl)
theorem dX4_isText_2 : decode cX4_isText 2 = .ok (.putfield 59, 3) := dk_181 0 59 (dk_at dksX4_isText_0 2 rfl rfl)
theorem dX4_isText_5 : decode cX4_isText 5 = .ok (.aload_n 0, 1) := dk_42 (dk_at dksX4_isText_0 5 rfl rfl)
theorem dX4_isText_6 : decode cX4_isText 6 = .ok (.iconst (-1), 1) := dk_2 (dk_at dksX4_isText_0 6 rfl rfl)
theorem dX4_isText_7 : decode cX4_isText 7 = .ok (.invokevirtual 90, 3) := dk_182 0 90 (dk_at dksX4_isText_0 7 rfl rfl)
theorem dX4_isText_10 : decode cX4_isText 10 = .ok (.ireturn, 1) := dk_172 (dk_at dksX4_isText_0 10 rfl rfl)
theorem dX4_setChord_0 : decode cX4_setChord 0 = .ok (.aload_n 0, 1) := dk_42 (dk_at dksX4_setChord_0 0 rfl rfl)
theorem dX4_setChord_1 : decode cX4_setChord 1 = .ok (.iconst 0, 1) := dk_3 (dk_at dksX4_setChord_0 1 rfl rfl)
theorem dX4_setChord_2 : decode cX4_setChord 2 = .ok (.putfield 46, 3) := dk_181 0 46 (dk_at dksX4_setChord_0 2 rfl rfl)
theorem dX4_setChord_5 : decode cX4_setChord 5 = .ok (.aload_n 0, 1) := dk_42 (dk_at dksX4_setChord_0 5 rfl rfl)
theorem dX4_setChord_6 : decode cX4_setChord 6 = .ok (.iload_n 1, 1) := dk_27 (dk_at dksX4_setChord_0 6 rfl rfl)
theorem dX4_setChord_7 : decode cX4_setChord 7 = .ok (.invokevirtual 127, 3) := dk_182 0 127 (dk_at dksX4_setChord_0 7 rfl rfl)
theorem dX4_setChord_10 : decode cX4_setChord 10 = .ok (.ifCond .ne 9, 3) := dk_154 0 9 (dk_at dksX4_setChord_0 10 rfl rfl)
theorem dX4_setChord_13 : decode cX4_setChord 13 = .ok (.aload_n 0, 1) := dk_42 (dk_at dksX4_setChord_0 13 rfl rfl)
theorem dX4_setChord_14 : decode cX4_setChord 14 = .ok (.iconst 1, 1) := dk_4 (dk_at dksX4_setChord_0 14 rfl rfl)
theorem dX4_setChord_15 : decode cX4_setChord 15 = .ok (.invokevirtual 101, 3) := dk_182 0 101 (dk_at dksX4_setChord_0 15 rfl rfl)
theorem dX4_setChord_18 : decode cX4_setChord 18 = .ok (.ireturn, 1) := dk_172 (dk_at dksX4_setChord_0 18 rfl rfl)
theorem dX4_setChord_19 : decode cX4_setChord 19 = .ok (.aload_n 0, 1) := dk_42 (dk_at dksX4_setChord_0 19 rfl rfl)
theorem dX4_setChord_20 : decode cX4_setChord 20 = .ok (.invokevirtual 146, 3) := dk_182 0 146 (dk_at dksX4_setChord_0 20 rfl rfl)
theorem dX4_setChord_23 : decode cX4_setChord 23 = .ok (.ifCond .ne 10, 3) := dk_154 0 10 (dk_at dksX4_setChord_1 0 rfl rfl)
theorem dX4_setChord_26 : decode cX4_setChord 26 = .ok (.iconst (-1), 1) := dk_2 (dk_at dksX4_setChord_1 3 rfl rfl)
theorem dX4_setChord_27 : decode cX4_setChord 27 = .ok (.aload_n 0, 1) := dk_42 (dk_at dksX4_setChord_1 4 rfl rfl)
theorem dX4_setChord_28 : decode cX4_setChord 28 = .ok (.getfield 59, 3) := dk_180 0 59 (dk_at dksX4_setChord_1 5 rfl rfl)
theorem dX4_setChord_31 : decode cX4_setChord 31 = .ok (.isub, 1) := dk_100 (dk_at dksX4_setChord_1 8 rfl rfl)
theorem dX4_setChord_32 : decode cX4_setChord 32 = .ok (.ireturn, 1) := dk_172 (dk_at dksX4_setChord_1 9 rfl rfl)
theorem dX4_setChord_33 : decode cX4_setChord 33 = .ok (.aload_n 0, 1) := dk_42 (dk_at dksX4_setChord_1 10 rfl rfl)
theorem dX4_setChord_34 : decode cX4_setChord 34 = .ok (.invokevirtual 107, 3) := dk_182 0 107 (dk_at dksX4_setChord_1 11 rfl rfl)
theorem dX4_setChord_37 : decode cX4_setChord 37 = .ok (.aload_n 0, 1) := dk_42 (dk_at dksX4_setChord_1 14 rfl rfl)
theorem dX4_setChord_38 : decode cX4_setChord 38 = .ok (.iload_n 1, 1) := dk_27 (dk_at dksX4_setChord_1 15 rfl rfl)
theorem dX4_setChord_39 : decode cX4_setChord 39 = .ok (.invokestatic 94, 3) := dk_184 0 94 (dk_at dksX4_setChord_1 16 rfl rfl)
theorem dX4_setChord_42 : decode cX4_setChord 42 = .ok (.invokevirtual 149, 3) := dk_182 0 149 (dk_at dksX4_setChord_1 19 rfl rfl)
theorem dX4_setChord_45 : decode cX4_setChord 45 = .ok (.iconst 0, 1) := dk_3 (dk_at dksX4_setChord_1 22 rfl rfl)
theorem dX4_setChord_46 : decode cX4_setChord 46 = .ok (.ireturn, 1) := dk_172 (dk_at dksX4_setChord_1 23 rfl rfl)
theorem q2318 : (Jvm.Cond.methodLink "ChordSheetModel" (146 : Nat) ({ cls := "ChordSheetModel", name := "isText", desc := "()Z" } : Jvm.MethodName)) ∈ lw_all := lw_g (lw_at lw_m10 96 rfl) rfl
theorem q2320 : (Jvm.Cond.instanceMethod ({ cls := "ChordSheetModel", name := "isText", desc := "()Z" } : Jvm.MethodName)) ∈ lw_all := lw_g (lw_at lw_m10 98 rfl) rfl
theorem q2321 : (Jvm.Cond.code ({ cls := "ChordSheetModel", name := "isText", desc := "()Z" } : Jvm.MethodName) prog_11_method_39_code (1 : Nat) (Option.some Jvm.ClassFile.FieldType.boolean)) ∈ lw_all := lw_g (lw_at lw_m10 99 rfl) rfl
theorem q2322 : (Jvm.Cond.methodLink "ChordSheetModel" (149 : Nat) ({ cls := "ChordSheetModel", name := "puts", desc := "(I)V" } : Jvm.MethodName)) ∈ lw_all := lw_g (lw_at lw_m10 100 rfl) rfl
theorem q2324 : (Jvm.Cond.instanceMethod ({ cls := "ChordSheetModel", name := "puts", desc := "(I)V" } : Jvm.MethodName)) ∈ lw_all := lw_g (lw_at lw_m10 102 rfl) rfl
theorem q2325 : (Jvm.Cond.code ({ cls := "ChordSheetModel", name := "puts", desc := "(I)V" } : Jvm.MethodName) prog_11_method_40_code (2 : Nat) (Option.none : Option Jvm.ClassFile.FieldType)) ∈ lw_all := lw_g (lw_at lw_m10 103 rfl) rfl
theorem vS.upd {V V' : Nat → Int} {S : zSh} {cs' : List zCh} (h : vS V S) (hb : S.ls.length ≤ 201) (e0 : ∀ j, j ≠ 1 → (j < 210 ∨ 410 ≤ j) → V' j = V j) (e1 : V' 1 = (cs'.length : Nat)) (e2 : ∀ (i : Nat) (x : zCh), cs'[i]? = some x → V' (210 + 5 * i) = x.1 ∧ V' (210 + 5 * i + 1) = x.2.1 ∧ V' (210 + 5 * i + 2) = x.2.2.1 ∧ V' (210 + 5 * i + 3) = x.2.2.2.1 ∧ V' (210 + 5 * i + 4) = x.2.2.2.2) : vS V' (S.ls, cs', S.t, S.m) := by
  obtain ⟨h1, h2, h3, h4, h5, h6, h7⟩ := h
  exact ⟨by rw [e0 _ (by omega) (by omega)]; exact h1, e1, by rw [e0 _ (by omega) (by omega)]; exact h3, by rw [e0 _ (by omega) (by omega)]; exact h4, fun j hj => by rw [e0 _ (by omega) (by have : j ≤ S.ls.length := hj; omega)]; exact h5 j hj, e2, fun j d hd => by rw [e0 _ (by omega) (by omega)]; exact h7 j d hd⟩
theorem vS.set {V V' : Nat → Int} {S : zSh} {i : Nat} {x : zCh} {rt q b : Int} (h : vS V S) (hb : S.ls.length ≤ 201 ∧ S.cs.length ≤ 40) (hx : S.cs[i]? = some x) (e0 : ∀ j, (j < 212 + 5 * i ∨ 215 + 5 * i ≤ j) → V' j = V j) (e1 : V' (212 + 5 * i) = rt ∧ V' (213 + 5 * i) = q ∧ V' (214 + 5 * i) = b) : vS V' (S.ls, S.cs.set i (x.1, x.2.1, rt, q, b), S.t, S.m) := by
  have hi := (List.getElem?_eq_some_iff.mp hx).1
  refine h.upd hb.1 (fun j h1 h2 => e0 j (by omega)) (by rw [e0 _ (by omega), List.length_set]; exact h.2.1) fun k y hy => ?_
  have hk := (List.getElem?_eq_some_iff.mp hy).1
  rw [List.length_set] at hk
  rw [List.getElem?_set] at hy
  by_cases c : i = k
  · subst c
    rw [if_pos rfl, if_pos hk] at hy
    cases hy
    obtain ⟨a1, a2, -⟩ := h.2.2.2.2.2.1 i x hx
    exact ⟨by rw [e0 _ (by omega)]; exact a1, by rw [e0 _ (by omega)]; exact a2, by rw [show 210 + 5 * i + 2 = 212 + 5 * i by omega]; exact e1.1, by rw [show 210 + 5 * i + 3 = 213 + 5 * i by omega]; exact e1.2.1, by rw [show 210 + 5 * i + 4 = 214 + 5 * i by omega]; exact e1.2.2⟩
  · rw [if_neg c] at hy
    obtain ⟨a1, a2, a3, a4, a5⟩ := h.2.2.2.2.2.1 k y hy
    exact ⟨by rw [e0 _ (by omega)]; exact a1, by rw [e0 _ (by omega)]; exact a2, by rw [e0 _ (by omega)]; exact a3, by rw [e0 _ (by omega)]; exact a4, by rw [e0 _ (by omega)]; exact a5⟩
theorem vS.rm {V V' : Nat → Int} {S : zSh} {i : Nat} (h : vS V S) (hb : S.ls.length ≤ 201 ∧ S.cs.length ≤ 40) (hi : i < S.cs.length) (e : ∀ j, V' j = if j = 1 then ((S.cs.length : Nat) : Int) - 1 else if 210 + 5 * i ≤ j ∧ j < 205 + 5 * S.cs.length then V (j + 5) else if 205 + 5 * S.cs.length ≤ j ∧ j < 210 + 5 * S.cs.length then 0 else V j) : vS V' (S.ls, S.cs.eraseIdx i, S.t, S.m) := by
  refine h.upd hb.1 (fun j h1 h2 => by rw [e, if_neg h1, if_neg (by omega), if_neg (by omega)]) (by rw [e, if_pos rfl, List.length_eraseIdx, if_pos hi]; omega) fun k y hy => ?_
  have hk := (List.getElem?_eq_some_iff.mp hy).1
  rw [List.length_eraseIdx, if_pos hi] at hk
  rw [List.getElem?_eraseIdx] at hy
  by_cases c : k < i
  · rw [if_pos c] at hy
    obtain ⟨a1, a2, a3, a4, a5⟩ := h.2.2.2.2.2.1 k y hy
    exact ⟨by rw [e, if_neg (by omega), if_neg (by omega), if_neg (by omega)]; exact a1, by rw [e, if_neg (by omega), if_neg (by omega), if_neg (by omega)]; exact a2, by rw [e, if_neg (by omega), if_neg (by omega), if_neg (by omega)]; exact a3, by rw [e, if_neg (by omega), if_neg (by omega), if_neg (by omega)]; exact a4, by rw [e, if_neg (by omega), if_neg (by omega), if_neg (by omega)]; exact a5⟩
  · rw [if_neg c] at hy
    obtain ⟨a1, a2, a3, a4, a5⟩ := h.2.2.2.2.2.1 (k + 1) y hy
    rw [show 210 + 5 * (k + 1) = 210 + 5 * k + 5 by omega] at a1 a2 a3 a4 a5
    exact ⟨by rw [e, if_neg (by omega), if_pos (by omega)]; exact a1, by rw [e, if_neg (by omega), if_pos (by omega)]; exact a2, by rw [e, if_neg (by omega), if_pos (by omega)]; exact a3, by rw [e, if_neg (by omega), if_pos (by omega)]; exact a4, by rw [e, if_neg (by omega), if_pos (by omega)]; exact a5⟩
theorem vS.ins {V V' : Nat → Int} {S : zSh} {i : Nat} {c : zCh} (h : vS V S) (hb : S.ls.length ≤ 201 ∧ S.cs.length < 40) (hi : i ≤ S.cs.length) (e1 : V' 1 = ((S.cs.length : Nat) : Int) + 1) (e2 : ∀ j, j ≠ 1 → (j < 210 + 5 * i ∨ 215 + 5 * S.cs.length ≤ j) → V' j = V j) (e3 : ∀ j, 215 + 5 * i ≤ j → j < 215 + 5 * S.cs.length → V' j = V (j - 5)) (e4 : V' (210 + 5 * i) = c.1 ∧ V' (210 + 5 * i + 1) = c.2.1 ∧ V' (210 + 5 * i + 2) = c.2.2.1 ∧ V' (210 + 5 * i + 3) = c.2.2.2.1 ∧ V' (210 + 5 * i + 4) = c.2.2.2.2) : vS V' (S.ls, S.cs.take i ++ c :: S.cs.drop i, S.t, S.m) := by
  have hl : (S.cs.take i).length = i := by rw [List.length_take]; omega
  refine h.upd hb.1 (fun j h1 h2 => e2 j h1 (by omega)) (by rw [e1]; simp; omega) fun k y hy => ?_
  have hk := (List.getElem?_eq_some_iff.mp hy).1
  simp only [List.length_append, List.length_cons, List.length_drop, hl] at hk
  rcases Nat.lt_trichotomy k i with g | g | g
  · rw [List.getElem?_append_left (by omega), List.getElem?_take, if_pos g] at hy
    obtain ⟨a1, a2, a3, a4, a5⟩ := h.2.2.2.2.2.1 k y hy
    exact ⟨by rw [e2 _ (by omega) (by omega)]; exact a1, by rw [e2 _ (by omega) (by omega)]; exact a2, by rw [e2 _ (by omega) (by omega)]; exact a3, by rw [e2 _ (by omega) (by omega)]; exact a4, by rw [e2 _ (by omega) (by omega)]; exact a5⟩
  · rw [List.getElem?_append_right (by omega), hl, g, Nat.sub_self] at hy
    cases hy
    rw [g]; exact e4
  · rw [List.getElem?_append_right (by omega), hl, show k - i = (k - 1 - i) + 1 by omega, List.getElem?_cons_succ, List.getElem?_drop, show i + (k - 1 - i) = k - 1 by omega] at hy
    obtain ⟨a1, a2, a3, a4, a5⟩ := h.2.2.2.2.2.1 (k - 1) y hy
    exact ⟨by rw [e3 _ (by omega) (by omega), show 210 + 5 * k - 5 = 210 + 5 * (k - 1) by omega]; exact a1, by rw [e3 _ (by omega) (by omega), show 210 + 5 * k + 1 - 5 = 210 + 5 * (k - 1) + 1 by omega]; exact a2, by rw [e3 _ (by omega) (by omega), show 210 + 5 * k + 2 - 5 = 210 + 5 * (k - 1) + 2 by omega]; exact a3, by rw [e3 _ (by omega) (by omega), show 210 + 5 * k + 3 - 5 = 210 + 5 * (k - 1) + 3 by omega]; exact a4, by rw [e3 _ (by omega) (by omega), show 210 + 5 * k + 4 - 5 = 210 + 5 * (k - 1) + 4 by omega]; exact a5⟩
def cmt (ln co : Int) : List zCh → Int
  | [] => 0
  | x :: r => (if x.1 < ln ∨ (x.1 = ln ∧ x.2.1 ≤ co) then 1 else 0) + cmt ln co r
/-- by lines, then by columns -/
def csrt (cs : List zCh) : Prop := cs.Pairwise (fun a b => bhd a b ≠ 1)
theorem cmt_r (ln co : Int) : ∀ cs : List zCh, 0 ≤ cmt ln co cs ∧ cmt ln co cs ≤ (cs.length : Nat) := by
  intro cs
  induction cs with
  | nil => simp [cmt]
  | cons x r ih => simp only [cmt, List.length_cons]; split <;> omega
theorem cmt_i {ln co a b d : Int} : ∀ {cs : List zCh}, csrt cs → cmt ln co cs = ipl (ln, co, a, b, d) cs := by
  intro cs
  induction cs with
  | nil => intro _; rfl
  | cons x r ih =>
    intro h
    rw [csrt, List.pairwise_cons] at h
    simp only [cmt, ipl]
    by_cases c : bhd x (ln, co, a, b, d) = 1
    · rw [if_pos c, if_neg (by unfold bhd at c; simp only at c; split at c <;> omega)]
      have : ∀ l : List zCh, (∀ y ∈ l, bhd x y ≠ 1) → cmt ln co l = 0 := by
        intro l
        induction l with
        | nil => intro _; rfl
        | cons y s ihs =>
          intro hl
          simp only [cmt]
          rw [ihs fun z hz => hl z (List.mem_cons_of_mem _ hz)]
          have hy := hl y List.mem_cons_self
          rw [if_neg]
          · rfl
          · unfold bhd at c hy
            simp only at c hy
            split at c <;> split at hy <;> omega
      rw [this r h.1]
      rfl
    · rw [if_neg c, if_pos (by unfold bhd at c; simp only at c; split at c <;> omega), ih h.2]
set_option maxHeartbeats 4000000 in
theorem m_puts {l : Launch} (hl : l.stackTraces = false) {Γ : zCx} {h : zH} {A : zMA} {st ty si ff wd th ap nt rr rq rb wh nd up lo : Int} {V P T M N U W : Nat → Int} (hM : mM h A st ty si ff wd th ap nt rr rq rb wh nd up lo V P T M N U W) {c : Int} (hc : 0 ≤ c ∧ c ≤ 600)  : zMet l yX4_puts (ws_ yX4_puts cX4_puts 2 none) ({ frames := 0, cells := 0, slots := 0, locals := 0 }) Γ h [.ref A.m, .int (iI c)] (zrt (fun w h' => w = none ∧ mM h' A st 0 si ff wd th ap nt rr rq rb wh nd up lo (updI (updI (updI V (Int.toNat (c + 2)) rr) (Int.toNat (c + 3)) rq) (Int.toNat (c + 4)) rb) P T M N U W ∧ zkeep h h' [A.m, A.v, A.pa, A.tx, A.ma, A.na, A.ua, A.la])) 0 0 := by
  refine zMet.of (cc := cX4_puts) hl (plainFor_of_name (by decide +kernel)) (Nat.le_of_ble_eq_true rfl) ?_
  intro X hXl hXΓ hXp C hnm hnL
  have C : zC X cX4_puts RX4 none 0 0 [] := C
  have hnL : X.2.1.2.2.2.2 = 2 := hnL
  subst hXl hXΓ
  show Z X h 0 0 [(0, .ref A.m), (1, .int (iI c))] 0 []
  obtain ⟨gm_1, gv_1, gpa_1, gtx_1, gma_1, gna_1, gua_1, gla_1, gle_1, gqa_1, gd_1⟩ := id hM
  refine z_aload_n (pc := 0) (j := 0) C dX4_puts_0 rfl rfl ?_
  refine z_getfield (pc := 1) (v := .ref A.v) C in_X4 rfl 0 (by decide) q2082 (fun _ z => z) gm_1 rfl dX4_puts_1 ?_
  refine z_iload_n (pc := 4) (j := 1) C dX4_puts_4 rfl rfl ?_
  refine z_iconst (pc := 5) C dX4_puts_5 ?_
  refine z_iadd (pc := 6) C dX4_puts_6 ?_
  refine z_aload_n (pc := 7) (j := 0) C dX4_puts_7 rfl rfl ?_
  refine z_getfield (pc := 8) (v := .int (iI rr)) C in_X4 rfl 13 (by decide) q2095 (fun _ z => z) gm_1 rfl dX4_puts_8 ?_
  refine z_iastore (pc := 11) (f' := (mA (updI V (Int.toNat (c + 2)) rr))) C gv_1 (by omega) (mA_up _ _ _) dX4_puts_11 ?_
  refine Z.nm (fun h2 eh2 => ?_)
  have kh2 : zkeep h h2 [A.m, A.v, A.pa, A.tx, A.ma, A.na, A.ua, A.la] := by rw [eh2]; exact zkeep.up zkeep.rf (Or.inl (by simp)) gv_1
  have fh2_0 : h2 A.v = some (true, .inl (.int, 620, (mA (updI V (Int.toNat (c + 2)) rr)))) := zse eh2
  have fh2_1 : h2 A.m = some (true, .inr (3, [.ref A.v, .ref A.pa, .int (iI st), .ref A.tx, .int (iI ty), .int (iI si), .int (iI ff), .int (iI wd), .int (iI th), .ref A.le, .ref A.qa, .int (iI ap), .int (iI nt), .int (iI rr), .int (iI rq), .int (iI rb), .int (iI wh), .ref A.ma, .ref A.na, .int (iI nd), .ref A.ua, .ref A.la, .int (iI up), .int (iI lo)])) := zsn eh2 gm_1 (zneA gm_1 gv_1)
  have fh2_2 : h2 A.pa = some (true, .inl (.int, 4960, (mA P))) := zsn eh2 gpa_1 (Ne.symm gd_1.1)
  have fh2_3 : h2 A.tx = some (true, .inl (.int, 200, (mA T))) := zsn eh2 gtx_1 (Ne.symm gd_1.2.1)
  have fh2_4 : h2 A.ma = some (true, .inl (.int, 620, (mA M))) := zsn eh2 gma_1 (Ne.symm gd_1.2.2.1)
  have fh2_5 : h2 A.na = some (true, .inl (.int, 20, (mA N))) := zsn eh2 gna_1 (Ne.symm gd_1.2.2.2.1)
  have fh2_6 : h2 A.ua = some (true, .inl (.int, 1200, (mA U))) := zsn eh2 gua_1 (Ne.symm gd_1.2.2.2.2.1)
  have fh2_7 : h2 A.la = some (true, .inl (.int, 1200, (mA W))) := zsn eh2 gla_1 (Ne.symm gd_1.2.2.2.2.2.1)
  refine z_aload_n (pc := 12) (j := 0) C dX4_puts_12 rfl rfl ?_
  refine z_getfield (pc := 13) (v := .ref A.v) C in_X4 rfl 0 (by decide) q2082 (fun _ z => z) fh2_1 rfl dX4_puts_13 ?_
  refine z_iload_n (pc := 16) (j := 1) C dX4_puts_16 rfl rfl ?_
  refine z_iconst (pc := 17) C dX4_puts_17 ?_
  refine z_iadd (pc := 18) C dX4_puts_18 ?_
  refine z_aload_n (pc := 19) (j := 0) C dX4_puts_19 rfl rfl ?_
  refine z_getfield (pc := 20) (v := .int (iI rq)) C in_X4 rfl 14 (by decide) q2096 (fun _ z => z) fh2_1 rfl dX4_puts_20 ?_
  refine z_iastore (pc := 23) (f' := (mA (updI (updI V (Int.toNat (c + 2)) rr) (Int.toNat (c + 3)) rq))) C fh2_0 (by omega) (mA_up _ _ _) dX4_puts_23 ?_
  refine Z.nm (fun h3 eh3 => ?_)
  have kh3 : zkeep h h3 [A.m, A.v, A.pa, A.tx, A.ma, A.na, A.ua, A.la] := by rw [eh3]; exact zkeep.up kh2 (Or.inl (by simp)) fh2_0
  have fh3_0 : h3 A.v = some (true, .inl (.int, 620, (mA (updI (updI V (Int.toNat (c + 2)) rr) (Int.toNat (c + 3)) rq)))) := zse eh3
  have fh3_1 : h3 A.m = some (true, .inr (3, [.ref A.v, .ref A.pa, .int (iI st), .ref A.tx, .int (iI ty), .int (iI si), .int (iI ff), .int (iI wd), .int (iI th), .ref A.le, .ref A.qa, .int (iI ap), .int (iI nt), .int (iI rr), .int (iI rq), .int (iI rb), .int (iI wh), .ref A.ma, .ref A.na, .int (iI nd), .ref A.ua, .ref A.la, .int (iI up), .int (iI lo)])) := zsn eh3 fh2_1 (zneA fh2_1 fh2_0)
  have fh3_2 : h3 A.pa = some (true, .inl (.int, 4960, (mA P))) := zsn eh3 fh2_2 (Ne.symm gd_1.1)
  have fh3_3 : h3 A.tx = some (true, .inl (.int, 200, (mA T))) := zsn eh3 fh2_3 (Ne.symm gd_1.2.1)
  have fh3_4 : h3 A.ma = some (true, .inl (.int, 620, (mA M))) := zsn eh3 fh2_4 (Ne.symm gd_1.2.2.1)
  have fh3_5 : h3 A.na = some (true, .inl (.int, 20, (mA N))) := zsn eh3 fh2_5 (Ne.symm gd_1.2.2.2.1)
  have fh3_6 : h3 A.ua = some (true, .inl (.int, 1200, (mA U))) := zsn eh3 fh2_6 (Ne.symm gd_1.2.2.2.2.1)
  have fh3_7 : h3 A.la = some (true, .inl (.int, 1200, (mA W))) := zsn eh3 fh2_7 (Ne.symm gd_1.2.2.2.2.2.1)
  refine z_aload_n (pc := 24) (j := 0) C dX4_puts_24 rfl rfl ?_
  refine z_getfield (pc := 25) (v := .ref A.v) C in_X4 rfl 0 (by decide) q2082 (fun _ z => z) fh3_1 rfl dX4_puts_25 ?_
  refine z_iload_n (pc := 28) (j := 1) C dX4_puts_28 rfl rfl ?_
  refine z_iconst (pc := 29) C dX4_puts_29 ?_
  refine z_iadd (pc := 30) C dX4_puts_30 ?_
  refine z_aload_n (pc := 31) (j := 0) C dX4_puts_31 rfl rfl ?_
  refine z_getfield (pc := 32) (v := .int (iI rb)) C in_X4 rfl 15 (by decide) q2097 (fun _ z => z) fh3_1 rfl dX4_puts_32 ?_
  refine z_iastore (pc := 35) (f' := (mA (updI (updI (updI V (Int.toNat (c + 2)) rr) (Int.toNat (c + 3)) rq) (Int.toNat (c + 4)) rb))) C fh3_0 (by omega) (mA_up _ _ _) dX4_puts_35 ?_
  refine Z.nm (fun h4 eh4 => ?_)
  have kh4 : zkeep h h4 [A.m, A.v, A.pa, A.tx, A.ma, A.na, A.ua, A.la] := by rw [eh4]; exact zkeep.up kh3 (Or.inl (by simp)) fh3_0
  have fh4_0 : h4 A.v = some (true, .inl (.int, 620, (mA (updI (updI (updI V (Int.toNat (c + 2)) rr) (Int.toNat (c + 3)) rq) (Int.toNat (c + 4)) rb)))) := zse eh4
  have fh4_1 : h4 A.m = some (true, .inr (3, [.ref A.v, .ref A.pa, .int (iI st), .ref A.tx, .int (iI ty), .int (iI si), .int (iI ff), .int (iI wd), .int (iI th), .ref A.le, .ref A.qa, .int (iI ap), .int (iI nt), .int (iI rr), .int (iI rq), .int (iI rb), .int (iI wh), .ref A.ma, .ref A.na, .int (iI nd), .ref A.ua, .ref A.la, .int (iI up), .int (iI lo)])) := zsn eh4 fh3_1 (zneA fh3_1 fh3_0)
  have fh4_2 : h4 A.pa = some (true, .inl (.int, 4960, (mA P))) := zsn eh4 fh3_2 (Ne.symm gd_1.1)
  have fh4_3 : h4 A.tx = some (true, .inl (.int, 200, (mA T))) := zsn eh4 fh3_3 (Ne.symm gd_1.2.1)
  have fh4_4 : h4 A.ma = some (true, .inl (.int, 620, (mA M))) := zsn eh4 fh3_4 (Ne.symm gd_1.2.2.1)
  have fh4_5 : h4 A.na = some (true, .inl (.int, 20, (mA N))) := zsn eh4 fh3_5 (Ne.symm gd_1.2.2.2.1)
  have fh4_6 : h4 A.ua = some (true, .inl (.int, 1200, (mA U))) := zsn eh4 fh3_6 (Ne.symm gd_1.2.2.2.2.1)
  have fh4_7 : h4 A.la = some (true, .inl (.int, 1200, (mA W))) := zsn eh4 fh3_7 (Ne.symm gd_1.2.2.2.2.2.1)
  refine z_aload_n (pc := 36) (j := 0) C dX4_puts_36 rfl rfl ?_
  refine z_iconst (pc := 37) C dX4_puts_37 ?_
  refine z_putfield (pc := 38) (fs' := [.ref A.v, .ref A.pa, .int (iI st), .ref A.tx, .int (iI 0), .int (iI si), .int (iI ff), .int (iI wd), .int (iI th), .ref A.le, .ref A.qa, .int (iI ap), .int (iI nt), .int (iI rr), .int (iI rq), .int (iI rb), .int (iI wh), .ref A.ma, .ref A.na, .int (iI nd), .ref A.ua, .ref A.la, .int (iI up), .int (iI lo)]) C in_X4 tyX4 tyX4_ok nmX4 rfl 4 (by decide) q2086 (fun _ z => z) rfl rfl rfl (Nat.le_of_ble_eq_true rfl) fh4_1 rfl dX4_puts_38 ?_
  refine Z.nm (fun h5 eh5 => ?_)
  have kh5 : zkeep h h5 [A.m, A.v, A.pa, A.tx, A.ma, A.na, A.ua, A.la] := by rw [eh5]; exact zkeep.up kh4 (Or.inl (by simp)) fh4_1
  have fh5_0 : h5 A.m = some (true, .inr (3, [.ref A.v, .ref A.pa, .int (iI st), .ref A.tx, .int (iI 0), .int (iI si), .int (iI ff), .int (iI wd), .int (iI th), .ref A.le, .ref A.qa, .int (iI ap), .int (iI nt), .int (iI rr), .int (iI rq), .int (iI rb), .int (iI wh), .ref A.ma, .ref A.na, .int (iI nd), .ref A.ua, .ref A.la, .int (iI up), .int (iI lo)])) := zse eh5
  have fh5_1 : h5 A.pa = some (true, .inl (.int, 4960, (mA P))) := zsn eh5 fh4_2 (Ne.symm (zneA fh4_1 fh4_2))
  have fh5_2 : h5 A.tx = some (true, .inl (.int, 200, (mA T))) := zsn eh5 fh4_3 (Ne.symm (zneA fh4_1 fh4_3))
  have fh5_3 : h5 A.ma = some (true, .inl (.int, 620, (mA M))) := zsn eh5 fh4_4 (Ne.symm (zneA fh4_1 fh4_4))
  have fh5_4 : h5 A.na = some (true, .inl (.int, 20, (mA N))) := zsn eh5 fh4_5 (Ne.symm (zneA fh4_1 fh4_5))
  have fh5_5 : h5 A.ua = some (true, .inl (.int, 1200, (mA U))) := zsn eh5 fh4_6 (Ne.symm (zneA fh4_1 fh4_6))
  have fh5_6 : h5 A.la = some (true, .inl (.int, 1200, (mA W))) := zsn eh5 fh4_7 (Ne.symm (zneA fh4_1 fh4_7))
  have fh5_7 : h5 A.v = some (true, .inl (.int, 620, (mA (updI (updI (updI V (Int.toNat (c + 2)) rr) (Int.toNat (c + 3)) rq) (Int.toNat (c + 4)) rb)))) := zsn eh5 fh4_0 (Ne.symm (zneA fh4_1 fh4_0))
  exact z_return (pc := 41) C (by rw [hXp]; exact ⟨_, rfl, rfl, ⟨fh5_0, fh5_7, fh5_1, fh5_2, fh5_3, fh5_4, fh5_5, fh5_6, (kh5.n gle_1 (List.not_mem_cons_of_ne_of_not_mem (Ne.symm (zneA gm_1 gle_1)) (List.not_mem_cons_of_ne_of_not_mem (zneT gle_1 gv_1 (by simp)) (List.not_mem_cons_of_ne_of_not_mem (zneT gle_1 gpa_1 (by simp)) (List.not_mem_cons_of_ne_of_not_mem (zneT gle_1 gtx_1 (by simp)) (List.not_mem_cons_of_ne_of_not_mem (zneT gle_1 gma_1 (by simp)) (List.not_mem_cons_of_ne_of_not_mem (zneT gle_1 gna_1 (by simp)) (List.not_mem_cons_of_ne_of_not_mem (zneT gle_1 gua_1 (by simp)) (List.not_mem_cons_of_ne_of_not_mem (zneT gle_1 gla_1 (by simp)) List.not_mem_nil))))))))), (kh5.n gqa_1 (List.not_mem_cons_of_ne_of_not_mem (Ne.symm (zneA gm_1 gqa_1)) (List.not_mem_cons_of_ne_of_not_mem (zneT gqa_1 gv_1 (by simp)) (List.not_mem_cons_of_ne_of_not_mem (zneT gqa_1 gpa_1 (by simp)) (List.not_mem_cons_of_ne_of_not_mem (zneT gqa_1 gtx_1 (by simp)) (List.not_mem_cons_of_ne_of_not_mem (zneT gqa_1 gma_1 (by simp)) (List.not_mem_cons_of_ne_of_not_mem (zneT gqa_1 gna_1 (by simp)) (List.not_mem_cons_of_ne_of_not_mem (zneT gqa_1 gua_1 (by simp)) (List.not_mem_cons_of_ne_of_not_mem (zneT gqa_1 gla_1 (by simp)) List.not_mem_nil))))))))), gd_1⟩, kh5⟩) dX4_puts_41
set_option maxHeartbeats 4000000 in
theorem m_isText {l : Launch} (hl : l.stackTraces = false) {Γ : zCx} {h : zH} {tq : List Int} {A : zMA} {st si ff wd th ap nt rr rq rb wh nd up lo : Int} {V P T M N U W : Nat → Int} (hM : mM h A st ((tq.length : Nat) : Int) si ff wd th ap nt rr rq rb wh nd up lo V P T M N U W) (htq : txA tq T) (hTr : ∀ c ∈ tq, 32 ≤ c ∧ c ≤ 126) (hTl : tq.length ≤ 200)  : zMet l yX4_isText (ws_ yX4_isText cX4_isText 1 (some .boolean)) ({ frames := 3, cells := 0, slots := 0, locals := 71 }) Γ h [.ref A.m] (zrt (fun w h' => ((∃ rt q b p' nt' wh', (chp tq 0 0 = .inr (rt, q, b, p')) ∧ w = some (.int (iI (1))) ∧ mM h' A st ((tq.length : Nat) : Int) si ff wd th (p' - 1) nt' rt q b wh' nd up lo V P T M N U W) ∨ (∃ x nt' rr' rq' rb' wh', (chp tq 0 0 = .inl x) ∧ w = some (.int (iI (0))) ∧ mM h' A st ((tq.length : Nat) : Int) si ff wd th x nt' rr' rq' rb' wh' nd up lo V P T M N U W)) ∧ zkeep h h' [A.m, A.v, A.pa, A.tx, A.ma, A.na, A.ua, A.la])) 0 0 := by
  refine zMet.of (cc := cX4_isText) hl (plainFor_of_name (by decide +kernel)) (Nat.le_of_ble_eq_true rfl) ?_
  intro X hXl hXΓ hXp C hnm hnL
  have C : zC X cX4_isText RX4 (some .boolean) 3 71 [] := C
  have hnL : X.2.1.2.2.2.2 = 1 := hnL
  subst hXl hXΓ
  show Z X h 0 0 [(0, .ref A.m)] 0 []
  obtain ⟨gm_1, gv_1, gpa_1, gtx_1, gma_1, gna_1, gua_1, gla_1, gle_1, gqa_1, gd_1⟩ := id hM
  refine z_aload_n (pc := 0) (j := 0) C dX4_isText_0 rfl rfl ?_
  refine z_iconst (pc := 1) C dX4_isText_1 ?_
  refine z_putfield (pc := 2) (fs' := [.ref A.v, .ref A.pa, .int (iI st), .ref A.tx, .int (iI ((tq.length : Nat) : Int)), .int (iI si), .int (iI ff), .int (iI wd), .int (iI th), .ref A.le, .ref A.qa, .int (iI 0), .int (iI nt), .int (iI rr), .int (iI rq), .int (iI rb), .int (iI wh), .ref A.ma, .ref A.na, .int (iI nd), .ref A.ua, .ref A.la, .int (iI up), .int (iI lo)]) C in_X4 tyX4 tyX4_ok nmX4 rfl 11 (by decide) q2093 (fun _ z => z) rfl rfl rfl (Nat.le_of_ble_eq_true rfl) gm_1 rfl dX4_isText_2 ?_
  refine Z.nm (fun h2 eh2 => ?_)
  have kh2 : zkeep h h2 [A.m, A.v, A.pa, A.tx, A.ma, A.na, A.ua, A.la] := by rw [eh2]; exact zkeep.up zkeep.rf (Or.inl (by simp)) gm_1
  have fh2_0 : h2 A.m = some (true, .inr (3, [.ref A.v, .ref A.pa, .int (iI st), .ref A.tx, .int (iI ((tq.length : Nat) : Int)), .int (iI si), .int (iI ff), .int (iI wd), .int (iI th), .ref A.le, .ref A.qa, .int (iI 0), .int (iI nt), .int (iI rr), .int (iI rq), .int (iI rb), .int (iI wh), .ref A.ma, .ref A.na, .int (iI nd), .ref A.ua, .ref A.la, .int (iI up), .int (iI lo)])) := zse eh2
  have fh2_1 : h2 A.v = some (true, .inl (.int, 620, (mA V))) := zsn eh2 gv_1 (Ne.symm (zneA gm_1 gv_1))
  have fh2_2 : h2 A.pa = some (true, .inl (.int, 4960, (mA P))) := zsn eh2 gpa_1 (Ne.symm (zneA gm_1 gpa_1))
  have fh2_3 : h2 A.tx = some (true, .inl (.int, 200, (mA T))) := zsn eh2 gtx_1 (Ne.symm (zneA gm_1 gtx_1))
  have fh2_4 : h2 A.ma = some (true, .inl (.int, 620, (mA M))) := zsn eh2 gma_1 (Ne.symm (zneA gm_1 gma_1))
  have fh2_5 : h2 A.na = some (true, .inl (.int, 20, (mA N))) := zsn eh2 gna_1 (Ne.symm (zneA gm_1 gna_1))
  have fh2_6 : h2 A.ua = some (true, .inl (.int, 1200, (mA U))) := zsn eh2 gua_1 (Ne.symm (zneA gm_1 gua_1))
  have fh2_7 : h2 A.la = some (true, .inl (.int, 1200, (mA W))) := zsn eh2 gla_1 (Ne.symm (zneA gm_1 gla_1))
  refine z_aload_n (pc := 5) (j := 0) C dX4_isText_5 rfl rfl ?_
  refine z_iconst (pc := 6) C dX4_isText_6 ?_
  refine z_callV (pc := 7) (n := 1) (kc' := 0) (ks' := 0) C (m_chord_ C.t ⟨fh2_0, fh2_1, fh2_2, fh2_3, fh2_4, fh2_5, fh2_6, fh2_7, (kh2.n gle_1 (List.not_mem_cons_of_ne_of_not_mem (Ne.symm (zneA gm_1 gle_1)) (List.not_mem_cons_of_ne_of_not_mem (zneT gle_1 gv_1 (by simp)) (List.not_mem_cons_of_ne_of_not_mem (zneT gle_1 gpa_1 (by simp)) (List.not_mem_cons_of_ne_of_not_mem (zneT gle_1 gtx_1 (by simp)) (List.not_mem_cons_of_ne_of_not_mem (zneT gle_1 gma_1 (by simp)) (List.not_mem_cons_of_ne_of_not_mem (zneT gle_1 gna_1 (by simp)) (List.not_mem_cons_of_ne_of_not_mem (zneT gle_1 gua_1 (by simp)) (List.not_mem_cons_of_ne_of_not_mem (zneT gle_1 gla_1 (by simp)) List.not_mem_nil))))))))), (kh2.n gqa_1 (List.not_mem_cons_of_ne_of_not_mem (Ne.symm (zneA gm_1 gqa_1)) (List.not_mem_cons_of_ne_of_not_mem (zneT gqa_1 gv_1 (by simp)) (List.not_mem_cons_of_ne_of_not_mem (zneT gqa_1 gpa_1 (by simp)) (List.not_mem_cons_of_ne_of_not_mem (zneT gqa_1 gtx_1 (by simp)) (List.not_mem_cons_of_ne_of_not_mem (zneT gqa_1 gma_1 (by simp)) (List.not_mem_cons_of_ne_of_not_mem (zneT gqa_1 gna_1 (by simp)) (List.not_mem_cons_of_ne_of_not_mem (zneT gqa_1 gua_1 (by simp)) (List.not_mem_cons_of_ne_of_not_mem (zneT gqa_1 gla_1 (by simp)) List.not_mem_nil))))))))), gd_1⟩ htq hTr hTl (e := 0) (e' := (-1)) (Or.inl ⟨rfl, rfl⟩) (by omega)) (lw_V q2187 q2189 qs30 q74 q2190) (by decide +kernel) ⟨by decide, by decide⟩ fh2_0 rfl rfl rfl (Nat.le_of_ble_eq_true rfl) dX4_isText_7 (by omega) (by omega) (zrk fun w h3 hp => ?_) zrx
  obtain ⟨hq_5, k4⟩ := hp
  have kh3 : zkeep h h3 [A.m, A.v, A.pa, A.tx, A.ma, A.na, A.ua, A.la] := zkeep.loc kh2 k4 (fun q hq => Or.inl (Or.inr hq))
  rcases hq_5 with ⟨rt_5, q_5, b_5, pz_5, ntz_5, whz_5, hc_5, rfl, hM_5⟩ | ⟨x_5, ntz_5, rrz_5, rqz_5, rbz_5, whz_5, hc_5, rfl, hM_5⟩
  · have hM_5 : mM h3 A st ((tq.length : Nat) : Int) si ff wd th (pz_5 - 1) ntz_5 rt_5 q_5 b_5 whz_5 nd up lo V P T M N U W := hM_5
    obtain ⟨gm_6, gv_6, gpa_6, gtx_6, gma_6, gna_6, gua_6, gla_6, gle_6, gqa_6, gd_6⟩ := id hM_5
    show Z X h3 0 0 [(0, .ref A.m)] 10 [.int (iI 1)]
    exact z_zreturn (pc := 10) C (by decide) (by rw [hXp]; exact ⟨_, rfl, Or.inl ⟨rt_5, q_5, b_5, pz_5, ntz_5, whz_5, hc_5, rfl, ⟨gm_6, gv_6, gpa_6, gtx_6, gma_6, gna_6, gua_6, gla_6, gle_6, gqa_6, gd_6⟩⟩, kh3⟩) dX4_isText_10
  · have hM_5 : mM h3 A st ((tq.length : Nat) : Int) si ff wd th x_5 ntz_5 rrz_5 rqz_5 rbz_5 whz_5 nd up lo V P T M N U W := hM_5
    obtain ⟨gm_7, gv_7, gpa_7, gtx_7, gma_7, gna_7, gua_7, gla_7, gle_7, gqa_7, gd_7⟩ := id hM_5
    show Z X h3 0 0 [(0, .ref A.m)] 10 [.int (iI 0)]
    exact z_zreturn (pc := 10) C (by decide) (by rw [hXp]; exact ⟨_, rfl, Or.inr ⟨x_5, ntz_5, rrz_5, rqz_5, rbz_5, whz_5, hc_5, rfl, ⟨gm_7, gv_7, gpa_7, gtx_7, gma_7, gna_7, gua_7, gla_7, gle_7, gqa_7, gd_7⟩⟩, kh3⟩) dX4_isText_10
set_option maxHeartbeats 4000000 in
theorem md_setChord {l : Launch} (hl : l.stackTraces = false) {Γ : zCx} {h : zH} {A : zMA} {σ : zSt} {th : Int} (hW : mdW h A σ th) {i : Int} {x : zCh} (hi : 0 ≤ i) (hx : σ.sh.cs[i.toNat]? = some x)  : zMet l yX4_setChord (ws_ yX4_setChord cX4_setChord 2 (some .int)) ({ frames := 4, cells := 0, slots := 0, locals := 91 }) Γ h [.ref A.m, .int (iI i)] (zrt (fun w h' => ((∃ rt q b p', chp σ.tx 0 0 = .inr (rt, q, b, p') ∧ w = some (.int (iI (0))) ∧ mdW h' A ([], σ.si, σ.fl, σ.wd, (σ.sh.ls, σ.sh.cs.set i.toNat (x.1, x.2.1, rt, q, b), σ.sh.t, σ.sh.m), hiP σ.hi σ.sh) 0) ∨ (∃ y, chp σ.tx 0 0 = .inl y ∧ w = some (.int (iI (-1 - y))) ∧ mdW h' A σ 0)) ∧ zkeep h h' [A.m, A.v, A.pa, A.tx, A.ma, A.na, A.ua, A.la])) 0 0 := by
  refine zMet.of (cc := cX4_setChord) hl (plainFor_of_name (by decide +kernel)) (Nat.le_of_ble_eq_true rfl) ?_
  intro X hXl hXΓ hXp C hnm hnL
  have C : zC X cX4_setChord RX4 (some .int) 4 91 [] := C
  have hnL : X.2.1.2.2.2.2 = 2 := hnL
  subst hXl hXΓ
  show Z X h 0 0 [(0, .ref A.m), (1, .int (iI i))] 0 []
  obtain ⟨ap, nt, rr, rq, rb, wh, nd, up, lo, V, P, T, M, N, U, W, hM, hS, hP, htq, hR, hsl, hslh⟩ := id hW
  obtain ⟨rsi, rff, rwd, rtl, rtx, rsh, rhi, rhl⟩ := id hR
  obtain ⟨rcl, rcr, rll, rlt, rkt, rkm, rks⟩ := id rsh
  obtain ⟨hsl1, hsl2, hsl3⟩ := id hsl
  have hTr := rtx
  have hTl := rtl
  obtain ⟨gm_1, gv_1, gpa_1, gtx_1, gma_1, gna_1, gua_1, gla_1, gle_1, gqa_1, gd_1⟩ := id hM
  have hix := (List.getElem?_eq_some_iff.mp hx).1
  obtain ⟨hx1, hx2, hx3, hx4, hx5⟩ := hS.c hi hx
  obtain ⟨xr1, xr2, xr3, xr4, xr5⟩ := rcr _ (List.mem_of_getElem? hx)
  refine z_aload_n (pc := 0) (j := 0) C dX4_setChord_0 rfl rfl ?_
  refine z_iconst (pc := 1) C dX4_setChord_1 ?_
  refine z_putfield (pc := 2) (fs' := [.ref A.v, .ref A.pa, .int (iI ((σ.hi.length : Nat) : Int)), .ref A.tx, .int (iI ((σ.tx.length : Nat) : Int)), .int (iI σ.si), .int (iI σ.fl), .int (iI σ.wd), .int (iI 0), .ref A.le, .ref A.qa, .int (iI ap), .int (iI nt), .int (iI rr), .int (iI rq), .int (iI rb), .int (iI wh), .ref A.ma, .ref A.na, .int (iI nd), .ref A.ua, .ref A.la, .int (iI up), .int (iI lo)]) C in_X4 tyX4 tyX4_ok nmX4 rfl 8 (by decide) q2090 (fun _ z => z) rfl rfl rfl (Nat.le_of_ble_eq_true rfl) gm_1 rfl dX4_setChord_2 ?_
  refine Z.nm (fun h2 eh2 => ?_)
  have kh2 : zkeep h h2 [A.m, A.v, A.pa, A.tx, A.ma, A.na, A.ua, A.la] := by rw [eh2]; exact zkeep.up zkeep.rf (Or.inl (by simp)) gm_1
  have fh2_0 : h2 A.m = some (true, .inr (3, [.ref A.v, .ref A.pa, .int (iI ((σ.hi.length : Nat) : Int)), .ref A.tx, .int (iI ((σ.tx.length : Nat) : Int)), .int (iI σ.si), .int (iI σ.fl), .int (iI σ.wd), .int (iI 0), .ref A.le, .ref A.qa, .int (iI ap), .int (iI nt), .int (iI rr), .int (iI rq), .int (iI rb), .int (iI wh), .ref A.ma, .ref A.na, .int (iI nd), .ref A.ua, .ref A.la, .int (iI up), .int (iI lo)])) := zse eh2
  have fh2_1 : h2 A.v = some (true, .inl (.int, 620, (mA V))) := zsn eh2 gv_1 (Ne.symm (zneA gm_1 gv_1))
  have fh2_2 : h2 A.pa = some (true, .inl (.int, 4960, (mA P))) := zsn eh2 gpa_1 (Ne.symm (zneA gm_1 gpa_1))
  have fh2_3 : h2 A.tx = some (true, .inl (.int, 200, (mA T))) := zsn eh2 gtx_1 (Ne.symm (zneA gm_1 gtx_1))
  have fh2_4 : h2 A.ma = some (true, .inl (.int, 620, (mA M))) := zsn eh2 gma_1 (Ne.symm (zneA gm_1 gma_1))
  have fh2_5 : h2 A.na = some (true, .inl (.int, 20, (mA N))) := zsn eh2 gna_1 (Ne.symm (zneA gm_1 gna_1))
  have fh2_6 : h2 A.ua = some (true, .inl (.int, 1200, (mA U))) := zsn eh2 gua_1 (Ne.symm (zneA gm_1 gua_1))
  have fh2_7 : h2 A.la = some (true, .inl (.int, 1200, (mA W))) := zsn eh2 gla_1 (Ne.symm (zneA gm_1 gla_1))
  refine z_aload_n (pc := 5) (j := 0) C dX4_setChord_5 rfl rfl ?_
  refine z_iload_n (pc := 6) (j := 1) C dX4_setChord_6 rfl rfl ?_
  refine z_callV (pc := 7) (n := 1) (kc' := 0) (ks' := 0) C (m_isChord C.t ⟨fh2_0, fh2_1, fh2_2, fh2_3, fh2_4, fh2_5, fh2_6, fh2_7, (kh2.n gle_1 (List.not_mem_cons_of_ne_of_not_mem (Ne.symm (zneA gm_1 gle_1)) (List.not_mem_cons_of_ne_of_not_mem (zneT gle_1 gv_1 (by simp)) (List.not_mem_cons_of_ne_of_not_mem (zneT gle_1 gpa_1 (by simp)) (List.not_mem_cons_of_ne_of_not_mem (zneT gle_1 gtx_1 (by simp)) (List.not_mem_cons_of_ne_of_not_mem (zneT gle_1 gma_1 (by simp)) (List.not_mem_cons_of_ne_of_not_mem (zneT gle_1 gna_1 (by simp)) (List.not_mem_cons_of_ne_of_not_mem (zneT gle_1 gua_1 (by simp)) (List.not_mem_cons_of_ne_of_not_mem (zneT gle_1 gla_1 (by simp)) List.not_mem_nil))))))))), (kh2.n gqa_1 (List.not_mem_cons_of_ne_of_not_mem (Ne.symm (zneA gm_1 gqa_1)) (List.not_mem_cons_of_ne_of_not_mem (zneT gqa_1 gv_1 (by simp)) (List.not_mem_cons_of_ne_of_not_mem (zneT gqa_1 gpa_1 (by simp)) (List.not_mem_cons_of_ne_of_not_mem (zneT gqa_1 gtx_1 (by simp)) (List.not_mem_cons_of_ne_of_not_mem (zneT gqa_1 gma_1 (by simp)) (List.not_mem_cons_of_ne_of_not_mem (zneT gqa_1 gna_1 (by simp)) (List.not_mem_cons_of_ne_of_not_mem (zneT gqa_1 gua_1 (by simp)) (List.not_mem_cons_of_ne_of_not_mem (zneT gqa_1 gla_1 (by simp)) List.not_mem_nil))))))))), gd_1⟩ hS hsl (i := i) (by omega)) (lw_V q2278 q2280 qs41 q74 q2281) (by decide +kernel) ⟨by decide, by decide⟩ fh2_0 rfl rfl rfl (Nat.le_of_ble_eq_true rfl) dX4_setChord_7 (by omega) (by omega) (zpk (st' := [.int (iI (if 0 ≤ i ∧ i ≤ ((σ.sh.cs.length : Nat) : Int) - 1 then 1 else 0))]) rfl ?_) zrx
  rw [show ((if 0 ≤ i ∧ i ≤ ((σ.sh.cs.length : Nat) : Int) - 1 then 1 else 0) : Int) = 1 from if_pos (by omega)]
  show Z X h2 0 0 [(0, .ref A.m), (1, .int (iI i))] 10 [.int (iI 1)]
  refine z_if_ne (pc := 10) (tgt := 19) C dX4_setChord_10 (by decide) (by decide) (fun _ => ?_) (fun z => absurd z (by decide))
  refine z_aload_n (pc := 19) (j := 0) C dX4_setChord_19 rfl rfl ?_
  refine z_callV (pc := 20) (n := 0) (kc' := 0) (ks' := 0) C (m_isText C.t ⟨fh2_0, fh2_1, fh2_2, fh2_3, fh2_4, fh2_5, fh2_6, fh2_7, (kh2.n gle_1 (List.not_mem_cons_of_ne_of_not_mem (Ne.symm (zneA gm_1 gle_1)) (List.not_mem_cons_of_ne_of_not_mem (zneT gle_1 gv_1 (by simp)) (List.not_mem_cons_of_ne_of_not_mem (zneT gle_1 gpa_1 (by simp)) (List.not_mem_cons_of_ne_of_not_mem (zneT gle_1 gtx_1 (by simp)) (List.not_mem_cons_of_ne_of_not_mem (zneT gle_1 gma_1 (by simp)) (List.not_mem_cons_of_ne_of_not_mem (zneT gle_1 gna_1 (by simp)) (List.not_mem_cons_of_ne_of_not_mem (zneT gle_1 gua_1 (by simp)) (List.not_mem_cons_of_ne_of_not_mem (zneT gle_1 gla_1 (by simp)) List.not_mem_nil))))))))), (kh2.n gqa_1 (List.not_mem_cons_of_ne_of_not_mem (Ne.symm (zneA gm_1 gqa_1)) (List.not_mem_cons_of_ne_of_not_mem (zneT gqa_1 gv_1 (by simp)) (List.not_mem_cons_of_ne_of_not_mem (zneT gqa_1 gpa_1 (by simp)) (List.not_mem_cons_of_ne_of_not_mem (zneT gqa_1 gtx_1 (by simp)) (List.not_mem_cons_of_ne_of_not_mem (zneT gqa_1 gma_1 (by simp)) (List.not_mem_cons_of_ne_of_not_mem (zneT gqa_1 gna_1 (by simp)) (List.not_mem_cons_of_ne_of_not_mem (zneT gqa_1 gua_1 (by simp)) (List.not_mem_cons_of_ne_of_not_mem (zneT gqa_1 gla_1 (by simp)) List.not_mem_nil))))))))), gd_1⟩ htq hTr hTl) (lw_V q2318 q2320 qs45 q74 q2321) (by decide +kernel) ⟨by decide, by decide⟩ fh2_0 rfl rfl rfl (Nat.le_of_ble_eq_true rfl) dX4_setChord_20 (by omega) (by omega) (zrk fun w h3 hp => ?_) zrx
  obtain ⟨hq_5, k4⟩ := hp
  have kh3 : zkeep h h3 [A.m, A.v, A.pa, A.tx, A.ma, A.na, A.ua, A.la] := zkeep.loc kh2 k4 (fun q hq => Or.inl (Or.inr hq))
  rcases hq_5 with ⟨rt_5, q_5, b_5, pz_5, ntz_5, whz_5, hc_5, rfl, hM_5⟩ | ⟨x_5, ntz_5, rrz_5, rqz_5, rbz_5, whz_5, hc_5, rfl, hM_5⟩
  · have hM_5 : mM h3 A ((σ.hi.length : Nat) : Int) ((σ.tx.length : Nat) : Int) σ.si σ.fl σ.wd 0 (pz_5 - 1) ntz_5 rt_5 q_5 b_5 whz_5 nd up lo V P T M N U W := hM_5
    obtain ⟨gm_6, gv_6, gpa_6, gtx_6, gma_6, gna_6, gua_6, gla_6, gle_6, gqa_6, gd_6⟩ := id hM_5
    show Z X h3 0 0 [(0, .ref A.m), (1, .int (iI i))] 23 [.int (iI 1)]
    have hcr_5 := chp_r (by decide) hc_5
    refine z_if_ne (pc := 23) (tgt := 33) C dX4_setChord_23 (by decide) (by decide) (fun _ => ?_) (fun z => absurd z (by decide))
    refine z_aload_n (pc := 33) (j := 0) C dX4_setChord_33 rfl rfl ?_
    refine z_callV (pc := 34) (n := 0) (kc' := 0) (ks' := 0) C (m_acts C.t ⟨gm_6, gv_6, gpa_6, gtx_6, gma_6, gna_6, gua_6, gla_6, gle_6, gqa_6, gd_6⟩ hS hsl hP hslh (by omega)) (lw_V q2206 q2208 qs34 q74 q2209) (by decide +kernel) ⟨by decide, by decide⟩ gm_6 rfl rfl rfl (Nat.le_of_ble_eq_true rfl) dX4_setChord_34 (by omega) (by omega) (zrk fun w h7 hp => ?_) zrx
    obtain ⟨P_9, rfl, hM_9, hPn_9, k8⟩ := hp
    have kh7 : zkeep h h7 [A.m, A.v, A.pa, A.tx, A.ma, A.na, A.ua, A.la] := zkeep.loc kh3 k8 (fun q hq => Or.inl (Or.inr hq))
    have hM_9 : mM h7 A (((hiP σ.hi σ.sh).length : Nat) : Int) ((σ.tx.length : Nat) : Int) σ.si σ.fl σ.wd 0 (pz_5 - 1) ntz_5 rt_5 q_5 b_5 whz_5 nd up lo V P_9 T M N U W := hM_9
    obtain ⟨gm_10, gv_10, gpa_10, gtx_10, gma_10, gna_10, gua_10, gla_10, gle_10, gqa_10, gd_10⟩ := id hM_9
    have hhl8 : (hiP σ.hi σ.sh).length ≤ 8 := hiP_l rhl
    have hslh2 : ∀ S ∈ hiP σ.hi σ.sh, shL S := hiP_m hslh hsl
    have rhi2 : ∀ S ∈ hiP σ.hi σ.sh, shR S := hiP_m rhi rsh
    show Z X h7 0 0 [(0, .ref A.m), (1, .int (iI i))] 37 []
    refine z_aload_n (pc := 37) (j := 0) C dX4_setChord_37 rfl rfl ?_
    refine z_iload_n (pc := 38) (j := 1) C dX4_setChord_38 rfl rfl ?_
    refine z_callS (pc := 39) (n := 1) (kc' := 0) (ks' := 0) C (m_chord C.t (x := i)) (lw_S q2203 q2204 q74 q2205) (by decide +kernel) ⟨by decide, by decide⟩ rfl rfl (Nat.le_of_ble_eq_true rfl) dX4_setChord_39 (by omega) (by omega) (zpk (st' := [.int (iI (210 + 5 * i)), .ref A.m]) rfl ?_) zrx
    refine z_callV (pc := 42) (n := 1) (kc' := 0) (ks' := 0) C (m_puts C.t ⟨gm_10, gv_10, gpa_10, gtx_10, gma_10, gna_10, gua_10, gla_10, gle_10, gqa_10, gd_10⟩ (c := 210 + 5 * i) (by omega)) (lw_V q2322 q2324 qs46 q74 q2325) (by decide +kernel) ⟨by decide, by decide⟩ gm_10 rfl rfl rfl (Nat.le_of_ble_eq_true rfl) dX4_setChord_42 (by omega) (by omega) (zrk fun w h11 hp => ?_) zrx
    obtain ⟨rfl, hM_13, k12⟩ := hp
    have kh11 : zkeep h h11 [A.m, A.v, A.pa, A.tx, A.ma, A.na, A.ua, A.la] := zkeep.loc kh7 k12 (fun q hq => Or.inl (Or.inr hq))
    have hM_13 : mM h11 A (((hiP σ.hi σ.sh).length : Nat) : Int) 0 σ.si σ.fl σ.wd 0 (pz_5 - 1) ntz_5 rt_5 q_5 b_5 whz_5 nd up lo (updI (updI (updI V (Int.toNat ((210 + 5 * i) + 2)) rt_5) (Int.toNat ((210 + 5 * i) + 3)) q_5) (Int.toNat ((210 + 5 * i) + 4)) b_5) P_9 T M N U W := hM_13
    obtain ⟨gm_14, gv_14, gpa_14, gtx_14, gma_14, gna_14, gua_14, gla_14, gle_14, gqa_14, gd_14⟩ := id hM_13
    show Z X h11 0 0 [(0, .ref A.m), (1, .int (iI i))] 45 []
    refine z_iconst (pc := 45) C dX4_setChord_45 ?_
    have hSn : vS (updI (updI (updI V (Int.toNat ((210 + 5 * i) + 2)) rt_5) (Int.toNat ((210 + 5 * i) + 3)) q_5) (Int.toNat ((210 + 5 * i) + 4)) b_5) (σ.sh.ls, σ.sh.cs.set i.toNat ((x.1, x.2.1, rt_5, q_5, b_5) : zCh), σ.sh.t, σ.sh.m) := hS.set ⟨hsl2, hsl3⟩ hx (fun j h1 => by simp only [updI, if_true] <;> (repeat' split) <;> first | rfl | omega) ⟨(by simp only [updI, if_true] <;> (repeat' split) <;> first | rfl | omega), (by simp only [updI, if_true] <;> (repeat' split) <;> first | rfl | omega), (by simp only [updI, if_true] <;> (repeat' split) <;> first | rfl | omega)⟩
    have hRn : shR (σ.sh.ls, σ.sh.cs.set i.toNat ((x.1, x.2.1, rt_5, q_5, b_5) : zCh), σ.sh.t, σ.sh.m) := ⟨by show (σ.sh.cs.set i.toNat _).length ≤ 40; rw [List.length_set]; exact rcl, fun c hc => (List.mem_or_eq_of_mem_set hc).elim (rcr c) (fun e => e ▸ ⟨xr1, xr2, hcr_5.1, hcr_5.2.1, hcr_5.2.2.1⟩), rll, rlt, rkt, rkm, rks⟩
    exact z_ireturn (pc := 46) C (by rw [hXp]; exact ⟨_, rfl, Or.inl ⟨rt_5, q_5, b_5, pz_5, hc_5, rfl, ⟨pz_5 - 1, ntz_5, rt_5, q_5, b_5, whz_5, nd, up, lo, (updI (updI (updI V (Int.toNat ((210 + 5 * i) + 2)) rt_5) (Int.toNat ((210 + 5 * i) + 3)) q_5) (Int.toNat ((210 + 5 * i) + 4)) b_5), P_9, T, M, N, U, W, ⟨gm_14, gv_14, gpa_14, gtx_14, gma_14, gna_14, gua_14, gla_14, gle_14, gqa_14, gd_14⟩, hSn, hPn_9, (fun j d e => by simp [zSt.tx] at e), ⟨rsi, rff, rwd, Nat.zero_le _, (fun _ h => nomatch h), hRn, rhi2, hhl8⟩, ⟨hsl1, hsl2, by show (σ.sh.cs.set i.toNat _).length ≤ 40; rw [List.length_set]; exact hsl3⟩, hslh2⟩⟩, kh11⟩) dX4_setChord_46
  · have hM_5 : mM h3 A ((σ.hi.length : Nat) : Int) ((σ.tx.length : Nat) : Int) σ.si σ.fl σ.wd 0 x_5 ntz_5 rrz_5 rqz_5 rbz_5 whz_5 nd up lo V P T M N U W := hM_5
    obtain ⟨gm_15, gv_15, gpa_15, gtx_15, gma_15, gna_15, gua_15, gla_15, gle_15, gqa_15, gd_15⟩ := id hM_5
    show Z X h3 0 0 [(0, .ref A.m), (1, .int (iI i))] 23 [.int (iI 0)]
    refine z_if_ne (pc := 23) (tgt := 33) C dX4_setChord_23 (by decide) (by decide) (fun z => absurd z (by decide)) (fun _ => ?_)
    refine z_iconst (pc := 26) C dX4_setChord_26 ?_
    refine z_aload_n (pc := 27) (j := 0) C dX4_setChord_27 rfl rfl ?_
    refine z_getfield (pc := 28) (v := .int (iI x_5)) C in_X4 rfl 11 (by decide) q2093 (fun _ z => z) gm_15 rfl dX4_setChord_28 ?_
    refine z_isub (pc := 31) C dX4_setChord_31 ?_
    exact z_ireturn (pc := 32) C (by rw [hXp]; exact ⟨_, rfl, Or.inr ⟨x_5, hc_5, rfl, ⟨x_5, ntz_5, rrz_5, rqz_5, rbz_5, whz_5, nd, up, lo, V, P, T, M, N, U, W, ⟨gm_15, gv_15, gpa_15, gtx_15, gma_15, gna_15, gua_15, gla_15, gle_15, gqa_15, gd_15⟩, hS, hP, htq, hR, hsl, hslh⟩⟩, kh3⟩) dX4_setChord_32
set_option maxHeartbeats 4000000 in
theorem md_setChord_b {l : Launch} (hl : l.stackTraces = false) {Γ : zCx} {h : zH} {A : zMA} {σ : zSt} {th : Int} (hW : mdW h A σ th) {i : Int} (hi : -2147483648 ≤ i ∧ i ≤ 2147483647) (hb : ¬ (0 ≤ i ∧ i < (σ.sh.cs.length : Nat)))  : zMet l yX4_setChord (ws_ yX4_setChord cX4_setChord 2 (some .int)) ({ frames := 2, cells := 0, slots := 0, locals := 43 }) Γ h [.ref A.m, .int (iI i)] (zrt (fun w h' => w = some (.int (iI (0))) ∧ mdW h' A σ 1 ∧ zkeep h h' [A.m, A.v, A.pa, A.tx, A.ma, A.na, A.ua, A.la])) 0 0 := by
  refine zMet.of (cc := cX4_setChord) hl (plainFor_of_name (by decide +kernel)) (Nat.le_of_ble_eq_true rfl) ?_
  intro X hXl hXΓ hXp C hnm hnL
  have C : zC X cX4_setChord RX4 (some .int) 2 43 [] := C
  have hnL : X.2.1.2.2.2.2 = 2 := hnL
  subst hXl hXΓ
  show Z X h 0 0 [(0, .ref A.m), (1, .int (iI i))] 0 []
  obtain ⟨ap, nt, rr, rq, rb, wh, nd, up, lo, V, P, T, M, N, U, W, hM, hS, hP, htq, hR, hsl, hslh⟩ := id hW
  obtain ⟨rsi, rff, rwd, rtl, rtx, rsh, rhi, rhl⟩ := id hR
  obtain ⟨rcl, rcr, rll, rlt, rkt, rkm, rks⟩ := id rsh
  obtain ⟨hsl1, hsl2, hsl3⟩ := id hsl
  have hTr := rtx
  have hTl := rtl
  obtain ⟨gm_1, gv_1, gpa_1, gtx_1, gma_1, gna_1, gua_1, gla_1, gle_1, gqa_1, gd_1⟩ := id hM
  refine z_aload_n (pc := 0) (j := 0) C dX4_setChord_0 rfl rfl ?_
  refine z_iconst (pc := 1) C dX4_setChord_1 ?_
  refine z_putfield (pc := 2) (fs' := [.ref A.v, .ref A.pa, .int (iI ((σ.hi.length : Nat) : Int)), .ref A.tx, .int (iI ((σ.tx.length : Nat) : Int)), .int (iI σ.si), .int (iI σ.fl), .int (iI σ.wd), .int (iI 0), .ref A.le, .ref A.qa, .int (iI ap), .int (iI nt), .int (iI rr), .int (iI rq), .int (iI rb), .int (iI wh), .ref A.ma, .ref A.na, .int (iI nd), .ref A.ua, .ref A.la, .int (iI up), .int (iI lo)]) C in_X4 tyX4 tyX4_ok nmX4 rfl 8 (by decide) q2090 (fun _ z => z) rfl rfl rfl (Nat.le_of_ble_eq_true rfl) gm_1 rfl dX4_setChord_2 ?_
  refine Z.nm (fun h2 eh2 => ?_)
  have kh2 : zkeep h h2 [A.m, A.v, A.pa, A.tx, A.ma, A.na, A.ua, A.la] := by rw [eh2]; exact zkeep.up zkeep.rf (Or.inl (by simp)) gm_1
  have fh2_0 : h2 A.m = some (true, .inr (3, [.ref A.v, .ref A.pa, .int (iI ((σ.hi.length : Nat) : Int)), .ref A.tx, .int (iI ((σ.tx.length : Nat) : Int)), .int (iI σ.si), .int (iI σ.fl), .int (iI σ.wd), .int (iI 0), .ref A.le, .ref A.qa, .int (iI ap), .int (iI nt), .int (iI rr), .int (iI rq), .int (iI rb), .int (iI wh), .ref A.ma, .ref A.na, .int (iI nd), .ref A.ua, .ref A.la, .int (iI up), .int (iI lo)])) := zse eh2
  have fh2_1 : h2 A.v = some (true, .inl (.int, 620, (mA V))) := zsn eh2 gv_1 (Ne.symm (zneA gm_1 gv_1))
  have fh2_2 : h2 A.pa = some (true, .inl (.int, 4960, (mA P))) := zsn eh2 gpa_1 (Ne.symm (zneA gm_1 gpa_1))
  have fh2_3 : h2 A.tx = some (true, .inl (.int, 200, (mA T))) := zsn eh2 gtx_1 (Ne.symm (zneA gm_1 gtx_1))
  have fh2_4 : h2 A.ma = some (true, .inl (.int, 620, (mA M))) := zsn eh2 gma_1 (Ne.symm (zneA gm_1 gma_1))
  have fh2_5 : h2 A.na = some (true, .inl (.int, 20, (mA N))) := zsn eh2 gna_1 (Ne.symm (zneA gm_1 gna_1))
  have fh2_6 : h2 A.ua = some (true, .inl (.int, 1200, (mA U))) := zsn eh2 gua_1 (Ne.symm (zneA gm_1 gua_1))
  have fh2_7 : h2 A.la = some (true, .inl (.int, 1200, (mA W))) := zsn eh2 gla_1 (Ne.symm (zneA gm_1 gla_1))
  refine z_aload_n (pc := 5) (j := 0) C dX4_setChord_5 rfl rfl ?_
  refine z_iload_n (pc := 6) (j := 1) C dX4_setChord_6 rfl rfl ?_
  refine z_callV (pc := 7) (n := 1) (kc' := 0) (ks' := 0) C (m_isChord C.t ⟨fh2_0, fh2_1, fh2_2, fh2_3, fh2_4, fh2_5, fh2_6, fh2_7, (kh2.n gle_1 (List.not_mem_cons_of_ne_of_not_mem (Ne.symm (zneA gm_1 gle_1)) (List.not_mem_cons_of_ne_of_not_mem (zneT gle_1 gv_1 (by simp)) (List.not_mem_cons_of_ne_of_not_mem (zneT gle_1 gpa_1 (by simp)) (List.not_mem_cons_of_ne_of_not_mem (zneT gle_1 gtx_1 (by simp)) (List.not_mem_cons_of_ne_of_not_mem (zneT gle_1 gma_1 (by simp)) (List.not_mem_cons_of_ne_of_not_mem (zneT gle_1 gna_1 (by simp)) (List.not_mem_cons_of_ne_of_not_mem (zneT gle_1 gua_1 (by simp)) (List.not_mem_cons_of_ne_of_not_mem (zneT gle_1 gla_1 (by simp)) List.not_mem_nil))))))))), (kh2.n gqa_1 (List.not_mem_cons_of_ne_of_not_mem (Ne.symm (zneA gm_1 gqa_1)) (List.not_mem_cons_of_ne_of_not_mem (zneT gqa_1 gv_1 (by simp)) (List.not_mem_cons_of_ne_of_not_mem (zneT gqa_1 gpa_1 (by simp)) (List.not_mem_cons_of_ne_of_not_mem (zneT gqa_1 gtx_1 (by simp)) (List.not_mem_cons_of_ne_of_not_mem (zneT gqa_1 gma_1 (by simp)) (List.not_mem_cons_of_ne_of_not_mem (zneT gqa_1 gna_1 (by simp)) (List.not_mem_cons_of_ne_of_not_mem (zneT gqa_1 gua_1 (by simp)) (List.not_mem_cons_of_ne_of_not_mem (zneT gqa_1 gla_1 (by simp)) List.not_mem_nil))))))))), gd_1⟩ hS hsl (i := i) (by omega)) (lw_V q2278 q2280 qs41 q74 q2281) (by decide +kernel) ⟨by decide, by decide⟩ fh2_0 rfl rfl rfl (Nat.le_of_ble_eq_true rfl) dX4_setChord_7 (by omega) (by omega) (zpk (st' := [.int (iI (if 0 ≤ i ∧ i ≤ ((σ.sh.cs.length : Nat) : Int) - 1 then 1 else 0))]) rfl ?_) zrx
  rw [show ((if 0 ≤ i ∧ i ≤ ((σ.sh.cs.length : Nat) : Int) - 1 then 1 else 0) : Int) = 0 from if_neg (by omega)]
  show Z X h2 0 0 [(0, .ref A.m), (1, .int (iI i))] 10 [.int (iI 0)]
  refine z_if_ne (pc := 10) (tgt := 19) C dX4_setChord_10 (by decide) (by decide) (fun z => absurd z (by decide)) (fun _ => ?_)
  refine z_aload_n (pc := 13) (j := 0) C dX4_setChord_13 rfl rfl ?_
  refine z_iconst (pc := 14) C dX4_setChord_14 ?_
  refine z_callV (pc := 15) (n := 1) (kc' := 0) (ks' := 0) C (m_fails C.t ⟨fh2_0, fh2_1, fh2_2, fh2_3, fh2_4, fh2_5, fh2_6, fh2_7, (kh2.n gle_1 (List.not_mem_cons_of_ne_of_not_mem (Ne.symm (zneA gm_1 gle_1)) (List.not_mem_cons_of_ne_of_not_mem (zneT gle_1 gv_1 (by simp)) (List.not_mem_cons_of_ne_of_not_mem (zneT gle_1 gpa_1 (by simp)) (List.not_mem_cons_of_ne_of_not_mem (zneT gle_1 gtx_1 (by simp)) (List.not_mem_cons_of_ne_of_not_mem (zneT gle_1 gma_1 (by simp)) (List.not_mem_cons_of_ne_of_not_mem (zneT gle_1 gna_1 (by simp)) (List.not_mem_cons_of_ne_of_not_mem (zneT gle_1 gua_1 (by simp)) (List.not_mem_cons_of_ne_of_not_mem (zneT gle_1 gla_1 (by simp)) List.not_mem_nil))))))))), (kh2.n gqa_1 (List.not_mem_cons_of_ne_of_not_mem (Ne.symm (zneA gm_1 gqa_1)) (List.not_mem_cons_of_ne_of_not_mem (zneT gqa_1 gv_1 (by simp)) (List.not_mem_cons_of_ne_of_not_mem (zneT gqa_1 gpa_1 (by simp)) (List.not_mem_cons_of_ne_of_not_mem (zneT gqa_1 gtx_1 (by simp)) (List.not_mem_cons_of_ne_of_not_mem (zneT gqa_1 gma_1 (by simp)) (List.not_mem_cons_of_ne_of_not_mem (zneT gqa_1 gna_1 (by simp)) (List.not_mem_cons_of_ne_of_not_mem (zneT gqa_1 gua_1 (by simp)) (List.not_mem_cons_of_ne_of_not_mem (zneT gqa_1 gla_1 (by simp)) List.not_mem_nil))))))))), gd_1⟩ (x := 1)) (lw_V q2167 q2169 qs27 q74 q2170) (by decide +kernel) ⟨by decide, by decide⟩ fh2_0 rfl rfl rfl (Nat.le_of_ble_eq_true rfl) dX4_setChord_15 (by omega) (by omega) (zrk fun w h3 hp => ?_) zrx
  obtain ⟨rfl, hM_5, k4⟩ := hp
  have kh3 : zkeep h h3 [A.m, A.v, A.pa, A.tx, A.ma, A.na, A.ua, A.la] := zkeep.loc kh2 k4 (fun q hq => Or.inl (Or.inr hq))
  have hM_5 : mM h3 A ((σ.hi.length : Nat) : Int) ((σ.tx.length : Nat) : Int) σ.si σ.fl σ.wd 1 ap nt rr rq rb wh nd up lo V P T M N U W := hM_5
  obtain ⟨gm_6, gv_6, gpa_6, gtx_6, gma_6, gna_6, gua_6, gla_6, gle_6, gqa_6, gd_6⟩ := id hM_5
  show Z X h3 0 0 [(0, .ref A.m), (1, .int (iI i))] 18 [.int (iI 0)]
  exact z_ireturn (pc := 18) C (by rw [hXp]; exact ⟨_, rfl, rfl, ⟨ap, nt, rr, rq, rb, wh, nd, up, lo, V, P, T, M, N, U, W, ⟨gm_6, gv_6, gpa_6, gtx_6, gma_6, gna_6, gua_6, gla_6, gle_6, gqa_6, gd_6⟩, hS, hP, htq, hR, hsl, hslh⟩, kh3⟩) dX4_setChord_18

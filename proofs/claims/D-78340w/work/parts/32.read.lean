/-! 32.read.lean.txt -/
set_option maxRecDepth 100000
abbrev cX1_read : ByteArray := prog_1_method_17_code
def yX1_read : MethodName := ⟨RX1, "read", "()I"⟩
def dkwX1_read_1 : List UInt8 := [182, 0, 162, 42, 43, 181, 0, 31, 42, 3, 181, 0, 144, 42, 180, 0, 31, 180, 0, 165, 182, 0, 168, 172]
abbrev dktX1_read_1 : List UInt8 := dkwX1_read_1 ++ []
def dkwX1_read_0 : List UInt8 := [187, 0, 150, 89, 42, 183, 0, 152, 182, 0, 155, 76, 167, 0, 11, 77, 2, 44, 180, 0, 159, 100, 172, 42]
abbrev dktX1_read_0 : List UInt8 := dkwX1_read_0 ++ dktX1_read_1
theorem dksX1_read_0 : cX1_read.data.toList.drop 0 = dktX1_read_0 := by decide +kernel
theorem dksX1_read_1 : cX1_read.data.toList.drop 24 = dktX1_read_1 := dk_seg dksX1_read_0 24 rfl rfl
abbrev cX1_init : ByteArray := prog_1_method_1_code
def yX1_init : MethodName := ⟨RX1, "<init>", "()V"⟩
def dkwX1_init_3 : List UInt8 := [87, 177]
abbrev dktX1_init_3 : List UInt8 := dkwX1_init_3 ++ []
def dkwX1_init_2 : List UInt8 := [187, 0, 35, 89, 16, 9, 183, 0, 37, 181, 0, 40, 42, 180, 0, 31, 180, 0, 44, 18, 48, 182, 0, 50]
abbrev dktX1_init_2 : List UInt8 := dkwX1_init_2 ++ dktX1_init_3
def dkwX1_init_1 : List UInt8 := [181, 0, 17, 42, 187, 0, 21, 89, 187, 0, 23, 89, 3, 3, 183, 0, 25, 183, 0, 28, 181, 0, 31, 42]
abbrev dktX1_init_1 : List UInt8 := dkwX1_init_1 ++ dktX1_init_2
def dkwX1_init_0 : List UInt8 := [42, 183, 0, 1, 42, 17, 0, 200, 188, 5, 181, 0, 9, 42, 4, 181, 0, 13, 42, 17, 0, 200]
abbrev dktX1_init_0 : List UInt8 := dkwX1_init_0 ++ dktX1_init_1
theorem dksX1_init_0 : cX1_init.data.toList.drop 0 = dktX1_init_0 := by decide +kernel
theorem dksX1_init_1 : cX1_init.data.toList.drop 22 = dktX1_init_1 := dk_seg dksX1_init_0 22 rfl rfl
theorem dksX1_init_2 : cX1_init.data.toList.drop 46 = dktX1_init_2 := dk_seg dksX1_init_1 24 rfl rfl
theorem dksX1_init_3 : cX1_init.data.toList.drop 70 = dktX1_init_3 := dk_seg dksX1_init_2 24 rfl rfl
theorem dX1_read_0 : decode cX1_read 0 = .ok (.new 150, 3) := dk_187 0 150 (dk_at dksX1_read_0 0 rfl rfl)
theorem dX1_read_3 : decode cX1_read 3 = .ok (.dup, 1) := dk_89 (dk_at dksX1_read_0 3 rfl rfl)
theorem dX1_read_4 : decode cX1_read 4 = .ok (.aload_n 0, 1) := dk_42 (dk_at dksX1_read_0 4 rfl rfl)
theorem dX1_read_5 : decode cX1_read 5 = .ok (.invokespecial 152, 3) := dk_183 0 152 (dk_at dksX1_read_0 5 rfl rfl)
theorem dX1_read_8 : decode cX1_read 8 = .ok (.invokevirtual 155, 3) := dk_182 0 155 (dk_at dksX1_read_0 8 rfl rfl)
theorem dX1_read_11 : decode cX1_read 11 = .ok (.astore_n 1, 1) := dk_76 (dk_at dksX1_read_0 11 rfl rfl)
theorem dX1_read_12 : decode cX1_read 12 = .ok (.goto 11, 3) := dk_167 0 11 (dk_at dksX1_read_0 12 rfl rfl)
theorem dX1_read_15 : decode cX1_read 15 = .ok (.astore_n 2, 1) := dk_77 (dk_at dksX1_read_0 15 rfl rfl)
theorem dX1_read_16 : decode cX1_read 16 = .ok (.iconst (-1), 1) := dk_2 (dk_at dksX1_read_0 16 rfl rfl)
theorem dX1_read_17 : decode cX1_read 17 = .ok (.aload_n 2, 1) := dk_44 (dk_at dksX1_read_0 17 rfl rfl)
theorem dX1_read_18 : decode cX1_read 18 = .ok (.getfield 159, 3) := dk_180 0 159 (dk_at dksX1_read_0 18 rfl rfl)
theorem dX1_read_21 : decode cX1_read 21 = .ok (.isub, 1) := dk_100 (dk_at dksX1_read_0 21 rfl rfl)
theorem dX1_read_22 : decode cX1_read 22 = .ok (.ireturn, 1) := dk_172 (dk_at dksX1_read_0 22 rfl rfl)
theorem dX1_read_23 : decode cX1_read 23 = .ok (.aload_n 0, 1) := dk_42 (dk_at dksX1_read_0 23 rfl rfl)
theorem dX1_read_24 : decode cX1_read 24 = .ok (.invokevirtual 162, 3) := dk_182 0 162 (dk_at dksX1_read_1 0 rfl rfl)
theorem dX1_read_27 : decode cX1_read 27 = .ok (.aload_n 0, 1) := dk_42 (dk_at dksX1_read_1 3 rfl rfl)
theorem dX1_read_28 : decode cX1_read 28 = .ok (.aload_n 1, 1) := dk_43 (dk_at dksX1_read_1 4 rfl rfl)
theorem dX1_read_29 : decode cX1_read 29 = .ok (.putfield 31, 3) := dk_181 0 31 (dk_at dksX1_read_1 5 rfl rfl)
theorem dX1_read_32 : decode cX1_read 32 = .ok (.aload_n 0, 1) := dk_42 (dk_at dksX1_read_1 8 rfl rfl)
theorem dX1_read_33 : decode cX1_read 33 = .ok (.iconst 0, 1) := dk_3 (dk_at dksX1_read_1 9 rfl rfl)
theorem dX1_read_34 : decode cX1_read 34 = .ok (.putfield 144, 3) := dk_181 0 144 (dk_at dksX1_read_1 10 rfl rfl)
theorem dX1_read_37 : decode cX1_read 37 = .ok (.aload_n 0, 1) := dk_42 (dk_at dksX1_read_1 13 rfl rfl)
theorem dX1_read_38 : decode cX1_read 38 = .ok (.getfield 31, 3) := dk_180 0 31 (dk_at dksX1_read_1 14 rfl rfl)
theorem dX1_read_41 : decode cX1_read 41 = .ok (.getfield 165, 3) := dk_180 0 165 (dk_at dksX1_read_1 17 rfl rfl)
theorem dX1_read_44 : decode cX1_read 44 = .ok (.invokevirtual 168, 3) := dk_182 0 168 (dk_at dksX1_read_1 20 rfl rfl)
theorem dX1_read_47 : decode cX1_read 47 = .ok (.ireturn, 1) := dk_172 (dk_at dksX1_read_1 23 rfl rfl)
theorem dX1_init_0 : decode cX1_init 0 = .ok (.aload_n 0, 1) := dk_42 (dk_at dksX1_init_0 0 rfl rfl)
theorem dX1_init_1 : decode cX1_init 1 = .ok (.invokespecial 1, 3) := dk_183 0 1 (dk_at dksX1_init_0 1 rfl rfl)
theorem dX1_init_4 : decode cX1_init 4 = .ok (.aload_n 0, 1) := dk_42 (dk_at dksX1_init_0 4 rfl rfl)
theorem dX1_init_5 : decode cX1_init 5 = .ok (.sipush 200, 3) := dk_17 0 200 (dk_at dksX1_init_0 5 rfl rfl)
theorem dX1_init_8 : decode cX1_init 8 = .ok (.newarray .char, 2) := dk_188_5 (dk_at dksX1_init_0 8 rfl rfl)
theorem dX1_init_10 : decode cX1_init 10 = .ok (.putfield 9, 3) := dk_181 0 9 (dk_at dksX1_init_0 10 rfl rfl)
theorem dX1_init_13 : decode cX1_init 13 = .ok (.aload_n 0, 1) := dk_42 (dk_at dksX1_init_0 13 rfl rfl)
theorem dX1_init_14 : decode cX1_init 14 = .ok (.iconst 1, 1) := dk_4 (dk_at dksX1_init_0 14 rfl rfl)
theorem dX1_init_15 : decode cX1_init 15 = .ok (.putfield 13, 3) := dk_181 0 13 (dk_at dksX1_init_0 15 rfl rfl)
theorem dX1_init_18 : decode cX1_init 18 = .ok (.aload_n 0, 1) := dk_42 (dk_at dksX1_init_0 18 rfl rfl)
theorem dX1_init_19 : decode cX1_init 19 = .ok (.sipush 200, 3) := dk_17 0 200 (dk_at dksX1_init_0 19 rfl rfl)
theorem dX1_init_22 : decode cX1_init 22 = .ok (.putfield 17, 3) := dk_181 0 17 (dk_at dksX1_init_1 0 rfl rfl)
theorem dX1_init_25 : decode cX1_init 25 = .ok (.aload_n 0, 1) := dk_42 (dk_at dksX1_init_1 3 rfl rfl)
theorem dX1_init_26 : decode cX1_init 26 = .ok (.new 21, 3) := dk_187 0 21 (dk_at dksX1_init_1 4 rfl rfl)
theorem dX1_init_29 : decode cX1_init 29 = .ok (.dup, 1) := dk_89 (dk_at dksX1_init_1 7 rfl rfl)
theorem dX1_init_30 : decode cX1_init 30 = .ok (.new 23, 3) := dk_187 0 23 (dk_at dksX1_init_1 8 rfl rfl)
theorem dX1_init_33 : decode cX1_init 33 = .ok (.dup, 1) := dk_89 (dk_at dksX1_init_1 11 rfl rfl)
theorem dX1_init_34 : decode cX1_init 34 = .ok (.iconst 0, 1) := dk_3 (dk_at dksX1_init_1 12 rfl rfl)
theorem dX1_init_35 : decode cX1_init 35 = .ok (.iconst 0, 1) := dk_3 (dk_at dksX1_init_1 13 rfl rfl)
theorem dX1_init_36 : decode cX1_init 36 = .ok (.invokespecial 25, 3) := dk_183 0 25 (dk_at dksX1_init_1 14 rfl rfl)
theorem dX1_init_39 : decode cX1_init 39 = .ok (.invokespecial 28, 3) := dk_183 0 28 (dk_at dksX1_init_1 17 rfl rfl)
theorem dX1_init_42 : decode cX1_init 42 = .ok (.putfield 31, 3) := dk_181 0 31 (dk_at dksX1_init_1 20 rfl rfl)
theorem dX1_init_45 : decode cX1_init 45 = .ok (.aload_n 0, 1) := dk_42 (dk_at dksX1_init_1 23 rfl rfl)
theorem dX1_init_46 : decode cX1_init 46 = .ok (.new 35, 3) := dk_187 0 35 (dk_at dksX1_init_2 0 rfl rfl)
theorem dX1_init_49 : decode cX1_init 49 = .ok (.dup, 1) := dk_89 (dk_at dksX1_init_2 3 rfl rfl)
theorem dX1_init_50 : decode cX1_init 50 = .ok (.bipush 9, 2) := dk_16 9 (dk_at dksX1_init_2 4 rfl rfl)
theorem dX1_init_52 : decode cX1_init 52 = .ok (.invokespecial 37, 3) := dk_183 0 37 (dk_at dksX1_init_2 6 rfl rfl)
theorem dX1_init_55 : decode cX1_init 55 = .ok (.putfield 40, 3) := dk_181 0 40 (dk_at dksX1_init_2 9 rfl rfl)
theorem dX1_init_58 : decode cX1_init 58 = .ok (.aload_n 0, 1) := dk_42 (dk_at dksX1_init_2 12 rfl rfl)
theorem dX1_init_59 : decode cX1_init 59 = .ok (.getfield 31, 3) := dk_180 0 31 (dk_at dksX1_init_2 13 rfl rfl)
theorem dX1_init_62 : decode cX1_init 62 = .ok (.getfield 44, 3) := dk_180 0 44 (dk_at dksX1_init_2 16 rfl rfl)
theorem dX1_init_65 : decode cX1_init 65 = .ok (.ldc 48, 2) := dk_18 48 (dk_at dksX1_init_2 19 rfl rfl)
theorem dX1_init_67 : decode cX1_init 67 = .ok (.invokevirtual 50, 3) := dk_182 0 50 (dk_at dksX1_init_2 21 rfl rfl)
theorem dX1_init_70 : decode cX1_init 70 = .ok (.pop, 1) := dk_87 (dk_at dksX1_init_3 0 rfl rfl)
theorem dX1_init_71 : decode cX1_init 71 = .ok (.return_, 1) := dk_177 (dk_at dksX1_init_3 1 rfl rfl)
theorem q112 : (Jvm.Cond.methodLink "ChordSheet" (1 : Nat) ({ cls := "java/lang/Object", name := "<init>", desc := "()V" } : Jvm.MethodName)) ∈ lw_all := lw_g (lw_at lw_m1 50 rfl) rfl
theorem q134 : (Jvm.Cond.arrayClass Jvm.ClassFile.FieldType.char) ∈ lw_all := lw_g (lw_at lw_m1 72 rfl) rfl
theorem q135 : (Jvm.Cond.methodLink "ChordSheet" (28 : Nat) ({ cls := "ChordSheet$Sheet", name := "<init>", desc := "(LChordSheet$Key;)V" } : Jvm.MethodName)) ∈ lw_all := lw_g (lw_at lw_m1 73 rfl) rfl
theorem q183 : (Jvm.Cond.classLink "ChordSheet" (35 : Nat) "java/util/ArrayDeque") ∈ lw_all := lw_g (lw_at lw_m1 121 rfl) rfl
theorem q184 : (Jvm.Cond.instantiable "java/util/ArrayDeque" (3 : Nat)) ∈ lw_all := lw_g (lw_at lw_m1 122 rfl) rfl
theorem q185 : (Jvm.Cond.methodLink "ChordSheet" (37 : Nat) ({ cls := "java/util/ArrayDeque", name := "<init>", desc := "(I)V" } : Jvm.MethodName)) ∈ lw_all := lw_g (lw_at lw_m1 123 rfl) rfl
theorem q186 : (Jvm.Cond.instanceMethod ({ cls := "java/util/ArrayDeque", name := "<init>", desc := "(I)V" } : Jvm.MethodName)) ∈ lw_all := lw_g (lw_at lw_m1 124 rfl) rfl
theorem q187 : (Jvm.Cond.code ({ cls := "java/util/ArrayDeque", name := "<init>", desc := "(I)V" } : Jvm.MethodName) prog_43_method_4_code (2 : Nat) (Option.none : Option Jvm.ClassFile.FieldType)) ∈ lw_all := lw_g (lw_at lw_m1 125 rfl) rfl
theorem q203 : (Jvm.Cond.methodLink "ChordSheet" (50 : Nat) ({ cls := "java/util/ArrayList", name := "add", desc := "(Ljava/lang/Object;)Z" } : Jvm.MethodName)) ∈ lw_all := lw_g (lw_at lw_m1 141 rfl) rfl
theorem q322 : (Jvm.Cond.methodLink "ChordSheet" (155 : Nat) ({ cls := "ChordSheet$Reader", name := "sheet", desc := "()LChordSheet$Sheet;" } : Jvm.MethodName)) ∈ lw_all := lw_g (lw_at lw_m2 20 rfl) rfl
theorem q323 : (Jvm.Cond.instanceMethod ({ cls := "ChordSheet$Reader", name := "sheet", desc := "()LChordSheet$Sheet;" } : Jvm.MethodName)) ∈ lw_all := lw_g (lw_at lw_m2 21 rfl) rfl
theorem q324 : (Jvm.Cond.selects "ChordSheet$Reader" ({ cls := "ChordSheet$Reader", name := "sheet", desc := "()LChordSheet$Sheet;" } : Jvm.MethodName) ({ cls := "ChordSheet$Reader", name := "sheet", desc := "()LChordSheet$Sheet;" } : Jvm.MethodName)) ∈ lw_all := lw_g (lw_at lw_m2 22 rfl) rfl
theorem q325 : (Jvm.Cond.code ({ cls := "ChordSheet$Reader", name := "sheet", desc := "()LChordSheet$Sheet;" } : Jvm.MethodName) prog_4_method_9_code (4 : Nat) (Option.some (Jvm.ClassFile.FieldType.object "ChordSheet$Sheet"))) ∈ lw_all := lw_g (lw_at lw_m2 23 rfl) rfl
/-- a new sheet in the place of the one at hand, the text used up -/
theorem csW.rd {Γ : zCx} {h h1 h2 h3 : zH} {c : Nat} {A A1 : zWA} {σ τ : zSt} {x : zSA} {S : zSh} (hW : csW Γ h c A σ) (k1 : zkeep h h1 []) (hR : wR Γ h1 c A h2 A1 τ) (hx : shW Γ h1 x S) (hf : ∀ q ∈ fpS x, h q = none) (k3 : zkeep h2 h3 [c]) (hc : h3 c = some (true, .inr (0, [.ref A1.tx, .int (iI 0), .int (iI τ.si), .int (iI τ.fl), .int (iI τ.wd), .ref x.s, .ref A1.dq]))) (hS : shR S) : wR Γ h c A h3 (A1.tx, A1.dq, A1.de, x, A1.hs) ([], τ.si, τ.fl, τ.wd, S, τ.hi) := by
  obtain ⟨W1, k2, hfp⟩ := hR
  have hex := hW.ex
  have hxA : ∀ q ∈ fpS x, q ∉ fpW c A := fun q hq hz => by
    obtain ⟨y, hy⟩ := hex q hz
    rw [hf q hq] at hy; cases hy
  have hxA1 : ∀ q ∈ fpS x, q ∉ fpW c A1 := fun q hq hz => by
    rcases hfp q hz with g | g
    · exact hxA q hq g
    · obtain ⟨y, hy⟩ := hx.ex q hq
      rw [g] at hy; cases hy
  have hx2 : shW Γ h2 x S := hx.keep k2 hxA
  have hcA : c ∈ fpW c A1 := by simp [fpW]
  have hx3 : shW Γ h3 x S := hx2.keep k3 fun q hq hz => hxA1 q hq (List.mem_singleton.mp hz ▸ hcA)
  obtain ⟨⟨f, g1, g2, g3⟩, w2, w3, w4, w5, w6⟩ := W1
  have ha := fpW.apart w5
  have hn : A1.tx ∉ [c] ∧ A1.dq ∉ [c] ∧ A1.de ∉ [c] := by
    have h6 := w5
    unfold fpW at h6
    simp only [List.nodup_cons, List.mem_cons, not_or] at h6
    obtain ⟨⟨n0, n1, n2, -⟩, -⟩ := h6
    exact ⟨by simpa using Ne.symm n0, by simpa using Ne.symm n1, by simpa using Ne.symm n2⟩
  have e0 : fpW c A1 = [c, A1.tx, A1.dq, A1.de] ++ (fpS A1.cu ++ A1.hs.flatMap fpS) := rfl
  have e1 : fpW c (A1.tx, A1.dq, A1.de, x, A1.hs) = [c, A1.tx, A1.dq, A1.de] ++ (fpS x ++ A1.hs.flatMap fpS) := rfl
  refine ⟨⟨⟨f, hc, k3.n g2 hn.1, fun j d e => by simp [zSt.tx] at e⟩, w2.keep k3 hn.2.1 hn.2.2, hx3, w4.keep k3 fun y hy q hq => by simpa using (ha y (List.mem_cons_of_mem _ hy) q hq).1, ?_, ?_⟩, zkeep.loc (zkeep.loc (k1.mono (fun _ z => nomatch z)) k2 fun q hq => Or.inl (Or.inr hq)) k3 fun q hq => Or.inl (Or.inr (by rw [List.mem_singleton.mp hq]; simp [fpW])), fun q hq => ?_⟩
  · rw [e1]
    rw [e0] at w5
    obtain ⟨n1, n2, n3⟩ := List.nodup_append.mp w5
    obtain ⟨m1, m2, m3⟩ := List.nodup_append.mp n2
    refine List.nodup_append.mpr ⟨n1, List.nodup_append.mpr ⟨fpx_nd hx, m2, fun a ha b hb e => ?_⟩, fun a ha b hb => ?_⟩
    · exact hxA1 a ha (by rw [e0, e]; exact List.mem_append_right _ (List.mem_append_right _ hb))
    · rcases List.mem_append.mp hb with g | g
      · intro e
        exact hxA1 b g (by rw [e0, ← e]; exact List.mem_append_left _ ha)
      · exact n3 a ha b (List.mem_append_right _ g)
  · obtain ⟨r1, r2, r3, r4, r5, r6, r7, r8⟩ := w6
    exact ⟨r1, r2, r3, Nat.zero_le _, (fun _ z => nomatch z), hS, r7, r8⟩
  · rw [e1] at hq
    have key : ∀ q, q ∈ fpW c A1 → q ∈ fpW c A ∨ h q = none := fun q hq => by
      rcases hfp q hq with g | g
      · exact Or.inl g
      · exact Or.inr (k1.none0 g List.not_mem_nil)
    rcases List.mem_append.mp hq with g | g
    · exact key q (by rw [e0]; exact List.mem_append_left _ g)
    · rcases List.mem_append.mp g with g | g
      · exact Or.inr (hf q g)
      · exact key q (by rw [e0]; exact List.mem_append_right _ (List.mem_append_right _ g))
theorem rsh_r {T : List Int} (hT : T.length ≤ 200) : ∀ (f : Nat) (p : Int) (ls : List (List Int)) (cs : List zCh) (cur : List Int) (ls' : List (List Int)) (cs' : List zCh), 0 ≤ p → (T.length : Nat) - p < ((f : Nat) : Int) → p ≤ (T.length : Nat) → rvI p ls cs cur → rsh T f p ls cs cur = .inr (ls', cs') → cs'.length ≤ 40 ∧ (∀ c ∈ cs', crg c) ∧ lsm ls' + ls'.length + 3 * cs'.length ≤ T.length + 1 := by
  intro f
  induction f with
  | zero => intro p ls cs cur ls' cs' _ h2 h3; omega
  | succ f ih =>
    intro p ls cs cur ls' cs' h1 h2 h3 hv h
    by_cases hp : p < (T.length : Nat)
    · by_cases hb : tch T p = 93 ∨ (tch T p = 91 ∧ cs.length = 40)
      · rw [rsh_bad hp hb] at h; cases h
      · by_cases h91 : tch T p = 91
        · rcases hc : chp T (p + 1) 93 with x | ⟨rt, q, b, p'⟩
          · rw [rsh_cb hp hb h91 hc] at h; cases h
          · rw [rsh_co hp hb h91 hc] at h
            have hu := chp_u (by decide) hc
            have hr := chp_r (by omega) hc
            exact ih p' _ _ _ ls' cs' (by omega) (by omega) (by omega) (hv.ch (fun z => hb (Or.inr ⟨h91, z⟩)) (by omega) ⟨hr.1, hr.2.1, hr.2.2.1⟩) h
        · by_cases h47 : tch T p = 47
          · rw [rsh_sl hp hb h91 h47] at h
            exact ih _ _ _ _ ls' cs' (by omega) (by omega) (by omega) (hv.sl (by omega)) h
          · rw [rsh_le hp hb h91 h47] at h
            exact ih _ _ _ _ ls' cs' (by omega) (by omega) (by omega) (hv.le (by omega)) h
    · rw [rsh_end hp] at h
      cases h
      obtain ⟨v1, v2, v3, v4⟩ := hv
      refine ⟨v1, v2, ?_⟩
      rw [lsm_app]
      simp only [List.length_append, List.length_cons, List.length_nil]
      omega
theorem rsh_sh {T : List Int} (hT : T.length ≤ 200) {ls : List (List Int)} {cs : List zCh} (h : rsh T (T.length + 1) 0 [] [] [] = .inr (ls, cs)) : cs.length ≤ 40 ∧ (∀ c ∈ cs, crg c) ∧ lsm ls + ls.length + 3 * cs.length ≤ T.length + 1 := rsh_r hT (T.length + 1) 0 [] [] [] ls cs (by decide) (by omega) (by omega) ⟨by decide, (fun _ z => nomatch z), by decide, by decide⟩ h
theorem lgi_s (cs : List zCh) {md ad : Int} (hma : (md = 0 ∧ ad = 0) ∨ (md = 1 ∧ ad = 3)) : ∀ (f : Nat) (k : Int) (b : Int × Int), 0 ≤ k → k + (f : Nat) ≤ 13 → (-6 ≤ sgn b.1 b.2 ∧ sgn b.1 b.2 ≤ 6) → (-6 ≤ sgn (lgi cs md ad f k b).1 (lgi cs md ad f k b).2 ∧ sgn (lgi cs md ad f k b).1 (lgi cs md ad f k b).2 ≤ 6) := by
  intro f
  induction f with
  | zero => intro k b _ _ h; exact h
  | succ f ih =>
    intro k b hk hf h1
    simp only [lgi]
    have hs : -6 ≤ sgk k ∧ sgk k ≤ 6 := by unfold sgk; split <;> omega
    refine ih _ _ (by omega) (by omega) ?_
    split
    · show -6 ≤ sgn (sgk k + ad) md ∧ sgn (sgk k + ad) md ≤ 6
      unfold sgn
      split <;> omega
    · exact h1
theorem lik_s (cs : List zCh) : -6 ≤ sgn (lik cs).1 (lik cs).2 ∧ sgn (lik cs).1 (lik cs).2 ≤ 6 := by
  have h1 := lgi_s cs (md := 0) (ad := 0) (Or.inl ⟨rfl, rfl⟩) 13 0 (0, 0) (by decide) (by decide) (by decide)
  exact lgi_s cs (md := 1) (ad := 3) (Or.inr ⟨rfl, rfl⟩) 13 0 _ (by decide) (by decide) h1
/-- the sheet of a text -/
def shT (ls : List (List Int)) (cs : List zCh) : zSh := (ls, cs, (lik cs).1, (lik cs).2)
theorem shT_R {T : List Int} (hT : T.length ≤ 200) {ls : List (List Int)} {cs : List zCh} (h : rsh T (T.length + 1) 0 [] [] [] = .inr (ls, cs)) : shR (shT ls cs) := by
  have h1 := rsh_sh hT h
  refine ⟨h1.1, h1.2.1, ?_, fun l hl => ?_, (lik_r cs).1, (lik_r cs).2, lik_s cs⟩
  · show ls.length ≤ 201; omega
  · have hl : l ∈ ls := hl
    have := lsm_m hl
    show l.length ≤ 200
    have e : 1 ≤ ls.length := List.length_pos_of_mem hl
    omega
theorem fpW_new {c tx dq de s cq e : Nat} (n1 : c ≠ tx) (n2 : c ≠ dq) (n3 : c ≠ de) (n4 : c ≠ s) (n5 : c ≠ cq) (n6 : tx ≠ dq) (n7 : tx ≠ de) (n8 : tx ≠ s) (n9 : tx ≠ cq) (n10 : dq ≠ de) (n11 : dq ≠ s) (n12 : dq ≠ cq) (n13 : de ≠ s) (n14 : de ≠ cq) (n15 : s ≠ cq) : (fpW c (tx, dq, de, (s, cq, e, 0), [])).Nodup := by
  simp [fpW, fpS, zWA.tx, zWA.dq, zWA.de, zWA.cu, zWA.hs, zSA.s, zSA.cq, zSA.cap, n1, n2, n3, n4, n5, n6, n7, n8, n9, n10, n11, n12, n13, n14, n15]
def st0 : zSt := ([], 1, 0, 200, ([[]], [], 0, 0), [])
theorem st0_R : stR st0 := ⟨Or.inr rfl, Or.inl rfl, by decide, by decide, (fun _ z => nomatch z), ⟨by decide, (fun _ z => nomatch z), by decide, (fun l hl => by rw [List.mem_singleton.mp hl]; decide), by decide, Or.inl rfl, by decide⟩, (fun _ z => nomatch z), by decide⟩
set_option maxHeartbeats 4000000 in
theorem op_read {l : Launch} (hl : l.stackTraces = false) {Γ : zCx} {h : zH} {c : Nat} {A : zWA} {σ : zSt} (hW : csW Γ h c A σ)  : zMet l yX1_read (wsW_ yX1_read cX1_read 3 (some .int) [(0, 12, 15, 157)]) ({ frames := 9, cells := (1301 + (3 + bLC 0 σ.sh.ls.length + bLC 0 σ.sh.cs.length)), slots := (8802 + (9 + bLS 0 σ.sh.ls.length + bLS 0 σ.sh.cs.length)), locals := 205 }) Γ h [.ref c] (zrt (fun w h' => (∃ ls cs, rsh σ.tx (σ.tx.length + 1) 0 [] [] [] = .inr (ls, cs) ∧ w = some (.int (iI (cs.length : Nat))) ∧ ∃ A', wR Γ h c A h' A' ([], σ.kp.si, σ.kp.fl, σ.kp.wd, shT ls cs, σ.kp.hi)) ∨ (∃ y, rsh σ.tx (σ.tx.length + 1) 0 [] [] [] = .inl y ∧ w = some (.int (iI (-1 - y))) ∧ csW Γ h' c A σ ∧ zkeep h h' []))) (1301 + (3 + bLC 0 σ.sh.ls.length + bLC 0 σ.sh.cs.length)) (8802 + (9 + bLS 0 σ.sh.ls.length + bLS 0 σ.sh.cs.length)) := by
  refine zMet.ofH (cc := cX1_read) hl (by decide +kernel) (Nat.le_of_ble_eq_true rfl) ?_
  intro X hXl hXΓ hXp C hnm hnL
  have C : zC X cX1_read RX1 (some .int) 9 205 (tableOf [(0, 12, 15, 157)]) := C
  have hnL : X.2.1.2.2.2.2 = 3 := hnL
  subst hXl hXΓ
  show Z X h (1301 + (3 + bLC 0 σ.sh.ls.length + bLC 0 σ.sh.cs.length)) (8802 + (9 + bLS 0 σ.sh.ls.length + bLS 0 σ.sh.cs.length)) [(0, .ref c)] 0 []
  obtain ⟨⟨tf, hc0, htx, hch⟩, hdq, ⟨lq, kq, lys, ys, hsx, hfl, hls, hl0, hyc, hkx⟩, hhi, hnd, hR⟩ := id hW
  obtain ⟨rsi, rff, rwd, rtl, rtx, rsh, rhi, rhl⟩ := id hR
  obtain ⟨rcl, rcr, rll, rlt, rkt, rkm, rks⟩ := rsh
  have hll := hls.len
  have hyl := hyc.len
  obtain ⟨lm, le0, ln0, lf, hlq, hle, hln, hlN, hlx⟩ := id hfl
  have hxw := hl0
  obtain ⟨mw, fw, law, lew, lzw, ltw, lnw, lcw, lxw, lqw⟩ := hxw
  have hcl := hyc.cl lxw
  have rtl0 := rtl
  refine z_new (pc := 0) (ci := 4) (kc' := ((1301 + (3 + bLC 0 σ.sh.ls.length + bLC 0 σ.sh.cs.length)) - 1)) (ks' := ((8802 + (9 + bLS 0 σ.sh.ls.length + bLS 0 σ.sh.cs.length)) - 2)) (fs := [.int (iI 0), .null]) C in_X5 tyX5 tyX5_ok rfl q309 q310 q80 df_X5 (by omega) (by omega) dX1_read_0 (fun a1 fa1 => ?_)
  refine Z.nm (fun h2 eh2 => ?_)
  have na1 : h a1 = none := fa1
  have kh2 : zkeep h h2 [] := by rw [eh2]; exact zkeep.born zkeep.rf fa1
  have fh2_0 : h2 a1 = some (true, .inr (4, [.int (iI 0), .null])) := zse eh2
  refine z_dup (pc := 3) C dX1_read_3 rfl ?_
  refine z_aload_n (pc := 4) (j := 0) C dX1_read_4 rfl rfl ?_
  refine z_callIN (pc := 5) (n := 1) (kc' := ((1301 + (3 + bLC 0 σ.sh.ls.length + bLC 0 σ.sh.cs.length)) - 1)) (ks' := ((8802 + (9 + bLS 0 σ.sh.ls.length + bLS 0 σ.sh.cs.length)) - 2)) C (ct_R_init C.t fh2_0 (c := c)) q313 q311 q80 q312 rfl (by decide +kernel) ⟨by decide, by decide⟩ rfl rfl (Nat.le_of_ble_eq_true rfl) dX1_read_5 (by omega) (by omega) (zrk fun w h3 hp => ?_) zrx
  obtain ⟨rfl, fq4, k5⟩ := hp
  have kh3 : zkeep h h3 [] := zkeep.loc kh2 k5 (zall_cons (Or.inl (Or.symm (Or.inr na1))) zall_nil)
  show Z X h3 ((1301 + (3 + bLC 0 σ.sh.ls.length + bLC 0 σ.sh.cs.length)) - 1) ((8802 + (9 + bLS 0 σ.sh.ls.length + bLS 0 σ.sh.cs.length)) - 2) [(0, .ref c)] 8 [.ref a1]
  refine z_callV (pc := 8) (n := 0) (kc' := (((1301 + (3 + bLC 0 σ.sh.ls.length + bLC 0 σ.sh.cs.length)) - 1) - 1300)) (ks' := (((8802 + (9 + bLS 0 σ.sh.ls.length + bLS 0 σ.sh.cs.length)) - 2) - 8800)) C (ct_R_sheet C.t fq4 (kh3.n hc0 List.not_mem_nil) (kh3.n htx List.not_mem_nil) hch rtx rtl) (lw_V q322 q323 q324 q80 q325) (by decide +kernel) ⟨by decide, by decide⟩ fq4 rfl rfl rfl (Nat.le_of_ble_eq_true rfl) dX1_read_8 (by omega) (by omega) (zbk fun w h6 hp => ?_) (zbx fun q8 h7 hp => ?_)
  · obtain ⟨ls_9, cs_9, x_9, hrs_9, -, rfl, hxw_9, hxn_9, k10⟩ := hp
    have hxm_9 : ∀ q ∈ fpS x_9, h q = none := fun q hq => kh3.none0 (hxn_9 q hq) List.not_mem_nil
    have kh6 : zkeep h h6 [] := zkeep.loc kh3 k10 (zall_cons (Or.inl (Or.symm (Or.inr na1))) zall_nil)
    show Z X h6 (((1301 + (3 + bLC 0 σ.sh.ls.length + bLC 0 σ.sh.cs.length)) - 1) - 1300) (((8802 + (9 + bLS 0 σ.sh.ls.length + bLS 0 σ.sh.cs.length)) - 2) - 8800) [(0, .ref c)] 11 [.ref x_9.s]
    refine z_astore_n (pc := 11) (L' := [(1, .ref x_9.s), (0, .ref c)]) C dX1_read_11 rfl (by rw [hnL]; decide) rfl ?_
    refine z_goto (pc := 12) (tgt := 23) C dX1_read_12 (by decide) ?_
    refine z_aload_n (pc := 23) (j := 1) C dX1_read_23 rfl rfl ?_
    refine z_callV (pc := 24) (n := 0) (kc' := ((((1301 + (3 + bLC 0 σ.sh.ls.length + bLC 0 σ.sh.cs.length)) - 1) - 1300) - (3 + bLC 0 σ.sh.ls.length + bLC 0 σ.sh.cs.length))) (ks' := ((((8802 + (9 + bLS 0 σ.sh.ls.length + bLS 0 σ.sh.cs.length)) - 2) - 8800) - (9 + bLS 0 σ.sh.ls.length + bLS 0 σ.sh.cs.length))) C (op_keep C.t (hW.keep0 kh6)) (lw_V q931 q933 qs10 q63 q934) (by decide +kernel) ⟨by decide, by decide⟩ (kh6.n hc0 List.not_mem_nil) rfl rfl rfl (Nat.le_of_ble_eq_true rfl) dX1_read_24 (by omega) (by omega) (zrk fun w h11 hp => ?_) zrx
    obtain ⟨rfl, A_12, hR_12, hcu_12⟩ := hp
    have hW_12 := hR_12.1
    have hk_12 := hR_12.2.1
    obtain ⟨⟨tf, hc0, htx, hch⟩, hdq, ⟨lq, kq, lys, ys, hsx, hfl, hls, hl0, hyc, hkx⟩, hhi, hnd, hR⟩ := id hW_12
    obtain ⟨rsi, rff, rwd, rtl, rtx, rsh, rhi, rhl⟩ := id hR
    obtain ⟨rcl, rcr, rll, rlt, rkt, rkm, rks⟩ := rsh
    have hll := hls.len
    have hyl := hyc.len
    obtain ⟨lm, le0, ln0, lf, hlq, hle, hln, hlN, hlx⟩ := id hfl
    have hxw := hl0
    obtain ⟨mw, fw, law, lew, lzw, ltw, lnw, lcw, lxw, lqw⟩ := hxw
    have hcl := hyc.cl lxw
    show Z X h11 ((((1301 + (3 + bLC 0 σ.sh.ls.length + bLC 0 σ.sh.cs.length)) - 1) - 1300) - (3 + bLC 0 σ.sh.ls.length + bLC 0 σ.sh.cs.length)) ((((8802 + (9 + bLS 0 σ.sh.ls.length + bLS 0 σ.sh.cs.length)) - 2) - 8800) - (9 + bLS 0 σ.sh.ls.length + bLS 0 σ.sh.cs.length)) [(1, .ref x_9.s), (0, .ref c)] 27 []
    have hxA_9 : ∀ q ∈ fpS x_9, q ∉ fpW c A := fun q hq hz => by
      obtain ⟨y, hy⟩ := hW.ex q hz
      have hy2 := hxm_9 q hq
      rw [hy] at hy2; cases hy2
    obtain ⟨zlq, zkq, zlys, zys, zs1, zs2, zs3, zs4, zs5, zs6⟩ := hxw_9.keep hR_12.2.1 hxA_9
    have zyl := zs5.len
    obtain ⟨zm, zf, zla, -⟩ := id zs4
    refine z_aload_n (pc := 27) (j := 1) C dX1_read_27 rfl rfl ?_
    refine z_aload_n (pc := 28) (j := 0) C dX1_read_28 rfl rfl ?_
    refine z_putfield (pc := 29) (fs' := [.ref A_12.tx, .int (iI ((σ.kp.tx.length : Nat) : Int)), .int (iI σ.kp.si), .int (iI σ.kp.fl), .int (iI σ.kp.wd), .ref x_9.s, .ref A_12.dq]) C in_X1 tyX1 tyX1_ok nmX1 rfl 5 (by decide) q282 (fun _ z => z) rfl rfl rfl (Nat.le_of_ble_eq_true rfl) hc0 rfl dX1_read_29 ?_
    refine Z.nm (fun h13 eh13 => ?_)
    have kh13 : zkeep h11 h13 [c] := by rw [eh13]; exact zkeep.up zkeep.rf (Or.inl (by simp)) hc0
    have fh13_0 : h13 c = some (true, .inr (0, [.ref A_12.tx, .int (iI ((σ.kp.tx.length : Nat) : Int)), .int (iI σ.kp.si), .int (iI σ.kp.fl), .int (iI σ.kp.wd), .ref x_9.s, .ref A_12.dq])) := zse eh13
    have fh13_1 : h13 x_9.s = some (true, .inr (1, [.ref zlq, .ref x_9.cq, .ref zkq])) := zsn eh13 zs1 (zneC zs1 hc0 (by decide))
    have fh13_2 : h13 x_9.cq = some (true, .inr (10, [.int (iI zm), .ref x_9.e, .int (iI ((zys.length : Nat) : Int))])) := zsn eh13 zla (zneC zla hc0 (by decide))
    refine z_aload_n (pc := 32) (j := 1) C dX1_read_32 rfl rfl ?_
    refine z_iconst (pc := 33) C dX1_read_33 ?_
    refine z_putfield (pc := 34) (fs' := [.ref A_12.tx, .int (iI 0), .int (iI σ.kp.si), .int (iI σ.kp.fl), .int (iI σ.kp.wd), .ref x_9.s, .ref A_12.dq]) C in_X1 tyX1 tyX1_ok nmX1 rfl 1 (by decide) q276 (fun _ z => z) rfl rfl rfl (Nat.le_of_ble_eq_true rfl) fh13_0 rfl dX1_read_34 ?_
    refine Z.nm (fun h14 eh14 => ?_)
    have kh14 : zkeep h11 h14 [c] := by rw [eh14]; exact zkeep.up kh13 (Or.inl (by simp)) fh13_0
    have fh14_0 : h14 c = some (true, .inr (0, [.ref A_12.tx, .int (iI 0), .int (iI σ.kp.si), .int (iI σ.kp.fl), .int (iI σ.kp.wd), .ref x_9.s, .ref A_12.dq])) := zse eh14
    have fh14_1 : h14 x_9.s = some (true, .inr (1, [.ref zlq, .ref x_9.cq, .ref zkq])) := zsn eh14 fh13_1 (zneC fh13_1 fh13_0 (by decide))
    have fh14_2 : h14 x_9.cq = some (true, .inr (10, [.int (iI zm), .ref x_9.e, .int (iI ((zys.length : Nat) : Int))])) := zsn eh14 fh13_2 (zneC fh13_2 fh13_0 (by decide))
    refine z_aload_n (pc := 37) (j := 1) C dX1_read_37 rfl rfl ?_
    refine z_getfield (pc := 38) (v := .ref x_9.s) C in_X1 rfl 5 (by decide) q282 (fun _ z => z) fh14_0 rfl dX1_read_38 ?_
    refine z_getfieldN (pc := 41) (v := .ref x_9.cq) C in_X2 rfl 1 (by decide) q172 (fun _ z => z) fh14_1 rfl dX1_read_41 ?_
    refine z_callV (pc := 44) (n := 0) (kc' := ((((1301 + (3 + bLC 0 σ.sh.ls.length + bLC 0 σ.sh.cs.length)) - 1) - 1300) - (3 + bLC 0 σ.sh.ls.length + bLC 0 σ.sh.cs.length))) (ks' := ((((8802 + (9 + bLS 0 σ.sh.ls.length + bLS 0 σ.sh.cs.length)) - 2) - 8800) - (9 + bLS 0 σ.sh.ls.length + bLS 0 σ.sh.cs.length))) C (ct_L_size C.t fh14_2) (lw_V q995 q367 q368 q68 q369) (by decide +kernel) ⟨by decide, by decide⟩ fh14_2 rfl rfl rfl (Nat.le_of_ble_eq_true rfl) dX1_read_44 (by omega) (by omega) (zpk (st' := [.int (iI ((zys.length : Nat) : Int))]) rfl ?_) zrx
    exact z_ireturn (pc := 47) C (by rw [hXp]; exact ⟨_, rfl, Or.inl ⟨ls_9, cs_9, hrs_9, (by rw [zyl]; rfl), _, csW.rd hW kh6 hR_12 hxw_9 hxm_9 kh14 fh14_0 (shT_R rtl0 hrs_9)⟩⟩) dX1_read_47
  · obtain ⟨y_15, hrs_15, hte_15, fq8, k16⟩ := hp
    have kh7 : zkeep h h7 [] := zkeep.loc kh3 k16 (zall_cons (Or.inl (Or.symm (Or.inr na1))) zall_nil)
    refine zx_catch C [] _ [] rfl (fun z hz => nomatch hz) (by decide) (by decide) q308 q372 ?_
    show Z X h7 (((1301 + (3 + bLC 0 σ.sh.ls.length + bLC 0 σ.sh.cs.length)) - 1) - 1300) (((8802 + (9 + bLS 0 σ.sh.ls.length + bLS 0 σ.sh.cs.length)) - 2) - 8800) [(0, .ref c)] 15 [.ref q8]
    refine z_astore_n (pc := 15) (L' := [(2, .ref q8), (0, .ref c)]) C dX1_read_15 rfl (by rw [hnL]; decide) rfl ?_
    refine z_iconst (pc := 16) C dX1_read_16 ?_
    refine z_aload_n (pc := 17) (j := 0) C dX1_read_17 rfl rfl ?_
    refine z_getfieldN (pc := 18) (v := .int (iI y_15)) C in_X6 rfl 6 (by decide) q422 (fun _ z => z) hte_15 rfl dX1_read_18 ?_
    refine z_isub (pc := 21) C dX1_read_21 ?_
    exact z_ireturn (pc := 22) C (by rw [hXp]; exact ⟨_, rfl, Or.inr ⟨y_15, hrs_15, rfl, hW.keep0 kh7, kh7⟩⟩) dX1_read_22
set_option maxHeartbeats 4000000 in
theorem ct_CS_init {l : Launch} (hl : l.stackTraces = false) {Γ : zCx} {h : zH} {c : Nat} (hc : h c = some (true, .inr (0, [.null, .int (iI 0), .int (iI 0), .int (iI 0), .int (iI 0), .null, .null])))  : zMet l yX1_init (ws_ yX1_init cX1_init 1 none) ({ frames := 7, cells := 20, slots := 260, locals := 152 }) Γ h [.ref c] (zrt (fun w h' => w = none ∧ ∃ A, csW Γ h' c A st0 ∧ zkeep h h' [c] ∧ ∀ q ∈ fpW c A, q = c ∨ h q = none)) 20 260 := by
  refine zMet.of (cc := cX1_init) hl (plainFor_of_name (by decide +kernel)) (Nat.le_of_ble_eq_true rfl) ?_
  intro X hXl hXΓ hXp C hnm hnL
  have C : zC X cX1_init RX1 none 7 152 [] := C
  have hnL : X.2.1.2.2.2.2 = 1 := hnL
  subst hXl hXΓ
  show Z X h 20 260 [(0, .ref c)] 0 []
  refine z_aload_n (pc := 0) (j := 0) C dX1_init_0 rfl rfl ?_
  refine z_objInit (pc := 1) C q112 q113 q114 (by decide) (by decide) dX1_init_1 ?_
  refine z_aload_n (pc := 4) (j := 0) C dX1_init_4 rfl rfl ?_
  refine z_sipush (pc := 5) C dX1_init_5 (by decide) ?_
  refine z_newarray (pc := 8) (kc' := 19) (ks' := 60) (ty := .char) C rfl q134 (by omega) (by simp [componentBytes] <;> omega) (by omega) (by omega) (by simp) dX1_init_8 (fun a1 fa1 => ?_)
  refine Z.nm (fun h2 eh2 => ?_)
  have na1 : h a1 = none := fa1
  have kh2 : zkeep h h2 [c] := by rw [eh2]; exact zkeep.born zkeep.rf fa1
  have fh2_0 : h2 a1 = some (true, .inl (.char, 200, fun _ => .int (iI 0))) := zse eh2
  have fh2_1 : h2 c = some (true, .inr (0, [.null, .int (iI 0), .int (iI 0), .int (iI 0), .int (iI 0), .null, .null])) := zsn eh2 hc (zneF hc fa1)
  refine z_putfieldF (pc := 10) (fs' := [.ref a1, .int (iI 0), .int (iI 0), .int (iI 0), .int (iI 0), .null, .null]) C hnm in_X1 tyX1 tyX1_ok nmX1 rfl 0 (by decide) q273 (fun _ z => z) rfl rfl rfl rfl (Nat.le_of_ble_eq_true rfl) fh2_1 rfl dX1_init_10 ?_
  refine Z.nm (fun h3 eh3 => ?_)
  have kh3 : zkeep h h3 [c] := by rw [eh3]; exact zkeep.up kh2 (Or.inl (by simp)) fh2_1
  have fh3_0 : h3 c = some (true, .inr (0, [.ref a1, .int (iI 0), .int (iI 0), .int (iI 0), .int (iI 0), .null, .null])) := zse eh3
  have fh3_1 : h3 a1 = some (true, .inl (.char, 200, fun _ => .int (iI 0))) := zsn eh3 fh2_0 (Ne.symm (zneF hc fa1))
  refine z_aload_n (pc := 13) (j := 0) C dX1_init_13 rfl rfl ?_
  refine z_iconst (pc := 14) C dX1_init_14 ?_
  refine z_putfield (pc := 15) (fs' := [.ref a1, .int (iI 0), .int (iI 1), .int (iI 0), .int (iI 0), .null, .null]) C in_X1 tyX1 tyX1_ok nmX1 rfl 2 (by decide) q277 (fun _ z => z) rfl (by decide) (by decide) (Nat.le_of_ble_eq_true rfl) fh3_0 rfl dX1_init_15 ?_
  refine Z.nm (fun h4 eh4 => ?_)
  have kh4 : zkeep h h4 [c] := by rw [eh4]; exact zkeep.up kh3 (Or.inl (by simp)) fh3_0
  have fh4_0 : h4 c = some (true, .inr (0, [.ref a1, .int (iI 0), .int (iI 1), .int (iI 0), .int (iI 0), .null, .null])) := zse eh4
  have fh4_1 : h4 a1 = some (true, .inl (.char, 200, fun _ => .int (iI 0))) := zsn eh4 fh3_1 (Ne.symm (zneF hc fa1))
  refine z_aload_n (pc := 18) (j := 0) C dX1_init_18 rfl rfl ?_
  refine z_sipush (pc := 19) C dX1_init_19 (by decide) ?_
  refine z_putfield (pc := 22) (fs' := [.ref a1, .int (iI 0), .int (iI 1), .int (iI 0), .int (iI 200), .null, .null]) C in_X1 tyX1 tyX1_ok nmX1 rfl 4 (by decide) q279 (fun _ z => z) rfl rfl rfl (Nat.le_of_ble_eq_true rfl) fh4_0 rfl dX1_init_22 ?_
  refine Z.nm (fun h5 eh5 => ?_)
  have kh5 : zkeep h h5 [c] := by rw [eh5]; exact zkeep.up kh4 (Or.inl (by simp)) fh4_0
  have fh5_0 : h5 c = some (true, .inr (0, [.ref a1, .int (iI 0), .int (iI 1), .int (iI 0), .int (iI 200), .null, .null])) := zse eh5
  have fh5_1 : h5 a1 = some (true, .inl (.char, 200, fun _ => .int (iI 0))) := zsn eh5 fh4_1 (Ne.symm (zneF hc fa1))
  refine z_aload_n (pc := 25) (j := 0) C dX1_init_25 rfl rfl ?_
  refine z_new (pc := 26) (ci := 1) (kc' := 18) (ks' := 57) (fs := [.null, .null, .null]) C in_X2 tyX2 tyX2_ok rfl q115 q116 q64 df_X2 (by omega) (by omega) dX1_init_26 (fun a6 fa6 => ?_)
  refine Z.nm (fun h7 eh7 => ?_)
  have na6 : h a6 = none := kh5.none0 fa6 (List.not_mem_cons_of_ne_of_not_mem (Ne.symm (zneF fh5_0 fa6)) List.not_mem_nil)
  have kh7 : zkeep h h7 [c] := by rw [eh7]; exact zkeep.born kh5 fa6
  have fh7_0 : h7 a6 = some (true, .inr (1, [.null, .null, .null])) := zse eh7
  have fh7_1 : h7 a1 = some (true, .inl (.char, 200, fun _ => .int (iI 0))) := zsn eh7 fh5_1 (zneF fh5_1 fa6)
  have fh7_2 : h7 c = some (true, .inr (0, [.ref a1, .int (iI 0), .int (iI 1), .int (iI 0), .int (iI 200), .null, .null])) := zsn eh7 fh5_0 (zneF fh5_0 fa6)
  refine z_dup (pc := 29) C dX1_init_29 rfl ?_
  refine z_new (pc := 30) (ci := 2) (kc' := 17) (ks' := 55) (fs := [.int (iI 0), .int (iI 0)]) C in_X3 tyX3 tyX3_ok rfl q117 q118 q65 df_X3 (by omega) (by omega) dX1_init_30 (fun a8 fa8 => ?_)
  refine Z.nm (fun h9 eh9 => ?_)
  have na8 : h a8 = none := kh7.none0 fa8 (List.not_mem_cons_of_ne_of_not_mem (Ne.symm (zneF fh7_2 fa8)) List.not_mem_nil)
  have kh9 : zkeep h h9 [c] := by rw [eh9]; exact zkeep.born kh7 fa8
  have fh9_0 : h9 a8 = some (true, .inr (2, [.int (iI 0), .int (iI 0)])) := zse eh9
  have fh9_1 : h9 a1 = some (true, .inl (.char, 200, fun _ => .int (iI 0))) := zsn eh9 fh7_1 (zneF fh7_1 fa8)
  have fh9_2 : h9 c = some (true, .inr (0, [.ref a1, .int (iI 0), .int (iI 1), .int (iI 0), .int (iI 200), .null, .null])) := zsn eh9 fh7_2 (zneF fh7_2 fa8)
  have fh9_3 : h9 a6 = some (true, .inr (1, [.null, .null, .null])) := zsn eh9 fh7_0 (zneF fh7_0 fa8)
  refine z_dup (pc := 33) C dX1_init_33 rfl ?_
  refine z_iconst (pc := 34) C dX1_init_34 ?_
  refine z_iconst (pc := 35) C dX1_init_35 ?_
  refine z_callI (pc := 36) (n := 2) (kc' := 17) (ks' := 55) C (ct_K_init C.t (t := 0) (m := 0) fh9_0 (by omega)) q121 q65 q119 q120 rfl (by decide +kernel) ⟨by decide, by decide⟩ rfl rfl (Nat.le_of_ble_eq_true rfl) dX1_init_36 (by omega) (by omega) (zrk fun w h10 hp => ?_) zrx
  obtain ⟨rfl, fq11, k12⟩ := hp
  have kh10 : zkeep h h10 [c] := zkeep.loc kh9 k12 (zall_cons (Or.inl (Or.symm (Or.inr na8))) zall_nil)
  have fh10_1 : h10 a1 = some (true, .inl (.char, 200, fun _ => .int (iI 0))) := k12.n fh9_1 (List.not_mem_cons_of_ne_of_not_mem (zneF fh7_1 fa8) List.not_mem_nil)
  have fh10_2 : h10 c = some (true, .inr (0, [.ref a1, .int (iI 0), .int (iI 1), .int (iI 0), .int (iI 200), .null, .null])) := k12.n fh9_2 (List.not_mem_cons_of_ne_of_not_mem (zneF fh7_2 fa8) List.not_mem_nil)
  have fh10_3 : h10 a6 = some (true, .inr (1, [.null, .null, .null])) := k12.n fh9_3 (List.not_mem_cons_of_ne_of_not_mem (zneF fh7_0 fa8) List.not_mem_nil)
  show Z X h10 17 55 [(0, .ref c)] 39 [.ref a8, .ref a6, .ref a6, .ref c]
  refine z_callI (pc := 39) (n := 1) (kc' := 15) (ks' := 49) C (ct_S_init C.t fh10_3 (kq := a8)) q137 q64 q135 q136 rfl (by decide +kernel) ⟨by decide, by decide⟩ rfl rfl (Nat.le_of_ble_eq_true rfl) dX1_init_39 (by omega) (by omega) (zrk fun w h13 hp => ?_) zrx
  obtain ⟨rfl, lq_15, cq_15, fs16, hllq_15, hlcq_15, flq_15, fcq_15, hne_15, k14⟩ := hp
  have nlq_15 : h lq_15 = none := kh10.none0 flq_15 (List.not_mem_cons_of_ne_of_not_mem (Ne.symm (zneF fh10_2 flq_15)) List.not_mem_nil)
  have ncq_15 : h cq_15 = none := kh10.none0 fcq_15 (List.not_mem_cons_of_ne_of_not_mem (Ne.symm (zneF fh10_2 fcq_15)) List.not_mem_nil)
  have kh13 : zkeep h h13 [c] := zkeep.loc kh10 k14 (zall_cons (Or.inl (Or.symm (Or.inr na6))) zall_nil)
  have fh13_1 : h13 a1 = some (true, .inl (.char, 200, fun _ => .int (iI 0))) := k14.n fh10_1 (List.not_mem_cons_of_ne_of_not_mem (zneF fh5_1 fa6) List.not_mem_nil)
  have fh13_2 : h13 c = some (true, .inr (0, [.ref a1, .int (iI 0), .int (iI 1), .int (iI 0), .int (iI 200), .null, .null])) := k14.n fh10_2 (List.not_mem_cons_of_ne_of_not_mem (zneF fh5_0 fa6) List.not_mem_nil)
  have fh13_3 : h13 a8 = some (false, .inr (2, [.int (iI 0), .int (iI 0)])) := k14.f fq11
  have hx_17 := hllq_15
  obtain ⟨m_17, f_17, la_17, le_17, lz_17, lt_17, ln_17, lc_17, lx_17, lq_17⟩ := hx_17
  have le_17 : h13 (X.Γ.2.2.2 0) = some (false, .inl (.object "java/lang/Object", 0, f_17)) := le_17
  have hx_18 := hlcq_15
  obtain ⟨m_18, f_18, la_18, le_18, lz_18, lt_18, ln_18, lc_18, lx_18, lq_18⟩ := hx_18
  have le_18 : h13 (X.Γ.2.2.2 0) = some (false, .inl (.object "java/lang/Object", 0, f_18)) := le_18
  show Z X h13 15 49 [(0, .ref c)] 42 [.ref a6, .ref c]
  refine z_putfield (pc := 42) (fs' := [.ref a1, .int (iI 0), .int (iI 1), .int (iI 0), .int (iI 200), .ref a6, .null]) C in_X1 tyX1 tyX1_ok nmX1 rfl 5 (by decide) q282 (fun _ z => z) rfl rfl rfl (Nat.le_of_ble_eq_true rfl) fh13_2 rfl dX1_init_42 ?_
  refine Z.nm (fun h19 eh19 => ?_)
  have kh19 : zkeep h h19 [c] := by rw [eh19]; exact zkeep.up kh13 (Or.inl (by simp)) fh13_2
  have fh19_0 : h19 c = some (true, .inr (0, [.ref a1, .int (iI 0), .int (iI 1), .int (iI 0), .int (iI 200), .ref a6, .null])) := zse eh19
  have fh19_1 : h19 a1 = some (true, .inl (.char, 200, fun _ => .int (iI 0))) := zsn eh19 fh13_1 (Ne.symm (zneF hc fa1))
  have fh19_2 : h19 a8 = some (false, .inr (2, [.int (iI 0), .int (iI 0)])) := zsn eh19 fh13_3 (Ne.symm (zneF fh7_2 fa8))
  have fh19_3 : h19 a6 = some (true, .inr (1, [.ref lq_15, .ref cq_15, .ref a8])) := zsn eh19 fs16 (Ne.symm (zneF fh5_0 fa6))
  have fh19_4 : h19 lq_15 = some (true, .inr (10, [.int (iI m_17), .ref (X.Γ.2.2.2 0), .int (iI ((([] : List Nat).length : Nat) : Int))])) := zsn eh19 la_17 (zneC la_17 fh13_2 (by decide))
  have fh19_5 : h19 (X.Γ.2.2.2 0) = some (false, .inl ((.object "java/lang/Object"), 0, f_18)) := zsn eh19 le_18 (zneW le_18 fh13_2)
  have fh19_6 : h19 cq_15 = some (true, .inr (10, [.int (iI m_18), .ref (X.Γ.2.2.2 0), .int (iI ((([] : List Nat).length : Nat) : Int))])) := zsn eh19 la_18 (zneC la_18 fh13_2 (by decide))
  have sh19 : zkeep h13 h19 [c] := zkeep.one eh19 fh13_2
  have ph19_1 : ∀ q ∈ ([] : List Nat), zel h19 q := zels.keep sh19 lq_17
  have ph19_2 : ∀ q ∈ ([] : List Nat), zel h19 q := zels.keep sh19 lq_18
  refine z_aload_n (pc := 45) (j := 0) C dX1_init_45 rfl rfl ?_
  refine z_new (pc := 46) (ci := 11) (kc' := 14) (ks' := 46) (fs := [.null, .int (iI 0), .int (iI 0)]) C in_J3 tyJ3 tyJ3_ok rfl q183 q184 q69 df_J3 (by omega) (by omega) dX1_init_46 (fun a20 fa20 => ?_)
  refine Z.nm (fun h21 eh21 => ?_)
  have na20 : h a20 = none := kh19.none0 fa20 (List.not_mem_cons_of_ne_of_not_mem (Ne.symm (zneF fh19_0 fa20)) List.not_mem_nil)
  have kh21 : zkeep h h21 [c] := by rw [eh21]; exact zkeep.born kh19 fa20
  have fh21_0 : h21 a20 = some (true, .inr (11, [.null, .int (iI 0), .int (iI 0)])) := zse eh21
  have fh21_1 : h21 a1 = some (true, .inl (.char, 200, fun _ => .int (iI 0))) := zsn eh21 fh19_1 (zneF fh19_1 fa20)
  have fh21_2 : h21 a8 = some (false, .inr (2, [.int (iI 0), .int (iI 0)])) := zsn eh21 fh19_2 (zneF fh19_2 fa20)
  have fh21_3 : h21 a6 = some (true, .inr (1, [.ref lq_15, .ref cq_15, .ref a8])) := zsn eh21 fh19_3 (zneF fh19_3 fa20)
  have fh21_4 : h21 lq_15 = some (true, .inr (10, [.int (iI m_17), .ref (X.Γ.2.2.2 0), .int (iI ((([] : List Nat).length : Nat) : Int))])) := zsn eh21 fh19_4 (zneF fh19_4 fa20)
  have fh21_5 : h21 (X.Γ.2.2.2 0) = some (false, .inl ((.object "java/lang/Object"), 0, f_18)) := zsn eh21 fh19_5 (zneF fh19_5 fa20)
  have fh21_6 : h21 cq_15 = some (true, .inr (10, [.int (iI m_18), .ref (X.Γ.2.2.2 0), .int (iI ((([] : List Nat).length : Nat) : Int))])) := zsn eh21 fh19_6 (zneF fh19_6 fa20)
  have fh21_7 : h21 c = some (true, .inr (0, [.ref a1, .int (iI 0), .int (iI 1), .int (iI 0), .int (iI 200), .ref a6, .null])) := zsn eh21 fh19_0 (zneF fh19_0 fa20)
  have sh21 : zkeep h19 h21 [] := zkeep.one0 eh21 fa20
  have ph21_1 : ∀ q ∈ ([] : List Nat), zel h21 q := zels.keep sh21 ph19_1
  have ph21_2 : ∀ q ∈ ([] : List Nat), zel h21 q := zels.keep sh21 ph19_2
  refine z_dup (pc := 49) C dX1_init_49 rfl ?_
  refine z_bipush (pc := 50) C dX1_init_50 (by decide) ?_
  refine z_callI (pc := 52) (n := 1) (kc' := 13) (ks' := 36) C (ct_D_init C.t fh21_0) q187 q69 q185 q186 rfl (by decide +kernel) ⟨by decide, by decide⟩ rfl rfl (Nat.le_of_ble_eq_true rfl) dX1_init_52 (by omega) (by omega) (zrk fun w h22 hp => ?_) zrx
  obtain ⟨rfl, e23, hd24, fe23, k25⟩ := hp
  have ne23 : h e23 = none := kh21.none0 fe23 (List.not_mem_cons_of_ne_of_not_mem (Ne.symm (zneF fh21_7 fe23)) List.not_mem_nil)
  have kh22 : zkeep h h22 [c] := zkeep.loc kh21 k25 (zall_cons (Or.inl (Or.symm (Or.inr na20))) zall_nil)
  have fh22_1 : h22 a1 = some (true, .inl (.char, 200, fun _ => .int (iI 0))) := k25.n fh21_1 (List.not_mem_cons_of_ne_of_not_mem (zneF fh19_1 fa20) List.not_mem_nil)
  have fh22_2 : h22 a8 = some (false, .inr (2, [.int (iI 0), .int (iI 0)])) := k25.f fh21_2
  have fh22_3 : h22 a6 = some (true, .inr (1, [.ref lq_15, .ref cq_15, .ref a8])) := k25.n fh21_3 (List.not_mem_cons_of_ne_of_not_mem (zneF fh19_3 fa20) List.not_mem_nil)
  have fh22_4 : h22 lq_15 = some (true, .inr (10, [.int (iI m_17), .ref (X.Γ.2.2.2 0), .int (iI ((([] : List Nat).length : Nat) : Int))])) := k25.n fh21_4 (List.not_mem_cons_of_ne_of_not_mem (zneF fh19_4 fa20) List.not_mem_nil)
  have fh22_5 : h22 (X.Γ.2.2.2 0) = some (false, .inl ((.object "java/lang/Object"), 0, f_18)) := k25.f fh21_5
  have fh22_6 : h22 cq_15 = some (true, .inr (10, [.int (iI m_18), .ref (X.Γ.2.2.2 0), .int (iI ((([] : List Nat).length : Nat) : Int))])) := k25.n fh21_6 (List.not_mem_cons_of_ne_of_not_mem (zneF fh19_6 fa20) List.not_mem_nil)
  have fh22_7 : h22 c = some (true, .inr (0, [.ref a1, .int (iI 0), .int (iI 1), .int (iI 0), .int (iI 200), .ref a6, .null])) := k25.n fh21_7 (List.not_mem_cons_of_ne_of_not_mem (zneF fh19_0 fa20) List.not_mem_nil)
  have ph22_1 : ∀ q ∈ ([] : List Nat), zel h22 q := zels.keep k25 ph21_1
  have ph22_2 : ∀ q ∈ ([] : List Nat), zel h22 q := zels.keep k25 ph21_2
  obtain ⟨hd_26, f_26, d0_26, dl_26, da_26, de_26, dx_26⟩ := id hd24
  show Z X h22 13 36 [(0, .ref c)] 55 [.ref a20, .ref c]
  refine z_putfieldF (pc := 55) (fs' := [.ref a1, .int (iI 0), .int (iI 1), .int (iI 0), .int (iI 200), .ref a6, .ref a20]) C hnm in_X1 tyX1 tyX1_ok nmX1 rfl 6 (by decide) q283 (fun _ z => z) rfl rfl rfl rfl (Nat.le_of_ble_eq_true rfl) fh22_7 rfl dX1_init_55 ?_
  refine Z.nm (fun h27 eh27 => ?_)
  have kh27 : zkeep h h27 [c] := by rw [eh27]; exact zkeep.up kh22 (Or.inl (by simp)) fh22_7
  have fh27_0 : h27 c = some (true, .inr (0, [.ref a1, .int (iI 0), .int (iI 1), .int (iI 0), .int (iI 200), .ref a6, .ref a20])) := zse eh27
  have fh27_1 : h27 a1 = some (true, .inl (.char, 200, fun _ => .int (iI 0))) := zsn eh27 fh22_1 (Ne.symm (zneF hc fa1))
  have fh27_2 : h27 a8 = some (false, .inr (2, [.int (iI 0), .int (iI 0)])) := zsn eh27 fh22_2 (Ne.symm (zneF fh7_2 fa8))
  have fh27_3 : h27 a6 = some (true, .inr (1, [.ref lq_15, .ref cq_15, .ref a8])) := zsn eh27 fh22_3 (Ne.symm (zneF fh5_0 fa6))
  have fh27_4 : h27 lq_15 = some (true, .inr (10, [.int (iI m_17), .ref (X.Γ.2.2.2 0), .int (iI ((([] : List Nat).length : Nat) : Int))])) := zsn eh27 fh22_4 (zneC fh22_4 fh22_7 (by decide))
  have fh27_5 : h27 (X.Γ.2.2.2 0) = some (false, .inl ((.object "java/lang/Object"), 0, f_18)) := zsn eh27 fh22_5 (zneW fh22_5 fh22_7)
  have fh27_6 : h27 cq_15 = some (true, .inr (10, [.int (iI m_18), .ref (X.Γ.2.2.2 0), .int (iI ((([] : List Nat).length : Nat) : Int))])) := zsn eh27 fh22_6 (zneC fh22_6 fh22_7 (by decide))
  have fh27_7 : h27 a20 = some (true, .inr (11, [.ref e23, .int (iI ((hd_26 : Nat) : Int)), .int (iI (((hd_26 + ([] : List Nat).length) % 10 : Nat) : Int))])) := zsn eh27 da_26 (Ne.symm (zneF fh19_0 fa20))
  have fh27_8 : h27 e23 = some (true, .inl ((.object "java/lang/Object"), 10, f_26)) := zsn eh27 de_26 (Ne.symm (zneA fh22_7 de_26))
  have sh27 : zkeep h22 h27 [c] := zkeep.one eh27 fh22_7
  have ph27_1 : ∀ q ∈ ([] : List Nat), zel h27 q := zels.keep sh27 ph22_1
  have ph27_2 : ∀ q ∈ ([] : List Nat), zel h27 q := zels.keep sh27 ph22_2
  refine z_aload_n (pc := 58) (j := 0) C dX1_init_58 rfl rfl ?_
  refine z_getfield (pc := 59) (v := .ref a6) C in_X1 rfl 5 (by decide) q282 (fun _ z => z) fh27_0 rfl dX1_init_59 ?_
  refine z_getfieldN (pc := 62) (v := .ref lq_15) C in_X2 rfl 0 (by decide) q167 (fun _ z => z) fh27_3 rfl dX1_init_62 ?_
  refine Z.constS C 0 rfl (fun hs28 => ?_)
  have hs28 : sAt h27 ((X.Γ.2.2.2 (0 + 2))) ([] : List Int) := zS_0 ▸ hs28
  refine z_ldcS (pc := 65) C 0 rfl dX1_init_65 ?_
  obtain ⟨hl_29, v_29, x_29, y_29, g_29, h1_29, h2_29, h3_29, h4_29⟩ := id (hs28)
  have h1_29 : h27 ((X.Γ.2.2.2 (0 + 2))) = some (false, .inr (13, [.ref v_29, .int (iI 0), .int x_29, .int y_29])) := h1_29
  have hlc1 : lC 0 (([] : List Nat).length + 1) = 1 := rfl
  have hlc2 : lS 0 (([] : List Nat).length + 1) = 10 := rfl
  refine z_callV (pc := 67) (n := 1) (kc' := (13 - lC 0 (([] : List Nat).length + 1))) (ks' := (36 - lS 0 (([] : List Nat).length + 1))) C (ct_L_add C.t (lAt.mk (cap := 0) rfl rfl rfl fh27_4 fh27_5 lz_17 lt_17 ln_17 lc_17 (fun j q e => by simp at e) ph27_1) h1_29 rfl q2509 (by first | omega | (simp; omega))) (lw_V q203 q204 q205 q68 q206) (by decide +kernel) ⟨by decide, by decide⟩ fh27_4 rfl rfl rfl (Nat.le_of_ble_eq_true rfl) dX1_init_67 (by omega) (by omega) (zrk fun w h30 hp => ?_) zrx
  obtain ⟨rfl, e31, hl32, he33, k34⟩ := hp
  have de31 : e31 ∈ ([c] : List Nat) ∨ h e31 = none := zmayL (Or.inr rfl) (lAt.mk (cap := 0) rfl rfl rfl fh27_4 fh27_5 lz_17 lt_17 ln_17 lc_17 (fun j q e => by simp at e) ph27_1) hl32 (by have := lcap_ge (cap := 0) (n := ([] : List Nat).length + 1); omega) he33 kh27 k34
  have ge31 : e31 = (X.Γ.2.2.2 0) ∨ h e31 = none := he33.imp_right (fun z => kh27.none0 z (List.not_mem_cons_of_ne_of_not_mem (Ne.symm (zneF fh27_0 z)) List.not_mem_nil))
  have kh30 : zkeep h h30 [c] := zkeep.loc kh27 k34 (zall_cons (Or.inl (Or.symm (Or.inr nlq_15))) (zall_cons (lAt.fz (lAt.mk (cap := 0) rfl rfl rfl fh27_4 fh27_5 lz_17 lt_17 ln_17 lc_17 (fun j q e => by simp at e) ph27_1) (Or.inr rfl)) zall_nil))
  have fh30_1 : h30 a1 = some (true, .inl (.char, 200, fun _ => .int (iI 0))) := k34.n fh27_1 (List.not_mem_cons_of_ne_of_not_mem (Ne.symm (zneA fh27_4 fh27_1)) (List.not_mem_cons_of_ne_of_not_mem (Ne.symm (zneW fh27_5 fh27_1)) List.not_mem_nil))
  have fh30_2 : h30 a8 = some (false, .inr (2, [.int (iI 0), .int (iI 0)])) := k34.f fh27_2
  have fh30_3 : h30 a6 = some (true, .inr (1, [.ref lq_15, .ref cq_15, .ref a8])) := k34.n fh27_3 (List.not_mem_cons_of_ne_of_not_mem (zneC fh27_3 fh27_4 (by decide)) (List.not_mem_cons_of_ne_of_not_mem (Ne.symm (zneW fh27_5 fh27_3)) List.not_mem_nil))
  have fh30_4 : h30 (X.Γ.2.2.2 0) = some (false, .inl ((.object "java/lang/Object"), 0, f_18)) := k34.f fh27_5
  have fh30_5 : h30 cq_15 = some (true, .inr (10, [.int (iI m_18), .ref (X.Γ.2.2.2 0), .int (iI ((([] : List Nat).length : Nat) : Int))])) := k34.n fh27_6 (List.not_mem_cons_of_ne_of_not_mem (Ne.symm hne_15) (List.not_mem_cons_of_ne_of_not_mem (Ne.symm (zneW fh27_5 fh27_6)) List.not_mem_nil))
  have fh30_6 : h30 a20 = some (true, .inr (11, [.ref e23, .int (iI ((hd_26 : Nat) : Int)), .int (iI (((hd_26 + ([] : List Nat).length) % 10 : Nat) : Int))])) := k34.n fh27_7 (List.not_mem_cons_of_ne_of_not_mem (Ne.symm (zneF fh19_4 fa20)) (List.not_mem_cons_of_ne_of_not_mem (Ne.symm (zneF fh19_5 fa20)) List.not_mem_nil))
  have fh30_7 : h30 e23 = some (true, .inl ((.object "java/lang/Object"), 10, f_26)) := k34.n fh27_8 (List.not_mem_cons_of_ne_of_not_mem (Ne.symm (zneA fh27_4 fh27_8)) (List.not_mem_cons_of_ne_of_not_mem (Ne.symm (zneW fh27_5 fh27_8)) List.not_mem_nil))
  have fh30_8 : h30 c = some (true, .inr (0, [.ref a1, .int (iI 0), .int (iI 1), .int (iI 0), .int (iI 200), .ref a6, .ref a20])) := k34.n fh27_0 (List.not_mem_cons_of_ne_of_not_mem (zneC fh27_0 fh27_4 (by decide)) (List.not_mem_cons_of_ne_of_not_mem (Ne.symm (zneW fh27_5 fh27_0)) List.not_mem_nil))
  have fh30_9 : h30 (X.Γ.2.2.2 (0 + 2)) = some (false, .inr (13, [.ref v_29, .int (iI 0), .int x_29, .int y_29])) := k34.f h1_29
  have fh30_10 : h30 v_29 = some (false, .inl (.byte, ([] : List Int).length, g_29)) := k34.f h2_29
  have ph30_1 : ∀ q ∈ ([] : List Nat), zel h30 q := zels.keep k34 ph27_1
  have ph30_2 : ∀ q ∈ ([] : List Nat), zel h30 q := zels.keep k34 ph27_2
  have ph30_3 : sAt h30 (X.Γ.2.2.2 (0 + 2)) ([] : List Int) := sAt.keep k34 hs28
  show Z X h30 (13 - lC 0 (([] : List Nat).length + 1)) (36 - lS 0 (([] : List Nat).length + 1)) [(0, .ref c)] 70 [.int (iI 1)]
  have hnde : e23 ≠ e31 := fun z => he33.elim (fun g => (zneW fh27_5 fh27_8) (g.symm.trans z.symm)) (fun g => by rw [← z, fh27_8] at g; cases g)
  refine z_pop (pc := 70) C dX1_init_70 rfl ?_
  have hx_35 := hl32
  obtain ⟨m_35, f_35, la_35, le_35, lz_35, lt_35, ln_35, lc_35, lx_35, lq_35⟩ := hx_35
  have hlz := hl32
  refine Z.freezeL hlz (fun h36 hfl k37 => ?_)
  have kh36 : zkeep h h36 [c] := zkeep.loc kh30 k37 (zall_cons (Or.inl (Or.symm (Or.inr nlq_15))) (zall_cons (Or.inl (Or.symm de31)) zall_nil))
  have fh36_1 : h36 a1 = some (true, .inl (.char, 200, fun _ => .int (iI 0))) := k37.n fh30_1 (List.not_mem_cons_of_ne_of_not_mem (Ne.symm (zneA la_35 fh30_1)) (List.not_mem_cons_of_ne_of_not_mem (zneT fh30_1 le_35 (by simp)) List.not_mem_nil))
  have fh36_2 : h36 a8 = some (false, .inr (2, [.int (iI 0), .int (iI 0)])) := k37.f fh30_2
  have fh36_3 : h36 a6 = some (true, .inr (1, [.ref lq_15, .ref cq_15, .ref a8])) := k37.n fh30_3 (List.not_mem_cons_of_ne_of_not_mem (zneC fh30_3 la_35 (by decide)) (List.not_mem_cons_of_ne_of_not_mem (zneA fh30_3 le_35) List.not_mem_nil))
  have fh36_4 : h36 (X.Γ.2.2.2 0) = some (false, .inl ((.object "java/lang/Object"), 0, f_18)) := k37.f fh30_4
  have fh36_5 : h36 cq_15 = some (true, .inr (10, [.int (iI m_18), .ref (X.Γ.2.2.2 0), .int (iI ((([] : List Nat).length : Nat) : Int))])) := k37.n fh30_5 (List.not_mem_cons_of_ne_of_not_mem (Ne.symm hne_15) (List.not_mem_cons_of_ne_of_not_mem (zneA fh30_5 le_35) List.not_mem_nil))
  have fh36_6 : h36 a20 = some (true, .inr (11, [.ref e23, .int (iI ((hd_26 : Nat) : Int)), .int (iI (((hd_26 + ([] : List Nat).length) % 10 : Nat) : Int))])) := k37.n fh30_6 (List.not_mem_cons_of_ne_of_not_mem (Ne.symm (zneF fh19_4 fa20)) (List.not_mem_cons_of_ne_of_not_mem (zneA fh30_6 le_35) List.not_mem_nil))
  have fh36_7 : h36 e23 = some (true, .inl ((.object "java/lang/Object"), 10, f_26)) := k37.n fh30_7 (List.not_mem_cons_of_ne_of_not_mem (Ne.symm (zneA la_35 fh30_7)) (List.not_mem_cons_of_ne_of_not_mem hnde List.not_mem_nil))
  have fh36_8 : h36 c = some (true, .inr (0, [.ref a1, .int (iI 0), .int (iI 1), .int (iI 0), .int (iI 200), .ref a6, .ref a20])) := k37.n fh30_8 (List.not_mem_cons_of_ne_of_not_mem (zneC fh30_8 la_35 (by decide)) (List.not_mem_cons_of_ne_of_not_mem (zneA fh30_8 le_35) List.not_mem_nil))
  have fh36_9 : h36 (X.Γ.2.2.2 (0 + 2)) = some (false, .inr (13, [.ref v_29, .int (iI 0), .int x_29, .int y_29])) := k37.f fh30_9
  have fh36_10 : h36 v_29 = some (false, .inl (.byte, ([] : List Int).length, g_29)) := k37.f fh30_10
  have ph36_1 : ∀ q ∈ ([] : List Nat), zel h36 q := zels.keep k37 ph30_2
  have ph36_2 : sAt h36 (X.Γ.2.2.2 (0 + 2)) ([] : List Int) := sAt.keep k37 ph30_3
  exact z_return (pc := 71) C (by rw [hXp]; exact ⟨_, rfl, rfl, ((a1, a20, e23, (a6, cq_15, (X.Γ.2.2.2 0), 0), []) : zWA), ⟨⟨_, fh36_8, fh36_1, fun j d e => by simp [st0, zSt.tx] at e⟩, (dAt.mk (xs := ([] : List Nat)) d0_26 dl_26 rfl rfl fh36_6 fh36_7 dx_26), ⟨lq_15, a8, [(X.Γ.2.2.2 (0 + 2))], [], fh36_3, hfl, ⟨[((X.Γ.2.2.2 (0 + 2)), [])], rfl, rfl, fun p hp => by rw [List.mem_singleton.mp hp]; exact ph36_2⟩, (lAt.mk (cap := 0) rfl rfl rfl fh36_5 fh36_4 lz_18 lt_18 ln_18 lc_18 (fun j q e => by simp at e) ph36_1), ⟨[], rfl, rfl, fun _ z => nomatch z⟩, fh36_2⟩, ⟨[], rfl, rfl, fun _ z => nomatch z⟩, fpW_new (zneA fh36_8 fh36_1) (zneC fh36_8 fh36_6 (by decide)) (zneA fh36_8 fh36_7) (zneC fh36_8 fh36_3 (by decide)) (zneC fh36_8 fh36_5 (by decide)) (Ne.symm (zneA fh36_6 fh36_1)) (zneT fh36_1 fh36_7 (by simp)) (Ne.symm (zneA fh36_3 fh36_1)) (Ne.symm (zneA fh36_5 fh36_1)) (zneA fh36_6 fh36_7) (zneC fh36_6 fh36_3 (by decide)) (zneC fh36_6 fh36_5 (by decide)) (Ne.symm (zneA fh36_3 fh36_7)) (Ne.symm (zneA fh36_5 fh36_7)) (zneC fh36_3 fh36_5 (by decide)), st0_R⟩, kh36, (fun q hq => by
    simp only [fpW, fpS, zWA.tx, zWA.dq, zWA.de, zWA.cu, zWA.hs, zSA.s, zSA.cq, zSA.cap, List.flatMap_cons, List.flatMap_nil, if_true, List.append_nil, List.mem_cons, List.not_mem_nil, or_false] at hq
    rcases hq with rfl | rfl | rfl | rfl | rfl | rfl
    · exact Or.inl rfl
    · exact Or.inr na1
    · exact Or.inr na20
    · exact Or.inr ne23
    · exact Or.inr na6
    · exact Or.inr ncq_15)⟩) dX1_init_71

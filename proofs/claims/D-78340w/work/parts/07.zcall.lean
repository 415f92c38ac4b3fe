/-! ===== Z rows: statics, casts, copies, answers, calls, exceptions ===== -/
set_option maxRecDepth 100000
section ZMISC
variable {X : zT} {cc : ByteArray} {own : String} {ret : Option FieldType} {nf nl : Nat} {hh : List ExceptionTableEntry} {h : zH} {kc ks : Nat} {L : List (Nat × Value)} {pc : Nat} {st : List Value}
theorem z_ldcf (C : zC X cc own ret nf nl hh) {index : Nat} {v : UInt32} (q : Cond.constantFloat own index v ∈ lw_all) (d : decode cc pc = .ok (.ldc index, 2)) (K : Z X h kc ks L (pc + 2) (.float v :: st)) : Z X h kc ks L pc st :=
  fun H locs cells slots ls hS => lv_ldcf C.x C.b C.o (C.w _ q) d (K H locs cells slots ls hS)
theorem z_compact (C : zC X cc own ret nf nl hh) {index : Nat} (q : Cond.fieldLink own index "java/lang/String" "COMPACT_STRINGS" "Z" ∈ lw_all) (d : decode cc pc = .ok (.getstatic index, 3)) (K : Z X h kc ks L (pc + 3) (.int (iI 1) :: st)) : Z X h kc ks L pc st :=
  fun H locs cells slots ls hS => va_gets C.x C.b C.K.2.2.1.1 hS.2.1 C.o (C.w _ q) (fun _ z => z) d (K H locs cells slots ls hS)
theorem z_emptyE (C : zC X cc own ret nf nl hh) {index : Nat} (q : Cond.fieldLink own index "java/util/ArrayList" "DEFAULTCAPACITY_EMPTY_ELEMENTDATA" "[Ljava/lang/Object;" ∈ lw_all) (d : decode cc pc = .ok (.getstatic index, 3)) (K : Z X h kc ks L (pc + 3) (.ref (X.Γ.2.2.2 0) :: st)) : Z X h kc ks L pc st :=
  fun H locs cells slots ls hS => va_gets C.x C.b C.K.2.2.1.2.1 hS.2.1 C.o (C.w _ q) (fun _ z => z) d (K H locs cells slots ls hS)
theorem z_sioobe (C : zC X cc own ret nf nl hh) {index : Nat} (q : Cond.fieldLink own index "jdk/internal/util/Preconditions" "SIOOBE_FORMATTER" "Ljava/util/function/BiFunction;" ∈ lw_all) (d : decode cc pc = .ok (.getstatic index, 3)) (K : ∀ v : Value, (v = .null ∨ ∃ t, v = .ref t) → Z X h kc ks L (pc + 3) (v :: st)) : Z X h kc ks L pc st := by
  intro H locs cells slots ls hS
  rcases C.K.2.2.1.2.2.2.2.1 with z | ⟨t, z⟩
  · exact va_gets C.x C.b z hS.2.1 C.o (C.w _ q) (fun _ z => z) d (K _ (Or.inl rfl) H locs cells slots ls hS)
  · exact va_gets C.x C.b z hS.2.1 C.o (C.w _ q) (fun _ z => z) d (K _ (Or.inr ⟨t, rfl⟩) H locs cells slots ls hS)
theorem z_ldcMO (C : zC X cc own ret nf nl hh) {index : Nat} (q : Cond.classLink own index "[Ljava/lang/Object;" ∈ lw_all) (d : decode cc pc = .ok (.ldc index, 2)) (K : Z X h kc ks L (pc + 2) (.ref (X.Γ.2.2.2 1) :: st)) : Z X h kc ks L pc st :=
  fun H locs cells slots ls hS => va_ldcM C.x C.b C.o (C.w _ q) C.K.2.2.1.2.2.2.2.2.1 d (K H locs cells slots ls hS)
/-- getClass() of an array of Objects -/
theorem z_getClassO (C : zC X cc own ret nf nl hh) {index a n : Nat} {fl : Bool} {f : Nat → Value} (q1 : Cond.methodLink own index ⟨"java/lang/Object", "getClass", "()Ljava/lang/Class;"⟩ ∈ lw_all) (q2 : Cond.declares ⟨"java/lang/Object", "getClass", "()Ljava/lang/Class;"⟩ ∈ lw_tbl)
    (q3 : Cond.selects "[Ljava/lang/Object;" ⟨"java/lang/Object", "getClass", "()Ljava/lang/Class;"⟩ ⟨"java/lang/Object", "getClass", "()Ljava/lang/Class;"⟩ ∈ lw_all) (q4 : Cond.instanceMethod ⟨"java/lang/Object", "getClass", "()Ljava/lang/Class;"⟩ ∈ lw_all) (q5 : Cond.native ⟨"java/lang/Object", "getClass", "()Ljava/lang/Class;"⟩ ∈ lw_all)
    (ha : h a = some (fl, .inl (.object "java/lang/Object", n, f))) (hf : 1 ≤ nf) (hl : (st.map fun v => v.category).sum + 14 ≤ nl) (d : decode cc pc = .ok (.invokevirtual index, 3)) (K : Z X h kc ks L (pc + 3) (.ref (X.Γ.2.2.2 1) :: st)) : Z X h kc ks L pc (.ref a :: st) := by
  intro H locs cells slots ls hS
  obtain ⟨cell, h1, -, -, h4, h5⟩ := hS.arr ha
  have hn : X.st.vm.findClass "[Ljava/lang/Object;" = some cell.cls := va_nmO (h5.2.2.2 _ rfl) (by decide +kernel)
  exact va_getC C.x C.b (by rw [C.m]; exact hS.2.2.2.2.1.symm) C.o (C.w _ q1) (va_Nw.use rfl (C.K.2.1 _ q2 rfl)) (C.w _ q3) (C.w _ q4) (C.w _ q5) C.K.2.2.1.2.2.2.2.2.1 ⟨cell, h1, h4, hn⟩ (by rw [C.nf]; exact hf) (by rw [C.nl]; exact hl) d (K H locs cells slots ls hS)
theorem z_castN (C : zC X cc own ret nf nl hh) {index : Nat} (d : decode cc pc = .ok (.checkcast index, 3)) (K : Z X h kc ks L (pc + 3) (.null :: st)) : Z X h kc ks L pc (.null :: st) :=
  fun H locs cells slots ls hS => lv_castN C.x C.b d (K H locs cells slots ls hS)
/-- a cast to the object's own class -/
theorem z_castS (C : zC X cc own ret nf nl hh) {index a ci : Nat} {fl : Bool} {fs : List Value} {Cn : String} {T : u_T} {N : Nat} (q : Cond.classLink own index Cn ∈ lw_all) (hc : zcl[ci]? = some (Cn, T, N)) (ha : h a = some (fl, .inr (ci, fs))) (d : decode cc pc = .ok (.checkcast index, 3)) (K : Z X h kc ks L (pc + 3) (.ref a :: st)) : Z X h kc ks L pc (.ref a :: st) :=
  fun H locs cells slots ls hS => va_castS C.x C.b C.o (C.w _ q) (C.K.1.1 ci _ hc).2 (zS.recv C hS ha hc) d (K H locs cells slots ls hS)
theorem z_castY (C : zC X cc own ret nf nl hh) {index a ci : Nat} {fl : Bool} {fs : List Value} {Cn nm : String} {T : u_T} {N : Nat} (q : Cond.classLink own index nm ∈ lw_all) (q2 : Cond.castable Cn nm ∈ lw_tbl) (hc : zcl[ci]? = some (Cn, T, N)) (ha : h a = some (fl, .inr (ci, fs))) (d : decode cc pc = .ok (.checkcast index, 3)) (K : Z X h kc ks L (pc + 3) (.ref a :: st)) : Z X h kc ks L pc (.ref a :: st) :=
  fun H locs cells slots ls hS => va_castY C.x C.b C.o (C.w _ q) (C.K.2.1 _ q2 rfl) (zS.recv C hS ha hc) d (K H locs cells slots ls hS)
theorem z_instN (C : zC X cc own ret nf nl hh) {index : Nat} (d : decode cc pc = .ok (.instanceof index, 3)) (K : Z X h kc ks L (pc + 3) (.int (iI 0) :: st)) : Z X h kc ks L pc (.null :: st) :=
  fun H locs cells slots ls hS => lv_instN C.x C.b d (K H locs cells slots ls hS)
theorem z_instS (C : zC X cc own ret nf nl hh) {index a ci : Nat} {fl : Bool} {fs : List Value} {Cn : String} {T : u_T} {N : Nat} (q : Cond.classLink own index Cn ∈ lw_all) (hc : zcl[ci]? = some (Cn, T, N)) (ha : h a = some (fl, .inr (ci, fs))) (d : decode cc pc = .ok (.instanceof index, 3)) (K : Z X h kc ks L (pc + 3) (.int (iI 1) :: st)) : Z X h kc ks L pc (.ref a :: st) :=
  fun H locs cells slots ls hS => va_instS C.x C.b C.o (C.w _ q) (C.K.1.1 ci _ hc).2 (zS.recv C hS ha hc) d (K H locs cells slots ls hS)
theorem z_instNo (C : zC X cc own ret nf nl hh) {index a ci : Nat} {fl : Bool} {fs : List Value} {Cn nm : String} {T : u_T} {N : Nat} (q : Cond.classLink own index nm ∈ lw_all) (hn : (Cn, nm) ∈ zncs) (hc : zcl[ci]? = some (Cn, T, N)) (ha : h a = some (fl, .inr (ci, fs))) (d : decode cc pc = .ok (.instanceof index, 3)) (K : Z X h kc ks L (pc + 3) (.int (iI 0) :: st)) : Z X h kc ks L pc (.ref a :: st) :=
  fun H locs cells slots ls hS => va_instNo C.x C.b C.o (C.w _ q) (C.K.2.2.2.1.1 _ hn) (zS.recv C hS ha hc) d (K H locs cells slots ls hS)
theorem z_objInit (C : zC X cc own ret nf nl hh) {index a : Nat} (q1 : Cond.methodLink own index Lib.objectInit ∈ lw_all) (q2 : Cond.instanceMethod Lib.objectInit ∈ lw_all) (q3 : Cond.code Lib.objectInit ⟨#[0xb1]⟩ 1 none ∈ lw_all) (hf : 1 ≤ nf) (hl : (st.map fun v => v.category).sum + 12 ≤ nl) (d : decode cc pc = .ok (.invokespecial index, 3)) (K : Z X h kc ks L (pc + 3) st) : Z X h kc ks L pc (.ref a :: st) :=
  fun H locs cells slots ls hS => W.objInit C.x C.b C.o (C.w _ q1) (C.w _ q2) (C.w _ q3) rfl (by rw [C.m]; exact hS.2.2.2.2.1) rfl d (by rw [C.nf]; exact hf) (by rw [C.nl]; show 2 * 0 + _ + _ ≤ _; omega) (K H locs cells slots ls hS)
/-- n values of f from place sp on, laid into g from place dp on -/
theorem zcopied {U : State} {x y : FieldType × Nat × (Nat → Value)} {cs cd : Cell} {sp dp n : Nat} (hx : zarr U x cs) (hy : zarr U y cd) (h1 : sp + n ≤ x.2.1) (h2 : dp + n ≤ y.2.1) : zarr U (y.1, y.2.1, va_cpy x.2.2 y.2.2 sp dp n) (cd.storeRun dp (cs.stretch sp n)) := by
  obtain ⟨f1, f2, f3, -, -⟩ := Cell.storeRun_facts cd dp (cs.stretch sp n)
  have hlen : (cs.stretch sp n).length = n := by simp [Cell.stretch]
  refine ⟨zisArr hy.1 f1 f2, f3.trans hy.2.1, fun j hj => ?_, fun C e => by rw [f1]; exact hy.2.2.2 C e⟩
  have hj2 : j < y.2.1 := hj
  rw [Cell.storeRun_get _ _ _ _ (by rw [hlen, hy.2.1]; exact h2), hlen]
  simp only [va_cpy]
  by_cases hc : dp ≤ j ∧ j < dp + n
  · rw [if_pos hc, if_pos hc]
    have h3 : j - dp < n := by omega
    simp only [Cell.stretch, List.getElem?_map, List.getElem?_range h3, Option.map_some]
    rw [Array.getD_eq_getD_getElem?, hx.2.2.1 _ (by omega)]
    rfl
  · rw [if_neg hc, if_neg hc]
    exact hy.2.2.1 j hj2
theorem z_copy0 (C : zC X cc own ret nf nl hh) {index a b n0 n1 : Nat} {sp dp n : Int} {fl : Bool} {ty1 ty2 : FieldType} {f g g' : Nat → Value} (q1 : Cond.methodLink own index arraycopyName ∈ lw_all) (q2 : Cond.native arraycopyName ∈ lw_all) (q3 : Cond.static arraycopyName ∈ lw_all) (q4 : Cond.initialized "java/lang/System" ∈ lw_all)
    (hty : ((refKind ty1 != refKind ty2) || (!refKind ty1 && ty1 != ty2)) = false) (ha : h a = some (fl, .inl (ty1, n0, f))) (hb : h b = some (true, .inl (ty2, n1, g))) (h0 : 0 ≤ sp ∧ 0 ≤ dp ∧ 0 ≤ n) (h1 : sp + n ≤ n0 ∧ dp + n ≤ n1) (h2 : sp ≤ 2147483647 ∧ dp ≤ 2147483647 ∧ n ≤ 2147483647)
    (hvals : ∀ H locs cells slots ls, zS X h kc ks L H locs cells slots ls → ∀ (cd : Cell) (kd : Class) (dComp : ClassId), H[b]? = some cd → X.st.vm.classes[cd.cls]? = some kd → kd.kind = .array dComp ty2 → ∀ (T : State), T.heap = H → ∀ vm', X.st.vm.Alike vm' → ∀ i, i < n.toNat → fits ty2 (f (sp.toNat + i)) = true ∧ (T.setVm vm').takes dComp (f (sp.toNat + i)))
    (hg : va_cpy f g sp.toNat dp.toNat n.toNat = g') (hf : 1 ≤ nf) (hl : (st.map fun v => v.category).sum + (nativeFrameWords "java/lang/System" "arraycopy" 5 + 11) ≤ nl) (d : decode cc pc = .ok (.invokestatic index, 3)) (K : Z X (zup h b (true, .inl (ty2, n1, g'))) kc ks L (pc + 3) st) :
    Z X h kc ks L pc (.int (iI n) :: .int (iI dp) :: .ref b :: .int (iI sp) :: .ref a :: st) := by
  subst hg
  intro H locs cells slots ls hS T hT XX
  obtain ⟨cs, s1, -, s3, s4, s5⟩ := hS.arr ha
  obtain ⟨cd, d1, d2, d3, d4, d5⟩ := hS.arr hb
  obtain ⟨-, k0, hk0, cm0, hkk0⟩ := s5.1
  obtain ⟨-, k1, hk1, cm1, hkk1⟩ := d5.1
  have nn : ∀ {z : Int}, 0 ≤ z → z ≤ 2147483647 → ¬ iI z < 0 := fun {z} g1 g2 => by rw [show (0 : Int32) = iI 0 from rfl, iI_lt (by omega) g2 (by decide) (by decide)]; omega
  have e1 : (iI sp).toNatClampNeg = sp.toNat := iI_nat h0.1 h2.1
  have e2 : (iI dp).toNatClampNeg = dp.toNat := iI_nat h0.2.1 h2.2.1
  have e3 : (iI n).toNatClampNeg = n.toNat := iI_nat h0.2.2 h2.2.2
  have hz0 : cs.slots.size = n0 := s5.2.1
  have hz1 : cd.slots.size = n1 := d5.2.1
  obtain ⟨vm', X', step⟩ := Stand.arraycopy XX C.x C.o (C.w _ q1) (C.w _ q2) (C.w _ q3) (C.w _ q4) (src := a) (dst := b) (cs := cs) (cd := cd) (srcPos := iI sp) (destPos := iI dp) (n := iI n) (by rw [hT]; exact s1) (by rw [hT]; exact d1)
    (fun q e => by rw [e] at s4; cases s4) (fun q e => by rw [e] at d4; cases d4) s3 d3 hk0 hk1 hkk0 hkk1 hty (nn h0.1 h2.1) (nn h0.2.1 h2.2.1) (nn h0.2.2 h2.2.2)
    (by rw [iI_int (by omega) h2.1, iI_int (by omega) h2.2.2, hz0]; omega) (by rw [iI_int (by omega) h2.2.1, iI_int (by omega) h2.2.2, hz1]; omega)
    (fun vm₁ hal i hi => by
      rw [e3] at hi
      rw [e1, Array.getD_eq_getD_getElem?, s5.2.2.1 (sp.toNat + i) (by show _ < n0; omega)]
      exact hvals H locs cells slots ls hS cd k1 cm1 d1 hk1 hkk1 T hT vm₁ hal i hi)
    (g := zF X pc ls (.int (iI n) :: .int (iI dp) :: .ref b :: .int (iI sp) :: .ref a :: st)) rfl (by rw [C.m]; exact hS.2.2.2.2.1) (rest := st) rfl (by rw [C.b]; exact d) (by rw [C.nf]; exact hf) (by rw [C.nl]; show 2 * 0 + _ + _ ≤ _; omega)
  have hcp : copied cs cd (iI sp) (iI dp) (iI n) = cd.storeRun dp.toNat (cs.stretch sp.toNat n.toNat) := by unfold copied; rw [e1, e2, e3]
  rw [hcp] at X' step
  have hl1 : b < H.size := (Array.getElem?_eq_some_iff.mp d1).1
  have hheap : ((T.setVm vm').setCell b (cd.storeRun dp.toNat (cs.stretch sp.toNat n.toNat))).heap = H.setIfInBounds b (cd.storeRun dp.toNat (cs.stretch sp.toNat n.toNat)) := by rw [← hT]; rfl
  have oq : ∀ q : Nat, q ≠ b → (H.setIfInBounds b (cd.storeRun dp.toNat (cs.stretch sp.toNat n.toNat)))[q]? = H[q]? := fun q hq => by simp [Array.getElem?_setIfInBounds, Ne.symm hq]
  have hA := (hS.1.2 b _ hb).1 rfl
  obtain ⟨t, a1, b1⟩ := K _ _ cells slots ls ⟨hS.1.put hb (show (H.setIfInBounds b _)[b]? = some _ by simp [Array.getElem?_setIfInBounds, hl1]) ((Cell.storeRun_facts _ _ _).2.1.trans (d2 rfl).1) (by show _ = some (Cell.storeRun _ _ _).cls; rw [(Cell.storeRun_facts _ _ _).1]; exact (d2 rfl).2) (zcopied s5 d5 (by show _ ≤ n0; omega) (by show _ ≤ n1; omega)) oq, ⟨by simp; exact hS.2.1.1, fun q g1 g2 => by
      rw [oq q (fun e => g2 (by rw [e]; exact hA))]
      exact hS.2.1.2.1 q g1 g2, fun q hq => by
      rcases List.mem_append.mp hq with e | e
      · exact hS.2.1.2.2 q e
      · obtain ⟨z, -, hz⟩ := List.mem_map.mp e
        rw [← hz]
        exact hA⟩, hS.2.2⟩ _ hheap X'
  exact ⟨t, step t a1, b1⟩
/-- System.arraycopy of ints, bytes .. -/
theorem z_copyP (C : zC X cc own ret nf nl hh) {index a b n0 n1 : Nat} {sp dp n : Int} {fl : Bool} {ty : FieldType} {f g g' : Nat → Value} (q1 : Cond.methodLink own index arraycopyName ∈ lw_all) (q2 : Cond.native arraycopyName ∈ lw_all) (q3 : Cond.static arraycopyName ∈ lw_all) (q4 : Cond.initialized "java/lang/System" ∈ lw_all)
    (hty : refKind ty = false) (ha : h a = some (fl, .inl (ty, n0, f))) (hb : h b = some (true, .inl (ty, n1, g))) (h0 : 0 ≤ sp ∧ 0 ≤ dp ∧ 0 ≤ n) (h1 : sp + n ≤ n0 ∧ dp + n ≤ n1) (h2 : sp ≤ 2147483647 ∧ dp ≤ 2147483647 ∧ n ≤ 2147483647)
    (hfit : ∀ i, i < n.toNat → fits ty (f (sp.toNat + i)) = true ∧ ∃ x, f (sp.toNat + i) = .int x)
    (hg : va_cpy f g sp.toNat dp.toNat n.toNat = g') (hf : 1 ≤ nf) (hl : (st.map fun v => v.category).sum + (nativeFrameWords "java/lang/System" "arraycopy" 5 + 11) ≤ nl) (d : decode cc pc = .ok (.invokestatic index, 3)) (K : Z X (zup h b (true, .inl (ty, n1, g'))) kc ks L (pc + 3) st) :
    Z X h kc ks L pc (.int (iI n) :: .int (iI dp) :: .ref b :: .int (iI sp) :: .ref a :: st) :=
  z_copy0 C q1 q2 q3 q4 (by simp [hty]) ha hb h0 h1 h2 (fun _ _ _ _ _ _ _ _ _ _ _ _ _ _ _ _ i hi => by
    obtain ⟨g1, x, g2⟩ := hfit i hi
    rw [g2] at g1 ⊢
    exact ⟨g1, trivial⟩) hg hf hl d K
/-- System.arraycopy of references -/
theorem z_copyQ (C : zC X cc own ret nf nl hh) {index a b n0 n1 : Nat} {sp dp n : Int} {fl : Bool} {E0 E1 : String} {f g g' : Nat → Value} (q1 : Cond.methodLink own index arraycopyName ∈ lw_all) (q2 : Cond.native arraycopyName ∈ lw_all) (q3 : Cond.static arraycopyName ∈ lw_all) (q4 : Cond.initialized "java/lang/System" ∈ lw_all)
    (ha : h a = some (fl, .inl (.object E0, n0, f))) (hb : h b = some (true, .inl (.object E1, n1, g))) (h0 : 0 ≤ sp ∧ 0 ≤ dp ∧ 0 ≤ n) (h1 : sp + n ≤ n0 ∧ dp + n ≤ n1) (h2 : sp ≤ 2147483647 ∧ dp ≤ 2147483647 ∧ n ≤ 2147483647)
    (hfit : ∀ i, i < n.toNat → zfit E1 h (f (sp.toNat + i)))
    (hg : va_cpy f g sp.toNat dp.toNat n.toNat = g') (hf : 1 ≤ nf) (hl : (st.map fun v => v.category).sum + (nativeFrameWords "java/lang/System" "arraycopy" 5 + 11) ≤ nl) (d : decode cc pc = .ok (.invokestatic index, 3)) (K : Z X (zup h b (true, .inl (.object E1, n1, g'))) kc ks L (pc + 3) st) :
    Z X h kc ks L pc (.int (iI n) :: .int (iI dp) :: .ref b :: .int (iI sp) :: .ref a :: st) :=
  z_copy0 C q1 q2 q3 q4 rfl ha hb h0 h1 h2 (fun H locs cells slots ls hS cd kd dComp hcd hkd hkk T hT vm' hal i hi => by
    rcases hfit i hi with e | ⟨q, fl', ci, fs, r, e, hq, hr, he⟩
    · rw [e]
      exact ⟨rfl, trivial⟩
    · rw [e]
      obtain ⟨r1, r2, r3⟩ := r
      obtain ⟨cv, g1, -, -, g4, g5, -, g7⟩ := zS.obj C hS hq hr
      obtain ⟨cd', d1, -, -, -, d5⟩ := hS.arr hb
      cases hcd.symm.trans d1
      obtain ⟨kA, comp, k1, k2, k3, -⟩ := d5.2.2.2 E1 rfl
      cases hkd.symm.trans k1
      cases hkk.symm.trans k2
      obtain ⟨kE, hkE, -⟩ := Vm.findClass_spec k3
      obtain ⟨kC, hkC, -⟩ := g7.2.2
      obtain ⟨kC', hkC', -⟩ := hal.2.2 _ _ hkC
      obtain ⟨kE', hkE', -⟩ := hal.2.2 _ _ hkE
      refine ⟨rfl, cv, (show T.heap[q]? = some cv by rw [hT]; exact g1), (fun z e => by rw [e] at g4; cases g4), ⟨kC', by rw [g5]; exact hkC'⟩, ⟨kE', hkE'⟩, ?_⟩
      show vm'.assignable _ _ = true
      rw [hal.assignable, g5]
      exact zfit.asg C hr he k3) hg hf hl d K
/-! answers -/
theorem zret {Hx : Heap} (C : zC X cc own ret nf nl hh) {H : Heap} {locs : List Loc} {cells slots : Nat} {ls : Array Slot} (hS : zS X h kc ks L H locs cells slots ls) {v : Option Value} (hp : X.post (.inl v) h) : ∀ t : State, t.heap = H → X.st.WarmedH t.vm → zQc X.Γ X.post X.1.2.2.2.2.2.2 X.st (.returned v) t := by
  intro t ht hW
  refine ⟨v, h, rfl, hp, ?_, hS.2.1.F ht⟩
  rw [ht]
  exact hS.1.moved hW.alike
theorem z_ireturn (C : zC X cc own (some .int) nf nl hh) {x : Int32} (hp : X.post (.inl (some (.int x))) h) (d : decode cc pc = .ok (.ireturn, 1)) : Z X h kc ks L pc [.int x] := by
  intro H locs cells slots ls hS
  exact vx_ret (W.widen (k := X.2.2.2.1) (n := X.2.2.2.2) (by have := hS.2.2.1; omega) (by have := hS.2.2.2.1; omega) (W.iret C.x C.b C.r (zret (Hx := H) C hS hp) hS.2.1.2.2 d C.k))
theorem z_zreturn {ty : FieldType} (C : zC X cc own (some ty) nf nl hh) {x : Int32} (hn : narrow ty (.int x) = .int x) (hp : X.post (.inl (some (.int x))) h) (d : decode cc pc = .ok (.ireturn, 1)) : Z X h kc ks L pc [.int x] := by
  intro H locs cells slots ls hS
  exact vx_ret (W.widen (k := X.2.2.2.1) (n := X.2.2.2.2) (by have := hS.2.2.1; omega) (by have := hS.2.2.2.1; omega) (W.zret C.x C.b C.r hn (zret (Hx := H) C hS hp) hS.2.1.2.2 d C.k))
theorem z_lreturn (C : zC X cc own (some .long) nf nl hh) {x : Int64} (hp : X.post (.inl (some (.long x))) h) (d : decode cc pc = .ok (.lreturn, 1)) : Z X h kc ks L pc [.long x] := by
  intro H locs cells slots ls hS
  exact vx_ret (W.widen (k := X.2.2.2.1) (n := X.2.2.2.2) (by have := hS.2.2.1; omega) (by have := hS.2.2.2.1; omega) (W.lret C.x C.b C.r (zret (Hx := H) C hS hp) hS.2.1.2.2 d C.k))
theorem z_return (C : zC X cc own none nf nl hh) (hp : X.post (.inl none) h) (d : decode cc pc = .ok (.return_, 1)) : Z X h kc ks L pc [] := by
  intro H locs cells slots ls hS
  exact vx_ret (W.widen (k := X.2.2.2.1) (n := X.2.2.2.2) (by have := hS.2.2.1; omega) (by have := hS.2.2.2.1; omega) (W.vret C.x C.b C.r (zret (Hx := H) C hS hp) hS.2.1.2.2 d C.k))
theorem z_areturn {rt : FieldType} (C : zC X cc own (some rt) nf nl hh) (hrt : (∃ n, rt = .object n) ∨ ∃ t, rt = .array t) {v : Value} (hv : v = .null ∨ ∃ a, v = .ref a) (hp : X.post (.inl (some v)) h) (d : decode cc pc = .ok (.areturn, 1)) : Z X h kc ks L pc [v] := by
  intro H locs cells slots ls hS
  exact vx_ret (W.widen (k := X.2.2.2.1) (n := X.2.2.2.2) (by have := hS.2.2.1; omega) (by have := hS.2.2.2.1; omega) (W.aret C.x C.b C.r hrt hv (zret (Hx := H) C hS hp) hS.2.1.2.2 d C.k))
end ZMISC
section ZCLONE
variable {X : zT} {cc : ByteArray} {own : String} {ret : Option FieldType} {nf nl : Nat} {hh : List ExceptionTableEntry} {h : zH} {kc ks kc' ks' : Nat} {L : List (Nat × Value)} {pc : Nat} {st : List Value}
/-- clone() of a byte array of one's own -/
theorem z_cloneB (C : zC X cc own ret nf nl hh) {index a n : Nat} {f : Nat → Value} (q1 : Cond.methodLink own index ⟨"[B", "clone", "()Ljava/lang/Object;"⟩ ∈ lw_all) (q2 : Cond.sameMethod "[B" "java/lang/Object" "clone" "()Ljava/lang/Object;" ∈ lw_all) (q3 : Cond.native ⟨"java/lang/Object", "clone", "()Ljava/lang/Object;"⟩ ∈ lw_all) (q4 : Cond.instanceMethod ⟨"java/lang/Object", "clone", "()Ljava/lang/Object;"⟩ ∈ lw_all)
    (q5 : Cond.selects "[B" ⟨"[B", "clone", "()Ljava/lang/Object;"⟩ ⟨"java/lang/Object", "clone", "()Ljava/lang/Object;"⟩ ∈ lw_all) (q6 : Cond.castable "[B" "java/lang/Cloneable" ∈ lw_tbl) (ha : h a = some (true, .inl (.byte, n, f))) (hfit : ∀ i, i < n → fits .byte (f i) = true)
    (hf : 1 ≤ nf) (hl : (st.map fun v => v.category).sum + 14 ≤ nl) (hkc : kc' + 1 ≤ kc) (hks : ks' + n ≤ ks) (d : decode cc pc = .ok (.invokevirtual index, 3)) (K : ∀ b, h b = none → Z X (zup h b (true, .inl (.byte, n, f))) kc' ks' L (pc + 3) (.ref b :: st)) : Z X h kc ks L pc (.ref a :: st) := by
  intro H locs cells slots ls hS
  obtain ⟨cell, h1, h2, h3, h4, h5⟩ := hS.arr ha
  have hB : "[" ++ FieldType.byte.toString = "[B" := by decide +kernel
  have hnm : X.st.vm.findClass "[B" = some cell.cls := by rw [← hB]; exact (h2 rfl).2
  obtain ⟨c0, t0', f1, f2, f3⟩ := Cond.castable_spec (va_Nw.use (A := X.1.2.2.2.2.2.2) rfl (C.K.2.1 _ q6 rfl))
  cases hnm.symm.trans f1
  intro T hT XX
  obtain ⟨-, kA, hkA, comp, hkind⟩ := State.isArrayOf_alike XX.warmed.alike h5.1
  obtain ⟨-, kS, hkS, compS, hkindS⟩ := h5.1
  have hsz : cell.slots.size = n := h5.2.1
  obtain ⟨vm', X', step⟩ := Stand.cloneArray XX C.x C.o (C.w _ q1) (C.w _ q2) (C.w _ q3) (C.w _ q4) (C.w _ q5) (a := a) (cell := cell) (by rw [hT]; exact h1) (fun k e => by rw [e] at h4; cases h4) h3 hnm f2 f3
    (fun i v hv => by
      have hi : i < n := by
        rcases Nat.lt_or_ge i n with g | g
        · exact g
        · rw [Array.getElem?_eq_none (by rw [hsz]; exact g)] at hv
          cases hv
      have hv2 := h5.2.2.1 i hi
      rw [hv2] at hv
      cases hv
      have hk' : T.vm.classes[cell.cls]? = some kA := hkA
      simpa [State.fitsSlot, State.slotType?, hk', hkind] using hfit i hi)
    (g := zF X pc ls (.ref a :: st)) rfl (by rw [C.m]; exact hS.2.2.2.2.1) rfl (by rw [C.b]; exact d) (by rw [C.nf]; exact hf) (by rw [C.nl]; show 2 * 0 + _ + 14 ≤ _; omega) (by rw [C.rc]; have := hS.2.2.1; omega) (by rw [C.rs, hsz]; have := hS.2.2.2.1; omega) (hloader := Vm.clonesLoader_of_array hkS hkindS)
  rw [hsz] at X'
  generalize hce : ({ cls := cell.cls, slots := cell.slots } : Cell) = ce at X' step
  have hcls : ce.cls = cell.cls := by rw [← hce]
  have hslots : ce.slots = cell.slots := by rw [← hce]
  have hvm0 : ce.vm = .none := by rw [← hce]
  generalize hH1 : H.push ce = H1
  have z1 : H1.size = H.size + 1 := by rw [← hH1, Array.size_push]
  have e1 : H1[H.size]? = some ce := by rw [← hH1, Array.getElem?_push_size]
  have o1 : ∀ q : Nat, q < H.size → H1[q]? = H[q]? := fun q hq => by rw [← hH1, Array.getElem?_push, if_neg (Nat.ne_of_lt hq)]
  have hz : zarr X.st (.byte, n, f) ce := ⟨zisArr h5.1 hcls (by rw [hvm0, (h2 rfl).1]), by rw [hslots]; exact hsz, fun j hj => by rw [hslots]; exact h5.2.2.1 j hj, fun E e => by cases e⟩
  obtain ⟨t, b1, b2⟩ := K H.size (hS.1.fresh (Nat.le_refl _)) H1 locs _ _ ls (zS.born C hS e1 hvm0 (show _ = some ce.cls by rw [hcls]; exact (h2 rfl).2) hz z1 o1 hkc hks) ((T.setVm vm').pushCell ce) (by rw [← hH1, ← hT]; rfl) X'
  refine ⟨t, step t ?_, b2⟩
  rw [hT]
  exact b1
/-- a cast of a byte array of one's own to byte[] -/
theorem z_castB (C : zC X cc own ret nf nl hh) {index a n : Nat} {f : Nat → Value} (q : Cond.classLink own index "[B" ∈ lw_all) (ha : h a = some (true, .inl (.byte, n, f))) (d : decode cc pc = .ok (.checkcast index, 3)) (K : Z X h kc ks L (pc + 3) (.ref a :: st)) : Z X h kc ks L pc (.ref a :: st) := by
  intro H locs cells slots ls hS
  obtain ⟨cell, h1, h2, h3, h4, h5⟩ := hS.arr ha
  have hB : "[" ++ FieldType.byte.toString = "[B" := by decide +kernel
  exact va_castE C.x C.b C.o (C.w _ q) ⟨cell, h1, h4, by rw [← hB]; exact (h2 rfl).2⟩ d (K H locs cells slots ls hS)
end ZCLONE

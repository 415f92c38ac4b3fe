/-! ===== Z rows: the heap ===== -/
set_option maxRecDepth 100000
section ZHEAP
variable {X : zT} {cc : ByteArray} {own : String} {ret : Option FieldType} {nf nl : Nat} {hh : List ExceptionTableEntry} {h : zH} {kc ks : Nat} {L : List (Nat × Value)} {pc : Nat} {st : List Value}
/-- an object's cell, opened -/
theorem zS.obj (C : zC X cc own ret nf nl hh) {H : Heap} {locs : List Loc} {cells slots : Nat} {ls : Array Slot} (hS : zS X h kc ks L H locs cells slots ls) {a ci : Nat} {fl : Bool} {fs : List Value} {Cn : String} {T : u_T} {N : Nat} (ha : h a = some (fl, .inr (ci, fs))) (hc : zcl[ci]? = some (Cn, T, N)) :
    ∃ cell : Cell, H[a]? = some cell ∧ (fl = true → cell.vm = .none) ∧ cell.vm ≠ .unknown ∧ cell.vm.isStatics = false ∧ cell.cls = X.Γ.1.1 ci ∧ (∀ k, k < N → cell.slots[X.Γ.1.2 ci k]? = some (vp_V fs k)) ∧ u_Kn X.st Cn T N (X.Γ.1.1 ci) (X.Γ.1.2 ci) := by
  obtain ⟨-, cell, h1, h2, h3, h4, r, h5, h6, h7⟩ := hS.1.2 a _ ha
  have hr : r = (Cn, T, N) := Option.some.inj (h5.symm.trans hc)
  subst hr
  exact ⟨cell, h1, fun e => (h2 e).1, h3, h4, h6, h7, C.K.1.1 ci _ hc⟩
theorem zS.recv (C : zC X cc own ret nf nl hh) {H : Heap} {locs : List Loc} {cells slots : Nat} {ls : Array Slot} (hS : zS X h kc ks L H locs cells slots ls) {a ci : Nat} {fl : Bool} {fs : List Value} {Cn : String} {T : u_T} {N : Nat} (ha : h a = some (fl, .inr (ci, fs))) (hc : zcl[ci]? = some (Cn, T, N)) :
    ∃ cell : Cell, H[a]? = some cell ∧ cell.vm.isStatics = false ∧ X.st.vm.findClass Cn = some cell.cls := by
  obtain ⟨cell, h1, -, -, h4, h5, -, h7⟩ := zS.obj C hS ha hc
  exact ⟨cell, h1, h4, by rw [h5]; exact h7.2.1⟩
theorem z_getfield (C : zC X cc own ret nf nl hh) {ref Cn : String} {T : u_T} {N ci index a : Nat} {fl : Bool} {fs : List Value} {v : Value} (hin : ∀ w ∈ u_ws Cn T N, w ∈ lw_all) (hc : zcl[ci]? = some (Cn, T, N)) (k : Nat) (hk : k < N)
    (q : Cond.fieldLink own index ref (T k).2.1 (T k).2.2.1 ∈ lw_all) (hsame : ∀ x, X.st.fieldFound? (T k).1 (T k).2.1 (T k).2.2.1 = some x → X.st.fieldFound? ref (T k).2.1 (T k).2.2.1 = some x)
    (ha : h a = some (fl, .inr (ci, fs))) (hv : fs[k]? = some v) (d : decode cc pc = .ok (.getfield index, 3)) (K : Z X h kc ks L (pc + 3) (v :: st)) : Z X h kc ks L pc (.ref a :: st) := by
  intro H locs cells slots ls hS
  obtain ⟨cell, h1, -, h3, -, h5, h6, hKn⟩ := zS.obj C hS ha hc
  obtain ⟨hSl, hfc, kC, hkC, hkind⟩ := hKn
  obtain ⟨cf, kf, fi, f, hi, hsl⟩ := hSl k hk
  refine W.getf C.x C.b C.o (C.w _ q) (hsame _ hi) (u_facts hfc hkC (u_lays C.w hin hk) hi).1 h1 h3 (v := v) ?_ rfl rfl d (K H locs cells slots ls hS)
  rw [hsl, h6 k hk]
  simp [vp_V, hv]
theorem z_getfieldN (C : zC X cc own ret nf nl hh) {ref Cn host : String} {T : u_T} {N ci index a : Nat} {fl : Bool} {fs : List Value} {v : Value} (hin : ∀ w ∈ u_ws Cn T N, w ∈ lw_all) (hc : zcl[ci]? = some (Cn, T, N)) (k : Nat) (hk : k < N)
    (q : Cond.fieldLinkNest own index ref (T k).2.1 (T k).2.2.1 host ∈ lw_tbl) (hsame : ∀ x, X.st.fieldFound? (T k).1 (T k).2.1 (T k).2.2.1 = some x → X.st.fieldFound? ref (T k).2.1 (T k).2.2.1 = some x)
    (ha : h a = some (fl, .inr (ci, fs))) (hv : fs[k]? = some v) (d : decode cc pc = .ok (.getfield index, 3)) (K : Z X h kc ks L (pc + 3) (v :: st)) : Z X h kc ks L pc (.ref a :: st) := by
  intro H locs cells slots ls hS
  obtain ⟨cell, h1, -, h3, -, h5, h6, hKn⟩ := zS.obj C hS ha hc
  obtain ⟨hSl, hfc, kC, hkC, hkind⟩ := hKn
  obtain ⟨cf, kf, fi, f, hi, hsl⟩ := hSl k hk
  refine va_Wgetf C.x C.b C.o (va_Nw.use rfl (C.K.2.1 _ q rfl)) (hsame _ hi) (u_facts hfc hkC (u_lays C.w hin hk) hi).1 h1 h3 (v := v) ?_ rfl rfl d (K H locs cells slots ls hS)
  rw [hsl, h6 k hk]
  simp [vp_V, hv]
theorem zS.set (C : zC X cc own ret nf nl hh) {H H1 : Heap} {locs : List Loc} {cells slots : Nat} {ls : Array Slot} (hS : zS X h kc ks L H locs cells slots ls) {a z : Nat} {e0 e : zE} {cell : Cell} (ha : h a = some (true, e0)) (h1 : H1[a]? = some cell) (hvm : cell.vm = .none) (hn : znm X.st e cell) (hv : zval X.Γ.1 X.st e cell) (hz : H1.size = H.size) (oq : ∀ q, q ≠ a → H1[q]? = H[q]?) :
    zS X (zup h a (true, e)) kc ks L H1 (locs ++ [⟨a, z⟩]) cells slots ls :=
  ⟨hS.1.put ha h1 hvm hn hv oq, hS.2.1.put hz oq ((hS.1.2 a _ ha).1 rfl), hS.2.2⟩
theorem z_putfield (C : zC X cc own ret nf nl hh) {ref Cn : String} {T : u_T} {N ci index a : Nat} {fs fs' : List Value} {v : Value} (hin : ∀ w ∈ u_ws Cn T N, w ∈ lw_all) (ty0 : Nat → FieldType) (hty : ∀ k, k < N → parseFieldDescriptor (T k).2.2.1 = some (ty0 k)) (hnm : ∀ a, a < N → ∀ b, b < N → a ≠ b → (T a).2.1 ≠ (T b).2.1) (hc : zcl[ci]? = some (Cn, T, N)) (k : Nat) (hk : k < N)
    (q : Cond.fieldLink own index ref (T k).2.1 (T k).2.2.1 ∈ lw_all) (hsame : ∀ x, X.st.fieldFound? (T k).1 (T k).2.1 (T k).2.2.1 = some x → X.st.fieldFound? ref (T k).2.1 (T k).2.2.1 = some x)
    (hfin : (T k).2.2.2 = false) (hn : narrow (ty0 k) v = v) (hfit : fits (ty0 k) v = true) (hl : k < fs.length)
    (ha : h a = some (true, .inr (ci, fs))) (hfs : fs.set k v = fs') (d : decode cc pc = .ok (.putfield index, 3)) (K : Z X (zup h a (true, .inr (ci, fs'))) kc ks L (pc + 3) st) : Z X h kc ks L pc (v :: .ref a :: st) := by
  subst hfs
  intro H locs cells slots ls hS
  obtain ⟨cell, h1, h2, h3, -, h5, h6, hKn⟩ := zS.obj C hS ha hc
  have hap := va_apart (own := own) C.w hin ty0 hty hnm C.K.1 hc
  obtain ⟨hSl, hfc, kC, hkC, hkind⟩ := hKn
  obtain ⟨cf, kf, fi, f, hi, hsl⟩ := hSl k hk
  have hlay := C.w _ (hin _ (u_in_lay hk))
  unfold u_lay at hlay
  rw [if_neg (by rw [hfin]; decide)] at hlay
  have hst := (u_facts hfc hkC (u_lays C.w hin hk) hi).1
  have hs6 := u_store hfc hkC hkind hlay hi (hty k hk) hn hfit
  refine W.putK C.x C.b (f := f) ⟨C.o, C.w _ q, ⟨_, _, _, hsame _ hi⟩, hst⟩ (by rw [h5]; exact hs6) h1 (h2 rfl) (by rw [hsl]; exact k2_hasslot (h6 k hk)) rfl rfl d fun H' e1 e2 e3 => ?_
  rw [hsl] at e1 ⊢
  refine K H' _ cells slots ls (zS.set C hS ha e1 (h2 rfl) trivial ?_ e2 e3)
  exact ⟨_, hc, h5, fun j hj => by rw [← vp_updV_set hl v j]; exact t_set h6 hap hk v j hj⟩
theorem z_putfieldF (C : zC X cc own ret nf nl hh) (hin2 : X.2.1.2.1.name = "<init>") {ref Cn : String} {T : u_T} {N ci index a : Nat} {fs fs' : List Value} {v : Value} (hin : ∀ w ∈ u_ws Cn T N, w ∈ lw_all) (ty0 : Nat → FieldType) (hty : ∀ k, k < N → parseFieldDescriptor (T k).2.2.1 = some (ty0 k)) (hnm : ∀ a, a < N → ∀ b, b < N → a ≠ b → (T a).2.1 ≠ (T b).2.1) (hc : zcl[ci]? = some (Cn, T, N)) (k : Nat) (hk : k < N)
    (q : Cond.fieldLink own index ref (T k).2.1 (T k).2.2.1 ∈ lw_all) (hsame : ∀ x, X.st.fieldFound? (T k).1 (T k).2.1 (T k).2.2.1 = some x → X.st.fieldFound? ref (T k).2.1 (T k).2.2.1 = some x)
    (hfin : (T k).2.2.2 = true) (hdecl : (T k).1 = own) (hn : narrow (ty0 k) v = v) (hfit : fits (ty0 k) v = true) (hl : k < fs.length)
    (ha : h a = some (true, .inr (ci, fs))) (hfs : fs.set k v = fs') (d : decode cc pc = .ok (.putfield index, 3)) (K : Z X (zup h a (true, .inr (ci, fs'))) kc ks L (pc + 3) st) : Z X h kc ks L pc (v :: .ref a :: st) := by
  subst hfs
  intro H locs cells slots ls hS
  obtain ⟨cell, h1, h2, h3, -, h5, h6, hKn⟩ := zS.obj C hS ha hc
  have hap := va_apart (own := own) C.w hin ty0 hty hnm C.K.1 hc
  obtain ⟨hSl, hfc, kC, hkC, hkind⟩ := hKn
  obtain ⟨cf, kf, fi, f, hi, hsl⟩ := hSl k hk
  have hlay := C.w _ (hin _ (u_in_lay hk))
  unfold u_lay at hlay
  rw [if_pos hfin] at hlay
  have hst := (u_facts hfc hkC (u_lays C.w hin hk) hi).1
  have hcf : X.1.2.2.2.2.2.1.cls = cf := by
    obtain ⟨_, _, c', _, _, _, -, -, hf', -, -, -, hown2, -⟩ := Cond.laysFinal_spec hlay
    have e1 : c' = cf := by have := hi.symm.trans hf'; simp at this; exact this.1.symm
    rw [hdecl] at hown2
    rw [← e1]; exact Option.some.inj (C.o.symm.trans hown2)
  have hs6 := u_fits hfc hkC hkind (Or.inr hlay) hi (hty k hk) hn hfit
  refine W.putFinK C.x C.b C.o (C.w _ q) (hsame _ hi) hst hcf hin2 (by rw [h5]; exact hs6) h1 (h2 rfl) (by rw [hsl]; exact k2_hasslot (h6 k hk)) rfl rfl d fun H' e1 e2 e3 => ?_
  rw [hsl] at e1 ⊢
  refine K H' _ cells slots ls (zS.set C hS ha e1 (h2 rfl) trivial ?_ e2 e3)
  exact ⟨_, hc, h5, fun j hj => by rw [← vp_updV_set hl v j]; exact t_set h6 hap hk v j hj⟩
theorem z_putfieldN (C : zC X cc own ret nf nl hh) {ref Cn host : String} {T : u_T} {N ci index a : Nat} {fs fs' : List Value} {v : Value} (hin : ∀ w ∈ u_ws Cn T N, w ∈ lw_all) (ty0 : Nat → FieldType) (hty : ∀ k, k < N → parseFieldDescriptor (T k).2.2.1 = some (ty0 k)) (hnm : ∀ a, a < N → ∀ b, b < N → a ≠ b → (T a).2.1 ≠ (T b).2.1) (hc : zcl[ci]? = some (Cn, T, N)) (k : Nat) (hk : k < N)
    (q : Cond.fieldLinkNest own index ref (T k).2.1 (T k).2.2.1 host ∈ lw_tbl) (hsame : ∀ x, X.st.fieldFound? (T k).1 (T k).2.1 (T k).2.2.1 = some x → X.st.fieldFound? ref (T k).2.1 (T k).2.2.1 = some x)
    (hfin : (T k).2.2.2 = false) (hn : narrow (ty0 k) v = v) (hfit : fits (ty0 k) v = true) (hl : k < fs.length)
    (ha : h a = some (true, .inr (ci, fs))) (hfs : fs.set k v = fs') (d : decode cc pc = .ok (.putfield index, 3)) (K : Z X (zup h a (true, .inr (ci, fs'))) kc ks L (pc + 3) st) : Z X h kc ks L pc (v :: .ref a :: st) := by
  subst hfs
  intro H locs cells slots ls hS
  obtain ⟨cell, h1, h2, h3, -, h5, h6, hKn⟩ := zS.obj C hS ha hc
  have hap := va_apart (own := own) C.w hin ty0 hty hnm C.K.1 hc
  obtain ⟨hSl, hfc, kC, hkC, hkind⟩ := hKn
  obtain ⟨cf, kf, fi, f, hi, hsl⟩ := hSl k hk
  have hlay := C.w _ (hin _ (u_in_lay hk))
  unfold u_lay at hlay
  rw [if_neg (by rw [hfin]; decide)] at hlay
  have hst := (u_facts hfc hkC (u_lays C.w hin hk) hi).1
  have hs6 := u_store hfc hkC hkind hlay hi (hty k hk) hn hfit
  refine va_WputK C.x C.b (f := f) C.o (va_Nw.use rfl (C.K.2.1 _ q rfl)) (hsame _ hi) hst (by rw [h5]; exact hs6) h1 (h2 rfl) (by rw [hsl]; exact k2_hasslot (h6 k hk)) rfl rfl d fun H' e1 e2 e3 => ?_
  rw [hsl] at e1 ⊢
  refine K H' _ cells slots ls (zS.set C hS ha e1 (h2 rfl) trivial ?_ e2 e3)
  exact ⟨_, hc, h5, fun j hj => by rw [← vp_updV_set hl v j]; exact t_set h6 hap hk v j hj⟩
theorem zS.born (C : zC X cc own ret nf nl hh) {H H1 : Heap} {locs : List Loc} {cells slots kc' ks' n : Nat} {ls : Array Slot} (hS : zS X h kc ks L H locs cells slots ls) {e : zE} {cell : Cell} (h1 : H1[H.size]? = some cell) (hvm : cell.vm = .none) (hn : znm X.st e cell) (hv : zval X.Γ.1 X.st e cell) (hz : H1.size = H.size + 1) (oq : ∀ q, q < H.size → H1[q]? = H[q]?) (hkc : kc' + 1 ≤ kc) (hks : ks' + n ≤ ks) :
    zS X (zup h H.size (true, e)) kc' ks' L H1 locs (cells + 1) (slots + n) ls := by
  have h0 := hS.2.1
  refine ⟨hS.1.push (Nat.le_trans C.a h0.1) h1 hvm hn hv oq, ⟨Nat.le_trans h0.1 (by omega), fun x g1 g2 => (oq x (Nat.lt_of_lt_of_le g1 h0.1)).trans (h0.2.1 x g1 g2), h0.2.2⟩, ?_, ?_, hS.2.2.2.2⟩
  · have := hS.2.2.1; omega
  · have := hS.2.2.2.1; omega
theorem z_new (C : zC X cc own ret nf nl hh) {Cn : String} {T : u_T} {N ci index kc' ks' : Nat} {fs : List Value} (hin : ∀ w ∈ u_ws Cn T N, w ∈ lw_all) (ty : Nat → FieldType) (hty : ∀ k, k < N → parseFieldDescriptor (T k).2.2.1 = some (ty k)) (hc : zcl[ci]? = some (Cn, T, N))
    (q1 : Cond.classLink own index Cn ∈ lw_all) (q2 : Cond.instantiable Cn N ∈ lw_all) (q3 : Cond.initialized Cn ∈ lw_all) (hfs : ∀ j, j < N → defaultValue (ty j) = vp_V fs j) (hkc : kc' + 1 ≤ kc) (hks : ks' + N ≤ ks)
    (d : decode cc pc = .ok (.new index, 3)) (K : ∀ a, h a = none → Z X (zup h a (true, .inr (ci, fs))) kc' ks' L (pc + 3) (.ref a :: st)) : Z X h kc ks L pc st := by
  intro H locs cells slots ls hS
  have hKn := C.K.1.1 ci _ hc
  refine W.newcK C.x C.b C.o (C.w _ q1) (C.w _ q2) (C.w _ q3) rfl d (by rw [C.rc]; have := hS.2.2.1; omega) (by rw [C.rs]; have := hS.2.2.2.1; omega) hKn.2.1 rfl fun H1 kC hkC e1 z1 o1 => ?_
  have hb := (u_born ty C.w hin hKn hkC e1 hty).to hfs
  obtain ⟨cell, g1, g2, g3, g4⟩ := hb
  exact K H.size (hS.1.fresh (Nat.le_refl _)) H1 locs _ _ ls (zS.born C hS g1 g3 trivial ⟨_, hc, g2, g4⟩ z1 o1 hkc hks)
end ZHEAP
section ZARR
variable {X : zT} {cc : ByteArray} {own : String} {ret : Option FieldType} {nf nl : Nat} {hh : List ExceptionTableEntry} {h : zH} {kc ks : Nat} {L : List (Nat × Value)} {pc : Nat} {st : List Value}
theorem zisArr {U : State} {c1 c2 : Cell} {ty : FieldType} (h : U.isArrayOf c1 ty) (hc : c2.cls = c1.cls) (hv : c2.vm = c1.vm) : U.isArrayOf c2 ty := by
  obtain ⟨h1, k, hk, comp, h2⟩ := h
  exact ⟨fun z hz => h1 z (by rw [← hv]; exact hz), k, by rw [hc]; exact hk, comp, h2⟩
/-- an array's cell, opened -/
theorem zS.arr {H : Heap} {locs : List Loc} {cells slots : Nat} {ls : Array Slot} (hS : zS X h kc ks L H locs cells slots ls) {a : Nat} {fl : Bool} {x : FieldType × Nat × (Nat → Value)} (ha : h a = some (fl, .inl x)) :
    ∃ cell : Cell, H[a]? = some cell ∧ (fl = true → cell.vm = .none ∧ X.st.vm.findClass ("[" ++ x.1.toString) = some cell.cls) ∧ cell.vm ≠ .unknown ∧ cell.vm.isStatics = false ∧ zarr X.st x cell := by
  obtain ⟨-, cell, h1, h2, h3, h4, h5⟩ := hS.1.2 a _ ha
  exact ⟨cell, h1, h2, h3, h4, h5⟩
theorem zin {n : Nat} {cell : Cell} {i : Int} (hz : cell.slots.size = n) (hi : 0 ≤ i ∧ i < n ∧ i ≤ 2147483647) : ¬ (iI i < 0 ∨ cell.slots.size ≤ (iI i).toNatClampNeg) := by
  rw [hz]
  exact iI_in hi.1 hi.2.1 hi.2.2
theorem zat {x : FieldType × Nat × (Nat → Value)} {U : State} {cell : Cell} {i : Int} {v : Value} (hz : zarr U x cell) (hi : 0 ≤ i ∧ i < x.2.1 ∧ i ≤ 2147483647) (hv : x.2.2 i.toNat = v) : cell.slots[(iI i).toNatClampNeg]? = some v := by
  rw [iI_nat hi.1 hi.2.2, hz.2.2.1 _ (by omega), hv]
theorem z_alen (C : zC X cc own ret nf nl hh) {a n : Nat} {fl : Bool} {ty : FieldType} {f : Nat → Value} (ha : h a = some (fl, .inl (ty, n, f))) (d : decode cc pc = .ok (.arraylength, 1)) (K : Z X h kc ks L (pc + 1) (.int (iI n) :: st)) : Z X h kc ks L pc (.ref a :: st) := by
  intro H locs cells slots ls hS
  obtain ⟨cell, h1, -, h3, -, h5⟩ := hS.arr ha
  exact W.alen (n := iI n) C.x C.b h1 h5.1 (by rw [h5.2.1]; exact iI_ofNat n) rfl rfl d (K H locs cells slots ls hS)
theorem z_iaload (C : zC X cc own ret nf nl hh) {a n : Nat} {i : Int} {fl : Bool} {f : Nat → Value} {v : Value} (ha : h a = some (fl, .inl (.int, n, f))) (hi : 0 ≤ i ∧ i < n ∧ i ≤ 2147483647) (hv : f i.toNat = v) (d : decode cc pc = .ok (.iaload, 1)) (K : Z X h kc ks L (pc + 1) (v :: st)) : Z X h kc ks L pc (.int (iI i) :: .ref a :: st) := by
  intro H locs cells slots ls hS
  obtain ⟨cell, h1, -, h3, -, h5⟩ := hS.arr ha
  exact W.iald (v := v) C.x C.b h1 h5.1 h3 (zin h5.2.1 hi) (zat h5 hi hv) rfl rfl d (K H locs cells slots ls hS)
theorem z_baload (C : zC X cc own ret nf nl hh) {a n : Nat} {i : Int} {fl : Bool} {f : Nat → Value} {v : Value} (ha : h a = some (fl, .inl (.byte, n, f))) (hi : 0 ≤ i ∧ i < n ∧ i ≤ 2147483647) (hv : f i.toNat = v) (d : decode cc pc = .ok (.baload, 1)) (K : Z X h kc ks L (pc + 1) (v :: st)) : Z X h kc ks L pc (.int (iI i) :: .ref a :: st) := by
  intro H locs cells slots ls hS
  obtain ⟨cell, h1, -, h3, -, h5⟩ := hS.arr ha
  exact W.bald (v := v) C.x C.b h1 h5.1 h3 (zin h5.2.1 hi) (zat h5 hi hv) rfl rfl d (K H locs cells slots ls hS)
theorem z_caload (C : zC X cc own ret nf nl hh) {a n : Nat} {i : Int} {fl : Bool} {f : Nat → Value} {v : Value} (ha : h a = some (fl, .inl (.char, n, f))) (hi : 0 ≤ i ∧ i < n ∧ i ≤ 2147483647) (hv : f i.toNat = v) (d : decode cc pc = .ok (.caload, 1)) (K : Z X h kc ks L (pc + 1) (v :: st)) : Z X h kc ks L pc (.int (iI i) :: .ref a :: st) := by
  intro H locs cells slots ls hS
  obtain ⟨cell, h1, -, h3, -, h5⟩ := hS.arr ha
  exact W.cald (v := v) C.x C.b h1 h5.1 h3 (zin h5.2.1 hi) (zat h5 hi hv) rfl rfl d (K H locs cells slots ls hS)
theorem z_laload (C : zC X cc own ret nf nl hh) {a n : Nat} {i : Int} {fl : Bool} {f : Nat → Value} {v : Value} (ha : h a = some (fl, .inl (.long, n, f))) (hi : 0 ≤ i ∧ i < n ∧ i ≤ 2147483647) (hv : f i.toNat = v) (d : decode cc pc = .ok (.laload, 1)) (K : Z X h kc ks L (pc + 1) (v :: st)) : Z X h kc ks L pc (.int (iI i) :: .ref a :: st) := by
  intro H locs cells slots ls hS
  obtain ⟨cell, h1, -, h3, -, h5⟩ := hS.arr ha
  exact W.lald (v := v) C.x C.b h1 h5.1 h3 (zin h5.2.1 hi) (zat h5 hi hv) rfl rfl d (K H locs cells slots ls hS)
theorem z_aaload (C : zC X cc own ret nf nl hh) {a n : Nat} {i : Int} {fl : Bool} {E : String} {f : Nat → Value} {v : Value} (ha : h a = some (fl, .inl (.object E, n, f))) (hi : 0 ≤ i ∧ i < n ∧ i ≤ 2147483647) (hv : f i.toNat = v) (d : decode cc pc = .ok (.aaload, 1)) (K : Z X h kc ks L (pc + 1) (v :: st)) : Z X h kc ks L pc (.int (iI i) :: .ref a :: st) := by
  intro H locs cells slots ls hS
  obtain ⟨cell, h1, -, h3, -, h5⟩ := hS.arr ha
  exact W.aald (v := v) (ty := .object E) C.x C.b h1 h5.1 rfl h3 (zin h5.2.1 hi) (zat h5 hi hv) rfl rfl d (K H locs cells slots ls hS)
/-- a place of an array is another now -/
theorem zarr.put {U : State} {x : FieldType × Nat × (Nat → Value)} {cell : Cell} {k : Nat} (v : Value) (h : zarr U x cell) : zarr U (x.1, x.2.1, updV x.2.2 k v) (cell.setSlot k v) := by
  refine ⟨zisArr h.1 rfl rfl, by simp [Cell.setSlot, h.2.1], fun j hj => ?_, h.2.2.2⟩
  have hj2 : j < x.2.1 := hj
  have h3 := h.2.2.1 j hj2
  by_cases e : j = k
  · subst e
    have hlt := (Array.getElem?_eq_some_iff.mp h3).1
    simp [Cell.setSlot, updV, hlt]
  · simp only [Cell.setSlot, updV, if_neg e]
    rw [Array.getElem?_setIfInBounds_ne (fun z => e z.symm)]
    exact h3
theorem z_iastore (C : zC X cc own ret nf nl hh) {a n : Nat} {i : Int} {x : Int32} {f f' : Nat → Value} (ha : h a = some (true, .inl (.int, n, f))) (hi : 0 ≤ i ∧ i < n ∧ i ≤ 2147483647) (hf : updV f i.toNat (.int x) = f') (d : decode cc pc = .ok (.iastore, 1)) (K : Z X (zup h a (true, .inl (.int, n, f'))) kc ks L (pc + 1) st) : Z X h kc ks L pc (.int x :: .int (iI i) :: .ref a :: st) := by
  subst hf
  intro H locs cells slots ls hS
  obtain ⟨cell, h1, h2, h3, -, h5⟩ := hS.arr ha
  refine W.iast C.x C.b h1 h5.1 h3 (zin h5.2.1 hi) rfl rfl d fun H1 e z oq => ?_
  rw [iI_nat hi.1 hi.2.2] at e ⊢
  exact K H1 _ cells slots ls (zS.set C hS ha e (h2 rfl).1 (h2 rfl).2 (h5.put _) z oq)
theorem z_lastore (C : zC X cc own ret nf nl hh) {a n : Nat} {i : Int} {x : Int64} {f f' : Nat → Value} (ha : h a = some (true, .inl (.long, n, f))) (hi : 0 ≤ i ∧ i < n ∧ i ≤ 2147483647) (hf : updV f i.toNat (.long x) = f') (d : decode cc pc = .ok (.lastore, 1)) (K : Z X (zup h a (true, .inl (.long, n, f'))) kc ks L (pc + 1) st) : Z X h kc ks L pc (.long x :: .int (iI i) :: .ref a :: st) := by
  subst hf
  intro H locs cells slots ls hS
  obtain ⟨cell, h1, h2, h3, -, h5⟩ := hS.arr ha
  refine W.last C.x C.b h1 h5.1 h3 (zin h5.2.1 hi) rfl rfl d fun H1 e z oq => ?_
  rw [iI_nat hi.1 hi.2.2] at e ⊢
  exact K H1 _ cells slots ls (zS.set C hS ha e (h2 rfl).1 (h2 rfl).2 (h5.put _) z oq)
theorem z_bastore (C : zC X cc own ret nf nl hh) {a n : Nat} {i : Int} {x : Int32} {f f' : Nat → Value} (hx : narrow .byte (.int x) = .int x) (ha : h a = some (true, .inl (.byte, n, f))) (hi : 0 ≤ i ∧ i < n ∧ i ≤ 2147483647) (hf : updV f i.toNat (.int x) = f') (d : decode cc pc = .ok (.bastore, 1)) (K : Z X (zup h a (true, .inl (.byte, n, f'))) kc ks L (pc + 1) st) : Z X h kc ks L pc (.int x :: .int (iI i) :: .ref a :: st) := by
  subst hf
  intro H locs cells slots ls hS
  obtain ⟨cell, h1, h2, h3, -, h5⟩ := hS.arr ha
  refine W.bast C.x C.b h1 h5.1 h3 (zin h5.2.1 hi) rfl rfl d fun H1 e z oq => ?_
  rw [iI_nat hi.1 hi.2.2, hx] at e
  rw [iI_nat hi.1 hi.2.2]
  exact K H1 _ cells slots ls (zS.set C hS ha e (h2 rfl).1 (h2 rfl).2 (h5.put _) z oq)
theorem z_castore (C : zC X cc own ret nf nl hh) {a n : Nat} {i : Int} {x : Int32} {f f' : Nat → Value} (hx : narrow .char (.int x) = .int x) (ha : h a = some (true, .inl (.char, n, f))) (hi : 0 ≤ i ∧ i < n ∧ i ≤ 2147483647) (hf : updV f i.toNat (.int x) = f') (d : decode cc pc = .ok (.castore, 1)) (K : Z X (zup h a (true, .inl (.char, n, f'))) kc ks L (pc + 1) st) : Z X h kc ks L pc (.int x :: .int (iI i) :: .ref a :: st) := by
  subst hf
  intro H locs cells slots ls hS
  obtain ⟨cell, h1, h2, h3, -, h5⟩ := hS.arr ha
  refine W.cast C.x C.b h1 h5.1 h3 (zin h5.2.1 hi) rfl rfl d fun H1 e z oq => ?_
  rw [iI_nat hi.1 hi.2.2, hx] at e
  rw [iI_nat hi.1 hi.2.2]
  exact K H1 _ cells slots ls (zS.set C hS ha e (h2 rfl).1 (h2 rfl).2 (h5.put _) z oq)
/-- a value that may lie in an array of E in the heap h: null, or an object of a class of the list -/
def zfit (E : String) (h : zH) (v : Value) : Prop := v = .null ∨ ∃ (q : Nat) (fl : Bool) (ci : Nat) (fs : List Value) (r : vw_C), v = .ref q ∧ h q = some (fl, .inr (ci, fs)) ∧ zcl[ci]? = some r ∧ (r.1 = E ∨ Cond.castable r.1 E ∈ lw_tbl)
theorem zfit.asg (C : zC X cc own ret nf nl hh) {E : String} {ci : Nat} {r : vw_C} (hr : zcl[ci]? = some r) (he : r.1 = E ∨ Cond.castable r.1 E ∈ lw_tbl) {comp : ClassId} (hc : X.st.vm.findClass E = some comp) : X.st.vm.assignable (X.Γ.1.1 ci) comp = true := by
  have hcls := (C.K.1.1 ci r hr).2
  rcases he with e | e
  · rw [← e] at hc
    cases hcls.1.symm.trans hc
    exact va_assign hcls
  · obtain ⟨c0, t0, f1, f2, f3⟩ := Cond.castable_spec (va_Nw.use (A := X.1.2.2.2.2.2.2) rfl (C.K.2.1 _ e rfl))
    cases f1.symm.trans hcls.1
    cases f2.symm.trans hc
    exact f3
theorem z_aastore (C : zC X cc own ret nf nl hh) {a n v ci : Nat} {i : Int} {E : String} {fl : Bool} {fs : List Value} {r : vw_C} {f f' : Nat → Value} (hr : zcl[ci]? = some r) (he : r.1 = E ∨ Cond.castable r.1 E ∈ lw_tbl) (hv : h v = some (fl, .inr (ci, fs))) (ha : h a = some (true, .inl (.object E, n, f))) (hi : 0 ≤ i ∧ i < n ∧ i ≤ 2147483647) (hf : updV f i.toNat (.ref v) = f') (d : decode cc pc = .ok (.aastore, 1)) (K : Z X (zup h a (true, .inl (.object E, n, f'))) kc ks L (pc + 1) st) : Z X h kc ks L pc (.ref v :: .int (iI i) :: .ref a :: st) := by
  subst hf
  intro H locs cells slots ls hS
  obtain ⟨cell, h1, h2, h3, h4, h5⟩ := hS.arr ha
  obtain ⟨r1, r2, r3⟩ := r
  obtain ⟨cv, g1, -, -, g4, g5, -, g7⟩ := zS.obj C hS hv hr
  obtain ⟨kA, comp, k1, k2, k3, -⟩ := h5.2.2.2 E rfl
  obtain ⟨kE, hkE, -⟩ := Vm.findClass_spec k3
  obtain ⟨kC, hkC, -⟩ := g7.2.2
  have hin := zin h5.2.1 hi
  refine W.aast C.x C.b h1 (fun q e => by rw [e] at h4; cases h4) h3 k1 k2 rfl hkE ⟨fun e => hin (Or.inl e), Nat.not_le.mp fun e => hin (Or.inr e)⟩ g1 (fun q e => by rw [e] at g4; cases g4) (by rw [g5]; exact hkC) (by rw [g5]; exact zfit.asg C hr he k3) rfl rfl d fun H1 e z oq => ?_
  rw [iI_nat hi.1 hi.2.2] at e ⊢
  exact K H1 _ cells slots ls (zS.set C hS ha e (h2 rfl).1 (h2 rfl).2 (h5.put _) z oq)
theorem z_aastoreN (C : zC X cc own ret nf nl hh) {a n : Nat} {i : Int} {E : String} {f f' : Nat → Value} (ha : h a = some (true, .inl (.object E, n, f))) (hi : 0 ≤ i ∧ i < n ∧ i ≤ 2147483647) (hf : updV f i.toNat .null = f') (d : decode cc pc = .ok (.aastore, 1)) (K : Z X (zup h a (true, .inl (.object E, n, f'))) kc ks L (pc + 1) st) : Z X h kc ks L pc (.null :: .int (iI i) :: .ref a :: st) := by
  subst hf
  intro H locs cells slots ls hS
  obtain ⟨cell, h1, h2, h3, h4, h5⟩ := hS.arr ha
  refine va_WaastN (C := E) C.x C.b h1 h5.1 h3 (zin h5.2.1 hi) rfl rfl d fun H1 e z oq => ?_
  rw [iI_nat hi.1 hi.2.2] at e ⊢
  exact K H1 _ cells slots ls (zS.set C hS ha e (h2 rfl).1 (h2 rfl).2 (h5.put _) z oq)
theorem z_newarray (C : zC X cc own ret nf nl hh) {atype : ArrayType} {ty : FieldType} {n : Int} {kc' ks' : Nat} (hty : newarray.typeOf atype = ty) (q : Cond.arrayClass ty ∈ lw_all) (hn : 0 ≤ n ∧ n ≤ 2147483647) (hb : n.toNat * componentBytes ty ≤ 536870912) (hkc : kc' + 1 ≤ kc) (hks : ks' + n.toNat ≤ ks) (hno : ∀ E, ty ≠ .object E) (d : decode cc pc = .ok (.newarray atype, 2))
    (K : ∀ a, h a = none → Z X (zup h a (true, .inl (ty, n.toNat, fun _ => defaultValue ty))) kc' ks' L (pc + 2) (.ref a :: st)) : Z X h kc ks L pc (.int (iI n) :: st) := by
  subst hty
  intro H locs cells slots ls hS
  have hN : (iI n).toNatClampNeg = n.toNat := iI_nat hn.1 hn.2
  refine va_newaK (N := n.toNat) C.x C.b (C.w _ q) rfl d rfl (by rw [show (0 : Int32) = iI 0 from rfl, iI_lt (by omega) hn.2 (by decide) (by decide)]; omega) hN hb (by rw [C.rc]; have := hS.2.2.1; omega) (by rw [C.rs]; have := hS.2.2.2.1; omega) rfl fun H1 cA e1 z1 o1 hAr hNm => ?_
  refine K H.size (hS.1.fresh (Nat.le_refl _)) H1 locs _ _ ls (zS.born C hS e1 rfl hNm ?_ z1 o1 hkc hks)
  exact ⟨hAr _ _, arrV_size _ _ _, fun j hj => arrV_read _ _ hj, fun E e => absurd e (hno E)⟩
theorem z_anewarray (C : zC X cc own ret nf nl hh) {E : String} {index : Nat} {n : Int} {kc' ks' : Nat} (q : Cond.classLink own index E ∈ lw_all) (q2 : Cond.arrayOver (.object E) ∈ lw_tbl) (hn : 0 ≤ n ∧ n * 4 ≤ 536870912) (hkc : kc' + 1 ≤ kc) (hks : ks' + n.toNat ≤ ks) (d : decode cc pc = .ok (.anewarray index, 3))
    (K : ∀ a, h a = none → Z X (zup h a (true, .inl (.object E, n.toNat, fun _ => .null))) kc' ks' L (pc + 3) (.ref a :: st)) : Z X h kc ks L pc (.int (iI n) :: st) := by
  intro H locs cells slots ls hS
  have hN : (iI n).toNatClampNeg = n.toNat := iI_nat hn.1 (by omega)
  refine W.anew C.x C.b C.o (C.w _ q) (va_AO.use (C.K.2.1 _ q2 rfl)) rfl d rfl (by rw [show (0 : Int32) = iI 0 from rfl, iI_lt (by omega) (by omega) (by decide) (by decide)]; omega) (by rw [hN]; omega) (by rw [C.rc]; have := hS.2.2.1; omega) (by rw [C.rs, hN]; have := hS.2.2.2.1; omega) fun cA kA comp f1 f2 f3 f4 => ?_
  rw [hN]
  refine K H.size (hS.1.fresh (Nat.le_refl _)) _ locs _ _ ls (zS.born C hS (cell := { cls := cA, slots := Array.replicate n.toNat .null, vm := .none }) (by simp) rfl f1 ?_ (by simp) (fun q hq => by rw [Array.getElem?_push, if_neg (Nat.ne_of_lt hq)]) hkc hks)
  refine ⟨⟨fun k e => (by cases e), kA, f2, comp, f3⟩, by simp, fun j hj => ?_, fun E' e => ?_⟩
  · have hj2 : j < n.toNat := hj
    simp [hj2]
  · cases e
    exact ⟨kA, comp, f2, f3, f4, f1⟩
end ZARR

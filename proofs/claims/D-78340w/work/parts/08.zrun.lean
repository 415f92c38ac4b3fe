/-! ===== Z rows: calls, exceptions ===== -/
set_option maxRecDepth 100000
section ZRUN
variable {X : zT} {cc : ByteArray} {own : String} {ret : Option FieldType} {nf nl : Nat} {hh : List ExceptionTableEntry} {h : zH} {kc ks kc' ks' : Nat} {L : List (Nat × Value)} {pc : Nat} {st rest : List Value}
variable {y : MethodName} {bytes : ByteArray} {maxL mc ms nf' nl' index n b ci : Nat} {ret' : Option FieldType} {post : zR → zH → Prop} {As : List Value} {fl : Bool} {fs : List Value} {Cn : String} {T : u_T} {N : Nat}
theorem zpre (C : zC X cc own ret nf nl hh) {H : Heap} {locs : List Loc} {cells slots : Nat} {ls : Array Slot} (hS : zS X h kc ks L H locs cells slots ls) (Bs : List Value) : ∀ U : State, U.heap = H → X.st.WarmedH U.vm → zPc X.Γ h Bs Bs.toArray U := by
  intro U hU hW
  refine ⟨rfl, by rw [hU]; exact hS.1.moved hW.alike, C.K.go hS.2.1 hW hU, ?_⟩
  rw [hU]
  exact Nat.le_trans C.a hS.2.1.1
/-- behind a call -/
theorem z_run (C : zC X cc own ret nf nl hh) {st0 : List Value} {a : Array Value} (hr : ∀ H locs cells slots ls, zS X h kc ks L H locs cells slots ls → vx_Run X.1.1 X.1.2.1 X.1.2.2.1 X.1.2.2.2.1 X.1.2.2.2.2.1 X.1.2.2.2.2.2.1 X.1.2.2.2.2.2.2 X.2.1.1 X.2.1.2.1 X.2.1.2.2.1 H locs cells slots mc ms (zF X pc ls st0) rest (zQc X.Γ post a) (zXC X.Γ post) (zA X.Γ))
    (hc : kc' + mc ≤ kc) (hs : ks' + ms ≤ ks) (kk : ∀ v h', post (.inl v) h' → Z X h' kc' ks' L (pc + 3) (v.toList ++ rest)) (kx : ∀ E q h', post (.inr (E, q)) h' → ZX X h' kc' ks' L pc E q) : Z X h kc ks L pc st0 := by
  intro H locs cells slots ls hS T hT XX
  have hk : ∀ {st₀ t T' : State} {Ls : List Loc} {h' : zH}, st₀.heap = H → Stand X.1.1 X.1.2.1 X.1.2.2.1 X.1.2.2.2.1 X.1.2.2.2.2.1 X.1.2.2.2.2.2.1 X.1.2.2.2.2.2.2 X.2.1.1 X.2.1.2.1 X.2.1.2.2.1 T' (locs ++ Ls) (cells + mc) (slots + ms) → (∀ q ∈ Ls, zA X.Γ q.base) → T'.heap = t.heap → T'.vm = t.vm → zHP X.Γ t h' t.heap → va_F (zA X.Γ) st₀ t → zS X h' kc' ks' L T'.heap (locs ++ Ls) (cells + mc) (slots + ms) ls := by
    intro st₀ t T' Ls h' h0 X' hL e1 e2 hP hF
    obtain ⟨k1, k2, k3⟩ := vx_keep h0 e1 hS.2.1 (fun q _ z => z) (fun q z => z) hL hF
    refine ⟨?_, k3, by have := hS.2.2.1; omega, by have := hS.2.2.2.1; omega, hS.2.2.2.2⟩
    rw [e1]
    have hW : X.1.2.2.2.2.1.WarmedH T'.vm := X'.warmed
    rw [e2] at hW
    exact hP.moved hW.alike.symm
  rcases hr H locs cells slots ls hS T hT XX with ⟨v, st₀, t, T', Ls, h0, X', hL, e1, e2, ⟨v', h', hv, hp, hP, hF⟩, step⟩ | ⟨q, st₀, t, T', Ls, E, ce, h0, X', hL, e1, e2, ⟨h', hp, hP, hF⟩, hce, hcv, hcl, step⟩
  · cases hv
    obtain ⟨t2, a1, b1⟩ := kk v h' hp _ _ _ _ ls (hk h0 X' hL e1 e2 hP hF) T' rfl X'
    exact ⟨t2, step t2 a1, b1⟩
  · obtain ⟨t2, a1, b1⟩ := kx E q h' hp _ _ _ _ ls rest ce (hk h0 X' hL e1 e2 hP hF) (by rw [e1]; exact hce) hcv hcl T' rfl X'
    exact ⟨t2, step.trans a1, b1⟩
theorem z_callV (C : zC X cc own ret nf nl hh) (hM : zMet X.l y (ws_ y bytes maxL ret') ({ frames := nf', cells := mc, slots := ms, locals := nl' }) X.Γ h (.ref b :: As) post mc ms) (hw : GoodIn lw_all (wsV own index Cn y (ws_ y bytes maxL ret')))
    (hd : y.cls = Cn ∧ y.cls ≠ "java/lang/invoke/MethodHandle" ∧ y.cls ≠ "java/lang/invoke/VarHandle" ∧ (parseMethodDescriptor y.desc).map (fun d => d.parameters.length) = some n) (hR : nf' + 1 ≤ nf ∧ 8 + (maxL + 11) + nl' ≤ nl)
    (hb : h b = some (fl, .inr (ci, fs))) (hci : zcl[ci]? = some (Cn, T, N)) (hn : As.length = n) (hst : st = As.reverse ++ .ref b :: rest) (hcat : (rest.map fun v => v.category).sum ≤ 8) (d : decode cc pc = .ok (.invokevirtual index, 3)) (hc : kc' + mc ≤ kc) (hs : ks' + ms ≤ ks)
    (kk : ∀ v h', post (.inl v) h' → Z X h' kc' ks' L (pc + 3) (v.toList ++ rest)) (kx : ∀ E q h', post (.inr (E, q)) h' → ZX X h' kc' ks' L pc E q) : Z X h kc ks L pc st :=
  z_run C (fun H locs cells slots ls hS => vx_runV ⟨C.x, C.b, C.m, C.o, C.w⟩ hM (cwV n C.w hw rfl rfl rfl hd (by rw [C.nf, C.nl]; exact hR)) ⟨zPc.blind _ _ _, zS.recv C hS hb hci, zpre C hS _⟩ rfl hn hS.2.2.2.2.1 hst (by show 2 * 0 + _ ≤ 8; omega) d (by rw [C.rc, C.rs]; have := hS.2.2.1; have := hS.2.2.2.1; omega)) hc hs kk kx
theorem z_callS (C : zC X cc own ret nf nl hh) (hM : zMet X.l y (ws_ y bytes maxL ret') ({ frames := nf', cells := mc, slots := ms, locals := nl' }) X.Γ h As post mc ms) (hw : GoodIn lw_all (va_wsS own index y (ws_ y bytes maxL ret')))
    (hd : y.cls ≠ "java/lang/invoke/MethodHandle" ∧ y.cls ≠ "java/lang/invoke/VarHandle" ∧ (parseMethodDescriptor y.desc).map (fun d => d.parameters.length) = some n) (hR : nf' + 1 ≤ nf ∧ 8 + (maxL + 11) + nl' ≤ nl)
    (hn : As.length = n) (hst : st = As.reverse ++ rest) (hcat : (rest.map fun v => v.category).sum ≤ 8) (d : decode cc pc = .ok (.invokestatic index, 3)) (hc : kc' + mc ≤ kc) (hs : ks' + ms ≤ ks)
    (kk : ∀ v h', post (.inl v) h' → Z X h' kc' ks' L (pc + 3) (v.toList ++ rest)) (kx : ∀ E q h', post (.inr (E, q)) h' → ZX X h' kc' ks' L pc E q) : Z X h kc ks L pc st :=
  z_run C (fun H locs cells slots ls hS => vx_runS ⟨C.x, C.b, C.m, C.o, C.w⟩ hM (va_cwS n C.w hw rfl rfl rfl hd (by rw [C.nf, C.nl]; exact hR)) ⟨zPc.blind _ _ _, zpre C hS _⟩ rfl hn hS.2.2.2.2.1 hst (by show 2 * 0 + _ ≤ 8; omega) d (by rw [C.rc, C.rs]; have := hS.2.2.1; have := hS.2.2.2.1; omega)) hc hs kk kx
theorem z_callI (C : zC X cc own ret nf nl hh) (hM : zMet X.l y (ws_ y bytes maxL none) ({ frames := nf', cells := mc, slots := ms, locals := nl' }) X.Γ h (.ref b :: As) post mc ms) (hcode : Cond.code y bytes maxL none ∈ lw_all) (q1 : Cond.initialized y.cls ∈ lw_all) (q2 : Cond.methodLink own index y ∈ lw_all) (q3 : Cond.instanceMethod y ∈ lw_all) (hy1 : y.name = "<init>")
    (hd : y.cls ≠ "java/lang/invoke/MethodHandle" ∧ y.cls ≠ "java/lang/invoke/VarHandle" ∧ (parseMethodDescriptor y.desc).map (fun d => d.parameters.length) = some n) (hR : nf' + 1 ≤ nf ∧ 8 + (maxL + 11) + nl' ≤ nl)
    (hn : As.length = n) (hst : st = As.reverse ++ .ref b :: rest) (hcat : (rest.map fun v => v.category).sum ≤ 8) (d : decode cc pc = .ok (.invokespecial index, 3)) (hc : kc' + mc ≤ kc) (hs : ks' + ms ≤ ks)
    (kk : ∀ v h', post (.inl v) h' → Z X h' kc' ks' L (pc + 3) (v.toList ++ rest)) (kx : ∀ E q h', post (.inr (E, q)) h' → ZX X h' kc' ks' L pc E q) : Z X h kc ks L pc st :=
  z_run C (fun H locs cells slots ls hS => vx_runI ⟨C.x, C.b, C.m, C.o, C.w⟩ hM (cwI n C.w (lw_meth hcode) rfl rfl rfl (C.w _ q1) (C.w _ q2) (C.w _ q3) hy1 hd (by rw [C.nf, C.nl]; exact hR)) ⟨zPc.blind _ _ _, zpre C hS _⟩ rfl hn hS.2.2.2.2.1 hst (by show 2 * 0 + _ ≤ 8; omega) d (by rw [C.rc, C.rs]; have := hS.2.2.1; have := hS.2.2.2.1; omega)) hc hs kk kx
theorem z_callSN (C : zC X cc own ret nf nl hh) {host : String} (hM : zMet X.l y (ws_ y bytes maxL ret') ({ frames := nf', cells := mc, slots := ms, locals := nl' }) X.Γ h As post mc ms) (hcode : Cond.code y bytes maxL ret' ∈ lw_all) (q1 : Cond.methodLinkNest own index y host ∈ lw_tbl) (q2 : Cond.initialized y.cls ∈ lw_all) (q3 : Cond.static y ∈ lw_all)
    (hd : y.cls ≠ "java/lang/invoke/MethodHandle" ∧ y.cls ≠ "java/lang/invoke/VarHandle" ∧ (parseMethodDescriptor y.desc).map (fun d => d.parameters.length) = some n) (hR : nf' + 1 ≤ nf ∧ 8 + (maxL + 11) + nl' ≤ nl)
    (hn : As.length = n) (hst : st = As.reverse ++ rest) (hcat : (rest.map fun v => v.category).sum ≤ 8) (d : decode cc pc = .ok (.invokestatic index, 3)) (hc : kc' + mc ≤ kc) (hs : ks' + ms ≤ ks)
    (kk : ∀ v h', post (.inl v) h' → Z X h' kc' ks' L (pc + 3) (v.toList ++ rest)) (kx : ∀ E q h', post (.inr (E, q)) h' → ZX X h' kc' ks' L pc E q) : Z X h kc ks L pc st :=
  z_run C (fun H locs cells slots ls hS => vx_runSN ⟨C.x, C.b, C.m, C.o, C.w⟩ hM ⟨va_cnB n C.w (lw_meth hcode) rfl rfl rfl (C.K.2.1 _ q1 rfl) (C.w _ q2) hd (by rw [C.nf, C.nl]; exact hR), C.w _ q3, trivial⟩ ⟨zPc.blind _ _ _, zpre C hS _⟩ rfl hn hS.2.2.2.2.1 hst (by show 2 * 0 + _ ≤ 8; omega) d (by rw [C.rc, C.rs]; have := hS.2.2.1; have := hS.2.2.2.1; omega)) hc hs kk kx
theorem z_callIN (C : zC X cc own ret nf nl hh) {host : String} (hM : zMet X.l y (ws_ y bytes maxL none) ({ frames := nf', cells := mc, slots := ms, locals := nl' }) X.Γ h (.ref b :: As) post mc ms) (hcode : Cond.code y bytes maxL none ∈ lw_all) (q1 : Cond.methodLinkNest own index y host ∈ lw_tbl) (q2 : Cond.initialized y.cls ∈ lw_all) (q3 : Cond.instanceMethod y ∈ lw_all) (hy1 : y.name = "<init>")
    (hd : y.cls ≠ "java/lang/invoke/MethodHandle" ∧ y.cls ≠ "java/lang/invoke/VarHandle" ∧ (parseMethodDescriptor y.desc).map (fun d => d.parameters.length) = some n) (hR : nf' + 1 ≤ nf ∧ 8 + (maxL + 11) + nl' ≤ nl)
    (hn : As.length = n) (hst : st = As.reverse ++ .ref b :: rest) (hcat : (rest.map fun v => v.category).sum ≤ 8) (d : decode cc pc = .ok (.invokespecial index, 3)) (hc : kc' + mc ≤ kc) (hs : ks' + ms ≤ ks)
    (kk : ∀ v h', post (.inl v) h' → Z X h' kc' ks' L (pc + 3) (v.toList ++ rest)) (kx : ∀ E q h', post (.inr (E, q)) h' → ZX X h' kc' ks' L pc E q) : Z X h kc ks L pc st :=
  z_run C (fun H locs cells slots ls hS => vx_runIN ⟨C.x, C.b, C.m, C.o, C.w⟩ hM ⟨va_cnB n C.w (lw_meth hcode) rfl rfl rfl (C.K.2.1 _ q1 rfl) (C.w _ q2) hd (by rw [C.nf, C.nl]; exact hR), hy1, C.w _ q3⟩ ⟨zPc.blind _ _ _, zpre C hS _⟩ rfl hn hS.2.2.2.2.1 hst (by show 2 * 0 + _ ≤ 8; omega) d (by rw [C.rc, C.rs]; have := hS.2.2.1; have := hS.2.2.2.1; omega)) hc hs kk kx
theorem z_callVN (C : zC X cc own ret nf nl hh) {host : String} (hM : zMet X.l y (ws_ y bytes maxL ret') ({ frames := nf', cells := mc, slots := ms, locals := nl' }) X.Γ h (.ref b :: As) post mc ms) (hcode : Cond.code y bytes maxL ret' ∈ lw_all) (q1 : Cond.methodLinkNest own index y host ∈ lw_tbl) (q2 : Cond.initialized y.cls ∈ lw_all) (q3 : Cond.instanceMethod y ∈ lw_all) (q4 : Cond.selects Cn y y ∈ lw_all)
    (hd : y.cls ≠ "java/lang/invoke/MethodHandle" ∧ y.cls ≠ "java/lang/invoke/VarHandle" ∧ (parseMethodDescriptor y.desc).map (fun d => d.parameters.length) = some n) (hR : nf' + 1 ≤ nf ∧ 8 + (maxL + 11) + nl' ≤ nl)
    (hb : h b = some (fl, .inr (ci, fs))) (hci : zcl[ci]? = some (Cn, T, N)) (hn : As.length = n) (hst : st = As.reverse ++ .ref b :: rest) (hcat : (rest.map fun v => v.category).sum ≤ 8) (d : decode cc pc = .ok (.invokevirtual index, 3)) (hc : kc' + mc ≤ kc) (hs : ks' + ms ≤ ks)
    (kk : ∀ v h', post (.inl v) h' → Z X h' kc' ks' L (pc + 3) (v.toList ++ rest)) (kx : ∀ E q h', post (.inr (E, q)) h' → ZX X h' kc' ks' L pc E q) : Z X h kc ks L pc st :=
  z_run C (fun H locs cells slots ls hS => vx_runVN ⟨C.x, C.b, C.m, C.o, C.w⟩ hM ⟨va_cnB n C.w (lw_meth hcode) rfl rfl rfl (C.K.2.1 _ q1 rfl) (C.w _ q2) hd (by rw [C.nf, C.nl]; exact hR), C.w _ q3, C.w _ q4⟩ ⟨zPc.blind _ _ _, zS.recv C hS hb hci, zpre C hS _⟩ rfl hn hS.2.2.2.2.1 hst (by show 2 * 0 + _ ≤ 8; omega) d (by rw [C.rc, C.rs]; have := hS.2.2.1; have := hS.2.2.2.1; omega)) hc hs kk kx
/-- a method of a class above the object's: named there, found there -/
theorem z_callU (C : zC X cc own ret nf nl hh) (hM : zMet X.l y (ws_ y bytes maxL ret') ({ frames := nf', cells := mc, slots := ms, locals := nl' }) X.Γ h (.ref b :: As) post mc ms) (hcode : Cond.code y bytes maxL ret' ∈ lw_all) (q1 : Cond.methodLink own index y ∈ lw_all) (q2 : Cond.sameMethod y.cls y.cls y.name y.desc ∈ lw_all) (q3 : Cond.selects Cn y y ∈ lw_all ∨ (Cn = "java/lang/StringBuilder" ∧ y ∈ zpriv)) (q4 : Cond.instanceMethod y ∈ lw_all) (q5 : Cond.initialized y.cls ∈ lw_all)
    (hd : y.cls ≠ "java/lang/invoke/MethodHandle" ∧ y.cls ≠ "java/lang/invoke/VarHandle" ∧ (parseMethodDescriptor y.desc).map (fun d => d.parameters.length) = some n) (hR : nf' + 1 ≤ nf ∧ 8 + (maxL + 11) + nl' ≤ nl)
    (hb : h b = some (fl, .inr (ci, fs))) (hci : zcl[ci]? = some (Cn, T, N)) (hn : As.length = n) (hst : st = As.reverse ++ .ref b :: rest) (hcat : (rest.map fun v => v.category).sum ≤ 8) (d : decode cc pc = .ok (.invokevirtual index, 3)) (hc : kc' + mc ≤ kc) (hs : ks' + ms ≤ ks)
    (kk : ∀ v h', post (.inl v) h' → Z X h' kc' ks' L (pc + 3) (v.toList ++ rest)) (kx : ∀ E q h', post (.inr (E, q)) h' → ZX X h' kc' ks' L pc E q) : Z X h kc ks L pc st := by
  have hsel : (Cond.selects Cn y y).before X.1.2.2.2.2.2.2 X.st = true := by
    rcases q3 with e | ⟨rfl, e⟩
    · exact C.w _ e
    · exact word_at (State.WarmedH.refl X.st) (good_of_word rfl) (C.K.2.2.2.1.2 _ e)
  have hdecl : va_Decl X.st ⟨y.cls, y.name, y.desc⟩ := by
    obtain ⟨mk, methM, hnamed, hmethM, hst, -⟩ := Cond.instanceMethod_spec (C.w _ q4)
    obtain ⟨methM', cM, hmethM', -, -, -, -, -, -, hsigM⟩ := Cond.code_spec hnamed (C.w _ hcode)
    cases hmethM.symm.trans hmethM'
    exact ⟨mk, methM, hnamed, hmethM, hst, hsigM⟩
  refine z_run C (fun H locs cells slots ls hS => vx_runU (x := y) (owner := y.cls) (bytes := bytes) (maxL := maxL) (ret := ret') ⟨C.x, C.b, C.m, C.o, C.w⟩ hM ?_ ⟨zPc.blind _ _ _, zS.recv C hS hb hci, zpre C hS _⟩ rfl hn hS.2.2.2.2.1 hst (by show 2 * 0 + _ ≤ 8; omega) d (by rw [C.rc, C.rs]; have := hS.2.2.1; have := hS.2.2.2.1; omega)) hc hs kk kx
  have hG := lw_meth hcode
  refine ⟨⟨rfl, rfl, by rw [C.nf]; exact hR.1, by rw [C.nl]; exact hR.2, pay_in C.w hG, List.mem_cons_self⟩, C.w _ hcode, C.w _ q5, ⟨hd.1, hd.2.1⟩, fun sig e => ?_, C.w _ q1, C.w _ q2, hdecl, hsel, C.w _ q4⟩
  have h2 := hd.2.2
  rw [e] at h2
  exact (Option.some.inj h2).symm
/-- Object's method, another one found in the object's class -/
theorem z_callO (C : zC X cc own ret nf nl hh) {x : MethodName} (hM : zMet X.l y (ws_ y bytes maxL ret') ({ frames := nf', cells := mc, slots := ms, locals := nl' }) X.Γ h (.ref b :: As) post mc ms) (hcode : Cond.code y bytes maxL ret' ∈ lw_all) (q1 : Cond.methodLink own index x ∈ lw_all) (q2 : Cond.sameMethod x.cls x.cls x.name x.desc ∈ lw_all) (q3 : Cond.selects Cn x y ∈ lw_all) (q4 : Cond.instanceMethod y ∈ lw_all) (q5 : Cond.initialized y.cls ∈ lw_all)
    (hdecl : va_Decl X.st ⟨x.cls, x.name, x.desc⟩)
    (hd : x.cls ≠ "java/lang/invoke/MethodHandle" ∧ x.cls ≠ "java/lang/invoke/VarHandle" ∧ (parseMethodDescriptor x.desc).map (fun d => d.parameters.length) = some n) (hR : nf' + 1 ≤ nf ∧ 8 + (maxL + 11) + nl' ≤ nl)
    (hb : h b = some (fl, .inr (ci, fs))) (hci : zcl[ci]? = some (Cn, T, N)) (hn : As.length = n) (hst : st = As.reverse ++ .ref b :: rest) (hcat : (rest.map fun v => v.category).sum ≤ 8) (d : decode cc pc = .ok (.invokevirtual index, 3)) (hc : kc' + mc ≤ kc) (hs : ks' + ms ≤ ks)
    (kk : ∀ v h', post (.inl v) h' → Z X h' kc' ks' L (pc + 3) (v.toList ++ rest)) (kx : ∀ E q h', post (.inr (E, q)) h' → ZX X h' kc' ks' L pc E q) : Z X h kc ks L pc st := by
  refine z_run C (fun H locs cells slots ls hS => vx_runU (x := x) (owner := x.cls) (bytes := bytes) (maxL := maxL) (ret := ret') ⟨C.x, C.b, C.m, C.o, C.w⟩ hM ?_ ⟨zPc.blind _ _ _, zS.recv C hS hb hci, zpre C hS _⟩ rfl hn hS.2.2.2.2.1 hst (by show 2 * 0 + _ ≤ 8; omega) d (by rw [C.rc, C.rs]; have := hS.2.2.1; have := hS.2.2.2.1; omega)) hc hs kk kx
  refine ⟨⟨rfl, rfl, by rw [C.nf]; exact hR.1, by rw [C.nl]; exact hR.2, pay_in C.w (lw_meth hcode), List.mem_cons_self⟩, C.w _ hcode, C.w _ q5, ⟨hd.1, hd.2.1⟩, fun sig e => ?_, C.w _ q1, C.w _ q2, hdecl, C.w _ q3, C.w _ q4⟩
  have h2 := hd.2.2
  rw [e] at h2
  exact (Option.some.inj h2).symm
/-- super.m(..) -/
theorem z_callSU (C : zC X cc own ret nf nl hh) (hM : zMet X.l y (ws_ y bytes maxL ret') ({ frames := nf', cells := mc, slots := ms, locals := nl' }) X.Γ h (.ref b :: As) post mc ms) (hcode : Cond.code y bytes maxL ret' ∈ lw_all) (q1 : Cond.methodLink own index y ∈ lw_all) (q2 : Cond.sameMethod y.cls y.cls y.name y.desc ∈ lw_all) (q3 : Cond.superclass own y.cls ∈ lw_all) (q4 : Cond.instanceMethod y ∈ lw_all) (q5 : Cond.initialized y.cls ∈ lw_all)
    (hd : y.name ≠ "<init>" ∧ (parseMethodDescriptor y.desc).map (fun d => d.parameters.length) = some n) (hR : nf' + 1 ≤ nf ∧ 8 + (maxL + 11) + nl' ≤ nl)
    (hb : h b = some (fl, .inr (ci, fs))) (hci : zcl[ci]? = some (Cn, T, N)) (hn : As.length = n) (hst : st = As.reverse ++ .ref b :: rest) (hcat : (rest.map fun v => v.category).sum ≤ 8) (d : decode cc pc = .ok (.invokespecial index, 3)) (hc : kc' + mc ≤ kc) (hs : ks' + ms ≤ ks)
    (kk : ∀ v h', post (.inl v) h' → Z X h' kc' ks' L (pc + 3) (v.toList ++ rest)) (kx : ∀ E q h', post (.inr (E, q)) h' → ZX X h' kc' ks' L pc E q) : Z X h kc ks L pc st := by
  refine z_run C (fun H locs cells slots ls hS => vx_runSU (bytes := bytes) (maxL := maxL) (ret := ret') (C.K.1.1 ci _ hci).2 ⟨C.x, C.b, C.m, C.o, C.w⟩ hM ?_ ⟨zPc.blind _ _ _, zS.recv C hS hb hci, zpre C hS _⟩ rfl hn hS.2.2.2.2.1 hst (by show 2 * 0 + _ ≤ 8; omega) d (by rw [C.rc, C.rs]; have := hS.2.2.1; have := hS.2.2.2.1; omega)) hc hs kk kx
  refine ⟨⟨rfl, rfl, by rw [C.nf]; exact hR.1, by rw [C.nl]; exact hR.2, pay_in C.w (lw_meth hcode), List.mem_cons_self⟩, C.w _ q1, C.w _ q2, C.w _ q3, C.w _ q4, C.w _ q5, C.w _ hcode, hd.1, fun sig e => ?_⟩
  have h2 := hd.2
  rw [e] at h2
  exact (Option.some.inj h2).symm
/-- a method with handlers of its own -/
theorem z_callVX (C : zC X cc own ret nf nl hh) {hd4 : List (Nat × Nat × Nat × Nat)} (hM : zMet X.l y (wsW_ y bytes maxL ret' hd4) ({ frames := nf', cells := mc, slots := ms, locals := nl' }) X.Γ h (.ref b :: As) post mc ms) (hw : GoodIn lw_all (wsV own index Cn y (wsW_ y bytes maxL ret' hd4)))
    (hd : y.cls = Cn ∧ y.cls ≠ "java/lang/invoke/MethodHandle" ∧ y.cls ≠ "java/lang/invoke/VarHandle" ∧ (parseMethodDescriptor y.desc).map (fun d => d.parameters.length) = some n) (hR : nf' + 1 ≤ nf ∧ 8 + (maxL + 11) + nl' ≤ nl)
    (hb : h b = some (fl, .inr (ci, fs))) (hci : zcl[ci]? = some (Cn, T, N)) (hn : As.length = n) (hst : st = As.reverse ++ .ref b :: rest) (hcat : (rest.map fun v => v.category).sum ≤ 8) (d : decode cc pc = .ok (.invokevirtual index, 3)) (hc : kc' + mc ≤ kc) (hs : ks' + ms ≤ ks)
    (kk : ∀ v h', post (.inl v) h' → Z X h' kc' ks' L (pc + 3) (v.toList ++ rest)) (kx : ∀ E q h', post (.inr (E, q)) h' → ZX X h' kc' ks' L pc E q) : Z X h kc ks L pc st :=
  z_run C (fun H locs cells slots ls hS => vx_runVX (hh := hd4) ⟨C.x, C.b, C.m, C.o, C.w⟩ hM (vx_cwVW n C.w hw rfl rfl rfl hd (by rw [C.nf, C.nl]; exact hR)) ⟨zPc.blind _ _ _, zS.recv C hS hb hci, zpre C hS _⟩ rfl hn hS.2.2.2.2.1 hst (by show 2 * 0 + _ ≤ 8; omega) d (by rw [C.rc, C.rs]; have := hS.2.2.1; have := hS.2.2.2.1; omega)) hc hs kk kx
theorem z_callSX (C : zC X cc own ret nf nl hh) {hd4 : List (Nat × Nat × Nat × Nat)} (hM : zMet X.l y (wsW_ y bytes maxL ret' hd4) ({ frames := nf', cells := mc, slots := ms, locals := nl' }) X.Γ h As post mc ms) (hw : GoodIn lw_all (va_wsS own index y (wsW_ y bytes maxL ret' hd4)))
    (hd : y.cls ≠ "java/lang/invoke/MethodHandle" ∧ y.cls ≠ "java/lang/invoke/VarHandle" ∧ (parseMethodDescriptor y.desc).map (fun d => d.parameters.length) = some n) (hR : nf' + 1 ≤ nf ∧ 8 + (maxL + 11) + nl' ≤ nl)
    (hn : As.length = n) (hst : st = As.reverse ++ rest) (hcat : (rest.map fun v => v.category).sum ≤ 8) (d : decode cc pc = .ok (.invokestatic index, 3)) (hc : kc' + mc ≤ kc) (hs : ks' + ms ≤ ks)
    (kk : ∀ v h', post (.inl v) h' → Z X h' kc' ks' L (pc + 3) (v.toList ++ rest)) (kx : ∀ E q h', post (.inr (E, q)) h' → ZX X h' kc' ks' L pc E q) : Z X h kc ks L pc st :=
  z_run C (fun H locs cells slots ls hS => vx_runSX (hh := hd4) ⟨C.x, C.b, C.m, C.o, C.w⟩ hM (vx_cwSW n C.w hw rfl rfl rfl hd (by rw [C.nf, C.nl]; exact hR)) ⟨zPc.blind _ _ _, zpre C hS _⟩ rfl hn hS.2.2.2.2.1 hst (by show 2 * 0 + _ ≤ 8; omega) d (by rw [C.rc, C.rs]; have := hS.2.2.1; have := hS.2.2.2.1; omega)) hc hs kk kx
/-! an exception on its way -/
theorem zxc (C : zC X cc own ret nf nl hh) {H : Heap} {locs : List Loc} {cells slots : Nat} {ls : Array Slot} (hS : zS X h kc ks L H locs cells slots ls) {E : String} {q : Nat} (hp : X.post (.inr (E, q)) h) : ∀ t : State, t.heap = H → X.st.vm.Alike t.vm → zXC X.Γ X.post E q X.st t := by
  intro t ht hW
  refine ⟨h, hp, ?_, hS.2.1.F ht⟩
  rw [ht]
  exact hS.1.moved hW
/-- .. out of the method -/
theorem zx_out (C : zC X cc own ret nf nl hh) {E : String} {q : Nat} (hout : ∀ x ∈ hh, covers x pc = false) (hp : X.post (.inr (E, q)) h) : ZX X h kc ks L pc E q := by
  intro H locs cells slots ls rest ce hS hq hv hcl
  exact vx_out (by rw [C.h]; exact hout) C.k hq hv hcl (zxc C hS hp) hS.2.1.2.2 (by have := hS.2.2.1; omega) (by have := hS.2.2.2.1; omega)
/-- .. out of the method, past rows of other classes -/
theorem zx_outP (C : zC X cc own ret nf nl hh) {E : String} {q : Nat} (hpass : ∀ z ∈ hh, covers z pc = false ∨ (z.catchType ≠ 0 ∧ ∃ nm : String, Cond.classLink own z.catchType nm ∈ lw_all ∧ (E, nm) ∈ zncs)) (hp : X.post (.inr (E, q)) h) : ZX X h kc ks L pc E q := by
  intro H locs cells slots ls rest ce hS hq hv hcl
  refine vx_outP C.o C.k (fun z hz => ?_) hq hv hcl (zxc C hS hp) hS.2.1.2.2 (by have := hS.2.2.1; omega) (by have := hS.2.2.2.1; omega)
  rcases hpass z (by rw [← C.h]; exact hz) with e | ⟨e1, nm, e2, e3⟩
  · exact Or.inl e
  · exact Or.inr ⟨e1, nm, C.w _ e2, C.K.2.2.2.1.1 _ e3⟩
/-- .. caught here -/
theorem zx_catch (C : zC X cc own ret nf nl hh) {E nm : String} {q : Nat} (pre : List ExceptionTableEntry) (x : ExceptionTableEntry) (suf : List ExceptionTableEntry) (hsplit : hh = pre ++ x :: suf)
    (hpass : ∀ z ∈ pre, covers z pc = false ∨ (z.catchType ≠ 0 ∧ ∃ nm : String, Cond.classLink own z.catchType nm ∈ lw_all ∧ (E, nm) ∈ zncs)) (hx : covers x pc = true) (h0 : x.catchType ≠ 0)
    (q1 : Cond.classLink own x.catchType nm ∈ lw_all) (q2 : Cond.castable E nm ∈ lw_tbl) (K : Z X h kc ks L x.handlerPc [.ref q]) : ZX X h kc ks L pc E q := by
  intro H locs cells slots ls rest ce hS hq hv hcl
  refine vx_catch C.o pre x suf (by rw [C.h]; exact hsplit) (fun z hz => ?_) hx h0 (C.w _ q1) (va_Nw.use rfl (C.K.2.1 _ q2 rfl)) hq hv hcl (K H locs cells slots ls hS)
  rcases hpass z hz with e | ⟨e1, nm, e2, e3⟩
  · exact Or.inl e
  · exact Or.inr ⟨e1, nm, C.w _ e2, C.K.2.2.2.1.1 _ e3⟩
end ZRUN
section ZTHROW
variable {X : zT} {cc : ByteArray} {own : String} {ret : Option FieldType} {nf nl : Nat} {hh : List ExceptionTableEntry} {h : zH} {kc ks kc' ks' : Nat} {L : List (Nat × Value)} {pc : Nat} {st rest : List Value}
theorem zat0 {own : String} {ic : Nat} {cls : String} {names : List String} (ps : List Nat) (hp : vx_at0 own ic cls names = ps.filterMap (fun i => lw_tbl[i]?)) (hg : (vx_at0 own ic cls names).all (fun w => goodWord w || zok w) = true) : ∀ w ∈ vx_at0 own ic cls names, w ∈ lw_tbl ∧ (goodWord w || zok w) = true := by
  intro w hw
  have h1 := List.all_eq_true.mp hg w hw
  rw [hp] at hw
  obtain ⟨i, -, hi⟩ := List.mem_filterMap.mp hw
  exact ⟨List.mem_of_getElem? hi, h1⟩
/-- 'throw new E()' -/
theorem z_throw0 (C : zC X cc own ret nf nl hh) {cls : String} {names : List String} {ik ic : Nat} (q1 : Cond.classLink own ik cls ∈ lw_all) (q2 : Cond.initialized cls ∈ lw_all) (hcls : Bundle.fit cls = true) (hnames : ∀ n ∈ names, Bundle.fit n = true)
    (hat : ∀ w ∈ vx_at0 own ic cls names, w ∈ lw_tbl ∧ (goodWord w || zok w) = true) (hgood : ∀ w ∈ Cond.classLink own ik cls :: Cond.initialized cls :: vx_at0 own ic cls names, vx_ot w = true)
    (d0 : decode cc pc = .ok (.new ik, 3)) (d3 : decode cc (pc + 3) = .ok (.dup, 1)) (d4 : decode cc (pc + 4) = .ok (.invokespecial ic, 3)) (d7 : decode cc (pc + 7) = .ok (.athrow, 1)) (hout : ∀ x ∈ hh, covers x (pc + 7) = false)
    (hf : names.length + 3 < nf) (hl : (st.map fun v => v.category).sum + (13 * (names.length + 1) + 42) ≤ nl) (hkc : 1 ≤ kc) (hks : 6 ≤ ks) (hp : ∀ q, X.post (.inr (cls, q)) h) : Z X h kc ks L pc st := by
  intro H locs cells slots ls hS
  have h1 := hS.2.2.1
  have h2 := hS.2.2.2.1
  refine vx_throw0 C.x C.b C.t C.o hcls hnames (C.w _ q1) (C.w _ q2) (fun w hw => ?_) hgood C.K.2.2.1.2.2.1 C.K.2.2.1.2.2.2.1 hS.2.1 (by rw [C.m]; exact hS.2.2.2.2.1) d0 d3 d4 d7 (by rw [C.h]; exact hout) (by rw [C.nf]; exact hf) (by rw [C.nl]; exact hl) (by rw [C.rc]; omega) (by rw [C.rs]; omega) C.k (fun q9 t hW hz hk => ?_) hS.2.1.2.2 (by omega) (by omega)
  · obtain ⟨g1, g2⟩ := hat w hw
    rcases Bool.or_eq_true _ _ ▸ g2 with g | g
    · exact C.w _ (lw_g g1 g)
    · have g3 := C.K.2.1 w g1 g
      exact vx_ot_at (State.WarmedH.refl X.st) rfl (hgood w (List.mem_cons_of_mem _ (List.mem_cons_of_mem _ hw))) g3
  · refine ⟨h, hp q9, ⟨hS.1.1, fun q x hq => ?_⟩, ?_⟩
    · obtain ⟨g1, c, g2, g3⟩ := hS.1.2 q x hq
      exact ⟨g1, c, by rw [hk q (Array.getElem?_eq_some_iff.mp g2).1]; exact g2, g3.moved hW⟩
    · exact ⟨Nat.le_trans hS.2.1.1 hz, fun q g1 g2 => (hk q (Nat.lt_of_lt_of_le g1 hS.2.1.1)).trans (hS.2.1.2.1 q g1 g2)⟩
theorem z_athrow (C : zC X cc own ret nf nl hh) {q ci : Nat} {fs : List Value} {E : String} {T : u_T} {N : Nat} (hci : zcl[ci]? = some (E, T, N)) (hq : h q = some (true, .inr (ci, fs))) (d : decode cc pc = .ok (.athrow, 1)) (K : ZX X h kc ks L pc E q) : Z X h kc ks L pc (.ref q :: st) := by
  intro H locs cells slots ls hS
  obtain ⟨cell, h1, h2, -, -, h5, -, h7⟩ := zS.obj C hS hq hci
  exact vx_athrow C.x C.b d (K H locs cells slots ls st cell hS h1 (h2 rfl) (by rw [h5]; exact h7.2.1))
/-- a contract of a body with handlers -/
theorem zMet.ofH {l : Launch} {y : MethodName} {cc : ByteArray} {maxL : Nat} {ret : Option FieldType} {hd4 : List (Nat × Nat × Nat × Nat)} {nf nl mc ms : Nat} {Γ : zCx} {h : zH} {As : List Value} {post : zR → zH → Prop} (hl : l.stackTraces = false) (hy : plainName y.cls = true) (hn : (lg_sl As).length ≤ maxL)
    (body : ∀ X : zT, X.l = l → X.Γ = Γ → X.post = post → zC X cc y.cls ret nf nl (tableOf hd4) → X.2.1.2.1.name = y.name → X.2.1.2.2.2.2 = maxL → Z X h mc ms (lv_args 0 As) 0 []) : zMet l y (wsW_ y cc maxL ret hd4) ({ frames := nf, cells := mc, slots := ms, locals := nl }) Γ h As post mc ms := by
  refine vx_ofWH (cc := cc) (maxL := maxL) (ret := ret) (hh := hd4) hy rfl ?_
  intro p e s m args below meth c s₁ B hml hv
  obtain ⟨rfl, hP, hK, hb⟩ := hv
  have hts := atoms_spec (ws := wsW_ y cc maxL ret hd4) B.pre
  have hta := vx_table (x := y) B (hts _ List.mem_cons_self)
  have hts : ∀ w ∈ lw_all, w.before _ s = true := fun w h => hts w (List.mem_cons_of_mem _ h)
  have hL := lv_entry As (n := maxL) hn
  rw [lg_entry_eq]
  generalize (lg_sl As ++ List.replicate (maxL - (lg_sl As).length) Slot.unset).toArray = ls at hL ⊢
  have K := body ((p, l, e, (headSpec (wsW_ y cc maxL ret hd4) ({ frames := nf, cells := mc, slots := ms, locals := nl })).room, s, m, As.toArray), (below, meth, c, Γ, maxL), (post, mc, ms)) rfl rfl rfl
    ⟨B.exec, B.bytes, B.returns, B.notSynchronized, hml, findClass_of_methodNamed B.named, hts, hK, hb, rfl, rfl, rfl, rfl, hta, hl⟩ (name_of_methodNamed B.named B.method).1 rfl
  exact K s.heap [] 0 0 ls ⟨hP, va_S.rf, by simp, by simp, hL⟩
end ZTHROW

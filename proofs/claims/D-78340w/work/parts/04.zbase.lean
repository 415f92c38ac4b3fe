/-! ===== Z: a method's walk over an abstract heap (a map from addresses to what lies there) ===== -/
set_option maxRecDepth 100000
abbrev zE : Type := (FieldType × Nat × (Nat → Value)) ⊕ (Nat × List Value)
abbrev zX : Type := Bool × zE
abbrev zH : Type := Nat → Option zX
def zup (h : zH) (q : Nat) (x : zX) : zH := fun j => if j = q then some x else h j
theorem zup_s {h : zH} {q : Nat} {x : zX} : zup h q x q = some x := if_pos rfl
theorem zup_n {h : zH} {q j : Nat} {x : zX} (e : j ≠ q) : zup h q x j = h j := if_neg e
/-- the machine's context of the whole run: classes' numbers and slots, the first address that may be written, the constants, their addresses -/
abbrev zCx : Type := va_G × Nat × zH × (Nat → Nat)
def zA (Γ : zCx) : Nat → Prop := fun q => Γ.2.1 ≤ q
def zarr (U : State) (a : FieldType × Nat × (Nat → Value)) (cell : Cell) : Prop :=
  U.isArrayOf cell a.1 ∧ cell.slots.size = a.2.1 ∧ (∀ j, j < a.2.1 → cell.slots[j]? = some (a.2.2 j)) ∧ ∀ C, a.1 = .object C → va_RA U cell.cls (.object C)
def zobj (D : va_G) (o : Nat × List Value) (cell : Cell) : Prop :=
  ∃ r : vw_C, zcl[o.1]? = some r ∧ cell.cls = D.1 o.1 ∧ ∀ k, k < r.2.2 → cell.slots[D.2 o.1 k]? = some (vp_V o.2 k)
def zval (D : va_G) (U : State) (x : zE) (cell : Cell) : Prop := match x with
  | .inl a => zarr U a cell
  | .inr o => zobj D o cell
/-- an array's class, by its name -/
def znm (U : State) (x : zE) (cell : Cell) : Prop := match x with
  | .inl a => U.vm.findClass ("[" ++ a.1.toString) = some cell.cls
  | .inr _ => True
def zcell (D : va_G) (U : State) (x : zX) (cell : Cell) : Prop :=
  (x.1 = true → cell.vm = .none ∧ znm U x.2 cell) ∧ cell.vm ≠ .unknown ∧ cell.vm.isStatics = false ∧ zval D U x.2 cell
def zHP (Γ : zCx) (U : State) (h : zH) (H : Heap) : Prop :=
  (∀ q x, Γ.2.2.1 q = some x → x.1 = false ∧ h q = some x) ∧ ∀ q x, h q = some x → (x.1 = true → Γ.2.1 ≤ q) ∧ ∃ cell, H[q]? = some cell ∧ zcell Γ.1 U x cell
theorem zarr.moved {u U : State} (hvm : u.vm.Alike U.vm) {a : FieldType × Nat × (Nat → Value)} {cell : Cell} (h : zarr u a cell) : zarr U a cell :=
  ⟨State.isArrayOf_alike hvm h.1, h.2.1, h.2.2.1, fun C e => (h.2.2.2 C e).moved hvm⟩
theorem zcell.moved {D : va_G} {u U : State} (hvm : u.vm.Alike U.vm) {x : zX} {cell : Cell} (h : zcell D u x cell) : zcell D U x cell := by
  obtain ⟨h1, h2, h3, h4⟩ := h
  obtain ⟨b, x⟩ := x
  cases x with
  | inl a => exact ⟨fun e => ⟨(h1 e).1, by show U.vm.findClass _ = _; rw [hvm.findClass]; exact (h1 e).2⟩, h2, h3, zarr.moved hvm h4⟩
  | inr o => exact ⟨h1, h2, h3, h4⟩
theorem zHP.moved {Γ : zCx} {u U : State} {h : zH} {H : Heap} (hvm : u.vm.Alike U.vm) (hP : zHP Γ u h H) : zHP Γ U h H :=
  ⟨hP.1, fun q x hq => by
    obtain ⟨h1, cell, h2, h3⟩ := hP.2 q x hq
    exact ⟨h1, cell, h2, h3.moved hvm⟩⟩
theorem zHP.lt {Γ : zCx} {U : State} {h : zH} {H : Heap} (hP : zHP Γ U h H) {q : Nat} {x : zX} (hq : h q = some x) : q < H.size := by
  obtain ⟨-, cell, h2, -⟩ := hP.2 q x hq
  exact (Array.getElem?_eq_some_iff.mp h2).1
theorem zHP.fresh {Γ : zCx} {U : State} {h : zH} {H : Heap} (hP : zHP Γ U h H) {q : Nat} (hq : H.size ≤ q) : h q = none := by
  cases e : h q with
  | none => rfl
  | some x => exact absurd (hP.lt e) (by omega)
/-- one cell is another now -/
theorem zHP.put {Γ : zCx} {U : State} {h : zH} {H H1 : Heap} {a : Nat} {e0 e : zE} {cell : Cell} (hP : zHP Γ U h H) (ha : h a = some (true, e0)) (h1 : H1[a]? = some cell) (hvm : cell.vm = .none) (hn : znm U e cell) (hv : zval Γ.1 U e cell) (oq : ∀ q, q ≠ a → H1[q]? = H[q]?) : zHP Γ U (zup h a (true, e)) H1 := by
  have hb := (hP.2 a _ ha).1 rfl
  refine ⟨fun q x hq => ?_, fun q x hq => ?_⟩
  · obtain ⟨g1, g2⟩ := hP.1 q x hq
    refine ⟨g1, ?_⟩
    have hne : q ≠ a := by
      intro z
      rw [z, ha] at g2
      cases g2
      cases g1
    rw [zup_n hne]
    exact g2
  · by_cases hqa : q = a
    · subst hqa
      rw [zup_s] at hq
      cases hq
      exact ⟨fun _ => hb, cell, h1, fun _ => ⟨hvm, hn⟩, by rw [hvm]; exact fun z => (by cases z), by rw [hvm]; rfl, hv⟩
    · rw [zup_n hqa] at hq
      obtain ⟨g1, c, g2, g3⟩ := hP.2 q x hq
      exact ⟨g1, c, by rw [oq q hqa]; exact g2, g3⟩
/-- a cell is written no more -/
theorem zHP.freeze {Γ : zCx} {U : State} {h : zH} {H : Heap} {a : Nat} {e : zE} (hP : zHP Γ U h H) (ha : h a = some (true, e)) : zHP Γ U (zup h a (false, e)) H := by
  refine ⟨fun q x hq => ?_, fun q x hq => ?_⟩
  · obtain ⟨g1, g2⟩ := hP.1 q x hq
    refine ⟨g1, ?_⟩
    have hne : q ≠ a := by
      intro z
      rw [z, ha] at g2
      cases g2
      cases g1
    rw [zup_n hne]
    exact g2
  · by_cases hqa : q = a
    · subst hqa
      rw [zup_s] at hq
      cases hq
      obtain ⟨-, c, g2, g3⟩ := hP.2 q _ ha
      exact ⟨fun z => (by cases z), c, g2, fun z => (by cases z), g3.2.1, g3.2.2.1, g3.2.2.2⟩
    · rw [zup_n hqa] at hq
      exact hP.2 q x hq
/-- a cell is born -/
theorem zHP.push {Γ : zCx} {U : State} {h : zH} {H H1 : Heap} {e : zE} {cell : Cell} (hP : zHP Γ U h H) (hb : Γ.2.1 ≤ H.size) (h1 : H1[H.size]? = some cell) (hvm : cell.vm = .none) (hn : znm U e cell) (hv : zval Γ.1 U e cell) (oq : ∀ q, q < H.size → H1[q]? = H[q]?) : zHP Γ U (zup h H.size (true, e)) H1 := by
  refine ⟨fun q x hq => ?_, fun q x hq => ?_⟩
  · obtain ⟨g1, g2⟩ := hP.1 q x hq
    have hlt := hP.lt g2
    refine ⟨g1, ?_⟩
    rw [zup_n (by omega)]
    exact g2
  · by_cases hqa : q = H.size
    · subst hqa
      rw [zup_s] at hq
      cases hq
      exact ⟨fun _ => hb, cell, h1, fun _ => ⟨hvm, hn⟩, by rw [hvm]; exact fun z => (by cases z), by rw [hvm]; rfl, hv⟩
    · rw [zup_n hqa] at hq
      obtain ⟨g1, c, g2, g3⟩ := hP.2 q x hq
      exact ⟨g1, c, by rw [oq q (Array.getElem?_eq_some_iff.mp g2).1]; exact g2, g3⟩
/-- words of the tables that don't ride in the list of words -/
def zok : Cond → Bool
  | .fieldLinkNest _ _ _ _ _ _ => true
  | .methodLinkNest _ _ _ _ => true
  | .castable _ _ => true
  | .arrayOver (.object _) => true
  | .declares _ => true
  | _ => false
def zNW (U : State) : Prop := ∀ w ∈ lw_tbl, zok w = true → va_Nw w U
theorem zNW.warm {s U : State} (hW : s.WarmedH U.vm) (h : zNW s) : zNW U := by
  intro w hw ho
  have h1 := h w hw ho
  match w, ho, h1 with
  | .fieldLinkNest _ _ _ _ _ _, _, h1 => exact va_Nw.warmF hW h1
  | .methodLinkNest _ _ _ _, _, h1 => exact va_Nw.warmM hW h1
  | .castable _ _, _, h1 => exact va_Nw.warmC hW h1
  | .arrayOver (.object _), _, h1 => exact va_AO.moved hW.alike h1
  | .declares _, _, h1 => exact va_Nw.warmD hW h1
/-- the text constants that the classes load: class, place in its file, text -/
def zstr : List (String × Nat × String) := [("ChordSheet", 48, ""), ("ChordSheet", 103, "m"), ("ChordSheet", 105, "7"), ("ChordSheet", 107, "m7"), ("ChordSheet", 109, "maj7"), ("ChordSheet", 111, "dim"), ("ChordSheet", 113, "aug"), ("ChordSheet", 115, "sus4"), ("ChordSheet", 117, "6"), ("ChordSheet", 119, "9"), ("ChordSheet", 75, "FCGDAEB"), ("ChordSheet$Reader", 26, "FCGDAEB")]
def zG (Γ : zCx) (U : State) : Prop :=
  va_Z "java/lang/String" "COMPACT_STRINGS" "Z" (.int 1) (zA Γ) U U.heap ∧
  va_Z "java/util/ArrayList" "DEFAULTCAPACITY_EMPTY_ELEMENTDATA" "[Ljava/lang/Object;" (.ref (Γ.2.2.2 0)) (zA Γ) U U.heap ∧
  vx_Zq Bundle.tN "UNASSIGNED_STACK" Bundle.steD (zA Γ) U U.heap ∧ vx_Zq Bundle.tN "SUPPRESSED_SENTINEL" Bundle.listD (zA Γ) U U.heap ∧
  va_Zq "jdk/internal/util/Preconditions" "SIOOBE_FORMATTER" "Ljava/util/function/BiFunction;" (zA Γ) U U.heap ∧
  va_Mi "[Ljava/lang/Object;" (Γ.2.2.2 1) U ∧
  ∀ (i : Nat) (r : String × Nat × String), zstr[i]? = some r → vk_R r.1 r.2.1 r.2.2 (Γ.2.2.2 (i + 2)) U
/-- a text: a String of Latin-1 bytes -/
def sAt (h : zH) (a : Nat) (t : List Int) : Prop := t.length ≤ 100000 ∧ ∃ (v : Nat) (x y : Int32) (f : Nat → Value), h a = some (false, .inr (13, [.ref v, .int 0, .int x, .int y])) ∧ h v = some (false, .inl (.byte, t.length, f)) ∧ (∀ (j : Nat) (c : Int), t[j]? = some c → f j = .int (Int32.ofInt c)) ∧ ∀ c ∈ t, 0 ≤ c ∧ c < 128
def zch (s : String) : List Int := s.toList.map fun c => (c.toNat : Int)
def zCS (Γ : zCx) : Prop := (∃ f, Γ.2.2.1 (Γ.2.2.2 0) = some (false, .inl (.object "java/lang/Object", 0, f))) ∧ ∀ (i : Nat) (r : String × Nat × String), zstr[i]? = some r → sAt Γ.2.2.1 (Γ.2.2.2 (i + 2)) (zch r.2.2)
def zncs : List (String × String) := [("java/util/HashMap$Node", "java/util/HashMap$TreeNode"), ("java/lang/IllegalStateException", "java/lang/IllegalArgumentException"), ("java/lang/IllegalStateException", "java/lang/IndexOutOfBoundsException")]
def zB : String := "java/lang/AbstractStringBuilder"
def zpriv : List MethodName := [⟨zB, "ensureCapacityInternal", "(I)V"⟩, ⟨zB, "newCapacity", "(I)I"⟩, ⟨zB, "putStringAt", "(ILjava/lang/String;)V"⟩, ⟨zB, "inflateIfNeededFor", "(Ljava/lang/String;)V"⟩]
def zSel (U : State) : Prop := ∀ y ∈ zpriv, (Cond.selects "java/lang/StringBuilder" y y).before #[] U = true
def zP (U : State) : Prop := (∀ r ∈ zncs, va_Nc r.1 r.2 U) ∧ zSel U
def zK (Γ : zCx) (U : State) : Prop := va_K Γ.1 zcl [] U ∧ zNW U ∧ zG Γ U ∧ zP U ∧ zCS Γ
theorem zP.warm {s U : State} (hW : s.WarmedH U.vm) (h : zP s) : zP U :=
  ⟨fun r hr => va_Nc.moved hW.alike (h.1 r hr), fun y hy => word_at hW (good_of_word rfl) (h.2 y hy)⟩
theorem zG.go {Γ : zCx} {s U : State} {H : Heap} {locs : List Loc} (hG : zG Γ s) (hS : va_S (zA Γ) s.heap H locs) (hW : s.WarmedH U.vm) (hU : U.heap = H) : zG Γ U := by
  obtain ⟨h1, h2, h3, h4, h5, h6, h7⟩ := hG
  subst hU
  exact ⟨va_Z.moved hW.alike (h1.kept hS.2.1), va_Z.moved hW.alike (h2.kept hS.2.1), vx_Zq.moved hW.alike (h3.kept hS.2.1), vx_Zq.moved hW.alike (h4.kept hS.2.1), va_Zq.moved hW.alike (h5.kept hS.2.1), va_Mi.moved hW.alike h6, fun i r hi => (h7 i r hi).warm hW⟩
theorem zK.go {Γ : zCx} {s U : State} {H : Heap} {locs : List Loc} (hK : zK Γ s) (hS : va_S (zA Γ) s.heap H locs) (hW : s.WarmedH U.vm) (hU : U.heap = H) : zK Γ U :=
  ⟨va_K.moved hW.alike hK.1, hK.2.1.warm hW, hK.2.2.1.go hS hW hU, hK.2.2.2.1.warm hW, hK.2.2.2.2⟩
/-- how a method ends: with an answer, or with an exception of a class at an address -/
abbrev zR : Type := Option Value ⊕ (String × Nat)
def zPc (Γ : zCx) (h : zH) (As : List Value) : Array Value → State → Prop := fun a U => a = As.toArray ∧ zHP Γ U h U.heap ∧ zK Γ U ∧ Γ.2.1 ≤ U.heap.size
def zQc (Γ : zCx) (post : zR → zH → Prop) : Array Value → State → Outcome → State → Prop := fun _ st o t => ∃ (v : Option Value) (h' : zH), o = .returned v ∧ post (.inl v) h' ∧ zHP Γ t h' t.heap ∧ va_F (zA Γ) st t
def zXC (Γ : zCx) (post : zR → zH → Prop) : String → Addr → State → State → Prop := fun E q st t => ∃ h' : zH, post (.inr (E, q)) h' ∧ zHP Γ t h' t.heap ∧ va_F (zA Γ) st t
/-- a method's contract: from the heap h, called with As, it ends with post; it makes at most mc cells of ms slots -/
def zMet (l : Launch) (y : MethodName) (ws : List Cond) (rm : Room) (Γ : zCx) (h : zH) (As : List Value) (post : zR → zH → Prop) (mc ms : Nat) : Prop :=
  vx_Met l y ws rm (zPc Γ h As) (zQc Γ post) (zXC Γ post) mc ms (zA Γ)
theorem zPc.blind (Γ : zCx) (h : zH) (As : List Value) : FrameBlind (zPc Γ h As) := by
  intro a U g mk hp
  obtain ⟨h1, h2, h3, h4⟩ := hp
  refine ⟨h1, zHP.moved (U := U.calling g mk a) (Vm.Alike.refl U.vm) h2, ?_, h4⟩
  obtain ⟨k1, k2, k3, k4, k5⟩ := h3
  have hW : U.WarmedH (U.calling g mk a).vm := State.WarmedH.refl U
  exact ⟨va_K.moved hW.alike k1, k2.warm hW, zG.go (H := U.heap) (locs := []) k3 va_S.rf hW rfl, k4.warm hW, k5⟩
/-- the walk's context, one thing -/
abbrev zT : Type := (Program × Launch × Env × Room × State × MethodId × Array Value) × (List Frame × Method × Code × zCx × Nat) × ((zR → zH → Prop) × Nat × Nat)
def zT.Γ (X : zT) : zCx := X.2.1.2.2.2.1
def zT.st (X : zT) : State := X.1.2.2.2.2.1
def zT.l (X : zT) : Launch := X.1.2.1
def zT.post (X : zT) : zR → zH → Prop := X.2.2.1
def zJ (X : zT) (H : Heap) (locs : List Loc) (cells slots : Nat) (g : JFrame) : Prop :=
  W X.1.1 X.1.2.1 X.1.2.2.1 X.1.2.2.2.1 X.1.2.2.2.2.1 X.1.2.2.2.2.2.1 X.1.2.2.2.2.2.2 X.2.1.1 X.2.1.2.1 X.2.1.2.2.1 H locs cells slots (vx_MQ X.2.1.1 (zQc X.Γ X.post) (zXC X.Γ X.post) X.1.2.2.2.2.2.2 X.1.2.2.2.2.1 X.2.2.2.1 X.2.2.2.2 (zA X.Γ)) g
def zJX (X : zT) (H : Heap) (locs : List Loc) (cells slots : Nat) (g : JFrame) (q : Addr) : Prop :=
  vx_W X.1.1 X.1.2.1 X.1.2.2.1 X.1.2.2.2.1 X.1.2.2.2.2.1 X.1.2.2.2.2.2.1 X.1.2.2.2.2.2.2 X.2.1.1 X.2.1.2.1 X.2.1.2.2.1 H locs cells slots (vx_MQ X.2.1.1 (zQc X.Γ X.post) (zXC X.Γ X.post) X.1.2.2.2.2.2.2 X.1.2.2.2.2.1 X.2.2.2.1 X.2.2.2.2 (zA X.Γ)) g q
def zF (X : zT) (pc : Nat) (ls : Array Slot) (st : List Value) : JFrame := F0 X.1.2.2.2.2.2.1 pc ls st
/-- where the walk stands, at the heap H -/
def zS (X : zT) (h : zH) (kc ks : Nat) (L : List (Nat × Value)) (H : Heap) (locs : List Loc) (cells slots : Nat) (ls : Array Slot) : Prop :=
  zHP X.Γ X.st h H ∧ va_S (zA X.Γ) X.st.heap H locs ∧ cells + kc ≤ X.2.2.2.1 ∧ slots + ks ≤ X.2.2.2.2 ∧ lv_has ls X.2.1.2.2.2.2 L
/-- the walk at pc, with locals L and stack st, over the heap h, kc cells and ks slots left: it ends as the contract says -/
def Z (X : zT) (h : zH) (kc ks : Nat) (L : List (Nat × Value)) (pc : Nat) (st : List Value) : Prop :=
  ∀ (H : Heap) (locs : List Loc) (cells slots : Nat) (ls : Array Slot), zS X h kc ks L H locs cells slots ls → zJ X H locs cells slots (zF X pc ls st)
/-- the same with an exception of class E at q on its way -/
def ZX (X : zT) (h : zH) (kc ks : Nat) (L : List (Nat × Value)) (pc : Nat) (E : String) (q : Nat) : Prop :=
  ∀ (H : Heap) (locs : List Loc) (cells slots : Nat) (ls : Array Slot) (rest : List Value) (ce : Cell), zS X h kc ks L H locs cells slots ls → H[q]? = some ce → ce.vm = .none → X.st.vm.findClass E = some ce.cls → zJX X H locs cells slots (zF X pc ls rest) q
/-- the context is that of a method of code cc of the class own, with locals' room and frames' room; its handlers hh -/
def zC (X : zT) (cc : ByteArray) (own : String) (ret : Option FieldType) (nf nl : Nat) (hh : List ExceptionTableEntry) : Prop :=
  X.1.1.tables.exec = Jvm.exec ∧ X.2.1.2.2.1.code = cc ∧ X.2.1.2.1.sig.returnType = ret ∧ X.2.1.2.1.locks = false ∧ X.2.1.2.2.1.maxLocals = X.2.1.2.2.2.2 ∧ X.st.vm.findClass own = some X.1.2.2.2.2.2.1.cls ∧
  (∀ w ∈ lw_all, w.before X.1.2.2.2.2.2.2 X.st = true) ∧ zK X.Γ X.st ∧ X.Γ.2.1 ≤ X.st.heap.size ∧ X.1.2.2.2.1.frames = nf ∧ X.1.2.2.2.1.locals = nl ∧ X.1.2.2.2.1.cells = X.2.2.2.1 ∧ X.1.2.2.2.1.slots = X.2.2.2.2 ∧ X.2.1.2.2.1.exceptionTable.toList = hh ∧ X.l.stackTraces = false
theorem zC.x {X : zT} {cc : ByteArray} {own : String} {ret : Option FieldType} {nf nl : Nat} {hh : List ExceptionTableEntry} (C : zC X cc own ret nf nl hh) : X.1.1.tables.exec = Jvm.exec := C.1
theorem zC.b {X : zT} {cc : ByteArray} {own : String} {ret : Option FieldType} {nf nl : Nat} {hh : List ExceptionTableEntry} (C : zC X cc own ret nf nl hh) : X.2.1.2.2.1.code = cc := C.2.1
theorem zC.r {X : zT} {cc : ByteArray} {own : String} {ret : Option FieldType} {nf nl : Nat} {hh : List ExceptionTableEntry} (C : zC X cc own ret nf nl hh) : X.2.1.2.1.sig.returnType = ret := C.2.2.1
theorem zC.k {X : zT} {cc : ByteArray} {own : String} {ret : Option FieldType} {nf nl : Nat} {hh : List ExceptionTableEntry} (C : zC X cc own ret nf nl hh) : X.2.1.2.1.locks = false := C.2.2.2.1
theorem zC.m {X : zT} {cc : ByteArray} {own : String} {ret : Option FieldType} {nf nl : Nat} {hh : List ExceptionTableEntry} (C : zC X cc own ret nf nl hh) : X.2.1.2.2.1.maxLocals = X.2.1.2.2.2.2 := C.2.2.2.2.1
theorem zC.o {X : zT} {cc : ByteArray} {own : String} {ret : Option FieldType} {nf nl : Nat} {hh : List ExceptionTableEntry} (C : zC X cc own ret nf nl hh) : X.st.vm.findClass own = some X.1.2.2.2.2.2.1.cls := C.2.2.2.2.2.1
theorem zC.w {X : zT} {cc : ByteArray} {own : String} {ret : Option FieldType} {nf nl : Nat} {hh : List ExceptionTableEntry} (C : zC X cc own ret nf nl hh) : ∀ w ∈ lw_all, w.before X.1.2.2.2.2.2.2 X.st = true := C.2.2.2.2.2.2.1
theorem zC.K {X : zT} {cc : ByteArray} {own : String} {ret : Option FieldType} {nf nl : Nat} {hh : List ExceptionTableEntry} (C : zC X cc own ret nf nl hh) : zK X.Γ X.st := C.2.2.2.2.2.2.2.1
theorem zC.a {X : zT} {cc : ByteArray} {own : String} {ret : Option FieldType} {nf nl : Nat} {hh : List ExceptionTableEntry} (C : zC X cc own ret nf nl hh) : X.Γ.2.1 ≤ X.st.heap.size := C.2.2.2.2.2.2.2.2.1
theorem zC.nf {X : zT} {cc : ByteArray} {own : String} {ret : Option FieldType} {nf nl : Nat} {hh : List ExceptionTableEntry} (C : zC X cc own ret nf nl hh) : X.1.2.2.2.1.frames = nf := C.2.2.2.2.2.2.2.2.2.1
theorem zC.nl {X : zT} {cc : ByteArray} {own : String} {ret : Option FieldType} {nf nl : Nat} {hh : List ExceptionTableEntry} (C : zC X cc own ret nf nl hh) : X.1.2.2.2.1.locals = nl := C.2.2.2.2.2.2.2.2.2.2.1
theorem zC.rc {X : zT} {cc : ByteArray} {own : String} {ret : Option FieldType} {nf nl : Nat} {hh : List ExceptionTableEntry} (C : zC X cc own ret nf nl hh) : X.1.2.2.2.1.cells = X.2.2.2.1 := C.2.2.2.2.2.2.2.2.2.2.2.1
theorem zC.rs {X : zT} {cc : ByteArray} {own : String} {ret : Option FieldType} {nf nl : Nat} {hh : List ExceptionTableEntry} (C : zC X cc own ret nf nl hh) : X.1.2.2.2.1.slots = X.2.2.2.2 := C.2.2.2.2.2.2.2.2.2.2.2.2.1
theorem zC.h {X : zT} {cc : ByteArray} {own : String} {ret : Option FieldType} {nf nl : Nat} {hh : List ExceptionTableEntry} (C : zC X cc own ret nf nl hh) : X.2.1.2.2.1.exceptionTable.toList = hh := C.2.2.2.2.2.2.2.2.2.2.2.2.2.1
theorem zC.t {X : zT} {cc : ByteArray} {own : String} {ret : Option FieldType} {nf nl : Nat} {hh : List ExceptionTableEntry} (C : zC X cc own ret nf nl hh) : X.l.stackTraces = false := C.2.2.2.2.2.2.2.2.2.2.2.2.2.2
theorem zofW {l : Launch} {y : MethodName} {ws ws' : List Cond} {rm : Room} {Pc : Array Value → State → Prop} {Qc : Array Value → State → Outcome → State → Prop} {XC : String → Addr → State → State → Prop} {mc ms : Nat} {free : Addr → Prop} {cc : ByteArray} {maxL : Nat} {ret : Option FieldType}
    (hy : plainFor y = true) (hw : ws = Cond.code y cc maxL ret :: ws')
    (body : ∀ p e s m args below meth c s₁, BodyLoose p l y (headSpec ws rm) cc maxL ret e s m args below meth c s₁ → c.maxLocals = maxL → (∀ x ∈ c.exceptionTable.toList, False) → Pc args s →
      W p l e (headSpec ws rm).room s m args below meth c s.heap [] 0 0 (vx_MQ below Qc XC args s mc ms free) (entryFrame m args maxL)) : vx_Met l y ws rm Pc Qc XC mc ms free := by
  refine MetFree.of_bodySF (code := cc) (maxLocals := maxL) (ret := ret) hy ?_ ?_
  · intro args s m h hn
    obtain ⟨meth, c, h1, h2, h3, h4, h5, h6, -, -⟩ := Cond.code_spec hn (atoms_spec (ws := ws) h _ (by rw [hw]; exact List.mem_cons_self))
    exact ⟨meth, c, h1, h2, h3, h4, h5, h6⟩
  · intro p e s m args below meth c s₁ B hml hP _
    have hh0 : s₁.heap = s.heap := by rw [B.state]; rfl
    have ht : ∀ x ∈ c.exceptionTable.toList, False := by
      obtain ⟨meth9, c9, h1, h2, -, -, -, -, h7, -⟩ := Cond.code_spec B.named (atoms_spec (ws := ws) B.pre _ (by rw [hw]; exact List.mem_cons_self))
      cases Option.some.inj (h1.symm.trans B.method)
      cases Option.some.inj (h2.symm.trans (Stand.of_body B).code)
      intro x hx
      rw [Array.isEmpty_iff.mp h7] at hx
      cases hx
    obtain ⟨t, a1, o, b1, b2, b3⟩ := body p e s m args below meth c s₁ B hml ht hP s₁ hh0 (Stand.of_body B)
    exact ⟨t, o, a1, b1, b2, b3⟩
/-- a contract out of the walk of its body -/
theorem zMet.of {l : Launch} {y : MethodName} {cc : ByteArray} {maxL : Nat} {ret : Option FieldType} {nf nl mc ms : Nat} {Γ : zCx} {h : zH} {As : List Value} {post : zR → zH → Prop} (hl : l.stackTraces = false) (hy : plainFor y = true) (hn : (lg_sl As).length ≤ maxL)
    (body : ∀ X : zT, X.l = l → X.Γ = Γ → X.post = post → zC X cc y.cls ret nf nl [] → X.2.1.2.1.name = y.name → X.2.1.2.2.2.2 = maxL → Z X h mc ms (lv_args 0 As) 0 []) : zMet l y (ws_ y cc maxL ret) ({ frames := nf, cells := mc, slots := ms, locals := nl }) Γ h As post mc ms := by
  refine zofW (cc := cc) (maxL := maxL) (ret := ret) hy rfl ?_
  intro p e s m args below meth c s₁ B hml hta hv
  obtain ⟨rfl, hP, hK, hb⟩ := hv
  have hts := atoms_spec (ws := ws_ y cc maxL ret) B.pre
  have hts : ∀ w ∈ lw_all, w.before _ s = true := fun w h => hts w (List.mem_cons_of_mem _ h)
  have hL := lv_entry As (n := maxL) hn
  rw [lg_entry_eq]
  generalize (lg_sl As ++ List.replicate (maxL - (lg_sl As).length) Slot.unset).toArray = ls at hL ⊢
  have K := body ((p, l, e, (headSpec (ws_ y cc maxL ret) ({ frames := nf, cells := mc, slots := ms, locals := nl })).room, s, m, As.toArray), (below, meth, c, Γ, maxL), (post, mc, ms)) rfl rfl rfl
    ⟨B.exec, B.bytes, B.returns, B.notSynchronized, hml, findClass_of_methodNamed B.named, hts, hK, hb, rfl, rfl, rfl, rfl, List.eq_nil_iff_forall_not_mem.mpr fun x hx => hta x hx, hl⟩ (name_of_methodNamed B.named B.method).1 rfl
  exact K s.heap [] 0 0 ls ⟨hP, va_S.rf, by simp, by simp, hL⟩

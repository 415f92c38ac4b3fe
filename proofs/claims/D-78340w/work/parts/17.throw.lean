/-! 17.throw.lean.txt -/
set_option maxRecDepth 100000
def RJ7 : String := "java/lang/Throwable"
abbrev cJ7_init_2 : ByteArray := prog_37_method_5_code
def yJ7_init_2 : MethodName := ⟨RJ7, "<init>", "(Ljava/lang/String;Ljava/lang/Throwable;ZZ)V"⟩
def dkwJ7_init_2_2 : List UInt8 := [44, 181, 0, 7, 29, 154, 0, 8, 42, 1, 181, 0, 24, 177]
abbrev dktJ7_init_2_2 : List UInt8 := dkwJ7_init_2_2 ++ []
def dkwJ7_init_2_1 : List UInt8 := [21, 4, 153, 0, 11, 42, 182, 0, 27, 87, 167, 0, 8, 42, 1, 181, 0, 17, 42, 43, 181, 0, 31, 42]
abbrev dktJ7_init_2_1 : List UInt8 := dkwJ7_init_2_1 ++ dktJ7_init_2_2
def dkwJ7_init_2_0 : List UInt8 := [42, 183, 0, 1, 42, 42, 181, 0, 7, 42, 178, 0, 13, 181, 0, 17, 42, 178, 0, 20, 181, 0, 24]
abbrev dktJ7_init_2_0 : List UInt8 := dkwJ7_init_2_0 ++ dktJ7_init_2_1
theorem dksJ7_init_2_0 : cJ7_init_2.data.toList.drop 0 = dktJ7_init_2_0 := by decide +kernel
theorem dksJ7_init_2_1 : cJ7_init_2.data.toList.drop 23 = dktJ7_init_2_1 := dk_seg dksJ7_init_2_0 23 rfl rfl
theorem dksJ7_init_2_2 : cJ7_init_2.data.toList.drop 47 = dktJ7_init_2_2 := dk_seg dksJ7_init_2_1 24 rfl rfl
def RJ8 : String := "java/lang/Exception"
abbrev cJ8_init : ByteArray := prog_20_method_5_code
def yJ8_init : MethodName := ⟨RJ8, "<init>", "(Ljava/lang/String;Ljava/lang/Throwable;ZZ)V"⟩
def dkwJ8_init_0 : List UInt8 := [42, 43, 44, 29, 21, 4, 183, 0, 16, 177]
abbrev dktJ8_init_0 : List UInt8 := dkwJ8_init_0 ++ []
theorem dksJ8_init_0 : cJ8_init.data.toList.drop 0 = dktJ8_init_0 := by decide +kernel
abbrev cX6_init : ByteArray := prog_9_method_1_code
def yX6_init : MethodName := ⟨RX6, "<init>", "(I)V"⟩
def dkwX6_init_0 : List UInt8 := [42, 1, 1, 3, 3, 183, 0, 1, 42, 27, 181, 0, 7, 177]
abbrev dktX6_init_0 : List UInt8 := dkwX6_init_0 ++ []
theorem dksX6_init_0 : cX6_init.data.toList.drop 0 = dktX6_init_0 := by decide +kernel
theorem dJ7_init_2_0 : decode cJ7_init_2 0 = .ok (.aload_n 0, 1) := dk_42 (dk_at dksJ7_init_2_0 0 rfl rfl)
theorem dJ7_init_2_1 : decode cJ7_init_2 1 = .ok (.invokespecial 1, 3) := dk_183 0 1 (dk_at dksJ7_init_2_0 1 rfl rfl)
theorem dJ7_init_2_4 : decode cJ7_init_2 4 = .ok (.aload_n 0, 1) := dk_42 (dk_at dksJ7_init_2_0 4 rfl rfl)
theorem dJ7_init_2_5 : decode cJ7_init_2 5 = .ok (.aload_n 0, 1) := dk_42 (dk_at dksJ7_init_2_0 5 rfl rfl)
theorem dJ7_init_2_6 : decode cJ7_init_2 6 = .ok (.putfield 7, 3) := dk_181 0 7 (dk_at dksJ7_init_2_0 6 rfl rfl)
theorem dJ7_init_2_9 : decode cJ7_init_2 9 = .ok (.aload_n 0, 1) := dk_42 (dk_at dksJ7_init_2_0 9 rfl rfl)
theorem dJ7_init_2_10 : decode cJ7_init_2 10 = .ok (.getstatic 13, 3) := dk_178 0 13 (dk_at dksJ7_init_2_0 10 rfl rfl)
theorem dJ7_init_2_13 : decode cJ7_init_2 13 = .ok (.putfield 17, 3) := dk_181 0 17 (dk_at dksJ7_init_2_0 13 rfl rfl)
theorem dJ7_init_2_16 : decode cJ7_init_2 16 = .ok (.aload_n 0, 1) := dk_42 (dk_at dksJ7_init_2_0 16 rfl rfl)
theorem dJ7_init_2_17 : decode cJ7_init_2 17 = .ok (.getstatic 20, 3) := dk_178 0 20 (dk_at dksJ7_init_2_0 17 rfl rfl)
theorem dJ7_init_2_20 : decode cJ7_init_2 20 = .ok (.putfield 24, 3) := dk_181 0 24 (dk_at dksJ7_init_2_0 20 rfl rfl)
theorem dJ7_init_2_23 : decode cJ7_init_2 23 = .ok (.iload 4, 2) := dk_21 4 (dk_at dksJ7_init_2_1 0 rfl rfl)
theorem dJ7_init_2_25 : decode cJ7_init_2 25 = .ok (.ifCond .eq 11, 3) := dk_153 0 11 (dk_at dksJ7_init_2_1 2 rfl rfl)
theorem dJ7_init_2_36 : decode cJ7_init_2 36 = .ok (.aload_n 0, 1) := dk_42 (dk_at dksJ7_init_2_1 13 rfl rfl)
theorem dJ7_init_2_37 : decode cJ7_init_2 37 = .ok (.aconst_null, 1) := dk_1 (dk_at dksJ7_init_2_1 14 rfl rfl)
theorem dJ7_init_2_38 : decode cJ7_init_2 38 = .ok (.putfield 17, 3) := dk_181 0 17 (dk_at dksJ7_init_2_1 15 rfl rfl)
theorem dJ7_init_2_41 : decode cJ7_init_2 41 = .ok (.aload_n 0, 1) := dk_42 (dk_at dksJ7_init_2_1 18 rfl rfl)
theorem dJ7_init_2_42 : decode cJ7_init_2 42 = .ok (.aload_n 1, 1) := dk_43 (dk_at dksJ7_init_2_1 19 rfl rfl)
theorem dJ7_init_2_43 : decode cJ7_init_2 43 = .ok (.putfield 31, 3) := dk_181 0 31 (dk_at dksJ7_init_2_1 20 rfl rfl)
theorem dJ7_init_2_46 : decode cJ7_init_2 46 = .ok (.aload_n 0, 1) := dk_42 (dk_at dksJ7_init_2_1 23 rfl rfl)
theorem dJ7_init_2_47 : decode cJ7_init_2 47 = .ok (.aload_n 2, 1) := dk_44 (dk_at dksJ7_init_2_2 0 rfl rfl)
theorem dJ7_init_2_48 : decode cJ7_init_2 48 = .ok (.putfield 7, 3) := dk_181 0 7 (dk_at dksJ7_init_2_2 1 rfl rfl)
theorem dJ7_init_2_51 : decode cJ7_init_2 51 = .ok (.iload_n 3, 1) := dk_29 (dk_at dksJ7_init_2_2 4 rfl rfl)
theorem dJ7_init_2_52 : decode cJ7_init_2 52 = .ok (.ifCond .ne 8, 3) := dk_154 0 8 (dk_at dksJ7_init_2_2 5 rfl rfl)
theorem dJ7_init_2_55 : decode cJ7_init_2 55 = .ok (.aload_n 0, 1) := dk_42 (dk_at dksJ7_init_2_2 8 rfl rfl)
theorem dJ7_init_2_56 : decode cJ7_init_2 56 = .ok (.aconst_null, 1) := dk_1 (dk_at dksJ7_init_2_2 9 rfl rfl)
theorem dJ7_init_2_57 : decode cJ7_init_2 57 = .ok (.putfield 24, 3) := dk_181 0 24 (dk_at dksJ7_init_2_2 10 rfl rfl)
theorem dJ7_init_2_60 : decode cJ7_init_2 60 = .ok (.return_, 1) := dk_177 (dk_at dksJ7_init_2_2 13 rfl rfl)
theorem dJ8_init_0 : decode cJ8_init 0 = .ok (.aload_n 0, 1) := dk_42 (dk_at dksJ8_init_0 0 rfl rfl)
theorem dJ8_init_1 : decode cJ8_init 1 = .ok (.aload_n 1, 1) := dk_43 (dk_at dksJ8_init_0 1 rfl rfl)
theorem dJ8_init_2 : decode cJ8_init 2 = .ok (.aload_n 2, 1) := dk_44 (dk_at dksJ8_init_0 2 rfl rfl)
theorem dJ8_init_3 : decode cJ8_init 3 = .ok (.iload_n 3, 1) := dk_29 (dk_at dksJ8_init_0 3 rfl rfl)
theorem dJ8_init_4 : decode cJ8_init 4 = .ok (.iload 4, 2) := dk_21 4 (dk_at dksJ8_init_0 4 rfl rfl)
theorem dJ8_init_6 : decode cJ8_init 6 = .ok (.invokespecial 16, 3) := dk_183 0 16 (dk_at dksJ8_init_0 6 rfl rfl)
theorem dJ8_init_9 : decode cJ8_init 9 = .ok (.return_, 1) := dk_177 (dk_at dksJ8_init_0 9 rfl rfl)
theorem dX6_init_0 : decode cX6_init 0 = .ok (.aload_n 0, 1) := dk_42 (dk_at dksX6_init_0 0 rfl rfl)
theorem dX6_init_1 : decode cX6_init 1 = .ok (.aconst_null, 1) := dk_1 (dk_at dksX6_init_0 1 rfl rfl)
theorem dX6_init_2 : decode cX6_init 2 = .ok (.aconst_null, 1) := dk_1 (dk_at dksX6_init_0 2 rfl rfl)
theorem dX6_init_3 : decode cX6_init 3 = .ok (.iconst 0, 1) := dk_3 (dk_at dksX6_init_0 3 rfl rfl)
theorem dX6_init_4 : decode cX6_init 4 = .ok (.iconst 0, 1) := dk_3 (dk_at dksX6_init_0 4 rfl rfl)
theorem dX6_init_5 : decode cX6_init 5 = .ok (.invokespecial 1, 3) := dk_183 0 1 (dk_at dksX6_init_0 5 rfl rfl)
theorem dX6_init_8 : decode cX6_init 8 = .ok (.aload_n 0, 1) := dk_42 (dk_at dksX6_init_0 8 rfl rfl)
theorem dX6_init_9 : decode cX6_init 9 = .ok (.iload_n 1, 1) := dk_27 (dk_at dksX6_init_0 9 rfl rfl)
theorem dX6_init_10 : decode cX6_init 10 = .ok (.putfield 7, 3) := dk_181 0 7 (dk_at dksX6_init_0 10 rfl rfl)
theorem dX6_init_13 : decode cX6_init 13 = .ok (.return_, 1) := dk_177 (dk_at dksX6_init_0 13 rfl rfl)
theorem q393 : (Jvm.Cond.methodLink "java/lang/Throwable" (1 : Nat) ({ cls := "java/lang/Object", name := "<init>", desc := "()V" } : Jvm.MethodName)) ∈ lw_all := lw_g (lw_at lw_m2 91 rfl) rfl
theorem q394 : (Jvm.Cond.fieldLink "java/lang/Throwable" (13 : Nat) "java/lang/Throwable" "UNASSIGNED_STACK" "[Ljava/lang/StackTraceElement;") ∈ lw_all := lw_g (lw_at lw_m2 92 rfl) rfl
theorem q396 : (Jvm.Cond.fieldLink "java/lang/Throwable" (20 : Nat) "java/lang/Throwable" "SUPPRESSED_SENTINEL" "Ljava/util/List;") ∈ lw_all := lw_g (lw_at lw_m2 94 rfl) rfl
theorem q415 : (Jvm.Cond.methodLink "ChordSheet$TextError" (1 : Nat) ({ cls := "java/lang/Exception", name := "<init>", desc := "(Ljava/lang/String;Ljava/lang/Throwable;ZZ)V" } : Jvm.MethodName)) ∈ lw_all := lw_g (lw_at lw_m2 113 rfl) rfl
theorem q416 : (Jvm.Cond.instanceMethod ({ cls := "java/lang/Exception", name := "<init>", desc := "(Ljava/lang/String;Ljava/lang/Throwable;ZZ)V" } : Jvm.MethodName)) ∈ lw_all := lw_g (lw_at lw_m2 114 rfl) rfl
theorem q417 : (Jvm.Cond.code ({ cls := "java/lang/Exception", name := "<init>", desc := "(Ljava/lang/String;Ljava/lang/Throwable;ZZ)V" } : Jvm.MethodName) prog_20_method_5_code (5 : Nat) (Option.none : Option Jvm.ClassFile.FieldType)) ∈ lw_all := lw_g (lw_at lw_m2 115 rfl) rfl
theorem q418 : (Jvm.Cond.methodLink "java/lang/Exception" (16 : Nat) ({ cls := "java/lang/Throwable", name := "<init>", desc := "(Ljava/lang/String;Ljava/lang/Throwable;ZZ)V" } : Jvm.MethodName)) ∈ lw_all := lw_g (lw_at lw_m2 116 rfl) rfl
theorem q419 : (Jvm.Cond.instanceMethod ({ cls := "java/lang/Throwable", name := "<init>", desc := "(Ljava/lang/String;Ljava/lang/Throwable;ZZ)V" } : Jvm.MethodName)) ∈ lw_all := lw_g (lw_at lw_m2 117 rfl) rfl
theorem q420 : (Jvm.Cond.code ({ cls := "java/lang/Throwable", name := "<init>", desc := "(Ljava/lang/String;Ljava/lang/Throwable;ZZ)V" } : Jvm.MethodName) prog_37_method_5_code (5 : Nat) (Option.none : Option Jvm.ClassFile.FieldType)) ∈ lw_all := lw_g (lw_at lw_m2 118 rfl) rfl
theorem q421 : (Jvm.Cond.fieldLink "ChordSheet$TextError" (7 : Nat) "ChordSheet$TextError" "position" "I") ∈ lw_all := lw_g (lw_at lw_m2 119 rfl) rfl
theorem q424 : (Jvm.Cond.fieldLink "java/lang/Throwable" (31 : Nat) "java/lang/Throwable" "detailMessage" "Ljava/lang/String;") ∈ lw_all := lw_g (lw_at lw_m2 122 rfl) rfl
theorem q425 : (Jvm.Cond.fieldLink "java/lang/Throwable" (7 : Nat) "java/lang/Throwable" "cause" "Ljava/lang/Throwable;") ∈ lw_all := lw_g (lw_at lw_m2 123 rfl) rfl
theorem q426 : (Jvm.Cond.fieldLink "java/lang/Throwable" (17 : Nat) "java/lang/Throwable" "stackTrace" "[Ljava/lang/StackTraceElement;") ∈ lw_all := lw_g (lw_at lw_m2 124 rfl) rfl
theorem q427 : (Jvm.Cond.fieldLink "java/lang/Throwable" (24 : Nat) "java/lang/Throwable" "suppressedExceptions" "Ljava/util/List;") ∈ lw_all := lw_g (lw_at lw_m2 125 rfl) rfl
theorem q75 : (Jvm.Cond.initialized "java/lang/Throwable") ∈ lw_all := lw_g (lw_at lw_m1 13 rfl) rfl
theorem q76 : (Jvm.Cond.initialized "java/lang/Exception") ∈ lw_all := lw_g (lw_at lw_m1 14 rfl) rfl
section ZTH
variable {X : zT} {cc : ByteArray} {own : String} {ret : Option FieldType} {nf nl : Nat} {hh : List ExceptionTableEntry} {h : zH} {kc ks : Nat} {L : List (Nat × Value)} {pc : Nat} {st : List Value}
theorem z_unass (C : zC X cc own ret nf nl hh) {index : Nat} (q : Cond.fieldLink own index "java/lang/Throwable" "UNASSIGNED_STACK" "[Ljava/lang/StackTraceElement;" ∈ lw_all) (d : decode cc pc = .ok (.getstatic index, 3)) (K : ∀ v : Value, (v = .null ∨ ∃ t, v = .ref t) → Z X h kc ks L (pc + 3) (v :: st)) : Z X h kc ks L pc st := by
  intro H locs cells slots ls hS
  rcases C.K.2.2.1.2.2.1.1 with z | ⟨t, z⟩
  · exact va_gets C.x C.b z hS.2.1 C.o (C.w _ q) (fun _ z => z) d (K _ (Or.inl rfl) H locs cells slots ls hS)
  · exact va_gets C.x C.b z hS.2.1 C.o (C.w _ q) (fun _ z => z) d (K _ (Or.inr ⟨t, rfl⟩) H locs cells slots ls hS)
theorem z_supp (C : zC X cc own ret nf nl hh) {index : Nat} (q : Cond.fieldLink own index "java/lang/Throwable" "SUPPRESSED_SENTINEL" "Ljava/util/List;" ∈ lw_all) (d : decode cc pc = .ok (.getstatic index, 3)) (K : ∀ v : Value, (v = .null ∨ ∃ t, v = .ref t) → Z X h kc ks L (pc + 3) (v :: st)) : Z X h kc ks L pc st := by
  intro H locs cells slots ls hS
  rcases C.K.2.2.1.2.2.2.1.1 with z | ⟨t, z⟩
  · exact va_gets C.x C.b z hS.2.1 C.o (C.w _ q) (fun _ z => z) d (K _ (Or.inl rfl) H locs cells slots ls hS)
  · exact va_gets C.x C.b z hS.2.1 C.o (C.w _ q) (fun _ z => z) d (K _ (Or.inr ⟨t, rfl⟩) H locs cells slots ls hS)
end ZTH
set_option maxHeartbeats 4000000 in
theorem ct_T_init4 {l : Launch} (hl : l.stackTraces = false) {Γ : zCx} {h : zH} {q : Nat} (hq : h q = some (true, .inr (5, [.null, .null, .null, .null, .null, .int (iI 0), .int (iI 0)])))  : zMet l yJ7_init_2 (ws_ yJ7_init_2 cJ7_init_2 5 none) ({ frames := 1, cells := 0, slots := 0, locals := 12 }) Γ h [.ref q, .null, .null, .int (iI 0), .int (iI 0)] (zrt (fun w h' => w = none ∧ h' q = some (true, .inr (5, [.null, .null, .null, .null, .null, .int (iI 0), .int (iI 0)])) ∧ zkeep h h' [q])) 0 0 := by
  refine zMet.of (cc := cJ7_init_2) hl (plainFor_of_name (by decide +kernel)) (Nat.le_of_ble_eq_true rfl) ?_
  intro X hXl hXΓ hXp C hnm hnL
  have C : zC X cJ7_init_2 RJ7 none 1 12 [] := C
  have hnL : X.2.1.2.2.2.2 = 5 := hnL
  subst hXl hXΓ
  show Z X h 0 0 [(0, .ref q), (1, .null), (2, .null), (3, .int (iI 0)), (4, .int (iI 0))] 0 []
  refine z_aload_n (pc := 0) (j := 0) C dJ7_init_2_0 rfl rfl ?_
  refine z_objInit (pc := 1) C q393 q113 q114 (by decide) (by decide) dJ7_init_2_1 ?_
  refine z_aload_n (pc := 4) (j := 0) C dJ7_init_2_4 rfl rfl ?_
  refine z_aload_n (pc := 5) (j := 0) C dJ7_init_2_5 rfl rfl ?_
  refine z_putfield (pc := 6) (fs' := [.ref q, .null, .null, .null, .null, .int (iI 0), .int (iI 0)]) C in_X6 tyX6 tyX6_ok nmX6 rfl 0 (by decide) q425 (fun _ z => z) rfl rfl rfl (Nat.le_of_ble_eq_true rfl) hq rfl dJ7_init_2_6 ?_
  refine Z.nm (fun h1 eh1 => ?_)
  have kh1 : zkeep h h1 [q] := by rw [eh1]; exact zkeep.up zkeep.rf (Or.inl (by simp)) hq
  have fh1_0 : h1 q = some (true, .inr (5, [.ref q, .null, .null, .null, .null, .int (iI 0), .int (iI 0)])) := zse eh1
  refine z_aload_n (pc := 9) (j := 0) C dJ7_init_2_9 rfl rfl ?_
  refine z_unass (pc := 10) C q394 dJ7_init_2_10 (fun v2 hvv2 => ?_)
  rcases hvv2 with rfl | ⟨tv2, rfl⟩
  · refine z_putfield (pc := 13) (fs' := [.ref q, .null, .null, .null, .null, .int (iI 0), .int (iI 0)]) C in_X6 tyX6 tyX6_ok nmX6 rfl 1 (by decide) q426 (fun _ z => z) rfl rfl rfl (Nat.le_of_ble_eq_true rfl) fh1_0 rfl dJ7_init_2_13 ?_
    refine Z.nm (fun h3 eh3 => ?_)
    have kh3 : zkeep h h3 [q] := by rw [eh3]; exact zkeep.up kh1 (Or.inl (by simp)) fh1_0
    have fh3_0 : h3 q = some (true, .inr (5, [.ref q, .null, .null, .null, .null, .int (iI 0), .int (iI 0)])) := zse eh3
    refine z_aload_n (pc := 16) (j := 0) C dJ7_init_2_16 rfl rfl ?_
    refine z_supp (pc := 17) C q396 dJ7_init_2_17 (fun v4 hvv4 => ?_)
    rcases hvv4 with rfl | ⟨tv4, rfl⟩
    · refine z_putfield (pc := 20) (fs' := [.ref q, .null, .null, .null, .null, .int (iI 0), .int (iI 0)]) C in_X6 tyX6 tyX6_ok nmX6 rfl 2 (by decide) q427 (fun _ z => z) rfl rfl rfl (Nat.le_of_ble_eq_true rfl) fh3_0 rfl dJ7_init_2_20 ?_
      refine Z.nm (fun h5 eh5 => ?_)
      have kh5 : zkeep h h5 [q] := by rw [eh5]; exact zkeep.up kh3 (Or.inl (by simp)) fh3_0
      have fh5_0 : h5 q = some (true, .inr (5, [.ref q, .null, .null, .null, .null, .int (iI 0), .int (iI 0)])) := zse eh5
      refine z_iload (pc := 23) (j := 4) C dJ7_init_2_23 rfl ?_
      refine z_if_eq (pc := 25) (tgt := 36) C dJ7_init_2_25 (by decide) (by decide) (fun _ => ?_) (fun z => absurd z (by decide))
      refine z_aload_n (pc := 36) (j := 0) C dJ7_init_2_36 rfl rfl ?_
      refine z_null (pc := 37) C dJ7_init_2_37 ?_
      refine z_putfield (pc := 38) (fs' := [.ref q, .null, .null, .null, .null, .int (iI 0), .int (iI 0)]) C in_X6 tyX6 tyX6_ok nmX6 rfl 1 (by decide) q426 (fun _ z => z) rfl rfl rfl (Nat.le_of_ble_eq_true rfl) fh5_0 rfl dJ7_init_2_38 ?_
      refine Z.nm (fun h6 eh6 => ?_)
      have kh6 : zkeep h h6 [q] := by rw [eh6]; exact zkeep.up kh5 (Or.inl (by simp)) fh5_0
      have fh6_0 : h6 q = some (true, .inr (5, [.ref q, .null, .null, .null, .null, .int (iI 0), .int (iI 0)])) := zse eh6
      refine z_aload_n (pc := 41) (j := 0) C dJ7_init_2_41 rfl rfl ?_
      refine z_aload_nN (pc := 42) (j := 1) C dJ7_init_2_42 rfl rfl ?_
      refine z_putfield (pc := 43) (fs' := [.ref q, .null, .null, .null, .null, .int (iI 0), .int (iI 0)]) C in_X6 tyX6 tyX6_ok nmX6 rfl 3 (by decide) q424 (fun _ z => z) rfl rfl rfl (Nat.le_of_ble_eq_true rfl) fh6_0 rfl dJ7_init_2_43 ?_
      refine Z.nm (fun h7 eh7 => ?_)
      have kh7 : zkeep h h7 [q] := by rw [eh7]; exact zkeep.up kh6 (Or.inl (by simp)) fh6_0
      have fh7_0 : h7 q = some (true, .inr (5, [.ref q, .null, .null, .null, .null, .int (iI 0), .int (iI 0)])) := zse eh7
      refine z_aload_n (pc := 46) (j := 0) C dJ7_init_2_46 rfl rfl ?_
      refine z_aload_nN (pc := 47) (j := 2) C dJ7_init_2_47 rfl rfl ?_
      refine z_putfield (pc := 48) (fs' := [.null, .null, .null, .null, .null, .int (iI 0), .int (iI 0)]) C in_X6 tyX6 tyX6_ok nmX6 rfl 0 (by decide) q425 (fun _ z => z) rfl rfl rfl (Nat.le_of_ble_eq_true rfl) fh7_0 rfl dJ7_init_2_48 ?_
      refine Z.nm (fun h8 eh8 => ?_)
      have kh8 : zkeep h h8 [q] := by rw [eh8]; exact zkeep.up kh7 (Or.inl (by simp)) fh7_0
      have fh8_0 : h8 q = some (true, .inr (5, [.null, .null, .null, .null, .null, .int (iI 0), .int (iI 0)])) := zse eh8
      refine z_iload_n (pc := 51) (j := 3) C dJ7_init_2_51 rfl rfl ?_
      refine z_if_ne (pc := 52) (tgt := 60) C dJ7_init_2_52 (by decide) (by decide) (fun z => absurd z (by decide)) (fun _ => ?_)
      refine z_aload_n (pc := 55) (j := 0) C dJ7_init_2_55 rfl rfl ?_
      refine z_null (pc := 56) C dJ7_init_2_56 ?_
      refine z_putfield (pc := 57) (fs' := [.null, .null, .null, .null, .null, .int (iI 0), .int (iI 0)]) C in_X6 tyX6 tyX6_ok nmX6 rfl 2 (by decide) q427 (fun _ z => z) rfl rfl rfl (Nat.le_of_ble_eq_true rfl) fh8_0 rfl dJ7_init_2_57 ?_
      refine Z.nm (fun h9 eh9 => ?_)
      have kh9 : zkeep h h9 [q] := by rw [eh9]; exact zkeep.up kh8 (Or.inl (by simp)) fh8_0
      have fh9_0 : h9 q = some (true, .inr (5, [.null, .null, .null, .null, .null, .int (iI 0), .int (iI 0)])) := zse eh9
      exact z_return (pc := 60) C (by rw [hXp]; exact ⟨_, rfl, rfl, fh9_0, kh9⟩) dJ7_init_2_60
    · refine z_putfield (pc := 20) (fs' := [.ref q, .null, .ref tv4, .null, .null, .int (iI 0), .int (iI 0)]) C in_X6 tyX6 tyX6_ok nmX6 rfl 2 (by decide) q427 (fun _ z => z) rfl rfl rfl (Nat.le_of_ble_eq_true rfl) fh3_0 rfl dJ7_init_2_20 ?_
      refine Z.nm (fun h10 eh10 => ?_)
      have kh10 : zkeep h h10 [q] := by rw [eh10]; exact zkeep.up kh3 (Or.inl (by simp)) fh3_0
      have fh10_0 : h10 q = some (true, .inr (5, [.ref q, .null, .ref tv4, .null, .null, .int (iI 0), .int (iI 0)])) := zse eh10
      refine z_iload (pc := 23) (j := 4) C dJ7_init_2_23 rfl ?_
      refine z_if_eq (pc := 25) (tgt := 36) C dJ7_init_2_25 (by decide) (by decide) (fun _ => ?_) (fun z => absurd z (by decide))
      refine z_aload_n (pc := 36) (j := 0) C dJ7_init_2_36 rfl rfl ?_
      refine z_null (pc := 37) C dJ7_init_2_37 ?_
      refine z_putfield (pc := 38) (fs' := [.ref q, .null, .ref tv4, .null, .null, .int (iI 0), .int (iI 0)]) C in_X6 tyX6 tyX6_ok nmX6 rfl 1 (by decide) q426 (fun _ z => z) rfl rfl rfl (Nat.le_of_ble_eq_true rfl) fh10_0 rfl dJ7_init_2_38 ?_
      refine Z.nm (fun h11 eh11 => ?_)
      have kh11 : zkeep h h11 [q] := by rw [eh11]; exact zkeep.up kh10 (Or.inl (by simp)) fh10_0
      have fh11_0 : h11 q = some (true, .inr (5, [.ref q, .null, .ref tv4, .null, .null, .int (iI 0), .int (iI 0)])) := zse eh11
      refine z_aload_n (pc := 41) (j := 0) C dJ7_init_2_41 rfl rfl ?_
      refine z_aload_nN (pc := 42) (j := 1) C dJ7_init_2_42 rfl rfl ?_
      refine z_putfield (pc := 43) (fs' := [.ref q, .null, .ref tv4, .null, .null, .int (iI 0), .int (iI 0)]) C in_X6 tyX6 tyX6_ok nmX6 rfl 3 (by decide) q424 (fun _ z => z) rfl rfl rfl (Nat.le_of_ble_eq_true rfl) fh11_0 rfl dJ7_init_2_43 ?_
      refine Z.nm (fun h12 eh12 => ?_)
      have kh12 : zkeep h h12 [q] := by rw [eh12]; exact zkeep.up kh11 (Or.inl (by simp)) fh11_0
      have fh12_0 : h12 q = some (true, .inr (5, [.ref q, .null, .ref tv4, .null, .null, .int (iI 0), .int (iI 0)])) := zse eh12
      refine z_aload_n (pc := 46) (j := 0) C dJ7_init_2_46 rfl rfl ?_
      refine z_aload_nN (pc := 47) (j := 2) C dJ7_init_2_47 rfl rfl ?_
      refine z_putfield (pc := 48) (fs' := [.null, .null, .ref tv4, .null, .null, .int (iI 0), .int (iI 0)]) C in_X6 tyX6 tyX6_ok nmX6 rfl 0 (by decide) q425 (fun _ z => z) rfl rfl rfl (Nat.le_of_ble_eq_true rfl) fh12_0 rfl dJ7_init_2_48 ?_
      refine Z.nm (fun h13 eh13 => ?_)
      have kh13 : zkeep h h13 [q] := by rw [eh13]; exact zkeep.up kh12 (Or.inl (by simp)) fh12_0
      have fh13_0 : h13 q = some (true, .inr (5, [.null, .null, .ref tv4, .null, .null, .int (iI 0), .int (iI 0)])) := zse eh13
      refine z_iload_n (pc := 51) (j := 3) C dJ7_init_2_51 rfl rfl ?_
      refine z_if_ne (pc := 52) (tgt := 60) C dJ7_init_2_52 (by decide) (by decide) (fun z => absurd z (by decide)) (fun _ => ?_)
      refine z_aload_n (pc := 55) (j := 0) C dJ7_init_2_55 rfl rfl ?_
      refine z_null (pc := 56) C dJ7_init_2_56 ?_
      refine z_putfield (pc := 57) (fs' := [.null, .null, .null, .null, .null, .int (iI 0), .int (iI 0)]) C in_X6 tyX6 tyX6_ok nmX6 rfl 2 (by decide) q427 (fun _ z => z) rfl rfl rfl (Nat.le_of_ble_eq_true rfl) fh13_0 rfl dJ7_init_2_57 ?_
      refine Z.nm (fun h14 eh14 => ?_)
      have kh14 : zkeep h h14 [q] := by rw [eh14]; exact zkeep.up kh13 (Or.inl (by simp)) fh13_0
      have fh14_0 : h14 q = some (true, .inr (5, [.null, .null, .null, .null, .null, .int (iI 0), .int (iI 0)])) := zse eh14
      exact z_return (pc := 60) C (by rw [hXp]; exact ⟨_, rfl, rfl, fh14_0, kh14⟩) dJ7_init_2_60
  · refine z_putfield (pc := 13) (fs' := [.ref q, .ref tv2, .null, .null, .null, .int (iI 0), .int (iI 0)]) C in_X6 tyX6 tyX6_ok nmX6 rfl 1 (by decide) q426 (fun _ z => z) rfl rfl rfl (Nat.le_of_ble_eq_true rfl) fh1_0 rfl dJ7_init_2_13 ?_
    refine Z.nm (fun h15 eh15 => ?_)
    have kh15 : zkeep h h15 [q] := by rw [eh15]; exact zkeep.up kh1 (Or.inl (by simp)) fh1_0
    have fh15_0 : h15 q = some (true, .inr (5, [.ref q, .ref tv2, .null, .null, .null, .int (iI 0), .int (iI 0)])) := zse eh15
    refine z_aload_n (pc := 16) (j := 0) C dJ7_init_2_16 rfl rfl ?_
    refine z_supp (pc := 17) C q396 dJ7_init_2_17 (fun v16 hvv16 => ?_)
    rcases hvv16 with rfl | ⟨tv16, rfl⟩
    · refine z_putfield (pc := 20) (fs' := [.ref q, .ref tv2, .null, .null, .null, .int (iI 0), .int (iI 0)]) C in_X6 tyX6 tyX6_ok nmX6 rfl 2 (by decide) q427 (fun _ z => z) rfl rfl rfl (Nat.le_of_ble_eq_true rfl) fh15_0 rfl dJ7_init_2_20 ?_
      refine Z.nm (fun h17 eh17 => ?_)
      have kh17 : zkeep h h17 [q] := by rw [eh17]; exact zkeep.up kh15 (Or.inl (by simp)) fh15_0
      have fh17_0 : h17 q = some (true, .inr (5, [.ref q, .ref tv2, .null, .null, .null, .int (iI 0), .int (iI 0)])) := zse eh17
      refine z_iload (pc := 23) (j := 4) C dJ7_init_2_23 rfl ?_
      refine z_if_eq (pc := 25) (tgt := 36) C dJ7_init_2_25 (by decide) (by decide) (fun _ => ?_) (fun z => absurd z (by decide))
      refine z_aload_n (pc := 36) (j := 0) C dJ7_init_2_36 rfl rfl ?_
      refine z_null (pc := 37) C dJ7_init_2_37 ?_
      refine z_putfield (pc := 38) (fs' := [.ref q, .null, .null, .null, .null, .int (iI 0), .int (iI 0)]) C in_X6 tyX6 tyX6_ok nmX6 rfl 1 (by decide) q426 (fun _ z => z) rfl rfl rfl (Nat.le_of_ble_eq_true rfl) fh17_0 rfl dJ7_init_2_38 ?_
      refine Z.nm (fun h18 eh18 => ?_)
      have kh18 : zkeep h h18 [q] := by rw [eh18]; exact zkeep.up kh17 (Or.inl (by simp)) fh17_0
      have fh18_0 : h18 q = some (true, .inr (5, [.ref q, .null, .null, .null, .null, .int (iI 0), .int (iI 0)])) := zse eh18
      refine z_aload_n (pc := 41) (j := 0) C dJ7_init_2_41 rfl rfl ?_
      refine z_aload_nN (pc := 42) (j := 1) C dJ7_init_2_42 rfl rfl ?_
      refine z_putfield (pc := 43) (fs' := [.ref q, .null, .null, .null, .null, .int (iI 0), .int (iI 0)]) C in_X6 tyX6 tyX6_ok nmX6 rfl 3 (by decide) q424 (fun _ z => z) rfl rfl rfl (Nat.le_of_ble_eq_true rfl) fh18_0 rfl dJ7_init_2_43 ?_
      refine Z.nm (fun h19 eh19 => ?_)
      have kh19 : zkeep h h19 [q] := by rw [eh19]; exact zkeep.up kh18 (Or.inl (by simp)) fh18_0
      have fh19_0 : h19 q = some (true, .inr (5, [.ref q, .null, .null, .null, .null, .int (iI 0), .int (iI 0)])) := zse eh19
      refine z_aload_n (pc := 46) (j := 0) C dJ7_init_2_46 rfl rfl ?_
      refine z_aload_nN (pc := 47) (j := 2) C dJ7_init_2_47 rfl rfl ?_
      refine z_putfield (pc := 48) (fs' := [.null, .null, .null, .null, .null, .int (iI 0), .int (iI 0)]) C in_X6 tyX6 tyX6_ok nmX6 rfl 0 (by decide) q425 (fun _ z => z) rfl rfl rfl (Nat.le_of_ble_eq_true rfl) fh19_0 rfl dJ7_init_2_48 ?_
      refine Z.nm (fun h20 eh20 => ?_)
      have kh20 : zkeep h h20 [q] := by rw [eh20]; exact zkeep.up kh19 (Or.inl (by simp)) fh19_0
      have fh20_0 : h20 q = some (true, .inr (5, [.null, .null, .null, .null, .null, .int (iI 0), .int (iI 0)])) := zse eh20
      refine z_iload_n (pc := 51) (j := 3) C dJ7_init_2_51 rfl rfl ?_
      refine z_if_ne (pc := 52) (tgt := 60) C dJ7_init_2_52 (by decide) (by decide) (fun z => absurd z (by decide)) (fun _ => ?_)
      refine z_aload_n (pc := 55) (j := 0) C dJ7_init_2_55 rfl rfl ?_
      refine z_null (pc := 56) C dJ7_init_2_56 ?_
      refine z_putfield (pc := 57) (fs' := [.null, .null, .null, .null, .null, .int (iI 0), .int (iI 0)]) C in_X6 tyX6 tyX6_ok nmX6 rfl 2 (by decide) q427 (fun _ z => z) rfl rfl rfl (Nat.le_of_ble_eq_true rfl) fh20_0 rfl dJ7_init_2_57 ?_
      refine Z.nm (fun h21 eh21 => ?_)
      have kh21 : zkeep h h21 [q] := by rw [eh21]; exact zkeep.up kh20 (Or.inl (by simp)) fh20_0
      have fh21_0 : h21 q = some (true, .inr (5, [.null, .null, .null, .null, .null, .int (iI 0), .int (iI 0)])) := zse eh21
      exact z_return (pc := 60) C (by rw [hXp]; exact ⟨_, rfl, rfl, fh21_0, kh21⟩) dJ7_init_2_60
    · refine z_putfield (pc := 20) (fs' := [.ref q, .ref tv2, .ref tv16, .null, .null, .int (iI 0), .int (iI 0)]) C in_X6 tyX6 tyX6_ok nmX6 rfl 2 (by decide) q427 (fun _ z => z) rfl rfl rfl (Nat.le_of_ble_eq_true rfl) fh15_0 rfl dJ7_init_2_20 ?_
      refine Z.nm (fun h22 eh22 => ?_)
      have kh22 : zkeep h h22 [q] := by rw [eh22]; exact zkeep.up kh15 (Or.inl (by simp)) fh15_0
      have fh22_0 : h22 q = some (true, .inr (5, [.ref q, .ref tv2, .ref tv16, .null, .null, .int (iI 0), .int (iI 0)])) := zse eh22
      refine z_iload (pc := 23) (j := 4) C dJ7_init_2_23 rfl ?_
      refine z_if_eq (pc := 25) (tgt := 36) C dJ7_init_2_25 (by decide) (by decide) (fun _ => ?_) (fun z => absurd z (by decide))
      refine z_aload_n (pc := 36) (j := 0) C dJ7_init_2_36 rfl rfl ?_
      refine z_null (pc := 37) C dJ7_init_2_37 ?_
      refine z_putfield (pc := 38) (fs' := [.ref q, .null, .ref tv16, .null, .null, .int (iI 0), .int (iI 0)]) C in_X6 tyX6 tyX6_ok nmX6 rfl 1 (by decide) q426 (fun _ z => z) rfl rfl rfl (Nat.le_of_ble_eq_true rfl) fh22_0 rfl dJ7_init_2_38 ?_
      refine Z.nm (fun h23 eh23 => ?_)
      have kh23 : zkeep h h23 [q] := by rw [eh23]; exact zkeep.up kh22 (Or.inl (by simp)) fh22_0
      have fh23_0 : h23 q = some (true, .inr (5, [.ref q, .null, .ref tv16, .null, .null, .int (iI 0), .int (iI 0)])) := zse eh23
      refine z_aload_n (pc := 41) (j := 0) C dJ7_init_2_41 rfl rfl ?_
      refine z_aload_nN (pc := 42) (j := 1) C dJ7_init_2_42 rfl rfl ?_
      refine z_putfield (pc := 43) (fs' := [.ref q, .null, .ref tv16, .null, .null, .int (iI 0), .int (iI 0)]) C in_X6 tyX6 tyX6_ok nmX6 rfl 3 (by decide) q424 (fun _ z => z) rfl rfl rfl (Nat.le_of_ble_eq_true rfl) fh23_0 rfl dJ7_init_2_43 ?_
      refine Z.nm (fun h24 eh24 => ?_)
      have kh24 : zkeep h h24 [q] := by rw [eh24]; exact zkeep.up kh23 (Or.inl (by simp)) fh23_0
      have fh24_0 : h24 q = some (true, .inr (5, [.ref q, .null, .ref tv16, .null, .null, .int (iI 0), .int (iI 0)])) := zse eh24
      refine z_aload_n (pc := 46) (j := 0) C dJ7_init_2_46 rfl rfl ?_
      refine z_aload_nN (pc := 47) (j := 2) C dJ7_init_2_47 rfl rfl ?_
      refine z_putfield (pc := 48) (fs' := [.null, .null, .ref tv16, .null, .null, .int (iI 0), .int (iI 0)]) C in_X6 tyX6 tyX6_ok nmX6 rfl 0 (by decide) q425 (fun _ z => z) rfl rfl rfl (Nat.le_of_ble_eq_true rfl) fh24_0 rfl dJ7_init_2_48 ?_
      refine Z.nm (fun h25 eh25 => ?_)
      have kh25 : zkeep h h25 [q] := by rw [eh25]; exact zkeep.up kh24 (Or.inl (by simp)) fh24_0
      have fh25_0 : h25 q = some (true, .inr (5, [.null, .null, .ref tv16, .null, .null, .int (iI 0), .int (iI 0)])) := zse eh25
      refine z_iload_n (pc := 51) (j := 3) C dJ7_init_2_51 rfl rfl ?_
      refine z_if_ne (pc := 52) (tgt := 60) C dJ7_init_2_52 (by decide) (by decide) (fun z => absurd z (by decide)) (fun _ => ?_)
      refine z_aload_n (pc := 55) (j := 0) C dJ7_init_2_55 rfl rfl ?_
      refine z_null (pc := 56) C dJ7_init_2_56 ?_
      refine z_putfield (pc := 57) (fs' := [.null, .null, .null, .null, .null, .int (iI 0), .int (iI 0)]) C in_X6 tyX6 tyX6_ok nmX6 rfl 2 (by decide) q427 (fun _ z => z) rfl rfl rfl (Nat.le_of_ble_eq_true rfl) fh25_0 rfl dJ7_init_2_57 ?_
      refine Z.nm (fun h26 eh26 => ?_)
      have kh26 : zkeep h h26 [q] := by rw [eh26]; exact zkeep.up kh25 (Or.inl (by simp)) fh25_0
      have fh26_0 : h26 q = some (true, .inr (5, [.null, .null, .null, .null, .null, .int (iI 0), .int (iI 0)])) := zse eh26
      exact z_return (pc := 60) C (by rw [hXp]; exact ⟨_, rfl, rfl, fh26_0, kh26⟩) dJ7_init_2_60
set_option maxHeartbeats 4000000 in
theorem ct_E_init4 {l : Launch} (hl : l.stackTraces = false) {Γ : zCx} {h : zH} {q : Nat} (hq : h q = some (true, .inr (5, [.null, .null, .null, .null, .null, .int (iI 0), .int (iI 0)])))  : zMet l yJ8_init (ws_ yJ8_init cJ8_init 5 none) ({ frames := 2, cells := 0, slots := 0, locals := 36 }) Γ h [.ref q, .null, .null, .int (iI 0), .int (iI 0)] (zrt (fun w h' => w = none ∧ h' q = some (true, .inr (5, [.null, .null, .null, .null, .null, .int (iI 0), .int (iI 0)])) ∧ zkeep h h' [q])) 0 0 := by
  refine zMet.of (cc := cJ8_init) hl (plainFor_of_name (by decide +kernel)) (Nat.le_of_ble_eq_true rfl) ?_
  intro X hXl hXΓ hXp C hnm hnL
  have C : zC X cJ8_init RJ8 none 2 36 [] := C
  have hnL : X.2.1.2.2.2.2 = 5 := hnL
  subst hXl hXΓ
  show Z X h 0 0 [(0, .ref q), (1, .null), (2, .null), (3, .int (iI 0)), (4, .int (iI 0))] 0 []
  refine z_aload_n (pc := 0) (j := 0) C dJ8_init_0 rfl rfl ?_
  refine z_aload_nN (pc := 1) (j := 1) C dJ8_init_1 rfl rfl ?_
  refine z_aload_nN (pc := 2) (j := 2) C dJ8_init_2 rfl rfl ?_
  refine z_iload_n (pc := 3) (j := 3) C dJ8_init_3 rfl rfl ?_
  refine z_iload (pc := 4) (j := 4) C dJ8_init_4 rfl ?_
  refine z_callI (pc := 6) (n := 4) (kc' := 0) (ks' := 0) C (ct_T_init4 C.t hq) q420 q75 q418 q419 rfl (by decide +kernel) ⟨by decide, by decide⟩ rfl rfl (Nat.le_of_ble_eq_true rfl) dJ8_init_6 (by omega) (by omega) (zrk fun w h1 hp => ?_) zrx
  obtain ⟨rfl, fq2, k3⟩ := hp
  have kh1 : zkeep h h1 [q] := zkeep.loc zkeep.rf k3 (zall_cons (Or.inl (Or.symm (Or.inl (by simp)))) zall_nil)
  show Z X h1 0 0 [(0, .ref q), (1, .null), (2, .null), (3, .int (iI 0)), (4, .int (iI 0))] 9 []
  exact z_return (pc := 9) C (by rw [hXp]; exact ⟨_, rfl, rfl, fq2, kh1⟩) dJ8_init_9
set_option maxHeartbeats 4000000 in
theorem ct_TE_init {l : Launch} (hl : l.stackTraces = false) {Γ : zCx} {h : zH} {q : Nat} (hq : h q = some (true, .inr (5, [.null, .null, .null, .null, .null, .int (iI 0), .int (iI 0)]))) {p : Int} : zMet l yX6_init (ws_ yX6_init cX6_init 2 none) ({ frames := 3, cells := 0, slots := 0, locals := 60 }) Γ h [.ref q, .int (iI p)] (zrt (fun w h' => w = none ∧ h' q = some (true, .inr (5, [.null, .null, .null, .null, .null, .int (iI 0), .int (iI p)])) ∧ zkeep h h' [q])) 0 0 := by
  refine zMet.of (cc := cX6_init) hl (plainFor_of_name (by decide +kernel)) (Nat.le_of_ble_eq_true rfl) ?_
  intro X hXl hXΓ hXp C hnm hnL
  have C : zC X cX6_init RX6 none 3 60 [] := C
  have hnL : X.2.1.2.2.2.2 = 2 := hnL
  subst hXl hXΓ
  show Z X h 0 0 [(0, .ref q), (1, .int (iI p))] 0 []
  refine z_aload_n (pc := 0) (j := 0) C dX6_init_0 rfl rfl ?_
  refine z_null (pc := 1) C dX6_init_1 ?_
  refine z_null (pc := 2) C dX6_init_2 ?_
  refine z_iconst (pc := 3) C dX6_init_3 ?_
  refine z_iconst (pc := 4) C dX6_init_4 ?_
  refine z_callI (pc := 5) (n := 4) (kc' := 0) (ks' := 0) C (ct_E_init4 C.t hq) q417 q76 q415 q416 rfl (by decide +kernel) ⟨by decide, by decide⟩ rfl rfl (Nat.le_of_ble_eq_true rfl) dX6_init_5 (by omega) (by omega) (zrk fun w h1 hp => ?_) zrx
  obtain ⟨rfl, fq2, k3⟩ := hp
  have kh1 : zkeep h h1 [q] := zkeep.loc zkeep.rf k3 (zall_cons (Or.inl (Or.symm (Or.inl (by simp)))) zall_nil)
  show Z X h1 0 0 [(0, .ref q), (1, .int (iI p))] 8 []
  refine z_aload_n (pc := 8) (j := 0) C dX6_init_8 rfl rfl ?_
  refine z_iload_n (pc := 9) (j := 1) C dX6_init_9 rfl rfl ?_
  refine z_putfieldF (pc := 10) (fs' := [.null, .null, .null, .null, .null, .int (iI 0), .int (iI p)]) C hnm in_X6 tyX6 tyX6_ok nmX6 rfl 6 (by decide) q421 (fun _ z => z) rfl rfl rfl rfl (Nat.le_of_ble_eq_true rfl) fq2 rfl dX6_init_10 ?_
  refine Z.nm (fun h4 eh4 => ?_)
  have kh4 : zkeep h h4 [q] := by rw [eh4]; exact zkeep.up kh1 (Or.inl (by simp)) fq2
  have fh4_0 : h4 q = some (true, .inr (5, [.null, .null, .null, .null, .null, .int (iI 0), .int (iI p)])) := zse eh4
  exact z_return (pc := 13) C (by rw [hXp]; exact ⟨_, rfl, rfl, fh4_0, kh4⟩) dX6_init_13

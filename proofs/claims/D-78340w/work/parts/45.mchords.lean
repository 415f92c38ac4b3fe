/-! 45.mchords.lean.txt -/
set_option maxRecDepth 100000
abbrev cX4_read : ByteArray := prog_11_method_17_code
def yX4_read : MethodName := ⟨RX4, "read", "()I"⟩
def dkwX4_read_4 : List UInt8 := [3, 79, 42, 180, 0, 7, 4, 46, 172]
abbrev dktX4_read_4 : List UInt8 := dkwX4_read_4 ++ []
def dkwX4_read_3 : List UInt8 := [27, 16, 100, 100, 167, 0, 4, 27, 79, 42, 180, 0, 7, 6, 27, 16, 50, 161, 0, 7, 4, 167, 0, 4]
abbrev dktX4_read_3 : List UInt8 := dkwX4_read_3 ++ dktX4_read_4
def dkwX4_read_2 : List UInt8 := [167, 255, 234, 42, 3, 181, 0, 56, 42, 182, 0, 110, 60, 42, 180, 0, 7, 5, 27, 16, 50, 161, 0, 10]
abbrev dktX4_read_2 : List UInt8 := dkwX4_read_2 ++ dktX4_read_3
def dkwX4_read_1 : List UInt8 := [60, 27, 17, 2, 108, 162, 0, 21, 42, 180, 0, 7, 27, 42, 180, 0, 34, 27, 46, 79, 132, 1, 1]
abbrev dktX4_read_1 : List UInt8 := dkwX4_read_1 ++ dktX4_read_2
def dkwX4_read_0 : List UInt8 := [42, 3, 181, 0, 46, 42, 182, 0, 104, 154, 0, 10, 2, 42, 180, 0, 59, 100, 172, 42, 182, 0, 107, 3]
abbrev dktX4_read_0 : List UInt8 := dkwX4_read_0 ++ dktX4_read_1
theorem dksX4_read_0 : cX4_read.data.toList.drop 0 = dktX4_read_0 := by decide +kernel
theorem dksX4_read_1 : cX4_read.data.toList.drop 24 = dktX4_read_1 := dk_seg dksX4_read_0 24 rfl rfl
theorem dksX4_read_2 : cX4_read.data.toList.drop 47 = dktX4_read_2 := dk_seg dksX4_read_1 23 rfl rfl
theorem dksX4_read_3 : cX4_read.data.toList.drop 71 = dktX4_read_3 := dk_seg dksX4_read_2 24 rfl rfl
theorem dksX4_read_4 : cX4_read.data.toList.drop 95 = dktX4_read_4 := dk_seg dksX4_read_3 24 rfl rfl
theorem dX4_read_0 : decode cX4_read 0 = .ok (.aload_n 0, 1) := dk_42 (dk_at dksX4_read_0 0 rfl rfl)
theorem dX4_read_1 : decode cX4_read 1 = .ok (.iconst 0, 1) := dk_3 (dk_at dksX4_read_0 1 rfl rfl)
theorem dX4_read_2 : decode cX4_read 2 = .ok (.putfield 46, 3) := dk_181 0 46 (dk_at dksX4_read_0 2 rfl rfl)
theorem dX4_read_5 : decode cX4_read 5 = .ok (.aload_n 0, 1) := dk_42 (dk_at dksX4_read_0 5 rfl rfl)
theorem dX4_read_6 : decode cX4_read 6 = .ok (.invokevirtual 104, 3) := dk_182 0 104 (dk_at dksX4_read_0 6 rfl rfl)
theorem dX4_read_9 : decode cX4_read 9 = .ok (.ifCond .ne 10, 3) := dk_154 0 10 (dk_at dksX4_read_0 9 rfl rfl)
theorem dX4_read_12 : decode cX4_read 12 = .ok (.iconst (-1), 1) := dk_2 (dk_at dksX4_read_0 12 rfl rfl)
theorem dX4_read_13 : decode cX4_read 13 = .ok (.aload_n 0, 1) := dk_42 (dk_at dksX4_read_0 13 rfl rfl)
theorem dX4_read_14 : decode cX4_read 14 = .ok (.getfield 59, 3) := dk_180 0 59 (dk_at dksX4_read_0 14 rfl rfl)
theorem dX4_read_17 : decode cX4_read 17 = .ok (.isub, 1) := dk_100 (dk_at dksX4_read_0 17 rfl rfl)
theorem dX4_read_18 : decode cX4_read 18 = .ok (.ireturn, 1) := dk_172 (dk_at dksX4_read_0 18 rfl rfl)
theorem dX4_read_19 : decode cX4_read 19 = .ok (.aload_n 0, 1) := dk_42 (dk_at dksX4_read_0 19 rfl rfl)
theorem dX4_read_20 : decode cX4_read 20 = .ok (.invokevirtual 107, 3) := dk_182 0 107 (dk_at dksX4_read_0 20 rfl rfl)
theorem dX4_read_23 : decode cX4_read 23 = .ok (.iconst 0, 1) := dk_3 (dk_at dksX4_read_0 23 rfl rfl)
theorem dX4_read_24 : decode cX4_read 24 = .ok (.istore_n 1, 1) := dk_60 (dk_at dksX4_read_1 0 rfl rfl)
theorem dX4_read_25 : decode cX4_read 25 = .ok (.iload_n 1, 1) := dk_27 (dk_at dksX4_read_1 1 rfl rfl)
theorem dX4_read_26 : decode cX4_read 26 = .ok (.sipush 620, 3) := dk_17 2 108 (dk_at dksX4_read_1 2 rfl rfl)
theorem dX4_read_29 : decode cX4_read 29 = .ok (.if_icmp .ge 21, 3) := dk_162 0 21 (dk_at dksX4_read_1 5 rfl rfl)
theorem dX4_read_32 : decode cX4_read 32 = .ok (.aload_n 0, 1) := dk_42 (dk_at dksX4_read_1 8 rfl rfl)
theorem dX4_read_33 : decode cX4_read 33 = .ok (.getfield 7, 3) := dk_180 0 7 (dk_at dksX4_read_1 9 rfl rfl)
theorem dX4_read_36 : decode cX4_read 36 = .ok (.iload_n 1, 1) := dk_27 (dk_at dksX4_read_1 12 rfl rfl)
theorem dX4_read_37 : decode cX4_read 37 = .ok (.aload_n 0, 1) := dk_42 (dk_at dksX4_read_1 13 rfl rfl)
theorem dX4_read_38 : decode cX4_read 38 = .ok (.getfield 34, 3) := dk_180 0 34 (dk_at dksX4_read_1 14 rfl rfl)
theorem dX4_read_41 : decode cX4_read 41 = .ok (.iload_n 1, 1) := dk_27 (dk_at dksX4_read_1 17 rfl rfl)
theorem dX4_read_42 : decode cX4_read 42 = .ok (.iaload, 1) := dk_46 (dk_at dksX4_read_1 18 rfl rfl)
theorem dX4_read_43 : decode cX4_read 43 = .ok (.iastore, 1) := dk_79 (dk_at dksX4_read_1 19 rfl rfl)
theorem dX4_read_44 : decode cX4_read 44 = .ok (.iinc 1 1, 3) := dk_132 1 1 (dk_at dksX4_read_1 20 rfl rfl)
theorem dX4_read_47 : decode cX4_read 47 = .ok (.goto (-22), 3) := dk_167 255 234 (dk_at dksX4_read_2 0 rfl rfl)
theorem dX4_read_50 : decode cX4_read 50 = .ok (.aload_n 0, 1) := dk_42 (dk_at dksX4_read_2 3 rfl rfl)
theorem dX4_read_51 : decode cX4_read 51 = .ok (.iconst 0, 1) := dk_3 (dk_at dksX4_read_2 4 rfl rfl)
theorem dX4_read_52 : decode cX4_read 52 = .ok (.putfield 56, 3) := dk_181 0 56 (dk_at dksX4_read_2 5 rfl rfl)
theorem dX4_read_55 : decode cX4_read 55 = .ok (.aload_n 0, 1) := dk_42 (dk_at dksX4_read_2 8 rfl rfl)
theorem dX4_read_56 : decode cX4_read 56 = .ok (.invokevirtual 110, 3) := dk_182 0 110 (dk_at dksX4_read_2 9 rfl rfl)
theorem dX4_read_59 : decode cX4_read 59 = .ok (.istore_n 1, 1) := dk_60 (dk_at dksX4_read_2 12 rfl rfl)
theorem dX4_read_60 : decode cX4_read 60 = .ok (.aload_n 0, 1) := dk_42 (dk_at dksX4_read_2 13 rfl rfl)
theorem dX4_read_61 : decode cX4_read 61 = .ok (.getfield 7, 3) := dk_180 0 7 (dk_at dksX4_read_2 14 rfl rfl)
theorem dX4_read_64 : decode cX4_read 64 = .ok (.iconst 2, 1) := dk_5 (dk_at dksX4_read_2 17 rfl rfl)
theorem dX4_read_65 : decode cX4_read 65 = .ok (.iload_n 1, 1) := dk_27 (dk_at dksX4_read_2 18 rfl rfl)
theorem dX4_read_66 : decode cX4_read 66 = .ok (.bipush 50, 2) := dk_16 50 (dk_at dksX4_read_2 19 rfl rfl)
theorem dX4_read_68 : decode cX4_read 68 = .ok (.if_icmp .lt 10, 3) := dk_161 0 10 (dk_at dksX4_read_2 21 rfl rfl)
theorem dX4_read_71 : decode cX4_read 71 = .ok (.iload_n 1, 1) := dk_27 (dk_at dksX4_read_3 0 rfl rfl)
theorem dX4_read_72 : decode cX4_read 72 = .ok (.bipush 100, 2) := dk_16 100 (dk_at dksX4_read_3 1 rfl rfl)
theorem dX4_read_74 : decode cX4_read 74 = .ok (.isub, 1) := dk_100 (dk_at dksX4_read_3 3 rfl rfl)
theorem dX4_read_75 : decode cX4_read 75 = .ok (.goto 4, 3) := dk_167 0 4 (dk_at dksX4_read_3 4 rfl rfl)
theorem dX4_read_78 : decode cX4_read 78 = .ok (.iload_n 1, 1) := dk_27 (dk_at dksX4_read_3 7 rfl rfl)
theorem dX4_read_79 : decode cX4_read 79 = .ok (.iastore, 1) := dk_79 (dk_at dksX4_read_3 8 rfl rfl)
theorem dX4_read_80 : decode cX4_read 80 = .ok (.aload_n 0, 1) := dk_42 (dk_at dksX4_read_3 9 rfl rfl)
theorem dX4_read_81 : decode cX4_read 81 = .ok (.getfield 7, 3) := dk_180 0 7 (dk_at dksX4_read_3 10 rfl rfl)
theorem dX4_read_84 : decode cX4_read 84 = .ok (.iconst 3, 1) := dk_6 (dk_at dksX4_read_3 13 rfl rfl)
theorem dX4_read_85 : decode cX4_read 85 = .ok (.iload_n 1, 1) := dk_27 (dk_at dksX4_read_3 14 rfl rfl)
theorem dX4_read_86 : decode cX4_read 86 = .ok (.bipush 50, 2) := dk_16 50 (dk_at dksX4_read_3 15 rfl rfl)
theorem dX4_read_88 : decode cX4_read 88 = .ok (.if_icmp .lt 7, 3) := dk_161 0 7 (dk_at dksX4_read_3 17 rfl rfl)
theorem dX4_read_91 : decode cX4_read 91 = .ok (.iconst 1, 1) := dk_4 (dk_at dksX4_read_3 20 rfl rfl)
theorem dX4_read_92 : decode cX4_read 92 = .ok (.goto 4, 3) := dk_167 0 4 (dk_at dksX4_read_3 21 rfl rfl)
theorem dX4_read_95 : decode cX4_read 95 = .ok (.iconst 0, 1) := dk_3 (dk_at dksX4_read_4 0 rfl rfl)
theorem dX4_read_96 : decode cX4_read 96 = .ok (.iastore, 1) := dk_79 (dk_at dksX4_read_4 1 rfl rfl)
theorem dX4_read_97 : decode cX4_read 97 = .ok (.aload_n 0, 1) := dk_42 (dk_at dksX4_read_4 2 rfl rfl)
theorem dX4_read_98 : decode cX4_read 98 = .ok (.getfield 7, 3) := dk_180 0 7 (dk_at dksX4_read_4 3 rfl rfl)
theorem dX4_read_101 : decode cX4_read 101 = .ok (.iconst 1, 1) := dk_4 (dk_at dksX4_read_4 6 rfl rfl)
theorem dX4_read_102 : decode cX4_read 102 = .ok (.iaload, 1) := dk_46 (dk_at dksX4_read_4 7 rfl rfl)
theorem dX4_read_103 : decode cX4_read 103 = .ok (.ireturn, 1) := dk_172 (dk_at dksX4_read_4 8 rfl rfl)
theorem q2179 : (Jvm.Cond.methodLink "ChordSheetModel" (104 : Nat) ({ cls := "ChordSheetModel", name := "readsSheet", desc := "()Z" } : Jvm.MethodName)) ∈ lw_all := lw_g (lw_at lw_m9 197 rfl) rfl
theorem q2181 : (Jvm.Cond.instanceMethod ({ cls := "ChordSheetModel", name := "readsSheet", desc := "()Z" } : Jvm.MethodName)) ∈ lw_all := lw_g (lw_at lw_m9 199 rfl) rfl
theorem q2182 : (Jvm.Cond.code ({ cls := "ChordSheetModel", name := "readsSheet", desc := "()Z" } : Jvm.MethodName) prog_11_method_14_code (3 : Nat) (Option.some Jvm.ClassFile.FieldType.boolean)) ∈ lw_all := lw_g (lw_at lw_m9 200 rfl) rfl
theorem cpy_st4 {M V V1 : Nat → Int} {k : Int} (hk : 0 ≤ k) (hq : ∀ j, V1 j = if j < k.toNat then M j else V j) : ∀ j, updI V1 (Int.toNat k) (M (Int.toNat k)) j = if j < (k + 1).toNat then M j else V j := by
  intro j
  unfold updI
  by_cases c : j = k.toNat
  · rw [if_pos c, if_pos (by omega), c]
  · rw [if_neg c, hq]
    by_cases d : j < k.toNat
    · rw [if_pos d, if_pos (by omega)]
    · rw [if_neg d, if_neg (by omega)]
theorem rsh_L {T : List Int} (hT : T.length ≤ 200) {ls : List (List Int)} {cs : List zCh} (h : rsh T (T.length + 1) 0 [] [] [] = .inr (ls, cs)) : lsm ls ≤ 200 ∧ ls.length ≤ 201 ∧ cs.length ≤ 40 := by
  have h1 := rsh_sh hT h
  have h2 : ls = [] → lsm ls = 0 := fun e => by rw [e]; rfl
  have h3 : ls ≠ [] → 1 ≤ ls.length := fun e => List.length_pos_iff.mpr e
  by_cases e : ls = []
  · have := h2 e; omega
  · have := h3 e; omega
set_option maxHeartbeats 4000000 in
theorem md_read {l : Launch} (hl : l.stackTraces = false) {Γ : zCx} {h : zH} {A : zMA} {σ : zSt} {th : Int} (hW : mdW h A σ th)  : zMet l yX4_read (ws_ yX4_read cX4_read 2 (some .int)) ({ frames := 5, cells := 0, slots := 0, locals := 116 }) Γ h [.ref A.m] (zrt (fun w h' => ((∃ ls cs, rsh σ.tx (σ.tx.length + 1) 0 [] [] [] = .inr (ls, cs) ∧ w = some (.int (iI (cs.length : Nat))) ∧ mdW h' A ([], σ.si, σ.fl, σ.wd, shT ls cs, hiP σ.hi σ.sh) 0) ∨ (∃ y, rsh σ.tx (σ.tx.length + 1) 0 [] [] [] = .inl y ∧ w = some (.int (iI (-1 - y))) ∧ mdW h' A σ 0)) ∧ zkeep h h' [A.m, A.v, A.pa, A.tx, A.ma, A.na, A.ua, A.la])) 0 0 := by
  refine zMet.of (cc := cX4_read) hl (plainFor_of_name (by decide +kernel)) (Nat.le_of_ble_eq_true rfl) ?_
  intro X hXl hXΓ hXp C hnm hnL
  have C : zC X cX4_read RX4 (some .int) 5 116 [] := C
  have hnL : X.2.1.2.2.2.2 = 2 := hnL
  subst hXl hXΓ
  show Z X h 0 0 [(0, .ref A.m)] 0 []
  obtain ⟨ap, nt, rr, rq, rb, wh, nd, up, lo, V, P, T, M, N, U, W, hM, hS, hP, htq, hR, hsl, hslh⟩ := id hW
  obtain ⟨rsi, rff, rwd, rtl, rtx, rsh, rhi, rhl⟩ := id hR
  obtain ⟨rcl, rcr, rll, rlt, rkt, rkm, rks⟩ := id rsh
  obtain ⟨hsl1, hsl2, hsl3⟩ := id hsl
  have hTr := rtx
  have hTl := rtl
  obtain ⟨gm_1, gv_1, gpa_1, gtx_1, gma_1, gna_1, gua_1, gla_1, gle_1, gqa_1, gd_1⟩ := id hM
  refine z_aload_n (pc := 0) (j := 0) C dX4_read_0 rfl rfl ?_
  refine z_iconst (pc := 1) C dX4_read_1 ?_
  refine z_putfield (pc := 2) (fs' := [.ref A.v, .ref A.pa, .int (iI ((σ.hi.length : Nat) : Int)), .ref A.tx, .int (iI ((σ.tx.length : Nat) : Int)), .int (iI σ.si), .int (iI σ.fl), .int (iI σ.wd), .int (iI 0), .ref A.le, .ref A.qa, .int (iI ap), .int (iI nt), .int (iI rr), .int (iI rq), .int (iI rb), .int (iI wh), .ref A.ma, .ref A.na, .int (iI nd), .ref A.ua, .ref A.la, .int (iI up), .int (iI lo)]) C in_X4 tyX4 tyX4_ok nmX4 rfl 8 (by decide) q2090 (fun _ z => z) rfl rfl rfl (Nat.le_of_ble_eq_true rfl) gm_1 rfl dX4_read_2 ?_
  refine Z.nm (fun h2 eh2 => ?_)
  have kh2 : zkeep h h2 [A.m, A.v, A.pa, A.tx, A.ma, A.na, A.ua, A.la] := by rw [eh2]; exact zkeep.up zkeep.rf (Or.inl (by simp)) gm_1
  have fh2_0 : h2 A.m = some (true, .inr (3, [.ref A.v, .ref A.pa, .int (iI ((σ.hi.length : Nat) : Int)), .ref A.tx, .int (iI ((σ.tx.length : Nat) : Int)), .int (iI σ.si), .int (iI σ.fl), .int (iI σ.wd), .int (iI 0), .ref A.le, .ref A.qa, .int (iI ap), .int (iI nt), .int (iI rr), .int (iI rq), .int (iI rb), .int (iI wh), .ref A.ma, .ref A.na, .int (iI nd), .ref A.ua, .ref A.la, .int (iI up), .int (iI lo)])) := zse eh2
  have fh2_1 : h2 A.v = some (true, .inl (.int, 620, (mA V))) := zsn eh2 gv_1 (Ne.symm (zneA gm_1 gv_1))
  have fh2_2 : h2 A.pa = some (true, .inl (.int, 4960, (mA P))) := zsn eh2 gpa_1 (Ne.symm (zneA gm_1 gpa_1))
  have fh2_3 : h2 A.tx = some (true, .inl (.int, 200, (mA T))) := zsn eh2 gtx_1 (Ne.symm (zneA gm_1 gtx_1))
  have fh2_4 : h2 A.ma = some (true, .inl (.int, 620, (mA M))) := zsn eh2 gma_1 (Ne.symm (zneA gm_1 gma_1))
  have fh2_5 : h2 A.na = some (true, .inl (.int, 20, (mA N))) := zsn eh2 gna_1 (Ne.symm (zneA gm_1 gna_1))
  have fh2_6 : h2 A.ua = some (true, .inl (.int, 1200, (mA U))) := zsn eh2 gua_1 (Ne.symm (zneA gm_1 gua_1))
  have fh2_7 : h2 A.la = some (true, .inl (.int, 1200, (mA W))) := zsn eh2 gla_1 (Ne.symm (zneA gm_1 gla_1))
  refine z_aload_n (pc := 5) (j := 0) C dX4_read_5 rfl rfl ?_
  refine z_callV (pc := 6) (n := 0) (kc' := 0) (ks' := 0) C (m_sheet C.t ⟨fh2_0, fh2_1, fh2_2, fh2_3, fh2_4, fh2_5, fh2_6, fh2_7, (kh2.n gle_1 (List.not_mem_cons_of_ne_of_not_mem (Ne.symm (zneA gm_1 gle_1)) (List.not_mem_cons_of_ne_of_not_mem (zneT gle_1 gv_1 (by simp)) (List.not_mem_cons_of_ne_of_not_mem (zneT gle_1 gpa_1 (by simp)) (List.not_mem_cons_of_ne_of_not_mem (zneT gle_1 gtx_1 (by simp)) (List.not_mem_cons_of_ne_of_not_mem (zneT gle_1 gma_1 (by simp)) (List.not_mem_cons_of_ne_of_not_mem (zneT gle_1 gna_1 (by simp)) (List.not_mem_cons_of_ne_of_not_mem (zneT gle_1 gua_1 (by simp)) (List.not_mem_cons_of_ne_of_not_mem (zneT gle_1 gla_1 (by simp)) List.not_mem_nil))))))))), (kh2.n gqa_1 (List.not_mem_cons_of_ne_of_not_mem (Ne.symm (zneA gm_1 gqa_1)) (List.not_mem_cons_of_ne_of_not_mem (zneT gqa_1 gv_1 (by simp)) (List.not_mem_cons_of_ne_of_not_mem (zneT gqa_1 gpa_1 (by simp)) (List.not_mem_cons_of_ne_of_not_mem (zneT gqa_1 gtx_1 (by simp)) (List.not_mem_cons_of_ne_of_not_mem (zneT gqa_1 gma_1 (by simp)) (List.not_mem_cons_of_ne_of_not_mem (zneT gqa_1 gna_1 (by simp)) (List.not_mem_cons_of_ne_of_not_mem (zneT gqa_1 gua_1 (by simp)) (List.not_mem_cons_of_ne_of_not_mem (zneT gqa_1 gla_1 (by simp)) List.not_mem_nil))))))))), gd_1⟩ htq hTr hTl) (lw_V q2179 q2181 qs28 q74 q2182) (by decide +kernel) ⟨by decide, by decide⟩ fh2_0 rfl rfl rfl (Nat.le_of_ble_eq_true rfl) dX4_read_6 (by omega) (by omega) (zrk fun w h3 hp => ?_) zrx
  obtain ⟨hq_5, k4⟩ := hp
  have kh3 : zkeep h h3 [A.m, A.v, A.pa, A.tx, A.ma, A.na, A.ua, A.la] := zkeep.loc kh2 k4 (fun q hq => Or.inl (Or.inr hq))
  rcases hq_5 with ⟨ls_5, cs_5, Mz_5, az_5, nz_5, rz_5, qz_5, bz_5, wz_5, hc_5, rfl, hM_5⟩ | ⟨y_5, Mz_5, nz_5, rz_5, qz_5, bz_5, wz_5, hc_5, rfl, hM_5⟩
  · have hM_5 : mM h3 A ((σ.hi.length : Nat) : Int) ((σ.tx.length : Nat) : Int) σ.si σ.fl σ.wd 0 az_5 nz_5 rz_5 qz_5 bz_5 wz_5 nd up lo V P T Mz_5 N U W := hM_5
    obtain ⟨gm_6, gv_6, gpa_6, gtx_6, gma_6, gna_6, gua_6, gla_6, gle_6, gqa_6, gd_6⟩ := id hM_5
    show Z X h3 0 0 [(0, .ref A.m)] 9 [.int (iI 1)]
    refine z_if_ne (pc := 9) (tgt := 19) C dX4_read_9 (by decide) (by decide) (fun _ => ?_) (fun z => absurd z (by decide))
    refine z_aload_n (pc := 19) (j := 0) C dX4_read_19 rfl rfl ?_
    refine z_callV (pc := 20) (n := 0) (kc' := 0) (ks' := 0) C (m_acts C.t ⟨gm_6, gv_6, gpa_6, gtx_6, gma_6, gna_6, gua_6, gla_6, gle_6, gqa_6, gd_6⟩ hS hsl hP hslh (by omega)) (lw_V q2206 q2208 qs34 q74 q2209) (by decide +kernel) ⟨by decide, by decide⟩ gm_6 rfl rfl rfl (Nat.le_of_ble_eq_true rfl) dX4_read_20 (by omega) (by omega) (zrk fun w h7 hp => ?_) zrx
    obtain ⟨P_9, rfl, hM_9, hPn_9, k8⟩ := hp
    have kh7 : zkeep h h7 [A.m, A.v, A.pa, A.tx, A.ma, A.na, A.ua, A.la] := zkeep.loc kh3 k8 (fun q hq => Or.inl (Or.inr hq))
    have hM_9 : mM h7 A (((hiP σ.hi σ.sh).length : Nat) : Int) ((σ.tx.length : Nat) : Int) σ.si σ.fl σ.wd 0 az_5 nz_5 rz_5 qz_5 bz_5 wz_5 nd up lo V P_9 T Mz_5 N U W := hM_9
    obtain ⟨gm_10, gv_10, gpa_10, gtx_10, gma_10, gna_10, gua_10, gla_10, gle_10, gqa_10, gd_10⟩ := id hM_9
    have hhl8 : (hiP σ.hi σ.sh).length ≤ 8 := hiP_l rhl
    have hslh2 : ∀ S ∈ hiP σ.hi σ.sh, shL S := hiP_m hslh hsl
    have rhi2 : ∀ S ∈ hiP σ.hi σ.sh, shR S := hiP_m rhi rsh
    show Z X h7 0 0 [(0, .ref A.m)] 23 []
    refine z_iconst (pc := 23) C dX4_read_23 ?_
    refine z_istore_n (pc := 24) (L' := [(1, .int (iI 0)), (0, .ref A.m)]) C dX4_read_24 rfl (by rw [hnL]; decide) rfl ?_
    have loop25 : ∀ (n25 : Nat) (k : Int) (V1 : Nat → Int) (g25 : zH), (mM g25 A (((hiP σ.hi σ.sh).length : Nat) : Int) ((σ.tx.length : Nat) : Int) σ.si σ.fl σ.wd 0 az_5 nz_5 rz_5 qz_5 bz_5 wz_5 nd up lo V1 P_9 T Mz_5 N U W) → (zkeep h g25 [A.m, A.v, A.pa, A.tx, A.ma, A.na, A.ua, A.la]) → (0 ≤ k ∧ k ≤ 620) → (∀ j, V1 j = if j < k.toNat then Mz_5 j else V j) → ((620 - k).toNat) = n25 → Z X g25 0 0 [(1, .int (iI k)), (0, .ref A.m)] 25 [] := by
      intro n25
      induction n25 using Nat.strongRecOn with
      | ind n25 ih25 =>
      intro k V1 g25 hMg25 hkp25 hk hq hn25
      obtain ⟨gm_11, gv_11, gpa_11, gtx_11, gma_11, gna_11, gua_11, gla_11, gle_11, gqa_11, gd_11⟩ := id hMg25
      refine z_iload_n (pc := 25) (j := 0) C dX4_read_25 rfl rfl ?_
      refine z_sipush (pc := 26) C dX4_read_26 (by decide) ?_
      refine z_icmp_ge (pc := 29) (tgt := 50) C dX4_read_29 (by decide) (by omega) (by decide) (fun c29 => ?_) (fun c29 => ?_)
      · have hMe : ∀ k, k < 620 → V1 k = Mz_5 k := fun j hj => by rw [hq j, if_pos (by omega)]
        have hL2 := rsh_L rtl hc_5.1
        have hsL : shL (ls_5, cs_5, 0, 0) := hL2
        have hSv : vS V1 (ls_5, cs_5, 0, 0) := vS.ext hsL hMe hc_5.2
        have hRz := shT_R rtl hc_5.1
        have hsR : shR (ls_5, cs_5, 0, 0) := ⟨hRz.1, hRz.2.1, hRz.2.2.1, hRz.2.2.2.1, (show (-20 : Int) ≤ 0 ∧ (0 : Int) ≤ 20 from by decide), Or.inl rfl, (show -6 ≤ sgn 0 0 ∧ sgn 0 0 ≤ 6 from by decide)⟩
        have hlr := lik_r cs_5
        refine z_aload_n (pc := 50) (j := 1) C dX4_read_50 rfl rfl ?_
        refine z_iconst (pc := 51) C dX4_read_51 ?_
        refine z_putfield (pc := 52) (fs' := [.ref A.v, .ref A.pa, .int (iI (((hiP σ.hi σ.sh).length : Nat) : Int)), .ref A.tx, .int (iI 0), .int (iI σ.si), .int (iI σ.fl), .int (iI σ.wd), .int (iI 0), .ref A.le, .ref A.qa, .int (iI az_5), .int (iI nz_5), .int (iI rz_5), .int (iI qz_5), .int (iI bz_5), .int (iI wz_5), .ref A.ma, .ref A.na, .int (iI nd), .ref A.ua, .ref A.la, .int (iI up), .int (iI lo)]) C in_X4 tyX4 tyX4_ok nmX4 rfl 4 (by decide) q2086 (fun _ z => z) rfl rfl rfl (Nat.le_of_ble_eq_true rfl) gm_11 rfl dX4_read_52 ?_
        refine Z.nm (fun h12 eh12 => ?_)
        have kh12 : zkeep h h12 [A.m, A.v, A.pa, A.tx, A.ma, A.na, A.ua, A.la] := by rw [eh12]; exact zkeep.up hkp25 (Or.inl (by simp)) gm_11
        have fh12_0 : h12 A.m = some (true, .inr (3, [.ref A.v, .ref A.pa, .int (iI (((hiP σ.hi σ.sh).length : Nat) : Int)), .ref A.tx, .int (iI 0), .int (iI σ.si), .int (iI σ.fl), .int (iI σ.wd), .int (iI 0), .ref A.le, .ref A.qa, .int (iI az_5), .int (iI nz_5), .int (iI rz_5), .int (iI qz_5), .int (iI bz_5), .int (iI wz_5), .ref A.ma, .ref A.na, .int (iI nd), .ref A.ua, .ref A.la, .int (iI up), .int (iI lo)])) := zse eh12
        have fh12_1 : h12 A.v = some (true, .inl (.int, 620, (mA V1))) := zsn eh12 gv_11 (Ne.symm (zneA gm_11 gv_11))
        have fh12_2 : h12 A.pa = some (true, .inl (.int, 4960, (mA P_9))) := zsn eh12 gpa_11 (Ne.symm (zneA gm_11 gpa_11))
        have fh12_3 : h12 A.tx = some (true, .inl (.int, 200, (mA T))) := zsn eh12 gtx_11 (Ne.symm (zneA gm_11 gtx_11))
        have fh12_4 : h12 A.ma = some (true, .inl (.int, 620, (mA Mz_5))) := zsn eh12 gma_11 (Ne.symm (zneA gm_11 gma_11))
        have fh12_5 : h12 A.na = some (true, .inl (.int, 20, (mA N))) := zsn eh12 gna_11 (Ne.symm (zneA gm_11 gna_11))
        have fh12_6 : h12 A.ua = some (true, .inl (.int, 1200, (mA U))) := zsn eh12 gua_11 (Ne.symm (zneA gm_11 gua_11))
        have fh12_7 : h12 A.la = some (true, .inl (.int, 1200, (mA W))) := zsn eh12 gla_11 (Ne.symm (zneA gm_11 gla_11))
        have fh12_8 : h12 A.le = some (true, .inl (.char, 7, (mA ltF))) := zsn eh12 gle_11 (Ne.symm (zneA gm_11 gle_11))
        have fh12_9 : h12 A.qa = some (true, .inl (.char, 30, (mA qaF))) := zsn eh12 gqa_11 (Ne.symm (zneA gm_11 gqa_11))
        refine z_aload_n (pc := 55) (j := 1) C dX4_read_55 rfl rfl ?_
        refine z_callV (pc := 56) (n := 0) (kc' := 0) (ks' := 0) C (m_found C.t ⟨fh12_0, fh12_1, fh12_2, fh12_3, fh12_4, fh12_5, fh12_6, fh12_7, fh12_8, fh12_9, gd_11⟩ (S := ((ls_5, cs_5, 0, 0) : zSh)) hSv hsL hsR) (lw_V q2210 q2212 qs35 q74 q2213) (by decide +kernel) ⟨by decide, by decide⟩ fh12_0 rfl rfl rfl (Nat.le_of_ble_eq_true rfl) dX4_read_56 (by omega) (by omega) (zpk (st' := [.int (iI ((lik cs_5).1 + 100 * (lik cs_5).2))]) rfl ?_) zrx
        refine z_istore_n (pc := 59) (L' := [(1, .int (iI ((lik cs_5).1 + 100 * (lik cs_5).2))), (0, .ref A.m)]) C dX4_read_59 rfl (by rw [hnL]; decide) rfl ?_
        refine z_aload_n (pc := 60) (j := 1) C dX4_read_60 rfl rfl ?_
        refine z_getfield (pc := 61) (v := .ref A.v) C in_X4 rfl 0 (by decide) q2082 (fun _ z => z) fh12_0 rfl dX4_read_61 ?_
        refine z_iconst (pc := 64) C dX4_read_64 ?_
        refine z_iload_n (pc := 65) (j := 0) C dX4_read_65 rfl rfl ?_
        refine z_bipush (pc := 66) C dX4_read_66 (by decide) ?_
        refine z_icmp_lt (pc := 68) (tgt := 78) C dX4_read_68 (by decide) (by omega) (by decide) (fun c68 => ?_) (fun c68 => ?_)
        · refine z_iload_n (pc := 78) (j := 0) C dX4_read_78 rfl rfl ?_
          refine z_iastore (pc := 79) (f' := (mA (updI V1 2 ((lik cs_5).1 + 100 * (lik cs_5).2)))) C fh12_1 (by omega) (mA_up _ _ _) dX4_read_79 ?_
          refine Z.nm (fun h13 eh13 => ?_)
          have kh13 : zkeep h h13 [A.m, A.v, A.pa, A.tx, A.ma, A.na, A.ua, A.la] := by rw [eh13]; exact zkeep.up kh12 (Or.inl (by simp)) fh12_1
          have fh13_0 : h13 A.v = some (true, .inl (.int, 620, (mA (updI V1 2 ((lik cs_5).1 + 100 * (lik cs_5).2))))) := zse eh13
          have fh13_1 : h13 A.pa = some (true, .inl (.int, 4960, (mA P_9))) := zsn eh13 fh12_2 (Ne.symm gd_11.1)
          have fh13_2 : h13 A.tx = some (true, .inl (.int, 200, (mA T))) := zsn eh13 fh12_3 (Ne.symm gd_11.2.1)
          have fh13_3 : h13 A.ma = some (true, .inl (.int, 620, (mA Mz_5))) := zsn eh13 fh12_4 (Ne.symm gd_11.2.2.1)
          have fh13_4 : h13 A.na = some (true, .inl (.int, 20, (mA N))) := zsn eh13 fh12_5 (Ne.symm gd_11.2.2.2.1)
          have fh13_5 : h13 A.ua = some (true, .inl (.int, 1200, (mA U))) := zsn eh13 fh12_6 (Ne.symm gd_11.2.2.2.2.1)
          have fh13_6 : h13 A.la = some (true, .inl (.int, 1200, (mA W))) := zsn eh13 fh12_7 (Ne.symm gd_11.2.2.2.2.2.1)
          have fh13_7 : h13 A.le = some (true, .inl (.char, 7, (mA ltF))) := zsn eh13 fh12_8 (zneT fh12_8 fh12_1 (by simp))
          have fh13_8 : h13 A.qa = some (true, .inl (.char, 30, (mA qaF))) := zsn eh13 fh12_9 (zneT fh12_9 fh12_1 (by simp))
          have fh13_9 : h13 A.m = some (true, .inr (3, [.ref A.v, .ref A.pa, .int (iI (((hiP σ.hi σ.sh).length : Nat) : Int)), .ref A.tx, .int (iI 0), .int (iI σ.si), .int (iI σ.fl), .int (iI σ.wd), .int (iI 0), .ref A.le, .ref A.qa, .int (iI az_5), .int (iI nz_5), .int (iI rz_5), .int (iI qz_5), .int (iI bz_5), .int (iI wz_5), .ref A.ma, .ref A.na, .int (iI nd), .ref A.ua, .ref A.la, .int (iI up), .int (iI lo)])) := zsn eh13 fh12_0 (zneA fh12_0 fh12_1)
          refine z_aload_n (pc := 80) (j := 1) C dX4_read_80 rfl rfl ?_
          refine z_getfield (pc := 81) (v := .ref A.v) C in_X4 rfl 0 (by decide) q2082 (fun _ z => z) fh13_9 rfl dX4_read_81 ?_
          refine z_iconst (pc := 84) C dX4_read_84 ?_
          refine z_iload_n (pc := 85) (j := 0) C dX4_read_85 rfl rfl ?_
          refine z_bipush (pc := 86) C dX4_read_86 (by decide) ?_
          refine z_icmp_lt (pc := 88) (tgt := 95) C dX4_read_88 (by decide) (by omega) (by decide) (fun c88 => ?_) (fun c88 => ?_)
          · refine z_iconst (pc := 95) C dX4_read_95 ?_
            refine z_iastore (pc := 96) (f' := (mA (updI (updI V1 2 ((lik cs_5).1 + 100 * (lik cs_5).2)) 3 0))) C fh13_0 (by omega) (mA_up _ _ _) dX4_read_96 ?_
            refine Z.nm (fun h14 eh14 => ?_)
            have kh14 : zkeep h h14 [A.m, A.v, A.pa, A.tx, A.ma, A.na, A.ua, A.la] := by rw [eh14]; exact zkeep.up kh13 (Or.inl (by simp)) fh13_0
            have fh14_0 : h14 A.v = some (true, .inl (.int, 620, (mA (updI (updI V1 2 ((lik cs_5).1 + 100 * (lik cs_5).2)) 3 0)))) := zse eh14
            have fh14_1 : h14 A.pa = some (true, .inl (.int, 4960, (mA P_9))) := zsn eh14 fh13_1 (Ne.symm gd_11.1)
            have fh14_2 : h14 A.tx = some (true, .inl (.int, 200, (mA T))) := zsn eh14 fh13_2 (Ne.symm gd_11.2.1)
            have fh14_3 : h14 A.ma = some (true, .inl (.int, 620, (mA Mz_5))) := zsn eh14 fh13_3 (Ne.symm gd_11.2.2.1)
            have fh14_4 : h14 A.na = some (true, .inl (.int, 20, (mA N))) := zsn eh14 fh13_4 (Ne.symm gd_11.2.2.2.1)
            have fh14_5 : h14 A.ua = some (true, .inl (.int, 1200, (mA U))) := zsn eh14 fh13_5 (Ne.symm gd_11.2.2.2.2.1)
            have fh14_6 : h14 A.la = some (true, .inl (.int, 1200, (mA W))) := zsn eh14 fh13_6 (Ne.symm gd_11.2.2.2.2.2.1)
            have fh14_7 : h14 A.le = some (true, .inl (.char, 7, (mA ltF))) := zsn eh14 fh13_7 (zneT fh13_7 fh13_0 (by simp))
            have fh14_8 : h14 A.qa = some (true, .inl (.char, 30, (mA qaF))) := zsn eh14 fh13_8 (zneT fh13_8 fh13_0 (by simp))
            have fh14_9 : h14 A.m = some (true, .inr (3, [.ref A.v, .ref A.pa, .int (iI (((hiP σ.hi σ.sh).length : Nat) : Int)), .ref A.tx, .int (iI 0), .int (iI σ.si), .int (iI σ.fl), .int (iI σ.wd), .int (iI 0), .ref A.le, .ref A.qa, .int (iI az_5), .int (iI nz_5), .int (iI rz_5), .int (iI qz_5), .int (iI bz_5), .int (iI wz_5), .ref A.ma, .ref A.na, .int (iI nd), .ref A.ua, .ref A.la, .int (iI up), .int (iI lo)])) := zsn eh14 fh13_9 (zneA fh13_9 fh13_0)
            refine z_aload_n (pc := 97) (j := 1) C dX4_read_97 rfl rfl ?_
            refine z_getfield (pc := 98) (v := .ref A.v) C in_X4 rfl 0 (by decide) q2082 (fun _ z => z) fh14_9 rfl dX4_read_98 ?_
            refine z_iconst (pc := 101) C dX4_read_101 ?_
            refine z_iaload (pc := 102) (v := .int (iI ((cs_5.length : Nat) : Int))) C fh14_0 (by omega) (mA_e (vE (updI_ne (by decide) (updI_ne (by decide) hSv.2.1)) (by omega))) dX4_read_102 ?_
            have hSn : vS (updI (updI V1 2 ((lik cs_5).1 + 100 * (lik cs_5).2)) 3 0) (shT ls_5 cs_5) := by
              have hz := vS.key (t := (lik cs_5).1) (m := (lik cs_5).2) hsL hSv
              have e1 := congrArg (updI V1 2) (show (lik cs_5).1 = ((lik cs_5).1 + 100 * (lik cs_5).2 : Int) by omega)
              have e2 := congrArg (updI (updI V1 2 ((lik cs_5).1 + 100 * (lik cs_5).2)) 3) (show (lik cs_5).2 = (0 : Int) by omega)
              rw [e1, e2] at hz
              exact hz
            exact z_ireturn (pc := 103) C (by rw [hXp]; exact ⟨_, rfl, Or.inl ⟨ls_5, cs_5, hc_5.1, rfl, ⟨az_5, nz_5, rz_5, qz_5, bz_5, wz_5, nd, up, lo, (updI (updI V1 2 ((lik cs_5).1 + 100 * (lik cs_5).2)) 3 0), P_9, T, Mz_5, N, U, W, ⟨fh14_9, fh14_0, fh14_1, fh14_2, fh14_3, fh14_4, fh14_5, fh14_6, fh14_7, fh14_8, gd_11⟩, hSn, hPn_9, (fun j d e => by simp [zSt.tx] at e), ⟨rsi, rff, rwd, Nat.zero_le _, (fun _ h => nomatch h), hRz, rhi2, hhl8⟩, hsL, hslh2⟩⟩, kh14⟩) dX4_read_103
          · refine z_iconst (pc := 91) C dX4_read_91 ?_
            refine z_goto (pc := 92) (tgt := 96) C dX4_read_92 (by decide) ?_
            refine z_iastore (pc := 96) (f' := (mA (updI (updI V1 2 ((lik cs_5).1 + 100 * (lik cs_5).2)) 3 1))) C fh13_0 (by omega) (mA_up _ _ _) dX4_read_96 ?_
            refine Z.nm (fun h15 eh15 => ?_)
            have kh15 : zkeep h h15 [A.m, A.v, A.pa, A.tx, A.ma, A.na, A.ua, A.la] := by rw [eh15]; exact zkeep.up kh13 (Or.inl (by simp)) fh13_0
            have fh15_0 : h15 A.v = some (true, .inl (.int, 620, (mA (updI (updI V1 2 ((lik cs_5).1 + 100 * (lik cs_5).2)) 3 1)))) := zse eh15
            have fh15_1 : h15 A.pa = some (true, .inl (.int, 4960, (mA P_9))) := zsn eh15 fh13_1 (Ne.symm gd_11.1)
            have fh15_2 : h15 A.tx = some (true, .inl (.int, 200, (mA T))) := zsn eh15 fh13_2 (Ne.symm gd_11.2.1)
            have fh15_3 : h15 A.ma = some (true, .inl (.int, 620, (mA Mz_5))) := zsn eh15 fh13_3 (Ne.symm gd_11.2.2.1)
            have fh15_4 : h15 A.na = some (true, .inl (.int, 20, (mA N))) := zsn eh15 fh13_4 (Ne.symm gd_11.2.2.2.1)
            have fh15_5 : h15 A.ua = some (true, .inl (.int, 1200, (mA U))) := zsn eh15 fh13_5 (Ne.symm gd_11.2.2.2.2.1)
            have fh15_6 : h15 A.la = some (true, .inl (.int, 1200, (mA W))) := zsn eh15 fh13_6 (Ne.symm gd_11.2.2.2.2.2.1)
            have fh15_7 : h15 A.le = some (true, .inl (.char, 7, (mA ltF))) := zsn eh15 fh13_7 (zneT fh13_7 fh13_0 (by simp))
            have fh15_8 : h15 A.qa = some (true, .inl (.char, 30, (mA qaF))) := zsn eh15 fh13_8 (zneT fh13_8 fh13_0 (by simp))
            have fh15_9 : h15 A.m = some (true, .inr (3, [.ref A.v, .ref A.pa, .int (iI (((hiP σ.hi σ.sh).length : Nat) : Int)), .ref A.tx, .int (iI 0), .int (iI σ.si), .int (iI σ.fl), .int (iI σ.wd), .int (iI 0), .ref A.le, .ref A.qa, .int (iI az_5), .int (iI nz_5), .int (iI rz_5), .int (iI qz_5), .int (iI bz_5), .int (iI wz_5), .ref A.ma, .ref A.na, .int (iI nd), .ref A.ua, .ref A.la, .int (iI up), .int (iI lo)])) := zsn eh15 fh13_9 (zneA fh13_9 fh13_0)
            refine z_aload_n (pc := 97) (j := 1) C dX4_read_97 rfl rfl ?_
            refine z_getfield (pc := 98) (v := .ref A.v) C in_X4 rfl 0 (by decide) q2082 (fun _ z => z) fh15_9 rfl dX4_read_98 ?_
            refine z_iconst (pc := 101) C dX4_read_101 ?_
            refine z_iaload (pc := 102) (v := .int (iI ((cs_5.length : Nat) : Int))) C fh15_0 (by omega) (mA_e (vE (updI_ne (by decide) (updI_ne (by decide) hSv.2.1)) (by omega))) dX4_read_102 ?_
            have hSn : vS (updI (updI V1 2 ((lik cs_5).1 + 100 * (lik cs_5).2)) 3 1) (shT ls_5 cs_5) := by
              have hz := vS.key (t := (lik cs_5).1) (m := (lik cs_5).2) hsL hSv
              have e1 := congrArg (updI V1 2) (show (lik cs_5).1 = ((lik cs_5).1 + 100 * (lik cs_5).2 : Int) by omega)
              have e2 := congrArg (updI (updI V1 2 ((lik cs_5).1 + 100 * (lik cs_5).2)) 3) (show (lik cs_5).2 = (1 : Int) by omega)
              rw [e1, e2] at hz
              exact hz
            exact z_ireturn (pc := 103) C (by rw [hXp]; exact ⟨_, rfl, Or.inl ⟨ls_5, cs_5, hc_5.1, rfl, ⟨az_5, nz_5, rz_5, qz_5, bz_5, wz_5, nd, up, lo, (updI (updI V1 2 ((lik cs_5).1 + 100 * (lik cs_5).2)) 3 1), P_9, T, Mz_5, N, U, W, ⟨fh15_9, fh15_0, fh15_1, fh15_2, fh15_3, fh15_4, fh15_5, fh15_6, fh15_7, fh15_8, gd_11⟩, hSn, hPn_9, (fun j d e => by simp [zSt.tx] at e), ⟨rsi, rff, rwd, Nat.zero_le _, (fun _ h => nomatch h), hRz, rhi2, hhl8⟩, hsL, hslh2⟩⟩, kh15⟩) dX4_read_103
        · refine z_iload_n (pc := 71) (j := 0) C dX4_read_71 rfl rfl ?_
          refine z_bipush (pc := 72) C dX4_read_72 (by decide) ?_
          refine z_isub (pc := 74) C dX4_read_74 ?_
          refine z_goto (pc := 75) (tgt := 79) C dX4_read_75 (by decide) ?_
          refine z_iastore (pc := 79) (f' := (mA (updI V1 2 (((lik cs_5).1 + 100 * (lik cs_5).2) - 100)))) C fh12_1 (by omega) (mA_up _ _ _) dX4_read_79 ?_
          refine Z.nm (fun h16 eh16 => ?_)
          have kh16 : zkeep h h16 [A.m, A.v, A.pa, A.tx, A.ma, A.na, A.ua, A.la] := by rw [eh16]; exact zkeep.up kh12 (Or.inl (by simp)) fh12_1
          have fh16_0 : h16 A.v = some (true, .inl (.int, 620, (mA (updI V1 2 (((lik cs_5).1 + 100 * (lik cs_5).2) - 100))))) := zse eh16
          have fh16_1 : h16 A.pa = some (true, .inl (.int, 4960, (mA P_9))) := zsn eh16 fh12_2 (Ne.symm gd_11.1)
          have fh16_2 : h16 A.tx = some (true, .inl (.int, 200, (mA T))) := zsn eh16 fh12_3 (Ne.symm gd_11.2.1)
          have fh16_3 : h16 A.ma = some (true, .inl (.int, 620, (mA Mz_5))) := zsn eh16 fh12_4 (Ne.symm gd_11.2.2.1)
          have fh16_4 : h16 A.na = some (true, .inl (.int, 20, (mA N))) := zsn eh16 fh12_5 (Ne.symm gd_11.2.2.2.1)
          have fh16_5 : h16 A.ua = some (true, .inl (.int, 1200, (mA U))) := zsn eh16 fh12_6 (Ne.symm gd_11.2.2.2.2.1)
          have fh16_6 : h16 A.la = some (true, .inl (.int, 1200, (mA W))) := zsn eh16 fh12_7 (Ne.symm gd_11.2.2.2.2.2.1)
          have fh16_7 : h16 A.le = some (true, .inl (.char, 7, (mA ltF))) := zsn eh16 fh12_8 (zneT fh12_8 fh12_1 (by simp))
          have fh16_8 : h16 A.qa = some (true, .inl (.char, 30, (mA qaF))) := zsn eh16 fh12_9 (zneT fh12_9 fh12_1 (by simp))
          have fh16_9 : h16 A.m = some (true, .inr (3, [.ref A.v, .ref A.pa, .int (iI (((hiP σ.hi σ.sh).length : Nat) : Int)), .ref A.tx, .int (iI 0), .int (iI σ.si), .int (iI σ.fl), .int (iI σ.wd), .int (iI 0), .ref A.le, .ref A.qa, .int (iI az_5), .int (iI nz_5), .int (iI rz_5), .int (iI qz_5), .int (iI bz_5), .int (iI wz_5), .ref A.ma, .ref A.na, .int (iI nd), .ref A.ua, .ref A.la, .int (iI up), .int (iI lo)])) := zsn eh16 fh12_0 (zneA fh12_0 fh12_1)
          refine z_aload_n (pc := 80) (j := 1) C dX4_read_80 rfl rfl ?_
          refine z_getfield (pc := 81) (v := .ref A.v) C in_X4 rfl 0 (by decide) q2082 (fun _ z => z) fh16_9 rfl dX4_read_81 ?_
          refine z_iconst (pc := 84) C dX4_read_84 ?_
          refine z_iload_n (pc := 85) (j := 0) C dX4_read_85 rfl rfl ?_
          refine z_bipush (pc := 86) C dX4_read_86 (by decide) ?_
          refine z_icmp_lt (pc := 88) (tgt := 95) C dX4_read_88 (by decide) (by omega) (by decide) (fun c88 => ?_) (fun c88 => ?_)
          · refine z_iconst (pc := 95) C dX4_read_95 ?_
            refine z_iastore (pc := 96) (f' := (mA (updI (updI V1 2 (((lik cs_5).1 + 100 * (lik cs_5).2) - 100)) 3 0))) C fh16_0 (by omega) (mA_up _ _ _) dX4_read_96 ?_
            refine Z.nm (fun h17 eh17 => ?_)
            have kh17 : zkeep h h17 [A.m, A.v, A.pa, A.tx, A.ma, A.na, A.ua, A.la] := by rw [eh17]; exact zkeep.up kh16 (Or.inl (by simp)) fh16_0
            have fh17_0 : h17 A.v = some (true, .inl (.int, 620, (mA (updI (updI V1 2 (((lik cs_5).1 + 100 * (lik cs_5).2) - 100)) 3 0)))) := zse eh17
            have fh17_1 : h17 A.pa = some (true, .inl (.int, 4960, (mA P_9))) := zsn eh17 fh16_1 (Ne.symm gd_11.1)
            have fh17_2 : h17 A.tx = some (true, .inl (.int, 200, (mA T))) := zsn eh17 fh16_2 (Ne.symm gd_11.2.1)
            have fh17_3 : h17 A.ma = some (true, .inl (.int, 620, (mA Mz_5))) := zsn eh17 fh16_3 (Ne.symm gd_11.2.2.1)
            have fh17_4 : h17 A.na = some (true, .inl (.int, 20, (mA N))) := zsn eh17 fh16_4 (Ne.symm gd_11.2.2.2.1)
            have fh17_5 : h17 A.ua = some (true, .inl (.int, 1200, (mA U))) := zsn eh17 fh16_5 (Ne.symm gd_11.2.2.2.2.1)
            have fh17_6 : h17 A.la = some (true, .inl (.int, 1200, (mA W))) := zsn eh17 fh16_6 (Ne.symm gd_11.2.2.2.2.2.1)
            have fh17_7 : h17 A.le = some (true, .inl (.char, 7, (mA ltF))) := zsn eh17 fh16_7 (zneT fh16_7 fh16_0 (by simp))
            have fh17_8 : h17 A.qa = some (true, .inl (.char, 30, (mA qaF))) := zsn eh17 fh16_8 (zneT fh16_8 fh16_0 (by simp))
            have fh17_9 : h17 A.m = some (true, .inr (3, [.ref A.v, .ref A.pa, .int (iI (((hiP σ.hi σ.sh).length : Nat) : Int)), .ref A.tx, .int (iI 0), .int (iI σ.si), .int (iI σ.fl), .int (iI σ.wd), .int (iI 0), .ref A.le, .ref A.qa, .int (iI az_5), .int (iI nz_5), .int (iI rz_5), .int (iI qz_5), .int (iI bz_5), .int (iI wz_5), .ref A.ma, .ref A.na, .int (iI nd), .ref A.ua, .ref A.la, .int (iI up), .int (iI lo)])) := zsn eh17 fh16_9 (zneA fh16_9 fh16_0)
            refine z_aload_n (pc := 97) (j := 1) C dX4_read_97 rfl rfl ?_
            refine z_getfield (pc := 98) (v := .ref A.v) C in_X4 rfl 0 (by decide) q2082 (fun _ z => z) fh17_9 rfl dX4_read_98 ?_
            refine z_iconst (pc := 101) C dX4_read_101 ?_
            refine z_iaload (pc := 102) (v := .int (iI ((cs_5.length : Nat) : Int))) C fh17_0 (by omega) (mA_e (vE (updI_ne (by decide) (updI_ne (by decide) hSv.2.1)) (by omega))) dX4_read_102 ?_
            have hSn : vS (updI (updI V1 2 (((lik cs_5).1 + 100 * (lik cs_5).2) - 100)) 3 0) (shT ls_5 cs_5) := by
              have hz := vS.key (t := (lik cs_5).1) (m := (lik cs_5).2) hsL hSv
              have e1 := congrArg (updI V1 2) (show (lik cs_5).1 = (((lik cs_5).1 + 100 * (lik cs_5).2) - 100 : Int) by omega)
              have e2 := congrArg (updI (updI V1 2 (((lik cs_5).1 + 100 * (lik cs_5).2) - 100)) 3) (show (lik cs_5).2 = (0 : Int) by omega)
              rw [e1, e2] at hz
              exact hz
            exact z_ireturn (pc := 103) C (by rw [hXp]; exact ⟨_, rfl, Or.inl ⟨ls_5, cs_5, hc_5.1, rfl, ⟨az_5, nz_5, rz_5, qz_5, bz_5, wz_5, nd, up, lo, (updI (updI V1 2 (((lik cs_5).1 + 100 * (lik cs_5).2) - 100)) 3 0), P_9, T, Mz_5, N, U, W, ⟨fh17_9, fh17_0, fh17_1, fh17_2, fh17_3, fh17_4, fh17_5, fh17_6, fh17_7, fh17_8, gd_11⟩, hSn, hPn_9, (fun j d e => by simp [zSt.tx] at e), ⟨rsi, rff, rwd, Nat.zero_le _, (fun _ h => nomatch h), hRz, rhi2, hhl8⟩, hsL, hslh2⟩⟩, kh17⟩) dX4_read_103
          · refine z_iconst (pc := 91) C dX4_read_91 ?_
            refine z_goto (pc := 92) (tgt := 96) C dX4_read_92 (by decide) ?_
            refine z_iastore (pc := 96) (f' := (mA (updI (updI V1 2 (((lik cs_5).1 + 100 * (lik cs_5).2) - 100)) 3 1))) C fh16_0 (by omega) (mA_up _ _ _) dX4_read_96 ?_
            refine Z.nm (fun h18 eh18 => ?_)
            have kh18 : zkeep h h18 [A.m, A.v, A.pa, A.tx, A.ma, A.na, A.ua, A.la] := by rw [eh18]; exact zkeep.up kh16 (Or.inl (by simp)) fh16_0
            have fh18_0 : h18 A.v = some (true, .inl (.int, 620, (mA (updI (updI V1 2 (((lik cs_5).1 + 100 * (lik cs_5).2) - 100)) 3 1)))) := zse eh18
            have fh18_1 : h18 A.pa = some (true, .inl (.int, 4960, (mA P_9))) := zsn eh18 fh16_1 (Ne.symm gd_11.1)
            have fh18_2 : h18 A.tx = some (true, .inl (.int, 200, (mA T))) := zsn eh18 fh16_2 (Ne.symm gd_11.2.1)
            have fh18_3 : h18 A.ma = some (true, .inl (.int, 620, (mA Mz_5))) := zsn eh18 fh16_3 (Ne.symm gd_11.2.2.1)
            have fh18_4 : h18 A.na = some (true, .inl (.int, 20, (mA N))) := zsn eh18 fh16_4 (Ne.symm gd_11.2.2.2.1)
            have fh18_5 : h18 A.ua = some (true, .inl (.int, 1200, (mA U))) := zsn eh18 fh16_5 (Ne.symm gd_11.2.2.2.2.1)
            have fh18_6 : h18 A.la = some (true, .inl (.int, 1200, (mA W))) := zsn eh18 fh16_6 (Ne.symm gd_11.2.2.2.2.2.1)
            have fh18_7 : h18 A.le = some (true, .inl (.char, 7, (mA ltF))) := zsn eh18 fh16_7 (zneT fh16_7 fh16_0 (by simp))
            have fh18_8 : h18 A.qa = some (true, .inl (.char, 30, (mA qaF))) := zsn eh18 fh16_8 (zneT fh16_8 fh16_0 (by simp))
            have fh18_9 : h18 A.m = some (true, .inr (3, [.ref A.v, .ref A.pa, .int (iI (((hiP σ.hi σ.sh).length : Nat) : Int)), .ref A.tx, .int (iI 0), .int (iI σ.si), .int (iI σ.fl), .int (iI σ.wd), .int (iI 0), .ref A.le, .ref A.qa, .int (iI az_5), .int (iI nz_5), .int (iI rz_5), .int (iI qz_5), .int (iI bz_5), .int (iI wz_5), .ref A.ma, .ref A.na, .int (iI nd), .ref A.ua, .ref A.la, .int (iI up), .int (iI lo)])) := zsn eh18 fh16_9 (zneA fh16_9 fh16_0)
            refine z_aload_n (pc := 97) (j := 1) C dX4_read_97 rfl rfl ?_
            refine z_getfield (pc := 98) (v := .ref A.v) C in_X4 rfl 0 (by decide) q2082 (fun _ z => z) fh18_9 rfl dX4_read_98 ?_
            refine z_iconst (pc := 101) C dX4_read_101 ?_
            refine z_iaload (pc := 102) (v := .int (iI ((cs_5.length : Nat) : Int))) C fh18_0 (by omega) (mA_e (vE (updI_ne (by decide) (updI_ne (by decide) hSv.2.1)) (by omega))) dX4_read_102 ?_
            have hSn : vS (updI (updI V1 2 (((lik cs_5).1 + 100 * (lik cs_5).2) - 100)) 3 1) (shT ls_5 cs_5) := by
              have hz := vS.key (t := (lik cs_5).1) (m := (lik cs_5).2) hsL hSv
              have e1 := congrArg (updI V1 2) (show (lik cs_5).1 = (((lik cs_5).1 + 100 * (lik cs_5).2) - 100 : Int) by omega)
              have e2 := congrArg (updI (updI V1 2 (((lik cs_5).1 + 100 * (lik cs_5).2) - 100)) 3) (show (lik cs_5).2 = (1 : Int) by omega)
              rw [e1, e2] at hz
              exact hz
            exact z_ireturn (pc := 103) C (by rw [hXp]; exact ⟨_, rfl, Or.inl ⟨ls_5, cs_5, hc_5.1, rfl, ⟨az_5, nz_5, rz_5, qz_5, bz_5, wz_5, nd, up, lo, (updI (updI V1 2 (((lik cs_5).1 + 100 * (lik cs_5).2) - 100)) 3 1), P_9, T, Mz_5, N, U, W, ⟨fh18_9, fh18_0, fh18_1, fh18_2, fh18_3, fh18_4, fh18_5, fh18_6, fh18_7, fh18_8, gd_11⟩, hSn, hPn_9, (fun j d e => by simp [zSt.tx] at e), ⟨rsi, rff, rwd, Nat.zero_le _, (fun _ h => nomatch h), hRz, rhi2, hhl8⟩, hsL, hslh2⟩⟩, kh18⟩) dX4_read_103
      · refine z_aload_n (pc := 32) (j := 1) C dX4_read_32 rfl rfl ?_
        refine z_getfield (pc := 33) (v := .ref A.v) C in_X4 rfl 0 (by decide) q2082 (fun _ z => z) gm_11 rfl dX4_read_33 ?_
        refine z_iload_n (pc := 36) (j := 0) C dX4_read_36 rfl rfl ?_
        refine z_aload_n (pc := 37) (j := 1) C dX4_read_37 rfl rfl ?_
        refine z_getfield (pc := 38) (v := .ref A.ma) C in_X4 rfl 17 (by decide) q2099 (fun _ z => z) gm_11 rfl dX4_read_38 ?_
        refine z_iload_n (pc := 41) (j := 0) C dX4_read_41 rfl rfl ?_
        refine z_iaload (pc := 42) (v := .int (iI (Mz_5 (Int.toNat k)))) C gma_11 (by omega) rfl dX4_read_42 ?_
        refine z_iastore (pc := 43) (f' := (mA (updI V1 (Int.toNat k) (Mz_5 (Int.toNat k))))) C gv_11 (by omega) (mA_up _ _ _) dX4_read_43 ?_
        refine Z.nm (fun h19 eh19 => ?_)
        have kh19 : zkeep h h19 [A.m, A.v, A.pa, A.tx, A.ma, A.na, A.ua, A.la] := by rw [eh19]; exact zkeep.up hkp25 (Or.inl (by simp)) gv_11
        have fh19_0 : h19 A.v = some (true, .inl (.int, 620, (mA (updI V1 (Int.toNat k) (Mz_5 (Int.toNat k)))))) := zse eh19
        have fh19_1 : h19 A.m = some (true, .inr (3, [.ref A.v, .ref A.pa, .int (iI (((hiP σ.hi σ.sh).length : Nat) : Int)), .ref A.tx, .int (iI ((σ.tx.length : Nat) : Int)), .int (iI σ.si), .int (iI σ.fl), .int (iI σ.wd), .int (iI 0), .ref A.le, .ref A.qa, .int (iI az_5), .int (iI nz_5), .int (iI rz_5), .int (iI qz_5), .int (iI bz_5), .int (iI wz_5), .ref A.ma, .ref A.na, .int (iI nd), .ref A.ua, .ref A.la, .int (iI up), .int (iI lo)])) := zsn eh19 gm_11 (zneA gm_11 gv_11)
        have fh19_2 : h19 A.pa = some (true, .inl (.int, 4960, (mA P_9))) := zsn eh19 gpa_11 (Ne.symm gd_11.1)
        have fh19_3 : h19 A.tx = some (true, .inl (.int, 200, (mA T))) := zsn eh19 gtx_11 (Ne.symm gd_11.2.1)
        have fh19_4 : h19 A.ma = some (true, .inl (.int, 620, (mA Mz_5))) := zsn eh19 gma_11 (Ne.symm gd_11.2.2.1)
        have fh19_5 : h19 A.na = some (true, .inl (.int, 20, (mA N))) := zsn eh19 gna_11 (Ne.symm gd_11.2.2.2.1)
        have fh19_6 : h19 A.ua = some (true, .inl (.int, 1200, (mA U))) := zsn eh19 gua_11 (Ne.symm gd_11.2.2.2.2.1)
        have fh19_7 : h19 A.la = some (true, .inl (.int, 1200, (mA W))) := zsn eh19 gla_11 (Ne.symm gd_11.2.2.2.2.2.1)
        have fh19_8 : h19 A.le = some (true, .inl (.char, 7, (mA ltF))) := zsn eh19 gle_11 (zneT gle_11 gv_11 (by simp))
        have fh19_9 : h19 A.qa = some (true, .inl (.char, 30, (mA qaF))) := zsn eh19 gqa_11 (zneT gqa_11 gv_11 (by simp))
        refine z_iinc (pc := 44) (k := 0) (L' := [(1, .int (iI (k + 1))), (0, .ref A.m)]) C dX4_read_44 rfl (by rw [hnL]; decide) rfl ?_
        refine z_goto (pc := 47) (tgt := 25) C dX4_read_47 (by decide) ?_
        refine Z.weak (L' := [(1, .int (iI (k + 1))), (0, .ref A.m)]) (kc' := 0) (ks' := 0) [0, 1] rfl (by omega) (by omega) ?_
        exact ih25 _ (by omega) (k + 1) (updI V1 (Int.toNat k) (Mz_5 (Int.toNat k))) h19 ⟨fh19_1, fh19_0, fh19_2, fh19_3, fh19_4, fh19_5, fh19_6, fh19_7, fh19_8, fh19_9, gd_11⟩ kh19 (by omega) (cpy_st4 (by omega) hq) rfl
    refine Z.weak (L' := [(1, .int (iI 0)), (0, .ref A.m)]) (kc' := 0) (ks' := 0) [0, 1] rfl (by omega) (by omega) ?_
    exact loop25 _ 0 V h7 ⟨gm_10, gv_10, gpa_10, gtx_10, gma_10, gna_10, gua_10, gla_10, gle_10, gqa_10, gd_10⟩ kh7 (by omega) (fun j => by rw [if_neg (by omega)]) rfl
  · have hM_5 : mM h3 A ((σ.hi.length : Nat) : Int) ((σ.tx.length : Nat) : Int) σ.si σ.fl σ.wd 0 y_5 nz_5 rz_5 qz_5 bz_5 wz_5 nd up lo V P T Mz_5 N U W := hM_5
    obtain ⟨gm_20, gv_20, gpa_20, gtx_20, gma_20, gna_20, gua_20, gla_20, gle_20, gqa_20, gd_20⟩ := id hM_5
    show Z X h3 0 0 [(0, .ref A.m)] 9 [.int (iI 0)]
    refine z_if_ne (pc := 9) (tgt := 19) C dX4_read_9 (by decide) (by decide) (fun z => absurd z (by decide)) (fun _ => ?_)
    refine z_iconst (pc := 12) C dX4_read_12 ?_
    refine z_aload_n (pc := 13) (j := 0) C dX4_read_13 rfl rfl ?_
    refine z_getfield (pc := 14) (v := .int (iI y_5)) C in_X4 rfl 11 (by decide) q2093 (fun _ z => z) gm_20 rfl dX4_read_14 ?_
    refine z_isub (pc := 17) C dX4_read_17 ?_
    exact z_ireturn (pc := 18) C (by rw [hXp]; exact ⟨_, rfl, Or.inr ⟨y_5, hc_5, rfl, ⟨y_5, nz_5, rz_5, qz_5, bz_5, wz_5, nd, up, lo, V, P, T, Mz_5, N, U, W, ⟨gm_20, gv_20, gpa_20, gtx_20, gma_20, gna_20, gua_20, gla_20, gle_20, gqa_20, gd_20⟩, hS, hP, htq, hR, hsl, hslh⟩⟩, kh3⟩) dX4_read_18

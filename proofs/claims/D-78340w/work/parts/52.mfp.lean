/-! 52.mfp.lean.txt -/
set_option maxRecDepth 100000
abbrev cX4_fingerprint : ByteArray := prog_11_method_83_code
def yX4_fingerprint : MethodName := ⟨RX4, "fingerprint", "()J"⟩
def dkwX4_fingerprint_6 : List UInt8 := [105, 42, 180, 0, 7, 5, 46, 133, 97, 105, 42, 180, 0, 7, 6, 46, 133, 97, 173]
abbrev dktX4_fingerprint_6 : List UInt8 := dkwX4_fingerprint_6 ++ []
def dkwX4_fingerprint_5 : List UInt8 := [96, 46, 133, 97, 64, 132, 4, 1, 167, 255, 227, 132, 3, 1, 167, 255, 208, 20, 0, 231, 20, 0, 231, 31]
abbrev dktX4_fingerprint_5 : List UInt8 := dkwX4_fingerprint_5 ++ dktX4_fingerprint_6
def dkwX4_fingerprint_4 : List UInt8 := [3, 54, 4, 21, 4, 8, 162, 0, 29, 20, 0, 231, 31, 105, 42, 180, 0, 7, 29, 184, 0, 94, 21, 4]
abbrev dktX4_fingerprint_4 : List UInt8 := dkwX4_fingerprint_4 ++ dktX4_fingerprint_5
def dkwX4_fingerprint_3 : List UInt8 := [132, 4, 1, 167, 255, 228, 132, 3, 1, 167, 255, 196, 3, 62, 29, 42, 180, 0, 7, 4, 46, 162, 0, 44]
abbrev dktX4_fingerprint_3 : List UInt8 := dkwX4_fingerprint_3 ++ dktX4_fingerprint_4
def dkwX4_fingerprint_2 : List UInt8 := [29, 182, 0, 120, 162, 0, 24, 20, 0, 231, 31, 105, 42, 29, 21, 4, 182, 0, 123, 133, 97, 64]
abbrev dktX4_fingerprint_2 : List UInt8 := dkwX4_fingerprint_2 ++ dktX4_fingerprint_3
def dkwX4_fingerprint_1 : List UInt8 := [3, 46, 162, 0, 56, 20, 0, 231, 31, 105, 42, 29, 182, 0, 120, 133, 97, 64, 3, 54, 4, 21, 4, 42]
abbrev dktX4_fingerprint_1 : List UInt8 := dkwX4_fingerprint_1 ++ dktX4_fingerprint_2
def dkwX4_fingerprint_0 : List UInt8 := [42, 3, 181, 0, 46, 20, 0, 229, 42, 180, 0, 7, 3, 46, 133, 97, 64, 3, 62, 29, 42, 180, 0, 7]
abbrev dktX4_fingerprint_0 : List UInt8 := dkwX4_fingerprint_0 ++ dktX4_fingerprint_1
theorem dksX4_fingerprint_0 : cX4_fingerprint.data.toList.drop 0 = dktX4_fingerprint_0 := by decide +kernel
theorem dksX4_fingerprint_1 : cX4_fingerprint.data.toList.drop 24 = dktX4_fingerprint_1 := dk_seg dksX4_fingerprint_0 24 rfl rfl
theorem dksX4_fingerprint_2 : cX4_fingerprint.data.toList.drop 48 = dktX4_fingerprint_2 := dk_seg dksX4_fingerprint_1 24 rfl rfl
theorem dksX4_fingerprint_3 : cX4_fingerprint.data.toList.drop 70 = dktX4_fingerprint_3 := dk_seg dksX4_fingerprint_2 22 rfl rfl
theorem dksX4_fingerprint_4 : cX4_fingerprint.data.toList.drop 94 = dktX4_fingerprint_4 := dk_seg dksX4_fingerprint_3 24 rfl rfl
theorem dksX4_fingerprint_5 : cX4_fingerprint.data.toList.drop 118 = dktX4_fingerprint_5 := dk_seg dksX4_fingerprint_4 24 rfl rfl
theorem dksX4_fingerprint_6 : cX4_fingerprint.data.toList.drop 142 = dktX4_fingerprint_6 := dk_seg dksX4_fingerprint_5 24 rfl rfl
theorem dX4_fingerprint_0 : decode cX4_fingerprint 0 = .ok (.aload_n 0, 1) := dk_42 (dk_at dksX4_fingerprint_0 0 rfl rfl)
theorem dX4_fingerprint_1 : decode cX4_fingerprint 1 = .ok (.iconst 0, 1) := dk_3 (dk_at dksX4_fingerprint_0 1 rfl rfl)
theorem dX4_fingerprint_2 : decode cX4_fingerprint 2 = .ok (.putfield 46, 3) := dk_181 0 46 (dk_at dksX4_fingerprint_0 2 rfl rfl)
theorem dX4_fingerprint_5 : decode cX4_fingerprint 5 = .ok (.ldc2_w 229, 3) := dk_20 0 229 (dk_at dksX4_fingerprint_0 5 rfl rfl)
theorem dX4_fingerprint_8 : decode cX4_fingerprint 8 = .ok (.aload_n 0, 1) := dk_42 (dk_at dksX4_fingerprint_0 8 rfl rfl)
theorem dX4_fingerprint_9 : decode cX4_fingerprint 9 = .ok (.getfield 7, 3) := dk_180 0 7 (dk_at dksX4_fingerprint_0 9 rfl rfl)
theorem dX4_fingerprint_12 : decode cX4_fingerprint 12 = .ok (.iconst 0, 1) := dk_3 (dk_at dksX4_fingerprint_0 12 rfl rfl)
theorem dX4_fingerprint_13 : decode cX4_fingerprint 13 = .ok (.iaload, 1) := dk_46 (dk_at dksX4_fingerprint_0 13 rfl rfl)
theorem dX4_fingerprint_14 : decode cX4_fingerprint 14 = .ok (.i2l, 1) := dk_133 (dk_at dksX4_fingerprint_0 14 rfl rfl)
theorem dX4_fingerprint_15 : decode cX4_fingerprint 15 = .ok (.ladd, 1) := dk_97 (dk_at dksX4_fingerprint_0 15 rfl rfl)
theorem dX4_fingerprint_16 : decode cX4_fingerprint 16 = .ok (.lstore_n 1, 1) := dk_64 (dk_at dksX4_fingerprint_0 16 rfl rfl)
theorem dX4_fingerprint_17 : decode cX4_fingerprint 17 = .ok (.iconst 0, 1) := dk_3 (dk_at dksX4_fingerprint_0 17 rfl rfl)
theorem dX4_fingerprint_18 : decode cX4_fingerprint 18 = .ok (.istore_n 3, 1) := dk_62 (dk_at dksX4_fingerprint_0 18 rfl rfl)
theorem dX4_fingerprint_19 : decode cX4_fingerprint 19 = .ok (.iload_n 3, 1) := dk_29 (dk_at dksX4_fingerprint_0 19 rfl rfl)
theorem dX4_fingerprint_20 : decode cX4_fingerprint 20 = .ok (.aload_n 0, 1) := dk_42 (dk_at dksX4_fingerprint_0 20 rfl rfl)
theorem dX4_fingerprint_21 : decode cX4_fingerprint 21 = .ok (.getfield 7, 3) := dk_180 0 7 (dk_at dksX4_fingerprint_0 21 rfl rfl)
theorem dX4_fingerprint_24 : decode cX4_fingerprint 24 = .ok (.iconst 0, 1) := dk_3 (dk_at dksX4_fingerprint_1 0 rfl rfl)
theorem dX4_fingerprint_25 : decode cX4_fingerprint 25 = .ok (.iaload, 1) := dk_46 (dk_at dksX4_fingerprint_1 1 rfl rfl)
theorem dX4_fingerprint_26 : decode cX4_fingerprint 26 = .ok (.if_icmp .ge 56, 3) := dk_162 0 56 (dk_at dksX4_fingerprint_1 2 rfl rfl)
theorem dX4_fingerprint_29 : decode cX4_fingerprint 29 = .ok (.ldc2_w 231, 3) := dk_20 0 231 (dk_at dksX4_fingerprint_1 5 rfl rfl)
theorem dX4_fingerprint_32 : decode cX4_fingerprint 32 = .ok (.lload_n 1, 1) := dk_31 (dk_at dksX4_fingerprint_1 8 rfl rfl)
theorem dX4_fingerprint_33 : decode cX4_fingerprint 33 = .ok (.lmul, 1) := dk_105 (dk_at dksX4_fingerprint_1 9 rfl rfl)
theorem dX4_fingerprint_34 : decode cX4_fingerprint 34 = .ok (.aload_n 0, 1) := dk_42 (dk_at dksX4_fingerprint_1 10 rfl rfl)
theorem dX4_fingerprint_35 : decode cX4_fingerprint 35 = .ok (.iload_n 3, 1) := dk_29 (dk_at dksX4_fingerprint_1 11 rfl rfl)
theorem dX4_fingerprint_36 : decode cX4_fingerprint 36 = .ok (.invokevirtual 120, 3) := dk_182 0 120 (dk_at dksX4_fingerprint_1 12 rfl rfl)
theorem dX4_fingerprint_39 : decode cX4_fingerprint 39 = .ok (.i2l, 1) := dk_133 (dk_at dksX4_fingerprint_1 15 rfl rfl)
theorem dX4_fingerprint_40 : decode cX4_fingerprint 40 = .ok (.ladd, 1) := dk_97 (dk_at dksX4_fingerprint_1 16 rfl rfl)
theorem dX4_fingerprint_41 : decode cX4_fingerprint 41 = .ok (.lstore_n 1, 1) := dk_64 (dk_at dksX4_fingerprint_1 17 rfl rfl)
theorem dX4_fingerprint_42 : decode cX4_fingerprint 42 = .ok (.iconst 0, 1) := dk_3 (dk_at dksX4_fingerprint_1 18 rfl rfl)
theorem dX4_fingerprint_43 : decode cX4_fingerprint 43 = .ok (.istore 4, 2) := dk_54 4 (dk_at dksX4_fingerprint_1 19 rfl rfl)
theorem dX4_fingerprint_45 : decode cX4_fingerprint 45 = .ok (.iload 4, 2) := dk_21 4 (dk_at dksX4_fingerprint_1 21 rfl rfl)
theorem dX4_fingerprint_47 : decode cX4_fingerprint 47 = .ok (.aload_n 0, 1) := dk_42 (dk_at dksX4_fingerprint_1 23 rfl rfl)
theorem dX4_fingerprint_48 : decode cX4_fingerprint 48 = .ok (.iload_n 3, 1) := dk_29 (dk_at dksX4_fingerprint_2 0 rfl rfl)
theorem dX4_fingerprint_49 : decode cX4_fingerprint 49 = .ok (.invokevirtual 120, 3) := dk_182 0 120 (dk_at dksX4_fingerprint_2 1 rfl rfl)
theorem dX4_fingerprint_52 : decode cX4_fingerprint 52 = .ok (.if_icmp .ge 24, 3) := dk_162 0 24 (dk_at dksX4_fingerprint_2 4 rfl rfl)
theorem dX4_fingerprint_55 : decode cX4_fingerprint 55 = .ok (.ldc2_w 231, 3) := dk_20 0 231 (dk_at dksX4_fingerprint_2 7 rfl rfl)
theorem dX4_fingerprint_58 : decode cX4_fingerprint 58 = .ok (.lload_n 1, 1) := dk_31 (dk_at dksX4_fingerprint_2 10 rfl rfl)
theorem dX4_fingerprint_59 : decode cX4_fingerprint 59 = .ok (.lmul, 1) := dk_105 (dk_at dksX4_fingerprint_2 11 rfl rfl)
theorem dX4_fingerprint_60 : decode cX4_fingerprint 60 = .ok (.aload_n 0, 1) := dk_42 (dk_at dksX4_fingerprint_2 12 rfl rfl)
theorem dX4_fingerprint_61 : decode cX4_fingerprint 61 = .ok (.iload_n 3, 1) := dk_29 (dk_at dksX4_fingerprint_2 13 rfl rfl)
theorem dX4_fingerprint_62 : decode cX4_fingerprint 62 = .ok (.iload 4, 2) := dk_21 4 (dk_at dksX4_fingerprint_2 14 rfl rfl)
theorem dX4_fingerprint_64 : decode cX4_fingerprint 64 = .ok (.invokevirtual 123, 3) := dk_182 0 123 (dk_at dksX4_fingerprint_2 16 rfl rfl)
theorem dX4_fingerprint_67 : decode cX4_fingerprint 67 = .ok (.i2l, 1) := dk_133 (dk_at dksX4_fingerprint_2 19 rfl rfl)
theorem dX4_fingerprint_68 : decode cX4_fingerprint 68 = .ok (.ladd, 1) := dk_97 (dk_at dksX4_fingerprint_2 20 rfl rfl)
theorem dX4_fingerprint_69 : decode cX4_fingerprint 69 = .ok (.lstore_n 1, 1) := dk_64 (dk_at dksX4_fingerprint_2 21 rfl rfl)
theorem dX4_fingerprint_70 : decode cX4_fingerprint 70 = .ok (.iinc 4 1, 3) := dk_132 4 1 (dk_at dksX4_fingerprint_3 0 rfl rfl)
theorem dX4_fingerprint_73 : decode cX4_fingerprint 73 = .ok (.goto (-28), 3) := dk_167 255 228 (dk_at dksX4_fingerprint_3 3 rfl rfl)
theorem dX4_fingerprint_76 : decode cX4_fingerprint 76 = .ok (.iinc 3 1, 3) := dk_132 3 1 (dk_at dksX4_fingerprint_3 6 rfl rfl)
theorem dX4_fingerprint_79 : decode cX4_fingerprint 79 = .ok (.goto (-60), 3) := dk_167 255 196 (dk_at dksX4_fingerprint_3 9 rfl rfl)
theorem dX4_fingerprint_82 : decode cX4_fingerprint 82 = .ok (.iconst 0, 1) := dk_3 (dk_at dksX4_fingerprint_3 12 rfl rfl)
theorem dX4_fingerprint_83 : decode cX4_fingerprint 83 = .ok (.istore_n 3, 1) := dk_62 (dk_at dksX4_fingerprint_3 13 rfl rfl)
theorem dX4_fingerprint_84 : decode cX4_fingerprint 84 = .ok (.iload_n 3, 1) := dk_29 (dk_at dksX4_fingerprint_3 14 rfl rfl)
theorem dX4_fingerprint_85 : decode cX4_fingerprint 85 = .ok (.aload_n 0, 1) := dk_42 (dk_at dksX4_fingerprint_3 15 rfl rfl)
theorem dX4_fingerprint_86 : decode cX4_fingerprint 86 = .ok (.getfield 7, 3) := dk_180 0 7 (dk_at dksX4_fingerprint_3 16 rfl rfl)
theorem dX4_fingerprint_89 : decode cX4_fingerprint 89 = .ok (.iconst 1, 1) := dk_4 (dk_at dksX4_fingerprint_3 19 rfl rfl)
theorem dX4_fingerprint_90 : decode cX4_fingerprint 90 = .ok (.iaload, 1) := dk_46 (dk_at dksX4_fingerprint_3 20 rfl rfl)
theorem dX4_fingerprint_91 : decode cX4_fingerprint 91 = .ok (.if_icmp .ge 44, 3) := dk_162 0 44 (dk_at dksX4_fingerprint_3 21 rfl rfl)
theorem dX4_fingerprint_94 : decode cX4_fingerprint 94 = .ok (.iconst 0, 1) := dk_3 (dk_at dksX4_fingerprint_4 0 rfl rfl)
theorem dX4_fingerprint_95 : decode cX4_fingerprint 95 = .ok (.istore 4, 2) := dk_54 4 (dk_at dksX4_fingerprint_4 1 rfl rfl)
theorem dX4_fingerprint_97 : decode cX4_fingerprint 97 = .ok (.iload 4, 2) := dk_21 4 (dk_at dksX4_fingerprint_4 3 rfl rfl)
theorem dX4_fingerprint_99 : decode cX4_fingerprint 99 = .ok (.iconst 5, 1) := dk_8 (dk_at dksX4_fingerprint_4 5 rfl rfl)
theorem dX4_fingerprint_100 : decode cX4_fingerprint 100 = .ok (.if_icmp .ge 29, 3) := dk_162 0 29 (dk_at dksX4_fingerprint_4 6 rfl rfl)
theorem dX4_fingerprint_103 : decode cX4_fingerprint 103 = .ok (.ldc2_w 231, 3) := dk_20 0 231 (dk_at dksX4_fingerprint_4 9 rfl rfl)
theorem dX4_fingerprint_106 : decode cX4_fingerprint 106 = .ok (.lload_n 1, 1) := dk_31 (dk_at dksX4_fingerprint_4 12 rfl rfl)
theorem dX4_fingerprint_107 : decode cX4_fingerprint 107 = .ok (.lmul, 1) := dk_105 (dk_at dksX4_fingerprint_4 13 rfl rfl)
theorem dX4_fingerprint_108 : decode cX4_fingerprint 108 = .ok (.aload_n 0, 1) := dk_42 (dk_at dksX4_fingerprint_4 14 rfl rfl)
theorem dX4_fingerprint_109 : decode cX4_fingerprint 109 = .ok (.getfield 7, 3) := dk_180 0 7 (dk_at dksX4_fingerprint_4 15 rfl rfl)
theorem dX4_fingerprint_112 : decode cX4_fingerprint 112 = .ok (.iload_n 3, 1) := dk_29 (dk_at dksX4_fingerprint_4 18 rfl rfl)
theorem dX4_fingerprint_113 : decode cX4_fingerprint 113 = .ok (.invokestatic 94, 3) := dk_184 0 94 (dk_at dksX4_fingerprint_4 19 rfl rfl)
theorem dX4_fingerprint_116 : decode cX4_fingerprint 116 = .ok (.iload 4, 2) := dk_21 4 (dk_at dksX4_fingerprint_4 22 rfl rfl)
theorem dX4_fingerprint_118 : decode cX4_fingerprint 118 = .ok (.iadd, 1) := dk_96 (dk_at dksX4_fingerprint_5 0 rfl rfl)
theorem dX4_fingerprint_119 : decode cX4_fingerprint 119 = .ok (.iaload, 1) := dk_46 (dk_at dksX4_fingerprint_5 1 rfl rfl)
theorem dX4_fingerprint_120 : decode cX4_fingerprint 120 = .ok (.i2l, 1) := dk_133 (dk_at dksX4_fingerprint_5 2 rfl rfl)
theorem dX4_fingerprint_121 : decode cX4_fingerprint 121 = .ok (.ladd, 1) := dk_97 (dk_at dksX4_fingerprint_5 3 rfl rfl)
theorem dX4_fingerprint_122 : decode cX4_fingerprint 122 = .ok (.lstore_n 1, 1) := dk_64 (dk_at dksX4_fingerprint_5 4 rfl rfl)
theorem dX4_fingerprint_123 : decode cX4_fingerprint 123 = .ok (.iinc 4 1, 3) := dk_132 4 1 (dk_at dksX4_fingerprint_5 5 rfl rfl)
theorem dX4_fingerprint_126 : decode cX4_fingerprint 126 = .ok (.goto (-29), 3) := dk_167 255 227 (dk_at dksX4_fingerprint_5 8 rfl rfl)
theorem dX4_fingerprint_129 : decode cX4_fingerprint 129 = .ok (.iinc 3 1, 3) := dk_132 3 1 (dk_at dksX4_fingerprint_5 11 rfl rfl)
theorem dX4_fingerprint_132 : decode cX4_fingerprint 132 = .ok (.goto (-48), 3) := dk_167 255 208 (dk_at dksX4_fingerprint_5 14 rfl rfl)
theorem dX4_fingerprint_135 : decode cX4_fingerprint 135 = .ok (.ldc2_w 231, 3) := dk_20 0 231 (dk_at dksX4_fingerprint_5 17 rfl rfl)
theorem dX4_fingerprint_138 : decode cX4_fingerprint 138 = .ok (.ldc2_w 231, 3) := dk_20 0 231 (dk_at dksX4_fingerprint_5 20 rfl rfl)
theorem dX4_fingerprint_141 : decode cX4_fingerprint 141 = .ok (.lload_n 1, 1) := dk_31 (dk_at dksX4_fingerprint_5 23 rfl rfl)
theorem dX4_fingerprint_142 : decode cX4_fingerprint 142 = .ok (.lmul, 1) := dk_105 (dk_at dksX4_fingerprint_6 0 rfl rfl)
theorem dX4_fingerprint_143 : decode cX4_fingerprint 143 = .ok (.aload_n 0, 1) := dk_42 (dk_at dksX4_fingerprint_6 1 rfl rfl)
theorem dX4_fingerprint_144 : decode cX4_fingerprint 144 = .ok (.getfield 7, 3) := dk_180 0 7 (dk_at dksX4_fingerprint_6 2 rfl rfl)
theorem dX4_fingerprint_147 : decode cX4_fingerprint 147 = .ok (.iconst 2, 1) := dk_5 (dk_at dksX4_fingerprint_6 5 rfl rfl)
theorem dX4_fingerprint_148 : decode cX4_fingerprint 148 = .ok (.iaload, 1) := dk_46 (dk_at dksX4_fingerprint_6 6 rfl rfl)
theorem dX4_fingerprint_149 : decode cX4_fingerprint 149 = .ok (.i2l, 1) := dk_133 (dk_at dksX4_fingerprint_6 7 rfl rfl)
theorem dX4_fingerprint_150 : decode cX4_fingerprint 150 = .ok (.ladd, 1) := dk_97 (dk_at dksX4_fingerprint_6 8 rfl rfl)
theorem dX4_fingerprint_151 : decode cX4_fingerprint 151 = .ok (.lmul, 1) := dk_105 (dk_at dksX4_fingerprint_6 9 rfl rfl)
theorem dX4_fingerprint_152 : decode cX4_fingerprint 152 = .ok (.aload_n 0, 1) := dk_42 (dk_at dksX4_fingerprint_6 10 rfl rfl)
theorem dX4_fingerprint_153 : decode cX4_fingerprint 153 = .ok (.getfield 7, 3) := dk_180 0 7 (dk_at dksX4_fingerprint_6 11 rfl rfl)
theorem dX4_fingerprint_156 : decode cX4_fingerprint 156 = .ok (.iconst 3, 1) := dk_6 (dk_at dksX4_fingerprint_6 14 rfl rfl)
theorem dX4_fingerprint_157 : decode cX4_fingerprint 157 = .ok (.iaload, 1) := dk_46 (dk_at dksX4_fingerprint_6 15 rfl rfl)
theorem dX4_fingerprint_158 : decode cX4_fingerprint 158 = .ok (.i2l, 1) := dk_133 (dk_at dksX4_fingerprint_6 16 rfl rfl)
theorem dX4_fingerprint_159 : decode cX4_fingerprint 159 = .ok (.ladd, 1) := dk_97 (dk_at dksX4_fingerprint_6 17 rfl rfl)
theorem dX4_fingerprint_160 : decode cX4_fingerprint 160 = .ok (.lreturn, 1) := dk_173 (dk_at dksX4_fingerprint_6 18 rfl rfl)
theorem q2475 : (Jvm.Cond.constantLong "ChordSheetModel" (229 : Nat) (1457 : Int64)) ∈ lw_all := lw_g (lw_at lw_m11 13 rfl) rfl
theorem q2476 : (Jvm.Cond.constantLong "ChordSheetModel" (231 : Nat) (31 : Int64)) ∈ lw_all := lw_g (lw_at lw_m11 14 rfl) rfl
set_option maxHeartbeats 4000000 in
theorem md_fingerprint {l : Launch} (hl : l.stackTraces = false) {Γ : zCx} {h : zH} {A : zMA} {σ : zSt} {th : Int} (hW : mdW h A σ th) (hlr : ∀ t ∈ σ.sh.ls, ∀ d ∈ t, -2147483648 ≤ d ∧ d ≤ 2147483647)  : zMet l yX4_fingerprint (ws_ yX4_fingerprint cX4_fingerprint 5 (some .long)) ({ frames := 1, cells := 0, slots := 0, locals := 22 }) Γ h [.ref A.m] (zrt (fun w h' => w = some (.long (lI (fpS_ σ.sh))) ∧ mdW h' A σ 0 ∧ zkeep h h' [A.m, A.v, A.pa, A.tx, A.ma, A.na, A.ua, A.la])) 0 0 := by
  refine zMet.of (cc := cX4_fingerprint) hl (plainFor_of_name (by decide +kernel)) (Nat.le_of_ble_eq_true rfl) ?_
  intro X hXl hXΓ hXp C hnm hnL
  have C : zC X cX4_fingerprint RX4 (some .long) 1 22 [] := C
  have hnL : X.2.1.2.2.2.2 = 5 := hnL
  subst hXl hXΓ
  show Z X h 0 0 [(0, .ref A.m)] 0 []
  obtain ⟨ap, nt, rr, rq, rb, wh, nd, up, lo, V, P, T, M, N, U, W, hM, hS, hP, htq, hR, hsl, hslh⟩ := id hW
  obtain ⟨rsi, rff, rwd, rtl, rtx, rsh, rhi, rhl⟩ := id hR
  obtain ⟨rcl, rcr, rll, rlt, rkt, rkm, rks⟩ := id rsh
  obtain ⟨hsl1, hsl2, hsl3⟩ := id hsl
  have hTr := rtx
  have hTl := rtl
  obtain ⟨gm_1, gv_1, gpa_1, gtx_1, gma_1, gna_1, gua_1, gla_1, gle_1, gqa_1, gd_1⟩ := id hM
  refine z_aload_n (pc := 0) (j := 0) C dX4_fingerprint_0 rfl rfl ?_
  refine z_iconst (pc := 1) C dX4_fingerprint_1 ?_
  refine z_putfield (pc := 2) (fs' := [.ref A.v, .ref A.pa, .int (iI ((σ.hi.length : Nat) : Int)), .ref A.tx, .int (iI ((σ.tx.length : Nat) : Int)), .int (iI σ.si), .int (iI σ.fl), .int (iI σ.wd), .int (iI 0), .ref A.le, .ref A.qa, .int (iI ap), .int (iI nt), .int (iI rr), .int (iI rq), .int (iI rb), .int (iI wh), .ref A.ma, .ref A.na, .int (iI nd), .ref A.ua, .ref A.la, .int (iI up), .int (iI lo)]) C in_X4 tyX4 tyX4_ok nmX4 rfl 8 (by decide) q2090 (fun _ z => z) rfl rfl rfl (Nat.le_of_ble_eq_true rfl) gm_1 rfl dX4_fingerprint_2 ?_
  refine Z.nm (fun h2 eh2 => ?_)
  have kh2 : zkeep h h2 [A.m, A.v, A.pa, A.tx, A.ma, A.na, A.ua, A.la] := by rw [eh2]; exact zkeep.up zkeep.rf (Or.inl (by simp)) gm_1
  have fh2_0 : h2 A.m = some (true, .inr (3, [.ref A.v, .ref A.pa, .int (iI ((σ.hi.length : Nat) : Int)), .ref A.tx, .int (iI ((σ.tx.length : Nat) : Int)), .int (iI σ.si), .int (iI σ.fl), .int (iI σ.wd), .int (iI 0), .ref A.le, .ref A.qa, .int (iI ap), .int (iI nt), .int (iI rr), .int (iI rq), .int (iI rb), .int (iI wh), .ref A.ma, .ref A.na, .int (iI nd), .ref A.ua, .ref A.la, .int (iI up), .int (iI lo)])) := zse eh2
  have fh2_1 : h2 A.v = some (true, .inl (.int, 620, (mA V))) := zsn eh2 gv_1 (Ne.symm (zneA gm_1 gv_1))
  have fh2_2 : h2 A.pa = some (true, .inl (.int, 4960, (mA P))) := zsn eh2 gpa_1 (Ne.symm (zneA gm_1 gpa_1))
  have fh2_3 : h2 A.tx = some (true, .inl (.int, 200, (mA T))) := zsn eh2 gtx_1 (Ne.symm (zneA gm_1 gtx_1))
  have fh2_4 : h2 A.ma = some (true, .inl (.int, 620, (mA M))) := zsn eh2 gma_1 (Ne.symm (zneA gm_1 gma_1))
  have fh2_5 : h2 A.na = some (true, .inl (.int, 20, (mA N))) := zsn eh2 gna_1 (Ne.symm (zneA gm_1 gna_1))
  have fh2_6 : h2 A.ua = some (true, .inl (.int, 1200, (mA U))) := zsn eh2 gua_1 (Ne.symm (zneA gm_1 gua_1))
  have fh2_7 : h2 A.la = some (true, .inl (.int, 1200, (mA W))) := zsn eh2 gla_1 (Ne.symm (zneA gm_1 gla_1))
  refine z_ldc2 (pc := 5) (v := lI 1457) C q2475 dX4_fingerprint_5 ?_
  refine z_aload_n (pc := 8) (j := 0) C dX4_fingerprint_8 rfl rfl ?_
  refine z_getfield (pc := 9) (v := .ref A.v) C in_X4 rfl 0 (by decide) q2082 (fun _ z => z) fh2_0 rfl dX4_fingerprint_9 ?_
  refine z_iconst (pc := 12) C dX4_fingerprint_12 ?_
  refine z_iaload (pc := 13) (v := .int (iI ((σ.sh.ls.length : Nat) : Int))) C fh2_1 (by omega) (mA_e (vE hS.1 (by omega))) dX4_fingerprint_13 ?_
  refine z_i2lI (pc := 14) C dX4_fingerprint_14 (by omega) ?_
  refine z_laddI (pc := 15) C dX4_fingerprint_15 ?_
  refine z_lstore_n (pc := 16) (L' := [(1, .long (lI (1457 + ((σ.sh.ls.length : Nat) : Int)))), (0, .ref A.m)]) C dX4_fingerprint_16 rfl (by rw [hnL]; decide) rfl ?_
  refine z_iconst (pc := 17) C dX4_fingerprint_17 ?_
  refine z_istore_n (pc := 18) (L' := [(3, .int (iI 0)), (1, .long (lI (1457 + ((σ.sh.ls.length : Nat) : Int)))), (0, .ref A.m)]) C dX4_fingerprint_18 rfl (by rw [hnL]; decide) rfl ?_
  have loop19 : ∀ (n19 : Nat) (i : Int) (a : Int) (g19 : zH), (mM g19 A ((σ.hi.length : Nat) : Int) ((σ.tx.length : Nat) : Int) σ.si σ.fl σ.wd 0 ap nt rr rq rb wh nd up lo V P T M N U W) → (zkeep h g19 [A.m, A.v, A.pa, A.tx, A.ma, A.na, A.ua, A.la]) → (0 ≤ i ∧ i ≤ (σ.sh.ls.length : Nat)) → (fpL (σ.sh.ls.drop i.toNat) a = fpL σ.sh.ls (1457 + (σ.sh.ls.length : Nat))) → (((σ.sh.ls.length : Nat) - i).toNat) = n19 → Z X g19 0 0 [(3, .int (iI i)), (1, .long (lI a)), (0, .ref A.m)] 19 [] := by
    intro n19
    induction n19 using Nat.strongRecOn with
    | ind n19 ih19 =>
    intro i a g19 hMg19 hkp19 hi hd hn19
    obtain ⟨gm_3, gv_3, gpa_3, gtx_3, gma_3, gna_3, gua_3, gla_3, gle_3, gqa_3, gd_3⟩ := id hMg19
    refine z_iload_n (pc := 19) (j := 0) C dX4_fingerprint_19 rfl rfl ?_
    refine z_aload_n (pc := 20) (j := 2) C dX4_fingerprint_20 rfl rfl ?_
    refine z_getfield (pc := 21) (v := .ref A.v) C in_X4 rfl 0 (by decide) q2082 (fun _ z => z) gm_3 rfl dX4_fingerprint_21 ?_
    refine z_iconst (pc := 24) C dX4_fingerprint_24 ?_
    refine z_iaload (pc := 25) (v := .int (iI ((σ.sh.ls.length : Nat) : Int))) C gv_3 (by omega) (mA_e (vE hS.1 (by omega))) dX4_fingerprint_25 ?_
    refine z_icmp_ge (pc := 26) (tgt := 82) C dX4_fingerprint_26 (by decide) (by omega) (by omega) (fun c26 => ?_) (fun c26 => ?_)
    · refine z_iconst (pc := 82) C dX4_fingerprint_82 ?_
      refine z_istore_n (pc := 83) (L' := [(3, .int (iI 0)), (1, .long (lI a)), (0, .ref A.m)]) C dX4_fingerprint_83 rfl (by rw [hnL]; decide) rfl ?_
      rw [List.drop_of_length_le (by omega), fpL] at hd
      have loop84 : ∀ (n84 : Nat) (i : Int) (c2 : Int) (g84 : zH), (mM g84 A ((σ.hi.length : Nat) : Int) ((σ.tx.length : Nat) : Int) σ.si σ.fl σ.wd 0 ap nt rr rq rb wh nd up lo V P T M N U W) → (zkeep h g84 [A.m, A.v, A.pa, A.tx, A.ma, A.na, A.ua, A.la]) → (0 ≤ i ∧ i ≤ (σ.sh.cs.length : Nat)) → (fpC (σ.sh.cs.drop i.toNat) c2 = fpC σ.sh.cs (fpL σ.sh.ls (1457 + (σ.sh.ls.length : Nat)))) → (((σ.sh.cs.length : Nat) - i).toNat) = n84 → Z X g84 0 0 [(3, .int (iI i)), (1, .long (lI c2)), (0, .ref A.m)] 84 [] := by
        intro n84
        induction n84 using Nat.strongRecOn with
        | ind n84 ih84 =>
        intro i c2 g84 hMg84 hkp84 hi2 hd2 hn84
        obtain ⟨gm_4, gv_4, gpa_4, gtx_4, gma_4, gna_4, gua_4, gla_4, gle_4, gqa_4, gd_4⟩ := id hMg84
        refine z_iload_n (pc := 84) (j := 0) C dX4_fingerprint_84 rfl rfl ?_
        refine z_aload_n (pc := 85) (j := 2) C dX4_fingerprint_85 rfl rfl ?_
        refine z_getfield (pc := 86) (v := .ref A.v) C in_X4 rfl 0 (by decide) q2082 (fun _ z => z) gm_4 rfl dX4_fingerprint_86 ?_
        refine z_iconst (pc := 89) C dX4_fingerprint_89 ?_
        refine z_iaload (pc := 90) (v := .int (iI ((σ.sh.cs.length : Nat) : Int))) C gv_4 (by omega) (mA_e (vE hS.2.1 (by omega))) dX4_fingerprint_90 ?_
        refine z_icmp_ge (pc := 91) (tgt := 135) C dX4_fingerprint_91 (by decide) (by omega) (by omega) (fun c91 => ?_) (fun c91 => ?_)
        · refine z_ldc2 (pc := 135) (v := lI 31) C q2476 dX4_fingerprint_135 ?_
          refine z_ldc2 (pc := 138) (v := lI 31) C q2476 dX4_fingerprint_138 ?_
          refine z_lload_n (pc := 141) (j := 1) C dX4_fingerprint_141 rfl rfl ?_
          refine z_lmulI (pc := 142) C dX4_fingerprint_142 ?_
          refine z_aload_n (pc := 143) (j := 2) C dX4_fingerprint_143 rfl rfl ?_
          refine z_getfield (pc := 144) (v := .ref A.v) C in_X4 rfl 0 (by decide) q2082 (fun _ z => z) gm_4 rfl dX4_fingerprint_144 ?_
          refine z_iconst (pc := 147) C dX4_fingerprint_147 ?_
          refine z_iaload (pc := 148) (v := .int (iI σ.sh.t)) C gv_4 (by omega) (mA_e (vE hS.2.2.1 (by omega))) dX4_fingerprint_148 ?_
          refine z_i2lI (pc := 149) C dX4_fingerprint_149 (by omega) ?_
          refine z_laddI (pc := 150) C dX4_fingerprint_150 ?_
          refine z_lmulI (pc := 151) C dX4_fingerprint_151 ?_
          refine z_aload_n (pc := 152) (j := 2) C dX4_fingerprint_152 rfl rfl ?_
          refine z_getfield (pc := 153) (v := .ref A.v) C in_X4 rfl 0 (by decide) q2082 (fun _ z => z) gm_4 rfl dX4_fingerprint_153 ?_
          refine z_iconst (pc := 156) C dX4_fingerprint_156 ?_
          refine z_iaload (pc := 157) (v := .int (iI σ.sh.m)) C gv_4 (by omega) (mA_e (vE hS.2.2.2.1 (by omega))) dX4_fingerprint_157 ?_
          refine z_i2lI (pc := 158) C dX4_fingerprint_158 (by omega) ?_
          refine z_laddI (pc := 159) C dX4_fingerprint_159 ?_
          exact z_lreturn (pc := 160) C (by rw [hXp]; exact ⟨_, rfl, (show some (Value.long (lI ((31 * ((31 * c2) + σ.sh.t)) + σ.sh.m))) = _ by rw [List.drop_of_length_le (by omega), fpC] at hd2; unfold fpS_; rw [← hd2]; try rfl), ⟨ap, nt, rr, rq, rb, wh, nd, up, lo, V, P, T, M, N, U, W, ⟨gm_4, gv_4, gpa_4, gtx_4, gma_4, gna_4, gua_4, gla_4, gle_4, gqa_4, gd_4⟩, hS, hP, htq, hR, hsl, hslh⟩, hkp84⟩) dX4_fingerprint_160
        · obtain ⟨c_5, hc_5⟩ : ∃ x, σ.sh.cs[(i).toNat]? = some x := ⟨_, List.getElem?_eq_getElem (by omega)⟩
          obtain ⟨hx1_5, hx2_5, hx3_5, hx4_5, hx5_5⟩ := hS.c (i := i) (by omega) hc_5
          obtain ⟨xr1_5, xr2_5, xr3_5, xr4_5, xr5_5⟩ := rsh.2.1 _ (List.mem_of_getElem? hc_5)
          refine z_iconst (pc := 94) C dX4_fingerprint_94 ?_
          refine z_istore (pc := 95) (L' := [(4, .int (iI 0)), (3, .int (iI i)), (1, .long (lI c2)), (0, .ref A.m)]) C dX4_fingerprint_95 (by rw [hnL]; decide) rfl ?_
          refine z_iload (pc := 97) (j := 0) C dX4_fingerprint_97 rfl ?_
          refine z_iconst (pc := 99) C dX4_fingerprint_99 ?_
          refine z_icmp_ge (pc := 100) (tgt := 129) C dX4_fingerprint_100 (by decide) (by decide) (by decide) (fun z => absurd z (by decide)) (fun _ => ?_)
          refine z_ldc2 (pc := 103) (v := lI 31) C q2476 dX4_fingerprint_103 ?_
          refine z_lload_n (pc := 106) (j := 2) C dX4_fingerprint_106 rfl rfl ?_
          refine z_lmulI (pc := 107) C dX4_fingerprint_107 ?_
          refine z_aload_n (pc := 108) (j := 3) C dX4_fingerprint_108 rfl rfl ?_
          refine z_getfield (pc := 109) (v := .ref A.v) C in_X4 rfl 0 (by decide) q2082 (fun _ z => z) gm_4 rfl dX4_fingerprint_109 ?_
          refine z_iload_n (pc := 112) (j := 1) C dX4_fingerprint_112 rfl rfl ?_
          refine z_callS (pc := 113) (n := 1) (kc' := 0) (ks' := 0) C (m_chord C.t (x := i)) (lw_S q2203 q2204 q74 q2205) (by decide +kernel) ⟨by decide, by decide⟩ rfl rfl (Nat.le_of_ble_eq_true rfl) dX4_fingerprint_113 (by omega) (by omega) (zpk (st' := [.int (iI (210 + 5 * i)), .ref A.v, .long (lI (31 * c2))]) rfl ?_) zrx
          refine z_iload (pc := 116) (j := 0) C dX4_fingerprint_116 rfl ?_
          refine z_iadd (pc := 118) C dX4_fingerprint_118 ?_
          refine z_iaload (pc := 119) (v := .int (iI c_5.1)) C gv_4 (by omega) (mA_e (vE hx1_5 (by omega))) dX4_fingerprint_119 ?_
          refine z_i2lI (pc := 120) C dX4_fingerprint_120 (by omega) ?_
          refine z_laddI (pc := 121) C dX4_fingerprint_121 ?_
          refine z_lstore_n (pc := 122) (L' := [(1, .long (lI ((31 * c2) + c_5.1))), (4, .int (iI 0)), (3, .int (iI i)), (0, .ref A.m)]) C dX4_fingerprint_122 rfl (by rw [hnL]; decide) rfl ?_
          refine z_iinc (pc := 123) (k := 1) (L' := [(4, .int (iI 1)), (1, .long (lI ((31 * c2) + c_5.1))), (3, .int (iI i)), (0, .ref A.m)]) C dX4_fingerprint_123 rfl (by rw [hnL]; decide) rfl ?_
          refine z_goto (pc := 126) (tgt := 97) C dX4_fingerprint_126 (by decide) ?_
          refine z_iload (pc := 97) (j := 0) C dX4_fingerprint_97 rfl ?_
          refine z_iconst (pc := 99) C dX4_fingerprint_99 ?_
          refine z_icmp_ge (pc := 100) (tgt := 129) C dX4_fingerprint_100 (by decide) (by decide) (by decide) (fun z => absurd z (by decide)) (fun _ => ?_)
          refine z_ldc2 (pc := 103) (v := lI 31) C q2476 dX4_fingerprint_103 ?_
          refine z_lload_n (pc := 106) (j := 1) C dX4_fingerprint_106 rfl rfl ?_
          refine z_lmulI (pc := 107) C dX4_fingerprint_107 ?_
          refine z_aload_n (pc := 108) (j := 3) C dX4_fingerprint_108 rfl rfl ?_
          refine z_getfield (pc := 109) (v := .ref A.v) C in_X4 rfl 0 (by decide) q2082 (fun _ z => z) gm_4 rfl dX4_fingerprint_109 ?_
          refine z_iload_n (pc := 112) (j := 2) C dX4_fingerprint_112 rfl rfl ?_
          refine z_callS (pc := 113) (n := 1) (kc' := 0) (ks' := 0) C (m_chord C.t (x := i)) (lw_S q2203 q2204 q74 q2205) (by decide +kernel) ⟨by decide, by decide⟩ rfl rfl (Nat.le_of_ble_eq_true rfl) dX4_fingerprint_113 (by omega) (by omega) (zpk (st' := [.int (iI (210 + 5 * i)), .ref A.v, .long (lI (31 * ((31 * c2) + c_5.1)))]) rfl ?_) zrx
          refine z_iload (pc := 116) (j := 0) C dX4_fingerprint_116 rfl ?_
          refine z_iadd (pc := 118) C dX4_fingerprint_118 ?_
          refine z_iaload (pc := 119) (v := .int (iI c_5.2.1)) C gv_4 (by omega) (mA_e (vE hx2_5 (by omega))) dX4_fingerprint_119 ?_
          refine z_i2lI (pc := 120) C dX4_fingerprint_120 (by omega) ?_
          refine z_laddI (pc := 121) C dX4_fingerprint_121 ?_
          refine z_lstore_n (pc := 122) (L' := [(1, .long (lI ((31 * ((31 * c2) + c_5.1)) + c_5.2.1))), (4, .int (iI 1)), (3, .int (iI i)), (0, .ref A.m)]) C dX4_fingerprint_122 rfl (by rw [hnL]; decide) rfl ?_
          refine z_iinc (pc := 123) (k := 1) (L' := [(4, .int (iI 2)), (1, .long (lI ((31 * ((31 * c2) + c_5.1)) + c_5.2.1))), (3, .int (iI i)), (0, .ref A.m)]) C dX4_fingerprint_123 rfl (by rw [hnL]; decide) rfl ?_
          refine z_goto (pc := 126) (tgt := 97) C dX4_fingerprint_126 (by decide) ?_
          refine z_iload (pc := 97) (j := 0) C dX4_fingerprint_97 rfl ?_
          refine z_iconst (pc := 99) C dX4_fingerprint_99 ?_
          refine z_icmp_ge (pc := 100) (tgt := 129) C dX4_fingerprint_100 (by decide) (by decide) (by decide) (fun z => absurd z (by decide)) (fun _ => ?_)
          refine z_ldc2 (pc := 103) (v := lI 31) C q2476 dX4_fingerprint_103 ?_
          refine z_lload_n (pc := 106) (j := 1) C dX4_fingerprint_106 rfl rfl ?_
          refine z_lmulI (pc := 107) C dX4_fingerprint_107 ?_
          refine z_aload_n (pc := 108) (j := 3) C dX4_fingerprint_108 rfl rfl ?_
          refine z_getfield (pc := 109) (v := .ref A.v) C in_X4 rfl 0 (by decide) q2082 (fun _ z => z) gm_4 rfl dX4_fingerprint_109 ?_
          refine z_iload_n (pc := 112) (j := 2) C dX4_fingerprint_112 rfl rfl ?_
          refine z_callS (pc := 113) (n := 1) (kc' := 0) (ks' := 0) C (m_chord C.t (x := i)) (lw_S q2203 q2204 q74 q2205) (by decide +kernel) ⟨by decide, by decide⟩ rfl rfl (Nat.le_of_ble_eq_true rfl) dX4_fingerprint_113 (by omega) (by omega) (zpk (st' := [.int (iI (210 + 5 * i)), .ref A.v, .long (lI (31 * ((31 * ((31 * c2) + c_5.1)) + c_5.2.1)))]) rfl ?_) zrx
          refine z_iload (pc := 116) (j := 0) C dX4_fingerprint_116 rfl ?_
          refine z_iadd (pc := 118) C dX4_fingerprint_118 ?_
          refine z_iaload (pc := 119) (v := .int (iI c_5.2.2.1)) C gv_4 (by omega) (mA_e (vE hx3_5 (by omega))) dX4_fingerprint_119 ?_
          refine z_i2lI (pc := 120) C dX4_fingerprint_120 (by omega) ?_
          refine z_laddI (pc := 121) C dX4_fingerprint_121 ?_
          refine z_lstore_n (pc := 122) (L' := [(1, .long (lI ((31 * ((31 * ((31 * c2) + c_5.1)) + c_5.2.1)) + c_5.2.2.1))), (4, .int (iI 2)), (3, .int (iI i)), (0, .ref A.m)]) C dX4_fingerprint_122 rfl (by rw [hnL]; decide) rfl ?_
          refine z_iinc (pc := 123) (k := 1) (L' := [(4, .int (iI 3)), (1, .long (lI ((31 * ((31 * ((31 * c2) + c_5.1)) + c_5.2.1)) + c_5.2.2.1))), (3, .int (iI i)), (0, .ref A.m)]) C dX4_fingerprint_123 rfl (by rw [hnL]; decide) rfl ?_
          refine z_goto (pc := 126) (tgt := 97) C dX4_fingerprint_126 (by decide) ?_
          refine z_iload (pc := 97) (j := 0) C dX4_fingerprint_97 rfl ?_
          refine z_iconst (pc := 99) C dX4_fingerprint_99 ?_
          refine z_icmp_ge (pc := 100) (tgt := 129) C dX4_fingerprint_100 (by decide) (by decide) (by decide) (fun z => absurd z (by decide)) (fun _ => ?_)
          refine z_ldc2 (pc := 103) (v := lI 31) C q2476 dX4_fingerprint_103 ?_
          refine z_lload_n (pc := 106) (j := 1) C dX4_fingerprint_106 rfl rfl ?_
          refine z_lmulI (pc := 107) C dX4_fingerprint_107 ?_
          refine z_aload_n (pc := 108) (j := 3) C dX4_fingerprint_108 rfl rfl ?_
          refine z_getfield (pc := 109) (v := .ref A.v) C in_X4 rfl 0 (by decide) q2082 (fun _ z => z) gm_4 rfl dX4_fingerprint_109 ?_
          refine z_iload_n (pc := 112) (j := 2) C dX4_fingerprint_112 rfl rfl ?_
          refine z_callS (pc := 113) (n := 1) (kc' := 0) (ks' := 0) C (m_chord C.t (x := i)) (lw_S q2203 q2204 q74 q2205) (by decide +kernel) ⟨by decide, by decide⟩ rfl rfl (Nat.le_of_ble_eq_true rfl) dX4_fingerprint_113 (by omega) (by omega) (zpk (st' := [.int (iI (210 + 5 * i)), .ref A.v, .long (lI (31 * ((31 * ((31 * ((31 * c2) + c_5.1)) + c_5.2.1)) + c_5.2.2.1)))]) rfl ?_) zrx
          refine z_iload (pc := 116) (j := 0) C dX4_fingerprint_116 rfl ?_
          refine z_iadd (pc := 118) C dX4_fingerprint_118 ?_
          refine z_iaload (pc := 119) (v := .int (iI c_5.2.2.2.1)) C gv_4 (by omega) (mA_e (vE hx4_5 (by omega))) dX4_fingerprint_119 ?_
          refine z_i2lI (pc := 120) C dX4_fingerprint_120 (by omega) ?_
          refine z_laddI (pc := 121) C dX4_fingerprint_121 ?_
          refine z_lstore_n (pc := 122) (L' := [(1, .long (lI ((31 * ((31 * ((31 * ((31 * c2) + c_5.1)) + c_5.2.1)) + c_5.2.2.1)) + c_5.2.2.2.1))), (4, .int (iI 3)), (3, .int (iI i)), (0, .ref A.m)]) C dX4_fingerprint_122 rfl (by rw [hnL]; decide) rfl ?_
          refine z_iinc (pc := 123) (k := 1) (L' := [(4, .int (iI 4)), (1, .long (lI ((31 * ((31 * ((31 * ((31 * c2) + c_5.1)) + c_5.2.1)) + c_5.2.2.1)) + c_5.2.2.2.1))), (3, .int (iI i)), (0, .ref A.m)]) C dX4_fingerprint_123 rfl (by rw [hnL]; decide) rfl ?_
          refine z_goto (pc := 126) (tgt := 97) C dX4_fingerprint_126 (by decide) ?_
          refine z_iload (pc := 97) (j := 0) C dX4_fingerprint_97 rfl ?_
          refine z_iconst (pc := 99) C dX4_fingerprint_99 ?_
          refine z_icmp_ge (pc := 100) (tgt := 129) C dX4_fingerprint_100 (by decide) (by decide) (by decide) (fun z => absurd z (by decide)) (fun _ => ?_)
          refine z_ldc2 (pc := 103) (v := lI 31) C q2476 dX4_fingerprint_103 ?_
          refine z_lload_n (pc := 106) (j := 1) C dX4_fingerprint_106 rfl rfl ?_
          refine z_lmulI (pc := 107) C dX4_fingerprint_107 ?_
          refine z_aload_n (pc := 108) (j := 3) C dX4_fingerprint_108 rfl rfl ?_
          refine z_getfield (pc := 109) (v := .ref A.v) C in_X4 rfl 0 (by decide) q2082 (fun _ z => z) gm_4 rfl dX4_fingerprint_109 ?_
          refine z_iload_n (pc := 112) (j := 2) C dX4_fingerprint_112 rfl rfl ?_
          refine z_callS (pc := 113) (n := 1) (kc' := 0) (ks' := 0) C (m_chord C.t (x := i)) (lw_S q2203 q2204 q74 q2205) (by decide +kernel) ⟨by decide, by decide⟩ rfl rfl (Nat.le_of_ble_eq_true rfl) dX4_fingerprint_113 (by omega) (by omega) (zpk (st' := [.int (iI (210 + 5 * i)), .ref A.v, .long (lI (31 * ((31 * ((31 * ((31 * ((31 * c2) + c_5.1)) + c_5.2.1)) + c_5.2.2.1)) + c_5.2.2.2.1)))]) rfl ?_) zrx
          refine z_iload (pc := 116) (j := 0) C dX4_fingerprint_116 rfl ?_
          refine z_iadd (pc := 118) C dX4_fingerprint_118 ?_
          refine z_iaload (pc := 119) (v := .int (iI c_5.2.2.2.2)) C gv_4 (by omega) (mA_e (vE hx5_5 (by omega))) dX4_fingerprint_119 ?_
          refine z_i2lI (pc := 120) C dX4_fingerprint_120 (by omega) ?_
          refine z_laddI (pc := 121) C dX4_fingerprint_121 ?_
          refine z_lstore_n (pc := 122) (L' := [(1, .long (lI ((31 * ((31 * ((31 * ((31 * ((31 * c2) + c_5.1)) + c_5.2.1)) + c_5.2.2.1)) + c_5.2.2.2.1)) + c_5.2.2.2.2))), (4, .int (iI 4)), (3, .int (iI i)), (0, .ref A.m)]) C dX4_fingerprint_122 rfl (by rw [hnL]; decide) rfl ?_
          refine z_iinc (pc := 123) (k := 1) (L' := [(4, .int (iI 5)), (1, .long (lI ((31 * ((31 * ((31 * ((31 * ((31 * c2) + c_5.1)) + c_5.2.1)) + c_5.2.2.1)) + c_5.2.2.2.1)) + c_5.2.2.2.2))), (3, .int (iI i)), (0, .ref A.m)]) C dX4_fingerprint_123 rfl (by rw [hnL]; decide) rfl ?_
          refine z_goto (pc := 126) (tgt := 97) C dX4_fingerprint_126 (by decide) ?_
          refine z_iload (pc := 97) (j := 0) C dX4_fingerprint_97 rfl ?_
          refine z_iconst (pc := 99) C dX4_fingerprint_99 ?_
          refine z_icmp_ge (pc := 100) (tgt := 129) C dX4_fingerprint_100 (by decide) (by decide) (by decide) (fun _ => ?_) (fun z => absurd z (by decide))
          refine z_iinc (pc := 129) (k := 2) (L' := [(3, .int (iI (i + 1))), (4, .int (iI 5)), (1, .long (lI ((31 * ((31 * ((31 * ((31 * ((31 * c2) + c_5.1)) + c_5.2.1)) + c_5.2.2.1)) + c_5.2.2.2.1)) + c_5.2.2.2.2))), (0, .ref A.m)]) C dX4_fingerprint_129 rfl (by rw [hnL]; decide) rfl ?_
          refine z_goto (pc := 132) (tgt := 84) C dX4_fingerprint_132 (by decide) ?_
          refine Z.weak (L' := [(3, .int (iI (i + 1))), (1, .long (lI ((31 * ((31 * ((31 * ((31 * ((31 * c2) + c_5.1)) + c_5.2.1)) + c_5.2.2.1)) + c_5.2.2.2.1)) + c_5.2.2.2.2))), (0, .ref A.m)]) (kc' := 0) (ks' := 0) [0, 2, 3] rfl (by omega) (by omega) ?_
          exact ih84 _ (by omega) (i + 1) ((31 * ((31 * ((31 * ((31 * ((31 * c2) + c_5.1)) + c_5.2.1)) + c_5.2.2.1)) + c_5.2.2.2.1)) + c_5.2.2.2.2) g84 ⟨gm_4, gv_4, gpa_4, gtx_4, gma_4, gna_4, gua_4, gla_4, gle_4, gqa_4, gd_4⟩ hkp84 (by omega) (by rw [drop_step hc_5 (by omega), fpC] at hd2; exact hd2) rfl
      refine Z.weak (L' := [(3, .int (iI 0)), (1, .long (lI a)), (0, .ref A.m)]) (kc' := 0) (ks' := 0) [0, 1, 2] rfl (by omega) (by omega) ?_
      exact loop84 _ 0 a g19 ⟨gm_3, gv_3, gpa_3, gtx_3, gma_3, gna_3, gua_3, gla_3, gle_3, gqa_3, gd_3⟩ hkp19 (by omega) (by rw [hd]; rfl) rfl
    · obtain ⟨t, ht⟩ : ∃ x, σ.sh.ls[(i).toNat]? = some x := ⟨_, List.getElem?_eq_getElem (by omega)⟩
      have htl := rlt _ (List.mem_of_getElem? ht)
      refine z_ldc2 (pc := 29) (v := lI 31) C q2476 dX4_fingerprint_29 ?_
      refine z_lload_n (pc := 32) (j := 1) C dX4_fingerprint_32 rfl rfl ?_
      refine z_lmulI (pc := 33) C dX4_fingerprint_33 ?_
      refine z_aload_n (pc := 34) (j := 2) C dX4_fingerprint_34 rfl rfl ?_
      refine z_iload_n (pc := 35) (j := 0) C dX4_fingerprint_35 rfl rfl ?_
      refine z_callV (pc := 36) (n := 1) (kc' := 0) (ks' := 0) C (m_len C.t ⟨gm_3, gv_3, gpa_3, gtx_3, gma_3, gna_3, gua_3, gla_3, gle_3, gqa_3, gd_3⟩ hS hsl (i := i) (by omega) ht) (lw_V q2254 q2256 qs38 q74 q2257) (by decide +kernel) ⟨by decide, by decide⟩ gm_3 rfl rfl rfl (Nat.le_of_ble_eq_true rfl) dX4_fingerprint_36 (by omega) (by omega) (zpk (st' := [.int (iI ((t.length : Nat) : Int)), .long (lI (31 * a))]) rfl ?_) zrx
      refine z_i2lI (pc := 39) C dX4_fingerprint_39 (by omega) ?_
      refine z_laddI (pc := 40) C dX4_fingerprint_40 ?_
      refine z_lstore_n (pc := 41) (L' := [(1, .long (lI ((31 * a) + ((t.length : Nat) : Int)))), (3, .int (iI i)), (0, .ref A.m)]) C dX4_fingerprint_41 rfl (by rw [hnL]; decide) rfl ?_
      refine z_iconst (pc := 42) C dX4_fingerprint_42 ?_
      refine z_istore (pc := 43) (L' := [(4, .int (iI 0)), (1, .long (lI ((31 * a) + ((t.length : Nat) : Int)))), (3, .int (iI i)), (0, .ref A.m)]) C dX4_fingerprint_43 (by rw [hnL]; decide) rfl ?_
      have loop45 : ∀ (n45 : Nat) (k : Int) (b : Int) (g45 : zH), (mM g45 A ((σ.hi.length : Nat) : Int) ((σ.tx.length : Nat) : Int) σ.si σ.fl σ.wd 0 ap nt rr rq rb wh nd up lo V P T M N U W) → (zkeep h g45 [A.m, A.v, A.pa, A.tx, A.ma, A.na, A.ua, A.la]) → (0 ≤ k ∧ k ≤ (t.length : Nat)) → (fpT (t.drop k.toNat) b = fpT t (31 * a + (t.length : Nat))) → (((t.length : Nat) - k).toNat) = n45 → Z X g45 0 0 [(4, .int (iI k)), (3, .int (iI i)), (1, .long (lI b)), (0, .ref A.m)] 45 [] := by
        intro n45
        induction n45 using Nat.strongRecOn with
        | ind n45 ih45 =>
        intro k b g45 hMg45 hkp45 hk hd5 hn45
        obtain ⟨gm_6, gv_6, gpa_6, gtx_6, gma_6, gna_6, gua_6, gla_6, gle_6, gqa_6, gd_6⟩ := id hMg45
        refine z_iload (pc := 45) (j := 0) C dX4_fingerprint_45 rfl ?_
        refine z_aload_n (pc := 47) (j := 3) C dX4_fingerprint_47 rfl rfl ?_
        refine z_iload_n (pc := 48) (j := 1) C dX4_fingerprint_48 rfl rfl ?_
        refine z_callV (pc := 49) (n := 1) (kc' := 0) (ks' := 0) C (m_len C.t ⟨gm_6, gv_6, gpa_6, gtx_6, gma_6, gna_6, gua_6, gla_6, gle_6, gqa_6, gd_6⟩ hS hsl (i := i) (by omega) ht) (lw_V q2254 q2256 qs38 q74 q2257) (by decide +kernel) ⟨by decide, by decide⟩ gm_6 rfl rfl rfl (Nat.le_of_ble_eq_true rfl) dX4_fingerprint_49 (by omega) (by omega) (zpk (st' := [.int (iI ((t.length : Nat) : Int)), .int (iI k)]) rfl ?_) zrx
        refine z_icmp_ge (pc := 52) (tgt := 76) C dX4_fingerprint_52 (by decide) (by omega) (by omega) (fun c52 => ?_) (fun c52 => ?_)
        · refine z_iinc (pc := 76) (k := 1) (L' := [(3, .int (iI (i + 1))), (4, .int (iI k)), (1, .long (lI b)), (0, .ref A.m)]) C dX4_fingerprint_76 rfl (by rw [hnL]; decide) rfl ?_
          refine z_goto (pc := 79) (tgt := 19) C dX4_fingerprint_79 (by decide) ?_
          refine Z.weak (L' := [(3, .int (iI (i + 1))), (1, .long (lI b)), (0, .ref A.m)]) (kc' := 0) (ks' := 0) [0, 2, 3] rfl (by omega) (by omega) ?_
          exact ih19 _ (by omega) (i + 1) b g45 ⟨gm_6, gv_6, gpa_6, gtx_6, gma_6, gna_6, gua_6, gla_6, gle_6, gqa_6, gd_6⟩ hkp45 (by omega) (by rw [drop_step ht (by omega), fpL] at hd; rw [List.drop_of_length_le (by omega), fpT] at hd5; rw [hd5]; exact hd) rfl
        · obtain ⟨dd, hdd⟩ : ∃ x, t[(k).toNat]? = some x := ⟨_, List.getElem?_eq_getElem (by omega)⟩
          have hdr : -2147483648 ≤ dd ∧ dd ≤ 2147483647 := hlr t (List.mem_of_getElem? ht) dd (List.mem_of_getElem? hdd)
          refine z_ldc2 (pc := 55) (v := lI 31) C q2476 dX4_fingerprint_55 ?_
          refine z_lload_n (pc := 58) (j := 2) C dX4_fingerprint_58 rfl rfl ?_
          refine z_lmulI (pc := 59) C dX4_fingerprint_59 ?_
          refine z_aload_n (pc := 60) (j := 3) C dX4_fingerprint_60 rfl rfl ?_
          refine z_iload_n (pc := 61) (j := 1) C dX4_fingerprint_61 rfl rfl ?_
          refine z_iload (pc := 62) (j := 0) C dX4_fingerprint_62 rfl ?_
          refine z_callV (pc := 64) (n := 2) (kc' := 0) (ks' := 0) C (m_lyr C.t ⟨gm_6, gv_6, gpa_6, gtx_6, gma_6, gna_6, gua_6, gla_6, gle_6, gqa_6, gd_6⟩ hS hsl (i := i) (by omega) ht (k := k) (by omega) hdd) (lw_V q2262 q2264 qs39 q74 q2265) (by decide +kernel) ⟨by decide, by decide⟩ gm_6 rfl rfl rfl (Nat.le_of_ble_eq_true rfl) dX4_fingerprint_64 (by omega) (by omega) (zpk (st' := [.int (iI dd), .long (lI (31 * b))]) rfl ?_) zrx
          refine z_i2lI (pc := 67) C dX4_fingerprint_67 (by omega) ?_
          refine z_laddI (pc := 68) C dX4_fingerprint_68 ?_
          refine z_lstore_n (pc := 69) (L' := [(1, .long (lI ((31 * b) + dd))), (4, .int (iI k)), (3, .int (iI i)), (0, .ref A.m)]) C dX4_fingerprint_69 rfl (by rw [hnL]; decide) rfl ?_
          refine z_iinc (pc := 70) (k := 1) (L' := [(4, .int (iI (k + 1))), (1, .long (lI ((31 * b) + dd))), (3, .int (iI i)), (0, .ref A.m)]) C dX4_fingerprint_70 rfl (by rw [hnL]; decide) rfl ?_
          refine z_goto (pc := 73) (tgt := 45) C dX4_fingerprint_73 (by decide) ?_
          refine Z.weak (L' := [(4, .int (iI (k + 1))), (3, .int (iI i)), (1, .long (lI ((31 * b) + dd))), (0, .ref A.m)]) (kc' := 0) (ks' := 0) [0, 2, 1, 3] rfl (by omega) (by omega) ?_
          exact ih45 _ (by omega) (k + 1) ((31 * b) + dd) g45 ⟨gm_6, gv_6, gpa_6, gtx_6, gma_6, gna_6, gua_6, gla_6, gle_6, gqa_6, gd_6⟩ hkp45 (by omega) (by rw [drop_step hdd (by omega), fpT] at hd5; exact hd5) rfl
      refine Z.weak (L' := [(4, .int (iI 0)), (3, .int (iI i)), (1, .long (lI ((31 * a) + ((t.length : Nat) : Int)))), (0, .ref A.m)]) (kc' := 0) (ks' := 0) [0, 2, 1, 3] rfl (by omega) (by omega) ?_
      exact loop45 _ 0 ((31 * a) + ((t.length : Nat) : Int)) g19 ⟨gm_3, gv_3, gpa_3, gtx_3, gma_3, gna_3, gua_3, gla_3, gle_3, gqa_3, gd_3⟩ hkp19 (by omega) rfl rfl
  refine Z.weak (L' := [(3, .int (iI 0)), (1, .long (lI (1457 + ((σ.sh.ls.length : Nat) : Int)))), (0, .ref A.m)]) (kc' := 0) (ks' := 0) [0, 1, 2] rfl (by omega) (by omega) ?_
  exact loop19 _ 0 (1457 + ((σ.sh.ls.length : Nat) : Int)) h2 ⟨fh2_0, fh2_1, fh2_2, fh2_3, fh2_4, fh2_5, fh2_6, fh2_7, (kh2.n gle_1 (List.not_mem_cons_of_ne_of_not_mem (Ne.symm (zneA gm_1 gle_1)) (List.not_mem_cons_of_ne_of_not_mem (zneT gle_1 gv_1 (by simp)) (List.not_mem_cons_of_ne_of_not_mem (zneT gle_1 gpa_1 (by simp)) (List.not_mem_cons_of_ne_of_not_mem (zneT gle_1 gtx_1 (by simp)) (List.not_mem_cons_of_ne_of_not_mem (zneT gle_1 gma_1 (by simp)) (List.not_mem_cons_of_ne_of_not_mem (zneT gle_1 gna_1 (by simp)) (List.not_mem_cons_of_ne_of_not_mem (zneT gle_1 gua_1 (by simp)) (List.not_mem_cons_of_ne_of_not_mem (zneT gle_1 gla_1 (by simp)) List.not_mem_nil))))))))), (kh2.n gqa_1 (List.not_mem_cons_of_ne_of_not_mem (Ne.symm (zneA gm_1 gqa_1)) (List.not_mem_cons_of_ne_of_not_mem (zneT gqa_1 gv_1 (by simp)) (List.not_mem_cons_of_ne_of_not_mem (zneT gqa_1 gpa_1 (by simp)) (List.not_mem_cons_of_ne_of_not_mem (zneT gqa_1 gtx_1 (by simp)) (List.not_mem_cons_of_ne_of_not_mem (zneT gqa_1 gma_1 (by simp)) (List.not_mem_cons_of_ne_of_not_mem (zneT gqa_1 gna_1 (by simp)) (List.not_mem_cons_of_ne_of_not_mem (zneT gqa_1 gua_1 (by simp)) (List.not_mem_cons_of_ne_of_not_mem (zneT gqa_1 gla_1 (by simp)) List.not_mem_nil))))))))), gd_1⟩ kh2 (by omega) rfl rfl

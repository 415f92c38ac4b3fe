/-! 11.math.lean.txt -/
set_option maxRecDepth 100000
def RJ5 : String := "java/lang/Math"
abbrev cJ5_floorMod : ByteArray := prog_27_method_50_code
def yJ5_floorMod : MethodName := ⟨RJ5, "floorMod", "(II)I"⟩
def dkwJ5_floorMod_0 : List UInt8 := [26, 27, 112, 61, 26, 27, 130, 156, 0, 11, 28, 153, 0, 7, 28, 27, 96, 172, 28, 172]
abbrev dktJ5_floorMod_0 : List UInt8 := dkwJ5_floorMod_0 ++ []
theorem dksJ5_floorMod_0 : cJ5_floorMod.data.toList.drop 0 = dktJ5_floorMod_0 := by decide +kernel
abbrev cJ5_floorDiv : ByteArray := prog_27_method_47_code
def yJ5_floorDiv : MethodName := ⟨RJ5, "floorDiv", "(II)I"⟩
def dkwJ5_floorDiv_0 : List UInt8 := [26, 27, 108, 61, 26, 27, 130, 156, 0, 14, 28, 27, 104, 26, 159, 0, 7, 28, 4, 100, 172, 28, 172]
abbrev dktJ5_floorDiv_0 : List UInt8 := dkwJ5_floorDiv_0 ++ []
theorem dksJ5_floorDiv_0 : cJ5_floorDiv.data.toList.drop 0 = dktJ5_floorDiv_0 := by decide +kernel
abbrev cJ5_abs : ByteArray := prog_27_method_59_code
def yJ5_abs : MethodName := ⟨RJ5, "abs", "(I)I"⟩
def dkwJ5_abs_0 : List UInt8 := [26, 156, 0, 8, 26, 116, 167, 0, 4, 26, 172]
abbrev dktJ5_abs_0 : List UInt8 := dkwJ5_abs_0 ++ []
theorem dksJ5_abs_0 : cJ5_abs.data.toList.drop 0 = dktJ5_abs_0 := by decide +kernel
abbrev cJ5_min : ByteArray := prog_27_method_69_code
def yJ5_min : MethodName := ⟨RJ5, "min", "(II)I"⟩
def dkwJ5_min_0 : List UInt8 := [26, 27, 163, 0, 7, 26, 167, 0, 4, 27, 172]
abbrev dktJ5_min_0 : List UInt8 := dkwJ5_min_0 ++ []
theorem dksJ5_min_0 : cJ5_min.data.toList.drop 0 = dktJ5_min_0 := by decide +kernel
abbrev cJ5_max : ByteArray := prog_27_method_65_code
def yJ5_max : MethodName := ⟨RJ5, "max", "(II)I"⟩
def dkwJ5_max_0 : List UInt8 := [26, 27, 161, 0, 7, 26, 167, 0, 4, 27, 172]
abbrev dktJ5_max_0 : List UInt8 := dkwJ5_max_0 ++ []
theorem dksJ5_max_0 : cJ5_max.data.toList.drop 0 = dktJ5_max_0 := by decide +kernel
theorem dJ5_floorMod_0 : decode cJ5_floorMod 0 = .ok (.iload_n 0, 1) := dk_26 (dk_at dksJ5_floorMod_0 0 rfl rfl)
theorem dJ5_floorMod_1 : decode cJ5_floorMod 1 = .ok (.iload_n 1, 1) := dk_27 (dk_at dksJ5_floorMod_0 1 rfl rfl)
theorem dJ5_floorMod_2 : decode cJ5_floorMod 2 = .ok (.irem, 1) := dk_112 (dk_at dksJ5_floorMod_0 2 rfl rfl)
theorem dJ5_floorMod_3 : decode cJ5_floorMod 3 = .ok (.istore_n 2, 1) := dk_61 (dk_at dksJ5_floorMod_0 3 rfl rfl)
theorem dJ5_floorMod_4 : decode cJ5_floorMod 4 = .ok (.iload_n 0, 1) := dk_26 (dk_at dksJ5_floorMod_0 4 rfl rfl)
theorem dJ5_floorMod_5 : decode cJ5_floorMod 5 = .ok (.iload_n 1, 1) := dk_27 (dk_at dksJ5_floorMod_0 5 rfl rfl)
theorem dJ5_floorMod_6 : decode cJ5_floorMod 6 = .ok (.ixor, 1) := dk_130 (dk_at dksJ5_floorMod_0 6 rfl rfl)
theorem dJ5_floorMod_7 : decode cJ5_floorMod 7 = .ok (.ifCond .ge 11, 3) := dk_156 0 11 (dk_at dksJ5_floorMod_0 7 rfl rfl)
theorem dJ5_floorMod_10 : decode cJ5_floorMod 10 = .ok (.iload_n 2, 1) := dk_28 (dk_at dksJ5_floorMod_0 10 rfl rfl)
theorem dJ5_floorMod_11 : decode cJ5_floorMod 11 = .ok (.ifCond .eq 7, 3) := dk_153 0 7 (dk_at dksJ5_floorMod_0 11 rfl rfl)
theorem dJ5_floorMod_14 : decode cJ5_floorMod 14 = .ok (.iload_n 2, 1) := dk_28 (dk_at dksJ5_floorMod_0 14 rfl rfl)
theorem dJ5_floorMod_15 : decode cJ5_floorMod 15 = .ok (.iload_n 1, 1) := dk_27 (dk_at dksJ5_floorMod_0 15 rfl rfl)
theorem dJ5_floorMod_16 : decode cJ5_floorMod 16 = .ok (.iadd, 1) := dk_96 (dk_at dksJ5_floorMod_0 16 rfl rfl)
theorem dJ5_floorMod_17 : decode cJ5_floorMod 17 = .ok (.ireturn, 1) := dk_172 (dk_at dksJ5_floorMod_0 17 rfl rfl)
theorem dJ5_floorMod_18 : decode cJ5_floorMod 18 = .ok (.iload_n 2, 1) := dk_28 (dk_at dksJ5_floorMod_0 18 rfl rfl)
theorem dJ5_floorMod_19 : decode cJ5_floorMod 19 = .ok (.ireturn, 1) := dk_172 (dk_at dksJ5_floorMod_0 19 rfl rfl)
theorem dJ5_floorDiv_0 : decode cJ5_floorDiv 0 = .ok (.iload_n 0, 1) := dk_26 (dk_at dksJ5_floorDiv_0 0 rfl rfl)
theorem dJ5_floorDiv_1 : decode cJ5_floorDiv 1 = .ok (.iload_n 1, 1) := dk_27 (dk_at dksJ5_floorDiv_0 1 rfl rfl)
theorem dJ5_floorDiv_2 : decode cJ5_floorDiv 2 = .ok (.idiv, 1) := dk_108 (dk_at dksJ5_floorDiv_0 2 rfl rfl)
theorem dJ5_floorDiv_3 : decode cJ5_floorDiv 3 = .ok (.istore_n 2, 1) := dk_61 (dk_at dksJ5_floorDiv_0 3 rfl rfl)
theorem dJ5_floorDiv_4 : decode cJ5_floorDiv 4 = .ok (.iload_n 0, 1) := dk_26 (dk_at dksJ5_floorDiv_0 4 rfl rfl)
theorem dJ5_floorDiv_5 : decode cJ5_floorDiv 5 = .ok (.iload_n 1, 1) := dk_27 (dk_at dksJ5_floorDiv_0 5 rfl rfl)
theorem dJ5_floorDiv_6 : decode cJ5_floorDiv 6 = .ok (.ixor, 1) := dk_130 (dk_at dksJ5_floorDiv_0 6 rfl rfl)
theorem dJ5_floorDiv_7 : decode cJ5_floorDiv 7 = .ok (.ifCond .ge 14, 3) := dk_156 0 14 (dk_at dksJ5_floorDiv_0 7 rfl rfl)
theorem dJ5_floorDiv_10 : decode cJ5_floorDiv 10 = .ok (.iload_n 2, 1) := dk_28 (dk_at dksJ5_floorDiv_0 10 rfl rfl)
theorem dJ5_floorDiv_11 : decode cJ5_floorDiv 11 = .ok (.iload_n 1, 1) := dk_27 (dk_at dksJ5_floorDiv_0 11 rfl rfl)
theorem dJ5_floorDiv_12 : decode cJ5_floorDiv 12 = .ok (.imul, 1) := dk_104 (dk_at dksJ5_floorDiv_0 12 rfl rfl)
theorem dJ5_floorDiv_13 : decode cJ5_floorDiv 13 = .ok (.iload_n 0, 1) := dk_26 (dk_at dksJ5_floorDiv_0 13 rfl rfl)
theorem dJ5_floorDiv_14 : decode cJ5_floorDiv 14 = .ok (.if_icmp .eq 7, 3) := dk_159 0 7 (dk_at dksJ5_floorDiv_0 14 rfl rfl)
theorem dJ5_floorDiv_17 : decode cJ5_floorDiv 17 = .ok (.iload_n 2, 1) := dk_28 (dk_at dksJ5_floorDiv_0 17 rfl rfl)
theorem dJ5_floorDiv_18 : decode cJ5_floorDiv 18 = .ok (.iconst 1, 1) := dk_4 (dk_at dksJ5_floorDiv_0 18 rfl rfl)
theorem dJ5_floorDiv_19 : decode cJ5_floorDiv 19 = .ok (.isub, 1) := dk_100 (dk_at dksJ5_floorDiv_0 19 rfl rfl)
theorem dJ5_floorDiv_20 : decode cJ5_floorDiv 20 = .ok (.ireturn, 1) := dk_172 (dk_at dksJ5_floorDiv_0 20 rfl rfl)
theorem dJ5_floorDiv_21 : decode cJ5_floorDiv 21 = .ok (.iload_n 2, 1) := dk_28 (dk_at dksJ5_floorDiv_0 21 rfl rfl)
theorem dJ5_floorDiv_22 : decode cJ5_floorDiv 22 = .ok (.ireturn, 1) := dk_172 (dk_at dksJ5_floorDiv_0 22 rfl rfl)
theorem dJ5_abs_0 : decode cJ5_abs 0 = .ok (.iload_n 0, 1) := dk_26 (dk_at dksJ5_abs_0 0 rfl rfl)
theorem dJ5_abs_1 : decode cJ5_abs 1 = .ok (.ifCond .ge 8, 3) := dk_156 0 8 (dk_at dksJ5_abs_0 1 rfl rfl)
theorem dJ5_abs_4 : decode cJ5_abs 4 = .ok (.iload_n 0, 1) := dk_26 (dk_at dksJ5_abs_0 4 rfl rfl)
theorem dJ5_abs_5 : decode cJ5_abs 5 = .ok (.ineg, 1) := dk_116 (dk_at dksJ5_abs_0 5 rfl rfl)
theorem dJ5_abs_6 : decode cJ5_abs 6 = .ok (.goto 4, 3) := dk_167 0 4 (dk_at dksJ5_abs_0 6 rfl rfl)
theorem dJ5_abs_9 : decode cJ5_abs 9 = .ok (.iload_n 0, 1) := dk_26 (dk_at dksJ5_abs_0 9 rfl rfl)
theorem dJ5_abs_10 : decode cJ5_abs 10 = .ok (.ireturn, 1) := dk_172 (dk_at dksJ5_abs_0 10 rfl rfl)
theorem dJ5_min_0 : decode cJ5_min 0 = .ok (.iload_n 0, 1) := dk_26 (dk_at dksJ5_min_0 0 rfl rfl)
theorem dJ5_min_1 : decode cJ5_min 1 = .ok (.iload_n 1, 1) := dk_27 (dk_at dksJ5_min_0 1 rfl rfl)
theorem dJ5_min_2 : decode cJ5_min 2 = .ok (.if_icmp .gt 7, 3) := dk_163 0 7 (dk_at dksJ5_min_0 2 rfl rfl)
theorem dJ5_min_5 : decode cJ5_min 5 = .ok (.iload_n 0, 1) := dk_26 (dk_at dksJ5_min_0 5 rfl rfl)
theorem dJ5_min_6 : decode cJ5_min 6 = .ok (.goto 4, 3) := dk_167 0 4 (dk_at dksJ5_min_0 6 rfl rfl)
theorem dJ5_min_9 : decode cJ5_min 9 = .ok (.iload_n 1, 1) := dk_27 (dk_at dksJ5_min_0 9 rfl rfl)
theorem dJ5_min_10 : decode cJ5_min 10 = .ok (.ireturn, 1) := dk_172 (dk_at dksJ5_min_0 10 rfl rfl)
theorem dJ5_max_0 : decode cJ5_max 0 = .ok (.iload_n 0, 1) := dk_26 (dk_at dksJ5_max_0 0 rfl rfl)
theorem dJ5_max_1 : decode cJ5_max 1 = .ok (.iload_n 1, 1) := dk_27 (dk_at dksJ5_max_0 1 rfl rfl)
theorem dJ5_max_2 : decode cJ5_max 2 = .ok (.if_icmp .lt 7, 3) := dk_161 0 7 (dk_at dksJ5_max_0 2 rfl rfl)
theorem dJ5_max_5 : decode cJ5_max 5 = .ok (.iload_n 0, 1) := dk_26 (dk_at dksJ5_max_0 5 rfl rfl)
theorem dJ5_max_6 : decode cJ5_max 6 = .ok (.goto 4, 3) := dk_167 0 4 (dk_at dksJ5_max_0 6 rfl rfl)
theorem dJ5_max_9 : decode cJ5_max 9 = .ok (.iload_n 1, 1) := dk_27 (dk_at dksJ5_max_0 9 rfl rfl)
theorem dJ5_max_10 : decode cJ5_max 10 = .ok (.ireturn, 1) := dk_172 (dk_at dksJ5_max_0 10 rfl rfl)
theorem i_db {x y : Int} (hx : -2147483648 ≤ x ∧ x ≤ 2147483647) (hy : 0 < y) : -2147483648 ≤ x.tdiv y * y ∧ x.tdiv y * y ≤ 2147483647 := by
  have h5 := Int.tmod_add_mul_tdiv x y
  rw [Int.mul_comm] at h5
  by_cases c : 0 ≤ x
  · have h1 := Int.tmod_nonneg y c
    have h2 : 0 ≤ x.tdiv y := Int.tdiv_nonneg c (by omega)
    have h3 : 0 ≤ x.tdiv y * y := Int.mul_nonneg h2 (by omega)
    omega
  · have h1 : 0 ≤ (-x).tmod y := Int.tmod_nonneg y (by omega)
    rw [Int.neg_tmod] at h1
    have h2 : 0 ≤ (-x).tdiv y := Int.tdiv_nonneg (by omega) (by omega)
    rw [Int.neg_tdiv] at h2
    have h3 : 0 ≤ (-x.tdiv y) * y := Int.mul_nonneg h2 (by omega)
    rw [Int.neg_mul] at h3
    omega
set_option maxHeartbeats 4000000 in
theorem ct_floorMod {l : Launch} (hl : l.stackTraces = false) {Γ : zCx} {h : zH} {x y : Int} (hx : -2147483648 ≤ x ∧ x ≤ 2147483647) (hy : 0 < y ∧ y ≤ 2147483647) : zMet l yJ5_floorMod (ws_ yJ5_floorMod cJ5_floorMod 3 (some .int)) ({ frames := 0, cells := 0, slots := 0, locals := 0 }) Γ h [.int (iI x), .int (iI y)] (zpure h (some (.int (iI (x % y))))) 0 0 := by
  refine zMet.of (cc := cJ5_floorMod) hl (by decide +kernel) (Nat.le_of_ble_eq_true rfl) ?_
  intro X hXl hXΓ hXp C hnm hnL
  have C : zC X cJ5_floorMod RJ5 (some .int) 0 0 [] := C
  have hnL : X.2.1.2.2.2.2 = 3 := hnL
  subst hXl hXΓ
  show Z X h 0 0 [(0, .int (iI x)), (1, .int (iI y))] 0 []
  have ht := i_tb (x := x) hy.1
  refine z_iload_n (pc := 0) (j := 0) C dJ5_floorMod_0 rfl rfl ?_
  refine z_iload_n (pc := 1) (j := 1) C dJ5_floorMod_1 rfl rfl ?_
  refine z_iremI (pc := 2) C dJ5_floorMod_2 hx hy ?_
  refine z_istore_n (pc := 3) (L' := [(2, .int (iI (x.tmod y))), (0, .int (iI x)), (1, .int (iI y))]) C dJ5_floorMod_3 rfl (by rw [hnL]; decide) rfl ?_
  refine z_iload_n (pc := 4) (j := 1) C dJ5_floorMod_4 rfl rfl ?_
  refine z_iload_n (pc := 5) (j := 2) C dJ5_floorMod_5 rfl rfl ?_
  refine z_ixorI (pc := 6) C dJ5_floorMod_6 (by omega) (by omega) (fun z1 z1l z1u z1s => ?_)
  refine z_if_ge (pc := 7) (tgt := 18) C dJ5_floorMod_7 (by decide) (by omega) (fun c7 => ?_) (fun c7 => ?_)
  · refine z_iload_n (pc := 18) (j := 0) C dJ5_floorMod_18 rfl rfl ?_
    exact z_ireturn (pc := 19) C (by rw [hXp]; exact zpure_i (by rw [i_fm hy.1]; split <;> (try split) <;> omega) rfl) dJ5_floorMod_19
  · refine z_iload_n (pc := 10) (j := 0) C dJ5_floorMod_10 rfl rfl ?_
    refine z_if_eq (pc := 11) (tgt := 18) C dJ5_floorMod_11 (by decide) (by omega) (fun c11 => ?_) (fun c11 => ?_)
    · refine z_iload_n (pc := 18) (j := 0) C dJ5_floorMod_18 rfl rfl ?_
      exact z_ireturn (pc := 19) C (by rw [hXp]; exact zpure_i (by rw [i_fm hy.1]; split <;> (try split) <;> omega) rfl) dJ5_floorMod_19
    · refine z_iload_n (pc := 14) (j := 0) C dJ5_floorMod_14 rfl rfl ?_
      refine z_iload_n (pc := 15) (j := 2) C dJ5_floorMod_15 rfl rfl ?_
      refine z_iadd (pc := 16) C dJ5_floorMod_16 ?_
      exact z_ireturn (pc := 17) C (by rw [hXp]; exact zpure_i (by rw [i_fm hy.1]; split <;> (try split) <;> omega) rfl) dJ5_floorMod_17
set_option maxHeartbeats 4000000 in
theorem ct_floorDiv {l : Launch} (hl : l.stackTraces = false) {Γ : zCx} {h : zH} {x y : Int} (hx : -2147483648 ≤ x ∧ x ≤ 2147483647) (hy : 0 < y ∧ y ≤ 2147483647) : zMet l yJ5_floorDiv (ws_ yJ5_floorDiv cJ5_floorDiv 3 (some .int)) ({ frames := 0, cells := 0, slots := 0, locals := 0 }) Γ h [.int (iI x), .int (iI y)] (zpure h (some (.int (iI (x / y))))) 0 0 := by
  refine zMet.of (cc := cJ5_floorDiv) hl (by decide +kernel) (Nat.le_of_ble_eq_true rfl) ?_
  intro X hXl hXΓ hXp C hnm hnL
  have C : zC X cJ5_floorDiv RJ5 (some .int) 0 0 [] := C
  have hnL : X.2.1.2.2.2.2 = 3 := hnL
  subst hXl hXΓ
  show Z X h 0 0 [(0, .int (iI x)), (1, .int (iI y))] 0 []
  have ht := i_tb (x := x) hy.1
  have hd := Int.tmod_add_mul_tdiv x y
  have hb : -2147483648 ≤ x.tdiv y * y ∧ x.tdiv y * y ≤ 2147483647 := i_db hx hy.1
  rw [Int.mul_comm] at hd
  refine z_iload_n (pc := 0) (j := 0) C dJ5_floorDiv_0 rfl rfl ?_
  refine z_iload_n (pc := 1) (j := 1) C dJ5_floorDiv_1 rfl rfl ?_
  refine z_idivI (pc := 2) C dJ5_floorDiv_2 hx hy ?_
  refine z_istore_n (pc := 3) (L' := [(2, .int (iI (x.tdiv y))), (0, .int (iI x)), (1, .int (iI y))]) C dJ5_floorDiv_3 rfl (by rw [hnL]; decide) rfl ?_
  refine z_iload_n (pc := 4) (j := 1) C dJ5_floorDiv_4 rfl rfl ?_
  refine z_iload_n (pc := 5) (j := 2) C dJ5_floorDiv_5 rfl rfl ?_
  refine z_ixorI (pc := 6) C dJ5_floorDiv_6 (by omega) (by omega) (fun z1 z1l z1u z1s => ?_)
  refine z_if_ge (pc := 7) (tgt := 21) C dJ5_floorDiv_7 (by decide) (by omega) (fun c7 => ?_) (fun c7 => ?_)
  · refine z_iload_n (pc := 21) (j := 0) C dJ5_floorDiv_21 rfl rfl ?_
    exact z_ireturn (pc := 22) C (by rw [hXp]; exact zpure_i (by rw [i_fd hy.1]; split <;> (try split) <;> omega) rfl) dJ5_floorDiv_22
  · refine z_iload_n (pc := 10) (j := 0) C dJ5_floorDiv_10 rfl rfl ?_
    refine z_iload_n (pc := 11) (j := 2) C dJ5_floorDiv_11 rfl rfl ?_
    refine z_imul (pc := 12) C dJ5_floorDiv_12 ?_
    refine z_iload_n (pc := 13) (j := 1) C dJ5_floorDiv_13 rfl rfl ?_
    refine z_icmp_eq (pc := 14) (tgt := 21) C dJ5_floorDiv_14 (by decide) (by omega) (by omega) (fun c14 => ?_) (fun c14 => ?_)
    · refine z_iload_n (pc := 21) (j := 0) C dJ5_floorDiv_21 rfl rfl ?_
      exact z_ireturn (pc := 22) C (by rw [hXp]; exact zpure_i (by rw [i_fd hy.1]; split <;> (try split) <;> omega) rfl) dJ5_floorDiv_22
    · refine z_iload_n (pc := 17) (j := 0) C dJ5_floorDiv_17 rfl rfl ?_
      refine z_iconst (pc := 18) C dJ5_floorDiv_18 ?_
      refine z_isub (pc := 19) C dJ5_floorDiv_19 ?_
      exact z_ireturn (pc := 20) C (by rw [hXp]; exact zpure_i (by rw [i_fd hy.1]; split <;> (try split) <;> omega) rfl) dJ5_floorDiv_20
set_option maxHeartbeats 4000000 in
theorem ct_abs {l : Launch} (hl : l.stackTraces = false) {Γ : zCx} {h : zH} {x : Int} (hx : -2147483647 ≤ x ∧ x ≤ 2147483647) : zMet l yJ5_abs (ws_ yJ5_abs cJ5_abs 1 (some .int)) ({ frames := 0, cells := 0, slots := 0, locals := 0 }) Γ h [.int (iI x)] (zpure h (some (.int (iI (if 0 ≤ x then x else -x))))) 0 0 := by
  refine zMet.of (cc := cJ5_abs) hl (by decide +kernel) (Nat.le_of_ble_eq_true rfl) ?_
  intro X hXl hXΓ hXp C hnm hnL
  have C : zC X cJ5_abs RJ5 (some .int) 0 0 [] := C
  have hnL : X.2.1.2.2.2.2 = 1 := hnL
  subst hXl hXΓ
  show Z X h 0 0 [(0, .int (iI x))] 0 []
  refine z_iload_n (pc := 0) (j := 0) C dJ5_abs_0 rfl rfl ?_
  refine z_if_ge (pc := 1) (tgt := 9) C dJ5_abs_1 (by decide) (by omega) (fun c1 => ?_) (fun c1 => ?_)
  · refine z_iload_n (pc := 9) (j := 0) C dJ5_abs_9 rfl rfl ?_
    exact z_ireturn (pc := 10) C (by rw [hXp]; exact zpure_i (by split <;> omega) rfl) dJ5_abs_10
  · refine z_iload_n (pc := 4) (j := 0) C dJ5_abs_4 rfl rfl ?_
    refine z_ineg (pc := 5) C dJ5_abs_5 ?_
    refine z_goto (pc := 6) (tgt := 10) C dJ5_abs_6 (by decide) ?_
    exact z_ireturn (pc := 10) C (by rw [hXp]; exact zpure_i (by split <;> omega) rfl) dJ5_abs_10
set_option maxHeartbeats 4000000 in
theorem ct_min {l : Launch} (hl : l.stackTraces = false) {Γ : zCx} {h : zH} {x y : Int} (hx : -2147483648 ≤ x ∧ x ≤ 2147483647) (hy : -2147483648 ≤ y ∧ y ≤ 2147483647)  : zMet l yJ5_min (ws_ yJ5_min cJ5_min 2 (some .int)) ({ frames := 0, cells := 0, slots := 0, locals := 0 }) Γ h [.int (iI x), .int (iI y)] (zpure h (some (.int (iI (min x y))))) 0 0 := by
  refine zMet.of (cc := cJ5_min) hl (by decide +kernel) (Nat.le_of_ble_eq_true rfl) ?_
  intro X hXl hXΓ hXp C hnm hnL
  have C : zC X cJ5_min RJ5 (some .int) 0 0 [] := C
  have hnL : X.2.1.2.2.2.2 = 2 := hnL
  subst hXl hXΓ
  show Z X h 0 0 [(0, .int (iI x)), (1, .int (iI y))] 0 []
  refine z_iload_n (pc := 0) (j := 0) C dJ5_min_0 rfl rfl ?_
  refine z_iload_n (pc := 1) (j := 1) C dJ5_min_1 rfl rfl ?_
  refine z_icmp_gt (pc := 2) (tgt := 9) C dJ5_min_2 (by decide) (by omega) (by omega) (fun c2 => ?_) (fun c2 => ?_)
  · refine z_iload_n (pc := 9) (j := 1) C dJ5_min_9 rfl rfl ?_
    exact z_ireturn (pc := 10) C (by rw [hXp]; exact zpure_i (by omega) rfl) dJ5_min_10
  · refine z_iload_n (pc := 5) (j := 0) C dJ5_min_5 rfl rfl ?_
    refine z_goto (pc := 6) (tgt := 10) C dJ5_min_6 (by decide) ?_
    exact z_ireturn (pc := 10) C (by rw [hXp]; exact zpure_i (by omega) rfl) dJ5_min_10
set_option maxHeartbeats 4000000 in
theorem ct_max {l : Launch} (hl : l.stackTraces = false) {Γ : zCx} {h : zH} {x y : Int} (hx : -2147483648 ≤ x ∧ x ≤ 2147483647) (hy : -2147483648 ≤ y ∧ y ≤ 2147483647)  : zMet l yJ5_max (ws_ yJ5_max cJ5_max 2 (some .int)) ({ frames := 0, cells := 0, slots := 0, locals := 0 }) Γ h [.int (iI x), .int (iI y)] (zpure h (some (.int (iI (max x y))))) 0 0 := by
  refine zMet.of (cc := cJ5_max) hl (by decide +kernel) (Nat.le_of_ble_eq_true rfl) ?_
  intro X hXl hXΓ hXp C hnm hnL
  have C : zC X cJ5_max RJ5 (some .int) 0 0 [] := C
  have hnL : X.2.1.2.2.2.2 = 2 := hnL
  subst hXl hXΓ
  show Z X h 0 0 [(0, .int (iI x)), (1, .int (iI y))] 0 []
  refine z_iload_n (pc := 0) (j := 0) C dJ5_max_0 rfl rfl ?_
  refine z_iload_n (pc := 1) (j := 1) C dJ5_max_1 rfl rfl ?_
  refine z_icmp_lt (pc := 2) (tgt := 9) C dJ5_max_2 (by decide) (by omega) (by omega) (fun c2 => ?_) (fun c2 => ?_)
  · refine z_iload_n (pc := 9) (j := 1) C dJ5_max_9 rfl rfl ?_
    exact z_ireturn (pc := 10) C (by rw [hXp]; exact zpure_i (by omega) rfl) dJ5_max_10
  · refine z_iload_n (pc := 5) (j := 0) C dJ5_max_5 rfl rfl ?_
    refine z_goto (pc := 6) (tgt := 10) C dJ5_max_6 (by decide) ?_
    exact z_ireturn (pc := 10) C (by rw [hXp]; exact zpure_i (by omega) rfl) dJ5_max_10

/-! fields of a new object -/
set_option maxRecDepth 100000
theorem df_X1 : ∀ j, j < 7 → defaultValue (tyX1 j) = vp_V [.null, .int (iI 0), .int (iI 0), .int (iI 0), .int (iI 0), .null, .null] j := by
  intro j hj
  have e : j = 0 ∨ j = 1 ∨ j = 2 ∨ j = 3 ∨ j = 4 ∨ j = 5 ∨ j = 6 := by omega
  rcases e with rfl | rfl | rfl | rfl | rfl | rfl | rfl <;> rfl
theorem df_X2 : ∀ j, j < 3 → defaultValue (tyX2 j) = vp_V [.null, .null, .null] j := by
  intro j hj
  have e : j = 0 ∨ j = 1 ∨ j = 2 := by omega
  rcases e with rfl | rfl | rfl <;> rfl
theorem df_X3 : ∀ j, j < 2 → defaultValue (tyX3 j) = vp_V [.int (iI 0), .int (iI 0)] j := by
  intro j hj
  have e : j = 0 ∨ j = 1 := by omega
  rcases e with rfl | rfl <;> rfl
theorem df_X4 : ∀ j, j < 24 → defaultValue (tyX4 j) = vp_V [.null, .null, .int (iI 0), .null, .int (iI 0), .int (iI 0), .int (iI 0), .int (iI 0), .int (iI 0), .null, .null, .int (iI 0), .int (iI 0), .int (iI 0), .int (iI 0), .int (iI 0), .int (iI 0), .null, .null, .int (iI 0), .null, .null, .int (iI 0), .int (iI 0)] j := by
  intro j hj
  have e : j = 0 ∨ j = 1 ∨ j = 2 ∨ j = 3 ∨ j = 4 ∨ j = 5 ∨ j = 6 ∨ j = 7 ∨ j = 8 ∨ j = 9 ∨ j = 10 ∨ j = 11 ∨ j = 12 ∨ j = 13 ∨ j = 14 ∨ j = 15 ∨ j = 16 ∨ j = 17 ∨ j = 18 ∨ j = 19 ∨ j = 20 ∨ j = 21 ∨ j = 22 ∨ j = 23 := by omega
  rcases e with rfl | rfl | rfl | rfl | rfl | rfl | rfl | rfl | rfl | rfl | rfl | rfl | rfl | rfl | rfl | rfl | rfl | rfl | rfl | rfl | rfl | rfl | rfl | rfl <;> rfl
theorem df_X5 : ∀ j, j < 2 → defaultValue (tyX5 j) = vp_V [.int (iI 0), .null] j := by
  intro j hj
  have e : j = 0 ∨ j = 1 := by omega
  rcases e with rfl | rfl <;> rfl
theorem df_X6 : ∀ j, j < 7 → defaultValue (tyX6 j) = vp_V [.null, .null, .null, .null, .null, .int (iI 0), .int (iI 0)] j := by
  intro j hj
  have e : j = 0 ∨ j = 1 ∨ j = 2 ∨ j = 3 ∨ j = 4 ∨ j = 5 ∨ j = 6 := by omega
  rcases e with rfl | rfl | rfl | rfl | rfl | rfl | rfl <;> rfl
theorem df_X7 : ∀ j, j < 5 → defaultValue (tyX7 j) = vp_V [.int (iI 0), .int (iI 0), .int (iI 0), .int (iI 0), .int (iI 0)] j := by
  intro j hj
  have e : j = 0 ∨ j = 1 ∨ j = 2 ∨ j = 3 ∨ j = 4 := by omega
  rcases e with rfl | rfl | rfl | rfl | rfl <;> rfl
theorem df_X8 : ∀ j, j < 3 → defaultValue (tyX8 j) = vp_V [.int (iI 0), .int (iI 0), .int (iI 0)] j := by
  intro j hj
  have e : j = 0 ∨ j = 1 ∨ j = 2 := by omega
  rcases e with rfl | rfl | rfl <;> rfl
theorem df_X9 : ∀ j, j < 1 → defaultValue (tyX9 j) = vp_V [.int (iI 0)] j := by
  intro j hj
  have e : j = 0 := by omega
  rcases e with rfl <;> rfl
theorem df_X10 : ∀ j, j < 5 → defaultValue (tyX10 j) = vp_V [.int (iI 0), .null, .null, .null, .null] j := by
  intro j hj
  have e : j = 0 ∨ j = 1 ∨ j = 2 ∨ j = 3 ∨ j = 4 := by omega
  rcases e with rfl | rfl | rfl | rfl | rfl <;> rfl
theorem df_J2 : ∀ j, j < 3 → defaultValue (tyJ2 j) = vp_V [.int (iI 0), .null, .int (iI 0)] j := by
  intro j hj
  have e : j = 0 ∨ j = 1 ∨ j = 2 := by omega
  rcases e with rfl | rfl | rfl <;> rfl
theorem df_J3 : ∀ j, j < 3 → defaultValue (tyJ3 j) = vp_V [.null, .int (iI 0), .int (iI 0)] j := by
  intro j hj
  have e : j = 0 ∨ j = 1 ∨ j = 2 := by omega
  rcases e with rfl | rfl | rfl <;> rfl
theorem df_J13 : ∀ j, j < 4 → defaultValue (tyJ13 j) = vp_V [.null, .int (iI 0), .int (iI 0), .int (iI 0)] j := by
  intro j hj
  have e : j = 0 ∨ j = 1 ∨ j = 2 ∨ j = 3 := by omega
  rcases e with rfl | rfl | rfl | rfl <;> rfl
theorem df_J14 : ∀ j, j < 4 → defaultValue (tyJ14 j) = vp_V [.null, .int (iI 0), .int (iI 0), .int (iI 0)] j := by
  intro j hj
  have e : j = 0 ∨ j = 1 ∨ j = 2 ∨ j = 3 := by omega
  rcases e with rfl | rfl | rfl | rfl <;> rfl
theorem df_J25 : ∀ j, j < 8 → defaultValue (tyJ25 j) = vp_V [.null, .null, .null, .null, .int (iI 0), .int (iI 0), .int (iI 0), .float 0] j := by
  intro j hj
  have e : j = 0 ∨ j = 1 ∨ j = 2 ∨ j = 3 ∨ j = 4 ∨ j = 5 ∨ j = 6 ∨ j = 7 := by omega
  rcases e with rfl | rfl | rfl | rfl | rfl | rfl | rfl | rfl <;> rfl
theorem df_J28 : ∀ j, j < 4 → defaultValue (tyJ28 j) = vp_V [.int (iI 0), .null, .null, .null] j := by
  intro j hj
  have e : j = 0 ∨ j = 1 ∨ j = 2 ∨ j = 3 := by omega
  rcases e with rfl | rfl | rfl | rfl <;> rfl
theorem i_tb {x y : Int} (hy : 0 < y) : -y < x.tmod y ∧ x.tmod y < y := by
  have h1 := Int.tmod_lt_of_pos x hy
  have h2 : (-x).tmod y < y := Int.tmod_lt_of_pos (-x) hy
  rw [Int.neg_tmod] at h2
  omega
theorem i_fm {x y : Int} (hy : 0 < y) : x % y = if 0 ≤ x then x.tmod y else if x.tmod y = 0 then 0 else x.tmod y + y := by
  have h1 := Int.emod_nonneg x (by omega : y ≠ 0)
  have h2 := Int.emod_lt_of_pos x hy
  by_cases c : 0 ≤ x
  · rw [if_pos c, Int.tmod_eq_emod_of_nonneg c]
  · rw [if_neg c]
    have h3 := i_tb (x := x) hy
    have h4 := Int.emod_add_mul_ediv x y
    have h5 := Int.tmod_add_mul_tdiv x y
    have h6 : x.tmod y ≤ 0 := by
      have h7 : 0 ≤ (-x).tmod y := Int.tmod_nonneg y (by omega)
      rw [Int.neg_tmod] at h7
      omega
    have h8 : y * (x / y) - y * x.tdiv y = x.tmod y - x % y := by omega
    rw [← Int.mul_sub] at h8
    split
    · rename_i e
      rw [e] at h8
      have h9 : x / y - x.tdiv y = 0 := by
        rcases Int.lt_trichotomy (x / y - x.tdiv y) 0 with g | g | g
        · have : y * (x / y - x.tdiv y) ≤ y * (-1) := Int.mul_le_mul_of_nonneg_left (by omega) (by omega)
          omega
        · exact g
        · have : y * 1 ≤ y * (x / y - x.tdiv y) := Int.mul_le_mul_of_nonneg_left (by omega) (by omega)
          omega
      rw [h9] at h8
      omega
    · rename_i e
      have h9 : x / y - x.tdiv y = -1 := by
        rcases Int.lt_trichotomy (x / y - x.tdiv y) (-1) with g | g | g
        · have : y * (x / y - x.tdiv y) ≤ y * (-2) := Int.mul_le_mul_of_nonneg_left (by omega) (by omega)
          omega
        · exact g
        · have : y * 0 ≤ y * (x / y - x.tdiv y) := Int.mul_le_mul_of_nonneg_left (by omega) (by omega)
          omega
      rw [h9] at h8
      omega
theorem i_fd {x y : Int} (hy : 0 < y) : x / y = if 0 ≤ x then x.tdiv y else if x.tdiv y * y = x then x.tdiv y else x.tdiv y - 1 := by
  have h1 := i_fm (x := x) hy
  have h4 := Int.emod_add_mul_ediv x y
  have h5 := Int.tmod_add_mul_tdiv x y
  have hc : y * x.tdiv y = x.tdiv y * y := Int.mul_comm _ _
  by_cases c : 0 ≤ x
  · rw [if_pos c] at h1 ⊢
    have h6 : y * (x / y) = y * x.tdiv y := by omega
    exact Int.eq_of_mul_eq_mul_left (by omega) h6
  · rw [if_neg c] at h1 ⊢
    by_cases e : x.tmod y = 0
    · rw [if_pos e] at h1
      rw [if_pos (by omega)]
      have h6 : y * (x / y) = y * x.tdiv y := by omega
      exact Int.eq_of_mul_eq_mul_left (by omega) h6
    · rw [if_neg e] at h1
      rw [if_neg (by omega)]
      have h6 : y * (x / y) = y * (x.tdiv y - 1) := by rw [Int.mul_sub]; omega
      exact Int.eq_of_mul_eq_mul_left (by omega) h6


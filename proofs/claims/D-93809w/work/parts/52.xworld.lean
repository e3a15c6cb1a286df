set_option maxRecDepth 100000
set_option maxHeartbeats 1000000
def xlen : Nat → Nat := fun k => match k with
  | 0 => 4
  | 1 => 4
  | 2 => 4
  | 4 => 6
  | 5 => 6
  | 6 => 6
  | 7 => 6
  | 8 => 6
  | 10 => 4
  | 11 => 4
  | 13 => 6
  | 15 => 6
  | 21 => 6
  | 22 => 6
  | 28 => 48
  | 29 => 12
  | 30 => 12
  | 31 => 8
  | _ => 0
def xbl : Nat → Nat := fun k => match k with
  | 18 => 48
  | 32 => 48
  | 38 => 160
  | _ => 0
/-- x's shape: ids 0 x, 1+k its array of field k, 45 the list, 46 the list's row, 47 the row of sheets, 48 that of texts, 50.. sheets, 54.. their cells, 60.. rows, 70.. their sitters; n rows, of kinds K -/
def WX (g : Ge) (σ : Sg) (n : Nat) (K : Nat → Nat) : Prop := Gok g ∧ ((∀ k, k < 42 → k ∈ g.2) ∧ 45 ∈ g.2 ∧ (∀ i, i < 4 → 50 + i ∈ g.2 ∧ 54 + i ∈ g.2) ∧ ∀ i, i < n → 60 + i ∈ g.2 ∧ 70 + i ∈ g.2) ∧
  ((sT σ (g.1 0)).1 = 1 ∧ (∀ f, xlen f ≠ 0 → sR σ (g.1 0) f = some (g.1 (1 + f)) ∧ sT σ (g.1 (1 + f)) = (101, xlen f)) ∧ ∀ f, xbl f ≠ 0 → sR σ (g.1 0) f = some (g.1 (1 + f)) ∧ sT σ (g.1 (1 + f)) = (102, xbl f)) ∧
  (sR σ (g.1 0) 3 = some (g.1 45) ∧ (sT σ (g.1 45)).1 = 17 ∧ sR σ (g.1 45) 1 = some (g.1 46) ∧ (∃ cap, n ≤ cap ∧ cap ≤ 10 ∧ sT σ (g.1 46) = (104, cap)) ∧ ∀ i, i < n → sR σ (g.1 46) i = some (g.1 (60 + i))) ∧
  (sR σ (g.1 0) 40 = some (g.1 47) ∧ sT σ (g.1 47) = (107, 4) ∧ ∀ i, i < 4 → sR σ (g.1 47) i = some (g.1 (50 + i)) ∧ (sT σ (g.1 (50 + i))).1 = 2 ∧ sR σ (g.1 (50 + i)) 2 = some (g.1 (54 + i)) ∧ sT σ (g.1 (54 + i)) = (101, 60)) ∧
  (∀ i, i < n → K i < 6 ∧ (sT σ (g.1 (60 + i))).1 = 9 + K i ∧ sR σ (g.1 (60 + i)) 3 = some (g.1 (70 + i)) ∧ (∀ f, 4 ≤ f → f < 7 → sR σ (g.1 (60 + i)) f = some (g.1 0)) ∧ sT σ (g.1 (70 + i)) = (102, 8)) ∧
  sR σ (g.1 0) 36 = some (g.1 48) ∧ sT σ (g.1 48) = (106, 6)
def xm0 (j : Nat) : Option (Nat × Nat) := if j = 3 then some (45, 2) else if j = 10 then some (0, 9) else if j = 14 then some (0, 12) else if j = 18 then some (0, 39) else if j = 21 then some (0, 37) else if j = 22 then some (0, 14) else if j = 24 then some (0, 27) else if j = 27 then some (0, 34) else if j = 28 then some (0, 35) else none
def xm (id j : Nat) : Option (Nat × Nat) := if id = 100 then xm0 j else if id = 101 then (if j < 4 then some (1, j) else none) else if id = 102 then (if j < 4 then some (2, j) else none) else if id = 103 then (if j < 4 then some (3, j) else none) else if id = 106 then (if j < 6 then some (60 + j, 1) else none) else if id = 107 then (if j < 6 then some (60 + j, 2) else none) else if id = 108 then (if j < 6 then some (5, j) else none) else if id = 109 then (if j < 6 then some (6, j) else none) else if id = 110 then (if j < 48 then some (70 + j / 8, j % 8) else none) else if id = 112 then (if j < 6 then some (7, j) else none) else if id = 113 then (if j < 6 then some (8, j) else none) else if id = 114 then (if j < 6 then some (9, j) else none) else if id = 116 then (if j < 4 then some (11, j) else none) else if id = 117 then (if j < 4 then some (12, j) else none) else if id = 130 then (if j < 4 then some (31, j) else none) else if id = 131 then (if j < 4 then some (31, 4 + j) else none) else if id = 132 then (if j < 4 then some (31, 8 + j) else none) else if id = 133 then (if j < 6 then some (30, j) else none) else if id = 134 then (if j < 6 then some (30, 6 + j) else none) else if id = 135 then (if j < 48 then some (33, j) else none) else if id = 136 then (if j < 4 then some (32, j) else none) else if id = 137 then (if j < 4 then some (32, 4 + j) else none) else if id = 138 then (if j < 4 then some (50 + j, 0) else none) else if id = 139 then (if j < 4 then some (50 + j, 1) else none) else if id = 140 then (if j < 240 then some (54 + j / 60, j % 60) else none) else none
def xi (a b : Nat) : Option (Nat × Nat) := if a = 45 ∧ b = 2 then some (100, 3) else if a = 0 ∧ b = 9 then some (100, 10) else if a = 0 ∧ b = 12 then some (100, 14) else if a = 0 ∧ b = 39 then some (100, 18) else if a = 0 ∧ b = 37 then some (100, 21) else if a = 0 ∧ b = 14 then some (100, 22) else if a = 0 ∧ b = 27 then some (100, 24) else if a = 0 ∧ b = 34 then some (100, 27) else if a = 0 ∧ b = 35 then some (100, 28) else if a = 1 ∧ b < 4 then some (101, b) else if a = 2 ∧ b < 4 then some (102, b) else if a = 3 ∧ b < 4 then some (103, b) else if 60 ≤ a ∧ a < 66 ∧ b = 1 then some (106, a - 60) else if 60 ≤ a ∧ a < 66 ∧ b = 2 then some (107, a - 60) else if a = 5 ∧ b < 6 then some (108, b) else if a = 6 ∧ b < 6 then some (109, b) else if 70 ≤ a ∧ a < 76 ∧ b < 8 then some (110, 8 * (a - 70) + b) else if a = 7 ∧ b < 6 then some (112, b) else if a = 8 ∧ b < 6 then some (113, b) else if a = 9 ∧ b < 6 then some (114, b) else if a = 11 ∧ b < 4 then some (116, b) else if a = 12 ∧ b < 4 then some (117, b) else if a = 31 ∧ b < 4 then some (130, b) else if a = 31 ∧ 4 ≤ b ∧ b < 8 then some (131, b - 4) else if a = 31 ∧ 8 ≤ b ∧ b < 12 then some (132, b - 8) else if a = 30 ∧ b < 6 then some (133, b) else if a = 30 ∧ 6 ≤ b ∧ b < 12 then some (134, b - 6) else if a = 33 ∧ b < 48 then some (135, b) else if a = 32 ∧ b < 4 then some (136, b) else if a = 32 ∧ 4 ≤ b ∧ b < 8 then some (137, b - 4) else if 50 ≤ a ∧ a < 54 ∧ b = 0 then some (138, a - 50) else if 50 ≤ a ∧ a < 54 ∧ b = 1 then some (139, a - 50) else if 54 ≤ a ∧ a < 58 ∧ b < 60 then some (140, 60 * (a - 54) + b) else none
theorem xi_0_3 : xi 45 2 = some (100, 3) := rfl
theorem xi_0_10 : xi 0 9 = some (100, 10) := rfl
theorem xi_0_14 : xi 0 12 = some (100, 14) := rfl
theorem xi_0_18 : xi 0 39 = some (100, 18) := rfl
theorem xi_0_21 : xi 0 37 = some (100, 21) := rfl
theorem xi_0_22 : xi 0 14 = some (100, 22) := rfl
theorem xi_0_24 : xi 0 27 = some (100, 24) := rfl
theorem xi_0_27 : xi 0 34 = some (100, 27) := rfl
theorem xi_0_28 : xi 0 35 = some (100, 28) := rfl
theorem xi_101 {j : Nat} (h : j < 4) : xi 1 (j) = some (101, j) := by
  unfold xi
  repeat (first | rw [if_neg (by omega)] | rw [if_pos (by omega)])
theorem xi_102 {j : Nat} (h : j < 4) : xi 2 (j) = some (102, j) := by
  unfold xi
  repeat (first | rw [if_neg (by omega)] | (rw [if_pos (by omega)]; done) | rw [if_pos (by omega)])
  all_goals (simp only [Option.some.injEq, Prod.mk.injEq, true_and]; omega)
theorem xi_103 {j : Nat} (h : j < 4) : xi 3 (j) = some (103, j) := by
  unfold xi
  repeat (first | rw [if_neg (by omega)] | (rw [if_pos (by omega)]; done) | rw [if_pos (by omega)])
  all_goals (simp only [Option.some.injEq, Prod.mk.injEq, true_and]; omega)
theorem xi_106 {j : Nat} (h : j < 6) : xi (60 + j) (1) = some (106, j) := by
  unfold xi
  repeat (first | rw [if_neg (by omega)] | (rw [if_pos (by omega)]; done) | rw [if_pos (by omega)])
  all_goals (simp only [Option.some.injEq, Prod.mk.injEq, true_and]; omega)
theorem xi_107 {j : Nat} (h : j < 6) : xi (60 + j) (2) = some (107, j) := by
  unfold xi
  repeat (first | rw [if_neg (by omega)] | (rw [if_pos (by omega)]; done) | rw [if_pos (by omega)])
  all_goals (simp only [Option.some.injEq, Prod.mk.injEq, true_and]; omega)
theorem xi_108 {j : Nat} (h : j < 6) : xi 5 (j) = some (108, j) := by
  unfold xi
  repeat (first | rw [if_neg (by omega)] | (rw [if_pos (by omega)]; done) | rw [if_pos (by omega)])
  all_goals (simp only [Option.some.injEq, Prod.mk.injEq, true_and]; omega)
theorem xi_109 {j : Nat} (h : j < 6) : xi 6 (j) = some (109, j) := by
  unfold xi
  repeat (first | rw [if_neg (by omega)] | (rw [if_pos (by omega)]; done) | rw [if_pos (by omega)])
  all_goals (simp only [Option.some.injEq, Prod.mk.injEq, true_and]; omega)
theorem xi_110 {j : Nat} (h : j < 48) : xi (70 + j / 8) (j % 8) = some (110, j) := by
  unfold xi
  repeat (first | rw [if_neg (by omega)] | (rw [if_pos (by omega)]; done) | rw [if_pos (by omega)])
  all_goals (simp only [Option.some.injEq, Prod.mk.injEq, true_and]; omega)
theorem xi_112 {j : Nat} (h : j < 6) : xi 7 (j) = some (112, j) := by
  unfold xi
  repeat (first | rw [if_neg (by omega)] | (rw [if_pos (by omega)]; done) | rw [if_pos (by omega)])
  all_goals (simp only [Option.some.injEq, Prod.mk.injEq, true_and]; omega)
theorem xi_113 {j : Nat} (h : j < 6) : xi 8 (j) = some (113, j) := by
  unfold xi
  repeat (first | rw [if_neg (by omega)] | (rw [if_pos (by omega)]; done) | rw [if_pos (by omega)])
  all_goals (simp only [Option.some.injEq, Prod.mk.injEq, true_and]; omega)
theorem xi_114 {j : Nat} (h : j < 6) : xi 9 (j) = some (114, j) := by
  unfold xi
  repeat (first | rw [if_neg (by omega)] | (rw [if_pos (by omega)]; done) | rw [if_pos (by omega)])
  all_goals (simp only [Option.some.injEq, Prod.mk.injEq, true_and]; omega)
theorem xi_116 {j : Nat} (h : j < 4) : xi 11 (j) = some (116, j) := by
  unfold xi
  repeat (first | rw [if_neg (by omega)] | (rw [if_pos (by omega)]; done) | rw [if_pos (by omega)])
  all_goals (simp only [Option.some.injEq, Prod.mk.injEq, true_and]; omega)
theorem xi_117 {j : Nat} (h : j < 4) : xi 12 (j) = some (117, j) := by
  unfold xi
  repeat (first | rw [if_neg (by omega)] | (rw [if_pos (by omega)]; done) | rw [if_pos (by omega)])
  all_goals (simp only [Option.some.injEq, Prod.mk.injEq, true_and]; omega)
theorem xi_130 {j : Nat} (h : j < 4) : xi 31 (j) = some (130, j) := by
  unfold xi
  repeat (first | rw [if_neg (by omega)] | (rw [if_pos (by omega)]; done) | rw [if_pos (by omega)])
  all_goals (simp only [Option.some.injEq, Prod.mk.injEq, true_and]; omega)
theorem xi_131 {j : Nat} (h : j < 4) : xi 31 (4 + j) = some (131, j) := by
  unfold xi
  repeat (first | rw [if_neg (by omega)] | (rw [if_pos (by omega)]; done) | rw [if_pos (by omega)])
  all_goals (simp only [Option.some.injEq, Prod.mk.injEq, true_and]; omega)
theorem xi_132 {j : Nat} (h : j < 4) : xi 31 (8 + j) = some (132, j) := by
  unfold xi
  repeat (first | rw [if_neg (by omega)] | (rw [if_pos (by omega)]; done) | rw [if_pos (by omega)])
  all_goals (simp only [Option.some.injEq, Prod.mk.injEq, true_and]; omega)
theorem xi_133 {j : Nat} (h : j < 6) : xi 30 (j) = some (133, j) := by
  unfold xi
  repeat (first | rw [if_neg (by omega)] | (rw [if_pos (by omega)]; done) | rw [if_pos (by omega)])
  all_goals (simp only [Option.some.injEq, Prod.mk.injEq, true_and]; omega)
theorem xi_134 {j : Nat} (h : j < 6) : xi 30 (6 + j) = some (134, j) := by
  unfold xi
  repeat (first | rw [if_neg (by omega)] | (rw [if_pos (by omega)]; done) | rw [if_pos (by omega)])
  all_goals (simp only [Option.some.injEq, Prod.mk.injEq, true_and]; omega)
theorem xi_135 {j : Nat} (h : j < 48) : xi 33 (j) = some (135, j) := by
  unfold xi
  repeat (first | rw [if_neg (by omega)] | (rw [if_pos (by omega)]; done) | rw [if_pos (by omega)])
  all_goals (simp only [Option.some.injEq, Prod.mk.injEq, true_and]; omega)
theorem xi_136 {j : Nat} (h : j < 4) : xi 32 (j) = some (136, j) := by
  unfold xi
  repeat (first | rw [if_neg (by omega)] | (rw [if_pos (by omega)]; done) | rw [if_pos (by omega)])
  all_goals (simp only [Option.some.injEq, Prod.mk.injEq, true_and]; omega)
theorem xi_137 {j : Nat} (h : j < 4) : xi 32 (4 + j) = some (137, j) := by
  unfold xi
  repeat (first | rw [if_neg (by omega)] | (rw [if_pos (by omega)]; done) | rw [if_pos (by omega)])
  all_goals (simp only [Option.some.injEq, Prod.mk.injEq, true_and]; omega)
theorem xi_138 {j : Nat} (h : j < 4) : xi (50 + j) (0) = some (138, j) := by
  unfold xi
  repeat (first | rw [if_neg (by omega)] | (rw [if_pos (by omega)]; done) | rw [if_pos (by omega)])
  all_goals (simp only [Option.some.injEq, Prod.mk.injEq, true_and]; omega)
theorem xi_139 {j : Nat} (h : j < 4) : xi (50 + j) (1) = some (139, j) := by
  unfold xi
  repeat (first | rw [if_neg (by omega)] | (rw [if_pos (by omega)]; done) | rw [if_pos (by omega)])
  all_goals (simp only [Option.some.injEq, Prod.mk.injEq, true_and]; omega)
theorem xi_140 {j : Nat} (h : j < 240) : xi (54 + j / 60) (j % 60) = some (140, j) := by
  unfold xi
  repeat (first | rw [if_neg (by omega)] | (rw [if_pos (by omega)]; done) | rw [if_pos (by omega)])
  all_goals (simp only [Option.some.injEq, Prod.mk.injEq, true_and]; omega)
theorem xm_xi {id j : Nat} {q : Nat × Nat} (h : xm id j = some q) : xi q.1 q.2 = some (id, j) ∧ (scI id || (id == 100 && scJ j)) = false := by
  unfold xm at h
  by_cases e : id = 100
  · rw [if_pos e] at h
    subst e
    unfold xm0 at h
    by_cases e3 : j = 3
    · rw [if_pos e3] at h; subst e3; cases h; exact ⟨rfl, rfl⟩
    rw [if_neg e3] at h
    by_cases e10 : j = 10
    · rw [if_pos e10] at h; subst e10; cases h; exact ⟨rfl, rfl⟩
    rw [if_neg e10] at h
    by_cases e14 : j = 14
    · rw [if_pos e14] at h; subst e14; cases h; exact ⟨rfl, rfl⟩
    rw [if_neg e14] at h
    by_cases e18 : j = 18
    · rw [if_pos e18] at h; subst e18; cases h; exact ⟨rfl, rfl⟩
    rw [if_neg e18] at h
    by_cases e21 : j = 21
    · rw [if_pos e21] at h; subst e21; cases h; exact ⟨rfl, rfl⟩
    rw [if_neg e21] at h
    by_cases e22 : j = 22
    · rw [if_pos e22] at h; subst e22; cases h; exact ⟨rfl, rfl⟩
    rw [if_neg e22] at h
    by_cases e24 : j = 24
    · rw [if_pos e24] at h; subst e24; cases h; exact ⟨rfl, rfl⟩
    rw [if_neg e24] at h
    by_cases e27 : j = 27
    · rw [if_pos e27] at h; subst e27; cases h; exact ⟨rfl, rfl⟩
    rw [if_neg e27] at h
    by_cases e28 : j = 28
    · rw [if_pos e28] at h; subst e28; cases h; exact ⟨rfl, rfl⟩
    rw [if_neg e28] at h
    exact absurd h (by simp)
  rw [if_neg e] at h
  by_cases e101 : id = 101
  · rw [if_pos e101] at h; subst e101
    by_cases hj : j < 4
    · rw [if_pos hj] at h; cases h; exact ⟨xi_101 hj, rfl⟩
    · rw [if_neg hj] at h; exact absurd h (by simp)
  rw [if_neg e101] at h
  by_cases e102 : id = 102
  · rw [if_pos e102] at h; subst e102
    by_cases hj : j < 4
    · rw [if_pos hj] at h; cases h; exact ⟨xi_102 hj, rfl⟩
    · rw [if_neg hj] at h; exact absurd h (by simp)
  rw [if_neg e102] at h
  by_cases e103 : id = 103
  · rw [if_pos e103] at h; subst e103
    by_cases hj : j < 4
    · rw [if_pos hj] at h; cases h; exact ⟨xi_103 hj, rfl⟩
    · rw [if_neg hj] at h; exact absurd h (by simp)
  rw [if_neg e103] at h
  by_cases e106 : id = 106
  · rw [if_pos e106] at h; subst e106
    by_cases hj : j < 6
    · rw [if_pos hj] at h; cases h; exact ⟨xi_106 hj, rfl⟩
    · rw [if_neg hj] at h; exact absurd h (by simp)
  rw [if_neg e106] at h
  by_cases e107 : id = 107
  · rw [if_pos e107] at h; subst e107
    by_cases hj : j < 6
    · rw [if_pos hj] at h; cases h; exact ⟨xi_107 hj, rfl⟩
    · rw [if_neg hj] at h; exact absurd h (by simp)
  rw [if_neg e107] at h
  by_cases e108 : id = 108
  · rw [if_pos e108] at h; subst e108
    by_cases hj : j < 6
    · rw [if_pos hj] at h; cases h; exact ⟨xi_108 hj, rfl⟩
    · rw [if_neg hj] at h; exact absurd h (by simp)
  rw [if_neg e108] at h
  by_cases e109 : id = 109
  · rw [if_pos e109] at h; subst e109
    by_cases hj : j < 6
    · rw [if_pos hj] at h; cases h; exact ⟨xi_109 hj, rfl⟩
    · rw [if_neg hj] at h; exact absurd h (by simp)
  rw [if_neg e109] at h
  by_cases e110 : id = 110
  · rw [if_pos e110] at h; subst e110
    by_cases hj : j < 48
    · rw [if_pos hj] at h; cases h; exact ⟨xi_110 hj, rfl⟩
    · rw [if_neg hj] at h; exact absurd h (by simp)
  rw [if_neg e110] at h
  by_cases e112 : id = 112
  · rw [if_pos e112] at h; subst e112
    by_cases hj : j < 6
    · rw [if_pos hj] at h; cases h; exact ⟨xi_112 hj, rfl⟩
    · rw [if_neg hj] at h; exact absurd h (by simp)
  rw [if_neg e112] at h
  by_cases e113 : id = 113
  · rw [if_pos e113] at h; subst e113
    by_cases hj : j < 6
    · rw [if_pos hj] at h; cases h; exact ⟨xi_113 hj, rfl⟩
    · rw [if_neg hj] at h; exact absurd h (by simp)
  rw [if_neg e113] at h
  by_cases e114 : id = 114
  · rw [if_pos e114] at h; subst e114
    by_cases hj : j < 6
    · rw [if_pos hj] at h; cases h; exact ⟨xi_114 hj, rfl⟩
    · rw [if_neg hj] at h; exact absurd h (by simp)
  rw [if_neg e114] at h
  by_cases e116 : id = 116
  · rw [if_pos e116] at h; subst e116
    by_cases hj : j < 4
    · rw [if_pos hj] at h; cases h; exact ⟨xi_116 hj, rfl⟩
    · rw [if_neg hj] at h; exact absurd h (by simp)
  rw [if_neg e116] at h
  by_cases e117 : id = 117
  · rw [if_pos e117] at h; subst e117
    by_cases hj : j < 4
    · rw [if_pos hj] at h; cases h; exact ⟨xi_117 hj, rfl⟩
    · rw [if_neg hj] at h; exact absurd h (by simp)
  rw [if_neg e117] at h
  by_cases e130 : id = 130
  · rw [if_pos e130] at h; subst e130
    by_cases hj : j < 4
    · rw [if_pos hj] at h; cases h; exact ⟨xi_130 hj, rfl⟩
    · rw [if_neg hj] at h; exact absurd h (by simp)
  rw [if_neg e130] at h
  by_cases e131 : id = 131
  · rw [if_pos e131] at h; subst e131
    by_cases hj : j < 4
    · rw [if_pos hj] at h; cases h; exact ⟨xi_131 hj, rfl⟩
    · rw [if_neg hj] at h; exact absurd h (by simp)
  rw [if_neg e131] at h
  by_cases e132 : id = 132
  · rw [if_pos e132] at h; subst e132
    by_cases hj : j < 4
    · rw [if_pos hj] at h; cases h; exact ⟨xi_132 hj, rfl⟩
    · rw [if_neg hj] at h; exact absurd h (by simp)
  rw [if_neg e132] at h
  by_cases e133 : id = 133
  · rw [if_pos e133] at h; subst e133
    by_cases hj : j < 6
    · rw [if_pos hj] at h; cases h; exact ⟨xi_133 hj, rfl⟩
    · rw [if_neg hj] at h; exact absurd h (by simp)
  rw [if_neg e133] at h
  by_cases e134 : id = 134
  · rw [if_pos e134] at h; subst e134
    by_cases hj : j < 6
    · rw [if_pos hj] at h; cases h; exact ⟨xi_134 hj, rfl⟩
    · rw [if_neg hj] at h; exact absurd h (by simp)
  rw [if_neg e134] at h
  by_cases e135 : id = 135
  · rw [if_pos e135] at h; subst e135
    by_cases hj : j < 48
    · rw [if_pos hj] at h; cases h; exact ⟨xi_135 hj, rfl⟩
    · rw [if_neg hj] at h; exact absurd h (by simp)
  rw [if_neg e135] at h
  by_cases e136 : id = 136
  · rw [if_pos e136] at h; subst e136
    by_cases hj : j < 4
    · rw [if_pos hj] at h; cases h; exact ⟨xi_136 hj, rfl⟩
    · rw [if_neg hj] at h; exact absurd h (by simp)
  rw [if_neg e136] at h
  by_cases e137 : id = 137
  · rw [if_pos e137] at h; subst e137
    by_cases hj : j < 4
    · rw [if_pos hj] at h; cases h; exact ⟨xi_137 hj, rfl⟩
    · rw [if_neg hj] at h; exact absurd h (by simp)
  rw [if_neg e137] at h
  by_cases e138 : id = 138
  · rw [if_pos e138] at h; subst e138
    by_cases hj : j < 4
    · rw [if_pos hj] at h; cases h; exact ⟨xi_138 hj, rfl⟩
    · rw [if_neg hj] at h; exact absurd h (by simp)
  rw [if_neg e138] at h
  by_cases e139 : id = 139
  · rw [if_pos e139] at h; subst e139
    by_cases hj : j < 4
    · rw [if_pos hj] at h; cases h; exact ⟨xi_139 hj, rfl⟩
    · rw [if_neg hj] at h; exact absurd h (by simp)
  rw [if_neg e139] at h
  by_cases e140 : id = 140
  · rw [if_pos e140] at h; subst e140
    by_cases hj : j < 240
    · rw [if_pos hj] at h; cases h; exact ⟨xi_140 hj, rfl⟩
    · rw [if_neg hj] at h; exact absurd h (by simp)
  rw [if_neg e140] at h
  exact absurd h (by simp)
theorem xm_0_3 : xm 100 3 = some (45, 2) := rfl
theorem xm_0_10 : xm 100 10 = some (0, 9) := rfl
theorem xm_0_14 : xm 100 14 = some (0, 12) := rfl
theorem xm_0_18 : xm 100 18 = some (0, 39) := rfl
theorem xm_0_21 : xm 100 21 = some (0, 37) := rfl
theorem xm_0_22 : xm 100 22 = some (0, 14) := rfl
theorem xm_0_24 : xm 100 24 = some (0, 27) := rfl
theorem xm_0_27 : xm 100 27 = some (0, 34) := rfl
theorem xm_0_28 : xm 100 28 = some (0, 35) := rfl
theorem xm_101 {j : Nat} (h : j < 4) : xm 101 j = some (1, j) := by rw [show xm 101 j = if j < 4 then some (1, j) else none from rfl, if_pos h]
theorem xm_102 {j : Nat} (h : j < 4) : xm 102 j = some (2, j) := by rw [show xm 102 j = if j < 4 then some (2, j) else none from rfl, if_pos h]
theorem xm_103 {j : Nat} (h : j < 4) : xm 103 j = some (3, j) := by rw [show xm 103 j = if j < 4 then some (3, j) else none from rfl, if_pos h]
theorem xm_106 {j : Nat} (h : j < 6) : xm 106 j = some (60 + j, 1) := by rw [show xm 106 j = if j < 6 then some (60 + j, 1) else none from rfl, if_pos h]
theorem xm_107 {j : Nat} (h : j < 6) : xm 107 j = some (60 + j, 2) := by rw [show xm 107 j = if j < 6 then some (60 + j, 2) else none from rfl, if_pos h]
theorem xm_108 {j : Nat} (h : j < 6) : xm 108 j = some (5, j) := by rw [show xm 108 j = if j < 6 then some (5, j) else none from rfl, if_pos h]
theorem xm_109 {j : Nat} (h : j < 6) : xm 109 j = some (6, j) := by rw [show xm 109 j = if j < 6 then some (6, j) else none from rfl, if_pos h]
theorem xm_110 {j : Nat} (h : j < 48) : xm 110 j = some (70 + j / 8, j % 8) := by rw [show xm 110 j = if j < 48 then some (70 + j / 8, j % 8) else none from rfl, if_pos h]
theorem xm_112 {j : Nat} (h : j < 6) : xm 112 j = some (7, j) := by rw [show xm 112 j = if j < 6 then some (7, j) else none from rfl, if_pos h]
theorem xm_113 {j : Nat} (h : j < 6) : xm 113 j = some (8, j) := by rw [show xm 113 j = if j < 6 then some (8, j) else none from rfl, if_pos h]
theorem xm_114 {j : Nat} (h : j < 6) : xm 114 j = some (9, j) := by rw [show xm 114 j = if j < 6 then some (9, j) else none from rfl, if_pos h]
theorem xm_116 {j : Nat} (h : j < 4) : xm 116 j = some (11, j) := by rw [show xm 116 j = if j < 4 then some (11, j) else none from rfl, if_pos h]
theorem xm_117 {j : Nat} (h : j < 4) : xm 117 j = some (12, j) := by rw [show xm 117 j = if j < 4 then some (12, j) else none from rfl, if_pos h]
theorem xm_130 {j : Nat} (h : j < 4) : xm 130 j = some (31, j) := by rw [show xm 130 j = if j < 4 then some (31, j) else none from rfl, if_pos h]
theorem xm_131 {j : Nat} (h : j < 4) : xm 131 j = some (31, 4 + j) := by rw [show xm 131 j = if j < 4 then some (31, 4 + j) else none from rfl, if_pos h]
theorem xm_132 {j : Nat} (h : j < 4) : xm 132 j = some (31, 8 + j) := by rw [show xm 132 j = if j < 4 then some (31, 8 + j) else none from rfl, if_pos h]
theorem xm_133 {j : Nat} (h : j < 6) : xm 133 j = some (30, j) := by rw [show xm 133 j = if j < 6 then some (30, j) else none from rfl, if_pos h]
theorem xm_134 {j : Nat} (h : j < 6) : xm 134 j = some (30, 6 + j) := by rw [show xm 134 j = if j < 6 then some (30, 6 + j) else none from rfl, if_pos h]
theorem xm_135 {j : Nat} (h : j < 48) : xm 135 j = some (33, j) := by rw [show xm 135 j = if j < 48 then some (33, j) else none from rfl, if_pos h]
theorem xm_136 {j : Nat} (h : j < 4) : xm 136 j = some (32, j) := by rw [show xm 136 j = if j < 4 then some (32, j) else none from rfl, if_pos h]
theorem xm_137 {j : Nat} (h : j < 4) : xm 137 j = some (32, 4 + j) := by rw [show xm 137 j = if j < 4 then some (32, 4 + j) else none from rfl, if_pos h]
theorem xm_138 {j : Nat} (h : j < 4) : xm 138 j = some (50 + j, 0) := by rw [show xm 138 j = if j < 4 then some (50 + j, 0) else none from rfl, if_pos h]
theorem xm_139 {j : Nat} (h : j < 4) : xm 139 j = some (50 + j, 1) := by rw [show xm 139 j = if j < 4 then some (50 + j, 1) else none from rfl, if_pos h]
theorem xm_140 {j : Nat} (h : j < 240) : xm 140 j = some (54 + j / 60, j % 60) := by rw [show xm 140 j = if j < 240 then some (54 + j / 60, j % 60) else none from rfl, if_pos h]
theorem xm_inj {id j id' j' : Nat} {q : Nat × Nat} (h : xm id j = some q) (h' : xm id' j' = some q) : id = id' ∧ j = j' := by
  have e := (xm_xi h).1.symm.trans (xm_xi h').1
  simp only [Option.some.injEq, Prod.mk.injEq] at e
  exact e
def hatP (w u : Wv) : Prop := (w 0 25 = -1 ∧ u 100 23 = -1) ∨ ∃ r c, r < 6 ∧ c < 8 ∧ w 0 25 = nI r ∧ w 0 26 = nI c ∧ u 100 23 = nI (8 * r + c)
def imgP (w u : Wv) : Prop := (w 0 33 = -1 ∧ u 100 25 = 0) ∨ (¬ w 0 33 = -1 ∧ u 100 25 = 1 ∧ u 100 26 = w 0 33)
def tapP (w u : Wv) : Prop := ∀ j, j < 160 → u 118 j = w 39 j &&& 255
/-- x's cells and the hall u in m's layout hold the same -/
def XV (w u : Wv) : Prop := (∀ id j q, xm id j = some q → u id j = w q.1 q.2) ∧ hatP w u ∧ imgP w u ∧ tapP w u
/-- x's world: its shape, a hall u that it holds, n rows of kinds K -/
def XH (g : Ge) (σ : Sg) (w u : Wv) (n : Nat) (K : Nat → Nat) : Prop := WX g σ n K ∧ XV w u ∧ (n ≤ 6 ∧ w 45 2 = nI n) ∧ ∀ i, i < n → u 105 i = nI (K i) ∧ w (60 + i) 0 = nI i
theorem XV.at {w u : Wv} (h : XV w u) {id j a b : Nat} (hm : xm id j = some (a, b)) : w a b = u id j := (h.1 id j _ hm).symm
theorem XV.up {w u : Wv} (h : XV w u) {id j a b : Nat} (hm : xm id j = some (a, b)) {x : Int32} : XV (up2 w a b x) (up2 u id j x) := by
  obtain ⟨h1, h2, h3, h4⟩ := h
  have hx := (xm_xi hm).1
  have n1 : ∀ c d, xi c d = none → ¬ (c = a ∧ d = b) := fun c d hc z => by rw [z.1, z.2] at hc; rw [hc] at hx; cases hx
  have n2 : ∀ c d, xm c d = none → ¬ (c = id ∧ d = j) := fun c d hc z => by rw [z.1, z.2] at hc; rw [hc] at hm; cases hm
  refine ⟨fun id' j' q hq => ?_, ?_, ?_, fun k hk => ?_⟩
  · by_cases e : id' = id ∧ j' = j
    · obtain ⟨rfl, rfl⟩ := e
      cases hq.symm.trans hm
      rw [up2_eq, up2_eq]
    · rw [up2_ne _ _ e, up2_ne _ _ (fun z => e (xm_inj hq (by rw [hm, ← z.1, ← z.2])))]
      exact h1 id' j' q hq
  · unfold hatP at h2 ⊢
    rw [up2_ne _ _ (n1 0 25 rfl), up2_ne _ _ (n1 0 26 rfl), up2_ne _ _ (n2 100 23 rfl)]
    exact h2
  · unfold imgP at h3 ⊢
    rw [up2_ne _ _ (n1 0 33 rfl), up2_ne _ _ (n2 100 25 rfl), up2_ne _ _ (n2 100 26 rfl)]
    exact h3
  · rw [up2_ne _ _ (n1 39 k (by simp [xi])), up2_ne _ _ (n2 118 k rfl)]
    exact h4 k hk
/-- x's own scratch -/
def xsc (a b : Nat) : Bool := a == 14 || a == 16 || a == 19 || a == 22 || a == 23 || a == 29 || (a == 0 && (b == 17 || b == 19 || b == 20 || b == 23 || b == 24))
theorem XV.sc {w u : Wv} (h : XV w u) {a b : Nat} (hs : xsc a b = true) {x : Int32} : XV (up2 w a b x) u := by
  obtain ⟨h1, h2, h3, h4⟩ := h
  have hx : xi a b = none := by
    simp only [xsc, Bool.or_eq_true, Bool.and_eq_true, beq_iff_eq] at hs
    rcases hs with ((((((h9 | h9) | h9) | h9) | h9) | h9) | ⟨h9, ((((h8 | h8) | h8) | h8) | h8)⟩) <;> subst h9 <;> first | (subst h8; rfl) | (simp [xi]; done)
  have n1 : ∀ c d, xsc c d = false → ¬ (c = a ∧ d = b) := fun c d hc z => by rw [z.1, z.2, hs] at hc; cases hc
  refine ⟨fun id' j' q hq => ?_, ?_, ?_, fun k hk => ?_⟩
  · rw [up2_ne _ _ (fun z => by have := (xm_xi hq).1; rw [z.1, z.2, hx] at this; cases this)]
    exact h1 id' j' q hq
  · unfold hatP at h2 ⊢
    rw [up2_ne _ _ (n1 0 25 rfl), up2_ne _ _ (n1 0 26 rfl)]
    exact h2
  · unfold imgP at h3 ⊢
    rw [up2_ne _ _ (n1 0 33 rfl)]
    exact h3
  · rw [up2_ne _ _ (n1 39 k (by simp [xsc]))]
    exact h4 k hk
theorem XV.cv {w u u' : Wv} (h : XV w u) (hc : cv u = cv u') : XV w u' := by
  obtain ⟨h1, h2, h3, h4⟩ := h
  refine ⟨fun id j q hq => (cv_at hc (xm_xi hq).2).symm.trans (h1 id j q hq), ?_, ?_, fun k hk => (cv_at hc rfl).symm.trans (h4 k hk)⟩
  · unfold hatP at h2 ⊢
    rw [← cv_at hc (id := 100) (j := 23) rfl]; exact h2
  · unfold imgP at h3 ⊢
    rw [← cv_at hc (id := 100) (j := 25) rfl, ← cv_at hc (id := 100) (j := 26) rfl]; exact h3
theorem XH.up {g : Ge} {σ : Sg} {w u : Wv} {n : Nat} {K : Nat → Nat} (h : XH g σ w u n K) {id j a b : Nat} (hm : xm id j = some (a, b)) (hid : (Nat.beq id 100 && Nat.beq j 3) = false := by rfl) {x : Int32} : XH g σ (up2 w a b x) (up2 u id j x) n K := by
  obtain ⟨h1, h2, h3, h4⟩ := h
  have hx := (xm_xi hm).1
  refine ⟨h1, h2.up hm, ⟨h3.1, ?_⟩, fun i hi => ⟨?_, ?_⟩⟩
  · rw [up2_ne _ _ (fun z => by rw [← z.1, ← z.2] at hx; cases hx; exact absurd hid (by decide))]; exact h3.2
  · rw [up2_ne _ _ (fun z => by rw [← z.1, show xm 105 j = none from rfl] at hm; cases hm)]; exact (h4 i hi).1
  · rw [up2_ne _ _ (fun z => by rw [← z.1, ← z.2, show xi (60 + i) 0 = none by unfold xi; repeat (first | rw [if_neg (by omega)] | rfl)] at hx; cases hx)]; exact (h4 i hi).2
theorem XH.sc {g : Ge} {σ : Sg} {w u : Wv} {n : Nat} {K : Nat → Nat} (h : XH g σ w u n K) {a b : Nat} (hs : xsc a b = true) {x : Int32} : XH g σ (up2 w a b x) u n K := by
  obtain ⟨h1, h2, h3, h4⟩ := h
  refine ⟨h1, h2.sc hs, ⟨h3.1, ?_⟩, fun i hi => ⟨(h4 i hi).1, ?_⟩⟩
  · rw [up2_ne _ _ (fun z => by rw [← z.1, ← z.2] at hs; cases hs)]; exact h3.2
  · rw [up2_ne _ _ (fun z => by rw [← z.1, ← z.2] at hs; simp only [xsc, Bool.or_eq_true, Bool.and_eq_true, beq_iff_eq] at hs; omega)]; exact (h4 i hi).2
theorem XH.cv {g : Ge} {σ : Sg} {w u u' : Wv} {n : Nat} {K : Nat → Nat} (h : XH g σ w u n K) (hc : cv u = cv u') : XH g σ w u' n K := ⟨h.1, h.2.1.cv hc, h.2.2.1, fun i hi => ⟨(cv_at hc rfl).symm.trans (h.2.2.2 i hi).1, (h.2.2.2 i hi).2⟩⟩
theorem XH.rows {g : Ge} {σ : Sg} {w u : Wv} {n : Nat} {K : Nat → Nat} (h : XH g σ w u n K) : u 100 3 = nI n := (h.2.1.at xm_0_3).symm.trans h.2.2.1.2
theorem XH.nrw {g : Ge} {σ : Sg} {w u : Wv} {n : Nat} {K : Nat → Nat} (h : XH g σ w u n K) : nR u = n := by rw [nR, h.rows]; exact cl_n (by have := h.2.2.1.1; omega)
theorem XH.kd {g : Ge} {σ : Sg} {w u : Wv} {n : Nat} {K : Nat → Nat} (h : XH g σ w u n K) {i : Nat} (hi : i < n) : ((sT σ (g.1 (60 + i))).1 = 9 ∧ u 105 i = 0) ∨ ((sT σ (g.1 (60 + i))).1 = 10 ∧ u 105 i = 1) ∨ ((sT σ (g.1 (60 + i))).1 = 11 ∧ u 105 i = 2) ∨ ((sT σ (g.1 (60 + i))).1 = 12 ∧ u 105 i = 3) ∨ ((sT σ (g.1 (60 + i))).1 = 13 ∧ u 105 i = 4) ∨ ((sT σ (g.1 (60 + i))).1 = 14 ∧ u 105 i = 5) := by
  obtain ⟨k1, k2, -⟩ := h.1.2.2.2.2.2.1 i hi
  have k3 := (h.2.2.2 i hi).1
  rcases (show K i = 0 ∨ K i = 1 ∨ K i = 2 ∨ K i = 3 ∨ K i = 4 ∨ K i = 5 by omega) with e | e | e | e | e | e <;> rw [e] at k2 k3
  · exact .inl ⟨k2, k3⟩
  · exact .inr (.inl ⟨k2, k3⟩)
  · exact .inr (.inr (.inl ⟨k2, k3⟩))
  · exact .inr (.inr (.inr (.inl ⟨k2, k3⟩)))
  · exact .inr (.inr (.inr (.inr (.inl ⟨k2, k3⟩))))
  · exact .inr (.inr (.inr (.inr (.inr ⟨k2, k3⟩))))
section
variable {E : En} {M : Mi} {d : Nat} {out : Out} {pc : Nat} {lv : List (Option Value)} {st : List Value} {σ : Sg} {g : Ge} {w u : Wv} {n : Nat} {K : Nat → Nat}
theorem XH.gk (h : XH g σ w u n K) : Gok g := h.1.1
theorem XH.i0 (h : XH g σ w u n K) {k : Nat} (hk : k < 42 := by decide) : k ∈ g.2 := h.1.2.1.1 k hk
theorem XH.ir (h : XH g σ w u n K) {i : Nat} (hi : i < n) : 60 + i ∈ g.2 ∧ 70 + i ∈ g.2 := h.1.2.1.2.2.2 i hi
theorem XH.ish (h : XH g σ w u n K) {i : Nat} (hi : i < 4) : 50 + i ∈ g.2 ∧ 54 + i ∈ g.2 := h.1.2.1.2.2.1 i hi
theorem XH.t0 (h : XH g σ w u n K) : (sT σ (g.1 0)).1 = 1 := h.1.2.2.1.1
theorem XH.ai (h : XH g σ w u n K) {f : Nat} (hf : xlen f ≠ 0) : sR σ (g.1 0) f = some (g.1 (1 + f)) ∧ sT σ (g.1 (1 + f)) = (101, xlen f) := h.1.2.2.1.2.1 f hf
theorem XH.bi (h : XH g σ w u n K) {f : Nat} (hf : xbl f ≠ 0) : sR σ (g.1 0) f = some (g.1 (1 + f)) ∧ sT σ (g.1 (1 + f)) = (102, xbl f) := h.1.2.2.1.2.2 f hf
theorem XH.li (h : XH g σ w u n K) : sR σ (g.1 0) 3 = some (g.1 45) ∧ (sT σ (g.1 45)).1 = 17 ∧ sR σ (g.1 45) 1 = some (g.1 46) ∧ (∃ cap, n ≤ cap ∧ cap ≤ 10 ∧ sT σ (g.1 46) = (104, cap)) ∧ ∀ i, i < n → sR σ (g.1 46) i = some (g.1 (60 + i)) := h.1.2.2.2.1
theorem XH.sh (h : XH g σ w u n K) : sR σ (g.1 0) 40 = some (g.1 47) ∧ sT σ (g.1 47) = (107, 4) := ⟨h.1.2.2.2.2.1.1, h.1.2.2.2.2.1.2.1⟩
theorem XH.si (h : XH g σ w u n K) {i : Nat} (hi : i < 4) : sR σ (g.1 47) i = some (g.1 (50 + i)) ∧ (sT σ (g.1 (50 + i))).1 = 2 ∧ sR σ (g.1 (50 + i)) 2 = some (g.1 (54 + i)) ∧ sT σ (g.1 (54 + i)) = (101, 60) := h.1.2.2.2.2.1.2.2 i hi
theorem XH.ro (h : XH g σ w u n K) {i : Nat} (hi : i < n) : sR σ (g.1 (60 + i)) 3 = some (g.1 (70 + i)) ∧ (∀ f, 4 ≤ f → f < 7 → sR σ (g.1 (60 + i)) f = some (g.1 0)) ∧ sT σ (g.1 (70 + i)) = (102, 8) := (h.1.2.2.2.2.2.1 i hi).2.2
theorem XH.tx (h : XH g σ w u n K) : sR σ (g.1 0) 36 = some (g.1 48) ∧ sT σ (g.1 48) = (106, 6) := h.1.2.2.2.2.2.2
theorem XH.n6 (h : XH g σ w u n K) {i : Nat} (hi : i < n) : i < 6 := Nat.lt_of_lt_of_le hi h.2.2.1.1
theorem XH.sv (h : XH g σ w u n K) : XV w u := h.2.1
theorem aX0 (hX : XH g σ w u n K) {j : Nat} {i : Int32} (hi : IX i j 4) (hd : decode (mC M) pc = .ok (.iaload, 1)) (h : V E M d out (pc + 1) lv (.int (u 101 j) :: st) (S g σ w)) : V E M d out pc lv (.int i :: .ref (g.1 1) :: st) (S g σ w) := V.wald hX.gk hX.i0 (hX.ai (f := 0) (by decide)).2 hi hd (by rw [hX.sv.at (xm_101 hi.2.2)]; exact h)
theorem sX0 (hX : XH g σ w u n K) {j : Nat} {i x : Int32} (hi : IX i j 4) (hd : decode (mC M) pc = .ok (.iastore, 1)) (h : V E M d out (pc + 1) lv st (S g σ (up2 w 1 j x))) : V E M d out pc lv (.int x :: .int i :: .ref (g.1 1) :: st) (S g σ w) := V.wast hX.gk hX.i0 (hX.ai (f := 0) (by decide)).2 hi hd h
theorem aX1 (hX : XH g σ w u n K) {j : Nat} {i : Int32} (hi : IX i j 4) (hd : decode (mC M) pc = .ok (.iaload, 1)) (h : V E M d out (pc + 1) lv (.int (u 102 j) :: st) (S g σ w)) : V E M d out pc lv (.int i :: .ref (g.1 2) :: st) (S g σ w) := V.wald hX.gk hX.i0 (hX.ai (f := 1) (by decide)).2 hi hd (by rw [hX.sv.at (xm_102 hi.2.2)]; exact h)
theorem sX1 (hX : XH g σ w u n K) {j : Nat} {i x : Int32} (hi : IX i j 4) (hd : decode (mC M) pc = .ok (.iastore, 1)) (h : V E M d out (pc + 1) lv st (S g σ (up2 w 2 j x))) : V E M d out pc lv (.int x :: .int i :: .ref (g.1 2) :: st) (S g σ w) := V.wast hX.gk hX.i0 (hX.ai (f := 1) (by decide)).2 hi hd h
theorem aX2 (hX : XH g σ w u n K) {j : Nat} {i : Int32} (hi : IX i j 4) (hd : decode (mC M) pc = .ok (.iaload, 1)) (h : V E M d out (pc + 1) lv (.int (u 103 j) :: st) (S g σ w)) : V E M d out pc lv (.int i :: .ref (g.1 3) :: st) (S g σ w) := V.wald hX.gk hX.i0 (hX.ai (f := 2) (by decide)).2 hi hd (by rw [hX.sv.at (xm_103 hi.2.2)]; exact h)
theorem sX2 (hX : XH g σ w u n K) {j : Nat} {i x : Int32} (hi : IX i j 4) (hd : decode (mC M) pc = .ok (.iastore, 1)) (h : V E M d out (pc + 1) lv st (S g σ (up2 w 3 j x))) : V E M d out pc lv (.int x :: .int i :: .ref (g.1 3) :: st) (S g σ w) := V.wast hX.gk hX.i0 (hX.ai (f := 2) (by decide)).2 hi hd h
theorem aX4 (hX : XH g σ w u n K) {j : Nat} {i : Int32} (hi : IX i j 6) (hd : decode (mC M) pc = .ok (.iaload, 1)) (h : V E M d out (pc + 1) lv (.int (u 108 j) :: st) (S g σ w)) : V E M d out pc lv (.int i :: .ref (g.1 5) :: st) (S g σ w) := V.wald hX.gk hX.i0 (hX.ai (f := 4) (by decide)).2 hi hd (by rw [hX.sv.at (xm_108 hi.2.2)]; exact h)
theorem sX4 (hX : XH g σ w u n K) {j : Nat} {i x : Int32} (hi : IX i j 6) (hd : decode (mC M) pc = .ok (.iastore, 1)) (h : V E M d out (pc + 1) lv st (S g σ (up2 w 5 j x))) : V E M d out pc lv (.int x :: .int i :: .ref (g.1 5) :: st) (S g σ w) := V.wast hX.gk hX.i0 (hX.ai (f := 4) (by decide)).2 hi hd h
theorem aX5 (hX : XH g σ w u n K) {j : Nat} {i : Int32} (hi : IX i j 6) (hd : decode (mC M) pc = .ok (.iaload, 1)) (h : V E M d out (pc + 1) lv (.int (u 109 j) :: st) (S g σ w)) : V E M d out pc lv (.int i :: .ref (g.1 6) :: st) (S g σ w) := V.wald hX.gk hX.i0 (hX.ai (f := 5) (by decide)).2 hi hd (by rw [hX.sv.at (xm_109 hi.2.2)]; exact h)
theorem sX5 (hX : XH g σ w u n K) {j : Nat} {i x : Int32} (hi : IX i j 6) (hd : decode (mC M) pc = .ok (.iastore, 1)) (h : V E M d out (pc + 1) lv st (S g σ (up2 w 6 j x))) : V E M d out pc lv (.int x :: .int i :: .ref (g.1 6) :: st) (S g σ w) := V.wast hX.gk hX.i0 (hX.ai (f := 5) (by decide)).2 hi hd h
theorem aX6 (hX : XH g σ w u n K) {j : Nat} {i : Int32} (hi : IX i j 6) (hd : decode (mC M) pc = .ok (.iaload, 1)) (h : V E M d out (pc + 1) lv (.int (u 112 j) :: st) (S g σ w)) : V E M d out pc lv (.int i :: .ref (g.1 7) :: st) (S g σ w) := V.wald hX.gk hX.i0 (hX.ai (f := 6) (by decide)).2 hi hd (by rw [hX.sv.at (xm_112 hi.2.2)]; exact h)
theorem sX6 (hX : XH g σ w u n K) {j : Nat} {i x : Int32} (hi : IX i j 6) (hd : decode (mC M) pc = .ok (.iastore, 1)) (h : V E M d out (pc + 1) lv st (S g σ (up2 w 7 j x))) : V E M d out pc lv (.int x :: .int i :: .ref (g.1 7) :: st) (S g σ w) := V.wast hX.gk hX.i0 (hX.ai (f := 6) (by decide)).2 hi hd h
theorem aX7 (hX : XH g σ w u n K) {j : Nat} {i : Int32} (hi : IX i j 6) (hd : decode (mC M) pc = .ok (.iaload, 1)) (h : V E M d out (pc + 1) lv (.int (u 113 j) :: st) (S g σ w)) : V E M d out pc lv (.int i :: .ref (g.1 8) :: st) (S g σ w) := V.wald hX.gk hX.i0 (hX.ai (f := 7) (by decide)).2 hi hd (by rw [hX.sv.at (xm_113 hi.2.2)]; exact h)
theorem sX7 (hX : XH g σ w u n K) {j : Nat} {i x : Int32} (hi : IX i j 6) (hd : decode (mC M) pc = .ok (.iastore, 1)) (h : V E M d out (pc + 1) lv st (S g σ (up2 w 8 j x))) : V E M d out pc lv (.int x :: .int i :: .ref (g.1 8) :: st) (S g σ w) := V.wast hX.gk hX.i0 (hX.ai (f := 7) (by decide)).2 hi hd h
theorem aX8 (hX : XH g σ w u n K) {j : Nat} {i : Int32} (hi : IX i j 6) (hd : decode (mC M) pc = .ok (.iaload, 1)) (h : V E M d out (pc + 1) lv (.int (u 114 j) :: st) (S g σ w)) : V E M d out pc lv (.int i :: .ref (g.1 9) :: st) (S g σ w) := V.wald hX.gk hX.i0 (hX.ai (f := 8) (by decide)).2 hi hd (by rw [hX.sv.at (xm_114 hi.2.2)]; exact h)
theorem sX8 (hX : XH g σ w u n K) {j : Nat} {i x : Int32} (hi : IX i j 6) (hd : decode (mC M) pc = .ok (.iastore, 1)) (h : V E M d out (pc + 1) lv st (S g σ (up2 w 9 j x))) : V E M d out pc lv (.int x :: .int i :: .ref (g.1 9) :: st) (S g σ w) := V.wast hX.gk hX.i0 (hX.ai (f := 8) (by decide)).2 hi hd h
theorem aX10 (hX : XH g σ w u n K) {j : Nat} {i : Int32} (hi : IX i j 4) (hd : decode (mC M) pc = .ok (.iaload, 1)) (h : V E M d out (pc + 1) lv (.int (u 116 j) :: st) (S g σ w)) : V E M d out pc lv (.int i :: .ref (g.1 11) :: st) (S g σ w) := V.wald hX.gk hX.i0 (hX.ai (f := 10) (by decide)).2 hi hd (by rw [hX.sv.at (xm_116 hi.2.2)]; exact h)
theorem sX10 (hX : XH g σ w u n K) {j : Nat} {i x : Int32} (hi : IX i j 4) (hd : decode (mC M) pc = .ok (.iastore, 1)) (h : V E M d out (pc + 1) lv st (S g σ (up2 w 11 j x))) : V E M d out pc lv (.int x :: .int i :: .ref (g.1 11) :: st) (S g σ w) := V.wast hX.gk hX.i0 (hX.ai (f := 10) (by decide)).2 hi hd h
theorem aX11 (hX : XH g σ w u n K) {j : Nat} {i : Int32} (hi : IX i j 4) (hd : decode (mC M) pc = .ok (.iaload, 1)) (h : V E M d out (pc + 1) lv (.int (u 117 j) :: st) (S g σ w)) : V E M d out pc lv (.int i :: .ref (g.1 12) :: st) (S g σ w) := V.wald hX.gk hX.i0 (hX.ai (f := 11) (by decide)).2 hi hd (by rw [hX.sv.at (xm_117 hi.2.2)]; exact h)
theorem sX11 (hX : XH g σ w u n K) {j : Nat} {i x : Int32} (hi : IX i j 4) (hd : decode (mC M) pc = .ok (.iastore, 1)) (h : V E M d out (pc + 1) lv st (S g σ (up2 w 12 j x))) : V E M d out pc lv (.int x :: .int i :: .ref (g.1 12) :: st) (S g σ w) := V.wast hX.gk hX.i0 (hX.ai (f := 11) (by decide)).2 hi hd h
theorem aX13 (hX : XH g σ w u n K) {j : Nat} {i : Int32} (hi : IX i j 6) (hd : decode (mC M) pc = .ok (.iaload, 1)) (h : V E M d out (pc + 1) lv (.int (w 14 j) :: st) (S g σ w)) : V E M d out pc lv (.int i :: .ref (g.1 14) :: st) (S g σ w) := V.wald hX.gk hX.i0 (hX.ai (f := 13) (by decide)).2 hi hd (by exact h)
theorem sX13 (hX : XH g σ w u n K) {j : Nat} {i x : Int32} (hi : IX i j 6) (hd : decode (mC M) pc = .ok (.iastore, 1)) (h : V E M d out (pc + 1) lv st (S g σ (up2 w 14 j x))) : V E M d out pc lv (.int x :: .int i :: .ref (g.1 14) :: st) (S g σ w) := V.wast hX.gk hX.i0 (hX.ai (f := 13) (by decide)).2 hi hd h
theorem aX15 (hX : XH g σ w u n K) {j : Nat} {i : Int32} (hi : IX i j 6) (hd : decode (mC M) pc = .ok (.iaload, 1)) (h : V E M d out (pc + 1) lv (.int (w 16 j) :: st) (S g σ w)) : V E M d out pc lv (.int i :: .ref (g.1 16) :: st) (S g σ w) := V.wald hX.gk hX.i0 (hX.ai (f := 15) (by decide)).2 hi hd (by exact h)
theorem sX15 (hX : XH g σ w u n K) {j : Nat} {i x : Int32} (hi : IX i j 6) (hd : decode (mC M) pc = .ok (.iastore, 1)) (h : V E M d out (pc + 1) lv st (S g σ (up2 w 16 j x))) : V E M d out pc lv (.int x :: .int i :: .ref (g.1 16) :: st) (S g σ w) := V.wast hX.gk hX.i0 (hX.ai (f := 15) (by decide)).2 hi hd h
theorem aX21 (hX : XH g σ w u n K) {j : Nat} {i : Int32} (hi : IX i j 6) (hd : decode (mC M) pc = .ok (.iaload, 1)) (h : V E M d out (pc + 1) lv (.int (w 22 j) :: st) (S g σ w)) : V E M d out pc lv (.int i :: .ref (g.1 22) :: st) (S g σ w) := V.wald hX.gk hX.i0 (hX.ai (f := 21) (by decide)).2 hi hd (by exact h)
theorem sX21 (hX : XH g σ w u n K) {j : Nat} {i x : Int32} (hi : IX i j 6) (hd : decode (mC M) pc = .ok (.iastore, 1)) (h : V E M d out (pc + 1) lv st (S g σ (up2 w 22 j x))) : V E M d out pc lv (.int x :: .int i :: .ref (g.1 22) :: st) (S g σ w) := V.wast hX.gk hX.i0 (hX.ai (f := 21) (by decide)).2 hi hd h
theorem aX22 (hX : XH g σ w u n K) {j : Nat} {i : Int32} (hi : IX i j 6) (hd : decode (mC M) pc = .ok (.iaload, 1)) (h : V E M d out (pc + 1) lv (.int (w 23 j) :: st) (S g σ w)) : V E M d out pc lv (.int i :: .ref (g.1 23) :: st) (S g σ w) := V.wald hX.gk hX.i0 (hX.ai (f := 22) (by decide)).2 hi hd (by exact h)
theorem sX22 (hX : XH g σ w u n K) {j : Nat} {i x : Int32} (hi : IX i j 6) (hd : decode (mC M) pc = .ok (.iastore, 1)) (h : V E M d out (pc + 1) lv st (S g σ (up2 w 23 j x))) : V E M d out pc lv (.int x :: .int i :: .ref (g.1 23) :: st) (S g σ w) := V.wast hX.gk hX.i0 (hX.ai (f := 22) (by decide)).2 hi hd h
theorem aX28 (hX : XH g σ w u n K) {j : Nat} {i : Int32} (hi : IX i j 48) (hd : decode (mC M) pc = .ok (.iaload, 1)) (h : V E M d out (pc + 1) lv (.int (w 29 j) :: st) (S g σ w)) : V E M d out pc lv (.int i :: .ref (g.1 29) :: st) (S g σ w) := V.wald hX.gk hX.i0 (hX.ai (f := 28) (by decide)).2 hi hd (by exact h)
theorem sX28 (hX : XH g σ w u n K) {j : Nat} {i x : Int32} (hi : IX i j 48) (hd : decode (mC M) pc = .ok (.iastore, 1)) (h : V E M d out (pc + 1) lv st (S g σ (up2 w 29 j x))) : V E M d out pc lv (.int x :: .int i :: .ref (g.1 29) :: st) (S g σ w) := V.wast hX.gk hX.i0 (hX.ai (f := 28) (by decide)).2 hi hd h
theorem aX29 (hX : XH g σ w u n K) {j : Nat} {i : Int32} (hi : IX i j 12) (hd : decode (mC M) pc = .ok (.iaload, 1)) (h : V E M d out (pc + 1) lv (.int (w 30 j) :: st) (S g σ w)) : V E M d out pc lv (.int i :: .ref (g.1 30) :: st) (S g σ w) := V.wald hX.gk hX.i0 (hX.ai (f := 29) (by decide)).2 hi hd (by exact h)
theorem sX29 (hX : XH g σ w u n K) {j : Nat} {i x : Int32} (hi : IX i j 12) (hd : decode (mC M) pc = .ok (.iastore, 1)) (h : V E M d out (pc + 1) lv st (S g σ (up2 w 30 j x))) : V E M d out pc lv (.int x :: .int i :: .ref (g.1 30) :: st) (S g σ w) := V.wast hX.gk hX.i0 (hX.ai (f := 29) (by decide)).2 hi hd h
theorem aX30 (hX : XH g σ w u n K) {j : Nat} {i : Int32} (hi : IX i j 12) (hd : decode (mC M) pc = .ok (.iaload, 1)) (h : V E M d out (pc + 1) lv (.int (w 31 j) :: st) (S g σ w)) : V E M d out pc lv (.int i :: .ref (g.1 31) :: st) (S g σ w) := V.wald hX.gk hX.i0 (hX.ai (f := 30) (by decide)).2 hi hd (by exact h)
theorem sX30 (hX : XH g σ w u n K) {j : Nat} {i x : Int32} (hi : IX i j 12) (hd : decode (mC M) pc = .ok (.iastore, 1)) (h : V E M d out (pc + 1) lv st (S g σ (up2 w 31 j x))) : V E M d out pc lv (.int x :: .int i :: .ref (g.1 31) :: st) (S g σ w) := V.wast hX.gk hX.i0 (hX.ai (f := 30) (by decide)).2 hi hd h
theorem aX31 (hX : XH g σ w u n K) {j : Nat} {i : Int32} (hi : IX i j 8) (hd : decode (mC M) pc = .ok (.iaload, 1)) (h : V E M d out (pc + 1) lv (.int (w 32 j) :: st) (S g σ w)) : V E M d out pc lv (.int i :: .ref (g.1 32) :: st) (S g σ w) := V.wald hX.gk hX.i0 (hX.ai (f := 31) (by decide)).2 hi hd (by exact h)
theorem sX31 (hX : XH g σ w u n K) {j : Nat} {i x : Int32} (hi : IX i j 8) (hd : decode (mC M) pc = .ok (.iastore, 1)) (h : V E M d out (pc + 1) lv st (S g σ (up2 w 32 j x))) : V E M d out pc lv (.int x :: .int i :: .ref (g.1 32) :: st) (S g σ w) := V.wast hX.gk hX.i0 (hX.ai (f := 31) (by decide)).2 hi hd h
theorem aX18 (hX : XH g σ w u n K) {j : Nat} {i : Int32} (hi : IX i j 48) (hd : decode (mC M) pc = .ok (.baload, 1)) (h : V E M d out (pc + 1) lv (.int (w 19 j) :: st) (S g σ w)) : V E M d out pc lv (.int i :: .ref (g.1 19) :: st) (S g σ w) := V.wbald hX.gk hX.i0 (hX.bi (f := 18) (by decide)).2 hi hd h
theorem sX18 (hX : XH g σ w u n K) {j : Nat} {i x : Int32} (hi : IX i j 48) (hd : decode (mC M) pc = .ok (.bastore, 1)) (h : V E M d out (pc + 1) lv st (S g σ (up2 w 19 j x.toInt8.toInt32))) : V E M d out pc lv (.int x :: .int i :: .ref (g.1 19) :: st) (S g σ w) := V.wbast hX.gk hX.i0 (hX.bi (f := 18) (by decide)).2 hi hd h
theorem aX32 (hX : XH g σ w u n K) {j : Nat} {i : Int32} (hi : IX i j 48) (hd : decode (mC M) pc = .ok (.baload, 1)) (h : V E M d out (pc + 1) lv (.int (w 33 j) :: st) (S g σ w)) : V E M d out pc lv (.int i :: .ref (g.1 33) :: st) (S g σ w) := V.wbald hX.gk hX.i0 (hX.bi (f := 32) (by decide)).2 hi hd h
theorem sX32 (hX : XH g σ w u n K) {j : Nat} {i x : Int32} (hi : IX i j 48) (hd : decode (mC M) pc = .ok (.bastore, 1)) (h : V E M d out (pc + 1) lv st (S g σ (up2 w 33 j x.toInt8.toInt32))) : V E M d out pc lv (.int x :: .int i :: .ref (g.1 33) :: st) (S g σ w) := V.wbast hX.gk hX.i0 (hX.bi (f := 32) (by decide)).2 hi hd h
theorem aX38 (hX : XH g σ w u n K) {j : Nat} {i : Int32} (hi : IX i j 160) (hd : decode (mC M) pc = .ok (.baload, 1)) (h : V E M d out (pc + 1) lv (.int (w 39 j) :: st) (S g σ w)) : V E M d out pc lv (.int i :: .ref (g.1 39) :: st) (S g σ w) := V.wbald hX.gk hX.i0 (hX.bi (f := 38) (by decide)).2 hi hd h
theorem sX38 (hX : XH g σ w u n K) {j : Nat} {i x : Int32} (hi : IX i j 160) (hd : decode (mC M) pc = .ok (.bastore, 1)) (h : V E M d out (pc + 1) lv st (S g σ (up2 w 39 j x.toInt8.toInt32))) : V E M d out pc lv (.int x :: .int i :: .ref (g.1 39) :: st) (S g σ w) := V.wbast hX.gk hX.i0 (hX.bi (f := 38) (by decide)).2 hi hd h
theorem xso {w u : Wv} (h : XV w u) {r c : Nat} (hr : r < 6) (hc : c < 8) : w (70 + r) c = so u r c := by
  have := h.at (xm_110 (j := 8 * r + c) (by omega))
  rw [show 70 + (8 * r + c) / 8 = 70 + r by omega, show (8 * r + c) % 8 = c by omega] at this
  exact this
theorem xsm {r c : Nat} (hr : r < 6) (hc : c < 8) : xm 110 (8 * r + c) = some (70 + r, c) := by
  rw [xm_110 (by omega), show 70 + (8 * r + c) / 8 = 70 + r by omega, show (8 * r + c) % 8 = c by omega]
theorem xcm {s c : Nat} (hr : s < 4) (hc : c < 60) : xm 140 (60 * s + c) = some (54 + s, c) := by
  rw [xm_140 (by omega), show 54 + (60 * s + c) / 60 = 54 + s by omega, show (60 * s + c) % 60 = c by omega]
theorem aXs (hX : XH g σ w u n K) {r j : Nat} (hr : r < n) {i : Int32} (hi : IX i j 8) (hd : decode (mC M) pc = .ok (.baload, 1)) (h : V E M d out (pc + 1) lv (.int (so u r j) :: st) (S g σ w)) : V E M d out pc lv (.int i :: .ref (g.1 (70 + r)) :: st) (S g σ w) := V.wbald hX.gk (hX.ir hr).2 (hX.ro hr).2.2 hi hd (by rw [xso hX.sv (hX.n6 hr) hi.2.2]; exact h)
theorem sXs (hX : XH g σ w u n K) {r j : Nat} (hr : r < n) {i x : Int32} (hi : IX i j 8) (hd : decode (mC M) pc = .ok (.bastore, 1)) (h : V E M d out (pc + 1) lv st (S g σ (up2 w (70 + r) j x.toInt8.toInt32))) : V E M d out pc lv (.int x :: .int i :: .ref (g.1 (70 + r)) :: st) (S g σ w) := V.wbast hX.gk (hX.ir hr).2 (hX.ro hr).2.2 hi hd h
theorem aXc (hX : XH g σ w u n K) {s j : Nat} (hs : s < 4) {i : Int32} (hi : IX i j 60) (hd : decode (mC M) pc = .ok (.iaload, 1)) (h : V E M d out (pc + 1) lv (.int (u 140 (60 * s + j)) :: st) (S g σ w)) : V E M d out pc lv (.int i :: .ref (g.1 (54 + s)) :: st) (S g σ w) := V.wald hX.gk (hX.ish hs).2 (hX.si hs).2.2.2 hi hd (by rw [hX.sv.at (xcm hs hi.2.2)]; exact h)
theorem sXc (hX : XH g σ w u n K) {s j : Nat} (hs : s < 4) {i x : Int32} (hi : IX i j 60) (hd : decode (mC M) pc = .ok (.iastore, 1)) (h : V E M d out (pc + 1) lv st (S g σ (up2 w (54 + s) j x))) : V E M d out pc lv (.int x :: .int i :: .ref (g.1 (54 + s)) :: st) (S g σ w) := V.wast hX.gk (hX.ish hs).2 (hX.si hs).2.2.2 hi hd h
theorem aXS (hX : XH g σ w u n K) {j : Nat} {i : Int32} (hi : IX i j 4) (hd : decode (mC M) pc = .ok (.aaload, 1)) (h : V E M d out (pc + 1) lv (.ref (g.1 (50 + j)) :: st) (S g σ w)) : V E M d out pc lv (.int i :: .ref (g.1 47) :: st) (S g σ w) :=
  V.aald (σ := S g σ w) (t := 106) hX.sh.2 (by decide) (by decide) rfl rfl hi hd (by rw [show sR (S g σ w) (g.1 47) j = some (g.1 (50 + j)) from (hX.si hi.2.2).1]; exact h)
theorem GX0_7 (hX : XH g σ w u n K) (hM : (mY M).cls = RX0) (hd : decode (mC M) pc = .ok (.getfield 7, 3)) (h : V E M d out (pc + 3) lv (.ref (g.1 1) :: st) (S g σ w)) : V E M d out pc lv (.ref (g.1 0) :: st) (S g σ w) := gX0_7 (σ := S g σ w) hM hX.t0 hd (hX.ai (f := 0) (by decide)).1 h
theorem GX0_13 (hX : XH g σ w u n K) (hM : (mY M).cls = RX0) (hd : decode (mC M) pc = .ok (.getfield 13, 3)) (h : V E M d out (pc + 3) lv (.ref (g.1 2) :: st) (S g σ w)) : V E M d out pc lv (.ref (g.1 0) :: st) (S g σ w) := gX0_13 (σ := S g σ w) hM hX.t0 hd (hX.ai (f := 1) (by decide)).1 h
theorem GX0_16 (hX : XH g σ w u n K) (hM : (mY M).cls = RX0) (hd : decode (mC M) pc = .ok (.getfield 16, 3)) (h : V E M d out (pc + 3) lv (.ref (g.1 3) :: st) (S g σ w)) : V E M d out pc lv (.ref (g.1 0) :: st) (S g σ w) := gX0_16 (σ := S g σ w) hM hX.t0 hd (hX.ai (f := 2) (by decide)).1 h
theorem GX0_22 (hX : XH g σ w u n K) (hM : (mY M).cls = RX0) (hd : decode (mC M) pc = .ok (.getfield 22, 3)) (h : V E M d out (pc + 3) lv (.ref (g.1 45) :: st) (S g σ w)) : V E M d out pc lv (.ref (g.1 0) :: st) (S g σ w) := gX0_22 (σ := S g σ w) hM hX.t0 hd hX.li.1 h
theorem GX0_26 (hX : XH g σ w u n K) (hM : (mY M).cls = RX0) (hd : decode (mC M) pc = .ok (.getfield 26, 3)) (h : V E M d out (pc + 3) lv (.ref (g.1 5) :: st) (S g σ w)) : V E M d out pc lv (.ref (g.1 0) :: st) (S g σ w) := gX0_26 (σ := S g σ w) hM hX.t0 hd (hX.ai (f := 4) (by decide)).1 h
theorem GX0_29 (hX : XH g σ w u n K) (hM : (mY M).cls = RX0) (hd : decode (mC M) pc = .ok (.getfield 29, 3)) (h : V E M d out (pc + 3) lv (.ref (g.1 6) :: st) (S g σ w)) : V E M d out pc lv (.ref (g.1 0) :: st) (S g σ w) := gX0_29 (σ := S g σ w) hM hX.t0 hd (hX.ai (f := 5) (by decide)).1 h
theorem GX0_32 (hX : XH g σ w u n K) (hM : (mY M).cls = RX0) (hd : decode (mC M) pc = .ok (.getfield 32, 3)) (h : V E M d out (pc + 3) lv (.ref (g.1 7) :: st) (S g σ w)) : V E M d out pc lv (.ref (g.1 0) :: st) (S g σ w) := gX0_32 (σ := S g σ w) hM hX.t0 hd (hX.ai (f := 6) (by decide)).1 h
theorem GX0_35 (hX : XH g σ w u n K) (hM : (mY M).cls = RX0) (hd : decode (mC M) pc = .ok (.getfield 35, 3)) (h : V E M d out (pc + 3) lv (.ref (g.1 8) :: st) (S g σ w)) : V E M d out pc lv (.ref (g.1 0) :: st) (S g σ w) := gX0_35 (σ := S g σ w) hM hX.t0 hd (hX.ai (f := 7) (by decide)).1 h
theorem GX0_38 (hX : XH g σ w u n K) (hM : (mY M).cls = RX0) (hd : decode (mC M) pc = .ok (.getfield 38, 3)) (h : V E M d out (pc + 3) lv (.ref (g.1 9) :: st) (S g σ w)) : V E M d out pc lv (.ref (g.1 0) :: st) (S g σ w) := gX0_38 (σ := S g σ w) hM hX.t0 hd (hX.ai (f := 8) (by decide)).1 h
theorem GX0_41 (hX : XH g σ w u n K) (hM : (mY M).cls = RX0) (hd : decode (mC M) pc = .ok (.getfield 41, 3)) (h : V E M d out (pc + 3) lv (.ref (g.1 11) :: st) (S g σ w)) : V E M d out pc lv (.ref (g.1 0) :: st) (S g σ w) := gX0_41 (σ := S g σ w) hM hX.t0 hd (hX.ai (f := 10) (by decide)).1 h
theorem GX0_44 (hX : XH g σ w u n K) (hM : (mY M).cls = RX0) (hd : decode (mC M) pc = .ok (.getfield 44, 3)) (h : V E M d out (pc + 3) lv (.ref (g.1 12) :: st) (S g σ w)) : V E M d out pc lv (.ref (g.1 0) :: st) (S g σ w) := gX0_44 (σ := S g σ w) hM hX.t0 hd (hX.ai (f := 11) (by decide)).1 h
theorem GX0_47 (hX : XH g σ w u n K) (hM : (mY M).cls = RX0) (hd : decode (mC M) pc = .ok (.getfield 47, 3)) (h : V E M d out (pc + 3) lv (.ref (g.1 14) :: st) (S g σ w)) : V E M d out pc lv (.ref (g.1 0) :: st) (S g σ w) := gX0_47 (σ := S g σ w) hM hX.t0 hd (hX.ai (f := 13) (by decide)).1 h
theorem GX0_50 (hX : XH g σ w u n K) (hM : (mY M).cls = RX0) (hd : decode (mC M) pc = .ok (.getfield 50, 3)) (h : V E M d out (pc + 3) lv (.ref (g.1 16) :: st) (S g σ w)) : V E M d out pc lv (.ref (g.1 0) :: st) (S g σ w) := gX0_50 (σ := S g σ w) hM hX.t0 hd (hX.ai (f := 15) (by decide)).1 h
theorem GX0_53 (hX : XH g σ w u n K) (hM : (mY M).cls = RX0) (hd : decode (mC M) pc = .ok (.getfield 53, 3)) (h : V E M d out (pc + 3) lv (.ref (g.1 19) :: st) (S g σ w)) : V E M d out pc lv (.ref (g.1 0) :: st) (S g σ w) := gX0_53 (σ := S g σ w) hM hX.t0 hd (hX.bi (f := 18) (by decide)).1 h
theorem GX0_57 (hX : XH g σ w u n K) (hM : (mY M).cls = RX0) (hd : decode (mC M) pc = .ok (.getfield 57, 3)) (h : V E M d out (pc + 3) lv (.ref (g.1 22) :: st) (S g σ w)) : V E M d out pc lv (.ref (g.1 0) :: st) (S g σ w) := gX0_57 (σ := S g σ w) hM hX.t0 hd (hX.ai (f := 21) (by decide)).1 h
theorem GX0_60 (hX : XH g σ w u n K) (hM : (mY M).cls = RX0) (hd : decode (mC M) pc = .ok (.getfield 60, 3)) (h : V E M d out (pc + 3) lv (.ref (g.1 23) :: st) (S g σ w)) : V E M d out pc lv (.ref (g.1 0) :: st) (S g σ w) := gX0_60 (σ := S g σ w) hM hX.t0 hd (hX.ai (f := 22) (by decide)).1 h
theorem GX0_63 (hX : XH g σ w u n K) (hM : (mY M).cls = RX0) (hd : decode (mC M) pc = .ok (.getfield 63, 3)) (h : V E M d out (pc + 3) lv (.int (w 0 25) :: st) (S g σ w)) : V E M d out pc lv (.ref (g.1 0) :: st) (S g σ w) := gX0_63 (σ := S g σ w) hM hX.t0 hd (by rw [S_int hX.gk hX.i0]; exact h)
theorem PX0_63 (hX : XH g σ w u n K) (hM : (mY M).cls = RX0) (hd : decode (mC M) pc = .ok (.putfield 63, 3)) {v : Int32} (h : V E M d out (pc + 3) lv st (S g σ (up2 w 0 25 v))) : V E M d out pc lv (.int v :: .ref (g.1 0) :: st) (S g σ w) := pX0_63 (σ := S g σ w) hM hX.t0 (hX.gk.2 _ hX.i0) hd (by rw [S_put hX.gk hX.i0]; exact h)
theorem GX0_67 (hX : XH g σ w u n K) (hM : (mY M).cls = RX0) (hd : decode (mC M) pc = .ok (.getfield 67, 3)) (h : V E M d out (pc + 3) lv (.ref (g.1 29) :: st) (S g σ w)) : V E M d out pc lv (.ref (g.1 0) :: st) (S g σ w) := gX0_67 (σ := S g σ w) hM hX.t0 hd (hX.ai (f := 28) (by decide)).1 h
theorem GX0_70 (hX : XH g σ w u n K) (hM : (mY M).cls = RX0) (hd : decode (mC M) pc = .ok (.getfield 70, 3)) (h : V E M d out (pc + 3) lv (.ref (g.1 30) :: st) (S g σ w)) : V E M d out pc lv (.ref (g.1 0) :: st) (S g σ w) := gX0_70 (σ := S g σ w) hM hX.t0 hd (hX.ai (f := 29) (by decide)).1 h
theorem GX0_73 (hX : XH g σ w u n K) (hM : (mY M).cls = RX0) (hd : decode (mC M) pc = .ok (.getfield 73, 3)) (h : V E M d out (pc + 3) lv (.ref (g.1 31) :: st) (S g σ w)) : V E M d out pc lv (.ref (g.1 0) :: st) (S g σ w) := gX0_73 (σ := S g σ w) hM hX.t0 hd (hX.ai (f := 30) (by decide)).1 h
theorem GX0_76 (hX : XH g σ w u n K) (hM : (mY M).cls = RX0) (hd : decode (mC M) pc = .ok (.getfield 76, 3)) (h : V E M d out (pc + 3) lv (.ref (g.1 32) :: st) (S g σ w)) : V E M d out pc lv (.ref (g.1 0) :: st) (S g σ w) := gX0_76 (σ := S g σ w) hM hX.t0 hd (hX.ai (f := 31) (by decide)).1 h
theorem GX0_79 (hX : XH g σ w u n K) (hM : (mY M).cls = RX0) (hd : decode (mC M) pc = .ok (.getfield 79, 3)) (h : V E M d out (pc + 3) lv (.ref (g.1 33) :: st) (S g σ w)) : V E M d out pc lv (.ref (g.1 0) :: st) (S g σ w) := gX0_79 (σ := S g σ w) hM hX.t0 hd (hX.bi (f := 32) (by decide)).1 h
theorem GX0_82 (hX : XH g σ w u n K) (hM : (mY M).cls = RX0) (hd : decode (mC M) pc = .ok (.getfield 82, 3)) (h : V E M d out (pc + 3) lv (.int (w 0 33) :: st) (S g σ w)) : V E M d out pc lv (.ref (g.1 0) :: st) (S g σ w) := gX0_82 (σ := S g σ w) hM hX.t0 hd (by rw [S_int hX.gk hX.i0]; exact h)
theorem PX0_82 (hX : XH g σ w u n K) (hM : (mY M).cls = RX0) (hd : decode (mC M) pc = .ok (.putfield 82, 3)) {v : Int32} (h : V E M d out (pc + 3) lv st (S g σ (up2 w 0 33 v))) : V E M d out pc lv (.int v :: .ref (g.1 0) :: st) (S g σ w) := pX0_82 (σ := S g σ w) hM hX.t0 (hX.gk.2 _ hX.i0) hd (by rw [S_put hX.gk hX.i0]; exact h)
theorem GX0_87 (hX : XH g σ w u n K) (hM : (mY M).cls = RX0) (hd : decode (mC M) pc = .ok (.getfield 87, 3)) (h : V E M d out (pc + 3) lv (.ref (g.1 48) :: st) (S g σ w)) : V E M d out pc lv (.ref (g.1 0) :: st) (S g σ w) := gX0_87 (σ := S g σ w) hM hX.t0 hd hX.tx.1 h
theorem GX0_91 (hX : XH g σ w u n K) (hM : (mY M).cls = RX0) (hd : decode (mC M) pc = .ok (.getfield 91, 3)) (h : V E M d out (pc + 3) lv (.ref (g.1 39) :: st) (S g σ w)) : V E M d out pc lv (.ref (g.1 0) :: st) (S g σ w) := gX0_91 (σ := S g σ w) hM hX.t0 hd (hX.bi (f := 38) (by decide)).1 h
theorem GX0_97 (hX : XH g σ w u n K) (hM : (mY M).cls = RX0) (hd : decode (mC M) pc = .ok (.getfield 97, 3)) (h : V E M d out (pc + 3) lv (.ref (g.1 47) :: st) (S g σ w)) : V E M d out pc lv (.ref (g.1 0) :: st) (S g σ w) := gX0_97 (σ := S g σ w) hM hX.t0 hd hX.sh.1 h
theorem GX0_107 (hX : XH g σ w u n K) (hM : (mY M).cls = RX0) (hd : decode (mC M) pc = .ok (.getfield 107, 3)) (h : V E M d out (pc + 3) lv (.int (u 100 21) :: st) (S g σ w)) : V E M d out pc lv (.ref (g.1 0) :: st) (S g σ w) := gX0_107 (σ := S g σ w) hM hX.t0 hd (by rw [S_int hX.gk hX.i0]; rw [hX.sv.at xm_0_21]; exact h)
theorem PX0_107 (hX : XH g σ w u n K) (hM : (mY M).cls = RX0) (hd : decode (mC M) pc = .ok (.putfield 107, 3)) {v : Int32} (h : V E M d out (pc + 3) lv st (S g σ (up2 w 0 37 v))) : V E M d out pc lv (.int v :: .ref (g.1 0) :: st) (S g σ w) := pX0_107 (σ := S g σ w) hM hX.t0 (hX.gk.2 _ hX.i0) hd (by rw [S_put hX.gk hX.i0]; exact h)
theorem GX0_154 (hX : XH g σ w u n K) {i : Nat} (hi : i < n) (hM : (mY M).cls = RX0) (hd : decode (mC M) pc = .ok (.getfield 154, 3)) (h : V E M d out (pc + 3) lv (.int (u 106 i) :: st) (S g σ w)) : V E M d out pc lv (.ref (g.1 (60 + i)) :: st) (S g σ w) := by
  rcases hX.kd hi with h9 | h9 | h9 | h9 | h9 | h9
  · exact gX0_154_8 (σ := S g σ w) hM h9.1 hd (by rw [S_int hX.gk (hX.ir hi).1, hX.sv.at (xm_106 (hX.n6 hi))]; exact h)
  · exact gX0_154_9 (σ := S g σ w) hM h9.1 hd (by rw [S_int hX.gk (hX.ir hi).1, hX.sv.at (xm_106 (hX.n6 hi))]; exact h)
  · exact gX0_154_10 (σ := S g σ w) hM h9.1 hd (by rw [S_int hX.gk (hX.ir hi).1, hX.sv.at (xm_106 (hX.n6 hi))]; exact h)
  · exact gX0_154_11 (σ := S g σ w) hM h9.1 hd (by rw [S_int hX.gk (hX.ir hi).1, hX.sv.at (xm_106 (hX.n6 hi))]; exact h)
  · exact gX0_154_12 (σ := S g σ w) hM h9.1 hd (by rw [S_int hX.gk (hX.ir hi).1, hX.sv.at (xm_106 (hX.n6 hi))]; exact h)
  · exact gX0_154_13 (σ := S g σ w) hM h9.1 hd (by rw [S_int hX.gk (hX.ir hi).1, hX.sv.at (xm_106 (hX.n6 hi))]; exact h)
theorem GX0_177 (hX : XH g σ w u n K) {i : Nat} (hi : i < n) (hM : (mY M).cls = RX0) (hd : decode (mC M) pc = .ok (.getfield 177, 3)) (h : V E M d out (pc + 3) lv (.ref (g.1 (70 + i)) :: st) (S g σ w)) : V E M d out pc lv (.ref (g.1 (60 + i)) :: st) (S g σ w) := by
  rcases hX.kd hi with h9 | h9 | h9 | h9 | h9 | h9
  · exact gX0_177_8 (σ := S g σ w) hM h9.1 hd (hX.ro hi).1 h
  · exact gX0_177_9 (σ := S g σ w) hM h9.1 hd (hX.ro hi).1 h
  · exact gX0_177_10 (σ := S g σ w) hM h9.1 hd (hX.ro hi).1 h
  · exact gX0_177_11 (σ := S g σ w) hM h9.1 hd (hX.ro hi).1 h
  · exact gX0_177_12 (σ := S g σ w) hM h9.1 hd (hX.ro hi).1 h
  · exact gX0_177_13 (σ := S g σ w) hM h9.1 hd (hX.ro hi).1 h
theorem GX0_203 (hX : XH g σ w u n K) (hM : (mY M).cls = RX0) (hd : decode (mC M) pc = .ok (.getfield 203, 3)) (h : V E M d out (pc + 3) lv (.int (u 100 10) :: st) (S g σ w)) : V E M d out pc lv (.ref (g.1 0) :: st) (S g σ w) := gX0_203 (σ := S g σ w) hM hX.t0 hd (by rw [S_int hX.gk hX.i0]; rw [hX.sv.at xm_0_10]; exact h)
theorem PX0_203 (hX : XH g σ w u n K) (hM : (mY M).cls = RX0) (hd : decode (mC M) pc = .ok (.putfield 203, 3)) {v : Int32} (h : V E M d out (pc + 3) lv st (S g σ (up2 w 0 9 v))) : V E M d out pc lv (.int v :: .ref (g.1 0) :: st) (S g σ w) := pX0_203 (σ := S g σ w) hM hX.t0 (hX.gk.2 _ hX.i0) hd (by rw [S_put hX.gk hX.i0]; exact h)
theorem GX0_210 (hX : XH g σ w u n K) (hM : (mY M).cls = RX0) (hd : decode (mC M) pc = .ok (.getfield 210, 3)) (h : V E M d out (pc + 3) lv (.int (u 100 14) :: st) (S g σ w)) : V E M d out pc lv (.ref (g.1 0) :: st) (S g σ w) := gX0_210 (σ := S g σ w) hM hX.t0 hd (by rw [S_int hX.gk hX.i0]; rw [hX.sv.at xm_0_14]; exact h)
theorem PX0_210 (hX : XH g σ w u n K) (hM : (mY M).cls = RX0) (hd : decode (mC M) pc = .ok (.putfield 210, 3)) {v : Int32} (h : V E M d out (pc + 3) lv st (S g σ (up2 w 0 12 v))) : V E M d out pc lv (.int v :: .ref (g.1 0) :: st) (S g σ w) := pX0_210 (σ := S g σ w) hM hX.t0 (hX.gk.2 _ hX.i0) hd (by rw [S_put hX.gk hX.i0]; exact h)
theorem GX0_213 (hX : XH g σ w u n K) (hM : (mY M).cls = RX0) (hd : decode (mC M) pc = .ok (.getfield 213, 3)) (h : V E M d out (pc + 3) lv (.int (u 100 22) :: st) (S g σ w)) : V E M d out pc lv (.ref (g.1 0) :: st) (S g σ w) := gX0_213 (σ := S g σ w) hM hX.t0 hd (by rw [S_int hX.gk hX.i0]; rw [hX.sv.at xm_0_22]; exact h)
theorem PX0_213 (hX : XH g σ w u n K) (hM : (mY M).cls = RX0) (hd : decode (mC M) pc = .ok (.putfield 213, 3)) {v : Int32} (h : V E M d out (pc + 3) lv st (S g σ (up2 w 0 14 v))) : V E M d out pc lv (.int v :: .ref (g.1 0) :: st) (S g σ w) := pX0_213 (σ := S g σ w) hM hX.t0 (hX.gk.2 _ hX.i0) hd (by rw [S_put hX.gk hX.i0]; exact h)
theorem GX0_216 (hX : XH g σ w u n K) (hM : (mY M).cls = RX0) (hd : decode (mC M) pc = .ok (.getfield 216, 3)) (h : V E M d out (pc + 3) lv (.int (u 100 18) :: st) (S g σ w)) : V E M d out pc lv (.ref (g.1 0) :: st) (S g σ w) := gX0_216 (σ := S g σ w) hM hX.t0 hd (by rw [S_int hX.gk hX.i0]; rw [hX.sv.at xm_0_18]; exact h)
theorem PX0_216 (hX : XH g σ w u n K) (hM : (mY M).cls = RX0) (hd : decode (mC M) pc = .ok (.putfield 216, 3)) {v : Int32} (h : V E M d out (pc + 3) lv st (S g σ (up2 w 0 39 v))) : V E M d out pc lv (.int v :: .ref (g.1 0) :: st) (S g σ w) := pX0_216 (σ := S g σ w) hM hX.t0 (hX.gk.2 _ hX.i0) hd (by rw [S_put hX.gk hX.i0]; exact h)
theorem GX0_228 (hX : XH g σ w u n K) {i : Nat} (hi : i < n) (hM : (mY M).cls = RX0) (hd : decode (mC M) pc = .ok (.getfield 228, 3)) (h : V E M d out (pc + 3) lv (.int (nI i) :: st) (S g σ w)) : V E M d out pc lv (.ref (g.1 (60 + i)) :: st) (S g σ w) := by
  rcases hX.kd hi with h9 | h9 | h9 | h9 | h9 | h9
  · exact gX0_228_8 (σ := S g σ w) hM h9.1 hd (by rw [S_int hX.gk (hX.ir hi).1, (hX.2.2.2 i hi).2]; exact h)
  · exact gX0_228_9 (σ := S g σ w) hM h9.1 hd (by rw [S_int hX.gk (hX.ir hi).1, (hX.2.2.2 i hi).2]; exact h)
  · exact gX0_228_10 (σ := S g σ w) hM h9.1 hd (by rw [S_int hX.gk (hX.ir hi).1, (hX.2.2.2 i hi).2]; exact h)
  · exact gX0_228_11 (σ := S g σ w) hM h9.1 hd (by rw [S_int hX.gk (hX.ir hi).1, (hX.2.2.2 i hi).2]; exact h)
  · exact gX0_228_12 (σ := S g σ w) hM h9.1 hd (by rw [S_int hX.gk (hX.ir hi).1, (hX.2.2.2 i hi).2]; exact h)
  · exact gX0_228_13 (σ := S g σ w) hM h9.1 hd (by rw [S_int hX.gk (hX.ir hi).1, (hX.2.2.2 i hi).2]; exact h)
theorem GX0_239 (hX : XH g σ w u n K) (hM : (mY M).cls = RX0) (hd : decode (mC M) pc = .ok (.getfield 239, 3)) (h : V E M d out (pc + 3) lv (.int (w 0 26) :: st) (S g σ w)) : V E M d out pc lv (.ref (g.1 0) :: st) (S g σ w) := gX0_239 (σ := S g σ w) hM hX.t0 hd (by rw [S_int hX.gk hX.i0]; exact h)
theorem PX0_239 (hX : XH g σ w u n K) (hM : (mY M).cls = RX0) (hd : decode (mC M) pc = .ok (.putfield 239, 3)) {v : Int32} (h : V E M d out (pc + 3) lv st (S g σ (up2 w 0 26 v))) : V E M d out pc lv (.int v :: .ref (g.1 0) :: st) (S g σ w) := pX0_239 (σ := S g σ w) hM hX.t0 (hX.gk.2 _ hX.i0) hd (by rw [S_put hX.gk hX.i0]; exact h)
theorem GX0_242 (hX : XH g σ w u n K) (hM : (mY M).cls = RX0) (hd : decode (mC M) pc = .ok (.getfield 242, 3)) (h : V E M d out (pc + 3) lv (.int (u 100 24) :: st) (S g σ w)) : V E M d out pc lv (.ref (g.1 0) :: st) (S g σ w) := gX0_242 (σ := S g σ w) hM hX.t0 hd (by rw [S_int hX.gk hX.i0]; rw [hX.sv.at xm_0_24]; exact h)
theorem PX0_242 (hX : XH g σ w u n K) (hM : (mY M).cls = RX0) (hd : decode (mC M) pc = .ok (.putfield 242, 3)) {v : Int32} (h : V E M d out (pc + 3) lv st (S g σ (up2 w 0 27 v))) : V E M d out pc lv (.int v :: .ref (g.1 0) :: st) (S g σ w) := pX0_242 (σ := S g σ w) hM hX.t0 (hX.gk.2 _ hX.i0) hd (by rw [S_put hX.gk hX.i0]; exact h)
theorem GX0_303 (hX : XH g σ w u n K) {s : Nat} (hs : s < 4) (hM : (mY M).cls = RX0) (hd : decode (mC M) pc = .ok (.getfield 303, 3)) (h : V E M d out (pc + 3) lv (.int (u 138 s) :: st) (S g σ w)) : V E M d out pc lv (.ref (g.1 (50 + s)) :: st) (S g σ w) := gX0_303 (σ := S g σ w) hM (hX.si hs).2.1 hd (by rw [S_int hX.gk (hX.ish hs).1, hX.sv.at (xm_138 hs)]; exact h)
theorem PX0_303 (hX : XH g σ w u n K) {s : Nat} (hs : s < 4) (hM : (mY M).cls = RX0) (hd : decode (mC M) pc = .ok (.putfield 303, 3)) {v : Int32} (h : V E M d out (pc + 3) lv st (S g σ (up2 w (50 + s) 0 v))) : V E M d out pc lv (.int v :: .ref (g.1 (50 + s)) :: st) (S g σ w) := pX0_303 (σ := S g σ w) hM (hX.si hs).2.1 (hX.gk.2 _ (hX.ish hs).1) hd (by rw [S_put hX.gk (hX.ish hs).1]; exact h)
theorem GX0_306 (hX : XH g σ w u n K) {s : Nat} (hs : s < 4) (hM : (mY M).cls = RX0) (hd : decode (mC M) pc = .ok (.getfield 306, 3)) (h : V E M d out (pc + 3) lv (.int (u 139 s) :: st) (S g σ w)) : V E M d out pc lv (.ref (g.1 (50 + s)) :: st) (S g σ w) := gX0_306 (σ := S g σ w) hM (hX.si hs).2.1 hd (by rw [S_int hX.gk (hX.ish hs).1, hX.sv.at (xm_139 hs)]; exact h)
theorem PX0_306 (hX : XH g σ w u n K) {s : Nat} (hs : s < 4) (hM : (mY M).cls = RX0) (hd : decode (mC M) pc = .ok (.putfield 306, 3)) {v : Int32} (h : V E M d out (pc + 3) lv st (S g σ (up2 w (50 + s) 1 v))) : V E M d out pc lv (.int v :: .ref (g.1 (50 + s)) :: st) (S g σ w) := pX0_306 (σ := S g σ w) hM (hX.si hs).2.1 (hX.gk.2 _ (hX.ish hs).1) hd (by rw [S_put hX.gk (hX.ish hs).1]; exact h)
theorem GX0_308 (hX : XH g σ w u n K) {s : Nat} (hs : s < 4) (hM : (mY M).cls = RX0) (hd : decode (mC M) pc = .ok (.getfield 308, 3)) (h : V E M d out (pc + 3) lv (.ref (g.1 (54 + s)) :: st) (S g σ w)) : V E M d out pc lv (.ref (g.1 (50 + s)) :: st) (S g σ w) := gX0_308 (σ := S g σ w) hM (hX.si hs).2.1 hd (hX.si hs).2.2.1 h
theorem GX0_326 (hX : XH g σ w u n K) (hM : (mY M).cls = RX0) (hd : decode (mC M) pc = .ok (.getfield 326, 3)) (h : V E M d out (pc + 3) lv (.long (sL σ (g.1 0) 16) :: st) (S g σ w)) : V E M d out pc lv (.ref (g.1 0) :: st) (S g σ w) := gX0_326 (σ := S g σ w) hM hX.t0 hd h
theorem PX0_326 (hX : XH g σ w u n K) (hM : (mY M).cls = RX0) (hd : decode (mC M) pc = .ok (.putfield 326, 3)) {v : Int64} (h : V E M d out (pc + 3) lv st (S g (pL σ (g.1 0) 16 v) w)) : V E M d out pc lv (.long v :: .ref (g.1 0) :: st) (S g σ w) := pX0_326 (σ := S g σ w) hM hX.t0 (hX.gk.2 _ hX.i0) hd h
theorem GX0_330 (hX : XH g σ w u n K) (hM : (mY M).cls = RX0) (hd : decode (mC M) pc = .ok (.getfield 330, 3)) (h : V E M d out (pc + 3) lv (.int (w 0 17) :: st) (S g σ w)) : V E M d out pc lv (.ref (g.1 0) :: st) (S g σ w) := gX0_330 (σ := S g σ w) hM hX.t0 hd (by rw [S_int hX.gk hX.i0]; exact h)
theorem PX0_330 (hX : XH g σ w u n K) (hM : (mY M).cls = RX0) (hd : decode (mC M) pc = .ok (.putfield 330, 3)) {v : Int32} (h : V E M d out (pc + 3) lv st (S g σ (up2 w 0 17 v))) : V E M d out pc lv (.int v :: .ref (g.1 0) :: st) (S g σ w) := pX0_330 (σ := S g σ w) hM hX.t0 (hX.gk.2 _ hX.i0) hd (by rw [S_put hX.gk hX.i0]; exact h)
theorem GX0_371 (hX : XH g σ w u n K) (hM : (mY M).cls = RX0) (hd : decode (mC M) pc = .ok (.getfield 371, 3)) (h : V E M d out (pc + 3) lv (.int (w 0 20) :: st) (S g σ w)) : V E M d out pc lv (.ref (g.1 0) :: st) (S g σ w) := gX0_371 (σ := S g σ w) hM hX.t0 hd (by rw [S_int hX.gk hX.i0]; exact h)
theorem PX0_371 (hX : XH g σ w u n K) (hM : (mY M).cls = RX0) (hd : decode (mC M) pc = .ok (.putfield 371, 3)) {v : Int32} (h : V E M d out (pc + 3) lv st (S g σ (up2 w 0 20 v))) : V E M d out pc lv (.int v :: .ref (g.1 0) :: st) (S g σ w) := pX0_371 (σ := S g σ w) hM hX.t0 (hX.gk.2 _ hX.i0) hd (by rw [S_put hX.gk hX.i0]; exact h)
theorem GX0_378 (hX : XH g σ w u n K) (hM : (mY M).cls = RX0) (hd : decode (mC M) pc = .ok (.getfield 378, 3)) (h : V E M d out (pc + 3) lv (.int (w 0 19) :: st) (S g σ w)) : V E M d out pc lv (.ref (g.1 0) :: st) (S g σ w) := gX0_378 (σ := S g σ w) hM hX.t0 hd (by rw [S_int hX.gk hX.i0]; exact h)
theorem PX0_378 (hX : XH g σ w u n K) (hM : (mY M).cls = RX0) (hd : decode (mC M) pc = .ok (.putfield 378, 3)) {v : Int32} (h : V E M d out (pc + 3) lv st (S g σ (up2 w 0 19 v))) : V E M d out pc lv (.int v :: .ref (g.1 0) :: st) (S g σ w) := pX0_378 (σ := S g σ w) hM hX.t0 (hX.gk.2 _ hX.i0) hd (by rw [S_put hX.gk hX.i0]; exact h)
theorem GX0_391 (hX : XH g σ w u n K) (hM : (mY M).cls = RX0) (hd : decode (mC M) pc = .ok (.getfield 391, 3)) (h : V E M d out (pc + 3) lv (.int (w 0 23) :: st) (S g σ w)) : V E M d out pc lv (.ref (g.1 0) :: st) (S g σ w) := gX0_391 (σ := S g σ w) hM hX.t0 hd (by rw [S_int hX.gk hX.i0]; exact h)
theorem PX0_391 (hX : XH g σ w u n K) (hM : (mY M).cls = RX0) (hd : decode (mC M) pc = .ok (.putfield 391, 3)) {v : Int32} (h : V E M d out (pc + 3) lv st (S g σ (up2 w 0 23 v))) : V E M d out pc lv (.int v :: .ref (g.1 0) :: st) (S g σ w) := pX0_391 (σ := S g σ w) hM hX.t0 (hX.gk.2 _ hX.i0) hd (by rw [S_put hX.gk hX.i0]; exact h)
theorem GX0_394 (hX : XH g σ w u n K) (hM : (mY M).cls = RX0) (hd : decode (mC M) pc = .ok (.getfield 394, 3)) (h : V E M d out (pc + 3) lv (.int (w 0 24) :: st) (S g σ w)) : V E M d out pc lv (.ref (g.1 0) :: st) (S g σ w) := gX0_394 (σ := S g σ w) hM hX.t0 hd (by rw [S_int hX.gk hX.i0]; exact h)
theorem PX0_394 (hX : XH g σ w u n K) (hM : (mY M).cls = RX0) (hd : decode (mC M) pc = .ok (.putfield 394, 3)) {v : Int32} (h : V E M d out (pc + 3) lv st (S g σ (up2 w 0 24 v))) : V E M d out pc lv (.int v :: .ref (g.1 0) :: st) (S g σ w) := pX0_394 (σ := S g σ w) hM hX.t0 (hX.gk.2 _ hX.i0) hd (by rw [S_put hX.gk hX.i0]; exact h)
theorem GX0_403 (hX : XH g σ w u n K) (hM : (mY M).cls = RX0) (hd : decode (mC M) pc = .ok (.getfield 403, 3)) (h : V E M d out (pc + 3) lv (.int (u 100 27) :: st) (S g σ w)) : V E M d out pc lv (.ref (g.1 0) :: st) (S g σ w) := gX0_403 (σ := S g σ w) hM hX.t0 hd (by rw [S_int hX.gk hX.i0]; rw [hX.sv.at xm_0_27]; exact h)
theorem PX0_403 (hX : XH g σ w u n K) (hM : (mY M).cls = RX0) (hd : decode (mC M) pc = .ok (.putfield 403, 3)) {v : Int32} (h : V E M d out (pc + 3) lv st (S g σ (up2 w 0 34 v))) : V E M d out pc lv (.int v :: .ref (g.1 0) :: st) (S g σ w) := pX0_403 (σ := S g σ w) hM hX.t0 (hX.gk.2 _ hX.i0) hd (by rw [S_put hX.gk hX.i0]; exact h)
theorem GX0_406 (hX : XH g σ w u n K) (hM : (mY M).cls = RX0) (hd : decode (mC M) pc = .ok (.getfield 406, 3)) (h : V E M d out (pc + 3) lv (.int (u 100 28) :: st) (S g σ w)) : V E M d out pc lv (.ref (g.1 0) :: st) (S g σ w) := gX0_406 (σ := S g σ w) hM hX.t0 hd (by rw [S_int hX.gk hX.i0]; rw [hX.sv.at xm_0_28]; exact h)
theorem PX0_406 (hX : XH g σ w u n K) (hM : (mY M).cls = RX0) (hd : decode (mC M) pc = .ok (.putfield 406, 3)) {v : Int32} (h : V E M d out (pc + 3) lv st (S g σ (up2 w 0 35 v))) : V E M d out pc lv (.int v :: .ref (g.1 0) :: st) (S g σ w) := pX0_406 (σ := S g σ w) hM hX.t0 (hX.gk.2 _ hX.i0) hd (by rw [S_put hX.gk hX.i0]; exact h)
theorem GX1_9 (hX : XH g σ w u n K) {s : Nat} (hs : s < 4) (hM : (mY M).cls = RX1) (hd : decode (mC M) pc = .ok (.getfield 9, 3)) (h : V E M d out (pc + 3) lv (.int (u 138 s) :: st) (S g σ w)) : V E M d out pc lv (.ref (g.1 (50 + s)) :: st) (S g σ w) := gX1_9 (σ := S g σ w) hM (hX.si hs).2.1 hd (by rw [S_int hX.gk (hX.ish hs).1, hX.sv.at (xm_138 hs)]; exact h)
theorem GX1_18 (hX : XH g σ w u n K) {s : Nat} (hs : s < 4) (hM : (mY M).cls = RX1) (hd : decode (mC M) pc = .ok (.getfield 18, 3)) (h : V E M d out (pc + 3) lv (.ref (g.1 (54 + s)) :: st) (S g σ w)) : V E M d out pc lv (.ref (g.1 (50 + s)) :: st) (S g σ w) := gX1_18 (σ := S g σ w) hM (hX.si hs).2.1 hd (hX.si hs).2.2.1 h
theorem GX10_17 (hX : XH g σ w u n K) {i : Nat} (hi : i < n) (hM : (mY M).cls = RX10) (hd : decode (mC M) pc = .ok (.getfield 17, 3)) (h : V E M d out (pc + 3) lv (.int (u 107 i) :: st) (S g σ w)) : V E M d out pc lv (.ref (g.1 (60 + i)) :: st) (S g σ w) := by
  rcases hX.kd hi with h9 | h9 | h9 | h9 | h9 | h9
  · exact gX10_17_8 (σ := S g σ w) hM h9.1 hd (by rw [S_int hX.gk (hX.ir hi).1, hX.sv.at (xm_107 (hX.n6 hi))]; exact h)
  · exact gX10_17_9 (σ := S g σ w) hM h9.1 hd (by rw [S_int hX.gk (hX.ir hi).1, hX.sv.at (xm_107 (hX.n6 hi))]; exact h)
  · exact gX10_17_10 (σ := S g σ w) hM h9.1 hd (by rw [S_int hX.gk (hX.ir hi).1, hX.sv.at (xm_107 (hX.n6 hi))]; exact h)
  · exact gX10_17_11 (σ := S g σ w) hM h9.1 hd (by rw [S_int hX.gk (hX.ir hi).1, hX.sv.at (xm_107 (hX.n6 hi))]; exact h)
  · exact gX10_17_12 (σ := S g σ w) hM h9.1 hd (by rw [S_int hX.gk (hX.ir hi).1, hX.sv.at (xm_107 (hX.n6 hi))]; exact h)
  · exact gX10_17_13 (σ := S g σ w) hM h9.1 hd (by rw [S_int hX.gk (hX.ir hi).1, hX.sv.at (xm_107 (hX.n6 hi))]; exact h)
theorem GX11_21 (hX : XH g σ w u n K) {i : Nat} (hi : i < n) (hM : (mY M).cls = RX11) (hd : decode (mC M) pc = .ok (.getfield 21, 3)) (h : V E M d out (pc + 3) lv (.int (u 107 i) :: st) (S g σ w)) : V E M d out pc lv (.ref (g.1 (60 + i)) :: st) (S g σ w) := by
  rcases hX.kd hi with h9 | h9 | h9 | h9 | h9 | h9
  · exact gX11_21_8 (σ := S g σ w) hM h9.1 hd (by rw [S_int hX.gk (hX.ir hi).1, hX.sv.at (xm_107 (hX.n6 hi))]; exact h)
  · exact gX11_21_9 (σ := S g σ w) hM h9.1 hd (by rw [S_int hX.gk (hX.ir hi).1, hX.sv.at (xm_107 (hX.n6 hi))]; exact h)
  · exact gX11_21_10 (σ := S g σ w) hM h9.1 hd (by rw [S_int hX.gk (hX.ir hi).1, hX.sv.at (xm_107 (hX.n6 hi))]; exact h)
  · exact gX11_21_11 (σ := S g σ w) hM h9.1 hd (by rw [S_int hX.gk (hX.ir hi).1, hX.sv.at (xm_107 (hX.n6 hi))]; exact h)
  · exact gX11_21_12 (σ := S g σ w) hM h9.1 hd (by rw [S_int hX.gk (hX.ir hi).1, hX.sv.at (xm_107 (hX.n6 hi))]; exact h)
  · exact gX11_21_13 (σ := S g σ w) hM h9.1 hd (by rw [S_int hX.gk (hX.ir hi).1, hX.sv.at (xm_107 (hX.n6 hi))]; exact h)
theorem GX12_20 (hX : XH g σ w u n K) {i : Nat} (hi : i < n) (hM : (mY M).cls = RX12) (hd : decode (mC M) pc = .ok (.getfield 20, 3)) (h : V E M d out (pc + 3) lv (.int (u 107 i) :: st) (S g σ w)) : V E M d out pc lv (.ref (g.1 (60 + i)) :: st) (S g σ w) := by
  rcases hX.kd hi with h9 | h9 | h9 | h9 | h9 | h9
  · exact gX12_20_8 (σ := S g σ w) hM h9.1 hd (by rw [S_int hX.gk (hX.ir hi).1, hX.sv.at (xm_107 (hX.n6 hi))]; exact h)
  · exact gX12_20_9 (σ := S g σ w) hM h9.1 hd (by rw [S_int hX.gk (hX.ir hi).1, hX.sv.at (xm_107 (hX.n6 hi))]; exact h)
  · exact gX12_20_10 (σ := S g σ w) hM h9.1 hd (by rw [S_int hX.gk (hX.ir hi).1, hX.sv.at (xm_107 (hX.n6 hi))]; exact h)
  · exact gX12_20_11 (σ := S g σ w) hM h9.1 hd (by rw [S_int hX.gk (hX.ir hi).1, hX.sv.at (xm_107 (hX.n6 hi))]; exact h)
  · exact gX12_20_12 (σ := S g σ w) hM h9.1 hd (by rw [S_int hX.gk (hX.ir hi).1, hX.sv.at (xm_107 (hX.n6 hi))]; exact h)
  · exact gX12_20_13 (σ := S g σ w) hM h9.1 hd (by rw [S_int hX.gk (hX.ir hi).1, hX.sv.at (xm_107 (hX.n6 hi))]; exact h)
theorem GX13_20 (hX : XH g σ w u n K) {i : Nat} (hi : i < n) (hM : (mY M).cls = RX13) (hd : decode (mC M) pc = .ok (.getfield 20, 3)) (h : V E M d out (pc + 3) lv (.int (u 107 i) :: st) (S g σ w)) : V E M d out pc lv (.ref (g.1 (60 + i)) :: st) (S g σ w) := by
  rcases hX.kd hi with h9 | h9 | h9 | h9 | h9 | h9
  · exact gX13_20_8 (σ := S g σ w) hM h9.1 hd (by rw [S_int hX.gk (hX.ir hi).1, hX.sv.at (xm_107 (hX.n6 hi))]; exact h)
  · exact gX13_20_9 (σ := S g σ w) hM h9.1 hd (by rw [S_int hX.gk (hX.ir hi).1, hX.sv.at (xm_107 (hX.n6 hi))]; exact h)
  · exact gX13_20_10 (σ := S g σ w) hM h9.1 hd (by rw [S_int hX.gk (hX.ir hi).1, hX.sv.at (xm_107 (hX.n6 hi))]; exact h)
  · exact gX13_20_11 (σ := S g σ w) hM h9.1 hd (by rw [S_int hX.gk (hX.ir hi).1, hX.sv.at (xm_107 (hX.n6 hi))]; exact h)
  · exact gX13_20_12 (σ := S g σ w) hM h9.1 hd (by rw [S_int hX.gk (hX.ir hi).1, hX.sv.at (xm_107 (hX.n6 hi))]; exact h)
  · exact gX13_20_13 (σ := S g σ w) hM h9.1 hd (by rw [S_int hX.gk (hX.ir hi).1, hX.sv.at (xm_107 (hX.n6 hi))]; exact h)
theorem GX8_3 (hX : XH g σ w u n K) {i : Nat} (hi : i < n) (hM : (mY M).cls = RX8) (hd : decode (mC M) pc = .ok (.getfield 3, 3)) (h : V E M d out (pc + 3) lv (.ref (g.1 0) :: st) (S g σ w)) : V E M d out pc lv (.ref (g.1 (60 + i)) :: st) (S g σ w) := by
  rcases hX.kd hi with h9 | h9 | h9 | h9 | h9 | h9
  · exact gX8_3_8 (σ := S g σ w) hM h9.1 hd ((hX.ro hi).2.1 4 (by decide) (by decide)) h
  · exact gX8_3_9 (σ := S g σ w) hM h9.1 hd ((hX.ro hi).2.1 4 (by decide) (by decide)) h
  · exact gX8_3_10 (σ := S g σ w) hM h9.1 hd ((hX.ro hi).2.1 4 (by decide) (by decide)) h
  · exact gX8_3_11 (σ := S g σ w) hM h9.1 hd ((hX.ro hi).2.1 4 (by decide) (by decide)) h
  · exact gX8_3_12 (σ := S g σ w) hM h9.1 hd ((hX.ro hi).2.1 4 (by decide) (by decide)) h
  · exact gX8_3_13 (σ := S g σ w) hM h9.1 hd ((hX.ro hi).2.1 4 (by decide) (by decide)) h
theorem GX8_15 (hX : XH g σ w u n K) {i : Nat} (hi : i < n) (hM : (mY M).cls = RX8) (hd : decode (mC M) pc = .ok (.getfield 15, 3)) (h : V E M d out (pc + 3) lv (.ref (g.1 (70 + i)) :: st) (S g σ w)) : V E M d out pc lv (.ref (g.1 (60 + i)) :: st) (S g σ w) := by
  rcases hX.kd hi with h9 | h9 | h9 | h9 | h9 | h9
  · exact gX8_15_8 (σ := S g σ w) hM h9.1 hd (hX.ro hi).1 h
  · exact gX8_15_9 (σ := S g σ w) hM h9.1 hd (hX.ro hi).1 h
  · exact gX8_15_10 (σ := S g σ w) hM h9.1 hd (hX.ro hi).1 h
  · exact gX8_15_11 (σ := S g σ w) hM h9.1 hd (hX.ro hi).1 h
  · exact gX8_15_12 (σ := S g σ w) hM h9.1 hd (hX.ro hi).1 h
  · exact gX8_15_13 (σ := S g σ w) hM h9.1 hd (hX.ro hi).1 h
theorem GX8_19 (hX : XH g σ w u n K) {i : Nat} (hi : i < n) (hM : (mY M).cls = RX8) (hd : decode (mC M) pc = .ok (.getfield 19, 3)) (h : V E M d out (pc + 3) lv (.int (nI i) :: st) (S g σ w)) : V E M d out pc lv (.ref (g.1 (60 + i)) :: st) (S g σ w) := by
  rcases hX.kd hi with h9 | h9 | h9 | h9 | h9 | h9
  · exact gX8_19_8 (σ := S g σ w) hM h9.1 hd (by rw [S_int hX.gk (hX.ir hi).1, (hX.2.2.2 i hi).2]; exact h)
  · exact gX8_19_9 (σ := S g σ w) hM h9.1 hd (by rw [S_int hX.gk (hX.ir hi).1, (hX.2.2.2 i hi).2]; exact h)
  · exact gX8_19_10 (σ := S g σ w) hM h9.1 hd (by rw [S_int hX.gk (hX.ir hi).1, (hX.2.2.2 i hi).2]; exact h)
  · exact gX8_19_11 (σ := S g σ w) hM h9.1 hd (by rw [S_int hX.gk (hX.ir hi).1, (hX.2.2.2 i hi).2]; exact h)
  · exact gX8_19_12 (σ := S g σ w) hM h9.1 hd (by rw [S_int hX.gk (hX.ir hi).1, (hX.2.2.2 i hi).2]; exact h)
  · exact gX8_19_13 (σ := S g σ w) hM h9.1 hd (by rw [S_int hX.gk (hX.ir hi).1, (hX.2.2.2 i hi).2]; exact h)
theorem GX8_29 (hX : XH g σ w u n K) (hM : (mY M).cls = RX8) (hd : decode (mC M) pc = .ok (.getfield 29, 3)) (h : V E M d out (pc + 3) lv (.ref (g.1 6) :: st) (S g σ w)) : V E M d out pc lv (.ref (g.1 0) :: st) (S g σ w) := gX8_29 (σ := S g σ w) hM hX.t0 hd (hX.ai (f := 5) (by decide)).1 h
theorem GX8_33 (hX : XH g σ w u n K) (hM : (mY M).cls = RX8) (hd : decode (mC M) pc = .ok (.getfield 33, 3)) (h : V E M d out (pc + 3) lv (.ref (g.1 5) :: st) (S g σ w)) : V E M d out pc lv (.ref (g.1 0) :: st) (S g σ w) := gX8_33 (σ := S g σ w) hM hX.t0 hd (hX.ai (f := 4) (by decide)).1 h
theorem GX8_40 (hX : XH g σ w u n K) (hM : (mY M).cls = RX8) (hd : decode (mC M) pc = .ok (.getfield 40, 3)) (h : V E M d out (pc + 3) lv (.ref (g.1 1) :: st) (S g σ w)) : V E M d out pc lv (.ref (g.1 0) :: st) (S g σ w) := gX8_40 (σ := S g σ w) hM hX.t0 hd (hX.ai (f := 0) (by decide)).1 h
theorem GX8_52 (hX : XH g σ w u n K) (hM : (mY M).cls = RX8) (hd : decode (mC M) pc = .ok (.getfield 52, 3)) (h : V E M d out (pc + 3) lv (.ref (g.1 2) :: st) (S g σ w)) : V E M d out pc lv (.ref (g.1 0) :: st) (S g σ w) := gX8_52 (σ := S g σ w) hM hX.t0 hd (hX.ai (f := 1) (by decide)).1 h
end

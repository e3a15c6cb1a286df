set_option maxRecDepth 100000
set_option maxHeartbeats 4000000
/-! ===== the law's start: x and m are made ===== -/
/-- where x's names lie, from x's own address on; 0 for none -/
def xO : Nat → Nat := fun k => ([0, 1, 2, 3, 0, 5, 6, 7, 8, 9, 0, 10, 11, 0, 12, 0, 13, 0, 0, 14, 0, 0, 15, 16, 0, 0, 0, 0, 0, 17, 18, 19, 20, 21, 0, 0, 0, 0, 0, 23, 0, 0, 0, 0, 0, 4, 0, 24, 22, 0, 25, 27, 29, 31, 26, 28, 30, 32] : List Nat).getD k 0
def xlv (k : Nat) : Bool := k == 0 || xO k != 0
def xG (X : Nat) : Ge := (fun k => if k = 46 then 1 else if xlv k then X + xO k else 2000000 + k, List.range 42 ++ [45, 50, 51, 52, 53, 54, 55, 56, 57])
theorem xG_m {X k : Nat} : k ∈ (xG X).2 ↔ k < 42 ∨ k = 45 ∨ (50 ≤ k ∧ k < 58) := by
  show k ∈ List.range 42 ++ [45, 50, 51, 52, 53, 54, 55, 56, 57] ↔ _
  simp only [List.mem_append, List.mem_range, List.mem_cons, List.not_mem_nil, or_false]
  omega
theorem xG_at {X k : Nat} (h : xlv k = true) (h46 : k ≠ 46) : (xG X).1 k = X + xO k := by
  show (if k = 46 then 1 else if xlv k then X + xO k else 2000000 + k) = _
  rw [if_neg h46, if_pos h]
theorem xG_gh {X k : Nat} (h : xlv k = false) (h46 : k ≠ 46) : (xG X).1 k = 2000000 + k := by
  show (if k = 46 then 1 else if xlv k then X + xO k else 2000000 + k) = _
  rw [if_neg h46, if_neg (by rw [h]; decide)]
theorem xO_lt {k : Nat} (h : k < 58) : xO k < 33 := (by decide +kernel : ∀ k, k < 58 → xO k < 33) k h
theorem xO_in {k l : Nat} (hk : k < 58) (hl : l < 58) (h1 : xlv k = true) (h2 : xlv l = true) (e : xO k = xO l) : k = l := (by decide +kernel : ∀ k, k < 58 → ∀ l, l < 58 → xlv k = true → xlv l = true → xO k = xO l → k = l) k hk l hl h1 h2 e
theorem xG_b {X k : Nat} (hk : k ∈ (xG X).2) : ((xG X).1 k = X + xO k ∧ xO k < 33 ∧ k < 58 ∧ xlv k = true) ∨ ((xG X).1 k = 2000000 + k ∧ k < 58) := by
  have k1 := xG_m.mp hk
  cases xk : xlv k
  · exact .inr ⟨xG_gh xk (by omega), by omega⟩
  · exact .inl ⟨xG_at xk (by omega), xO_lt (by omega), by omega, rfl⟩
theorem xG_ok {X : Nat} (h1 : 1000 ≤ X) (h2 : X + 33 ≤ 2000000) : Gok (xG X) := by
  refine ⟨fun k hk l hl e => ?_, fun k hk => ?_⟩
  · rcases xG_b hk with ⟨a1, a2, a3, a4⟩ | ⟨a1, a2⟩ <;> rcases xG_b hl with ⟨b1, b2, b3, b4⟩ | ⟨b1, b2⟩
    · exact xO_in a3 b3 a4 b4 (by omega)
    · omega
    · omega
    · omega
  · rcases xG_b hk with ⟨a1, a2, a3, a4⟩ | ⟨a1, a2⟩ <;> omega
theorem S_own {g : Ge} {σ : Sg} {w : Wv} (h : ∀ k, k ∈ g.2 → w k = sI σ (g.1 k)) : S g σ w = σ := sg_ext rfl rfl rfl (by
  funext b j
  show vset g (sI σ) w b j = sI σ b j
  unfold vset
  cases hf : g.2.find? (fun k => g.1 k == b) with
  | none => rfl
  | some k =>
    have a1 := List.mem_of_find?_eq_some hf
    have a2 := List.find?_some hf
    simp only [beq_iff_eq] at a2
    show w k j = sI σ b j
    rw [h k a1, a2]) rfl rfl
/-- m's first world -/
def mF : Wv := up2 (up2 (up2 (up2 (up2 (up2 (up2 (up2 (up2 (up2 (up2 (up2 (up2 (up2 (up2 (fun k j => xV7 (mO k) j) 120 0 0) 120 1 0) 120 2 100002) 120 3 18) 120 4 2) 120 5 17) 120 6 1) 120 7 100003) 120 8 18) 120 9 4) 120 10 16) 120 11 0) 121 1 1) 121 2 6) 121 3 11
/-- x's first world -/
def xF : Wv := fun a b => if a < 60 then up2 xV0 0 37 1 (xO a) b else 0
theorem xm_bd {id j : Nat} {q : Nat × Nat} (h : xm id j = some q) : 100 ≤ id ∧ id < 141 ∧ j < 240 := by
  unfold xm at h
  by_cases e : id = 100
  · rw [if_pos e] at h
    unfold xm0 at h
    by_cases e3 : j = 3
    · omega
    rw [if_neg e3] at h
    by_cases e10 : j = 10
    · omega
    rw [if_neg e10] at h
    by_cases e14 : j = 14
    · omega
    rw [if_neg e14] at h
    by_cases e18 : j = 18
    · omega
    rw [if_neg e18] at h
    by_cases e21 : j = 21
    · omega
    rw [if_neg e21] at h
    by_cases e22 : j = 22
    · omega
    rw [if_neg e22] at h
    by_cases e24 : j = 24
    · omega
    rw [if_neg e24] at h
    by_cases e27 : j = 27
    · omega
    rw [if_neg e27] at h
    by_cases e28 : j = 28
    · omega
    rw [if_neg e28] at h
    cases h
  rw [if_neg e] at h
  by_cases e101 : id = 101
  · rw [if_pos e101] at h
    by_cases hj : j < 4
    · omega
    · rw [if_neg hj] at h; cases h
  rw [if_neg e101] at h
  by_cases e102 : id = 102
  · rw [if_pos e102] at h
    by_cases hj : j < 4
    · omega
    · rw [if_neg hj] at h; cases h
  rw [if_neg e102] at h
  by_cases e103 : id = 103
  · rw [if_pos e103] at h
    by_cases hj : j < 4
    · omega
    · rw [if_neg hj] at h; cases h
  rw [if_neg e103] at h
  by_cases e106 : id = 106
  · rw [if_pos e106] at h
    by_cases hj : j < 6
    · omega
    · rw [if_neg hj] at h; cases h
  rw [if_neg e106] at h
  by_cases e107 : id = 107
  · rw [if_pos e107] at h
    by_cases hj : j < 6
    · omega
    · rw [if_neg hj] at h; cases h
  rw [if_neg e107] at h
  by_cases e108 : id = 108
  · rw [if_pos e108] at h
    by_cases hj : j < 6
    · omega
    · rw [if_neg hj] at h; cases h
  rw [if_neg e108] at h
  by_cases e109 : id = 109
  · rw [if_pos e109] at h
    by_cases hj : j < 6
    · omega
    · rw [if_neg hj] at h; cases h
  rw [if_neg e109] at h
  by_cases e110 : id = 110
  · rw [if_pos e110] at h
    by_cases hj : j < 48
    · omega
    · rw [if_neg hj] at h; cases h
  rw [if_neg e110] at h
  by_cases e112 : id = 112
  · rw [if_pos e112] at h
    by_cases hj : j < 6
    · omega
    · rw [if_neg hj] at h; cases h
  rw [if_neg e112] at h
  by_cases e113 : id = 113
  · rw [if_pos e113] at h
    by_cases hj : j < 6
    · omega
    · rw [if_neg hj] at h; cases h
  rw [if_neg e113] at h
  by_cases e114 : id = 114
  · rw [if_pos e114] at h
    by_cases hj : j < 6
    · omega
    · rw [if_neg hj] at h; cases h
  rw [if_neg e114] at h
  by_cases e116 : id = 116
  · rw [if_pos e116] at h
    by_cases hj : j < 4
    · omega
    · rw [if_neg hj] at h; cases h
  rw [if_neg e116] at h
  by_cases e117 : id = 117
  · rw [if_pos e117] at h
    by_cases hj : j < 4
    · omega
    · rw [if_neg hj] at h; cases h
  rw [if_neg e117] at h
  by_cases e130 : id = 130
  · rw [if_pos e130] at h
    by_cases hj : j < 4
    · omega
    · rw [if_neg hj] at h; cases h
  rw [if_neg e130] at h
  by_cases e131 : id = 131
  · rw [if_pos e131] at h
    by_cases hj : j < 4
    · omega
    · rw [if_neg hj] at h; cases h
  rw [if_neg e131] at h
  by_cases e132 : id = 132
  · rw [if_pos e132] at h
    by_cases hj : j < 4
    · omega
    · rw [if_neg hj] at h; cases h
  rw [if_neg e132] at h
  by_cases e133 : id = 133
  · rw [if_pos e133] at h
    by_cases hj : j < 6
    · omega
    · rw [if_neg hj] at h; cases h
  rw [if_neg e133] at h
  by_cases e134 : id = 134
  · rw [if_pos e134] at h
    by_cases hj : j < 6
    · omega
    · rw [if_neg hj] at h; cases h
  rw [if_neg e134] at h
  by_cases e135 : id = 135
  · rw [if_pos e135] at h
    by_cases hj : j < 48
    · omega
    · rw [if_neg hj] at h; cases h
  rw [if_neg e135] at h
  by_cases e136 : id = 136
  · rw [if_pos e136] at h
    by_cases hj : j < 4
    · omega
    · rw [if_neg hj] at h; cases h
  rw [if_neg e136] at h
  by_cases e137 : id = 137
  · rw [if_pos e137] at h
    by_cases hj : j < 4
    · omega
    · rw [if_neg hj] at h; cases h
  rw [if_neg e137] at h
  by_cases e138 : id = 138
  · rw [if_pos e138] at h
    by_cases hj : j < 4
    · omega
    · rw [if_neg hj] at h; cases h
  rw [if_neg e138] at h
  by_cases e139 : id = 139
  · rw [if_pos e139] at h
    by_cases hj : j < 4
    · omega
    · rw [if_neg hj] at h; cases h
  rw [if_neg e139] at h
  by_cases e140 : id = 140
  · rw [if_pos e140] at h
    by_cases hj : j < 240
    · omega
    · rw [if_neg hj] at h; cases h
  rw [if_neg e140] at h
  cases h
theorem xm_f : ∀ i, i < 41 → ∀ j, j < 240 → (match xm (100 + i) j with
  | none => true
  | some q => mlv (100 + i) && (Nat.ble 60 q.1 || (xlv q.1 && (q.1 != 46) && Nat.blt q.1 58)) && (mF (100 + i) j == xF q.1 q.2)) = true := by decide +kernel
theorem xlen_c {f : Nat} (h : xlen f ≠ 0) : f = 0 ∨ f = 1 ∨ f = 2 ∨ f = 4 ∨ f = 5 ∨ f = 6 ∨ f = 7 ∨ f = 8 ∨ f = 10 ∨ f = 11 ∨ f = 13 ∨ f = 15 ∨ f = 21 ∨ f = 22 ∨ f = 28 ∨ f = 29 ∨ f = 30 ∨ f = 31 := by
  by_cases q : f < 40
  · have m := (by decide +kernel : ∀ f, f < 40 → xlen f ≠ 0 → f ∈ [0, 1, 2, 4, 5, 6, 7, 8, 10, 11, 13, 15, 21, 22, 28, 29, 30, 31]) f q h
    simp only [List.mem_cons, List.not_mem_nil, or_false] at m
    exact m
  · exfalso
    apply h
    unfold xlen
    split <;> first | rfl | omega
theorem xbl_c {f : Nat} (h : xbl f ≠ 0) : f = 18 ∨ f = 32 ∨ f = 38 := by
  by_cases q : f < 40
  · have m := (by decide +kernel : ∀ f, f < 40 → xbl f ≠ 0 → f ∈ [18, 32, 38]) f q h
    simp only [List.mem_cons, List.not_mem_nil, or_false] at m
    exact m
  · exfalso
    apply h
    unfold xbl
    split <;> first | rfl | omega
theorem HA.fst {w : Wv} (hw : ∀ k j, mlv k = true → w k j = mF k j) (hT0 : TOK w 0) : HA w := by
  have e21 : w 100 21 = nI 1 := (hw 100 21 rfl).trans (by decide +kernel)
  have e22 : w 100 22 = nI 0 := (hw 100 22 rfl).trans (by decide +kernel)
  have enT : nT w = 1 := by unfold nT; rw [e21, cl_n (by decide)]
  have eru : ru w = 0 := by unfold ru; rw [e22, cl_n (by decide)]
  have z : ∀ k, mlv k = true → ∀ m, (∀ j, j < m → mF k j = 0) → ∀ j, j < m → w k j = nI 0 := fun k hk m hm j hj => (hw k j hk).trans (hm j hj)
  refine ⟨⟨⟨0, by decide, (hw 100 3 rfl).trans (by decide +kernel)⟩, ⟨0, by decide, (hw 100 10 rfl).trans (by decide +kernel)⟩, ⟨0, by decide, (hw 100 14 rfl).trans (by decide +kernel)⟩, fun r hr => ⟨0, by decide, z 106 rfl 6 (by decide +kernel) r hr⟩, fun i hi => ⟨0, by decide, z 110 rfl 48 (by decide +kernel) i hi⟩⟩, ⟨fun k hk => ?_, fun r hr => ⟨⟨0, by decide, z 107 rfl 6 (by decide +kernel) r hr⟩, 0, by decide, z 108 rfl 6 (by decide +kernel) r hr⟩⟩, ⟨⟨by omega, by omega, by rw [enT]; exact e21⟩, ⟨by omega, by rw [eru]; exact e22⟩, fun t ht => by rw [show t = 0 by omega]; exact hT0⟩, fun s hs => ⟨⟨0, by decide, z 139 rfl 4 (by decide +kernel) s hs⟩, ?_⟩, ⟨0, by decide, (hw 100 18 rfl).trans (by decide +kernel)⟩, ⟨0, by decide, (hw 100 26 rfl).trans (by decide +kernel)⟩, ⟨fun r _ hr => ⟨z 108 rfl 6 (by decide +kernel) r hr, z 109 rfl 6 (by decide +kernel) r hr⟩, fun j _ hj => ⟨z 110 rfl 48 (by decide +kernel) j hj, z 135 rfl 48 (by decide +kernel) j hj⟩⟩, ⟨.inl ((hw 100 25 rfl).trans (by decide +kernel)), fun h => absurd (((hw 100 25 rfl).trans (by decide +kernel) : w 100 25 = 0).symm.trans h) (by decide), fun j hj => ⟨0, by decide, z 135 rfl 48 (by decide +kernel) j hj⟩⟩, fun p hp => ⟨0, by decide, z 113 rfl 6 (by decide +kernel) p hp⟩, (hw 100 23 rfl).trans (by decide +kernel), ⟨fun k hk => ⟨⟨0, by decide, z 130 rfl 4 (by decide +kernel) k hk⟩, ⟨0, by decide, z 131 rfl 4 (by decide +kernel) k hk⟩, 0, by decide, z 132 rfl 4 (by decide +kernel) k hk⟩, fun r hr => ⟨0, by decide, z 133 rfl 6 (by decide +kernel) r hr⟩, 0, by omega, (hw 100 28 rfl).trans (by decide +kernel)⟩⟩
  · have e1 : ∀ k, k < 4 → mF 101 k = nI ([10, 12, 14, 7].getD k 0) ∧ mF 102 k = nI ([14, 16, 19, 9].getD k 0) ∧ mF 103 k = nI 1 := by decide +kernel
    have e2 : ∀ k, k < 4 → [10, 12, 14, 7].getD k 0 ≤ 40 ∧ [14, 16, 19, 9].getD k 0 ≤ 40 := by decide +kernel
    obtain ⟨a1, a2, a3⟩ := e1 k hk
    obtain ⟨b1, b2⟩ := e2 k hk
    exact ⟨⟨_, b1, (hw 101 k rfl).trans a1⟩, ⟨_, b2, (hw 102 k rfl).trans a2⟩, 1, by decide, (hw 103 k rfl).trans a3⟩
  · rw [hw 138 s rfl]
    exact (by decide +kernel : ∀ s, s < 4 → inB (mF 138 s) (-1) 2 = true) s hs
theorem law_first {E : En} {σ s9 τ : Sg} {A : Nat} {cs : Nat → List Int32} {w : Wv} (hO : OSo E σ) (hBC : BC E σ) (hE : EMP E σ) (h1 : 1000 ≤ sN σ) (hB : sN τ + 4000 ≤ 2000000)
    (F1 : FG σ s9 1333 7016) (hA0 : sN σ + 33 ≤ sN s9) (hx : ∀ d, d < 33 → sT s9 (sN σ + d) = xT0 d ∧ sI s9 (sN σ + d) = up2 xV0 0 37 1 d ∧ sR s9 (sN σ + d) = up2 (xR0 (sN σ)) 22 0 (some A) d) (hcs : preC cs 3 = [0, 0, 100002, 18, 2, 17, 1, 100003, 18, 4, 16] ∧ stS cs 4 = [0, 1, 6, 11]) (hA : sN σ + 33 ≤ A) (tA : sT s9 A = (105, 3)) (hT : ∀ j, j < 3 → ∃ b d, d ≤ 400 ∧ sR s9 A j = some b ∧ Tg (sN σ + 33) s9 d b (cs j))
    (hW : WM (mG (sN s9)) τ) (hHW : HW (mG (sN s9)) τ) (hGB : GB (mG (sN s9)) τ) (F2 : FG s9 τ 37 3366) (hw : mW0 w) :
    ∃ wx, S (mG (sN s9)) τ w = S (xG (sN σ)) (S (mG (sN s9)) τ w) wx ∧ LV E (xG (sN σ)) (sN s9) τ wx w w 0 (fun _ => 0) := by
  have hw : ∀ k j, mlv k = true → w k j = mF k j := hw
  have n2 := F2.1
  have hC : CLN τ := F2.2.2.1
  have hg : Gok (xG (sN σ)) := xG_ok h1 (by omega)
  have ht : ∀ d, d < 33 → sT τ (sN σ + d) = xT0 d ∧ sI τ (sN σ + d) = up2 xV0 0 37 1 d ∧ sR τ (sN σ + d) = up2 (xR0 (sN σ)) 22 0 (some A) d := fun d hd => by
    obtain ⟨z1, z2, z3⟩ := hx d hd
    obtain ⟨y1, y2, y3, y4⟩ := F2.2.2.2 (sN σ + d) (by rw [z1]; exact (show ∀ d, d < 33 → (xT0 d).1 ≠ 0 by decide) d hd)
    exact ⟨y1.trans z1, y3.trans z2, y2.trans z3⟩
  obtain ⟨wx, hwx⟩ : ∃ wx : Wv, wx = fun k => if k < 60 then sI τ ((xG (sN σ)).1 k) else fun _ => 0 := ⟨_, rfl⟩
  have wl : ∀ a, a < 58 → xlv a = true → a ≠ 46 → wx a = up2 xV0 0 37 1 (xO a) := fun a ha hl h46 => by
    rw [hwx]
    show (if a < 60 then sI τ ((xG (sN σ)).1 a) else fun _ => 0) = _
    rw [if_pos (by omega), xG_at hl h46, (ht (xO a) (xO_lt ha)).2.1]
  have hAP : AP (xG (sN σ)) (mG (sN s9)) := fun k hk l hl e => by
    obtain ⟨l1, l2⟩ := mG_m.mp hl
    have hM : (mG (sN s9)).1 l = sN s9 + mO l ∨ (mG (sN s9)).1 l = 2000000 + l := by
      cases x1 : mlv l
      · exact .inr (mG_gh x1)
      · exact .inl (mG_at x1)
    rcases xG_b hk with ⟨a1, a2, a3, a4⟩ | ⟨a1, a2⟩ <;> rcases hGB l hl with b | b <;> rcases hM with c | c <;> omega
  have e1 : S (xG (sN σ)) τ wx = τ := S_own (fun k hk => by
    have := xG_m.mp hk
    rw [hwx]
    show (if k < 60 then sI τ ((xG (sN σ)).1 k) else fun _ => 0) = _
    rw [if_pos (by omega)])
  have FA : FG σ τ 1370 10382 := F1.tr F2
  have hE' := hE.fg FA
  have tA' := F2.2.2.2 A (by rw [tA]; decide)
  have hNA : ∀ x, sN σ + 33 ≤ x → (sT τ x).1 ≠ 0 → NA (xG (sN σ)) x := fun x hx hz k hk e => by
    have hlt : x < sN τ := by
      rcases Nat.lt_or_ge x (sN τ) with q | q
      · exact q
      · exact absurd (hC x q) hz
    rcases xG_b hk with ⟨a1, a2, a3, a4⟩ | ⟨a1, a2⟩ <;> omega
  have hTr : ∀ j, j < 3 → ∃ b d, d ≤ 400 ∧ sR τ A j = some b ∧ Tr (xG (sN σ)) τ d b (cs j) := fun j hj => by
    obtain ⟨b, d, d1, d2, d3⟩ := hT j hj
    exact ⟨b, d, d1, by rw [tA'.2.1]; exact d2, Tg.tr hNA d b _ (Tg.fg F2 d b _ d3)⟩
  have hTn := TOK.nw (w' := w) (T := 0) (cs := cs) (by rw [hcs.1]; decide) (fun i hi => by
    rw [hcs.1] at hi ⊢
    have hi : i < 11 := hi
    rw [hw 120 _ rfl]
    exact (by decide +kernel : ∀ i, i < 11 → mF 120 (200 * 0 + i) = ([0, 0, 100002, 18, 2, 17, 1, 100003, 18, 4, 16] : List Int32).getD i 0) i hi) (fun i hi => by
    rw [hcs.2, hw 121 _ rfl]
    exact (by decide +kernel : ∀ i, i < 4 → mF 121 (4 * 0 + i) = nI (([0, 1, 6, 11] : List Nat).getD i 0)) i hi) (fun p hp => by obtain ⟨b, f, -, -, q⟩ := hTr p hp; exact okc_t q)
  have hHA := HA.fst hw hTn.1
  have enT : nT w = 1 := by unfold nT; rw [hw 100 21 rfl]; decide +kernel
  have r0 := (ht 0 (by decide)).2.2
  refine ⟨wx, ?_, ⟨⟨⟨?_, ⟨fun id j q hq => ?_, .inl ⟨?_, hHA.H⟩, .inl ⟨?_, (hw 100 25 rfl).trans (by decide +kernel)⟩, fun j hj => ?_⟩, ⟨by decide, ?_⟩, fun i hi => absurd hi (by omega)⟩, fun i _ hi => ⟨fun z => ?_, fun z => ?_⟩, fun z => ?_, .inl ⟨rfl, rfl⟩, ?_, fun t ht0 => ?_⟩, ⟨hW, hHW, hHA⟩, ⟨hC, fun k hk => ?_, hGB, hAP⟩, ⟨hO.fg FA, hBC.fg FA, hE'⟩, by omega⟩⟩
  · rw [S_comm hAP, e1]
  · refine ⟨hg, ⟨fun k hk => xG_m.mpr (.inl hk), xG_m.mpr (by omega), fun i hi => ⟨xG_m.mpr (by omega), xG_m.mpr (by omega)⟩, fun i hi => absurd hi (by omega)⟩, ⟨congrArg Prod.fst (ht 0 (by decide)).1, fun f hf => ?_, fun f hf => ?_⟩, ⟨congrFun r0 3, congrArg Prod.fst (ht 4 (by decide)).1, congrFun (ht 4 (by decide)).2.2 1, ⟨0, by decide, by decide, hE'.2⟩, fun i hi => absurd hi (by omega)⟩, ⟨congrFun r0 40, (ht 24 (by decide)).1, fun i hi => ?_⟩, fun i hi => absurd hi (by omega), congrFun r0 36, (ht 22 (by decide)).1⟩
    · rcases xlen_c hf with rfl | rfl | rfl | rfl | rfl | rfl | rfl | rfl | rfl | rfl | rfl | rfl | rfl | rfl | rfl | rfl | rfl | rfl
      · exact ⟨congrFun r0 0, (ht 1 (by decide)).1⟩
      · exact ⟨congrFun r0 1, (ht 2 (by decide)).1⟩
      · exact ⟨congrFun r0 2, (ht 3 (by decide)).1⟩
      · exact ⟨congrFun r0 4, (ht 5 (by decide)).1⟩
      · exact ⟨congrFun r0 5, (ht 6 (by decide)).1⟩
      · exact ⟨congrFun r0 6, (ht 7 (by decide)).1⟩
      · exact ⟨congrFun r0 7, (ht 8 (by decide)).1⟩
      · exact ⟨congrFun r0 8, (ht 9 (by decide)).1⟩
      · exact ⟨congrFun r0 10, (ht 10 (by decide)).1⟩
      · exact ⟨congrFun r0 11, (ht 11 (by decide)).1⟩
      · exact ⟨congrFun r0 13, (ht 12 (by decide)).1⟩
      · exact ⟨congrFun r0 15, (ht 13 (by decide)).1⟩
      · exact ⟨congrFun r0 21, (ht 15 (by decide)).1⟩
      · exact ⟨congrFun r0 22, (ht 16 (by decide)).1⟩
      · exact ⟨congrFun r0 28, (ht 17 (by decide)).1⟩
      · exact ⟨congrFun r0 29, (ht 18 (by decide)).1⟩
      · exact ⟨congrFun r0 30, (ht 19 (by decide)).1⟩
      · exact ⟨congrFun r0 31, (ht 20 (by decide)).1⟩
    · rcases xbl_c hf with rfl | rfl | rfl
      · exact ⟨congrFun r0 18, (ht 14 (by decide)).1⟩
      · exact ⟨congrFun r0 32, (ht 21 (by decide)).1⟩
      · exact ⟨congrFun r0 38, (ht 23 (by decide)).1⟩
    · rcases (by omega : i = 0 ∨ i = 1 ∨ i = 2 ∨ i = 3) with rfl | rfl | rfl | rfl
      · exact ⟨congrFun (ht 24 (by decide)).2.2 0, congrArg Prod.fst (ht 25 (by decide)).1, congrFun (ht 25 (by decide)).2.2 2, (ht 26 (by decide)).1⟩
      · exact ⟨congrFun (ht 24 (by decide)).2.2 1, congrArg Prod.fst (ht 27 (by decide)).1, congrFun (ht 27 (by decide)).2.2 2, (ht 28 (by decide)).1⟩
      · exact ⟨congrFun (ht 24 (by decide)).2.2 2, congrArg Prod.fst (ht 29 (by decide)).1, congrFun (ht 29 (by decide)).2.2 2, (ht 30 (by decide)).1⟩
      · exact ⟨congrFun (ht 24 (by decide)).2.2 3, congrArg Prod.fst (ht 31 (by decide)).1, congrFun (ht 31 (by decide)).2.2 2, (ht 32 (by decide)).1⟩
  · obtain ⟨b1, b2, b3⟩ := xm_bd hq
    have c := xm_f (id - 100) (by omega) j b3
    rw [show 100 + (id - 100) = id by omega, hq] at c
    simp only [Bool.and_eq_true, Bool.or_eq_true, beq_iff_eq, Nat.ble_eq, bne_iff_ne, ne_eq] at c
    obtain ⟨⟨c1, c2⟩, c3⟩ := c
    rw [hw id j c1, c3]
    rcases c2 with c2 | ⟨⟨c2, c4⟩, c5⟩
    · rw [hwx]
      show (if q.1 < 60 then up2 xV0 0 37 1 (xO q.1) q.2 else 0) = (if q.1 < 60 then sI τ ((xG (sN σ)).1 q.1) else fun _ => 0) q.2
      rw [if_neg (by omega), if_neg (by omega)]
    · have c5 : q.1 < 58 := Nat.blt_eq.mp c5
      rw [wl q.1 c5 c2 c4]
      show (if q.1 < 60 then up2 xV0 0 37 1 (xO q.1) q.2 else 0) = _
      rw [if_pos (by omega)]
  · rw [wl 0 (by decide) rfl (by decide)]; decide +kernel
  · rw [wl 0 (by decide) rfl (by decide)]; decide +kernel
  · rw [wl 39 (by decide) rfl (by decide), hw 118 j rfl]
    exact (by decide +kernel : ∀ j, j < 160 → mF 118 j = up2 xV0 0 37 1 (xO 39) j &&& 255) j hj
  · rw [wl 45 (by decide) rfl (by decide)]; decide +kernel
  · have := xG_m.mp z; omega
  · have := xG_m.mp z; omega
  · have := xG_m.mp z; omega
  · show 1000 ≤ (xG (sN σ)).1 48
    rw [xG_at rfl (by decide)]; omega
  · rw [enT] at ht0
    rw [show t = 0 by omega]
    refine ⟨A, (congrFun (ht 22 (by decide)).2.2 0).trans (up2_eq _ _ _ _), tA'.1.trans tA, fun p hp => ?_⟩
    rw [hTn.2 p hp]
    exact hTr p hp
  · rcases xG_b hk with ⟨a1, a2, a3, a4⟩ | ⟨a1, a2⟩
    · exact .inl (by omega)
    · exact .inr (by omega)
theorem law_all {E : En} (hF : EF E) {L : Nat} {f : Nat → Int32} (hS : SC E L f) (hL : L ≤ 384) {σ : Sg} (hO : OSo E σ) (hBC : BC E σ) (hE : EMP E σ) (h23 : Stg σ 23 ILt) (hz23 : SR E RX0 101 "like value ; price value * 2 - row ; cost high * 3 + rise ;" 23) (hN : sN σ = 1000) (hZ : sS σ = 0) (hC : CLN σ) : VE E mL_law 2000 (LWP 212000 1100000) 0 [some (.ref 0), none, none, none] [] σ := by
  refine VE.step (fun _ h => nL_7 rfl dL_law_0 (V.dup dL_law_3 h)) ?_
  refine VE.invI0v (Q := fun s => XIP σ (.returned none) s) iL_9 dL_law_4 ((c_X0_init hF.1 hF.2 hO.os hE h23 hz23 (by omega) hC).w (fun o s q => by obtain ⟨A, cs, rfl, r⟩ := q; exact ⟨rfl, A, cs, rfl, r⟩)) (fun s9 q9 => ?_)
  obtain ⟨A, cs, -, ⟨F1, hA0⟩, hx, hcs, hA, tA, hT⟩ := q9
  have n1 := F1.1
  have s1 := F1.2.1
  refine VE.step (fun _ h => V.ast1 dL_law_7 (nL_10 rfl dL_law_8 (V.dup dL_law_11 h))) ?_
  refine VE.invI0v (Q := fun s => MIP s9 (.returned none) s) iL_12 dL_law_12 ((c_X7_init (σ := s9) (by omega) (by omega) F1.2.2.1).w (fun o s q => by obtain ⟨rfl, r⟩ := q; exact ⟨rfl, rfl, r⟩)) (fun t9 q9 => ?_)
  obtain ⟨-, τ, w, rfl, hW, hHW, hGB, F2, hNt, hw⟩ := q9
  have n2 := F2.1
  have s2 := F2.2.1
  refine VE.step (fun _ h => V.ast2 dL_law_15 (V.iconst_0 dL_law_16 (V.ist3 dL_law_17 h))) ?_
  obtain ⟨wx, e, hLV⟩ := law_first hO hBC hE (by omega) (by omega) F1 hA0 hx hcs hA tA hT hW hHW hGB F2 hw
  rw [e]
  exact law_loop hF hS hL (N := 212000) (Z := 1100000) (by decide) 64 0 (xG (sN σ)) (sN s9) τ wx w 0 (fun _ => 0) (by omega) (by omega) (by omega) (by omega) hLV

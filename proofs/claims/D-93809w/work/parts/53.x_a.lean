set_option maxRecDepth 100000
set_option maxHeartbeats 1000000
theorem blt_le {a b d : Nat} (h : Nat.blt b d = true) (h2 : Nat.ble a b = true) : Nat.blt a d = true := Nat.ble_eq.mpr (by have := Nat.le_of_ble_eq_true h; have := Nat.le_of_ble_eq_true h2; show a + 1 ≤ d; omega)
def maxI (a b : Int32) : Int32 := if b ≤ a then a else b
def minI (a b : Int32) : Int32 := if a ≤ b then a else b
/-- a hall's small numbers -/
def HE (u : Wv) : Prop := (∀ k, k < 4 → (∃ a, a ≤ 40 ∧ u 101 k = nI a) ∧ (∃ a, a ≤ 40 ∧ u 102 k = nI a) ∧ ∃ a, a ≤ 9 ∧ u 103 k = nI a) ∧ (∀ r, r < 6 → (∃ a, a ≤ 20 ∧ u 107 r = nI a) ∧ ∃ a, a ≤ 99 ∧ u 108 r = nI a)
theorem mx {a b : Nat} (ha : a < 2 ^ 30) (hb : b < 2 ^ 30) : maxI 0 (nI a - nI b) = if nI a ≤ nI b then 0 else nI a - nI b := by
  by_cases h : a ≤ b
  · rw [if_pos (nI_le h (by omega))]
    by_cases e : a = b
    · rw [e, Int32.sub_self]; rfl
    · have : (nI a - nI b).toInt < 0 := by
        have e1 : (nI a - nI b).toInt = ((a : Int) - b).bmod (2 ^ 32) := by rw [Int32.toInt_sub, nI_toInt (by omega), nI_toInt (by omega)]
        rw [e1, Int.bmod_def]; split <;> omega
      rw [maxI, if_pos (Int32.le_iff_toInt_le.mpr (by rw [Int32.toInt_zero]; omega))]
  · rw [if_neg (fun z => h ((nI_leI (by omega) (by omega)).mp z)), nI_sb (by omega), maxI]
    by_cases e : nI (a - b) ≤ 0
    · rw [if_pos e]
      exact Int32.le_antisymm (nI_pos' (by omega)) e
    · rw [if_neg e]
def inL (a b c : Int64) : Bool := decide (b ≤ a ∧ a ≤ c)
theorem lge {x y : Int64} : ¬ lg_cmp x y < 0 ↔ y ≤ x := by rw [Int32.not_lt]; exact lg_cmp_ge x y
theorem lle {x y : Int64} : ¬ 0 < lg_cmp x y ↔ x ≤ y := by rw [Int32.not_lt]; exact lg_cmp_le x y
theorem c_J10_max {E : En} {σ : Sg} {a b : Int32} : Ct E mJ10_max 0 [.int a, .int b] (.returned (some (.int (maxI a b))), σ) (σ) := by
  show V E mJ10_max 0 _ 0 [some (.int a), some (.int b)] [] (σ)
  refine V.ild0 dJ10_max_0 (V.ild1 dJ10_max_1 (V.icmp_lt (tgt := 9) dJ10_max_2 (by decide) (fun c_2 => ?_) (fun c_2 => ?_)))
  · exact V.ild1 dJ10_max_9 (V.iret dJ10_max_10 rfl rfl (by first | rw [maxI, if_pos (Int32.not_lt.mp c_2)] | rw [maxI, if_neg (Int32.not_le.mpr c_2)]))
  · exact V.ild0 dJ10_max_5 (V.goto (tgt := 10) dJ10_max_6 (by decide) (V.iret dJ10_max_10 rfl rfl (by first | rw [maxI, if_pos (Int32.not_lt.mp c_2)] | rw [maxI, if_neg (Int32.not_le.mpr c_2)])))

theorem c_J10_min {E : En} {σ : Sg} {a b : Int32} : Ct E mJ10_min 0 [.int a, .int b] (.returned (some (.int (minI a b))), σ) (σ) := by
  show V E mJ10_min 0 _ 0 [some (.int a), some (.int b)] [] (σ)
  refine V.ild0 dJ10_min_0 (V.ild1 dJ10_min_1 (V.icmp_gt (tgt := 9) dJ10_min_2 (by decide) (fun c_2 => ?_) (fun c_2 => ?_)))
  · exact V.ild1 dJ10_min_9 (V.iret dJ10_min_10 rfl rfl (by first | rw [minI, if_pos (Int32.not_lt.mp c_2)] | rw [minI, if_neg (Int32.not_le.mpr c_2)]))
  · exact V.ild0 dJ10_min_5 (V.goto (tgt := 10) dJ10_min_6 (by decide) (V.iret dJ10_min_10 rfl rfl (by first | rw [minI, if_pos (Int32.not_lt.mp c_2)] | rw [minI, if_neg (Int32.not_le.mpr c_2)])))

theorem c_J10_abs {E : En} {σ : Sg} {a : Int32} : Ct E mJ10_abs 0 [.int a] (.returned (some (.int (absI a))), σ) (σ) := by
  show V E mJ10_abs 0 _ 0 [some (.int a)] [] (σ)
  refine V.ild0 dJ10_abs_0 (V.if_ge (tgt := 9) dJ10_abs_1 (by decide) (fun c_1 => ?_) (fun c_1 => ?_))
  · exact V.ild0 dJ10_abs_9 (V.iret dJ10_abs_10 rfl rfl (by first | rw [absI, if_pos (Int32.not_le.mp c_1)] | rw [absI, if_neg (Int32.not_lt.mpr c_1)]))
  · exact V.ild0 dJ10_abs_4 (V.ineg dJ10_abs_5 (V.goto (tgt := 10) dJ10_abs_6 (by decide) (V.iret dJ10_abs_10 rfl rfl (by first | rw [absI, if_pos (Int32.not_le.mp c_1)] | rw [absI, if_neg (Int32.not_lt.mpr c_1)]))))

theorem c_X0_in {E : En} {σ : Sg} {a b c : Int64} : Ct E mX0_in 0 [.long a, .long b, .long c] (.returned (some (.int (b2i (inL a b c)))), σ) (σ) := by
  show V E mX0_in 0 _ 0 [some (.long a), none, some (.long b), none, some (.long c), none] [] (σ)
  refine V.lld0 dX0_in_0 (V.lld2 dX0_in_1 (V.lcmp dX0_in_2 (V.if_lt (tgt := 17) dX0_in_3 (by decide) (fun c_3 => ?_) (fun c_3 => ?_))))
  · exact V.iconst_0 dX0_in_17 (V.iret dX0_in_18 rfl (by first | rfl | exact nar_b _) (by first | (rw [inL, decide_eq_true ⟨lge.mp c_3, lle.mp c_10⟩]; rfl) | (rw [inL, decide_eq_false (fun z => c_3 |> fun h9 => absurd h9 (lge.mpr z.1))]; rfl) | (rw [inL, decide_eq_false (fun z => c_10 |> fun h9 => absurd h9 (lle.mpr z.2))]; rfl)))
  · refine V.lld0 dX0_in_6 (V.lld4 dX0_in_7 (V.lcmp dX0_in_9 (V.if_gt (tgt := 17) dX0_in_10 (by decide) (fun c_10 => ?_) (fun c_10 => ?_))))
    · exact V.iconst_0 dX0_in_17 (V.iret dX0_in_18 rfl (by first | rfl | exact nar_b _) (by first | (rw [inL, decide_eq_true ⟨lge.mp c_3, lle.mp c_10⟩]; rfl) | (rw [inL, decide_eq_false (fun z => c_3 |> fun h9 => absurd h9 (lge.mpr z.1))]; rfl) | (rw [inL, decide_eq_false (fun z => c_10 |> fun h9 => absurd h9 (lle.mpr z.2))]; rfl)))
    · exact V.iconst_1 dX0_in_13 (V.goto (tgt := 18) dX0_in_14 (by decide) (V.iret dX0_in_18 rfl (by first | rfl | exact nar_b _) (by first | (rw [inL, decide_eq_true ⟨lge.mp c_3, lle.mp c_10⟩]; rfl) | (rw [inL, decide_eq_false (fun z => c_3 |> fun h9 => absurd h9 (lge.mpr z.1))]; rfl) | (rw [inL, decide_eq_false (fun z => c_10 |> fun h9 => absurd h9 (lle.mpr z.2))]; rfl))))

theorem c_J5_checkIndex {E : En} {σ : Sg} {i n : Nat} (h : i < n) (hn : n < 2 ^ 31) : Ct E mJ5_checkIndex 0 [.int (nI i), .int (nI n), .null] (.returned (some (.int (nI i))), σ) (σ) := by
  show V E mJ5_checkIndex 0 _ 0 [some (.int (nI i)), some (.int (nI n)), some (.null)] [] (σ)
  refine V.ild0 dJ5_checkIndex_0 (V.if_lt (tgt := 9) dJ5_checkIndex_1 (by decide) (fun c_1 => absurd c_1 (nI_pos (by omega))) (fun c_1 => ?_))
  refine V.ild0 dJ5_checkIndex_4 (V.ild1 dJ5_checkIndex_5 (V.icmp_lt (tgt := 16) dJ5_checkIndex_6 (by decide) (fun c_6 => ?_) (fun c_6 => absurd (nI_lt (by omega) (by omega)) c_6)))
  exact V.ild0 dJ5_checkIndex_16 (V.iret dJ5_checkIndex_17 rfl rfl (rfl))

theorem c_J16_checkIndex {E : En} {σ : Sg} {i n : Nat} (h : i < n) (hn : n < 2 ^ 31) : Ct E mJ16_checkIndex 1 [.int (nI i), .int (nI n)] (.returned (some (.int (nI i))), σ) (σ) := by
  show V E mJ16_checkIndex 1 _ 0 [some (.int (nI i)), some (.int (nI n))] [] (σ)
  exact V.ild0 dJ16_checkIndex_0 (V.ild1 dJ16_checkIndex_1 (V.aconst_null dJ16_checkIndex_2 (V.invS3r sJ16_105 dJ16_checkIndex_3 (c_J5_checkIndex h hn) (V.iret dJ16_checkIndex_6 rfl rfl (rfl)))))

theorem XH.i45 {g : Ge} {σ : Sg} {w u : Wv} {n : Nat} {K : Nat → Nat} (h : XH g σ w u n K) : 45 ∈ g.2 := h.1.2.1.2.1
theorem c_J2_size {E : En} {g : Ge} {σ : Sg} {w u : Wv} {n : Nat} {K : Nat → Nat} (hX : XH g σ w u n K) : Ct E mJ2_size 0 [.ref (g.1 45)] (.returned (some (.int (nI n))), S g σ w) (S g σ w) := by
  show V E mJ2_size 0 _ 0 [some (.ref (g.1 45))] [] (S g σ w)
  refine V.ald0 dJ2_size_0 (gJ2_48 (σ := S g σ w) rfl hX.li.2.1 dJ2_size_1 ?_)
  rw [S_int hX.gk hX.i45, hX.2.2.1.2]
  exact V.iret dJ2_size_4 rfl rfl rfl
theorem c_J2_elementData {E : En} {g : Ge} {σ : Sg} {w u : Wv} {n : Nat} {K : Nat → Nat} (hX : XH g σ w u n K) {i : Nat} (hi : i < n) : Ct E mJ2_elementData 0 [.ref (g.1 45), .int (nI i)] (.returned (some (.ref (g.1 (60 + i)))), S g σ w) (S g σ w) := by
  show V E mJ2_elementData 0 _ 0 [some (.ref (g.1 45)), some (.int (nI i))] [] (S g σ w)
  obtain ⟨cap, h1, h2, h3⟩ := hX.li.2.2.2.1
  refine V.ald0 dJ2_elementData_0 (gJ2_9 (σ := S g σ w) rfl hX.li.2.1 dJ2_elementData_1 hX.li.2.2.1 (V.ild1 dJ2_elementData_4 (V.aald (t := 103) (j := i) (σ := S g σ w) h3 (by decide) (by decide) rfl rfl (IX.n (by omega) (by omega)) dJ2_elementData_5 ?_)))
  rw [show sR (S g σ w) (g.1 46) i = some (g.1 (60 + i)) from hX.li.2.2.2.2 i hi]
  exact V.aret dJ2_elementData_6 rfl rfl rfl
theorem c_J2_get {E : En} {g : Ge} {σ : Sg} {w u : Wv} {n : Nat} {K : Nat → Nat} (hX : XH g σ w u n K) {i : Nat} (hi : i < n) : Ct E mJ2_get 2 [.ref (g.1 45), .int (nI i)] (.returned (some (.ref (g.1 (60 + i)))), S g σ w) (S g σ w) := by
  show V E mJ2_get 2 _ 0 [some (.ref (g.1 45)), some (.int (nI i))] [] (S g σ w)
  have h6 := hX.2.2.1.1
  refine V.ild1 dJ2_get_0 (V.ald0 dJ2_get_1 (gJ2_48 (σ := S g σ w) rfl hX.li.2.1 dJ2_get_2 ?_))
  rw [S_int hX.gk hX.i45, hX.2.2.1.2]
  exact V.invS2r sJ2_118 dJ2_get_5 (c_J16_checkIndex hi (by omega)) (V.pop dJ2_get_8 (V.ald0 dJ2_get_9 (V.ild1 dJ2_get_10 (V.invV1r vJ2_123 hX.li.2.1 dJ2_get_11 (c_J2_elementData hX hi) (V.aret (o := some (g.1 (60 + i))) dJ2_get_14 rfl rfl rfl)))))
theorem c_X8_place {E : En} {g : Ge} {σ : Sg} {w u : Wv} {n : Nat} {K : Nat → Nat} (hX : XH g σ w u n K) {i : Nat} (hi : i < n) {c : Int32} : Ct E mX8_place 0 [.ref (g.1 (60 + i)), .int c] (.returned (some (.int (2 * c + u 109 i))), S g σ w) (S g σ w) := by
  show V E mX8_place 0 _ 0 [some (.ref (g.1 (60 + i))), some (.int c)] [] (S g σ w)
  exact V.iconst_2 dX8_place_0 (V.ild1 dX8_place_1 (V.imul dX8_place_2 (V.ald0 dX8_place_3 (GX8_3 hX hi rfl dX8_place_4 (GX8_29 hX rfl dX8_place_7 (V.ald0 dX8_place_10 (GX8_19 hX hi rfl dX8_place_11 (aX5 hX (IX.n (hX.n6 hi) (by decide)) dX8_place_14 (V.iadd dX8_place_15 (V.iret dX8_place_16 rfl rfl (rfl)))))))))))

theorem c_X8_floor {E : En} {g : Ge} {σ : Sg} {w u : Wv} {n : Nat} {K : Nat → Nat} (hX : XH g σ w u n K) {i : Nat} (hi : i < n)  : Ct E mX8_floor 0 [.ref (g.1 (60 + i))] (.returned (some (.int (u 108 i))), S g σ w) (S g σ w) := by
  show V E mX8_floor 0 _ 0 [some (.ref (g.1 (60 + i)))] [] (S g σ w)
  exact V.ald0 dX8_floor_0 (GX8_3 hX hi rfl dX8_floor_1 (GX8_33 hX rfl dX8_floor_4 (V.ald0 dX8_floor_7 (GX8_19 hX hi rfl dX8_floor_8 (aX4 hX (IX.n (hX.n6 hi) (by decide)) dX8_floor_11 (V.iret dX8_floor_12 rfl rfl (rfl)))))))

theorem c_X8_far {E : En} {g : Ge} {σ : Sg} {w u : Wv} {n : Nat} {K : Nat → Nat} (hX : XH g σ w u n K) {i : Nat} (hi : i < n)  : Ct E mX8_far 0 [.ref (g.1 (60 + i))] (.returned (some (.int (10 + 10 * nI i))), S g σ w) (S g σ w) := by
  show V E mX8_far 0 _ 0 [some (.ref (g.1 (60 + i)))] [] (S g σ w)
  exact V.bipush (v := 10) dX8_far_0 (by decide) (V.bipush (v := 10) dX8_far_2 (by decide) (V.ald0 dX8_far_4 (GX8_19 hX hi rfl dX8_far_5 (V.imul dX8_far_8 (V.iadd dX8_far_9 (V.iret dX8_far_10 rfl rfl (rfl)))))))

theorem c_X8_low {E : En} {g : Ge} {σ : Sg} {w u : Wv} {n : Nat} {K : Nat → Nat} (hX : XH g σ w u n K) {i : Nat} (hi : i < n)  : Ct E mX8_low 0 [.ref (g.1 (60 + i))] (.returned (some (.int (0))), S g σ w) (S g σ w) := by
  show V E mX8_low 0 _ 0 [some (.ref (g.1 (60 + i)))] [] (S g σ w)
  exact V.iconst_0 dX8_low_0 (V.iret dX8_low_1 rfl rfl (rfl))

theorem c_X8_isAmong {E : En} {g : Ge} {σ : Sg} {w u : Wv} {n : Nat} {K : Nat → Nat} (hX : XH g σ w u n K) {i : Nat} (hi : i < n)  : Ct E mX8_isAmong 0 [.ref (g.1 (60 + i))] (.returned (some (.int (1))), S g σ w) (S g σ w) := by
  show V E mX8_isAmong 0 _ 0 [some (.ref (g.1 (60 + i)))] [] (S g σ w)
  exact V.iconst_1 dX8_isAmong_0 (V.iret dX8_isAmong_1 rfl (by first | rfl | exact nar_b _) (rfl))

theorem c_X8_kind {E : En} {g : Ge} {σ : Sg} {w u : Wv} {n : Nat} {K : Nat → Nat} (hX : XH g σ w u n K) {i : Nat} (hi : i < n)  : Ct E mX8_kind 0 [.ref (g.1 (60 + i))] (.returned (some (.int (0))), S g σ w) (S g σ w) := by
  show V E mX8_kind 0 _ 0 [some (.ref (g.1 (60 + i)))] [] (S g σ w)
  exact V.iconst_0 dX8_kind_0 (V.iret dX8_kind_1 rfl rfl (rfl))

theorem c_X9_kind {E : En} {g : Ge} {σ : Sg} {w u : Wv} {n : Nat} {K : Nat → Nat} (hX : XH g σ w u n K) {i : Nat} (hi : i < n)  : Ct E mX9_kind 0 [.ref (g.1 (60 + i))] (.returned (some (.int (1))), S g σ w) (S g σ w) := by
  show V E mX9_kind 0 _ 0 [some (.ref (g.1 (60 + i)))] [] (S g σ w)
  exact V.iconst_1 dX9_kind_0 (V.iret dX9_kind_1 rfl rfl (rfl))

theorem c_X10_kind {E : En} {g : Ge} {σ : Sg} {w u : Wv} {n : Nat} {K : Nat → Nat} (hX : XH g σ w u n K) {i : Nat} (hi : i < n)  : Ct E mX10_kind 0 [.ref (g.1 (60 + i))] (.returned (some (.int (2))), S g σ w) (S g σ w) := by
  show V E mX10_kind 0 _ 0 [some (.ref (g.1 (60 + i)))] [] (S g σ w)
  exact V.iconst_2 dX10_kind_0 (V.iret dX10_kind_1 rfl rfl (rfl))

theorem c_X12_isAmong {E : En} {g : Ge} {σ : Sg} {w u : Wv} {n : Nat} {K : Nat → Nat} (hX : XH g σ w u n K) {i : Nat} (hi : i < n)  : Ct E mX12_isAmong 0 [.ref (g.1 (60 + i))] (.returned (some (.int (0))), S g σ w) (S g σ w) := by
  show V E mX12_isAmong 0 _ 0 [some (.ref (g.1 (60 + i)))] [] (S g σ w)
  exact V.iconst_0 dX12_isAmong_0 (V.iret dX12_isAmong_1 rfl (by first | rfl | exact nar_b _) (rfl))

theorem c_X9_place {E : En} {g : Ge} {σ : Sg} {w u : Wv} {n : Nat} {K : Nat → Nat} (hX : XH g σ w u n K) {i : Nat} (hi : i < n) {c9 : Nat} {q9 : vw_C} (h9 : (sT σ (g.1 (60 + i))).1 = c9 + 1) (hc9 : c9 < 100) (hq9 : cls[c9]? = some q9) {c : Int32} : Ct E mX9_place 1 [.ref (g.1 (60 + i)), .int c] (.returned (some (.int (2 * c + u 109 i + 1))), S g σ w) (S g σ w) := by
  show V E mX9_place 1 _ 0 [some (.ref (g.1 (60 + i))), some (.int c)] [] (S g σ w)
  exact V.ald0 dX9_place_0 (V.ild1 dX9_place_1 (V.invU1r uX9_13 h9 hc9 hq9 dX9_place_2 (c_X8_place hX hi) (V.iconst_1 dX9_place_5 (V.iadd dX9_place_6 (V.iret dX9_place_7 rfl rfl (rfl))))))

theorem c_X11_place {E : En} {g : Ge} {σ : Sg} {w u : Wv} {n : Nat} {K : Nat → Nat} (hX : XH g σ w u n K) {i : Nat} (hi : i < n) {c9 : Nat} {q9 : vw_C} (h9 : (sT σ (g.1 (60 + i))).1 = c9 + 1) (hc9 : c9 < 100) (hq9 : cls[c9]? = some q9) {c : Int32} : Ct E mX11_place 2 [.ref (g.1 (60 + i)), .int c] (.returned (some (.int (2 * c + u 109 i + 1 + (u 107 i - u 107 i / 10 * 10)))), S g σ w) (S g σ w) := by
  show V E mX11_place 2 _ 0 [some (.ref (g.1 (60 + i))), some (.int c)] [] (S g σ w)
  exact V.ald0 dX11_place_0 (V.ild1 dX11_place_1 (V.invU1r uX11_17 h9 hc9 hq9 dX11_place_2 (c_X9_place hX hi h9 hc9 hq9) (V.ald0 dX11_place_5 (GX11_21 hX hi rfl dX11_place_6 (V.bipush (v := 10) dX11_place_9 (by decide) (V.irem dX11_place_11 (by decide) (V.iadd dX11_place_12 (V.iret dX11_place_13 rfl rfl (rfl)))))))))

theorem c_X11_far {E : En} {g : Ge} {σ : Sg} {w u : Wv} {n : Nat} {K : Nat → Nat} (hX : XH g σ w u n K) {i : Nat} (hi : i < n) {c9 : Nat} {q9 : vw_C} (h9 : (sT σ (g.1 (60 + i))).1 = c9 + 1) (hc9 : c9 < 100) (hq9 : cls[c9]? = some q9)  : Ct E mX11_far 1 [.ref (g.1 (60 + i))] (.returned (some (.int (10 + 10 * nI i - 3))), S g σ w) (S g σ w) := by
  show V E mX11_far 1 _ 0 [some (.ref (g.1 (60 + i)))] [] (S g σ w)
  exact V.ald0 dX11_far_0 (V.invU0r uX11_25 h9 hc9 hq9 dX11_far_1 (c_X8_far hX hi) (V.iconst_3 dX11_far_4 (V.isub dX11_far_5 (V.iret dX11_far_6 rfl rfl (rfl)))))

theorem c_X10_floor {E : En} {g : Ge} {σ : Sg} {w u : Wv} {n : Nat} {K : Nat → Nat} (hX : XH g σ w u n K) {i : Nat} (hi : i < n) {c9 : Nat} {q9 : vw_C} (h9 : (sT σ (g.1 (60 + i))).1 = c9 + 1) (hc9 : c9 < 100) (hq9 : cls[c9]? = some q9)  : Ct E mX10_floor 1 [.ref (g.1 (60 + i))] (.returned (some (.int (u 108 i + u 107 i))), S g σ w) (S g σ w) := by
  show V E mX10_floor 1 _ 0 [some (.ref (g.1 (60 + i)))] [] (S g σ w)
  exact V.ald0 dX10_floor_0 (V.invU0r uX10_13 h9 hc9 hq9 dX10_floor_1 (c_X8_floor hX hi) (V.ald0 dX10_floor_4 (GX10_17 hX hi rfl dX10_floor_5 (V.iadd dX10_floor_8 (V.iret dX10_floor_9 rfl rfl (rfl))))))

theorem c_X12_floor {E : En} {g : Ge} {σ : Sg} {w u : Wv} {n : Nat} {K : Nat → Nat} (hX : XH g σ w u n K) {i : Nat} (hi : i < n) {c9 : Nat} {q9 : vw_C} (h9 : (sT σ (g.1 (60 + i))).1 = c9 + 1) (hc9 : c9 < 100) (hq9 : cls[c9]? = some q9)  : Ct E mX12_floor 2 [.ref (g.1 (60 + i))] (.returned (some (.int (u 108 i + u 107 i + 2 * u 107 i))), S g σ w) (S g σ w) := by
  show V E mX12_floor 2 _ 0 [some (.ref (g.1 (60 + i)))] [] (S g σ w)
  exact V.ald0 dX12_floor_0 (V.invU0r uX12_17 h9 hc9 hq9 dX12_floor_1 (c_X10_floor hX hi h9 hc9 hq9) (V.iconst_2 dX12_floor_4 (V.ald0 dX12_floor_5 (GX12_20 hX hi rfl dX12_floor_6 (V.imul dX12_floor_9 (V.iadd dX12_floor_10 (V.iret dX12_floor_11 rfl rfl (rfl))))))))

theorem c_X13_low {E : En} {g : Ge} {σ : Sg} {w u : Wv} {n : Nat} {K : Nat → Nat} (hX : XH g σ w u n K) {i : Nat} (hi : i < n) {c9 : Nat} {q9 : vw_C} (h9 : (sT σ (g.1 (60 + i))).1 = c9 + 1) (hc9 : c9 < 100) (hq9 : cls[c9]? = some q9)  : Ct E mX13_low 1 [.ref (g.1 (60 + i))] (.returned (some (.int (0 + u 107 i))), S g σ w) (S g σ w) := by
  show V E mX13_low 1 _ 0 [some (.ref (g.1 (60 + i)))] [] (S g σ w)
  exact V.ald0 dX13_low_0 (V.invU0r uX13_17 h9 hc9 hq9 dX13_low_1 (c_X8_low hX hi) (V.ald0 dX13_low_4 (GX13_20 hX hi rfl dX13_low_5 (V.iadd dX13_low_8 (V.iret dX13_low_9 rfl rfl (rfl))))))

theorem c_X11_kind {E : En} {g : Ge} {σ : Sg} {w u : Wv} {n : Nat} {K : Nat → Nat} (hX : XH g σ w u n K) {i : Nat} (hi : i < n) {c9 : Nat} {q9 : vw_C} (h9 : (sT σ (g.1 (60 + i))).1 = c9 + 1) (hc9 : c9 < 100) (hq9 : cls[c9]? = some q9)  : Ct E mX11_kind 1 [.ref (g.1 (60 + i))] (.returned (some (.int (1 + 2))), S g σ w) (S g σ w) := by
  show V E mX11_kind 1 _ 0 [some (.ref (g.1 (60 + i)))] [] (S g σ w)
  exact V.ald0 dX11_kind_0 (V.invU0r uX11_13 h9 hc9 hq9 dX11_kind_1 (c_X9_kind hX hi) (V.iconst_2 dX11_kind_4 (V.iadd dX11_kind_5 (V.iret dX11_kind_6 rfl rfl (rfl)))))

theorem c_X12_kind {E : En} {g : Ge} {σ : Sg} {w u : Wv} {n : Nat} {K : Nat → Nat} (hX : XH g σ w u n K) {i : Nat} (hi : i < n) {c9 : Nat} {q9 : vw_C} (h9 : (sT σ (g.1 (60 + i))).1 = c9 + 1) (hc9 : c9 < 100) (hq9 : cls[c9]? = some q9)  : Ct E mX12_kind 1 [.ref (g.1 (60 + i))] (.returned (some (.int (2 + 2))), S g σ w) (S g σ w) := by
  show V E mX12_kind 1 _ 0 [some (.ref (g.1 (60 + i)))] [] (S g σ w)
  exact V.ald0 dX12_kind_0 (V.invU0r uX12_13 h9 hc9 hq9 dX12_kind_1 (c_X10_kind hX hi) (V.iconst_2 dX12_kind_4 (V.iadd dX12_kind_5 (V.iret dX12_kind_6 rfl rfl (rfl)))))

theorem c_X13_kind {E : En} {g : Ge} {σ : Sg} {w u : Wv} {n : Nat} {K : Nat → Nat} (hX : XH g σ w u n K) {i : Nat} (hi : i < n) {c9 : Nat} {q9 : vw_C} (h9 : (sT σ (g.1 (60 + i))).1 = c9 + 1) (hc9 : c9 < 100) (hq9 : cls[c9]? = some q9)  : Ct E mX13_kind 1 [.ref (g.1 (60 + i))] (.returned (some (.int (0 + 5))), S g σ w) (S g σ w) := by
  show V E mX13_kind 1 _ 0 [some (.ref (g.1 (60 + i)))] [] (S g σ w)
  exact V.ald0 dX13_kind_0 (V.invU0r uX13_13 h9 hc9 hq9 dX13_kind_1 (c_X8_kind hX hi) (V.iconst_5 dX13_kind_4 (V.iadd dX13_kind_5 (V.iret dX13_kind_6 rfl rfl (rfl)))))

section
variable {E : En} {M : Mi} {d : Nat} {out : Out} {pc : Nat} {lv : List (Option Value)} {st : List Value} {σ : Sg} {g : Ge} {w u : Wv} {n : Nat} {K : Nat → Nat}
theorem rv_place_0 {i : Nat} {c : Int32} (k9 : u 105 i = 0) : pl u i c = 2 * c + u 109 i := by
  simp [pl, k9]
theorem rv_place_1 {i : Nat} {c : Int32} (k9 : u 105 i = 1) : pl u i c = 2 * c + u 109 i + 1 := by
  simp [pl, k9]
theorem rv_place_2 {i : Nat} {c : Int32} (k9 : u 105 i = 2) : pl u i c = 2 * c + u 109 i := by
  simp [pl, k9]
theorem rv_place_3 {i : Nat} {c : Int32} (k9 : u 105 i = 3) : pl u i c = 2 * c + u 109 i + 1 + (u 107 i - u 107 i / 10 * 10) := by
  simp [pl, k9, Int32.add_assoc]
theorem rv_place_4 {i : Nat} {c : Int32} (k9 : u 105 i = 4) : pl u i c = 2 * c + u 109 i := by
  simp [pl, k9]
theorem rv_place_5 {i : Nat} {c : Int32} (k9 : u 105 i = 5) : pl u i c = 2 * c + u 109 i := by
  simp [pl, k9]
theorem rv_floor_0 {i : Nat} {c : Int32} (k9 : u 105 i = 0) : fl u i = u 108 i := by
  simp [fl, k9]
theorem rv_floor_1 {i : Nat} {c : Int32} (k9 : u 105 i = 1) : fl u i = u 108 i := by
  simp [fl, k9]
theorem rv_floor_2 {i : Nat} {c : Int32} (k9 : u 105 i = 2) : fl u i = u 108 i + u 107 i := by
  simp [fl, k9]
theorem rv_floor_3 {i : Nat} {c : Int32} (k9 : u 105 i = 3) : fl u i = u 108 i := by
  simp [fl, k9]
theorem rv_floor_4 {i : Nat} {c : Int32} (k9 : u 105 i = 4) : fl u i = u 108 i + u 107 i + 2 * u 107 i := by
  have e3 : (3 : Int32) * u 107 i = u 107 i + 2 * u 107 i := by rw [show (3 : Int32) = 1 + 2 from rfl, Int32.add_mul, Int32.one_mul]
  simp [fl, k9, e3, Int32.add_assoc]
theorem rv_floor_5 {i : Nat} {c : Int32} (k9 : u 105 i = 5) : fl u i = u 108 i := by
  simp [fl, k9]
theorem rv_far_0 {i : Nat} {c : Int32} (k9 : u 105 i = 0) : fa u i = 10 + 10 * nI i := by
  simp [fa, k9]
theorem rv_far_1 {i : Nat} {c : Int32} (k9 : u 105 i = 1) : fa u i = 10 + 10 * nI i := by
  simp [fa, k9]
theorem rv_far_2 {i : Nat} {c : Int32} (k9 : u 105 i = 2) : fa u i = 10 + 10 * nI i := by
  simp [fa, k9]
theorem rv_far_3 {i : Nat} {c : Int32} (k9 : u 105 i = 3) : fa u i = 10 + 10 * nI i - 3 := by
  simp [fa, k9]
theorem rv_far_4 {i : Nat} {c : Int32} (k9 : u 105 i = 4) : fa u i = 10 + 10 * nI i := by
  simp [fa, k9]
theorem rv_far_5 {i : Nat} {c : Int32} (k9 : u 105 i = 5) : fa u i = 10 + 10 * nI i := by
  simp [fa, k9]
theorem rv_low_0 {i : Nat} {c : Int32} (k9 : u 105 i = 0) : lo u i = 0 := by
  simp [lo, k9]
theorem rv_low_1 {i : Nat} {c : Int32} (k9 : u 105 i = 1) : lo u i = 0 := by
  simp [lo, k9]
theorem rv_low_2 {i : Nat} {c : Int32} (k9 : u 105 i = 2) : lo u i = 0 := by
  simp [lo, k9]
theorem rv_low_3 {i : Nat} {c : Int32} (k9 : u 105 i = 3) : lo u i = 0 := by
  simp [lo, k9]
theorem rv_low_4 {i : Nat} {c : Int32} (k9 : u 105 i = 4) : lo u i = 0 := by
  simp [lo, k9]
theorem rv_low_5 {i : Nat} {c : Int32} (k9 : u 105 i = 5) : lo u i = 0 + u 107 i := by
  simp [lo, k9]
theorem rv_isAmong_0 {i : Nat} {c : Int32} (k9 : u 105 i = 0) : b2i (am u i) = 1 := by
  rw [am, k9]; rfl
theorem rv_isAmong_1 {i : Nat} {c : Int32} (k9 : u 105 i = 1) : b2i (am u i) = 1 := by
  rw [am, k9]; rfl
theorem rv_isAmong_2 {i : Nat} {c : Int32} (k9 : u 105 i = 2) : b2i (am u i) = 1 := by
  rw [am, k9]; rfl
theorem rv_isAmong_3 {i : Nat} {c : Int32} (k9 : u 105 i = 3) : b2i (am u i) = 1 := by
  rw [am, k9]; rfl
theorem rv_isAmong_4 {i : Nat} {c : Int32} (k9 : u 105 i = 4) : b2i (am u i) = 0 := by
  rw [am, k9]; rfl
theorem rv_isAmong_5 {i : Nat} {c : Int32} (k9 : u 105 i = 5) : b2i (am u i) = 1 := by
  rw [am, k9]; rfl
theorem rv_kind_0 {i : Nat} {c : Int32} (k9 : u 105 i = 0) : u 105 i = 0 := by
  rw [k9]; try rfl
theorem rv_kind_1 {i : Nat} {c : Int32} (k9 : u 105 i = 1) : u 105 i = 1 := by
  rw [k9]; try rfl
theorem rv_kind_2 {i : Nat} {c : Int32} (k9 : u 105 i = 2) : u 105 i = 2 := by
  rw [k9]; try rfl
theorem rv_kind_3 {i : Nat} {c : Int32} (k9 : u 105 i = 3) : u 105 i = 1 + 2 := by
  rw [k9]; try rfl
theorem rv_kind_4 {i : Nat} {c : Int32} (k9 : u 105 i = 4) : u 105 i = 2 + 2 := by
  rw [k9]; try rfl
theorem rv_kind_5 {i : Nat} {c : Int32} (k9 : u 105 i = 5) : u 105 i = 0 + 5 := by
  rw [k9]; try rfl
theorem rX0_180 (hX : XH g σ w u n K) {i : Nat} (hi : i < n) (hM : (mY M).cls = RX0) (hd : decode (mC M) pc = .ok (.invokevirtual 180, 3)) (h : V E M d out (pc + 3) lv (.int (u 105 i) :: st) (S g σ w)) (hdd : Nat.blt 1 d = true := by rfl) (hst : Nat.ble (st.map fun v => v.category).sum 8 = true := by first | rfl | (simp [va_rf_cat]; done)) : V E M d out pc lv (.ref (g.1 (60 + i)) :: st) (S g σ w) := by
  rcases hX.kd hi with ⟨h9, k9⟩ | ⟨h9, k9⟩ | ⟨h9, k9⟩ | ⟨h9, k9⟩ | ⟨h9, k9⟩ | ⟨h9, k9⟩
  · rw [rv_kind_0 (c := 0) k9] at h
    exact V.invV0r (by rw [hM]; exact vX0_180_8) h9 hd (c_X8_kind hX hi) h (blt_le hdd rfl) rfl hst
  · rw [rv_kind_1 (c := 0) k9] at h
    exact V.invV0r (by rw [hM]; exact vX0_180_9) h9 hd (c_X9_kind hX hi) h (blt_le hdd rfl) rfl hst
  · rw [rv_kind_2 (c := 0) k9] at h
    exact V.invV0r (by rw [hM]; exact vX0_180_10) h9 hd (c_X10_kind hX hi) h (blt_le hdd rfl) rfl hst
  · rw [rv_kind_3 (c := 0) k9] at h
    exact V.invV0r (by rw [hM]; exact vX0_180_11) h9 hd (c_X11_kind hX hi h9 (by decide) rfl) h (blt_le hdd rfl) rfl hst
  · rw [rv_kind_4 (c := 0) k9] at h
    exact V.invV0r (by rw [hM]; exact vX0_180_12) h9 hd (c_X12_kind hX hi h9 (by decide) rfl) h (blt_le hdd rfl) rfl hst
  · rw [rv_kind_5 (c := 0) k9] at h
    exact V.invV0r (by rw [hM]; exact vX0_180_13) h9 hd (c_X13_kind hX hi h9 (by decide) rfl) h (blt_le hdd rfl) rfl hst
theorem rX0_183 (hX : XH g σ w u n K) {i : Nat} (hi : i < n) (hM : (mY M).cls = RX0) (hd : decode (mC M) pc = .ok (.invokevirtual 183, 3)) {c : Int32} (h : V E M d out (pc + 3) lv (.int (pl u i c) :: st) (S g σ w)) (hdd : Nat.blt 2 d = true := by rfl) (hst : Nat.ble (st.map fun v => v.category).sum 8 = true := by first | rfl | (simp [va_rf_cat]; done)) : V E M d out pc lv (.int c :: .ref (g.1 (60 + i)) :: st) (S g σ w) := by
  rcases hX.kd hi with ⟨h9, k9⟩ | ⟨h9, k9⟩ | ⟨h9, k9⟩ | ⟨h9, k9⟩ | ⟨h9, k9⟩ | ⟨h9, k9⟩
  · rw [rv_place_0 (c := c) k9] at h
    exact V.invV1r (by rw [hM]; exact vX0_183_8) h9 hd (c_X8_place hX hi) h (blt_le hdd rfl) rfl hst
  · rw [rv_place_1 (c := c) k9] at h
    exact V.invV1r (by rw [hM]; exact vX0_183_9) h9 hd (c_X9_place hX hi h9 (by decide) rfl) h (blt_le hdd rfl) rfl hst
  · rw [rv_place_2 (c := c) k9] at h
    exact V.invV1r (by rw [hM]; exact vX0_183_10) h9 hd (c_X8_place hX hi) h (blt_le hdd rfl) rfl hst
  · rw [rv_place_3 (c := c) k9] at h
    exact V.invV1r (by rw [hM]; exact vX0_183_11) h9 hd (c_X11_place hX hi h9 (by decide) rfl) h (blt_le hdd rfl) rfl hst
  · rw [rv_place_4 (c := c) k9] at h
    exact V.invV1r (by rw [hM]; exact vX0_183_12) h9 hd (c_X8_place hX hi) h (blt_le hdd rfl) rfl hst
  · rw [rv_place_5 (c := c) k9] at h
    exact V.invV1r (by rw [hM]; exact vX0_183_13) h9 hd (c_X8_place hX hi) h (blt_le hdd rfl) rfl hst
theorem rX0_187 (hX : XH g σ w u n K) {i : Nat} (hi : i < n) (hM : (mY M).cls = RX0) (hd : decode (mC M) pc = .ok (.invokevirtual 187, 3)) (h : V E M d out (pc + 3) lv (.int (fl u i) :: st) (S g σ w)) (hdd : Nat.blt 2 d = true := by rfl) (hst : Nat.ble (st.map fun v => v.category).sum 8 = true := by first | rfl | (simp [va_rf_cat]; done)) : V E M d out pc lv (.ref (g.1 (60 + i)) :: st) (S g σ w) := by
  rcases hX.kd hi with ⟨h9, k9⟩ | ⟨h9, k9⟩ | ⟨h9, k9⟩ | ⟨h9, k9⟩ | ⟨h9, k9⟩ | ⟨h9, k9⟩
  · rw [rv_floor_0 (c := 0) k9] at h
    exact V.invV0r (by rw [hM]; exact vX0_187_8) h9 hd (c_X8_floor hX hi) h (blt_le hdd rfl) rfl hst
  · rw [rv_floor_1 (c := 0) k9] at h
    exact V.invV0r (by rw [hM]; exact vX0_187_9) h9 hd (c_X8_floor hX hi) h (blt_le hdd rfl) rfl hst
  · rw [rv_floor_2 (c := 0) k9] at h
    exact V.invV0r (by rw [hM]; exact vX0_187_10) h9 hd (c_X10_floor hX hi h9 (by decide) rfl) h (blt_le hdd rfl) rfl hst
  · rw [rv_floor_3 (c := 0) k9] at h
    exact V.invV0r (by rw [hM]; exact vX0_187_11) h9 hd (c_X8_floor hX hi) h (blt_le hdd rfl) rfl hst
  · rw [rv_floor_4 (c := 0) k9] at h
    exact V.invV0r (by rw [hM]; exact vX0_187_12) h9 hd (c_X12_floor hX hi h9 (by decide) rfl) h (blt_le hdd rfl) rfl hst
  · rw [rv_floor_5 (c := 0) k9] at h
    exact V.invV0r (by rw [hM]; exact vX0_187_13) h9 hd (c_X8_floor hX hi) h (blt_le hdd rfl) rfl hst
theorem rX0_190 (hX : XH g σ w u n K) {i : Nat} (hi : i < n) (hM : (mY M).cls = RX0) (hd : decode (mC M) pc = .ok (.invokevirtual 190, 3)) (h : V E M d out (pc + 3) lv (.int (fa u i) :: st) (S g σ w)) (hdd : Nat.blt 1 d = true := by rfl) (hst : Nat.ble (st.map fun v => v.category).sum 8 = true := by first | rfl | (simp [va_rf_cat]; done)) : V E M d out pc lv (.ref (g.1 (60 + i)) :: st) (S g σ w) := by
  rcases hX.kd hi with ⟨h9, k9⟩ | ⟨h9, k9⟩ | ⟨h9, k9⟩ | ⟨h9, k9⟩ | ⟨h9, k9⟩ | ⟨h9, k9⟩
  · rw [rv_far_0 (c := 0) k9] at h
    exact V.invV0r (by rw [hM]; exact vX0_190_8) h9 hd (c_X8_far hX hi) h (blt_le hdd rfl) rfl hst
  · rw [rv_far_1 (c := 0) k9] at h
    exact V.invV0r (by rw [hM]; exact vX0_190_9) h9 hd (c_X8_far hX hi) h (blt_le hdd rfl) rfl hst
  · rw [rv_far_2 (c := 0) k9] at h
    exact V.invV0r (by rw [hM]; exact vX0_190_10) h9 hd (c_X8_far hX hi) h (blt_le hdd rfl) rfl hst
  · rw [rv_far_3 (c := 0) k9] at h
    exact V.invV0r (by rw [hM]; exact vX0_190_11) h9 hd (c_X11_far hX hi h9 (by decide) rfl) h (blt_le hdd rfl) rfl hst
  · rw [rv_far_4 (c := 0) k9] at h
    exact V.invV0r (by rw [hM]; exact vX0_190_12) h9 hd (c_X8_far hX hi) h (blt_le hdd rfl) rfl hst
  · rw [rv_far_5 (c := 0) k9] at h
    exact V.invV0r (by rw [hM]; exact vX0_190_13) h9 hd (c_X8_far hX hi) h (blt_le hdd rfl) rfl hst
theorem rX0_199 (hX : XH g σ w u n K) {i : Nat} (hi : i < n) (hM : (mY M).cls = RX0) (hd : decode (mC M) pc = .ok (.invokevirtual 199, 3)) (h : V E M d out (pc + 3) lv (.int (b2i (am u i)) :: st) (S g σ w)) (hdd : Nat.blt 0 d = true := by rfl) (hst : Nat.ble (st.map fun v => v.category).sum 8 = true := by first | rfl | (simp [va_rf_cat]; done)) : V E M d out pc lv (.ref (g.1 (60 + i)) :: st) (S g σ w) := by
  rcases hX.kd hi with ⟨h9, k9⟩ | ⟨h9, k9⟩ | ⟨h9, k9⟩ | ⟨h9, k9⟩ | ⟨h9, k9⟩ | ⟨h9, k9⟩
  · rw [rv_isAmong_0 (c := 0) k9] at h
    exact V.invV0r (by rw [hM]; exact vX0_199_8) h9 hd (c_X8_isAmong hX hi) h (blt_le hdd rfl) rfl hst
  · rw [rv_isAmong_1 (c := 0) k9] at h
    exact V.invV0r (by rw [hM]; exact vX0_199_9) h9 hd (c_X8_isAmong hX hi) h (blt_le hdd rfl) rfl hst
  · rw [rv_isAmong_2 (c := 0) k9] at h
    exact V.invV0r (by rw [hM]; exact vX0_199_10) h9 hd (c_X8_isAmong hX hi) h (blt_le hdd rfl) rfl hst
  · rw [rv_isAmong_3 (c := 0) k9] at h
    exact V.invV0r (by rw [hM]; exact vX0_199_11) h9 hd (c_X8_isAmong hX hi) h (blt_le hdd rfl) rfl hst
  · rw [rv_isAmong_4 (c := 0) k9] at h
    exact V.invV0r (by rw [hM]; exact vX0_199_12) h9 hd (c_X12_isAmong hX hi) h (blt_le hdd rfl) rfl hst
  · rw [rv_isAmong_5 (c := 0) k9] at h
    exact V.invV0r (by rw [hM]; exact vX0_199_13) h9 hd (c_X8_isAmong hX hi) h (blt_le hdd rfl) rfl hst
theorem rX8_36 (hX : XH g σ w u n K) {i : Nat} (hi : i < n) (hM : (mY M).cls = RX8) (hd : decode (mC M) pc = .ok (.invokevirtual 36, 3)) (h : V E M d out (pc + 3) lv (.int (fl u i) :: st) (S g σ w)) (hdd : Nat.blt 2 d = true := by rfl) (hst : Nat.ble (st.map fun v => v.category).sum 8 = true := by first | rfl | (simp [va_rf_cat]; done)) : V E M d out pc lv (.ref (g.1 (60 + i)) :: st) (S g σ w) := by
  rcases hX.kd hi with ⟨h9, k9⟩ | ⟨h9, k9⟩ | ⟨h9, k9⟩ | ⟨h9, k9⟩ | ⟨h9, k9⟩ | ⟨h9, k9⟩
  · rw [rv_floor_0 (c := 0) k9] at h
    exact V.invV0r (by rw [hM]; exact vX8_36_8) h9 hd (c_X8_floor hX hi) h (blt_le hdd rfl) rfl hst
  · rw [rv_floor_1 (c := 0) k9] at h
    exact V.invV0r (by rw [hM]; exact vX8_36_9) h9 hd (c_X8_floor hX hi) h (blt_le hdd rfl) rfl hst
  · rw [rv_floor_2 (c := 0) k9] at h
    exact V.invV0r (by rw [hM]; exact vX8_36_10) h9 hd (c_X10_floor hX hi h9 (by decide) rfl) h (blt_le hdd rfl) rfl hst
  · rw [rv_floor_3 (c := 0) k9] at h
    exact V.invV0r (by rw [hM]; exact vX8_36_11) h9 hd (c_X8_floor hX hi) h (blt_le hdd rfl) rfl hst
  · rw [rv_floor_4 (c := 0) k9] at h
    exact V.invV0r (by rw [hM]; exact vX8_36_12) h9 hd (c_X12_floor hX hi h9 (by decide) rfl) h (blt_le hdd rfl) rfl hst
  · rw [rv_floor_5 (c := 0) k9] at h
    exact V.invV0r (by rw [hM]; exact vX8_36_13) h9 hd (c_X8_floor hX hi) h (blt_le hdd rfl) rfl hst
theorem rX8_43 (hX : XH g σ w u n K) {i : Nat} (hi : i < n) (hM : (mY M).cls = RX8) (hd : decode (mC M) pc = .ok (.invokevirtual 43, 3)) (h : V E M d out (pc + 3) lv (.int (lo u i) :: st) (S g σ w)) (hdd : Nat.blt 1 d = true := by rfl) (hst : Nat.ble (st.map fun v => v.category).sum 8 = true := by first | rfl | (simp [va_rf_cat]; done)) : V E M d out pc lv (.ref (g.1 (60 + i)) :: st) (S g σ w) := by
  rcases hX.kd hi with ⟨h9, k9⟩ | ⟨h9, k9⟩ | ⟨h9, k9⟩ | ⟨h9, k9⟩ | ⟨h9, k9⟩ | ⟨h9, k9⟩
  · rw [rv_low_0 (c := 0) k9] at h
    exact V.invV0r (by rw [hM]; exact vX8_43_8) h9 hd (c_X8_low hX hi) h (blt_le hdd rfl) rfl hst
  · rw [rv_low_1 (c := 0) k9] at h
    exact V.invV0r (by rw [hM]; exact vX8_43_9) h9 hd (c_X8_low hX hi) h (blt_le hdd rfl) rfl hst
  · rw [rv_low_2 (c := 0) k9] at h
    exact V.invV0r (by rw [hM]; exact vX8_43_10) h9 hd (c_X8_low hX hi) h (blt_le hdd rfl) rfl hst
  · rw [rv_low_3 (c := 0) k9] at h
    exact V.invV0r (by rw [hM]; exact vX8_43_11) h9 hd (c_X8_low hX hi) h (blt_le hdd rfl) rfl hst
  · rw [rv_low_4 (c := 0) k9] at h
    exact V.invV0r (by rw [hM]; exact vX8_43_12) h9 hd (c_X8_low hX hi) h (blt_le hdd rfl) rfl hst
  · rw [rv_low_5 (c := 0) k9] at h
    exact V.invV0r (by rw [hM]; exact vX8_43_13) h9 hd (c_X13_low hX hi h9 (by decide) rfl) h (blt_le hdd rfl) rfl hst
theorem ccX0_122 (hX : XH g σ w u n K) {i : Nat} (hi : i < n) (hM : (mY M).cls = RX0) (hd : decode (mC M) pc = .ok (.checkcast 122, 3)) (h : V E M d out (pc + 3) lv (.ref (g.1 (60 + i)) :: st) (S g σ w)) : V E M d out pc lv (.ref (g.1 (60 + i)) :: st) (S g σ w) := by
  rcases hX.kd hi with ⟨h9, k9⟩ | ⟨h9, k9⟩ | ⟨h9, k9⟩ | ⟨h9, k9⟩ | ⟨h9, k9⟩ | ⟨h9, k9⟩
  · exact V.ccast (σ := S g σ w) h9 (by decide) (show cls[8]? = some (RX8, TX8, 5) from rfl) (by rw [hM]; exact q825) (.inl rfl) hd h
  · exact V.ccast (σ := S g σ w) h9 (by decide) (show cls[9]? = some (RX9, TX9, 6) from rfl) (by rw [hM]; exact q825) (.inr q2107) hd h
  · exact V.ccast (σ := S g σ w) h9 (by decide) (show cls[10]? = some (RX10, TX10, 6) from rfl) (by rw [hM]; exact q825) (.inr q2106) hd h
  · exact V.ccast (σ := S g σ w) h9 (by decide) (show cls[11]? = some (RX11, TX11, 7) from rfl) (by rw [hM]; exact q825) (.inr q2104) hd h
  · exact V.ccast (σ := S g σ w) h9 (by decide) (show cls[12]? = some (RX12, TX12, 7) from rfl) (by rw [hM]; exact q825) (.inr q2103) hd h
  · exact V.ccast (σ := S g σ w) h9 (by decide) (show cls[13]? = some (RX13, TX13, 6) from rfl) (by rw [hM]; exact q825) (.inr q2105) hd h
theorem ccX15_13 (hX : XH g σ w u n K) {i : Nat} (hi : i < n) (hM : (mY M).cls = RX15) (hd : decode (mC M) pc = .ok (.checkcast 13, 3)) (h : V E M d out (pc + 3) lv (.ref (g.1 (60 + i)) :: st) (S g σ w)) : V E M d out pc lv (.ref (g.1 (60 + i)) :: st) (S g σ w) := by
  rcases hX.kd hi with ⟨h9, k9⟩ | ⟨h9, k9⟩ | ⟨h9, k9⟩ | ⟨h9, k9⟩ | ⟨h9, k9⟩ | ⟨h9, k9⟩
  · exact V.ccast (σ := S g σ w) h9 (by decide) (show cls[8]? = some (RX8, TX8, 5) from rfl) (by rw [hM]; exact q1519) (.inl rfl) hd h
  · exact V.ccast (σ := S g σ w) h9 (by decide) (show cls[9]? = some (RX9, TX9, 6) from rfl) (by rw [hM]; exact q1519) (.inr q2107) hd h
  · exact V.ccast (σ := S g σ w) h9 (by decide) (show cls[10]? = some (RX10, TX10, 6) from rfl) (by rw [hM]; exact q1519) (.inr q2106) hd h
  · exact V.ccast (σ := S g σ w) h9 (by decide) (show cls[11]? = some (RX11, TX11, 7) from rfl) (by rw [hM]; exact q1519) (.inr q2104) hd h
  · exact V.ccast (σ := S g σ w) h9 (by decide) (show cls[12]? = some (RX12, TX12, 7) from rfl) (by rw [hM]; exact q1519) (.inr q2103) hd h
  · exact V.ccast (σ := S g σ w) h9 (by decide) (show cls[13]? = some (RX13, TX13, 6) from rfl) (by rw [hM]; exact q1519) (.inr q2105) hd h
end
theorem sx_ix {u : Wv} (h : HI u) {r c : Nat} (hr : r < 6) (hc : c < 8) : IX (so u r c) (cl (so u r c)) 4 := h.sort (by omega)
theorem ab_mx {u : Wv} (hE : HE u) {r k : Nat} {f : Nat} (hf : f = 101 ∨ f = 102) (hr : r < 6) (hk : k < 4) : fl u r + maxI 0 (u f k - lo u r) = ab u r (u f k) := by
  obtain ⟨h1, h2⟩ := hE
  obtain ⟨⟨b, hb, eb⟩, -⟩ := h2 r hr
  obtain ⟨⟨a1, ha1, e1⟩, ⟨a2, ha2, e2⟩, -⟩ := h1 k hk
  obtain ⟨a, ha, e⟩ : ∃ a, a ≤ 40 ∧ u f k = nI a := by rcases hf with rfl | rfl; exact ⟨a1, ha1, e1⟩; exact ⟨a2, ha2, e2⟩
  obtain ⟨l, hl, el⟩ : ∃ l, l ≤ 20 ∧ lo u r = nI l := by
    unfold lo
    split
    · exact ⟨b, hb, eb⟩
    · exact ⟨0, by omega, rfl⟩
  rw [ab, e, el, mx (by omega) (by omega)]
theorem c_X8_eyes {E : En} {g : Ge} {σ : Sg} {w u : Wv} {n : Nat} {K : Nat → Nat} (hX : XH g σ w u n K) {i : Nat} (hi : i < n) (hI : HI u) (hE : HE u) {c : Nat} (hc : c < 8) : Ct E mX8_eyes 3 [.ref (g.1 (60 + i)), .int (nI c)] (.returned (some (.int (ey u i c))), S g σ w) (S g σ w) := by
  show V E mX8_eyes 3 _ 0 [some (.ref (g.1 (60 + i))), some (.int (nI c))] [] (S g σ w)
  refine V.ald0 dX8_eyes_0 (rX8_36 hX hi rfl dX8_eyes_1  (V.iconst_0 dX8_eyes_4 (V.ald0 dX8_eyes_5 (GX8_3 hX hi rfl dX8_eyes_6 (GX8_40 hX rfl dX8_eyes_9 (V.ald0 dX8_eyes_12 (GX8_15 hX hi rfl dX8_eyes_13 (V.ild1 dX8_eyes_16 (aXs hX hi (IX.n hc (by decide)) dX8_eyes_17 (aX0 (j := cl (so u i c)) hX (sx_ix hI (hX.n6 hi) hc) dX8_eyes_18 (V.ald0 dX8_eyes_19 (rX8_43 hX hi rfl dX8_eyes_20  ?_))))))))))))
  exact V.isub dX8_eyes_23 (V.invS2r sX8_46 dX8_eyes_24 c_J10_max (V.iadd dX8_eyes_27 (V.iret dX8_eyes_28 rfl rfl (by rw [ab_mx hE (.inl rfl) (hX.n6 hi) (sx_ix hI (hX.n6 hi) hc).2.2]; rfl))))

theorem c_X8_heads {E : En} {g : Ge} {σ : Sg} {w u : Wv} {n : Nat} {K : Nat → Nat} (hX : XH g σ w u n K) {i : Nat} (hi : i < n) (hE : HE u) {k : Nat} {ik : Int32} (hk : IX ik k 4) : Ct E mX8_heads 3 [.ref (g.1 (60 + i)), .int ik] (.returned (some (.int (ab u i (u 102 k)))), S g σ w) (S g σ w) := by
  show V E mX8_heads 3 _ 0 [some (.ref (g.1 (60 + i))), some (.int ik)] [] (S g σ w)
  exact V.ald0 dX8_heads_0 (rX8_36 hX hi rfl dX8_heads_1  (V.iconst_0 dX8_heads_4 (V.ald0 dX8_heads_5 (GX8_3 hX hi rfl dX8_heads_6 (GX8_52 hX rfl dX8_heads_9 (V.ild1 dX8_heads_12 (aX1 hX hk dX8_heads_13 (V.ald0 dX8_heads_14 (rX8_43 hX hi rfl dX8_heads_15  (V.isub dX8_heads_18 (V.invS2r sX8_46 dX8_heads_19 c_J10_max (V.iadd dX8_heads_22 (V.iret dX8_heads_23 rfl rfl (by rw [ab_mx hE (.inr rfl) (hX.n6 hi) hk.2.2]))))))))))))))

section
variable {E : En} {M : Mi} {d : Nat} {out : Out} {pc : Nat} {lv : List (Option Value)} {st : List Value} {σ : Sg} {g : Ge} {w u : Wv} {n : Nat} {K : Nat → Nat}
theorem rX0_193 (hX : XH g σ w u n K) {i : Nat} (hi : i < n) (hM : (mY M).cls = RX0) (hd : decode (mC M) pc = .ok (.invokevirtual 193, 3)) (hI : HI u) (hE : HE u) {c : Nat} (hc : c < 8) (h : V E M d out (pc + 3) lv (.int (ey u i c) :: st) (S g σ w)) (hdd : Nat.blt 3 d = true := by rfl) (hst : Nat.ble (st.map fun v => v.category).sum 8 = true := by first | rfl | (simp [va_rf_cat]; done)) : V E M d out pc lv (.int (nI c) :: .ref (g.1 (60 + i)) :: st) (S g σ w) := by
  rcases hX.kd hi with ⟨h9, k9⟩ | ⟨h9, k9⟩ | ⟨h9, k9⟩ | ⟨h9, k9⟩ | ⟨h9, k9⟩ | ⟨h9, k9⟩
  · exact V.invV1r (by rw [hM]; exact vX0_193_8) h9 hd (c_X8_eyes hX hi hI hE hc) h hdd rfl hst
  · exact V.invV1r (by rw [hM]; exact vX0_193_9) h9 hd (c_X8_eyes hX hi hI hE hc) h hdd rfl hst
  · exact V.invV1r (by rw [hM]; exact vX0_193_10) h9 hd (c_X8_eyes hX hi hI hE hc) h hdd rfl hst
  · exact V.invV1r (by rw [hM]; exact vX0_193_11) h9 hd (c_X8_eyes hX hi hI hE hc) h hdd rfl hst
  · exact V.invV1r (by rw [hM]; exact vX0_193_12) h9 hd (c_X8_eyes hX hi hI hE hc) h hdd rfl hst
  · exact V.invV1r (by rw [hM]; exact vX0_193_13) h9 hd (c_X8_eyes hX hi hI hE hc) h hdd rfl hst
theorem rX0_196 (hX : XH g σ w u n K) {i : Nat} (hi : i < n) (hM : (mY M).cls = RX0) (hd : decode (mC M) pc = .ok (.invokevirtual 196, 3)) (hE : HE u) {k : Nat} {ik : Int32} (hk : IX ik k 4) (h : V E M d out (pc + 3) lv (.int (ab u i (u 102 k)) :: st) (S g σ w)) (hdd : Nat.blt 3 d = true := by rfl) (hst : Nat.ble (st.map fun v => v.category).sum 8 = true := by first | rfl | (simp [va_rf_cat]; done)) : V E M d out pc lv (.int ik :: .ref (g.1 (60 + i)) :: st) (S g σ w) := by
  rcases hX.kd hi with ⟨h9, k9⟩ | ⟨h9, k9⟩ | ⟨h9, k9⟩ | ⟨h9, k9⟩ | ⟨h9, k9⟩ | ⟨h9, k9⟩
  · exact V.invV1r (by rw [hM]; exact vX0_196_8) h9 hd (c_X8_heads hX hi hE hk) h hdd rfl hst
  · exact V.invV1r (by rw [hM]; exact vX0_196_9) h9 hd (c_X8_heads hX hi hE hk) h hdd rfl hst
  · exact V.invV1r (by rw [hM]; exact vX0_196_10) h9 hd (c_X8_heads hX hi hE hk) h hdd rfl hst
  · exact V.invV1r (by rw [hM]; exact vX0_196_11) h9 hd (c_X8_heads hX hi hE hk) h hdd rfl hst
  · exact V.invV1r (by rw [hM]; exact vX0_196_12) h9 hd (c_X8_heads hX hi hE hk) h hdd rfl hst
  · exact V.invV1r (by rw [hM]; exact vX0_196_13) h9 hd (c_X8_heads hX hi hE hk) h hdd rfl hst
end
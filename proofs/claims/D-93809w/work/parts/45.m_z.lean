set_option maxRecDepth 100000
set_option maxHeartbeats 1000000
/-! ===== texts: signs that wait ===== -/
def rk (s : Int32) : Int32 := if s = 0 then 0 else if s = 11 then 1 else if s = 12 then 2 else if s = 13 then 3 else if 15 < s then (if 17 < s then (if s = 18 then 6 else 7) else 5) else 4
def sgO (t : Int32) : Int32 := if t = 4 then 11 else if t = 5 then 12 else if t = 60 then 14 else if t = 61 then 15 else if t = 43 then 16 else if t = 45 then 17 else if t = 42 then 18 else -1
def isO (s : Int32) : Bool := decide (s = 0) || decide (s = 13) || decide (s = 19)
def cntO : List Int32 → Nat
  | [] => 0
  | s :: K => cntO K + (if isO s then 1 else 0)
/-- all signs that bind at least so come -/
def unw (l : Int32) : List Int32 → List Int32 → List Int32 × List Int32
  | [], C => ([], C)
  | s :: K, C => if rk s < l then (s :: K, C) else unw l K (C ++ [s])
def SYR (T : Nat) (w0 w : Wv) (K C : List Int32) (a b : Nat) (t y : Int32) : Prop :=
  (∀ id j, (scI id || (id == 100 && scJ j)) = false → ¬ (id = 120 ∧ 200 * T ≤ j ∧ j < 200 * T + 200) → w id j = w0 id j) ∧
  (w 100 40 = nI a ∧ w 100 41 = nI b ∧ w 100 42 = t ∧ w 100 43 = y) ∧
  (w 100 46 = nI K.length ∧ w 100 47 = nI (cntO K) ∧ w 100 48 = nI C.length) ∧
  (∀ j, j < K.length → w 146 j = K.reverse.getD j 0) ∧ (∀ i, i < C.length → w 120 (200 * T + i) = C.getD i 0) ∧ K.length + C.length ≤ 180
theorem rev_top {s : Int32} {K : List Int32} : (s :: K).reverse.getD K.length 0 = s := by simp [List.getD]
theorem rev_low {s : Int32} {K : List Int32} {j : Nat} (h : j < K.length) : (s :: K).reverse.getD j 0 = K.reverse.getD j 0 := by
  simp [List.getD, List.getElem?_append_left, h]
theorem app_low {s : Int32} {C : List Int32} {j : Nat} (h : j < C.length) : (C ++ [s]).getD j 0 = C.getD j 0 := by
  simp [List.getD, List.getElem?_append_left, h]
theorem app_top {s : Int32} {C : List Int32} : (C ++ [s]).getD C.length 0 = s := by simp [List.getD]
theorem cnt_le {K : List Int32} : cntO K ≤ K.length := by
  induction K with
  | nil => exact Nat.le_refl _
  | cons s K ih => rw [cntO, List.length_cons]; split <;> omega
/-- a code is put -/
theorem SYR.put {T : Nat} {w0 w : Wv} {K C : List Int32} {a b : Nat} {t y s : Int32} (h : SYR T w0 w K C a b t y) (hl : K.length + C.length + 1 ≤ 180) : SYR T w0 (up2 (up2 w 120 (200 * T + C.length) s) 100 48 (nI (C.length + 1))) K (C ++ [s]) a b t y := by
  obtain ⟨h1, h2, h3, h4, h5, h6⟩ := h
  refine ⟨fun id j q1 q2 => ?_, h2, ⟨h3.1, h3.2.1, by rw [up2_eq, List.length_append]; rfl⟩, h4, fun i hi => ?_, by rw [List.length_append]; exact hl⟩
  · rw [up2_ne _ _ (fun z => by rw [z.1, z.2] at q1; exact absurd q1 (by decide)), up2_ne _ _ (fun z => q2 ⟨z.1, by omega, by omega⟩)]
    exact h1 id j q1 q2
  · rw [up2_ne _ _ (fun z => absurd z.1 (by decide))]
    rw [List.length_append] at hi
    by_cases e : i = C.length
    · rw [e, up2_eq, app_top]
    · rw [up2_ne _ _ (fun z => e (by omega)), app_low (by simp at hi; omega)]
      exact h5 i (by simp at hi; omega)
/-- a sign is held -/
theorem SYR.hold {T : Nat} {w0 w : Wv} {K C : List Int32} {a b : Nat} {t y s : Int32} (h : SYR T w0 w K C a b t y) (hl : K.length + C.length + 1 ≤ 180) {x : Int32} (hx : x = nI (cntO (s :: K))) : SYR T w0 (up2 (up2 (up2 w 100 47 x) 146 K.length s) 100 46 (nI (K.length + 1))) (s :: K) C a b t y := by
  obtain ⟨h1, h2, h3, h4, h5, h6⟩ := h
  refine ⟨fun id j q1 q2 => ?_, h2, ⟨by rw [up2_eq]; rfl, by rw [up2_ne _ _ (by simp), up2_ne _ _ (by simp), up2_eq, hx], h3.2.2⟩, fun j hj => ?_, h5, by rw [List.length_cons]; omega⟩
  · rw [up2_ne _ _ (fun z => by rw [z.1, z.2] at q1; exact absurd q1 (by decide)), up2_ne _ _ (fun z => by rw [z.1] at q1; exact absurd q1 (fun y => Bool.noConfusion y)), up2_ne _ _ (fun z => by rw [z.1, z.2] at q1; exact absurd q1 (by decide))]
    exact h1 id j q1 q2
  · rw [up2_ne _ _ (fun z => absurd z.1 (by decide))]
    by_cases e : j = K.length
    · rw [e, up2_eq, rev_top]
    · rw [List.length_cons] at hj
      rw [up2_ne _ _ (fun z => e z.2), rev_low (by omega), up2_ne _ _ (fun z => absurd z.1 (by decide))]
      exact h4 j (by omega)
/-- the top sign goes -/
theorem SYR.pop {T : Nat} {w0 w : Wv} {K C : List Int32} {a b : Nat} {t y s : Int32} (h : SYR T w0 w (s :: K) C a b t y) : SYR T w0 (up2 (up2 w 100 46 (nI K.length)) 100 47 (nI (cntO K))) K C a b t y := by
  obtain ⟨h1, h2, h3, h4, h5, h6⟩ := h
  refine ⟨fun id j q1 q2 => ?_, h2, ⟨by rw [up2_ne _ _ (by simp), up2_eq], by rw [up2_eq], h3.2.2⟩, fun j hj => ?_, h5, by rw [List.length_cons] at h6; omega⟩
  · rw [up2_ne _ _ (fun z => by rw [z.1, z.2] at q1; exact absurd q1 (by decide)), up2_ne _ _ (fun z => by rw [z.1, z.2] at q1; exact absurd q1 (by decide))]
    exact h1 id j q1 q2
  · rw [up2_ne _ _ (fun z => absurd z.1 (by decide)), up2_ne _ _ (fun z => absurd z.1 (by decide)), ← rev_low (s := s) hj]
    exact h4 j (by rw [List.length_cons]; omega)
theorem unw_len {l : Int32} : ∀ (K C : List Int32), (unw l K C).1.length + (unw l K C).2.length = K.length + C.length
  | [], C => rfl
  | s :: K, C => by
    rw [unw]
    split
    · rfl
    · rw [unw_len K (C ++ [s])]; simp; omega
theorem c_X7_rank {E : En} {σ : Sg} {s : Int32} : Ct E mX7_rank 0 [.int s] (.returned (some (.int (rk s))), σ) (σ) := by
  show V E mX7_rank 0 _ 0 [some (.int s)] [] (σ)
  refine V.ild0 dX7_rank_0 (V.if_ne (tgt := 8) dX7_rank_1 (by decide) (fun c_1 => ?_) (fun c_1 => ?_))
  · refine V.ild0 dX7_rank_8 (V.bipush (v := 11) dX7_rank_9 (by decide) (V.icmp_ne (tgt := 18) dX7_rank_11 (by decide) (fun c_11 => ?_) (fun c_11 => ?_)))
    · refine V.ild0 dX7_rank_18 (V.bipush (v := 12) dX7_rank_19 (by decide) (V.icmp_ne (tgt := 28) dX7_rank_21 (by decide) (fun c_21 => ?_) (fun c_21 => ?_)))
      · refine V.ild0 dX7_rank_28 (V.bipush (v := 13) dX7_rank_29 (by decide) (V.icmp_ne (tgt := 38) dX7_rank_31 (by decide) (fun c_31 => ?_) (fun c_31 => ?_)))
        · refine V.ild0 dX7_rank_38 (V.bipush (v := 15) dX7_rank_39 (by decide) (V.icmp_gt (tgt := 48) dX7_rank_41 (by decide) (fun c_41 => ?_) (fun c_41 => ?_)))
          · refine V.ild0 dX7_rank_48 (V.bipush (v := 17) dX7_rank_49 (by decide) (V.icmp_gt (tgt := 58) dX7_rank_51 (by decide) (fun c_51 => ?_) (fun c_51 => ?_)))
            · refine V.ild0 dX7_rank_58 (V.bipush (v := 18) dX7_rank_59 (by decide) (V.icmp_ne (tgt := 69) dX7_rank_61 (by decide) (fun c_61 => ?_) (fun c_61 => ?_)))
              · exact V.bipush (v := 7) dX7_rank_69 (by decide) (V.iret dX7_rank_71 rfl rfl (by first | (simp only [rk, c_1, c_11, c_21, c_31, c_41, c_51, c_61, if_true, if_false, Bool.false_eq_true, eq_self, and_true, true_and, and_false, false_and, Bool.and_true, Bool.true_and, Bool.and_false, Bool.false_and, Bool.not_true, Bool.not_false, not_true_eq_false, not_false_eq_true, ne_eq, b2i_t, b2i_f]; done) | (simp only [rk, c_1, c_11, c_21, c_31, c_41, c_51, c_61, if_true, if_false, Bool.false_eq_true, eq_self, and_true, true_and, and_false, false_and, Bool.and_true, Bool.true_and, Bool.and_false, Bool.false_and, Bool.not_true, Bool.not_false, not_true_eq_false, not_false_eq_true, ne_eq, b2i_t, b2i_f]; rfl) | (exfalso; simp_all; done)))
              · exact V.bipush (v := 6) dX7_rank_64 (by decide) (V.goto (tgt := 71) dX7_rank_66 (by decide) (V.iret dX7_rank_71 rfl rfl (by first | (simp only [rk, c_1, c_11, c_21, c_31, c_41, c_51, c_61, if_true, if_false, Bool.false_eq_true, eq_self, and_true, true_and, and_false, false_and, Bool.and_true, Bool.true_and, Bool.and_false, Bool.false_and, Bool.not_true, Bool.not_false, not_true_eq_false, not_false_eq_true, ne_eq, b2i_t, b2i_f]; done) | (simp only [rk, c_1, c_11, c_21, c_31, c_41, c_51, c_61, if_true, if_false, Bool.false_eq_true, eq_self, and_true, true_and, and_false, false_and, Bool.and_true, Bool.true_and, Bool.and_false, Bool.false_and, Bool.not_true, Bool.not_false, not_true_eq_false, not_false_eq_true, ne_eq, b2i_t, b2i_f]; rfl) | (exfalso; simp_all; done))))
            · exact V.iconst_5 dX7_rank_54 (V.goto (tgt := 71) dX7_rank_55 (by decide) (V.iret dX7_rank_71 rfl rfl (by first | (simp only [rk, c_1, c_11, c_21, c_31, c_41, c_51, if_true, if_false, Bool.false_eq_true, eq_self, and_true, true_and, and_false, false_and, Bool.and_true, Bool.true_and, Bool.and_false, Bool.false_and, Bool.not_true, Bool.not_false, not_true_eq_false, not_false_eq_true, ne_eq, b2i_t, b2i_f]; done) | (simp only [rk, c_1, c_11, c_21, c_31, c_41, c_51, if_true, if_false, Bool.false_eq_true, eq_self, and_true, true_and, and_false, false_and, Bool.and_true, Bool.true_and, Bool.and_false, Bool.false_and, Bool.not_true, Bool.not_false, not_true_eq_false, not_false_eq_true, ne_eq, b2i_t, b2i_f]; rfl) | (exfalso; simp_all; done))))
          · exact V.iconst_4 dX7_rank_44 (V.goto (tgt := 71) dX7_rank_45 (by decide) (V.iret dX7_rank_71 rfl rfl (by first | (simp only [rk, c_1, c_11, c_21, c_31, c_41, if_true, if_false, Bool.false_eq_true, eq_self, and_true, true_and, and_false, false_and, Bool.and_true, Bool.true_and, Bool.and_false, Bool.false_and, Bool.not_true, Bool.not_false, not_true_eq_false, not_false_eq_true, ne_eq, b2i_t, b2i_f]; done) | (simp only [rk, c_1, c_11, c_21, c_31, c_41, if_true, if_false, Bool.false_eq_true, eq_self, and_true, true_and, and_false, false_and, Bool.and_true, Bool.true_and, Bool.and_false, Bool.false_and, Bool.not_true, Bool.not_false, not_true_eq_false, not_false_eq_true, ne_eq, b2i_t, b2i_f]; rfl) | (exfalso; simp_all; done))))
        · exact V.iconst_3 dX7_rank_34 (V.goto (tgt := 71) dX7_rank_35 (by decide) (V.iret dX7_rank_71 rfl rfl (by first | (simp only [rk, c_1, c_11, c_21, c_31, if_true, if_false, Bool.false_eq_true, eq_self, and_true, true_and, and_false, false_and, Bool.and_true, Bool.true_and, Bool.and_false, Bool.false_and, Bool.not_true, Bool.not_false, not_true_eq_false, not_false_eq_true, ne_eq, b2i_t, b2i_f]; done) | (simp only [rk, c_1, c_11, c_21, c_31, if_true, if_false, Bool.false_eq_true, eq_self, and_true, true_and, and_false, false_and, Bool.and_true, Bool.true_and, Bool.and_false, Bool.false_and, Bool.not_true, Bool.not_false, not_true_eq_false, not_false_eq_true, ne_eq, b2i_t, b2i_f]; rfl) | (exfalso; simp_all; done))))
      · exact V.iconst_2 dX7_rank_24 (V.goto (tgt := 71) dX7_rank_25 (by decide) (V.iret dX7_rank_71 rfl rfl (by first | (simp only [rk, c_1, c_11, c_21, if_true, if_false, Bool.false_eq_true, eq_self, and_true, true_and, and_false, false_and, Bool.and_true, Bool.true_and, Bool.and_false, Bool.false_and, Bool.not_true, Bool.not_false, not_true_eq_false, not_false_eq_true, ne_eq, b2i_t, b2i_f]; done) | (simp only [rk, c_1, c_11, c_21, if_true, if_false, Bool.false_eq_true, eq_self, and_true, true_and, and_false, false_and, Bool.and_true, Bool.true_and, Bool.and_false, Bool.false_and, Bool.not_true, Bool.not_false, not_true_eq_false, not_false_eq_true, ne_eq, b2i_t, b2i_f]; rfl) | (exfalso; simp_all; done))))
    · exact V.iconst_1 dX7_rank_14 (V.goto (tgt := 71) dX7_rank_15 (by decide) (V.iret dX7_rank_71 rfl rfl (by first | (simp only [rk, c_1, c_11, if_true, if_false, Bool.false_eq_true, eq_self, and_true, true_and, and_false, false_and, Bool.and_true, Bool.true_and, Bool.and_false, Bool.false_and, Bool.not_true, Bool.not_false, not_true_eq_false, not_false_eq_true, ne_eq, b2i_t, b2i_f]; done) | (simp only [rk, c_1, c_11, if_true, if_false, Bool.false_eq_true, eq_self, and_true, true_and, and_false, false_and, Bool.and_true, Bool.true_and, Bool.and_false, Bool.false_and, Bool.not_true, Bool.not_false, not_true_eq_false, not_false_eq_true, ne_eq, b2i_t, b2i_f]; rfl) | (exfalso; simp_all; done))))
  · exact V.iconst_0 dX7_rank_4 (V.goto (tgt := 71) dX7_rank_5 (by decide) (V.iret dX7_rank_71 rfl rfl (by first | (simp only [rk, c_1, if_true, if_false, Bool.false_eq_true, eq_self, and_true, true_and, and_false, false_and, Bool.and_true, Bool.true_and, Bool.and_false, Bool.false_and, Bool.not_true, Bool.not_false, not_true_eq_false, not_false_eq_true, ne_eq, b2i_t, b2i_f]; done) | (simp only [rk, c_1, if_true, if_false, Bool.false_eq_true, eq_self, and_true, true_and, and_false, false_and, Bool.and_true, Bool.true_and, Bool.and_false, Bool.false_and, Bool.not_true, Bool.not_false, not_true_eq_false, not_false_eq_true, ne_eq, b2i_t, b2i_f]; rfl) | (exfalso; simp_all; done))))

theorem c_X7_signOf {E : En} {g : Ge} {σ : Sg} {w : Wv} (hW : WM g σ)  : Ct E mX7_signOf 0 [.ref (g.1 100)] (.returned (some (.int (sgO (w 100 42)))), S g σ w) (S g σ w) := by
  show V E mX7_signOf 0 _ 0 [some (.ref (g.1 100))] [] (S g σ w)
  refine V.ald0 dX7_signOf_0 (GX7_217 hW rfl dX7_signOf_1 (V.iconst_4 dX7_signOf_4 (V.icmp_ne (tgt := 13) dX7_signOf_5 (by decide) (fun c_5 => ?_) (fun c_5 => ?_))))
  · refine V.ald0 dX7_signOf_13 (GX7_217 hW rfl dX7_signOf_14 (V.iconst_5 dX7_signOf_17 (V.icmp_ne (tgt := 26) dX7_signOf_18 (by decide) (fun c_18 => ?_) (fun c_18 => ?_))))
    · refine V.ald0 dX7_signOf_26 (GX7_217 hW rfl dX7_signOf_27 (V.bipush (v := 60) dX7_signOf_30 (by decide) (V.icmp_ne (tgt := 40) dX7_signOf_32 (by decide) (fun c_32 => ?_) (fun c_32 => ?_))))
      · refine V.ald0 dX7_signOf_40 (GX7_217 hW rfl dX7_signOf_41 (V.bipush (v := 61) dX7_signOf_44 (by decide) (V.icmp_ne (tgt := 54) dX7_signOf_46 (by decide) (fun c_46 => ?_) (fun c_46 => ?_))))
        · refine V.ald0 dX7_signOf_54 (GX7_217 hW rfl dX7_signOf_55 (V.bipush (v := 43) dX7_signOf_58 (by decide) (V.icmp_ne (tgt := 68) dX7_signOf_60 (by decide) (fun c_60 => ?_) (fun c_60 => ?_))))
          · refine V.ald0 dX7_signOf_68 (GX7_217 hW rfl dX7_signOf_69 (V.bipush (v := 45) dX7_signOf_72 (by decide) (V.icmp_ne (tgt := 82) dX7_signOf_74 (by decide) (fun c_74 => ?_) (fun c_74 => ?_))))
            · refine V.ald0 dX7_signOf_82 (GX7_217 hW rfl dX7_signOf_83 (V.bipush (v := 42) dX7_signOf_86 (by decide) (V.icmp_ne (tgt := 96) dX7_signOf_88 (by decide) (fun c_88 => ?_) (fun c_88 => ?_))))
              · exact V.iconst_m1 dX7_signOf_96 (V.iret dX7_signOf_97 rfl rfl (by first | (simp only [sgO, c_5, c_18, c_32, c_46, c_60, c_74, c_88, if_true, if_false, Bool.false_eq_true, eq_self, and_true, true_and, and_false, false_and, Bool.and_true, Bool.true_and, Bool.and_false, Bool.false_and, Bool.not_true, Bool.not_false, not_true_eq_false, not_false_eq_true, ne_eq, b2i_t, b2i_f]; done) | (simp only [sgO, c_5, c_18, c_32, c_46, c_60, c_74, c_88, if_true, if_false, Bool.false_eq_true, eq_self, and_true, true_and, and_false, false_and, Bool.and_true, Bool.true_and, Bool.and_false, Bool.false_and, Bool.not_true, Bool.not_false, not_true_eq_false, not_false_eq_true, ne_eq, b2i_t, b2i_f]; rfl) | (exfalso; simp_all; done)))
              · exact V.bipush (v := 18) dX7_signOf_91 (by decide) (V.goto (tgt := 97) dX7_signOf_93 (by decide) (V.iret dX7_signOf_97 rfl rfl (by first | (simp only [sgO, c_5, c_18, c_32, c_46, c_60, c_74, c_88, if_true, if_false, Bool.false_eq_true, eq_self, and_true, true_and, and_false, false_and, Bool.and_true, Bool.true_and, Bool.and_false, Bool.false_and, Bool.not_true, Bool.not_false, not_true_eq_false, not_false_eq_true, ne_eq, b2i_t, b2i_f]; done) | (simp only [sgO, c_5, c_18, c_32, c_46, c_60, c_74, c_88, if_true, if_false, Bool.false_eq_true, eq_self, and_true, true_and, and_false, false_and, Bool.and_true, Bool.true_and, Bool.and_false, Bool.false_and, Bool.not_true, Bool.not_false, not_true_eq_false, not_false_eq_true, ne_eq, b2i_t, b2i_f]; rfl) | (exfalso; simp_all; done))))
            · exact V.bipush (v := 17) dX7_signOf_77 (by decide) (V.goto (tgt := 97) dX7_signOf_79 (by decide) (V.iret dX7_signOf_97 rfl rfl (by first | (simp only [sgO, c_5, c_18, c_32, c_46, c_60, c_74, if_true, if_false, Bool.false_eq_true, eq_self, and_true, true_and, and_false, false_and, Bool.and_true, Bool.true_and, Bool.and_false, Bool.false_and, Bool.not_true, Bool.not_false, not_true_eq_false, not_false_eq_true, ne_eq, b2i_t, b2i_f]; done) | (simp only [sgO, c_5, c_18, c_32, c_46, c_60, c_74, if_true, if_false, Bool.false_eq_true, eq_self, and_true, true_and, and_false, false_and, Bool.and_true, Bool.true_and, Bool.and_false, Bool.false_and, Bool.not_true, Bool.not_false, not_true_eq_false, not_false_eq_true, ne_eq, b2i_t, b2i_f]; rfl) | (exfalso; simp_all; done))))
          · exact V.bipush (v := 16) dX7_signOf_63 (by decide) (V.goto (tgt := 97) dX7_signOf_65 (by decide) (V.iret dX7_signOf_97 rfl rfl (by first | (simp only [sgO, c_5, c_18, c_32, c_46, c_60, if_true, if_false, Bool.false_eq_true, eq_self, and_true, true_and, and_false, false_and, Bool.and_true, Bool.true_and, Bool.and_false, Bool.false_and, Bool.not_true, Bool.not_false, not_true_eq_false, not_false_eq_true, ne_eq, b2i_t, b2i_f]; done) | (simp only [sgO, c_5, c_18, c_32, c_46, c_60, if_true, if_false, Bool.false_eq_true, eq_self, and_true, true_and, and_false, false_and, Bool.and_true, Bool.true_and, Bool.and_false, Bool.false_and, Bool.not_true, Bool.not_false, not_true_eq_false, not_false_eq_true, ne_eq, b2i_t, b2i_f]; rfl) | (exfalso; simp_all; done))))
        · exact V.bipush (v := 15) dX7_signOf_49 (by decide) (V.goto (tgt := 97) dX7_signOf_51 (by decide) (V.iret dX7_signOf_97 rfl rfl (by first | (simp only [sgO, c_5, c_18, c_32, c_46, if_true, if_false, Bool.false_eq_true, eq_self, and_true, true_and, and_false, false_and, Bool.and_true, Bool.true_and, Bool.and_false, Bool.false_and, Bool.not_true, Bool.not_false, not_true_eq_false, not_false_eq_true, ne_eq, b2i_t, b2i_f]; done) | (simp only [sgO, c_5, c_18, c_32, c_46, if_true, if_false, Bool.false_eq_true, eq_self, and_true, true_and, and_false, false_and, Bool.and_true, Bool.true_and, Bool.and_false, Bool.false_and, Bool.not_true, Bool.not_false, not_true_eq_false, not_false_eq_true, ne_eq, b2i_t, b2i_f]; rfl) | (exfalso; simp_all; done))))
      · exact V.bipush (v := 14) dX7_signOf_35 (by decide) (V.goto (tgt := 97) dX7_signOf_37 (by decide) (V.iret dX7_signOf_97 rfl rfl (by first | (simp only [sgO, c_5, c_18, c_32, if_true, if_false, Bool.false_eq_true, eq_self, and_true, true_and, and_false, false_and, Bool.and_true, Bool.true_and, Bool.and_false, Bool.false_and, Bool.not_true, Bool.not_false, not_true_eq_false, not_false_eq_true, ne_eq, b2i_t, b2i_f]; done) | (simp only [sgO, c_5, c_18, c_32, if_true, if_false, Bool.false_eq_true, eq_self, and_true, true_and, and_false, false_and, Bool.and_true, Bool.true_and, Bool.and_false, Bool.false_and, Bool.not_true, Bool.not_false, not_true_eq_false, not_false_eq_true, ne_eq, b2i_t, b2i_f]; rfl) | (exfalso; simp_all; done))))
    · exact V.bipush (v := 12) dX7_signOf_21 (by decide) (V.goto (tgt := 97) dX7_signOf_23 (by decide) (V.iret dX7_signOf_97 rfl rfl (by first | (simp only [sgO, c_5, c_18, if_true, if_false, Bool.false_eq_true, eq_self, and_true, true_and, and_false, false_and, Bool.and_true, Bool.true_and, Bool.and_false, Bool.false_and, Bool.not_true, Bool.not_false, not_true_eq_false, not_false_eq_true, ne_eq, b2i_t, b2i_f]; done) | (simp only [sgO, c_5, c_18, if_true, if_false, Bool.false_eq_true, eq_self, and_true, true_and, and_false, false_and, Bool.and_true, Bool.true_and, Bool.and_false, Bool.false_and, Bool.not_true, Bool.not_false, not_true_eq_false, not_false_eq_true, ne_eq, b2i_t, b2i_f]; rfl) | (exfalso; simp_all; done))))
  · exact V.bipush (v := 11) dX7_signOf_8 (by decide) (V.goto (tgt := 97) dX7_signOf_10 (by decide) (V.iret dX7_signOf_97 rfl rfl (by first | (simp only [sgO, c_5, if_true, if_false, Bool.false_eq_true, eq_self, and_true, true_and, and_false, false_and, Bool.and_true, Bool.true_and, Bool.and_false, Bool.false_and, Bool.not_true, Bool.not_false, not_true_eq_false, not_false_eq_true, ne_eq, b2i_t, b2i_f]; done) | (simp only [sgO, c_5, if_true, if_false, Bool.false_eq_true, eq_self, and_true, true_and, and_false, false_and, Bool.and_true, Bool.true_and, Bool.and_false, Bool.false_and, Bool.not_true, Bool.not_false, not_true_eq_false, not_false_eq_true, ne_eq, b2i_t, b2i_f]; rfl) | (exfalso; simp_all; done))))

theorem c_X7_puts {E : En} {g : Ge} {σ : Sg} {w : Wv} (hW : WM g σ) {T m : Nat} (hT : w 100 21 = nI T) (hT6 : T < 6) (hm : w 100 48 = nI m) (hm2 : m < 200) {s : Int32} : Ct E mX7_puts 0 [.ref (g.1 100), .int s] (.returned none, S g σ (up2 (up2 w 120 (200 * T + m) s) 100 48 (nI (m + 1)))) (S g σ w) := by
  show V E mX7_puts 0 _ 0 [some (.ref (g.1 100)), some (.int s)] [] (S g σ w)
  refine V.ald0 dX7_puts_0 (GX7_55 hW rfl dX7_puts_1 (V.sipush (v := 200) dX7_puts_4 (by decide) (V.ald0 dX7_puts_7 (GX7_61 hW rfl dX7_puts_8 (V.imul dX7_puts_11 (V.ald0 dX7_puts_12 (GX7_227 hW rfl dX7_puts_13 (V.iadd dX7_puts_16 (V.ild1 dX7_puts_17 (sM19 (j := 200 * T + m) hW (IX.of (by rw [hT, hm, show (200 : Int32) = nI 200 from rfl, pk_mul, nI_add]) (by omega) (by decide)) dX7_puts_18 (V.ald0 dX7_puts_19 (V.dup dX7_puts_20 ?_))))))))))))
  exact GX7_227 hW rfl dX7_puts_21 (V.iconst_1 dX7_puts_24 (V.iadd dX7_puts_25 (PX7_227 hW rfl dX7_puts_26 (V.vret dX7_puts_29 rfl (by rw [show (up2 w 120 (200 * T + m) s) 100 48 = nI m from (up2_ne _ _ (fun z => absurd z.1 (by decide))).trans hm, nI_1])))))

theorem c_X7_holds {E : En} {g : Ge} {σ : Sg} {w : Wv} (hW : WM g σ) {m : Nat} (hm : w 100 46 = nI m) (hm2 : m < 200) {s : Int32} : Ct E mX7_holds 0 [.ref (g.1 100), .int s] (.returned none, S g σ (up2 (up2 w 146 m s) 100 46 (nI (m + 1)))) (S g σ w) := by
  show V E mX7_holds 0 _ 0 [some (.ref (g.1 100)), some (.int s)] [] (S g σ w)
  exact V.ald0 dX7_holds_0 (GX7_129 hW rfl dX7_holds_1 (V.ald0 dX7_holds_4 (GX7_230 hW rfl dX7_holds_5 (V.ild1 dX7_holds_8 (sM45 (j := m) hW (IX.of hm (by omega) (by decide)) dX7_holds_9 (V.ald0 dX7_holds_10 (V.dup dX7_holds_11 (GX7_230 hW rfl dX7_holds_12 (V.iconst_1 dX7_holds_15 (V.iadd dX7_holds_16 (PX7_230 hW rfl dX7_holds_17 (V.vret dX7_holds_20 rfl (by rw [show (up2 w 146 m s) 100 46 = nI m from (up2_ne _ _ (fun z => absurd z.1 (by decide))).trans hm, nI_1])))))))))))))

theorem SYR.t {T : Nat} {w0 w : Wv} {K C : List Int32} {a b : Nat} {t y : Int32} (h : SYR T w0 w K C a b t y) (hT : w0 100 21 = nI T) : w 100 21 = nI T := (h.1 100 21 rfl (by simp)).trans hT
theorem cnt_s {s : Int32} {K : List Int32} : nI (cntO (s :: K)) - (if isO s then 1 else 0) = nI (cntO K) := by
  rw [cntO]
  split
  · rw [← nI_1, Int32.add_sub_cancel]
  · rw [Nat.add_zero, Int32.sub_zero]
theorem len_p {s : Int32} {K : List Int32} : nI (s :: K).length - 1 = nI K.length := by rw [List.length_cons, ← nI_1, Int32.add_sub_cancel]
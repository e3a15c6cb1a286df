set_option maxRecDepth 100000
set_option maxHeartbeats 1000000
theorem c_X7_in {E : En} {σ : Sg} {v a b : Int32} : Ct E mX7_in 0 [.int v, .int a, .int b] (.returned (some (.int (b2i (inB v a b)))), σ) (σ) := by
  show V E mX7_in 0 _ 0 [some (.int v), some (.int a), some (.int b)] [] (σ)
  refine V.ild0 dX7_in_0 (V.ild1 dX7_in_1 (V.icmp_lt (tgt := 14) dX7_in_2 (by decide) (fun c_2 => ?_) (fun c_2 => ?_)))
  · exact V.iconst_0 dX7_in_14 (V.iret dX7_in_15 rfl (by rfl) (by first | simp [inB, b2i, Int32.not_le.mpr c_2] | simp [inB, b2i, Int32.not_le.mpr c_7] | simp [inB, b2i, Int32.not_lt.mp c_2, Int32.not_lt.mp c_7]))
  · refine V.ild0 dX7_in_5 (V.ild2 dX7_in_6 (V.icmp_gt (tgt := 14) dX7_in_7 (by decide) (fun c_7 => ?_) (fun c_7 => ?_)))
    · exact V.iconst_0 dX7_in_14 (V.iret dX7_in_15 rfl (by rfl) (by first | simp [inB, b2i, Int32.not_le.mpr c_2] | simp [inB, b2i, Int32.not_le.mpr c_7] | simp [inB, b2i, Int32.not_lt.mp c_2, Int32.not_lt.mp c_7]))
    · exact V.iconst_1 dX7_in_10 (V.goto (tgt := 15) dX7_in_11 (by decide) (V.iret dX7_in_15 rfl (by rfl) (by first | simp [inB, b2i, Int32.not_le.mpr c_2] | simp [inB, b2i, Int32.not_le.mpr c_7] | simp [inB, b2i, Int32.not_lt.mp c_2, Int32.not_lt.mp c_7])))

theorem c_X7_isRow {E : En} {g : Ge} {σ : Sg} {w : Wv} (hW : WM g σ) {r : Int32} : Ct E mX7_isRow 1 [.ref (g.1 100), .int r] (.returned (some (.int (b2i (inB r 0 (w 100 3 - 1))))), S g σ w) (S g σ w) := by
  show V E mX7_isRow 1 _ 0 [some (.ref (g.1 100)), some (.int r)] [] (S g σ w)
  exact V.ild1 dX7_isRow_0 (V.iconst_0 dX7_isRow_1 (V.ald0 dX7_isRow_2 (GX7_156 hW rfl dX7_isRow_3 (V.iconst_1 dX7_isRow_6 (V.isub dX7_isRow_7 (V.invS3r sX7_159 dX7_isRow_8 c_X7_in (V.iret dX7_isRow_11 rfl (by first | rfl | exact nar_b _) (rfl))))))))

def seB (w : Wv) (r c : Int32) : Bool := inB r 0 (w 100 3 - 1) && inB c 0 (w 106 (cl r) - 1)

theorem c_X7_isSeat {E : En} {g : Ge} {σ : Sg} {w : Wv} (hW : WM g σ) (hI : HI w) {r c : Int32} : Ct E mX7_isSeat 2 [.ref (g.1 100), .int r, .int c] (.returned (some (.int (b2i (seB w r c)))), S g σ w) (S g σ w) := by
  show V E mX7_isSeat 2 _ 0 [some (.ref (g.1 100)), some (.int r), some (.int c)] [] (S g σ w)
  have hb : ∀ {r : Int32}, inB r 0 (w 100 3 - 1) = true → ∃ j, j < 6 ∧ r = nI j := fun {r} h => by
    rw [hI.rows.1] at h
    obtain ⟨j, h1, h2⟩ := (inB_n (by have := hI.rows.2; omega)).mp h
    exact ⟨j, by have := hI.rows.2; omega, h2⟩
  refine V.ald0 dX7_isSeat_0 (V.ild1 dX7_isSeat_1 (V.invV1r vX7_163 hW.2.2.1 dX7_isSeat_2 (c_X7_isRow hW) (V.ifb_eq (tgt := 40) dX7_isSeat_5 (by decide) (fun c_5 => ?_) (fun c_5 => ?_))))
  · exact V.iconst_0 dX7_isSeat_40 (V.iret dX7_isSeat_41 rfl (by rfl) (by simp only [seB, c_5, if_true, if_false, Bool.false_eq_true, eq_self, and_true, true_and, and_false, false_and, Bool.and_true, Bool.true_and, Bool.and_false, Bool.false_and, Bool.not_true, Bool.not_false, not_true_eq_false, not_false_eq_true, ne_eq, b2i_t, b2i_f]))
  · refine V.ild2 dX7_isSeat_8 (V.iconst_0 dX7_isSeat_9 (V.ald0 dX7_isSeat_10 (GX7_22 hW rfl dX7_isSeat_11 (V.ald0 dX7_isSeat_14 (V.ild1 dX7_isSeat_15 (V.invV1r vX7_163 hW.2.2.1 dX7_isSeat_16 (c_X7_isRow hW) (V.ifb_eq (tgt := 26) dX7_isSeat_19 (by decide) (fun c_19 => absurd (c_19.symm.trans c_5) (by decide)) (fun c_19 => ?_))))))))
    refine V.ild1 dX7_isSeat_22 (V.goto (tgt := 27) dX7_isSeat_23 (by decide) (aM5 (j := cl r) hW (by obtain ⟨j, h1, h2⟩ := hb c_5; rw [h2]; exact ⟨nI_pos (by omega), rfl, by rw [cl_n (by omega)]; exact h1⟩) dX7_isSeat_27 (V.iconst_1 dX7_isSeat_28 (V.isub dX7_isSeat_29 (V.invS3r sX7_159 dX7_isSeat_30 c_X7_in (V.ifb_eq (tgt := 40) dX7_isSeat_33 (by decide) (fun c_33 => ?_) (fun c_33 => ?_)))))))
    · exact V.iconst_0 dX7_isSeat_40 (V.iret dX7_isSeat_41 rfl (by rfl) (by simp only [seB, c_5, c_33, if_true, if_false, Bool.false_eq_true, eq_self, and_true, true_and, and_false, false_and, Bool.and_true, Bool.true_and, Bool.and_false, Bool.false_and, Bool.not_true, Bool.not_false, not_true_eq_false, not_false_eq_true, ne_eq, b2i_t, b2i_f]))
    · exact V.iconst_1 dX7_isSeat_36 (V.goto (tgt := 41) dX7_isSeat_37 (by decide) (V.iret dX7_isSeat_41 rfl (by rfl) (by simp only [seB, c_5, c_33, if_true, if_false, Bool.false_eq_true, eq_self, and_true, true_and, and_false, false_and, Bool.and_true, Bool.true_and, Bool.and_false, Bool.false_and, Bool.not_true, Bool.not_false, not_true_eq_false, not_false_eq_true, ne_eq, b2i_t, b2i_f])))

theorem c_X7_placeOf {E : En} {g : Ge} {σ : Sg} {w : Wv} (hW : WM g σ) {r : Nat} (hr : r < 6) {c : Int32} : Ct E mX7_placeOf 0 [.ref (g.1 100), .int (nI r), .int c] (.returned (some (.int (pl w r c))), S g σ w) (S g σ w) := by
  show V E mX7_placeOf 0 _ 0 [some (.ref (g.1 100)), some (.int (nI r)), some (.int c)] [] (S g σ w)
  refine V.iconst_2 dX7_placeOf_0 (V.ild2 dX7_placeOf_1 (V.imul dX7_placeOf_2 (V.ald0 dX7_placeOf_3 (GX7_31 hW rfl dX7_placeOf_4 (V.ild1 dX7_placeOf_7 (aM8 hW (by first | exact IX.n ‹_› (by decide) | exact IX.n (by omega) (by decide)) dX7_placeOf_8 (V.iadd dX7_placeOf_9 (V.ald0 dX7_placeOf_10 (GX7_19 hW rfl dX7_placeOf_11 (V.ild1 dX7_placeOf_14 (aM4 hW (by first | exact IX.n ‹_› (by decide) | exact IX.n (by omega) (by decide)) dX7_placeOf_15 (V.iconst_1 dX7_placeOf_16 (V.icmp_ne (tgt := 24) dX7_placeOf_17 (by decide) (fun c_17 => ?_) (fun c_17 => ?_))))))))))))))
  · refine V.ald0 dX7_placeOf_24 (GX7_19 hW rfl dX7_placeOf_25 (V.ild1 dX7_placeOf_28 (aM4 hW (by first | exact IX.n ‹_› (by decide) | exact IX.n (by omega) (by decide)) dX7_placeOf_29 (V.iconst_3 dX7_placeOf_30 (V.icmp_ne (tgt := 48) dX7_placeOf_31 (by decide) (fun c_31 => ?_) (fun c_31 => ?_))))))
    · exact V.iconst_0 dX7_placeOf_48 (V.iadd dX7_placeOf_49 (V.iret dX7_placeOf_50 rfl rfl (by simp only [pl, c_17, c_31, if_true, if_false]; try rfl)))
    · exact V.iconst_1 dX7_placeOf_34 (V.ald0 dX7_placeOf_35 (GX7_25 hW rfl dX7_placeOf_36 (V.ild1 dX7_placeOf_39 (aM6 hW (by first | exact IX.n ‹_› (by decide) | exact IX.n (by omega) (by decide)) dX7_placeOf_40 (V.bipush (v := 10) dX7_placeOf_41 (by decide) (V.irem dX7_placeOf_43 (by decide) (V.iadd dX7_placeOf_44 (V.goto (tgt := 49) dX7_placeOf_45 (by decide) (V.iadd dX7_placeOf_49 (V.iret dX7_placeOf_50 rfl rfl (by simp only [pl, c_17, c_31, if_true, if_false]; try rfl)))))))))))
  · exact V.iconst_1 dX7_placeOf_20 (V.goto (tgt := 49) dX7_placeOf_21 (by decide) (V.iadd dX7_placeOf_49 (V.iret dX7_placeOf_50 rfl rfl (by simp only [pl, c_17, if_true, if_false]; try rfl))))

theorem c_X7_floorOf {E : En} {g : Ge} {σ : Sg} {w : Wv} (hW : WM g σ) {r : Nat} (hr : r < 6) : Ct E mX7_floorOf 0 [.ref (g.1 100), .int (nI r)] (.returned (some (.int (fl w r))), S g σ w) (S g σ w) := by
  show V E mX7_floorOf 0 _ 0 [some (.ref (g.1 100)), some (.int (nI r))] [] (S g σ w)
  refine V.ald0 dX7_floorOf_0 (GX7_28 hW rfl dX7_floorOf_1 (V.ild1 dX7_floorOf_4 (aM7 hW (by first | exact IX.n ‹_› (by decide) | exact IX.n (by omega) (by decide)) dX7_floorOf_5 (V.ald0 dX7_floorOf_6 (GX7_19 hW rfl dX7_floorOf_7 (V.ild1 dX7_floorOf_10 (aM4 hW (by first | exact IX.n ‹_› (by decide) | exact IX.n (by omega) (by decide)) dX7_floorOf_11 (V.iconst_2 dX7_floorOf_12 (V.icmp_ne (tgt := 25) dX7_floorOf_13 (by decide) (fun c_13 => ?_) (fun c_13 => ?_))))))))))
  · refine V.ald0 dX7_floorOf_25 (GX7_19 hW rfl dX7_floorOf_26 (V.ild1 dX7_floorOf_29 (aM4 hW (by first | exact IX.n ‹_› (by decide) | exact IX.n (by omega) (by decide)) dX7_floorOf_30 (V.iconst_4 dX7_floorOf_31 (V.icmp_ne (tgt := 46) dX7_floorOf_32 (by decide) (fun c_32 => ?_) (fun c_32 => ?_))))))
    · exact V.iconst_0 dX7_floorOf_46 (V.iadd dX7_floorOf_47 (V.iret dX7_floorOf_48 rfl rfl (by simp only [fl, c_13, c_32, if_true, if_false]; try rfl)))
    · exact V.iconst_3 dX7_floorOf_35 (V.ald0 dX7_floorOf_36 (GX7_25 hW rfl dX7_floorOf_37 (V.ild1 dX7_floorOf_40 (aM6 hW (by first | exact IX.n ‹_› (by decide) | exact IX.n (by omega) (by decide)) dX7_floorOf_41 (V.imul dX7_floorOf_42 (V.goto (tgt := 47) dX7_floorOf_43 (by decide) (V.iadd dX7_floorOf_47 (V.iret dX7_floorOf_48 rfl rfl (by simp only [fl, c_13, c_32, if_true, if_false]; try rfl)))))))))
  · exact V.ald0 dX7_floorOf_16 (GX7_25 hW rfl dX7_floorOf_17 (V.ild1 dX7_floorOf_20 (aM6 hW (by first | exact IX.n ‹_› (by decide) | exact IX.n (by omega) (by decide)) dX7_floorOf_21 (V.goto (tgt := 47) dX7_floorOf_22 (by decide) (V.iadd dX7_floorOf_47 (V.iret dX7_floorOf_48 rfl rfl (by simp only [fl, c_13, if_true, if_false]; try rfl)))))))

theorem c_X7_farOf {E : En} {g : Ge} {σ : Sg} {w : Wv} (hW : WM g σ) {r : Nat} (hr : r < 6) : Ct E mX7_farOf 0 [.ref (g.1 100), .int (nI r)] (.returned (some (.int (fa w r))), S g σ w) (S g σ w) := by
  show V E mX7_farOf 0 _ 0 [some (.ref (g.1 100)), some (.int (nI r))] [] (S g σ w)
  refine V.bipush (v := 10) dX7_farOf_0 (by decide) (V.bipush (v := 10) dX7_farOf_2 (by decide) (V.ild1 dX7_farOf_4 (V.imul dX7_farOf_5 (V.iadd dX7_farOf_6 (V.ald0 dX7_farOf_7 (GX7_19 hW rfl dX7_farOf_8 (V.ild1 dX7_farOf_11 (aM4 hW (by first | exact IX.n ‹_› (by decide) | exact IX.n (by omega) (by decide)) dX7_farOf_12 (V.iconst_3 dX7_farOf_13 (V.icmp_ne (tgt := 21) dX7_farOf_14 (by decide) (fun c_14 => ?_) (fun c_14 => ?_)))))))))))
  · exact V.iconst_0 dX7_farOf_21 (V.isub dX7_farOf_22 (V.iret dX7_farOf_23 rfl rfl (by simp only [fa, c_14, if_true, if_false]; try rfl)))
  · exact V.iconst_3 dX7_farOf_17 (V.goto (tgt := 22) dX7_farOf_18 (by decide) (V.isub dX7_farOf_22 (V.iret dX7_farOf_23 rfl rfl (by simp only [fa, c_14, if_true, if_false]; try rfl))))

theorem c_X7_isAmong {E : En} {g : Ge} {σ : Sg} {w : Wv} (hW : WM g σ) {r : Nat} (hr : r < 6) : Ct E mX7_isAmong 0 [.ref (g.1 100), .int (nI r)] (.returned (some (.int (b2i (am w r)))), S g σ w) (S g σ w) := by
  show V E mX7_isAmong 0 _ 0 [some (.ref (g.1 100)), some (.int (nI r))] [] (S g σ w)
  refine V.ald0 dX7_isAmong_0 (GX7_19 hW rfl dX7_isAmong_1 (V.ild1 dX7_isAmong_4 (aM4 hW (by first | exact IX.n ‹_› (by decide) | exact IX.n (by omega) (by decide)) dX7_isAmong_5 (V.iconst_4 dX7_isAmong_6 (V.icmp_eq (tgt := 14) dX7_isAmong_7 (by decide) (fun c_7 => ?_) (fun c_7 => ?_))))))
  · exact V.iconst_0 dX7_isAmong_14 (V.iret dX7_isAmong_15 rfl (by first | rfl | exact nar_b _) (by simp_all [am, b2i]))
  · exact V.iconst_1 dX7_isAmong_10 (V.goto (tgt := 15) dX7_isAmong_11 (by decide) (V.iret dX7_isAmong_15 rfl (by first | rfl | exact nar_b _) (by simp_all [am, b2i])))

theorem c_X7_above {E : En} {g : Ge} {σ : Sg} {w : Wv} (hW : WM g σ) {r : Nat} (hr : r < 6) {v : Int32} : Ct E mX7_above 1 [.ref (g.1 100), .int (nI r), .int v] (.returned (some (.int (ab w r v))), S g σ w) (S g σ w) := by
  show V E mX7_above 1 _ 0 [some (.ref (g.1 100)), some (.int (nI r)), some (.int v), none] [] (S g σ w)
  refine V.ald0 dX7_above_0 (GX7_19 hW rfl dX7_above_1 (V.ild1 dX7_above_4 (aM4 hW (by first | exact IX.n ‹_› (by decide) | exact IX.n (by omega) (by decide)) dX7_above_5 (V.iconst_5 dX7_above_6 (V.icmp_ne (tgt := 19) dX7_above_7 (by decide) (fun c_7 => ?_) (fun c_7 => ?_))))))
  · refine V.iconst_0 dX7_above_19 (V.ist3 dX7_above_20 (V.ald0 dX7_above_21 (V.ild1 dX7_above_22 (V.invV1r vX7_171 hW.2.2.1 dX7_above_23 (c_X7_floorOf hW hr) (V.ild2 dX7_above_26 (V.ild3 dX7_above_27 (V.icmp_le (tgt := 37) dX7_above_28 (by decide) (fun c_28 => ?_) (fun c_28 => ?_))))))))
    · exact V.iconst_0 dX7_above_37 (V.iadd dX7_above_38 (V.iret dX7_above_39 rfl rfl (by simp only [ab, lo, c_7, c_28, if_true, if_false]; try rfl)))
    · exact V.ild2 dX7_above_31 (V.ild3 dX7_above_32 (V.isub dX7_above_33 (V.goto (tgt := 38) dX7_above_34 (by decide) (V.iadd dX7_above_38 (V.iret dX7_above_39 rfl rfl (by simp only [ab, lo, c_7, c_28, if_true, if_false]; try rfl))))))
  · refine V.ald0 dX7_above_10 (GX7_25 hW rfl dX7_above_11 (V.ild1 dX7_above_14 (aM6 hW (by first | exact IX.n ‹_› (by decide) | exact IX.n (by omega) (by decide)) dX7_above_15 (V.goto (tgt := 20) dX7_above_16 (by decide) (V.ist3 dX7_above_20 (V.ald0 dX7_above_21 (V.ild1 dX7_above_22 (V.invV1r vX7_171 hW.2.2.1 dX7_above_23 (c_X7_floorOf hW hr) (V.ild2 dX7_above_26 (V.ild3 dX7_above_27 (V.icmp_le (tgt := 37) dX7_above_28 (by decide) (fun c_28 => ?_) (fun c_28 => ?_))))))))))))
    · exact V.iconst_0 dX7_above_37 (V.iadd dX7_above_38 (V.iret dX7_above_39 rfl rfl (by simp only [ab, lo, c_7, c_28, if_true, if_false]; try rfl)))
    · exact V.ild2 dX7_above_31 (V.ild3 dX7_above_32 (V.isub dX7_above_33 (V.goto (tgt := 38) dX7_above_34 (by decide) (V.iadd dX7_above_38 (V.iret dX7_above_39 rfl rfl (by simp only [ab, lo, c_7, c_28, if_true, if_false]; try rfl))))))

theorem c_X7_eyesOf {E : En} {g : Ge} {σ : Sg} {w : Wv} (hW : WM g σ) (hI : HI w) {r c : Nat} (hr : r < 6) (hc : c < 8) : Ct E mX7_eyesOf 2 [.ref (g.1 100), .int (nI r), .int (nI c)] (.returned (some (.int (ey w r c))), S g σ w) (S g σ w) := by
  show V E mX7_eyesOf 2 _ 0 [some (.ref (g.1 100)), some (.int (nI r)), some (.int (nI c))] [] (S g σ w)
  refine V.ald0 dX7_eyesOf_0 (V.ild1 dX7_eyesOf_1 (V.ald0 dX7_eyesOf_2 (GX7_7 hW rfl dX7_eyesOf_3 (V.ald0 dX7_eyesOf_6 (GX7_34 hW rfl dX7_eyesOf_7 (V.bipush (v := 8) dX7_eyesOf_10 (by decide) (V.ild1 dX7_eyesOf_12 (V.imul dX7_eyesOf_13 (V.ild2 dX7_eyesOf_14 (V.iadd dX7_eyesOf_15 (aM9 hW (ix2 hr hc) dX7_eyesOf_16 (aM0 hW (hI.sort (by omega)) dX7_eyesOf_17 ?_))))))))))))
  exact V.invV2r vX7_175 hW.2.2.1 dX7_eyesOf_18 (c_X7_above hW hr) (V.iret dX7_eyesOf_21 rfl rfl (rfl))

theorem c_X7_topOf {E : En} {g : Ge} {σ : Sg} {w : Wv} (hW : WM g σ) (hI : HI w) {r c : Nat} (hr : r < 6) (hc : c < 8) : Ct E mX7_topOf 2 [.ref (g.1 100), .int (nI r), .int (nI c)] (.returned (some (.int (tp w r c))), S g σ w) (S g σ w) := by
  show V E mX7_topOf 2 _ 0 [some (.ref (g.1 100)), some (.int (nI r)), some (.int (nI c))] [] (S g σ w)
  have e8 : 8 * nI r + nI c = nI (8 * r + c) := by rw [show (8 : Int32) = nI 8 from rfl, pk_mul, nI_add]
  refine V.ald0 dX7_topOf_0 (V.ild1 dX7_topOf_1 (V.ald0 dX7_topOf_2 (GX7_13 hW rfl dX7_topOf_3 (V.ald0 dX7_topOf_6 (GX7_34 hW rfl dX7_topOf_7 (V.bipush (v := 8) dX7_topOf_10 (by decide) (V.ild1 dX7_topOf_12 (V.imul dX7_topOf_13 (V.ild2 dX7_topOf_14 (V.iadd dX7_topOf_15 (aM9 hW (ix2 hr hc) dX7_topOf_16 (aM1 hW (hI.sort (by omega)) dX7_topOf_17 ?_))))))))))))
  refine V.invV2r vX7_175 hW.2.2.1 dX7_topOf_18 (c_X7_above hW hr) (V.bipush (v := 8) dX7_topOf_21 (by decide) (V.ild1 dX7_topOf_23 (V.imul dX7_topOf_24 (V.ild2 dX7_topOf_25 (V.iadd dX7_topOf_26 (V.ald0 dX7_topOf_27 (GX7_65 hW rfl dX7_topOf_28 (V.icmp_ne (tgt := 41) dX7_topOf_31 (by decide) (fun c_31 => ?_) (fun c_31 => ?_)))))))))
  · exact V.iconst_0 dX7_topOf_41 (V.iadd dX7_topOf_42 (V.iret dX7_topOf_43 rfl rfl (by simp_all [tp, so])))
  · exact V.ald0 dX7_topOf_34 (GX7_179 hW rfl dX7_topOf_35 (V.goto (tgt := 42) dX7_topOf_38 (by decide) (V.iadd dX7_topOf_42 (V.iret dX7_topOf_43 rfl rfl (by simp_all [tp, so])))))

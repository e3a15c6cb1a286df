set_option maxRecDepth 100000
set_option maxHeartbeats 1000000
theorem i64_le {x y : Int32} : x.toInt64 ≤ y.toInt64 ↔ x ≤ y := by rw [Int64.le_iff_toInt_le, Int32.toInt_toInt64, Int32.toInt_toInt64, Int32.le_iff_toInt_le]
theorem inL_c {x lo hi : Int32} {L H : Int64} (h1 : L = lo.toInt64) (h2 : H = hi.toInt64) : inL x.toInt64 L H = inB x lo hi := by
  subst h1 h2
  rw [inL, inB]
  congr 1
  rw [i64_le, i64_le]
theorem i64_p {n : Nat} (h : n < 2 ^ 30) : (nI n).toInt64 - 1 = (nI n - 1).toInt64 := by
  apply Int64.toInt_inj.mp
  rw [Int64.toInt_sub, Int32.toInt_toInt64, Int32.toInt_toInt64, Int32.toInt_sub, nI_toInt (by omega), show (1 : Int32).toInt = 1 from rfl, show (1 : Int64).toInt = 1 from rfl, Int.bmod_def, Int.bmod_def]
  split <;> split <;> omega
theorem inL_n {x : Int32} {n : Nat} (h : n < 2 ^ 30) : inL x.toInt64 0 ((nI n).toInt64 - 1) = inB x 0 (nI n - 1) := by rw [i64_p h]; exact inL_c rfl rfl
theorem inL_u {x y : Int32} (h : ∃ n, n ≤ 1000 ∧ y = nI n) : inL x.toInt64 0 (y.toInt64 - 1) = inB x 0 (y - 1) := by obtain ⟨n, h1, rfl⟩ := h; exact inL_n (by omega)
theorem ro_ix {x : Int32} {n : Nat} (hn : n ≤ 6) (h : inB x 0 (nI n - 1) = true) : ∃ i, i < n ∧ x = nI i := (inB_n (by omega)).mp h
theorem c_X0_isRow {E : En} {g : Ge} {σ : Sg} {w u : Wv} {n : Nat} {K : Nat → Nat} (hX : XH g σ w u n K) {r : Int32} : Ct E mX0_isRow 1 [.ref (g.1 0), .int r] (.returned (some (.int (b2i (inB r 0 (u 100 3 - 1))))), S g σ w) (S g σ w) := by
  show V E mX0_isRow 1 _ 0 [some (.ref (g.1 0)), some (.int r)] [] (S g σ w)
  exact V.ild1 dX0_isRow_0 (V.i2l dX0_isRow_1 (V.lconst_0 dX0_isRow_2 (V.ald0 dX0_isRow_3 (GX0_22 hX rfl dX0_isRow_4 (V.invV0r vX0_142 hX.li.2.1 dX0_isRow_7 (c_J2_size hX) (V.i2l dX0_isRow_10 (V.lconst_1 dX0_isRow_11 (V.lsub dX0_isRow_12 (V.invS3r sX0_112 dX0_isRow_13 c_X0_in (V.iret dX0_isRow_16 rfl (by first | rfl | exact nar_b _) (by rw [inL_n (by have := hX.2.2.1.1; omega), hX.rows])))))))))))

theorem c_X0_isPoint {E : En} {g : Ge} {σ : Sg} {w u : Wv} {n : Nat} {K : Nat → Nat} (hX : XH g σ w u n K) (hI : HI u) {p : Int32} : Ct E mX0_isPoint 1 [.ref (g.1 0), .int p] (.returned (some (.int (b2i (inB p 0 (u 100 10 - 1))))), S g σ w) (S g σ w) := by
  show V E mX0_isPoint 1 _ 0 [some (.ref (g.1 0)), some (.int p)] [] (S g σ w)
  exact V.ild1 dX0_isPoint_0 (V.i2l dX0_isPoint_1 (V.lconst_0 dX0_isPoint_2 (V.ald0 dX0_isPoint_3 (GX0_203 hX rfl dX0_isPoint_4 (V.i2l dX0_isPoint_7 (V.lconst_1 dX0_isPoint_8 (V.lsub dX0_isPoint_9 (V.invS3r sX0_112 dX0_isPoint_10 c_X0_in (V.iret dX0_isPoint_13 rfl (by first | rfl | exact nar_b _) (by rw [inL_u ⟨_, by have := hI.points.2; omega, hI.points.1⟩]))))))))))

theorem c_X0_isSheet {E : En} {σ : Sg} {s : Int32} : Ct E mX0_isSheet 1 [.int s] (.returned (some (.int (b2i (inB s 0 3)))), σ) (σ) := by
  show V E mX0_isSheet 1 _ 0 [some (.int s)] [] (σ)
  exact V.ild0 dX0_isSheet_0 (V.i2l dX0_isSheet_1 (V.lconst_0 dX0_isSheet_2 (V.ldc2_w q805 dX0_isSheet_3 (V.invS3r sX0_112 dX0_isSheet_6 c_X0_in (V.iret dX0_isSheet_9 rfl (by first | rfl | exact nar_b _) (by rw [show inL s.toInt64 0 3 = inB s 0 3 from inL_c rfl rfl]))))))

theorem c_X0_isSeat {E : En} {g : Ge} {σ : Sg} {w u : Wv} {n : Nat} {K : Nat → Nat} (hX : XH g σ w u n K) (hI : HI u) {r c : Int32} : Ct E mX0_isSeat 3 [.ref (g.1 0), .int r, .int c] (.returned (some (.int (b2i (seB u r c)))), S g σ w) (S g σ w) := by
  show V E mX0_isSeat 3 _ 0 [some (.ref (g.1 0)), some (.int r), some (.int c)] [] (S g σ w)
  refine V.ald0 dX0_isSeat_0 (V.ild1 dX0_isSeat_1 (V.invV1r vX0_146 hX.t0 dX0_isSeat_2 (c_X0_isRow hX) (V.ifb_eq (tgt := 38) dX0_isSeat_5 (by decide) (fun c_5 => ?_) (fun c_5 => ?_))))
  · exact V.iconst_0 dX0_isSeat_38 (V.iret dX0_isSeat_39 rfl (by first | rfl | exact nar_b _) (by first | (rw [seB, c_5]; rfl) | (rw [inL_u ⟨_, by have := (hI.seats (hX.n6 hi)).2; omega, (hI.seats (hX.n6 hi)).1⟩] at c_31; rw [seB, c_5, e1, c_31]; rfl)))
  · obtain ⟨i, hi, rfl⟩ := ro_ix hX.2.2.1.1 (by rw [← hX.rows]; exact c_5)
    have e1 : cl (nI i) = i := cl_n (by have := hX.n6 hi; omega)
    refine V.ild2 dX0_isSeat_8 (V.i2l dX0_isSeat_9 (V.lconst_0 dX0_isSeat_10 (V.ald0 dX0_isSeat_11 (GX0_22 hX rfl dX0_isSeat_12 (V.ild1 dX0_isSeat_15 (V.invV1r vX0_150 hX.li.2.1 dX0_isSeat_16 (c_J2_get hX hi) (ccX0_122 hX hi rfl dX0_isSeat_19 (GX0_154 hX hi rfl dX0_isSeat_22 (V.i2l dX0_isSeat_25 (V.lconst_1 dX0_isSeat_26 (V.lsub dX0_isSeat_27 (V.invS3r sX0_112 dX0_isSeat_28 c_X0_in (V.ifb_eq (tgt := 38) dX0_isSeat_31 (by decide) (fun c_31 => ?_) (fun c_31 => ?_))))))))))))))
    · exact V.iconst_0 dX0_isSeat_38 (V.iret dX0_isSeat_39 rfl (by first | rfl | exact nar_b _) (by first | (rw [seB, c_5]; rfl) | (rw [inL_u ⟨_, by have := (hI.seats (hX.n6 hi)).2; omega, (hI.seats (hX.n6 hi)).1⟩] at c_31; rw [seB, c_5, e1, c_31]; rfl)))
    · exact V.iconst_1 dX0_isSeat_34 (V.goto (tgt := 39) dX0_isSeat_35 (by decide) (V.iret dX0_isSeat_39 rfl (by first | rfl | exact nar_b _) (by first | (rw [seB, c_5]; rfl) | (rw [inL_u ⟨_, by have := (hI.seats (hX.n6 hi)).2; omega, (hI.seats (hX.n6 hi)).1⟩] at c_31; rw [seB, c_5, e1, c_31]; rfl))))

theorem c_X0_isAhead {E : En} {g : Ge} {σ : Sg} {w u : Wv} {n : Nat} {K : Nat → Nat} (hX : XH g σ w u n K) {r : Nat} (hr : r < n) {q : Nat} (hq : q < n) : Ct E mX0_isAhead 1 [.ref (g.1 0), .ref (g.1 (60 + r)), .ref (g.1 (60 + q))] (.returned (some (.int (b2i (decide (q < r) && am u r && am u q)))), S g σ w) (S g σ w) := by
  show V E mX0_isAhead 1 _ 0 [some (.ref (g.1 0)), some (.ref (g.1 (60 + r))), some (.ref (g.1 (60 + q)))] [] (S g σ w)
  refine V.ald2 dX0_isAhead_0 (GX0_228 hX hq rfl dX0_isAhead_1 (V.ald1 dX0_isAhead_4 (GX0_228 hX hr rfl dX0_isAhead_5 (V.icmp_ge (tgt := 29) dX0_isAhead_8 (by decide) (fun c_8 => ?_) (fun c_8 => ?_)))))
  · exact V.iconst_0 dX0_isAhead_29 (V.iret dX0_isAhead_30 rfl (by first | rfl | exact nar_b _) (by have h6 := hX.n6 hr; have h7 := hX.n6 hq; first | (rw [decide_eq_false (fun z => absurd (nI_lt z (by omega)) (Int32.not_lt.mpr c_8))]; rfl) | (rw [decide_eq_true ((nI_ltI (by omega) (by omega)).mp (Int32.not_le.mp c_8)), c_15, c_22]; rfl) | (rw [c_15]; cases decide (q < r) <;> rfl)))
  · refine V.ald1 dX0_isAhead_11 (rX0_199 hX hr rfl dX0_isAhead_12  (V.ifb_eq (tgt := 29) dX0_isAhead_15 (by decide) (fun c_15 => ?_) (fun c_15 => ?_)))
    · exact V.iconst_0 dX0_isAhead_29 (V.iret dX0_isAhead_30 rfl (by first | rfl | exact nar_b _) (by have h6 := hX.n6 hr; have h7 := hX.n6 hq; first | (rw [decide_eq_false (fun z => absurd (nI_lt z (by omega)) (Int32.not_lt.mpr c_8))]; rfl) | (rw [decide_eq_true ((nI_ltI (by omega) (by omega)).mp (Int32.not_le.mp c_8)), c_15, c_22]; rfl) | (rw [c_15]; cases decide (q < r) <;> rfl)))
    · refine V.ald2 dX0_isAhead_18 (rX0_199 hX hq rfl dX0_isAhead_19  (V.ifb_eq (tgt := 29) dX0_isAhead_22 (by decide) (fun c_22 => ?_) (fun c_22 => ?_)))
      · exact V.iconst_0 dX0_isAhead_29 (V.iret dX0_isAhead_30 rfl (by first | rfl | exact nar_b _) (by have h6 := hX.n6 hr; have h7 := hX.n6 hq; first | (rw [decide_eq_false (fun z => absurd (nI_lt z (by omega)) (Int32.not_lt.mpr c_8))]; rfl) | (rw [decide_eq_true ((nI_ltI (by omega) (by omega)).mp (Int32.not_le.mp c_8)), c_15, c_22]; rfl) | (rw [c_15]; cases decide (q < r) <;> rfl)))
      · exact V.iconst_1 dX0_isAhead_25 (V.goto (tgt := 30) dX0_isAhead_26 (by decide) (V.iret dX0_isAhead_30 rfl (by first | rfl | exact nar_b _) (by have h6 := hX.n6 hr; have h7 := hX.n6 hq; first | (rw [decide_eq_false (fun z => absurd (nI_lt z (by omega)) (Int32.not_lt.mpr c_8))]; rfl) | (rw [decide_eq_true ((nI_ltI (by omega) (by omega)).mp (Int32.not_le.mp c_8)), c_15, c_22]; rfl) | (rw [c_15]; cases decide (q < r) <;> rfl))))

theorem c_X0_along {E : En} {σ : Sg} {a b c d : Int32} : Ct E mX0_along 0 [.int a, .int b, .int c, .int d] (.returned (some (.int (a * c + (b - a) * d))), σ) (σ) := by
  show V E mX0_along 0 _ 0 [some (.int a), some (.int b), some (.int c), some (.int d)] [] (σ)
  exact V.ild0 dX0_along_0 (V.ild2 dX0_along_1 (V.imul dX0_along_2 (V.ild1 dX0_along_3 (V.ild0 dX0_along_4 (V.isub dX0_along_5 (V.ild3 dX0_along_6 (V.imul dX0_along_7 (V.iadd dX0_along_8 (V.iret dX0_along_9 rfl rfl (rfl))))))))))

theorem c_X0_isBy {E : En} {g : Ge} {σ : Sg} {w u : Wv} {n : Nat} {K : Nat → Nat} (hX : XH g σ w u n K) {r : Nat} (hr : r < n) {p : Nat} (hp : p < 6) {c d x : Int32} : Ct E mX0_isBy 3 [.ref (g.1 0), .ref (g.1 (60 + r)), .int c, .int (nI p), .int d, .int x] (.returned (some (.int (b2i (decide (bes u r c p x d ≤ fa u r))))), S g σ w) (S g σ w) := by
  show V E mX0_isBy 3 _ 0 [some (.ref (g.1 0)), some (.ref (g.1 (60 + r))), some (.int c), some (.int (nI p)), some (.int d), some (.int x)] [] (S g σ w)
  refine V.ald0 dX0_isBy_0 (GX0_32 hX rfl dX0_isBy_1 (V.ild3 dX0_isBy_4 (aX6 hX (IX.n hp (by decide)) dX0_isBy_5 (V.ald1 dX0_isBy_6 (V.ild2 dX0_isBy_7 (rX0_183 hX hr rfl dX0_isBy_8  (V.ald1 dX0_isBy_11 (rX0_190 hX hr rfl dX0_isBy_12  (V.ild4 dX0_isBy_15 (V.invS4r sX0_219 dX0_isBy_17 c_X0_along (V.ild5 dX0_isBy_20 (V.ald1 dX0_isBy_22 ?_))))))))))))
  refine rX0_190 hX hr rfl dX0_isBy_23  (V.imul dX0_isBy_26 (V.isub dX0_isBy_27 (V.invS1r sX0_223 dX0_isBy_28 c_J10_abs (V.ald1 dX0_isBy_31 (rX0_190 hX hr rfl dX0_isBy_32  (V.icmp_gt (tgt := 42) dX0_isBy_35 (by decide) (fun c_35 => ?_) (fun c_35 => ?_)))))))
  · exact V.iconst_0 dX0_isBy_42 (V.iret dX0_isBy_43 rfl (by first | rfl | exact nar_b _) (by first | (rw [decide_eq_true (show bes u r c p x d ≤ fa u r from Int32.not_lt.mp c_35)]; rfl) | (rw [decide_eq_false (show ¬ bes u r c p x d ≤ fa u r from Int32.not_le.mpr c_35)]; rfl)))
  · exact V.iconst_1 dX0_isBy_38 (V.goto (tgt := 43) dX0_isBy_39 (by decide) (V.iret dX0_isBy_43 rfl (by first | rfl | exact nar_b _) (by first | (rw [decide_eq_true (show bes u r c p x d ≤ fa u r from Int32.not_lt.mp c_35)]; rfl) | (rw [decide_eq_false (show ¬ bes u r c p x d ≤ fa u r from Int32.not_le.mpr c_35)]; rfl))))

theorem c_X0_hides {E : En} {g : Ge} {σ : Sg} {w u : Wv} {n : Nat} {K : Nat → Nat} (hX : XH g σ w u n K) {r : Nat} (hr : r < n) {p : Nat} (hp : p < 6) (hI : HI u) (hE : HE u) {c q : Nat} (hc : c < 8) (hq : q < n) {t : Int32} : Ct E mX0_hides 4 [.ref (g.1 0), .ref (g.1 (60 + r)), .int (nI c), .int (nI p), .ref (g.1 (60 + q)), .int t] (.returned (some (.int (b2i (asH u r c p t (fa u q))))), S g σ w) (S g σ w) := by
  show V E mX0_hides 4 _ 0 [some (.ref (g.1 0)), some (.ref (g.1 (60 + r))), some (.int (nI c)), some (.int (nI p)), some (.ref (g.1 (60 + q))), some (.int t)] [] (S g σ w)
  refine V.ild5 dX0_hides_0 (V.ald1 dX0_hides_2 (rX0_190 hX hr rfl dX0_hides_3  (V.imul dX0_hides_6 (V.ald0 dX0_hides_7 (GX0_35 hX rfl dX0_hides_8 (V.ild3 dX0_hides_11 (aX7 hX (IX.n hp (by decide)) dX0_hides_12 (V.ald1 dX0_hides_13 (V.ild2 dX0_hides_14 (rX0_193 hX hr rfl dX0_hides_15 hI hE hc (V.ald1 dX0_hides_18 (rX0_190 hX hr rfl dX0_hides_19  ?_))))))))))))
  refine V.ald4 dX0_hides_22 (rX0_190 hX hq rfl dX0_hides_24  (V.invS4r sX0_219 dX0_hides_27 c_X0_along (V.icmp_lt (tgt := 37) dX0_hides_30 (by decide) (fun c_30 => ?_) (fun c_30 => ?_))))
  · exact V.iconst_0 dX0_hides_37 (V.iret dX0_hides_38 rfl (by first | rfl | exact nar_b _) (by first | (rw [asH, decide_eq_true (Int32.not_lt.mp c_30)]; rfl) | (rw [asH, decide_eq_false (Int32.not_le.mpr c_30)]; rfl)))
  · exact V.iconst_1 dX0_hides_33 (V.goto (tgt := 38) dX0_hides_34 (by decide) (V.iret dX0_hides_38 rfl (by first | rfl | exact nar_b _) (by first | (rw [asH, decide_eq_true (Int32.not_lt.mp c_30)]; rfl) | (rw [asH, decide_eq_false (Int32.not_le.mpr c_30)]; rfl))))

theorem c_X0_isPosted {E : En} {g : Ge} {σ : Sg} {w u : Wv} {n : Nat} {K : Nat → Nat} (hX : XH g σ w u n K) {r : Nat} (hr : r < n) {p : Nat} (hp : p < 6) {c k : Nat} (hk : k < 4) : Ct E mX0_isPosted 3 [.ref (g.1 0), .ref (g.1 (60 + r)), .int (nI c), .int (nI p), .int (nI k)] (.returned (some (.int (b2i (poB u r c p k)))), S g σ w) (S g σ w) := by
  show V E mX0_isPosted 3 _ 0 [some (.ref (g.1 0)), some (.ref (g.1 (60 + r))), some (.int (nI c)), some (.int (nI p)), some (.int (nI k))] [] (S g σ w)
  refine V.ald0 dX0_isPosted_0 (GX0_44 hX rfl dX0_isPosted_1 (V.ild4 dX0_isPosted_4 (aX11 hX (IX.n hk (by decide)) dX0_isPosted_6 (V.ald1 dX0_isPosted_7 (rX0_190 hX hr rfl dX0_isPosted_8  (V.icmp_ge (tgt := 66) dX0_isPosted_11 (by decide) (fun c_11 => ?_) (fun c_11 => ?_)))))))
  · exact V.iconst_0 dX0_isPosted_66 (V.iret dX0_isPosted_67 rfl (by first | rfl | exact nar_b _) (by first | (rw [poB, decide_eq_false (Int32.not_lt.mpr c_11)]; rfl) | (rw [poB, decide_eq_true (Int32.not_le.mp c_11), decide_eq_true (show bes u r (nI c) p (u 116 k) (u 117 k) < fa u r from Int32.not_le.mp c_59)]; rfl) | (rw [poB, decide_eq_true (Int32.not_le.mp c_11), decide_eq_false (show ¬ bes u r (nI c) p (u 116 k) (u 117 k) < fa u r from Int32.not_lt.mpr c_59)]; rfl)))
  · refine V.ald0 dX0_isPosted_14 (GX0_32 hX rfl dX0_isPosted_15 (V.ild3 dX0_isPosted_18 (aX6 hX (IX.n hp (by decide)) dX0_isPosted_19 (V.ald1 dX0_isPosted_20 (V.ild2 dX0_isPosted_21 (rX0_183 hX hr rfl dX0_isPosted_22  (V.ald1 dX0_isPosted_25 (rX0_190 hX hr rfl dX0_isPosted_26  (V.ald0 dX0_isPosted_29 (GX0_44 hX rfl dX0_isPosted_30 (V.ild4 dX0_isPosted_33 (aX11 hX (IX.n hk (by decide)) dX0_isPosted_35 ?_))))))))))))
    refine V.invS4r sX0_219 dX0_isPosted_36 c_X0_along (V.ald0 dX0_isPosted_39 (GX0_41 hX rfl dX0_isPosted_40 (V.ild4 dX0_isPosted_43 (aX10 hX (IX.n hk (by decide)) dX0_isPosted_45 (V.ald1 dX0_isPosted_46 (rX0_190 hX hr rfl dX0_isPosted_47  (V.imul dX0_isPosted_50 (V.isub dX0_isPosted_51 (V.invS1r sX0_223 dX0_isPosted_52 c_J10_abs (V.ald1 dX0_isPosted_55 (rX0_190 hX hr rfl dX0_isPosted_56  (V.icmp_ge (tgt := 66) dX0_isPosted_59 (by decide) (fun c_59 => ?_) (fun c_59 => ?_)))))))))))))
    · exact V.iconst_0 dX0_isPosted_66 (V.iret dX0_isPosted_67 rfl (by first | rfl | exact nar_b _) (by first | (rw [poB, decide_eq_false (Int32.not_lt.mpr c_11)]; rfl) | (rw [poB, decide_eq_true (Int32.not_le.mp c_11), decide_eq_true (show bes u r (nI c) p (u 116 k) (u 117 k) < fa u r from Int32.not_le.mp c_59)]; rfl) | (rw [poB, decide_eq_true (Int32.not_le.mp c_11), decide_eq_false (show ¬ bes u r (nI c) p (u 116 k) (u 117 k) < fa u r from Int32.not_lt.mpr c_59)]; rfl)))
    · exact V.iconst_1 dX0_isPosted_62 (V.goto (tgt := 67) dX0_isPosted_63 (by decide) (V.iret dX0_isPosted_67 rfl (by first | rfl | exact nar_b _) (by first | (rw [poB, decide_eq_false (Int32.not_lt.mpr c_11)]; rfl) | (rw [poB, decide_eq_true (Int32.not_le.mp c_11), decide_eq_true (show bes u r (nI c) p (u 116 k) (u 117 k) < fa u r from Int32.not_le.mp c_59)]; rfl) | (rw [poB, decide_eq_true (Int32.not_le.mp c_11), decide_eq_false (show ¬ bes u r (nI c) p (u 116 k) (u 117 k) < fa u r from Int32.not_lt.mpr c_59)]; rfl))))

theorem hat_y {w u : Wv} (h : hatP w u) {q e : Nat} (h1 : nI q = w 0 25) (h2 : nI e = w 0 26) (hq : q < 6) (he : e < 8) : nI (8 * q + e) = u 100 23 := by
  rcases h with ⟨h3, -⟩ | ⟨r, c, hr, hc, e1, e2, e3⟩
  · rw [h3] at h1; exact absurd h1 (nI_nm1 (by omega))
  · rw [e1] at h1; rw [e2] at h2
    rw [e3, (nI_eq (by omega) (by omega)).mp h1, (nI_eq (by omega) (by omega)).mp h2]
theorem hat_n {w u : Wv} (h : hatP w u) {q e : Nat} (h1 : ¬ (nI q = w 0 25 ∧ nI e = w 0 26)) (hq : q < 6) (he : e < 8) : ¬ nI (8 * q + e) = u 100 23 := by
  intro z
  rcases h with ⟨h3, h4⟩ | ⟨r, c, hr, hc, e1, e2, e3⟩
  · rw [h4] at z; exact absurd z (nI_nm1 (by omega))
  · rw [e3] at z
    have := (nI_eq (by omega) (by omega)).mp z
    refine h1 ⟨by rw [e1, show q = r by omega], by rw [e2, show e = c by omega]⟩
theorem tp_y {u : Wv} {q e : Nat} (h : nI (8 * q + e) = u 100 23) : ab u q (u 102 (cl (so u q e))) + u 100 24 = tp u q e := by rw [tp, if_pos h]
theorem tp_n {u : Wv} {q e : Nat} (h : ¬ nI (8 * q + e) = u 100 23) : ab u q (u 102 (cl (so u q e))) + 0 = tp u q e := by rw [tp, if_neg h]
theorem ff_none {P : Nat → Bool} (h : ∀ k, P k = false) : ∀ (m k : Nat), ff P k m = none
  | 0, _ => rfl
  | m + 1, k => by rw [ff, h k]; exact ff_none h m (k + 1)
theorem c_X0_hider {E : En} {g : Ge} {σ : Sg} {w u : Wv} {n : Nat} {K : Nat → Nat} (hX : XH g σ w u n K) {r : Nat} (hr : r < n) {p : Nat} (hp : p < 6) (hI : HI u) (hE : HE u) {c : Nat} (hc : c < 8) : Ct E mX0_hider 5 [.ref (g.1 0), .ref (g.1 (60 + r)), .int (nI c), .int (nI p)] (.returned (some (.int (hid u r c p))), S g σ w) (S g σ w) := by
  show V E mX0_hider 5 _ 0 [some (.ref (g.1 0)), some (.ref (g.1 (60 + r))), some (.int (nI c)), some (.int (nI p)), none, none, none] [] (S g σ w)
  have h6 := hX.2.2.1.1
  have hO6 := hI.posts.2
  have L150 : ∀ (m k : Nat) (z5 z6 : Option Value), k + m = nO u → ff (poB u r c p) 0 (nO u) = ff (poB u r c p) k m → V E mX0_hider 5 (.returned (some (.int (if poF u r c p = -1 then -1 else 100 + poF u r c p))), S g σ w) 150 [some (.ref (g.1 0)), some (.ref (g.1 (60 + r))), some (.int (nI c)), some (.int (nI p)), some (.int (nI k)), z5, z6] [] (S g σ w) := by
    intro m
    induction m with
    | zero =>
      intro k z5 z6 hk hf
      refine V.ild4 dX0_hider_150 (V.ald0 dX0_hider_152 (GX0_210 hX rfl dX0_hider_153 (V.icmp_ge (tgt := 183) dX0_hider_156 (by decide) (fun c_156 => ?_) (fun c_156 => absurd (by rw [hI.posts.1]; exact nI_le (by omega) (by omega)) c_156))))
      exact V.iconst_m1 dX0_hider_183 (V.iret dX0_hider_184 rfl rfl (by rw [poF, hf]; rfl))
    | succ m ih =>
      intro k z5 z6 hk hf
      refine V.ild4 dX0_hider_150 (V.ald0 dX0_hider_152 (GX0_210 hX rfl dX0_hider_153 (V.icmp_ge (tgt := 183) dX0_hider_156 (by decide) (fun c_156 => absurd c_156 (by rw [hI.posts.1]; first | exact nI_ge (by omega) (by omega) | exact fun h9 => absurd ((nI_leI (by omega) (by omega)).mp h9) (by omega))) (fun c_156 => ?_))))
      refine V.ald0 dX0_hider_159 (V.ald1 dX0_hider_160 (V.ild2 dX0_hider_161 (V.ild3 dX0_hider_162 (V.ild4 dX0_hider_163 (V.invV4r vX0_249 hX.t0 dX0_hider_165 (c_X0_isPosted hX hr hp (by have := hI.posts.2; omega)) (V.ifb_eq (tgt := 177) dX0_hider_168 (by decide) (fun c_168 => ?_) (fun c_168 => ?_)))))))
      · refine V.inc4 dX0_hider_177 (V.goto (tgt := 150) dX0_hider_180 (by decide) ?_)
        rw [nI_1]
        exact ih (k + 1) z5 z6 (by omega) (by rw [hf, ff, if_neg (by rw [c_168]; decide)])
      · exact V.bipush (v := 100) dX0_hider_171 (by decide) (V.ild4 dX0_hider_173 (V.iadd dX0_hider_175 (V.iret dX0_hider_176 rfl rfl (by rw [poF, hf, ff, if_pos c_168]; rw [if_neg (nI_nm1 (by have := hI.posts.2; omega))]))))
  have L3 : ∀ (m0 q : Nat) (z5 z6 : Option Value), q + m0 = r → V E mX0_hider 5 (.returned (some (.int (hiQ u r c p q m0))), S g σ w) 3 [some (.ref (g.1 0)), some (.ref (g.1 (60 + r))), some (.int (nI c)), some (.int (nI p)), some (.int (nI q)), z5, z6] [] (S g σ w) := by
    intro m0
    induction m0 with
    | zero =>
      intro q z5 z6 hk 
      refine V.ild4 dX0_hider_3 (V.ald1 dX0_hider_5 (GX0_228 hX hr rfl dX0_hider_6 (V.icmp_ge (tgt := 147) dX0_hider_9 (by decide) (fun c_9 => ?_) (fun c_9 => absurd (by exact nI_le (by omega) (by omega)) c_9))))
      refine V.iconst_0 dX0_hider_147 (V.ist4 dX0_hider_148 ?_)
      exact L150 (nO u) 0 z5 z6 (by omega) rfl
    | succ m0 ih =>
      intro q z5 z6 hk 
      have hq : q < n := by omega
      have hS := hI.seats (hX.n6 hq)
      refine V.ild4 dX0_hider_3 (V.ald1 dX0_hider_5 (GX0_228 hX hr rfl dX0_hider_6 (V.icmp_ge (tgt := 147) dX0_hider_9 (by decide) (fun c_9 => absurd c_9 (by first | exact nI_ge (by omega) (by omega) | exact fun h9 => absurd ((nI_leI (by omega) (by omega)).mp h9) (by omega))) (fun c_9 => ?_))))
      refine V.ald0 dX0_hider_12 (GX0_22 hX rfl dX0_hider_13 (V.ild4 dX0_hider_16 (V.invV1r vX0_150 hX.li.2.1 dX0_hider_18 (c_J2_get hX hq) (ccX0_122 hX hq rfl dX0_hider_21 (V.ast5 dX0_hider_24 (V.ald0 dX0_hider_26 (V.ald1 dX0_hider_27 (V.ald5 dX0_hider_28 (V.invV2r vX0_231 hX.t0 dX0_hider_30 (c_X0_isAhead hX hr hq) (V.ifb_ne (tgt := 39) dX0_hider_33 (by decide) (fun c_33 => ?_) (fun c_33 => ?_)))))))))))
      · have h1a : am u r = true := by rw [Bool.and_eq_true, Bool.and_eq_true] at c_33; exact c_33.1.2
        have h1b : am u q = true := by rw [Bool.and_eq_true, Bool.and_eq_true] at c_33; exact c_33.2
        have L42 : ∀ (m9 e : Nat), e + m9 = nS u q → ff (hh u r c p q) 0 (nS u q) = ff (hh u r c p q) e m9 → V E mX0_hider 5 (.returned (some (.int (hiQ u r c p q (m0 + 1)))), S g σ w) 42 [some (.ref (g.1 0)), some (.ref (g.1 (60 + r))), some (.int (nI c)), some (.int (nI p)), some (.int (nI q)), some (.ref (g.1 (60 + q))), some (.int (nI e))] [] (S g σ w) := by
          intro m9
          induction m9 with
          | zero =>
            intro e hk9 hf
            refine V.ild6 dX0_hider_42 (V.ald5 dX0_hider_44 (GX0_154 hX hq rfl dX0_hider_46 (V.icmp_ge (tgt := 141) dX0_hider_49 (by decide) (fun c_49 => ?_) (fun c_49 => absurd (by rw [hS.1]; exact nI_le (by omega) (by omega)) c_49))))
            refine V.inc4 dX0_hider_141 (V.goto (tgt := 3) dX0_hider_144 (by decide) ?_)
            rw [nI_1]
            rw [hiQ, hf]
            exact ih (q + 1) _ _ (by omega)
          | succ m9 ih9 =>
            intro e hk9 hf
            refine V.ild6 dX0_hider_42 (V.ald5 dX0_hider_44 (GX0_154 hX hq rfl dX0_hider_46 (V.icmp_ge (tgt := 141) dX0_hider_49 (by decide) (fun c_49 => absurd c_49 (by rw [hS.1]; first | exact nI_ge (by omega) (by omega) | exact fun h9 => absurd ((nI_leI (by omega) (by omega)).mp h9) (by omega))) (fun c_49 => ?_))))
            refine V.ald0 dX0_hider_52 (V.ald1 dX0_hider_53 (V.ild2 dX0_hider_54 (V.ild3 dX0_hider_55 (V.ald5 dX0_hider_56 (rX0_190 hX hq rfl dX0_hider_58  (V.ald5 dX0_hider_61 (V.ild6 dX0_hider_63 (rX0_183 hX hq rfl dX0_hider_65  (V.invV5r vX0_235 hX.t0 dX0_hider_68 (c_X0_isBy hX hr hp) (V.ifb_eq (tgt := 135) dX0_hider_71 (by decide) (fun c_71 => ?_) (fun c_71 => ?_)))))))))))
            · refine V.inc6 dX0_hider_135 (V.goto (tgt := 42) dX0_hider_138 (by decide) ?_)
              rw [nI_1]
              exact ih9 (e + 1) (by omega) (by rw [hf, ff, if_neg (by first | (rw [hh, c_123, Bool.and_false]; decide) | (rw [hh, nea, show decide (bes u r (nI c) p (pl u q (nI e)) (fa u q) ≤ fa u r) = false from c_71, Bool.and_false, Bool.false_and]; decide))])
            · have hby : decide (bes u r (nI c) p (pl u q (nI e)) (fa u q) ≤ fa u r) = true := c_71
              refine V.ald0 dX0_hider_74 (V.ald1 dX0_hider_75 (V.ild2 dX0_hider_76 (V.ild3 dX0_hider_77 (V.ald5 dX0_hider_78 (V.ald5 dX0_hider_80 (V.ald5 dX0_hider_82 (GX0_177 hX hq rfl dX0_hider_84 (V.ild6 dX0_hider_87 (aXs hX hq (IX.n (by omega) (by decide)) dX0_hider_89 (rX0_196 hX hq rfl dX0_hider_90 hE (sx_ix hI (hX.n6 hq) (by omega)) (V.ild4 dX0_hider_93 (V.ald0 dX0_hider_95 ?_))))))))))))
              refine GX0_63 hX rfl dX0_hider_96 (V.icmp_ne (tgt := 118) dX0_hider_99 (by decide) (fun c_99 => ?_) (fun c_99 => ?_))
              · refine V.iconst_0 dX0_hider_118 (V.iadd dX0_hider_119 ?_)
                first
                  | rw [tp_y (hat_y hX.sv.2.1 c_99 c_108 (hX.n6 hq) (by omega))]
                  | rw [tp_n (hat_n hX.sv.2.1 (fun z => c_99 z.1) (hX.n6 hq) (by omega))]
                  | rw [tp_n (hat_n hX.sv.2.1 (fun z => c_108 z.2) (hX.n6 hq) (by omega))]
                refine V.invV5r vX0_245 hX.t0 dX0_hider_120 (c_X0_hides hX hr hp hI hE hc hq) (V.ifb_eq (tgt := 135) dX0_hider_123 (by decide) (fun c_123 => ?_) (fun c_123 => ?_))
                · refine V.inc6 dX0_hider_135 (V.goto (tgt := 42) dX0_hider_138 (by decide) ?_)
                  rw [nI_1]
                  exact ih9 (e + 1) (by omega) (by rw [hf, ff, if_neg (by first | (rw [hh, c_123, Bool.and_false]; decide) | (rw [hh, nea, show decide (bes u r (nI c) p (pl u q (nI e)) (fa u q) ≤ fa u r) = false from c_71, Bool.and_false, Bool.false_and]; decide))])
                · exact V.bipush (v := 10) dX0_hider_126 (by decide) (V.ild4 dX0_hider_128 (V.imul dX0_hider_130 (V.ild6 dX0_hider_131 (V.iadd dX0_hider_133 (V.iret dX0_hider_134 rfl rfl (by rw [hiQ, hf, ff, if_pos (by rw [hh, nea, h1a, h1b, hby, c_123]; rfl)]))))))
              · refine V.ild6 dX0_hider_102 (V.ald0 dX0_hider_104 (GX0_239 hX rfl dX0_hider_105 (V.icmp_ne (tgt := 118) dX0_hider_108 (by decide) (fun c_108 => ?_) (fun c_108 => ?_))))
                · refine V.iconst_0 dX0_hider_118 (V.iadd dX0_hider_119 ?_)
                  first
                    | rw [tp_y (hat_y hX.sv.2.1 c_99 c_108 (hX.n6 hq) (by omega))]
                    | rw [tp_n (hat_n hX.sv.2.1 (fun z => c_99 z.1) (hX.n6 hq) (by omega))]
                    | rw [tp_n (hat_n hX.sv.2.1 (fun z => c_108 z.2) (hX.n6 hq) (by omega))]
                  refine V.invV5r vX0_245 hX.t0 dX0_hider_120 (c_X0_hides hX hr hp hI hE hc hq) (V.ifb_eq (tgt := 135) dX0_hider_123 (by decide) (fun c_123 => ?_) (fun c_123 => ?_))
                  · refine V.inc6 dX0_hider_135 (V.goto (tgt := 42) dX0_hider_138 (by decide) ?_)
                    rw [nI_1]
                    exact ih9 (e + 1) (by omega) (by rw [hf, ff, if_neg (by first | (rw [hh, c_123, Bool.and_false]; decide) | (rw [hh, nea, show decide (bes u r (nI c) p (pl u q (nI e)) (fa u q) ≤ fa u r) = false from c_71, Bool.and_false, Bool.false_and]; decide))])
                  · exact V.bipush (v := 10) dX0_hider_126 (by decide) (V.ild4 dX0_hider_128 (V.imul dX0_hider_130 (V.ild6 dX0_hider_131 (V.iadd dX0_hider_133 (V.iret dX0_hider_134 rfl rfl (by rw [hiQ, hf, ff, if_pos (by rw [hh, nea, h1a, h1b, hby, c_123]; rfl)]))))))
                · refine V.ald0 dX0_hider_111 (GX0_242 hX rfl dX0_hider_112 (V.goto (tgt := 119) dX0_hider_115 (by decide) (V.iadd dX0_hider_119 ?_)))
                  first
                    | rw [tp_y (hat_y hX.sv.2.1 c_99 c_108 (hX.n6 hq) (by omega))]
                    | rw [tp_n (hat_n hX.sv.2.1 (fun z => c_99 z.1) (hX.n6 hq) (by omega))]
                    | rw [tp_n (hat_n hX.sv.2.1 (fun z => c_108 z.2) (hX.n6 hq) (by omega))]
                  refine V.invV5r vX0_245 hX.t0 dX0_hider_120 (c_X0_hides hX hr hp hI hE hc hq) (V.ifb_eq (tgt := 135) dX0_hider_123 (by decide) (fun c_123 => ?_) (fun c_123 => ?_))
                  · refine V.inc6 dX0_hider_135 (V.goto (tgt := 42) dX0_hider_138 (by decide) ?_)
                    rw [nI_1]
                    exact ih9 (e + 1) (by omega) (by rw [hf, ff, if_neg (by first | (rw [hh, c_123, Bool.and_false]; decide) | (rw [hh, nea, show decide (bes u r (nI c) p (pl u q (nI e)) (fa u q) ≤ fa u r) = false from c_71, Bool.and_false, Bool.false_and]; decide))])
                  · exact V.bipush (v := 10) dX0_hider_126 (by decide) (V.ild4 dX0_hider_128 (V.imul dX0_hider_130 (V.ild6 dX0_hider_131 (V.iadd dX0_hider_133 (V.iret dX0_hider_134 rfl rfl (by rw [hiQ, hf, ff, if_pos (by rw [hh, nea, h1a, h1b, hby, c_123]; rfl)]))))))
        refine V.iconst_0 dX0_hider_39 (V.ist6 dX0_hider_40 ?_)
        exact L42 (nS u q) 0 (by omega) rfl
      · refine V.goto (tgt := 141) dX0_hider_36 (by decide) (V.inc4 dX0_hider_141 (V.goto (tgt := 3) dX0_hider_144 (by decide) ?_))
        rw [nI_1]
        have hz : am u r = false ∨ am u q = false := by
          rw [decide_eq_true (show q < r by omega)] at c_33
          cases h1 : am u r <;> cases h2 : am u q <;> simp [h1, h2] at c_33 ⊢
        rw [hiQ, ff_none (fun k => by rcases hz with h | h <;> simp [hh, nea, h])]
        exact ih (q + 1) _ _ (by omega)
  refine V.iconst_0 dX0_hider_0 (V.ist4 dX0_hider_1 ?_)
  exact L3 r 0 _ _ (by omega)

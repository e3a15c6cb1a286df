set_option maxRecDepth 100000
set_option maxHeartbeats 1000000
theorem c_X7_sees {E : En} {g : Ge} {σ : Sg} {w : Wv} (hW : WM g σ) {u : Wv} (hu : cu w = u) (hI : HI u) {r c : Int32} : Ct E mX7_sees 6 [.ref (g.1 100), .int r, .int c] (.returned (some (.int (seesR u r c))), S g σ w) (S g σ w) := by
  show V E mX7_sees 6 _ 0 [some (.ref (g.1 100)), some (.int r), some (.int c)] [] (S g σ w)
  refine V.ald0 dX7_sees_0 (V.ild1 dX7_sees_1 (V.ild2 dX7_sees_2 (V.invV2r vX7_167 hW.2.2.1 dX7_sees_3 (d_X7_isSeat hW hu hI) (V.ifb_eq (tgt := 18) dX7_sees_6 (by decide) (fun c_6 => ?_) (fun c_6 => ?_)))))
  · exact V.bipush (v := (-5)) dX7_sees_18 (by decide) (V.iret dX7_sees_20 rfl rfl (by first | (simp only [seesR, e1, e2, c_6, if_true, if_false, Bool.false_eq_true, eq_self, and_true, true_and, and_false, false_and, Bool.and_true, Bool.true_and, Bool.and_false, Bool.false_and, Bool.not_true, Bool.not_false, not_true_eq_false, not_false_eq_true, ne_eq, b2i_t, b2i_f]; done) | (simp only [seesR, c_6, if_true, if_false, Bool.false_eq_true, eq_self, and_true, true_and, and_false, false_and, Bool.and_true, Bool.true_and, Bool.and_false, Bool.false_and, Bool.not_true, Bool.not_false, not_true_eq_false, not_false_eq_true, ne_eq, b2i_t, b2i_f]; done)))
  · obtain ⟨i, j, hi, hr, hj, hc, rfl, rfl⟩ := seB_ix hI c_6
    have e1 : cl (nI i) = i := cl_n (by omega)
    have e2 : cl (nI j) = j := cl_n (by omega)
    exact V.ald0 dX7_sees_9 (V.ild1 dX7_sees_10 (V.ild2 dX7_sees_11 (V.invV2r vX7_288 hW.2.2.1 dX7_sees_12 (c_X7_seesOf hW hu hI hr hc) (V.goto (tgt := 20) dX7_sees_15 (by decide) (V.iret dX7_sees_20 rfl rfl (by first | (simp only [seesR, e1, e2, c_6, if_true, if_false, Bool.false_eq_true, eq_self, and_true, true_and, and_false, false_and, Bool.and_true, Bool.true_and, Bool.and_false, Bool.false_and, Bool.not_true, Bool.not_false, not_true_eq_false, not_false_eq_true, ne_eq, b2i_t, b2i_f]; done) | (simp only [seesR, c_6, if_true, if_false, Bool.false_eq_true, eq_self, and_true, true_and, and_false, false_and, Bool.and_true, Bool.true_and, Bool.and_false, Bool.false_and, Bool.not_true, Bool.not_false, not_true_eq_false, not_false_eq_true, ne_eq, b2i_t, b2i_f]; done)))))))

theorem c_X7_worth {E : En} {g : Ge} {σ : Sg} {w : Wv} (hW : WM g σ) {u : Wv} (hu : cu w = u) (hI : HI u) (hT : HT u) {r c : Int32} : CtE E mX7_worth 6 [.ref (g.1 100), .int r, .int c] (PR (.int (worthR u r c)) (QM g σ u)) (S g σ w) := by
  show VE E mX7_worth 6 _ 0 [some (.ref (g.1 100)), some (.int r), some (.int c)] [] (S g σ w)
  refine VE.step (fun _ h => V.ald0 dX7_worth_0 (V.ild1 dX7_worth_1 (V.ild2 dX7_worth_2 (V.invV2r vX7_167 hW.2.2.1 dX7_worth_3 (d_X7_isSeat hW hu hI) h)))) ?_
  refine VE.ifb_eq (tgt := 18) dX7_worth_6 (by decide) (fun c_6 => ?_) (fun c_6 => ?_)
  · refine VE.step (fun _ h => V.bipush (v := (-5)) dX7_worth_18 (by decide) h) ?_
    exact VE.iret dX7_worth_20 rfl rfl (by first | exact ⟨by simp only [worthR, e1, e2, c_6, if_true, if_false, Bool.false_eq_true, eq_self, and_true, true_and, and_false, false_and, Bool.and_true, Bool.true_and, Bool.and_false, Bool.false_and, Bool.not_true, Bool.not_false, not_true_eq_false, not_false_eq_true, ne_eq, b2i_t, b2i_f], _, hw1, rfl⟩ | exact ⟨by simp only [worthR, c_6, if_true, if_false, Bool.false_eq_true, eq_self, and_true, true_and, and_false, false_and, Bool.and_true, Bool.true_and, Bool.and_false, Bool.false_and, Bool.not_true, Bool.not_false, not_true_eq_false, not_false_eq_true, ne_eq, b2i_t, b2i_f], _, hu, rfl⟩)
  · obtain ⟨i, j, hi, hr, hj, hc, rfl, rfl⟩ := seB_ix hI c_6
    have e1 : cl (nI i) = i := cl_n (by omega)
    have e2 : cl (nI j) = j := cl_n (by omega)
    refine VE.step (fun _ h => V.ald0 dX7_worth_9 (V.ild1 dX7_worth_10 (V.ild2 dX7_worth_11 h))) ?_
    refine VE.invV2r vX7_301 hW.2.2.1 dX7_worth_12 (c_X7_worthOf hW hu hI hT hr hc) (fun s9 q9 => ?_)
    obtain ⟨w1, hw1, rfl⟩ := q9
    refine VE.step (fun _ h => V.goto (tgt := 20) dX7_worth_15 (by decide) h) ?_
    exact VE.iret dX7_worth_20 rfl rfl (by first | exact ⟨by simp only [worthR, e1, e2, c_6, if_true, if_false, Bool.false_eq_true, eq_self, and_true, true_and, and_false, false_and, Bool.and_true, Bool.true_and, Bool.and_false, Bool.false_and, Bool.not_true, Bool.not_false, not_true_eq_false, not_false_eq_true, ne_eq, b2i_t, b2i_f], _, hw1, rfl⟩ | exact ⟨by simp only [worthR, c_6, if_true, if_false, Bool.false_eq_true, eq_self, and_true, true_and, and_false, false_and, Bool.and_true, Bool.true_and, Bool.and_false, Bool.false_and, Bool.not_true, Bool.not_false, not_true_eq_false, not_false_eq_true, ne_eq, b2i_t, b2i_f], _, hu, rfl⟩)

theorem c_X7_price {E : En} {g : Ge} {σ : Sg} {w : Wv} (hW : WM g σ) {u : Wv} (hu : cu w = u) (hI : HI u) (hT : HT u) {r c : Int32} : CtE E mX7_price 7 [.ref (g.1 100), .int r, .int c] (PR (.int (priceR u r c)) (QM g σ u)) (S g σ w) := by
  show VE E mX7_price 7 _ 0 [some (.ref (g.1 100)), some (.int r), some (.int c)] [] (S g σ w)
  refine VE.step (fun _ h => V.ald0 dX7_price_0 (V.ild1 dX7_price_1 (V.ild2 dX7_price_2 (V.invV2r vX7_167 hW.2.2.1 dX7_price_3 (d_X7_isSeat hW hu hI) h)))) ?_
  refine VE.ifb_eq (tgt := 18) dX7_price_6 (by decide) (fun c_6 => ?_) (fun c_6 => ?_)
  · refine VE.step (fun _ h => V.bipush (v := (-5)) dX7_price_18 (by decide) h) ?_
    exact VE.iret dX7_price_20 rfl rfl (by first | exact ⟨by simp only [priceR, e1, e2, c_6, if_true, if_false, Bool.false_eq_true, eq_self, and_true, true_and, and_false, false_and, Bool.and_true, Bool.true_and, Bool.and_false, Bool.false_and, Bool.not_true, Bool.not_false, not_true_eq_false, not_false_eq_true, ne_eq, b2i_t, b2i_f], _, hw1, rfl⟩ | exact ⟨by simp only [priceR, c_6, if_true, if_false, Bool.false_eq_true, eq_self, and_true, true_and, and_false, false_and, Bool.and_true, Bool.true_and, Bool.and_false, Bool.false_and, Bool.not_true, Bool.not_false, not_true_eq_false, not_false_eq_true, ne_eq, b2i_t, b2i_f], _, hu, rfl⟩)
  · obtain ⟨i, j, hi, hr, hj, hc, rfl, rfl⟩ := seB_ix hI c_6
    have e1 : cl (nI i) = i := cl_n (by omega)
    have e2 : cl (nI j) = j := cl_n (by omega)
    refine VE.step (fun _ h => V.ald0 dX7_price_9 (V.ild1 dX7_price_10 (V.ild2 dX7_price_11 h))) ?_
    refine VE.invV2r vX7_304 hW.2.2.1 dX7_price_12 (c_X7_priceOf hW hu hI hT hr hc) (fun s9 q9 => ?_)
    obtain ⟨w1, hw1, rfl⟩ := q9
    refine VE.step (fun _ h => V.goto (tgt := 20) dX7_price_15 (by decide) h) ?_
    exact VE.iret dX7_price_20 rfl rfl (by first | exact ⟨by simp only [priceR, e1, e2, c_6, if_true, if_false, Bool.false_eq_true, eq_self, and_true, true_and, and_false, false_and, Bool.and_true, Bool.true_and, Bool.and_false, Bool.false_and, Bool.not_true, Bool.not_false, not_true_eq_false, not_false_eq_true, ne_eq, b2i_t, b2i_f], _, hw1, rfl⟩ | exact ⟨by simp only [priceR, c_6, if_true, if_false, Bool.false_eq_true, eq_self, and_true, true_and, and_false, false_and, Bool.and_true, Bool.true_and, Bool.and_false, Bool.false_and, Bool.not_true, Bool.not_false, not_true_eq_false, not_false_eq_true, ne_eq, b2i_t, b2i_f], _, hu, rfl⟩)

theorem nI_prd {r : Nat} (h : ¬ nI r = 0) : nI r - 1 = nI (r - 1) ∧ ¬ r = 0 := by
  have h9 : ¬ r = 0 := fun z => h (by rw [z]; rfl)
  obtain ⟨q, rfl⟩ := Nat.exists_eq_succ_of_ne_zero h9
  refine ⟨?_, h9⟩
  show nI (q + 1) - 1 = nI q
  rw [← nI_1, Int32.add_sub_cancel]
theorem c_X7_stepOf {E : En} {g : Ge} {σ : Sg} {w : Wv} (hW : WM g σ) {u : Wv} (hu : cu w = u) {r : Nat} (hr : r < 6) : Ct E mX7_stepOf 0 [.ref (g.1 100), .int (nI r)] (.returned (some (.int (stpS u r))), S g σ w) (S g σ w) := by
  show V E mX7_stepOf 0 _ 0 [some (.ref (g.1 100)), some (.int (nI r))] [] (S g σ w)
  refine V.ald0 dX7_stepOf_0 (GX7_28 hW rfl dX7_stepOf_1 (V.ild1 dX7_stepOf_4 (aM7 hW (by first | exact IX.n ‹_› (by decide) | exact IX.n (by omega) (by decide)) dX7_stepOf_5 (V.ild1 dX7_stepOf_6 (V.if_ne (tgt := 14) dX7_stepOf_7 (by decide) (fun c_7 => ?_) (fun c_7 => ?_))))))
  · exact V.ald0 dX7_stepOf_14 (GX7_28 hW rfl dX7_stepOf_15 (V.ild1 dX7_stepOf_18 (V.iconst_1 dX7_stepOf_19 (V.isub dX7_stepOf_20 (aM7 (j := r - 1) hW (IX.of (nI_prd c_7).1 (by omega) (by decide)) dX7_stepOf_21 (V.isub dX7_stepOf_22 (V.iret dX7_stepOf_23 rfl rfl (by subst hu; unfold stpS; first | (rw [if_pos (show r = 0 from by rcases Nat.eq_zero_or_pos r with z | z; exact z; exact absurd c_7 (nI_ne0 z (by omega)))]; rfl) | (rw [if_neg (nI_prd c_7).2]; rfl)))))))))
  · exact V.iconst_0 dX7_stepOf_10 (V.goto (tgt := 22) dX7_stepOf_11 (by decide) (V.isub dX7_stepOf_22 (V.iret dX7_stepOf_23 rfl rfl (by subst hu; unfold stpS; first | (rw [if_pos (show r = 0 from by rcases Nat.eq_zero_or_pos r with z | z; exact z; exact absurd c_7 (nI_ne0 z (by omega)))]; rfl) | (rw [if_neg (nI_prd c_7).2]; rfl)))))

theorem c_X7_cost {E : En} {g : Ge} {σ : Sg} {w : Wv} (hW : WM g σ) {u : Wv} (hu : cu w = u) (hI : HI u) (hT : HT u)  : CtE E mX7_cost 2 [.ref (g.1 100)] (PR (.int (cosS u)) (QM g σ u)) (S g σ w) := by
  show VE E mX7_cost 2 _ 0 [some (.ref (g.1 100)), none, none] [] (S g σ w)
  have hR2 := hI.rows.2
  have L4 : ∀ (m r : Nat) (acc : Int32) (w' : Wv), r + m = nR u → cu w' = u → sumF (cosT u) r m acc = cosS u → VE E mX7_cost 2 (PR (.int (cosS u)) (QM g σ u)) 4 [some (.ref (g.1 100)), some (.int (acc)), some (.int (nI r))] [] (S g σ w') := by
    intro m
    induction m with
    | zero =>
      intro r acc w' hk hw hs
      refine VE.step (fun _ h => V.ild2 dX7_cost_4 (V.ald0 dX7_cost_5 (GX7_156 hW rfl dX7_cost_6 h))) ?_
      refine VE.icmp_ge (tgt := 56) dX7_cost_9 (by decide) (fun c_9 => ?_) (fun c_9 => absurd (by rw [cu_at hw, hI.rows.1]; exact nI_le (by omega) (by omega)) c_9)
      refine VE.step (fun _ h => V.ild1 dX7_cost_56 h) ?_
      exact VE.iret dX7_cost_57 rfl rfl (⟨by rw [← hs]; rfl, _, hw, rfl⟩)
    | succ m ih =>
      intro r acc w' hk hw hs
      refine VE.step (fun _ h => V.ild2 dX7_cost_4 (V.ald0 dX7_cost_5 (GX7_156 hW rfl dX7_cost_6 h))) ?_
      refine VE.icmp_ge (tgt := 56) dX7_cost_9 (by decide) (fun c_9 => absurd c_9 (by rw [cu_at hw, hI.rows.1]; first | exact nI_ge (by omega) (by omega) | exact fun h9 => absurd ((nI_leI (by omega) (by omega)).mp h9) (by omega))) (fun c_9 => ?_)
      refine VE.step (fun _ h => V.ald0 dX7_cost_12 (V.ild2 dX7_cost_13 (V.invV1r vX7_307 hW.2.2.1 dX7_cost_14 (c_X7_stepOf hW hw (by omega)) h))) ?_
      refine VE.if_eq (tgt := 50) dX7_cost_17 (by decide) (fun c_17 => ?_) (fun c_17 => ?_)
      · refine VE.step (fun _ h => V.inc2 dX7_cost_50 (V.goto (tgt := 4) dX7_cost_53 (by decide) h)) ?_
        rw [nI_1]
        first
          | exact ih (r + 1) _ _ (by omega) hw1 (by rw [← hs, sumF, cosT, if_neg c_17, cu_at hw (id := 108) (j := r)])
          | exact ih (r + 1) _ _ (by omega) hw (by rw [← hs, sumF, cosT, if_pos c_17, Int32.add_zero])
      · refine VE.step (fun _ h => V.ald0 dX7_cost_20 (V.iconst_0 dX7_cost_21 (V.ald0 dX7_cost_22 (V.ild2 dX7_cost_23 (V.invV1r vX7_307 hW.2.2.1 dX7_cost_24 (c_X7_stepOf hW hw (by omega)) (V.ild2 dX7_cost_27 (V.iconst_0 dX7_cost_28 (V.ald0 dX7_cost_29 (GX7_28 hW rfl dX7_cost_30 (V.ild2 dX7_cost_33 (aM7 hW (by first | exact IX.n ‹_› (by decide) | exact IX.n (by omega) (by decide)) dX7_cost_34 (V.iconst_0 dX7_cost_35 (V.invV6v vX7_291 hW.2.2.1 dX7_cost_36 (c_X7_names hW) (V.ild1 dX7_cost_39 h)))))))))))))) ?_
        refine VE.step (fun _ h => V.ald0 dX7_cost_40 (V.iconst_2 dX7_cost_41 (V.sipush (v := 999) dX7_cost_42 (by decide) h))) ?_
        refine VE.invV2r vX7_295 hW.2.2.1 dX7_cost_45 (c_X7_says hW (nmF_cu hw) hT nmF_w (p := 2) (by decide)) (fun s9 q9 => ?_)
        obtain ⟨w1, hw1, rfl⟩ := q9
        refine VE.step (fun _ h => V.iadd dX7_cost_48 (V.ist1 dX7_cost_49 (V.inc2 dX7_cost_50 (V.goto (tgt := 4) dX7_cost_53 (by decide) h)))) ?_
        rw [nI_1]
        first
          | exact ih (r + 1) _ _ (by omega) hw1 (by rw [← hs, sumF, cosT, if_neg c_17, cu_at hw (id := 108) (j := r)])
          | exact ih (r + 1) _ _ (by omega) hw (by rw [← hs, sumF, cosT, if_pos c_17, Int32.add_zero])
  refine VE.step (fun _ h => V.iconst_0 dX7_cost_0 (V.ist1 dX7_cost_1 (V.iconst_0 dX7_cost_2 (V.ist2 dX7_cost_3 h)))) ?_
  exact L4 (nR u) 0 _ _ (by omega) hu rfl

theorem c_X7_lawful {E : En} {g : Ge} {σ : Sg} {w : Wv} (hW : WM g σ) {u : Wv} (hu : cu w = u) (hI : HI u) {a : Int32} : Ct E mX7_lawful 1 [.ref (g.1 100), .int a] (.returned (some (.int (lawfulR u a))), S g σ w) (S g σ w) := by
  show V E mX7_lawful 1 _ 0 [some (.ref (g.1 100)), some (.int a), none] [] (S g σ w)
  refine V.ild1 dX7_lawful_0 (V.iconst_0 dX7_lawful_1 (V.bipush (v := 99) dX7_lawful_2 (by decide) (V.invS3r sX7_159 dX7_lawful_4 c_X7_in (V.ifb_ne (tgt := 13) dX7_lawful_7 (by decide) (fun c_7 => ?_) (fun c_7 => ?_)))))
  · have hR2 := hI.rows.2
    rw [lawfulR, if_pos c_7]
    have L15 : ∀ (m r : Nat), r + m = nR u → ffI (fun r => decide (a < stpS u r) || decide (stpS u r < -a)) r m = ffI (fun r => decide (a < stpS u r) || decide (stpS u r < -a)) 0 (nR u) → V E mX7_lawful 1 (.returned (some (.int (ffI (fun r => decide (a < stpS u r) || decide (stpS u r < -a)) 0 (nR u)))), S g σ w) 15 [some (.ref (g.1 100)), some (.int (a)), some (.int (nI r))] [] (S g σ w) := by
      intro m
      induction m with
      | zero =>
        intro r hk hs
        refine V.ild2 dX7_lawful_15 (V.ald0 dX7_lawful_16 (GX7_156 hW rfl dX7_lawful_17 (V.icmp_ge (tgt := 50) dX7_lawful_20 (by decide) (fun c_20 => ?_) (fun c_20 => absurd (by rw [cu_at hu, hI.rows.1]; exact nI_le (by omega) (by omega)) c_20))))
        exact V.iconst_m1 dX7_lawful_50 (V.iret dX7_lawful_51 rfl rfl (by rw [← hs]; rfl))
      | succ m ih =>
        intro r hk hs
        refine V.ild2 dX7_lawful_15 (V.ald0 dX7_lawful_16 (GX7_156 hW rfl dX7_lawful_17 (V.icmp_ge (tgt := 50) dX7_lawful_20 (by decide) (fun c_20 => absurd c_20 (by rw [cu_at hu, hI.rows.1]; first | exact nI_ge (by omega) (by omega) | exact fun h9 => absurd ((nI_leI (by omega) (by omega)).mp h9) (by omega))) (fun c_20 => ?_))))
        refine V.ald0 dX7_lawful_23 (V.ild2 dX7_lawful_24 (V.invV1r vX7_307 hW.2.2.1 dX7_lawful_25 (c_X7_stepOf hW hu (by omega)) (V.ild1 dX7_lawful_28 (V.icmp_gt (tgt := 42) dX7_lawful_29 (by decide) (fun c_29 => ?_) (fun c_29 => ?_)))))
        · exact V.ild2 dX7_lawful_42 (V.iret dX7_lawful_43 rfl rfl (by rw [← hs, ffI_s, if_pos (by first | (simp [c_29]; done) | (simp [Int32.not_le.mp c_39]; done))]))
        · refine V.ald0 dX7_lawful_32 (V.ild2 dX7_lawful_33 (V.invV1r vX7_307 hW.2.2.1 dX7_lawful_34 (c_X7_stepOf hW hu (by omega)) (V.ild1 dX7_lawful_37 (V.ineg dX7_lawful_38 (V.icmp_ge (tgt := 44) dX7_lawful_39 (by decide) (fun c_39 => ?_) (fun c_39 => ?_))))))
          · refine V.inc2 dX7_lawful_44 (V.goto (tgt := 15) dX7_lawful_47 (by decide) ?_)
            rw [nI_1]
            exact ih (r + 1) (by omega) (by rw [← hs, ffI_s, if_neg (by simp [c_29, c_39])])
          · exact V.ild2 dX7_lawful_42 (V.iret dX7_lawful_43 rfl rfl (by rw [← hs, ffI_s, if_pos (by first | (simp [c_29]; done) | (simp [Int32.not_le.mp c_39]; done))]))
    
    refine V.iconst_0 dX7_lawful_13 (V.ist2 dX7_lawful_14 ?_)
    exact L15 (nR u) 0 (by omega) rfl
  · exact V.bipush (v := (-2)) dX7_lawful_10 (by decide) (V.iret dX7_lawful_12 rfl rfl (by simp only [lawfulR, c_7, if_true, if_false, Bool.false_eq_true, eq_self, and_true, true_and, and_false, false_and, Bool.and_true, Bool.true_and, Bool.and_false, Bool.false_and, Bool.not_true, Bool.not_false, not_true_eq_false, not_false_eq_true, ne_eq, b2i_t, b2i_f]))

theorem c_X7_allSee {E : En} {g : Ge} {σ : Sg} {w : Wv} (hW : WM g σ) {u : Wv} (hu : cu w = u) (hI : HI u) {r : Nat} (hr : r < 6) : Ct E mX7_allSee 6 [.ref (g.1 100), .int (nI r)] (.returned (some (.int (b2i (aSee u r)))), S g σ w) (S g σ w) := by
  show V E mX7_allSee 6 _ 0 [some (.ref (g.1 100)), some (.int (nI r)), none] [] (S g σ w)
  have hS2 := (hI.seats hr).2
  have L2 : ∀ (m c : Nat), c + m = nS u r → aB (fun c => decide (seeS u r c = fullB u)) c m = aSee u r → V E mX7_allSee 6 (.returned (some (.int (b2i (aSee u r)))), S g σ w) 2 [some (.ref (g.1 100)), some (.int (nI r)), some (.int (nI c))] [] (S g σ w) := by
    intro m
    induction m with
    | zero =>
      intro c hk hs
      refine V.ild2 dX7_allSee_2 (V.ald0 dX7_allSee_3 (GX7_22 hW rfl dX7_allSee_4 (V.ild1 dX7_allSee_7 (aM5 hW (by first | exact IX.n ‹_› (by decide) | exact IX.n (by omega) (by decide)) dX7_allSee_8 (V.icmp_ge (tgt := 37) dX7_allSee_9 (by decide) (fun c_9 => ?_) (fun c_9 => absurd (by rw [cu_at hu, (hI.seats hr).1]; exact nI_le (by omega) (by omega)) c_9))))))
      exact V.iconst_1 dX7_allSee_37 (V.iret dX7_allSee_38 rfl rfl (by rw [← hs]; rfl))
    | succ m ih =>
      intro c hk hs
      refine V.ild2 dX7_allSee_2 (V.ald0 dX7_allSee_3 (GX7_22 hW rfl dX7_allSee_4 (V.ild1 dX7_allSee_7 (aM5 hW (by first | exact IX.n ‹_› (by decide) | exact IX.n (by omega) (by decide)) dX7_allSee_8 (V.icmp_ge (tgt := 37) dX7_allSee_9 (by decide) (fun c_9 => absurd c_9 (by rw [cu_at hu, (hI.seats hr).1]; first | exact nI_ge (by omega) (by omega) | exact fun h9 => absurd ((nI_leI (by omega) (by omega)).mp h9) (by omega))) (fun c_9 => ?_))))))
      refine V.ald0 dX7_allSee_12 (V.ild1 dX7_allSee_13 (V.ild2 dX7_allSee_14 (V.invV2r vX7_288 hW.2.2.1 dX7_allSee_15 (c_X7_seesOf hW hu hI hr (by omega)) (V.iconst_1 dX7_allSee_18 (V.ald0 dX7_allSee_19 (GX7_197 hW rfl dX7_allSee_20 (V.ishl dX7_allSee_23 (V.iconst_1 dX7_allSee_24 (V.isub dX7_allSee_25 (V.icmp_eq (tgt := 31) dX7_allSee_26 (by decide) (fun c_26 => ?_) (fun c_26 => ?_)))))))))))
      · refine V.inc2 dX7_allSee_31 (V.goto (tgt := 2) dX7_allSee_34 (by decide) ?_)
        rw [nI_1]
        exact ih (c + 1) (by omega) (by rw [← hs, aB]; rw [cu_at hu (id := 100) (j := 10)] at c_26; simp only [fullB, c_26, decide_true, Bool.true_and])
      · exact V.iconst_0 dX7_allSee_29 (V.iret dX7_allSee_30 rfl rfl (by rw [← hs, aB]; rw [cu_at hu (id := 100) (j := 10)] at c_26; simp only [fullB, c_26]; rfl))
  refine V.iconst_0 dX7_allSee_0 (V.ist2 dX7_allSee_1 ?_)
  exact L2 (nS u r) 0 (by omega) rfl

set_option maxRecDepth 100000
set_option maxHeartbeats 1000000
theorem c_X7_allWorth {E : En} {g : Ge} {σ : Sg} {w : Wv} (hW : WM g σ) {u : Wv} (hu : cu w = u) (hI : HI u) (hT : HT u)  : CtE E mX7_allWorth 6 [.ref (g.1 100)] (PR (.int (allS u)) (QM g σ u)) (S g σ w) := by
  show VE E mX7_allWorth 6 _ 0 [some (.ref (g.1 100)), none, none, none] [] (S g σ w)
  have hR2 := hI.rows.2
  have L4 : ∀ (m r : Nat) (acc : Int32) (w' : Wv) (y : Option Value), r + m = nR u → cu w' = u → rowS (worS u) u r m acc = allS u → VE E mX7_allWorth 6 (PR (.int (allS u)) (QM g σ u)) 4 [some (.ref (g.1 100)), some (.int acc), some (.int (nI r)), y] [] (S g σ w') := by
    intro m
    induction m with
    | zero =>
      intro r acc w' y hk hw hs
      refine VE.step (fun _ h => V.ild2 dX7_allWorth_4 (V.ald0 dX7_allWorth_5 (GX7_156 hW rfl dX7_allWorth_6 h))) ?_
      refine VE.icmp_ge (tgt := 45) dX7_allWorth_9 (by decide) (fun c_9 => ?_) (fun c_9 => absurd (by rw [cu_at hw, hI.rows.1]; exact nI_le (by omega) (by omega)) c_9)
      refine VE.step (fun _ h => V.ild1 dX7_allWorth_45 h) ?_
      exact VE.iret dX7_allWorth_46 rfl rfl (⟨by rw [← hs]; rfl, _, hw, rfl⟩)
    | succ m ih =>
      intro r acc w' y hk hw hs
      have hr : r < 6 := by omega
      have hS2 := (hI.seats hr).2
      have L14 : ∀ (m9 c : Nat) (acc : Int32) (w' : Wv), c + m9 = nS u r → cu w' = u → rowS (worS u) u (r + 1) m (sumF (worS u r) c m9 acc) = allS u → VE E mX7_allWorth 6 (PR (.int (allS u)) (QM g σ u)) 14 [some (.ref (g.1 100)), some (.int acc), some (.int (nI r)), some (.int (nI c))] [] (S g σ w') := by
        intro m9
        induction m9 with
        | zero =>
          intro c acc w' hk9 hw hs
          refine VE.step (fun _ h => V.ild3 dX7_allWorth_14 (V.ald0 dX7_allWorth_15 (GX7_22 hW rfl dX7_allWorth_16 (V.ild2 dX7_allWorth_19 (aM5 hW (by first | exact IX.n ‹_› (by decide) | exact IX.n (by omega) (by decide)) dX7_allWorth_20 h))))) ?_
          refine VE.icmp_ge (tgt := 39) dX7_allWorth_21 (by decide) (fun c_21 => ?_) (fun c_21 => absurd (by rw [cu_at hw, (hI.seats hr).1]; exact nI_le (by omega) (by omega)) c_21)
          refine VE.step (fun _ h => V.inc2 dX7_allWorth_39 (V.goto (tgt := 4) dX7_allWorth_42 (by decide) h)) ?_
          rw [nI_1]
          exact ih (r + 1) _ _ _ (by omega) hw hs
        | succ m9 ih9 =>
          intro c acc w' hk9 hw hs
          refine VE.step (fun _ h => V.ild3 dX7_allWorth_14 (V.ald0 dX7_allWorth_15 (GX7_22 hW rfl dX7_allWorth_16 (V.ild2 dX7_allWorth_19 (aM5 hW (by first | exact IX.n ‹_› (by decide) | exact IX.n (by omega) (by decide)) dX7_allWorth_20 h))))) ?_
          refine VE.icmp_ge (tgt := 39) dX7_allWorth_21 (by decide) (fun c_21 => absurd c_21 (by rw [cu_at hw, (hI.seats hr).1]; first | exact nI_ge (by omega) (by omega) | exact fun h9 => absurd ((nI_leI (by omega) (by omega)).mp h9) (by omega))) (fun c_21 => ?_)
          refine VE.step (fun _ h => V.ild1 dX7_allWorth_24 (V.ald0 dX7_allWorth_25 (V.ild2 dX7_allWorth_26 (V.ild3 dX7_allWorth_27 h)))) ?_
          refine VE.invV2r vX7_301 hW.2.2.1 dX7_allWorth_28 (c_X7_worthOf hW hw hI hT hr (by omega)) (fun s9 q9 => ?_)
          obtain ⟨w1, hw1, rfl⟩ := q9
          refine VE.step (fun _ h => V.iadd dX7_allWorth_31 (V.ist1 dX7_allWorth_32 (V.inc3 dX7_allWorth_33 (V.goto (tgt := 14) dX7_allWorth_36 (by decide) h)))) ?_
          rw [nI_1]
          exact ih9 (c + 1) _ _ (by omega) hw1 hs
      refine VE.step (fun _ h => V.ild2 dX7_allWorth_4 (V.ald0 dX7_allWorth_5 (GX7_156 hW rfl dX7_allWorth_6 h))) ?_
      refine VE.icmp_ge (tgt := 45) dX7_allWorth_9 (by decide) (fun c_9 => absurd c_9 (by rw [cu_at hw, hI.rows.1]; first | exact nI_ge (by omega) (by omega) | exact fun h9 => absurd ((nI_leI (by omega) (by omega)).mp h9) (by omega))) (fun c_9 => ?_)
      refine VE.step (fun _ h => V.iconst_0 dX7_allWorth_12 (V.ist3 dX7_allWorth_13 h)) ?_
      exact L14 (nS u r) 0 _ _ (by omega) hw hs
  refine VE.step (fun _ h => V.iconst_0 dX7_allWorth_0 (V.ist1 dX7_allWorth_1 (V.iconst_0 dX7_allWorth_2 (V.ist2 dX7_allWorth_3 h)))) ?_
  exact L4 (nR u) 0 _ _ _ (by omega) hu rfl

theorem c_X7_seesOf {E : En} {g : Ge} {σ : Sg} {w : Wv} (hW : WM g σ) {u : Wv} (hu : cu w = u) (hI : HI u) {r c : Nat} (hr : r < 6) (hc : c < 8) : Ct E mX7_seesOf 5 [.ref (g.1 100), .int (nI r), .int (nI c)] (.returned (some (.int (seeS u r c))), S g σ w) (S g σ w) := by
  show V E mX7_seesOf 5 _ 0 [some (.ref (g.1 100)), some (.int (nI r)), some (.int (nI c)), none, none] [] (S g σ w)
  have hP2 := hI.points.2
  have L5 : ∀ (m p : Nat) (acc : Int32), p + m = nP u → orF (fun p => decide (hid u r c p = -1)) p m acc = seeS u r c → V E mX7_seesOf 5 (.returned (some (.int (seeS u r c))), S g σ w) 5 [some (.ref (g.1 100)), some (.int (nI r)), some (.int (nI c)), some (.int acc), some (.int (nI p))] [] (S g σ w) := by
    intro m
    induction m with
    | zero =>
      intro p acc hk hs
      refine V.ild4 dX7_seesOf_5 (V.ald0 dX7_seesOf_7 (GX7_197 hW rfl dX7_seesOf_8 (V.icmp_ge (tgt := 43) dX7_seesOf_11 (by decide) (fun c_11 => ?_) (fun c_11 => absurd (by rw [cu_at hu, hI.points.1]; exact nI_le (by omega) (by omega)) c_11))))
      exact V.ild3 dX7_seesOf_43 (V.iret dX7_seesOf_44 rfl rfl (by rw [← hs]; rfl))
    | succ m ih =>
      intro p acc hk hs
      refine V.ild4 dX7_seesOf_5 (V.ald0 dX7_seesOf_7 (GX7_197 hW rfl dX7_seesOf_8 (V.icmp_ge (tgt := 43) dX7_seesOf_11 (by decide) (fun c_11 => absurd c_11 (by rw [cu_at hu, hI.points.1]; first | exact nI_ge (by omega) (by omega) | exact fun h9 => absurd ((nI_leI (by omega) (by omega)).mp h9) (by omega))) (fun c_11 => ?_))))
      refine V.ild3 dX7_seesOf_14 (V.ald0 dX7_seesOf_15 (V.ild1 dX7_seesOf_16 (V.ild2 dX7_seesOf_17 (V.ild4 dX7_seesOf_18 (V.invV3r vX7_285 hW.2.2.1 dX7_seesOf_20 (d_X7_hiderOf hW hu hI hr hc (by omega)) (V.iconst_m1 dX7_seesOf_23 (V.icmp_ne (tgt := 34) dX7_seesOf_24 (by decide) (fun c_24 => ?_) (fun c_24 => ?_))))))))
      · refine V.iconst_0 dX7_seesOf_34 (V.ior dX7_seesOf_35 (V.ist3 dX7_seesOf_36 (V.inc4 dX7_seesOf_37 (V.goto (tgt := 5) dX7_seesOf_40 (by decide) ?_))))
        rw [nI_1]
        first
          | exact ih (p + 1) _ (by omega) (by rw [← hs]; show _ = orF _ (p + 1) m (acc ||| (if decide (hid u r c p = -1) = true then _ else 0)); rw [if_pos (decide_eq_true c_24)])
          | exact ih (p + 1) _ (by omega) (by rw [← hs]; show _ = orF _ (p + 1) m (acc ||| (if decide (hid u r c p = -1) = true then _ else 0)); rw [if_neg (by simp [c_24])])
      · refine V.iconst_1 dX7_seesOf_27 (V.ild4 dX7_seesOf_28 (V.ishl dX7_seesOf_30 (V.goto (tgt := 35) dX7_seesOf_31 (by decide) (V.ior dX7_seesOf_35 (V.ist3 dX7_seesOf_36 (V.inc4 dX7_seesOf_37 (V.goto (tgt := 5) dX7_seesOf_40 (by decide) ?_)))))))
        rw [nI_1]
        first
          | exact ih (p + 1) _ (by omega) (by rw [← hs]; show _ = orF _ (p + 1) m (acc ||| (if decide (hid u r c p = -1) = true then _ else 0)); rw [if_pos (decide_eq_true c_24)])
          | exact ih (p + 1) _ (by omega) (by rw [← hs]; show _ = orF _ (p + 1) m (acc ||| (if decide (hid u r c p = -1) = true then _ else 0)); rw [if_neg (by simp [c_24])])
  refine V.iconst_0 dX7_seesOf_0 (V.ist3 dX7_seesOf_1 (V.iconst_0 dX7_seesOf_2 (V.ist4 dX7_seesOf_3 ?_)))
  exact L5 (nP u) 0 0 (by omega) rfl

def hiddenR (u : Wv) (r c p : Int32) : Int32 := if seB u r c then (if inB p 0 (u 100 10 - 1) then hid u (cl r) (cl c) (cl p) else -7) else -5
def seesR (u : Wv) (r c : Int32) : Int32 := if seB u r c then seeS u (cl r) (cl c) else -5
def worthR (u : Wv) (r c : Int32) : Int32 := if seB u r c then worS u (cl r) (cl c) else -5
def priceR (u : Wv) (r c : Int32) : Int32 := if seB u r c then priS u (cl r) (cl c) else -5
theorem c_X7_hidden {E : En} {g : Ge} {σ : Sg} {w : Wv} (hW : WM g σ) {u : Wv} (hu : cu w = u) (hI : HI u) {r c : Int32} {p : Int32} : Ct E mX7_hidden 5 [.ref (g.1 100), .int r, .int c, .int p] (.returned (some (.int (hiddenR u r c p))), S g σ w) (S g σ w) := by
  show V E mX7_hidden 5 _ 0 [some (.ref (g.1 100)), some (.int r), some (.int c), some (.int p)] [] (S g σ w)
  refine V.ald0 dX7_hidden_0 (V.ild1 dX7_hidden_1 (V.ild2 dX7_hidden_2 (V.invV2r vX7_167 hW.2.2.1 dX7_hidden_3 (d_X7_isSeat hW hu hI) (V.ifb_ne (tgt := 14) dX7_hidden_6 (by decide) (fun c_6 => ?_) (fun c_6 => ?_)))))
  · obtain ⟨i, j, hi, hr, hj, hc, rfl, rfl⟩ := seB_ix hI c_6
    have e1 : cl (nI i) = i := cl_n (by omega)
    have e2 : cl (nI j) = j := cl_n (by omega)
    refine V.ild3 dX7_hidden_14 (V.iconst_0 dX7_hidden_15 (V.ald0 dX7_hidden_16 (GX7_197 hW rfl dX7_hidden_17 (V.iconst_1 dX7_hidden_20 (V.isub dX7_hidden_21 (V.invS3r sX7_159 dX7_hidden_22 c_X7_in (V.ifb_eq (tgt := 38) dX7_hidden_25 (by decide) (fun c_25 => ?_) (fun c_25 => ?_))))))))
    · try rw [cu_at hu (id := 100) (j := 10)] at c_25
      exact V.bipush (v := (-7)) dX7_hidden_38 (by decide) (V.iret dX7_hidden_40 rfl rfl (by first | (simp only [hiddenR, e1, e2, e3, c_25', c_6, c_25, if_true, if_false, Bool.false_eq_true, eq_self, and_true, true_and, and_false, false_and, Bool.and_true, Bool.true_and, Bool.and_false, Bool.false_and, Bool.not_true, Bool.not_false, not_true_eq_false, not_false_eq_true, ne_eq, b2i_t, b2i_f]; done) | (simp only [hiddenR, c_6, c_25, if_true, if_false, Bool.false_eq_true, eq_self, and_true, true_and, and_false, false_and, Bool.and_true, Bool.true_and, Bool.and_false, Bool.false_and, Bool.not_true, Bool.not_false, not_true_eq_false, not_false_eq_true, ne_eq, b2i_t, b2i_f]; done)))
    · rw [cu_at hu (id := 100) (j := 10)] at c_25
      have c_25' := c_25
      rw [hI.points.1] at c_25
      obtain ⟨k, hk, rfl⟩ := (inB_n (by have := hI.points.2; omega)).mp c_25
      have hk6 : k < 6 := by have := hI.points.2; omega
      have e3 : cl (nI k) = k := cl_n (by omega)
      exact V.ald0 dX7_hidden_28 (V.ild1 dX7_hidden_29 (V.ild2 dX7_hidden_30 (V.ild3 dX7_hidden_31 (V.invV3r vX7_285 hW.2.2.1 dX7_hidden_32 (d_X7_hiderOf hW hu hI hr hc hk6) (V.goto (tgt := 40) dX7_hidden_35 (by decide) (V.iret dX7_hidden_40 rfl rfl (by first | (simp only [hiddenR, e1, e2, e3, c_25', c_6, c_25, if_true, if_false, Bool.false_eq_true, eq_self, and_true, true_and, and_false, false_and, Bool.and_true, Bool.true_and, Bool.and_false, Bool.false_and, Bool.not_true, Bool.not_false, not_true_eq_false, not_false_eq_true, ne_eq, b2i_t, b2i_f]; done) | (simp only [hiddenR, c_6, c_25, if_true, if_false, Bool.false_eq_true, eq_self, and_true, true_and, and_false, false_and, Bool.and_true, Bool.true_and, Bool.and_false, Bool.false_and, Bool.not_true, Bool.not_false, not_true_eq_false, not_false_eq_true, ne_eq, b2i_t, b2i_f]; done))))))))
  · exact V.bipush (v := (-5)) dX7_hidden_9 (by decide) (V.goto (tgt := 40) dX7_hidden_11 (by decide) (V.iret dX7_hidden_40 rfl rfl (by first | (simp only [hiddenR, e1, e2, e3, c_25', c_6, if_true, if_false, Bool.false_eq_true, eq_self, and_true, true_and, and_false, false_and, Bool.and_true, Bool.true_and, Bool.and_false, Bool.false_and, Bool.not_true, Bool.not_false, not_true_eq_false, not_false_eq_true, ne_eq, b2i_t, b2i_f]; done) | (simp only [hiddenR, c_6, if_true, if_false, Bool.false_eq_true, eq_self, and_true, true_and, and_false, false_and, Bool.and_true, Bool.true_and, Bool.and_false, Bool.false_and, Bool.not_true, Bool.not_false, not_true_eq_false, not_false_eq_true, ne_eq, b2i_t, b2i_f]; done))))

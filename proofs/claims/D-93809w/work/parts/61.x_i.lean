set_option maxRecDepth 100000
set_option maxHeartbeats 1000000
theorem so_b {u : Wv} (hI : HI u) {r c : Nat} (hr : r < 6) (hc : c < 8) : (so u r c).toInt8.toInt32 = so u r c := by
  obtain ⟨k, hk, e⟩ := hI.2.2.2.2 (8 * r + c) (by omega)
  rw [so, e]
  rcases (show k = 0 ∨ k = 1 ∨ k = 2 ∨ k = 3 by omega) with rfl | rfl | rfl | rfl <;> rfl
def xsw (w u : Wv) (r c q e : Nat) : Wv := up2 (up2 w (70 + r) c (so u q e)) (70 + q) e (so u r c)
theorem XH.swp {g : Ge} {σ : Sg} {w u : Wv} {n : Nat} {K : Nat → Nat} (hX : XH g σ w u n K) {r c q e : Nat} (hr : r < n) (hc : c < 8) (hq : q < n) (he : e < 8) : XH g σ (xsw w u r c q e) (_root_.id (swp u (8 * r + c) (8 * q + e))) n K := (hX.up (xsm (hX.n6 hr) hc)).up (xsm (hX.n6 hq) he)
theorem xsw_ne {w u : Wv} {r c q e id : Nat} (h : id < 70) : xsw w u r c q e id = w id := by
  unfold xsw
  rw [up2_at _ _ (by omega), up2_at _ _ (by omega)]
theorem HE.swp {u : Wv} (h : HE u) {a b : Nat} : HE (swp u a b) := HE.up (HE.up h (by decide)) (by decide)
theorem TXR.swp {g : Ge} {σ : Sg} {u : Wv} (h : TXR g σ u) {a b : Nat} : TXR g σ (swp u a b) := TXR.up (TXR.up h (by decide)) (by decide)
theorem c_X0_changes {E : En} {g : Ge} {σ : Sg} {w u : Wv} {n : Nat} {K : Nat → Nat} (hX : XH g σ w u n K) (hI : HI u) {r c q e : Nat} (hr : r < n) (hc : c < 8) (hq : q < n) (he : e < 8)  : Ct E mX0_changes 0 [.ref (g.1 0), .ref (g.1 (60 + r)), .int (nI c), .ref (g.1 (60 + q)), .int (nI e)] (.returned none, S g σ (xsw w u r c q e)) (S g σ w) := by
  show V E mX0_changes 0 _ 0 [some (.ref (g.1 0)), some (.ref (g.1 (60 + r))), some (.int (nI c)), some (.ref (g.1 (60 + q))), some (.int (nI e)), none] [] (S g σ w)
  refine V.ald1 dX0_changes_0 (GX0_177 hX hr rfl dX0_changes_1 (V.ild2 dX0_changes_4 (aXs hX hr (IX.n hc (by decide)) dX0_changes_5 (V.ist5 dX0_changes_6 (V.ald1 dX0_changes_8 (GX0_177 hX hr rfl dX0_changes_9 (V.ild2 dX0_changes_12 (V.ald3 dX0_changes_13 (GX0_177 hX hq rfl dX0_changes_14 (V.ild4 dX0_changes_17 (aXs hX hq (IX.n he (by decide)) dX0_changes_19 (sXs hX hr (IX.n hc (by decide)) dX0_changes_20 ?_))))))))))))
  rw [so_b hI (hX.n6 hq) he]
  have hX1 := hX.up (xsm (hX.n6 hr) hc) (x := so u q e)
  exact V.ald3 dX0_changes_21 (GX0_177 hX1 hq rfl dX0_changes_22 (V.ild4 dX0_changes_25 (V.ild5 dX0_changes_27 (sXs hX1 hq (IX.n he (by decide)) dX0_changes_29 (V.vret dX0_changes_30 rfl (by rw [so_b hI (hX.n6 hr) hc]; rfl))))))

theorem c_X0_swap {E : En} {g : Ge} {σ : Sg} {w u : Wv} {n : Nat} {K : Nat → Nat} (hX : XH g σ w u n K) (hI : HI u) (hE : HE u) (hT : HT u) (hR : TXR g σ u) {r c q e : Int32} : CtE E mX0_swap 406 [.ref (g.1 0), .int r, .int c, .int q, .int e] (PR (.int (swapR u r c q e)) (QX g σ u n K)) (S g σ w) := by
  show VE E mX0_swap 406 _ 0 [some (.ref (g.1 0)), some (.int r), some (.int c), some (.int q), some (.int e), none, none, none] [] (S g σ w)
  refine VE.step (fun _ h => V.ald0 dX0_swap_0 (V.ild1 dX0_swap_1 (V.ild2 dX0_swap_2 (V.invV2r vX0_173 hX.t0 dX0_swap_3 (c_X0_isSeat hX hI) h)))) ?_
  refine VE.ifb_eq (tgt := 19) dX0_swap_6 (by decide) (fun c_6 => ?_) (fun c_6 => ?_)
  · refine VE.step (fun _ h => V.ldc_w q1370 dX0_swap_19 h) ?_
    exact VE.iret dX0_swap_22 rfl rfl (⟨by simp only [swapR, c_6, if_true, if_false, Bool.false_eq_true, eq_self, and_true, true_and, and_false, false_and, Bool.and_true, Bool.true_and, Bool.and_false, Bool.false_and, Bool.not_true, Bool.not_false, not_true_eq_false, not_false_eq_true, ne_eq, b2i_t, b2i_f], w, rfl, hX⟩)
  · refine VE.step (fun _ h => V.ald0 dX0_swap_9 (V.ild3 dX0_swap_10 (V.ild4 dX0_swap_11 (V.invV2r vX0_173 hX.t0 dX0_swap_13 (c_X0_isSeat hX hI) h)))) ?_
    refine VE.ifb_ne (tgt := 23) dX0_swap_16 (by decide) (fun c_16 => ?_) (fun c_16 => ?_)
    · obtain ⟨i, j, hi, -, hj, rfl, rfl, e1, e2⟩ := hX.se hI c_6
      obtain ⟨i', j', hq, -, he, rfl, rfl, e3, e4⟩ := hX.se hI c_16
      have h6 := hX.n6 hi
      have h6' := hX.n6 hq
      refine VE.step (fun _ h => V.ald0 dX0_swap_23 h) ?_
      refine VE.invV0r vX0_362 hX.t0 dX0_swap_24 (c_X0_allWorth hX hI hE hT hR) (fun s9 q9 => ?_)
      obtain ⟨w1, rfl, hX1, hN1⟩ := q9
      refine VE.step (fun _ h => V.ist5 dX0_swap_27 h) ?_
      have hX1' := hX1
      refine VE.step (fun _ h => V.ald0 dX0_swap_29 (V.ald0 dX0_swap_30 (GX0_22 hX1 rfl dX0_swap_31 (V.ild1 dX0_swap_34 (V.invV1r vX0_150 hX1.li.2.1 dX0_swap_35 (c_J2_get hX1 hi) (ccX0_122 hX1 hi rfl dX0_swap_38 (V.ild2 dX0_swap_41 (V.ald0 dX0_swap_42 (GX0_22 hX1 rfl dX0_swap_43 (V.ild3 dX0_swap_46 (V.invV1r vX0_150 hX1.li.2.1 dX0_swap_47 (c_J2_get hX1 hq) (ccX0_122 hX1 hq rfl dX0_swap_50 (V.ild4 dX0_swap_53 (V.invV4v vX0_387 hX1.t0 dX0_swap_55 (c_X0_changes hX1 (hI) hi hj hq he) h)))))))))))))) ?_
      have hX2 : XH g σ (xsw w1 u i j i' j') (swp u (8 * i + j) (8 * i' + j')) n K := hX1.swp hi hj hq he
      refine VE.step (fun _ h => V.ald0 dX0_swap_58 h) ?_
      refine VE.invV0r vX0_362 hX2.t0 dX0_swap_59 (c_X0_allWorth hX2 (HI.swp hI (by omega) (by omega)) hE.swp (HT.swp hT) hR.swp) (fun s9 q9 => ?_)
      obtain ⟨w3, rfl, hX3, hN3⟩ := q9
      have hX3' := hX3
      refine VE.step (fun _ h => V.ild5 dX0_swap_62 (V.isub dX0_swap_64 (V.ist6 dX0_swap_65 (V.ald0 dX0_swap_67 (V.ald0 dX0_swap_68 (GX0_22 hX3 rfl dX0_swap_69 (V.ild1 dX0_swap_72 (V.invV1r vX0_150 hX3.li.2.1 dX0_swap_73 (c_J2_get hX3 hi) (ccX0_122 hX3 hi rfl dX0_swap_76 (V.ild2 dX0_swap_79 (V.ald0 dX0_swap_80 (GX0_22 hX3 rfl dX0_swap_81 (V.ild3 dX0_swap_84 (V.invV1r vX0_150 hX3.li.2.1 dX0_swap_85 (c_J2_get hX3 hq) h)))))))))))))) ?_
      refine VE.step (fun _ h => ccX0_122 hX3 hq rfl dX0_swap_88 (V.ild4 dX0_swap_91 (V.invV4v vX0_387 hX3.t0 dX0_swap_93 (c_X0_changes hX3 (HI.swp hI (by omega) (by omega)) hi hj hq he) (V.ild6 dX0_swap_96 h)))) ?_
      exact VE.iret dX0_swap_98 rfl rfl (⟨by rw [swapR, c_6, c_16, e1, e2, e3, e4]; rfl, _, rfl, by have h9 := hX3.swp hi hj hq he; rw [show _root_.id (swp (swp u (8 * i + j) (8 * i' + j')) (8 * i + j) (8 * i' + j')) = u from swp_swp] at h9; exact h9⟩)
    · refine VE.step (fun _ h => V.ldc_w q1370 dX0_swap_19 h) ?_
      exact VE.iret dX0_swap_22 rfl rfl (⟨by simp only [swapR, c_6, c_16, if_true, if_false, Bool.false_eq_true, eq_self, and_true, true_and, and_false, false_and, Bool.and_true, Bool.true_and, Bool.and_false, Bool.false_and, Bool.not_true, Bool.not_false, not_true_eq_false, not_false_eq_true, ne_eq, b2i_t, b2i_f], w, rfl, hX⟩)

def SQ (g : Ge) (σ : Sg) (u : Wv) (n : Nat) (K : Nat → Nat) (t : Int32 × Int32) : Sg → Prop := fun s => ∃ w' : Wv, s = S g σ w' ∧ XH g σ w' u n K ∧ (w' 0 23, w' 0 24) = t
theorem fT_1 {u : Wv} {r a b : Nat} {s : Int32 × Int32} (h : so u r a = so u r b) : fndT u r a b s = s := by rw [fndT, if_pos h]
theorem fT_2 {u : Wv} {r a b : Nat} {x y : Int32} (h : ¬ so u r a = so u r b) (h2 : ¬ y < allS (swp u (8 * r + a) (8 * r + b)) - allS u) : fndT u r a b (x, y) = (x, y) := by rw [fndT, if_neg h, if_pos (show gnS u (8 * r + a) (8 * r + b) ≤ (x, y).2 from Int32.not_lt.mp h2)]
theorem fT_3 {u : Wv} {r a b : Nat} {x y : Int32} (h : ¬ so u r a = so u r b) (h2 : y < allS (swp u (8 * r + a) (8 * r + b)) - allS u) : fndT u r a b (x, y) = (10 * nI a + nI b, allS (swp u (8 * r + a) (8 * r + b)) - allS u) := by rw [fndT, if_neg h, if_neg (show ¬ gnS u (8 * r + a) (8 * r + b) ≤ (x, y).2 from Int32.not_le.mpr h2)]; rfl
theorem c_X0_seeks {E : En} {g : Ge} {σ : Sg} {w u : Wv} {n : Nat} {K : Nat → Nat} (hX : XH g σ w u n K) (hI : HI u) (hE : HE u) (hT : HT u) (hR : TXR g σ u) {r : Nat} (hr : r < n) : CtE E mX0_seeks 406 [.ref (g.1 0), .int (nI r)] (PV (SQ g σ u n K (fnd u r))) (S g σ w) := by
  show VE E mX0_seeks 406 _ 0 [some (.ref (g.1 0)), some (.int (nI r)), none, none, none, none, none] [] (S g σ w)
  have hS := hI.seats (hX.n6 hr)
  have L30 : ∀ (m a : Nat) (w1 : Wv) (z5 z6 : Option Value), a + m = nS u r → XH g σ w1 u n K → VE E mX0_seeks 406 (PV (SQ g σ u n K (fndA u r a m (w1 0 23, w1 0 24)))) 30 [some (.ref (g.1 0)), some (.int (nI r)), some (.ref (g.1 (60 + r))), some (.int (allS u)), some (.int (nI a)), z5, z6] [] (S g σ w1) := by
    intro m
    induction m with
    | zero =>
      intro a w1 z5 z6 hk hX1
      refine VE.step (fun _ h => V.ild4 dX0_seeks_30 (V.ald2 dX0_seeks_32 (GX0_154 hX1 hr rfl dX0_seeks_33 h))) ?_
      refine VE.icmp_ge (tgt := 144) dX0_seeks_36 (by decide) (fun c_36 => ?_) (fun c_36 => absurd (by rw [hS.1]; exact nI_le (by omega) (by omega)) c_36)
      exact VE.vret dX0_seeks_144 rfl (⟨rfl, w1, rfl, hX1, rfl⟩)
    | succ m ih =>
      intro a w1 z5 z6 hk hX1
      have h8 := hS.2
      have L45 : ∀ (m9 b : Nat) (w1 : Wv) (z6 : Option Value), b + m9 = nS u r → XH g σ w1 u n K → VE E mX0_seeks 406 (PV (SQ g σ u n K (fndA u r (a + 1) m (fndB u r a b m9 (w1 0 23, w1 0 24))))) 45 [some (.ref (g.1 0)), some (.int (nI r)), some (.ref (g.1 (60 + r))), some (.int (allS u)), some (.int (nI a)), some (.int (nI b)), z6] [] (S g σ w1) := by
        intro m9
        induction m9 with
        | zero =>
          intro b w1 z6 hk9 hX1
          refine VE.step (fun _ h => V.ild5 dX0_seeks_45 (V.ald2 dX0_seeks_47 (GX0_154 hX1 hr rfl dX0_seeks_48 h))) ?_
          refine VE.icmp_ge (tgt := 138) dX0_seeks_51 (by decide) (fun c_51 => ?_) (fun c_51 => absurd (by rw [hS.1]; exact nI_le (by omega) (by omega)) c_51)
          refine VE.step (fun _ h => V.inc4 dX0_seeks_138 (V.goto (tgt := 30) dX0_seeks_141 (by decide) h)) ?_
          rw [nI_1, fndB]
          exact ih (a + 1) w1 _ _ (by omega) hX1
        | succ m9 ih9 =>
          intro b w1 z6 hk9 hX1
          have h8 := hS.2
          have h6 := hX.n6 hr
          refine VE.step (fun _ h => V.ild5 dX0_seeks_45 (V.ald2 dX0_seeks_47 (GX0_154 hX1 hr rfl dX0_seeks_48 h))) ?_
          refine VE.icmp_ge (tgt := 138) dX0_seeks_51 (by decide) (fun c_51 => absurd c_51 (by rw [hS.1]; first | exact nI_ge (by omega) (by omega) | exact fun h9 => absurd ((nI_leI (by omega) (by omega)).mp h9) (by omega))) (fun c_51 => ?_)
          refine VE.step (fun _ h => V.ald2 dX0_seeks_54 (GX0_177 hX1 hr rfl dX0_seeks_55 (V.ild4 dX0_seeks_58 (aXs hX1 hr (IX.n (by omega) (by decide)) dX0_seeks_60 (V.ald2 dX0_seeks_61 (GX0_177 hX1 hr rfl dX0_seeks_62 (V.ild5 dX0_seeks_65 (aXs hX1 hr (IX.n (by omega) (by decide)) dX0_seeks_67 h)))))))) ?_
          refine VE.icmp_ne (tgt := 74) dX0_seeks_68 (by decide) (fun c_68 => ?_) (fun c_68 => ?_)
          · refine VE.step (fun _ h => V.ald0 dX0_seeks_74 (V.ald2 dX0_seeks_75 (V.ild4 dX0_seeks_76 (V.ald2 dX0_seeks_78 (V.ild5 dX0_seeks_79 (V.invV4v vX0_387 hX1.t0 dX0_seeks_81 (c_X0_changes hX1 (hI) hr (by omega) hr (by omega)) h)))))) ?_
            have hX2 : XH g σ (xsw w1 u r a r b) (swp u (8 * r + a) (8 * r + b)) n K := hX1.swp hr (by omega) hr (by omega)
            refine VE.step (fun _ h => V.ald0 dX0_seeks_84 h) ?_
            refine VE.invV0r vX0_362 hX2.t0 dX0_seeks_85 (c_X0_allWorth hX2 (HI.swp hI (by omega) (by omega)) hE.swp (HT.swp hT) hR.swp) (fun s9 q9 => ?_)
            obtain ⟨w3, rfl, hX3, hN3⟩ := q9
            have hX3' := hX3
            refine VE.step (fun _ h => V.ild3 dX0_seeks_88 (V.isub dX0_seeks_89 (V.ist6 dX0_seeks_90 (V.ald0 dX0_seeks_92 (V.ald2 dX0_seeks_93 (V.ild4 dX0_seeks_94 (V.ald2 dX0_seeks_96 (V.ild5 dX0_seeks_97 (V.invV4v vX0_387 hX3.t0 dX0_seeks_99 (c_X0_changes hX3 (HI.swp hI (by omega) (by omega)) hr (by omega) hr (by omega)) h))))))))) ?_
            have hX4 : XH g σ (xsw w3 (swp u (8 * r + a) (8 * r + b)) r a r b) u n K := by
              have h9 := hX3.swp hr (show a < 8 by omega) hr (show b < 8 by omega)
              rw [show _root_.id (swp (swp u (8 * r + a) (8 * r + b)) (8 * r + a) (8 * r + b)) = u from swp_swp] at h9
              exact h9
            have e0 : xsw w3 (swp u (8 * r + a) (8 * r + b)) r a r b 0 = w1 0 := by rw [xsw_ne (by decide), hN3 0 (by decide), xsw_ne (by decide)]
            refine VE.step (fun _ h => V.ild6 dX0_seeks_102 (V.ald0 dX0_seeks_104 (GX0_394 hX4 rfl dX0_seeks_105 h))) ?_
            refine VE.icmp_gt (tgt := 114) dX0_seeks_108 (by decide) (fun c_108 => ?_) (fun c_108 => ?_)
            · refine VE.step (fun _ h => V.ald0 dX0_seeks_114 (V.ild6 dX0_seeks_115 (PX0_394 hX4 rfl dX0_seeks_117 h))) ?_
              have hX5 := hX4.sc (a := 0) (b := 24) (x := allS (swp u (8 * r + a) (8 * r + b)) - allS u) rfl
              refine VE.step (fun _ h => V.ald0 dX0_seeks_120 (V.bipush (v := 10) dX0_seeks_121 (by decide) (V.ild4 dX0_seeks_123 (V.imul dX0_seeks_125 (V.ild5 dX0_seeks_126 (V.iadd dX0_seeks_128 (PX0_391 hX5 rfl dX0_seeks_129 (V.inc5 dX0_seeks_132 (V.goto (tgt := 45) dX0_seeks_135 (by decide) h))))))))) ?_
              first
                | (rw [nI_1, fndB, fT_1 c_68]; exact ih9 (b + 1) w1 _ (by omega) hX1)
                | (rw [nI_1, fndB, fT_2 c_68 (by rw [← e0]; exact c_108), ← e0]; exact ih9 (b + 1) _ _ (by omega) hX4)
                | (rw [nI_1, fndB, fT_3 c_68 (by rw [← e0]; exact c_108)]; exact ih9 (b + 1) _ _ (by omega) (hX5.sc (a := 0) (b := 23) rfl))
            · refine VE.step (fun _ h => V.goto (tgt := 132) dX0_seeks_111 (by decide) (V.inc5 dX0_seeks_132 (V.goto (tgt := 45) dX0_seeks_135 (by decide) h))) ?_
              first
                | (rw [nI_1, fndB, fT_1 c_68]; exact ih9 (b + 1) w1 _ (by omega) hX1)
                | (rw [nI_1, fndB, fT_2 c_68 (by rw [← e0]; exact c_108), ← e0]; exact ih9 (b + 1) _ _ (by omega) hX4)
                | (rw [nI_1, fndB, fT_3 c_68 (by rw [← e0]; exact c_108)]; exact ih9 (b + 1) _ _ (by omega) (hX5.sc (a := 0) (b := 23) rfl))
          · refine VE.step (fun _ h => V.goto (tgt := 132) dX0_seeks_71 (by decide) (V.inc5 dX0_seeks_132 (V.goto (tgt := 45) dX0_seeks_135 (by decide) h))) ?_
            first
              | (rw [nI_1, fndB, fT_1 c_68]; exact ih9 (b + 1) w1 _ (by omega) hX1)
              | (rw [nI_1, fndB, fT_2 c_68 (by rw [← e0]; exact c_108), ← e0]; exact ih9 (b + 1) _ _ (by omega) hX4)
              | (rw [nI_1, fndB, fT_3 c_68 (by rw [← e0]; exact c_108)]; exact ih9 (b + 1) _ _ (by omega) (hX5.sc (a := 0) (b := 23) rfl))
      refine VE.step (fun _ h => V.ild4 dX0_seeks_30 (V.ald2 dX0_seeks_32 (GX0_154 hX1 hr rfl dX0_seeks_33 h))) ?_
      refine VE.icmp_ge (tgt := 144) dX0_seeks_36 (by decide) (fun c_36 => absurd c_36 (by rw [hS.1]; first | exact nI_ge (by omega) (by omega) | exact fun h9 => absurd ((nI_leI (by omega) (by omega)).mp h9) (by omega))) (fun c_36 => ?_)
      refine VE.step (fun _ h => V.ild4 dX0_seeks_39 (V.iconst_1 dX0_seeks_41 (V.iadd dX0_seeks_42 (V.ist5 dX0_seeks_43 h)))) ?_
      rw [nI_1, fndA]
      exact L45 (nS u r - (a + 1)) (a + 1) w1 _ (by omega) hX1
  refine VE.step (fun _ h => V.ald0 dX0_seeks_0 (GX0_22 hX rfl dX0_seeks_1 (V.ild1 dX0_seeks_4 (V.invV1r vX0_150 hX.li.2.1 dX0_seeks_5 (c_J2_get hX hr) (ccX0_122 hX hr rfl dX0_seeks_8 (V.ast2 dX0_seeks_11 (V.ald0 dX0_seeks_12 h))))))) ?_
  refine VE.invV0r vX0_362 hX.t0 dX0_seeks_13 (c_X0_allWorth hX hI hE hT hR) (fun s9 q9 => ?_)
  obtain ⟨w1, rfl, hX1, hN1⟩ := q9
  have hX1' := hX1
  refine VE.step (fun _ h => V.ist3 dX0_seeks_16 (V.ald0 dX0_seeks_17 (V.iconst_m1 dX0_seeks_18 (PX0_391 hX1 rfl dX0_seeks_19 h)))) ?_
  have hX2 := hX1.sc (a := 0) (b := 23) (x := -1) rfl
  refine VE.step (fun _ h => V.ald0 dX0_seeks_22 (V.iconst_0 dX0_seeks_23 (PX0_394 hX2 rfl dX0_seeks_24 (V.iconst_0 dX0_seeks_27 (V.ist4 dX0_seeks_28 h))))) ?_
  have h9 := L30 (nS u r) 0 _ none none (by omega) (hX2.sc (a := 0) (b := 24) (x := 0) rfl)
  rw [up2_eq, up2_ne _ _ (fun z => absurd z.2 (by decide)), up2_eq] at h9
  exact h9

theorem c_X0_people {E : En} {g : Ge} {σ : Sg} {w u : Wv} {n : Nat} {K : Nat → Nat} (hX : XH g σ w u n K) (hI : HI u) (hE : HE u) (hT : HT u) (hR : TXR g σ u) {r a : Int32} : CtE E mX0_people 407 [.ref (g.1 0), .int r, .int a] (PR (.int (peopleR u r a)) (QX g σ u n K)) (S g σ w) := by
  show VE E mX0_people 407 _ 0 [some (.ref (g.1 0)), some (.int r), some (.int a)] [] (S g σ w)
  refine VE.step (fun _ h => V.ald0 dX0_people_0 (V.ild1 dX0_people_1 (V.invV1r vX0_146 hX.t0 dX0_people_2 (c_X0_isRow hX) h))) ?_
  refine VE.ifb_ne (tgt := 11) dX0_people_5 (by decide) (fun c_5 => ?_) (fun c_5 => ?_)
  · refine VE.step (fun _ h => V.ild2 dX0_people_11 (V.i2l dX0_people_12 (V.lconst_0 dX0_people_13 (V.lconst_1 dX0_people_14 (V.invS3r sX0_112 dX0_people_15 (in_c (lo := 0) (hi := 1) rfl rfl) h))))) ?_
    refine VE.ifb_ne (tgt := 24) dX0_people_18 (by decide) (fun c_18 => ?_) (fun c_18 => ?_)
    · obtain ⟨i, hi, rfl, e1⟩ := hX.ix c_5
      refine VE.step (fun _ h => V.ald0 dX0_people_24 (V.ild1 dX0_people_25 h)) ?_
      refine VE.invV1v vX0_397 hX.t0 dX0_people_26 (c_X0_seeks hX hI hE hT hR hi) (fun s9 q9 => ?_)
      obtain ⟨w1, rfl, hX1, ht⟩ := q9
      have ht1 : w1 0 23 = (fnd u i).1 := congrArg Prod.fst ht
      have ht2 : w1 0 24 = (fnd u i).2 := congrArg Prod.snd ht
      have hX1' := hX1
      refine VE.step (fun _ h => V.ild2 dX0_people_29 h) ?_
      refine VE.if_ne (tgt := 40) dX0_people_30 (by decide) (fun c_30 => ?_) (fun c_30 => ?_)
      · refine VE.step (fun _ h => V.ald0 dX0_people_40 (GX0_394 hX1 rfl dX0_people_41 h)) ?_
        exact VE.iret dX0_people_44 rfl rfl (by first | (refine ⟨?_, w1, rfl, hX1⟩; rw [peopleR, if_pos c_5, if_pos c_18, if_pos c_30, e1, ht1]; done) | (refine ⟨?_, w1, rfl, hX1⟩; rw [peopleR, if_pos c_5, if_pos c_18, if_neg c_30, e1, ht2]; done))
      · refine VE.step (fun _ h => V.ald0 dX0_people_33 (GX0_391 hX1 rfl dX0_people_34 (V.goto (tgt := 44) dX0_people_37 (by decide) h))) ?_
        exact VE.iret dX0_people_44 rfl rfl (by first | (refine ⟨?_, w1, rfl, hX1⟩; rw [peopleR, if_pos c_5, if_pos c_18, if_pos c_30, e1, ht1]; done) | (refine ⟨?_, w1, rfl, hX1⟩; rw [peopleR, if_pos c_5, if_pos c_18, if_neg c_30, e1, ht2]; done))
    · refine VE.step (fun _ h => V.bipush (v := (-7)) dX0_people_21 (by decide) h) ?_
      exact VE.iret dX0_people_23 rfl rfl (⟨by simp only [peopleR, c_5, c_18, if_true, if_false, Bool.false_eq_true, eq_self, and_true, true_and, and_false, false_and, Bool.and_true, Bool.true_and, Bool.and_false, Bool.false_and, Bool.not_true, Bool.not_false, not_true_eq_false, not_false_eq_true, ne_eq, b2i_t, b2i_f], w, rfl, hX⟩)
  · refine VE.step (fun _ h => V.bipush (v := (-5)) dX0_people_8 (by decide) h) ?_
    exact VE.iret dX0_people_10 rfl rfl (⟨by simp only [peopleR, c_5, if_true, if_false, Bool.false_eq_true, eq_self, and_true, true_and, and_false, false_and, Bool.and_true, Bool.true_and, Bool.and_false, Bool.false_and, Bool.not_true, Bool.not_false, not_true_eq_false, not_false_eq_true, ne_eq, b2i_t, b2i_f], w, rfl, hX⟩)

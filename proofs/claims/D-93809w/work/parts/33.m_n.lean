set_option maxRecDepth 100000
set_option maxHeartbeats 1000000
theorem c_X7_changes {E : En} {g : Ge} {σ : Sg} {w : Wv} (hW : WM g σ) {a b : Nat} (ha : a < 48) (hb : b < 48) : Ct E mX7_changes 0 [.ref (g.1 100), .int (nI a), .int (nI b)] (.returned none, S g σ (swp w a b)) (S g σ w) := by
  show V E mX7_changes 0 _ 0 [some (.ref (g.1 100)), some (.int (nI a)), some (.int (nI b)), none] [] (S g σ w)
  refine V.ald0 dX7_changes_0 (GX7_34 hW rfl dX7_changes_1 (V.ild1 dX7_changes_4 (aM9 hW (IX.n ha (by decide)) dX7_changes_5 (V.ist3 dX7_changes_6 (V.ald0 dX7_changes_7 (GX7_34 hW rfl dX7_changes_8 (V.ild1 dX7_changes_11 (V.ald0 dX7_changes_12 (GX7_34 hW rfl dX7_changes_13 (V.ild2 dX7_changes_16 (aM9 hW (IX.n hb (by decide)) dX7_changes_17 (sM9 hW (IX.n ha (by decide)) dX7_changes_18 ?_))))))))))))
  exact V.ald0 dX7_changes_19 (GX7_34 hW rfl dX7_changes_20 (V.ild2 dX7_changes_23 (V.ild3 dX7_changes_24 (sM9 hW (IX.n hb (by decide)) dX7_changes_25 (V.vret dX7_changes_26 rfl (rfl))))))

theorem c_X7_gainBy {E : En} {g : Ge} {σ : Sg} {w : Wv} (hW : WM g σ) {v : Wv} (hA : cv w = cv v) (hI : HI v) (hT : HT v) {a b : Nat} (ha : a < 48) (hb : b < 48) : CtE E mX7_gainBy 7 [.ref (g.1 100), .int (nI a), .int (nI b)] (PR (.int (gnS v a b)) (QM g σ (cu w))) (S g σ w) := by
  show VE E mX7_gainBy 7 _ 0 [some (.ref (g.1 100)), some (.int (nI a)), some (.int (nI b)), none, none] [] (S g σ w)
  refine VE.step (fun _ h => V.ald0 dX7_gainBy_0 h) ?_
  refine VE.invV0r vX7_346 hW.2.2.1 dX7_gainBy_1 (e_X7_allWorth hW hA hI hT) (fun s9 q9 => ?_)
  obtain ⟨w1, hw1, rfl⟩ := q9
  refine VE.step (fun _ h => V.ist3 dX7_gainBy_4 (V.ald0 dX7_gainBy_5 (V.ild1 dX7_gainBy_6 (V.ild2 dX7_gainBy_7 (V.invV2v vX7_359 hW.2.2.1 dX7_gainBy_8 (c_X7_changes hW ha hb) (V.ald0 dX7_gainBy_11 h)))))) ?_
  refine VE.invV0r vX7_346 hW.2.2.1 dX7_gainBy_12 (e_X7_allWorth hW (cv_swp (show cv w1 = cv v by rw [cv_of_cu hw1, hA])) (HI.swp hI ha hb) hT.swp) (fun s9 q9 => ?_)
  obtain ⟨w2, hw2, rfl⟩ := q9
  refine VE.step (fun _ h => V.ist4 dX7_gainBy_15 (V.ald0 dX7_gainBy_17 (V.ild1 dX7_gainBy_18 (V.ild2 dX7_gainBy_19 (V.invV2v vX7_359 hW.2.2.1 dX7_gainBy_20 (c_X7_changes hW ha hb) (V.ild4 dX7_gainBy_23 (V.ild3 dX7_gainBy_25 (V.isub dX7_gainBy_26 h)))))))) ?_
  exact VE.iret dX7_gainBy_27 rfl rfl (⟨rfl, _, by rw [cu_swp, hw2, ← cu_swp, swp_swp, hw1], rfl⟩)

theorem ix2e {r c : Nat} : 8 * nI r + nI c = nI (8 * r + c) := by rw [show (8 : Int32) = nI 8 from rfl, pk_mul, nI_add]
theorem c_X7_swap {E : En} {g : Ge} {σ : Sg} {w : Wv} (hW : WM g σ) {v : Wv} (hA : cv w = cv v) (hI : HI v) (hT : HT v) {r c q e : Int32} : CtE E mX7_swap 8 [.ref (g.1 100), .int r, .int c, .int q, .int e] (PR (.int (swapR v r c q e)) (QV g σ v)) (S g σ w) := by
  show VE E mX7_swap 8 _ 0 [some (.ref (g.1 100)), some (.int r), some (.int c), some (.int q), some (.int e)] [] (S g σ w)
  refine VE.step (fun _ h => V.ald0 dX7_swap_0 (V.ild1 dX7_swap_1 (V.ild2 dX7_swap_2 (V.invV2r vX7_167 hW.2.2.1 dX7_swap_3 (e_X7_isSeat hW hA hI) h)))) ?_
  refine VE.ifb_eq (tgt := 39) dX7_swap_6 (by decide) (fun c_6 => ?_) (fun c_6 => ?_)
  · refine VE.step (fun _ h => V.ldc_w q2026 dX7_swap_39 h) ?_
    exact VE.iret dX7_swap_42 rfl rfl (by first | exact ⟨by simp only [swapR, e1, e2, e3, e4, c_6, if_true, if_false, Bool.false_eq_true, eq_self, and_true, true_and, and_false, false_and, Bool.and_true, Bool.true_and, Bool.and_false, Bool.false_and, Bool.not_true, Bool.not_false, not_true_eq_false, not_false_eq_true, ne_eq, b2i_t, b2i_f], QM.qv (by rw [cv_cu, hA]) ⟨_, hw1, rfl⟩⟩ | exact ⟨by simp only [swapR, c_6, if_true, if_false, Bool.false_eq_true, eq_self, and_true, true_and, and_false, false_and, Bool.and_true, Bool.true_and, Bool.and_false, Bool.false_and, Bool.not_true, Bool.not_false, not_true_eq_false, not_false_eq_true, ne_eq, b2i_t, b2i_f], _, hA, rfl⟩)
  · refine VE.step (fun _ h => V.ald0 dX7_swap_9 (V.ild3 dX7_swap_10 (V.ild4 dX7_swap_11 (V.invV2r vX7_167 hW.2.2.1 dX7_swap_13 (e_X7_isSeat hW hA hI) h)))) ?_
    refine VE.ifb_eq (tgt := 39) dX7_swap_16 (by decide) (fun c_16 => ?_) (fun c_16 => ?_)
    · refine VE.step (fun _ h => V.ldc_w q2026 dX7_swap_39 h) ?_
      exact VE.iret dX7_swap_42 rfl rfl (by first | exact ⟨by simp only [swapR, e1, e2, e3, e4, c_6, c_16, if_true, if_false, Bool.false_eq_true, eq_self, and_true, true_and, and_false, false_and, Bool.and_true, Bool.true_and, Bool.and_false, Bool.false_and, Bool.not_true, Bool.not_false, not_true_eq_false, not_false_eq_true, ne_eq, b2i_t, b2i_f], QM.qv (by rw [cv_cu, hA]) ⟨_, hw1, rfl⟩⟩ | exact ⟨by simp only [swapR, c_6, c_16, if_true, if_false, Bool.false_eq_true, eq_self, and_true, true_and, and_false, false_and, Bool.and_true, Bool.true_and, Bool.and_false, Bool.false_and, Bool.not_true, Bool.not_false, not_true_eq_false, not_false_eq_true, ne_eq, b2i_t, b2i_f], _, hA, rfl⟩)
    · obtain ⟨i, j, hi, hr, hj, hc, rfl, rfl⟩ := seB_ix hI c_6
      have e1 : cl (nI i) = i := cl_n (by omega)
      have e2 : cl (nI j) = j := cl_n (by omega)
      obtain ⟨i2, j2, hi2, hr2, hj2, hc2, rfl, rfl⟩ := seB_ix hI c_16
      have e3 : cl (nI i2) = i2 := cl_n (by omega)
      have e4 : cl (nI j2) = j2 := cl_n (by omega)
      refine VE.step (fun _ h => V.ald0 dX7_swap_19 (V.bipush (v := 8) dX7_swap_20 (by decide) (V.ild1 dX7_swap_22 (V.imul dX7_swap_23 (V.ild2 dX7_swap_24 (V.iadd dX7_swap_25 (V.bipush (v := 8) dX7_swap_26 (by decide) (V.ild3 dX7_swap_28 (V.imul dX7_swap_29 (V.ild4 dX7_swap_30 (V.iadd dX7_swap_32 h))))))))))) ?_
      rw [ix2e, ix2e]
      refine VE.invV2r vX7_363 hW.2.2.1 dX7_swap_33 (c_X7_gainBy hW hA hI hT (by omega) (by omega)) (fun s9 q9 => ?_)
      obtain ⟨w1, hw1, rfl⟩ := q9
      refine VE.step (fun _ h => V.goto (tgt := 42) dX7_swap_36 (by decide) h) ?_
      exact VE.iret dX7_swap_42 rfl rfl (by first | exact ⟨by simp only [swapR, e1, e2, e3, e4, c_6, c_16, if_true, if_false, Bool.false_eq_true, eq_self, and_true, true_and, and_false, false_and, Bool.and_true, Bool.true_and, Bool.and_false, Bool.false_and, Bool.not_true, Bool.not_false, not_true_eq_false, not_false_eq_true, ne_eq, b2i_t, b2i_f], QM.qv (by rw [cv_cu, hA]) ⟨_, hw1, rfl⟩⟩ | exact ⟨by simp only [swapR, c_6, c_16, if_true, if_false, Bool.false_eq_true, eq_self, and_true, true_and, and_false, false_and, Bool.and_true, Bool.true_and, Bool.and_false, Bool.false_and, Bool.not_true, Bool.not_false, not_true_eq_false, not_false_eq_true, ne_eq, b2i_t, b2i_f], _, hA, rfl⟩)

theorem fndT_0 {v : Wv} {r a b : Nat} {s : Int32 × Int32} (h : 0 ≤ s.2) : 0 ≤ (fndT v r a b s).2 := by
  unfold fndT
  split
  · exact h
  · split
    · exact h
    · rename_i h2; exact Int32.le_of_lt (Int32.lt_of_le_of_lt h (Int32.not_le.mp h2))
def fOK (s : Int32 × Int32) : Prop := s.1 = -1 ∨ ∃ a b, a < 8 ∧ b < 8 ∧ s.1 = nI (10 * a + b)
theorem fndT_ok {v : Wv} {r a b : Nat} {s : Int32 × Int32} (ha : a < 8) (hb : b < 8) (h : fOK s) : fOK (fndT v r a b s) := by
  unfold fndT
  split
  · exact h
  · split
    · exact h
    · exact .inr ⟨a, b, ha, hb, by show 10 * nI a + nI b = _; rw [show (10 : Int32) = nI 10 from rfl, pk_mul, nI_add]⟩
theorem fndB_ok {v : Wv} {r a : Nat} (ha : a < 8) : ∀ (m b : Nat) {s : Int32 × Int32}, b + m ≤ 8 → fOK s → fOK (fndB v r a b m s)
  | 0, _, _, _, h => h
  | m + 1, b, s, hb, h => fndB_ok ha m (b + 1) (by omega) (fndT_ok ha (by omega) h)
theorem fndA_ok {v : Wv} {r : Nat} (hn : nS v r ≤ 8) : ∀ (m a : Nat) {s : Int32 × Int32}, a + m ≤ 8 → fOK s → fOK (fndA v r a m s)
  | 0, _, _, _, h => h
  | m + 1, a, s, hb, h => fndA_ok hn m (a + 1) (by omega) (fndB_ok (by omega) _ _ (by omega) h)
theorem fnd_ok {v : Wv} {r : Nat} (hn : nS v r ≤ 8) : fOK (fnd v r) := fndA_ok hn _ _ (by omega) (.inl rfl)
theorem c_X7_finds {E : En} {g : Ge} {σ : Sg} {w : Wv} (hW : WM g σ) {v : Wv} (hA : cv w = cv v) (hI : HI v) (hT : HT v) {r : Nat} (hr : r < 6) : CtE E mX7_finds 8 [.ref (g.1 100), .int (nI r)] (PV (fun s => ∃ w', s = S g σ w' ∧ cv w' = cv v ∧ w' 100 56 = (fnd v r).1 ∧ w' 100 57 = (fnd v r).2)) (S g σ w) := by
  show VE E mX7_finds 8 _ 0 [some (.ref (g.1 100)), some (.int (nI r)), none, none, none] [] (S g σ w)
  have hS2 := (hI.seats hr).2
  have L12 : ∀ (m a : Nat) (s : Int32 × Int32) (w' : Wv) (y y2 : Option Value), a + m = nS v r → cv w' = cv v → w' 100 56 = s.1 → w' 100 57 = s.2 → 0 ≤ s.2 → fndA v r a m s = fnd v r → VE E mX7_finds 8 (PV (fun s => ∃ w', s = S g σ w' ∧ cv w' = cv v ∧ w' 100 56 = (fnd v r).1 ∧ w' 100 57 = (fnd v r).2)) 12 [some (.ref (g.1 100)), some (.int (nI r)), some (.int (nI a)), y, y2] [] (S g σ w') := by
    intro m
    induction m with
    | zero =>
      intro a s w' y y2 hk hw h1 h2 h0 hs
      refine VE.step (fun _ h => V.ild2 dX7_finds_12 (V.ald0 dX7_finds_13 (GX7_22 hW rfl dX7_finds_14 (V.ild1 dX7_finds_17 (aM5 hW (by first | exact IX.n ‹_› (by decide) | exact IX.n (by omega) (by decide)) dX7_finds_18 h))))) ?_
      refine VE.icmp_ge (tgt := 120) dX7_finds_19 (by decide) (fun c_19 => ?_) (fun c_19 => absurd (by rw [cv_at hw (e := rfl), (hI.seats hr).1]; exact nI_le (by omega) (by omega)) c_19)
      exact VE.vret dX7_finds_120 rfl (⟨rfl, _, rfl, hw, by rw [h1, ← hs]; rfl, by rw [h2, ← hs]; rfl⟩)
    | succ m ih =>
      intro a s w' y y2 hk hw h1 h2 h0 hs
      have L26 : ∀ (m9 b : Nat) (s : Int32 × Int32) (w' : Wv) (y : Option Value), b + m9 = nS v r → cv w' = cv v → w' 100 56 = s.1 → w' 100 57 = s.2 → 0 ≤ s.2 → fndA v r (a + 1) m (fndB v r a b m9 s) = fnd v r → VE E mX7_finds 8 (PV (fun s => ∃ w', s = S g σ w' ∧ cv w' = cv v ∧ w' 100 56 = (fnd v r).1 ∧ w' 100 57 = (fnd v r).2)) 26 [some (.ref (g.1 100)), some (.int (nI r)), some (.int (nI a)), some (.int (nI b)), y] [] (S g σ w') := by
        intro m9
        induction m9 with
        | zero =>
          intro b s w' y hk9 hw h1 h2 h0 hs
          refine VE.step (fun _ h => V.ild3 dX7_finds_26 (V.ald0 dX7_finds_27 (GX7_22 hW rfl dX7_finds_28 (V.ild1 dX7_finds_31 (aM5 hW (by first | exact IX.n ‹_› (by decide) | exact IX.n (by omega) (by decide)) dX7_finds_32 h))))) ?_
          refine VE.icmp_ge (tgt := 114) dX7_finds_33 (by decide) (fun c_33 => ?_) (fun c_33 => absurd (by rw [cv_at hw (e := rfl), (hI.seats hr).1]; exact nI_le (by omega) (by omega)) c_33)
          refine VE.step (fun _ h => V.inc2 dX7_finds_114 (V.goto (tgt := 12) dX7_finds_117 (by decide) h)) ?_
          rw [nI_1]
          exact ih (a + 1) s _ _ _ (by omega) hw h1 h2 h0 hs
        | succ m9 ih9 =>
          intro b s w' y hk9 hw h1 h2 h0 hs
          refine VE.step (fun _ h => V.ild3 dX7_finds_26 (V.ald0 dX7_finds_27 (GX7_22 hW rfl dX7_finds_28 (V.ild1 dX7_finds_31 (aM5 hW (by first | exact IX.n ‹_› (by decide) | exact IX.n (by omega) (by decide)) dX7_finds_32 h))))) ?_
          refine VE.icmp_ge (tgt := 114) dX7_finds_33 (by decide) (fun c_33 => absurd c_33 (by rw [cv_at hw (e := rfl), (hI.seats hr).1]; first | exact nI_ge (by omega) (by omega) | exact fun h9 => absurd ((nI_leI (by omega) (by omega)).mp h9) (by omega))) (fun c_33 => ?_)
          refine VE.step (fun _ h => V.ald0 dX7_finds_36 (GX7_34 hW rfl dX7_finds_37 (V.bipush (v := 8) dX7_finds_40 (by decide) (V.ild1 dX7_finds_42 (V.imul dX7_finds_43 (V.ild2 dX7_finds_44 (V.iadd dX7_finds_45 (aM9 hW (ix2 hr (by omega)) dX7_finds_46 (V.ald0 dX7_finds_47 (GX7_34 hW rfl dX7_finds_48 (V.bipush (v := 8) dX7_finds_51 (by decide) (V.ild1 dX7_finds_53 (V.imul dX7_finds_54 (V.ild3 dX7_finds_55 h)))))))))))))) ?_
          refine VE.step (fun _ h => V.iadd dX7_finds_56 (aM9 hW (ix2 hr (by omega)) dX7_finds_57 h)) ?_
          refine VE.icmp_ne (tgt := 65) dX7_finds_58 (by decide) (fun c_58 => ?_) (fun c_58 => ?_)
          · refine VE.step (fun _ h => V.ald0 dX7_finds_65 (V.bipush (v := 8) dX7_finds_66 (by decide) (V.ild1 dX7_finds_68 (V.imul dX7_finds_69 (V.ild2 dX7_finds_70 (V.iadd dX7_finds_71 (V.bipush (v := 8) dX7_finds_72 (by decide) (V.ild1 dX7_finds_74 (V.imul dX7_finds_75 (V.ild3 dX7_finds_76 (V.iadd dX7_finds_77 h))))))))))) ?_
            rw [ix2e, ix2e]
            refine VE.invV2r vX7_363 hW.2.2.1 dX7_finds_78 (c_X7_gainBy hW hw hI hT (by omega) (by omega)) (fun s9 q9 => ?_)
            obtain ⟨w1, hw1, rfl⟩ := q9
            refine VE.step (fun _ h => V.ist4 dX7_finds_81 (V.ild4 dX7_finds_83 (V.ald0 dX7_finds_85 (GX7_370 hW rfl dX7_finds_86 h)))) ?_
            refine VE.icmp_le (tgt := 108) dX7_finds_89 (by decide) (fun c_89 => ?_) (fun c_89 => ?_)
            · refine VE.step (fun _ h => V.inc3 dX7_finds_108 (V.goto (tgt := 26) dX7_finds_111 (by decide) h)) ?_
              rw [nI_1]
              rw [cv_at hw (id := 110) (j := 8 * r + a), cv_at hw (id := 110) (j := 8 * r + b)] at c_58
              have hz := fun s' (e : s' = fndT v r a b s) => (show fndA v r (a + 1) m (fndB v r a (b + 1) m9 s') = fnd v r by rw [e, ← hs]; rfl)
              first
                | exact absurd (by rw [h2]; exact h0) c_89
                | exact ih9 (b + 1) s _ _ (by omega) hw h1 h2 h0 (hz s (by unfold fndT; rw [if_pos (show so v r a = so v r b from c_58)]))
                | (have e57 : w1 100 57 = s.2 := (cu_at hw1).trans h2
                   have e56 : w1 100 56 = s.1 := (cu_at hw1).trans h1
                   rw [e57] at c_89
                   have hw1' : cv w1 = cv v := by rw [cv_of_cu hw1, hw]
                   have ne := show ¬ so v r a = so v r b from c_58
                   first
                     | exact ih9 (b + 1) s _ _ (by omega) hw1' e56 e57 h0 (hz s (by unfold fndT; rw [if_neg ne, if_pos c_89]))
                     | exact ih9 (b + 1) (10 * nI a + nI b, gnS v (8 * r + a) (8 * r + b)) _ _ (by omega) (by rw [cv_sc rfl, cv_sc rfl]; exact hw1') rfl rfl (Int32.le_of_lt (Int32.lt_of_le_of_lt h0 (Int32.not_le.mp c_89))) (hz _ (by unfold fndT; rw [if_neg ne, if_neg c_89])))
            · refine VE.step (fun _ h => V.ald0 dX7_finds_92 (V.bipush (v := 10) dX7_finds_93 (by decide) (V.ild2 dX7_finds_95 (V.imul dX7_finds_96 (V.ild3 dX7_finds_97 (V.iadd dX7_finds_98 (PX7_367 hW rfl dX7_finds_99 (V.ald0 dX7_finds_102 (V.ild4 dX7_finds_103 (PX7_370 hW rfl dX7_finds_105 (V.inc3 dX7_finds_108 (V.goto (tgt := 26) dX7_finds_111 (by decide) h)))))))))))) ?_
              rw [nI_1]
              rw [cv_at hw (id := 110) (j := 8 * r + a), cv_at hw (id := 110) (j := 8 * r + b)] at c_58
              have hz := fun s' (e : s' = fndT v r a b s) => (show fndA v r (a + 1) m (fndB v r a (b + 1) m9 s') = fnd v r by rw [e, ← hs]; rfl)
              first
                | exact absurd (by rw [h2]; exact h0) c_89
                | exact ih9 (b + 1) s _ _ (by omega) hw h1 h2 h0 (hz s (by unfold fndT; rw [if_pos (show so v r a = so v r b from c_58)]))
                | (have e57 : w1 100 57 = s.2 := (cu_at hw1).trans h2
                   have e56 : w1 100 56 = s.1 := (cu_at hw1).trans h1
                   rw [e57] at c_89
                   have hw1' : cv w1 = cv v := by rw [cv_of_cu hw1, hw]
                   have ne := show ¬ so v r a = so v r b from c_58
                   first
                     | exact ih9 (b + 1) s _ _ (by omega) hw1' e56 e57 h0 (hz s (by unfold fndT; rw [if_neg ne, if_pos c_89]))
                     | exact ih9 (b + 1) (10 * nI a + nI b, gnS v (8 * r + a) (8 * r + b)) _ _ (by omega) (by rw [cv_sc rfl, cv_sc rfl]; exact hw1') rfl rfl (Int32.le_of_lt (Int32.lt_of_le_of_lt h0 (Int32.not_le.mp c_89))) (hz _ (by unfold fndT; rw [if_neg ne, if_neg c_89])))
          · refine VE.step (fun _ h => V.iconst_0 dX7_finds_61 (V.goto (tgt := 81) dX7_finds_62 (by decide) (V.ist4 dX7_finds_81 (V.ild4 dX7_finds_83 (V.ald0 dX7_finds_85 (GX7_370 hW rfl dX7_finds_86 h)))))) ?_
            refine VE.icmp_le (tgt := 108) dX7_finds_89 (by decide) (fun c_89 => ?_) (fun c_89 => ?_)
            · refine VE.step (fun _ h => V.inc3 dX7_finds_108 (V.goto (tgt := 26) dX7_finds_111 (by decide) h)) ?_
              rw [nI_1]
              rw [cv_at hw (id := 110) (j := 8 * r + a), cv_at hw (id := 110) (j := 8 * r + b)] at c_58
              have hz := fun s' (e : s' = fndT v r a b s) => (show fndA v r (a + 1) m (fndB v r a (b + 1) m9 s') = fnd v r by rw [e, ← hs]; rfl)
              first
                | exact absurd (by rw [h2]; exact h0) c_89
                | exact ih9 (b + 1) s _ _ (by omega) hw h1 h2 h0 (hz s (by unfold fndT; rw [if_pos (show so v r a = so v r b from c_58)]))
                | (have e57 : w1 100 57 = s.2 := (cu_at hw1).trans h2
                   have e56 : w1 100 56 = s.1 := (cu_at hw1).trans h1
                   rw [e57] at c_89
                   have hw1' : cv w1 = cv v := by rw [cv_of_cu hw1, hw]
                   have ne := show ¬ so v r a = so v r b from c_58
                   first
                     | exact ih9 (b + 1) s _ _ (by omega) hw1' e56 e57 h0 (hz s (by unfold fndT; rw [if_neg ne, if_pos c_89]))
                     | exact ih9 (b + 1) (10 * nI a + nI b, gnS v (8 * r + a) (8 * r + b)) _ _ (by omega) (by rw [cv_sc rfl, cv_sc rfl]; exact hw1') rfl rfl (Int32.le_of_lt (Int32.lt_of_le_of_lt h0 (Int32.not_le.mp c_89))) (hz _ (by unfold fndT; rw [if_neg ne, if_neg c_89])))
            · refine VE.step (fun _ h => V.ald0 dX7_finds_92 (V.bipush (v := 10) dX7_finds_93 (by decide) (V.ild2 dX7_finds_95 (V.imul dX7_finds_96 (V.ild3 dX7_finds_97 (V.iadd dX7_finds_98 (PX7_367 hW rfl dX7_finds_99 (V.ald0 dX7_finds_102 (V.ild4 dX7_finds_103 (PX7_370 hW rfl dX7_finds_105 (V.inc3 dX7_finds_108 (V.goto (tgt := 26) dX7_finds_111 (by decide) h)))))))))))) ?_
              rw [nI_1]
              rw [cv_at hw (id := 110) (j := 8 * r + a), cv_at hw (id := 110) (j := 8 * r + b)] at c_58
              have hz := fun s' (e : s' = fndT v r a b s) => (show fndA v r (a + 1) m (fndB v r a (b + 1) m9 s') = fnd v r by rw [e, ← hs]; rfl)
              first
                | exact absurd (by rw [h2]; exact h0) c_89
                | exact ih9 (b + 1) s _ _ (by omega) hw h1 h2 h0 (hz s (by unfold fndT; rw [if_pos (show so v r a = so v r b from c_58)]))
                | (have e57 : w1 100 57 = s.2 := (cu_at hw1).trans h2
                   have e56 : w1 100 56 = s.1 := (cu_at hw1).trans h1
                   rw [e57] at c_89
                   have hw1' : cv w1 = cv v := by rw [cv_of_cu hw1, hw]
                   have ne := show ¬ so v r a = so v r b from c_58
                   first
                     | exact ih9 (b + 1) s _ _ (by omega) hw1' e56 e57 h0 (hz s (by unfold fndT; rw [if_neg ne, if_pos c_89]))
                     | exact ih9 (b + 1) (10 * nI a + nI b, gnS v (8 * r + a) (8 * r + b)) _ _ (by omega) (by rw [cv_sc rfl, cv_sc rfl]; exact hw1') rfl rfl (Int32.le_of_lt (Int32.lt_of_le_of_lt h0 (Int32.not_le.mp c_89))) (hz _ (by unfold fndT; rw [if_neg ne, if_neg c_89])))
      refine VE.step (fun _ h => V.ild2 dX7_finds_12 (V.ald0 dX7_finds_13 (GX7_22 hW rfl dX7_finds_14 (V.ild1 dX7_finds_17 (aM5 hW (by first | exact IX.n ‹_› (by decide) | exact IX.n (by omega) (by decide)) dX7_finds_18 h))))) ?_
      refine VE.icmp_ge (tgt := 120) dX7_finds_19 (by decide) (fun c_19 => absurd c_19 (by rw [cv_at hw (e := rfl), (hI.seats hr).1]; first | exact nI_ge (by omega) (by omega) | exact fun h9 => absurd ((nI_leI (by omega) (by omega)).mp h9) (by omega))) (fun c_19 => ?_)
      refine VE.step (fun _ h => V.ild2 dX7_finds_22 (V.iconst_1 dX7_finds_23 (V.iadd dX7_finds_24 (V.ist3 dX7_finds_25 h)))) ?_
      rw [nI_1]
      exact L26 (nS v r - (a + 1)) (a + 1) s _ _ (by omega) hw h1 h2 h0 hs
  refine VE.step (fun _ h => V.ald0 dX7_finds_0 (V.iconst_m1 dX7_finds_1 (PX7_367 hW rfl dX7_finds_2 (V.ald0 dX7_finds_5 (V.iconst_0 dX7_finds_6 (PX7_370 hW rfl dX7_finds_7 (V.iconst_0 dX7_finds_10 (V.ist2 dX7_finds_11 h)))))))) ?_
  exact L12 (nS v r) 0 (-1, 0) _ _ _ (by omega) (by rw [cv_sc rfl, cv_sc rfl, hA]) rfl rfl (by decide) rfl

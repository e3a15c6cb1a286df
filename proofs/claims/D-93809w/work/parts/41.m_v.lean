set_option maxRecDepth 100000
set_option maxHeartbeats 1000000
theorem e_X7_farOf {E : En} {g : Ge} {σ : Sg} {w v : Wv} (hW : WM g σ) (hA : cv w = cv v) {r : Nat} (hr : r < 6) : Ct E mX7_farOf 0 [.ref (g.1 100), .int (nI r)] (.returned (some (.int (fa v r))), S g σ w) (S g σ w) := by
  rw [← cg fa (fun _ => rfl) hA]
  exact c_X7_farOf hW hr
theorem e_X7_above {E : En} {g : Ge} {σ : Sg} {w v : Wv} (hW : WM g σ) (hA : cv w = cv v) {r : Nat} (hr : r < 6) {x : Int32} : Ct E mX7_above 1 [.ref (g.1 100), .int (nI r), .int x] (.returned (some (.int (ab v r x))), S g σ w) (S g σ w) := by
  rw [← cg ab (fun _ => rfl) hA]
  exact c_X7_above hW hr
theorem e_X7_isAsHigh {E : En} {g : Ge} {σ : Sg} {w v : Wv} (hW : WM g σ) (hA : cv w = cv v) (hI : HI v) {r c : Nat} (hr : r < 6) (hc : c < 8) {p : Nat} (hp : p < 6) {h f : Int32} : Ct E mX7_isAsHigh 3 [.ref (g.1 100), .int (nI r), .int (nI c), .int (nI p), .int h, .int f] (.returned (some (.int (b2i (asH v r c p h f)))), S g σ w) (S g σ w) := by
  rw [← cg asH (fun _ => rfl) hA]
  exact c_X7_isAsHigh hW (HI.cg hA.symm hI) hr hc hp
theorem e_X7_isNear {E : En} {g : Ge} {σ : Sg} {w v : Wv} (hW : WM g σ) (hA : cv w = cv v) (hI : HI v) {r c : Nat} (hr : r < 6) (hc : c < 8) {p : Nat} (hp : p < 6) {q : Nat} (hq : q < 6) {e : Int32} : Ct E mX7_isNear 2 [.ref (g.1 100), .int (nI r), .int (nI c), .int (nI p), .int (nI q), .int e] (.returned (some (.int (b2i (nea v r c p q e)))), S g σ w) (S g σ w) := by
  rw [← cg nea (fun _ => rfl) hA]
  exact c_X7_isNear hW (HI.cg hA.symm hI) hr hc hp hq
theorem e_X7_postBefore {E : En} {g : Ge} {σ : Sg} {w v : Wv} (hW : WM g σ) (hA : cv w = cv v) (hI : HI v) {r c : Nat} (hr : r < 6) (hc : c < 8) {p : Nat} (hp : p < 6) : Ct E mX7_postBefore 2 [.ref (g.1 100), .int (nI r), .int (nI c), .int (nI p)] (.returned (some (.int (poF v r c p))), S g σ w) (S g σ w) := by
  rw [← cg poF (fun _ => rfl) hA]
  exact c_X7_postBefore hW (HI.cg hA.symm hI) hr hc hp
theorem e_X7_likeOf {E : En} {g : Ge} {σ : Sg} {w v : Wv} (hW : WM g σ) (hA : cv w = cv v) (hI : HI v) (hT : HT v) {r c : Nat} (hr : r < 6) (hc : c < 8) {p : Nat} (hp : p < 6) : CtE E mX7_likeOf 2 [.ref (g.1 100), .int (nI r), .int (nI c), .int (nI p)] (PR (.int (likeS v r c p)) (QM g σ (cu w))) (S g σ w) := by
  rw [← cg likeS likeS_cv (show cv (cu w) = cv v by rw [cv_cu, hA])]
  exact c_X7_likeOf hW rfl (HI.cg (by rw [cv_cu, hA]) hI) (HT.cg (by rw [cv_cu, hA]) hT) hr hc hp
abbrev sd (g : Ge) (σ : Sg) (x : Int64) : Sg := pL σ (g.1 100) 53 x
theorem sd_sd {g : Ge} {σ : Sg} {x y : Int64} : pL (pL σ (g.1 100) 53 x) (g.1 100) 53 y = pL σ (g.1 100) 53 y := by
  show (_, _, _, _, up2 (up2 (sL σ) (g.1 100) 53 x) (g.1 100) 53 y, _) = (_, _, _, _, up2 (sL σ) (g.1 100) 53 y, _)
  rw [up2_up2]
theorem sd_at {g : Ge} {σ : Sg} {x : Int64} : sL (pL σ (g.1 100) 53 x) (g.1 100) 53 = x := up2_eq _ _ _ _
theorem c_X7_cases {E : En} {g : Ge} {σ : Sg} {w : Wv} (hW : WM g σ) {v : Wv} (hA : cv w = cv v) (hI : HI v) {r c : Nat} (hr : r < 6) (hc : c < 8) {p : Nat} (hp : p < 6) : Ct E mX7_cases 4 [.ref (g.1 100), .int (nI r), .int (nI c), .int (nI p)] (.returned none, S g (pL σ (g.1 100) 53 (casF v r c p)) (up2 w 100 52 (nI (casS v r c p).1))) (S g σ w) := by
  show V E mX7_cases 4 _ 0 [some (.ref (g.1 100)), some (.int (nI r)), some (.int (nI c)), some (.int (nI p)), none, none, none, none] [] (S g σ w)
  have hW' : ∀ x : Int64, WM g (pL σ (g.1 100) 53 x) := fun _ => hW
  have L13 : ∀ (m q : Nat) (s : Nat × Int64) (y y1 y2 : Option Value), q + m = r → casQ v r c p q m s = casS v r c p → V E mX7_cases 4 (.returned none, S g (pL σ (g.1 100) 53 (casF v r c p)) (up2 w 100 52 (nI (casS v r c p).1))) 13 [some (.ref (g.1 100)), some (.int (nI r)), some (.int (nI c)), some (.int (nI p)), some (.int (nI q)), y, y1, y2] [] (S g (pL σ (g.1 100) 53 s.2) (up2 w 100 52 (nI s.1))) := by
    intro m
    induction m with
    | zero =>
      intro q s y y1 y2 hk hs
      refine V.ild4 dX7_cases_13 (V.ild1 dX7_cases_15 (V.icmp_ge (tgt := 145) dX7_cases_16 (by decide) (fun c_16 => ?_) (fun c_16 => absurd (by exact nI_le (by omega) (by omega)) c_16)))
      refine V.ald0 dX7_cases_145 (V.ald0 dX7_cases_146 (V.ild1 dX7_cases_147 (V.ild2 dX7_cases_148 (V.ild3 dX7_cases_149 (V.invV3r vX7_282 (hW' s.2).2.2.1 dX7_cases_150 (e_X7_postBefore (hW' s.2) (show cv (up2 w 100 52 (nI s.1)) = cv v by rw [cv_sc rfl, hA]) hI hr hc hp) (V.iconst_m1 dX7_cases_153 (V.icmp_ne (tgt := 164) dX7_cases_154 (by decide) (fun c_154 => ?_) (fun c_154 => ?_))))))))
      · exact V.lconst_0 dX7_cases_164 (PX7_322 (hW' s.2) rfl dX7_cases_165 (V.vret dX7_cases_168 rfl (by rw [sd_sd, casF, ← hs]; first | (rw [if_pos c_154, sd_at]; rfl) | (rw [if_neg c_154]; rfl))))
      · exact V.ald0 dX7_cases_157 (GX7_322 (hW' s.2) rfl dX7_cases_158 (V.goto (tgt := 165) dX7_cases_161 (by decide) (PX7_322 (hW' s.2) rfl dX7_cases_165 (V.vret dX7_cases_168 rfl (by rw [sd_sd, casF, ← hs]; first | (rw [if_pos c_154, sd_at]; rfl) | (rw [if_neg c_154]; rfl))))))
    | succ m ih =>
      intro q s y y1 y2 hk hs
      have hS2 := (hI.seats (r := q) (by omega)).2
      have L22 : ∀ (m9 e : Nat) (s : Nat × Int64) (y1 y2 : Option Value), e + m9 = nS v q → casQ v r c p (q + 1) m (casE v r c p q e m9 s) = casS v r c p → V E mX7_cases 4 (.returned none, S g (pL σ (g.1 100) 53 (casF v r c p)) (up2 w 100 52 (nI (casS v r c p).1))) 22 [some (.ref (g.1 100)), some (.int (nI r)), some (.int (nI c)), some (.int (nI p)), some (.int (nI q)), some (.int (nI e)), y1, y2] [] (S g (pL σ (g.1 100) 53 s.2) (up2 w 100 52 (nI s.1))) := by
        intro m9
        induction m9 with
        | zero =>
          intro e s y1 y2 hk9 hs
          refine V.ild5 dX7_cases_22 (V.ald0 dX7_cases_24 (GX7_22 (hW' s.2) rfl dX7_cases_25 (V.ild4 dX7_cases_28 (aM5 (hW' s.2) (by first | exact IX.n ‹_› (by decide) | exact IX.n (by omega) (by decide)) dX7_cases_30 (V.icmp_ge (tgt := 139) dX7_cases_31 (by decide) (fun c_31 => ?_) (fun c_31 => absurd (by rw [(show (up2 w 100 52 (nI s.1)) 106 q = nI (nS v q) from (cv_at (show cv (up2 w 100 52 (nI s.1)) = cv v by rw [cv_sc rfl, hA])).trans (hI.seats (by omega)).1)]; exact nI_le (by omega) (by omega)) c_31))))))
          refine V.inc4 dX7_cases_139 (V.goto (tgt := 13) dX7_cases_142 (by decide) ?_)
          rw [nI_1]
          exact ih (q + 1) s _ _ _ (by omega) hs
        | succ m9 ih9 =>
          intro e s y1 y2 hk9 hs
          refine V.ild5 dX7_cases_22 (V.ald0 dX7_cases_24 (GX7_22 (hW' s.2) rfl dX7_cases_25 (V.ild4 dX7_cases_28 (aM5 (hW' s.2) (by first | exact IX.n ‹_› (by decide) | exact IX.n (by omega) (by decide)) dX7_cases_30 (V.icmp_ge (tgt := 139) dX7_cases_31 (by decide) (fun c_31 => absurd c_31 (by rw [(show (up2 w 100 52 (nI s.1)) 106 q = nI (nS v q) from (cv_at (show cv (up2 w 100 52 (nI s.1)) = cv v by rw [cv_sc rfl, hA])).trans (hI.seats (by omega)).1)]; first | exact nI_ge (by omega) (by omega) | exact fun h9 => absurd ((nI_leI (by omega) (by omega)).mp h9) (by omega))) (fun c_31 => ?_))))))
          refine V.ald0 dX7_cases_34 (V.ild1 dX7_cases_35 (V.ild2 dX7_cases_36 (V.ild3 dX7_cases_37 (V.ild4 dX7_cases_38 (V.ild5 dX7_cases_40 (V.invV5r vX7_275 (hW' s.2).2.2.1 dX7_cases_42 (e_X7_isNear (hW' s.2) (show cv (up2 w 100 52 (nI s.1)) = cv v by rw [cv_sc rfl, hA]) hI hr hc hp (by omega)) (V.ifb_eq (tgt := 133) dX7_cases_45 (by decide) (fun c_45 => ?_) (fun c_45 => ?_))))))))
          · refine V.inc5 dX7_cases_133 (V.goto (tgt := 22) dX7_cases_136 (by decide) ?_)
            rw [nI_1]
            exact ih9 (e + 1) s _ _ (by omega) (by rw [← hs, casE, if_neg (by rw [c_45]; decide)])
          · have L54 : ∀ (m8 k : Nat) (lo : Int32), k + m8 = 4 → sumF (fun k => if asH v r c p (ab v q (v 102 k)) (fa v q) then 0 else v 103 k) k m8 lo = casL v r c p q → V E mX7_cases 4 (.returned none, S g (pL σ (g.1 100) 53 (casF v r c p)) (up2 w 100 52 (nI (casS v r c p).1))) 54 [some (.ref (g.1 100)), some (.int (nI r)), some (.int (nI c)), some (.int (nI p)), some (.int (nI q)), some (.int (nI e)), some (.int (lo)), some (.int (nI k))] [] (S g (pL σ (g.1 100) 53 s.2) (up2 w 100 52 (nI s.1))) := by
              intro m8
              induction m8 with
              | zero =>
                intro k lo hk8 hl
                refine V.ild7 dX7_cases_54 (V.iconst_4 dX7_cases_56 (V.icmp_ge (tgt := 111) dX7_cases_57 (by decide) (fun c_57 => ?_) (fun c_57 => absurd (by rw [show (4 : Int32) = nI 4 from rfl]; exact nI_le (by omega) (by omega)) c_57)))
                refine V.ald0 dX7_cases_111 (V.dup dX7_cases_112 (GX7_319 (hW' s.2) rfl dX7_cases_113 (V.iconst_1 dX7_cases_116 (V.iadd dX7_cases_117 (PX7_319 (hW' s.2) rfl dX7_cases_118 (V.ald0 dX7_cases_121 (V.dup dX7_cases_122 (GX7_322 (hW' s.2) rfl dX7_cases_123 (V.ild6 dX7_cases_126 (V.i2l dX7_cases_128 (V.lmul dX7_cases_129 (PX7_322 (hW' s.2) rfl dX7_cases_130 ?_))))))))))))
                rw [sd_at, sd_sd, up2_up2, up2_eq, nI_1, show lo = casL v r c p q from hl]
                refine V.inc5 dX7_cases_133 (V.goto (tgt := 22) dX7_cases_136 (by decide) ?_)
                rw [nI_1]
                exact ih9 (e + 1) (s.1 + 1, s.2 * (casL v r c p q).toInt64) _ _ (by omega) (by rw [← hs, casE, if_pos c_45])
              | succ m8 ih8 =>
                intro k lo hk8 hl
                refine V.ild7 dX7_cases_54 (V.iconst_4 dX7_cases_56 (V.icmp_ge (tgt := 111) dX7_cases_57 (by decide) (fun c_57 => absurd c_57 (by rw [show (4 : Int32) = nI 4 from rfl]; first | exact nI_ge (by omega) (by omega) | exact fun h9 => absurd ((nI_leI (by omega) (by omega)).mp h9) (by omega))) (fun c_57 => ?_)))
                refine V.ild6 dX7_cases_60 (V.ald0 dX7_cases_62 (V.ild1 dX7_cases_63 (V.ild2 dX7_cases_64 (V.ild3 dX7_cases_65 (V.ald0 dX7_cases_66 (V.ild4 dX7_cases_67 (V.ald0 dX7_cases_69 (GX7_13 (hW' s.2) rfl dX7_cases_70 (V.ild7 dX7_cases_73 (aM1 (hW' s.2) (by first | exact IX.n ‹_› (by decide) | exact IX.n (by omega) (by decide)) dX7_cases_75 (V.invV2r vX7_175 (hW' s.2).2.2.1 dX7_cases_76 (e_X7_above (hW' s.2) (show cv (up2 w 100 52 (nI s.1)) = cv v by rw [cv_sc rfl, hA]) (by omega)) (V.ald0 dX7_cases_79 ?_))))))))))))
                refine V.ild4 dX7_cases_80 (V.invV1r vX7_185 (hW' s.2).2.2.1 dX7_cases_82 (e_X7_farOf (hW' s.2) (show cv (up2 w 100 52 (nI s.1)) = cv v by rw [cv_sc rfl, hA]) (by omega)) (V.invV5r vX7_279 (hW' s.2).2.2.1 dX7_cases_85 (e_X7_isAsHigh (hW' s.2) (show cv (up2 w 100 52 (nI s.1)) = cv v by rw [cv_sc rfl, hA]) hI hr hc hp) (V.ifb_eq (tgt := 95) dX7_cases_88 (by decide) (fun c_88 => ?_) (fun c_88 => ?_))))
                · refine V.ald0 dX7_cases_95 (GX7_16 (hW' s.2) rfl dX7_cases_96 (V.ild7 dX7_cases_99 (aM2 (hW' s.2) (by first | exact IX.n ‹_› (by decide) | exact IX.n (by omega) (by decide)) dX7_cases_101 (V.iadd dX7_cases_102 (V.ist6 dX7_cases_103 (V.inc7 dX7_cases_105 (V.goto (tgt := 54) dX7_cases_108 (by decide) ?_)))))))
                  rw [nI_1]
                  have e1 : (up2 w 100 52 (nI s.1)) 102 k = v 102 k := cv_at (show cv (up2 w 100 52 (nI s.1)) = cv v by rw [cv_sc rfl, hA])
                  have e2 : (up2 w 100 52 (nI s.1)) 103 k = v 103 k := cv_at (show cv (up2 w 100 52 (nI s.1)) = cv v by rw [cv_sc rfl, hA])
                  rw [e1] at c_88
                  first
                    | exact ih8 (k + 1) _ (by omega) (by rw [← hl, sumF, if_neg (by rw [c_88]; decide), e2])
                    | exact ih8 (k + 1) _ (by omega) (by rw [← hl, sumF, if_pos c_88])
                · refine V.iconst_0 dX7_cases_91 (V.goto (tgt := 102) dX7_cases_92 (by decide) (V.iadd dX7_cases_102 (V.ist6 dX7_cases_103 (V.inc7 dX7_cases_105 (V.goto (tgt := 54) dX7_cases_108 (by decide) ?_)))))
                  rw [nI_1]
                  have e1 : (up2 w 100 52 (nI s.1)) 102 k = v 102 k := cv_at (show cv (up2 w 100 52 (nI s.1)) = cv v by rw [cv_sc rfl, hA])
                  have e2 : (up2 w 100 52 (nI s.1)) 103 k = v 103 k := cv_at (show cv (up2 w 100 52 (nI s.1)) = cv v by rw [cv_sc rfl, hA])
                  rw [e1] at c_88
                  first
                    | exact ih8 (k + 1) _ (by omega) (by rw [← hl, sumF, if_neg (by rw [c_88]; decide), e2])
                    | exact ih8 (k + 1) _ (by omega) (by rw [← hl, sumF, if_pos c_88])
            
            refine V.iconst_0 dX7_cases_48 (V.ist6 dX7_cases_49 (V.iconst_0 dX7_cases_51 (V.ist7 dX7_cases_52 ?_)))
            exact L54 4 0 0 (by omega) rfl
      refine V.ild4 dX7_cases_13 (V.ild1 dX7_cases_15 (V.icmp_ge (tgt := 145) dX7_cases_16 (by decide) (fun c_16 => absurd c_16 (by first | exact nI_ge (by omega) (by omega) | exact fun h9 => absurd ((nI_leI (by omega) (by omega)).mp h9) (by omega))) (fun c_16 => ?_)))
      refine V.iconst_0 dX7_cases_19 (V.ist5 dX7_cases_20 ?_)
      exact L22 (nS v q) 0 s _ _ (by omega) hs
  refine V.ald0 dX7_cases_0 (V.iconst_0 dX7_cases_1 (PX7_319 hW rfl dX7_cases_2 (V.ald0 dX7_cases_5 (V.lconst_1 dX7_cases_6 (PX7_322 hW rfl dX7_cases_7 ?_)))))
  have hz := hW' 1
  refine V.iconst_0 dX7_cases_10 (V.ist4 dX7_cases_11 ?_)
  exact L13 r 0 (0, 1) _ _ _ (by omega) rfl

def QL (g : Ge) (σ : Sg) (v : Wv) : Sg → Prop := fun s => ∃ (w' : Wv) (x : Int64), cv w' = cv v ∧ s = S g (pL σ (g.1 100) 53 x) w'
theorem QL.nil {g : Ge} {σ : Sg} {w v : Wv} (h : cv w = cv v) : QL g σ v (S g σ w) := ⟨w, sL σ (g.1 100) 53, h, by
  show wI σ _ = wI (σ.1, _, _, _, up2 (sL σ) (g.1 100) 53 (sL σ (g.1 100) 53), _) _
  rw [up2_same]⟩
theorem casS_n {v : Wv} (hI : HI v) {r c p : Nat} : ∀ (m q : Nat) (s : Nat × Int64), q + m ≤ 6 → (casQ v r c p q m s).1 ≤ s.1 + 8 * m
  | 0, _, _, _ => Nat.le_refl _
  | m + 1, q, s, h => by
    rw [casQ]
    have h1 := casS_n hI (r := r) (c := c) (p := p) m (q + 1) (casE v r c p q 0 (nS v q) s) (by omega)
    have h2 := casE_n (v := v) (r := r) (c := c) (p := p) (q := q) (nS v q) 0 s
    have h3 := (hI.seats (r := q) (by omega)).2
    omega
theorem casS_le {v : Wv} (hI : HI v) {r c p : Nat} (hr : r < 6) : (casS v r c p).1 ≤ 48 := by
  have := casS_n hI (r := r) (c := c) (p := p) r 0 (0, 1) (by omega)
  show (casQ v r c p 0 r (0, 1)).1 ≤ 48
  have e : ((0 : Nat), (1 : Int64)).1 = 0 := rfl
  omega
theorem c_X7_chance {E : En} {g : Ge} {σ : Sg} {w : Wv} (hW : WM g σ) {v : Wv} (hA : cv w = cv v) (hI : HI v) {r c p a : Int32} : CtE E mX7_chance 5 [.ref (g.1 100), .int r, .int c, .int p, .int a] (PR (.long (chanceR v r c p a)) (QL g σ v)) (S g σ w) := by
  show VE E mX7_chance 5 _ 0 [some (.ref (g.1 100)), some (.int r), some (.int c), some (.int p), some (.int a)] [] (S g σ w)
  refine VE.step (fun _ h => V.ald0 dX7_chance_0 (V.ild1 dX7_chance_1 (V.ild2 dX7_chance_2 (V.invV2r vX7_167 hW.2.2.1 dX7_chance_3 (e_X7_isSeat hW hA hI) h)))) ?_
  refine VE.ifb_eq (tgt := 40) dX7_chance_6 (by decide) (fun c_6 => ?_) (fun c_6 => ?_)
  · refine VE.step (fun _ h => V.ldc2_w q1957 dX7_chance_40 h) ?_
    exact VE.lret dX7_chance_43 rfl (⟨by first | (simp only [chanceR, chaOk, c_6, if_true, if_false, Bool.false_eq_true, eq_self, and_true, true_and, and_false, false_and, Bool.and_true, Bool.true_and, Bool.and_false, Bool.false_and, Bool.not_true, Bool.not_false, not_true_eq_false, not_false_eq_true, ne_eq, b2i_t, b2i_f]; rfl) | (rw [cv_at hA (e := rfl)] at c_20; simp only [chanceR, chaOk, c_6, if_true, if_false, Bool.false_eq_true, eq_self, and_true, true_and, and_false, false_and, Bool.and_true, Bool.true_and, Bool.and_false, Bool.false_and, Bool.not_true, Bool.not_false, not_true_eq_false, not_false_eq_true, ne_eq, b2i_t, b2i_f]; rfl) | (rw [cv_at hA (e := rfl)] at c_20; simp [chanceR, chaOk, c_6]; rfl), QL.nil hA⟩)
  · refine VE.step (fun _ h => V.ild3 dX7_chance_9 (V.iconst_0 dX7_chance_10 (V.ald0 dX7_chance_11 (GX7_197 hW rfl dX7_chance_12 (V.iconst_1 dX7_chance_15 (V.isub dX7_chance_16 (V.invS3r sX7_159 dX7_chance_17 c_X7_in h))))))) ?_
    refine VE.ifb_eq (tgt := 40) dX7_chance_20 (by decide) (fun c_20 => ?_) (fun c_20 => ?_)
    · refine VE.step (fun _ h => V.ldc2_w q1957 dX7_chance_40 h) ?_
      exact VE.lret dX7_chance_43 rfl (⟨by first | (simp only [chanceR, chaOk, c_6, c_20, if_true, if_false, Bool.false_eq_true, eq_self, and_true, true_and, and_false, false_and, Bool.and_true, Bool.true_and, Bool.and_false, Bool.false_and, Bool.not_true, Bool.not_false, not_true_eq_false, not_false_eq_true, ne_eq, b2i_t, b2i_f]; rfl) | (rw [cv_at hA (e := rfl)] at c_20; simp only [chanceR, chaOk, c_6, c_20, if_true, if_false, Bool.false_eq_true, eq_self, and_true, true_and, and_false, false_and, Bool.and_true, Bool.true_and, Bool.and_false, Bool.false_and, Bool.not_true, Bool.not_false, not_true_eq_false, not_false_eq_true, ne_eq, b2i_t, b2i_f]; rfl) | (rw [cv_at hA (e := rfl)] at c_20; simp [chanceR, chaOk, c_6, c_20]; rfl), QL.nil hA⟩)
    · refine VE.step (fun _ h => V.ild4 dX7_chance_23 (V.iconst_0 dX7_chance_25 (V.iconst_1 dX7_chance_26 (V.invS3r sX7_159 dX7_chance_27 c_X7_in h)))) ?_
      refine VE.ifb_eq (tgt := 40) dX7_chance_30 (by decide) (fun c_30 => ?_) (fun c_30 => ?_)
      · refine VE.step (fun _ h => V.ldc2_w q1957 dX7_chance_40 h) ?_
        exact VE.lret dX7_chance_43 rfl (⟨by first | (simp only [chanceR, chaOk, c_6, c_20, c_30, if_true, if_false, Bool.false_eq_true, eq_self, and_true, true_and, and_false, false_and, Bool.and_true, Bool.true_and, Bool.and_false, Bool.false_and, Bool.not_true, Bool.not_false, not_true_eq_false, not_false_eq_true, ne_eq, b2i_t, b2i_f]; rfl) | (rw [cv_at hA (e := rfl)] at c_20; simp only [chanceR, chaOk, c_6, c_20, c_30, if_true, if_false, Bool.false_eq_true, eq_self, and_true, true_and, and_false, false_and, Bool.and_true, Bool.true_and, Bool.and_false, Bool.false_and, Bool.not_true, Bool.not_false, not_true_eq_false, not_false_eq_true, ne_eq, b2i_t, b2i_f]; rfl) | (rw [cv_at hA (e := rfl)] at c_20; simp [chanceR, chaOk, c_6, c_20, c_30]; rfl), QL.nil hA⟩)
      · refine VE.step (fun _ h => V.ald0 dX7_chance_33 (V.invV0r vX7_326 hW.2.2.1 dX7_chance_34 (c_X7_allCounts hW hA) h)) ?_
        refine VE.if_ne (tgt := 44) dX7_chance_37 (by decide) (fun c_37 => ?_) (fun c_37 => ?_)
        · rw [cv_at hA (e := rfl)] at c_20
          have hok : chaOk v r c p a = true := by unfold chaOk; rw [c_6, c_20, c_30, decide_eq_true c_37]; rfl
          obtain ⟨i, j, hi, hr, hj, hc, rfl, rfl⟩ := seB_ix hI c_6
          have e1 : cl (nI i) = i := cl_n (by omega)
          have e2 : cl (nI j) = j := cl_n (by omega)
          have cp := c_20
          rw [hI.points.1] at cp
          have hP2 := hI.points.2
          obtain ⟨k, hk, rfl⟩ := (inB_n (by omega)).mp cp
          have hk6 : k < 6 := by omega
          have e3 : cl (nI k) = k := cl_n (by omega)
          refine VE.step (fun _ h => V.ald0 dX7_chance_44 (V.ild1 dX7_chance_45 (V.ild2 dX7_chance_46 (V.ild3 dX7_chance_47 (V.invV3v vX7_331 hW.2.2.1 dX7_chance_48 (c_X7_cases hW hA hI hr hc hk6) h))))) ?_
          have hW2 : WM g (pL σ (g.1 100) 53 (casF v i j k)) := hW
          refine VE.step (fun _ h => V.ald0 dX7_chance_51 (GX7_322 hW2 rfl dX7_chance_52 (V.ald0 dX7_chance_55 (V.invV0r vX7_326 hW2.2.2.1 dX7_chance_56 (c_X7_allCounts (show WM g (pL σ (g.1 100) 53 _) from hW) (show cv (up2 w 100 52 _) = cv v by rw [cv_sc rfl, hA])) (V.i2l dX7_chance_59 (V.ald0 dX7_chance_60 (GX7_319 hW2 rfl dX7_chance_61 h))))))) ?_
          rw [sd_at, up2_eq]
          refine VE.step (fun _ h => V.invS2r sX7_335 dX7_chance_64 (c_X7_power (by have := casS_le hI (r := i) (c := j) (p := k) hr; omega)) (V.ild4 dX7_chance_67 (V.invS3r sX7_339 dX7_chance_69 c_X7_lowest h))) ?_
          exact VE.lret dX7_chance_72 rfl (⟨by rw [chanceR, if_pos hok, e1, e2, e3], _, _, by rw [cv_sc rfl, hA], rfl⟩)
        · refine VE.step (fun _ h => V.ldc2_w q1957 dX7_chance_40 h) ?_
          exact VE.lret dX7_chance_43 rfl (⟨by first | (simp only [chanceR, chaOk, c_6, c_20, c_30, c_37, if_true, if_false, Bool.false_eq_true, eq_self, and_true, true_and, and_false, false_and, Bool.and_true, Bool.true_and, Bool.and_false, Bool.false_and, Bool.not_true, Bool.not_false, not_true_eq_false, not_false_eq_true, ne_eq, b2i_t, b2i_f]; rfl) | (rw [cv_at hA (e := rfl)] at c_20; simp only [chanceR, chaOk, c_6, c_20, c_30, c_37, if_true, if_false, Bool.false_eq_true, eq_self, and_true, true_and, and_false, false_and, Bool.and_true, Bool.true_and, Bool.and_false, Bool.false_and, Bool.not_true, Bool.not_false, not_true_eq_false, not_false_eq_true, ne_eq, b2i_t, b2i_f]; rfl) | (rw [cv_at hA (e := rfl)] at c_20; simp [chanceR, chaOk, c_6, c_20, c_30, c_37]; rfl), QL.nil hA⟩)

theorem sd_nil {g : Ge} {σ : Sg} : pL σ (g.1 100) 53 (sL σ (g.1 100) 53) = σ := by
  show (σ.1, _, _, _, up2 (sL σ) (g.1 100) 53 (sL σ (g.1 100) 53), _) = σ
  rw [up2_same]
theorem meaM_le {v : Wv} {r c : Nat} (hI : HI v) (hr : r < 6) : ∀ (m p a : Nat), a ≤ 48 → meaM v r c p m a ≤ 48
  | 0, _, _, h => h
  | m + 1, p, a, h => meaM_le hI hr m (p + 1) _ (by split; exact h; exact casS_le hI hr)
theorem meaM_ge {v : Wv} {r c : Nat} : ∀ (m p a : Nat), a ≤ meaM v r c p m a
  | 0, _, _ => Nat.le_refl _
  | m + 1, p, a => Nat.le_trans (by split; exact Nat.le_refl _; omega) (meaM_ge m (p + 1) _)
theorem meaM_at {v : Wv} {r c : Nat} : ∀ (m p a q : Nat), p ≤ q → q < p + m → (casS v r c q).1 ≤ meaM v r c p m a
  | 0, p, a, q, h1, h2 => by omega
  | m + 1, p, a, q, h1, h2 => by
    rw [meaM]
    by_cases h : p = q
    · subst h
      exact Nat.le_trans (by split; assumption; exact Nat.le_refl _) (meaM_ge m (p + 1) _)
    · exact meaM_at m (p + 1) _ q (by omega) (by omega)
theorem c_X7_mean {E : En} {g : Ge} {σ : Sg} {w : Wv} (hW : WM g σ) {v : Wv} (hA : cv w = cv v) (hI : HI v) (hT : HT v) {r c a : Int32} : CtE E mX7_mean 5 [.ref (g.1 100), .int r, .int c, .int a] (PR (.long (meanR v r c a)) (QL g σ v)) (S g σ w) := by
  show VE E mX7_mean 5 _ 0 [some (.ref (g.1 100)), some (.int r), some (.int c), some (.int a), none, none, none, none] [] (S g σ w)
  refine VE.step (fun _ h => V.ald0 dX7_mean_0 (V.ild1 dX7_mean_1 (V.ild2 dX7_mean_2 (V.invV2r vX7_167 hW.2.2.1 dX7_mean_3 (e_X7_isSeat hW hA hI) h)))) ?_
  refine VE.ifb_eq (tgt := 25) dX7_mean_6 (by decide) (fun c_6 => ?_) (fun c_6 => ?_)
  · refine VE.step (fun _ h => V.ldc2_w q1957 dX7_mean_25 h) ?_
    exact VE.lret dX7_mean_28 rfl (⟨by first | (simp only [meanR, meaOk, c_6, if_true, if_false, Bool.false_eq_true, eq_self, and_true, true_and, and_false, false_and, Bool.and_true, Bool.true_and, Bool.and_false, Bool.false_and, Bool.not_true, Bool.not_false, not_true_eq_false, not_false_eq_true, ne_eq, b2i_t, b2i_f]; rfl) | (simp [meanR, meaOk, c_6]; rfl), QL.nil hA⟩)
  · refine VE.step (fun _ h => V.ild3 dX7_mean_9 (V.iconst_0 dX7_mean_10 (V.iconst_1 dX7_mean_11 (V.invS3r sX7_159 dX7_mean_12 c_X7_in h)))) ?_
    refine VE.ifb_eq (tgt := 25) dX7_mean_15 (by decide) (fun c_15 => ?_) (fun c_15 => ?_)
    · refine VE.step (fun _ h => V.ldc2_w q1957 dX7_mean_25 h) ?_
      exact VE.lret dX7_mean_28 rfl (⟨by first | (simp only [meanR, meaOk, c_6, c_15, if_true, if_false, Bool.false_eq_true, eq_self, and_true, true_and, and_false, false_and, Bool.and_true, Bool.true_and, Bool.and_false, Bool.false_and, Bool.not_true, Bool.not_false, not_true_eq_false, not_false_eq_true, ne_eq, b2i_t, b2i_f]; rfl) | (simp [meanR, meaOk, c_6, c_15]; rfl), QL.nil hA⟩)
    · refine VE.step (fun _ h => V.ald0 dX7_mean_18 (V.invV0r vX7_326 hW.2.2.1 dX7_mean_19 (c_X7_allCounts hW hA) h)) ?_
      refine VE.if_ne (tgt := 29) dX7_mean_22 (by decide) (fun c_22 => ?_) (fun c_22 => ?_)
      · have hok : meaOk v r c a = true := by unfold meaOk; rw [c_6, c_15, decide_eq_true c_22]; rfl
        obtain ⟨i, j, hi, hr, hj, hc, rfl, rfl⟩ := seB_ix hI c_6
        have e1 : cl (nI i) = i := cl_n (by omega)
        have e2 : cl (nI j) = j := cl_n (by omega)
        have hP2 := hI.points.2
        obtain ⟨M, hMe⟩ : ∃ M, meaN v i j = M := ⟨_, rfl⟩
        have hM48 : M ≤ 48 := by rw [← hMe]; exact meaM_le hI hr _ _ _ (by omega)
        have hW' : ∀ x : Int64, WM g (pL σ (g.1 100) 53 x) := fun _ => hW
        have L84 : ∀ (m p : Nat) (s x : Int64) (w' : Wv), p + m = nP v → cv w' = cv v → meaS v i j M p m s = meaS v i j M 0 (nP v) 0 → VE E mX7_mean 5 (PR (.long (meanR v (nI i) (nI j) a)) (QL g σ v)) 84 [some (.ref (g.1 100)), some (.int (nI i)), some (.int (nI j)), some (.int (a)), some (.int (nI M)), some (.long s), none, some (.int (nI p))] [] (S g (pL σ (g.1 100) 53 x) w') := by
          intro m
          induction m with
          | zero =>
            intro p s x w' hk hw hs
            refine VE.step (fun _ h => V.ild7 dX7_mean_84 (V.ald0 dX7_mean_86 (GX7_197 (hW' x) rfl dX7_mean_87 h))) ?_
            refine VE.icmp_ge (tgt := 142) dX7_mean_90 (by decide) (fun c_90 => ?_) (fun c_90 => absurd (by rw [cv_at hw (e := rfl), hI.points.1]; exact nI_le (by omega) (by omega)) c_90)
            refine VE.step (fun _ h => V.lld5 dX7_mean_142 (V.ald0 dX7_mean_144 (V.invV0r vX7_326 (hW' x).2.2.1 dX7_mean_145 (c_X7_allCounts (hW' x) hw) (V.i2l dX7_mean_148 (V.ild4 dX7_mean_149 (V.invS2r sX7_335 dX7_mean_151 (c_X7_power (x := (cntS v).toInt64) (n := M) (by omega)) (V.ild3 dX7_mean_154 (V.invS3r sX7_339 dX7_mean_155 c_X7_lowest h)))))))) ?_
            exact VE.lret dX7_mean_158 rfl (⟨by rw [meanR, if_pos hok, e1, e2, hMe, ← hs]; rfl, _, _, hw, rfl⟩)
          | succ m ih =>
            intro p s x w' hk hw hs
            refine VE.step (fun _ h => V.ild7 dX7_mean_84 (V.ald0 dX7_mean_86 (GX7_197 (hW' x) rfl dX7_mean_87 h))) ?_
            refine VE.icmp_ge (tgt := 142) dX7_mean_90 (by decide) (fun c_90 => absurd c_90 (by rw [cv_at hw (e := rfl), hI.points.1]; first | exact nI_ge (by omega) (by omega) | exact fun h9 => absurd ((nI_leI (by omega) (by omega)).mp h9) (by omega))) (fun c_90 => ?_)
            refine VE.step (fun _ h => V.ald0 dX7_mean_93 (V.ild1 dX7_mean_94 (V.ild2 dX7_mean_95 (V.ild7 dX7_mean_96 (V.invV3v vX7_331 (hW' x).2.2.1 dX7_mean_98 (c_X7_cases (hW' x) hw hI hr hc (p := p) (by omega)) h))))) ?_
            rw [sd_sd]
            have hpM : (casS v i j p).1 ≤ M := by rw [← hMe]; exact meaM_at (nP v) 0 0 p (by omega) (by omega)
            refine VE.step (fun _ h => V.lld5 dX7_mean_101 (V.ald0 dX7_mean_103 (V.ild1 dX7_mean_104 (V.ild2 dX7_mean_105 (V.ild7 dX7_mean_106 h))))) ?_
            refine VE.invV3r vX7_298 (hW' (casF v i j p)).2.2.1 dX7_mean_108 (e_X7_likeOf (hW' (casF v i j p)) (show cv (up2 w' 100 52 (nI (casS v i j p).1)) = cv v by rw [cv_sc rfl, hw]) hI hT hr hc (p := p) (by omega)) (fun s9 q9 => ?_)
            obtain ⟨w1, hw1, rfl⟩ := q9
            have hw1' : cv w1 = cv v := by rw [cv_of_cu hw1, cv_sc rfl, hw]
            have hn1 : w1 100 52 = nI (casS v i j p).1 := (cu_at hw1).trans (by show up2 w' 100 52 (nI (casS v i j p).1) 100 52 = _; exact up2_eq _ _ _ _)
            refine VE.step (fun _ h => V.i2l dX7_mean_111 (V.ald0 dX7_mean_112 (GX7_322 (hW' (casF v i j p)) rfl dX7_mean_113 h))) ?_
            rw [sd_at]
            refine VE.step (fun _ h => V.lmul dX7_mean_116 (V.ald0 dX7_mean_117 (V.invV0r vX7_326 (hW' (casF v i j p)).2.2.1 dX7_mean_118 (c_X7_allCounts (hW' (casF v i j p)) hw1') (V.i2l dX7_mean_121 (V.ild4 dX7_mean_122 (V.ald0 dX7_mean_124 (GX7_319 (hW' (casF v i j p)) rfl dX7_mean_125 (V.isub dX7_mean_128 h)))))))) ?_
            rw [hn1, nI_sb hpM]
            refine VE.step (fun _ h => V.invS2r sX7_335 dX7_mean_129 (c_X7_power (x := (cntS v).toInt64) (n := M - (casS v i j p).1) (by omega)) (V.lmul dX7_mean_132 (V.ladd dX7_mean_133 (V.lst5 dX7_mean_134 (V.inc7 dX7_mean_136 (V.goto (tgt := 84) dX7_mean_139 (by decide) h)))))) ?_
            rw [nI_1]
            exact ih (p + 1) _ _ _ (by omega) hw1' (by rw [← hs]; rfl)
        have L35 : ∀ (m p : Nat) (b : Nat) (x : Int64) (w' : Wv), p + m = nP v → cv w' = cv v → b ≤ 48 → meaM v i j p m b = M → VE E mX7_mean 5 (PR (.long (meanR v (nI i) (nI j) a)) (QL g σ v)) 35 [some (.ref (g.1 100)), some (.int (nI i)), some (.int (nI j)), some (.int (a)), some (.int (nI b)), some (.int (nI p)), none, none] [] (S g (pL σ (g.1 100) 53 x) w') := by
          intro m
          induction m with
          | zero =>
            intro p b x w' hk hw hb hs
            refine VE.step (fun _ h => V.ild5 dX7_mean_35 (V.ald0 dX7_mean_37 (GX7_197 (hW' x) rfl dX7_mean_38 h))) ?_
            refine VE.icmp_ge (tgt := 78) dX7_mean_41 (by decide) (fun c_41 => ?_) (fun c_41 => absurd (by rw [cv_at hw (e := rfl), hI.points.1]; exact nI_le (by omega) (by omega)) c_41)
            refine VE.step (fun _ h => V.lconst_0 dX7_mean_78 (V.lst5 dX7_mean_79 (V.iconst_0 dX7_mean_81 (V.ist7 dX7_mean_82 h)))) ?_
            rw [show b = M from hs]
            exact L84 (nP v) 0 0 _ _ (by omega) hw rfl
          | succ m ih =>
            intro p b x w' hk hw hb hs
            refine VE.step (fun _ h => V.ild5 dX7_mean_35 (V.ald0 dX7_mean_37 (GX7_197 (hW' x) rfl dX7_mean_38 h))) ?_
            refine VE.icmp_ge (tgt := 78) dX7_mean_41 (by decide) (fun c_41 => absurd c_41 (by rw [cv_at hw (e := rfl), hI.points.1]; first | exact nI_ge (by omega) (by omega) | exact fun h9 => absurd ((nI_leI (by omega) (by omega)).mp h9) (by omega))) (fun c_41 => ?_)
            refine VE.step (fun _ h => V.ald0 dX7_mean_44 (V.ild1 dX7_mean_45 (V.ild2 dX7_mean_46 (V.ild5 dX7_mean_47 (V.invV3v vX7_331 (hW' x).2.2.1 dX7_mean_49 (c_X7_cases (hW' x) hw hI hr hc (p := p) (by omega)) h))))) ?_
            rw [sd_sd]
            have hcs := casS_le hI (r := i) (c := j) (p := p) hr
            refine VE.step (fun _ h => V.ald0 dX7_mean_52 (GX7_319 (hW' (casF v i j p)) rfl dX7_mean_53 h)) ?_
            rw [up2_eq]
            refine VE.step (fun _ h => V.ild4 dX7_mean_56 h) ?_
            refine VE.icmp_le (tgt := 68) dX7_mean_58 (by decide) (fun c_58 => ?_) (fun c_58 => ?_)
            · refine VE.step (fun _ h => V.ild4 dX7_mean_68 (V.ist4 dX7_mean_70 (V.inc5 dX7_mean_72 (V.goto (tgt := 35) dX7_mean_75 (by decide) h)))) ?_
              rw [nI_1]
              have hw2 : cv (up2 w' 100 52 (nI (casS v i j p).1)) = cv v := by rw [cv_sc rfl, hw]
              have hl := nI_leI (a := (casS v i j p).1) (b := b) (by omega) (by omega)
              first
                | exact ih (p + 1) b _ _ (by omega) hw2 hb (by rw [← hs, meaM, if_pos (hl.mp c_58)])
                | exact ih (p + 1) (casS v i j p).1 _ _ (by omega) hw2 hcs (by rw [← hs, meaM, if_neg (fun z => c_58 (hl.mpr z))])
            · refine VE.step (fun _ h => V.ald0 dX7_mean_61 (GX7_319 (hW' (casF v i j p)) rfl dX7_mean_62 h)) ?_
              rw [up2_eq]
              refine VE.step (fun _ h => V.goto (tgt := 70) dX7_mean_65 (by decide) (V.ist4 dX7_mean_70 (V.inc5 dX7_mean_72 (V.goto (tgt := 35) dX7_mean_75 (by decide) h)))) ?_
              rw [nI_1]
              have hw2 : cv (up2 w' 100 52 (nI (casS v i j p).1)) = cv v := by rw [cv_sc rfl, hw]
              have hl := nI_leI (a := (casS v i j p).1) (b := b) (by omega) (by omega)
              first
                | exact ih (p + 1) b _ _ (by omega) hw2 hb (by rw [← hs, meaM, if_pos (hl.mp c_58)])
                | exact ih (p + 1) (casS v i j p).1 _ _ (by omega) hw2 hcs (by rw [← hs, meaM, if_neg (fun z => c_58 (hl.mpr z))])
        
        refine VE.step (fun _ h => V.iconst_0 dX7_mean_29 (V.ist4 dX7_mean_30 (V.iconst_0 dX7_mean_32 (V.ist5 dX7_mean_33 h)))) ?_
        have h0 := L35 (nP v) 0 0 (sL σ (g.1 100) 53) w (by omega) hA (by omega) hMe
        rw [sd_nil] at h0
        exact h0
      · refine VE.step (fun _ h => V.ldc2_w q1957 dX7_mean_25 h) ?_
        exact VE.lret dX7_mean_28 rfl (⟨by first | (simp only [meanR, meaOk, c_6, c_15, c_22, if_true, if_false, Bool.false_eq_true, eq_self, and_true, true_and, and_false, false_and, Bool.and_true, Bool.true_and, Bool.and_false, Bool.false_and, Bool.not_true, Bool.not_false, not_true_eq_false, not_false_eq_true, ne_eq, b2i_t, b2i_f]; rfl) | (simp [meanR, meaOk, c_6, c_15, c_22]; rfl), QL.nil hA⟩)

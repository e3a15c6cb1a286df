set_option maxRecDepth 100000
set_option maxHeartbeats 1000000
theorem V.ldc_w {E : En} {M : Mi} {d pc : Nat} {out : Outcome × Sg} {lv : List (Option Value)} {st : List Value} {σ : Sg} {index : Nat} {v : Int32} (hw : Cond.constant (mY M).cls index v ∈ lw_all) (hd : decode (mC M) pc = .ok (.ldc_w index, 3)) (h : V E M d out (pc + 3) lv (.int v :: st) σ) : V E M d out pc lv st σ :=
  ⟨h.1, fun p e R s m args below meth c n0 s0 C hf hl hn hs hc hz ls H locs L P Q => lv_ldcw C.x C.b C.own (C.ts args _ hw) hd (h.2 p e R s m args below meth c n0 s0 C hf hl hn hs hc hz ls H locs L P Q)⟩
theorem sumF_cg {f f' : Nat → Int32} (h : ∀ k, f k = f' k) (k m : Nat) (acc : Int32) : sumF f k m acc = sumF f' k m acc := by rw [show f = f' from funext h]
theorem allT_cv (w : Wv) : allT (cv w) = allT w := by
  funext a r c
  unfold allT
  rw [priS_cv, worS_cv, seeS_cv]
  rfl
theorem e_X7_seesOf {E : En} {g : Ge} {σ : Sg} {w v : Wv} (hW : WM g σ) (hA : cv w = cv v) (hI : HI v) {r c : Nat} (hr : r < 6) (hc : c < 8) : Ct E mX7_seesOf 5 [.ref (g.1 100), .int (nI r), .int (nI c)] (.returned (some (.int (seeS v r c))), S g σ w) (S g σ w) := by
  rw [← cg seeS seeS_cv (show cv (cu w) = cv v by rw [cv_cu, hA])]
  exact c_X7_seesOf hW rfl (HI.cg (by rw [cv_cu, hA]) hI) hr hc
theorem e_X7_worthOf {E : En} {g : Ge} {σ : Sg} {w v : Wv} (hW : WM g σ) (hA : cv w = cv v) (hI : HI v) (hT : HT v) {r c : Nat} (hr : r < 6) (hc : c < 8) : CtE E mX7_worthOf 5 [.ref (g.1 100), .int (nI r), .int (nI c)] (PR (.int (worS v r c)) (QM g σ (cu w))) (S g σ w) := by
  rw [← cg worS worS_cv (show cv (cu w) = cv v by rw [cv_cu, hA])]
  exact c_X7_worthOf hW rfl (HI.cg (by rw [cv_cu, hA]) hI) (HT.cg (by rw [cv_cu, hA]) hT) hr hc
theorem e_X7_priceOf {E : En} {g : Ge} {σ : Sg} {w v : Wv} (hW : WM g σ) (hA : cv w = cv v) (hI : HI v) (hT : HT v) {r c : Nat} (hr : r < 6) (hc : c < 8) : CtE E mX7_priceOf 6 [.ref (g.1 100), .int (nI r), .int (nI c)] (PR (.int (priS v r c)) (QM g σ (cu w))) (S g σ w) := by
  rw [← cg priS priS_cv (show cv (cu w) = cv v by rw [cv_cu, hA])]
  exact c_X7_priceOf hW rfl (HI.cg (by rw [cv_cu, hA]) hI) (HT.cg (by rw [cv_cu, hA]) hT) hr hc

theorem c_X7_all {E : En} {g : Ge} {σ : Sg} {w : Wv} (hW : WM g σ) {v : Wv} (hA : cv w = cv v) (hI : HI v) (hT : HT v) {a : Int32} : CtE E mX7_all 7 [.ref (g.1 100), .int a] (PR (.int (allR v a)) (QV g σ v)) (S g σ w) := by
  show VE E mX7_all 7 _ 0 [some (.ref (g.1 100)), some (.int a), none, none, none, none] [] (S g σ w)
  refine VE.step (fun _ h => V.ild1 dX7_all_0 (V.iconst_0 dX7_all_1 (V.iconst_3 dX7_all_2 (V.invS3r sX7_159 dX7_all_3 c_X7_in h)))) ?_
  refine VE.ifb_ne (tgt := 12) dX7_all_6 (by decide) (fun c_6 => ?_) (fun c_6 => ?_)
  · have hR2 := hI.rows.2
    rw [allR, if_pos c_6]
    have L16 : ∀ (m r : Nat) (acc : Int32) (w' : Wv) (y y' : Option Value), r + m = nR v → cv w' = cv v → rowS (allT v a) v r m acc = rowS (allT v a) v 0 (nR v) 0 → VE E mX7_all 7 (PR (.int (rowS (allT v a) v 0 (nR v) 0)) (QV g σ v)) 16 [some (.ref (g.1 100)), some (.int (a)), some (.int (acc)), some (.int (nI r)), y, y'] [] (S g σ w') := by
      intro m
      induction m with
      | zero =>
        intro r acc w' y y' hk hw hs
        refine VE.step (fun _ h => V.ild3 dX7_all_16 (V.ald0 dX7_all_17 (GX7_156 hW rfl dX7_all_18 h))) ?_
        refine VE.icmp_ge (tgt := 118) dX7_all_21 (by decide) (fun c_21 => ?_) (fun c_21 => absurd (by rw [cv_at hw, hI.rows.1]; exact nI_le (by omega) (by omega)) c_21)
        refine VE.step (fun _ h => V.ild2 dX7_all_118 h) ?_
        exact VE.iret dX7_all_119 rfl rfl (⟨by rw [← hs]; rfl, _, hw, rfl⟩)
      | succ m ih =>
        intro r acc w' y y' hk hw hs
        have hr : r < 6 := by omega
        have hS2 := (hI.seats hr).2
        have L27 : ∀ (m9 c : Nat) (acc : Int32) (w' : Wv) (y' : Option Value), c + m9 = nS v r → cv w' = cv v → rowS (allT v a) v (r + 1) m (sumF (allT v a r) c m9 acc) = rowS (allT v a) v 0 (nR v) 0 → VE E mX7_all 7 (PR (.int (rowS (allT v a) v 0 (nR v) 0)) (QV g σ v)) 27 [some (.ref (g.1 100)), some (.int (a)), some (.int (acc)), some (.int (nI r)), some (.int (nI c)), y'] [] (S g σ w') := by
          intro m9
          induction m9 with
          | zero =>
            intro c acc w' y' hk9 hw hs
            refine VE.step (fun _ h => V.ild4 dX7_all_27 (V.ald0 dX7_all_29 (GX7_22 hW rfl dX7_all_30 (V.ild3 dX7_all_33 (aM5 hW (by first | exact IX.n ‹_› (by decide) | exact IX.n (by omega) (by decide)) dX7_all_34 h))))) ?_
            refine VE.icmp_ge (tgt := 112) dX7_all_35 (by decide) (fun c_35 => ?_) (fun c_35 => absurd (by rw [cv_at hw, (hI.seats hr).1]; exact nI_le (by omega) (by omega)) c_35)
            refine VE.step (fun _ h => V.inc3 dX7_all_112 (V.goto (tgt := 16) dX7_all_115 (by decide) h)) ?_
            rw [nI_1]
            exact ih (r + 1) _ _ _ _ (by omega) hw hs
          | succ m9 ih9 =>
            intro c acc w' y' hk9 hw hs
            refine VE.step (fun _ h => V.ild4 dX7_all_27 (V.ald0 dX7_all_29 (GX7_22 hW rfl dX7_all_30 (V.ild3 dX7_all_33 (aM5 hW (by first | exact IX.n ‹_› (by decide) | exact IX.n (by omega) (by decide)) dX7_all_34 h))))) ?_
            refine VE.icmp_ge (tgt := 112) dX7_all_35 (by decide) (fun c_35 => absurd c_35 (by rw [cv_at hw, (hI.seats hr).1]; first | exact nI_ge (by omega) (by omega) | exact fun h9 => absurd ((nI_leI (by omega) (by omega)).mp h9) (by omega))) (fun c_35 => ?_)
            refine VE.step (fun _ h => V.ald0 dX7_all_38 (V.ild3 dX7_all_39 (V.ild4 dX7_all_40 (V.invV2r vX7_288 hW.2.2.1 dX7_all_42 (e_X7_seesOf hW hw hI hr (by omega)) (V.ist5 dX7_all_45 (V.ild2 dX7_all_47 (V.ild1 dX7_all_48 h))))))) ?_
            refine VE.if_ne (tgt := 62) dX7_all_49 (by decide) (fun c_49 => ?_) (fun c_49 => ?_)
            · refine VE.step (fun _ h => V.ild1 dX7_all_62 (V.iconst_1 dX7_all_63 h)) ?_
              refine VE.icmp_ne (tgt := 77) dX7_all_64 (by decide) (fun c_64 => ?_) (fun c_64 => ?_)
              · refine VE.step (fun _ h => V.ild5 dX7_all_77 (V.ild1 dX7_all_79 (V.iconst_2 dX7_all_80 h))) ?_
                refine VE.icmp_ne (tgt := 95) dX7_all_81 (by decide) (fun c_81 => ?_) (fun c_81 => ?_)
                · refine VE.step (fun _ h => V.iconst_0 dX7_all_95 h) ?_
                  refine VE.icmp_ne (tgt := 103) dX7_all_96 (by decide) (fun c_96 => ?_) (fun c_96 => ?_)
                  · refine VE.step (fun _ h => V.iconst_0 dX7_all_103 (V.iadd dX7_all_104 (V.ist2 dX7_all_105 (V.inc4 dX7_all_106 (V.goto (tgt := 27) dX7_all_109 (by decide) h))))) ?_
                    rw [nI_1]
                    have hz := fun x (hx : x = allT v a r c) => (show rowS (allT v a) v (r + 1) m (sumF (allT v a r) (c + 1) m9 (acc + x)) = rowS (allT v a) v 0 (nR v) 0 by rw [← hs, hx]; rfl)
                    try rw [cv_at hw (id := 100) (j := 10)] at c_96
                    first
                      | exact ih9 (c + 1) _ _ _ (by omega) (by rw [cv_of_cu hw1]; exact hw) (hz _ (by unfold allT; rw [if_pos c_49]))
                      | exact ih9 (c + 1) _ _ _ (by omega) (by rw [cv_of_cu hw1]; exact hw) (hz _ (by unfold allT; rw [if_neg c_49, if_pos c_64]))
                      | exact ih9 (c + 1) _ _ _ (by omega) hw (hz _ (by simp [allT, fullB, c_49, c_64, c_81, c_96, b2i]))
                  · refine VE.step (fun _ h => V.iconst_1 dX7_all_99 (V.goto (tgt := 104) dX7_all_100 (by decide) (V.iadd dX7_all_104 (V.ist2 dX7_all_105 (V.inc4 dX7_all_106 (V.goto (tgt := 27) dX7_all_109 (by decide) h)))))) ?_
                    rw [nI_1]
                    have hz := fun x (hx : x = allT v a r c) => (show rowS (allT v a) v (r + 1) m (sumF (allT v a r) (c + 1) m9 (acc + x)) = rowS (allT v a) v 0 (nR v) 0 by rw [← hs, hx]; rfl)
                    try rw [cv_at hw (id := 100) (j := 10)] at c_96
                    first
                      | exact ih9 (c + 1) _ _ _ (by omega) (by rw [cv_of_cu hw1]; exact hw) (hz _ (by unfold allT; rw [if_pos c_49]))
                      | exact ih9 (c + 1) _ _ _ (by omega) (by rw [cv_of_cu hw1]; exact hw) (hz _ (by unfold allT; rw [if_neg c_49, if_pos c_64]))
                      | exact ih9 (c + 1) _ _ _ (by omega) hw (hz _ (by simp [allT, fullB, c_49, c_64, c_81, c_96, b2i]))
                · refine VE.step (fun _ h => V.iconst_1 dX7_all_84 (V.ald0 dX7_all_85 (GX7_197 hW rfl dX7_all_86 (V.ishl dX7_all_89 (V.iconst_1 dX7_all_90 (V.isub dX7_all_91 (V.goto (tgt := 96) dX7_all_92 (by decide) h))))))) ?_
                  refine VE.icmp_ne (tgt := 103) dX7_all_96 (by decide) (fun c_96 => ?_) (fun c_96 => ?_)
                  · refine VE.step (fun _ h => V.iconst_0 dX7_all_103 (V.iadd dX7_all_104 (V.ist2 dX7_all_105 (V.inc4 dX7_all_106 (V.goto (tgt := 27) dX7_all_109 (by decide) h))))) ?_
                    rw [nI_1]
                    have hz := fun x (hx : x = allT v a r c) => (show rowS (allT v a) v (r + 1) m (sumF (allT v a r) (c + 1) m9 (acc + x)) = rowS (allT v a) v 0 (nR v) 0 by rw [← hs, hx]; rfl)
                    try rw [cv_at hw (id := 100) (j := 10)] at c_96
                    first
                      | exact ih9 (c + 1) _ _ _ (by omega) (by rw [cv_of_cu hw1]; exact hw) (hz _ (by unfold allT; rw [if_pos c_49]))
                      | exact ih9 (c + 1) _ _ _ (by omega) (by rw [cv_of_cu hw1]; exact hw) (hz _ (by unfold allT; rw [if_neg c_49, if_pos c_64]))
                      | exact ih9 (c + 1) _ _ _ (by omega) hw (hz _ (by simp [allT, fullB, c_49, c_64, c_81, c_96, b2i]))
                  · refine VE.step (fun _ h => V.iconst_1 dX7_all_99 (V.goto (tgt := 104) dX7_all_100 (by decide) (V.iadd dX7_all_104 (V.ist2 dX7_all_105 (V.inc4 dX7_all_106 (V.goto (tgt := 27) dX7_all_109 (by decide) h)))))) ?_
                    rw [nI_1]
                    have hz := fun x (hx : x = allT v a r c) => (show rowS (allT v a) v (r + 1) m (sumF (allT v a r) (c + 1) m9 (acc + x)) = rowS (allT v a) v 0 (nR v) 0 by rw [← hs, hx]; rfl)
                    try rw [cv_at hw (id := 100) (j := 10)] at c_96
                    first
                      | exact ih9 (c + 1) _ _ _ (by omega) (by rw [cv_of_cu hw1]; exact hw) (hz _ (by unfold allT; rw [if_pos c_49]))
                      | exact ih9 (c + 1) _ _ _ (by omega) (by rw [cv_of_cu hw1]; exact hw) (hz _ (by unfold allT; rw [if_neg c_49, if_pos c_64]))
                      | exact ih9 (c + 1) _ _ _ (by omega) hw (hz _ (by simp [allT, fullB, c_49, c_64, c_81, c_96, b2i]))
              · refine VE.step (fun _ h => V.ald0 dX7_all_67 (V.ild3 dX7_all_68 (V.ild4 dX7_all_69 h))) ?_
                refine VE.invV2r vX7_301 hW.2.2.1 dX7_all_71 (e_X7_worthOf hW hw hI hT hr (by omega)) (fun s9 q9 => ?_)
                obtain ⟨w1, hw1, rfl⟩ := q9
                refine VE.step (fun _ h => V.goto (tgt := 104) dX7_all_74 (by decide) (V.iadd dX7_all_104 (V.ist2 dX7_all_105 (V.inc4 dX7_all_106 (V.goto (tgt := 27) dX7_all_109 (by decide) h))))) ?_
                rw [nI_1]
                have hz := fun x (hx : x = allT v a r c) => (show rowS (allT v a) v (r + 1) m (sumF (allT v a r) (c + 1) m9 (acc + x)) = rowS (allT v a) v 0 (nR v) 0 by rw [← hs, hx]; rfl)
                try rw [cv_at hw (id := 100) (j := 10)] at c_96
                first
                  | exact ih9 (c + 1) _ _ _ (by omega) (by rw [cv_of_cu hw1]; exact hw) (hz _ (by unfold allT; rw [if_pos c_49]))
                  | exact ih9 (c + 1) _ _ _ (by omega) (by rw [cv_of_cu hw1]; exact hw) (hz _ (by unfold allT; rw [if_neg c_49, if_pos c_64]))
                  | exact ih9 (c + 1) _ _ _ (by omega) hw (hz _ (by simp [allT, fullB, c_49, c_64, c_81, c_96, b2i]))
            · refine VE.step (fun _ h => V.ald0 dX7_all_52 (V.ild3 dX7_all_53 (V.ild4 dX7_all_54 h))) ?_
              refine VE.invV2r vX7_304 hW.2.2.1 dX7_all_56 (e_X7_priceOf hW hw hI hT hr (by omega)) (fun s9 q9 => ?_)
              obtain ⟨w1, hw1, rfl⟩ := q9
              refine VE.step (fun _ h => V.goto (tgt := 104) dX7_all_59 (by decide) (V.iadd dX7_all_104 (V.ist2 dX7_all_105 (V.inc4 dX7_all_106 (V.goto (tgt := 27) dX7_all_109 (by decide) h))))) ?_
              rw [nI_1]
              have hz := fun x (hx : x = allT v a r c) => (show rowS (allT v a) v (r + 1) m (sumF (allT v a r) (c + 1) m9 (acc + x)) = rowS (allT v a) v 0 (nR v) 0 by rw [← hs, hx]; rfl)
              try rw [cv_at hw (id := 100) (j := 10)] at c_96
              first
                | exact ih9 (c + 1) _ _ _ (by omega) (by rw [cv_of_cu hw1]; exact hw) (hz _ (by unfold allT; rw [if_pos c_49]))
                | exact ih9 (c + 1) _ _ _ (by omega) (by rw [cv_of_cu hw1]; exact hw) (hz _ (by unfold allT; rw [if_neg c_49, if_pos c_64]))
                | exact ih9 (c + 1) _ _ _ (by omega) hw (hz _ (by simp [allT, fullB, c_49, c_64, c_81, c_96, b2i]))
    
        refine VE.step (fun _ h => V.ild3 dX7_all_16 (V.ald0 dX7_all_17 (GX7_156 hW rfl dX7_all_18 h))) ?_
        refine VE.icmp_ge (tgt := 118) dX7_all_21 (by decide) (fun c_21 => absurd c_21 (by rw [cv_at hw, hI.rows.1]; first | exact nI_ge (by omega) (by omega) | exact fun h9 => absurd ((nI_leI (by omega) (by omega)).mp h9) (by omega))) (fun c_21 => ?_)
        refine VE.step (fun _ h => V.iconst_0 dX7_all_24 (V.ist4 dX7_all_25 h)) ?_
        exact L27 (nS v r) 0 _ _ _ (by omega) hw hs
    
    refine VE.step (fun _ h => V.iconst_0 dX7_all_12 (V.ist2 dX7_all_13 (V.iconst_0 dX7_all_14 (V.ist3 dX7_all_15 h)))) ?_
    exact L16 (nR v) 0 _ _ _ _ (by omega) hA rfl
  · refine VE.step (fun _ h => V.bipush (v := (-2)) dX7_all_9 (by decide) h) ?_
    exact VE.iret dX7_all_11 rfl rfl (⟨by simp only [allR, c_6, if_true, if_false, Bool.false_eq_true, eq_self, and_true, true_and, and_false, false_and, Bool.and_true, Bool.true_and, Bool.and_false, Bool.false_and, Bool.not_true, Bool.not_false, not_true_eq_false, not_false_eq_true, ne_eq, b2i_t, b2i_f], _, hA, rfl⟩)

set_option maxRecDepth 100000
set_option maxHeartbeats 1000000
theorem up2_up2 {α : Type} {f : Nat → Nat → α} {a k : Nat} {x y : α} : up2 (up2 f a k x) a k y = up2 f a k y := by
  funext i j
  by_cases h : i = a ∧ j = k
  · obtain ⟨rfl, rfl⟩ := h; rw [up2_eq, up2_eq]
  · rw [up2_ne _ _ h, up2_ne _ _ h, up2_ne _ _ h]
theorem up2_same {α : Type} {f : Nat → Nat → α} {a k : Nat} : up2 f a k (f a k) = f := by
  funext i j
  by_cases h : i = a ∧ j = k
  · obtain ⟨rfl, rfl⟩ := h; rw [up2_eq]
  · rw [up2_ne _ _ h]
theorem cv_same {f : Wv} {a k : Nat} : cv (up2 f a k (f a k)) = cv f := by rw [up2_same]
theorem c_X7_least {E : En} {g : Ge} {σ : Sg} {w : Wv} (hW : WM g σ) {v : Wv} (hA : cv w = cv v) (hI : HI v) (hT : HT v) {k : Int32} : CtE E mX7_least 7 [.ref (g.1 100), .int k] (PR (.int (leastR v k)) (QV g σ v)) (S g σ w) := by
  show VE E mX7_least 7 _ 0 [some (.ref (g.1 100)), some (.int k), none, none, none, none, none] [] (S g σ w)
  refine VE.step (fun _ h => V.ild1 dX7_least_0 (V.iconst_0 dX7_least_1 (V.ald0 dX7_least_2 (GX7_200 hW rfl dX7_least_3 (V.iconst_1 dX7_least_6 (V.isub dX7_least_7 (V.invS3r sX7_159 dX7_least_8 c_X7_in h))))))) ?_
  refine VE.ifb_ne (tgt := 17) dX7_least_11 (by decide) (fun c_11 => ?_) (fun c_11 => ?_)
  · rw [cv_at hA (id := 100) (j := 14)] at c_11
    have c' := c_11
    rw [hI.posts.1] at c'
    have hO2 := hI.posts.2
    obtain ⟨k, hk, rfl⟩ := (inB_n (by omega)).mp c'
    have e1 : cl (nI k) = k := cl_n (by omega)
    have L32 : ∀ (m x : Nat) (s : Int32 × Int32) (w' : Wv) (y : Option Value), x + m = 21 → (∀ z, cv (up2 w' 116 k z) = cv (up2 v 116 k z)) → bst (fun x => allS (up2 v 116 k (nI x))) nI x m s = leaB v k → VE E mX7_least 7 (PR (.int (leastR v (nI k))) (QV g σ v)) 32 [some (.ref (g.1 100)), some (.int (nI k)), some (.int (v 116 k)), some (.int (s.1)), some (.int (s.2)), some (.int (nI x)), y] [] (S g σ w') := by
      intro m
      induction m with
      | zero =>
        intro x s w' y hk hx hs
        refine VE.step (fun _ h => V.ild5 dX7_least_32 (V.bipush (v := 20) dX7_least_34 (by decide) h)) ?_
        refine VE.icmp_gt (tgt := 73) dX7_least_36 (by decide) (fun c_36 => ?_) (fun c_36 => absurd (show (20 : Int32) < nI x from nI_lt (a := 20) (by omega) (by omega)) c_36)
        refine VE.step (fun _ h => V.ald0 dX7_least_73 (GX7_46 hW rfl dX7_least_74 (V.ild1 dX7_least_77 (V.ild2 dX7_least_78 (sM15 hW (by first | exact IX.n ‹_› (by decide) | exact IX.n (by omega) (by decide)) dX7_least_79 (V.ild3 dX7_least_80 h)))))) ?_
        exact VE.iret dX7_least_81 rfl rfl (⟨by rw [leastR, if_pos c_11, e1, ← hs]; rfl, _, (by rw [hx, cv_same]), rfl⟩)
      | succ m ih =>
        intro x s w' y hk hx hs
        refine VE.step (fun _ h => V.ild5 dX7_least_32 (V.bipush (v := 20) dX7_least_34 (by decide) h)) ?_
        refine VE.icmp_gt (tgt := 73) dX7_least_36 (by decide) (fun c_36 => absurd c_36 (show ¬ (20 : Int32) < nI x from nI_nlt (a := 20) (by omega) (by omega))) (fun c_36 => ?_)
        refine VE.step (fun _ h => V.ald0 dX7_least_39 (GX7_46 hW rfl dX7_least_40 (V.ild1 dX7_least_43 (V.ild5 dX7_least_44 (sM15 hW (by first | exact IX.n ‹_› (by decide) | exact IX.n (by omega) (by decide)) dX7_least_46 (V.ald0 dX7_least_47 h)))))) ?_
        refine VE.invV0r vX7_346 hW.2.2.1 dX7_least_48 (e_X7_allWorth hW (hx (nI x)) (HI.up hI (by decide) (by decide) (by decide)) (HT.up hT (by decide))) (fun s9 q9 => ?_)
        obtain ⟨w1, hw1, rfl⟩ := q9
        refine VE.step (fun _ h => V.ist6 dX7_least_51 (V.ild6 dX7_least_53 (V.ild4 dX7_least_55 h))) ?_
        refine VE.icmp_le (tgt := 67) dX7_least_57 (by decide) (fun c_57 => ?_) (fun c_57 => ?_)
        · refine VE.step (fun _ h => V.inc5 dX7_least_67 (V.goto (tgt := 32) dX7_least_70 (by decide) h)) ?_
          rw [nI_1]
          have hx1 : ∀ z, cv (up2 w1 116 k z) = cv (up2 v 116 k z) := fun z => by
            rw [← hx z, cv_up (cv_of_cu hw1), up2_up2]
          first
            | exact ih (x + 1) s _ _ (by omega) hx1 (by rw [← hs, bst, if_pos c_57])
            | exact ih (x + 1) (nI x, allS (up2 v 116 k (nI x))) _ _ (by omega) hx1 (by rw [← hs, bst, if_neg c_57])
        · refine VE.step (fun _ h => V.ild5 dX7_least_60 (V.ist3 dX7_least_62 (V.ild6 dX7_least_63 (V.ist4 dX7_least_65 (V.inc5 dX7_least_67 (V.goto (tgt := 32) dX7_least_70 (by decide) h)))))) ?_
          rw [nI_1]
          have hx1 : ∀ z, cv (up2 w1 116 k z) = cv (up2 v 116 k z) := fun z => by
            rw [← hx z, cv_up (cv_of_cu hw1), up2_up2]
          first
            | exact ih (x + 1) s _ _ (by omega) hx1 (by rw [← hs, bst, if_pos c_57])
            | exact ih (x + 1) (nI x, allS (up2 v 116 k (nI x))) _ _ (by omega) hx1 (by rw [← hs, bst, if_neg c_57])
    
    refine VE.step (fun _ h => V.ald0 dX7_least_17 (GX7_46 hW rfl dX7_least_18 (V.ild1 dX7_least_21 (aM15 hW (by first | exact IX.n ‹_› (by decide) | exact IX.n (by omega) (by decide)) dX7_least_22 (V.ist2 dX7_least_23 (V.iconst_0 dX7_least_24 (V.ist3 dX7_least_25 (V.iconst_m1 dX7_least_26 (V.ist4 dX7_least_27 (V.iconst_0 dX7_least_29 (V.ist5 dX7_least_30 h))))))))))) ?_
    rw [cv_at hA (id := 116) (j := k)]
    exact L32 21 0 (0, -1) _ _ (by omega) (fun z => cv_up hA) rfl
  · refine VE.step (fun _ h => V.bipush (v := (-5)) dX7_least_14 (by decide) h) ?_
    exact VE.iret dX7_least_16 rfl rfl (⟨by rw [cv_at hA (id := 100) (j := 14)] at c_11; simp only [leastR, c_11, if_true, if_false, Bool.false_eq_true, eq_self, and_true, true_and, and_false, false_and, Bool.and_true, Bool.true_and, Bool.and_false, Bool.false_and, Bool.not_true, Bool.not_false, not_true_eq_false, not_false_eq_true, ne_eq, b2i_t, b2i_f], _, hA, rfl⟩)

theorem stg_next {w v : Wv} {n : Nat} (h : cv w = cv (stgV v n)) : cv (fA 113 (nP v) (fun p => w 113 p + 1) w) = cv (stgV v (n + 1)) := by
  rw [cv_fA h]
  congr 1
  funext id j
  unfold stgV
  by_cases hj : id = 113 ∧ j < nP v
  · obtain ⟨rfl, hj⟩ := hj
    rw [fA_at hj, fA_at hj, cv_at h (e := rfl), stgV, fA_at hj, Int32.add_assoc, nI_1]
  · unfold fA; rw [if_neg hj, if_neg hj, if_neg hj]
theorem stg_back {w v : Wv} (h : cv w = cv (stgV v 10)) : cv (fA 113 (nP v) (fun p => w 113 p - 10) w) = cv v := by
  rw [cv_fA h]
  congr 1
  funext id j
  unfold stgV
  by_cases hj : id = 113 ∧ j < nP v
  · obtain ⟨rfl, hj⟩ := hj
    rw [fA_at hj, cv_at h (e := rfl), stgV, fA_at hj, show nI 10 = 10 from rfl, Int32.add_sub_cancel]
  · unfold fA; rw [if_neg hj, if_neg hj]
theorem stg_0 {v : Wv} : stgV v 0 = v := by
  funext id j
  unfold stgV fA
  split
  · rename_i h; rw [h.1]; show v 113 j + 0 = _; rw [Int32.add_zero]
  · rfl
theorem c_X7_stage {E : En} {g : Ge} {σ : Sg} {w : Wv} (hW : WM g σ) {v : Wv} (hA : cv w = cv v) (hI : HI v) (hT : HT v)  : CtE E mX7_stage 7 [.ref (g.1 100)] (PR (.int (stageR v)) (QV g σ v)) (S g σ w) := by
  show VE E mX7_stage 7 _ 0 [some (.ref (g.1 100)), none, none, none, none] [] (S g σ w)
  have hP2 := hI.points.2
  have L69o : ∀ (w' : Wv) (y : Int32) (y2 : Option Value), cv w' = cv (stgV v 10) → VE E mX7_stage 7 (PR (.int (stageR v)) (QV g σ v)) 69 [some (.ref (g.1 100)), some (.int (stageR v)), some (.int (y)), some (.int (nI 0)), y2] [] (S g σ w') := by
    intro w' y y2 hw
    have L69 : ∀ (m p : Nat), p + m = nP v → VE E mX7_stage 7 (PR (.int (stageR v)) (QV g σ v)) 69 [some (.ref (g.1 100)), some (.int (stageR v)), some (.int (y)), some (.int (nI p)), y2] [] (S g σ (fA 113 p (fun p => w' 113 p - 10) w')) := by
      intro m
      induction m with
      | zero =>
        intro p hk 
        obtain rfl : p = nP v := by omega
        refine VE.step (fun _ h => V.ild3 dX7_stage_69 (V.ald0 dX7_stage_70 (GX7_197 hW rfl dX7_stage_71 h))) ?_
        refine VE.icmp_ge (tgt := 94) dX7_stage_74 (by decide) (fun c_74 => ?_) (fun c_74 => absurd (by rw [fA_ne (show (100 : Nat) ≠ 113 by decide), cv_at hw (e := rfl), show stgV v 10 100 10 = v 100 10 from rfl, hI.points.1]; exact nI_le (by omega) (by omega)) c_74)
        refine VE.step (fun _ h => V.ild1 dX7_stage_94 h) ?_
        exact VE.iret dX7_stage_95 rfl rfl (⟨rfl, _, stg_back hw, rfl⟩)
      | succ m ih =>
        intro p hk 
        refine VE.step (fun _ h => V.ild3 dX7_stage_69 (V.ald0 dX7_stage_70 (GX7_197 hW rfl dX7_stage_71 h))) ?_
        refine VE.icmp_ge (tgt := 94) dX7_stage_74 (by decide) (fun c_74 => absurd c_74 (by rw [fA_ne (show (100 : Nat) ≠ 113 by decide), cv_at hw (e := rfl), show stgV v 10 100 10 = v 100 10 from rfl, hI.points.1]; first | exact nI_ge (by omega) (by omega) | exact fun h9 => absurd ((nI_leI (by omega) (by omega)).mp h9) (by omega))) (fun c_74 => ?_)
        refine VE.step (fun _ h => V.ald0 dX7_stage_77 (GX7_40 hW rfl dX7_stage_78 (V.ild3 dX7_stage_81 (V.dup2 dX7_stage_82 (aM12 hW (by first | exact IX.n ‹_› (by decide) | exact IX.n (by omega) (by decide)) dX7_stage_83 (V.bipush (v := 10) dX7_stage_84 (by decide) (V.isub dX7_stage_86 (sM12 hW (by first | exact IX.n ‹_› (by decide) | exact IX.n (by omega) (by decide)) dX7_stage_87 (V.inc3 dX7_stage_88 (V.goto (tgt := 69) dX7_stage_91 (by decide) h)))))))))) ?_
        rw [nI_1, fA_s (by rw [fA_ge (by omega)])]
        exact ih (p + 1) (by omega)
    have h0 := L69 (nP v) 0 (by omega)
    rw [fA_0] at h0
    exact h0
  have L9 : ∀ (m n : Nat) (s : Int32 × Int32) (w' : Wv) (y : Option Value), n + m = 10 → cv w' = cv (stgV v n) → (bst (fun n => allS (stgV v n)) nI (n + 1) m s).1 = stageR v → VE E mX7_stage 7 (PR (.int (stageR v)) (QV g σ v)) 9 [some (.ref (g.1 100)), some (.int (s.1)), some (.int (s.2)), some (.int (nI (n + 1))), y] [] (S g σ w') := by
    intro m
    induction m with
    | zero =>
      intro n s w' y hk hw hs
      obtain rfl : n = 10 := by omega
      refine VE.step (fun _ h => V.ild3 dX7_stage_9 (V.bipush (v := 10) dX7_stage_10 (by decide) h)) ?_
      refine VE.icmp_gt (tgt := 67) dX7_stage_12 (by decide) (fun c_12 => ?_) (fun c_12 => absurd (show (10 : Int32) < nI (10 + 1) from by decide) c_12)
      refine VE.step (fun _ h => V.iconst_0 dX7_stage_67 (V.ist3 dX7_stage_68 h)) ?_
      rw [show s.1 = stageR v from hs]
      exact L69o _ _ _ hw
    | succ m ih =>
      intro n s w' y hk hw hs
      have L18 : ∀ (m9 p : Nat), p + m9 = nP v → VE E mX7_stage 7 (PR (.int (stageR v)) (QV g σ v)) 18 [some (.ref (g.1 100)), some (.int (s.1)), some (.int (s.2)), some (.int (nI (n + 1))), some (.int (nI p))] [] (S g σ (fA 113 p (fun p => w' 113 p + 1) w')) := by
        intro m9
        induction m9 with
        | zero =>
          intro p hk9 
          obtain rfl : p = nP v := by omega
          refine VE.step (fun _ h => V.ild4 dX7_stage_18 (V.ald0 dX7_stage_20 (GX7_197 hW rfl dX7_stage_21 h))) ?_
          refine VE.icmp_ge (tgt := 44) dX7_stage_24 (by decide) (fun c_24 => ?_) (fun c_24 => absurd (by rw [fA_ne (show (100 : Nat) ≠ 113 by decide), cv_at hw (e := rfl), show stgV v n 100 10 = v 100 10 from rfl, hI.points.1]; exact nI_le (by omega) (by omega)) c_24)
          refine VE.step (fun _ h => V.ald0 dX7_stage_44 h) ?_
          refine VE.invV0r vX7_346 hW.2.2.1 dX7_stage_45 (e_X7_allWorth hW (stg_next hw) (HI.f hI (by decide) (by decide) (by decide)) (HT.f hT (by decide))) (fun s9 q9 => ?_)
          obtain ⟨w1, hw1, rfl⟩ := q9
          refine VE.step (fun _ h => V.ist4 dX7_stage_48 (V.ild4 dX7_stage_50 (V.ild2 dX7_stage_52 h))) ?_
          refine VE.icmp_le (tgt := 61) dX7_stage_53 (by decide) (fun c_53 => ?_) (fun c_53 => ?_)
          · refine VE.step (fun _ h => V.inc3 dX7_stage_61 (V.goto (tgt := 9) dX7_stage_64 (by decide) h)) ?_
            rw [nI_1]
            first
              | exact ih (n + 1) s _ _ (by omega) (by rw [cv_of_cu hw1]; exact stg_next hw) (by rw [← hs, bst, if_pos c_53])
              | exact ih (n + 1) (nI (n + 1), allS (stgV v (n + 1))) _ _ (by omega) (by rw [cv_of_cu hw1]; exact stg_next hw) (by rw [← hs, bst, if_neg c_53])
          · refine VE.step (fun _ h => V.ild3 dX7_stage_56 (V.ist1 dX7_stage_57 (V.ild4 dX7_stage_58 (V.ist2 dX7_stage_60 (V.inc3 dX7_stage_61 (V.goto (tgt := 9) dX7_stage_64 (by decide) h)))))) ?_
            rw [nI_1]
            first
              | exact ih (n + 1) s _ _ (by omega) (by rw [cv_of_cu hw1]; exact stg_next hw) (by rw [← hs, bst, if_pos c_53])
              | exact ih (n + 1) (nI (n + 1), allS (stgV v (n + 1))) _ _ (by omega) (by rw [cv_of_cu hw1]; exact stg_next hw) (by rw [← hs, bst, if_neg c_53])
        | succ m9 ih9 =>
          intro p hk9 
          refine VE.step (fun _ h => V.ild4 dX7_stage_18 (V.ald0 dX7_stage_20 (GX7_197 hW rfl dX7_stage_21 h))) ?_
          refine VE.icmp_ge (tgt := 44) dX7_stage_24 (by decide) (fun c_24 => absurd c_24 (by rw [fA_ne (show (100 : Nat) ≠ 113 by decide), cv_at hw (e := rfl), show stgV v n 100 10 = v 100 10 from rfl, hI.points.1]; first | exact nI_ge (by omega) (by omega) | exact fun h9 => absurd ((nI_leI (by omega) (by omega)).mp h9) (by omega))) (fun c_24 => ?_)
          refine VE.step (fun _ h => V.ald0 dX7_stage_27 (GX7_40 hW rfl dX7_stage_28 (V.ild4 dX7_stage_31 (V.dup2 dX7_stage_33 (aM12 hW (by first | exact IX.n ‹_› (by decide) | exact IX.n (by omega) (by decide)) dX7_stage_34 (V.iconst_1 dX7_stage_35 (V.iadd dX7_stage_36 (sM12 hW (by first | exact IX.n ‹_› (by decide) | exact IX.n (by omega) (by decide)) dX7_stage_37 (V.inc4 dX7_stage_38 (V.goto (tgt := 18) dX7_stage_41 (by decide) h)))))))))) ?_
          rw [nI_1, fA_s (by rw [fA_ge (by omega)])]
          exact ih9 (p + 1) (by omega)
      refine VE.step (fun _ h => V.ild3 dX7_stage_9 (V.bipush (v := 10) dX7_stage_10 (by decide) h)) ?_
      refine VE.icmp_gt (tgt := 67) dX7_stage_12 (by decide) (fun c_12 => absurd c_12 (show ¬ (10 : Int32) < nI (n + 1) from nI_nlt (a := 10) (by omega) (by omega))) (fun c_12 => ?_)
      refine VE.step (fun _ h => V.iconst_0 dX7_stage_15 (V.ist4 dX7_stage_16 h)) ?_
      have h0 := L18 (nP v) 0 (by omega)
      rw [fA_0] at h0
      exact h0
  refine VE.step (fun _ h => V.iconst_0 dX7_stage_0 (V.ist1 dX7_stage_1 (V.ald0 dX7_stage_2 h))) ?_
  refine VE.invV0r vX7_346 hW.2.2.1 dX7_stage_3 (e_X7_allWorth hW hA hI hT) (fun s9 q9 => ?_)
  obtain ⟨w1, hw1, rfl⟩ := q9
  refine VE.step (fun _ h => V.ist2 dX7_stage_6 (V.iconst_1 dX7_stage_7 (V.ist3 dX7_stage_8 h))) ?_
  exact L9 10 0 (0, allS v) _ _ (by omega) (by rw [stg_0, cv_of_cu hw1, hA]) rfl

theorem hat_fin {w v : Wv} {s h : Int32} (e : cv w = cv (hatV v s h)) : cv (up2 w 100 23 (-1)) = cv (hatV v (-1) h) := by
  rw [cv_up e]
  congr 1
  funext id j
  unfold hatV
  by_cases h1 : id = 100 ∧ j = 23
  · obtain ⟨rfl, rfl⟩ := h1; rfl
  · by_cases h2 : id = 100 ∧ j = 24
    · obtain ⟨rfl, rfl⟩ := h2; rfl
    · rw [up2_ne _ _ h1, up2_ne _ _ h2, up2_ne _ _ h1, up2_ne _ _ h2, up2_ne _ _ h1]
theorem c_X7_hat {E : En} {g : Ge} {σ : Sg} {w : Wv} (hW : WM g σ) {v : Wv} (hA : cv w = cv v) (hI : HI v) (hT : HT v) {r c h : Int32} : CtE E mX7_hat 7 [.ref (g.1 100), .int r, .int c, .int h] (PR (.int (hatR v r c h)) (QV g σ (hatW v r c h))) (S g σ w) := by
  show VE E mX7_hat 7 _ 0 [some (.ref (g.1 100)), some (.int r), some (.int c), some (.int h), none, none] [] (S g σ w)
  refine VE.step (fun _ h => V.ald0 dX7_hat_0 (V.ild1 dX7_hat_1 (V.ild2 dX7_hat_2 (V.invV2r vX7_167 hW.2.2.1 dX7_hat_3 (e_X7_isSeat hW hA hI) h)))) ?_
  refine VE.ifb_ne (tgt := 12) dX7_hat_6 (by decide) (fun c_6 => ?_) (fun c_6 => ?_)
  · refine VE.step (fun _ h => V.ild3 dX7_hat_12 (V.iconst_0 dX7_hat_13 (V.bipush (v := 40) dX7_hat_14 (by decide) (V.invS3r sX7_159 dX7_hat_16 c_X7_in h)))) ?_
    refine VE.ifb_ne (tgt := 25) dX7_hat_19 (by decide) (fun c_19 => ?_) (fun c_19 => ?_)
    · refine VE.step (fun _ h => V.ald0 dX7_hat_25 h) ?_
      refine VE.invV0r vX7_346 hW.2.2.1 dX7_hat_26 (e_X7_allWorth hW hA hI hT) (fun s9 q9 => ?_)
      obtain ⟨w1, hw1, rfl⟩ := q9
      refine VE.step (fun _ h => V.ist4 dX7_hat_29 (V.ald0 dX7_hat_31 (V.bipush (v := 8) dX7_hat_32 (by decide) (V.ild1 dX7_hat_34 (V.imul dX7_hat_35 (V.ild2 dX7_hat_36 (V.iadd dX7_hat_37 (PX7_65 hW rfl dX7_hat_38 (V.ald0 dX7_hat_41 (V.ild3 dX7_hat_42 (PX7_179 hW rfl dX7_hat_43 (V.ald0 dX7_hat_46 h)))))))))))) ?_
      refine VE.invV0r vX7_346 hW.2.2.1 dX7_hat_47 (e_X7_allWorth hW (show cv (hatV w1 (8 * r + c) h) = cv (hatV v (8 * r + c) h) from cv_up (cv_up (by rw [cv_of_cu hw1, hA]))) hI.hat hT.hat) (fun s9 q9 => ?_)
      obtain ⟨w2, hw2, rfl⟩ := q9
      refine VE.step (fun _ h => V.ist5 dX7_hat_50 (V.ald0 dX7_hat_52 (V.iconst_m1 dX7_hat_53 (PX7_65 hW rfl dX7_hat_54 (V.ild4 dX7_hat_57 (V.ild5 dX7_hat_59 (V.isub dX7_hat_61 h))))))) ?_
      exact VE.iret dX7_hat_62 rfl rfl (⟨by simp only [hatR, c_6, c_19, if_true, if_false, Bool.false_eq_true, eq_self, and_true, true_and, and_false, false_and, Bool.and_true, Bool.true_and, Bool.and_false, Bool.false_and, Bool.not_true, Bool.not_false, not_true_eq_false, not_false_eq_true, ne_eq, b2i_t, b2i_f], _, by rw [hatW, if_pos c_6, if_pos c_19]; exact hat_fin (by rw [cv_of_cu hw2]; exact cv_up (cv_up (by rw [cv_of_cu hw1, hA]))), rfl⟩)
    · refine VE.step (fun _ h => V.bipush (v := (-7)) dX7_hat_22 (by decide) h) ?_
      exact VE.iret dX7_hat_24 rfl rfl (⟨by simp only [hatR, c_6, c_19, if_true, if_false, Bool.false_eq_true, eq_self, and_true, true_and, and_false, false_and, Bool.and_true, Bool.true_and, Bool.and_false, Bool.false_and, Bool.not_true, Bool.not_false, not_true_eq_false, not_false_eq_true, ne_eq, b2i_t, b2i_f], _, by simp only [hatW, c_6, c_19, if_true, if_false, Bool.false_eq_true, eq_self, and_true, true_and, and_false, false_and, Bool.and_true, Bool.true_and, Bool.and_false, Bool.false_and, Bool.not_true, Bool.not_false, not_true_eq_false, not_false_eq_true, ne_eq, b2i_t, b2i_f]; exact hA, rfl⟩)
  · refine VE.step (fun _ h => V.bipush (v := (-5)) dX7_hat_9 (by decide) h) ?_
    exact VE.iret dX7_hat_11 rfl rfl (⟨by simp only [hatR, c_6, if_true, if_false, Bool.false_eq_true, eq_self, and_true, true_and, and_false, false_and, Bool.and_true, Bool.true_and, Bool.and_false, Bool.false_and, Bool.not_true, Bool.not_false, not_true_eq_false, not_false_eq_true, ne_eq, b2i_t, b2i_f], _, by simp only [hatW, c_6, if_true, if_false, Bool.false_eq_true, eq_self, and_true, true_and, and_false, false_and, Bool.and_true, Bool.true_and, Bool.and_false, Bool.false_and, Bool.not_true, Bool.not_false, not_true_eq_false, not_false_eq_true, ne_eq, b2i_t, b2i_f]; exact hA, rfl⟩)

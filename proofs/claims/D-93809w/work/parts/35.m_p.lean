set_option maxRecDepth 100000
set_option maxHeartbeats 1000000
/-- the sheets -/
def HS (v : Wv) : Prop := ∀ s, s < 4 → (∃ n, n ≤ 60 ∧ v 139 s = nI n) ∧ inB (v 138 s) (-1) 2 = true
def gA (d a n : Nat) (f : Nat → Int32) (w : Wv) : Wv := fun id j => if id = d ∧ a ≤ j ∧ j < a + n then f (j - a) else w id j
theorem gA_0 {d a : Nat} {f : Nat → Int32} {w : Wv} : gA d a 0 f w = w := by
  funext i j; unfold gA; rw [if_neg (fun z => by omega)]
theorem gA_ne {d a n : Nat} {f : Nat → Int32} {w : Wv} {id j : Nat} (h : id ≠ d) : gA d a n f w id j = w id j := by unfold gA; rw [if_neg (fun z => h z.1)]
theorem gA_at {d a n : Nat} {f : Nat → Int32} {w : Wv} {j : Nat} (h : j < n) : gA d a n f w d (a + j) = f j := by unfold gA; rw [if_pos ⟨rfl, by omega, by omega⟩, Nat.add_sub_cancel_left]
theorem gA_out {d a n : Nat} {f : Nat → Int32} {w : Wv} {id j : Nat} (h : ¬ (a ≤ j ∧ j < a + n)) : gA d a n f w id j = w id j := by unfold gA; rw [if_neg (fun z => h z.2)]
theorem gA_s {d a k : Nat} {f : Nat → Int32} {w : Wv} {x : Int32} (h : x = f k) : up2 (gA d a k f w) d (a + k) x = gA d a (k + 1) f w := by
  subst h
  funext i j
  by_cases h2 : i = d ∧ j = a + k
  · obtain ⟨rfl, rfl⟩ := h2
    rw [up2_eq, gA_at (Nat.lt_succ_self _)]
  · rw [up2_ne _ _ h2]
    unfold gA
    by_cases h3 : i = d ∧ a ≤ j ∧ j < a + k
    · rw [if_pos h3, if_pos ⟨h3.1, h3.2.1, by omega⟩]
    · rw [if_neg h3, if_neg (fun z => h3 ⟨z.1, z.2.1, by have : ¬ j = a + k := fun y => h2 ⟨z.1, y⟩; omega⟩)]
theorem cv_gA {d a n : Nat} {f : Nat → Int32} {w u : Wv} (h : cv w = cv u) : cv (gA d a n f w) = cv (gA d a n f u) := by
  funext i j
  have := congrFun (congrFun h i) j
  unfold cv at this ⊢
  by_cases h3 : (scI i || (i == 100 && scJ j)) = true
  · rw [if_pos h3, if_pos h3]
  · rw [if_neg h3, if_neg h3] at this ⊢
    unfold gA
    split
    · rfl
    · exact this
def flatR (v : Wv) : Int32 := sumF (fun r => b2i (decide (¬ v 108 r ≤ 0) && decide (¬ stpS v r = 0))) 0 (nR v) 0
def thuS (v : Wv) (s : Nat) : Int32 := sumF (fun r => b2i (decide (¬ v 140 (60 * s + r) = v 108 r))) 0 (nR v) 0
def thursdayR (v : Wv) (s : Int32) : Int32 := if inB s 0 3 then (if v 138 (cl s) = -1 then -11 else if v 139 (cl s) = v 100 3 then thuS v (cl s) else -2) else -2
def isUn (k o : Int32) : Bool := decide (o = 0) || decide (k = o) || (decide (o = 1) && decide (k = 3)) || (decide (o = 2) && decide (k = 4))
def takenR (v : Wv) (i k : Int32) : Int32 := if inB k 0 6 then (if inB i 0 11 then (if 6 ≤ i then (if i - 6 < v 100 3 then (if 6 ≤ k then -13 else if isUn (v 105 (cl (i - 6))) k then i - 6 else -13) else -11) else (if i < v 100 10 then (if k = 6 then v 113 (cl i) else -13) else -11)) else -12) else -2
def shtB (s t n : Int32) : Bool := inB s 0 3 && inB t (-1) 2 && (decide (t = -1) || decide (n ≤ 60))
def shtN (t n : Int32) : Bool := decide (¬ t = -1) && decide (¬ 0 ≤ n)
def shtV (v : Wv) (s : Nat) (t n : Int32) : Wv := gA 140 (60 * s) 60 (fun _ => 0) (up2 (up2 v 138 s t) 139 s (if t = -1 then 0 else n))
def sheetR (s t n : Int32) : Int32 := if shtB s t n then (if shtN t n then -14 else 1) else -2
def sheetW (v : Wv) (s t n : Int32) : Wv := if shtB s t n then (if shtN t n then v else shtV v (cl s) t n) else v
def celV (t x : Int32) : Int32 := if t = 0 then x.toInt8.toInt32 else if t = 1 then x.toInt16.toInt32 else x
def cellR (v : Wv) (s i : Int32) : Int32 := if inB s 0 3 then (if v 138 (cl s) = -1 then -11 else if inB i 0 (v 139 (cl s) - 1) then 1 else -12) else -2
def cellW (v : Wv) (s i x : Int32) : Wv := if inB s 0 3 then (if v 138 (cl s) = -1 then v else if inB i 0 (v 139 (cl s) - 1) then up2 v 140 (60 * cl s + cl i) (celV (v 138 (cl s)) x) else v) else v
def cellWm (w v : Wv) (s i x : Int32) : Wv := if inB s 0 3 then (if v 138 (cl s) = -1 then w else if inB i 0 (v 139 (cl s) - 1) then up2 w 140 (60 * cl s + cl i) (celV (v 138 (cl s)) x) else w) else w
theorem cellWm_cv {w v : Wv} (h : cv w = cv v) {s i x : Int32} : cv (cellWm w v s i x) = cv (cellW v s i x) := by
  unfold cellWm cellW
  split
  · split
    · exact h
    · split
      · exact cv_up h
      · exact h
  · exact h
theorem e_X7_stepOf {E : En} {g : Ge} {σ : Sg} {w v : Wv} (hW : WM g σ) (hA : cv w = cv v) {r : Nat} (hr : r < 6) : Ct E mX7_stepOf 0 [.ref (g.1 100), .int (nI r)] (.returned (some (.int (stpS v r))), S g σ w) (S g σ w) := by
  rw [← cg stpS (fun _ => rfl) (show cv (cu w) = cv v by rw [cv_cu, hA])]
  exact c_X7_stepOf hW rfl hr
theorem c_X7_flat {E : En} {g : Ge} {σ : Sg} {w : Wv} (hW : WM g σ) {v : Wv} (hA : cv w = cv v) (hI : HI v)  : Ct E mX7_flat 1 [.ref (g.1 100)] (.returned (some (.int (flatR v))), S g σ w) (S g σ w) := by
  show V E mX7_flat 1 _ 0 [some (.ref (g.1 100)), none, none] [] (S g σ w)
  have hR2 := hI.rows.2
  have L4 : ∀ (m r : Nat) (acc : Int32), r + m = nR v → sumF (fun r => b2i (decide (¬ v 108 r ≤ 0) && decide (¬ stpS v r = 0))) r m acc = flatR v → V E mX7_flat 1 (.returned (some (.int (flatR v))), S g σ w) 4 [some (.ref (g.1 100)), some (.int (acc)), some (.int (nI r))] [] (S g σ w) := by
    intro m
    induction m with
    | zero =>
      intro r acc hk hs
      refine V.ild2 dX7_flat_4 (V.ald0 dX7_flat_5 (GX7_156 hW rfl dX7_flat_6 (V.icmp_ge (tgt := 43) dX7_flat_9 (by decide) (fun c_9 => ?_) (fun c_9 => absurd (by rw [cv_at hA, hI.rows.1]; exact nI_le (by omega) (by omega)) c_9))))
      exact V.ild1 dX7_flat_43 (V.iret dX7_flat_44 rfl rfl (by rw [← hs]; rfl))
    | succ m ih =>
      intro r acc hk hs
      refine V.ild2 dX7_flat_4 (V.ald0 dX7_flat_5 (GX7_156 hW rfl dX7_flat_6 (V.icmp_ge (tgt := 43) dX7_flat_9 (by decide) (fun c_9 => absurd c_9 (by rw [cv_at hA, hI.rows.1]; first | exact nI_ge (by omega) (by omega) | exact fun h9 => absurd ((nI_leI (by omega) (by omega)).mp h9) (by omega))) (fun c_9 => ?_))))
      refine V.ild1 dX7_flat_12 (V.ald0 dX7_flat_13 (GX7_28 hW rfl dX7_flat_14 (V.ild2 dX7_flat_17 (aM7 hW (by first | exact IX.n ‹_› (by decide) | exact IX.n (by omega) (by decide)) dX7_flat_18 (V.if_le (tgt := 34) dX7_flat_19 (by decide) (fun c_19 => ?_) (fun c_19 => ?_))))))
      · refine V.iconst_0 dX7_flat_34 (V.iadd dX7_flat_35 (V.ist1 dX7_flat_36 (V.inc2 dX7_flat_37 (V.goto (tgt := 4) dX7_flat_40 (by decide) ?_))))
        rw [nI_1]
        rw [cv_at hA (id := 108) (j := r)] at c_19
        first
          | exact ih (r + 1) _ (by omega) (by rw [← hs, sumF, decide_eq_false (Decidable.not_not.mpr c_19)]; rfl)
          | exact ih (r + 1) _ (by omega) (by rw [← hs, sumF, decide_eq_true c_19, decide_eq_false (Decidable.not_not.mpr c_27)]; rfl)
          | exact ih (r + 1) _ (by omega) (by rw [← hs, sumF, decide_eq_true c_19, decide_eq_true c_27]; rfl)
      · refine V.ald0 dX7_flat_22 (V.ild2 dX7_flat_23 (V.invV1r vX7_307 hW.2.2.1 dX7_flat_24 (e_X7_stepOf hW hA (by omega)) (V.if_eq (tgt := 34) dX7_flat_27 (by decide) (fun c_27 => ?_) (fun c_27 => ?_))))
        · refine V.iconst_0 dX7_flat_34 (V.iadd dX7_flat_35 (V.ist1 dX7_flat_36 (V.inc2 dX7_flat_37 (V.goto (tgt := 4) dX7_flat_40 (by decide) ?_))))
          rw [nI_1]
          rw [cv_at hA (id := 108) (j := r)] at c_19
          first
            | exact ih (r + 1) _ (by omega) (by rw [← hs, sumF, decide_eq_false (Decidable.not_not.mpr c_19)]; rfl)
            | exact ih (r + 1) _ (by omega) (by rw [← hs, sumF, decide_eq_true c_19, decide_eq_false (Decidable.not_not.mpr c_27)]; rfl)
            | exact ih (r + 1) _ (by omega) (by rw [← hs, sumF, decide_eq_true c_19, decide_eq_true c_27]; rfl)
        · refine V.iconst_1 dX7_flat_30 (V.goto (tgt := 35) dX7_flat_31 (by decide) (V.iadd dX7_flat_35 (V.ist1 dX7_flat_36 (V.inc2 dX7_flat_37 (V.goto (tgt := 4) dX7_flat_40 (by decide) ?_)))))
          rw [nI_1]
          rw [cv_at hA (id := 108) (j := r)] at c_19
          first
            | exact ih (r + 1) _ (by omega) (by rw [← hs, sumF, decide_eq_false (Decidable.not_not.mpr c_19)]; rfl)
            | exact ih (r + 1) _ (by omega) (by rw [← hs, sumF, decide_eq_true c_19, decide_eq_false (Decidable.not_not.mpr c_27)]; rfl)
            | exact ih (r + 1) _ (by omega) (by rw [← hs, sumF, decide_eq_true c_19, decide_eq_true c_27]; rfl)
  refine V.iconst_0 dX7_flat_0 (V.ist1 dX7_flat_1 (V.iconst_0 dX7_flat_2 (V.ist2 dX7_flat_3 ?_)))
  exact L4 (nR v) 0 _ (by omega) rfl

theorem c_X7_thursday {E : En} {g : Ge} {σ : Sg} {w : Wv} (hW : WM g σ) {v : Wv} (hA : cv w = cv v) (hI : HI v) {s : Int32} : Ct E mX7_thursday 1 [.ref (g.1 100), .int s] (.returned (some (.int (thursdayR v s))), S g σ w) (S g σ w) := by
  show V E mX7_thursday 1 _ 0 [some (.ref (g.1 100)), some (.int s), none, none] [] (S g σ w)
  refine V.ild1 dX7_thursday_0 (V.iconst_0 dX7_thursday_1 (V.iconst_3 dX7_thursday_2 (V.invS3r sX7_159 dX7_thursday_3 c_X7_in (V.ifb_ne (tgt := 12) dX7_thursday_6 (by decide) (fun c_6 => ?_) (fun c_6 => ?_)))))
  · obtain ⟨k, hk4, rfl⟩ := in_n (N := 4) (by decide) (by decide) c_6
    have e1 : cl (nI k) = k := cl_n (by omega)
    refine V.ald0 dX7_thursday_12 (GX7_92 hW rfl dX7_thursday_13 (V.ild1 dX7_thursday_16 (aM37 hW (by first | exact IX.n ‹_› (by decide) | exact IX.n (by omega) (by decide)) dX7_thursday_17 (V.iconst_m1 dX7_thursday_18 (V.icmp_ne (tgt := 25) dX7_thursday_19 (by decide) (fun c_19 => ?_) (fun c_19 => ?_))))))
    · rw [cv_at hA (id := 138) (j := k)] at c_19
      refine V.ald0 dX7_thursday_25 (GX7_95 hW rfl dX7_thursday_26 (V.ild1 dX7_thursday_29 (aM38 hW (by first | exact IX.n ‹_› (by decide) | exact IX.n (by omega) (by decide)) dX7_thursday_30 (V.ald0 dX7_thursday_31 (GX7_156 hW rfl dX7_thursday_32 (V.icmp_eq (tgt := 41) dX7_thursday_35 (by decide) (fun c_35 => ?_) (fun c_35 => ?_)))))))
      · rw [cv_at hA (id := 139) (j := k), cv_at hA (id := 100) (j := 3)] at c_35
        have hR2 := hI.rows.2
        have L45 : ∀ (m r : Nat) (acc : Int32), r + m = nR v → sumF (fun r => b2i (decide (¬ v 140 (60 * k + r) = v 108 r))) r m acc = thuS v k → V E mX7_thursday 1 (.returned (some (.int (thursdayR v (nI k)))), S g σ w) 45 [some (.ref (g.1 100)), some (.int (nI k)), some (.int (acc)), some (.int (nI r))] [] (S g σ w) := by
          intro m
          induction m with
          | zero =>
            intro r acc hk hs
            refine V.ild3 dX7_thursday_45 (V.ald0 dX7_thursday_46 (GX7_156 hW rfl dX7_thursday_47 (V.icmp_ge (tgt := 87) dX7_thursday_50 (by decide) (fun c_50 => ?_) (fun c_50 => absurd (by rw [cv_at hA, hI.rows.1]; exact nI_le (by omega) (by omega)) c_50))))
            exact V.ild2 dX7_thursday_87 (V.iret dX7_thursday_88 rfl rfl (by unfold thursdayR; rw [if_pos c_6, e1, if_neg c_19, if_pos c_35, ← hs]; rfl))
          | succ m ih =>
            intro r acc hk hs
            refine V.ild3 dX7_thursday_45 (V.ald0 dX7_thursday_46 (GX7_156 hW rfl dX7_thursday_47 (V.icmp_ge (tgt := 87) dX7_thursday_50 (by decide) (fun c_50 => absurd c_50 (by rw [cv_at hA, hI.rows.1]; first | exact nI_ge (by omega) (by omega) | exact fun h9 => absurd ((nI_leI (by omega) (by omega)).mp h9) (by omega))) (fun c_50 => ?_))))
            refine V.ild2 dX7_thursday_53 (V.ald0 dX7_thursday_54 (GX7_98 hW rfl dX7_thursday_55 (V.bipush (v := 60) dX7_thursday_58 (by decide) (V.ild1 dX7_thursday_60 (V.imul dX7_thursday_61 (V.ild3 dX7_thursday_62 (V.iadd dX7_thursday_63 (aM39 hW (ix60 hk4 (by omega)) dX7_thursday_64 (V.ald0 dX7_thursday_65 (GX7_28 hW rfl dX7_thursday_66 (V.ild3 dX7_thursday_69 (aM7 hW (by first | exact IX.n ‹_› (by decide) | exact IX.n (by omega) (by decide)) dX7_thursday_70 (V.icmp_ne (tgt := 78) dX7_thursday_71 (by decide) (fun c_71 => ?_) (fun c_71 => ?_))))))))))))))
            · refine V.iconst_1 dX7_thursday_78 (V.iadd dX7_thursday_79 (V.ist2 dX7_thursday_80 (V.inc3 dX7_thursday_81 (V.goto (tgt := 45) dX7_thursday_84 (by decide) ?_))))
              rw [nI_1]
              rw [cv_at hA (id := 108) (j := r), cv_at hA (id := 140) (j := 60 * k + r)] at c_71
              first
                | exact ih (r + 1) _ (by omega) (by rw [← hs, sumF, decide_eq_false (Decidable.not_not.mpr c_71)]; rfl)
                | exact ih (r + 1) _ (by omega) (by rw [← hs, sumF, decide_eq_true c_71]; rfl)
            · refine V.iconst_0 dX7_thursday_74 (V.goto (tgt := 79) dX7_thursday_75 (by decide) (V.iadd dX7_thursday_79 (V.ist2 dX7_thursday_80 (V.inc3 dX7_thursday_81 (V.goto (tgt := 45) dX7_thursday_84 (by decide) ?_)))))
              rw [nI_1]
              rw [cv_at hA (id := 108) (j := r), cv_at hA (id := 140) (j := 60 * k + r)] at c_71
              first
                | exact ih (r + 1) _ (by omega) (by rw [← hs, sumF, decide_eq_false (Decidable.not_not.mpr c_71)]; rfl)
                | exact ih (r + 1) _ (by omega) (by rw [← hs, sumF, decide_eq_true c_71]; rfl)
        
        refine V.iconst_0 dX7_thursday_41 (V.ist2 dX7_thursday_42 (V.iconst_0 dX7_thursday_43 (V.ist3 dX7_thursday_44 ?_)))
        exact L45 (nR v) 0 _ (by omega) rfl
      · rw [cv_at hA (id := 139) (j := k), cv_at hA (id := 100) (j := 3)] at c_35
        exact V.bipush (v := (-2)) dX7_thursday_38 (by decide) (V.iret dX7_thursday_40 rfl rfl (by unfold thursdayR; rw [if_pos c_6, e1, if_neg c_19, if_neg c_35]))
    · rw [cv_at hA (id := 138) (j := k)] at c_19
      exact V.bipush (v := (-11)) dX7_thursday_22 (by decide) (V.iret dX7_thursday_24 rfl rfl (by unfold thursdayR; rw [if_pos c_6, e1, if_pos c_19]))
  · exact V.bipush (v := (-2)) dX7_thursday_9 (by decide) (V.iret dX7_thursday_11 rfl rfl (by simp only [thursdayR, c_6, if_true, if_false, Bool.false_eq_true, eq_self, and_true, true_and, and_false, false_and, Bool.and_true, Bool.true_and, Bool.and_false, Bool.false_and, Bool.not_true, Bool.not_false, not_true_eq_false, not_false_eq_true, ne_eq, b2i_t, b2i_f]))

theorem c_X7_isUnder {E : En} {σ : Sg} {k o : Int32} : Ct E mX7_isUnder 0 [.int k, .int o] (.returned (some (.int (b2i (isUn k o)))), σ) (σ) := by
  show V E mX7_isUnder 0 _ 0 [some (.int k), some (.int o)] [] (σ)
  refine V.ild1 dX7_isUnder_0 (V.if_eq (tgt := 29) dX7_isUnder_1 (by decide) (fun c_1 => ?_) (fun c_1 => ?_))
  · exact V.iconst_1 dX7_isUnder_29 (V.goto (tgt := 34) dX7_isUnder_30 (by decide) (V.iret dX7_isUnder_34 rfl rfl (by first | (simp [isUn, c_1]; done) | (simp [isUn, c_1]; rfl) | (exfalso; rw [c_11] at c_21; exact absurd c_21 (by decide)) | (simp_all [isUn, b2i]; done))))
  · refine V.ild0 dX7_isUnder_4 (V.ild1 dX7_isUnder_5 (V.icmp_eq (tgt := 29) dX7_isUnder_6 (by decide) (fun c_6 => ?_) (fun c_6 => ?_)))
    · exact V.iconst_1 dX7_isUnder_29 (V.goto (tgt := 34) dX7_isUnder_30 (by decide) (V.iret dX7_isUnder_34 rfl rfl (by first | (simp [isUn, c_1, c_6]; done) | (simp [isUn, c_1, c_6]; rfl) | (exfalso; rw [c_11] at c_21; exact absurd c_21 (by decide)) | (simp_all [isUn, b2i]; done))))
    · refine V.ild1 dX7_isUnder_9 (V.iconst_1 dX7_isUnder_10 (V.icmp_ne (tgt := 19) dX7_isUnder_11 (by decide) (fun c_11 => ?_) (fun c_11 => ?_)))
      · refine V.ild1 dX7_isUnder_19 (V.iconst_2 dX7_isUnder_20 (V.icmp_ne (tgt := 33) dX7_isUnder_21 (by decide) (fun c_21 => ?_) (fun c_21 => ?_)))
        · exact V.iconst_0 dX7_isUnder_33 (V.iret dX7_isUnder_34 rfl rfl (by first | (simp [isUn, c_1, c_6, c_11, c_21]; done) | (simp [isUn, c_1, c_6, c_11, c_21]; rfl) | (exfalso; rw [c_11] at c_21; exact absurd c_21 (by decide)) | (simp_all [isUn, b2i]; done)))
        · refine V.ild0 dX7_isUnder_24 (V.iconst_4 dX7_isUnder_25 (V.icmp_ne (tgt := 33) dX7_isUnder_26 (by decide) (fun c_26 => ?_) (fun c_26 => ?_)))
          · exact V.iconst_0 dX7_isUnder_33 (V.iret dX7_isUnder_34 rfl rfl (by first | (simp [isUn, c_1, c_6, c_11, c_21, c_26]; done) | (simp [isUn, c_1, c_6, c_11, c_21, c_26]; rfl) | (exfalso; rw [c_11] at c_21; exact absurd c_21 (by decide)) | (simp_all [isUn, b2i]; done)))
          · exact V.iconst_1 dX7_isUnder_29 (V.goto (tgt := 34) dX7_isUnder_30 (by decide) (V.iret dX7_isUnder_34 rfl rfl (by first | (simp [isUn, c_1, c_6, c_11, c_21, c_26]; done) | (simp [isUn, c_1, c_6, c_11, c_21, c_26]; rfl) | (exfalso; rw [c_11] at c_21; exact absurd c_21 (by decide)) | (simp_all [isUn, b2i]; done))))
      · refine V.ild0 dX7_isUnder_14 (V.iconst_3 dX7_isUnder_15 (V.icmp_eq (tgt := 29) dX7_isUnder_16 (by decide) (fun c_16 => ?_) (fun c_16 => ?_)))
        · exact V.iconst_1 dX7_isUnder_29 (V.goto (tgt := 34) dX7_isUnder_30 (by decide) (V.iret dX7_isUnder_34 rfl rfl (by first | (simp [isUn, c_1, c_6, c_11, c_16]; done) | (simp [isUn, c_1, c_6, c_11, c_16]; rfl) | (exfalso; rw [c_11] at c_21; exact absurd c_21 (by decide)) | (simp_all [isUn, b2i]; done))))
        · refine V.ild1 dX7_isUnder_19 (V.iconst_2 dX7_isUnder_20 (V.icmp_ne (tgt := 33) dX7_isUnder_21 (by decide) (fun c_21 => ?_) (fun c_21 => ?_)))
          · exact V.iconst_0 dX7_isUnder_33 (V.iret dX7_isUnder_34 rfl rfl (by first | (simp [isUn, c_1, c_6, c_11, c_16, c_21]; done) | (simp [isUn, c_1, c_6, c_11, c_16, c_21]; rfl) | (exfalso; rw [c_11] at c_21; exact absurd c_21 (by decide)) | (simp_all [isUn, b2i]; done)))
          · refine V.ild0 dX7_isUnder_24 (V.iconst_4 dX7_isUnder_25 (V.icmp_ne (tgt := 33) dX7_isUnder_26 (by decide) (fun c_26 => ?_) (fun c_26 => ?_)))
            · exact V.iconst_0 dX7_isUnder_33 (V.iret dX7_isUnder_34 rfl rfl (by first | (simp [isUn, c_1, c_6, c_11, c_16, c_21, c_26]; done) | (simp [isUn, c_1, c_6, c_11, c_16, c_21, c_26]; rfl) | (exfalso; rw [c_11] at c_21; exact absurd c_21 (by decide)) | (simp_all [isUn, b2i]; done)))
            · exact V.iconst_1 dX7_isUnder_29 (V.goto (tgt := 34) dX7_isUnder_30 (by decide) (V.iret dX7_isUnder_34 rfl rfl (by first | (simp [isUn, c_1, c_6, c_11, c_16, c_21, c_26]; done) | (simp [isUn, c_1, c_6, c_11, c_16, c_21, c_26]; rfl) | (exfalso; rw [c_11] at c_21; exact absurd c_21 (by decide)) | (simp_all [isUn, b2i]; done))))

theorem in11 {i : Int32} (h : inB i 0 11 = true) : ∃ n, n < 12 ∧ i = nI n := in_n (N := 12) (by decide) (by decide) h
theorem c_X7_taken {E : En} {g : Ge} {σ : Sg} {w : Wv} (hW : WM g σ) {v : Wv} (hA : cv w = cv v) (hI : HI v) {i k : Int32} : Ct E mX7_taken 1 [.ref (g.1 100), .int i, .int k] (.returned (some (.int (takenR v i k))), S g σ w) (S g σ w) := by
  show V E mX7_taken 1 _ 0 [some (.ref (g.1 100)), some (.int i), some (.int k)] [] (S g σ w)
  refine V.ild2 dX7_taken_0 (V.iconst_0 dX7_taken_1 (V.bipush (v := 6) dX7_taken_2 (by decide) (V.invS3r sX7_159 dX7_taken_4 c_X7_in (V.ifb_ne (tgt := 13) dX7_taken_7 (by decide) (fun c_7 => ?_) (fun c_7 => ?_)))))
  · refine V.ild1 dX7_taken_13 (V.iconst_0 dX7_taken_14 (V.bipush (v := 11) dX7_taken_15 (by decide) (V.invS3r sX7_159 dX7_taken_17 c_X7_in (V.ifb_ne (tgt := 26) dX7_taken_20 (by decide) (fun c_20 => ?_) (fun c_20 => ?_)))))
    · obtain ⟨n, hn, rfl⟩ := in11 c_20
      refine V.ild1 dX7_taken_26 (V.bipush (v := 6) dX7_taken_27 (by decide) (V.icmp_ge (tgt := 63) dX7_taken_29 (by decide) (fun c_29 => ?_) (fun c_29 => ?_)))
      · have hn6 : 6 ≤ n := by
          rcases Nat.lt_or_ge n 6 with h | h
          · exact absurd c_29 (nI_ge (b := 6) h (by decide))
          · exact h
        obtain ⟨q, rfl⟩ := Nat.exists_eq_add_of_le hn6
        have e6 : nI (6 + q) - 6 = nI q := by rw [Nat.add_comm, ← nI_add]; exact Int32.add_sub_cancel _ _
        have e7 : cl (nI q) = q := cl_n (by omega)
        refine V.ild1 dX7_taken_63 (V.bipush (v := 6) dX7_taken_64 (by decide) (V.isub dX7_taken_66 (V.ald0 dX7_taken_67 (GX7_156 hW rfl dX7_taken_68 (V.icmp_lt (tgt := 79) dX7_taken_71 (by decide) (fun c_71 => ?_) (fun c_71 => ?_))))))
        · rw [cv_at hA (id := 100) (j := 3)] at c_71
          refine V.ild2 dX7_taken_79 (V.bipush (v := 6) dX7_taken_80 (by decide) (V.icmp_ge (tgt := 108) dX7_taken_82 (by decide) (fun c_82 => ?_) (fun c_82 => ?_)))
          · exact V.bipush (v := (-13)) dX7_taken_108 (by decide) (V.iret dX7_taken_110 rfl rfl (by first | (simp only [takenR, c_7, c_20, c_29, c_71, c_82, if_true, if_false, Bool.false_eq_true, eq_self, and_true, true_and, and_false, false_and, Bool.and_true, Bool.true_and, Bool.and_false, Bool.false_and, Bool.not_true, Bool.not_false, not_true_eq_false, not_false_eq_true, ne_eq, b2i_t, b2i_f]; done) | (unfold takenR; rw [if_pos c_7, if_pos c_20, if_neg c_29, if_pos c_37]; first | (rw [if_pos c_48, e8, cv_at hA (e := rfl)]; done) | (rw [if_neg c_48]; done)) | (unfold takenR; rw [if_pos c_7, if_pos c_20, if_pos c_29, if_pos c_71]; first | (rw [if_pos c_82]; done) | (rw [if_neg c_82, e6, e7]; first | (rw [if_pos c_98]; done) | (rw [if_neg (by rw [c_98]; decide)]; done)))))
          · refine V.ald0 dX7_taken_85 (GX7_19 hW rfl dX7_taken_86 (V.ild1 dX7_taken_89 (V.bipush (v := 6) dX7_taken_90 (by decide) (V.isub dX7_taken_92 ?_))))
            rw [e6]
            refine aM4 hW (by first | exact IX.n ‹_› (by decide) | exact IX.n (by omega) (by decide)) dX7_taken_93 (V.ild2 dX7_taken_94 (V.invS2r sX7_392 dX7_taken_95 c_X7_isUnder ?_))
            rw [cv_at hA (id := 105) (j := q)]
            refine V.ifb_eq (tgt := 108) dX7_taken_98 (by decide) (fun c_98 => ?_) (fun c_98 => ?_)
            · exact V.bipush (v := (-13)) dX7_taken_108 (by decide) (V.iret dX7_taken_110 rfl rfl (by first | (simp only [takenR, c_7, c_20, c_29, c_71, c_82, c_98, if_true, if_false, Bool.false_eq_true, eq_self, and_true, true_and, and_false, false_and, Bool.and_true, Bool.true_and, Bool.and_false, Bool.false_and, Bool.not_true, Bool.not_false, not_true_eq_false, not_false_eq_true, ne_eq, b2i_t, b2i_f]; done) | (unfold takenR; rw [if_pos c_7, if_pos c_20, if_neg c_29, if_pos c_37]; first | (rw [if_pos c_48, e8, cv_at hA (e := rfl)]; done) | (rw [if_neg c_48]; done)) | (unfold takenR; rw [if_pos c_7, if_pos c_20, if_pos c_29, if_pos c_71]; first | (rw [if_pos c_82]; done) | (rw [if_neg c_82, e6, e7]; first | (rw [if_pos c_98]; done) | (rw [if_neg (by rw [c_98]; decide)]; done)))))
            · exact V.ild1 dX7_taken_101 (V.bipush (v := 6) dX7_taken_102 (by decide) (V.isub dX7_taken_104 (V.goto (tgt := 110) dX7_taken_105 (by decide) (V.iret dX7_taken_110 rfl rfl (by first | (simp only [takenR, c_7, c_20, c_29, c_71, c_82, c_98, if_true, if_false, Bool.false_eq_true, eq_self, and_true, true_and, and_false, false_and, Bool.and_true, Bool.true_and, Bool.and_false, Bool.false_and, Bool.not_true, Bool.not_false, not_true_eq_false, not_false_eq_true, ne_eq, b2i_t, b2i_f]; done) | (unfold takenR; rw [if_pos c_7, if_pos c_20, if_neg c_29, if_pos c_37]; first | (rw [if_pos c_48, e8, cv_at hA (e := rfl)]; done) | (rw [if_neg c_48]; done)) | (unfold takenR; rw [if_pos c_7, if_pos c_20, if_pos c_29, if_pos c_71]; first | (rw [if_pos c_82]; done) | (rw [if_neg c_82, e6, e7]; first | (rw [if_pos c_98]; done) | (rw [if_neg (by rw [c_98]; decide)]; done))))))))
        · rw [cv_at hA (id := 100) (j := 3)] at c_71
          exact V.bipush (v := (-11)) dX7_taken_74 (by decide) (V.goto (tgt := 110) dX7_taken_76 (by decide) (V.iret dX7_taken_110 rfl rfl (by first | (simp only [takenR, c_7, c_20, c_29, c_71, if_true, if_false, Bool.false_eq_true, eq_self, and_true, true_and, and_false, false_and, Bool.and_true, Bool.true_and, Bool.and_false, Bool.false_and, Bool.not_true, Bool.not_false, not_true_eq_false, not_false_eq_true, ne_eq, b2i_t, b2i_f]; done) | (unfold takenR; rw [if_pos c_7, if_pos c_20, if_neg c_29, if_pos c_37]; first | (rw [if_pos c_48, e8, cv_at hA (e := rfl)]; done) | (rw [if_neg c_48]; done)) | (unfold takenR; rw [if_pos c_7, if_pos c_20, if_pos c_29, if_pos c_71]; first | (rw [if_pos c_82]; done) | (rw [if_neg c_82, e6, e7]; first | (rw [if_pos c_98]; done) | (rw [if_neg (by rw [c_98]; decide)]; done))))))
      · have hn6 : n < 6 := by
          rcases Nat.lt_or_ge n 6 with h | h
          · exact h
          · exact absurd (show (6 : Int32) ≤ nI n from nI_le (a := 6) h (by omega)) c_29
        refine V.ild1 dX7_taken_32 (V.ald0 dX7_taken_33 (GX7_197 hW rfl dX7_taken_34 (V.icmp_lt (tgt := 45) dX7_taken_37 (by decide) (fun c_37 => ?_) (fun c_37 => ?_))))
        · rw [cv_at hA (id := 100) (j := 10)] at c_37
          refine V.ild2 dX7_taken_45 (V.bipush (v := 6) dX7_taken_46 (by decide) (V.icmp_ne (tgt := 60) dX7_taken_48 (by decide) (fun c_48 => ?_) (fun c_48 => ?_)))
          · exact V.bipush (v := (-13)) dX7_taken_60 (by decide) (V.iret dX7_taken_62 rfl rfl (by first | (simp only [takenR, c_7, c_20, c_29, c_37, c_48, if_true, if_false, Bool.false_eq_true, eq_self, and_true, true_and, and_false, false_and, Bool.and_true, Bool.true_and, Bool.and_false, Bool.false_and, Bool.not_true, Bool.not_false, not_true_eq_false, not_false_eq_true, ne_eq, b2i_t, b2i_f]; done) | (unfold takenR; rw [if_pos c_7, if_pos c_20, if_neg c_29, if_pos c_37]; first | (rw [if_pos c_48, e8, cv_at hA (e := rfl)]; done) | (rw [if_neg c_48]; done)) | (unfold takenR; rw [if_pos c_7, if_pos c_20, if_pos c_29, if_pos c_71]; first | (rw [if_pos c_82]; done) | (rw [if_neg c_82, e6, e7]; first | (rw [if_pos c_98]; done) | (rw [if_neg (by rw [c_98]; decide)]; done)))))
          · refine V.ald0 dX7_taken_51 (GX7_40 hW rfl dX7_taken_52 (V.ild1 dX7_taken_55 ?_))
            have e8 : cl (nI n) = n := cl_n (by omega)
            exact aM12 hW (by first | exact IX.n ‹_› (by decide) | exact IX.n (by omega) (by decide)) dX7_taken_56 (V.goto (tgt := 62) dX7_taken_57 (by decide) (V.iret dX7_taken_62 rfl rfl (by first | (simp only [takenR, c_7, c_20, c_29, c_37, c_48, if_true, if_false, Bool.false_eq_true, eq_self, and_true, true_and, and_false, false_and, Bool.and_true, Bool.true_and, Bool.and_false, Bool.false_and, Bool.not_true, Bool.not_false, not_true_eq_false, not_false_eq_true, ne_eq, b2i_t, b2i_f]; done) | (unfold takenR; rw [if_pos c_7, if_pos c_20, if_neg c_29, if_pos c_37]; first | (rw [if_pos c_48, e8, cv_at hA (e := rfl)]; done) | (rw [if_neg c_48]; done)) | (unfold takenR; rw [if_pos c_7, if_pos c_20, if_pos c_29, if_pos c_71]; first | (rw [if_pos c_82]; done) | (rw [if_neg c_82, e6, e7]; first | (rw [if_pos c_98]; done) | (rw [if_neg (by rw [c_98]; decide)]; done))))))
        · rw [cv_at hA (id := 100) (j := 10)] at c_37
          exact V.bipush (v := (-11)) dX7_taken_40 (by decide) (V.goto (tgt := 62) dX7_taken_42 (by decide) (V.iret dX7_taken_62 rfl rfl (by first | (simp only [takenR, c_7, c_20, c_29, c_37, if_true, if_false, Bool.false_eq_true, eq_self, and_true, true_and, and_false, false_and, Bool.and_true, Bool.true_and, Bool.and_false, Bool.false_and, Bool.not_true, Bool.not_false, not_true_eq_false, not_false_eq_true, ne_eq, b2i_t, b2i_f]; done) | (unfold takenR; rw [if_pos c_7, if_pos c_20, if_neg c_29, if_pos c_37]; first | (rw [if_pos c_48, e8, cv_at hA (e := rfl)]; done) | (rw [if_neg c_48]; done)) | (unfold takenR; rw [if_pos c_7, if_pos c_20, if_pos c_29, if_pos c_71]; first | (rw [if_pos c_82]; done) | (rw [if_neg c_82, e6, e7]; first | (rw [if_pos c_98]; done) | (rw [if_neg (by rw [c_98]; decide)]; done))))))
    · exact V.bipush (v := (-12)) dX7_taken_23 (by decide) (V.iret dX7_taken_25 rfl rfl (by first | (simp only [takenR, c_7, c_20, if_true, if_false, Bool.false_eq_true, eq_self, and_true, true_and, and_false, false_and, Bool.and_true, Bool.true_and, Bool.and_false, Bool.false_and, Bool.not_true, Bool.not_false, not_true_eq_false, not_false_eq_true, ne_eq, b2i_t, b2i_f]; done) | (unfold takenR; rw [if_pos c_7, if_pos c_20, if_neg c_29, if_pos c_37]; first | (rw [if_pos c_48, e8, cv_at hA (e := rfl)]; done) | (rw [if_neg c_48]; done)) | (unfold takenR; rw [if_pos c_7, if_pos c_20, if_pos c_29, if_pos c_71]; first | (rw [if_pos c_82]; done) | (rw [if_neg c_82, e6, e7]; first | (rw [if_pos c_98]; done) | (rw [if_neg (by rw [c_98]; decide)]; done)))))
  · exact V.bipush (v := (-2)) dX7_taken_10 (by decide) (V.iret dX7_taken_12 rfl rfl (by first | (simp only [takenR, c_7, if_true, if_false, Bool.false_eq_true, eq_self, and_true, true_and, and_false, false_and, Bool.and_true, Bool.true_and, Bool.and_false, Bool.false_and, Bool.not_true, Bool.not_false, not_true_eq_false, not_false_eq_true, ne_eq, b2i_t, b2i_f]; done) | (unfold takenR; rw [if_pos c_7, if_pos c_20, if_neg c_29, if_pos c_37]; first | (rw [if_pos c_48, e8, cv_at hA (e := rfl)]; done) | (rw [if_neg c_48]; done)) | (unfold takenR; rw [if_pos c_7, if_pos c_20, if_pos c_29, if_pos c_71]; first | (rw [if_pos c_82]; done) | (rw [if_neg c_82, e6, e7]; first | (rw [if_pos c_98]; done) | (rw [if_neg (by rw [c_98]; decide)]; done)))))

theorem c_X7_sheet {E : En} {g : Ge} {σ : Sg} {w : Wv} (hW : WM g σ) {s t n : Int32} : Ct E mX7_sheet 1 [.ref (g.1 100), .int s, .int t, .int n] (.returned (some (.int (sheetR s t n))), S g σ (sheetW w s t n)) (S g σ w) := by
  show V E mX7_sheet 1 _ 0 [some (.ref (g.1 100)), some (.int s), some (.int t), some (.int n), none] [] (S g σ w)
  refine V.ild1 dX7_sheet_0 (V.iconst_0 dX7_sheet_1 (V.iconst_3 dX7_sheet_2 (V.invS3r sX7_159 dX7_sheet_3 c_X7_in (V.ifb_eq (tgt := 29) dX7_sheet_6 (by decide) (fun c_6 => ?_) (fun c_6 => ?_)))))
  · exact V.bipush (v := (-2)) dX7_sheet_29 (by decide) (V.iret dX7_sheet_31 rfl rfl (by simp [sheetR, sheetW, shtB, c_6]))
  · refine V.ild2 dX7_sheet_9 (V.iconst_m1 dX7_sheet_10 (V.iconst_2 dX7_sheet_11 (V.invS3r sX7_159 dX7_sheet_12 c_X7_in (V.ifb_eq (tgt := 29) dX7_sheet_15 (by decide) (fun c_15 => ?_) (fun c_15 => ?_)))))
    · exact V.bipush (v := (-2)) dX7_sheet_29 (by decide) (V.iret dX7_sheet_31 rfl rfl (by simp [sheetR, sheetW, shtB, c_6, c_15]))
    · refine V.ild2 dX7_sheet_18 (V.iconst_m1 dX7_sheet_19 (V.icmp_eq (tgt := 32) dX7_sheet_20 (by decide) (fun c_20 => ?_) (fun c_20 => ?_)))
      · refine V.ild2 dX7_sheet_32 (V.iconst_m1 dX7_sheet_33 (V.icmp_eq (tgt := 44) dX7_sheet_34 (by decide) (fun c_34 => ?_) (fun c_34 => ?_)))
        · obtain ⟨k, hk4, rfl⟩ := in_n (N := 4) (by decide) (by decide) c_6
          have e1 : cl (nI k) = k := cl_n (by omega)
          have hB : shtB (nI k) t n = true := by unfold shtB; rw [c_6, c_15]; first | (rw [decide_eq_true c_20]; rfl) | (rw [decide_eq_true c_26, Bool.or_true]; rfl)
          have hN : shtN t n = false := by unfold shtN; first | (rw [decide_eq_false (Decidable.not_not.mpr c_34)]; rfl) | (rw [decide_eq_false (Decidable.not_not.mpr c_38), Bool.and_false])
          rw [sheetR, sheetW, if_pos hB, if_pos hB, if_neg (by rw [hN]; decide), if_neg (by rw [hN]; decide), e1]
          have L70 : ∀ (m j : Nat), j + m = 60 → V E mX7_sheet 1 (.returned (some (.int 1)), S g σ (shtV w k t n)) 70 [some (.ref (g.1 100)), some (.int (nI k)), some (.int (t)), some (.int (n)), some (.int (nI j))] [] (S g σ (gA 140 (60 * k) j (fun _ => 0) (up2 (up2 w 138 k t) 139 k (if t = -1 then 0 else n)))) := by
            intro m
            induction m with
            | zero =>
              intro j hk 
              obtain rfl : j = 60 := by omega
              refine V.ild4 dX7_sheet_70 (V.bipush (v := 60) dX7_sheet_72 (by decide) (V.icmp_ge (tgt := 96) dX7_sheet_74 (by decide) (fun c_74 => ?_) (fun c_74 => absurd (by rw [show (60 : Int32) = nI 60 from rfl]; exact nI_le (by omega) (by omega)) c_74)))
              exact V.iconst_1 dX7_sheet_96 (V.iret dX7_sheet_97 rfl rfl (rfl))
            | succ m ih =>
              intro j hk 
              refine V.ild4 dX7_sheet_70 (V.bipush (v := 60) dX7_sheet_72 (by decide) (V.icmp_ge (tgt := 96) dX7_sheet_74 (by decide) (fun c_74 => absurd c_74 (by rw [show (60 : Int32) = nI 60 from rfl]; first | exact nI_ge (by omega) (by omega) | exact fun h9 => absurd ((nI_leI (by omega) (by omega)).mp h9) (by omega))) (fun c_74 => ?_)))
              refine V.ald0 dX7_sheet_77 (GX7_98 hW rfl dX7_sheet_78 (V.bipush (v := 60) dX7_sheet_81 (by decide) (V.ild1 dX7_sheet_83 (V.imul dX7_sheet_84 (V.ild4 dX7_sheet_85 (V.iadd dX7_sheet_87 (V.iconst_0 dX7_sheet_88 (sM39 hW (ix60 hk4 (by omega)) dX7_sheet_89 (V.inc4 dX7_sheet_90 (V.goto (tgt := 70) dX7_sheet_93 (by decide) ?_))))))))))
              rw [nI_1, gA_s rfl]
              exact ih (j + 1) (by omega)
          
          refine V.ald0 dX7_sheet_44 (GX7_92 hW rfl dX7_sheet_45 (V.ild1 dX7_sheet_48 (V.ild2 dX7_sheet_49 (sM37 hW (show IX (nI k) k 4 from IX.n hk4 (by decide)) dX7_sheet_50 (V.ald0 dX7_sheet_51 (GX7_95 hW rfl dX7_sheet_52 (V.ild1 dX7_sheet_55 (V.ild2 dX7_sheet_56 (V.iconst_m1 dX7_sheet_57 (V.icmp_ne (tgt := 65) dX7_sheet_58 (by decide) (fun c_58 => ?_) (fun c_58 => ?_)))))))))))
          · refine V.ild3 dX7_sheet_65 (sM38 hW (show IX (nI k) k 4 from IX.n hk4 (by decide)) dX7_sheet_66 (V.iconst_0 dX7_sheet_67 (V.ist4 dX7_sheet_68 ?_)))
            have h0 := L70 60 0 (by omega)
            rw [gA_0] at h0
            first
              | (rw [if_pos c_58] at h0; exact h0)
              | (rw [if_neg c_58] at h0; exact h0)
          · refine V.iconst_0 dX7_sheet_61 (V.goto (tgt := 66) dX7_sheet_62 (by decide) (sM38 hW (show IX (nI k) k 4 from IX.n hk4 (by decide)) dX7_sheet_66 (V.iconst_0 dX7_sheet_67 (V.ist4 dX7_sheet_68 ?_))))
            have h0 := L70 60 0 (by omega)
            rw [gA_0] at h0
            first
              | (rw [if_pos c_58] at h0; exact h0)
              | (rw [if_neg c_58] at h0; exact h0)
        · refine V.ild3 dX7_sheet_37 (V.if_ge (tgt := 44) dX7_sheet_38 (by decide) (fun c_38 => ?_) (fun c_38 => ?_))
          · obtain ⟨k, hk4, rfl⟩ := in_n (N := 4) (by decide) (by decide) c_6
            have e1 : cl (nI k) = k := cl_n (by omega)
            have hB : shtB (nI k) t n = true := by unfold shtB; rw [c_6, c_15]; first | (rw [decide_eq_true c_20]; rfl) | (rw [decide_eq_true c_26, Bool.or_true]; rfl)
            have hN : shtN t n = false := by unfold shtN; first | (rw [decide_eq_false (Decidable.not_not.mpr c_34)]; rfl) | (rw [decide_eq_false (Decidable.not_not.mpr c_38), Bool.and_false])
            rw [sheetR, sheetW, if_pos hB, if_pos hB, if_neg (by rw [hN]; decide), if_neg (by rw [hN]; decide), e1]
            have L70 : ∀ (m j : Nat), j + m = 60 → V E mX7_sheet 1 (.returned (some (.int 1)), S g σ (shtV w k t n)) 70 [some (.ref (g.1 100)), some (.int (nI k)), some (.int (t)), some (.int (n)), some (.int (nI j))] [] (S g σ (gA 140 (60 * k) j (fun _ => 0) (up2 (up2 w 138 k t) 139 k (if t = -1 then 0 else n)))) := by
              intro m
              induction m with
              | zero =>
                intro j hk 
                obtain rfl : j = 60 := by omega
                refine V.ild4 dX7_sheet_70 (V.bipush (v := 60) dX7_sheet_72 (by decide) (V.icmp_ge (tgt := 96) dX7_sheet_74 (by decide) (fun c_74 => ?_) (fun c_74 => absurd (by rw [show (60 : Int32) = nI 60 from rfl]; exact nI_le (by omega) (by omega)) c_74)))
                exact V.iconst_1 dX7_sheet_96 (V.iret dX7_sheet_97 rfl rfl (rfl))
              | succ m ih =>
                intro j hk 
                refine V.ild4 dX7_sheet_70 (V.bipush (v := 60) dX7_sheet_72 (by decide) (V.icmp_ge (tgt := 96) dX7_sheet_74 (by decide) (fun c_74 => absurd c_74 (by rw [show (60 : Int32) = nI 60 from rfl]; first | exact nI_ge (by omega) (by omega) | exact fun h9 => absurd ((nI_leI (by omega) (by omega)).mp h9) (by omega))) (fun c_74 => ?_)))
                refine V.ald0 dX7_sheet_77 (GX7_98 hW rfl dX7_sheet_78 (V.bipush (v := 60) dX7_sheet_81 (by decide) (V.ild1 dX7_sheet_83 (V.imul dX7_sheet_84 (V.ild4 dX7_sheet_85 (V.iadd dX7_sheet_87 (V.iconst_0 dX7_sheet_88 (sM39 hW (ix60 hk4 (by omega)) dX7_sheet_89 (V.inc4 dX7_sheet_90 (V.goto (tgt := 70) dX7_sheet_93 (by decide) ?_))))))))))
                rw [nI_1, gA_s rfl]
                exact ih (j + 1) (by omega)
            
            refine V.ald0 dX7_sheet_44 (GX7_92 hW rfl dX7_sheet_45 (V.ild1 dX7_sheet_48 (V.ild2 dX7_sheet_49 (sM37 hW (show IX (nI k) k 4 from IX.n hk4 (by decide)) dX7_sheet_50 (V.ald0 dX7_sheet_51 (GX7_95 hW rfl dX7_sheet_52 (V.ild1 dX7_sheet_55 (V.ild2 dX7_sheet_56 (V.iconst_m1 dX7_sheet_57 (V.icmp_ne (tgt := 65) dX7_sheet_58 (by decide) (fun c_58 => ?_) (fun c_58 => ?_)))))))))))
            · refine V.ild3 dX7_sheet_65 (sM38 hW (show IX (nI k) k 4 from IX.n hk4 (by decide)) dX7_sheet_66 (V.iconst_0 dX7_sheet_67 (V.ist4 dX7_sheet_68 ?_)))
              have h0 := L70 60 0 (by omega)
              rw [gA_0] at h0
              first
                | (rw [if_pos c_58] at h0; exact h0)
                | (rw [if_neg c_58] at h0; exact h0)
            · refine V.iconst_0 dX7_sheet_61 (V.goto (tgt := 66) dX7_sheet_62 (by decide) (sM38 hW (show IX (nI k) k 4 from IX.n hk4 (by decide)) dX7_sheet_66 (V.iconst_0 dX7_sheet_67 (V.ist4 dX7_sheet_68 ?_))))
              have h0 := L70 60 0 (by omega)
              rw [gA_0] at h0
              first
                | (rw [if_pos c_58] at h0; exact h0)
                | (rw [if_neg c_58] at h0; exact h0)
          · exact V.bipush (v := (-14)) dX7_sheet_41 (by decide) (V.iret dX7_sheet_43 rfl rfl (by first | exact absurd c_20 c_34 | simp [sheetR, sheetW, shtB, shtN, c_6, c_15, c_20, c_34, c_38]))
      · refine V.ild3 dX7_sheet_23 (V.bipush (v := 60) dX7_sheet_24 (by decide) (V.icmp_le (tgt := 32) dX7_sheet_26 (by decide) (fun c_26 => ?_) (fun c_26 => ?_)))
        · refine V.ild2 dX7_sheet_32 (V.iconst_m1 dX7_sheet_33 (V.icmp_eq (tgt := 44) dX7_sheet_34 (by decide) (fun c_34 => ?_) (fun c_34 => ?_)))
          · obtain ⟨k, hk4, rfl⟩ := in_n (N := 4) (by decide) (by decide) c_6
            have e1 : cl (nI k) = k := cl_n (by omega)
            have hB : shtB (nI k) t n = true := by unfold shtB; rw [c_6, c_15]; first | (rw [decide_eq_true c_20]; rfl) | (rw [decide_eq_true c_26, Bool.or_true]; rfl)
            have hN : shtN t n = false := by unfold shtN; first | (rw [decide_eq_false (Decidable.not_not.mpr c_34)]; rfl) | (rw [decide_eq_false (Decidable.not_not.mpr c_38), Bool.and_false])
            rw [sheetR, sheetW, if_pos hB, if_pos hB, if_neg (by rw [hN]; decide), if_neg (by rw [hN]; decide), e1]
            have L70 : ∀ (m j : Nat), j + m = 60 → V E mX7_sheet 1 (.returned (some (.int 1)), S g σ (shtV w k t n)) 70 [some (.ref (g.1 100)), some (.int (nI k)), some (.int (t)), some (.int (n)), some (.int (nI j))] [] (S g σ (gA 140 (60 * k) j (fun _ => 0) (up2 (up2 w 138 k t) 139 k (if t = -1 then 0 else n)))) := by
              intro m
              induction m with
              | zero =>
                intro j hk 
                obtain rfl : j = 60 := by omega
                refine V.ild4 dX7_sheet_70 (V.bipush (v := 60) dX7_sheet_72 (by decide) (V.icmp_ge (tgt := 96) dX7_sheet_74 (by decide) (fun c_74 => ?_) (fun c_74 => absurd (by rw [show (60 : Int32) = nI 60 from rfl]; exact nI_le (by omega) (by omega)) c_74)))
                exact V.iconst_1 dX7_sheet_96 (V.iret dX7_sheet_97 rfl rfl (rfl))
              | succ m ih =>
                intro j hk 
                refine V.ild4 dX7_sheet_70 (V.bipush (v := 60) dX7_sheet_72 (by decide) (V.icmp_ge (tgt := 96) dX7_sheet_74 (by decide) (fun c_74 => absurd c_74 (by rw [show (60 : Int32) = nI 60 from rfl]; first | exact nI_ge (by omega) (by omega) | exact fun h9 => absurd ((nI_leI (by omega) (by omega)).mp h9) (by omega))) (fun c_74 => ?_)))
                refine V.ald0 dX7_sheet_77 (GX7_98 hW rfl dX7_sheet_78 (V.bipush (v := 60) dX7_sheet_81 (by decide) (V.ild1 dX7_sheet_83 (V.imul dX7_sheet_84 (V.ild4 dX7_sheet_85 (V.iadd dX7_sheet_87 (V.iconst_0 dX7_sheet_88 (sM39 hW (ix60 hk4 (by omega)) dX7_sheet_89 (V.inc4 dX7_sheet_90 (V.goto (tgt := 70) dX7_sheet_93 (by decide) ?_))))))))))
                rw [nI_1, gA_s rfl]
                exact ih (j + 1) (by omega)
            
            refine V.ald0 dX7_sheet_44 (GX7_92 hW rfl dX7_sheet_45 (V.ild1 dX7_sheet_48 (V.ild2 dX7_sheet_49 (sM37 hW (show IX (nI k) k 4 from IX.n hk4 (by decide)) dX7_sheet_50 (V.ald0 dX7_sheet_51 (GX7_95 hW rfl dX7_sheet_52 (V.ild1 dX7_sheet_55 (V.ild2 dX7_sheet_56 (V.iconst_m1 dX7_sheet_57 (V.icmp_ne (tgt := 65) dX7_sheet_58 (by decide) (fun c_58 => ?_) (fun c_58 => ?_)))))))))))
            · refine V.ild3 dX7_sheet_65 (sM38 hW (show IX (nI k) k 4 from IX.n hk4 (by decide)) dX7_sheet_66 (V.iconst_0 dX7_sheet_67 (V.ist4 dX7_sheet_68 ?_)))
              have h0 := L70 60 0 (by omega)
              rw [gA_0] at h0
              first
                | (rw [if_pos c_58] at h0; exact h0)
                | (rw [if_neg c_58] at h0; exact h0)
            · refine V.iconst_0 dX7_sheet_61 (V.goto (tgt := 66) dX7_sheet_62 (by decide) (sM38 hW (show IX (nI k) k 4 from IX.n hk4 (by decide)) dX7_sheet_66 (V.iconst_0 dX7_sheet_67 (V.ist4 dX7_sheet_68 ?_))))
              have h0 := L70 60 0 (by omega)
              rw [gA_0] at h0
              first
                | (rw [if_pos c_58] at h0; exact h0)
                | (rw [if_neg c_58] at h0; exact h0)
          · refine V.ild3 dX7_sheet_37 (V.if_ge (tgt := 44) dX7_sheet_38 (by decide) (fun c_38 => ?_) (fun c_38 => ?_))
            · obtain ⟨k, hk4, rfl⟩ := in_n (N := 4) (by decide) (by decide) c_6
              have e1 : cl (nI k) = k := cl_n (by omega)
              have hB : shtB (nI k) t n = true := by unfold shtB; rw [c_6, c_15]; first | (rw [decide_eq_true c_20]; rfl) | (rw [decide_eq_true c_26, Bool.or_true]; rfl)
              have hN : shtN t n = false := by unfold shtN; first | (rw [decide_eq_false (Decidable.not_not.mpr c_34)]; rfl) | (rw [decide_eq_false (Decidable.not_not.mpr c_38), Bool.and_false])
              rw [sheetR, sheetW, if_pos hB, if_pos hB, if_neg (by rw [hN]; decide), if_neg (by rw [hN]; decide), e1]
              have L70 : ∀ (m j : Nat), j + m = 60 → V E mX7_sheet 1 (.returned (some (.int 1)), S g σ (shtV w k t n)) 70 [some (.ref (g.1 100)), some (.int (nI k)), some (.int (t)), some (.int (n)), some (.int (nI j))] [] (S g σ (gA 140 (60 * k) j (fun _ => 0) (up2 (up2 w 138 k t) 139 k (if t = -1 then 0 else n)))) := by
                intro m
                induction m with
                | zero =>
                  intro j hk 
                  obtain rfl : j = 60 := by omega
                  refine V.ild4 dX7_sheet_70 (V.bipush (v := 60) dX7_sheet_72 (by decide) (V.icmp_ge (tgt := 96) dX7_sheet_74 (by decide) (fun c_74 => ?_) (fun c_74 => absurd (by rw [show (60 : Int32) = nI 60 from rfl]; exact nI_le (by omega) (by omega)) c_74)))
                  exact V.iconst_1 dX7_sheet_96 (V.iret dX7_sheet_97 rfl rfl (rfl))
                | succ m ih =>
                  intro j hk 
                  refine V.ild4 dX7_sheet_70 (V.bipush (v := 60) dX7_sheet_72 (by decide) (V.icmp_ge (tgt := 96) dX7_sheet_74 (by decide) (fun c_74 => absurd c_74 (by rw [show (60 : Int32) = nI 60 from rfl]; first | exact nI_ge (by omega) (by omega) | exact fun h9 => absurd ((nI_leI (by omega) (by omega)).mp h9) (by omega))) (fun c_74 => ?_)))
                  refine V.ald0 dX7_sheet_77 (GX7_98 hW rfl dX7_sheet_78 (V.bipush (v := 60) dX7_sheet_81 (by decide) (V.ild1 dX7_sheet_83 (V.imul dX7_sheet_84 (V.ild4 dX7_sheet_85 (V.iadd dX7_sheet_87 (V.iconst_0 dX7_sheet_88 (sM39 hW (ix60 hk4 (by omega)) dX7_sheet_89 (V.inc4 dX7_sheet_90 (V.goto (tgt := 70) dX7_sheet_93 (by decide) ?_))))))))))
                  rw [nI_1, gA_s rfl]
                  exact ih (j + 1) (by omega)
              
              refine V.ald0 dX7_sheet_44 (GX7_92 hW rfl dX7_sheet_45 (V.ild1 dX7_sheet_48 (V.ild2 dX7_sheet_49 (sM37 hW (show IX (nI k) k 4 from IX.n hk4 (by decide)) dX7_sheet_50 (V.ald0 dX7_sheet_51 (GX7_95 hW rfl dX7_sheet_52 (V.ild1 dX7_sheet_55 (V.ild2 dX7_sheet_56 (V.iconst_m1 dX7_sheet_57 (V.icmp_ne (tgt := 65) dX7_sheet_58 (by decide) (fun c_58 => ?_) (fun c_58 => ?_)))))))))))
              · refine V.ild3 dX7_sheet_65 (sM38 hW (show IX (nI k) k 4 from IX.n hk4 (by decide)) dX7_sheet_66 (V.iconst_0 dX7_sheet_67 (V.ist4 dX7_sheet_68 ?_)))
                have h0 := L70 60 0 (by omega)
                rw [gA_0] at h0
                first
                  | (rw [if_pos c_58] at h0; exact h0)
                  | (rw [if_neg c_58] at h0; exact h0)
              · refine V.iconst_0 dX7_sheet_61 (V.goto (tgt := 66) dX7_sheet_62 (by decide) (sM38 hW (show IX (nI k) k 4 from IX.n hk4 (by decide)) dX7_sheet_66 (V.iconst_0 dX7_sheet_67 (V.ist4 dX7_sheet_68 ?_))))
                have h0 := L70 60 0 (by omega)
                rw [gA_0] at h0
                first
                  | (rw [if_pos c_58] at h0; exact h0)
                  | (rw [if_neg c_58] at h0; exact h0)
            · exact V.bipush (v := (-14)) dX7_sheet_41 (by decide) (V.iret dX7_sheet_43 rfl rfl (by first | exact absurd c_20 c_34 | simp [sheetR, sheetW, shtB, shtN, c_6, c_15, c_20, c_26, c_34, c_38]))
        · exact V.bipush (v := (-2)) dX7_sheet_29 (by decide) (V.iret dX7_sheet_31 rfl rfl (by simp [sheetR, sheetW, shtB, c_6, c_15, c_20, c_26]))

theorem c_X7_cell {E : En} {g : Ge} {σ : Sg} {w : Wv} (hW : WM g σ) {v : Wv} (hA : cv w = cv v) (hI : HI v) (hS : HS v) {s i x : Int32} : Ct E mX7_cell 1 [.ref (g.1 100), .int s, .int i, .int x] (.returned (some (.int (cellR v s i))), S g σ (cellWm w v s i x)) (S g σ w) := by
  show V E mX7_cell 1 _ 0 [some (.ref (g.1 100)), some (.int s), some (.int i), some (.int x)] [] (S g σ w)
  refine V.ild1 dX7_cell_0 (V.iconst_0 dX7_cell_1 (V.iconst_3 dX7_cell_2 (V.invS3r sX7_159 dX7_cell_3 c_X7_in (V.ifb_ne (tgt := 12) dX7_cell_6 (by decide) (fun c_6 => ?_) (fun c_6 => ?_)))))
  · obtain ⟨k, hk4, rfl⟩ := in_n (N := 4) (by decide) (by decide) c_6
    have e1 : cl (nI k) = k := cl_n (by omega)
    refine V.ald0 dX7_cell_12 (GX7_92 hW rfl dX7_cell_13 (V.ild1 dX7_cell_16 (aM37 hW (by first | exact IX.n ‹_› (by decide) | exact IX.n (by omega) (by decide)) dX7_cell_17 (V.iconst_m1 dX7_cell_18 (V.icmp_ne (tgt := 25) dX7_cell_19 (by decide) (fun c_19 => ?_) (fun c_19 => ?_))))))
    · rw [cv_at hA (id := 138) (j := k)] at c_19
      refine V.ild2 dX7_cell_25 (V.iconst_0 dX7_cell_26 (V.ald0 dX7_cell_27 (GX7_95 hW rfl dX7_cell_28 (V.ild1 dX7_cell_31 (aM38 hW (by first | exact IX.n ‹_› (by decide) | exact IX.n (by omega) (by decide)) dX7_cell_32 (V.iconst_1 dX7_cell_33 (V.isub dX7_cell_34 (V.invS3r sX7_159 dX7_cell_35 c_X7_in (V.ifb_ne (tgt := 44) dX7_cell_38 (by decide) (fun c_38 => ?_) (fun c_38 => ?_))))))))))
      · rw [cv_at hA (id := 139) (j := k)] at c_38
        obtain ⟨⟨N, hN, eN⟩, -⟩ := hS k hk4
        have c' := c_38
        rw [eN] at c'
        obtain ⟨j, hj, rfl⟩ := (inB_n (by omega)).mp c'
        have e2 : cl (nI j) = j := cl_n (by omega)
        refine V.ald0 dX7_cell_44 (GX7_98 hW rfl dX7_cell_45 (V.bipush (v := 60) dX7_cell_48 (by decide) (V.ild1 dX7_cell_50 (V.imul dX7_cell_51 (V.ild2 dX7_cell_52 (V.iadd dX7_cell_53 (V.ald0 dX7_cell_54 (GX7_92 hW rfl dX7_cell_55 (V.ild1 dX7_cell_58 (aM37 hW (by first | exact IX.n ‹_› (by decide) | exact IX.n (by omega) (by decide)) dX7_cell_59 (V.if_ne (tgt := 68) dX7_cell_60 (by decide) (fun c_60 => ?_) (fun c_60 => ?_))))))))))))
        · refine V.ald0 dX7_cell_68 (GX7_92 hW rfl dX7_cell_69 (V.ild1 dX7_cell_72 (aM37 hW (by first | exact IX.n ‹_› (by decide) | exact IX.n (by omega) (by decide)) dX7_cell_73 (V.iconst_1 dX7_cell_74 (V.icmp_ne (tgt := 83) dX7_cell_75 (by decide) (fun c_75 => ?_) (fun c_75 => ?_))))))
          · exact V.ild3 dX7_cell_83 (sM39 hW (ix60 hk4 (by omega)) dX7_cell_84 (V.iconst_1 dX7_cell_85 (V.iret dX7_cell_86 rfl rfl (by unfold cellR cellWm celV; rw [if_pos c_6, if_pos c_6, e1, if_neg c_19, if_neg c_19, if_pos c_38, if_pos c_38, e2]; first | (rw [cv_at hA (id := 138) (j := k)] at c_60; rw [if_pos c_60]; done) | (rw [cv_at hA (id := 138) (j := k)] at c_60 c_75; rw [if_neg c_60, if_pos c_75]; done) | (rw [cv_at hA (id := 138) (j := k)] at c_60 c_75; rw [if_neg c_60, if_neg c_75]; done)))))
          · exact V.ild3 dX7_cell_78 (V.i2s dX7_cell_79 (V.goto (tgt := 84) dX7_cell_80 (by decide) (sM39 hW (ix60 hk4 (by omega)) dX7_cell_84 (V.iconst_1 dX7_cell_85 (V.iret dX7_cell_86 rfl rfl (by unfold cellR cellWm celV; rw [if_pos c_6, if_pos c_6, e1, if_neg c_19, if_neg c_19, if_pos c_38, if_pos c_38, e2]; first | (rw [cv_at hA (id := 138) (j := k)] at c_60; rw [if_pos c_60]; done) | (rw [cv_at hA (id := 138) (j := k)] at c_60 c_75; rw [if_neg c_60, if_pos c_75]; done) | (rw [cv_at hA (id := 138) (j := k)] at c_60 c_75; rw [if_neg c_60, if_neg c_75]; done)))))))
        · exact V.ild3 dX7_cell_63 (V.i2b dX7_cell_64 (V.goto (tgt := 84) dX7_cell_65 (by decide) (sM39 hW (ix60 hk4 (by omega)) dX7_cell_84 (V.iconst_1 dX7_cell_85 (V.iret dX7_cell_86 rfl rfl (by unfold cellR cellWm celV; rw [if_pos c_6, if_pos c_6, e1, if_neg c_19, if_neg c_19, if_pos c_38, if_pos c_38, e2]; first | (rw [cv_at hA (id := 138) (j := k)] at c_60; rw [if_pos c_60]; done) | (rw [cv_at hA (id := 138) (j := k)] at c_60 c_75; rw [if_neg c_60, if_pos c_75]; done) | (rw [cv_at hA (id := 138) (j := k)] at c_60 c_75; rw [if_neg c_60, if_neg c_75]; done)))))))
      · rw [cv_at hA (id := 139) (j := k)] at c_38
        exact V.bipush (v := (-12)) dX7_cell_41 (by decide) (V.iret dX7_cell_43 rfl rfl (by unfold cellR cellWm; rw [if_pos c_6, if_pos c_6, e1, if_neg c_19, if_neg c_19, if_neg (by rw [c_38]; decide), if_neg (by rw [c_38]; decide)]))
    · rw [cv_at hA (id := 138) (j := k)] at c_19
      exact V.bipush (v := (-11)) dX7_cell_22 (by decide) (V.iret dX7_cell_24 rfl rfl (by unfold cellR cellWm; rw [if_pos c_6, if_pos c_6, e1, if_pos c_19, if_pos c_19]))
  · exact V.bipush (v := (-2)) dX7_cell_9 (by decide) (V.iret dX7_cell_11 rfl rfl (by simp only [cellR, cellWm, c_6, if_true, if_false, Bool.false_eq_true, eq_self, and_true, true_and, and_false, false_and, Bool.and_true, Bool.true_and, Bool.and_false, Bool.false_and, Bool.not_true, Bool.not_false, not_true_eq_false, not_false_eq_true, ne_eq, b2i_t, b2i_f]))

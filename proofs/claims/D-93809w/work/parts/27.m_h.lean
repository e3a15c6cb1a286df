set_option maxRecDepth 100000
set_option maxHeartbeats 1000000
theorem dn_0 : nI 0 + (-1) = -1 := by decide
theorem dn_s {k : Nat} : nI (k + 1) + (-1) = nI k := by rw [← nI_1, Int32.add_assoc, show (1 : Int32) + -1 = 0 from by decide, Int32.add_zero]
theorem dn_lt {k : Nat} (h : k < 2 ^ 31) : ¬ nI k < 0 := nI_nlt (b := 0) (by omega) h
theorem dn_st {k : Nat} : nI k - 1 = nI k + (-1) := Int32.sub_eq_add_neg _ _
theorem e_X7_allSee {E : En} {g : Ge} {σ : Sg} {w v : Wv} (hW : WM g σ) (hA : cv w = cv v) (hI : HI v) {r : Nat} (hr : r < 6) : Ct E mX7_allSee 6 [.ref (g.1 100), .int (nI r)] (.returned (some (.int (b2i (aSee v r)))), S g σ w) (S g σ w) := by
  rw [← cg aSee aSee_cv (show cv (cu w) = cv v by rw [cv_cu, hA])]
  exact c_X7_allSee hW rfl (HI.cg (by rw [cv_cu, hA]) hI) hr
theorem e_X7_allWorth {E : En} {g : Ge} {σ : Sg} {w v : Wv} (hW : WM g σ) (hA : cv w = cv v) (hI : HI v) (hT : HT v) : CtE E mX7_allWorth 6 [.ref (g.1 100)] (PR (.int (allS v)) (QM g σ (cu w))) (S g σ w) := by
  rw [← cg allS allS_cv (show cv (cu w) = cv v by rw [cv_cu, hA])]
  exact c_X7_allWorth hW rfl (HI.cg (by rw [cv_cu, hA]) hI) (HT.cg (by rw [cv_cu, hA]) hT)
theorem e_X7_cost {E : En} {g : Ge} {σ : Sg} {w v : Wv} (hW : WM g σ) (hA : cv w = cv v) (hI : HI v) (hT : HT v) : CtE E mX7_cost 2 [.ref (g.1 100)] (PR (.int (cosS v)) (QM g σ (cu w))) (S g σ w) := by
  rw [← cg cosS cosS_cv (show cv (cu w) = cv v by rw [cv_cu, hA])]
  exact c_X7_cost hW rfl (HI.cg (by rw [cv_cu, hA]) hI) (HT.cg (by rw [cv_cu, hA]) hT)
theorem e_X7_isRow {E : En} {g : Ge} {σ : Sg} {w v : Wv} (hW : WM g σ) (hA : cv w = cv v) {r : Int32} : Ct E mX7_isRow 1 [.ref (g.1 100), .int r] (.returned (some (.int (b2i (inB r 0 (v 100 3 - 1))))), S g σ w) (S g σ w) := by
  rw [← cv_at hA]
  exact c_X7_isRow hW
theorem e_X7_isSeat {E : En} {g : Ge} {σ : Sg} {w v : Wv} (hW : WM g σ) (hA : cv w = cv v) (hI : HI v) {r c : Int32} : Ct E mX7_isSeat 2 [.ref (g.1 100), .int r, .int c] (.returned (some (.int (b2i (seB v r c)))), S g σ w) (S g σ w) := by
  rw [← cg seB (fun _ => rfl) hA]
  exact c_X7_isSeat hW (HI.cg hA.symm hI)
theorem c_X7_keepsRises {E : En} {g : Ge} {σ : Sg} {w : Wv} (hW : WM g σ)  : Ct E mX7_keepsRises 0 [.ref (g.1 100)] (.returned none, S g σ (fA 152 6 (w 108) w)) (S g σ w) := by
  show V E mX7_keepsRises 0 _ 0 [some (.ref (g.1 100)), none] [] (S g σ w)
  have L2 : ∀ (m k : Nat), k + m = 6 → V E mX7_keepsRises 0 (.returned none, S g σ (fA 152 6 (w 108) w)) 2 [some (.ref (g.1 100)), some (.int (nI k))] [] (S g σ (fA 152 k (w 108) w)) := by
    intro m
    induction m with
    | zero =>
      intro k hk 
      obtain rfl : k = 6 := by omega
      refine V.ild1 dX7_keepsRises_2 (V.bipush (v := 6) dX7_keepsRises_3 (by decide) (V.icmp_ge (tgt := 26) dX7_keepsRises_5 (by decide) (fun c_5 => ?_) (fun c_5 => absurd (by rw [show (6 : Int32) = nI 6 from rfl]; exact nI_le (by omega) (by omega)) c_5)))
      exact V.vret dX7_keepsRises_26 rfl (rfl)
    | succ m ih =>
      intro k hk 
      refine V.ild1 dX7_keepsRises_2 (V.bipush (v := 6) dX7_keepsRises_3 (by decide) (V.icmp_ge (tgt := 26) dX7_keepsRises_5 (by decide) (fun c_5 => absurd c_5 (by rw [show (6 : Int32) = nI 6 from rfl]; first | exact nI_ge (by omega) (by omega) | exact fun h9 => absurd ((nI_leI (by omega) (by omega)).mp h9) (by omega))) (fun c_5 => ?_)))
      refine V.ald0 dX7_keepsRises_8 (GX7_138 hW rfl dX7_keepsRises_9 (V.ild1 dX7_keepsRises_12 (V.ald0 dX7_keepsRises_13 (GX7_28 hW rfl dX7_keepsRises_14 (V.ild1 dX7_keepsRises_17 (aM7 hW (by first | exact IX.n ‹_› (by decide) | exact IX.n (by omega) (by decide)) dX7_keepsRises_18 (sM51 hW (by first | exact IX.n ‹_› (by decide) | exact IX.n (by omega) (by decide)) dX7_keepsRises_19 (V.inc1 dX7_keepsRises_20 (V.goto (tgt := 2) dX7_keepsRises_23 (by decide) ?_)))))))))
      rw [nI_1]
      rw [fA_s (fA_ne (by decide))]
      exact ih (k + 1) (by omega)
  refine V.iconst_0 dX7_keepsRises_0 (V.ist1 dX7_keepsRises_1 ?_)
  have h0 := L2 6 0 (by omega)
  rw [fA_0] at h0
  exact h0

theorem c_X7_laysRises {E : En} {g : Ge} {σ : Sg} {w : Wv} (hW : WM g σ)  : Ct E mX7_laysRises 0 [.ref (g.1 100)] (.returned none, S g σ (fA 108 6 (w 152) w)) (S g σ w) := by
  show V E mX7_laysRises 0 _ 0 [some (.ref (g.1 100)), none] [] (S g σ w)
  have L2 : ∀ (m k : Nat), k + m = 6 → V E mX7_laysRises 0 (.returned none, S g σ (fA 108 6 (w 152) w)) 2 [some (.ref (g.1 100)), some (.int (nI k))] [] (S g σ (fA 108 k (w 152) w)) := by
    intro m
    induction m with
    | zero =>
      intro k hk 
      obtain rfl : k = 6 := by omega
      refine V.ild1 dX7_laysRises_2 (V.bipush (v := 6) dX7_laysRises_3 (by decide) (V.icmp_ge (tgt := 26) dX7_laysRises_5 (by decide) (fun c_5 => ?_) (fun c_5 => absurd (by rw [show (6 : Int32) = nI 6 from rfl]; exact nI_le (by omega) (by omega)) c_5)))
      exact V.vret dX7_laysRises_26 rfl (rfl)
    | succ m ih =>
      intro k hk 
      refine V.ild1 dX7_laysRises_2 (V.bipush (v := 6) dX7_laysRises_3 (by decide) (V.icmp_ge (tgt := 26) dX7_laysRises_5 (by decide) (fun c_5 => absurd c_5 (by rw [show (6 : Int32) = nI 6 from rfl]; first | exact nI_ge (by omega) (by omega) | exact fun h9 => absurd ((nI_leI (by omega) (by omega)).mp h9) (by omega))) (fun c_5 => ?_)))
      refine V.ald0 dX7_laysRises_8 (GX7_28 hW rfl dX7_laysRises_9 (V.ild1 dX7_laysRises_12 (V.ald0 dX7_laysRises_13 (GX7_138 hW rfl dX7_laysRises_14 (V.ild1 dX7_laysRises_17 (aM51 hW (by first | exact IX.n ‹_› (by decide) | exact IX.n (by omega) (by decide)) dX7_laysRises_18 (sM7 hW (by first | exact IX.n ‹_› (by decide) | exact IX.n (by omega) (by decide)) dX7_laysRises_19 (V.inc1 dX7_laysRises_20 (V.goto (tgt := 2) dX7_laysRises_23 (by decide) ?_)))))))))
      rw [nI_1]
      rw [fA_s (fA_ne (by decide))]
      exact ih (k + 1) (by omega)
  refine V.iconst_0 dX7_laysRises_0 (V.ist1 dX7_laysRises_1 ?_)
  have h0 := L2 6 0 (by omega)
  rw [fA_0] at h0
  exact h0

theorem c_X7_keepsSorts {E : En} {g : Ge} {σ : Sg} {w : Wv} (hW : WM g σ)  : Ct E mX7_keepsSorts 0 [.ref (g.1 100)] (.returned none, S g σ (fA 155 48 (w 110) w)) (S g σ w) := by
  show V E mX7_keepsSorts 0 _ 0 [some (.ref (g.1 100)), none] [] (S g σ w)
  have L2 : ∀ (m k : Nat), k + m = 48 → V E mX7_keepsSorts 0 (.returned none, S g σ (fA 155 48 (w 110) w)) 2 [some (.ref (g.1 100)), some (.int (nI k))] [] (S g σ (fA 155 k (w 110) w)) := by
    intro m
    induction m with
    | zero =>
      intro k hk 
      obtain rfl : k = 48 := by omega
      refine V.ild1 dX7_keepsSorts_2 (V.bipush (v := 48) dX7_keepsSorts_3 (by decide) (V.icmp_ge (tgt := 26) dX7_keepsSorts_5 (by decide) (fun c_5 => ?_) (fun c_5 => absurd (by rw [show (48 : Int32) = nI 48 from rfl]; exact nI_le (by omega) (by omega)) c_5)))
      exact V.vret dX7_keepsSorts_26 rfl (rfl)
    | succ m ih =>
      intro k hk 
      refine V.ild1 dX7_keepsSorts_2 (V.bipush (v := 48) dX7_keepsSorts_3 (by decide) (V.icmp_ge (tgt := 26) dX7_keepsSorts_5 (by decide) (fun c_5 => absurd c_5 (by rw [show (48 : Int32) = nI 48 from rfl]; first | exact nI_ge (by omega) (by omega) | exact fun h9 => absurd ((nI_leI (by omega) (by omega)).mp h9) (by omega))) (fun c_5 => ?_)))
      refine V.ald0 dX7_keepsSorts_8 (GX7_141 hW rfl dX7_keepsSorts_9 (V.ild1 dX7_keepsSorts_12 (V.ald0 dX7_keepsSorts_13 (GX7_34 hW rfl dX7_keepsSorts_14 (V.ild1 dX7_keepsSorts_17 (aM9 hW (by first | exact IX.n ‹_› (by decide) | exact IX.n (by omega) (by decide)) dX7_keepsSorts_18 (sM54 hW (by first | exact IX.n ‹_› (by decide) | exact IX.n (by omega) (by decide)) dX7_keepsSorts_19 (V.inc1 dX7_keepsSorts_20 (V.goto (tgt := 2) dX7_keepsSorts_23 (by decide) ?_)))))))))
      rw [nI_1]
      rw [fA_s (fA_ne (by decide))]
      exact ih (k + 1) (by omega)
  refine V.iconst_0 dX7_keepsSorts_0 (V.ist1 dX7_keepsSorts_1 ?_)
  have h0 := L2 48 0 (by omega)
  rw [fA_0] at h0
  exact h0

theorem c_X7_laysSorts {E : En} {g : Ge} {σ : Sg} {w : Wv} (hW : WM g σ)  : Ct E mX7_laysSorts 0 [.ref (g.1 100)] (.returned none, S g σ (fA 110 48 (w 155) w)) (S g σ w) := by
  show V E mX7_laysSorts 0 _ 0 [some (.ref (g.1 100)), none] [] (S g σ w)
  have L2 : ∀ (m k : Nat), k + m = 48 → V E mX7_laysSorts 0 (.returned none, S g σ (fA 110 48 (w 155) w)) 2 [some (.ref (g.1 100)), some (.int (nI k))] [] (S g σ (fA 110 k (w 155) w)) := by
    intro m
    induction m with
    | zero =>
      intro k hk 
      obtain rfl : k = 48 := by omega
      refine V.ild1 dX7_laysSorts_2 (V.bipush (v := 48) dX7_laysSorts_3 (by decide) (V.icmp_ge (tgt := 26) dX7_laysSorts_5 (by decide) (fun c_5 => ?_) (fun c_5 => absurd (by rw [show (48 : Int32) = nI 48 from rfl]; exact nI_le (by omega) (by omega)) c_5)))
      exact V.vret dX7_laysSorts_26 rfl (rfl)
    | succ m ih =>
      intro k hk 
      refine V.ild1 dX7_laysSorts_2 (V.bipush (v := 48) dX7_laysSorts_3 (by decide) (V.icmp_ge (tgt := 26) dX7_laysSorts_5 (by decide) (fun c_5 => absurd c_5 (by rw [show (48 : Int32) = nI 48 from rfl]; first | exact nI_ge (by omega) (by omega) | exact fun h9 => absurd ((nI_leI (by omega) (by omega)).mp h9) (by omega))) (fun c_5 => ?_)))
      refine V.ald0 dX7_laysSorts_8 (GX7_34 hW rfl dX7_laysSorts_9 (V.ild1 dX7_laysSorts_12 (V.ald0 dX7_laysSorts_13 (GX7_141 hW rfl dX7_laysSorts_14 (V.ild1 dX7_laysSorts_17 (aM54 hW (by first | exact IX.n ‹_› (by decide) | exact IX.n (by omega) (by decide)) dX7_laysSorts_18 (sM9 hW (by first | exact IX.n ‹_› (by decide) | exact IX.n (by omega) (by decide)) dX7_laysSorts_19 (V.inc1 dX7_laysSorts_20 (V.goto (tgt := 2) dX7_laysSorts_23 (by decide) ?_)))))))))
      rw [nI_1]
      rw [fA_s (fA_ne (by decide))]
      exact ih (k + 1) (by omega)
  refine V.iconst_0 dX7_laysSorts_0 (V.ist1 dX7_laysSorts_1 ?_)
  have h0 := L2 48 0 (by omega)
  rw [fA_0] at h0
  exact h0

set_option maxRecDepth 100000
set_option maxHeartbeats 1000000
def sitL (s : Nat) (r : Int32) : Nat → Nat → Int32 → Wv → Int32 × Wv
  | _, 0, came, v => (came, v)
  | c, m + 1, came, v => if nI c < v 139 s then sitL s r (c + 1) m (came + b2i (decide (¬ sitR v r (nI c) (v 140 (60 * s + c)) < 0))) (sitW v r (nI c) (v 140 (60 * s + c))) else (-12, v)
def sitsOk (s t n : Int32) : Bool := inB s 0 3 && inB t 0 2 && inB n 0 8
def sittersR (v : Wv) (s t r n : Int32) : Int32 := if sitsOk s t n then (if v 138 (cl s) = -1 then -11 else if v 138 (cl s) = t then (sitL (cl s) r 0 (cl n) 0 v).1 else -13) else -2
def sittersW (v : Wv) (s t r n : Int32) : Wv := if sitsOk s t n then (if v 138 (cl s) = -1 then v else if v 138 (cl s) = t then (sitL (cl s) r 0 (cl n) 0 v).2 else v) else v
theorem sitW_cv {w v : Wv} (h : cv w = cv v) {r c k : Int32} : cv (sitW w r c k) = cv (sitW v r c k) := by
  unfold sitW
  rw [cg seB (fun _ => rfl) h]
  split
  · split
    · exact cv_up h
    · exact h
  · exact h
theorem HI.sW {v : Wv} (hI : HI v) {r c k : Int32} : HI (sitW v r c k) := by
  unfold sitW
  split
  · split
    · rename_i h
      obtain ⟨q, hq, rfl⟩ := in_n (N := 4) (by decide) (by decide) h
      refine ⟨hI.1, hI.2.1, hI.2.2.1, fun r hr => ?_, fun i hi => ?_⟩
      · rw [up2_ne _ _ (fun z => absurd z.1 (by decide))]; exact hI.2.2.2.1 r hr
      · by_cases h2 : i = 8 * cl r + cl c
        · rw [h2, up2_eq]; exact ⟨q, hq, rfl⟩
        · rw [up2_ne _ _ (fun z => h2 z.2)]; exact hI.2.2.2.2 i hi
    · exact hI
  · exact hI
theorem sitW_ne {v : Wv} {r c k : Int32} {id j : Nat} (h : id ≠ 110) : sitW v r c k id j = v id j := by
  unfold sitW
  split
  · split
    · exact up2_ne _ _ (fun z => h z.1)
    · rfl
  · rfl
theorem HS.of {u v : Wv} (h : HS u) (e1 : v 138 = u 138) (e2 : v 139 = u 139) : HS v := by
  unfold HS at h ⊢; rw [e1, e2]; exact h
theorem e_X7_sit {E : En} {g : Ge} {σ : Sg} {w v : Wv} (hW : WM g σ) (hA : cv w = cv v) (hI : HI v) {r c k : Int32} : Ct E mX7_sit 3 [.ref (g.1 100), .int r, .int c, .int k] (.returned (some (.int (sitR v r c k))), S g σ (sitW w r c k)) (S g σ w) := by
  rw [← cg sitR (fun _ => rfl) hA]
  exact c_X7_sit hW (HI.cg hA.symm hI)
theorem c_X7_sitters {E : En} {g : Ge} {σ : Sg} {w : Wv} (hW : WM g σ) {v : Wv} (hA : cv w = cv v) (hI : HI v) (hS : HS v) {s t r n : Int32} : CtE E mX7_sitters 4 [.ref (g.1 100), .int s, .int t, .int r, .int n] (PR (.int (sittersR v s t r n)) (QV g σ (sittersW v s t r n))) (S g σ w) := by
  show VE E mX7_sitters 4 _ 0 [some (.ref (g.1 100)), some (.int s), some (.int t), some (.int r), some (.int n), none, none] [] (S g σ w)
  refine VE.step (fun _ h => V.ild1 dX7_sitters_0 (V.iconst_0 dX7_sitters_1 (V.iconst_3 dX7_sitters_2 (V.invS3r sX7_159 dX7_sitters_3 c_X7_in h)))) ?_
  refine VE.ifb_eq (tgt := 29) dX7_sitters_6 (by decide) (fun c_6 => ?_) (fun c_6 => ?_)
  · refine VE.step (fun _ h => V.bipush (v := (-2)) dX7_sitters_29 (by decide) h) ?_
    exact VE.iret dX7_sitters_31 rfl rfl (⟨by simp only [sittersR, sitsOk, c_6, if_true, if_false, Bool.false_eq_true, eq_self, and_true, true_and, and_false, false_and, Bool.and_true, Bool.true_and, Bool.and_false, Bool.false_and, Bool.not_true, Bool.not_false, not_true_eq_false, not_false_eq_true, ne_eq, b2i_t, b2i_f], _, by simp only [sittersW, sitsOk, c_6, if_true, if_false, Bool.false_eq_true, eq_self, and_true, true_and, and_false, false_and, Bool.and_true, Bool.true_and, Bool.and_false, Bool.false_and, Bool.not_true, Bool.not_false, not_true_eq_false, not_false_eq_true, ne_eq, b2i_t, b2i_f]; exact hA, rfl⟩)
  · refine VE.step (fun _ h => V.ild2 dX7_sitters_9 (V.iconst_0 dX7_sitters_10 (V.iconst_2 dX7_sitters_11 (V.invS3r sX7_159 dX7_sitters_12 c_X7_in h)))) ?_
    refine VE.ifb_eq (tgt := 29) dX7_sitters_15 (by decide) (fun c_15 => ?_) (fun c_15 => ?_)
    · refine VE.step (fun _ h => V.bipush (v := (-2)) dX7_sitters_29 (by decide) h) ?_
      exact VE.iret dX7_sitters_31 rfl rfl (⟨by simp only [sittersR, sitsOk, c_6, c_15, if_true, if_false, Bool.false_eq_true, eq_self, and_true, true_and, and_false, false_and, Bool.and_true, Bool.true_and, Bool.and_false, Bool.false_and, Bool.not_true, Bool.not_false, not_true_eq_false, not_false_eq_true, ne_eq, b2i_t, b2i_f], _, by simp only [sittersW, sitsOk, c_6, c_15, if_true, if_false, Bool.false_eq_true, eq_self, and_true, true_and, and_false, false_and, Bool.and_true, Bool.true_and, Bool.and_false, Bool.false_and, Bool.not_true, Bool.not_false, not_true_eq_false, not_false_eq_true, ne_eq, b2i_t, b2i_f]; exact hA, rfl⟩)
    · refine VE.step (fun _ h => V.ild4 dX7_sitters_18 (V.iconst_0 dX7_sitters_20 (V.bipush (v := 8) dX7_sitters_21 (by decide) (V.invS3r sX7_159 dX7_sitters_23 c_X7_in h)))) ?_
      refine VE.ifb_ne (tgt := 32) dX7_sitters_26 (by decide) (fun c_26 => ?_) (fun c_26 => ?_)
      · have hok : sitsOk s t n = true := by unfold sitsOk; rw [c_6, c_15, c_26]; rfl
        obtain ⟨s, hs4, rfl⟩ := in_n (N := 4) (by decide) (by decide) c_6
        obtain ⟨n, hn9, rfl⟩ := in_n (N := 9) (by decide) (by decide) c_26
        have e1 : cl (nI s) = s := cl_n (by omega)
        have e2 : cl (nI n) = n := cl_n (by omega)
        refine VE.step (fun _ h => V.ald0 dX7_sitters_32 (GX7_92 hW rfl dX7_sitters_33 (V.ild1 dX7_sitters_36 (aM37 hW (by first | exact IX.n ‹_› (by decide) | exact IX.n (by omega) (by decide)) dX7_sitters_37 (V.iconst_m1 dX7_sitters_38 h))))) ?_
        refine VE.icmp_ne (tgt := 45) dX7_sitters_39 (by decide) (fun c_39 => ?_) (fun c_39 => ?_)
        · rw [cv_at hA (e := rfl)] at c_39
          refine VE.step (fun _ h => V.ald0 dX7_sitters_45 (GX7_92 hW rfl dX7_sitters_46 (V.ild1 dX7_sitters_49 (aM37 hW (by first | exact IX.n ‹_› (by decide) | exact IX.n (by omega) (by decide)) dX7_sitters_50 (V.ild2 dX7_sitters_51 h))))) ?_
          refine VE.icmp_eq (tgt := 58) dX7_sitters_52 (by decide) (fun c_52 => ?_) (fun c_52 => ?_)
          · rw [cv_at hA (e := rfl)] at c_52
            have hR : sittersR v (nI s) t r (nI n) = (sitL s r 0 n 0 v).1 := by rw [sittersR, if_pos hok, e1, if_neg c_39, if_pos c_52, e2]
            have hWd : sittersW v (nI s) t r (nI n) = (sitL s r 0 n 0 v).2 := by rw [sittersW, if_pos hok, e1, if_neg c_39, if_pos c_52, e2]
            have L64 : ∀ (m c : Nat) (came : Int32) (w' v' : Wv), c + m = n → cv w' = cv v' → HI v' → sitL s r c m came v' = sitL s r 0 n 0 v → VE E mX7_sitters 4 (PR (.int (sittersR v (nI s) t r (nI n))) (QV g σ (sittersW v (nI s) t r (nI n)))) 64 [some (.ref (g.1 100)), some (.int (nI s)), some (.int (t)), some (.int (r)), some (.int (nI n)), some (.int (came)), some (.int (nI c))] [] (S g σ w') := by
              intro m
              induction m with
              | zero =>
                intro c came w' v' hk hw hI' hs
                refine VE.step (fun _ h => V.ild6 dX7_sitters_64 (V.ild4 dX7_sitters_66 h)) ?_
                refine VE.icmp_ge (tgt := 123) dX7_sitters_68 (by decide) (fun c_68 => ?_) (fun c_68 => absurd (by exact nI_le (by omega) (by omega)) c_68)
                refine VE.step (fun _ h => V.ild5 dX7_sitters_123 h) ?_
                exact VE.iret dX7_sitters_125 rfl rfl (⟨by rw [hR, ← hs]; rfl, _, by rw [hWd, ← hs]; exact hw, rfl⟩)
              | succ m ih =>
                intro c came w' v' hk hw hI' hs
                refine VE.step (fun _ h => V.ild6 dX7_sitters_64 (V.ild4 dX7_sitters_66 h)) ?_
                refine VE.icmp_ge (tgt := 123) dX7_sitters_68 (by decide) (fun c_68 => absurd c_68 (by first | exact nI_ge (by omega) (by omega) | exact fun h9 => absurd ((nI_leI (by omega) (by omega)).mp h9) (by omega))) (fun c_68 => ?_)
                refine VE.step (fun _ h => V.ild6 dX7_sitters_71 (V.ald0 dX7_sitters_73 (GX7_95 hW rfl dX7_sitters_74 (V.ild1 dX7_sitters_77 (aM38 hW (by first | exact IX.n ‹_› (by decide) | exact IX.n (by omega) (by decide)) dX7_sitters_78 h))))) ?_
                refine VE.icmp_lt (tgt := 85) dX7_sitters_79 (by decide) (fun c_79 => ?_) (fun c_79 => ?_)
                · rw [cv_at hw (e := rfl)] at c_79
                  rw [sitL, if_pos c_79] at hs
                  refine VE.step (fun _ h => V.ild5 dX7_sitters_85 (V.ald0 dX7_sitters_87 (V.ild3 dX7_sitters_88 (V.ild6 dX7_sitters_89 (V.ald0 dX7_sitters_91 (GX7_98 hW rfl dX7_sitters_92 (V.bipush (v := 60) dX7_sitters_95 (by decide) (V.ild1 dX7_sitters_97 (V.imul dX7_sitters_98 (V.ild6 dX7_sitters_99 (V.iadd dX7_sitters_101 (aM39 hW (ix60 hs4 (by omega)) dX7_sitters_102 h)))))))))))) ?_
                  rw [cv_at hw (id := 140) (j := 60 * s + c)]
                  refine VE.step (fun _ h => V.invV3r vX7_389 hW.2.2.1 dX7_sitters_103 (e_X7_sit hW hw hI') h) ?_
                  refine VE.if_lt (tgt := 113) dX7_sitters_106 (by decide) (fun c_106 => ?_) (fun c_106 => ?_)
                  · refine VE.step (fun _ h => V.iconst_0 dX7_sitters_113 (V.iadd dX7_sitters_114 (V.ist5 dX7_sitters_115 (V.inc6 dX7_sitters_117 (V.goto (tgt := 64) dX7_sitters_120 (by decide) h))))) ?_
                    rw [nI_1]
                    first
                      | exact ih (c + 1) _ _ _ (by omega) (sitW_cv hw) hI'.sW (by rw [← hs, decide_eq_false (Decidable.not_not.mpr c_106)]; rfl)
                      | exact ih (c + 1) _ _ _ (by omega) (sitW_cv hw) hI'.sW (by rw [← hs, decide_eq_true c_106]; rfl)
                  · refine VE.step (fun _ h => V.iconst_1 dX7_sitters_109 (V.goto (tgt := 114) dX7_sitters_110 (by decide) (V.iadd dX7_sitters_114 (V.ist5 dX7_sitters_115 (V.inc6 dX7_sitters_117 (V.goto (tgt := 64) dX7_sitters_120 (by decide) h)))))) ?_
                    rw [nI_1]
                    first
                      | exact ih (c + 1) _ _ _ (by omega) (sitW_cv hw) hI'.sW (by rw [← hs, decide_eq_false (Decidable.not_not.mpr c_106)]; rfl)
                      | exact ih (c + 1) _ _ _ (by omega) (sitW_cv hw) hI'.sW (by rw [← hs, decide_eq_true c_106]; rfl)
                · refine VE.step (fun _ h => V.bipush (v := (-12)) dX7_sitters_82 (by decide) h) ?_
                  exact VE.iret dX7_sitters_84 rfl rfl ((by rw [cv_at hw (e := rfl)] at c_79; rw [sitL, if_neg c_79] at hs; exact ⟨by rw [hR, ← hs], _, by rw [hWd, ← hs]; exact hw, rfl⟩))
            
            refine VE.step (fun _ h => V.iconst_0 dX7_sitters_58 (V.ist5 dX7_sitters_59 (V.iconst_0 dX7_sitters_61 (V.ist6 dX7_sitters_62 h)))) ?_
            exact L64 n 0 _ _ _ (by omega) hA hI rfl
          · rw [cv_at hA (e := rfl)] at c_52
            refine VE.step (fun _ h => V.bipush (v := (-13)) dX7_sitters_55 (by decide) h) ?_
            exact VE.iret dX7_sitters_57 rfl rfl (⟨by rw [sittersR, if_pos hok, e1, if_neg c_39, if_neg c_52], _, by rw [sittersW, if_pos hok, e1, if_neg c_39, if_neg c_52]; exact hA, rfl⟩)
        · rw [cv_at hA (e := rfl)] at c_39
          refine VE.step (fun _ h => V.bipush (v := (-11)) dX7_sitters_42 (by decide) h) ?_
          exact VE.iret dX7_sitters_44 rfl rfl (⟨by rw [sittersR, if_pos hok, e1, if_pos c_39], _, by rw [sittersW, if_pos hok, e1, if_pos c_39]; exact hA, rfl⟩)
      · refine VE.step (fun _ h => V.bipush (v := (-2)) dX7_sitters_29 (by decide) h) ?_
        exact VE.iret dX7_sitters_31 rfl rfl (⟨by simp only [sittersR, sitsOk, c_6, c_15, c_26, if_true, if_false, Bool.false_eq_true, eq_self, and_true, true_and, and_false, false_and, Bool.and_true, Bool.true_and, Bool.and_false, Bool.false_and, Bool.not_true, Bool.not_false, not_true_eq_false, not_false_eq_true, ne_eq, b2i_t, b2i_f], _, by simp only [sittersW, sitsOk, c_6, c_15, c_26, if_true, if_false, Bool.false_eq_true, eq_self, and_true, true_and, and_false, false_and, Bool.and_true, Bool.true_and, Bool.and_false, Bool.false_and, Bool.not_true, Bool.not_false, not_true_eq_false, not_false_eq_true, ne_eq, b2i_t, b2i_f]; exact hA, rfl⟩)

def byt (x : Int64) (k : Nat) : Int32 := ((x >>> ((8 * nI k).toInt64 &&& 63)) &&& 255).toInt32
def fdF (x : Int64) (n : Nat) : Nat → Int32 := fun i => byt x (n - 1 - i)
def feedR (v : Wv) (n : Int32) : Int32 := if inB n 1 8 then (if v 100 18 + n ≤ 160 then v 100 18 + n else -4) else -2
def fedV (v : Wv) (x : Int64) (t n : Nat) : Wv := up2 (gA 118 t n (fdF x n) v) 100 18 (nI (t + n))
def feedW (w v : Wv) (x : Int64) (n : Int32) : Wv := if inB n 1 8 then (if v 100 18 + n ≤ 160 then fedV w x (cl (v 100 18)) (cl n) else w) else w
def HP (v : Wv) : Prop := ∃ n, n ≤ 160 ∧ v 100 18 = nI n
theorem up2_mid {α : Type} {f : Nat → Nat → α} {a b i j : Nat} {x y z : α} (h : a ≠ b) : up2 (up2 (up2 f a i x) b j y) a i z = up2 (up2 f b j y) a i z := by
  funext p q
  by_cases h1 : p = a ∧ q = i
  · obtain ⟨rfl, rfl⟩ := h1; rw [up2_eq, up2_eq]
  · rw [up2_ne _ _ h1, up2_ne _ _ h1]
    by_cases h2 : p = b ∧ q = j
    · obtain ⟨rfl, rfl⟩ := h2; rw [up2_eq, up2_eq]
    · rw [up2_ne _ _ h2, up2_ne _ _ h2, up2_ne _ _ h1]
theorem in18 {n : Int32} (h : inB n 1 8 = true) : ∃ k, 1 ≤ k ∧ k ≤ 8 ∧ n = nI k := by
  simp only [inB, decide_eq_true_eq] at h
  obtain ⟨h1, h2⟩ := h
  obtain ⟨k, hk, rfl⟩ := nI_of (fun z : n < 0 => absurd (Int32.lt_of_le_of_lt h1 z) (by decide))
  rw [show (1 : Int32) = nI 1 from rfl, nI_leI (by decide) hk] at h1
  rw [show (8 : Int32) = nI 8 from rfl, nI_leI hk (by decide)] at h2
  exact ⟨k, h1, h2, rfl⟩
theorem c_X7_feed {E : En} {g : Ge} {σ : Sg} {w : Wv} (hW : WM g σ) {v : Wv} (hA : cv w = cv v) (hP : HP v) {x : Int64} {n : Int32} : Ct E mX7_feed 1 [.ref (g.1 100), .long x, .int n] (.returned (some (.int (feedR v n))), S g σ (feedW w v x n)) (S g σ w) := by
  show V E mX7_feed 1 _ 0 [some (.ref (g.1 100)), some (.long x), none, some (.int n), none] [] (S g σ w)
  refine V.ild3 dX7_feed_0 (V.iconst_1 dX7_feed_1 (V.bipush (v := 8) dX7_feed_2 (by decide) (V.invS3r sX7_159 dX7_feed_4 c_X7_in (V.ifb_ne (tgt := 13) dX7_feed_7 (by decide) (fun c_7 => ?_) (fun c_7 => ?_)))))
  · refine V.ald0 dX7_feed_13 (GX7_206 hW rfl dX7_feed_14 (V.ild3 dX7_feed_17 (V.iadd dX7_feed_18 (V.sipush (v := 160) dX7_feed_19 (by decide) (V.icmp_le (tgt := 28) dX7_feed_22 (by decide) (fun c_22 => ?_) (fun c_22 => ?_))))))
    · rw [cv_at hA (e := rfl)] at c_22
      obtain ⟨n, hn1, hn8, rfl⟩ := in18 c_7
      obtain ⟨t, ht, et⟩ := hP
      have c2 := c_22
      rw [et, nI_add, show (160 : Int32) = nI 160 from rfl, nI_leI (by omega) (by decide)] at c2
      rw [feedR, feedW, if_pos c_7, if_pos c_7, if_pos c_22, if_pos c_22, et, cl_n (by omega), cl_n (by omega), nI_add]
      have L33 : ∀ (q : Nat), q ≤ n → V E mX7_feed 1 (.returned (some (.int (nI (t + n)))), S g σ (fedV w x t n)) 33 [some (.ref (g.1 100)), some (.long x), none, some (.int (nI n)), some (.int (nI q + (-1)))] [] (S g σ (up2 (gA 118 t (n - q) (fdF x n) w) 100 18 (nI (t + (n - q))))) := by
        intro q
        induction q with
        | zero =>
          intro hq
          rw [dn_0]
          refine V.ild4 dX7_feed_33 (V.if_lt (tgt := 75) dX7_feed_35 (by decide) (fun c_35 => ?_) (fun c_35 => absurd (show (-1 : Int32) < 0 by decide) c_35))
          exact V.ald0 dX7_feed_75 (GX7_206 hW rfl dX7_feed_76 (V.iret dX7_feed_79 rfl rfl (rfl)))
        | succ q ih =>
          intro hq
          rw [dn_s]
          refine V.ild4 dX7_feed_33 (V.if_lt (tgt := 75) dX7_feed_35 (by decide) (fun c_35 => absurd c_35 (dn_lt (by omega))) (fun c_35 => ?_))
          refine V.ald0 dX7_feed_38 (GX7_52 hW rfl dX7_feed_39 (V.ald0 dX7_feed_42 (GX7_206 hW rfl dX7_feed_43 (V.lld1 dX7_feed_46 (V.bipush (v := 8) dX7_feed_47 (by decide) (V.ild4 dX7_feed_49 (V.imul dX7_feed_51 (V.lshr dX7_feed_52 (V.ldc2_w q1805 dX7_feed_53 (V.land dX7_feed_56 (V.l2i dX7_feed_57 (sM17 (j := t + (n - (q + 1))) hW (IX.n (by omega) (by decide)) dX7_feed_58 (V.ald0 dX7_feed_59 ?_)))))))))))))
          refine V.dup dX7_feed_60 (GX7_206 hW rfl dX7_feed_61 (V.iconst_1 dX7_feed_64 (V.iadd dX7_feed_65 (PX7_206 hW rfl dX7_feed_66 (V.incm4 dX7_feed_69 (V.goto (tgt := 33) dX7_feed_72 (by decide) ?_))))))
          have e9 : n - q = n - (q + 1) + 1 := by omega
          have e8 := gA_s (d := 118) (a := t) (k := n - (q + 1)) (f := fdF x n) (w := w) (x := byt x q) (by show _ = byt x (n - 1 - (n - (q + 1))); rw [show n - 1 - (n - (q + 1)) = q by omega])
          have h7 := ih (by omega)
          rw [e9, ← e8, ← Nat.add_assoc, ← nI_1, ← up2_mid (x := nI (t + (n - (q + 1)))) (by decide)] at h7
          exact h7
      
      refine V.ild3 dX7_feed_28 (V.iconst_1 dX7_feed_29 (V.isub dX7_feed_30 (V.ist4 dX7_feed_31 ?_)))
      rw [dn_st]
      have h0 := L33 n (Nat.le_refl _)
      rw [Nat.sub_self, gA_0, Nat.add_zero, ← et, ← cv_at hA (id := 100) (j := 18), up2_same] at h0
      exact h0
    · exact V.bipush (v := (-4)) dX7_feed_25 (by decide) (V.iret dX7_feed_27 rfl rfl (by rw [cv_at hA (e := rfl)] at c_22; simp only [feedR, feedW, c_7, c_22, if_true, if_false, Bool.false_eq_true, eq_self, and_true, true_and, and_false, false_and, Bool.and_true, Bool.true_and, Bool.and_false, Bool.false_and, Bool.not_true, Bool.not_false, not_true_eq_false, not_false_eq_true, ne_eq, b2i_t, b2i_f]))
  · exact V.bipush (v := (-2)) dX7_feed_10 (by decide) (V.iret dX7_feed_12 rfl rfl (by simp only [feedR, feedW, c_7, if_true, if_false, Bool.false_eq_true, eq_self, and_true, true_and, and_false, false_and, Bool.and_true, Bool.true_and, Bool.and_false, Bool.false_and, Bool.not_true, Bool.not_false, not_true_eq_false, not_false_eq_true, ne_eq, b2i_t, b2i_f]))

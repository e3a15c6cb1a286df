set_option maxRecDepth 100000
set_option maxHeartbeats 1000000
def bmp (f : Nat → Int32) (k : Nat) : Nat → Int32 := fun j => if j = k then f j + 1 else f j
def solE (v : Wv) (r : Nat) : Nat → Nat → (Nat → Int32) → Nat → Int32
  | _, 0, f => f
  | c, m + 1, f => solE v r (c + 1) m (bmp f (cl (priS v r c)))
def solR (v : Wv) : Nat → Nat → (Nat → Int32) → Nat → Int32
  | _, 0, f => f
  | r, m + 1, f => solR v (r + 1) m (solE v r 0 (nS v r) f)
def solS (v : Wv) : Nat → Int32 := solR v 0 (nR v) (fun _ => 0)
/-- best, most, many; from k down -/
def selD (f : Nat → Int32) : Nat → Int32 × Int32 × Int32 → Int32 × Int32 × Int32
  | 0, s => s
  | k + 1, s => selD f k (if s.2.2 + f (k + 1) ≤ 0 then (s.1, s.2.1, s.2.2 + f (k + 1)) else if nI (k + 1) * (s.2.2 + f (k + 1)) < s.2.1 then (s.1, s.2.1, s.2.2 + f (k + 1)) else (nI (k + 1), nI (k + 1) * (s.2.2 + f (k + 1)), s.2.2 + f (k + 1)))
def selS (v : Wv) : Int32 × Int32 × Int32 := selD (solS v) 999 (0, 0, 0)
def sellR (v : Wv) (a : Int32) : Int32 := if inB a 0 1 then (if a = 0 then (selS v).1 else (selS v).2.1) else -2
theorem clampI_ix {x : Int32} : IX (clampI x 999) (cl (clampI x 999)) 1001 := by
  have h1 : 0 ≤ clampI x 999 ∧ clampI x 999 ≤ 999 := by
    unfold clampI
    split
    · split
      · exact ⟨by assumption, by assumption⟩
      · exact ⟨by decide, by decide⟩
    · exact ⟨by decide, by decide⟩
  obtain ⟨k, hk, e⟩ := nI_of (fun z : clampI x 999 < 0 => absurd (Int32.lt_of_le_of_lt h1.1 z) (by decide))
  rw [e] at h1 ⊢
  have h2 := (nI_leI hk (by decide : 999 < 2 ^ 31)).mp h1.2
  rw [cl_n hk]
  exact IX.n (by omega) (by decide)
theorem c_X7_sell {E : En} {g : Ge} {σ : Sg} {w : Wv} (hW : WM g σ) {v : Wv} (hA : cv w = cv v) (hI : HI v) (hT : HT v) {a : Int32} : CtE E mX7_sell 7 [.ref (g.1 100), .int a] (PR (.int (sellR v a)) (QV g σ v)) (S g σ w) := by
  show VE E mX7_sell 7 _ 0 [some (.ref (g.1 100)), some (.int a), none, none, none, none] [] (S g σ w)
  refine VE.step (fun _ h => V.ild1 dX7_sell_0 (V.iconst_0 dX7_sell_1 (V.iconst_1 dX7_sell_2 (V.invS3r sX7_159 dX7_sell_3 c_X7_in h)))) ?_
  refine VE.ifb_ne (tgt := 12) dX7_sell_6 (by decide) (fun c_6 => ?_) (fun c_6 => ?_)
  · have hR2 := hI.rows.2
    have H83 : ∀ (w' : Wv) (y y2 : Option Value), cv w' = cv v → (∀ k, k < 1001 → w' 159 k = solS v k) → VE E mX7_sell 7 (PR (.int (sellR v a)) (QV g σ v)) 83 [some (.ref (g.1 100)), some (.int (a)), y, y2, none, none] [] (S g σ w') := by
      intro w' y y2 hw hf
      have L95 : ∀ (q : Nat) (s : Int32 × Int32 × Int32), q ≤ 999 → selD (solS v) q s = selS v → VE E mX7_sell 7 (PR (.int (sellR v a)) (QV g σ v)) 95 [some (.ref (g.1 100)), some (.int (a)), some (.int (s.1)), some (.int (s.2.1)), some (.int (s.2.2)), some (.int (nI q))] [] (S g σ w') := by
        intro q
        induction q with
        | zero =>
          intro s hq hs
          refine VE.step (fun _ h => V.ild5 dX7_sell_95 h) ?_
          refine VE.if_le (tgt := 141) dX7_sell_97 (by decide) (fun c_97 => ?_) (fun c_97 => absurd (show nI 0 ≤ 0 by decide) c_97)
          refine VE.step (fun _ h => V.ild1 dX7_sell_141 h) ?_
          refine VE.if_ne (tgt := 149) dX7_sell_142 (by decide) (fun c_142 => ?_) (fun c_142 => ?_)
          · refine VE.step (fun _ h => V.ild3 dX7_sell_149 h) ?_
            exact VE.iret dX7_sell_150 rfl rfl (⟨by rw [sellR, if_pos c_6, ← hs]; first | rw [if_pos c_142]; rfl | rw [if_neg c_142]; rfl, _, hw, rfl⟩)
          · refine VE.step (fun _ h => V.ild2 dX7_sell_145 (V.goto (tgt := 150) dX7_sell_146 (by decide) h)) ?_
            exact VE.iret dX7_sell_150 rfl rfl (⟨by rw [sellR, if_pos c_6, ← hs]; first | rw [if_pos c_142]; rfl | rw [if_neg c_142]; rfl, _, hw, rfl⟩)
        | succ q ih =>
          intro s hq hs
          refine VE.step (fun _ h => V.ild5 dX7_sell_95 h) ?_
          refine VE.if_le (tgt := 141) dX7_sell_97 (by decide) (fun c_97 => absurd c_97 (nI_nle (by omega) (by omega))) (fun c_97 => ?_)
          refine VE.step (fun _ h => V.ild4 dX7_sell_100 (V.ald0 dX7_sell_102 (GX7_147 hW rfl dX7_sell_103 (V.ild5 dX7_sell_106 (aM58 hW (by first | exact IX.n ‹_› (by decide) | exact IX.n (by omega) (by decide)) dX7_sell_108 (V.iadd dX7_sell_109 (V.ist4 dX7_sell_110 h))))))) ?_
          rw [hf (q + 1) (by omega)]
          refine VE.step (fun _ h => V.ild4 dX7_sell_112 h) ?_
          refine VE.if_le (tgt := 135) dX7_sell_114 (by decide) (fun c_114 => ?_) (fun c_114 => ?_)
          · refine VE.step (fun _ h => V.incm5 dX7_sell_135 (V.goto (tgt := 95) dX7_sell_138 (by decide) h)) ?_
            rw [dn_s]
            rw [selD] at hs
            first
              | exact ih (s.1, s.2.1, s.2.2 + solS v (q + 1)) (by omega) (by rw [← hs, if_pos c_114])
              | exact ih (s.1, s.2.1, s.2.2 + solS v (q + 1)) (by omega) (by rw [← hs, if_neg c_114, if_pos c_123])
              | exact ih (nI (q + 1), nI (q + 1) * (s.2.2 + solS v (q + 1)), s.2.2 + solS v (q + 1)) (by omega) (by rw [← hs, if_neg c_114, if_neg c_123])
          · refine VE.step (fun _ h => V.ild5 dX7_sell_117 (V.ild4 dX7_sell_119 (V.imul dX7_sell_121 (V.ild3 dX7_sell_122 h)))) ?_
            refine VE.icmp_lt (tgt := 135) dX7_sell_123 (by decide) (fun c_123 => ?_) (fun c_123 => ?_)
            · refine VE.step (fun _ h => V.incm5 dX7_sell_135 (V.goto (tgt := 95) dX7_sell_138 (by decide) h)) ?_
              rw [dn_s]
              rw [selD] at hs
              first
                | exact ih (s.1, s.2.1, s.2.2 + solS v (q + 1)) (by omega) (by rw [← hs, if_pos c_114])
                | exact ih (s.1, s.2.1, s.2.2 + solS v (q + 1)) (by omega) (by rw [← hs, if_neg c_114, if_pos c_123])
                | exact ih (nI (q + 1), nI (q + 1) * (s.2.2 + solS v (q + 1)), s.2.2 + solS v (q + 1)) (by omega) (by rw [← hs, if_neg c_114, if_neg c_123])
            · refine VE.step (fun _ h => V.ild5 dX7_sell_126 (V.ist2 dX7_sell_128 (V.ild5 dX7_sell_129 (V.ild4 dX7_sell_131 (V.imul dX7_sell_133 (V.ist3 dX7_sell_134 (V.incm5 dX7_sell_135 (V.goto (tgt := 95) dX7_sell_138 (by decide) h)))))))) ?_
              rw [dn_s]
              rw [selD] at hs
              first
                | exact ih (s.1, s.2.1, s.2.2 + solS v (q + 1)) (by omega) (by rw [← hs, if_pos c_114])
                | exact ih (s.1, s.2.1, s.2.2 + solS v (q + 1)) (by omega) (by rw [← hs, if_neg c_114, if_pos c_123])
                | exact ih (nI (q + 1), nI (q + 1) * (s.2.2 + solS v (q + 1)), s.2.2 + solS v (q + 1)) (by omega) (by rw [← hs, if_neg c_114, if_neg c_123])
      refine VE.step (fun _ h => V.iconst_0 dX7_sell_83 (V.ist2 dX7_sell_84 (V.iconst_0 dX7_sell_85 (V.ist3 dX7_sell_86 (V.iconst_0 dX7_sell_87 (V.ist4 dX7_sell_88 (V.sipush (v := 999) dX7_sell_90 (by decide) (V.ist5 dX7_sell_93 h)))))))) ?_
      exact L95 999 (0, 0, 0) (by omega) rfl
    have L36 : ∀ (m r : Nat) (f : Nat → Int32) (w' : Wv) (y : Option Value), r + m = nR v → cv w' = cv v → (∀ k, k < 1001 → w' 159 k = f k) → solR v r m f = solS v → VE E mX7_sell 7 (PR (.int (sellR v a)) (QV g σ v)) 36 [some (.ref (g.1 100)), some (.int (a)), some (.int (nI r)), y, none, none] [] (S g σ w') := by
      intro m
      induction m with
      | zero =>
        intro r f w' y hk hw hf hs
        refine VE.step (fun _ h => V.ild2 dX7_sell_36 (V.ald0 dX7_sell_37 (GX7_156 hW rfl dX7_sell_38 h))) ?_
        refine VE.icmp_ge (tgt := 83) dX7_sell_41 (by decide) (fun c_41 => ?_) (fun c_41 => absurd (by rw [cv_at hw (e := rfl), hI.rows.1]; exact nI_le (by omega) (by omega)) c_41)
        exact H83 _ _ _ hw (by rw [← hs]; exact hf)
      | succ m ih =>
        intro r f w' y hk hw hf hs
        have hr : r < 6 := by omega
        have hS2 := (hI.seats hr).2
        have L46 : ∀ (m9 c : Nat) (f : Nat → Int32) (w' : Wv), c + m9 = nS v r → cv w' = cv v → (∀ k, k < 1001 → w' 159 k = f k) → solR v (r + 1) m (solE v r c m9 f) = solS v → VE E mX7_sell 7 (PR (.int (sellR v a)) (QV g σ v)) 46 [some (.ref (g.1 100)), some (.int (a)), some (.int (nI r)), some (.int (nI c)), none, none] [] (S g σ w') := by
          intro m9
          induction m9 with
          | zero =>
            intro c f w' hk9 hw hf hs
            refine VE.step (fun _ h => V.ild3 dX7_sell_46 (V.ald0 dX7_sell_47 (GX7_22 hW rfl dX7_sell_48 (V.ild2 dX7_sell_51 (aM5 hW (by first | exact IX.n ‹_› (by decide) | exact IX.n (by omega) (by decide)) dX7_sell_52 h))))) ?_
            refine VE.icmp_ge (tgt := 77) dX7_sell_53 (by decide) (fun c_53 => ?_) (fun c_53 => absurd (by rw [cv_at hw (e := rfl), (hI.seats hr).1]; exact nI_le (by omega) (by omega)) c_53)
            refine VE.step (fun _ h => V.inc2 dX7_sell_77 (V.goto (tgt := 36) dX7_sell_80 (by decide) h)) ?_
            rw [nI_1]
            exact ih (r + 1) f _ _ (by omega) hw hf hs
          | succ m9 ih9 =>
            intro c f w' hk9 hw hf hs
            refine VE.step (fun _ h => V.ild3 dX7_sell_46 (V.ald0 dX7_sell_47 (GX7_22 hW rfl dX7_sell_48 (V.ild2 dX7_sell_51 (aM5 hW (by first | exact IX.n ‹_› (by decide) | exact IX.n (by omega) (by decide)) dX7_sell_52 h))))) ?_
            refine VE.icmp_ge (tgt := 77) dX7_sell_53 (by decide) (fun c_53 => absurd c_53 (by rw [cv_at hw (e := rfl), (hI.seats hr).1]; first | exact nI_ge (by omega) (by omega) | exact fun h9 => absurd ((nI_leI (by omega) (by omega)).mp h9) (by omega))) (fun c_53 => ?_)
            refine VE.step (fun _ h => V.ald0 dX7_sell_56 (GX7_147 hW rfl dX7_sell_57 (V.ald0 dX7_sell_60 (V.ild2 dX7_sell_61 (V.ild3 dX7_sell_62 h))))) ?_
            refine VE.invV2r vX7_304 hW.2.2.1 dX7_sell_63 (e_X7_priceOf hW hw hI hT hr (by omega)) (fun s9 q9 => ?_)
            obtain ⟨w1, hw1, rfl⟩ := q9
            refine VE.step (fun _ h => V.dup2 dX7_sell_66 (aM58 (j := cl (priS v r c)) hW clampI_ix dX7_sell_67 (V.iconst_1 dX7_sell_68 (V.iadd dX7_sell_69 (sM58 (j := cl (priS v r c)) hW clampI_ix dX7_sell_70 (V.inc3 dX7_sell_71 (V.goto (tgt := 46) dX7_sell_74 (by decide) h))))))) ?_
            rw [nI_1]
            refine ih9 (c + 1) (bmp f (cl (priS v r c))) _ (by omega) (by rw [cv_sc rfl, cv_of_cu hw1, hw]) (fun k hk => ?_) (by rw [← hs]; rfl)
            have e1 : ∀ k, w1 159 k = w' 159 k := fun k => cu_at hw1
            unfold bmp
            by_cases h : k = cl (priS v r c)
            · rw [if_pos h, h, up2_eq, e1, hf _ (h ▸ hk)]
            · rw [if_neg h, up2_ne _ _ (fun z => h z.2), e1, hf k hk]
    
        refine VE.step (fun _ h => V.ild2 dX7_sell_36 (V.ald0 dX7_sell_37 (GX7_156 hW rfl dX7_sell_38 h))) ?_
        refine VE.icmp_ge (tgt := 83) dX7_sell_41 (by decide) (fun c_41 => absurd c_41 (by rw [cv_at hw (e := rfl), hI.rows.1]; first | exact nI_ge (by omega) (by omega) | exact fun h9 => absurd ((nI_leI (by omega) (by omega)).mp h9) (by omega))) (fun c_41 => ?_)
        refine VE.step (fun _ h => V.iconst_0 dX7_sell_44 (V.ist3 dX7_sell_45 h)) ?_
        exact L46 (nS v r) 0 f _ (by omega) hw hf hs
    have L14 : ∀ (m k : Nat), k + m = 1001 → VE E mX7_sell 7 (PR (.int (sellR v a)) (QV g σ v)) 14 [some (.ref (g.1 100)), some (.int (a)), some (.int (nI k)), none, none, none] [] (S g σ (fA 159 k (fun _ => 0) w)) := by
      intro m
      induction m with
      | zero =>
        intro k hk 
        obtain rfl : k = 1001 := by omega
        refine VE.step (fun _ h => V.ild2 dX7_sell_14 (V.sipush (v := 1001) dX7_sell_15 (by decide) h)) ?_
        refine VE.icmp_ge (tgt := 34) dX7_sell_18 (by decide) (fun c_18 => ?_) (fun c_18 => absurd (by rw [show (1001 : Int32) = nI 1001 from rfl]; exact nI_le (by omega) (by omega)) c_18)
        refine VE.step (fun _ h => V.iconst_0 dX7_sell_34 (V.ist2 dX7_sell_35 h)) ?_
        exact L36 (nR v) 0 (fun _ => 0) _ _ (by omega) (by rw [cv_fAs rfl, hA]) (fun k hk => fA_at hk) rfl
      | succ m ih =>
        intro k hk 
        refine VE.step (fun _ h => V.ild2 dX7_sell_14 (V.sipush (v := 1001) dX7_sell_15 (by decide) h)) ?_
        refine VE.icmp_ge (tgt := 34) dX7_sell_18 (by decide) (fun c_18 => absurd c_18 (by rw [show (1001 : Int32) = nI 1001 from rfl]; first | exact nI_ge (by omega) (by omega) | exact fun h9 => absurd ((nI_leI (by omega) (by omega)).mp h9) (by omega))) (fun c_18 => ?_)
        refine VE.step (fun _ h => V.ald0 dX7_sell_21 (GX7_147 hW rfl dX7_sell_22 (V.ild2 dX7_sell_25 (V.iconst_0 dX7_sell_26 (sM58 hW (by first | exact IX.n ‹_› (by decide) | exact IX.n (by omega) (by decide)) dX7_sell_27 (V.inc2 dX7_sell_28 (V.goto (tgt := 14) dX7_sell_31 (by decide) h))))))) ?_
        rw [nI_1, fA_s rfl]
        exact ih (k + 1) (by omega)
    
    refine VE.step (fun _ h => V.iconst_0 dX7_sell_12 (V.ist2 dX7_sell_13 h)) ?_
    have h0 := L14 1001 0 (by omega)
    rw [fA_0] at h0
    exact h0
  · refine VE.step (fun _ h => V.bipush (v := (-2)) dX7_sell_9 (by decide) h) ?_
    exact VE.iret dX7_sell_11 rfl rfl (⟨by simp only [sellR, c_6, if_true, if_false, Bool.false_eq_true, eq_self, and_true, true_and, and_false, false_and, Bool.and_true, Bool.true_and, Bool.and_false, Bool.false_and, Bool.not_true, Bool.not_false, not_true_eq_false, not_false_eq_true, ne_eq, b2i_t, b2i_f], _, hA, rfl⟩)

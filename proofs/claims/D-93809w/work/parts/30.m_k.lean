set_option maxRecDepth 100000
set_option maxHeartbeats 1000000
/-- all but slot r of array a is alike -/
def Ex (a r : Nat) (w' w : Wv) : Prop := ∀ id j, ¬ (id = a ∧ j = r) → w' id j = w id j
theorem Ex.rfl {a r : Nat} {w : Wv} : Ex a r w w := fun _ _ _ => Eq.refl _
theorem Ex.up {a r : Nat} {w' w : Wv} {x : Int32} (h : Ex a r w' w) : Ex a r (up2 w' a r x) w := fun id j hn => by rw [up2_ne _ _ hn]; exact h id j hn
theorem Ex.eq {a r : Nat} {w' w : Wv} {x : Int32} (h : Ex a r w' w) : up2 w' a r x = up2 w a r x := by
  funext id j
  by_cases hn : id = a ∧ j = r
  · obtain ⟨e1, e2⟩ := hn
    rw [e1, e2, up2_eq, up2_eq]
  · rw [up2_ne _ _ hn, up2_ne _ _ hn]; exact h id j hn
theorem Ex.at {a r : Nat} {w' w : Wv} (h : Ex a r w' w) : w' = up2 w a r (w' a r) := by
  rw [← h.eq]
  funext id j
  by_cases hn : id = a ∧ j = r
  · obtain ⟨e1, e2⟩ := hn
    rw [e1, e2, up2_eq]
  · rw [up2_ne _ _ hn]
theorem Ex.cu {a r : Nat} {w1 w' w : Wv} (ha : ¬ (a = 150 ∨ a = 151)) (e : cu w1 = cu w') (h : Ex a r w' w) : cu w1 = cu (up2 w a r (w' a r)) := by rw [e, ← h.at]
theorem Kp.ex {a n b r : Nat} {w0 w w' : Wv} (hab : a ≠ b) (hr : r < n) (h : Ex a r w' w) (hk : Kp a n b w0 w) : Kp a n b w0 w' := by
  rw [h.at]; exact Kp.up hab hr hk
theorem Kp.ov {a n b : Nat} {f : Nat → Int32} {w0 w v : Wv} (hk : Kp a n b w0 w) (hA : cv w0 = cv v) : cv (fA a n f w) = cv (fA a n f v) := by
  rw [← cv_fA (f := f) (d := a) (n := n) hA]
  funext id j
  unfold cv
  by_cases h3 : (scI id || (id == 100 && scJ j)) = true
  · rw [if_pos h3, if_pos h3]
  · rw [if_neg h3, if_neg h3]
    by_cases h2 : id = a ∧ j < n
    · obtain ⟨rfl, h4⟩ := h2
      rw [fA_at h4, fA_at h4]
    · unfold fA
      rw [if_neg h2, if_neg h2]; exact hk.1 id j (by simpa using h3) h2
theorem ff_lt {P : Nat → Bool} : ∀ {m k x : Nat}, ff P k m = some x → k ≤ x ∧ x < k + m ∧ P x = true
  | 0, _, _, h => by simp [ff] at h
  | m + 1, k, x, h => by
    rw [ff] at h
    cases hp : P k with
    | true => rw [hp, if_pos rfl] at h; obtain rfl := Option.some.inj h; exact ⟨Nat.le_refl _, by omega, hp⟩
    | false => rw [hp, if_neg (by decide)] at h; have := ff_lt h; exact ⟨by omega, by omega, this.2.2⟩
theorem HI.so {u : Wv} (hI : HI u) {n : Nat} {f : Nat → Int32} (hf : ∀ j, j < n → ∃ k, k < 4 ∧ f j = nI k) : HI (fA 110 n f u) := by
  refine ⟨hI.1, hI.2.1, hI.2.2.1, hI.2.2.2.1, fun i hi => ?_⟩
  by_cases h : i < n
  · rw [fA_at h]; exact hf i h
  · rw [fA_ge h]; exact hI.2.2.2.2 i hi
def tallV (v : Wv) (k : Int32) : Wv := fA 110 48 (fun _ => k) v
def tallR (v : Wv) (k : Int32) : Int32 := if inB k 0 3 then allS (tallV v k) else -2
def raiP (v : Wv) (r x : Nat) : Bool := aSee (up2 v 108 r (nI x)) r
def raiS (v : Wv) (r f : Nat) : Int32 := ffI (raiP v r) f (100 - f)
def needsR (v : Wv) (r : Int32) : Int32 := if inB r 0 (v 100 3 - 1) then raiS v (cl r) 0 else -5
def prf : Nat → Nat → Nat → Wv → Int32
  | _, 0, f, _ => nI f
  | q, m + 1, f, v => match ff (raiP v q) f (100 - f) with
    | none => -1
    | some x => prf (q + 1) m x (up2 v 108 q (nI x))
def proofR (v : Wv) (r : Int32) : Int32 := if inB r 0 (v 100 3 - 1) then prf 0 (cl r + 1) 0 v else -5
theorem c_X7_tall {E : En} {g : Ge} {σ : Sg} {w : Wv} (hW : WM g σ) {v : Wv} (hA : cv w = cv v) (hI : HI v) (hT : HT v) {k : Int32} : CtE E mX7_tall 7 [.ref (g.1 100), .int k] (PR (.int (tallR v k)) (QV g σ v)) (S g σ w) := by
  show VE E mX7_tall 7 _ 0 [some (.ref (g.1 100)), some (.int k), none] [] (S g σ w)
  refine VE.step (fun _ h => V.ild1 dX7_tall_0 (V.iconst_0 dX7_tall_1 (V.iconst_3 dX7_tall_2 (V.invS3r sX7_159 dX7_tall_3 c_X7_in h)))) ?_
  refine VE.ifb_ne (tgt := 12) dX7_tall_6 (by decide) (fun c_6 => ?_) (fun c_6 => ?_)
  · obtain ⟨k, hk4, rfl⟩ := in_n (N := 4) (by decide) (by decide) c_6
    have hA2 : cv (fA 110 48 (fun _ => nI k) (fA 155 48 (w 110) w)) = cv (tallV v (nI k)) := cv_fA (by rw [cv_fAs rfl, hA])
    have hI2 : HI (tallV v (nI k)) := hI.so (fun _ _ => ⟨k, hk4, rfl⟩)
    have L18 : ∀ (m s : Nat), s + m = 48 → VE E mX7_tall 7 (PR (.int (tallR v (nI k))) (QV g σ v)) 18 [some (.ref (g.1 100)), some (.int (nI k)), some (.int (nI s))] [] (S g σ (fA 110 s (fun _ => nI k) (fA 155 48 (w 110) w))) := by
      intro m
      induction m with
      | zero =>
        intro s hk 
        obtain rfl : s = 48 := by omega
        refine VE.step (fun _ h => V.ild2 dX7_tall_18 (V.bipush (v := 48) dX7_tall_19 (by decide) h)) ?_
        refine VE.icmp_ge (tgt := 37) dX7_tall_21 (by decide) (fun c_21 => ?_) (fun c_21 => absurd (by rw [show (48 : Int32) = nI 48 from rfl]; exact nI_le (by omega) (by omega)) c_21)
        refine VE.step (fun _ h => V.ald0 dX7_tall_37 h) ?_
        refine VE.invV0r vX7_346 hW.2.2.1 dX7_tall_38 (e_X7_allWorth hW hA2 hI2 (HT.f hT (by decide))) (fun s9 q9 => ?_)
        obtain ⟨w1, hw1, rfl⟩ := q9
        refine VE.step (fun _ h => V.ist2 dX7_tall_41 (V.ald0 dX7_tall_42 (V.invV0v vX7_349 hW.2.2.1 dX7_tall_43 (c_X7_laysSorts hW) (V.ild2 dX7_tall_46 h)))) ?_
        exact VE.iret dX7_tall_47 rfl rfl (⟨by rw [tallR, if_pos c_6], _, (Kp.fin (a := 110) (n := 48) (b := 155) (w0 := w) (Kp.c (by decide) hw1 (Kp.f (by decide) (by decide) (Kp.start rfl)))).trans hA, rfl⟩)
      | succ m ih =>
        intro s hk 
        refine VE.step (fun _ h => V.ild2 dX7_tall_18 (V.bipush (v := 48) dX7_tall_19 (by decide) h)) ?_
        refine VE.icmp_ge (tgt := 37) dX7_tall_21 (by decide) (fun c_21 => absurd c_21 (by rw [show (48 : Int32) = nI 48 from rfl]; first | exact nI_ge (by omega) (by omega) | exact fun h9 => absurd ((nI_leI (by omega) (by omega)).mp h9) (by omega))) (fun c_21 => ?_)
        refine VE.step (fun _ h => V.ald0 dX7_tall_24 (GX7_34 hW rfl dX7_tall_25 (V.ild2 dX7_tall_28 (V.ild1 dX7_tall_29 (sM9 hW (by first | exact IX.n ‹_› (by decide) | exact IX.n (by omega) (by decide)) dX7_tall_30 (V.inc2 dX7_tall_31 (V.goto (tgt := 18) dX7_tall_34 (by decide) h))))))) ?_
        rw [nI_1, fA_s rfl]
        exact ih (s + 1) (by omega)
    
    refine VE.step (fun _ h => V.ald0 dX7_tall_12 (V.invV0v vX7_343 hW.2.2.1 dX7_tall_13 (c_X7_keepsSorts hW) (V.iconst_0 dX7_tall_16 (V.ist2 dX7_tall_17 h)))) ?_
    have h0 := L18 48 0 (by omega)
    rw [fA_0] at h0
    exact h0
  · refine VE.step (fun _ h => V.bipush (v := (-2)) dX7_tall_9 (by decide) h) ?_
    exact VE.iret dX7_tall_11 rfl rfl (⟨by simp only [tallR, c_6, if_true, if_false, Bool.false_eq_true, eq_self, and_true, true_and, and_false, false_and, Bool.and_true, Bool.true_and, Bool.and_false, Bool.false_and, Bool.not_true, Bool.not_false, not_true_eq_false, not_false_eq_true, ne_eq, b2i_t, b2i_f], _, hA, rfl⟩)

theorem c_X7_raises {E : En} {g : Ge} {σ : Sg} {w : Wv} (hW : WM g σ) {v : Wv} (hA : cv w = cv v) (hI : HI v) {r f : Nat} (hr : r < 6) (hf : f ≤ 99) : CtE E mX7_raises 7 [.ref (g.1 100), .int (nI r), .int (nI f)] (PR (.int (raiS v r f)) (fun s => ∃ w', s = S g σ w' ∧ Ex 108 r w' w ∧ (¬ raiS v r f = -1 → w' 108 r = raiS v r f))) (S g σ w) := by
  show VE E mX7_raises 7 _ 0 [some (.ref (g.1 100)), some (.int (nI r)), some (.int (nI f)), none] [] (S g σ w)
  have L2 : ∀ (m x : Nat) (w' : Wv), x + m = 100 → Ex 108 r w' w → ffI (raiP v r) x m = raiS v r f → VE E mX7_raises 7 (PR (.int (raiS v r f)) (fun s => ∃ w', s = S g σ w' ∧ Ex 108 r w' w ∧ (¬ raiS v r f = -1 → w' 108 r = raiS v r f))) 2 [some (.ref (g.1 100)), some (.int (nI r)), some (.int (nI f)), some (.int (nI x))] [] (S g σ w') := by
    intro m
    induction m with
    | zero =>
      intro x w' hk hx hs
      refine VE.step (fun _ h => V.ild3 dX7_raises_2 (V.bipush (v := 99) dX7_raises_3 (by decide) h)) ?_
      refine VE.icmp_gt (tgt := 31) dX7_raises_5 (by decide) (fun c_5 => ?_) (fun c_5 => absurd (show (99 : Int32) < nI x from nI_lt (a := 99) (by omega) (by omega)) c_5)
      refine VE.step (fun _ h => V.iconst_m1 dX7_raises_31 h) ?_
      exact VE.iret dX7_raises_32 rfl rfl (⟨by rw [← hs]; rfl, _, rfl, hx, fun z => absurd (by rw [← hs]; rfl) z⟩)
    | succ m ih =>
      intro x w' hk hx hs
      refine VE.step (fun _ h => V.ild3 dX7_raises_2 (V.bipush (v := 99) dX7_raises_3 (by decide) h)) ?_
      refine VE.icmp_gt (tgt := 31) dX7_raises_5 (by decide) (fun c_5 => absurd c_5 (show ¬ (99 : Int32) < nI x from nI_nlt (a := 99) (by omega) (by omega))) (fun c_5 => ?_)
      refine VE.step (fun _ h => V.ald0 dX7_raises_8 (GX7_28 hW rfl dX7_raises_9 (V.ild1 dX7_raises_12 (V.ild3 dX7_raises_13 (sM7 hW (by first | exact IX.n ‹_› (by decide) | exact IX.n (by omega) (by decide)) dX7_raises_14 (V.ald0 dX7_raises_15 (V.ild1 dX7_raises_16 (V.invV1r vX7_313 hW.2.2.1 dX7_raises_17 (e_X7_allSee hW (show cv (up2 w' 108 r (nI x)) = cv (up2 v 108 r (nI x)) by rw [hx.eq]; exact cv_up hA) (HI.up hI (by decide) (by decide) (by decide)) hr) h)))))))) ?_
      refine VE.ifb_eq (tgt := 25) dX7_raises_20 (by decide) (fun c_20 => ?_) (fun c_20 => ?_)
      · refine VE.step (fun _ h => V.inc3 dX7_raises_25 (V.goto (tgt := 2) dX7_raises_28 (by decide) h)) ?_
        rw [nI_1]
        exact ih (x + 1) _ (by omega) hx.up (by rw [← hs, ffI_s, if_neg (by rw [show raiP v r x = false from c_20]; decide)])
      · refine VE.step (fun _ h => V.ild3 dX7_raises_23 h) ?_
        exact VE.iret dX7_raises_24 rfl rfl ((by have hz : raiS v r f = nI x := (by rw [← hs, ffI_s, if_pos (show raiP v r x = true from c_20)]); exact ⟨by rw [hz], _, rfl, hx.up, fun _ => by rw [up2_eq, hz]⟩))
  refine VE.step (fun _ h => V.ild2 dX7_raises_0 (V.ist3 dX7_raises_1 h)) ?_
  exact L2 (100 - f) f _ (by omega) Ex.rfl rfl

theorem c_X7_needs {E : En} {g : Ge} {σ : Sg} {w : Wv} (hW : WM g σ) {v : Wv} (hA : cv w = cv v) (hI : HI v) {r : Int32} : CtE E mX7_needs 8 [.ref (g.1 100), .int r] (PR (.int (needsR v r)) (QV g σ v)) (S g σ w) := by
  show VE E mX7_needs 8 _ 0 [some (.ref (g.1 100)), some (.int r), none] [] (S g σ w)
  refine VE.step (fun _ h => V.ald0 dX7_needs_0 (V.ild1 dX7_needs_1 (V.invV1r vX7_163 hW.2.2.1 dX7_needs_2 (e_X7_isRow hW hA) h))) ?_
  refine VE.ifb_ne (tgt := 11) dX7_needs_5 (by decide) (fun c_5 => ?_) (fun c_5 => ?_)
  · have c_5' := c_5
    rw [hI.rows.1] at c_5'
    have hR2 := hI.rows.2
    obtain ⟨k, hk, rfl⟩ := (inB_n (by omega)).mp c_5'
    have e1 : cl (nI k) = k := cl_n (by omega)
    refine VE.step (fun _ h => V.ald0 dX7_needs_11 (V.invV0v vX7_310 hW.2.2.1 dX7_needs_12 (c_X7_keepsRises hW) (V.ald0 dX7_needs_15 (V.ild1 dX7_needs_16 (V.iconst_0 dX7_needs_17 h))))) ?_
    refine VE.invV2r vX7_352 hW.2.2.1 dX7_needs_18 (c_X7_raises hW (show cv (fA 152 6 (w 108) w) = cv v by rw [cv_fAs rfl, hA]) hI (r := k) (f := 0) (by omega) (by decide)) (fun s9 q9 => ?_)
    obtain ⟨w1, rfl, hx, -⟩ := q9
    refine VE.step (fun _ h => V.ist2 dX7_needs_21 (V.ald0 dX7_needs_22 (V.invV0v vX7_316 hW.2.2.1 dX7_needs_23 (c_X7_laysRises hW) (V.ild2 dX7_needs_26 h)))) ?_
    exact VE.iret dX7_needs_27 rfl rfl (⟨by rw [needsR, if_pos c_5, e1], _, (Kp.fin (a := 108) (n := 6) (b := 152) (w0 := w) (Kp.ex (by decide) (by omega) hx (Kp.start rfl))).trans hA, rfl⟩)
  · refine VE.step (fun _ h => V.bipush (v := (-5)) dX7_needs_8 (by decide) h) ?_
    exact VE.iret dX7_needs_10 rfl rfl (⟨by simp only [needsR, c_5, if_true, if_false, Bool.false_eq_true, eq_self, and_true, true_and, and_false, false_and, Bool.and_true, Bool.true_and, Bool.and_false, Bool.false_and, Bool.not_true, Bool.not_false, not_true_eq_false, not_false_eq_true, ne_eq, b2i_t, b2i_f], _, hA, rfl⟩)

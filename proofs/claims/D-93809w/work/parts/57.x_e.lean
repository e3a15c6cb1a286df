set_option maxRecDepth 100000
set_option maxHeartbeats 1000000
/-- but the names -/
def NW (w w' : Wv) : Prop := ∀ id, id ≠ 14 → w' id = w id
theorem NW.refl (w : Wv) : NW w w := fun _ _ => rfl
theorem NW.trans {a b c : Wv} (h : NW a b) (h' : NW b c) : NW a c := fun id hi => (h' id hi).trans (h id hi)
theorem NW.nm (w : Wv) (nm : Nat → Int32) : NW w (wNm w nm) := fun id hi => by
  funext j
  unfold wNm
  rw [up2_ne _ _ (fun z => hi z.1), up2_ne _ _ (fun z => hi z.1), up2_ne _ _ (fun z => hi z.1), up2_ne _ _ (fun z => hi z.1), up2_ne _ _ (fun z => hi z.1), up2_ne _ _ (fun z => hi z.1)]
def QY (g : Ge) (σ : Sg) (w u : Wv) (n : Nat) (K : Nat → Nat) : Sg → Prop := fun s => ∃ w' : Wv, s = S g σ w' ∧ XH g σ w' u n K ∧ NW w w'
theorem orF6 (f : Nat → Bool) {m : Nat} (h : m ≤ 6) : orF f 0 m 0 = orF (fun k => [f 0, f 1, f 2, f 3, f 4, f 5].getD k false) 0 m 0 := by
  rcases (show m = 0 ∨ m = 1 ∨ m = 2 ∨ m = 3 ∨ m = 4 ∨ m = 5 ∨ m = 6 by omega) with rfl | rfl | rfl | rfl | rfl | rfl | rfl <;> rfl
theorem orF_t : ∀ b0 b1 b2 b3 b4 b5 : Bool, ∀ m, m < 7 → ∀ p, p < m → (decide ((orF (fun k => [b0, b1, b2, b3, b4, b5].getD k false) 0 m 0 >>> (nI p &&& 31)) &&& 1 = 1)) = [b0, b1, b2, b3, b4, b5].getD p false := by decide +kernel
theorem see_bit {u : Wv} (hI : HI u) {r c p : Nat} (hp : p < nP u) : (seeS u r c >>> (nI p &&& 31)) &&& 1 = 1 ↔ hid u r c p = -1 := by
  have h6 := hI.points.2
  rw [seeS, orF6 _ h6]
  have h := orF_t (decide (hid u r c 0 = -1)) (decide (hid u r c 1 = -1)) (decide (hid u r c 2 = -1)) (decide (hid u r c 3 = -1)) (decide (hid u r c 4 = -1)) (decide (hid u r c 5 = -1)) (nP u) (by omega) p hp
  have e : [decide (hid u r c 0 = -1), decide (hid u r c 1 = -1), decide (hid u r c 2 = -1), decide (hid u r c 3 = -1), decide (hid u r c 4 = -1), decide (hid u r c 5 = -1)].getD p false = decide (hid u r c p = -1) := by
    rcases (show p = 0 ∨ p = 1 ∨ p = 2 ∨ p = 3 ∨ p = 4 ∨ p = 5 by omega) with rfl | rfl | rfl | rfl | rfl | rfl <;> rfl
  rw [e] at h
  exact decide_eq_decide.mp h
theorem sumF_acc (f : Nat → Int32) : ∀ (m k : Nat) (y : Int32), sumF f k m y = y + sumF f k m 0
  | 0, k, y => by rw [sumF, sumF, Int32.add_zero]
  | m + 1, k, y => by rw [sumF, sumF, sumF_acc f m (k + 1) (y + f k), sumF_acc f m (k + 1) (0 + f k), Int32.zero_add, Int32.add_assoc]
theorem c_X0_likes {E : En} {g : Ge} {σ : Sg} {w u : Wv} {n : Nat} {K : Nat → Nat} (hX : XH g σ w u n K) {r : Nat} (hr : r < n) (hI : HI u) (hE : HE u) (hT : HT u) (hR : TXR g σ u) {c p : Nat} (hc : c < 8) (hp : p < 6) : Ct E mX0_likes 402 [.ref (g.1 0), .ref (g.1 (60 + r)), .int (nI c), .int (nI p)] (.returned (some (.int (likeS u r c p))), S g σ (wNm w (nmF (u 114 p) (u 113 p) (nI r) (pl u r (nI c)) (fl u r) (so u r c)))) (S g σ w) := by
  show V E mX0_likes 402 _ 0 [some (.ref (g.1 0)), some (.ref (g.1 (60 + r))), some (.int (nI c)), some (.int (nI p))] [] (S g σ w)
  refine V.ald0 dX0_likes_0 (V.iconst_0 dX0_likes_1 (V.ald0 dX0_likes_2 (GX0_38 hX rfl dX0_likes_3 (V.ild3 dX0_likes_6 (aX8 hX (IX.n hp (by decide)) dX0_likes_7 (V.ald0 dX0_likes_8 (GX0_35 hX rfl dX0_likes_9 (V.ild3 dX0_likes_12 (aX7 hX (IX.n hp (by decide)) dX0_likes_13 (V.ald1 dX0_likes_14 (GX0_228 hX hr rfl dX0_likes_15 (V.ald1 dX0_likes_18 ?_))))))))))))
  exact V.ild2 dX0_likes_19 (rX0_183 hX hr rfl dX0_likes_20  (V.ald1 dX0_likes_23 (rX0_187 hX hr rfl dX0_likes_24  (V.ald1 dX0_likes_27 (GX0_177 hX hr rfl dX0_likes_28 (V.ild2 dX0_likes_31 (aXs hX hr (IX.n hc (by decide)) dX0_likes_32 (V.invV7r vX0_277 hX.t0 dX0_likes_33 (c_X0_says hX hT hR (p := 0) (by decide)) (V.iret dX0_likes_36 rfl rfl (rfl))))))))))

theorem likes_E {E : En} {g : Ge} {σ : Sg} {w u : Wv} {n : Nat} {K : Nat → Nat} (hX : XH g σ w u n K) {r : Nat} (hr : r < n)  (hI : HI u) (hE : HE u) (hT : HT u) (hR : TXR g σ u)  {c p : Nat} (hc : c < 8) (hp : p < 6) : CtE E mX0_likes 402 [.ref (g.1 0), .ref (g.1 (60 + r)), .int (nI c), .int (nI p)] (PR (.int (likeS u r c p)) (QY g σ w u n K)) (S g σ w) := ⟨_, ⟨rfl, _, rfl, hX.nm, NW.nm _ _⟩, c_X0_likes hX hr hI hE hT hR hc hp⟩
theorem c_X0_worthOf {E : En} {g : Ge} {σ : Sg} {w u : Wv} {n : Nat} {K : Nat → Nat} (hX : XH g σ w u n K) {r : Nat} (hr : r < n) (hI : HI u) (hE : HE u) (hT : HT u) (hR : TXR g σ u) {c : Nat} (hc : c < 8) : CtE E mX0_worthOf 403 [.ref (g.1 0), .ref (g.1 (60 + r)), .int (nI c)] (PR (.int (worS u r c)) (QY g σ w u n K)) (S g σ w) := by
  show VE E mX0_worthOf 403 _ 0 [some (.ref (g.1 0)), some (.ref (g.1 (60 + r))), some (.int (nI c)), none, none, none] [] (S g σ w)
  have hN : NW w w := NW.refl w
  have hP6 := hI.points.2
  have L13 : ∀ (m p : Nat) (y : Int32) (w1 : Wv), p + m = nP u → XH g σ w1 u n K → NW w w1 → VE E mX0_worthOf 403 (PR (.int (sumF (worT u r c) p m y)) (QY g σ w u n K)) 13 [some (.ref (g.1 0)), some (.ref (g.1 (60 + r))), some (.int (nI c)), some (.int (y)), some (.int (seeS u r c)), some (.int (nI p))] [] (S g σ w1) := by
    intro m
    induction m with
    | zero =>
      intro p y w1 hk hX hN
      refine VE.step (fun _ h => V.ild5 dX0_worthOf_13 (V.ald0 dX0_worthOf_15 (GX0_203 hX rfl dX0_worthOf_16 h))) ?_
      refine VE.icmp_ge (tgt := 50) dX0_worthOf_19 (by decide) (fun c_19 => ?_) (fun c_19 => absurd (by rw [hI.points.1]; exact nI_le (by omega) (by omega)) c_19)
      refine VE.step (fun _ h => V.ild3 dX0_worthOf_50 h) ?_
      exact VE.iret dX0_worthOf_51 rfl rfl (⟨rfl, _, rfl, hX, hN⟩)
    | succ m ih =>
      intro p y w1 hk hX hN
      refine VE.step (fun _ h => V.ild5 dX0_worthOf_13 (V.ald0 dX0_worthOf_15 (GX0_203 hX rfl dX0_worthOf_16 h))) ?_
      refine VE.icmp_ge (tgt := 50) dX0_worthOf_19 (by decide) (fun c_19 => absurd c_19 (by rw [hI.points.1]; first | exact nI_ge (by omega) (by omega) | exact fun h9 => absurd ((nI_leI (by omega) (by omega)).mp h9) (by omega))) (fun c_19 => ?_)
      refine VE.step (fun _ h => V.ild4 dX0_worthOf_22 (V.ild5 dX0_worthOf_24 (V.ishr dX0_worthOf_26 (V.iconst_1 dX0_worthOf_27 (V.iand dX0_worthOf_28 (V.iconst_1 dX0_worthOf_29 h)))))) ?_
      refine VE.icmp_ne (tgt := 44) dX0_worthOf_30 (by decide) (fun c_30 => ?_) (fun c_30 => ?_)
      · refine VE.step (fun _ h => V.inc5 dX0_worthOf_44 (V.goto (tgt := 13) dX0_worthOf_47 (by decide) h)) ?_
        rw [nI_1, sumF, worT]
        first
          | (rw [if_pos ((see_bit hI (by omega)).mp c_30)]; exact ih (p + 1) _ w1 (by omega) hX hN)
          | (rw [if_neg (fun z => c_30 ((see_bit hI (by omega)).mpr z)), Int32.add_zero]; exact ih (p + 1) _ w1 (by omega) hX hN)
      · refine VE.step (fun _ h => V.ild3 dX0_worthOf_33 (V.ald0 dX0_worthOf_34 (V.ald1 dX0_worthOf_35 (V.ild2 dX0_worthOf_36 (V.ild5 dX0_worthOf_37 h))))) ?_
        refine VE.invV3r vX0_281 hX.t0 dX0_worthOf_39 (likes_E hX hr hI hE hT hR hc (by omega)) (fun s9 q9 => ?_)
        obtain ⟨w1, rfl, hX, hN9⟩ := q9
        have hN := hN.trans hN9
        refine VE.step (fun _ h => V.iadd dX0_worthOf_42 (V.ist3 dX0_worthOf_43 (V.inc5 dX0_worthOf_44 (V.goto (tgt := 13) dX0_worthOf_47 (by decide) h)))) ?_
        rw [nI_1, sumF, worT]
        first
          | (rw [if_pos ((see_bit hI (by omega)).mp c_30)]; exact ih (p + 1) _ w1 (by omega) hX hN)
          | (rw [if_neg (fun z => c_30 ((see_bit hI (by omega)).mpr z)), Int32.add_zero]; exact ih (p + 1) _ w1 (by omega) hX hN)
  refine VE.step (fun _ h => V.iconst_0 dX0_worthOf_0 (V.ist3 dX0_worthOf_1 (V.ald0 dX0_worthOf_2 (V.ald1 dX0_worthOf_3 (V.ild2 dX0_worthOf_4 (V.invV2r vX0_260 hX.t0 dX0_worthOf_5 (c_X0_seenBy hX hr hI hE hc) (V.ist4 dX0_worthOf_8 (V.iconst_0 dX0_worthOf_10 (V.ist5 dX0_worthOf_11 h))))))))) ?_
  exact L13 (nP u) 0 _ _ (by omega) hX hN

theorem c_X0_rowWorth {E : En} {g : Ge} {σ : Sg} {w u : Wv} {n : Nat} {K : Nat → Nat} (hX : XH g σ w u n K) {r : Nat} (hr : r < n) (hI : HI u) (hE : HE u) (hT : HT u) (hR : TXR g σ u)  : CtE E mX0_rowWorth 404 [.ref (g.1 0), .ref (g.1 (60 + r))] (PR (.int (sumF (worS u r) 0 (nS u r) 0)) (QY g σ w u n K)) (S g σ w) := by
  show VE E mX0_rowWorth 404 _ 0 [some (.ref (g.1 0)), some (.ref (g.1 (60 + r))), none, none] [] (S g σ w)
  have hN : NW w w := NW.refl w
  have hS := hI.seats (hX.n6 hr)
  have L4 : ∀ (m c : Nat) (y : Int32) (w1 : Wv), c + m = nS u r → XH g σ w1 u n K → NW w w1 → VE E mX0_rowWorth 404 (PR (.int (sumF (worS u r) c m y)) (QY g σ w u n K)) 4 [some (.ref (g.1 0)), some (.ref (g.1 (60 + r))), some (.int (y)), some (.int (nI c))] [] (S g σ w1) := by
    intro m
    induction m with
    | zero =>
      intro c y w1 hk hX hN
      refine VE.step (fun _ h => V.ild3 dX0_rowWorth_4 (V.ald1 dX0_rowWorth_5 (GX0_154 hX hr rfl dX0_rowWorth_6 h))) ?_
      refine VE.icmp_ge (tgt := 27) dX0_rowWorth_9 (by decide) (fun c_9 => ?_) (fun c_9 => absurd (by rw [hS.1]; exact nI_le (by omega) (by omega)) c_9)
      refine VE.step (fun _ h => V.ild2 dX0_rowWorth_27 h) ?_
      exact VE.iret dX0_rowWorth_28 rfl rfl (⟨rfl, _, rfl, hX, hN⟩)
    | succ m ih =>
      intro c y w1 hk hX hN
      refine VE.step (fun _ h => V.ild3 dX0_rowWorth_4 (V.ald1 dX0_rowWorth_5 (GX0_154 hX hr rfl dX0_rowWorth_6 h))) ?_
      refine VE.icmp_ge (tgt := 27) dX0_rowWorth_9 (by decide) (fun c_9 => absurd c_9 (by rw [hS.1]; first | exact nI_ge (by omega) (by omega) | exact fun h9 => absurd ((nI_leI (by omega) (by omega)).mp h9) (by omega))) (fun c_9 => ?_)
      refine VE.step (fun _ h => V.ild2 dX0_rowWorth_12 (V.ald0 dX0_rowWorth_13 (V.ald1 dX0_rowWorth_14 (V.ild3 dX0_rowWorth_15 h)))) ?_
      refine VE.invV2r vX0_284 hX.t0 dX0_rowWorth_16 (c_X0_worthOf hX hr hI hE hT hR (by omega)) (fun s9 q9 => ?_)
      obtain ⟨w1, rfl, hX, hN9⟩ := q9
      have hN := hN.trans hN9
      refine VE.step (fun _ h => V.iadd dX0_rowWorth_19 (V.ist2 dX0_rowWorth_20 (V.inc3 dX0_rowWorth_21 (V.goto (tgt := 4) dX0_rowWorth_24 (by decide) h)))) ?_
      rw [nI_1, sumF]
      exact ih (c + 1) _ w1 (by omega) hX hN
  refine VE.step (fun _ h => V.iconst_0 dX0_rowWorth_0 (V.ist2 dX0_rowWorth_1 (V.iconst_0 dX0_rowWorth_2 (V.ist3 dX0_rowWorth_3 h)))) ?_
  exact L4 (nS u r) 0 _ _ (by omega) hX hN

theorem c_X0_allWorth {E : En} {g : Ge} {σ : Sg} {w u : Wv} {n : Nat} {K : Nat → Nat} (hX : XH g σ w u n K) (hI : HI u) (hE : HE u) (hT : HT u) (hR : TXR g σ u)  : CtE E mX0_allWorth 405 [.ref (g.1 0)] (PR (.int (allS u)) (QY g σ w u n K)) (S g σ w) := by
  show VE E mX0_allWorth 405 _ 0 [some (.ref (g.1 0)), none, none] [] (S g σ w)
  have hN : NW w w := NW.refl w
  have h6 := hX.2.2.1.1
  have hnr := hX.nrw
  have L4 : ∀ (m r : Nat) (y : Int32) (w1 : Wv), r + m = n → XH g σ w1 u n K → NW w w1 → VE E mX0_allWorth 405 (PR (.int (rowS (worS u) u r m y)) (QY g σ w u n K)) 4 [some (.ref (g.1 0)), some (.int (y)), some (.int (nI r))] [] (S g σ w1) := by
    intro m
    induction m with
    | zero =>
      intro r y w1 hk hX hN
      refine VE.step (fun _ h => V.ild2 dX0_allWorth_4 (V.ald0 dX0_allWorth_5 (GX0_22 hX rfl dX0_allWorth_6 (V.invV0r vX0_142 hX.li.2.1 dX0_allWorth_9 (c_J2_size hX) h)))) ?_
      refine VE.icmp_ge (tgt := 39) dX0_allWorth_12 (by decide) (fun c_12 => ?_) (fun c_12 => absurd (by exact nI_le (by omega) (by omega)) c_12)
      refine VE.step (fun _ h => V.ild1 dX0_allWorth_39 h) ?_
      exact VE.iret dX0_allWorth_40 rfl rfl (⟨rfl, _, rfl, hX, hN⟩)
    | succ m ih =>
      intro r y w1 hk hX hN
      have hr : r < n := by omega
      refine VE.step (fun _ h => V.ild2 dX0_allWorth_4 (V.ald0 dX0_allWorth_5 (GX0_22 hX rfl dX0_allWorth_6 (V.invV0r vX0_142 hX.li.2.1 dX0_allWorth_9 (c_J2_size hX) h)))) ?_
      refine VE.icmp_ge (tgt := 39) dX0_allWorth_12 (by decide) (fun c_12 => absurd c_12 (by first | exact nI_ge (by omega) (by omega) | exact fun h9 => absurd ((nI_leI (by omega) (by omega)).mp h9) (by omega))) (fun c_12 => ?_)
      refine VE.step (fun _ h => V.ild1 dX0_allWorth_15 (V.ald0 dX0_allWorth_16 (V.ald0 dX0_allWorth_17 (GX0_22 hX rfl dX0_allWorth_18 (V.ild2 dX0_allWorth_21 (V.invV1r vX0_150 hX.li.2.1 dX0_allWorth_22 (c_J2_get hX hr) (ccX0_122 hX hr rfl dX0_allWorth_25 h))))))) ?_
      refine VE.invV1r vX0_287 hX.t0 dX0_allWorth_28 (c_X0_rowWorth hX hr hI hE hT hR) (fun s9 q9 => ?_)
      obtain ⟨w1, rfl, hX, hN9⟩ := q9
      have hN := hN.trans hN9
      refine VE.step (fun _ h => V.iadd dX0_allWorth_31 (V.ist1 dX0_allWorth_32 (V.inc2 dX0_allWorth_33 (V.goto (tgt := 4) dX0_allWorth_36 (by decide) h)))) ?_
      rw [nI_1, rowS, sumF_acc]
      exact ih (r + 1) _ w1 (by omega) hX hN
  refine VE.step (fun _ h => V.iconst_0 dX0_allWorth_0 (V.ist1 dX0_allWorth_1 (V.iconst_0 dX0_allWorth_2 (V.ist2 dX0_allWorth_3 h)))) ?_
  rw [allS, hnr]
  exact L4 n 0 _ _ (by omega) hX hN

theorem c_X0_worth {E : En} {g : Ge} {σ : Sg} {w u : Wv} {n : Nat} {K : Nat → Nat} (hX : XH g σ w u n K) (hI : HI u) (hE : HE u) (hT : HT u) (hR : TXR g σ u) {r c : Int32} : CtE E mX0_worth 404 [.ref (g.1 0), .int r, .int c] (PR (.int (worthR u r c)) (QY g σ w u n K)) (S g σ w) := by
  show VE E mX0_worth 404 _ 0 [some (.ref (g.1 0)), some (.int r), some (.int c)] [] (S g σ w)
  have hN : NW w w := NW.refl w
  refine VE.step (fun _ h => V.ald0 dX0_worth_0 (V.ild1 dX0_worth_1 (V.ild2 dX0_worth_2 (V.invV2r vX0_173 hX.t0 dX0_worth_3 (c_X0_isSeat hX hI) h)))) ?_
  refine VE.ifb_eq (tgt := 28) dX0_worth_6 (by decide) (fun c_6 => ?_) (fun c_6 => ?_)
  · refine VE.step (fun _ h => V.bipush (v := (-5)) dX0_worth_28 (by decide) h) ?_
    exact VE.iret dX0_worth_30 rfl rfl (by first | (refine ⟨?_, _, rfl, hX, hN⟩; simp only [worthR, c_6, if_true, if_false, Bool.false_eq_true, eq_self, and_true, true_and, and_false, false_and, Bool.and_true, Bool.true_and, Bool.and_false, Bool.false_and, Bool.not_true, Bool.not_false, not_true_eq_false, not_false_eq_true, ne_eq, b2i_t, b2i_f]; done) | (refine ⟨?_, _, rfl, hX, hN⟩; simp only [worthR, c_6, e1, e2, if_true, if_false, Bool.false_eq_true, eq_self, and_true, true_and, and_false, false_and, Bool.and_true, Bool.true_and, Bool.and_false, Bool.false_and, Bool.not_true, Bool.not_false, not_true_eq_false, not_false_eq_true, ne_eq, b2i_t, b2i_f]; done) | (refine ⟨?_, _, rfl, hX, hN⟩; simp only [worthR, c_6, e1, e2, if_true, if_false, Bool.false_eq_true, eq_self, and_true, true_and, and_false, false_and, Bool.and_true, Bool.true_and, Bool.and_false, Bool.false_and, Bool.not_true, Bool.not_false, not_true_eq_false, not_false_eq_true, ne_eq, b2i_t, b2i_f]; rfl))
  · obtain ⟨i, j, hi, hj, hc, rfl, rfl, e1, e2⟩ := hX.se hI c_6
    refine VE.step (fun _ h => V.ald0 dX0_worth_9 (V.ald0 dX0_worth_10 (GX0_22 hX rfl dX0_worth_11 (V.ild1 dX0_worth_14 (V.invV1r vX0_150 hX.li.2.1 dX0_worth_15 (c_J2_get hX hi) (ccX0_122 hX hi rfl dX0_worth_18 (V.ild2 dX0_worth_21 h))))))) ?_
    refine VE.invV2r vX0_284 hX.t0 dX0_worth_22 (c_X0_worthOf hX hi hI hE hT hR hc) (fun s9 q9 => ?_)
    obtain ⟨w1, rfl, hX, hN9⟩ := q9
    have hN := hN.trans hN9
    refine VE.step (fun _ h => V.goto (tgt := 30) dX0_worth_25 (by decide) h) ?_
    exact VE.iret dX0_worth_30 rfl rfl (by first | (refine ⟨?_, _, rfl, hX, hN⟩; simp only [worthR, c_6, if_true, if_false, Bool.false_eq_true, eq_self, and_true, true_and, and_false, false_and, Bool.and_true, Bool.true_and, Bool.and_false, Bool.false_and, Bool.not_true, Bool.not_false, not_true_eq_false, not_false_eq_true, ne_eq, b2i_t, b2i_f]; done) | (refine ⟨?_, _, rfl, hX, hN⟩; simp only [worthR, c_6, e1, e2, if_true, if_false, Bool.false_eq_true, eq_self, and_true, true_and, and_false, false_and, Bool.and_true, Bool.true_and, Bool.and_false, Bool.false_and, Bool.not_true, Bool.not_false, not_true_eq_false, not_false_eq_true, ne_eq, b2i_t, b2i_f]; done) | (refine ⟨?_, _, rfl, hX, hN⟩; simp only [worthR, c_6, e1, e2, if_true, if_false, Bool.false_eq_true, eq_self, and_true, true_and, and_false, false_and, Bool.and_true, Bool.true_and, Bool.and_false, Bool.false_and, Bool.not_true, Bool.not_false, not_true_eq_false, not_false_eq_true, ne_eq, b2i_t, b2i_f]; rfl))

theorem says_E {E : En} {g : Ge} {σ : Sg} {w u : Wv} {n : Nat} {K : Nat → Nat} (hX : XH g σ w u n K) (hI : HI u) (hE : HE u) (hT : HT u) (hR : TXR g σ u)  {p : Nat} (hp : p < 3) {v h r x up k : Int32} : CtE E mX0_says 401 [.ref (g.1 0), .int (nI p), .int v, .int h, .int r, .int x, .int up, .int k] (PR (.int (sayF u p (if p = 0 then 99 else 999) (nmF v h r x up k))) (QY g σ w u n K)) (S g σ w) := ⟨_, ⟨rfl, _, rfl, hX.nm, NW.nm _ _⟩, c_X0_says hX hT hR hp⟩
theorem c_X0_price {E : En} {g : Ge} {σ : Sg} {w u : Wv} {n : Nat} {K : Nat → Nat} (hX : XH g σ w u n K) (hI : HI u) (hE : HE u) (hT : HT u) (hR : TXR g σ u) {r c : Int32} : CtE E mX0_price 404 [.ref (g.1 0), .int r, .int c] (PR (.int (priceR u r c)) (QY g σ w u n K)) (S g σ w) := by
  show VE E mX0_price 404 _ 0 [some (.ref (g.1 0)), some (.int r), some (.int c), none] [] (S g σ w)
  have hN : NW w w := NW.refl w
  refine VE.step (fun _ h => V.ald0 dX0_price_0 (V.ild1 dX0_price_1 (V.ild2 dX0_price_2 (V.invV2r vX0_173 hX.t0 dX0_price_3 (c_X0_isSeat hX hI) h)))) ?_
  refine VE.ifb_ne (tgt := 12) dX0_price_6 (by decide) (fun c_6 => ?_) (fun c_6 => ?_)
  · obtain ⟨i, j, hi, hj, hc, rfl, rfl, e1, e2⟩ := hX.se hI c_6
    refine VE.step (fun _ h => V.ald0 dX0_price_12 (GX0_22 hX rfl dX0_price_13 (V.ild1 dX0_price_16 (V.invV1r vX0_150 hX.li.2.1 dX0_price_17 (c_J2_get hX hi) (ccX0_122 hX hi rfl dX0_price_20 (V.ast3 dX0_price_23 (V.ald0 dX0_price_24 (V.iconst_1 dX0_price_25 (V.ald0 dX0_price_26 (V.ald3 dX0_price_27 (V.ild2 dX0_price_28 h))))))))))) ?_
    refine VE.invV2r vX0_284 hX.t0 dX0_price_29 (c_X0_worthOf hX hi hI hE hT hR hc) (fun s9 q9 => ?_)
    obtain ⟨w1, rfl, hX, hN9⟩ := q9
    have hN := hN.trans hN9
    refine VE.step (fun _ h => V.iconst_0 dX0_price_32 (V.ild1 dX0_price_33 (V.ald3 dX0_price_34 (V.ild2 dX0_price_35 (rX0_183 hX hi rfl dX0_price_36  (V.ald3 dX0_price_39 (rX0_187 hX hi rfl dX0_price_40  (V.ald3 dX0_price_43 (GX0_177 hX hi rfl dX0_price_44 (V.ild2 dX0_price_47 (aXs hX hi (IX.n hc (by decide)) dX0_price_48 h))))))))))) ?_
    refine VE.invV7r vX0_277 hX.t0 dX0_price_49 (says_E hX hI hE hT hR (p := 1) (by decide)) (fun s9 q9 => ?_)
    obtain ⟨w1, rfl, hX, hN9⟩ := q9
    have hN := hN.trans hN9
    exact VE.iret dX0_price_52 rfl rfl (by first | (refine ⟨?_, _, rfl, hX, hN⟩; simp only [priceR, priS, c_6, if_true, if_false, Bool.false_eq_true, eq_self, and_true, true_and, and_false, false_and, Bool.and_true, Bool.true_and, Bool.and_false, Bool.false_and, Bool.not_true, Bool.not_false, not_true_eq_false, not_false_eq_true, ne_eq, b2i_t, b2i_f]; done) | (refine ⟨?_, _, rfl, hX, hN⟩; simp only [priceR, priS, c_6, e1, e2, if_true, if_false, Bool.false_eq_true, eq_self, and_true, true_and, and_false, false_and, Bool.and_true, Bool.true_and, Bool.and_false, Bool.false_and, Bool.not_true, Bool.not_false, not_true_eq_false, not_false_eq_true, ne_eq, b2i_t, b2i_f]; done) | (refine ⟨?_, _, rfl, hX, hN⟩; simp only [priceR, priS, c_6, e1, e2, if_true, if_false, Bool.false_eq_true, eq_self, and_true, true_and, and_false, false_and, Bool.and_true, Bool.true_and, Bool.and_false, Bool.false_and, Bool.not_true, Bool.not_false, not_true_eq_false, not_false_eq_true, ne_eq, b2i_t, b2i_f]; rfl))
  · refine VE.step (fun _ h => V.bipush (v := (-5)) dX0_price_9 (by decide) h) ?_
    exact VE.iret dX0_price_11 rfl rfl (by first | (refine ⟨?_, _, rfl, hX, hN⟩; simp only [priceR, priS, c_6, if_true, if_false, Bool.false_eq_true, eq_self, and_true, true_and, and_false, false_and, Bool.and_true, Bool.true_and, Bool.and_false, Bool.false_and, Bool.not_true, Bool.not_false, not_true_eq_false, not_false_eq_true, ne_eq, b2i_t, b2i_f]; done) | (refine ⟨?_, _, rfl, hX, hN⟩; simp only [priceR, priS, c_6, e1, e2, if_true, if_false, Bool.false_eq_true, eq_self, and_true, true_and, and_false, false_and, Bool.and_true, Bool.true_and, Bool.and_false, Bool.false_and, Bool.not_true, Bool.not_false, not_true_eq_false, not_false_eq_true, ne_eq, b2i_t, b2i_f]; done) | (refine ⟨?_, _, rfl, hX, hN⟩; simp only [priceR, priS, c_6, e1, e2, if_true, if_false, Bool.false_eq_true, eq_self, and_true, true_and, and_false, false_and, Bool.and_true, Bool.true_and, Bool.and_false, Bool.false_and, Bool.not_true, Bool.not_false, not_true_eq_false, not_false_eq_true, ne_eq, b2i_t, b2i_f]; rfl))

theorem pri_nn {g : Ge} {σ : Sg} {w u : Wv} {n : Nat} {K : Nat → Nat} (hI : HI u) (hX : XH g σ w u n K) {r c : Nat} (hr : r < n) (hc : c < nS u r) : priceR u (nI r) (nI c) = priS u r c := by
  have h6 := hX.n6 hr
  have h8 := (hI.seats h6).2
  have e1 : cl (nI r) = r := cl_n (by omega)
  have e2 : cl (nI c) = c := cl_n (by omega)
  have hs : seB u (nI r) (nI c) = true := by
    rw [seB, e1, hX.rows, (hI.seats h6).1, (inB_n (by have := hX.2.2.1.1; omega)).mpr ⟨r, hr, rfl⟩, (inB_n (by omega)).mpr ⟨c, hc, rfl⟩]
    rfl
  rw [priceR, if_pos hs, e1, e2]
theorem c_X0_all {E : En} {g : Ge} {σ : Sg} {w u : Wv} {n : Nat} {K : Nat → Nat} (hX : XH g σ w u n K) (hI : HI u) (hE : HE u) (hT : HT u) (hR : TXR g σ u) {a : Int32} : CtE E mX0_all 405 [.ref (g.1 0), .int a] (PR (.int (allR u a)) (QY g σ w u n K)) (S g σ w) := by
  show VE E mX0_all 405 _ 0 [some (.ref (g.1 0)), some (.int a), none, none, none, none] [] (S g σ w)
  have hN : NW w w := NW.refl w
  have h6 := hX.2.2.1.1
  have hnr := hX.nrw
  have L19 : ∀ (m0 r : Nat) (y : Int32) (w1 : Wv) (z4 z5 : Option Value), r + m0 = n → XH g σ w1 u n K → NW w w1 → VE E mX0_all 405 (PR (.int (rowS (allT u a) u r m0 y)) (QY g σ w u n K)) 19 [some (.ref (g.1 0)), some (.int (a)), some (.int (y)), some (.int (nI r)), z4, z5] [] (S g σ w1) := by
    intro m0
    induction m0 with
    | zero =>
      intro r y w1 z4 z5 hk hX hN
      refine VE.step (fun _ h => V.ild3 dX0_all_19 (V.ald0 dX0_all_20 (GX0_22 hX rfl dX0_all_21 (V.invV0r vX0_142 hX.li.2.1 dX0_all_24 (c_J2_size hX) h)))) ?_
      refine VE.icmp_ge (tgt := 161) dX0_all_27 (by decide) (fun c_27 => ?_) (fun c_27 => absurd (by exact nI_le (by omega) (by omega)) c_27)
      refine VE.step (fun _ h => V.ild2 dX0_all_161 h) ?_
      exact VE.iret dX0_all_162 rfl rfl (⟨rfl, _, rfl, hX, hN⟩)
    | succ m0 ih =>
      intro r y w1 z4 z5 hk hX hN
      have hr : r < n := by omega
      have hS := hI.seats (hX.n6 hr)
      have L33 : ∀ (m9 c : Nat) (y : Int32) (w1 : Wv) (z : Option Value), c + m9 = nS u r → XH g σ w1 u n K → NW w w1 → VE E mX0_all 405 (PR (.int (rowS (allT u a) u (r + 1) m0 (sumF (allT u a r) c m9 y))) (QY g σ w u n K)) 33 [some (.ref (g.1 0)), some (.int (a)), some (.int (y)), some (.int (nI r)), some (.int (nI c)), z] [] (S g σ w1) := by
        intro m9
        induction m9 with
        | zero =>
          intro c y w1 z hk9 hX hN
          refine VE.step (fun _ h => V.ild4 dX0_all_33 (V.ald0 dX0_all_35 (GX0_22 hX rfl dX0_all_36 (V.ild3 dX0_all_39 (V.invV1r vX0_150 hX.li.2.1 dX0_all_40 (c_J2_get hX hr) (ccX0_122 hX hr rfl dX0_all_43 (GX0_154 hX hr rfl dX0_all_46 h))))))) ?_
          refine VE.icmp_ge (tgt := 155) dX0_all_49 (by decide) (fun c_49 => ?_) (fun c_49 => absurd (by rw [hS.1]; exact nI_le (by omega) (by omega)) c_49)
          refine VE.step (fun _ h => V.inc3 dX0_all_155 (V.goto (tgt := 19) dX0_all_158 (by decide) h)) ?_
          rw [nI_1]
          exact ih (r + 1) _ w1 _ _ (by omega) hX hN
        | succ m9 ih9 =>
          intro c y w1 z hk9 hX hN
          refine VE.step (fun _ h => V.ild4 dX0_all_33 (V.ald0 dX0_all_35 (GX0_22 hX rfl dX0_all_36 (V.ild3 dX0_all_39 (V.invV1r vX0_150 hX.li.2.1 dX0_all_40 (c_J2_get hX hr) (ccX0_122 hX hr rfl dX0_all_43 (GX0_154 hX hr rfl dX0_all_46 h))))))) ?_
          refine VE.icmp_ge (tgt := 155) dX0_all_49 (by decide) (fun c_49 => absurd c_49 (by rw [hS.1]; first | exact nI_ge (by omega) (by omega) | exact fun h9 => absurd ((nI_leI (by omega) (by omega)).mp h9) (by omega))) (fun c_49 => ?_)
          refine VE.step (fun _ h => V.ald0 dX0_all_52 (V.ald0 dX0_all_53 (GX0_22 hX rfl dX0_all_54 (V.ild3 dX0_all_57 (V.invV1r vX0_150 hX.li.2.1 dX0_all_58 (c_J2_get hX hr) (ccX0_122 hX hr rfl dX0_all_61 (V.ild4 dX0_all_64 (V.invV2r vX0_260 hX.t0 dX0_all_66 (c_X0_seenBy hX hr hI hE (by omega)) (V.ist5 dX0_all_69 (V.ild2 dX0_all_71 (V.ild1 dX0_all_72 h))))))))))) ?_
          refine VE.if_ne (tgt := 86) dX0_all_73 (by decide) (fun c_73 => ?_) (fun c_73 => ?_)
          · refine VE.step (fun _ h => V.ild1 dX0_all_86 (V.iconst_1 dX0_all_87 h)) ?_
            refine VE.icmp_ne (tgt := 111) dX0_all_88 (by decide) (fun c_88 => ?_) (fun c_88 => ?_)
            · refine VE.step (fun _ h => V.ild1 dX0_all_111 (V.iconst_2 dX0_all_112 h)) ?_
              refine VE.icmp_ne (tgt := 137) dX0_all_113 (by decide) (fun c_113 => ?_) (fun c_113 => ?_)
              · refine VE.step (fun _ h => V.ild5 dX0_all_137 h) ?_
                refine VE.if_ne (tgt := 146) dX0_all_139 (by decide) (fun c_139 => ?_) (fun c_139 => ?_)
                · refine VE.step (fun _ h => V.iconst_0 dX0_all_146 (V.iadd dX0_all_147 (V.ist2 dX0_all_148 (V.inc4 dX0_all_149 (V.goto (tgt := 33) dX0_all_152 (by decide) h))))) ?_
                  rw [nI_1, sumF]
                  first
                    | (rw [allT, if_pos c_73]; rw [pri_nn hI hX hr (by omega)]; exact ih9 (c + 1) _ w1 _ (by omega) hX hN)
                    | (rw [allT, if_neg c_73, if_pos c_88]; exact ih9 (c + 1) _ w1 _ (by omega) hX hN)
                    | (rw [allT, if_neg c_73, if_neg c_88, if_pos c_113, decide_eq_true (show seeS u r c = fullB u from c_126)]; exact ih9 (c + 1) _ w1 _ (by omega) hX hN)
                    | (rw [allT, if_neg c_73, if_neg c_88, if_pos c_113, decide_eq_false (show ¬ seeS u r c = fullB u from c_126)]; exact ih9 (c + 1) _ w1 _ (by omega) hX hN)
                    | (rw [allT, if_neg c_73, if_neg c_88, if_neg c_113, decide_eq_true c_139]; exact ih9 (c + 1) _ w1 _ (by omega) hX hN)
                    | (rw [allT, if_neg c_73, if_neg c_88, if_neg c_113, decide_eq_false c_139]; exact ih9 (c + 1) _ w1 _ (by omega) hX hN)
                · refine VE.step (fun _ h => V.iconst_1 dX0_all_142 (V.goto (tgt := 147) dX0_all_143 (by decide) (V.iadd dX0_all_147 (V.ist2 dX0_all_148 (V.inc4 dX0_all_149 (V.goto (tgt := 33) dX0_all_152 (by decide) h)))))) ?_
                  rw [nI_1, sumF]
                  first
                    | (rw [allT, if_pos c_73]; rw [pri_nn hI hX hr (by omega)]; exact ih9 (c + 1) _ w1 _ (by omega) hX hN)
                    | (rw [allT, if_neg c_73, if_pos c_88]; exact ih9 (c + 1) _ w1 _ (by omega) hX hN)
                    | (rw [allT, if_neg c_73, if_neg c_88, if_pos c_113, decide_eq_true (show seeS u r c = fullB u from c_126)]; exact ih9 (c + 1) _ w1 _ (by omega) hX hN)
                    | (rw [allT, if_neg c_73, if_neg c_88, if_pos c_113, decide_eq_false (show ¬ seeS u r c = fullB u from c_126)]; exact ih9 (c + 1) _ w1 _ (by omega) hX hN)
                    | (rw [allT, if_neg c_73, if_neg c_88, if_neg c_113, decide_eq_true c_139]; exact ih9 (c + 1) _ w1 _ (by omega) hX hN)
                    | (rw [allT, if_neg c_73, if_neg c_88, if_neg c_113, decide_eq_false c_139]; exact ih9 (c + 1) _ w1 _ (by omega) hX hN)
              · refine VE.step (fun _ h => V.ild5 dX0_all_116 (V.iconst_1 dX0_all_118 (V.ald0 dX0_all_119 (GX0_203 hX rfl dX0_all_120 (V.ishl dX0_all_123 (V.iconst_1 dX0_all_124 (V.isub dX0_all_125 h))))))) ?_
                refine VE.icmp_ne (tgt := 133) dX0_all_126 (by decide) (fun c_126 => ?_) (fun c_126 => ?_)
                · refine VE.step (fun _ h => V.iconst_0 dX0_all_133 (V.goto (tgt := 147) dX0_all_134 (by decide) (V.iadd dX0_all_147 (V.ist2 dX0_all_148 (V.inc4 dX0_all_149 (V.goto (tgt := 33) dX0_all_152 (by decide) h)))))) ?_
                  rw [nI_1, sumF]
                  first
                    | (rw [allT, if_pos c_73]; rw [pri_nn hI hX hr (by omega)]; exact ih9 (c + 1) _ w1 _ (by omega) hX hN)
                    | (rw [allT, if_neg c_73, if_pos c_88]; exact ih9 (c + 1) _ w1 _ (by omega) hX hN)
                    | (rw [allT, if_neg c_73, if_neg c_88, if_pos c_113, decide_eq_true (show seeS u r c = fullB u from c_126)]; exact ih9 (c + 1) _ w1 _ (by omega) hX hN)
                    | (rw [allT, if_neg c_73, if_neg c_88, if_pos c_113, decide_eq_false (show ¬ seeS u r c = fullB u from c_126)]; exact ih9 (c + 1) _ w1 _ (by omega) hX hN)
                    | (rw [allT, if_neg c_73, if_neg c_88, if_neg c_113, decide_eq_true c_139]; exact ih9 (c + 1) _ w1 _ (by omega) hX hN)
                    | (rw [allT, if_neg c_73, if_neg c_88, if_neg c_113, decide_eq_false c_139]; exact ih9 (c + 1) _ w1 _ (by omega) hX hN)
                · refine VE.step (fun _ h => V.iconst_1 dX0_all_129 (V.goto (tgt := 147) dX0_all_130 (by decide) (V.iadd dX0_all_147 (V.ist2 dX0_all_148 (V.inc4 dX0_all_149 (V.goto (tgt := 33) dX0_all_152 (by decide) h)))))) ?_
                  rw [nI_1, sumF]
                  first
                    | (rw [allT, if_pos c_73]; rw [pri_nn hI hX hr (by omega)]; exact ih9 (c + 1) _ w1 _ (by omega) hX hN)
                    | (rw [allT, if_neg c_73, if_pos c_88]; exact ih9 (c + 1) _ w1 _ (by omega) hX hN)
                    | (rw [allT, if_neg c_73, if_neg c_88, if_pos c_113, decide_eq_true (show seeS u r c = fullB u from c_126)]; exact ih9 (c + 1) _ w1 _ (by omega) hX hN)
                    | (rw [allT, if_neg c_73, if_neg c_88, if_pos c_113, decide_eq_false (show ¬ seeS u r c = fullB u from c_126)]; exact ih9 (c + 1) _ w1 _ (by omega) hX hN)
                    | (rw [allT, if_neg c_73, if_neg c_88, if_neg c_113, decide_eq_true c_139]; exact ih9 (c + 1) _ w1 _ (by omega) hX hN)
                    | (rw [allT, if_neg c_73, if_neg c_88, if_neg c_113, decide_eq_false c_139]; exact ih9 (c + 1) _ w1 _ (by omega) hX hN)
            · refine VE.step (fun _ h => V.ald0 dX0_all_91 (V.ald0 dX0_all_92 (GX0_22 hX rfl dX0_all_93 (V.ild3 dX0_all_96 (V.invV1r vX0_150 hX.li.2.1 dX0_all_97 (c_J2_get hX hr) (ccX0_122 hX hr rfl dX0_all_100 (V.ild4 dX0_all_103 h))))))) ?_
              refine VE.invV2r vX0_284 hX.t0 dX0_all_105 (c_X0_worthOf hX hr hI hE hT hR (by omega)) (fun s9 q9 => ?_)
              obtain ⟨w1, rfl, hX, hN9⟩ := q9
              have hN := hN.trans hN9
              refine VE.step (fun _ h => V.goto (tgt := 147) dX0_all_108 (by decide) (V.iadd dX0_all_147 (V.ist2 dX0_all_148 (V.inc4 dX0_all_149 (V.goto (tgt := 33) dX0_all_152 (by decide) h))))) ?_
              rw [nI_1, sumF]
              first
                | (rw [allT, if_pos c_73]; rw [pri_nn hI hX hr (by omega)]; exact ih9 (c + 1) _ w1 _ (by omega) hX hN)
                | (rw [allT, if_neg c_73, if_pos c_88]; exact ih9 (c + 1) _ w1 _ (by omega) hX hN)
                | (rw [allT, if_neg c_73, if_neg c_88, if_pos c_113, decide_eq_true (show seeS u r c = fullB u from c_126)]; exact ih9 (c + 1) _ w1 _ (by omega) hX hN)
                | (rw [allT, if_neg c_73, if_neg c_88, if_pos c_113, decide_eq_false (show ¬ seeS u r c = fullB u from c_126)]; exact ih9 (c + 1) _ w1 _ (by omega) hX hN)
                | (rw [allT, if_neg c_73, if_neg c_88, if_neg c_113, decide_eq_true c_139]; exact ih9 (c + 1) _ w1 _ (by omega) hX hN)
                | (rw [allT, if_neg c_73, if_neg c_88, if_neg c_113, decide_eq_false c_139]; exact ih9 (c + 1) _ w1 _ (by omega) hX hN)
          · refine VE.step (fun _ h => V.ald0 dX0_all_76 (V.ild3 dX0_all_77 (V.ild4 dX0_all_78 h))) ?_
            refine VE.invV2r vX0_291 hX.t0 dX0_all_80 (c_X0_price hX hI hE hT hR) (fun s9 q9 => ?_)
            obtain ⟨w1, rfl, hX, hN9⟩ := q9
            have hN := hN.trans hN9
            refine VE.step (fun _ h => V.goto (tgt := 147) dX0_all_83 (by decide) (V.iadd dX0_all_147 (V.ist2 dX0_all_148 (V.inc4 dX0_all_149 (V.goto (tgt := 33) dX0_all_152 (by decide) h))))) ?_
            rw [nI_1, sumF]
            first
              | (rw [allT, if_pos c_73]; rw [pri_nn hI hX hr (by omega)]; exact ih9 (c + 1) _ w1 _ (by omega) hX hN)
              | (rw [allT, if_neg c_73, if_pos c_88]; exact ih9 (c + 1) _ w1 _ (by omega) hX hN)
              | (rw [allT, if_neg c_73, if_neg c_88, if_pos c_113, decide_eq_true (show seeS u r c = fullB u from c_126)]; exact ih9 (c + 1) _ w1 _ (by omega) hX hN)
              | (rw [allT, if_neg c_73, if_neg c_88, if_pos c_113, decide_eq_false (show ¬ seeS u r c = fullB u from c_126)]; exact ih9 (c + 1) _ w1 _ (by omega) hX hN)
              | (rw [allT, if_neg c_73, if_neg c_88, if_neg c_113, decide_eq_true c_139]; exact ih9 (c + 1) _ w1 _ (by omega) hX hN)
              | (rw [allT, if_neg c_73, if_neg c_88, if_neg c_113, decide_eq_false c_139]; exact ih9 (c + 1) _ w1 _ (by omega) hX hN)
      refine VE.step (fun _ h => V.ild3 dX0_all_19 (V.ald0 dX0_all_20 (GX0_22 hX rfl dX0_all_21 (V.invV0r vX0_142 hX.li.2.1 dX0_all_24 (c_J2_size hX) h)))) ?_
      refine VE.icmp_ge (tgt := 161) dX0_all_27 (by decide) (fun c_27 => absurd c_27 (by first | exact nI_ge (by omega) (by omega) | exact fun h9 => absurd ((nI_leI (by omega) (by omega)).mp h9) (by omega))) (fun c_27 => ?_)
      refine VE.step (fun _ h => V.iconst_0 dX0_all_30 (V.ist4 dX0_all_31 h)) ?_
      rw [rowS]
      exact L33 (nS u r) 0 _ _ _ (by omega) hX hN
  refine VE.step (fun _ h => V.ild1 dX0_all_0 (V.i2l dX0_all_1 (V.lconst_0 dX0_all_2 (V.ldc2_w q805 dX0_all_3 (V.invS3r sX0_112 dX0_all_6 (in_c (lo := 0) (hi := 3) rfl rfl) h))))) ?_
  refine VE.ifb_ne (tgt := 15) dX0_all_9 (by decide) (fun c_9 => ?_) (fun c_9 => ?_)
  · refine VE.step (fun _ h => V.iconst_0 dX0_all_15 (V.ist2 dX0_all_16 (V.iconst_0 dX0_all_17 (V.ist3 dX0_all_18 h)))) ?_
    rw [allR, if_pos c_9, hnr]
    exact L19 n 0 _ _ _ _ (by omega) hX hN
  · refine VE.step (fun _ h => V.bipush (v := (-2)) dX0_all_12 (by decide) h) ?_
    exact VE.iret dX0_all_14 rfl rfl (⟨by simp only [allR, c_9, if_true, if_false, Bool.false_eq_true, eq_self, and_true, true_and, and_false, false_and, Bool.and_true, Bool.true_and, Bool.and_false, Bool.false_and, Bool.not_true, Bool.not_false, not_true_eq_false, not_false_eq_true, ne_eq, b2i_t, b2i_f], _, rfl, hX, hN⟩)

theorem rz {r : Nat} (h : nI r = 0) (h6 : r < 6) : r = 0 := (nI_eq (b := 0) (by omega) (by decide)).mp h
theorem c_X0_stepCost {E : En} {g : Ge} {σ : Sg} {w u : Wv} {n : Nat} {K : Nat → Nat} (hX : XH g σ w u n K) (hI : HI u) (hE : HE u) (hT : HT u) (hR : TXR g σ u) {r : Nat} (hr : r < n)  : CtE E mX0_stepCost 402 [.ref (g.1 0), .int (nI r)] (PR (.int (cosT u r)) (QY g σ w u n K)) (S g σ w) := by
  show VE E mX0_stepCost 402 _ 0 [some (.ref (g.1 0)), some (.int (nI r)), none] [] (S g σ w)
  have hN : NW w w := NW.refl w
  refine VE.step (fun _ h => V.ald0 dX0_stepCost_0 (GX0_26 hX rfl dX0_stepCost_1 (V.ild1 dX0_stepCost_4 (aX4 hX (IX.n (hX.n6 hr) (by decide)) dX0_stepCost_5 (V.ild1 dX0_stepCost_6 h))))) ?_
  refine VE.if_ne (tgt := 14) dX0_stepCost_7 (by decide) (fun c_7 => ?_) (fun c_7 => ?_)
  · refine VE.step (fun _ h => V.ald0 dX0_stepCost_14 (GX0_26 hX rfl dX0_stepCost_15 (V.ild1 dX0_stepCost_18 (V.iconst_1 dX0_stepCost_19 (V.isub dX0_stepCost_20 (aX4 (j := r - 1) hX (IX.of (nI_prd c_7).1 (by have := hX.n6 hr; omega) (by decide)) dX0_stepCost_21 (V.isub dX0_stepCost_22 (V.ist2 dX0_stepCost_23 (V.ild2 dX0_stepCost_24 h))))))))) ?_
    refine VE.if_ne (tgt := 32) dX0_stepCost_25 (by decide) (fun c_25 => ?_) (fun c_25 => ?_)
    · refine VE.step (fun _ h => V.ald0 dX0_stepCost_32 (V.iconst_2 dX0_stepCost_33 (V.iconst_0 dX0_stepCost_34 (V.ild2 dX0_stepCost_35 (V.ild1 dX0_stepCost_36 (V.iconst_0 dX0_stepCost_37 (V.ald0 dX0_stepCost_38 (GX0_26 hX rfl dX0_stepCost_39 (V.ild1 dX0_stepCost_42 (aX4 hX (IX.n (hX.n6 hr) (by decide)) dX0_stepCost_43 (V.iconst_0 dX0_stepCost_44 h))))))))))) ?_
      refine VE.invV7r vX0_277 hX.t0 dX0_stepCost_45 (says_E hX hI hE hT hR (p := 2) (by decide)) (fun s9 q9 => ?_)
      obtain ⟨w1, rfl, hX, hN9⟩ := q9
      have hN := hN.trans hN9
      exact VE.iret dX0_stepCost_48 rfl rfl (by first | (exact ⟨by rw [cosT, if_pos (show stpS u r = 0 by unfold stpS; first | (rw [if_pos (rz c_7 (hX.n6 hr))]; exact c_25) | (rw [if_neg (nI_prd c_7).2]; exact c_25))], _, rfl, hX, hN⟩) | (exact ⟨by rw [cosT, if_neg (show ¬ stpS u r = 0 by unfold stpS; first | (rw [if_pos (rz c_7 (hX.n6 hr))]; exact c_25) | (rw [if_neg (nI_prd c_7).2]; exact c_25))]; unfold stpS; first | (rw [if_pos (rz c_7 (hX.n6 hr))]; rfl) | (rw [if_neg (nI_prd c_7).2]; rfl), _, rfl, hX, hN⟩))
    · refine VE.step (fun _ h => V.iconst_0 dX0_stepCost_28 (V.goto (tgt := 48) dX0_stepCost_29 (by decide) h)) ?_
      exact VE.iret dX0_stepCost_48 rfl rfl (by first | (exact ⟨by rw [cosT, if_pos (show stpS u r = 0 by unfold stpS; first | (rw [if_pos (rz c_7 (hX.n6 hr))]; exact c_25) | (rw [if_neg (nI_prd c_7).2]; exact c_25))], _, rfl, hX, hN⟩) | (exact ⟨by rw [cosT, if_neg (show ¬ stpS u r = 0 by unfold stpS; first | (rw [if_pos (rz c_7 (hX.n6 hr))]; exact c_25) | (rw [if_neg (nI_prd c_7).2]; exact c_25))]; unfold stpS; first | (rw [if_pos (rz c_7 (hX.n6 hr))]; rfl) | (rw [if_neg (nI_prd c_7).2]; rfl), _, rfl, hX, hN⟩))
  · refine VE.step (fun _ h => V.iconst_0 dX0_stepCost_10 (V.goto (tgt := 22) dX0_stepCost_11 (by decide) (V.isub dX0_stepCost_22 (V.ist2 dX0_stepCost_23 (V.ild2 dX0_stepCost_24 h))))) ?_
    refine VE.if_ne (tgt := 32) dX0_stepCost_25 (by decide) (fun c_25 => ?_) (fun c_25 => ?_)
    · refine VE.step (fun _ h => V.ald0 dX0_stepCost_32 (V.iconst_2 dX0_stepCost_33 (V.iconst_0 dX0_stepCost_34 (V.ild2 dX0_stepCost_35 (V.ild1 dX0_stepCost_36 (V.iconst_0 dX0_stepCost_37 (V.ald0 dX0_stepCost_38 (GX0_26 hX rfl dX0_stepCost_39 (V.ild1 dX0_stepCost_42 (aX4 hX (IX.n (hX.n6 hr) (by decide)) dX0_stepCost_43 (V.iconst_0 dX0_stepCost_44 h))))))))))) ?_
      refine VE.invV7r vX0_277 hX.t0 dX0_stepCost_45 (says_E hX hI hE hT hR (p := 2) (by decide)) (fun s9 q9 => ?_)
      obtain ⟨w1, rfl, hX, hN9⟩ := q9
      have hN := hN.trans hN9
      exact VE.iret dX0_stepCost_48 rfl rfl (by first | (exact ⟨by rw [cosT, if_pos (show stpS u r = 0 by unfold stpS; first | (rw [if_pos (rz c_7 (hX.n6 hr))]; exact c_25) | (rw [if_neg (nI_prd c_7).2]; exact c_25))], _, rfl, hX, hN⟩) | (exact ⟨by rw [cosT, if_neg (show ¬ stpS u r = 0 by unfold stpS; first | (rw [if_pos (rz c_7 (hX.n6 hr))]; exact c_25) | (rw [if_neg (nI_prd c_7).2]; exact c_25))]; unfold stpS; first | (rw [if_pos (rz c_7 (hX.n6 hr))]; rfl) | (rw [if_neg (nI_prd c_7).2]; rfl), _, rfl, hX, hN⟩))
    · refine VE.step (fun _ h => V.iconst_0 dX0_stepCost_28 (V.goto (tgt := 48) dX0_stepCost_29 (by decide) h)) ?_
      exact VE.iret dX0_stepCost_48 rfl rfl (by first | (exact ⟨by rw [cosT, if_pos (show stpS u r = 0 by unfold stpS; first | (rw [if_pos (rz c_7 (hX.n6 hr))]; exact c_25) | (rw [if_neg (nI_prd c_7).2]; exact c_25))], _, rfl, hX, hN⟩) | (exact ⟨by rw [cosT, if_neg (show ¬ stpS u r = 0 by unfold stpS; first | (rw [if_pos (rz c_7 (hX.n6 hr))]; exact c_25) | (rw [if_neg (nI_prd c_7).2]; exact c_25))]; unfold stpS; first | (rw [if_pos (rz c_7 (hX.n6 hr))]; rfl) | (rw [if_neg (nI_prd c_7).2]; rfl), _, rfl, hX, hN⟩))

theorem c_X0_costs {E : En} {g : Ge} {σ : Sg} {w u : Wv} {n : Nat} {K : Nat → Nat} (hX : XH g σ w u n K) (hI : HI u) (hE : HE u) (hT : HT u) (hR : TXR g σ u)  : CtE E mX0_costs 403 [.ref (g.1 0)] (PR (.int (cosS u)) (QY g σ w u n K)) (S g σ w) := by
  show VE E mX0_costs 403 _ 0 [some (.ref (g.1 0)), none, none] [] (S g σ w)
  have hN : NW w w := NW.refl w
  have h6 := hX.2.2.1.1
  have hnr := hX.nrw
  have L4 : ∀ (m r : Nat) (y : Int32) (w1 : Wv), r + m = n → XH g σ w1 u n K → NW w w1 → VE E mX0_costs 403 (PR (.int (sumF (cosT u) r m y)) (QY g σ w u n K)) 4 [some (.ref (g.1 0)), some (.int (y)), some (.int (nI r))] [] (S g σ w1) := by
    intro m
    induction m with
    | zero =>
      intro r y w1 hk hX hN
      refine VE.step (fun _ h => V.ild2 dX0_costs_4 (V.ald0 dX0_costs_5 (GX0_22 hX rfl dX0_costs_6 (V.invV0r vX0_142 hX.li.2.1 dX0_costs_9 (c_J2_size hX) h)))) ?_
      refine VE.icmp_ge (tgt := 29) dX0_costs_12 (by decide) (fun c_12 => ?_) (fun c_12 => absurd (by exact nI_le (by omega) (by omega)) c_12)
      refine VE.step (fun _ h => V.ild1 dX0_costs_29 h) ?_
      exact VE.iret dX0_costs_30 rfl rfl (⟨rfl, _, rfl, hX, hN⟩)
    | succ m ih =>
      intro r y w1 hk hX hN
      have hr : r < n := by omega
      refine VE.step (fun _ h => V.ild2 dX0_costs_4 (V.ald0 dX0_costs_5 (GX0_22 hX rfl dX0_costs_6 (V.invV0r vX0_142 hX.li.2.1 dX0_costs_9 (c_J2_size hX) h)))) ?_
      refine VE.icmp_ge (tgt := 29) dX0_costs_12 (by decide) (fun c_12 => absurd c_12 (by first | exact nI_ge (by omega) (by omega) | exact fun h9 => absurd ((nI_leI (by omega) (by omega)).mp h9) (by omega))) (fun c_12 => ?_)
      refine VE.step (fun _ h => V.ild1 dX0_costs_15 (V.ald0 dX0_costs_16 (V.ild2 dX0_costs_17 h))) ?_
      refine VE.invV1r vX0_294 hX.t0 dX0_costs_18 (c_X0_stepCost hX hI hE hT hR hr) (fun s9 q9 => ?_)
      obtain ⟨w1, rfl, hX, hN9⟩ := q9
      have hN := hN.trans hN9
      refine VE.step (fun _ h => V.iadd dX0_costs_21 (V.ist1 dX0_costs_22 (V.inc2 dX0_costs_23 (V.goto (tgt := 4) dX0_costs_26 (by decide) h)))) ?_
      rw [nI_1, sumF]
      exact ih (r + 1) _ w1 (by omega) hX hN
  refine VE.step (fun _ h => V.iconst_0 dX0_costs_0 (V.ist1 dX0_costs_1 (V.iconst_0 dX0_costs_2 (V.ist2 dX0_costs_3 h)))) ?_
  rw [cosS, hnr]
  exact L4 n 0 _ _ (by omega) hX hN

theorem c_X0_cost {E : En} {g : Ge} {σ : Sg} {w u : Wv} {n : Nat} {K : Nat → Nat} (hX : XH g σ w u n K) (hI : HI u) (hE : HE u) (hT : HT u) (hR : TXR g σ u)  : CtE E mX0_cost 404 [.ref (g.1 0)] (PR (.int (cosS u)) (QY g σ w u n K)) (S g σ w) := by
  show VE E mX0_cost 404 _ 0 [some (.ref (g.1 0))] [] (S g σ w)
  have hN : NW w w := NW.refl w
  refine VE.step (fun _ h => V.ald0 dX0_cost_0 h) ?_
  refine VE.invV0r vX0_297 hX.t0 dX0_cost_1 (c_X0_costs hX hI hE hT hR) (fun s9 q9 => ?_)
  obtain ⟨w1, rfl, hX, hN9⟩ := q9
  have hN := hN.trans hN9
  exact VE.iret dX0_cost_4 rfl rfl (⟨rfl, _, rfl, hX, hN⟩)

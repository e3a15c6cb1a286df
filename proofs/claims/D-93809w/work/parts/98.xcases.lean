set_option maxRecDepth 100000
set_option maxHeartbeats 4000000
/-! ===== x's calls in the law ===== -/
def EF (E : En) : Prop := JS E ∧ EU E
section
variable {E : En} {X : Ge} {M : Nat} {σ : Sg} {wx u wm : Wv} {n : Nat} {K : Nat → Nat}
theorem LV.na (h : LV E X M σ wx u wm n K) (hB : sN σ < 2000000) : NA X (sN σ) := h.2.2.1.2.1.na hB
theorem LV.na1 (h : LV E X M σ wx u wm n K) (hB : sN σ + 1 < 2000000) : NA X (sN σ + 1) := fun k hk z => by rcases h.2.2.1.2.1 k hk with h9 | h9 <;> omega
theorem XQ.l (h : LV E X M σ wx u wm n K) {x : Int64} {wx' u' : Wv} (hX : XH X (S (mG M) σ wm) wx' u' n K) : XQ E X M σ wm u' (S X (pL (S (mG M) σ wm) (X.1 0) 16 x) wx') := by
  obtain ⟨⟨hX0, h1⟩, ⟨hW, hHW, hA⟩, h3, h4, h5⟩ := h
  have hne : (mG M).1 145 ≠ X.1 0 := fun z => h3.2.2.2 0 (hX0.1.2.1.1 0 (by decide)) 145 (hW.2.1 145 (by decide) (by decide)) z.symm
  refine ⟨X, pL σ (X.1 0) 16 x, wx', n, K, GE.rfl, ⟨⟨hX, h1.1, h1.2.1, h1.2.2.1, h1.2.2.2.1, h1.2.2.2.2.k KT.pL⟩, ⟨hW, fun k hk => ?_, hA⟩, h3, h4, h5⟩, rfl, ⟨Nat.le_refl _, Nat.le_add_right _ _⟩, Nat.le_refl _, Nat.le_add_right _ _⟩
  exact (congrFun (up2_at (sL σ) x hne) k).trans (hHW k hk)
theorem x_sort (h : LV E X M σ wx wm wm n K) (hF : EF E) (hB : sN σ + 4000 < 2000000) {a1 : Int32} {a2 : Int32} {a3 : Int32} : CtE E mX0_sort 1 [.ref (X.1 0), .int a1, .int a2, .int a3] (PR (.int (sortR wm a1 a2 a3)) (XQ E X M σ wm (sortW wm a1 a2 a3))) (S X (S (mG M) σ wm) wx) := by
  have hX : XH X (S (mG M) σ wm) wx wm n K := h.1.1
  exact (c_X0_sort hX).w (fun o s ⟨e, w', hs, hX'⟩ => ⟨e, hs ▸ XQ.i h hX'⟩)
theorem x_set (h : LV E X M σ wx wm wm n K) (hF : EF E) (hB : sN σ + 4000 < 2000000) {a1 : Int32} {a2 : Int32} {a3 : Int32} : CtE E mX0_set 2 [.ref (X.1 0), .int a1, .int a2, .int a3] (PR (.int (setR wm a1 a2 a3)) (XQ E X M σ wm (setW wm a1 a2 a3))) (S X (S (mG M) σ wm) wx) := by
  have hX : XH X (S (mG M) σ wm) wx wm n K := h.1.1
  exact (c_X0_set hX h.2.1.2.2.I).w (fun o s ⟨e, w', hs, hX'⟩ => ⟨e, hs ▸ XQ.i h hX'⟩)
theorem x_sit (h : LV E X M σ wx wm wm n K) (hF : EF E) (hB : sN σ + 4000 < 2000000) {a1 : Int32} {a2 : Int32} {a3 : Int32} : CtE E mX0_sit 4 [.ref (X.1 0), .int a1, .int a2, .int a3] (PR (.int (sitR wm a1 a2 a3)) (XQ E X M σ wm (sitW wm a1 a2 a3))) (S X (S (mG M) σ wm) wx) := by
  have hX : XH X (S (mG M) σ wm) wx wm n K := h.1.1
  exact (c_X0_sit hX h.2.1.2.2.I).w (fun o s ⟨e, w', hs, hX'⟩ => ⟨e, hs ▸ XQ.i h hX'⟩)
theorem x_told (h : LV E X M σ wx wm wm n K) (hF : EF E) (hB : sN σ + 4000 < 2000000) {a1 : Int32} {a2 : Int32} {a3 : Int32} : CtE E mX0_told 4 [.ref (X.1 0), .int a1, .int a2, .int a3] (PR (.int (toldR wm a1 a2 a3)) (XQ E X M σ wm wm)) (S X (S (mG M) σ wm) wx) := by
  have hX : XH X (S (mG M) σ wm) wx wm n K := h.1.1
  exact (c_X0_told hX h.2.1.2.2.I h.2.1.2.2.E h.2.1.2.2.H).e ⟨rfl, XQ.i h hX⟩
theorem x_point (h : LV E X M σ wx wm wm n K) (hF : EF E) (hB : sN σ + 4000 < 2000000) {a1 : Int32} {a2 : Int32} {a3 : Int32} : CtE E mX0_point 1 [.ref (X.1 0), .int a1, .int a2, .int a3] (PR (.int (pointR wm a1 a2 a3)) (XQ E X M σ wm (pointW wm a1 a2 a3))) (S X (S (mG M) σ wm) wx) := by
  have hX : XH X (S (mG M) σ wm) wx wm n K := h.1.1
  exact (c_X0_point hX h.2.1.2.2.I).w (fun o s ⟨e, w', hs, hX'⟩ => ⟨e, hs ▸ XQ.i h hX'⟩)
theorem x_post (h : LV E X M σ wx wm wm n K) (hF : EF E) (hB : sN σ + 4000 < 2000000) {a1 : Int32} {a2 : Int32} : CtE E mX0_post 1 [.ref (X.1 0), .int a1, .int a2] (PR (.int (postR wm a1 a2)) (XQ E X M σ wm (postW wm a1 a2))) (S X (S (mG M) σ wm) wx) := by
  have hX : XH X (S (mG M) σ wm) wx wm n K := h.1.1
  exact (c_X0_post hX h.2.1.2.2.I).w (fun o s ⟨e, w', hs, hX'⟩ => ⟨e, hs ▸ XQ.i h hX'⟩)
theorem x_moves (h : LV E X M σ wx wm wm n K) (hF : EF E) (hB : sN σ + 4000 < 2000000) {a1 : Int32} {a2 : Int32} {a3 : Int32} : CtE E mX0_moves 1 [.ref (X.1 0), .int a1, .int a2, .int a3] (PR (.int (movesR wm a1 a2 a3)) (XQ E X M σ wm (movesW wm a1 a2 a3))) (S X (S (mG M) σ wm) wx) := by
  have hX : XH X (S (mG M) σ wm) wx wm n K := h.1.1
  exact (c_X0_moves hX h.2.1.2.2.I).w (fun o s ⟨e, w', hs, hX'⟩ => ⟨e, hs ▸ XQ.i h hX'⟩)
theorem x_count (h : LV E X M σ wx wm wm n K) (hF : EF E) (hB : sN σ + 4000 < 2000000) {a1 : Int32} : CtE E mX0_count 1 [.ref (X.1 0), .int a1] (PR (.int (countR wm a1)) (XQ E X M σ wm wm)) (S X (S (mG M) σ wm) wx) := by
  have hX : XH X (S (mG M) σ wm) wx wm n K := h.1.1
  exact (c_X0_count hX).e ⟨rfl, XQ.i h hX⟩
theorem x_force (h : LV E X M σ wx wm wm n K) (hF : EF E) (hB : sN σ + 4000 < 2000000) {a1 : Int32} : CtE E mX0_force 1 [.ref (X.1 0), .int a1] (PR (.int (forceR wm a1)) (XQ E X M σ wm (forceW wm a1))) (S X (S (mG M) σ wm) wx) := by
  have hX : XH X (S (mG M) σ wm) wx wm n K := h.1.1
  exact (c_X0_force hX h.2.1.2.2.T).w (fun o s ⟨e, w', hs, hX'⟩ => ⟨e, hs ▸ XQ.i h hX'⟩)
theorem x_hidden (h : LV E X M σ wx wm wm n K) (hF : EF E) (hB : sN σ + 4000 < 2000000) {a1 : Int32} {a2 : Int32} {a3 : Int32} : CtE E mX0_hidden 6 [.ref (X.1 0), .int a1, .int a2, .int a3] (PR (.int (hiddenR wm a1 a2 a3)) (XQ E X M σ wm wm)) (S X (S (mG M) σ wm) wx) := by
  have hX : XH X (S (mG M) σ wm) wx wm n K := h.1.1
  exact (c_X0_hidden hX h.2.1.2.2.I h.2.1.2.2.E).e ⟨rfl, XQ.i h hX⟩
theorem x_sees (h : LV E X M σ wx wm wm n K) (hF : EF E) (hB : sN σ + 4000 < 2000000) {a1 : Int32} {a2 : Int32} : CtE E mX0_sees 7 [.ref (X.1 0), .int a1, .int a2] (PR (.int (seesR wm a1 a2)) (XQ E X M σ wm wm)) (S X (S (mG M) σ wm) wx) := by
  have hX : XH X (S (mG M) σ wm) wx wm n K := h.1.1
  exact (c_X0_sees hX h.2.1.2.2.I h.2.1.2.2.E).e ⟨rfl, XQ.i h hX⟩
theorem x_worth (h : LV E X M σ wx wm wm n K) (hF : EF E) (hB : sN σ + 4000 < 2000000) {a1 : Int32} {a2 : Int32} : CtE E mX0_worth 404 [.ref (X.1 0), .int a1, .int a2] (PR (.int (worthR wm a1 a2)) (XQ E X M σ wm wm)) (S X (S (mG M) σ wm) wx) := by
  have hX : XH X (S (mG M) σ wm) wx wm n K := h.1.1
  exact (c_X0_worth hX h.2.1.2.2.I h.2.1.2.2.E h.2.1.2.2.T (h.R (by omega))).w (fun o s ⟨e, w', hs, hX', _⟩ => ⟨e, hs ▸ XQ.i h hX'⟩)
theorem x_price (h : LV E X M σ wx wm wm n K) (hF : EF E) (hB : sN σ + 4000 < 2000000) {a1 : Int32} {a2 : Int32} : CtE E mX0_price 404 [.ref (X.1 0), .int a1, .int a2] (PR (.int (priceR wm a1 a2)) (XQ E X M σ wm wm)) (S X (S (mG M) σ wm) wx) := by
  have hX : XH X (S (mG M) σ wm) wx wm n K := h.1.1
  exact (c_X0_price hX h.2.1.2.2.I h.2.1.2.2.E h.2.1.2.2.T (h.R (by omega))).w (fun o s ⟨e, w', hs, hX', _⟩ => ⟨e, hs ▸ XQ.i h hX'⟩)
theorem x_all (h : LV E X M σ wx wm wm n K) (hF : EF E) (hB : sN σ + 4000 < 2000000) {a1 : Int32} : CtE E mX0_all 405 [.ref (X.1 0), .int a1] (PR (.int (allR wm a1)) (XQ E X M σ wm wm)) (S X (S (mG M) σ wm) wx) := by
  have hX : XH X (S (mG M) σ wm) wx wm n K := h.1.1
  exact (c_X0_all hX h.2.1.2.2.I h.2.1.2.2.E h.2.1.2.2.T (h.R (by omega))).w (fun o s ⟨e, w', hs, hX', _⟩ => ⟨e, hs ▸ XQ.i h hX'⟩)
theorem x_cost (h : LV E X M σ wx wm wm n K) (hF : EF E) (hB : sN σ + 4000 < 2000000) : CtE E mX0_cost 404 [.ref (X.1 0)] (PR (.int (cosS wm)) (XQ E X M σ wm wm)) (S X (S (mG M) σ wm) wx) := by
  have hX : XH X (S (mG M) σ wm) wx wm n K := h.1.1
  exact (c_X0_cost hX h.2.1.2.2.I h.2.1.2.2.E h.2.1.2.2.T (h.R (by omega))).w (fun o s ⟨e, w', hs, hX', _⟩ => ⟨e, hs ▸ XQ.i h hX'⟩)
theorem x_lawful (h : LV E X M σ wx wm wm n K) (hF : EF E) (hB : sN σ + 4000 < 2000000) {a1 : Int32} : CtE E mX0_lawful 1 [.ref (X.1 0), .int a1] (PR (.int (lawfulR wm a1)) (XQ E X M σ wm wm)) (S X (S (mG M) σ wm) wx) := by
  have hX : XH X (S (mG M) σ wm) wx wm n K := h.1.1
  exact (c_X0_lawful hX h.2.1.2.2.E).e ⟨rfl, XQ.i h hX⟩
theorem x_judge (h : LV E X M σ wx wm wm n K) (hF : EF E) (hB : sN σ + 4000 < 2000000) {a1 : Int32} : CtE E mX0_judge 8 [.ref (X.1 0), .int a1] (PR (.int (judgeR wm a1)) (XQ E X M σ wm wm)) (S X (S (mG M) σ wm) wx) := by
  have hX : XH X (S (mG M) σ wm) wx wm n K := h.1.1
  exact (c_X0_judge hX h.2.1.2.2.I h.2.1.2.2.E h.2.1.2.2.S).w (fun o s ⟨e, w', hs, hX'⟩ => ⟨e, hs ▸ XQ.i h hX'⟩)
theorem x_chance (h : LV E X M σ wx wm wm n K) (hF : EF E) (hB : sN σ + 4000 < 2000000) {a1 : Int32} {a2 : Int32} {a3 : Int32} {a4 : Int32} : CtE E mX0_chance 6 [.ref (X.1 0), .int a1, .int a2, .int a3, .int a4] (PR (.long (chanceR wm a1 a2 a3 a4)) (XQ E X M σ wm wm)) (S X (S (mG M) σ wm) wx) := by
  have hX : XH X (S (mG M) σ wm) wx wm n K := h.1.1
  exact (c_X0_chance hX h.2.1.2.2.I h.2.1.2.2.E).w (fun o s ⟨e, w', x, hs, hX'⟩ => ⟨e, hs ▸ XQ.l h hX'⟩)
theorem x_mean (h : LV E X M σ wx wm wm n K) (hF : EF E) (hB : sN σ + 4000 < 2000000) {a1 : Int32} {a2 : Int32} {a3 : Int32} : CtE E mX0_mean 403 [.ref (X.1 0), .int a1, .int a2, .int a3] (PR (.long (meanR wm a1 a2 a3)) (XQ E X M σ wm wm)) (S X (S (mG M) σ wm) wx) := by
  have hX : XH X (S (mG M) σ wm) wx wm n K := h.1.1
  exact (c_X0_mean hX h.2.1.2.2.I h.2.1.2.2.E h.2.1.2.2.T (h.R (by omega))).w (fun o s ⟨e, w', x, hs, hX'⟩ => ⟨e, hs ▸ XQ.l h hX'⟩)
theorem x_tall (h : LV E X M σ wx wm wm n K) (hF : EF E) (hB : sN σ + 4000 < 2000000) {a1 : Int32} : CtE E mX0_tall 406 [.ref (X.1 0), .int a1] (PR (.int (tallR wm a1)) (XQ E X M σ wm wm)) (S X (S (mG M) σ wm) wx) := by
  have hX : XH X (S (mG M) σ wm) wx wm n K := h.1.1
  exact (c_X0_tall hX h.2.1.2.2.I h.2.1.2.2.E h.2.1.2.2.T (h.R (by omega)) h.1.2.1).w (fun o s ⟨e, w', hs, hX'⟩ => ⟨e, hs ▸ XQ.i h hX'⟩)
theorem x_needs (h : LV E X M σ wx wm wm n K) (hF : EF E) (hB : sN σ + 4000 < 2000000) {a1 : Int32} : CtE E mX0_needs 9 [.ref (X.1 0), .int a1] (PR (.int (needsR wm a1)) (XQ E X M σ wm wm)) (S X (S (mG M) σ wm) wx) := by
  have hX : XH X (S (mG M) σ wm) wx wm n K := h.1.1
  exact (c_X0_needs hX h.2.1.2.2.I h.2.1.2.2.E).e ⟨rfl, XQ.i h hX⟩
theorem x_proof (h : LV E X M σ wx wm wm n K) (hF : EF E) (hB : sN σ + 4000 < 2000000) {a1 : Int32} : CtE E mX0_proof 9 [.ref (X.1 0), .int a1] (PR (.int (proofR wm a1)) (XQ E X M σ wm wm)) (S X (S (mG M) σ wm) wx) := by
  have hX : XH X (S (mG M) σ wm) wx wm n K := h.1.1
  exact (c_X0_proof hX h.2.1.2.2.I h.2.1.2.2.E).w (fun o s ⟨e, w', hs, hX'⟩ => ⟨e, hs ▸ XQ.i h hX'⟩)
theorem x_shifts (h : LV E X M σ wx wm wm n K) (hF : EF E) (hB : sN σ + 4000 < 2000000) {a1 : Int32} : CtE E mX0_shifts 407 [.ref (X.1 0), .int a1] (PR (.int (shiftsR wm a1)) (XQ E X M σ wm wm)) (S X (S (mG M) σ wm) wx) := by
  have hX : XH X (S (mG M) σ wm) wx wm n K := h.1.1
  exact (c_X0_shifts hX h.2.1.2.2.I h.2.1.2.2.E h.2.1.2.2.T (h.R (by omega))).w (fun o s ⟨e, w', hs, hX'⟩ => ⟨e, hs ▸ XQ.i h hX'⟩)
theorem x_coin (h : LV E X M σ wx wm wm n K) (hF : EF E) (hB : sN σ + 4000 < 2000000) {a1 : Int32} {a2 : Int32} : CtE E mX0_coin 407 [.ref (X.1 0), .int a1, .int a2] (PR (.int (coinR wm a1 a2)) (XQ E X M σ wm wm)) (S X (S (mG M) σ wm) wx) := by
  have hX : XH X (S (mG M) σ wm) wx wm n K := h.1.1
  exact (c_X0_coin hX h.2.1.2.2.I h.2.1.2.2.E h.2.1.2.2.T (h.R (by omega))).w (fun o s ⟨e, w', hs, hX'⟩ => ⟨e, hs ▸ XQ.i h hX'⟩)
theorem x_stage (h : LV E X M σ wx wm wm n K) (hF : EF E) (hB : sN σ + 4000 < 2000000) : CtE E mX0_stage 407 [.ref (X.1 0)] (PR (.int (stageR wm)) (XQ E X M σ wm wm)) (S X (S (mG M) σ wm) wx) := by
  have hX : XH X (S (mG M) σ wm) wx wm n K := h.1.1
  exact (c_X0_stage hX h.2.1.2.2.I h.2.1.2.2.E h.2.1.2.2.T (h.R (by omega))).w (fun o s ⟨e, w', hs, hX'⟩ => ⟨e, hs ▸ XQ.i h hX'⟩)
theorem x_swap (h : LV E X M σ wx wm wm n K) (hF : EF E) (hB : sN σ + 4000 < 2000000) {a1 : Int32} {a2 : Int32} {a3 : Int32} {a4 : Int32} : CtE E mX0_swap 406 [.ref (X.1 0), .int a1, .int a2, .int a3, .int a4] (PR (.int (swapR wm a1 a2 a3 a4)) (XQ E X M σ wm wm)) (S X (S (mG M) σ wm) wx) := by
  have hX : XH X (S (mG M) σ wm) wx wm n K := h.1.1
  exact (c_X0_swap hX h.2.1.2.2.I h.2.1.2.2.E h.2.1.2.2.T (h.R (by omega))).w (fun o s ⟨e, w', hs, hX'⟩ => ⟨e, hs ▸ XQ.i h hX'⟩)
theorem x_people (h : LV E X M σ wx wm wm n K) (hF : EF E) (hB : sN σ + 4000 < 2000000) {a1 : Int32} {a2 : Int32} : CtE E mX0_people 407 [.ref (X.1 0), .int a1, .int a2] (PR (.int (peopleR wm a1 a2)) (XQ E X M σ wm wm)) (S X (S (mG M) σ wm) wx) := by
  have hX : XH X (S (mG M) σ wm) wx wm n K := h.1.1
  exact (c_X0_people hX h.2.1.2.2.I h.2.1.2.2.E h.2.1.2.2.T (h.R (by omega))).w (fun o s ⟨e, w', hs, hX'⟩ => ⟨e, hs ▸ XQ.i h hX'⟩)
theorem x_settle (h : LV E X M σ wx wm wm n K) (hF : EF E) (hB : sN σ + 4000 < 2000000) {a1 : Int32} {a2 : Int32} : CtE E mX0_settle 407 [.ref (X.1 0), .int a1, .int a2] (PR (.int (settleR wm a1 a2)) (XQ E X M σ wm (settleW wm a1 a2))) (S X (S (mG M) σ wm) wx) := by
  have hX : XH X (S (mG M) σ wm) wx wm n K := h.1.1
  exact (c_X0_settle hX h.2.1.2.2.I h.2.1.2.2.E h.2.1.2.2.T (h.R (by omega))).w (fun o s ⟨e, w', hs, hX'⟩ => ⟨e, hs ▸ XQ.i h hX'⟩)
theorem x_hat (h : LV E X M σ wx wm wm n K) (hF : EF E) (hB : sN σ + 4000 < 2000000) {a1 : Int32} {a2 : Int32} {a3 : Int32} : CtE E mX0_hat 406 [.ref (X.1 0), .int a1, .int a2, .int a3] (PR (.int (hatR wm a1 a2 a3)) (XQ E X M σ wm (hatW wm a1 a2 a3))) (S X (S (mG M) σ wm) wx) := by
  have hX : XH X (S (mG M) σ wm) wx wm n K := h.1.1
  exact (c_X0_hat hX h.2.1.2.2.I h.2.1.2.2.E h.2.1.2.2.T (h.R (by omega)) h.2.1.2.2.H).w (fun o s ⟨e, w', hs, hX'⟩ => ⟨e, hs ▸ XQ.i h hX'⟩)
theorem x_least (h : LV E X M σ wx wm wm n K) (hF : EF E) (hB : sN σ + 4000 < 2000000) {a1 : Int32} : CtE E mX0_least 407 [.ref (X.1 0), .int a1] (PR (.int (leastR wm a1)) (XQ E X M σ wm wm)) (S X (S (mG M) σ wm) wx) := by
  have hX : XH X (S (mG M) σ wm) wx wm n K := h.1.1
  exact (c_X0_least hX h.2.1.2.2.I h.2.1.2.2.E h.2.1.2.2.T (h.R (by omega))).w (fun o s ⟨e, w', hs, hX'⟩ => ⟨e, hs ▸ XQ.i h hX'⟩)
theorem x_sell (h : LV E X M σ wx wm wm n K) (hF : EF E) (hB : sN σ + 4000 < 2000000) {a1 : Int32} : CtE E mX0_sell 406 [.ref (X.1 0), .int a1] (PR (.int (sellR wm a1)) (XQ E X M σ wm wm)) (S X (S (mG M) σ wm) wx) := by
  have hX : XH X (S (mG M) σ wm) wx wm n K := h.1.1
  exact (c_X0_sell hX h.2.1.2.2.I h.2.1.2.2.E h.2.1.2.2.T (h.R (by omega))).w (fun o s ⟨e, w', hs, hX'⟩ => ⟨e, hs ▸ XQ.i h hX'⟩)
theorem x_flat (h : LV E X M σ wx wm wm n K) (hF : EF E) (hB : sN σ + 4000 < 2000000) : CtE E mX0_flat 1 [.ref (X.1 0)] (PR (.int (flatR wm)) (XQ E X M σ wm wm)) (S X (S (mG M) σ wm) wx) := by
  have hX : XH X (S (mG M) σ wm) wx wm n K := h.1.1
  exact (c_X0_flat hX).e ⟨rfl, XQ.i h hX⟩
theorem x_thursday (h : LV E X M σ wx wm wm n K) (hF : EF E) (hB : sN σ + 4000 < 2000000) {a1 : Int32} : CtE E mX0_thursday 2 [.ref (X.1 0), .int a1] (PR (.int (thursdayR wm a1)) (XQ E X M σ wm wm)) (S X (S (mG M) σ wm) wx) := by
  have hX : XH X (S (mG M) σ wm) wx wm n K := h.1.1
  exact (c_X0_thursday hX h.2.1.2.2.S).e ⟨rfl, XQ.i h hX⟩
theorem x_image (h : LV E X M σ wx wm wm n K) (hF : EF E) (hB : sN σ + 4000 < 2000000) : CtE E mX0_image 3 [.ref (X.1 0)] (PR (.int (wm 100 3)) (XQ E X M σ wm (imageW wm))) (S X (S (mG M) σ wm) wx) := by
  have hX : XH X (S (mG M) σ wm) wx wm n K := h.1.1
  exact (c_X0_image hX h.2.1.2.2.I h.2.1.2.2.Z).w (fun o s ⟨e, w', hs, hX'⟩ => ⟨e, hs ▸ XQ.i h hX'⟩)
theorem x_back (h : LV E X M σ wx wm wm n K) (hF : EF E) (hB : sN σ + 4000 < 2000000) : CtE E mX0_back 3 [.ref (X.1 0)] (PR (.int (backR wm)) (XQ E X M σ wm (backW wm))) (S X (S (mG M) σ wm) wx) := by
  have hX : XH X (S (mG M) σ wm) wx wm n K := h.1.1
  exact (c_X0_back hX h.2.1.2.2.I h.2.1.2.2.J).w (fun o s ⟨e, w', hs, hX'⟩ => ⟨e, hs ▸ XQ.i h hX'⟩)
theorem x_sheet (h : LV E X M σ wx wm wm n K) (hF : EF E) (hB : sN σ + 4000 < 2000000) {a1 : Int32} {a2 : Int32} {a3 : Int32} : CtE E mX0_sheet 2 [.ref (X.1 0), .int a1, .int a2, .int a3] (PR (.int (sheetR a1 a2 a3)) (XQ E X M σ wm (sheetW wm a1 a2 a3))) (S X (S (mG M) σ wm) wx) := by
  have hX : XH X (S (mG M) σ wm) wx wm n K := h.1.1
  exact (c_X0_sheet hX).w (fun o s ⟨e, w', hs, hX'⟩ => ⟨e, hs ▸ XQ.i h hX'⟩)
theorem x_cell (h : LV E X M σ wx wm wm n K) (hF : EF E) (hB : sN σ + 4000 < 2000000) {a1 : Int32} {a2 : Int32} {a3 : Int32} : CtE E mX0_cell 6 [.ref (X.1 0), .int a1, .int a2, .int a3] (PR (.int (cellR wm a1 a2)) (XQ E X M σ wm (cellW wm a1 a2 a3))) (S X (S (mG M) σ wm) wx) := by
  have hX : XH X (S (mG M) σ wm) wx wm n K := h.1.1
  refine (c_X0_cell hX hF.2 h.2.2.2.2 (h.na (by omega)) h.2.2.1.1 h.2.1.2.2.S).w (fun o s ⟨e, σ', w', hs, hσ, hX'⟩ => ⟨e, ?_⟩)
  rcases hσ with rfl | ⟨x, rfl⟩
  · exact hs ▸ XQ.i h hX'
  · exact hs ▸ XQ.g h (by omega) (FG.odd (σ := S (mG M) σ wm) h.2.2.1.1) hX' (by decide) (by decide)
theorem x_copy (h : LV E X M σ wx wm wm n K) (hF : EF E) (hB : sN σ + 4000 < 2000000) {a1 : Int32} {a2 : Int32} {a3 : Int32} {a4 : Int32} {a5 : Int32} : CtE E mX0_copy 6 [.ref (X.1 0), .int a1, .int a2, .int a3, .int a4, .int a5] (PR (.int (copyR wm a1 a2 a3 a4 a5)) (XQ E X M σ wm (copyW wm wm a1 a2 a3 a4 a5))) (S X (S (mG M) σ wm) wx) := by
  have hX : XH X (S (mG M) σ wm) wx wm n K := h.1.1
  refine (c_X0_copy hX hF.2 h.2.2.2.2 (h.na (by omega)) h.2.2.1.1 h.2.1.2.2.S).w (fun o s ⟨e, σ', w', hs, hσ, hX'⟩ => ⟨e, ?_⟩)
  rcases hσ with rfl | ⟨x, rfl⟩
  · exact hs ▸ XQ.i h hX'
  · exact hs ▸ XQ.g h (by omega) (FG.odd (σ := S (mG M) σ wm) h.2.2.1.1) hX' (by decide) (by decide)
theorem x_sitters (h : LV E X M σ wx wm wm n K) (hF : EF E) (hB : sN σ + 4000 < 2000000) {a1 : Int32} {a2 : Int32} {a3 : Int32} {a4 : Int32} : CtE E mX0_sitters 6 [.ref (X.1 0), .int a1, .int a2, .int a3, .int a4] (PR (.int (sittersR wm a1 a2 a3 a4)) (XQ E X M σ wm (sittersW wm a1 a2 a3 a4))) (S X (S (mG M) σ wm) wx) := by
  have hX : XH X (S (mG M) σ wm) wx wm n K := h.1.1
  refine (c_X0_sitters hX hF.2 h.2.2.2.2 (h.na (by omega)) h.2.2.1.1 h.2.1.2.2.I h.2.1.2.2.S).w (fun o s ⟨e, σ', w', hs, hσ, hX'⟩ => ⟨e, ?_⟩)
  rcases hσ with rfl | ⟨x, rfl⟩
  · exact hs ▸ XQ.i h hX'
  · exact hs ▸ XQ.g h (by omega) (FG.odd (σ := S (mG M) σ wm) h.2.2.1.1) hX' (by decide) (by decide)
theorem x_taken (h : LV E X M σ wx wm wm n K) (hF : EF E) (hB : sN σ + 4000 < 2000000) {a1 : Int32} {a2 : Int32} : CtE E mX0_taken 6 [.ref (X.1 0), .int a1, .int a2] (PR (.int (takenR wm a1 a2)) (XQ E X M σ wm wm)) (S X (S (mG M) σ wm) wx) := by
  have hX : XH X (S (mG M) σ wm) wx wm n K := h.1.1
  exact (c_X0_taken hX h.2.1.2.2.I hF.2 h.2.2.2.2 (h.na (by omega)) (h.na1 (by omega)) h.2.2.1.1 (BC.s h.2.1.1.1 h.2.2.2.1.2.1) h.2.1.2.2.Q).w (fun o s ⟨e, σ', w', hs, hF', hX'⟩ => ⟨e, hs ▸ XQ.g h (by omega) hF' hX' (by decide) (by decide)⟩)
theorem x_feed (h : LV E X M σ wx wm wm n K) (hF : EF E) (hB : sN σ + 4000 < 2000000) {a1 : Int64} {a2 : Int32} : CtE E mX0_feed 1 [.ref (X.1 0), .long a1, .int a2] (PR (.int (feedR wm a2)) (XQ E X M σ wm (feedW wm wm a1 a2))) (S X (S (mG M) σ wm) wx) := by
  have hX : XH X (S (mG M) σ wm) wx wm n K := h.1.1
  exact (c_X0_feed hX h.2.1.2.2.P).w (fun o s ⟨e, w', hs, hX'⟩ => ⟨e, hs ▸ XQ.i h hX'⟩)
end

set_option maxRecDepth 100000
set_option maxHeartbeats 4000000
/-! ===== m's calls in the law ===== -/
theorem hiddenR_cu (w : Wv) {r c p : Int32} : hiddenR (cu w) r c p = hiddenR w r c p := by
  unfold hiddenR
  rw [hid_cu]; rfl
theorem seesR_cu (w : Wv) {r c : Int32} : seesR (cu w) r c = seesR w r c := by
  unfold seesR
  rw [cg seeS seeS_cv (cv_cu w)]; rfl
theorem worthR_cu (w : Wv) {r c : Int32} : worthR (cu w) r c = worthR w r c := by
  unfold worthR
  rw [cg worS worS_cv (cv_cu w)]; rfl
theorem priceR_cu (w : Wv) {r c : Int32} : priceR (cu w) r c = priceR w r c := by
  unfold priceR
  rw [cg priS priS_cv (cv_cu w)]; rfl
theorem cosS_cu (w : Wv) : cosS (cu w) = cosS w := rfl
theorem lawfulR_cu (w : Wv) {a : Int32} : lawfulR (cu w) a = lawfulR w a := rfl
section
variable {E : En} {X : Ge} {M : Nat} {σ : Sg} {wx u wm : Wv} {n : Nat} {K : Nat → Nat}
theorem MQM.i (h : LV E X M σ wx u wm n K) (hA : HA u) (hD : CDS wm u) {w' : Wv} (hc : cv w' = cv u) : MQM E X M σ wx n K (S (mG M) (S X σ wx) w') := ⟨σ, w', (S_comm h.2.2.1.2.2.2 _ _ _).symm, h.m hc hA hD, rfl, rfl⟩
theorem MQM.l (h : LV E X M σ wx u wm n K) (hA : HA u) (hD : CDS wm u) {w' : Wv} (hc : cv w' = cv u) {x : Int64} : MQM E X M σ wx n K (S (mG M) (pL (S X σ wx) ((mG M).1 100) 53 x) w') := by
  obtain ⟨⟨hX, hG, h46, hLD, h48, hR⟩, ⟨hW, hHW, h2⟩, h3⟩ := h.m hc hA hD
  have hne : (mG M).1 145 ≠ (mG M).1 100 := fun z => absurd (hW.1.1 145 (hW.2.1 145 (by decide) (by decide)) 100 (hW.2.1 100 (by decide) (by decide)) z) (by decide)
  refine ⟨pL σ ((mG M).1 100) 53 x, w', (S_comm (σ := pL σ ((mG M).1 100) 53 x) h.2.2.1.2.2.2 _ _).symm, ⟨⟨hX, hG, h46, hLD, h48, hR.k KT.pL⟩, ⟨hW, fun k hk => ?_, h2⟩, h3⟩, rfl, rfl⟩
  exact (congrFun (up2_at (sL σ) x hne) k).trans (hHW k hk)
theorem m_sort {a1 : Int32} {a2 : Int32} {a3 : Int32} (h : LV E X M σ wx (sortW wm a1 a2 a3) wm n K) : CtE E mX7_sort 1 [.ref ((mG M).1 100), .int a1, .int a2, .int a3] (PR (.int (sortR wm a1 a2 a3)) (MQM E X M σ wx n K)) (S X (S (mG M) σ wm) wx) := by
  rw [S_comm h.2.2.1.2.2.2]
  have hW : WM (mG M) (S X σ wx) := h.2.1.1
  have hA : HA wm := h.2.1.2.2
  exact (c_X7_sort hW).e ⟨rfl, MQM.i h (HA.sort hA).1 (HA.sort hA).2 rfl⟩
theorem m_set {a1 : Int32} {a2 : Int32} {a3 : Int32} (h : LV E X M σ wx (setW wm a1 a2 a3) wm n K) : CtE E mX7_set 2 [.ref ((mG M).1 100), .int a1, .int a2, .int a3] (PR (.int (setR wm a1 a2 a3)) (MQM E X M σ wx n K)) (S X (S (mG M) σ wm) wx) := by
  rw [S_comm h.2.2.1.2.2.2]
  have hW : WM (mG M) (S X σ wx) := h.2.1.1
  have hA : HA wm := h.2.1.2.2
  exact (c_X7_set hW hA.I).e ⟨rfl, MQM.i h (HA.set hA).1 (HA.set hA).2 rfl⟩
theorem m_sit {a1 : Int32} {a2 : Int32} {a3 : Int32} (h : LV E X M σ wx (sitW wm a1 a2 a3) wm n K) : CtE E mX7_sit 3 [.ref ((mG M).1 100), .int a1, .int a2, .int a3] (PR (.int (sitR wm a1 a2 a3)) (MQM E X M σ wx n K)) (S X (S (mG M) σ wm) wx) := by
  rw [S_comm h.2.2.1.2.2.2]
  have hW : WM (mG M) (S X σ wx) := h.2.1.1
  have hA : HA wm := h.2.1.2.2
  exact (c_X7_sit hW hA.I).e ⟨rfl, MQM.i h (HA.sit hA).1 (HA.sit hA).2 rfl⟩
theorem m_told {a1 : Int32} {a2 : Int32} {a3 : Int32} (h : LV E X M σ wx wm wm n K) : CtE E mX7_told 3 [.ref ((mG M).1 100), .int a1, .int a2, .int a3] (PR (.int (toldR wm a1 a2 a3)) (MQM E X M σ wx n K)) (S X (S (mG M) σ wm) wx) := by
  rw [S_comm h.2.2.1.2.2.2]
  have hW : WM (mG M) (S X σ wx) := h.2.1.1
  have hA : HA wm := h.2.1.2.2
  exact (c_X7_told hW hA.I).e ⟨rfl, MQM.i h hA (CDS.r wm) rfl⟩
theorem m_point {a1 : Int32} {a2 : Int32} {a3 : Int32} (h : LV E X M σ wx (pointW wm a1 a2 a3) wm n K) : CtE E mX7_point 1 [.ref ((mG M).1 100), .int a1, .int a2, .int a3] (PR (.int (pointR wm a1 a2 a3)) (MQM E X M σ wx n K)) (S X (S (mG M) σ wm) wx) := by
  rw [S_comm h.2.2.1.2.2.2]
  have hW : WM (mG M) (S X σ wx) := h.2.1.1
  have hA : HA wm := h.2.1.2.2
  exact (c_X7_point hW hA.I).e ⟨rfl, MQM.i h (HA.point hA).1 (HA.point hA).2 rfl⟩
theorem m_post {a1 : Int32} {a2 : Int32} (h : LV E X M σ wx (postW wm a1 a2) wm n K) : CtE E mX7_post 1 [.ref ((mG M).1 100), .int a1, .int a2] (PR (.int (postR wm a1 a2)) (MQM E X M σ wx n K)) (S X (S (mG M) σ wm) wx) := by
  rw [S_comm h.2.2.1.2.2.2]
  have hW : WM (mG M) (S X σ wx) := h.2.1.1
  have hA : HA wm := h.2.1.2.2
  exact (c_X7_post hW hA.I).e ⟨rfl, MQM.i h (HA.post hA).1 (HA.post hA).2 rfl⟩
theorem m_moves {a1 : Int32} {a2 : Int32} {a3 : Int32} (h : LV E X M σ wx (movesW wm a1 a2 a3) wm n K) : CtE E mX7_moves 1 [.ref ((mG M).1 100), .int a1, .int a2, .int a3] (PR (.int (movesR wm a1 a2 a3)) (MQM E X M σ wx n K)) (S X (S (mG M) σ wm) wx) := by
  rw [S_comm h.2.2.1.2.2.2]
  have hW : WM (mG M) (S X σ wx) := h.2.1.1
  have hA : HA wm := h.2.1.2.2
  exact (c_X7_moves hW hA.I).e ⟨rfl, MQM.i h (HA.moves hA).1 (HA.moves hA).2 rfl⟩
theorem m_count {a1 : Int32} (h : LV E X M σ wx wm wm n K) : CtE E mX7_count 0 [.ref ((mG M).1 100), .int a1] (PR (.int (countR wm a1)) (MQM E X M σ wx n K)) (S X (S (mG M) σ wm) wx) := by
  rw [S_comm h.2.2.1.2.2.2]
  have hW : WM (mG M) (S X σ wx) := h.2.1.1
  have hA : HA wm := h.2.1.2.2
  exact (c_X7_count hW).e ⟨rfl, MQM.i h hA (CDS.r wm) rfl⟩
theorem m_force {a1 : Int32} (h : LV E X M σ wx (forceW wm a1) wm n K) : CtE E mX7_force 1 [.ref ((mG M).1 100), .int a1] (PR (.int (forceR wm a1)) (MQM E X M σ wx n K)) (S X (S (mG M) σ wm) wx) := by
  rw [S_comm h.2.2.1.2.2.2]
  have hW : WM (mG M) (S X σ wx) := h.2.1.1
  have hA : HA wm := h.2.1.2.2
  exact (c_X7_force hW).e ⟨rfl, MQM.i h (HA.force hA).1 (HA.force hA).2 rfl⟩
theorem m_hidden {a1 : Int32} {a2 : Int32} {a3 : Int32} (h : LV E X M σ wx wm wm n K) : CtE E mX7_hidden 5 [.ref ((mG M).1 100), .int a1, .int a2, .int a3] (PR (.int (hiddenR wm a1 a2 a3)) (MQM E X M σ wx n K)) (S X (S (mG M) σ wm) wx) := by
  rw [S_comm h.2.2.1.2.2.2]
  have hW : WM (mG M) (S X σ wx) := h.2.1.1
  have hA : HA wm := h.2.1.2.2
  rw [← hiddenR_cu wm]
  exact (c_X7_hidden hW rfl (HI_cu.mpr hA.I)).e ⟨rfl, MQM.i h hA (CDS.r wm) rfl⟩
theorem m_sees {a1 : Int32} {a2 : Int32} (h : LV E X M σ wx wm wm n K) : CtE E mX7_sees 6 [.ref ((mG M).1 100), .int a1, .int a2] (PR (.int (seesR wm a1 a2)) (MQM E X M σ wx n K)) (S X (S (mG M) σ wm) wx) := by
  rw [S_comm h.2.2.1.2.2.2]
  have hW : WM (mG M) (S X σ wx) := h.2.1.1
  have hA : HA wm := h.2.1.2.2
  rw [← seesR_cu wm]
  exact (c_X7_sees hW rfl (HI_cu.mpr hA.I)).e ⟨rfl, MQM.i h hA (CDS.r wm) rfl⟩
theorem m_worth {a1 : Int32} {a2 : Int32} (h : LV E X M σ wx wm wm n K) : CtE E mX7_worth 6 [.ref ((mG M).1 100), .int a1, .int a2] (PR (.int (worthR wm a1 a2)) (MQM E X M σ wx n K)) (S X (S (mG M) σ wm) wx) := by
  rw [S_comm h.2.2.1.2.2.2]
  have hW : WM (mG M) (S X σ wx) := h.2.1.1
  have hA : HA wm := h.2.1.2.2
  rw [← worthR_cu wm]
  exact (c_X7_worth hW rfl (HI_cu.mpr hA.I) (HT.cg (cv_cu wm).symm hA.T)).w (fun o s ⟨e, w', hc, hs⟩ => ⟨e, hs ▸ MQM.i h hA (CDS.r wm) ((cv_cu w').symm.trans ((congrArg cv hc).trans (cv_cu wm)))⟩)
theorem m_price {a1 : Int32} {a2 : Int32} (h : LV E X M σ wx wm wm n K) : CtE E mX7_price 7 [.ref ((mG M).1 100), .int a1, .int a2] (PR (.int (priceR wm a1 a2)) (MQM E X M σ wx n K)) (S X (S (mG M) σ wm) wx) := by
  rw [S_comm h.2.2.1.2.2.2]
  have hW : WM (mG M) (S X σ wx) := h.2.1.1
  have hA : HA wm := h.2.1.2.2
  rw [← priceR_cu wm]
  exact (c_X7_price hW rfl (HI_cu.mpr hA.I) (HT.cg (cv_cu wm).symm hA.T)).w (fun o s ⟨e, w', hc, hs⟩ => ⟨e, hs ▸ MQM.i h hA (CDS.r wm) ((cv_cu w').symm.trans ((congrArg cv hc).trans (cv_cu wm)))⟩)
theorem m_all {a1 : Int32} (h : LV E X M σ wx wm wm n K) : CtE E mX7_all 7 [.ref ((mG M).1 100), .int a1] (PR (.int (allR wm a1)) (MQM E X M σ wx n K)) (S X (S (mG M) σ wm) wx) := by
  rw [S_comm h.2.2.1.2.2.2]
  have hW : WM (mG M) (S X σ wx) := h.2.1.1
  have hA : HA wm := h.2.1.2.2
  exact (c_X7_all hW rfl hA.I hA.T).w (fun o s ⟨e, w', hc, hs⟩ => ⟨e, hs ▸ MQM.i h hA (CDS.r wm) hc⟩)
theorem m_cost (h : LV E X M σ wx wm wm n K) : CtE E mX7_cost 2 [.ref ((mG M).1 100)] (PR (.int (cosS wm)) (MQM E X M σ wx n K)) (S X (S (mG M) σ wm) wx) := by
  rw [S_comm h.2.2.1.2.2.2]
  have hW : WM (mG M) (S X σ wx) := h.2.1.1
  have hA : HA wm := h.2.1.2.2
  rw [← cosS_cu wm]
  exact (c_X7_cost hW rfl (HI_cu.mpr hA.I) (HT.cg (cv_cu wm).symm hA.T)).w (fun o s ⟨e, w', hc, hs⟩ => ⟨e, hs ▸ MQM.i h hA (CDS.r wm) ((cv_cu w').symm.trans ((congrArg cv hc).trans (cv_cu wm)))⟩)
theorem m_lawful {a1 : Int32} (h : LV E X M σ wx wm wm n K) : CtE E mX7_lawful 1 [.ref ((mG M).1 100), .int a1] (PR (.int (lawfulR wm a1)) (MQM E X M σ wx n K)) (S X (S (mG M) σ wm) wx) := by
  rw [S_comm h.2.2.1.2.2.2]
  have hW : WM (mG M) (S X σ wx) := h.2.1.1
  have hA : HA wm := h.2.1.2.2
  rw [← lawfulR_cu wm]
  exact (c_X7_lawful hW rfl (HI_cu.mpr hA.I)).e ⟨rfl, MQM.i h hA (CDS.r wm) rfl⟩
theorem m_judge {a1 : Int32} (h : LV E X M σ wx wm wm n K) : CtE E mX7_judge 7 [.ref ((mG M).1 100), .int a1] (PR (.int (judgeR wm a1)) (MQM E X M σ wx n K)) (S X (S (mG M) σ wm) wx) := by
  rw [S_comm h.2.2.1.2.2.2]
  have hW : WM (mG M) (S X σ wx) := h.2.1.1
  have hA : HA wm := h.2.1.2.2
  exact (c_X7_judge hW rfl hA.I).w (fun o s ⟨e, w', hc, hs⟩ => ⟨e, hs ▸ MQM.i h hA (CDS.r wm) hc⟩)
theorem m_chance {a1 : Int32} {a2 : Int32} {a3 : Int32} {a4 : Int32} (h : LV E X M σ wx wm wm n K) : CtE E mX7_chance 5 [.ref ((mG M).1 100), .int a1, .int a2, .int a3, .int a4] (PR (.long (chanceR wm a1 a2 a3 a4)) (MQM E X M σ wx n K)) (S X (S (mG M) σ wm) wx) := by
  rw [S_comm h.2.2.1.2.2.2]
  have hW : WM (mG M) (S X σ wx) := h.2.1.1
  have hA : HA wm := h.2.1.2.2
  exact (c_X7_chance hW rfl hA.I).w (fun o s ⟨e, w', x, hc, hs⟩ => ⟨e, hs ▸ MQM.l h hA (CDS.r wm) hc⟩)
theorem m_mean {a1 : Int32} {a2 : Int32} {a3 : Int32} (h : LV E X M σ wx wm wm n K) : CtE E mX7_mean 5 [.ref ((mG M).1 100), .int a1, .int a2, .int a3] (PR (.long (meanR wm a1 a2 a3)) (MQM E X M σ wx n K)) (S X (S (mG M) σ wm) wx) := by
  rw [S_comm h.2.2.1.2.2.2]
  have hW : WM (mG M) (S X σ wx) := h.2.1.1
  have hA : HA wm := h.2.1.2.2
  exact (c_X7_mean hW rfl hA.I hA.T).w (fun o s ⟨e, w', x, hc, hs⟩ => ⟨e, hs ▸ MQM.l h hA (CDS.r wm) hc⟩)
theorem m_tall {a1 : Int32} (h : LV E X M σ wx wm wm n K) : CtE E mX7_tall 7 [.ref ((mG M).1 100), .int a1] (PR (.int (tallR wm a1)) (MQM E X M σ wx n K)) (S X (S (mG M) σ wm) wx) := by
  rw [S_comm h.2.2.1.2.2.2]
  have hW : WM (mG M) (S X σ wx) := h.2.1.1
  have hA : HA wm := h.2.1.2.2
  exact (c_X7_tall hW rfl hA.I hA.T).w (fun o s ⟨e, w', hc, hs⟩ => ⟨e, hs ▸ MQM.i h hA (CDS.r wm) hc⟩)
theorem m_needs {a1 : Int32} (h : LV E X M σ wx wm wm n K) : CtE E mX7_needs 8 [.ref ((mG M).1 100), .int a1] (PR (.int (needsR wm a1)) (MQM E X M σ wx n K)) (S X (S (mG M) σ wm) wx) := by
  rw [S_comm h.2.2.1.2.2.2]
  have hW : WM (mG M) (S X σ wx) := h.2.1.1
  have hA : HA wm := h.2.1.2.2
  exact (c_X7_needs hW rfl hA.I).w (fun o s ⟨e, w', hc, hs⟩ => ⟨e, hs ▸ MQM.i h hA (CDS.r wm) hc⟩)
theorem m_proof {a1 : Int32} (h : LV E X M σ wx wm wm n K) : CtE E mX7_proof 8 [.ref ((mG M).1 100), .int a1] (PR (.int (proofR wm a1)) (MQM E X M σ wx n K)) (S X (S (mG M) σ wm) wx) := by
  rw [S_comm h.2.2.1.2.2.2]
  have hW : WM (mG M) (S X σ wx) := h.2.1.1
  have hA : HA wm := h.2.1.2.2
  exact (c_X7_proof hW rfl hA.I).w (fun o s ⟨e, w', hc, hs⟩ => ⟨e, hs ▸ MQM.i h hA (CDS.r wm) hc⟩)
theorem m_shifts {a1 : Int32} (h : LV E X M σ wx wm wm n K) : CtE E mX7_shifts 7 [.ref ((mG M).1 100), .int a1] (PR (.int (shiftsR wm a1)) (MQM E X M σ wx n K)) (S X (S (mG M) σ wm) wx) := by
  rw [S_comm h.2.2.1.2.2.2]
  have hW : WM (mG M) (S X σ wx) := h.2.1.1
  have hA : HA wm := h.2.1.2.2
  exact (c_X7_shifts hW rfl hA.I hA.T).w (fun o s ⟨e, w', hc, hs⟩ => ⟨e, hs ▸ MQM.i h hA (CDS.r wm) hc⟩)
theorem m_coin {a1 : Int32} {a2 : Int32} (h : LV E X M σ wx wm wm n K) : CtE E mX7_coin 7 [.ref ((mG M).1 100), .int a1, .int a2] (PR (.int (coinR wm a1 a2)) (MQM E X M σ wx n K)) (S X (S (mG M) σ wm) wx) := by
  rw [S_comm h.2.2.1.2.2.2]
  have hW : WM (mG M) (S X σ wx) := h.2.1.1
  have hA : HA wm := h.2.1.2.2
  exact (c_X7_coin hW rfl hA.I hA.T).w (fun o s ⟨e, w', hc, hs⟩ => ⟨e, hs ▸ MQM.i h hA (CDS.r wm) hc⟩)
theorem m_stage (h : LV E X M σ wx wm wm n K) : CtE E mX7_stage 7 [.ref ((mG M).1 100)] (PR (.int (stageR wm)) (MQM E X M σ wx n K)) (S X (S (mG M) σ wm) wx) := by
  rw [S_comm h.2.2.1.2.2.2]
  have hW : WM (mG M) (S X σ wx) := h.2.1.1
  have hA : HA wm := h.2.1.2.2
  exact (c_X7_stage hW rfl hA.I hA.T).w (fun o s ⟨e, w', hc, hs⟩ => ⟨e, hs ▸ MQM.i h hA (CDS.r wm) hc⟩)
theorem m_swap {a1 : Int32} {a2 : Int32} {a3 : Int32} {a4 : Int32} (h : LV E X M σ wx wm wm n K) : CtE E mX7_swap 8 [.ref ((mG M).1 100), .int a1, .int a2, .int a3, .int a4] (PR (.int (swapR wm a1 a2 a3 a4)) (MQM E X M σ wx n K)) (S X (S (mG M) σ wm) wx) := by
  rw [S_comm h.2.2.1.2.2.2]
  have hW : WM (mG M) (S X σ wx) := h.2.1.1
  have hA : HA wm := h.2.1.2.2
  exact (c_X7_swap hW rfl hA.I hA.T).w (fun o s ⟨e, w', hc, hs⟩ => ⟨e, hs ▸ MQM.i h hA (CDS.r wm) hc⟩)
theorem m_people {a1 : Int32} {a2 : Int32} (h : LV E X M σ wx wm wm n K) : CtE E mX7_people 9 [.ref ((mG M).1 100), .int a1, .int a2] (PR (.int (peopleR wm a1 a2)) (MQM E X M σ wx n K)) (S X (S (mG M) σ wm) wx) := by
  rw [S_comm h.2.2.1.2.2.2]
  have hW : WM (mG M) (S X σ wx) := h.2.1.1
  have hA : HA wm := h.2.1.2.2
  exact (c_X7_people hW rfl hA.I hA.T).w (fun o s ⟨e, w', hc, hs⟩ => ⟨e, hs ▸ MQM.i h hA (CDS.r wm) hc⟩)
theorem m_settle {a1 : Int32} {a2 : Int32} (h : LV E X M σ wx (settleW wm a1 a2) wm n K) : CtE E mX7_settle 9 [.ref ((mG M).1 100), .int a1, .int a2] (PR (.int (settleR wm a1 a2)) (MQM E X M σ wx n K)) (S X (S (mG M) σ wm) wx) := by
  rw [S_comm h.2.2.1.2.2.2]
  have hW : WM (mG M) (S X σ wx) := h.2.1.1
  have hA : HA wm := h.2.1.2.2
  exact (c_X7_settle hW rfl hA.I hA.T).w (fun o s ⟨e, w', hc, hs⟩ => ⟨e, hs ▸ MQM.i h (HA.settle hA).1 (HA.settle hA).2 hc⟩)
theorem m_hat {a1 : Int32} {a2 : Int32} {a3 : Int32} (h : LV E X M σ wx (hatW wm a1 a2 a3) wm n K) : CtE E mX7_hat 7 [.ref ((mG M).1 100), .int a1, .int a2, .int a3] (PR (.int (hatR wm a1 a2 a3)) (MQM E X M σ wx n K)) (S X (S (mG M) σ wm) wx) := by
  rw [S_comm h.2.2.1.2.2.2]
  have hW : WM (mG M) (S X σ wx) := h.2.1.1
  have hA : HA wm := h.2.1.2.2
  exact (c_X7_hat hW rfl hA.I hA.T).w (fun o s ⟨e, w', hc, hs⟩ => ⟨e, hs ▸ MQM.i h (HA.hat hA).1 (HA.hat hA).2 hc⟩)
theorem m_least {a1 : Int32} (h : LV E X M σ wx wm wm n K) : CtE E mX7_least 7 [.ref ((mG M).1 100), .int a1] (PR (.int (leastR wm a1)) (MQM E X M σ wx n K)) (S X (S (mG M) σ wm) wx) := by
  rw [S_comm h.2.2.1.2.2.2]
  have hW : WM (mG M) (S X σ wx) := h.2.1.1
  have hA : HA wm := h.2.1.2.2
  exact (c_X7_least hW rfl hA.I hA.T).w (fun o s ⟨e, w', hc, hs⟩ => ⟨e, hs ▸ MQM.i h hA (CDS.r wm) hc⟩)
theorem m_sell {a1 : Int32} (h : LV E X M σ wx wm wm n K) : CtE E mX7_sell 7 [.ref ((mG M).1 100), .int a1] (PR (.int (sellR wm a1)) (MQM E X M σ wx n K)) (S X (S (mG M) σ wm) wx) := by
  rw [S_comm h.2.2.1.2.2.2]
  have hW : WM (mG M) (S X σ wx) := h.2.1.1
  have hA : HA wm := h.2.1.2.2
  exact (c_X7_sell hW rfl hA.I hA.T).w (fun o s ⟨e, w', hc, hs⟩ => ⟨e, hs ▸ MQM.i h hA (CDS.r wm) hc⟩)
theorem m_flat (h : LV E X M σ wx wm wm n K) : CtE E mX7_flat 1 [.ref ((mG M).1 100)] (PR (.int (flatR wm)) (MQM E X M σ wx n K)) (S X (S (mG M) σ wm) wx) := by
  rw [S_comm h.2.2.1.2.2.2]
  have hW : WM (mG M) (S X σ wx) := h.2.1.1
  have hA : HA wm := h.2.1.2.2
  exact (c_X7_flat hW rfl hA.I).e ⟨rfl, MQM.i h hA (CDS.r wm) rfl⟩
theorem m_thursday {a1 : Int32} (h : LV E X M σ wx wm wm n K) : CtE E mX7_thursday 1 [.ref ((mG M).1 100), .int a1] (PR (.int (thursdayR wm a1)) (MQM E X M σ wx n K)) (S X (S (mG M) σ wm) wx) := by
  rw [S_comm h.2.2.1.2.2.2]
  have hW : WM (mG M) (S X σ wx) := h.2.1.1
  have hA : HA wm := h.2.1.2.2
  exact (c_X7_thursday hW rfl hA.I).e ⟨rfl, MQM.i h hA (CDS.r wm) rfl⟩
theorem m_image (h : LV E X M σ wx (imageW wm) wm n K) : CtE E mX7_image 0 [.ref ((mG M).1 100)] (PR (.int (wm 100 3)) (MQM E X M σ wx n K)) (S X (S (mG M) σ wm) wx) := by
  rw [S_comm h.2.2.1.2.2.2]
  have hW : WM (mG M) (S X σ wx) := h.2.1.1
  have hA : HA wm := h.2.1.2.2
  exact (c_X7_image hW).e ⟨rfl, MQM.i h (HA.image hA).1 (HA.image hA).2 rfl⟩
theorem m_back (h : LV E X M σ wx (backW wm) wm n K) : CtE E mX7_back 0 [.ref ((mG M).1 100)] (PR (.int (backR wm)) (MQM E X M σ wx n K)) (S X (S (mG M) σ wm) wx) := by
  rw [S_comm h.2.2.1.2.2.2]
  have hW : WM (mG M) (S X σ wx) := h.2.1.1
  have hA : HA wm := h.2.1.2.2
  exact (c_X7_back hW hA.B).e ⟨rfl, MQM.i h (HA.back hA).1 (HA.back hA).2 rfl⟩
theorem m_sheet {a1 : Int32} {a2 : Int32} {a3 : Int32} (h : LV E X M σ wx (sheetW wm a1 a2 a3) wm n K) : CtE E mX7_sheet 1 [.ref ((mG M).1 100), .int a1, .int a2, .int a3] (PR (.int (sheetR a1 a2 a3)) (MQM E X M σ wx n K)) (S X (S (mG M) σ wm) wx) := by
  rw [S_comm h.2.2.1.2.2.2]
  have hW : WM (mG M) (S X σ wx) := h.2.1.1
  have hA : HA wm := h.2.1.2.2
  exact (c_X7_sheet hW).e ⟨rfl, MQM.i h (HA.sheet hA).1 (HA.sheet hA).2 rfl⟩
theorem m_cell {a1 : Int32} {a2 : Int32} {a3 : Int32} (h : LV E X M σ wx (cellW wm a1 a2 a3) wm n K) : CtE E mX7_cell 1 [.ref ((mG M).1 100), .int a1, .int a2, .int a3] (PR (.int (cellR wm a1 a2)) (MQM E X M σ wx n K)) (S X (S (mG M) σ wm) wx) := by
  rw [S_comm h.2.2.1.2.2.2]
  have hW : WM (mG M) (S X σ wx) := h.2.1.1
  have hA : HA wm := h.2.1.2.2
  exact (c_X7_cell hW rfl hA.I hA.S).e ⟨rfl, MQM.i h (HA.cell hA).1 (HA.cell hA).2 rfl⟩
theorem m_copy {a1 : Int32} {a2 : Int32} {a3 : Int32} {a4 : Int32} {a5 : Int32} (h : LV E X M σ wx (copyW wm wm a1 a2 a3 a4 a5) wm n K) : CtE E mX7_copy 1 [.ref ((mG M).1 100), .int a1, .int a2, .int a3, .int a4, .int a5] (PR (.int (copyR wm a1 a2 a3 a4 a5)) (MQM E X M σ wx n K)) (S X (S (mG M) σ wm) wx) := by
  rw [S_comm h.2.2.1.2.2.2]
  have hW : WM (mG M) (S X σ wx) := h.2.1.1
  have hA : HA wm := h.2.1.2.2
  exact (c_X7_copy hW rfl hA.I hA.S).e ⟨rfl, MQM.i h (HA.copy hA).1 (HA.copy hA).2 rfl⟩
theorem m_sitters {a1 : Int32} {a2 : Int32} {a3 : Int32} {a4 : Int32} (h : LV E X M σ wx (sittersW wm a1 a2 a3 a4) wm n K) : CtE E mX7_sitters 4 [.ref ((mG M).1 100), .int a1, .int a2, .int a3, .int a4] (PR (.int (sittersR wm a1 a2 a3 a4)) (MQM E X M σ wx n K)) (S X (S (mG M) σ wm) wx) := by
  rw [S_comm h.2.2.1.2.2.2]
  have hW : WM (mG M) (S X σ wx) := h.2.1.1
  have hA : HA wm := h.2.1.2.2
  exact (c_X7_sitters hW rfl hA.I hA.S).w (fun o s ⟨e, w', hc, hs⟩ => ⟨e, hs ▸ MQM.i h (HA.sitters hA).1 (HA.sitters hA).2 hc⟩)
theorem m_taken {a1 : Int32} {a2 : Int32} (h : LV E X M σ wx wm wm n K) : CtE E mX7_taken 1 [.ref ((mG M).1 100), .int a1, .int a2] (PR (.int (takenR wm a1 a2)) (MQM E X M σ wx n K)) (S X (S (mG M) σ wm) wx) := by
  rw [S_comm h.2.2.1.2.2.2]
  have hW : WM (mG M) (S X σ wx) := h.2.1.1
  have hA : HA wm := h.2.1.2.2
  exact (c_X7_taken hW rfl hA.I).e ⟨rfl, MQM.i h hA (CDS.r wm) rfl⟩
theorem m_feed {a1 : Int64} {a2 : Int32} (h : LV E X M σ wx (feedW wm wm a1 a2) wm n K) : CtE E mX7_feed 1 [.ref ((mG M).1 100), .long a1, .int a2] (PR (.int (feedR wm a2)) (MQM E X M σ wx n K)) (S X (S (mG M) σ wm) wx) := by
  rw [S_comm h.2.2.1.2.2.2]
  have hW : WM (mG M) (S X σ wx) := h.2.1.1
  have hA : HA wm := h.2.1.2.2
  exact (c_X7_feed hW rfl hA.P).e ⟨rfl, MQM.i h (HA.feed hA).1 (HA.feed hA).2 rfl⟩
theorem m_row {a1 : Int32} {a2 : Int32} {a3 : Int32} (h : LV E X M σ wx (rowW wm a1 a2 a3) wm n K) : CtE E mX7_row 1 [.ref ((mG M).1 100), .int a1, .int a2, .int a3] (PR (.int (rowR wm a1 a2 a3)) (MQM E X M σ wx n K)) (S X (S (mG M) σ wm) wx) := by
  rw [S_comm h.2.2.1.2.2.2]
  have hW : WM (mG M) (S X σ wx) := h.2.1.1
  have hA : HA wm := h.2.1.2.2
  exact (c_X7_row hW hA.I).e ⟨rfl, MQM.i h (HA.row hA).1 (HA.row hA).2 rfl⟩
end

set_option maxRecDepth 100000
set_option maxHeartbeats 1000000
theorem sitW_id {v : Wv} {r c k : Int32} {id : Nat} (h : id ≠ 110) : sitW v r c k id = v id := by
  unfold sitW
  split
  · split
    · exact up2_at _ _ h
    · rfl
  · rfl
theorem sit_67 {E : En} {g : Ge} {σ : Sg} {n : Nat} {K : Nat → Nat} (hU : EU E) (h1 : 1000 ≤ sN σ) (hN : NA g (sN σ)) (hC : CLN σ) {s a sz : Nat} (hs : s < 4) (hsz : sz ≤ 60) (ha : a ≤ 8) {t r : Int32} : ∀ (m c : Nat) (came : Int32) (w1 u1 : Wv), c + m = a → XH g σ w1 u1 n K → HI u1 → u1 139 s = nI sz → VE E mX0_sitters 6 (PR (.int (sitL s r c m came u1).1) (QO g σ (sitL s r c m came u1).2 n K)) 67 [some (.ref (g.1 0)), some (.int (nI s)), some (.int t), some (.int r), some (.int (nI a)), some (.int (came)), some (.ref (g.1 (50 + s))), some (.int (nI c))] [] (S g σ w1) := by
  intro m
  induction m with
  | zero =>
    intro c came w1 u1 hc hX hI esz
    refine VE.step (fun _ h => V.ild7 dX0_sitters_67 (V.ild4 dX0_sitters_69 h)) ?_
    refine VE.icmp_ge (tgt := 121) dX0_sitters_71 (by decide) (fun _ => ?_) (fun z => absurd (nI_le (by omega) (by omega)) z)
    refine VE.step (fun _ h => V.ild5 dX0_sitters_121 h) ?_
    exact VE.iret dX0_sitters_123 rfl rfl ⟨rfl, QO.same hX⟩
  | succ m ih =>
    intro c came w1 u1 hc hX hI esz
    refine VE.step (fun _ h => V.ild7 dX0_sitters_67 (V.ild4 dX0_sitters_69 h)) ?_
    refine VE.icmp_ge (tgt := 121) dX0_sitters_71 (by decide) (fun z => absurd z (nI_ge (by omega) (by omega))) (fun _ => ?_)
    refine VE.step (fun _ h => V.ild7 dX0_sitters_74 (V.ald6 dX0_sitters_76 (GX0_306 hX hs rfl dX0_sitters_78 h))) ?_
    refine VE.icmp_ge (tgt := 88) dX0_sitters_81 (by decide) (fun c_81 => ?_) (fun c_81 => ?_)
    · have hn : ¬ nI c < u1 139 s := Int32.not_lt.mpr c_81
      refine VE.step (fun _ h => V.iconst_0 dX0_sitters_88 (V.bipush (v := (-12)) dX0_sitters_89 (by decide) h)) ?_
      refine VE.step (fun _ h => V.callCatch [] (38, 123, 124, 431) [] rfl (fun y hy => by cases hy) ⟨by decide, by decide⟩ (by decide) q1444 (show (sT (odd (S g σ w1) (-12)) (sN σ)).1 = 14 + 1 from odd_t (σ := S g σ w1)) (by decide) rfl (.inl rfl) dX0_sitters_91 wX0_need (by decide) (Nat.le_of_ble_eq_true rfl) (Nat.le_of_ble_eq_true rfl) (Lk.S (As := [.int (b2i false), .int (-12)]) (rest := []) sX0_444 rfl dX0_sitters_91) (need_no (σ := S g σ w1) hU h1) h) ?_
      rw [sitL, if_neg hn]
      exact catch_X0_sitters (odd_t (σ := S g σ w1)) (odd_c (σ := S g σ w1)) ⟨rfl, QO.odd hX hN hC⟩
    · have hn : nI c < u1 139 s := Int32.not_le.mp c_81
      have hcz : c < sz := by rw [esz] at hn; exact (nI_ltI (by omega) (by omega)).mp hn
      refine VE.step (fun _ h => V.iconst_1 dX0_sitters_84 (V.goto (tgt := 89) dX0_sitters_85 (by decide) (V.bipush (v := (-12)) dX0_sitters_89 (by decide) (V.invS2v sX0_444 dX0_sitters_91 need_ok (V.ald0 dX0_sitters_94 (V.ild3 dX0_sitters_95 (V.ild7 dX0_sitters_96 (V.ald6 dX0_sitters_98 (GX0_308 hX hs rfl dX0_sitters_100 (V.ild7 dX0_sitters_103 (aXc (j := c) hX hs (IX.n (by omega) (by decide)) dX0_sitters_105 h))))))))))) ?_
      refine VE.invV3r vX0_455 hX.t0 dX0_sitters_106 (c_X0_sit hX hI) (fun s9 q9 => ?_)
      obtain ⟨w2, rfl, hX2⟩ := q9
      rw [sitL, if_pos hn]
      have es2 : sitW u1 r (nI c) (u1 140 (60 * s + c)) 139 s = nI sz := by rw [sitW_id (by decide)]; exact esz
      refine VE.if_lt (tgt := 115) dX0_sitters_109 (by decide) (fun c_109 => ?_) (fun c_109 => ?_)
      · refine VE.step (fun _ h => V.inc7 dX0_sitters_115 (V.goto (tgt := 67) dX0_sitters_118 (by decide) h)) ?_
        rw [nI_1, decide_eq_false (fun z => z c_109), show b2i false = 0 from rfl, Int32.add_zero]
        exact ih (c + 1) came w2 _ (by omega) hX2 hI.sW es2
      · refine VE.step (fun _ h => V.inc5 dX0_sitters_112 (V.inc7 dX0_sitters_115 (V.goto (tgt := 67) dX0_sitters_118 (by decide) h))) ?_
        rw [nI_1, decide_eq_true c_109]
        exact ih (c + 1) (came + 1) w2 _ (by omega) hX2 hI.sW es2
theorem c_X0_sitters {E : En} {g : Ge} {σ : Sg} {w u : Wv} {n : Nat} {K : Nat → Nat} (hX : XH g σ w u n K) (hU : EU E) (h1 : 1000 ≤ sN σ) (hN : NA g (sN σ)) (hC : CLN σ) (hI : HI u) (hS : HS u) {s t r k : Int32} : CtE E mX0_sitters 6 [.ref (g.1 0), .int s, .int t, .int r, .int k] (PR (.int (sittersR u s t r k)) (QO g σ (sittersW u s t r k) n K)) (S g σ w) := by
  show VE E mX0_sitters 6 _ 0 [some (.ref (g.1 0)), some (.int s), some (.int t), some (.int r), some (.int k), none, none, none] [] (S g σ w)
  have bad : sitsOk s t k = false → VE E mX0_sitters 6 (PR (.int (sittersR u s t r k)) (QO g σ (sittersW u s t r k) n K)) 32 [some (.ref (g.1 0)), some (.int s), some (.int t), some (.int r), some (.int k), none, none, none] [] (S g σ w) := fun hb => by
    refine VE.step (fun _ h => V.bipush (v := (-2)) dX0_sitters_32 (by decide) h) ?_
    exact VE.iret dX0_sitters_34 rfl rfl ⟨by rw [sittersR, hb]; rfl, by rw [sittersW, hb]; exact QO.same hX⟩
  refine VE.step (fun _ h => V.ild1 dX0_sitters_0 (V.invS1r sX0_300 dX0_sitters_1 c_X0_isSheet h)) ?_
  refine VE.ifb_eq (tgt := 32) dX0_sitters_4 (by decide) (fun c_4 => bad (by rw [sitsOk, c_4]; rfl)) (fun c_4 => ?_)
  refine VE.step (fun _ h => V.ild2 dX0_sitters_7 (V.i2l dX0_sitters_8 (V.lconst_0 dX0_sitters_9 (V.ldc2_w q807 dX0_sitters_10 (V.invS3r sX0_112 dX0_sitters_13 (in_c (lo := 0) (hi := 2) rfl rfl) h))))) ?_
  refine VE.ifb_eq (tgt := 32) dX0_sitters_16 (by decide) (fun c_16 => bad (by rw [sitsOk, c_16, Bool.and_false]; rfl)) (fun c_16 => ?_)
  refine VE.step (fun _ h => V.ild4 dX0_sitters_19 (V.i2l dX0_sitters_21 (V.lconst_0 dX0_sitters_22 (V.ldc2_w q815 dX0_sitters_23 (V.invS3r sX0_112 dX0_sitters_26 (in_c (lo := 0) (hi := 8) rfl rfl) h))))) ?_
  refine VE.ifb_ne (tgt := 35) dX0_sitters_29 (by decide) (fun c_29 => ?_) (fun c_29 => bad (by rw [sitsOk, c_29, Bool.and_false]))
  have hok : sitsOk s t k = true := by rw [sitsOk, c_4, c_16, c_29]; rfl
  obtain ⟨s, hs, rfl, es⟩ : ∃ s', s' < 4 ∧ s = nI s' ∧ cl s = s' := by
    obtain ⟨s', h1, h2⟩ := (inB_n (n := 4) (by decide)).mp c_4
    exact ⟨s', h1, h2, by rw [h2]; exact cl_n (by omega)⟩
  obtain ⟨a, ha, rfl⟩ := (inB_n (n := 9) (by decide)).mp c_29
  rw [sittersR, sittersW, if_pos hok, if_pos hok, es, cl_n (by omega)]
  refine VE.step (fun _ h => V.iconst_0 dX0_sitters_35 (V.ist5 dX0_sitters_36 (V.ald0 dX0_sitters_38 (V.ild1 dX0_sitters_39 h)))) ?_
  by_cases h138 : 0 ≤ u 138 s
  rotate_left 1
  · have hm := (sh_neg hS hs).mp h138
    rw [if_pos hm, if_pos hm]
    refine VE.step (fun _ h => V.callCatch [] (38, 123, 124, 431) [] rfl (fun y hy => by cases hy) ⟨by decide, by decide⟩ (by decide) q1444 (show (sT (odd (S g σ w) (-11)) (sN σ)).1 = 14 + 1 from odd_t (σ := S g σ w)) (by decide) rfl (.inl rfl) dX0_sitters_40 wX0_there (by decide) (Nat.le_of_ble_eq_true rfl) (Nat.le_of_ble_eq_true rfl) (Lk.V (As := [.int (nI s)]) (rest := []) vX0_440 hX.t0 rfl dX0_sitters_40) (there_no hX hU h1 hs h138) h) ?_
    exact catch_X0_sitters (odd_t (σ := S g σ w)) (odd_c (σ := S g σ w)) ⟨rfl, QO.odd hX hN hC⟩
  have hm : ¬ u 138 s = -1 := fun z => ((sh_neg hS hs).mpr z) h138
  rw [if_neg hm, if_neg hm]
  refine VE.step (fun _ h => V.invV1r vX0_440 hX.t0 dX0_sitters_40 (there_ok hX hs h138) (V.ast6 dX0_sitters_43 (V.ald6 dX0_sitters_45 (GX0_303 hX hs rfl dX0_sitters_47 (V.ild2 dX0_sitters_50 h))))) ?_
  refine VE.icmp_ne (tgt := 58) dX0_sitters_51 (by decide) (fun c_51 => ?_) (fun c_51 => ?_)
  · refine VE.step (fun _ h => V.iconst_0 dX0_sitters_58 (V.bipush (v := (-13)) dX0_sitters_59 (by decide) h)) ?_
    refine VE.step (fun _ h => V.callCatch [] (38, 123, 124, 431) [] rfl (fun y hy => by cases hy) ⟨by decide, by decide⟩ (by decide) q1444 (show (sT (odd (S g σ w) (-13)) (sN σ)).1 = 14 + 1 from odd_t (σ := S g σ w)) (by decide) rfl (.inl rfl) dX0_sitters_61 wX0_need (by decide) (Nat.le_of_ble_eq_true rfl) (Nat.le_of_ble_eq_true rfl) (Lk.S (As := [.int (b2i false), .int (-13)]) (rest := []) sX0_444 rfl dX0_sitters_61) (need_no (σ := S g σ w) hU h1) h) ?_
    rw [if_neg c_51, if_neg c_51]
    exact catch_X0_sitters (odd_t (σ := S g σ w)) (odd_c (σ := S g σ w)) ⟨rfl, QO.odd hX hN hC⟩
  · rw [if_pos c_51, if_pos c_51]
    obtain ⟨⟨sz, hsz, esz⟩, -⟩ := hS s hs
    refine VE.step (fun _ h => V.iconst_1 dX0_sitters_54 (V.goto (tgt := 59) dX0_sitters_55 (by decide) (V.bipush (v := (-13)) dX0_sitters_59 (by decide) (V.invS2v sX0_444 dX0_sitters_61 need_ok (V.iconst_0 dX0_sitters_64 (V.ist7 dX0_sitters_65 h)))))) ?_
    exact sit_67 hU h1 hN hC hs hsz (by omega) a 0 0 w u (by omega) hX hI esz
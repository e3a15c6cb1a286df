set_option maxRecDepth 100000
set_option maxHeartbeats 1000000
theorem XH.cpg {g : Ge} {σ : Sg} {w u : Wv} {n : Nat} {K : Nat → Nat} {id lo a sp b dp : Nat} {f : Nat → Int32} (hid : Nat.beq id 100 = false) (h : XH g σ w u n K) : ∀ m, (∀ j, j < m → xm id (lo + j) = some (b, dp + j)) → (∀ j, j < m → w a (sp + j) = f j) → XH g σ (cpW w a sp b dp m) (gA id lo m f u) n K
  | 0, _, _ => by rw [cpW_0, gA_0]; exact h
  | m + 1, hm, hf => by
    rw [cpW_s, ← gA_s (d := id) (a := lo) (k := m) (f := f) (x := w a (sp + m)) (hf m (by omega))]
    exact (XH.cpg hid h m (fun j hj => hm j (by omega)) (fun j hj => hf j (by omega))).up (hm m (by omega)) (by rw [hid]; rfl)
theorem cp_sub {N : Nat} (hN : N ≤ 60) {k : Int32} (hk : ¬ k < 0) : (nI N - k).toInt = (N : Int) - k.toInt := by
  rw [Int32.lt_iff_toInt_lt, Int32.toInt_zero] at hk
  have h2 := Int32.toInt_lt k
  rw [Int32.toInt_sub, nI_toInt (by omega), Int.bmod_def]
  split <;> omega
theorem cpy_x {u : Wv} {s o N M : Nat} {i j k : Int32} (hN : N ≤ 60) (hM : M ≤ 60) (e1 : u 139 s = nI N) (e2 : u 139 o = nI M) : cpyOk u s i o j k = (decide (¬ k < 0) && decide (¬ i < 0) && decide (¬ j < 0) && decide (¬ nI N - k < i) && decide (¬ nI M - k < j)) := by
  unfold cpyOk
  rw [e1, e2]
  by_cases h1 : k < 0
  · simp [h1]
  by_cases h2 : i < 0
  · simp [h2]
  by_cases h3 : j < 0
  · simp [h3]
  have a1 := cp_sub hN h1
  have a2 := cp_sub hM h1
  have a3 := cp_sub hN h2
  have a4 := cp_sub hM h3
  have p1 : ¬ k < 0 := h1
  have p2 : ¬ i < 0 := h2
  have p3 : ¬ j < 0 := h3
  rw [Int32.lt_iff_toInt_lt, Int32.toInt_zero] at p1 p2 p3
  rw [decide_eq_true h1, decide_eq_true h2, decide_eq_true h3]
  simp only [Bool.true_and]
  rw [← Bool.decide_and, ← Bool.decide_and, ← Bool.decide_and, ← Bool.decide_and]
  refine decide_eq_decide.mpr ?_
  rw [Int32.lt_iff_toInt_lt, Int32.lt_iff_toInt_lt, Int32.lt_iff_toInt_lt, Int32.le_iff_toInt_le, Int32.lt_iff_toInt_lt, Int32.lt_iff_toInt_lt, a1, a2, a3, a4, nI_toInt (by omega), nI_toInt (by omega)]
  omega
theorem c_X0_copy {E : En} {g : Ge} {σ : Sg} {w u : Wv} {n : Nat} {K : Nat → Nat} (hX : XH g σ w u n K) (hU : EU E) (h1 : 1000 ≤ sN σ) (hN : NA g (sN σ)) (hC : CLN σ) (hS : HS u) {s i o j k : Int32} : CtE E mX0_copy 6 [.ref (g.1 0), .int s, .int i, .int o, .int j, .int k] (PR (.int (copyR u s i o j k)) (QO g σ (copyW u u s i o j k) n K)) (S g σ w) := by
  show VE E mX0_copy 6 _ 0 [some (.ref (g.1 0)), some (.int s), some (.int i), some (.int o), some (.int j), some (.int k), none, none] [] (S g σ w)
  have bad : (inB s 0 3 && inB o 0 3) = false → VE E mX0_copy 6 (PR (.int (copyR u s i o j k)) (QO g σ (copyW u u s i o j k) n K)) 14 [some (.ref (g.1 0)), some (.int s), some (.int i), some (.int o), some (.int j), some (.int k), none, none] [] (S g σ w) := fun hb => by
    refine VE.step (fun _ h => V.bipush (v := (-2)) dX0_copy_14 (by decide) h) ?_
    exact VE.iret dX0_copy_16 rfl rfl ⟨by rw [copyR, hb]; rfl, by rw [copyW, hb]; exact QO.same hX⟩
  refine VE.step (fun _ h => V.ild1 dX0_copy_0 (V.invS1r sX0_300 dX0_copy_1 c_X0_isSheet h)) ?_
  refine VE.ifb_eq (tgt := 14) dX0_copy_4 (by decide) (fun c_4 => bad (by rw [c_4]; rfl)) (fun c_4 => ?_)
  refine VE.step (fun _ h => V.ild3 dX0_copy_7 (V.invS1r sX0_300 dX0_copy_8 c_X0_isSheet h)) ?_
  refine VE.ifb_ne (tgt := 17) dX0_copy_11 (by decide) (fun c_11 => ?_) (fun c_11 => bad (by rw [c_11, Bool.and_false]))
  have hok : (inB s 0 3 && inB o 0 3) = true := by rw [c_4, c_11]; rfl
  obtain ⟨s, hs, rfl, es⟩ : ∃ s', s' < 4 ∧ s = nI s' ∧ cl s = s' := by
    obtain ⟨s', h1, h2⟩ := (inB_n (n := 4) (by decide)).mp c_4
    exact ⟨s', h1, h2, by rw [h2]; exact cl_n (by omega)⟩
  obtain ⟨o, ho, rfl, eo⟩ : ∃ s', s' < 4 ∧ o = nI s' ∧ cl o = s' := by
    obtain ⟨s', h1, h2⟩ := (inB_n (n := 4) (by decide)).mp c_11
    exact ⟨s', h1, h2, by rw [h2]; exact cl_n (by omega)⟩
  rw [copyR, copyW, if_pos hok, if_pos hok, es, eo]
  refine VE.step (fun _ h => V.ald0 dX0_copy_17 (V.ild1 dX0_copy_18 h)) ?_
  by_cases hA : 0 ≤ u 138 s
  rotate_left 1
  · have hm := (sh_neg hS hs).mp hA
    rw [decide_eq_true hm, Bool.true_or, if_pos rfl, if_pos rfl]
    refine VE.step (fun _ h => V.callCatch [] (17, 123, 124, 431) [] rfl (fun y hy => by cases hy) ⟨by decide, by decide⟩ (by decide) q1444 (show (sT (odd (S g σ w) (-11)) (sN σ)).1 = 14 + 1 from odd_t (σ := S g σ w)) (by decide) rfl (.inl rfl) dX0_copy_19 wX0_there (by decide) (Nat.le_of_ble_eq_true rfl) (Nat.le_of_ble_eq_true rfl) (Lk.V (As := [.int (nI s)]) (rest := []) vX0_440 hX.t0 rfl dX0_copy_19) (there_no hX hU h1 hs hA) h) ?_
    exact catch_X0_copy (odd_t (σ := S g σ w)) (odd_c (σ := S g σ w)) ⟨rfl, QO.odd hX hN hC⟩
  have hmA : ¬ u 138 s = -1 := fun z => ((sh_neg hS hs).mpr z) hA
  refine VE.step (fun _ h => V.invV1r vX0_440 hX.t0 dX0_copy_19 (there_ok hX hs hA) (V.ast6 dX0_copy_22 (V.ald0 dX0_copy_24 (V.ild3 dX0_copy_25 h)))) ?_
  by_cases hB : 0 ≤ u 138 o
  rotate_left 1
  · have hm := (sh_neg hS ho).mp hB
    rw [decide_eq_true hm, Bool.or_true, if_pos rfl, if_pos rfl]
    refine VE.step (fun _ h => V.callCatch [] (17, 123, 124, 431) [] rfl (fun y hy => by cases hy) ⟨by decide, by decide⟩ (by decide) q1444 (show (sT (odd (S g σ w) (-11)) (sN σ)).1 = 14 + 1 from odd_t (σ := S g σ w)) (by decide) rfl (.inl rfl) dX0_copy_26 wX0_there (by decide) (Nat.le_of_ble_eq_true rfl) (Nat.le_of_ble_eq_true rfl) (Lk.V (As := [.int (nI o)]) (rest := []) vX0_440 hX.t0 rfl dX0_copy_26) (there_no hX hU h1 ho hB) h) ?_
    exact catch_X0_copy (odd_t (σ := S g σ w)) (odd_c (σ := S g σ w)) ⟨rfl, QO.odd hX hN hC⟩
  have hmB : ¬ u 138 o = -1 := fun z => ((sh_neg hS ho).mpr z) hB
  rw [decide_eq_false hmA, decide_eq_false hmB, Bool.or_false, if_neg (show ¬ false = true by decide), if_neg (show ¬ false = true by decide)]
  refine VE.step (fun _ h => V.invV1r vX0_440 hX.t0 dX0_copy_26 (there_ok hX ho hB) (V.ast7 dX0_copy_29 (V.ald6 dX0_copy_31 (GX0_303 hX hs rfl dX0_copy_33 (V.ald7 dX0_copy_36 (GX0_303 hX ho rfl dX0_copy_38 h)))))) ?_
  refine VE.icmp_ne (tgt := 48) dX0_copy_41 (by decide) (fun c_41 => ?_) (fun c_41 => ?_)
  · refine VE.step (fun _ h => V.iconst_0 dX0_copy_48 (V.bipush (v := (-13)) dX0_copy_49 (by decide) h)) ?_
    refine VE.step (fun _ h => V.callCatch [] (17, 123, 124, 431) [] rfl (fun y hy => by cases hy) ⟨by decide, by decide⟩ (by decide) q1444 (show (sT (odd (S g σ w) (-13)) (sN σ)).1 = 14 + 1 from odd_t (σ := S g σ w)) (by decide) rfl (.inl rfl) dX0_copy_51 wX0_need (by decide) (Nat.le_of_ble_eq_true rfl) (Nat.le_of_ble_eq_true rfl) (Lk.S (As := [.int (b2i false), .int (-13)]) (rest := []) sX0_444 rfl dX0_copy_51) (need_no (σ := S g σ w) hU h1) h) ?_
    rw [if_neg c_41, if_neg c_41]
    exact catch_X0_copy (odd_t (σ := S g σ w)) (odd_c (σ := S g σ w)) ⟨rfl, QO.odd hX hN hC⟩
  rw [if_pos c_41, if_pos c_41]
  obtain ⟨⟨sz, hsz, esz⟩, -⟩ := hS s hs
  obtain ⟨⟨so', hso, eso⟩, -⟩ := hS o ho
  have hcx := cpy_x (i := i) (j := j) (k := k) hsz hso esz eso
  have bad2 : cpyOk u s i o j k = false → VE E mX0_copy 6 (PR (.int (if cpyOk u s i o j k = true then k else -12)) (QO g σ (if cpyOk u s i o j k = true then cpyV u s (cl i) o (cl j) (cl k) else u) n K)) 97 [some (.ref (g.1 0)), some (.int (nI s)), some (.int i), some (.int (nI o)), some (.int j), some (.int k), some (.ref (g.1 (50 + s))), some (.ref (g.1 (50 + o)))] [] (S g σ w) := fun hb => by
    refine VE.step (fun _ h => V.iconst_0 dX0_copy_97 (V.bipush (v := (-12)) dX0_copy_98 (by decide) h)) ?_
    refine VE.step (fun _ h => V.callCatch [] (17, 123, 124, 431) [] rfl (fun y hy => by cases hy) ⟨by decide, by decide⟩ (by decide) q1444 (show (sT (odd (S g σ w) (-12)) (sN σ)).1 = 14 + 1 from odd_t (σ := S g σ w)) (by decide) rfl (.inl rfl) dX0_copy_100 wX0_need (by decide) (Nat.le_of_ble_eq_true rfl) (Nat.le_of_ble_eq_true rfl) (Lk.S (As := [.int (b2i false), .int (-12)]) (rest := []) sX0_444 rfl dX0_copy_100) (need_no (σ := S g σ w) hU h1) h) ?_
    rw [hb]
    exact catch_X0_copy (odd_t (σ := S g σ w)) (odd_c (σ := S g σ w)) ⟨rfl, QO.odd hX hN hC⟩
  refine VE.step (fun _ h => V.iconst_1 dX0_copy_44 (V.goto (tgt := 49) dX0_copy_45 (by decide) (V.bipush (v := (-13)) dX0_copy_49 (by decide) (V.invS2v sX0_444 dX0_copy_51 need_ok (V.ild5 dX0_copy_54 h))))) ?_
  refine VE.if_lt (tgt := 97) dX0_copy_56 (by decide) (fun c_56 => bad2 (by rw [hcx, decide_eq_false (fun z => z c_56)]; rfl)) (fun c_56 => ?_)
  refine VE.step (fun _ h => V.ild2 dX0_copy_59 h) ?_
  refine VE.if_lt (tgt := 97) dX0_copy_60 (by decide) (fun c_60 => bad2 (by rw [hcx, decide_eq_false (show ¬ ¬ i < 0 from fun z => z c_60), Bool.and_false]; rfl)) (fun c_60 => ?_)
  refine VE.step (fun _ h => V.ild4 dX0_copy_63 h) ?_
  refine VE.if_lt (tgt := 97) dX0_copy_65 (by decide) (fun c_65 => bad2 (by rw [hcx, decide_eq_false (show ¬ ¬ j < 0 from fun z => z c_65), Bool.and_false]; rfl)) (fun c_65 => ?_)
  refine VE.step (fun _ h => V.ild2 dX0_copy_68 (V.ald6 dX0_copy_69 (GX0_306 hX hs rfl dX0_copy_71 (V.ild5 dX0_copy_74 (V.isub dX0_copy_76 h))))) ?_
  rw [esz]
  refine VE.icmp_gt (tgt := 97) dX0_copy_77 (by decide) (fun c_77 => bad2 (by rw [hcx, decide_eq_false (show ¬ ¬ nI sz - k < i from fun z => z c_77), Bool.and_false]; rfl)) (fun c_77 => ?_)
  refine VE.step (fun _ h => V.ild4 dX0_copy_80 (V.ald7 dX0_copy_82 (GX0_306 hX ho rfl dX0_copy_84 (V.ild5 dX0_copy_87 (V.isub dX0_copy_89 h))))) ?_
  rw [eso]
  refine VE.icmp_gt (tgt := 97) dX0_copy_90 (by decide) (fun c_90 => bad2 (by rw [hcx, decide_eq_false (show ¬ ¬ nI so' - k < j from fun z => z c_90), Bool.and_false])) (fun c_90 => ?_)
  have hgood : cpyOk u s i o j k = true := by rw [hcx, decide_eq_true c_56, decide_eq_true c_60, decide_eq_true c_65, decide_eq_true c_77, decide_eq_true c_90]; rfl
  obtain ⟨a, b, c, rfl, rfl, rfl, hac, hbc⟩ := cpyOk_n hsz hso esz eso hgood
  rw [if_pos hgood, if_pos hgood, cl_n (by omega), cl_n (by omega), cl_n (by omega)]
  refine VE.step (fun _ h => V.iconst_1 dX0_copy_93 (V.goto (tgt := 98) dX0_copy_94 (by decide) (V.bipush (v := (-12)) dX0_copy_98 (by decide) (V.invS2v sX0_444 dX0_copy_100 need_ok (V.ald6 dX0_copy_103 (GX0_308 hX hs rfl dX0_copy_105 (V.ild2 dX0_copy_108 (V.ald7 dX0_copy_109 (GX0_308 hX ho rfl dX0_copy_111 (V.ild4 dX0_copy_114 (V.ild5 dX0_copy_116 (V.xcopy (sp := a) (dp := b) (m := c) (t := 100) hX.gk rfl (hX.ish hs).2 (hX.ish ho).2 (hX.si hs).2.2.2 (hX.si ho).2.2.2 (by decide) (by decide) rfl rfl rfl (by omega) (by omega) (by decide) (by decide) (.inl rfl) dX0_copy_118 (V.ild5 dX0_copy_121 h))))))))))))) ?_
  exact VE.iret dX0_copy_123 rfl rfl ⟨rfl, QO.same (XH.cpg rfl hX c (fun q hq => by rw [Nat.add_assoc]; exact xcm ho (by omega)) (fun q hq => by rw [show 60 * s + a + q = 60 * s + (a + q) by omega]; exact hX.sv.at (xcm hs (by omega))))⟩
set_option maxRecDepth 100000
set_option maxHeartbeats 1000000
theorem fA_off {u u1 : Wv} {a m : Nat} {f : Nat → Int32} (ho : ∀ id j, ¬ (id = a ∧ j < m) → u1 id j = u id j) : fA a m f u1 = fA a m f u := by
  funext id j
  by_cases h : id = a ∧ j < m
  · rw [h.1, fA_at h.2, fA_at h.2]
  · unfold fA; rw [if_neg h, if_neg h]; exact ho id j h
theorem off_fA {u : Wv} {a m : Nat} {f : Nat → Int32} : ∀ id j, ¬ (id = a ∧ j < m) → fA a m f u id j = u id j := fun id j h => by unfold fA; rw [if_neg h]
theorem off_fA' {u u1 : Wv} {a m k : Nat} {f : Nat → Int32} (hk : k ≤ m) (ho : ∀ id j, ¬ (id = a ∧ j < m) → u1 id j = u id j) : ∀ id j, ¬ (id = a ∧ j < m) → fA a k f u1 id j = u id j := fun id j h => by unfold fA; rw [if_neg (fun z => h ⟨z.1, by omega⟩)]; exact ho id j h
theorem lay_G {g : Ge} {σ : Sg} {w1 u u1 : Wv} {n : Nat} {K : Nat → Nat} {id a b m : Nat} (hid : Nat.beq id 100 = false) (hm : ∀ j, j < m → xm id j = some (b, 0 + j)) (hX : XH g σ w1 u1 n K) (hk : ∀ j, j < m → w1 a j = u id j) (ho : ∀ i j, ¬ (i = id ∧ j < m) → u1 i j = u i j) : XH g σ (cpW w1 a 0 b 0 m) u n K := by
  have h := hX.cp (id := id) (a := a) (sp := 0) (b := b) (dp := 0) hid m hm
  rw [fA_back ho (fun j hj => by rw [Nat.zero_add]; exact hk j hj)] at h
  exact h
theorem shiB_x {u : Wv} (hI : HI u) {a : Int32} : shiB u = bst (fun s => allS (shiV u s)) nI 0 (2 ^ nR u) (a, -1) := by
  obtain ⟨m, hm⟩ : ∃ m, 2 ^ nR u = m + 1 := ⟨2 ^ nR u - 1, by have := Nat.two_pow_pos (nR u); omega⟩
  rw [shiB, hm]
  exact bst_1 (f := fun s => allS (shiV u s)) (key := nI) (k := 0) (m := m) (a := 0) (b := a) (allS_nn (u := shiV u 0) (hI.f (by decide) (by decide) (by decide)))
theorem HE.fo {u : Wv} (h : HE u) {id m : Nat} {f : Nat → Int32} (hid : ¬ (id = 101 ∨ id = 102 ∨ id = 103 ∨ id = 107 ∨ id = 108)) : HE (fA id m f u) := by
  refine ⟨fun k hk => ?_, fun r hr => ?_⟩
  · rw [fA_ne (fun z => hid (.inl z.symm)), fA_ne (fun z => hid (.inr (.inl z.symm))), fA_ne (fun z => hid (.inr (.inr (.inl z.symm))))]; exact h.1 k hk
  · rw [fA_ne (fun z => hid (.inr (.inr (.inr (.inl z.symm))))), fA_ne (fun z => hid (.inr (.inr (.inr (.inr z.symm)))))]; exact h.2 r hr
theorem pw_b {n : Nat} (h : n ≤ 6) : 2 ^ n ≤ 64 := by
  rcases (show n = 0 ∨ n = 1 ∨ n = 2 ∨ n = 3 ∨ n = 4 ∨ n = 5 ∨ n = 6 by omega) with rfl | rfl | rfl | rfl | rfl | rfl | rfl <;> decide
theorem c_X0_shifts {E : En} {g : Ge} {σ : Sg} {w u : Wv} {n : Nat} {K : Nat → Nat} (hX : XH g σ w u n K) (hI : HI u) (hE : HE u) (hT : HT u) (hR : TXR g σ u) {a : Int32} : CtE E mX0_shifts 407 [.ref (g.1 0), .int a] (PR (.int (shiftsR u a)) (QX g σ u n K)) (S g σ w) := by
  show VE E mX0_shifts 407 _ 0 [some (.ref (g.1 0)), some (.int a), none, none, none] [] (S g σ w)
  refine VE.step (fun _ h => V.ild1 dX0_shifts_0 (V.i2l dX0_shifts_1 (V.lconst_0 dX0_shifts_2 (V.lconst_1 dX0_shifts_3 (V.invS3r sX0_112 dX0_shifts_4 (in_c (lo := 0) (hi := 1) rfl rfl) h))))) ?_
  refine VE.ifb_ne (tgt := 13) dX0_shifts_7 (by decide) (fun c_7 => ?_) (fun c_7 => ?_)
  · refine VE.step (fun _ h => V.ald0 dX0_shifts_13 (GX0_29 hX rfl dX0_shifts_14 (V.iconst_0 dX0_shifts_17 (V.ald0 dX0_shifts_18 (GX0_57 hX rfl dX0_shifts_19 (V.iconst_0 dX0_shifts_22 (V.bipush (v := 6) dX0_shifts_23 (by decide) (V.xcopy (sp := 0) (dp := 0) (m := 6) (t := 100) hX.gk rfl hX.i0 hX.i0 (hX.ai (f := 5) (by decide)).2 (hX.ai (f := 21) (by decide)).2 (by decide) (by decide) rfl rfl rfl (by decide) (by decide) (by decide) (by decide) (.inl rfl) dX0_shifts_25 h)))))))) ?_
    have hX0 := hX.cps (a := 6) (sp := 0) (b := 22) (dp := 0) (m := 6) (fun j => rfl)
    refine VE.step (fun _ h => V.ald0 dX0_shifts_28 (V.iconst_m1 dX0_shifts_29 (PX0_371 hX0 rfl dX0_shifts_30 (V.iconst_0 dX0_shifts_33 (V.ist2 dX0_shifts_34 h))))) ?_
    have h6 := hX.2.2.1.1
    have hpw := pw_b h6
    have L35 : ∀ (m s : Nat) (w1 u1 : Wv) (z3 z4 : Option Value), s + m = 2 ^ n → XH g σ w1 u1 n K → (∀ id j, ¬ (id = 109 ∧ j < n) → u1 id j = u id j) → (∀ j, j < 6 → w1 22 j = u 109 j) → VE E mX0_shifts 407 (PR (.int (if a = 0 then (bst (fun s => allS (shiV u s)) nI s m (w1 0 19, w1 0 20)).1 else (bst (fun s => allS (shiV u s)) nI s m (w1 0 19, w1 0 20)).2)) (QX g σ u n K)) 35 [some (.ref (g.1 0)), some (.int (a)), some (.int (nI s)), z3, z4] [] (S g σ w1) := by
      intro m
      induction m with
      | zero =>
        intro s w1 u1 z3 z4 hk hX1 ho hk1
        refine VE.step (fun _ h => V.ild2 dX0_shifts_35 (V.iconst_1 dX0_shifts_36 (V.ald0 dX0_shifts_37 (GX0_22 hX1 rfl dX0_shifts_38 (V.invV0r vX0_142 hX1.li.2.1 dX0_shifts_41 (c_J2_size hX1) (V.ishl dX0_shifts_44 h)))))) ?_
        refine VE.icmp_ge (tgt := 89) dX0_shifts_45 (by decide) (fun c_45 => ?_) (fun c_45 => absurd (by rw [shl_n n h6]; exact nI_le (by omega) (by omega)) c_45)
        refine VE.step (fun _ h => V.ald0 dX0_shifts_89 (GX0_57 hX1 rfl dX0_shifts_90 (V.iconst_0 dX0_shifts_93 (V.ald0 dX0_shifts_94 (GX0_29 hX1 rfl dX0_shifts_95 (V.iconst_0 dX0_shifts_98 (V.bipush (v := 6) dX0_shifts_99 (by decide) (V.xcopy (sp := 0) (dp := 0) (m := 6) (t := 100) hX1.gk rfl hX1.i0 hX1.i0 (hX1.ai (f := 21) (by decide)).2 (hX1.ai (f := 5) (by decide)).2 (by decide) (by decide) rfl rfl rfl (by decide) (by decide) (by decide) (by decide) (.inl rfl) dX0_shifts_101 h)))))))) ?_
        have hX2 := lay_G (id := 109) (a := 22) (b := 6) (m := 6) rfl (fun j hj => by rw [xm_109 hj, Nat.zero_add]) hX1 hk1 (fun i j h => ho i j (fun z => h ⟨z.1, by omega⟩))
        refine VE.step (fun _ h => V.goto (tgt := 127) dX0_shifts_104 (by decide) (V.ild1 dX0_shifts_127 h)) ?_
        refine VE.if_ne (tgt := 138) dX0_shifts_128 (by decide) (fun c_128 => ?_) (fun c_128 => ?_)
        · refine VE.step (fun _ h => V.ald0 dX0_shifts_138 (GX0_371 hX2 rfl dX0_shifts_139 h)) ?_
          exact VE.iret dX0_shifts_142 rfl rfl (by first | exact ⟨by rw [if_pos c_128]; rfl, _, rfl, lay_G rfl (fun j hj => by rw [xm_109 hj, Nat.zero_add]) hX1 hk1 (fun i j h => ho i j (fun z => h ⟨z.1, by omega⟩))⟩ | exact ⟨by rw [if_neg c_128]; rfl, _, rfl, lay_G rfl (fun j hj => by rw [xm_109 hj, Nat.zero_add]) hX1 hk1 (fun i j h => ho i j (fun z => h ⟨z.1, by omega⟩))⟩)
        · refine VE.step (fun _ h => V.ald0 dX0_shifts_131 (GX0_378 hX2 rfl dX0_shifts_132 (V.goto (tgt := 142) dX0_shifts_135 (by decide) h))) ?_
          exact VE.iret dX0_shifts_142 rfl rfl (by first | exact ⟨by rw [if_pos c_128]; rfl, _, rfl, lay_G rfl (fun j hj => by rw [xm_109 hj, Nat.zero_add]) hX1 hk1 (fun i j h => ho i j (fun z => h ⟨z.1, by omega⟩))⟩ | exact ⟨by rw [if_neg c_128]; rfl, _, rfl, lay_G rfl (fun j hj => by rw [xm_109 hj, Nat.zero_add]) hX1 hk1 (fun i j h => ho i j (fun z => h ⟨z.1, by omega⟩))⟩)
      | succ m ih =>
        intro s w1 u1 z3 z4 hk hX1 ho hk1
        have L50 : ∀ (m9 r : Nat) (w2 : Wv), r + m9 = n → XH g σ w2 (fA 109 r (fun r => (nI s >>> (nI r &&& 31)) &&& 1) u1) n K → (∀ j, j < 6 → w2 22 j = u 109 j) → (w2 0 19 = w1 0 19 ∧ w2 0 20 = w1 0 20) → VE E mX0_shifts 407 (PR (.int (if a = 0 then (bst (fun s => allS (shiV u s)) nI s (m + 1) (w1 0 19, w1 0 20)).1 else (bst (fun s => allS (shiV u s)) nI s (m + 1) (w1 0 19, w1 0 20)).2)) (QX g σ u n K)) 50 [some (.ref (g.1 0)), some (.int (a)), some (.int (nI s)), some (.int (nI r)), z4] [] (S g σ w2) := by
          intro m9
          induction m9 with
          | zero =>
            intro r w2 hk9 hX2 hk2 ht2
            refine VE.step (fun _ h => V.ild3 dX0_shifts_50 (V.ald0 dX0_shifts_51 (GX0_22 hX2 rfl dX0_shifts_52 (V.invV0r vX0_142 hX2.li.2.1 dX0_shifts_55 (c_J2_size hX2) h)))) ?_
            refine VE.icmp_ge (tgt := 78) dX0_shifts_58 (by decide) (fun c_58 => ?_) (fun c_58 => absurd (by exact nI_le (by omega) (by omega)) c_58)
            have hrn : r = n := by omega
            rw [hrn, fA_off ho] at hX2
            have hX2 : XH g σ w2 (shiV u s) n K := by rw [shiV, hX.nrw]; exact hX2
            refine VE.step (fun _ h => V.ald0 dX0_shifts_78 (V.ild2 dX0_shifts_79 h)) ?_
            refine VE.invV1v vX0_374 hX2.t0 dX0_shifts_80 (c_X0_keeps hX2 (hI.f (by decide) (by decide) (by decide)) (hE.fo (by decide)) (hT.f (by decide)) (hR.f (by decide))) (fun s9 q9 => ?_)
            obtain ⟨w3, rfl, hX3, hs3, hN3⟩ := q9
            refine VE.step (fun _ h => V.inc2 dX0_shifts_83 (V.goto (tgt := 35) dX0_shifts_86 (by decide) h)) ?_
            rw [ht2.1, ht2.2] at hs3
            rw [nI_1, bst_k (f := (fun s => allS (shiV u s))) (key := nI) (k := s) (m := m) (s := (w1 0 19, w1 0 20)) (t := (w3 0 19, w3 0 20)) hs3]
            exact ih (s + 1) w3 _ _ _ (by omega) hX3 (by rw [shiV, hX.nrw]; exact off_fA) (fun j hj => (hN3 22 j (by decide) (by simp)).trans (hk2 j hj))
          | succ m9 ih9 =>
            intro r w2 hk9 hX2 hk2 ht2
            refine VE.step (fun _ h => V.ild3 dX0_shifts_50 (V.ald0 dX0_shifts_51 (GX0_22 hX2 rfl dX0_shifts_52 (V.invV0r vX0_142 hX2.li.2.1 dX0_shifts_55 (c_J2_size hX2) h)))) ?_
            refine VE.icmp_ge (tgt := 78) dX0_shifts_58 (by decide) (fun c_58 => absurd c_58 (by first | exact nI_ge (by omega) (by omega) | exact fun h9 => absurd ((nI_leI (by omega) (by omega)).mp h9) (by omega))) (fun c_58 => ?_)
            refine VE.step (fun _ h => V.ald0 dX0_shifts_61 (GX0_29 hX2 rfl dX0_shifts_62 (V.ild3 dX0_shifts_65 (V.ild2 dX0_shifts_66 (V.ild3 dX0_shifts_67 (V.ishr dX0_shifts_68 (V.iconst_1 dX0_shifts_69 (V.iand dX0_shifts_70 (sX5 hX2 (IX.n (by omega) (by decide)) dX0_shifts_71 (V.inc3 dX0_shifts_72 (V.goto (tgt := 50) dX0_shifts_75 (by decide) h))))))))))) ?_
            rw [nI_1]
            have h9 := hX2.up (xm_109 (j := r) (by omega)) (x := (nI s >>> (nI r &&& 31)) &&& 1)
            rw [fA_s (f := (fun r => (nI s >>> (nI r &&& 31)) &&& 1)) rfl] at h9
            exact ih9 (r + 1) _ (by omega) h9 (fun j hj => by rw [up2_ne _ _ (fun z => absurd z.1 (by decide))]; exact hk2 j hj) ⟨by rw [up2_ne _ _ (fun z => absurd z.1 (by decide))]; exact ht2.1, by rw [up2_ne _ _ (fun z => absurd z.1 (by decide))]; exact ht2.2⟩
        refine VE.step (fun _ h => V.ild2 dX0_shifts_35 (V.iconst_1 dX0_shifts_36 (V.ald0 dX0_shifts_37 (GX0_22 hX1 rfl dX0_shifts_38 (V.invV0r vX0_142 hX1.li.2.1 dX0_shifts_41 (c_J2_size hX1) (V.ishl dX0_shifts_44 h)))))) ?_
        refine VE.icmp_ge (tgt := 89) dX0_shifts_45 (by decide) (fun c_45 => absurd c_45 (by rw [shl_n n h6]; first | exact nI_ge (by omega) (by omega) | exact fun h9 => absurd ((nI_leI (by omega) (by omega)).mp h9) (by omega))) (fun c_45 => ?_)
        refine VE.step (fun _ h => V.iconst_0 dX0_shifts_48 (V.ist3 dX0_shifts_49 h)) ?_
        exact L50 n 0 w1 (by omega) (by rw [fA_0]; exact hX1) hk1 ⟨rfl, rfl⟩
    rw [shiftsR, if_pos c_7, shiB_x hI (a := w 0 19), hX.nrw]
    have h9 := L35 (2 ^ n) 0 (up2 (cpW w 6 0 22 0 6) 0 20 (-1)) u none none (by omega) (hX0.sc (a := 0) (b := 20) rfl) (fun _ _ _ => rfl) (fun j hj => by rw [up2_ne _ _ (fun z => absurd z.1 (by decide)), cpW_at hj, Nat.zero_add]; exact hX.sv.at (xm_109 hj))
    rw [show (up2 (cpW w 6 0 22 0 6) 0 20 (-1)) 0 19 = w 0 19 by rw [up2_ne _ _ (fun z => absurd z.2 (by decide)), cpW_ne (by decide)], up2_eq] at h9
    exact h9
  · refine VE.step (fun _ h => V.bipush (v := (-2)) dX0_shifts_10 (by decide) h) ?_
    exact VE.iret dX0_shifts_12 rfl rfl (⟨by simp only [shiftsR, c_7, if_true, if_false, Bool.false_eq_true, eq_self, and_true, true_and, and_false, false_and, Bool.and_true, Bool.true_and, Bool.and_false, Bool.false_and, Bool.not_true, Bool.not_false, not_true_eq_false, not_false_eq_true, ne_eq, b2i_t, b2i_f], w, rfl, hX⟩)

theorem stageR_x {u : Wv} (hI : HI u) {a : Int32} : stageR u = (bst (fun s => allS (stgV u s)) nI 0 11 (a, -1)).1 := by
  have e : stgV u 0 = u := by
    unfold stgV
    funext id j
    by_cases h : id = 113 ∧ j < nP u
    · rw [h.1, fA_at h.2]; exact Int32.add_zero _
    · unfold fA; rw [if_neg h]
  rw [stageR, bst_k (f := fun s => allS (stgV u s)) (key := nI) (k := 0) (m := 10) (s := (a, -1)) (t := (0, allS u)) (by show _ = if allS (stgV u 0) ≤ -1 then _ else _; rw [e, if_neg (allS_nn hI)]; rfl)]
theorem c_X0_stage {E : En} {g : Ge} {σ : Sg} {w u : Wv} {n : Nat} {K : Nat → Nat} (hX : XH g σ w u n K) (hI : HI u) (hE : HE u) (hT : HT u) (hR : TXR g σ u)  : CtE E mX0_stage 407 [.ref (g.1 0)] (PR (.int (stageR u)) (QX g σ u n K)) (S g σ w) := by
  show VE E mX0_stage 407 _ 0 [some (.ref (g.1 0)), none, none, none] [] (S g σ w)
  refine VE.step (fun _ h => V.ald0 dX0_stage_0 (GX0_35 hX rfl dX0_stage_1 (V.iconst_0 dX0_stage_4 (V.ald0 dX0_stage_5 (GX0_60 hX rfl dX0_stage_6 (V.iconst_0 dX0_stage_9 (V.bipush (v := 6) dX0_stage_10 (by decide) (V.xcopy (sp := 0) (dp := 0) (m := 6) (t := 100) hX.gk rfl hX.i0 hX.i0 (hX.ai (f := 7) (by decide)).2 (hX.ai (f := 22) (by decide)).2 (by decide) (by decide) rfl rfl rfl (by decide) (by decide) (by decide) (by decide) (.inl rfl) dX0_stage_12 h)))))))) ?_
  have hX0 := hX.cps (a := 8) (sp := 0) (b := 23) (dp := 0) (m := 6) (fun j => rfl)
  refine VE.step (fun _ h => V.ald0 dX0_stage_15 (V.iconst_m1 dX0_stage_16 (PX0_371 hX0 rfl dX0_stage_17 (V.iconst_0 dX0_stage_20 (V.ist1 dX0_stage_21 h))))) ?_
  have hP6 := hI.points.2
  have L22 : ∀ (m s : Nat) (w1 u1 : Wv) (z2 z3 : Option Value), s + m = 11 → XH g σ w1 u1 n K → (∀ id j, ¬ (id = 113 ∧ j < nP u) → u1 id j = u id j) → (∀ j, j < 6 → w1 23 j = u 113 j) → VE E mX0_stage 407 (PR (.int ((bst (fun s => allS (stgV u s)) nI s m (w1 0 19, w1 0 20)).1)) (QX g σ u n K)) 22 [some (.ref (g.1 0)), some (.int (nI s)), z2, z3] [] (S g σ w1) := by
    intro m
    induction m with
    | zero =>
      intro s w1 u1 z2 z3 hk hX1 ho hk1
      refine VE.step (fun _ h => V.ild1 dX0_stage_22 (V.bipush (v := 10) dX0_stage_23 (by decide) h)) ?_
      refine VE.icmp_gt (tgt := 69) dX0_stage_25 (by decide) (fun c_25 => ?_) (fun c_25 => absurd (show (10 : Int32) < nI s by rw [show s = 11 by omega]; decide) c_25)
      refine VE.step (fun _ h => V.ald0 dX0_stage_69 (GX0_60 hX1 rfl dX0_stage_70 (V.iconst_0 dX0_stage_73 (V.ald0 dX0_stage_74 (GX0_35 hX1 rfl dX0_stage_75 (V.iconst_0 dX0_stage_78 (V.bipush (v := 6) dX0_stage_79 (by decide) (V.xcopy (sp := 0) (dp := 0) (m := 6) (t := 100) hX1.gk rfl hX1.i0 hX1.i0 (hX1.ai (f := 22) (by decide)).2 (hX1.ai (f := 7) (by decide)).2 (by decide) (by decide) rfl rfl rfl (by decide) (by decide) (by decide) (by decide) (.inl rfl) dX0_stage_81 h)))))))) ?_
      have hX2 := lay_G (id := 113) (a := 23) (b := 8) (m := 6) rfl (fun j hj => by rw [xm_113 hj, Nat.zero_add]) hX1 hk1 (fun i j h => ho i j (fun z => h ⟨z.1, by omega⟩))
      refine VE.step (fun _ h => V.goto (tgt := 105) dX0_stage_84 (by decide) (V.ald0 dX0_stage_105 (GX0_378 hX2 rfl dX0_stage_106 h))) ?_
      exact VE.iret dX0_stage_109 rfl rfl (⟨rfl, _, rfl, hX2⟩)
    | succ m ih =>
      intro s w1 u1 z2 z3 hk hX1 ho hk1
      have L30 : ∀ (m9 p : Nat) (w2 : Wv), p + m9 = nP u → XH g σ w2 (fA 113 p (fun p => u 113 p + nI s) u1) n K → (∀ j, j < 6 → w2 23 j = u 113 j) → (w2 0 19 = w1 0 19 ∧ w2 0 20 = w1 0 20) → VE E mX0_stage 407 (PR (.int ((bst (fun s => allS (stgV u s)) nI s (m + 1) (w1 0 19, w1 0 20)).1)) (QX g σ u n K)) 30 [some (.ref (g.1 0)), some (.int (nI s)), some (.int (nI p)), z3] [] (S g σ w2) := by
        intro m9
        induction m9 with
        | zero =>
          intro p w2 hk9 hX2 hk2 ht2
          refine VE.step (fun _ h => V.ild2 dX0_stage_30 (V.ald0 dX0_stage_31 (GX0_203 hX2 rfl dX0_stage_32 h))) ?_
          refine VE.icmp_ge (tgt := 58) dX0_stage_35 (by decide) (fun c_35 => ?_) (fun c_35 => absurd (by rw [(show fA 113 p (fun p => u 113 p + nI s) u1 100 10 = nI (nP u) by rw [fA_ne (by decide), ho 100 10 (by simp)]; exact hI.points.1)]; exact nI_le (by omega) (by omega)) c_35)
          have hrn : p = nP u := by omega
          rw [hrn, fA_off ho] at hX2
          have hX2 : XH g σ w2 (stgV u s) n K := hX2
          refine VE.step (fun _ h => V.ald0 dX0_stage_58 (V.ild1 dX0_stage_59 h)) ?_
          refine VE.invV1v vX0_374 hX2.t0 dX0_stage_60 (c_X0_keeps hX2 (hI.f (by decide) (by decide) (by decide)) (hE.fo (by decide)) (hT.f (by decide)) (hR.f (by decide))) (fun s9 q9 => ?_)
          obtain ⟨w3, rfl, hX3, hs3, hN3⟩ := q9
          refine VE.step (fun _ h => V.inc1 dX0_stage_63 (V.goto (tgt := 22) dX0_stage_66 (by decide) h)) ?_
          rw [ht2.1, ht2.2] at hs3
          rw [nI_1, bst_k (f := (fun s => allS (stgV u s))) (key := nI) (k := s) (m := m) (s := (w1 0 19, w1 0 20)) (t := (w3 0 19, w3 0 20)) hs3]
          exact ih (s + 1) w3 _ _ _ (by omega) hX3 off_fA (fun j hj => (hN3 23 j (by decide) (by simp)).trans (hk2 j hj))
        | succ m9 ih9 =>
          intro p w2 hk9 hX2 hk2 ht2
          refine VE.step (fun _ h => V.ild2 dX0_stage_30 (V.ald0 dX0_stage_31 (GX0_203 hX2 rfl dX0_stage_32 h))) ?_
          refine VE.icmp_ge (tgt := 58) dX0_stage_35 (by decide) (fun c_35 => absurd c_35 (by rw [(show fA 113 p (fun p => u 113 p + nI s) u1 100 10 = nI (nP u) by rw [fA_ne (by decide), ho 100 10 (by simp)]; exact hI.points.1)]; first | exact nI_ge (by omega) (by omega) | exact fun h9 => absurd ((nI_leI (by omega) (by omega)).mp h9) (by omega))) (fun c_35 => ?_)
          refine VE.step (fun _ h => V.ald0 dX0_stage_38 (GX0_35 hX2 rfl dX0_stage_39 (V.ild2 dX0_stage_42 (V.ald0 dX0_stage_43 (GX0_60 hX2 rfl dX0_stage_44 (V.ild2 dX0_stage_47 (aX22 hX2 (IX.n (by omega) (by decide)) dX0_stage_48 h))))))) ?_
          rw [hk2 p (by omega)]
          refine VE.step (fun _ h => V.ild1 dX0_stage_49 (V.iadd dX0_stage_50 (sX7 hX2 (IX.n (by omega) (by decide)) dX0_stage_51 (V.inc2 dX0_stage_52 (V.goto (tgt := 30) dX0_stage_55 (by decide) h))))) ?_
          rw [nI_1]
          have h9 := hX2.up (xm_113 (j := p) (by omega)) (x := u 113 p + nI s)
          rw [fA_s (f := (fun p => u 113 p + nI s)) rfl] at h9
          exact ih9 (p + 1) _ (by omega) h9 (fun j hj => by rw [up2_ne _ _ (fun z => absurd z.1 (by decide))]; exact hk2 j hj) ⟨by rw [up2_ne _ _ (fun z => absurd z.1 (by decide))]; exact ht2.1, by rw [up2_ne _ _ (fun z => absurd z.1 (by decide))]; exact ht2.2⟩
      refine VE.step (fun _ h => V.ild1 dX0_stage_22 (V.bipush (v := 10) dX0_stage_23 (by decide) h)) ?_
      refine VE.icmp_gt (tgt := 69) dX0_stage_25 (by decide) (fun c_25 => absurd c_25 (show ¬ (10 : Int32) < nI s from fun z => absurd ((nI_ltI (a := 10) (by omega) (by omega)).mp z) (by omega))) (fun c_25 => ?_)
      refine VE.step (fun _ h => V.iconst_0 dX0_stage_28 (V.ist2 dX0_stage_29 h)) ?_
      exact L30 (nP u) 0 w1 (by omega) (by rw [fA_0]; exact hX1) hk1 ⟨rfl, rfl⟩
  rw [stageR_x hI (a := w 0 19)]
  have h9 := L22 11 0 (up2 (cpW w 8 0 23 0 6) 0 20 (-1)) u none none (by omega) (hX0.sc (a := 0) (b := 20) rfl) (fun _ _ _ => rfl) (fun j hj => by rw [up2_ne _ _ (fun z => absurd z.1 (by decide)), cpW_at hj, Nat.zero_add]; exact hX.sv.at (xm_113 hj))
  rw [show (up2 (cpW w 8 0 23 0 6) 0 20 (-1)) 0 19 = w 0 19 by rw [up2_ne _ _ (fun z => absurd z.2 (by decide)), cpW_ne (by decide)], up2_eq] at h9
  exact h9

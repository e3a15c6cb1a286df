set_option maxRecDepth 100000
set_option maxHeartbeats 1000000
theorem fA_cg {d m : Nat} {f f' : Nat → Int32} {w : Wv} (h : ∀ j, j < m → f j = f' j) : fA d m f w = fA d m f' w := by
  funext id j
  unfold fA
  by_cases e : id = d ∧ j < m
  · rw [if_pos e, if_pos e]; exact h j e.2
  · rw [if_neg e, if_neg e]
theorem aB_all {P : Nat → Bool} : ∀ (m k : Nat), aB P k m = true → ∀ r, k ≤ r → r < k + m → P r = true
  | 0, k, _, r, h1, h2 => absurd h2 (by omega)
  | m + 1, k, h, r, h1, h2 => by
    rw [aB, Bool.and_eq_true] at h
    by_cases e : r = k
    · rw [e]; exact h.1
    · exact aB_all m (k + 1) h.2 r (by omega) (by omega)
theorem c_X0_judge {E : En} {g : Ge} {σ : Sg} {w u : Wv} {n : Nat} {K : Nat → Nat} (hX : XH g σ w u n K) (hI : HI u) (hE : HE u) (hS : HS u) {s : Int32} : CtE E mX0_judge 8 [.ref (g.1 0), .int s] (PR (.int (judgeR u s)) (QX g σ u n K)) (S g σ w) := by
  show VE E mX0_judge 8 _ 0 [some (.ref (g.1 0)), some (.int s), none, none, none, none] [] (S g σ w)
  refine VE.step (fun _ h => V.ild1 dX0_judge_0 (V.invS1r sX0_300 dX0_judge_1 c_X0_isSheet h)) ?_
  refine VE.ifb_ne (tgt := 10) dX0_judge_4 (by decide) (fun c_4 => ?_) (fun c_4 => ?_)
  · obtain ⟨s, hs, rfl, es⟩ : ∃ s', s' < 4 ∧ s = nI s' ∧ cl s = s' := by
      obtain ⟨s', h1, h2⟩ := (inB_n (n := 4) (by decide)).mp c_4
      exact ⟨s', h1, h2, by rw [h2]; exact cl_n (by omega)⟩
    refine VE.step (fun _ h => V.ald0 dX0_judge_10 (GX0_97 hX rfl dX0_judge_11 (V.ild1 dX0_judge_14 (aXS (j := s) hX (IX.n hs (by decide)) dX0_judge_15 (V.ast2 dX0_judge_16 (V.ald2 dX0_judge_17 (GX0_303 hX hs rfl dX0_judge_18 h))))))) ?_
    refine VE.if_ge (tgt := 27) dX0_judge_21 (by decide) (fun c_21 => ?_) (fun c_21 => ?_)
    · refine VE.step (fun _ h => V.ald2 dX0_judge_27 (GX0_306 hX hs rfl dX0_judge_28 (V.ald0 dX0_judge_31 (GX0_22 hX rfl dX0_judge_32 (V.invV0r vX0_142 hX.li.2.1 dX0_judge_35 (c_J2_size hX) h))))) ?_
      refine VE.icmp_eq (tgt := 44) dX0_judge_38 (by decide) (fun c_38 => ?_) (fun c_38 => ?_)
      · refine VE.step (fun _ h => V.iconst_0 dX0_judge_44 (V.ist3 dX0_judge_45 h)) ?_
        have hn6 := hX.2.2.1.1
        have L46 : ∀ (m46 r : Nat), r + m46 = n → aB (fun r => inB (u 140 (60 * s + r)) 0 99) 0 n = aB (fun r => inB (u 140 (60 * s + r)) 0 99) r m46 → VE E mX0_judge 8 (PR (.int (judgeR u (nI s))) (QX g σ u n K)) 46 [some (.ref (g.1 0)), some (.int (nI s)), some (.ref (g.1 (50 + s))), some (.int (nI r)), none, none] [] (S g σ w) := by
          intro m46
          induction m46 with
          | zero =>
            intro r hk hP
            refine VE.step (fun _ h => V.ild3 dX0_judge_46 (V.ald2 dX0_judge_47 (GX0_306 hX hs rfl dX0_judge_48 h))) ?_
            refine VE.icmp_ge (tgt := 80) dX0_judge_51 (by decide) (fun c_51 => ?_) (fun c_51 => absurd (by rw [c_38]; exact nI_le (by omega) (by omega)) c_51)
            have hAll : aB (fun r => inB (u 140 (60 * s + r)) 0 99) 0 n = true := by rw [hP]; rfl
            rw [judgeR, if_pos c_4, es, if_neg (fun z => absurd c_21 ((sh_neg hS hs).mpr z)), if_pos (by rw [hX.nrw, hX.rows, hAll, decide_eq_true c_38]; rfl), hX.nrw]
            obtain ⟨hK1, hK2⟩ := keep_ok hX
            have hX2 : XH g σ (cpW (cpW w 5 0 16 0 6) (54 + s) 0 5 0 n) (judgeV u s) n K := by
              have h9 := hK1.cp (id := 108) (a := 54 + s) (sp := 0) (b := 5) (dp := 0) rfl n (fun j hj => by rw [xm_108 (by omega), Nat.zero_add])
              rw [judgeV, hX.nrw]
              rw [fA_cg (f' := fun r => u 140 (60 * s + r)) (fun j hj => by rw [cpW_ne (by omega), Nat.zero_add]; exact hX.sv.at (xcm hs (by omega)))] at h9
              exact h9
            have hb8 : ∀ r, r < nR u → r < 6 → ∃ a, a ≤ 99 ∧ u 140 (60 * s + r) = nI a := fun r hr _ => by
              rw [hX.nrw] at hr
              obtain ⟨a, ha, e⟩ := (inB_n (n := 100) (by decide)).mp (aB_all n 0 hAll r (by omega) (by omega))
              exact ⟨a, by omega, e⟩
            have hLay := lay_ok hX2 (fun j hj => by rw [cpW_ne (by decide)]; exact hK2 j hj) (fun id j h => by rw [judgeV]; exact off_fA id j (fun z => h ⟨z.1, by rw [hX.nrw] at z; omega⟩))
            have L103 : ∀ (m r : Nat), r + m = n → VE E mX0_judge 8 (PR (.int (ffI (fun r => !(aSee (judgeV u s) r)) r m)) (QX g σ u n K)) 103 [some (.ref (g.1 0)), some (.int (nI s)), some (.ref (g.1 (50 + s))), some (.int (nI r)), none, none] [] (S g σ (cpW (cpW w 5 0 16 0 6) (54 + s) 0 5 0 n)) := by
              intro m
              induction m with
              | zero =>
                intro r hk 
                refine VE.step (fun _ h => V.ild3 dX0_judge_103 (V.ald2 dX0_judge_104 (GX0_306 hX2 hs rfl dX0_judge_105 h))) ?_
                refine VE.icmp_ge (tgt := 135) dX0_judge_108 (by decide) (fun c_108 => ?_) (fun c_108 => absurd (by rw [(show judgeV u s 139 s = nI n by rw [judgeV, fA_ne (by decide)]; exact c_38)]; exact nI_le (by omega) (by omega)) c_108)
                refine VE.step (fun _ h => V.iconst_m1 dX0_judge_135 (V.ist3 dX0_judge_136 (V.ald0 dX0_judge_137 (V.invV0v vX0_323 hX2.t0 dX0_judge_138 (c_X0_laysRises hX2) (V.ild3 dX0_judge_141 h))))) ?_
                exact VE.iret dX0_judge_142 rfl rfl (⟨by rw [ffI_0], _, rfl, hLay⟩)
              | succ m ih =>
                intro r hk 
                refine VE.step (fun _ h => V.ild3 dX0_judge_103 (V.ald2 dX0_judge_104 (GX0_306 hX2 hs rfl dX0_judge_105 h))) ?_
                refine VE.icmp_ge (tgt := 135) dX0_judge_108 (by decide) (fun c_108 => absurd c_108 (by rw [(show judgeV u s 139 s = nI n by rw [judgeV, fA_ne (by decide)]; exact c_38)]; first | exact nI_ge (by omega) (by omega) | exact fun h9 => absurd ((nI_leI (by omega) (by omega)).mp h9) (by omega))) (fun c_108 => ?_)
                refine VE.step (fun _ h => V.ald0 dX0_judge_111 (V.ild3 dX0_judge_112 (V.invV1r vX0_320 hX2.t0 dX0_judge_113 (c_X0_seesAll hX2 (by omega) (hI.f (by decide) (by decide) (by decide)) (hE.f8 hb8)) h))) ?_
                refine VE.ifb_ne (tgt := 129) dX0_judge_116 (by decide) (fun c_116 => ?_) (fun c_116 => ?_)
                · refine VE.step (fun _ h => V.inc3 dX0_judge_129 (V.goto (tgt := 103) dX0_judge_132 (by decide) h)) ?_
                  rw [nI_1, ffI_s, if_neg (by rw [c_116]; decide)]
                  exact ih (r + 1) (by omega)
                · refine VE.step (fun _ h => V.ild3 dX0_judge_119 (V.ist4 dX0_judge_120 (V.ald0 dX0_judge_122 (V.invV0v vX0_323 hX2.t0 dX0_judge_123 (c_X0_laysRises hX2) (V.ild4 dX0_judge_126 h))))) ?_
                  exact VE.iret dX0_judge_128 rfl rfl (⟨by rw [ffI_s, if_pos (by rw [c_116]; rfl)], _, rfl, hLay⟩)
            refine VE.step (fun _ h => V.ald0 dX0_judge_80 (V.invV0v vX0_311 hX.t0 dX0_judge_81 (c_X0_keepsRises hX) h)) ?_
            have hK1' := hK1
            refine VE.step (fun _ h => V.ald2 dX0_judge_84 (GX0_308 hK1 hs rfl dX0_judge_85 (V.iconst_0 dX0_judge_88 (V.ald0 dX0_judge_89 (GX0_26 hK1 rfl dX0_judge_90 (V.iconst_0 dX0_judge_93 (V.ald2 dX0_judge_94 (GX0_306 hK1 hs rfl dX0_judge_95 (V.xcopy (sp := 0) (dp := 0) (m := n) (t := 100) hX.gk rfl (hX.ish hs).2 hX.i0 (hX.si hs).2.2.2 (hX.ai (f := 4) (by decide)).2 (by decide) (by decide) rfl rfl c_38 (by omega) (by show 0 + n ≤ 6; omega) (by decide) (by decide) (.inl rfl) dX0_judge_98 (V.iconst_0 dX0_judge_101 (V.ist3 dX0_judge_102 h))))))))))) ?_
            exact L103 n 0 (by omega)
          | succ m46 ih =>
            intro r hk hP
            refine VE.step (fun _ h => V.ild3 dX0_judge_46 (V.ald2 dX0_judge_47 (GX0_306 hX hs rfl dX0_judge_48 h))) ?_
            refine VE.icmp_ge (tgt := 80) dX0_judge_51 (by decide) (fun c_51 => absurd c_51 (by rw [c_38]; first | exact nI_ge (by omega) (by omega) | exact fun h9 => absurd ((nI_leI (by omega) (by omega)).mp h9) (by omega))) (fun c_51 => ?_)
            refine VE.step (fun _ h => V.ald2 dX0_judge_54 (GX0_308 hX hs rfl dX0_judge_55 (V.ild3 dX0_judge_58 (aXc hX hs (IX.n (by omega) (by decide)) dX0_judge_59 (V.i2l dX0_judge_60 (V.lconst_0 dX0_judge_61 (V.ldc2_w q994 dX0_judge_62 (V.invS3r sX0_112 dX0_judge_65 (in_c (lo := 0) (hi := 99) rfl rfl) h)))))))) ?_
            refine VE.ifb_ne (tgt := 74) dX0_judge_68 (by decide) (fun c_68 => ?_) (fun c_68 => ?_)
            · refine VE.step (fun _ h => V.inc3 dX0_judge_74 (V.goto (tgt := 46) dX0_judge_77 (by decide) h)) ?_
              rw [nI_1]
              exact ih (r + 1) (by omega) (by rw [hP, aB, show inB (u 140 (60 * s + r)) 0 99 = true from c_68, Bool.true_and])
            · refine VE.step (fun _ h => V.bipush (v := (-2)) dX0_judge_71 (by decide) h) ?_
              exact VE.iret dX0_judge_73 rfl rfl (⟨by rw [judgeR, if_pos c_4, es, if_neg (fun z => absurd c_21 ((sh_neg hS hs).mpr z)), if_neg (by rw [hX.nrw, hP, aB, show inB (u 140 (60 * s + r)) 0 99 = false from c_68, Bool.false_and, Bool.and_false]; decide)], w, rfl, hX⟩)
        exact L46 n 0 (by omega) rfl
      · refine VE.step (fun _ h => V.bipush (v := (-2)) dX0_judge_41 (by decide) h) ?_
        exact VE.iret dX0_judge_43 rfl rfl (by first | (refine ⟨?_, w, rfl, hX⟩; simp only [judgeR, c_4, c_21, c_38, if_true, if_false, Bool.false_eq_true, eq_self, and_true, true_and, and_false, false_and, Bool.and_true, Bool.true_and, Bool.and_false, Bool.false_and, Bool.not_true, Bool.not_false, not_true_eq_false, not_false_eq_true, ne_eq, b2i_t, b2i_f]; done) | (refine ⟨?_, w, rfl, hX⟩; rw [judgeR, if_pos c_4, es, if_pos ((sh_neg hS hs).mp c_21)]; done) | (refine ⟨?_, w, rfl, hX⟩; rw [judgeR, if_pos c_4, es, if_neg (fun z => absurd c_21 ((sh_neg hS hs).mpr z)), if_neg (by rw [hX.rows, decide_eq_false c_38]; simp)]; done))
    · refine VE.step (fun _ h => V.bipush (v := (-11)) dX0_judge_24 (by decide) h) ?_
      exact VE.iret dX0_judge_26 rfl rfl (by first | (refine ⟨?_, w, rfl, hX⟩; simp only [judgeR, c_4, c_21, if_true, if_false, Bool.false_eq_true, eq_self, and_true, true_and, and_false, false_and, Bool.and_true, Bool.true_and, Bool.and_false, Bool.false_and, Bool.not_true, Bool.not_false, not_true_eq_false, not_false_eq_true, ne_eq, b2i_t, b2i_f]; done) | (refine ⟨?_, w, rfl, hX⟩; rw [judgeR, if_pos c_4, es, if_pos ((sh_neg hS hs).mp c_21)]; done) | (refine ⟨?_, w, rfl, hX⟩; rw [judgeR, if_pos c_4, es, if_neg (fun z => absurd c_21 ((sh_neg hS hs).mpr z)), if_neg (by rw [hX.rows, decide_eq_false c_38]; simp)]; done))
  · refine VE.step (fun _ h => V.bipush (v := (-2)) dX0_judge_7 (by decide) h) ?_
    exact VE.iret dX0_judge_9 rfl rfl (by first | (refine ⟨?_, w, rfl, hX⟩; simp only [judgeR, c_4, if_true, if_false, Bool.false_eq_true, eq_self, and_true, true_and, and_false, false_and, Bool.and_true, Bool.true_and, Bool.and_false, Bool.false_and, Bool.not_true, Bool.not_false, not_true_eq_false, not_false_eq_true, ne_eq, b2i_t, b2i_f]; done) | (refine ⟨?_, w, rfl, hX⟩; rw [judgeR, if_pos c_4, es, if_pos ((sh_neg hS hs).mp c_21)]; done) | (refine ⟨?_, w, rfl, hX⟩; rw [judgeR, if_pos c_4, es, if_neg (fun z => absurd c_21 ((sh_neg hS hs).mpr z)), if_neg (by rw [hX.rows, decide_eq_false c_38]; simp)]; done))

theorem c_J11_fill_2 {E : En} {g : Ge} {σ : Sg} {w u : Wv} {n : Nat} {K : Nat → Nat} (hX : XH g σ w u n K) {s : Nat} (hs : s < 4) : CtE E mJ11_fill_2 0 [.ref (g.1 (54 + s)), .int 0] (PV (QX g σ (gA 140 (60 * s) 60 (fun _ => 0) u) n K)) (S g σ w) := by
  show VE E mJ11_fill_2 0 _ 0 [some (.ref (g.1 (54 + s))), some (.int 0), none, none] [] (S g σ w)
  have L5 : ∀ (m i : Nat) (w1 : Wv), i + m = 60 → XH g σ w1 (gA 140 (60 * s) i (fun _ => 0) u) n K → VE E mJ11_fill_2 0 (PV (QX g σ (gA 140 (60 * s) 60 (fun _ => 0) u) n K)) 5 [some (.ref (g.1 (54 + s))), some (.int 0), some (.int (nI i)), some (.int (nI 60))] [] (S g σ w1) := by
    intro m
    induction m with
    | zero =>
      intro i w1 hi hX1
      refine VE.step (fun _ h => V.ild2 dJ11_fill_2_5 (V.ild3 dJ11_fill_2_6 h)) ?_
      refine VE.icmp_ge (tgt := 20) dJ11_fill_2_7 (by decide) (fun c_7 => ?_) (fun c_7 => absurd (nI_le (by omega) (by omega)) c_7)
      exact VE.vret dJ11_fill_2_20 rfl ⟨rfl, w1, rfl, by rw [show i = 60 by omega] at hX1; exact hX1⟩
    | succ m ih =>
      intro i w1 hi hX1
      refine VE.step (fun _ h => V.ild2 dJ11_fill_2_5 (V.ild3 dJ11_fill_2_6 h)) ?_
      refine VE.icmp_ge (tgt := 20) dJ11_fill_2_7 (by decide) (fun c_7 => absurd c_7 (nI_ge (by omega) (by omega))) (fun c_7 => ?_)
      refine VE.step (fun _ h => V.ald0 dJ11_fill_2_10 (V.ild2 dJ11_fill_2_11 (V.ild1 dJ11_fill_2_12 (sXc (j := i) hX1 hs (IX.n (by omega) (by decide)) dJ11_fill_2_13 (V.inc2 dJ11_fill_2_14 (V.goto (tgt := 5) dJ11_fill_2_17 (by decide) h)))))) ?_
      rw [nI_1]
      have h9 := hX1.up (xcm hs (show i < 60 by omega)) (x := 0)
      rw [gA_s (f := (fun _ => 0)) rfl] at h9
      exact ih (i + 1) _ (by omega) h9
  refine VE.step (fun _ h => V.iconst_0 dJ11_fill_2_0 (V.ist2 dJ11_fill_2_1 (V.ald0 dJ11_fill_2_2 (V.alen (σ := S g σ w) (hX.si hs).2.2.2 (by decide) (by decide) dJ11_fill_2_3 (V.ist3 dJ11_fill_2_4 h))))) ?_
  exact L5 60 0 w (by omega) (by rw [gA_0]; exact hX)
theorem t_neg {t : Int32} (h : inB t (-1) 2 = true) : t < 0 ↔ t = -1 := by
  unfold inB at h
  rw [decide_eq_true_eq, Int32.le_iff_toInt_le, Int32.le_iff_toInt_le] at h
  rw [Int32.lt_iff_toInt_lt, Int32.toInt_zero, ← Int32.toInt_inj]
  have e1 : (-1 : Int32).toInt = -1 := by decide
  rw [e1] at h ⊢
  omega
theorem shB_f {s t k : Int32} (h : inB s 0 3 = false ∨ inB t (-1) 2 = false ∨ (inB t (-1) 2 = true ∧ ¬ t < 0 ∧ ¬ k ≤ 60)) {u : Wv} : sheetR s t k = -2 ∧ sheetW u s t k = u := by
  have hb : shtB s t k = false := by
    rcases h with h | h | ⟨h1, h2, h3⟩
    · rw [shtB, h]; rfl
    · rw [shtB, h, Bool.and_false]; rfl
    · rw [shtB, decide_eq_false (fun z => h2 ((t_neg h1).mpr z)), decide_eq_false h3, Bool.or_false, Bool.and_false]
  rw [sheetR, sheetW, hb]; exact ⟨rfl, rfl⟩
theorem shB_t {s t k : Int32} (h4 : inB s 0 3 = true) (h18 : inB t (-1) 2 = true) (h : t < 0 ∨ k ≤ 60) : shtB s t k = true := by
  rw [shtB, h4, h18]
  rcases h with h | h
  · rw [decide_eq_true ((t_neg h18).mp h)]; rfl
  · rw [decide_eq_true h, Bool.or_true]; rfl
theorem sh_14 {s t k : Int32} (h4 : inB s 0 3 = true) (h18 : inB t (-1) 2 = true) (h : t < 0 ∨ k ≤ 60) (h1 : ¬ t < 0) (h2 : ¬ 0 ≤ k) {u : Wv} : sheetR s t k = -14 ∧ sheetW u s t k = u := by
  rw [sheetR, sheetW, if_pos (shB_t h4 h18 h), if_pos (shB_t h4 h18 h), shtN, decide_eq_true (show ¬ t = -1 from fun z => h1 ((t_neg h18).mpr z)), decide_eq_true h2]; exact ⟨rfl, rfl⟩
theorem sh_ok {s t k : Int32} (h4 : inB s 0 3 = true) (h18 : inB t (-1) 2 = true) (h : t < 0 ∨ k ≤ 60) (h1 : t < 0 ∨ 0 ≤ k) {u : Wv} : sheetR s t k = 1 ∧ sheetW u s t k = shtV u (cl s) t k := by
  have hn : shtN t k = false := by
    rw [shtN]
    rcases h1 with h9 | h9
    · rw [decide_eq_false (fun z => z ((t_neg h18).mp h9))]; rfl
    · rw [decide_eq_false (show ¬ ¬ 0 ≤ k from fun z => z h9), Bool.and_false]
  rw [sheetR, sheetW, if_pos (shB_t h4 h18 h), if_pos (shB_t h4 h18 h), hn]; exact ⟨rfl, rfl⟩
theorem c_X0_sheet {E : En} {g : Ge} {σ : Sg} {w u : Wv} {n : Nat} {K : Nat → Nat} (hX : XH g σ w u n K) {s t k : Int32} : CtE E mX0_sheet 2 [.ref (g.1 0), .int s, .int t, .int k] (PR (.int (sheetR s t k)) (QX g σ (sheetW u s t k) n K)) (S g σ w) := by
  show VE E mX0_sheet 2 _ 0 [some (.ref (g.1 0)), some (.int s), some (.int t), some (.int k)] [] (S g σ w)
  refine VE.step (fun _ h => V.ild1 dX0_sheet_0 (V.invS1r sX0_300 dX0_sheet_1 c_X0_isSheet h)) ?_
  refine VE.ifb_eq (tgt := 31) dX0_sheet_4 (by decide) (fun c_4 => ?_) (fun c_4 => ?_)
  · refine VE.step (fun _ h => V.bipush (v := (-2)) dX0_sheet_31 (by decide) h) ?_
    exact VE.iret dX0_sheet_33 rfl rfl (by have h9 := shB_f (s := s) (t := t) (k := k) (u := u) (by first | exact .inl c_4 | exact .inr (.inl c_18) | exact .inr (.inr ⟨c_18, c_22, c_28⟩)); exact ⟨by rw [h9.1], w, rfl, by rw [h9.2]; exact hX⟩)
  · refine VE.step (fun _ h => V.ild2 dX0_sheet_7 (V.i2l dX0_sheet_8 (V.ldc2_w q1436 dX0_sheet_9 (V.ldc2_w q807 dX0_sheet_12 (V.invS3r sX0_112 dX0_sheet_15 (in_c (lo := -1) (hi := 2) rfl rfl) h))))) ?_
    refine VE.ifb_eq (tgt := 31) dX0_sheet_18 (by decide) (fun c_18 => ?_) (fun c_18 => ?_)
    · refine VE.step (fun _ h => V.bipush (v := (-2)) dX0_sheet_31 (by decide) h) ?_
      exact VE.iret dX0_sheet_33 rfl rfl (by have h9 := shB_f (s := s) (t := t) (k := k) (u := u) (by first | exact .inl c_4 | exact .inr (.inl c_18) | exact .inr (.inr ⟨c_18, c_22, c_28⟩)); exact ⟨by rw [h9.1], w, rfl, by rw [h9.2]; exact hX⟩)
    · refine VE.step (fun _ h => V.ild2 dX0_sheet_21 h) ?_
      refine VE.if_lt (tgt := 34) dX0_sheet_22 (by decide) (fun c_22 => ?_) (fun c_22 => ?_)
      · refine VE.step (fun _ h => V.ild2 dX0_sheet_34 h) ?_
        refine VE.if_lt (tgt := 45) dX0_sheet_35 (by decide) (fun c_35 => ?_) (fun c_35 => ?_)
        · obtain ⟨s, hs, rfl, es⟩ : ∃ s', s' < 4 ∧ s = nI s' ∧ cl s = s' := by
            obtain ⟨s', h1, h2⟩ := (inB_n (n := 4) (by decide)).mp c_4
            exact ⟨s', h1, h2, by rw [h2]; exact cl_n (by omega)⟩
          refine VE.step (fun _ h => V.ald0 dX0_sheet_45 (GX0_97 hX rfl dX0_sheet_46 (V.ild1 dX0_sheet_49 (aXS (j := s) hX (IX.n hs (by decide)) dX0_sheet_50 (V.ild2 dX0_sheet_51 (PX0_303 hX hs rfl dX0_sheet_52 h)))))) ?_
          have hX1 := hX.up (xm_138 hs) (x := t)
          refine VE.step (fun _ h => V.ald0 dX0_sheet_55 (GX0_97 hX1 rfl dX0_sheet_56 (V.ild1 dX0_sheet_59 (aXS (j := s) hX1 (IX.n hs (by decide)) dX0_sheet_60 (V.ild2 dX0_sheet_61 h))))) ?_
          refine VE.if_ge (tgt := 69) dX0_sheet_62 (by decide) (fun c_62 => ?_) (fun c_62 => ?_)
          · refine VE.step (fun _ h => V.ild3 dX0_sheet_69 (PX0_306 hX1 hs rfl dX0_sheet_70 h)) ?_
            have hX2 := hX1.up (xm_139 hs) (x := if t = -1 then 0 else k)
            first
              | (rw [if_neg (fun z => absurd c_62 (Int32.not_le.mpr ((t_neg c_18).mpr z)))] at hX2; have e9 : (if t = -1 then 0 else k) = k := if_neg (fun z => absurd c_62 (Int32.not_le.mpr ((t_neg c_18).mpr z))))
              | (rw [if_pos ((t_neg c_18).mp (Int32.not_le.mp c_62))] at hX2; have e9 : (if t = -1 then 0 else k) = 0 := if_pos ((t_neg c_18).mp (Int32.not_le.mp c_62)))
            refine VE.step (fun _ h => V.ald0 dX0_sheet_73 (GX0_97 hX2 rfl dX0_sheet_74 (V.ild1 dX0_sheet_77 (aXS (j := s) hX2 (IX.n hs (by decide)) dX0_sheet_78 (GX0_308 hX2 hs rfl dX0_sheet_79 (V.iconst_0 dX0_sheet_82 h)))))) ?_
            refine VE.invS2v sX0_437 dX0_sheet_83 (c_J11_fill_2 hX2 hs) (fun s9 q9 => ?_)
            obtain ⟨w3, rfl, hX3⟩ := q9
            refine VE.step (fun _ h => V.iconst_1 dX0_sheet_86 h) ?_
            exact VE.iret dX0_sheet_87 rfl rfl (by have h9 := sh_ok (s := nI s) (t := t) (k := k) (u := u) c_4 c_18 (by first | exact .inl c_22 | exact .inr c_28) (by first | exact .inl c_35 | exact .inr c_39); exact ⟨by rw [h9.1], w3, rfl, by rw [h9.2, es, shtV, e9]; exact hX3⟩)
          · refine VE.step (fun _ h => V.iconst_0 dX0_sheet_65 (V.goto (tgt := 70) dX0_sheet_66 (by decide) (PX0_306 hX1 hs rfl dX0_sheet_70 h))) ?_
            have hX2 := hX1.up (xm_139 hs) (x := if t = -1 then 0 else k)
            first
              | (rw [if_neg (fun z => absurd c_62 (Int32.not_le.mpr ((t_neg c_18).mpr z)))] at hX2; have e9 : (if t = -1 then 0 else k) = k := if_neg (fun z => absurd c_62 (Int32.not_le.mpr ((t_neg c_18).mpr z))))
              | (rw [if_pos ((t_neg c_18).mp (Int32.not_le.mp c_62))] at hX2; have e9 : (if t = -1 then 0 else k) = 0 := if_pos ((t_neg c_18).mp (Int32.not_le.mp c_62)))
            refine VE.step (fun _ h => V.ald0 dX0_sheet_73 (GX0_97 hX2 rfl dX0_sheet_74 (V.ild1 dX0_sheet_77 (aXS (j := s) hX2 (IX.n hs (by decide)) dX0_sheet_78 (GX0_308 hX2 hs rfl dX0_sheet_79 (V.iconst_0 dX0_sheet_82 h)))))) ?_
            refine VE.invS2v sX0_437 dX0_sheet_83 (c_J11_fill_2 hX2 hs) (fun s9 q9 => ?_)
            obtain ⟨w3, rfl, hX3⟩ := q9
            refine VE.step (fun _ h => V.iconst_1 dX0_sheet_86 h) ?_
            exact VE.iret dX0_sheet_87 rfl rfl (by have h9 := sh_ok (s := nI s) (t := t) (k := k) (u := u) c_4 c_18 (by first | exact .inl c_22 | exact .inr c_28) (by first | exact .inl c_35 | exact .inr c_39); exact ⟨by rw [h9.1], w3, rfl, by rw [h9.2, es, shtV, e9]; exact hX3⟩)
        · refine VE.step (fun _ h => V.ild3 dX0_sheet_38 h) ?_
          refine VE.if_ge (tgt := 45) dX0_sheet_39 (by decide) (fun c_39 => ?_) (fun c_39 => ?_)
          · obtain ⟨s, hs, rfl, es⟩ : ∃ s', s' < 4 ∧ s = nI s' ∧ cl s = s' := by
              obtain ⟨s', h1, h2⟩ := (inB_n (n := 4) (by decide)).mp c_4
              exact ⟨s', h1, h2, by rw [h2]; exact cl_n (by omega)⟩
            refine VE.step (fun _ h => V.ald0 dX0_sheet_45 (GX0_97 hX rfl dX0_sheet_46 (V.ild1 dX0_sheet_49 (aXS (j := s) hX (IX.n hs (by decide)) dX0_sheet_50 (V.ild2 dX0_sheet_51 (PX0_303 hX hs rfl dX0_sheet_52 h)))))) ?_
            have hX1 := hX.up (xm_138 hs) (x := t)
            refine VE.step (fun _ h => V.ald0 dX0_sheet_55 (GX0_97 hX1 rfl dX0_sheet_56 (V.ild1 dX0_sheet_59 (aXS (j := s) hX1 (IX.n hs (by decide)) dX0_sheet_60 (V.ild2 dX0_sheet_61 h))))) ?_
            refine VE.if_ge (tgt := 69) dX0_sheet_62 (by decide) (fun c_62 => ?_) (fun c_62 => ?_)
            · refine VE.step (fun _ h => V.ild3 dX0_sheet_69 (PX0_306 hX1 hs rfl dX0_sheet_70 h)) ?_
              have hX2 := hX1.up (xm_139 hs) (x := if t = -1 then 0 else k)
              first
                | (rw [if_neg (fun z => absurd c_62 (Int32.not_le.mpr ((t_neg c_18).mpr z)))] at hX2; have e9 : (if t = -1 then 0 else k) = k := if_neg (fun z => absurd c_62 (Int32.not_le.mpr ((t_neg c_18).mpr z))))
                | (rw [if_pos ((t_neg c_18).mp (Int32.not_le.mp c_62))] at hX2; have e9 : (if t = -1 then 0 else k) = 0 := if_pos ((t_neg c_18).mp (Int32.not_le.mp c_62)))
              refine VE.step (fun _ h => V.ald0 dX0_sheet_73 (GX0_97 hX2 rfl dX0_sheet_74 (V.ild1 dX0_sheet_77 (aXS (j := s) hX2 (IX.n hs (by decide)) dX0_sheet_78 (GX0_308 hX2 hs rfl dX0_sheet_79 (V.iconst_0 dX0_sheet_82 h)))))) ?_
              refine VE.invS2v sX0_437 dX0_sheet_83 (c_J11_fill_2 hX2 hs) (fun s9 q9 => ?_)
              obtain ⟨w3, rfl, hX3⟩ := q9
              refine VE.step (fun _ h => V.iconst_1 dX0_sheet_86 h) ?_
              exact VE.iret dX0_sheet_87 rfl rfl (by have h9 := sh_ok (s := nI s) (t := t) (k := k) (u := u) c_4 c_18 (by first | exact .inl c_22 | exact .inr c_28) (by first | exact .inl c_35 | exact .inr c_39); exact ⟨by rw [h9.1], w3, rfl, by rw [h9.2, es, shtV, e9]; exact hX3⟩)
            · refine VE.step (fun _ h => V.iconst_0 dX0_sheet_65 (V.goto (tgt := 70) dX0_sheet_66 (by decide) (PX0_306 hX1 hs rfl dX0_sheet_70 h))) ?_
              have hX2 := hX1.up (xm_139 hs) (x := if t = -1 then 0 else k)
              first
                | (rw [if_neg (fun z => absurd c_62 (Int32.not_le.mpr ((t_neg c_18).mpr z)))] at hX2; have e9 : (if t = -1 then 0 else k) = k := if_neg (fun z => absurd c_62 (Int32.not_le.mpr ((t_neg c_18).mpr z))))
                | (rw [if_pos ((t_neg c_18).mp (Int32.not_le.mp c_62))] at hX2; have e9 : (if t = -1 then 0 else k) = 0 := if_pos ((t_neg c_18).mp (Int32.not_le.mp c_62)))
              refine VE.step (fun _ h => V.ald0 dX0_sheet_73 (GX0_97 hX2 rfl dX0_sheet_74 (V.ild1 dX0_sheet_77 (aXS (j := s) hX2 (IX.n hs (by decide)) dX0_sheet_78 (GX0_308 hX2 hs rfl dX0_sheet_79 (V.iconst_0 dX0_sheet_82 h)))))) ?_
              refine VE.invS2v sX0_437 dX0_sheet_83 (c_J11_fill_2 hX2 hs) (fun s9 q9 => ?_)
              obtain ⟨w3, rfl, hX3⟩ := q9
              refine VE.step (fun _ h => V.iconst_1 dX0_sheet_86 h) ?_
              exact VE.iret dX0_sheet_87 rfl rfl (by have h9 := sh_ok (s := nI s) (t := t) (k := k) (u := u) c_4 c_18 (by first | exact .inl c_22 | exact .inr c_28) (by first | exact .inl c_35 | exact .inr c_39); exact ⟨by rw [h9.1], w3, rfl, by rw [h9.2, es, shtV, e9]; exact hX3⟩)
          · refine VE.step (fun _ h => V.bipush (v := (-14)) dX0_sheet_42 (by decide) h) ?_
            exact VE.iret dX0_sheet_44 rfl rfl (by have h9 := sh_14 (u := u) c_4 c_18 (by first | exact .inl c_22 | exact .inr c_28) c_35 c_39; exact ⟨by rw [h9.1], w, rfl, by rw [h9.2]; exact hX⟩)
      · refine VE.step (fun _ h => V.ild3 dX0_sheet_25 (V.bipush (v := 60) dX0_sheet_26 (by decide) h)) ?_
        refine VE.icmp_le (tgt := 34) dX0_sheet_28 (by decide) (fun c_28 => ?_) (fun c_28 => ?_)
        · refine VE.step (fun _ h => V.ild2 dX0_sheet_34 h) ?_
          refine VE.if_lt (tgt := 45) dX0_sheet_35 (by decide) (fun c_35 => ?_) (fun c_35 => ?_)
          · obtain ⟨s, hs, rfl, es⟩ : ∃ s', s' < 4 ∧ s = nI s' ∧ cl s = s' := by
              obtain ⟨s', h1, h2⟩ := (inB_n (n := 4) (by decide)).mp c_4
              exact ⟨s', h1, h2, by rw [h2]; exact cl_n (by omega)⟩
            refine VE.step (fun _ h => V.ald0 dX0_sheet_45 (GX0_97 hX rfl dX0_sheet_46 (V.ild1 dX0_sheet_49 (aXS (j := s) hX (IX.n hs (by decide)) dX0_sheet_50 (V.ild2 dX0_sheet_51 (PX0_303 hX hs rfl dX0_sheet_52 h)))))) ?_
            have hX1 := hX.up (xm_138 hs) (x := t)
            refine VE.step (fun _ h => V.ald0 dX0_sheet_55 (GX0_97 hX1 rfl dX0_sheet_56 (V.ild1 dX0_sheet_59 (aXS (j := s) hX1 (IX.n hs (by decide)) dX0_sheet_60 (V.ild2 dX0_sheet_61 h))))) ?_
            refine VE.if_ge (tgt := 69) dX0_sheet_62 (by decide) (fun c_62 => ?_) (fun c_62 => ?_)
            · refine VE.step (fun _ h => V.ild3 dX0_sheet_69 (PX0_306 hX1 hs rfl dX0_sheet_70 h)) ?_
              have hX2 := hX1.up (xm_139 hs) (x := if t = -1 then 0 else k)
              first
                | (rw [if_neg (fun z => absurd c_62 (Int32.not_le.mpr ((t_neg c_18).mpr z)))] at hX2; have e9 : (if t = -1 then 0 else k) = k := if_neg (fun z => absurd c_62 (Int32.not_le.mpr ((t_neg c_18).mpr z))))
                | (rw [if_pos ((t_neg c_18).mp (Int32.not_le.mp c_62))] at hX2; have e9 : (if t = -1 then 0 else k) = 0 := if_pos ((t_neg c_18).mp (Int32.not_le.mp c_62)))
              refine VE.step (fun _ h => V.ald0 dX0_sheet_73 (GX0_97 hX2 rfl dX0_sheet_74 (V.ild1 dX0_sheet_77 (aXS (j := s) hX2 (IX.n hs (by decide)) dX0_sheet_78 (GX0_308 hX2 hs rfl dX0_sheet_79 (V.iconst_0 dX0_sheet_82 h)))))) ?_
              refine VE.invS2v sX0_437 dX0_sheet_83 (c_J11_fill_2 hX2 hs) (fun s9 q9 => ?_)
              obtain ⟨w3, rfl, hX3⟩ := q9
              refine VE.step (fun _ h => V.iconst_1 dX0_sheet_86 h) ?_
              exact VE.iret dX0_sheet_87 rfl rfl (by have h9 := sh_ok (s := nI s) (t := t) (k := k) (u := u) c_4 c_18 (by first | exact .inl c_22 | exact .inr c_28) (by first | exact .inl c_35 | exact .inr c_39); exact ⟨by rw [h9.1], w3, rfl, by rw [h9.2, es, shtV, e9]; exact hX3⟩)
            · refine VE.step (fun _ h => V.iconst_0 dX0_sheet_65 (V.goto (tgt := 70) dX0_sheet_66 (by decide) (PX0_306 hX1 hs rfl dX0_sheet_70 h))) ?_
              have hX2 := hX1.up (xm_139 hs) (x := if t = -1 then 0 else k)
              first
                | (rw [if_neg (fun z => absurd c_62 (Int32.not_le.mpr ((t_neg c_18).mpr z)))] at hX2; have e9 : (if t = -1 then 0 else k) = k := if_neg (fun z => absurd c_62 (Int32.not_le.mpr ((t_neg c_18).mpr z))))
                | (rw [if_pos ((t_neg c_18).mp (Int32.not_le.mp c_62))] at hX2; have e9 : (if t = -1 then 0 else k) = 0 := if_pos ((t_neg c_18).mp (Int32.not_le.mp c_62)))
              refine VE.step (fun _ h => V.ald0 dX0_sheet_73 (GX0_97 hX2 rfl dX0_sheet_74 (V.ild1 dX0_sheet_77 (aXS (j := s) hX2 (IX.n hs (by decide)) dX0_sheet_78 (GX0_308 hX2 hs rfl dX0_sheet_79 (V.iconst_0 dX0_sheet_82 h)))))) ?_
              refine VE.invS2v sX0_437 dX0_sheet_83 (c_J11_fill_2 hX2 hs) (fun s9 q9 => ?_)
              obtain ⟨w3, rfl, hX3⟩ := q9
              refine VE.step (fun _ h => V.iconst_1 dX0_sheet_86 h) ?_
              exact VE.iret dX0_sheet_87 rfl rfl (by have h9 := sh_ok (s := nI s) (t := t) (k := k) (u := u) c_4 c_18 (by first | exact .inl c_22 | exact .inr c_28) (by first | exact .inl c_35 | exact .inr c_39); exact ⟨by rw [h9.1], w3, rfl, by rw [h9.2, es, shtV, e9]; exact hX3⟩)
          · refine VE.step (fun _ h => V.ild3 dX0_sheet_38 h) ?_
            refine VE.if_ge (tgt := 45) dX0_sheet_39 (by decide) (fun c_39 => ?_) (fun c_39 => ?_)
            · obtain ⟨s, hs, rfl, es⟩ : ∃ s', s' < 4 ∧ s = nI s' ∧ cl s = s' := by
                obtain ⟨s', h1, h2⟩ := (inB_n (n := 4) (by decide)).mp c_4
                exact ⟨s', h1, h2, by rw [h2]; exact cl_n (by omega)⟩
              refine VE.step (fun _ h => V.ald0 dX0_sheet_45 (GX0_97 hX rfl dX0_sheet_46 (V.ild1 dX0_sheet_49 (aXS (j := s) hX (IX.n hs (by decide)) dX0_sheet_50 (V.ild2 dX0_sheet_51 (PX0_303 hX hs rfl dX0_sheet_52 h)))))) ?_
              have hX1 := hX.up (xm_138 hs) (x := t)
              refine VE.step (fun _ h => V.ald0 dX0_sheet_55 (GX0_97 hX1 rfl dX0_sheet_56 (V.ild1 dX0_sheet_59 (aXS (j := s) hX1 (IX.n hs (by decide)) dX0_sheet_60 (V.ild2 dX0_sheet_61 h))))) ?_
              refine VE.if_ge (tgt := 69) dX0_sheet_62 (by decide) (fun c_62 => ?_) (fun c_62 => ?_)
              · refine VE.step (fun _ h => V.ild3 dX0_sheet_69 (PX0_306 hX1 hs rfl dX0_sheet_70 h)) ?_
                have hX2 := hX1.up (xm_139 hs) (x := if t = -1 then 0 else k)
                first
                  | (rw [if_neg (fun z => absurd c_62 (Int32.not_le.mpr ((t_neg c_18).mpr z)))] at hX2; have e9 : (if t = -1 then 0 else k) = k := if_neg (fun z => absurd c_62 (Int32.not_le.mpr ((t_neg c_18).mpr z))))
                  | (rw [if_pos ((t_neg c_18).mp (Int32.not_le.mp c_62))] at hX2; have e9 : (if t = -1 then 0 else k) = 0 := if_pos ((t_neg c_18).mp (Int32.not_le.mp c_62)))
                refine VE.step (fun _ h => V.ald0 dX0_sheet_73 (GX0_97 hX2 rfl dX0_sheet_74 (V.ild1 dX0_sheet_77 (aXS (j := s) hX2 (IX.n hs (by decide)) dX0_sheet_78 (GX0_308 hX2 hs rfl dX0_sheet_79 (V.iconst_0 dX0_sheet_82 h)))))) ?_
                refine VE.invS2v sX0_437 dX0_sheet_83 (c_J11_fill_2 hX2 hs) (fun s9 q9 => ?_)
                obtain ⟨w3, rfl, hX3⟩ := q9
                refine VE.step (fun _ h => V.iconst_1 dX0_sheet_86 h) ?_
                exact VE.iret dX0_sheet_87 rfl rfl (by have h9 := sh_ok (s := nI s) (t := t) (k := k) (u := u) c_4 c_18 (by first | exact .inl c_22 | exact .inr c_28) (by first | exact .inl c_35 | exact .inr c_39); exact ⟨by rw [h9.1], w3, rfl, by rw [h9.2, es, shtV, e9]; exact hX3⟩)
              · refine VE.step (fun _ h => V.iconst_0 dX0_sheet_65 (V.goto (tgt := 70) dX0_sheet_66 (by decide) (PX0_306 hX1 hs rfl dX0_sheet_70 h))) ?_
                have hX2 := hX1.up (xm_139 hs) (x := if t = -1 then 0 else k)
                first
                  | (rw [if_neg (fun z => absurd c_62 (Int32.not_le.mpr ((t_neg c_18).mpr z)))] at hX2; have e9 : (if t = -1 then 0 else k) = k := if_neg (fun z => absurd c_62 (Int32.not_le.mpr ((t_neg c_18).mpr z))))
                  | (rw [if_pos ((t_neg c_18).mp (Int32.not_le.mp c_62))] at hX2; have e9 : (if t = -1 then 0 else k) = 0 := if_pos ((t_neg c_18).mp (Int32.not_le.mp c_62)))
                refine VE.step (fun _ h => V.ald0 dX0_sheet_73 (GX0_97 hX2 rfl dX0_sheet_74 (V.ild1 dX0_sheet_77 (aXS (j := s) hX2 (IX.n hs (by decide)) dX0_sheet_78 (GX0_308 hX2 hs rfl dX0_sheet_79 (V.iconst_0 dX0_sheet_82 h)))))) ?_
                refine VE.invS2v sX0_437 dX0_sheet_83 (c_J11_fill_2 hX2 hs) (fun s9 q9 => ?_)
                obtain ⟨w3, rfl, hX3⟩ := q9
                refine VE.step (fun _ h => V.iconst_1 dX0_sheet_86 h) ?_
                exact VE.iret dX0_sheet_87 rfl rfl (by have h9 := sh_ok (s := nI s) (t := t) (k := k) (u := u) c_4 c_18 (by first | exact .inl c_22 | exact .inr c_28) (by first | exact .inl c_35 | exact .inr c_39); exact ⟨by rw [h9.1], w3, rfl, by rw [h9.2, es, shtV, e9]; exact hX3⟩)
            · refine VE.step (fun _ h => V.bipush (v := (-14)) dX0_sheet_42 (by decide) h) ?_
              exact VE.iret dX0_sheet_44 rfl rfl (by have h9 := sh_14 (u := u) c_4 c_18 (by first | exact .inl c_22 | exact .inr c_28) c_35 c_39; exact ⟨by rw [h9.1], w, rfl, by rw [h9.2]; exact hX⟩)
        · refine VE.step (fun _ h => V.bipush (v := (-2)) dX0_sheet_31 (by decide) h) ?_
          exact VE.iret dX0_sheet_33 rfl rfl (by have h9 := shB_f (s := s) (t := t) (k := k) (u := u) (by first | exact .inl c_4 | exact .inr (.inl c_18) | exact .inr (.inr ⟨c_18, c_22, c_28⟩)); exact ⟨by rw [h9.1], w, rfl, by rw [h9.2]; exact hX⟩)

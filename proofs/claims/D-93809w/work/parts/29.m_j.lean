set_option maxRecDepth 100000
set_option maxHeartbeats 1000000
theorem in_n {s : Int32} {N : Nat} {M : Int32} (hM : M = nI N - 1) (hN : N < 2 ^ 30) (h : inB s 0 M = true) : ∃ k, k < N ∧ s = nI k := by
  rw [hM] at h
  exact (inB_n hN).mp h
theorem ix60 {k r : Nat} (hk : k < 4) (hr : r < 60) : IX (60 * nI k + nI r) (60 * k + r) 240 :=
  IX.of (by rw [show (60 : Int32) = nI 60 from rfl, pk_mul, nI_add]) (by omega) (by decide)
theorem c_X7_judge {E : En} {g : Ge} {σ : Sg} {w : Wv} (hW : WM g σ) {v : Wv} (hA : cv w = cv v) (hI : HI v) {s : Int32} : CtE E mX7_judge 7 [.ref (g.1 100), .int s] (PR (.int (judgeR v s)) (QV g σ v)) (S g σ w) := by
  show VE E mX7_judge 7 _ 0 [some (.ref (g.1 100)), some (.int s), none, none, none] [] (S g σ w)
  refine VE.step (fun _ h => V.ild1 dX7_judge_0 (V.iconst_0 dX7_judge_1 (V.iconst_3 dX7_judge_2 (V.invS3r sX7_159 dX7_judge_3 c_X7_in h)))) ?_
  refine VE.ifb_ne (tgt := 12) dX7_judge_6 (by decide) (fun c_6 => ?_) (fun c_6 => ?_)
  · obtain ⟨k, hk4, rfl⟩ := in_n (N := 4) (by decide) (by decide) c_6
    have e1 : cl (nI k) = k := cl_n (by omega)
    refine VE.step (fun _ h => V.ald0 dX7_judge_12 (GX7_92 hW rfl dX7_judge_13 (V.ild1 dX7_judge_16 (aM37 hW (by first | exact IX.n ‹_› (by decide) | exact IX.n (by omega) (by decide)) dX7_judge_17 (V.iconst_m1 dX7_judge_18 h))))) ?_
    refine VE.icmp_ne (tgt := 25) dX7_judge_19 (by decide) (fun c_19 => ?_) (fun c_19 => ?_)
    · rw [cv_at hA (e := rfl)] at c_19
      have hR2 := hI.rows.2
      obtain ⟨G, hGe⟩ : ∃ G, G = (decide (v 139 k = v 100 3) && aB (fun r => inB (v 140 (60 * k + r)) 0 99) 0 (nR v)) := ⟨_, rfl⟩
      have hR : judgeR v (nI k) = if G = true then ffI (fun r => !(aSee (judgeV v k) r)) 0 (nR v) else -2 := by rw [judgeR, if_pos c_6, e1, if_neg c_19, ← hGe]
      have H82 : ∀ y : Option Value, VE E mX7_judge 7 (PR (.int (judgeR v (nI k))) (QV g σ v)) 82 [some (.ref (g.1 100)), some (.int (nI k)), some (.int (b2i G)), y, none] [] (S g σ w) := by
        intro y
        refine VE.step (fun _ h => V.ild2 dX7_judge_82 h) ?_
        refine VE.if_ne (tgt := 89) dX7_judge_83 (by decide) (fun c_83 => ?_) (fun c_83 => ?_)
        · have hG : G = true := b2i_n0.mp c_83
          have hR : judgeR v (nI k) = ffI (fun r => !(aSee (judgeV v k) r)) 0 (nR v) := by rw [hR, if_pos hG]
          have hA2 : cv (fA 108 (nR v) (fun r => v 140 (60 * k + r)) (fA 152 6 (w 108) w)) = cv (judgeV v k) := cv_fA (by rw [cv_fAs rfl, hA])
          have L136 : ∀ (q : Nat) (wr : Int32), q ≤ nR v → wr = ffI (fun r => !(aSee (judgeV v k) r)) q (nR v - q) → VE E mX7_judge 7 (PR (.int (judgeR v (nI k))) (QV g σ v)) 136 [some (.ref (g.1 100)), some (.int (nI k)), some (.int (b2i G)), some (.int (wr)), some (.int (nI q + (-1)))] [] (S g σ (fA 108 (nR v) (fun r => v 140 (60 * k + r)) (fA 152 6 (w 108) w))) := by
            intro q
            induction q with
            | zero =>
              intro wr hq hs
              rw [dn_0]
              refine VE.step (fun _ h => V.ild4 dX7_judge_136 h) ?_
              refine VE.if_lt (tgt := 163) dX7_judge_138 (by decide) (fun c_138 => ?_) (fun c_138 => absurd (show (-1 : Int32) < 0 by decide) c_138)
              refine VE.step (fun _ h => V.ald0 dX7_judge_163 (V.invV0v vX7_316 hW.2.2.1 dX7_judge_164 (c_X7_laysRises hW) (V.ild3 dX7_judge_167 h))) ?_
              exact VE.iret dX7_judge_168 rfl rfl (⟨by rw [hR, hs]; rfl, _, (Kp.fin (a := 108) (n := 6) (b := 152) (w0 := w) (Kp.f (by decide) (by omega) (Kp.start rfl))).trans hA, rfl⟩)
            | succ q ih =>
              intro wr hq hs
              rw [dn_s]
              refine VE.step (fun _ h => V.ild4 dX7_judge_136 h) ?_
              refine VE.if_lt (tgt := 163) dX7_judge_138 (by decide) (fun c_138 => absurd c_138 (dn_lt (by omega))) (fun c_138 => ?_)
              refine VE.step (fun _ h => V.ald0 dX7_judge_141 (V.ild4 dX7_judge_142 (V.invV1r vX7_313 hW.2.2.1 dX7_judge_144 (e_X7_allSee hW hA2 (HI.f hI (by decide) (by decide) (by decide)) (by omega)) h))) ?_
              refine VE.ifb_eq (tgt := 154) dX7_judge_147 (by decide) (fun c_147 => ?_) (fun c_147 => ?_)
              · refine VE.step (fun _ h => V.ild4 dX7_judge_154 (V.ist3 dX7_judge_156 (V.incm4 dX7_judge_157 (V.goto (tgt := 136) dX7_judge_160 (by decide) h)))) ?_
                rw [show nR v - q = (nR v - (q + 1)) + 1 by omega, ffI_s] at ih
                first
                  | exact ih _ (by omega) (by rw [if_neg (by simp [c_147])]; exact hs)
                  | exact ih _ (by omega) (by rw [if_pos (by simp [c_147])])
              · refine VE.step (fun _ h => V.ild3 dX7_judge_150 (V.goto (tgt := 156) dX7_judge_151 (by decide) (V.ist3 dX7_judge_156 (V.incm4 dX7_judge_157 (V.goto (tgt := 136) dX7_judge_160 (by decide) h))))) ?_
                rw [show nR v - q = (nR v - (q + 1)) + 1 by omega, ffI_s] at ih
                first
                  | exact ih _ (by omega) (by rw [if_neg (by simp [c_147])]; exact hs)
                  | exact ih _ (by omega) (by rw [if_pos (by simp [c_147])])
          have L95 : ∀ (m r : Nat), r + m = nR v → VE E mX7_judge 7 (PR (.int (judgeR v (nI k))) (QV g σ v)) 95 [some (.ref (g.1 100)), some (.int (nI k)), some (.int (b2i G)), some (.int (nI r)), none] [] (S g σ (fA 108 r (fun r => v 140 (60 * k + r)) (fA 152 6 (w 108) w))) := by
            intro m
            induction m with
            | zero =>
              intro r hk 
              obtain rfl : r = nR v := by omega
              refine VE.step (fun _ h => V.ild3 dX7_judge_95 (V.ald0 dX7_judge_96 (GX7_156 hW rfl dX7_judge_97 h))) ?_
              refine VE.icmp_ge (tgt := 126) dX7_judge_100 (by decide) (fun c_100 => ?_) (fun c_100 => absurd (by rw [fA_ne (show (100 : Nat) ≠ 108 by decide), fA_ne (show (100 : Nat) ≠ 152 by decide), cv_at hA (e := rfl), hI.rows.1]; exact nI_le (by omega) (by omega)) c_100)
              refine VE.step (fun _ h => V.iconst_m1 dX7_judge_126 (V.ist3 dX7_judge_127 (V.ald0 dX7_judge_128 (GX7_156 hW rfl dX7_judge_129 (V.iconst_1 dX7_judge_132 (V.isub dX7_judge_133 (V.ist4 dX7_judge_134 h))))))) ?_
              rw [show fA 108 (nR v) (fun r => v 140 (60 * k + r)) (fA 152 6 (w 108) w) 100 3 = nI (nR v) from by rw [fA_ne (by decide), fA_ne (by decide), cv_at hA, hI.rows.1], dn_st]
              exact L136 (nR v) _ (Nat.le_refl _) (by rw [Nat.sub_self]; rfl)
            | succ m ih =>
              intro r hk 
              refine VE.step (fun _ h => V.ild3 dX7_judge_95 (V.ald0 dX7_judge_96 (GX7_156 hW rfl dX7_judge_97 h))) ?_
              refine VE.icmp_ge (tgt := 126) dX7_judge_100 (by decide) (fun c_100 => absurd c_100 (by rw [fA_ne (show (100 : Nat) ≠ 108 by decide), fA_ne (show (100 : Nat) ≠ 152 by decide), cv_at hA (e := rfl), hI.rows.1]; first | exact nI_ge (by omega) (by omega) | exact fun h9 => absurd ((nI_leI (by omega) (by omega)).mp h9) (by omega))) (fun c_100 => ?_)
              refine VE.step (fun _ h => V.ald0 dX7_judge_103 (GX7_28 hW rfl dX7_judge_104 (V.ild3 dX7_judge_107 (V.ald0 dX7_judge_108 (GX7_98 hW rfl dX7_judge_109 (V.bipush (v := 60) dX7_judge_112 (by decide) (V.ild1 dX7_judge_114 (V.imul dX7_judge_115 (V.ild3 dX7_judge_116 (V.iadd dX7_judge_117 (aM39 hW (ix60 hk4 (by omega)) dX7_judge_118 (sM7 hW (by first | exact IX.n ‹_› (by decide) | exact IX.n (by omega) (by decide)) dX7_judge_119 (V.inc3 dX7_judge_120 (V.goto (tgt := 95) dX7_judge_123 (by decide) h)))))))))))))) ?_
              rw [nI_1, fA_s (by rw [fA_ne (by decide), fA_ne (by decide), cv_at hA (e := rfl)])]
              exact ih (r + 1) (by omega)
          
          refine VE.step (fun _ h => V.ald0 dX7_judge_89 (V.invV0v vX7_310 hW.2.2.1 dX7_judge_90 (c_X7_keepsRises hW) (V.iconst_0 dX7_judge_93 (V.ist3 dX7_judge_94 h)))) ?_
          have h0 := L95 (nR v) 0 (by omega)
          rw [fA_0] at h0
          exact h0
        · refine VE.step (fun _ h => V.bipush (v := (-2)) dX7_judge_86 (by decide) h) ?_
          exact VE.iret dX7_judge_88 rfl rfl (⟨by rw [hR, if_neg (by intro z; rw [z] at c_83; exact absurd c_83 (by decide))], _, hA, rfl⟩)
      have L46 : ∀ (m r : Nat) (b : Bool), r + m = nR v → (b && aB (fun r => inB (v 140 (60 * k + r)) 0 99) r m) = G → VE E mX7_judge 7 (PR (.int (judgeR v (nI k))) (QV g σ v)) 46 [some (.ref (g.1 100)), some (.int (nI k)), some (.int (b2i b)), some (.int (nI r)), none] [] (S g σ w) := by
        intro m
        induction m with
        | zero =>
          intro r b hk hs
          refine VE.step (fun _ h => V.ild3 dX7_judge_46 (V.ald0 dX7_judge_47 (GX7_156 hW rfl dX7_judge_48 h))) ?_
          refine VE.icmp_ge (tgt := 82) dX7_judge_51 (by decide) (fun c_51 => ?_) (fun c_51 => absurd (by rw [cv_at hA, hI.rows.1]; exact nI_le (by omega) (by omega)) c_51)
          first
            | (rw [← hs, aB, Bool.and_true] at H82; exact H82 _)
            | (have hb := b2i_0.mp c_55; rw [← hs, hb, Bool.false_and] at H82; rw [hb]; exact H82 _)
        | succ m ih =>
          intro r b hk hs
          refine VE.step (fun _ h => V.ild3 dX7_judge_46 (V.ald0 dX7_judge_47 (GX7_156 hW rfl dX7_judge_48 h))) ?_
          refine VE.icmp_ge (tgt := 82) dX7_judge_51 (by decide) (fun c_51 => absurd c_51 (by rw [cv_at hA, hI.rows.1]; first | exact nI_ge (by omega) (by omega) | exact fun h9 => absurd ((nI_leI (by omega) (by omega)).mp h9) (by omega))) (fun c_51 => ?_)
          refine VE.step (fun _ h => V.ild2 dX7_judge_54 h) ?_
          refine VE.if_eq (tgt := 82) dX7_judge_55 (by decide) (fun c_55 => ?_) (fun c_55 => ?_)
          · first
              | (rw [← hs, aB, Bool.and_true] at H82; exact H82 _)
              | (have hb := b2i_0.mp c_55; rw [← hs, hb, Bool.false_and] at H82; rw [hb]; exact H82 _)
          · refine VE.step (fun _ h => V.ald0 dX7_judge_58 (GX7_98 hW rfl dX7_judge_59 (V.bipush (v := 60) dX7_judge_62 (by decide) (V.ild1 dX7_judge_64 (V.imul dX7_judge_65 (V.ild3 dX7_judge_66 (V.iadd dX7_judge_67 (aM39 hW (ix60 hk4 (by omega)) dX7_judge_68 (V.iconst_0 dX7_judge_69 (V.bipush (v := 99) dX7_judge_70 (by decide) (V.invS3r sX7_159 dX7_judge_72 c_X7_in (V.ist2 dX7_judge_75 (V.inc3 dX7_judge_76 (V.goto (tgt := 46) dX7_judge_79 (by decide) h)))))))))))))) ?_
            rw [nI_1, cv_at hA (e := rfl)]
            exact ih (r + 1) _ (by omega) (by rw [← hs, b2i_n0.mp c_55]; rfl)
      
      refine VE.step (fun _ h => V.ald0 dX7_judge_25 (GX7_95 hW rfl dX7_judge_26 (V.ild1 dX7_judge_29 (aM38 hW (by first | exact IX.n ‹_› (by decide) | exact IX.n (by omega) (by decide)) dX7_judge_30 (V.ald0 dX7_judge_31 (GX7_156 hW rfl dX7_judge_32 h)))))) ?_
      refine VE.icmp_ne (tgt := 42) dX7_judge_35 (by decide) (fun c_35 => ?_) (fun c_35 => ?_)
      · refine VE.step (fun _ h => V.iconst_0 dX7_judge_42 (V.ist2 dX7_judge_43 (V.iconst_0 dX7_judge_44 (V.ist3 dX7_judge_45 h)))) ?_
        rw [cv_at hA (id := 139), cv_at hA (id := 100) (j := 3)] at c_35
        first
          | exact L46 (nR v) 0 true (by omega) (by rw [hGe, decide_eq_true c_35])
          | exact L46 (nR v) 0 false (by omega) (by rw [hGe, decide_eq_false c_35])
      · refine VE.step (fun _ h => V.iconst_1 dX7_judge_38 (V.goto (tgt := 43) dX7_judge_39 (by decide) (V.ist2 dX7_judge_43 (V.iconst_0 dX7_judge_44 (V.ist3 dX7_judge_45 h))))) ?_
        rw [cv_at hA (id := 139), cv_at hA (id := 100) (j := 3)] at c_35
        first
          | exact L46 (nR v) 0 true (by omega) (by rw [hGe, decide_eq_true c_35])
          | exact L46 (nR v) 0 false (by omega) (by rw [hGe, decide_eq_false c_35])
    · refine VE.step (fun _ h => V.bipush (v := (-11)) dX7_judge_22 (by decide) h) ?_
      exact VE.iret dX7_judge_24 rfl rfl (⟨by rw [cv_at hA (e := rfl)] at c_19; simp only [judgeR, c_6, e1, c_19, if_true, if_false, Bool.false_eq_true, eq_self, and_true, true_and, and_false, false_and, Bool.and_true, Bool.true_and, Bool.and_false, Bool.false_and, Bool.not_true, Bool.not_false, not_true_eq_false, not_false_eq_true, ne_eq, b2i_t, b2i_f], _, hA, rfl⟩)
  · refine VE.step (fun _ h => V.bipush (v := (-2)) dX7_judge_9 (by decide) h) ?_
    exact VE.iret dX7_judge_11 rfl rfl (⟨by simp only [judgeR, c_6, if_true, if_false, Bool.false_eq_true, eq_self, and_true, true_and, and_false, false_and, Bool.and_true, Bool.true_and, Bool.and_false, Bool.false_and, Bool.not_true, Bool.not_false, not_true_eq_false, not_false_eq_true, ne_eq, b2i_t, b2i_f], _, hA, rfl⟩)

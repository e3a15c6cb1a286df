set_option maxRecDepth 100000
set_option maxHeartbeats 1000000
theorem c_X7_people {E : En} {g : Ge} {σ : Sg} {w : Wv} (hW : WM g σ) {v : Wv} (hA : cv w = cv v) (hI : HI v) (hT : HT v) {r a : Int32} : CtE E mX7_people 9 [.ref (g.1 100), .int r, .int a] (PR (.int (peopleR v r a)) (QV g σ v)) (S g σ w) := by
  show VE E mX7_people 9 _ 0 [some (.ref (g.1 100)), some (.int r), some (.int a)] [] (S g σ w)
  refine VE.step (fun _ h => V.ald0 dX7_people_0 (V.ild1 dX7_people_1 (V.invV1r vX7_163 hW.2.2.1 dX7_people_2 (e_X7_isRow hW hA) h))) ?_
  refine VE.ifb_ne (tgt := 11) dX7_people_5 (by decide) (fun c_5 => ?_) (fun c_5 => ?_)
  · refine VE.step (fun _ h => V.ild2 dX7_people_11 (V.iconst_0 dX7_people_12 (V.iconst_1 dX7_people_13 (V.invS3r sX7_159 dX7_people_14 c_X7_in h)))) ?_
    refine VE.ifb_ne (tgt := 23) dX7_people_17 (by decide) (fun c_17 => ?_) (fun c_17 => ?_)
    · have c_5' := c_5
      rw [hI.rows.1] at c_5'
      have hR2 := hI.rows.2
      obtain ⟨k, hk, rfl⟩ := (inB_n (by omega)).mp c_5'
      have e1 : cl (nI k) = k := cl_n (by omega)
      refine VE.step (fun _ h => V.ald0 dX7_people_23 (V.ild1 dX7_people_24 h)) ?_
      refine VE.invV1v vX7_373 hW.2.2.1 dX7_people_25 (c_X7_finds hW hA hI hT (r := k) (by omega)) (fun s9 q9 => ?_)
      obtain ⟨w1, rfl, hw1, hb1, hg1⟩ := q9
      refine VE.step (fun _ h => V.ild2 dX7_people_28 h) ?_
      refine VE.if_ne (tgt := 39) dX7_people_29 (by decide) (fun c_29 => ?_) (fun c_29 => ?_)
      · refine VE.step (fun _ h => V.ald0 dX7_people_39 (GX7_370 hW rfl dX7_people_40 h)) ?_
        exact VE.iret dX7_people_43 rfl rfl (by first | exact ⟨by unfold peopleR; rw [if_pos c_5, if_pos c_17, e1]; first | rw [if_pos c_29, hb1] | rw [if_neg c_29, hg1], _, hw1, rfl⟩ | exact ⟨by simp only [peopleR, c_5, c_17, c_29, if_true, if_false, Bool.false_eq_true, eq_self, and_true, true_and, and_false, false_and, Bool.and_true, Bool.true_and, Bool.and_false, Bool.false_and, Bool.not_true, Bool.not_false, not_true_eq_false, not_false_eq_true, ne_eq, b2i_t, b2i_f], _, hA, rfl⟩)
      · refine VE.step (fun _ h => V.ald0 dX7_people_32 (GX7_367 hW rfl dX7_people_33 (V.goto (tgt := 43) dX7_people_36 (by decide) h))) ?_
        exact VE.iret dX7_people_43 rfl rfl (by first | exact ⟨by unfold peopleR; rw [if_pos c_5, if_pos c_17, e1]; first | rw [if_pos c_29, hb1] | rw [if_neg c_29, hg1], _, hw1, rfl⟩ | exact ⟨by simp only [peopleR, c_5, c_17, c_29, if_true, if_false, Bool.false_eq_true, eq_self, and_true, true_and, and_false, false_and, Bool.and_true, Bool.true_and, Bool.and_false, Bool.false_and, Bool.not_true, Bool.not_false, not_true_eq_false, not_false_eq_true, ne_eq, b2i_t, b2i_f], _, hA, rfl⟩)
    · refine VE.step (fun _ h => V.bipush (v := (-7)) dX7_people_20 (by decide) h) ?_
      exact VE.iret dX7_people_22 rfl rfl (by first | exact ⟨by unfold peopleR; rw [if_pos c_5, if_pos c_17, e1]; first | rw [if_pos c_29, hb1] | rw [if_neg c_29, hg1], _, hw1, rfl⟩ | exact ⟨by simp only [peopleR, c_5, c_17, if_true, if_false, Bool.false_eq_true, eq_self, and_true, true_and, and_false, false_and, Bool.and_true, Bool.true_and, Bool.and_false, Bool.false_and, Bool.not_true, Bool.not_false, not_true_eq_false, not_false_eq_true, ne_eq, b2i_t, b2i_f], _, hA, rfl⟩)
  · refine VE.step (fun _ h => V.bipush (v := (-5)) dX7_people_8 (by decide) h) ?_
    exact VE.iret dX7_people_10 rfl rfl (by first | exact ⟨by unfold peopleR; rw [if_pos c_5, if_pos c_17, e1]; first | rw [if_pos c_29, hb1] | rw [if_neg c_29, hg1], _, hw1, rfl⟩ | exact ⟨by simp only [peopleR, c_5, if_true, if_false, Bool.false_eq_true, eq_self, and_true, true_and, and_false, false_and, Bool.and_true, Bool.true_and, Bool.and_false, Bool.false_and, Bool.not_true, Bool.not_false, not_true_eq_false, not_false_eq_true, ne_eq, b2i_t, b2i_f], _, hA, rfl⟩)

theorem c_X7_settle {E : En} {g : Ge} {σ : Sg} {w : Wv} (hW : WM g σ) {v : Wv} (hA : cv w = cv v) (hI : HI v) (hT : HT v) {r a : Int32} : CtE E mX7_settle 9 [.ref (g.1 100), .int r, .int a] (PR (.int (settleR v r a)) (QV g σ (settleW v r a))) (S g σ w) := by
  show VE E mX7_settle 9 _ 0 [some (.ref (g.1 100)), some (.int r), some (.int a), none] [] (S g σ w)
  refine VE.step (fun _ h => V.ald0 dX7_settle_0 (V.ild1 dX7_settle_1 (V.invV1r vX7_163 hW.2.2.1 dX7_settle_2 (e_X7_isRow hW hA) h))) ?_
  refine VE.ifb_ne (tgt := 11) dX7_settle_5 (by decide) (fun c_5 => ?_) (fun c_5 => ?_)
  · refine VE.step (fun _ h => V.ild2 dX7_settle_11 (V.iconst_0 dX7_settle_12 (V.iconst_5 dX7_settle_13 (V.invS3r sX7_159 dX7_settle_14 c_X7_in h)))) ?_
    refine VE.ifb_ne (tgt := 23) dX7_settle_17 (by decide) (fun c_17 => ?_) (fun c_17 => ?_)
    · have c_5' := c_5
      rw [hI.rows.1] at c_5'
      have hR2 := hI.rows.2
      obtain ⟨k, hk, rfl⟩ := (inB_n (by omega)).mp c_5'
      have e1 : cl (nI k) = k := cl_n (by omega)
      obtain ⟨a, ha, rfl⟩ := in_n (N := 6) (by decide) (by decide) c_17
      have e2 : cl (nI a) = a := cl_n (by omega)
      have L30 : ∀ (m n : Nat) (w' v' : Wv), n + m = a → cv w' = cv v' → HI v' → HT v' → nS v' k ≤ 8 → w' 100 56 = (fnd v' k).1 → setl k n m v' = setl k 0 a v → VE E mX7_settle 9 (PR (.int (settleR v (nI k) (nI a))) (QV g σ (settleW v (nI k) (nI a)))) 30 [some (.ref (g.1 100)), some (.int (nI k)), some (.int (nI a)), some (.int (nI n))] [] (S g σ w') := by
        intro m
        induction m with
        | zero =>
          intro n w' v' hk hw hI' hT' hS hb hs
          refine VE.step (fun _ h => V.ild3 dX7_settle_30 (V.ild2 dX7_settle_31 h)) ?_
          refine VE.icmp_ge (tgt := 82) dX7_settle_32 (by decide) (fun c_32 => ?_) (fun c_32 => absurd (by exact nI_le (by omega) (by omega)) c_32)
          refine VE.step (fun _ h => V.ild3 dX7_settle_82 h) ?_
          exact VE.iret dX7_settle_83 rfl rfl (by first | exact ⟨by rw [settleR, if_pos c_5, if_pos c_17, e1, e2, ← hs]; rfl, _, by rw [settleW, if_pos c_5, if_pos c_17, e1, e2, ← hs]; exact hw, rfl⟩ | (have hz := hb.symm.trans c_40; rw [setl, if_pos hz] at hs; exact ⟨by rw [settleR, if_pos c_5, if_pos c_17, e1, e2, ← hs], _, by rw [settleW, if_pos c_5, if_pos c_17, e1, e2, ← hs]; exact hw, rfl⟩))
        | succ m ih =>
          intro n w' v' hk hw hI' hT' hS hb hs
          refine VE.step (fun _ h => V.ild3 dX7_settle_30 (V.ild2 dX7_settle_31 h)) ?_
          refine VE.icmp_ge (tgt := 82) dX7_settle_32 (by decide) (fun c_32 => absurd c_32 (by first | exact nI_ge (by omega) (by omega) | exact fun h9 => absurd ((nI_leI (by omega) (by omega)).mp h9) (by omega))) (fun c_32 => ?_)
          refine VE.step (fun _ h => V.ald0 dX7_settle_35 (GX7_367 hW rfl dX7_settle_36 (V.iconst_m1 dX7_settle_39 h))) ?_
          refine VE.icmp_eq (tgt := 82) dX7_settle_40 (by decide) (fun c_40 => ?_) (fun c_40 => ?_)
          · refine VE.step (fun _ h => V.ild3 dX7_settle_82 h) ?_
            exact VE.iret dX7_settle_83 rfl rfl (by first | exact ⟨by rw [settleR, if_pos c_5, if_pos c_17, e1, e2, ← hs]; rfl, _, by rw [settleW, if_pos c_5, if_pos c_17, e1, e2, ← hs]; exact hw, rfl⟩ | (have hz := hb.symm.trans c_40; rw [setl, if_pos hz] at hs; exact ⟨by rw [settleR, if_pos c_5, if_pos c_17, e1, e2, ← hs], _, by rw [settleW, if_pos c_5, if_pos c_17, e1, e2, ← hs]; exact hw, rfl⟩))
          · have hz : ¬ (fnd v' k).1 = -1 := fun z => c_40 (hb.trans z)
            obtain ⟨a1, b1, ha1, hb1', hab⟩ := (fnd_ok hS).resolve_left hz
            rw [hab] at hb
            refine VE.step (fun _ h => V.ald0 dX7_settle_43 (V.bipush (v := 8) dX7_settle_44 (by decide) (V.ild1 dX7_settle_46 (V.imul dX7_settle_47 (V.ald0 dX7_settle_48 (GX7_367 hW rfl dX7_settle_49 (V.bipush (v := 10) dX7_settle_52 (by decide) (V.idiv dX7_settle_54 (by decide) (V.iadd dX7_settle_55 (V.bipush (v := 8) dX7_settle_56 (by decide) (V.ild1 dX7_settle_58 (V.imul dX7_settle_59 (V.ald0 dX7_settle_60 (GX7_367 hW rfl dX7_settle_61 h)))))))))))))) ?_
            refine VE.step (fun _ h => V.bipush (v := 10) dX7_settle_64 (by decide) (V.irem dX7_settle_66 (by decide) (V.iadd dX7_settle_67 h))) ?_
            rw [hb, show (10 : Int32) = nI 10 from rfl, pk_rem (a := 10 * a1 + b1) (d := 10) (by omega) (by decide) (by decide), pk_div (by omega) (by decide) (by decide), show (10 * a1 + b1) / 10 = a1 by omega, show (10 * a1 + b1) % 10 = b1 by omega, ix2e, ix2e]
            refine VE.step (fun _ h => V.invV2v vX7_359 hW.2.2.1 dX7_settle_68 (c_X7_changes hW (a := 8 * k + a1) (b := 8 * k + b1) (by omega) (by omega)) (V.inc3 dX7_settle_71 (V.ald0 dX7_settle_74 (V.ild1 dX7_settle_75 h)))) ?_
            refine VE.invV1v vX7_373 hW.2.2.1 dX7_settle_76 (c_X7_finds hW (cv_swp hw) (hI'.swp (by omega) (by omega)) hT'.swp (r := k) (by omega)) (fun s9 q9 => ?_)
            obtain ⟨w1, rfl, hw1, hb1, hg1⟩ := q9
            refine VE.step (fun _ h => V.goto (tgt := 30) dX7_settle_79 (by decide) h) ?_
            rw [nI_1]
            exact ih (n + 1) _ _ (by omega) hw1 (hI'.swp (by omega) (by omega)) hT'.swp (by rw [nS, swp_ne (by decide)]; exact hS) hb1 (by rw [← hs, setl, if_neg hz, hab, cl_n (by omega), show (10 * a1 + b1) / 10 = a1 by omega, show (10 * a1 + b1) % 10 = b1 by omega])
      
      refine VE.step (fun _ h => V.iconst_0 dX7_settle_23 (V.ist3 dX7_settle_24 (V.ald0 dX7_settle_25 (V.ild1 dX7_settle_26 h)))) ?_
      refine VE.invV1v vX7_373 hW.2.2.1 dX7_settle_27 (c_X7_finds hW hA hI hT (r := k) (by omega)) (fun s9 q9 => ?_)
      obtain ⟨w1, rfl, hw1, hb1, hg1⟩ := q9
      exact L30 a 0 _ v (by omega) hw1 hI hT (hI.seats (by omega)).2 hb1 rfl
    · refine VE.step (fun _ h => V.bipush (v := (-7)) dX7_settle_20 (by decide) h) ?_
      exact VE.iret dX7_settle_22 rfl rfl (⟨by simp only [settleR, c_5, c_17, if_true, if_false, Bool.false_eq_true, eq_self, and_true, true_and, and_false, false_and, Bool.and_true, Bool.true_and, Bool.and_false, Bool.false_and, Bool.not_true, Bool.not_false, not_true_eq_false, not_false_eq_true, ne_eq, b2i_t, b2i_f], _, by simp only [settleW, c_5, c_17, if_true, if_false, Bool.false_eq_true, eq_self, and_true, true_and, and_false, false_and, Bool.and_true, Bool.true_and, Bool.and_false, Bool.false_and, Bool.not_true, Bool.not_false, not_true_eq_false, not_false_eq_true, ne_eq, b2i_t, b2i_f]; exact hA, rfl⟩)
  · refine VE.step (fun _ h => V.bipush (v := (-5)) dX7_settle_8 (by decide) h) ?_
    exact VE.iret dX7_settle_10 rfl rfl (⟨by simp only [settleR, c_5, if_true, if_false, Bool.false_eq_true, eq_self, and_true, true_and, and_false, false_and, Bool.and_true, Bool.true_and, Bool.and_false, Bool.false_and, Bool.not_true, Bool.not_false, not_true_eq_false, not_false_eq_true, ne_eq, b2i_t, b2i_f], _, by simp only [settleW, c_5, if_true, if_false, Bool.false_eq_true, eq_self, and_true, true_and, and_false, false_and, Bool.and_true, Bool.true_and, Bool.and_false, Bool.false_and, Bool.not_true, Bool.not_false, not_true_eq_false, not_false_eq_true, ne_eq, b2i_t, b2i_f]; exact hA, rfl⟩)

theorem c_X7_shifts {E : En} {g : Ge} {σ : Sg} {w : Wv} (hW : WM g σ) {v : Wv} (hA : cv w = cv v) (hI : HI v) (hT : HT v) {a : Int32} : CtE E mX7_shifts 7 [.ref (g.1 100), .int a] (PR (.int (shiftsR v a)) (QV g σ v)) (S g σ w) := by
  show VE E mX7_shifts 7 _ 0 [some (.ref (g.1 100)), some (.int a), none, none, none, none] [] (S g σ w)
  refine VE.step (fun _ h => V.ild1 dX7_shifts_0 (V.iconst_0 dX7_shifts_1 (V.iconst_1 dX7_shifts_2 (V.invS3r sX7_159 dX7_shifts_3 c_X7_in h)))) ?_
  refine VE.ifb_ne (tgt := 12) dX7_shifts_6 (by decide) (fun c_6 => ?_) (fun c_6 => ?_)
  · have hR2 := hI.rows.2
    have h64 : 2 ^ nR v ≤ 64 := Nat.pow_le_pow_right (n := 2) (by decide) hR2
    have L115o : ∀ (w' : Wv) (y : Option Value), Kp 109 6 156 w w' → VE E mX7_shifts 7 (PR (.int (shiftsR v a)) (QV g σ v)) 115 [some (.ref (g.1 100)), some (.int (a)), some (.int ((shiB v).1)), some (.int ((shiB v).2)), some (.int (nI 0)), y] [] (S g σ w') := by
      intro w' y hK
      have L115 : ∀ (m k : Nat), k + m = 6 → VE E mX7_shifts 7 (PR (.int (shiftsR v a)) (QV g σ v)) 115 [some (.ref (g.1 100)), some (.int (a)), some (.int ((shiB v).1)), some (.int ((shiB v).2)), some (.int (nI k)), y] [] (S g σ (fA 109 k (w' 156) w')) := by
        intro m
        induction m with
        | zero =>
          intro k hk 
          obtain rfl : k = 6 := by omega
          refine VE.step (fun _ h => V.ild4 dX7_shifts_115 (V.bipush (v := 6) dX7_shifts_117 (by decide) h)) ?_
          refine VE.icmp_ge (tgt := 142) dX7_shifts_119 (by decide) (fun c_119 => ?_) (fun c_119 => absurd (by rw [show (6 : Int32) = nI 6 from rfl]; exact nI_le (by omega) (by omega)) c_119)
          refine VE.step (fun _ h => V.ild1 dX7_shifts_142 h) ?_
          refine VE.if_ne (tgt := 150) dX7_shifts_143 (by decide) (fun c_143 => ?_) (fun c_143 => ?_)
          · refine VE.step (fun _ h => V.ild3 dX7_shifts_150 h) ?_
            exact VE.iret dX7_shifts_151 rfl rfl (⟨by unfold shiftsR; rw [if_pos c_6]; first | rw [if_pos c_143] | rw [if_neg c_143], _, (Kp.fin hK).trans hA, rfl⟩)
          · refine VE.step (fun _ h => V.ild2 dX7_shifts_146 (V.goto (tgt := 151) dX7_shifts_147 (by decide) h)) ?_
            exact VE.iret dX7_shifts_151 rfl rfl (⟨by unfold shiftsR; rw [if_pos c_6]; first | rw [if_pos c_143] | rw [if_neg c_143], _, (Kp.fin hK).trans hA, rfl⟩)
        | succ m ih =>
          intro k hk 
          refine VE.step (fun _ h => V.ild4 dX7_shifts_115 (V.bipush (v := 6) dX7_shifts_117 (by decide) h)) ?_
          refine VE.icmp_ge (tgt := 142) dX7_shifts_119 (by decide) (fun c_119 => absurd c_119 (by rw [show (6 : Int32) = nI 6 from rfl]; first | exact nI_ge (by omega) (by omega) | exact fun h9 => absurd ((nI_leI (by omega) (by omega)).mp h9) (by omega))) (fun c_119 => ?_)
          refine VE.step (fun _ h => V.ald0 dX7_shifts_122 (GX7_31 hW rfl dX7_shifts_123 (V.ild4 dX7_shifts_126 (V.ald0 dX7_shifts_128 (GX7_144 hW rfl dX7_shifts_129 (V.ild4 dX7_shifts_132 (aM55 hW (by first | exact IX.n ‹_› (by decide) | exact IX.n (by omega) (by decide)) dX7_shifts_134 (sM8 hW (by first | exact IX.n ‹_› (by decide) | exact IX.n (by omega) (by decide)) dX7_shifts_135 (V.inc4 dX7_shifts_136 (V.goto (tgt := 115) dX7_shifts_139 (by decide) h)))))))))) ?_
          rw [nI_1, fA_s (fA_ne (by decide))]
          exact ih (k + 1) (by omega)
      have h0 := L115 6 0 (by omega)
      rw [fA_0] at h0
      exact h0
    have L45 : ∀ (m s : Nat) (b : Int32 × Int32) (w' : Wv) (y : Option Value), s + m = 2 ^ nR v → Kp 109 (nR v) 156 w w' → Kp 109 6 156 w w' → bst (fun s => allS (shiV v s)) nI s m b = shiB v → VE E mX7_shifts 7 (PR (.int (shiftsR v a)) (QV g σ v)) 45 [some (.ref (g.1 100)), some (.int (a)), some (.int (b.1)), some (.int (b.2)), some (.int (nI s)), y] [] (S g σ w') := by
      intro m
      induction m with
      | zero =>
        intro s b w' y hk hK1 hK6 hs
        refine VE.step (fun _ h => V.ild4 dX7_shifts_45 (V.iconst_1 dX7_shifts_47 (V.ald0 dX7_shifts_48 (GX7_156 hW rfl dX7_shifts_49 (V.ishl dX7_shifts_52 h))))) ?_
        refine VE.icmp_ge (tgt := 112) dX7_shifts_53 (by decide) (fun c_53 => ?_) (fun c_53 => absurd (by rw [(show w' 100 3 = nI (nR v) from (hK1.1 100 3 rfl (by simp)).trans (by rw [cv_at hA, hI.rows.1])), shl_n _ hR2]; exact nI_le (by omega) (by omega)) c_53)
        refine VE.step (fun _ h => V.iconst_0 dX7_shifts_112 (V.ist4 dX7_shifts_113 h)) ?_
        rw [show b = shiB v from hs]
        exact L115o _ _ hK6
      | succ m ih =>
        intro s b w' y hk hK1 hK6 hs
        have hw3 : w' 100 3 = nI (nR v) := (hK1.1 100 3 rfl (by simp)).trans (by rw [cv_at hA, hI.rows.1])
        have L59 : ∀ (m9 r : Nat), r + m9 = nR v → VE E mX7_shifts 7 (PR (.int (shiftsR v a)) (QV g σ v)) 59 [some (.ref (g.1 100)), some (.int (a)), some (.int (b.1)), some (.int (b.2)), some (.int (nI s)), some (.int (nI r))] [] (S g σ (fA 109 r (fun r => (nI s >>> (nI r &&& 31)) &&& 1) w')) := by
          intro m9
          induction m9 with
          | zero =>
            intro r hk9 
            obtain rfl : r = nR v := by omega
            refine VE.step (fun _ h => V.ild5 dX7_shifts_59 (V.ald0 dX7_shifts_61 (GX7_156 hW rfl dX7_shifts_62 h))) ?_
            refine VE.icmp_ge (tgt := 88) dX7_shifts_65 (by decide) (fun c_65 => ?_) (fun c_65 => absurd (by rw [fA_ne (show (100 : Nat) ≠ 109 by decide), hw3]; exact nI_le (by omega) (by omega)) c_65)
            refine VE.step (fun _ h => V.ald0 dX7_shifts_88 h) ?_
            refine VE.invV0r vX7_346 hW.2.2.1 dX7_shifts_89 (e_X7_allWorth hW (show cv _ = cv (shiV v s) from hK1.ov hA) (HI.f hI (by decide) (by decide) (by decide)) (HT.f hT (by decide))) (fun s9 q9 => ?_)
            obtain ⟨w1, hw1, rfl⟩ := q9
            refine VE.step (fun _ h => V.ist5 dX7_shifts_92 (V.ild5 dX7_shifts_94 (V.ild3 dX7_shifts_96 h))) ?_
            refine VE.icmp_le (tgt := 106) dX7_shifts_97 (by decide) (fun c_97 => ?_) (fun c_97 => ?_)
            · refine VE.step (fun _ h => V.inc4 dX7_shifts_106 (V.goto (tgt := 45) dX7_shifts_109 (by decide) h)) ?_
              rw [nI_1]
              have hK1' := Kp.c (by decide) hw1 (Kp.f (f := (fun r => (nI s >>> (nI r &&& 31)) &&& 1)) (by decide) (Nat.le_refl _) hK1)
              have hK6' := Kp.c (by decide) hw1 (Kp.f (f := (fun r => (nI s >>> (nI r &&& 31)) &&& 1)) (by decide) hR2 hK6)
              first
                | exact ih (s + 1) b _ _ (by omega) hK1' hK6' (by rw [← hs, bst, if_pos c_97])
                | exact ih (s + 1) (nI s, allS (shiV v s)) _ _ (by omega) hK1' hK6' (by rw [← hs, bst, if_neg c_97])
            · refine VE.step (fun _ h => V.ild4 dX7_shifts_100 (V.ist2 dX7_shifts_102 (V.ild5 dX7_shifts_103 (V.ist3 dX7_shifts_105 (V.inc4 dX7_shifts_106 (V.goto (tgt := 45) dX7_shifts_109 (by decide) h)))))) ?_
              rw [nI_1]
              have hK1' := Kp.c (by decide) hw1 (Kp.f (f := (fun r => (nI s >>> (nI r &&& 31)) &&& 1)) (by decide) (Nat.le_refl _) hK1)
              have hK6' := Kp.c (by decide) hw1 (Kp.f (f := (fun r => (nI s >>> (nI r &&& 31)) &&& 1)) (by decide) hR2 hK6)
              first
                | exact ih (s + 1) b _ _ (by omega) hK1' hK6' (by rw [← hs, bst, if_pos c_97])
                | exact ih (s + 1) (nI s, allS (shiV v s)) _ _ (by omega) hK1' hK6' (by rw [← hs, bst, if_neg c_97])
          | succ m9 ih9 =>
            intro r hk9 
            refine VE.step (fun _ h => V.ild5 dX7_shifts_59 (V.ald0 dX7_shifts_61 (GX7_156 hW rfl dX7_shifts_62 h))) ?_
            refine VE.icmp_ge (tgt := 88) dX7_shifts_65 (by decide) (fun c_65 => absurd c_65 (by rw [fA_ne (show (100 : Nat) ≠ 109 by decide), hw3]; first | exact nI_ge (by omega) (by omega) | exact fun h9 => absurd ((nI_leI (by omega) (by omega)).mp h9) (by omega))) (fun c_65 => ?_)
            refine VE.step (fun _ h => V.ald0 dX7_shifts_68 (GX7_31 hW rfl dX7_shifts_69 (V.ild5 dX7_shifts_72 (V.ild4 dX7_shifts_74 (V.ild5 dX7_shifts_76 (V.ishr dX7_shifts_78 (V.iconst_1 dX7_shifts_79 (V.iand dX7_shifts_80 (sM8 hW (by first | exact IX.n ‹_› (by decide) | exact IX.n (by omega) (by decide)) dX7_shifts_81 (V.inc5 dX7_shifts_82 (V.goto (tgt := 59) dX7_shifts_85 (by decide) h))))))))))) ?_
            rw [nI_1, fA_s rfl]
            exact ih9 (r + 1) (by omega)
    
        refine VE.step (fun _ h => V.ild4 dX7_shifts_45 (V.iconst_1 dX7_shifts_47 (V.ald0 dX7_shifts_48 (GX7_156 hW rfl dX7_shifts_49 (V.ishl dX7_shifts_52 h))))) ?_
        refine VE.icmp_ge (tgt := 112) dX7_shifts_53 (by decide) (fun c_53 => absurd c_53 (by rw [(show w' 100 3 = nI (nR v) from (hK1.1 100 3 rfl (by simp)).trans (by rw [cv_at hA, hI.rows.1])), shl_n _ hR2]; first | exact nI_ge (by omega) (by omega) | exact fun h9 => absurd ((nI_leI (by omega) (by omega)).mp h9) (by omega))) (fun c_53 => ?_)
        refine VE.step (fun _ h => V.iconst_0 dX7_shifts_56 (V.ist5 dX7_shifts_57 h)) ?_
        have h0 := L59 (nR v) 0 (by omega)
        rw [fA_0] at h0
        exact h0
    have L14 : ∀ (m k : Nat), k + m = 6 → VE E mX7_shifts 7 (PR (.int (shiftsR v a)) (QV g σ v)) 14 [some (.ref (g.1 100)), some (.int (a)), some (.int (nI k)), none, none, none] [] (S g σ (fA 156 k (w 109) w)) := by
      intro m
      induction m with
      | zero =>
        intro k hk 
        obtain rfl : k = 6 := by omega
        refine VE.step (fun _ h => V.ild2 dX7_shifts_14 (V.bipush (v := 6) dX7_shifts_15 (by decide) h)) ?_
        refine VE.icmp_ge (tgt := 38) dX7_shifts_17 (by decide) (fun c_17 => ?_) (fun c_17 => absurd (by rw [show (6 : Int32) = nI 6 from rfl]; exact nI_le (by omega) (by omega)) c_17)
        refine VE.step (fun _ h => V.iconst_0 dX7_shifts_38 (V.ist2 dX7_shifts_39 (V.iconst_m1 dX7_shifts_40 (V.ist3 dX7_shifts_41 (V.iconst_0 dX7_shifts_42 (V.ist4 dX7_shifts_43 h)))))) ?_
        exact L45 (2 ^ nR v) 0 (0, -1) _ _ (by omega) (Kp.lo hR2 rfl) (Kp.start rfl) rfl
      | succ m ih =>
        intro k hk 
        refine VE.step (fun _ h => V.ild2 dX7_shifts_14 (V.bipush (v := 6) dX7_shifts_15 (by decide) h)) ?_
        refine VE.icmp_ge (tgt := 38) dX7_shifts_17 (by decide) (fun c_17 => absurd c_17 (by rw [show (6 : Int32) = nI 6 from rfl]; first | exact nI_ge (by omega) (by omega) | exact fun h9 => absurd ((nI_leI (by omega) (by omega)).mp h9) (by omega))) (fun c_17 => ?_)
        refine VE.step (fun _ h => V.ald0 dX7_shifts_20 (GX7_144 hW rfl dX7_shifts_21 (V.ild2 dX7_shifts_24 (V.ald0 dX7_shifts_25 (GX7_31 hW rfl dX7_shifts_26 (V.ild2 dX7_shifts_29 (aM8 hW (by first | exact IX.n ‹_› (by decide) | exact IX.n (by omega) (by decide)) dX7_shifts_30 (sM55 hW (by first | exact IX.n ‹_› (by decide) | exact IX.n (by omega) (by decide)) dX7_shifts_31 (V.inc2 dX7_shifts_32 (V.goto (tgt := 14) dX7_shifts_35 (by decide) h)))))))))) ?_
        rw [nI_1, fA_s (fA_ne (by decide))]
        exact ih (k + 1) (by omega)
    
    refine VE.step (fun _ h => V.iconst_0 dX7_shifts_12 (V.ist2 dX7_shifts_13 h)) ?_
    have h0 := L14 6 0 (by omega)
    rw [fA_0] at h0
    exact h0
  · refine VE.step (fun _ h => V.bipush (v := (-2)) dX7_shifts_9 (by decide) h) ?_
    exact VE.iret dX7_shifts_11 rfl rfl (⟨by simp only [shiftsR, c_6, if_true, if_false, Bool.false_eq_true, eq_self, and_true, true_and, and_false, false_and, Bool.and_true, Bool.true_and, Bool.and_false, Bool.false_and, Bool.not_true, Bool.not_false, not_true_eq_false, not_false_eq_true, ne_eq, b2i_t, b2i_f], _, hA, rfl⟩)

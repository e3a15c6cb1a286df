set_option maxRecDepth 100000
set_option maxHeartbeats 1000000
theorem c_X7_unwinds {E : En} {g : Ge} {σ : Sg} {w : Wv} (hW : WM g σ) {T : Nat} {w0 : Wv} {K C : List Int32} {a b : Nat} {t y : Int32} (hT : w0 100 21 = nI T) (hT6 : T < 6) (hy : SYR T w0 w K C a b t y) {l : Int32} (hl0 : 0 < l) : CtE E mX7_unwinds 1 [.ref (g.1 100), .int l] (PV (fun s => ∃ w', s = S g σ w' ∧ SYR T w0 w' (unw l K C).1 (unw l K C).2 a b t y)) (S g σ w) := by
  show VE E mX7_unwinds 1 _ 0 [some (.ref (g.1 100)), some (.int l), none] [] (S g σ w)
  obtain ⟨U, hU⟩ : ∃ U, unw l K C = U := ⟨_, rfl⟩
  rw [hU]
  have LU : ∀ (K C : List Int32) (w : Wv) (z : Option Value), SYR T w0 w K C a b t y → unw l K C = U → VE E mX7_unwinds 1 (PV (fun s => ∃ w', s = S g σ w' ∧ SYR T w0 w' U.1 U.2 a b t y)) 0 [some (.ref (g.1 100)), some (.int (l)), z] [] (S g σ w) := by
    intro K
    induction K with
    | nil =>
      intro C w z hy hU
      refine VE.step (fun _ h => V.ald0 dX7_unwinds_0 (GX7_230 hW rfl dX7_unwinds_1 h)) ?_
      refine VE.if_le (tgt := 79) dX7_unwinds_4 (by decide) (fun c_4 => ?_) (fun c_4 => absurd (show w 100 46 ≤ 0 by rw [hy.2.2.1.1]; decide) c_4)
      exact VE.vret dX7_unwinds_79 rfl (⟨rfl, _, rfl, by rw [← hU]; exact hy⟩)
    | cons s K ih =>
      intro C w z hy hU
      have hl := hy.2.2.2.2.2
      rw [List.length_cons] at hl
      have hs : w 146 K.length = s := (hy.2.2.2.1 K.length (by simp)).trans rev_top
      have e46 : w 100 46 - 1 = nI K.length := by rw [hy.2.2.1.1, len_p]
      rw [unw] at hU
      refine VE.step (fun _ h => V.ald0 dX7_unwinds_0 (GX7_230 hW rfl dX7_unwinds_1 h)) ?_
      refine VE.if_le (tgt := 79) dX7_unwinds_4 (by decide) (fun c_4 => absurd c_4 (show ¬ w 100 46 ≤ 0 by rw [hy.2.2.1.1]; exact nI_nle (by simp) (by simp; omega))) (fun c_4 => ?_)
      refine VE.step (fun _ h => V.ald0 dX7_unwinds_7 (GX7_129 hW rfl dX7_unwinds_8 (V.ald0 dX7_unwinds_11 (GX7_230 hW rfl dX7_unwinds_12 (V.iconst_1 dX7_unwinds_15 (V.isub dX7_unwinds_16 (aM45 (j := K.length) hW (IX.of e46 (by omega) (by decide)) dX7_unwinds_17 (V.invS1r sX7_233 dX7_unwinds_18 c_X7_rank (V.ild1 dX7_unwinds_21 h))))))))) ?_
      refine VE.icmp_lt (tgt := 79) dX7_unwinds_22 (by decide) (fun c_22 => ?_) (fun c_22 => ?_)
      · exact VE.vret dX7_unwinds_79 rfl (⟨rfl, _, rfl, by rw [hs] at c_22; rw [if_pos c_22] at hU; rw [← hU]; exact hy⟩)
      · refine VE.step (fun _ h => V.ald0 dX7_unwinds_25 (V.dup dX7_unwinds_26 (GX7_230 hW rfl dX7_unwinds_27 (V.iconst_1 dX7_unwinds_30 (V.isub dX7_unwinds_31 (PX7_230 hW rfl dX7_unwinds_32 h)))))) ?_
        rw [e46]
        rw [hs] at c_22
        rw [if_neg c_22] at hU
        refine VE.step (fun _ h => V.ald0 dX7_unwinds_35 (GX7_129 hW rfl dX7_unwinds_36 (V.ald0 dX7_unwinds_39 (GX7_230 hW rfl dX7_unwinds_40 (aM45 (j := K.length) hW (IX.n (by omega) (by decide)) dX7_unwinds_43 h))))) ?_
        rw [show (up2 w 100 46 (nI K.length)) 146 K.length = s from (up2_ne _ _ (fun z => absurd z.1 (by decide))).trans hs]
        refine VE.step (fun _ h => V.ist2 dX7_unwinds_44 (V.ald0 dX7_unwinds_45 (V.dup dX7_unwinds_46 (GX7_236 hW rfl dX7_unwinds_47 (V.ild2 dX7_unwinds_50 (V.bipush (v := 13) dX7_unwinds_51 (by decide) h)))))) ?_
        refine VE.icmp_eq (tgt := 62) dX7_unwinds_53 (by decide) (fun c_53 => ?_) (fun c_53 => ?_)
        · refine VE.step (fun _ h => V.iconst_1 dX7_unwinds_62 (V.goto (tgt := 67) dX7_unwinds_63 (by decide) (V.isub dX7_unwinds_67 (PX7_236 hW rfl dX7_unwinds_68 h)))) ?_
          rw [show (up2 w 100 46 (nI K.length)) 100 47 = nI (cntO (s :: K)) from (up2_ne _ _ (by simp)).trans hy.2.2.1.2.1]
          have hc := cnt_s (s := s) (K := K)
          first
            | rw [if_pos (show isO s = true by unfold isO; rw [decide_eq_true c_53]; cases decide (s = 0) <;> rfl)] at hc
            | rw [if_pos (show isO s = true by unfold isO; rw [decide_eq_true c_59, Bool.or_true])] at hc
            | rw [if_neg (show ¬ isO s = true from fun z => by simp only [isO, decide_eq_false c_53, decide_eq_false c_59, Bool.or_false, decide_eq_true_eq] at z; exact absurd (show rk s < l by rw [z]; exact hl0) c_22)] at hc
          rw [hc]
          refine VE.step (fun _ h => V.ald0 dX7_unwinds_71 (V.ild2 dX7_unwinds_72 (V.invV1v vX7_239 hW.2.2.1 dX7_unwinds_73 (c_X7_puts hW (T := T) (m := C.length) (hy.pop.t hT) hT6 hy.2.2.1.2.2 (by omega)) (V.goto (tgt := 0) dX7_unwinds_76 (by decide) h)))) ?_
          have hp := hy.pop.put (s := s) (by omega)
          exact ih (C ++ [s]) _ _ hp hU
        · refine VE.step (fun _ h => V.ild2 dX7_unwinds_56 (V.bipush (v := 19) dX7_unwinds_57 (by decide) h)) ?_
          refine VE.icmp_ne (tgt := 66) dX7_unwinds_59 (by decide) (fun c_59 => ?_) (fun c_59 => ?_)
          · refine VE.step (fun _ h => V.iconst_0 dX7_unwinds_66 (V.isub dX7_unwinds_67 (PX7_236 hW rfl dX7_unwinds_68 h))) ?_
            rw [show (up2 w 100 46 (nI K.length)) 100 47 = nI (cntO (s :: K)) from (up2_ne _ _ (by simp)).trans hy.2.2.1.2.1]
            have hc := cnt_s (s := s) (K := K)
            first
              | rw [if_pos (show isO s = true by unfold isO; rw [decide_eq_true c_53]; cases decide (s = 0) <;> rfl)] at hc
              | rw [if_pos (show isO s = true by unfold isO; rw [decide_eq_true c_59, Bool.or_true])] at hc
              | rw [if_neg (show ¬ isO s = true from fun z => by simp only [isO, decide_eq_false c_53, decide_eq_false c_59, Bool.or_false, decide_eq_true_eq] at z; exact absurd (show rk s < l by rw [z]; exact hl0) c_22)] at hc
            rw [hc]
            refine VE.step (fun _ h => V.ald0 dX7_unwinds_71 (V.ild2 dX7_unwinds_72 (V.invV1v vX7_239 hW.2.2.1 dX7_unwinds_73 (c_X7_puts hW (T := T) (m := C.length) (hy.pop.t hT) hT6 hy.2.2.1.2.2 (by omega)) (V.goto (tgt := 0) dX7_unwinds_76 (by decide) h)))) ?_
            have hp := hy.pop.put (s := s) (by omega)
            exact ih (C ++ [s]) _ _ hp hU
          · refine VE.step (fun _ h => V.iconst_1 dX7_unwinds_62 (V.goto (tgt := 67) dX7_unwinds_63 (by decide) (V.isub dX7_unwinds_67 (PX7_236 hW rfl dX7_unwinds_68 h)))) ?_
            rw [show (up2 w 100 46 (nI K.length)) 100 47 = nI (cntO (s :: K)) from (up2_ne _ _ (by simp)).trans hy.2.2.1.2.1]
            have hc := cnt_s (s := s) (K := K)
            first
              | rw [if_pos (show isO s = true by unfold isO; rw [decide_eq_true c_53]; cases decide (s = 0) <;> rfl)] at hc
              | rw [if_pos (show isO s = true by unfold isO; rw [decide_eq_true c_59, Bool.or_true])] at hc
              | rw [if_neg (show ¬ isO s = true from fun z => by simp only [isO, decide_eq_false c_53, decide_eq_false c_59, Bool.or_false, decide_eq_true_eq] at z; exact absurd (show rk s < l by rw [z]; exact hl0) c_22)] at hc
            rw [hc]
            refine VE.step (fun _ h => V.ald0 dX7_unwinds_71 (V.ild2 dX7_unwinds_72 (V.invV1v vX7_239 hW.2.2.1 dX7_unwinds_73 (c_X7_puts hW (T := T) (m := C.length) (hy.pop.t hT) hT6 hy.2.2.1.2.2 (by omega)) (V.goto (tgt := 0) dX7_unwinds_76 (by decide) h)))) ?_
            have hp := hy.pop.put (s := s) (by omega)
            exact ih (C ++ [s]) _ _ hp hU
  exact LU K C w none hy hU

theorem SYR.opn {T : Nat} {w0 w : Wv} {K C : List Int32} {a b : Nat} {t y s : Int32} (h : SYR T w0 w K C a b t y) (hl : K.length + C.length + 1 ≤ 180) (hs : isO s = true) : SYR T w0 (up2 (up2 (up2 w 100 47 (w 100 47 + 1)) 146 K.length s) 100 46 (nI (K.length + 1))) (s :: K) C a b t y :=
  h.hold hl (by rw [h.2.2.1.2.1, cntO, if_pos hs, nI_1])
theorem SYR.hold0 {T : Nat} {w0 w : Wv} {K C : List Int32} {a b : Nat} {t y s : Int32} (h : SYR T w0 w K C a b t y) (hl : K.length + C.length + 1 ≤ 180) (hs : isO s = false) : SYR T w0 (up2 (up2 w 146 K.length s) 100 46 (nI (K.length + 1))) (s :: K) C a b t y := by
  have h2 := h.hold (s := s) hl (x := w 100 47) (by rw [h.2.2.1.2.1, cntO, if_neg (by rw [hs]; decide)]; rfl)
  rw [up2_same] at h2
  exact h2
def OPN (g : Ge) (σ : Sg) (w : Wv) (T : Nat) (w0 : Wv) (K C : List Int32) (a b : Nat) (t y s9 : Int32) : Outcome → Sg → Prop := fun o s => (cntO K = 5 ∧ o = .returned (some (.int 0)) ∧ s = S g σ w) ∨ (¬ cntO K = 5 ∧ o = .returned (some (.int 1)) ∧ ∃ w', s = S g σ w' ∧ SYR T w0 w' (s9 :: K) C a b t y)
theorem c_X7_opensOne {E : En} {g : Ge} {σ : Sg} {w : Wv} (hW : WM g σ) {T : Nat} {w0 : Wv} {K C : List Int32} {a b : Nat} {t y : Int32} (hT : w0 100 21 = nI T) (hT6 : T < 6) (hy : SYR T w0 w K C a b t y) {s9 : Int32} (hs : isO s9 = true) (hl : K.length + C.length + 1 ≤ 180) : CtE E mX7_opensOne 1 [.ref (g.1 100), .int s9] (OPN g σ w T w0 K C a b t y s9) (S g σ w) := by
  show VE E mX7_opensOne 1 _ 0 [some (.ref (g.1 100)), some (.int s9)] [] (S g σ w)
  have hcl := cnt_le (K := K)
  have e5 : w 100 47 = 5 ↔ cntO K = 5 := by rw [hy.2.2.1.2.1]; exact nI_eq (b := 5) (by omega) (by decide)
  refine VE.step (fun _ h => V.ald0 dX7_opensOne_0 (GX7_236 hW rfl dX7_opensOne_1 (V.iconst_5 dX7_opensOne_4 h))) ?_
  refine VE.icmp_ne (tgt := 10) dX7_opensOne_5 (by decide) (fun c_5 => ?_) (fun c_5 => ?_)
  · refine VE.step (fun _ h => V.ald0 dX7_opensOne_10 (V.dup dX7_opensOne_11 (GX7_236 hW rfl dX7_opensOne_12 (V.iconst_1 dX7_opensOne_15 (V.iadd dX7_opensOne_16 (PX7_236 hW rfl dX7_opensOne_17 (V.ald0 dX7_opensOne_20 (V.ild1 dX7_opensOne_21 (V.invV1v vX7_243 hW.2.2.1 dX7_opensOne_22 (c_X7_holds hW (m := K.length) (show (up2 w 100 47 (w 100 47 + 1)) 100 46 = nI K.length from hy.2.2.1.1) (by omega)) (V.iconst_1 dX7_opensOne_25 h)))))))))) ?_
    exact VE.iret dX7_opensOne_26 rfl rfl (.inr ⟨fun z => c_5 (e5.mpr z), rfl, _, rfl, hy.opn hl hs⟩)
  · refine VE.step (fun _ h => V.iconst_0 dX7_opensOne_8 h) ?_
    exact VE.iret dX7_opensOne_9 rfl rfl (.inl ⟨e5.mp c_5, rfl, rfl⟩)

def top4 : List Int32 → Bool
  | [] => false
  | q :: _ => decide (rk q = 4)
/-- a sign between two: none if it can't stand -/
def btw (s : Int32) (K C : List Int32) : Option (List Int32 × List Int32) :=
  let U := unw (if rk s = 4 then 5 else rk s) K C
  if decide (rk s = 4) && top4 U.1 then none else some (s :: U.1, U.2)
def BTW (g : Ge) (σ : Sg) (T : Nat) (w0 : Wv) (K C : List Int32) (a b : Nat) (t y s9 : Int32) : Outcome → Sg → Prop := fun o s => (btw s9 K C = none ∧ o = .returned (some (.int 0)) ∧ ∃ w', s = S g σ w' ∧ ∃ K' C', SYR T w0 w' K' C' a b t y) ∨ (∃ U, btw s9 K C = some U ∧ o = .returned (some (.int 1)) ∧ ∃ w', s = S g σ w' ∧ SYR T w0 w' U.1 U.2 a b t y)
theorem c_X7_between {E : En} {g : Ge} {σ : Sg} {w : Wv} (hW : WM g σ) {T : Nat} {w0 : Wv} {K C : List Int32} {a b : Nat} {t y : Int32} (hT : w0 100 21 = nI T) (hT6 : T < 6) (hy : SYR T w0 w K C a b t y) {s9 : Int32} (hs : 0 < rk s9) (hso : isO s9 = false) (hl : K.length + C.length + 1 ≤ 180) : CtE E mX7_between 2 [.ref (g.1 100), .int s9] (BTW g σ T w0 K C a b t y s9) (S g σ w) := by
  show VE E mX7_between 2 _ 0 [some (.ref (g.1 100)), some (.int s9)] [] (S g σ w)
  refine VE.step (fun _ h => V.ald0 dX7_between_0 (V.ild1 dX7_between_1 (V.invS1r sX7_233 dX7_between_2 c_X7_rank (V.iconst_4 dX7_between_5 h)))) ?_
  refine VE.icmp_ne (tgt := 13) dX7_between_6 (by decide) (fun c_6 => ?_) (fun c_6 => ?_)
  · refine VE.step (fun _ h => V.ild1 dX7_between_13 (V.invS1r sX7_233 dX7_between_14 c_X7_rank h)) ?_
    refine VE.invV1v vX7_246 hW.2.2.1 dX7_between_17 (c_X7_unwinds hW hT hT6 hy (by first | exact hs | decide)) (fun s9 q9 => ?_)
    obtain ⟨w1, rfl, hy1⟩ := q9
    have hlen := unw_len (l := if rk s9 = 4 then 5 else rk s9) K C
    obtain ⟨U, hU⟩ : ∃ U, unw (if rk s9 = 4 then 5 else rk s9) K C = U := ⟨_, rfl⟩
    rw [hU] at hlen
    first
      | (rw [if_pos c_6] at hU; rw [hU] at hy1)
      | (rw [if_neg c_6] at hU; rw [hU] at hy1)
    have hb : btw s9 K C = if decide (rk s9 = 4) && top4 U.1 then none else some (s9 :: U.1, U.2) := by
      unfold btw
      first
        | rw [if_pos c_6, hU]
        | rw [if_neg c_6, hU]
    refine VE.step (fun _ h => V.ild1 dX7_between_20 (V.invS1r sX7_233 dX7_between_21 c_X7_rank (V.iconst_4 dX7_between_24 h))) ?_
    refine VE.icmp_ne (tgt := 55) dX7_between_25 (by decide) (fun c_25 => ?_) (fun c_25 => ?_)
    · have ht4 : rk s9 = 4 → top4 U.1 = false := fun h4 => by
        first
          | exact absurd h4 c_25
          | (cases hK' : U.1 with
             | nil => rfl
             | cons q' K' => exact absurd c_32 (by rw [hy1.2.2.1.1, hK']; exact nI_nle (by simp) (by rw [hK'] at hlen; omega)))
          | (rw [hK, top4]; exact decide_eq_false (hq ▸ c_50))
      try have ht4 := ht4 c_25
      refine VE.step (fun _ h => V.ald0 dX7_between_55 (V.ild1 dX7_between_56 (V.invV1v vX7_243 hW.2.2.1 dX7_between_57 (c_X7_holds hW (m := U.1.length) hy1.2.2.1.1 (by omega)) (V.iconst_1 dX7_between_60 h)))) ?_
      exact VE.iret dX7_between_61 rfl rfl (.inr ⟨(s9 :: U.1, U.2), by first | (rw [hb, decide_eq_false c_25]; rfl) | (rw [hb, show top4 U.1 = false from ht4, Bool.and_false]; rfl), rfl, _, rfl, hy1.hold0 (by omega) hso⟩)
    · refine VE.step (fun _ h => V.ald0 dX7_between_28 (GX7_230 hW rfl dX7_between_29 h)) ?_
      refine VE.if_le (tgt := 55) dX7_between_32 (by decide) (fun c_32 => ?_) (fun c_32 => ?_)
      · have ht4 : rk s9 = 4 → top4 U.1 = false := fun h4 => by
          first
            | exact absurd h4 c_25
            | (cases hK' : U.1 with
               | nil => rfl
               | cons q' K' => exact absurd c_32 (by rw [hy1.2.2.1.1, hK']; exact nI_nle (by simp) (by rw [hK'] at hlen; omega)))
            | (rw [hK, top4]; exact decide_eq_false (hq ▸ c_50))
        try have ht4 := ht4 c_25
        refine VE.step (fun _ h => V.ald0 dX7_between_55 (V.ild1 dX7_between_56 (V.invV1v vX7_243 hW.2.2.1 dX7_between_57 (c_X7_holds hW (m := U.1.length) hy1.2.2.1.1 (by omega)) (V.iconst_1 dX7_between_60 h)))) ?_
        exact VE.iret dX7_between_61 rfl rfl (.inr ⟨(s9 :: U.1, U.2), by first | (rw [hb, decide_eq_false c_25]; rfl) | (rw [hb, show top4 U.1 = false from ht4, Bool.and_false]; rfl), rfl, _, rfl, hy1.hold0 (by omega) hso⟩)
      · obtain ⟨q, K2, hK⟩ : ∃ q K2, U.1 = q :: K2 := by
          cases hK : U.1 with
          | nil => exact absurd (by rw [hy1.2.2.1.1, hK]; decide) c_32
          | cons q K2 => exact ⟨q, K2, rfl⟩
        have hKl : U.1.length = K2.length + 1 := by rw [hK]; rfl
        have e46 : w1 100 46 - 1 = nI K2.length := by rw [hy1.2.2.1.1, hKl, ← nI_1, Int32.add_sub_cancel]
        have hq : w1 146 K2.length = q := (hy1.2.2.2.1 K2.length (by omega)).trans (by rw [hK]; exact rev_top)
        refine VE.step (fun _ h => V.ald0 dX7_between_35 (GX7_129 hW rfl dX7_between_36 (V.ald0 dX7_between_39 (GX7_230 hW rfl dX7_between_40 (V.iconst_1 dX7_between_43 (V.isub dX7_between_44 (aM45 (j := K2.length) hW (IX.of e46 (by omega) (by decide)) dX7_between_45 (V.invS1r sX7_233 dX7_between_46 c_X7_rank (V.iconst_4 dX7_between_49 h))))))))) ?_
        refine VE.icmp_ne (tgt := 55) dX7_between_50 (by decide) (fun c_50 => ?_) (fun c_50 => ?_)
        · have ht4 : rk s9 = 4 → top4 U.1 = false := fun h4 => by
            first
              | exact absurd h4 c_25
              | (cases hK' : U.1 with
                 | nil => rfl
                 | cons q' K' => exact absurd c_32 (by rw [hy1.2.2.1.1, hK']; exact nI_nle (by simp) (by rw [hK'] at hlen; omega)))
              | (rw [hK, top4]; exact decide_eq_false (hq ▸ c_50))
          try have ht4 := ht4 c_25
          refine VE.step (fun _ h => V.ald0 dX7_between_55 (V.ild1 dX7_between_56 (V.invV1v vX7_243 hW.2.2.1 dX7_between_57 (c_X7_holds hW (m := U.1.length) hy1.2.2.1.1 (by omega)) (V.iconst_1 dX7_between_60 h)))) ?_
          exact VE.iret dX7_between_61 rfl rfl (.inr ⟨(s9 :: U.1, U.2), by first | (rw [hb, decide_eq_false c_25]; rfl) | (rw [hb, show top4 U.1 = false from ht4, Bool.and_false]; rfl), rfl, _, rfl, hy1.hold0 (by omega) hso⟩)
        · refine VE.step (fun _ h => V.iconst_0 dX7_between_53 h) ?_
          exact VE.iret dX7_between_54 rfl rfl (.inl ⟨by rw [hb, decide_eq_true c_25, show top4 U.1 = true by rw [hK, top4, decide_eq_true (hq ▸ c_50)]]; rfl, rfl, _, rfl, _, _, hy1⟩)
  · refine VE.step (fun _ h => V.iconst_5 dX7_between_9 (V.goto (tgt := 17) dX7_between_10 (by decide) h)) ?_
    refine VE.invV1v vX7_246 hW.2.2.1 dX7_between_17 (c_X7_unwinds hW hT hT6 hy (by first | exact hs | decide)) (fun s9 q9 => ?_)
    obtain ⟨w1, rfl, hy1⟩ := q9
    have hlen := unw_len (l := if rk s9 = 4 then 5 else rk s9) K C
    obtain ⟨U, hU⟩ : ∃ U, unw (if rk s9 = 4 then 5 else rk s9) K C = U := ⟨_, rfl⟩
    rw [hU] at hlen
    first
      | (rw [if_pos c_6] at hU; rw [hU] at hy1)
      | (rw [if_neg c_6] at hU; rw [hU] at hy1)
    have hb : btw s9 K C = if decide (rk s9 = 4) && top4 U.1 then none else some (s9 :: U.1, U.2) := by
      unfold btw
      first
        | rw [if_pos c_6, hU]
        | rw [if_neg c_6, hU]
    refine VE.step (fun _ h => V.ild1 dX7_between_20 (V.invS1r sX7_233 dX7_between_21 c_X7_rank (V.iconst_4 dX7_between_24 h))) ?_
    refine VE.icmp_ne (tgt := 55) dX7_between_25 (by decide) (fun c_25 => ?_) (fun c_25 => ?_)
    · have ht4 : rk s9 = 4 → top4 U.1 = false := fun h4 => by
        first
          | exact absurd h4 c_25
          | (cases hK' : U.1 with
             | nil => rfl
             | cons q' K' => exact absurd c_32 (by rw [hy1.2.2.1.1, hK']; exact nI_nle (by simp) (by rw [hK'] at hlen; omega)))
          | (rw [hK, top4]; exact decide_eq_false (hq ▸ c_50))
      try have ht4 := ht4 c_25
      refine VE.step (fun _ h => V.ald0 dX7_between_55 (V.ild1 dX7_between_56 (V.invV1v vX7_243 hW.2.2.1 dX7_between_57 (c_X7_holds hW (m := U.1.length) hy1.2.2.1.1 (by omega)) (V.iconst_1 dX7_between_60 h)))) ?_
      exact VE.iret dX7_between_61 rfl rfl (.inr ⟨(s9 :: U.1, U.2), by first | (rw [hb, decide_eq_false c_25]; rfl) | (rw [hb, show top4 U.1 = false from ht4, Bool.and_false]; rfl), rfl, _, rfl, hy1.hold0 (by omega) hso⟩)
    · refine VE.step (fun _ h => V.ald0 dX7_between_28 (GX7_230 hW rfl dX7_between_29 h)) ?_
      refine VE.if_le (tgt := 55) dX7_between_32 (by decide) (fun c_32 => ?_) (fun c_32 => ?_)
      · have ht4 : rk s9 = 4 → top4 U.1 = false := fun h4 => by
          first
            | exact absurd h4 c_25
            | (cases hK' : U.1 with
               | nil => rfl
               | cons q' K' => exact absurd c_32 (by rw [hy1.2.2.1.1, hK']; exact nI_nle (by simp) (by rw [hK'] at hlen; omega)))
            | (rw [hK, top4]; exact decide_eq_false (hq ▸ c_50))
        try have ht4 := ht4 c_25
        refine VE.step (fun _ h => V.ald0 dX7_between_55 (V.ild1 dX7_between_56 (V.invV1v vX7_243 hW.2.2.1 dX7_between_57 (c_X7_holds hW (m := U.1.length) hy1.2.2.1.1 (by omega)) (V.iconst_1 dX7_between_60 h)))) ?_
        exact VE.iret dX7_between_61 rfl rfl (.inr ⟨(s9 :: U.1, U.2), by first | (rw [hb, decide_eq_false c_25]; rfl) | (rw [hb, show top4 U.1 = false from ht4, Bool.and_false]; rfl), rfl, _, rfl, hy1.hold0 (by omega) hso⟩)
      · obtain ⟨q, K2, hK⟩ : ∃ q K2, U.1 = q :: K2 := by
          cases hK : U.1 with
          | nil => exact absurd (by rw [hy1.2.2.1.1, hK]; decide) c_32
          | cons q K2 => exact ⟨q, K2, rfl⟩
        have hKl : U.1.length = K2.length + 1 := by rw [hK]; rfl
        have e46 : w1 100 46 - 1 = nI K2.length := by rw [hy1.2.2.1.1, hKl, ← nI_1, Int32.add_sub_cancel]
        have hq : w1 146 K2.length = q := (hy1.2.2.2.1 K2.length (by omega)).trans (by rw [hK]; exact rev_top)
        refine VE.step (fun _ h => V.ald0 dX7_between_35 (GX7_129 hW rfl dX7_between_36 (V.ald0 dX7_between_39 (GX7_230 hW rfl dX7_between_40 (V.iconst_1 dX7_between_43 (V.isub dX7_between_44 (aM45 (j := K2.length) hW (IX.of e46 (by omega) (by decide)) dX7_between_45 (V.invS1r sX7_233 dX7_between_46 c_X7_rank (V.iconst_4 dX7_between_49 h))))))))) ?_
        refine VE.icmp_ne (tgt := 55) dX7_between_50 (by decide) (fun c_50 => ?_) (fun c_50 => ?_)
        · have ht4 : rk s9 = 4 → top4 U.1 = false := fun h4 => by
            first
              | exact absurd h4 c_25
              | (cases hK' : U.1 with
                 | nil => rfl
                 | cons q' K' => exact absurd c_32 (by rw [hy1.2.2.1.1, hK']; exact nI_nle (by simp) (by rw [hK'] at hlen; omega)))
              | (rw [hK, top4]; exact decide_eq_false (hq ▸ c_50))
          try have ht4 := ht4 c_25
          refine VE.step (fun _ h => V.ald0 dX7_between_55 (V.ild1 dX7_between_56 (V.invV1v vX7_243 hW.2.2.1 dX7_between_57 (c_X7_holds hW (m := U.1.length) hy1.2.2.1.1 (by omega)) (V.iconst_1 dX7_between_60 h)))) ?_
          exact VE.iret dX7_between_61 rfl rfl (.inr ⟨(s9 :: U.1, U.2), by first | (rw [hb, decide_eq_false c_25]; rfl) | (rw [hb, show top4 U.1 = false from ht4, Bool.and_false]; rfl), rfl, _, rfl, hy1.hold0 (by omega) hso⟩)
        · refine VE.step (fun _ h => V.iconst_0 dX7_between_53 h) ?_
          exact VE.iret dX7_between_54 rfl rfl (.inl ⟨by rw [hb, decide_eq_true c_25, show top4 U.1 = true by rw [hK, top4, decide_eq_true (hq ▸ c_50)]]; rfl, rfl, _, rfl, _, _, hy1⟩)

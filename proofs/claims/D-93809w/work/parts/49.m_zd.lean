set_option maxRecDepth 100000
set_option maxHeartbeats 1000000
theorem unw_nil {T : Nat} {w0 w : Wv} {K C : List Int32} {a b : Nat} {t y : Int32} (h : SYR T w0 w K C a b t y) (h0 : w 100 46 = 0) : K = [] := by
  cases K with
  | nil => rfl
  | cons q K => rw [h.2.2.1.1] at h0; exact absurd h0 (nI_ne0 (by simp) (by have := h.2.2.2.2.2; omega))
theorem unw_cons {T : Nat} {w0 w : Wv} {K C : List Int32} {a b : Nat} {t y : Int32} (h : SYR T w0 w K C a b t y) (h0 : ¬ w 100 46 = 0) : ∃ q K', K = q :: K' := by
  cases K with
  | nil => exact absurd (by rw [h.2.2.1.1]; rfl) h0
  | cons q K => exact ⟨q, K, rfl⟩
theorem btw_len {s : Int32} {K C : List Int32} {U : List Int32 × List Int32} (h : btw s K C = some U) : U.1.length + U.2.length = K.length + C.length + 1 := by
  unfold btw at h
  have hl := unw_len (l := if rk s = 4 then 5 else rk s) K C
  obtain ⟨X, hX⟩ : ∃ X, unw (if rk s = 4 then 5 else rk s) K C = X := ⟨_, rfl⟩
  rw [hX] at hl
  simp only [hX] at h
  split at h
  · exact absurd h (by simp)
  · obtain rfl := Option.some.inj h
    simp only [List.length_cons]; omega
theorem c_X7_eRead_14 {E : En} {g : Ge} {σ : Sg} (hW : WM g σ) (hWd : HW g σ) {T N : Nat} {w0 : Wv} (hT : w0 100 21 = nI T) (hT6 : T < 6) (hN : w0 100 18 = nI N) (hN2 : N ≤ 160) {R : Nat × Option (List Int32 × Nat)} : ∀ (f : Nat) (K C : List Int32) (a b : Nat) (t y : Int32) (w : Wv) (wa mn : Bool) (z : Option Value), N + 1 ≤ f + a → a ≤ N → K.length + C.length ≤ a → SYR T w0 w K C a b t y → sy (w0 118) N f a K C wa mn = R → VE E mX7_eRead 3 (EOP g σ T w0 R) 14 [some (.ref (g.1 100)), some (.int (b2i wa)), some (.int (b2i mn)), z] [] (S g σ w) := by
  intro f
  induction f with
  | zero =>
    intro K C a b t y w wa mn z hf ha
    omega
  | succ f ih =>
    intro K C a b t y w wa mn z hf ha hl hy hs
    cases wa with
    | true =>
      refine VE.step (fun _ h => V.ald0 dX7_eRead_14 h) ?_
      refine VE.invV0v vX7_249 hW.2.2.1 dX7_eRead_15 (n_next hW hWd hy hN hN2 ha) (fun s9 q9 => ?_)
      obtain ⟨w1, rfl, hy1⟩ := q9
      obtain ⟨b1, t1, y1, e1, hL⟩ : ∃ b1 t1 y1 e1, lexM (w0 118) N a = (b1, t1, y1, e1) := ⟨_, _, _, _, rfl⟩
      have hlb := lexM_b (B := w0 118) ha
      rw [hL] at hy1 hlb
      have hy1 : SYR T w0 w1 K C e1 b1 t1 y1 := hy1
      have hlb : e1 ≤ N ∧ b1 ≤ N ∧ (t1 = 0 ∨ a < e1) := hlb
      rw [sy] at hs
      simp only [hL, if_true, if_false, Bool.false_eq_true] at hs
      have e42 : w1 100 42 = t1 := hy1.2.1.2.2.1
      have e43 : w1 100 43 = y1 := hy1.2.1.2.2.2
      refine VE.step (fun _ h => V.ild1 dX7_eRead_18 h) ?_
      refine VE.if_eq (tgt := 150) dX7_eRead_19 (by decide) (fun c_19 => absurd c_19 (show ¬ b2i true = 0 by decide)) (fun c_19 => ?_)
      refine VE.step (fun _ h => V.ald0 dX7_eRead_22 (GX7_217 hW rfl dX7_eRead_23 (V.iconst_1 dX7_eRead_26 h))) ?_
      refine VE.icmp_eq (tgt := 38) dX7_eRead_27 (by decide) (fun c_27 => ?_) (fun c_27 => ?_)
      · have ht : t1 = 1 ∨ t1 = 2 := by first | exact .inl (e42 ▸ c_27) | exact .inr (e42 ▸ c_35)
        have hae : a < e1 := hlb.2.2.resolve_left (fun z => by rcases ht with h9 | h9 <;> rw [z] at h9 <;> exact absurd h9 (by decide))
        rw [if_pos ht] at hs
        refine VE.step (fun _ h => V.ald0 dX7_eRead_38 (V.ald0 dX7_eRead_39 (GX7_217 hW rfl dX7_eRead_40 (V.iconst_1 dX7_eRead_43 h)))) ?_
        refine VE.icmp_ne (tgt := 57) dX7_eRead_44 (by decide) (fun c_44 => ?_) (fun c_44 => ?_)
        · rw [e42] at c_44
          rw [if_neg c_44] at hs
          refine VE.step (fun _ h => V.ald0 dX7_eRead_57 (GX7_220 hW rfl dX7_eRead_58 h)) ?_
          rw [e43]
          refine VE.step (fun _ h => V.invV1v vX7_239 hW.2.2.1 dX7_eRead_61 (c_X7_puts hW (T := T) (m := C.length) (hy1.t hT) hT6 hy1.2.2.1.2.2 (by omega)) (V.ald0 dX7_eRead_64 (V.bipush (v := 7) dX7_eRead_65 (by decide) h))) ?_
          refine VE.invV1v vX7_246 hW.2.2.1 dX7_eRead_67 (c_X7_unwinds hW hT hT6 (hy1.put (by omega)) (by decide)) (fun s9 q9 => ?_)
          obtain ⟨w2, rfl, hy2⟩ := q9
          refine VE.step (fun _ h => V.iconst_0 dX7_eRead_70 (V.ist1 dX7_eRead_71 (V.goto (tgt := 14) dX7_eRead_72 (by decide) h))) ?_
          exact ih _ _ _ _ _ _ _ false mn _ (by omega) hlb.1 (by rw [unw_len, List.length_append]; show K.length + (C.length + 1) ≤ e1; omega) hy2 hs
        · rw [e42] at c_44
          rw [if_pos c_44] at hs
          refine VE.step (fun _ h => V.ldc q1822 dX7_eRead_47 (V.ald0 dX7_eRead_49 (GX7_220 hW rfl dX7_eRead_50 (V.iadd dX7_eRead_53 (V.goto (tgt := 61) dX7_eRead_54 (by decide) h))))) ?_
          rw [e43]
          refine VE.step (fun _ h => V.invV1v vX7_239 hW.2.2.1 dX7_eRead_61 (c_X7_puts hW (T := T) (m := C.length) (hy1.t hT) hT6 hy1.2.2.1.2.2 (by omega)) (V.ald0 dX7_eRead_64 (V.bipush (v := 7) dX7_eRead_65 (by decide) h))) ?_
          refine VE.invV1v vX7_246 hW.2.2.1 dX7_eRead_67 (c_X7_unwinds hW hT hT6 (hy1.put (by omega)) (by decide)) (fun s9 q9 => ?_)
          obtain ⟨w2, rfl, hy2⟩ := q9
          refine VE.step (fun _ h => V.iconst_0 dX7_eRead_70 (V.ist1 dX7_eRead_71 (V.goto (tgt := 14) dX7_eRead_72 (by decide) h))) ?_
          exact ih _ _ _ _ _ _ _ false mn _ (by omega) hlb.1 (by rw [unw_len, List.length_append]; show K.length + (C.length + 1) ≤ e1; omega) hy2 hs
      · refine VE.step (fun _ h => V.ald0 dX7_eRead_30 (GX7_217 hW rfl dX7_eRead_31 (V.iconst_2 dX7_eRead_34 h))) ?_
        refine VE.icmp_ne (tgt := 75) dX7_eRead_35 (by decide) (fun c_35 => ?_) (fun c_35 => ?_)
        · rw [e42] at c_27 c_35
          rw [if_neg (fun z => z.elim c_27 c_35)] at hs
          refine VE.step (fun _ h => V.ald0 dX7_eRead_75 (GX7_217 hW rfl dX7_eRead_76 (V.bipush (v := 6) dX7_eRead_79 (by decide) h))) ?_
          refine VE.icmp_ne (tgt := 99) dX7_eRead_81 (by decide) (fun c_81 => ?_) (fun c_81 => ?_)
          · rw [e42] at c_81
            rw [if_neg (fun z => by first | exact c_81 z.1 | (rw [z.2] at c_85; exact absurd c_85 (by decide)))] at hs
            refine VE.step (fun _ h => V.ald0 dX7_eRead_99 (GX7_217 hW rfl dX7_eRead_100 (V.bipush (v := 45) dX7_eRead_103 (by decide) h))) ?_
            refine VE.icmp_ne (tgt := 124) dX7_eRead_105 (by decide) (fun c_105 => ?_) (fun c_105 => ?_)
            · rw [e42] at c_105
              rw [if_neg c_105] at hs
              refine VE.step (fun _ h => V.ald0 dX7_eRead_124 (GX7_217 hW rfl dX7_eRead_125 (V.bipush (v := 40) dX7_eRead_128 (by decide) h))) ?_
              refine VE.icmp_ne (tgt := 148) dX7_eRead_130 (by decide) (fun c_130 => ?_) (fun c_130 => ?_)
              · rw [e42] at c_130
                rw [if_neg c_130] at hs
                refine VE.step (fun _ h => V.iconst_0 dX7_eRead_148 h) ?_
                exact VE.iret dX7_eRead_149 rfl rfl (EOP.no hs hy1)
              · rw [e42] at c_130
                have hae : a < e1 := hlb.2.2.resolve_left (fun z => by rw [z] at c_130; exact absurd c_130 (by decide))
                rw [if_pos c_130] at hs
                by_cases h5 : cntO K = 5
                · rw [if_pos h5] at hs
                  refine VE.step (fun _ h => V.ald0 dX7_eRead_133 (V.iconst_0 dX7_eRead_134 h)) ?_
                  refine VE.invV1r vX7_253 hW.2.2.1 dX7_eRead_135 (oO_no hW hT hT6 hy1 (by decide) (by omega) h5) (fun s9 q9 => ?_)
                  subst q9
                  refine VE.ifb_ne (tgt := 143) dX7_eRead_138 (by decide) (fun c_138 => absurd c_138 (by decide)) (fun c_138 => ?_)
                  refine VE.step (fun _ h => V.iconst_0 dX7_eRead_141 h) ?_
                  exact VE.iret dX7_eRead_142 rfl rfl (EOP.no hs hy1)
                · rw [if_neg h5] at hs
                  refine VE.step (fun _ h => V.ald0 dX7_eRead_133 (V.iconst_0 dX7_eRead_134 h)) ?_
                  refine VE.invV1r vX7_253 hW.2.2.1 dX7_eRead_135 (oO_ye hW hT hT6 hy1 (by decide) (by omega) h5) (fun s9 q9 => ?_)
                  obtain ⟨w2, rfl, hy2⟩ := q9
                  refine VE.ifb_ne (tgt := 143) dX7_eRead_138 (by decide) (fun c_138 => ?_) (fun c_138 => absurd c_138 (by decide))
                  refine VE.step (fun _ h => V.iconst_1 dX7_eRead_143 (V.ist2 dX7_eRead_144 (V.goto (tgt := 14) dX7_eRead_145 (by decide) h))) ?_
                  exact ih _ _ _ _ _ _ _ true true _ (by omega) hlb.1 (by simp only [List.length_cons]; omega) hy2 hs
            · rw [e42] at c_105
              have hae : a < e1 := hlb.2.2.resolve_left (fun z => by rw [z] at c_105; exact absurd c_105 (by decide))
              rw [if_pos c_105] at hs
              by_cases h5 : cntO K = 5
              · rw [if_pos h5] at hs
                refine VE.step (fun _ h => V.ald0 dX7_eRead_108 (V.bipush (v := 19) dX7_eRead_109 (by decide) h)) ?_
                refine VE.invV1r vX7_253 hW.2.2.1 dX7_eRead_111 (oO_no hW hT hT6 hy1 (by decide) (by omega) h5) (fun s9 q9 => ?_)
                subst q9
                refine VE.ifb_ne (tgt := 119) dX7_eRead_114 (by decide) (fun c_114 => absurd c_114 (by decide)) (fun c_114 => ?_)
                refine VE.step (fun _ h => V.iconst_0 dX7_eRead_117 h) ?_
                exact VE.iret dX7_eRead_118 rfl rfl (EOP.no hs hy1)
              · rw [if_neg h5] at hs
                refine VE.step (fun _ h => V.ald0 dX7_eRead_108 (V.bipush (v := 19) dX7_eRead_109 (by decide) h)) ?_
                refine VE.invV1r vX7_253 hW.2.2.1 dX7_eRead_111 (oO_ye hW hT hT6 hy1 (by decide) (by omega) h5) (fun s9 q9 => ?_)
                obtain ⟨w2, rfl, hy2⟩ := q9
                refine VE.ifb_ne (tgt := 119) dX7_eRead_114 (by decide) (fun c_114 => ?_) (fun c_114 => absurd c_114 (by decide))
                refine VE.step (fun _ h => V.iconst_0 dX7_eRead_119 (V.ist2 dX7_eRead_120 (V.goto (tgt := 14) dX7_eRead_121 (by decide) h))) ?_
                exact ih _ _ _ _ _ _ _ true false _ (by omega) hlb.1 (by simp only [List.length_cons]; omega) hy2 hs
          · refine VE.step (fun _ h => V.ild2 dX7_eRead_84 h) ?_
            refine VE.if_eq (tgt := 99) dX7_eRead_85 (by decide) (fun c_85 => ?_) (fun c_85 => ?_)
            · rw [e42] at c_81
              rw [if_neg (fun z => by first | exact c_81 z.1 | (rw [z.2] at c_85; exact absurd c_85 (by decide)))] at hs
              refine VE.step (fun _ h => V.ald0 dX7_eRead_99 (GX7_217 hW rfl dX7_eRead_100 (V.bipush (v := 45) dX7_eRead_103 (by decide) h))) ?_
              refine VE.icmp_ne (tgt := 124) dX7_eRead_105 (by decide) (fun c_105 => ?_) (fun c_105 => ?_)
              · rw [e42] at c_105
                rw [if_neg c_105] at hs
                refine VE.step (fun _ h => V.ald0 dX7_eRead_124 (GX7_217 hW rfl dX7_eRead_125 (V.bipush (v := 40) dX7_eRead_128 (by decide) h))) ?_
                refine VE.icmp_ne (tgt := 148) dX7_eRead_130 (by decide) (fun c_130 => ?_) (fun c_130 => ?_)
                · rw [e42] at c_130
                  rw [if_neg c_130] at hs
                  refine VE.step (fun _ h => V.iconst_0 dX7_eRead_148 h) ?_
                  exact VE.iret dX7_eRead_149 rfl rfl (EOP.no hs hy1)
                · rw [e42] at c_130
                  have hae : a < e1 := hlb.2.2.resolve_left (fun z => by rw [z] at c_130; exact absurd c_130 (by decide))
                  rw [if_pos c_130] at hs
                  by_cases h5 : cntO K = 5
                  · rw [if_pos h5] at hs
                    refine VE.step (fun _ h => V.ald0 dX7_eRead_133 (V.iconst_0 dX7_eRead_134 h)) ?_
                    refine VE.invV1r vX7_253 hW.2.2.1 dX7_eRead_135 (oO_no hW hT hT6 hy1 (by decide) (by omega) h5) (fun s9 q9 => ?_)
                    subst q9
                    refine VE.ifb_ne (tgt := 143) dX7_eRead_138 (by decide) (fun c_138 => absurd c_138 (by decide)) (fun c_138 => ?_)
                    refine VE.step (fun _ h => V.iconst_0 dX7_eRead_141 h) ?_
                    exact VE.iret dX7_eRead_142 rfl rfl (EOP.no hs hy1)
                  · rw [if_neg h5] at hs
                    refine VE.step (fun _ h => V.ald0 dX7_eRead_133 (V.iconst_0 dX7_eRead_134 h)) ?_
                    refine VE.invV1r vX7_253 hW.2.2.1 dX7_eRead_135 (oO_ye hW hT hT6 hy1 (by decide) (by omega) h5) (fun s9 q9 => ?_)
                    obtain ⟨w2, rfl, hy2⟩ := q9
                    refine VE.ifb_ne (tgt := 143) dX7_eRead_138 (by decide) (fun c_138 => ?_) (fun c_138 => absurd c_138 (by decide))
                    refine VE.step (fun _ h => V.iconst_1 dX7_eRead_143 (V.ist2 dX7_eRead_144 (V.goto (tgt := 14) dX7_eRead_145 (by decide) h))) ?_
                    exact ih _ _ _ _ _ _ _ true true _ (by omega) hlb.1 (by simp only [List.length_cons]; omega) hy2 hs
              · rw [e42] at c_105
                have hae : a < e1 := hlb.2.2.resolve_left (fun z => by rw [z] at c_105; exact absurd c_105 (by decide))
                rw [if_pos c_105] at hs
                by_cases h5 : cntO K = 5
                · rw [if_pos h5] at hs
                  refine VE.step (fun _ h => V.ald0 dX7_eRead_108 (V.bipush (v := 19) dX7_eRead_109 (by decide) h)) ?_
                  refine VE.invV1r vX7_253 hW.2.2.1 dX7_eRead_111 (oO_no hW hT hT6 hy1 (by decide) (by omega) h5) (fun s9 q9 => ?_)
                  subst q9
                  refine VE.ifb_ne (tgt := 119) dX7_eRead_114 (by decide) (fun c_114 => absurd c_114 (by decide)) (fun c_114 => ?_)
                  refine VE.step (fun _ h => V.iconst_0 dX7_eRead_117 h) ?_
                  exact VE.iret dX7_eRead_118 rfl rfl (EOP.no hs hy1)
                · rw [if_neg h5] at hs
                  refine VE.step (fun _ h => V.ald0 dX7_eRead_108 (V.bipush (v := 19) dX7_eRead_109 (by decide) h)) ?_
                  refine VE.invV1r vX7_253 hW.2.2.1 dX7_eRead_111 (oO_ye hW hT hT6 hy1 (by decide) (by omega) h5) (fun s9 q9 => ?_)
                  obtain ⟨w2, rfl, hy2⟩ := q9
                  refine VE.ifb_ne (tgt := 119) dX7_eRead_114 (by decide) (fun c_114 => ?_) (fun c_114 => absurd c_114 (by decide))
                  refine VE.step (fun _ h => V.iconst_0 dX7_eRead_119 (V.ist2 dX7_eRead_120 (V.goto (tgt := 14) dX7_eRead_121 (by decide) h))) ?_
                  exact ih _ _ _ _ _ _ _ true false _ (by omega) hlb.1 (by simp only [List.length_cons]; omega) hy2 hs
            · rw [e42] at c_81
              have hae : a < e1 := hlb.2.2.resolve_left (fun z => by rw [z] at c_81; exact absurd c_81 (by decide))
              rw [if_pos ⟨c_81, b2i_n0.mp c_85⟩] at hs
              by_cases h5 : cntO K = 5
              · rw [if_pos h5] at hs
                refine VE.step (fun _ h => V.ald0 dX7_eRead_88 (V.bipush (v := 13) dX7_eRead_89 (by decide) h)) ?_
                refine VE.invV1r vX7_253 hW.2.2.1 dX7_eRead_91 (oO_no hW hT hT6 hy1 (by decide) (by omega) h5) (fun s9 q9 => ?_)
                subst q9
                refine VE.ifb_ne (tgt := 14) dX7_eRead_94 (by decide) (fun c_94 => absurd c_94 (by decide)) (fun c_94 => ?_)
                refine VE.step (fun _ h => V.iconst_0 dX7_eRead_97 h) ?_
                exact VE.iret dX7_eRead_98 rfl rfl (EOP.no hs hy1)
              · rw [if_neg h5] at hs
                refine VE.step (fun _ h => V.ald0 dX7_eRead_88 (V.bipush (v := 13) dX7_eRead_89 (by decide) h)) ?_
                refine VE.invV1r vX7_253 hW.2.2.1 dX7_eRead_91 (oO_ye hW hT hT6 hy1 (by decide) (by omega) h5) (fun s9 q9 => ?_)
                obtain ⟨w2, rfl, hy2⟩ := q9
                refine VE.ifb_ne (tgt := 14) dX7_eRead_94 (by decide) (fun c_94 => ?_) (fun c_94 => absurd c_94 (by decide))
                exact ih _ _ _ _ _ _ _ true mn _ (by omega) hlb.1 (by simp only [List.length_cons]; omega) hy2 hs
        · have ht : t1 = 1 ∨ t1 = 2 := by first | exact .inl (e42 ▸ c_27) | exact .inr (e42 ▸ c_35)
          have hae : a < e1 := hlb.2.2.resolve_left (fun z => by rcases ht with h9 | h9 <;> rw [z] at h9 <;> exact absurd h9 (by decide))
          rw [if_pos ht] at hs
          refine VE.step (fun _ h => V.ald0 dX7_eRead_38 (V.ald0 dX7_eRead_39 (GX7_217 hW rfl dX7_eRead_40 (V.iconst_1 dX7_eRead_43 h)))) ?_
          refine VE.icmp_ne (tgt := 57) dX7_eRead_44 (by decide) (fun c_44 => ?_) (fun c_44 => ?_)
          · rw [e42] at c_44
            rw [if_neg c_44] at hs
            refine VE.step (fun _ h => V.ald0 dX7_eRead_57 (GX7_220 hW rfl dX7_eRead_58 h)) ?_
            rw [e43]
            refine VE.step (fun _ h => V.invV1v vX7_239 hW.2.2.1 dX7_eRead_61 (c_X7_puts hW (T := T) (m := C.length) (hy1.t hT) hT6 hy1.2.2.1.2.2 (by omega)) (V.ald0 dX7_eRead_64 (V.bipush (v := 7) dX7_eRead_65 (by decide) h))) ?_
            refine VE.invV1v vX7_246 hW.2.2.1 dX7_eRead_67 (c_X7_unwinds hW hT hT6 (hy1.put (by omega)) (by decide)) (fun s9 q9 => ?_)
            obtain ⟨w2, rfl, hy2⟩ := q9
            refine VE.step (fun _ h => V.iconst_0 dX7_eRead_70 (V.ist1 dX7_eRead_71 (V.goto (tgt := 14) dX7_eRead_72 (by decide) h))) ?_
            exact ih _ _ _ _ _ _ _ false mn _ (by omega) hlb.1 (by rw [unw_len, List.length_append]; show K.length + (C.length + 1) ≤ e1; omega) hy2 hs
          · rw [e42] at c_44
            rw [if_pos c_44] at hs
            refine VE.step (fun _ h => V.ldc q1822 dX7_eRead_47 (V.ald0 dX7_eRead_49 (GX7_220 hW rfl dX7_eRead_50 (V.iadd dX7_eRead_53 (V.goto (tgt := 61) dX7_eRead_54 (by decide) h))))) ?_
            rw [e43]
            refine VE.step (fun _ h => V.invV1v vX7_239 hW.2.2.1 dX7_eRead_61 (c_X7_puts hW (T := T) (m := C.length) (hy1.t hT) hT6 hy1.2.2.1.2.2 (by omega)) (V.ald0 dX7_eRead_64 (V.bipush (v := 7) dX7_eRead_65 (by decide) h))) ?_
            refine VE.invV1v vX7_246 hW.2.2.1 dX7_eRead_67 (c_X7_unwinds hW hT hT6 (hy1.put (by omega)) (by decide)) (fun s9 q9 => ?_)
            obtain ⟨w2, rfl, hy2⟩ := q9
            refine VE.step (fun _ h => V.iconst_0 dX7_eRead_70 (V.ist1 dX7_eRead_71 (V.goto (tgt := 14) dX7_eRead_72 (by decide) h))) ?_
            exact ih _ _ _ _ _ _ _ false mn _ (by omega) hlb.1 (by rw [unw_len, List.length_append]; show K.length + (C.length + 1) ≤ e1; omega) hy2 hs
    | false =>
      refine VE.step (fun _ h => V.ald0 dX7_eRead_14 h) ?_
      refine VE.invV0v vX7_249 hW.2.2.1 dX7_eRead_15 (n_next hW hWd hy hN hN2 ha) (fun s9 q9 => ?_)
      obtain ⟨w1, rfl, hy1⟩ := q9
      obtain ⟨b1, t1, y1, e1, hL⟩ : ∃ b1 t1 y1 e1, lexM (w0 118) N a = (b1, t1, y1, e1) := ⟨_, _, _, _, rfl⟩
      have hlb := lexM_b (B := w0 118) ha
      rw [hL] at hy1 hlb
      have hy1 : SYR T w0 w1 K C e1 b1 t1 y1 := hy1
      have hlb : e1 ≤ N ∧ b1 ≤ N ∧ (t1 = 0 ∨ a < e1) := hlb
      rw [sy] at hs
      simp only [hL, if_true, if_false, Bool.false_eq_true] at hs
      have e42 : w1 100 42 = t1 := hy1.2.1.2.2.1
      have e43 : w1 100 43 = y1 := hy1.2.1.2.2.2
      refine VE.step (fun _ h => V.ild1 dX7_eRead_18 h) ?_
      refine VE.if_eq (tgt := 150) dX7_eRead_19 (by decide) (fun c_19 => ?_) (fun c_19 => absurd (show b2i false = 0 by decide) c_19)
      refine VE.step (fun _ h => V.ald0 dX7_eRead_150 (GX7_217 hW rfl dX7_eRead_151 (V.bipush (v := 59) dX7_eRead_154 (by decide) h))) ?_
      refine VE.icmp_ne (tgt := 177) dX7_eRead_156 (by decide) (fun c_156 => ?_) (fun c_156 => ?_)
      · rw [e42] at c_156
        rw [if_neg c_156] at hs
        refine VE.step (fun _ h => V.ald0 dX7_eRead_177 (GX7_217 hW rfl dX7_eRead_178 (V.bipush (v := 41) dX7_eRead_181 (by decide) h))) ?_
        refine VE.icmp_ne (tgt := 229) dX7_eRead_183 (by decide) (fun c_183 => ?_) (fun c_183 => ?_)
        · rw [e42] at c_183
          rw [if_neg c_183] at hs
          by_cases hm : sgO t1 = -1
          · rw [if_pos hm] at hs
            refine VE.step (fun _ h => V.ald0 dX7_eRead_229 (V.invV0r vX7_256 hW.2.2.1 dX7_eRead_230 (c_X7_signOf hW) (V.ist3 dX7_eRead_233 (V.ild3 dX7_eRead_234 (V.iconst_m1 dX7_eRead_235 h))))) ?_
            refine VE.icmp_eq (tgt := 247) dX7_eRead_236 (by decide) (fun c_236 => ?_) (fun c_236 => absurd (show sgO (w1 100 42) = -1 by rw [e42]; exact hm) c_236)
            refine VE.step (fun _ h => V.iconst_0 dX7_eRead_247 h) ?_
            exact VE.iret dX7_eRead_248 rfl rfl (EOP.no hs hy1)
          · rw [if_neg hm] at hs
            cases hb : btw (sgO t1) K C with
            | none =>
              rw [hb] at hs
              refine VE.step (fun _ h => V.ald0 dX7_eRead_229 (V.invV0r vX7_256 hW.2.2.1 dX7_eRead_230 (c_X7_signOf hW) (V.ist3 dX7_eRead_233 (V.ild3 dX7_eRead_234 (V.iconst_m1 dX7_eRead_235 h))))) ?_
              refine VE.icmp_eq (tgt := 247) dX7_eRead_236 (by decide) (fun c_236 => absurd c_236 (show ¬ sgO (w1 100 42) = -1 by rw [e42]; exact hm)) (fun c_236 => ?_)
              refine VE.step (fun _ h => V.ald0 dX7_eRead_239 (V.ild3 dX7_eRead_240 h)) ?_
              refine VE.invV1r vX7_260 hW.2.2.1 dX7_eRead_241 (bT_no hW hT hT6 hy1 (show 0 < rk (sgO (w1 100 42)) by rw [e42]; exact (sg_ok hm).1) (by rw [e42]; exact (sg_ok hm).2) (by omega) (by rw [e42]; exact hb)) (fun s9 q9 => ?_)
              obtain ⟨w2, rfl, K', C', hy2⟩ := q9
              refine VE.ifb_ne (tgt := 249) dX7_eRead_244 (by decide) (fun c_244 => absurd c_244 (by decide)) (fun c_244 => ?_)
              refine VE.step (fun _ h => V.iconst_0 dX7_eRead_247 h) ?_
              exact VE.iret dX7_eRead_248 rfl rfl (EOP.no hs hy2)
            | some U =>
              rw [hb] at hs
              refine VE.step (fun _ h => V.ald0 dX7_eRead_229 (V.invV0r vX7_256 hW.2.2.1 dX7_eRead_230 (c_X7_signOf hW) (V.ist3 dX7_eRead_233 (V.ild3 dX7_eRead_234 (V.iconst_m1 dX7_eRead_235 h))))) ?_
              refine VE.icmp_eq (tgt := 247) dX7_eRead_236 (by decide) (fun c_236 => absurd c_236 (show ¬ sgO (w1 100 42) = -1 by rw [e42]; exact hm)) (fun c_236 => ?_)
              refine VE.step (fun _ h => V.ald0 dX7_eRead_239 (V.ild3 dX7_eRead_240 h)) ?_
              refine VE.invV1r vX7_260 hW.2.2.1 dX7_eRead_241 (bT_ye hW hT hT6 hy1 (show 0 < rk (sgO (w1 100 42)) by rw [e42]; exact (sg_ok hm).1) (by rw [e42]; exact (sg_ok hm).2) (by omega) (by rw [e42]; exact hb)) (fun s9 q9 => ?_)
              obtain ⟨w2, rfl, hy2⟩ := q9
              refine VE.ifb_ne (tgt := 249) dX7_eRead_244 (by decide) (fun c_244 => ?_) (fun c_244 => absurd c_244 (by decide))
              refine VE.step (fun _ h => V.iconst_1 dX7_eRead_249 (V.ist1 dX7_eRead_250 (V.ild3 dX7_eRead_251 (V.bipush (v := 12) dX7_eRead_252 (by decide) h)))) ?_
              refine VE.icmp_gt (tgt := 261) dX7_eRead_254 (by decide) (fun c_254 => ?_) (fun c_254 => ?_)
              · refine VE.step (fun _ h => V.iconst_0 dX7_eRead_261 (V.ist2 dX7_eRead_262 (V.goto (tgt := 14) dX7_eRead_263 (by decide) h))) ?_
                have hae : a < e1 := hlb.2.2.resolve_left (fun z => hm (by rw [z]; decide))
                have hbl := btw_len hb
                rw [e42] at c_254
                first
                  | (have h7 := ih _ _ _ _ _ _ _ true (decide (sgO t1 ≤ 12)) (some (.int (sgO t1))) (by omega) hlb.1 (by omega) hy2 hs; rw [decide_eq_true (Int32.not_lt.mp c_254)] at h7; rw [e42]; exact h7)
                  | (have h7 := ih _ _ _ _ _ _ _ true (decide (sgO t1 ≤ 12)) (some (.int (sgO t1))) (by omega) hlb.1 (by omega) hy2 hs; rw [decide_eq_false (Int32.not_le.mpr c_254)] at h7; rw [e42]; exact h7)
              · refine VE.step (fun _ h => V.iconst_1 dX7_eRead_257 (V.goto (tgt := 262) dX7_eRead_258 (by decide) (V.ist2 dX7_eRead_262 (V.goto (tgt := 14) dX7_eRead_263 (by decide) h)))) ?_
                have hae : a < e1 := hlb.2.2.resolve_left (fun z => hm (by rw [z]; decide))
                have hbl := btw_len hb
                rw [e42] at c_254
                first
                  | (have h7 := ih _ _ _ _ _ _ _ true (decide (sgO t1 ≤ 12)) (some (.int (sgO t1))) (by omega) hlb.1 (by omega) hy2 hs; rw [decide_eq_true (Int32.not_lt.mp c_254)] at h7; rw [e42]; exact h7)
                  | (have h7 := ih _ _ _ _ _ _ _ true (decide (sgO t1 ≤ 12)) (some (.int (sgO t1))) (by omega) hlb.1 (by omega) hy2 hs; rw [decide_eq_false (Int32.not_le.mpr c_254)] at h7; rw [e42]; exact h7)
        · rw [e42] at c_183
          have hae : a < e1 := hlb.2.2.resolve_left (fun z => by rw [z] at c_183; exact absurd c_183 (by decide))
          rw [if_pos c_183] at hs
          refine VE.step (fun _ h => V.ald0 dX7_eRead_186 (V.iconst_1 dX7_eRead_187 h)) ?_
          refine VE.invV1v vX7_246 hW.2.2.1 dX7_eRead_188 (c_X7_unwinds hW hT hT6 hy1 (by decide)) (fun s9 q9 => ?_)
          obtain ⟨w2, rfl, hy2⟩ := q9
          refine VE.step (fun _ h => V.ald0 dX7_eRead_191 (GX7_230 hW rfl dX7_eRead_192 h)) ?_
          refine VE.if_ne (tgt := 200) dX7_eRead_195 (by decide) (fun c_195 => ?_) (fun c_195 => ?_)
          · obtain ⟨q, K2, hK⟩ : ∃ q K2, (unw 1 K C).1 = q :: K2 := by
              cases hK : (unw 1 K C).1 with
              | nil => exact absurd (by rw [hy2.2.2.1.1, hK]; rfl) c_195
              | cons q K2 => exact ⟨q, K2, rfl⟩
            have hq0 : q = 0 := rk_1 (unw_top _ _ hK)
            subst hq0
            have hln := unw_len (l := 1) K C
            rw [hK] at hy2 hs hln
            rw [List.length_cons] at hln
            refine VE.step (fun _ h => V.ald0 dX7_eRead_200 (V.dup dX7_eRead_201 (GX7_230 hW rfl dX7_eRead_202 (V.iconst_1 dX7_eRead_205 (V.isub dX7_eRead_206 (PX7_230 hW rfl dX7_eRead_207 (V.ald0 dX7_eRead_210 (V.dup dX7_eRead_211 (GX7_236 hW rfl dX7_eRead_212 (V.iconst_1 dX7_eRead_215 (V.isub dX7_eRead_216 (PX7_236 hW rfl dX7_eRead_217 h)))))))))))) ?_
            rw [show w2 100 46 - 1 = nI K2.length by rw [hy2.2.2.1.1, len_p], show (up2 w2 100 46 (nI K2.length)) 100 47 - 1 = nI (cntO K2) by rw [show (up2 w2 100 46 (nI K2.length)) 100 47 = nI (cntO (0 :: K2)) from hy2.2.2.1.2.1]; exact cnt_s (s := 0)]
            refine VE.step (fun _ h => V.ald0 dX7_eRead_220 (V.bipush (v := 7) dX7_eRead_221 (by decide) h)) ?_
            refine VE.invV1v vX7_246 hW.2.2.1 dX7_eRead_223 (c_X7_unwinds hW hT hT6 hy2.pop (by decide)) (fun s9 q9 => ?_)
            obtain ⟨w3, rfl, hy3⟩ := q9
            refine VE.step (fun _ h => V.goto (tgt := 14) dX7_eRead_226 (by decide) h) ?_
            first
              | exact ih _ _ _ _ _ _ _ false mn _ (by omega) hlb.1 (by rw [unw_len]; omega) hy3 hs
              | exact ih _ _ _ _ _ _ _ true (decide (sgO t1 ≤ 12)) _ (by omega) hlb.1 (by omega) hy2 hs
          · refine VE.step (fun _ h => V.iconst_0 dX7_eRead_198 h) ?_
            exact VE.iret dX7_eRead_199 rfl rfl (by have hK := unw_nil hy2 c_195; rw [hK] at hs; exact EOP.no hs hy2)
      · rw [e42] at c_156
        have hae : a < e1 := hlb.2.2.resolve_left (fun z => by rw [z] at c_156; exact absurd c_156 (by decide))
        rw [if_pos c_156] at hs
        refine VE.step (fun _ h => V.ald0 dX7_eRead_159 (V.iconst_1 dX7_eRead_160 h)) ?_
        refine VE.invV1v vX7_246 hW.2.2.1 dX7_eRead_161 (c_X7_unwinds hW hT hT6 hy1 (by decide)) (fun s9 q9 => ?_)
        obtain ⟨w2, rfl, hy2⟩ := q9
        refine VE.step (fun _ h => V.ald0 dX7_eRead_164 (GX7_230 hW rfl dX7_eRead_165 h)) ?_
        refine VE.if_ne (tgt := 175) dX7_eRead_168 (by decide) (fun c_168 => ?_) (fun c_168 => ?_)
        · refine VE.step (fun _ h => V.iconst_0 dX7_eRead_175 h) ?_
          exact VE.iret dX7_eRead_176 rfl rfl (by first | (have hK := unw_nil hy2 c_168; rw [hK] at hs hy2; exact EOP.ye hs hy2) | (obtain ⟨q, K2, hK⟩ := unw_cons hy2 c_168; rw [hK] at hs; exact EOP.no hs hy2))
        · refine VE.step (fun _ h => V.iconst_1 dX7_eRead_171 (V.goto (tgt := 176) dX7_eRead_172 (by decide) h)) ?_
          exact VE.iret dX7_eRead_176 rfl rfl (by first | (have hK := unw_nil hy2 c_168; rw [hK] at hs hy2; exact EOP.ye hs hy2) | (obtain ⟨q, K2, hK⟩ := unw_cons hy2 c_168; rw [hK] at hs; exact EOP.no hs hy2))

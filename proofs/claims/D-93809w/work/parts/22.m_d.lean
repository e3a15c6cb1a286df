set_option maxRecDepth 100000
set_option maxHeartbeats 1000000
theorem c_X7_names {E : En} {g : Ge} {σ : Sg} {w : Wv} (hW : WM g σ) {a b c f k : Int32} {e : Int32} : Ct E mX7_names 0 [.ref (g.1 100), .int a, .int b, .int c, .int e, .int f, .int k] (.returned none, S g σ (up2 (up2 (up2 (up2 (up2 (up2 w 151 0 a) 151 1 b) 151 2 c) 151 3 e) 151 4 f) 151 5 k)) (S g σ w) := by
  show V E mX7_names 0 _ 0 [some (.ref (g.1 100)), some (.int a), some (.int b), some (.int c), some (.int e), some (.int f), some (.int k)] [] (S g σ w)
  refine V.ald0 dX7_names_0 (GX7_135 hW rfl dX7_names_1 (V.iconst_0 dX7_names_4 (V.ild1 dX7_names_5 (sM50 (j := 0) hW ⟨by decide, by decide, by decide⟩ dX7_names_6 (V.ald0 dX7_names_7 (GX7_135 hW rfl dX7_names_8 (V.iconst_1 dX7_names_11 (V.ild2 dX7_names_12 (sM50 (j := 1) hW ⟨by decide, by decide, by decide⟩ dX7_names_13 (V.ald0 dX7_names_14 (GX7_135 hW rfl dX7_names_15 (V.iconst_2 dX7_names_18 ?_))))))))))))
  refine V.ild3 dX7_names_19 (sM50 (j := 2) hW ⟨by decide, by decide, by decide⟩ dX7_names_20 (V.ald0 dX7_names_21 (GX7_135 hW rfl dX7_names_22 (V.iconst_3 dX7_names_25 (V.ild4 dX7_names_26 (sM50 (j := 3) hW ⟨by decide, by decide, by decide⟩ dX7_names_28 (V.ald0 dX7_names_29 (GX7_135 hW rfl dX7_names_30 (V.iconst_4 dX7_names_33 (V.ild5 dX7_names_34 (sM50 (j := 4) hW ⟨by decide, by decide, by decide⟩ dX7_names_36 (V.ald0 dX7_names_37 ?_))))))))))))
  exact GX7_135 hW rfl dX7_names_38 (V.iconst_5 dX7_names_41 (V.ild6 dX7_names_42 (sM50 (j := 5) hW ⟨by decide, by decide, by decide⟩ dX7_names_44 (V.vret dX7_names_45 rfl (rfl)))))

theorem c_X7_two {E : En} {σ : Sg} {c a b : Int32} : Ct E mX7_two 0 [.int c, .int a, .int b] (.returned (some (.int (twoF c a b))), σ) (σ) := by
  show V E mX7_two 0 _ 0 [some (.int c), some (.int a), some (.int b)] [] (σ)
  refine V.ild0 dX7_two_0 ?_
  by_cases h1_11 : c = 11
  · subst h1_11
    refine V.tableIn (off := 43) (tgt := 44) dX7_two_1 (by decide) (by decide) (by decide) (by decide) ?_
    refine V.ild1 dX7_two_44 (V.if_ne (tgt := 52) dX7_two_45 (by decide) (fun c_45 => ?_) (fun c_45 => ?_))
    · exact V.iconst_1 dX7_two_52 (V.goto (tgt := 57) dX7_two_53 (by decide) (V.iret dX7_two_57 rfl rfl (by simp only [twoF, b2i]; first | (simp [c_45]; done) | (simp [*]; done))))
    · refine V.ild2 dX7_two_48 (V.if_eq (tgt := 56) dX7_two_49 (by decide) (fun c_49 => ?_) (fun c_49 => ?_))
      · exact V.iconst_0 dX7_two_56 (V.iret dX7_two_57 rfl rfl (by simp only [twoF, b2i]; first | (simp [c_45, c_49]; done) | (simp [*]; done)))
      · exact V.iconst_1 dX7_two_52 (V.goto (tgt := 57) dX7_two_53 (by decide) (V.iret dX7_two_57 rfl rfl (by simp only [twoF, b2i]; first | (simp [c_45, c_49]; done) | (simp [*]; done))))
  by_cases h1_12 : c = 12
  · subst h1_12
    refine V.tableIn (off := 57) (tgt := 58) dX7_two_1 (by decide) (by decide) (by decide) (by decide) ?_
    refine V.ild1 dX7_two_58 (V.if_eq (tgt := 70) dX7_two_59 (by decide) (fun c_59 => ?_) (fun c_59 => ?_))
    · exact V.iconst_0 dX7_two_70 (V.iret dX7_two_71 rfl rfl (by simp only [twoF, b2i]; first | (simp [h1_11, c_59]; done) | (simp [*]; done)))
    · refine V.ild2 dX7_two_62 (V.if_eq (tgt := 70) dX7_two_63 (by decide) (fun c_63 => ?_) (fun c_63 => ?_))
      · exact V.iconst_0 dX7_two_70 (V.iret dX7_two_71 rfl rfl (by simp only [twoF, b2i]; first | (simp [h1_11, c_59, c_63]; done) | (simp [*]; done)))
      · exact V.iconst_1 dX7_two_66 (V.goto (tgt := 71) dX7_two_67 (by decide) (V.iret dX7_two_71 rfl rfl (by simp only [twoF, b2i]; first | (simp [h1_11, c_59, c_63]; done) | (simp [*]; done))))
  by_cases h1_13 : c = 13
  · subst h1_13
    refine V.tableIn (off := 101) (tgt := 102) dX7_two_1 (by decide) (by decide) (by decide) (by decide) ?_
    exact V.ild1 dX7_two_102 (V.ild2 dX7_two_103 (V.imul dX7_two_104 (V.iret dX7_two_105 rfl rfl (by simp only [twoF, b2i]; first | (simp [h1_11, h1_12]; done) | (simp [*]; done)))))
  by_cases h1_14 : c = 14
  · subst h1_14
    refine V.tableIn (off := 71) (tgt := 72) dX7_two_1 (by decide) (by decide) (by decide) (by decide) ?_
    refine V.ild1 dX7_two_72 (V.ild2 dX7_two_73 (V.icmp_ge (tgt := 81) dX7_two_74 (by decide) (fun c_74 => ?_) (fun c_74 => ?_)))
    · exact V.iconst_0 dX7_two_81 (V.iret dX7_two_82 rfl rfl (by simp only [twoF, b2i]; first | (simp [h1_11, h1_12, h1_13, c_74]; done) | (simp [*]; done)))
    · exact V.iconst_1 dX7_two_77 (V.goto (tgt := 82) dX7_two_78 (by decide) (V.iret dX7_two_82 rfl rfl (by simp only [twoF, b2i]; first | (simp [h1_11, h1_12, h1_13, c_74]; done) | (simp [*]; done))))
  by_cases h1_15 : c = 15
  · subst h1_15
    refine V.tableIn (off := 82) (tgt := 83) dX7_two_1 (by decide) (by decide) (by decide) (by decide) ?_
    refine V.ild1 dX7_two_83 (V.ild2 dX7_two_84 (V.icmp_ne (tgt := 92) dX7_two_85 (by decide) (fun c_85 => ?_) (fun c_85 => ?_)))
    · exact V.iconst_0 dX7_two_92 (V.iret dX7_two_93 rfl rfl (by simp only [twoF, b2i]; first | (simp [h1_11, h1_12, h1_13, h1_14, c_85]; done) | (simp [*]; done)))
    · exact V.iconst_1 dX7_two_88 (V.goto (tgt := 93) dX7_two_89 (by decide) (V.iret dX7_two_93 rfl rfl (by simp only [twoF, b2i]; first | (simp [h1_11, h1_12, h1_13, h1_14, c_85]; done) | (simp [*]; done))))
  by_cases h1_16 : c = 16
  · subst h1_16
    refine V.tableIn (off := 93) (tgt := 94) dX7_two_1 (by decide) (by decide) (by decide) (by decide) ?_
    exact V.ild1 dX7_two_94 (V.ild2 dX7_two_95 (V.iadd dX7_two_96 (V.iret dX7_two_97 rfl rfl (by simp only [twoF, b2i]; first | (simp [h1_11, h1_12, h1_13, h1_14, h1_15]; done) | (simp [*]; done)))))
  by_cases h1_17 : c = 17
  · subst h1_17
    refine V.tableIn (off := 97) (tgt := 98) dX7_two_1 (by decide) (by decide) (by decide) (by decide) ?_
    exact V.ild1 dX7_two_98 (V.ild2 dX7_two_99 (V.isub dX7_two_100 (V.iret dX7_two_101 rfl rfl (by simp only [twoF, b2i]; first | (simp [h1_11, h1_12, h1_13, h1_14, h1_15, h1_16]; done) | (simp [*]; done)))))
  refine V.tableOut (tgt := 102) dX7_two_1 (by have := lv_neT h1_11 (a := 11) rfl; have := lv_neT h1_12 (a := 12) rfl; have := lv_neT h1_13 (a := 13) rfl; have := lv_neT h1_14 (a := 14) rfl; have := lv_neT h1_15 (a := 15) rfl; have := lv_neT h1_16 (a := 16) rfl; have := lv_neT h1_17 (a := 17) rfl; omega) (by decide) ?_
  exact V.ild1 dX7_two_102 (V.ild2 dX7_two_103 (V.imul dX7_two_104 (V.iret dX7_two_105 rfl rfl (by simp only [twoF, b2i]; first | (simp [h1_11, h1_12, h1_13, h1_14, h1_15, h1_16, h1_17]; done) | (simp [*]; done)))))

def RS (w : Wv) (s : List Int32) : Prop := ∀ j, j < s.length → w 150 j = s.getD (s.length - 1 - j) 0
theorem RS.push {w : Wv} {s : List Int32} (h : RS w s) (v : Int32) : RS (up2 w 150 s.length v) (v :: s) := by
  intro j hj
  by_cases e : j = s.length
  · subst e
    rw [up2_eq]
    simp
  · rw [up2_ne _ _ (fun z => e z.2), h j (by simp at hj; omega)]
    simp only [List.length_cons] at hj ⊢
    rw [show s.length + 1 - 1 - j = (s.length - 1 - j) + 1 by omega]
    simp
theorem RS.top {w : Wv} {a : Int32} {t : List Int32} (h : RS w (a :: t)) : w 150 t.length = a := by
  rw [h t.length (by simp)]
  simp
theorem RS.pop {w : Wv} {a : Int32} {t : List Int32} (h : RS w (a :: t)) : RS w t := by
  intro j hj
  rw [h j (by simp; omega)]
  simp only [List.length_cons]
  rw [show t.length + 1 - 1 - j = (t.length - 1 - j) + 1 by omega]
  simp
theorem cu_at {w u : Wv} (h : cu w = u) {id j : Nat} (e : cu w id j = w id j := by rfl) : w id j = u id j := by rw [← h]; exact e.symm

theorem says_loop {E : En} {g : Ge} {σ : Sg} (hW : WM g σ) {u : Wv} {nm : Nat → Int32} {t p e : Nat} {most X : Int32} (ht : t < 6) (hp : p < 3) (ht22 : u 100 22 = nI t) (hE : u 121 (4 * t + p + 1) = nI e) (he : e ≤ 160) {P : Outcome → Sg → Prop} (hP : P = PR (.int (clampI X most)) (QM g σ u)) :
    ∀ (L : List Int32) (k : Nat) (s : List Int32) (w' : Wv) (y : Option Value), cu w' = u → (∀ i, i < 6 → w' 151 i = nm i) → RS w' s → (∀ i, i < L.length → u 120 (200 * t + (k + i)) = L.getD i 0) → k + L.length = e → okc L s.length = true → s.length + L.length ≤ 199 → (evs nm L s).headD 0 = X →
      VE E mX7_says 1 P 17 [some (.ref (g.1 100)), some (.int (nI p)), some (.int most), some (.int (nI s.length)), some (.int (nI k)), y] [] (S g σ w') := by
  intro L
  induction L with
  | nil =>
    intro k s w' y hu hnm hrs hcd hk hok hz hX
    refine VE.step (fun _ h => V.ild4 dX7_says_17 (V.ald0 dX7_says_19 (GX7_58 hW rfl dX7_says_20 (V.iconst_4 dX7_says_23 (V.ald0 dX7_says_24 (GX7_203 hW rfl dX7_says_25 (V.imul dX7_says_28 (V.ild1 dX7_says_29 (V.iadd dX7_says_30 (V.iconst_1 dX7_says_31 (V.iadd dX7_says_32 (aM20 (j := 4 * t + p + 1) hW (IX.of (by rw [cu_at hu, ht22]; show 4 * nI t + nI p + 1 = _; rw [show (4 : Int32) = nI 4 from rfl, pk_mul, nI_add, nI_1]) (by omega) (by decide)) dX7_says_33 h)))))))))))) ?_
    refine VE.icmp_ge (tgt := 200) dX7_says_34 (by decide) (fun c_34 => ?_) (fun c_34 => absurd (by rw [cu_at hu, hE]; exact nI_le (by simp at hk; omega) (by omega)) c_34)
    have e0 : w' 150 0 = X := by
      have h1 : s.length = 1 := by simpa [okc] using hok
      obtain ⟨a, rfl⟩ := List.length_eq_one_iff.mp h1
      rw [← hX]
      exact hrs.top
    refine VE.step (fun _ h => V.ald0 dX7_says_200 (GX7_132 hW rfl dX7_says_201 (V.iconst_0 dX7_says_204 (aM49 (j := 0) hW ⟨by decide, by decide, by decide⟩ dX7_says_205 h)))) ?_
    refine VE.if_ge (tgt := 213) dX7_says_206 (by decide) (fun c_206 => ?_) (fun c_206 => ?_)
    · refine VE.step (fun _ h => V.ald0 dX7_says_213 (GX7_132 hW rfl dX7_says_214 (V.iconst_0 dX7_says_217 (aM49 (j := 0) hW ⟨by decide, by decide, by decide⟩ dX7_says_218 (V.ild2 dX7_says_219 h))))) ?_
      refine VE.icmp_le (tgt := 227) dX7_says_220 (by decide) (fun c_220 => ?_) (fun c_220 => ?_)
      · refine VE.step (fun _ h => V.ald0 dX7_says_227 (GX7_132 hW rfl dX7_says_228 (V.iconst_0 dX7_says_231 (aM49 (j := 0) hW ⟨by decide, by decide, by decide⟩ dX7_says_232 h)))) ?_
        exact VE.iret dX7_says_233 rfl rfl (by rw [hP]; exact ⟨by rw [e0] at *; simp only [clampI]; first | rw [if_neg c_206] | (rw [if_pos c_206]; first | rw [if_pos c_220] | rw [if_neg c_220]), _, hu, rfl⟩)
      · refine VE.step (fun _ h => V.ild2 dX7_says_223 (V.goto (tgt := 233) dX7_says_224 (by decide) h)) ?_
        exact VE.iret dX7_says_233 rfl rfl (by rw [hP]; exact ⟨by rw [e0] at *; simp only [clampI]; first | rw [if_neg c_206] | (rw [if_pos c_206]; first | rw [if_pos c_220] | rw [if_neg c_220]), _, hu, rfl⟩)
    · refine VE.step (fun _ h => V.iconst_0 dX7_says_209 (V.goto (tgt := 233) dX7_says_210 (by decide) h)) ?_
      exact VE.iret dX7_says_233 rfl rfl (by rw [hP]; exact ⟨by rw [e0] at *; simp only [clampI]; first | rw [if_neg c_206] | (rw [if_pos c_206]; first | rw [if_pos c_220] | rw [if_neg c_220]), _, hu, rfl⟩)
  | cons cd L ih =>
    intro k s w' y hu hnm hrs hcd hk hok hz hX
    have J : ∀ (s' : List Int32) (w2 : Wv) (y : Option Value), cu w2 = u → (∀ i, i < 6 → w2 151 i = nm i) → RS w2 s' → okc L s'.length = true → s'.length + L.length ≤ 199 → (evs nm L s').headD 0 = X → VE E mX7_says 1 P 194 [some (.ref (g.1 100)), some (.int (nI p)), some (.int most), some (.int (nI s'.length)), some (.int (nI k)), y] [] (S g σ w2) := by
      intro s' w2 y g1 g2 g3 g4 g5 g6
      refine VE.step (fun _ h => V.inc4 dX7_says_194 (V.goto (tgt := 17) dX7_says_197 (by decide) h)) ?_
      rw [nI_1]
      exact ih (k + 1) s' w2 y g1 g2 g3 (fun i hi => by have := hcd (i + 1) (by simp; omega); rw [show k + (i + 1) = k + 1 + i by omega] at this; simpa using this) (by simp at hk; omega) g4 g5 g6
    refine VE.step (fun _ h => V.ild4 dX7_says_17 (V.ald0 dX7_says_19 (GX7_58 hW rfl dX7_says_20 (V.iconst_4 dX7_says_23 (V.ald0 dX7_says_24 (GX7_203 hW rfl dX7_says_25 (V.imul dX7_says_28 (V.ild1 dX7_says_29 (V.iadd dX7_says_30 (V.iconst_1 dX7_says_31 (V.iadd dX7_says_32 (aM20 (j := 4 * t + p + 1) hW (IX.of (by rw [cu_at hu, ht22]; show 4 * nI t + nI p + 1 = _; rw [show (4 : Int32) = nI 4 from rfl, pk_mul, nI_add, nI_1]) (by omega) (by decide)) dX7_says_33 h)))))))))))) ?_
    refine VE.icmp_ge (tgt := 200) dX7_says_34 (by decide) (fun c_34 => absurd c_34 (by rw [cu_at hu, hE]; exact nI_ge (by simp at hk; omega) (by omega))) (fun c_34 => ?_)
    refine VE.step (fun _ h => V.ald0 dX7_says_37 (GX7_55 hW rfl dX7_says_38 (V.sipush (v := 200) dX7_says_41 (by decide) (V.ald0 dX7_says_44 (GX7_203 hW rfl dX7_says_45 (V.imul dX7_says_48 (V.ild4 dX7_says_49 (V.iadd dX7_says_51 (aM19 (j := 200 * t + k) hW (IX.of (by rw [cu_at hu, ht22]; show 200 * nI t + nI k = _; rw [show (200 : Int32) = nI 200 from rfl, pk_mul, nI_add]) (by simp at hk; omega) (by decide)) dX7_says_52 h))))))))) ?_
    have hcd0 : w' 120 (200 * t + k) = cd := by 
      have h0 := hcd 0 (by simp)
      rw [Nat.add_zero] at h0
      rw [cu_at hu, h0]; rfl
    rw [hcd0]
    refine VE.step (fun _ h => V.ist5 dX7_says_53 (V.ild5 dX7_says_55 (V.ldc q1822 dX7_says_57 h))) ?_
    refine VE.icmp_ge (tgt := 69) dX7_says_59 (by decide) (fun c_59 => ?_) (fun c_59 => ?_)
    · have h9 : 100000 ≤ cd ∨ cd < 11 := by first | exact Or.inl c_59 | exact Or.inr (Int32.not_le.mp c_66)
      refine VE.step (fun _ h => V.ald0 dX7_says_69 (GX7_132 hW rfl dX7_says_70 (V.ild3 dX7_says_73 (V.ild5 dX7_says_74 (V.bipush (v := 11) dX7_says_76 (by decide) h))))) ?_
      refine VE.icmp_ge (tgt := 91) dX7_says_78 (by decide) (fun c_78 => ?_) (fun c_78 => ?_)
      · have h10 : 100000 ≤ cd := by
          rcases h9 with z | z
          · exact z
          · exact absurd z (Int32.not_lt.mpr c_78)
        refine VE.step (fun _ h => V.ild5 dX7_says_91 (V.ldc q1822 dX7_says_93 (V.isub dX7_says_95 (sM49 (j := s.length) hW (IX.n (by simp at hz; omega) (by decide)) dX7_says_96 (V.inc3 dX7_says_97 h))))) ?_
        refine VE.step (fun _ h => V.goto (tgt := 194) dX7_says_100 (by decide) h) ?_
        rw [nI_1]
        first
          | (refine J (nm (cl cd) :: s) _ _ ((cu_up (by decide)).trans hu) (fun i hi => (up2_ne _ _ (fun z => absurd z.1 (by decide))).trans (hnm i hi)) ?_ ?_ ?_ ?_
             · rw [hnm _ (inB_lit (n := 6) (by decide) (by decide) h05).2.2]; exact hrs.push _
             · simp only [okc, if_neg hlt, if_pos (Int32.not_le.mp c_78), Bool.and_eq_true] at hok; exact hok.2
             · simp at hz ⊢; omega
             · rw [← hX]; show _ = (evs nm L (stp nm s cd)).headD 0; simp only [stp, if_neg hlt, if_pos (Int32.not_le.mp c_78)])
          | (refine J ((cd - 100000) :: s) _ _ ((cu_up (by decide)).trans hu) (fun i hi => (up2_ne _ _ (fun z => absurd z.1 (by decide))).trans (hnm i hi)) ?_ ?_ ?_ ?_
             · exact hrs.push _
             · simp only [okc, if_pos h10] at hok; exact hok
             · simp at hz ⊢; omega
             · rw [← hX]; show _ = (evs nm L (stp nm s cd)).headD 0; simp only [stp, if_pos h10])
      · have hlt : ¬ 100000 ≤ cd := fun z => absurd (Int32.le_trans (by decide : (11 : Int32) ≤ 100000) z) (c_78)
        have h05 : inB cd 0 5 = true := by
          simp only [okc, if_neg hlt, if_pos (Int32.not_le.mp c_78), Bool.and_eq_true] at hok
          exact hok.1
        refine VE.step (fun _ h => V.ald0 dX7_says_81 (GX7_135 hW rfl dX7_says_82 (V.ild5 dX7_says_85 (aM50 (j := cl cd) hW (inB_lit (n := 6) (by decide) (by decide) h05) dX7_says_87 (V.goto (tgt := 96) dX7_says_88 (by decide) (sM49 (j := s.length) hW (IX.n (by simp at hz; omega) (by decide)) dX7_says_96 (V.inc3 dX7_says_97 h))))))) ?_
        refine VE.step (fun _ h => V.goto (tgt := 194) dX7_says_100 (by decide) h) ?_
        rw [nI_1]
        first
          | (refine J (nm (cl cd) :: s) _ _ ((cu_up (by decide)).trans hu) (fun i hi => (up2_ne _ _ (fun z => absurd z.1 (by decide))).trans (hnm i hi)) ?_ ?_ ?_ ?_
             · rw [hnm _ (inB_lit (n := 6) (by decide) (by decide) h05).2.2]; exact hrs.push _
             · simp only [okc, if_neg hlt, if_pos (Int32.not_le.mp c_78), Bool.and_eq_true] at hok; exact hok.2
             · simp at hz ⊢; omega
             · rw [← hX]; show _ = (evs nm L (stp nm s cd)).headD 0; simp only [stp, if_neg hlt, if_pos (Int32.not_le.mp c_78)])
          | (refine J ((cd - 100000) :: s) _ _ ((cu_up (by decide)).trans hu) (fun i hi => (up2_ne _ _ (fun z => absurd z.1 (by decide))).trans (hnm i hi)) ?_ ?_ ?_ ?_
             · exact hrs.push _
             · simp only [okc, if_pos h10] at hok; exact hok
             · simp at hz ⊢; omega
             · rw [← hX]; show _ = (evs nm L (stp nm s cd)).headD 0; simp only [stp, if_pos h10])
    · refine VE.step (fun _ h => V.ild5 dX7_says_62 (V.bipush (v := 11) dX7_says_64 (by decide) h)) ?_
      refine VE.icmp_ge (tgt := 103) dX7_says_66 (by decide) (fun c_66 => ?_) (fun c_66 => ?_)
      · refine VE.step (fun _ h => V.ild5 dX7_says_103 (V.bipush (v := 13) dX7_says_105 (by decide) h)) ?_
        refine VE.icmp_ne (tgt := 137) dX7_says_107 (by decide) (fun c_107 => ?_) (fun c_107 => ?_)
        · refine VE.step (fun _ h => V.ild5 dX7_says_137 (V.bipush (v := 19) dX7_says_139 (by decide) h)) ?_
          refine VE.icmp_ne (tgt := 164) dX7_says_141 (by decide) (fun c_141 => ?_) (fun c_141 => ?_)
          · obtain ⟨b, a, t', rfl⟩ : ∃ b a t', s = b :: a :: t' := by
              cases s with
              | nil => simp [okc, c_59, Int32.not_lt.mpr c_66, c_107, c_141] at hok
              | cons b s1 => cases s1 with
                | nil => simp [okc, c_59, Int32.not_lt.mpr c_66, c_107, c_141] at hok
                | cons a t' => exact ⟨b, a, t', rfl⟩
            have e1 : nI (b :: a :: t').length + (-1) = nI (a :: t').length := pk_m1 _
            have e2 : nI (b :: a :: t').length + (-1) - 1 = nI t'.length := by rw [e1]; exact nI_pred _
            refine VE.step (fun _ h => V.incm3 dX7_says_164 (V.ald0 dX7_says_167 (GX7_132 hW rfl dX7_says_168 (V.ild3 dX7_says_171 (V.iconst_1 dX7_says_172 (V.isub dX7_says_173 (V.ild5 dX7_says_174 (V.ald0 dX7_says_176 (GX7_132 hW rfl dX7_says_177 (V.ild3 dX7_says_180 (V.iconst_1 dX7_says_181 (V.isub dX7_says_182 (aM49 (j := t'.length) hW (by rw [e2]; exact IX.n (by simp at hz; omega) (by decide)) dX7_says_183 (V.ald0 dX7_says_184 h)))))))))))))) ?_
            refine VE.step (fun _ h => GX7_132 hW rfl dX7_says_185 (V.ild3 dX7_says_188 (aM49 (j := (a :: t').length) hW (by rw [e1]; exact IX.n (by simp at hz ⊢; omega) (by decide)) dX7_says_189 (V.invS3r sX7_267 dX7_says_190 c_X7_two (sM49 (j := t'.length) hW (by rw [e2]; exact IX.n (by simp at hz; omega) (by decide)) dX7_says_193 h))))) ?_
            have htop := hrs.top
            have htop2 := hrs.pop.top
            rw [e1]
            have e3 : nI (a :: t').length = nI (twoF cd a b :: t').length := rfl
            rw [e3]
            refine J (twoF cd a b :: t') _ _ ((cu_up (by decide)).trans hu) (fun i hi => (up2_ne _ _ (fun z => absurd z.1 (by decide))).trans (hnm i hi)) ?_ ?_ ?_ ?_
            · rw [htop2, show w' 150 (a :: t').length = b from htop]; exact hrs.pop.pop.push _
            · simp only [okc, if_neg c_59, if_neg (Int32.not_lt.mpr c_66), if_neg (fun z => by rcases z with z | z; exact c_107 z; exact c_141 z : ¬ (cd = 13 ∨ cd = 19)), Bool.and_eq_true] at hok; exact hok.2
            · simp at hz ⊢; omega
            · rw [← hX]; show _ = (evs nm L (stp nm (b :: a :: t') cd)).headD 0; simp only [stp, if_neg c_59, if_neg (Int32.not_lt.mpr c_66), if_neg c_107, if_neg c_141]
          · obtain ⟨a, t', rfl⟩ : ∃ a t', s = a :: t' := by
              cases s with
              | nil => simp [okc, c_59, Int32.not_lt.mpr c_66, c_107, c_141] at hok
              | cons a t' => exact ⟨a, t', rfl⟩
            refine VE.step (fun _ h => V.ald0 dX7_says_144 (GX7_132 hW rfl dX7_says_145 (V.ild3 dX7_says_148 (V.iconst_1 dX7_says_149 (V.isub dX7_says_150 (V.ald0 dX7_says_151 (GX7_132 hW rfl dX7_says_152 (V.ild3 dX7_says_155 (V.iconst_1 dX7_says_156 (V.isub dX7_says_157 (aM49 (j := t'.length) hW (by rw [show nI ((a :: t').length) - 1 = nI t'.length from nI_pred _]; exact IX.n (by simp at hz; omega) (by decide)) dX7_says_158 (V.ineg dX7_says_159 (sM49 (j := t'.length) hW (by rw [show nI ((a :: t').length) - 1 = nI t'.length from nI_pred _]; exact IX.n (by simp at hz; omega) (by decide)) dX7_says_160 h))))))))))))) ?_
            refine VE.step (fun _ h => V.goto (tgt := 194) dX7_says_161 (by decide) h) ?_
            have htop := hrs.top
            refine J ((-a) :: t') _ _ ((cu_up (by decide)).trans hu) (fun i hi => (up2_ne _ _ (fun z => absurd z.1 (by decide))).trans (hnm i hi)) ?_ ?_ ?_ ?_
            · rw [show w' 150 t'.length = a from htop]; exact hrs.pop.push _
            · simp only [okc, if_neg c_59, if_neg (Int32.not_lt.mpr c_66), if_pos (Or.inr c_141 : cd = 13 ∨ cd = 19), Bool.and_eq_true] at hok; exact hok.2
            · simp at hz ⊢; omega
            · rw [← hX]; show _ = (evs nm L (stp nm (a :: t') cd)).headD 0; simp only [stp, if_neg c_59, if_neg (Int32.not_lt.mpr c_66), if_neg c_107, if_pos c_141]
        · obtain ⟨a, t', rfl⟩ : ∃ a t', s = a :: t' := by
            cases s with
            | nil => simp [okc, c_59, Int32.not_lt.mpr c_66, c_107] at hok
            | cons a t' => exact ⟨a, t', rfl⟩
          refine VE.step (fun _ h => V.ald0 dX7_says_110 (GX7_132 hW rfl dX7_says_111 (V.ild3 dX7_says_114 (V.iconst_1 dX7_says_115 (V.isub dX7_says_116 (V.ald0 dX7_says_117 (GX7_132 hW rfl dX7_says_118 (V.ild3 dX7_says_121 (V.iconst_1 dX7_says_122 (V.isub dX7_says_123 (aM49 (j := t'.length) hW (by rw [show nI ((a :: t').length) - 1 = nI t'.length from nI_pred _]; exact IX.n (by simp at hz; omega) (by decide)) dX7_says_124 h))))))))))) ?_
          refine VE.if_ne (tgt := 132) dX7_says_125 (by decide) (fun c_125 => ?_) (fun c_125 => ?_)
          · refine VE.step (fun _ h => V.iconst_0 dX7_says_132 (sM49 (j := t'.length) hW (by rw [show nI ((a :: t').length) - 1 = nI t'.length from nI_pred _]; exact IX.n (by simp at hz; omega) (by decide)) dX7_says_133 h)) ?_
            refine VE.step (fun _ h => V.goto (tgt := 194) dX7_says_134 (by decide) h) ?_
            have htop := hrs.top
            refine J (b2i (decide (a = 0)) :: t') _ _ ((cu_up (by decide)).trans hu) (fun i hi => (up2_ne _ _ (fun z => absurd z.1 (by decide))).trans (hnm i hi)) ?_ ?_ ?_ ?_
            · first
              | (rw [show b2i (decide (a = 0)) = 1 from by rw [← htop, decide_eq_true c_125]; rfl]; exact hrs.pop.push _)
              | (rw [show b2i (decide (a = 0)) = 0 from by rw [← htop, decide_eq_false c_125]; rfl]; exact hrs.pop.push _)
            · simp only [okc, if_neg c_59, if_neg (Int32.not_lt.mpr c_66), if_pos (Or.inl c_107 : cd = 13 ∨ cd = 19), Bool.and_eq_true] at hok; exact hok.2
            · simp at hz ⊢; omega
            · rw [← hX]; show _ = (evs nm L (stp nm (a :: t') cd)).headD 0; simp only [stp, if_neg c_59, if_neg (Int32.not_lt.mpr c_66), if_pos c_107]
          · refine VE.step (fun _ h => V.iconst_1 dX7_says_128 (V.goto (tgt := 133) dX7_says_129 (by decide) (sM49 (j := t'.length) hW (by rw [show nI ((a :: t').length) - 1 = nI t'.length from nI_pred _]; exact IX.n (by simp at hz; omega) (by decide)) dX7_says_133 h))) ?_
            refine VE.step (fun _ h => V.goto (tgt := 194) dX7_says_134 (by decide) h) ?_
            have htop := hrs.top
            refine J (b2i (decide (a = 0)) :: t') _ _ ((cu_up (by decide)).trans hu) (fun i hi => (up2_ne _ _ (fun z => absurd z.1 (by decide))).trans (hnm i hi)) ?_ ?_ ?_ ?_
            · first
              | (rw [show b2i (decide (a = 0)) = 1 from by rw [← htop, decide_eq_true c_125]; rfl]; exact hrs.pop.push _)
              | (rw [show b2i (decide (a = 0)) = 0 from by rw [← htop, decide_eq_false c_125]; rfl]; exact hrs.pop.push _)
            · simp only [okc, if_neg c_59, if_neg (Int32.not_lt.mpr c_66), if_pos (Or.inl c_107 : cd = 13 ∨ cd = 19), Bool.and_eq_true] at hok; exact hok.2
            · simp at hz ⊢; omega
            · rw [← hX]; show _ = (evs nm L (stp nm (a :: t') cd)).headD 0; simp only [stp, if_neg c_59, if_neg (Int32.not_lt.mpr c_66), if_pos c_107]
      · have h9 : 100000 ≤ cd ∨ cd < 11 := by first | exact Or.inl c_59 | exact Or.inr (Int32.not_le.mp c_66)
        refine VE.step (fun _ h => V.ald0 dX7_says_69 (GX7_132 hW rfl dX7_says_70 (V.ild3 dX7_says_73 (V.ild5 dX7_says_74 (V.bipush (v := 11) dX7_says_76 (by decide) h))))) ?_
        refine VE.icmp_ge (tgt := 91) dX7_says_78 (by decide) (fun c_78 => ?_) (fun c_78 => ?_)
        · have h10 : 100000 ≤ cd := by
            rcases h9 with z | z
            · exact z
            · exact absurd z (Int32.not_lt.mpr c_78)
          refine VE.step (fun _ h => V.ild5 dX7_says_91 (V.ldc q1822 dX7_says_93 (V.isub dX7_says_95 (sM49 (j := s.length) hW (IX.n (by simp at hz; omega) (by decide)) dX7_says_96 (V.inc3 dX7_says_97 h))))) ?_
          refine VE.step (fun _ h => V.goto (tgt := 194) dX7_says_100 (by decide) h) ?_
          rw [nI_1]
          first
            | (refine J (nm (cl cd) :: s) _ _ ((cu_up (by decide)).trans hu) (fun i hi => (up2_ne _ _ (fun z => absurd z.1 (by decide))).trans (hnm i hi)) ?_ ?_ ?_ ?_
               · rw [hnm _ (inB_lit (n := 6) (by decide) (by decide) h05).2.2]; exact hrs.push _
               · simp only [okc, if_neg hlt, if_pos (Int32.not_le.mp c_78), Bool.and_eq_true] at hok; exact hok.2
               · simp at hz ⊢; omega
               · rw [← hX]; show _ = (evs nm L (stp nm s cd)).headD 0; simp only [stp, if_neg hlt, if_pos (Int32.not_le.mp c_78)])
            | (refine J ((cd - 100000) :: s) _ _ ((cu_up (by decide)).trans hu) (fun i hi => (up2_ne _ _ (fun z => absurd z.1 (by decide))).trans (hnm i hi)) ?_ ?_ ?_ ?_
               · exact hrs.push _
               · simp only [okc, if_pos h10] at hok; exact hok
               · simp at hz ⊢; omega
               · rw [← hX]; show _ = (evs nm L (stp nm s cd)).headD 0; simp only [stp, if_pos h10])
        · have hlt : ¬ 100000 ≤ cd := fun z => absurd (Int32.le_trans (by decide : (11 : Int32) ≤ 100000) z) (c_78)
          have h05 : inB cd 0 5 = true := by
            simp only [okc, if_neg hlt, if_pos (Int32.not_le.mp c_78), Bool.and_eq_true] at hok
            exact hok.1
          refine VE.step (fun _ h => V.ald0 dX7_says_81 (GX7_135 hW rfl dX7_says_82 (V.ild5 dX7_says_85 (aM50 (j := cl cd) hW (inB_lit (n := 6) (by decide) (by decide) h05) dX7_says_87 (V.goto (tgt := 96) dX7_says_88 (by decide) (sM49 (j := s.length) hW (IX.n (by simp at hz; omega) (by decide)) dX7_says_96 (V.inc3 dX7_says_97 h))))))) ?_
          refine VE.step (fun _ h => V.goto (tgt := 194) dX7_says_100 (by decide) h) ?_
          rw [nI_1]
          first
            | (refine J (nm (cl cd) :: s) _ _ ((cu_up (by decide)).trans hu) (fun i hi => (up2_ne _ _ (fun z => absurd z.1 (by decide))).trans (hnm i hi)) ?_ ?_ ?_ ?_
               · rw [hnm _ (inB_lit (n := 6) (by decide) (by decide) h05).2.2]; exact hrs.push _
               · simp only [okc, if_neg hlt, if_pos (Int32.not_le.mp c_78), Bool.and_eq_true] at hok; exact hok.2
               · simp at hz ⊢; omega
               · rw [← hX]; show _ = (evs nm L (stp nm s cd)).headD 0; simp only [stp, if_neg hlt, if_pos (Int32.not_le.mp c_78)])
            | (refine J ((cd - 100000) :: s) _ _ ((cu_up (by decide)).trans hu) (fun i hi => (up2_ne _ _ (fun z => absurd z.1 (by decide))).trans (hnm i hi)) ?_ ?_ ?_ ?_
               · exact hrs.push _
               · simp only [okc, if_pos h10] at hok; exact hok
               · simp at hz ⊢; omega
               · rw [← hX]; show _ = (evs nm L (stp nm s cd)).headD 0; simp only [stp, if_pos h10])

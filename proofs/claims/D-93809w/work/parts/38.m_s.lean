set_option maxRecDepth 100000
set_option maxHeartbeats 1000000
theorem up2_fA {d n e j : Nat} {f : Nat → Int32} {w : Wv} {x : Int32} (h : e ≠ d) : up2 (fA d n f w) e j x = fA d n f (up2 w e j x) := by
  funext a b
  by_cases h1 : a = e ∧ b = j
  · obtain ⟨rfl, rfl⟩ := h1; rw [up2_eq, fA_ne h, up2_eq]
  · rw [up2_ne _ _ h1]; unfold fA; split
    · rfl
    · rw [up2_ne _ _ h1]
def img0 (w : Wv) : Wv := up2 (up2 (up2 (up2 w 100 25 1) 100 26 (w 100 3)) 100 27 (w 100 14)) 100 28 (w 100 22)
def img1 (w : Wv) (k : Nat) : Wv := fA 137 k (w 117) (fA 136 k (w 116) (fA 132 k (w 103) (fA 131 k (w 102) (fA 130 k (w 101) (img0 w)))))
def img2 (w : Wv) (k : Nat) : Wv := fA 134 k (w 109) (fA 133 k (w 108) (img1 w 4))
def imageW (w : Wv) : Wv := fA 135 48 (w 110) (img2 w 6)
theorem imageW_cv {w v : Wv} (h : cv w = cv v) : cv (imageW w) = cv (imageW v) := by
  have e : ∀ a, scI a = false → (a == 100) = false → w a = v a := fun a h1 h2 => funext fun j => cv_at h (by rw [h1, h2]; rfl)
  unfold imageW img2 img1 img0
  rw [e 110 rfl rfl, e 109 rfl rfl, e 108 rfl rfl, e 117 rfl rfl, e 116 rfl rfl, e 103 rfl rfl, e 102 rfl rfl, e 101 rfl rfl, cv_at h (id := 100) (j := 3), cv_at h (id := 100) (j := 14), cv_at h (id := 100) (j := 22)]
  exact cv_fA (cv_fA (cv_fA (cv_fA (cv_fA (cv_fA (cv_fA (cv_fA (cv_up (cv_up (cv_up (cv_up h)))))))))))
theorem c_X7_image {E : En} {g : Ge} {σ : Sg} {w : Wv} (hW : WM g σ)  : Ct E mX7_image 0 [.ref (g.1 100)] (.returned (some (.int (w 100 3))), S g σ (imageW w)) (S g σ w) := by
  show V E mX7_image 0 _ 0 [some (.ref (g.1 100)), none] [] (S g σ w)
  have L142 : ∀ (m k : Nat), k + m = 48 → V E mX7_image 0 (.returned (some (.int (w 100 3))), S g σ (imageW w)) 142 [some (.ref (g.1 100)), some (.int (nI k))] [] (S g σ (fA 135 k (w 110) (img2 w 6))) := by
    intro m
    induction m with
    | zero =>
      intro k hk 
      obtain rfl : k = 48 := by omega
      refine V.ild1 dX7_image_142 (V.bipush (v := 48) dX7_image_143 (by decide) (V.icmp_ge (tgt := 166) dX7_image_145 (by decide) (fun c_145 => ?_) (fun c_145 => absurd (by rw [show (48 : Int32) = nI 48 from rfl]; exact nI_le (by omega) (by omega)) c_145)))
      exact V.ald0 dX7_image_166 (GX7_156 hW rfl dX7_image_167 (V.iret dX7_image_170 rfl rfl (rfl)))
    | succ m ih =>
      intro k hk 
      refine V.ild1 dX7_image_142 (V.bipush (v := 48) dX7_image_143 (by decide) (V.icmp_ge (tgt := 166) dX7_image_145 (by decide) (fun c_145 => absurd c_145 (by rw [show (48 : Int32) = nI 48 from rfl]; first | exact nI_ge (by omega) (by omega) | exact fun h9 => absurd ((nI_leI (by omega) (by omega)).mp h9) (by omega))) (fun c_145 => ?_)))
      refine V.ald0 dX7_image_148 (GX7_83 hW rfl dX7_image_149 (V.ild1 dX7_image_152 (V.ald0 dX7_image_153 (GX7_34 hW rfl dX7_image_154 (V.ild1 dX7_image_157 (aM9 hW (by first | exact IX.n ‹_› (by decide) | exact IX.n (by omega) (by decide)) dX7_image_158 (sM34 hW (by first | exact IX.n ‹_› (by decide) | exact IX.n (by omega) (by decide)) dX7_image_159 (V.inc1 dX7_image_160 (V.goto (tgt := 142) dX7_image_163 (by decide) ?_)))))))))
      rw [nI_1]
      have h7 := ih (k + 1) (by omega)
      rw [← fA_s (d := 135) (k := k) (f := w 110) (v := w 110 k) rfl] at h7
      exact h7
  have L104 : ∀ (m k : Nat), k + m = 6 → V E mX7_image 0 (.returned (some (.int (w 100 3))), S g σ (imageW w)) 104 [some (.ref (g.1 100)), some (.int (nI k))] [] (S g σ (img2 w k)) := by
    intro m
    induction m with
    | zero =>
      intro k hk 
      obtain rfl : k = 6 := by omega
      refine V.ild1 dX7_image_104 (V.bipush (v := 6) dX7_image_105 (by decide) (V.icmp_ge (tgt := 140) dX7_image_107 (by decide) (fun c_107 => ?_) (fun c_107 => absurd (by rw [show (6 : Int32) = nI 6 from rfl]; exact nI_le (by omega) (by omega)) c_107)))
      refine V.iconst_0 dX7_image_140 (V.ist1 dX7_image_141 ?_)
      have h0 := L142 48 0 (by omega)
      rw [fA_0] at h0
      exact h0
    | succ m ih =>
      intro k hk 
      refine V.ild1 dX7_image_104 (V.bipush (v := 6) dX7_image_105 (by decide) (V.icmp_ge (tgt := 140) dX7_image_107 (by decide) (fun c_107 => absurd c_107 (by rw [show (6 : Int32) = nI 6 from rfl]; first | exact nI_ge (by omega) (by omega) | exact fun h9 => absurd ((nI_leI (by omega) (by omega)).mp h9) (by omega))) (fun c_107 => ?_)))
      refine V.ald0 dX7_image_110 (GX7_77 hW rfl dX7_image_111 (V.ild1 dX7_image_114 (V.ald0 dX7_image_115 (GX7_28 hW rfl dX7_image_116 (V.ild1 dX7_image_119 (aM7 hW (by first | exact IX.n ‹_› (by decide) | exact IX.n (by omega) (by decide)) dX7_image_120 (sM32 hW (by first | exact IX.n ‹_› (by decide) | exact IX.n (by omega) (by decide)) dX7_image_121 (V.ald0 dX7_image_122 (GX7_80 hW rfl dX7_image_123 (V.ild1 dX7_image_126 (V.ald0 dX7_image_127 (GX7_31 hW rfl dX7_image_128 (V.ild1 dX7_image_131 ?_)))))))))))))
      refine aM8 hW (by first | exact IX.n ‹_› (by decide) | exact IX.n (by omega) (by decide)) dX7_image_132 (sM33 hW (by first | exact IX.n ‹_› (by decide) | exact IX.n (by omega) (by decide)) dX7_image_133 (V.inc1 dX7_image_134 (V.goto (tgt := 104) dX7_image_137 (by decide) ?_)))
      rw [nI_1]
      have h7 := ih (k + 1) (by omega)
      have e7 : img2 w (k + 1) = up2 (up2 (img2 w k) 133 k (w 108 k)) 134 k (w 109 k) := by
        unfold img2
        rw [up2_fA (by decide), fA_s (k := k) rfl, fA_s (k := k) rfl]
      rw [e7] at h7
      exact h7
  have L31 : ∀ (m k : Nat), k + m = 4 → V E mX7_image 0 (.returned (some (.int (w 100 3))), S g σ (imageW w)) 31 [some (.ref (g.1 100)), some (.int (nI k))] [] (S g σ (img1 w k)) := by
    intro m
    induction m with
    | zero =>
      intro k hk 
      obtain rfl : k = 4 := by omega
      refine V.ild1 dX7_image_31 (V.iconst_4 dX7_image_32 (V.icmp_ge (tgt := 102) dX7_image_33 (by decide) (fun c_33 => ?_) (fun c_33 => absurd (by rw [show (4 : Int32) = nI 4 from rfl]; exact nI_le (by omega) (by omega)) c_33)))
      refine V.iconst_0 dX7_image_102 (V.ist1 dX7_image_103 ?_)
      have h0 := L104 6 0 (by omega)
      unfold img2 at h0
      rw [fA_0, fA_0] at h0
      exact h0
    | succ m ih =>
      intro k hk 
      refine V.ild1 dX7_image_31 (V.iconst_4 dX7_image_32 (V.icmp_ge (tgt := 102) dX7_image_33 (by decide) (fun c_33 => absurd c_33 (by rw [show (4 : Int32) = nI 4 from rfl]; first | exact nI_ge (by omega) (by omega) | exact fun h9 => absurd ((nI_leI (by omega) (by omega)).mp h9) (by omega))) (fun c_33 => ?_)))
      refine V.ald0 dX7_image_36 (GX7_68 hW rfl dX7_image_37 (V.ild1 dX7_image_40 (V.ald0 dX7_image_41 (GX7_7 hW rfl dX7_image_42 (V.ild1 dX7_image_45 (aM0 hW (by first | exact IX.n ‹_› (by decide) | exact IX.n (by omega) (by decide)) dX7_image_46 (sM29 hW (by first | exact IX.n ‹_› (by decide) | exact IX.n (by omega) (by decide)) dX7_image_47 (V.ald0 dX7_image_48 (GX7_71 hW rfl dX7_image_49 (V.ild1 dX7_image_52 (V.ald0 dX7_image_53 (GX7_13 hW rfl dX7_image_54 (V.ild1 dX7_image_57 ?_)))))))))))))
      refine aM1 hW (by first | exact IX.n ‹_› (by decide) | exact IX.n (by omega) (by decide)) dX7_image_58 (sM30 hW (by first | exact IX.n ‹_› (by decide) | exact IX.n (by omega) (by decide)) dX7_image_59 (V.ald0 dX7_image_60 (GX7_74 hW rfl dX7_image_61 (V.ild1 dX7_image_64 (V.ald0 dX7_image_65 (GX7_16 hW rfl dX7_image_66 (V.ild1 dX7_image_69 (aM2 hW (by first | exact IX.n ‹_› (by decide) | exact IX.n (by omega) (by decide)) dX7_image_70 (sM31 hW (by first | exact IX.n ‹_› (by decide) | exact IX.n (by omega) (by decide)) dX7_image_71 (V.ald0 dX7_image_72 (GX7_86 hW rfl dX7_image_73 (V.ild1 dX7_image_76 (V.ald0 dX7_image_77 ?_)))))))))))))
      refine GX7_46 hW rfl dX7_image_78 (V.ild1 dX7_image_81 (aM15 hW (by first | exact IX.n ‹_› (by decide) | exact IX.n (by omega) (by decide)) dX7_image_82 (sM35 hW (by first | exact IX.n ‹_› (by decide) | exact IX.n (by omega) (by decide)) dX7_image_83 (V.ald0 dX7_image_84 (GX7_89 hW rfl dX7_image_85 (V.ild1 dX7_image_88 (V.ald0 dX7_image_89 (GX7_49 hW rfl dX7_image_90 (V.ild1 dX7_image_93 (aM16 hW (by first | exact IX.n ‹_› (by decide) | exact IX.n (by omega) (by decide)) dX7_image_94 (sM36 hW (by first | exact IX.n ‹_› (by decide) | exact IX.n (by omega) (by decide)) dX7_image_95 (V.inc1 dX7_image_96 (V.goto (tgt := 31) dX7_image_99 (by decide) ?_)))))))))))))
      rw [nI_1]
      have h7 := ih (k + 1) (by omega)
      have e7 : img1 w (k + 1) = up2 (up2 (up2 (up2 (up2 (img1 w k) 130 k (w 101 k)) 131 k (w 102 k)) 132 k (w 103 k)) 136 k (w 116 k)) 137 k (w 117 k) := by
        unfold img1
        rw [up2_fA (e := 130) (d := 137) (by decide), up2_fA (e := 130) (d := 136) (by decide), up2_fA (e := 130) (d := 132) (by decide), up2_fA (e := 130) (d := 131) (by decide), fA_s (k := k) rfl, up2_fA (e := 131) (d := 137) (by decide), up2_fA (e := 131) (d := 136) (by decide), up2_fA (e := 131) (d := 132) (by decide), fA_s (k := k) rfl, up2_fA (e := 132) (d := 137) (by decide), up2_fA (e := 132) (d := 136) (by decide), fA_s (k := k) rfl, up2_fA (e := 136) (d := 137) (by decide), fA_s (k := k) rfl, fA_s (k := k) rfl]
      rw [e7] at h7
      exact h7
  refine V.ald0 dX7_image_0 (V.iconst_1 dX7_image_1 (PX7_376 hW rfl dX7_image_2 ⟨rfl, rfl⟩ (V.ald0 dX7_image_5 (V.ald0 dX7_image_6 (GX7_156 hW rfl dX7_image_7 (PX7_380 hW rfl dX7_image_10 (V.ald0 dX7_image_13 (V.ald0 dX7_image_14 (GX7_200 hW rfl dX7_image_15 (PX7_383 hW rfl dX7_image_18 (V.ald0 dX7_image_21 (V.ald0 dX7_image_22 (GX7_203 hW rfl dX7_image_23 ?_)))))))))))))
  refine PX7_386 hW rfl dX7_image_26 (V.iconst_0 dX7_image_29 (V.ist1 dX7_image_30 ?_))
  have h0 := L31 4 0 (by omega)
  unfold img1 at h0
  rw [fA_0, fA_0, fA_0, fA_0, fA_0] at h0
  exact h0

/-- the image's bounds -/
def HB (v : Wv) : Prop := ∃ n, n ≤ 6 ∧ v 100 26 = nI n
def bPt (w : Wv) (d s k : Nat) : Int32 := if w 100 27 ≤ nI k then w d k else w s k
def bk1 (w : Wv) (k : Nat) : Wv := fA 117 k (bPt w 117 137) (fA 116 k (bPt w 116 136) (fA 103 k (w 132) (fA 102 k (w 131) (fA 101 k (w 130) (up2 w 100 22 (w 100 28))))))
def bk2 (w : Wv) (r c : Nat) : Wv := fA 110 c (w 135) (fA 109 r (w 134) (fA 108 r (w 133) (bk1 w 4)))
def backW (w : Wv) : Wv := if w 100 25 = 0 then w else bk2 w (cl (w 100 26)) (8 * cl (w 100 26))
def backR (w : Wv) : Int32 := if w 100 25 = 0 then -3 else w 100 3
theorem fA_f {d n : Nat} {f f' : Nat → Int32} {w : Wv} (h : ∀ i, f i = f' i) : fA d n f w = fA d n f' w := by rw [show f = f' from funext h]
theorem backW_cv {w v : Wv} (h : cv w = cv v) : cv (backW w) = cv (backW v) := by
  have e : ∀ a, scI a = false → (a == 100) = false → w a = v a := fun a h1 h2 => funext fun j => cv_at h (by rw [h1, h2]; rfl)
  unfold backW bk2 bk1
  rw [cv_at h (id := 100) (j := 25), cv_at h (id := 100) (j := 26), cv_at h (id := 100) (j := 28), e 135 rfl rfl, e 134 rfl rfl, e 133 rfl rfl, e 132 rfl rfl, e 131 rfl rfl, e 130 rfl rfl]
  have b1 : bPt w 117 137 = bPt v 117 137 := by funext k; unfold bPt; rw [e 117 rfl rfl, e 137 rfl rfl, cv_at h (id := 100) (j := 27)]
  have b2 : bPt w 116 136 = bPt v 116 136 := by funext k; unfold bPt; rw [e 116 rfl rfl, e 136 rfl rfl, cv_at h (id := 100) (j := 27)]
  rw [b1, b2]
  split
  · exact h
  · exact cv_fA (cv_fA (cv_fA (cv_fA (cv_fA (cv_fA (cv_fA (cv_fA (cv_up h))))))))
theorem bk1_116 {w : Wv} {k : Nat} : bk1 w k 116 k = w 116 k := by unfold bk1; rw [fA_ne (by decide), fA_ge (by omega)]; rfl
theorem bk1_117 {w : Wv} {k : Nat} : bk1 w k 117 k = w 117 k := by unfold bk1; rw [fA_ge (by omega)]; rfl
theorem c_X7_back {E : En} {g : Ge} {σ : Sg} {w : Wv} (hW : WM g σ) (hB : HB w) : Ct E mX7_back 0 [.ref (g.1 100)] (.returned (some (.int (backR w))), S g σ (backW w)) (S g σ w) := by
  show V E mX7_back 0 _ 0 [some (.ref (g.1 100)), none, none] [] (S g σ w)
  refine V.ald0 dX7_back_0 (GX7_376 hW rfl dX7_back_1 (V.if_ne (tgt := 10) dX7_back_4 (by decide) (fun c_4 => ?_) (fun c_4 => ?_)))
  · obtain ⟨N, hN, eB⟩ := hB
    rw [backR, backW, if_neg c_4, if_neg c_4, eB, cl_n (by omega)]
    have L127 : ∀ (m r : Nat) (y : Option Value), r + m = N → V E mX7_back 0 (.returned (some (.int (w 100 3))), S g σ (bk2 w N (8 * N))) 127 [some (.ref (g.1 100)), some (.int (nI r)), y] [] (S g σ (bk2 w r (8 * r))) := by
      intro m
      induction m with
      | zero =>
        intro r y hk 
        obtain rfl : r = N := by omega
        refine V.ild1 dX7_back_127 (V.ald0 dX7_back_128 (GX7_380 hW rfl dX7_back_129 (V.icmp_ge (tgt := 201) dX7_back_132 (by decide) (fun c_132 => ?_) (fun c_132 => absurd (by rw [show bk2 w r (8 * r) 100 26 = nI r from eB]; exact nI_le (Nat.le_refl _) (by omega)) c_132))))
        exact V.ald0 dX7_back_201 (GX7_156 hW rfl dX7_back_202 (V.iret dX7_back_205 rfl rfl (rfl)))
      | succ m ih =>
        intro r y hk 
        have L161 : ∀ (m9 c : Nat), c + m9 = 8 → V E mX7_back 0 (.returned (some (.int (w 100 3))), S g σ (bk2 w N (8 * N))) 161 [some (.ref (g.1 100)), some (.int (nI r)), some (.int (nI c))] [] (S g σ (fA 110 (8 * r + c) (w 135) (fA 109 (r + 1) (w 134) (fA 108 (r + 1) (w 133) (bk1 w 4))))) := by
          intro m9
          induction m9 with
          | zero =>
            intro c hk9 
            obtain rfl : c = 8 := by omega
            refine V.ild2 dX7_back_161 (V.bipush (v := 8) dX7_back_162 (by decide) (V.icmp_ge (tgt := 195) dX7_back_164 (by decide) (fun c_164 => ?_) (fun c_164 => absurd (by rw [show (8 : Int32) = nI 8 from rfl]; exact nI_le (by omega) (by omega)) c_164)))
            refine V.inc1 dX7_back_195 (V.goto (tgt := 127) dX7_back_198 (by decide) ?_)
            rw [nI_1]
            exact ih (r + 1) _ (by omega)
          | succ m9 ih9 =>
            intro c hk9 
            refine V.ild2 dX7_back_161 (V.bipush (v := 8) dX7_back_162 (by decide) (V.icmp_ge (tgt := 195) dX7_back_164 (by decide) (fun c_164 => absurd c_164 (by rw [show (8 : Int32) = nI 8 from rfl]; first | exact nI_ge (by omega) (by omega) | exact fun h9 => absurd ((nI_leI (by omega) (by omega)).mp h9) (by omega))) (fun c_164 => ?_)))
            refine V.ald0 dX7_back_167 (GX7_34 hW rfl dX7_back_168 (V.bipush (v := 8) dX7_back_171 (by decide) (V.ild1 dX7_back_173 (V.imul dX7_back_174 (V.ild2 dX7_back_175 (V.iadd dX7_back_176 (V.ald0 dX7_back_177 (GX7_83 hW rfl dX7_back_178 (V.bipush (v := 8) dX7_back_181 (by decide) (V.ild1 dX7_back_183 (V.imul dX7_back_184 (V.ild2 dX7_back_185 (V.iadd dX7_back_186 ?_)))))))))))))
            refine aM34 hW (ix2 (by omega) (by omega)) dX7_back_187 (sM9 hW (ix2 (by omega) (by omega)) dX7_back_188 (V.inc2 dX7_back_189 (V.goto (tgt := 161) dX7_back_192 (by decide) ?_)))
            rw [nI_1]
            have h7 := ih9 (c + 1) (by omega)
            rw [← Nat.add_assoc, ← fA_s (d := 110) (k := 8 * r + c) (f := w 135) (v := w 135 (8 * r + c)) rfl] at h7
            exact h7
    
        refine V.ild1 dX7_back_127 (V.ald0 dX7_back_128 (GX7_380 hW rfl dX7_back_129 (V.icmp_ge (tgt := 201) dX7_back_132 (by decide) (fun c_132 => absurd c_132 (by rw [show bk2 w r (8 * r) 100 26 = nI N from eB]; first | exact nI_ge (by omega) (by omega) | exact fun h9 => absurd ((nI_leI (by omega) (by omega)).mp h9) (by omega))) (fun c_132 => ?_))))
        refine V.ald0 dX7_back_135 (GX7_28 hW rfl dX7_back_136 (V.ild1 dX7_back_139 (V.ald0 dX7_back_140 (GX7_77 hW rfl dX7_back_141 (V.ild1 dX7_back_144 (aM32 hW (by first | exact IX.n ‹_› (by decide) | exact IX.n (by omega) (by decide)) dX7_back_145 (sM7 hW (by first | exact IX.n ‹_› (by decide) | exact IX.n (by omega) (by decide)) dX7_back_146 (V.ald0 dX7_back_147 (GX7_31 hW rfl dX7_back_148 (V.ild1 dX7_back_151 (V.ald0 dX7_back_152 (GX7_80 hW rfl dX7_back_153 (V.ild1 dX7_back_156 ?_)))))))))))))
        refine aM33 hW (by first | exact IX.n ‹_› (by decide) | exact IX.n (by omega) (by decide)) dX7_back_157 (sM8 hW (by first | exact IX.n ‹_› (by decide) | exact IX.n (by omega) (by decide)) dX7_back_158 (V.iconst_0 dX7_back_159 (V.ist2 dX7_back_160 ?_)))
        have h0 := L161 8 0 (by omega)
        have e7 : up2 (up2 (bk2 w r (8 * r)) 108 r (w 133 r)) 109 r (w 134 r) = fA 110 (8 * r) (w 135) (fA 109 (r + 1) (w 134) (fA 108 (r + 1) (w 133) (bk1 w 4))) := by
          unfold bk2
          rw [up2_fA (e := 108) (d := 110) (by decide), up2_fA (e := 108) (d := 109) (by decide), fA_s (k := r) rfl, up2_fA (e := 109) (d := 110) (by decide), fA_s (k := r) rfl]
        rw [Nat.add_zero, ← e7] at h0
        exact h0
    have L20 : ∀ (m k : Nat), k + m = 4 → V E mX7_back 0 (.returned (some (.int (w 100 3))), S g σ (bk2 w N (8 * N))) 20 [some (.ref (g.1 100)), some (.int (nI k)), none] [] (S g σ (bk1 w k)) := by
      intro m
      induction m with
      | zero =>
        intro k hk 
        obtain rfl : k = 4 := by omega
        refine V.ild1 dX7_back_20 (V.iconst_4 dX7_back_21 (V.icmp_ge (tgt := 125) dX7_back_22 (by decide) (fun c_22 => ?_) (fun c_22 => absurd (by rw [show (4 : Int32) = nI 4 from rfl]; exact nI_le (by omega) (by omega)) c_22)))
        refine V.iconst_0 dX7_back_125 (V.ist1 dX7_back_126 ?_)
        have h0 := L127 N 0 none (by omega)
        unfold bk2 at h0
        rw [Nat.mul_zero, fA_0, fA_0, fA_0] at h0
        exact h0
      | succ m ih =>
        intro k hk 
        refine V.ild1 dX7_back_20 (V.iconst_4 dX7_back_21 (V.icmp_ge (tgt := 125) dX7_back_22 (by decide) (fun c_22 => absurd c_22 (by rw [show (4 : Int32) = nI 4 from rfl]; first | exact nI_ge (by omega) (by omega) | exact fun h9 => absurd ((nI_leI (by omega) (by omega)).mp h9) (by omega))) (fun c_22 => ?_)))
        refine V.ald0 dX7_back_25 (GX7_7 hW rfl dX7_back_26 (V.ild1 dX7_back_29 (V.ald0 dX7_back_30 (GX7_68 hW rfl dX7_back_31 (V.ild1 dX7_back_34 (aM29 hW (by first | exact IX.n ‹_› (by decide) | exact IX.n (by omega) (by decide)) dX7_back_35 (sM0 hW (by first | exact IX.n ‹_› (by decide) | exact IX.n (by omega) (by decide)) dX7_back_36 (V.ald0 dX7_back_37 (GX7_13 hW rfl dX7_back_38 (V.ild1 dX7_back_41 (V.ald0 dX7_back_42 (GX7_71 hW rfl dX7_back_43 ?_))))))))))))
        refine V.ild1 dX7_back_46 (aM30 hW (by first | exact IX.n ‹_› (by decide) | exact IX.n (by omega) (by decide)) dX7_back_47 (sM1 hW (by first | exact IX.n ‹_› (by decide) | exact IX.n (by omega) (by decide)) dX7_back_48 (V.ald0 dX7_back_49 (GX7_16 hW rfl dX7_back_50 (V.ild1 dX7_back_53 (V.ald0 dX7_back_54 (GX7_74 hW rfl dX7_back_55 (V.ild1 dX7_back_58 (aM31 hW (by first | exact IX.n ‹_› (by decide) | exact IX.n (by omega) (by decide)) dX7_back_59 (sM2 hW (by first | exact IX.n ‹_› (by decide) | exact IX.n (by omega) (by decide)) dX7_back_60 (V.ald0 dX7_back_61 (GX7_46 hW rfl dX7_back_62 ?_))))))))))))
        refine V.ild1 dX7_back_65 (V.ild1 dX7_back_66 (V.ald0 dX7_back_67 (GX7_383 hW rfl dX7_back_68 (V.icmp_ge (tgt := 83) dX7_back_71 (by decide) (fun c_71 => ?_) (fun c_71 => ?_)))))
        · refine V.ald0 dX7_back_83 (GX7_46 hW rfl dX7_back_84 (V.ild1 dX7_back_87 (aM15 hW (by first | exact IX.n ‹_› (by decide) | exact IX.n (by omega) (by decide)) dX7_back_88 (sM15 hW (by first | exact IX.n ‹_› (by decide) | exact IX.n (by omega) (by decide)) dX7_back_89 (V.ald0 dX7_back_90 (GX7_49 hW rfl dX7_back_91 (V.ild1 dX7_back_94 (V.ild1 dX7_back_95 (V.ald0 dX7_back_96 (GX7_383 hW rfl dX7_back_97 (V.icmp_ge (tgt := 112) dX7_back_100 (by decide) (fun c_100 => ?_) (fun c_100 => ?_))))))))))))
          · refine V.ald0 dX7_back_112 (GX7_49 hW rfl dX7_back_113 (V.ild1 dX7_back_116 (aM16 hW (by first | exact IX.n ‹_› (by decide) | exact IX.n (by omega) (by decide)) dX7_back_117 (sM16 hW (by first | exact IX.n ‹_› (by decide) | exact IX.n (by omega) (by decide)) dX7_back_118 (V.inc1 dX7_back_119 (V.goto (tgt := 20) dX7_back_122 (by decide) ?_))))))
            rw [nI_1]
            have h7 := ih (k + 1) (by omega)
            have e7 : bk1 w (k + 1) = up2 (up2 (up2 (up2 (up2 (bk1 w k) 101 k (w 130 k)) 102 k (w 131 k)) 103 k (w 132 k)) 116 k (bPt w 116 136 k)) 117 k (bPt w 117 137 k) := by
              unfold bk1
              rw [up2_fA (e := 101) (d := 117) (by decide), up2_fA (e := 101) (d := 116) (by decide), up2_fA (e := 101) (d := 103) (by decide), up2_fA (e := 101) (d := 102) (by decide), fA_s (k := k) rfl, up2_fA (e := 102) (d := 117) (by decide), up2_fA (e := 102) (d := 116) (by decide), up2_fA (e := 102) (d := 103) (by decide), fA_s (k := k) rfl, up2_fA (e := 103) (d := 117) (by decide), up2_fA (e := 103) (d := 116) (by decide), fA_s (k := k) rfl, up2_fA (e := 116) (d := 117) (by decide), fA_s (k := k) rfl, fA_s (k := k) rfl]
            rw [e7] at h7
            unfold bPt at h7
            first
              | (rw [if_pos (show w 100 27 ≤ nI k from c_71), if_pos (show w 100 27 ≤ nI k from c_71), ← bk1_116 (w := w) (k := k), ← bk1_117 (w := w) (k := k)] at h7; exact h7)
              | (rw [if_neg (show ¬ w 100 27 ≤ nI k from c_71), if_neg (show ¬ w 100 27 ≤ nI k from c_71)] at h7; exact h7)
              | exact absurd (show w 100 27 ≤ nI k from c_71) (show ¬ w 100 27 ≤ nI k from c_100)
              | exact absurd (show w 100 27 ≤ nI k from c_100) (show ¬ w 100 27 ≤ nI k from c_71)
          · refine V.ald0 dX7_back_103 (GX7_89 hW rfl dX7_back_104 (V.ild1 dX7_back_107 (aM36 hW (by first | exact IX.n ‹_› (by decide) | exact IX.n (by omega) (by decide)) dX7_back_108 (V.goto (tgt := 118) dX7_back_109 (by decide) (sM16 hW (by first | exact IX.n ‹_› (by decide) | exact IX.n (by omega) (by decide)) dX7_back_118 (V.inc1 dX7_back_119 (V.goto (tgt := 20) dX7_back_122 (by decide) ?_)))))))
            rw [nI_1]
            have h7 := ih (k + 1) (by omega)
            have e7 : bk1 w (k + 1) = up2 (up2 (up2 (up2 (up2 (bk1 w k) 101 k (w 130 k)) 102 k (w 131 k)) 103 k (w 132 k)) 116 k (bPt w 116 136 k)) 117 k (bPt w 117 137 k) := by
              unfold bk1
              rw [up2_fA (e := 101) (d := 117) (by decide), up2_fA (e := 101) (d := 116) (by decide), up2_fA (e := 101) (d := 103) (by decide), up2_fA (e := 101) (d := 102) (by decide), fA_s (k := k) rfl, up2_fA (e := 102) (d := 117) (by decide), up2_fA (e := 102) (d := 116) (by decide), up2_fA (e := 102) (d := 103) (by decide), fA_s (k := k) rfl, up2_fA (e := 103) (d := 117) (by decide), up2_fA (e := 103) (d := 116) (by decide), fA_s (k := k) rfl, up2_fA (e := 116) (d := 117) (by decide), fA_s (k := k) rfl, fA_s (k := k) rfl]
            rw [e7] at h7
            unfold bPt at h7
            first
              | (rw [if_pos (show w 100 27 ≤ nI k from c_71), if_pos (show w 100 27 ≤ nI k from c_71), ← bk1_116 (w := w) (k := k), ← bk1_117 (w := w) (k := k)] at h7; exact h7)
              | (rw [if_neg (show ¬ w 100 27 ≤ nI k from c_71), if_neg (show ¬ w 100 27 ≤ nI k from c_71)] at h7; exact h7)
              | exact absurd (show w 100 27 ≤ nI k from c_71) (show ¬ w 100 27 ≤ nI k from c_100)
              | exact absurd (show w 100 27 ≤ nI k from c_100) (show ¬ w 100 27 ≤ nI k from c_71)
        · refine V.ald0 dX7_back_74 (GX7_86 hW rfl dX7_back_75 (V.ild1 dX7_back_78 (aM35 hW (by first | exact IX.n ‹_› (by decide) | exact IX.n (by omega) (by decide)) dX7_back_79 (V.goto (tgt := 89) dX7_back_80 (by decide) (sM15 hW (by first | exact IX.n ‹_› (by decide) | exact IX.n (by omega) (by decide)) dX7_back_89 (V.ald0 dX7_back_90 (GX7_49 hW rfl dX7_back_91 (V.ild1 dX7_back_94 (V.ild1 dX7_back_95 (V.ald0 dX7_back_96 (GX7_383 hW rfl dX7_back_97 (V.icmp_ge (tgt := 112) dX7_back_100 (by decide) (fun c_100 => ?_) (fun c_100 => ?_)))))))))))))
          · refine V.ald0 dX7_back_112 (GX7_49 hW rfl dX7_back_113 (V.ild1 dX7_back_116 (aM16 hW (by first | exact IX.n ‹_› (by decide) | exact IX.n (by omega) (by decide)) dX7_back_117 (sM16 hW (by first | exact IX.n ‹_› (by decide) | exact IX.n (by omega) (by decide)) dX7_back_118 (V.inc1 dX7_back_119 (V.goto (tgt := 20) dX7_back_122 (by decide) ?_))))))
            rw [nI_1]
            have h7 := ih (k + 1) (by omega)
            have e7 : bk1 w (k + 1) = up2 (up2 (up2 (up2 (up2 (bk1 w k) 101 k (w 130 k)) 102 k (w 131 k)) 103 k (w 132 k)) 116 k (bPt w 116 136 k)) 117 k (bPt w 117 137 k) := by
              unfold bk1
              rw [up2_fA (e := 101) (d := 117) (by decide), up2_fA (e := 101) (d := 116) (by decide), up2_fA (e := 101) (d := 103) (by decide), up2_fA (e := 101) (d := 102) (by decide), fA_s (k := k) rfl, up2_fA (e := 102) (d := 117) (by decide), up2_fA (e := 102) (d := 116) (by decide), up2_fA (e := 102) (d := 103) (by decide), fA_s (k := k) rfl, up2_fA (e := 103) (d := 117) (by decide), up2_fA (e := 103) (d := 116) (by decide), fA_s (k := k) rfl, up2_fA (e := 116) (d := 117) (by decide), fA_s (k := k) rfl, fA_s (k := k) rfl]
            rw [e7] at h7
            unfold bPt at h7
            first
              | (rw [if_pos (show w 100 27 ≤ nI k from c_71), if_pos (show w 100 27 ≤ nI k from c_71), ← bk1_116 (w := w) (k := k), ← bk1_117 (w := w) (k := k)] at h7; exact h7)
              | (rw [if_neg (show ¬ w 100 27 ≤ nI k from c_71), if_neg (show ¬ w 100 27 ≤ nI k from c_71)] at h7; exact h7)
              | exact absurd (show w 100 27 ≤ nI k from c_71) (show ¬ w 100 27 ≤ nI k from c_100)
              | exact absurd (show w 100 27 ≤ nI k from c_100) (show ¬ w 100 27 ≤ nI k from c_71)
          · refine V.ald0 dX7_back_103 (GX7_89 hW rfl dX7_back_104 (V.ild1 dX7_back_107 (aM36 hW (by first | exact IX.n ‹_› (by decide) | exact IX.n (by omega) (by decide)) dX7_back_108 (V.goto (tgt := 118) dX7_back_109 (by decide) (sM16 hW (by first | exact IX.n ‹_› (by decide) | exact IX.n (by omega) (by decide)) dX7_back_118 (V.inc1 dX7_back_119 (V.goto (tgt := 20) dX7_back_122 (by decide) ?_)))))))
            rw [nI_1]
            have h7 := ih (k + 1) (by omega)
            have e7 : bk1 w (k + 1) = up2 (up2 (up2 (up2 (up2 (bk1 w k) 101 k (w 130 k)) 102 k (w 131 k)) 103 k (w 132 k)) 116 k (bPt w 116 136 k)) 117 k (bPt w 117 137 k) := by
              unfold bk1
              rw [up2_fA (e := 101) (d := 117) (by decide), up2_fA (e := 101) (d := 116) (by decide), up2_fA (e := 101) (d := 103) (by decide), up2_fA (e := 101) (d := 102) (by decide), fA_s (k := k) rfl, up2_fA (e := 102) (d := 117) (by decide), up2_fA (e := 102) (d := 116) (by decide), up2_fA (e := 102) (d := 103) (by decide), fA_s (k := k) rfl, up2_fA (e := 103) (d := 117) (by decide), up2_fA (e := 103) (d := 116) (by decide), fA_s (k := k) rfl, up2_fA (e := 116) (d := 117) (by decide), fA_s (k := k) rfl, fA_s (k := k) rfl]
            rw [e7] at h7
            unfold bPt at h7
            first
              | (rw [if_pos (show w 100 27 ≤ nI k from c_71), if_pos (show w 100 27 ≤ nI k from c_71), ← bk1_116 (w := w) (k := k), ← bk1_117 (w := w) (k := k)] at h7; exact h7)
              | (rw [if_neg (show ¬ w 100 27 ≤ nI k from c_71), if_neg (show ¬ w 100 27 ≤ nI k from c_71)] at h7; exact h7)
              | exact absurd (show w 100 27 ≤ nI k from c_71) (show ¬ w 100 27 ≤ nI k from c_100)
              | exact absurd (show w 100 27 ≤ nI k from c_100) (show ¬ w 100 27 ≤ nI k from c_71)
    
    refine V.ald0 dX7_back_10 (V.ald0 dX7_back_11 (GX7_386 hW rfl dX7_back_12 (PX7_203 hW rfl dX7_back_15 (V.iconst_0 dX7_back_18 (V.ist1 dX7_back_19 ?_)))))
    have h0 := L20 4 0 (by omega)
    unfold bk1 at h0
    rw [fA_0, fA_0, fA_0, fA_0, fA_0] at h0
    exact h0
  · exact V.bipush (v := (-3)) dX7_back_7 (by decide) (V.iret dX7_back_9 rfl rfl (by simp only [backR, backW, c_4, if_true, if_false, Bool.false_eq_true, eq_self, and_true, true_and, and_false, false_and, Bool.and_true, Bool.true_and, Bool.and_false, Bool.false_and, Bool.not_true, Bool.not_false, not_true_eq_false, not_false_eq_true, ne_eq, b2i_t, b2i_f]))

set_option maxRecDepth 100000
set_option maxHeartbeats 1000000
def HW (g : Ge) (σ : Sg) : Prop := ∀ k, k < 12 → sL σ (g.1 145) k = wd k
theorem lce {x y : Int64} : lg_cmp x y = 0 ↔ x = y := by
  unfold lg_cmp
  constructor
  · intro h
    split at h
    · exact absurd h (by decide)
    · split at h
      · assumption
      · exact absurd h (by decide)
  · rintro rfl
    rw [if_neg (fun h => Int64.lt_irrefl h), if_pos rfl]
theorem ff_n {P : Nat → Bool} : ∀ (m k : Nat), (ff P k m).getD (k + m) ≤ k + m ∧ k ≤ (ff P k m).getD (k + m)
  | 0, k => ⟨Nat.le_refl _, Nat.le_refl _⟩
  | m + 1, k => by
    rw [ff]
    split
    · simp
    · have := ff_n (P := P) m (k + 1)
      rw [show k + (m + 1) = k + 1 + m by omega]
      omega
theorem wdI_le {x : Int64} : wdI x ≤ 12 := (ff_n (P := fun k => decide (wd k = x)) 12 0).1
theorem nx_111 {E : En} {g : Ge} {σ : Sg} {w : Wv} (hW : WM g σ) (hWd : HW g σ) {x : Int64} {e P : Nat} {cc : Int32} : V E mX7_next 2 (.returned none, S g σ (tk w (nI e) (nI P) (tokW (wdI x)) (valW (wdI x)))) 111 [some (.ref (g.1 100)), some (.int (cc)), some (.long x), none, some (.int (nI 0))] [] (S g σ (tk w (nI e) (nI P) (0) (0))) := by
  have hx12 := wdI_le (x := x)
  have L111 : ∀ (m k : Nat), k + m = 12 → (ff (fun k => decide (wd k = x)) k m).getD 12 = wdI x → V E mX7_next 2 (.returned none, S g σ (tk w (nI e) (nI P) (tokW (wdI x)) (valW (wdI x)))) 111 [some (.ref (g.1 100)), some (.int (cc)), some (.long x), none, some (.int (nI k))] [] (S g σ (tk w (nI e) (nI P) (0) (0))) := by
    intro m
    induction m with
    | zero =>
      intro k hk hf
      obtain rfl : k = 12 := by omega
      rw [ff] at hf
      have hf : 12 = wdI x := hf
      rw [← hf]
      refine V.ild4 dX7_next_111 (V.bipush (v := 12) dX7_next_113 (by decide) (V.icmp_ge (tgt := 136) dX7_next_115 (by decide) (fun c_115 => ?_) (fun c_115 => absurd (show (12 : Int32) ≤ nI 12 by decide) c_115)))
      refine V.ald0 dX7_next_136 (V.ild4 dX7_next_137 (V.iconst_3 dX7_next_139 (V.icmp_ge (tgt := 147) dX7_next_140 (by decide) (fun c_140 => ?_) (fun c_140 => absurd (show (3 : Int32) ≤ nI 12 by decide) c_140))))
      refine V.ild4 dX7_next_147 (V.bipush (v := 9) dX7_next_149 (by decide) (V.icmp_ge (tgt := 158) dX7_next_151 (by decide) (fun c_151 => ?_) (fun c_151 => absurd (show (9 : Int32) ≤ nI 12 by decide) c_151)))
      refine V.ild4 dX7_next_158 (V.bipush (v := 12) dX7_next_160 (by decide) (V.icmp_ne (tgt := 169) dX7_next_162 (by decide) (fun c_162 => absurd c_162 (show ¬ ¬ nI 12 = 12 by decide)) (fun c_162 => ?_)))
      refine V.iconst_m1 dX7_next_165 (V.goto (tgt := 176) dX7_next_166 (by decide) (PX7_217 hW rfl dX7_next_176 (V.ald0 dX7_next_179 (V.ild4 dX7_next_180 (V.iconst_3 dX7_next_182 (V.icmp_ge (tgt := 191) dX7_next_183 (by decide) (fun c_183 => ?_) (fun c_183 => absurd (show (3 : Int32) ≤ nI 12 by decide) c_183)))))))
      exact V.ild4 dX7_next_191 (V.iconst_3 dX7_next_193 (V.isub dX7_next_194 (PX7_220 hW rfl dX7_next_195 (V.goto (tgt := 387) dX7_next_198 (by decide) (V.vret dX7_next_387 rfl (by rw [tk42, tk43]; rfl))))))
    | succ m ih =>
      intro k hk hf
      rw [ff] at hf
      refine V.ild4 dX7_next_111 (V.bipush (v := 12) dX7_next_113 (by decide) (V.icmp_ge (tgt := 136) dX7_next_115 (by decide) (fun c_115 => absurd c_115 (show ¬ (12 : Int32) ≤ nI k from nI_ge (b := 12) (by omega) (by decide))) (fun c_115 => ?_)))
      refine V.ald0 dX7_next_118 (GX7_125 hW rfl dX7_next_119 (V.ild4 dX7_next_122 (V.lald hW.2.2.2.2.2 (by first | exact IX.n ‹_› (by decide) | exact IX.n (by omega) (by decide)) dX7_next_124 (V.lld2 dX7_next_125 (V.lcmp dX7_next_126 (V.if_eq (tgt := 136) dX7_next_127 (by decide) (fun c_127 => ?_) (fun c_127 => ?_)))))))
      · have c9 : wd k = x := (hWd k (by omega)).symm.trans (lce.mp c_127)
        rw [if_pos (decide_eq_true c9)] at hf
        have hf : k = wdI x := hf
        rw [← hf]
        refine V.ald0 dX7_next_136 (V.ild4 dX7_next_137 (V.iconst_3 dX7_next_139 (V.icmp_ge (tgt := 147) dX7_next_140 (by decide) (fun c_140 => ?_) (fun c_140 => ?_))))
        · refine V.ild4 dX7_next_147 (V.bipush (v := 9) dX7_next_149 (by decide) (V.icmp_ge (tgt := 158) dX7_next_151 (by decide) (fun c_151 => ?_) (fun c_151 => ?_)))
          · refine V.ild4 dX7_next_158 (V.bipush (v := 12) dX7_next_160 (by decide) (V.icmp_ne (tgt := 169) dX7_next_162 (by decide) (fun c_162 => ?_) (fun c_162 => absurd ((nI_eq (b := 12) (by omega) (by decide)).mp c_162) (by omega))))
            refine V.iconst_4 dX7_next_169 (V.ild4 dX7_next_170 (V.iadd dX7_next_172 (V.bipush (v := 9) dX7_next_173 (by decide) (V.isub dX7_next_175 (PX7_217 hW rfl dX7_next_176 (V.ald0 dX7_next_179 (V.ild4 dX7_next_180 (V.iconst_3 dX7_next_182 (V.icmp_ge (tgt := 191) dX7_next_183 (by decide) (fun c_183 => ?_) (fun c_183 => ?_))))))))))
            · exact V.ild4 dX7_next_191 (V.iconst_3 dX7_next_193 (V.isub dX7_next_194 (PX7_220 hW rfl dX7_next_195 (V.goto (tgt := 387) dX7_next_198 (by decide) (V.vret dX7_next_387 rfl (by rw [tk42, tk43]; first | (simp only [tokW, valW, if_pos c_140, if_pos c_151, if_pos c_183, if_neg (show ¬ nI k = 12 from c_162)]; done) | (simp only [tokW, valW, if_pos c_140, if_neg c_151, if_pos c_183]; done) | (simp only [tokW, valW, if_neg c_140, if_neg c_183]; done) | exact absurd c_140 c_183 | exact absurd c_183 c_140))))))
            · exact V.ild4 dX7_next_186 (V.goto (tgt := 195) dX7_next_188 (by decide) (PX7_220 hW rfl dX7_next_195 (V.goto (tgt := 387) dX7_next_198 (by decide) (V.vret dX7_next_387 rfl (by rw [tk42, tk43]; first | (simp only [tokW, valW, if_pos c_140, if_pos c_151, if_pos c_183, if_neg (show ¬ nI k = 12 from c_162)]; done) | (simp only [tokW, valW, if_pos c_140, if_neg c_151, if_pos c_183]; done) | (simp only [tokW, valW, if_neg c_140, if_neg c_183]; done) | exact absurd c_140 c_183 | exact absurd c_183 c_140)))))
          · refine V.iconst_2 dX7_next_154 (V.goto (tgt := 176) dX7_next_155 (by decide) (PX7_217 hW rfl dX7_next_176 (V.ald0 dX7_next_179 (V.ild4 dX7_next_180 (V.iconst_3 dX7_next_182 (V.icmp_ge (tgt := 191) dX7_next_183 (by decide) (fun c_183 => ?_) (fun c_183 => ?_)))))))
            · exact V.ild4 dX7_next_191 (V.iconst_3 dX7_next_193 (V.isub dX7_next_194 (PX7_220 hW rfl dX7_next_195 (V.goto (tgt := 387) dX7_next_198 (by decide) (V.vret dX7_next_387 rfl (by rw [tk42, tk43]; first | (simp only [tokW, valW, if_pos c_140, if_pos c_151, if_pos c_183, if_neg (show ¬ nI k = 12 from c_162)]; done) | (simp only [tokW, valW, if_pos c_140, if_neg c_151, if_pos c_183]; done) | (simp only [tokW, valW, if_neg c_140, if_neg c_183]; done) | exact absurd c_140 c_183 | exact absurd c_183 c_140))))))
            · exact V.ild4 dX7_next_186 (V.goto (tgt := 195) dX7_next_188 (by decide) (PX7_220 hW rfl dX7_next_195 (V.goto (tgt := 387) dX7_next_198 (by decide) (V.vret dX7_next_387 rfl (by rw [tk42, tk43]; first | (simp only [tokW, valW, if_pos c_140, if_pos c_151, if_pos c_183, if_neg (show ¬ nI k = 12 from c_162)]; done) | (simp only [tokW, valW, if_pos c_140, if_neg c_151, if_pos c_183]; done) | (simp only [tokW, valW, if_neg c_140, if_neg c_183]; done) | exact absurd c_140 c_183 | exact absurd c_183 c_140)))))
        · refine V.iconst_3 dX7_next_143 (V.goto (tgt := 176) dX7_next_144 (by decide) (PX7_217 hW rfl dX7_next_176 (V.ald0 dX7_next_179 (V.ild4 dX7_next_180 (V.iconst_3 dX7_next_182 (V.icmp_ge (tgt := 191) dX7_next_183 (by decide) (fun c_183 => ?_) (fun c_183 => ?_)))))))
          · exact V.ild4 dX7_next_191 (V.iconst_3 dX7_next_193 (V.isub dX7_next_194 (PX7_220 hW rfl dX7_next_195 (V.goto (tgt := 387) dX7_next_198 (by decide) (V.vret dX7_next_387 rfl (by rw [tk42, tk43]; first | (simp only [tokW, valW, if_pos c_140, if_pos c_151, if_pos c_183, if_neg (show ¬ nI k = 12 from c_162)]; done) | (simp only [tokW, valW, if_pos c_140, if_neg c_151, if_pos c_183]; done) | (simp only [tokW, valW, if_neg c_140, if_neg c_183]; done) | exact absurd c_140 c_183 | exact absurd c_183 c_140))))))
          · exact V.ild4 dX7_next_186 (V.goto (tgt := 195) dX7_next_188 (by decide) (PX7_220 hW rfl dX7_next_195 (V.goto (tgt := 387) dX7_next_198 (by decide) (V.vret dX7_next_387 rfl (by rw [tk42, tk43]; first | (simp only [tokW, valW, if_pos c_140, if_pos c_151, if_pos c_183, if_neg (show ¬ nI k = 12 from c_162)]; done) | (simp only [tokW, valW, if_pos c_140, if_neg c_151, if_pos c_183]; done) | (simp only [tokW, valW, if_neg c_140, if_neg c_183]; done) | exact absurd c_140 c_183 | exact absurd c_183 c_140)))))
      · have c9 : ¬ wd k = x := fun z => c_127 (lce.mpr ((hWd k (by omega)).trans z))
        refine V.inc4 dX7_next_130 (V.goto (tgt := 111) dX7_next_133 (by decide) ?_)
        rw [nI_1]
        rw [if_neg (by rw [decide_eq_false c9]; decide)] at hf
        exact ih (k + 1) (by omega) hf
  exact L111 12 0 (by omega) rfl

theorem nx_214 {E : En} {g : Ge} {σ : Sg} {w : Wv} (hW : WM g σ) (hWd : HW g σ) {N P : Nat} {cc : Int32} (hN : w 100 18 = nI N) (hN2 : N ≤ 160) (hP : P ≤ N) : V E mX7_next 2 (.returned none, S g σ (tk w (nI (runF isD (w 118) (N - P) P)) (nI P) (if nI (runF isD (w 118) (N - P) P - P) ≤ 4 then 1 else -1) (dgL (w 118) (runF isD (w 118) (N - P) P - P) P 0 0))) 214 [some (.ref (g.1 100)), some (.int (cc)), some (.int (nI 0)), none, none] [] (S g σ (tk w (nI P) (nI P) (0) (0))) := by
  obtain ⟨R, hR⟩ : ∃ R, runF isD (w 118) (N - P) P = R := ⟨_, rfl⟩
  obtain ⟨D, hD⟩ : ∃ D, dgL (w 118) (runF isD (w 118) (N - P) P - P) P 0 0 = D := ⟨_, rfl⟩
  rw [hD, hR]
  have H277 : ∀ (m : Nat), (∀ (p k : Nat) (x : Int32), p + m = N → p = P + k → runF isD (w 118) m p = R → dgL (w 118) (runF isD (w 118) m p - p) p k x = D → V E mX7_next 2 (.returned none, S g σ (tk w (nI R) (nI P) (if nI (R - P) ≤ 4 then 1 else -1) D)) 214 [some (.ref (g.1 100)), some (.int (cc)), some (.int (nI k)), none, none] [] (S g σ (tk w (nI p) (nI P) (0) (x)))) → ∀ (p k : Nat) (x z : Int32), p + (m + 1) = N → p = P + k → runF isD (w 118) (m + 1) p = R → dgL (w 118) (runF isD (w 118) (m + 1) p - p) p k x = D → isD (w 118 p) = true → (if 4 ≤ nI k then 0 else 10 * x + w 118 p - 48) = z → V E mX7_next 2 (.returned none, S g σ (tk w (nI R) (nI P) (if nI (R - P) ≤ 4 then 1 else -1) D)) 277 [some (.ref (g.1 100)), some (.int (cc)), some (.int (nI k)), none, none] [] (S g σ (tk w (nI p) (nI P) (0) (z))) := by
    intro m ih p k x z hp hk hr hx c9 hz
    refine V.inc2 dX7_next_277 (V.ald0 dX7_next_280 (V.dup dX7_next_281 (GX7_211 hW rfl dX7_next_282 (V.iconst_1 dX7_next_285 (V.iadd dX7_next_286 (PX7_211 hW rfl dX7_next_287 (V.goto (tgt := 214) dX7_next_290 (by decide) ?_)))))))
    rw [tk40]
    have hr' : runF isD (w 118) (m + 1) p = runF isD (w 118) m (p + 1) := by rw [runF, if_pos c9]
    rw [hr'] at hr hx
    have hb := (runF_b (P := isD) (B := w 118) m (p + 1)).1
    rw [show runF isD (w 118) m (p + 1) - p = (runF isD (w 118) m (p + 1) - (p + 1)) + 1 by omega, dgL, hz] at hx
    rw [show tk w (nI p) (nI P) 0 z 100 40 + 1 = nI (p + 1) from nI_1 p, nI_1]
    exact ih (p + 1) (k + 1) z (by omega) (by omega) hr hx
  have L214 : ∀ (m p k : Nat) (x : Int32), p + m = N → p = P + k → runF isD (w 118) m p = R → dgL (w 118) (runF isD (w 118) m p - p) p k x = D → V E mX7_next 2 (.returned none, S g σ (tk w (nI R) (nI P) (if nI (R - P) ≤ 4 then 1 else -1) D)) 214 [some (.ref (g.1 100)), some (.int (cc)), some (.int (nI k)), none, none] [] (S g σ (tk w (nI p) (nI P) (0) (x))) := by
    intro m
    induction m with
    | zero =>
      intro p k x hp hk hr hx
      have hr' : runF isD (w 118) 0 p = p := rfl
      rw [hr'] at hr hx
      refine V.ald0 dX7_next_214 (GX7_211 hW rfl dX7_next_215 (V.ald0 dX7_next_218 (GX7_206 hW rfl dX7_next_219 (V.icmp_ge (tgt := 293) dX7_next_222 (by decide) (fun c_222 => ?_) (fun c_222 => absurd (show w 100 18 ≤ nI p by rw [hN]; exact nI_le (by omega) (by omega)) c_222)))))
      refine V.ald0 dX7_next_293 (V.ild2 dX7_next_294 (V.iconst_4 dX7_next_295 (V.icmp_le (tgt := 303) dX7_next_296 (by decide) (fun c_296 => ?_) (fun c_296 => ?_))))
      · exact V.iconst_1 dX7_next_303 (PX7_217 hW rfl dX7_next_304 (V.goto (tgt := 387) dX7_next_307 (by decide) (V.vret dX7_next_387 rfl ((by have hx' := hx; rw [Nat.sub_self] at hx'; have hx' : x = _ := hx'; rw [tk42, ← hx', ← hr, show p - P = k by omega]; first | rw [if_pos c_296] | rw [if_neg c_296])))))
      · exact V.iconst_m1 dX7_next_299 (V.goto (tgt := 304) dX7_next_300 (by decide) (PX7_217 hW rfl dX7_next_304 (V.goto (tgt := 387) dX7_next_307 (by decide) (V.vret dX7_next_387 rfl ((by have hx' := hx; rw [Nat.sub_self] at hx'; have hx' : x = _ := hx'; rw [tk42, ← hx', ← hr, show p - P = k by omega]; first | rw [if_pos c_296] | rw [if_neg c_296]))))))
    | succ m ih =>
      intro p k x hp hk hr hx
      refine V.ald0 dX7_next_214 (GX7_211 hW rfl dX7_next_215 (V.ald0 dX7_next_218 (GX7_206 hW rfl dX7_next_219 (V.icmp_ge (tgt := 293) dX7_next_222 (by decide) (fun c_222 => absurd c_222 (show ¬ w 100 18 ≤ nI p by rw [hN]; exact nI_ge (by omega) (by omega))) (fun c_222 => ?_)))))
      refine V.ald0 dX7_next_225 (GX7_52 hW rfl dX7_next_226 (V.ald0 dX7_next_229 (GX7_211 hW rfl dX7_next_230 (aM17 (j := p) hW (IX.of (show tk w (nI p) (nI P) 0 x 100 40 = nI p from rfl) (by omega) (by decide)) dX7_next_233 (V.bipush (v := 48) dX7_next_234 (by decide) (V.bipush (v := 57) dX7_next_236 (by decide) (V.invS3r sX7_159 dX7_next_238 c_X7_in (V.ifb_eq (tgt := 293) dX7_next_241 (by decide) (fun c_241 => ?_) (fun c_241 => ?_)))))))))
      · have c9 : isD (w 118 p) = false := c_241
        have hr' : runF isD (w 118) (m + 1) p = p := by rw [runF, if_neg (by rw [c9]; decide)]
        rw [hr'] at hr hx
        refine V.ald0 dX7_next_293 (V.ild2 dX7_next_294 (V.iconst_4 dX7_next_295 (V.icmp_le (tgt := 303) dX7_next_296 (by decide) (fun c_296 => ?_) (fun c_296 => ?_))))
        · exact V.iconst_1 dX7_next_303 (PX7_217 hW rfl dX7_next_304 (V.goto (tgt := 387) dX7_next_307 (by decide) (V.vret dX7_next_387 rfl ((by have hx' := hx; rw [Nat.sub_self] at hx'; have hx' : x = _ := hx'; rw [tk42, ← hx', ← hr, show p - P = k by omega]; first | rw [if_pos c_296] | rw [if_neg c_296])))))
        · exact V.iconst_m1 dX7_next_299 (V.goto (tgt := 304) dX7_next_300 (by decide) (PX7_217 hW rfl dX7_next_304 (V.goto (tgt := 387) dX7_next_307 (by decide) (V.vret dX7_next_387 rfl ((by have hx' := hx; rw [Nat.sub_self] at hx'; have hx' : x = _ := hx'; rw [tk42, ← hx', ← hr, show p - P = k by omega]; first | rw [if_pos c_296] | rw [if_neg c_296]))))))
      · refine V.ald0 dX7_next_244 (V.ild2 dX7_next_245 (V.iconst_4 dX7_next_246 (V.icmp_ge (tgt := 273) dX7_next_247 (by decide) (fun c_247 => ?_) (fun c_247 => ?_))))
        · refine V.iconst_0 dX7_next_273 (PX7_220 hW rfl dX7_next_274 ?_)
          rw [tk43]
          exact H277 m ih p k x _ hp hk hr hx c_241 (by first | (rw [if_pos c_247]; done) | (rw [if_neg c_247]; rfl))
        · refine V.bipush (v := 10) dX7_next_250 (by decide) (V.ald0 dX7_next_252 (GX7_220 hW rfl dX7_next_253 (V.imul dX7_next_256 (V.ald0 dX7_next_257 (GX7_52 hW rfl dX7_next_258 (V.ald0 dX7_next_261 (GX7_211 hW rfl dX7_next_262 (aM17 (j := p) hW (IX.of (show tk w (nI p) (nI P) 0 x 100 40 = nI p from rfl) (by omega) (by decide)) dX7_next_265 (V.iadd dX7_next_266 (V.bipush (v := 48) dX7_next_267 (by decide) (V.isub dX7_next_269 (V.goto (tgt := 274) dX7_next_270 (by decide) (PX7_220 hW rfl dX7_next_274 ?_)))))))))))))
          rw [tk43]
          exact H277 m ih p k x _ hp hk hr hx c_241 (by first | (rw [if_pos c_247]; done) | (rw [if_neg c_247]; rfl))
  exact L214 (N - P) P 0 0 (by omega) (by omega) hR hD

theorem nx_364 {E : En} {g : Ge} {σ : Sg} {w : Wv} (hW : WM g σ) (hWd : HW g σ) {P : Nat} {s : Int32} : V E mX7_next 2 (.returned none, S g σ (tk w (nI (P + 1)) (nI P) (if s = 0 then -1 else w 118 P) 0)) 364 [some (.ref (g.1 100)), some (.int (w 118 P)), some (.int (s)), none, none] [] (S g σ (tk w (nI P) (nI P) (0) (0))) := by
  refine V.ald0 dX7_next_364 (V.ild2 dX7_next_365 (V.if_eq (tgt := 373) dX7_next_366 (by decide) (fun c_366 => ?_) (fun c_366 => ?_)))
  · refine V.iconst_m1 dX7_next_373 (PX7_217 hW rfl dX7_next_374 ?_)
    rw [tk42]
    exact V.ald0 dX7_next_377 (V.dup dX7_next_378 (GX7_211 hW rfl dX7_next_379 (V.iconst_1 dX7_next_382 (V.iadd dX7_next_383 (PX7_211 hW rfl dX7_next_384 (V.vret dX7_next_387 rfl (by rw [tk40, show ∀ z, tk w (nI P) (nI P) z 0 100 40 + 1 = nI (P + 1) from fun _ => nI_1 P]; first | rw [if_pos c_366] | rw [if_neg c_366])))))))
  · refine V.ild1 dX7_next_369 (V.goto (tgt := 374) dX7_next_370 (by decide) (PX7_217 hW rfl dX7_next_374 ?_))
    rw [tk42]
    exact V.ald0 dX7_next_377 (V.dup dX7_next_378 (GX7_211 hW rfl dX7_next_379 (V.iconst_1 dX7_next_382 (V.iadd dX7_next_383 (PX7_211 hW rfl dX7_next_384 (V.vret dX7_next_387 rfl (by rw [tk40, show ∀ z, tk w (nI P) (nI P) z 0 100 40 + 1 = nI (P + 1) from fun _ => nI_1 P]; first | rw [if_pos c_366] | rw [if_neg c_366])))))))

theorem c_X7_next {E : En} {g : Ge} {σ : Sg} {w : Wv} (hW : WM g σ) (hWd : HW g σ) {b t y : Int32} {N a : Nat} (hN : w 100 18 = nI N) (hN2 : N ≤ 160) (ha : a ≤ N) : Ct E mX7_next 2 [.ref (g.1 100)] (.returned none, S g σ (tk w (nI (lexM (w 118) N a).2.2.2) (nI (lexM (w 118) N a).1) (lexM (w 118) N a).2.1 (lexM (w 118) N a).2.2.1)) (S g σ (tk w (nI a) (b) (t) (y))) := by
  show V E mX7_next 2 _ 0 [some (.ref (g.1 100)), none, none, none, none] [] (S g σ (tk w (nI a) (b) (t) (y)))
  have H52 : ∀ P, runF isB (w 118) (N - a) a = P → P ≤ N → V E mX7_next 2 (.returned none, S g σ (tk w (nI (lexM (w 118) N a).2.2.2) (nI (lexM (w 118) N a).1) (lexM (w 118) N a).2.1 (lexM (w 118) N a).2.2.1)) 52 [some (.ref (g.1 100)), none, none, none, none] [] (S g σ (tk w (nI P) (b) (t) (y))) := by
    intro P hP hPN
    refine V.ald0 dX7_next_52 (V.ald0 dX7_next_53 (GX7_211 hW rfl dX7_next_54 (PX7_214 hW rfl dX7_next_57 (V.ald0 dX7_next_60 (V.iconst_0 dX7_next_61 (PX7_217 hW rfl dX7_next_62 (V.ald0 dX7_next_65 (V.iconst_0 dX7_next_66 (PX7_220 hW rfl dX7_next_67 (V.ald0 dX7_next_70 (GX7_211 hW rfl dX7_next_71 (V.ald0 dX7_next_74 ?_))))))))))))
    refine GX7_206 hW rfl dX7_next_75 (V.icmp_ne (tgt := 82) dX7_next_78 (by decide) (fun c_78 => ?_) (fun c_78 => ?_))
    · rw [tk41, tk42, tk43]
      have hlt' : P < N := by
        rcases Nat.lt_or_ge P N with h | h
        · exact h
        · exact absurd (show nI P = w 100 18 by rw [hN, show P = N by omega]) c_78
      have hlex : lexM (w 118) N a = (P, lexT (w 118) N P) := by unfold lexM; show (if runF isB (w 118) (N - a) a = N then _ else _) = _; rw [hP, if_neg (by omega)]
      
      refine V.ald0 dX7_next_82 (GX7_52 hW rfl dX7_next_83 (V.ald0 dX7_next_86 (GX7_211 hW rfl dX7_next_87 (aM17 (j := P) hW (IX.of (show tk w (nI P) (nI P) 0 0 100 40 = nI P from rfl) (by omega) (by decide)) dX7_next_90 (V.ist1 dX7_next_91 (V.ild1 dX7_next_92 (V.bipush (v := 97) dX7_next_93 (by decide) (V.bipush (v := 122) dX7_next_95 (by decide) (V.invS3r sX7_159 dX7_next_97 c_X7_in (V.ifb_eq (tgt := 201) dX7_next_100 (by decide) (fun c_100 => ?_) (fun c_100 => ?_)))))))))))
      · refine V.ild1 dX7_next_201 (V.bipush (v := 48) dX7_next_202 (by decide) (V.bipush (v := 57) dX7_next_204 (by decide) (V.invS3r sX7_159 dX7_next_206 c_X7_in (V.ifb_eq (tgt := 310) dX7_next_209 (by decide) (fun c_209 => ?_) (fun c_209 => ?_)))))
        · refine V.ild1 dX7_next_310 (V.bipush (v := 40) dX7_next_311 (by decide) (V.icmp_eq (tgt := 358) dX7_next_313 (by decide) (fun c_313 => ?_) (fun c_313 => ?_)))
          · have hg : isG (w 118 P) = true := by unfold isG; first | (rw [show w 118 P = 40 from c_313]; rfl) | (rw [show w 118 P = 41 from c_319]; rfl) | (rw [show w 118 P = 59 from c_325]; rfl) | (rw [show w 118 P = 43 from c_331]; rfl) | (rw [show w 118 P = 45 from c_337]; rfl) | (rw [show w 118 P = 42 from c_343]; rfl) | (rw [show w 118 P = 60 from c_349]; rfl) | (rw [show w 118 P = 61 from c_355]; rfl)
            refine V.iconst_1 dX7_next_358 (V.goto (tgt := 363) dX7_next_359 (by decide) (V.ist2 dX7_next_363 ?_))
            have hn : isL (w 118 P) = false := c_100
            have hd : isD (w 118 P) = false := c_209
            have hlt : lexT (w 118) N P = ((if isG (w 118 P) then w 118 P else -1), 0, P + 1) := by unfold lexT; rw [if_neg (by rw [hn]; decide), if_neg (by rw [hd]; decide)]
            rw [hlex, hlt, hg]
            first
              | exact nx_364 (s := 1) hW hWd
              | exact nx_364 (s := 0) hW hWd
          · refine V.ild1 dX7_next_316 (V.bipush (v := 41) dX7_next_317 (by decide) (V.icmp_eq (tgt := 358) dX7_next_319 (by decide) (fun c_319 => ?_) (fun c_319 => ?_)))
            · have hg : isG (w 118 P) = true := by unfold isG; first | (rw [show w 118 P = 40 from c_313]; rfl) | (rw [show w 118 P = 41 from c_319]; rfl) | (rw [show w 118 P = 59 from c_325]; rfl) | (rw [show w 118 P = 43 from c_331]; rfl) | (rw [show w 118 P = 45 from c_337]; rfl) | (rw [show w 118 P = 42 from c_343]; rfl) | (rw [show w 118 P = 60 from c_349]; rfl) | (rw [show w 118 P = 61 from c_355]; rfl)
              refine V.iconst_1 dX7_next_358 (V.goto (tgt := 363) dX7_next_359 (by decide) (V.ist2 dX7_next_363 ?_))
              have hn : isL (w 118 P) = false := c_100
              have hd : isD (w 118 P) = false := c_209
              have hlt : lexT (w 118) N P = ((if isG (w 118 P) then w 118 P else -1), 0, P + 1) := by unfold lexT; rw [if_neg (by rw [hn]; decide), if_neg (by rw [hd]; decide)]
              rw [hlex, hlt, hg]
              first
                | exact nx_364 (s := 1) hW hWd
                | exact nx_364 (s := 0) hW hWd
            · refine V.ild1 dX7_next_322 (V.bipush (v := 59) dX7_next_323 (by decide) (V.icmp_eq (tgt := 358) dX7_next_325 (by decide) (fun c_325 => ?_) (fun c_325 => ?_)))
              · have hg : isG (w 118 P) = true := by unfold isG; first | (rw [show w 118 P = 40 from c_313]; rfl) | (rw [show w 118 P = 41 from c_319]; rfl) | (rw [show w 118 P = 59 from c_325]; rfl) | (rw [show w 118 P = 43 from c_331]; rfl) | (rw [show w 118 P = 45 from c_337]; rfl) | (rw [show w 118 P = 42 from c_343]; rfl) | (rw [show w 118 P = 60 from c_349]; rfl) | (rw [show w 118 P = 61 from c_355]; rfl)
                refine V.iconst_1 dX7_next_358 (V.goto (tgt := 363) dX7_next_359 (by decide) (V.ist2 dX7_next_363 ?_))
                have hn : isL (w 118 P) = false := c_100
                have hd : isD (w 118 P) = false := c_209
                have hlt : lexT (w 118) N P = ((if isG (w 118 P) then w 118 P else -1), 0, P + 1) := by unfold lexT; rw [if_neg (by rw [hn]; decide), if_neg (by rw [hd]; decide)]
                rw [hlex, hlt, hg]
                first
                  | exact nx_364 (s := 1) hW hWd
                  | exact nx_364 (s := 0) hW hWd
              · refine V.ild1 dX7_next_328 (V.bipush (v := 43) dX7_next_329 (by decide) (V.icmp_eq (tgt := 358) dX7_next_331 (by decide) (fun c_331 => ?_) (fun c_331 => ?_)))
                · have hg : isG (w 118 P) = true := by unfold isG; first | (rw [show w 118 P = 40 from c_313]; rfl) | (rw [show w 118 P = 41 from c_319]; rfl) | (rw [show w 118 P = 59 from c_325]; rfl) | (rw [show w 118 P = 43 from c_331]; rfl) | (rw [show w 118 P = 45 from c_337]; rfl) | (rw [show w 118 P = 42 from c_343]; rfl) | (rw [show w 118 P = 60 from c_349]; rfl) | (rw [show w 118 P = 61 from c_355]; rfl)
                  refine V.iconst_1 dX7_next_358 (V.goto (tgt := 363) dX7_next_359 (by decide) (V.ist2 dX7_next_363 ?_))
                  have hn : isL (w 118 P) = false := c_100
                  have hd : isD (w 118 P) = false := c_209
                  have hlt : lexT (w 118) N P = ((if isG (w 118 P) then w 118 P else -1), 0, P + 1) := by unfold lexT; rw [if_neg (by rw [hn]; decide), if_neg (by rw [hd]; decide)]
                  rw [hlex, hlt, hg]
                  first
                    | exact nx_364 (s := 1) hW hWd
                    | exact nx_364 (s := 0) hW hWd
                · refine V.ild1 dX7_next_334 (V.bipush (v := 45) dX7_next_335 (by decide) (V.icmp_eq (tgt := 358) dX7_next_337 (by decide) (fun c_337 => ?_) (fun c_337 => ?_)))
                  · have hg : isG (w 118 P) = true := by unfold isG; first | (rw [show w 118 P = 40 from c_313]; rfl) | (rw [show w 118 P = 41 from c_319]; rfl) | (rw [show w 118 P = 59 from c_325]; rfl) | (rw [show w 118 P = 43 from c_331]; rfl) | (rw [show w 118 P = 45 from c_337]; rfl) | (rw [show w 118 P = 42 from c_343]; rfl) | (rw [show w 118 P = 60 from c_349]; rfl) | (rw [show w 118 P = 61 from c_355]; rfl)
                    refine V.iconst_1 dX7_next_358 (V.goto (tgt := 363) dX7_next_359 (by decide) (V.ist2 dX7_next_363 ?_))
                    have hn : isL (w 118 P) = false := c_100
                    have hd : isD (w 118 P) = false := c_209
                    have hlt : lexT (w 118) N P = ((if isG (w 118 P) then w 118 P else -1), 0, P + 1) := by unfold lexT; rw [if_neg (by rw [hn]; decide), if_neg (by rw [hd]; decide)]
                    rw [hlex, hlt, hg]
                    first
                      | exact nx_364 (s := 1) hW hWd
                      | exact nx_364 (s := 0) hW hWd
                  · refine V.ild1 dX7_next_340 (V.bipush (v := 42) dX7_next_341 (by decide) (V.icmp_eq (tgt := 358) dX7_next_343 (by decide) (fun c_343 => ?_) (fun c_343 => ?_)))
                    · have hg : isG (w 118 P) = true := by unfold isG; first | (rw [show w 118 P = 40 from c_313]; rfl) | (rw [show w 118 P = 41 from c_319]; rfl) | (rw [show w 118 P = 59 from c_325]; rfl) | (rw [show w 118 P = 43 from c_331]; rfl) | (rw [show w 118 P = 45 from c_337]; rfl) | (rw [show w 118 P = 42 from c_343]; rfl) | (rw [show w 118 P = 60 from c_349]; rfl) | (rw [show w 118 P = 61 from c_355]; rfl)
                      refine V.iconst_1 dX7_next_358 (V.goto (tgt := 363) dX7_next_359 (by decide) (V.ist2 dX7_next_363 ?_))
                      have hn : isL (w 118 P) = false := c_100
                      have hd : isD (w 118 P) = false := c_209
                      have hlt : lexT (w 118) N P = ((if isG (w 118 P) then w 118 P else -1), 0, P + 1) := by unfold lexT; rw [if_neg (by rw [hn]; decide), if_neg (by rw [hd]; decide)]
                      rw [hlex, hlt, hg]
                      first
                        | exact nx_364 (s := 1) hW hWd
                        | exact nx_364 (s := 0) hW hWd
                    · refine V.ild1 dX7_next_346 (V.bipush (v := 60) dX7_next_347 (by decide) (V.icmp_eq (tgt := 358) dX7_next_349 (by decide) (fun c_349 => ?_) (fun c_349 => ?_)))
                      · have hg : isG (w 118 P) = true := by unfold isG; first | (rw [show w 118 P = 40 from c_313]; rfl) | (rw [show w 118 P = 41 from c_319]; rfl) | (rw [show w 118 P = 59 from c_325]; rfl) | (rw [show w 118 P = 43 from c_331]; rfl) | (rw [show w 118 P = 45 from c_337]; rfl) | (rw [show w 118 P = 42 from c_343]; rfl) | (rw [show w 118 P = 60 from c_349]; rfl) | (rw [show w 118 P = 61 from c_355]; rfl)
                        refine V.iconst_1 dX7_next_358 (V.goto (tgt := 363) dX7_next_359 (by decide) (V.ist2 dX7_next_363 ?_))
                        have hn : isL (w 118 P) = false := c_100
                        have hd : isD (w 118 P) = false := c_209
                        have hlt : lexT (w 118) N P = ((if isG (w 118 P) then w 118 P else -1), 0, P + 1) := by unfold lexT; rw [if_neg (by rw [hn]; decide), if_neg (by rw [hd]; decide)]
                        rw [hlex, hlt, hg]
                        first
                          | exact nx_364 (s := 1) hW hWd
                          | exact nx_364 (s := 0) hW hWd
                      · refine V.ild1 dX7_next_352 (V.bipush (v := 61) dX7_next_353 (by decide) (V.icmp_ne (tgt := 362) dX7_next_355 (by decide) (fun c_355 => ?_) (fun c_355 => ?_)))
                        · have hg : isG (w 118 P) = false := by unfold isG; rw [decide_eq_false (show ¬ w 118 P = 40 from c_313), decide_eq_false (show ¬ w 118 P = 41 from c_319), decide_eq_false (show ¬ w 118 P = 59 from c_325), decide_eq_false (show ¬ w 118 P = 43 from c_331), decide_eq_false (show ¬ w 118 P = 45 from c_337), decide_eq_false (show ¬ w 118 P = 42 from c_343), decide_eq_false (show ¬ w 118 P = 60 from c_349), decide_eq_false (show ¬ w 118 P = 61 from c_355)]; rfl
                          refine V.iconst_0 dX7_next_362 (V.ist2 dX7_next_363 ?_)
                          have hn : isL (w 118 P) = false := c_100
                          have hd : isD (w 118 P) = false := c_209
                          have hlt : lexT (w 118) N P = ((if isG (w 118 P) then w 118 P else -1), 0, P + 1) := by unfold lexT; rw [if_neg (by rw [hn]; decide), if_neg (by rw [hd]; decide)]
                          rw [hlex, hlt, hg]
                          first
                            | exact nx_364 (s := 1) hW hWd
                            | exact nx_364 (s := 0) hW hWd
                        · have hg : isG (w 118 P) = true := by unfold isG; first | (rw [show w 118 P = 40 from c_313]; rfl) | (rw [show w 118 P = 41 from c_319]; rfl) | (rw [show w 118 P = 59 from c_325]; rfl) | (rw [show w 118 P = 43 from c_331]; rfl) | (rw [show w 118 P = 45 from c_337]; rfl) | (rw [show w 118 P = 42 from c_343]; rfl) | (rw [show w 118 P = 60 from c_349]; rfl) | (rw [show w 118 P = 61 from c_355]; rfl)
                          refine V.iconst_1 dX7_next_358 (V.goto (tgt := 363) dX7_next_359 (by decide) (V.ist2 dX7_next_363 ?_))
                          have hn : isL (w 118 P) = false := c_100
                          have hd : isD (w 118 P) = false := c_209
                          have hlt : lexT (w 118) N P = ((if isG (w 118 P) then w 118 P else -1), 0, P + 1) := by unfold lexT; rw [if_neg (by rw [hn]; decide), if_neg (by rw [hd]; decide)]
                          rw [hlex, hlt, hg]
                          first
                            | exact nx_364 (s := 1) hW hWd
                            | exact nx_364 (s := 0) hW hWd
        · have c8 : isL (w 118 P) = false := c_100
          have c9 : isD (w 118 P) = true := c_209
          have hlt : lexT (w 118) N P = ((if nI (runF isD (w 118) (N - P) P - P) ≤ 4 then 1 else -1), dgL (w 118) (runF isD (w 118) (N - P) P - P) P 0 0, runF isD (w 118) (N - P) P) := by unfold lexT; rw [if_neg (by rw [c8]; decide), if_pos c9]
          refine V.iconst_0 dX7_next_212 (V.ist2 dX7_next_213 ?_)
          have h7 := nx_214 (E := E) (cc := w 118 P) hW hWd hN hN2 hPN
          rw [hlex, hlt]
          exact h7
      · refine V.ald0 dX7_next_103 (V.invV0r vX7_223 hW.2.2.1 dX7_next_104 (c_X7_letters hW (b := nI P) (t := 0) (y := 0) hN hN2 hPN) (V.lst2 dX7_next_107 ?_))
        have c9 : isL (w 118 P) = true := c_100
        obtain ⟨e, he⟩ : ∃ e, runF isL (w 118) (N - P) P = e := ⟨_, rfl⟩
        obtain ⟨x, hxe⟩ : ∃ x, letF (w 118) P e = x := ⟨_, rfl⟩
        have hlt : lexT (w 118) N P = (tokW (wdI x), valW (wdI x), e) := by unfold lexT; rw [if_pos c9, ← hxe, ← he]
        rw [he, hxe]
        refine V.iconst_0 dX7_next_108 (V.ist4 dX7_next_109 ?_)
        have h7 := nx_111 (E := E) (w := w) hW hWd (x := x) (e := e) (P := P) (cc := w 118 P)
        rw [hlex, hlt]
        exact h7
    · exact V.vret dX7_next_81 rfl ((by rw [tk41, tk42, tk43]; have hz : P = N := (nI_eq (by omega) (by omega)).mp (show nI P = nI N from hN ▸ c_78); have hlex : lexM (w 118) N a = (N, 0, 0, N) := (by unfold lexM; show (if runF isB (w 118) (N - a) a = N then _ else _) = _; rw [hP, if_pos hz, hz]); rw [hlex, hz]; rfl))
  have L0 : ∀ (m p : Nat), p + m = N → runF isB (w 118) m p = runF isB (w 118) (N - a) a → V E mX7_next 2 (.returned none, S g σ (tk w (nI (lexM (w 118) N a).2.2.2) (nI (lexM (w 118) N a).1) (lexM (w 118) N a).2.1 (lexM (w 118) N a).2.2.1)) 0 [some (.ref (g.1 100)), none, none, none, none] [] (S g σ (tk w (nI p) (b) (t) (y))) := by
    intro m
    induction m with
    | zero =>
      intro p hp hr
      refine V.ald0 dX7_next_0 (GX7_211 hW rfl dX7_next_1 (V.ald0 dX7_next_4 (GX7_206 hW rfl dX7_next_5 (V.icmp_ge (tgt := 52) dX7_next_8 (by decide) (fun c_8 => ?_) (fun c_8 => absurd (show w 100 18 ≤ nI p by rw [hN]; exact nI_le (by omega) (by omega)) c_8)))))
      exact H52 p hr.symm (by omega)
    | succ m ih =>
      intro p hp hr
      rw [runF] at hr
      refine V.ald0 dX7_next_0 (GX7_211 hW rfl dX7_next_1 (V.ald0 dX7_next_4 (GX7_206 hW rfl dX7_next_5 (V.icmp_ge (tgt := 52) dX7_next_8 (by decide) (fun c_8 => absurd c_8 (show ¬ w 100 18 ≤ nI p by rw [hN]; exact nI_ge (by omega) (by omega))) (fun c_8 => ?_)))))
      refine V.ald0 dX7_next_11 (GX7_52 hW rfl dX7_next_12 (V.ald0 dX7_next_15 (GX7_211 hW rfl dX7_next_16 (aM17 (j := p) hW (IX.of (show tk w (nI p) b t y 100 40 = nI p from rfl) (by omega) (by decide)) dX7_next_19 (V.bipush (v := 32) dX7_next_20 (by decide) (V.icmp_eq (tgt := 39) dX7_next_22 (by decide) (fun c_22 => ?_) (fun c_22 => ?_)))))))
      · refine V.ald0 dX7_next_39 (V.dup dX7_next_40 (GX7_211 hW rfl dX7_next_41 (V.iconst_1 dX7_next_44 (V.iadd dX7_next_45 (PX7_211 hW rfl dX7_next_46 (V.goto (tgt := 0) dX7_next_49 (by decide) ?_))))))
        rw [tk40, show tk w (nI p) b t y 100 40 + 1 = nI (p + 1) from nI_1 p]
        rw [if_pos (by unfold isB; first | (rw [decide_eq_true (show w 118 p = 32 from c_22)]; rfl) | (rw [decide_eq_true (show w 118 p = 10 from c_36), Bool.or_true]))] at hr
        exact ih (p + 1) (by omega) hr
      · refine V.ald0 dX7_next_25 (GX7_52 hW rfl dX7_next_26 (V.ald0 dX7_next_29 (GX7_211 hW rfl dX7_next_30 (aM17 (j := p) hW (IX.of (show tk w (nI p) b t y 100 40 = nI p from rfl) (by omega) (by decide)) dX7_next_33 (V.bipush (v := 10) dX7_next_34 (by decide) (V.icmp_ne (tgt := 52) dX7_next_36 (by decide) (fun c_36 => ?_) (fun c_36 => ?_)))))))
        · rw [if_neg (by unfold isB; rw [decide_eq_false (show ¬ w 118 p = 32 from c_22), decide_eq_false (show ¬ w 118 p = 10 from c_36)]; decide)] at hr
          exact H52 p hr.symm (by omega)
        · refine V.ald0 dX7_next_39 (V.dup dX7_next_40 (GX7_211 hW rfl dX7_next_41 (V.iconst_1 dX7_next_44 (V.iadd dX7_next_45 (PX7_211 hW rfl dX7_next_46 (V.goto (tgt := 0) dX7_next_49 (by decide) ?_))))))
          rw [tk40, show tk w (nI p) b t y 100 40 + 1 = nI (p + 1) from nI_1 p]
          rw [if_pos (by unfold isB; first | (rw [decide_eq_true (show w 118 p = 32 from c_22)]; rfl) | (rw [decide_eq_true (show w 118 p = 10 from c_36), Bool.or_true]))] at hr
          exact ih (p + 1) (by omega) hr
  exact L0 (N - a) a (by omega) rfl

set_option maxRecDepth 100000
set_option maxHeartbeats 4000000
def sumL (f : Nat → Int64) : Nat → Nat → Int64 → Int64
  | _, 0, y => y
  | k, m + 1, y => sumL f (k + 1) m (y + f k)
theorem add64 {a b : Nat} (h : a + b < 2 ^ 31) : (nI a).toInt64 + (nI b).toInt64 = (nI (a + b)).toInt64 := by
  apply Int64.toInt_inj.mp
  rw [Int64.toInt_add, Int32.toInt_toInt64, Int32.toInt_toInt64, Int32.toInt_toInt64, nI_toInt (by omega), nI_toInt (by omega), nI_toInt h, Int.bmod_def]
  split <;> omega
theorem sumL_F {F : Nat → Int32} (hF : ∀ k, k < 4 → ∃ a, a ≤ 9 ∧ F k = nI a) : ∀ (m k b : Nat), k + m ≤ 4 → b + 9 * m < 1000 → sumL (fun k => (F k).toInt64) k m (nI b).toInt64 = (sumF F k m (nI b)).toInt64
  | 0, k, b, _, _ => rfl
  | m + 1, k, b, h1, h2 => by
    obtain ⟨a, ha, e⟩ := hF k (by omega)
    rw [sumL, sumF]
    simp only [e]
    rw [add64 (by omega), nI_add]
    exact sumL_F hF m (k + 1) (b + a) (by omega) (by omega)
theorem cnt_x {u : Wv} (hE : HE u) : sumL (fun k => (u 103 k).toInt64) 0 4 0 = (cntS u).toInt64 := by
  have h := sumL_F (F := u 103) (fun k hk => (hE.1 k hk).2.2) 4 0 0 (by omega) (by omega)
  rw [show (nI 0).toInt64 = 0 from rfl] at h
  rw [h]
  show (0 + u 103 0 + u 103 1 + u 103 2 + u 103 3).toInt64 = _
  rw [Int32.zero_add]; rfl
theorem cas_x {u : Wv} (hE : HE u) {r c p q : Nat} : sumL (fun k => (if asH u r c p (ab u q (u 102 k)) (fa u q) then 0 else u 103 k).toInt64) 0 4 0 = (casL u r c p q).toInt64 := by
  have h := sumL_F (F := fun k => if asH u r c p (ab u q (u 102 k)) (fa u q) then 0 else u 103 k) (fun k hk => by
    show ∃ a, a ≤ 9 ∧ (if asH u r c p (ab u q (u 102 k)) (fa u q) then 0 else u 103 k) = nI a
    by_cases hh : asH u r c p (ab u q (u 102 k)) (fa u q) = true
    · rw [if_pos hh]; exact ⟨0, by omega, rfl⟩
    · rw [if_neg hh]; exact (hE.1 k hk).2.2) 4 0 0 (by omega) (by omega)
  exact h
theorem XH.pL {g : Ge} {σ : Sg} {w u : Wv} {n : Nat} {K : Nat → Nat} (h : XH g σ w u n K) {a k : Nat} {v : Int64} : XH g (pL σ a k v) w u n K := h
theorem pL_pL {σ : Sg} {a k : Nat} {x y : Int64} : pL (pL σ a k x) a k y = pL σ a k y := by
  show (_, _, _, _, up2 (up2 (sL σ) a k x) a k y, _) = _
  rw [up2_up2]
theorem pL_at {σ : Sg} {a k : Nat} {x : Int64} : sL (pL σ a k x) a k = x := up2_eq _ _ _ _
theorem c_J10_abs_2 {E : En} {σ : Sg} {a : Int64} (h : 0 ≤ a) : Ct E mJ10_abs_2 0 [.long a] (.returned (some (.long (a))), σ) (σ) := by
  show V E mJ10_abs_2 0 _ 0 [some (.long a), none] [] (σ)
  refine V.lld0 dJ10_abs_2_0 (V.lconst_0 dJ10_abs_2_1 (V.lcmp dJ10_abs_2_2 (V.if_ge (tgt := 11) dJ10_abs_2_3 (by decide) (fun c_3 => ?_) (fun c_3 => absurd ((lg_cmp_ge a 0).mpr h) c_3))))
  exact V.lld0 dJ10_abs_2_11 (V.lret dJ10_abs_2_12 rfl (rfl))

theorem c_X0_weights {E : En} {g : Ge} {σ : Sg} {w u : Wv} {n : Nat} {K : Nat → Nat} (hX : XH g σ w u n K) (hE : HE u) : Ct E mX0_weights 0 [.ref (g.1 0)] (.returned (some (.long ((cntS u).toInt64))), S g σ w) (S g σ w) := by
  show V E mX0_weights 0 _ 0 [some (.ref (g.1 0)), none, none, none] [] (S g σ w)
  have L4 : ∀ (m k : Nat) (y : Int64), k + m = 4 → V E mX0_weights 0 (.returned (some (.long (sumL (fun k => (u 103 k).toInt64) k m y))), S g σ w) 4 [some (.ref (g.1 0)), some (.long y), none, some (.int (nI k))] [] (S g σ w) := by
    intro m
    induction m with
    | zero =>
      intro k y hk 
      refine V.ild3 dX0_weights_4 (V.iconst_4 dX0_weights_5 (V.icmp_ge (tgt := 25) dX0_weights_6 (by decide) (fun c_6 => ?_) (fun c_6 => absurd (show (4 : Int32) ≤ nI k by rw [show k = 4 by omega]; decide) c_6)))
      exact V.lld1 dX0_weights_25 (V.lret dX0_weights_26 rfl (rfl))
    | succ m ih =>
      intro k y hk 
      refine V.ild3 dX0_weights_4 (V.iconst_4 dX0_weights_5 (V.icmp_ge (tgt := 25) dX0_weights_6 (by decide) (fun c_6 => absurd c_6 (show ¬ (4 : Int32) ≤ nI k from fun z => absurd ((nI_leI (a := 4) (by omega) (by omega)).mp z) (by omega))) (fun c_6 => ?_)))
      refine V.lld1 dX0_weights_9 (V.ald0 dX0_weights_10 (GX0_16 hX rfl dX0_weights_11 (V.ild3 dX0_weights_14 (aX2 hX (IX.n (by omega) (by decide)) dX0_weights_15 (V.i2l dX0_weights_16 (V.ladd dX0_weights_17 (V.lst1 dX0_weights_18 (V.inc3 dX0_weights_19 (V.goto (tgt := 4) dX0_weights_22 (by decide) ?_)))))))))
      rw [nI_1, sumL]
      exact ih (k + 1) _ (by omega)
  refine V.lconst_0 dX0_weights_0 (V.lst1 dX0_weights_1 (V.iconst_0 dX0_weights_2 (V.ist3 dX0_weights_3 ?_)))
  rw [← cnt_x hE]
  exact L4 4 0 _ (by omega)

theorem c_X0_power {E : En} {σ : Sg} {x : Int64} {n : Nat} (hn : n < 2 ^ 30) : Ct E mX0_power 0 [.long x, .int (nI n)] (.returned (some (.long (pw x n 1))), σ) (σ) := by
  show V E mX0_power 0 _ 0 [some (.long x), none, some (.int (nI n)), none, none, none] [] (σ)
  have L5 : ∀ (m k : Nat) (a : Int64), k + m = n → pw x m a = pw x n 1 → V E mX0_power 0 (.returned (some (.long (pw x n 1))), σ) 5 [some (.long x), none, some (.int (nI n)), some (.long a), none, some (.int (nI k))] [] (σ) := by
    intro m
    induction m with
    | zero =>
      intro k a hk hs
      refine V.ild5 dX0_power_5 (V.ild2 dX0_power_7 (V.icmp_ge (tgt := 21) dX0_power_8 (by decide) (fun c_8 => ?_) (fun c_8 => absurd (by exact nI_le (by omega) (by omega)) c_8)))
      exact V.lld3 dX0_power_21 (V.lret dX0_power_22 rfl (by rw [← hs]; rfl))
    | succ m ih =>
      intro k a hk hs
      refine V.ild5 dX0_power_5 (V.ild2 dX0_power_7 (V.icmp_ge (tgt := 21) dX0_power_8 (by decide) (fun c_8 => absurd c_8 (by first | exact nI_ge (by omega) (by omega) | exact fun h9 => absurd ((nI_leI (by omega) (by omega)).mp h9) (by omega))) (fun c_8 => ?_)))
      refine V.lld3 dX0_power_11 (V.lld0 dX0_power_12 (V.lmul dX0_power_13 (V.lst3 dX0_power_14 (V.inc5 dX0_power_15 (V.goto (tgt := 5) dX0_power_18 (by decide) ?_)))))
      rw [nI_1]
      exact ih (k + 1) _ (by omega) hs
  refine V.lconst_1 dX0_power_0 (V.lst3 dX0_power_1 (V.iconst_0 dX0_power_2 (V.ist5 dX0_power_3 ?_)))
  exact L5 n 0 1 (by omega) rfl

theorem low_x {x z : Int64} {p : Int32} (hz : ¬ z = 0) (hp : p = 0 ∨ p = 1) : (if p = 0 then x else z) / gl z.toInt.natAbs x z = lowS x z p := by
  rw [lowS]
  by_cases h : x = 0
  · rw [if_pos h]
    subst h
    have hg : gl z.toInt.natAbs 0 z = z := by
      cases hn : z.toInt.natAbs with
      | zero => exact absurd (l_z hn) hz
      | succ k =>
        rw [gl, if_neg hz, l_rem, show (0 : Int64) % z = 0 by apply Int64.toInt_inj.mp; rw [Int64.toInt_mod, Int64.toInt_zero, Int.zero_tmod]]
        cases k with
        | zero => rfl
        | succ k => rw [gl, if_pos rfl]
    rw [hg]
    rcases hp with rfl | rfl
    · rw [if_pos rfl]
      apply Int64.toInt_inj.mp
      rw [Int64.toInt_div, Int64.toInt_zero, Int.zero_tdiv]; rfl
    · rw [if_neg (by decide)]
      apply Int64.toInt_inj.mp
      rw [Int64.toInt_div, Int.tdiv_self (fun q => hz (Int64.toInt_inj.mp (by rw [q]; rfl)))]; rfl
  · rw [if_neg h]
theorem c_X0_lowest {E : En} {σ : Sg} {x z : Int64} {p : Int32} (hx : 0 ≤ x) (hz : ¬ z = 0) (hp : p = 0 ∨ p = 1) : Ct E mX0_lowest 1 [.long x, .long z, .int p] (.returned (some (.long (lowS x z p))), σ) (σ) := by
  show V E mX0_lowest 1 _ 0 [some (.long x), none, some (.long z), none, some (.int p), none, none, none, none, none, none] [] (σ)
  refine V.lld0 dX0_lowest_0 (V.invS1r sX0_332 dX0_lowest_1 (c_J10_abs_2 hx) (V.lst5 dX0_lowest_4 (V.lld2 dX0_lowest_6 (V.lst7 dX0_lowest_7 ?_))))
  have L9 : ∀ (n : Nat) (a b : Int64) (y : Option Value), b.toInt.natAbs ≤ n → ¬ (a = 0 ∧ b = 0) → gl n a b = gl z.toInt.natAbs x z → V E mX0_lowest 1 (.returned (some (.long (lowS x z p))), σ) 9 [some (.long x), none, some (.long z), none, some (.int p), some (.long a), none, some (.long b), none, y, none] [] σ := by
    intro n
    induction n with
    | zero =>
      intro a b y hb hn hs
      have hb0 := l_z (b := b) (by omega)
      refine V.lld7 dX0_lowest_9 (V.lconst_0 dX0_lowest_11 (V.lcmp dX0_lowest_12 (V.if_eq (tgt := 34) dX0_lowest_13 (by decide) (fun c_13 => ?_) (fun c_13 => absurd (lcz.mpr hb0) c_13))))
      refine V.ild4 dX0_lowest_34 (V.if_ne (tgt := 43) dX0_lowest_36 (by decide) (fun c_36 => ?_) (fun c_36 => ?_))
      · exact V.lld2 dX0_lowest_43 (V.lld5 dX0_lowest_44 (V.ldiv dX0_lowest_46 (fun z => hn ⟨z, hb0⟩) (V.lret dX0_lowest_47 rfl (by rw [← low_x hz hp, ← hs]; simp [c_36, gl]))))
      · exact V.lld0 dX0_lowest_39 (V.goto (tgt := 44) dX0_lowest_40 (by decide) (V.lld5 dX0_lowest_44 (V.ldiv dX0_lowest_46 (fun z => hn ⟨z, hb0⟩) (V.lret dX0_lowest_47 rfl (by rw [← low_x hz hp, ← hs]; simp [c_36, gl])))))
    | succ n ih =>
      intro a b y hb hn hs
      refine V.lld7 dX0_lowest_9 (V.lconst_0 dX0_lowest_11 (V.lcmp dX0_lowest_12 (V.if_eq (tgt := 34) dX0_lowest_13 (by decide) (fun c_13 => ?_) (fun c_13 => ?_))))
      · refine V.ild4 dX0_lowest_34 (V.if_ne (tgt := 43) dX0_lowest_36 (by decide) (fun c_36 => ?_) (fun c_36 => ?_))
        · exact V.lld2 dX0_lowest_43 (V.lld5 dX0_lowest_44 (V.ldiv dX0_lowest_46 (fun z => hn ⟨z, lcz.mp c_13⟩) (V.lret dX0_lowest_47 rfl (by rw [← low_x hz hp, ← hs, gl, if_pos (lcz.mp c_13)]; simp [c_13, c_36]))))
        · exact V.lld0 dX0_lowest_39 (V.goto (tgt := 44) dX0_lowest_40 (by decide) (V.lld5 dX0_lowest_44 (V.ldiv dX0_lowest_46 (fun z => hn ⟨z, lcz.mp c_13⟩) (V.lret dX0_lowest_47 rfl (by rw [← low_x hz hp, ← hs, gl, if_pos (lcz.mp c_13)]; simp [c_13, c_36])))))
      · refine V.lld5 dX0_lowest_16 (V.lld7 dX0_lowest_18 (V.lrem dX0_lowest_20 (fun z => c_13 (lcz.mpr z)) (V.lst9 dX0_lowest_21 (V.lld7 dX0_lowest_23 (V.lst5 dX0_lowest_25 (V.lld9 dX0_lowest_27 (V.lst7 dX0_lowest_29 (V.goto (tgt := 9) dX0_lowest_31 (by decide) ?_))))))))
        exact ih _ _ _ (by have := l_rem_lt (a := a) (fun z => c_13 (lcz.mpr z)); omega) (fun z => c_13 (lcz.mpr z.1)) (by rw [← hs, gl, if_neg (fun z => c_13 (lcz.mpr z))])
  exact L9 _ _ _ _ (Nat.le_refl _) (fun h => hz h.2) rfl

theorem casE_no {u : Wv} {r c p q : Nat} (h : ∀ e, nea u r c p q (nI e) = false) : ∀ (m e : Nat) (s : Nat × Int64), casE u r c p q e m s = s
  | 0, _, _ => rfl
  | m + 1, e, s => by rw [casE, if_neg (by rw [h e]; decide)]; exact casE_no h m (e + 1) s
theorem po_m {u : Wv} {r c p : Nat} {y : Int64} (h4 : nO u ≤ 4) : (match ff (poB u r c p) 0 (nO u) with | some _ => (0 : Int64) | none => y) = (if poF u r c p = -1 then y else 0) := by
  rw [poF]
  cases hf : ff (poB u r c p) 0 (nO u) with
  | none => rfl
  | some k => have := ff_lt hf; rw [if_neg (nI_nm1 (by omega))]
theorem c_X0_chances {E : En} {g : Ge} {σ : Sg} {w u : Wv} {n : Nat} {K : Nat → Nat} (hX : XH g σ w u n K) {r : Nat} (hr : r < n) {p : Nat} (hp : p < 6) (hI : HI u) (hE : HE u) {c : Nat} (hc : c < 8) : Ct E mX0_chances 5 [.ref (g.1 0), .ref (g.1 (60 + r)), .int (nI c), .int (nI p)] (.returned none, S g (pL σ (g.1 0) 16 (casF u r c p)) (up2 w 0 17 (nI (casS u r c p).1))) (S g σ w) := by
  show V E mX0_chances 5 _ 0 [some (.ref (g.1 0)), some (.ref (g.1 (60 + r))), some (.int (nI c)), some (.int (nI p)), none, none, none, none, none, none] [] (S g σ w)
  have h6 := hX.2.2.1.1
  have hO6 := hI.posts.2
  have L170 : ∀ (m k : Nat) (y : Int64) (s : Nat × Int64) (z5 z6 z7 z8 z9 : Option Value), k + m = nO u → (match ff (poB u r c p) k m with | some _ => (0 : Int64) | none => y) = (if poF u r c p = -1 then s.2 else 0) → V E mX0_chances 5 (.returned none, S g (pL σ (g.1 0) 16 (if poF u r c p = -1 then (s).2 else 0)) (up2 w 0 17 (nI (s).1))) 170 [some (.ref (g.1 0)), some (.ref (g.1 (60 + r))), some (.int (nI c)), some (.int (nI p)), some (.int (nI k)), z5, z6, z7, z8, z9] [] (S g (pL σ (g.1 0) 16 y) (up2 w 0 17 (nI s.1))) := by
    intro m
    induction m with
    | zero =>
      intro k y s z5 z6 z7 z8 z9 hk hf
      have hXs : XH g (pL σ (g.1 0) 16 y) (up2 w 0 17 (nI s.1)) u n K := (hX.sc (a := 0) (b := 17) rfl).pL
      refine V.ild4 dX0_chances_170 (V.ald0 dX0_chances_172 (GX0_210 hXs rfl dX0_chances_173 (V.icmp_ge (tgt := 202) dX0_chances_176 (by decide) (fun c_176 => ?_) (fun c_176 => absurd (by rw [hI.posts.1]; exact nI_le (by omega) (by omega)) c_176))))
      exact V.vret dX0_chances_202 rfl (by rw [← hf]; rfl)
    | succ m ih =>
      intro k y s z5 z6 z7 z8 z9 hk hf
      have hXs : XH g (pL σ (g.1 0) 16 y) (up2 w 0 17 (nI s.1)) u n K := (hX.sc (a := 0) (b := 17) rfl).pL
      refine V.ild4 dX0_chances_170 (V.ald0 dX0_chances_172 (GX0_210 hXs rfl dX0_chances_173 (V.icmp_ge (tgt := 202) dX0_chances_176 (by decide) (fun c_176 => absurd c_176 (by rw [hI.posts.1]; first | exact nI_ge (by omega) (by omega) | exact fun h9 => absurd ((nI_leI (by omega) (by omega)).mp h9) (by omega))) (fun c_176 => ?_))))
      refine V.ald0 dX0_chances_179 (V.ald1 dX0_chances_180 (V.ild2 dX0_chances_181 (V.ild3 dX0_chances_182 (V.ild4 dX0_chances_183 (V.invV4r vX0_249 hXs.t0 dX0_chances_185 (c_X0_isPosted hXs hr hp (by omega)) (V.ifb_eq (tgt := 196) dX0_chances_188 (by decide) (fun c_188 => ?_) (fun c_188 => ?_)))))))
      · refine V.inc4 dX0_chances_196 (V.goto (tgt := 170) dX0_chances_199 (by decide) ?_)
        first
          | (rw [nI_1]; exact ih (k + 1) y s _ _ _ _ _ (by omega) (by rw [← hf, ff, if_neg (by rw [c_188]; decide)]))
          | (rw [nI_1, pL_pL]; exact ih (k + 1) 0 s _ _ _ _ _ (by omega) (by rw [← hf, ff, if_pos c_188]; cases ff (poB u r c p) (k + 1) m <;> rfl))
      · refine V.ald0 dX0_chances_191 (V.lconst_0 dX0_chances_192 (PX0_326 hXs rfl dX0_chances_193 (V.inc4 dX0_chances_196 (V.goto (tgt := 170) dX0_chances_199 (by decide) ?_))))
        first
          | (rw [nI_1]; exact ih (k + 1) y s _ _ _ _ _ (by omega) (by rw [← hf, ff, if_neg (by rw [c_188]; decide)]))
          | (rw [nI_1, pL_pL]; exact ih (k + 1) 0 s _ _ _ _ _ (by omega) (by rw [← hf, ff, if_pos c_188]; cases ff (poB u r c p) (k + 1) m <;> rfl))
  have L13 : ∀ (m0 q : Nat) (s : Nat × Int64) (z5 z6 z7 z8 z9 : Option Value), q + m0 = r → V E mX0_chances 5 (.returned none, S g (pL σ (g.1 0) 16 (if poF u r c p = -1 then (casQ u r c p q m0 s).2 else 0)) (up2 w 0 17 (nI (casQ u r c p q m0 s).1))) 13 [some (.ref (g.1 0)), some (.ref (g.1 (60 + r))), some (.int (nI c)), some (.int (nI p)), some (.int (nI q)), z5, z6, z7, z8, z9] [] (S g (pL σ (g.1 0) 16 s.2) (up2 w 0 17 (nI s.1))) := by
    intro m0
    induction m0 with
    | zero =>
      intro q s z5 z6 z7 z8 z9 hk 
      have hXs : XH g (pL σ (g.1 0) 16 s.2) (up2 w 0 17 (nI s.1)) u n K := (hX.sc (a := 0) (b := 17) rfl).pL
      refine V.ild4 dX0_chances_13 (V.ald1 dX0_chances_15 (GX0_228 hXs hr rfl dX0_chances_16 (V.icmp_ge (tgt := 167) dX0_chances_19 (by decide) (fun c_19 => ?_) (fun c_19 => absurd (by exact nI_le (by omega) (by omega)) c_19))))
      refine V.iconst_0 dX0_chances_167 (V.ist4 dX0_chances_168 ?_)
      rw [casQ]
      exact L170 (nO u) 0 s.2 s _ _ _ _ _ (by omega) (po_m hO6)
    | succ m0 ih =>
      intro q s z5 z6 z7 z8 z9 hk 
      have hXs : XH g (pL σ (g.1 0) 16 s.2) (up2 w 0 17 (nI s.1)) u n K := (hX.sc (a := 0) (b := 17) rfl).pL
      have hq : q < n := by omega
      have hS := hI.seats (hX.n6 hq)
      have L39 : ∀ (m9 e : Nat) (s : Nat × Int64) (z7 z8 z9 : Option Value), e + m9 = nS u q → V E mX0_chances 5 (.returned none, S g (pL σ (g.1 0) 16 (if poF u r c p = -1 then (casQ u r c p (q + 1) m0 (casE u r c p q e m9 s)).2 else 0)) (up2 w 0 17 (nI (casQ u r c p (q + 1) m0 (casE u r c p q e m9 s)).1))) 39 [some (.ref (g.1 0)), some (.ref (g.1 (60 + r))), some (.int (nI c)), some (.int (nI p)), some (.int (nI q)), some (.ref (g.1 (60 + q))), some (.int (nI e)), z7, z8, z9] [] (S g (pL σ (g.1 0) 16 s.2) (up2 w 0 17 (nI s.1))) := by
        intro m9
        induction m9 with
        | zero =>
          intro e s z7 z8 z9 hk9 
          have hXs : XH g (pL σ (g.1 0) 16 s.2) (up2 w 0 17 (nI s.1)) u n K := (hX.sc (a := 0) (b := 17) rfl).pL
          refine V.ild6 dX0_chances_39 (V.ald5 dX0_chances_41 (GX0_154 hXs hq rfl dX0_chances_43 (V.icmp_ge (tgt := 161) dX0_chances_46 (by decide) (fun c_46 => ?_) (fun c_46 => absurd (by rw [hS.1]; exact nI_le (by omega) (by omega)) c_46))))
          refine V.inc4 dX0_chances_161 (V.goto (tgt := 13) dX0_chances_164 (by decide) ?_)
          rw [nI_1, casE]
          exact ih (q + 1) s _ _ _ _ _ (by omega)
        | succ m9 ih9 =>
          intro e s z7 z8 z9 hk9 
          have hXs : XH g (pL σ (g.1 0) 16 s.2) (up2 w 0 17 (nI s.1)) u n K := (hX.sc (a := 0) (b := 17) rfl).pL
          have h8 := hS.2
          refine V.ild6 dX0_chances_39 (V.ald5 dX0_chances_41 (GX0_154 hXs hq rfl dX0_chances_43 (V.icmp_ge (tgt := 161) dX0_chances_46 (by decide) (fun c_46 => absurd c_46 (by rw [hS.1]; first | exact nI_ge (by omega) (by omega) | exact fun h9 => absurd ((nI_leI (by omega) (by omega)).mp h9) (by omega))) (fun c_46 => ?_))))
          refine V.ald0 dX0_chances_49 (V.ald1 dX0_chances_50 (V.ald5 dX0_chances_51 (V.invV2r vX0_231 hXs.t0 dX0_chances_53 (c_X0_isAhead hXs hr hq) (V.ifb_eq (tgt := 161) dX0_chances_56 (by decide) (fun c_56 => ?_) (fun c_56 => ?_)))))
          · have hno : ∀ e', nea u r c p q (nI e') = false := fun e' => by
              rw [decide_eq_true (show q < r by omega)] at c_56
              cases h1 : am u r <;> cases h2 : am u q <;> simp [h1, h2] at c_56 <;> simp [nea, h1, h2]
            rw [casE_no hno]
            refine V.inc4 dX0_chances_161 (V.goto (tgt := 13) dX0_chances_164 (by decide) ?_)
            rw [nI_1]
            exact ih (q + 1) s _ _ _ _ _ (by omega)
          · refine V.ald0 dX0_chances_59 (V.ald1 dX0_chances_60 (V.ild2 dX0_chances_61 (V.ild3 dX0_chances_62 (V.ald5 dX0_chances_63 (rX0_190 hXs hq rfl dX0_chances_65  (V.ald5 dX0_chances_68 (V.ild6 dX0_chances_70 (rX0_183 hXs hq rfl dX0_chances_72  (V.invV5r vX0_235 hXs.t0 dX0_chances_75 (c_X0_isBy hXs hr hp) (V.ifb_ne (tgt := 84) dX0_chances_78 (by decide) (fun c_78 => ?_) (fun c_78 => ?_)))))))))))
            · have hah := c_56
              rw [Bool.and_eq_true, Bool.and_eq_true] at hah
              have hnea : nea u r c p q (nI e) = true := by rw [nea, hah.1.2, hah.2, show decide (bes u r (nI c) p (pl u q (nI e)) (fa u q) ≤ fa u r) = true from c_78]; rfl
              have L90 : ∀ (m8 k : Nat) (y : Int64), k + m8 = 4 → sumL (fun k => (if asH u r c p (ab u q (u 102 k)) (fa u q) then 0 else u 103 k).toInt64) k m8 y = (casL u r c p q).toInt64 → V E mX0_chances 5 (.returned none, S g (pL σ (g.1 0) 16 (if poF u r c p = -1 then (casQ u r c p (q + 1) m0 (casE u r c p q e (m9 + 1) s)).2 else 0)) (up2 w 0 17 (nI (casQ u r c p (q + 1) m0 (casE u r c p q e (m9 + 1) s)).1))) 90 [some (.ref (g.1 0)), some (.ref (g.1 (60 + r))), some (.int (nI c)), some (.int (nI p)), some (.int (nI q)), some (.ref (g.1 (60 + q))), some (.int (nI e)), some (.long y), none, some (.int (nI k))] [] (S g (pL σ (g.1 0) 16 s.2) (up2 w 0 17 (nI s.1))) := by
                intro m8
                induction m8 with
                | zero =>
                  intro k y hk8 hl
                  refine V.ild9 dX0_chances_90 (V.iconst_4 dX0_chances_92 (V.icmp_ge (tgt := 134) dX0_chances_93 (by decide) (fun c_93 => ?_) (fun c_93 => absurd (show (4 : Int32) ≤ nI k by rw [show k = 4 by omega]; decide) c_93)))
                  refine V.ald0 dX0_chances_134 (V.dup dX0_chances_135 (GX0_326 hXs rfl dX0_chances_136 (V.lld7 dX0_chances_139 (V.lmul dX0_chances_141 (PX0_326 hXs rfl dX0_chances_142 ?_)))))
                  have hXt : XH g (pL (pL σ (g.1 0) 16 s.2) (g.1 0) 16 (sL (pL σ (g.1 0) 16 s.2) (g.1 0) 16 * y)) (up2 w 0 17 (nI s.1)) u n K := hXs
                  refine V.ald0 dX0_chances_145 (V.dup dX0_chances_146 (GX0_330 hXt rfl dX0_chances_147 (V.iconst_1 dX0_chances_150 (V.iadd dX0_chances_151 (PX0_330 hXt rfl dX0_chances_152 ?_)))))
                  have hy : y = (casL u r c p q).toInt64 := hl
                  rw [pL_pL, pL_at, hy, up2_eq, up2_up2, nI_1]
                  refine V.inc6 dX0_chances_155 (V.goto (tgt := 39) dX0_chances_158 (by decide) ?_)
                  rw [nI_1, casE, if_pos hnea]
                  exact ih9 (e + 1) (s.1 + 1, s.2 * (casL u r c p q).toInt64) _ _ _ (by omega)
                | succ m8 ih8 =>
                  intro k y hk8 hl
                  refine V.ild9 dX0_chances_90 (V.iconst_4 dX0_chances_92 (V.icmp_ge (tgt := 134) dX0_chances_93 (by decide) (fun c_93 => absurd c_93 (show ¬ (4 : Int32) ≤ nI k from fun z => absurd ((nI_leI (a := 4) (by omega) (by omega)).mp z) (by omega))) (fun c_93 => ?_)))
                  refine V.ald0 dX0_chances_96 (V.ald1 dX0_chances_97 (V.ild2 dX0_chances_98 (V.ild3 dX0_chances_99 (V.ald5 dX0_chances_100 (V.ald5 dX0_chances_102 (V.ild9 dX0_chances_104 (rX0_196 hXs hq rfl dX0_chances_106 hE (IX.n (by omega) (by decide)) (V.invV5r vX0_245 hXs.t0 dX0_chances_109 (c_X0_hides hXs hr hp hI hE hc hq) (V.ifb_ne (tgt := 128) dX0_chances_112 (by decide) (fun c_112 => ?_) (fun c_112 => ?_))))))))))
                  · refine V.inc9 dX0_chances_128 (V.goto (tgt := 90) dX0_chances_131 (by decide) ?_)
                    first
                      | (rw [nI_1]; exact ih8 (k + 1) _ (by omega) (by rw [← hl, sumL]; simp only [show asH u r c p (ab u q (u 102 k)) (fa u q) = false from c_112, Bool.false_eq_true, if_false]))
                      | (rw [nI_1]; exact ih8 (k + 1) _ (by omega) (by rw [← hl, sumL]; simp only [show asH u r c p (ab u q (u 102 k)) (fa u q) = true from c_112, if_true]; rw [show (0 : Int32).toInt64 = 0 from rfl, Int64.add_zero]))
                  · refine V.lld7 dX0_chances_115 (V.ald0 dX0_chances_117 (GX0_16 hXs rfl dX0_chances_118 (V.ild9 dX0_chances_121 (aX2 hXs (IX.n (by omega) (by decide)) dX0_chances_123 (V.i2l dX0_chances_124 (V.ladd dX0_chances_125 (V.lst7 dX0_chances_126 (V.inc9 dX0_chances_128 (V.goto (tgt := 90) dX0_chances_131 (by decide) ?_)))))))))
                    first
                      | (rw [nI_1]; exact ih8 (k + 1) _ (by omega) (by rw [← hl, sumL]; simp only [show asH u r c p (ab u q (u 102 k)) (fa u q) = false from c_112, Bool.false_eq_true, if_false]))
                      | (rw [nI_1]; exact ih8 (k + 1) _ (by omega) (by rw [← hl, sumL]; simp only [show asH u r c p (ab u q (u 102 k)) (fa u q) = true from c_112, if_true]; rw [show (0 : Int32).toInt64 = 0 from rfl, Int64.add_zero]))
              refine V.lconst_0 dX0_chances_84 (V.lst7 dX0_chances_85 (V.iconst_0 dX0_chances_87 (V.ist9 dX0_chances_88 ?_)))
              exact L90 4 0 0 (by omega) (cas_x hE)
            · refine V.goto (tgt := 155) dX0_chances_81 (by decide) (V.inc6 dX0_chances_155 (V.goto (tgt := 39) dX0_chances_158 (by decide) ?_))
              have hne : ¬ nea u r c p q (nI e) = true := by
                rw [nea, show decide (bes u r (nI c) p (pl u q (nI e)) (fa u q) ≤ fa u r) = false from c_78, Bool.and_false]; decide
              rw [nI_1, casE, if_neg hne]
              exact ih9 (e + 1) s _ _ _ (by omega)
      refine V.ild4 dX0_chances_13 (V.ald1 dX0_chances_15 (GX0_228 hXs hr rfl dX0_chances_16 (V.icmp_ge (tgt := 167) dX0_chances_19 (by decide) (fun c_19 => absurd c_19 (by first | exact nI_ge (by omega) (by omega) | exact fun h9 => absurd ((nI_leI (by omega) (by omega)).mp h9) (by omega))) (fun c_19 => ?_))))
      refine V.ald0 dX0_chances_22 (GX0_22 hXs rfl dX0_chances_23 (V.ild4 dX0_chances_26 (V.invV1r vX0_150 hXs.li.2.1 dX0_chances_28 (c_J2_get hXs hq) (ccX0_122 hXs hq rfl dX0_chances_31 (V.ast5 dX0_chances_34 (V.iconst_0 dX0_chances_36 (V.ist6 dX0_chances_37 ?_)))))))
      rw [casQ]
      exact L39 (nS u q) 0 s _ _ _ (by omega)
  refine V.ald0 dX0_chances_0 (V.lconst_1 dX0_chances_1 (PX0_326 hX rfl dX0_chances_2 ?_))
  have hX1 : XH g (pL σ (g.1 0) 16 1) w u n K := hX
  refine V.ald0 dX0_chances_5 (V.iconst_0 dX0_chances_6 (PX0_330 hX1 rfl dX0_chances_7 (V.iconst_0 dX0_chances_10 (V.ist4 dX0_chances_11 ?_))))
  exact L13 r 0 (0, 1) _ _ _ _ _ (by omega)

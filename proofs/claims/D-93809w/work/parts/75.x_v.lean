set_option maxRecDepth 100000
set_option maxHeartbeats 4000000
/-- the prices of all seats, in order -/
def prE (u : Wv) (r : Nat) : Nat → Nat → List Int32
  | _, 0 => []
  | c, m + 1 => priS u r c :: prE u r (c + 1) m
def prR (u : Wv) : Nat → Nat → List Int32
  | _, 0 => []
  | r, m + 1 => prE u r 0 (nS u r) ++ prR u (r + 1) m
def prL (u : Wv) : List Int32 := prR u 0 (nR u)
def cG (v : Nat) (L : List Int32) : Nat := L.countP (fun x => decide (v ≤ cl x))
def cQ (v : Nat) (L : List Int32) : Nat := L.countP (fun x => decide (cl x = v))
theorem cG_s (v : Nat) : ∀ L : List Int32, cG v L = cG (v + 1) L + cQ v L
  | [] => rfl
  | x :: L => by
    have ih := cG_s v L
    unfold cG cQ at ih ⊢
    rw [List.countP_cons, List.countP_cons, List.countP_cons, ih]
    simp only [decide_eq_true_eq]
    split <;> split <;> split <;> omega
theorem cG_le (v : Nat) (L : List Int32) : cG v L ≤ L.length := List.countP_le_length
theorem pri_le {u : Wv} {r c : Nat} : cl (priS u r c) ≤ 999 ∧ priS u r c = nI (cl (priS u r c)) := by
  have h := cl99 (x := val (nmF (worS u r c) 0 (nI r) (pl u r (nI c)) (fl u r) (so u r c)) (codeL u (ru u) 1)) (most := 999) (B := 999) rfl (by omega)
  have e : priS u r c = clampI (val (nmF (worS u r c) 0 (nI r) (pl u r (nI c)) (fl u r) (so u r c)) (codeL u (ru u) 1)) 999 := rfl
  rw [← e] at h
  obtain ⟨k, hk, e2⟩ := nI_of (fun z : priS u r c < 0 => by have := Int32.lt_iff_toInt_lt.mp z; rw [Int32.toInt_zero] at this; omega)
  rw [e2] at h ⊢
  rw [nI_toInt hk] at h
  rw [cl_n hk]
  exact ⟨by omega, rfl⟩
theorem prE_b {u : Wv} {r : Nat} : ∀ (m c : Nat), (prE u r c m).length = m ∧ ∀ x, x ∈ prE u r c m → cl x ≤ 999
  | 0, _ => ⟨rfl, fun _ h => nomatch h⟩
  | m + 1, c => by
    obtain ⟨h1, h2⟩ := prE_b (u := u) (r := r) m (c + 1)
    refine ⟨by rw [prE, List.length_cons, h1], fun x hx => ?_⟩
    rw [prE] at hx
    rcases List.mem_cons.mp hx with e | e
    · rw [e]; exact pri_le.1
    · exact h2 x e
theorem prR_b {u : Wv} (hI : HI u) : ∀ (m r : Nat), r + m ≤ 6 → (prR u r m).length ≤ 8 * m ∧ ∀ x, x ∈ prR u r m → cl x ≤ 999
  | 0, _, _ => ⟨Nat.le_refl _, fun _ h => nomatch h⟩
  | m + 1, r, h => by
    obtain ⟨h1, h2⟩ := prR_b hI m (r + 1) (by omega)
    obtain ⟨h3, h4⟩ := prE_b (u := u) (r := r) (nS u r) 0
    have h5 := (hI.seats (r := r) (by omega)).2
    refine ⟨by rw [prR, List.length_append]; omega, fun x hx => ?_⟩
    rw [prR] at hx
    rcases List.mem_append.mp hx with e | e
    · exact h4 x e
    · exact h2 x e
theorem prL_b {u : Wv} (hI : HI u) : (prL u).length ≤ 48 ∧ ∀ x, x ∈ prL u → cl x ≤ 999 := by
  have h := hI.rows.2
  have := prR_b hI (nR u) 0 (by omega)
  exact ⟨by unfold prL; omega, this.2⟩
theorem bmp_n {f : Nat → Int32} {k j : Nat} : bmp f k j = f j + nI (if k = j then 1 else 0) := by
  unfold bmp
  by_cases h : j = k
  · rw [if_pos h, if_pos h.symm]; rfl
  · rw [if_neg h, if_neg (fun z => h z.symm)]; show f j = f j + 0; rw [Int32.add_zero]
theorem solE_n {u : Wv} {r j : Nat} : ∀ (m c : Nat) (f : Nat → Int32), solE u r c m f j = f j + nI (cQ j (prE u r c m))
  | 0, c, f => by show f j = f j + 0; rw [Int32.add_zero]
  | m + 1, c, f => by
    rw [solE, solE_n m (c + 1), bmp_n, prE, Int32.add_assoc, nI_add]
    congr 2
    unfold cQ
    rw [List.countP_cons, Nat.add_comm]
    simp only [decide_eq_true_eq]
theorem solR_n {u : Wv} {j : Nat} : ∀ (m r : Nat) (f : Nat → Int32), solR u r m f j = f j + nI (cQ j (prR u r m))
  | 0, r, f => by show f j = f j + 0; rw [Int32.add_zero]
  | m + 1, r, f => by
    rw [solR, solR_n m (r + 1), solE_n, prR, Int32.add_assoc, nI_add]
    congr 2
    unfold cQ
    rw [List.countP_append]
theorem solS_n {u : Wv} {j : Nat} : solS u j = nI (cQ j (prL u)) := by
  rw [solS, solR_n]
  show 0 + _ = _
  rw [Int32.zero_add]; rfl
/-- best and most: the first from below by which most comes in -/
def Bst (F : Nat → Nat) (lo hi b M : Nat) : Prop := (M = 0 ∧ b = 0 ∧ ∀ k, lo ≤ k → k < hi → F k = 0) ∨ (0 < M ∧ lo ≤ b ∧ b < hi ∧ F b = M ∧ ∀ k, lo ≤ k → k < hi → F k ≤ M ∧ (k < b → F k < M))
theorem Bst.uq {F : Nat → Nat} {lo hi b M b' M' : Nat} (h : Bst F lo hi b M) (h' : Bst F lo hi b' M') : b = b' ∧ M = M' := by
  rcases h with ⟨h1, h2, h3⟩ | ⟨h1, h2, h3, h4, h5⟩ <;> rcases h' with ⟨g1, g2, g3⟩ | ⟨g1, g2, g3, g4, g5⟩
  · omega
  · have := h3 b' g2 g3; omega
  · have := g3 b h2 h3; omega
  · have a1 := h5 b' g2 g3
    have a2 := g5 b h2 h3
    have e : M = M' := by omega
    refine ⟨?_, e⟩
    rcases Nat.lt_trichotomy b b' with q | q | q
    · have := a2.2 q; omega
    · exact q
    · have := a1.2 q; omega
theorem Bst.hi {F : Nat → Nat} {lo hi b M : Nat} (hl : lo ≤ hi) (h : Bst F lo hi b M) : Bst F lo (hi + 1) (if F hi ≤ M then b else hi) (if F hi ≤ M then M else F hi) := by
  by_cases c : F hi ≤ M
  · rw [if_pos c, if_pos c]
    rcases h with ⟨h1, h2, h3⟩ | ⟨h1, h2, h3, h4, h5⟩
    · refine .inl ⟨h1, h2, fun k k1 k2 => ?_⟩
      by_cases e : k = hi
      · subst e; omega
      · exact h3 k k1 (by omega)
    · refine .inr ⟨h1, h2, by omega, h4, fun k k1 k2 => ?_⟩
      by_cases e : k = hi
      · subst e; exact ⟨c, fun z => by omega⟩
      · exact h5 k k1 (by omega)
  · rw [if_neg c, if_neg c]
    refine .inr ⟨by omega, hl, by omega, rfl, fun k k1 k2 => ?_⟩
    by_cases e : k = hi
    · subst e; exact ⟨Nat.le_refl _, fun z => by omega⟩
    · rcases h with ⟨h1, h2, h3⟩ | ⟨h1, h2, h3, h4, h5⟩
      · have := h3 k k1 (by omega); omega
      · have := h5 k k1 (by omega); omega
theorem Bst.lo {F : Nat → Nat} {lo hi b M : Nat} (hl : lo < hi) (h : Bst F (lo + 1) hi b M) : Bst F lo hi (if F lo = 0 ∨ F lo < M then b else lo) (if F lo = 0 ∨ F lo < M then M else F lo) := by
  by_cases c : F lo = 0 ∨ F lo < M
  · rw [if_pos c, if_pos c]
    rcases h with ⟨h1, h2, h3⟩ | ⟨h1, h2, h3, h4, h5⟩
    · refine .inl ⟨h1, h2, fun k k1 k2 => ?_⟩
      by_cases e : k = lo
      · subst e; omega
      · exact h3 k (by omega) k2
    · refine .inr ⟨h1, by omega, h3, h4, fun k k1 k2 => ?_⟩
      by_cases e : k = lo
      · subst e; exact ⟨by omega, fun z => by omega⟩
      · exact h5 k (by omega) k2
  · rw [if_neg c, if_neg c]
    refine .inr ⟨by omega, Nat.le_refl _, hl, rfl, fun k k1 k2 => ?_⟩
    by_cases e : k = lo
    · subst e; exact ⟨Nat.le_refl _, fun z => by omega⟩
    · rcases h with ⟨h1, h2, h3⟩ | ⟨h1, h2, h3, h4, h5⟩
      · have := h3 k (by omega) k2; omega
      · have := h5 k (by omega) k2; omega
theorem nI_ml {a b : Nat} : nI a * nI b = nI (a * b) := by
  apply Int32.toInt_inj.mp
  rw [Int32.toInt_mul, nI, nI, nI, Int32.toInt_ofNat', Int32.toInt_ofNat', Int32.toInt_ofNat']
  simp
theorem sF_le {L : List Int32} (hL : L.length ≤ 48) {k : Nat} (hk : k ≤ 1000) : k * cG k L ≤ 48000 := Nat.le_trans (Nat.mul_le_mul hk (Nat.le_trans (cG_le k L) hL)) (by decide)
theorem selD_n {u : Wv} {L : List Int32} (hL : L.length ≤ 48) (hs : ∀ j, solS u j = nI (cQ j L)) : ∀ (k b M : Nat), k ≤ 999 → M ≤ 48000 → Bst (fun v => v * cG v L) (k + 1) 1000 b M → ∃ b' M' c', selD (solS u) k (nI b, nI M, nI (cG (k + 1) L)) = (nI b', nI M', c') ∧ Bst (fun v => v * cG v L) 1 1000 b' M'
  | 0, b, M, _, _, h => ⟨b, M, _, rfl, h⟩
  | k + 1, b, M, h1, h2, h => by
    have hz := cG_s (k + 1) L
    have hl := cG_le (k + 1) L
    have hle := sF_le hL (k := k + 1) (by omega)
    have hn := h.lo (by omega)
    rw [selD, hs]
    simp only [nI_add]
    rw [← hz]
    have c1 : nI (cG (k + 1) L) ≤ 0 ↔ cG (k + 1) L = 0 := by
      rw [show (0 : Int32) = nI 0 from rfl, nI_leI (by omega) (by omega)]; omega
    have c2 : nI (k + 1) * nI (cG (k + 1) L) < nI M ↔ (k + 1) * cG (k + 1) L < M := by
      rw [nI_ml, Int32.lt_iff_toInt_lt, nI_toInt (by omega), nI_toInt (by omega)]; omega
    have c3 : (k + 1) * cG (k + 1) L = 0 ↔ cG (k + 1) L = 0 := by
      rw [Nat.mul_eq_zero]; omega
    by_cases q1 : cG (k + 1) L = 0
    · rw [if_pos (c1.mpr q1)]
      rw [if_pos (.inl (c3.mpr q1)), if_pos (.inl (c3.mpr q1))] at hn
      exact selD_n hL hs k b M (by omega) h2 hn
    · rw [if_neg (fun z => q1 (c1.mp z))]
      by_cases q2 : (k + 1) * cG (k + 1) L < M
      · rw [if_pos (c2.mpr q2)]
        rw [if_pos (.inr q2), if_pos (.inr q2)] at hn
        exact selD_n hL hs k b M (by omega) h2 hn
      · rw [if_neg (fun z => q2 (c2.mp z)), nI_ml]
        have q3 : ¬ ((k + 1) * cG (k + 1) L = 0 ∨ (k + 1) * cG (k + 1) L < M) := fun z => z.elim (fun z => q1 (c3.mp z)) q2
        rw [if_neg q3, if_neg q3] at hn
        exact selD_n hL hs k (k + 1) _ (by omega) hle hn
theorem cG_0 : ∀ {L : List Int32}, (∀ x, x ∈ L → cl x ≤ 999) → cG 1000 L = 0
  | [], _ => rfl
  | x :: L, h => by
    have ih := cG_0 (L := L) (fun y hy => h y (List.mem_cons_of_mem _ hy))
    have hx := h x (List.mem_cons_self)
    unfold cG at ih ⊢
    rw [List.countP_cons, ih, if_neg (by rw [decide_eq_true_eq]; omega)]
theorem sel_n {u : Wv} (hI : HI u) {b M : Nat} (h : Bst (fun v => v * cG v (prL u)) 1 1000 b M) : (selS u).1 = nI b ∧ (selS u).2.1 = nI M := by
  obtain ⟨h1, h2⟩ := prL_b hI
  obtain ⟨b', M', c', e, h3⟩ := selD_n h1 (fun j => solS_n (u := u)) 999 0 0 (Nat.le_refl _) (by omega) (.inl ⟨rfl, rfl, fun k k1 k2 => by omega⟩)
  rw [cG_0 h2] at e
  have e' : selS u = (nI b', nI M', c') := e
  obtain ⟨e1, e2⟩ := h.uq h3
  rw [e', e1, e2]
  exact ⟨rfl, rfl⟩
theorem c_X0_buyers {E : En} {g : Ge} {σ : Sg} {w u : Wv} {n : Nat} {K : Nat → Nat} (hX : XH g σ w u n K) (hI : HI u) (hE : HE u) (hT : HT u) (hR : TXR g σ u) {v : Nat} (hv0 : v < 1000) (hV : v = 1 ∨ ∀ i, i < (prL u).length → w 29 i = (prL u).getD i 0) : CtE E mX0_buyers 405 [.ref (g.1 0), .int (nI v)] (PR (.int (nI (cG v (prL u)))) (fun s => ∃ w', s = S g σ w' ∧ XH g σ w' u n K ∧ ∀ i, i < (prL u).length → w' 29 i = (prL u).getD i 0)) (S g σ w) := by
  show VE E mX0_buyers 405 _ 0 [some (.ref (g.1 0)), some (.int (nI v)), none, none, none, none] [] (S g σ w)
  have h6 := hX.2.2.1.1
  have prLb := prL_b hI
  have L7 : ∀ (m0 r : Nat) (pre : List Int32) (k a : Nat) (w1 : Wv) (z5 : Option Value), r + m0 = n → XH g σ w1 u n K → pre.length = a → prL u = pre ++ prR u r m0 → k = cG v pre → (∀ i, i < a → w1 29 i = (prL u).getD i 0) → (v = 1 ∨ ∀ i, i < (prL u).length → w1 29 i = (prL u).getD i 0) → VE E mX0_buyers 405 (PR (.int (nI (cG v (prL u)))) (fun s => ∃ w', s = S g σ w' ∧ XH g σ w' u n K ∧ ∀ i, i < (prL u).length → w' 29 i = (prL u).getD i 0)) 7 [some (.ref (g.1 0)), some (.int (nI v)), some (.int (nI k)), some (.int (nI a)), some (.int (nI r)), z5] [] (S g σ w1) := by
    intro m0
    induction m0 with
    | zero =>
      intro r pre k a w1 z5 hk hX ha hp hk hv hV
      rw [prR, List.append_nil] at hp
      have hpl := congrArg List.length hp
      rw [← hp] at hk
      refine VE.step (fun _ h => V.ild4 dX0_buyers_7 (V.ald0 dX0_buyers_9 (GX0_22 hX rfl dX0_buyers_10 (V.invV0r vX0_142 hX.li.2.1 dX0_buyers_13 (c_J2_size hX) h)))) ?_
      refine VE.icmp_ge (tgt := 89) dX0_buyers_16 (by decide) (fun c_16 => ?_) (fun c_16 => absurd (by exact nI_le (by omega) (by omega)) c_16)
      refine VE.step (fun _ h => V.ild2 dX0_buyers_89 h) ?_
      exact VE.iret dX0_buyers_90 rfl rfl (⟨by rw [hk], _, rfl, hX, fun i hi => by rcases hV with h9 | h9; exact hv i (by omega); exact h9 i hi⟩)
    | succ m0 ih =>
      intro r pre k a w1 z5 hk hX ha hp hk hv hV
      have hr : r < n := by omega
      have hS := hI.seats (hX.n6 hr)
      have hS8 := hS.2
      have L22 : ∀ (m9 c : Nat) (pre : List Int32) (k a : Nat) (w1 : Wv), c + m9 = nS u r → XH g σ w1 u n K → pre.length = a → prL u = pre ++ (prE u r c m9 ++ prR u (r + 1) m0) → k = cG v pre → (∀ i, i < a → w1 29 i = (prL u).getD i 0) → (v = 1 ∨ ∀ i, i < (prL u).length → w1 29 i = (prL u).getD i 0) → VE E mX0_buyers 405 (PR (.int (nI (cG v (prL u)))) (fun s => ∃ w', s = S g σ w' ∧ XH g σ w' u n K ∧ ∀ i, i < (prL u).length → w' 29 i = (prL u).getD i 0)) 22 [some (.ref (g.1 0)), some (.int (nI v)), some (.int (nI k)), some (.int (nI a)), some (.int (nI r)), some (.int (nI c))] [] (S g σ w1) := by
        intro m9
        induction m9 with
        | zero =>
          intro c pre k a w1 hk9 hX ha hp hk hv hV
          refine VE.step (fun _ h => V.ild5 dX0_buyers_22 (V.ald0 dX0_buyers_24 (GX0_22 hX rfl dX0_buyers_25 (V.ild4 dX0_buyers_28 (V.invV1r vX0_150 hX.li.2.1 dX0_buyers_30 (c_J2_get hX hr) (ccX0_122 hX hr rfl dX0_buyers_33 (GX0_154 hX hr rfl dX0_buyers_36 h))))))) ?_
          refine VE.icmp_ge (tgt := 83) dX0_buyers_39 (by decide) (fun c_39 => ?_) (fun c_39 => absurd (by rw [hS.1]; exact nI_le (by omega) (by omega)) c_39)
          refine VE.step (fun _ h => V.inc4 dX0_buyers_83 (V.goto (tgt := 7) dX0_buyers_86 (by decide) h)) ?_
          rw [nI_1]
          exact ih (r + 1) pre _ _ _ _ (by omega) hX ha hp hk hv hV
        | succ m9 ih9 =>
          intro c pre k a w1 hk9 hX ha hp hk hv hV
          have ha48 : a < (prL u).length := by rw [hp, List.length_append, prE]; simp only [List.cons_append, List.length_cons]; omega
          have hgD : (prL u).getD a 0 = priS u r c := by
            rw [hp, ← ha, List.getD_eq_getElem?_getD, List.getElem?_append_right (Nat.le_refl _), Nat.sub_self, prE]; rfl
          have hpi := pri_le (u := u) (r := r) (c := c)
          have hlt : priS u r c < nI v ↔ ¬ v ≤ cl (priS u r c) := by
            rw [hpi.2, cl_n (by omega), Int32.lt_iff_toInt_lt, nI_toInt (by omega), nI_toInt (by omega)]; omega
          have hk48 : k ≤ 48 := by rw [hk]; have := cG_le v pre; have := prLb.1; omega
          refine VE.step (fun _ h => V.ild5 dX0_buyers_22 (V.ald0 dX0_buyers_24 (GX0_22 hX rfl dX0_buyers_25 (V.ild4 dX0_buyers_28 (V.invV1r vX0_150 hX.li.2.1 dX0_buyers_30 (c_J2_get hX hr) (ccX0_122 hX hr rfl dX0_buyers_33 (GX0_154 hX hr rfl dX0_buyers_36 h))))))) ?_
          refine VE.icmp_ge (tgt := 83) dX0_buyers_39 (by decide) (fun c_39 => absurd c_39 (by rw [hS.1]; first | exact nI_ge (by omega) (by omega) | exact fun h9 => absurd ((nI_leI (by omega) (by omega)).mp h9) (by omega))) (fun c_39 => ?_)
          refine VE.step (fun _ h => V.ild1 dX0_buyers_42 (V.iconst_1 dX0_buyers_43 h)) ?_
          refine VE.icmp_ne (tgt := 61) dX0_buyers_44 (by decide) (fun c_44 => ?_) (fun c_44 => ?_)
          · first
              | have hX4 := hX3
              | have hX4 := hX
            refine VE.step (fun _ h => V.ald0 dX0_buyers_61 (GX0_67 hX4 rfl dX0_buyers_62 (V.ild3 dX0_buyers_65 (aX28 (j := a) hX4 (IX.n (by omega) (by decide)) dX0_buyers_66 h)))) ?_
            obtain ⟨w5, hw5⟩ : ∃ w5 : Wv, w5 = w5 := ⟨w, rfl⟩
            first
              | rw [up2_eq]
              | rw [show w1 29 a = priS u r c by rw [← hgD]; rcases hV with h9 | h9; exact absurd (show nI v = 1 by rw [h9]; rfl) c_44; exact h9 a ha48]
            refine VE.step (fun _ h => V.ild1 dX0_buyers_67 h) ?_
            refine VE.icmp_lt (tgt := 74) dX0_buyers_68 (by decide) (fun c_68 => ?_) (fun c_68 => ?_)
            · refine VE.step (fun _ h => V.inc3 dX0_buyers_74 (V.inc5 dX0_buyers_77 (V.goto (tgt := 22) dX0_buyers_80 (by decide) h))) ?_
              rw [nI_1, nI_1]
              first
                | (have HA : ∀ i, i < a + 1 → up2 w2 29 a (priS u r c) 29 i = (prL u).getD i 0 := fun i hi => by
                     by_cases e : i = a
                     · rw [e, up2_eq, hgD]
                     · rw [up2_ne _ _ (fun z => e z.2), hN9 29 (by decide)]; exact hv i (by omega)
                   have HB : v = 1 ∨ ∀ i, i < (prL u).length → up2 w2 29 a (priS u r c) 29 i = (prL u).getD i 0 := .inl hv1
                   first
                     | (exact ih9 (c + 1) (pre ++ [priS u r c]) _ (a + 1) _ (by omega) hX3 (by rw [List.length_append, ha]; rfl) (by rw [hp, prE, List.append_assoc]; rfl) (by rw [cG, List.countP_append, ← cG, ← hk]; rw [List.countP_cons, if_neg (by rw [decide_eq_true_eq]; exact hlt.mp c_68)]; rfl) HA HB)
                     | (rw [nI_1]; exact ih9 (c + 1) (pre ++ [priS u r c]) _ (a + 1) _ (by omega) hX3 (by rw [List.length_append, ha]; rfl) (by rw [hp, prE, List.append_assoc]; rfl) (by rw [cG, List.countP_append, ← cG, ← hk]; rw [List.countP_cons, if_pos (by rw [decide_eq_true_eq]; exact Decidable.not_not.mp (fun z => c_68 (hlt.mpr z)))]; rfl) HA HB))
                | (have hall : ∀ i, i < (prL u).length → w1 29 i = (prL u).getD i 0 := by
                     rcases hV with h9 | h9
                     · exact absurd (show nI v = 1 by rw [h9]; rfl) c_44
                     · exact h9
                   have HA : ∀ i, i < a + 1 → w1 29 i = (prL u).getD i 0 := fun i hi => hall i (by omega)
                   have HB : v = 1 ∨ ∀ i, i < (prL u).length → w1 29 i = (prL u).getD i 0 := .inr hall
                   first
                     | (exact ih9 (c + 1) (pre ++ [priS u r c]) _ (a + 1) _ (by omega) hX (by rw [List.length_append, ha]; rfl) (by rw [hp, prE, List.append_assoc]; rfl) (by rw [cG, List.countP_append, ← cG, ← hk]; rw [List.countP_cons, if_neg (by rw [decide_eq_true_eq]; exact hlt.mp c_68)]; rfl) HA HB)
                     | (rw [nI_1]; exact ih9 (c + 1) (pre ++ [priS u r c]) _ (a + 1) _ (by omega) hX (by rw [List.length_append, ha]; rfl) (by rw [hp, prE, List.append_assoc]; rfl) (by rw [cG, List.countP_append, ← cG, ← hk]; rw [List.countP_cons, if_pos (by rw [decide_eq_true_eq]; exact Decidable.not_not.mp (fun z => c_68 (hlt.mpr z)))]; rfl) HA HB))
            · refine VE.step (fun _ h => V.inc2 dX0_buyers_71 (V.inc3 dX0_buyers_74 (V.inc5 dX0_buyers_77 (V.goto (tgt := 22) dX0_buyers_80 (by decide) h)))) ?_
              rw [nI_1, nI_1]
              first
                | (have HA : ∀ i, i < a + 1 → up2 w2 29 a (priS u r c) 29 i = (prL u).getD i 0 := fun i hi => by
                     by_cases e : i = a
                     · rw [e, up2_eq, hgD]
                     · rw [up2_ne _ _ (fun z => e z.2), hN9 29 (by decide)]; exact hv i (by omega)
                   have HB : v = 1 ∨ ∀ i, i < (prL u).length → up2 w2 29 a (priS u r c) 29 i = (prL u).getD i 0 := .inl hv1
                   first
                     | (exact ih9 (c + 1) (pre ++ [priS u r c]) _ (a + 1) _ (by omega) hX3 (by rw [List.length_append, ha]; rfl) (by rw [hp, prE, List.append_assoc]; rfl) (by rw [cG, List.countP_append, ← cG, ← hk]; rw [List.countP_cons, if_neg (by rw [decide_eq_true_eq]; exact hlt.mp c_68)]; rfl) HA HB)
                     | (rw [nI_1]; exact ih9 (c + 1) (pre ++ [priS u r c]) _ (a + 1) _ (by omega) hX3 (by rw [List.length_append, ha]; rfl) (by rw [hp, prE, List.append_assoc]; rfl) (by rw [cG, List.countP_append, ← cG, ← hk]; rw [List.countP_cons, if_pos (by rw [decide_eq_true_eq]; exact Decidable.not_not.mp (fun z => c_68 (hlt.mpr z)))]; rfl) HA HB))
                | (have hall : ∀ i, i < (prL u).length → w1 29 i = (prL u).getD i 0 := by
                     rcases hV with h9 | h9
                     · exact absurd (show nI v = 1 by rw [h9]; rfl) c_44
                     · exact h9
                   have HA : ∀ i, i < a + 1 → w1 29 i = (prL u).getD i 0 := fun i hi => hall i (by omega)
                   have HB : v = 1 ∨ ∀ i, i < (prL u).length → w1 29 i = (prL u).getD i 0 := .inr hall
                   first
                     | (exact ih9 (c + 1) (pre ++ [priS u r c]) _ (a + 1) _ (by omega) hX (by rw [List.length_append, ha]; rfl) (by rw [hp, prE, List.append_assoc]; rfl) (by rw [cG, List.countP_append, ← cG, ← hk]; rw [List.countP_cons, if_neg (by rw [decide_eq_true_eq]; exact hlt.mp c_68)]; rfl) HA HB)
                     | (rw [nI_1]; exact ih9 (c + 1) (pre ++ [priS u r c]) _ (a + 1) _ (by omega) hX (by rw [List.length_append, ha]; rfl) (by rw [hp, prE, List.append_assoc]; rfl) (by rw [cG, List.countP_append, ← cG, ← hk]; rw [List.countP_cons, if_pos (by rw [decide_eq_true_eq]; exact Decidable.not_not.mp (fun z => c_68 (hlt.mpr z)))]; rfl) HA HB))
          · have hv1 : v = 1 := by
              have h2 := congrArg Int32.toInt c_44
              rw [nI_toInt (by omega)] at h2
              have h3 : ((v : Nat) : Int) = 1 := h2
              omega
            refine VE.step (fun _ h => V.ald0 dX0_buyers_47 (GX0_67 hX rfl dX0_buyers_48 (V.ild3 dX0_buyers_51 (V.ald0 dX0_buyers_52 (V.ild4 dX0_buyers_53 (V.ild5 dX0_buyers_55 h)))))) ?_
            refine VE.invV2r vX0_291 hX.t0 dX0_buyers_57 (c_X0_price hX hI hE hT hR) (fun s9 q9 => ?_)
            obtain ⟨w2, rfl, hX2, hN9⟩ := q9
            rw [pri_nn hI hX hr (by omega)]
            have hX3 := hX2.sc (a := 29) (b := a) rfl (x := priS u r c)
            refine VE.step (fun _ h => sX28 (j := a) hX2 (IX.n (by omega) (by decide)) dX0_buyers_60 h) ?_
            first
              | have hX4 := hX3
              | have hX4 := hX
            refine VE.step (fun _ h => V.ald0 dX0_buyers_61 (GX0_67 hX4 rfl dX0_buyers_62 (V.ild3 dX0_buyers_65 (aX28 (j := a) hX4 (IX.n (by omega) (by decide)) dX0_buyers_66 h)))) ?_
            obtain ⟨w5, hw5⟩ : ∃ w5 : Wv, w5 = w5 := ⟨w, rfl⟩
            first
              | rw [up2_eq]
              | rw [show w1 29 a = priS u r c by rw [← hgD]; rcases hV with h9 | h9; exact absurd (show nI v = 1 by rw [h9]; rfl) c_44; exact h9 a ha48]
            refine VE.step (fun _ h => V.ild1 dX0_buyers_67 h) ?_
            refine VE.icmp_lt (tgt := 74) dX0_buyers_68 (by decide) (fun c_68 => ?_) (fun c_68 => ?_)
            · refine VE.step (fun _ h => V.inc3 dX0_buyers_74 (V.inc5 dX0_buyers_77 (V.goto (tgt := 22) dX0_buyers_80 (by decide) h))) ?_
              rw [nI_1, nI_1]
              first
                | (have HA : ∀ i, i < a + 1 → up2 w2 29 a (priS u r c) 29 i = (prL u).getD i 0 := fun i hi => by
                     by_cases e : i = a
                     · rw [e, up2_eq, hgD]
                     · rw [up2_ne _ _ (fun z => e z.2), hN9 29 (by decide)]; exact hv i (by omega)
                   have HB : v = 1 ∨ ∀ i, i < (prL u).length → up2 w2 29 a (priS u r c) 29 i = (prL u).getD i 0 := .inl hv1
                   first
                     | (exact ih9 (c + 1) (pre ++ [priS u r c]) _ (a + 1) _ (by omega) hX3 (by rw [List.length_append, ha]; rfl) (by rw [hp, prE, List.append_assoc]; rfl) (by rw [cG, List.countP_append, ← cG, ← hk]; rw [List.countP_cons, if_neg (by rw [decide_eq_true_eq]; exact hlt.mp c_68)]; rfl) HA HB)
                     | (rw [nI_1]; exact ih9 (c + 1) (pre ++ [priS u r c]) _ (a + 1) _ (by omega) hX3 (by rw [List.length_append, ha]; rfl) (by rw [hp, prE, List.append_assoc]; rfl) (by rw [cG, List.countP_append, ← cG, ← hk]; rw [List.countP_cons, if_pos (by rw [decide_eq_true_eq]; exact Decidable.not_not.mp (fun z => c_68 (hlt.mpr z)))]; rfl) HA HB))
                | (have hall : ∀ i, i < (prL u).length → w1 29 i = (prL u).getD i 0 := by
                     rcases hV with h9 | h9
                     · exact absurd (show nI v = 1 by rw [h9]; rfl) c_44
                     · exact h9
                   have HA : ∀ i, i < a + 1 → w1 29 i = (prL u).getD i 0 := fun i hi => hall i (by omega)
                   have HB : v = 1 ∨ ∀ i, i < (prL u).length → w1 29 i = (prL u).getD i 0 := .inr hall
                   first
                     | (exact ih9 (c + 1) (pre ++ [priS u r c]) _ (a + 1) _ (by omega) hX (by rw [List.length_append, ha]; rfl) (by rw [hp, prE, List.append_assoc]; rfl) (by rw [cG, List.countP_append, ← cG, ← hk]; rw [List.countP_cons, if_neg (by rw [decide_eq_true_eq]; exact hlt.mp c_68)]; rfl) HA HB)
                     | (rw [nI_1]; exact ih9 (c + 1) (pre ++ [priS u r c]) _ (a + 1) _ (by omega) hX (by rw [List.length_append, ha]; rfl) (by rw [hp, prE, List.append_assoc]; rfl) (by rw [cG, List.countP_append, ← cG, ← hk]; rw [List.countP_cons, if_pos (by rw [decide_eq_true_eq]; exact Decidable.not_not.mp (fun z => c_68 (hlt.mpr z)))]; rfl) HA HB))
            · refine VE.step (fun _ h => V.inc2 dX0_buyers_71 (V.inc3 dX0_buyers_74 (V.inc5 dX0_buyers_77 (V.goto (tgt := 22) dX0_buyers_80 (by decide) h)))) ?_
              rw [nI_1, nI_1]
              first
                | (have HA : ∀ i, i < a + 1 → up2 w2 29 a (priS u r c) 29 i = (prL u).getD i 0 := fun i hi => by
                     by_cases e : i = a
                     · rw [e, up2_eq, hgD]
                     · rw [up2_ne _ _ (fun z => e z.2), hN9 29 (by decide)]; exact hv i (by omega)
                   have HB : v = 1 ∨ ∀ i, i < (prL u).length → up2 w2 29 a (priS u r c) 29 i = (prL u).getD i 0 := .inl hv1
                   first
                     | (exact ih9 (c + 1) (pre ++ [priS u r c]) _ (a + 1) _ (by omega) hX3 (by rw [List.length_append, ha]; rfl) (by rw [hp, prE, List.append_assoc]; rfl) (by rw [cG, List.countP_append, ← cG, ← hk]; rw [List.countP_cons, if_neg (by rw [decide_eq_true_eq]; exact hlt.mp c_68)]; rfl) HA HB)
                     | (rw [nI_1]; exact ih9 (c + 1) (pre ++ [priS u r c]) _ (a + 1) _ (by omega) hX3 (by rw [List.length_append, ha]; rfl) (by rw [hp, prE, List.append_assoc]; rfl) (by rw [cG, List.countP_append, ← cG, ← hk]; rw [List.countP_cons, if_pos (by rw [decide_eq_true_eq]; exact Decidable.not_not.mp (fun z => c_68 (hlt.mpr z)))]; rfl) HA HB))
                | (have hall : ∀ i, i < (prL u).length → w1 29 i = (prL u).getD i 0 := by
                     rcases hV with h9 | h9
                     · exact absurd (show nI v = 1 by rw [h9]; rfl) c_44
                     · exact h9
                   have HA : ∀ i, i < a + 1 → w1 29 i = (prL u).getD i 0 := fun i hi => hall i (by omega)
                   have HB : v = 1 ∨ ∀ i, i < (prL u).length → w1 29 i = (prL u).getD i 0 := .inr hall
                   first
                     | (exact ih9 (c + 1) (pre ++ [priS u r c]) _ (a + 1) _ (by omega) hX (by rw [List.length_append, ha]; rfl) (by rw [hp, prE, List.append_assoc]; rfl) (by rw [cG, List.countP_append, ← cG, ← hk]; rw [List.countP_cons, if_neg (by rw [decide_eq_true_eq]; exact hlt.mp c_68)]; rfl) HA HB)
                     | (rw [nI_1]; exact ih9 (c + 1) (pre ++ [priS u r c]) _ (a + 1) _ (by omega) hX (by rw [List.length_append, ha]; rfl) (by rw [hp, prE, List.append_assoc]; rfl) (by rw [cG, List.countP_append, ← cG, ← hk]; rw [List.countP_cons, if_pos (by rw [decide_eq_true_eq]; exact Decidable.not_not.mp (fun z => c_68 (hlt.mpr z)))]; rfl) HA HB))
      refine VE.step (fun _ h => V.ild4 dX0_buyers_7 (V.ald0 dX0_buyers_9 (GX0_22 hX rfl dX0_buyers_10 (V.invV0r vX0_142 hX.li.2.1 dX0_buyers_13 (c_J2_size hX) h)))) ?_
      refine VE.icmp_ge (tgt := 89) dX0_buyers_16 (by decide) (fun c_16 => absurd c_16 (by first | exact nI_ge (by omega) (by omega) | exact fun h9 => absurd ((nI_leI (by omega) (by omega)).mp h9) (by omega))) (fun c_16 => ?_)
      refine VE.step (fun _ h => V.iconst_0 dX0_buyers_19 (V.ist5 dX0_buyers_20 h)) ?_
      exact L22 (nS u r) 0 pre _ _ _ (by omega) hX ha hp hk hv hV
  refine VE.step (fun _ h => V.iconst_0 dX0_buyers_0 (V.ist2 dX0_buyers_1 (V.iconst_0 dX0_buyers_2 (V.ist3 dX0_buyers_3 (V.iconst_0 dX0_buyers_4 (V.ist4 dX0_buyers_5 h)))))) ?_
  exact L7 n 0 [] 0 0 _ _ (by omega) hX rfl (by rw [prL, hX.nrw]; rfl) rfl (fun i hi => absurd hi (by omega)) hV

theorem nI_lt9 {a b : Nat} (ha : a < 2 ^ 30) (hb : b < 2 ^ 30) (h : a < b) : nI a < nI b := by
  rw [Int32.lt_iff_toInt_lt, nI_toInt (by omega), nI_toInt (by omega)]; omega
theorem nI_lt8 {a b : Nat} (ha : a < 2 ^ 30) (hb : b < 2 ^ 30) (h : nI a < nI b) : ¬ b ≤ a := by
  rw [Int32.lt_iff_toInt_lt, nI_toInt (by omega), nI_toInt (by omega)] at h; omega
theorem c_X0_sell {E : En} {g : Ge} {σ : Sg} {w u : Wv} {n : Nat} {K : Nat → Nat} (hX : XH g σ w u n K) (hI : HI u) (hE : HE u) (hT : HT u) (hR : TXR g σ u) {a : Int32} : CtE E mX0_sell 406 [.ref (g.1 0), .int a] (PR (.int (sellR u a)) (QX g σ u n K)) (S g σ w) := by
  show VE E mX0_sell 406 _ 0 [some (.ref (g.1 0)), some (.int a), none, none, none, none] [] (S g σ w)
  refine VE.step (fun _ h => V.ild1 dX0_sell_0 (V.i2l dX0_sell_1 (V.lconst_0 dX0_sell_2 (V.lconst_1 dX0_sell_3 (V.invS3r sX0_112 dX0_sell_4 (in_c (lo := 0) (hi := 1) rfl rfl) h))))) ?_
  refine VE.ifb_ne (tgt := 13) dX0_sell_7 (by decide) (fun c_7 => ?_) (fun c_7 => ?_)
  · have L20 : ∀ (m v : Nat) (b M : Nat) (w1 : Wv) (z5 : Option Value), v + m = 1000 → XH g σ w1 u n K → 1 ≤ v → M ≤ 48000 → Bst (fun v => v * cG v (prL u)) 1 v b M → (v = 1 ∨ ∀ i, i < (prL u).length → w1 29 i = (prL u).getD i 0) → VE E mX0_sell 406 (PR (.int (sellR u a)) (QX g σ u n K)) 20 [some (.ref (g.1 0)), some (.int (a)), some (.int (nI b)), some (.int (nI M)), some (.int (nI v)), z5] [] (S g σ w1) := by
      intro m
      induction m with
      | zero =>
        intro v b M w1 z5 hk hX h1 hM hB hV
        have hv : v = 1000 := by omega
        rw [hv] at hB
        have hs := sel_n hI hB
        refine VE.step (fun _ h => V.ild4 dX0_sell_20 (V.sipush (v := 1000) dX0_sell_22 (by decide) h)) ?_
        refine VE.icmp_ge (tgt := 60) dX0_sell_25 (by decide) (fun c_25 => ?_) (fun c_25 => absurd (by rw [show (1000 : Int32) = nI 1000 from rfl]; exact nI_le (by omega) (by omega)) c_25)
        refine VE.step (fun _ h => V.ild1 dX0_sell_60 h) ?_
        refine VE.if_ne (tgt := 68) dX0_sell_61 (by decide) (fun c_61 => ?_) (fun c_61 => ?_)
        · refine VE.step (fun _ h => V.ild3 dX0_sell_68 h) ?_
          exact VE.iret dX0_sell_69 rfl rfl (⟨by first | (rw [sellR, if_pos c_7, if_pos c_61, hs.1]) | (rw [sellR, if_pos c_7, if_neg c_61, hs.2]), _, rfl, hX⟩)
        · refine VE.step (fun _ h => V.ild2 dX0_sell_64 (V.goto (tgt := 69) dX0_sell_65 (by decide) h)) ?_
          exact VE.iret dX0_sell_69 rfl rfl (⟨by first | (rw [sellR, if_pos c_7, if_pos c_61, hs.1]) | (rw [sellR, if_pos c_7, if_neg c_61, hs.2]), _, rfl, hX⟩)
      | succ m ih =>
        intro v b M w1 z5 hk hX h1 hM hB hV
        have hle := sF_le (prL_b hI).1 (k := v) (by omega)
        have hh := hB.hi (by omega)
        refine VE.step (fun _ h => V.ild4 dX0_sell_20 (V.sipush (v := 1000) dX0_sell_22 (by decide) h)) ?_
        refine VE.icmp_ge (tgt := 60) dX0_sell_25 (by decide) (fun c_25 => absurd c_25 (by rw [show (1000 : Int32) = nI 1000 from rfl]; first | exact nI_ge (by omega) (by omega) | exact fun h9 => absurd ((nI_leI (by omega) (by omega)).mp h9) (by omega))) (fun c_25 => ?_)
        refine VE.step (fun _ h => V.ild4 dX0_sell_28 (V.ald0 dX0_sell_30 (V.ild4 dX0_sell_31 h))) ?_
        refine VE.invV1r vX0_400 hX.t0 dX0_sell_33 (c_X0_buyers hX hI hE hT hR (v := v) (by omega) hV) (fun s9 q9 => ?_)
        obtain ⟨w2, rfl, hX, hV2⟩ := q9
        refine VE.step (fun _ h => V.imul dX0_sell_36 h) ?_
        rw [nI_ml]
        refine VE.step (fun _ h => V.ist5 dX0_sell_37 (V.ild5 dX0_sell_39 (V.ild3 dX0_sell_41 h))) ?_
        refine VE.icmp_gt (tgt := 48) dX0_sell_42 (by decide) (fun c_42 => ?_) (fun c_42 => ?_)
        · refine VE.step (fun _ h => V.ild5 dX0_sell_48 (V.ist3 dX0_sell_50 (V.ild4 dX0_sell_51 (V.ist2 dX0_sell_53 (V.inc4 dX0_sell_54 (V.goto (tgt := 20) dX0_sell_57 (by decide) h)))))) ?_
          rw [nI_1]
          first
            | (have q : v * cG v (prL u) ≤ M := Nat.le_of_not_lt (fun z => c_42 (nI_lt9 (by omega) (by omega) z)); rw [if_pos q, if_pos q] at hh; exact ih (v + 1) _ _ _ _ (by omega) hX (by omega) hM hh (.inr hV2))
            | (have q : ¬ v * cG v (prL u) ≤ M := (fun z => nI_lt8 (by omega) (by omega) c_42 z); rw [if_neg q, if_neg q] at hh; exact ih (v + 1) _ _ _ _ (by omega) hX (by omega) hle hh (.inr hV2))
        · refine VE.step (fun _ h => V.goto (tgt := 54) dX0_sell_45 (by decide) (V.inc4 dX0_sell_54 (V.goto (tgt := 20) dX0_sell_57 (by decide) h))) ?_
          rw [nI_1]
          first
            | (have q : v * cG v (prL u) ≤ M := Nat.le_of_not_lt (fun z => c_42 (nI_lt9 (by omega) (by omega) z)); rw [if_pos q, if_pos q] at hh; exact ih (v + 1) _ _ _ _ (by omega) hX (by omega) hM hh (.inr hV2))
            | (have q : ¬ v * cG v (prL u) ≤ M := (fun z => nI_lt8 (by omega) (by omega) c_42 z); rw [if_neg q, if_neg q] at hh; exact ih (v + 1) _ _ _ _ (by omega) hX (by omega) hle hh (.inr hV2))
    refine VE.step (fun _ h => V.iconst_0 dX0_sell_13 (V.ist2 dX0_sell_14 (V.iconst_0 dX0_sell_15 (V.ist3 dX0_sell_16 (V.iconst_1 dX0_sell_17 (V.ist4 dX0_sell_18 h)))))) ?_
    exact L20 999 1 0 0 _ _ (by omega) hX (by omega) (by omega) (.inl ⟨rfl, rfl, fun k k1 k2 => by omega⟩) (.inl rfl)
  · refine VE.step (fun _ h => V.bipush (v := (-2)) dX0_sell_10 (by decide) h) ?_
    exact VE.iret dX0_sell_12 rfl rfl (⟨by rw [sellR, if_neg (by rw [c_7]; decide)], _, rfl, hX⟩)

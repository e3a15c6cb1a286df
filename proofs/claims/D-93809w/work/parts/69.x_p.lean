set_option maxRecDepth 100000
set_option maxHeartbeats 1000000
/-! ===== heaps that grow ===== -/
/-- nothing lies beyond what was made -/
def CLN (σ : Sg) : Prop := ∀ a, sN σ ≤ a → (sT σ a).1 = 0
/-- the names' addresses are made ones, or far away -/
def GB (g : Ge) (σ : Sg) : Prop := ∀ k, k ∈ g.2 → g.1 k < sN σ ∨ 2000000 ≤ g.1 k
theorem GB.na {g : Ge} {σ : Sg} (h : GB g σ) (hs : sN σ < 2000000) : NA g (sN σ) := fun k hk z => by rcases h k hk with h9 | h9 <;> omega
theorem S_nW {g : Ge} {σ : Sg} {w : Wv} (hN : NA g (sN σ)) {t : Nat × Nat} {k : Nat} : nW (S g σ w) t k = S g (nW σ t k) w := by
  show (_, _, _, up1 (vset g (sI σ) w) (sN σ) (fun _ => 0), _, _) = (_, _, _, vset g (up1 (sI σ) (sN σ) (fun _ => 0)) w, _, _)
  rw [show up1 (vset g (sI σ) w) (sN σ) (fun _ => 0) = vset g (up1 (sI σ) (sN σ) (fun _ => 0)) w from funext fun b => funext fun j => by
    by_cases e : b = sN σ
    · rw [e, up1_eq]
      unfold vset
      rw [show g.2.find? (fun k => g.1 k == sN σ) = none from List.find?_eq_none.mpr (fun k hk => by simpa using hN k hk)]
      show 0 = up1 (sI σ) (sN σ) (fun _ => 0) (sN σ) j
      rw [up1_eq]
    · rw [up1_ne _ _ e]
      unfold vset
      cases g.2.find? (fun k => g.1 k == b) with
      | none => show sI σ b j = up1 (sI σ) (sN σ) (fun _ => 0) b j; rw [up1_ne _ _ e]
      | some k => rfl]
theorem S_pIa {g : Ge} {σ : Sg} {w : Wv} {a j : Nat} {v : Int32} (hN : NA g a) : pI (S g σ w) a j v = S g (pI σ a j v) w := by
  show (_, _, _, up2 (vset g (sI σ) w) a j v, _, _) = (_, _, _, vset g (up2 (sI σ) a j v) w, _, _)
  rw [show up2 (vset g (sI σ) w) a j v = vset g (up2 (sI σ) a j v) w from funext fun b => funext fun i => by
    unfold vset
    by_cases e : b = a ∧ i = j
    · rw [e.1, e.2, up2_eq, show g.2.find? (fun k => g.1 k == a) = none from List.find?_eq_none.mpr (fun k hk => by simpa using hN k hk)]
      show v = up2 (sI σ) a j v a j
      rw [up2_eq]
    · rw [up2_ne _ _ e]
      cases g.2.find? (fun k => g.1 k == b) with
      | none => show sI σ b i = up2 (sI σ) a j v b i; rw [up2_ne _ _ e]
      | some k => rfl]
theorem nW_t {σ : Sg} (hC : CLN σ) {t : Nat × Nat} {k a : Nat} (h : (sT σ a).1 ≠ 0) : sT (nW σ t k) a = sT σ a ∧ sR (nW σ t k) a = sR σ a := by
  have hne : a ≠ sN σ := fun z => h (by rw [z]; exact hC _ (Nat.le_refl _))
  exact ⟨up1_ne _ _ hne, up1_ne _ _ hne⟩
theorem CLN.n {σ : Sg} (hC : CLN σ) {t : Nat × Nat} {k : Nat} : CLN (nW σ t k) := fun a ha => by
  show (up1 (sT σ) (sN σ) t a).1 = 0
  have ha' : sN σ + 1 ≤ a := ha
  rw [up1_ne _ _ (by omega)]
  exact hC a (by omega)
theorem XH.nW {g : Ge} {σ : Sg} {w u : Wv} {n : Nat} {K : Nat → Nat} (h : XH g σ w u n K) (hC : CLN σ) {t : Nat × Nat} {k : Nat} : XH g (nW σ t k) w u n K := by
  obtain ⟨⟨a1, a2, ⟨a3, a4, a5⟩, ⟨b1, b2, b3, ⟨cap, c1, c2, c3⟩, b5⟩, ⟨d1, d2, d3⟩, e1, f1, f2⟩, h2, h3, h4⟩ := h
  have T := fun {a : Nat} (h : (sT σ a).1 ≠ 0) => nW_t hC (t := t) (k := k) h
  have t0 := T (a := g.1 0) (by rw [a3]; decide)
  have t45 := T (a := g.1 45) (by rw [b2]; decide)
  have t46 := T (a := g.1 46) (by rw [c3]; exact (by decide : (104 : Nat) ≠ 0))
  have t47 := T (a := g.1 47) (by rw [d2]; decide)
  have t48 := T (a := g.1 48) (by rw [f2]; decide)
  refine ⟨⟨a1, a2, ⟨by rw [t0.1]; exact a3, fun f hf => ?_, fun f hf => ?_⟩, ⟨by rw [t0.2]; exact b1, by rw [t45.1]; exact b2, by rw [t45.2]; exact b3, ⟨cap, c1, c2, by rw [t46.1]; exact c3⟩, fun i hi => by rw [t46.2]; exact b5 i hi⟩, ⟨by rw [t0.2]; exact d1, by rw [t47.1]; exact d2, fun i hi => ?_⟩, fun i hi => ?_, by rw [t0.2]; exact f1, by rw [t48.1]; exact f2⟩, h2, h3, h4⟩
  · have h9 := a4 f hf
    rw [t0.2, (T (a := g.1 (1 + f)) (by rw [h9.2]; exact (by decide : (101 : Nat) ≠ 0))).1]; exact h9
  · have h9 := a5 f hf
    rw [t0.2, (T (a := g.1 (1 + f)) (by rw [h9.2]; exact (by decide : (102 : Nat) ≠ 0))).1]; exact h9
  · obtain ⟨x1, x2, x3, x4⟩ := d3 i hi
    have y1 := T (a := g.1 (50 + i)) (by rw [x2]; decide)
    have y2 := T (a := g.1 (54 + i)) (by rw [x4]; decide)
    rw [t47.2, y1.1, y1.2, y2.1]; exact ⟨x1, x2, x3, x4⟩
  · obtain ⟨x1, x2, x3, x4, x5⟩ := e1 i hi
    have y1 := T (a := g.1 (60 + i)) (by rw [x2]; omega)
    have y2 := T (a := g.1 (70 + i)) (by rw [x5]; decide)
    rw [y1.1, y1.2, y2.1]; exact ⟨x1, x2, x3, x4, x5⟩
theorem XH.pIa {g : Ge} {σ : Sg} {w u : Wv} {n : Nat} {K : Nat → Nat} (h : XH g σ w u n K) {a j : Nat} {v : Int32} : XH g (pI σ a j v) w u n K := h
/-- an Odd is made -/
def odd (σ : Sg) (x : Int32) : Sg := pI (nW σ (15, 0) 7) (sN σ) 6 x
theorem nX_0 {σ : Sg} {t : Nat × Nat} {k j : Nat} : sR (nW σ t k) (sN σ) j = none := by
  show up1 (sR σ) (sN σ) (fun _ => none) (sN σ) j = none
  rw [up1_eq]
theorem nX_t {σ : Sg} {t : Nat × Nat} {k : Nat} : sT (nW σ t k) (sN σ) = t := up1_eq _ _ _
theorem odd_t {σ : Sg} {x : Int32} : (sT (odd σ x) (sN σ)).1 = 15 := by
  show (up1 (sT σ) (sN σ) (15, 0) (sN σ)).1 = 15
  rw [up1_eq]
theorem odd_c {σ : Sg} {x : Int32} : sI (odd σ x) (sN σ) 6 = x := up2_eq _ _ _ _
theorem S_odd {g : Ge} {σ : Sg} {w : Wv} {x : Int32} (hN : NA g (sN σ)) : odd (S g σ w) x = S g (odd σ x) w := by
  unfold odd
  rw [S_nW hN]
  exact S_pIa hN
theorem need_ok {E : En} {σ : Sg} {x : Int32} : Ct E mX0_need 5 [.int (b2i true), .int x] (.returned none, σ) σ := by
  show V E mX0_need 5 _ 0 [some (.int (b2i true)), some (.int x)] [] σ
  exact V.ild0 dX0_need_0 (V.if_ne (tgt := 13) dX0_need_1 (by decide) (fun _ => V.vret dX0_need_13 rfl rfl) (fun z => absurd z (by decide)))
theorem need_no {E : En} {σ : Sg} (hU : EU E) (h1 : 1000 ≤ sN σ) {x : Int32} : Ct E mX0_need 5 [.int (b2i false), .int x] (.threw (sN σ), odd σ x) σ := by
  show V E mX0_need 5 _ 0 [some (.int (b2i false)), some (.int x)] [] σ
  refine V.ild0 dX0_need_0 (V.if_ne (tgt := 13) dX0_need_1 (by decide) (fun z => absurd rfl z) (fun _ => ?_))
  exact nX0_431 rfl dX0_need_4 (V.dup dX0_need_7 (V.ild1 dX0_need_8 (V.invI1v iX0_433 dX0_need_9 (c_X14_init hU h1 (by rw [nX_t]) (fun k _ => nX_0)) (V.athrow (fun q hq => by cases hq) dX0_need_12 rfl))))
theorem there_ok {E : En} {g : Ge} {σ : Sg} {w u : Wv} {n : Nat} {K : Nat → Nat} (hX : XH g σ w u n K) {s : Nat} (hs : s < 4) (h : 0 ≤ u 138 s) : Ct E mX0_there 5 [.ref (g.1 0), .int (nI s)] (.returned (some (.ref (g.1 (50 + s)))), S g σ w) (S g σ w) := by
  show V E mX0_there 5 _ 0 [some (.ref (g.1 0)), some (.int (nI s))] [] (S g σ w)
  refine V.ald0 dX0_there_0 (GX0_97 hX rfl dX0_there_1 (V.ild1 dX0_there_4 (aXS (j := s) hX (IX.n hs (by decide)) dX0_there_5 (GX0_303 hX hs rfl dX0_there_6 (V.if_ge (tgt := 22) dX0_there_9 (by decide) (fun _ => ?_) (fun z => absurd h z))))))
  exact V.ald0 dX0_there_22 (GX0_97 hX rfl dX0_there_23 (V.ild1 dX0_there_26 (aXS (j := s) hX (IX.n hs (by decide)) dX0_there_27 (V.aret (o := some (g.1 (50 + s))) dX0_there_28 rfl rfl rfl))))
theorem there_no {E : En} {g : Ge} {σ : Sg} {w u : Wv} {n : Nat} {K : Nat → Nat} (hX : XH g σ w u n K) (hU : EU E) (h1 : 1000 ≤ sN σ) {s : Nat} (hs : s < 4) (h : ¬ 0 ≤ u 138 s) : Ct E mX0_there 5 [.ref (g.1 0), .int (nI s)] (.threw (sN σ), odd (S g σ w) (-11)) (S g σ w) := by
  show V E mX0_there 5 _ 0 [some (.ref (g.1 0)), some (.int (nI s))] [] (S g σ w)
  refine V.ald0 dX0_there_0 (GX0_97 hX rfl dX0_there_1 (V.ild1 dX0_there_4 (aXS (j := s) hX (IX.n hs (by decide)) dX0_there_5 (GX0_303 hX hs rfl dX0_there_6 (V.if_ge (tgt := 22) dX0_there_9 (by decide) (fun z => absurd z h) (fun _ => ?_))))))
  exact nX0_431 (σ := S g σ w) rfl dX0_there_12 (V.dup dX0_there_15 (V.bipush (v := (-11)) dX0_there_16 (by decide) (V.invI1v iX0_433 dX0_there_18 (c_X14_init (σ := nW (S g σ w) (15, 0) 7) hU h1 (by rw [show sT (nW (S g σ w) (15, 0) 7) (sN σ) = (15, 0) from up1_eq _ _ _]) (fun k _ => nX_0 (σ := S g σ w))) (V.athrow (fun q hq => by cases hq) dX0_there_21 rfl))))
theorem c_X1_put {E : En} {g : Ge} {σ : Sg} {w u : Wv} {n : Nat} {K : Nat → Nat} (hX : XH g σ w u n K) {s : Nat} (hs : s < 4) {i : Nat} (hi : i < 60) {x : Int32} : Ct E mX1_put 0 [.ref (g.1 (50 + s)), .int (nI i), .int x] (.returned none, S g σ (up2 w (54 + s) i (celV (u 138 s) x))) (S g σ w) := by
  show V E mX1_put 0 _ 0 [some (.ref (g.1 (50 + s))), some (.int (nI i)), some (.int x)] [] (S g σ w)
  refine V.ald0 dX1_put_0 (GX1_18 hX hs rfl dX1_put_1 (V.ild1 dX1_put_4 (V.ald0 dX1_put_5 (GX1_9 hX hs rfl dX1_put_6 (V.if_ne (tgt := 17) dX1_put_9 (by decide) (fun c_9 => ?_) (fun c_9 => ?_))))))
  · refine V.ald0 dX1_put_17 (GX1_9 hX hs rfl dX1_put_18 (V.iconst_1 dX1_put_21 (V.icmp_ne (tgt := 30) dX1_put_22 (by decide) (fun c_22 => ?_) (fun c_22 => ?_))))
    · exact V.ild2 dX1_put_30 (sXc hX hs (IX.n hi (by decide)) dX1_put_31 (V.vret dX1_put_32 rfl (by first | (rw [celV, if_pos c_9]; done) | (rw [celV, if_neg c_9, if_pos c_22]; done) | (rw [celV, if_neg c_9, if_neg c_22]; done))))
    · exact V.ild2 dX1_put_25 (V.i2s dX1_put_26 (V.goto (tgt := 31) dX1_put_27 (by decide) (sXc hX hs (IX.n hi (by decide)) dX1_put_31 (V.vret dX1_put_32 rfl (by first | (rw [celV, if_pos c_9]; done) | (rw [celV, if_neg c_9, if_pos c_22]; done) | (rw [celV, if_neg c_9, if_neg c_22]; done))))))
  · exact V.ild2 dX1_put_12 (V.i2b dX1_put_13 (V.goto (tgt := 31) dX1_put_14 (by decide) (sXc hX hs (IX.n hi (by decide)) dX1_put_31 (V.vret dX1_put_32 rfl (by first | (rw [celV, if_pos c_9]; done) | (rw [celV, if_neg c_9, if_pos c_22]; done) | (rw [celV, if_neg c_9, if_neg c_22]; done))))))

set_option maxRecDepth 100000
set_option maxHeartbeats 4000000
theorem FG.rd {τ σ' : Sg} {b c r : Nat} {a f o n s : Int32} {w : Option Nat} (h : FG τ σ' b c) (hr : (sT τ r).1 = 0) : FG τ (rdS σ' r a f o n s w) b c := ⟨h.1, h.2.1, h.2.2.1, fun x hx => by
  obtain ⟨q1, q2, q3, q4⟩ := h.2.2.2 x hx
  have hne : x ≠ r := fun z => hx (by rw [z]; exact hr)
  exact ⟨q1, by rw [(rd_ne hne).2]; exact q2, by rw [(rd_ne hne).1]; exact q3, q4⟩⟩
theorem XH.kq {g : Ge} {σ σ' : Sg} {w u : Wv} {n : Nat} {K : Nat → Nat} (h : XH g σ w u n K) (T0 : ∀ a, (sT σ a).1 ≠ 0 → sT σ' a = sT σ a) (T1 : ∀ a, (sT σ a).1 ≠ 0 → (sT σ a).1 ≠ 106 → sR σ' a = sR σ a) : XH g σ' w u n K := by
  obtain ⟨⟨a1, a2, ⟨a3, a4, a5⟩, ⟨b1, b2, b3, ⟨cap, c1, c2, c3⟩, b5⟩, ⟨d1, d2, d3⟩, e1, f1, f2⟩, h2, h3, h4⟩ := h
  have t0 := T0 (g.1 0) (by rw [a3]; decide)
  have r0 := T1 (g.1 0) (by rw [a3]; decide) (by rw [a3]; decide)
  have t45 := T0 (g.1 45) (by rw [b2]; decide)
  have r45 := T1 (g.1 45) (by rw [b2]; decide) (by rw [b2]; decide)
  have t46 := T0 (g.1 46) (by rw [c3]; exact (by decide : (104 : Nat) ≠ 0))
  have r46 := T1 (g.1 46) (by rw [c3]; exact (by decide : (104 : Nat) ≠ 0)) (by rw [c3]; exact (by decide : (104 : Nat) ≠ 106))
  have t47 := T0 (g.1 47) (by rw [d2]; decide)
  have r47 := T1 (g.1 47) (by rw [d2]; decide) (by rw [d2]; decide)
  have t48 := T0 (g.1 48) (by rw [f2]; decide)
  refine ⟨⟨a1, a2, ⟨by rw [t0]; exact a3, fun f hf => ?_, fun f hf => ?_⟩, ⟨by rw [r0]; exact b1, by rw [t45]; exact b2, by rw [r45]; exact b3, ⟨cap, c1, c2, by rw [t46]; exact c3⟩, fun i hi => by rw [r46]; exact b5 i hi⟩, ⟨by rw [r0]; exact d1, by rw [t47]; exact d2, fun i hi => ?_⟩, fun i hi => ?_, by rw [r0]; exact f1, by rw [t48]; exact f2⟩, h2, h3, h4⟩
  · have h9 := a4 f hf
    rw [r0, T0 (g.1 (1 + f)) (by rw [h9.2]; exact (by decide : (101 : Nat) ≠ 0))]; exact h9
  · have h9 := a5 f hf
    rw [r0, T0 (g.1 (1 + f)) (by rw [h9.2]; exact (by decide : (102 : Nat) ≠ 0))]; exact h9
  · obtain ⟨x1, x2, x3, x4⟩ := d3 i hi
    have y1 := T0 (g.1 (50 + i)) (by rw [x2]; decide)
    have y2 := T1 (g.1 (50 + i)) (by rw [x2]; decide) (by rw [x2]; decide)
    have y3 := T0 (g.1 (54 + i)) (by rw [x4]; decide)
    rw [r47, y1, y2, y3]; exact ⟨x1, x2, x3, x4⟩
  · obtain ⟨x1, x2, x3, x4, x5⟩ := e1 i hi
    have y1 := T0 (g.1 (60 + i)) (by rw [x2]; omega)
    have y2 := T1 (g.1 (60 + i)) (by rw [x2]; omega) (by rw [x2]; omega)
    have y3 := T0 (g.1 (70 + i)) (by rw [x5]; decide)
    rw [y1, y2, y3]; exact ⟨x1, x2, x3, x4, x5⟩
theorem XH.p48 {g : Ge} {σ : Sg} {w u : Wv} {n : Nat} {K : Nat → Nat} (h : XH g σ w u n K) {k : Nat} {o : Option Nat} : XH g (pR σ (g.1 48) k o) w u n K := h.kq (fun _ _ => rfl) (fun a _ ha => up2_at _ _ (fun z => ha (by rw [z, h.tx.2])))
/-- a text's end: nothing but the tape, or one more text -/
def QTX (g : Ge) (σ : Sg) (u : Wv) (n : Nat) (K : Nat → Nat) (T N : Nat) : Sg → Prop := fun s =>
  ((∃ p, txS (u 118) N = (p, none)) ∧ ∃ (σ' : Sg) (w' : Wv), s = S g σ' w' ∧ FG σ σ' (20 * N + 50) (100 * N + 210) ∧ XH g σ' w' (up2 u 100 18 0) n K) ∨
  ∃ (p A : Nat) (cs : Nat → List Int32) (σ1 : Sg) (w' : Wv), txS (u 118) N = (p, some (preC cs 3, stS cs 4)) ∧ s = S g (pR σ1 (g.1 48) T (some A)) w' ∧ FG σ σ1 (20 * N + 50) (100 * N + 210) ∧ XH g (pR σ1 (g.1 48) T (some A)) w' (up2 (up2 u 100 18 0) 100 21 (nI (T + 1))) n K ∧ sN σ ≤ A ∧ sT σ1 A = (105, 3) ∧ ∀ j, j < 3 → ∃ b d, d ≤ 400 ∧ sR σ1 A j = some b ∧ Tg (sN σ) σ1 d b (cs j)
theorem f_X0_text {E : En} {g : Ge} {σ : Sg} {w u : Wv} {n : Nat} {K : Nat → Nat} (hX : XH g σ w u n K) (hT : u 100 21 = 6) : Ct E mX0_text 302 [.ref (g.1 0)] (.returned (some (.int (-4))), S g σ w) (S g σ w) := by
  show V E mX0_text 302 _ 0 [some (.ref (g.1 0)), none, none, none] [] (S g σ w)
  exact V.ald0 dX0_text_0 (GX0_107 hX rfl dX0_text_1 (V.bipush (v := 6) dX0_text_4 (by decide) (V.icmp_ne (tgt := 12) dX0_text_6 (by decide) (fun z => absurd hT z) (fun _ => V.bipush (v := (-4)) dX0_text_9 (by decide) (V.iret dX0_text_11 rfl rfl rfl)))))
theorem c_X0_text {E : En} {g : Ge} {σ : Sg} {w u : Wv} {n : Nat} {K : Nat → Nat} (hX : XH g σ w u n K) (hG : XG g n) (hJ : JS E) (hU : EU E) (hO : OSo E σ) (h1 : 1000 ≤ sN σ) (hC : CLN σ) (hGB : GB g σ) (hs : sN σ + 4000 < 2000000) (h48 : 1000 ≤ g.1 48) {T N : Nat} (hT : u 100 21 = nI T) (hT6 : T < 6) (hN : u 100 18 = nI N) (hN2 : N ≤ 160) : CtE E mX0_text 302 [.ref (g.1 0)] (PR (.int (txR T (txS (u 118) N))) (QTX g σ u n K T N)) (S g σ w) := by
  show VE E mX0_text 302 _ 0 [some (.ref (g.1 0)), none, none, none] [] (S g σ w)
  have hNA : NA g (sN σ) := hGB.na (by omega)
  have hz := hC (sN σ) (Nat.le_refl _)
  have hX1 : XH g (nW σ (3, 0) 8) w u n K := hX.fg (FG.n hC)
  have hC0 : CLN (S g σ w) := hC
  have hO0 : OS E (S g σ w) := (hO.s hX.gk).os
  have ht39 := (hX.bi (f := 38) (by decide)).2
  have hB0 : ∀ i, i < N → sI (S g σ w) (g.1 39) i &&& 255 = u 118 i := fun i hi => by
    rw [show sI (S g σ w) (g.1 39) = w 39 from vset_at hX.gk hX.i0]
    exact (hX.sv.2.2.2 i (by omega)).symm
  have hCx : Cxt E (rdN (S g σ w) (g.1 39) (nI N)) (sN σ) N (u 118) := rdN_Cx hJ hU hO0 hC0 h1 hN2 ht39 (show N ≤ 160 from hN2) (by decide) hB0
  have FN : FG (S g σ w) (rdN (S g σ w) (g.1 39) (nI N)) 1 8 := rdN_fg hC0
  refine VE.step (fun _ h => V.ald0 dX0_text_0 (GX0_107 hX rfl dX0_text_1 (V.bipush (v := 6) dX0_text_4 (by decide) (V.icmp_ne (tgt := 12) dX0_text_6 (by decide) (fun _ => h) (fun z => absurd ((nI_eq (a := T) (b := 6) (by omega) (by decide)).mp (hT.symm.trans z)) (by omega)))))) ?_
  refine VE.step (fun _ h => V.ald0 dX0_text_12 (GX0_87 hX rfl dX0_text_13 (V.ald0 dX0_text_16 (GX0_107 hX rfl dX0_text_17 (nX0_418 (σ := S g σ w) rfl dX0_text_20 h))))) ?_
  rw [S_nW hNA, hT]
  have ht3 : (sT (nW σ (3, 0) 8) (sN σ)).1 = 3 := by rw [nX_t]
  have hz9 : ∀ j, sI (S g (nW σ (3, 0) 8) w) (sN σ) j = 0 := fun j => by
    rw [hNA.i]
    show up1 (sI σ) (sN σ) (fun _ => 0) (sN σ) j = 0
    rw [up1_eq]
  refine VE.step (fun _ h => V.dup dX0_text_23 (V.ald0 dX0_text_24 (GX0_91 hX1 rfl dX0_text_25 (V.ald0 dX0_text_28 (GX0_216 hX1 rfl dX0_text_29 (V.invI2v iX0_420 dX0_text_32 (c_X2_init (τ := S g (nW σ (3, 0) 8) w) (r := sN σ) ht3 h1 (hz9 2) (hz9 3) (hz9 4)) h)))))) ?_
  rw [← S_nW hNA, hN]
  have eH : pI (pR (nW (S g σ w) (3, 0) 8) (sN σ) 0 (some (g.1 39))) (sN σ) 1 (nI N) = rdS (rdN (S g σ w) (g.1 39) (nI N)) (sN σ) (nI 0) 0 (nI 0) 0 0 none := by
    have := rdN_rd (τ := S g σ w) (tb := g.1 39) (x := nI N)
    exact this.symm
  rw [eH]
  obtain ⟨⟨oc, s9⟩, hP, hCt⟩ := c_X2_parts hCx (f := 0) (n := 0) (s := 0) (w := none)
  have hrt : (sT (rdS (rdN (S g σ w) (g.1 39) (nI N)) (sN σ) (nI 0) 0 (nI 0) 0 0 none) (sN σ)).1 = 2 + 1 := hCx.t
  rcases hP with ⟨p, ⟨σ', fa, a9, f9, o9, n9, s99, w9, q1, q2, F, t4, hfa, hp⟩, htx⟩ | ⟨σ', A, p, a9, f9, o9, n9, s99, w9, cs, q1, q2, F, htx, hA, tA, hT9⟩
  · -- a fault
    dsimp only at q1 q2
    subst q1 q2
    have F1 : FG (S g σ w) (rdS σ' (sN σ) a9 f9 o9 n9 s99 w9) (1 + (20 * N + 40)) (8 + (100 * N + 200)) := (FN.tr F).rd hz
    refine VE.step (fun _ h => V.callCatch [] (12, 39, 47, 427) [(12, 39, 63, 0), (47, 56, 63, 0)] rfl (fun y hy => by cases hy) ⟨by decide, by decide⟩ (by decide) q1427 (show (sT (rdS σ' (sN σ) a9 f9 o9 n9 s99 w9) fa).1 = 3 + 1 from t4) (by decide) rfl (.inl rfl) dX0_text_35 wX2_parts (show 60 < 302 by decide) (Nat.le_of_ble_eq_true rfl) (Nat.le_of_ble_eq_true rfl) (Lk.V (As := []) (rest := [.int (nI T), .ref (g.1 48)]) vX0_423 hrt rfl dX0_text_35) hCt h) ?_
    have hfr : fa ≠ sN σ := fun z => by
      have h9 := (F.2.2.2 (sN σ) (by rw [hCx.t]; decide)).1
      rw [z, h9, hCx.t] at t4
      exact absurd t4 (by decide)
    refine VE.step (fun _ h => V.ast1 dX0_text_47 (V.bipush (v := (-100)) dX0_text_48 (by decide) (V.ald1 dX0_text_50 (gX0_429 (σ := rdS σ' (sN σ) a9 f9 o9 n9 s99 w9) rfl t4 dX0_text_51 (V.isub dX0_text_54 (V.ist2 dX0_text_55 (V.ald0 dX0_text_56 (V.iconst_0 dX0_text_57 h)))))))) ?_
    rw [(rd_ne hfr).1, hp]
    obtain ⟨σ1, w1, e1, F2, hw1⟩ := S_fg hX.gk F1
    rw [e1]
    have hX2 : XH g σ1 w1 u n K := (hX.fg F2).wk (fun a ha => hw1 a (hX.live hG ha))
    refine VE.step (fun _ h => PX0_216 hX2 rfl dX0_text_58 (V.ild2 dX0_text_61 h)) ?_
    refine VE.iret dX0_text_62 rfl rfl ⟨by rw [txR, htx], .inl ⟨⟨p, htx⟩, σ1, _, rfl, F2.le (by omega) (by omega), hX2.up xm_0_18⟩⟩
  · -- a text
    dsimp only at q1 q2
    subst q1 q2
    have F1 : FG (S g σ w) (rdS σ' (sN σ) a9 f9 o9 n9 s99 w9) (1 + (20 * N + 40)) (8 + (100 * N + 200)) := (FN.tr F).rd hz
    refine VE.step (fun _ h => V.callRet dX0_text_35 wX2_parts (show 60 < 302 by decide) (Nat.le_of_ble_eq_true rfl) (Nat.le_of_ble_eq_true rfl) (Lk.V (As := []) (rest := [.int (nI T), .ref (g.1 48)]) vX0_423 hrt rfl dX0_text_35) hCt h) ?_
    have h48t : sT (rdS σ' (sN σ) a9 f9 o9 n9 s99 w9) (g.1 48) = (106, 6) := by
      rw [(F1.2.2.2 (g.1 48) (show (sT σ (g.1 48)).1 ≠ 0 by rw [hX.tx.2]; decide)).1]; exact hX.tx.2
    refine VE.step (fun _ h => V.aastA (m := 3) h48t h48 (IX.n (j := T) hT6 (by decide)) tA dX0_text_38 (V.ald0 dX0_text_39 (V.iconst_0 dX0_text_40 h))) ?_
    obtain ⟨σ1, w1, e1, F2, hw1⟩ := S_fg hX.gk F1
    have hTb : ∀ x, sN σ + 1 ≤ x → (sT σ' x).1 ≠ 0 → sT σ1 x = sT σ' x ∧ sR σ1 x = sR σ' x ∧ sI σ1 x = sI σ' x := fun x hx1 hx2 => by
      have hxr : x ≠ sN σ := by omega
      have hlt : x < sN σ' := by
        rcases Nat.lt_or_ge x (sN σ') with h | h
        · exact h
        · exact absurd (F.2.2.1 x h) hx2
      have hbN : sN σ' ≤ sN σ + 1 + (20 * N + 40) := F.1.2
      have hna : NA g x := fun k hk z => by rcases hGB k hk with h9 | h9 <;> omega
      refine ⟨(congrArg (fun s => sT s x) e1).symm, ?_, ?_⟩
      · have h9 := congrArg (fun s => sR s x) e1
        rw [(rd_ne hxr).2] at h9
        exact h9.symm
      · funext j
        have h9 := congrArg (fun s => sI s x j) e1
        rw [(rd_ne hxr).1, hna.i] at h9
        exact h9.symm
    rw [e1]
    have hX2 : XH g σ1 w1 u n K := (hX.fg F2).wk (fun a ha => hw1 a (hX.live hG ha))
    have hX3 : XH g (pR σ1 (g.1 48) T (some A)) w1 u n K := hX2.p48
    have hX4 := hX3.up xm_0_18 (x := 0)
    refine VE.step (fun _ h => PX0_216 (σ := pR σ1 (g.1 48) T (some A)) hX3 rfl dX0_text_41 (V.goto (tgt := 71) dX0_text_44 (by decide) (V.ald0 dX0_text_71 (V.dup dX0_text_72 (GX0_107 hX4 rfl dX0_text_73 (V.iconst_1 dX0_text_76 (V.iadd dX0_text_77 h))))))) ?_
    rw [show up2 u 100 18 0 100 21 = nI T from hT, nI_1]
    have hX5 := hX4.up xm_0_21 (x := nI (T + 1))
    refine VE.step (fun _ h => PX0_107 hX4 rfl dX0_text_78 (V.ald0 dX0_text_81 (GX0_107 hX5 rfl dX0_text_82 (V.iconst_1 dX0_text_85 (V.isub dX0_text_86 h))))) ?_
    rw [up2_eq, nI_pr]
    have hAT : sT σ1 A = sT σ' A := (hTb A hA (by rw [tA]; decide)).1
    refine VE.iret dX0_text_87 rfl rfl ⟨by rw [txR, htx], .inr ⟨p, A, cs, σ1, _, htx, rfl, F2.le (by omega) (by omega), hX5, by have h9 : sN σ + 1 ≤ A := hA; omega, by rw [hAT]; exact tA, fun j hj => ?_⟩⟩
    obtain ⟨b, d, d1, d2, d3⟩ := hT9 j hj
    refine ⟨b, d, d1, by rw [(hTb A hA (by rw [tA]; decide)).2.1]; exact d2, Tg.lo (show sN σ ≤ sN σ + 1 by omega) _ _ _ (Tg.ag hTb _ _ _ d3)⟩

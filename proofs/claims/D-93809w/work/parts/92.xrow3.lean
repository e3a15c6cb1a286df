set_option maxRecDepth 100000
set_option maxHeartbeats 4000000
theorem objE_row {σ : Sg} {e kd : Nat} (hk : kd < 6) (h : (sT σ e).1 = 9 + kd) : ObjE σ e := by
  rcases (show kd = 0 ∨ kd = 1 ∨ kd = 2 ∨ kd = 3 ∨ kd = 4 ∨ kd = 5 by omega) with rfl | rfl | rfl | rfl | rfl | rfl
  · exact ⟨8, _, h, by decide, rfl, .inr q2122⟩
  · exact ⟨9, _, h, by decide, rfl, .inr q2123⟩
  · exact ⟨10, _, h, by decide, rfl, .inr q2124⟩
  · exact ⟨11, _, h, by decide, rfl, .inr q2125⟩
  · exact ⟨12, _, h, by decide, rfl, .inr q2126⟩
  · exact ⟨13, _, h, by decide, rfl, .inr q2127⟩
theorem up2_nop {α : Type} {f : Nat → Nat → α} {a k : Nat} {v : α} (h : f a k = v) : up2 f a k v = f := by
  funext x j
  unfold up2
  by_cases e : x = a ∧ j = k
  · rw [if_pos e, e.1, e.2, h]
  · rw [if_neg e]
/-- the list's row: the empty one of the start, or one of ten -/
def LD (g : Ge) (σ : Sg) (n : Nat) : Prop := (n = 0 ∧ g.1 46 = 1) ∨ (0 < n ∧ 1000 ≤ g.1 46 ∧ sT σ (g.1 46) = (104, 10))
def QRW (g : Ge) (σ : Sg) (u : Wv) (n : Nat) (K : Nat → Nat) (kd : Nat) (st mr : Int32) : Sg → Prop := fun s => ∃ (D : Nat) (σ2 : Sg) (w' : Wv), s = S (gR g n (sN σ) D) σ2 w' ∧ XH (gR g n (sN σ) D) σ2 w' (rowW u (nI kd) st mr) (n + 1) (fun i => if i = n then kd else K i) ∧ (1000 ≤ D ∧ sT σ2 D = (104, 10) ∧ (D = g.1 46 ∨ sN σ ≤ D ∧ D < sN σ2)) ∧ (sN σ + 2 ≤ sN σ2 ∧ sN σ2 ≤ sN σ + 3) ∧ (sS σ ≤ sS σ2 ∧ sS σ2 ≤ sS σ + 30) ∧ CLN σ2 ∧ ∀ x, (sT σ x).1 ≠ 0 → sT σ2 x = sT σ x ∧ sI σ2 x = sI σ x ∧ sL σ2 x = sL σ x ∧ (x ≠ g.1 45 → x ≠ g.1 46 → sR σ2 x = sR σ x)
theorem c_X0_row {E : En} {g : Ge} {σ : Sg} {w u : Wv} {n : Nat} {K : Nat → Nat} (hX : XH g σ w u n K) (hG : XG g n) (h46 : 46 ∉ g.2) (hZ : HZ u) (hE : EMP E σ) (hLD : LD g σ n) (h1 : 1000 ≤ sN σ) (hC : CLN σ) (hGB : GB g σ) (hs : sN σ + 4000 < 2000000) {k st mr : Int32} : CtE E mX0_row 7 [.ref (g.1 0), .int k, .int st, .int mr] (PR (.int (rowR u k st mr)) (fun s => (rowW u k st mr = u ∧ s = S g σ w) ∨ ∃ kd, k = nI kd ∧ kd < 6 ∧ n < 6 ∧ rowOk k st mr = true ∧ QRW g σ u n K kd st mr s)) (S g σ w) := by
  show VE E mX0_row 7 _ 0 [some (.ref (g.1 0)), some (.int k), some (.int st), some (.int mr), none] [] (S g σ w)
  have h6 := hX.2.2.1.1
  have hu3 := hX.rows
  have BAD : rowOk k st mr = false → VE E mX0_row 7 (PR (.int (rowR u k st mr)) (fun s => (rowW u k st mr = u ∧ s = S g σ w) ∨ ∃ kd, k = nI kd ∧ kd < 6 ∧ n < 6 ∧ rowOk k st mr = true ∧ QRW g σ u n K kd st mr s)) 36 [some (.ref (g.1 0)), some (.int k), some (.int st), some (.int mr), none] [] (S g σ w) := fun hb => by
    refine VE.step (fun _ h => V.bipush (v := (-2)) dX0_row_36 (by decide) h) ?_
    exact VE.iret dX0_row_38 rfl rfl ⟨by rw [rowR, hb]; rfl, .inl ⟨by rw [rowW, hb]; rfl, rfl⟩⟩
  refine VE.step (fun _ h => V.ild1 dX0_row_0 (V.i2l dX0_row_1 (V.lconst_0 dX0_row_2 (V.ldc2_w q814 dX0_row_3 (V.invS3r sX0_112 dX0_row_6 (in_c (lo := 0) (hi := 5) rfl rfl) h))))) ?_
  refine VE.ifb_eq (tgt := 36) dX0_row_9 (by decide) (fun z => BAD (by unfold rowOk; rw [z]; rfl)) (fun c_9 => ?_)
  refine VE.step (fun _ h => V.ild2 dX0_row_12 (V.i2l dX0_row_13 (V.lconst_1 dX0_row_14 (V.ldc2_w q815 dX0_row_15 (V.invS3r sX0_112 dX0_row_18 (in_c (lo := 1) (hi := 8) rfl rfl) h))))) ?_
  refine VE.ifb_eq (tgt := 36) dX0_row_21 (by decide) (fun z => BAD (by unfold rowOk; rw [z, Bool.and_false]; rfl)) (fun c_21 => ?_)
  refine VE.step (fun _ h => V.ild3 dX0_row_24 (V.i2l dX0_row_25 (V.lconst_0 dX0_row_26 (V.ldc2_w q816 dX0_row_27 (V.invS3r sX0_112 dX0_row_30 (in_c (lo := 0) (hi := 20) rfl rfl) h))))) ?_
  refine VE.ifb_ne (tgt := 39) dX0_row_33 (by decide) (fun c_33 => ?_) (fun z => BAD (by unfold rowOk; rw [z, Bool.and_false]))
  have hok : rowOk k st mr = true := by unfold rowOk; rw [c_9, c_21, c_33]; rfl
  obtain ⟨kd, hkd, rfl⟩ := (inB_n (x := k) (n := 6) (by decide)).mp c_9
  refine VE.step (fun _ h => V.ald0 dX0_row_39 (GX0_22 hX rfl dX0_row_40 (V.invV0r vX0_142 hX.li.2.1 dX0_row_43 (c_J2_size hX) (V.bipush (v := 6) dX0_row_46 (by decide) h)))) ?_
  refine VE.icmp_ne (tgt := 54) dX0_row_48 (by decide) (fun z6 => ?_) (fun z6 => ?_)
  rotate_left 1
  · refine VE.step (fun _ h => V.bipush (v := (-4)) dX0_row_51 (by decide) h) ?_
    exact VE.iret dX0_row_53 rfl rfl ⟨by rw [rowR, if_pos hok, hu3, if_pos z6], .inl ⟨by rw [rowW, if_pos hok, hu3, if_pos z6], rfl⟩⟩
  have hn : n < 6 := by
    rcases Nat.lt_or_ge n 6 with h | h
    · exact h
    · exact absurd (show nI n = 6 by rw [show n = 6 by omega]; rfl) z6
  have hzn := hZ.1 n (by rw [hX.nrw]; exact Nat.le_refl _) hn
  refine VE.step (fun _ h => V.ald0 dX0_row_54 (GX0_22 hX rfl dX0_row_55 (V.invV0r vX0_142 hX.li.2.1 dX0_row_58 (c_J2_size hX) (V.ist4 dX0_row_61 (V.ald0 dX0_row_63 (GX0_26 hX rfl dX0_row_64 (V.ild4 dX0_row_67 (V.iconst_0 dX0_row_69 (sX4 (j := n) hX (IX.n hn (by decide)) dX0_row_70 h))))))))) ?_
  have hX1 : XH g σ (up2 w 5 n 0) u n K := by
    have h9 := hX.up (xm_108 (j := n) hn) (x := 0)
    rw [up2_nop hzn.1] at h9
    exact h9
  have hX2 : XH g σ (up2 (up2 w 5 n 0) 6 n 0) u n K := by
    have h9 := hX1.up (xm_109 (j := n) hn) (x := 0)
    rw [up2_nop hzn.2] at h9
    exact h9
  refine VE.step (fun _ h => V.ald0 dX0_row_71 (GX0_29 hX1 rfl dX0_row_72 (V.ild4 dX0_row_75 (V.iconst_0 dX0_row_77 (sX5 (j := n) hX1 (IX.n hn (by decide)) dX0_row_78 h))))) ?_
  generalize hw2 : up2 (up2 w 5 n 0) 6 n 0 = w2 at hX2 ⊢
  refine VE.step (fun _ h => V.ald0 dX0_row_79 (GX0_22 hX2 rfl dX0_row_80 (V.ald0 dX0_row_83 (V.ild4 dX0_row_84 (V.ild1 dX0_row_86 (V.ild2 dX0_row_87 (V.ild3 dX0_row_88 h))))))) ?_
  refine VE.callAny (As := [.ref (g.1 0), .int (nI n), .int (nI kd), .int st, .int mr]) rfl dX0_row_89 wX0_made (show 4 < 7 by decide) (Nat.le_of_ble_eq_true rfl) (Nat.le_of_ble_eq_true rfl) (Lk.V (As := [.int (nI n), .int (nI kd), .int st, .int mr]) (rest := [.ref (g.1 45)]) vX0_163 hX2.t0 rfl dX0_row_89) (c_X0_made (σ := S g σ w2) (X := g.1 0) hC h1 hkd) (fun v s9 q9 => ?_) (fun fa s9 q9 => by cases q9.1)
  obtain ⟨q0, F, mN, mt, mt1, ⟨m0, m1, m2⟩, mz, mr3, mrX⟩ := q9
  cases q0
  obtain ⟨σ1, w3, e1, F1, hw3⟩ := S_fg hX.gk F
  have hX3 : XH g σ1 w3 u n K := (hX2.fg F1).wk (fun a ha => hw3 a (hX2.live hG ha))
  have hNA : NA g (sN σ) := hGB.na (by omega)
  have hNA1 : NA g (sN σ + 1) := fun k hk z => by rcases hGB k hk with h9 | h9 <;> omega
  have hN1 : sN σ1 = sN σ + 2 := by
    have := congrArg (fun s => sN s) e1
    rw [← show sN s9 = sN σ1 from this]; exact mN
  subst e1
  have hl := hX3.li
  have l45 : 45 ∈ g.2 := hX.1.2.1.2.1
  have hl1000 : 1000 ≤ g.1 45 := hX.gk.2 _ l45
  have hsz : sI (S g σ1 w3) (g.1 45) 2 = nI n := by rw [S_int hX.gk l45]; exact hX3.2.2.1.2
  have hob : ObjE (S g σ1 w3) (sN σ) := objE_row hkd mt
  have hC1 : CLN σ1 := F1.2.2.1
  have t45 : (sT σ (g.1 45)).1 ≠ 0 := by rw [hX.li.2.1]; decide
  have hrow : rowW u (nI kd) st mr = up2 (up2 (up2 (up2 u 105 n (nI kd)) 106 n st) 107 n mr) 100 3 (nI n + 1) := by
    rw [rowW, if_pos hok, hu3, if_neg z6, hX.nrw]
  have hrR : rowR u (nI kd) st mr = nI n := by
    rw [rowR, if_pos hok, hu3, if_neg z6, nI_1, nI_pr]
  have cell : sI σ1 (sN σ) 0 = nI n ∧ sI σ1 (sN σ) 1 = st ∧ sI σ1 (sN σ) 2 = mr := by
    rw [hNA.i] at m0 m1 m2; exact ⟨m0, m1, m2⟩
  have cell1 : ∀ j, sI σ1 (sN σ + 1) j = 0 := fun j => by have := mz j; rw [hNA1.i] at this; exact this
  -- the end, from any heap behind add
  have FIN : ∀ (D : Nat) (σ2 : Sg) (mc : Int32), (∀ x, (sT σ1 x).1 ≠ 0 → sT σ2 x = sT σ1 x) → (∀ x, (sT σ1 x).1 ≠ 0 → (sT σ1 x).1 ≠ 104 → (sT σ1 x).1 ≠ 17 → sR σ2 x = sR σ1 x) → sI σ2 = sI σ1 ∨ sI σ2 = up1 (sI σ1) (sN σ1) (fun _ => 0) → sR σ2 (g.1 45) 1 = some D → sT σ2 D = (104, 10) → (∀ i, i < n → sR σ2 D i = some (g.1 (60 + i))) → sR σ2 D n = some (sN σ) → 1000 ≤ D → (D = g.1 46 ∨ sN σ ≤ D ∧ D < sN σ2) → (sN σ1 ≤ sN σ2 ∧ sN σ2 ≤ sN σ1 + 1) → (sS σ1 ≤ sS σ2 ∧ sS σ2 ≤ sS σ1 + 10) → CLN σ2 → (∀ x, (sT σ1 x).1 ≠ 0 → sL σ2 x = sL σ1 x ∧ (x ≠ g.1 45 → x ≠ g.1 46 → sR σ2 x = sR σ1 x)) → VE E mX0_row 7 (PR (.int (rowR u (nI kd) st mr)) (fun s => (rowW u (nI kd) st mr = u ∧ s = S g σ w) ∨ ∃ kd', nI kd = nI kd' ∧ kd' < 6 ∧ n < 6 ∧ rowOk (nI kd) st mr = true ∧ QRW g σ u n K kd' st mr s)) 95 [some (.ref (g.1 0)), some (.int (nI kd)), some (.int st), some (.int mr), some (.int (nI n))] [.int 1] (S g σ2 (up2 (up2 w3 45 0 mc) 45 2 (nI (n + 1)))) := by
    intro D σ2 mc A1 A2 A3 A4 A5 A6 A7 A8 A9 A10 A11 A12 A13
    have ia : ∀ x, x < sN σ1 → sI σ2 x = sI σ1 x := fun x hx => by
      rcases A3 with h | h
      · rw [h]
      · rw [h, up1_ne _ _ (by omega)]
    refine VE.step (fun _ h => V.pop dX0_row_95 (V.ild4 dX0_row_96 h)) ?_
    rw [S_ren (σ := σ2) (w := up2 (up2 w3 45 0 mc) 45 2 (nI (n + 1))) (D := D) hn hG h46 hNA hNA1, ia (sN σ) (by omega), ia (sN σ + 1) (by omega)]
    have na := (show (sT σ1 (sN σ)).1 ≠ 0 by rw [show (sT σ1 (sN σ)).1 = 9 + kd from mt]; omega)
    have nb := (show (sT σ1 (sN σ + 1)).1 ≠ 0 by rw [show sT σ1 (sN σ + 1) = (102, 8) from mt1]; decide)
    refine VE.iret dX0_row_98 rfl rfl ⟨by rw [hrR], .inr ⟨kd, rfl, hkd, hn, hok, D, σ2, _, rfl, ?_, ⟨A8, A5, A9⟩, ⟨by omega, by omega⟩, ⟨by have := F1.2.1.1; omega, by have := F1.2.1.2; omega⟩, A12, fun x hx => ?_⟩⟩
    · rw [hrow]
      refine row_XH hX3 hG h46 hZ hn hkd hNA hNA1 h1 A1 A2 A4 A5 A6 A7 ?_ ?_ ?_ (fun f f4 f7 => ?_) cell cell1
      · rw [A1 _ na]; exact mt
      · rw [A1 _ nb]; exact mt1
      · rw [A2 _ na (by rw [show (sT σ1 (sN σ)).1 = 9 + kd from mt]; omega) (by rw [show (sT σ1 (sN σ)).1 = 9 + kd from mt]; omega)]; exact mr3
      · rw [A2 _ na (by rw [show (sT σ1 (sN σ)).1 = 9 + kd from mt]; omega) (by rw [show (sT σ1 (sN σ)).1 = 9 + kd from mt]; omega)]; exact mrX f f4 f7
    · have f9 := F1.2.2.2 x hx
      have x1 : (sT σ1 x).1 ≠ 0 := by rw [f9.1]; exact hx
      have xl : x < sN σ1 := by
        rcases Nat.lt_or_ge x (sN σ1) with h | h
        · exact h
        · exact absurd (hC1 x h) x1
      exact ⟨(A1 x x1).trans f9.1, (ia x xl).trans f9.2.2.1, (A13 x x1).1.trans f9.2.2.2, fun z1 z2 => ((A13 x x1).2 z1 z2).trans f9.2.1⟩
  have hmc : sI (S g σ1 w3) (g.1 45) 0 = w3 45 0 := S_int hX.gk l45
  rcases hLD with ⟨hn0, hD1⟩ | ⟨hn0, hD1, hD2⟩
  · -- the first row of all
    subst hn0
    have hE1 : EMP E (S g σ1 w3) := ⟨hE.1, by rw [show sT (S g σ1 w3) 1 = sT σ1 1 from rfl, (F1.2.2.2 1 (by rw [hE.2]; decide)).1]; exact hE.2⟩
    have hlN : g.1 45 ≠ sN σ1 := fun z => by have := hC1 (sN σ1) (Nat.le_refl _); rw [← z, hl.2.1] at this; exact absurd this (by decide)
    have hNAa : NA g (sN σ1) := fun k hk z => by rcases hGB k hk with h9 | h9 <;> omega
    refine VE.step (fun _ h => V.invV1r vX0_167 hl.2.1 dX0_row_92 (add_lo (τ := S g σ1 w3) (l := g.1 45) (e := sN σ) hE1 hl.2.1 hl1000 hlN (by show 1000 ≤ sN σ1; omega) (by rw [show sR (S g σ1 w3) (g.1 45) 1 = sR σ1 (g.1 45) 1 from rfl, hl.2.2.1, hD1]) hsz hob (by show sN σ ≠ sN σ1; omega)) h) ?_
    rw [hmc, S_put hX.gk l45]
    have eA : grwH (S g σ1 (up2 w3 45 0 (w3 45 0 + 1))) (g.1 45) = S g (grwH σ1 (g.1 45)) (up2 w3 45 0 (w3 45 0 + 1)) := by
      unfold grwH
      rw [S_nW hNAa]
    rw [eA]
    have eB : pI (pR (S g (grwH σ1 (g.1 45)) (up2 w3 45 0 (w3 45 0 + 1))) (sN (S g σ1 w3)) 0 (some (sN σ))) (g.1 45) 2 (nI 1) = S g (pR (grwH σ1 (g.1 45)) (sN σ1) 0 (some (sN σ))) (up2 (up2 w3 45 0 (w3 45 0 + 1)) 45 2 (nI (0 + 1))) := S_put (σ := pR (grwH σ1 (g.1 45)) (sN σ1) 0 (some (sN σ))) hX.gk l45
    rw [eB]
    have rA : ∀ x, x ≠ sN σ1 → x ≠ g.1 45 → sR (pR (grwH σ1 (g.1 45)) (sN σ1) 0 (some (sN σ))) x = sR σ1 x := fun x z1 z2 => by
      show up2 (up2 (up1 (sR σ1) (sN σ1) (fun _ => none)) (g.1 45) 1 (some (sN σ1))) (sN σ1) 0 (some (sN σ)) x = _
      rw [up2_at _ _ z1, up2_at _ _ z2, up1_ne _ _ z1]
    have nN : ∀ x, (sT σ1 x).1 ≠ 0 → x ≠ sN σ1 := fun x hx z => hx (by rw [z]; exact hC1 _ (Nat.le_refl _))
    refine FIN (sN σ1) (pR (grwH σ1 (g.1 45)) (sN σ1) 0 (some (sN σ))) (w3 45 0 + 1) (fun x hx => ?_) (fun x hx _ h17 => rA x (nN x hx) (fun z => h17 (by rw [z, hl.2.1]))) (.inr rfl) ?_ ?_ (fun i hi => by omega) (up2_eq _ _ _ _) (by omega) (.inr ⟨by omega, by show sN σ1 < sN σ1 + 1; omega⟩) ⟨by show sN σ1 ≤ sN σ1 + 1; omega, by show sN σ1 + 1 ≤ sN σ1 + 1; omega⟩ ⟨by show sS σ1 ≤ sS σ1 + 10; omega, by show sS σ1 + 10 ≤ sS σ1 + 10; omega⟩ (hC1.n (t := (104, 10)) (k := 10)) (fun x hx => ⟨?_, fun z1 _ => rA x (nN x hx) z1⟩)
    · show up1 (sT σ1) (sN σ1) (104, 10) x = _
      rw [up1_ne _ _ (nN x hx)]
    · show up2 (up2 (up1 (sR σ1) (sN σ1) (fun _ => none)) (g.1 45) 1 (some (sN σ1))) (sN σ1) 0 (some (sN σ)) (g.1 45) 1 = _
      rw [up2_at _ _ hlN, up2_eq]
    · show up1 (sT σ1) (sN σ1) (104, 10) (sN σ1) = _
      rw [up1_eq]
    · show up1 (sL σ1) (sN σ1) (fun _ => 0) x = _
      rw [up1_ne _ _ (nN x hx)]
  · -- one more
    have hD3 : sT σ1 (g.1 46) = (104, 10) := by rw [(F1.2.2.2 (g.1 46) (by rw [hD2]; decide)).1]; exact hD2
    refine VE.step (fun _ h => V.invV1r vX0_167 hl.2.1 dX0_row_92 (add_hi (τ := S g σ1 w3) (l := g.1 45) (D := g.1 46) (e := sN σ) (n := n) (cap := 10) hl.2.1 hl1000 hl.2.2.1 hD3 hD1 hsz (by omega) (by decide) hob) h) ?_
    rw [hmc, S_put hX.gk l45]
    have eB : pI (pR (S g σ1 (up2 w3 45 0 (w3 45 0 + 1))) (g.1 46) n (some (sN σ))) (g.1 45) 2 (nI (n + 1)) = S g (pR σ1 (g.1 46) n (some (sN σ))) (up2 (up2 w3 45 0 (w3 45 0 + 1)) 45 2 (nI (n + 1))) := S_put (σ := pR σ1 (g.1 46) n (some (sN σ))) hX.gk l45
    rw [eB]
    have hne : g.1 45 ≠ g.1 46 := fun z => by have := hl.2.1; rw [z, hD3] at this; exact absurd this (by decide)
    refine FIN (g.1 46) (pR σ1 (g.1 46) n (some (sN σ))) (w3 45 0 + 1) (fun _ _ => rfl) (fun x hx h104 _ => up2_at _ _ (fun z => h104 (by rw [z, hD3]))) (.inl rfl) ?_ hD3 (fun i hi => ?_) (up2_eq _ _ _ _) hD1 (.inl rfl) ⟨Nat.le_refl _, Nat.le_succ _⟩ ⟨Nat.le_refl _, by show sS σ1 ≤ sS σ1 + 10; omega⟩ hC1 (fun x hx => ⟨rfl, fun _ z2 => up2_at _ _ z2⟩)
    · show up2 (sR σ1) (g.1 46) n (some (sN σ)) (g.1 45) 1 = _
      rw [up2_at _ _ hne]; exact hl.2.2.1
    · show up2 (sR σ1) (g.1 46) n (some (sN σ)) (g.1 46) i = _
      rw [up2_ne _ _ (fun z => by omega)]; exact hl.2.2.2.2 i hi
set_option maxRecDepth 100000
set_option maxHeartbeats 1000000
/-- all sums are small -/
theorem cl99 {x most : Int32} {B : Nat} (hB : most = nI B) (h : B < 2 ^ 30) : 0 ≤ (clampI x most).toInt ∧ (clampI x most).toInt ≤ B := by
  unfold clampI
  by_cases h1 : 0 ≤ x
  · rw [if_pos h1]
    rw [Int32.le_iff_toInt_le, Int32.toInt_zero] at h1
    by_cases h2 : x ≤ most
    · rw [if_pos h2]
      rw [Int32.le_iff_toInt_le, hB, nI_toInt (by omega)] at h2
      exact ⟨h1, h2⟩
    · rw [if_neg h2, hB, nI_toInt (by omega)]; omega
  · rw [if_neg h1, Int32.toInt_zero]; omega
theorem sumF_b {f : Nat → Int32} {B : Nat} (hf : ∀ k, 0 ≤ (f k).toInt ∧ (f k).toInt ≤ B) : ∀ (m k : Nat) (y : Int32) (A : Nat), 0 ≤ y.toInt → y.toInt ≤ A → A + m * B < 2 ^ 30 → 0 ≤ (sumF f k m y).toInt ∧ (sumF f k m y).toInt ≤ ((A + m * B : Nat) : Int)
  | 0, k, y, A, h1, h2, h3 => by rw [sumF]; omega
  | m + 1, k, y, A, h1, h2, h3 => by
    rw [sumF]
    have hk := hf k
    have e : (y + f k).toInt = y.toInt + (f k).toInt := by rw [Int32.toInt_add, Int.bmod_def]; rw [Nat.succ_mul] at h3; split <;> omega
    have := sumF_b hf m (k + 1) (y + f k) (A + B) (by omega) (by omega) (by rw [Nat.succ_mul] at h3; omega)
    rw [Nat.succ_mul]
    omega
theorem worT_b (u : Wv) (r c p : Nat) : 0 ≤ (worT u r c p).toInt ∧ (worT u r c p).toInt ≤ (99 : Nat) := by
  unfold worT
  split
  · exact cl99 (B := 99) rfl (by decide)
  · rw [Int32.toInt_zero]; omega
theorem worS_b {u : Wv} (hI : HI u) (r c : Nat) : 0 ≤ (worS u r c).toInt ∧ (worS u r c).toInt ≤ (594 : Nat) := by
  have h6 := hI.points.2
  have := sumF_b (worT_b u r c) (nP u) 0 0 0 (by decide) (by decide) (by omega)
  rw [worS]; omega
theorem rowS_b {u : Wv} (hI : HI u) : ∀ (m k : Nat) (y : Int32) (A : Nat), k + m ≤ 6 → 0 ≤ y.toInt → y.toInt ≤ A → A + m * 4752 < 2 ^ 30 → 0 ≤ (rowS (worS u) u k m y).toInt ∧ (rowS (worS u) u k m y).toInt ≤ A + m * 4752
  | 0, k, y, A, _, h1, h2, h3 => by rw [rowS]; omega
  | m + 1, k, y, A, hk, h1, h2, h3 => by
    rw [rowS]
    have h8 := (hI.seats (r := k) (by omega)).2
    have h9 := sumF_b (fun c => worS_b hI k c) (nS u k) 0 y A h1 h2 (by omega)
    have := rowS_b hI m (k + 1) (sumF (worS u k) 0 (nS u k) y) (A + 4752) (by omega) (by omega) (by omega) (by omega)
    omega
theorem allS_b {u : Wv} (hI : HI u) : 0 ≤ (allS u).toInt ∧ (allS u).toInt ≤ 28512 := by
  have h6 := hI.rows.2
  have := rowS_b hI (nR u) 0 0 0 (by omega) (by decide) (by decide) (by omega)
  rw [allS]; omega
theorem allS_nn {u : Wv} (hI : HI u) : ¬ allS u ≤ -1 := by
  have := (allS_b hI).1
  rw [Int32.le_iff_toInt_le, show (-1 : Int32).toInt = -1 by decide]
  omega
/-- but the names, and what was tried -/
def NT (w w' : Wv) : Prop := ∀ id j, id ≠ 14 → ¬ (id = 0 ∧ (j = 19 ∨ j = 20)) → w' id j = w id j
theorem NW.nt {w w' : Wv} (h : NW w w') : NT w w' := fun id j h1 _ => congrFun (h id h1) j
theorem NT.trans {a b c : Wv} (h : NT a b) (h' : NT b c) : NT a c := fun id j h1 h2 => (h' id j h1 h2).trans (h id j h1 h2)
def KQ (g : Ge) (σ : Sg) (w u : Wv) (n : Nat) (K : Nat → Nat) (way : Int32) : Sg → Prop := fun s => ∃ w' : Wv, s = S g σ w' ∧ XH g σ w' u n K ∧ (w' 0 19, w' 0 20) = (if allS u ≤ w 0 20 then (w 0 19, w 0 20) else (way, allS u)) ∧ NT w w' 
theorem c_X0_keeps {E : En} {g : Ge} {σ : Sg} {w u : Wv} {n : Nat} {K : Nat → Nat} (hX : XH g σ w u n K) (hI : HI u) (hE : HE u) (hT : HT u) (hR : TXR g σ u) {way : Int32} : CtE E mX0_keeps 406 [.ref (g.1 0), .int way] (PV (KQ g σ w u n K way)) (S g σ w) := by
  show VE E mX0_keeps 406 _ 0 [some (.ref (g.1 0)), some (.int way), none] [] (S g σ w)
  refine VE.step (fun _ h => V.ald0 dX0_keeps_0 h) ?_
  refine VE.invV0r vX0_362 hX.t0 dX0_keeps_1 (c_X0_allWorth hX hI hE hT hR) (fun s9 q9 => ?_)
  obtain ⟨w1, rfl, hX1, hN⟩ := q9
  have e0 : w1 0 = w 0 := hN 0 (by decide)
  refine VE.step (fun _ h => V.ist2 dX0_keeps_4 h) ?_
  have hX1' := hX1
  refine VE.step (fun _ h => V.ild2 dX0_keeps_5 (V.ald0 dX0_keeps_6 (GX0_371 hX1 rfl dX0_keeps_7 h))) ?_
  refine VE.icmp_gt (tgt := 14) dX0_keeps_10 (by decide) (fun c_10 => ?_) (fun c_10 => ?_)
  · refine VE.step (fun _ h => V.ald0 dX0_keeps_14 (V.ild2 dX0_keeps_15 (PX0_371 hX1 rfl dX0_keeps_16 h))) ?_
    have hX2 := hX1.sc (a := 0) (b := 20) (x := allS u) rfl
    refine VE.step (fun _ h => V.ald0 dX0_keeps_19 (V.ild1 dX0_keeps_20 (PX0_378 hX2 rfl dX0_keeps_21 h))) ?_
    exact VE.vret dX0_keeps_24 rfl (⟨rfl, _, rfl, (hX1.sc (a := 0) (b := 20) rfl).sc (a := 0) (b := 19) rfl, by rw [if_neg (by rw [← e0]; exact Int32.not_le.mpr c_10)]; rfl, hN.nt.trans (fun id j h1 h2 => by rw [up2_ne _ _ (fun z => h2 ⟨z.1, .inl z.2⟩), up2_ne _ _ (fun z => h2 ⟨z.1, .inr z.2⟩)])⟩)
  · exact VE.vret dX0_keeps_13 rfl (⟨rfl, _, rfl, hX1, by rw [if_pos (by rw [← e0]; exact Int32.not_lt.mp c_10), e0], hN.nt⟩)

/-- the first try counts -/
theorem bst_1 {f key : Nat → Int32} {k m : Nat} {a b : Int32} (h : ¬ f k ≤ -1) : bst f key k (m + 1) (a, -1) = bst f key k (m + 1) (b, -1) := by rw [bst, bst, if_neg h, if_neg h]
theorem bst_k {f key : Nat → Int32} {k m : Nat} {s t : Int32 × Int32} (h : t = if f k ≤ s.2 then s else (key k, f k)) : bst f key k (m + 1) s = bst f key (k + 1) m t := by rw [bst, h]
theorem leaB_x {u : Wv} (hI : HI u) {k : Nat} {a : Int32} : leaB u k = bst (fun x => allS (up2 u 116 k (nI x))) nI 0 21 (a, -1) := bst_1 (f := fun x => allS (up2 u 116 k (nI x))) (key := nI) (k := 0) (m := 20) (a := 0) (b := a) (allS_nn (u := up2 u 116 k (nI 0)) (hI.up (by decide) (by decide) (by decide)))
theorem po_ix {u : Wv} (hI : HI u) {k : Int32} (h : inB k 0 (u 100 14 - 1) = true) : ∃ k', k' < 4 ∧ k = nI k' ∧ cl k = k' := by
  have h4 := hI.posts.2
  obtain ⟨k', hk', e'⟩ := (inB_n (n := nO u) (by omega)).mp (by rw [← hI.posts.1]; exact h)
  exact ⟨k', by omega, e', by rw [e']; exact cl_n (by omega)⟩
theorem c_X0_least {E : En} {g : Ge} {σ : Sg} {w u : Wv} {n : Nat} {K : Nat → Nat} (hX : XH g σ w u n K) (hI : HI u) (hE : HE u) (hT : HT u) (hR : TXR g σ u) {k : Int32} : CtE E mX0_least 407 [.ref (g.1 0), .int k] (PR (.int (leastR u k)) (QX g σ u n K)) (S g σ w) := by
  show VE E mX0_least 407 _ 0 [some (.ref (g.1 0)), some (.int k), none, none, none] [] (S g σ w)
  refine VE.step (fun _ h => V.ild1 dX0_least_0 (V.i2l dX0_least_1 (V.lconst_0 dX0_least_2 (V.ald0 dX0_least_3 (GX0_210 hX rfl dX0_least_4 (V.i2l dX0_least_7 (V.lconst_1 dX0_least_8 (V.lsub dX0_least_9 (V.invS3r sX0_112 dX0_least_10 (in_u ⟨_, by have := hI.posts.2; omega, hI.posts.1⟩) h))))))))) ?_
  refine VE.ifb_ne (tgt := 19) dX0_least_13 (by decide) (fun c_13 => ?_) (fun c_13 => ?_)
  · obtain ⟨k, hk4, rfl, ek⟩ := po_ix hI c_13
    refine VE.step (fun _ h => V.ald0 dX0_least_19 (GX0_41 hX rfl dX0_least_20 (V.ild1 dX0_least_23 (aX10 hX (IX.n hk4 (by decide)) dX0_least_24 (V.ist2 dX0_least_25 (V.ald0 dX0_least_26 (V.iconst_m1 dX0_least_27 (PX0_371 hX rfl dX0_least_28 (V.iconst_0 dX0_least_31 (V.ist3 dX0_least_32 h)))))))))) ?_
    have L33 : ∀ (m x : Nat) (w1 u1 : Wv) (z : Option Value), x + m = 21 → XH g σ w1 u1 n K → (∀ y, up2 u1 116 k y = up2 u 116 k y) → VE E mX0_least 407 (PR (.int ((bst (fun x => allS (up2 u 116 k (nI x))) nI x m (w1 0 19, w1 0 20)).1)) (QX g σ u n K)) 33 [some (.ref (g.1 0)), some (.int (nI k)), some (.int (u 116 k)), some (.int (nI x)), z] [] (S g σ w1) := by
      intro m
      induction m with
      | zero =>
        intro x w1 u1 z hk hX1 hu
        refine VE.step (fun _ h => V.ild3 dX0_least_33 (V.bipush (v := 20) dX0_least_34 (by decide) h)) ?_
        refine VE.icmp_gt (tgt := 57) dX0_least_36 (by decide) (fun c_36 => ?_) (fun c_36 => absurd (show (20 : Int32) < nI x by rw [show x = 21 by omega]; decide) c_36)
        refine VE.step (fun _ h => V.ald0 dX0_least_57 (GX0_378 hX1 rfl dX0_least_58 (V.ist3 dX0_least_61 (V.ald0 dX0_least_62 (GX0_41 hX1 rfl dX0_least_63 (V.ild1 dX0_least_66 (V.ild2 dX0_least_67 (sX10 hX1 (IX.n hk4 (by decide)) dX0_least_68 (V.ild3 dX0_least_69 h))))))))) ?_
        exact VE.iret dX0_least_70 rfl rfl (⟨by rw [bst], _, rfl, by have h9 := hX1.up (xm_116 hk4) (x := u 116 k); rw [hu, up2_self] at h9; exact h9⟩)
      | succ m ih =>
        intro x w1 u1 z hk hX1 hu
        refine VE.step (fun _ h => V.ild3 dX0_least_33 (V.bipush (v := 20) dX0_least_34 (by decide) h)) ?_
        refine VE.icmp_gt (tgt := 57) dX0_least_36 (by decide) (fun c_36 => absurd c_36 (show ¬ (20 : Int32) < nI x from fun z => absurd ((nI_ltI (a := 20) (by omega) (by omega)).mp z) (by omega))) (fun c_36 => ?_)
        refine VE.step (fun _ h => V.ald0 dX0_least_39 (GX0_41 hX1 rfl dX0_least_40 (V.ild1 dX0_least_43 (V.ild3 dX0_least_44 (sX10 hX1 (IX.n hk4 (by decide)) dX0_least_45 h))))) ?_
        have hX2 := hX1.up (xm_116 hk4) (x := nI x)
        rw [hu] at hX2
        refine VE.step (fun _ h => V.ald0 dX0_least_46 (V.ild3 dX0_least_47 h)) ?_
        refine VE.invV1v vX0_374 hX2.t0 dX0_least_48 (c_X0_keeps hX2 (hI.up (by decide) (by decide) (by decide)) (hE.up (by decide)) (hT.up (by decide)) (hR.up (by decide))) (fun s9 q9 => ?_)
        obtain ⟨w3, rfl, hX3, hs, -⟩ := q9
        rw [show (up2 w1 11 k (nI x)) 0 19 = w1 0 19 from up2_ne _ _ (fun z => absurd z.1 (by decide)), show (up2 w1 11 k (nI x)) 0 20 = w1 0 20 from up2_ne _ _ (fun z => absurd z.1 (by decide))] at hs
        have hX3' := hX3
        refine VE.step (fun _ h => V.inc3 dX0_least_51 (V.goto (tgt := 33) dX0_least_54 (by decide) h)) ?_
        rw [nI_1, bst_k (f := fun x => allS (up2 u 116 k (nI x))) (key := nI) (k := x) (m := m) (s := (w1 0 19, w1 0 20)) (t := (w3 0 19, w3 0 20)) hs]
        exact ih (x + 1) w3 _ _ (by omega) hX3 (fun _ => up2_up2)
    rw [leastR, if_pos c_13, ek, leaB_x hI (a := w 0 19)]
    have h9 := L33 21 0 (up2 w 0 20 (-1)) u none (by omega) (hX.sc (a := 0) (b := 20) rfl) (fun _ => rfl)
    rw [show (up2 w 0 20 (-1)) 0 19 = w 0 19 from up2_ne _ _ (fun z => absurd z.2 (by decide)), up2_eq] at h9
    exact h9
  · refine VE.step (fun _ h => V.bipush (v := (-5)) dX0_least_16 (by decide) h) ?_
    exact VE.iret dX0_least_18 rfl rfl (⟨by simp only [leastR, c_13, if_true, if_false, Bool.false_eq_true, eq_self, and_true, true_and, and_false, false_and, Bool.and_true, Bool.true_and, Bool.and_false, Bool.false_and, Bool.not_true, Bool.not_false, not_true_eq_false, not_false_eq_true, ne_eq, b2i_t, b2i_f], w, rfl, hX⟩)

section
variable {E : En} {M : Mi} {d : Nat} {out : Out} {pc : Nat} {lv : List (Option Value)} {st : List Value} {σ : Sg} {g : Ge} {w w0 u : Wv} {n : Nat} {K : Nat → Nat}
theorem QX0_63 (hX : XH g σ w0 u n K) (hM : (mY M).cls = RX0) (hd : decode (mC M) pc = .ok (.putfield 63, 3)) {v : Int32} (h : V E M d out (pc + 3) lv st (S g σ (up2 w 0 25 v))) : V E M d out pc lv (.int v :: .ref (g.1 0) :: st) (S g σ w) := pX0_63 (σ := S g σ w) hM hX.t0 (hX.gk.2 _ hX.i0) hd (by rw [S_put hX.gk hX.i0]; exact h)
theorem QX0_239 (hX : XH g σ w0 u n K) (hM : (mY M).cls = RX0) (hd : decode (mC M) pc = .ok (.putfield 239, 3)) {v : Int32} (h : V E M d out (pc + 3) lv st (S g σ (up2 w 0 26 v))) : V E M d out pc lv (.int v :: .ref (g.1 0) :: st) (S g σ w) := pX0_239 (σ := S g σ w) hM hX.t0 (hX.gk.2 _ hX.i0) hd (by rw [S_put hX.gk hX.i0]; exact h)
theorem QX0_242 (hX : XH g σ w0 u n K) (hM : (mY M).cls = RX0) (hd : decode (mC M) pc = .ok (.putfield 242, 3)) {v : Int32} (h : V E M d out (pc + 3) lv st (S g σ (up2 w 0 27 v))) : V E M d out pc lv (.int v :: .ref (g.1 0) :: st) (S g σ w) := pX0_242 (σ := S g σ w) hM hX.t0 (hX.gk.2 _ hX.i0) hd (by rw [S_put hX.gk hX.i0]; exact h)
theorem XH.hatG {w' u' : Wv} (h : XH g σ w u n K) (hw : ∀ a b, ¬ (a = 0 ∧ (b = 25 ∨ b = 26 ∨ b = 27)) → w' a b = w a b) (hu : ∀ id j, ¬ (id = 100 ∧ (j = 23 ∨ j = 24)) → u' id j = u id j) (h27 : u' 100 24 = w' 0 27) (hp : hatP w' u') : XH g σ w' u' n K := by
  obtain ⟨h1, ⟨k1, k2, k3, k4⟩, h3, h4⟩ := h
  refine ⟨h1, ⟨fun id j q hq => ?_, hp, ?_, fun k hk => by rw [hw 39 k (by simp), hu 118 k (by simp)]; exact k4 k hk⟩, ⟨h3.1, (hw 45 2 (by simp)).trans h3.2⟩, fun i hi => ⟨(hu 105 i (by simp)).trans (h4 i hi).1, (hw _ _ (by omega)).trans (h4 i hi).2⟩⟩
  · by_cases e : id = 100 ∧ j = 24
    · obtain ⟨rfl, rfl⟩ := e
      cases hq.symm.trans xm_0_24
      exact h27
    · have h23 : ¬ (id = 100 ∧ j = 23) := fun z => by rw [z.1, z.2, show xm 100 23 = none from rfl] at hq; cases hq
      have hx := (xm_xi hq).1
      rw [hu id j (fun z => z.2.elim (fun q => h23 ⟨z.1, q⟩) (fun q => e ⟨z.1, q⟩)), hw q.1 q.2 (fun z => ?_)]
      · exact k1 id j q hq
      · rcases z with ⟨z1, z2 | z2 | z2⟩
        · rw [z1, z2, show xi 0 25 = none from rfl] at hx; cases hx
        · rw [z1, z2, show xi 0 26 = none from rfl] at hx; cases hx
        · rw [z1, z2, show xi 0 27 = some (100, 24) from rfl] at hx
          simp only [Option.some.injEq, Prod.mk.injEq] at hx
          exact e ⟨hx.1.symm, hx.2.symm⟩
  · unfold imgP at k3 ⊢; rw [hw 0 33 (by simp), hu 100 25 (by simp), hu 100 26 (by simp)]; exact k3
theorem HE.hat {u : Wv} (h : HE u) {s v : Int32} : HE (hatV u s v) := h
theorem TXR.hat (h : TXR g σ u) {s v : Int32} : TXR g σ (hatV u s v) := h
end
theorem c_X0_hat {E : En} {g : Ge} {σ : Sg} {w u : Wv} {n : Nat} {K : Nat → Nat} (hX : XH g σ w u n K) (hI : HI u) (hE : HE u) (hT : HT u) (hR : TXR g σ u) (h23 : u 100 23 = -1) {r c v : Int32} : CtE E mX0_hat 406 [.ref (g.1 0), .int r, .int c, .int v] (PR (.int (hatR u r c v)) (QX g σ (hatW u r c v) n K)) (S g σ w) := by
  show VE E mX0_hat 406 _ 0 [some (.ref (g.1 0)), some (.int r), some (.int c), some (.int v), none, none, none] [] (S g σ w)
  refine VE.step (fun _ h => V.ald0 dX0_hat_0 (V.ild1 dX0_hat_1 (V.ild2 dX0_hat_2 (V.invV2r vX0_173 hX.t0 dX0_hat_3 (c_X0_isSeat hX hI) h)))) ?_
  refine VE.ifb_ne (tgt := 12) dX0_hat_6 (by decide) (fun c_6 => ?_) (fun c_6 => ?_)
  · refine VE.step (fun _ h => V.ild3 dX0_hat_12 (V.i2l dX0_hat_13 (V.lconst_0 dX0_hat_14 (V.ldc2_w q809 dX0_hat_15 (V.invS3r sX0_112 dX0_hat_18 (in_c (lo := 0) (hi := 40) rfl rfl) h))))) ?_
    refine VE.ifb_ne (tgt := 27) dX0_hat_21 (by decide) (fun c_21 => ?_) (fun c_21 => ?_)
    · have c_6' := c_6
      obtain ⟨i, j, hi, hj, hc8, rfl, rfl, e1, e2⟩ := hX.se hI c_6
      refine VE.step (fun _ h => V.ald0 dX0_hat_27 h) ?_
      refine VE.invV0r vX0_362 hX.t0 dX0_hat_28 (c_X0_allWorth hX hI hE hT hR) (fun s9 q9 => ?_)
      obtain ⟨w1, rfl, hX1, hN1⟩ := q9
      have hX1' := hX1
      refine VE.step (fun _ h => V.ist4 dX0_hat_31 (V.ald0 dX0_hat_33 (V.ild1 dX0_hat_34 (QX0_63 hX1 rfl dX0_hat_35 (V.ald0 dX0_hat_38 (V.ild2 dX0_hat_39 (QX0_239 hX1 rfl dX0_hat_40 (V.ald0 dX0_hat_43 (V.ild3 dX0_hat_44 (QX0_242 hX1 rfl dX0_hat_45 h)))))))))) ?_
      have hX2 : XH g σ (up2 (up2 (up2 w1 0 25 (nI i)) 0 26 (nI j)) 0 27 v) (hatV u (nI (8 * i + j)) v) n K := hX1.hatG (fun a b h => by rw [up2_ne _ _ (fun z => h ⟨z.1, .inr (.inr z.2)⟩), up2_ne _ _ (fun z => h ⟨z.1, .inr (.inl z.2)⟩), up2_ne _ _ (fun z => h ⟨z.1, .inl z.2⟩)]) (fun id j h => by unfold hatV; rw [up2_ne _ _ (fun z => h ⟨z.1, .inr z.2⟩), up2_ne _ _ (fun z => h ⟨z.1, .inl z.2⟩)]) rfl (.inr ⟨i, j, hX.n6 hi, hc8, rfl, rfl, rfl⟩)
      refine VE.step (fun _ h => V.ild4 dX0_hat_48 (V.ald0 dX0_hat_50 h)) ?_
      refine VE.invV0r vX0_362 hX2.t0 dX0_hat_51 (c_X0_allWorth hX2 (HI.hat hI) hE.hat (HT.hat hT) hR.hat) (fun s9 q9 => ?_)
      obtain ⟨w3, rfl, hX3, hN3⟩ := q9
      have hX3' := hX3
      refine VE.step (fun _ h => V.isub dX0_hat_54 (V.ist5 dX0_hat_55 (V.ald0 dX0_hat_57 (V.iconst_m1 dX0_hat_58 (QX0_63 hX1 rfl dX0_hat_59 (V.ild5 dX0_hat_62 h)))))) ?_
      exact VE.iret dX0_hat_64 rfl rfl (⟨by rw [hatR, if_pos c_6, if_pos c_21, ix2e], _, rfl, by rw [hatW, if_pos c_6, if_pos c_21]; exact hX3.hatG (fun a b h => up2_ne _ _ (fun z => h ⟨z.1, .inl z.2⟩)) (fun id j h => by unfold hatV; rw [up2_ne _ _ (fun z => h ⟨z.1, .inr z.2⟩), up2_ne _ _ (fun z => h ⟨z.1, .inl z.2⟩), up2_ne _ _ (fun z => h ⟨z.1, .inr z.2⟩), up2_ne _ _ (fun z => h ⟨z.1, .inl z.2⟩)]) (by rw [up2_ne _ _ (by simp), show hatV u (-1) v 100 24 = v from rfl]; exact (hX3.sv.at xm_0_24).symm) (.inl ⟨rfl, rfl⟩)⟩)
    · refine VE.step (fun _ h => V.bipush (v := (-7)) dX0_hat_24 (by decide) h) ?_
      exact VE.iret dX0_hat_26 rfl rfl (⟨by simp only [hatR, c_6, c_21, if_true, if_false, Bool.false_eq_true, eq_self, and_true, true_and, and_false, false_and, Bool.and_true, Bool.true_and, Bool.and_false, Bool.false_and, Bool.not_true, Bool.not_false, not_true_eq_false, not_false_eq_true, ne_eq, b2i_t, b2i_f], w, rfl, by simp only [hatW, c_6, c_21, if_true, if_false, Bool.false_eq_true, eq_self, and_true, true_and, and_false, false_and, Bool.and_true, Bool.true_and, Bool.and_false, Bool.false_and, Bool.not_true, Bool.not_false, not_true_eq_false, not_false_eq_true, ne_eq, b2i_t, b2i_f]; exact hX⟩)
  · refine VE.step (fun _ h => V.bipush (v := (-5)) dX0_hat_9 (by decide) h) ?_
    exact VE.iret dX0_hat_11 rfl rfl (⟨by simp only [hatR, c_6, if_true, if_false, Bool.false_eq_true, eq_self, and_true, true_and, and_false, false_and, Bool.and_true, Bool.true_and, Bool.and_false, Bool.false_and, Bool.not_true, Bool.not_false, not_true_eq_false, not_false_eq_true, ne_eq, b2i_t, b2i_f], w, rfl, by simp only [hatW, c_6, if_true, if_false, Bool.false_eq_true, eq_self, and_true, true_and, and_false, false_and, Bool.and_true, Bool.true_and, Bool.and_false, Bool.false_and, Bool.not_true, Bool.not_false, not_true_eq_false, not_false_eq_true, ne_eq, b2i_t, b2i_f]; exact hX⟩)

theorem lay_ok {g : Ge} {σ : Sg} {w1 u u1 : Wv} {n : Nat} {K : Nat → Nat} (hX : XH g σ w1 u1 n K) (hk : ∀ j, j < 6 → w1 16 j = u 108 j) (ho : ∀ id j, ¬ (id = 108 ∧ j < 6) → u1 id j = u id j) : XH g σ (cpW w1 16 0 5 0 6) u n K := by
  have h := hX.cp (id := 108) (a := 16) (sp := 0) (b := 5) (dp := 0) rfl 6 (fun j hj => by rw [xm_108 hj, Nat.zero_add])
  rw [fA_back ho (fun j hj => by rw [Nat.zero_add]; exact hk j hj)] at h
  exact h
theorem keep_ok {g : Ge} {σ : Sg} {w u : Wv} {n : Nat} {K : Nat → Nat} (hX : XH g σ w u n K) : XH g σ (cpW w 5 0 16 0 6) u n K ∧ ∀ j, j < 6 → cpW w 5 0 16 0 6 16 j = u 108 j := ⟨hX.cps (fun j => rfl), fun j hj => by rw [cpW_at hj, Nat.zero_add]; exact hX.sv.at (xm_108 hj)⟩
theorem nR_off {u u1 : Wv} (ho : ∀ id j, ¬ (id = 108 ∧ j < 6) → u1 id j = u id j) : nR u1 = nR u := by unfold nR; rw [ho 100 3 (by simp)]
theorem HI.off {u u1 : Wv} (hI : HI u) (ho : ∀ id j, ¬ (id = 108 ∧ j < 6) → u1 id j = u id j) : HI u1 := by
  refine ⟨by rw [ho 100 3 (by simp)]; exact hI.1, by rw [ho 100 10 (by simp)]; exact hI.2.1, by rw [ho 100 14 (by simp)]; exact hI.2.2.1, fun r hr => by rw [ho 106 r (by simp)]; exact hI.2.2.2.1 r hr, fun i hi => by rw [ho 110 i (by simp)]; exact hI.2.2.2.2 i hi⟩
theorem HE.off {u u1 : Wv} (hE : HE u) (ho : ∀ id j, ¬ (id = 108 ∧ j < 6) → u1 id j = u id j) (h8 : ∀ r, r < 6 → ∃ a, a ≤ 99 ∧ u1 108 r = nI a) : HE u1 := by
  refine ⟨fun k hk => ?_, fun r hr => ⟨?_, h8 r hr⟩⟩
  · rw [ho 101 k (by simp), ho 102 k (by simp), ho 103 k (by simp)]; exact hE.1 k hk
  · rw [ho 107 r (by simp)]; exact (hE.2 r hr).1
theorem c_X0_proof {E : En} {g : Ge} {σ : Sg} {w u : Wv} {n : Nat} {K : Nat → Nat} (hX : XH g σ w u n K) (hI : HI u) (hE : HE u) {r : Int32} : CtE E mX0_proof 9 [.ref (g.1 0), .int r] (PR (.int (proofR u r)) (QX g σ u n K)) (S g σ w) := by
  show VE E mX0_proof 9 _ 0 [some (.ref (g.1 0)), some (.int r), none, none, none, none] [] (S g σ w)
  refine VE.step (fun _ h => V.ald0 dX0_proof_0 (V.ild1 dX0_proof_1 (V.invV1r vX0_146 hX.t0 dX0_proof_2 (c_X0_isRow hX) h))) ?_
  refine VE.ifb_ne (tgt := 11) dX0_proof_5 (by decide) (fun c_5 => ?_) (fun c_5 => ?_)
  · obtain ⟨r, hr, rfl, e1⟩ := hX.ix c_5
    have h6 := hX.n6 hr
    refine VE.step (fun _ h => V.ald0 dX0_proof_11 (V.invV0v vX0_311 hX.t0 dX0_proof_12 (c_X0_keepsRises hX) (V.iconst_0 dX0_proof_15 (V.ist2 dX0_proof_16 h)))) ?_
    rw [proofR, if_pos c_5, e1]
    obtain ⟨hK1, hK2⟩ := keep_ok hX
    have L17 : ∀ (m k f : Nat) (w1 u1 : Wv) (z3 z4 z5 : Option Value), k + m = r + 1 → XH g σ w1 u1 n K → HI u1 → HE u1 → (∀ j, j < 6 → w1 16 j = u 108 j) → (∀ id j, ¬ (id = 108 ∧ j < 6) → u1 id j = u id j) → f ≤ 99 → (k = 0 → f = 0) → (¬ k = 0 → u1 108 (k - 1) = nI f) → VE E mX0_proof 9 (PR (.int (prf k m f u1)) (QX g σ u n K)) 17 [some (.ref (g.1 0)), some (.int (nI r)), some (.int (nI k)), z3, z4, z5] [] (S g σ w1) := by
      intro m
      induction m with
      | zero =>
        intro k f w1 u1 z3 z4 z5 hk hX1 hI1 hE1 hk16 ho hf99 hf0 hf1
        refine VE.step (fun _ h => V.ild2 dX0_proof_17 (V.ild1 dX0_proof_18 h)) ?_
        refine VE.icmp_gt (tgt := 72) dX0_proof_19 (by decide) (fun c_19 => ?_) (fun c_19 => absurd (show nI r < nI k from nI_lt (by omega) (by omega)) c_19)
        refine VE.step (fun _ h => V.ald0 dX0_proof_72 (GX0_26 hX1 rfl dX0_proof_73 (V.ild1 dX0_proof_76 (aX4 hX1 (IX.n (by omega) (by decide)) dX0_proof_77 (V.ist2 dX0_proof_78 (V.ald0 dX0_proof_79 (V.invV0v vX0_323 hX1.t0 dX0_proof_80 (c_X0_laysRises hX1) (V.ild2 dX0_proof_83 h)))))))) ?_
        exact VE.iret dX0_proof_84 rfl rfl (⟨by rw [prf, ← hf1 (by omega), show k - 1 = r by omega], _, rfl, lay_ok hX1 hk16 ho⟩)
      | succ m ih =>
        intro k f w1 u1 z3 z4 z5 hk hX1 hI1 hE1 hk16 ho hf99 hf0 hf1
        have hk6 : k < n := by omega
        refine VE.step (fun _ h => V.ild2 dX0_proof_17 (V.ild1 dX0_proof_18 h)) ?_
        refine VE.icmp_gt (tgt := 72) dX0_proof_19 (by decide) (fun c_19 => absurd c_19 (show ¬ nI r < nI k from fun z => absurd ((nI_ltI (by omega) (by omega)).mp z) (by omega))) (fun c_19 => ?_)
        refine VE.step (fun _ h => V.ald0 dX0_proof_22 (V.ild2 dX0_proof_23 (V.ild2 dX0_proof_24 h))) ?_
        refine VE.if_ne (tgt := 32) dX0_proof_25 (by decide) (fun c_25 => ?_) (fun c_25 => ?_)
        · refine VE.step (fun _ h => V.ald0 dX0_proof_32 (GX0_26 hX1 rfl dX0_proof_33 (V.ild2 dX0_proof_36 (V.iconst_1 dX0_proof_37 (V.isub dX0_proof_38 (aX4 (j := k - 1) hX1 (IX.of (nI_prd c_25).1 (by omega) (by decide)) dX0_proof_39 h)))))) ?_
          first
            | rw [hf1 (nI_prd c_25).2]
            | (have hz := hf0 (rz c_25 (by omega)); rw [show (0 : Int32) = nI f by rw [hz]; rfl])
          refine VE.step (fun _ h => V.invV2r vX0_368 hX1.t0 dX0_proof_40 (c_X0_leastFloor hX1 hk6 hI1 hE1 (f := f) (by omega)) (V.ist3 dX0_proof_43 h)) ?_
          cases hff : ff (raiP u1 k) f (100 - f) with
          | none =>
            rw [show raiS u1 k f = -1 by rw [raiS, ffI, hff]]
            refine VE.step (fun _ h => V.ild3 dX0_proof_44 (V.iconst_m1 dX0_proof_45 h)) ?_
            refine VE.icmp_ne (tgt := 59) dX0_proof_46 (by decide) (fun c_46 => absurd rfl c_46) (fun c_46 => ?_)
            refine VE.step (fun _ h => V.iconst_m1 dX0_proof_49 (V.ist4 dX0_proof_50 (V.ald0 dX0_proof_52 (V.invV0v vX0_323 hX1.t0 dX0_proof_53 (c_X0_laysRises hX1) (V.ild4 dX0_proof_56 h))))) ?_
            exact VE.iret dX0_proof_58 rfl rfl (⟨by rw [prf, hff], _, rfl, lay_ok hX1 hk16 ho⟩)
          | some x =>
            have hx := ff_lt hff
            rw [show raiS u1 k f = nI x by rw [raiS, ffI, hff]]
            refine VE.step (fun _ h => V.ild3 dX0_proof_44 (V.iconst_m1 dX0_proof_45 h)) ?_
            refine VE.icmp_ne (tgt := 59) dX0_proof_46 (by decide) (fun c_46 => ?_) (fun c_46 => absurd c_46 (nI_nm1 (by omega)))
            refine VE.step (fun _ h => V.ald0 dX0_proof_59 (GX0_26 hX1 rfl dX0_proof_60 (V.ild2 dX0_proof_63 (V.ild3 dX0_proof_64 (sX4 hX1 (IX.n (by omega) (by decide)) dX0_proof_65 (V.inc2 dX0_proof_66 (V.goto (tgt := 17) dX0_proof_69 (by decide) h))))))) ?_
            rw [nI_1, prf, hff]
            exact ih (k + 1) x _ _ _ _ _ (by omega) (hX1.up (xm_108 (by omega))) (hI1.up (by decide) (by decide) (by decide)) (hE1.up8 (by omega)) (fun j hj => by rw [up2_ne _ _ (fun z => absurd z.1 (by decide))]; exact hk16 j hj) (fun id j h => by rw [up2_ne _ _ (fun z => h ⟨z.1, by omega⟩)]; exact ho id j h) (by omega) (fun z => absurd z (by omega)) (fun _ => by rw [show k + 1 - 1 = k by omega, up2_eq])
        · refine VE.step (fun _ h => V.iconst_0 dX0_proof_28 (V.goto (tgt := 40) dX0_proof_29 (by decide) h)) ?_
          first
            | rw [hf1 (nI_prd c_25).2]
            | (have hz := hf0 (rz c_25 (by omega)); rw [show (0 : Int32) = nI f by rw [hz]; rfl])
          refine VE.step (fun _ h => V.invV2r vX0_368 hX1.t0 dX0_proof_40 (c_X0_leastFloor hX1 hk6 hI1 hE1 (f := f) (by omega)) (V.ist3 dX0_proof_43 h)) ?_
          cases hff : ff (raiP u1 k) f (100 - f) with
          | none =>
            rw [show raiS u1 k f = -1 by rw [raiS, ffI, hff]]
            refine VE.step (fun _ h => V.ild3 dX0_proof_44 (V.iconst_m1 dX0_proof_45 h)) ?_
            refine VE.icmp_ne (tgt := 59) dX0_proof_46 (by decide) (fun c_46 => absurd rfl c_46) (fun c_46 => ?_)
            refine VE.step (fun _ h => V.iconst_m1 dX0_proof_49 (V.ist4 dX0_proof_50 (V.ald0 dX0_proof_52 (V.invV0v vX0_323 hX1.t0 dX0_proof_53 (c_X0_laysRises hX1) (V.ild4 dX0_proof_56 h))))) ?_
            exact VE.iret dX0_proof_58 rfl rfl (⟨by rw [prf, hff], _, rfl, lay_ok hX1 hk16 ho⟩)
          | some x =>
            have hx := ff_lt hff
            rw [show raiS u1 k f = nI x by rw [raiS, ffI, hff]]
            refine VE.step (fun _ h => V.ild3 dX0_proof_44 (V.iconst_m1 dX0_proof_45 h)) ?_
            refine VE.icmp_ne (tgt := 59) dX0_proof_46 (by decide) (fun c_46 => ?_) (fun c_46 => absurd c_46 (nI_nm1 (by omega)))
            refine VE.step (fun _ h => V.ald0 dX0_proof_59 (GX0_26 hX1 rfl dX0_proof_60 (V.ild2 dX0_proof_63 (V.ild3 dX0_proof_64 (sX4 hX1 (IX.n (by omega) (by decide)) dX0_proof_65 (V.inc2 dX0_proof_66 (V.goto (tgt := 17) dX0_proof_69 (by decide) h))))))) ?_
            rw [nI_1, prf, hff]
            exact ih (k + 1) x _ _ _ _ _ (by omega) (hX1.up (xm_108 (by omega))) (hI1.up (by decide) (by decide) (by decide)) (hE1.up8 (by omega)) (fun j hj => by rw [up2_ne _ _ (fun z => absurd z.1 (by decide))]; exact hk16 j hj) (fun id j h => by rw [up2_ne _ _ (fun z => h ⟨z.1, by omega⟩)]; exact ho id j h) (by omega) (fun z => absurd z (by omega)) (fun _ => by rw [show k + 1 - 1 = k by omega, up2_eq])
    exact L17 (r + 1) 0 0 _ u _ _ _ (by omega) hK1 hI hE hK2 (fun _ _ _ => rfl) (by omega) (fun _ => rfl) (fun z => absurd rfl z)
  · refine VE.step (fun _ h => V.bipush (v := (-5)) dX0_proof_8 (by decide) h) ?_
    exact VE.iret dX0_proof_10 rfl rfl (⟨by simp only [proofR, c_5, if_true, if_false, Bool.false_eq_true, eq_self, and_true, true_and, and_false, false_and, Bool.and_true, Bool.true_and, Bool.and_false, Bool.false_and, Bool.not_true, Bool.not_false, not_true_eq_false, not_false_eq_true, ne_eq, b2i_t, b2i_f], w, rfl, hX⟩)

set_option maxRecDepth 100000
set_option maxHeartbeats 1000000
theorem c_X0_settle {E : En} {g : Ge} {σ : Sg} {w u : Wv} {n : Nat} {K : Nat → Nat} (hX : XH g σ w u n K) (hI : HI u) (hE : HE u) (hT : HT u) (hR : TXR g σ u) {r a : Int32} : CtE E mX0_settle 407 [.ref (g.1 0), .int r, .int a] (PR (.int (settleR u r a)) (QX g σ (settleW u r a) n K)) (S g σ w) := by
  show VE E mX0_settle 407 _ 0 [some (.ref (g.1 0)), some (.int r), some (.int a), none, none] [] (S g σ w)
  refine VE.step (fun _ h => V.ald0 dX0_settle_0 (V.ild1 dX0_settle_1 (V.invV1r vX0_146 hX.t0 dX0_settle_2 (c_X0_isRow hX) h))) ?_
  refine VE.ifb_ne (tgt := 11) dX0_settle_5 (by decide) (fun c_5 => ?_) (fun c_5 => ?_)
  · refine VE.step (fun _ h => V.ild2 dX0_settle_11 (V.i2l dX0_settle_12 (V.lconst_0 dX0_settle_13 (V.ldc2_w q814 dX0_settle_14 (V.invS3r sX0_112 dX0_settle_17 (in_c (lo := 0) (hi := 5) rfl rfl) h))))) ?_
    refine VE.ifb_ne (tgt := 26) dX0_settle_20 (by decide) (fun c_20 => ?_) (fun c_20 => ?_)
    · obtain ⟨r, hr, rfl, e1⟩ := hX.ix c_5
      have h6 := hX.n6 hr
      obtain ⟨a, ha, rfl⟩ := (inB_n (n := 6) (by decide)).mp c_20
      have e2 : cl (nI a) = a := cl_n (by omega)
      refine VE.step (fun _ h => V.iconst_0 dX0_settle_26 (V.ist3 dX0_settle_27 (V.ald0 dX0_settle_28 (GX0_22 hX rfl dX0_settle_29 (V.ild1 dX0_settle_32 (V.invV1r vX0_150 hX.li.2.1 dX0_settle_33 (c_J2_get hX hr) (ccX0_122 hX hr rfl dX0_settle_36 (V.ast4 dX0_settle_39 h)))))))) ?_
      have L41 : ∀ (m k : Nat) (w1 u1 : Wv), k + m = a → XH g σ w1 u1 n K → HI u1 → HE u1 → HT u1 → TXR g σ u1 → nS u1 r ≤ 8 → setl r k m u1 = setl r 0 a u → VE E mX0_settle 407 (PR (.int (settleR u (nI r) (nI a))) (QX g σ (settleW u (nI r) (nI a)) n K)) 41 [some (.ref (g.1 0)), some (.int (nI r)), some (.int (nI a)), some (.int (nI k)), some (.ref (g.1 (60 + r)))] [] (S g σ w1) := by
        intro m
        induction m with
        | zero =>
          intro k w1 u1 hk hX1 hI1 hE1 hT1 hR1 hS hs
          refine VE.step (fun _ h => V.ild3 dX0_settle_41 (V.ild2 dX0_settle_42 h)) ?_
          refine VE.icmp_ge (tgt := 89) dX0_settle_43 (by decide) (fun c_43 => ?_) (fun c_43 => absurd (by exact nI_le (by omega) (by omega)) c_43)
          refine VE.step (fun _ h => V.ild3 dX0_settle_89 h) ?_
          exact VE.iret dX0_settle_90 rfl rfl (⟨by rw [settleR, if_pos c_5, if_pos c_20, e1, e2, ← hs]; rfl, _, rfl, by rw [settleW, if_pos c_5, if_pos c_20, e1, e2, ← hs]; exact hX1⟩)
        | succ m ih =>
          intro k w1 u1 hk hX1 hI1 hE1 hT1 hR1 hS hs
          refine VE.step (fun _ h => V.ild3 dX0_settle_41 (V.ild2 dX0_settle_42 h)) ?_
          refine VE.icmp_ge (tgt := 89) dX0_settle_43 (by decide) (fun c_43 => absurd c_43 (by first | exact nI_ge (by omega) (by omega) | exact fun h9 => absurd ((nI_leI (by omega) (by omega)).mp h9) (by omega))) (fun c_43 => ?_)
          refine VE.step (fun _ h => V.ald0 dX0_settle_46 (V.ild1 dX0_settle_47 h)) ?_
          refine VE.invV1v vX0_397 hX1.t0 dX0_settle_48 (c_X0_seeks hX1 hI1 hE1 hT1 hR1 hr) (fun s9 q9 => ?_)
          obtain ⟨w2, rfl, hX2, ht⟩ := q9
          have hb : w2 0 23 = (fnd u1 r).1 := congrArg Prod.fst ht
          have hX2' := hX2
          refine VE.step (fun _ h => V.ald0 dX0_settle_51 (GX0_391 hX2 rfl dX0_settle_52 (V.iconst_m1 dX0_settle_55 h))) ?_
          refine VE.icmp_ne (tgt := 61) dX0_settle_56 (by decide) (fun c_56 => ?_) (fun c_56 => ?_)
          · have hz : ¬ (fnd u1 r).1 = -1 := fun z => c_56 (hb.trans z)
            obtain ⟨a1, b1, ha1, hb1', hab⟩ := (fnd_ok hS).resolve_left hz
            rw [hab] at hb
            refine VE.step (fun _ h => V.ald0 dX0_settle_61 (V.ald4 dX0_settle_62 (V.ald0 dX0_settle_64 (GX0_391 hX2 rfl dX0_settle_65 (V.bipush (v := 10) dX0_settle_68 (by decide) (V.idiv dX0_settle_70 (by decide) (V.ald4 dX0_settle_71 (V.ald0 dX0_settle_73 (GX0_391 hX2 rfl dX0_settle_74 (V.bipush (v := 10) dX0_settle_77 (by decide) (V.irem dX0_settle_79 (by decide) h))))))))))) ?_
            rw [hb, show (10 : Int32) = nI 10 from rfl, pk_rem (a := 10 * a1 + b1) (d := 10) (by omega) (by decide) (by decide), pk_div (by omega) (by decide) (by decide), show (10 * a1 + b1) / 10 = a1 by omega, show (10 * a1 + b1) % 10 = b1 by omega]
            refine VE.step (fun _ h => V.invV4v vX0_387 hX2.t0 dX0_settle_80 (c_X0_changes hX2 hI1 hr (c := a1) (by omega) hr (e := b1) (by omega)) (V.inc3 dX0_settle_83 (V.goto (tgt := 41) dX0_settle_86 (by decide) h))) ?_
            rw [nI_1]
            exact ih (k + 1) _ (swp u1 (8 * r + a1) (8 * r + b1)) (by omega) (hX2.swp hr (by omega) hr (by omega)) (HI.swp hI1 (by omega) (by omega)) hE1.swp (HT.swp hT1) hR1.swp (by rw [nS, swp_ne (by decide)]; exact hS) (by rw [← hs, setl, if_neg hz, hab, cl_n (by omega), show (10 * a1 + b1) / 10 = a1 by omega, show (10 * a1 + b1) % 10 = b1 by omega])
          · refine VE.step (fun _ h => V.ild3 dX0_settle_59 h) ?_
            exact VE.iret dX0_settle_60 rfl rfl (by have hz := hb.symm.trans c_56; rw [setl, if_pos hz] at hs; exact ⟨by rw [settleR, if_pos c_5, if_pos c_20, e1, e2, ← hs], _, rfl, by rw [settleW, if_pos c_5, if_pos c_20, e1, e2, ← hs]; exact hX2⟩)
      exact L41 a 0 w u (by omega) hX hI hE hT hR (hI.seats h6).2 rfl
    · refine VE.step (fun _ h => V.bipush (v := (-7)) dX0_settle_23 (by decide) h) ?_
      exact VE.iret dX0_settle_25 rfl rfl (⟨by simp only [settleR, c_5, c_20, if_true, if_false, Bool.false_eq_true, eq_self, and_true, true_and, and_false, false_and, Bool.and_true, Bool.true_and, Bool.and_false, Bool.false_and, Bool.not_true, Bool.not_false, not_true_eq_false, not_false_eq_true, ne_eq, b2i_t, b2i_f], w, rfl, by simp only [settleW, c_5, c_20, if_true, if_false, Bool.false_eq_true, eq_self, and_true, true_and, and_false, false_and, Bool.and_true, Bool.true_and, Bool.and_false, Bool.false_and, Bool.not_true, Bool.not_false, not_true_eq_false, not_false_eq_true, ne_eq, b2i_t, b2i_f]; exact hX⟩)
  · refine VE.step (fun _ h => V.bipush (v := (-5)) dX0_settle_8 (by decide) h) ?_
    exact VE.iret dX0_settle_10 rfl rfl (⟨by simp only [settleR, c_5, if_true, if_false, Bool.false_eq_true, eq_self, and_true, true_and, and_false, false_and, Bool.and_true, Bool.true_and, Bool.and_false, Bool.false_and, Bool.not_true, Bool.not_false, not_true_eq_false, not_false_eq_true, ne_eq, b2i_t, b2i_f], w, rfl, by simp only [settleW, c_5, if_true, if_false, Bool.false_eq_true, eq_self, and_true, true_and, and_false, false_and, Bool.and_true, Bool.true_and, Bool.and_false, Bool.false_and, Bool.not_true, Bool.not_false, not_true_eq_false, not_false_eq_true, ne_eq, b2i_t, b2i_f]; exact hX⟩)

theorem XH.cpf {g : Ge} {σ : Sg} {w u : Wv} {n : Nat} {K : Nat → Nat} {id lo a sp b dp : Nat} {f : Nat → Int32} (hid : Nat.beq id 100 = false) (h : XH g σ w (fA id lo f u) n K) : ∀ m, (∀ j, j < m → xm id (lo + j) = some (b, dp + j)) → (∀ j, j < m → w a (sp + j) = f (lo + j)) → XH g σ (cpW w a sp b dp m) (fA id (lo + m) f u) n K
  | 0, _, _ => by rw [cpW_0]; exact h
  | m + 1, hm, hf => by
    rw [cpW_s, ← Nat.add_assoc, ← fA_s (d := id) (k := lo + m) (f := f) (v := w a (sp + m)) (hf m (by omega))]
    exact (XH.cpf hid h m (fun j hj => hm j (by omega)) (fun j hj => hf j (by omega))).up (hm m (by omega)) (by rw [hid]; rfl)
/-- what isn't sitters -/
def N70 (w w' : Wv) : Prop := ∀ id, id < 70 → w' id = w id
theorem N70.trans {a b c : Wv} (h : N70 a b) (h' : N70 b c) : N70 a c := fun id hi => (h' id hi).trans (h id hi)
/-- rows that aren't there have no cells -/
def XG (g : Ge) (n : Nat) : Prop := ∀ i, n ≤ i → i < 6 → 60 + i ∉ g.2 ∧ 70 + i ∉ g.2
theorem S_gh {g : Ge} {σ : Sg} {w w' : Wv} (h : ∀ id, id ∈ g.2 → w' id = w id) : S g σ w' = S g σ w := by
  show wI σ (vset g (sI σ) w') = wI σ (vset g (sI σ) w)
  congr 1
  funext b j
  unfold vset
  cases hf : g.2.find? (fun k => g.1 k == b) with
  | none => rfl
  | some k => exact congrFun (h k (List.mem_of_find?_eq_some hf)) j
theorem XH.gh {g : Ge} {σ : Sg} {w u : Wv} {n : Nat} {K : Nat → Nat} {f : Nat → Int32} (hG : XG g n) (h : XH g σ w (fA 110 (8 * n) f u) n K) : ∃ w', S g σ w' = S g σ w ∧ XH g σ w' (fA 110 48 f u) n K ∧ N70 w w' := by
  have h6 := h.2.2.1.1
  refine ⟨fun id j => if 70 + n ≤ id ∧ id < 76 then f (8 * (id - 70) + j) else w id j, S_gh (fun id hid => ?_), ?_, fun id hid => ?_⟩
  · funext j
    show (if _ then _ else _) = _
    rw [if_neg (fun z => (hG (id - 70) (by omega) (by omega)).2 (by rw [show 70 + (id - 70) = id by omega]; exact hid))]
  · obtain ⟨h1, ⟨k1, k2, k3, k4⟩, h3, h4⟩ := h
    have hw : ∀ id, id < 70 → ∀ j, (fun id j => if 70 + n ≤ id ∧ id < 76 then f (8 * (id - 70) + j) else w id j : Wv) id j = w id j := fun id hid j => by show (if 70 + n ≤ id ∧ _ then _ else _) = _; rw [if_neg (by omega)]
    refine ⟨h1, ⟨fun id j q hq => ?_, ?_, ?_, fun k hk => ?_⟩, ⟨h3.1, (hw 45 (by decide) 2).trans h3.2⟩, fun i hi => ⟨by rw [fA_ne (by decide), ← (h4 i hi).1, fA_ne (by decide)], ?_⟩⟩
    rotate_left 1
    · unfold hatP at k2 ⊢
      rw [hw 0 (by decide) 25, hw 0 (by decide) 26, fA_ne (by decide)]
      rw [fA_ne (by decide)] at k2
      exact k2
    · unfold imgP at k3 ⊢
      rw [hw 0 (by decide) 33, fA_ne (by decide), fA_ne (by decide)]
      rw [fA_ne (by decide), fA_ne (by decide)] at k3
      exact k3
    · rw [hw 39 (by decide) k, fA_ne (by decide), ← k4 k hk, fA_ne (by decide)]
    rotate_left 1
    · have hx := (xm_xi hq).1
      show _ = (if 70 + n ≤ q.1 ∧ q.1 < 76 then f (8 * (q.1 - 70) + q.2) else w q.1 q.2)
      by_cases e : id = 110 ∧ j < 48
      · obtain ⟨rfl, hj⟩ := e
        rw [fA_at hj]
        cases hq.symm.trans (xm_110 hj)
        by_cases h9 : 8 * n ≤ j
        · rw [if_pos ⟨by show 70 + n ≤ 70 + j / 8; omega, by show 70 + j / 8 < 76; omega⟩]
          show f j = f (8 * (70 + j / 8 - 70) + j % 8)
          rw [show 8 * (70 + j / 8 - 70) + j % 8 = j by omega]
        · rw [if_neg (fun z => by have := z.1; have : 70 + n ≤ 70 + j / 8 := this; omega), ← k1 110 j _ (xm_110 hj), fA_at (by omega)]
      · have hq2 : ¬ (70 + n ≤ q.1 ∧ q.1 < 76) := fun z => by
          by_cases hb : q.2 < 8
          · have e9 : xi q.1 q.2 = some (110, 8 * (q.1 - 70) + q.2) := by
              have := xi_110 (j := 8 * (q.1 - 70) + q.2) (by omega)
              rw [show 70 + (8 * (q.1 - 70) + q.2) / 8 = q.1 by omega, show (8 * (q.1 - 70) + q.2) % 8 = q.2 by omega] at this
              exact this
            rw [e9] at hx
            simp only [Option.some.injEq, Prod.mk.injEq] at hx
            exact e ⟨hx.1.symm, by omega⟩
          · have e9 : xi q.1 q.2 = none := by unfold xi; repeat (first | rw [if_neg (by omega)] | rfl)
            rw [e9] at hx
            cases hx
        rw [if_neg hq2, ← k1 id j q hq]
        unfold fA
        rw [if_neg e, if_neg (fun z => e ⟨z.1, by omega⟩)]
    · show (if 70 + n ≤ 60 + i ∧ _ then _ else _) = _
      rw [if_neg (by omega)]
      exact (h4 i hi).2
  · funext j
    show (if 70 + n ≤ id ∧ _ then _ else _) = _
    rw [if_neg (by omega)]
theorem c_J11_fill {E : En} {g : Ge} {σ : Sg} {w u : Wv} {n : Nat} {K : Nat → Nat} {r : Nat} (hr : r < n) {k : Int32} (hk : k.toInt8.toInt32 = k) (hX : XH g σ w (fA 110 (8 * r) (fun _ => k) u) n K) : CtE E mJ11_fill 0 [.ref (g.1 (70 + r)), .int k] (PV (fun s => ∃ w', s = S g σ w' ∧ XH g σ w' (fA 110 (8 * r + 8) (fun _ => k) u) n K ∧ N70 w w')) (S g σ w) := by
  show VE E mJ11_fill 0 _ 0 [some (.ref (g.1 (70 + r))), some (.int k), none, none] [] (S g σ w)
  have h6 := hX.n6 hr
  have L5 : ∀ (m i : Nat) (w1 : Wv), i + m = 8 → XH g σ w1 (fA 110 (8 * r + i) (fun _ => k) u) n K → N70 w w1 → VE E mJ11_fill 0 (PV (fun s => ∃ w', s = S g σ w' ∧ XH g σ w' (fA 110 (8 * r + 8) (fun _ => k) u) n K ∧ N70 w w')) 5 [some (.ref (g.1 (70 + r))), some (.int k), some (.int (nI i)), some (.int (nI 8))] [] (S g σ w1) := by
    intro m
    induction m with
    | zero =>
      intro i w1 hi hX1 hN
      refine VE.step (fun _ h => V.ild2 dJ11_fill_5 (V.ild3 dJ11_fill_6 h)) ?_
      refine VE.icmp_ge (tgt := 20) dJ11_fill_7 (by decide) (fun c_7 => ?_) (fun c_7 => absurd (nI_le (by omega) (by omega)) c_7)
      exact VE.vret dJ11_fill_20 rfl ⟨rfl, w1, rfl, by rw [show 8 * r + 8 = 8 * r + i by omega]; exact hX1, hN⟩
    | succ m ih =>
      intro i w1 hi hX1 hN
      refine VE.step (fun _ h => V.ild2 dJ11_fill_5 (V.ild3 dJ11_fill_6 h)) ?_
      refine VE.icmp_ge (tgt := 20) dJ11_fill_7 (by decide) (fun c_7 => absurd c_7 (nI_ge (by omega) (by omega))) (fun c_7 => ?_)
      refine VE.step (fun _ h => V.ald0 dJ11_fill_10 (V.ild2 dJ11_fill_11 (V.ild1 dJ11_fill_12 (sXs (j := i) hX1 hr (IX.n (by omega) (by decide)) dJ11_fill_13 (V.inc2 dJ11_fill_14 (V.goto (tgt := 5) dJ11_fill_17 (by decide) h)))))) ?_
      rw [hk, nI_1]
      have h9 := hX1.up (xsm h6 (show i < 8 by omega)) (x := k)
      rw [fA_s (f := (fun _ => k)) rfl] at h9
      exact ih (i + 1) _ (by omega) h9 (hN.trans (fun id hid => by rw [up2_at _ _ (by omega)]))
  refine VE.step (fun _ h => V.iconst_0 dJ11_fill_0 (V.ist2 dJ11_fill_1 (V.ald0 dJ11_fill_2 (V.alen (σ := S g σ w) (hX.ro hr).2.2 (by decide) (by decide) dJ11_fill_3 (V.ist3 dJ11_fill_4 h))))) ?_
  exact L5 8 0 w (by omega) hX (fun _ _ => rfl)
theorem fb4 {x : Int32} (h : ∃ k, k < 4 ∧ x = nI k) : fits (aTy 101) (.int x) = true := by
  obtain ⟨k, hk, rfl⟩ := h
  rcases (show k = 0 ∨ k = 1 ∨ k = 2 ∨ k = 3 by omega) with rfl | rfl | rfl | rfl <;> rfl
theorem so4 {u : Wv} (hI : HI u) {r c : Nat} (hr : r < 6) (hc : c < 8) : ∃ k, k < 4 ∧ so u r c = nI k := hI.2.2.2.2 (8 * r + c) (by omega)
theorem c_X0_keepsSits {E : En} {g : Ge} {σ : Sg} {w u : Wv} {n : Nat} {K : Nat → Nat} (hX : XH g σ w u n K) (hI : HI u) : CtE E mX0_keepsSits 3 [.ref (g.1 0)] (PV (fun s => ∃ w', s = S g σ w' ∧ XH g σ w' u n K ∧ (∀ r, r < n → ∀ c, c < 8 → w' 19 (8 * r + c) = so u r c))) (S g σ w) := by
  show VE E mX0_keepsSits 3 _ 0 [some (.ref (g.1 0)), none] [] (S g σ w)
  have hn6 := hX.2.2.1.1
  have L2 : ∀ (m r : Nat) (w1 : Wv), r + m = n → XH g σ w1 u n K → (∀ q, q < r → ∀ c, c < 8 → w1 19 (8 * q + c) = so u q c) → VE E mX0_keepsSits 3 (PV (fun s => ∃ w', s = S g σ w' ∧ XH g σ w' u n K ∧ (∀ r, r < n → ∀ c, c < 8 → w' 19 (8 * r + c) = so u r c))) 2 [some (.ref (g.1 0)), some (.int (nI r))] [] (S g σ w1) := by
    intro m
    induction m with
    | zero =>
      intro r w1 hk hX1 hk1
      refine VE.step (fun _ h => V.ild1 dX0_keepsSits_2 (V.ald0 dX0_keepsSits_3 (GX0_22 hX1 rfl dX0_keepsSits_4 (V.invV0r vX0_142 hX1.li.2.1 dX0_keepsSits_7 (c_J2_size hX1) h)))) ?_
      refine VE.icmp_ge (tgt := 47) dX0_keepsSits_10 (by decide) (fun c_10 => ?_) (fun c_10 => absurd (by exact nI_le (by omega) (by omega)) c_10)
      exact VE.vret dX0_keepsSits_47 rfl (⟨rfl, w1, rfl, hX1, fun q hq => hk1 q (by omega)⟩)
    | succ m ih =>
      intro r w1 hk hX1 hk1
      have hr : r < n := by omega
      have h6 := hX.n6 hr
      refine VE.step (fun _ h => V.ild1 dX0_keepsSits_2 (V.ald0 dX0_keepsSits_3 (GX0_22 hX1 rfl dX0_keepsSits_4 (V.invV0r vX0_142 hX1.li.2.1 dX0_keepsSits_7 (c_J2_size hX1) h)))) ?_
      refine VE.icmp_ge (tgt := 47) dX0_keepsSits_10 (by decide) (fun c_10 => absurd c_10 (by first | exact nI_ge (by omega) (by omega) | exact fun h9 => absurd ((nI_leI (by omega) (by omega)).mp h9) (by omega))) (fun c_10 => ?_)
      refine VE.step (fun _ h => V.ald0 dX0_keepsSits_13 (GX0_22 hX1 rfl dX0_keepsSits_14 (V.ild1 dX0_keepsSits_17 (V.invV1r vX0_150 hX1.li.2.1 dX0_keepsSits_18 (c_J2_get hX1 hr) (ccX0_122 hX1 hr rfl dX0_keepsSits_21 (GX0_177 hX1 hr rfl dX0_keepsSits_24 (V.iconst_0 dX0_keepsSits_27 (V.ald0 dX0_keepsSits_28 (GX0_53 hX1 rfl dX0_keepsSits_29 (V.bipush (v := 8) dX0_keepsSits_32 (by decide) (V.ild1 dX0_keepsSits_34 (V.imul dX0_keepsSits_35 (V.bipush (v := 8) dX0_keepsSits_36 (by decide) (V.xcopy (sp := 0) (dp := 8 * r) (m := 8) (t := 101) hX1.gk rfl (hX1.ir hr).2 hX1.i0 (hX1.ro hr).2.2 (hX1.bi (f := 18) (by decide)).2 (by decide) (by decide) rfl (by rw [show (8 : Int32) = nI 8 from rfl, pk_mul]) rfl (by decide) (by show 8 * r + 8 ≤ 48; omega) (by decide) (by decide) (.inr (fun i hi => by rw [Nat.zero_add, xso hX1.sv h6 hi]; exact fb4 (so4 hI h6 hi))) dX0_keepsSits_38 h)))))))))))))) ?_
      refine VE.step (fun _ h => V.inc1 dX0_keepsSits_41 (V.goto (tgt := 2) dX0_keepsSits_44 (by decide) h)) ?_
      rw [nI_1]
      exact ih (r + 1) _ (by omega) (hX1.cps (fun j => rfl)) (fun q hq c hc => by
        unfold cpW
        by_cases e : q = r
        · rw [if_pos ⟨rfl, by omega, by omega⟩, e, show 0 + (8 * r + c - 8 * r) = c by omega]; exact xso hX1.sv h6 hc
        · rw [if_neg (by omega)]; exact hk1 q (by omega) c hc)
  refine VE.step (fun _ h => V.iconst_0 dX0_keepsSits_0 (V.ist1 dX0_keepsSits_1 h)) ?_
  exact L2 n 0 w (by omega) hX (fun q hq => absurd hq (by omega))

theorem c_X0_laysSits {E : En} {g : Ge} {σ : Sg} {w u : Wv} {n : Nat} {K : Nat → Nat} (hX : XH g σ w u n K) {u0 : Wv} (hI : HI u0) (h19 : ∀ q, q < n → ∀ c, c < 8 → w 19 (8 * q + c) = so u0 q c) : CtE E mX0_laysSits 3 [.ref (g.1 0)] (PV (fun s => ∃ w', s = S g σ w' ∧ XH g σ w' (fA 110 (8 * n) (u0 110) u) n K)) (S g σ w) := by
  show VE E mX0_laysSits 3 _ 0 [some (.ref (g.1 0)), none] [] (S g σ w)
  have hn6 := hX.2.2.1.1
  have L2 : ∀ (m r : Nat) (w1 : Wv), r + m = n → XH g σ w1 (fA 110 (8 * r) (u0 110) u) n K → (∀ q, q < n → ∀ c, c < 8 → w1 19 (8 * q + c) = so u0 q c) → VE E mX0_laysSits 3 (PV (fun s => ∃ w', s = S g σ w' ∧ XH g σ w' (fA 110 (8 * n) (u0 110) u) n K)) 2 [some (.ref (g.1 0)), some (.int (nI r))] [] (S g σ w1) := by
    intro m
    induction m with
    | zero =>
      intro r w1 hk hX1 hk1
      refine VE.step (fun _ h => V.ild1 dX0_laysSits_2 (V.ald0 dX0_laysSits_3 (GX0_22 hX1 rfl dX0_laysSits_4 (V.invV0r vX0_142 hX1.li.2.1 dX0_laysSits_7 (c_J2_size hX1) h)))) ?_
      refine VE.icmp_ge (tgt := 47) dX0_laysSits_10 (by decide) (fun c_10 => ?_) (fun c_10 => absurd (by exact nI_le (by omega) (by omega)) c_10)
      exact VE.vret dX0_laysSits_47 rfl (⟨rfl, w1, rfl, by rw [show 8 * n = 8 * r by omega]; exact hX1⟩)
    | succ m ih =>
      intro r w1 hk hX1 hk1
      have hr : r < n := by omega
      have h6 := hX.n6 hr
      refine VE.step (fun _ h => V.ild1 dX0_laysSits_2 (V.ald0 dX0_laysSits_3 (GX0_22 hX1 rfl dX0_laysSits_4 (V.invV0r vX0_142 hX1.li.2.1 dX0_laysSits_7 (c_J2_size hX1) h)))) ?_
      refine VE.icmp_ge (tgt := 47) dX0_laysSits_10 (by decide) (fun c_10 => absurd c_10 (by first | exact nI_ge (by omega) (by omega) | exact fun h9 => absurd ((nI_leI (by omega) (by omega)).mp h9) (by omega))) (fun c_10 => ?_)
      refine VE.step (fun _ h => V.ald0 dX0_laysSits_13 (GX0_53 hX1 rfl dX0_laysSits_14 (V.bipush (v := 8) dX0_laysSits_17 (by decide) (V.ild1 dX0_laysSits_19 (V.imul dX0_laysSits_20 (V.ald0 dX0_laysSits_21 (GX0_22 hX1 rfl dX0_laysSits_22 (V.ild1 dX0_laysSits_25 (V.invV1r vX0_150 hX1.li.2.1 dX0_laysSits_26 (c_J2_get hX1 hr) (ccX0_122 hX1 hr rfl dX0_laysSits_29 (GX0_177 hX1 hr rfl dX0_laysSits_32 (V.iconst_0 dX0_laysSits_35 (V.bipush (v := 8) dX0_laysSits_36 (by decide) (V.xcopy (sp := 8 * r) (dp := 0) (m := 8) (t := 101) hX1.gk rfl hX1.i0 (hX1.ir hr).2 (hX1.bi (f := 18) (by decide)).2 (hX1.ro hr).2.2 (by decide) (by decide) (by rw [show (8 : Int32) = nI 8 from rfl, pk_mul]) rfl rfl (by show 8 * r + 8 ≤ 48; omega) (by decide) (by decide) (by decide) (.inr (fun i hi => by rw [hk1 r hr i hi]; exact fb4 (so4 hI h6 hi))) dX0_laysSits_38 h)))))))))))))) ?_
      refine VE.step (fun _ h => V.inc1 dX0_laysSits_41 (V.goto (tgt := 2) dX0_laysSits_44 (by decide) h)) ?_
      rw [nI_1]
      exact ih (r + 1) _ (by omega) (by rw [show 8 * (r + 1) = 8 * r + 8 by omega]; exact XH.cpf rfl hX1 8 (fun j hj => by rw [xsm h6 hj, Nat.zero_add]) (fun j hj => hk1 r hr j hj)) (fun q hq c hc => by rw [cpW_ne (by omega)]; exact hk1 q hq c hc)
  refine VE.step (fun _ h => V.iconst_0 dX0_laysSits_0 (V.ist1 dX0_laysSits_1 h)) ?_
  exact L2 n 0 w (by omega) (by rw [Nat.mul_zero, fA_0]; exact hX) h19

theorem c_X0_tall {E : En} {g : Ge} {σ : Sg} {w u : Wv} {n : Nat} {K : Nat → Nat} (hX : XH g σ w u n K) (hI : HI u) (hE : HE u) (hT : HT u) (hR : TXR g σ u) (hG : XG g n) {k : Int32} : CtE E mX0_tall 406 [.ref (g.1 0), .int k] (PR (.int (tallR u k)) (QX g σ u n K)) (S g σ w) := by
  show VE E mX0_tall 406 _ 0 [some (.ref (g.1 0)), some (.int k), none, none] [] (S g σ w)
  refine VE.step (fun _ h => V.ild1 dX0_tall_0 (V.i2l dX0_tall_1 (V.lconst_0 dX0_tall_2 (V.ldc2_w q805 dX0_tall_3 (V.invS3r sX0_112 dX0_tall_6 (in_c (lo := 0) (hi := 3) rfl rfl) h))))) ?_
  refine VE.ifb_ne (tgt := 15) dX0_tall_9 (by decide) (fun c_9 => ?_) (fun c_9 => ?_)
  · refine VE.step (fun _ h => V.ald0 dX0_tall_15 h) ?_
    refine VE.invV0v vX0_353 hX.t0 dX0_tall_16 (c_X0_keepsSits hX hI) (fun s9 q9 => ?_)
    obtain ⟨w1, rfl, hX1, hk1⟩ := q9
    have hX1' := hX1
    refine VE.step (fun _ h => V.iconst_0 dX0_tall_19 (V.ist2 dX0_tall_20 h)) ?_
    have hn6 := hX.2.2.1.1
    have hk8 := (b_id c_9).2
    rw [tallR, if_pos c_9]
    obtain ⟨kk, hkk, rfl⟩ := (inB_n (n := 4) (by decide)).mp c_9
    have L21 : ∀ (m r : Nat) (w1 : Wv) (z3 : Option Value), r + m = n → XH g σ w1 (fA 110 (8 * r) (fun _ => nI kk) u) n K → (∀ q, q < n → ∀ c, c < 8 → w1 19 (8 * q + c) = so u q c) → VE E mX0_tall 406 (PR (.int (allS (tallV u (nI kk)))) (QX g σ u n K)) 21 [some (.ref (g.1 0)), some (.int (nI kk)), some (.int (nI r)), z3] [] (S g σ w1) := by
      intro m
      induction m with
      | zero =>
        intro r w1 z3 hk hX1 hk1
        refine VE.step (fun _ h => V.ild2 dX0_tall_21 (V.ald0 dX0_tall_22 (GX0_22 hX1 rfl dX0_tall_23 (V.invV0r vX0_142 hX1.li.2.1 dX0_tall_26 (c_J2_size hX1) h)))) ?_
        refine VE.icmp_ge (tgt := 57) dX0_tall_29 (by decide) (fun c_29 => ?_) (fun c_29 => absurd (by exact nI_le (by omega) (by omega)) c_29)
        have hrn : r = n := by omega
        rw [hrn] at hX1
        obtain ⟨w2, hS2, hX2, hN2⟩ := XH.gh hG hX1
        rw [← hS2]
        have hX2 : XH g σ w2 (tallV u (nI kk)) n K := hX2
        refine VE.step (fun _ h => V.ald0 dX0_tall_57 h) ?_
        refine VE.invV0r vX0_362 hX2.t0 dX0_tall_58 (c_X0_allWorth hX2 (HI.so hI (fun j hj => ⟨kk, hkk, rfl⟩)) (hE.fo (by decide)) (hT.f (by decide)) (hR.f (by decide))) (fun s9 q9 => ?_)
        obtain ⟨w3, rfl, hX3, hN3⟩ := q9
        have hX3' := hX3
        refine VE.step (fun _ h => V.ist2 dX0_tall_61 (V.ald0 dX0_tall_62 h)) ?_
        refine VE.invV0v vX0_365 hX3.t0 dX0_tall_63 (c_X0_laysSits hX3 hI (fun q hq c hc => by rw [hN3 19 (by decide), hN2 19 (by decide)]; exact hk1 q hq c hc)) (fun s9 q9 => ?_)
        obtain ⟨w4, rfl, hX4⟩ := q9
        obtain ⟨w5, hS5, hX5, -⟩ := XH.gh hG hX4
        rw [← hS5]
        rw [show fA 110 48 (u 110) (tallV u (nI kk)) = u from fA_back off_fA (fun j _ => rfl)] at hX5
        refine VE.step (fun _ h => V.ild2 dX0_tall_66 h) ?_
        exact VE.iret dX0_tall_67 rfl rfl (⟨rfl, w5, rfl, hX5⟩)
      | succ m ih =>
        intro r w1 z3 hk hX1 hk1
        have hr : r < n := by omega
        have h6 := hX.n6 hr
        refine VE.step (fun _ h => V.ild2 dX0_tall_21 (V.ald0 dX0_tall_22 (GX0_22 hX1 rfl dX0_tall_23 (V.invV0r vX0_142 hX1.li.2.1 dX0_tall_26 (c_J2_size hX1) h)))) ?_
        refine VE.icmp_ge (tgt := 57) dX0_tall_29 (by decide) (fun c_29 => absurd c_29 (by first | exact nI_ge (by omega) (by omega) | exact fun h9 => absurd ((nI_leI (by omega) (by omega)).mp h9) (by omega))) (fun c_29 => ?_)
        refine VE.step (fun _ h => V.ald0 dX0_tall_32 (GX0_22 hX1 rfl dX0_tall_33 (V.ild2 dX0_tall_36 (V.invV1r vX0_150 hX1.li.2.1 dX0_tall_37 (c_J2_get hX1 hr) (ccX0_122 hX1 hr rfl dX0_tall_40 (GX0_177 hX1 hr rfl dX0_tall_43 (V.ild1 dX0_tall_46 (V.i2b dX0_tall_47 h)))))))) ?_
        refine VE.invS2v sX0_356 dX0_tall_48 (c_J11_fill hr (by rw [hk8, hk8]) (by rw [hk8]; exact hX1)) (fun s9 q9 => ?_)
        obtain ⟨w2, rfl, hX2, hN2⟩ := q9
        rw [hk8] at hX2
        have hX2' := hX2
        refine VE.step (fun _ h => V.inc2 dX0_tall_51 (V.goto (tgt := 21) dX0_tall_54 (by decide) h)) ?_
        rw [nI_1]
        exact ih (r + 1) w2 _ (by omega) (by rw [show 8 * (r + 1) = 8 * r + 8 by omega]; exact hX2) (fun q hq c hc => by rw [hN2 19 (by decide)]; exact hk1 q hq c hc)
    exact L21 n 0 w1 _ (by omega) (by rw [Nat.mul_zero, fA_0]; exact hX1) hk1
  · refine VE.step (fun _ h => V.bipush (v := (-2)) dX0_tall_12 (by decide) h) ?_
    exact VE.iret dX0_tall_14 rfl rfl (⟨by simp only [tallR, c_9, if_true, if_false, Bool.false_eq_true, eq_self, and_true, true_and, and_false, false_and, Bool.and_true, Bool.true_and, Bool.and_false, Bool.false_and, Bool.not_true, Bool.not_false, not_true_eq_false, not_false_eq_true, ne_eq, b2i_t, b2i_f], w, rfl, hX⟩)

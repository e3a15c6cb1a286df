set_option maxRecDepth 100000
set_option maxHeartbeats 1000000
theorem dg_low : ∀ (r j : Nat), dg (r + 1) j = 10 * dg r (j / 3) + j % 3
  | 0, j => by rw [dg, dg, dg]; simp
  | r + 1, j => by
    rw [dg, dg_low r j, dg]
    have e : j / 3 ^ (r + 1) = j / 3 / 3 ^ r := by rw [Nat.pow_succ, Nat.mul_comm, ← Nat.div_div_eq_div_mul]
    rw [e, Nat.pow_succ, Nat.mul_comm (10 ^ r) 10, Nat.mul_assoc]
    omega
/-- what m holds beside what x holds -/
def crel (s t : Int32 × Int32) : Prop := (s.1 = -1 ∧ t = (-1, -1)) ∨ (¬ s.1 = -1 ∧ t = s)
theorem crel_y {u : Wv} {c k : Nat} {most : Int32} {s t : Int32 × Int32} (h : crel s t) (hc : c ≤ 4) (hn : ¬ allS (coiV u c k) ≤ -1) (h1 : cosS (coiV u c k) ≤ most) : crel (coiT u c most k s) (if allS (coiV u c k) ≤ t.2 then t else (nI (dg c k), allS (coiV u c k))) := by
  have hd : ¬ nI (dg c k) = -1 := fun z => by
    have h9 := dg_lt c hc k
    have h8 : 10 ^ c ≤ 10 ^ 4 := Nat.pow_le_pow_right (n := 10) (by decide) hc
    have h7 := congrArg Int32.toInt z
    rw [nI_toInt (by omega)] at h7
    have h6 : ((dg c k : Nat) : Int) = -1 := h7
    omega
  rw [coiT, if_pos h1]
  rcases h with ⟨e1, e2⟩ | ⟨e1, e2⟩
  · rw [if_pos (.inl e1), e2, if_neg hn]
    exact .inr ⟨hd, rfl⟩
  · rw [e2]
    by_cases q : allS (coiV u c k) ≤ s.2
    · rw [if_pos q, if_neg (fun z => z.elim e1 (fun y => y q))]
      exact .inr ⟨e1, rfl⟩
    · rw [if_neg q, if_pos (.inr q)]
      exact .inr ⟨hd, rfl⟩
theorem crel_n {u : Wv} {c k : Nat} {most : Int32} {s t : Int32 × Int32} (h : crel s t) (h1 : ¬ cosS (coiV u c k) ≤ most) : crel (coiT u c most k s) t := by
  rw [coiT, if_neg h1]; exact h
theorem coin_end {u : Wv} {most a t1 t2 : Int32} {s : Int32 × Int32} (h : crel s (t1, t2)) (hok : coinOk most a = true) (hs : s = coiS u most) : (a = 0 → coinR u most a = t1) ∧ (¬ a = 0 → coinR u most a = t2) := by
  rw [coinR, if_pos hok, ← hs]
  rcases h with ⟨r1, r2⟩ | ⟨r1, r2⟩
  · rw [if_pos (.inl r1), r1]
    exact ⟨fun _ => (congrArg Prod.fst r2).symm, fun _ => (congrArg Prod.snd r2).symm⟩
  · refine ⟨fun z => ?_, fun z => ?_⟩
    · rw [if_pos (.inr z)]; exact (congrArg Prod.fst r2).symm
    · rw [if_neg (fun y => y.elim r1 z)]; exact (congrArg Prod.snd r2).symm
theorem coiN_4 {u : Wv} (hI : HI u) : coiN u ≤ 4 ∧ coiN u ≤ nR u ∧ minI 4 (nI (nR u)) = nI (coiN u) := by
  have h6 := hI.rows.2
  unfold coiN
  rw [hI.rows.1]
  by_cases h : nI (nR u) < 4
  · rw [if_pos h]
    have h9 := (nI_ltI (by omega) (by decide)).mp (show nI (nR u) < nI 4 from h)
    refine ⟨by omega, Nat.le_refl _, ?_⟩
    unfold minI
    rw [if_neg (Int32.not_le.mpr h)]
  · rw [if_neg h]
    have h9 : ¬ nR u < 4 := fun z => h ((nI_ltI (by omega) (by decide)).mpr z)
    refine ⟨by omega, by omega, ?_⟩
    unfold minI
    rw [if_pos (Int32.not_lt.mp h)]
    rfl
theorem HE.coi {u : Wv} (hE : HE u) {c k : Nat} : HE (coiV u c k) := by
  refine ⟨fun i hi => hE.1 i hi, fun r hr => ⟨(hE.2 r hr).1, ?_⟩⟩
  unfold coiV fA
  by_cases h : 108 = 108 ∧ r < c
  · rw [if_pos h]
    exact ⟨6 * (k / 3 ^ (c - 1 - r) % 3), by have := Nat.mod_lt (k / 3 ^ (c - 1 - r)) (show 0 < 3 by decide); omega, rfl⟩
  · rw [if_neg h]; exact (hE.2 r hr).2
theorem lay_oc {g : Ge} {σ : Sg} {w1 u u1 : Wv} {n c : Nat} {K : Nat → Nat} (hc : c ≤ 4) (hX : XH g σ w1 u1 n K) (hk : ∀ j, j < 6 → w1 16 j = u 108 j) (ho : ∀ id j, ¬ (id = 108 ∧ j < c) → u1 id j = u id j) : XH g σ (cpW w1 16 0 5 0 6) u n K := lay_ok hX hk (fun id j h => ho id j (fun z => h ⟨z.1, by omega⟩))
theorem c_X0_ways3 {E : En} {σ : Sg} {n : Nat} (hn : n ≤ 4) : Ct E mX0_ways3 0 [.int (nI n)] (.returned (some (.int (nI (3 ^ n)))), σ) (σ) := by
  show V E mX0_ways3 0 _ 0 [some (.int (nI n)), none, none] [] (σ)
  have L4 : ∀ (m k : Nat), k + m = n → V E mX0_ways3 0 ((.returned (some (.int (nI (3 ^ n)))), σ)) 4 [some (.int (nI n)), some (.int (nI (3 ^ k))), some (.int (nI k))] [] (σ) := by
    intro m
    induction m with
    | zero =>
      intro k hk 
      obtain rfl : k = n := by omega
      refine V.ild2 dX0_ways3_4 (V.ild0 dX0_ways3_5 (V.icmp_ge (tgt := 19) dX0_ways3_6 (by decide) (fun c_6 => ?_) (fun c_6 => absurd (by exact nI_le (by omega) (by omega)) c_6)))
      exact V.ild1 dX0_ways3_19 (V.iret dX0_ways3_20 rfl rfl (rfl))
    | succ m ih =>
      intro k hk 
      refine V.ild2 dX0_ways3_4 (V.ild0 dX0_ways3_5 (V.icmp_ge (tgt := 19) dX0_ways3_6 (by decide) (fun c_6 => absurd c_6 (by first | exact nI_ge (by omega) (by omega) | exact fun h9 => absurd ((nI_leI (by omega) (by omega)).mp h9) (by omega))) (fun c_6 => ?_)))
      refine V.ild1 dX0_ways3_9 (V.iconst_3 dX0_ways3_10 (V.imul dX0_ways3_11 (V.ist1 dX0_ways3_12 (V.inc2 dX0_ways3_13 (V.goto (tgt := 4) dX0_ways3_16 (by decide) ?_)))))
      rw [nI_1, show (3 : Int32) = nI 3 from rfl, pk_mul, ← Nat.pow_succ]
      exact ih (k + 1) (by omega)
  refine V.iconst_1 dX0_ways3_0 (V.ist1 dX0_ways3_1 (V.iconst_0 dX0_ways3_2 (V.ist2 dX0_ways3_3 ?_)))
  exact L4 n 0 (by omega)

theorem c_X0_coin {E : En} {g : Ge} {σ : Sg} {w u : Wv} {n : Nat} {K : Nat → Nat} (hX : XH g σ w u n K) (hI : HI u) (hE : HE u) (hT : HT u) (hR : TXR g σ u) {most a : Int32} : CtE E mX0_coin 407 [.ref (g.1 0), .int most, .int a] (PR (.int (coinR u most a)) (QX g σ u n K)) (S g σ w) := by
  show VE E mX0_coin 407 _ 0 [some (.ref (g.1 0)), some (.int most), some (.int a), none, none, none, none, none, none] [] (S g σ w)
  refine VE.step (fun _ h => V.ild1 dX0_coin_0 (V.i2l dX0_coin_1 (V.lconst_0 dX0_coin_2 (V.ldc2_w q1358 dX0_coin_3 (V.invS3r sX0_112 dX0_coin_6 (in_c (lo := 0) (hi := 99999) rfl rfl) h))))) ?_
  refine VE.ifb_eq (tgt := 22) dX0_coin_9 (by decide) (fun c_9 => ?_) (fun c_9 => ?_)
  · refine VE.step (fun _ h => V.bipush (v := (-2)) dX0_coin_22 (by decide) h) ?_
    exact VE.iret dX0_coin_24 rfl rfl (⟨by simp only [coinR, coinOk, c_9, if_true, if_false, Bool.false_eq_true, eq_self, and_true, true_and, and_false, false_and, Bool.and_true, Bool.true_and, Bool.and_false, Bool.false_and, Bool.not_true, Bool.not_false, not_true_eq_false, not_false_eq_true, ne_eq, b2i_t, b2i_f], _, rfl, hX⟩)
  · refine VE.step (fun _ h => V.ild2 dX0_coin_12 (V.i2l dX0_coin_13 (V.lconst_0 dX0_coin_14 (V.lconst_1 dX0_coin_15 (V.invS3r sX0_112 dX0_coin_16 (in_c (lo := 0) (hi := 1) rfl rfl) h))))) ?_
    refine VE.ifb_ne (tgt := 25) dX0_coin_19 (by decide) (fun c_19 => ?_) (fun c_19 => ?_)
    · have hok : coinOk most a = true := by unfold coinOk; rw [c_9, c_19]; rfl
      obtain ⟨hc4, hcn, hmin⟩ := coiN_4 hI
      rw [hX.nrw] at hcn hmin
      obtain ⟨c, hc⟩ : ∃ c, coiN u = c := ⟨_, rfl⟩
      rw [hc] at hc4 hcn hmin
      have h6 := hX.2.2.1.1
      have h81 : 3 ^ c ≤ 81 := Nat.pow_le_pow_right (n := 3) (by decide) hc4
      have L54 : ∀ (m k : Nat) (s : Int32 × Int32) (w1 u1 : Wv) (z5 z6 z7 z8 : Option Value), k + m = 3 ^ c → XH g σ w1 u1 n K → (∀ id j, ¬ (id = 108 ∧ j < c) → u1 id j = u id j) → (∀ j, j < 6 → w1 16 j = u 108 j) → crel s (w1 0 19, w1 0 20) → coiB u c most k m s = coiS u most → VE E mX0_coin 407 (PR (.int (coinR u most a)) (QX g σ u n K)) 54 [some (.ref (g.1 0)), some (.int (most)), some (.int (a)), some (.int (nI c)), some (.int (nI k)), z5, z6, z7, z8] [] (S g σ w1) := by
        intro m
        induction m with
        | zero =>
          intro k s w1 u1 z5 z6 z7 z8 hk hX1 ho hk1 hr hs
          refine VE.step (fun _ h => V.ild4 dX0_coin_54 (V.ild3 dX0_coin_56 (V.invS1r sX0_383 dX0_coin_57 (c_X0_ways3 hc4) h))) ?_
          refine VE.icmp_ge (tgt := 159) dX0_coin_60 (by decide) (fun c_60 => ?_) (fun c_60 => absurd (by exact nI_le (by omega) (by omega)) c_60)
          refine VE.step (fun _ h => V.ald0 dX0_coin_159 (V.invV0v vX0_323 hX1.t0 dX0_coin_160 (c_X0_laysRises hX1) h)) ?_
          have hX2 := lay_oc hc4 hX1 hk1 ho
          refine VE.step (fun _ h => V.goto (tgt := 175) dX0_coin_163 (by decide) (V.ild2 dX0_coin_175 h)) ?_
          refine VE.if_ne (tgt := 186) dX0_coin_176 (by decide) (fun c_176 => ?_) (fun c_176 => ?_)
          · refine VE.step (fun _ h => V.ald0 dX0_coin_186 (GX0_371 hX2 rfl dX0_coin_187 h)) ?_
            exact VE.iret dX0_coin_190 rfl rfl (⟨by first | (rw [(coin_end hr hok (by rw [← hs, coiB])).1 c_176]; rfl) | (rw [(coin_end hr hok (by rw [← hs, coiB])).2 c_176]; rfl), _, rfl, hX2⟩)
          · refine VE.step (fun _ h => V.ald0 dX0_coin_179 (GX0_378 hX2 rfl dX0_coin_180 (V.goto (tgt := 190) dX0_coin_183 (by decide) h))) ?_
            exact VE.iret dX0_coin_190 rfl rfl (⟨by first | (rw [(coin_end hr hok (by rw [← hs, coiB])).1 c_176]; rfl) | (rw [(coin_end hr hok (by rw [← hs, coiB])).2 c_176]; rfl), _, rfl, hX2⟩)
        | succ m ih =>
          intro k s w1 u1 z5 z6 z7 z8 hk hX1 ho hk1 hr hs
          have L75 : ∀ (q : Nat) (w2 : Wv), q ≤ c → XH g σ w2 (gA 108 q (c - q) (fun i => coiF c k (q + i)) u1) n K → (∀ j, j < 6 → w2 16 j = u 108 j) → (w2 0 19 = w1 0 19 ∧ w2 0 20 = w1 0 20) → VE E mX0_coin 407 (PR (.int (coinR u most a)) (QX g σ u n K)) 75 [some (.ref (g.1 0)), some (.int (most)), some (.int (a)), some (.int (nI c)), some (.int (nI k)), some (.int (0)), some (.int (nI (k / 3 ^ (c - q)))), some (.int (nI q + (-1))), z8] [] (S g σ w2) := by
            intro q
            induction q with
            | zero =>
              intro w2 hq hX2 hk2 ht2
              rw [Nat.sub_zero, gA_fA (f' := coiF c k) (fun i => by rw [Nat.zero_add]), fA_off ho] at hX2
              have hX2 : XH g σ w2 (coiV u c k) n K := hX2
              have L109F : ∀ y6 : Int32, VE E mX0_coin 407 (PR (.int (coinR u most a)) (QX g σ u n K)) 109 [some (.ref (g.1 0)), some (.int (most)), some (.int (a)), some (.int (nI c)), some (.int (nI k)), some (.int (0)), some (.int (y6)), some (.int (0)), z8] [] (S g σ w2) := by
                intro y6
                have L109 : ∀ (m8 r : Nat), r + m8 = c → VE E mX0_coin 407 (PR (.int (coinR u most a)) (QX g σ u n K)) 109 [some (.ref (g.1 0)), some (.int (most)), some (.int (a)), some (.int (nI c)), some (.int (nI k)), some (.int (nI (dg r (k / 3 ^ (c - r))))), some (.int (y6)), some (.int (nI r)), z8] [] (S g σ w2) := by
                  intro m8
                  induction m8 with
                  | zero =>
                    intro r hk8 
                    obtain rfl : r = c := by omega
                    rw [Nat.sub_self, Nat.pow_zero, Nat.div_one]
                    refine VE.step (fun _ h => V.ild7 dX0_coin_109 (V.ild3 dX0_coin_111 h)) ?_
                    refine VE.icmp_ge (tgt := 139) dX0_coin_112 (by decide) (fun c_112 => ?_) (fun c_112 => absurd (by exact nI_le (by omega) (by omega)) c_112)
                    refine VE.step (fun _ h => V.ald0 dX0_coin_139 h) ?_
                    refine VE.invV0r vX0_297 hX2.t0 dX0_coin_140 (c_X0_costs hX2 (HI.f hI (by decide) (by decide) (by decide)) hE.coi (HT.f hT (by decide)) (hR.f (by decide))) (fun s9 q9 => ?_)
                    obtain ⟨w3, rfl, hX3, hN3⟩ := q9
                    refine VE.step (fun _ h => V.ild1 dX0_coin_143 h) ?_
                    refine VE.icmp_gt (tgt := 153) dX0_coin_144 (by decide) (fun c_144 => ?_) (fun c_144 => ?_)
                    · refine VE.step (fun _ h => V.inc4 dX0_coin_153 (V.goto (tgt := 54) dX0_coin_156 (by decide) h)) ?_
                      have e19 : w3 0 19 = w1 0 19 := (congrFun (hN3 0 (by decide)) 19).trans ht2.1
                      have e20 : w3 0 20 = w1 0 20 := (congrFun (hN3 0 (by decide)) 20).trans ht2.2
                      have k3 : ∀ j, j < 6 → w3 16 j = u 108 j := fun j hj => (congrFun (hN3 16 (by decide)) j).trans (hk2 j hj)
                      rw [nI_1]
                      first
                        | (rw [e19, e20] at hs4; exact ih (k + 1) _ w4 _ _ _ _ _ (by omega) hX4 off_fA (fun j hj => (hN4 16 j (by decide) (by simp)).trans (k3 j hj)) (by rw [hs4]; exact crel_y hr hc4 (allS_nn (u := coiV u r k) (HI.f hI (by decide) (by decide) (by decide))) (Int32.not_lt.mp c_144)) (by rw [← hs, coiB]))
                        | exact ih (k + 1) _ w3 _ _ _ _ _ (by omega) hX3 off_fA k3 (by rw [e19, e20]; exact crel_n hr (Int32.not_le.mpr c_144)) (by rw [← hs, coiB])
                    · skip
                      refine VE.step (fun _ h => V.ald0 dX0_coin_147 (V.ild5 dX0_coin_148 h)) ?_
                      refine VE.invV1v vX0_374 hX3.t0 dX0_coin_150 (c_X0_keeps hX3 (HI.f hI (by decide) (by decide) (by decide)) hE.coi (HT.f hT (by decide)) (hR.f (by decide))) (fun s9 q9 => ?_)
                      obtain ⟨w4, rfl, hX4, hs4, hN4⟩ := q9
                      refine VE.step (fun _ h => V.inc4 dX0_coin_153 (V.goto (tgt := 54) dX0_coin_156 (by decide) h)) ?_
                      have e19 : w3 0 19 = w1 0 19 := (congrFun (hN3 0 (by decide)) 19).trans ht2.1
                      have e20 : w3 0 20 = w1 0 20 := (congrFun (hN3 0 (by decide)) 20).trans ht2.2
                      have k3 : ∀ j, j < 6 → w3 16 j = u 108 j := fun j hj => (congrFun (hN3 16 (by decide)) j).trans (hk2 j hj)
                      rw [nI_1]
                      first
                        | (rw [e19, e20] at hs4; exact ih (k + 1) _ w4 _ _ _ _ _ (by omega) hX4 off_fA (fun j hj => (hN4 16 j (by decide) (by simp)).trans (k3 j hj)) (by rw [hs4]; exact crel_y hr hc4 (allS_nn (u := coiV u r k) (HI.f hI (by decide) (by decide) (by decide))) (Int32.not_lt.mp c_144)) (by rw [← hs, coiB]))
                        | exact ih (k + 1) _ w3 _ _ _ _ _ (by omega) hX3 off_fA k3 (by rw [e19, e20]; exact crel_n hr (Int32.not_le.mpr c_144)) (by rw [← hs, coiB])
                  | succ m8 ih8 =>
                    intro r hk8 
                    refine VE.step (fun _ h => V.ild7 dX0_coin_109 (V.ild3 dX0_coin_111 h)) ?_
                    refine VE.icmp_ge (tgt := 139) dX0_coin_112 (by decide) (fun c_112 => absurd c_112 (by first | exact nI_ge (by omega) (by omega) | exact fun h9 => absurd ((nI_leI (by omega) (by omega)).mp h9) (by omega))) (fun c_112 => ?_)
                    refine VE.step (fun _ h => V.bipush (v := 10) dX0_coin_115 (by decide) (V.ild5 dX0_coin_117 (V.imul dX0_coin_119 (V.ald0 dX0_coin_120 (GX0_26 hX2 rfl dX0_coin_121 (V.ild7 dX0_coin_124 (aX4 hX2 (IX.n (by omega) (by decide)) dX0_coin_126 h))))))) ?_
                    rw [show coiV u c k 108 r = coiF c k r from fA_at (by omega), coiF]
                    refine VE.step (fun _ h => V.bipush (v := 6) dX0_coin_127 (by decide) (V.idiv dX0_coin_129 (by decide) (V.iadd dX0_coin_130 (V.ist5 dX0_coin_131 (V.inc7 dX0_coin_133 (V.goto (tgt := 109) dX0_coin_136 (by decide) h)))))) ?_
                    rw [nI_1, show (10 : Int32) = nI 10 from rfl, show (6 : Int32) = nI 6 from rfl, pk_div (by have := Nat.mod_lt (k / 3 ^ (c - 1 - r)) (show 0 < 3 by decide); omega) (by decide) (by decide), Nat.mul_div_cancel_left _ (by decide), pk_mul, nI_add]
                    have h7 := ih8 (r + 1) (by omega)
                    rw [dg_low, Nat.div_div_eq_div_mul, ← Nat.pow_succ, show (c - (r + 1)).succ = c - r by omega, show c - (r + 1) = c - 1 - r by omega] at h7
                    exact h7
                exact L109 c 0 (by omega)
              rw [dn_0]
              refine VE.step (fun _ h => V.ild7 dX0_coin_75 h) ?_
              refine VE.if_lt (tgt := 106) dX0_coin_77 (by decide) (fun c_77 => ?_) (fun c_77 => absurd (show (-1 : Int32) < 0 by decide) c_77)
              refine VE.step (fun _ h => V.iconst_0 dX0_coin_106 (V.ist7 dX0_coin_107 h)) ?_
              exact L109F _
            | succ q ih9 =>
              intro w2 hq hX2 hk2 ht2
              rw [dn_s]
              have e9 : c - q = c - (q + 1) + 1 := by omega
              have hkb : k / 3 ^ (c - (q + 1)) ≤ k := Nat.div_le_self _ _
              have e8 := gA_p (d := 108) (a := q) (k := c - (q + 1)) (f := (fun i => coiF c k (q + i))) (w := u1) (x := nI (6 * (k / 3 ^ (c - (q + 1)) % 3))) (by show _ = nI (6 * (k / 3 ^ (c - 1 - (q + 0)) % 3)); rw [show c - 1 - (q + 0) = c - (q + 1) by omega])
              have h9 := hX2.up (xm_108 (j := q) (by omega)) (x := nI (6 * (k / 3 ^ (c - (q + 1)) % 3)))
              rw [gA_f (f := (fun i => coiF c k ((q + 1) + i))) (f' := fun i => (fun i => coiF c k (q + i)) (i + 1)) (fun i => by show coiF c k (q + 1 + i) = coiF c k (q + (i + 1)); rw [show q + (i + 1) = q + 1 + i by omega]), e8, ← e9] at h9
              have h7 := ih9 _ (by omega) h9 (fun j hj => by rw [up2_ne _ _ (fun z => absurd z.1 (by decide))]; exact hk2 j hj) ⟨by rw [up2_ne _ _ (fun z => absurd z.1 (by decide))]; exact ht2.1, by rw [up2_ne _ _ (fun z => absurd z.1 (by decide))]; exact ht2.2⟩
              rw [e9, Nat.pow_succ, ← Nat.div_div_eq_div_mul] at h7
              refine VE.step (fun _ h => V.ild7 dX0_coin_75 h) ?_
              refine VE.if_lt (tgt := 106) dX0_coin_77 (by decide) (fun c_77 => absurd c_77 (dn_lt (by omega))) (fun c_77 => ?_)
              refine VE.step (fun _ h => V.ald0 dX0_coin_80 (GX0_26 hX2 rfl dX0_coin_81 (V.ild7 dX0_coin_84 (V.bipush (v := 6) dX0_coin_86 (by decide) (V.ild6 dX0_coin_88 (V.iconst_3 dX0_coin_90 (V.irem dX0_coin_91 (by decide) (V.imul dX0_coin_92 (sX4 hX2 (IX.n (by omega) (by decide)) dX0_coin_93 h))))))))) ?_
              rw [show (3 : Int32) = nI 3 from rfl, pk_rem (by omega) (by decide) (by decide), show (6 : Int32) = nI 6 from rfl, pk_mul]
              refine VE.step (fun _ h => V.ild6 dX0_coin_94 (V.iconst_3 dX0_coin_96 (V.idiv dX0_coin_97 (by decide) (V.ist6 dX0_coin_98 (V.incm7 dX0_coin_100 (V.goto (tgt := 75) dX0_coin_103 (by decide) h)))))) ?_
              rw [show (3 : Int32) = nI 3 from rfl, pk_div (by omega) (by decide) (by decide)]
              exact h7
          refine VE.step (fun _ h => V.ild4 dX0_coin_54 (V.ild3 dX0_coin_56 (V.invS1r sX0_383 dX0_coin_57 (c_X0_ways3 hc4) h))) ?_
          refine VE.icmp_ge (tgt := 159) dX0_coin_60 (by decide) (fun c_60 => absurd c_60 (by first | exact nI_ge (by omega) (by omega) | exact fun h9 => absurd ((nI_leI (by omega) (by omega)).mp h9) (by omega))) (fun c_60 => ?_)
          refine VE.step (fun _ h => V.iconst_0 dX0_coin_63 (V.ist5 dX0_coin_64 (V.ild4 dX0_coin_66 (V.ist6 dX0_coin_68 (V.ild3 dX0_coin_70 (V.iconst_1 dX0_coin_71 (V.isub dX0_coin_72 (V.ist7 dX0_coin_73 h)))))))) ?_
          have e0 : k / 3 ^ (c - c) = k := by rw [Nat.sub_self, Nat.pow_zero, Nat.div_one]
          have h0 := L75 c w1 (Nat.le_refl _) (by rw [Nat.sub_self, gA_0]; exact hX1) hk1 ⟨rfl, rfl⟩
          rw [e0] at h0
          rw [dn_st]
          exact h0
      refine VE.step (fun _ h => V.iconst_4 dX0_coin_25 (V.ald0 dX0_coin_26 (GX0_22 hX rfl dX0_coin_27 (V.invV0r vX0_142 hX.li.2.1 dX0_coin_30 (c_J2_size hX) (V.invS2r sX0_270 dX0_coin_33 c_J10_min h))))) ?_
      rw [hmin]
      refine VE.step (fun _ h => V.ist3 dX0_coin_36 (V.ald0 dX0_coin_37 (V.invV0v vX0_311 hX.t0 dX0_coin_38 (c_X0_keepsRises hX) h))) ?_
      have hX0 := (keep_ok hX).1
      refine VE.step (fun _ h => V.ald0 dX0_coin_41 (V.iconst_m1 dX0_coin_42 (PX0_371 hX0 rfl dX0_coin_43 h))) ?_
      have hX5 := hX0.sc (a := 0) (b := 20) rfl (x := -1)
      refine VE.step (fun _ h => V.ald0 dX0_coin_46 (V.iconst_m1 dX0_coin_47 (PX0_378 hX5 rfl dX0_coin_48 (V.iconst_0 dX0_coin_51 (V.ist4 dX0_coin_52 h))))) ?_
      have hX6 := hX5.sc (a := 0) (b := 19) rfl (x := -1)
      exact L54 (3 ^ c) 0 (-1, 0) _ u _ _ _ _ (by omega) hX6 (fun _ _ _ => rfl) (fun j hj => by rw [up2_ne _ _ (fun z => absurd z.1 (by decide)), up2_ne _ _ (fun z => absurd z.1 (by decide))]; exact (keep_ok hX).2 j hj) (.inl ⟨rfl, by rw [up2_eq, up2_ne _ _ (fun z => absurd z.2 (by decide)), up2_eq]⟩) (by rw [coiS, hc])
    · refine VE.step (fun _ h => V.bipush (v := (-2)) dX0_coin_22 (by decide) h) ?_
      exact VE.iret dX0_coin_24 rfl rfl (⟨by simp only [coinR, coinOk, c_9, c_19, if_true, if_false, Bool.false_eq_true, eq_self, and_true, true_and, and_false, false_and, Bool.and_true, Bool.true_and, Bool.and_false, Bool.false_and, Bool.not_true, Bool.not_false, not_true_eq_false, not_false_eq_true, ne_eq, b2i_t, b2i_f], _, rfl, hX⟩)

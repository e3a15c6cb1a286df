set_option maxRecDepth 100000
set_option maxHeartbeats 1000000
/-! rows of laws/BITS.to-paste (a starting text): bt .. b_255, bp_b -/
def bt (x : Int32) (i : Nat) : Bool := x.toBitVec.getLsbD i
theorem b_ext {x y : Int32} (h : ∀ i, i < 32 → bt x i = bt y i) : x = y := Int32.toBitVec_inj.mp (BitVec.eq_of_getLsbD_eq (fun i hi => h i hi))
theorem b_or (x y : Int32) (i : Nat) : bt (x ||| y) i = (bt x i || bt y i) := by unfold bt; rw [Int32.toBitVec_or, BitVec.getLsbD_or]
theorem b_and (x y : Int32) (i : Nat) : bt (x &&& y) i = (bt x i && bt y i) := by unfold bt; rw [Int32.toBitVec_and, BitVec.getLsbD_and]
theorem b_xor (x y : Int32) (i : Nat) : bt (x ^^^ y) i = (bt x i ^^ bt y i) := by unfold bt; rw [Int32.toBitVec_xor, BitVec.getLsbD_xor]
theorem b_big {x : Int32} {i : Nat} (h : 32 ≤ i) : bt x i = false := BitVec.getLsbD_of_ge _ _ h
theorem b_255 (i : Nat) : bt 255 i = decide (i < 8) := by
  rcases Nat.lt_or_ge i 32 with h | h
  · exact (by decide +kernel : ∀ i, i < 32 → bt 255 i = decide (i < 8)) i h
  · rw [b_big h, decide_eq_false (by omega)]
theorem bp_b (x : Int32) : x.toInt8.toInt32 &&& 255 = x &&& 255 := by
  apply Int32.toBitVec_inj.mp
  rw [Int32.toBitVec_and, Int32.toBitVec_and, Int8.toBitVec_toInt32, Int32.toBitVec_toInt8]
  apply BitVec.eq_of_getLsbD_eq
  intro i hi
  rw [BitVec.getLsbD_and, BitVec.getLsbD_and]
  have hm : ∀ i < 32, 8 ≤ i → (255 : Int32).toBitVec.getLsbD i = false := by decide
  rcases Nat.lt_or_ge i 8 with z | z
  · rw [BitVec.getLsbD_signExtend, BitVec.getLsbD_signExtend, if_pos z, if_pos hi]
    simp only [z, hi, decide_true, Bool.true_and]
  · rw [hm i hi z]; simp
theorem byt_x (z : Int64) : z.toInt32.toInt8.toInt32.toInt8.toInt32 &&& 255 = (z &&& 255).toInt32 := by
  rw [bp_b, bp_b, Int64.toInt32_and]
  rfl
theorem XH.tap {g : Ge} {σ : Sg} {w u : Wv} {n : Nat} {K : Nat → Nat} (h : XH g σ w u n K) {j : Nat} {y : Int32} : XH g σ (up2 w 39 j y) (up2 u 118 j (y &&& 255)) n K := by
  obtain ⟨h1, ⟨k1, k2, k3, k4⟩, h3, h4⟩ := h
  refine ⟨h1, ⟨fun id j' q hq => ?_, ?_, ?_, fun k hk => ?_⟩, ⟨h3.1, by rw [up2_ne _ _ (by simp)]; exact h3.2⟩, fun i hi => ⟨by rw [up2_ne _ _ (by simp)]; exact (h4 i hi).1, by rw [up2_ne _ _ (by omega)]; exact (h4 i hi).2⟩⟩
  · rw [up2_ne _ _ (fun z => by rw [z.1, show xm 118 j' = none from rfl] at hq; cases hq), up2_ne _ _ (fun z => by have hx := (xm_xi hq).1; rw [z.1, show xi 39 q.2 = none by simp [xi]] at hx; cases hx)]
    exact k1 id j' q hq
  · unfold hatP at k2 ⊢
    rw [up2_ne _ _ (by simp), up2_ne _ _ (by simp), up2_ne _ _ (by simp)]; exact k2
  · unfold imgP at k3 ⊢
    rw [up2_ne _ _ (by simp), up2_ne _ _ (by simp), up2_ne _ _ (by simp)]; exact k3
  · by_cases e : k = j
    · rw [e, up2_eq, up2_eq]
    · rw [up2_ne _ _ (fun z => e z.2), up2_ne _ _ (fun z => e z.2)]; exact k4 k hk
theorem c_X0_feed {E : En} {g : Ge} {σ : Sg} {w u : Wv} {n : Nat} {K : Nat → Nat} (hX : XH g σ w u n K) (hP : HP u) {x : Int64} {k : Int32} : CtE E mX0_feed 1 [.ref (g.1 0), .long x, .int k] (PR (.int (feedR u k)) (QX g σ (feedW u u x k) n K)) (S g σ w) := by
  show VE E mX0_feed 1 _ 0 [some (.ref (g.1 0)), some (.long x), none, some (.int k), none] [] (S g σ w)
  refine VE.step (fun _ h => V.ild3 dX0_feed_0 (V.i2l dX0_feed_1 (V.lconst_1 dX0_feed_2 (V.ldc2_w q815 dX0_feed_3 (V.invS3r sX0_112 dX0_feed_6 (in_c (lo := 1) (hi := 8) rfl rfl) h))))) ?_
  refine VE.ifb_ne (tgt := 15) dX0_feed_9 (by decide) (fun c_9 => ?_) (fun c_9 => ?_)
  · refine VE.step (fun _ h => V.ald0 dX0_feed_15 (GX0_216 hX rfl dX0_feed_16 (V.ild3 dX0_feed_19 (V.iadd dX0_feed_20 (V.sipush (v := 160) dX0_feed_21 (by decide) h))))) ?_
    refine VE.icmp_le (tgt := 30) dX0_feed_24 (by decide) (fun c_24 => ?_) (fun c_24 => ?_)
    · obtain ⟨k, hn1, hn8, rfl⟩ := in18 c_9
      obtain ⟨t, ht, et⟩ := hP
      have c2 := c_24
      rw [et, nI_add, show (160 : Int32) = nI 160 from rfl, nI_leI (by omega) (by decide)] at c2
      rw [feedR, feedW, if_pos c_9, if_pos c_9, if_pos c_24, if_pos c_24, et, cl_n (by omega), cl_n (by omega), nI_add]
      have L35 : ∀ (q : Nat) (w1 : Wv), XH g σ w1 (up2 (gA 118 t (k - q) (fdF x k) u) 100 18 (nI (t + (k - q)))) n K → q ≤ k → VE E mX0_feed 1 (PR (.int (nI (t + k))) (QX g σ (fedV u x t k) n K)) 35 [some (.ref (g.1 0)), some (.long x), none, some (.int (nI k)), some (.int (nI q + (-1)))] [] (S g σ w1) := by
        intro q
        induction q with
        | zero =>
          intro w1 hX1 hq
          rw [dn_0]
          refine VE.step (fun _ h => V.ild4 dX0_feed_35 h) ?_
          refine VE.if_lt (tgt := 74) dX0_feed_37 (by decide) (fun c_37 => ?_) (fun c_37 => absurd (show (-1 : Int32) < 0 by decide) c_37)
          refine VE.step (fun _ h => V.ald0 dX0_feed_74 (GX0_216 hX1 rfl dX0_feed_75 h)) ?_
          exact VE.iret dX0_feed_78 rfl rfl (by first | exact ⟨rfl, w1, rfl, by rw [Nat.sub_zero] at hX1; exact hX1⟩)
        | succ q ih =>
          intro w1 hX1 hq
          rw [dn_s]
          refine VE.step (fun _ h => V.ild4 dX0_feed_35 h) ?_
          refine VE.if_lt (tgt := 74) dX0_feed_37 (by decide) (fun c_37 => absurd c_37 (dn_lt (by omega))) (fun c_37 => ?_)
          refine VE.step (fun _ h => V.ald0 dX0_feed_40 (GX0_91 hX1 rfl dX0_feed_41 (V.ald0 dX0_feed_44 (GX0_216 hX1 rfl dX0_feed_45 (V.lld1 dX0_feed_48 (V.bipush (v := 8) dX0_feed_49 (by decide) (V.ild4 dX0_feed_51 (V.imul dX0_feed_53 (V.lshr dX0_feed_54 (V.l2i dX0_feed_55 (V.i2b dX0_feed_56 h))))))))))) ?_
          rw [show up2 (gA 118 t (k - (q + 1)) (fdF x k) u) 100 18 (nI (t + (k - (q + 1)))) 100 18 = nI (t + (k - (q + 1))) from up2_eq _ _ _ _]
          refine VE.step (fun _ h => sX38 (j := t + (k - (q + 1))) hX1 (IX.n (by omega) (by decide)) dX0_feed_57 h) ?_
          have hX2 := hX1.tap (j := t + (k - (q + 1))) (y := ((x >>> ((8 * nI q).toInt64 &&& 63)).toInt32.toInt8.toInt32.toInt8.toInt32))
          rw [byt_x] at hX2
          refine VE.step (fun _ h => V.ald0 dX0_feed_58 (V.dup dX0_feed_59 (GX0_216 hX2 rfl dX0_feed_60 (V.iconst_1 dX0_feed_63 (V.iadd dX0_feed_64 (PX0_216 hX2 rfl dX0_feed_65 h)))))) ?_
          have hX3 := hX2.up xm_0_18 (x := nI (t + (k - (q + 1))) + 1)
          rw [up2_ne _ _ (show ¬ (100 = 118 ∧ 18 = t + (k - (q + 1))) by simp), up2_eq]
          rw [up2_mid (by decide), nI_1, gA_s (f := fdF x k) (by rw [fdF, show k - 1 - (k - (q + 1)) = q by omega]; rfl), show k - (q + 1) + 1 = k - q by omega, show t + (k - (q + 1)) + 1 = t + (k - q) by omega] at hX3
          rw [nI_1, show t + (k - (q + 1)) + 1 = t + (k - q) by omega]
          refine VE.step (fun _ h => V.incm4 dX0_feed_68 (V.goto (tgt := 35) dX0_feed_71 (by decide) h)) ?_
          rw [← dn_st, dn_st]
          exact ih _ hX3 (by omega)
      refine VE.step (fun _ h => V.ild3 dX0_feed_30 (V.iconst_1 dX0_feed_31 (V.isub dX0_feed_32 (V.ist4 dX0_feed_33 h)))) ?_
      rw [dn_st]
      exact L35 k w (by rw [Nat.sub_self, gA_0, Nat.add_zero, ← et, up2_self]; exact hX) (Nat.le_refl _)
    · refine VE.step (fun _ h => V.bipush (v := (-4)) dX0_feed_27 (by decide) h) ?_
      exact VE.iret dX0_feed_29 rfl rfl (⟨by simp only [feedR, c_9, c_24, if_true, if_false, Bool.false_eq_true, eq_self, and_true, true_and, and_false, false_and, Bool.and_true, Bool.true_and, Bool.and_false, Bool.false_and, Bool.not_true, Bool.not_false, not_true_eq_false, not_false_eq_true, ne_eq, b2i_t, b2i_f], w, rfl, by simp only [feedW, c_9, c_24, if_true, if_false, Bool.false_eq_true, eq_self, and_true, true_and, and_false, false_and, Bool.and_true, Bool.true_and, Bool.and_false, Bool.false_and, Bool.not_true, Bool.not_false, not_true_eq_false, not_false_eq_true, ne_eq, b2i_t, b2i_f]; exact hX⟩)
  · refine VE.step (fun _ h => V.bipush (v := (-2)) dX0_feed_12 (by decide) h) ?_
    exact VE.iret dX0_feed_14 rfl rfl (⟨by simp only [feedR, c_9, if_true, if_false, Bool.false_eq_true, eq_self, and_true, true_and, and_false, false_and, Bool.and_true, Bool.true_and, Bool.and_false, Bool.false_and, Bool.not_true, Bool.not_false, not_true_eq_false, not_false_eq_true, ne_eq, b2i_t, b2i_f], w, rfl, by simp only [feedW, c_9, if_true, if_false, Bool.false_eq_true, eq_self, and_true, true_and, and_false, false_and, Bool.and_true, Bool.true_and, Bool.and_false, Bool.false_and, Bool.not_true, Bool.not_false, not_true_eq_false, not_false_eq_true, ne_eq, b2i_t, b2i_f]; exact hX⟩)

set_option maxRecDepth 100000
set_option maxHeartbeats 4000000
def QLX (g : Ge) (σ : Sg) (u : Wv) (n : Nat) (K : Nat → Nat) : Sg → Prop := fun s => ∃ (w' : Wv) (x : Int64), s = S g (pL σ (g.1 0) 16 x) w' ∧ XH g σ w' u n K
theorem pL_nil {σ : Sg} {a k : Nat} : pL σ a k (sL σ a k) = σ := by
  show (σ.1, _, _, _, up2 (sL σ) a k (sL σ a k), _) = σ
  rw [up2_same]
theorem QLX.nil {g : Ge} {σ : Sg} {w u : Wv} {n : Nat} {K : Nat → Nat} (h : XH g σ w u n K) : QLX g σ u n K (S g σ w) := ⟨w, sL σ (g.1 0) 16, by rw [pL_nil], h⟩
theorem in01 {a : Int32} (h : inB a 0 1 = true) : a = 0 ∨ a = 1 := by
  have h1 := of_decide_eq_true h
  have h2 := Int32.le_iff_toInt_le.mp h1.1
  have h3 := Int32.le_iff_toInt_le.mp h1.2
  rw [Int32.toInt_zero] at h2
  rw [show (1 : Int32).toInt = 1 from rfl] at h3
  rcases (show a.toInt = 0 ∨ a.toInt = 1 by omega) with e | e
  · exact Or.inl (Int32.toInt_inj.mp (by rw [e]; rfl))
  · exact Or.inr (Int32.toInt_inj.mp (by rw [e]; rfl))
theorem cz64 {u : Wv} (hE : HE u) : (cntS u).toInt64 = 0 ↔ cntS u = 0 := by
  constructor
  · intro h
    apply Int32.toInt_inj.mp
    rw [← Int32.toInt_toInt64, h]; rfl
  · intro h; rw [h]; rfl
theorem meaM_at' {v : Wv} {r c : Nat} (p : Nat) (hp : p < nP v) : (casS v r c p).1 ≤ meaN v r c := meaM_at (nP v) 0 0 p (by omega) (by omega)
theorem max_c {E : En} {σ : Sg} {a b : Nat} (ha : a < 2 ^ 30) (hb : b < 2 ^ 30) : Ct E mJ10_max 0 [.int (nI a), .int (nI b)] (.returned (some (.int (nI (if b ≤ a then a else b)))), σ) σ := by
  have h := c_J10_max (E := E) (σ := σ) (a := nI a) (b := nI b)
  have e : maxI (nI a) (nI b) = nI (if b ≤ a then a else b) := by
    rw [maxI]
    by_cases q : b ≤ a
    · rw [if_pos q, if_pos (nI_le (by omega) (by omega))]
    · rw [if_neg q, if_neg (fun z => q ((nI_leI (by omega) (by omega)).mp z))]
  rw [e] at h
  exact h
theorem c_X0_chance {E : En} {g : Ge} {σ : Sg} {w u : Wv} {n : Nat} {K : Nat → Nat} (hX : XH g σ w u n K) (hI : HI u) (hE : HE u) {r c p a : Int32} : CtE E mX0_chance 6 [.ref (g.1 0), .int r, .int c, .int p, .int a] (PR (.long (chanceR u r c p a)) (QLX g σ u n K)) (S g σ w) := by
  show VE E mX0_chance 6 _ 0 [some (.ref (g.1 0)), some (.int r), some (.int c), some (.int p), some (.int a)] [] (S g σ w)
  refine VE.step (fun _ h => V.ald0 dX0_chance_0 (V.ild1 dX0_chance_1 (V.ild2 dX0_chance_2 (V.invV2r vX0_173 hX.t0 dX0_chance_3 (c_X0_isSeat hX hI) h)))) ?_
  refine VE.ifb_eq (tgt := 37) dX0_chance_6 (by decide) (fun c_6 => ?_) (fun c_6 => ?_)
  · refine VE.step (fun _ h => V.ldc2_w q1293 dX0_chance_37 h) ?_
    exact VE.lret dX0_chance_40 rfl (⟨by first | (simp only [chanceR, chaOk, c_6, if_true, if_false, Bool.false_eq_true, eq_self, and_true, true_and, and_false, false_and, Bool.and_true, Bool.true_and, Bool.and_false, Bool.false_and, Bool.not_true, Bool.not_false, not_true_eq_false, not_false_eq_true, ne_eq, b2i_t, b2i_f]; rfl) | (have c34 := (cz64 hE).mp (lcz.mp c_34); simp [chanceR, chaOk, c_6, c34]; rfl) | (simp [chanceR, chaOk, c_6]; rfl), QLX.nil hX⟩)
  · refine VE.step (fun _ h => V.ald0 dX0_chance_9 (V.ild3 dX0_chance_10 (V.invV1r vX0_253 hX.t0 dX0_chance_11 (c_X0_isPoint hX hI) h))) ?_
    refine VE.ifb_eq (tgt := 37) dX0_chance_14 (by decide) (fun c_14 => ?_) (fun c_14 => ?_)
    · refine VE.step (fun _ h => V.ldc2_w q1293 dX0_chance_37 h) ?_
      exact VE.lret dX0_chance_40 rfl (⟨by first | (simp only [chanceR, chaOk, c_6, c_14, if_true, if_false, Bool.false_eq_true, eq_self, and_true, true_and, and_false, false_and, Bool.and_true, Bool.true_and, Bool.and_false, Bool.false_and, Bool.not_true, Bool.not_false, not_true_eq_false, not_false_eq_true, ne_eq, b2i_t, b2i_f]; rfl) | (have c34 := (cz64 hE).mp (lcz.mp c_34); simp [chanceR, chaOk, c_6, c_14, c34]; rfl) | (simp [chanceR, chaOk, c_6, c_14]; rfl), QLX.nil hX⟩)
    · refine VE.step (fun _ h => V.ild4 dX0_chance_17 (V.i2l dX0_chance_19 (V.lconst_0 dX0_chance_20 (V.lconst_1 dX0_chance_21 (V.invS3r sX0_112 dX0_chance_22 (in_c (lo := 0) (hi := 1) rfl rfl) h))))) ?_
      refine VE.ifb_eq (tgt := 37) dX0_chance_25 (by decide) (fun c_25 => ?_) (fun c_25 => ?_)
      · refine VE.step (fun _ h => V.ldc2_w q1293 dX0_chance_37 h) ?_
        exact VE.lret dX0_chance_40 rfl (⟨by first | (simp only [chanceR, chaOk, c_6, c_14, c_25, if_true, if_false, Bool.false_eq_true, eq_self, and_true, true_and, and_false, false_and, Bool.and_true, Bool.true_and, Bool.and_false, Bool.false_and, Bool.not_true, Bool.not_false, not_true_eq_false, not_false_eq_true, ne_eq, b2i_t, b2i_f]; rfl) | (have c34 := (cz64 hE).mp (lcz.mp c_34); simp [chanceR, chaOk, c_6, c_14, c_25, c34]; rfl) | (simp [chanceR, chaOk, c_6, c_14, c_25]; rfl), QLX.nil hX⟩)
      · refine VE.step (fun _ h => V.ald0 dX0_chance_28 (V.invV0r vX0_335 hX.t0 dX0_chance_29 (c_X0_weights hX hE) (V.lconst_0 dX0_chance_32 (V.lcmp dX0_chance_33 h)))) ?_
        refine VE.if_ne (tgt := 41) dX0_chance_34 (by decide) (fun c_34 => ?_) (fun c_34 => ?_)
        · have hcn : ¬ cntS u = 0 := fun z => c_34 (lcz.mpr ((cz64 hE).mpr z))
          have hok : chaOk u r c p a = true := by unfold chaOk; rw [c_6, c_14, c_25, decide_eq_true hcn]; rfl
          obtain ⟨i, j, hi, hj', hc, rfl, rfl, e1, e2⟩ := hX.se hI c_6
          have hr := hX.n6 hi
          have cp := c_14
          rw [hI.points.1] at cp
          have hP2 := hI.points.2
          obtain ⟨k, hk, rfl⟩ := (inB_n (by omega)).mp cp
          have hk6 : k < 6 := by omega
          have e3 : cl (nI k) = k := cl_n (by omega)
          obtain ⟨W, hW36, hcW, hL⟩ := cnt_n hE
          have hW1 : 1 ≤ W := by
            rcases Nat.eq_zero_or_pos W with z | z
            · exact absurd (show (cntS u) = 0 by rw [hcW, z]; rfl) hcn
            · exact z
          have hb := cas_b hI hW36 hL (c := j) (p := k) hr
          refine VE.step (fun _ h => V.ald0 dX0_chance_41 (V.ald0 dX0_chance_42 (GX0_22 hX rfl dX0_chance_43 (V.ild1 dX0_chance_46 (V.invV1r vX0_150 hX.li.2.1 dX0_chance_47 (c_J2_get hX hi) (ccX0_122 hX hi rfl dX0_chance_50 (V.ild2 dX0_chance_53 (V.ild3 dX0_chance_54 (V.invV3v vX0_341 hX.t0 dX0_chance_55 (c_X0_chances hX hi hk6 hI hE hc) h))))))))) ?_
          have hX2 : XH g (pL σ (g.1 0) 16 (casF u i j k)) (up2 w 0 17 (nI (casS u i j k).1)) u n K := (hX.sc (a := 0) (b := 17) rfl).pL
          refine VE.step (fun _ h => V.ald0 dX0_chance_58 (GX0_326 hX2 rfl dX0_chance_59 (V.ald0 dX0_chance_62 (V.invV0r vX0_335 hX2.t0 dX0_chance_63 (c_X0_weights (hX.sc (a := 0) (b := 17) rfl).pL hE) (V.ald0 dX0_chance_66 (GX0_330 hX2 rfl dX0_chance_67 h)))))) ?_
          rw [pL_at, up2_eq]
          refine VE.step (fun _ h => V.invS2r sX0_345 dX0_chance_70 (c_X0_power (by have := hb.1; omega)) (V.ild4 dX0_chance_73 (V.invS3r sX0_349 dX0_chance_75 (c_X0_lowest (l_ge hb.2.1) (by rw [hcW]; exact pw_nz hW36 hW1 hb.1) (in01 c_25)) h))) ?_
          exact VE.lret dX0_chance_78 rfl (⟨by rw [chanceR, if_pos hok, e1, e2, e3], _, _, rfl, hX.sc rfl⟩)
        · refine VE.step (fun _ h => V.ldc2_w q1293 dX0_chance_37 h) ?_
          exact VE.lret dX0_chance_40 rfl (⟨by first | (simp only [chanceR, chaOk, c_6, c_14, c_25, c_34, if_true, if_false, Bool.false_eq_true, eq_self, and_true, true_and, and_false, false_and, Bool.and_true, Bool.true_and, Bool.and_false, Bool.false_and, Bool.not_true, Bool.not_false, not_true_eq_false, not_false_eq_true, ne_eq, b2i_t, b2i_f]; rfl) | (have c34 := (cz64 hE).mp (lcz.mp c_34); simp [chanceR, chaOk, c_6, c_14, c_25, c_34, c34]; rfl) | (simp [chanceR, chaOk, c_6, c_14, c_25, c_34]; rfl), QLX.nil hX⟩)

/-- the trees and their lists are kept -/
def KT (g : Ge) (σ σ' : Sg) : Prop := ∀ a, ((sT σ a).1 = 5 ∨ (sT σ a).1 = 6 ∨ (sT σ a).1 = 7 ∨ (sT σ a).1 = 105 ∨ a = g.1 48) → sT σ' a = sT σ a ∧ sR σ' a = sR σ a ∧ sI σ' a = sI σ a
theorem Tr.k {g : Ge} {σ σ' : Sg} (h : KT g σ σ') : ∀ (f a : Nat) (c : List Int32), Tr g σ f a c → Tr g σ' f a c
  | 0, _, _, hT => hT
  | f + 1, a, c, hT => by
    obtain ⟨hN, hT⟩ := hT
    refine ⟨hN, ?_⟩
    rcases hT with ⟨t, hT⟩ | ⟨t, b, c', h1, h2, h3⟩ | ⟨t, b1, b2, c1, c2, sc, h1, h2, h3, h4, h5, h6, h7⟩
    · obtain ⟨k1, k2, k3⟩ := h a (by omega)
      rw [k1, k3]; exact .inl ⟨t, hT⟩
    · obtain ⟨k1, k2, k3⟩ := h a (by omega)
      rw [k1, k2, k3]; exact .inr (.inl ⟨t, b, c', h1, Tr.k h f b c' h2, h3⟩)
    · obtain ⟨k1, k2, k3⟩ := h a (by omega)
      rw [k1, k2, k3]; exact .inr (.inr ⟨t, b1, b2, c1, c2, sc, h1, h2, Tr.k h f b1 c1 h3, Tr.k h f b2 c2 h4, h5, h6, h7⟩)
theorem TXR.k {g : Ge} {σ σ' : Sg} {u : Wv} (hR : TXR g σ u) (h : KT g σ σ') : TXR g σ' u := by
  intro t ht
  obtain ⟨A, a1, a2, a3⟩ := hR t ht
  refine ⟨A, by rw [(h (g.1 48) (by simp)).2.1]; exact a1, by rw [(h A (by rw [a2]; simp)).1]; exact a2, fun p hp => ?_⟩
  obtain ⟨b, f, b1, b2, b3⟩ := a3 p hp
  exact ⟨b, f, b1, by rw [(h A (by rw [a2]; simp)).2.1]; exact b2, b3.k h⟩
theorem KT.rfl {g : Ge} {σ : Sg} : KT g σ σ := fun _ _ => ⟨_root_.rfl, _root_.rfl, _root_.rfl⟩
theorem KT.pL {g : Ge} {σ : Sg} {a k : Nat} {x : Int64} : KT g σ (pL σ a k x) := fun _ _ => ⟨_root_.rfl, _root_.rfl, _root_.rfl⟩
theorem KT.tr {g : Ge} {σ σ1 σ2 : Sg} (h1 : KT g σ σ1) (h2 : KT g σ1 σ2) : KT g σ σ2 := fun a ha => by
  obtain ⟨k1, k2, k3⟩ := h1 a ha
  obtain ⟨j1, j2, j3⟩ := h2 a (by rw [k1]; exact ha)
  exact ⟨j1.trans k1, j2.trans k2, j3.trans k3⟩
theorem KT.nW {g : Ge} {σ : Sg} (hC : CLN σ) (h48 : (sT σ (g.1 48)).1 ≠ 0) {t : Nat × Nat} {k : Nat} : KT g σ (nW σ t k) := fun a ha => by
  have hne : a ≠ sN σ := fun z => by
    subst z
    have hz := hC (sN σ) (Nat.le_refl _)
    rcases ha with h | h | h | h | h
    · omega
    · omega
    · omega
    · omega
    · rw [← h] at h48; exact h48 hz
  exact ⟨up1_ne _ _ hne, up1_ne _ _ hne, up1_ne _ _ hne⟩
theorem c_X0_mean {E : En} {g : Ge} {σ : Sg} {w u : Wv} {n : Nat} {K : Nat → Nat} (hX : XH g σ w u n K) (hI : HI u) (hE : HE u) (hT : HT u) (hR : TXR g σ u) {r c a : Int32} : CtE E mX0_mean 403 [.ref (g.1 0), .int r, .int c, .int a] (PR (.long (meanR u r c a)) (QLX g σ u n K)) (S g σ w) := by
  show VE E mX0_mean 403 _ 0 [some (.ref (g.1 0)), some (.int r), some (.int c), some (.int a), none, none, none, none, none] [] (S g σ w)
  refine VE.step (fun _ h => V.ald0 dX0_mean_0 (V.ild1 dX0_mean_1 (V.ild2 dX0_mean_2 (V.invV2r vX0_173 hX.t0 dX0_mean_3 (c_X0_isSeat hX hI) h)))) ?_
  refine VE.ifb_eq (tgt := 28) dX0_mean_6 (by decide) (fun c_6 => ?_) (fun c_6 => ?_)
  · refine VE.step (fun _ h => V.ldc2_w q1293 dX0_mean_28 h) ?_
    exact VE.lret dX0_mean_31 rfl (⟨by first | (simp only [meanR, meaOk, c_6, if_true, if_false, Bool.false_eq_true, eq_self, and_true, true_and, and_false, false_and, Bool.and_true, Bool.true_and, Bool.and_false, Bool.false_and, Bool.not_true, Bool.not_false, not_true_eq_false, not_false_eq_true, ne_eq, b2i_t, b2i_f]; rfl) | (have c34 := (cz64 hE).mp (lcz.mp c_25); simp [meanR, meaOk, c_6, c34]; rfl) | (simp [meanR, meaOk, c_6]; rfl), QLX.nil hX⟩)
  · refine VE.step (fun _ h => V.ild3 dX0_mean_9 (V.i2l dX0_mean_10 (V.lconst_0 dX0_mean_11 (V.lconst_1 dX0_mean_12 (V.invS3r sX0_112 dX0_mean_13 (in_c (lo := 0) (hi := 1) rfl rfl) h))))) ?_
    refine VE.ifb_eq (tgt := 28) dX0_mean_16 (by decide) (fun c_16 => ?_) (fun c_16 => ?_)
    · refine VE.step (fun _ h => V.ldc2_w q1293 dX0_mean_28 h) ?_
      exact VE.lret dX0_mean_31 rfl (⟨by first | (simp only [meanR, meaOk, c_6, c_16, if_true, if_false, Bool.false_eq_true, eq_self, and_true, true_and, and_false, false_and, Bool.and_true, Bool.true_and, Bool.and_false, Bool.false_and, Bool.not_true, Bool.not_false, not_true_eq_false, not_false_eq_true, ne_eq, b2i_t, b2i_f]; rfl) | (have c34 := (cz64 hE).mp (lcz.mp c_25); simp [meanR, meaOk, c_6, c_16, c34]; rfl) | (simp [meanR, meaOk, c_6, c_16]; rfl), QLX.nil hX⟩)
    · refine VE.step (fun _ h => V.ald0 dX0_mean_19 (V.invV0r vX0_335 hX.t0 dX0_mean_20 (c_X0_weights hX hE) (V.lconst_0 dX0_mean_23 (V.lcmp dX0_mean_24 h)))) ?_
      refine VE.if_ne (tgt := 32) dX0_mean_25 (by decide) (fun c_25 => ?_) (fun c_25 => ?_)
      · have hcn : ¬ cntS u = 0 := fun z => c_25 (lcz.mpr ((cz64 hE).mpr z))
        have hok : meaOk u r c a = true := by unfold meaOk; rw [c_6, c_16, decide_eq_true hcn]; rfl
        obtain ⟨i, j, hi, hj', hc, rfl, rfl, e1, e2⟩ := hX.se hI c_6
        have hr := hX.n6 hi
        obtain ⟨W, hW36, hcW, hL⟩ := cnt_n hE
        have hW1 : 1 ≤ W := by
          rcases Nat.eq_zero_or_pos W with z | z
          · exact absurd (show (cntS u) = 0 by rw [hcW, z]; rfl) hcn
          · exact z
        have hP2 := hI.points.2
        obtain ⟨M, hMe⟩ : ∃ M, meaN u i j = M := ⟨_, rfl⟩
        have hM10 : M ≤ 10 := by rw [← hMe]; exact meaN_b (fun p => (cas_b hI hW36 hL (c := j) (p := p) hr).1) _ _ _ (by omega)
        have hS0 := meaS_b (u := u) (r := i) (c := j) (M := M) (B := nP u) (C := 99 * 36 ^ 10) (by decide) (by decide) (fun p hp => meaT_b hI hW36 hcW hL hr hM10 (by rw [← hMe]; exact meaM_at' p hp)) (nP u) 0 0 0 (by omega) (by omega) (by decide) (by decide)
        have L92 : ∀ (m p : Nat) (s x : Int64) (w' : Wv), p + m = nP u → XH g σ w' u n K → meaS u i j M p m s = meaS u i j M 0 (nP u) 0 → VE E mX0_mean 403 (PR (.long (meanR u (nI i) (nI j) a)) (QLX g σ u n K)) 92 [some (.ref (g.1 0)), some (.int (nI i)), some (.int (nI j)), some (.int (a)), some (.ref (g.1 (60 + i))), some (.int (nI M)), some (.long s), none, some (.int (nI p))] [] (S g (pL σ (g.1 0) 16 x) w') := by
          intro m
          induction m with
          | zero =>
            intro p s x w' hk hx' hs
            have hXp : XH g (pL σ (g.1 0) 16 x) w' u n K := hx'.pL
            refine VE.step (fun _ h => V.ild8 dX0_mean_92 (V.ald0 dX0_mean_94 (GX0_203 hXp rfl dX0_mean_95 h))) ?_
            refine VE.icmp_ge (tgt := 151) dX0_mean_98 (by decide) (fun c_98 => ?_) (fun c_98 => absurd (by rw [hI.points.1]; exact nI_le (by omega) (by omega)) c_98)
            refine VE.step (fun _ h => V.lld6 dX0_mean_151 (V.ald0 dX0_mean_153 (V.invV0r vX0_335 hXp.t0 dX0_mean_154 (c_X0_weights hXp hE) (V.ild5 dX0_mean_157 (V.invS2r sX0_345 dX0_mean_159 (c_X0_power (x := (cntS u).toInt64) (n := M) (by omega)) (V.ild3 dX0_mean_162 (V.invS3r sX0_349 dX0_mean_163 (c_X0_lowest (l_ge (by rw [show s = _ from hs]; exact hS0)) (by rw [hcW]; exact pw_nz hW36 hW1 hM10) (in01 c_16)) h))))))) ?_
            exact VE.lret dX0_mean_166 rfl (⟨by rw [meanR, if_pos hok, e1, e2, hMe, ← hs]; rfl, _, _, rfl, hx'⟩)
          | succ m ih =>
            intro p s x w' hk hx' hs
            have hXp : XH g (pL σ (g.1 0) 16 x) w' u n K := hx'.pL
            refine VE.step (fun _ h => V.ild8 dX0_mean_92 (V.ald0 dX0_mean_94 (GX0_203 hXp rfl dX0_mean_95 h))) ?_
            refine VE.icmp_ge (tgt := 151) dX0_mean_98 (by decide) (fun c_98 => absurd c_98 (by rw [hI.points.1]; first | exact nI_ge (by omega) (by omega) | exact fun h9 => absurd ((nI_leI (by omega) (by omega)).mp h9) (by omega))) (fun c_98 => ?_)
            refine VE.step (fun _ h => V.ald0 dX0_mean_101 (V.ald4 dX0_mean_102 (V.ild2 dX0_mean_104 (V.ild8 dX0_mean_105 (V.invV3v vX0_341 hXp.t0 dX0_mean_107 (c_X0_chances hXp hi (p := p) (by omega) hI hE hc) h))))) ?_
            rw [pL_pL]
            have hpM : (casS u i j p).1 ≤ M := by rw [← hMe]; exact meaM_at' p (by omega)
            have hX2 : XH g (pL σ (g.1 0) 16 (casF u i j p)) (up2 w' 0 17 (nI (casS u i j p).1)) u n K := (hx'.sc (a := 0) (b := 17) rfl).pL
            refine VE.step (fun _ h => V.lld6 dX0_mean_110 (V.ald0 dX0_mean_112 (V.ald4 dX0_mean_113 (V.ild2 dX0_mean_115 (V.ild8 dX0_mean_116 (V.invV3r vX0_281 hX2.t0 dX0_mean_118 (c_X0_likes hX2 hi hI hE hT (hR.k KT.pL) hc (p := p) (by omega)) h)))))) ?_
            have hX3 := hX2.nm (nm := nmF (u 114 p) (u 113 p) (nI i) (pl u i (nI j)) (fl u i) (so u i j))
            refine VE.step (fun _ h => V.i2l dX0_mean_121 (V.ald0 dX0_mean_122 (GX0_326 hX3 rfl dX0_mean_123 h))) ?_
            rw [pL_at]
            refine VE.step (fun _ h => V.lmul dX0_mean_126 (V.ald0 dX0_mean_127 (V.invV0r vX0_335 hX3.t0 dX0_mean_128 (c_X0_weights hX3 hE) (V.ild5 dX0_mean_131 (V.ald0 dX0_mean_133 (GX0_330 hX3 rfl dX0_mean_134 h)))))) ?_
            rw [show wNm (up2 w' 0 17 (nI (casS u i j p).1)) (nmF (u 114 p) (u 113 p) (nI i) (pl u i (nI j)) (fl u i) (so u i j)) 0 17 = nI (casS u i j p).1 by unfold wNm; rw [up2_at _ _ (by decide), up2_at _ _ (by decide), up2_at _ _ (by decide), up2_at _ _ (by decide), up2_at _ _ (by decide), up2_at _ _ (by decide), up2_eq]]
            refine VE.step (fun _ h => V.isub dX0_mean_137 h) ?_
            rw [nI_sb hpM]
            refine VE.step (fun _ h => V.invS2r sX0_345 dX0_mean_138 (c_X0_power (x := (cntS u).toInt64) (n := M - (casS u i j p).1) (by omega)) (V.lmul dX0_mean_141 (V.ladd dX0_mean_142 (V.lst6 dX0_mean_143 (V.inc8 dX0_mean_145 (V.goto (tgt := 92) dX0_mean_148 (by decide) h)))))) ?_
            rw [nI_1]
            exact ih (p + 1) _ _ _ (by omega) hX3 (by rw [← hs]; rfl)
        have L51 : ∀ (m p : Nat) (b : Nat) (x : Int64) (w' : Wv), p + m = nP u → XH g σ w' u n K → b ≤ 10 → meaM u i j p m b = M → VE E mX0_mean 403 (PR (.long (meanR u (nI i) (nI j) a)) (QLX g σ u n K)) 51 [some (.ref (g.1 0)), some (.int (nI i)), some (.int (nI j)), some (.int (a)), some (.ref (g.1 (60 + i))), some (.int (nI b)), some (.int (nI p)), none, none] [] (S g (pL σ (g.1 0) 16 x) w') := by
          intro m
          induction m with
          | zero =>
            intro p b x w' hk hx' hb hs
            have hXp : XH g (pL σ (g.1 0) 16 x) w' u n K := hx'.pL
            refine VE.step (fun _ h => V.ild6 dX0_mean_51 (V.ald0 dX0_mean_53 (GX0_203 hXp rfl dX0_mean_54 h))) ?_
            refine VE.icmp_ge (tgt := 86) dX0_mean_57 (by decide) (fun c_57 => ?_) (fun c_57 => absurd (by rw [hI.points.1]; exact nI_le (by omega) (by omega)) c_57)
            rw [show b = M from hs]
            refine VE.step (fun _ h => V.lconst_0 dX0_mean_86 (V.lst6 dX0_mean_87 (V.iconst_0 dX0_mean_89 (V.ist8 dX0_mean_90 h)))) ?_
            exact L92 (nP u) 0 0 _ _ (by omega) hx' rfl
          | succ m ih =>
            intro p b x w' hk hx' hb hs
            have hXp : XH g (pL σ (g.1 0) 16 x) w' u n K := hx'.pL
            have hcs := (cas_b hI hW36 hL (c := j) (p := p) hr).1
            refine VE.step (fun _ h => V.ild6 dX0_mean_51 (V.ald0 dX0_mean_53 (GX0_203 hXp rfl dX0_mean_54 h))) ?_
            refine VE.icmp_ge (tgt := 86) dX0_mean_57 (by decide) (fun c_57 => absurd c_57 (by rw [hI.points.1]; first | exact nI_ge (by omega) (by omega) | exact fun h9 => absurd ((nI_leI (by omega) (by omega)).mp h9) (by omega))) (fun c_57 => ?_)
            refine VE.step (fun _ h => V.ald0 dX0_mean_60 (V.ald4 dX0_mean_61 (V.ild2 dX0_mean_63 (V.ild6 dX0_mean_64 (V.invV3v vX0_341 hXp.t0 dX0_mean_66 (c_X0_chances hXp hi (p := p) (by omega) hI hE hc) h))))) ?_
            rw [pL_pL]
            have hX2 : XH g (pL σ (g.1 0) 16 (casF u i j p)) (up2 w' 0 17 (nI (casS u i j p).1)) u n K := (hx'.sc (a := 0) (b := 17) rfl).pL
            refine VE.step (fun _ h => V.ild5 dX0_mean_69 (V.ald0 dX0_mean_71 (GX0_330 hX2 rfl dX0_mean_72 h))) ?_
            rw [up2_eq]
            refine VE.step (fun _ h => V.invS2r sX0_274 dX0_mean_75 (max_c (a := b) (b := (casS u i j p).1) (by omega) (by omega)) (V.ist5 dX0_mean_78 (V.inc6 dX0_mean_80 (V.goto (tgt := 51) dX0_mean_83 (by decide) h)))) ?_
            rw [nI_1]
            exact ih (p + 1) _ _ _ (by omega) (hx'.sc rfl) (by split <;> omega) (by rw [← hs, meaM])
        
        refine VE.step (fun _ h => V.ald0 dX0_mean_32 (GX0_22 hX rfl dX0_mean_33 (V.ild1 dX0_mean_36 (V.invV1r vX0_150 hX.li.2.1 dX0_mean_37 (c_J2_get hX hi) (ccX0_122 hX hi rfl dX0_mean_40 (V.ast4 dX0_mean_43 (V.iconst_0 dX0_mean_45 (V.ist5 dX0_mean_46 (V.iconst_0 dX0_mean_48 (V.ist6 dX0_mean_49 h)))))))))) ?_
        have h0 := L51 (nP u) 0 0 (sL σ (g.1 0) 16) w (by omega) hX (by omega) hMe
        rw [pL_nil] at h0
        exact h0
      · refine VE.step (fun _ h => V.ldc2_w q1293 dX0_mean_28 h) ?_
        exact VE.lret dX0_mean_31 rfl (⟨by first | (simp only [meanR, meaOk, c_6, c_16, c_25, if_true, if_false, Bool.false_eq_true, eq_self, and_true, true_and, and_false, false_and, Bool.and_true, Bool.true_and, Bool.and_false, Bool.false_and, Bool.not_true, Bool.not_false, not_true_eq_false, not_false_eq_true, ne_eq, b2i_t, b2i_f]; rfl) | (have c34 := (cz64 hE).mp (lcz.mp c_25); simp [meanR, meaOk, c_6, c_16, c_25, c34]; rfl) | (simp [meanR, meaOk, c_6, c_16, c_25]; rfl), QLX.nil hX⟩)

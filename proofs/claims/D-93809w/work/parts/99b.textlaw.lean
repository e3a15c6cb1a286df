set_option maxRecDepth 100000
set_option maxHeartbeats 4000000
/-! ===== a text is read, in the law ===== -/
theorem okc_n {k : Nat} (h : k < 10000) (L : List Int32) (n : Nat) : okc (nI (100000 + k) :: L) n = okc L (n + 1) := by
  rw [okc, if_pos (show (100000 : Int32) ≤ nI (100000 + k) from nI_le (a := 100000) (by omega) (by omega))]
theorem okc_v {k : Nat} (h : k < 6) (L : List Int32) (n : Nat) : okc (nI k :: L) n = okc L (n + 1) := by
  have e : ∀ k, k < 6 → inB (nI k) 0 5 = true := by decide +kernel
  rw [okc, if_neg (show ¬ (100000 : Int32) ≤ nI k from fun z => absurd ((nI_leI (a := 100000) (b := k) (by omega) (by omega)).mp z) (by omega)), if_pos (show nI k < 11 from nI_lt (b := 11) (by omega) (by omega)), e k h, Bool.true_and]
theorem okc_tr {g : Ge} {σ : Sg} : ∀ (f a : Nat) (c : List Int32), Tr g σ f a c → ∀ (L : List Int32) (n : Nat), okc (c ++ L) n = okc L (n + 1)
  | 0, _, _, h => h.elim
  | f + 1, a, c, ⟨_, h⟩ => by
    intro L n
    rcases h with ⟨_, ⟨_, k, hk, _, rfl⟩ | ⟨k, hk, _, rfl⟩⟩ | ⟨_, b, c', _, h3, h4⟩ | ⟨_, b1, b2, c1, c2, sc, _, _, h4, h5, h6, _, rfl⟩
    · exact okc_n hk L n
    · exact okc_v hk L n
    · have ih := okc_tr f b c' h3
      rcases h4 with ⟨_, rfl⟩ | ⟨_, rfl⟩
      · rw [List.append_assoc, ih]
        show okc (19 :: L) (n + 1) = _
        rw [okc]
        simp
      · rw [List.append_assoc, ih]
        show okc (13 :: L) (n + 1) = _
        rw [okc]
        simp
    · have i1 := okc_tr f b1 c1 h4
      have i2 := okc_tr f b2 c2 h5
      rw [List.append_assoc, List.append_assoc, i1, i2]
      have e : ∀ s ∈ sgs, ¬ (100000 : Int32) ≤ s.2 ∧ ¬ s.2 < 11 ∧ ¬ (s.2 = 13 ∨ s.2 = 19) := by decide +kernel
      obtain ⟨e1, e2, e3⟩ := e sc h6
      show okc (sc.2 :: L) (n + 1 + 1) = _
      rw [okc, if_neg e1, if_neg e2, if_neg e3]
      simp
theorem okc_t {g : Ge} {σ : Sg} {f a : Nat} {c : List Int32} (h : Tr g σ f a c) : okc c 0 = true := by
  have := okc_tr f a c h [] 0
  rw [List.append_nil] at this
  rw [this]; rfl
theorem Tg.tr {b : Nat} {g : Ge} {σ : Sg} (hN : ∀ x, b ≤ x → (sT σ x).1 ≠ 0 → NA g x) : ∀ (d a : Nat) (c : List Int32), Tg b σ d a c → Tr g σ d a c
  | 0, _, _, h => h
  | d + 1, a, c, ⟨h0, h⟩ => by
    rcases h with ⟨h1, h2⟩ | ⟨h1, b1, c', h2, h3, h4⟩ | ⟨h1, b1, b2, c1, c2, sc, h2, h3, h4, h5, h6, h7, h8⟩
    · exact ⟨hN a h0 (by omega), .inl ⟨h1, h2⟩⟩
    · exact ⟨hN a h0 (by omega), .inr (.inl ⟨h1, b1, c', h2, Tg.tr hN d b1 c' h3, h4⟩)⟩
    · exact ⟨hN a h0 (by omega), .inr (.inr ⟨h1, b1, b2, c1, c2, sc, h2, h3, Tg.tr hN d b1 c1 h4, Tg.tr hN d b2 c2 h5, h6, h7, h8⟩)⟩
theorem tx_len {B : Nat → Int32} {N : Nat} : ∀ (m k a : Nat) (C : List Int32) (S : List Nat) {p : Nat} {U : List Int32 × List Nat}, a ≤ N → C.length ≤ a → tx B N m k a C S = (p, some U) → U.1.length ≤ N
  | 0, k, a, C, S, p, U, ha, hC, h => by
    rw [tx] at h
    simp only [Prod.mk.injEq] at h
    obtain ⟨_, h⟩ := h
    split at h
    · cases h; show C.length ≤ N; omega
    · cases h
  | m + 1, k, a, C, S, p, U, ha, hC, h => by
    rw [tx] at h
    have hl := lexM_b (B := B) ha
    split at h
    · rename_i hc
      have hae : a < (lexM B N a).2.2.2 := hl.2.2.resolve_left (fun z => by rw [z] at hc; exact absurd hc.1 (by decide))
      split at h
      · cases h
      · rename_i b1 U1 hE
        have := eR_len hl.1 (by omega) hE
        exact tx_len m (k + 1) U1.2 U1.1 _ this.2 this.1 h
    · simp at h
theorem preC_len {cs : Nat → List Int32} {k : Nat} : (preC cs (k + 1)).length = (preC cs k).length + (cs k).length := by rw [preC, List.length_append]
theorem preC_mn {cs : Nat → List Int32} {k m : Nat} (h : k ≤ m) : (preC cs k).length ≤ (preC cs m).length := by
  induction m with
  | zero => rw [show k = 0 by omega]; exact Nat.le_refl _
  | succ m ih =>
    rcases Nat.lt_or_ge k (m + 1) with q | q
    · rw [preC_len]; have := ih (by omega); omega
    · rw [show k = m + 1 by omega]; exact Nat.le_refl _
theorem preC_get {cs : Nat → List Int32} {p i : Nat} (hi : i < (cs p).length) : ∀ m, p < m → (preC cs m).getD ((preC cs p).length + i) 0 = (cs p).getD i 0
  | 0, h => by omega
  | m + 1, h => by
    rw [preC]
    rcases Nat.lt_or_ge p m with q | q
    · have e := preC_mn (cs := cs) (show p + 1 ≤ m by omega)
      rw [preC_len] at e
      rw [← preC_get hi m q, List.getD_eq_getElem?_getD, List.getD_eq_getElem?_getD, List.getElem?_append_left (by omega)]
    · rw [show m = p by omega]
      rw [List.getD_eq_getElem?_getD, List.getD_eq_getElem?_getD, List.getElem?_append_right (by omega), show (preC cs p).length + i - (preC cs p).length = i by omega]
theorem TOK.cg {u w' : Wv} {t : Nat} (h : TOK u t) (h1 : ∀ p, p < 4 → w' 121 (4 * t + p) = u 121 (4 * t + p)) (h0 : ∀ i, i < 200 → w' 120 (200 * t + i) = u 120 (200 * t + i)) : TOK w' t ∧ ∀ p, p < 3 → codeL w' t p = codeL u t p := by
  have eB : ∀ p, p < 4 → tB w' t p = tB u t p := fun p hp => by unfold tB; rw [h1 p hp]
  have eC : ∀ p, p < 3 → codeL w' t p = codeL u t p := fun p hp => by
    unfold codeL
    rw [eB p (by omega), eB (p + 1) (by omega)]
    refine List.map_congr_left (fun i hi => ?_)
    rw [List.mem_range] at hi
    have := (h.1 (p + 1) (by omega)).2
    exact h0 _ (by omega)
  refine ⟨⟨fun p hp => ?_, ?_, ?_, ?_, fun p hp => ?_⟩, eC⟩
  · rw [eB p hp, h1 p hp]; exact h.1 p hp
  · rw [eB 0 (by decide), eB 1 (by decide)]; exact h.2.1
  · rw [eB 1 (by decide), eB 2 (by decide)]; exact h.2.2.1
  · rw [eB 2 (by decide), eB 3 (by decide)]; exact h.2.2.2.1
  · rw [eC p hp]; exact h.2.2.2.2 p hp
theorem TOK.nw {w' : Wv} {T : Nat} {cs : Nat → List Int32} (hl : (preC cs 3).length ≤ 160) (h0 : ∀ i, i < (preC cs 3).length → w' 120 (200 * T + i) = (preC cs 3).getD i 0) (h1 : ∀ i, i < 4 → w' 121 (4 * T + i) = nI ((stS cs 4).getD i 0)) (ho : ∀ p, p < 3 → okc (cs p) 0 = true) : TOK w' T ∧ ∀ p, p < 3 → codeL w' T p = cs p := by
  have e1 : ∀ p, p < 4 → (stS cs 4).getD p 0 = (preC cs p).length := fun p hp => by
    unfold stS
    simp [List.getD_eq_getElem?_getD, List.getElem?_map, List.getElem?_range hp]
  have ln : ∀ p, p < 4 → (preC cs p).length ≤ 160 := fun p hp => Nat.le_trans (preC_mn (show p ≤ 3 by omega)) hl
  have eB : ∀ p, p < 4 → tB w' T p = (preC cs p).length := fun p hp => by
    unfold tB
    have := ln p hp
    rw [h1 p hp, e1 p hp, cl_n (by omega)]
  have eC : ∀ p, p < 3 → codeL w' T p = cs p := fun p hp => by
    unfold codeL
    rw [eB p (by omega), eB (p + 1) (by omega), preC_len, Nat.add_sub_cancel_left]
    refine List.ext_getElem (by simp) (fun i i1 i2 => ?_)
    have m := preC_mn (cs := cs) (show p + 1 ≤ 3 by omega)
    rw [preC_len] at m
    rw [List.getElem_map, List.getElem_range, h0 _ (by omega), preC_get i2 3 hp, List.getD_eq_getElem?_getD, List.getElem?_eq_getElem i2]
    rfl
  refine ⟨⟨fun p hp => ?_, ?_, ?_, ?_, fun p hp => ?_⟩, eC⟩
  · rw [eB p hp, h1 p hp, e1 p hp]; exact ⟨rfl, ln p hp⟩
  · rw [eB 0 (by decide), eB 1 (by decide)]; exact preC_mn (by decide)
  · rw [eB 1 (by decide), eB 2 (by decide)]; exact preC_mn (by decide)
  · rw [eB 2 (by decide), eB 3 (by decide)]; exact preC_mn (by decide)
  · rw [eC p hp]; exact ho p hp
/-- the world but for the scratch and text T's own cells -/
def blT (T : Nat) (w : Wv) : Wv := fun id j => if (scI id || (id == 100 && scJ j)) || ((id == 120 && decide (200 * T ≤ j ∧ j < 200 * T + 200)) || (id == 121 && decide (4 * T ≤ j ∧ j < 4 * T + 4))) then 0 else w id j
theorem TXG.blk {T : Nat} {w w' : Wv} (h : TXG T w w') : blT T w' = blT T w := by
  funext id j
  unfold blT
  by_cases q : ((scI id || (id == 100 && scJ j)) || ((id == 120 && decide (200 * T ≤ j ∧ j < 200 * T + 200)) || (id == 121 && decide (4 * T ≤ j ∧ j < 4 * T + 4)))) = true
  · rw [if_pos q, if_pos q]
  · rw [if_neg q, if_neg q]
    rw [Bool.not_eq_true, Bool.or_eq_false_iff] at q
    have q2 := Bool.or_eq_false_iff.mp q.2
    refine h id j q.1 (fun z => ?_) (fun z => ?_)
    · have := q2.1
      rw [decide_eq_true z.2, z.1] at this
      exact absurd this (by decide)
    · have := q2.2
      rw [decide_eq_true z.2, z.1] at this
      exact absurd this (by decide)
def HA8 (u : Wv) : Prop := HI u ∧ HE u ∧ HS u ∧ HP u ∧ HB u ∧ HZ u ∧ HJ u ∧ HQ u ∧ u 100 23 = -1
theorem HA8.ofbl {T : Nat} {u : Wv} (h : HA8 (blT T u)) : HA8 u := ⟨h.1, h.2.1, h.2.2.1, h.2.2.2.1, h.2.2.2.2.1, h.2.2.2.2.2.1, h.2.2.2.2.2.2.1, h.2.2.2.2.2.2.2.1, h.2.2.2.2.2.2.2.2⟩
theorem HA8.tobl {T : Nat} {u : Wv} (h : HA8 u) : HA8 (blT T u) := ⟨h.1, h.2.1, h.2.2.1, h.2.2.2.1, h.2.2.2.2.1, h.2.2.2.2.2.1, h.2.2.2.2.2.2.1, h.2.2.2.2.2.2.2.1, h.2.2.2.2.2.2.2.2⟩
theorem HA8.tx {T : Nat} {u w' : Wv} (h : HA8 u) (hG : TXG T u w') : HA8 w' := HA8.ofbl (T := T) (by rw [hG.blk]; exact h.tobl)
theorem xm_nt {id j : Nat} {q : Nat × Nat} (h : xm id j = some q) : id ≠ 120 ∧ id ≠ 121 := ⟨fun z => (by rw [z, show xm 120 j = none from rfl] at h; cases h), fun z => (by rw [z, show xm 121 j = none from rfl] at h; cases h)⟩
theorem XH.txg {g : Ge} {σ : Sg} {w u u' : Wv} {n : Nat} {K : Nat → Nat} (h : XH g σ w u n K) {T : Nat} (hG : TXG T u u') : XH g σ w u' n K := by
  obtain ⟨h1, ⟨v1, v2, v3, v4⟩, h3, h4⟩ := h
  refine ⟨h1, ⟨fun id j q hq => ?_, ?_, ?_, fun k hk => ?_⟩, h3, fun i hi => ⟨?_, (h4 i hi).2⟩⟩
  · obtain ⟨n0, n1⟩ := xm_nt hq
    rw [hG id j (xm_xi hq).2 (fun z => n0 z.1) (fun z => n1 z.1)]
    exact v1 id j q hq
  · unfold hatP at v2 ⊢
    rw [hG 100 23 rfl (by simp) (by simp)]; exact v2
  · unfold imgP at v3 ⊢
    rw [hG 100 25 rfl (by simp) (by simp), hG 100 26 rfl (by simp) (by simp)]; exact v3
  · rw [hG 118 k rfl (by simp) (by simp)]; exact v4 k hk
  · rw [hG 105 i rfl (by simp) (by simp)]; exact (h4 i hi).1
def textR (u : Wv) : Int32 := if u 100 21 = 6 then -4 else txR (nT u) (txS (u 118) (cl (u 100 18)))
/-- how x's text has ended -/
def TD (X : Ge) (σ : Sg) (wm u' : Wv) : Prop :=
  (wm 100 21 = 6 ∧ u' = wm) ∨ (nT wm < 6 ∧ (∃ p, txS (wm 118) (cl (wm 100 18)) = (p, none)) ∧ u' = up2 wm 100 18 0) ∨
  (nT wm < 6 ∧ ∃ (p A : Nat) (cs : Nat → List Int32), txS (wm 118) (cl (wm 100 18)) = (p, some (preC cs 3, stS cs 4)) ∧ u' = up2 (up2 wm 100 18 0) 100 21 (nI (nT wm + 1)) ∧ sR σ (X.1 48) (nT wm) = some A ∧ sT σ A = (105, 3) ∧ ∀ j, j < 3 → ∃ b f, f ≤ 400 ∧ sR σ A j = some b ∧ Tr X σ f b (cs j))
def XT (E : En) (X : Ge) (M : Nat) (σ : Sg) (wm : Wv) : Sg → Prop := fun s => ∃ (X' : Ge) (σ1 : Sg) (wx' u' : Wv) (n' : Nat) (K' : Nat → Nat), GE s (S X' (S (mG M) σ1 wm) wx') ∧ LV E X' M σ1 wx' u' wm n' K' ∧ TD X' σ1 wm u' ∧ X'.1 0 = X.1 0 ∧ (sN σ ≤ sN σ1 ∧ sN σ1 ≤ sN σ + 3260) ∧ sS σ ≤ sS σ1 ∧ sS σ1 ≤ sS σ + 16300
section
variable {E : En} {X : Ge} {M : Nat} {σ : Sg} {wx u wm : Wv} {n : Nat} {K : Nat → Nat}
theorem XT.q {u' : Wv} {s : Sg} (h : XQ E X M σ wm u' s) (hT : ∀ X' σ1, TD X' σ1 wm u') : XT E X M σ wm s := by
  obtain ⟨X', σ1, wx', n', K', h1, h2, h3⟩ := h
  exact ⟨X', σ1, wx', u', n', K', h1, h2, hT X' σ1, h3⟩
theorem LV.s (h : LV E X M σ wx u wm n K) (hB : sN σ ≤ 2000000) : LV E X M (S (mG M) σ wm) wx u wm n K := by
  have hR := h.R hB
  obtain ⟨⟨hX, hG, h46, hLD, h48, -⟩, ⟨hW, hHW, hA⟩, ⟨hC, hB1, hB2, hAP⟩, ⟨hO, hBC, hE⟩, h1⟩ := h
  exact ⟨⟨hX, hG, h46, hLD, h48, hR⟩, ⟨hW, hHW, hA⟩, ⟨hC, hB1, hB2, hAP⟩, ⟨hO.s hW.1, BC.s hW.1 hBC, EMP.s hE⟩, h1⟩
theorem OLD.p {a k : Nat} {o : Option Nat} (h : 1000 ≤ a) : OLD σ (pR σ a k o) := fun b hb _ => ⟨rfl, fun _ => up2_at _ _ (by omega), rfl⟩
theorem LV.p48 (h : LV E X M σ wx u wm n K) {T A : Nat} (hT : T = nT wm) : LV E X M (pR σ (X.1 48) T (some A)) wx u wm n K := by
  obtain ⟨⟨hX, hG, h46, hLD, h48, hR⟩, ⟨hW, hHW, hA⟩, ⟨hC, hB1, hB2, hAP⟩, ⟨hO, hBC, hE⟩, h1⟩ := h
  have t48 : (sT σ (X.1 48)).1 = 106 := by rw [hX.1.2.2.2.2.2.2.2]
  have hk : ∀ a, (sT σ a).1 ≠ 106 → sR (pR σ (X.1 48) T (some A)) a = sR σ a := fun a ha => up2_at _ _ (fun z => ha (by rw [z]; exact t48))
  refine ⟨⟨hX.p48, hG, h46, hLD, h48, fun t ht => ?_⟩, ⟨⟨hW.1, hW.2.1, hW.2.2.1, fun f hf => ?_, ?_, hW.2.2.2.2.2⟩, hHW, hA⟩, ⟨hC, hB1, hB2, hAP⟩, ⟨hO.o (OLD.p h48), hBC.o (OLD.p h48), hE.o (OLD.p h48)⟩, h1⟩
  · obtain ⟨B, b1, b2, b3⟩ := hR t ht
    have tB : (sT σ B).1 = 105 := congrArg Prod.fst b2
    refine ⟨B, ?_, b2, fun p hp => ?_⟩
    · show up2 (sR σ) (X.1 48) T (some A) (X.1 48) t = some B
      rw [up2_ne _ _ (fun z => by have := z.2; omega)]; exact b1
    · obtain ⟨b, f, c1, c2, c3⟩ := b3 p hp
      refine ⟨b, f, c1, by rw [hk B (by omega)]; exact c2, Tr.kk (fun a ha => ⟨⟨rfl, hk a (by omega), rfl⟩, fun z => z⟩) f b _ c3⟩
  · rw [hk _ (by rw [hW.2.2.1]; decide)]; exact hW.2.2.2.1 f hf
  · rw [hk _ (by rw [hW.2.2.1]; decide)]; exact hW.2.2.2.2.1
theorem x_text (h : LV E X M σ wx wm wm n K) (hF : EF E) (hB : sN σ + 4000 < 2000000) : CtE E mX0_text 302 [.ref (X.1 0)] (PR (.int (textR wm)) (XT E X M σ wm)) (S X (S (mG M) σ wm) wx) := by
  have h' := h
  obtain ⟨⟨hX0, hG, h46, hLD, h48, hR⟩, ⟨hW, hHW, hA⟩, ⟨hC, hB1, hB2, hAP⟩, ⟨hO, hBC, hE⟩, h1⟩ := h
  have hX : XH X (S (mG M) σ wm) wx wm n K := hX0
  by_cases h6 : wm 100 21 = 6
  · refine (f_X0_text hX h6).e ⟨by rw [textR, if_pos h6], XT.q (XQ.i h' hX) (fun _ _ => .inl ⟨h6, rfl⟩)⟩
  · obtain ⟨T1, T6, hT⟩ := hA.T.1
    have T6' : nT wm < 6 := by
      rcases Nat.lt_or_ge (nT wm) 6 with q | q
      · exact q
      · exact absurd (hT.trans (by rw [show nT wm = 6 by omega]; rfl)) h6
    obtain ⟨N, N1, hN⟩ := hA.P
    have eN : cl (wm 100 18) = N := by rw [hN, cl_n (by omega)]
    refine (c_X0_text (σ := S (mG M) σ wm) hX hG hF.1 hF.2 (hO.s hW.1) h1 hC hB1 hB h48 hT T6' hN N1).w (fun o s ⟨e, hs⟩ => ⟨?_, ?_⟩)
    · rw [e, textR, if_neg h6, eN]
    · rcases hs with ⟨⟨p, hp⟩, σ', w', rfl, hFg, hX2⟩ | ⟨p, A, cs, σ1, w', hp, rfl, hFg, hX2, hA1, hA2, hA3⟩
      · exact XT.q (XQ.g h' (by omega) hFg hX2 (by omega) (by omega)) (fun _ _ => .inr (.inl ⟨T6', ⟨p, by rw [eN]; exact hp⟩, rfl⟩))
      · have hA1 : sN σ ≤ A := hA1
        have hA3 : ∀ j, j < 3 → ∃ b d, d ≤ 400 ∧ sR σ1 A j = some b ∧ Tg (sN σ) σ1 d b (cs j) := hA3
        have n1 : sN σ ≤ sN σ1 := hFg.1.1
        have n2 : sN σ1 ≤ sN σ + (20 * N + 50) := hFg.1.2
        have s1 : sS σ ≤ sS σ1 := hFg.2.1.1
        have s2 : sS σ1 ≤ sS σ + (100 * N + 210) := hFg.2.1.2
        have hL : LV E X M σ1 wx wm wm n K := (h'.s (by omega)).fg hFg
        have hL2 := (hL.p48 (A := A) rfl).x hX2
        have t48 : (sT σ1 (X.1 48)).1 = 106 := by rw [hL.1.1.1.2.2.2.2.2.2.2]
        have tA : (sT σ1 A).1 = 105 := congrArg Prod.fst hA2
        have hk : ∀ a, (sT σ1 a).1 ≠ 106 → sR (pR σ1 (X.1 48) (nT wm) (some A)) a = sR σ1 a := fun a ha => up2_at _ _ (fun z => ha (by rw [z]; exact t48))
        have hNA : ∀ x, sN σ ≤ x → (sT σ1 x).1 ≠ 0 → NA X x := fun x hx ht k hk' z => by
          have hlt : x < sN σ1 := by
            rcases Nat.lt_or_ge x (sN σ1) with q | q
            · exact q
            · exact absurd (hFg.2.2.1 x q) ht
          rcases hB1 k hk' with q | q
          · have q' : X.1 k < sN σ := q
            omega
          · omega
        refine ⟨X, pR σ1 (X.1 48) (nT wm) (some A), w', _, n, K, hW.ge hFg.2.2.1 (show sN σ1 ≤ 2000000 by omega) (fun x hx => (hFg.2.2.2 x hx).2.2.1) X w', hL2, .inr (.inr ⟨T6', p, A, cs, by rw [eN]; exact hp, rfl, up2_eq _ _ _ _, hA2, fun j hj => ?_⟩), rfl, ⟨n1, show sN σ1 ≤ _ by omega⟩, s1, show sS σ1 ≤ _ by omega⟩
        obtain ⟨b, d, d1, d2, d3⟩ := hA3 j hj
        exact ⟨b, d, d1, by rw [hk A (by omega)]; exact d2, Tr.kk (fun a ha => ⟨⟨rfl, hk a (by omega), rfl⟩, fun z => z⟩) d b _ (Tg.tr hNA d b _ d3)⟩
theorem LV.txg (h : LV E X M σ wx u wm n K) {T : Nat} {w' : Wv} (hG : TXG T u w') (hA : HA8 u) (hT : HT w') (hK : HK w') (hR : TXR X σ w') : LV E X M σ wx w' w' n K := by
  obtain ⟨⟨hX, hXG, h46, hLD, h48, -⟩, ⟨hW, hHW, -⟩, h3⟩ := h
  have h8 := hA.tx hG
  exact ⟨⟨hX.txg hG, hXG, h46, hLD, h48, hR⟩, ⟨hW, hHW, ⟨h8.1, h8.2.1, hT, h8.2.2.1, h8.2.2.2.1, h8.2.2.2.2.1, h8.2.2.2.2.2.1, h8.2.2.2.2.2.2.1, h8.2.2.2.2.2.2.2.1, h8.2.2.2.2.2.2.2.2, hK⟩⟩, h3⟩
theorem m_text (h : LV E X M σ wx u wm n K) (hD : TD X σ wm u) : CtE E mX7_text 4 [.ref ((mG M).1 100)] (PR (.int (textR wm)) (MQM E X M σ wx n K)) (S X (S (mG M) σ wm) wx) := by
  rw [S_comm h.2.2.1.2.2.2]
  have hW : WM (mG M) (S X σ wx) := h.2.1.1
  have hHW : HW (mG M) (S X σ wx) := h.2.1.2.1
  have hA : HA wm := h.2.1.2.2
  have hR : TXR X σ wm := h.1.2.2.2.2.2
  have hAP := h.2.2.1.2.2.2
  obtain ⟨T1, T6, hT⟩ := hA.T.1
  obtain ⟨N, N1, hN⟩ := hA.P
  have eN : cl (wm 100 18) = N := by rw [hN, cl_n (by omega)]
  rcases hD with ⟨h6, rfl⟩ | ⟨h6, ⟨p, hp⟩, rfl⟩ | ⟨h6, p, A, cs, hp, rfl, hA1, hA2, hA3⟩
  · exact (f_X7_text hW h6).e ⟨by rw [textR, if_pos h6], MQM.i h hA (CDS.r _) rfl⟩
  · have hn6 : ¬ wm 100 21 = 6 := fun z => absurd ((nI_eq (a := nT wm) (b := 6) (by omega) (by decide)).mp (hT.symm.trans z)) (by omega)
    rw [eN] at hp
    refine (c_X7_text hW hHW hT h6 hN N1).w (fun o s ⟨e, hs⟩ => ⟨?_, ?_⟩)
    · rw [e, textR, if_neg hn6, eN]
    · obtain ⟨w', rfl, hG⟩ := hs
      rw [hp] at hG
      have hG : TXG (nT wm) (up2 wm 100 18 0) w' := hG
      have e21 : w' 100 21 = wm 100 21 := hG 100 21 rfl (by simp) (by simp)
      have e22 : w' 100 22 = wm 100 22 := hG 100 22 rfl (by simp) (by simp)
      have e28 : w' 100 28 = wm 100 28 := hG 100 28 rfl (by simp) (by simp)
      have enT : nT w' = nT wm := by unfold nT; rw [e21]
      have eru : ru w' = ru wm := by unfold ru; rw [e22]
      have hTk : ∀ t, t < nT wm → TOK w' t ∧ ∀ p, p < 3 → codeL w' t p = codeL wm t p := fun t ht => (hA.T.2.2 t ht).cg (fun p hp => hG 121 _ rfl (by simp) (by omega)) (fun i hi => hG 120 _ rfl (by omega) (by simp))
      refine ⟨σ, w', (S_comm hAP _ _ _).symm, h.txg hG ⟨hA.I, hA.E, hA.S, ⟨0, by omega, rfl⟩, hA.B, hA.Z, hA.J, hA.Q, hA.H⟩ ⟨?_, ?_, fun t ht => (hTk t (by omega)).1⟩ ⟨fun k hk => ?_, fun r hr => ?_, ?_⟩ (fun t ht => ?_), rfl, rfl⟩
      · rw [enT, e21]; exact hA.T.1
      · rw [enT, eru, e22]; exact hA.T.2.1
      · rw [hG 130 k rfl (by simp) (by simp), hG 131 k rfl (by simp) (by simp), hG 132 k rfl (by simp) (by simp)]; exact hA.K.1 k hk
      · rw [hG 133 r rfl (by simp) (by simp)]; exact hA.K.2.1 r hr
      · rw [enT, e28]; exact hA.K.2.2
      · rw [enT] at ht
        obtain ⟨B, b1, b2, b3⟩ := hR t ht
        refine ⟨B, b1, b2, fun p hp => ?_⟩
        rw [(hTk t ht).2 p hp]; exact b3 p hp
  · have hn6 : ¬ wm 100 21 = 6 := fun z => absurd ((nI_eq (a := nT wm) (b := 6) (by omega) (by decide)).mp (hT.symm.trans z)) (by omega)
    rw [eN] at hp
    have hl : (preC cs 3).length ≤ 160 := Nat.le_trans (tx_len (U := (preC cs 3, stS cs 4)) 3 0 0 [] [] (by omega) (by simp) hp) N1
    refine (c_X7_text hW hHW hT h6 hN N1).w (fun o s ⟨e, hs⟩ => ⟨?_, ?_⟩)
    · rw [e, textR, if_neg hn6, eN]
    · obtain ⟨w', rfl, hG⟩ := hs
      rw [hp] at hG
      obtain ⟨hG, g0, g1⟩ : TXG (nT wm) (up2 (up2 wm 100 18 0) 100 21 (nI (nT wm + 1))) w' ∧ (∀ i, i < (preC cs 3).length → w' 120 (200 * nT wm + i) = (preC cs 3).getD i 0) ∧ ∀ i, i < 4 → w' 121 (4 * nT wm + i) = nI ((stS cs 4).getD i 0) := hG
      have e21 : w' 100 21 = nI (nT wm + 1) := hG 100 21 rfl (by simp) (by simp)
      have e22 : w' 100 22 = wm 100 22 := hG 100 22 rfl (by simp) (by simp)
      have e28 : w' 100 28 = wm 100 28 := hG 100 28 rfl (by simp) (by simp)
      have enT : nT w' = nT wm + 1 := by unfold nT at *; rw [e21, cl_n (by omega)]
      have eru : ru w' = ru wm := by unfold ru; rw [e22]
      have hTk : ∀ t, t < nT wm → TOK w' t ∧ ∀ p, p < 3 → codeL w' t p = codeL wm t p := fun t ht => (hA.T.2.2 t ht).cg (fun p hp => hG 121 _ rfl (by simp) (by omega)) (fun i hi => hG 120 _ rfl (by omega) (by simp))
      have hTn := TOK.nw hl g0 g1 (fun p hp => by obtain ⟨b, f, -, -, q⟩ := hA3 p hp; exact okc_t q)
      have r0 := hA.T.2.1
      refine ⟨σ, w', (S_comm hAP _ _ _).symm, h.txg hG ⟨hA.I, hA.E, hA.S, ⟨0, by omega, rfl⟩, hA.B, hA.Z, hA.J, hA.Q, hA.H⟩ ⟨?_, ?_, fun t ht => ?_⟩ ⟨fun k hk => ?_, fun r hr => ?_, ?_⟩ (fun t ht => ?_), rfl, rfl⟩
      · rw [enT]; exact ⟨by omega, by omega, e21⟩
      · rw [enT, eru, e22]; exact ⟨by omega, r0.2⟩
      · rw [enT] at ht
        by_cases et : t = nT wm
        · rw [et]; exact hTn.1
        · exact (hTk t (by omega)).1
      · rw [hG 130 k rfl (by simp) (by simp), hG 131 k rfl (by simp) (by simp), hG 132 k rfl (by simp) (by simp)]; exact hA.K.1 k hk
      · rw [hG 133 r rfl (by simp) (by simp)]; exact hA.K.2.1 r hr
      · rw [enT, e28]
        obtain ⟨k, k1, k2⟩ := hA.K.2.2
        exact ⟨k, by omega, k2⟩
      · rw [enT] at ht
        by_cases et : t = nT wm
        · rw [et]
          refine ⟨A, hA1, hA2, fun p hp => ?_⟩
          rw [hTn.2 p hp]; exact hA3 p hp
        · obtain ⟨B, b1, b2, b3⟩ := hR t (by omega)
          refine ⟨B, b1, b2, fun p hp => ?_⟩
          rw [(hTk t (by omega)).2 p hp]; exact b3 p hp
end

set_option maxRecDepth 100000
set_option maxHeartbeats 4000000
/-! ===== a row is laid, in the law ===== -/
theorem Tr.kk {g g' : Ge} {σ σ' : Sg} (h : ∀ a, (sT σ a).1 = 5 ∨ (sT σ a).1 = 6 ∨ (sT σ a).1 = 7 → (sT σ' a = sT σ a ∧ sR σ' a = sR σ a ∧ sI σ' a = sI σ a) ∧ (NA g a → NA g' a)) : ∀ (f a : Nat) (c : List Int32), Tr g σ f a c → Tr g' σ' f a c
  | 0, _, _, hT => hT.elim
  | f + 1, a, c, ⟨hN, hT⟩ => by
    rcases hT with ⟨t, hT⟩ | ⟨t, b, c', h1, h2, h3⟩ | ⟨t, b1, b2, c1, c2, sc, h1, h2, h3, h4, h5, h6, h7⟩
    · obtain ⟨⟨k1, k2, k3⟩, k4⟩ := h a (by omega)
      refine ⟨k4 hN, ?_⟩
      rw [k1, k3]; exact .inl ⟨t, hT⟩
    · obtain ⟨⟨k1, k2, k3⟩, k4⟩ := h a (by omega)
      refine ⟨k4 hN, ?_⟩
      rw [k1, k2, k3]; exact .inr (.inl ⟨t, b, c', h1, Tr.kk h f b c' h2, h3⟩)
    · obtain ⟨⟨k1, k2, k3⟩, k4⟩ := h a (by omega)
      refine ⟨k4 hN, ?_⟩
      rw [k1, k2, k3]; exact .inr (.inr ⟨t, b1, b2, c1, c2, sc, h1, h2, Tr.kk h f b1 c1 h3, Tr.kk h f b2 c2 h4, h5, h6, h7⟩)
/-- old cells, the list's rows aside -/
def OLD (σ σ' : Sg) : Prop := ∀ a, a < 1000 → (sT σ a).1 ≠ 0 → sT σ' a = sT σ a ∧ ((sT σ a).1 ≠ 104 → sR σ' a = sR σ a) ∧ sI σ' a = sI σ a
theorem Sto.o {σ σ' : Sg} (k : OLD σ σ') {a : Nat} {L : List Int32} (h : Sto σ a L) : Sto σ' a L := by
  obtain ⟨h1, h2, h3, b, b1, b2, b3, b4⟩ := h
  obtain ⟨q1, q2, q3⟩ := k a h1 (by omega)
  obtain ⟨r1, r2, r3⟩ := k b b1 (by rw [b3]; simp)
  exact ⟨h1, by rw [q1]; exact h2, by rw [q3]; exact h3, b, b1, by rw [q2 (by omega)]; exact b2, by rw [r1]; exact b3, fun i hi => by rw [r3]; exact b4 i hi⟩
theorem OSo.o {E : En} {σ σ' : Sg} (k : OLD σ σ') (h : OSo E σ) : OSo E σ' := by
  obtain ⟨h1, h2, ⟨h3, h4⟩, ⟨h5, h6⟩, h7⟩ := h
  obtain ⟨q1, q2, q3⟩ := k 4 (by decide) (by rw [h3]; decide)
  obtain ⟨r1, r2, r3⟩ := k 5 (by decide) (by rw [h5]; decide)
  exact ⟨fun i hi => (h1 i hi).o k, h2.o k, ⟨by rw [q1]; exact h3, fun i hi => by rw [q2 (by rw [h3]; decide)]; exact h4 i hi⟩, ⟨by rw [r1]; exact h5, fun i hi => by rw [r2 (by rw [h5]; decide)]; exact h6 i hi⟩, h7⟩
theorem BC.o {E : En} {σ σ' : Sg} (k : OLD σ σ') (h : BC E σ) : BC E σ' := by
  obtain ⟨h1, h2, h3, h4⟩ := h
  obtain ⟨q1, q2, q3⟩ := k 3 (by decide) (by rw [h3]; decide)
  refine ⟨h1, h2, by rw [q1]; exact h3, fun j hj => ?_⟩
  obtain ⟨r1, r2, r3⟩ := h4 j hj
  obtain ⟨s1, s2, s3⟩ := k (200 + j) (by omega) (by rw [r2]; decide)
  exact ⟨by rw [q2 (by rw [h3]; decide)]; exact r1, by rw [s1]; exact r2, by rw [s3]; exact r3⟩
theorem EMP.o {E : En} {σ σ' : Sg} (k : OLD σ σ') (h : EMP E σ) : EMP E σ' := ⟨h.1, by rw [(k 1 (by decide) (by rw [h.2]; decide)).1]; exact h.2⟩
theorem EMP.s {E : En} {σ : Sg} {g : Ge} {w : Wv} (h : EMP E σ) : EMP E (S g σ w) := h
section
variable {E : En} {X : Ge} {M : Nat} {σ : Sg} {wx u wm : Wv} {n : Nat} {K : Nat → Nat}
/-- what m holds is still there: it may be named anew -/
theorem WM.ge (hW : WM (mG M) σ) {σ2 : Sg} (hC : CLN σ2) (hB : sN σ2 ≤ 2000000) (hI : ∀ x, (sT σ x).1 ≠ 0 → sI σ2 x = sI (S (mG M) σ wm) x) (X' : Ge) (w' : Wv) : GE (S X' σ2 w') (S X' (S (mG M) σ2 wm) w') := by
  refine ⟨rfl, rfl, rfl, fun a ha => ⟨?_, rfl, rfl⟩⟩
  have ha' : (sT σ2 a).1 ≠ 0 := ha
  show vset X' (vset (mG M) (sI σ2) wm) w' a = vset X' (sI σ2) w' a
  have e : vset (mG M) (sI σ2) wm a = sI σ2 a := by
    by_cases hk : ∃ k, k ∈ (mG M).2 ∧ (mG M).1 k = a
    · obtain ⟨k, a1, rfl⟩ := hk
      cases x1 : mlv k
      · exfalso
        exact ha' (hC _ (by rw [mG_gh x1]; omega))
      · rw [vset_at hW.1 a1, hI _ (hW.lt a1 x1)]
        exact (vset_at hW.1 a1).symm
    · have hN : NA (mG M) a := fun k hk' z => hk ⟨k, hk', z⟩
      funext j
      exact hN.i (σ := σ2) (w := wm) j
  funext j
  unfold vset at e ⊢
  cases hf : X'.2.find? (fun k => X'.1 k == a) with
  | none => exact congrFun e j
  | some k => rfl
theorem x_row (h : LV E X M σ wx wm wm n K) (hF : EF E) (hB : sN σ + 4000 < 2000000) {a1 a2 a3 : Int32} : CtE E mX0_row 7 [.ref (X.1 0), .int a1, .int a2, .int a3] (PR (.int (rowR wm a1 a2 a3)) (XQ E X M σ wm (rowW wm a1 a2 a3))) (S X (S (mG M) σ wm) wx) := by
  have h' := h
  obtain ⟨⟨hX0, hG, h46, hLD, h48, hR⟩, ⟨hW, hHW, hA⟩, ⟨hC, hB1, hB2, hAP⟩, ⟨hO, hBC, hE⟩, h1⟩ := h
  have hX : XH X (S (mG M) σ wm) wx wm n K := hX0
  refine (c_X0_row hX hG h46 hA.Z (EMP.s hE) hLD h1 hC hB1 hB).w (fun o s ⟨e, hs⟩ => ⟨e, ?_⟩)
  rcases hs with ⟨e1, rfl⟩ | ⟨kd, rfl, hkd, hn, hok, D, σ2, w', rfl, hX2, ⟨hD1, hD2, hD3⟩, ⟨hN1, hN2⟩, ⟨hS1, hS2⟩, hC2, hk⟩
  · rw [e1]; exact XQ.i h' hX
  · have hN1' : sN σ + 2 ≤ sN σ2 := hN1
    have hN2' : sN σ2 ≤ sN σ + 3 := hN2
    have hkT : ∀ x, (sT σ x).1 ≠ 0 → sT σ2 x = sT σ x := fun x hx => (hk x hx).1
    have hkI : ∀ x, (sT σ x).1 ≠ 0 → sI σ2 x = sI (S (mG M) σ wm) x := fun x hx => (hk x hx).2.1
    have hkL : ∀ x, (sT σ x).1 ≠ 0 → sL σ2 x = sL σ x := fun x hx => (hk x hx).2.2.1
    have t45 : (sT σ (X.1 45)).1 = 17 := hX0.1.2.2.2.1.2.1
    have t46 : (sT σ (X.1 46)).1 = 104 := by
      obtain ⟨cap, -, -, c3⟩ := hX0.1.2.2.2.1.2.2.2.1
      rw [c3]
    have hkR : ∀ x, (sT σ x).1 ≠ 0 → (sT σ x).1 ≠ 17 → (sT σ x).1 ≠ 104 → sR σ2 x = sR σ x := fun x hx q1 q2 => (hk x hx).2.2.2 (fun z => q1 (by rw [z]; exact t45)) (fun z => q2 (by rw [z]; exact t46))
    have g45 : 1000 ≤ X.1 45 := hX0.1.1.2 45 hX0.1.2.1.2.1
    have hlo : OLD (S (mG M) σ wm) σ2 := fun a ha ht => by
      refine ⟨hkT a ht, fun h104 => (hk a ht).2.2.2 (by omega) (fun z => h104 (by show (sT σ a).1 = 104; rw [z]; exact t46)), hkI a ht⟩
    have hm : ∀ k, k ∈ X.2 → (gR X n (sN σ) D).1 k = X.1 k ∧ k ≠ 60 + n ∧ k ≠ 70 + n := fun k hk' => by
      have n1 : k ≠ 60 + n := fun z => (hG n (Nat.le_refl _) hn).1 (z ▸ hk')
      have n2 : k ≠ 70 + n := fun z => (hG n (Nat.le_refl _) hn).2 (z ▸ hk')
      have n3 : k ≠ 46 := fun z => h46 (z ▸ hk')
      refine ⟨?_, n1, n2⟩
      show (if k = 60 + n then sN σ else if k = 70 + n then sN σ + 1 else if k = 46 then D else X.1 k) = _
      rw [if_neg n1, if_neg n2, if_neg n3]
    have hmem : ∀ k, k ∈ (gR X n (sN σ) D).2 → (k = 60 + n ∧ (gR X n (sN σ) D).1 k = sN σ) ∨ (k = 70 + n ∧ (gR X n (sN σ) D).1 k = sN σ + 1) ∨ (k ∈ X.2 ∧ (gR X n (sN σ) D).1 k = X.1 k) := fun k hk' => by
      rcases List.mem_cons.mp hk' with z | z
      · exact .inl ⟨z, by rw [z]; exact if_pos rfl⟩
      · rcases List.mem_cons.mp z with z | z
        · exact .inr (.inl ⟨z, by rw [z]; exact gR_70⟩)
        · exact .inr (.inr ⟨z, (hm k z).1⟩)
    have hna : ∀ a, (sT σ a).1 ≠ 0 → NA X a → NA (gR X n (sN σ) D) a := fun a ht hN k hk' z => by
      rcases hmem k hk' with ⟨-, q⟩ | ⟨-, q⟩ | ⟨q0, q⟩
      · rw [q] at z; exact ht (hC a (by omega))
      · rw [q] at z; exact ht (hC a (by omega))
      · rw [q] at z; exact hN k q0 z
    have e48 : (gR X n (sN σ) D).1 48 = X.1 48 := by
      show (if 48 = 60 + n then sN σ else if 48 = 70 + n then sN σ + 1 else if 48 = 46 then D else X.1 48) = _
      rw [if_neg (by omega), if_neg (by omega), if_neg (by decide)]
    have e00 : (gR X n (sN σ) D).1 0 = X.1 0 := by
      show (if 0 = 60 + n then sN σ else if 0 = 70 + n then sN σ + 1 else if 0 = 46 then D else X.1 0) = _
      rw [if_neg (by omega), if_neg (by omega), if_neg (by decide)]
    have t48 : (sT σ (X.1 48)).1 = 106 := by rw [hX0.1.2.2.2.2.2.2.2]
    have hRx : TXR X (S (mG M) σ wm) wm := h'.R (by omega)
    refine ⟨gR X n (sN σ) D, σ2, w', n + 1, fun i => if i = n then kd else K i, hW.ge hC2 (by omega) hkI _ _, ⟨⟨hX2, fun i i1 i2 => ⟨fun z => ?_, fun z => ?_⟩, fun z => ?_, .inr ⟨by omega, by rw [gR_46]; exact hD1, by rw [gR_46]; exact hD2⟩, by rw [e48]; exact h48, fun t ht => ?_⟩, ⟨⟨hW.1, hW.2.1, ?_, fun f hf => ?_, ?_, ?_⟩, fun q hq => ?_, hA⟩, ⟨hC2, fun k hk' => ?_, fun k hk' => ?_, fun k hk' l hl z => ?_⟩, ⟨OSo.o hlo (hO.s hW.1), BC.o hlo (BC.s hW.1 hBC), EMP.o hlo hE⟩, by omega⟩, e00, ⟨by omega, by omega⟩, hS1, ?_⟩
    · rcases hmem _ z with ⟨q, -⟩ | ⟨q, -⟩ | ⟨q, -⟩
      · omega
      · omega
      · exact (hG i (by omega) i2).1 q
    · rcases hmem _ z with ⟨q, -⟩ | ⟨q, -⟩ | ⟨q, -⟩
      · omega
      · omega
      · exact (hG i (by omega) i2).2 q
    · rcases hmem _ z with ⟨q, -⟩ | ⟨q, -⟩ | ⟨q, -⟩
      · omega
      · omega
      · exact h46 q
    · obtain ⟨A, b1, b2, b3⟩ := hRx t ht
      have tA : (sT σ A).1 = 105 := congrArg Prod.fst b2
      refine ⟨A, ?_, ?_, fun p hp => ?_⟩
      · rw [e48, hkR _ (by omega) (by omega) (by omega)]; exact b1
      · rw [hkT _ (by omega)]; exact b2
      · obtain ⟨b, f, c1, c2, c3⟩ := b3 p hp
        refine ⟨b, f, c1, by rw [hkR _ (by omega) (by omega) (by omega)]; exact c2, Tr.kk (fun a ha => ?_) f b _ c3⟩
        have ha' : (sT σ a).1 = 5 ∨ (sT σ a).1 = 6 ∨ (sT σ a).1 = 7 := ha
        exact ⟨⟨hkT a (by omega), hkR a (by omega) (by omega) (by omega), hkI a (by omega)⟩, hna a (by omega)⟩
    · rw [hkT _ (by rw [hW.2.2.1]; decide)]; exact hW.2.2.1
    · obtain ⟨q1, q2⟩ := hW.2.2.2.1 f hf
      have q3 := hW.2.2.1
      rw [hkR _ (by omega) (by omega) (by omega), hkT ((mG M).1 (101 + f)) (by rw [q2]; simp)]
      exact ⟨q1, q2⟩
    · have q3 := hW.2.2.1
      rw [hkR _ (by omega) (by omega) (by omega)]; exact hW.2.2.2.2.1
    · rw [hkT _ (by rw [hW.2.2.2.2.2]; decide)]; exact hW.2.2.2.2.2
    · rw [hkL _ (by rw [hW.2.2.2.2.2]; decide)]; exact hHW q hq
    · rcases hmem _ hk' with ⟨-, q⟩ | ⟨-, q⟩ | ⟨q0, q⟩
      · exact .inl (by omega)
      · exact .inl (by omega)
      · rcases hB1 k q0 with z | z
        · exact .inl (by omega)
        · exact .inr (by omega)
    · rcases hB2 k hk' with z | z
      · exact .inl (by omega)
      · exact .inr z
    · rcases hmem _ hk' with ⟨-, q⟩ | ⟨-, q⟩ | ⟨q0, q⟩
      · rcases hB2 l hl with y | y <;> omega
      · rcases hB2 l hl with y | y <;> omega
      · exact hAP k q0 l hl (by rw [← q]; exact z)
    · have : sS σ2 ≤ sS σ + 30 := hS2
      omega
end

set_option maxRecDepth 100000
set_option maxHeartbeats 1000000
/-! ===== rows that x needs: casts, tests of a class, arrays of references, copies ===== -/
def CSb (A B : String) : Prop := A = B ∨ Cond.castable A B ∈ lw_tbl
theorem KE.asg {E : En} {s : State} (h : KE E s) {A B : String} (hc : CSb A B) {x : ClassId} (hx : s.vm.findClass A = some x) : ∃ t, s.vm.findClass B = some t ∧ s.vm.assignable x t = true := by
  rcases hc with rfl | hw
  · exact ⟨x, hx, Vm.assignable_self _ _⟩
  · obtain ⟨c3, t3, w1, w2, w3⟩ := Cond.castable_spec (h.cast hw)
    cases hx.symm.trans w1
    exact ⟨t3, w2, w3⟩
section
variable {E : En} {M : Mi} {d : Nat} {out : Out} {pc : Nat} {lv : List (Option Value)} {st : List Value} {σ : Sg}
theorem V.ccast {c a index : Nat} {B : String} {q : vw_C} (ht : (sT σ a).1 = c + 1) (hc : c < 100) (hq : cls[c]? = some q) (hl : Cond.classLink (mY M).cls index B ∈ lw_all) (hcs : CSb q.1 B) (hd : decode (mC M) pc = .ok (.checkcast index, 3)) (h : V E M d out (pc + 3) lv (.ref a :: st) σ) : V E M d out pc lv (.ref a :: st) σ := by
  refine ⟨h.1, fun p e R s m args below meth c' n0 s0 X hf hl' hns hs hcl hz ls H locs L P Q => ?_⟩
  obtain ⟨cell, k, g1, g2, g3, g4⟩ := P.recv X.k ht hc hq
  obtain ⟨t, ht1, ht2⟩ := X.k.asg hcs g3
  intro T hT Y
  obtain ⟨vm', Y', st'⟩ := Y.checkcastYes X.x X.own (X.ts args _ hl) (a := cA E a) (cell := cell) (by rw [hT]; exact g1) g2 ht1 ht2 (g := F0 m pc ls ((.ref a :: st).map (cV E))) rfl rfl (by rw [X.b]; exact hd)
  obtain ⟨t2, a1, b1⟩ := h.2 p e R s m args below meth c' n0 s0 X hf hl' hns hs hcl hz ls H locs L P Q (T.setVm vm') hT Y'
  exact ⟨t2, st' t2 a1, b1⟩
theorem V.ccast0 {index : Nat} {B : String} (hl : Cond.classLink (mY M).cls index B ∈ lw_all) (hd : decode (mC M) pc = .ok (.checkcast index, 3)) (h : V E M d out (pc + 3) lv (.null :: st) σ) : V E M d out pc lv (.null :: st) σ := by
  refine ⟨h.1, fun p e R s m args below meth c' n0 s0 X hf hl' hns hs hcl hz ls H locs L P Q => ?_⟩
  intro T hT Y
  obtain ⟨st'⟩ : Nonempty (∀ target, Steps p.tables e below (T.setTop { F0 m pc ls ((.null :: st).map (cV E)) with pc := pc + 3 }) target → Steps p.tables e below (T.setTop (F0 m pc ls ((.null :: st).map (cV E)))) target) := by
    refine ⟨fun target hr => ?_⟩
    exact Y.checkcastNull X.x (g := F0 m pc ls ((.null :: st).map (cV E))) rfl rfl (by rw [X.b]; exact hd) target hr
  obtain ⟨t2, a1, b1⟩ := h.2 p e R s m args below meth c' n0 s0 X hf hl' hns hs hcl hz ls H locs L P Q T hT Y
  exact ⟨t2, st' t2 a1, b1⟩
theorem V.instY {c a index : Nat} {B : String} {q : vw_C} (ht : (sT σ a).1 = c + 1) (hc : c < 100) (hq : cls[c]? = some q) (hl : Cond.classLink (mY M).cls index B ∈ lw_all) (hcs : CSb q.1 B) (hd : decode (mC M) pc = .ok (.instanceof index, 3)) (h : V E M d out (pc + 3) lv (.int 1 :: st) σ) : V E M d out pc lv (.ref a :: st) σ := by
  refine ⟨h.1, fun p e R s m args below meth c' n0 s0 X hf hl' hns hs hcl hz ls H locs L P Q => ?_⟩
  obtain ⟨cell, k, g1, g2, g3, g4⟩ := P.recv X.k ht hc hq
  obtain ⟨t, ht1, ht2⟩ := X.k.asg hcs g3
  intro T hT Y
  obtain ⟨vm', Y', st'⟩ := Y.instanceofYes X.x X.own (X.ts args _ hl) (a := cA E a) (cell := cell) (by rw [hT]; exact g1) g2 ht1 ht2 (g := F0 m pc ls ((.ref a :: st).map (cV E))) rfl (rest := st.map (cV E)) rfl (by rw [X.b]; exact hd)
  obtain ⟨t2, a1, b1⟩ := h.2 p e R s m args below meth c' n0 s0 X hf hl' hns hs hcl hz ls H locs L P Q (T.setVm vm') hT Y'
  exact ⟨t2, st' t2 a1, b1⟩
/-- not castable, at the start -/
def NCb (E : En) (A B : String) : Prop := ∃ x t, (eS E).vm.findClass A = some x ∧ (eS E).vm.findClass B = some t ∧ (eS E).vm.assignable x t = false
theorem V.instN {c a index : Nat} {B : String} {q : vw_C} (ht : (sT σ a).1 = c + 1) (hc : c < 100) (hq : cls[c]? = some q) (hl : Cond.classLink (mY M).cls index B ∈ lw_all) (hcs : NCb E q.1 B) (hd : decode (mC M) pc = .ok (.instanceof index, 3)) (h : V E M d out (pc + 3) lv (.int 0 :: st) σ) : V E M d out pc lv (.ref a :: st) σ := by
  refine ⟨h.1, fun p e R s m args below meth c' n0 s0 X hf hl' hns hs hcl hz ls H locs L P Q => ?_⟩
  obtain ⟨cell, k, g1, g2, g3, g4⟩ := P.recv X.k ht hc hq
  obtain ⟨x, t, f1, f2, f3⟩ := hcs
  have hal := X.k.2.alike
  have hx : s.vm.findClass q.1 = some x := by rw [hal.findClass]; exact f1
  have htt : s.vm.findClass B = some t := by rw [hal.findClass]; exact f2
  have hna : s.vm.assignable x t = false := by rw [hal.assignable]; exact f3
  cases hx.symm.trans g3
  intro T hT Y
  obtain ⟨vm', Y', st'⟩ := va_instofNo Y X.x X.own (X.ts args _ hl) (a := cA E a) (cell := cell) (by rw [hT]; exact g1) g2 g4 htt hna (g := F0 m pc ls ((.ref a :: st).map (cV E))) rfl (rest := st.map (cV E)) rfl (by rw [X.b]; exact hd)
  obtain ⟨t2, a1, b1⟩ := h.2 p e R s m args below meth c' n0 s0 X hf hl' hns hs hcl hz ls H locs L P Q (T.setVm vm') hT Y'
  exact ⟨t2, st' t2 a1, b1⟩
theorem V.aast {a n j t c b : Nat} {i : Int32} {C : String} {q : vw_C} (ht : sT σ a = (t + 1, n)) (h1 : 100 ≤ t) (h2 : t < 108) (ha : 1000 ≤ a) (hty : aTy t = .object C) (hi : IX i j n) (hb : (sT σ b).1 = c + 1) (hc : c < 100) (hq : cls[c]? = some q) (hcs : CSb q.1 C) (hd : decode (mC M) pc = .ok (.aastore, 1)) (h : V E M d out (pc + 1) lv st (pR σ a j (some b))) : V E M d out pc lv (.ref b :: .int i :: .ref a :: st) σ := by
  refine V.astG (v := .ref b) (w := cV E (.ref b)) (σ' := pR σ a j (some b)) ht h1 (by omega) ha hi hd rfl rfl rfl ((fv_ref (by rw [hty]; rfl) a j).trans (by show cR E (up2 (sR σ) a j (some b) a j) = _; rw [up2_eq]; exact cR_eq E _)) (fun ty b k hb => fv_pR E σ _ ty hb) (fun hK P hexec hbb _ _ hcell harr hcl hob hknown hin _ hg _ hstack hdg kk => ?_) h
  obtain ⟨cellb, kb, g1, g2, g3, g4⟩ := P.recv hK hb hc hq
  have hra := (hK.arr h1 (by omega)).2 (by omega)
  rw [hty] at hra
  obtain ⟨kA, comp, r1, r2, r3, r4⟩ := hra
  obtain ⟨tt, f1, f2⟩ := hK.asg hcs g3
  cases r3.symm.trans f1
  obtain ⟨kC, hkC, -⟩ := Vm.findClass_spec r3
  exact W.aast hexec hbb hcell (fun q h => by rw [h] at hob; cases hob) hknown (by rw [hcl]; exact r1) r2 rfl hkC ⟨fun z => hin (.inl z), Nat.not_le.mp fun z => hin (.inr z)⟩ g1 (fun q h => by rw [h] at g2; cases g2) g4 f2 hg hstack hdg kk
theorem V.anew {t n index : Nat} {i : Int32} {C : String} (h1 : 100 ≤ t) (h2 : t < 108) (hty : aTy t = .object C) (hl : Cond.classLink (mY M).cls index C ∈ lw_all) (hov : Cond.arrayOver (.object C) ∈ lw_tbl) (hi : ¬ i < 0 ∧ i.toNatClampNeg = n) (hb : n ≤ 1000) (hd : decode (mC M) pc = .ok (.anewarray index, 3)) (h : V E M d out (pc + 3) lv (.ref (sN σ) :: st) (nW σ (t + 1, n) n)) : V E M d out pc lv (.int i :: st) σ := by
  have b1 : sN σ + 1 ≤ sN out.2 := h.1.1
  have b2 : sS σ + n ≤ sS out.2 := h.1.2
  refine ⟨⟨by omega, by omega⟩, fun p e R s m args below meth c' n0 s0 X hf hl' hns hs hc hz ls H locs L P Q => ?_⟩
  have hover : (Cond.arrayOver (.object C)).before args s = true := va_AO.use (va_AO.moved X.k.2.alike (va_AO.of (X.k.1.1 _ hov)))
  refine W.anew X.x X.b X.own (X.ts args _ hl) hover rfl hd rfl hi.1 (by rw [hi.2]; omega) (by omega) (by rw [hi.2]; omega) fun cA' kA comp k1 k2 k3 k4 => ?_
  rw [hi.2]
  have e1 : sN σ - n0 + 1 = sN (nW σ (t + 1, n) n) - n0 := by show _ = sN σ + 1 - n0; omega
  have e2 : sS σ - s0 + n = sS (nW σ (t + 1, n) n) - s0 := by show _ = sS σ + n - s0; omega
  rw [e1, e2]
  have hra := (X.k.arr h1 (by omega)).2 (by omega)
  rw [hty] at hra
  obtain ⟨kA', comp', r1, r2, r3, r4⟩ := hra
  have hcA : cA' = eA E t := Option.some.inj (k1.symm.trans r4)
  subst hcA
  have hk : fk (aTy t) ≠ 3 := by rw [hty]; exact fun z => absurd z (show ¬ (2 : Nat) = 3 by decide)
  have hP : Hp E (nW σ (t + 1, n) n) (H.push { cls := eA E t, slots := Array.replicate n .null, vm := .none }) := by
    refine P.new (by simp) (fun q hq => by rw [Array.getElem?_push_lt hq]; simp [hq]) ?_
    intro t2 ht
    rw [show sT (nW σ (t + 1, n) n) (sN σ) = (t + 1, n) from up1_eq _ _ _] at ht ⊢
    cases ht
    refine ⟨fun h9 => absurd h9 (by omega), fun _ => ?_⟩
    refine ⟨{ cls := eA E t, slots := Array.replicate n .null, vm := .none }, (by rw [P.size]; simp), rfl, (fun h => nomatch h), rfl, fun _ => rfl, (by simp), (by simp), fun j hj => ?_⟩
    rw [fv_new hk, hty]
    simp [hj, defaultValue]
  have hsz : H.size = cA E (sN σ) := P.size.symm
  have h3 := h.2 p e R s m args below meth c' n0 s0 X hf hl' (by show n0 ≤ sN σ + 1; omega) (by show s0 ≤ sS σ + n; omega) hc hz ls _ locs L hP Q
  rw [hsz]
  exact h3
/-! ===== System.arraycopy, of ints and of bytes ===== -/
def cpI (h : Nat → Nat → Int32) (a sp b dp n : Nat) : Nat → Nat → Int32 := fun b' j => if b' = b ∧ dp ≤ j ∧ j < dp + n then h a (sp + (j - dp)) else h b' j
def CL (own : String) (index : Nat) : Prop := Cond.methodLink own index arraycopyName ∈ lw_all ∧ Cond.native arraycopyName ∈ lw_all ∧ Cond.static arraycopyName ∈ lw_all ∧ Cond.initialized "java/lang/System" ∈ lw_all
theorem nfw : nativeFrameWords "java/lang/System" "arraycopy" 5 + 11 ≤ 32 := by decide +kernel
theorem fits_int (x : Int32) : fits .int (.int x) = true := rfl
theorem V.acopy {a b na nb t sp dp n index : Nat} {isp idp inn : Int32} (hk : CL (mY M).cls index) (ht1 : sT σ a = (t + 1, na)) (ht2 : sT σ b = (t + 1, nb)) (h1 : 100 ≤ t) (h2 : t < 102) (hb : 1000 ≤ b) (e1 : isp = nI sp) (e2 : idp = nI dp) (e3 : inn = nI n) (hs : sp + n ≤ na) (hdn : dp + n ≤ nb) (hna : na < 2 ^ 31) (hnb : nb < 2 ^ 31)
    (hfit : t = 100 ∨ ∀ i, i < n → fits (aTy t) (.int (sI σ a (sp + i))) = true) (hd : decode (mC M) pc = .ok (.invokestatic index, 3)) (h : V E M d out (pc + 3) lv st (wI σ (cpI (sI σ) a sp b dp n))) (hdd : Nat.blt 0 d = true := by rfl) (hst : Nat.ble (st.map fun v => v.category).sum 8 = true := by first | rfl | (simp [va_rf_cat]; done)) : V E M d out pc lv (.int inn :: .int idp :: .ref b :: .int isp :: .ref a :: st) σ := by
  have hdd' : 0 < d := Nat.le_of_ble_eq_true hdd
  have hst' := Nat.le_of_ble_eq_true hst
  have hpr : refKind (aTy t) = false ∧ fk (aTy t) = 0 := by
    rcases (show t = 100 ∨ t = 101 by omega) with rfl | rfl <;> exact ⟨rfl, rfl⟩
  have hft : ∀ i, i < n → fits (aTy t) (.int (sI σ a (sp + i))) = true := fun i hi => by
    rcases hfit with rfl | h9
    · rfl
    · exact h9 i hi
  subst e1 e2 e3
  refine ⟨h.1, fun p e R s m args below meth c' n0 s0 X hf hl' hns hss hc hz ls H locs L P Q => ?_⟩
  obtain ⟨cs, q2, q3, q4, q5, q6, q7, q8, q9⟩ := P.arr ht1 h1
  obtain ⟨cd, r2, r3, r4, r5, r6, r7, r8, r9⟩ := P.arr ht2 h1
  have ka := (X.k.isArr h1 (by omega) q3 q5)
  have kb := (X.k.isArr h1 (by omega) r3 r5)
  obtain ⟨ka1, k0, hk0, cm0, hkk0⟩ := ka
  obtain ⟨kb1, k1, hk1, cm1, hkk1⟩ := kb
  intro T hT Y
  have tI : ∀ x : Nat, x < 2 ^ 31 → (nI x).toInt = (x : Int) := fun x hx => nI_toInt hx
  have hsv : ∀ i, i < n → cs.slots.getD (sp + i) .null = .int (sI σ a (sp + i)) := fun i hi => by
    rw [Array.getD_eq_getD_getElem?, q9 (sp + i) (by omega), fv_int hpr.2]; rfl
  have csp : (nI sp).toNatClampNeg = sp := nI_clamp (by omega)
  have cdp : (nI dp).toNatClampNeg = dp := nI_clamp (by omega)
  have cn : (nI n).toNatClampNeg = n := nI_clamp (by omega)
  obtain ⟨vm', Y', step⟩ := Y.arraycopy X.x X.own (X.ts args _ hk.1) (X.ts args _ hk.2.1) (X.ts args _ hk.2.2.1) (X.ts args _ hk.2.2.2) (src := cA E a) (dst := cA E b) (cs := cs) (cd := cd) (srcPos := nI sp) (destPos := nI dp) (n := nI n) (by rw [hT]; exact q2) (by rw [hT]; exact r2)
    ka1 kb1 q4 r4 hk0 hk1 hkk0 hkk1 (by simp [hpr.1]) (nI_pos (by omega)) (nI_pos (by omega)) (nI_pos (by omega))
    (by rw [tI sp (by omega), tI n (by omega)]; omega) (by rw [tI dp (by omega), tI n (by omega)]; omega)
    (fun vm₁ _ i hi => by
      rw [cn] at hi
      rw [csp, hsv i hi]
      exact ⟨hft i hi, trivial⟩)
    (g := F0 m pc ls ((.int (nI n) :: .int (nI dp) :: .ref b :: .int (nI sp) :: .ref a :: st).map (cV E))) rfl (by rw [X.ml]; exact L.1) (rest := st.map (cV E)) rfl (by rw [X.b]; exact hd) (by omega)
    (by
      have hcat : (List.map (fun v => v.category) (st.map (cV E))).sum ≤ 8 := by
        rw [List.map_map, show ((fun v : Value => v.category) ∘ cV E) = (fun v : Value => v.category) from funext fun v => cV_cat E v]
        exact hst'
      have := nfw
      show 2 * 0 + (List.map (fun v => v.category) (st.map (cV E))).sum + (nativeFrameWords "java/lang/System" "arraycopy" 5 + 11) ≤ R.locals
      omega)
  have hl : cA E b < H.size := (Array.getElem?_eq_some_iff.mp r2).1
  have hheap : ((T.setVm vm').setCell (cA E b) (copied cs cd (nI sp) (nI dp) (nI n))).heap = H.setIfInBounds (cA E b) (copied cs cd (nI sp) (nI dp) (nI n)) := by rw [← hT]; rfl
  have hfacts := Cell.storeRun_facts cd (nI dp).toNatClampNeg (cs.stretch (nI sp).toNatClampNeg (nI n).toNatClampNeg)
  have hP' : Hp E (wI σ (cpI (sI σ) a sp b dp n)) (H.setIfInBounds (cA E b) (copied cs cd (nI sp) (nI dp) (nI n))) := by
    refine P.put hb rfl rfl (by simp) (fun q hq => by simp [Array.getElem?_setIfInBounds, Ne.symm hq]) (fun ty b' j hb' => ?_) ?_
    · cases ty <;> simp [fv, sI, sL, sR, cpI, hb']
    · intro t2 ht2'
      rw [show sT (wI σ (cpI (sI σ) a sp b dp n)) b = sT σ b from rfl, ht2] at ht2' ⊢
      cases ht2'
      refine ⟨fun h9 => absurd h9 (by omega), fun _ => ?_⟩
      refine ⟨copied cs cd (nI sp) (nI dp) (nI n), by simp [Array.getElem?_setIfInBounds, hl], hfacts.1.trans r3, ?_, ?_, fun _ => hfacts.2.1.trans (r6 hb), ?_, ?_, fun j hj => ?_⟩
      · rw [show (copied cs cd (nI sp) (nI dp) (nI n)).vm = cd.vm from hfacts.2.1]; exact r4
      · rw [show (copied cs cd (nI sp) (nI dp) (nI n)).vm = cd.vm from hfacts.2.1]; exact r5
      · rw [show (copied cs cd (nI sp) (nI dp) (nI n)).slots.size = cd.slots.size from hfacts.2.2.1]; exact r7
      · rw [show (copied cs cd (nI sp) (nI dp) (nI n)).slots.size = cd.slots.size from hfacts.2.2.1]; exact r8
      · have hlen := Cell.stretch_length cs sp n
        show (cd.storePairs (nI dp).toNatClampNeg ((cs.stretch (nI sp).toNatClampNeg (nI n).toNatClampNeg).zipIdx 0)).slots[j]? = _
        rw [csp, cdp, cn, Cell.storePairs_get cd dp _ 0 j (by rw [hlen]; omega), hlen, fv_int hpr.2]
        show _ = some (Value.int (cpI (sI σ) a sp b dp n b j))
        by_cases hj2 : dp + 0 ≤ j ∧ j < dp + 0 + n
        · rw [if_pos hj2, cpI, if_pos ⟨rfl, by omega, by omega⟩]
          have e9 : (cs.stretch sp n)[j - (dp + 0)]? = some (cs.slots.getD (sp + (j - dp)) .null) := by
            simp only [Cell.stretch, List.getElem?_map]
            rw [List.getElem?_range (by omega)]
            rfl
          rw [e9, hsv (j - dp) (by omega)]
        · rw [if_neg hj2, cpI, if_neg (fun z => hj2 (by omega)), r9 j hj, fv_int hpr.2]
  obtain ⟨t2, a1, b1⟩ := h.2 p e R s m args below meth c' n0 s0 X hf hl' hns hss hc hz ls _ _ L hP' (fun q hq => by
    rcases List.mem_append.mp hq with h9 | h9
    · exact Q q h9
    · obtain ⟨z, -, hz⟩ := List.mem_map.mp h9
      rw [← hz]
      exact cA_ge E hb) _ hheap Y'
  exact ⟨t2, step t2 a1, b1⟩
end

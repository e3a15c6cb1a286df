set_option maxRecDepth 100000
set_option maxHeartbeats 1000000
/-! ===== heaps that grow: what was there stays ===== -/
def FG (σ σ' : Sg) (cN cS : Nat) : Prop := (sN σ ≤ sN σ' ∧ sN σ' ≤ sN σ + cN) ∧ (sS σ ≤ sS σ' ∧ sS σ' ≤ sS σ + cS) ∧ CLN σ' ∧ ∀ a, (sT σ a).1 ≠ 0 → sT σ' a = sT σ a ∧ sR σ' a = sR σ a ∧ sI σ' a = sI σ a ∧ sL σ' a = sL σ a
theorem FG.rfl {σ : Sg} (hC : CLN σ) : FG σ σ 0 0 := ⟨⟨Nat.le_refl _, by omega⟩, ⟨Nat.le_refl _, by omega⟩, hC, fun _ _ => ⟨_root_.rfl, _root_.rfl, _root_.rfl, _root_.rfl⟩⟩
theorem FG.le {σ σ' : Sg} {a b a' b' : Nat} (h : FG σ σ' a b) (h1 : a ≤ a') (h2 : b ≤ b') : FG σ σ' a' b' := ⟨⟨h.1.1, by have := h.1.2; omega⟩, ⟨h.2.1.1, by have := h.2.1.2; omega⟩, h.2.2⟩
theorem FG.tr {σ σ1 σ2 : Sg} {a b c d : Nat} (h : FG σ σ1 a b) (h' : FG σ1 σ2 c d) : FG σ σ2 (a + c) (b + d) := by
  refine ⟨⟨Nat.le_trans h.1.1 h'.1.1, by have := h.1.2; have := h'.1.2; omega⟩, ⟨Nat.le_trans h.2.1.1 h'.2.1.1, by have := h.2.1.2; have := h'.2.1.2; omega⟩, h'.2.2.1, fun x hx => ?_⟩
  obtain ⟨q1, q2, q3, q4⟩ := h.2.2.2 x hx
  obtain ⟨r1, r2, r3, r4⟩ := h'.2.2.2 x (by rw [q1]; exact hx)
  exact ⟨r1.trans q1, r2.trans q2, r3.trans q3, r4.trans q4⟩
theorem FG.n {σ : Sg} (hC : CLN σ) {t : Nat × Nat} {k : Nat} : FG σ (nW σ t k) 1 k := by
  refine ⟨⟨Nat.le_succ _, Nat.le_refl _⟩, ⟨Nat.le_add_right _ _, Nat.le_refl _⟩, hC.n, fun a ha => ?_⟩
  have hne : a ≠ sN σ := fun z => ha (by rw [z]; exact hC _ (Nat.le_refl _))
  exact ⟨up1_ne _ _ hne, up1_ne _ _ hne, up1_ne _ _ hne, up1_ne _ _ hne⟩
/-- a new cell's contents may be set -/
theorem FG.pI {σ σ' : Sg} {b c : Nat} (h : FG σ σ' b c) {a k : Nat} {v : Int32} (ha : (sT σ a).1 = 0) : FG σ (pI σ' a k v) b c := ⟨h.1, h.2.1, h.2.2.1, fun x hx => by
  obtain ⟨q1, q2, q3, q4⟩ := h.2.2.2 x hx
  exact ⟨q1, q2, (up2_at _ _ (fun z => hx (by rw [z]; exact ha))).trans q3, q4⟩⟩
theorem FG.pR {σ σ' : Sg} {b c : Nat} (h : FG σ σ' b c) {a k : Nat} {v : Option Nat} (ha : (sT σ a).1 = 0) : FG σ (pR σ' a k v) b c := ⟨h.1, h.2.1, h.2.2.1, fun x hx => by
  obtain ⟨q1, q2, q3, q4⟩ := h.2.2.2 x hx
  exact ⟨q1, (up2_at _ _ (fun z => hx (by rw [z]; exact ha))).trans q2, q3, q4⟩⟩
theorem FG.odd {σ : Sg} (hC : CLN σ) {x : Int32} : FG σ (odd σ x) 1 7 := (FG.n hC).pI (hC _ (Nat.le_refl _))
theorem XH.kp {g : Ge} {σ σ' : Sg} {w u : Wv} {n : Nat} {K : Nat → Nat} (h : XH g σ w u n K) (T : ∀ a, (sT σ a).1 ≠ 0 → sT σ' a = sT σ a ∧ sR σ' a = sR σ a) : XH g σ' w u n K := by
  obtain ⟨⟨a1, a2, ⟨a3, a4, a5⟩, ⟨b1, b2, b3, ⟨cap, c1, c2, c3⟩, b5⟩, ⟨d1, d2, d3⟩, e1, f1, f2⟩, h2, h3, h4⟩ := h
  have T := fun {a : Nat} (h : (sT σ a).1 ≠ 0) => T a h
  have t0 := T (a := g.1 0) (by rw [a3]; decide)
  have t45 := T (a := g.1 45) (by rw [b2]; decide)
  have t46 := T (a := g.1 46) (by rw [c3]; exact (by decide : (104 : Nat) ≠ 0))
  have t47 := T (a := g.1 47) (by rw [d2]; decide)
  have t48 := T (a := g.1 48) (by rw [f2]; decide)
  refine ⟨⟨a1, a2, ⟨by rw [t0.1]; exact a3, fun f hf => ?_, fun f hf => ?_⟩, ⟨by rw [t0.2]; exact b1, by rw [t45.1]; exact b2, by rw [t45.2]; exact b3, ⟨cap, c1, c2, by rw [t46.1]; exact c3⟩, fun i hi => by rw [t46.2]; exact b5 i hi⟩, ⟨by rw [t0.2]; exact d1, by rw [t47.1]; exact d2, fun i hi => ?_⟩, fun i hi => ?_, by rw [t0.2]; exact f1, by rw [t48.1]; exact f2⟩, h2, h3, h4⟩
  · have h9 := a4 f hf
    rw [t0.2, (T (a := g.1 (1 + f)) (by rw [h9.2]; exact (by decide : (101 : Nat) ≠ 0))).1]; exact h9
  · have h9 := a5 f hf
    rw [t0.2, (T (a := g.1 (1 + f)) (by rw [h9.2]; exact (by decide : (102 : Nat) ≠ 0))).1]; exact h9
  · obtain ⟨x1, x2, x3, x4⟩ := d3 i hi
    have y1 := T (a := g.1 (50 + i)) (by rw [x2]; decide)
    have y2 := T (a := g.1 (54 + i)) (by rw [x4]; decide)
    rw [t47.2, y1.1, y1.2, y2.1]; exact ⟨x1, x2, x3, x4⟩
  · obtain ⟨x1, x2, x3, x4, x5⟩ := e1 i hi
    have y1 := T (a := g.1 (60 + i)) (by rw [x2]; omega)
    have y2 := T (a := g.1 (70 + i)) (by rw [x5]; decide)
    rw [y1.1, y1.2, y2.1]; exact ⟨x1, x2, x3, x4, x5⟩
theorem XH.fg {g : Ge} {σ σ' : Sg} {w u : Wv} {n : Nat} {K : Nat → Nat} {b c : Nat} (h : XH g σ w u n K) (hF : FG σ σ' b c) : XH g σ' w u n K := h.kp (fun a ha => ⟨(hF.2.2.2 a ha).1, (hF.2.2.2 a ha).2.1⟩)
def QG (g : Ge) (σ : Sg) (u : Wv) (n : Nat) (K : Nat → Nat) (b c : Nat) : Sg → Prop := fun s => ∃ (σ' : Sg) (w' : Wv), s = S g σ' w' ∧ FG σ σ' b c ∧ XH g σ' w' u n K
theorem S_lo {g : Ge} (hg : Gok g) {σ : Sg} {w : Wv} {a : Nat} (h : a < 1000) : sI (S g σ w) a = sI σ a := by
  funext j
  show vset g (sI σ) w a j = _
  unfold vset
  rw [show g.2.find? (fun k => g.1 k == a) = none from List.find?_eq_none.mpr (fun k hk => by have := hg.2 k hk; simp; omega)]
/-! ===== what is not castable, at the start ===== -/
theorem KE.nc {E : En} {s : State} (h : KE E s) {A B : String} (hw : Cond.not (.castable A B) ∈ flatC (Jvm.Cond.and given_1 narrow_1)) : NCb E A B := va_Nc.of (flat_of_before _ h.1.2.1 _ hw)
theorem V.instNo {E : En} {M : Mi} {d : Nat} {out : Out} {pc : Nat} {lv : List (Option Value)} {st : List Value} {σ : Sg} {c a index : Nat} {B : String} {q : vw_C} (ht : (sT σ a).1 = c + 1) (hc : c < 100) (hq : cls[c]? = some q) (hl : Cond.classLink (mY M).cls index B ∈ lw_all) (hcs : Cond.not (.castable q.1 B) ∈ flatC (Jvm.Cond.and given_1 narrow_1)) (hd : decode (mC M) pc = .ok (.instanceof index, 3)) (h : V E M d out (pc + 3) lv (.int 0 :: st) σ) : V E M d out pc lv (.ref a :: st) σ :=
  ⟨h.1, fun p e R s m args below meth c' n0 s0 X hf hl' hns hs hcl hz ls H locs L P Q => (V.instN ht hc hq hl (X.k.nc hcs) hd h).2 p e R s m args below meth c' n0 s0 X hf hl' hns hs hcl hz ls H locs L P Q⟩
/-- the cache of small Bytes -/
def FB (E : En) : Prop := ∃ (cf : ClassId) (kf : Class) (fi : Nat) (f : Field), (eS E).fieldFound? "java/lang/Byte" "value" "B" = some (cf, kf, fi, f) ∧ f.isStatic = false ∧ f.slot = eI E 19 0
theorem V.getB {E : En} {M : Mi} {d : Nat} {out : Out} {pc : Nat} {lv : List (Option Value)} {st : List Value} {σ : Sg} (hF : FB E) (hM : (mY M).cls = RJ17) {a : Nat} (ht : (sT σ a).1 = 20) (hd : decode (mC M) pc = .ok (.getfield 100, 3)) (h : V E M d out (pc + 3) lv (.int (sI σ a 0) :: st) σ) : V E M d out pc lv (.ref a :: st) σ := by
  refine ⟨h.1, fun p e R s m args below meth c' n0 s0 X hf hl' hns hs hc hz ls H locs L P Q => ?_⟩
  obtain ⟨r, cell, q1, q2, q3, q4, q5, q6, q7⟩ := P.obj (c := 19) ht (by decide)
  have hr : r = (RJ17, TJ17, 1) := Option.some.inj (q1.symm.trans rfl)
  subst hr
  obtain ⟨cf, kf, fi, f, h1, h2, h3⟩ := hF
  obtain ⟨k', hi', he⟩ := State.fieldFound?_setVm X.k.2.alike h1
  refine W.getf X.x X.b X.own (X.ts args _ (by rw [hM]; exact q2143)) hi' h2 q2 q4 (v := .int (sI σ a 0)) ?_ rfl rfl hd (h.2 p e R s m args below meth c' n0 s0 X hf hl' hns hs hc hz ls H locs L P Q)
  rw [h3, q7 0 (show 0 < 1 by decide)]; rfl
def BC (E : En) (σ : Sg) : Prop := FB E ∧ SV E "java/lang/Byte$ByteCache" "cache" "[Ljava/lang/Byte;" (.ref 3) ∧ sT σ 3 = (109, 256) ∧ ∀ j, j < 256 → sR σ 3 j = some (200 + j) ∧ (sT σ (200 + j)).1 = 20 ∧ sI σ (200 + j) 0 = nI j - 128
theorem BC.fg {E : En} {σ σ' : Sg} {b c : Nat} (h : BC E σ) (hF : FG σ σ' b c) : BC E σ' := by
  obtain ⟨h0, h1, h2, h3⟩ := h
  have t := hF.2.2.2 3 (by rw [h2]; decide)
  refine ⟨h0, h1, by rw [t.1]; exact h2, fun j hj => ?_⟩
  obtain ⟨x1, x2, x3⟩ := h3 j hj
  have y := hF.2.2.2 (200 + j) (by rw [x2]; decide)
  rw [t.2.1, y.1, y.2.2.1]; exact ⟨x1, x2, x3⟩
theorem BC.s {E : En} {g : Ge} (hg : Gok g) {σ : Sg} {w : Wv} (h : BC E σ) : BC E (S g σ w) := ⟨h.1, h.2.1, h.2.2.1, fun j hj => by rw [S_lo hg (show 200 + j < 1000 by omega)]; exact h.2.2.2 j hj⟩
theorem i8_n : ∀ {a : Nat}, a < 61 → (nI a).toInt8.toInt32 = nI a ∧ nI a + 128 = nI (a + 128) ∧ nI (a + 128) - 128 = nI a ∧ narrow .byte (.int (nI a)) = .int (nI a) := by
  intro a h
  refine ⟨?_, nI_add a 128, ?_, ?_⟩
  · exact (show ∀ a, a < 61 → (nI a).toInt8.toInt32 = nI a by decide) a h
  · exact (show ∀ a, a < 61 → nI (a + 128) - 128 = nI a by decide) a h
  · rw [← (show ∀ a, a < 61 → (nI a).toInt8.toInt32 = nI a by decide) a h]; exact pk_nb _
theorem c_J17_valueOf {E : En} {σ : Sg} (hB : BC E σ) {a : Nat} (ha : a < 61) : Ct E mJ17_valueOf 0 [.int (nI a)] (.returned (some (.ref (200 + (a + 128)))), σ) σ := by
  show V E mJ17_valueOf 0 _ 0 [some (.int (nI a)), none] [] σ
  refine V.sipush (v := 128) dJ17_valueOf_0 (by decide) (V.ist1 dJ17_valueOf_3 (V.gets hB.2.1 q1494 dJ17_valueOf_4 (V.ild0 dJ17_valueOf_7 (V.sipush (v := 128) dJ17_valueOf_8 (by decide) (V.iadd dJ17_valueOf_11 ?_)))))
  rw [(i8_n ha).2.1]
  refine V.aald (t := 108) hB.2.2.1 (by decide) (by decide) rfl rfl (IX.n (j := a + 128) (by omega) (by decide)) dJ17_valueOf_12 ?_
  rw [(hB.2.2.2 (a + 128) (by omega)).1]
  exact V.aret (o := some (200 + (a + 128))) dJ17_valueOf_13 rfl rfl rfl
theorem c_J17_byteValue {E : En} (hF : FB E) {σ : Sg} {b a : Nat} (ht : (sT σ b).1 = 20) (hv : sI σ b 0 = nI a) (ha : a < 61) : Ct E mJ17_byteValue 0 [.ref b] (.returned (some (.int (nI a))), σ) σ := by
  show V E mJ17_byteValue 0 _ 0 [some (.ref b)] [] σ
  refine V.ald0 dJ17_byteValue_0 (V.getB hF rfl ht dJ17_byteValue_1 ?_)
  rw [hv]
  exact V.iret dJ17_byteValue_4 rfl (i8_n ha).2.2.2 rfl
theorem c_X15_init {E : En} {σ : Sg} {a t : Nat} (ht : (sT σ a).1 = 16) (ha : 1000 ≤ a) : Ct E mX15_init 1 [.ref a, .ref t] (.returned none, pR σ a 0 (some t)) σ := by
  show V E mX15_init 1 _ 0 [some (.ref a), some (.ref t)] [] σ
  exact V.ald0 dX15_init_0 (V.oinit q1499 dX15_init_1 (V.ald0 dX15_init_4 (V.ald1 dX15_init_5 (pX15_7 rfl rfl ht ha dX15_init_6 (V.vret dX15_init_9 rfl rfl)))))
theorem c_X15_high {E : En} (hF : FB E) {σ : Sg} {a t x : Nat} (ht : (sT σ a).1 = 16) (hr : sR σ a 0 = some t) (hb : (sT σ t).1 = 20) (hv : sI σ t 0 = nI x) (hx : x < 61) : Ct E mX15_high 5 [.ref a] (.returned (some (.int (nI x))), σ) σ := by
  show V E mX15_high 5 _ 0 [some (.ref a)] [] σ
  refine V.ald0 dX15_high_0 (gX15_7 rfl ht dX15_high_1 hr (V.instY (c := 19) hb (by decide) rfl q1508 (.inl rfl) dX15_high_4 (V.if_eq (tgt := 21) dX15_high_7 (by decide) (fun z => absurd z (by decide)) (fun _ => ?_))))
  exact V.ald0 dX15_high_10 (gX15_7 rfl ht dX15_high_11 hr (V.ccast (c := 19) hb (by decide) rfl q1508 (.inl rfl) dX15_high_14 (V.invV0r vX15_22 hb dX15_high_17 (c_J17_byteValue hF hb hv hx) (V.iret dX15_high_20 rfl rfl rfl))))
theorem c_X15_rowN {E : En} (hU : EU E) {σ : Sg} (h1 : 1000 ≤ sN σ) {a t : Nat} (ht : (sT σ a).1 = 16) (hr : sR σ a 0 = some t) (hb : (sT σ t).1 = 20) : Ct E mX15_row 5 [.ref a] (.threw (sN σ), odd σ (-13)) σ := by
  show V E mX15_row 5 _ 0 [some (.ref a)] [] σ
  refine V.ald0 dX15_row_0 (gX15_7 rfl ht dX15_row_1 hr (V.instNo (c := 19) hb (by decide) rfl q1519 (by decide +kernel) dX15_row_4 (V.if_eq (tgt := 18) dX15_row_7 (by decide) (fun _ => ?_) (fun z => absurd rfl z))))
  exact nX15_15 rfl dX15_row_18 (V.dup dX15_row_21 (V.bipush (v := (-13)) dX15_row_22 (by decide) (V.invI1v iX15_17 dX15_row_24 (c_X14_init hU h1 (by rw [nX_t]) (fun k _ => nX_0)) (V.athrow (fun q hq => by cases hq) dX15_row_27 rfl))))
theorem c_X15_rowY {E : En} {σ : Sg} {a t k : Nat} (hk : k < 6) (ht : (sT σ a).1 = 16) (hr : sR σ a 0 = some t) (hb : (sT σ t).1 = 9 + k) : Ct E mX15_row 5 [.ref a] (.returned (some (.ref t)), σ) σ := by
  show V E mX15_row 5 _ 0 [some (.ref a)] [] σ
  rcases (show k = 0 ∨ k = 1 ∨ k = 2 ∨ k = 3 ∨ k = 4 ∨ k = 5 by omega) with rfl | rfl | rfl | rfl | rfl | rfl
  · refine V.ald0 dX15_row_0 (gX15_7 rfl ht dX15_row_1 hr (V.instY (c := 8) hb (by decide) rfl q1519 (.inl rfl) dX15_row_4 (V.if_eq (tgt := 18) dX15_row_7 (by decide) (fun z => absurd z (by decide)) (fun _ => ?_))))
    exact V.ald0 dX15_row_10 (gX15_7 rfl ht dX15_row_11 hr (V.ccast (c := 8) hb (by decide) rfl q1519 (.inl rfl) dX15_row_14 (V.aret (o := some t) dX15_row_17 rfl rfl rfl)))
  · refine V.ald0 dX15_row_0 (gX15_7 rfl ht dX15_row_1 hr (V.instY (c := 9) hb (by decide) rfl q1519 (.inr q2107) dX15_row_4 (V.if_eq (tgt := 18) dX15_row_7 (by decide) (fun z => absurd z (by decide)) (fun _ => ?_))))
    exact V.ald0 dX15_row_10 (gX15_7 rfl ht dX15_row_11 hr (V.ccast (c := 9) hb (by decide) rfl q1519 (.inr q2107) dX15_row_14 (V.aret (o := some t) dX15_row_17 rfl rfl rfl)))
  · refine V.ald0 dX15_row_0 (gX15_7 rfl ht dX15_row_1 hr (V.instY (c := 10) hb (by decide) rfl q1519 (.inr q2106) dX15_row_4 (V.if_eq (tgt := 18) dX15_row_7 (by decide) (fun z => absurd z (by decide)) (fun _ => ?_))))
    exact V.ald0 dX15_row_10 (gX15_7 rfl ht dX15_row_11 hr (V.ccast (c := 10) hb (by decide) rfl q1519 (.inr q2106) dX15_row_14 (V.aret (o := some t) dX15_row_17 rfl rfl rfl)))
  · refine V.ald0 dX15_row_0 (gX15_7 rfl ht dX15_row_1 hr (V.instY (c := 11) hb (by decide) rfl q1519 (.inr q2104) dX15_row_4 (V.if_eq (tgt := 18) dX15_row_7 (by decide) (fun z => absurd z (by decide)) (fun _ => ?_))))
    exact V.ald0 dX15_row_10 (gX15_7 rfl ht dX15_row_11 hr (V.ccast (c := 11) hb (by decide) rfl q1519 (.inr q2104) dX15_row_14 (V.aret (o := some t) dX15_row_17 rfl rfl rfl)))
  · refine V.ald0 dX15_row_0 (gX15_7 rfl ht dX15_row_1 hr (V.instY (c := 12) hb (by decide) rfl q1519 (.inr q2103) dX15_row_4 (V.if_eq (tgt := 18) dX15_row_7 (by decide) (fun z => absurd z (by decide)) (fun _ => ?_))))
    exact V.ald0 dX15_row_10 (gX15_7 rfl ht dX15_row_11 hr (V.ccast (c := 12) hb (by decide) rfl q1519 (.inr q2103) dX15_row_14 (V.aret (o := some t) dX15_row_17 rfl rfl rfl)))
  · refine V.ald0 dX15_row_0 (gX15_7 rfl ht dX15_row_1 hr (V.instY (c := 13) hb (by decide) rfl q1519 (.inr q2105) dX15_row_4 (V.if_eq (tgt := 18) dX15_row_7 (by decide) (fun z => absurd z (by decide)) (fun _ => ?_))))
    exact V.ald0 dX15_row_10 (gX15_7 rfl ht dX15_row_11 hr (V.ccast (c := 13) hb (by decide) rfl q1519 (.inr q2105) dX15_row_14 (V.aret (o := some t) dX15_row_17 rfl rfl rfl)))
theorem c_X15_highN {E : En} (hU : EU E) {σ : Sg} (h1 : 1000 ≤ sN σ) {a t k : Nat} (hk : k < 6) (ht : (sT σ a).1 = 16) (hr : sR σ a 0 = some t) (hb : (sT σ t).1 = 9 + k) : Ct E mX15_high 5 [.ref a] (.threw (sN σ), odd σ (-13)) σ := by
  show V E mX15_high 5 _ 0 [some (.ref a)] [] σ
  have H : V E mX15_high 5 (.threw (sN σ), odd σ (-13)) 21 [some (.ref a)] [] σ := nX15_15 rfl dX15_high_21 (V.dup dX15_high_24 (V.bipush (v := (-13)) dX15_high_25 (by decide) (V.invI1v iX15_17 dX15_high_27 (c_X14_init hU h1 (by rw [nX_t]) (fun k _ => nX_0)) (V.athrow (fun q hq => by cases hq) dX15_high_30 rfl))))
  rcases (show k = 0 ∨ k = 1 ∨ k = 2 ∨ k = 3 ∨ k = 4 ∨ k = 5 by omega) with rfl | rfl | rfl | rfl | rfl | rfl
  · exact V.ald0 dX15_high_0 (gX15_7 rfl ht dX15_high_1 hr (V.instNo (c := 8) hb (by decide) rfl q1508 (by decide +kernel) dX15_high_4 (V.if_eq (tgt := 21) dX15_high_7 (by decide) (fun _ => H) (fun z => absurd rfl z))))
  · exact V.ald0 dX15_high_0 (gX15_7 rfl ht dX15_high_1 hr (V.instNo (c := 9) hb (by decide) rfl q1508 (by decide +kernel) dX15_high_4 (V.if_eq (tgt := 21) dX15_high_7 (by decide) (fun _ => H) (fun z => absurd rfl z))))
  · exact V.ald0 dX15_high_0 (gX15_7 rfl ht dX15_high_1 hr (V.instNo (c := 10) hb (by decide) rfl q1508 (by decide +kernel) dX15_high_4 (V.if_eq (tgt := 21) dX15_high_7 (by decide) (fun _ => H) (fun z => absurd rfl z))))
  · exact V.ald0 dX15_high_0 (gX15_7 rfl ht dX15_high_1 hr (V.instNo (c := 11) hb (by decide) rfl q1508 (by decide +kernel) dX15_high_4 (V.if_eq (tgt := 21) dX15_high_7 (by decide) (fun _ => H) (fun z => absurd rfl z))))
  · exact V.ald0 dX15_high_0 (gX15_7 rfl ht dX15_high_1 hr (V.instNo (c := 12) hb (by decide) rfl q1508 (by decide +kernel) dX15_high_4 (V.if_eq (tgt := 21) dX15_high_7 (by decide) (fun _ => H) (fun z => absurd rfl z))))
  · exact V.ald0 dX15_high_0 (gX15_7 rfl ht dX15_high_1 hr (V.instNo (c := 13) hb (by decide) rfl q1508 (by decide +kernel) dX15_high_4 (V.if_eq (tgt := 21) dX15_high_7 (by decide) (fun _ => H) (fun z => absurd rfl z))))
theorem c_X0_isUnder {E : En} {σ : Sg} {a k : Nat} (hk : k < 6) (hb : (sT σ a).1 = 9 + k) {o : Nat} (ho : o < 6) : Ct E mX0_isUnder 0 [.ref a, .int (nI o)] (.returned (some (.int (b2i (isUn (nI k) (nI o))))), σ) σ := by
  show V E mX0_isUnder 0 _ 0 [some (.ref a), some (.int (nI o))] [] σ
  refine V.ild1 dX0_isUnder_0 ?_
  rcases (show o = 0 ∨ o = 1 ∨ o = 2 ∨ o = 3 ∨ o = 4 ∨ o = 5 by omega) with rfl | rfl | rfl | rfl | rfl | rfl
  · refine V.tableIn (off := 35) (tgt := 36) dX0_isUnder_1 (by decide) (by decide) (by decide) (by decide) (V.iconst_1 dX0_isUnder_36 (V.iret dX0_isUnder_37 rfl (nar_b true) ?_))
    rw [show isUn (nI k) (nI 0) = true from rfl]; rfl
  · refine V.tableIn (off := 37) (tgt := 38) dX0_isUnder_1 (by decide) (by decide) (by decide) (by decide) (V.ald0 dX0_isUnder_38 ?_)
    rcases (show k = 0 ∨ k = 1 ∨ k = 2 ∨ k = 3 ∨ k = 4 ∨ k = 5 by omega) with rfl | rfl | rfl | rfl | rfl | rfl
    · exact V.instNo (c := 8) hb (by decide) rfl q858 (by decide +kernel) dX0_isUnder_39 (V.iret dX0_isUnder_42 rfl (nar_b false) rfl)
    · exact V.instY (c := 9) hb (by decide) rfl q858 (.inl rfl) dX0_isUnder_39 (V.iret dX0_isUnder_42 rfl (nar_b true) rfl)
    · exact V.instNo (c := 10) hb (by decide) rfl q858 (by decide +kernel) dX0_isUnder_39 (V.iret dX0_isUnder_42 rfl (nar_b false) rfl)
    · exact V.instY (c := 11) hb (by decide) rfl q858 (.inr q2108) dX0_isUnder_39 (V.iret dX0_isUnder_42 rfl (nar_b true) rfl)
    · exact V.instNo (c := 12) hb (by decide) rfl q858 (by decide +kernel) dX0_isUnder_39 (V.iret dX0_isUnder_42 rfl (nar_b false) rfl)
    · exact V.instNo (c := 13) hb (by decide) rfl q858 (by decide +kernel) dX0_isUnder_39 (V.iret dX0_isUnder_42 rfl (nar_b false) rfl)
  · refine V.tableIn (off := 42) (tgt := 43) dX0_isUnder_1 (by decide) (by decide) (by decide) (by decide) (V.ald0 dX0_isUnder_43 ?_)
    rcases (show k = 0 ∨ k = 1 ∨ k = 2 ∨ k = 3 ∨ k = 4 ∨ k = 5 by omega) with rfl | rfl | rfl | rfl | rfl | rfl
    · exact V.instNo (c := 8) hb (by decide) rfl q873 (by decide +kernel) dX0_isUnder_44 (V.iret dX0_isUnder_47 rfl (nar_b false) rfl)
    · exact V.instNo (c := 9) hb (by decide) rfl q873 (by decide +kernel) dX0_isUnder_44 (V.iret dX0_isUnder_47 rfl (nar_b false) rfl)
    · exact V.instY (c := 10) hb (by decide) rfl q873 (.inl rfl) dX0_isUnder_44 (V.iret dX0_isUnder_47 rfl (nar_b true) rfl)
    · exact V.instNo (c := 11) hb (by decide) rfl q873 (by decide +kernel) dX0_isUnder_44 (V.iret dX0_isUnder_47 rfl (nar_b false) rfl)
    · exact V.instY (c := 12) hb (by decide) rfl q873 (.inr q2109) dX0_isUnder_44 (V.iret dX0_isUnder_47 rfl (nar_b true) rfl)
    · exact V.instNo (c := 13) hb (by decide) rfl q873 (by decide +kernel) dX0_isUnder_44 (V.iret dX0_isUnder_47 rfl (nar_b false) rfl)
  · refine V.tableIn (off := 47) (tgt := 48) dX0_isUnder_1 (by decide) (by decide) (by decide) (by decide) (V.ald0 dX0_isUnder_48 ?_)
    rcases (show k = 0 ∨ k = 1 ∨ k = 2 ∨ k = 3 ∨ k = 4 ∨ k = 5 by omega) with rfl | rfl | rfl | rfl | rfl | rfl
    · exact V.instNo (c := 8) hb (by decide) rfl q888 (by decide +kernel) dX0_isUnder_49 (V.iret dX0_isUnder_52 rfl (nar_b false) rfl)
    · exact V.instNo (c := 9) hb (by decide) rfl q888 (by decide +kernel) dX0_isUnder_49 (V.iret dX0_isUnder_52 rfl (nar_b false) rfl)
    · exact V.instNo (c := 10) hb (by decide) rfl q888 (by decide +kernel) dX0_isUnder_49 (V.iret dX0_isUnder_52 rfl (nar_b false) rfl)
    · exact V.instY (c := 11) hb (by decide) rfl q888 (.inl rfl) dX0_isUnder_49 (V.iret dX0_isUnder_52 rfl (nar_b true) rfl)
    · exact V.instNo (c := 12) hb (by decide) rfl q888 (by decide +kernel) dX0_isUnder_49 (V.iret dX0_isUnder_52 rfl (nar_b false) rfl)
    · exact V.instNo (c := 13) hb (by decide) rfl q888 (by decide +kernel) dX0_isUnder_49 (V.iret dX0_isUnder_52 rfl (nar_b false) rfl)
  · refine V.tableIn (off := 52) (tgt := 53) dX0_isUnder_1 (by decide) (by decide) (by decide) (by decide) (V.ald0 dX0_isUnder_53 ?_)
    rcases (show k = 0 ∨ k = 1 ∨ k = 2 ∨ k = 3 ∨ k = 4 ∨ k = 5 by omega) with rfl | rfl | rfl | rfl | rfl | rfl
    · exact V.instNo (c := 8) hb (by decide) rfl q904 (by decide +kernel) dX0_isUnder_54 (V.iret dX0_isUnder_57 rfl (nar_b false) rfl)
    · exact V.instNo (c := 9) hb (by decide) rfl q904 (by decide +kernel) dX0_isUnder_54 (V.iret dX0_isUnder_57 rfl (nar_b false) rfl)
    · exact V.instNo (c := 10) hb (by decide) rfl q904 (by decide +kernel) dX0_isUnder_54 (V.iret dX0_isUnder_57 rfl (nar_b false) rfl)
    · exact V.instNo (c := 11) hb (by decide) rfl q904 (by decide +kernel) dX0_isUnder_54 (V.iret dX0_isUnder_57 rfl (nar_b false) rfl)
    · exact V.instY (c := 12) hb (by decide) rfl q904 (.inl rfl) dX0_isUnder_54 (V.iret dX0_isUnder_57 rfl (nar_b true) rfl)
    · exact V.instNo (c := 13) hb (by decide) rfl q904 (by decide +kernel) dX0_isUnder_54 (V.iret dX0_isUnder_57 rfl (nar_b false) rfl)
  · refine V.tableOut (tgt := 58) dX0_isUnder_1 (by decide) (by decide) (V.ald0 dX0_isUnder_58 ?_)
    rcases (show k = 0 ∨ k = 1 ∨ k = 2 ∨ k = 3 ∨ k = 4 ∨ k = 5 by omega) with rfl | rfl | rfl | rfl | rfl | rfl
    · exact V.instNo (c := 8) hb (by decide) rfl q920 (by decide +kernel) dX0_isUnder_59 (V.iret dX0_isUnder_62 rfl (nar_b false) rfl)
    · exact V.instNo (c := 9) hb (by decide) rfl q920 (by decide +kernel) dX0_isUnder_59 (V.iret dX0_isUnder_62 rfl (nar_b false) rfl)
    · exact V.instNo (c := 10) hb (by decide) rfl q920 (by decide +kernel) dX0_isUnder_59 (V.iret dX0_isUnder_62 rfl (nar_b false) rfl)
    · exact V.instNo (c := 11) hb (by decide) rfl q920 (by decide +kernel) dX0_isUnder_59 (V.iret dX0_isUnder_62 rfl (nar_b false) rfl)
    · exact V.instNo (c := 12) hb (by decide) rfl q920 (by decide +kernel) dX0_isUnder_59 (V.iret dX0_isUnder_62 rfl (nar_b false) rfl)
    · exact V.instY (c := 13) hb (by decide) rfl q920 (.inl rfl) dX0_isUnder_59 (V.iret dX0_isUnder_62 rfl (nar_b true) rfl)
def HQ (u : Wv) : Prop := ∀ p, p < 6 → ∃ a, a < 61 ∧ u 113 p = nI a
theorem inB_lt {j p : Nat} (hj : j < 2 ^ 30) (hp : p < 2 ^ 30) : inB (nI j) 0 (nI p - 1) = decide (nI j < nI p) := by
  cases h : inB (nI j) 0 (nI p - 1) with
  | true =>
    obtain ⟨j', h1, h2⟩ := (inB_n hp).mp h
    have e : j = j' := by
      have h3 := congrArg Int32.toInt h2
      rw [nI_toInt (by omega), nI_toInt (by omega)] at h3
      omega
    subst e
    exact (decide_eq_true (nI_lt (by omega) (by omega))).symm
  | false =>
    refine (decide_eq_false (fun z => ?_)).symm
    rw [(inB_n hp).mpr ⟨j, (nI_ltI (by omega) (by omega)).mp z, rfl⟩] at h
    exact Bool.noConfusion h
theorem catch_X0_taken {E : En} {σ1 : Sg} {a : Nat} {x : Int32} {P : Outcome → Sg → Prop} (ht : (sT σ1 a).1 = 15) (hc : sI σ1 a 6 = x) (hP : P (.returned (some (.int x))) σ1) {l0 l1 l3 l4 : Option Value} {y9 : Int32} : VE E mX0_taken 6 P 128 [l0, l1, some (.int y9), l3, l4] [.ref a] σ1 := by
  refine VE.step (fun _ h => V.ast3 dX0_taken_128 (V.ald3 dX0_taken_129 (gX0_452 rfl ht dX0_taken_130 h))) ?_
  rw [hc]
  exact VE.iret dX0_taken_133 rfl rfl hP
theorem QG.odd {g : Ge} {σ σ' : Sg} {w u : Wv} {n : Nat} {K : Nat → Nat} {b c b' c' : Nat} (hX : XH g σ' w u n K) (hF : FG σ σ' b c) (hN : NA g (sN σ')) {x : Int32} (h1 : b + 1 ≤ b') (h2 : c + 7 ≤ c') : QG g σ u n K b' c' (odd (S g σ' w) x) := ⟨_, w, S_odd hN, (hF.tr (FG.odd hF.2.2.1)).le h1 h2, hX.fg (FG.odd hF.2.2.1)⟩
/-- from the slot on -/
theorem taken_94 {E : En} {g : Ge} {σ σ2 : Sg} {w u : Wv} {n : Nat} {K : Nat → Nat} (hX : XH g σ2 w u n K) (hF : FG σ σ2 1 1) (hU : EU E) (h1 : 1000 ≤ sN σ2) (hN : NA g (sN σ2)) (hB : BC E σ2) {s0 t : Nat} (hs : (sT σ2 s0).1 = 16) (hr : sR σ2 s0 0 = some t) {i k : Int32} (hk : inB k 0 6 = true)
    (ht : ((sT σ2 t).1 = 20 ∧ ∃ a, a < 61 ∧ sI (S g σ2 w) t 0 = nI a ∧ takenR u i k = if k = 6 then nI a else -13) ∨ (∃ r, r < n ∧ t = g.1 (60 + r) ∧ takenR u i k = if 6 ≤ k then -13 else if isUn (nI (K r)) k then nI r else -13)) : VE E mX0_taken 6 (PR (.int (takenR u i k)) (QG g σ u n K 2 8)) 94 [some (.ref (g.1 0)), some (.int (i)), some (.int k), some (.ref s0), none] [] (S g σ2 w) := by
  have hO : ∀ {x : Int32}, QG g σ u n K 2 8 (odd (S g σ2 w) x) := QG.odd hX hF hN (by decide) (by decide)
  obtain ⟨kk, hkk, rfl⟩ := (inB_n (x := k) (n := 7) (by decide)).mp hk
  refine VE.step (fun _ h => V.ild2 dX0_taken_94 (V.bipush (v := 6) dX0_taken_95 (by decide) h)) ?_
  refine VE.icmp_ne (tgt := 105) dX0_taken_97 (by decide) (fun c_97 => ?_) (fun c_97 => ?_)
  · have hk6 : kk < 6 := by
      rcases Nat.lt_or_ge kk 6 with h | h
      · exact h
      · exact absurd (show nI kk = 6 by rw [show kk = 6 by omega]; rfl) c_97
    have h6 : ¬ (6 : Int32) ≤ nI kk := fun z => absurd ((nI_leI (a := 6) (by decide) (by omega)).mp z) (by omega)
    refine VE.step (fun _ h => V.ald3 dX0_taken_105 h) ?_
    rcases ht with ⟨t1, a, ha, hv, he⟩ | ⟨r, hr2, rfl, he⟩
    · rw [if_neg c_97] at he
      refine VE.step (fun _ h => V.callCatch [(15, 104, 128, 431)] (105, 127, 128, 431) [] rfl (fun y hy => by simp at hy; try (subst hy; decide)) ⟨by decide, by decide⟩ (by decide) q1444 (show (sT (odd (S g σ2 w) (-13)) (sN (S g σ2 w))).1 = 14 + 1 from odd_t (σ := S g σ2 w)) (by decide) rfl (.inl rfl) dX0_taken_106 wX15_row (by decide) (Nat.le_of_ble_eq_true rfl) (Nat.le_of_ble_eq_true rfl) (Lk.V (As := []) (rest := []) vX0_476 hs rfl dX0_taken_106) (c_X15_rowN (σ := S g σ2 w) hU h1 hs hr t1) h) ?_
      exact catch_X0_taken (odd_t (σ := S g σ2 w)) (odd_c (σ := S g σ2 w)) ⟨by rw [he], hO⟩
    · have hK := (hX.1.2.2.2.2.2.1 r hr2)
      rw [if_neg h6] at he
      refine VE.step (fun _ h => V.invV0r vX0_476 (show (sT (S g σ2 w) s0).1 = 15 + 1 from hs) dX0_taken_106 (c_X15_rowY (σ := S g σ2 w) hK.1 hs hr hK.2.1) (V.ast4 dX0_taken_109 (V.ald4 dX0_taken_111 (V.ild2 dX0_taken_113 (V.invS2r sX0_480 dX0_taken_114 (c_X0_isUnder (σ := S g σ2 w) hK.1 hK.2.1 hk6) (V.bipush (v := (-13)) dX0_taken_117 (by decide) h)))))) ?_
      cases hb : isUn (nI (K r)) (nI kk) with
      | false =>
        rw [hb] at he
        refine VE.step (fun _ h => V.callCatch [(15, 104, 128, 431)] (105, 127, 128, 431) [] rfl (fun y hy => by simp at hy; try (subst hy; decide)) ⟨by decide, by decide⟩ (by decide) q1444 (show (sT (odd (S g σ2 w) (-13)) (sN (S g σ2 w))).1 = 14 + 1 from odd_t (σ := S g σ2 w)) (by decide) rfl (.inl rfl) dX0_taken_119 wX0_need (by decide) (Nat.le_of_ble_eq_true rfl) (Nat.le_of_ble_eq_true rfl) (Lk.S (As := [.int (b2i false), .int (-13)]) (rest := []) sX0_444 rfl dX0_taken_119) (need_no (σ := S g σ2 w) hU h1) h) ?_
        exact catch_X0_taken (odd_t (σ := S g σ2 w)) (odd_c (σ := S g σ2 w)) ⟨by rw [he]; rfl, hO⟩
      | true =>
        rw [hb] at he
        refine VE.step (fun _ h => V.invS2v sX0_444 dX0_taken_119 need_ok (V.ald4 dX0_taken_122 (GX0_228 hX hr2 rfl dX0_taken_124 h))) ?_
        exact VE.iret dX0_taken_127 rfl rfl ⟨by rw [he]; rfl, σ2, w, rfl, hF.le (by decide) (by decide), hX⟩
  · have h6 : (6 : Int32) ≤ nI kk := by rw [c_97]; decide
    refine VE.step (fun _ h => V.ald3 dX0_taken_100 h) ?_
    rcases ht with ⟨t1, a, ha, hv, he⟩ | ⟨r, hr2, rfl, he⟩
    · rw [if_pos c_97] at he
      refine VE.step (fun _ h => V.invV0r vX0_474 (show (sT (S g σ2 w) s0).1 = 15 + 1 from hs) dX0_taken_101 (c_X15_high (σ := S g σ2 w) hB.1 hs hr t1 hv ha) h) ?_
      exact VE.iret dX0_taken_104 rfl rfl ⟨by rw [he], σ2, w, rfl, hF.le (by decide) (by decide), hX⟩
    · have hK := (hX.1.2.2.2.2.2.1 r hr2)
      rw [if_pos h6] at he
      refine VE.step (fun _ h => V.callCatch [] (15, 104, 128, 431) [(105, 127, 128, 431)] rfl (fun y hy => by simp at hy; try (subst hy; decide)) ⟨by decide, by decide⟩ (by decide) q1444 (show (sT (odd (S g σ2 w) (-13)) (sN (S g σ2 w))).1 = 14 + 1 from odd_t (σ := S g σ2 w)) (by decide) rfl (.inl rfl) dX0_taken_101 wX15_high (by decide) (Nat.le_of_ble_eq_true rfl) (Nat.le_of_ble_eq_true rfl) (Lk.V (As := []) (rest := []) vX0_474 hs rfl dX0_taken_101) (c_X15_highN (σ := S g σ2 w) hU h1 hK.1 hs hr hK.2.1) h) ?_
      exact catch_X0_taken (odd_t (σ := S g σ2 w)) (odd_c (σ := S g σ2 w)) ⟨by rw [he], hO⟩
theorem c_X0_taken {E : En} {g : Ge} {σ : Sg} {w u : Wv} {n : Nat} {K : Nat → Nat} (hX : XH g σ w u n K) (hI : HI u) (hU : EU E) (h1 : 1000 ≤ sN σ) (hN : NA g (sN σ)) (hN2 : NA g (sN σ + 1)) (hC : CLN σ) (hB : BC E σ) (hQ : HQ u) {i k : Int32} : CtE E mX0_taken 6 [.ref (g.1 0), .int i, .int k] (PR (.int (takenR u i k)) (QG g σ u n K 2 8)) (S g σ w) := by
  show VE E mX0_taken 6 _ 0 [some (.ref (g.1 0)), some (.int (i)), some (.int k), none, none] [] (S g σ w)
  have hO : ∀ {x : Int32}, QG g σ u n K 2 8 (odd (S g σ w) x) := QG.odd hX (FG.rfl hC) hN (by decide) (by decide)
  refine VE.step (fun _ h => V.ild2 dX0_taken_0 (V.i2l dX0_taken_1 (V.lconst_0 dX0_taken_2 (V.ldc2_w q1487 dX0_taken_3 (V.invS3r sX0_112 dX0_taken_6 (in_c (lo := 0) (hi := 6) rfl rfl) h))))) ?_
  refine VE.ifb_ne (tgt := 15) dX0_taken_9 (by decide) (fun c_9 => ?_) (fun c_9 => ?_)
  rotate_left 1
  · refine VE.step (fun _ h => V.bipush (v := (-2)) dX0_taken_12 (by decide) h) ?_
    exact VE.iret dX0_taken_14 rfl rfl ⟨by rw [takenR, c_9]; rfl, σ, w, rfl, (FG.rfl hC).le (by decide) (by decide), hX⟩
  refine VE.step (fun _ h => V.ild1 dX0_taken_15 (V.i2l dX0_taken_16 (V.lconst_0 dX0_taken_17 (V.ldc2_w q1488 dX0_taken_18 (V.invS3r sX0_112 dX0_taken_21 (in_c (lo := 0) (hi := 11) rfl rfl) (V.bipush (v := (-12)) dX0_taken_24 (by decide) h)))))) ?_
  cases hi : inB i 0 11 with
  | false =>
    refine VE.step (fun _ h => V.callCatch [] (15, 104, 128, 431) [(105, 127, 128, 431)] rfl (fun y hy => by simp at hy; try (subst hy; decide)) ⟨by decide, by decide⟩ (by decide) q1444 (show (sT (odd (S g σ w) (-12)) (sN (S g σ w))).1 = 14 + 1 from odd_t (σ := S g σ w)) (by decide) rfl (.inl rfl) dX0_taken_26 wX0_need (by decide) (Nat.le_of_ble_eq_true rfl) (Nat.le_of_ble_eq_true rfl) (Lk.S (As := [.int (b2i false), .int (-12)]) (rest := []) sX0_444 rfl dX0_taken_26) (need_no (σ := S g σ w) hU h1) h) ?_
    exact catch_X0_taken (odd_t (σ := S g σ w)) (odd_c (σ := S g σ w)) ⟨by rw [takenR, if_pos c_9, hi]; rfl, hO⟩
  | true =>
    obtain ⟨j, hj, rfl⟩ := (inB_n (x := i) (n := 12) (by decide)).mp hi
    have hF1 : FG σ (nW σ (16, 0) 1) 1 1 := FG.n hC
    have hX1 : XH g (nW σ (16, 0) 1) w u n K := hX.fg hF1
    have hB1 : BC E (S g (nW σ (16, 0) 1) w) := (hB.fg hF1).s hX.gk
    have hz : (sT σ (sN σ)).1 = 0 := hC _ (Nat.le_refl _)
    have t1 : sT (nW σ (16, 0) 1) (sN σ) = (16, 0) := nX_t
    have fin : ∀ t, (sT (nW σ (16, 0) 1) t).1 ≠ 0 → (((sT σ t).1 = 20 ∧ ∃ a, a < 61 ∧ sI (S g (pR (nW σ (16, 0) 1) (sN σ) 0 (some t)) w) t 0 = nI a ∧ takenR u (nI j) k = if k = 6 then nI a else -13) ∨ (∃ r, r < n ∧ t = g.1 (60 + r) ∧ takenR u (nI j) k = if 6 ≤ k then -13 else if isUn (nI (K r)) k then nI r else -13)) → t ≠ sN σ → VE E mX0_taken 6 (PR (.int (takenR u (nI j) k)) (QG g σ u n K 2 8)) 90 [some (.ref (g.1 0)), some (.int (nI j)), some (.int k), none, none] [.ref t, .ref (sN σ), .ref (sN σ)] (S g (nW σ (16, 0) 1) w) := fun t _ ht hne => by
      have hF2 : FG σ (pR (nW σ (16, 0) 1) (sN σ) 0 (some t)) 1 1 := hF1.pR hz
      refine VE.step (fun _ h => V.invI1v iX0_471 dX0_taken_90 (c_X15_init (σ := S g (nW σ (16, 0) 1) w) (show (sT (nW σ (16, 0) 1) (sN σ)).1 = 16 by rw [t1]) h1) (V.ast3 dX0_taken_93 h)) ?_
      refine taken_94 (σ2 := pR (nW σ (16, 0) 1) (sN σ) 0 (some t)) (hX.fg hF2) hF2 hU (by show 1000 ≤ sN σ + 1; omega) hN2 (hB.fg hF2) (show (sT (nW σ (16, 0) 1) (sN σ)).1 = 16 by rw [t1]) (up2_eq _ _ _ _) c_9 ?_
      rcases ht with ⟨q1, q2⟩ | q
      · exact .inl ⟨by rw [show sT (pR (nW σ (16, 0) 1) (sN σ) 0 (some t)) t = sT σ t from up1_ne _ _ hne]; exact q1, q2⟩
      · exact .inr q
    refine VE.step (fun _ h => V.invS2v sX0_444 dX0_taken_26 need_ok (V.ild1 dX0_taken_29 (V.bipush (v := 6) dX0_taken_30 (by decide) h))) ?_
    refine VE.icmp_ge (tgt := 43) dX0_taken_32 (by decide) (fun c_32 => ?_) (fun c_32 => ?_)
    · have hj6 : 6 ≤ j := (nI_leI (a := 6) (by decide) (by omega)).mp c_32
      have ej : nI j - 6 = nI (j - 6) := by
        rw [show (6 : Int32) = nI 6 from rfl, Int32.sub_eq_iff_eq_add, nI_add, show j - 6 + 6 = j by omega]
      refine VE.step (fun _ h => V.ald0 dX0_taken_43 (V.ild1 dX0_taken_44 (V.bipush (v := 6) dX0_taken_45 (by decide) (V.isub dX0_taken_47 (V.invV1r vX0_146 hX.t0 dX0_taken_48 (c_X0_isRow hX) (V.bipush (v := (-11)) dX0_taken_51 (by decide) h)))))) ?_
      rw [ej, hX.rows, inB_lt (by omega) (by have := hX.2.2.1.1; omega)]
      by_cases hlt : nI (j - 6) < nI n
      rotate_left 1
      · rw [decide_eq_false hlt]
        refine VE.step (fun _ h => V.callCatch [] (15, 104, 128, 431) [(105, 127, 128, 431)] rfl (fun y hy => by simp at hy; try (subst hy; decide)) ⟨by decide, by decide⟩ (by decide) q1444 (show (sT (odd (S g σ w) (-11)) (sN (S g σ w))).1 = 14 + 1 from odd_t (σ := S g σ w)) (by decide) rfl (.inl rfl) dX0_taken_53 wX0_need (by decide) (Nat.le_of_ble_eq_true rfl) (Nat.le_of_ble_eq_true rfl) (Lk.S (As := [.int (b2i false), .int (-11)]) (rest := []) sX0_444 rfl dX0_taken_53) (need_no (σ := S g σ w) hU h1) h) ?_
        exact catch_X0_taken (odd_t (σ := S g σ w)) (odd_c (σ := S g σ w)) ⟨by rw [takenR, if_pos c_9, if_pos hi, if_pos c_32, ej, hX.rows, if_neg hlt], hO⟩
      · rw [decide_eq_true hlt]
        have hjn : j - 6 < n := (nI_ltI (by omega) (by have := hX.2.2.1.1; omega)).mp hlt
        refine VE.step (fun _ h => V.invS2v sX0_444 dX0_taken_53 need_ok (nX0_463 (σ := S g σ w) rfl dX0_taken_56 h)) ?_
        rw [S_nW hN]
        refine VE.step (fun _ h => V.dup dX0_taken_59 (V.ild1 dX0_taken_60 (V.bipush (v := 6) dX0_taken_61 (by decide) (V.icmp_ge (tgt := 79) dX0_taken_63 (by decide) (fun _ => h) (fun z => absurd c_32 z))))) ?_
        refine VE.step (fun _ h => V.ald0 dX0_taken_79 (GX0_22 hX1 rfl dX0_taken_80 (V.ild1 dX0_taken_83 (V.bipush (v := 6) dX0_taken_84 (by decide) (V.isub dX0_taken_86 h))))) ?_
        rw [ej]
        refine VE.step (fun _ h => V.invV1r vX0_150 hX1.li.2.1 dX0_taken_87 (c_J2_get hX1 hjn) h) ?_
        have hK := (hX1.1.2.2.2.2.2.1 (j - 6) hjn)
        have hne : (sT (nW σ (16, 0) 1) (g.1 (60 + (j - 6)))).1 ≠ 0 := by rw [hK.2.1]; omega
        refine fin _ hne (.inr ⟨j - 6, hjn, rfl, ?_⟩) (fun z => by rw [z, t1] at hK; have := hK.2.1; simp at this; omega)
        rw [takenR, if_pos c_9, if_pos hi, if_pos c_32, ej, hX.rows, if_pos hlt, cl_n (by omega), (hX.2.2.2 (j - 6) hjn).1]
    · have hj6 : j < 6 := by
        rcases Nat.lt_or_ge j 6 with h | h
        · exact h
        · exact absurd ((nI_leI (a := 6) (by decide) (by omega)).mpr h) c_32
      have hP := hI.points
      refine VE.step (fun _ h => V.ald0 dX0_taken_35 (V.ild1 dX0_taken_36 (V.invV1r vX0_253 hX.t0 dX0_taken_37 (c_X0_isPoint hX hI) (V.goto (tgt := 51) dX0_taken_40 (by decide) (V.bipush (v := (-11)) dX0_taken_51 (by decide) h))))) ?_
      rw [hP.1, inB_lt (by omega) (by omega)]
      by_cases hlt : nI j < nI (nP u)
      rotate_left 1
      · rw [decide_eq_false hlt]
        refine VE.step (fun _ h => V.callCatch [] (15, 104, 128, 431) [(105, 127, 128, 431)] rfl (fun y hy => by simp at hy; try (subst hy; decide)) ⟨by decide, by decide⟩ (by decide) q1444 (show (sT (odd (S g σ w) (-11)) (sN (S g σ w))).1 = 14 + 1 from odd_t (σ := S g σ w)) (by decide) rfl (.inl rfl) dX0_taken_53 wX0_need (by decide) (Nat.le_of_ble_eq_true rfl) (Nat.le_of_ble_eq_true rfl) (Lk.S (As := [.int (b2i false), .int (-11)]) (rest := []) sX0_444 rfl dX0_taken_53) (need_no (σ := S g σ w) hU h1) h) ?_
        exact catch_X0_taken (odd_t (σ := S g σ w)) (odd_c (σ := S g σ w)) ⟨by rw [takenR, if_pos c_9, if_pos hi, if_neg c_32, hP.1, if_neg hlt], hO⟩
      · rw [decide_eq_true hlt]
        obtain ⟨a, ha, ea⟩ := hQ j hj6
        refine VE.step (fun _ h => V.invS2v sX0_444 dX0_taken_53 need_ok (nX0_463 (σ := S g σ w) rfl dX0_taken_56 h)) ?_
        rw [S_nW hN]
        refine VE.step (fun _ h => V.dup dX0_taken_59 (V.ild1 dX0_taken_60 (V.bipush (v := 6) dX0_taken_61 (by decide) (V.icmp_ge (tgt := 79) dX0_taken_63 (by decide) (fun z => absurd z c_32) (fun _ => h))))) ?_
        refine VE.step (fun _ h => V.ald0 dX0_taken_66 (GX0_35 hX1 rfl dX0_taken_67 (V.ild1 dX0_taken_70 (aX7 (j := j) hX1 (IX.n hj6 (by decide)) dX0_taken_71 (V.i2b dX0_taken_72 h))))) ?_
        rw [ea, (i8_n ha).1]
        refine VE.step (fun _ h => V.invS1r sX0_465 dX0_taken_73 (c_J17_valueOf hB1 ha) (V.goto (tgt := 90) dX0_taken_76 (by decide) h)) ?_
        have hb := hB1.2.2.2 (a + 128) (by omega)
        have hb0 := hB.2.2.2 (a + 128) (by omega)
        have hl : 200 + (a + 128) < 1000 := by omega
        refine fin _ (by rw [show (sT (nW σ (16, 0) 1) (200 + (a + 128))).1 = 20 from hb.2.1]; decide) (.inl ⟨hb0.2.1, a, ha, ?_, ?_⟩) (by omega)
        · rw [S_lo hX.gk hl]
          show up1 (sI σ) (sN σ) (fun _ => 0) (200 + (a + 128)) 0 = nI a
          rw [up1_ne _ _ (by omega), hb0.2.2, (i8_n ha).2.2.1]
        · rw [takenR, if_pos c_9, if_pos hi, if_neg c_32, hP.1, if_pos hlt, cl_n (by omega), ea]
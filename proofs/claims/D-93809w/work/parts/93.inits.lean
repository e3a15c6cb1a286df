set_option maxRecDepth 100000
set_option maxHeartbeats 4000000
/-- an array of arrays is made -/
theorem V.anewA {E : En} {M : Mi} {d : Nat} {out : Out} {pc : Nat} {lv : List (Option Value)} {st : List Value} {σ : Sg} {index n : Nat} {i : Int32} (hl : Cond.classLink (mY M).cls index "[LOverTheHeads$Node;" ∈ lw_all) (hi : ¬ i < 0 ∧ i.toNatClampNeg = n) (hb : n ≤ 1000) (hd : decode (mC M) pc = .ok (.anewarray index, 3)) (h : V E M d out (pc + 3) lv (.ref (sN σ) :: st) (nW σ (106, n) n)) : V E M d out pc lv (.int i :: st) σ := by
  have b1 : sN σ + 1 ≤ sN out.2 := h.1.1
  have b2 : sS σ + n ≤ sS out.2 := h.1.2
  refine ⟨⟨by omega, by omega⟩, fun p e R s m args below meth c' n0 s0 X hf hl' hns hs hc hz ls H locs L P Q => ?_⟩
  intro T hT Y
  have hal0 := X.k.2.alike
  obtain ⟨comp, cA0, kA, w1, w2, w3, w4, w5⟩ := oa_spec (X.k.1.1 _ q163)
  have hcomp : s.vm.findClass "[LOverTheHeads$Node;" = some comp := by rw [hal0.findClass]; exact w1
  have hname : s.vm.findClass ("[" ++ (FieldType.array (.object "OverTheHeads$Node")).toString) = some cA0 := by rw [hal0.findClass]; exact w4
  have hcA : cA0 = eA E 105 := Option.some.inj (hname.symm.trans ((X.k.arr (t := 105) (by decide) (by decide)).2 (by decide)))
  subst hcA
  have hpl : e.platform.magicAccessors = ({} : Platform).magicAccessors := by rw [Y.admits.platform]
  obtain ⟨cc, hfcc, hcl⟩ := Cond.classLink_spec X.own (X.ts args _ hl) e.platform hpl
  cases hcomp.symm.trans hfcc
  obtain ⟨kC0, hkC0, -⟩ := Vm.findClass_spec hcomp
  obtain ⟨hg1, hwarm1, hready1⟩ := State.classEntry (e := e) Y.warmed hcl
  generalize T.vm.noted m.cls index (.cls comp) = vm1 at hg1 hwarm1 hready1
  have hal : s.vm.Alike vm1 := hwarm1.alike
  obtain ⟨kC1, hkC1, -⟩ := hal.2.2 _ _ hkC0
  obtain ⟨kA1, hkA1, he1⟩ := hal0.2.2 _ _ w2
  obtain ⟨kA2, hkA2, he2⟩ := hal.2.2 _ _ hkA1
  have hkind : kA2.kind = .array comp (.array (.object "OverTheHeads$Node")) := by rw [he2]; show kA1.kind = _; rw [he1]; exact w3
  have hidx : (vm1.classes.findIdx? fun x => match x.kind with | .array component _ => component == comp | _ => false) = some (eA E 105) := by
    rw [hal.findIdx?_eq _ (fun _ => rfl), hal0.findIdx?_eq _ (fun _ => rfl)]; exact w5
  have hlimit : ¬ i.toNatClampNeg > e.platform.arrayLengthLimit := by rw [Launch.admits_arrayLengthLimit Y.admits, hi.2]; omega
  have hheap : ¬ i.toNatClampNeg * componentBytes (.array (.object "OverTheHeads$Node")) > e.platform.maxHeapBytes := by
    rw [Launch.admits_maxHeapBytes Y.admits, hi.2]; show ¬ n * 4 > 536870912; omega
  have Y1 := Y.noted hwarm1
  have Y2 := Y1.pushed { cls := eA E 105, slots := Array.replicate i.toNatClampNeg .null, vm := .none }
  rw [hi.2] at Y2
  obtain ⟨hr1, hr2⟩ := Y.roomAbove (show sN σ - n0 + 1 ≤ R.cells by omega) (show sS σ - s0 + n ≤ R.slots by omega)
  have hP : Hp E (nW σ (106, n) n) (H.push { cls := eA E 105, slots := Array.replicate n .null, vm := .none }) := by
    refine P.new (by simp) (fun q hq => by rw [Array.getElem?_push_lt hq]; simp [hq]) ?_
    intro t2 ht
    rw [show sT (nW σ (106, n) n) (sN σ) = (106, n) from up1_eq _ _ _] at ht ⊢
    cases ht
    refine ⟨fun h9 => absurd h9 (by omega), fun _ => ?_⟩
    refine ⟨{ cls := eA E 105, slots := Array.replicate n .null, vm := .none }, (by rw [P.size]; simp), rfl, (fun h => nomatch h), rfl, fun _ => rfl, (by simp), (by simp), fun j hj => ?_⟩
    rw [fv_new (show fk (aTy 105) ≠ 3 by decide)]
    simp [hj]
    rfl
  have e1 : sN σ - n0 + 1 = sN (nW σ (106, n) n) - n0 := by show _ = sN σ + 1 - n0; omega
  have e2 : sS σ - s0 + n = sS (nW σ (106, n) n) - s0 := by show _ = sS σ + n - s0; omega
  have Y3 : Stand p (eL E) e R s m args below meth c' ((T.setVm vm1).pushCell { cls := eA E 105, slots := Array.replicate n .null, vm := .none }) locs (sN (nW σ (106, n) n) - n0) (sS (nW σ (106, n) n) - s0) := by
    rw [← e1, ← e2]
    simpa using Y2
  have hH : ((T.setVm vm1).pushCell { cls := eA E 105, slots := Array.replicate n .null, vm := .none }).heap = H.push { cls := eA E 105, slots := Array.replicate n .null, vm := .none } := by rw [← hT]; rfl
  obtain ⟨t2, a1, b9⟩ := h.2 p e R s m args below meth c' n0 s0 X hf hl' (by show n0 ≤ sN σ + 1; omega) (by show s0 ≤ sS σ + n; omega) hc hz ls _ locs L hP Q _ hH Y3
  refine ⟨t2, ?_, b9⟩
  have hsz : cA E (sN σ) = T.heap.size := by rw [hT]; exact P.size
  have hb' := X.b
  have hx' := X.x
  show Steps p.tables e below (T.setTop (F0 m pc ls (.int i :: st.map (cV E)))) t2
  jvm_step Y.here [hx', hb', hd, anewarray.wp_cold (e := e) (s := T) (f := F0 m pc ls (.int i :: st.map (cV E))) Y.here.top hg1 hready1,
    anewarray.wp_ready (e := e) (s := T.setVm vm1) (f := F0 m pc ls (.int i :: st.map (cV E))) (n := i) (rest := st.map (cV E)) (kc := kC1) (k := kA2) (type := .array (.object "OverTheHeads$Node")) Y.here.top hready1 hkC1 hidx hkA2 hkind rfl rfl hi.1 hlimit hheap]
  rw [hi.2]
  refine ⟨by show T.heap.size < _; omega, by show T.slotsUsed + _ ≤ _; exact hr2, ?_⟩
  rw [← hsz]
  exact a1
/-! ===== constructors: what has been made from address X on ===== -/
def HX (σ : Sg) (k sl : Nat) (tg : Nat → Nat × Nat) (vl : Nat → Nat → Int32) (rf : Nat → Nat → Option Nat) (lg : Nat → Nat → Int64) (τ : Sg) : Prop := FG σ τ k sl ∧ sN τ = sN σ + k ∧ ∀ d, d < k → sT τ (sN σ + d) = tg d ∧ sI τ (sN σ + d) = vl d ∧ sR τ (sN σ + d) = rf d ∧ sL τ (sN σ + d) = lg d
section
variable {σ τ : Sg} {k sl : Nat} {tg : Nat → Nat × Nat} {vl : Nat → Nat → Int32} {rf : Nat → Nat → Option Nat} {lg : Nat → Nat → Int64}
theorem HX.st (hC : CLN σ) : HX σ 0 0 tg vl rf lg σ := ⟨FG.rfl hC, rfl, fun d hd => by omega⟩
theorem HX.new (h : HX σ k sl tg vl rf lg τ) (t : Nat × Nat) (w : Nat) : ∃ τ', nW τ t w = τ' ∧ HX σ (k + 1) (sl + w) (up1 tg k t) (up1 vl k (fun _ => 0)) (up1 rf k (fun _ => none)) (up1 lg k (fun _ => 0)) τ' := by
  obtain ⟨h1, h2, h3⟩ := h
  refine ⟨_, rfl, h1.tr (FG.n h1.2.2.1), by show sN τ + 1 = _; omega, fun d hd => ?_⟩
  show up1 (sT τ) (sN τ) t (sN σ + d) = _ ∧ up1 (sI τ) (sN τ) (fun _ => 0) (sN σ + d) = _ ∧ up1 (sR τ) (sN τ) (fun _ => none) (sN σ + d) = _ ∧ up1 (sL τ) (sN τ) (fun _ => 0) (sN σ + d) = _
  by_cases e : d = k
  · subst e
    rw [← h2, up1_eq, up1_eq, up1_eq, up1_eq, up1_eq, up1_eq, up1_eq, up1_eq]
    exact ⟨rfl, rfl, rfl, rfl⟩
  · have n1 : sN σ + d ≠ sN τ := by omega
    rw [up1_ne _ _ n1, up1_ne _ _ n1, up1_ne _ _ n1, up1_ne _ _ n1, up1_ne _ _ e, up1_ne _ _ e, up1_ne _ _ e, up1_ne _ _ e]
    exact h3 d (by omega)
theorem HX.pI (hC : CLN σ) (h : HX σ k sl tg vl rf lg τ) (d j : Nat) (v : Int32) : ∃ τ', pI τ (sN σ + d) j v = τ' ∧ HX σ k sl tg (up2 vl d j v) rf lg τ' := by
  obtain ⟨h1, h2, h3⟩ := h
  refine ⟨_, rfl, h1.pI (hC _ (by omega)), h2, fun e he => ?_⟩
  obtain ⟨q1, q2, q3, q4⟩ := h3 e he
  refine ⟨q1, ?_, q3, q4⟩
  show up2 (sI τ) (sN σ + d) j v (sN σ + e) = _
  funext i
  unfold up2
  by_cases z : e = d ∧ i = j
  · rw [if_pos ⟨by omega, z.2⟩, if_pos z]
  · rw [if_neg (fun y => z ⟨by omega, y.2⟩), if_neg z, q2]
theorem HX.pR (hC : CLN σ) (h : HX σ k sl tg vl rf lg τ) (d j : Nat) (v : Option Nat) : ∃ τ', pR τ (sN σ + d) j v = τ' ∧ HX σ k sl tg vl (up2 rf d j v) lg τ' := by
  obtain ⟨h1, h2, h3⟩ := h
  refine ⟨_, rfl, h1.pR (hC _ (by omega)), h2, fun e he => ?_⟩
  obtain ⟨q1, q2, q3, q4⟩ := h3 e he
  refine ⟨q1, q2, ?_, q4⟩
  show up2 (sR τ) (sN σ + d) j v (sN σ + e) = _
  funext i
  unfold up2
  by_cases z : e = d ∧ i = j
  · rw [if_pos ⟨by omega, z.2⟩, if_pos z]
  · rw [if_neg (fun y => z ⟨by omega, y.2⟩), if_neg z, q3]
theorem HX.pL (hC : CLN σ) (h : HX σ k sl tg vl rf lg τ) (d j : Nat) (v : Int64) : ∃ τ', pL τ (sN σ + d) j v = τ' ∧ HX σ k sl tg vl rf (up2 lg d j v) τ' := by
  obtain ⟨h1, h2, h3⟩ := h
  refine ⟨_, rfl, ⟨h1.1, h1.2.1, h1.2.2.1, fun x hx => ?_⟩, h2, fun e he => ?_⟩
  · obtain ⟨q1, q2, q3, q4⟩ := h1.2.2.2 x hx
    exact ⟨q1, q2, q3, (up2_at _ _ (fun z => hx (by rw [z]; exact hC _ (by omega)))).trans q4⟩
  · obtain ⟨q1, q2, q3, q4⟩ := h3 e he
    refine ⟨q1, q2, q3, ?_⟩
    show up2 (sL τ) (sN σ + d) j v (sN σ + e) = _
    funext i
    unfold up2
    by_cases z : e = d ∧ i = j
    · rw [if_pos ⟨by omega, z.2⟩, if_pos z]
    · rw [if_neg (fun y => z ⟨by omega, y.2⟩), if_neg z, q4]
end
/-! ===== small constructors ===== -/
theorem c_J2_init {E : En} {τ : Sg} {l : Nat} (hE : EMP E τ) (ht : (sT τ l).1 = 17) (hl : 1000 ≤ l) (h0 : sI τ l 0 = 0) : Ct E mJ2_init 3 [.ref l] (.returned none, pR τ l 1 (some 1)) τ := by
  have c0 : Ct E mJ0_init 1 [.ref l] (.returned none, τ) τ := by
    show V E mJ0_init 1 _ 0 [some (.ref l)] [] τ
    exact V.ald0 dJ0_init_0 (V.oinit q146 dJ0_init_1 (V.vret dJ0_init_4 rfl rfl))
  have c1 : Ct E mJ1_init 2 [.ref l] (.returned none, τ) τ := by
    show V E mJ1_init 2 _ 0 [some (.ref l)] [] τ
    refine V.ald0 dJ1_init_0 (V.invI0v iJ1_1 dJ1_init_1 c0 (V.ald0 dJ1_init_4 (V.iconst_0 dJ1_init_5 (pJ1_7 rfl ht hl dJ1_init_6 ?_))))
    rw [pI_nop h0]
    exact V.vret dJ1_init_9 rfl rfl
  show V E mJ2_init 3 _ 0 [some (.ref l)] [] τ
  exact V.ald0 dJ2_init_0 (V.invI0v iJ2_1 dJ2_init_1 c1 (V.ald0 dJ2_init_4 (V.gets hE.1 q147 dJ2_init_5 (pJ2_9 rfl ht hl dJ2_init_8 (V.vret dJ2_init_11 rfl rfl)))))
def shH (τ : Sg) (s : Nat) : Sg := pR (nW (pI τ s 0 (-1)) (101, 60) 60) s 2 (some (sN τ))
theorem c_X1_init {E : En} {τ : Sg} {s : Nat} (ht : (sT τ s).1 = 2) (hs : 1000 ≤ s) (hne : s ≠ sN τ) (h1 : sI τ s 1 = 0) : Ct E mX1_init 1 [.ref s] (.returned none, shH τ s) τ := by
  show V E mX1_init 1 _ 0 [some (.ref s)] [] τ
  refine V.ald0 dX1_init_0 (V.oinit q170 dX1_init_1 (V.ald0 dX1_init_4 (V.iconst_m1 dX1_init_5 (pX1_9 rfl ht hs dX1_init_6 (V.ald0 dX1_init_9 (V.iconst_0 dX1_init_10 (pX1_15 (σ := pI τ s 0 (-1)) rfl ht hs dX1_init_11 ?_)))))))
  rw [pI_nop (σ := pI τ s 0 (-1)) (a := s) (k := 1) (v := 0) (by show up2 (sI τ) s 0 (-1) s 1 = 0; rw [up2_ne _ _ (by simp)]; exact h1)]
  refine V.ald0 dX1_init_14 (V.bipush (v := 60) dX1_init_15 (by decide) (V.newI (n := 60) rfl (by decide) dX1_init_17 (pX1_18 (σ := nW (pI τ s 0 (-1)) (101, 60) 60) rfl rfl ?_ hs dX1_init_19 (V.vret dX1_init_22 rfl rfl))))
  show (up1 (sT τ) (sN τ) (101, 60) s).1 = 2
  rw [up1_ne _ _ hne]; exact ht
/-! ===== the first text ===== -/
def ILt : List Int32 := [108, 105, 107, 101, 32, 118, 97, 108, 117, 101, 32, 59, 32, 112, 114, 105, 99, 101, 32, 118, 97, 108, 117, 101, 32, 42, 32, 50, 32, 45, 32, 114, 111, 119, 32, 59, 32, 99, 111, 115, 116, 32, 104, 105, 103, 104, 32, 42, 32, 51, 32, 43, 32, 114, 105, 115, 101, 32, 59]
theorem il_ok : txS (fun i => ILt.getD i 0) 59 = (59, some ([0, 0, 100002, 18, 2, 17, 1, 100003, 18, 4, 16], [0, 1, 6, 11])) := by decide +kernel
theorem il_b : ∀ i, i < 59 → ∃ k, k < 128 ∧ ILt.getD i 0 = nI k := by decide +kernel
def RDQ (τ : Sg) : Outcome → Sg → Prop := fun oc s9 => ∃ (A : Nat) (cs : Nat → List Int32), oc = .returned (some (.ref A)) ∧ FG τ s9 1300 6300 ∧ (preC cs 3 = [0, 0, 100002, 18, 2, 17, 1, 100003, 18, 4, 16] ∧ stS cs 4 = [0, 1, 6, 11]) ∧ sN τ ≤ A ∧ sT s9 A = (105, 3) ∧ ∀ j, j < 3 → ∃ b d, d ≤ 400 ∧ sR s9 A j = some b ∧ Tg (sN τ) s9 d b (cs j)
theorem c_X0_read {E : En} (hJ : JS E) (hU : EU E) {τ : Sg} (hO : OS E τ) (h23 : Stg τ 23 ILt) (h1 : 1000 ≤ sN τ) (hC : CLN τ) : CtE E mX0_read 302 [.ref 23] (RDQ τ) τ := by
  show VE E mX0_read 302 _ 0 [some (.ref 23), none, none] [] τ
  have hz := hC (sN τ) (Nat.le_refl _)
  refine VE.step (fun _ h => V.ald0 dX0_read_0 (V.invV0r vX0_409 h23.1 dX0_read_1 (c_J3_length hJ h23) (V.newB (n := 59) rfl (by decide) dX0_read_4 (V.ast1 dX0_read_6 (V.iconst_0 dX0_read_7 (V.ist2 dX0_read_8 h)))))) ?_
  have L9 : ∀ (m k : Nat) (τ1 : Sg), k + m = 59 → FG τ τ1 1 59 → sN τ1 = sN τ + 1 → sT τ1 (sN τ) = (102, 59) → (∀ i, i < k → sI τ1 (sN τ) i = ILt.getD i 0) → VE E mX0_read 302 (RDQ τ) 9 [some (.ref 23), some (.ref (sN τ)), some (.int (nI k))] [] τ1 := by
    intro m
    induction m with
    | zero =>
      intro k τ1 hk F hN tA hv
      obtain rfl : k = 59 := by omega
      refine VE.step (fun _ h => V.ild2 dX0_read_9 (V.ald1 dX0_read_10 (V.alen (t := 101) tA (by decide) (by decide) dX0_read_11 (V.icmp_ge (tgt := 30) dX0_read_12 (by decide) (fun _ => h) (fun z => absurd (by decide) z))))) ?_
      have hC1 := F.2.2.1
      have h11 : 1000 ≤ sN τ1 := by omega
      have hCx : Cxt E (rdN τ1 (sN τ) (nI 59)) (sN τ1) 59 (fun i => ILt.getD i 0) := rdN_Cx hJ hU (hO.fg F) hC1 h11 (by decide) tA (Nat.le_refl _) (by decide) (fun i hi => by
        rw [hv i hi]
        obtain ⟨k, hk, e⟩ := il_b i hi
        rw [e]
        exact (show ∀ k, k < 128 → nI k &&& 255 = nI k by decide +kernel) k hk)
      have hne : sN τ ≠ sN τ1 := by omega
      have tA' : sT (nW τ1 (3, 0) 8) (sN τ) = (102, 59) := by
        show up1 (sT τ1) (sN τ1) (3, 0) (sN τ) = _
        rw [up1_ne _ _ hne]; exact tA
      have hz9 : ∀ j, sI (nW τ1 (3, 0) 8) (sN τ1) j = 0 := fun j => by
        show up1 (sI τ1) (sN τ1) (fun _ => 0) (sN τ1) j = 0
        rw [up1_eq]
      refine VE.step (fun _ h => nX0_418 rfl dX0_read_30 (V.dup dX0_read_33 (V.ald1 dX0_read_34 (V.ald1 dX0_read_35 (V.alen (t := 101) tA' (by decide) (by decide) dX0_read_36 (V.invI2v iX0_420 dX0_read_37 (c_X2_init (τ := nW τ1 (3, 0) 8) (r := sN τ1) (by rw [nX_t]) h11 (hz9 2) (hz9 3) (hz9 4)) h)))))) ?_
      have eH : pI (pR (nW τ1 (3, 0) 8) (sN τ1) 0 (some (sN τ))) (sN τ1) 1 (nI 59) = rdS (rdN τ1 (sN τ) (nI 59)) (sN τ1) (nI 0) 0 (nI 0) 0 0 none := (rdN_rd (τ := τ1) (tb := sN τ) (x := nI 59)).symm
      rw [eH]
      refine VE.callAny (As := [.ref (sN τ1)]) rfl dX0_read_40 wX2_parts (show 60 < 302 by decide) (Nat.le_of_ble_eq_true rfl) (Nat.le_of_ble_eq_true rfl) (Lk.V (As := []) (rest := []) vX0_423 hCx.t rfl dX0_read_40) (c_X2_parts hCx (f := 0) (n := 0) (s := 0) (w := none)) (fun v s9 q9 => ?_) (fun fa s9 q9 => ?_)
      · rcases q9 with ⟨p, q, -⟩ | ⟨σ', A, p, a9, f9, o9, n9, s99, w9, cs, q1, rfl, F9, htx, hA, tA9, hT9⟩
        · exact q.thr.elim
        · cases q1
          rw [il_ok] at htx
          have e9 := (Prod.mk.inj (Option.some.inj (Prod.mk.inj htx).2))
          have FN : FG τ1 (rdN τ1 (sN τ) (nI 59)) 1 8 := rdN_fg hC1
          have hzr : (sT τ (sN τ1)).1 = 0 := hC _ (by omega)
          have F2 : FG τ (rdS σ' (sN τ1) a9 f9 o9 n9 s99 w9) (1 + 1 + (20 * 59 + 40)) (59 + 8 + (100 * 59 + 200)) := ((F.tr FN).tr F9).rd hzr
          have hNb : sN (rdN τ1 (sN τ) (nI 59)) = sN τ + 2 := by show sN τ1 + 1 = _; omega
          rw [hNb] at hA hT9
          refine VE.aret (o := some A) dX0_read_43 rfl rfl ⟨A, cs, rfl, F2.le (by decide) (by decide), ⟨e9.1.symm, e9.2.symm⟩, by omega, tA9, fun j hj => ?_⟩
          obtain ⟨b, d, d1, d2, d3⟩ := hT9 j hj
          have hAr : A ≠ sN τ1 := by omega
          refine ⟨b, d, d1, by rw [(rd_ne hAr).2]; exact d2, Tg.lo (show sN τ ≤ sN τ + 2 by omega) _ _ _ (Tg.ag (fun x hx _ => ?_) _ _ _ d3)⟩
          have hxr : x ≠ sN τ1 := by omega
          exact ⟨rfl, (rd_ne hxr).2, (rd_ne hxr).1⟩
      · rcases q9 with ⟨p, -, htx⟩ | ⟨_, _, _, _, _, _, _, _, _, _, q1, -⟩
        · rw [il_ok] at htx; cases htx
        · cases q1
    | succ m ih =>
      intro k τ1 hk F hN tA hv
      obtain ⟨q, hq, e⟩ := il_b k (by omega)
      have h23' := h23.fg F
      refine VE.step (fun _ h => V.ild2 dX0_read_9 (V.ald1 dX0_read_10 (V.alen (t := 101) tA (by decide) (by decide) dX0_read_11 (V.icmp_ge (tgt := 30) dX0_read_12 (by decide) (fun z => absurd ((nI_leI (by decide) (by omega)).mp z) (by omega)) (fun _ => h))))) ?_
      refine VE.step (fun _ h => V.ald1 dX0_read_15 (V.ild2 dX0_read_16 (V.ald0 dX0_read_17 (V.ild2 dX0_read_18 (V.invV1r vX0_414 h23'.1 dX0_read_19 (c_J3_charAt hJ h23' (by decide) (show k < 59 by omega) hq e) (V.i2b dX0_read_22 (V.bast tA h1 (IX.n (j := k) (by omega) (by decide)) dX0_read_23 (V.inc2 dX0_read_24 (V.goto (tgt := 9) dX0_read_27 (by decide) h))))))))) ?_
      rw [nI_1, i7_n hq, i7_n hq]
      refine ih (k + 1) _ (by omega) (F.pI hz) hN tA (fun i hi => ?_)
      show up2 (sI τ1) (sN τ) k (nI q) (sN τ) i = _
      by_cases e2 : i = k
      · rw [e2, up2_eq, e]
      · rw [up2_ne _ _ (fun z => e2 z.2)]; exact hv i (by omega)
  exact L9 59 0 _ (by omega) (FG.n hC) rfl (by show up1 (sT τ) (sN τ) (102, 59) (sN τ) = _; rw [up1_eq]) (fun i hi => by omega)

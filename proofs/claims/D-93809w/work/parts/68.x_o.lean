set_option maxRecDepth 100000
set_option maxHeartbeats 1000000
/-- what a static of the start holds -/
def SV (E : En) (C n d : String) (v : Value) : Prop := va_Z C n d (cV E v) (fun _ => False) (eS E) (eS E).heap
section
variable {E : En} {M : Mi} {d : Nat} {out : Out} {pc : Nat} {lv : List (Option Value)} {st : List Value} {σ : Sg}
theorem V.gets {index : Nat} {C nm ds : String} {v : Value} (hz : SV E C nm ds v) (hl : Cond.fieldLink (mY M).cls index C nm ds ∈ lw_all) (hd : decode (mC M) pc = .ok (.getstatic index, 3)) (h : V E M d out (pc + 3) lv (v :: st) σ) : V E M d out pc lv st σ := by
  refine ⟨h.1, fun p e R s m args below meth c' n0 s0 X hf hl' hns hs hc hz' ls H locs L P Q => ?_⟩
  obtain ⟨cf, kf, fi, f, a, cell, h1, h2, h3, h4, h5, h6, h7, h8⟩ := va_Z.moved X.k.2.alike hz
  exact W.gets X.x X.b X.own (X.ts args _ hl) h1 h2 h3 h4 (by rw [P.2.2.2.2 a (Array.getElem?_eq_some_iff.mp h5).1]; exact h5) (fun e => by rw [e] at h6; cases h6) h7 rfl hd (h.2 p e R s m args below meth c' n0 s0 X hf hl' hns hs hc hz' ls H locs L P Q)
theorem V.oinit {index a : Nat} (hl : Cond.methodLink (mY M).cls index Lib.objectInit ∈ lw_all) (hd : decode (mC M) pc = .ok (.invokespecial index, 3)) (h : V E M d out (pc + 3) lv st σ) (hdd : Nat.blt 0 d = true := by rfl) (hst : Nat.ble (st.map fun v => v.category).sum 8 = true := by first | rfl | (simp [va_rf_cat]; done)) : V E M d out pc lv (.ref a :: st) σ := by
  have hdd' : 0 < d := Nat.le_of_ble_eq_true hdd
  have hst' := Nat.le_of_ble_eq_true hst
  refine ⟨h.1, fun p e R s m args below meth c' n0 s0 X hf hl' hns hs hc hz' ls H locs L P Q => ?_⟩
  have hcat : (List.map (fun v => v.category) (st.map (cV E))).sum ≤ 8 := by
    rw [List.map_map, show ((fun v : Value => v.category) ∘ cV E) = (fun v : Value => v.category) from funext fun v => cV_cat E v]
    exact hst'
  exact W.objInit X.x X.b X.own (X.ts args _ hl) (X.ts args _ q133) (X.ts args _ q134) (g := F0 m pc ls ((.ref a :: st).map (cV E))) rfl (by show ls.size = _; rw [X.ml]; exact L.1) (a := cA E a) (rest := st.map (cV E)) rfl hd (by omega) (by show 2 * 0 + (List.map (fun v => v.category) (st.map (cV E))).sum + 12 ≤ R.locals; omega) (h.2 p e R s m args below meth c' n0 s0 X hf hl' hns hs hc hz' ls H locs L P Q)
end
/-- the statics that a Throwable's constructor reads -/
def EU (E : En) : Prop := ∃ oU oS : Option Nat, SV E "java/lang/Throwable" "UNASSIGNED_STACK" "[Ljava/lang/StackTraceElement;" (va_rf oU) ∧ SV E "java/lang/Throwable" "SUPPRESSED_SENTINEL" "Ljava/util/List;" (va_rf oS)
theorem thr_refs {f : Nat → Nat → Option Nat} {a : Nat} {x oU oS : Option Nat} (h0 : ∀ k, k < 4 → f a k = none) : up2 (up2 (up2 (up2 (up2 (up2 (up2 f a 0 x) a 1 oU) a 2 oS) a 1 none) a 3 none) a 0 none) a 2 none = f := by
  funext i j
  unfold up2
  by_cases hi : i = a
  · subst hi
    by_cases h1 : j = 0
    · subst h1; simp [h0 0 (by decide)]
    by_cases h1 : j = 1
    · subst h1; simp [h0 1 (by decide)]
    by_cases h1 : j = 2
    · subst h1; simp [h0 2 (by decide)]
    by_cases h1 : j = 3
    · subst h1; simp [h0 3 (by decide)]
    simp [*]
  · simp [hi]
/-- a heap by its references -/
abbrev rR (σ : Sg) (f : Nat → Nat → Option Nat) : Sg := (sN σ, sS σ, sT σ, sI σ, sL σ, f)
section
variable {E : En} {M : Mi} {d : Nat} {out : Out} {pc : Nat} {lv : List (Option Value)} {st : List Value} {σ : Sg} {f : Nat → Nat → Option Nat}
theorem tp7_3 (hM : (mY M).cls = RJ12) {a : Nat} (ht : (sT σ a).1 = 4) (ha : 1000 ≤ a) (hd : decode (mC M) pc = .ok (.putfield 7, 3)) {b : Nat} (h : V E M d out (pc + 3) lv st (rR σ (up2 f a 0 (some b)))) : V E M d out pc lv (.ref b :: .ref a :: st) (rR σ f) := pJ12_7_3 (σ := rR σ f) hM ht ha hd h
theorem tpn7_3 (hM : (mY M).cls = RJ12) {a : Nat} (ht : (sT σ a).1 = 4) (ha : 1000 ≤ a) (hd : decode (mC M) pc = .ok (.putfield 7, 3)) (h : V E M d out (pc + 3) lv st (rR σ (up2 f a 0 (none)))) : V E M d out pc lv (.null :: .ref a :: st) (rR σ f) := pnJ12_7_3 (σ := rR σ f) hM ht ha hd h
theorem tpo7_3 (hM : (mY M).cls = RJ12) {a : Nat} (ht : (sT σ a).1 = 4) (ha : 1000 ≤ a) (hd : decode (mC M) pc = .ok (.putfield 7, 3)) {o : Option Nat} (h : V E M d out (pc + 3) lv st (rR σ (up2 f a 0 (o)))) : V E M d out pc lv (va_rf o :: .ref a :: st) (rR σ f) := poJ12_7_3 (σ := rR σ f) hM ht ha hd h
theorem tp17_3 (hM : (mY M).cls = RJ12) {a : Nat} (ht : (sT σ a).1 = 4) (ha : 1000 ≤ a) (hd : decode (mC M) pc = .ok (.putfield 17, 3)) {b : Nat} (h : V E M d out (pc + 3) lv st (rR σ (up2 f a 1 (some b)))) : V E M d out pc lv (.ref b :: .ref a :: st) (rR σ f) := pJ12_17_3 (σ := rR σ f) hM ht ha hd h
theorem tpn17_3 (hM : (mY M).cls = RJ12) {a : Nat} (ht : (sT σ a).1 = 4) (ha : 1000 ≤ a) (hd : decode (mC M) pc = .ok (.putfield 17, 3)) (h : V E M d out (pc + 3) lv st (rR σ (up2 f a 1 (none)))) : V E M d out pc lv (.null :: .ref a :: st) (rR σ f) := pnJ12_17_3 (σ := rR σ f) hM ht ha hd h
theorem tpo17_3 (hM : (mY M).cls = RJ12) {a : Nat} (ht : (sT σ a).1 = 4) (ha : 1000 ≤ a) (hd : decode (mC M) pc = .ok (.putfield 17, 3)) {o : Option Nat} (h : V E M d out (pc + 3) lv st (rR σ (up2 f a 1 (o)))) : V E M d out pc lv (va_rf o :: .ref a :: st) (rR σ f) := poJ12_17_3 (σ := rR σ f) hM ht ha hd h
theorem tp24_3 (hM : (mY M).cls = RJ12) {a : Nat} (ht : (sT σ a).1 = 4) (ha : 1000 ≤ a) (hd : decode (mC M) pc = .ok (.putfield 24, 3)) {b : Nat} (h : V E M d out (pc + 3) lv st (rR σ (up2 f a 2 (some b)))) : V E M d out pc lv (.ref b :: .ref a :: st) (rR σ f) := pJ12_24_3 (σ := rR σ f) hM ht ha hd h
theorem tpn24_3 (hM : (mY M).cls = RJ12) {a : Nat} (ht : (sT σ a).1 = 4) (ha : 1000 ≤ a) (hd : decode (mC M) pc = .ok (.putfield 24, 3)) (h : V E M d out (pc + 3) lv st (rR σ (up2 f a 2 (none)))) : V E M d out pc lv (.null :: .ref a :: st) (rR σ f) := pnJ12_24_3 (σ := rR σ f) hM ht ha hd h
theorem tpo24_3 (hM : (mY M).cls = RJ12) {a : Nat} (ht : (sT σ a).1 = 4) (ha : 1000 ≤ a) (hd : decode (mC M) pc = .ok (.putfield 24, 3)) {o : Option Nat} (h : V E M d out (pc + 3) lv st (rR σ (up2 f a 2 (o)))) : V E M d out pc lv (va_rf o :: .ref a :: st) (rR σ f) := poJ12_24_3 (σ := rR σ f) hM ht ha hd h
theorem tp31_3 (hM : (mY M).cls = RJ12) {a : Nat} (ht : (sT σ a).1 = 4) (ha : 1000 ≤ a) (hd : decode (mC M) pc = .ok (.putfield 31, 3)) {b : Nat} (h : V E M d out (pc + 3) lv st (rR σ (up2 f a 3 (some b)))) : V E M d out pc lv (.ref b :: .ref a :: st) (rR σ f) := pJ12_31_3 (σ := rR σ f) hM ht ha hd h
theorem tpn31_3 (hM : (mY M).cls = RJ12) {a : Nat} (ht : (sT σ a).1 = 4) (ha : 1000 ≤ a) (hd : decode (mC M) pc = .ok (.putfield 31, 3)) (h : V E M d out (pc + 3) lv st (rR σ (up2 f a 3 (none)))) : V E M d out pc lv (.null :: .ref a :: st) (rR σ f) := pnJ12_31_3 (σ := rR σ f) hM ht ha hd h
theorem tpo31_3 (hM : (mY M).cls = RJ12) {a : Nat} (ht : (sT σ a).1 = 4) (ha : 1000 ≤ a) (hd : decode (mC M) pc = .ok (.putfield 31, 3)) {o : Option Nat} (h : V E M d out (pc + 3) lv st (rR σ (up2 f a 3 (o)))) : V E M d out pc lv (va_rf o :: .ref a :: st) (rR σ f) := poJ12_31_3 (σ := rR σ f) hM ht ha hd h
theorem tp7_14 (hM : (mY M).cls = RJ12) {a : Nat} (ht : (sT σ a).1 = 15) (ha : 1000 ≤ a) (hd : decode (mC M) pc = .ok (.putfield 7, 3)) {b : Nat} (h : V E M d out (pc + 3) lv st (rR σ (up2 f a 0 (some b)))) : V E M d out pc lv (.ref b :: .ref a :: st) (rR σ f) := pJ12_7_14 (σ := rR σ f) hM ht ha hd h
theorem tpn7_14 (hM : (mY M).cls = RJ12) {a : Nat} (ht : (sT σ a).1 = 15) (ha : 1000 ≤ a) (hd : decode (mC M) pc = .ok (.putfield 7, 3)) (h : V E M d out (pc + 3) lv st (rR σ (up2 f a 0 (none)))) : V E M d out pc lv (.null :: .ref a :: st) (rR σ f) := pnJ12_7_14 (σ := rR σ f) hM ht ha hd h
theorem tpo7_14 (hM : (mY M).cls = RJ12) {a : Nat} (ht : (sT σ a).1 = 15) (ha : 1000 ≤ a) (hd : decode (mC M) pc = .ok (.putfield 7, 3)) {o : Option Nat} (h : V E M d out (pc + 3) lv st (rR σ (up2 f a 0 (o)))) : V E M d out pc lv (va_rf o :: .ref a :: st) (rR σ f) := poJ12_7_14 (σ := rR σ f) hM ht ha hd h
theorem tp17_14 (hM : (mY M).cls = RJ12) {a : Nat} (ht : (sT σ a).1 = 15) (ha : 1000 ≤ a) (hd : decode (mC M) pc = .ok (.putfield 17, 3)) {b : Nat} (h : V E M d out (pc + 3) lv st (rR σ (up2 f a 1 (some b)))) : V E M d out pc lv (.ref b :: .ref a :: st) (rR σ f) := pJ12_17_14 (σ := rR σ f) hM ht ha hd h
theorem tpn17_14 (hM : (mY M).cls = RJ12) {a : Nat} (ht : (sT σ a).1 = 15) (ha : 1000 ≤ a) (hd : decode (mC M) pc = .ok (.putfield 17, 3)) (h : V E M d out (pc + 3) lv st (rR σ (up2 f a 1 (none)))) : V E M d out pc lv (.null :: .ref a :: st) (rR σ f) := pnJ12_17_14 (σ := rR σ f) hM ht ha hd h
theorem tpo17_14 (hM : (mY M).cls = RJ12) {a : Nat} (ht : (sT σ a).1 = 15) (ha : 1000 ≤ a) (hd : decode (mC M) pc = .ok (.putfield 17, 3)) {o : Option Nat} (h : V E M d out (pc + 3) lv st (rR σ (up2 f a 1 (o)))) : V E M d out pc lv (va_rf o :: .ref a :: st) (rR σ f) := poJ12_17_14 (σ := rR σ f) hM ht ha hd h
theorem tp24_14 (hM : (mY M).cls = RJ12) {a : Nat} (ht : (sT σ a).1 = 15) (ha : 1000 ≤ a) (hd : decode (mC M) pc = .ok (.putfield 24, 3)) {b : Nat} (h : V E M d out (pc + 3) lv st (rR σ (up2 f a 2 (some b)))) : V E M d out pc lv (.ref b :: .ref a :: st) (rR σ f) := pJ12_24_14 (σ := rR σ f) hM ht ha hd h
theorem tpn24_14 (hM : (mY M).cls = RJ12) {a : Nat} (ht : (sT σ a).1 = 15) (ha : 1000 ≤ a) (hd : decode (mC M) pc = .ok (.putfield 24, 3)) (h : V E M d out (pc + 3) lv st (rR σ (up2 f a 2 (none)))) : V E M d out pc lv (.null :: .ref a :: st) (rR σ f) := pnJ12_24_14 (σ := rR σ f) hM ht ha hd h
theorem tpo24_14 (hM : (mY M).cls = RJ12) {a : Nat} (ht : (sT σ a).1 = 15) (ha : 1000 ≤ a) (hd : decode (mC M) pc = .ok (.putfield 24, 3)) {o : Option Nat} (h : V E M d out (pc + 3) lv st (rR σ (up2 f a 2 (o)))) : V E M d out pc lv (va_rf o :: .ref a :: st) (rR σ f) := poJ12_24_14 (σ := rR σ f) hM ht ha hd h
theorem tp31_14 (hM : (mY M).cls = RJ12) {a : Nat} (ht : (sT σ a).1 = 15) (ha : 1000 ≤ a) (hd : decode (mC M) pc = .ok (.putfield 31, 3)) {b : Nat} (h : V E M d out (pc + 3) lv st (rR σ (up2 f a 3 (some b)))) : V E M d out pc lv (.ref b :: .ref a :: st) (rR σ f) := pJ12_31_14 (σ := rR σ f) hM ht ha hd h
theorem tpn31_14 (hM : (mY M).cls = RJ12) {a : Nat} (ht : (sT σ a).1 = 15) (ha : 1000 ≤ a) (hd : decode (mC M) pc = .ok (.putfield 31, 3)) (h : V E M d out (pc + 3) lv st (rR σ (up2 f a 3 (none)))) : V E M d out pc lv (.null :: .ref a :: st) (rR σ f) := pnJ12_31_14 (σ := rR σ f) hM ht ha hd h
theorem tpo31_14 (hM : (mY M).cls = RJ12) {a : Nat} (ht : (sT σ a).1 = 15) (ha : 1000 ≤ a) (hd : decode (mC M) pc = .ok (.putfield 31, 3)) {o : Option Nat} (h : V E M d out (pc + 3) lv st (rR σ (up2 f a 3 (o)))) : V E M d out pc lv (va_rf o :: .ref a :: st) (rR σ f) := poJ12_31_14 (σ := rR σ f) hM ht ha hd h
end
theorem thr_heap {σ : Sg} {a : Nat} {x oU oS : Option Nat} (h0 : ∀ k, k < 4 → sR σ a k = none) : ((.returned none : Outcome), σ) = (.returned none, rR σ (up2 (up2 (up2 (up2 (up2 (up2 (up2 (sR σ) a 0 x) a 1 oU) a 2 oS) a 1 none) a 3 none) a 0 none) a 2 none)) := by
  rw [thr_refs h0]
theorem c_J12_init_X3 {E : En} {σ : Sg} (hU : EU E) {a : Nat} (ha : 1000 ≤ a) (ht : (sT σ a).1 = 4) (h0 : ∀ k, k < 4 → sR σ a k = none) : Ct E mJ12_init_2 1 [.ref a, .null, .null, .int 0, .int 0] (.returned none, σ) σ := by
  obtain ⟨oU, oS, hz1, hz2⟩ := hU
  show V E mJ12_init_2 1 _ 0 [some (.ref a), some .null, some .null, some (.int 0), some (.int 0)] [] (rR σ (sR σ))
  refine V.ald0 dJ12_init_2_0 (V.oinit q482 dJ12_init_2_1 (V.ald0 dJ12_init_2_4 (V.ald0 dJ12_init_2_5 (tp7_3 rfl ht ha dJ12_init_2_6 (V.ald0 dJ12_init_2_9 (V.gets hz1 q483 dJ12_init_2_10 (tpo17_3 rfl ht ha dJ12_init_2_13 (V.ald0 dJ12_init_2_16 (V.gets hz2 q485 dJ12_init_2_17 (tpo24_3 rfl ht ha dJ12_init_2_20 ?_))))))))))
  refine V.ild4 dJ12_init_2_23 (V.if_eq (tgt := 36) dJ12_init_2_25 (by decide) (fun _ => ?_) (fun z => absurd rfl z))
  refine V.ald0 dJ12_init_2_36 (V.aconst_null dJ12_init_2_37 (tpn17_3 rfl ht ha dJ12_init_2_38 (V.ald0 dJ12_init_2_41 (V.zld1 dJ12_init_2_42 (tpn31_3 rfl ht ha dJ12_init_2_43 (V.ald0 dJ12_init_2_46 (V.zld2 dJ12_init_2_47 (tpn7_3 rfl ht ha dJ12_init_2_48 ?_))))))))
  refine V.ild3 dJ12_init_2_51 (V.if_ne (tgt := 60) dJ12_init_2_52 (by decide) (fun z => absurd rfl z) (fun _ => ?_))
  refine V.ald0 dJ12_init_2_55 (V.aconst_null dJ12_init_2_56 (tpn24_3 rfl ht ha dJ12_init_2_57 (V.vret dJ12_init_2_60 rfl ?_)))
  exact thr_heap h0
theorem c_J13_init_X3 {E : En} {σ : Sg} (hU : EU E) {a : Nat} (ha : 1000 ≤ a) (ht : (sT σ a).1 = 4) (h0 : ∀ k, k < 4 → sR σ a k = none) : Ct E mJ13_init 2 [.ref a, .null, .null, .int 0, .int 0] (.returned none, σ) σ := by
  show V E mJ13_init 2 _ 0 [some (.ref a), some .null, some .null, some (.int 0), some (.int 0)] [] σ
  exact V.ald0 dJ13_init_0 (V.zld1 dJ13_init_1 (V.zld2 dJ13_init_2 (V.ild3 dJ13_init_3 (V.ild4 dJ13_init_4 (V.invI4v iJ13_16 dJ13_init_6 (c_J12_init_X3 hU ha ht h0) (V.vret dJ13_init_9 rfl rfl))))))
theorem c_J14_init_X3 {E : En} {σ : Sg} (hU : EU E) {a : Nat} (ha : 1000 ≤ a) (ht : (sT σ a).1 = 4) (h0 : ∀ k, k < 4 → sR σ a k = none) : Ct E mJ14_init 3 [.ref a, .null, .null, .int 0, .int 0] (.returned none, σ) σ := by
  show V E mJ14_init 3 _ 0 [some (.ref a), some .null, some .null, some (.int 0), some (.int 0)] [] σ
  exact V.ald0 dJ14_init_0 (V.zld1 dJ14_init_1 (V.zld2 dJ14_init_2 (V.ild3 dJ14_init_3 (V.ild4 dJ14_init_4 (V.invI4v iJ14_16 dJ14_init_6 (c_J13_init_X3 hU ha ht h0) (V.vret dJ14_init_9 rfl rfl))))))
theorem c_X3_init {E : En} {σ : Sg} (hU : EU E) {a : Nat} (ha : 1000 ≤ a) (ht : (sT σ a).1 = 4) (h0 : ∀ k, k < 4 → sR σ a k = none) {x : Int32} : Ct E mX3_init 4 [.ref a, .int x] (.returned none, pI σ a 6 x) σ := by
  show V E mX3_init 4 _ 0 [some (.ref a), some (.int x)] [] σ
  exact V.ald0 dX3_init_0 (V.aconst_null dX3_init_1 (V.aconst_null dX3_init_2 (V.iconst_0 dX3_init_3 (V.iconst_0 dX3_init_4 (V.invI4v iX3_1 dX3_init_5 (c_J14_init_X3 hU ha ht h0) (V.ald0 dX3_init_8 (V.ild1 dX3_init_9 (pX3_7 rfl rfl ht ha dX3_init_10 (V.vret dX3_init_13 rfl rfl)))))))))
theorem c_J12_init_X14 {E : En} {σ : Sg} (hU : EU E) {a : Nat} (ha : 1000 ≤ a) (ht : (sT σ a).1 = 15) (h0 : ∀ k, k < 4 → sR σ a k = none) : Ct E mJ12_init_2 1 [.ref a, .null, .null, .int 0, .int 0] (.returned none, σ) σ := by
  obtain ⟨oU, oS, hz1, hz2⟩ := hU
  show V E mJ12_init_2 1 _ 0 [some (.ref a), some .null, some .null, some (.int 0), some (.int 0)] [] (rR σ (sR σ))
  refine V.ald0 dJ12_init_2_0 (V.oinit q482 dJ12_init_2_1 (V.ald0 dJ12_init_2_4 (V.ald0 dJ12_init_2_5 (tp7_14 rfl ht ha dJ12_init_2_6 (V.ald0 dJ12_init_2_9 (V.gets hz1 q483 dJ12_init_2_10 (tpo17_14 rfl ht ha dJ12_init_2_13 (V.ald0 dJ12_init_2_16 (V.gets hz2 q485 dJ12_init_2_17 (tpo24_14 rfl ht ha dJ12_init_2_20 ?_))))))))))
  refine V.ild4 dJ12_init_2_23 (V.if_eq (tgt := 36) dJ12_init_2_25 (by decide) (fun _ => ?_) (fun z => absurd rfl z))
  refine V.ald0 dJ12_init_2_36 (V.aconst_null dJ12_init_2_37 (tpn17_14 rfl ht ha dJ12_init_2_38 (V.ald0 dJ12_init_2_41 (V.zld1 dJ12_init_2_42 (tpn31_14 rfl ht ha dJ12_init_2_43 (V.ald0 dJ12_init_2_46 (V.zld2 dJ12_init_2_47 (tpn7_14 rfl ht ha dJ12_init_2_48 ?_))))))))
  refine V.ild3 dJ12_init_2_51 (V.if_ne (tgt := 60) dJ12_init_2_52 (by decide) (fun z => absurd rfl z) (fun _ => ?_))
  refine V.ald0 dJ12_init_2_55 (V.aconst_null dJ12_init_2_56 (tpn24_14 rfl ht ha dJ12_init_2_57 (V.vret dJ12_init_2_60 rfl ?_)))
  exact thr_heap h0
theorem c_J13_init_X14 {E : En} {σ : Sg} (hU : EU E) {a : Nat} (ha : 1000 ≤ a) (ht : (sT σ a).1 = 15) (h0 : ∀ k, k < 4 → sR σ a k = none) : Ct E mJ13_init 2 [.ref a, .null, .null, .int 0, .int 0] (.returned none, σ) σ := by
  show V E mJ13_init 2 _ 0 [some (.ref a), some .null, some .null, some (.int 0), some (.int 0)] [] σ
  exact V.ald0 dJ13_init_0 (V.zld1 dJ13_init_1 (V.zld2 dJ13_init_2 (V.ild3 dJ13_init_3 (V.ild4 dJ13_init_4 (V.invI4v iJ13_16 dJ13_init_6 (c_J12_init_X14 hU ha ht h0) (V.vret dJ13_init_9 rfl rfl))))))
theorem c_J14_init_X14 {E : En} {σ : Sg} (hU : EU E) {a : Nat} (ha : 1000 ≤ a) (ht : (sT σ a).1 = 15) (h0 : ∀ k, k < 4 → sR σ a k = none) : Ct E mJ14_init 3 [.ref a, .null, .null, .int 0, .int 0] (.returned none, σ) σ := by
  show V E mJ14_init 3 _ 0 [some (.ref a), some .null, some .null, some (.int 0), some (.int 0)] [] σ
  exact V.ald0 dJ14_init_0 (V.zld1 dJ14_init_1 (V.zld2 dJ14_init_2 (V.ild3 dJ14_init_3 (V.ild4 dJ14_init_4 (V.invI4v iJ14_16 dJ14_init_6 (c_J13_init_X14 hU ha ht h0) (V.vret dJ14_init_9 rfl rfl))))))
theorem c_X14_init {E : En} {σ : Sg} (hU : EU E) {a : Nat} (ha : 1000 ≤ a) (ht : (sT σ a).1 = 15) (h0 : ∀ k, k < 4 → sR σ a k = none) {x : Int32} : Ct E mX14_init 4 [.ref a, .int x] (.returned none, pI σ a 6 x) σ := by
  show V E mX14_init 4 _ 0 [some (.ref a), some (.int x)] [] σ
  exact V.ald0 dX14_init_0 (V.aconst_null dX14_init_1 (V.aconst_null dX14_init_2 (V.iconst_0 dX14_init_3 (V.iconst_0 dX14_init_4 (V.invI4v iX14_1 dX14_init_5 (c_J14_init_X14 hU ha ht h0) (V.ald0 dX14_init_8 (V.ild1 dX14_init_9 (pX14_7 rfl rfl ht ha dX14_init_10 (V.vret dX14_init_13 rfl rfl)))))))))
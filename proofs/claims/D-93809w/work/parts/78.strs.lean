set_option maxRecDepth 100000
set_option maxHeartbeats 1000000
/-! ===== more rows: references compared, String constants, null's class, slots that a class has not ===== -/
section
variable {E : En} {M : Mi} {d : Nat} {out : Out} {pc : Nat} {lv : List (Option Value)} {st : List Value} {σ : Sg}
theorem V.acmp_eqS {a : Nat} {off : Int} {tgt : Nat} (hd : decode (mC M) pc = .ok (.if_acmp .eq off, 3)) (ht : (pc : Int) + off = (tgt : Int)) (h : V E M d out tgt lv st σ) : V E M d out pc lv (.ref a :: .ref a :: st) σ :=
  ⟨h.1, fun p e R s m args below meth c n0 s0 C hf hl hn hs hc hz ls H locs L P Q => lv_acmp_eq (rx := some (cA E a)) (ry := some (cA E a)) C.x C.b hd ht (fun _ => h.2 p e R s m args below meth c n0 s0 C hf hl hn hs hc hz ls H locs L P Q) (fun z => absurd rfl z)⟩
theorem V.acmp_neD {a b : Nat} {off : Int} {tgt : Nat} (hb : 1000 ≤ b) (hne : a ≠ b) (hd : decode (mC M) pc = .ok (.if_acmp .ne off, 3)) (ht : (pc : Int) + off = (tgt : Int)) (h : V E M d out tgt lv st σ) : V E M d out pc lv (.ref b :: .ref a :: st) σ :=
  ⟨h.1, fun p e R s m args below meth c n0 s0 C hf hl hn hs hc hz ls H locs L P Q => lv_acmp_ne (rx := some (cA E a)) (ry := some (cA E b)) C.x C.b hd ht (fun _ => h.2 p e R s m args below meth c n0 s0 C hf hl hn hs hc hz ls H locs L P Q) (fun z => absurd (Option.some.inj z) (cA_ne P hb hne))⟩
theorem V.acmp_neN {a : Nat} {off : Int} {tgt : Nat} (hd : decode (mC M) pc = .ok (.if_acmp .ne off, 3)) (ht : (pc : Int) + off = (tgt : Int)) (h : V E M d out tgt lv st σ) : V E M d out pc lv (.null :: .ref a :: st) σ :=
  ⟨h.1, fun p e R s m args below meth c n0 s0 C hf hl hn hs hc hz ls H locs L P Q => lv_acmp_ne (rx := some (cA E a)) (ry := none) C.x C.b hd ht (fun _ => h.2 p e R s m args below meth c n0 s0 C hf hl hn hs hc hz ls H locs L P Q) (fun z => by cases z)⟩
/-- a String constant of the start -/
def SR (E : En) (own : String) (k : Nat) (tx : String) (a : Nat) : Prop := vk_R own k tx (cA E a) (eS E)
theorem V.ldcS {index a : Nat} {tx : String} (hz : SR E (mY M).cls index tx a) (hd : decode (mC M) pc = .ok (.ldc index, 2)) (h : V E M d out (pc + 2) lv (.ref a :: st) σ) : V E M d out pc lv st σ :=
  ⟨h.1, fun p e R s m args below meth c n0 s0 C hf hl hn hs hc hz' ls H locs L P Q => va_ldcS C.x C.b C.own (vk_R.warm C.k.2 hz) hd (h.2 p e R s m args below meth c n0 s0 C hf hl hn hs hc hz' ls H locs L P Q)⟩
theorem V.inst0 {index : Nat} (hd : decode (mC M) pc = .ok (.instanceof index, 3)) (h : V E M d out (pc + 3) lv (.int 0 :: st) σ) : V E M d out pc lv (.null :: st) σ := by
  refine ⟨h.1, fun p e R s m args below meth c' n0 s0 X hf hl' hns hs hcl hz ls H locs L P Q => ?_⟩
  intro T hT Y
  obtain ⟨t2, a1, b1⟩ := h.2 p e R s m args below meth c' n0 s0 X hf hl' hns hs hcl hz ls H locs L P Q T hT Y
  exact ⟨t2, Y.instanceofNull X.x (g := F0 m pc ls ((.null :: st).map (cV E))) rfl (rest := st.map (cV E)) rfl (by rw [X.b]; exact hd) t2 a1, b1⟩
/-- slots that a class has not may be named as one likes -/
theorem Hp.gh {σ' : Sg} {H : Heap} (P : Hp E σ H) (e1 : sN σ' = sN σ) (e2 : sT σ' = sT σ) (hk : ∀ (c : Nat) (r : vw_C) (a k : Nat), (sT σ a).1 = c + 1 → c < 100 → cls[c]? = some r → k < r.2.2 → fv E σ' (tyF c k) a k = fv E σ (tyF c k) a k) (hk2 : ∀ (t a j : Nat), (sT σ a).1 = t + 1 → 100 ≤ t → j < (sT σ a).2 → fv E σ' (aTy t) a j = fv E σ (aTy t) a j) : Hp E σ' H := by
  refine ⟨by rw [e1]; exact P.1, by rw [e1]; exact P.2.1, fun b => ?_, P.2.2.2⟩
  intro t ht
  rw [e2] at ht
  obtain ⟨h1, h2⟩ := P.2.2.1 b t ht
  refine ⟨fun h => ?_, fun h => ?_⟩
  · obtain ⟨r, cell, q1, q2, q3, q4, q5, q6, q7⟩ := h1 h
    exact ⟨r, cell, q1, q2, q3, q4, q5, q6, fun k hk9 => by rw [hk t r b k ht h q1 hk9]; exact q7 k hk9⟩
  · obtain ⟨cell, q2, q3, q4, q5, q6, q7, q8, q9⟩ := h2 h
    rw [e2]
    exact ⟨cell, q2, q3, q4, q5, q6, q7, q8, fun k hk9 => by rw [hk2 t b k ht h hk9]; exact q9 k hk9⟩
theorem V.gh {σ' : Sg} (e1 : sN σ' = sN σ) (e0 : sS σ' = sS σ) (hP : ∀ H, Hp E σ H → Hp E σ' H) (h : V E M d out pc lv st σ') : V E M d out pc lv st σ := by
  refine ⟨by rw [← e1, ← e0]; exact h.1, fun p e R s m args below meth c n0 s0 C hf hl hn hs hc hz ls H locs L P Q => ?_⟩
  have h9 := h.2 p e R s m args below meth c n0 s0 C hf hl (by rw [e1]; exact hn) (by rw [e0]; exact hs) hc hz ls H locs L (hP H P) Q
  rw [e1, e0] at h9
  exact h9
/-- a reference beyond an object's fields -/
theorem V.ghR {a c k : Nat} {o : Option Nat} {r : vw_C} (ht : (sT σ a).1 = c + 1) (hc : c < 100) (hr : cls[c]? = some r) (hk : r.2.2 ≤ k) (h : V E M d out pc lv st (pR σ a k o)) : V E M d out pc lv st σ := by
  refine V.gh (σ' := pR σ a k o) rfl rfl (fun H P => P.gh rfl rfl (fun c' r' a' k' h1 h2 h3 h4 => ?_) (fun t a' j h1 h2 h3 => ?_)) h
  · refine fv_pR E σ o _ (fun z => ?_)
    obtain ⟨rfl, rfl⟩ := z
    rw [ht] at h1
    cases h1
    cases hr.symm.trans h3
    omega
  · refine fv_pR E σ o _ (fun z => ?_)
    obtain ⟨rfl, rfl⟩ := z
    rw [ht] at h1
    omega
end
/-! ===== Strings of one byte a letter: at a, the bytes of L ===== -/
/-- the String at a holds L -/
def Stg (σ : Sg) (a : Nat) (L : List Int32) : Prop := (sT σ a).1 = 18 ∧ sI σ a 1 = 0 ∧ ∃ b, sR σ a 0 = some b ∧ sT σ b = (102, L.length) ∧ ∀ i, i < L.length → sI σ b i = L.getD i 0
/-- what the JDK's statics are -/
def JS (E : En) : Prop := SV E "java/lang/String" "COMPACT_STRINGS" "Z" (.int 1) ∧ ∃ o : Option Nat, SV E "jdk/internal/util/Preconditions" "SIOOBE_FORMATTER" "Ljava/util/function/BiFunction;" (va_rf o)
theorem Stg.fg {σ σ' : Sg} {a b c : Nat} {L : List Int32} (h : Stg σ a L) (hF : FG σ σ' b c) : Stg σ' a L := by
  obtain ⟨h1, h2, b, h3, h4, h5⟩ := h
  have t := hF.2.2.2 a (by rw [h1]; decide)
  have t' := hF.2.2.2 b (by rw [h4]; exact (by decide : (102 : Nat) ≠ 0))
  refine ⟨by rw [t.1]; exact h1, by rw [t.2.2.1]; exact h2, b, by rw [t.2.1]; exact h3, by rw [t'.1]; exact h4, fun i hi => by rw [t'.2.2.1]; exact h5 i hi⟩
section
variable {E : En} {M M' : Mi} {d : Nat} {out : Out} {pc index n : Nat} {lv : List (Option Value)} {st : List Value} {σ : Sg}
theorem V.newB {n : Nat} {i : Int32} (e : i = nI n) (hn : n ≤ 1000) (hd : decode (mC M) pc = .ok (.newarray .byte, 2)) (h : V E M d out (pc + 2) lv (.ref (sN σ) :: st) (nW σ (102, n) n)) : V E M d out pc lv (.int i :: st) σ :=
  V.newaG (at_ := .byte) (t := 101) (by decide) (by decide) rfl (by decide) (fun C z => by cases z) q184 (by rw [e]; exact ⟨nI_pos (by omega), nI_clamp (by omega)⟩) (by show n * 1 ≤ 536870912; omega) (by omega) hd h
theorem V.newI {n : Nat} {i : Int32} (e : i = nI n) (hn : n ≤ 10000) (hd : decode (mC M) pc = .ok (.newarray .int, 2)) (h : V E M d out (pc + 2) lv (.ref (sN σ) :: st) (nW σ (101, n) n)) : V E M d out pc lv (.int i :: st) σ :=
  V.newaG (at_ := .int) (t := 100) (by decide) (by decide) rfl (by decide) (fun C z => by cases z) q161 (by rw [e]; exact ⟨nI_pos (by omega), nI_clamp (by omega)⟩) (by show n * 4 ≤ 536870912; omega) (by omega) hd h
theorem V.newL {n : Nat} {i : Int32} (e : i = nI n) (hn : n ≤ 1000) (hd : decode (mC M) pc = .ok (.newarray .long, 2)) (h : V E M d out (pc + 2) lv (.ref (sN σ) :: st) (nW σ (103, n) n)) : V E M d out pc lv (.int i :: st) σ :=
  V.newaG (at_ := .long) (t := 102) (by decide) (by decide) rfl (by decide) (fun C z => by cases z) q1725 (by rw [e]; exact ⟨nI_pos (by omega), nI_clamp (by omega)⟩) (by show n * 8 ≤ 536870912; omega) (by omega) hd h
/-- a private method of a class over the receiver's -/
theorem Lk.P {As rest : List Value} {a c : Nat} {q : vw_C} {C9 : String} {z z' : MethodName} (hl : Cond.methodLink (mY M).cls index (mY M') ∈ lw_all) (hin : Cond.instanceMethod (mY M') ∈ lw_all) (hpr : Cond.privateMethod (mY M') ∈ lw_tbl) (hsel : Cond.selects C9 z z' ∈ lw_all) (hz : z'.cls = (mY M').cls) (hx : noMH (mY M')) (har : arN (mY M') n) (ht : (sT σ a).1 = c + 1) (hc : c < 100) (hq : cls[c]? = some q) (hn : As.length = n) (hd : decode (mC M) pc = .ok (.invokevirtual index, 3)) : Lk E M σ pc (As.reverse ++ .ref a :: rest) rest (.ref a :: As) M' := by
  intro p e R s m args below meth c' T locs cells slots ls mk methk C X P hnm hmk hsig
  obtain ⟨cell, k, g1, g2, g3, g4⟩ := P.recv C.k ht hc hq
  obtain ⟨mk', methM, hnamed', hmethM, hstM, habM⟩ := Cond.instanceMethod_spec (C.ts args _ hin)
  cases hnm.symm.trans hnamed'
  cases hmk.symm.trans hmethM
  obtain ⟨c2, r2, m2, q1, q2, q3, q4, kP, hkP, hkPi⟩ := Cond.selects_spec (C.ts args _ hsel)
  have hcl : m2.cls = mk.cls := by
    have h1 := findClass_of_methodNamed q3
    have h2 := findClass_of_methodNamed hnm
    rw [hz] at h1
    exact Option.some.inj (h1.symm.trans h2)
  rw [hcl] at hkP
  have hal := C.k.2.alike
  have hpriv : methk.isPrivate = true := by
    refine Cond.privateMethod_at (C.k.1.1 _ hpr) mk methk ?_ ?_
    · rw [← State.methodNamed?_setVm hal]; exact hnm
    · rw [← hal.method?]; exact hmk
  exact X.invokevirtual C.x C.own (C.ts args _ hl) hnm hmk hstM hkP hkPi hx (a := cA E a) (cell := cell) g1 (fun z h => by rw [h] at g2; cases g2) (selectMethod_private hmk hpriv) hmk habM hkP hkPi (g := F0 m pc ls _) rfl (argsL := As.map (cV E)) (rest := rest.map (cV E)) (by rw [List.length_map, hn]; exact har.at hsig) (map_rev E As (.ref a :: rest)) (by rw [C.b]; exact hd)
/-- a method of a class that none is made of -/
theorem Lk.VA {As rest : List Value} {a c : Nat} {q : vw_C} {C9 : String} {x z z' : MethodName} (hl : Cond.methodLink (mY M).cls index x ∈ lw_all) (hinx : Cond.instanceMethod x ∈ lw_all) (hin : Cond.instanceMethod (mY M') ∈ lw_all) (hsl : Cond.selects q.1 x (mY M') ∈ lw_all) (hsel : Cond.selects C9 z z' ∈ lw_all) (hz : z'.cls = x.cls) (hx : noMH x) (har : arN x n) (hco : ∃ b L r, Cond.code x b L r ∈ lw_all) (ht : (sT σ a).1 = c + 1) (hc : c < 100) (hq : cls[c]? = some q) (hn : As.length = n) (hd : decode (mC M) pc = .ok (.invokevirtual index, 3)) : Lk E M σ pc (As.reverse ++ .ref a :: rest) rest (.ref a :: As) M' := by
  intro p e R s m args below meth c' T locs cells slots ls mk methk C X P hnm hmk hsig
  obtain ⟨cell, k, g1, g2, g3, g4⟩ := P.recv C.k ht hc hq
  obtain ⟨mk', methM, hnamed', hmethM, hstM, habM⟩ := Cond.instanceMethod_spec (C.ts args _ hin)
  cases hnm.symm.trans hnamed'
  cases hmk.symm.trans hmethM
  obtain ⟨r0, r, hr0, hrm, hstR, -⟩ := Cond.instanceMethod_spec (C.ts args _ hinx)
  obtain ⟨c2, r2, m2, q1, q2, q3, q4, kP, hkP, hkPi⟩ := Cond.selects_spec (C.ts args _ hsl)
  cases g3.symm.trans q1
  cases (State.methodFound?_of_named hr0 hx).symm.trans q2
  cases hnm.symm.trans q3
  have hselP : selectMethod e.platform s.vm cell.cls r0 = .method mk := by rw [Launch.admits_selectMethod X.admits]; exact q4
  obtain ⟨c3, r3, m3, w1, w2, w3, w4, kQ, hkQ, hkQi⟩ := Cond.selects_spec (C.ts args _ hsel)
  have hcl : m3.cls = r0.cls := by
    have h1 := findClass_of_methodNamed w3
    have h2 := findClass_of_methodNamed hr0
    rw [hz] at h1
    exact Option.some.inj (h1.symm.trans h2)
  rw [hcl] at hkQ
  obtain ⟨b9, L9, r9, hw⟩ := hco
  obtain ⟨r4, c4, a1, -, -, -, -, -, -, a8⟩ := Cond.code_spec hr0 (C.ts args _ hw)
  cases hrm.symm.trans a1
  exact X.invokevirtual C.x C.own (C.ts args _ hl) hr0 hrm hstR hkQ hkQi hx (a := cA E a) (cell := cell) g1 (fun z h => by rw [h] at g2; cases g2) hselP hmk habM hkP hkPi (g := F0 m pc ls _) rfl (argsL := As.map (cV E)) (rest := rest.map (cV E)) (by rw [List.length_map, hn]; exact har.at a8) (map_rev E As (.ref a :: rest)) (by rw [C.b]; exact hd)
end
theorem sh0 {x : Int32} : x >>> ((0 : Int32) &&& 31) = x := by
  rw [show ((0 : Int32) &&& 31) = 0 from rfl]
  exact Int32.shiftRight_zero
theorem c_J3_isLatin1 {E : En} {σ : Sg} (hJ : JS E) {a : Nat} (ht : (sT σ a).1 = 18) (hc : sI σ a 1 = 0) : Ct E mJ3_isLatin1 0 [.ref a] (.returned (some (.int 1)), σ) σ := by
  show V E mJ3_isLatin1 0 _ 0 [some (.ref a)] [] σ
  refine V.gets hJ.1 q197 dJ3_isLatin1_0 (V.if_eq (tgt := 17) dJ3_isLatin1_3 (by decide) (fun z => absurd z (by decide)) (fun _ => V.ald0 dJ3_isLatin1_6 (gJ3_15 rfl ht dJ3_isLatin1_7 (V.if_ne (tgt := 17) dJ3_isLatin1_10 (by decide) (fun z => absurd hc z) (fun _ => ?_)))))
  exact V.iconst_1 dJ3_isLatin1_13 (V.goto (tgt := 18) dJ3_isLatin1_14 (by decide) (V.iret dJ3_isLatin1_18 rfl (nar_b true) rfl))
theorem c_J3_coder {E : En} {σ : Sg} (hJ : JS E) {a : Nat} (ht : (sT σ a).1 = 18) (hc : sI σ a 1 = 0) : Ct E mJ3_coder 0 [.ref a] (.returned (some (.int 0)), σ) σ := by
  show V E mJ3_coder 0 _ 0 [some (.ref a)] [] σ
  refine V.gets hJ.1 q197 dJ3_coder_0 (V.if_eq (tgt := 13) dJ3_coder_3 (by decide) (fun z => absurd z (by decide)) (fun _ => V.ald0 dJ3_coder_6 (gJ3_15 rfl ht dJ3_coder_7 (V.goto (tgt := 14) dJ3_coder_10 (by decide) ?_))))
  rw [hc]
  exact V.iret dJ3_coder_14 rfl (by decide) rfl
theorem c_J3_length {E : En} {σ : Sg} (hJ : JS E) {a : Nat} {L : List Int32} (h : Stg σ a L) : Ct E mJ3_length 1 [.ref a] (.returned (some (.int (nI L.length))), σ) σ := by
  obtain ⟨h1, h2, b, h3, h4, h5⟩ := h
  show V E mJ3_length 1 _ 0 [some (.ref a)] [] σ
  refine V.ald0 dJ3_length_0 (gJ3_9 rfl h1 dJ3_length_1 h3 (V.alen (t := 101) h4 (by decide) (by decide) dJ3_length_4 (V.ald0 dJ3_length_5 (V.invV0r vJ3_335 h1 dJ3_length_6 (c_J3_coder hJ h1 h2) (V.ishr dJ3_length_9 ?_)))))
  rw [sh0]
  exact V.iret dJ3_length_10 rfl rfl rfl
theorem ckI {E : En} {σ : Sg} {i n : Nat} (h : i < n) (hn : n < 2 ^ 31) {o : Option Nat} : Ct E mJ5_checkIndex 0 [.int (nI i), .int (nI n), va_rf o] (.returned (some (.int (nI i))), σ) σ := by
  have hl : ∀ v : Value, v.category = 1 → V E mJ5_checkIndex 0 (.returned (some (.int (nI i))), σ) 0 [some (.int (nI i)), some (.int (nI n)), some v] [] σ := fun v _ =>
    V.ild0 dJ5_checkIndex_0 (V.if_lt (tgt := 9) dJ5_checkIndex_1 (by decide) (fun z => absurd z (nI_pos (by omega))) (fun _ => V.ild0 dJ5_checkIndex_4 (V.ild1 dJ5_checkIndex_5 (V.icmp_lt (tgt := 16) dJ5_checkIndex_6 (by decide) (fun _ => V.ild0 dJ5_checkIndex_16 (V.iret dJ5_checkIndex_17 rfl rfl rfl)) (fun z => absurd (nI_lt (by omega) (by omega)) z)))))
  cases o with
  | none => exact hl .null rfl
  | some q => exact hl (.ref q) rfl
theorem c_J3_checkIndex {E : En} {σ : Sg} (hJ : JS E) {i n : Nat} (h : i < n) (hn : n < 2 ^ 31) : Ct E mJ3_checkIndex 1 [.int (nI i), .int (nI n)] (.returned none, σ) σ := by
  obtain ⟨-, o, ho⟩ := hJ
  show V E mJ3_checkIndex 1 _ 0 [some (.int (nI i)), some (.int (nI n))] [] σ
  exact V.ild0 dJ3_checkIndex_0 (V.ild1 dJ3_checkIndex_1 (V.gets ho q213 dJ3_checkIndex_2 (V.invS3r sJ3_1059 dJ3_checkIndex_5 (ckI h hn) (V.pop dJ3_checkIndex_8 (V.vret dJ3_checkIndex_9 rfl rfl)) (hlen := by cases o <;> rfl))))
/-- a letter of one byte -/
theorem c_J4_charAt {E : En} {σ : Sg} (hJ : JS E) {b n i : Nat} (ht : sT σ b = (102, n)) (hi : i < n) (hn : n < 2 ^ 31) {k : Nat} (hk : k < 128) (hv : sI σ b i = nI k) : Ct E mJ4_charAt 2 [.ref b, .int (nI i)] (.returned (some (.int (nI k))), σ) σ := by
  show V E mJ4_charAt 2 _ 0 [some (.ref b), some (.int (nI i))] [] σ
  refine V.ild1 dJ4_charAt_0 (V.ald0 dJ4_charAt_1 (V.alen (t := 101) ht (by decide) (by decide) dJ4_charAt_2 (V.invS2v sJ4_9 dJ4_charAt_3 (c_J3_checkIndex hJ hi hn) (V.ald0 dJ4_charAt_6 (V.ild1 dJ4_charAt_7 (V.bald ht (IX.n hi hn) dJ4_charAt_8 (V.sipush (v := 255) dJ4_charAt_9 (by decide) (V.iand dJ4_charAt_12 (V.i2c dJ4_charAt_13 ?_)))))))))
  rw [hv]
  have e : ∀ k, k < 128 → (((nI k &&& 255 : Int32).toUInt32 % 65536).toInt32 = nI k ∧ narrow .char (.int (nI k)) = .int (nI k)) := by decide
  rw [(e k hk).1]
  exact V.iret dJ4_charAt_14 rfl (e k hk).2 rfl
theorem c_J3_charAt {E : En} {σ : Sg} (hJ : JS E) {a i k : Nat} {L : List Int32} (h : Stg σ a L) (hl : L.length < 1000) (hi : i < L.length) (hk : k < 128) (hv : L.getD i 0 = nI k) : Ct E mJ3_charAt 4 [.ref a, .int (nI i)] (.returned (some (.int (nI k))), σ) σ := by
  obtain ⟨h1, h2, b, h3, h4, h5⟩ := h
  show V E mJ3_charAt 4 _ 0 [some (.ref a), some (.int (nI i))] [] σ
  have e : ∀ k, k < 128 → narrow .char (.int (nI k)) = .int (nI k) := by decide
  refine V.ald0 dJ3_charAt_0 (V.invV0r vJ3_492 h1 dJ3_charAt_1 (c_J3_isLatin1 hJ h1 h2) (V.if_eq (tgt := 16) dJ3_charAt_4 (by decide) (fun z => absurd z (by decide)) (fun _ => ?_)))
  exact V.ald0 dJ3_charAt_7 (gJ3_9 rfl h1 dJ3_charAt_8 h3 (V.ild1 dJ3_charAt_11 (V.invS2r sJ3_495 dJ3_charAt_12 (c_J4_charAt hJ h4 hi (by omega) hk (by rw [h5 i hi, hv])) (V.iret dJ3_charAt_15 rfl (e k hk) rfl))))
/-! ===== equals ===== -/
theorem eqL {L L' : List Int32} : ∀ (m i : Nat), i + m = L.length → L.length = L'.length → (∀ j, j < i → L.getD j 0 = L'.getD j 0) → (∀ j, i ≤ j → j < L.length → L.getD j 0 = L'.getD j 0) → L = L' := fun m i hm hl h1 h2 => by
  refine List.ext_getElem hl (fun j hj hj' => ?_)
  have : L.getD j 0 = L'.getD j 0 := by
    rcases Nat.lt_or_ge j i with h | h
    · exact h1 j h
    · exact h2 j h hj
  rw [List.getD_eq_getElem?_getD, List.getD_eq_getElem?_getD, List.getElem?_eq_getElem hj, List.getElem?_eq_getElem hj'] at this
  exact this
theorem c_J4_equals {E : En} {σ : Sg} {b b' : Nat} {L L' : List Int32} (ht : sT σ b = (102, L.length)) (ht' : sT σ b' = (102, L'.length)) (hl : L.length < 1000) (hl' : L'.length < 1000) (hv : ∀ i, i < L.length → sI σ b i = L.getD i 0) (hv' : ∀ i, i < L'.length → sI σ b' i = L'.getD i 0) : Ct E mJ4_equals 0 [.ref b, .ref b'] (.returned (some (.int (b2i (decide (L = L'))))), σ) σ := by
  show V E mJ4_equals 0 _ 0 [some (.ref b), some (.ref b'), none] [] σ
  refine V.ald0 dJ4_equals_0 (V.alen (t := 101) ht (by decide) (by decide) dJ4_equals_1 (V.ald1 dJ4_equals_2 (V.alen (t := 101) ht' (by decide) (by decide) dJ4_equals_3 (V.icmp_ne (tgt := 34) dJ4_equals_4 (by decide) (fun z => ?_) (fun z => ?_)))))
  · rw [decide_eq_false (fun h : L = L' => z (by rw [h]))]
    exact V.iconst_0 dJ4_equals_34 (V.iret dJ4_equals_35 rfl (nar_b false) rfl)
  · have hll : L.length = L'.length := by
      have h3 := congrArg Int32.toInt z
      rw [nI_toInt (by omega), nI_toInt (by omega)] at h3
      omega
    have L9 : ∀ (m i : Nat), i + m = L.length → (∀ j, j < i → L.getD j 0 = L'.getD j 0) → V E mJ4_equals 0 (.returned (some (.int (b2i (decide (L = L'))))), σ) 9 [some (.ref b), some (.ref b'), some (.int (nI i))] [] σ := by
      intro m
      induction m with
      | zero =>
        intro i hi hj
        refine V.ild2 dJ4_equals_9 (V.ald0 dJ4_equals_10 (V.alen (t := 101) ht (by decide) (by decide) dJ4_equals_11 (V.icmp_ge (tgt := 32) dJ4_equals_12 (by decide) (fun _ => ?_) (fun z => absurd (nI_le (by omega) (by omega)) z))))
        rw [decide_eq_true (eqL (L := L) (L' := L') 0 i hi hll hj (fun j h1 h2 => by omega))]
        exact V.iconst_1 dJ4_equals_32 (V.iret dJ4_equals_33 rfl (nar_b true) rfl)
      | succ m ih =>
        intro i hi hj
        refine V.ild2 dJ4_equals_9 (V.ald0 dJ4_equals_10 (V.alen (t := 101) ht (by decide) (by decide) dJ4_equals_11 (V.icmp_ge (tgt := 32) dJ4_equals_12 (by decide) (fun z => absurd z (fun z9 => absurd ((nI_leI (by omega) (by omega)).mp z9) (by omega))) (fun _ => ?_))))
        refine V.ald0 dJ4_equals_15 (V.ild2 dJ4_equals_16 (V.bald ht (IX.n (j := i) (by omega) (by omega)) dJ4_equals_17 (V.ald1 dJ4_equals_18 (V.ild2 dJ4_equals_19 (V.bald ht' (IX.n (j := i) (by omega) (by omega)) dJ4_equals_20 ?_)))))
        rw [hv i (by omega), hv' i (by omega)]
        refine V.icmp_eq (tgt := 26) dJ4_equals_21 (by decide) (fun z => ?_) (fun z => ?_)
        · refine V.inc2 dJ4_equals_26 (V.goto (tgt := 9) dJ4_equals_29 (by decide) ?_)
          rw [nI_1]
          exact ih (i + 1) (by omega) (fun j h => by
            rcases Nat.lt_or_ge j i with h9 | h9
            · exact hj j h9
            · rw [show j = i by omega]; exact z)
        · rw [decide_eq_false (fun h : L = L' => z (by rw [h]))]
          exact V.iconst_0 dJ4_equals_24 (V.iret dJ4_equals_25 rfl (nar_b false) rfl)
    exact V.iconst_0 dJ4_equals_7 (V.ist2 dJ4_equals_8 (L9 L.length 0 (by omega) (fun j h => by omega)))
theorem c_J3_equals {E : En} {σ : Sg} (hJ : JS E) {a b : Nat} {L L' : List Int32} (h : Stg σ a L) (h' : Stg σ b L') (hb : 1000 ≤ b) (hne : a ≠ b) (hl : L.length < 1000) (hl' : L'.length < 1000) : Ct E mJ3_equals 1 [.ref a, .ref b] (.returned (some (.int (b2i (decide (L = L'))))), σ) σ := by
  obtain ⟨h1, h2, v, h3, h4, h5⟩ := h
  obtain ⟨k1, k2, v', k3, k4, k5⟩ := h'
  show V E mJ3_equals 1 _ 0 [some (.ref a), some (.ref b), none] [] σ
  refine V.ald0 dJ3_equals_0 (V.ald1 dJ3_equals_1 (V.acmp_neD (tgt := 7) hb hne dJ3_equals_2 (by decide) (V.ald1 dJ3_equals_7 (V.instY (c := 17) k1 (by decide) rfl q590 (.inl rfl) dJ3_equals_8 (V.if_eq (tgt := 54) dJ3_equals_11 (by decide) (fun z => absurd z (by decide)) (fun _ => ?_))))))
  refine V.ald1 dJ3_equals_14 (V.ccast (c := 17) k1 (by decide) rfl q590 (.inl rfl) dJ3_equals_15 (V.ast2 dJ3_equals_18 (V.gets hJ.1 q197 dJ3_equals_19 (V.if_eq (tgt := 36) dJ3_equals_22 (by decide) (fun z => absurd z (by decide)) (fun _ => ?_)))))
  refine V.ald0 dJ3_equals_25 (gJ3_15 rfl h1 dJ3_equals_26 (V.ald2 dJ3_equals_29 (gJ3_15 rfl k1 dJ3_equals_30 (V.icmp_ne (tgt := 54) dJ3_equals_33 (by decide) (fun z => absurd (h2.trans k2.symm) z) (fun _ => ?_)))))
  refine V.ald0 dJ3_equals_36 (gJ3_9 rfl h1 dJ3_equals_37 h3 (V.ald2 dJ3_equals_40 (gJ3_9 rfl k1 dJ3_equals_41 k3 (V.invS2r sJ3_541 dJ3_equals_44 (c_J4_equals h4 k4 hl hl' h5 k5) (V.ifb_eq (tgt := 54) dJ3_equals_47 (by decide) (fun z => ?_) (fun z => ?_))))))
  · rw [z]
    exact V.iconst_0 dJ3_equals_54 (V.iret dJ3_equals_55 rfl (nar_b false) rfl)
  · rw [z]
    exact V.iconst_1 dJ3_equals_50 (V.goto (tgt := 55) dJ3_equals_51 (by decide) (V.iret dJ3_equals_55 rfl (nar_b true) rfl))
theorem n_J3_equals {E : En} {σ : Sg} {a : Nat} : Ct E mJ3_equals 1 [.ref a, .null] (.returned (some (.int (b2i false))), σ) σ := by
  show V E mJ3_equals 1 _ 0 [some (.ref a), some .null, none] [] σ
  refine V.ald0 dJ3_equals_0 (V.zld1 dJ3_equals_1 (V.acmp_neN (tgt := 7) dJ3_equals_2 (by decide) (V.zld1 dJ3_equals_7 (V.inst0 dJ3_equals_8 (V.if_eq (tgt := 54) dJ3_equals_11 (by decide) (fun _ => ?_) (fun z => absurd rfl z))))))
  exact V.iconst_0 dJ3_equals_54 (V.iret dJ3_equals_55 rfl (nar_b false) rfl)
/-! ===== indexOf ===== -/
theorem c_J4_indexOfChar {E : En} {σ : Sg} {b : Nat} {L : List Int32} (ht : sT σ b = (102, L.length)) (hl : L.length < 1000) (hv : ∀ i, i < L.length → sI σ b i = L.getD i 0) {x : Int32} : Ct E mJ4_indexOfChar 0 [.ref b, .int x, .int 0, .int (nI L.length)] (.returned (some (.int (ffI (fun i => decide (L.getD i 0 = x.toInt8.toInt32)) 0 L.length))), σ) σ := by
  show V E mJ4_indexOfChar 0 _ 0 [some (.ref b), some (.int x), some (.int 0), some (.int (nI L.length)), none, none] [] σ
  have L7 : ∀ (m i : Nat), i + m = L.length → V E mJ4_indexOfChar 0 (.returned (some (.int (ffI (fun i => decide (L.getD i 0 = x.toInt8.toInt32)) i m))), σ) 7 [some (.ref b), some (.int x), some (.int 0), some (.int (nI L.length)), some (.int x.toInt8.toInt32), some (.int (nI i))] [] σ := by
    intro m
    induction m with
    | zero =>
      intro i hi
      refine V.ild5 dJ4_indexOfChar_7 (V.ild3 dJ4_indexOfChar_9 (V.icmp_ge (tgt := 31) dJ4_indexOfChar_10 (by decide) (fun _ => ?_) (fun z => absurd (nI_le (by omega) (by omega)) z)))
      exact V.iconst_m1 dJ4_indexOfChar_31 (V.iret dJ4_indexOfChar_32 rfl rfl rfl)
    | succ m ih =>
      intro i hi
      refine V.ild5 dJ4_indexOfChar_7 (V.ild3 dJ4_indexOfChar_9 (V.icmp_ge (tgt := 31) dJ4_indexOfChar_10 (by decide) (fun z => absurd z (fun z9 => absurd ((nI_leI (by omega) (by omega)).mp z9) (by omega))) (fun _ => ?_)))
      refine V.ald0 dJ4_indexOfChar_13 (V.ild5 dJ4_indexOfChar_14 (V.bald ht (IX.n (j := i) (by omega) (by omega)) dJ4_indexOfChar_16 (V.ild4 dJ4_indexOfChar_17 ?_)))
      rw [hv i (by omega), ffI_s]
      refine V.icmp_ne (tgt := 25) dJ4_indexOfChar_19 (by decide) (fun z => ?_) (fun z => ?_)
      · rw [if_neg (by rw [decide_eq_true_eq]; exact z)]
        refine V.inc5 dJ4_indexOfChar_25 (V.goto (tgt := 7) dJ4_indexOfChar_28 (by decide) ?_)
        rw [nI_1]
        exact ih (i + 1) (by omega)
      · rw [if_pos (by rw [decide_eq_true_eq]; exact z)]
        exact V.ild5 dJ4_indexOfChar_22 (V.iret dJ4_indexOfChar_24 rfl rfl rfl)
  exact V.ild1 dJ4_indexOfChar_0 (V.i2b dJ4_indexOfChar_1 (V.ist4 dJ4_indexOfChar_2 (V.ild2 dJ4_indexOfChar_4 (V.ist5 dJ4_indexOfChar_5 (L7 L.length 0 (by omega))))))
theorem c_J4_indexOf {E : En} {σ : Sg} {b : Nat} {L : List Int32} (ht : sT σ b = (102, L.length)) (hl : L.length < 1000) (h0 : 0 < L.length) (hv : ∀ i, i < L.length → sI σ b i = L.getD i 0) {k : Nat} (hk : k < 256) : Ct E mJ4_indexOf 1 [.ref b, .int (nI k), .int 0, .int (nI L.length)] (.returned (some (.int (ffI (fun i => decide (L.getD i 0 = (nI k).toInt8.toInt32)) 0 L.length))), σ) σ := by
  have hce : Ct E mJ4_canEncode_2 0 [.int (nI k)] (.returned (some (.int 1)), σ) σ := by
    show V E mJ4_canEncode_2 0 _ 0 [some (.int (nI k))] [] σ
    refine V.ild0 dJ4_canEncode_2_0 (V.if_lt (tgt := 15) dJ4_canEncode_2_1 (by decide) (fun z => absurd z (nI_pos (by omega))) (fun _ => V.ild0 dJ4_canEncode_2_4 (V.sipush (v := 255) dJ4_canEncode_2_5 (by decide) (V.icmp_gt (tgt := 15) dJ4_canEncode_2_8 (by decide) (fun z => absurd z (show ¬ nI 255 < nI k from fun y => absurd ((nI_ltI (by decide) (by omega)).mp y) (by omega))) (fun _ => ?_)))))
    exact V.iconst_1 dJ4_canEncode_2_11 (V.goto (tgt := 16) dJ4_canEncode_2_12 (by decide) (V.iret dJ4_canEncode_2_16 rfl (nar_b true) rfl))
  show V E mJ4_indexOf 1 _ 0 [some (.ref b), some (.int (nI k)), some (.int 0), some (.int (nI L.length))] [] σ
  refine V.ild1 dJ4_indexOf_0 (V.invS1r sJ4_88 dJ4_indexOf_1 hce (V.if_ne (tgt := 9) dJ4_indexOf_4 (by decide) (fun _ => ?_) (fun z => absurd z (by decide))))
  refine V.ild2 dJ4_indexOf_9 (V.iconst_0 dJ4_indexOf_10 (V.invS2r sJ4_92 dJ4_indexOf_11 c_J10_max (V.ist2 dJ4_indexOf_14 (V.ild3 dJ4_indexOf_15 (V.ald0 dJ4_indexOf_16 (V.alen (t := 101) ht (by decide) (by decide) dJ4_indexOf_17 (V.invS2r sJ4_38 dJ4_indexOf_18 c_J10_min (V.ist3 dJ4_indexOf_21 ?_))))))))
  rw [show maxI 0 0 = 0 from rfl, show minI (nI L.length) (nI L.length) = nI L.length by unfold minI; rw [if_pos (Int32.le_refl _)]]
  refine V.ild2 dJ4_indexOf_22 (V.ild3 dJ4_indexOf_23 (V.icmp_lt (tgt := 29) dJ4_indexOf_24 (by decide) (fun _ => ?_) (fun z => absurd (show nI 0 < nI L.length from nI_lt (by omega) (by omega)) z)))
  exact V.ald0 dJ4_indexOf_29 (V.ild1 dJ4_indexOf_30 (V.ild2 dJ4_indexOf_31 (V.ild3 dJ4_indexOf_32 (V.invS4r sJ4_95 dJ4_indexOf_33 (c_J4_indexOfChar ht hl hv) (V.iret dJ4_indexOf_36 rfl rfl rfl)))))
theorem c_J3_indexOf {E : En} {σ : Sg} (hJ : JS E) {a : Nat} {L : List Int32} (h : Stg σ a L) (hl : L.length < 1000) (h0 : 0 < L.length) {k : Nat} (hk : k < 256) : Ct E mJ3_indexOf 6 [.ref a, .int (nI k)] (.returned (some (.int (ffI (fun i => decide (L.getD i 0 = (nI k).toInt8.toInt32)) 0 L.length))), σ) σ := by
  have hg := h
  obtain ⟨h1, h2, b, h3, h4, h5⟩ := h
  have h9 : Ct E mJ3_indexOf_2 5 [.ref a, .int (nI k), .int 0] (.returned (some (.int (ffI (fun i => decide (L.getD i 0 = (nI k).toInt8.toInt32)) 0 L.length))), σ) σ := by
    show V E mJ3_indexOf_2 5 _ 0 [some (.ref a), some (.int (nI k)), some (.int 0)] [] σ
    refine V.ald0 dJ3_indexOf_2_0 (V.invV0r vJ3_492 h1 dJ3_indexOf_2_1 (c_J3_isLatin1 hJ h1 h2) (V.if_eq (tgt := 23) dJ3_indexOf_2_4 (by decide) (fun z => absurd z (by decide)) (fun _ => ?_)))
    exact V.ald0 dJ3_indexOf_2_7 (gJ3_9 rfl h1 dJ3_indexOf_2_8 h3 (V.ild1 dJ3_indexOf_2_11 (V.ild2 dJ3_indexOf_2_12 (V.ald0 dJ3_indexOf_2_13 (V.invV0r vJ3_505 h1 dJ3_indexOf_2_14 (c_J3_length hJ hg) (V.invS4r sJ3_637 dJ3_indexOf_2_17 (c_J4_indexOf h4 hl h0 h5 hk) (V.goto (tgt := 36) dJ3_indexOf_2_20 (by decide) (V.iret dJ3_indexOf_2_36 rfl rfl rfl))))))))
  show V E mJ3_indexOf 6 _ 0 [some (.ref a), some (.int (nI k))] [] σ
  exact V.ald0 dJ3_indexOf_0 (V.ild1 dJ3_indexOf_1 (V.iconst_0 dJ3_indexOf_2 (V.invV2r vJ3_633 h1 dJ3_indexOf_3 h9 (V.iret dJ3_indexOf_6 rfl rfl rfl))))

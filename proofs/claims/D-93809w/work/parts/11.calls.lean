set_option maxRecDepth 100000
abbrev wI (σ : Sg) (h : Nat → Nat → Int32) : Sg := (sN σ, sS σ, sT σ, h, sL σ, sR σ)
/-! ===== a method's entry ===== -/
def lvF : List Value → List (Option Value)
  | [] => []
  | v :: t => if v.category = 2 then some v :: none :: lvF t else some v :: lvF t
def lvE (As : List Value) (n : Nat) : List (Option Value) := lvF As ++ List.replicate (n - (lvF As).length) none
theorem lvF_len (E : En) : ∀ As : List Value, (lvF As).length = (lg_sl (As.map (cV E))).length
  | [] => rfl
  | v :: t => by
    have h := lvF_len E t
    simp only [lvF, lg_sl, List.map_cons, List.flatMap_cons, cV_cat] at h ⊢
    by_cases hc : v.category = 2
    · simp [hc, h]
    · simp [hc, h]
theorem lvF_args (E : En) : ∀ (As : List Value) (i j : Nat) (v : Value), (lvF As)[j]? = some (some v) → (i + j, cV E v) ∈ lv_args i (As.map (cV E))
  | [], i, j, v, h => by simp [lvF] at h
  | u :: t, i, j, v, h => by
    simp only [lvF, List.map_cons, lv_args, cV_cat] at h ⊢
    by_cases hc : u.category = 2
    · simp only [hc, if_true] at h ⊢
      match j, h with
      | 0, h => simp at h; subst h; exact List.mem_cons_self
      | 1, h => simp at h
      | j + 2, h =>
        have := lvF_args E t (i + 2) j v (by simpa using h)
        refine List.mem_cons_of_mem _ ?_
        rw [show i + (j + 2) = i + 2 + j by omega]
        exact this
    · simp only [hc, if_false] at h ⊢
      match j, h with
      | 0, h => simp at h; subst h; exact List.mem_cons_self
      | j + 1, h =>
        have := lvF_args E t (i + 1) j v (by simpa using h)
        refine List.mem_cons_of_mem _ ?_
        rw [show i + (j + 1) = i + 1 + j by omega]
        exact this
theorem lvr_entry (E : En) (As : List Value) {n : Nat} (h : (lvF As).length ≤ n) : lvr E ((lg_sl (As.map (cV E)) ++ List.replicate (n - (lg_sl (As.map (cV E))).length) Slot.unset).toArray) n (lvE As n) := by
  have hl := lv_entry (As.map (cV E)) (n := n) (by rw [← lvF_len E As]; exact h)
  refine ⟨hl.1, hl.2.1, fun i v hi => ?_⟩
  by_cases hlt : i < (lvF As).length
  · rw [lvE, List.getElem?_append_left hlt] at hi
    have := lvF_args E As 0 i v hi
    rw [Nat.zero_add] at this
    exact hl.2.2 _ this
  · rw [lvE, List.getElem?_append_right (by omega), List.getElem?_replicate] at hi
    split at hi <;> simp at hi
def Ct (E : En) (M : Mi) (d : Nat) (As : List Value) (out : Out) (σ : Sg) : Prop := V E M d out 0 (lvE As (mL M)) [] σ
/-! ===== an invocation's first step ===== -/
section
variable {p : Program} {l : Launch} {e : Env} {R : Room} {s : State} {m : MethodId} {args : Array Value} {below : List Frame} {meth : Method} {c : Code} {T : State} {locs : List Loc} {cells slots : Nat}
def Ink (p : Program) (l : Launch) (e : Env) (R : Room) (s : State) (m : MethodId) (args : Array Value) (below : List Frame) (meth : Method) (c : Code) (locs : List Loc) (cells slots : Nat) (T : State) (g : JFrame) (rest : List Value) (mk : MethodId) (a : Array Value) : Prop :=
  ∃ vm₁ : Vm, Stand p l e R s m args below meth c (T.setVm vm₁) locs cells slots ∧ ∀ target, (∀ acts, Steps p.tables e below (doInvoke e ((T.setVm vm₁).setTop { g with stack := rest }) acts mk a).1 target) → Steps p.tables e below (T.setTop g) target
theorem Ink.stat (X : Stand p l e R s m args below meth c T locs cells slots) (hexec : p.tables.exec = Jvm.exec) {own : String} {index : Nat} {y : MethodName}
    (hown : s.vm.findClass own = some m.cls) (hlink : (Cond.methodLink own index y).before args s = true) (hstat : (Cond.static y).before args s = true) (hinit : (Cond.initialized y.cls).before args s = true)
    {mk : MethodId} {methM : Method} (hnamed : s.methodNamed? y = some mk) (hmethM : s.vm.method? mk = some methM) (hy : y.cls ≠ "java/lang/invoke/MethodHandle" ∧ y.cls ≠ "java/lang/invoke/VarHandle")
    {g : JFrame} (hg : g.method = m) {argsL rest : List Value} (hlen : argsL.length = methM.sig.parameters.length) (hstack : g.stack = argsL.reverse ++ rest) (hdg : decode c.code g.pc = .ok (.invokestatic index, 3)) :
    Ink p l e R s m args below meth c locs cells slots T g rest mk argsL.toArray := by
  have hstatic : methM.isStatic = true := Cond.static_spec hnamed hmethM hstat
  obtain ⟨kP, hkP, -⟩ := className_of_methodNamed hnamed
  have hinitP : kP.init = .initialized := Cond.initialized_spec (findClass_of_methodNamed hnamed) hkP hinit
  exact X.invokestatic hexec hown hlink hnamed hmethM hstatic hkP hinitP hy (g := g) hg (argsL := argsL) (rest := rest) hlen hstack hdg
theorem Ink.virt (X : Stand p l e R s m args below meth c T locs cells slots) (hexec : p.tables.exec = Jvm.exec) {own C : String} {index : Nat} {x y : MethodName}
    (hown : s.vm.findClass own = some m.cls) (hlink : (Cond.methodLink own index x).before args s = true) (hinx : (Cond.instanceMethod x).before args s = true) (hinst : (Cond.instanceMethod y).before args s = true) (hsel : (Cond.selects C x y).before args s = true)
    (hni : x = y ∨ ∃ n, (Cond.instantiable x.cls n).before args s = true) (hx : x.cls ≠ "java/lang/invoke/MethodHandle" ∧ x.cls ≠ "java/lang/invoke/VarHandle")
    {mk : MethodId} (hnamed : s.methodNamed? y = some mk) {n : Nat} (hlen : (parseMethodDescriptor x.desc).map (fun d => d.parameters.length) = some n) (hdx : ∀ (r0 : MethodId) (r : Method), s.methodNamed? x = some r0 → s.vm.method? r0 = some r → parseMethodDescriptor x.desc = some r.sig)
    {b : Addr} {cellB : Cell} (hcell : T.heap[b]? = some cellB) (hobj : cellB.vm.isStatics = false) (hcls : s.vm.findClass C = some cellB.cls)
    {g : JFrame} (hg : g.method = m) {argsL rest : List Value} (hn : argsL.length = n) (hstack : g.stack = argsL.reverse ++ .ref b :: rest) (hdg : decode c.code g.pc = .ok (.invokevirtual index, 3)) :
    Ink p l e R s m args below meth c locs cells slots T g rest mk (Value.ref b :: argsL).toArray := by
  obtain ⟨mk', methM, hnamed', hmethM, hstM, habM⟩ := Cond.instanceMethod_spec hinst
  cases hnamed.symm.trans hnamed'
  obtain ⟨r0, r, hr0, hrm, hstR, -⟩ := Cond.instanceMethod_spec hinx
  obtain ⟨c2, r2, m2, q1, q2, q3, q4, kP, hkP, hkPi⟩ := Cond.selects_spec hsel
  cases hcls.symm.trans q1
  cases (State.methodFound?_of_named hr0 hx).symm.trans q2
  cases hnamed.symm.trans q3
  have hselP : selectMethod e.platform s.vm cellB.cls r0 = .method mk := by rw [Launch.admits_selectMethod X.admits]; exact q4
  have hfr : ∃ kr, s.vm.classes[r0.cls]? = some kr ∧ kr.isInterface = false := by
    rcases hni with e | ⟨w, hw⟩
    · subst e
      cases hr0.symm.trans hnamed
      exact ⟨kP, hkP, hkPi⟩
    · obtain ⟨cC, kC, hfc, hk, -, hz, -⟩ := Cond.instantiable_spec hw
      cases (findClass_of_methodNamed hr0).symm.trans hfc
      exact ⟨kC, hk, by simp only [Bool.or_eq_false_iff] at hz; exact hz.1⟩
  obtain ⟨kr, hkr, hkri⟩ := hfr
  have hsig := hdx r0 r hr0 hrm
  rw [hsig] at hlen
  exact X.invokevirtual hexec hown hlink hr0 hrm hstR hkr hkri hx (a := b) (cell := cellB) hcell
    (fun z h => by rw [h] at hobj; cases hobj) hselP hmethM habM hkP hkPi (g := g) hg (argsL := argsL) (rest := rest) (hn.trans (Option.some.inj hlen).symm) hstack hdg
end
/-! ===== a callee's words, its run, the way back ===== -/
def McW (M : Mi) : Prop := ((Cond.code (mY M) (mC M) (mL M) (mR M) ∈ lw_all ∧ mH M = []) ∨ Cond.codeWith (mY M) (mC M) (mL M) (mR M) (mH M) ∈ lw_all) ∧ plainFor (mY M) = true ∧ mL M ≤ 21
theorem McW.facts {M : Mi} (h : McW M) {E : En} {s : State} (hK : KE E s) : ∃ (mk : MethodId) (methk : Method) (ck : Code), s.methodNamed? (mY M) = some mk ∧ s.vm.method? mk = some methk ∧ methk.code = some ck ∧ ck.code = mC M ∧ ck.maxLocals = mL M ∧ methk.sig.returnType = mR M ∧ methk.locks = false ∧ ck.exceptionTable.toList.map (fun h => (h.startPc, h.endPc, h.handlerPc, h.catchType)) = mH M ∧ parseMethodDescriptor (mY M).desc = some methk.sig := by
  obtain ⟨⟨h1, h2⟩ | h1, -⟩ := h
  · have hc := hK.ts #[] _ h1
    obtain ⟨mk, hn⟩ := Cond.code_named hc
    obtain ⟨methk, ck, a1, a2, a3, a4, a5, a6, a7, a8⟩ := Cond.code_spec hn hc
    refine ⟨mk, methk, ck, hn, a1, a2, a3, a4, a5, a6, ?_, a8⟩
    rw [h2]
    simp only [Array.isEmpty_iff] at a7
    rw [a7]
    rfl
  · obtain ⟨mk, methk, ck, hn, a1, a2, a3, a4, a5, a6, a7, a8⟩ := Cond.codeWith_spec (hK.ts #[] _ h1)
    exact ⟨mk, methk, ck, hn, a1, a2, a3, a4, a6, a7, a5, a8⟩
theorem stepsWeak {tb : Tables} {e : Env} {mid below : List Frame} {a b : State} (h : Steps tb e (mid ++ below) a b) : Steps tb e below a b := by
  obtain ⟨n, hn, w⟩ := h
  exact ⟨n, hn, fun k hk => (w k hk).weaken⟩
theorem run_callee {E : En} {M M' : Mi} {d d' : Nat} {out' : Out} {As : List Value} {σ : Sg} {p : Program} {e : Env} {R : Room} {s : State} {m : MethodId} {args : Array Value} {below : List Frame} {meth : Method} {c : Code} {T : State} {locs : List Loc} {cells slots : Nat}
    (X : Stand p (eL E) e R s m args below meth c T locs cells slots) (C : Cx E M p s m meth c) (hw : McW M') (hV : Ct E M' d' As out' σ) (hP : Hp E σ T.heap) (hlen : (lvF As).length ≤ mL M')
    {g : JFrame} (hg : g.method = m) (hsize : g.locals.size = c.maxLocals) {ig : Instr} {len : Nat} (hdg : decode c.code g.pc = .ok (ig, len)) (hdd : d' < d) (hf : d ≤ R.frames) (hl : 40 * d ≤ R.locals)
    (hst : 2 * g.monitorRoom + (g.stack.map fun v => v.category).sum ≤ 8) (hc : cells + (sN out'.2 - sN σ) ≤ R.cells) (hz : slots + (sS out'.2 - sS σ) ≤ R.slots) {mk : MethodId} (hn : s.methodNamed? (mY M') = some mk) :
    ∃ t : State, (∀ acts, Steps p.tables e below (doInvoke e (T.setTop g) acts mk (As.map (cV E)).toArray).1 t) ∧ EQ E out' (T.calling g mk (As.map (cV E)).toArray) (.java g :: below) (sN σ) (sS σ) t := by
  have hKT : KE E T := C.k.move X.warmed
  obtain ⟨mk', methk, ck, hn', a1, a2, a3, a4, a5, a6, a7, a8⟩ := hw.facts hKT
  have hn2 : T.methodNamed? (mY M') = some mk := X.named hn
  cases hn2.symm.trans hn'
  have hpl : T.plainMethod mk := State.plainMethod.of_named hw.2.1 hn2 a1
  have hL := hw.2.2
  obtain ⟨Y, hin⟩ := X.into hg hsize hdg (As.map (cV E)).toArray (R' := { frames := d', cells := sN out'.2 - sN σ, slots := sS out'.2 - sS σ, locals := 40 * d' }) a1 a2 a6 hpl (by show d' + 1 ≤ R.frames; omega) (by show _ + (ck.maxLocals + 11) + 40 * d' ≤ R.locals; rw [a4]; omega) hc hz
  have hKc : KE E (T.calling g mk (As.map (cV E)).toArray) := hKT.move (State.WarmedH.refl T)
  have hCx : Cx E M' p (T.calling g mk (As.map (cV E)).toArray) mk methk ck := ⟨C.x, a3, a4, hn2, a1, a5, a6, a7, hKc⟩
  have hW := hV.2 p e { frames := d', cells := sN out'.2 - sN σ, slots := sS out'.2 - sS σ, locals := 40 * d' } (T.calling g mk (As.map (cV E)).toArray) mk (As.map (cV E)).toArray (.java g :: below) methk ck (sN σ) (sS σ) hCx (Nat.le_refl d') (Nat.le_refl _) (Nat.le_refl _) (Nat.le_refl _) (Nat.le_refl _) (Nat.le_refl _)
    _ T.heap [] (lvr_entry E As hlen) hP (fun q hq => by cases hq)
  rw [Nat.sub_self, Nat.sub_self] at hW
  obtain ⟨t, hs, hq⟩ := hW ((T.setTop g).pushFrame (Frame.java (entryFrame mk (List.map (cV E) As).toArray ck.maxLocals))) rfl Y
  refine ⟨t, fun acts => ?_, hq⟩
  rw [hin acts, a4, lg_entry_eq]
  rw [a4, lg_entry_eq] at hs
  exact stepsWeak (mid := [.java g]) hs
theorem heap_setTop (T : State) (g : JFrame) : (T.setTop g).heap = T.heap := rfl
/-- a call that returns -/
theorem V.callRet {E : En} {M M' : Mi} {d d' : Nat} {out : Out} {pc len : Nat} {lv : List (Option Value)} {stk rest As : List Value} {σ σ' : Sg} {v : Option Value} {ig : Instr} (hd : decode (mC M) pc = .ok (ig, len)) (hw : McW M') (hdd : d' < d) (hlen : (lvF As).length ≤ mL M') (hst : (rest.map fun v => v.category).sum ≤ 8)
    (hI : ∀ (p : Program) (e : Env) (R : Room) (s : State) (m : MethodId) (args : Array Value) (below : List Frame) (meth : Method) (c : Code) (T : State) (locs : List Loc) (cells slots : Nat) (ls : Array Slot) (mk : MethodId) (methk : Method), Cx E M p s m meth c → Stand p (eL E) e R s m args below meth c T locs cells slots → Hp E σ T.heap → s.methodNamed? (mY M') = some mk → s.vm.method? mk = some methk → parseMethodDescriptor (mY M').desc = some methk.sig →
      Ink p (eL E) e R s m args below meth c locs cells slots T (F0 m pc ls (stk.map (cV E))) (rest.map (cV E)) mk (As.map (cV E)).toArray)
    (hV : Ct E M' d' As (.returned v, σ') σ) (h : V E M d out (pc + len) lv (v.toList ++ rest) σ') : V E M d out pc lv stk σ := by
  have b1 := hV.1.1
  have b2 := hV.1.2
  have b3 := h.1.1
  have b4 := h.1.2
  dsimp only at b1 b2
  refine ⟨⟨by omega, by omega⟩, fun p e R s m args below meth c n0 s0 C hf hl hn hs hc hz ls H locs L P Q => ?_⟩
  intro T hT X
  obtain ⟨mk, methk, ck, hnm, a1, -, -, -, -, -, -, a8⟩ := hw.facts C.k
  obtain ⟨vm₁, X₁, hstep⟩ := hI p e R s m args below meth c T locs _ _ ls mk methk C X (by rw [hT]; exact P) hnm a1 a8
  have hcat : (List.map (fun v => v.category) (rest.map (cV E))).sum ≤ 8 := by
    rw [List.map_map, show ((fun v : Value => v.category) ∘ cV E) = (fun v : Value => v.category) from funext fun v => cV_cat E v]
    exact hst
  obtain ⟨t, hrun, hst', hen, hW, hP', L', hsame, hL'⟩ := run_callee (M := M) X₁ C hw hV (show Hp E σ (T.setVm vm₁).heap by show Hp E σ T.heap; rw [hT]; exact P) hlen (g := { F0 m pc ls (stk.map (cV E)) with stack := rest.map (cV E) }) rfl (by show ls.size = _; rw [C.ml]; exact L.1) (by rw [C.b]; exact hd) hdd hf hl (by show 2 * 0 + (List.map (fun v => v.category) (rest.map (cV E))).sum ≤ 8; omega) (by show sN σ - n0 + (sN σ' - sN σ) ≤ R.cells; omega) (by show sS σ - s0 + (sS σ' - sS σ) ≤ R.slots; omega) hnm
  obtain ⟨T', X', -, -, ht⟩ := X₁.outOf (g := { F0 m pc ls (stk.map (cV E)) with stack := rest.map (cV E) }) rfl (by rw [C.b]; exact hd) hen hW hsame
  have hh : t.heap = T'.heap := by rw [ht]; rfl
  have e1 : sN σ - n0 + (sN σ' - sN σ) = sN σ' - n0 := by omega
  have e2 : sS σ - s0 + (sS σ' - sS σ) = sS σ' - s0 := by omega
  dsimp only at X' hP'
  rw [e1, e2] at X'
  obtain ⟨t2, k1, k2⟩ := h.2 p e R s m args below meth c n0 s0 C hf hl (by omega) (by omega) hc hz ls T'.heap (locs ++ L') L (by rw [← hh]; exact hP') (fun q hq => by
    rcases List.mem_append.mp hq with h1 | h1
    · exact Q q h1
    · exact hL' q h1) T' rfl X'
  refine ⟨t2, hstep _ (fun acts => (hrun acts).trans ?_), k2⟩
  rw [ht]
  have e3 : (Option.map (cV E) v).toList ++ rest.map (cV E) = (v.toList ++ rest).map (cV E) := by cases v <;> simp
  show Steps p.tables e below (T'.setTop { method := m, pc := pc + len, locals := ls, stack := (Option.map (cV E) v).toList ++ rest.map (cV E), locked := none }) t2
  rw [e3]
  exact k1

set_option maxRecDepth 100000
set_option maxHeartbeats 1000000
/-! ===== what is thrown: out of a method, through a call, to a handler ===== -/
theorem cov_of {L : List ExceptionTableEntry} {H : List (Nat × Nat × Nat × Nat)} (hh : L.map (fun h => (h.startPc, h.endPc, h.handlerPc, h.catchType)) = H) {pc : Nat} (hn : ∀ q ∈ H, ¬ (q.1 ≤ pc ∧ pc < q.2.1)) : ∀ x ∈ L, covers x pc = false := by
  intro x hx
  have := hn _ (by rw [← hh]; exact List.mem_map_of_mem hx)
  simp only [covers]
  simpa using this
/-- the search for a handler passes what doesn't cover, then takes the first that does: its class may be resolved there for the first time -/
theorem cold_go {e : Env} {s : State} {f : JFrame} {a : Addr} {x : ExceptionTableEntry} {t : List ExceptionTableEntry} {k : ClassId} {cell : Cell} (hx : covers x f.pc = true) (h0 : x.catchType ≠ 0) (hl : s.vm.ClassLinks e.platform f.method.cls x.catchType k) (hcell : s.heap[a]? = some cell) (hobj : ∀ k, cell.vm ≠ .statics k) (hk : ∃ z, s.vm.classes[cell.cls]? = some z) (hc : ∃ z, s.vm.classes[k]? = some z) (hfit : s.vm.assignable cell.cls k = true) :
    ∀ (ps : List ExceptionTableEntry), (∀ y ∈ ps, covers y f.pc = false) → ∀ (Q : Handler → Pre) (E : CtlPost) (d : Bool) (acts : List Action), wp (findHandler.go f a (ps ++ x :: t)) Q E e d acts s ↔ Q (.found x.handlerPc) d acts (s.setVm (s.vm.noted f.method.cls x.catchType (.cls k)))
  | y :: ys, hs, Q, E, d, acts => by
    rw [List.cons_append, W.findHandler_go_skip (hs y List.mem_cons_self)]
    exact cold_go hx h0 hl hcell hobj hk hc hfit ys (fun z hz => hs z (List.mem_cons_of_mem _ hz)) Q E d acts
  | [], _, Q, E, d, acts => by
    have hal : s.vm.Alike (s.vm.noted f.method.cls x.catchType (.cls k)) := (Vm.Alike.refl s.vm).noted _ _ _
    obtain ⟨z1, hz1⟩ := hk
    obtain ⟨z2, hz2⟩ := hc
    obtain ⟨y1, hy1, -⟩ := hal.2.2 _ _ hz1
    obtain ⟨y2, hy2, -⟩ := hal.2.2 _ _ hz2
    have hf2 : (s.vm.noted f.method.cls x.catchType (.cls k)).assignable cell.cls k = true := by rw [hal.assignable]; exact hfit
    obtain ⟨o1, o2⟩ := (resolveClass_links e.toSetting hl).op (op := VmOp.resolveClass f.method.cls x.catchType) rfl
    unfold covers at hx
    rw [List.nil_append]
    simp [findHandler.go, hx, h0, o1, o2, hcell, hobj, hy1, hy2, hf2, VmOp.dirties, VmOp.acts]
theorem cold_step {e : Env} {s : State} {a : Addr} {f : JFrame} {r : List Frame} {h : Nat} {vm' : Vm} (hfind : ∀ (Q : Handler → Pre) (E : CtlPost) (d : Bool) (acts : List Action), wp (findHandler f a) Q E e d acts s ↔ Q (.found h) d acts (s.setVm vm')) : (stepThrowing e s a (.java f :: r)).Is ((s.setVm vm').setFrames (.java { f with pc := h, stack := [.ref a] } :: r)) [] := by
  simp only [stepThrowing, searchFrame, vmDo]
  generalize hr : Sem.go _ e false [] s = res
  obtain ⟨as, rfl, ha⟩ := Sem.eq_ok_of hr (a := Handler.found h) (s' := s.setVm vm') (acts' := []) (by simp [hfind _ _ _ _])
  exact ⟨rfl, ha⟩
theorem cold_run {p : Program} {l : Launch} {e : Env} {R : Room} {s : State} {m : MethodId} {args : Array Value} {below : List Frame} {meth : Method} {c : Code} {T : State} {locs : List Loc} {cells slots : Nat} (X : Stand p l e R s m args below meth c T locs cells slots) (a : Addr) {g : JFrame} (hg : g.method = m) {own B : String} (hown : s.vm.findClass own = some m.cls) (pre : List ExceptionTableEntry) (x : ExceptionTableEntry) (post : List ExceptionTableEntry) (hsplit : c.exceptionTable.toList = pre ++ x :: post) (hskip : ∀ y ∈ pre, covers y g.pc = false) (hx : covers x g.pc = true) (h0 : x.catchType ≠ 0)
    (hlink : (Cond.classLink own x.catchType B).before args s = true) {k : ClassId} {cell : Cell} (hB : s.vm.findClass B = some k) (hcell : T.heap[a]? = some cell) (hobj : cell.vm.isStatics = false) (hfit : s.vm.assignable cell.cls k = true) :
    ∃ vm', Stand p l e R s m args below meth c (T.setVm vm') locs cells slots ∧ ∀ target, Steps p.tables e below ((T.setVm vm').setTop { g with pc := x.handlerPc, stack := [.ref a] }) target → Steps p.tables e below ((T.setTop g).pushFrame (.throwing a)) target := by
  obtain ⟨k', hk', hcl⟩ := Cond.classLink_spec hown hlink e.platform (by rw [X.admits.platform])
  cases hB.symm.trans hk'
  obtain ⟨dk, _, _, kt, hd, _, _, _, _, hkt, _, hopen⟩ := hcl.here
  have hal := X.warmed.alike
  obtain ⟨kt', hkt', -⟩ := hal.2.2 _ _ hkt
  have hf2 : T.vm.assignable cell.cls k = true := by rw [hal.assignable]; exact hfit
  have hcls : ∃ z, T.vm.classes[cell.cls]? = some z := Vm.classAt_of_assignable hf2 ⟨kt', hkt'⟩
  have hob : ∀ q, cell.vm ≠ .statics q := VmData.noStatics_of hobj
  refine ⟨_, X.noted (X.warmed.noted hd hopen (State.rightAt_cls hcl)), fun target hrest => ?_⟩
  subst hg
  have hA := X.here
  obtain ⟨hgo, hw⟩ := hA.throwing a
  refine Steps.head hgo hw ?_
  have hstep := cold_step (e := e) (s := (T.setTop g).pushFrame (.throwing a)) (a := a) (f := g) (r := T.frames.tail) (h := x.handlerPc) (vm' := T.vm.noted g.method.cls x.catchType (.cls k)) (fun Q E d acts => by
    rw [W.findHandler_eq (s := (T.setTop g).pushFrame (.throwing a)) (meth := meth) (code := c) X.method' X.code, hsplit]
    exact cold_go (s := (T.setTop g).pushFrame (.throwing a)) hx h0 (X.warmed.classLinks hcl) hcell hob hcls ⟨kt', hkt'⟩ hf2 pre hskip Q E d acts)
  rw [stepThread_throwing (frames_entered hA.top _), hstep.1]
  obtain ⟨g₀, hg0⟩ := Option.isSome_iff_exists.mp hA.top
  obtain ⟨r, hr⟩ := State.topJava?_eq_some.mp hg0
  have hr2 : (T.setVm (T.vm.noted g.method.cls x.catchType (.cls k))).frames = .java g₀ :: r := hr
  have hv : ∀ (u : State) (v : Vm) (F G : List Frame), ((u.setFrames F).setVm v).setFrames G = (u.setVm v).setFrames G := fun u v F G => by
    rw [show (u.setFrames F).setVm v = (u.setVm v).setFrames F from rfl, State.setFrames_setFrames]
  rw [State.setTop_of_frames _ hr2] at hrest
  rw [hr, List.tail_cons, State.pushFrame, hv, State.setTop_of_frames _ hr, hv]
  exact hrest
section
variable {E : En} {M M' : Mi} {d d' : Nat} {out : Out} {pc index n : Nat} {lv : List (Option Value)} {st : List Value} {σ σ' : Sg}
theorem V.athrow {a : Nat} (hn : ∀ q ∈ mH M, ¬ (q.1 ≤ pc ∧ pc < q.2.1)) (hd : decode (mC M) pc = .ok (.athrow, 1)) (ho : out = (.threw a, σ)) : V E M d out pc lv (.ref a :: st) σ := by
  subst ho
  refine ⟨⟨Nat.le_refl _, Nat.le_refl _⟩, fun p e R s m args below meth c n0 s0 C hf hl hns hs hc hz ls H locs L P Q => ?_⟩
  intro T hT X
  obtain ⟨k1, k2, k3, k4, k5⟩ := X.athrowLeaves C.x (g := F0 m pc ls ((.ref a :: st).map (cV E))) rfl rfl rfl (cov_of C.hh hn) (a := cA E a) (rest := st.map (cV E)) rfl (by rw [C.b]; exact hd) (hlocks := C.lk)
  exact ⟨_, k1, k2, k3, k4, (show Hp E σ T.heap by rw [hT]; exact P), locs, k5, Q⟩
theorem V.callOut {len : Nat} {stk rest As : List Value} {a : Nat} {ig : Instr} (hn : ∀ q ∈ mH M, ¬ (q.1 ≤ pc ∧ pc < q.2.1)) (hd : decode (mC M) pc = .ok (ig, len)) (hw : McW M') (hdd : d' < d) (hlen : (lvF As).length ≤ mL M') (hst : (rest.map fun v => v.category).sum ≤ 8)
    (hI : Lk E M σ pc stk rest As M') (hV : Ct E M' d' As (.threw a, σ') σ) (ho : out = (.threw a, σ')) : V E M d out pc lv stk σ := by
  subst ho
  have b1 := hV.1.1
  have b2 := hV.1.2
  dsimp only at b1 b2
  refine ⟨⟨b1, b2⟩, fun p e R s m args below meth c n0 s0 C hf hl hns hs hc hz ls H locs L P Q => ?_⟩
  intro T hT X
  obtain ⟨mk, methk, ck, hnm, a1, -, -, -, -, -, -, a8⟩ := hw.facts C.k
  obtain ⟨vm₁, X₁, hstep⟩ := hI p e R s m args below meth c T locs _ _ ls mk methk C X (by rw [hT]; exact P) hnm a1 a8
  have hcat : (List.map (fun v => v.category) (rest.map (cV E))).sum ≤ 8 := by
    rw [List.map_map, show ((fun v : Value => v.category) ∘ cV E) = (fun v : Value => v.category) from funext fun v => cV_cat E v]
    exact hst
  dsimp only at hc hz
  obtain ⟨t, hrun, hst', hen, hW, hP', L', hsame, hL'⟩ := run_callee (M := M) X₁ C hw hV (show Hp E σ (T.setVm vm₁).heap by show Hp E σ T.heap; rw [hT]; exact P) hlen (g := { F0 m pc ls (stk.map (cV E)) with stack := rest.map (cV E) }) rfl (by show ls.size = _; rw [C.ml]; exact L.1) (by rw [C.b]; exact hd) hdd hf hl (by show 2 * 0 + (List.map (fun v => v.category) (rest.map (cV E))).sum ≤ 8; omega) (by show sN σ - n0 + (sN σ' - sN σ) ≤ R.cells; omega) (by show sS σ - s0 + (sS σ' - sS σ) ≤ R.slots; omega) hnm
  obtain ⟨T', X', -, -, ht⟩ := X₁.outOfThrown (g := { F0 m pc ls (stk.map (cV E)) with stack := rest.map (cV E) }) rfl hen hW hsame
  have hh : t.heap = T'.heap := by rw [ht]; rfl
  have e1 : sN σ - n0 + (sN σ' - sN σ) = sN σ' - n0 := by omega
  have e2 : sS σ - s0 + (sS σ' - sS σ) = sS σ' - s0 := by omega
  dsimp only at X' hP'
  rw [e1, e2] at X'
  obtain ⟨k1, k2, k3, k4, k5⟩ := X'.leaveThrown (cA E a) (g := { F0 m pc ls (stk.map (cV E)) with stack := rest.map (cV E) }) rfl rfl rfl (cov_of C.hh hn) (hlocks := C.lk)
  refine ⟨_, hstep _ (fun acts => (hrun acts).trans ?_), k2, k3, k4, (by rw [hh] at hP'; exact hP'), locs ++ L', k5, fun q hq => by
    rcases List.mem_append.mp hq with h1 | h1
    · exact Q q h1
    · exact hL' q h1⟩
  rw [ht]
  exact k1
theorem V.callCatch {len : Nat} {stk rest As : List Value} {a cc : Nat} {ig : Instr} {B : String} {qq : vw_C} (pre : List (Nat × Nat × Nat × Nat)) (q : Nat × Nat × Nat × Nat) (post : List (Nat × Nat × Nat × Nat)) (hsplit : mH M = pre ++ q :: post) (hskip : ∀ y ∈ pre, ¬ (y.1 ≤ pc ∧ pc < y.2.1)) (hx : q.1 ≤ pc ∧ pc < q.2.1) (h0 : q.2.2.2 ≠ 0) (hl9 : Cond.classLink (mY M).cls q.2.2.2 B ∈ lw_all)
    (ht9 : (sT σ' a).1 = cc + 1) (hc9 : cc < 100) (hq9 : cls[cc]? = some qq) (hcs : CSb qq.1 B) (hd : decode (mC M) pc = .ok (ig, len)) (hw : McW M') (hdd : d' < d) (hlen : (lvF As).length ≤ mL M') (hst : (rest.map fun v => v.category).sum ≤ 8)
    (hI : Lk E M σ pc stk rest As M') (hV : Ct E M' d' As (.threw a, σ') σ) (h : V E M d out q.2.2.1 lv [.ref a] σ') : V E M d out pc lv stk σ := by
  have b1 := hV.1.1
  have b2 := hV.1.2
  have b3 := h.1.1
  have b4 := h.1.2
  dsimp only at b1 b2
  refine ⟨⟨by omega, by omega⟩, fun p e R s m args below meth c n0 s0 C hf hl hns hs hc hz ls H locs L P Q => ?_⟩
  intro T hT X
  obtain ⟨mk, methk, ck, hnm, a1, -, -, -, -, -, -, a8⟩ := hw.facts C.k
  obtain ⟨vm₁, X₁, hstep⟩ := hI p e R s m args below meth c T locs _ _ ls mk methk C X (by rw [hT]; exact P) hnm a1 a8
  have hcat : (List.map (fun v => v.category) (rest.map (cV E))).sum ≤ 8 := by
    rw [List.map_map, show ((fun v : Value => v.category) ∘ cV E) = (fun v : Value => v.category) from funext fun v => cV_cat E v]
    exact hst
  obtain ⟨t, hrun, hst', hen, hW, hP', L', hsame, hL'⟩ := run_callee (M := M) X₁ C hw hV (show Hp E σ (T.setVm vm₁).heap by show Hp E σ T.heap; rw [hT]; exact P) hlen (g := { F0 m pc ls (stk.map (cV E)) with stack := rest.map (cV E) }) rfl (by show ls.size = _; rw [C.ml]; exact L.1) (by rw [C.b]; exact hd) hdd hf hl (by show 2 * 0 + (List.map (fun v => v.category) (rest.map (cV E))).sum ≤ 8; omega) (by show sN σ - n0 + (sN σ' - sN σ) ≤ R.cells; omega) (by show sS σ - s0 + (sS σ' - sS σ) ≤ R.slots; omega) hnm
  obtain ⟨T', X', -, -, ht⟩ := X₁.outOfThrown (g := { F0 m pc ls (stk.map (cV E)) with stack := rest.map (cV E) }) rfl hen hW hsame
  have hh : t.heap = T'.heap := by rw [ht]; rfl
  have e1 : sN σ - n0 + (sN σ' - sN σ) = sN σ' - n0 := by omega
  have e2 : sS σ - s0 + (sS σ' - sS σ) = sS σ' - s0 := by omega
  dsimp only at X' hP'
  rw [e1, e2] at X'
  rw [hh] at hP'
  obtain ⟨cell, k, g1, g2, g3, g4⟩ := hP'.recv C.k ht9 hc9 hq9
  obtain ⟨tt, ht1, ht2⟩ := C.k.asg hcs g3
  have hmap := C.hh
  rw [hsplit] at hmap
  obtain ⟨preL, restL, eL1, eL2, eL3⟩ := List.map_eq_append_iff.mp hmap
  obtain ⟨x, postL, eL4, eL5, eL6⟩ := List.map_eq_cons_iff.mp eL3
  have ex1 : x.startPc = q.1 := congrArg (fun z => z.1) eL5
  have ex2 : x.endPc = q.2.1 := congrArg (fun z => z.2.1) eL5
  have ex3 : x.handlerPc = q.2.2.1 := congrArg (fun z => z.2.2.1) eL5
  have ex4 : x.catchType = q.2.2.2 := congrArg (fun z => z.2.2.2) eL5
  obtain ⟨vm', XV, stt⟩ := cold_run X' (cA E a) (g := { F0 m pc ls (stk.map (cV E)) with stack := rest.map (cV E) }) rfl C.own preL x postL (by rw [eL1, eL4]) (cov_of eL2 hskip) (by simp only [covers]; rw [ex1, ex2]; simpa using hx) (by rw [ex4]; exact h0) (by rw [ex4]; exact C.ts args _ hl9) ht1 (cell := cell) g1 g2 ht2
  obtain ⟨t2, k1, k2⟩ := h.2 p e R s m args below meth c n0 s0 C hf hl (by omega) (by omega) hc hz ls T'.heap (locs ++ L') L hP' (fun q hq => by
    rcases List.mem_append.mp hq with h1 | h1
    · exact Q q h1
    · exact hL' q h1) (T'.setVm vm') rfl XV
  refine ⟨t2, hstep _ (fun acts => (hrun acts).trans ?_), k2⟩
  rw [ht]
  refine stt t2 ?_
  rw [ex3]
  exact k1
end

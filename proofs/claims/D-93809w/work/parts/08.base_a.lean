set_option maxRecDepth 100000
/-! ===== ABSTRACT HEAPS. Sg: (next address, slots so far, tags, int contents, long contents, reference contents). Addresses below 1000: cells that were there at the law's start; from 1000 on: cells made since, in order. A tag (0, _): nothing is said; (c+1, _) with c < 100: an object of class number c; (t+1, n) with 100 ≤ t: an array of type t, of length n ===== -/
abbrev Sg : Type := Nat × Nat × (Nat → Nat × Nat) × (Nat → Nat → Int32) × (Nat → Nat → Int64) × (Nat → Nat → Option Nat)
abbrev sN (σ : Sg) : Nat := σ.1
abbrev sS (σ : Sg) : Nat := σ.2.1
abbrev sT (σ : Sg) : Nat → Nat × Nat := σ.2.2.1
abbrev sI (σ : Sg) : Nat → Nat → Int32 := σ.2.2.2.1
abbrev sL (σ : Sg) : Nat → Nat → Int64 := σ.2.2.2.2.1
abbrev sR (σ : Sg) : Nat → Nat → Option Nat := σ.2.2.2.2.2
def up2 {α : Type} (f : Nat → Nat → α) (a k : Nat) (v : α) : Nat → Nat → α := fun b j => if b = a ∧ j = k then v else f b j
def up1 {α : Type} (f : Nat → α) (a : Nat) (v : α) : Nat → α := fun b => if b = a then v else f b
abbrev pI (σ : Sg) (a k : Nat) (v : Int32) : Sg := (sN σ, sS σ, sT σ, up2 (sI σ) a k v, sL σ, sR σ)
abbrev pL (σ : Sg) (a k : Nat) (v : Int64) : Sg := (sN σ, sS σ, sT σ, sI σ, up2 (sL σ) a k v, sR σ)
abbrev pR (σ : Sg) (a k : Nat) (v : Option Nat) : Sg := (sN σ, sS σ, sT σ, sI σ, sL σ, up2 (sR σ) a k v)
/-- a new cell with tag t, w slots, all at their default -/
abbrev nW (σ : Sg) (t : Nat × Nat) (w : Nat) : Sg := (sN σ + 1, sS σ + w, up1 (sT σ) (sN σ) t, up1 (sI σ) (sN σ) (fun _ => 0), up1 (sL σ) (sN σ) (fun _ => 0), up1 (sR σ) (sN σ) (fun _ => none))
theorem up2_eq {α : Type} (f : Nat → Nat → α) (a k : Nat) (v : α) : up2 f a k v a k = v := by simp [up2]
theorem up2_ne {α : Type} (f : Nat → Nat → α) {a b k j : Nat} (v : α) (h : ¬ (b = a ∧ j = k)) : up2 f a k v b j = f b j := by simp [up2, h]
theorem up2_at {α : Type} (f : Nat → Nat → α) {a b k : Nat} (v : α) (h : b ≠ a) : up2 f a k v b = f b := by funext j; simp [up2, h]
theorem up1_eq {α : Type} (f : Nat → α) (a : Nat) (v : α) : up1 f a v a = v := by simp [up1]
theorem up1_ne {α : Type} (f : Nat → α) {a b : Nat} (v : α) (h : b ≠ a) : up1 f a v b = f b := by simp [up1, h]
/-! ===== the law's start, and where things lie ===== -/
abbrev En : Type := Launch × State × Nat × (Nat → Nat) × (Nat → ClassId) × (Nat → Nat → Nat) × (Nat → ClassId)
abbrev eL (E : En) : Launch := E.1
abbrev eS (E : En) : State := E.2.1
abbrev eB (E : En) : Nat := E.2.2.1
abbrev eO (E : En) : Nat → Nat := E.2.2.2.1
abbrev eC (E : En) : Nat → ClassId := E.2.2.2.2.1
abbrev eI (E : En) : Nat → Nat → Nat := E.2.2.2.2.2.1
abbrev eA (E : En) : Nat → ClassId := E.2.2.2.2.2.2
abbrev eZ (E : En) : Nat := (eS E).heap.size
def cA (E : En) (a : Nat) : Nat := if a < 1000 then eO E a else eZ E + (a - 1000)
def cV (E : En) : Value → Value
  | .ref a => .ref (cA E a)
  | v => v
def cR (E : En) (o : Option Nat) : Value := va_rf (o.map (cA E))
theorem cR_eq (E : En) (o : Option Nat) : cR E o = cV E (va_rf o) := by cases o <;> rfl
theorem cV_cat (E : En) (v : Value) : (cV E v).category = v.category := by cases v <;> rfl
def TJ17 : u_T := fun _ => ("java/lang/Byte", "value", "B", true)
def tyJ17 : Nat → FieldType := fun _ => .byte
def cls : List vw_C := [(RX0, TX0, 41), (RX1, TX1, 3), (RX2, TX2, 8), (RX3, TX3, 7), (RX4, TX4, 2), (RX5, TX5, 2), (RX6, TX6, 3), (RX7, TX7, 59), (RX8, TX8, 5), (RX9, TX9, 6), (RX10, TX10, 6), (RX11, TX11, 7), (RX12, TX12, 7), (RX13, TX13, 6), (RX14, TX14, 7), (RX15, TX15, 1), (RJ2, TJ2, 3), (RJ3, TJ3, 2), (RJ8, TJ8, 4), (RJ17, TJ17, 1)]
def tyTab : List (Nat → FieldType) := [tyX0, tyX1, tyX2, tyX3, tyX4, tyX5, tyX6, tyX7, tyX8, tyX9, tyX10, tyX11, tyX12, tyX13, tyX14, tyX15, tyJ2, tyJ3, tyJ8, tyJ17]
def tyF (c k : Nat) : FieldType := (tyTab.getD c (fun _ => .int)) k
/-- the arrays' element types: 100 int, 101 byte, 102 long, 103 Object, 104 Node, 105 Node[], 106 Sheet, 107 String, 108 Byte -/
def aTys : List FieldType := [.int, .byte, .long, .object "java/lang/Object", .object "OverTheHeads$Node", .array (.object "OverTheHeads$Node"), .object "OverTheHeads$Sheet", .object "java/lang/String", .object "java/lang/Byte"]
def aTy (t : Nat) : FieldType := aTys.getD (t - 100) .int
/-- what a slot of a type holds -/
def fv (E : En) (σ : Sg) (ty : FieldType) (a j : Nat) : Value := match ty with
  | .long => .long (sL σ a j)
  | .object _ => cR E (sR σ a j)
  | .array _ => cR E (sR σ a j)
  | _ => .int (sI σ a j)
/-- an object's cell: new ones carry nothing of the VM's -/
def oAt (E : En) (σ : Sg) (c a : Nat) (H : Heap) : Prop := ∃ (r : vw_C) (cell : Cell), cls[c]? = some r ∧ H[cA E a]? = some cell ∧ cell.cls = eC E c ∧ cell.vm ≠ .unknown ∧ cell.vm.isStatics = false ∧ (1000 ≤ a → cell.vm = .none) ∧ ∀ k, k < r.2.2 → cell.slots[eI E c k]? = some (fv E σ (tyF c k) a k)
def rAt (E : En) (σ : Sg) (t n a : Nat) (H : Heap) : Prop := ∃ cell : Cell, H[cA E a]? = some cell ∧ cell.cls = eA E t ∧ cell.vm ≠ .unknown ∧ cell.vm.isStatics = false ∧ (1000 ≤ a → cell.vm = .none) ∧ n ≤ cell.slots.size ∧ cell.slots.size.toInt32 = Int32.ofNat n ∧ ∀ j, j < n → cell.slots[j]? = some (fv E σ (aTy t) a j)
def cAt (E : En) (σ : Sg) (a : Nat) (H : Heap) : Prop := ∀ t, (sT σ a).1 = t + 1 → (t < 100 → oAt E σ t a H) ∧ (100 ≤ t → rAt E σ t (sT σ a).2 a H)
/-- the heap holds σ -/
def Hp (E : En) (σ : Sg) (H : Heap) : Prop := H.size + 1000 = eZ E + sN σ ∧ 1000 ≤ sN σ ∧ (∀ a, cAt E σ a H) ∧ (∀ a, a < 1000 → eO E a < eZ E) ∧ ∀ q : Nat, q < eZ E → H[q]? = (eS E).heap[q]?
/-- a class, its fields' slots; that it is an ordinary one is not said of Byte (class 19) -/
def KN (U : State) (q : vw_C) (c : Nat) (cC : ClassId) (iS : Nat → Nat) : Prop := (∀ k, k < q.2.2 → SlotIs U (q.2.1 k).1 (q.2.1 k).2.1 (q.2.1 k).2.2.1 (iS k)) ∧ U.vm.findClass q.1 = some cC ∧ ∃ kC : Class, U.vm.classes[cC]? = some kC ∧ (c ≠ 19 → kC.kind = .ordinary)
theorem KN.u {U : State} {q : vw_C} {c : Nat} {cC : ClassId} {iS : Nat → Nat} (h : KN U q c cC iS) (hc : c ≠ 19) : u_Kn U q.1 q.2.1 q.2.2 cC iS := by
  obtain ⟨h1, h2, kC, h3, h4⟩ := h
  exact ⟨h1, h2, kC, h3, h4 hc⟩
theorem KN.moved {u U : State} {q : vw_C} {c : Nat} {cC : ClassId} {iS : Nat → Nat} (hvm : u.vm.Alike U.vm) (h : KN u q c cC iS) : KN U q c cC iS := by
  obtain ⟨h1, h2, kC, h3, h4⟩ := h
  obtain ⟨k', hk', he⟩ := hvm.2.2 _ _ h3
  exact ⟨fun k hk => slotIs_moved hvm (h1 k hk), by rw [hvm.findClass]; exact h2, k', hk', fun hc => by rw [he]; exact h4 hc⟩
/-- what is known of the start -/
def G0 (E : En) : Prop := (∀ w ∈ lw_tbl, w.before #[Value.ref (eB E)] (eS E) = true) ∧ (Jvm.Cond.and given_1 narrow_1).before #[Value.ref (eB E)] (eS E) = true ∧ (∀ (c : Nat) (q : vw_C), cls[c]? = some q → KN (eS E) q c (eC E c) (eI E c)) ∧ (∀ t, 100 ≤ t → t < 109 → ArrOfT (eS E) (eA E t) (aTy t) ∧ (t ≠ 108 → va_RA (eS E) (eA E t) (aTy t)))
def KE (E : En) (s : State) : Prop := G0 E ∧ (eS E).WarmedH s.vm
theorem KE.move {E : En} {s U : State} (h : KE E s) (hW : s.WarmedH U.vm) : KE E U := ⟨h.1, State.WarmedH.trans h.2 hW⟩
theorem KE.ts {E : En} {s : State} (h : KE E s) (args : Array Value) : ∀ w ∈ lw_all, w.before args s = true := fun w hw => word_at h.2 (good_of_word (List.mem_filter.mp hw).2) (h.1.1 w (List.mem_filter.mp hw).1)
theorem KE.kn {E : En} {s : State} (h : KE E s) {c : Nat} {q : vw_C} (hq : cls[c]? = some q) : KN s q c (eC E c) (eI E c) := KN.moved h.2.alike (h.1.2.2.1 c q hq)
theorem KE.arr {E : En} {s : State} (h : KE E s) {t : Nat} (h1 : 100 ≤ t) (h2 : t < 109) : ArrOfT s (eA E t) (aTy t) ∧ (t ≠ 108 → va_RA s (eA E t) (aTy t)) := ⟨arrOfT_moved h.2.alike (h.1.2.2.2 t h1 h2).1, fun h8 => ((h.1.2.2.2 t h1 h2).2 h8).moved h.2.alike⟩
theorem KE.isArr {E : En} {s : State} (h : KE E s) {t : Nat} (h1 : 100 ≤ t) (h2 : t < 109) {cell : Cell} (hc : cell.cls = eA E t) (hv : cell.vm.isStatics = false) : s.isArrayOf cell (aTy t) := by
  obtain ⟨-, hk⟩ := (h.arr h1 h2).1 0 (fun _ => .null)
  refine ⟨fun k e => by rw [e] at hv; exact Bool.noConfusion hv, ?_⟩
  rw [hc]
  exact hk
/-! ===== contexts of a method's body ===== -/
abbrev Mi : Type := MethodName × ByteArray × Nat × Option FieldType × List (Nat × Nat × Nat × Nat)
abbrev mY (M : Mi) : MethodName := M.1
abbrev mC (M : Mi) : ByteArray := M.2.1
abbrev mL (M : Mi) : Nat := M.2.2.1
abbrev mR (M : Mi) : Option FieldType := M.2.2.2.1
abbrev mH (M : Mi) : List (Nat × Nat × Nat × Nat) := M.2.2.2.2
def Cx (E : En) (M : Mi) (p : Program) (s : State) (m : MethodId) (meth : Method) (c : Code) : Prop :=
  p.tables.exec = Jvm.exec ∧ c.code = mC M ∧ c.maxLocals = mL M ∧ s.methodNamed? (mY M) = some m ∧ s.vm.method? m = some meth ∧ meth.sig.returnType = mR M ∧ meth.locks = false ∧ c.exceptionTable.toList.map (fun h => (h.startPc, h.endPc, h.handlerPc, h.catchType)) = mH M ∧ KE E s
theorem Cx.x {E : En} {M : Mi} {p : Program} {s : State} {m : MethodId} {meth : Method} {c : Code} (h : Cx E M p s m meth c) : p.tables.exec = Jvm.exec := h.1
theorem Cx.b {E : En} {M : Mi} {p : Program} {s : State} {m : MethodId} {meth : Method} {c : Code} (h : Cx E M p s m meth c) : c.code = mC M := h.2.1
theorem Cx.ml {E : En} {M : Mi} {p : Program} {s : State} {m : MethodId} {meth : Method} {c : Code} (h : Cx E M p s m meth c) : c.maxLocals = mL M := h.2.2.1
theorem Cx.nm {E : En} {M : Mi} {p : Program} {s : State} {m : MethodId} {meth : Method} {c : Code} (h : Cx E M p s m meth c) : s.methodNamed? (mY M) = some m := h.2.2.2.1
theorem Cx.mt {E : En} {M : Mi} {p : Program} {s : State} {m : MethodId} {meth : Method} {c : Code} (h : Cx E M p s m meth c) : s.vm.method? m = some meth := h.2.2.2.2.1
theorem Cx.r {E : En} {M : Mi} {p : Program} {s : State} {m : MethodId} {meth : Method} {c : Code} (h : Cx E M p s m meth c) : meth.sig.returnType = mR M := h.2.2.2.2.2.1
theorem Cx.lk {E : En} {M : Mi} {p : Program} {s : State} {m : MethodId} {meth : Method} {c : Code} (h : Cx E M p s m meth c) : meth.locks = false := h.2.2.2.2.2.2.1
theorem Cx.hh {E : En} {M : Mi} {p : Program} {s : State} {m : MethodId} {meth : Method} {c : Code} (h : Cx E M p s m meth c) : c.exceptionTable.toList.map (fun h => (h.startPc, h.endPc, h.handlerPc, h.catchType)) = mH M := h.2.2.2.2.2.2.2.1
theorem Cx.k {E : En} {M : Mi} {p : Program} {s : State} {m : MethodId} {meth : Method} {c : Code} (h : Cx E M p s m meth c) : KE E s := h.2.2.2.2.2.2.2.2
theorem Cx.own {E : En} {M : Mi} {p : Program} {s : State} {m : MethodId} {meth : Method} {c : Code} (h : Cx E M p s m meth c) : s.vm.findClass (mY M).cls = some m.cls := findClass_of_methodNamed h.nm
theorem Cx.name {E : En} {M : Mi} {p : Program} {s : State} {m : MethodId} {meth : Method} {c : Code} (h : Cx E M p s m meth c) : meth.name = (mY M).name := (name_of_methodNamed h.nm h.mt).1
theorem Cx.ts {E : En} {M : Mi} {p : Program} {s : State} {m : MethodId} {meth : Method} {c : Code} (h : Cx E M p s m meth c) (args : Array Value) : ∀ w ∈ lw_all, w.before args s = true := h.k.ts args
/-! ===== locals, ends, the judgement ===== -/
def lvr (E : En) (ls : Array Slot) (nL : Nat) (lv : List (Option Value)) : Prop := ls.size = nL ∧ lv_wf ls ∧ ∀ (i : Nat) (v : Value), lv[i]? = some (some v) → ls[i]? = some (.val (cV E v))
abbrev Out : Type := Outcome × Sg
def cO (E : En) : Outcome → Outcome
  | .returned v => .returned (v.map (cV E))
  | .threw a => .threw (cA E a)
def EQ (E : En) (out : Out) (s : State) (below : List Frame) (n0 s0 : Nat) : State → Prop := fun t =>
  t.status = .running ∧ Ended t below (cO E out.1) ∧ s.WarmedH t.vm ∧ Hp E out.2 t.heap ∧ ∃ L : List Loc, s.sameButNew ({ t with vm := s.vm } : State) L (sN out.2 - n0) (sS out.2 - s0) ∧ ∀ q ∈ L, eZ E ≤ q.base
/-- THE JUDGEMENT: a method M's body, at pc with locals lv, stack st and heap σ, comes to the end 'out', with d frames' room -/
def V (E : En) (M : Mi) (d : Nat) (out : Out) (pc : Nat) (lv : List (Option Value)) (st : List Value) (σ : Sg) : Prop :=
  (sN σ ≤ sN out.2 ∧ sS σ ≤ sS out.2) ∧
  ∀ (p : Program) (e : Env) (R : Room) (s : State) (m : MethodId) (args : Array Value) (below : List Frame) (meth : Method) (c : Code) (n0 s0 : Nat), Cx E M p s m meth c → d ≤ R.frames → 40 * d ≤ R.locals → n0 ≤ sN σ → s0 ≤ sS σ → sN out.2 - n0 ≤ R.cells → sS out.2 - s0 ≤ R.slots →
    ∀ (ls : Array Slot) (H : Heap) (locs : List Loc), lvr E ls (mL M) lv → Hp E σ H → (∀ q ∈ locs, eZ E ≤ q.base) →
      W p (eL E) e R s m args below meth c H locs (sN σ - n0) (sS σ - s0) (EQ E out s below n0 s0) (F0 m pc ls (st.map (cV E)))

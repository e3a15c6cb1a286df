set_option maxRecDepth 100000
section
variable {E : En} {M : Mi} {d : Nat} {out : Out} {pc : Nat} {lv : List (Option Value)} {st : List Value} {σ : Sg}
/-! ===== the ends ===== -/
theorem V.iret {v : Int32} {ty : FieldType} (hd : decode (mC M) pc = .ok (.ireturn, 1)) (hr : mR M = some ty) (hn : narrow ty (.int v) = .int v) (ho : out = (.returned (some (.int v)), σ)) : V E M d out pc lv [.int v] σ := by
  subst ho
  refine ⟨⟨Nat.le_refl _, Nat.le_refl _⟩, fun p e R s m args below meth c n0 s0 C hf hl hns hs hc hz ls H locs L P Q => ?_⟩
  intro T hT X
  have hrt : meth.sig.returnType = some ty := C.r.trans hr
  obtain ⟨fs, hret, hrun, hended, hW, hframe⟩ := X.leave (v := some (.int v)) (hlocks := C.lk) (fun h => by rw [hrt] at h; cases h)
  have hmeth' : T.vm.method? m = some meth := X.method'
  refine ⟨T.setFrames fs, ?_, hrun, hended, hW, (show Hp E σ T.heap by rw [hT]; exact P), locs, hframe, Q⟩
  have hb := C.b
  have hx := C.x
  show Steps p.tables e below (T.setTop (F0 m pc ls [.int v])) _
  jvm_step X.here [X.here.top, hx, hb, hd, hmeth', hrt, hn]
  (try refine ⟨rfl, ?_⟩); (try refine ⟨rfl, ?_⟩)
  first | (intro acts; rw [hret _ acts rfl rfl rfl]) | rw [hret _ _ rfl rfl rfl]
  exact Steps.refl _
theorem V.lret {v : Int64} (hd : decode (mC M) pc = .ok (.lreturn, 1)) (hr : mR M = some .long) (ho : out = (.returned (some (.long v)), σ)) : V E M d out pc lv [.long v] σ := by
  subst ho
  refine ⟨⟨Nat.le_refl _, Nat.le_refl _⟩, fun p e R s m args below meth c n0 s0 C hf hl hns hs hc hz ls H locs L P Q => ?_⟩
  intro T hT X
  have hrt : meth.sig.returnType = some .long := C.r.trans hr
  obtain ⟨fs, hret, hrun, hended, hW, hframe⟩ := X.leave (v := some (.long v)) (hlocks := C.lk) (fun h => by rw [hrt] at h; cases h)
  have hmeth' : T.vm.method? m = some meth := X.method'
  refine ⟨T.setFrames fs, ?_, hrun, hended, hW, (show Hp E σ T.heap by rw [hT]; exact P), locs, hframe, Q⟩
  have hb := C.b
  have hx := C.x
  show Steps p.tables e below (T.setTop (F0 m pc ls [.long v])) _
  jvm_step X.here [X.here.top, hx, hb, hd, hmeth', hrt]
  (try refine ⟨rfl, ?_⟩); (try refine ⟨rfl, ?_⟩)
  first | (intro acts; rw [hret _ acts rfl rfl rfl]) | rw [hret _ _ rfl rfl rfl]
  exact Steps.refl _
theorem V.vret (hd : decode (mC M) pc = .ok (.return_, 1)) (hr : mR M = none) (ho : out = (.returned none, σ)) : V E M d out pc lv [] σ := by
  subst ho
  refine ⟨⟨Nat.le_refl _, Nat.le_refl _⟩, fun p e R s m args below meth c n0 s0 C hf hl hns hs hc hz ls H locs L P Q => ?_⟩
  intro T hT X
  have hrt : meth.sig.returnType = none := C.r.trans hr
  obtain ⟨fs, hret, hrun, hended, hW, hframe⟩ := X.leave (v := none) (hlocks := C.lk) (fun h => rfl)
  have hmeth' : T.vm.method? m = some meth := X.method'
  refine ⟨T.setFrames fs, ?_, hrun, hended, hW, (show Hp E σ T.heap by rw [hT]; exact P), locs, hframe, Q⟩
  have hb := C.b
  have hx := C.x
  show Steps p.tables e below (T.setTop (F0 m pc ls [])) _
  jvm_step X.here [X.here.top, hx, hb, hd, hmeth', hrt]
  (try refine ⟨rfl, ?_⟩); (try refine ⟨rfl, ?_⟩)
  first | (intro acts; rw [hret _ acts rfl rfl rfl]) | rw [hret _ _ rfl rfl rfl]
  exact Steps.refl _
theorem V.aret {o : Option Nat} {rt : FieldType} (hd : decode (mC M) pc = .ok (.areturn, 1)) (hr : mR M = some rt) (hk : fk rt = 2) (ho : out = (.returned (some (va_rf o)), σ)) : V E M d out pc lv [va_rf o] σ := by
  subst ho
  refine ⟨⟨Nat.le_refl _, Nat.le_refl _⟩, fun p e R s m args below meth c n0 s0 C hf hl hns hs hc hz ls H locs L P Q => ?_⟩
  intro T hT X
  have hrt : meth.sig.returnType = some rt := C.r.trans hr
  obtain ⟨fs, hret, hrun, hended, hW, hframe⟩ := X.leave (v := some (cR E o)) (hlocks := C.lk) (fun h => by rw [hrt] at h; cases h)
  have hmeth' : T.vm.method? m = some meth := X.method'
  refine ⟨T.setFrames fs, ?_, hrun, by rw [cR_eq] at hended; exact hended, hW, (show Hp E σ T.heap by rw [hT]; exact P), locs, hframe, Q⟩
  have hb := C.b
  have hx := C.x
  have hrt2 : (∃ n, rt = .object n) ∨ ∃ t, rt = .array t := by
    cases rt <;> first | exact Or.inl ⟨_, rfl⟩ | exact Or.inr ⟨_, rfl⟩ | simp [fk] at hk
  show Steps p.tables e below (T.setTop (F0 m pc ls [cV E (va_rf o)])) _
  rcases hrt2 with ⟨n, rfl⟩ | ⟨t, rfl⟩ <;> cases o <;>
    (simp only [va_rf, cV, cR, Option.map] at *
     jvm_step X.here [X.here.top, hx, hb, hd, hmeth', hrt]
     (try refine ⟨rfl, ?_⟩); (try refine ⟨rfl, ?_⟩)
     first | (intro acts; rw [hret _ acts rfl rfl rfl]) | rw [hret _ _ rfl rfl rfl]
     exact Steps.refl _)
/-! ===== fields ===== -/
theorem V.getG {c k a index : Nat} {C ref : String} {T : u_T} {N : Nat} {v : Value} (hC : ClOK c C T N) (hk : k < N) (ht : (sT σ a).1 = c + 1) (hl : Cond.fieldLink (mY M).cls index ref (T k).2.1 (T k).2.2.1 ∈ lw_all) (hsame : ref = (T k).1 ∨ Cond.sameField ref (T k).1 (T k).2.1 (T k).2.2.1 ∈ lw_all)
    (hd : decode (mC M) pc = .ok (.getfield index, 3)) (hv : fv E σ (tyF c k) a k = cV E v) (h : V E M d out (pc + 3) lv (v :: st) σ) : V E M d out pc lv (.ref a :: st) σ := by
  refine ⟨h.1, fun p e R s m args below meth c' n0 s0 X hf hl' hns hs hc hz ls H locs L P Q => ?_⟩
  obtain ⟨r, cell, q1, q2, q3, q4, q5, q6, q7⟩ := P.obj ht (Nat.lt_trans hC.2.1 (by decide))
  have hr : r = (C, T, N) := Option.some.inj (q1.symm.trans hC.1)
  subst hr
  obtain ⟨hS, hfc, kC, hkC, hkind⟩ := X.k.kn hC.1
  obtain ⟨cf, kf, fi, f, hi, hsl⟩ := hS k hk
  refine W.getf X.x X.b X.own (X.ts args _ hl) (?_ : s.fieldFound? ref (T k).2.1 (T k).2.2.1 = some (cf, kf, fi, f)) (u_facts hfc hkC (u_lays (X.ts args) hC.2.2.1 hk) hi).1 q2 q4 (v := cV E v) ?_ rfl rfl hd (h.2 p e R s m args below meth c' n0 s0 X hf hl' hns hs hc hz ls H locs L P Q)
  · rcases hsame with h1 | h1
    · rw [h1]; exact hi
    · exact u_same (X.ts args _ h1) _ hi
  · rw [hsl, q7 k hk, hv]
theorem V.getI {c k a index : Nat} {C ref : String} {T : u_T} {N : Nat} (hC : ClOK c C T N) (hk : k < N) (ht : (sT σ a).1 = c + 1) (hl : Cond.fieldLink (mY M).cls index ref (T k).2.1 (T k).2.2.1 ∈ lw_all) (hsame : ref = (T k).1 ∨ Cond.sameField ref (T k).1 (T k).2.1 (T k).2.2.1 ∈ lw_all) (hty : fk (tyF c k) = 0)
    (hd : decode (mC M) pc = .ok (.getfield index, 3)) (h : V E M d out (pc + 3) lv (.int (sI σ a k) :: st) σ) : V E M d out pc lv (.ref a :: st) σ := V.getG hC hk ht hl hsame hd (fv_int hty a k) h
theorem V.getL {c k a index : Nat} {C ref : String} {T : u_T} {N : Nat} (hC : ClOK c C T N) (hk : k < N) (ht : (sT σ a).1 = c + 1) (hl : Cond.fieldLink (mY M).cls index ref (T k).2.1 (T k).2.2.1 ∈ lw_all) (hsame : ref = (T k).1 ∨ Cond.sameField ref (T k).1 (T k).2.1 (T k).2.2.1 ∈ lw_all) (hty : fk (tyF c k) = 1)
    (hd : decode (mC M) pc = .ok (.getfield index, 3)) (h : V E M d out (pc + 3) lv (.long (sL σ a k) :: st) σ) : V E M d out pc lv (.ref a :: st) σ := V.getG hC hk ht hl hsame hd (fv_long hty a k) h
theorem V.getO {c k a index : Nat} {C ref : String} {T : u_T} {N : Nat} (hC : ClOK c C T N) (hk : k < N) (ht : (sT σ a).1 = c + 1) (hl : Cond.fieldLink (mY M).cls index ref (T k).2.1 (T k).2.2.1 ∈ lw_all) (hsame : ref = (T k).1 ∨ Cond.sameField ref (T k).1 (T k).2.1 (T k).2.2.1 ∈ lw_all) (hty : fk (tyF c k) = 2)
    (hd : decode (mC M) pc = .ok (.getfield index, 3)) (h : V E M d out (pc + 3) lv (va_rf (sR σ a k) :: st) σ) : V E M d out pc lv (.ref a :: st) σ := V.getG hC hk ht hl hsame hd ((fv_ref hty a k).trans (cR_eq E _)) h
theorem V.getR {c k a b index : Nat} {C ref : String} {T : u_T} {N : Nat} (hC : ClOK c C T N) (hk : k < N) (ht : (sT σ a).1 = c + 1) (hl : Cond.fieldLink (mY M).cls index ref (T k).2.1 (T k).2.2.1 ∈ lw_all) (hsame : ref = (T k).1 ∨ Cond.sameField ref (T k).1 (T k).2.1 (T k).2.2.1 ∈ lw_all) (hty : fk (tyF c k) = 2)
    (hd : decode (mC M) pc = .ok (.getfield index, 3)) (hb : sR σ a k = some b) (h : V E M d out (pc + 3) lv (.ref b :: st) σ) : V E M d out pc lv (.ref a :: st) σ := V.getO hC hk ht hl hsame hty hd (by rw [hb]; exact h)
theorem V.putG {c k a index : Nat} {C ref : String} {T : u_T} {N : Nat} {v : Value} {σ' : Sg} (hC : ClOK c C T N) (hk : k < N) (ht : (sT σ a).1 = c + 1) (ha : 1000 ≤ a) (hl : Cond.fieldLink (mY M).cls index ref (T k).2.1 (T k).2.2.1 ∈ lw_all) (hsame : ref = (T k).1 ∨ Cond.sameField ref (T k).1 (T k).2.1 (T k).2.2.1 ∈ lw_all)
    (hfin : (T k).2.2.2 = false ∨ ((T k).2.2.2 = true ∧ (mY M).name = "<init>" ∧ (T k).1 = (mY M).cls)) (hnf : narrow (tyF c k) (cV E v) = cV E v ∧ fits (tyF c k) (cV E v) = true)
    (e1 : sN σ' = sN σ) (e0 : sS σ' = sS σ) (e2 : sT σ' = sT σ) (hv : fv E σ' (tyF c k) a k = cV E v) (ho : ∀ (ty : FieldType) (b j : Nat), ¬ (b = a ∧ j = k) → fv E σ' ty b j = fv E σ ty b j)
    (hd : decode (mC M) pc = .ok (.putfield index, 3)) (h : V E M d out (pc + 3) lv st σ') : V E M d out pc lv (v :: .ref a :: st) σ := by
  refine ⟨by rw [← e1, ← e0]; exact h.1, fun p e R s m args below meth c' n0 s0 X hf hl' hns hs hc hz ls H locs L P Q => ?_⟩
  have hap := hC.apart X.k
  obtain ⟨r, cell, q1, q2, q3, q4, q5, q6, q7⟩ := P.obj ht (Nat.lt_trans hC.2.1 (by decide))
  have hr : r = (C, T, N) := Option.some.inj (q1.symm.trans hC.1)
  subst hr
  obtain ⟨hS, hfc, kC, hkC, hkind⟩ := X.k.kn hC.1
  obtain ⟨cf, kf, fi, f, hi, hsl⟩ := hS k hk
  have hvm := q6 ha
  have hst := (u_facts hfc hkC (u_lays (X.ts args) hC.2.2.1 hk) hi).1
  have hi2 : s.fieldFound? ref (T k).2.1 (T k).2.2.1 = some (cf, kf, fi, f) := by
    rcases hsame with h1 | h1
    · rw [h1]; exact hi
    · exact u_same (X.ts args _ h1) _ hi
  have hlay := X.ts args _ (hC.2.2.1 _ (u_in_lay hk))
  have key : ∀ H' : Heap, H'[cA E a]? = some (cell.setSlot f.slot (cV E v)) → H'.size = H.size → (∀ q, q ≠ cA E a → H'[q]? = H[q]?) → W p (eL E) e R s m args below meth c' H' (locs ++ [⟨cA E a, f.slot⟩]) (sN σ - n0) (sS σ - s0) (EQ E out s below n0 s0) (F0 m (pc + 3) ls (st.map (cV E))) := by
    intro H' k1 k2 k3
    rw [← e1, ← e0]
    refine h.2 p e R s m args below meth c' n0 s0 X hf hl' (by rw [e1]; exact hns) (by rw [e0]; exact hs) hc hz ls H' _ L ?_ ?_
    · refine P.put ha e1 e2 k2 k3 (fun ty b j hb => ho ty b j (fun z => hb z.1)) ?_
      intro t ht2
      rw [e2, ht] at ht2
      cases ht2
      refine ⟨fun _ => ?_, fun h9 => absurd h9 (by have := hC.2.1; omega)⟩
      rw [hsl] at k1
      exact oAt.put (H := H) q1 q3 hvm q7 hk hap k1 hv (fun j hj => ho _ a j (fun z => hj z.2))
    · intro q hq
      rcases List.mem_append.mp hq with h1 | h1
      · exact Q q h1
      · rw [List.mem_singleton.mp h1]
        exact cA_ge E ha
  have hlt : f.slot < cell.slots.size := by rw [hsl]; exact k2_hasslot (q7 k hk)
  rcases hfin with h1 | ⟨h1, h2, h3⟩
  · unfold u_lay at hlay
    rw [if_neg (by rw [h1]; decide)] at hlay
    have h6 := u_store hfc hkC (hkind (Nat.ne_of_lt hC.2.1)) hlay hi (hC.2.2.2.1 k hk) hnf.1 hnf.2
    exact W.putK X.x X.b (f := f) ⟨X.own, X.ts args _ hl, ⟨_, _, _, hi2⟩, hst⟩ (by rw [q3]; exact h6) q2 hvm hlt rfl rfl hd key
  · unfold u_lay at hlay
    rw [if_pos h1] at hlay
    have hcf : m.cls = cf := by
      obtain ⟨_, _, c2, _, _, _, -, -, hf', -, -, -, hown2, -⟩ := Cond.laysFinal_spec hlay
      have e9 : c2 = cf := by have := hi.symm.trans hf'; simp at this; exact this.1.symm
      rw [h3] at hown2
      rw [← e9]; exact Option.some.inj (X.own.symm.trans hown2)
    have h6 := u_fits hfc hkC (hkind (Nat.ne_of_lt hC.2.1)) (Or.inr hlay) hi (hC.2.2.2.1 k hk) hnf.1 hnf.2
    exact W.putFinK X.x X.b X.own (X.ts args _ hl) hi2 hst hcf (X.name.trans h2) (by rw [q3]; exact h6) q2 hvm hlt rfl rfl hd key
theorem V.putI {c k a index : Nat} {C ref : String} {T : u_T} {N : Nat} {v : Int32} (hC : ClOK c C T N) (hk : k < N) (ht : (sT σ a).1 = c + 1) (ha : 1000 ≤ a) (hl : Cond.fieldLink (mY M).cls index ref (T k).2.1 (T k).2.2.1 ∈ lw_all) (hsame : ref = (T k).1 ∨ Cond.sameField ref (T k).1 (T k).2.1 (T k).2.2.1 ∈ lw_all)
    (hfin : (T k).2.2.2 = false ∨ ((T k).2.2.2 = true ∧ (mY M).name = "<init>" ∧ (T k).1 = (mY M).cls)) (hty : fk (tyF c k) = 0) (hnf : narrow (tyF c k) (.int v) = .int v ∧ fits (tyF c k) (.int v) = true)
    (hd : decode (mC M) pc = .ok (.putfield index, 3)) (h : V E M d out (pc + 3) lv st (pI σ a k v)) : V E M d out pc lv (.int v :: .ref a :: st) σ :=
  V.putG (σ' := pI σ a k v) hC hk ht ha hl hsame hfin hnf rfl rfl rfl ((fv_int hty a k).trans (by show Value.int (up2 (sI σ) a k v a k) = _; rw [up2_eq]; rfl)) (fun ty b j hb => fv_pI E σ v ty hb) hd h
theorem V.putL {c k a index : Nat} {C ref : String} {T : u_T} {N : Nat} {v : Int64} (hC : ClOK c C T N) (hk : k < N) (ht : (sT σ a).1 = c + 1) (ha : 1000 ≤ a) (hl : Cond.fieldLink (mY M).cls index ref (T k).2.1 (T k).2.2.1 ∈ lw_all) (hsame : ref = (T k).1 ∨ Cond.sameField ref (T k).1 (T k).2.1 (T k).2.2.1 ∈ lw_all)
    (hfin : (T k).2.2.2 = false ∨ ((T k).2.2.2 = true ∧ (mY M).name = "<init>" ∧ (T k).1 = (mY M).cls)) (hty : tyF c k = .long)
    (hd : decode (mC M) pc = .ok (.putfield index, 3)) (h : V E M d out (pc + 3) lv st (pL σ a k v)) : V E M d out pc lv (.long v :: .ref a :: st) σ :=
  V.putG (σ' := pL σ a k v) hC hk ht ha hl hsame hfin (by rw [hty]; exact ⟨rfl, rfl⟩) rfl rfl rfl ((fv_long (by rw [hty]; rfl) a k).trans (by show Value.long (up2 (sL σ) a k v a k) = _; rw [up2_eq]; rfl)) (fun ty b j hb => fv_pL E σ v ty hb) hd h
theorem V.putR {c k a index : Nat} {C ref : String} {T : u_T} {N : Nat} {o : Option Nat} (hC : ClOK c C T N) (hk : k < N) (ht : (sT σ a).1 = c + 1) (ha : 1000 ≤ a) (hl : Cond.fieldLink (mY M).cls index ref (T k).2.1 (T k).2.2.1 ∈ lw_all) (hsame : ref = (T k).1 ∨ Cond.sameField ref (T k).1 (T k).2.1 (T k).2.2.1 ∈ lw_all)
    (hfin : (T k).2.2.2 = false ∨ ((T k).2.2.2 = true ∧ (mY M).name = "<init>" ∧ (T k).1 = (mY M).cls)) (hty : fk (tyF c k) = 2)
    (hd : decode (mC M) pc = .ok (.putfield index, 3)) (h : V E M d out (pc + 3) lv st (pR σ a k o)) : V E M d out pc lv (va_rf o :: .ref a :: st) σ := by
  refine V.putG (σ' := pR σ a k o) hC hk ht ha hl hsame hfin ?_ rfl rfl rfl ((fv_ref hty a k).trans (by show cR E (up2 (sR σ) a k o a k) = _; rw [up2_eq]; exact cR_eq E o)) (fun ty b j hb => fv_pR E σ o ty hb) hd h
  generalize tyF c k = ty at hty ⊢
  cases ty <;> cases o <;> first | exact ⟨rfl, rfl⟩ | simp [fk] at hty
/-! ===== arrays ===== -/
/-- the index i is j, within n -/
def IX (i : Int32) (j n : Nat) : Prop := ¬ i < 0 ∧ i.toNatClampNeg = j ∧ j < n
theorem IX.n {j n : Nat} (h : j < n) (hn : n < 2 ^ 31) : IX (nI j) j n := ⟨nI_pos (by omega), nI_clamp (by omega), h⟩
theorem IX.of {i : Int32} {j n : Nat} (e : i = nI j) (h : j < n) (hn : n < 2 ^ 31) : IX i j n := by rw [e]; exact IX.n h hn
theorem V.aldG {a n j t : Nat} {i : Int32} {v : Value} {ig : Instr} (ht : sT σ a = (t + 1, n)) (h1 : 100 ≤ t) (h2 : t < 109) (hi : IX i j n) (hd : decode (mC M) pc = .ok (ig, 1)) (hv : fv E σ (aTy t) a j = cV E v)
    (hrow : ∀ {p : Program} {e : Env} {R : Room} {s : State} {m : MethodId} {args : Array Value} {below : List Frame} {meth : Method} {c : Code} {H : Heap} {locs : List Loc} {cells slots : Nat} {Q : State → Prop} (hexec : p.tables.exec = Jvm.exec) (hb : c.code = mC M) {a' : Addr} {cell : Cell} {v' : Value} (hcell : H[a']? = some cell) (harr : s.isArrayOf cell (aTy t)) (hknown : cell.vm ≠ .unknown) (hin : ¬ (i < 0 ∨ cell.slots.size ≤ i.toNatClampNeg)) (hv' : cell.slots[i.toNatClampNeg]? = some v')
      {g : JFrame} (hg : g.method = m) {rest : List Value} (hstack : g.stack = .int i :: .ref a' :: rest) (hdg : decode (mC M) g.pc = .ok (ig, 1)) (kk : W p (eL E) e R s m args below meth c H locs cells slots Q { g with pc := g.pc + 1, stack := v' :: rest }), W p (eL E) e R s m args below meth c H locs cells slots Q g)
    (h : V E M d out (pc + 1) lv (v :: st) σ) : V E M d out pc lv (.int i :: .ref a :: st) σ := by
  refine ⟨h.1, fun p e R s m args below meth c' n0 s0 X hf hl' hns hs hc hz ls H locs L P Q => ?_⟩
  obtain ⟨cell, q2, q3, q4, q5, q6, q7, q8, q9⟩ := P.arr ht h1
  obtain ⟨i1, i2, i3⟩ := hi
  exact hrow X.x X.b (v' := cV E v) q2 (X.k.isArr h1 h2 q3 q5) q4 (fun z => by rcases z with z | z; exact i1 z; omega) (by rw [i2, q9 j i3, hv]) rfl rfl hd (h.2 p e R s m args below meth c' n0 s0 X hf hl' hns hs hc hz ls H locs L P Q)
theorem V.iald {a n j : Nat} {i : Int32} (ht : sT σ a = (101, n)) (hi : IX i j n) (hd : decode (mC M) pc = .ok (.iaload, 1)) (h : V E M d out (pc + 1) lv (.int (sI σ a j) :: st) σ) : V E M d out pc lv (.int i :: .ref a :: st) σ :=
  V.aldG (t := 100) ht (by decide) (by decide) hi hd (fv_int rfl a j) (fun hexec hb _ _ _ hcell harr hknown hin hv' _ hg _ hstack hdg kk => W.iald hexec hb hcell harr hknown hin hv' hg hstack hdg kk) h
theorem V.bald {a n j : Nat} {i : Int32} (ht : sT σ a = (102, n)) (hi : IX i j n) (hd : decode (mC M) pc = .ok (.baload, 1)) (h : V E M d out (pc + 1) lv (.int (sI σ a j) :: st) σ) : V E M d out pc lv (.int i :: .ref a :: st) σ :=
  V.aldG (t := 101) ht (by decide) (by decide) hi hd (fv_int rfl a j) (fun hexec hb _ _ _ hcell harr hknown hin hv' _ hg _ hstack hdg kk => W.bald hexec hb hcell harr hknown hin hv' hg hstack hdg kk) h
theorem V.lald {a n j : Nat} {i : Int32} (ht : sT σ a = (103, n)) (hi : IX i j n) (hd : decode (mC M) pc = .ok (.laload, 1)) (h : V E M d out (pc + 1) lv (.long (sL σ a j) :: st) σ) : V E M d out pc lv (.int i :: .ref a :: st) σ :=
  V.aldG (t := 102) ht (by decide) (by decide) hi hd (fv_long rfl a j) (fun hexec hb _ _ _ hcell harr hknown hin hv' _ hg _ hstack hdg kk => W.lald hexec hb hcell harr hknown hin hv' hg hstack hdg kk) h
theorem V.aald {a n j t : Nat} {i : Int32} (ht : sT σ a = (t + 1, n)) (h1 : 100 ≤ t) (h2 : t < 109) (hr : (aTy t).isReference = true) (hk : fk (aTy t) = 2) (hi : IX i j n) (hd : decode (mC M) pc = .ok (.aaload, 1)) (h : V E M d out (pc + 1) lv (va_rf (sR σ a j) :: st) σ) : V E M d out pc lv (.int i :: .ref a :: st) σ :=
  V.aldG (t := t) ht h1 h2 hi hd ((fv_ref hk a j).trans (cR_eq E _)) (fun hexec hb _ _ _ hcell harr hknown hin hv' _ hg _ hstack hdg kk => W.aald hexec hb hcell harr hr hknown hin hv' hg hstack hdg kk) h
theorem V.alen {a n t : Nat} (ht : sT σ a = (t + 1, n)) (h1 : 100 ≤ t) (h2 : t < 109) (hd : decode (mC M) pc = .ok (.arraylength, 1)) (h : V E M d out (pc + 1) lv (.int (nI n) :: st) σ) : V E M d out pc lv (.ref a :: st) σ := by
  refine ⟨h.1, fun p e R s m args below meth c' n0 s0 X hf hl' hns hs hc hz ls H locs L P Q => ?_⟩
  obtain ⟨cell, q2, q3, q4, q5, q6, q7, q8, q9⟩ := P.arr ht h1
  exact W.alen X.x X.b q2 (X.k.isArr h1 h2 q3 q5) q8 rfl rfl hd (h.2 p e R s m args below meth c' n0 s0 X hf hl' hns hs hc hz ls H locs L P Q)
theorem V.astG {a n j t : Nat} {i : Int32} {v w : Value} {σ' : Sg} {ig : Instr} (ht : sT σ a = (t + 1, n)) (h1 : 100 ≤ t) (h2 : t < 109) (ha : 1000 ≤ a) (hi : IX i j n) (hd : decode (mC M) pc = .ok (ig, 1))
    (e1 : sN σ' = sN σ) (e0 : sS σ' = sS σ) (e2 : sT σ' = sT σ) (hv : fv E σ' (aTy t) a j = w) (ho : ∀ (ty : FieldType) (b k : Nat), ¬ (b = a ∧ k = j) → fv E σ' ty b k = fv E σ ty b k)
    (hrow : ∀ {p : Program} {e : Env} {R : Room} {s : State} {m : MethodId} {args : Array Value} {below : List Frame} {meth : Method} {c : Code} {H : Heap} {locs : List Loc} {cells slots : Nat} {Q : State → Prop}, KE E s → Hp E σ H → ∀ (hexec : p.tables.exec = Jvm.exec) (hb : c.code = mC M) {a' : Addr} {cell : Cell} (hcell : H[a']? = some cell) (harr : s.isArrayOf cell (aTy t)) (hcl : cell.cls = eA E t) (hob : cell.vm.isStatics = false) (hknown : cell.vm ≠ .unknown) (hin : ¬ (i < 0 ∨ cell.slots.size ≤ i.toNatClampNeg))
      {g : JFrame} (hg : g.method = m) {rest : List Value} (hstack : g.stack = cV E v :: .int i :: .ref a' :: rest) (hdg : decode (mC M) g.pc = .ok (ig, 1))
      (kk : ∀ H' : Heap, H'[a']? = some (cell.setSlot i.toNatClampNeg w) → H'.size = H.size → (∀ q, q ≠ a' → H'[q]? = H[q]?) → W p (eL E) e R s m args below meth c H' (locs ++ [⟨a', i.toNatClampNeg⟩]) cells slots Q { g with pc := g.pc + 1, stack := rest }), W p (eL E) e R s m args below meth c H locs cells slots Q g)
    (h : V E M d out (pc + 1) lv st σ') : V E M d out pc lv (v :: .int i :: .ref a :: st) σ := by
  refine ⟨by rw [← e1, ← e0]; exact h.1, fun p e R s m args below meth c' n0 s0 X hf hl' hns hs hc hz ls H locs L P Q => ?_⟩
  obtain ⟨cell, q2, q3, q4, q5, q6, q7, q8, q9⟩ := P.arr ht h1
  obtain ⟨i1, i2, i3⟩ := hi
  refine hrow X.k P X.x X.b q2 (X.k.isArr h1 h2 q3 q5) q3 q5 q4 (fun z => by rcases z with z | z; exact i1 z; omega) rfl rfl hd fun H' k1 k2 k3 => ?_
  rw [i2] at k1 ⊢
  rw [← e1, ← e0]
  refine h.2 p e R s m args below meth c' n0 s0 X hf hl' (by rw [e1]; exact hns) (by rw [e0]; exact hs) hc hz ls H' _ L ?_ ?_
  · refine P.put ha e1 e2 k2 k3 (fun ty b j hb => ho ty b j (fun z => hb z.1)) ?_
    intro t2 ht2
    rw [e2, ht] at ht2
    cases ht2
    refine ⟨fun h9 => absurd h9 (by omega), fun _ => ?_⟩
    rw [e2, ht]
    exact rAt.put (H := H) q3 (q6 ha) q7 q8 q9 i3 k1 hv (fun k hk => ho _ a k (fun z => hk z.2))
  · intro q hq
    rcases List.mem_append.mp hq with h1 | h1
    · exact Q q h1
    · rw [List.mem_singleton.mp h1]
      exact cA_ge E ha
theorem V.iast {a n j : Nat} {i x : Int32} (ht : sT σ a = (101, n)) (ha : 1000 ≤ a) (hi : IX i j n) (hd : decode (mC M) pc = .ok (.iastore, 1)) (h : V E M d out (pc + 1) lv st (pI σ a j x)) : V E M d out pc lv (.int x :: .int i :: .ref a :: st) σ :=
  V.astG (t := 100) (w := .int x) (σ' := pI σ a j x) ht (by decide) (by decide) ha hi hd rfl rfl rfl ((fv_int rfl a j).trans (by show Value.int (up2 (sI σ) a j x a j) = _; rw [up2_eq])) (fun ty b k hb => fv_pI E σ x ty hb) (fun _ _ hexec hb _ _ hcell harr _ _ hknown hin _ hg _ hstack hdg kk => W.iast hexec hb hcell harr hknown hin hg hstack hdg kk) h
theorem V.bast {a n j : Nat} {i x : Int32} (ht : sT σ a = (102, n)) (ha : 1000 ≤ a) (hi : IX i j n) (hd : decode (mC M) pc = .ok (.bastore, 1)) (h : V E M d out (pc + 1) lv st (pI σ a j x.toInt8.toInt32)) : V E M d out pc lv (.int x :: .int i :: .ref a :: st) σ :=
  V.astG (t := 101) (w := .int x.toInt8.toInt32) (σ' := pI σ a j x.toInt8.toInt32) ht (by decide) (by decide) ha hi hd rfl rfl rfl ((fv_int rfl a j).trans (by show Value.int (up2 (sI σ) a j _ a j) = _; rw [up2_eq])) (fun ty b k hb => fv_pI E σ _ ty hb) (fun _ _ hexec hb _ _ hcell harr _ _ hknown hin _ hg _ hstack hdg kk => W.bast hexec hb hcell harr hknown hin hg hstack hdg kk) h
theorem V.last {a n j : Nat} {i : Int32} {x : Int64} (ht : sT σ a = (103, n)) (ha : 1000 ≤ a) (hi : IX i j n) (hd : decode (mC M) pc = .ok (.lastore, 1)) (h : V E M d out (pc + 1) lv st (pL σ a j x)) : V E M d out pc lv (.long x :: .int i :: .ref a :: st) σ :=
  V.astG (t := 102) (w := .long x) (σ' := pL σ a j x) ht (by decide) (by decide) ha hi hd rfl rfl rfl ((fv_long rfl a j).trans (by show Value.long (up2 (sL σ) a j x a j) = _; rw [up2_eq])) (fun ty b k hb => fv_pL E σ x ty hb) (fun _ _ hexec hb _ _ hcell harr _ _ hknown hin _ hg _ hstack hdg kk => W.last hexec hb hcell harr hknown hin hg hstack hdg kk) h
/-! ===== new cells ===== -/
theorem fv_new {E : En} {σ : Sg} {t : Nat × Nat} {w : Nat} {ty : FieldType} (h : fk ty ≠ 3) (j : Nat) : fv E (nW σ t w) ty (sN σ) j = defaultValue ty := by
  cases ty <;> first | (simp [fk] at h; done) | (simp [fv, sI, sL, sR, up1, cR, va_rf, defaultValue]; done)
theorem V.new {c index w : Nat} {C : String} {T : u_T} {N : Nat} (hC : ClOK c C T N) (hl : Cond.classLink (mY M).cls index C ∈ lw_all) (hins : Cond.instantiable C w ∈ lw_all) (hini : Cond.initialized C ∈ lw_all) (hty : ∀ k, k < N → fk (tyF c k) ≠ 3)
    (hd : decode (mC M) pc = .ok (.new index, 3)) (h : V E M d out (pc + 3) lv (.ref (sN σ) :: st) (nW σ (c + 1, 0) w)) : V E M d out pc lv st σ := by
  have b1 : sN σ + 1 ≤ sN out.2 := h.1.1
  have b2 : sS σ + w ≤ sS out.2 := h.1.2
  refine ⟨⟨by omega, by omega⟩, fun p e R s m args below meth c' n0 s0 X hf hl' hns hs hc hz ls H locs L P Q => ?_⟩
  obtain ⟨hS, hfc, -⟩ := X.k.kn hC.1
  refine W.newcK X.x X.b X.own (X.ts args _ hl) (X.ts args _ hins) (X.ts args _ hini) rfl hd (by omega) (by omega) hfc rfl fun H' kC k0 k1 k2 k3 => ?_
  have e1 : sN σ - n0 + 1 = sN (nW σ (c + 1, 0) w) - n0 := by show _ = sN σ + 1 - n0; omega
  have e2 : sS σ - s0 + w = sS (nW σ (c + 1, 0) w) - s0 := by show _ = sS σ + w - s0; omega
  rw [e1, e2]
  have hP : Hp E (nW σ (c + 1, 0) w) H' := by
    refine P.new k2 k3 ?_
    intro t ht
    rw [show sT (nW σ (c + 1, 0) w) (sN σ) = (c + 1, 0) from up1_eq _ _ _] at ht
    cases ht
    refine ⟨fun _ => ?_, fun h9 => absurd h9 (by have := hC.2.1; omega)⟩
    obtain ⟨cell, g1, g2, g3, g4⟩ := u_born (o := H.size) (tyF c) (X.ts args) hC.2.2.1 ((X.k.kn hC.1).u (Nat.ne_of_lt hC.2.1)) k0 k1 hC.2.2.2.1
    refine ⟨(C, T, N), cell, hC.1, by rw [P.size]; exact g1, g2, (by rw [g3]; exact fun h => nomatch h), (by rw [g3]; rfl), fun _ => g3, fun k hk => ?_⟩
    rw [fv_new (hty k hk)]
    exact g4 k hk
  have hsz : H.size = cA E (sN σ) := P.size.symm
  have h3 := h.2 p e R s m args below meth c' n0 s0 X hf hl' (by show n0 ≤ sN σ + 1; omega) (by show s0 ≤ sS σ + w; omega) hc hz ls H' locs L hP Q
  rw [hsz]
  exact h3
theorem V.newaG {t n : Nat} {i : Int32} {at_ : ArrayType} (h1 : 100 ≤ t) (h2 : t < 109) (hty : aTy t = newarray.typeOf at_) (hk : fk (aTy t) ≠ 3) (hobj : ∀ C, aTy t ≠ .object C) (hw : Cond.arrayClass (newarray.typeOf at_) ∈ lw_all) (hi : ¬ i < 0 ∧ i.toNatClampNeg = n) (hb : n * componentBytes (newarray.typeOf at_) ≤ 536870912) (hn : n < 2 ^ 31)
    (hd : decode (mC M) pc = .ok (.newarray at_, 2)) (h : V E M d out (pc + 2) lv (.ref (sN σ) :: st) (nW σ (t + 1, n) n)) : V E M d out pc lv (.int i :: st) σ := by
  have b1 : sN σ + 1 ≤ sN out.2 := h.1.1
  have b2 : sS σ + n ≤ sS out.2 := h.1.2
  refine ⟨⟨by omega, by omega⟩, fun p e R s m args below meth c' n0 s0 X hf hl' hns hs hc hz ls H locs L P Q => ?_⟩
  refine W.newa X.x X.b (X.ts args _ hw) rfl hd rfl hi.1 (by rw [hi.2]; exact hb) (by omega) (by rw [hi.2]; omega) fun cA' kA comp k1 k2 k3 => ?_
  rw [hi.2]
  have e1 : sN σ - n0 + 1 = sN (nW σ (t + 1, n) n) - n0 := by show _ = sN σ + 1 - n0; omega
  have e2 : sS σ - s0 + n = sS (nW σ (t + 1, n) n) - s0 := by show _ = sS σ + n - s0; omega
  rw [e1, e2]
  have hra := (X.k.arr h1 h2).2 (fun z => by subst z; exact hobj _ rfl)
  have hcA : cA' = eA E t := by
    rw [hty] at hra hobj
    have : s.vm.findClass ("[" ++ (newarray.typeOf at_).toString) = some (eA E t) := by
      generalize newarray.typeOf at_ = ty at hra hobj
      cases ty <;> first | exact hra | exact absurd rfl (hobj _)
    exact Option.some.inj (k1.symm.trans this)
  subst hcA
  have hP : Hp E (nW σ (t + 1, n) n) (H.push { cls := eA E t, slots := Array.replicate n (defaultValue (newarray.typeOf at_)), vm := .none }) := by
    refine P.new (by simp) (fun q hq => by rw [Array.getElem?_push_lt hq]; simp [hq]) ?_
    intro t2 ht
    rw [show sT (nW σ (t + 1, n) n) (sN σ) = (t + 1, n) from up1_eq _ _ _] at ht ⊢
    cases ht
    refine ⟨fun h9 => absurd h9 (by omega), fun _ => ?_⟩
    refine ⟨{ cls := eA E t, slots := Array.replicate n (defaultValue (newarray.typeOf at_)), vm := .none }, (by rw [P.size]; simp), rfl, (fun h => nomatch h), rfl, fun _ => rfl, (by simp), (by simp), fun j hj => ?_⟩
    rw [fv_new hk, hty]
    simp [hj]
  have hsz : H.size = cA E (sN σ) := P.size.symm
  have h3 := h.2 p e R s m args below meth c' n0 s0 X hf hl' (by show n0 ≤ sN σ + 1; omega) (by show s0 ≤ sS σ + n; omega) hc hz ls _ locs L hP Q
  rw [hsz]
  exact h3
end

set_option maxRecDepth 100000
theorem cA_new (E : En) {a : Nat} (h : 1000 ≤ a) : cA E a = eZ E + (a - 1000) := by simp [cA, Nat.not_lt.mpr h]
theorem cA_old (E : En) {a : Nat} (h : a < 1000) : cA E a = eO E a := by simp [cA, h]
theorem cA_ge (E : En) {a : Nat} (h : 1000 ≤ a) : eZ E ≤ cA E a := by rw [cA_new E h]; omega
theorem cA_ne {E : En} {σ : Sg} {H : Heap} (hP : Hp E σ H) {a b : Nat} (h : 1000 ≤ a) (hb : b ≠ a) : cA E b ≠ cA E a := by
  rw [cA_new E h]
  by_cases hb2 : b < 1000
  · rw [cA_old E hb2]
    have := hP.2.2.2.1 b hb2
    omega
  · rw [cA_new E (by omega)]
    omega
theorem Hp.obj {E : En} {σ : Sg} {H : Heap} (hP : Hp E σ H) {a c : Nat} (ht : (sT σ a).1 = c + 1) (hc : c < 100) : oAt E σ c a H := (hP.2.2.1 a c ht).1 hc
theorem Hp.arr {E : En} {σ : Sg} {H : Heap} (hP : Hp E σ H) {a t n : Nat} (ht : sT σ a = (t + 1, n)) (hc : 100 ≤ t) : rAt E σ t n a H := by
  have h := (hP.2.2.1 a t (by rw [ht])).2 hc
  rw [ht] at h
  exact h
theorem Hp.lt {E : En} {σ : Sg} {H : Heap} (hP : Hp E σ H) {a t : Nat} (ht : (sT σ a).1 = t + 1) (ha : 1000 ≤ a) : a < sN σ := by
  have hl : cA E a < H.size := by
    by_cases h : t < 100
    · obtain ⟨r, cell, -, h1, -⟩ := hP.obj ht h
      exact (Array.getElem?_eq_some_iff.mp h1).1
    · obtain ⟨cell, h1, -⟩ := (hP.2.2.1 a t ht).2 (by omega)
      exact (Array.getElem?_eq_some_iff.mp h1).1
  rw [cA_new E ha] at hl
  have := hP.1
  have := hP.2.1
  omega
/-- one slot of one new cell is written -/
theorem Hp.put {E : En} {σ σ' : Sg} {H H' : Heap} (hP : Hp E σ H) {a : Nat} (ha : 1000 ≤ a) (e1 : sN σ' = sN σ) (e2 : sT σ' = sT σ) (hz : H'.size = H.size) (oq : ∀ q, q ≠ cA E a → H'[q]? = H[q]?)
    (hk : ∀ (ty : FieldType) (b j : Nat), b ≠ a → fv E σ' ty b j = fv E σ ty b j) (hc : cAt E σ' a H') : Hp E σ' H' := by
  refine ⟨by rw [hz, e1]; exact hP.1, by rw [e1]; exact hP.2.1, fun b => ?_, hP.2.2.2.1, fun q hq => ?_⟩
  · by_cases hb : b = a
    · rw [hb]; exact hc
    · have hne := cA_ne hP ha hb
      intro t ht
      rw [e2] at ht
      obtain ⟨h1, h2⟩ := hP.2.2.1 b t ht
      refine ⟨fun h => ?_, fun h => ?_⟩
      · obtain ⟨r, cell, q1, q2, q3, q4, q5, q6, q7⟩ := h1 h
        exact ⟨r, cell, q1, by rw [oq _ hne]; exact q2, q3, q4, q5, q6, fun k hk2 => by rw [hk _ b k hb]; exact q7 k hk2⟩
      · obtain ⟨cell, q2, q3, q4, q5, q6, q7, q8, q9⟩ := h2 h
        rw [e2]
        exact ⟨cell, by rw [oq _ hne]; exact q2, q3, q4, q5, q6, q7, q8, fun k hk2 => by rw [hk _ b k hb]; exact q9 k hk2⟩
  · rw [oq q (by have := cA_ge E ha; omega)]
    exact hP.2.2.2.2 q hq
theorem fv_pI (E : En) (σ : Sg) {a k : Nat} (v : Int32) (ty : FieldType) {b j : Nat} (h : ¬ (b = a ∧ j = k)) : fv E (pI σ a k v) ty b j = fv E σ ty b j := by
  cases ty <;> simp [fv, sI, sL, sR, up2, h]
theorem fv_pL (E : En) (σ : Sg) {a k : Nat} (v : Int64) (ty : FieldType) {b j : Nat} (h : ¬ (b = a ∧ j = k)) : fv E (pL σ a k v) ty b j = fv E σ ty b j := by
  cases ty <;> simp [fv, sI, sL, sR, up2, h]
theorem fv_pR (E : En) (σ : Sg) {a k : Nat} (v : Option Nat) (ty : FieldType) {b j : Nat} (h : ¬ (b = a ∧ j = k)) : fv E (pR σ a k v) ty b j = fv E σ ty b j := by
  cases ty <;> simp [fv, sI, sL, sR, up2, h]
/-- kinds of types: what a slot holds -/
def fk : FieldType → Nat
  | .long => 1
  | .object _ => 2
  | .array _ => 2
  | .float => 3
  | .double => 3
  | _ => 0
theorem fv_int {E : En} {σ : Sg} {ty : FieldType} (h : fk ty = 0) (a j : Nat) : fv E σ ty a j = .int (sI σ a j) := by
  cases ty <;> first | rfl | simp [fk] at h
theorem fv_long {E : En} {σ : Sg} {ty : FieldType} (h : fk ty = 1) (a j : Nat) : fv E σ ty a j = .long (sL σ a j) := by
  cases ty <;> first | rfl | simp [fk] at h
theorem fv_ref {E : En} {σ : Sg} {ty : FieldType} (h : fk ty = 2) (a j : Nat) : fv E σ ty a j = cR E (sR σ a j) := by
  cases ty <;> first | rfl | simp [fk] at h
/-- a write of field k of the object a, of class c: the cell -/
theorem oAt.put {E : En} {σ σ' : Sg} {H H' : Heap} {c a k : Nat} {r : vw_C} {cell : Cell} {v : Value} (q1 : cls[c]? = some r) (q3 : cell.cls = eC E c) (q6 : cell.vm = .none) (q7 : ∀ k, k < r.2.2 → cell.slots[eI E c k]? = some (fv E σ (tyF c k) a k)) (hk : k < r.2.2)
    (hap : ∀ x y, x < r.2.2 → y < r.2.2 → x ≠ y → eI E c x ≠ eI E c y) (h1 : H'[cA E a]? = some (cell.setSlot (eI E c k) v)) (hv : fv E σ' (tyF c k) a k = v) (ho : ∀ j, j ≠ k → fv E σ' (tyF c j) a j = fv E σ (tyF c j) a j) : oAt E σ' c a H' := by
  refine ⟨r, cell.setSlot (eI E c k) v, q1, h1, q3, ?_, ?_, fun _ => q6, fun j hj => ?_⟩
  · show cell.vm ≠ _
    rw [q6]; exact fun h => by cases h
  · show cell.vm.isStatics = false
    rw [q6]; rfl
  · by_cases hjk : j = k
    · subst hjk
      rw [Cell.slots_setSlot_self _ (k2_hasslot (q7 j hj)), hv]
    · rw [slot_ne _ _ (hap k j hk hj (Ne.symm hjk)), q7 j hj, ho j hjk]
theorem rAt.put {E : En} {σ σ' : Sg} {H H' : Heap} {t n a k : Nat} {cell : Cell} {v : Value} (q3 : cell.cls = eA E t) (q6 : cell.vm = .none) (q7 : n ≤ cell.slots.size) (q8 : cell.slots.size.toInt32 = Int32.ofNat n) (q9 : ∀ j, j < n → cell.slots[j]? = some (fv E σ (aTy t) a j)) (hk : k < n)
    (h1 : H'[cA E a]? = some (cell.setSlot k v)) (hv : fv E σ' (aTy t) a k = v) (ho : ∀ j, j ≠ k → fv E σ' (aTy t) a j = fv E σ (aTy t) a j) : rAt E σ' t n a H' := by
  have hz : (cell.setSlot k v).slots.size = cell.slots.size := by simp [Cell.setSlot]
  refine ⟨cell.setSlot k v, h1, q3, ?_, ?_, fun _ => q6, by rw [hz]; exact q7, by rw [hz]; exact q8, fun j hj => ?_⟩
  · show cell.vm ≠ _
    rw [q6]; exact fun h => by cases h
  · show cell.vm.isStatics = false
    rw [q6]; rfl
  · by_cases hjk : j = k
    · subst hjk
      rw [Cell.slots_setSlot_self _ (k2_hasslot (q9 j hj)), hv]
    · rw [slot_ne _ _ (Ne.symm hjk), q9 j hj, ho j hjk]
/-- a cell is made -/
theorem Hp.new {E : En} {σ : Sg} {H H' : Heap} (hP : Hp E σ H) {t : Nat × Nat} {w : Nat} (hz : H'.size = H.size + 1) (oq : ∀ q, q < H.size → H'[q]? = H[q]?) (hc : cAt E (nW σ t w) (sN σ) H') : Hp E (nW σ t w) H' := by
  refine ⟨?_, ?_, fun b => ?_, hP.2.2.2.1, fun q hq => ?_⟩
  · have := hP.1
    show H'.size + 1000 = eZ E + (sN σ + 1)
    omega
  · have := hP.2.1
    show 1000 ≤ sN σ + 1
    omega
  · by_cases hb : b = sN σ
    · rw [hb]; exact hc
    · intro t' ht'
      have e2 : sT (nW σ t w) b = sT σ b := up1_ne _ _ hb
      have hk : ∀ (ty : FieldType) (j : Nat), fv E (nW σ t w) ty b j = fv E σ ty b j := fun ty j => by cases ty <;> simp [fv, sI, sL, sR, up1, hb]
      rw [e2] at ht'
      obtain ⟨h1, h2⟩ := hP.2.2.1 b t' ht'
      refine ⟨fun h => ?_, fun h => ?_⟩
      · obtain ⟨r, cell, q1, q2, q3, q4, q5, q6, q7⟩ := h1 h
        exact ⟨r, cell, q1, by rw [oq _ (Array.getElem?_eq_some_iff.mp q2).1]; exact q2, q3, q4, q5, q6, fun k hk2 => by rw [hk]; exact q7 k hk2⟩
      · obtain ⟨cell, q2, q3, q4, q5, q6, q7, q8, q9⟩ := h2 h
        rw [e2]
        exact ⟨cell, by rw [oq _ (Array.getElem?_eq_some_iff.mp q2).1]; exact q2, q3, q4, q5, q6, q7, q8, fun k hk2 => by rw [hk]; exact q9 k hk2⟩
  · have := hP.1
    have := hP.2.1
    rw [oq q (by omega)]
    exact hP.2.2.2.2 q hq
theorem Hp.size {E : En} {σ : Sg} {H : Heap} (hP : Hp E σ H) : cA E (sN σ) = H.size := by
  rw [cA_new E hP.2.1]
  have := hP.1
  have := hP.2.1
  omega
/-! ===== a class's words: its fields apart ===== -/
theorem apart2 {args : Array Value} {s : State} {C O f d O' f' d' : String} (h : (Cond.laysFinal C O f d).before args s = true) (h' : (Cond.laysFinal C O' f' d').before args s = true)
    {cf kf fi fd cf' kf' fi' fd'} (hi : s.fieldFound? O f d = some (cf, kf, fi, fd)) (hi' : s.fieldFound? O' f' d' = some (cf', kf', fi', fd')) (hne : O ≠ O') : fd.slot ≠ fd'.slot := by
  obtain ⟨c, k, c1, k1, i1, f1, r1, -, r2, -, -, -, r3, -, e, he, hn, -⟩ := Cond.laysFinal_spec h
  obtain ⟨c', k', c2, k2, i2, f2, t1, -, t2, -, -, -, t3, -, e', he', hn', -⟩ := Cond.laysFinal_spec h'
  cases r1.symm.trans t1
  cases hi.symm.trans r2
  cases hi'.symm.trans t2
  intro hs
  rw [hs] at he
  cases he.symm.trans he'
  obtain ⟨w1, hw1, hx1⟩ := Vm.findClass_spec r3
  obtain ⟨w2, hw2, hx2⟩ := Vm.findClass_spec t3
  cases hw1.symm.trans (State.fieldFound?_spec hi).1
  cases hw2.symm.trans (State.fieldFound?_spec hi').1
  exact hne (hx1.symm.trans ((hn.symm.trans hn').trans hx2))
/-- a class of the table, its words, its types, its fields' names -/
def ClOK (c : Nat) (C : String) (T : u_T) (N : Nat) : Prop := cls[c]? = some (C, T, N) ∧ c < 19 ∧ (∀ w ∈ u_ws C T N, w ∈ lw_all) ∧ (∀ k, k < N → parseFieldDescriptor (T k).2.2.1 = some (tyF c k)) ∧ ∀ a, a < N → ∀ b, b < N → a ≠ b → (T a).2.1 ≠ (T b).2.1 ∨ ((T a).2.2.2 = true ∧ (T b).2.2.2 = true ∧ (T a).1 ≠ (T b).1)
theorem ClOK.apart {c : Nat} {C : String} {T : u_T} {N : Nat} (h : ClOK c C T N) {E : En} {s : State} (hK : KE E s) : ∀ x y, x < N → y < N → x ≠ y → eI E c x ≠ eI E c y := by
  intro x y hx hy hne
  obtain ⟨hc, -, hin, hty, hnm⟩ := h
  obtain ⟨hS, -⟩ := hK.kn hc
  obtain ⟨_, _, _, fa, hia, ea⟩ := hS x hx
  obtain ⟨_, _, _, fb, hib, eb⟩ := hS y hy
  rw [← ea, ← eb]
  rcases hnm x hx y hy hne with h1 | ⟨h1, h2, h3⟩
  · refine u_apart (u_lays (hK.ts #[]) hin hx) (u_lays (hK.ts #[]) hin hy) hia hib ?_
    rw [(State.fieldFound?_type hia (hty x hx)).1, (State.fieldFound?_type hib (hty y hy)).1]
    exact h1
  · have l1 := hK.ts #[] _ (hin _ (u_in_lay hx))
    have l2 := hK.ts #[] _ (hin _ (u_in_lay hy))
    unfold u_lay at l1 l2
    rw [if_pos h1] at l1
    rw [if_pos h2] at l2
    exact apart2 l1 l2 hia hib h3

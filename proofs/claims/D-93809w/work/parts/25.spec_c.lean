set_option maxRecDepth 100000
/-! ===== m's hall: all scratch is struck out ===== -/
def scI (id : Nat) : Bool := id == 146 || id == 150 || id == 151 || id == 152 || id == 155 || id == 156 || id == 159
def scJ (j : Nat) : Bool := (Nat.ble 40 j && Nat.ble j 43) || (Nat.ble 46 j && Nat.ble j 48) || j == 52 || j == 56 || j == 57
def cv (w : Wv) : Wv := fun id j => if scI id || (id == 100 && scJ j) then 0 else w id j
theorem cv_sc {w : Wv} {id j : Nat} {v : Int32} (h : (scI id || (id == 100 && scJ j)) = true) : cv (up2 w id j v) = cv w := by
  funext a b
  unfold cv
  by_cases h2 : a = id ∧ b = j
  · obtain ⟨rfl, rfl⟩ := h2
    rw [if_pos h, if_pos h]
  · rw [up2_ne _ _ h2]
theorem cv_kp {w : Wv} {id j : Nat} {v : Int32} (h : (scI id || (id == 100 && scJ j)) = false) : cv (up2 w id j v) = up2 (cv w) id j v := by
  funext a b
  unfold cv
  by_cases h2 : a = id ∧ b = j
  · obtain ⟨rfl, rfl⟩ := h2
    rw [if_neg (by rw [h]; decide), up2_eq, up2_eq]
  · rw [up2_ne _ _ h2, up2_ne _ _ h2]
theorem cv_cu (w : Wv) : cv (cu w) = cv w := by
  funext a b
  unfold cv cu
  by_cases h : a = 150 ∨ a = 151
  · rcases h with h | h <;> subst h <;> rfl
  · rw [if_neg h]
theorem cv_of_cu {w w' : Wv} (h : cu w = cu w') : cv w = cv w' := by rw [← cv_cu w, h, cv_cu]
theorem cv_at {w u : Wv} (h : cv w = cv u) {id j : Nat} (e : (scI id || (id == 100 && scJ j)) = false := by rfl) : w id j = u id j := by
  have := congrFun (congrFun h id) j
  unfold cv at this
  rw [if_neg (by rw [e]; decide), if_neg (by rw [e]; decide)] at this
  exact this
theorem cv_up {w u : Wv} (h : cv w = cv u) {id j : Nat} {v : Int32} : cv (up2 w id j v) = cv (up2 u id j v) := by
  cases e : (scI id || (id == 100 && scJ j)) with
  | true => rw [cv_sc e, cv_sc e, h]
  | false => rw [cv_kp e, cv_kp e, h]
theorem hh_cv (w : Wv) : hh (cv w) = hh w := rfl
theorem nS_cv (w : Wv) : nS (cv w) = nS w := rfl
theorem poF_cv (w : Wv) : poF (cv w) = poF w := rfl
theorem hiQ_cv (w : Wv) (r c p : Nat) : ∀ (m q : Nat), hiQ (cv w) r c p q m = hiQ w r c p q m
  | 0, q => rfl
  | m + 1, q => by
    rw [hiQ, hiQ, hh_cv, nS_cv, hiQ_cv w r c p m (q + 1)]
theorem hid_cv (w : Wv) (r c p : Nat) : hid (cv w) r c p = hid w r c p := hiQ_cv w r c p r 0
theorem HI_cv {w : Wv} : HI (cv w) ↔ HI w := Iff.rfl
theorem HT_cv {w : Wv} : HT (cv w) ↔ HT w := Iff.rfl
theorem likeS_cv (w : Wv) : likeS (cv w) = likeS w := rfl
theorem seeS_cv (w : Wv) : seeS (cv w) = seeS w := by
  funext r c
  unfold seeS
  rw [show (fun p => decide (hid (cv w) r c p = -1)) = (fun p => decide (hid w r c p = -1)) from funext fun p => by rw [hid_cv]]
  rfl
theorem worS_cv (w : Wv) : worS (cv w) = worS w := by
  funext r c
  unfold worS
  rw [show worT (cv w) r c = worT w r c from funext fun p => by rw [worT, worT, hid_cv, likeS_cv]]
  rfl
theorem priS_cv (w : Wv) : priS (cv w) = priS w := by
  funext r c
  unfold priS
  rw [worS_cv]
  rfl
theorem rowS_cv (f : Nat → Nat → Int32) (w : Wv) : ∀ (m r : Nat) (acc : Int32), rowS f (cv w) r m acc = rowS f w r m acc
  | 0, _, _ => rfl
  | m + 1, r, acc => by rw [rowS, rowS, nS_cv, rowS_cv f w m]
theorem allS_cv (w : Wv) : allS (cv w) = allS w := by
  unfold allS
  rw [rowS_cv, worS_cv]
  rfl
theorem cg {α : Type} (f : Wv → α) (hf : ∀ w, f (cv w) = f w) {u v : Wv} (h : cv u = cv v) : f u = f v := by rw [← hf u, h, hf]
theorem HI.cg {u v : Wv} (h : cv u = cv v) (hI : HI u) : HI v := HI_cv.mp (by rw [← h]; exact HI_cv.mpr hI)
theorem HT.cg {u v : Wv} (h : cv u = cv v) (hI : HT u) : HT v := HT_cv.mp (by rw [← h]; exact HT_cv.mpr hI)
/-! ===== an array's first n become f ===== -/
def fA (d n : Nat) (f : Nat → Int32) (w : Wv) : Wv := fun id j => if id = d ∧ j < n then f j else w id j
theorem fA_0 {d : Nat} {f : Nat → Int32} {w : Wv} : fA d 0 f w = w := by funext a b; simp [fA]
theorem fA_ne {d n : Nat} {f : Nat → Int32} {w : Wv} {id j : Nat} (h : id ≠ d) : fA d n f w id j = w id j := by simp [fA, h]
theorem fA_ge {d n : Nat} {f : Nat → Int32} {w : Wv} {id j : Nat} (h : ¬ j < n) : fA d n f w id j = w id j := by simp [fA, h]
theorem fA_at {d n : Nat} {f : Nat → Int32} {w : Wv} {j : Nat} (h : j < n) : fA d n f w d j = f j := by simp [fA, h]
theorem fA_s {d k : Nat} {f : Nat → Int32} {w : Wv} {v : Int32} (h : v = f k) : up2 (fA d k f w) d k v = fA d (k + 1) f w := by
  subst h
  funext a b
  by_cases h2 : a = d ∧ b = k
  · obtain ⟨rfl, rfl⟩ := h2
    rw [up2_eq, fA_at (Nat.lt_succ_self _)]
  · rw [up2_ne _ _ h2]
    unfold fA
    by_cases h3 : a = d ∧ b < k
    · rw [if_pos h3, if_pos ⟨h3.1, by omega⟩]
    · rw [if_neg h3, if_neg (fun z => h3 ⟨z.1, by have : ¬ b = k := fun y => h2 ⟨z.1, y⟩; omega⟩)]
theorem cu_fA {d n : Nat} {f : Nat → Int32} {w : Wv} (h : ¬ (d = 150 ∨ d = 151)) : cu (fA d n f w) = fA d n f (cu w) := by
  funext a b
  unfold cu fA
  by_cases h2 : a = d ∧ b < n
  · obtain ⟨rfl, h3⟩ := h2
    rw [if_neg h, if_pos ⟨rfl, h3⟩, if_pos ⟨rfl, h3⟩]
  · rw [if_neg h2, if_neg h2]
theorem cv_fA {d n : Nat} {f : Nat → Int32} {w u : Wv} (h : cv w = cv u) : cv (fA d n f w) = cv (fA d n f u) := by
  funext a b
  have := congrFun (congrFun h a) b
  unfold cv at this ⊢
  by_cases h3 : (scI a || (a == 100 && scJ b)) = true
  · rw [if_pos h3, if_pos h3]
  · rw [if_neg h3, if_neg h3] at this ⊢
    unfold fA
    by_cases h2 : a = d ∧ b < n
    · rw [if_pos h2, if_pos h2]
    · rw [if_neg h2, if_neg h2, this]
theorem cv_fAs {d n : Nat} {f : Nat → Int32} {w : Wv} (h : scI d = true) : cv (fA d n f w) = cv w := by
  funext a b
  unfold cv
  by_cases h3 : (scI a || (a == 100 && scJ b)) = true
  · rw [if_pos h3, if_pos h3]
  · rw [if_neg h3, if_neg h3, fA_ne (fun z => h3 (by rw [z, h]; rfl))]
/-- array a (its first n) lies kept in array b, all else is as in w0 -/
def Kp (a n b : Nat) (w0 w : Wv) : Prop := (∀ id j, (scI id || (id == 100 && scJ j)) = false → ¬ (id = a ∧ j < n) → w id j = w0 id j) ∧ ∀ j, j < n → w b j = w0 a j
theorem Kp.start {a n b : Nat} {w0 : Wv} (h : scI b = true) : Kp a n b w0 (fA b n (w0 a) w0) :=
  ⟨fun id j h1 h2 => fA_ne (fun z => by rw [z, h] at h1; exact absurd h1 (by simp)), fun j hj => fA_at hj⟩
theorem Kp.c {a n b : Nat} {w0 w w' : Wv} (hb : ¬ (b = 150 ∨ b = 151)) (h : cu w' = cu w) (hk : Kp a n b w0 w) : Kp a n b w0 w' := by
  have e : ∀ id j, ¬ (id = 150 ∨ id = 151) → w' id j = w id j := fun id j hn => by
    have := congrFun (congrFun h id) j
    unfold cu at this
    rw [if_neg hn, if_neg hn] at this
    exact this
  refine ⟨fun id j h1 h2 => ?_, fun j hj => by rw [e b j hb]; exact hk.2 j hj⟩
  rw [e id j (fun z => by rcases z with z | z <;> rw [z] at h1 <;> exact absurd h1 (fun y => Bool.noConfusion y))]
  exact hk.1 id j h1 h2
theorem Kp.up {a n b j : Nat} {v : Int32} {w0 w : Wv} (hab : a ≠ b) (hj : j < n) (hk : Kp a n b w0 w) : Kp a n b w0 (up2 w a j v) :=
  ⟨fun id i h1 h2 => by rw [up2_ne _ _ (fun z => h2 ⟨z.1, by rw [z.2]; exact hj⟩)]; exact hk.1 id i h1 h2, fun i hi => by rw [up2_ne _ _ (fun z => hab z.1.symm)]; exact hk.2 i hi⟩
theorem Kp.f {a n b m : Nat} {f : Nat → Int32} {w0 w : Wv} (hab : a ≠ b) (hm : m ≤ n) (hk : Kp a n b w0 w) : Kp a n b w0 (fA a m f w) :=
  ⟨fun id i h1 h2 => by
    have : ¬ (id = a ∧ i < m) := fun z => h2 ⟨z.1, by omega⟩
    unfold fA; rw [if_neg this]; exact hk.1 id i h1 h2, fun i hi => by rw [fA_ne (fun z => hab z.symm)]; exact hk.2 i hi⟩
theorem Kp.fin {a n b : Nat} {w0 w : Wv} (hk : Kp a n b w0 w) : cv (fA a n (w b) w) = cv w0 := by
  funext id j
  unfold cv
  by_cases h3 : (scI id || (id == 100 && scJ j)) = true
  · rw [if_pos h3, if_pos h3]
  · rw [if_neg h3, if_neg h3]
    by_cases h2 : id = a ∧ j < n
    · obtain ⟨rfl, h4⟩ := h2
      rw [fA_at h4]; exact hk.2 j h4
    · unfold fA
      rw [if_neg h2]; exact hk.1 id j (by simpa using h3) h2
def QV (g : Ge) (σ : Sg) (v : Wv) : Sg → Prop := fun s => ∃ w' : Wv, cv w' = cv v ∧ s = S g σ w'
theorem QM.qv {g : Ge} {σ : Sg} {u v : Wv} (h : cv u = cv v) {s : Sg} (hq : QM g σ u s) : QV g σ v s := by
  obtain ⟨w', h1, h2⟩ := hq
  exact ⟨w', by rw [← cv_cu, h1, h], h2⟩
def ffI (P : Nat → Bool) (k m : Nat) : Int32 := match ff P k m with
  | some i => nI i
  | none => -1
theorem ffI_0 {P : Nat → Bool} {k : Nat} : ffI P k 0 = -1 := rfl
theorem ffI_s {P : Nat → Bool} {k m : Nat} : ffI P k (m + 1) = if P k then nI k else ffI P (k + 1) m := by
  unfold ffI
  rw [ff]
  cases P k <;> rfl
/-- whether P holds of all from k on, m of them -/
def aB (P : Nat → Bool) : Nat → Nat → Bool
  | _, 0 => true
  | k, m + 1 => P k && aB P (k + 1) m
theorem HI.up {u : Wv} (hI : HI u) {id j : Nat} {v : Int32} (h : id ≠ 100) (h2 : id ≠ 106) (h3 : id ≠ 110) : HI (up2 u id j v) := by
  unfold HI at hI ⊢
  have e : ∀ a b, a ≠ id → up2 u id j v a b = u a b := fun a b h => up2_ne _ _ (fun z => h z.1)
  rw [e 100 3 h.symm, e 100 10 h.symm, e 100 14 h.symm]
  simp only [e 106 _ h2.symm, e 110 _ h3.symm]
  exact hI
theorem HI.f {u : Wv} (hI : HI u) {id n : Nat} {f : Nat → Int32} (h : id ≠ 100) (h2 : id ≠ 106) (h3 : id ≠ 110) : HI (fA id n f u) := by
  unfold HI at hI ⊢
  have e : ∀ a b, a ≠ id → fA id n f u a b = u a b := fun a b h => fA_ne h
  rw [e 100 3 h.symm, e 100 10 h.symm, e 100 14 h.symm]
  simp only [e 106 _ h2.symm, e 110 _ h3.symm]
  exact hI
theorem HT_of {u v : Wv} (hT : HT u) (h : v 100 21 = u 100 21 ∧ v 100 22 = u 100 22 ∧ v 120 = u 120 ∧ v 121 = u 121) : HT v := by
  have e1 : tB v = tB u := by funext t p; unfold tB; rw [h.2.2.2]
  have e2 : codeL v = codeL u := by funext t p; unfold codeL; rw [e1, h.2.2.1]
  unfold HT TOK nT ru at hT ⊢
  rw [e1, e2, h.1, h.2.1, h.2.2.2]
  exact hT
theorem HT.up {u : Wv} (hT : HT u) {id j : Nat} {v : Int32} (h : ¬ (id = 100 ∨ id = 120 ∨ id = 121)) : HT (up2 u id j v) :=
  HT_of hT ⟨up2_ne _ _ (fun z => h (.inl z.1.symm)), up2_ne _ _ (fun z => h (.inl z.1.symm)), funext fun i => up2_ne _ _ (fun z => h (.inr (.inl z.1.symm))), funext fun i => up2_ne _ _ (fun z => h (.inr (.inr z.1.symm)))⟩
theorem HT.f {u : Wv} (hT : HT u) {id n : Nat} {f : Nat → Int32} (h : ¬ (id = 100 ∨ id = 120 ∨ id = 121)) : HT (fA id n f u) :=
  HT_of hT ⟨fA_ne (fun z => h (.inl z.symm)), fA_ne (fun z => h (.inl z.symm)), funext fun i => fA_ne (fun z => h (.inr (.inl z.symm))), funext fun i => fA_ne (fun z => h (.inr (.inr z.symm)))⟩
/-! ===== more of a hall ===== -/
def fullB (u : Wv) : Int32 := (1 : Int32) <<< (u 100 10 &&& 31) - 1
def aSee (u : Wv) (r : Nat) : Bool := aB (fun c => decide (seeS u r c = fullB u)) 0 (nS u r)
theorem aSee_cv (w : Wv) : aSee (cv w) = aSee w := by
  funext r
  unfold aSee
  rw [show (fun c => decide (seeS (cv w) r c = fullB (cv w))) = (fun c => decide (seeS w r c = fullB w)) from funext fun p => by rw [seeS_cv]; rfl]
  rfl
def stpS (u : Wv) (r : Nat) : Int32 := u 108 r - (if r = 0 then 0 else u 108 (r - 1))
def cosT (u : Wv) (r : Nat) : Int32 := if stpS u r = 0 then 0 else sayF u 2 999 (nmF 0 (stpS u r) (nI r) 0 (u 108 r) 0)
def cosS (u : Wv) : Int32 := sumF (cosT u) 0 (nR u) 0
theorem cosS_cv (w : Wv) : cosS (cv w) = cosS w := rfl
def allT (u : Wv) (a : Int32) (r c : Nat) : Int32 := if a = 0 then priS u r c else if a = 1 then worS u r c else if a = 2 then b2i (decide (seeS u r c = fullB u)) else b2i (decide (seeS u r c = 0))
def allR (u : Wv) (a : Int32) : Int32 := if inB a 0 3 then rowS (allT u a) u 0 (nR u) 0 else -2
def lawfulR (u : Wv) (a : Int32) : Int32 := if inB a 0 99 then ffI (fun r => decide (a < stpS u r) || decide (stpS u r < -a)) 0 (nR u) else -2
def judgeV (u : Wv) (s : Nat) : Wv := fA 108 (nR u) (fun r => u 140 (60 * s + r)) u
def judgeR (u : Wv) (s : Int32) : Int32 := if inB s 0 3 then (if u 138 (cl s) = -1 then -11 else if decide (u 139 (cl s) = u 100 3) && aB (fun r => inB (u 140 (60 * cl s + r)) 0 99) 0 (nR u) then ffI (fun r => !(aSee (judgeV u (cl s)) r)) 0 (nR u) else -2) else -2

set_option maxRecDepth 100000
/-! ===== m's lasting part: what is only scratch is struck out ===== -/
def cu (w : Wv) : Wv := fun id j => if id = 150 ∨ id = 151 then 0 else w id j
def QM (g : Ge) (σ : Sg) (u : Wv) : Sg → Prop := fun s => ∃ w' : Wv, cu w' = u ∧ s = S g σ w'
theorem cu_up {w : Wv} {id j : Nat} {v : Int32} (h : id = 150 ∨ id = 151) : cu (up2 w id j v) = cu w := by
  funext a b
  unfold cu
  by_cases h1 : a = 150 ∨ a = 151
  · rw [if_pos h1, if_pos h1]
  · rw [if_neg h1, if_neg h1, up2_ne _ _ (fun z => h1 (by rw [z.1]; exact h))]
theorem cu_kp {w : Wv} {id j : Nat} {v : Int32} (h : ¬ (id = 150 ∨ id = 151)) : cu (up2 w id j v) = up2 (cu w) id j v := by
  funext a b
  unfold cu
  by_cases h2 : a = id ∧ b = j
  · obtain ⟨rfl, rfl⟩ := h2
    rw [if_neg h, up2_eq, up2_eq]
  · rw [up2_ne _ _ h2, up2_ne _ _ h2]
theorem hh_cu (w : Wv) : hh (cu w) = hh w := rfl
theorem poB_cu (w : Wv) : poB (cu w) = poB w := rfl
theorem nS_cu (w : Wv) : nS (cu w) = nS w := rfl
theorem poF_cu (w : Wv) : poF (cu w) = poF w := rfl
theorem hiQ_cu (w : Wv) (r c p : Nat) : ∀ (m q : Nat), hiQ (cu w) r c p q m = hiQ w r c p q m
  | 0, q => rfl
  | m + 1, q => by
    rw [hiQ, hiQ, hh_cu, nS_cu, hiQ_cu w r c p m (q + 1)]
theorem hid_cu (w : Wv) (r c p : Nat) : hid (cu w) r c p = hid w r c p := hiQ_cu w r c p r 0
theorem HI_cu {w : Wv} : HI (cu w) ↔ HI w := Iff.rfl
theorem seB_cu (w : Wv) : seB (cu w) = seB w := rfl
/-! ===== texts: postfix codes over a stack ===== -/
def twoF (c a b : Int32) : Int32 := if c = 11 then b2i (decide (¬ a = 0) || decide (¬ b = 0)) else if c = 12 then b2i (decide (¬ a = 0) && decide (¬ b = 0)) else if c = 14 then b2i (decide (a < b)) else if c = 15 then b2i (decide (a = b)) else if c = 16 then a + b else if c = 17 then a - b else a * b
def stp (nm : Nat → Int32) (s : List Int32) (c : Int32) : List Int32 :=
  if 100000 ≤ c then (c - 100000) :: s else if c < 11 then nm (cl c) :: s
  else if c = 13 then (match s with | a :: t => b2i (decide (a = 0)) :: t | [] => [])
  else if c = 19 then (match s with | a :: t => (-a) :: t | [] => [])
  else match s with | b :: a :: t => twoF c a b :: t | _ => []
def evs (nm : Nat → Int32) (L : List Int32) (s : List Int32) : List Int32 := L.foldl (stp nm) s
def okc : List Int32 → Nat → Bool
  | [], n => n == 1
  | c :: L, n => if 100000 ≤ c then okc L (n + 1) else if c < 11 then inB c 0 5 && okc L (n + 1) else if c = 13 ∨ c = 19 then decide (1 ≤ n) && okc L n else decide (2 ≤ n) && okc L (n - 1)
def val (nm : Nat → Int32) (L : List Int32) : Int32 := (evs nm L []).headD 0
def clampI (x most : Int32) : Int32 := if 0 ≤ x then (if x ≤ most then x else most) else 0
def tB (u : Wv) (t p : Nat) : Nat := cl (u 121 (4 * t + p))
def codeL (u : Wv) (t p : Nat) : List Int32 := (List.range (tB u t (p + 1) - tB u t p)).map (fun i => u 120 (200 * t + (tB u t p + i)))
def nT (u : Wv) : Nat := cl (u 100 21)
def ru (u : Wv) : Nat := cl (u 100 22)
def TOK (u : Wv) (t : Nat) : Prop := (∀ p, p < 4 → u 121 (4 * t + p) = nI (tB u t p) ∧ tB u t p ≤ 160) ∧ tB u t 0 ≤ tB u t 1 ∧ tB u t 1 ≤ tB u t 2 ∧ tB u t 2 ≤ tB u t 3 ∧ ∀ p, p < 3 → okc (codeL u t p) 0 = true
def HT (u : Wv) : Prop := (1 ≤ nT u ∧ nT u ≤ 6 ∧ u 100 21 = nI (nT u)) ∧ (ru u < nT u ∧ u 100 22 = nI (ru u)) ∧ ∀ t, t < nT u → TOK u t
def sayF (u : Wv) (p : Nat) (most : Int32) (nm : Nat → Int32) : Int32 := clampI (val nm (codeL u (ru u) p)) most
def nmF (v h r x up k : Int32) : Nat → Int32 := fun i => [v, h, r, x, up, k].getD i 0
def sumF (f : Nat → Int32) : Nat → Nat → Int32 → Int32
  | _, 0, acc => acc
  | k, m + 1, acc => sumF f (k + 1) m (acc + f k)
def likeS (u : Wv) (r c p : Nat) : Int32 := sayF u 0 99 (nmF (u 114 p) (u 113 p) (nI r) (pl u r (nI c)) (fl u r) (so u r c))
def worT (u : Wv) (r c p : Nat) : Int32 := if hid u r c p = -1 then likeS u r c p else 0
def worS (u : Wv) (r c : Nat) : Int32 := sumF (worT u r c) 0 (nP u) 0
def priS (u : Wv) (r c : Nat) : Int32 := sayF u 1 999 (nmF (worS u r c) 0 (nI r) (pl u r (nI c)) (fl u r) (so u r c))
def rowS (f : Nat → Nat → Int32) (u : Wv) : Nat → Nat → Int32 → Int32
  | _, 0, acc => acc
  | r, m + 1, acc => rowS f u (r + 1) m (sumF (f r) 0 (nS u r) acc)
def allS (u : Wv) : Int32 := rowS (worS u) u 0 (nR u) 0
def orF (f : Nat → Bool) : Nat → Nat → Int32 → Int32
  | _, 0, acc => acc
  | k, m + 1, acc => orF f (k + 1) m (acc ||| (if f k then (1 : Int32) <<< (nI k &&& 31) else 0))
def seeS (u : Wv) (r c : Nat) : Int32 := orF (fun p => decide (hid u r c p = -1)) 0 (nP u) 0

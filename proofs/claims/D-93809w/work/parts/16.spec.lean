set_option maxRecDepth 100000
/-! ===== plain words: what both sides compute, over a hall u in m's layout (id 101+k: m's array of field k; u 100 k: its int field k) ===== -/
def b2i (b : Bool) : Int32 := if b then 1 else 0
theorem b2i_0 {b : Bool} : b2i b = 0 ↔ b = false := by cases b <;> decide
theorem b2i_n0 {b : Bool} : ¬ b2i b = 0 ↔ b = true := by cases b <;> decide
theorem nar_b (b : Bool) : narrow .boolean (.int (b2i b)) = .int (b2i b) := by cases b <;> rfl
theorem b2i_t : b2i true = 1 := rfl
theorem b2i_f : b2i false = 0 := rfl
def inB (v lo hi : Int32) : Bool := decide (lo ≤ v ∧ v ≤ hi)
abbrev cl (x : Int32) : Nat := x.toNatClampNeg
theorem cl_n {n : Nat} (h : n < 2 ^ 31) : cl (nI n) = n := nI_clamp h
/-- the first k from k on, m of them, with P -/
def ff (P : Nat → Bool) : Nat → Nat → Option Nat
  | _, 0 => none
  | k, m + 1 => if P k then some k else ff P (k + 1) m
def pl (u : Wv) (r : Nat) (c : Int32) : Int32 := 2 * c + u 109 r + (if u 105 r = 1 then 1 else if u 105 r = 3 then 1 + (u 107 r - u 107 r / 10 * 10) else 0)
def fl (u : Wv) (r : Nat) : Int32 := u 108 r + (if u 105 r = 2 then u 107 r else if u 105 r = 4 then 3 * u 107 r else 0)
def fa (u : Wv) (r : Nat) : Int32 := 10 + 10 * nI r - (if u 105 r = 3 then 3 else 0)
def am (u : Wv) (r : Nat) : Bool := decide (¬ u 105 r = 4)
def lo (u : Wv) (r : Nat) : Int32 := if u 105 r = 5 then u 107 r else 0
def ab (u : Wv) (r : Nat) (v : Int32) : Int32 := fl u r + (if v ≤ lo u r then 0 else v - lo u r)
def so (u : Wv) (r c : Nat) : Int32 := u 110 (8 * r + c)
def ey (u : Wv) (r c : Nat) : Int32 := ab u r (u 101 (cl (so u r c)))
def tp (u : Wv) (r c : Nat) : Int32 := ab u r (u 102 (cl (so u r c))) + (if nI (8 * r + c) = u 100 23 then u 100 24 else 0)
def absI (n : Int32) : Int32 := if n < 0 then -n else n
def bes (u : Wv) (r : Nat) (c : Int32) (p : Nat) (place far : Int32) : Int32 := absI (u 112 p * fa u r + (pl u r c - u 112 p) * far - place * fa u r)
def asH (u : Wv) (r c p : Nat) (high far : Int32) : Bool := decide (u 113 p * fa u r + (ey u r c - u 113 p) * far ≤ high * fa u r)
def nea (u : Wv) (r c p q : Nat) (e : Int32) : Bool := am u r && am u q && decide (bes u r (nI c) p (pl u q e) (fa u q) ≤ fa u r)
def nR (u : Wv) : Nat := cl (u 100 3)
def nP (u : Wv) : Nat := cl (u 100 10)
def nO (u : Wv) : Nat := cl (u 100 14)
def nS (u : Wv) (r : Nat) : Nat := cl (u 106 r)
def poB (u : Wv) (r c p k : Nat) : Bool := decide (u 117 k < fa u r) && decide (bes u r (nI c) p (u 116 k) (u 117 k) < fa u r)
def poF (u : Wv) (r c p : Nat) : Int32 := match ff (poB u r c p) 0 (nO u) with
  | some k => nI k
  | none => -1
def hh (u : Wv) (r c p q e : Nat) : Bool := nea u r c p q (nI e) && asH u r c p (tp u q e) (fa u q)
def hiQ (u : Wv) (r c p : Nat) : Nat → Nat → Int32
  | _, 0 => if poF u r c p = -1 then -1 else 100 + poF u r c p
  | q, m + 1 => match ff (hh u r c p q) 0 (nS u q) with
    | some e => 10 * nI q + nI e
    | none => hiQ u r c p (q + 1) m
/-- what hides point p from seat c of row r -/
def hid (u : Wv) (r c p : Nat) : Int32 := hiQ u r c p 0 r
/-- what holds of a hall always -/
def HI (u : Wv) : Prop := (∃ n, n ≤ 6 ∧ u 100 3 = nI n) ∧ (∃ n, n ≤ 6 ∧ u 100 10 = nI n) ∧ (∃ n, n ≤ 4 ∧ u 100 14 = nI n) ∧ (∀ r, r < 6 → ∃ n, n ≤ 8 ∧ u 106 r = nI n) ∧ (∀ i, i < 48 → ∃ n, n < 4 ∧ u 110 i = nI n)
theorem HI.rows {u : Wv} (h : HI u) : u 100 3 = nI (nR u) ∧ nR u ≤ 6 := by
  obtain ⟨⟨n, h1, h2⟩, -⟩ := h
  have : nR u = n := by rw [nR, h2]; exact nI_clamp (by omega)
  rw [this]; exact ⟨h2, h1⟩
theorem HI.points {u : Wv} (h : HI u) : u 100 10 = nI (nP u) ∧ nP u ≤ 6 := by
  obtain ⟨-, ⟨n, h1, h2⟩, -⟩ := h
  have : nP u = n := by rw [nP, h2]; exact nI_clamp (by omega)
  rw [this]; exact ⟨h2, h1⟩
theorem HI.posts {u : Wv} (h : HI u) : u 100 14 = nI (nO u) ∧ nO u ≤ 4 := by
  obtain ⟨-, -, ⟨n, h1, h2⟩, -⟩ := h
  have : nO u = n := by rw [nO, h2]; exact nI_clamp (by omega)
  rw [this]; exact ⟨h2, h1⟩
theorem HI.seats {u : Wv} (h : HI u) {r : Nat} (hr : r < 6) : u 106 r = nI (nS u r) ∧ nS u r ≤ 8 := by
  obtain ⟨-, -, -, h1, -⟩ := h
  obtain ⟨n, h1, h2⟩ := h1 r hr
  have : nS u r = n := by rw [nS, h2]; exact nI_clamp (by omega)
  rw [this]; exact ⟨h2, h1⟩
theorem HI.sort {u : Wv} (h : HI u) {i : Nat} (hi : i < 48) : IX (u 110 i) (cl (u 110 i)) 4 := by
  obtain ⟨-, -, -, -, h1⟩ := h
  obtain ⟨n, h1, h2⟩ := h1 i hi
  rw [h2]
  exact ⟨nI_pos (by omega), rfl, by rw [cl_n (by omega)]; exact h1⟩
/-- an int within 0 .. n-1 -/
theorem inB_n {x : Int32} {n : Nat} (hn : n < 2 ^ 30) : inB x 0 (nI n - 1) = true ↔ ∃ j, j < n ∧ x = nI j := by
  simp only [inB, decide_eq_true_eq]
  constructor
  · rintro ⟨h1, h2⟩
    obtain ⟨j, hj, rfl⟩ := nI_of (x := x) (fun h => absurd h (Int32.not_lt.mpr h1))
    refine ⟨j, ?_, rfl⟩
    cases n with
    | zero =>
      exfalso
      rw [Int32.le_iff_toInt_le, nI_toInt hj] at h2
      have : (nI 0 - 1 : Int32).toInt = -1 := by decide
      omega
    | succ k =>
      rw [nI_pred, nI_leI hj (by omega)] at h2
      omega
  · rintro ⟨j, hj, rfl⟩
    cases n with
    | zero => omega
    | succ k =>
      rw [nI_pred]
      exact ⟨nI_pos' (by omega), nI_le (by omega) (by omega)⟩
theorem ix2 {r c : Nat} (hr : r < 6) (hc : c < 8) : IX (8 * nI r + nI c) (8 * r + c) 48 := by
  refine IX.of ?_ (by omega) (by decide)
  rw [show (8 : Int32) = nI 8 from rfl, pk_mul, nI_add]
section
variable {E : En} {M : Mi} {d : Nat} {out : Out} {pc : Nat} {lv : List (Option Value)} {st : List Value} {σ : Sg}
theorem V.ifb_ne {b : Bool} {off : Int} {tgt : Nat} (hd : decode (mC M) pc = .ok (.ifCond .ne off, 3)) (ht : (pc : Int) + off = (tgt : Int)) (h1 : b = true → V E M d out tgt lv st σ) (h2 : b = false → V E M d out (pc + 3) lv st σ) : V E M d out pc lv (.int (b2i b) :: st) σ := V.if_ne hd ht (fun q => h1 (b2i_n0.mp q)) (fun q => h2 (b2i_0.mp q))
theorem V.ifb_eq {b : Bool} {off : Int} {tgt : Nat} (hd : decode (mC M) pc = .ok (.ifCond .eq off, 3)) (ht : (pc : Int) + off = (tgt : Int)) (h1 : b = false → V E M d out tgt lv st σ) (h2 : b = true → V E M d out (pc + 3) lv st σ) : V E M d out pc lv (.int (b2i b) :: st) σ := V.if_eq hd ht (fun q => h1 (b2i_0.mp q)) (fun q => h2 (b2i_n0.mp q))
theorem V.lcmp {x y : Int64} (hd : decode (mC M) pc = .ok (.lcmp, 1)) (h : V E M d out (pc + 1) lv (.int (lg_cmp x y) :: st) σ) : V E M d out pc lv (.long y :: .long x :: st) σ :=
  ⟨h.1, fun p e R s m args below meth c n0 s0 C hf hl hn hs hc hz ls H locs L P Q => W.lcmp C.x C.b hd (h.2 p e R s m args below meth c n0 s0 C hf hl hn hs hc hz ls H locs L P Q)⟩
end

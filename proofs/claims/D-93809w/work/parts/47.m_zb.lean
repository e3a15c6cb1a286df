set_option maxRecDepth 100000
set_option maxHeartbeats 1000000
theorem lexT_b {B : Nat → Int32} {N p : Nat} (h : p < N) : p < (lexT B N p).2.2 ∧ (lexT B N p).2.2 ≤ N := by
  unfold lexT
  split
  · rename_i h1
    show p < runF isL B (N - p) p ∧ runF isL B (N - p) p ≤ N
    rw [show N - p = (N - p - 1) + 1 by omega, runF, if_pos h1]
    have := runF_b (P := isL) (B := B) (N - p - 1) (p + 1)
    omega
  · split
    · rename_i h1
      show p < runF isD B (N - p) p ∧ runF isD B (N - p) p ≤ N
      rw [show N - p = (N - p - 1) + 1 by omega, runF, if_pos h1]
      have := runF_b (P := isD) (B := B) (N - p - 1) (p + 1)
      omega
    · show p < p + 1 ∧ p + 1 ≤ N
      omega
theorem lexM_b {B : Nat → Int32} {N a : Nat} (h : a ≤ N) : (lexM B N a).2.2.2 ≤ N ∧ (lexM B N a).1 ≤ N ∧ ((lexM B N a).2.1 = 0 ∨ a < (lexM B N a).2.2.2) := by
  unfold lexM
  have hb := runF_b (P := isB) (B := B) (N - a) a
  show (if runF isB B (N - a) a = N then _ else _ : Nat × Int32 × Int32 × Nat).2.2.2 ≤ N ∧ (if runF isB B (N - a) a = N then _ else _ : Nat × Int32 × Int32 × Nat).1 ≤ N ∧ _
  by_cases e : runF isB B (N - a) a = N
  · simp only [if_pos e]; exact ⟨by omega, by omega, .inl trivial⟩
  · simp only [if_neg e]
    have h2 := lexT_b (B := B) (N := N) (p := runF isB B (N - a) a) (by omega)
    exact ⟨h2.2, by omega, .inr (by omega)⟩
theorem SYR.tok {T : Nat} {w0 w : Wv} {K C : List Int32} {a b : Nat} {t y : Int32} (h : SYR T w0 w K C a b t y) {a' b' : Nat} {t' y' : Int32} : SYR T w0 (tk w (nI a') (nI b') t' y') K C a' b' t' y' := by
  obtain ⟨h1, h2, h3, h4, h5, h6⟩ := h
  refine ⟨fun id j q1 q2 => ?_, ⟨rfl, rfl, rfl, rfl⟩, h3, h4, h5, h6⟩
  rw [← h1 id j q1 q2]
  by_cases e : id = 100
  · subst e
    refine tk_j (fun z => ?_)
    have : scJ j = true := by
      unfold scJ
      rw [show Nat.ble 40 j = true from Nat.ble_eq.mpr z.1, show Nat.ble j 43 = true from Nat.ble_eq.mpr z.2]
      rfl
    rw [this] at q1
    exact absurd q1 (by decide)
  · exact tk_ne e
theorem n_next {E : En} {g : Ge} {σ : Sg} {w : Wv} (hW : WM g σ) (hWd : HW g σ) {T N : Nat} {w0 : Wv} {K C : List Int32} {a b : Nat} {t y : Int32} (hy : SYR T w0 w K C a b t y) (hN : w0 100 18 = nI N) (hN2 : N ≤ 160) (ha : a ≤ N) : CtE E mX7_next 2 [.ref (g.1 100)] (PV (fun s => ∃ w', s = S g σ w' ∧ SYR T w0 w' K C (lexM (w0 118) N a).2.2.2 (lexM (w0 118) N a).1 (lexM (w0 118) N a).2.1 (lexM (w0 118) N a).2.2.1)) (S g σ w) := by
  have e18 : w 100 18 = nI N := (hy.1 100 18 rfl (by simp)).trans hN
  have e118 : w 118 = w0 118 := funext fun j => hy.1 118 j rfl (by simp)
  have h := c_X7_next (E := E) hW hWd (b := nI b) (t := t) (y := y) e18 hN2 ha
  have e0 : tk w (nI a) (nI b) t y = w := by
    have := tk_0 (w := w)
    rw [hy.2.1.1, hy.2.1.2.1, hy.2.1.2.2.1, hy.2.1.2.2.2] at this
    exact this
  rw [e0, e118] at h
  exact ⟨_, ⟨rfl, _, rfl, hy.tok⟩, h⟩
/-- an E up to its ;, by signs that wait: none and where, or the codes and where one is then -/
def sy (B : Nat → Int32) (N : Nat) : Nat → Nat → List Int32 → List Int32 → Bool → Bool → Nat × Option (List Int32 × Nat)
  | 0, a, _, _, _, _ => (a, none)
  | f + 1, a, K, C, wa, mn =>
    let L := lexM B N a
    if wa then
      (if L.2.1 = 1 ∨ L.2.1 = 2 then sy B N f L.2.2.2 (unw 7 K (C ++ [if L.2.1 = 1 then 100000 + L.2.2.1 else L.2.2.1])).1 (unw 7 K (C ++ [if L.2.1 = 1 then 100000 + L.2.2.1 else L.2.2.1])).2 false mn
       else if L.2.1 = 6 ∧ mn = true then (if cntO K = 5 then (L.1, none) else sy B N f L.2.2.2 (13 :: K) C true mn)
       else if L.2.1 = 45 then (if cntO K = 5 then (L.1, none) else sy B N f L.2.2.2 (19 :: K) C true false)
       else if L.2.1 = 40 then (if cntO K = 5 then (L.1, none) else sy B N f L.2.2.2 (0 :: K) C true true)
       else (L.1, none))
    else if L.2.1 = 59 then (match (unw 1 K C).1 with
      | [] => (L.1, some ((unw 1 K C).2, L.2.2.2))
      | _ :: _ => (L.1, none))
    else if L.2.1 = 41 then (match (unw 1 K C).1 with
      | [] => (L.1, none)
      | _ :: K' => sy B N f L.2.2.2 (unw 7 K' (unw 1 K C).2).1 (unw 7 K' (unw 1 K C).2).2 false mn)
    else if sgO L.2.1 = -1 then (L.1, none)
    else (match btw (sgO L.2.1) K C with
      | none => (L.1, none)
      | some U => sy B N f L.2.2.2 U.1 U.2 true (decide (sgO L.2.1 ≤ 12)))
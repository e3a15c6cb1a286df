set_option maxRecDepth 100000
set_option maxHeartbeats 1000000
/-! ===== laws of sy ===== -/
def TopLt (l : Int32) : List Int32 → Prop
  | [] => True
  | q :: _ => rk q < l
theorem unw_all {l : Int32} : ∀ (S K C : List Int32), (∀ q, q ∈ S → ¬ rk q < l) → TopLt l K → unw l (S ++ K) C = (K, C ++ S)
  | [], K, C, _, hK => by
    rw [List.nil_append, List.append_nil]
    cases K with
    | nil => rfl
    | cons q K => rw [unw, if_pos (show rk q < l from hK)]
  | q :: S, K, C, h, hK => by
    rw [List.cons_append, unw, if_neg (h q List.mem_cons_self), unw_all S K (C ++ [q]) (fun x hx => h x (List.mem_cons_of_mem _ hx)) hK, List.append_assoc]
    rfl
section
variable {B : Nat → Int32} {N f a : Nat} {K C : List Int32} {mn mn' wa : Bool}
theorem sy_mn' : ∀ (f a : Nat) (K C : List Int32), sy B N f a K C false mn = sy B N f a K C false mn'
  | 0, _, _, _ => rfl
  | f + 1, a, K, C => by
    rw [sy, sy]
    simp only [Bool.false_eq_true, if_false]
    by_cases h1 : (lexM B N a).2.1 = 59
    · rw [if_pos h1, if_pos h1]
    · rw [if_neg h1, if_neg h1]
      by_cases h2 : (lexM B N a).2.1 = 41
      · rw [if_pos h2, if_pos h2]
        cases (unw 1 K C).1 with
        | nil => rfl
        | cons q K' => exact sy_mn' f _ _ _
      · rw [if_neg h2, if_neg h2]
theorem sy_mn (f : Nat) : sy B N f a K C false mn = sy B N f a K C false mn' := sy_mn' f a K C
theorem sy_num (h : (lexM B N a).2.1 = 1 ∨ (lexM B N a).2.1 = 2) : sy B N (f + 1) a K C true mn = sy B N f (lexM B N a).2.2.2 (unw 7 K (C ++ [if (lexM B N a).2.1 = 1 then 100000 + (lexM B N a).2.2.1 else (lexM B N a).2.2.1])).1 (unw 7 K (C ++ [if (lexM B N a).2.1 = 1 then 100000 + (lexM B N a).2.2.1 else (lexM B N a).2.2.1])).2 false mn := by
  rw [sy]
  simp only [if_true]
  rw [if_pos h]
theorem sy_neg (h : (lexM B N a).2.1 = 45) : sy B N (f + 1) a K C true mn = if cntO K = 5 then ((lexM B N a).1, none) else sy B N f (lexM B N a).2.2.2 (19 :: K) C true false := by
  rw [sy]
  simp only [if_true]
  rw [if_neg (by rw [h]; decide), if_neg (by rw [h]; exact fun z => absurd z.1 (by decide)), if_pos h]
theorem sy_par (h : (lexM B N a).2.1 = 40) : sy B N (f + 1) a K C true mn = if cntO K = 5 then ((lexM B N a).1, none) else sy B N f (lexM B N a).2.2.2 (0 :: K) C true true := by
  rw [sy]
  simp only [if_true]
  rw [if_neg (by rw [h]; decide), if_neg (by rw [h]; exact fun z => absurd z.1 (by decide)), if_neg (by rw [h]; decide), if_pos h]
theorem sy_not (h : (lexM B N a).2.1 = 6) : sy B N (f + 1) a K C true true = if cntO K = 5 then ((lexM B N a).1, none) else sy B N f (lexM B N a).2.2.2 (13 :: K) C true true := by
  rw [sy]
  simp only [if_true]
  rw [if_neg (by rw [h]; decide), if_pos ⟨h, trivial⟩]
theorem sy_els (h1 : (lexM B N a).2.1 ≠ 1) (h2 : (lexM B N a).2.1 ≠ 2) (h3 : (lexM B N a).2.1 ≠ 45) (h4 : (lexM B N a).2.1 ≠ 40) (h5 : mn = false ∨ (lexM B N a).2.1 ≠ 6) : sy B N (f + 1) a K C true mn = ((lexM B N a).1, none) := by
  rw [sy]
  simp only [if_true]
  rw [if_neg (fun z => z.elim h1 h2), if_neg (fun z => by rcases h5 with h | h; rw [h] at z; exact Bool.noConfusion z.2; exact h z.1), if_neg h3, if_neg h4]
theorem sy_bad (h : (lexM B N a).2.1 = -1) : sy B N (f + 1) a K C wa mn = ((lexM B N a).1, none) := by
  cases wa with
  | true => exact sy_els (by rw [h]; decide) (by rw [h]; decide) (by rw [h]; decide) (by rw [h]; decide) (.inr (by rw [h]; decide))
  | false =>
    rw [sy]
    simp only [Bool.false_eq_true, if_false]
    rw [if_neg (by rw [h]; decide), if_neg (by rw [h]; decide), if_pos (by rw [h]; decide)]
theorem sg_59 {t : Int32} (h : ¬ sgO t = -1) : t ≠ 59 ∧ t ≠ 41 := ⟨fun z => h (by rw [z]; decide), fun z => h (by rw [z]; decide)⟩
theorem sy_op (h : ¬ sgO (lexM B N a).2.1 = -1) {U : List Int32 × List Int32} (hU : btw (sgO (lexM B N a).2.1) K C = some U) : sy B N (f + 1) a K C false mn = sy B N f (lexM B N a).2.2.2 U.1 U.2 true (decide (sgO (lexM B N a).2.1 ≤ 12)) := by
  rw [sy]
  simp only [Bool.false_eq_true, if_false]
  rw [if_neg (sg_59 h).1, if_neg (sg_59 h).2, if_neg h, hU]
theorem sy_opn (h : ¬ sgO (lexM B N a).2.1 = -1) (hU : btw (sgO (lexM B N a).2.1) K C = none) : sy B N (f + 1) a K C false mn = ((lexM B N a).1, none) := by
  rw [sy]
  simp only [Bool.false_eq_true, if_false]
  rw [if_neg (sg_59 h).1, if_neg (sg_59 h).2, if_neg h, hU]
theorem sy_cl {q : Int32} {K' C' : List Int32} (h : (lexM B N a).2.1 = 41) (hu : unw 1 K C = (q :: K', C')) : sy B N (f + 1) a K C false mn = sy B N f (lexM B N a).2.2.2 (unw 7 K' C').1 (unw 7 K' C').2 false mn := by
  rw [sy]
  simp only [Bool.false_eq_true, if_false]
  rw [if_neg (by rw [h]; decide), if_pos h, hu]
theorem sy_cl0 {C' : List Int32} (h : (lexM B N a).2.1 = 41) (hu : unw 1 K C = ([], C')) : sy B N (f + 1) a K C false mn = ((lexM B N a).1, none) := by
  rw [sy]
  simp only [Bool.false_eq_true, if_false]
  rw [if_neg (by rw [h]; decide), if_pos h, hu]
theorem sy_end {C' : List Int32} (h : (lexM B N a).2.1 = 59) (hu : unw 1 K C = ([], C')) : sy B N (f + 1) a K C false mn = ((lexM B N a).1, some (C', (lexM B N a).2.2.2)) := by
  rw [sy]
  simp only [Bool.false_eq_true, if_false]
  rw [if_pos h, hu]
theorem sy_endn {q : Int32} {K' C' : List Int32} (h : (lexM B N a).2.1 = 59) (hu : unw 1 K C = (q :: K', C')) : sy B N (f + 1) a K C false mn = ((lexM B N a).1, none) := by
  rw [sy]
  simp only [Bool.false_eq_true, if_false]
  rw [if_pos h, hu]
theorem sy_no (h1 : (lexM B N a).2.1 ≠ 59) (h2 : (lexM B N a).2.1 ≠ 41) (h3 : sgO (lexM B N a).2.1 = -1) : sy B N (f + 1) a K C false mn = ((lexM B N a).1, none) := by
  rw [sy]
  simp only [Bool.false_eq_true, if_false]
  rw [if_neg h1, if_neg h2, if_pos h3]
/-- a sign of rank l over signs that all bind at least so -/
theorem btw_all {l s : Int32} {S : List Int32} (hl : rk s = l) (h4 : ¬ l = 4) (hS : ∀ q, q ∈ S → ¬ rk q < l) (hK : TopLt l K) : btw s (S ++ K) C = some (s :: K, C ++ S) := by
  unfold btw
  rw [hl, if_neg h4, unw_all S K C hS hK, decide_eq_false h4]
  rfl
theorem btw_4 {s : Int32} {S : List Int32} (hs : rk s = 4) (hS : ∀ q, q ∈ S → ¬ rk q < 5) (hK : TopLt 4 K) : btw s (S ++ K) C = some (s :: K, C ++ S) := by
  have hK5 : TopLt 5 K := by
    cases K with
    | nil => trivial
    | cons q K => exact Int32.lt_trans hK (by decide)
  unfold btw
  rw [hs, if_pos rfl, unw_all S K C hS hK5]
  have : top4 K = false := by
    cases K with
    | nil => rfl
    | cons q K =>
      refine decide_eq_false (fun z => ?_)
      have h9 : rk q < 4 := hK
      rw [z] at h9
      exact Int32.lt_irrefl h9
  dsimp only
  rw [this, Bool.and_false]
  rfl
theorem btw_no {s : Int32} (hs : rk s = 4) (h : top4 (unw 5 K C).1 = true) : btw s K C = none := by
  unfold btw
  dsimp only
  rw [hs, if_pos rfl, h]
  rfl
end
/-- where the parts stop: what can't come next -/
def Stop (l : Nat) (t : Int32) (K C : List Int32) : Prop := (l ≤ 6 → t ≠ 42) ∧ (l ≤ 5 → t ≠ 43 ∧ t ≠ 45) ∧ (l ≤ 4 → t = 60 ∨ t = 61 → top4 (unw 5 K C).1 = true) ∧ (l ≤ 2 → t ≠ 5) ∧ (l ≤ 1 → t ≠ 4)
/-- behind a whole E only ; or ) can go on -/
theorem sy_stop {B : Nat → Int32} {N f a : Nat} {K C : List Int32} {mn : Bool} (h : Stop 1 (lexM B N a).2.1 K C) (h1 : (lexM B N a).2.1 ≠ 59) (h2 : (lexM B N a).2.1 ≠ 41) : sy B N (f + 1) a K C false mn = ((lexM B N a).1, none) := by
  obtain ⟨s1, s2, s3, s4, s5⟩ := h
  by_cases hs : sgO (lexM B N a).2.1 = -1
  · exact sy_no h1 h2 hs
  · have e : sgO (lexM B N a).2.1 = 14 ∨ sgO (lexM B N a).2.1 = 15 := by
      unfold sgO at hs ⊢
      rw [if_neg (s5 (by decide)), if_neg (s4 (by decide))] at hs ⊢
      by_cases e1 : (lexM B N a).2.1 = 60
      · rw [if_pos e1]; exact .inl rfl
      · rw [if_neg e1] at hs ⊢
        by_cases e2 : (lexM B N a).2.1 = 61
        · rw [if_pos e2]; exact .inr rfl
        · rw [if_neg e2, if_neg (s2 (by decide)).1, if_neg (s2 (by decide)).2, if_neg (s1 (by decide))] at hs
          exact absurd rfl hs
    have e4 : (lexM B N a).2.1 = 60 ∨ (lexM B N a).2.1 = 61 := by
      unfold sgO at e
      by_cases e1 : (lexM B N a).2.1 = 60
      · exact .inl e1
      · by_cases e2 : (lexM B N a).2.1 = 61
        · exact .inr e2
        · rw [if_neg (s5 (by decide)), if_neg (s4 (by decide)), if_neg e1, if_neg e2, if_neg (s2 (by decide)).1, if_neg (s2 (by decide)).2, if_neg (s1 (by decide))] at e
          exact absurd e (by decide)
    refine sy_opn hs (btw_no ?_ (s3 (by decide) e4))
    rcases e with e | e <;> rw [e] <;> decide

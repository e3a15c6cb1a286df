set_option maxRecDepth 100000
set_option maxHeartbeats 1000000
theorem l_rem (a b : Int64) : a - a / b * b = a % b := by
  apply Int64.toInt_inj.mp
  have h1 : (a.toInt - ((a.toInt.tdiv b.toInt).bmod (2 ^ 64) * b.toInt).bmod (2 ^ 64)).bmod (2 ^ 64) = (a.toInt - a.toInt.tdiv b.toInt * b.toInt).bmod (2 ^ 64) := by simp
  rw [Int64.toInt_sub, Int64.toInt_mul, Int64.toInt_div, h1, Int.mul_comm, ← Int.tmod_def, ← Int64.toInt_mod]
  exact Int64.toInt_bmod _
theorem l_rem_lt {a b : Int64} (h : ¬ b = 0) : (a - a / b * b).toInt.natAbs < b.toInt.natAbs := by
  rw [l_rem, Int64.toInt_mod, Int.natAbs_tmod]
  refine Nat.mod_lt _ ?_
  rcases Nat.eq_zero_or_pos b.toInt.natAbs with z | z
  · exact absurd (Int64.toInt_inj.mp (by rw [Int.natAbs_eq_zero.mp z]; rfl)) h
  · exact z
def gl : Nat → Int64 → Int64 → Int64
  | 0, a, _ => a
  | n + 1, a, b => if b = 0 then a else gl n b (a - a / b * b)
theorem l_z {b : Int64} (h : b.toInt.natAbs = 0) : b = 0 := Int64.toInt_inj.mp (by rw [Int.natAbs_eq_zero.mp h]; rfl)
theorem gl_nz : ∀ (n : Nat) (a b : Int64), b.toInt.natAbs ≤ n → ¬ (a = 0 ∧ b = 0) → ¬ gl n a b = 0
  | 0, a, b, h, hn => fun z => hn ⟨z, l_z (by omega)⟩
  | n + 1, a, b, h, hn => by
    rw [gl]
    by_cases hb : b = 0
    · rw [if_pos hb]; exact fun z => hn ⟨z, hb⟩
    · rw [if_neg hb]; exact gl_nz n b _ (by have := l_rem_lt (a := a) hb; omega) (fun z => hb z.1)
def lowS (a b : Int64) (part : Int32) : Int64 := if a = 0 then part.toInt64 else (if part = 0 then a else b) / gl b.toInt.natAbs a b
def pw (x : Int64) : Nat → Int64 → Int64
  | 0, a => a
  | n + 1, a => pw x n (a * x)
def cntS (v : Wv) : Int32 := v 103 0 + v 103 1 + v 103 2 + v 103 3
def casL (v : Wv) (r c p q : Nat) : Int32 := sumF (fun k => if asH v r c p (ab v q (v 102 k)) (fa v q) then 0 else v 103 k) 0 4 0
def casE (v : Wv) (r c p q : Nat) : Nat → Nat → Nat × Int64 → Nat × Int64
  | _, 0, s => s
  | e, m + 1, s => casE v r c p q (e + 1) m (if nea v r c p q (nI e) then (s.1 + 1, s.2 * (casL v r c p q).toInt64) else s)
def casQ (v : Wv) (r c p : Nat) : Nat → Nat → Nat × Int64 → Nat × Int64
  | _, 0, s => s
  | q, m + 1, s => casQ v r c p (q + 1) m (casE v r c p q 0 (nS v q) s)
def casS (v : Wv) (r c p : Nat) : Nat × Int64 := casQ v r c p 0 r (0, 1)
def casF (v : Wv) (r c p : Nat) : Int64 := if poF v r c p = -1 then (casS v r c p).2 else 0
theorem casE_n {v : Wv} {r c p q : Nat} : ∀ (m e : Nat) (s : Nat × Int64), (casE v r c p q e m s).1 ≤ s.1 + m
  | 0, _, s => Nat.le_refl _
  | m + 1, e, s => by
    rw [casE]
    refine Nat.le_trans (casE_n m _ _) ?_
    split
    · show s.1 + 1 + m ≤ _; omega
    · omega
def NO : Int64 := -4611686018427387904
def chaOk (v : Wv) (r c p a : Int32) : Bool := seB v r c && inB p 0 (v 100 10 - 1) && inB a 0 1 && decide (¬ cntS v = 0)
def chanceR (v : Wv) (r c p a : Int32) : Int64 := if chaOk v r c p a then lowS (casF v (cl r) (cl c) (cl p)) (pw (cntS v).toInt64 (casS v (cl r) (cl c) (cl p)).1 1) a else NO
def meaM (v : Wv) (r c : Nat) : Nat → Nat → Nat → Nat
  | _, 0, a => a
  | p, m + 1, a => meaM v r c (p + 1) m (if (casS v r c p).1 ≤ a then a else (casS v r c p).1)
def meaT (v : Wv) (r c most p : Nat) : Int64 := (likeS v r c p).toInt64 * casF v r c p * pw (cntS v).toInt64 (most - (casS v r c p).1) 1
def meaS (v : Wv) (r c most : Nat) : Nat → Nat → Int64 → Int64
  | _, 0, a => a
  | p, m + 1, a => meaS v r c most (p + 1) m (a + meaT v r c most p)
def meaOk (v : Wv) (r c a : Int32) : Bool := seB v r c && inB a 0 1 && decide (¬ cntS v = 0)
def meaN (v : Wv) (r c : Nat) : Nat := meaM v r c 0 (nP v) 0
def meanR (v : Wv) (r c a : Int32) : Int64 := if meaOk v r c a then lowS (meaS v (cl r) (cl c) (meaN v (cl r) (cl c)) 0 (nP v) 0) (pw (cntS v).toInt64 (meaN v (cl r) (cl c)) 1) a else NO
theorem lcz {x : Int64} : lg_cmp x 0 = 0 ↔ x = 0 := by
  unfold lg_cmp
  constructor
  · intro h
    split at h
    · exact absurd h (by decide)
    · split at h
      · assumption
      · exact absurd h (by decide)
  · rintro rfl
    decide
theorem c_X7_power {E : En} {σ : Sg} {x : Int64} {n : Nat} (hn : n < 2 ^ 30) : Ct E mX7_power 0 [.long x, .int (nI n)] (.returned (some (.long (pw x n 1))), σ) (σ) := by
  show V E mX7_power 0 _ 0 [some (.long x), none, some (.int (nI n)), none, none, none] [] (σ)
  have L5 : ∀ (m k : Nat) (a : Int64), k + m = n → pw x m a = pw x n 1 → V E mX7_power 0 (.returned (some (.long (pw x n 1))), σ) 5 [some (.long x), none, some (.int (nI n)), some (.long a), none, some (.int (nI k))] [] (σ) := by
    intro m
    induction m with
    | zero =>
      intro k a hk hs
      refine V.ild5 dX7_power_5 (V.ild2 dX7_power_7 (V.icmp_ge (tgt := 21) dX7_power_8 (by decide) (fun c_8 => ?_) (fun c_8 => absurd (by exact nI_le (by omega) (by omega)) c_8)))
      exact V.lld3 dX7_power_21 (V.lret dX7_power_22 rfl (by rw [← hs]; rfl))
    | succ m ih =>
      intro k a hk hs
      refine V.ild5 dX7_power_5 (V.ild2 dX7_power_7 (V.icmp_ge (tgt := 21) dX7_power_8 (by decide) (fun c_8 => absurd c_8 (by first | exact nI_ge (by omega) (by omega) | exact fun h9 => absurd ((nI_leI (by omega) (by omega)).mp h9) (by omega))) (fun c_8 => ?_)))
      refine V.lld3 dX7_power_11 (V.lld0 dX7_power_12 (V.lmul dX7_power_13 (V.lst3 dX7_power_14 (V.inc5 dX7_power_15 (V.goto (tgt := 5) dX7_power_18 (by decide) ?_)))))
      rw [nI_1]
      exact ih (k + 1) _ (by omega) hs
  refine V.lconst_1 dX7_power_0 (V.lst3 dX7_power_1 (V.iconst_0 dX7_power_2 (V.ist5 dX7_power_3 ?_)))
  exact L5 n 0 1 (by omega) rfl

theorem c_X7_lowest {E : En} {σ : Sg} {x z : Int64} {p : Int32} : Ct E mX7_lowest 0 [.long x, .long z, .int p] (.returned (some (.long (lowS x z p))), σ) (σ) := by
  show V E mX7_lowest 0 _ 0 [some (.long x), none, some (.long z), none, some (.int p), none, none, none, none, none, none] [] (σ)
  refine V.lld0 dX7_lowest_0 (V.lconst_0 dX7_lowest_1 (V.lcmp dX7_lowest_2 (V.if_ne (tgt := 10) dX7_lowest_3 (by decide) (fun c_3 => ?_) (fun c_3 => ?_))))
  · have L16 : ∀ (n : Nat) (a b : Int64) (y : Option Value), b.toInt.natAbs ≤ n → ¬ (a = 0 ∧ b = 0) → gl n a b = gl z.toInt.natAbs x z → V E mX7_lowest 0 (.returned (some (.long (lowS x z p))), σ) 16 [some (.long x), none, some (.long z), none, some (.int p), some (.long a), none, some (.long b), none, y, none] [] σ := by
      intro n
      induction n with
      | zero =>
        intro a b y hb hn hs
        have hb0 := l_z (b := b) (by omega)
        refine V.lld7 dX7_lowest_16 (V.lconst_0 dX7_lowest_18 (V.lcmp dX7_lowest_19 (V.if_eq (tgt := 41) dX7_lowest_20 (by decide) (fun c_20 => ?_) (fun c_20 => absurd (lcz.mpr hb0) c_20))))
        refine V.ild4 dX7_lowest_41 (V.if_ne (tgt := 50) dX7_lowest_43 (by decide) (fun c_43 => ?_) (fun c_43 => ?_))
        · exact V.lld2 dX7_lowest_50 (V.lld5 dX7_lowest_51 (V.ldiv dX7_lowest_53 (fun z => hn ⟨z, hb0⟩) (V.lret dX7_lowest_54 rfl (by unfold lowS; rw [if_neg (fun z => c_3 (lcz.mpr z)), ← hs]; simp [c_43, gl]))))
        · exact V.lld0 dX7_lowest_46 (V.goto (tgt := 51) dX7_lowest_47 (by decide) (V.lld5 dX7_lowest_51 (V.ldiv dX7_lowest_53 (fun z => hn ⟨z, hb0⟩) (V.lret dX7_lowest_54 rfl (by unfold lowS; rw [if_neg (fun z => c_3 (lcz.mpr z)), ← hs]; simp [c_43, gl])))))
      | succ n ih =>
        intro a b y hb hn hs
        refine V.lld7 dX7_lowest_16 (V.lconst_0 dX7_lowest_18 (V.lcmp dX7_lowest_19 (V.if_eq (tgt := 41) dX7_lowest_20 (by decide) (fun c_20 => ?_) (fun c_20 => ?_))))
        · refine V.ild4 dX7_lowest_41 (V.if_ne (tgt := 50) dX7_lowest_43 (by decide) (fun c_43 => ?_) (fun c_43 => ?_))
          · exact V.lld2 dX7_lowest_50 (V.lld5 dX7_lowest_51 (V.ldiv dX7_lowest_53 (fun z => hn ⟨z, lcz.mp c_20⟩) (V.lret dX7_lowest_54 rfl (by unfold lowS; rw [if_neg (fun z => c_3 (lcz.mpr z)), ← hs, gl, if_pos (lcz.mp c_20)]; first | rw [if_pos c_43] | rw [if_neg c_43]))))
          · exact V.lld0 dX7_lowest_46 (V.goto (tgt := 51) dX7_lowest_47 (by decide) (V.lld5 dX7_lowest_51 (V.ldiv dX7_lowest_53 (fun z => hn ⟨z, lcz.mp c_20⟩) (V.lret dX7_lowest_54 rfl (by unfold lowS; rw [if_neg (fun z => c_3 (lcz.mpr z)), ← hs, gl, if_pos (lcz.mp c_20)]; first | rw [if_pos c_43] | rw [if_neg c_43])))))
        · refine V.lld5 dX7_lowest_23 (V.lld7 dX7_lowest_25 (V.lrem dX7_lowest_27 (fun z => c_20 (lcz.mpr z)) (V.lst9 dX7_lowest_28 (V.lld7 dX7_lowest_30 (V.lst5 dX7_lowest_32 (V.lld9 dX7_lowest_34 (V.lst7 dX7_lowest_36 (V.goto (tgt := 16) dX7_lowest_38 (by decide) ?_))))))))
          have hb1 : ¬ b = 0 := fun z => c_20 (lcz.mpr z)
          exact ih _ _ _ (by have := l_rem_lt (a := a) hb1; omega) (fun z => hb1 z.1) (by rw [← hs, gl, if_neg hb1])
    
    refine V.lld0 dX7_lowest_10 (V.lst5 dX7_lowest_11 (V.lld2 dX7_lowest_13 (V.lst7 dX7_lowest_14 ?_)))
    exact L16 _ _ _ _ (Nat.le_refl _) (fun h => c_3 (lcz.mpr h.1)) rfl
  · exact V.ild4 dX7_lowest_6 (V.i2l dX7_lowest_8 (V.lret dX7_lowest_9 rfl (by unfold lowS; rw [if_pos (lcz.mp c_3)])))

theorem c_X7_allCounts {E : En} {g : Ge} {σ : Sg} {w : Wv} (hW : WM g σ) {v : Wv} (hA : cv w = cv v) : Ct E mX7_allCounts 0 [.ref (g.1 100)] (.returned (some (.int (cntS v))), S g σ w) (S g σ w) := by
  show V E mX7_allCounts 0 _ 0 [some (.ref (g.1 100))] [] (S g σ w)
  refine V.ald0 dX7_allCounts_0 (GX7_16 hW rfl dX7_allCounts_1 (V.iconst_0 dX7_allCounts_4 (aM2 (j := 0) hW ⟨by decide, by decide, by decide⟩ dX7_allCounts_5 (V.ald0 dX7_allCounts_6 (GX7_16 hW rfl dX7_allCounts_7 (V.iconst_1 dX7_allCounts_10 (aM2 (j := 1) hW ⟨by decide, by decide, by decide⟩ dX7_allCounts_11 (V.iadd dX7_allCounts_12 (V.ald0 dX7_allCounts_13 (GX7_16 hW rfl dX7_allCounts_14 (V.iconst_2 dX7_allCounts_17 (aM2 (j := 2) hW ⟨by decide, by decide, by decide⟩ dX7_allCounts_18 ?_))))))))))))
  exact V.iadd dX7_allCounts_19 (V.ald0 dX7_allCounts_20 (GX7_16 hW rfl dX7_allCounts_21 (V.iconst_3 dX7_allCounts_24 (aM2 (j := 3) hW ⟨by decide, by decide, by decide⟩ dX7_allCounts_25 (V.iadd dX7_allCounts_26 (V.iret dX7_allCounts_27 rfl rfl (by rw [← cg cntS (fun _ => rfl) hA]; rfl)))))))

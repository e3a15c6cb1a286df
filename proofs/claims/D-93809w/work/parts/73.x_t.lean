set_option maxRecDepth 100000
set_option maxHeartbeats 4000000
theorem ab_in {y : Int32} {F : Nat} (hF : F < 1000) (h : absI y ≤ nI F) : (-(F : Int) ≤ y.toInt ∧ y.toInt ≤ F) ∨ y.toInt = -2147483648 := by
  rw [absI] at h
  have h1 := Int32.minValue_le_toInt y
  have h2 := Int32.toInt_le y
  have e1 : Int32.minValue.toInt = -2147483648 := rfl
  have e2 : Int32.maxValue.toInt = 2147483647 := rfl
  by_cases c : y < 0
  · rw [if_pos c] at h
    have h3 := Int32.le_iff_toInt_le.mp h
    have c3 := Int32.lt_iff_toInt_lt.mp c
    rw [Int32.toInt_neg, nI_toInt (by omega), Int.bmod_def] at h3
    rw [Int32.toInt_zero] at c3
    split at h3 <;> omega
  · rw [if_neg c] at h
    have h3 := Int32.le_iff_toInt_le.mp h
    rw [nI_toInt (by omega)] at h3
    have c3 : ¬ y.toInt < 0 := fun z => c (Int32.lt_iff_toInt_lt.mpr (by rw [Int32.toInt_zero]; exact z))
    omega
theorem fa_n {u : Wv} {r : Nat} (hr : r < 6) : ∃ F, 7 ≤ F ∧ F ≤ 60 ∧ fa u r = nI F := by
  by_cases h : u 105 r = 3
  · refine ⟨7 + 10 * r, by omega, by omega, ?_⟩
    rw [fa, if_pos h]
    rcases (show r = 0 ∨ r = 1 ∨ r = 2 ∨ r = 3 ∨ r = 4 ∨ r = 5 by omega) with rfl | rfl | rfl | rfl | rfl | rfl <;> rfl
  · refine ⟨10 + 10 * r, by omega, by omega, ?_⟩
    rw [fa, if_neg h]
    rcases (show r = 0 ∨ r = 1 ∨ r = 2 ∨ r = 3 ∨ r = 4 ∨ r = 5 by omega) with rfl | rfl | rfl | rfl | rfl | rfl <;> rfl
theorem i32_sub (X A F : Int32) (e f : Nat) (hF : F = nI f) : X - (2 * nI e + A) * F = (X - A * F) - nI (2 * (e * f)) := by
  subst hF
  have h : nI (2 * (e * f)) = 2 * nI e * nI f := by
    rw [show (2 : Int32) = nI 2 from rfl]
    apply Int32.toInt_inj.mp
    rw [Int32.toInt_mul, Int32.toInt_mul, nI, nI, nI, nI, Int32.toInt_ofNat', Int32.toInt_ofNat', Int32.toInt_ofNat', Int32.toInt_ofNat']
    simp [Int.mul_assoc]
  rw [h, Int32.add_mul, Int32.sub_sub, Int32.add_comm]
theorem bm_2 {z : Int} (h1 : -2147484648 ≤ z) (h2 : z < 2147483648) : z.bmod (2 ^ 32) = z ∨ z.bmod (2 ^ 32) = z + 4294967296 := by
  rw [Int.bmod_def]; split <;> omega
theorem nea_two {u : Wv} {r c p q e e' : Nat} (hr : r < 6) (he : e < e') (he' : e' < 8) (h : nea u r c p q (nI e) = true) (h' : nea u r c p q (nI e') = true) : e' = e + 1 := by
  obtain ⟨F, f1, f2, hF⟩ := fa_n (u := u) hr
  rw [nea, Bool.and_eq_true, Bool.and_eq_true] at h h'
  have a := of_decide_eq_true h.2
  have a' := of_decide_eq_true h'.2
  rw [bes, pl.eq_def u q, hF, Int32.add_assoc (2 * nI e), i32_sub _ _ _ e F rfl] at a
  rw [bes, pl.eq_def u q, hF, Int32.add_assoc (2 * nI e'), i32_sub _ _ _ e' F rfl] at a'
  have b := ab_in (by omega) a
  have b' := ab_in (by omega) a'
  generalize hT : (u 112 p * nI F + (pl u r (nI c) - u 112 p) * fa u q - _ * nI F : Int32) = T at b b'
  rw [Int32.toInt_sub, nI_toInt (by have : e * F ≤ 8 * 60 := Nat.mul_le_mul (by omega) f2; omega)] at b
  rw [Int32.toInt_sub, nI_toInt (by have : e' * F ≤ 8 * 60 := Nat.mul_le_mul (by omega) f2; omega)] at b'
  have h1 := Int32.minValue_le_toInt T
  have h2 := Int32.toInt_le T
  have e1 : Int32.minValue.toInt = -2147483648 := rfl
  have e2 : Int32.maxValue.toInt = 2147483647 := rfl
  by_cases d : e' = e + 1
  · exact d
  · exfalso
    have m1 : (e + 2) * F ≤ e' * F := Nat.mul_le_mul_right F (by omega)
    have m2 : e' * F ≤ 8 * 60 := Nat.mul_le_mul (by omega) f2
    rw [Nat.add_mul] at m1
    generalize e * F = y at *
    generalize e' * F = y' at *
    rcases bm_2 (z := T.toInt - ((2 * y : Nat) : Int)) (by omega) (by omega) with q | q <;> rcases bm_2 (z := T.toInt - ((2 * y' : Nat) : Int)) (by omega) (by omega) with q' | q' <;> rw [q] at b <;> rw [q'] at b' <;> omega
theorem casE_0 {u : Wv} {r c p q : Nat} : ∀ (m e : Nat) (s : Nat × Int64), (∀ j, e ≤ j → j < e + m → ¬ nea u r c p q (nI j) = true) → casE u r c p q e m s = s
  | 0, _, _, _ => rfl
  | m + 1, e, s, h => by rw [casE, if_neg (h e (by omega) (by omega))]; exact casE_0 m (e + 1) s (fun j h1 h2 => h j (by omega) (by omega))
def CI (W : Nat) (s : Nat × Int64) : Prop := s.1 ≤ 10 → 0 ≤ s.2.toInt ∧ s.2.toInt ≤ (W : Int) ^ s.1
theorem p36 {W n : Nat} (hW : W ≤ 36) (hn : n ≤ 10) : (W : Int) ^ n ≤ 36 ^ 10 := by
  have h1 : W ^ n ≤ 36 ^ n := Nat.pow_le_pow_left hW n
  have h2 : 36 ^ n ≤ 36 ^ 10 := Nat.pow_le_pow_right (by decide) hn
  have h3 := Nat.le_trans h1 h2
  have h4 : ((W ^ n : Nat) : Int) ≤ ((36 ^ 10 : Nat) : Int) := Int.ofNat_le.mpr h3
  rw [Int.natCast_pow] at h4
  exact h4
theorem l_mul {a b : Int64} (ha : 0 ≤ a.toInt) (hb : 0 ≤ b.toInt) (h : a.toInt * b.toInt < 2 ^ 63) : (a * b).toInt = a.toInt * b.toInt := by
  have := Int.mul_nonneg ha hb
  rw [Int64.toInt_mul, Int.bmod_def]; split <;> omega
theorem n64 {a : Nat} (h : a < 2 ^ 30) : (nI a).toInt64.toInt = a := by rw [Int32.toInt_toInt64, nI_toInt (by omega)]
theorem CI.mul {W a : Nat} (hW : W ≤ 36) (ha : a ≤ W) {s : Nat × Int64} (h : CI W s) : CI W (s.1 + 1, s.2 * (nI a).toInt64) := fun h10 => by
  have h10' : s.1 + 1 ≤ 10 := h10
  obtain ⟨h1, h2⟩ := h (by omega)
  have hp := p36 (n := s.1 + 1) hW h10'
  have hm : s.2.toInt * (nI a).toInt64.toInt ≤ (W : Int) ^ s.1 * W := by
    rw [n64 (by omega)]
    exact Int.mul_le_mul h2 (by omega) (by omega) (Int.le_trans h1 h2)
  rw [← Int.pow_succ] at hm
  show 0 ≤ (s.2 * (nI a).toInt64).toInt ∧ (s.2 * (nI a).toInt64).toInt ≤ (W : Int) ^ (s.1 + 1)
  have e : (s.2 * (nI a).toInt64).toInt = s.2.toInt * (nI a).toInt64.toInt := l_mul h1 (by rw [n64 (by omega)]; omega) (Int.lt_of_le_of_lt (Int.le_trans hm hp) (by decide))
  rw [e]
  exact ⟨Int.mul_nonneg h1 (by rw [n64 (by omega)]; omega), hm⟩
theorem casE_1 {u : Wv} {r c p q : Nat} (hr : r < 6) {e' : Nat} (hn : nea u r c p q (nI e') = true) : ∀ (m e : Nat) (s : Nat × Int64), e' < e → e + m ≤ 8 → (casE u r c p q e m s).1 ≤ s.1 + 1
  | 0, _, _, _, _ => by rw [casE]; omega
  | m + 1, e, s, h1, h2 => by
    rw [casE]
    by_cases h : nea u r c p q (nI e) = true
    · have he := nea_two hr h1 (by omega) hn h
      rw [if_pos h, casE_0 m (e + 1) _ (fun j j1 j2 hj => by have := nea_two hr (show e' < j by omega) (by omega) hn hj; omega)]
      exact Nat.le_refl _
    · rw [if_neg h]; exact casE_1 hr hn m (e + 1) s (by omega) (by omega)
theorem casE_2 {u : Wv} {r c p q : Nat} (hr : r < 6) : ∀ (m e : Nat) (s : Nat × Int64), e + m ≤ 8 → (casE u r c p q e m s).1 ≤ s.1 + 2
  | 0, _, _, _ => by rw [casE]; omega
  | m + 1, e, s, h2 => by
    rw [casE]
    by_cases h : nea u r c p q (nI e) = true
    · rw [if_pos h]; exact casE_1 hr h m (e + 1) _ (by omega) (by omega)
    · rw [if_neg h]; exact casE_2 hr m (e + 1) s (by omega)
theorem casE_C {u : Wv} {r c p q W a : Nat} (hW : W ≤ 36) (ha : a ≤ W) (e1 : casL u r c p q = nI a) : ∀ (m e : Nat) (s : Nat × Int64), CI W s → CI W (casE u r c p q e m s)
  | 0, _, _, h => h
  | m + 1, e, s, h => by
    rw [casE]
    by_cases hn : nea u r c p q (nI e) = true
    · rw [if_pos hn, e1]; exact casE_C hW ha e1 m (e + 1) _ (h.mul hW ha)
    · rw [if_neg hn]; exact casE_C hW ha e1 m (e + 1) s h
theorem cnt_n {u : Wv} (hE : HE u) : ∃ W, W ≤ 36 ∧ cntS u = nI W ∧ ∀ r c p q, ∃ a, a ≤ W ∧ casL u r c p q = nI a := by
  obtain ⟨a0, h0, e0⟩ := (hE.1 0 (by decide)).2.2
  obtain ⟨a1, h1, e1⟩ := (hE.1 1 (by decide)).2.2
  obtain ⟨a2, h2, e2⟩ := (hE.1 2 (by decide)).2.2
  obtain ⟨a3, h3, e3⟩ := (hE.1 3 (by decide)).2.2
  refine ⟨a0 + a1 + a2 + a3, by omega, by rw [cntS, e0, e1, e2, e3, nI_add, nI_add, nI_add], fun r c p q => ?_⟩
  have hh : ∀ (b : Bool) (x : Nat), ∃ y, y ≤ x ∧ (if b then 0 else nI x) = nI y := fun b x => by cases b; exact ⟨x, Nat.le_refl _, rfl⟩; exact ⟨0, Nat.zero_le _, rfl⟩
  obtain ⟨b0, k0, f0⟩ := hh (asH u r c p (ab u q (u 102 0)) (fa u q)) a0
  obtain ⟨b1, k1, f1⟩ := hh (asH u r c p (ab u q (u 102 1)) (fa u q)) a1
  obtain ⟨b2, k2, f2⟩ := hh (asH u r c p (ab u q (u 102 2)) (fa u q)) a2
  obtain ⟨b3, k3, f3⟩ := hh (asH u r c p (ab u q (u 102 3)) (fa u q)) a3
  refine ⟨b0 + b1 + b2 + b3, by omega, ?_⟩
  rw [casL, sumF, sumF, sumF, sumF, sumF, e0, e1, e2, e3, f0, f1, f2, f3, Int32.zero_add, nI_add, nI_add, nI_add]
theorem casQ_b {u : Wv} (hI : HI u) {r c p W : Nat} (hr : r < 6) (hW : W ≤ 36) (hL : ∀ q, ∃ a, a ≤ W ∧ casL u r c p q = nI a) : ∀ (m q : Nat) (s : Nat × Int64), q + m ≤ 5 → CI W s → CI W (casQ u r c p q m s) ∧ (casQ u r c p q m s).1 ≤ s.1 + 2 * m
  | 0, _, _, _, h => ⟨h, Nat.le_refl _⟩
  | m + 1, q, s, h1, h => by
    rw [casQ]
    obtain ⟨a, ha, e⟩ := hL q
    have h8 := (hI.seats (r := q) (by omega)).2
    have hx := casQ_b hI hr hW hL m (q + 1) (casE u r c p q 0 (nS u q) s) (by omega) (casE_C hW ha e _ _ _ h)
    have hy := casE_2 (u := u) (r := r) (c := c) (p := p) (q := q) hr (nS u q) 0 s (by omega)
    exact ⟨hx.1, by omega⟩
theorem cas_b {u : Wv} (hI : HI u) {W : Nat} (hW : W ≤ 36) (hL : ∀ r c p q, ∃ a, a ≤ W ∧ casL u r c p q = nI a) {r c p : Nat} (hr : r < 6) : (casS u r c p).1 ≤ 10 ∧ 0 ≤ (casF u r c p).toInt ∧ (casF u r c p).toInt ≤ (W : Int) ^ (casS u r c p).1 := by
  have h := casQ_b hI (c := c) (p := p) hr hW (hL r c p) r 0 (0, 1) (by omega) (fun _ => ⟨by decide, by show (1 : Int64).toInt ≤ (W : Int) ^ 0; rw [Int.pow_zero]; decide⟩)
  rw [← casS] at h
  have e : ((0 : Nat), (1 : Int64)).1 = 0 := rfl
  have h10 : (casS u r c p).1 ≤ 10 := by omega
  obtain ⟨a1, a2⟩ := h.1 h10
  refine ⟨h10, ?_⟩
  rw [casF]
  by_cases hp : poF u r c p = -1
  · rw [if_pos hp]; exact ⟨a1, a2⟩
  · rw [if_neg hp]; exact ⟨by decide, by rw [Int64.toInt_zero]; exact Int.pow_nonneg (by omega)⟩
theorem pw_n {W : Nat} (hW : W ≤ 36) : ∀ (n k : Nat) (a : Int64), n + k ≤ 10 → a.toInt = (W : Int) ^ k → (pw (nI W).toInt64 n a).toInt = (W : Int) ^ (n + k)
  | 0, k, a, _, h => by rw [pw, h, Nat.zero_add]
  | n + 1, k, a, h1, h => by
    rw [pw]
    have hp := p36 (n := k + 1) hW (by omega)
    have h0 : (0 : Int) ≤ (W : Int) ^ k := Int.pow_nonneg (by omega)
    have e : (a * (nI W).toInt64).toInt = (W : Int) ^ (k + 1) := by
      rw [Int.pow_succ] at hp ⊢
      rw [l_mul (by omega) (by rw [n64 (by omega)]; omega) (by rw [n64 (by omega), h]; omega), n64 (by omega), h]
    have := pw_n hW n (k + 1) _ (by omega) e
    rw [this]; congr 1; omega
theorem pw_1 {W n : Nat} (hW : W ≤ 36) (hn : n ≤ 10) : (pw (nI W).toInt64 n 1).toInt = (W : Int) ^ n := pw_n hW n 0 1 (by omega) (by rfl)
theorem pw_nz {W n : Nat} (hW : W ≤ 36) (h1 : 1 ≤ W) (hn : n ≤ 10) : ¬ pw (nI W).toInt64 n 1 = 0 := fun z => by
  have h := pw_1 hW hn
  rw [z, Int64.toInt_zero] at h
  have : (0 : Int) < (W : Int) ^ n := Int.pow_pos (by omega)
  omega
theorem l_ge {a : Int64} (h : 0 ≤ a.toInt) : 0 ≤ a := Int64.le_iff_toInt_le.mpr (by rw [Int64.toInt_zero]; exact h)
theorem meaN_b {u : Wv} {r c : Nat} (h : ∀ p, (casS u r c p).1 ≤ 10) : ∀ (m p a : Nat), a ≤ 10 → meaM u r c p m a ≤ 10
  | 0, _, _, h1 => h1
  | m + 1, p, a, h1 => by
    rw [meaM]
    exact meaN_b h m (p + 1) _ (by have := h p; split <;> omega)
theorem meaT_b {u : Wv} (hI : HI u) {W : Nat} (hW : W ≤ 36) (hc : cntS u = nI W) (hL : ∀ r c p q, ∃ a, a ≤ W ∧ casL u r c p q = nI a) {r c p M : Nat} (hr : r < 6) (hM : M ≤ 10) (hp : (casS u r c p).1 ≤ M) : 0 ≤ (meaT u r c M p).toInt ∧ (meaT u r c M p).toInt ≤ 99 * 36 ^ 10 := by
  obtain ⟨-, b1, b2⟩ := cas_b hI hW hL (c := c) (p := p) hr
  obtain ⟨l1, l2⟩ := cl99 (x := val (nmF (u 114 p) (u 113 p) (nI r) (pl u r (nI c)) (fl u r) (so u r c)) (codeL u (ru u) 0)) (most := 99) (B := 99) rfl (by omega)
  rw [meaT, hc]
  have e1 : likeS u r c p = clampI (val (nmF (u 114 p) (u 113 p) (nI r) (pl u r (nI c)) (fl u r) (so u r c)) (codeL u (ru u) 0)) 99 := rfl
  rw [← e1] at l1 l2
  generalize likeS u r c p = l at *
  generalize casF u r c p = y at *
  generalize (casS u r c p).1 = k at *
  have hq := pw_1 (n := M - k) hW (by omega)
  have hq0 : (0 : Int) ≤ (W : Int) ^ (M - k) := Int.pow_nonneg (by omega)
  have hk0 : (0 : Int) ≤ (W : Int) ^ k := Int.pow_nonneg (by omega)
  have hM' := p36 (n := M) hW hM
  have hk' := p36 (n := k) hW (by omega)
  have a1 : l.toInt64.toInt = l.toInt := Int32.toInt_toInt64 l
  have m1 : l.toInt * y.toInt ≤ 99 * (W : Int) ^ k := Int.mul_le_mul (by omega) b2 b1 (by omega)
  have m1' : 0 ≤ l.toInt * y.toInt := Int.mul_nonneg l1 b1
  have f1 : (l.toInt64 * y).toInt = l.toInt * y.toInt := by rw [l_mul (by omega) b1 (by rw [a1]; omega), a1]
  have m2 : l.toInt * y.toInt * (W : Int) ^ (M - k) ≤ 99 * (W : Int) ^ k * (W : Int) ^ (M - k) := Int.mul_le_mul_of_nonneg_right m1 hq0
  have m2' : 0 ≤ l.toInt * y.toInt * (W : Int) ^ (M - k) := Int.mul_nonneg m1' hq0
  rw [Int.mul_assoc 99, ← Int.pow_add, show k + (M - k) = M by omega] at m2
  have f2 : (l.toInt64 * y * pw (nI W).toInt64 (M - k) 1).toInt = l.toInt * y.toInt * (W : Int) ^ (M - k) := by rw [l_mul (by omega) (by omega) (by rw [f1, hq]; omega), f1, hq]
  rw [f2]
  exact ⟨m2', by omega⟩
theorem meaS_b {u : Wv} {r c M : Nat} {B : Nat} {C : Int} (hC : 0 ≤ C) (h6 : 6 * C < 2 ^ 63) (h : ∀ p, p < B → 0 ≤ (meaT u r c M p).toInt ∧ (meaT u r c M p).toInt ≤ C) : ∀ (m p : Nat) (a : Int64) (k : Nat), p + m ≤ B → k + m ≤ 6 → 0 ≤ a.toInt → a.toInt ≤ (k : Int) * C → 0 ≤ (meaS u r c M p m a).toInt
  | 0, _, _, _, _, _, h1, _ => h1
  | m + 1, p, a, k, hB, hk, h1, h2 => by
    rw [meaS]
    obtain ⟨t1, t2⟩ := h p (by omega)
    have hk2 : (k : Int) * C ≤ 5 * C := Int.mul_le_mul_of_nonneg_right (by omega) hC
    have e : (a + meaT u r c M p).toInt = a.toInt + (meaT u r c M p).toInt := by
      rw [Int64.toInt_add, Int.bmod_def]; split <;> omega
    exact meaS_b hC h6 h m (p + 1) _ (k + 1) (by omega) (by omega) (by rw [e]; omega) (by rw [e, Int.natCast_add, Int.add_mul]; omega)
set_option maxRecDepth 100000
set_option maxHeartbeats 1000000
/-! ===== words: letters packed, and letters one by one (the rows wb_ are of laws/BITS.to-paste) ===== -/
theorem wb_tb (n : Nat) : (lN n).toBitVec = BitVec.ofNat 64 n := rfl
theorem wb_inj {a b : Int64} (h : a.toBitVec = b.toBitVec) : a = b := Int64.toBitVec_inj.mp h
theorem wb_tn {n : Nat} (h : n < 2 ^ 64) : (lN n).toBitVec.toNat = n := by rw [wb_tb, BitVec.toNat_ofNat, Nat.mod_eq_of_lt h]
theorem wb_c : ∀ k, k < 64 → ((nI k).toInt64 &&& 63) = lN k := by decide +kernel
theorem wb_sm : ∀ k, k < 64 → (BitVec.ofNat 64 k).smod 64 = BitVec.ofNat 64 k := by decide +kernel
theorem wb_shl (n : Nat) {k : Nat} (hk : k < 64) : lN n <<< ((nI k).toInt64 &&& 63) = lN (n * 2 ^ k) := by
  rw [wb_c k hk]
  apply wb_inj
  rw [Int64.toBitVec_shiftLeft, wb_tb, wb_tb, wb_tb, wb_sm k hk]
  apply BitVec.eq_of_toNat_eq
  rw [BitVec.shiftLeft_eq', BitVec.toNat_shiftLeft, BitVec.toNat_ofNat, BitVec.toNat_ofNat, BitVec.toNat_ofNat, Nat.mod_eq_of_lt (show k < 2 ^ 64 by omega), Nat.shiftLeft_eq, Nat.mul_mod, Nat.mod_mod, ← Nat.mul_mod]
theorem wb_or {a b : Nat} (ha : a < 2 ^ 64) (hb : b < 2 ^ 64) : lN a ||| lN b = lN (a ||| b) := by
  apply wb_inj
  rw [Int64.toBitVec_or, wb_tb, wb_tb, wb_tb]
  apply BitVec.eq_of_toNat_eq
  rw [BitVec.toNat_or, BitVec.toNat_ofNat, BitVec.toNat_ofNat, BitVec.toNat_ofNat, Nat.mod_eq_of_lt ha, Nat.mod_eq_of_lt hb, Nat.mod_eq_of_lt (Nat.or_lt_two_pow ha hb)]
def WN (k : Nat) : List Nat := [[108, 105, 107, 101], [112, 114, 105, 99, 101], [99, 111, 115, 116], [118, 97, 108, 117, 101], [104, 105, 103, 104], [114, 111, 119], [112, 108, 97, 99, 101], [114, 105, 115, 101], [115, 111, 114, 116], [111, 114], [97, 110, 100], [110, 111, 116]].getD k []
def WL (k : Nat) : List Int32 := (WN k).map nI
def cL (c : Nat → Nat) : Nat → Nat → List Nat
  | _, 0 => []
  | p, m + 1 => c p :: cL c (p + 1) m
theorem cL_len (c : Nat → Nat) : ∀ (m p : Nat), (cL c p m).length = m
  | 0, _ => rfl
  | m + 1, p => by rw [cL, List.length_cons, cL_len c m]
/-- the number of which L are the digits, the last first -/
def rpk : List Nat → Nat
  | [] => 0
  | c :: L => rpk L * 256 + c
def fpk : List Nat → Nat → Nat
  | [], a => a
  | c :: L, a => fpk L (a * 256 + c)
theorem fpk_r : ∀ (L Q : List Nat), fpk L (rpk Q) = rpk (L.reverse ++ Q)
  | [], Q => rfl
  | c :: L, Q => by
    rw [fpk, List.reverse_cons, List.append_assoc]
    exact fpk_r L (c :: Q)
theorem rpk_inj : ∀ (L Q : List Nat), (∀ c, c ∈ L → 0 < c ∧ c < 256) → (∀ c, c ∈ Q → 0 < c ∧ c < 256) → rpk L = rpk Q → L = Q
  | [], [], _, _, _ => rfl
  | [], c :: Q, _, h2, h => by
    have := h2 c List.mem_cons_self
    rw [rpk, rpk] at h
    omega
  | c :: L, [], h1, _, h => by
    have := h1 c List.mem_cons_self
    rw [rpk, rpk] at h
    omega
  | c :: L, e :: Q, h1, h2, h => by
    have a := h1 c List.mem_cons_self
    have b := h2 e List.mem_cons_self
    rw [rpk, rpk] at h
    have e1 : c = e := by omega
    have e2 : rpk L = rpk Q := by omega
    rw [e1, rpk_inj L Q (fun x hx => h1 x (List.mem_cons_of_mem _ hx)) (fun x hx => h2 x (List.mem_cons_of_mem _ hx)) e2]
theorem fpk_lt : ∀ (L : List Nat) (a n : Nat), (∀ c, c ∈ L → c < 256) → a < 256 ^ n → fpk L a < 256 ^ (n + L.length)
  | [], a, n, _, h => h
  | c :: L, a, n, h1, h => by
    rw [fpk, List.length_cons, show n + (L.length + 1) = n + 1 + L.length by omega]
    refine fpk_lt L _ (n + 1) (fun x hx => h1 x (List.mem_cons_of_mem _ hx)) ?_
    have := h1 c List.mem_cons_self
    rw [Nat.pow_succ]
    omega
theorem pk1 {a c : Nat} (ha : a < 256 ^ 5) (hc : c < 256) : (lN a <<< ((8 : Int32).toInt64 &&& 63)) ||| (nI c).toInt64 = lN (a * 256 + c) := by
  rw [show (8 : Int32) = nI 8 from rfl, wb_shl a (by decide), nI_l (by omega), wb_or (by omega) (by omega)]
  congr 1
  have := Nat.shiftLeft_add_eq_or_of_lt (a := a) (i := 8) (b := c) (by omega)
  rw [Nat.shiftLeft_eq] at this
  exact this.symm
theorem pkL_n {B : Nat → Int32} {c : Nat → Nat} : ∀ (m p k a : Nat), k + m ≤ 5 → a < 256 ^ k → (∀ i, p ≤ i → i < p + m → B i = nI (c i) ∧ c i < 256) → pkL B m p k (lN a) = lN (fpk (cL c p m) a)
  | 0, p, k, a, _, _, _ => rfl
  | m + 1, p, k, a, hk, ha, hc => by
    have h1 := hc p (Nat.le_refl _) (by omega)
    have h5 : a < 256 ^ 5 := Nat.lt_of_lt_of_le ha (Nat.pow_le_pow_right (by decide) (by omega))
    rw [pkL, if_neg (show ¬ (8 : Int32) ≤ nI k from fun z => absurd ((nI_leI (a := 8) (by decide) (by omega)).mp z) (by omega)), h1.1, pk1 h5 h1.2, cL, fpk]
    refine pkL_n m (p + 1) (k + 1) _ (by omega) ?_ (fun i q1 q2 => hc i (by omega) (by omega))
    have := h1.2
    rw [Nat.pow_succ]
    omega
theorem lN_inj {a b : Nat} (ha : a < 2 ^ 62) (hb : b < 2 ^ 62) (h : lN a = lN b) : a = b := by
  have := congrArg (fun x => x.toBitVec.toNat) h
  simp only [wb_tn (show a < 2 ^ 64 by omega), wb_tn (show b < 2 ^ 64 by omega)] at this
  exact this
theorem wd_n : ∀ k, k < 12 → wd k = lN (rpk (WN k).reverse) ∧ rpk (WN k).reverse < 2 ^ 62 ∧ (WN k).length ≤ 5 := by decide +kernel
theorem WN_b : ∀ k, k < 12 → ∀ c, c ∈ WN k → 0 < c ∧ c < 256 := by decide
theorem wd_d : ∀ j, j < 12 → ∀ k, k < 12 → wd j = wd k → j = k := by decide +kernel
theorem ff_sp {P : Nat → Bool} : ∀ (m k : Nat), match ff P k m with
    | some j => k ≤ j ∧ j < k + m ∧ P j = true
    | none => ∀ j, k ≤ j → j < k + m → P j = false
  | 0, k => fun j h1 h2 => by omega
  | m + 1, k => by
    rw [ff]
    by_cases h : P k = true
    · rw [if_pos h]; exact ⟨Nat.le_refl _, by omega, h⟩
    · rw [if_neg h]
      have ih := ff_sp (P := P) m (k + 1)
      cases hf : ff P (k + 1) m with
      | some j => rw [hf] at ih; exact ⟨by have := ih.1; omega, by have := ih.2.1; omega, ih.2.2⟩
      | none =>
        rw [hf] at ih
        intro j h1 h2
        rcases Nat.eq_or_lt_of_le h1 with h3 | h3
        · rw [← h3]; exact Bool.eq_false_iff.mpr h
        · exact ih j h3 (by omega)
theorem wdI_sp {x : Int64} : wdI x ≤ 12 ∧ ∀ k, k < 12 → (wdI x = k ↔ wd k = x) := by
  have h := ff_sp (P := fun k => decide (wd k = x)) 12 0
  unfold wdI
  cases hf : ff (fun k => decide (wd k = x)) 0 12 with
  | none =>
    rw [hf] at h
    refine ⟨Nat.le_refl _, fun k hk => ⟨fun z => absurd z (by show ¬ 12 = k; omega), fun z => ?_⟩⟩
    have := h k (Nat.zero_le _) (by omega)
    rw [decide_eq_false_iff_not] at this
    exact absurd z this
  | some j =>
    rw [hf] at h
    have hj := h.2.2
    rw [decide_eq_true_eq] at hj
    refine ⟨by show j ≤ 12; have := h.2.1; omega, fun k hk => ⟨fun z => ?_, fun z => ?_⟩⟩
    · have z : j = k := z
      rw [← z]; exact hj
    · exact wd_d j (by have := h.2.1; omega) k hk (hj.trans z.symm)
/-- the first nine letters -/
def lts (B : Nat → Int32) (p m : Nat) : List Int32 := (List.range (min 9 m)).map (fun i => B (p + i))
theorem lts_len {B : Nat → Int32} {p m : Nat} : (lts B p m).length = min 9 m := by simp [lts]
theorem lts_s {B : Nat → Int32} {p m : Nat} (h : m < 9) : lts B p (m + 1) = lts B p m ++ [B (p + m)] := by
  unfold lts
  rw [show min 9 (m + 1) = m + 1 by omega, show min 9 m = m by omega, List.range_succ, List.map_append]
  rfl
theorem lts_9 {B : Nat → Int32} {p m : Nat} (h : 9 ≤ m) : lts B p (m + 1) = lts B p m := by
  unfold lts
  rw [show min 9 (m + 1) = 9 by omega, show min 9 m = 9 by omega]
theorem lts_c {B : Nat → Int32} {c : Nat → Nat} : ∀ (m p : Nat), (∀ i, p ≤ i → i < p + m → B i = nI (c i)) → (List.range m).map (fun i => B (p + i)) = (cL c p m).map nI
  | 0, _, _ => rfl
  | m + 1, p, h => by
    rw [List.range_succ_eq_map, List.map_cons, cL, List.map_cons, ← lts_c m (p + 1) (fun i q1 q2 => h i (by omega) (by omega)), Nat.add_zero, h p (Nat.le_refl _) (by omega), List.map_map]
    congr 1
    refine List.map_congr_left (fun i _ => ?_)
    show B (p + (i + 1)) = B (p + 1 + i)
    rw [show p + (i + 1) = p + 1 + i by omega]
theorem map_nI : ∀ (L Q : List Nat), (∀ c, c ∈ L → c < 256) → (∀ c, c ∈ Q → c < 256) → L.map nI = Q.map nI → L = Q
  | [], [], _, _, _ => rfl
  | [], _ :: _, _, _, h => by simp at h
  | _ :: _, [], _, _, h => by simp at h
  | c :: L, e :: Q, h1, h2, h => by
    rw [List.map_cons, List.map_cons, List.cons.injEq] at h
    have a := h1 c List.mem_cons_self
    have b := h2 e List.mem_cons_self
    rw [(nI_eq (by omega) (by omega)).mp h.1, map_nI L Q (fun x hx => h1 x (List.mem_cons_of_mem _ hx)) (fun x hx => h2 x (List.mem_cons_of_mem _ hx)) h.2]
theorem cL_mem {c : Nat → Nat} {P : Nat → Prop} : ∀ (m p : Nat), (∀ i, p ≤ i → i < p + m → P (c i)) → ∀ x, x ∈ cL c p m → P x
  | 0, _, _, x, h => by cases h
  | m + 1, p, hp, x, h => by
    rw [cL, List.mem_cons] at h
    rcases h with rfl | h
    · exact hp p (Nat.le_refl _) (by omega)
    · exact cL_mem m (p + 1) (fun i q1 q2 => hp i (by omega) (by omega)) x h
/-- a word is the k-th by its packed letters just if it is by its letters -/
theorem word_iff {B : Nat → Int32} {p m : Nat} (hm : m < 1000) (hl : ∀ i, p ≤ i → i < p + m → isL (B i) = true) {k : Nat} (hk : k < 12) : lts B p m = WL k ↔ wdI (letF B p (p + m)) = k := by
  have hc : ∀ i, p ≤ i → i < p + m → B i = nI (cl (B i)) ∧ 0 < cl (B i) ∧ cl (B i) < 256 := fun i q1 q2 => by
    have h := hl i q1 q2
    unfold isL inB at h
    rw [decide_eq_true_eq] at h
    obtain ⟨j, hj, e⟩ := nI_of (x := B i) (fun z => Int32.lt_irrefl (Int32.lt_of_lt_of_le z (Int32.le_trans (show (0 : Int32) ≤ 97 by decide) h.1)))
    rw [e] at h ⊢
    rw [cl_n hj]
    have h1 := (nI_leI (a := 97) (by decide) hj).mp h.1
    have h2 := (nI_leI (b := 122) hj (by decide)).mp h.2
    exact ⟨rfl, by omega, by omega⟩
  obtain ⟨w1, w2, w3⟩ := wd_n k hk
  unfold letF
  rw [Nat.add_sub_cancel_left]
  by_cases h5 : m ≤ 5
  · rw [if_pos (show nI m ≤ 5 from (nI_leI (b := 5) (by omega) (by decide)).mpr h5), show (0 : Int64) = lN 0 from rfl, pkL_n (c := fun i => cl (B i)) m p 0 0 (by omega) (by decide) (fun i q1 q2 => ⟨(hc i q1 q2).1, (hc i q1 q2).2.2⟩)]
    have hb : ∀ x, x ∈ cL (fun i => cl (B i)) p m → 0 < x ∧ x < 256 := cL_mem (c := fun i => cl (B i)) (P := fun x => 0 < x ∧ x < 256) m p (fun i q1 q2 => (hc i q1 q2).2)
    have hf : fpk (cL (fun i => cl (B i)) p m) 0 = rpk (cL (fun i => cl (B i)) p m).reverse := by
      have := fpk_r (cL (fun i => cl (B i)) p m) []
      rw [List.append_nil] at this
      exact this
    have hlt := fpk_lt (cL (fun i => cl (B i)) p m) 0 0 (fun x hx => (hb x hx).2) (by decide)
    rw [cL_len, Nat.zero_add] at hlt
    have h55 : 256 ^ m ≤ 256 ^ 5 := Nat.pow_le_pow_right (by decide) h5
    rw [(wdI_sp (x := lN (fpk (cL (fun i => cl (B i)) p m) 0))).2 k hk, w1, hf]
    rw [hf] at hlt
    constructor
    · intro h
      have h9 : (cL (fun i => cl (B i)) p m).map nI = (WN k).map nI := by
        rw [← lts_c (c := fun i => cl (B i)) m p (fun i q1 q2 => (hc i q1 q2).1)]
        have := h
        unfold lts at this
        rw [show min 9 m = m by omega] at this
        exact this
      rw [map_nI _ _ (fun x hx => (hb x hx).2) (fun x hx => (WN_b k hk x hx).2) h9]
    · intro h
      have h9 := lN_inj w2 (by omega) h
      have h8 := rpk_inj _ _ (fun x hx => WN_b k hk x (List.mem_reverse.mp hx)) (fun x hx => hb x (List.mem_reverse.mp hx)) h9
      have h7 : WN k = cL (fun i => cl (B i)) p m := List.reverse_inj.mp h8
      unfold lts WL
      rw [show min 9 m = m by omega, h7, lts_c (c := fun i => cl (B i)) m p (fun i q1 q2 => (hc i q1 q2).1)]
  · rw [if_neg (show ¬ nI m ≤ 5 from fun z => h5 ((nI_leI (b := 5) (by omega) (by decide)).mp z))]
    constructor
    · intro h
      have := congrArg List.length h
      rw [lts_len, WL, List.length_map] at this
      omega
    · intro h
      have h0 : wdI 0 = 12 := by decide +kernel
      omega
theorem runF_sp {P : Int32 → Bool} {B : Nat → Int32} : ∀ (m p : Nat), (∀ i, p ≤ i → i < runF P B m p → P (B i) = true) ∧ (runF P B m p < p + m → P (B (runF P B m p)) = false)
  | 0, p => ⟨fun i h1 h2 => by rw [runF] at h2; omega, fun h => by rw [runF] at h; omega⟩
  | m + 1, p => by
    rw [runF]
    by_cases h : P (B p) = true
    · rw [if_pos h]
      obtain ⟨h1, h2⟩ := runF_sp (P := P) (B := B) m (p + 1)
      refine ⟨fun i q1 q2 => ?_, fun q => h2 (by omega)⟩
      rcases Nat.eq_or_lt_of_le q1 with q3 | q3
      · rw [← q3]; exact h
      · exact h1 i q3 q2
    · rw [if_neg h]
      exact ⟨fun i q1 q2 => by omega, fun _ => Bool.eq_false_iff.mpr h⟩
/-- up to four digits -/
theorem dgL_n {B : Nat → Int32} : ∀ (m p k a : Nat), k + m ≤ 4 → a < 10 ^ k → (∀ i, p ≤ i → i < p + m → isD (B i) = true) → ∃ v, v < 10 ^ (k + m) ∧ dgL B m p k (nI a) = nI v
  | 0, p, k, a, _, ha, _ => ⟨a, ha, rfl⟩
  | m + 1, p, k, a, hk, ha, hd => by
    have h := hd p (Nat.le_refl _) (by omega)
    unfold isD inB at h
    rw [decide_eq_true_eq] at h
    obtain ⟨j, hj, e⟩ := nI_of (x := B p) (fun z => Int32.lt_irrefl (Int32.lt_of_lt_of_le z (Int32.le_trans (show (0 : Int32) ≤ 48 by decide) h.1)))
    rw [e] at h
    have h1 := (nI_leI (a := 48) (by decide) hj).mp h.1
    have h2 := (nI_leI (b := 57) hj (by decide)).mp h.2
    have h4 : a < 10 ^ 4 := Nat.lt_of_lt_of_le ha (Nat.pow_le_pow_right (by decide) (by omega))
    rw [dgL, if_neg (show ¬ (4 : Int32) ≤ nI k from fun z => absurd ((nI_leI (a := 4) (by decide) (by omega)).mp z) (by omega)), e]
    have e2 : 10 * nI a + nI j - 48 = nI (10 * a + (j - 48)) := by
      rw [show (10 : Int32) = nI 10 from rfl, show (48 : Int32) = nI 48 from rfl, pk_mul, nI_add, Int32.sub_eq_iff_eq_add, nI_add, show 10 * a + (j - 48) + 48 = 10 * a + j by omega]
    rw [e2]
    obtain ⟨v, hv, e3⟩ := dgL_n (B := B) m (p + 1) (k + 1) (10 * a + (j - 48)) (by omega) (by rw [Nat.pow_succ]; omega) (fun i q1 q2 => hd i (by omega) (by omega))
    exact ⟨v, by rw [show k + (m + 1) = k + 1 + m by omega]; exact hv, e3⟩

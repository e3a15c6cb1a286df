set_option maxRecDepth 100000
set_option maxHeartbeats 1000000
/-! ===== reading tokens ===== -/
def isL (x : Int32) : Bool := inB x 97 122
def isD (x : Int32) : Bool := inB x 48 57
def isB (x : Int32) : Bool := decide (x = 32) || decide (x = 10)
def isG (x : Int32) : Bool := decide (x = 40) || decide (x = 41) || decide (x = 59) || decide (x = 43) || decide (x = 45) || decide (x = 42) || decide (x = 60) || decide (x = 61)
/-- where a run of P from p on ends, m places looked at -/
def runF (P : Int32 → Bool) (B : Nat → Int32) : Nat → Nat → Nat
  | 0, p => p
  | m + 1, p => if P (B p) then runF P B m (p + 1) else p
theorem runF_b {P : Int32 → Bool} {B : Nat → Int32} : ∀ (m p : Nat), p ≤ runF P B m p ∧ runF P B m p ≤ p + m
  | 0, p => ⟨Nat.le_refl _, Nat.le_refl _⟩
  | m + 1, p => by
    rw [runF]
    split
    · have := runF_b (P := P) (B := B) m (p + 1); omega
    · omega
/-- m letters from p on packed, k of them before -/
def pkL (B : Nat → Int32) : Nat → Nat → Nat → Int64 → Int64
  | 0, _, _, a => a
  | m + 1, p, k, a => pkL B m (p + 1) (k + 1) (if 8 ≤ nI k then a else (a <<< ((8 : Int32).toInt64 &&& 63)) ||| (B p).toInt64)
def letF (B : Nat → Int32) (p e : Nat) : Int64 := if nI (e - p) ≤ 5 then pkL B (e - p) p 0 0 else 0
def dgL (B : Nat → Int32) : Nat → Nat → Nat → Int32 → Int32
  | 0, _, _, a => a
  | m + 1, p, k, a => dgL B m (p + 1) (k + 1) (if 4 ≤ nI k then 0 else 10 * a + B p - 48)
def wd (k : Nat) : Int64 := [1818848101, 482955846501, 1668248436, 508440638821, 1751738216, 7499639, 482854658917, 1919513445, 1936683636, 28530, 6385252, 7237492].getD k 0
def wdI (x : Int64) : Nat := (ff (fun k => decide (wd k = x)) 0 12).getD 12
def tokW (k : Nat) : Int32 := if 3 ≤ nI k then (if 9 ≤ nI k then (if nI k = 12 then -1 else 4 + nI k - 9) else 2) else 3
def valW (k : Nat) : Int32 := if 3 ≤ nI k then nI k - 3 else nI k
/-- a token from p on, not a blank: token, value, where it ends -/
def lexT (B : Nat → Int32) (n p : Nat) : Int32 × Int32 × Nat :=
  if isL (B p) then (let e := runF isL B (n - p) p; let k := wdI (letF B p e); (tokW k, valW k, e))
  else if isD (B p) then (let e := runF isD B (n - p) p; ((if nI (e - p) ≤ 4 then 1 else -1), dgL B (e - p) p 0 0, e))
  else ((if isG (B p) then B p else -1), 0, p + 1)
/-- begun, token, value, where one is then -/
def lexM (B : Nat → Int32) (n a : Nat) : Nat × Int32 × Int32 × Nat :=
  let p := runF isB B (n - a) a
  if p = n then (p, 0, 0, p) else (p, lexT B n p)
/-- m's reading place -/
def tk (w : Wv) (a b t y : Int32) : Wv := fun id j => if id = 100 then (if j = 40 then a else if j = 41 then b else if j = 42 then t else if j = 43 then y else w id j) else w id j
theorem tk_ne {w : Wv} {a b t y : Int32} {id j : Nat} (h : ¬ id = 100) : tk w a b t y id j = w id j := by unfold tk; rw [if_neg h]
theorem tk_j {w : Wv} {a b t y : Int32} {id j : Nat} (h : ¬ (40 ≤ j ∧ j ≤ 43)) : tk w a b t y id j = w id j := by
  unfold tk
  split
  · rw [if_neg (by omega), if_neg (by omega), if_neg (by omega), if_neg (by omega)]
  · rfl
theorem tk_0 {w : Wv} : tk w (w 100 40) (w 100 41) (w 100 42) (w 100 43) = w := by
  funext id j
  unfold tk
  split
  · rename_i h; subst h
    split; (rename_i h; rw [h])
    split; (rename_i h; rw [h])
    split; (rename_i h; rw [h])
    split; (rename_i h; rw [h])
    rfl
  · rfl
theorem tk_up {w : Wv} {a b t y z : Int32} {k : Nat} (hk : k = 40 ∨ k = 41 ∨ k = 42 ∨ k = 43) : up2 (tk w a b t y) 100 k z = tk w (if k = 40 then z else a) (if k = 41 then z else b) (if k = 42 then z else t) (if k = 43 then z else y) := by
  funext id j
  by_cases h : id = 100 ∧ j = k
  · obtain ⟨rfl, rfl⟩ := h
    rw [up2_eq]
    unfold tk
    rw [if_pos rfl]
    rcases hk with rfl | rfl | rfl | rfl <;> rfl
  · rw [up2_ne _ _ h]
    unfold tk
    by_cases h1 : id = 100
    · rw [if_pos h1, if_pos h1]
      have h2 : ¬ j = k := fun z => h ⟨h1, z⟩
      by_cases q1 : j = 40
      · subst q1; rw [if_pos rfl, if_pos rfl, if_neg (fun z => h2 z.symm)]
      · rw [if_neg q1, if_neg q1]
        by_cases q2 : j = 41
        · subst q2; rw [if_pos rfl, if_pos rfl, if_neg (fun z => h2 z.symm)]
        · rw [if_neg q2, if_neg q2]
          by_cases q3 : j = 42
          · subst q3; rw [if_pos rfl, if_pos rfl, if_neg (fun z => h2 z.symm)]
          · rw [if_neg q3, if_neg q3]
            by_cases q4 : j = 43
            · subst q4; rw [if_pos rfl, if_pos rfl, if_neg (fun z => h2 z.symm)]
            · rw [if_neg q4, if_neg q4]
    · rw [if_neg h1, if_neg h1]
theorem tk40 {w : Wv} {a b t y z : Int32} : up2 (tk w a b t y) 100 40 z = tk w z b t y := tk_up (.inl rfl)
theorem tk41 {w : Wv} {a b t y z : Int32} : up2 (tk w a b t y) 100 41 z = tk w a z t y := tk_up (.inr (.inl rfl))
theorem tk42 {w : Wv} {a b t y z : Int32} : up2 (tk w a b t y) 100 42 z = tk w a b z y := tk_up (.inr (.inr (.inl rfl)))
theorem tk43 {w : Wv} {a b t y z : Int32} : up2 (tk w a b t y) 100 43 z = tk w a b t z := tk_up (.inr (.inr (.inr rfl)))

theorem c_X7_letters {E : En} {g : Ge} {σ : Sg} {w : Wv} (hW : WM g σ) {b t y : Int32} {N p0 : Nat} (hN : w 100 18 = nI N) (hN2 : N ≤ 160) (hp0 : p0 ≤ N) : Ct E mX7_letters 1 [.ref (g.1 100)] (.returned (some (.long (letF (w 118) p0 (runF isL (w 118) (N - p0) p0)))), S g σ (tk w (nI (runF isL (w 118) (N - p0) p0)) b t y)) (S g σ (tk w (nI p0) b t y)) := by
  show V E mX7_letters 1 _ 0 [some (.ref (g.1 100)), none, none, none] [] (S g σ (tk w (nI p0) b t y))
  have L4 : ∀ (m p k : Nat) (x : Int64), p + m = N → p = p0 + k → runF isL (w 118) m p = runF isL (w 118) (N - p0) p0 → pkL (w 118) (runF isL (w 118) m p - p) p k x = pkL (w 118) (runF isL (w 118) (N - p0) p0 - p0) p0 0 0 → V E mX7_letters 1 (.returned (some (.long (letF (w 118) p0 (runF isL (w 118) (N - p0) p0)))), S g σ (tk w (nI (runF isL (w 118) (N - p0) p0)) b t y)) 4 [some (.ref (g.1 100)), some (.long x), none, some (.int (nI k))] [] (S g σ (tk w (nI p) b t y)) := by
    intro m
    induction m with
    | zero =>
      intro p k x hp hk hr hx
      have hr' : runF isL (w 118) 0 p = p := rfl
      rw [hr'] at hr hx
      refine V.ald0 dX7_letters_4 (GX7_211 hW rfl dX7_letters_5 (V.ald0 dX7_letters_8 (GX7_206 hW rfl dX7_letters_9 (V.icmp_ge (tgt := 76) dX7_letters_12 (by decide) (fun c_12 => ?_) (fun c_12 => absurd (show w 100 18 ≤ nI p by rw [hN]; exact nI_le (by omega) (by omega)) c_12)))))
      refine V.ild3 dX7_letters_76 (V.iconst_5 dX7_letters_77 (V.icmp_le (tgt := 85) dX7_letters_78 (by decide) (fun c_78 => ?_) (fun c_78 => ?_)))
      · exact V.lld1 dX7_letters_85 (V.lret dX7_letters_86 rfl ((by have hx' := hx; rw [Nat.sub_self] at hx'; rw [letF, ← hr, show p - p0 = k by omega]; first | (rw [if_pos c_78]; rw [← hr, show p - p0 = k by omega] at hx'; rw [← hx']; rfl) | rw [if_neg c_78])))
      · exact V.lconst_0 dX7_letters_81 (V.goto (tgt := 86) dX7_letters_82 (by decide) (V.lret dX7_letters_86 rfl ((by have hx' := hx; rw [Nat.sub_self] at hx'; rw [letF, ← hr, show p - p0 = k by omega]; first | (rw [if_pos c_78]; rw [← hr, show p - p0 = k by omega] at hx'; rw [← hx']; rfl) | rw [if_neg c_78]))))
    | succ m ih =>
      intro p k x hp hk hr hx
      refine V.ald0 dX7_letters_4 (GX7_211 hW rfl dX7_letters_5 (V.ald0 dX7_letters_8 (GX7_206 hW rfl dX7_letters_9 (V.icmp_ge (tgt := 76) dX7_letters_12 (by decide) (fun c_12 => absurd c_12 (show ¬ w 100 18 ≤ nI p by rw [hN]; exact nI_ge (by omega) (by omega))) (fun c_12 => ?_)))))
      refine V.ald0 dX7_letters_15 (GX7_52 hW rfl dX7_letters_16 (V.ald0 dX7_letters_19 (GX7_211 hW rfl dX7_letters_20 (aM17 (j := p) hW (IX.of (show tk w (nI p) b t y 100 40 = nI p from rfl) (by omega) (by decide)) dX7_letters_23 (V.bipush (v := 97) dX7_letters_24 (by decide) (V.bipush (v := 122) dX7_letters_26 (by decide) (V.invS3r sX7_159 dX7_letters_28 c_X7_in (V.ifb_eq (tgt := 76) dX7_letters_31 (by decide) (fun c_31 => ?_) (fun c_31 => ?_)))))))))
      · have c9 : isL (w 118 p) = false := c_31
        have hr' : runF isL (w 118) (m + 1) p = p := by rw [runF, if_neg (by rw [c9]; decide)]
        rw [hr'] at hr hx
        refine V.ild3 dX7_letters_76 (V.iconst_5 dX7_letters_77 (V.icmp_le (tgt := 85) dX7_letters_78 (by decide) (fun c_78 => ?_) (fun c_78 => ?_)))
        · exact V.lld1 dX7_letters_85 (V.lret dX7_letters_86 rfl ((by have hx' := hx; rw [Nat.sub_self] at hx'; rw [letF, ← hr, show p - p0 = k by omega]; first | (rw [if_pos c_78]; rw [← hr, show p - p0 = k by omega] at hx'; rw [← hx']; rfl) | rw [if_neg c_78])))
        · exact V.lconst_0 dX7_letters_81 (V.goto (tgt := 86) dX7_letters_82 (by decide) (V.lret dX7_letters_86 rfl ((by have hx' := hx; rw [Nat.sub_self] at hx'; rw [letF, ← hr, show p - p0 = k by omega]; first | (rw [if_pos c_78]; rw [← hr, show p - p0 = k by omega] at hx'; rw [← hx']; rfl) | rw [if_neg c_78]))))
      · refine V.ild3 dX7_letters_34 (V.bipush (v := 8) dX7_letters_35 (by decide) (V.icmp_ge (tgt := 58) dX7_letters_37 (by decide) (fun c_37 => ?_) (fun c_37 => ?_)))
        · refine V.lld1 dX7_letters_58 (V.lst1 dX7_letters_59 (V.inc3 dX7_letters_60 (V.ald0 dX7_letters_63 (V.dup dX7_letters_64 (GX7_211 hW rfl dX7_letters_65 (V.iconst_1 dX7_letters_68 (V.iadd dX7_letters_69 (PX7_211 hW rfl dX7_letters_70 (V.goto (tgt := 4) dX7_letters_73 (by decide) ?_)))))))))
          rw [tk40]
          have c9 : isL (w 118 p) = true := c_31
          have hr' : runF isL (w 118) (m + 1) p = runF isL (w 118) m (p + 1) := by rw [runF, if_pos c9]
          rw [hr'] at hr hx
          have hb := (runF_b (P := isL) (B := w 118) m (p + 1)).1
          rw [show runF isL (w 118) m (p + 1) - p = (runF isL (w 118) m (p + 1) - (p + 1)) + 1 by omega, pkL] at hx
          rw [show tk w (nI p) b t y 100 40 = nI p from rfl, nI_1, nI_1]
          first
            | (rw [if_pos c_37] at hx; exact ih (p + 1) (k + 1) _ (by omega) (by omega) hr hx)
            | (rw [if_neg c_37] at hx; exact ih (p + 1) (k + 1) _ (by omega) (by omega) hr hx)
        · refine V.lld1 dX7_letters_40 (V.bipush (v := 8) dX7_letters_41 (by decide) (V.lshl dX7_letters_43 (V.ald0 dX7_letters_44 (GX7_52 hW rfl dX7_letters_45 (V.ald0 dX7_letters_48 (GX7_211 hW rfl dX7_letters_49 (aM17 (j := p) hW (IX.of (show tk w (nI p) b t y 100 40 = nI p from rfl) (by omega) (by decide)) dX7_letters_52 (V.i2l dX7_letters_53 (V.lor dX7_letters_54 (V.goto (tgt := 59) dX7_letters_55 (by decide) (V.lst1 dX7_letters_59 (V.inc3 dX7_letters_60 (V.ald0 dX7_letters_63 ?_)))))))))))))
          refine V.dup dX7_letters_64 (GX7_211 hW rfl dX7_letters_65 (V.iconst_1 dX7_letters_68 (V.iadd dX7_letters_69 (PX7_211 hW rfl dX7_letters_70 (V.goto (tgt := 4) dX7_letters_73 (by decide) ?_)))))
          rw [tk40]
          have c9 : isL (w 118 p) = true := c_31
          have hr' : runF isL (w 118) (m + 1) p = runF isL (w 118) m (p + 1) := by rw [runF, if_pos c9]
          rw [hr'] at hr hx
          have hb := (runF_b (P := isL) (B := w 118) m (p + 1)).1
          rw [show runF isL (w 118) m (p + 1) - p = (runF isL (w 118) m (p + 1) - (p + 1)) + 1 by omega, pkL] at hx
          rw [show tk w (nI p) b t y 100 40 = nI p from rfl, nI_1, nI_1]
          first
            | (rw [if_pos c_37] at hx; exact ih (p + 1) (k + 1) _ (by omega) (by omega) hr hx)
            | (rw [if_neg c_37] at hx; exact ih (p + 1) (k + 1) _ (by omega) (by omega) hr hx)
  refine V.lconst_0 dX7_letters_0 (V.lst1 dX7_letters_1 (V.iconst_0 dX7_letters_2 (V.ist3 dX7_letters_3 ?_)))
  exact L4 (N - p0) p0 0 0 (by omega) (by omega) rfl rfl

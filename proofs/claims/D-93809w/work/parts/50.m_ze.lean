set_option maxRecDepth 100000
set_option maxHeartbeats 1000000
/-- an E that begins at a, with codes C before it -/
def eR (B : Nat → Int32) (N a : Nat) (C : List Int32) : Nat × Option (List Int32 × Nat) := sy B N (N + 1 - a) a [] C true true
/-- parts k.., m of them: none and where, or the codes, where each began, and where one is then -/
def tx (B : Nat → Int32) (N : Nat) : Nat → Nat → Nat → List Int32 → List Nat → Nat × Option (List Int32 × List Nat)
  | 0, _, a, C, S => ((lexM B N a).1, if (lexM B N a).2.1 = 0 then some (C, S ++ [C.length]) else none)
  | m + 1, k, a, C, S => if (lexM B N a).2.1 = 3 ∧ (lexM B N a).2.2.1 = nI k then (match eR B N (lexM B N a).2.2.2 C with
      | (b, none) => (b, none)
      | (_, some U) => tx B N m (k + 1) U.2 U.1 (S ++ [C.length])) else ((lexM B N a).1, none)
def txS (B : Nat → Int32) (N : Nat) : Nat × Option (List Int32 × List Nat) := tx B N 3 0 0 [] []
def SYP (T : Nat) (w : Wv) (C : List Int32) (a b : Nat) (t y : Int32) : Prop :=
  (w 100 40 = nI a ∧ w 100 41 = nI b ∧ w 100 42 = t ∧ w 100 43 = y) ∧ w 100 48 = nI C.length ∧ (∀ i, i < C.length → w 120 (200 * T + i) = C.getD i 0) ∧ C.length ≤ 180
theorem SYP.reset {T : Nat} {w : Wv} {C : List Int32} {a b : Nat} {t y : Int32} (h : SYP T w C a b t y) : SYR T w (up2 (up2 w 100 46 0) 100 47 0) [] C a b t y := by
  obtain ⟨h2, h3, h5, h6⟩ := h
  refine ⟨fun id j q1 q2 => ?_, h2, ⟨by rw [up2_ne _ _ (by simp), up2_eq]; rfl, by rw [up2_eq]; rfl, h3⟩, fun j hj => absurd hj (by simp), h5, by simpa using h6⟩
  rw [up2_ne _ _ (fun z => by rw [z.1, z.2] at q1; exact absurd q1 (by decide)), up2_ne _ _ (fun z => by rw [z.1, z.2] at q1; exact absurd q1 (by decide))]
/-- what a text leaves as it is -/
def TXG (T : Nat) (w w' : Wv) : Prop := ∀ id j, (scI id || (id == 100 && scJ j)) = false → ¬ (id = 120 ∧ 200 * T ≤ j ∧ j < 200 * T + 200) → ¬ (id = 121 ∧ 4 * T ≤ j ∧ j < 4 * T + 4) → w' id j = w id j
theorem TXG.r (T : Nat) (w : Wv) : TXG T w w := fun _ _ _ _ _ => rfl
theorem TXG.sy {T : Nat} {w w1 w2 : Wv} (h : TXG T w w1) {K C : List Int32} {a b : Nat} {t y : Int32} (hy : SYR T w1 w2 K C a b t y) : TXG T w w2 := fun id j q1 q2 q3 => (hy.1 id j q1 q2).trans (h id j q1 q2 q3)
theorem TXG.up {T : Nat} {w w1 : Wv} (h : TXG T w w1) {id9 j9 : Nat} {v : Int32} (q : (scI id9 || (id9 == 100 && scJ j9)) = true ∨ (id9 = 121 ∧ 4 * T ≤ j9 ∧ j9 < 4 * T + 4)) : TXG T w (up2 w1 id9 j9 v) := fun id j q1 q2 q3 => by
  rw [up2_ne _ _ (fun z => by rw [z.1, z.2] at q1 q3; rcases q with h9 | h9; rw [h9] at q1; exact absurd q1 (by decide); exact q3 h9)]
  exact h id j q1 q2 q3
theorem TXG.upw {T : Nat} {w w1 : Wv} (h : TXG T w w1) {id9 j9 : Nat} {v : Int32} : TXG T (up2 w id9 j9 v) (up2 w1 id9 j9 v) := fun id j q1 q2 q3 => by
  by_cases e : id = id9 ∧ j = j9
  · rw [e.1, e.2, up2_eq, up2_eq]
  · rw [up2_ne _ _ e, up2_ne _ _ e]; exact h id j q1 q2 q3
theorem TXG.tk {T : Nat} {w w1 : Wv} (h : TXG T w w1) {a b t y : Int32} : TXG T w (tk w1 a b t y) := fun id j q1 q2 q3 => by
  rw [← h id j q1 q2 q3]
  by_cases e : id = 100
  · subst e
    refine tk_j (fun z => ?_)
    have : scJ j = true := by
      unfold scJ
      rw [show Nat.ble 40 j = true from Nat.ble_eq.mpr z.1, show Nat.ble j 43 = true from Nat.ble_eq.mpr z.2]
      rfl
    rw [this] at q1
    exact absurd q1 (by decide)
  · exact tk_ne e
def txR (T : Nat) (R : Nat × Option (List Int32 × List Nat)) : Int32 := match R.2 with
  | none => -100 - nI R.1
  | some _ => nI T
def TXQ (g : Ge) (σ : Sg) (T : Nat) (w : Wv) (R : Nat × Option (List Int32 × List Nat)) : Sg → Prop := fun s => ∃ w', s = S g σ w' ∧ (match R.2 with
  | none => TXG T (up2 w 100 18 0) w'
  | some U => TXG T (up2 (up2 w 100 18 0) 100 21 (nI (T + 1))) w' ∧ (∀ i, i < U.1.length → w' 120 (200 * T + i) = U.1.getD i 0) ∧ ∀ i, i < 4 → w' 121 (4 * T + i) = nI (U.2.getD i 0))
abbrev TXP (g : Ge) (σ : Sg) (T : Nat) (w : Wv) (R : Nat × Option (List Int32 × List Nat)) : Outcome → Sg → Prop := PR (.int (txR T R)) (TXQ g σ T w R)
theorem TXP.no {g : Ge} {σ : Sg} {T : Nat} {w w1 : Wv} {R : Nat × Option (List Int32 × List Nat)} {b : Nat} (hR : (b, none) = R) {x : Int32} (hx : x = nI b) (hF : TXG T (up2 w 100 18 0) w1) : TXP g σ T w R (.returned (some (.int (-100 - x)))) (S g σ w1) := by
  subst hR hx
  exact ⟨rfl, w1, rfl, hF⟩
theorem TXP.ye {g : Ge} {σ : Sg} {T : Nat} {w w1 : Wv} {R : Nat × Option (List Int32 × List Nat)} {b : Nat} {U : List Int32 × List Nat} (hR : (b, some U) = R) {x : Int32} (hx : x = nI T) (hF : TXG T (up2 (up2 w 100 18 0) 100 21 (nI (T + 1))) w1) (h1 : ∀ i, i < U.1.length → w1 120 (200 * T + i) = U.1.getD i 0) (h2 : ∀ i, i < 4 → w1 121 (4 * T + i) = nI (U.2.getD i 0)) : TXP g σ T w R (.returned (some (.int x))) (S g σ w1) := by
  subst hR hx
  exact ⟨rfl, w1, rfl, hF, h1, h2⟩
theorem ix4 {T k : Nat} (hT : T < 6) (hk : k < 4) {x y : Int32} (hx : x = nI T) (hy : y = nI k) : IX (4 * x + y) (4 * T + k) 24 := IX.of (by rw [hx, hy, show (4 : Int32) = nI 4 from rfl, pk_mul, nI_add]) (by omega) (by decide)
theorem c_X7_eRead {E : En} {g : Ge} {σ : Sg} {w : Wv} (hW : WM g σ) (hWd : HW g σ) {T N : Nat} {C : List Int32} {a b : Nat} {t y : Int32} (hT : w 100 21 = nI T) (hT6 : T < 6) (hN : w 100 18 = nI N) (hN2 : N ≤ 160) (hy : SYP T w C a b t y) (ha : a ≤ N) (hl : C.length ≤ a)  : CtE E mX7_eRead 3 [.ref (g.1 100)] (EOP g σ T w (eR (w 118) N a C)) (S g σ w) := by
  show VE E mX7_eRead 3 _ 0 [some (.ref (g.1 100)), none, none, none] [] (S g σ w)
  refine VE.step (fun _ h => V.ald0 dX7_eRead_0 (V.iconst_0 dX7_eRead_1 (PX7_230 hW rfl dX7_eRead_2 (V.ald0 dX7_eRead_5 (V.iconst_0 dX7_eRead_6 (PX7_236 hW rfl dX7_eRead_7 (V.iconst_1 dX7_eRead_10 (V.ist1 dX7_eRead_11 (V.iconst_1 dX7_eRead_12 (V.ist2 dX7_eRead_13 h)))))))))) ?_
  exact c_X7_eRead_14 hW hWd hT hT6 hN hN2 (N + 1 - a) [] C a b t y _ true true none (by omega) ha (by simpa using hl) hy.reset rfl

theorem eR_no {E : En} {g : Ge} {σ : Sg} {w : Wv} (hW : WM g σ) (hWd : HW g σ) {T N : Nat} {C : List Int32} {a b : Nat} {t y : Int32} (hT : w 100 21 = nI T) (hT6 : T < 6) (hN : w 100 18 = nI N) (hN2 : N ≤ 160) (hy : SYP T w C a b t y) (ha : a ≤ N) (hl : C.length ≤ a)  {b1 : Nat} (hR : eR (w 118) N a C = (b1, none)) : CtE E mX7_eRead 3 [.ref (g.1 100)] (PR (.int (b2i false)) (fun s => ∃ w' K' C' a' t y, s = S g σ w' ∧ SYR T w w' K' C' a' b1 t y)) (S g σ w) := by
  have h := c_X7_eRead (E := E) hW hWd hT hT6 hN hN2 hy ha hl
  rw [hR] at h
  exact h
theorem eR_ye {E : En} {g : Ge} {σ : Sg} {w : Wv} (hW : WM g σ) (hWd : HW g σ) {T N : Nat} {C : List Int32} {a b : Nat} {t y : Int32} (hT : w 100 21 = nI T) (hT6 : T < 6) (hN : w 100 18 = nI N) (hN2 : N ≤ 160) (hy : SYP T w C a b t y) (ha : a ≤ N) (hl : C.length ≤ a)  {b1 : Nat} {U : List Int32 × Nat} (hR : eR (w 118) N a C = (b1, some U)) : CtE E mX7_eRead 3 [.ref (g.1 100)] (PR (.int (b2i true)) (fun s => ∃ w' t y, s = S g σ w' ∧ SYR T w w' [] U.1 U.2 b1 t y)) (S g σ w) := by
  have h := c_X7_eRead (E := E) hW hWd hT hT6 hN hN2 hy ha hl
  rw [hR] at h
  exact h
theorem t_122n {E : En} {g : Ge} {σ : Sg} (hW : WM g σ) {T : Nat} {w w1 : Wv} (hT6 : T < 6) (hF : TXG T w w1) (hT : w1 100 21 = nI T) {R : Nat × Option (List Int32 × List Nat)} {b : Nat} (hb : w1 100 41 = nI b) (hR : (b, none) = R) {z : Option Value} : VE E mX7_text 4 (TXP g σ T w R) 122 [some (.ref (g.1 100)), some (.int 0), z] [] (S g σ w1) := by
  refine VE.step (fun _ h => V.ald0 dX7_text_122 (GX7_58 hW rfl dX7_text_123 (V.iconst_4 dX7_text_126 (V.ald0 dX7_text_127 (GX7_61 hW rfl dX7_text_128 (V.imul dX7_text_131 (V.iconst_3 dX7_text_132 (V.iadd dX7_text_133 (V.ald0 dX7_text_134 (GX7_227 hW rfl dX7_text_135 (sM20 (j := 4 * T + 3) hW (ix4 hT6 (by decide) hT rfl) dX7_text_138 (V.ald0 dX7_text_139 (V.iconst_0 dX7_text_140 (PX7_206 hW rfl dX7_text_141 h)))))))))))))) ?_
  refine VE.step (fun _ h => V.ild1 dX7_text_144 h) ?_
  refine VE.if_ne (tgt := 156) dX7_text_145 (by decide) (fun c_145 => absurd rfl c_145) (fun c_145 => ?_)
  refine VE.step (fun _ h => V.bipush (v := (-100)) dX7_text_148 (by decide) (V.ald0 dX7_text_150 (GX7_214 hW rfl dX7_text_151 (V.isub dX7_text_154 h)))) ?_
  exact VE.iret dX7_text_155 rfl rfl (TXP.no hR hb (TXG.upw (hF.up (.inr ⟨rfl, by omega, by omega⟩))))
theorem t_26n {E : En} {g : Ge} {σ : Sg} (hW : WM g σ) {T : Nat} {w w1 : Wv} (hT6 : T < 6) (hF : TXG T w w1) (hT : w1 100 21 = nI T) {R : Nat × Option (List Int32 × List Nat)} {b : Nat} (hb : w1 100 41 = nI b) (hR : (b, none) = R) {q : Int32} : VE E mX7_text 4 (TXP g σ T w R) 26 [some (.ref (g.1 100)), some (.int 0), some (.int q)] [] (S g σ w1) := by
  refine VE.step (fun _ h => V.ild2 dX7_text_26 (V.iconst_3 dX7_text_27 h)) ?_
  refine VE.icmp_ge (tgt := 101) dX7_text_28 (by decide) (fun c_28 => ?_) (fun c_28 => ?_)
  · refine VE.step (fun _ h => V.ild1 dX7_text_101 h) ?_
    refine VE.if_eq (tgt := 122) dX7_text_102 (by decide) (fun c_102 => ?_) (fun c_102 => absurd rfl c_102)
    exact t_122n hW hT6 hF hT hb hR
  · refine VE.step (fun _ h => V.ild1 dX7_text_31 h) ?_
    refine VE.if_eq (tgt := 101) dX7_text_32 (by decide) (fun c_32 => ?_) (fun c_32 => absurd rfl c_32)
    refine VE.step (fun _ h => V.ild1 dX7_text_101 h) ?_
    refine VE.if_eq (tgt := 122) dX7_text_102 (by decide) (fun c_102 => ?_) (fun c_102 => absurd rfl c_102)
    exact t_122n hW hT6 hF hT hb hR
theorem tx_end {g : Ge} {σ : Sg} {T : Nat} {w w1 : Wv} (hF : TXG T w w1) (hT : w1 100 21 = nI T) {R : Nat × Option (List Int32 × List Nat)} {b : Nat} {C : List Int32} {Bs : List Nat} (h48 : w1 100 48 = nI C.length) (hC : ∀ i, i < C.length → w1 120 (200 * T + i) = C.getD i 0) (hB : Bs.length = 3) (hBs : ∀ i, i < 3 → w1 121 (4 * T + i) = nI (Bs.getD i 0)) (hR : (b, some (C, Bs ++ [C.length])) = R) :
    TXP g σ T w R (.returned (some (.int ((up2 (up2 (up2 w1 121 (4 * T + 3) (w1 100 48)) 100 18 0) 100 21 ((up2 (up2 w1 121 (4 * T + 3) (w1 100 48)) 100 18 0) 100 21 + 1)) 100 21 - 1)))) (S g σ (up2 (up2 (up2 w1 121 (4 * T + 3) (w1 100 48)) 100 18 0) 100 21 ((up2 (up2 w1 121 (4 * T + 3) (w1 100 48)) 100 18 0) 100 21 + 1))) := by
  have e : (up2 (up2 w1 121 (4 * T + 3) (w1 100 48)) 100 18 0) 100 21 = nI T := by rw [up2_ne _ _ (by simp), up2_ne _ _ (by simp)]; exact hT
  rw [e, nI_1]
  refine TXP.ye hR (by rw [up2_eq, ← nI_1, Int32.add_sub_cancel]) (TXG.upw (TXG.upw (hF.up (.inr ⟨rfl, by omega, by omega⟩)))) (fun i hi => ?_) (fun i hi => ?_)
  · rw [up2_ne _ _ (fun z => absurd z.1 (by decide)), up2_ne _ _ (fun z => absurd z.1 (by decide)), up2_ne _ _ (fun z => absurd z.1 (by decide))]; exact hC i hi
  · rw [up2_ne _ _ (fun z => absurd z.1 (by decide)), up2_ne _ _ (fun z => absurd z.1 (by decide))]
    by_cases e3 : i = 3
    · subst e3
      rw [up2_eq, h48]
      simp [List.getD, hB]
    · rw [up2_ne _ _ (fun z => e3 (by omega)), hBs i (by omega)]
      simp [List.getD, List.getElem?_append_left, show i < Bs.length by omega]
theorem t_122y {E : En} {g : Ge} {σ : Sg} (hW : WM g σ) {T : Nat} {w w1 : Wv} (hT6 : T < 6) (hF : TXG T w w1) (hT : w1 100 21 = nI T) {R : Nat × Option (List Int32 × List Nat)} {b : Nat} {C : List Int32} {Bs : List Nat} (h48 : w1 100 48 = nI C.length) (hC : ∀ i, i < C.length → w1 120 (200 * T + i) = C.getD i 0) (hB : Bs.length = 3) (hBs : ∀ i, i < 3 → w1 121 (4 * T + i) = nI (Bs.getD i 0)) (hR : (b, some (C, Bs ++ [C.length])) = R) {z : Option Value} : VE E mX7_text 4 (TXP g σ T w R) 122 [some (.ref (g.1 100)), some (.int 1), z] [] (S g σ w1) := by
  refine VE.step (fun _ h => V.ald0 dX7_text_122 (GX7_58 hW rfl dX7_text_123 (V.iconst_4 dX7_text_126 (V.ald0 dX7_text_127 (GX7_61 hW rfl dX7_text_128 (V.imul dX7_text_131 (V.iconst_3 dX7_text_132 (V.iadd dX7_text_133 (V.ald0 dX7_text_134 (GX7_227 hW rfl dX7_text_135 (sM20 (j := 4 * T + 3) hW (ix4 hT6 (by decide) hT rfl) dX7_text_138 (V.ald0 dX7_text_139 (V.iconst_0 dX7_text_140 (PX7_206 hW rfl dX7_text_141 h)))))))))))))) ?_
  refine VE.step (fun _ h => V.ild1 dX7_text_144 h) ?_
  refine VE.if_ne (tgt := 156) dX7_text_145 (by decide) (fun c_145 => ?_) (fun c_145 => absurd c_145 (by decide))
  refine VE.step (fun _ h => V.ald0 dX7_text_156 (V.dup dX7_text_157 (GX7_61 hW rfl dX7_text_158 (V.iconst_1 dX7_text_161 (V.iadd dX7_text_162 (PX7_61 hW rfl dX7_text_163 (V.ald0 dX7_text_166 (GX7_61 hW rfl dX7_text_167 (V.iconst_1 dX7_text_170 (V.isub dX7_text_171 h)))))))))) ?_
  exact VE.iret dX7_text_172 rfl rfl (tx_end hF hT h48 hC hB hBs hR)
theorem TXG.n {T : Nat} {w w1 : Wv} (h : TXG T w w1) {x : Int32} (hN : w 100 18 = x) : w1 100 18 = x := (h 100 18 rfl (by simp) (by simp)).trans hN
theorem TXG.b {T : Nat} {w w1 : Wv} (h : TXG T w w1) : w1 118 = w 118 := funext fun j => h 118 j rfl (by simp) (by simp)
theorem q_next {E : En} {g : Ge} {σ : Sg} {w : Wv} (hW : WM g σ) (hWd : HW g σ) {N a : Nat} (h40 : w 100 40 = nI a) (hN : w 100 18 = nI N) (hN2 : N ≤ 160) (ha : a ≤ N) : CtE E mX7_next 2 [.ref (g.1 100)] (PV (fun s => s = S g σ (tk w (nI (lexM (w 118) N a).2.2.2) (nI (lexM (w 118) N a).1) (lexM (w 118) N a).2.1 (lexM (w 118) N a).2.2.1))) (S g σ w) := by
  have h := c_X7_next (E := E) hW hWd (b := w 100 41) (t := w 100 42) (y := w 100 43) hN hN2 ha
  have e0 := tk_0 (w := w)
  rw [h40] at e0
  rw [e0] at h
  exact ⟨_, ⟨rfl, rfl⟩, h⟩
theorem sy_len {B : Nat → Int32} {N : Nat} : ∀ (f a : Nat) (K C : List Int32) (wa mn : Bool) {b : Nat} {U : List Int32 × Nat}, a ≤ N → K.length + C.length ≤ a → sy B N f a K C wa mn = (b, some U) → U.1.length ≤ U.2 ∧ U.2 ≤ N := by
  intro f
  induction f with
  | zero => intro a K C wa mn b U _ _ h; rw [sy] at h; simp at h
  | succ f ih =>
    intro a K C wa mn b U ha hl h
    obtain ⟨b1, t1, y1, e1, hL⟩ : ∃ b1 t1 y1 e1, lexM B N a = (b1, t1, y1, e1) := ⟨_, _, _, _, rfl⟩
    have hlb := lexM_b (B := B) ha
    rw [hL] at hlb
    have hlb : e1 ≤ N ∧ b1 ≤ N ∧ (t1 = 0 ∨ a < e1) := hlb
    rw [sy] at h
    simp only [hL] at h
    have hae : t1 ≠ 0 → a < e1 := fun z => hlb.2.2.resolve_left z
    cases wa with
    | true =>
      simp only [if_true] at h
      split at h
      · rename_i ht
        have := hae (by rcases ht with h9 | h9 <;> rw [h9] <;> decide)
        exact ih _ _ _ _ _ hlb.1 (by rw [unw_len, List.length_append]; show K.length + (C.length + 1) ≤ e1; omega) h
      · split at h
        · rename_i ht
          have := hae (by rw [ht.1]; decide)
          split at h
          · simp at h
          · exact ih _ _ _ _ _ hlb.1 (by simp only [List.length_cons]; omega) h
        · split at h
          · rename_i ht
            have := hae (by rw [ht]; decide)
            split at h
            · simp at h
            · exact ih _ _ _ _ _ hlb.1 (by simp only [List.length_cons]; omega) h
          · split at h
            · rename_i ht
              have := hae (by rw [ht]; decide)
              split at h
              · simp at h
              · exact ih _ _ _ _ _ hlb.1 (by simp only [List.length_cons]; omega) h
            · simp at h
    | false =>
      simp only [Bool.false_eq_true, if_false] at h
      have hul := unw_len (l := 1) K C
      split at h
      · rename_i ht
        have := hae (by rw [ht]; decide)
        split at h
        · rename_i hK
          rw [hK] at hul
          simp only [Prod.mk.injEq, Option.some.injEq] at h
          rw [← h.2]
          simp only [List.length_nil] at hul
          exact ⟨by show (unw 1 K C).2.length ≤ e1; omega, hlb.1⟩
        · simp at h
      · split at h
        · rename_i ht
          have := hae (by rw [ht]; decide)
          split at h
          · simp at h
          · rename_i q K2 hK
            rw [hK] at hul
            simp only [List.length_cons] at hul
            exact ih _ _ _ _ _ hlb.1 (by rw [unw_len]; omega) h
        · split at h
          · simp at h
          · rename_i hm
            have := hae (fun z => hm (by rw [z]; decide))
            split at h
            · simp at h
            · rename_i U2 hb
              have hbl := btw_len hb
              exact ih _ _ _ _ _ hlb.1 (by omega) h
theorem eR_len {B : Nat → Int32} {N a : Nat} {C : List Int32} {b : Nat} {U : List Int32 × Nat} (ha : a ≤ N) (hl : C.length ≤ a) (h : eR B N a C = (b, some U)) : U.1.length ≤ U.2 ∧ U.2 ≤ N := sy_len _ _ _ _ _ _ ha (by simpa using hl) h
theorem tx_bs {T k e1 b1 : Nat} {t1 y1 : Int32} {w1 w4 : Wv} {C K4 C4 : List Int32} {a4 b4 : Nat} {t4 y4 : Int32} {Bs : List Nat} (hy4 : SYR T (up2 (tk w1 (nI e1) (nI b1) t1 y1) 121 (4 * T + k) (w1 100 48)) w4 K4 C4 a4 b4 t4 y4) (h48 : w1 100 48 = nI C.length) (hB : Bs.length = k) (hBs : ∀ i, i < k → w1 121 (4 * T + i) = nI (Bs.getD i 0)) {i : Nat} (hi : i < k + 1) : w4 121 (4 * T + i) = nI ((Bs ++ [C.length]).getD i 0) := by
  rw [hy4.1 121 (4 * T + i) rfl (by simp)]
  by_cases e : i = k
  · subst e
    rw [up2_eq, h48]
    simp [List.getD, hB]
  · rw [up2_ne _ _ (fun z => e (by omega)), tk_ne (by decide), hBs i (by omega)]
    simp [List.getD, List.getElem?_append_left, show i < Bs.length by omega]
theorem t_26 {E : En} {g : Ge} {σ : Sg} (hW : WM g σ) (hWd : HW g σ) {N : Nat} {w : Wv} (hN2 : N ≤ 160) {T : Nat} (hT6 : T < 6) (hT : w 100 21 = nI T) (hN : w 100 18 = nI N) {R : Nat × Option (List Int32 × List Nat)} : ∀ (m k : Nat) (w1 : Wv) (C : List Int32) (a : Nat) (Bs : List Nat), k + m = 3 → TXG T w w1 → w1 100 40 = nI a → a ≤ N → C.length ≤ a → w1 100 48 = nI C.length → (∀ i, i < C.length → w1 120 (200 * T + i) = C.getD i 0) → Bs.length = k → (∀ i, i < k → w1 121 (4 * T + i) = nI (Bs.getD i 0)) → tx (w 118) N m k a C Bs = R → VE E mX7_text 4 (TXP g σ T w R) 26 [some (.ref (g.1 100)), some (.int 1), some (.int (nI k))] [] (S g σ w1) := by
  intro m
  induction m with
  | zero =>
    intro k w1 C a Bs hk hF h40 ha hl h48 hC hB hBs hs
    refine VE.step (fun _ h => V.ild2 dX7_text_26 (V.iconst_3 dX7_text_27 h)) ?_
    refine VE.icmp_ge (tgt := 101) dX7_text_28 (by decide) (fun c_28 => ?_) (fun c_28 => absurd (show (3 : Int32) ≤ nI k by rw [show k = 3 by omega]; decide) c_28)
    refine VE.step (fun _ h => V.ild1 dX7_text_101 h) ?_
    refine VE.if_eq (tgt := 122) dX7_text_102 (by decide) (fun c_102 => absurd c_102 (by decide)) (fun c_102 => ?_)
    refine VE.step (fun _ h => V.ald0 dX7_text_105 h) ?_
    refine VE.invV0v vX7_249 hW.2.2.1 dX7_text_106 (q_next hW hWd h40 (hF.n hN) hN2 ha) (fun s9 q9 => ?_)
    subst q9
    obtain ⟨b1, t1, y1, e1, hL⟩ : ∃ b1 t1 y1 e1, lexM (w1 118) N a = (b1, t1, y1, e1) := ⟨_, _, _, _, rfl⟩
    have hlb := lexM_b (B := w1 118) ha
    rw [hL] at hlb ⊢
    have hlb : e1 ≤ N ∧ b1 ≤ N ∧ (t1 = 0 ∨ a < e1) := hlb
    simp only [] at ⊢
    rw [tx] at hs
    rw [← hF.b] at hs
    simp only [hL] at hs
    have hF2 := hF.tk (a := nI e1) (b := nI b1) (t := t1) (y := y1)
    refine VE.step (fun _ h => V.ald0 dX7_text_109 (GX7_217 hW rfl dX7_text_110 h)) ?_
    refine VE.if_ne (tgt := 120) dX7_text_113 (by decide) (fun c_113 => ?_) (fun c_113 => ?_)
    · refine VE.step (fun _ h => V.iconst_0 dX7_text_120 (V.ist1 dX7_text_121 h)) ?_
      first
        | (rw [if_pos (show t1 = 0 from c_113)] at hs; exact t_122y hW hT6 hF2 ((hF2 100 21 rfl (by simp) (by simp)).trans hT) (by rw [tk_j (by omega)]; exact h48) (fun i hi => by rw [tk_ne (by decide)]; exact hC i hi) (by omega) (fun i hi => by rw [tk_ne (by decide)]; exact hBs i (by omega)) hs)
        | (rw [if_neg (show ¬ t1 = 0 from c_113)] at hs; exact t_122n hW hT6 hF2 ((hF2 100 21 rfl (by simp) (by simp)).trans hT) rfl hs)
    · refine VE.step (fun _ h => V.iconst_1 dX7_text_116 (V.goto (tgt := 121) dX7_text_117 (by decide) (V.ist1 dX7_text_121 h))) ?_
      first
        | (rw [if_pos (show t1 = 0 from c_113)] at hs; exact t_122y hW hT6 hF2 ((hF2 100 21 rfl (by simp) (by simp)).trans hT) (by rw [tk_j (by omega)]; exact h48) (fun i hi => by rw [tk_ne (by decide)]; exact hC i hi) (by omega) (fun i hi => by rw [tk_ne (by decide)]; exact hBs i (by omega)) hs)
        | (rw [if_neg (show ¬ t1 = 0 from c_113)] at hs; exact t_122n hW hT6 hF2 ((hF2 100 21 rfl (by simp) (by simp)).trans hT) rfl hs)
  | succ m ih =>
    intro k w1 C a Bs hk hF h40 ha hl h48 hC hB hBs hs
    refine VE.step (fun _ h => V.ild2 dX7_text_26 (V.iconst_3 dX7_text_27 h)) ?_
    refine VE.icmp_ge (tgt := 101) dX7_text_28 (by decide) (fun c_28 => absurd c_28 (show ¬ (3 : Int32) ≤ nI k from fun h9 => absurd ((nI_leI (a := 3) (b := k) (by omega) (by omega)).mp h9) (by omega))) (fun c_28 => ?_)
    refine VE.step (fun _ h => V.ild1 dX7_text_31 h) ?_
    refine VE.if_eq (tgt := 101) dX7_text_32 (by decide) (fun c_32 => absurd c_32 (by decide)) (fun c_32 => ?_)
    refine VE.step (fun _ h => V.ald0 dX7_text_35 h) ?_
    refine VE.invV0v vX7_249 hW.2.2.1 dX7_text_36 (q_next hW hWd h40 (hF.n hN) hN2 ha) (fun s9 q9 => ?_)
    subst q9
    obtain ⟨b1, t1, y1, e1, hL⟩ : ∃ b1 t1 y1 e1, lexM (w1 118) N a = (b1, t1, y1, e1) := ⟨_, _, _, _, rfl⟩
    have hlb := lexM_b (B := w1 118) ha
    rw [hL] at hlb ⊢
    have hlb : e1 ≤ N ∧ b1 ≤ N ∧ (t1 = 0 ∨ a < e1) := hlb
    simp only [] at ⊢
    rw [tx] at hs
    rw [← hF.b] at hs
    simp only [hL] at hs
    have hF2 := hF.tk (a := nI e1) (b := nI b1) (t := t1) (y := y1)
    refine VE.step (fun _ h => V.ald0 dX7_text_39 (GX7_217 hW rfl dX7_text_40 (V.iconst_3 dX7_text_43 h))) ?_
    refine VE.icmp_ne (tgt := 59) dX7_text_44 (by decide) (fun c_44 => ?_) (fun c_44 => ?_)
    · rw [if_neg (fun z => by first | exact c_44 z.1 | exact c_52 z.2)] at hs
      refine VE.step (fun _ h => V.iconst_0 dX7_text_59 (V.ist1 dX7_text_60 (V.ald0 dX7_text_61 (GX7_58 hW rfl dX7_text_62 (V.iconst_4 dX7_text_65 (V.ald0 dX7_text_66 (GX7_61 hW rfl dX7_text_67 (V.imul dX7_text_70 (V.ild2 dX7_text_71 (V.iadd dX7_text_72 (V.ald0 dX7_text_73 (GX7_227 hW rfl dX7_text_74 (sM20 (j := 4 * T + k) hW (ix4 hT6 (by omega) (show w1 100 21 = nI T from (hF 100 21 rfl (by simp) (by simp)).trans hT) rfl) dX7_text_77 (V.ild1 dX7_text_78 h)))))))))))))) ?_
      refine VE.if_eq (tgt := 93) dX7_text_79 (by decide) (fun c_79 => ?_) (fun c_79 => absurd rfl c_79)
      refine VE.step (fun _ h => V.iconst_0 dX7_text_93 (V.ist1 dX7_text_94 (V.inc2 dX7_text_95 (V.goto (tgt := 26) dX7_text_98 (by decide) h)))) ?_
      have hF3 : TXG T w (up2 (tk w1 (nI e1) (nI b1) t1 y1) 121 (4 * T + k) (w1 100 48)) := hF2.up (.inr ⟨rfl, by omega, by omega⟩)
      have hT3 : (up2 (tk w1 (nI e1) (nI b1) t1 y1) 121 (4 * T + k) (w1 100 48)) 100 21 = nI T := (hF3 100 21 rfl (by simp) (by simp)).trans hT
      exact t_26n hW hT6 hF3 hT3 rfl hs
    · refine VE.step (fun _ h => V.ald0 dX7_text_47 (GX7_220 hW rfl dX7_text_48 (V.ild2 dX7_text_51 h))) ?_
      refine VE.icmp_ne (tgt := 59) dX7_text_52 (by decide) (fun c_52 => ?_) (fun c_52 => ?_)
      · rw [if_neg (fun z => by first | exact c_44 z.1 | exact c_52 z.2)] at hs
        refine VE.step (fun _ h => V.iconst_0 dX7_text_59 (V.ist1 dX7_text_60 (V.ald0 dX7_text_61 (GX7_58 hW rfl dX7_text_62 (V.iconst_4 dX7_text_65 (V.ald0 dX7_text_66 (GX7_61 hW rfl dX7_text_67 (V.imul dX7_text_70 (V.ild2 dX7_text_71 (V.iadd dX7_text_72 (V.ald0 dX7_text_73 (GX7_227 hW rfl dX7_text_74 (sM20 (j := 4 * T + k) hW (ix4 hT6 (by omega) (show w1 100 21 = nI T from (hF 100 21 rfl (by simp) (by simp)).trans hT) rfl) dX7_text_77 (V.ild1 dX7_text_78 h)))))))))))))) ?_
        refine VE.if_eq (tgt := 93) dX7_text_79 (by decide) (fun c_79 => ?_) (fun c_79 => absurd rfl c_79)
        refine VE.step (fun _ h => V.iconst_0 dX7_text_93 (V.ist1 dX7_text_94 (V.inc2 dX7_text_95 (V.goto (tgt := 26) dX7_text_98 (by decide) h)))) ?_
        have hF3 : TXG T w (up2 (tk w1 (nI e1) (nI b1) t1 y1) 121 (4 * T + k) (w1 100 48)) := hF2.up (.inr ⟨rfl, by omega, by omega⟩)
        have hT3 : (up2 (tk w1 (nI e1) (nI b1) t1 y1) 121 (4 * T + k) (w1 100 48)) 100 21 = nI T := (hF3 100 21 rfl (by simp) (by simp)).trans hT
        exact t_26n hW hT6 hF3 hT3 rfl hs
      · refine VE.step (fun _ h => V.iconst_1 dX7_text_55 (V.goto (tgt := 60) dX7_text_56 (by decide) (V.ist1 dX7_text_60 (V.ald0 dX7_text_61 (GX7_58 hW rfl dX7_text_62 (V.iconst_4 dX7_text_65 (V.ald0 dX7_text_66 (GX7_61 hW rfl dX7_text_67 (V.imul dX7_text_70 (V.ild2 dX7_text_71 (V.iadd dX7_text_72 (V.ald0 dX7_text_73 (GX7_227 hW rfl dX7_text_74 (sM20 (j := 4 * T + k) hW (ix4 hT6 (by omega) (show w1 100 21 = nI T from (hF 100 21 rfl (by simp) (by simp)).trans hT) rfl) dX7_text_77 h)))))))))))))) ?_
        refine VE.step (fun _ h => V.ild1 dX7_text_78 h) ?_
        refine VE.if_eq (tgt := 93) dX7_text_79 (by decide) (fun c_79 => absurd c_79 (by decide)) (fun c_79 => ?_)
        rw [if_pos ⟨c_44, c_52⟩] at hs
        have c44 : t1 = 3 := c_44
        have hae : a < e1 := hlb.2.2.resolve_left (fun z => by rw [z] at c44; exact absurd c44 (by decide))
        have hF3 : TXG T w (up2 (tk w1 (nI e1) (nI b1) t1 y1) 121 (4 * T + k) (w1 100 48)) := hF2.up (.inr ⟨rfl, by omega, by omega⟩)
        have hT3 : (up2 (tk w1 (nI e1) (nI b1) t1 y1) 121 (4 * T + k) (w1 100 48)) 100 21 = nI T := (hF3 100 21 rfl (by simp) (by simp)).trans hT
        have hyp : SYP T (up2 (tk w1 (nI e1) (nI b1) t1 y1) 121 (4 * T + k) (w1 100 48)) C e1 b1 t1 y1 := ⟨⟨rfl, rfl, rfl, rfl⟩, (show w1 100 48 = _ from h48), (fun i hi => by rw [up2_ne _ _ (fun z => absurd z.1 (by decide)), tk_ne (by decide)]; exact hC i hi), (by omega)⟩
        have e118 : (up2 (tk w1 (nI e1) (nI b1) t1 y1) 121 (4 * T + k) (w1 100 48)) 118 = w1 118 := rfl
        obtain ⟨b2, r2, hE⟩ : ∃ b2 r2, eR (w1 118) N e1 C = (b2, r2) := ⟨_, _, rfl⟩
        rw [hE] at hs
        rw [← e118] at hE
        cases r2 with
        | none =>
          refine VE.step (fun _ h => V.ald0 dX7_text_82 h) ?_
          refine VE.invV0r vX7_263 hW.2.2.1 dX7_text_83 (eR_no hW hWd hT3 hT6 (hF3.n hN) hN2 hyp (by omega) (by omega) hE) (fun s9 q9 => ?_)
          obtain ⟨w4, K4, C4, a4, t4, y4, rfl, hy4⟩ := q9
          refine VE.ifb_eq (tgt := 93) dX7_text_86 (by decide) (fun c_86 => ?_) (fun c_86 => absurd c_86 (by decide))
          refine VE.step (fun _ h => V.iconst_0 dX7_text_93 (V.ist1 dX7_text_94 (V.inc2 dX7_text_95 (V.goto (tgt := 26) dX7_text_98 (by decide) h)))) ?_
          exact t_26n hW hT6 (hF3.sy hy4) ((hF3.sy hy4 100 21 rfl (by simp) (by simp)).trans hT) hy4.2.1.2.1 hs
        | some U =>
          refine VE.step (fun _ h => V.ald0 dX7_text_82 h) ?_
          refine VE.invV0r vX7_263 hW.2.2.1 dX7_text_83 (eR_ye hW hWd hT3 hT6 (hF3.n hN) hN2 hyp (by omega) (by omega) hE) (fun s9 q9 => ?_)
          obtain ⟨w4, t4, y4, rfl, hy4⟩ := q9
          refine VE.ifb_eq (tgt := 93) dX7_text_86 (by decide) (fun c_86 => absurd c_86 (by decide)) (fun c_86 => ?_)
          refine VE.step (fun _ h => V.iconst_1 dX7_text_89 (V.goto (tgt := 94) dX7_text_90 (by decide) (V.ist1 dX7_text_94 (V.inc2 dX7_text_95 (V.goto (tgt := 26) dX7_text_98 (by decide) h))))) ?_
          rw [nI_1]
          have hln := eR_len (by omega) (by omega) hE
          exact ih (k + 1) w4 U.1 U.2 _ (by omega) (hF3.sy hy4) hy4.2.1.1 hln.2 hln.1 hy4.2.2.1.2.2 hy4.2.2.2.2.1 (by rw [List.length_append, hB]; rfl) (fun i hi => tx_bs hy4 h48 hB hBs hi) (by rw [hF.b] at hs; exact hs)

theorem c_X7_text {E : En} {g : Ge} {σ : Sg} {w : Wv} (hW : WM g σ) (hWd : HW g σ) {T N : Nat} (hT : w 100 21 = nI T) (hT6 : T < 6) (hN : w 100 18 = nI N) (hN2 : N ≤ 160) : CtE E mX7_text 4 [.ref (g.1 100)] (TXP g σ T w (txS (w 118) N)) (S g σ w) := by
  show VE E mX7_text 4 _ 0 [some (.ref (g.1 100)), none, none] [] (S g σ w)
  refine VE.step (fun _ h => V.ald0 dX7_text_0 (GX7_61 hW rfl dX7_text_1 (V.bipush (v := 6) dX7_text_4 (by decide) h))) ?_
  refine VE.icmp_ne (tgt := 12) dX7_text_6 (by decide) (fun c_6 => ?_) (fun c_6 => absurd c_6 (by rw [hT]; exact fun z => absurd ((nI_eq (b := 6) (by omega) (by omega)).mp z) (by omega)))
  refine VE.step (fun _ h => V.ald0 dX7_text_12 (V.iconst_0 dX7_text_13 (PX7_211 hW rfl dX7_text_14 (V.ald0 dX7_text_17 (V.iconst_0 dX7_text_18 (PX7_227 hW rfl dX7_text_19 (V.iconst_1 dX7_text_22 (V.ist1 dX7_text_23 (V.iconst_0 dX7_text_24 (V.ist2 dX7_text_25 h)))))))))) ?_
  exact t_26 hW hWd hN2 hT6 hT hN 3 0 _ [] 0 [] rfl (TXG.up (TXG.up (TXG.r T w) (.inl rfl)) (.inl rfl)) rfl (by omega) (by simp) rfl (fun i hi => absurd hi (by simp)) rfl (fun i hi => absurd hi (by omega)) rfl

theorem f_X7_text {E : En} {g : Ge} {σ : Sg} {w : Wv} (hW : WM g σ) (hT : w 100 21 = 6) : Ct E mX7_text 4 [.ref (g.1 100)] (.returned (some (.int (-4))), S g σ w) (S g σ w) := by
  show V E mX7_text 4 _ 0 [some (.ref (g.1 100)), none, none] [] (S g σ w)
  refine V.ald0 dX7_text_0 (GX7_61 hW rfl dX7_text_1 (V.bipush (v := 6) dX7_text_4 (by decide) (V.icmp_ne (tgt := 12) dX7_text_6 (by decide) (fun c_6 => absurd hT c_6) (fun c_6 => ?_))))
  exact V.bipush (v := (-4)) dX7_text_9 (by decide) (V.iret dX7_text_11 rfl rfl (rfl))

theorem c_X7_first {E : En} {g : Ge} {σ : Sg} {w : Wv} (hW : WM g σ) {k : Nat} (hk : k + 4 ≤ 1200) {a b c d : Int32} : Ct E mX7_first 0 [.ref (g.1 100), .int (nI k), .int a, .int b, .int c, .int d] (.returned none, S g σ (up2 (up2 (up2 (up2 w 120 k a) 120 (k + 1) b) 120 (k + 2) c) 120 (k + 3) d)) (S g σ w) := by
  show V E mX7_first 0 _ 0 [some (.ref (g.1 100)), some (.int (nI k)), some (.int a), some (.int b), some (.int c), some (.int d)] [] (S g σ w)
  refine V.ald0 dX7_first_0 (GX7_55 hW rfl dX7_first_1 (V.ild1 dX7_first_4 (V.ild2 dX7_first_5 (sM19 (j := k) hW (IX.n (by omega) (by decide)) dX7_first_6 (V.ald0 dX7_first_7 (GX7_55 hW rfl dX7_first_8 (V.ild1 dX7_first_11 (V.iconst_1 dX7_first_12 (V.iadd dX7_first_13 (V.ild3 dX7_first_14 (sM19 (j := k + 1) hW (IX.of (show nI k + 1 = _ from nI_1 _) (by omega) (by decide)) dX7_first_15 (V.ald0 dX7_first_16 ?_))))))))))))
  exact GX7_55 hW rfl dX7_first_17 (V.ild1 dX7_first_20 (V.iconst_2 dX7_first_21 (V.iadd dX7_first_22 (V.ild4 dX7_first_23 (sM19 (j := k + 2) hW (IX.of (show nI k + 2 = _ by rw [show (2 : Int32) = nI 2 from rfl, nI_add]) (by omega) (by decide)) dX7_first_25 (V.ald0 dX7_first_26 (GX7_55 hW rfl dX7_first_27 (V.ild1 dX7_first_30 (V.iconst_3 dX7_first_31 (V.iadd dX7_first_32 (V.ild5 dX7_first_33 (sM19 (j := k + 3) hW (IX.of (show nI k + 3 = _ by rw [show (3 : Int32) = nI 3 from rfl, nI_add]) (by omega) (by decide)) dX7_first_35 (V.vret dX7_first_36 rfl (rfl))))))))))))))

set_option maxRecDepth 100000
set_option maxHeartbeats 1000000
section
variable {E : En} {M M' : Mi} {d d' : Nat} {P P' : Outcome → Sg → Prop} {out : Out} {pc index n : Nat} {lv : List (Option Value)} {st : List Value} {σ : Sg}
theorem V.getsN {host C nm ds : String} {v : Value} (hz : SV E C nm ds v) (hl : Cond.fieldLinkNest (mY M).cls index C nm ds host ∈ lw_tbl) (hd : decode (mC M) pc = .ok (.getstatic index, 3)) (h : V E M d out (pc + 3) lv (v :: st) σ) : V E M d out pc lv st σ := by
  refine ⟨h.1, fun p e R s m args below meth c' n0 s0 X hf hl' hns hs hc hz' ls H locs L P Q => ?_⟩
  obtain ⟨cf, kf, fi, f, a, cell, h1, h2, h3, h4, h5, h6, h7, h8⟩ := va_Z.moved X.k.2.alike hz
  exact va_WgetsN X.x X.b X.own (X.k.fieldN hl args) h1 h2 h3 h4 (by rw [P.2.2.2.2 a (Array.getElem?_eq_some_iff.mp h5).1]; exact h5) (fun e => by rw [e] at h6; cases h6) h7 rfl hd (h.2 p e R s m args below meth c' n0 s0 X hf hl' hns hs hc hz' ls H locs L P Q)
/-- a call, however it ends; no handler here -/
theorem VE.callAny {len : Nat} {stk rest As : List Value} {ig : Instr} (hn : mH M = []) (hd : decode (mC M) pc = .ok (ig, len)) (hw : McW M') (hdd : d' < d) (hlen : (lvF As).length ≤ mL M') (hst : (rest.map fun v => v.category).sum ≤ 8) (hI : Lk E M σ pc stk rest As M') (hV : CtE E M' d' As P' σ)
    (hr : ∀ v s9, P' (.returned v) s9 → VE E M d P (pc + len) lv (v.toList ++ rest) s9) (ht : ∀ a s9, P' (.threw a) s9 → P (.threw a) s9) : VE E M d P pc lv stk σ := by
  obtain ⟨⟨oc, s9⟩, hP, hC⟩ := hV
  cases oc with
  | returned v =>
    obtain ⟨o2, k1, k2⟩ := hr v s9 hP
    exact ⟨o2, k1, V.callRet hd hw hdd hlen hst hI hC k2⟩
  | threw a => exact ⟨(.threw a, s9), ht a s9 hP, V.callOut (by rw [hn]; exact fun q hq => by cases hq) hd hw hdd hlen hst hI hC rfl⟩
/-- a call of the reader's own -/
theorem VE.cR {r : Nat} (hk : VL (mY M).cls index 2 M' 0) (hn : mH M = []) (ht3 : (sT σ r).1 = 3) (hd : decode (mC M) pc = .ok (.invokevirtual index, 3)) (hdd : d' < d) (hV : CtE E M' d' [.ref r] P' σ) (hr : ∀ v s9, P' (.returned v) s9 → VE E M d P (pc + 3) lv (v.toList ++ st) s9) (ht : ∀ a s9, P' (.threw a) s9 → P (.threw a) s9) (hlen : Nat.ble 1 (mL M') = true := by rfl) (hst : Nat.ble (st.map fun v => v.category).sum 8 = true := by rfl) : VE E M d P pc lv (.ref r :: st) σ := by
  obtain ⟨x, q, h1, h2, h3, h4, h5, h6, h7, h8, h9, h10, h11⟩ := hk
  exact VE.callAny (As := [.ref r]) hn hd h11 hdd (Nat.le_of_ble_eq_true hlen) (Nat.le_of_ble_eq_true hst) (Lk.V (As := []) (rest := st) ⟨x, q, h1, h2, h3, h4, h5, h6, h7, h8, h9, h10, h11⟩ ht3 rfl hd) hV hr ht
end
/-- what the parser stands on -/
def Cxt (E : En) (σ : Sg) (r N : Nat) (B : Nat → Int32) : Prop := JS E ∧ EU E ∧ OS E σ ∧ 1000 ≤ sN σ ∧ CLN σ ∧ RB σ r N B
theorem Cxt.fg {E : En} {σ σ' : Sg} {r N b c : Nat} {B : Nat → Int32} (h : Cxt E σ r N B) (hF : FG σ σ' b c) : Cxt E σ' r N B := ⟨h.1, h.2.1, h.2.2.1.fg hF, Nat.le_trans h.2.2.2.1 hF.1.1, hF.2.2.1, h.2.2.2.2.2.fg hF⟩
theorem Cxt.t {E : En} {σ : Sg} {r N : Nat} {B : Nat → Int32} (h : Cxt E σ r N B) : (sT σ r).1 = 3 := h.2.2.2.2.2.1
theorem Cxt.r {E : En} {σ : Sg} {r N : Nat} {B : Nat → Int32} (h : Cxt E σ r N B) : 1000 ≤ r := h.2.2.2.2.2.2.1
theorem Cxt.z {E : En} {σ : Sg} {r N : Nat} {B : Nat → Int32} (h : Cxt E σ r N B) : (sT σ (sN σ)).1 = 0 := h.2.2.2.2.1 _ (Nat.le_refl _)
theorem Cxt.ne {E : En} {σ : Sg} {r N : Nat} {B : Nat → Int32} (h : Cxt E σ r N B) : r ≠ sN σ := fun z => by have := h.z; rw [← z, h.t] at this; exact absurd this (by decide)
theorem Cxt.next {E : En} {σ : Sg} {r N : Nat} {B : Nat → Int32} (h : Cxt E σ r N B) {a : Nat} (ha : a ≤ N) {f o n s : Int32} {w : Option Nat} : CtE E mX2_next 8 [.ref r] (NXP σ r o (lexM B N a)) (rdS σ r (nI a) f o n s w) := c_X2_next h.1 h.2.1 h.2.2.1 h.2.2.2.1 h.2.2.2.2.1 h.2.2.2.2.2 ha
/-- the reader's heap with a token at hand -/
abbrev RH (σ : Sg) (r : Nat) (L : Nat × Int32 × Int32 × Nat) (o n s : Int32) (w : Option Nat) : Sg := rdS σ r (nI L.2.2.2) (nI L.1) o n s w
abbrev TKL (σ : Sg) (L : Nat × Int32 × Int32 × Nat) (n s : Int32) (w : Option Nat) : Prop := TKp σ L.2.1 L.2.2.1 n s w
theorem isG_c {t : Int32} (h : isG t = true) : t = 40 ∨ t = 41 ∨ t = 59 ∨ t = 43 ∨ t = 45 ∨ t = 42 ∨ t = 60 ∨ t = 61 := by
  unfold isG at h
  simp only [Bool.or_eq_true, decide_eq_true_eq] at h
  rcases h with ((((((h | h) | h) | h) | h) | h) | h) | h
  · exact .inl h
  · exact .inr (.inl h)
  · exact .inr (.inr (.inl h))
  · exact .inr (.inr (.inr (.inl h)))
  · exact .inr (.inr (.inr (.inr (.inl h))))
  · exact .inr (.inr (.inr (.inr (.inr (.inl h)))))
  · exact .inr (.inr (.inr (.inr (.inr (.inr (.inl h))))))
  · exact .inr (.inr (.inr (.inr (.inr (.inr (.inr h))))))
theorem tokW_r : ∀ k, k ≤ 12 → tokW k = 3 ∨ tokW k = 2 ∨ tokW k = 4 ∨ tokW k = 5 ∨ tokW k = 6 ∨ tokW k = -1 := by decide +kernel
/-- the sign at hand is the token, if it is one -/
theorem TKp.s {σ : Sg} {t y n s : Int32} {w : Option Nat} (h : TKp σ t y n s w) {c : Int32} (hc : isG c = true) : s = c ↔ t = c := by
  have hg := isG_c hc
  have hm : c ≠ -1 ∧ c ≠ 0 ∧ c ≠ 1 ∧ c ≠ 2 ∧ c ≠ 3 ∧ c ≠ 4 ∧ c ≠ 5 ∧ c ≠ 6 := by
    rcases hg with rfl | rfl | rfl | rfl | rfl | rfl | rfl | rfl <;> decide
  rcases h with ⟨rfl, -, rfl, -⟩ | ⟨rfl, -, -, rfl, -⟩ | ⟨h, -, rfl, -⟩ | ⟨kx, b, Lt, q1, rfl, -, -, rfl, -⟩
  · exact ⟨fun z => absurd z.symm hm.1, fun z => absurd z.symm hm.2.1⟩
  · exact ⟨fun z => absurd z.symm hm.1, fun z => absurd z.symm hm.2.2.1⟩
  · exact Iff.rfl
  · refine ⟨fun z => absurd z.symm hm.1, fun z => ?_⟩
    rcases tokW_r kx q1 with h | h | h | h | h | h <;> rw [h] at z
    · exact absurd z.symm hm.2.2.2.2.1
    · exact absurd z.symm hm.2.2.2.1
    · exact absurd z.symm hm.2.2.2.2.2.1
    · exact absurd z.symm hm.2.2.2.2.2.2.1
    · exact absurd z.symm hm.2.2.2.2.2.2.2
    · exact absurd z.symm hm.1
theorem TKp.n {σ : Sg} {t y n s : Int32} {w : Option Nat} (h : TKp σ t y n s w) : (¬ n = -1 ↔ t = 1) ∧ (t = 1 → n = y ∧ ∃ k, k < 10000 ∧ y = nI k) := by
  rcases h with ⟨rfl, rfl, -, -⟩ | ⟨rfl, rfl, ⟨k, hk, rfl⟩, -, -⟩ | ⟨h, rfl, -, -⟩ | ⟨kx, b, Lt, q1, rfl, -, rfl, -⟩
  · exact ⟨⟨fun z => absurd rfl z, fun z => absurd z (by decide)⟩, fun z => absurd z (by decide)⟩
  · refine ⟨⟨fun _ => rfl, fun _ z => ?_⟩, fun _ => ⟨rfl, k, hk, rfl⟩⟩
    have h9 := congrArg Int32.toInt z
    rw [nI_toInt (by omega)] at h9
    have h8 : ((k : Nat) : Int) = -1 := h9
    omega
  · have hg := isG_c h
    have : t ≠ 1 := by rcases hg with rfl | rfl | rfl | rfl | rfl | rfl | rfl | rfl <;> decide
    exact ⟨⟨fun z => absurd rfl z, fun z => absurd z this⟩, fun z => absurd z this⟩
  · have : tokW kx ≠ 1 := by rcases tokW_r kx q1 with h | h | h | h | h | h <;> rw [h] <;> decide
    exact ⟨⟨fun z => absurd rfl z, fun z => absurd z this⟩, fun z => absurd z this⟩
def isWd (k : Nat) (t y : Int32) : Bool := decide (t = tokW k ∧ y = valW k)
theorem wd_uq : ∀ j, j ≤ 12 → ∀ k, k < 12 → ((tokW j = tokW k ∧ valW j = valW k) ↔ j = k) := by decide +kernel
theorem tokW_k : ∀ k, k < 12 → tokW k ≠ 0 ∧ tokW k ≠ 1 ∧ isG (tokW k) = false := by decide +kernel
theorem c_X2_is {E : En} {σ : Sg} {r N : Nat} {B : Nat → Int32} (hx : Cxt E σ r N B) {a f o n s t y : Int32} {w : Option Nat} (hk : TKp σ t y n s w) {k : Nat} (h12 : k < 12) : Ct E mX2_is 2 [.ref r, .ref (10 + k)] (.returned (some (.int (b2i (isWd k t y)))), rdS σ r a f o n s w) (rdS σ r a f o n s w) := by
  show V E mX2_is 2 _ 0 [some (.ref r), some (.ref (10 + k))] [] (rdS σ r a f o n s w)
  have hS : Stg (rdS σ r a f o n s w) (10 + k) (WL k) := (Stg.rd hx.t).mpr (hx.2.2.1.1 k h12)
  have hW : (WL k).length < 1000 := (show ∀ k, k < 12 → (WL k).length < 1000 by decide +kernel) k h12
  refine V.ald1 dX2_is_0 (V.ald0 dX2_is_1 (gR5 hx.t rfl dX2_is_2 ?_))
  have tk := tokW_k k h12
  rcases hk with ⟨rfl, -, -, rfl⟩ | ⟨rfl, -, -, -, rfl⟩ | ⟨h, -, -, rfl⟩ | ⟨kx, b, Lt, q1, rfl, rfl, -, -, rfl, q7, q8, q9, q10⟩
  · rw [show isWd k 0 y = false from decide_eq_false (fun z => tk.1 z.1.symm)]
    exact V.invV1r vX2_85 hS.1 dX2_is_5 n_J3_equals (V.iret dX2_is_8 rfl (nar_b _) rfl)
  · rw [show isWd k 1 y = false from decide_eq_false (fun z => tk.2.1 z.1.symm)]
    exact V.invV1r vX2_85 hS.1 dX2_is_5 n_J3_equals (V.iret dX2_is_8 rfl (nar_b _) rfl)
  · rw [show isWd k t y = false from decide_eq_false (fun z => by rw [z.1, tk.2.2] at h; exact Bool.noConfusion h)]
    exact V.invV1r vX2_85 hS.1 dX2_is_5 n_J3_equals (V.iret dX2_is_8 rfl (nar_b _) rfl)
  · have e : isWd k (tokW kx) (valW kx) = decide (WL k = Lt) := by
      unfold isWd
      exact decide_eq_decide.mpr ((wd_uq kx q1 k h12).trans ((q10 k h12).symm.trans eq_comm))
    rw [e]
    exact V.invV1r vX2_85 hS.1 dX2_is_5 (c_J3_equals hx.1 hS ((Stg.rd hx.t).mpr q8) q7 (by omega) hW (by omega)) (V.iret dX2_is_8 rfl (nar_b _) rfl)
/-- an opening sign -/
def OPP (σ : Sg) (r o : Nat) (L : Nat × Int32 × Int32 × Nat) (L' : Nat × Int32 × Int32 × Nat) : Outcome → Sg → Prop := fun oc s9 => (o = 5 ∧ FLp σ r L.1 1 7 oc s9) ∨ (¬ o = 5 ∧ NXP σ r (nI (o + 1)) L' oc s9)
theorem c_X2_opens {E : En} {σ : Sg} {r N : Nat} {B : Nat → Int32} (hx : Cxt E σ r N B) {o : Nat} (ho : o ≤ 5) {L : Nat × Int32 × Int32 × Nat} (hL : L.2.2.2 ≤ N) {n s : Int32} {w : Option Nat} : CtE E mX2_opens 9 [.ref r] (OPP σ r o L (lexM B N L.2.2.2)) (RH σ r L (nI o) n s w) := by
  show VE E mX2_opens 9 _ 0 [some (.ref r)] [] (RH σ r L (nI o) n s w)
  refine VE.step (fun _ h => V.ald0 dX2_opens_0 (gR4 hx.t rfl dX2_opens_1 (V.iconst_5 dX2_opens_4 h))) ?_
  refine VE.icmp_ne (tgt := 13) dX2_opens_5 (by decide) (fun z => ?_) (fun z => ?_)
  · have h5 : ¬ o = 5 := fun y => z (by rw [y]; rfl)
    refine VE.step (fun _ h => V.ald0 dX2_opens_13 (V.dup dX2_opens_14 (gR4 hx.t rfl dX2_opens_15 (V.iconst_1 dX2_opens_18 (V.iadd dX2_opens_19 (pR4 hx.t hx.r rfl dX2_opens_20 (V.ald0 dX2_opens_23 h))))))) ?_
    rw [nI_1]
    refine VE.cR vX2_89 rfl hx.t dX2_opens_24 (by decide) (hx.next hL) (fun v s9 q9 => ?_) (fun a s9 q9 => .inr ⟨h5, q9⟩)
    rcases q9 with ⟨q1, q2⟩ | ⟨q1, q2⟩
    · cases q1
      exact VE.vret dX2_opens_27 rfl (.inr ⟨h5, .inl ⟨rfl, q2⟩⟩)
    · obtain ⟨_, _, _, _, _, _, _, _, h9, -⟩ := q2
      cases h9
  · have h5 : o = 5 := (nI_eq (by omega) (by decide)).mp z
    refine VE.step (fun _ h => V.ald0 dX2_opens_8 (V.invV0r vX2_73 hx.t dX2_opens_9 (c_X2_fault hx.2.1 hx.2.2.2.1 hx.t hx.ne) h)) ?_
    exact ⟨(.threw (sN σ), rdS (flt σ (nI L.1)) r (nI L.2.2.2) (nI L.1) (nI o) n s w), .inl ⟨h5, flt σ (nI L.1), sN σ, _, _, _, _, _, _, rfl, rfl, FG.flt hx.2.2.2.2.1, flt_t, hx.2.2.2.1, flt_c⟩, V.athrow (fun q hq => by cases hq) dX2_opens_12 rfl⟩
/-! ===== nodes ===== -/
theorem c_X4_init {E : En} {σ : Sg} {x y : Nat} (ht : (sT σ x).1 = 5) (hx : 1000 ≤ x) {b : Int32} (hb : b = 0 ∨ b = 1) : Ct E mX4_init 1 [.ref x, .int b, .ref y] (.returned none, pR (pI σ x 0 b) x 1 (some y)) σ := by
  show V E mX4_init 1 _ 0 [some (.ref x), some (.int b), some (.ref y)] [] σ
  exact V.ald0 dX4_init_0 (V.oinit q616 dX4_init_1 (V.ald0 dX4_init_4 (V.ild1 dX4_init_5 (pX4_7 rfl rfl ht hx dX4_init_6 (by rcases hb with rfl | rfl <;> exact ⟨rfl, rfl⟩) (V.ald0 dX4_init_9 (V.ald2 dX4_init_10 (pX4_13 (σ := pI σ x 0 b) rfl rfl ht hx dX4_init_11 (V.vret dX4_init_14 rfl rfl))))))))
theorem c_X5_init {E : En} {σ : Sg} {x : Nat} (ht : (sT σ x).1 = 6) (hx : 1000 ≤ x) {n m : Int32} : Ct E mX5_init 1 [.ref x, .int n, .int m] (.returned none, pI (pI σ x 0 n) x 1 m) σ := by
  show V E mX5_init 1 _ 0 [some (.ref x), some (.int n), some (.int m)] [] σ
  exact V.ald0 dX5_init_0 (V.oinit q641 dX5_init_1 (V.ald0 dX5_init_4 (V.ild1 dX5_init_5 (pX5_9 rfl rfl ht hx dX5_init_6 (V.ald0 dX5_init_9 (V.ild2 dX5_init_10 (pX5_15 (σ := pI σ x 0 n) rfl rfl ht hx dX5_init_11 (V.vret dX5_init_14 rfl rfl))))))))
def twoH (σ : Sg) (x : Nat) (s : Int32) (a b : Nat) : Sg := pR (pR (pI σ x 0 s) x 1 (some a)) x 2 (some b)
theorem c_X6_init {E : En} {σ : Sg} {x a b : Nat} (ht : (sT σ x).1 = 7) (hx : 1000 ≤ x) {s : Int32} : Ct E mX6_init 1 [.ref x, .int s, .ref a, .ref b] (.returned none, twoH σ x s a b) σ := by
  show V E mX6_init 1 _ 0 [some (.ref x), some (.int s), some (.ref a), some (.ref b)] [] σ
  exact V.ald0 dX6_init_0 (V.oinit q660 dX6_init_1 (V.ald0 dX6_init_4 (V.ild1 dX6_init_5 (pX6_7 rfl rfl ht hx dX6_init_6 (V.ald0 dX6_init_9 (V.ald2 dX6_init_10 (pX6_13 (σ := pI σ x 0 s) rfl rfl ht hx dX6_init_11 (V.ald0 dX6_init_14 (V.ald3 dX6_init_15 (pX6_17 (σ := pR (pI σ x 0 s) x 1 (some a)) rfl rfl ht hx dX6_init_16 (V.vret dX6_init_19 rfl rfl)))))))))))
/-- a tree made from address b on -/
def Tg (b : Nat) (σ : Sg) : Nat → Nat → List Int32 → Prop
  | 0, _, _ => False
  | d + 1, a, c => b ≤ a ∧ (((sT σ a).1 = 6 ∧ ((sI σ a 1 = -1 ∧ ∃ k, k < 10000 ∧ sI σ a 0 = nI k ∧ c = [nI (100000 + k)]) ∨ ∃ k, k < 6 ∧ sI σ a 1 = nI k ∧ c = [nI k])) ∨
      ((sT σ a).1 = 5 ∧ ∃ b1 c', sR σ a 1 = some b1 ∧ Tg b σ d b1 c' ∧ ((sI σ a 0 = 0 ∧ c = c' ++ [19]) ∨ (sI σ a 0 = 1 ∧ c = c' ++ [13]))) ∨
      ((sT σ a).1 = 7 ∧ ∃ b1 b2 c1 c2 sc, sR σ a 1 = some b1 ∧ sR σ a 2 = some b2 ∧ Tg b σ d b1 c1 ∧ Tg b σ d b2 c2 ∧ sc ∈ sgs ∧ sI σ a 0 = sc.1 ∧ c = c1 ++ c2 ++ [sc.2]))
theorem Tg.fg {b : Nat} {σ σ' : Sg} {m k : Nat} (hF : FG σ σ' m k) : ∀ (d a : Nat) (c : List Int32), Tg b σ d a c → Tg b σ' d a c
  | 0, _, _, h => h
  | d + 1, a, c, ⟨h0, h⟩ => by
    refine ⟨h0, ?_⟩
    rcases h with ⟨h1, h2⟩ | ⟨h1, b1, c', h2, h3, h4⟩ | ⟨h1, b1, b2, c1, c2, sc, h2, h3, h4, h5, h6, h7, h8⟩
    · have t := hF.2.2.2 a (by rw [h1]; decide)
      exact .inl ⟨by rw [t.1]; exact h1, by rw [t.2.2.1]; exact h2⟩
    · have t := hF.2.2.2 a (by rw [h1]; decide)
      exact .inr (.inl ⟨by rw [t.1]; exact h1, b1, c', by rw [t.2.1]; exact h2, Tg.fg hF d b1 c' h3, by rw [t.2.2.1]; exact h4⟩)
    · have t := hF.2.2.2 a (by rw [h1]; decide)
      exact .inr (.inr ⟨by rw [t.1]; exact h1, b1, b2, c1, c2, sc, by rw [t.2.1]; exact h2, by rw [t.2.1]; exact h3, Tg.fg hF d b1 c1 h4, Tg.fg hF d b2 c2 h5, h6, by rw [t.2.2.1]; exact h7, h8⟩)
theorem Tg.up {b : Nat} {σ : Sg} : ∀ (d d' a : Nat) (c : List Int32), d ≤ d' → Tg b σ d a c → Tg b σ d' a c
  | 0, _, _, _, _, h => h.elim
  | d + 1, 0, _, _, hd, _ => by omega
  | d + 1, d' + 1, a, c, hd, ⟨h0, h⟩ => by
    refine ⟨h0, ?_⟩
    rcases h with h | ⟨h1, b1, c', h2, h3, h4⟩ | ⟨h1, b1, b2, c1, c2, sc, h2, h3, h4, h5, h6⟩
    · exact .inl h
    · exact .inr (.inl ⟨h1, b1, c', h2, Tg.up d d' b1 c' (by omega) h3, h4⟩)
    · exact .inr (.inr ⟨h1, b1, b2, c1, c2, sc, h2, h3, Tg.up d d' b1 c1 (by omega) h4, Tg.up d d' b2 c2 (by omega) h5, h6⟩)

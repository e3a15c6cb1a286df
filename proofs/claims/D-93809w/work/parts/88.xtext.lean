set_option maxRecDepth 100000
set_option maxHeartbeats 4000000
/-! ===== worlds by names that grow ===== -/
def okx (a : Nat) : Prop := a = 0 ∨ a = 45 ∨ (1 ≤ a ∧ a ≤ 3) ∨ (5 ≤ a ∧ a ≤ 9) ∨ (11 ≤ a ∧ a ≤ 12) ∨ (30 ≤ a ∧ a ≤ 33) ∨ (50 ≤ a ∧ a ≤ 57) ∨ (60 ≤ a ∧ a ≤ 65) ∨ (70 ≤ a ∧ a ≤ 75)
theorem xm_ok {id j : Nat} {q : Nat × Nat} (h : xm id j = some q) : okx q.1 := by
  unfold xm at h
  by_cases e : id = 100
  · rw [if_pos e] at h
    unfold xm0 at h
    by_cases e3 : j = 3
    · rw [if_pos e3] at h; cases h; unfold okx; dsimp only; omega
    rw [if_neg e3] at h
    by_cases e10 : j = 10
    · rw [if_pos e10] at h; cases h; unfold okx; dsimp only; omega
    rw [if_neg e10] at h
    by_cases e14 : j = 14
    · rw [if_pos e14] at h; cases h; unfold okx; dsimp only; omega
    rw [if_neg e14] at h
    by_cases e18 : j = 18
    · rw [if_pos e18] at h; cases h; unfold okx; dsimp only; omega
    rw [if_neg e18] at h
    by_cases e21 : j = 21
    · rw [if_pos e21] at h; cases h; unfold okx; dsimp only; omega
    rw [if_neg e21] at h
    by_cases e22 : j = 22
    · rw [if_pos e22] at h; cases h; unfold okx; dsimp only; omega
    rw [if_neg e22] at h
    by_cases e24 : j = 24
    · rw [if_pos e24] at h; cases h; unfold okx; dsimp only; omega
    rw [if_neg e24] at h
    by_cases e27 : j = 27
    · rw [if_pos e27] at h; cases h; unfold okx; dsimp only; omega
    rw [if_neg e27] at h
    by_cases e28 : j = 28
    · rw [if_pos e28] at h; cases h; unfold okx; dsimp only; omega
    rw [if_neg e28] at h
    cases h
  rw [if_neg e] at h
  by_cases e101 : id = 101
  · rw [if_pos e101] at h
    by_cases hj : j < 4
    · rw [if_pos hj] at h; cases h; unfold okx; dsimp only; omega
    · rw [if_neg hj] at h; cases h
  rw [if_neg e101] at h
  by_cases e102 : id = 102
  · rw [if_pos e102] at h
    by_cases hj : j < 4
    · rw [if_pos hj] at h; cases h; unfold okx; dsimp only; omega
    · rw [if_neg hj] at h; cases h
  rw [if_neg e102] at h
  by_cases e103 : id = 103
  · rw [if_pos e103] at h
    by_cases hj : j < 4
    · rw [if_pos hj] at h; cases h; unfold okx; dsimp only; omega
    · rw [if_neg hj] at h; cases h
  rw [if_neg e103] at h
  by_cases e106 : id = 106
  · rw [if_pos e106] at h
    by_cases hj : j < 6
    · rw [if_pos hj] at h; cases h; unfold okx; dsimp only; omega
    · rw [if_neg hj] at h; cases h
  rw [if_neg e106] at h
  by_cases e107 : id = 107
  · rw [if_pos e107] at h
    by_cases hj : j < 6
    · rw [if_pos hj] at h; cases h; unfold okx; dsimp only; omega
    · rw [if_neg hj] at h; cases h
  rw [if_neg e107] at h
  by_cases e108 : id = 108
  · rw [if_pos e108] at h
    by_cases hj : j < 6
    · rw [if_pos hj] at h; cases h; unfold okx; dsimp only; omega
    · rw [if_neg hj] at h; cases h
  rw [if_neg e108] at h
  by_cases e109 : id = 109
  · rw [if_pos e109] at h
    by_cases hj : j < 6
    · rw [if_pos hj] at h; cases h; unfold okx; dsimp only; omega
    · rw [if_neg hj] at h; cases h
  rw [if_neg e109] at h
  by_cases e110 : id = 110
  · rw [if_pos e110] at h
    by_cases hj : j < 48
    · rw [if_pos hj] at h; cases h; unfold okx; dsimp only; omega
    · rw [if_neg hj] at h; cases h
  rw [if_neg e110] at h
  by_cases e112 : id = 112
  · rw [if_pos e112] at h
    by_cases hj : j < 6
    · rw [if_pos hj] at h; cases h; unfold okx; dsimp only; omega
    · rw [if_neg hj] at h; cases h
  rw [if_neg e112] at h
  by_cases e113 : id = 113
  · rw [if_pos e113] at h
    by_cases hj : j < 6
    · rw [if_pos hj] at h; cases h; unfold okx; dsimp only; omega
    · rw [if_neg hj] at h; cases h
  rw [if_neg e113] at h
  by_cases e114 : id = 114
  · rw [if_pos e114] at h
    by_cases hj : j < 6
    · rw [if_pos hj] at h; cases h; unfold okx; dsimp only; omega
    · rw [if_neg hj] at h; cases h
  rw [if_neg e114] at h
  by_cases e116 : id = 116
  · rw [if_pos e116] at h
    by_cases hj : j < 4
    · rw [if_pos hj] at h; cases h; unfold okx; dsimp only; omega
    · rw [if_neg hj] at h; cases h
  rw [if_neg e116] at h
  by_cases e117 : id = 117
  · rw [if_pos e117] at h
    by_cases hj : j < 4
    · rw [if_pos hj] at h; cases h; unfold okx; dsimp only; omega
    · rw [if_neg hj] at h; cases h
  rw [if_neg e117] at h
  by_cases e130 : id = 130
  · rw [if_pos e130] at h
    by_cases hj : j < 4
    · rw [if_pos hj] at h; cases h; unfold okx; dsimp only; omega
    · rw [if_neg hj] at h; cases h
  rw [if_neg e130] at h
  by_cases e131 : id = 131
  · rw [if_pos e131] at h
    by_cases hj : j < 4
    · rw [if_pos hj] at h; cases h; unfold okx; dsimp only; omega
    · rw [if_neg hj] at h; cases h
  rw [if_neg e131] at h
  by_cases e132 : id = 132
  · rw [if_pos e132] at h
    by_cases hj : j < 4
    · rw [if_pos hj] at h; cases h; unfold okx; dsimp only; omega
    · rw [if_neg hj] at h; cases h
  rw [if_neg e132] at h
  by_cases e133 : id = 133
  · rw [if_pos e133] at h
    by_cases hj : j < 6
    · rw [if_pos hj] at h; cases h; unfold okx; dsimp only; omega
    · rw [if_neg hj] at h; cases h
  rw [if_neg e133] at h
  by_cases e134 : id = 134
  · rw [if_pos e134] at h
    by_cases hj : j < 6
    · rw [if_pos hj] at h; cases h; unfold okx; dsimp only; omega
    · rw [if_neg hj] at h; cases h
  rw [if_neg e134] at h
  by_cases e135 : id = 135
  · rw [if_pos e135] at h
    by_cases hj : j < 48
    · rw [if_pos hj] at h; cases h; unfold okx; dsimp only; omega
    · rw [if_neg hj] at h; cases h
  rw [if_neg e135] at h
  by_cases e136 : id = 136
  · rw [if_pos e136] at h
    by_cases hj : j < 4
    · rw [if_pos hj] at h; cases h; unfold okx; dsimp only; omega
    · rw [if_neg hj] at h; cases h
  rw [if_neg e136] at h
  by_cases e137 : id = 137
  · rw [if_pos e137] at h
    by_cases hj : j < 4
    · rw [if_pos hj] at h; cases h; unfold okx; dsimp only; omega
    · rw [if_neg hj] at h; cases h
  rw [if_neg e137] at h
  by_cases e138 : id = 138
  · rw [if_pos e138] at h
    by_cases hj : j < 4
    · rw [if_pos hj] at h; cases h; unfold okx; dsimp only; omega
    · rw [if_neg hj] at h; cases h
  rw [if_neg e138] at h
  by_cases e139 : id = 139
  · rw [if_pos e139] at h
    by_cases hj : j < 4
    · rw [if_pos hj] at h; cases h; unfold okx; dsimp only; omega
    · rw [if_neg hj] at h; cases h
  rw [if_neg e139] at h
  by_cases e140 : id = 140
  · rw [if_pos e140] at h
    by_cases hj : j < 240
    · rw [if_pos hj] at h; cases h; unfold okx; dsimp only; omega
    · rw [if_neg hj] at h; cases h
  rw [if_neg e140] at h
  cases h
/-- a name of x's that tells: it stands for a cell that is there, or for none -/
theorem XH.live {g : Ge} {σ : Sg} {w u : Wv} {n : Nat} {K : Nat → Nat} (h : XH g σ w u n K) (hG : XG g n) {a : Nat} (ha : okx a ∨ a = 39) : a ∉ g.2 ∨ (sT σ (g.1 a)).1 ≠ 0 := by
  have A : ∀ f, xlen f ≠ 0 → a = 1 + f → (sT σ (g.1 a)).1 ≠ 0 := fun f hf e => by rw [e, (h.ai hf).2]; exact (by decide : (101 : Nat) ≠ 0)
  have Bt : ∀ f, xbl f ≠ 0 → a = 1 + f → (sT σ (g.1 a)).1 ≠ 0 := fun f hf e => by rw [e, (h.bi hf).2]; exact (by decide : (102 : Nat) ≠ 0)
  rcases ha with ha | ha
  · unfold okx at ha
    by_cases h0 : a = 0
    · rw [h0, h.t0]; exact .inr (by decide)
    by_cases h45 : a = 45
    · rw [h45, h.li.2.1]; exact .inr (by decide)
    by_cases h5 : 50 ≤ a ∧ a ≤ 53
    · have := (h.si (i := a - 50) (by omega)).2.1
      rw [show 50 + (a - 50) = a by omega] at this
      rw [this]; exact .inr (by decide)
    by_cases h54 : 54 ≤ a ∧ a ≤ 57
    · have := (h.si (i := a - 54) (by omega)).2.2.2
      rw [show 54 + (a - 54) = a by omega] at this
      rw [this]; exact .inr (by decide)
    by_cases h6 : 60 ≤ a ∧ a ≤ 65
    · by_cases hn : a - 60 < n
      · have := (h.1.2.2.2.2.2.1 (a - 60) hn).2.1
        rw [show 60 + (a - 60) = a by omega] at this
        rw [this]; exact .inr (by omega)
      · have := (hG (a - 60) (by omega) (by omega)).1
        rw [show 60 + (a - 60) = a by omega] at this
        exact .inl this
    by_cases h7 : 70 ≤ a ∧ a ≤ 75
    · by_cases hn : a - 70 < n
      · have := (h.1.2.2.2.2.2.1 (a - 70) hn).2.2.2.2
        rw [show 70 + (a - 70) = a by omega] at this
        rw [this]; exact .inr (by decide)
      · have := (hG (a - 70) (by omega) (by omega)).2
        rw [show 70 + (a - 70) = a by omega] at this
        exact .inl this
    refine .inr ?_
    rcases (show a = 1 ∨ a = 2 ∨ a = 3 ∨ a = 5 ∨ a = 6 ∨ a = 7 ∨ a = 8 ∨ a = 9 ∨ a = 11 ∨ a = 12 ∨ a = 30 ∨ a = 31 ∨ a = 32 ∨ a = 33 by omega) with e | e | e | e | e | e | e | e | e | e | e | e | e | e
    · exact A 0 (by decide) e
    · exact A 1 (by decide) e
    · exact A 2 (by decide) e
    · exact A 4 (by decide) e
    · exact A 5 (by decide) e
    · exact A 6 (by decide) e
    · exact A 7 (by decide) e
    · exact A 8 (by decide) e
    · exact A 10 (by decide) e
    · exact A 11 (by decide) e
    · exact A 29 (by decide) e
    · exact A 30 (by decide) e
    · exact A 31 (by decide) e
    · exact Bt 32 (by decide) e
  · exact .inr (Bt 38 (by decide) ha)
theorem XH.wk {g : Ge} {σ : Sg} {w w' u : Wv} {n : Nat} {K : Nat → Nat} (h : XH g σ w u n K) (hw : ∀ a, okx a ∨ a = 39 → w' a = w a) : XH g σ w' u n K := by
  obtain ⟨h1, ⟨v1, v2, v3, v4⟩, h3, h4⟩ := h
  have e0 := hw 0 (.inl (.inl rfl))
  refine ⟨h1, ⟨fun id j q hq => ?_, ?_, ?_, ?_⟩, ⟨h3.1, ?_⟩, fun i hi => ⟨(h4 i hi).1, ?_⟩⟩
  · rw [hw q.1 (.inl (xm_ok hq))]; exact v1 id j q hq
  · unfold hatP at v2 ⊢; rw [e0]; exact v2
  · unfold imgP at v3 ⊢; rw [e0]; exact v3
  · intro j hj; rw [hw 39 (.inr rfl)]; exact v4 j hj
  · rw [hw 45 (.inl (.inr (.inl rfl)))]; exact h3.2
  · have := h3.1
    rw [hw (60 + i) (.inl (by unfold okx; omega))]; exact (h4 i hi).2
theorem S_fg {g : Ge} (hg : Gok g) {σ H : Sg} {w : Wv} {b c : Nat} (hF : FG (S g σ w) H b c) : ∃ (σ1 : Sg) (w' : Wv), H = S g σ1 w' ∧ FG σ σ1 b c ∧ ∀ k, k ∉ g.2 ∨ (sT σ (g.1 k)).1 ≠ 0 → w' k = w k := by
  have key : ∀ x, (sT σ x).1 ≠ 0 → sT H x = sT σ x ∧ sR H x = sR σ x ∧ sI H x = vset g (sI σ) w x ∧ sL H x = sL σ x := fun x hx => hF.2.2.2 x hx
  refine ⟨(sN H, sS H, sT H, fun x j => if (g.2.find? (fun k => g.1 k == x)).isSome then sI σ x j else sI H x j, sL H, sR H), fun k j => if k ∈ g.2 then sI H (g.1 k) j else w k j, sg_ext rfl rfl rfl ?_ rfl rfl, ⟨hF.1, hF.2.1, hF.2.2.1, fun x hx => ?_⟩, fun k hk => ?_⟩
  · funext x j
    show sI H x j = vset g (fun x j => if (g.2.find? (fun k => g.1 k == x)).isSome then sI σ x j else sI H x j) (fun k j => if k ∈ g.2 then sI H (g.1 k) j else w k j) x j
    unfold vset
    cases hf : g.2.find? (fun k => g.1 k == x) with
    | none => simp [hf]
    | some k =>
      have h1 := List.mem_of_find?_eq_some hf
      have h2 := List.find?_some hf
      simp only [beq_iff_eq] at h2
      show sI H x j = if k ∈ g.2 then sI H (g.1 k) j else w k j
      rw [if_pos h1, h2]
  · obtain ⟨q1, q2, q3, q4⟩ := key x hx
    refine ⟨q1, q2, ?_, q4⟩
    funext j
    show (if (g.2.find? (fun k => g.1 k == x)).isSome then sI σ x j else sI H x j) = sI σ x j
    cases hf : g.2.find? (fun k => g.1 k == x) with
    | some k => rfl
    | none =>
      show sI H x j = sI σ x j
      rw [q3]
      unfold vset
      rw [hf]
  · funext j
    show (if k ∈ g.2 then sI H (g.1 k) j else w k j) = w k j
    by_cases h1 : k ∈ g.2
    · rw [if_pos h1]
      rcases hk with h | h
      · exact absurd h1 h
      · rw [(key _ h).2.2.1, vset_at hg h1]
    · rw [if_neg h1]
/-! ===== the Strings of the start, old ones ===== -/
def Sto (σ : Sg) (a : Nat) (L : List Int32) : Prop := a < 1000 ∧ (sT σ a).1 = 18 ∧ sI σ a 1 = 0 ∧ ∃ b, b < 1000 ∧ sR σ a 0 = some b ∧ sT σ b = (102, L.length) ∧ ∀ i, i < L.length → sI σ b i = L.getD i 0
theorem Sto.g {σ : Sg} {a : Nat} {L : List Int32} (h : Sto σ a L) : Stg σ a L := ⟨h.2.1, h.2.2.1, by obtain ⟨b, -, h3⟩ := h.2.2.2; exact ⟨b, h3⟩⟩
theorem Sto.fg {σ σ' : Sg} {a b c : Nat} {L : List Int32} (h : Sto σ a L) (hF : FG σ σ' b c) : Sto σ' a L := by
  obtain ⟨h0, h1, h2, b, hb, h3, h4, h5⟩ := h
  have t := hF.2.2.2 a (by rw [h1]; decide)
  have t' := hF.2.2.2 b (by rw [h4]; exact (by decide : (102 : Nat) ≠ 0))
  exact ⟨h0, by rw [t.1]; exact h1, by rw [t.2.2.1]; exact h2, b, hb, by rw [t.2.1]; exact h3, by rw [t'.1]; exact h4, fun i hi => by rw [t'.2.2.1]; exact h5 i hi⟩
theorem Sto.s {g : Ge} (hg : Gok g) {σ : Sg} {w : Wv} {a : Nat} {L : List Int32} (h : Sto σ a L) : Sto (S g σ w) a L := by
  obtain ⟨h0, h1, h2, b, hb, h3, h4, h5⟩ := h
  exact ⟨h0, h1, by rw [S_lo hg h0]; exact h2, b, hb, h3, h4, fun i hi => by rw [S_lo hg hb]; exact h5 i hi⟩
def OSo (E : En) (σ : Sg) : Prop := (∀ k, k < 12 → Sto σ (10 + k) (WL k)) ∧ Sto σ 22 GLt ∧ (sT σ 4 = (108, 3) ∧ ∀ k, k < 3 → sR σ 4 k = some (10 + k)) ∧ (sT σ 5 = (108, 6) ∧ ∀ k, k < 6 → sR σ 5 k = some (13 + k)) ∧ (SV E "OverTheHeads" "KEYS" "[Ljava/lang/String;" (.ref 4) ∧ SV E "OverTheHeads" "NAMES" "[Ljava/lang/String;" (.ref 5)) ∧ SR E RX2 77 "();+-*<=" 22 ∧ SR E RX2 132 "not" 21 ∧ SR E RX2 139 "and" 20 ∧ SR E RX2 144 "or" 19
theorem OSo.os {E : En} {σ : Sg} (h : OSo E σ) : OS E σ := ⟨fun k hk => (h.1 k hk).g, h.2.1.g, h.2.2⟩
theorem OSo.fg {E : En} {σ σ' : Sg} {b c : Nat} (h : OSo E σ) (hF : FG σ σ' b c) : OSo E σ' := by
  obtain ⟨h1, h2, h3, h4, h5⟩ := h
  have t := hF.2.2.2 4 (by rw [h3.1]; decide)
  have t' := hF.2.2.2 5 (by rw [h4.1]; decide)
  exact ⟨fun k hk => (h1 k hk).fg hF, h2.fg hF, by rw [t.1, t.2.1]; exact h3, by rw [t'.1, t'.2.1]; exact h4, h5⟩
theorem OSo.s {E : En} {g : Ge} (hg : Gok g) {σ : Sg} {w : Wv} (h : OSo E σ) : OSo E (S g σ w) := ⟨fun k hk => (h.1 k hk).s hg, h.2.1.s hg, h.2.2⟩
/-! ===== a reader is made ===== -/
theorem pI_nop {σ : Sg} {a k : Nat} {v : Int32} (h : sI σ a k = v) : pI σ a k v = σ := sg_ext rfl rfl rfl (by
  funext x j
  show up2 (sI σ) a k v x j = sI σ x j
  unfold up2
  by_cases e : x = a ∧ j = k
  · rw [if_pos e, e.1, e.2, h]
  · rw [if_neg e]) rfl rfl
theorem c_X2_init {E : En} {τ : Sg} {r tb : Nat} (ht : (sT τ r).1 = 3) (hr : 1000 ≤ r) (h2 : sI τ r 2 = 0) (h3 : sI τ r 3 = 0) (h4 : sI τ r 4 = 0) {x : Int32} : Ct E mX2_init 1 [.ref r, .ref tb, .int x] (.returned none, pI (pR τ r 0 (some tb)) r 1 x) τ := by
  show V E mX2_init 1 _ 0 [some (.ref r), some (.ref tb), some (.int x)] [] τ
  refine V.ald0 dX2_init_0 (V.oinit q242 dX2_init_1 (V.ald0 dX2_init_4 (V.iconst_0 dX2_init_5 (pX2_9 rfl ht hr dX2_init_6 ?_))))
  rw [pI_nop h2]
  refine V.ald0 dX2_init_9 (V.iconst_0 dX2_init_10 (pX2_15 rfl ht hr dX2_init_11 ?_))
  rw [pI_nop h3]
  refine V.ald0 dX2_init_14 (V.iconst_0 dX2_init_15 (pX2_18 rfl ht hr dX2_init_16 ?_))
  rw [pI_nop h4]
  exact V.ald0 dX2_init_19 (V.ald1 dX2_init_20 (pX2_21 rfl rfl ht hr dX2_init_21 (V.ald0 dX2_init_24 (V.ild2 dX2_init_25 (pX2_25 (σ := pR τ r 0 (some tb)) rfl rfl ht hr dX2_init_26 (V.vret dX2_init_29 rfl rfl))))))
/-- a new reader's heap -/
def rdN (τ : Sg) (tb : Nat) (x : Int32) : Sg := pI (pR (nW τ (3, 0) 8) (sN τ) 0 (some tb)) (sN τ) 1 x
theorem rdN_fg {τ : Sg} (hC : CLN τ) {tb : Nat} {x : Int32} : FG τ (rdN τ tb x) 1 8 := by
  have hz := hC (sN τ) (Nat.le_refl _)
  exact ((FG.n hC).pR hz).pI hz
theorem rd_self {σ : Sg} {r : Nat} {a f o n s : Int32} {w : Option Nat} (h2 : sI σ r 2 = a) (h3 : sI σ r 3 = f) (h4 : sI σ r 4 = o) (h6 : sI σ r 6 = n) (h7 : sI σ r 7 = s) (h5 : sR σ r 5 = w) : rdS σ r a f o n s w = σ := sg_ext rfl rfl rfl (by
    funext b j
    show rdI (sI σ) r a f o n s b j = _
    unfold rdI
    by_cases hb : b = r
    · subst hb
      by_cases e2 : j = 2
      · subst e2; simp [h2]
      by_cases e3 : j = 3
      · subst e3; simp [h3]
      by_cases e4 : j = 4
      · subst e4; simp [h4]
      by_cases e6 : j = 6
      · subst e6; simp [h6]
      by_cases e7 : j = 7
      · subst e7; simp [h7]
      simp [e2, e3, e4, e6, e7]
    · rw [if_neg hb]) rfl (by
    funext b j
    show rdR (sR σ) r w b j = _
    unfold rdR
    by_cases h : b = r ∧ j = 5
    · rw [if_pos h, h.1, h.2, h5]
    · rw [if_neg h])
theorem rdN_rd {τ : Sg} {tb : Nat} {x : Int32} : rdS (rdN τ tb x) (sN τ) (nI 0) 0 (nI 0) 0 0 none = rdN τ tb x := by
  have e : ∀ j, j ≠ 1 → sI (rdN τ tb x) (sN τ) j = 0 := fun j hj => by
    show up2 (up1 (sI τ) (sN τ) (fun _ => 0)) (sN τ) 1 x (sN τ) j = 0
    rw [up2_ne _ _ (fun z => hj z.2), up1_eq]
  refine rd_self (e 2 (by decide)) (e 3 (by decide)) (e 4 (by decide)) (e 6 (by decide)) (e 7 (by decide)) ?_
  show up2 (up1 (sR τ) (sN τ) (fun _ => none)) (sN τ) 0 (some tb) (sN τ) 5 = none
  rw [up2_ne _ _ (by simp), up1_eq]
theorem and255 (x : Int32) : ∃ k, k < 256 ∧ x &&& 255 = nI k := by
  refine ⟨(x &&& 255).toBitVec.toNat, ?_, Int32.toBitVec_inj.mp (by show _ = BitVec.ofNat 32 _; simp)⟩
  rw [Int32.toBitVec_and, BitVec.toNat_and]
  exact Nat.lt_of_le_of_lt Nat.and_le_right (by decide)
theorem rdN_RB {τ : Sg} (hC : CLN τ) (h1 : 1000 ≤ sN τ) {tb cap N : Nat} (hN : N ≤ 160) (ht : sT τ tb = (102, cap)) (hc : N ≤ cap) (hc2 : cap ≤ 1000) {B : Nat → Int32} (hB : ∀ i, i < N → sI τ tb i &&& 255 = B i) : RB (rdN τ tb (nI N)) (sN τ) N B := by
  have hz := hC (sN τ) (Nat.le_refl _)
  have hne : tb ≠ sN τ := fun z => by rw [← z, ht] at hz; exact absurd hz (show ¬ (102 : Nat) = 0 by decide)
  have t := (rdN_fg hC (tb := tb) (x := nI N)).2.2.2 tb (by rw [ht]; exact (by decide : (102 : Nat) ≠ 0))
  refine ⟨?_, h1, up2_eq _ _ _ _, hN, fun i hi => ?_, tb, cap, hne, ?_, by rw [t.1]; exact ht, hc, hc2, fun i hi => by rw [t.2.2.1]; exact hB i hi⟩
  · show (up1 (sT τ) (sN τ) (3, 0) (sN τ)).1 = 3
    rw [up1_eq]
  · obtain ⟨k, hk, e⟩ := and255 (sI τ tb i)
    exact ⟨k, hk, by rw [← hB i hi, e]⟩
  · show up2 (up1 (sR τ) (sN τ) (fun _ => none)) (sN τ) 0 (some tb) (sN τ) 0 = some tb
    rw [up2_eq]
theorem rdN_Cx {E : En} (hJ : JS E) (hU : EU E) {τ : Sg} (hO : OS E τ) (hC : CLN τ) (h1 : 1000 ≤ sN τ) {tb cap N : Nat} (hN : N ≤ 160) (ht : sT τ tb = (102, cap)) (hc : N ≤ cap) (hc2 : cap ≤ 1000) {B : Nat → Int32} (hB : ∀ i, i < N → sI τ tb i &&& 255 = B i) : Cxt E (rdN τ tb (nI N)) (sN τ) N B := by
  have F := rdN_fg hC (tb := tb) (x := nI N)
  exact ⟨hJ, hU, hO.fg F, Nat.le_trans h1 F.1.1, F.2.2.1, rdN_RB hC h1 hN ht hc hc2 hB⟩

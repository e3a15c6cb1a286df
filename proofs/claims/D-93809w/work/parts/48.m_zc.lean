set_option maxRecDepth 100000
set_option maxHeartbeats 1000000
def EOP (g : Ge) (σ : Sg) (T : Nat) (w0 : Wv) (R : Nat × Option (List Int32 × Nat)) : Outcome → Sg → Prop := fun o s => match R.2 with
  | none => o = .returned (some (.int 0)) ∧ ∃ w' K' C' a' t y, s = S g σ w' ∧ SYR T w0 w' K' C' a' R.1 t y
  | some U => o = .returned (some (.int 1)) ∧ ∃ w' t y, s = S g σ w' ∧ SYR T w0 w' [] U.1 U.2 R.1 t y
theorem EOP.no {g : Ge} {σ : Sg} {T : Nat} {w0 w : Wv} {b : Nat} {R : Nat × Option (List Int32 × Nat)} (hR : (b, none) = R) {K C : List Int32} {a : Nat} {t y : Int32} (h : SYR T w0 w K C a b t y) : EOP g σ T w0 R (.returned (some (.int 0))) (S g σ w) := by
  subst hR
  exact ⟨rfl, _, _, _, _, _, _, rfl, h⟩
theorem EOP.ye {g : Ge} {σ : Sg} {T : Nat} {w0 w : Wv} {b e : Nat} {C : List Int32} {R : Nat × Option (List Int32 × Nat)} (hR : (b, some (C, e)) = R) {t y : Int32} (h : SYR T w0 w [] C e b t y) : EOP g σ T w0 R (.returned (some (.int 1))) (S g σ w) := by
  subst hR
  exact ⟨rfl, _, _, _, rfl, h⟩
theorem unw_top {l : Int32} : ∀ (K C : List Int32) {q : Int32} {K' : List Int32}, (unw l K C).1 = q :: K' → rk q < l
  | [], C, q, K', h => by simp [unw] at h
  | s :: K, C, q, K', h => by
    rw [unw] at h
    split at h
    · rename_i h1
      have := List.cons.inj h
      rw [← this.1]; exact h1
    · exact unw_top K _ h
theorem rk_1 {q : Int32} (h : rk q < 1) : q = 0 := by
  unfold rk at h
  split at h
  · assumption
  · exfalso
    repeat (split at h; exact absurd h (by decide))
    all_goals first | exact absurd h (by decide) | skip
    all_goals (split at h <;> first | exact absurd h (by decide) | (split at h <;> first | exact absurd h (by decide) | (split at h <;> exact absurd h (by decide))))
theorem sg_ok {t : Int32} (h : ¬ sgO t = -1) : 0 < rk (sgO t) ∧ isO (sgO t) = false := by
  unfold sgO at h ⊢
  split
  · decide
  · split
    · decide
    · split
      · decide
      · split
        · decide
        · split
          · decide
          · split
            · decide
            · split
              · decide
              · rename_i h1 h2 h3 h4 h5 h6 h7
                exact absurd (by rw [if_neg h1, if_neg h2, if_neg h3, if_neg h4, if_neg h5, if_neg h6, if_neg h7]) h
theorem oO_no {E : En} {g : Ge} {σ : Sg} {w : Wv} (hW : WM g σ) {T : Nat} {w0 : Wv} {K C : List Int32} {a b : Nat} {t y : Int32} (hT : w0 100 21 = nI T) (hT6 : T < 6) (hy : SYR T w0 w K C a b t y) {s9 : Int32} (hs : isO s9 = true) (hl : K.length + C.length + 1 ≤ 180) (h5 : cntO K = 5) : CtE E mX7_opensOne 1 [.ref (g.1 100), .int s9] (PR (.int (b2i false)) (fun s => s = S g σ w)) (S g σ w) := by
  obtain ⟨out, h, hv⟩ := c_X7_opensOne (E := E) hW hT hT6 hy hs hl
  refine ⟨out, ?_, hv⟩
  rcases h with ⟨_, h1, h2⟩ | ⟨h1, _⟩
  · exact ⟨h1, h2⟩
  · exact absurd h5 h1
theorem oO_ye {E : En} {g : Ge} {σ : Sg} {w : Wv} (hW : WM g σ) {T : Nat} {w0 : Wv} {K C : List Int32} {a b : Nat} {t y : Int32} (hT : w0 100 21 = nI T) (hT6 : T < 6) (hy : SYR T w0 w K C a b t y) {s9 : Int32} (hs : isO s9 = true) (hl : K.length + C.length + 1 ≤ 180) (h5 : ¬ cntO K = 5) : CtE E mX7_opensOne 1 [.ref (g.1 100), .int s9] (PR (.int (b2i true)) (fun s => ∃ w', s = S g σ w' ∧ SYR T w0 w' (s9 :: K) C a b t y)) (S g σ w) := by
  obtain ⟨out, h, hv⟩ := c_X7_opensOne (E := E) hW hT hT6 hy hs hl
  refine ⟨out, ?_, hv⟩
  rcases h with ⟨h1, _⟩ | ⟨_, h1, h2⟩
  · exact absurd h1 h5
  · exact ⟨h1, h2⟩
theorem bT_no {E : En} {g : Ge} {σ : Sg} {w : Wv} (hW : WM g σ) {T : Nat} {w0 : Wv} {K C : List Int32} {a b : Nat} {t y : Int32} (hT : w0 100 21 = nI T) (hT6 : T < 6) (hy : SYR T w0 w K C a b t y) {s9 : Int32} (hs : 0 < rk s9) (hso : isO s9 = false) (hl : K.length + C.length + 1 ≤ 180) (h5 : btw s9 K C = none) : CtE E mX7_between 2 [.ref (g.1 100), .int s9] (PR (.int (b2i false)) (fun s => ∃ w', s = S g σ w' ∧ ∃ K' C', SYR T w0 w' K' C' a b t y)) (S g σ w) := by
  obtain ⟨out, h, hv⟩ := c_X7_between (E := E) hW hT hT6 hy hs hso hl
  refine ⟨out, ?_, hv⟩
  rcases h with ⟨_, h1, h2⟩ | ⟨U, h1, _⟩
  · exact ⟨h1, h2⟩
  · rw [h5] at h1; exact absurd h1 (by simp)
theorem bT_ye {E : En} {g : Ge} {σ : Sg} {w : Wv} (hW : WM g σ) {T : Nat} {w0 : Wv} {K C : List Int32} {a b : Nat} {t y : Int32} (hT : w0 100 21 = nI T) (hT6 : T < 6) (hy : SYR T w0 w K C a b t y) {s9 : Int32} (hs : 0 < rk s9) (hso : isO s9 = false) (hl : K.length + C.length + 1 ≤ 180) {U : List Int32 × List Int32} (h5 : btw s9 K C = some U) : CtE E mX7_between 2 [.ref (g.1 100), .int s9] (PR (.int (b2i true)) (fun s => ∃ w', s = S g σ w' ∧ SYR T w0 w' U.1 U.2 a b t y)) (S g σ w) := by
  obtain ⟨out, h, hv⟩ := c_X7_between (E := E) hW hT hT6 hy hs hso hl
  refine ⟨out, ?_, hv⟩
  rcases h with ⟨h1, _⟩ | ⟨U', h1, h2, h3⟩
  · rw [h5] at h1; exact absurd h1 (by simp)
  · rw [h5] at h1; obtain rfl := Option.some.inj h1; exact ⟨h2, h3⟩
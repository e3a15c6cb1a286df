set_option maxRecDepth 100000
set_option maxHeartbeats 4000000
/-! ===== a list's add ===== -/
def EMP (E : En) (σ : Sg) : Prop := SV E "java/util/ArrayList" "DEFAULTCAPACITY_EMPTY_ELEMENTDATA" "[Ljava/lang/Object;" (.ref 1) ∧ sT σ 1 = (104, 0)
def ObjE (σ : Sg) (e : Nat) : Prop := ∃ (c : Nat) (q : vw_C), (sT σ e).1 = c + 1 ∧ c < 100 ∧ cls[c]? = some q ∧ CSb q.1 "java/lang/Object"
theorem add2_hi {E : En} {τ : Sg} {l D e n cap : Nat} (ht : (sT τ l).1 = 17) (hl : 1000 ≤ l) (hD : sT τ D = (104, cap)) (hD1 : 1000 ≤ D) (hn : n < cap) (hc : cap ≤ 10) (he : ObjE τ e) : Ct E mJ2_add_2 5 [.ref l, .ref e, .ref D, .int (nI n)] (.returned none, pI (pR τ D n (some e)) l 2 (nI (n + 1))) τ := by
  obtain ⟨c, q, e1, e2, e3, e4⟩ := he
  show V E mJ2_add_2 5 _ 0 [some (.ref l), some (.ref e), some (.ref D), some (.int (nI n))] [] τ
  refine V.ild3 dJ2_add_2_0 (V.ald2 dJ2_add_2_1 (V.alen (t := 103) hD (by decide) (by decide) dJ2_add_2_2 (V.icmp_ne (tgt := 11) dJ2_add_2_3 (by decide) (fun _ => ?_) (fun z => absurd ((nI_eq (by omega) (by omega)).mp z) (by omega)))))
  refine V.ald2 dJ2_add_2_11 (V.ild3 dJ2_add_2_12 (V.ald1 dJ2_add_2_13 (V.aast (t := 103) hD (by decide) (by decide) hD1 rfl (IX.n hn (by omega)) e1 e2 e3 e4 dJ2_add_2_14 (V.ald0 dJ2_add_2_15 (V.ild3 dJ2_add_2_16 (V.iconst_1 dJ2_add_2_17 (V.iadd dJ2_add_2_18 ?_)))))))
  rw [nI_1]
  exact pJ2_48 (σ := pR τ D n (some e)) rfl ht hl dJ2_add_2_19 (V.vret dJ2_add_2_22 rfl rfl)
theorem add_hi {E : En} {τ : Sg} {l D e n cap : Nat} (ht : (sT τ l).1 = 17) (hl : 1000 ≤ l) (hr : sR τ l 1 = some D) (hD : sT τ D = (104, cap)) (hD1 : 1000 ≤ D) (hsz : sI τ l 2 = nI n) (hn : n < cap) (hc : cap ≤ 10) (he : ObjE τ e) : Ct E mJ2_add 6 [.ref l, .ref e] (.returned (some (.int 1)), pI (pR (pI τ l 0 (sI τ l 0 + 1)) D n (some e)) l 2 (nI (n + 1))) τ := by
  show V E mJ2_add 6 _ 0 [some (.ref l), some (.ref e)] [] τ
  have hs2 : sI (pI τ l 0 (sI τ l 0 + 1)) l 2 = nI n := by
    show up2 (sI τ) l 0 _ l 2 = nI n
    rw [up2_ne _ _ (by simp)]; exact hsz
  refine V.ald0 dJ2_add_0 (V.dup dJ2_add_1 (gJ2_63 rfl ht dJ2_add_2 (V.iconst_1 dJ2_add_5 (V.iadd dJ2_add_6 (pJ2_63 rfl ht hl dJ2_add_7 (V.ald0 dJ2_add_10 (V.ald1 dJ2_add_11 (V.ald0 dJ2_add_12 (gJ2_9 (σ := pI τ l 0 (sI τ l 0 + 1)) rfl ht dJ2_add_13 hr (V.ald0 dJ2_add_16 (gJ2_48 (σ := pI τ l 0 (sI τ l 0 + 1)) rfl ht dJ2_add_17 ?_)))))))))))
  rw [hs2]
  exact V.invV3v vJ2_131 ht dJ2_add_20 (add2_hi (τ := pI τ l 0 (sI τ l 0 + 1)) ht hl hD hD1 hn hc he) (V.iconst_1 dJ2_add_23 (V.iret dJ2_add_24 rfl (nar_b true) rfl))
def grwH (τ : Sg) (l : Nat) : Sg := pR (nW τ (104, 10) 10) l 1 (some (sN τ))
theorem grow_lo {E : En} {τ : Sg} {l : Nat} (hE : EMP E τ) (ht : (sT τ l).1 = 17) (hl : 1000 ≤ l) (hne : l ≠ sN τ) (hr : sR τ l 1 = some 1) (hsz : sI τ l 2 = nI 0) : Ct E mJ2_grow 4 [.ref l] (.returned (some (.ref (sN τ))), grwH τ l) τ := by
  have h2 : Ct E mJ2_grow_2 3 [.ref l, .int (nI 1)] (.returned (some (.ref (sN τ))), grwH τ l) τ := by
    show V E mJ2_grow_2 3 _ 0 [some (.ref l), some (.int (nI 1)), none, none] [] τ
    refine V.ald0 dJ2_grow_2_0 (gJ2_9 rfl ht dJ2_grow_2_1 hr (V.alen (t := 103) hE.2 (by decide) (by decide) dJ2_grow_2_4 (V.ist2 dJ2_grow_2_5 (V.ild2 dJ2_grow_2_6 (V.if_gt (tgt := 20) dJ2_grow_2_7 (by decide) (fun z => absurd z (by decide)) (fun _ => ?_))))))
    refine V.ald0 dJ2_grow_2_10 (gJ2_9 rfl ht dJ2_grow_2_11 hr (V.gets hE.1 q147 dJ2_grow_2_14 (V.acmp_eqS (tgt := 45) dJ2_grow_2_17 (by decide) ?_)))
    refine V.ald0 dJ2_grow_2_45 (V.bipush (v := 10) dJ2_grow_2_46 (by decide) (V.ild1 dJ2_grow_2_48 (V.invS2r sJ2_79 dJ2_grow_2_49 c_J10_max ?_)))
    rw [show maxI 10 (nI 1) = 10 from by decide]
    refine V.anew (t := 103) (n := 10) (by decide) (by decide) rfl q985 q982 ⟨by decide, by decide⟩ (by decide) dJ2_grow_2_52 (V.dup_x1 dJ2_grow_2_55 (pJ2_9 (σ := nW τ (104, 10) 10) rfl ?_ hl dJ2_grow_2_56 (V.aret (o := some (sN τ)) dJ2_grow_2_59 rfl rfl rfl)))
    show (up1 (sT τ) (sN τ) (104, 10) l).1 = 17
    rw [up1_ne _ _ hne]; exact ht
  show V E mJ2_grow 4 _ 0 [some (.ref l)] [] τ
  refine V.ald0 dJ2_grow_0 (V.ald0 dJ2_grow_1 (gJ2_48 rfl ht dJ2_grow_2 (V.iconst_1 dJ2_grow_5 (V.iadd dJ2_grow_6 ?_))))
  rw [hsz, nI_1]
  exact V.invV1r vJ2_69 ht dJ2_grow_7 h2 (V.aret (o := some (sN τ)) dJ2_grow_10 rfl rfl rfl)
theorem add_lo {E : En} {τ : Sg} {l e : Nat} (hE : EMP E τ) (ht : (sT τ l).1 = 17) (hl : 1000 ≤ l) (hne : l ≠ sN τ) (h1 : 1000 ≤ sN τ) (hr : sR τ l 1 = some 1) (hsz : sI τ l 2 = nI 0) (he : ObjE τ e) (hen : e ≠ sN τ) : Ct E mJ2_add 6 [.ref l, .ref e] (.returned (some (.int 1)), pI (pR (grwH (pI τ l 0 (sI τ l 0 + 1)) l) (sN τ) 0 (some e)) l 2 (nI 1)) τ := by
  obtain ⟨c, q, e1, e2, e3, e4⟩ := he
  have hs2 : sI (pI τ l 0 (sI τ l 0 + 1)) l 2 = nI 0 := by
    show up2 (sI τ) l 0 _ l 2 = nI 0
    rw [up2_ne _ _ (by simp)]; exact hsz
  generalize hτ1 : pI τ l 0 (sI τ l 0 + 1) = τ1
  have hT1 : sT τ1 = sT τ := by rw [← hτ1]
  have hR1 : sR τ1 = sR τ := by rw [← hτ1]
  have hN1 : sN τ1 = sN τ := by rw [← hτ1]
  rw [hτ1] at hs2
  have ht1 : (sT τ1 l).1 = 17 := by rw [hT1]; exact ht
  have tg : ∀ x, x ≠ sN τ → sT (grwH τ1 l) x = sT τ x := fun x hx => by
    show up1 (sT τ1) (sN τ1) (104, 10) x = _
    rw [hN1, up1_ne _ _ hx, hT1]
  have tA : sT (grwH τ1 l) (sN τ) = (104, 10) := by
    show up1 (sT τ1) (sN τ1) (104, 10) (sN τ) = _
    rw [hN1, up1_eq]
  have hA2 : Ct E mJ2_add_2 5 [.ref l, .ref e, .ref 1, .int (nI 0)] (.returned none, pI (pR (grwH τ1 l) (sN τ) 0 (some e)) l 2 (nI 1)) τ1 := by
    show V E mJ2_add_2 5 _ 0 [some (.ref l), some (.ref e), some (.ref 1), some (.int (nI 0))] [] τ1
    refine V.ild3 dJ2_add_2_0 (V.ald2 dJ2_add_2_1 (V.alen (t := 103) (show sT τ1 1 = (104, 0) by rw [hT1]; exact hE.2) (by decide) (by decide) dJ2_add_2_2 (V.icmp_ne (tgt := 11) dJ2_add_2_3 (by decide) (fun z => absurd rfl z) (fun _ => ?_))))
    refine V.ald0 dJ2_add_2_6 (V.invV0r vJ2_129 ht1 dJ2_add_2_7 (grow_lo (τ := τ1) ⟨hE.1, by rw [hT1]; exact hE.2⟩ ht1 hl (by rw [hN1]; exact hne) (by rw [hR1]; exact hr) hs2) (V.ast2 dJ2_add_2_10 ?_))
    rw [hN1]
    refine V.ald2 dJ2_add_2_11 (V.ild3 dJ2_add_2_12 (V.ald1 dJ2_add_2_13 (V.aast (σ := grwH τ1 l) (t := 103) tA (by decide) (by decide) h1 rfl (IX.n (j := 0) (by decide) (by decide)) (show (sT (grwH τ1 l) e).1 = c + 1 by rw [tg e hen]; exact e1) e2 e3 e4 dJ2_add_2_14 (V.ald0 dJ2_add_2_15 (V.ild3 dJ2_add_2_16 (V.iconst_1 dJ2_add_2_17 (V.iadd dJ2_add_2_18 ?_)))))))
    rw [nI_1]
    exact pJ2_48 (σ := pR (grwH τ1 l) (sN τ) 0 (some e)) rfl (show (sT (grwH τ1 l) l).1 = 17 by rw [tg l hne]; exact ht) hl dJ2_add_2_19 (V.vret dJ2_add_2_22 rfl rfl)
  show V E mJ2_add 6 _ 0 [some (.ref l), some (.ref e)] [] τ
  refine V.ald0 dJ2_add_0 (V.dup dJ2_add_1 (gJ2_63 rfl ht dJ2_add_2 (V.iconst_1 dJ2_add_5 (V.iadd dJ2_add_6 (pJ2_63 rfl ht hl dJ2_add_7 ?_)))))
  rw [hτ1]
  refine V.ald0 dJ2_add_10 (V.ald1 dJ2_add_11 (V.ald0 dJ2_add_12 (gJ2_9 (σ := τ1) rfl ht1 dJ2_add_13 (by rw [hR1]; exact hr) (V.ald0 dJ2_add_16 (gJ2_48 (σ := τ1) rfl ht1 dJ2_add_17 ?_)))))
  rw [hs2]
  exact V.invV3v vJ2_131 ht1 dJ2_add_20 hA2 (V.iconst_1 dJ2_add_23 (V.iret dJ2_add_24 rfl (nar_b true) rfl))
def XC (n id j : Nat) (q : Nat × Nat) : Prop := (id = 106 ∧ j < 6 ∧ q = (60 + j, 1)) ∨ (id = 107 ∧ j < 6 ∧ q = (60 + j, 2)) ∨ (id = 108 ∧ j < 6 ∧ q = (5, j)) ∨ (id = 109 ∧ j < 6 ∧ q = (6, j)) ∨ (id = 110 ∧ j < 48 ∧ q = (70 + j / 8, j % 8)) ∨ (id = 100 ∧ j = 3 ∧ q = (45, 2)) ∨ (id ≠ 105 ∧ id ≠ 106 ∧ id ≠ 107 ∧ ¬ (id = 100 ∧ j = 3) ∧ q.1 ≠ 45 ∧ q.1 ≠ 5 ∧ q.1 ≠ 6 ∧ q.1 < 58)
theorem xm_cl {n id j : Nat} {q : Nat × Nat} (h : xm id j = some q) : XC n id j q := by
  have OT : id ≠ 105 → id ≠ 106 → id ≠ 107 → ¬ (id = 100 ∧ j = 3) → q.1 ≠ 45 → q.1 ≠ 5 → q.1 ≠ 6 → q.1 < 58 → XC n id j q := fun a b c d e f g i => .inr (.inr (.inr (.inr (.inr (.inr ⟨a, b, c, d, e, f, g, i⟩)))))
  unfold xm at h
  by_cases e : id = 100
  · rw [if_pos e] at h
    unfold xm0 at h
    by_cases e3 : j = 3
    · rw [if_pos e3] at h; cases h; exact .inr (.inr (.inr (.inr (.inr (.inl ⟨e, e3, rfl⟩)))))
    rw [if_neg e3] at h
    by_cases e10 : j = 10
    · rw [if_pos e10] at h; cases h; exact OT (by omega) (by omega) (by omega) (by omega) (by decide) (by decide) (by decide) (by decide)
    rw [if_neg e10] at h
    by_cases e14 : j = 14
    · rw [if_pos e14] at h; cases h; exact OT (by omega) (by omega) (by omega) (by omega) (by decide) (by decide) (by decide) (by decide)
    rw [if_neg e14] at h
    by_cases e18 : j = 18
    · rw [if_pos e18] at h; cases h; exact OT (by omega) (by omega) (by omega) (by omega) (by decide) (by decide) (by decide) (by decide)
    rw [if_neg e18] at h
    by_cases e21 : j = 21
    · rw [if_pos e21] at h; cases h; exact OT (by omega) (by omega) (by omega) (by omega) (by decide) (by decide) (by decide) (by decide)
    rw [if_neg e21] at h
    by_cases e22 : j = 22
    · rw [if_pos e22] at h; cases h; exact OT (by omega) (by omega) (by omega) (by omega) (by decide) (by decide) (by decide) (by decide)
    rw [if_neg e22] at h
    by_cases e24 : j = 24
    · rw [if_pos e24] at h; cases h; exact OT (by omega) (by omega) (by omega) (by omega) (by decide) (by decide) (by decide) (by decide)
    rw [if_neg e24] at h
    by_cases e27 : j = 27
    · rw [if_pos e27] at h; cases h; exact OT (by omega) (by omega) (by omega) (by omega) (by decide) (by decide) (by decide) (by decide)
    rw [if_neg e27] at h
    by_cases e28 : j = 28
    · rw [if_pos e28] at h; cases h; exact OT (by omega) (by omega) (by omega) (by omega) (by decide) (by decide) (by decide) (by decide)
    rw [if_neg e28] at h
    cases h
  rw [if_neg e] at h
  by_cases e101 : id = 101
  · rw [if_pos e101] at h
    by_cases hj : j < 4
    · rw [if_pos hj] at h; cases h; exact OT (by omega) (by omega) (by omega) (by omega) (by dsimp only; omega) (by dsimp only; omega) (by dsimp only; omega) (by dsimp only; omega)
    · rw [if_neg hj] at h; cases h
  rw [if_neg e101] at h
  by_cases e102 : id = 102
  · rw [if_pos e102] at h
    by_cases hj : j < 4
    · rw [if_pos hj] at h; cases h; exact OT (by omega) (by omega) (by omega) (by omega) (by dsimp only; omega) (by dsimp only; omega) (by dsimp only; omega) (by dsimp only; omega)
    · rw [if_neg hj] at h; cases h
  rw [if_neg e102] at h
  by_cases e103 : id = 103
  · rw [if_pos e103] at h
    by_cases hj : j < 4
    · rw [if_pos hj] at h; cases h; exact OT (by omega) (by omega) (by omega) (by omega) (by dsimp only; omega) (by dsimp only; omega) (by dsimp only; omega) (by dsimp only; omega)
    · rw [if_neg hj] at h; cases h
  rw [if_neg e103] at h
  by_cases e106 : id = 106
  · rw [if_pos e106] at h
    by_cases hj : j < 6
    · rw [if_pos hj] at h; cases h; exact .inl ⟨e106, hj, rfl⟩
    · rw [if_neg hj] at h; cases h
  rw [if_neg e106] at h
  by_cases e107 : id = 107
  · rw [if_pos e107] at h
    by_cases hj : j < 6
    · rw [if_pos hj] at h; cases h; exact .inr (.inl ⟨e107, hj, rfl⟩)
    · rw [if_neg hj] at h; cases h
  rw [if_neg e107] at h
  by_cases e108 : id = 108
  · rw [if_pos e108] at h
    by_cases hj : j < 6
    · rw [if_pos hj] at h; cases h; exact .inr (.inr (.inl ⟨e108, hj, rfl⟩))
    · rw [if_neg hj] at h; cases h
  rw [if_neg e108] at h
  by_cases e109 : id = 109
  · rw [if_pos e109] at h
    by_cases hj : j < 6
    · rw [if_pos hj] at h; cases h; exact .inr (.inr (.inr (.inl ⟨e109, hj, rfl⟩)))
    · rw [if_neg hj] at h; cases h
  rw [if_neg e109] at h
  by_cases e110 : id = 110
  · rw [if_pos e110] at h
    by_cases hj : j < 48
    · rw [if_pos hj] at h; cases h; exact .inr (.inr (.inr (.inr (.inl ⟨e110, hj, rfl⟩))))
    · rw [if_neg hj] at h; cases h
  rw [if_neg e110] at h
  by_cases e112 : id = 112
  · rw [if_pos e112] at h
    by_cases hj : j < 6
    · rw [if_pos hj] at h; cases h; exact OT (by omega) (by omega) (by omega) (by omega) (by dsimp only; omega) (by dsimp only; omega) (by dsimp only; omega) (by dsimp only; omega)
    · rw [if_neg hj] at h; cases h
  rw [if_neg e112] at h
  by_cases e113 : id = 113
  · rw [if_pos e113] at h
    by_cases hj : j < 6
    · rw [if_pos hj] at h; cases h; exact OT (by omega) (by omega) (by omega) (by omega) (by dsimp only; omega) (by dsimp only; omega) (by dsimp only; omega) (by dsimp only; omega)
    · rw [if_neg hj] at h; cases h
  rw [if_neg e113] at h
  by_cases e114 : id = 114
  · rw [if_pos e114] at h
    by_cases hj : j < 6
    · rw [if_pos hj] at h; cases h; exact OT (by omega) (by omega) (by omega) (by omega) (by dsimp only; omega) (by dsimp only; omega) (by dsimp only; omega) (by dsimp only; omega)
    · rw [if_neg hj] at h; cases h
  rw [if_neg e114] at h
  by_cases e116 : id = 116
  · rw [if_pos e116] at h
    by_cases hj : j < 4
    · rw [if_pos hj] at h; cases h; exact OT (by omega) (by omega) (by omega) (by omega) (by dsimp only; omega) (by dsimp only; omega) (by dsimp only; omega) (by dsimp only; omega)
    · rw [if_neg hj] at h; cases h
  rw [if_neg e116] at h
  by_cases e117 : id = 117
  · rw [if_pos e117] at h
    by_cases hj : j < 4
    · rw [if_pos hj] at h; cases h; exact OT (by omega) (by omega) (by omega) (by omega) (by dsimp only; omega) (by dsimp only; omega) (by dsimp only; omega) (by dsimp only; omega)
    · rw [if_neg hj] at h; cases h
  rw [if_neg e117] at h
  by_cases e130 : id = 130
  · rw [if_pos e130] at h
    by_cases hj : j < 4
    · rw [if_pos hj] at h; cases h; exact OT (by omega) (by omega) (by omega) (by omega) (by dsimp only; omega) (by dsimp only; omega) (by dsimp only; omega) (by dsimp only; omega)
    · rw [if_neg hj] at h; cases h
  rw [if_neg e130] at h
  by_cases e131 : id = 131
  · rw [if_pos e131] at h
    by_cases hj : j < 4
    · rw [if_pos hj] at h; cases h; exact OT (by omega) (by omega) (by omega) (by omega) (by dsimp only; omega) (by dsimp only; omega) (by dsimp only; omega) (by dsimp only; omega)
    · rw [if_neg hj] at h; cases h
  rw [if_neg e131] at h
  by_cases e132 : id = 132
  · rw [if_pos e132] at h
    by_cases hj : j < 4
    · rw [if_pos hj] at h; cases h; exact OT (by omega) (by omega) (by omega) (by omega) (by dsimp only; omega) (by dsimp only; omega) (by dsimp only; omega) (by dsimp only; omega)
    · rw [if_neg hj] at h; cases h
  rw [if_neg e132] at h
  by_cases e133 : id = 133
  · rw [if_pos e133] at h
    by_cases hj : j < 6
    · rw [if_pos hj] at h; cases h; exact OT (by omega) (by omega) (by omega) (by omega) (by dsimp only; omega) (by dsimp only; omega) (by dsimp only; omega) (by dsimp only; omega)
    · rw [if_neg hj] at h; cases h
  rw [if_neg e133] at h
  by_cases e134 : id = 134
  · rw [if_pos e134] at h
    by_cases hj : j < 6
    · rw [if_pos hj] at h; cases h; exact OT (by omega) (by omega) (by omega) (by omega) (by dsimp only; omega) (by dsimp only; omega) (by dsimp only; omega) (by dsimp only; omega)
    · rw [if_neg hj] at h; cases h
  rw [if_neg e134] at h
  by_cases e135 : id = 135
  · rw [if_pos e135] at h
    by_cases hj : j < 48
    · rw [if_pos hj] at h; cases h; exact OT (by omega) (by omega) (by omega) (by omega) (by dsimp only; omega) (by dsimp only; omega) (by dsimp only; omega) (by dsimp only; omega)
    · rw [if_neg hj] at h; cases h
  rw [if_neg e135] at h
  by_cases e136 : id = 136
  · rw [if_pos e136] at h
    by_cases hj : j < 4
    · rw [if_pos hj] at h; cases h; exact OT (by omega) (by omega) (by omega) (by omega) (by dsimp only; omega) (by dsimp only; omega) (by dsimp only; omega) (by dsimp only; omega)
    · rw [if_neg hj] at h; cases h
  rw [if_neg e136] at h
  by_cases e137 : id = 137
  · rw [if_pos e137] at h
    by_cases hj : j < 4
    · rw [if_pos hj] at h; cases h; exact OT (by omega) (by omega) (by omega) (by omega) (by dsimp only; omega) (by dsimp only; omega) (by dsimp only; omega) (by dsimp only; omega)
    · rw [if_neg hj] at h; cases h
  rw [if_neg e137] at h
  by_cases e138 : id = 138
  · rw [if_pos e138] at h
    by_cases hj : j < 4
    · rw [if_pos hj] at h; cases h; exact OT (by omega) (by omega) (by omega) (by omega) (by dsimp only; omega) (by dsimp only; omega) (by dsimp only; omega) (by dsimp only; omega)
    · rw [if_neg hj] at h; cases h
  rw [if_neg e138] at h
  by_cases e139 : id = 139
  · rw [if_pos e139] at h
    by_cases hj : j < 4
    · rw [if_pos hj] at h; cases h; exact OT (by omega) (by omega) (by omega) (by omega) (by dsimp only; omega) (by dsimp only; omega) (by dsimp only; omega) (by dsimp only; omega)
    · rw [if_neg hj] at h; cases h
  rw [if_neg e139] at h
  by_cases e140 : id = 140
  · rw [if_pos e140] at h
    by_cases hj : j < 240
    · rw [if_pos hj] at h; cases h; exact OT (by omega) (by omega) (by omega) (by omega) (by dsimp only; omega) (by dsimp only; omega) (by dsimp only; omega) (by dsimp only; omega)
    · rw [if_neg hj] at h; cases h
  rw [if_neg e140] at h
  cases h
/-- names with one more row -/
def gR (g : Ge) (n a D : Nat) : Ge := (fun k => if k = 60 + n then a else if k = 70 + n then a + 1 else if k = 46 then D else g.1 k, (60 + n) :: (70 + n) :: g.2)
theorem gR_o {g : Ge} {n a D k : Nat} (h1 : k ≠ 60 + n) (h2 : k ≠ 70 + n) (h3 : k ≠ 46) : (gR g n a D).1 k = g.1 k := by
  show (if k = 60 + n then a else if k = 70 + n then a + 1 else if k = 46 then D else g.1 k) = _
  rw [if_neg h1, if_neg h2, if_neg h3]
theorem gR_60 {g : Ge} {n a D : Nat} : (gR g n a D).1 (60 + n) = a := if_pos rfl
theorem gR_70 {g : Ge} {n a D : Nat} : (gR g n a D).1 (70 + n) = a + 1 := by
  show (if 70 + n = 60 + n then a else if 70 + n = 70 + n then a + 1 else if 70 + n = 46 then D else g.1 (70 + n)) = _
  rw [if_neg (by omega), if_pos rfl]
theorem gR_46 {g : Ge} {n a D : Nat} : (gR g n a D).1 46 = D := by
  show (if 46 = 60 + n then a else if 46 = 70 + n then a + 1 else if 46 = 46 then D else g.1 46) = _
  rw [if_neg (by omega), if_neg (by omega), if_pos rfl]
def wR (w : Wv) (n : Nat) (x y : Nat → Int32) : Wv := fun k j => if k = 60 + n then x j else if k = 70 + n then y j else w k j
theorem wR_o {w : Wv} {n : Nat} {x y : Nat → Int32} {k : Nat} (h1 : k ≠ 60 + n) (h2 : k ≠ 70 + n) : wR w n x y k = w k := by
  funext j
  show (if k = 60 + n then x j else if k = 70 + n then y j else w k j) = _
  rw [if_neg h1, if_neg h2]
theorem wR_60 {w : Wv} {n : Nat} {x y : Nat → Int32} : wR w n x y (60 + n) = x := by funext j; exact if_pos rfl
theorem wR_70 {w : Wv} {n : Nat} {x y : Nat → Int32} : wR w n x y (70 + n) = y := by
  funext j
  show (if 70 + n = 60 + n then x j else if 70 + n = 70 + n then y j else w (70 + n) j) = _
  rw [if_neg (by omega), if_pos rfl]
theorem S_ren {g : Ge} {σ : Sg} {w : Wv} {n a D : Nat} (hn : n < 6) (hG : XG g n) (h46 : 46 ∉ g.2) (ha : NA g a) (ha1 : NA g (a + 1)) : S g σ w = S (gR g n a D) σ (wR w n (sI σ a) (sI σ (a + 1))) := by
  obtain ⟨g6, g7⟩ := hG n (Nat.le_refl _) hn
  refine sg_ext rfl rfl rfl ?_ rfl rfl
  funext b j
  show vset g (sI σ) w b j = vset (gR g n a D) (sI σ) (wR w n (sI σ a) (sI σ (a + 1))) b j
  have hf : ∀ L : List Nat, 60 + n ∉ L → 70 + n ∉ L → 46 ∉ L → L.find? (fun k => (gR g n a D).1 k == b) = L.find? (fun k => g.1 k == b) := by
    intro L
    induction L with
    | nil => intros; rfl
    | cons x L ih =>
      intro h1 h2 h3
      rw [List.mem_cons, not_or] at h1 h2 h3
      rw [List.find?_cons, List.find?_cons, gR_o (Ne.symm h1.1) (Ne.symm h2.1) (Ne.symm h3.1), ih h1.2 h2.2 h3.2]
  unfold vset
  show _ = match ((60 + n) :: (70 + n) :: g.2).find? (fun k => (gR g n a D).1 k == b) with | some k => wR w n (sI σ a) (sI σ (a + 1)) k j | none => sI σ b j
  rw [List.find?_cons, gR_60]
  by_cases e : a = b
  · rw [show (a == b) = true by simp [e]]
    subst e
    rw [show g.2.find? (fun k => g.1 k == a) = none from List.find?_eq_none.mpr (fun k hk => by simpa using ha k hk)]
    show sI σ a j = wR w n (sI σ a) (sI σ (a + 1)) (60 + n) j
    rw [wR_60]
  · rw [show (a == b) = false by simp [e], List.find?_cons, gR_70]
    by_cases e2 : a + 1 = b
    · rw [show (a + 1 == b) = true by simp [e2]]
      subst e2
      rw [show g.2.find? (fun k => g.1 k == a + 1) = none from List.find?_eq_none.mpr (fun k hk => by simpa using ha1 k hk)]
      show sI σ (a + 1) j = wR w n (sI σ a) (sI σ (a + 1)) (70 + n) j
      rw [wR_70]
    · rw [show (a + 1 == b) = false by simp [e2]]
      show _ = match g.2.find? (fun k => (gR g n a D).1 k == b) with | some k => wR w n (sI σ a) (sI σ (a + 1)) k j | none => sI σ b j
      rw [hf g.2 g6 g7 h46]
      cases hfn : g.2.find? (fun k => g.1 k == b) with
      | none => rfl
      | some k =>
        have hk := List.mem_of_find?_eq_some hfn
        show w k j = wR w n (sI σ a) (sI σ (a + 1)) k j
        rw [wR_o (fun z => g6 (by rw [← z]; exact hk)) (fun z => g7 (by rw [← z]; exact hk))]
/-- one more row -/
theorem row_XH {g : Ge} {σ1 σ2 : Sg} {w u : Wv} {n kd a D : Nat} {K : Nat → Nat} {st mr : Int32} (hX : XH g σ1 w u n K) (hG : XG g n) (h46 : 46 ∉ g.2) (hZ : HZ u) (hn : n < 6) (hkd : kd < 6) (ha : NA g a) (ha1 : NA g (a + 1)) (h1000 : 1000 ≤ a)
    (T0 : ∀ x, (sT σ1 x).1 ≠ 0 → sT σ2 x = sT σ1 x) (T1 : ∀ x, (sT σ1 x).1 ≠ 0 → (sT σ1 x).1 ≠ 104 → (sT σ1 x).1 ≠ 17 → sR σ2 x = sR σ1 x)
    (hl1 : sR σ2 (g.1 45) 1 = some D) (hDt : sT σ2 D = (104, 10)) (hDe : ∀ i, i < n → sR σ2 D i = some (g.1 (60 + i))) (hDn : sR σ2 D n = some a)
    (ta : (sT σ2 a).1 = 9 + kd) (ta1 : sT σ2 (a + 1) = (102, 8)) (ra3 : sR σ2 a 3 = some (a + 1)) (raX : ∀ f, 4 ≤ f → f < 7 → sR σ2 a f = some (g.1 0)) {x y : Nat → Int32} (hx : x 0 = nI n ∧ x 1 = st ∧ x 2 = mr) (hy : ∀ j, y j = 0) {mc : Int32} :
    XH (gR g n a D) σ2 (wR (up2 (up2 w 45 0 mc) 45 2 (nI (n + 1))) n x y) (up2 (up2 (up2 (up2 u 105 n (nI kd)) 106 n st) 107 n mr) 100 3 (nI n + 1)) (n + 1) (fun i => if i = n then kd else K i) := by
  obtain ⟨⟨a1, ⟨i1, i2, i3, i4⟩, ⟨a3, a4, a5⟩, ⟨b1, b2, b3, ⟨cap, c1, c2, c3⟩, b5⟩, ⟨d1, d2, d3⟩, e1, f1, f2⟩, ⟨v1, v2, v3, v4⟩, h3, h4⟩ := hX
  have hnR : nR u = n := XH.nrw ⟨⟨a1, ⟨i1, i2, i3, i4⟩, ⟨a3, a4, a5⟩, ⟨b1, b2, b3, ⟨cap, c1, c2, c3⟩, b5⟩, ⟨d1, d2, d3⟩, e1, f1, f2⟩, ⟨v1, v2, v3, v4⟩, h3, h4⟩
  obtain ⟨g6, g7⟩ := hG n (Nat.le_refl _) hn
  have eW : ∀ k, k ≠ 45 → up2 (up2 w 45 0 mc) 45 2 (nI (n + 1)) k = w k := fun k hk => by rw [up2_at _ _ hk, up2_at _ _ hk]
  have g0 : (gR g n a D).1 0 = g.1 0 := gR_o (by omega) (by omega) (by omega)
  have g45 : (gR g n a D).1 45 = g.1 45 := gR_o (by omega) (by omega) (by omega)
  have g47 : (gR g n a D).1 47 = g.1 47 := gR_o (by omega) (by omega) (by omega)
  have g48 : (gR g n a D).1 48 = g.1 48 := gR_o (by omega) (by omega) (by omega)
  have t0 := T0 (g.1 0) (by rw [a3]; decide)
  have r0 := T1 (g.1 0) (by rw [a3]; decide) (by rw [a3]; decide) (by rw [a3]; decide)
  have t45 := T0 (g.1 45) (by rw [b2]; decide)
  have t47 := T0 (g.1 47) (by rw [d2]; decide)
  have r47 := T1 (g.1 47) (by rw [d2]; decide) (by rw [d2]; decide) (by rw [d2]; decide)
  have t48 := T0 (g.1 48) (by rw [f2]; decide)
  refine ⟨⟨⟨?_, ?_⟩, ⟨fun k hk => ?_, ?_, fun i hi => ?_, fun i hi => ?_⟩, ⟨by rw [g0, t0]; exact a3, fun f hf => ?_, fun f hf => ?_⟩, ⟨by rw [g0, g45, r0]; exact b1, by rw [g45, t45]; exact b2, by rw [g45, gR_46]; exact hl1, ⟨10, by omega, by decide, by rw [gR_46]; exact hDt⟩, fun i hi => ?_⟩, ⟨by rw [g0, g47, r0]; exact d1, by rw [g47, t47]; exact d2, fun i hi => ?_⟩, fun i hi => ?_, by rw [g0, g48, r0]; exact f1, by rw [g48, t48]; exact f2⟩, ⟨fun id j q hq => ?_, ?_, ?_, fun j hj => ?_⟩, ⟨by omega, ?_⟩, fun i hi => ⟨?_, ?_⟩⟩
  · -- names apart
    intro k hk l hl e
    have A : ∀ k, k ∈ (60 + n) :: (70 + n) :: g.2 → k = 60 + n ∨ k = 70 + n ∨ (k ∈ g.2 ∧ k ≠ 60 + n ∧ k ≠ 70 + n ∧ k ≠ 46) := fun k hk => by
      rcases List.mem_cons.mp hk with h | h
      · exact .inl h
      · rcases List.mem_cons.mp h with h | h
        · exact .inr (.inl h)
        · exact .inr (.inr ⟨h, fun z => g6 (by rw [← z]; exact h), fun z => g7 (by rw [← z]; exact h), fun z => h46 (by rw [← z]; exact h)⟩)
    rcases A k hk with rfl | rfl | ⟨m1, m2, m3, m4⟩ <;> rcases A l hl with rfl | rfl | ⟨n1, n2, n3, n4⟩
    · rfl
    · rw [gR_60, gR_70] at e; omega
    · rw [gR_60, gR_o n2 n3 n4] at e; exact absurd e.symm (ha l n1)
    · rw [gR_60, gR_70] at e; omega
    · rfl
    · rw [gR_70, gR_o n2 n3 n4] at e; exact absurd e.symm (ha1 l n1)
    · rw [gR_60, gR_o m2 m3 m4] at e; exact absurd e (ha k m1)
    · rw [gR_70, gR_o m2 m3 m4] at e; exact absurd e (ha1 k m1)
    · rw [gR_o m2 m3 m4, gR_o n2 n3 n4] at e; exact a1.1 k m1 l n1 e
  · intro k hk
    rcases List.mem_cons.mp hk with h | h
    · rw [h, gR_60]; exact h1000
    · rcases List.mem_cons.mp h with h | h
      · rw [h, gR_70]; omega
      · rw [gR_o (fun z => g6 (by rw [← z]; exact h)) (fun z => g7 (by rw [← z]; exact h)) (fun z => h46 (by rw [← z]; exact h))]; exact a1.2 k h
  · exact List.mem_cons_of_mem _ (List.mem_cons_of_mem _ (i1 k hk))
  · exact List.mem_cons_of_mem _ (List.mem_cons_of_mem _ i2)
  · exact ⟨List.mem_cons_of_mem _ (List.mem_cons_of_mem _ (i3 i hi).1), List.mem_cons_of_mem _ (List.mem_cons_of_mem _ (i3 i hi).2)⟩
  · by_cases e : i = n
    · rw [e]; exact ⟨List.mem_cons_self, List.mem_cons_of_mem _ List.mem_cons_self⟩
    · have := i4 i (by omega)
      exact ⟨List.mem_cons_of_mem _ (List.mem_cons_of_mem _ this.1), List.mem_cons_of_mem _ (List.mem_cons_of_mem _ this.2)⟩
  · have h9 := a4 f hf
    have hf41 : f < 45 := by
      rcases Nat.lt_or_ge f 45 with h | h
      · exact h
      · exact absurd (show xlen f = 0 by unfold xlen; split <;> first | omega | rfl) hf
    rw [g0, gR_o (show 1 + f ≠ 60 + n by omega) (by omega) (fun z => by rw [show f = 45 by omega] at hf; exact hf rfl), r0, T0 (g.1 (1 + f)) (by rw [h9.2]; exact (by decide : (101 : Nat) ≠ 0))]; exact h9
  · have h9 := a5 f hf
    have hf41 : f < 45 := by
      rcases Nat.lt_or_ge f 45 with h | h
      · exact h
      · exact absurd (show xbl f = 0 by unfold xbl; split <;> first | omega | rfl) hf
    rw [g0, gR_o (show 1 + f ≠ 60 + n by omega) (by omega) (fun z => by rw [show f = 45 by omega] at hf; exact hf rfl), r0, T0 (g.1 (1 + f)) (by rw [h9.2]; exact (by decide : (102 : Nat) ≠ 0))]; exact h9
  · rw [gR_46]
    by_cases e : i = n
    · rw [e, gR_60]; exact hDn
    · rw [gR_o (by omega) (by omega) (by omega)]; exact hDe i (by omega)
  · obtain ⟨x1, x2, x3, x4⟩ := d3 i hi
    have y1 := T0 (g.1 (50 + i)) (by rw [x2]; decide)
    have y2 := T1 (g.1 (50 + i)) (by rw [x2]; decide) (by rw [x2]; decide) (by rw [x2]; decide)
    have y3 := T0 (g.1 (54 + i)) (by rw [x4]; decide)
    rw [g47, gR_o (show 50 + i ≠ 60 + n by omega) (by omega) (by omega), gR_o (show 54 + i ≠ 60 + n by omega) (by omega) (by omega), r47, y1, y2, y3]; exact ⟨x1, x2, x3, x4⟩
  · by_cases e : i = n
    · subst e
      dsimp only
      rw [if_pos rfl, gR_60, gR_70, g0]
      exact ⟨hkd, ta, ra3, raX, ta1⟩
    · obtain ⟨x1, x2, x3, x4, x5⟩ := e1 i (by omega)
      have y1 := T0 (g.1 (60 + i)) (by rw [x2]; omega)
      have y2 := T1 (g.1 (60 + i)) (by rw [x2]; omega) (by rw [x2]; omega) (by rw [x2]; omega)
      have y3 := T0 (g.1 (70 + i)) (by rw [x5]; decide)
      dsimp only
      rw [if_neg e, gR_o (show 60 + i ≠ 60 + n by omega) (by omega) (by omega), gR_o (show 70 + i ≠ 60 + n by omega) (by omega) (by omega), g0, y1, y2, y3]; exact ⟨x1, x2, x3, x4, x5⟩
  · -- what x's cells hold
    have h9 := v1 id j q hq
    rcases xm_cl (n := n) hq with ⟨rfl, hj, rfl⟩ | ⟨rfl, hj, rfl⟩ | ⟨rfl, hj, rfl⟩ | ⟨rfl, hj, rfl⟩ | ⟨rfl, hj, rfl⟩ | ⟨rfl, rfl, rfl⟩ | ⟨o1, o2, o3, o4, o5, o6, o7, o8⟩
    · rw [up2_ne _ _ (by simp), up2_ne _ _ (by simp)]
      by_cases e : j = n
      · subst e; rw [up2_eq]; show st = wR _ j x y (60 + j) 1; rw [wR_60, hx.2.1]
      · rw [up2_ne _ _ (fun z => e z.2), up2_ne _ _ (by simp)]
        show u 106 j = wR _ n x y (60 + j) 1
        rw [wR_o (by omega) (by omega), eW _ (by omega)]; exact h9
    · rw [up2_ne _ _ (by simp)]
      by_cases e : j = n
      · subst e; rw [up2_eq]; show mr = wR _ j x y (60 + j) 2; rw [wR_60, hx.2.2]
      · rw [up2_ne _ _ (fun z => e z.2), up2_ne _ _ (by simp), up2_ne _ _ (by simp)]
        show u 107 j = wR _ n x y (60 + j) 2
        rw [wR_o (by omega) (by omega), eW _ (by omega)]; exact h9
    · rw [up2_ne _ _ (by simp), up2_ne _ _ (by simp), up2_ne _ _ (by simp), up2_ne _ _ (by simp)]
      show u 108 j = wR _ n x y 5 j
      rw [wR_o (by omega) (by omega), eW _ (by omega)]; exact h9
    · rw [up2_ne _ _ (by simp), up2_ne _ _ (by simp), up2_ne _ _ (by simp), up2_ne _ _ (by simp)]
      show u 109 j = wR _ n x y 6 j
      rw [wR_o (by omega) (by omega), eW _ (by omega)]; exact h9
    · rw [up2_ne _ _ (by simp), up2_ne _ _ (by simp), up2_ne _ _ (by simp), up2_ne _ _ (by simp)]
      show u 110 j = wR _ n x y (70 + j / 8) (j % 8)
      by_cases e : j / 8 = n
      · rw [e, wR_70, hy]; exact (hZ.2 j (by rw [hnR]; omega) hj).1
      · rw [wR_o (by omega) (by omega), eW _ (by omega)]; exact h9
    · rw [up2_eq]
      show nI n + 1 = wR _ n x y 45 2
      rw [wR_o (by omega) (by omega), up2_eq, nI_1]
    · rw [up2_ne _ _ (fun z => o4 z), up2_ne _ _ (fun z => o3 z.1), up2_ne _ _ (fun z => o2 z.1), up2_ne _ _ (fun z => o1 z.1), wR_o (by omega) (by omega), eW _ o5]
      exact h9
  · unfold hatP at v2 ⊢
    rw [wR_o (by omega) (by omega), eW 0 (by decide), up2_ne _ _ (by simp), up2_ne _ _ (by simp), up2_ne _ _ (by simp), up2_ne _ _ (by simp)]; exact v2
  · unfold imgP at v3 ⊢
    rw [wR_o (by omega) (by omega), eW 0 (by decide), up2_ne _ _ (by simp), up2_ne _ _ (by simp), up2_ne _ _ (by simp), up2_ne _ _ (by simp), up2_ne _ _ (by simp), up2_ne _ _ (by simp), up2_ne _ _ (by simp), up2_ne _ _ (by simp)]; exact v3
  · rw [wR_o (by omega) (by omega), eW 39 (by decide), up2_ne _ _ (by simp), up2_ne _ _ (by simp), up2_ne _ _ (by simp), up2_ne _ _ (by simp)]; exact v4 j hj
  · rw [wR_o (by omega) (by omega), up2_eq]
  · rw [up2_ne _ _ (by simp), up2_ne _ _ (by simp), up2_ne _ _ (by simp)]
    by_cases e : i = n
    · rw [e, up2_eq]; dsimp only; rw [if_pos rfl]
    · rw [up2_ne _ _ (fun z => e z.2)]; dsimp only; rw [if_neg e]; exact (h4 i (by omega)).1
  · by_cases e : i = n
    · rw [e, wR_60, hx.1]
    · rw [wR_o (by omega) (by omega), eW _ (by omega)]; exact (h4 i (by omega)).2
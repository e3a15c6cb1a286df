set_option maxRecDepth 100000
set_option maxHeartbeats 4000000
/-- a fresh object whose tag is foretold -/
theorem HX.new0 {σ τ : Sg} {k sl : Nat} {tg : Nat → Nat × Nat} {vl : Nat → Nat → Int32} {rf : Nat → Nat → Option Nat} {lg : Nat → Nat → Int64} (h : HX σ k sl tg vl rf lg τ) (t : Nat × Nat) (w : Nat) (ht : tg k = t) (hv : vl k = fun _ => 0) (hr : rf k = fun _ => none) (hl : lg k = fun _ => 0) : ∃ τ', nW τ t w = τ' ∧ HX σ (k + 1) (sl + w) tg vl rf lg τ' := by
  obtain ⟨τ', h1, h2⟩ := h.new t w
  refine ⟨τ', h1, ?_⟩
  have e1 : up1 tg k t = tg := by funext i; by_cases e : i = k; · rw [e, up1_eq, ht]
                                  · rw [up1_ne _ _ e]
  have e2 : up1 vl k (fun _ => 0) = vl := by funext i; by_cases e : i = k; · rw [e, up1_eq, hv]
                                             · rw [up1_ne _ _ e]
  have e3 : up1 rf k (fun _ => none) = rf := by funext i; by_cases e : i = k; · rw [e, up1_eq, hr]
                                                · rw [up1_ne _ _ e]
  have e4 : up1 lg k (fun _ => 0) = lg := by funext i; by_cases e : i = k; · rw [e, up1_eq, hl]
                                             · rw [up1_ne _ _ e]
  rw [e1, e2, e3, e4] at h2
  exact h2
def xT0 : Nat → Nat × Nat := fun d => ([(1, 0), (101, 4), (101, 4), (101, 4), (17, 0), (101, 6), (101, 6), (101, 6), (101, 6), (101, 6), (101, 4), (101, 4), (101, 6), (101, 6), (102, 48), (101, 6), (101, 6), (101, 48), (101, 12), (101, 12), (101, 8), (102, 48), (106, 6), (102, 160), (107, 4), (2, 0), (101, 60), (2, 0), (101, 60), (2, 0), (101, 60), (2, 0), (101, 60)] : List (Nat × Nat)).getD d (0, 0)
def xV0 : Nat → Nat → Int32 := (up2 (up2 (up2 (up2 (up2 (up2 (up2 (up2 (up2 (up2 (up2 (up2 (up2 (up2 (up2 (up2 (up2 (up2 (fun _ _ => 0) 1 0 (10)) 1 1 (12)) 1 2 (14)) 1 3 (7)) 2 0 (14)) 2 1 (16)) 2 2 (19)) 2 3 (9)) 3 0 (1)) 3 1 (1)) 3 2 (1)) 3 3 (1)) 0 25 (-1)) 0 33 (-1)) 25 0 (-1)) 27 0 (-1)) 29 0 (-1)) 31 0 (-1))
def xR0 (X : Nat) : Nat → Nat → Option Nat := (up2 (up2 (up2 (up2 (up2 (up2 (up2 (up2 (up2 (up2 (up2 (up2 (up2 (up2 (up2 (up2 (up2 (up2 (up2 (up2 (up2 (up2 (up2 (up2 (up2 (up2 (up2 (up2 (up2 (up2 (up2 (up2 (up2 (fun _ _ => none) 0 0 (some (X + 1))) 0 1 (some (X + 2))) 0 2 (some (X + 3))) 4 1 (some 1)) 0 3 (some (X + 4))) 0 4 (some (X + 5))) 0 5 (some (X + 6))) 0 6 (some (X + 7))) 0 7 (some (X + 8))) 0 8 (some (X + 9))) 0 10 (some (X + 10))) 0 11 (some (X + 11))) 0 13 (some (X + 12))) 0 15 (some (X + 13))) 0 18 (some (X + 14))) 0 21 (some (X + 15))) 0 22 (some (X + 16))) 0 28 (some (X + 17))) 0 29 (some (X + 18))) 0 30 (some (X + 19))) 0 31 (some (X + 20))) 0 32 (some (X + 21))) 0 36 (some (X + 22))) 0 38 (some (X + 23))) 25 2 (some (X + 26))) 24 0 (some (X + 25))) 27 2 (some (X + 28))) 24 1 (some (X + 27))) 29 2 (some (X + 30))) 24 2 (some (X + 29))) 31 2 (some (X + 32))) 24 3 (some (X + 31))) 0 40 (some (X + 24)))
def XIP (σ : Sg) : Outcome → Sg → Prop := fun oc s9 => ∃ (A : Nat) (cs : Nat → List Int32), oc = .returned none ∧ (FG σ s9 1333 7016 ∧ sN σ + 33 ≤ sN s9) ∧ (∀ d, d < 33 → sT s9 (sN σ + d) = xT0 d ∧ sI s9 (sN σ + d) = up2 xV0 0 37 1 d ∧ sR s9 (sN σ + d) = up2 (xR0 (sN σ)) 22 0 (some A) d) ∧ (preC cs 3 = [0, 0, 100002, 18, 2, 17, 1, 100003, 18, 4, 16] ∧ stS cs 4 = [0, 1, 6, 11]) ∧ sN σ + 33 ≤ A ∧ sT s9 A = (105, 3) ∧ ∀ j, j < 3 → ∃ b d, d ≤ 400 ∧ sR s9 A j = some b ∧ Tg (sN σ + 33) s9 d b (cs j)
theorem EMP.fg {E : En} {σ σ' : Sg} {b c : Nat} (h : EMP E σ) (hF : FG σ σ' b c) : EMP E σ' := ⟨h.1, by rw [(hF.2.2.2 1 (by rw [h.2]; decide)).1]; exact h.2⟩
theorem c_X0_init {E : En} (hJ : JS E) (hU : EU E) {σ : Sg} (hO : OS E σ) (hE : EMP E σ) (h23 : Stg σ 23 ILt) (hz23 : SR E RX0 101 "like value ; price value * 2 - row ; cost high * 3 + rise ;" 23) (h1 : 1000 ≤ sN σ) (hC : CLN σ) : CtE E mX0_init 303 [.ref (sN σ)] (XIP σ) (nW σ (1, 0) 41) := by
  show VE E mX0_init 303 (XIP σ) 0 [some (.ref (sN σ + 0))] [] (nW σ (1, 0) 41)
  obtain ⟨τ, hτ, (hS : HX σ 1 41 xT0 _ _ _ τ)⟩ := (HX.st (tg := xT0) (vl := fun _ _ => 0) (rf := fun _ _ => none) (lg := fun _ _ => 0) hC).new0 (1, 0) 41 rfl rfl rfl rfl
  rw [hτ]
  refine VE.step (fun _ h => V.ald0 dX0_init_0 (V.oinit q132 dX0_init_1 h)) ?_
  refine VE.step (fun _ h => V.ald0 dX0_init_4 (V.iconst_4 dX0_init_5 (V.newI (n := 4) rfl (by decide) dX0_init_6 h))) ?_
  rw [hS.2.1]
  obtain ⟨τ, hτ, (hS : HX σ 2 45 xT0 _ _ _ τ)⟩ := hS.new0 (101, 4) 4 rfl rfl rfl rfl
  rw [hτ]
  refine VE.step (fun _ h => V.dup dX0_init_8 (V.iconst_0 dX0_init_9 (V.bipush (v := 10) dX0_init_10 (by decide) (V.iast (n := 4) (j := 0) (hS.2.2 1 (by decide)).1 (by omega) (IX.n (by decide) (by decide)) dX0_init_12 h)))) ?_
  obtain ⟨τ, hτ, hS⟩ := hS.pI hC 1 0 (10)
  rw [hτ]
  refine VE.step (fun _ h => V.dup dX0_init_13 (V.iconst_1 dX0_init_14 (V.bipush (v := 12) dX0_init_15 (by decide) (V.iast (n := 4) (j := 1) (hS.2.2 1 (by decide)).1 (by omega) (IX.n (by decide) (by decide)) dX0_init_17 h)))) ?_
  obtain ⟨τ, hτ, hS⟩ := hS.pI hC 1 1 (12)
  rw [hτ]
  refine VE.step (fun _ h => V.dup dX0_init_18 (V.iconst_2 dX0_init_19 (V.bipush (v := 14) dX0_init_20 (by decide) (V.iast (n := 4) (j := 2) (hS.2.2 1 (by decide)).1 (by omega) (IX.n (by decide) (by decide)) dX0_init_22 h)))) ?_
  obtain ⟨τ, hτ, hS⟩ := hS.pI hC 1 2 (14)
  rw [hτ]
  refine VE.step (fun _ h => V.dup dX0_init_23 (V.iconst_3 dX0_init_24 (V.bipush (v := 7) dX0_init_25 (by decide) (V.iast (n := 4) (j := 3) (hS.2.2 1 (by decide)).1 (by omega) (IX.n (by decide) (by decide)) dX0_init_27 h)))) ?_
  obtain ⟨τ, hτ, hS⟩ := hS.pI hC 1 3 (7)
  rw [hτ]
  refine VE.step (fun _ h => pX0_7 rfl rfl (congrArg Prod.fst (hS.2.2 0 (by decide)).1) (by omega) dX0_init_28 h) ?_
  obtain ⟨τ, hτ, hS⟩ := hS.pR hC 0 0 (some (sN σ + 1))
  rw [hτ]
  refine VE.step (fun _ h => V.ald0 dX0_init_31 (V.iconst_4 dX0_init_32 (V.newI (n := 4) rfl (by decide) dX0_init_33 h))) ?_
  rw [hS.2.1]
  obtain ⟨τ, hτ, (hS : HX σ 3 49 xT0 _ _ _ τ)⟩ := hS.new0 (101, 4) 4 rfl rfl rfl rfl
  rw [hτ]
  refine VE.step (fun _ h => V.dup dX0_init_35 (V.iconst_0 dX0_init_36 (V.bipush (v := 14) dX0_init_37 (by decide) (V.iast (n := 4) (j := 0) (hS.2.2 2 (by decide)).1 (by omega) (IX.n (by decide) (by decide)) dX0_init_39 h)))) ?_
  obtain ⟨τ, hτ, hS⟩ := hS.pI hC 2 0 (14)
  rw [hτ]
  refine VE.step (fun _ h => V.dup dX0_init_40 (V.iconst_1 dX0_init_41 (V.bipush (v := 16) dX0_init_42 (by decide) (V.iast (n := 4) (j := 1) (hS.2.2 2 (by decide)).1 (by omega) (IX.n (by decide) (by decide)) dX0_init_44 h)))) ?_
  obtain ⟨τ, hτ, hS⟩ := hS.pI hC 2 1 (16)
  rw [hτ]
  refine VE.step (fun _ h => V.dup dX0_init_45 (V.iconst_2 dX0_init_46 (V.bipush (v := 19) dX0_init_47 (by decide) (V.iast (n := 4) (j := 2) (hS.2.2 2 (by decide)).1 (by omega) (IX.n (by decide) (by decide)) dX0_init_49 h)))) ?_
  obtain ⟨τ, hτ, hS⟩ := hS.pI hC 2 2 (19)
  rw [hτ]
  refine VE.step (fun _ h => V.dup dX0_init_50 (V.iconst_3 dX0_init_51 (V.bipush (v := 9) dX0_init_52 (by decide) (V.iast (n := 4) (j := 3) (hS.2.2 2 (by decide)).1 (by omega) (IX.n (by decide) (by decide)) dX0_init_54 h)))) ?_
  obtain ⟨τ, hτ, hS⟩ := hS.pI hC 2 3 (9)
  rw [hτ]
  refine VE.step (fun _ h => pX0_13 rfl rfl (congrArg Prod.fst (hS.2.2 0 (by decide)).1) (by omega) dX0_init_55 h) ?_
  obtain ⟨τ, hτ, hS⟩ := hS.pR hC 0 1 (some (sN σ + 2))
  rw [hτ]
  refine VE.step (fun _ h => V.ald0 dX0_init_58 (V.iconst_4 dX0_init_59 (V.newI (n := 4) rfl (by decide) dX0_init_60 h))) ?_
  rw [hS.2.1]
  obtain ⟨τ, hτ, (hS : HX σ 4 53 xT0 _ _ _ τ)⟩ := hS.new0 (101, 4) 4 rfl rfl rfl rfl
  rw [hτ]
  refine VE.step (fun _ h => V.dup dX0_init_62 (V.iconst_0 dX0_init_63 (V.iconst_1 dX0_init_64 (V.iast (n := 4) (j := 0) (hS.2.2 3 (by decide)).1 (by omega) (IX.n (by decide) (by decide)) dX0_init_65 h)))) ?_
  obtain ⟨τ, hτ, hS⟩ := hS.pI hC 3 0 (1)
  rw [hτ]
  refine VE.step (fun _ h => V.dup dX0_init_66 (V.iconst_1 dX0_init_67 (V.iconst_1 dX0_init_68 (V.iast (n := 4) (j := 1) (hS.2.2 3 (by decide)).1 (by omega) (IX.n (by decide) (by decide)) dX0_init_69 h)))) ?_
  obtain ⟨τ, hτ, hS⟩ := hS.pI hC 3 1 (1)
  rw [hτ]
  refine VE.step (fun _ h => V.dup dX0_init_70 (V.iconst_2 dX0_init_71 (V.iconst_1 dX0_init_72 (V.iast (n := 4) (j := 2) (hS.2.2 3 (by decide)).1 (by omega) (IX.n (by decide) (by decide)) dX0_init_73 h)))) ?_
  obtain ⟨τ, hτ, hS⟩ := hS.pI hC 3 2 (1)
  rw [hτ]
  refine VE.step (fun _ h => V.dup dX0_init_74 (V.iconst_3 dX0_init_75 (V.iconst_1 dX0_init_76 (V.iast (n := 4) (j := 3) (hS.2.2 3 (by decide)).1 (by omega) (IX.n (by decide) (by decide)) dX0_init_77 h)))) ?_
  obtain ⟨τ, hτ, hS⟩ := hS.pI hC 3 3 (1)
  rw [hτ]
  refine VE.step (fun _ h => pX0_16 rfl rfl (congrArg Prod.fst (hS.2.2 0 (by decide)).1) (by omega) dX0_init_78 h) ?_
  obtain ⟨τ, hτ, hS⟩ := hS.pR hC 0 2 (some (sN σ + 3))
  rw [hτ]
  refine VE.step (fun _ h => V.ald0 dX0_init_81 h) ?_
  refine VE.step (fun _ h => nX0_19 rfl dX0_init_82 h) ?_
  rw [hS.2.1]
  obtain ⟨τ, hτ, (hS : HX σ 5 56 xT0 _ _ _ τ)⟩ := hS.new0 (17, 0) 3 rfl rfl rfl rfl
  rw [hτ]
  refine VE.step (fun _ h => V.dup dX0_init_85 (V.invI0v iX0_21 dX0_init_86 (c_J2_init (hE.fg hS.1) (congrArg Prod.fst (hS.2.2 4 (by decide)).1) (by omega) (congrFun (hS.2.2 4 (by decide)).2.1 0)) h)) ?_
  obtain ⟨τ, hτ, hS⟩ := hS.pR hC 4 1 (some 1)
  rw [hτ]
  refine VE.step (fun _ h => pX0_22 rfl rfl (congrArg Prod.fst (hS.2.2 0 (by decide)).1) (by omega) dX0_init_89 h) ?_
  obtain ⟨τ, hτ, hS⟩ := hS.pR hC 0 3 (some (sN σ + 4))
  rw [hτ]
  refine VE.step (fun _ h => V.ald0 dX0_init_92 (V.bipush (v := 6) dX0_init_93 (by decide) (V.newI (n := 6) rfl (by decide) dX0_init_95 h))) ?_
  rw [hS.2.1]
  obtain ⟨τ, hτ, (hS : HX σ 6 62 xT0 _ _ _ τ)⟩ := hS.new0 (101, 6) 6 rfl rfl rfl rfl
  rw [hτ]
  refine VE.step (fun _ h => pX0_26 rfl rfl (congrArg Prod.fst (hS.2.2 0 (by decide)).1) (by omega) dX0_init_97 h) ?_
  obtain ⟨τ, hτ, hS⟩ := hS.pR hC 0 4 (some (sN σ + 5))
  rw [hτ]
  refine VE.step (fun _ h => V.ald0 dX0_init_100 (V.bipush (v := 6) dX0_init_101 (by decide) (V.newI (n := 6) rfl (by decide) dX0_init_103 h))) ?_
  rw [hS.2.1]
  obtain ⟨τ, hτ, (hS : HX σ 7 68 xT0 _ _ _ τ)⟩ := hS.new0 (101, 6) 6 rfl rfl rfl rfl
  rw [hτ]
  refine VE.step (fun _ h => pX0_29 rfl rfl (congrArg Prod.fst (hS.2.2 0 (by decide)).1) (by omega) dX0_init_105 h) ?_
  obtain ⟨τ, hτ, hS⟩ := hS.pR hC 0 5 (some (sN σ + 6))
  rw [hτ]
  refine VE.step (fun _ h => V.ald0 dX0_init_108 (V.bipush (v := 6) dX0_init_109 (by decide) (V.newI (n := 6) rfl (by decide) dX0_init_111 h))) ?_
  rw [hS.2.1]
  obtain ⟨τ, hτ, (hS : HX σ 8 74 xT0 _ _ _ τ)⟩ := hS.new0 (101, 6) 6 rfl rfl rfl rfl
  rw [hτ]
  refine VE.step (fun _ h => pX0_32 rfl rfl (congrArg Prod.fst (hS.2.2 0 (by decide)).1) (by omega) dX0_init_113 h) ?_
  obtain ⟨τ, hτ, hS⟩ := hS.pR hC 0 6 (some (sN σ + 7))
  rw [hτ]
  refine VE.step (fun _ h => V.ald0 dX0_init_116 (V.bipush (v := 6) dX0_init_117 (by decide) (V.newI (n := 6) rfl (by decide) dX0_init_119 h))) ?_
  rw [hS.2.1]
  obtain ⟨τ, hτ, (hS : HX σ 9 80 xT0 _ _ _ τ)⟩ := hS.new0 (101, 6) 6 rfl rfl rfl rfl
  rw [hτ]
  refine VE.step (fun _ h => pX0_35 rfl rfl (congrArg Prod.fst (hS.2.2 0 (by decide)).1) (by omega) dX0_init_121 h) ?_
  obtain ⟨τ, hτ, hS⟩ := hS.pR hC 0 7 (some (sN σ + 8))
  rw [hτ]
  refine VE.step (fun _ h => V.ald0 dX0_init_124 (V.bipush (v := 6) dX0_init_125 (by decide) (V.newI (n := 6) rfl (by decide) dX0_init_127 h))) ?_
  rw [hS.2.1]
  obtain ⟨τ, hτ, (hS : HX σ 10 86 xT0 _ _ _ τ)⟩ := hS.new0 (101, 6) 6 rfl rfl rfl rfl
  rw [hτ]
  refine VE.step (fun _ h => pX0_38 rfl rfl (congrArg Prod.fst (hS.2.2 0 (by decide)).1) (by omega) dX0_init_129 h) ?_
  obtain ⟨τ, hτ, hS⟩ := hS.pR hC 0 8 (some (sN σ + 9))
  rw [hτ]
  refine VE.step (fun _ h => V.ald0 dX0_init_132 (V.iconst_4 dX0_init_133 (V.newI (n := 4) rfl (by decide) dX0_init_134 h))) ?_
  rw [hS.2.1]
  obtain ⟨τ, hτ, (hS : HX σ 11 90 xT0 _ _ _ τ)⟩ := hS.new0 (101, 4) 4 rfl rfl rfl rfl
  rw [hτ]
  refine VE.step (fun _ h => pX0_41 rfl rfl (congrArg Prod.fst (hS.2.2 0 (by decide)).1) (by omega) dX0_init_136 h) ?_
  obtain ⟨τ, hτ, hS⟩ := hS.pR hC 0 10 (some (sN σ + 10))
  rw [hτ]
  refine VE.step (fun _ h => V.ald0 dX0_init_139 (V.iconst_4 dX0_init_140 (V.newI (n := 4) rfl (by decide) dX0_init_141 h))) ?_
  rw [hS.2.1]
  obtain ⟨τ, hτ, (hS : HX σ 12 94 xT0 _ _ _ τ)⟩ := hS.new0 (101, 4) 4 rfl rfl rfl rfl
  rw [hτ]
  refine VE.step (fun _ h => pX0_44 rfl rfl (congrArg Prod.fst (hS.2.2 0 (by decide)).1) (by omega) dX0_init_143 h) ?_
  obtain ⟨τ, hτ, hS⟩ := hS.pR hC 0 11 (some (sN σ + 11))
  rw [hτ]
  refine VE.step (fun _ h => V.ald0 dX0_init_146 (V.bipush (v := 6) dX0_init_147 (by decide) (V.newI (n := 6) rfl (by decide) dX0_init_149 h))) ?_
  rw [hS.2.1]
  obtain ⟨τ, hτ, (hS : HX σ 13 100 xT0 _ _ _ τ)⟩ := hS.new0 (101, 6) 6 rfl rfl rfl rfl
  rw [hτ]
  refine VE.step (fun _ h => pX0_47 rfl rfl (congrArg Prod.fst (hS.2.2 0 (by decide)).1) (by omega) dX0_init_151 h) ?_
  obtain ⟨τ, hτ, hS⟩ := hS.pR hC 0 13 (some (sN σ + 12))
  rw [hτ]
  refine VE.step (fun _ h => V.ald0 dX0_init_154 (V.bipush (v := 6) dX0_init_155 (by decide) (V.newI (n := 6) rfl (by decide) dX0_init_157 h))) ?_
  rw [hS.2.1]
  obtain ⟨τ, hτ, (hS : HX σ 14 106 xT0 _ _ _ τ)⟩ := hS.new0 (101, 6) 6 rfl rfl rfl rfl
  rw [hτ]
  refine VE.step (fun _ h => pX0_50 rfl rfl (congrArg Prod.fst (hS.2.2 0 (by decide)).1) (by omega) dX0_init_159 h) ?_
  obtain ⟨τ, hτ, hS⟩ := hS.pR hC 0 15 (some (sN σ + 13))
  rw [hτ]
  refine VE.step (fun _ h => V.ald0 dX0_init_162 (V.bipush (v := 48) dX0_init_163 (by decide) (V.newB (n := 48) rfl (by decide) dX0_init_165 h))) ?_
  rw [hS.2.1]
  obtain ⟨τ, hτ, (hS : HX σ 15 154 xT0 _ _ _ τ)⟩ := hS.new0 (102, 48) 48 rfl rfl rfl rfl
  rw [hτ]
  refine VE.step (fun _ h => pX0_53 rfl rfl (congrArg Prod.fst (hS.2.2 0 (by decide)).1) (by omega) dX0_init_167 h) ?_
  obtain ⟨τ, hτ, hS⟩ := hS.pR hC 0 18 (some (sN σ + 14))
  rw [hτ]
  refine VE.step (fun _ h => V.ald0 dX0_init_170 (V.bipush (v := 6) dX0_init_171 (by decide) (V.newI (n := 6) rfl (by decide) dX0_init_173 h))) ?_
  rw [hS.2.1]
  obtain ⟨τ, hτ, (hS : HX σ 16 160 xT0 _ _ _ τ)⟩ := hS.new0 (101, 6) 6 rfl rfl rfl rfl
  rw [hτ]
  refine VE.step (fun _ h => pX0_57 rfl rfl (congrArg Prod.fst (hS.2.2 0 (by decide)).1) (by omega) dX0_init_175 h) ?_
  obtain ⟨τ, hτ, hS⟩ := hS.pR hC 0 21 (some (sN σ + 15))
  rw [hτ]
  refine VE.step (fun _ h => V.ald0 dX0_init_178 (V.bipush (v := 6) dX0_init_179 (by decide) (V.newI (n := 6) rfl (by decide) dX0_init_181 h))) ?_
  rw [hS.2.1]
  obtain ⟨τ, hτ, (hS : HX σ 17 166 xT0 _ _ _ τ)⟩ := hS.new0 (101, 6) 6 rfl rfl rfl rfl
  rw [hτ]
  refine VE.step (fun _ h => pX0_60 rfl rfl (congrArg Prod.fst (hS.2.2 0 (by decide)).1) (by omega) dX0_init_183 h) ?_
  obtain ⟨τ, hτ, hS⟩ := hS.pR hC 0 22 (some (sN σ + 16))
  rw [hτ]
  refine VE.step (fun _ h => V.ald0 dX0_init_186 (V.iconst_m1 dX0_init_187 (pX0_63 rfl (congrArg Prod.fst (hS.2.2 0 (by decide)).1) (by omega) dX0_init_188 h))) ?_
  obtain ⟨τ, hτ, hS⟩ := hS.pI hC 0 25 (-1)
  rw [hτ]
  refine VE.step (fun _ h => V.ald0 dX0_init_191 (V.bipush (v := 48) dX0_init_192 (by decide) (V.newI (n := 48) rfl (by decide) dX0_init_194 h))) ?_
  rw [hS.2.1]
  obtain ⟨τ, hτ, (hS : HX σ 18 214 xT0 _ _ _ τ)⟩ := hS.new0 (101, 48) 48 rfl rfl rfl rfl
  rw [hτ]
  refine VE.step (fun _ h => pX0_67 rfl rfl (congrArg Prod.fst (hS.2.2 0 (by decide)).1) (by omega) dX0_init_196 h) ?_
  obtain ⟨τ, hτ, hS⟩ := hS.pR hC 0 28 (some (sN σ + 17))
  rw [hτ]
  refine VE.step (fun _ h => V.ald0 dX0_init_199 (V.bipush (v := 12) dX0_init_200 (by decide) (V.newI (n := 12) rfl (by decide) dX0_init_202 h))) ?_
  rw [hS.2.1]
  obtain ⟨τ, hτ, (hS : HX σ 19 226 xT0 _ _ _ τ)⟩ := hS.new0 (101, 12) 12 rfl rfl rfl rfl
  rw [hτ]
  refine VE.step (fun _ h => pX0_70 rfl rfl (congrArg Prod.fst (hS.2.2 0 (by decide)).1) (by omega) dX0_init_204 h) ?_
  obtain ⟨τ, hτ, hS⟩ := hS.pR hC 0 29 (some (sN σ + 18))
  rw [hτ]
  refine VE.step (fun _ h => V.ald0 dX0_init_207 (V.bipush (v := 12) dX0_init_208 (by decide) (V.newI (n := 12) rfl (by decide) dX0_init_210 h))) ?_
  rw [hS.2.1]
  obtain ⟨τ, hτ, (hS : HX σ 20 238 xT0 _ _ _ τ)⟩ := hS.new0 (101, 12) 12 rfl rfl rfl rfl
  rw [hτ]
  refine VE.step (fun _ h => pX0_73 rfl rfl (congrArg Prod.fst (hS.2.2 0 (by decide)).1) (by omega) dX0_init_212 h) ?_
  obtain ⟨τ, hτ, hS⟩ := hS.pR hC 0 30 (some (sN σ + 19))
  rw [hτ]
  refine VE.step (fun _ h => V.ald0 dX0_init_215 (V.bipush (v := 8) dX0_init_216 (by decide) (V.newI (n := 8) rfl (by decide) dX0_init_218 h))) ?_
  rw [hS.2.1]
  obtain ⟨τ, hτ, (hS : HX σ 21 246 xT0 _ _ _ τ)⟩ := hS.new0 (101, 8) 8 rfl rfl rfl rfl
  rw [hτ]
  refine VE.step (fun _ h => pX0_76 rfl rfl (congrArg Prod.fst (hS.2.2 0 (by decide)).1) (by omega) dX0_init_220 h) ?_
  obtain ⟨τ, hτ, hS⟩ := hS.pR hC 0 31 (some (sN σ + 20))
  rw [hτ]
  refine VE.step (fun _ h => V.ald0 dX0_init_223 (V.bipush (v := 48) dX0_init_224 (by decide) (V.newB (n := 48) rfl (by decide) dX0_init_226 h))) ?_
  rw [hS.2.1]
  obtain ⟨τ, hτ, (hS : HX σ 22 294 xT0 _ _ _ τ)⟩ := hS.new0 (102, 48) 48 rfl rfl rfl rfl
  rw [hτ]
  refine VE.step (fun _ h => pX0_79 rfl rfl (congrArg Prod.fst (hS.2.2 0 (by decide)).1) (by omega) dX0_init_228 h) ?_
  obtain ⟨τ, hτ, hS⟩ := hS.pR hC 0 32 (some (sN σ + 21))
  rw [hτ]
  refine VE.step (fun _ h => V.ald0 dX0_init_231 (V.iconst_m1 dX0_init_232 (pX0_82 rfl (congrArg Prod.fst (hS.2.2 0 (by decide)).1) (by omega) dX0_init_233 h))) ?_
  obtain ⟨τ, hτ, hS⟩ := hS.pI hC 0 33 (-1)
  rw [hτ]
  refine VE.step (fun _ h => V.ald0 dX0_init_236 (V.bipush (v := 6) dX0_init_237 (by decide) h)) ?_
  refine VE.step (fun _ h => V.anewA (n := 6) q162 ⟨by decide, by decide⟩ (by decide) dX0_init_239 h) ?_
  rw [hS.2.1]
  obtain ⟨τ, hτ, (hS : HX σ 23 300 xT0 _ _ _ τ)⟩ := hS.new0 (106, 6) 6 rfl rfl rfl rfl
  rw [hτ]
  refine VE.step (fun _ h => pX0_87 rfl rfl (congrArg Prod.fst (hS.2.2 0 (by decide)).1) (by omega) dX0_init_242 h) ?_
  obtain ⟨τ, hτ, hS⟩ := hS.pR hC 0 36 (some (sN σ + 22))
  rw [hτ]
  refine VE.step (fun _ h => V.ald0 dX0_init_245 (V.sipush (v := 160) dX0_init_246 (by decide) (V.newB (n := 160) rfl (by decide) dX0_init_249 h))) ?_
  rw [hS.2.1]
  obtain ⟨τ, hτ, (hS : HX σ 24 460 xT0 _ _ _ τ)⟩ := hS.new0 (102, 160) 160 rfl rfl rfl rfl
  rw [hτ]
  refine VE.step (fun _ h => pX0_91 rfl rfl (congrArg Prod.fst (hS.2.2 0 (by decide)).1) (by omega) dX0_init_251 h) ?_
  obtain ⟨τ, hτ, hS⟩ := hS.pR hC 0 38 (some (sN σ + 23))
  rw [hτ]
  refine VE.step (fun _ h => V.ald0 dX0_init_254 (V.iconst_4 dX0_init_255 h)) ?_
  refine VE.step (fun _ h => V.anew (t := 106) (n := 4) (by decide) (by decide) rfl q164 q165 ⟨by decide, by decide⟩ (by decide) dX0_init_256 h) ?_
  rw [hS.2.1]
  obtain ⟨τ, hτ, (hS : HX σ 25 464 xT0 _ _ _ τ)⟩ := hS.new0 (107, 4) 4 rfl rfl rfl rfl
  rw [hτ]
  refine VE.step (fun _ h => V.dup dX0_init_259 (V.iconst_0 dX0_init_260 (nX0_94 rfl dX0_init_261 h))) ?_
  rw [hS.2.1]
  obtain ⟨τ, hτ, (hS : HX σ 26 467 xT0 _ _ _ τ)⟩ := hS.new0 (2, 0) 3 rfl rfl rfl rfl
  rw [hτ]
  refine VE.step (fun _ h => V.dup dX0_init_264 (V.invIN0v iX0_96 dX0_init_265 (c_X1_init (congrArg Prod.fst (hS.2.2 25 (by decide)).1) (by omega) (by have := hS.2.1; omega) (congrFun (hS.2.2 25 (by decide)).2.1 1)) h)) ?_
  unfold shH
  rw [hS.2.1]
  obtain ⟨τ, hτ, hS⟩ := hS.pI hC 25 0 (-1)
  rw [hτ]
  obtain ⟨τ, hτ, (hS : HX σ 27 527 xT0 _ _ _ τ)⟩ := hS.new0 (101, 60) 60 rfl rfl rfl rfl
  rw [hτ]
  obtain ⟨τ, hτ, hS⟩ := hS.pR hC 25 2 (some (sN σ + 26))
  rw [hτ]
  refine VE.step (fun _ h => V.aast (t := 106) (c := 1) (n := 4) (j := 0) (hS.2.2 24 (by decide)).1 (by decide) (by decide) (by omega) rfl (IX.n (by decide) (by decide)) (congrArg Prod.fst (hS.2.2 25 (by decide)).1) (by decide) rfl (.inl rfl) dX0_init_268 h) ?_
  obtain ⟨τ, hτ, hS⟩ := hS.pR hC 24 0 (some (sN σ + 25))
  rw [hτ]
  refine VE.step (fun _ h => V.dup dX0_init_269 (V.iconst_1 dX0_init_270 (nX0_94 rfl dX0_init_271 h))) ?_
  rw [hS.2.1]
  obtain ⟨τ, hτ, (hS : HX σ 28 530 xT0 _ _ _ τ)⟩ := hS.new0 (2, 0) 3 rfl rfl rfl rfl
  rw [hτ]
  refine VE.step (fun _ h => V.dup dX0_init_274 (V.invIN0v iX0_96 dX0_init_275 (c_X1_init (congrArg Prod.fst (hS.2.2 27 (by decide)).1) (by omega) (by have := hS.2.1; omega) (congrFun (hS.2.2 27 (by decide)).2.1 1)) h)) ?_
  unfold shH
  rw [hS.2.1]
  obtain ⟨τ, hτ, hS⟩ := hS.pI hC 27 0 (-1)
  rw [hτ]
  obtain ⟨τ, hτ, (hS : HX σ 29 590 xT0 _ _ _ τ)⟩ := hS.new0 (101, 60) 60 rfl rfl rfl rfl
  rw [hτ]
  obtain ⟨τ, hτ, hS⟩ := hS.pR hC 27 2 (some (sN σ + 28))
  rw [hτ]
  refine VE.step (fun _ h => V.aast (t := 106) (c := 1) (n := 4) (j := 1) (hS.2.2 24 (by decide)).1 (by decide) (by decide) (by omega) rfl (IX.n (by decide) (by decide)) (congrArg Prod.fst (hS.2.2 27 (by decide)).1) (by decide) rfl (.inl rfl) dX0_init_278 h) ?_
  obtain ⟨τ, hτ, hS⟩ := hS.pR hC 24 1 (some (sN σ + 27))
  rw [hτ]
  refine VE.step (fun _ h => V.dup dX0_init_279 (V.iconst_2 dX0_init_280 (nX0_94 rfl dX0_init_281 h))) ?_
  rw [hS.2.1]
  obtain ⟨τ, hτ, (hS : HX σ 30 593 xT0 _ _ _ τ)⟩ := hS.new0 (2, 0) 3 rfl rfl rfl rfl
  rw [hτ]
  refine VE.step (fun _ h => V.dup dX0_init_284 (V.invIN0v iX0_96 dX0_init_285 (c_X1_init (congrArg Prod.fst (hS.2.2 29 (by decide)).1) (by omega) (by have := hS.2.1; omega) (congrFun (hS.2.2 29 (by decide)).2.1 1)) h)) ?_
  unfold shH
  rw [hS.2.1]
  obtain ⟨τ, hτ, hS⟩ := hS.pI hC 29 0 (-1)
  rw [hτ]
  obtain ⟨τ, hτ, (hS : HX σ 31 653 xT0 _ _ _ τ)⟩ := hS.new0 (101, 60) 60 rfl rfl rfl rfl
  rw [hτ]
  obtain ⟨τ, hτ, hS⟩ := hS.pR hC 29 2 (some (sN σ + 30))
  rw [hτ]
  refine VE.step (fun _ h => V.aast (t := 106) (c := 1) (n := 4) (j := 2) (hS.2.2 24 (by decide)).1 (by decide) (by decide) (by omega) rfl (IX.n (by decide) (by decide)) (congrArg Prod.fst (hS.2.2 29 (by decide)).1) (by decide) rfl (.inl rfl) dX0_init_288 h) ?_
  obtain ⟨τ, hτ, hS⟩ := hS.pR hC 24 2 (some (sN σ + 29))
  rw [hτ]
  refine VE.step (fun _ h => V.dup dX0_init_289 (V.iconst_3 dX0_init_290 (nX0_94 rfl dX0_init_291 h))) ?_
  rw [hS.2.1]
  obtain ⟨τ, hτ, (hS : HX σ 32 656 xT0 _ _ _ τ)⟩ := hS.new0 (2, 0) 3 rfl rfl rfl rfl
  rw [hτ]
  refine VE.step (fun _ h => V.dup dX0_init_294 (V.invIN0v iX0_96 dX0_init_295 (c_X1_init (congrArg Prod.fst (hS.2.2 31 (by decide)).1) (by omega) (by have := hS.2.1; omega) (congrFun (hS.2.2 31 (by decide)).2.1 1)) h)) ?_
  unfold shH
  rw [hS.2.1]
  obtain ⟨τ, hτ, hS⟩ := hS.pI hC 31 0 (-1)
  rw [hτ]
  obtain ⟨τ, hτ, (hS : HX σ 33 716 xT0 _ _ _ τ)⟩ := hS.new0 (101, 60) 60 rfl rfl rfl rfl
  rw [hτ]
  obtain ⟨τ, hτ, hS⟩ := hS.pR hC 31 2 (some (sN σ + 32))
  rw [hτ]
  refine VE.step (fun _ h => V.aast (t := 106) (c := 1) (n := 4) (j := 3) (hS.2.2 24 (by decide)).1 (by decide) (by decide) (by omega) rfl (IX.n (by decide) (by decide)) (congrArg Prod.fst (hS.2.2 31 (by decide)).1) (by decide) rfl (.inl rfl) dX0_init_298 h) ?_
  obtain ⟨τ, hτ, hS⟩ := hS.pR hC 24 3 (some (sN σ + 31))
  rw [hτ]
  refine VE.step (fun _ h => pX0_97 rfl rfl (congrArg Prod.fst (hS.2.2 0 (by decide)).1) (by omega) dX0_init_299 h) ?_
  obtain ⟨τ, hτ, hS⟩ := hS.pR hC 0 40 (some (sN σ + 24))
  rw [hτ]
  have hS : HX σ 33 716 xT0 xV0 (xR0 (sN σ)) _ τ := hS
  have hNt := hS.2.1
  have hCt : CLN τ := hS.1.2.2.1
  refine VE.step (fun _ h => V.ald0 dX0_init_302 (gX0_87 rfl (congrArg Prod.fst (hS.2.2 0 (by decide)).1) dX0_init_303 (show sR τ (sN σ + 0) 36 = some (sN σ + 22) from congrFun (hS.2.2 0 (by decide)).2.2.1 36) (V.iconst_0 dX0_init_306 (V.ldcS hz23 dX0_init_307 h)))) ?_
  refine VE.callAny (As := [.ref 23]) rfl dX0_init_309 wX0_read (show 302 < 303 by decide) (Nat.le_of_ble_eq_true rfl) (Nat.le_of_ble_eq_true rfl) (Lk.S (As := [.ref 23]) (rest := [.int 0, .ref (sN σ + 22)]) sX0_103 rfl dX0_init_309) (c_X0_read hJ hU (hO.fg hS.1) (h23.fg hS.1) (by omega) hCt) (fun v s9 q9 => ?_) (fun fa s9 q9 => by obtain ⟨_, _, q, -⟩ := q9; cases q)
  obtain ⟨A, cs, q1, F9, hcs, hA, tA, hT⟩ := q9
  cases q1
  rw [hNt] at hA hT
  have hk : ∀ d, d < 33 → sT s9 (sN σ + d) = xT0 d ∧ sI s9 (sN σ + d) = xV0 d ∧ sR s9 (sN σ + d) = xR0 (sN σ) d := fun d hd => by
    obtain ⟨z1, z2, z3, z4⟩ := hS.2.2 d hd
    obtain ⟨y1, y2, y3, y4⟩ := F9.2.2.2 (sN σ + d) (by rw [z1]; exact (show ∀ d, d < 33 → (xT0 d).1 ≠ 0 by decide) d hd)
    exact ⟨y1.trans z1, y3.trans z2, y2.trans z3⟩
  refine VE.step (fun _ h => V.aastA (n := 6) (j := 0) (hk 22 (by decide)).1 (by omega) (IX.n (by decide) (by decide)) tA dX0_init_312 (V.ald0 dX0_init_313 (V.iconst_1 dX0_init_314 (pX0_107 (σ := pR s9 (sN σ + 22) 0 (some A)) rfl (congrArg Prod.fst (hk 0 (by decide)).1) (by omega) dX0_init_315 h)))) ?_
  have hz : ∀ d, d < 33 → (sT σ (sN σ + d)).1 = 0 := fun d _ => hC _ (by omega)
  refine VE.vret dX0_init_318 rfl ⟨A, cs, rfl, ⟨((hS.1.tr F9).pR (hz 22 (by decide))).pI (hz 0 (by decide)) |>.le (by decide) (by decide), by show _ ≤ sN s9; have := F9.1.1; omega⟩, fun d hd => ?_, hcs, hA, tA, fun j hj => ?_⟩
  · obtain ⟨y1, y2, y3⟩ := hk d hd
    refine ⟨y1, ?_, ?_⟩
    · funext i
      show up2 (sI s9) (sN σ + 0) 37 1 (sN σ + d) i = up2 xV0 0 37 1 d i
      unfold up2
      by_cases z : d = 0 ∧ i = 37
      · rw [if_pos ⟨by omega, z.2⟩, if_pos z]
      · rw [if_neg (fun y => z ⟨by omega, y.2⟩), if_neg z, y2]
    · funext i
      show up2 (sR s9) (sN σ + 22) 0 (some A) (sN σ + d) i = up2 (xR0 (sN σ)) 22 0 (some A) d i
      unfold up2
      by_cases z : d = 22 ∧ i = 0
      · rw [if_pos ⟨by omega, z.2⟩, if_pos z]
      · rw [if_neg (fun y => z ⟨by omega, y.2⟩), if_neg z, y3]
  · obtain ⟨b, d, d1, d2, d3⟩ := hT j hj
    refine ⟨b, d, d1, ?_, Tg.ag (fun x hx _ => ?_) _ _ _ d3⟩
    · show up2 (sR s9) (sN σ + 22) 0 (some A) A j = _
      rw [up2_ne _ _ (fun z => by omega)]; exact d2
    · have e1 : x ≠ sN σ + 22 := by omega
      have e2 : x ≠ sN σ + 0 := by omega
      exact ⟨rfl, up2_at _ _ e1, up2_at _ _ e2⟩

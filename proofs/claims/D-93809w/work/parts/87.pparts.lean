set_option maxRecDepth 100000
set_option maxHeartbeats 4000000
/-! ===== rows of arrays ===== -/
theorem oa_spec {args : Array Value} {s : State} {t : FieldType} (h : (Cond.arrayOver (.array t)).before args s = true) : ∃ comp c k, s.vm.findClass (FieldType.array t).toString = some comp ∧ s.vm.classes[c]? = some k ∧ k.kind = .array comp (.array t) ∧ s.vm.findClass ("[" ++ (FieldType.array t).toString) = some c ∧ (s.vm.classes.findIdx? fun x => match x.kind with | .array component _ => component == comp | _ => false) = some c := by
  simp only [Cond.before, Cond.holds, Cond.value, beq_iff_eq] at h
  cases hc : s.vm.findClass (FieldType.array t).toString with
  | none => simp [hc] at h
  | some comp =>
    simp only [hc, Option.bind_some, Option.bind_eq_some_iff, Option.map_eq_some_iff] at h
    obtain ⟨c, hi, k, hk, hb⟩ := h
    obtain ⟨hlt, hp, -⟩ := Array.findIdx?_eq_some_iff_getElem.mp hi
    have hkk : s.vm.classes[c] = k := (Array.getElem?_eq_some_iff.mp hk).2
    rw [hkk] at hp
    cases hkind : k.kind with
    | array component ty =>
      rw [hkind] at hb hp
      simp at hb hp
      exact ⟨comp, c, k, rfl, hk, by rw [hkind, hp, hb.1], hb.2, hi⟩
    | _ => rw [hkind] at hb; simp at hb
theorem V.aastA {E : En} {M : Mi} {d : Nat} {out : Out} {pc : Nat} {lv : List (Option Value)} {st : List Value} {σ : Sg} {a n j b m : Nat} {i : Int32} (ht : sT σ a = (106, n)) (ha : 1000 ≤ a) (hi : IX i j n) (hb : sT σ b = (105, m)) (hd : decode (mC M) pc = .ok (.aastore, 1)) (h : V E M d out (pc + 1) lv st (pR σ a j (some b))) : V E M d out pc lv (.ref b :: .int i :: .ref a :: st) σ := by
  refine V.astG (t := 105) (v := .ref b) (w := cV E (.ref b)) (σ' := pR σ a j (some b)) ht (by decide) (by decide) ha hi hd rfl rfl rfl ((fv_ref (show fk (aTy 105) = 2 from rfl) a j).trans (by show cR E (up2 (sR σ) a j (some b) a j) = _; rw [up2_eq]; exact cR_eq E _)) (fun ty b k hb => fv_pR E σ _ ty hb) (fun {_ _ _ s} _ _ _ _ _ _ _ _ _ _ hK P hexec hbb _ _ hcell harr hcl hob hknown hin _ hg _ hstack hdg kk => ?_) h
  obtain ⟨cellb, q2, q3, q4, q5, q6, q7, q8, q9⟩ := P.arr hb (by decide)
  obtain ⟨comp, c, k, w1, w2, w3, w4, -⟩ := oa_spec (hK.1.1 _ q163)
  have hal := hK.2.alike
  have r4 : s.vm.findClass ("[" ++ (FieldType.array (.object "OverTheHeads$Node")).toString) = some (eA E 105) := (hK.arr (t := 105) (by decide) (by decide)).2 (by decide)
  have hcA : c = eA E 105 := Option.some.inj ((by rw [hal.findClass]; exact w4 : s.vm.findClass ("[" ++ (FieldType.array (.object "OverTheHeads$Node")).toString) = some c).symm.trans r4)
  obtain ⟨k', hk', he⟩ := hal.2.2 _ _ w2
  have hra := (hK.arr (t := 104) (by decide) (by decide)).2 (by decide)
  obtain ⟨kA, comp', r1, r2, r3, r5⟩ := hra
  have hco : comp = eA E 104 := by
    have h9 : s.vm.findClass (FieldType.array (.object "OverTheHeads$Node")).toString = some comp := by rw [hal.findClass]; exact w1
    exact Option.some.inj (h9.symm.trans r5)
  subst hco
  subst hcA
  exact W.aast hexec hbb hcell (fun q h => by rw [h] at hob; cases hob) hknown (by rw [hcl]; exact hk') (by rw [he]; exact w3) rfl r1 ⟨fun z => hin (.inl z), Nat.not_le.mp fun z => hin (.inr z)⟩ q2 (fun q h => by rw [h] at q5; cases q5) (by rw [q3]; exact r1) (by rw [q3]; exact Vm.assignable_self _ _) hg hstack hdg kk
/-! ===== three parts ===== -/
theorem Tg.tg {b : Nat} {σ σ' : Sg} (hF : ∀ a, (sT σ a).1 = 5 ∨ (sT σ a).1 = 6 ∨ (sT σ a).1 = 7 → sT σ' a = sT σ a ∧ sR σ' a = sR σ a ∧ sI σ' a = sI σ a) : ∀ (d a : Nat) (c : List Int32), Tg b σ d a c → Tg b σ' d a c
  | 0, _, _, h => h
  | d + 1, a, c, ⟨h0, h⟩ => by
    refine ⟨h0, ?_⟩
    rcases h with ⟨h1, h2⟩ | ⟨h1, b1, c', h2, h3, h4⟩ | ⟨h1, b1, b2, c1, c2, sc, h2, h3, h4, h5, h6, h7, h8⟩
    · have t := hF a (.inr (.inl h1))
      exact .inl ⟨by rw [t.1]; exact h1, by rw [t.2.2]; exact h2⟩
    · have t := hF a (.inl h1)
      exact .inr (.inl ⟨by rw [t.1]; exact h1, b1, c', by rw [t.2.1]; exact h2, Tg.tg hF d b1 c' h3, by rw [t.2.2]; exact h4⟩)
    · have t := hF a (.inr (.inr h1))
      exact .inr (.inr ⟨by rw [t.1]; exact h1, b1, b2, c1, c2, sc, by rw [t.2.1]; exact h2, by rw [t.2.1]; exact h3, Tg.tg hF d b1 c1 h4, Tg.tg hF d b2 c2 h5, h6, by rw [t.2.2]; exact h7, h8⟩)
theorem Tg.t {b : Nat} {σ : Sg} {d a : Nat} {c : List Int32} (h : Tg b σ d a c) : (sT σ a).1 = 5 ∨ (sT σ a).1 = 6 ∨ (sT σ a).1 = 7 := by
  cases d with
  | zero => exact h.elim
  | succ d =>
    rcases h.2 with ⟨h1, -⟩ | ⟨h1, -⟩ | ⟨h1, -⟩
    · exact .inr (.inl h1)
    · exact .inl h1
    · exact .inr (.inr h1)
theorem Tg.pA {b : Nat} {σ : Sg} {A k : Nat} {o : Option Nat} (hA : (sT σ A).1 = 105) {d a : Nat} {c : List Int32} (h : Tg b σ d a c) : Tg b (pR σ A k o) d a c := Tg.tg (fun x hx => by
  have hne : x ≠ A := fun z => by rw [z, hA] at hx; rcases hx with hx | hx | hx <;> exact absurd hx (by decide)
  exact ⟨rfl, up2_at _ _ hne, rfl⟩) d a c h
theorem TKp.pA {σ : Sg} {A k : Nat} {o : Option Nat} {t y n s : Int32} {w : Option Nat} (hA : (sT σ A).1 = 105) (h : TKp σ t y n s w) : TKp (pR σ A k o) t y n s w := by
  rcases h with h | h | h | ⟨kx, b9, Lt, q1, q2, q3, q4, q5, q6, q7, ⟨h1, h2, vb, h3, h4, h5⟩, q9⟩
  · exact .inl h
  · exact .inr (.inl h)
  · exact .inr (.inr (.inl h))
  · have e1 : b9 ≠ A := fun z => by rw [z, hA] at h1; exact absurd h1 (by decide)
    refine .inr (.inr (.inr ⟨kx, b9, Lt, q1, q2, q3, q4, q5, q6, q7, ⟨h1, h2, vb, ?_, h4, h5⟩, q9⟩))
    show up2 (sR σ) A k o b9 0 = _
    rw [up2_at _ _ e1]; exact h3
/-- the first k of some lists, one behind the other -/
def preC (cs : Nat → List Int32) : Nat → List Int32
  | 0 => []
  | k + 1 => preC cs k ++ cs k
theorem preC_cg {cs cs' : Nat → List Int32} : ∀ (k : Nat), (∀ j, j < k → cs j = cs' j) → preC cs k = preC cs' k
  | 0, _ => rfl
  | k + 1, h => by rw [preC, preC, preC_cg k (fun j hj => h j (by omega)), h k (by omega)]
def stS (cs : Nat → List Int32) (k : Nat) : List Nat := (List.range k).map (fun j => (preC cs j).length)
theorem stS_s {cs : Nat → List Int32} {k : Nat} : stS cs (k + 1) = stS cs k ++ [(preC cs k).length] := by
  unfold stS
  rw [List.range_succ, List.map_append]
  rfl
theorem stS_cg {cs cs' : Nat → List Int32} {k : Nat} (h : ∀ j, j < k → cs j = cs' j) : stS cs k = stS cs' k := by
  unfold stS
  refine List.map_congr_left (fun j hj => ?_)
  rw [List.mem_range] at hj
  rw [preC_cg j (fun i hi => h i (by omega))]
/-- what parts ends with -/
def PTP (σ : Sg) (r N : Nat) (B : Nat → Int32) : Outcome → Sg → Prop := fun oc s9 =>
  (∃ p, FLp σ r p (20 * N + 40) (100 * N + 200) oc s9 ∧ txS B N = (p, none)) ∨
  ∃ (σ' : Sg) (A p : Nat) (a f o n s : Int32) (w : Option Nat) (cs : Nat → List Int32), oc = .returned (some (.ref A)) ∧ s9 = rdS σ' r a f o n s w ∧ FG σ σ' (20 * N + 40) (100 * N + 200) ∧ txS B N = (p, some (preC cs 3, stS cs 4)) ∧ sN σ ≤ A ∧ sT σ' A = (105, 3) ∧ ∀ j, j < 3 → ∃ b d, d ≤ 400 ∧ sR σ' A j = some b ∧ Tg (sN σ) σ' d b (cs j)
theorem kw_iff {σ : Sg} {t y n s : Int32} {w : Option Nat} (h : TKp σ t y n s w) {k : Nat} (hk : k < 3) : isWd k t y = decide (t = 3 ∧ y = nI k) := by
  have e : tokW k = 3 ∧ valW k = nI k := (show ∀ k, k < 3 → tokW k = 3 ∧ valW k = nI k by decide +kernel) k hk
  unfold isWd
  rw [e.1, e.2]
theorem c_X2_parts {E : En} {σ : Sg} {r N : Nat} {B : Nat → Int32} (hx : Cxt E σ r N B) {f n s : Int32} {w : Option Nat} : CtE E mX2_parts 60 [.ref r] (PTP σ r N B) (rdS σ r (nI 0) f (nI 0) n s w) := by
  show VE E mX2_parts 60 _ 0 [some (.ref r), none, none] [] (rdS σ r (nI 0) f (nI 0) n s w)
  have hN := hx.2.2.2.2.2.2.2.2.1
  have hKY := hx.2.2.1.2.2.1
  have hSV := hx.2.2.1.2.2.2.2.1.1
  have hz := hx.z
  have hC := hx.2.2.2.2.1
  refine VE.step (fun _ h => V.getsN hSV q272 dX2_parts_0 (V.alen (σ := rdS σ r (nI 0) f (nI 0) n s w) (t := 107) hKY.1 (by decide) (by decide) dX2_parts_3 (V.anew (t := 104) (n := 3) (by decide) (by decide) rfl q274 q275 ⟨by decide, by decide⟩ (by decide) dX2_parts_4 (V.ast1 dX2_parts_7 (V.ald0 dX2_parts_8 h))))) ?_
  have eN : sN (rdS σ r (nI 0) f (nI 0) n s w) = sN σ := rfl
  rw [eN, rd_nW hx.ne]
  have F0 : FG σ (nW σ (105, 3) 3) 1 3 := FG.n hC
  have hx0 := hx.fg F0
  have hA0 : sT (nW σ (105, 3) 3) (sN σ) = (105, 3) := nX_t
  have hAr : sN σ ≠ r := Ne.symm hx.ne
  have h1 := hx.2.2.2.1
  -- a fault
  have FLT : ∀ (σ1 : Sg) (a1 : Nat) (n1 s1 : Int32) (w1 : Option Nat) (m k : Nat) (pc : Nat) (lv : List (Option Value)), FG σ σ1 m k → m + 1 ≤ 20 * N + 40 → k + 7 ≤ 100 * N + 200 → txS B N = ((lexM B N a1).1, none) → (PTP σ r N B) (.threw (sN σ1)) (rdS (flt σ1 (nI (lexM B N a1).1)) r (nI (lexM B N a1).2.2.2) (nI (lexM B N a1).1) (nI 0) n1 s1 w1) := by
    intro σ1 a1 n1 s1 w1 m k pc lv F hm hk ht
    exact .inl ⟨_, ⟨flt σ1 (nI (lexM B N a1).1), sN σ1, _, _, _, _, _, _, rfl, rfl, (F.tr (FG.flt F.2.2.1)).le hm hk, flt_t, Nat.le_trans h1 F.1.1, flt_c⟩, ht⟩
  have L14 : ∀ (m k : Nat) (σ1 : Sg) (a1 : Nat) (n1 s1 : Int32) (w1 : Option Nat) (cs : Nat → List Int32), k + m = 3 → FG σ σ1 (20 * a1 + 10) (100 * a1 + 70) → a1 ≤ N → TKL σ1 (lexM B N a1) n1 s1 w1 → sT σ1 (sN σ) = (105, 3) → (∀ j, j < k → ∃ b d, d ≤ 400 ∧ sR σ1 (sN σ) j = some b ∧ Tg (sN σ) σ1 d b (cs j)) → txS B N = tx B N m k a1 (preC cs k) (stS cs k) → VE E mX2_parts 60 (PTP σ r N B) 14 [some (.ref r), some (.ref (sN σ)), some (.int (nI k))] [] (RH σ1 r (lexM B N a1) (nI 0) n1 s1 w1) := by
    intro m
    induction m with
    | zero =>
      intro k σ1 a1 n1 s1 w1 cs hk F1 ha T1 hA hT htx
      obtain rfl : k = 3 := by omega
      have hx1 := hx.fg F1
      have hK1 : sT (RH σ1 r (lexM B N a1) (nI 0) n1 s1 w1) 4 = (108, 3) := hx1.2.2.1.2.2.1.1
      have hbd := lexM_b (B := B) ha
      refine VE.step (fun _ h => V.ild2 dX2_parts_14 (V.getsN hSV q272 dX2_parts_15 (V.alen (t := 107) hK1 (by decide) (by decide) dX2_parts_18 h))) ?_
      refine VE.icmp_ge (tgt := 74) dX2_parts_19 (by decide) (fun _ => ?_) (fun z => absurd (by decide) z)
      rw [tx] at htx
      -- not the end: a fault
      have H108 : (lexM B N a1).2.1 ≠ 0 → VE E mX2_parts 60 (PTP σ r N B) 108 [some (.ref r), some (.ref (sN σ)), some (.int (nI 3))] [] (RH σ1 r (lexM B N a1) (nI 0) n1 s1 w1) := fun h0 => by
        refine VE.step (fun _ h => V.ald0 dX2_parts_108 (V.invV0r vX2_73 hx1.t dX2_parts_109 (c_X2_fault hx1.2.1 hx1.2.2.2.1 hx1.t hx1.ne) h)) ?_
        rw [if_neg h0] at htx
        exact ⟨(.threw (sN σ1), _), FLT σ1 a1 n1 s1 w1 _ _ 0 [] F1 (by omega) (by omega) htx, V.athrow (fun q hq => by cases hq) dX2_parts_112 rfl⟩
      refine VE.step (fun _ h => V.ald0 dX2_parts_74 (gR2 hx1.t rfl dX2_parts_75 (V.ald0 dX2_parts_78 (gR1 hx1.2.2.2.2.2 rfl dX2_parts_79 h)))) ?_
      refine VE.icmp_lt (tgt := 108) dX2_parts_82 (by decide) (fun zl => H108 (fun z0 => ?_)) (fun zl => ?_)
      · have hlt := (nI_ltI (by omega) (by omega)).mp zl
        have h9 : (lexM B N a1).2.2.2 = N := by
          unfold lexM at z0 ⊢
          dsimp only at z0 ⊢
          by_cases q : runF isB B (N - a1) a1 = N
          · rw [if_pos q]; exact q
          · rw [if_neg q] at z0
            exfalso
            have q2 : runF isB B (N - a1) a1 < N := by have := runF_b (P := isB) (B := B) (N - a1) a1; omega
            revert z0
            show (lexT B N (runF isB B (N - a1) a1)).1 ≠ 0
            unfold lexT
            by_cases c1 : isL (B (runF isB B (N - a1) a1)) = true
            · rw [if_pos c1]
              dsimp only
              rcases tokW_r _ (wdI_sp (x := letF B (runF isB B (N - a1) a1) (runF isL B (N - runF isB B (N - a1) a1) (runF isB B (N - a1) a1)))).1 with h | h | h | h | h | h <;> rw [h] <;> decide
            · rw [if_neg c1]
              by_cases c2 : isD (B (runF isB B (N - a1) a1)) = true
              · rw [if_pos c2]
                dsimp only
                split <;> decide
              · rw [if_neg c2]
                dsimp only
                by_cases c3 : isG (B (runF isB B (N - a1) a1)) = true
                · rw [if_pos c3]
                  rcases isG_c c3 with h | h | h | h | h | h | h | h <;> rw [h] <;> decide
                · rw [if_neg c3]; decide
        omega
      · refine VE.step (fun _ h => V.ald0 dX2_parts_85 (gR5 hx1.t rfl dX2_parts_86 h)) ?_
        rcases T1 with ⟨t0, q1, q2, q3⟩ | ⟨t0, q1, ⟨k9, hk9, e9⟩, q2, q3⟩ | ⟨t0, q1, q2, q3⟩ | ⟨kx, b9, Lt, q1, t0, -, -, -, q3, -⟩
        · subst q1 q2 q3
          rw [t0, if_pos rfl] at htx
          refine VE.step (fun _ h => V.ifnonnull_n dX2_parts_89 (V.ald0 dX2_parts_92 (gR6 hx1.t rfl dX2_parts_93 (V.iconst_m1 dX2_parts_96 (V.icmp_ne (tgt := 108) dX2_parts_97 (by decide) (fun z => absurd rfl z) (fun _ => V.ald0 dX2_parts_100 (gR7 hx1.t rfl dX2_parts_101 (V.iconst_m1 dX2_parts_104 (V.icmp_eq (tgt := 113) dX2_parts_105 (by decide) (fun _ => V.ald1 dX2_parts_113 h) (fun z => absurd rfl z)))))))))) ?_
          exact VE.aret (o := some (sN σ)) dX2_parts_114 rfl rfl (.inr ⟨σ1, sN σ, (lexM B N a1).1, _, _, _, _, _, _, cs, rfl, rfl, F1.le (by omega) (by omega), by rw [htx, ← stS_s (k := 3)], Nat.le_refl _, hA, hT⟩)
        · subst q2 q3
          have hne : ¬ n1 = -1 := fun z => by
            rw [q1, e9] at z
            have h9 := congrArg Int32.toInt z
            rw [nI_toInt (by omega)] at h9
            have h8 : ((k9 : Nat) : Int) = -1 := h9
            omega
          exact VE.step (fun _ h => V.ifnonnull_n dX2_parts_89 (V.ald0 dX2_parts_92 (gR6 hx1.t rfl dX2_parts_93 (V.iconst_m1 dX2_parts_96 (V.icmp_ne (tgt := 108) dX2_parts_97 (by decide) (fun _ => h) (fun z => absurd z hne)))))) (H108 (by rw [t0]; decide))
        · subst q1 q3
          have hne : ¬ s1 = -1 := fun z => by
            rw [q2] at z
            rw [z] at t0
            exact absurd t0 (by decide)
          exact VE.step (fun _ h => V.ifnonnull_n dX2_parts_89 (V.ald0 dX2_parts_92 (gR6 hx1.t rfl dX2_parts_93 (V.iconst_m1 dX2_parts_96 (V.icmp_ne (tgt := 108) dX2_parts_97 (by decide) (fun z => absurd rfl z) (fun _ => V.ald0 dX2_parts_100 (gR7 hx1.t rfl dX2_parts_101 (V.iconst_m1 dX2_parts_104 (V.icmp_eq (tgt := 113) dX2_parts_105 (by decide) (fun z => absurd z hne) (fun _ => h)))))))))) (H108 (fun z => by rw [z] at t0; exact absurd t0 (by decide)))
        · subst q3
          exact VE.step (fun _ h => V.ifnonnull_r (x := b9) (tgt := 108) dX2_parts_89 (by decide) h) (H108 (fun z => by
            rw [z] at t0
            rcases tokW_r kx q1 with h | h | h | h | h | h <;> rw [h] at t0 <;> exact absurd t0 (by decide)))
    | succ m ih =>
      intro k σ1 a1 n1 s1 w1 cs hk F1 ha T1 hA hT htx
      have hx1 := hx.fg F1
      have hK1 : sT (RH σ1 r (lexM B N a1) (nI 0) n1 s1 w1) 4 = (108, 3) := hx1.2.2.1.2.2.1.1
      have hbd := lexM_b (B := B) ha
      refine VE.step (fun _ h => V.ild2 dX2_parts_14 (V.getsN hSV q272 dX2_parts_15 (V.alen (t := 107) hK1 (by decide) (by decide) dX2_parts_18 h))) ?_
      refine VE.icmp_ge (tgt := 74) dX2_parts_19 (by decide) (fun z => absurd ((nI_leI (by decide) (by omega)).mp z) (by omega)) (fun _ => ?_)
      refine VE.step (fun _ h => V.ald0 dX2_parts_22 (V.getsN hSV q272 dX2_parts_23 (V.ild2 dX2_parts_26 (V.aald (t := 107) hK1 (by decide) (by decide) rfl rfl (IX.n (j := k) (by omega) (by decide)) dX2_parts_27 h)))) ?_
      have h4r : (4 : Nat) ≠ r := fun z => by have := hx.r; omega
      rw [(rd_ne h4r).2, hx1.2.2.1.2.2.1.2 k (by omega), show va_rf (some (10 + k)) = Value.ref (10 + k) from rfl]
      refine VE.step (fun _ h => V.invV1r vX2_116 hx1.t dX2_parts_28 (c_X2_is hx1 T1 (k := k) (by omega)) h) ?_
      rw [kw_iff T1 (by omega)]
      rw [tx] at htx
      refine VE.ifb_ne (tgt := 39) dX2_parts_31 (by decide) (fun zt => ?_) (fun zf => ?_)
      rotate_left 1
      · rw [decide_eq_false_iff_not] at zf
        rw [if_neg zf] at htx
        refine VE.step (fun _ h => V.ald0 dX2_parts_34 (V.invV0r vX2_73 hx1.t dX2_parts_35 (c_X2_fault hx1.2.1 hx1.2.2.2.1 hx1.t hx1.ne) h)) ?_
        exact ⟨(.threw (sN σ1), _), FLT σ1 a1 n1 s1 w1 _ _ 0 [] F1 (by omega) (by omega) htx, V.athrow (fun q hq => by cases hq) dX2_parts_38 rfl⟩
      rw [decide_eq_true_eq] at zt
      rw [if_pos zt] at htx
      obtain ⟨e, he⟩ : ∃ e, (lexM B N a1).2.2.2 = e := ⟨_, rfl⟩
      have heN : e ≤ N := by rw [← he]; exact hbd.1
      have hlt : a1 < e := by rw [← he]; exact hbd.2.2.resolve_left (by rw [zt.1]; decide)
      rw [he] at htx
      refine VE.step (fun _ h => V.ald0 dX2_parts_39 h) ?_
      refine VE.cR vX2_89 rfl hx1.t dX2_parts_40 (by decide) (hx1.next hbd.1) (fun v s9 q9 => ?_) (fun fa s9 q9 => ?_)
      rotate_left 1
      · rcases q9 with ⟨q1, -⟩ | ⟨q1, q2⟩
        · cases q1
        · rw [he] at q1 q2
          refine .inl ⟨_, q2.pre F1 (by omega) (by omega), ?_⟩
          rw [htx, eR, show N + 1 - e = N - e + 1 by omega, sy_bad q1]
      rcases q9 with ⟨q1, σ2, n2, s2, w2, rfl, F2, T2⟩ | ⟨-, q2⟩
      rotate_left 1
      · exact q2.thr.elim
      cases q1
      rw [he] at T2 ⊢
      have F12 := F1.tr F2
      have hx2 := hx.fg F12
      have hA2 : sT σ2 (sN σ) = (105, 3) := by rw [(F2.2.2.2 (sN σ) (by rw [hA]; decide)).1]; exact hA
      refine VE.step (fun _ h => V.ald1 dX2_parts_43 (V.ild2 dX2_parts_44 (V.ald0 dX2_parts_45 h))) ?_
      refine VE.cR vX2_104 rfl hx2.t dX2_parts_46 (d' := 8 * (5 - cntO []) + 12 + 5) (by decide) (either_ok (E := E) (N + 1 - e) (sN σ) σ2 r N B e [] (preC cs k) true n2 s2 w2 hx2 F12.1.1 heN (by omega) (by decide) T2 rfl trivial) (fun v s9 q9 => ?_) (fun fa s9 q9 => ?_)
      rotate_left 1
      · rcases q9 with ⟨p, q2, q3⟩ | ⟨_, _, _, _, _, _, _, _, _, _, _, q2, -⟩
        · refine .inl ⟨p, q2.pre F12 (by omega) (by omega), ?_⟩
          rw [htx, eR, q3]
        · cases q2
      rcases q9 with ⟨p, q2, -⟩ | ⟨σ3, x, f', a', dt, n3, s3, w3, c, S, C', q2, rfl, T3, F3, G3, ⟨k1, k2, k3, k4, k5⟩, ⟨g1, g2, g3⟩, hs3⟩
      · exact q2.thr.elim
      cases q2
      have F13 := F12.tr F3
      have hx3 := hx.fg F13
      have hbd3 := lexM_b (B := B) k3
      have hA3 : sT σ3 (sN σ) = (105, 3) := by rw [(F3.2.2.2 (sN σ) (by rw [hA2]; decide)).1]; exact hA2
      obtain ⟨f2, rfl⟩ : ∃ f2, f' = f2 + 1 := ⟨f' - 1, by omega⟩
      -- the node goes into its place
      have ST : VE E mX2_parts 60 (PTP σ r N B) 50 [some (.ref r), some (.ref (sN σ)), some (.int (nI k))] [] (rdS (pR σ3 (sN σ) k (some x)) r (nI (lexM B N a').2.2.2) (nI (lexM B N a').1) (nI 0) n3 s3 w3) → VE E mX2_parts 60 (PTP σ r N B) 49 [some (.ref r), some (.ref (sN σ)), some (.int (nI k))] [.ref x, .int (nI k), .ref (sN σ)] (RH σ3 r (lexM B N a') (nI 0) n3 s3 w3) := fun hh => by
        have hA3' : sT (RH σ3 r (lexM B N a') (nI 0) n3 s3 w3) (sN σ) = (104 + 1, 3) := hA3
        have e9 : pR (RH σ3 r (lexM B N a') (nI 0) n3 s3 w3) (sN σ) k (some x) = rdS (pR σ3 (sN σ) k (some x)) r (nI (lexM B N a').2.2.2) (nI (lexM B N a').1) (nI 0) n3 s3 w3 := rd_pR hAr
        rcases G3.t with h | h | h
        · refine VE.step (fun _ h9 => V.aast (t := 104) (c := 4) hA3' (by decide) (by decide) h1 rfl (IX.n (j := k) (by omega) (by decide)) h (by decide) rfl (.inr q1222) dX2_parts_49 h9) ?_
          rw [e9]; exact hh
        · refine VE.step (fun _ h9 => V.aast (t := 104) (c := 5) hA3' (by decide) (by decide) h1 rfl (IX.n (j := k) (by omega) (by decide)) h (by decide) rfl (.inr q1216) dX2_parts_49 h9) ?_
          rw [e9]; exact hh
        · refine VE.step (fun _ h9 => V.aast (t := 104) (c := 6) hA3' (by decide) (by decide) h1 rfl (IX.n (j := k) (by omega) (by decide)) h (by decide) rfl (.inr q1230) dX2_parts_49 h9) ?_
          rw [e9]; exact hh
      refine ST ?_
      have F4 : FG σ (pR σ3 (sN σ) k (some x)) (20 * a1 + 10 + 6 + 20 * (a' - e)) (100 * a1 + 70 + 60 + 100 * (a' - e)) := F13.pR hz
      have hx4 := hx.fg F4
      have T4 : TKL (pR σ3 (sN σ) k (some x)) (lexM B N a') n3 s3 w3 := T3.pA (by rw [hA3])
      have hS0 : S ++ [] = S := List.append_nil S
      rw [hS0] at hs3 g3
      have huw : unw 1 S C' = ([], C' ++ S) := by
        have h9 := unw_all (l := 1) S [] C' g2 trivial
        rw [hS0] at h9
        exact h9
      refine VE.step (fun _ h => V.ald0 dX2_parts_50 (gR7 hx4.t rfl dX2_parts_51 (V.bipush (v := 59) dX2_parts_54 (by decide) h))) ?_
      refine VE.icmp_eq (tgt := 64) dX2_parts_56 (by decide) (fun z59 => ?_) (fun z59 => ?_)
      rotate_left 1
      · have ht59 : (lexM B N a').2.1 ≠ 59 := fun z => z59 ((T4.s (c := 59) rfl).mpr z)
        refine VE.step (fun _ h => V.ald0 dX2_parts_59 (V.invV0r vX2_73 hx4.t dX2_parts_60 (c_X2_fault hx4.2.1 hx4.2.2.2.1 hx4.t hx4.ne) h)) ?_
        refine ⟨(.threw (sN (pR σ3 (sN σ) k (some x))), _), FLT (pR σ3 (sN σ) k (some x)) a' n3 s3 w3 _ _ 0 [] F4 (by omega) (by omega) ?_, V.athrow (fun q hq => by cases hq) dX2_parts_63 rfl⟩
        rw [htx, eR, hs3]
        by_cases h41 : (lexM B N a').2.1 = 41
        · rw [sy_cl0 h41 huw]
        · rw [sy_stop g3 ht59 h41]
      have ht59 := (T4.s (c := 59) rfl).mp z59
      have hlt3 : a' < (lexM B N a').2.2.2 := hbd3.2.2.resolve_left (by rw [ht59]; decide)
      obtain ⟨e', he'⟩ : ∃ e', (lexM B N a').2.2.2 = e' := ⟨_, rfl⟩
      have htx' : txS B N = tx B N m (k + 1) e' (preC cs k ++ c) (stS cs k ++ [(preC cs k).length]) := by
        rw [htx, eR, hs3, sy_end ht59 huw, g1, he']
      refine VE.step (fun _ h => V.ald0 dX2_parts_64 h) ?_
      refine VE.cR vX2_89 rfl hx4.t dX2_parts_65 (by decide) (hx4.next hbd3.1) (fun v s9 q9 => ?_) (fun fa s9 q9 => ?_)
      rotate_left 1
      · rcases q9 with ⟨q1, -⟩ | ⟨q1, q2⟩
        · cases q1
        · rw [he'] at q1 q2
          refine .inl ⟨_, q2.pre F4 (by omega) (by omega), ?_⟩
          rw [htx']
          cases m with
          | zero => rw [tx, q1]; rfl
          | succ m => rw [tx, if_neg (fun z => by rw [q1] at z; exact absurd z.1 (by decide))]
      rcases q9 with ⟨q1, σ5, n5, s5, w5, rfl, F5, T5⟩ | ⟨-, q2⟩
      rotate_left 1
      · exact q2.thr.elim
      cases q1
      rw [he'] at T5 ⊢
      refine VE.step (fun _ h => V.inc2 dX2_parts_68 (V.goto (tgt := 14) dX2_parts_71 (by decide) h)) ?_
      rw [nI_1]
      have hA5 := F5.2.2.2 (sN σ) (show (sT (pR σ3 (sN σ) k (some x)) (sN σ)).1 ≠ 0 by show (sT σ3 (sN σ)).1 ≠ 0; rw [hA3]; decide)
      have hlt4 : a' < e' := by rw [← he']; exact hlt3
      refine ih (k + 1) σ5 e' n5 s5 w5 (fun j => if j = k then c else cs j) (by omega) ((F4.tr F5).le (by omega) (by omega)) (by rw [← he']; exact hbd3.1) T5 (by rw [hA5.1]; exact hA3) (fun j hj => ?_) ?_
      · rw [hA5.2.1]
        by_cases ej : j = k
        · rw [if_pos ej, ej]
          exact ⟨x, dt, by omega, up2_eq _ _ _ _, Tg.fg F5 _ _ _ (Tg.pA (by rw [hA3]) G3)⟩
        · obtain ⟨b9, d9, r1, r2, r3⟩ := hT j (by omega)
          rw [if_neg ej]
          refine ⟨b9, d9, r1, ?_, Tg.fg F5 _ _ _ (Tg.pA (by rw [hA3]) (Tg.fg F3 _ _ _ (Tg.fg F2 _ _ _ r3)))⟩
          show up2 (sR σ3) (sN σ) k (some x) (sN σ) j = _
          rw [up2_ne _ _ (fun z => ej z.2), (F3.2.2.2 (sN σ) (by rw [hA2]; decide)).2.1, (F2.2.2.2 (sN σ) (by rw [hA]; decide)).2.1]
          exact r2
      · have e8 : ∀ j, j < k → cs j = (fun j => if j = k then c else cs j) j := fun j hj => (if_neg (by omega)).symm
        rw [htx', stS_s, preC, ← preC_cg k e8, ← stS_cg e8]
        show _ = tx B N m (k + 1) e' (preC cs k ++ (if k = k then c else cs k)) _
        rw [if_pos rfl]
  refine VE.cR vX2_89 rfl hx0.t dX2_parts_9 (by decide) (hx0.next (Nat.zero_le _)) (fun v s9 q9 => ?_) (fun fa s9 q9 => ?_)
  · rcases q9 with ⟨q1, σ1, n1, s1, w1, rfl, F1, T1⟩ | ⟨-, q2⟩
    · cases q1
      refine VE.step (fun _ h => V.iconst_0 dX2_parts_12 (V.ist2 dX2_parts_13 h)) ?_
      exact L14 3 0 σ1 0 n1 s1 w1 (fun _ => []) (by omega) ((F0.tr F1).le (by omega) (by omega)) (Nat.zero_le _) T1 (by rw [(F1.2.2.2 (sN σ) (by rw [hA0]; decide)).1]; exact hA0) (fun j hj => by omega) rfl
    · exact q2.thr.elim
  · rcases q9 with ⟨q1, -⟩ | ⟨q1, q2⟩
    · cases q1
    · refine .inl ⟨_, q2.pre F0 (by omega) (by omega), ?_⟩
      rw [txS, tx, if_neg (fun z => by rw [q1] at z; exact absurd z.1 (by decide))]

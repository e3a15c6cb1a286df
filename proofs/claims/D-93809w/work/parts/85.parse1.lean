set_option maxRecDepth 100000
set_option maxHeartbeats 2000000
/-! ===== the parser against sy ===== -/
theorem FLp.pre {σ σ1 : Sg} {r p m k m' k' M9 K9 : Nat} {oc : Outcome} {s9 : Sg} (hF : FG σ σ1 m k) (h : FLp σ1 r p m' k' oc s9) (h1 : m + m' ≤ M9) (h2 : k + k' ≤ K9) : FLp σ r p M9 K9 oc s9 := by
  obtain ⟨σ', fa, a, f, o, n, s, w, q1, q2, q3, q4⟩ := h
  exact ⟨σ', fa, a, f, o, n, s, w, q1, q2, (hF.tr q3).le h1 h2, q4⟩
theorem FLp.thr {σ : Sg} {r p m k : Nat} {v : Option Value} {s9 : Sg} (h : FLp σ r p m k (.returned v) s9) : False := by
  obtain ⟨_, _, _, _, _, _, _, _, q, -⟩ := h
  cases q
theorem Tg.ag {b : Nat} {σ σ' : Sg} (hF : ∀ a, b ≤ a → (sT σ a).1 ≠ 0 → sT σ' a = sT σ a ∧ sR σ' a = sR σ a ∧ sI σ' a = sI σ a) : ∀ (d a : Nat) (c : List Int32), Tg b σ d a c → Tg b σ' d a c
  | 0, _, _, h => h
  | d + 1, a, c, ⟨h0, h⟩ => by
    refine ⟨h0, ?_⟩
    rcases h with ⟨h1, h2⟩ | ⟨h1, b1, c', h2, h3, h4⟩ | ⟨h1, b1, b2, c1, c2, sc, h2, h3, h4, h5, h6, h7, h8⟩
    · have t := hF a h0 (by rw [h1]; decide)
      exact .inl ⟨by rw [t.1]; exact h1, by rw [t.2.2]; exact h2⟩
    · have t := hF a h0 (by rw [h1]; decide)
      exact .inr (.inl ⟨by rw [t.1]; exact h1, b1, c', by rw [t.2.1]; exact h2, Tg.ag hF d b1 c' h3, by rw [t.2.2]; exact h4⟩)
    · have t := hF a h0 (by rw [h1]; decide)
      exact .inr (.inr ⟨by rw [t.1]; exact h1, b1, b2, c1, c2, sc, by rw [t.2.1]; exact h2, by rw [t.2.1]; exact h3, Tg.ag hF d b1 c1 h4, Tg.ag hF d b2 c2 h5, h6, by rw [t.2.2]; exact h7, h8⟩)
theorem Tg.lo {b b' : Nat} {σ : Sg} (hb : b ≤ b') : ∀ (d a : Nat) (c : List Int32), Tg b' σ d a c → Tg b σ d a c
  | 0, _, _, h => h
  | d + 1, a, c, ⟨h0, h⟩ => by
    refine ⟨by omega, ?_⟩
    rcases h with h | ⟨h1, b1, c', h2, h3, h4⟩ | ⟨h1, b1, b2, c1, c2, sc, h2, h3, h4, h5, h6⟩
    · exact .inl h
    · exact .inr (.inl ⟨h1, b1, c', h2, Tg.lo hb d b1 c' h3, h4⟩)
    · exact .inr (.inr ⟨h1, b1, b2, c1, c2, sc, h2, h3, Tg.lo hb d b1 c1 h4, Tg.lo hb d b2 c2 h5, h6⟩)
/-- a Leaf is made -/
def leafH (σ : Sg) (n m : Int32) : Sg := pI (pI (nW σ (6, 0) 2) (sN σ) 0 n) (sN σ) 1 m
theorem leaf_ok {σ : Sg} (hC : CLN σ) {n m : Int32} : FG σ (leafH σ n m) 1 2 ∧ (sT (leafH σ n m) (sN σ)).1 = 6 ∧ sI (leafH σ n m) (sN σ) 0 = n ∧ sI (leafH σ n m) (sN σ) 1 = m := by
  have hz := hC (sN σ) (Nat.le_refl _)
  refine ⟨((FG.n hC).pI hz).pI hz, ?_, ?_, up2_eq _ _ _ _⟩
  · show (up1 (sT σ) (sN σ) (6, 0) (sN σ)).1 = 6
    rw [up1_eq]
  · show up2 (up2 (up1 (sI σ) (sN σ) (fun _ => 0)) (sN σ) 0 n) (sN σ) 1 m (sN σ) 0 = n
    rw [up2_ne _ _ (by simp), up2_eq]
theorem rd_leafH {σ : Sg} {r : Nat} {a f o n s x y : Int32} {w : Option Nat} (h : r ≠ sN σ) : pI (pI (rdS (nW σ (6, 0) 2) r a f o n s w) (sN σ) 0 x) (sN σ) 1 y = rdS (leafH σ x y) r a f o n s w := by
  unfold leafH
  rw [rd_pI (Ne.symm h)]
  exact rd_pI (Ne.symm h)
/-- a One is made -/
def oneH (σ : Sg) (v : Int32) (x : Nat) : Sg := pR (pI (nW σ (5, 0) 2) (sN σ) 0 v) (sN σ) 1 (some x)
theorem one_ok {σ : Sg} (hC : CLN σ) {v : Int32} {x : Nat} : FG σ (oneH σ v x) 1 2 ∧ (sT (oneH σ v x) (sN σ)).1 = 5 ∧ sI (oneH σ v x) (sN σ) 0 = v ∧ sR (oneH σ v x) (sN σ) 1 = some x := by
  have hz := hC (sN σ) (Nat.le_refl _)
  refine ⟨((FG.n hC).pI hz).pR hz, ?_, up2_eq _ _ _ _, up2_eq _ _ _ _⟩
  show (up1 (sT σ) (sN σ) (5, 0) (sN σ)).1 = 5
  rw [up1_eq]
theorem rd_oneH {σ : Sg} {r x : Nat} {a f o n s v : Int32} {w : Option Nat} (h : r ≠ sN σ) : pR (pI (rdS (nW σ (5, 0) 2) r a f o n s w) (sN σ) 0 v) (sN σ) 1 (some x) = rdS (oneH σ v x) r a f o n s w := by
  unfold oneH
  rw [rd_pI (Ne.symm h)]
  exact rd_pR (Ne.symm h)
/-- a Two that was made before its second -/
theorem two_ok {σ σ4 : Sg} (hC : CLN σ) {m k : Nat} (hF : FG (nW σ (7, 0) 3) σ4 m k) {b : Nat} (hb : b ≤ sN σ) {d1 d2 x y : Nat} {c1 c2 : List Int32} {sc : Int32 × Int32} (h1 : Tg b σ d1 x c1) (h2 : Tg (sN σ + 1) σ4 d2 y c2) (hs : sc ∈ sgs) :
    FG σ (twoH σ4 (sN σ) sc.1 x y) (1 + m) (3 + k) ∧ Tg b (twoH σ4 (sN σ) sc.1 x y) (max d1 d2 + 1) (sN σ) (c1 ++ c2 ++ [sc.2]) := by
  have hz := hC (sN σ) (Nat.le_refl _)
  have F : FG σ (twoH σ4 (sN σ) sc.1 x y) (1 + m) (3 + k) := ((((FG.n hC).tr hF).pI hz).pR hz).pR hz
  refine ⟨F, hb, .inr (.inr ⟨?_, x, y, c1, c2, sc, ?_, up2_eq _ _ _ _, Tg.up _ _ _ _ (by omega) (Tg.fg F _ _ _ h1), Tg.up d2 _ _ _ (by omega) (Tg.lo (show b ≤ sN σ + 1 by omega) _ _ _ (Tg.ag (fun a ha _ => ?_) _ _ _ h2)), hs, up2_eq _ _ _ _, rfl⟩)⟩
  · have t := hF.2.2.2 (sN σ) (by rw [nX_t]; decide)
    show (sT σ4 (sN σ)).1 = 7
    rw [t.1, nX_t]
  · show up2 (up2 (sR σ4) (sN σ) 1 (some x)) (sN σ) 2 (some y) (sN σ) 1 = _
    rw [up2_ne _ _ (by simp), up2_eq]
  · have hne : a ≠ sN σ := by omega
    refine ⟨rfl, ?_, ?_⟩
    · show up2 (up2 (sR σ4) (sN σ) 1 (some x)) (sN σ) 2 (some y) a = _
      rw [up2_at _ _ hne, up2_at _ _ hne]
    · show up2 (sI σ4) (sN σ) 0 sc.1 a = _
      rw [up2_at _ _ hne]
theorem rd_twoH {σ : Sg} {r x a' b' : Nat} {a f o n s v : Int32} {w : Option Nat} (h : x ≠ r) : twoH (rdS σ r a f o n s w) x v a' b' = rdS (twoH σ x v a' b') r a f o n s w := by
  unfold twoH
  rw [rd_pI h]
  have e : pR (rdS (pI σ x 0 v) r a f o n s w) x 1 (some a') = rdS (pR (pI σ x 0 v) x 1 (some a')) r a f o n s w := rd_pR h
  rw [e]
  exact rd_pR h
/-- a primary's end -/
def P1 (σ : Sg) (r N : Nat) (B : Nat → Int32) (b f a : Nat) (K C : List Int32) (mn : Bool) : Outcome → Sg → Prop := fun oc s9 =>
  (∃ p, FLp σ r p (20 * (N + 1 - a)) (100 * (N + 1 - a)) oc s9 ∧ sy B N f a K C true mn = (p, none)) ∨
  ∃ (σ' : Sg) (x f' a' dt : Nat) (n' s' : Int32) (w' : Option Nat) (c : List Int32), oc = .returned (some (.ref x)) ∧ s9 = RH σ' r (lexM B N a') (nI (cntO K)) n' s' w' ∧ TKL σ' (lexM B N a') n' s' w' ∧ FG σ σ' (20 * (a' - a)) (100 * (a' - a)) ∧ Tg b σ' dt x c ∧ (dt ≤ a' - a ∧ a < a' ∧ a' ≤ N ∧ N + 1 ≤ f' + a' ∧ f' < f) ∧ sy B N f a K C true mn = sy B N f' a' (unw 7 K (C ++ c)).1 (unw 7 K (C ++ c)).2 false true
def OneC (E : En) (f : Nat) : Prop := ∀ (b : Nat) (σ : Sg) (r N : Nat) (B : Nat → Int32) (a : Nat) (K C : List Int32) (mn : Bool) (n s : Int32) (w : Option Nat), Cxt E σ r N B → b ≤ sN σ → a ≤ N → N + 1 ≤ f + a → cntO K ≤ 5 → TKL σ (lexM B N a) n s w → (mn = false ∨ (lexM B N a).2.1 ≠ 6) → CtE E mX2_one (8 * (5 - cntO K) + 12) [.ref r] (P1 σ r N B b f a K C mn) (RH σ r (lexM B N a) (nI (cntO K)) n s w)
/-- a level's end -/
def PL (l : Nat) (li : Int32) (σ : Sg) (r N : Nat) (B : Nat → Int32) (b f a : Nat) (K C : List Int32) (mn : Bool) : Outcome → Sg → Prop := fun oc s9 =>
  (∃ p, FLp σ r p (20 * (N + 1 - a)) (100 * (N + 1 - a)) oc s9 ∧ sy B N f a K C true mn = (p, none)) ∨
  ∃ (σ' : Sg) (x f' a' dt : Nat) (n' s' : Int32) (w' : Option Nat) (c S C' : List Int32), oc = .returned (some (.ref x)) ∧ s9 = RH σ' r (lexM B N a') (nI (cntO K)) n' s' w' ∧ TKL σ' (lexM B N a') n' s' w' ∧ FG σ σ' (20 * (a' - a)) (100 * (a' - a)) ∧ Tg b σ' dt x c ∧ (dt ≤ a' - a ∧ a < a' ∧ a' ≤ N ∧ N + 1 ≤ f' + a' ∧ f' < f) ∧ (C' ++ S = C ++ c ∧ (∀ q, q ∈ S → ¬ rk q < li) ∧ Stop l (lexM B N a').2.1 (S ++ K) C') ∧ sy B N f a K C true mn = sy B N f' a' (S ++ K) C' false true
def LvC (E : En) (M : Mi) (k l : Nat) (li tp : Int32) (MC : Bool → Int32 → Prop) (f : Nat) : Prop := ∀ (b : Nat) (σ : Sg) (r N : Nat) (B : Nat → Int32) (a : Nat) (K C : List Int32) (mn : Bool) (n s : Int32) (w : Option Nat), Cxt E σ r N B → b ≤ sN σ → a ≤ N → N + 1 ≤ f + a → cntO K ≤ 5 → TKL σ (lexM B N a) n s w → MC mn (lexM B N a).2.1 → TopLt tp K → CtE E M (8 * (5 - cntO K) + 12 + k) [.ref r] (PL l li σ r N B b f a K C mn) (RH σ r (lexM B N a) (nI (cntO K)) n s w)
abbrev MA (mn : Bool) (t : Int32) : Prop := mn = false ∨ t ≠ 6
abbrev MB (mn : Bool) (_ : Int32) : Prop := mn = true
abbrev TermC (E : En) (f : Nat) : Prop := LvC E mX2_term 1 6 6 6 MA f
abbrev SumC (E : En) (f : Nat) : Prop := LvC E mX2_sum 2 5 5 5 MA f
abbrev NotC (E : En) (f : Nat) : Prop := LvC E mX2_not 3 3 3 4 MB f
abbrev BothC (E : En) (f : Nat) : Prop := LvC E mX2_both 4 2 2 2 MB f
abbrev EitC (E : En) (f : Nat) : Prop := LvC E mX2_either 5 1 1 1 MB f
theorem cnt_o {K : List Int32} {q : Int32} (h : isO q = true) : cntO (q :: K) = cntO K + 1 := by rw [cntO, if_pos h]
theorem nI_pr {k : Nat} : nI (k + 1) - 1 = nI k := nI_pred k
/-- a primary -/
theorem one_step {E : En} {f : Nat} (ih1 : ∀ f', f' < f → OneC E f') (ihE : ∀ f', f' < f → EitC E f') : OneC E f := by
  intro b σ r N B a K C mn n s w hx hb ha hf ho hk hm
  show VE E mX2_one (8 * (5 - cntO K) + 12) _ 0 [some (.ref r), none] [] (RH σ r (lexM B N a) (nI (cntO K)) n s w)
  have hbd := lexM_b (B := B) ha
  obtain ⟨f0, rfl⟩ : ∃ f0, f = f0 + 1 := ⟨f - 1, by omega⟩
  obtain ⟨e, he⟩ : ∃ e, (lexM B N a).2.2.2 = e := ⟨_, rfl⟩
  have heN : e ≤ N := by rw [← he]; exact hbd.1
  have hae : (lexM B N a).2.1 ≠ 0 → a < e := fun h => by rw [← he]; exact hbd.2.2.resolve_left h
  refine VE.step (fun _ h => V.ald0 dX2_one_0 (gR7 hx.t rfl dX2_one_1 (V.bipush (v := 45) dX2_one_4 (by decide) h))) ?_
  refine VE.icmp_ne (tgt := 38) dX2_one_6 (by decide) (fun z45 => ?_) (fun z45 => ?_)
  rotate_left 1
  · -- a sign ahead
    have ht := (hk.s (c := 45) rfl).mp z45
    have hlt := hae (by rw [ht]; decide)
    have hsy := sy_neg (f := f0) (K := K) (C := C) (mn := mn) ht
    refine VE.step (fun _ h => V.ald0 dX2_one_9 h) ?_
    refine VE.cR vX2_92 rfl hx.t dX2_one_10 (by omega) (c_X2_opens hx ho (L := lexM B N a) hbd.1) (fun v s9 q9 => ?_) (fun fa s9 q9 => ?_)
    · rcases q9 with ⟨-, q2⟩ | ⟨q1, q2 | q2⟩
      · exact q2.thr.elim
      · obtain ⟨q2, σ1, n1, s1, w1, rfl, F1, T1⟩ := q2
        cases q2
        rw [if_neg q1] at hsy
        have hx1 := hx.fg F1
        rw [he] at T1 hsy ⊢
        refine VE.step (fun _ h => V.ald0 dX2_one_13 h) ?_
        have hc9 : cntO (19 :: K) = cntO K + 1 := cnt_o rfl
        refine VE.cR vX2_95 rfl hx1.t dX2_one_14 (d' := 8 * (5 - cntO (19 :: K)) + 12) (by rw [hc9]; omega) (by
          have h9 := ih1 f0 (Nat.lt_succ_self _) b σ1 r N B e (19 :: K) C false n1 s1 w1 hx1 (Nat.le_trans hb F1.1.1) heN (by omega) (by rw [hc9]; omega) T1 (.inl rfl)
          rw [hc9] at h9 ⊢
          exact h9) (fun v s9 q9 => ?_) (fun fa s9 q9 => ?_)
        · rcases q9 with ⟨p, q2, -⟩ | ⟨σ2, x, f', a', dt, n2, s2, w2, c, q2, rfl, T2, F2, G2, ⟨k1, k2, k3, k4, k5⟩, hs2⟩
          · exact q2.thr.elim
          · cases q2
            have F12 := F1.tr F2
            have hx2 := hx.fg F12
            obtain ⟨F3, o1, o2, o3⟩ := one_ok hx2.2.2.2.2.1 (v := 0) (x := x)
            refine VE.step (fun _ h => V.ast1 dX2_one_17 (V.ald0 dX2_one_18 (V.dup dX2_one_19 (gR4 hx2.t rfl dX2_one_20 (V.iconst_1 dX2_one_23 (V.isub dX2_one_24 (pR4 hx2.t hx2.r rfl dX2_one_25 h))))))) ?_
            rw [hc9, nI_pr]
            refine VE.step (fun _ h => nX2_99 (σ := RH σ2 r (lexM B N a') (nI (cntO K)) n2 s2 w2) rfl dX2_one_28 h) ?_
            rw [rd_nW hx2.ne]
            refine VE.step (fun _ h => V.dup dX2_one_31 (V.iconst_0 dX2_one_32 (V.ald1 dX2_one_33 (V.invI2v iX2_101 dX2_one_34 (c_X4_init (σ := rdS (nW σ2 (5, 0) 2) r (nI (lexM B N a').2.2.2) (nI (lexM B N a').1) (nI (cntO K)) n2 s2 w2) (x := sN σ2) (show (sT (nW σ2 (5, 0) 2) (sN σ2)).1 = 5 by rw [nX_t]) hx2.2.2.2.1 (.inl rfl)) h (hdd := Nat.ble_eq.mpr (by omega)))))) ?_
            rw [rd_oneH hx2.ne]
            refine VE.aret (o := some (sN σ2)) dX2_one_37 rfl rfl (.inr ⟨oneH σ2 0 x, sN σ2, f', a', dt + 1, n2, s2, w2, c ++ [19], rfl, rfl, T2.fg F3, (F12.tr F3).le (by omega) (by omega), ?_, ⟨by omega, by omega, k3, k4, by omega⟩, ?_⟩)
            · exact ⟨Nat.le_trans hb F12.1.1, .inr (.inl ⟨o1, x, c, o3, Tg.fg F3 _ _ _ G2, .inl ⟨o2, rfl⟩⟩)⟩
            · rw [hsy, hs2, unw, if_neg (by decide), List.append_assoc]
        · rcases q9 with ⟨p, q2, q3⟩ | ⟨_, _, _, _, _, _, _, _, _, q2, -⟩
          · exact .inl ⟨p, q2.pre F1 (by omega) (by omega), by rw [hsy]; exact q3⟩
          · cases q2
      · exact q2.2.thr.elim
    · rcases q9 with ⟨q1, q2⟩ | ⟨q1, q2 | ⟨q2, q3⟩⟩
      · exact .inl ⟨_, q2.pre (FG.rfl hx.2.2.2.2.1) (by omega) (by omega), by rw [hsy, if_pos q1]⟩
      · cases q2.1
      · obtain ⟨f1, rfl⟩ : ∃ f1, f0 = f1 + 1 := ⟨f0 - 1, by omega⟩
        exact .inl ⟨_, q3.pre (FG.rfl hx.2.2.2.2.1) (by omega) (by omega), by rw [hsy, if_neg q1]; exact sy_bad q2⟩
  have ht45 : (lexM B N a).2.1 ≠ 45 := fun z => z45 ((hk.s (c := 45) rfl).mpr z)
  refine VE.step (fun _ h => V.ald0 dX2_one_38 (gR7 hx.t rfl dX2_one_39 (V.bipush (v := 40) dX2_one_42 (by decide) h))) ?_
  refine VE.icmp_ne (tgt := 86) dX2_one_44 (by decide) (fun z40 => ?_) (fun z40 => ?_)
  rotate_left 1
  · -- a bracket
    have ht := (hk.s (c := 40) rfl).mp z40
    have hlt := hae (by rw [ht]; decide)
    have hsy := sy_par (f := f0) (K := K) (C := C) (mn := mn) ht
    refine VE.step (fun _ h => V.ald0 dX2_one_47 h) ?_
    refine VE.cR vX2_92 rfl hx.t dX2_one_48 (by omega) (c_X2_opens hx ho (L := lexM B N a) hbd.1) (fun v s9 q9 => ?_) (fun fa s9 q9 => ?_)
    · rcases q9 with ⟨-, q2⟩ | ⟨q1, q2 | q2⟩
      · exact q2.thr.elim
      · obtain ⟨q2, σ1, n1, s1, w1, rfl, F1, T1⟩ := q2
        cases q2
        rw [if_neg q1] at hsy
        have hx1 := hx.fg F1
        rw [he] at T1 hsy ⊢
        refine VE.step (fun _ h => V.ald0 dX2_one_51 h) ?_
        have hc9 : cntO (0 :: K) = cntO K + 1 := cnt_o rfl
        refine VE.cR vX2_104 rfl hx1.t dX2_one_52 (d' := 8 * (5 - cntO (0 :: K)) + 12 + 5) (by rw [hc9]; omega) (by
          have h9 := ihE f0 (Nat.lt_succ_self _) b σ1 r N B e (0 :: K) C true n1 s1 w1 hx1 (Nat.le_trans hb F1.1.1) heN (by omega) (by rw [hc9]; omega) T1 rfl (show rk 0 < 1 by decide)
          rw [hc9] at h9 ⊢
          exact h9) (fun v s9 q9 => ?_) (fun fa s9 q9 => ?_)
        · rcases q9 with ⟨p, q2, -⟩ | ⟨σ2, x, f', a', dt, n2, s2, w2, c, S, C', q2, rfl, T2, F2, G2, ⟨k1, k2, k3, k4, k5⟩, ⟨g1, g2, g3⟩, hs2⟩
          · exact q2.thr.elim
          · cases q2
            have F12 := F1.tr F2
            have hx2 := hx.fg F12
            have hbd2 := lexM_b (B := B) k3
            obtain ⟨f2, rfl⟩ : ∃ f2, f' = f2 + 1 := ⟨f' - 1, by omega⟩
            refine VE.step (fun _ h => V.ast1 dX2_one_55 (V.ald0 dX2_one_56 (gR7 hx2.t rfl dX2_one_57 (V.bipush (v := 41) dX2_one_60 (by decide) h)))) ?_
            refine VE.icmp_eq (tgt := 70) dX2_one_62 (by decide) (fun z41 => ?_) (fun z41 => ?_)
            · have ht2 := (T2.s (c := 41) rfl).mp z41
              have hlt2 := hbd2.2.2.resolve_left (by rw [ht2]; decide)
              refine VE.step (fun _ h => V.ald0 dX2_one_70 (V.dup dX2_one_71 (gR4 hx2.t rfl dX2_one_72 (V.iconst_1 dX2_one_75 (V.isub dX2_one_76 (pR4 hx2.t hx2.r rfl dX2_one_77 (V.ald0 dX2_one_80 h))))))) ?_
              rw [hc9, nI_pr]
              have hs3 := sy_cl (f := f2) (K := S ++ 0 :: K) (C := C') (mn := true) ht2 (by rw [unw_all S (0 :: K) C' g2 (show rk 0 < 1 by decide)])
              rw [g1] at hs3
              refine VE.cR vX2_89 rfl hx2.t dX2_one_81 (by omega) (hx2.next hbd2.1) (fun v s9 q9 => ?_) (fun fa s9 q9 => ?_)
              · rcases q9 with ⟨q2, σ3, n3, s3, w3, rfl, F3, T3⟩ | ⟨-, q2⟩
                · cases q2
                  refine VE.step (fun _ h => V.ald1 dX2_one_84 h) ?_
                  exact VE.aret (o := some x) dX2_one_85 rfl rfl (.inr ⟨σ3, x, f2, (lexM B N a').2.2.2, dt, n3, s3, w3, c, rfl, rfl, T3, (F12.tr F3).le (by omega) (by omega), Tg.fg F3 _ _ _ G2, ⟨by omega, by omega, hbd2.1, by omega, by omega⟩, by rw [hsy, hs2, hs3]⟩)
                · exact q2.thr.elim
              · rcases q9 with ⟨q2, -⟩ | ⟨q2, q3⟩
                · cases q2
                · obtain ⟨f3, rfl⟩ : ∃ f3, f2 = f3 + 1 := ⟨f2 - 1, by omega⟩
                  exact .inl ⟨_, q3.pre F12 (by omega) (by omega), by rw [hsy, hs2, hs3]; exact sy_bad q2⟩
            · have ht2 : (lexM B N a').2.1 ≠ 41 := fun z => z41 ((T2.s (c := 41) rfl).mpr z)
              refine VE.step (fun _ h => V.ald0 dX2_one_65 (V.invV0r vX2_73 hx2.t dX2_one_66 (c_X2_fault hx2.2.1 hx2.2.2.2.1 hx2.t hx2.ne) h (hdd := Nat.ble_eq.mpr (by omega)))) ?_
              refine ⟨(.threw (sN σ2), rdS (flt σ2 (nI (lexM B N a').1)) r (nI (lexM B N a').2.2.2) (nI (lexM B N a').1) (nI (cntO (0 :: K))) n2 s2 w2), .inl ⟨(lexM B N a').1, ⟨flt σ2 (nI (lexM B N a').1), sN σ2, _, _, _, _, _, _, rfl, rfl, (F12.tr (FG.flt hx2.2.2.2.2.1)).le (by omega) (by omega), flt_t, hx2.2.2.2.1, flt_c⟩, ?_⟩, V.athrow (fun q hq => by cases hq) dX2_one_69 rfl⟩
              rw [hsy, hs2]
              by_cases h59 : (lexM B N a').2.1 = 59
              · exact sy_endn h59 (by rw [unw_all S (0 :: K) C' g2 (show rk 0 < 1 by decide)])
              · exact sy_stop g3 h59 ht2
        · rcases q9 with ⟨p, q2, q3⟩ | ⟨_, _, _, _, _, _, _, _, _, _, _, q2, -⟩
          · exact .inl ⟨p, q2.pre F1 (by omega) (by omega), by rw [hsy]; exact q3⟩
          · cases q2
      · exact q2.2.thr.elim
    · rcases q9 with ⟨q1, q2⟩ | ⟨q1, q2 | ⟨q2, q3⟩⟩
      · exact .inl ⟨_, q2.pre (FG.rfl hx.2.2.2.2.1) (by omega) (by omega), by rw [hsy, if_pos q1]⟩
      · cases q2.1
      · obtain ⟨f1, rfl⟩ : ∃ f1, f0 = f1 + 1 := ⟨f0 - 1, by omega⟩
        exact .inl ⟨_, q3.pre (FG.rfl hx.2.2.2.2.1) (by omega) (by omega), by rw [hsy, if_neg q1]; exact sy_bad q2⟩
  have ht40 : (lexM B N a).2.1 ≠ 40 := fun z => z40 ((hk.s (c := 40) rfl).mpr z)
  obtain ⟨hn1, hn2⟩ := hk.n
  refine VE.step (fun _ h => V.ald0 dX2_one_86 (gR6 hx.t rfl dX2_one_87 (V.iconst_m1 dX2_one_90 h))) ?_
  refine VE.icmp_eq (tgt := 113) dX2_one_91 (by decide) (fun zn => ?_) (fun zn => ?_)
  rotate_left 1
  · -- a number
    have ht := hn1.mp zn
    obtain ⟨rfl, k9, hk9, ek9⟩ := hn2 ht
    have hlt := hae (by rw [ht]; decide)
    have hsy := sy_num (f := f0) (K := K) (C := C) (mn := mn) (.inl ht)
    rw [if_pos ht, he] at hsy
    refine VE.step (fun _ h => V.ald0 dX2_one_94 (gR6 hx.t rfl dX2_one_95 (V.ist1 dX2_one_98 (V.ald0 dX2_one_99 h)))) ?_
    rw [he]
    refine VE.cR vX2_89 rfl hx.t dX2_one_100 (by omega) (hx.next heN) (fun v s9 q9 => ?_) (fun fa s9 q9 => ?_)
    · rcases q9 with ⟨q2, σ1, n1, s1, w1, rfl, F1, T1⟩ | ⟨-, q2⟩
      · cases q2
        have hx1 := hx.fg F1
        obtain ⟨F2, l1, l2, l3⟩ := leaf_ok hx1.2.2.2.2.1 (n := (lexM B N a).2.2.1) (m := -1)
        refine VE.step (fun _ h => nX2_107 (σ := RH σ1 r (lexM B N e) (nI (cntO K)) n1 s1 w1) rfl dX2_one_103 h) ?_
        rw [rd_nW hx1.ne]
        refine VE.step (fun _ h => V.dup dX2_one_106 (V.ild1 dX2_one_107 (V.iconst_m1 dX2_one_108 (V.invI2v iX2_109 dX2_one_109 (c_X5_init (σ := rdS (nW σ1 (6, 0) 2) r (nI (lexM B N e).2.2.2) (nI (lexM B N e).1) (nI (cntO K)) n1 s1 w1) (x := sN σ1) (show (sT (nW σ1 (6, 0) 2) (sN σ1)).1 = 6 by rw [nX_t]) hx1.2.2.2.1) h (hdd := Nat.ble_eq.mpr (by omega)))))) ?_
        rw [rd_leafH hx1.ne]
        refine VE.aret (o := some (sN σ1)) dX2_one_112 rfl rfl (.inr ⟨leafH σ1 (lexM B N a).2.2.1 (-1), sN σ1, f0, e, 1, n1, s1, w1, [100000 + (lexM B N a).2.2.1], rfl, rfl, T1.fg F2, (F1.tr F2).le (by omega) (by omega), ⟨Nat.le_trans hb F1.1.1, .inl ⟨l1, .inl ⟨l3, k9, hk9, by rw [l2, ek9], ?_⟩⟩⟩, ⟨by omega, hlt, heN, by omega, by omega⟩, by rw [hsy]; exact sy_mn _⟩)
        rw [ek9, show (100000 : Int32) = nI 100000 from rfl, nI_add]
      · exact q2.thr.elim
    · rcases q9 with ⟨q2, -⟩ | ⟨q2, q3⟩
      · cases q2
      · obtain ⟨f1, rfl⟩ : ∃ f1, f0 = f1 + 1 := ⟨f0 - 1, by omega⟩
        exact .inl ⟨_, q3.pre (FG.rfl hx.2.2.2.2.1) (by omega) (by omega), by rw [hsy]; exact sy_bad q2⟩
  have ht1 : (lexM B N a).2.1 ≠ 1 := fun z => hn1.mpr z zn
  -- names
  have hNM := hx.2.2.1.2.2.2.1
  have hSV := hx.2.2.1.2.2.2.2.1.2
  have hNM1 : sT (RH σ r (lexM B N a) (nI (cntO K)) n s w) 5 = (108, 6) := hNM.1
  have L115 : ∀ (m k : Nat), k + m = 6 → (∀ j, j < k → isWd (3 + j) (lexM B N a).2.1 (lexM B N a).2.2.1 = false) → VE E mX2_one (8 * (5 - cntO K) + 12) (P1 σ r N B b (f0 + 1) a K C mn) 115 [some (.ref r), some (.int (nI k))] [] (RH σ r (lexM B N a) (nI (cntO K)) n s w) := by
    intro m
    induction m with
    | zero =>
      intro k hk6 hno
      refine VE.step (fun _ h => V.ild1 dX2_one_115 (V.getsN hSV q649 dX2_one_116 (V.alen (t := 107) hNM1 (by decide) (by decide) dX2_one_119 h))) ?_
      refine VE.icmp_ge (tgt := 158) dX2_one_120 (by decide) (fun _ => ?_) (fun z => absurd (nI_le (by omega) (by omega)) z)
      refine VE.step (fun _ h => V.ald0 dX2_one_158 (V.invV0r vX2_73 hx.t dX2_one_159 (c_X2_fault hx.2.1 hx.2.2.2.1 hx.t hx.ne) h (hdd := Nat.ble_eq.mpr (by omega)))) ?_
      refine ⟨(.threw (sN σ), rdS (flt σ (nI (lexM B N a).1)) r (nI (lexM B N a).2.2.2) (nI (lexM B N a).1) (nI (cntO K)) n s w), .inl ⟨(lexM B N a).1, ⟨flt σ (nI (lexM B N a).1), sN σ, _, _, _, _, _, _, rfl, rfl, (FG.flt hx.2.2.2.2.1).le (by omega) (by omega), flt_t, hx.2.2.2.1, flt_c⟩, ?_⟩, V.athrow (fun q hq => by cases hq) dX2_one_162 rfl⟩
      refine sy_els ht1 (fun z => ?_) ht45 ht40 hm
      rcases hk with ⟨h, -⟩ | ⟨h, -⟩ | ⟨h, -⟩ | ⟨kx, b9, Lt, q1, q2, q3, -⟩
      · rw [z] at h; exact absurd h (by decide)
      · rw [z] at h; exact absurd h (by decide)
      · rw [z] at h; exact absurd h (by decide)
      · have hkx : 3 ≤ kx ∧ kx < 9 := (show ∀ k, k ≤ 12 → tokW k = 2 → 3 ≤ k ∧ k < 9 by decide +kernel) kx q1 (by rw [← q2]; exact z)
        have h9 := hno (kx - 3) (by omega)
        rw [show 3 + (kx - 3) = kx by omega, isWd, decide_eq_false_iff_not] at h9
        exact h9 ⟨q2, q3⟩
    | succ m ih =>
      intro k hk6 hno
      refine VE.step (fun _ h => V.ild1 dX2_one_115 (V.getsN hSV q649 dX2_one_116 (V.alen (t := 107) hNM1 (by decide) (by decide) dX2_one_119 h))) ?_
      refine VE.icmp_ge (tgt := 158) dX2_one_120 (by decide) (fun z => absurd ((nI_leI (by decide) (by omega)).mp z) (by omega)) (fun _ => ?_)
      refine VE.step (fun _ h => V.ald0 dX2_one_123 (V.getsN hSV q649 dX2_one_124 (V.ild1 dX2_one_127 (V.aald (t := 107) hNM1 (by decide) (by decide) rfl rfl (IX.n (j := k) (by omega) (by decide)) dX2_one_128 h)))) ?_
      have h5r : (5 : Nat) ≠ r := fun z => by have := hx.r; omega
      rw [(rd_ne h5r).2, hNM.2 k (by omega), show va_rf (some (13 + k)) = Value.ref (10 + (3 + k)) from by rw [show 13 + k = 10 + (3 + k) by omega]; rfl]
      refine VE.step (fun _ h => V.invV1r vX2_116 hx.t dX2_one_129 (c_X2_is hx hk (k := 3 + k) (by omega)) h (hdd := Nat.ble_eq.mpr (by omega))) ?_
      refine VE.ifb_ne (tgt := 138) dX2_one_132 (by decide) (fun zt => ?_) (fun zf => ?_)
      · have hw := zt
        unfold isWd at hw
        rw [decide_eq_true_eq] at hw
        have htk : tokW (3 + k) = 2 ∧ valW (3 + k) = nI k := (show ∀ k, k < 6 → tokW (3 + k) = 2 ∧ valW (3 + k) = nI k by decide +kernel) k (by omega)
        have ht := hw.1.trans htk.1
        have hlt := hae (by rw [ht]; decide)
        have hsy := sy_num (f := f0) (K := K) (C := C) (mn := mn) (.inr ht)
        rw [if_neg ht1, hw.2, htk.2, he] at hsy
        refine VE.step (fun _ h => V.ald0 dX2_one_138 h) ?_
        rw [he]
        refine VE.cR vX2_89 rfl hx.t dX2_one_139 (by omega) (hx.next heN) (fun v s9 q9 => ?_) (fun fa s9 q9 => ?_)
        · rcases q9 with ⟨q2, σ1, n1, s1, w1, rfl, F1, T1⟩ | ⟨-, q2⟩
          · cases q2
            have hx1 := hx.fg F1
            obtain ⟨F2, l1, l2, l3⟩ := leaf_ok hx1.2.2.2.2.1 (n := 0) (m := nI k)
            refine VE.step (fun _ h => nX2_107 (σ := RH σ1 r (lexM B N e) (nI (cntO K)) n1 s1 w1) rfl dX2_one_142 h) ?_
            rw [rd_nW hx1.ne]
            refine VE.step (fun _ h => V.dup dX2_one_145 (V.iconst_0 dX2_one_146 (V.ild1 dX2_one_147 (V.invI2v iX2_109 dX2_one_148 (c_X5_init (σ := rdS (nW σ1 (6, 0) 2) r (nI (lexM B N e).2.2.2) (nI (lexM B N e).1) (nI (cntO K)) n1 s1 w1) (x := sN σ1) (show (sT (nW σ1 (6, 0) 2) (sN σ1)).1 = 6 by rw [nX_t]) hx1.2.2.2.1) h (hdd := Nat.ble_eq.mpr (by omega)))))) ?_
            rw [rd_leafH hx1.ne]
            exact VE.aret (o := some (sN σ1)) dX2_one_151 rfl rfl (.inr ⟨leafH σ1 0 (nI k), sN σ1, f0, e, 1, n1, s1, w1, [nI k], rfl, rfl, T1.fg F2, (F1.tr F2).le (by omega) (by omega), ⟨Nat.le_trans hb F1.1.1, .inl ⟨l1, .inr ⟨k, by omega, l3, rfl⟩⟩⟩, ⟨by omega, hlt, heN, by omega, by omega⟩, by rw [hsy]; exact sy_mn _⟩)
          · exact q2.thr.elim
        · rcases q9 with ⟨q2, -⟩ | ⟨q2, q3⟩
          · cases q2
          · obtain ⟨f1, rfl⟩ : ∃ f1, f0 = f1 + 1 := ⟨f0 - 1, by omega⟩
            exact .inl ⟨_, q3.pre (FG.rfl hx.2.2.2.2.1) (by omega) (by omega), by rw [hsy]; exact sy_bad q2⟩
      · refine VE.step (fun _ h => V.goto (tgt := 152) dX2_one_135 (by decide) (V.inc1 dX2_one_152 (V.goto (tgt := 115) dX2_one_155 (by decide) h))) ?_
        rw [nI_1]
        exact ih (k + 1) (by omega) (fun j hj => by
          rcases Nat.lt_or_ge j k with h | h
          · exact hno j h
          · rw [show j = k by omega]; exact zf)
  exact VE.step (fun _ h => V.iconst_0 dX2_one_113 (V.ist1 dX2_one_114 h)) (L115 6 0 (by omega) (fun j hj => by omega))

set_option maxRecDepth 100000
set_option maxHeartbeats 4000000
theorem takes_no {E : En} {σ : Sg} {r N : Nat} {B : Nat → Int32} (hx : Cxt E σ r N B) {a f o n s q : Int32} {w : Option Nat} (h : ¬ s = q) : Ct E mX2_takes 9 [.ref r, .int q] (.returned (some (.int (b2i false))), rdS σ r a f o n s w) (rdS σ r a f o n s w) := by
  show V E mX2_takes 9 _ 0 [some (.ref r), some (.int q)] [] (rdS σ r a f o n s w)
  exact V.ald0 dX2_takes_0 (gR7 hx.t rfl dX2_takes_1 (V.ild1 dX2_takes_4 (V.icmp_eq (tgt := 10) dX2_takes_5 (by decide) (fun z => absurd z h) (fun _ => V.iconst_0 dX2_takes_8 (V.iret dX2_takes_9 rfl (nar_b false) rfl)))))
def TKY (σ : Sg) (r : Nat) (o : Int32) (L : Nat × Int32 × Int32 × Nat) : Outcome → Sg → Prop := fun oc s9 => (oc = .returned (some (.int (b2i true))) ∧ RDp σ r o L 6 60 s9) ∨ (L.2.1 = -1 ∧ FLp σ r L.1 6 60 oc s9)
theorem takes_ye {E : En} {σ : Sg} {r N : Nat} {B : Nat → Int32} (hx : Cxt E σ r N B) {L : Nat × Int32 × Int32 × Nat} (hL : L.2.2.2 ≤ N) {o n s q : Int32} {w : Option Nat} (h : s = q) : CtE E mX2_takes 9 [.ref r, .int q] (TKY σ r o (lexM B N L.2.2.2)) (RH σ r L o n s w) := by
  show VE E mX2_takes 9 _ 0 [some (.ref r), some (.int q)] [] (RH σ r L o n s w)
  refine VE.step (fun _ h => V.ald0 dX2_takes_0 (gR7 hx.t rfl dX2_takes_1 (V.ild1 dX2_takes_4 h))) ?_
  refine VE.icmp_eq (tgt := 10) dX2_takes_5 (by decide) (fun _ => ?_) (fun z => absurd h z)
  refine VE.step (fun _ h => V.ald0 dX2_takes_10 h) ?_
  refine VE.cR vX2_89 rfl hx.t dX2_takes_11 (by decide) (hx.next hL) (fun v s9 q9 => ?_) (fun a s9 q9 => ?_)
  · rcases q9 with ⟨q1, q2⟩ | ⟨q1, q2⟩
    · cases q1
      refine VE.step (fun _ h => V.iconst_1 dX2_takes_14 h) ?_
      exact VE.iret dX2_takes_15 rfl (nar_b true) (.inl ⟨rfl, q2⟩)
    · exact q2.thr.elim
  · rcases q9 with ⟨q1, -⟩ | q2
    · cases q1
    · exact .inr q2
/-- a primary as a level -/
theorem one_L {E : En} {f : Nat} (h : OneC E f) : LvC E mX2_one 0 7 7 7 MA f := by
  intro b σ r N B a K C mn n s w hx hb ha hf ho hk hm htp
  refine CtE.mono (h b σ r N B a K C mn n s w hx hb ha hf ho hk hm) (fun oc s9 q => ?_)
  rcases q with q | ⟨σ', x, f', a', dt, n', s', w', c, q1, q2, q3, q4, q5, q6, q7⟩
  · exact .inl q
  · have e := unw_all (l := 7) [] K (C ++ c) (fun q hq => by cases hq) htp
    rw [List.nil_append, List.append_nil] at e
    refine .inr ⟨σ', x, f', a', dt, n', s', w', c, [], C ++ c, q1, q2, q3, q4, q5, q6, ⟨by rw [List.append_nil], (fun q hq => by cases hq), ⟨fun z => absurd z (by decide), fun z => absurd z (by decide), fun z => absurd z (by decide), fun z => absurd z (by decide), fun z => absurd z (by decide)⟩⟩, ?_⟩
    rw [q7, e]
    rfl
/-- where a level's loop stands -/
def LSt (l' : Nat) (li : Int32) (σ : Sg) (N : Nat) (B : Nat → Int32) (b f a : Nat) (K C : List Int32) (mn : Bool) (σ1 : Sg) (x f1 a1 dt : Nat) (n1 s1 : Int32) (w1 : Option Nat) (c S C' : List Int32) : Prop := TKL σ1 (lexM B N a1) n1 s1 w1 ∧ FG σ σ1 (20 * (a1 - a)) (100 * (a1 - a)) ∧ Tg b σ1 dt x c ∧ (dt ≤ a1 - a ∧ a < a1 ∧ a1 ≤ N ∧ N + 1 ≤ f1 + a1 ∧ f1 < f) ∧ (C' ++ S = C ++ c ∧ ∀ q, q ∈ S → ¬ rk q < li) ∧ Stop l' (lexM B N a1).2.1 (S ++ K) C' ∧ sy B N f a K C true mn = sy B N f1 a1 (S ++ K) C' false true
theorem rk_mono {q l l' : Int32} (h : ¬ rk q < l') (hl : l ≤ l') : ¬ rk q < l := fun z => h (Int32.lt_of_lt_of_le z hl)
theorem TopLt.up {l l' : Int32} {K : List Int32} (h : TopLt l K) (hl : l ≤ l') : TopLt l' K := by
  cases K with
  | nil => trivial
  | cons q K => exact Int32.lt_of_lt_of_le h hl
theorem TKp.two {σ : Sg} {x a b : Nat} {v t y n s : Int32} {w : Option Nat} (ht : (sT σ x).1 = 7) (h : TKp σ t y n s w) : TKp (twoH σ x v a b) t y n s w := by
  rcases h with h | h | h | ⟨kx, b9, Lt, q1, q2, q3, q4, q5, q6, q7, ⟨h1, h2, vb, h3, h4, h5⟩, q9⟩
  · exact .inl h
  · exact .inr (.inl h)
  · exact .inr (.inr (.inl h))
  · have e1 : b9 ≠ x := fun z => by rw [z, ht] at h1; exact absurd h1 (by decide)
    have e2 : vb ≠ x := fun z => by
      rw [z] at h4
      have h9 : (sT σ x).1 = 102 := by rw [h4]
      rw [ht] at h9
      exact absurd h9 (by decide)
    refine .inr (.inr (.inr ⟨kx, b9, Lt, q1, q2, q3, q4, q5, q6, q7, ⟨h1, ?_, vb, ?_, h4, fun i hi => ?_⟩, q9⟩))
    · show up2 (sI σ) x 0 v b9 1 = 0
      rw [up2_at _ _ e1]; exact h2
    · show up2 (up2 (sR σ) x 1 (some a)) x 2 (some b) b9 0 = _
      rw [up2_at _ _ e1, up2_at _ _ e1]; exact h3
    · show up2 (sI σ) x 0 v vb i = _
      rw [up2_at _ _ e2]; exact h5 i hi
theorem term_step {E : En} {f : Nat} (iho : ∀ f', f' ≤ f → LvC E mX2_one 0 7 7 7 MA f') : TermC E f := by
  intro b σ r N B a K C mn n s w hx hb ha hf ho hk hm htp
  show VE E mX2_term (8 * (5 - cntO K) + 12 + 1) _ 0 [some (.ref r), none] [] (RH σ r (lexM B N a) (nI (cntO K)) n s w)
  have L5 : ∀ (g f1 : Nat) (σ1 : Sg) (x a1 dt : Nat) (n1 s1 : Int32) (w1 : Option Nat) (c S C' : List Int32), f1 ≤ g → LSt 7 6 σ N B b f a K C mn σ1 x f1 a1 dt n1 s1 w1 c S C' → VE E mX2_term (8 * (5 - cntO K) + 12 + 1) (PL 6 6 σ r N B b f a K C mn) 5 [some (.ref r), some (.ref x)] [] (RH σ1 r (lexM B N a1) (nI (cntO K)) n1 s1 w1) := by
    intro g
    induction g with
    | zero =>
      intro f1 σ1 x a1 dt n1 s1 w1 c S C' hg hL
      obtain ⟨-, -, -, ⟨-, -, h3, h4, -⟩, -⟩ := hL
      omega
    | succ g ih =>
      intro f1 σ1 x a1 dt n1 s1 w1 c S C' hg hL
      obtain ⟨T1, F1, G1, ⟨k1, k2, k3, k4, k5⟩, ⟨g1, g2⟩, hst, hs1⟩ := hL
      have hx1 := hx.fg F1
      have hbd1 := lexM_b (B := B) k3
      obtain ⟨f2, rfl⟩ : ∃ f2, f1 = f2 + 1 := ⟨f1 - 1, by omega⟩
      -- the end
      have EX : Stop 6 (lexM B N a1).2.1 (S ++ K) C' → VE E mX2_term (8 * (5 - cntO K) + 12 + 1) (PL 6 6 σ r N B b f a K C mn) 32 [some (.ref r), some (.ref x)] [] (RH σ1 r (lexM B N a1) (nI (cntO K)) n1 s1 w1) := fun hS => by
        refine VE.step (fun _ h => V.ald1 dX2_term_32 h) ?_
        exact VE.aret (o := some x) dX2_term_33 rfl rfl (.inr ⟨σ1, x, f2 + 1, a1, dt, n1, s1, w1, c, S, C', rfl, rfl, T1, F1, G1, ⟨k1, k2, k3, k4, k5⟩, ⟨g1, g2, hS⟩, hs1⟩)
      obtain ⟨e, he⟩ : ∃ e, (lexM B N a1).2.2.2 = e := ⟨_, rfl⟩
      have heN : e ≤ N := by rw [← he]; exact hbd1.1
      -- one more
      have MO : ∀ (sc : Int32 × Int32) (σ2 : Sg) (n2 s2 : Int32) (w2 : Option Nat), sc ∈ sgs → sgO (lexM B N a1).2.1 = sc.2 → rk sc.2 = 6 → isO sc.2 = false → MA (decide (sc.2 ≤ 12)) (lexM B N e).2.1 → FG σ1 σ2 6 60 → TKL σ2 (lexM B N e) n2 s2 w2 → VE E mX2_term (8 * (5 - cntO K) + 12 + 1) (PL 6 6 σ r N B b f a K C mn) 14 [some (.ref r), some (.ref x)] [] (RH σ2 r (lexM B N e) (nI (cntO K)) n2 s2 w2) ∨ ¬ sc.1 = 42 := by
        intro sc σ2 n2 s2 w2 hsc hsg hrk hio hmc F2 T2
        refine (Decidable.em (sc.1 = 42)).elim (fun hv => Or.inl ?_) (fun hv => Or.inr hv)
        have hne : ¬ sgO (lexM B N a1).2.1 = -1 := fun z => by rw [hsg] at z; rw [z] at hrk; exact absurd hrk (by decide)
        have ht0 : (lexM B N a1).2.1 ≠ 0 := fun z => hne (by rw [z]; decide)
        have hlt : a1 < e := by rw [← he]; exact hbd1.2.2.resolve_left ht0
        have hsy := sy_op (f := f2) (mn := true) hne (U := (sc.2 :: K, C' ++ S)) (by rw [hsg]; exact btw_all hrk (by decide) g2 htp)
        rw [hsg, he, g1] at hsy
        have F12 := F1.tr F2
        have hx2 := hx.fg F12
        have hC2 := hx2.2.2.2.2.1
        have FN : FG σ2 (nW σ2 (7, 0) 3) 1 3 := FG.n hC2
        have hx3 := hx2.fg FN
        have hcn : cntO (sc.2 :: K) = cntO K := by rw [cntO, hio]; rfl
        refine VE.step (fun _ h => nX2_124 (σ := RH σ2 r (lexM B N e) (nI (cntO K)) n2 s2 w2) rfl dX2_term_14 h) ?_
        rw [rd_nW hx2.ne]
        refine VE.step (fun _ h => V.dup dX2_term_17 (V.bipush (v := 42) dX2_term_18 (by decide) (V.ald1 dX2_term_20 (V.ald0 dX2_term_21 h)))) ?_
        refine VE.cR vX2_95 rfl hx3.t dX2_term_22 (d' := 8 * (5 - cntO (sc.2 :: K)) + 12 + 0) (by rw [hcn]; omega) (by
          have h9 := iho f2 (by omega) (sN σ2 + 1) (nW σ2 (7, 0) 3) r N B e (sc.2 :: K) (C ++ c) (decide (sc.2 ≤ 12)) n2 s2 w2 hx3 (Nat.le_refl _) heN (by omega) (by rw [hcn]; exact ho) (T2.fg FN) hmc (show rk sc.2 < 7 by rw [hrk]; decide)
          rw [hcn] at h9 ⊢
          exact h9) (fun v s9 q9 => ?_) (fun fa s9 q9 => ?_)
        · rcases q9 with ⟨p, q2, -⟩ | ⟨σ4, y, f3, a3, dt2, n4, s4, w4, c2, S2, C2, q2, rfl, T4, F4, G4, ⟨m1, m2, m3, m4, m5⟩, ⟨e1, e2, e3⟩, hs4⟩
          · exact q2.thr.elim
          · cases q2
            have hx4 := hx3.fg F4
            obtain ⟨F5, G5⟩ := two_ok hC2 F4 (Nat.le_trans hb F12.1.1) (Tg.fg F2 _ _ _ G1) G4 hsc
            have ht7 : (sT σ4 (sN σ2)).1 = 7 := by rw [(F4.2.2.2 (sN σ2) (by rw [nX_t]; decide)).1, nX_t]
            rw [hcn]
            refine VE.step (fun _ h => V.invI3v iX2_126 dX2_term_25 (c_X6_init (σ := RH σ4 r (lexM B N a3) (nI (cntO K)) n4 s4 w4) (x := sN σ2) ht7 hx2.2.2.2.1) (V.ast1 dX2_term_28 (V.goto (tgt := 5) dX2_term_29 (by decide) h)) (hdd := Nat.ble_eq.mpr (by omega))) ?_
            rw [rd_twoH (Ne.symm hx2.ne)]
            rw [← hv]
            refine ih f3 (twoH σ4 (sN σ2) sc.1 x y) (sN σ2) a3 (max dt dt2 + 1) n4 s4 w4 (c ++ c2 ++ [sc.2]) (S2 ++ [sc.2]) C2 (by omega) ⟨T4.two ht7, (F12.tr F5).le (by omega) (by omega), G5, ⟨by omega, by omega, m3, m4, by omega⟩, ⟨by rw [← List.append_assoc, e1, List.append_assoc, List.append_assoc, List.append_assoc], fun q hq => ?_⟩, ?_, ?_⟩
            · rcases List.mem_append.mp hq with h9 | h9
              · exact rk_mono (e2 q h9) (by decide)
              · rw [List.mem_singleton.mp h9, hrk]; exact Int32.lt_irrefl
            · rw [List.append_assoc]; exact e3
            · rw [hs1, hsy, hs4, List.append_assoc]; rfl
        · rcases q9 with ⟨p, q2, q3⟩ | ⟨_, _, _, _, _, _, _, _, _, _, _, q2, -⟩
          · exact .inl ⟨p, q2.pre (F12.tr FN) (by omega) (by omega), by rw [hs1, hsy]; exact q3⟩
          · cases q2
      -- a fault behind the sign
      have BAD : ∀ (sg : Int32) (fa : Nat) (s9 : Sg), sgO (lexM B N a1).2.1 = sg → rk sg = 6 → (lexM B N e).2.1 = -1 → FLp σ1 r (lexM B N e).1 6 60 (.threw fa) s9 → (PL 6 6 σ r N B b f a K C mn) (.threw fa) s9 := by
        intro sg fa s9 hsg hrk hbad q3
        have hne : ¬ sgO (lexM B N a1).2.1 = -1 := fun z => by rw [hsg] at z; rw [z] at hrk; exact absurd hrk (by decide)
        have ht0 : (lexM B N a1).2.1 ≠ 0 := fun z => hne (by rw [z]; decide)
        have hlt : a1 < e := by rw [← he]; exact hbd1.2.2.resolve_left ht0
        have hsy := sy_op (f := f2) (mn := true) hne (U := (sg :: K, C' ++ S)) (by rw [hsg]; exact btw_all hrk (by decide) g2 htp)
        rw [hsg, he, g1] at hsy
        obtain ⟨f3, rfl⟩ : ∃ f3, f2 = f3 + 1 := ⟨f2 - 1, by omega⟩
        exact .inl ⟨_, q3.pre F1 (by omega) (by omega), by rw [hs1, hsy]; exact sy_bad hbad⟩
      by_cases z42 : s1 = 42
      · have ht := (T1.s (c := 42) rfl).mp z42
        refine VE.step (fun _ h => V.ald0 dX2_term_5 (V.bipush (v := 42) dX2_term_6 (by decide) h)) ?_
        refine VE.callAny (As := [.ref r, .int 42]) rfl dX2_term_8 wX2_takes (show 9 < 8 * (5 - cntO K) + 12 + 1 by omega) (Nat.le_of_ble_eq_true rfl) (Nat.le_of_ble_eq_true rfl) (Lk.V (As := [.int 42]) (rest := []) vX2_120 hx1.t rfl dX2_term_8) (takes_ye hx1 hbd1.1 z42) (fun v s9 q9 => ?_) (fun fa s9 q9 => ?_)
        · rcases q9 with ⟨q1, σ2, n2, s2, w2, rfl, F2, T2⟩ | ⟨-, q2⟩
          · cases q1
            rw [he] at T2 ⊢
            refine VE.ifb_eq (tgt := 32) dX2_term_11 (by decide) (fun z => Bool.noConfusion z) (fun _ => ?_)
            exact (MO (42, 18) σ2 n2 s2 w2 (by decide) (by rw [ht]; decide) (by decide) (by decide) (.inl (by decide)) F2 T2).resolve_right (fun z => z rfl)
          · exact q2.thr.elim
        · rcases q9 with ⟨q1, -⟩ | ⟨q1, q2⟩
          · cases q1
          · rw [he] at q1 q2
            exact BAD 18 fa s9 (by rw [ht]; decide) (by decide) q1 q2
      · have ht : (lexM B N a1).2.1 ≠ 42 := fun z => z42 ((T1.s (c := 42) rfl).mpr z)
        refine VE.step (fun _ h => V.ald0 dX2_term_5 (V.bipush (v := 42) dX2_term_6 (by decide) (V.invV1r vX2_120 hx1.t dX2_term_8 (takes_no hx1 z42) h (hdd := Nat.ble_eq.mpr (by omega))))) ?_
        exact VE.ifb_eq (tgt := 32) dX2_term_11 (by decide) (fun _ => EX ⟨fun _ => ht, fun z => absurd z (by decide), fun z => absurd z (by decide), fun z => absurd z (by decide), fun z => absurd z (by decide)⟩) (fun z => Bool.noConfusion z)
  refine VE.step (fun _ h => V.ald0 dX2_term_0 h) ?_
  refine VE.cR vX2_95 rfl hx.t dX2_term_1 (d' := 8 * (5 - cntO K) + 12 + 0) (by omega) (iho f (Nat.le_refl _) b σ r N B a K C mn n s w hx hb ha hf ho hk hm (htp.up (by decide))) (fun v s9 q9 => ?_) (fun fa s9 q9 => ?_)
  · rcases q9 with ⟨p, q2, -⟩ | ⟨σ1, x, f1, a1, dt, n1, s1, w1, c, S, C', q2, rfl, T1, F1, G1, h5, ⟨g1, g2, g3⟩, hs1⟩
    · exact q2.thr.elim
    · cases q2
      refine VE.step (fun _ h => V.ast1 dX2_term_4 h) ?_
      exact L5 f1 f1 σ1 x a1 dt n1 s1 w1 c S C' (Nat.le_refl _) ⟨T1, F1, G1, h5, ⟨g1, fun q hq => rk_mono (g2 q hq) (by decide)⟩, g3, hs1⟩
  · rcases q9 with q | ⟨_, _, _, _, _, _, _, _, _, _, _, q2, -⟩
    · exact .inl q
    · cases q2
theorem sum_step {E : En} {f : Nat} (iho : ∀ f', f' ≤ f → TermC E f') : SumC E f := by
  intro b σ r N B a K C mn n s w hx hb ha hf ho hk hm htp
  show VE E mX2_sum (8 * (5 - cntO K) + 12 + 2) _ 0 [some (.ref r), none, none] [] (RH σ r (lexM B N a) (nI (cntO K)) n s w)
  have L5 : ∀ (g f1 : Nat) (σ1 : Sg) (x a1 dt : Nat) (n1 s1 : Int32) (w1 : Option Nat) (c S C' : List Int32) (z2 : Option Value), f1 ≤ g → LSt 6 5 σ N B b f a K C mn σ1 x f1 a1 dt n1 s1 w1 c S C' → VE E mX2_sum (8 * (5 - cntO K) + 12 + 2) (PL 5 5 σ r N B b f a K C mn) 5 [some (.ref r), some (.ref x), z2] [] (RH σ1 r (lexM B N a1) (nI (cntO K)) n1 s1 w1) := by
    intro g
    induction g with
    | zero =>
      intro f1 σ1 x a1 dt n1 s1 w1 c S C' z2 hg hL
      obtain ⟨-, -, -, ⟨-, -, h3, h4, -⟩, -⟩ := hL
      omega
    | succ g ih =>
      intro f1 σ1 x a1 dt n1 s1 w1 c S C' z2 hg hL
      obtain ⟨T1, F1, G1, ⟨k1, k2, k3, k4, k5⟩, ⟨g1, g2⟩, hst, hs1⟩ := hL
      have hx1 := hx.fg F1
      have hbd1 := lexM_b (B := B) k3
      obtain ⟨f2, rfl⟩ : ∃ f2, f1 = f2 + 1 := ⟨f1 - 1, by omega⟩
      -- the end
      have EX : Stop 5 (lexM B N a1).2.1 (S ++ K) C' → VE E mX2_sum (8 * (5 - cntO K) + 12 + 2) (PL 5 5 σ r N B b f a K C mn) 49 [some (.ref r), some (.ref x), z2] [] (RH σ1 r (lexM B N a1) (nI (cntO K)) n1 s1 w1) := fun hS => by
        refine VE.step (fun _ h => V.ald1 dX2_sum_49 h) ?_
        exact VE.aret (o := some x) dX2_sum_50 rfl rfl (.inr ⟨σ1, x, f2 + 1, a1, dt, n1, s1, w1, c, S, C', rfl, rfl, T1, F1, G1, ⟨k1, k2, k3, k4, k5⟩, ⟨g1, g2, hS⟩, hs1⟩)
      obtain ⟨e, he⟩ : ∃ e, (lexM B N a1).2.2.2 = e := ⟨_, rfl⟩
      have heN : e ≤ N := by rw [← he]; exact hbd1.1
      -- one more
      have MO : ∀ (sc : Int32 × Int32) (σ2 : Sg) (n2 s2 : Int32) (w2 : Option Nat) (z2 : Option Value), sc ∈ sgs → sgO (lexM B N a1).2.1 = sc.2 → rk sc.2 = 5 → isO sc.2 = false → MA (decide (sc.2 ≤ 12)) (lexM B N e).2.1 → FG σ1 σ2 6 60 → TKL σ2 (lexM B N e) n2 s2 w2 → VE E mX2_sum (8 * (5 - cntO K) + 12 + 2) (PL 5 5 σ r N B b f a K C mn) 32 [some (.ref r), some (.ref x), some (.int sc.1)] [] (RH σ2 r (lexM B N e) (nI (cntO K)) n2 s2 w2) := by
        intro sc σ2 n2 s2 w2 z2 hsc hsg hrk hio hmc F2 T2
        skip
        have hne : ¬ sgO (lexM B N a1).2.1 = -1 := fun z => by rw [hsg] at z; rw [z] at hrk; exact absurd hrk (by decide)
        have ht0 : (lexM B N a1).2.1 ≠ 0 := fun z => hne (by rw [z]; decide)
        have hlt : a1 < e := by rw [← he]; exact hbd1.2.2.resolve_left ht0
        have hsy := sy_op (f := f2) (mn := true) hne (U := (sc.2 :: K, C' ++ S)) (by rw [hsg]; exact btw_all hrk (by decide) g2 htp)
        rw [hsg, he, g1] at hsy
        have F12 := F1.tr F2
        have hx2 := hx.fg F12
        have hC2 := hx2.2.2.2.2.1
        have FN : FG σ2 (nW σ2 (7, 0) 3) 1 3 := FG.n hC2
        have hx3 := hx2.fg FN
        have hcn : cntO (sc.2 :: K) = cntO K := by rw [cntO, hio]; rfl
        refine VE.step (fun _ h => nX2_124 (σ := RH σ2 r (lexM B N e) (nI (cntO K)) n2 s2 w2) rfl dX2_sum_32 h) ?_
        rw [rd_nW hx2.ne]
        refine VE.step (fun _ h => V.dup dX2_sum_35 (V.ild2 dX2_sum_36 (V.ald1 dX2_sum_37 (V.ald0 dX2_sum_38 h)))) ?_
        refine VE.cR vX2_129 rfl hx3.t dX2_sum_39 (d' := 8 * (5 - cntO (sc.2 :: K)) + 12 + 1) (by rw [hcn]; omega) (by
          have h9 := iho f2 (by omega) (sN σ2 + 1) (nW σ2 (7, 0) 3) r N B e (sc.2 :: K) (C ++ c) (decide (sc.2 ≤ 12)) n2 s2 w2 hx3 (Nat.le_refl _) heN (by omega) (by rw [hcn]; exact ho) (T2.fg FN) hmc (show rk sc.2 < 6 by rw [hrk]; decide)
          rw [hcn] at h9 ⊢
          exact h9) (fun v s9 q9 => ?_) (fun fa s9 q9 => ?_)
        · rcases q9 with ⟨p, q2, -⟩ | ⟨σ4, y, f3, a3, dt2, n4, s4, w4, c2, S2, C2, q2, rfl, T4, F4, G4, ⟨m1, m2, m3, m4, m5⟩, ⟨e1, e2, e3⟩, hs4⟩
          · exact q2.thr.elim
          · cases q2
            have hx4 := hx3.fg F4
            obtain ⟨F5, G5⟩ := two_ok hC2 F4 (Nat.le_trans hb F12.1.1) (Tg.fg F2 _ _ _ G1) G4 hsc
            have ht7 : (sT σ4 (sN σ2)).1 = 7 := by rw [(F4.2.2.2 (sN σ2) (by rw [nX_t]; decide)).1, nX_t]
            rw [hcn]
            refine VE.step (fun _ h => V.invI3v iX2_126 dX2_sum_42 (c_X6_init (σ := RH σ4 r (lexM B N a3) (nI (cntO K)) n4 s4 w4) (x := sN σ2) ht7 hx2.2.2.2.1) (V.ast1 dX2_sum_45 (V.goto (tgt := 5) dX2_sum_46 (by decide) h)) (hdd := Nat.ble_eq.mpr (by omega))) ?_
            rw [rd_twoH (Ne.symm hx2.ne)]
            skip
            refine ih f3 (twoH σ4 (sN σ2) sc.1 x y) (sN σ2) a3 (max dt dt2 + 1) n4 s4 w4 (c ++ c2 ++ [sc.2]) (S2 ++ [sc.2]) C2 _ (by omega) ⟨T4.two ht7, (F12.tr F5).le (by omega) (by omega), G5, ⟨by omega, by omega, m3, m4, by omega⟩, ⟨by rw [← List.append_assoc, e1, List.append_assoc, List.append_assoc, List.append_assoc], fun q hq => ?_⟩, ?_, ?_⟩
            · rcases List.mem_append.mp hq with h9 | h9
              · exact rk_mono (e2 q h9) (by decide)
              · rw [List.mem_singleton.mp h9, hrk]; exact Int32.lt_irrefl
            · rw [List.append_assoc]; exact e3
            · rw [hs1, hsy, hs4, List.append_assoc]; rfl
        · rcases q9 with ⟨p, q2, q3⟩ | ⟨_, _, _, _, _, _, _, _, _, _, _, q2, -⟩
          · exact .inl ⟨p, q2.pre (F12.tr FN) (by omega) (by omega), by rw [hs1, hsy]; exact q3⟩
          · cases q2
      -- a fault behind the sign
      have BAD : ∀ (sg : Int32) (fa : Nat) (s9 : Sg), sgO (lexM B N a1).2.1 = sg → rk sg = 5 → (lexM B N e).2.1 = -1 → FLp σ1 r (lexM B N e).1 6 60 (.threw fa) s9 → (PL 5 5 σ r N B b f a K C mn) (.threw fa) s9 := by
        intro sg fa s9 hsg hrk hbad q3
        have hne : ¬ sgO (lexM B N a1).2.1 = -1 := fun z => by rw [hsg] at z; rw [z] at hrk; exact absurd hrk (by decide)
        have ht0 : (lexM B N a1).2.1 ≠ 0 := fun z => hne (by rw [z]; decide)
        have hlt : a1 < e := by rw [← he]; exact hbd1.2.2.resolve_left ht0
        have hsy := sy_op (f := f2) (mn := true) hne (U := (sg :: K, C' ++ S)) (by rw [hsg]; exact btw_all hrk (by decide) g2 htp)
        rw [hsg, he, g1] at hsy
        obtain ⟨f3, rfl⟩ : ∃ f3, f2 = f3 + 1 := ⟨f2 - 1, by omega⟩
        exact .inl ⟨_, q3.pre F1 (by omega) (by omega), by rw [hs1, hsy]; exact sy_bad hbad⟩
      have H23_43 : s1 = 43 → VE E mX2_sum (8 * (5 - cntO K) + 12 + 2) (PL 5 5 σ r N B b f a K C mn) 23 [some (.ref r), some (.ref x), z2] [] (RH σ1 r (lexM B N a1) (nI (cntO K)) n1 s1 w1) := fun z => by
        have ht := (T1.s (c := 43) rfl).mp z
        refine VE.step (fun _ h => V.ald0 dX2_sum_23 (gR7 hx1.t rfl dX2_sum_24 (V.ist2 dX2_sum_27 (V.ald0 dX2_sum_28 h)))) ?_
        refine VE.cR vX2_89 rfl hx1.t dX2_sum_29 (by omega) (hx1.next hbd1.1) (fun v s9 q9 => ?_) (fun fa s9 q9 => ?_)
        · rcases q9 with ⟨q1, σ2, n2, s2, w2, rfl, F2, T2⟩ | ⟨-, q2⟩
          · cases q1
            rw [he] at T2 ⊢
            rw [z]
            exact MO (43, 16) σ2 n2 s2 w2 none (by decide) (by rw [ht]; decide) (by decide) (by decide) (.inl (by decide)) F2 T2
          · exact q2.thr.elim
        · rcases q9 with ⟨q1, -⟩ | ⟨q1, q2⟩
          · cases q1
          · rw [he] at q1 q2
            exact BAD 16 fa s9 (by rw [ht]; decide) (by decide) q1 q2
      have H23_45 : s1 = 45 → VE E mX2_sum (8 * (5 - cntO K) + 12 + 2) (PL 5 5 σ r N B b f a K C mn) 23 [some (.ref r), some (.ref x), z2] [] (RH σ1 r (lexM B N a1) (nI (cntO K)) n1 s1 w1) := fun z => by
        have ht := (T1.s (c := 45) rfl).mp z
        refine VE.step (fun _ h => V.ald0 dX2_sum_23 (gR7 hx1.t rfl dX2_sum_24 (V.ist2 dX2_sum_27 (V.ald0 dX2_sum_28 h)))) ?_
        refine VE.cR vX2_89 rfl hx1.t dX2_sum_29 (by omega) (hx1.next hbd1.1) (fun v s9 q9 => ?_) (fun fa s9 q9 => ?_)
        · rcases q9 with ⟨q1, σ2, n2, s2, w2, rfl, F2, T2⟩ | ⟨-, q2⟩
          · cases q1
            rw [he] at T2 ⊢
            rw [z]
            exact MO (45, 17) σ2 n2 s2 w2 none (by decide) (by rw [ht]; decide) (by decide) (by decide) (.inl (by decide)) F2 T2
          · exact q2.thr.elim
        · rcases q9 with ⟨q1, -⟩ | ⟨q1, q2⟩
          · cases q1
          · rw [he] at q1 q2
            exact BAD 17 fa s9 (by rw [ht]; decide) (by decide) q1 q2
      refine VE.step (fun _ h => V.ald0 dX2_sum_5 (gR7 hx1.t rfl dX2_sum_6 (V.bipush (v := 43) dX2_sum_9 (by decide) h))) ?_
      refine VE.icmp_eq (tgt := 23) dX2_sum_11 (by decide) (fun z => H23_43 z) (fun z43 => ?_)
      refine VE.step (fun _ h => V.ald0 dX2_sum_14 (gR7 hx1.t rfl dX2_sum_15 (V.bipush (v := 45) dX2_sum_18 (by decide) h))) ?_
      exact VE.icmp_ne (tgt := 49) dX2_sum_20 (by decide) (fun z45 => EX ⟨fun _ => hst.1 (by decide), fun _ => ⟨fun z => z43 ((T1.s (c := 43) rfl).mpr z), fun z => z45 ((T1.s (c := 45) rfl).mpr z)⟩, fun z => absurd z (by decide), fun z => absurd z (by decide), fun z => absurd z (by decide)⟩) (fun z => H23_45 z)
  refine VE.step (fun _ h => V.ald0 dX2_sum_0 h) ?_
  refine VE.cR vX2_129 rfl hx.t dX2_sum_1 (d' := 8 * (5 - cntO K) + 12 + 1) (by omega) (iho f (Nat.le_refl _) b σ r N B a K C mn n s w hx hb ha hf ho hk hm (htp.up (by decide))) (fun v s9 q9 => ?_) (fun fa s9 q9 => ?_)
  · rcases q9 with ⟨p, q2, -⟩ | ⟨σ1, x, f1, a1, dt, n1, s1, w1, c, S, C', q2, rfl, T1, F1, G1, h5, ⟨g1, g2, g3⟩, hs1⟩
    · exact q2.thr.elim
    · cases q2
      refine VE.step (fun _ h => V.ast1 dX2_sum_4 h) ?_
      exact L5 f1 f1 σ1 x a1 dt n1 s1 w1 c S C' _ (Nat.le_refl _) ⟨T1, F1, G1, h5, ⟨g1, fun q hq => rk_mono (g2 q hq) (by decide)⟩, g3, hs1⟩
  · rcases q9 with q | ⟨_, _, _, _, _, _, _, _, _, _, _, q2, -⟩
    · exact .inl q
    · cases q2
theorem not_step {E : En} {f : Nat} (ihs : ∀ f', f' ≤ f → SumC E f') (ihn : ∀ f', f' < f → NotC E f') : NotC E f := by
  intro b σ r N B a K C mn n s w hx hb ha hf ho hk hm htp
  obtain rfl : mn = true := hm
  show VE E mX2_not (8 * (5 - cntO K) + 12 + 3) _ 0 [some (.ref r), none, none] [] (RH σ r (lexM B N a) (nI (cntO K)) n s w)
  have hbd := lexM_b (B := B) ha
  obtain ⟨e, he⟩ : ∃ e, (lexM B N a).2.2.2 = e := ⟨_, rfl⟩
  have heN : e ≤ N := by rw [← he]; exact hbd.1
  have hae : (lexM B N a).2.1 ≠ 0 → a < e := fun h => by rw [← he]; exact hbd.2.2.resolve_left h
  have hOS := hx.2.2.1
  refine VE.step (fun _ h => V.ald0 dX2_not_0 (V.ldcS hOS.2.2.2.2.2.2.1 dX2_not_1 (V.invV1r vX2_116 hx.t dX2_not_3 (c_X2_is hx hk (k := 11) (by decide)) h (hdd := Nat.ble_eq.mpr (by omega))))) ?_
  refine VE.ifb_eq (tgt := 38) dX2_not_6 (by decide) (fun zf => ?_) (fun zt => ?_)
  rotate_left 1
  · -- not
    have ht : (lexM B N a).2.1 = 6 := by
      unfold isWd at zt
      rw [decide_eq_true_eq] at zt
      exact zt.1
    have hlt := hae (by rw [ht]; decide)
    obtain ⟨f0, rfl⟩ : ∃ f0, f = f0 + 1 := ⟨f - 1, by omega⟩
    have hsy := sy_not (f := f0) (K := K) (C := C) ht
    refine VE.step (fun _ h => V.ald0 dX2_not_9 h) ?_
    refine VE.cR vX2_92 rfl hx.t dX2_not_10 (by omega) (c_X2_opens hx ho (L := lexM B N a) hbd.1) (fun v s9 q9 => ?_) (fun fa s9 q9 => ?_)
    · rcases q9 with ⟨-, q2⟩ | ⟨q1, q2 | q2⟩
      · exact q2.thr.elim
      · obtain ⟨q2, σ1, n1, s1, w1, rfl, F1, T1⟩ := q2
        cases q2
        rw [if_neg q1] at hsy
        have hx1 := hx.fg F1
        rw [he] at T1 hsy ⊢
        refine VE.step (fun _ h => V.ald0 dX2_not_13 h) ?_
        have hc9 : cntO (13 :: K) = cntO K + 1 := cnt_o rfl
        refine VE.cR vX2_134 rfl hx1.t dX2_not_14 (d' := 8 * (5 - cntO (13 :: K)) + 12 + 3) (by rw [hc9]; omega) (by
          have h9 := ihn f0 (Nat.lt_succ_self _) b σ1 r N B e (13 :: K) C true n1 s1 w1 hx1 (Nat.le_trans hb F1.1.1) heN (by omega) (by rw [hc9]; omega) T1 rfl (show rk 13 < 4 by decide)
          rw [hc9] at h9 ⊢
          exact h9) (fun v s9 q9 => ?_) (fun fa s9 q9 => ?_)
        · rcases q9 with ⟨p, q2, -⟩ | ⟨σ2, x, f', a', dt, n2, s2, w2, c, S, C', q2, rfl, T2, F2, G2, ⟨k1, k2, k3, k4, k5⟩, ⟨g1, g2, g3⟩, hs2⟩
          · exact q2.thr.elim
          · cases q2
            have F12 := F1.tr F2
            have hx2 := hx.fg F12
            obtain ⟨F3, o1, o2, o3⟩ := one_ok hx2.2.2.2.2.1 (v := 1) (x := x)
            refine VE.step (fun _ h => V.ast1 dX2_not_17 (V.ald0 dX2_not_18 (V.dup dX2_not_19 (gR4 hx2.t rfl dX2_not_20 (V.iconst_1 dX2_not_23 (V.isub dX2_not_24 (pR4 hx2.t hx2.r rfl dX2_not_25 h))))))) ?_
            rw [hc9, nI_pr]
            refine VE.step (fun _ h => nX2_99 (σ := RH σ2 r (lexM B N a') (nI (cntO K)) n2 s2 w2) rfl dX2_not_28 h) ?_
            rw [rd_nW hx2.ne]
            refine VE.step (fun _ h => V.dup dX2_not_31 (V.iconst_1 dX2_not_32 (V.ald1 dX2_not_33 (V.invI2v iX2_101 dX2_not_34 (c_X4_init (σ := rdS (nW σ2 (5, 0) 2) r (nI (lexM B N a').2.2.2) (nI (lexM B N a').1) (nI (cntO K)) n2 s2 w2) (x := sN σ2) (show (sT (nW σ2 (5, 0) 2) (sN σ2)).1 = 5 by rw [nX_t]) hx2.2.2.2.1 (.inr rfl)) h (hdd := Nat.ble_eq.mpr (by omega)))))) ?_
            rw [rd_oneH hx2.ne]
            refine VE.aret (o := some (sN σ2)) dX2_not_37 rfl rfl (.inr ⟨oneH σ2 1 x, sN σ2, f', a', dt + 1, n2, s2, w2, c ++ [13], S ++ [13], C', rfl, rfl, T2.fg F3, (F12.tr F3).le (by omega) (by omega), ?_, ⟨by omega, by omega, k3, k4, by omega⟩, ⟨by rw [← List.append_assoc, g1, List.append_assoc], fun q hq => ?_, ?_⟩, ?_⟩)
            · exact ⟨Nat.le_trans hb F12.1.1, .inr (.inl ⟨o1, x, c, o3, Tg.fg F3 _ _ _ G2, .inr ⟨o2, rfl⟩⟩)⟩
            · rcases List.mem_append.mp hq with h9 | h9
              · exact g2 q h9
              · rw [List.mem_singleton.mp h9]; decide
            · rw [List.append_assoc]; exact g3
            · rw [hsy, hs2, List.append_assoc]; rfl
        · rcases q9 with ⟨p, q2, q3⟩ | ⟨_, _, _, _, _, _, _, _, _, _, _, q2, -⟩
          · exact .inl ⟨p, q2.pre F1 (by omega) (by omega), by rw [hsy]; exact q3⟩
          · cases q2
      · exact q2.2.thr.elim
    · rcases q9 with ⟨q1, q2⟩ | ⟨q1, q2 | ⟨q2, q3⟩⟩
      · exact .inl ⟨_, q2.pre (FG.rfl hx.2.2.2.2.1) (by omega) (by omega), by rw [hsy, if_pos q1]⟩
      · cases q2.1
      · rw [he] at q2 q3 hsy
        obtain ⟨f1, rfl⟩ : ∃ f1, f0 = f1 + 1 := ⟨f0 - 1, by omega⟩
        exact .inl ⟨_, q3.pre (FG.rfl hx.2.2.2.2.1) (by omega) (by omega), by rw [hsy, if_neg q1]; exact sy_bad q2⟩
  -- sums
  have ht6 : (lexM B N a).2.1 ≠ 6 := fun z => by
    unfold isWd at zf
    rw [decide_eq_false_iff_not] at zf
    rcases hk with ⟨h, -⟩ | ⟨h, -⟩ | ⟨h, -⟩ | ⟨kx, b9, Lt, q1, q2, q3, -⟩
    · rw [z] at h; exact absurd h (by decide)
    · rw [z] at h; exact absurd h (by decide)
    · rw [z] at h; exact absurd h (by decide)
    · have hkx : kx = 11 := (show ∀ k, k ≤ 12 → tokW k = 6 → k = 11 by decide +kernel) kx q1 (by rw [← q2]; exact z)
      subst hkx
      exact zf ⟨q2, q3⟩
  refine VE.step (fun _ h => V.ald0 dX2_not_38 h) ?_
  refine VE.cR vX2_136 rfl hx.t dX2_not_39 (d' := 8 * (5 - cntO K) + 12 + 2) (by omega) (ihs f (Nat.le_refl _) b σ r N B a K C true n s w hx hb ha hf ho hk (.inr ht6) (htp.up (by decide))) (fun v s9 q9 => ?_) (fun fa s9 q9 => ?_)
  rotate_left 1
  · rcases q9 with q | ⟨_, _, _, _, _, _, _, _, _, _, _, q2, -⟩
    · exact .inl q
    · cases q2
  rcases q9 with ⟨p, q2, -⟩ | ⟨σ1, x, f1, a1, dt, n1, s1, w1, c, S, C', q2, rfl, T1, F1, G1, ⟨k1, k2, k3, k4, k5⟩, ⟨g1, g2, g3⟩, hs1⟩
  · exact q2.thr.elim
  cases q2
  have hx1 := hx.fg F1
  have hbd1 := lexM_b (B := B) k3
  obtain ⟨f2, rfl⟩ : ∃ f2, f1 = f2 + 1 := ⟨f1 - 1, by omega⟩
  refine VE.step (fun _ h => V.ast1 dX2_not_42 h) ?_
  obtain ⟨e1, he1⟩ : ∃ e1, (lexM B N a1).2.2.2 = e1 := ⟨_, rfl⟩
  have heN1 : e1 ≤ N := by rw [← he1]; exact hbd1.1
  have H63 : ∀ sc : Int32 × Int32, sc ∈ sgs → s1 = sc.1 → (lexM B N a1).2.1 = sc.1 → sgO sc.1 = sc.2 → rk sc.2 = 4 → isO sc.2 = false → decide (sc.2 ≤ 12) = false → ¬ sc.2 = -1 → VE E mX2_not (8 * (5 - cntO K) + 12 + 3) (PL 3 3 σ r N B b f a K C true) 63 [some (.ref r), some (.ref x), none] [] (RH σ1 r (lexM B N a1) (nI (cntO K)) n1 s1 w1) := by
    intro sc hsc hs1c ht hsg hrk hio hmn hm1
    have hne : ¬ sgO (lexM B N a1).2.1 = -1 := fun z => by rw [ht, hsg] at z; exact hm1 z
    have ht0 : (lexM B N a1).2.1 ≠ 0 := fun z => hne (by rw [z]; decide)
    have hlt : a1 < e1 := by rw [← he1]; exact hbd1.2.2.resolve_left ht0
    have hsy := sy_op (f := f2) (mn := true) hne (U := (sc.2 :: K, C' ++ S)) (by rw [ht, hsg]; exact btw_4 hrk g2 htp)
    rw [ht, hsg, he1, g1, hmn] at hsy
    have hcn : cntO (sc.2 :: K) = cntO K := by rw [cntO, hio]; rfl
    refine VE.step (fun _ h => V.ald0 dX2_not_63 (gR7 hx1.t rfl dX2_not_64 (V.ist2 dX2_not_67 (V.ald0 dX2_not_68 h)))) ?_
    refine VE.cR vX2_89 rfl hx1.t dX2_not_69 (by omega) (hx1.next hbd1.1) (fun v s9 q9 => ?_) (fun fa s9 q9 => ?_)
    rotate_left 1
    · rcases q9 with ⟨q1, -⟩ | ⟨q1, q2⟩
      · cases q1
      · rw [he1] at q1 q2
        obtain ⟨f3, rfl⟩ : ∃ f3, f2 = f3 + 1 := ⟨f2 - 1, by omega⟩
        exact .inl ⟨_, q2.pre F1 (by omega) (by omega), by rw [hs1, hsy]; exact sy_bad q1⟩
    rcases q9 with ⟨q1, σ2, n2, s2, w2, rfl, F2, T2⟩ | ⟨-, q2⟩
    rotate_left 1
    · exact q2.thr.elim
    cases q1
    rw [he1] at T2 ⊢
    rw [hs1c]
    have F12 := F1.tr F2
    have hx2 := hx.fg F12
    have hC2 := hx2.2.2.2.2.1
    have FN : FG σ2 (nW σ2 (7, 0) 3) 1 3 := FG.n hC2
    have hx3 := hx2.fg FN
    refine VE.step (fun _ h => nX2_124 (σ := RH σ2 r (lexM B N e1) (nI (cntO K)) n2 s2 w2) rfl dX2_not_72 h) ?_
    rw [rd_nW hx2.ne]
    refine VE.step (fun _ h => V.dup dX2_not_75 (V.ild2 dX2_not_76 (V.ald1 dX2_not_77 (V.ald0 dX2_not_78 h)))) ?_
    refine VE.cR vX2_136 rfl hx3.t dX2_not_79 (d' := 8 * (5 - cntO (sc.2 :: K)) + 12 + 2) (by rw [hcn]; omega) (by
      have h9 := ihs f2 (by omega) (sN σ2 + 1) (nW σ2 (7, 0) 3) r N B e1 (sc.2 :: K) (C ++ c) false n2 s2 w2 hx3 (Nat.le_refl _) heN1 (by omega) (by rw [hcn]; exact ho) (T2.fg FN) (.inl rfl) (show rk sc.2 < 5 by rw [hrk]; decide)
      rw [hcn] at h9 ⊢
      exact h9) (fun v s9 q9 => ?_) (fun fa s9 q9 => ?_)
    rotate_left 1
    · rcases q9 with ⟨p, q2, q3⟩ | ⟨_, _, _, _, _, _, _, _, _, _, _, q2, -⟩
      · exact .inl ⟨p, q2.pre (F12.tr FN) (by omega) (by omega), by rw [hs1, hsy]; exact q3⟩
      · cases q2
    rcases q9 with ⟨p, q2, -⟩ | ⟨σ4, y, f3, a3, dt2, n4, s4, w4, c2, S2, C2, q2, rfl, T4, F4, G4, ⟨m1, m2, m3, m4, m5⟩, ⟨e5, e6, e7⟩, hs4⟩
    · exact q2.thr.elim
    cases q2
    obtain ⟨F5, G5⟩ := two_ok hC2 F4 (Nat.le_trans hb F12.1.1) (Tg.fg F2 _ _ _ G1) G4 hsc
    have ht7 : (sT σ4 (sN σ2)).1 = 7 := by rw [(F4.2.2.2 (sN σ2) (by rw [nX_t]; decide)).1, nX_t]
    rw [hcn]
    refine VE.step (fun _ h => V.invI3v iX2_126 dX2_not_82 (c_X6_init (σ := RH σ4 r (lexM B N a3) (nI (cntO K)) n4 s4 w4) (x := sN σ2) ht7 hx2.2.2.2.1) h (hdd := Nat.ble_eq.mpr (by omega))) ?_
    rw [rd_twoH (Ne.symm hx2.ne)]
    refine VE.aret (o := some (sN σ2)) dX2_not_85 rfl rfl (.inr ⟨twoH σ4 (sN σ2) sc.1 x y, sN σ2, f3, a3, max dt dt2 + 1, n4, s4, w4, c ++ c2 ++ [sc.2], S2 ++ [sc.2], C2, rfl, rfl, T4.two ht7, (F12.tr F5).le (by omega) (by omega), G5, ⟨by omega, by omega, m3, m4, by omega⟩, ⟨by rw [← List.append_assoc, e5, List.append_assoc, List.append_assoc, List.append_assoc], fun q hq => ?_, ?_⟩, ?_⟩)
    · rcases List.mem_append.mp hq with h9 | h9
      · exact rk_mono (e6 q h9) (by decide)
      · rw [List.mem_singleton.mp h9, hrk]; decide
    · refine ⟨fun z => e7.1 (by decide), fun z => e7.2.1 (by decide), fun _ _ => ?_, fun z => absurd z (by decide), fun z => absurd z (by decide)⟩
      rw [List.append_assoc, show [sc.2] ++ K = sc.2 :: K from rfl, unw_all S2 (sc.2 :: K) C2 e6 (show rk sc.2 < 5 by rw [hrk]; decide)]
      exact decide_eq_true hrk
    · rw [hs1, hsy, hs4, List.append_assoc]; rfl
  refine VE.step (fun _ h => V.ald0 dX2_not_43 (gR7 hx1.t rfl dX2_not_44 (V.bipush (v := 60) dX2_not_47 (by decide) h))) ?_
  refine VE.icmp_eq (tgt := 63) dX2_not_49 (by decide) (fun z => H63 (60, 14) (by decide) z ((T1.s (c := 60) rfl).mp z) (by decide) (by decide) (by decide) (by decide) (by decide)) (fun z60 => ?_)
  refine VE.step (fun _ h => V.ald0 dX2_not_52 (gR7 hx1.t rfl dX2_not_53 (V.bipush (v := 61) dX2_not_56 (by decide) h))) ?_
  refine VE.icmp_eq (tgt := 63) dX2_not_58 (by decide) (fun z => H63 (61, 15) (by decide) z ((T1.s (c := 61) rfl).mp z) (by decide) (by decide) (by decide) (by decide) (by decide)) (fun z61 => ?_)
  refine VE.step (fun _ h => V.ald1 dX2_not_61 h) ?_
  refine VE.aret (o := some x) dX2_not_62 rfl rfl (.inr ⟨σ1, x, f2 + 1, a1, dt, n1, s1, w1, c, S, C', rfl, rfl, T1, F1, G1, ⟨k1, k2, k3, k4, k5⟩, ⟨g1, fun q hq => rk_mono (g2 q hq) (by decide), ⟨fun _ => g3.1 (by decide), fun _ => g3.2.1 (by decide), fun _ z => ?_, fun z => absurd z (by decide), fun z => absurd z (by decide)⟩⟩, hs1⟩)
  rcases z with z | z
  · exact absurd ((T1.s (c := 60) rfl).mpr z) z60
  · exact absurd ((T1.s (c := 61) rfl).mpr z) z61
theorem both_step {E : En} {f : Nat} (iho : ∀ f', f' ≤ f → NotC E f') : BothC E f := by
  intro b σ r N B a K C mn n s w hx hb ha hf ho hk hm htp
  show VE E mX2_both (8 * (5 - cntO K) + 12 + 4) _ 0 [some (.ref r), none] [] (RH σ r (lexM B N a) (nI (cntO K)) n s w)
  have L5 : ∀ (g f1 : Nat) (σ1 : Sg) (x a1 dt : Nat) (n1 s1 : Int32) (w1 : Option Nat) (c S C' : List Int32), f1 ≤ g → LSt 3 2 σ N B b f a K C mn σ1 x f1 a1 dt n1 s1 w1 c S C' → VE E mX2_both (8 * (5 - cntO K) + 12 + 4) (PL 2 2 σ r N B b f a K C mn) 5 [some (.ref r), some (.ref x)] [] (RH σ1 r (lexM B N a1) (nI (cntO K)) n1 s1 w1) := by
    intro g
    induction g with
    | zero =>
      intro f1 σ1 x a1 dt n1 s1 w1 c S C' hg hL
      obtain ⟨-, -, -, ⟨-, -, h3, h4, -⟩, -⟩ := hL
      omega
    | succ g ih =>
      intro f1 σ1 x a1 dt n1 s1 w1 c S C' hg hL
      obtain ⟨T1, F1, G1, ⟨k1, k2, k3, k4, k5⟩, ⟨g1, g2⟩, hst, hs1⟩ := hL
      have hx1 := hx.fg F1
      have hbd1 := lexM_b (B := B) k3
      obtain ⟨f2, rfl⟩ : ∃ f2, f1 = f2 + 1 := ⟨f1 - 1, by omega⟩
      -- the end
      have EX : Stop 2 (lexM B N a1).2.1 (S ++ K) C' → VE E mX2_both (8 * (5 - cntO K) + 12 + 4) (PL 2 2 σ r N B b f a K C mn) 36 [some (.ref r), some (.ref x)] [] (RH σ1 r (lexM B N a1) (nI (cntO K)) n1 s1 w1) := fun hS => by
        refine VE.step (fun _ h => V.ald1 dX2_both_36 h) ?_
        exact VE.aret (o := some x) dX2_both_37 rfl rfl (.inr ⟨σ1, x, f2 + 1, a1, dt, n1, s1, w1, c, S, C', rfl, rfl, T1, F1, G1, ⟨k1, k2, k3, k4, k5⟩, ⟨g1, g2, hS⟩, hs1⟩)
      obtain ⟨e, he⟩ : ∃ e, (lexM B N a1).2.2.2 = e := ⟨_, rfl⟩
      have heN : e ≤ N := by rw [← he]; exact hbd1.1
      -- one more
      have MO : ∀ (sc : Int32 × Int32) (σ2 : Sg) (n2 s2 : Int32) (w2 : Option Nat), sc ∈ sgs → sgO (lexM B N a1).2.1 = sc.2 → rk sc.2 = 2 → isO sc.2 = false → MB (decide (sc.2 ≤ 12)) (lexM B N e).2.1 → FG σ1 σ2 6 60 → TKL σ2 (lexM B N e) n2 s2 w2 → VE E mX2_both (8 * (5 - cntO K) + 12 + 4) (PL 2 2 σ r N B b f a K C mn) 18 [some (.ref r), some (.ref x)] [] (RH σ2 r (lexM B N e) (nI (cntO K)) n2 s2 w2) ∨ ¬ sc.1 = 38 := by
        intro sc σ2 n2 s2 w2 hsc hsg hrk hio hmc F2 T2
        refine (Decidable.em (sc.1 = 38)).elim (fun hv => Or.inl ?_) (fun hv => Or.inr hv)
        have hne : ¬ sgO (lexM B N a1).2.1 = -1 := fun z => by rw [hsg] at z; rw [z] at hrk; exact absurd hrk (by decide)
        have ht0 : (lexM B N a1).2.1 ≠ 0 := fun z => hne (by rw [z]; decide)
        have hlt : a1 < e := by rw [← he]; exact hbd1.2.2.resolve_left ht0
        have hsy := sy_op (f := f2) (mn := true) hne (U := (sc.2 :: K, C' ++ S)) (by rw [hsg]; exact btw_all hrk (by decide) g2 htp)
        rw [hsg, he, g1] at hsy
        have F12 := F1.tr F2
        have hx2 := hx.fg F12
        have hC2 := hx2.2.2.2.2.1
        have FN : FG σ2 (nW σ2 (7, 0) 3) 1 3 := FG.n hC2
        have hx3 := hx2.fg FN
        have hcn : cntO (sc.2 :: K) = cntO K := by rw [cntO, hio]; rfl
        refine VE.step (fun _ h => nX2_124 (σ := RH σ2 r (lexM B N e) (nI (cntO K)) n2 s2 w2) rfl dX2_both_18 h) ?_
        rw [rd_nW hx2.ne]
        refine VE.step (fun _ h => V.dup dX2_both_21 (V.bipush (v := 38) dX2_both_22 (by decide) (V.ald1 dX2_both_24 (V.ald0 dX2_both_25 h)))) ?_
        refine VE.cR vX2_134 rfl hx3.t dX2_both_26 (d' := 8 * (5 - cntO (sc.2 :: K)) + 12 + 3) (by rw [hcn]; omega) (by
          have h9 := iho f2 (by omega) (sN σ2 + 1) (nW σ2 (7, 0) 3) r N B e (sc.2 :: K) (C ++ c) (decide (sc.2 ≤ 12)) n2 s2 w2 hx3 (Nat.le_refl _) heN (by omega) (by rw [hcn]; exact ho) (T2.fg FN) hmc (show rk sc.2 < 4 by rw [hrk]; decide)
          rw [hcn] at h9 ⊢
          exact h9) (fun v s9 q9 => ?_) (fun fa s9 q9 => ?_)
        · rcases q9 with ⟨p, q2, -⟩ | ⟨σ4, y, f3, a3, dt2, n4, s4, w4, c2, S2, C2, q2, rfl, T4, F4, G4, ⟨m1, m2, m3, m4, m5⟩, ⟨e1, e2, e3⟩, hs4⟩
          · exact q2.thr.elim
          · cases q2
            have hx4 := hx3.fg F4
            obtain ⟨F5, G5⟩ := two_ok hC2 F4 (Nat.le_trans hb F12.1.1) (Tg.fg F2 _ _ _ G1) G4 hsc
            have ht7 : (sT σ4 (sN σ2)).1 = 7 := by rw [(F4.2.2.2 (sN σ2) (by rw [nX_t]; decide)).1, nX_t]
            rw [hcn]
            refine VE.step (fun _ h => V.invI3v iX2_126 dX2_both_29 (c_X6_init (σ := RH σ4 r (lexM B N a3) (nI (cntO K)) n4 s4 w4) (x := sN σ2) ht7 hx2.2.2.2.1) (V.ast1 dX2_both_32 (V.goto (tgt := 5) dX2_both_33 (by decide) h)) (hdd := Nat.ble_eq.mpr (by omega))) ?_
            rw [rd_twoH (Ne.symm hx2.ne)]
            rw [← hv]
            refine ih f3 (twoH σ4 (sN σ2) sc.1 x y) (sN σ2) a3 (max dt dt2 + 1) n4 s4 w4 (c ++ c2 ++ [sc.2]) (S2 ++ [sc.2]) C2 (by omega) ⟨T4.two ht7, (F12.tr F5).le (by omega) (by omega), G5, ⟨by omega, by omega, m3, m4, by omega⟩, ⟨by rw [← List.append_assoc, e1, List.append_assoc, List.append_assoc, List.append_assoc], fun q hq => ?_⟩, ?_, ?_⟩
            · rcases List.mem_append.mp hq with h9 | h9
              · exact rk_mono (e2 q h9) (by decide)
              · rw [List.mem_singleton.mp h9, hrk]; exact Int32.lt_irrefl
            · rw [List.append_assoc]; exact e3
            · rw [hs1, hsy, hs4, List.append_assoc]; rfl
        · rcases q9 with ⟨p, q2, q3⟩ | ⟨_, _, _, _, _, _, _, _, _, _, _, q2, -⟩
          · exact .inl ⟨p, q2.pre (F12.tr FN) (by omega) (by omega), by rw [hs1, hsy]; exact q3⟩
          · cases q2
      -- a fault behind the sign
      have BAD : ∀ (sg : Int32) (fa : Nat) (s9 : Sg), sgO (lexM B N a1).2.1 = sg → rk sg = 2 → (lexM B N e).2.1 = -1 → FLp σ1 r (lexM B N e).1 6 60 (.threw fa) s9 → (PL 2 2 σ r N B b f a K C mn) (.threw fa) s9 := by
        intro sg fa s9 hsg hrk hbad q3
        have hne : ¬ sgO (lexM B N a1).2.1 = -1 := fun z => by rw [hsg] at z; rw [z] at hrk; exact absurd hrk (by decide)
        have ht0 : (lexM B N a1).2.1 ≠ 0 := fun z => hne (by rw [z]; decide)
        have hlt : a1 < e := by rw [← he]; exact hbd1.2.2.resolve_left ht0
        have hsy := sy_op (f := f2) (mn := true) hne (U := (sg :: K, C' ++ S)) (by rw [hsg]; exact btw_all hrk (by decide) g2 htp)
        rw [hsg, he, g1] at hsy
        obtain ⟨f3, rfl⟩ : ∃ f3, f2 = f3 + 1 := ⟨f2 - 1, by omega⟩
        exact .inl ⟨_, q3.pre F1 (by omega) (by omega), by rw [hs1, hsy]; exact sy_bad hbad⟩
      have hOS := hx1.2.2.1
      refine VE.step (fun _ h => V.ald0 dX2_both_5 (V.ldcS hOS.2.2.2.2.2.2.2.1 dX2_both_6 (V.invV1r vX2_116 hx1.t dX2_both_8 (c_X2_is hx1 T1 (k := 10) (by decide)) h (hdd := Nat.ble_eq.mpr (by omega))))) ?_
      refine VE.ifb_eq (tgt := 36) dX2_both_11 (by decide) (fun zf => EX ?_) (fun zt => ?_)
      · have htn : (lexM B N a1).2.1 ≠ 5 := fun z => by
          unfold isWd at zf
          rw [decide_eq_false_iff_not] at zf
          rcases T1 with ⟨h, -⟩ | ⟨h, -⟩ | ⟨h, -⟩ | ⟨kx, b9, Lt, q1, q2, q3, -⟩
          · rw [z] at h; exact absurd h (by decide)
          · rw [z] at h; exact absurd h (by decide)
          · rw [z] at h; exact absurd h (by decide)
          · have hkx : kx = 10 := (show ∀ k, k ≤ 12 → tokW k = 5 → k = 10 by decide +kernel) kx q1 (by rw [← q2]; exact z)
            subst hkx
            exact zf ⟨q2, q3⟩
        exact ⟨fun _ => hst.1 (by decide), fun _ => hst.2.1 (by decide), fun _ => hst.2.2.1 (by decide), fun _ => htn, fun z => absurd z (by decide)⟩
      · have ht : (lexM B N a1).2.1 = 5 := by
          unfold isWd at zt
          rw [decide_eq_true_eq] at zt
          exact zt.1
        refine VE.step (fun _ h => V.ald0 dX2_both_14 h) ?_
        refine VE.cR vX2_89 rfl hx1.t dX2_both_15 (by omega) (hx1.next hbd1.1) (fun v s9 q9 => ?_) (fun fa s9 q9 => ?_)
        · rcases q9 with ⟨q1, σ2, n2, s2, w2, rfl, F2, T2⟩ | ⟨-, q2⟩
          · cases q1
            rw [he] at T2 ⊢
            exact (MO (38, 12) σ2 n2 s2 w2 (by decide) (by rw [ht]; decide) (by decide) (by decide) (by decide : decide ((12 : Int32) ≤ 12) = true) F2 T2).resolve_right (fun z => z rfl)
          · exact q2.thr.elim
        · rcases q9 with ⟨q1, -⟩ | ⟨q1, q2⟩
          · cases q1
          · rw [he] at q1 q2
            exact BAD 12 fa s9 (by rw [ht]; decide) (by decide) q1 q2
  refine VE.step (fun _ h => V.ald0 dX2_both_0 h) ?_
  refine VE.cR vX2_134 rfl hx.t dX2_both_1 (d' := 8 * (5 - cntO K) + 12 + 3) (by omega) (iho f (Nat.le_refl _) b σ r N B a K C mn n s w hx hb ha hf ho hk hm (htp.up (by decide))) (fun v s9 q9 => ?_) (fun fa s9 q9 => ?_)
  · rcases q9 with ⟨p, q2, -⟩ | ⟨σ1, x, f1, a1, dt, n1, s1, w1, c, S, C', q2, rfl, T1, F1, G1, h5, ⟨g1, g2, g3⟩, hs1⟩
    · exact q2.thr.elim
    · cases q2
      refine VE.step (fun _ h => V.ast1 dX2_both_4 h) ?_
      exact L5 f1 f1 σ1 x a1 dt n1 s1 w1 c S C' (Nat.le_refl _) ⟨T1, F1, G1, h5, ⟨g1, fun q hq => rk_mono (g2 q hq) (by decide)⟩, g3, hs1⟩
  · rcases q9 with q | ⟨_, _, _, _, _, _, _, _, _, _, _, q2, -⟩
    · exact .inl q
    · cases q2
theorem either_step {E : En} {f : Nat} (iho : ∀ f', f' ≤ f → BothC E f') : EitC E f := by
  intro b σ r N B a K C mn n s w hx hb ha hf ho hk hm htp
  show VE E mX2_either (8 * (5 - cntO K) + 12 + 5) _ 0 [some (.ref r), none] [] (RH σ r (lexM B N a) (nI (cntO K)) n s w)
  have L5 : ∀ (g f1 : Nat) (σ1 : Sg) (x a1 dt : Nat) (n1 s1 : Int32) (w1 : Option Nat) (c S C' : List Int32), f1 ≤ g → LSt 2 1 σ N B b f a K C mn σ1 x f1 a1 dt n1 s1 w1 c S C' → VE E mX2_either (8 * (5 - cntO K) + 12 + 5) (PL 1 1 σ r N B b f a K C mn) 5 [some (.ref r), some (.ref x)] [] (RH σ1 r (lexM B N a1) (nI (cntO K)) n1 s1 w1) := by
    intro g
    induction g with
    | zero =>
      intro f1 σ1 x a1 dt n1 s1 w1 c S C' hg hL
      obtain ⟨-, -, -, ⟨-, -, h3, h4, -⟩, -⟩ := hL
      omega
    | succ g ih =>
      intro f1 σ1 x a1 dt n1 s1 w1 c S C' hg hL
      obtain ⟨T1, F1, G1, ⟨k1, k2, k3, k4, k5⟩, ⟨g1, g2⟩, hst, hs1⟩ := hL
      have hx1 := hx.fg F1
      have hbd1 := lexM_b (B := B) k3
      obtain ⟨f2, rfl⟩ : ∃ f2, f1 = f2 + 1 := ⟨f1 - 1, by omega⟩
      -- the end
      have EX : Stop 1 (lexM B N a1).2.1 (S ++ K) C' → VE E mX2_either (8 * (5 - cntO K) + 12 + 5) (PL 1 1 σ r N B b f a K C mn) 36 [some (.ref r), some (.ref x)] [] (RH σ1 r (lexM B N a1) (nI (cntO K)) n1 s1 w1) := fun hS => by
        refine VE.step (fun _ h => V.ald1 dX2_either_36 h) ?_
        exact VE.aret (o := some x) dX2_either_37 rfl rfl (.inr ⟨σ1, x, f2 + 1, a1, dt, n1, s1, w1, c, S, C', rfl, rfl, T1, F1, G1, ⟨k1, k2, k3, k4, k5⟩, ⟨g1, g2, hS⟩, hs1⟩)
      obtain ⟨e, he⟩ : ∃ e, (lexM B N a1).2.2.2 = e := ⟨_, rfl⟩
      have heN : e ≤ N := by rw [← he]; exact hbd1.1
      -- one more
      have MO : ∀ (sc : Int32 × Int32) (σ2 : Sg) (n2 s2 : Int32) (w2 : Option Nat), sc ∈ sgs → sgO (lexM B N a1).2.1 = sc.2 → rk sc.2 = 1 → isO sc.2 = false → MB (decide (sc.2 ≤ 12)) (lexM B N e).2.1 → FG σ1 σ2 6 60 → TKL σ2 (lexM B N e) n2 s2 w2 → VE E mX2_either (8 * (5 - cntO K) + 12 + 5) (PL 1 1 σ r N B b f a K C mn) 18 [some (.ref r), some (.ref x)] [] (RH σ2 r (lexM B N e) (nI (cntO K)) n2 s2 w2) ∨ ¬ sc.1 = 124 := by
        intro sc σ2 n2 s2 w2 hsc hsg hrk hio hmc F2 T2
        refine (Decidable.em (sc.1 = 124)).elim (fun hv => Or.inl ?_) (fun hv => Or.inr hv)
        have hne : ¬ sgO (lexM B N a1).2.1 = -1 := fun z => by rw [hsg] at z; rw [z] at hrk; exact absurd hrk (by decide)
        have ht0 : (lexM B N a1).2.1 ≠ 0 := fun z => hne (by rw [z]; decide)
        have hlt : a1 < e := by rw [← he]; exact hbd1.2.2.resolve_left ht0
        have hsy := sy_op (f := f2) (mn := true) hne (U := (sc.2 :: K, C' ++ S)) (by rw [hsg]; exact btw_all hrk (by decide) g2 htp)
        rw [hsg, he, g1] at hsy
        have F12 := F1.tr F2
        have hx2 := hx.fg F12
        have hC2 := hx2.2.2.2.2.1
        have FN : FG σ2 (nW σ2 (7, 0) 3) 1 3 := FG.n hC2
        have hx3 := hx2.fg FN
        have hcn : cntO (sc.2 :: K) = cntO K := by rw [cntO, hio]; rfl
        refine VE.step (fun _ h => nX2_124 (σ := RH σ2 r (lexM B N e) (nI (cntO K)) n2 s2 w2) rfl dX2_either_18 h) ?_
        rw [rd_nW hx2.ne]
        refine VE.step (fun _ h => V.dup dX2_either_21 (V.bipush (v := 124) dX2_either_22 (by decide) (V.ald1 dX2_either_24 (V.ald0 dX2_either_25 h)))) ?_
        refine VE.cR vX2_141 rfl hx3.t dX2_either_26 (d' := 8 * (5 - cntO (sc.2 :: K)) + 12 + 4) (by rw [hcn]; omega) (by
          have h9 := iho f2 (by omega) (sN σ2 + 1) (nW σ2 (7, 0) 3) r N B e (sc.2 :: K) (C ++ c) (decide (sc.2 ≤ 12)) n2 s2 w2 hx3 (Nat.le_refl _) heN (by omega) (by rw [hcn]; exact ho) (T2.fg FN) hmc (show rk sc.2 < 2 by rw [hrk]; decide)
          rw [hcn] at h9 ⊢
          exact h9) (fun v s9 q9 => ?_) (fun fa s9 q9 => ?_)
        · rcases q9 with ⟨p, q2, -⟩ | ⟨σ4, y, f3, a3, dt2, n4, s4, w4, c2, S2, C2, q2, rfl, T4, F4, G4, ⟨m1, m2, m3, m4, m5⟩, ⟨e1, e2, e3⟩, hs4⟩
          · exact q2.thr.elim
          · cases q2
            have hx4 := hx3.fg F4
            obtain ⟨F5, G5⟩ := two_ok hC2 F4 (Nat.le_trans hb F12.1.1) (Tg.fg F2 _ _ _ G1) G4 hsc
            have ht7 : (sT σ4 (sN σ2)).1 = 7 := by rw [(F4.2.2.2 (sN σ2) (by rw [nX_t]; decide)).1, nX_t]
            rw [hcn]
            refine VE.step (fun _ h => V.invI3v iX2_126 dX2_either_29 (c_X6_init (σ := RH σ4 r (lexM B N a3) (nI (cntO K)) n4 s4 w4) (x := sN σ2) ht7 hx2.2.2.2.1) (V.ast1 dX2_either_32 (V.goto (tgt := 5) dX2_either_33 (by decide) h)) (hdd := Nat.ble_eq.mpr (by omega))) ?_
            rw [rd_twoH (Ne.symm hx2.ne)]
            rw [← hv]
            refine ih f3 (twoH σ4 (sN σ2) sc.1 x y) (sN σ2) a3 (max dt dt2 + 1) n4 s4 w4 (c ++ c2 ++ [sc.2]) (S2 ++ [sc.2]) C2 (by omega) ⟨T4.two ht7, (F12.tr F5).le (by omega) (by omega), G5, ⟨by omega, by omega, m3, m4, by omega⟩, ⟨by rw [← List.append_assoc, e1, List.append_assoc, List.append_assoc, List.append_assoc], fun q hq => ?_⟩, ?_, ?_⟩
            · rcases List.mem_append.mp hq with h9 | h9
              · exact rk_mono (e2 q h9) (by decide)
              · rw [List.mem_singleton.mp h9, hrk]; exact Int32.lt_irrefl
            · rw [List.append_assoc]; exact e3
            · rw [hs1, hsy, hs4, List.append_assoc]; rfl
        · rcases q9 with ⟨p, q2, q3⟩ | ⟨_, _, _, _, _, _, _, _, _, _, _, q2, -⟩
          · exact .inl ⟨p, q2.pre (F12.tr FN) (by omega) (by omega), by rw [hs1, hsy]; exact q3⟩
          · cases q2
      -- a fault behind the sign
      have BAD : ∀ (sg : Int32) (fa : Nat) (s9 : Sg), sgO (lexM B N a1).2.1 = sg → rk sg = 1 → (lexM B N e).2.1 = -1 → FLp σ1 r (lexM B N e).1 6 60 (.threw fa) s9 → (PL 1 1 σ r N B b f a K C mn) (.threw fa) s9 := by
        intro sg fa s9 hsg hrk hbad q3
        have hne : ¬ sgO (lexM B N a1).2.1 = -1 := fun z => by rw [hsg] at z; rw [z] at hrk; exact absurd hrk (by decide)
        have ht0 : (lexM B N a1).2.1 ≠ 0 := fun z => hne (by rw [z]; decide)
        have hlt : a1 < e := by rw [← he]; exact hbd1.2.2.resolve_left ht0
        have hsy := sy_op (f := f2) (mn := true) hne (U := (sg :: K, C' ++ S)) (by rw [hsg]; exact btw_all hrk (by decide) g2 htp)
        rw [hsg, he, g1] at hsy
        obtain ⟨f3, rfl⟩ : ∃ f3, f2 = f3 + 1 := ⟨f2 - 1, by omega⟩
        exact .inl ⟨_, q3.pre F1 (by omega) (by omega), by rw [hs1, hsy]; exact sy_bad hbad⟩
      have hOS := hx1.2.2.1
      refine VE.step (fun _ h => V.ald0 dX2_either_5 (V.ldcS hOS.2.2.2.2.2.2.2.2 dX2_either_6 (V.invV1r vX2_116 hx1.t dX2_either_8 (c_X2_is hx1 T1 (k := 9) (by decide)) h (hdd := Nat.ble_eq.mpr (by omega))))) ?_
      refine VE.ifb_eq (tgt := 36) dX2_either_11 (by decide) (fun zf => EX ?_) (fun zt => ?_)
      · have htn : (lexM B N a1).2.1 ≠ 4 := fun z => by
          unfold isWd at zf
          rw [decide_eq_false_iff_not] at zf
          rcases T1 with ⟨h, -⟩ | ⟨h, -⟩ | ⟨h, -⟩ | ⟨kx, b9, Lt, q1, q2, q3, -⟩
          · rw [z] at h; exact absurd h (by decide)
          · rw [z] at h; exact absurd h (by decide)
          · rw [z] at h; exact absurd h (by decide)
          · have hkx : kx = 9 := (show ∀ k, k ≤ 12 → tokW k = 4 → k = 9 by decide +kernel) kx q1 (by rw [← q2]; exact z)
            subst hkx
            exact zf ⟨q2, q3⟩
        exact ⟨fun _ => hst.1 (by decide), fun _ => hst.2.1 (by decide), fun _ => hst.2.2.1 (by decide), fun _ => hst.2.2.2.1 (by decide), fun _ => htn⟩
      · have ht : (lexM B N a1).2.1 = 4 := by
          unfold isWd at zt
          rw [decide_eq_true_eq] at zt
          exact zt.1
        refine VE.step (fun _ h => V.ald0 dX2_either_14 h) ?_
        refine VE.cR vX2_89 rfl hx1.t dX2_either_15 (by omega) (hx1.next hbd1.1) (fun v s9 q9 => ?_) (fun fa s9 q9 => ?_)
        · rcases q9 with ⟨q1, σ2, n2, s2, w2, rfl, F2, T2⟩ | ⟨-, q2⟩
          · cases q1
            rw [he] at T2 ⊢
            exact (MO (124, 11) σ2 n2 s2 w2 (by decide) (by rw [ht]; decide) (by decide) (by decide) (by decide : decide ((11 : Int32) ≤ 12) = true) F2 T2).resolve_right (fun z => z rfl)
          · exact q2.thr.elim
        · rcases q9 with ⟨q1, -⟩ | ⟨q1, q2⟩
          · cases q1
          · rw [he] at q1 q2
            exact BAD 11 fa s9 (by rw [ht]; decide) (by decide) q1 q2
  refine VE.step (fun _ h => V.ald0 dX2_either_0 h) ?_
  refine VE.cR vX2_141 rfl hx.t dX2_either_1 (d' := 8 * (5 - cntO K) + 12 + 4) (by omega) (iho f (Nat.le_refl _) b σ r N B a K C mn n s w hx hb ha hf ho hk hm (htp.up (by decide))) (fun v s9 q9 => ?_) (fun fa s9 q9 => ?_)
  · rcases q9 with ⟨p, q2, -⟩ | ⟨σ1, x, f1, a1, dt, n1, s1, w1, c, S, C', q2, rfl, T1, F1, G1, h5, ⟨g1, g2, g3⟩, hs1⟩
    · exact q2.thr.elim
    · cases q2
      refine VE.step (fun _ h => V.ast1 dX2_either_4 h) ?_
      exact L5 f1 f1 σ1 x a1 dt n1 s1 w1 c S C' (Nat.le_refl _) ⟨T1, F1, G1, h5, ⟨g1, fun q hq => rk_mono (g2 q hq) (by decide)⟩, g3, hs1⟩
  · rcases q9 with q | ⟨_, _, _, _, _, _, _, _, _, _, _, q2, -⟩
    · exact .inl q
    · cases q2
theorem parse_all {E : En} : ∀ f : Nat, (∀ f', f' < f → OneC E f' ∧ EitC E f' ∧ NotC E f') ∧ True
  | 0 => ⟨fun f' h => by omega, trivial⟩
  | f + 1 => by
    have ih := (parse_all (E := E) f).1
    refine ⟨fun f' hf' => ?_, trivial⟩
    rcases Nat.lt_or_ge f' f with h | h
    · exact ih f' h
    · obtain rfl : f' = f := by omega
      have h1 : ∀ g, g ≤ f' → OneC E g := fun g hg => one_step (fun q hq => (ih q (by omega)).1) (fun q hq => (ih q (by omega)).2.1)
      have h2 : ∀ g, g ≤ f' → TermC E g := fun g hg => term_step (fun q hq => one_L (h1 q (by omega)))
      have h3 : ∀ g, g ≤ f' → SumC E g := fun g hg => sum_step (fun q hq => h2 q (by omega))
      have h4 : ∀ g, g ≤ f' → NotC E g := fun g hg => not_step (fun q hq => h3 q (by omega)) (fun q hq => (ih q (by omega)).2.2)
      have h5 : ∀ g, g ≤ f' → BothC E g := fun g hg => both_step (fun q hq => h4 q (by omega))
      exact ⟨h1 f' (Nat.le_refl _), either_step (fun q hq => h5 q hq), h4 f' (Nat.le_refl _)⟩
theorem either_ok {E : En} (f : Nat) : EitC E f := ((parse_all (E := E) (f + 1)).1 f (Nat.lt_succ_self _)).2.1
set_option maxRecDepth 100000
set_option maxHeartbeats 1000000
/-- the best of some: the first that is above all before -/
def bst (f key : Nat → Int32) : Nat → Nat → Int32 × Int32 → Int32 × Int32
  | _, 0, s => s
  | k, m + 1, s => bst f key (k + 1) m (if f k ≤ s.2 then s else (key k, f k))
def shiV (v : Wv) (s : Nat) : Wv := fA 109 (nR v) (fun r => (nI s >>> (nI r &&& 31)) &&& 1) v
def shiB (v : Wv) : Int32 × Int32 := bst (fun s => allS (shiV v s)) nI 0 (2 ^ nR v) (0, -1)
def shiftsR (v : Wv) (a : Int32) : Int32 := if inB a 0 1 then (if a = 0 then (shiB v).1 else (shiB v).2) else -2
theorem shl_n : ∀ n, n ≤ 6 → (1 : Int32) <<< (nI n &&& 31) = nI (2 ^ n) := by decide
theorem Kp.sub {a n N b : Nat} {w0 w : Wv} (hn : n ≤ N) (hk : Kp a n b w0 w) (h2 : ∀ j, j < N → w b j = w0 a j) : Kp a N b w0 w :=
  ⟨fun id j h1 h => hk.1 id j h1 (fun z => h ⟨z.1, by omega⟩), h2⟩
theorem Kp.lo {a n N b : Nat} {w0 : Wv} (hn : n ≤ N) (h : scI b = true) : Kp a n b w0 (fA b N (w0 a) w0) :=
  ⟨fun id j h1 h2 => fA_ne (fun z => by rw [z, h] at h1; exact absurd h1 (by simp)), fun j hj => fA_at (by omega)⟩
def leaB (v : Wv) (k : Nat) : Int32 × Int32 := bst (fun x => allS (up2 v 116 k (nI x))) nI 0 21 (0, -1)
def leastR (v : Wv) (k : Int32) : Int32 := if inB k 0 (v 100 14 - 1) then (leaB v (cl k)).1 else -5
def stgV (v : Wv) (n : Nat) : Wv := fA 113 (nP v) (fun p => v 113 p + nI n) v
def stageR (v : Wv) : Int32 := (bst (fun n => allS (stgV v n)) nI 1 10 (0, allS v)).1
def hatV (v : Wv) (s h : Int32) : Wv := up2 (up2 v 100 23 s) 100 24 h
def hatR (v : Wv) (r c h : Int32) : Int32 := if seB v r c then (if inB h 0 40 then allS v - allS (hatV v (8 * r + c) h) else -7) else -5
def hatW (v : Wv) (r c h : Int32) : Wv := if seB v r c then (if inB h 0 40 then hatV v (-1) h else v) else v
theorem HI.hat {u : Wv} (hI : HI u) {s h : Int32} : HI (hatV u s h) := hI
theorem HT.hat {u : Wv} (hT : HT u) {s h : Int32} : HT (hatV u s h) := hT
def swp (v : Wv) (a b : Nat) : Wv := up2 (up2 v 110 a (v 110 b)) 110 b (v 110 a)
theorem swp_at {v : Wv} {a b i : Nat} : swp v a b 110 i = if i = b then v 110 a else if i = a then v 110 b else v 110 i := by
  unfold swp
  by_cases h : i = b
  · rw [if_pos h, h, up2_eq]
  · rw [if_neg h, up2_ne _ _ (fun z => h z.2)]
    by_cases h2 : i = a
    · rw [if_pos h2, h2, up2_eq]
    · rw [if_neg h2, up2_ne _ _ (fun z => h2 z.2)]
theorem swp_ne {v : Wv} {a b id i : Nat} (h : id ≠ 110) : swp v a b id i = v id i := by
  unfold swp
  rw [up2_ne _ _ (fun z => h z.1), up2_ne _ _ (fun z => h z.1)]
theorem swp_swp {v : Wv} {a b : Nat} : swp (swp v a b) a b = v := by
  funext id i
  by_cases h : id = 110
  · subst h
    rw [swp_at, swp_at, swp_at, swp_at]
    by_cases h1 : i = b
    · subst h1; simp only [if_true]; by_cases h2 : a = i <;> simp [h2]
    · by_cases h2 : i = a
      · subst h2; simp [h1]
      · simp [h1, h2]
  · rw [swp_ne h, swp_ne h]
theorem cu_swp {v : Wv} {a b : Nat} : cu (swp v a b) = swp (cu v) a b := by
  unfold swp; rw [cu_kp (by decide), cu_kp (by decide)]; rfl
theorem cv_swp {w v : Wv} (h : cv w = cv v) {a b : Nat} : cv (swp w a b) = cv (swp v a b) := by
  unfold swp; rw [cv_at h (id := 110) (j := a), cv_at h (id := 110) (j := b)]; exact cv_up (cv_up h)
theorem HI.swp {u : Wv} (hI : HI u) {a b : Nat} (ha : a < 48) (hb : b < 48) : HI (swp u a b) := by
  refine ⟨by rw [swp_ne (by decide)]; exact hI.1, by rw [swp_ne (by decide)]; exact hI.2.1, by rw [swp_ne (by decide)]; exact hI.2.2.1, fun r hr => by rw [swp_ne (by decide)]; exact hI.2.2.2.1 r hr, fun i hi => ?_⟩
  rw [swp_at]
  split
  · exact hI.2.2.2.2 a ha
  · split
    · exact hI.2.2.2.2 b hb
    · exact hI.2.2.2.2 i hi
theorem HT.swp {u : Wv} (hT : HT u) {a b : Nat} : HT (swp u a b) := HT.up (HT.up hT (by decide)) (by decide)
def gnS (v : Wv) (a b : Nat) : Int32 := allS (swp v a b) - allS v
def swapR (v : Wv) (r c q e : Int32) : Int32 := if seB v r c && seB v q e then gnS v (8 * cl r + cl c) (8 * cl q + cl e) else -1000000
def fndT (v : Wv) (r a b : Nat) (s : Int32 × Int32) : Int32 × Int32 := if so v r a = so v r b then s else if gnS v (8 * r + a) (8 * r + b) ≤ s.2 then s else (10 * nI a + nI b, gnS v (8 * r + a) (8 * r + b))
def fndB (v : Wv) (r a : Nat) : Nat → Nat → Int32 × Int32 → Int32 × Int32
  | _, 0, s => s
  | b, m + 1, s => fndB v r a (b + 1) m (fndT v r a b s)
def fndA (v : Wv) (r : Nat) : Nat → Nat → Int32 × Int32 → Int32 × Int32
  | _, 0, s => s
  | a, m + 1, s => fndA v r (a + 1) m (fndB v r a (a + 1) (nS v r - (a + 1)) s)
def fnd (v : Wv) (r : Nat) : Int32 × Int32 := fndA v r 0 (nS v r) (-1, 0)
def peopleR (v : Wv) (r a : Int32) : Int32 := if inB r 0 (v 100 3 - 1) then (if inB a 0 1 then (if a = 0 then (fnd v (cl r)).1 else (fnd v (cl r)).2) else -7) else -5
/-- r's best two change places, as often as told: how often, the hall -/
def setl (r : Nat) : Nat → Nat → Wv → Nat × Wv
  | n, 0, v => (n, v)
  | n, m + 1, v => if (fnd v r).1 = -1 then (n, v) else setl r (n + 1) m (swp v (8 * r + cl (fnd v r).1 / 10) (8 * r + cl (fnd v r).1 % 10))
def settleR (v : Wv) (r a : Int32) : Int32 := if inB r 0 (v 100 3 - 1) then (if inB a 0 5 then nI (setl (cl r) 0 (cl a) v).1 else -7) else -5
def settleW (v : Wv) (r a : Int32) : Wv := if inB r 0 (v 100 3 - 1) then (if inB a 0 5 then (setl (cl r) 0 (cl a) v).2 else v) else v

theorem nI_nm1 {n : Nat} (h : n < 2 ^ 31) : ¬ nI n = -1 := fun z => dn_lt h (by rw [z]; decide)
theorem c_X7_proof {E : En} {g : Ge} {σ : Sg} {w : Wv} (hW : WM g σ) {v : Wv} (hA : cv w = cv v) (hI : HI v) {r : Int32} : CtE E mX7_proof 8 [.ref (g.1 100), .int r] (PR (.int (proofR v r)) (QV g σ v)) (S g σ w) := by
  show VE E mX7_proof 8 _ 0 [some (.ref (g.1 100)), some (.int r), none, none] [] (S g σ w)
  refine VE.step (fun _ h => V.ald0 dX7_proof_0 (V.ild1 dX7_proof_1 (V.invV1r vX7_163 hW.2.2.1 dX7_proof_2 (e_X7_isRow hW hA) h))) ?_
  refine VE.ifb_ne (tgt := 11) dX7_proof_5 (by decide) (fun c_5 => ?_) (fun c_5 => ?_)
  · have c_5' := c_5
    rw [hI.rows.1] at c_5'
    have hR2 := hI.rows.2
    obtain ⟨k, hk, rfl⟩ := (inB_n (by omega)).mp c_5'
    have e1 : cl (nI k) = k := cl_n (by omega)
    have H42 : ∀ (now q' : Int32) (w' : Wv), Kp 108 6 152 w w' → now = prf 0 (k + 1) 0 v → VE E mX7_proof 8 (PR (.int (proofR v (nI k))) (QV g σ v)) 42 [some (.ref (g.1 100)), some (.int (nI k)), some (.int (now)), some (.int (q'))] [] (S g σ w') := by
      intro now q' w' hK hn
      refine VE.step (fun _ h => V.ald0 dX7_proof_42 (V.invV0v vX7_316 hW.2.2.1 dX7_proof_43 (c_X7_laysRises hW) (V.ild2 dX7_proof_46 h))) ?_
      exact VE.iret dX7_proof_47 rfl rfl (⟨by rw [proofR, if_pos c_5, e1, hn], _, (Kp.fin hK).trans hA, rfl⟩)
    have HM : ∀ (q' : Int32) (w' : Wv), Kp 108 6 152 w w' → prf 0 (k + 1) 0 v = -1 → VE E mX7_proof 8 (PR (.int (proofR v (nI k))) (QV g σ v)) 19 [some (.ref (g.1 100)), some (.int (nI k)), some (.int (-1)), some (.int (q'))] [] (S g σ w') := by
      intro q' w' hK hn
      refine VE.step (fun _ h => V.ild3 dX7_proof_19 (V.ild1 dX7_proof_20 h)) ?_
      refine VE.icmp_gt (tgt := 42) dX7_proof_21 (by decide) (fun c_21 => ?_) (fun c_21 => ?_)
      · exact H42 _ _ _ hK hn.symm
      · refine VE.step (fun _ h => V.ild2 dX7_proof_24 (V.iconst_m1 dX7_proof_25 h)) ?_
        refine VE.icmp_eq (tgt := 42) dX7_proof_26 (by decide) (fun c_26 => ?_) (fun c_26 => absurd (show (-1 : Int32) = -1 from rfl) c_26)
        exact H42 _ _ _ hK hn.symm
    have L19 : ∀ (m q : Nat) (f : Nat) (w' v' : Wv), q + m = k + 1 → Kp 108 6 152 w w' → cv w' = cv v' → HI v' → f ≤ 99 → prf q m f v' = prf 0 (k + 1) 0 v → VE E mX7_proof 8 (PR (.int (proofR v (nI k))) (QV g σ v)) 19 [some (.ref (g.1 100)), some (.int (nI k)), some (.int (nI f)), some (.int (nI q))] [] (S g σ w') := by
      intro m
      induction m with
      | zero =>
        intro q f w' v' hk hK hA' hI' hf hs
        refine VE.step (fun _ h => V.ild3 dX7_proof_19 (V.ild1 dX7_proof_20 h)) ?_
        refine VE.icmp_gt (tgt := 42) dX7_proof_21 (by decide) (fun c_21 => ?_) (fun c_21 => absurd (show nI k < nI q from nI_lt (by omega) (by omega)) c_21)
        exact H42 _ _ _ hK hs
      | succ m ih =>
        intro q f w' v' hk hK hA' hI' hf hs
        refine VE.step (fun _ h => V.ild3 dX7_proof_19 (V.ild1 dX7_proof_20 h)) ?_
        refine VE.icmp_gt (tgt := 42) dX7_proof_21 (by decide) (fun c_21 => absurd c_21 (show ¬ nI k < nI q from nI_nlt (by omega) (by omega))) (fun c_21 => ?_)
        refine VE.step (fun _ h => V.ild2 dX7_proof_24 (V.iconst_m1 dX7_proof_25 h)) ?_
        refine VE.icmp_eq (tgt := 42) dX7_proof_26 (by decide) (fun c_26 => absurd c_26 (show ¬ nI f = -1 from nI_nm1 (by omega))) (fun c_26 => ?_)
        refine VE.step (fun _ h => V.ald0 dX7_proof_29 (V.ild3 dX7_proof_30 (V.ild2 dX7_proof_31 h))) ?_
        refine VE.invV2r vX7_352 hW.2.2.1 dX7_proof_32 (c_X7_raises hW hA' hI' (r := q) (f := f) (by omega) hf) (fun s9 q9 => ?_)
        obtain ⟨w1, rfl, hx, hx2⟩ := q9
        refine VE.step (fun _ h => V.ist2 dX7_proof_35 (V.inc3 dX7_proof_36 (V.goto (tgt := 19) dX7_proof_39 (by decide) h))) ?_
        rw [nI_1]
        cases hfd : ff (raiP v' q) f (100 - f) with
        | none =>
          rw [prf, hfd] at hs
          have e2 : raiS v' q f = -1 := by unfold raiS ffI; rw [hfd]
          rw [e2]
          exact HM _ _ (Kp.ex (by decide) (by omega) hx hK) hs.symm
        | some x =>
          rw [prf, hfd] at hs
          have e2 : raiS v' q f = nI x := by unfold raiS ffI; rw [hfd]
          have hb := ff_lt hfd
          have e3 := hx2 (by rw [e2]; exact nI_nm1 (by omega))
          rw [e2]
          exact ih (q + 1) x _ (up2 v' 108 q (nI x)) (by omega) (Kp.ex (by decide) (by omega) hx hK) (by rw [hx.at, e3, e2]; exact cv_up hA') (HI.up hI' (by decide) (by decide) (by decide)) (by omega) hs
    
    refine VE.step (fun _ h => V.ald0 dX7_proof_11 (V.invV0v vX7_310 hW.2.2.1 dX7_proof_12 (c_X7_keepsRises hW) (V.iconst_0 dX7_proof_15 (V.ist2 dX7_proof_16 (V.iconst_0 dX7_proof_17 (V.ist3 dX7_proof_18 h)))))) ?_
    exact L19 (k + 1) 0 0 _ v (by omega) (Kp.start rfl) (by rw [cv_fAs rfl, hA]) hI (by decide) rfl
  · refine VE.step (fun _ h => V.bipush (v := (-5)) dX7_proof_8 (by decide) h) ?_
    exact VE.iret dX7_proof_10 rfl rfl (⟨by simp only [proofR, c_5, if_true, if_false, Bool.false_eq_true, eq_self, and_true, true_and, and_false, false_and, Bool.and_true, Bool.true_and, Bool.and_false, Bool.false_and, Bool.not_true, Bool.not_false, not_true_eq_false, not_false_eq_true, ne_eq, b2i_t, b2i_f], _, hA, rfl⟩)

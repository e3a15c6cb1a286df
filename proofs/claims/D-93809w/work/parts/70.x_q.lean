set_option maxRecDepth 100000
set_option maxHeartbeats 1000000
/-- x's world holds the hall u; at most an Odd was made -/
def QO (g : Ge) (σ : Sg) (u : Wv) (n : Nat) (K : Nat → Nat) : Sg → Prop := fun s => ∃ (σ' : Sg) (w' : Wv), s = S g σ' w' ∧ (σ' = σ ∨ ∃ x, σ' = odd σ x) ∧ XH g σ' w' u n K
theorem QO.odd {g : Ge} {σ : Sg} {w u : Wv} {n : Nat} {K : Nat → Nat} (hX : XH g σ w u n K) (hN : NA g (sN σ)) (hC : CLN σ) {x : Int32} : QO g σ u n K (odd (S g σ w) x) := ⟨_, w, S_odd hN, .inr ⟨x, rfl⟩, (hX.nW hC).pIa⟩
theorem QO.same {g : Ge} {σ : Sg} {w u : Wv} {n : Nat} {K : Nat → Nat} (hX : XH g σ w u n K) : QO g σ u n K (S g σ w) := ⟨σ, w, rfl, .inl rfl, hX⟩
theorem catch_X0_cell {E : En} {σ1 : Sg} {a : Nat} {x : Int32} {P : Outcome → Sg → Prop} (ht : (sT σ1 a).1 = 15) (hc : sI σ1 a 6 = x) (hP : P (.returned (some (.int x))) σ1) {l0 l1 l2 l4 : Option Value} {y9 : Int32} : VE E mX0_cell 6 P 45 [l0, l1, l2, some (.int y9), l4] [.ref a] σ1 := by
  refine VE.step (fun _ h => V.ast4 dX0_cell_45 (V.ald4 dX0_cell_47 (gX0_452 rfl ht dX0_cell_49 h))) ?_
  rw [hc]
  exact VE.iret dX0_cell_52 rfl rfl hP
theorem catch_X0_copy {E : En} {σ1 : Sg} {a : Nat} {x : Int32} {P : Outcome → Sg → Prop} (ht : (sT σ1 a).1 = 15) (hc : sI σ1 a 6 = x) (hP : P (.returned (some (.int x))) σ1) {l0 l1 l2 l3 l4 l6 l7 : Option Value} {y9 : Int32} : VE E mX0_copy 6 P 124 [l0, l1, l2, l3, l4, some (.int y9), l6, l7] [.ref a] σ1 := by
  refine VE.step (fun _ h => V.ast6 dX0_copy_124 (V.ald6 dX0_copy_126 (gX0_452 rfl ht dX0_copy_128 h))) ?_
  rw [hc]
  exact VE.iret dX0_copy_131 rfl rfl hP
theorem catch_X0_sitters {E : En} {σ1 : Sg} {a : Nat} {x : Int32} {P : Outcome → Sg → Prop} (ht : (sT σ1 a).1 = 15) (hc : sI σ1 a 6 = x) (hP : P (.returned (some (.int x))) σ1) {l0 l1 l2 l3 l4 l6 l7 : Option Value} {y9 : Int32} : VE E mX0_sitters 6 P 124 [l0, l1, l2, l3, l4, some (.int y9), l6, l7] [.ref a] σ1 := by
  refine VE.step (fun _ h => V.ast6 dX0_sitters_124 (V.ald6 dX0_sitters_126 (gX0_452 rfl ht dX0_sitters_128 h))) ?_
  rw [hc]
  exact VE.iret dX0_sitters_131 rfl rfl hP
theorem c_X0_cell {E : En} {g : Ge} {σ : Sg} {w u : Wv} {n : Nat} {K : Nat → Nat} (hX : XH g σ w u n K) (hU : EU E) (h1 : 1000 ≤ sN σ) (hN : NA g (sN σ)) (hC : CLN σ) (hS : HS u) {s i x : Int32} : CtE E mX0_cell 6 [.ref (g.1 0), .int s, .int i, .int x] (PR (.int (cellR u s i)) (QO g σ (cellW u s i x) n K)) (S g σ w) := by
  show VE E mX0_cell 6 _ 0 [some (.ref (g.1 0)), some (.int s), some (.int i), some (.int x), none] [] (S g σ w)
  refine VE.step (fun _ h => V.ild1 dX0_cell_0 (V.invS1r sX0_300 dX0_cell_1 c_X0_isSheet h)) ?_
  refine VE.ifb_ne (tgt := 10) dX0_cell_4 (by decide) (fun c_4 => ?_) (fun c_4 => ?_)
  rotate_left 1
  · refine VE.step (fun _ h => V.bipush (v := (-2)) dX0_cell_7 (by decide) h) ?_
    exact VE.iret dX0_cell_9 rfl rfl ⟨by rw [cellR, c_4]; rfl, by rw [cellW, c_4]; exact QO.same hX⟩
  obtain ⟨s, hs, rfl, es⟩ : ∃ s', s' < 4 ∧ s = nI s' ∧ cl s = s' := by
    obtain ⟨s', h1, h2⟩ := (inB_n (n := 4) (by decide)).mp c_4
    exact ⟨s', h1, h2, by rw [h2]; exact cl_n (by omega)⟩
  refine VE.step (fun _ h => V.ald0 dX0_cell_10 (V.ild1 dX0_cell_11 h)) ?_
  by_cases h138 : 0 ≤ u 138 s
  rotate_left 1
  · have hm := (sh_neg hS hs).mp h138
    refine VE.step (fun _ h => V.callCatch [] (10, 44, 45, 431) [] rfl (fun y hy => by cases hy) ⟨by decide, by decide⟩ (by decide) q1444 (show (sT (odd (S g σ w) (-11)) (sN σ)).1 = 14 + 1 from odd_t (σ := S g σ w)) (by decide) rfl (.inl rfl) dX0_cell_12 wX0_there (by decide) (Nat.le_of_ble_eq_true rfl) (Nat.le_of_ble_eq_true rfl) (Lk.V (As := [.int (nI s)]) (rest := []) vX0_440 hX.t0 rfl dX0_cell_12) (there_no hX hU h1 hs h138) h) ?_
    exact catch_X0_cell (odd_t (σ := S g σ w)) (odd_c (σ := S g σ w)) ⟨by rw [cellR, if_pos c_4, es, if_pos hm], by rw [cellW, if_pos c_4, es, if_pos hm]; exact QO.odd hX hN hC⟩
  have hm : ¬ u 138 s = -1 := fun z => ((sh_neg hS hs).mpr z) h138
  obtain ⟨⟨sz, hsz, esz⟩, -⟩ := hS s hs
  refine VE.step (fun _ h => V.invV1r vX0_440 hX.t0 dX0_cell_12 (there_ok hX hs h138) (V.ast4 dX0_cell_15 (V.ild2 dX0_cell_17 (V.i2l dX0_cell_18 (V.lconst_0 dX0_cell_19 (V.ald4 dX0_cell_20 (GX0_306 hX hs rfl dX0_cell_22 (V.i2l dX0_cell_25 (V.lconst_1 dX0_cell_26 (V.lsub dX0_cell_27 (V.invS3r sX0_112 dX0_cell_28 (in_u ⟨sz, by omega, esz⟩) (V.bipush (v := (-12)) dX0_cell_31 (by decide) h)))))))))))) ?_
  cases hb : inB i 0 (u 139 s - 1) with
  | false =>
    refine VE.step (fun _ h => V.callCatch [] (10, 44, 45, 431) [] rfl (fun y hy => by cases hy) ⟨by decide, by decide⟩ (by decide) q1444 (show (sT (odd (S g σ w) (-12)) (sN σ)).1 = 14 + 1 from odd_t (σ := S g σ w)) (by decide) rfl (.inl rfl) dX0_cell_33 wX0_need (by decide) (Nat.le_of_ble_eq_true rfl) (Nat.le_of_ble_eq_true rfl) (Lk.S (As := [.int (b2i false), .int (-12)]) (rest := []) sX0_444 rfl dX0_cell_33) (need_no (σ := S g σ w) hU h1) h) ?_
    exact catch_X0_cell (odd_t (σ := S g σ w)) (odd_c (σ := S g σ w)) ⟨by rw [cellR, if_pos c_4, es, if_neg hm, hb]; rfl, by rw [cellW, if_pos c_4, es, if_neg hm, hb]; exact QO.odd hX hN hC⟩
  | true =>
    have hb' := hb
    rw [esz] at hb'
    obtain ⟨i, hi, rfl⟩ := (inB_n (by omega)).mp hb'
    refine VE.step (fun _ h => V.invS2v sX0_444 dX0_cell_33 need_ok (V.ald4 dX0_cell_36 (V.ild2 dX0_cell_38 (V.ild3 dX0_cell_39 (V.invV2v vX0_448 (hX.si hs).2.1 dX0_cell_40 (c_X1_put hX hs (i := i) (by omega)) (V.iconst_1 dX0_cell_43 h)))))) ?_
    exact VE.iret dX0_cell_44 rfl rfl ⟨by rw [cellR, if_pos c_4, es, if_neg hm, hb]; rfl, by rw [cellW, if_pos c_4, es, if_neg hm, if_pos hb, cl_n (by omega)]; exact QO.same (hX.up (xcm hs (by omega)))⟩
set_option maxRecDepth 100000
set_option maxHeartbeats 4000000
/-! ===== rows are made ===== -/
def rowI (τ : Sg) (a X : Nat) (n s m : Int32) : Sg := (sN τ + 1, sS τ + 8, up1 (sT τ) (sN τ) (102, 8), up2 (up2 (up2 (up1 (sI τ) (sN τ) (fun _ => 0)) a 0 n) a 1 s) a 2 m, up1 (sL τ) (sN τ) (fun _ => 0), up2 (up1 (up2 (sR τ) a 4 (some X)) (sN τ) (fun _ => none)) a 3 (some (sN τ)))
theorem c_X8_init_8 {E : En} {τ : Sg} {a X : Nat} (ht : (sT τ a).1 = 9) (ha : 1000 ≤ a) (hne : a ≠ sN τ) {n s m : Int32} : Ct E mX8_init 1 [.ref a, .ref X, .int n, .int s, .int m] (.returned none, rowI τ a X n s m) τ := by
  obtain ⟨N, Z, T, I, L, R⟩ := τ
  have ht1 : (up1 T N (102, 8) a).1 = 9 := by rw [up1_ne _ _ hne]; exact ht
  show V E mX8_init 1 _ 0 [some (.ref a), some (.ref X), some (.int n), some (.int s), some (.int m)] [] (N, Z, T, I, L, R)
  refine V.ald0 dX8_init_0 (V.ald1 dX8_init_1 (pX8_3_8 (σ := (N, Z, T, I, L, R)) rfl rfl ht ha dX8_init_2 ?_))
  show V E mX8_init 1 _ 5 [some (.ref a), some (.ref X), some (.int n), some (.int s), some (.int m)] [] (N, Z, T, I, L, up2 R a 4 (some X))
  refine V.ald0 dX8_init_5 (V.oinit q830 dX8_init_6 (V.ald0 dX8_init_9 (V.bipush (v := 8) dX8_init_10 (by decide) (V.newB (n := 8) rfl (by decide) dX8_init_12 ?_))))
  show V E mX8_init 1 _ 14 [some (.ref a), some (.ref X), some (.int n), some (.int s), some (.int m)] [.ref N, .ref a] (N + 1, Z + 8, up1 T N (102, 8), up1 I N (fun _ => 0), up1 L N (fun _ => 0), up1 (up2 R a 4 (some X)) N (fun _ => none))
  refine pX8_15_8 (σ := (N + 1, Z + 8, up1 T N (102, 8), up1 I N (fun _ => 0), up1 L N (fun _ => 0), up1 (up2 R a 4 (some X)) N (fun _ => none))) rfl rfl ht1 ha dX8_init_14 ?_
  show V E mX8_init 1 _ 17 [some (.ref a), some (.ref X), some (.int n), some (.int s), some (.int m)] [] (N + 1, Z + 8, up1 T N (102, 8), up1 I N (fun _ => 0), up1 L N (fun _ => 0), up2 (up1 (up2 R a 4 (some X)) N (fun _ => none)) a 3 (some N))
  refine V.ald0 dX8_init_17 (V.ild2 dX8_init_18 (pX8_19_8 (σ := (N + 1, Z + 8, up1 T N (102, 8), up1 I N (fun _ => 0), up1 L N (fun _ => 0), up2 (up1 (up2 R a 4 (some X)) N (fun _ => none)) a 3 (some N))) rfl rfl ht1 ha dX8_init_19 ?_))
  show V E mX8_init 1 _ 22 [some (.ref a), some (.ref X), some (.int n), some (.int s), some (.int m)] [] (N + 1, Z + 8, up1 T N (102, 8), up2 (up1 I N (fun _ => 0)) a 0 n, up1 L N (fun _ => 0), up2 (up1 (up2 R a 4 (some X)) N (fun _ => none)) a 3 (some N))
  refine V.ald0 dX8_init_22 (V.ild3 dX8_init_23 (pX8_23_8 (σ := (N + 1, Z + 8, up1 T N (102, 8), up2 (up1 I N (fun _ => 0)) a 0 n, up1 L N (fun _ => 0), up2 (up1 (up2 R a 4 (some X)) N (fun _ => none)) a 3 (some N))) rfl rfl ht1 ha dX8_init_24 ?_))
  show V E mX8_init 1 _ 27 [some (.ref a), some (.ref X), some (.int n), some (.int s), some (.int m)] [] (N + 1, Z + 8, up1 T N (102, 8), up2 (up2 (up1 I N (fun _ => 0)) a 0 n) a 1 s, up1 L N (fun _ => 0), up2 (up1 (up2 R a 4 (some X)) N (fun _ => none)) a 3 (some N))
  refine V.ald0 dX8_init_27 (V.ild4 dX8_init_28 (pX8_26_8 (σ := (N + 1, Z + 8, up1 T N (102, 8), up2 (up2 (up1 I N (fun _ => 0)) a 0 n) a 1 s, up1 L N (fun _ => 0), up2 (up1 (up2 R a 4 (some X)) N (fun _ => none)) a 3 (some N))) rfl rfl ht1 ha dX8_init_30 ?_))
  show V E mX8_init 1 _ 33 [some (.ref a), some (.ref X), some (.int n), some (.int s), some (.int m)] [] (N + 1, Z + 8, up1 T N (102, 8), up2 (up2 (up2 (up1 I N (fun _ => 0)) a 0 n) a 1 s) a 2 m, up1 L N (fun _ => 0), up2 (up1 (up2 R a 4 (some X)) N (fun _ => none)) a 3 (some N))
  exact V.vret dX8_init_33 rfl rfl
theorem c_X8_init_9 {E : En} {τ : Sg} {a X : Nat} (ht : (sT τ a).1 = 10) (ha : 1000 ≤ a) (hne : a ≠ sN τ) {n s m : Int32} : Ct E mX8_init 1 [.ref a, .ref X, .int n, .int s, .int m] (.returned none, rowI τ a X n s m) τ := by
  obtain ⟨N, Z, T, I, L, R⟩ := τ
  have ht1 : (up1 T N (102, 8) a).1 = 10 := by rw [up1_ne _ _ hne]; exact ht
  show V E mX8_init 1 _ 0 [some (.ref a), some (.ref X), some (.int n), some (.int s), some (.int m)] [] (N, Z, T, I, L, R)
  refine V.ald0 dX8_init_0 (V.ald1 dX8_init_1 (pX8_3_9 (σ := (N, Z, T, I, L, R)) rfl rfl ht ha dX8_init_2 ?_))
  show V E mX8_init 1 _ 5 [some (.ref a), some (.ref X), some (.int n), some (.int s), some (.int m)] [] (N, Z, T, I, L, up2 R a 4 (some X))
  refine V.ald0 dX8_init_5 (V.oinit q830 dX8_init_6 (V.ald0 dX8_init_9 (V.bipush (v := 8) dX8_init_10 (by decide) (V.newB (n := 8) rfl (by decide) dX8_init_12 ?_))))
  show V E mX8_init 1 _ 14 [some (.ref a), some (.ref X), some (.int n), some (.int s), some (.int m)] [.ref N, .ref a] (N + 1, Z + 8, up1 T N (102, 8), up1 I N (fun _ => 0), up1 L N (fun _ => 0), up1 (up2 R a 4 (some X)) N (fun _ => none))
  refine pX8_15_9 (σ := (N + 1, Z + 8, up1 T N (102, 8), up1 I N (fun _ => 0), up1 L N (fun _ => 0), up1 (up2 R a 4 (some X)) N (fun _ => none))) rfl rfl ht1 ha dX8_init_14 ?_
  show V E mX8_init 1 _ 17 [some (.ref a), some (.ref X), some (.int n), some (.int s), some (.int m)] [] (N + 1, Z + 8, up1 T N (102, 8), up1 I N (fun _ => 0), up1 L N (fun _ => 0), up2 (up1 (up2 R a 4 (some X)) N (fun _ => none)) a 3 (some N))
  refine V.ald0 dX8_init_17 (V.ild2 dX8_init_18 (pX8_19_9 (σ := (N + 1, Z + 8, up1 T N (102, 8), up1 I N (fun _ => 0), up1 L N (fun _ => 0), up2 (up1 (up2 R a 4 (some X)) N (fun _ => none)) a 3 (some N))) rfl rfl ht1 ha dX8_init_19 ?_))
  show V E mX8_init 1 _ 22 [some (.ref a), some (.ref X), some (.int n), some (.int s), some (.int m)] [] (N + 1, Z + 8, up1 T N (102, 8), up2 (up1 I N (fun _ => 0)) a 0 n, up1 L N (fun _ => 0), up2 (up1 (up2 R a 4 (some X)) N (fun _ => none)) a 3 (some N))
  refine V.ald0 dX8_init_22 (V.ild3 dX8_init_23 (pX8_23_9 (σ := (N + 1, Z + 8, up1 T N (102, 8), up2 (up1 I N (fun _ => 0)) a 0 n, up1 L N (fun _ => 0), up2 (up1 (up2 R a 4 (some X)) N (fun _ => none)) a 3 (some N))) rfl rfl ht1 ha dX8_init_24 ?_))
  show V E mX8_init 1 _ 27 [some (.ref a), some (.ref X), some (.int n), some (.int s), some (.int m)] [] (N + 1, Z + 8, up1 T N (102, 8), up2 (up2 (up1 I N (fun _ => 0)) a 0 n) a 1 s, up1 L N (fun _ => 0), up2 (up1 (up2 R a 4 (some X)) N (fun _ => none)) a 3 (some N))
  refine V.ald0 dX8_init_27 (V.ild4 dX8_init_28 (pX8_26_9 (σ := (N + 1, Z + 8, up1 T N (102, 8), up2 (up2 (up1 I N (fun _ => 0)) a 0 n) a 1 s, up1 L N (fun _ => 0), up2 (up1 (up2 R a 4 (some X)) N (fun _ => none)) a 3 (some N))) rfl rfl ht1 ha dX8_init_30 ?_))
  show V E mX8_init 1 _ 33 [some (.ref a), some (.ref X), some (.int n), some (.int s), some (.int m)] [] (N + 1, Z + 8, up1 T N (102, 8), up2 (up2 (up2 (up1 I N (fun _ => 0)) a 0 n) a 1 s) a 2 m, up1 L N (fun _ => 0), up2 (up1 (up2 R a 4 (some X)) N (fun _ => none)) a 3 (some N))
  exact V.vret dX8_init_33 rfl rfl
theorem c_X8_init_10 {E : En} {τ : Sg} {a X : Nat} (ht : (sT τ a).1 = 11) (ha : 1000 ≤ a) (hne : a ≠ sN τ) {n s m : Int32} : Ct E mX8_init 1 [.ref a, .ref X, .int n, .int s, .int m] (.returned none, rowI τ a X n s m) τ := by
  obtain ⟨N, Z, T, I, L, R⟩ := τ
  have ht1 : (up1 T N (102, 8) a).1 = 11 := by rw [up1_ne _ _ hne]; exact ht
  show V E mX8_init 1 _ 0 [some (.ref a), some (.ref X), some (.int n), some (.int s), some (.int m)] [] (N, Z, T, I, L, R)
  refine V.ald0 dX8_init_0 (V.ald1 dX8_init_1 (pX8_3_10 (σ := (N, Z, T, I, L, R)) rfl rfl ht ha dX8_init_2 ?_))
  show V E mX8_init 1 _ 5 [some (.ref a), some (.ref X), some (.int n), some (.int s), some (.int m)] [] (N, Z, T, I, L, up2 R a 4 (some X))
  refine V.ald0 dX8_init_5 (V.oinit q830 dX8_init_6 (V.ald0 dX8_init_9 (V.bipush (v := 8) dX8_init_10 (by decide) (V.newB (n := 8) rfl (by decide) dX8_init_12 ?_))))
  show V E mX8_init 1 _ 14 [some (.ref a), some (.ref X), some (.int n), some (.int s), some (.int m)] [.ref N, .ref a] (N + 1, Z + 8, up1 T N (102, 8), up1 I N (fun _ => 0), up1 L N (fun _ => 0), up1 (up2 R a 4 (some X)) N (fun _ => none))
  refine pX8_15_10 (σ := (N + 1, Z + 8, up1 T N (102, 8), up1 I N (fun _ => 0), up1 L N (fun _ => 0), up1 (up2 R a 4 (some X)) N (fun _ => none))) rfl rfl ht1 ha dX8_init_14 ?_
  show V E mX8_init 1 _ 17 [some (.ref a), some (.ref X), some (.int n), some (.int s), some (.int m)] [] (N + 1, Z + 8, up1 T N (102, 8), up1 I N (fun _ => 0), up1 L N (fun _ => 0), up2 (up1 (up2 R a 4 (some X)) N (fun _ => none)) a 3 (some N))
  refine V.ald0 dX8_init_17 (V.ild2 dX8_init_18 (pX8_19_10 (σ := (N + 1, Z + 8, up1 T N (102, 8), up1 I N (fun _ => 0), up1 L N (fun _ => 0), up2 (up1 (up2 R a 4 (some X)) N (fun _ => none)) a 3 (some N))) rfl rfl ht1 ha dX8_init_19 ?_))
  show V E mX8_init 1 _ 22 [some (.ref a), some (.ref X), some (.int n), some (.int s), some (.int m)] [] (N + 1, Z + 8, up1 T N (102, 8), up2 (up1 I N (fun _ => 0)) a 0 n, up1 L N (fun _ => 0), up2 (up1 (up2 R a 4 (some X)) N (fun _ => none)) a 3 (some N))
  refine V.ald0 dX8_init_22 (V.ild3 dX8_init_23 (pX8_23_10 (σ := (N + 1, Z + 8, up1 T N (102, 8), up2 (up1 I N (fun _ => 0)) a 0 n, up1 L N (fun _ => 0), up2 (up1 (up2 R a 4 (some X)) N (fun _ => none)) a 3 (some N))) rfl rfl ht1 ha dX8_init_24 ?_))
  show V E mX8_init 1 _ 27 [some (.ref a), some (.ref X), some (.int n), some (.int s), some (.int m)] [] (N + 1, Z + 8, up1 T N (102, 8), up2 (up2 (up1 I N (fun _ => 0)) a 0 n) a 1 s, up1 L N (fun _ => 0), up2 (up1 (up2 R a 4 (some X)) N (fun _ => none)) a 3 (some N))
  refine V.ald0 dX8_init_27 (V.ild4 dX8_init_28 (pX8_26_10 (σ := (N + 1, Z + 8, up1 T N (102, 8), up2 (up2 (up1 I N (fun _ => 0)) a 0 n) a 1 s, up1 L N (fun _ => 0), up2 (up1 (up2 R a 4 (some X)) N (fun _ => none)) a 3 (some N))) rfl rfl ht1 ha dX8_init_30 ?_))
  show V E mX8_init 1 _ 33 [some (.ref a), some (.ref X), some (.int n), some (.int s), some (.int m)] [] (N + 1, Z + 8, up1 T N (102, 8), up2 (up2 (up2 (up1 I N (fun _ => 0)) a 0 n) a 1 s) a 2 m, up1 L N (fun _ => 0), up2 (up1 (up2 R a 4 (some X)) N (fun _ => none)) a 3 (some N))
  exact V.vret dX8_init_33 rfl rfl
theorem c_X8_init_11 {E : En} {τ : Sg} {a X : Nat} (ht : (sT τ a).1 = 12) (ha : 1000 ≤ a) (hne : a ≠ sN τ) {n s m : Int32} : Ct E mX8_init 1 [.ref a, .ref X, .int n, .int s, .int m] (.returned none, rowI τ a X n s m) τ := by
  obtain ⟨N, Z, T, I, L, R⟩ := τ
  have ht1 : (up1 T N (102, 8) a).1 = 12 := by rw [up1_ne _ _ hne]; exact ht
  show V E mX8_init 1 _ 0 [some (.ref a), some (.ref X), some (.int n), some (.int s), some (.int m)] [] (N, Z, T, I, L, R)
  refine V.ald0 dX8_init_0 (V.ald1 dX8_init_1 (pX8_3_11 (σ := (N, Z, T, I, L, R)) rfl rfl ht ha dX8_init_2 ?_))
  show V E mX8_init 1 _ 5 [some (.ref a), some (.ref X), some (.int n), some (.int s), some (.int m)] [] (N, Z, T, I, L, up2 R a 4 (some X))
  refine V.ald0 dX8_init_5 (V.oinit q830 dX8_init_6 (V.ald0 dX8_init_9 (V.bipush (v := 8) dX8_init_10 (by decide) (V.newB (n := 8) rfl (by decide) dX8_init_12 ?_))))
  show V E mX8_init 1 _ 14 [some (.ref a), some (.ref X), some (.int n), some (.int s), some (.int m)] [.ref N, .ref a] (N + 1, Z + 8, up1 T N (102, 8), up1 I N (fun _ => 0), up1 L N (fun _ => 0), up1 (up2 R a 4 (some X)) N (fun _ => none))
  refine pX8_15_11 (σ := (N + 1, Z + 8, up1 T N (102, 8), up1 I N (fun _ => 0), up1 L N (fun _ => 0), up1 (up2 R a 4 (some X)) N (fun _ => none))) rfl rfl ht1 ha dX8_init_14 ?_
  show V E mX8_init 1 _ 17 [some (.ref a), some (.ref X), some (.int n), some (.int s), some (.int m)] [] (N + 1, Z + 8, up1 T N (102, 8), up1 I N (fun _ => 0), up1 L N (fun _ => 0), up2 (up1 (up2 R a 4 (some X)) N (fun _ => none)) a 3 (some N))
  refine V.ald0 dX8_init_17 (V.ild2 dX8_init_18 (pX8_19_11 (σ := (N + 1, Z + 8, up1 T N (102, 8), up1 I N (fun _ => 0), up1 L N (fun _ => 0), up2 (up1 (up2 R a 4 (some X)) N (fun _ => none)) a 3 (some N))) rfl rfl ht1 ha dX8_init_19 ?_))
  show V E mX8_init 1 _ 22 [some (.ref a), some (.ref X), some (.int n), some (.int s), some (.int m)] [] (N + 1, Z + 8, up1 T N (102, 8), up2 (up1 I N (fun _ => 0)) a 0 n, up1 L N (fun _ => 0), up2 (up1 (up2 R a 4 (some X)) N (fun _ => none)) a 3 (some N))
  refine V.ald0 dX8_init_22 (V.ild3 dX8_init_23 (pX8_23_11 (σ := (N + 1, Z + 8, up1 T N (102, 8), up2 (up1 I N (fun _ => 0)) a 0 n, up1 L N (fun _ => 0), up2 (up1 (up2 R a 4 (some X)) N (fun _ => none)) a 3 (some N))) rfl rfl ht1 ha dX8_init_24 ?_))
  show V E mX8_init 1 _ 27 [some (.ref a), some (.ref X), some (.int n), some (.int s), some (.int m)] [] (N + 1, Z + 8, up1 T N (102, 8), up2 (up2 (up1 I N (fun _ => 0)) a 0 n) a 1 s, up1 L N (fun _ => 0), up2 (up1 (up2 R a 4 (some X)) N (fun _ => none)) a 3 (some N))
  refine V.ald0 dX8_init_27 (V.ild4 dX8_init_28 (pX8_26_11 (σ := (N + 1, Z + 8, up1 T N (102, 8), up2 (up2 (up1 I N (fun _ => 0)) a 0 n) a 1 s, up1 L N (fun _ => 0), up2 (up1 (up2 R a 4 (some X)) N (fun _ => none)) a 3 (some N))) rfl rfl ht1 ha dX8_init_30 ?_))
  show V E mX8_init 1 _ 33 [some (.ref a), some (.ref X), some (.int n), some (.int s), some (.int m)] [] (N + 1, Z + 8, up1 T N (102, 8), up2 (up2 (up2 (up1 I N (fun _ => 0)) a 0 n) a 1 s) a 2 m, up1 L N (fun _ => 0), up2 (up1 (up2 R a 4 (some X)) N (fun _ => none)) a 3 (some N))
  exact V.vret dX8_init_33 rfl rfl
theorem c_X8_init_12 {E : En} {τ : Sg} {a X : Nat} (ht : (sT τ a).1 = 13) (ha : 1000 ≤ a) (hne : a ≠ sN τ) {n s m : Int32} : Ct E mX8_init 1 [.ref a, .ref X, .int n, .int s, .int m] (.returned none, rowI τ a X n s m) τ := by
  obtain ⟨N, Z, T, I, L, R⟩ := τ
  have ht1 : (up1 T N (102, 8) a).1 = 13 := by rw [up1_ne _ _ hne]; exact ht
  show V E mX8_init 1 _ 0 [some (.ref a), some (.ref X), some (.int n), some (.int s), some (.int m)] [] (N, Z, T, I, L, R)
  refine V.ald0 dX8_init_0 (V.ald1 dX8_init_1 (pX8_3_12 (σ := (N, Z, T, I, L, R)) rfl rfl ht ha dX8_init_2 ?_))
  show V E mX8_init 1 _ 5 [some (.ref a), some (.ref X), some (.int n), some (.int s), some (.int m)] [] (N, Z, T, I, L, up2 R a 4 (some X))
  refine V.ald0 dX8_init_5 (V.oinit q830 dX8_init_6 (V.ald0 dX8_init_9 (V.bipush (v := 8) dX8_init_10 (by decide) (V.newB (n := 8) rfl (by decide) dX8_init_12 ?_))))
  show V E mX8_init 1 _ 14 [some (.ref a), some (.ref X), some (.int n), some (.int s), some (.int m)] [.ref N, .ref a] (N + 1, Z + 8, up1 T N (102, 8), up1 I N (fun _ => 0), up1 L N (fun _ => 0), up1 (up2 R a 4 (some X)) N (fun _ => none))
  refine pX8_15_12 (σ := (N + 1, Z + 8, up1 T N (102, 8), up1 I N (fun _ => 0), up1 L N (fun _ => 0), up1 (up2 R a 4 (some X)) N (fun _ => none))) rfl rfl ht1 ha dX8_init_14 ?_
  show V E mX8_init 1 _ 17 [some (.ref a), some (.ref X), some (.int n), some (.int s), some (.int m)] [] (N + 1, Z + 8, up1 T N (102, 8), up1 I N (fun _ => 0), up1 L N (fun _ => 0), up2 (up1 (up2 R a 4 (some X)) N (fun _ => none)) a 3 (some N))
  refine V.ald0 dX8_init_17 (V.ild2 dX8_init_18 (pX8_19_12 (σ := (N + 1, Z + 8, up1 T N (102, 8), up1 I N (fun _ => 0), up1 L N (fun _ => 0), up2 (up1 (up2 R a 4 (some X)) N (fun _ => none)) a 3 (some N))) rfl rfl ht1 ha dX8_init_19 ?_))
  show V E mX8_init 1 _ 22 [some (.ref a), some (.ref X), some (.int n), some (.int s), some (.int m)] [] (N + 1, Z + 8, up1 T N (102, 8), up2 (up1 I N (fun _ => 0)) a 0 n, up1 L N (fun _ => 0), up2 (up1 (up2 R a 4 (some X)) N (fun _ => none)) a 3 (some N))
  refine V.ald0 dX8_init_22 (V.ild3 dX8_init_23 (pX8_23_12 (σ := (N + 1, Z + 8, up1 T N (102, 8), up2 (up1 I N (fun _ => 0)) a 0 n, up1 L N (fun _ => 0), up2 (up1 (up2 R a 4 (some X)) N (fun _ => none)) a 3 (some N))) rfl rfl ht1 ha dX8_init_24 ?_))
  show V E mX8_init 1 _ 27 [some (.ref a), some (.ref X), some (.int n), some (.int s), some (.int m)] [] (N + 1, Z + 8, up1 T N (102, 8), up2 (up2 (up1 I N (fun _ => 0)) a 0 n) a 1 s, up1 L N (fun _ => 0), up2 (up1 (up2 R a 4 (some X)) N (fun _ => none)) a 3 (some N))
  refine V.ald0 dX8_init_27 (V.ild4 dX8_init_28 (pX8_26_12 (σ := (N + 1, Z + 8, up1 T N (102, 8), up2 (up2 (up1 I N (fun _ => 0)) a 0 n) a 1 s, up1 L N (fun _ => 0), up2 (up1 (up2 R a 4 (some X)) N (fun _ => none)) a 3 (some N))) rfl rfl ht1 ha dX8_init_30 ?_))
  show V E mX8_init 1 _ 33 [some (.ref a), some (.ref X), some (.int n), some (.int s), some (.int m)] [] (N + 1, Z + 8, up1 T N (102, 8), up2 (up2 (up2 (up1 I N (fun _ => 0)) a 0 n) a 1 s) a 2 m, up1 L N (fun _ => 0), up2 (up1 (up2 R a 4 (some X)) N (fun _ => none)) a 3 (some N))
  exact V.vret dX8_init_33 rfl rfl
theorem c_X8_init_13 {E : En} {τ : Sg} {a X : Nat} (ht : (sT τ a).1 = 14) (ha : 1000 ≤ a) (hne : a ≠ sN τ) {n s m : Int32} : Ct E mX8_init 1 [.ref a, .ref X, .int n, .int s, .int m] (.returned none, rowI τ a X n s m) τ := by
  obtain ⟨N, Z, T, I, L, R⟩ := τ
  have ht1 : (up1 T N (102, 8) a).1 = 14 := by rw [up1_ne _ _ hne]; exact ht
  show V E mX8_init 1 _ 0 [some (.ref a), some (.ref X), some (.int n), some (.int s), some (.int m)] [] (N, Z, T, I, L, R)
  refine V.ald0 dX8_init_0 (V.ald1 dX8_init_1 (pX8_3_13 (σ := (N, Z, T, I, L, R)) rfl rfl ht ha dX8_init_2 ?_))
  show V E mX8_init 1 _ 5 [some (.ref a), some (.ref X), some (.int n), some (.int s), some (.int m)] [] (N, Z, T, I, L, up2 R a 4 (some X))
  refine V.ald0 dX8_init_5 (V.oinit q830 dX8_init_6 (V.ald0 dX8_init_9 (V.bipush (v := 8) dX8_init_10 (by decide) (V.newB (n := 8) rfl (by decide) dX8_init_12 ?_))))
  show V E mX8_init 1 _ 14 [some (.ref a), some (.ref X), some (.int n), some (.int s), some (.int m)] [.ref N, .ref a] (N + 1, Z + 8, up1 T N (102, 8), up1 I N (fun _ => 0), up1 L N (fun _ => 0), up1 (up2 R a 4 (some X)) N (fun _ => none))
  refine pX8_15_13 (σ := (N + 1, Z + 8, up1 T N (102, 8), up1 I N (fun _ => 0), up1 L N (fun _ => 0), up1 (up2 R a 4 (some X)) N (fun _ => none))) rfl rfl ht1 ha dX8_init_14 ?_
  show V E mX8_init 1 _ 17 [some (.ref a), some (.ref X), some (.int n), some (.int s), some (.int m)] [] (N + 1, Z + 8, up1 T N (102, 8), up1 I N (fun _ => 0), up1 L N (fun _ => 0), up2 (up1 (up2 R a 4 (some X)) N (fun _ => none)) a 3 (some N))
  refine V.ald0 dX8_init_17 (V.ild2 dX8_init_18 (pX8_19_13 (σ := (N + 1, Z + 8, up1 T N (102, 8), up1 I N (fun _ => 0), up1 L N (fun _ => 0), up2 (up1 (up2 R a 4 (some X)) N (fun _ => none)) a 3 (some N))) rfl rfl ht1 ha dX8_init_19 ?_))
  show V E mX8_init 1 _ 22 [some (.ref a), some (.ref X), some (.int n), some (.int s), some (.int m)] [] (N + 1, Z + 8, up1 T N (102, 8), up2 (up1 I N (fun _ => 0)) a 0 n, up1 L N (fun _ => 0), up2 (up1 (up2 R a 4 (some X)) N (fun _ => none)) a 3 (some N))
  refine V.ald0 dX8_init_22 (V.ild3 dX8_init_23 (pX8_23_13 (σ := (N + 1, Z + 8, up1 T N (102, 8), up2 (up1 I N (fun _ => 0)) a 0 n, up1 L N (fun _ => 0), up2 (up1 (up2 R a 4 (some X)) N (fun _ => none)) a 3 (some N))) rfl rfl ht1 ha dX8_init_24 ?_))
  show V E mX8_init 1 _ 27 [some (.ref a), some (.ref X), some (.int n), some (.int s), some (.int m)] [] (N + 1, Z + 8, up1 T N (102, 8), up2 (up2 (up1 I N (fun _ => 0)) a 0 n) a 1 s, up1 L N (fun _ => 0), up2 (up1 (up2 R a 4 (some X)) N (fun _ => none)) a 3 (some N))
  refine V.ald0 dX8_init_27 (V.ild4 dX8_init_28 (pX8_26_13 (σ := (N + 1, Z + 8, up1 T N (102, 8), up2 (up2 (up1 I N (fun _ => 0)) a 0 n) a 1 s, up1 L N (fun _ => 0), up2 (up1 (up2 R a 4 (some X)) N (fun _ => none)) a 3 (some N))) rfl rfl ht1 ha dX8_init_30 ?_))
  show V E mX8_init 1 _ 33 [some (.ref a), some (.ref X), some (.int n), some (.int s), some (.int m)] [] (N + 1, Z + 8, up1 T N (102, 8), up2 (up2 (up2 (up1 I N (fun _ => 0)) a 0 n) a 1 s) a 2 m, up1 L N (fun _ => 0), up2 (up1 (up2 R a 4 (some X)) N (fun _ => none)) a 3 (some N))
  exact V.vret dX8_init_33 rfl rfl
theorem c_X9_init_9 {E : En} {τ : Sg} {a X : Nat} (ht : (sT τ a).1 = 10) (ha : 1000 ≤ a) (hne : a ≠ sN τ) {n s m : Int32} : Ct E mX9_init 2 [.ref a, .ref X, .int n, .int s, .int m] (.returned none, rowI (pR τ a 5 (some X)) a X n s m) τ := by
  show V E mX9_init 2 _ 0 [some (.ref a), some (.ref X), some (.int n), some (.int s), some (.int m)] [] τ
  exact V.ald0 dX9_init_0 (V.ald1 dX9_init_1 (pX9_1_9 rfl rfl ht ha dX9_init_2 (V.ald0 dX9_init_5 (V.ald1 dX9_init_6 (V.ild2 dX9_init_7 (V.ild3 dX9_init_8 (V.ild4 dX9_init_9 (V.invI4v iX9_7 dX9_init_11 (c_X8_init_9 (τ := pR τ a 5 (some X)) ht ha hne) (V.vret dX9_init_14 rfl rfl)))))))))
theorem c_X9_init_11 {E : En} {τ : Sg} {a X : Nat} (ht : (sT τ a).1 = 12) (ha : 1000 ≤ a) (hne : a ≠ sN τ) {n s m : Int32} : Ct E mX9_init 2 [.ref a, .ref X, .int n, .int s, .int m] (.returned none, rowI (pR τ a 5 (some X)) a X n s m) τ := by
  show V E mX9_init 2 _ 0 [some (.ref a), some (.ref X), some (.int n), some (.int s), some (.int m)] [] τ
  exact V.ald0 dX9_init_0 (V.ald1 dX9_init_1 (pX9_1_11 rfl rfl ht ha dX9_init_2 (V.ald0 dX9_init_5 (V.ald1 dX9_init_6 (V.ild2 dX9_init_7 (V.ild3 dX9_init_8 (V.ild4 dX9_init_9 (V.invI4v iX9_7 dX9_init_11 (c_X8_init_11 (τ := pR τ a 5 (some X)) ht ha hne) (V.vret dX9_init_14 rfl rfl)))))))))
theorem c_X10_init_10 {E : En} {τ : Sg} {a X : Nat} (ht : (sT τ a).1 = 11) (ha : 1000 ≤ a) (hne : a ≠ sN τ) {n s m : Int32} : Ct E mX10_init 2 [.ref a, .ref X, .int n, .int s, .int m] (.returned none, rowI (pR τ a 5 (some X)) a X n s m) τ := by
  show V E mX10_init 2 _ 0 [some (.ref a), some (.ref X), some (.int n), some (.int s), some (.int m)] [] τ
  exact V.ald0 dX10_init_0 (V.ald1 dX10_init_1 (pX10_1_10 rfl rfl ht ha dX10_init_2 (V.ald0 dX10_init_5 (V.ald1 dX10_init_6 (V.ild2 dX10_init_7 (V.ild3 dX10_init_8 (V.ild4 dX10_init_9 (V.invI4v iX10_7 dX10_init_11 (c_X8_init_10 (τ := pR τ a 5 (some X)) ht ha hne) (V.vret dX10_init_14 rfl rfl)))))))))
theorem c_X10_init_12 {E : En} {τ : Sg} {a X : Nat} (ht : (sT τ a).1 = 13) (ha : 1000 ≤ a) (hne : a ≠ sN τ) {n s m : Int32} : Ct E mX10_init 2 [.ref a, .ref X, .int n, .int s, .int m] (.returned none, rowI (pR τ a 5 (some X)) a X n s m) τ := by
  show V E mX10_init 2 _ 0 [some (.ref a), some (.ref X), some (.int n), some (.int s), some (.int m)] [] τ
  exact V.ald0 dX10_init_0 (V.ald1 dX10_init_1 (pX10_1_12 rfl rfl ht ha dX10_init_2 (V.ald0 dX10_init_5 (V.ald1 dX10_init_6 (V.ild2 dX10_init_7 (V.ild3 dX10_init_8 (V.ild4 dX10_init_9 (V.invI4v iX10_7 dX10_init_11 (c_X8_init_12 (τ := pR τ a 5 (some X)) ht ha hne) (V.vret dX10_init_14 rfl rfl)))))))))
theorem c_X13_init_13 {E : En} {τ : Sg} {a X : Nat} (ht : (sT τ a).1 = 14) (ha : 1000 ≤ a) (hne : a ≠ sN τ) {n s m : Int32} : Ct E mX13_init 2 [.ref a, .ref X, .int n, .int s, .int m] (.returned none, rowI (pR τ a 5 (some X)) a X n s m) τ := by
  show V E mX13_init 2 _ 0 [some (.ref a), some (.ref X), some (.int n), some (.int s), some (.int m)] [] τ
  exact V.ald0 dX13_init_0 (V.ald1 dX13_init_1 (pX13_1 rfl rfl ht ha dX13_init_2 (V.ald0 dX13_init_5 (V.ald1 dX13_init_6 (V.ild2 dX13_init_7 (V.ild3 dX13_init_8 (V.ild4 dX13_init_9 (V.invI4v iX13_7 dX13_init_11 (c_X8_init_13 (τ := pR τ a 5 (some X)) ht ha hne) (V.vret dX13_init_14 rfl rfl)))))))))
theorem c_X11_init_11 {E : En} {τ : Sg} {a X : Nat} (ht : (sT τ a).1 = 12) (ha : 1000 ≤ a) (hne : a ≠ sN τ) {n s m : Int32} : Ct E mX11_init 3 [.ref a, .ref X, .int n, .int s, .int m] (.returned none, rowI (pR (pR τ a 6 (some X)) a 5 (some X)) a X n s m) τ := by
  show V E mX11_init 3 _ 0 [some (.ref a), some (.ref X), some (.int n), some (.int s), some (.int m)] [] τ
  exact V.ald0 dX11_init_0 (V.ald1 dX11_init_1 (pX11_1 rfl rfl ht ha dX11_init_2 (V.ald0 dX11_init_5 (V.ald1 dX11_init_6 (V.ild2 dX11_init_7 (V.ild3 dX11_init_8 (V.ild4 dX11_init_9 (V.invI4v iX11_7 dX11_init_11 (c_X9_init_11 (τ := pR τ a 6 (some X)) ht ha hne) (V.vret dX11_init_14 rfl rfl)))))))))
theorem c_X12_init_12 {E : En} {τ : Sg} {a X : Nat} (ht : (sT τ a).1 = 13) (ha : 1000 ≤ a) (hne : a ≠ sN τ) {n s m : Int32} : Ct E mX12_init 3 [.ref a, .ref X, .int n, .int s, .int m] (.returned none, rowI (pR (pR τ a 6 (some X)) a 5 (some X)) a X n s m) τ := by
  show V E mX12_init 3 _ 0 [some (.ref a), some (.ref X), some (.int n), some (.int s), some (.int m)] [] τ
  exact V.ald0 dX12_init_0 (V.ald1 dX12_init_1 (pX12_1 rfl rfl ht ha dX12_init_2 (V.ald0 dX12_init_5 (V.ald1 dX12_init_6 (V.ild2 dX12_init_7 (V.ild3 dX12_init_8 (V.ild4 dX12_init_9 (V.invI4v iX12_7 dX12_init_11 (c_X10_init_12 (τ := pR τ a 6 (some X)) ht ha hne) (V.vret dX12_init_14 rfl rfl)))))))))
/-- a row has been made: what is known of the heap -/
def MDp (σ : Sg) (X k : Nat) (n s m : Int32) : Sg → Prop := fun σ' => FG σ σ' 2 15 ∧ sN σ' = sN σ + 2 ∧ (sT σ' (sN σ)).1 = 9 + k ∧ sT σ' (sN σ + 1) = (102, 8) ∧ (sI σ' (sN σ) 0 = n ∧ sI σ' (sN σ) 1 = s ∧ sI σ' (sN σ) 2 = m) ∧ (∀ j, sI σ' (sN σ + 1) j = 0) ∧ sR σ' (sN σ) 3 = some (sN σ + 1) ∧ ∀ f, 4 ≤ f → f < 7 → sR σ' (sN σ) f = some X
theorem FG.rowI {σ τ : Sg} {b c a X : Nat} {n s m : Int32} (h : FG σ τ b c) (h0 : (sT σ a).1 = 0) : FG σ (rowI τ a X n s m) (b + 1) (c + 8) := by
  have hF := h.tr (FG.n (t := (102, 8)) (k := 8) h.2.2.1)
  refine ⟨hF.1, hF.2.1, hF.2.2.1, fun x hx => ?_⟩
  have hne : x ≠ a := fun z => hx (by rw [z]; exact h0)
  obtain ⟨q1, q2, q3, q4⟩ := hF.2.2.2 x hx
  refine ⟨q1, ?_, ?_, q4⟩
  · rw [← q2]
    funext j
    show up2 (up1 (up2 (sR τ) a 4 (some X)) (sN τ) (fun _ => none)) a 3 (some (sN τ)) x j = up1 (sR τ) (sN τ) (fun _ => none) x j
    rw [up2_ne _ _ (fun z => hne z.1)]
    unfold up1
    by_cases e : x = sN τ
    · rw [if_pos e, if_pos e]
    · rw [if_neg e, if_neg e, up2_ne _ _ (fun z => hne z.1)]
  · rw [← q3]
    show up2 (up2 (up2 (up1 (sI τ) (sN τ) (fun _ => 0)) a 0 n) a 1 s) a 2 m x = _
    rw [up2_at _ _ hne, up2_at _ _ hne, up2_at _ _ hne]
theorem md_ok {σ τ : Sg} (hC : CLN σ) {X k wk : Nat} {n s m : Int32} (hk : k < 6) (hw : wk ≤ 7) (hN : sN τ = sN σ + 1) (hS : sS τ = sS σ + wk) (hT : sT τ = up1 (sT σ) (sN σ) (9 + k, 0)) (hI : sI τ = up1 (sI σ) (sN σ) (fun _ => 0)) (hL : sL τ = up1 (sL σ) (sN σ) (fun _ => 0)) (hR : ∀ x, x ≠ sN σ → sR τ x = sR σ x) (hX : ∀ f, 5 ≤ f → f < 7 → sR τ (sN σ) f = some X) : MDp σ X k n s m (rowI τ (sN σ) X n s m) := by
  have hz := hC (sN σ) (Nat.le_refl _)
  have F : FG σ τ 1 wk := by
    refine ⟨⟨by omega, by omega⟩, ⟨by omega, by omega⟩, ?_, fun x hx => ?_⟩
    · intro x hx
      rw [hT, up1_ne _ _ (by omega)]
      exact hC x (by omega)
    · have hne : x ≠ sN σ := fun z => hx (by rw [z]; exact hz)
      exact ⟨by rw [hT, up1_ne _ _ hne], hR x hne, by rw [hI, up1_ne _ _ hne], by rw [hL, up1_ne _ _ hne]⟩
  have F2 := (F.rowI (a := sN σ) (X := X) (n := n) (s := s) (m := m) hz).le (show 1 + 1 ≤ 2 by omega) (show wk + 8 ≤ 15 by omega)
  refine ⟨F2, by show sN τ + 1 = _; omega, ?_, ?_, ⟨?_, ?_, up2_eq _ _ _ _⟩, fun j => ?_, ?_, fun f h4 h7 => ?_⟩
  · show (up1 (sT τ) (sN τ) (102, 8) (sN σ)).1 = 9 + k
    rw [up1_ne _ _ (by omega), hT, up1_eq]
  · show up1 (sT τ) (sN τ) (102, 8) (sN σ + 1) = _
    rw [← hN, up1_eq]
  · show up2 (up2 (up2 (up1 (sI τ) (sN τ) (fun _ => 0)) (sN σ) 0 n) (sN σ) 1 s) (sN σ) 2 m (sN σ) 0 = n
    rw [up2_ne _ _ (by simp), up2_ne _ _ (by simp), up2_eq]
  · show up2 (up2 (up2 (up1 (sI τ) (sN τ) (fun _ => 0)) (sN σ) 0 n) (sN σ) 1 s) (sN σ) 2 m (sN σ) 1 = s
    rw [up2_ne _ _ (by simp), up2_eq]
  · show up2 (up2 (up2 (up1 (sI τ) (sN τ) (fun _ => 0)) (sN σ) 0 n) (sN σ) 1 s) (sN σ) 2 m (sN σ + 1) j = 0
    rw [up2_ne _ _ (by omega), up2_ne _ _ (by omega), up2_ne _ _ (by omega), ← hN, up1_eq]
  · show up2 (up1 (up2 (sR τ) (sN σ) 4 (some X)) (sN τ) (fun _ => none)) (sN σ) 3 (some (sN τ)) (sN σ) 3 = _
    rw [up2_eq, hN]
  · show up2 (up1 (up2 (sR τ) (sN σ) 4 (some X)) (sN τ) (fun _ => none)) (sN σ) 3 (some (sN τ)) (sN σ) f = _
    rw [up2_ne _ _ (by omega), up1_ne _ _ (by omega)]
    by_cases e : f = 4
    · rw [e, up2_eq]
    · rw [up2_ne _ _ (fun z => e z.2)]; exact hX f (by omega) h7
theorem c_X0_made {E : En} {σ : Sg} (hC : CLN σ) (h1 : 1000 ≤ sN σ) {X k : Nat} (hk : k < 6) {n s m : Int32} : CtE E mX0_made 4 [.ref X, .int n, .int (nI k), .int s, .int m] (PR (.ref (sN σ)) (MDp σ X k n s m)) σ := by
  show VE E mX0_made 4 _ 0 [some (.ref X), some (.int n), some (.int (nI k)), some (.int s), some (.int m)] [] σ
  refine VE.step (fun _ h => V.ild2 dX0_made_0 h) ?_
  rcases (show k = 0 ∨ k = 1 ∨ k = 2 ∨ k = 3 ∨ k = 4 ∨ k = 5 by omega) with rfl | rfl | rfl | rfl | rfl | rfl
  · refine VE.step (fun _ h => V.tableIn (off := 35) (tgt := 36) dX0_made_1 (by decide) (by decide) (by decide) (by decide) (nX0_122 rfl dX0_made_36 h)) ?_
    have ht0 : (sT (nW σ (9, 0) 5) (sN σ)).1 = 9 := by rw [nX_t]
    refine VE.step (fun _ h => V.ghR (σ := (nW σ (9, 0) 5)) (a := sN σ) (c := 8) (k := 5) (o := some X) ht0 (by decide) rfl (by decide) h) ?_
    refine VE.step (fun _ h => V.ghR (σ := (pR (nW σ (9, 0) 5) (sN σ) 5 (some X))) (a := sN σ) (c := 8) (k := 6) (o := some X) ht0 (by decide) rfl (by decide) h) ?_
    refine VE.step (fun _ h => V.dup dX0_made_39 (V.ald0 dX0_made_40 (V.ild1 dX0_made_41 (V.ild3 dX0_made_42 (V.ild4 dX0_made_43 (V.invI4v iX0_124 dX0_made_45 (c_X8_init_8 (τ := (pR (pR (nW σ (9, 0) 5) (sN σ) 5 (some X)) (sN σ) 6 (some X))) (a := sN σ) ht0 h1 (by show sN σ ≠ sN σ + 1; omega)) h)))))) ?_
    refine VE.aret (o := some (sN σ)) dX0_made_48 rfl rfl ⟨rfl, md_ok (τ := (pR (pR (nW σ (9, 0) 5) (sN σ) 5 (some X)) (sN σ) 6 (some X))) (wk := 5) hC (by decide) (by decide) rfl rfl rfl rfl rfl (fun x hx => ?_) (fun f h5 h7 => ?_)⟩
    · show up2 (up2 (up1 (sR σ) (sN σ) (fun _ => none)) (sN σ) 5 (some X)) (sN σ) 6 (some X) x = sR σ x
      rw [up2_at _ _ hx, up2_at _ _ hx, up1_ne _ _ hx]
    · show up2 (up2 (up1 (sR σ) (sN σ) (fun _ => none)) (sN σ) 5 (some X)) (sN σ) 6 (some X) (sN σ) f = some X
      rcases (show f = 5 ∨ f = 6 by omega) with rfl | rfl <;> simp [up2]
  · refine VE.step (fun _ h => V.tableIn (off := 48) (tgt := 49) dX0_made_1 (by decide) (by decide) (by decide) (by decide) (nX0_127 rfl dX0_made_49 h)) ?_
    have ht0 : (sT (nW σ (10, 0) 6) (sN σ)).1 = 10 := by rw [nX_t]
    refine VE.step (fun _ h => V.ghR (σ := (nW σ (10, 0) 6)) (a := sN σ) (c := 9) (k := 6) (o := some X) ht0 (by decide) rfl (by decide) h) ?_
    refine VE.step (fun _ h => V.dup dX0_made_52 (V.ald0 dX0_made_53 (V.ild1 dX0_made_54 (V.ild3 dX0_made_55 (V.ild4 dX0_made_56 (V.invI4v iX0_129 dX0_made_58 (c_X9_init_9 (τ := (pR (nW σ (10, 0) 6) (sN σ) 6 (some X))) (a := sN σ) ht0 h1 (by show sN σ ≠ sN σ + 1; omega)) h)))))) ?_
    refine VE.aret (o := some (sN σ)) dX0_made_61 rfl rfl ⟨rfl, md_ok (τ := (pR (pR (nW σ (10, 0) 6) (sN σ) 6 (some X)) (sN σ) 5 (some X))) (wk := 6) hC (by decide) (by decide) rfl rfl rfl rfl rfl (fun x hx => ?_) (fun f h5 h7 => ?_)⟩
    · show up2 (up2 (up1 (sR σ) (sN σ) (fun _ => none)) (sN σ) 6 (some X)) (sN σ) 5 (some X) x = sR σ x
      rw [up2_at _ _ hx, up2_at _ _ hx, up1_ne _ _ hx]
    · show up2 (up2 (up1 (sR σ) (sN σ) (fun _ => none)) (sN σ) 6 (some X)) (sN σ) 5 (some X) (sN σ) f = some X
      rcases (show f = 5 ∨ f = 6 by omega) with rfl | rfl <;> simp [up2]
  · refine VE.step (fun _ h => V.tableIn (off := 61) (tgt := 62) dX0_made_1 (by decide) (by decide) (by decide) (by decide) (nX0_130 rfl dX0_made_62 h)) ?_
    have ht0 : (sT (nW σ (11, 0) 6) (sN σ)).1 = 11 := by rw [nX_t]
    refine VE.step (fun _ h => V.ghR (σ := (nW σ (11, 0) 6)) (a := sN σ) (c := 10) (k := 6) (o := some X) ht0 (by decide) rfl (by decide) h) ?_
    refine VE.step (fun _ h => V.dup dX0_made_65 (V.ald0 dX0_made_66 (V.ild1 dX0_made_67 (V.ild3 dX0_made_68 (V.ild4 dX0_made_69 (V.invI4v iX0_132 dX0_made_71 (c_X10_init_10 (τ := (pR (nW σ (11, 0) 6) (sN σ) 6 (some X))) (a := sN σ) ht0 h1 (by show sN σ ≠ sN σ + 1; omega)) h)))))) ?_
    refine VE.aret (o := some (sN σ)) dX0_made_74 rfl rfl ⟨rfl, md_ok (τ := (pR (pR (nW σ (11, 0) 6) (sN σ) 6 (some X)) (sN σ) 5 (some X))) (wk := 6) hC (by decide) (by decide) rfl rfl rfl rfl rfl (fun x hx => ?_) (fun f h5 h7 => ?_)⟩
    · show up2 (up2 (up1 (sR σ) (sN σ) (fun _ => none)) (sN σ) 6 (some X)) (sN σ) 5 (some X) x = sR σ x
      rw [up2_at _ _ hx, up2_at _ _ hx, up1_ne _ _ hx]
    · show up2 (up2 (up1 (sR σ) (sN σ) (fun _ => none)) (sN σ) 6 (some X)) (sN σ) 5 (some X) (sN σ) f = some X
      rcases (show f = 5 ∨ f = 6 by omega) with rfl | rfl <;> simp [up2]
  · refine VE.step (fun _ h => V.tableIn (off := 74) (tgt := 75) dX0_made_1 (by decide) (by decide) (by decide) (by decide) (nX0_133 rfl dX0_made_75 h)) ?_
    have ht0 : (sT (nW σ (12, 0) 7) (sN σ)).1 = 12 := by rw [nX_t]
    refine VE.step (fun _ h => V.dup dX0_made_78 (V.ald0 dX0_made_79 (V.ild1 dX0_made_80 (V.ild3 dX0_made_81 (V.ild4 dX0_made_82 (V.invI4v iX0_135 dX0_made_84 (c_X11_init_11 (τ := (nW σ (12, 0) 7)) (a := sN σ) ht0 h1 (by show sN σ ≠ sN σ + 1; omega)) h)))))) ?_
    refine VE.aret (o := some (sN σ)) dX0_made_87 rfl rfl ⟨rfl, md_ok (τ := (pR (pR (nW σ (12, 0) 7) (sN σ) 6 (some X)) (sN σ) 5 (some X))) (wk := 7) hC (by decide) (by decide) rfl rfl rfl rfl rfl (fun x hx => ?_) (fun f h5 h7 => ?_)⟩
    · show up2 (up2 (up1 (sR σ) (sN σ) (fun _ => none)) (sN σ) 6 (some X)) (sN σ) 5 (some X) x = sR σ x
      rw [up2_at _ _ hx, up2_at _ _ hx, up1_ne _ _ hx]
    · show up2 (up2 (up1 (sR σ) (sN σ) (fun _ => none)) (sN σ) 6 (some X)) (sN σ) 5 (some X) (sN σ) f = some X
      rcases (show f = 5 ∨ f = 6 by omega) with rfl | rfl <;> simp [up2]
  · refine VE.step (fun _ h => V.tableIn (off := 87) (tgt := 88) dX0_made_1 (by decide) (by decide) (by decide) (by decide) (nX0_136 rfl dX0_made_88 h)) ?_
    have ht0 : (sT (nW σ (13, 0) 7) (sN σ)).1 = 13 := by rw [nX_t]
    refine VE.step (fun _ h => V.dup dX0_made_91 (V.ald0 dX0_made_92 (V.ild1 dX0_made_93 (V.ild3 dX0_made_94 (V.ild4 dX0_made_95 (V.invI4v iX0_138 dX0_made_97 (c_X12_init_12 (τ := (nW σ (13, 0) 7)) (a := sN σ) ht0 h1 (by show sN σ ≠ sN σ + 1; omega)) h)))))) ?_
    refine VE.aret (o := some (sN σ)) dX0_made_100 rfl rfl ⟨rfl, md_ok (τ := (pR (pR (nW σ (13, 0) 7) (sN σ) 6 (some X)) (sN σ) 5 (some X))) (wk := 7) hC (by decide) (by decide) rfl rfl rfl rfl rfl (fun x hx => ?_) (fun f h5 h7 => ?_)⟩
    · show up2 (up2 (up1 (sR σ) (sN σ) (fun _ => none)) (sN σ) 6 (some X)) (sN σ) 5 (some X) x = sR σ x
      rw [up2_at _ _ hx, up2_at _ _ hx, up1_ne _ _ hx]
    · show up2 (up2 (up1 (sR σ) (sN σ) (fun _ => none)) (sN σ) 6 (some X)) (sN σ) 5 (some X) (sN σ) f = some X
      rcases (show f = 5 ∨ f = 6 by omega) with rfl | rfl <;> simp [up2]
  · refine VE.step (fun _ h => V.tableOut (tgt := 101) dX0_made_1 (by decide) (by decide) (nX0_139 rfl dX0_made_101 h)) ?_
    have ht0 : (sT (nW σ (14, 0) 6) (sN σ)).1 = 14 := by rw [nX_t]
    refine VE.step (fun _ h => V.ghR (σ := (nW σ (14, 0) 6)) (a := sN σ) (c := 13) (k := 6) (o := some X) ht0 (by decide) rfl (by decide) h) ?_
    refine VE.step (fun _ h => V.dup dX0_made_104 (V.ald0 dX0_made_105 (V.ild1 dX0_made_106 (V.ild3 dX0_made_107 (V.ild4 dX0_made_108 (V.invI4v iX0_141 dX0_made_110 (c_X13_init_13 (τ := (pR (nW σ (14, 0) 6) (sN σ) 6 (some X))) (a := sN σ) ht0 h1 (by show sN σ ≠ sN σ + 1; omega)) h)))))) ?_
    refine VE.aret (o := some (sN σ)) dX0_made_113 rfl rfl ⟨rfl, md_ok (τ := (pR (pR (nW σ (14, 0) 6) (sN σ) 6 (some X)) (sN σ) 5 (some X))) (wk := 6) hC (by decide) (by decide) rfl rfl rfl rfl rfl (fun x hx => ?_) (fun f h5 h7 => ?_)⟩
    · show up2 (up2 (up1 (sR σ) (sN σ) (fun _ => none)) (sN σ) 6 (some X)) (sN σ) 5 (some X) x = sR σ x
      rw [up2_at _ _ hx, up2_at _ _ hx, up1_ne _ _ hx]
    · show up2 (up2 (up1 (sR σ) (sN σ) (fun _ => none)) (sN σ) 6 (some X)) (sN σ) 5 (some X) (sN σ) f = some X
      rcases (show f = 5 ∨ f = 6 by omega) with rfl | rfl <;> simp [up2]
set_option maxRecDepth 100000
set_option maxHeartbeats 4000000
/-! ===== what stays true of the hall from call to call ===== -/
/-- what an image holds -/
def HK (u : Wv) : Prop := (∀ k, k < 4 → (∃ a, a ≤ 40 ∧ u 130 k = nI a) ∧ (∃ a, a ≤ 40 ∧ u 131 k = nI a) ∧ ∃ a, a ≤ 9 ∧ u 132 k = nI a) ∧ (∀ r, r < 6 → ∃ a, a ≤ 99 ∧ u 133 r = nI a) ∧ ∃ k, k < nT u ∧ u 100 28 = nI k
def HA (u : Wv) : Prop := HI u ∧ HE u ∧ HT u ∧ HS u ∧ HP u ∧ HB u ∧ HZ u ∧ HJ u ∧ HQ u ∧ u 100 23 = -1 ∧ HK u
theorem HA.I {u : Wv} (h : HA u) : HI u := h.1
theorem HA.E {u : Wv} (h : HA u) : HE u := h.2.1
theorem HA.T {u : Wv} (h : HA u) : HT u := h.2.2.1
theorem HA.S {u : Wv} (h : HA u) : HS u := h.2.2.2.1
theorem HA.P {u : Wv} (h : HA u) : HP u := h.2.2.2.2.1
theorem HA.B {u : Wv} (h : HA u) : HB u := h.2.2.2.2.2.1
theorem HA.Z {u : Wv} (h : HA u) : HZ u := h.2.2.2.2.2.2.1
theorem HA.J {u : Wv} (h : HA u) : HJ u := h.2.2.2.2.2.2.2.1
theorem HA.Q {u : Wv} (h : HA u) : HQ u := h.2.2.2.2.2.2.2.2.1
theorem HA.H {u : Wv} (h : HA u) : u 100 23 = -1 := h.2.2.2.2.2.2.2.2.2.1
theorem HA.K {u : Wv} (h : HA u) : HK u := h.2.2.2.2.2.2.2.2.2.2
theorem HA.ofcv {u : Wv} (h : HA (cv u)) : HA u := ⟨h.I, h.E, h.T, h.S, h.P, h.B, h.Z, h.J, h.Q, h.H, h.K⟩
theorem HA.vc {u : Wv} (h : HA u) : HA (cv u) := ⟨h.I, h.E, h.T, h.S, h.P, h.B, h.Z, h.J, h.Q, h.H, h.K⟩
theorem HA.cg {u v : Wv} (h : HA u) (e : cv v = cv u) : HA v := HA.ofcv (by rw [e]; exact h.vc)
/-- the codes stand as they were -/
def CDS (u u' : Wv) : Prop := u' 100 21 = u 100 21 ∧ u' 120 = u 120 ∧ u' 121 = u 121
theorem CDS.r (u : Wv) : CDS u u := ⟨rfl, rfl, rfl⟩
theorem inB_le {x : Int32} {n : Nat} {m : Int32} (hm : m = nI n) (hn : n < 2 ^ 29) (h : inB x 0 m = true) : ∃ a, a ≤ n ∧ x = nI a := by
  have e : m = nI (n + 1) - 1 := by rw [hm]; exact (nI_pred n).symm
  rw [e] at h
  obtain ⟨j, hj, rfl⟩ := (inB_n (n := n + 1) (by omega)).mp h
  exact ⟨j, by omega, rfl⟩
theorem HA.sort {u : Wv} (h : HA u) {k a v : Int32} : HA (sortW u k a v) ∧ CDS u (sortW u k a v) := by
  unfold sortW
  split
  · split
    · rename_i z
      obtain ⟨b, hb, rfl⟩ := inB_le (n := 40) rfl (by decide) z.2
      refine ⟨⟨h.I, ⟨fun q hq => ?_, h.E.2⟩, h.T, h.S, h.P, h.B, h.Z, h.J, h.Q, h.H, h.K⟩, CDS.r u⟩
      obtain ⟨e1, e2, e3⟩ := h.E.1 q hq
      refine ⟨?_, e2, e3⟩
      by_cases e : q = cl k
      · rw [e, up2_eq]; exact ⟨b, hb, rfl⟩
      · rw [up2_ne _ _ (fun y => e y.2)]; exact e1
    · split
      · rename_i z
        obtain ⟨b, hb, rfl⟩ := inB_le (n := 40) rfl (by decide) z.2
        refine ⟨⟨h.I, ⟨fun q hq => ?_, h.E.2⟩, h.T, h.S, h.P, h.B, h.Z, h.J, h.Q, h.H, h.K⟩, CDS.r u⟩
        obtain ⟨e1, e2, e3⟩ := h.E.1 q hq
        refine ⟨e1, ?_, e3⟩
        by_cases e : q = cl k
        · rw [e, up2_eq]; exact ⟨b, hb, rfl⟩
        · rw [up2_ne _ _ (fun y => e y.2)]; exact e2
      · split
        · rename_i z
          obtain ⟨b, hb, rfl⟩ := inB_le (n := 9) rfl (by decide) z.2
          refine ⟨⟨h.I, ⟨fun q hq => ?_, h.E.2⟩, h.T, h.S, h.P, h.B, h.Z, h.J, h.Q, h.H, h.K⟩, CDS.r u⟩
          obtain ⟨e1, e2, e3⟩ := h.E.1 q hq
          refine ⟨e1, e2, ?_⟩
          by_cases e : q = cl k
          · rw [e, up2_eq]; exact ⟨b, hb, rfl⟩
          · rw [up2_ne _ _ (fun y => e y.2)]; exact e3
        · exact ⟨h, CDS.r u⟩
  · exact ⟨h, CDS.r u⟩
theorem HA.set {u : Wv} (h : HA u) {r a v : Int32} : HA (setW u r a v) ∧ CDS u (setW u r a v) := by
  unfold setW
  split
  · rename_i hr
    obtain ⟨n3, n6⟩ := h.I.rows
    rw [n3] at hr
    obtain ⟨j, hj, rfl⟩ := (inB_n (by omega)).mp hr
    have e0 : cl (nI j) = j := cl_n (by omega)
    rw [e0]
    split
    · rename_i z
      obtain ⟨b, hb, rfl⟩ := inB_le (n := 99) rfl (by decide) z.2
      refine ⟨⟨h.I, h.E.up8 hb, h.T, h.S, h.P, h.B, ⟨fun q q1 q2 => ?_, h.Z.2⟩, h.J, h.Q, h.H, h.K⟩, CDS.r u⟩
      have q1' : nR u ≤ q := q1
      rw [up2_ne _ _ (fun y => by have := y.2; omega)]
      exact h.Z.1 q q1 q2
    · split
      · refine ⟨⟨h.I, h.E, h.T, h.S, h.P, h.B, ⟨fun q q1 q2 => ?_, h.Z.2⟩, h.J, h.Q, h.H, h.K⟩, CDS.r u⟩
        have q1' : nR u ≤ q := q1
        refine ⟨(h.Z.1 q q1 q2).1, ?_⟩
        rw [up2_ne _ _ (fun y => by have := y.2; omega)]
        exact (h.Z.1 q q1 q2).2
      · exact ⟨h, CDS.r u⟩
  · exact ⟨h, CDS.r u⟩
theorem HA.so {u : Wv} (h : HA u) {i k : Nat} (hi : i < 8 * nR u) (hk : k < 4) : HA (up2 u 110 i (nI k)) := by
  have n6 := h.I.rows.2
  refine ⟨⟨h.I.1, h.I.2.1, h.I.2.2.1, h.I.2.2.2.1, fun q hq => ?_⟩, h.E, h.T, h.S, h.P, h.B, ⟨h.Z.1, fun q q1 q2 => ?_⟩, h.J, h.Q, h.H, h.K⟩
  · by_cases e : q = i
    · rw [e, up2_eq]; exact ⟨k, hk, rfl⟩
    · rw [up2_ne _ _ (fun y => e y.2)]; exact h.I.2.2.2.2 q hq
  · have q1' : 8 * nR u ≤ q := q1
    refine ⟨?_, (h.Z.2 q q1 q2).2⟩
    rw [up2_ne _ _ (fun y => by have := y.2; omega)]
    exact (h.Z.2 q q1 q2).1
theorem HA.sit {u : Wv} (h : HA u) {r c k : Int32} : HA (sitW u r c k) ∧ CDS u (sitW u r c k) := by
  unfold sitW
  split
  · rename_i hs
    obtain ⟨i, j, hi, hi6, hj, hj8, rfl, rfl⟩ := seB_ix h.I hs
    have e1 : cl (nI i) = i := cl_n (by omega)
    have e2 : cl (nI j) = j := cl_n (by omega)
    rw [e1, e2]
    split
    · rename_i z
      obtain ⟨b, hb, rfl⟩ := inB_le (n := 3) rfl (by decide) z
      exact ⟨h.so (by omega) (by omega), CDS.r u⟩
    · exact ⟨h, CDS.r u⟩
  · exact ⟨h, CDS.r u⟩
theorem HA.point {u : Wv} (h : HA u) {x y v : Int32} : HA (pointW u x y v) ∧ CDS u (pointW u x y v) := by
  unfold pointW
  split
  · rename_i hp
    split
    · exact ⟨h, CDS.r u⟩
    · rename_i h6
      obtain ⟨n3, n6⟩ := h.I.points
      unfold ptOk at hp
      simp only [Bool.and_eq_true] at hp
      obtain ⟨b, hb, rfl⟩ := inB_le (n := 60) rfl (by decide) hp.1.2
      have hn : nP u < 6 := by
        apply Classical.byContradiction
        intro z
        exact h6 (by rw [n3, show nP u = 6 by omega]; rfl)
      rw [n3, nI_1]
      refine ⟨⟨⟨h.I.1, ⟨nP u + 1, by omega, rfl⟩, h.I.2.2.1, h.I.2.2.2.1, h.I.2.2.2.2⟩, h.E, h.T, h.S, h.P, h.B, h.Z, h.J, fun q hq => ?_, h.H, h.K⟩, CDS.r u⟩
      show ∃ a, a < 61 ∧ up2 u 113 (nP u) (nI b) 113 q = nI a
      by_cases e : q = nP u
      · rw [e, up2_eq]; exact ⟨b, by omega, rfl⟩
      · rw [up2_ne _ _ (fun y => e y.2)]; exact h.Q q hq
  · exact ⟨h, CDS.r u⟩
theorem HA.post {u : Wv} (h : HA u) {x v : Int32} : HA (postW u x v) ∧ CDS u (postW u x v) := by
  unfold postW
  split
  · split
    · exact ⟨h, CDS.r u⟩
    · rename_i h6
      obtain ⟨n3, n6⟩ := h.I.posts
      have hn : nO u < 4 := by
        apply Classical.byContradiction
        intro z
        exact h6 (by rw [n3, show nO u = 4 by omega]; rfl)
      rw [n3, nI_1]
      exact ⟨⟨⟨h.I.1, h.I.2.1, ⟨nO u + 1, by omega, rfl⟩, h.I.2.2.2.1, h.I.2.2.2.2⟩, h.E, h.T, h.S, h.P, h.B, h.Z, h.J, h.Q, h.H, h.K⟩, CDS.r u⟩
  · exact ⟨h, CDS.r u⟩
theorem HA.moves {u : Wv} (h : HA u) {p x v : Int32} : HA (movesW u p x v) ∧ CDS u (movesW u p x v) := by
  unfold movesW
  split
  · split
    · exact ⟨⟨h.I, h.E, h.T, h.S, h.P, h.B, h.Z, h.J, h.Q, h.H, h.K⟩, CDS.r u⟩
    · exact ⟨h, CDS.r u⟩
  · exact ⟨h, CDS.r u⟩
theorem HA.force {u : Wv} (h : HA u) {t : Int32} : HA (forceW u t) ∧ CDS u (forceW u t) := by
  unfold forceW
  split
  · rename_i ht
    obtain ⟨⟨t1, t2, t3⟩, -, t4⟩ := h.T
    rw [t3] at ht
    obtain ⟨j, hj, rfl⟩ := (inB_n (by omega)).mp ht
    have e0 : ru (up2 u 100 22 (nI j)) = j := by
      show cl (up2 u 100 22 (nI j) 100 22) = j
      rw [up2_eq]; exact cl_n (by omega)
    refine ⟨⟨h.I, h.E, ⟨⟨t1, t2, t3⟩, ?_, t4⟩, h.S, h.P, h.B, h.Z, h.J, h.Q, h.H, h.K⟩, CDS.r u⟩
    rw [e0, up2_eq]
    exact ⟨hj, rfl⟩
  · exact ⟨h, CDS.r u⟩
theorem HA.sw {u : Wv} (h : HA u) {a b : Nat} (ha : a < 8 * nR u) (hb : b < 8 * nR u) : HA (swp u a b) ∧ CDS u (swp u a b) := by
  have n6 := h.I.rows.2
  refine ⟨⟨h.I.swp (by omega) (by omega), h.E.swp, h.T.swp, h.S, h.P, h.B, ⟨h.Z.1, fun q q1 q2 => ?_⟩, h.J, h.Q, h.H, h.K⟩, CDS.r u⟩
  have q1' : 8 * nR u ≤ q := q1
  refine ⟨?_, (h.Z.2 q q1 q2).2⟩
  rw [swp_at, if_neg (by omega), if_neg (by omega)]
  exact (h.Z.2 q q1 q2).1
theorem HA.setlL {r : Nat} : ∀ (m n : Nat) (u : Wv), HA u → r < nR u → HA (setl r n m u).2 ∧ CDS u (setl r n m u).2
  | 0, n, u, h, hr => ⟨h, CDS.r u⟩
  | m + 1, n, u, h, hr => by
    unfold setl
    split
    · exact ⟨h, CDS.r u⟩
    · rename_i hz
      have hS : nS u r ≤ 8 := (h.I.seats (r := r) (by have := h.I.rows.2; omega)).2
      obtain ⟨a, b, ha, hb, hab⟩ := (fnd_ok hS).resolve_left hz
      have e0 : cl (fnd u r).1 = 10 * a + b := by rw [hab]; exact cl_n (by omega)
      have e1 : cl (fnd u r).1 / 10 < 8 := by rw [e0]; omega
      have e2 : cl (fnd u r).1 % 10 < 8 := by rw [e0]; omega
      have h1 := h.sw (a := 8 * r + cl (fnd u r).1 / 10) (b := 8 * r + cl (fnd u r).1 % 10) (by omega) (by omega)
      have h2 := HA.setlL m (n + 1) _ h1.1 (show r < nR (swp u _ _) from hr)
      exact ⟨h2.1, h2.2.1.trans h1.2.1, h2.2.2.1.trans h1.2.2.1, h2.2.2.2.trans h1.2.2.2⟩
theorem HA.settle {u : Wv} (h : HA u) {r a : Int32} : HA (settleW u r a) ∧ CDS u (settleW u r a) := by
  unfold settleW
  split
  · rename_i hr
    obtain ⟨n3, n6⟩ := h.I.rows
    rw [n3] at hr
    obtain ⟨j, hj, rfl⟩ := (inB_n (by omega)).mp hr
    have e0 : cl (nI j) = j := cl_n (by omega)
    rw [e0]
    split
    · exact HA.setlL _ 0 u h hj
    · exact ⟨h, CDS.r u⟩
  · exact ⟨h, CDS.r u⟩
theorem HA.hat {u : Wv} (h : HA u) {r c v : Int32} : HA (hatW u r c v) ∧ CDS u (hatW u r c v) := by
  unfold hatW
  split
  · split
    · exact ⟨⟨h.I, h.E, h.T, h.S, h.P, h.B, h.Z, h.J, h.Q, rfl, h.K⟩, CDS.r u⟩
    · exact ⟨h, CDS.r u⟩
  · exact ⟨h, CDS.r u⟩
theorem HA.image {u : Wv} (h : HA u) : HA (imageW u) ∧ CDS u (imageW u) := by
  obtain ⟨n3, n6⟩ := h.I.rows
  obtain ⟨o3, o4⟩ := h.I.posts
  refine ⟨⟨h.I, h.E, h.T, h.S, h.P, ⟨nR u, n6, n3⟩, ⟨h.Z.1, fun q q1 q2 => ?_⟩, ⟨.inr rfl, fun _ => ⟨⟨nR u, Nat.le_refl _, n3⟩, ⟨nO u, o4, o3⟩⟩, fun j hj => ?_⟩, h.Q, h.H, ⟨fun k hk => ?_, fun r hr => ?_, ⟨ru u, h.T.2.1⟩⟩⟩, CDS.r u⟩
  · refine ⟨(h.Z.2 q q1 q2).1, ?_⟩
    show fA 135 48 (u 110) (img2 u 6) 135 q = 0
    rw [fA_at q2]; exact (h.Z.2 q q1 q2).1
  · show ∃ k, k < 4 ∧ fA 135 48 (u 110) (img2 u 6) 135 j = nI k
    rw [fA_at hj]; exact h.I.2.2.2.2 j hj
  · show (∃ a, a ≤ 40 ∧ fA 130 4 (u 101) u 130 k = nI a) ∧ (∃ a, a ≤ 40 ∧ fA 131 4 (u 102) u 131 k = nI a) ∧ ∃ a, a ≤ 9 ∧ fA 132 4 (u 103) u 132 k = nI a
    rw [fA_at hk, fA_at hk, fA_at hk]
    exact h.E.1 k hk
  · show ∃ a, a ≤ 99 ∧ fA 133 6 (u 108) u 133 r = nI a
    rw [fA_at hr]; exact (h.E.2 r hr).2
theorem HA.back {u : Wv} (h : HA u) : HA (backW u) ∧ CDS u (backW u) := by
  unfold backW
  split
  · exact ⟨h, CDS.r u⟩
  · rename_i h25
    obtain ⟨⟨b, hb, eb⟩, hq⟩ := h.J.2.1 (h.J.1.resolve_left h25)
    have n6 := h.I.rows.2
    have e0 : cl (u 100 26) = b := by rw [eb]; exact cl_n (by omega)
    rw [e0]
    obtain ⟨kk, hk1, hk2⟩ := h.K.2.2
    have t2 := h.T.1.2.1
    have er : ru (bk2 u b (8 * b)) = kk := by
      show cl (u 100 28) = kk
      rw [hk2]; exact cl_n (by omega)
    have I1 : HI (bk2 u b (8 * b)) := by
      refine ⟨h.I.1, h.I.2.1, h.I.2.2.1, h.I.2.2.2.1, fun q hq => ?_⟩
      show ∃ n, n < 4 ∧ fA 110 (8 * b) (u 135) u 110 q = nI n
      by_cases z : q < 8 * b
      · rw [fA_at z]; exact h.J.2.2 q hq
      · rw [fA_ge z]; exact h.I.2.2.2.2 q hq
    refine ⟨⟨I1, ⟨fun k hk => ?_, fun r hr => ⟨(h.E.2 r hr).1, ?_⟩⟩, ⟨h.T.1, ?_, h.T.2.2⟩, h.S, h.P, h.B, ⟨fun q q1 q2 => ?_, fun q q1 q2 => ?_⟩, h.J, h.Q, h.H, h.K⟩, CDS.r u⟩
    · show (∃ a, a ≤ 40 ∧ fA 101 4 (u 130) u 101 k = nI a) ∧ (∃ a, a ≤ 40 ∧ fA 102 4 (u 131) u 102 k = nI a) ∧ ∃ a, a ≤ 9 ∧ fA 103 4 (u 132) u 103 k = nI a
      rw [fA_at hk, fA_at hk, fA_at hk]
      exact h.K.1 k hk
    · show ∃ a, a ≤ 99 ∧ fA 108 b (u 133) u 108 r = nI a
      by_cases z : r < b
      · rw [fA_at z]; exact h.K.2.1 r hr
      · rw [fA_ge z]; exact (h.E.2 r hr).2
    · rw [er]; exact ⟨hk1, hk2⟩
    · have q1' : nR u ≤ q := q1
      show fA 108 b (u 133) u 108 q = 0 ∧ fA 109 b (u 134) u 109 q = 0
      rw [fA_ge (by omega), fA_ge (by omega)]
      exact h.Z.1 q q1 q2
    · have q1' : 8 * nR u ≤ q := q1
      refine ⟨?_, (h.Z.2 q q1 q2).2⟩
      show fA 110 (8 * b) (u 135) u 110 q = 0
      rw [fA_ge (by omega)]
      exact (h.Z.2 q q1 q2).1
theorem HA.sheet {u : Wv} (h : HA u) {s t n : Int32} : HA (sheetW u s t n) ∧ CDS u (sheetW u s t n) := by
  unfold sheetW
  split
  · rename_i hb
    split
    · exact ⟨h, CDS.r u⟩
    · rename_i hn
      unfold shtB at hb
      simp only [Bool.and_eq_true, Bool.or_eq_true, decide_eq_true_eq] at hb
      obtain ⟨⟨b1, b2⟩, b3⟩ := hb
      refine ⟨⟨h.I, h.E, h.T, fun q hq => ?_, h.P, h.B, h.Z, h.J, h.Q, h.H, h.K⟩, CDS.r u⟩
      show (∃ m, m ≤ 60 ∧ up2 u 139 (cl s) (if t = -1 then 0 else n) 139 q = nI m) ∧ inB (up2 u 138 (cl s) t 138 q) (-1) 2 = true
      by_cases e : q = cl s
      · rw [e, up2_eq, up2_eq]
        refine ⟨?_, b2⟩
        by_cases et : t = -1
        · rw [if_pos et]; exact ⟨0, by decide, rfl⟩
        · rw [if_neg et]
          have hn0 : 0 ≤ n := by
            apply Classical.byContradiction
            intro z
            exact hn (by unfold shtN; simp only [Bool.and_eq_true, decide_eq_true_eq]; exact ⟨et, z⟩)
          exact inB_le (n := 60) rfl (by decide) (by unfold inB; exact decide_eq_true ⟨hn0, b3.resolve_left et⟩)
      · rw [up2_ne _ _ (fun y => e y.2), up2_ne _ _ (fun y => e y.2)]
        exact h.S q hq
  · exact ⟨h, CDS.r u⟩
theorem HA.cell {u : Wv} (h : HA u) {s i x : Int32} : HA (cellW u s i x) ∧ CDS u (cellW u s i x) := by
  unfold cellW
  split
  · split
    · exact ⟨h, CDS.r u⟩
    · split
      · exact ⟨⟨h.I, h.E, h.T, h.S, h.P, h.B, h.Z, h.J, h.Q, h.H, h.K⟩, CDS.r u⟩
      · exact ⟨h, CDS.r u⟩
  · exact ⟨h, CDS.r u⟩
theorem HA.copy {u : Wv} (h : HA u) {s i o j k : Int32} : HA (copyW u u s i o j k) ∧ CDS u (copyW u u s i o j k) := by
  unfold copyW
  split
  · split
    · exact ⟨h, CDS.r u⟩
    · split
      · split
        · exact ⟨⟨h.I, h.E, h.T, h.S, h.P, h.B, h.Z, h.J, h.Q, h.H, h.K⟩, CDS.r u⟩
        · exact ⟨h, CDS.r u⟩
      · exact ⟨h, CDS.r u⟩
  · exact ⟨h, CDS.r u⟩
theorem HA.sitLL {s : Nat} {r : Int32} : ∀ (m c : Nat) (came : Int32) (u : Wv), HA u → HA (sitL s r c m came u).2 ∧ CDS u (sitL s r c m came u).2
  | 0, c, came, u, h => ⟨h, CDS.r u⟩
  | m + 1, c, came, u, h => by
    unfold sitL
    split
    · have h1 := h.sit (r := r) (c := nI c) (k := u 140 (60 * s + c))
      have h2 := HA.sitLL (s := s) (r := r) m (c + 1) (came + b2i (decide (¬ sitR u r (nI c) (u 140 (60 * s + c)) < 0))) _ h1.1
      exact ⟨h2.1, h2.2.1.trans h1.2.1, h2.2.2.1.trans h1.2.2.1, h2.2.2.2.trans h1.2.2.2⟩
    · exact ⟨h, CDS.r u⟩
theorem HA.sitters {u : Wv} (h : HA u) {s t r k : Int32} : HA (sittersW u s t r k) ∧ CDS u (sittersW u s t r k) := by
  unfold sittersW
  split
  · split
    · exact ⟨h, CDS.r u⟩
    · split
      · exact HA.sitLL _ 0 0 u h
      · exact ⟨h, CDS.r u⟩
  · exact ⟨h, CDS.r u⟩
theorem HA.feed {u : Wv} (h : HA u) {x : Int64} {k : Int32} : HA (feedW u u x k) ∧ CDS u (feedW u u x k) := by
  unfold feedW
  split
  · rename_i hk
    split
    · rename_i h160
      obtain ⟨n, hn, en⟩ := h.P
      have hk' : inB k 0 8 = true := by
        unfold inB at hk ⊢
        have := of_decide_eq_true hk
        exact decide_eq_true ⟨Int32.le_trans (by decide) this.1, this.2⟩
      obtain ⟨b, hb, rfl⟩ := inB_le (n := 8) rfl (by decide) hk'
      rw [en, nI_add] at h160
      have h9 : n + b ≤ 160 := (nI_leI (by omega) (by decide)).mp h160
      rw [en, show cl (nI n) = n from cl_n (by omega), show cl (nI b) = b from cl_n (by omega)]
      exact ⟨⟨h.I, h.E, h.T, h.S, ⟨n + b, h9, rfl⟩, h.B, h.Z, h.J, h.Q, h.H, h.K⟩, CDS.r u⟩
    · exact ⟨h, CDS.r u⟩
  · exact ⟨h, CDS.r u⟩
theorem HA.row {u : Wv} (h : HA u) {k st mr : Int32} : HA (rowW u k st mr) ∧ CDS u (rowW u k st mr) := by
  unfold rowW
  split
  · rename_i hr
    split
    · exact ⟨h, CDS.r u⟩
    · rename_i h6
      obtain ⟨n3, n6⟩ := h.I.rows
      have hn : nR u < 6 := by
        apply Classical.byContradiction
        intro z
        exact h6 (by rw [n3, show nR u = 6 by omega]; rfl)
      unfold rowOk at hr
      simp only [Bool.and_eq_true] at hr
      obtain ⟨⟨-, r2⟩, r3⟩ := hr
      obtain ⟨c, hc, rfl⟩ := inB_le (n := 20) rfl (by decide) r3
      have r2' : inB st 0 8 = true := by
        unfold inB at r2 ⊢
        have := of_decide_eq_true r2
        exact decide_eq_true ⟨Int32.le_trans (by decide) this.1, this.2⟩
      obtain ⟨b, hb, rfl⟩ := inB_le (n := 8) rfl (by decide) r2'
      rw [n3, nI_1]
      have en : nR (up2 (up2 (up2 (up2 u 105 (nR u) k) 106 (nR u) (nI b)) 107 (nR u) (nI c)) 100 3 (nI (nR u + 1))) = nR u + 1 := by
        show cl (nI (nR u + 1)) = _
        exact cl_n (by omega)
      refine ⟨⟨⟨⟨nR u + 1, by omega, rfl⟩, h.I.2.1, h.I.2.2.1, fun r hr => ?_, h.I.2.2.2.2⟩, ⟨h.E.1, fun r hr => ⟨?_, (h.E.2 r hr).2⟩⟩, h.T, h.S, h.P, h.B, ⟨fun q q1 q2 => ?_, fun q q1 q2 => ?_⟩, ⟨h.J.1, fun z => ⟨?_, (h.J.2.1 z).2⟩, h.J.2.2⟩, h.Q, h.H, h.K⟩, CDS.r u⟩
      · show ∃ n, n ≤ 8 ∧ up2 u 106 (nR u) (nI b) 106 r = nI n
        by_cases e : r = nR u
        · rw [e, up2_eq]; exact ⟨b, hb, rfl⟩
        · rw [up2_ne _ _ (fun y => e y.2)]; exact h.I.2.2.2.1 r hr
      · show ∃ n, n ≤ 20 ∧ up2 u 107 (nR u) (nI c) 107 r = nI n
        by_cases e : r = nR u
        · rw [e, up2_eq]; exact ⟨c, hc, rfl⟩
        · rw [up2_ne _ _ (fun y => e y.2)]; exact (h.E.2 r hr).1
      · rw [en] at q1
        exact h.Z.1 q (by omega) q2
      · rw [en] at q1
        exact h.Z.2 q (by omega) q2
      · obtain ⟨kk, k1, k2⟩ := (h.J.2.1 z).1
        refine ⟨kk, ?_, k2⟩
        rw [en]; omega
  · exact ⟨h, CDS.r u⟩

set_option maxRecDepth 100000
/-! ===== the ints of the world by names: w id j is slot j of the cell at address (A id), for the ids of a list; ids: 0 x, 1+k x's array of field k, 45 the list of rows, 50.. sheets, 54.. their cells, 60.. rows, 70.. their sitters, 100 m, 101+k m's array of field k ===== -/
abbrev Wv : Type := Nat → Nat → Int32
abbrev Ge : Type := (Nat → Nat) × List Nat
def vset (g : Ge) (h w : Wv) : Wv := fun b j => match g.2.find? (fun k => g.1 k == b) with
  | some k => w k j
  | none => h b j
abbrev S (g : Ge) (σ : Sg) (w : Wv) : Sg := wI σ (vset g (sI σ) w)
/-- the ids' addresses are apart, and new -/
def Gok (g : Ge) : Prop := (∀ k, k ∈ g.2 → ∀ l, l ∈ g.2 → g.1 k = g.1 l → k = l) ∧ ∀ k, k ∈ g.2 → 1000 ≤ g.1 k
theorem Gok.find {g : Ge} (h : Gok g) {k : Nat} (hk : k ∈ g.2) : g.2.find? (fun l => g.1 l == g.1 k) = some k := by
  cases hf : g.2.find? (fun l => g.1 l == g.1 k) with
  | none =>
    have := List.find?_eq_none.mp hf k hk
    simp at this
  | some l =>
    have h1 := List.mem_of_find?_eq_some hf
    have h2 := List.find?_some hf
    simp only [beq_iff_eq] at h2
    rw [h.1 l h1 k hk h2]
theorem vset_at {g : Ge} (hg : Gok g) {h w : Wv} {k : Nat} (hk : k ∈ g.2) : vset g h w (g.1 k) = w k := by
  funext j
  simp only [vset, hg.find hk]
theorem vset_put {g : Ge} (hg : Gok g) {h w : Wv} {k j : Nat} {v : Int32} (hk : k ∈ g.2) : up2 (vset g h w) (g.1 k) j v = vset g h (up2 w k j v) := by
  funext b i
  by_cases hb : b = g.1 k
  · subst hb
    rw [vset_at hg hk]
    by_cases hi : i = j
    · subst hi; rw [up2_eq, up2_eq]
    · rw [up2_ne _ _ (fun z => hi z.2), up2_ne _ _ (fun z => hi z.2), vset_at hg hk]
  · rw [up2_ne _ _ (fun z => hb z.1)]
    simp only [vset]
    cases hf : g.2.find? (fun l => g.1 l == b) with
    | none => rfl
    | some l =>
      have h2 := List.find?_some hf
      simp only [beq_iff_eq] at h2
      have : l ≠ k := fun z => hb (by rw [← h2, z])
      simp only []
      rw [up2_ne _ _ (fun z => this z.1)]
/-- what the names hold themselves: a world is always of this form -/
def vget (g : Ge) (h : Wv) : Wv := fun k j => h (g.1 k) j
theorem vset_get {g : Ge} (h : Wv) : vset g h (vget g h) = h := by
  funext b j
  simp only [vset, vget]
  cases hf : g.2.find? (fun l => g.1 l == b) with
  | none => rfl
  | some l =>
    have h2 := List.find?_some hf
    simp only [beq_iff_eq] at h2
    show h (g.1 l) j = h b j
    rw [h2]
theorem S_get (g : Ge) (σ : Sg) : S g σ (vget g (sI σ)) = σ := by
  show wI σ (vset g (sI σ) (vget g (sI σ))) = σ
  rw [vset_get]
theorem S_S {g : Ge} (hg : Gok g) (σ : Sg) (w w' : Wv) : S g (S g σ w) w' = S g σ w' := by
  show wI σ (vset g (vset g (sI σ) w) w') = wI σ (vset g (sI σ) w')
  congr 1
  funext b j
  simp only [vset]
  cases hf : g.2.find? (fun l => g.1 l == b) <;> rfl
section
variable {E : En} {M : Mi} {d : Nat} {out : Out} {pc : Nat} {lv : List (Option Value)} {st : List Value} {σ : Sg} {g : Ge} {w : Wv}
theorem V.wald {id n j : Nat} {i : Int32} (hg : Gok g) (hk : id ∈ g.2) (ht : sT σ (g.1 id) = (101, n)) (hi : IX i j n) (hd : decode (mC M) pc = .ok (.iaload, 1)) (h : V E M d out (pc + 1) lv (.int (w id j) :: st) (S g σ w)) : V E M d out pc lv (.int i :: .ref (g.1 id) :: st) (S g σ w) :=
  V.iald (σ := S g σ w) ht hi hd (by rw [show sI (S g σ w) (g.1 id) j = w id j from congrFun (vset_at hg hk) j]; exact h)
theorem V.wast {id n j : Nat} {i x : Int32} (hg : Gok g) (hk : id ∈ g.2) (ht : sT σ (g.1 id) = (101, n)) (hi : IX i j n) (hd : decode (mC M) pc = .ok (.iastore, 1)) (h : V E M d out (pc + 1) lv st (S g σ (up2 w id j x))) : V E M d out pc lv (.int x :: .int i :: .ref (g.1 id) :: st) (S g σ w) :=
  V.iast (σ := S g σ w) ht (hg.2 id hk) hi hd (by rw [show pI (S g σ w) (g.1 id) j x = S g σ (up2 w id j x) from congrArg (wI σ) (vset_put hg hk)]; exact h)
theorem V.wbald {id n j : Nat} {i : Int32} (hg : Gok g) (hk : id ∈ g.2) (ht : sT σ (g.1 id) = (102, n)) (hi : IX i j n) (hd : decode (mC M) pc = .ok (.baload, 1)) (h : V E M d out (pc + 1) lv (.int (w id j) :: st) (S g σ w)) : V E M d out pc lv (.int i :: .ref (g.1 id) :: st) (S g σ w) :=
  V.bald (σ := S g σ w) ht hi hd (by rw [show sI (S g σ w) (g.1 id) j = w id j from congrFun (vset_at hg hk) j]; exact h)
theorem V.wbast {id n j : Nat} {i x : Int32} (hg : Gok g) (hk : id ∈ g.2) (ht : sT σ (g.1 id) = (102, n)) (hi : IX i j n) (hd : decode (mC M) pc = .ok (.bastore, 1)) (h : V E M d out (pc + 1) lv st (S g σ (up2 w id j x.toInt8.toInt32))) : V E M d out pc lv (.int x :: .int i :: .ref (g.1 id) :: st) (S g σ w) :=
  V.bast (σ := S g σ w) ht (hg.2 id hk) hi hd (by rw [show pI (S g σ w) (g.1 id) j x.toInt8.toInt32 = S g σ (up2 w id j x.toInt8.toInt32) from congrArg (wI σ) (vset_put hg hk)]; exact h)
theorem S_int (hg : Gok g) {id j : Nat} (hk : id ∈ g.2) : sI (S g σ w) (g.1 id) j = w id j := congrFun (vset_at hg hk) j
theorem S_put (hg : Gok g) {id j : Nat} {v : Int32} (hk : id ∈ g.2) : pI (S g σ w) (g.1 id) j v = S g σ (up2 w id j v) := congrArg (wI σ) (vset_put hg hk)
/-! ===== m ===== -/
def mlen : Nat → Nat := fun k => match k with
  | 0 => 4
  | 1 => 4
  | 2 => 4
  | 4 => 6
  | 5 => 6
  | 6 => 6
  | 7 => 6
  | 8 => 6
  | 9 => 48
  | 11 => 6
  | 12 => 6
  | 13 => 6
  | 15 => 4
  | 16 => 4
  | 17 => 160
  | 19 => 1200
  | 20 => 24
  | 29 => 4
  | 30 => 4
  | 31 => 4
  | 32 => 6
  | 33 => 6
  | 34 => 48
  | 35 => 4
  | 36 => 4
  | 37 => 4
  | 38 => 4
  | 39 => 240
  | 45 => 200
  | 49 => 200
  | 50 => 6
  | 51 => 6
  | 54 => 48
  | 55 => 6
  | 58 => 1001
  | _ => 0
/-- m's shape: its arrays at their names -/
def WM (g : Ge) (σ : Sg) : Prop := Gok g ∧ (∀ k, 100 ≤ k → k < 160 → k ∈ g.2) ∧ (sT σ (g.1 100)).1 = 8 ∧ (∀ f, mlen f ≠ 0 → sR σ (g.1 100) f = some (g.1 (101 + f)) ∧ sT σ (g.1 (101 + f)) = (101, mlen f)) ∧ sR σ (g.1 100) 44 = some (g.1 145) ∧ sT σ (g.1 145) = (103, 12)
theorem WM.m (h : WM g σ) {k : Nat} (h1 : 100 ≤ k := by decide) (h2 : k < 160 := by decide) : k ∈ g.2 := h.2.1 k h1 h2
theorem aM0 (hW : WM g σ) {j : Nat} {i : Int32} (hi : IX i j 4) (hd : decode (mC M) pc = .ok (.iaload, 1)) (h : V E M d out (pc + 1) lv (.int (w 101 j) :: st) (S g σ w)) : V E M d out pc lv (.int i :: .ref (g.1 101) :: st) (S g σ w) := V.wald hW.1 hW.m (hW.2.2.2.1 0 (by decide)).2 hi hd h
theorem sM0 (hW : WM g σ) {j : Nat} {i x : Int32} (hi : IX i j 4) (hd : decode (mC M) pc = .ok (.iastore, 1)) (h : V E M d out (pc + 1) lv st (S g σ (up2 w 101 j x))) : V E M d out pc lv (.int x :: .int i :: .ref (g.1 101) :: st) (S g σ w) := V.wast hW.1 hW.m (hW.2.2.2.1 0 (by decide)).2 hi hd h
theorem aM1 (hW : WM g σ) {j : Nat} {i : Int32} (hi : IX i j 4) (hd : decode (mC M) pc = .ok (.iaload, 1)) (h : V E M d out (pc + 1) lv (.int (w 102 j) :: st) (S g σ w)) : V E M d out pc lv (.int i :: .ref (g.1 102) :: st) (S g σ w) := V.wald hW.1 hW.m (hW.2.2.2.1 1 (by decide)).2 hi hd h
theorem sM1 (hW : WM g σ) {j : Nat} {i x : Int32} (hi : IX i j 4) (hd : decode (mC M) pc = .ok (.iastore, 1)) (h : V E M d out (pc + 1) lv st (S g σ (up2 w 102 j x))) : V E M d out pc lv (.int x :: .int i :: .ref (g.1 102) :: st) (S g σ w) := V.wast hW.1 hW.m (hW.2.2.2.1 1 (by decide)).2 hi hd h
theorem aM2 (hW : WM g σ) {j : Nat} {i : Int32} (hi : IX i j 4) (hd : decode (mC M) pc = .ok (.iaload, 1)) (h : V E M d out (pc + 1) lv (.int (w 103 j) :: st) (S g σ w)) : V E M d out pc lv (.int i :: .ref (g.1 103) :: st) (S g σ w) := V.wald hW.1 hW.m (hW.2.2.2.1 2 (by decide)).2 hi hd h
theorem sM2 (hW : WM g σ) {j : Nat} {i x : Int32} (hi : IX i j 4) (hd : decode (mC M) pc = .ok (.iastore, 1)) (h : V E M d out (pc + 1) lv st (S g σ (up2 w 103 j x))) : V E M d out pc lv (.int x :: .int i :: .ref (g.1 103) :: st) (S g σ w) := V.wast hW.1 hW.m (hW.2.2.2.1 2 (by decide)).2 hi hd h
theorem aM4 (hW : WM g σ) {j : Nat} {i : Int32} (hi : IX i j 6) (hd : decode (mC M) pc = .ok (.iaload, 1)) (h : V E M d out (pc + 1) lv (.int (w 105 j) :: st) (S g σ w)) : V E M d out pc lv (.int i :: .ref (g.1 105) :: st) (S g σ w) := V.wald hW.1 hW.m (hW.2.2.2.1 4 (by decide)).2 hi hd h
theorem sM4 (hW : WM g σ) {j : Nat} {i x : Int32} (hi : IX i j 6) (hd : decode (mC M) pc = .ok (.iastore, 1)) (h : V E M d out (pc + 1) lv st (S g σ (up2 w 105 j x))) : V E M d out pc lv (.int x :: .int i :: .ref (g.1 105) :: st) (S g σ w) := V.wast hW.1 hW.m (hW.2.2.2.1 4 (by decide)).2 hi hd h
theorem aM5 (hW : WM g σ) {j : Nat} {i : Int32} (hi : IX i j 6) (hd : decode (mC M) pc = .ok (.iaload, 1)) (h : V E M d out (pc + 1) lv (.int (w 106 j) :: st) (S g σ w)) : V E M d out pc lv (.int i :: .ref (g.1 106) :: st) (S g σ w) := V.wald hW.1 hW.m (hW.2.2.2.1 5 (by decide)).2 hi hd h
theorem sM5 (hW : WM g σ) {j : Nat} {i x : Int32} (hi : IX i j 6) (hd : decode (mC M) pc = .ok (.iastore, 1)) (h : V E M d out (pc + 1) lv st (S g σ (up2 w 106 j x))) : V E M d out pc lv (.int x :: .int i :: .ref (g.1 106) :: st) (S g σ w) := V.wast hW.1 hW.m (hW.2.2.2.1 5 (by decide)).2 hi hd h
theorem aM6 (hW : WM g σ) {j : Nat} {i : Int32} (hi : IX i j 6) (hd : decode (mC M) pc = .ok (.iaload, 1)) (h : V E M d out (pc + 1) lv (.int (w 107 j) :: st) (S g σ w)) : V E M d out pc lv (.int i :: .ref (g.1 107) :: st) (S g σ w) := V.wald hW.1 hW.m (hW.2.2.2.1 6 (by decide)).2 hi hd h
theorem sM6 (hW : WM g σ) {j : Nat} {i x : Int32} (hi : IX i j 6) (hd : decode (mC M) pc = .ok (.iastore, 1)) (h : V E M d out (pc + 1) lv st (S g σ (up2 w 107 j x))) : V E M d out pc lv (.int x :: .int i :: .ref (g.1 107) :: st) (S g σ w) := V.wast hW.1 hW.m (hW.2.2.2.1 6 (by decide)).2 hi hd h
theorem aM7 (hW : WM g σ) {j : Nat} {i : Int32} (hi : IX i j 6) (hd : decode (mC M) pc = .ok (.iaload, 1)) (h : V E M d out (pc + 1) lv (.int (w 108 j) :: st) (S g σ w)) : V E M d out pc lv (.int i :: .ref (g.1 108) :: st) (S g σ w) := V.wald hW.1 hW.m (hW.2.2.2.1 7 (by decide)).2 hi hd h
theorem sM7 (hW : WM g σ) {j : Nat} {i x : Int32} (hi : IX i j 6) (hd : decode (mC M) pc = .ok (.iastore, 1)) (h : V E M d out (pc + 1) lv st (S g σ (up2 w 108 j x))) : V E M d out pc lv (.int x :: .int i :: .ref (g.1 108) :: st) (S g σ w) := V.wast hW.1 hW.m (hW.2.2.2.1 7 (by decide)).2 hi hd h
theorem aM8 (hW : WM g σ) {j : Nat} {i : Int32} (hi : IX i j 6) (hd : decode (mC M) pc = .ok (.iaload, 1)) (h : V E M d out (pc + 1) lv (.int (w 109 j) :: st) (S g σ w)) : V E M d out pc lv (.int i :: .ref (g.1 109) :: st) (S g σ w) := V.wald hW.1 hW.m (hW.2.2.2.1 8 (by decide)).2 hi hd h
theorem sM8 (hW : WM g σ) {j : Nat} {i x : Int32} (hi : IX i j 6) (hd : decode (mC M) pc = .ok (.iastore, 1)) (h : V E M d out (pc + 1) lv st (S g σ (up2 w 109 j x))) : V E M d out pc lv (.int x :: .int i :: .ref (g.1 109) :: st) (S g σ w) := V.wast hW.1 hW.m (hW.2.2.2.1 8 (by decide)).2 hi hd h
theorem aM9 (hW : WM g σ) {j : Nat} {i : Int32} (hi : IX i j 48) (hd : decode (mC M) pc = .ok (.iaload, 1)) (h : V E M d out (pc + 1) lv (.int (w 110 j) :: st) (S g σ w)) : V E M d out pc lv (.int i :: .ref (g.1 110) :: st) (S g σ w) := V.wald hW.1 hW.m (hW.2.2.2.1 9 (by decide)).2 hi hd h
theorem sM9 (hW : WM g σ) {j : Nat} {i x : Int32} (hi : IX i j 48) (hd : decode (mC M) pc = .ok (.iastore, 1)) (h : V E M d out (pc + 1) lv st (S g σ (up2 w 110 j x))) : V E M d out pc lv (.int x :: .int i :: .ref (g.1 110) :: st) (S g σ w) := V.wast hW.1 hW.m (hW.2.2.2.1 9 (by decide)).2 hi hd h
theorem aM11 (hW : WM g σ) {j : Nat} {i : Int32} (hi : IX i j 6) (hd : decode (mC M) pc = .ok (.iaload, 1)) (h : V E M d out (pc + 1) lv (.int (w 112 j) :: st) (S g σ w)) : V E M d out pc lv (.int i :: .ref (g.1 112) :: st) (S g σ w) := V.wald hW.1 hW.m (hW.2.2.2.1 11 (by decide)).2 hi hd h
theorem sM11 (hW : WM g σ) {j : Nat} {i x : Int32} (hi : IX i j 6) (hd : decode (mC M) pc = .ok (.iastore, 1)) (h : V E M d out (pc + 1) lv st (S g σ (up2 w 112 j x))) : V E M d out pc lv (.int x :: .int i :: .ref (g.1 112) :: st) (S g σ w) := V.wast hW.1 hW.m (hW.2.2.2.1 11 (by decide)).2 hi hd h
theorem aM12 (hW : WM g σ) {j : Nat} {i : Int32} (hi : IX i j 6) (hd : decode (mC M) pc = .ok (.iaload, 1)) (h : V E M d out (pc + 1) lv (.int (w 113 j) :: st) (S g σ w)) : V E M d out pc lv (.int i :: .ref (g.1 113) :: st) (S g σ w) := V.wald hW.1 hW.m (hW.2.2.2.1 12 (by decide)).2 hi hd h
theorem sM12 (hW : WM g σ) {j : Nat} {i x : Int32} (hi : IX i j 6) (hd : decode (mC M) pc = .ok (.iastore, 1)) (h : V E M d out (pc + 1) lv st (S g σ (up2 w 113 j x))) : V E M d out pc lv (.int x :: .int i :: .ref (g.1 113) :: st) (S g σ w) := V.wast hW.1 hW.m (hW.2.2.2.1 12 (by decide)).2 hi hd h
theorem aM13 (hW : WM g σ) {j : Nat} {i : Int32} (hi : IX i j 6) (hd : decode (mC M) pc = .ok (.iaload, 1)) (h : V E M d out (pc + 1) lv (.int (w 114 j) :: st) (S g σ w)) : V E M d out pc lv (.int i :: .ref (g.1 114) :: st) (S g σ w) := V.wald hW.1 hW.m (hW.2.2.2.1 13 (by decide)).2 hi hd h
theorem sM13 (hW : WM g σ) {j : Nat} {i x : Int32} (hi : IX i j 6) (hd : decode (mC M) pc = .ok (.iastore, 1)) (h : V E M d out (pc + 1) lv st (S g σ (up2 w 114 j x))) : V E M d out pc lv (.int x :: .int i :: .ref (g.1 114) :: st) (S g σ w) := V.wast hW.1 hW.m (hW.2.2.2.1 13 (by decide)).2 hi hd h
theorem aM15 (hW : WM g σ) {j : Nat} {i : Int32} (hi : IX i j 4) (hd : decode (mC M) pc = .ok (.iaload, 1)) (h : V E M d out (pc + 1) lv (.int (w 116 j) :: st) (S g σ w)) : V E M d out pc lv (.int i :: .ref (g.1 116) :: st) (S g σ w) := V.wald hW.1 hW.m (hW.2.2.2.1 15 (by decide)).2 hi hd h
theorem sM15 (hW : WM g σ) {j : Nat} {i x : Int32} (hi : IX i j 4) (hd : decode (mC M) pc = .ok (.iastore, 1)) (h : V E M d out (pc + 1) lv st (S g σ (up2 w 116 j x))) : V E M d out pc lv (.int x :: .int i :: .ref (g.1 116) :: st) (S g σ w) := V.wast hW.1 hW.m (hW.2.2.2.1 15 (by decide)).2 hi hd h
theorem aM16 (hW : WM g σ) {j : Nat} {i : Int32} (hi : IX i j 4) (hd : decode (mC M) pc = .ok (.iaload, 1)) (h : V E M d out (pc + 1) lv (.int (w 117 j) :: st) (S g σ w)) : V E M d out pc lv (.int i :: .ref (g.1 117) :: st) (S g σ w) := V.wald hW.1 hW.m (hW.2.2.2.1 16 (by decide)).2 hi hd h
theorem sM16 (hW : WM g σ) {j : Nat} {i x : Int32} (hi : IX i j 4) (hd : decode (mC M) pc = .ok (.iastore, 1)) (h : V E M d out (pc + 1) lv st (S g σ (up2 w 117 j x))) : V E M d out pc lv (.int x :: .int i :: .ref (g.1 117) :: st) (S g σ w) := V.wast hW.1 hW.m (hW.2.2.2.1 16 (by decide)).2 hi hd h
theorem aM17 (hW : WM g σ) {j : Nat} {i : Int32} (hi : IX i j 160) (hd : decode (mC M) pc = .ok (.iaload, 1)) (h : V E M d out (pc + 1) lv (.int (w 118 j) :: st) (S g σ w)) : V E M d out pc lv (.int i :: .ref (g.1 118) :: st) (S g σ w) := V.wald hW.1 hW.m (hW.2.2.2.1 17 (by decide)).2 hi hd h
theorem sM17 (hW : WM g σ) {j : Nat} {i x : Int32} (hi : IX i j 160) (hd : decode (mC M) pc = .ok (.iastore, 1)) (h : V E M d out (pc + 1) lv st (S g σ (up2 w 118 j x))) : V E M d out pc lv (.int x :: .int i :: .ref (g.1 118) :: st) (S g σ w) := V.wast hW.1 hW.m (hW.2.2.2.1 17 (by decide)).2 hi hd h
theorem aM19 (hW : WM g σ) {j : Nat} {i : Int32} (hi : IX i j 1200) (hd : decode (mC M) pc = .ok (.iaload, 1)) (h : V E M d out (pc + 1) lv (.int (w 120 j) :: st) (S g σ w)) : V E M d out pc lv (.int i :: .ref (g.1 120) :: st) (S g σ w) := V.wald hW.1 hW.m (hW.2.2.2.1 19 (by decide)).2 hi hd h
theorem sM19 (hW : WM g σ) {j : Nat} {i x : Int32} (hi : IX i j 1200) (hd : decode (mC M) pc = .ok (.iastore, 1)) (h : V E M d out (pc + 1) lv st (S g σ (up2 w 120 j x))) : V E M d out pc lv (.int x :: .int i :: .ref (g.1 120) :: st) (S g σ w) := V.wast hW.1 hW.m (hW.2.2.2.1 19 (by decide)).2 hi hd h
theorem aM20 (hW : WM g σ) {j : Nat} {i : Int32} (hi : IX i j 24) (hd : decode (mC M) pc = .ok (.iaload, 1)) (h : V E M d out (pc + 1) lv (.int (w 121 j) :: st) (S g σ w)) : V E M d out pc lv (.int i :: .ref (g.1 121) :: st) (S g σ w) := V.wald hW.1 hW.m (hW.2.2.2.1 20 (by decide)).2 hi hd h
theorem sM20 (hW : WM g σ) {j : Nat} {i x : Int32} (hi : IX i j 24) (hd : decode (mC M) pc = .ok (.iastore, 1)) (h : V E M d out (pc + 1) lv st (S g σ (up2 w 121 j x))) : V E M d out pc lv (.int x :: .int i :: .ref (g.1 121) :: st) (S g σ w) := V.wast hW.1 hW.m (hW.2.2.2.1 20 (by decide)).2 hi hd h
theorem aM29 (hW : WM g σ) {j : Nat} {i : Int32} (hi : IX i j 4) (hd : decode (mC M) pc = .ok (.iaload, 1)) (h : V E M d out (pc + 1) lv (.int (w 130 j) :: st) (S g σ w)) : V E M d out pc lv (.int i :: .ref (g.1 130) :: st) (S g σ w) := V.wald hW.1 hW.m (hW.2.2.2.1 29 (by decide)).2 hi hd h
theorem sM29 (hW : WM g σ) {j : Nat} {i x : Int32} (hi : IX i j 4) (hd : decode (mC M) pc = .ok (.iastore, 1)) (h : V E M d out (pc + 1) lv st (S g σ (up2 w 130 j x))) : V E M d out pc lv (.int x :: .int i :: .ref (g.1 130) :: st) (S g σ w) := V.wast hW.1 hW.m (hW.2.2.2.1 29 (by decide)).2 hi hd h
theorem aM30 (hW : WM g σ) {j : Nat} {i : Int32} (hi : IX i j 4) (hd : decode (mC M) pc = .ok (.iaload, 1)) (h : V E M d out (pc + 1) lv (.int (w 131 j) :: st) (S g σ w)) : V E M d out pc lv (.int i :: .ref (g.1 131) :: st) (S g σ w) := V.wald hW.1 hW.m (hW.2.2.2.1 30 (by decide)).2 hi hd h
theorem sM30 (hW : WM g σ) {j : Nat} {i x : Int32} (hi : IX i j 4) (hd : decode (mC M) pc = .ok (.iastore, 1)) (h : V E M d out (pc + 1) lv st (S g σ (up2 w 131 j x))) : V E M d out pc lv (.int x :: .int i :: .ref (g.1 131) :: st) (S g σ w) := V.wast hW.1 hW.m (hW.2.2.2.1 30 (by decide)).2 hi hd h
theorem aM31 (hW : WM g σ) {j : Nat} {i : Int32} (hi : IX i j 4) (hd : decode (mC M) pc = .ok (.iaload, 1)) (h : V E M d out (pc + 1) lv (.int (w 132 j) :: st) (S g σ w)) : V E M d out pc lv (.int i :: .ref (g.1 132) :: st) (S g σ w) := V.wald hW.1 hW.m (hW.2.2.2.1 31 (by decide)).2 hi hd h
theorem sM31 (hW : WM g σ) {j : Nat} {i x : Int32} (hi : IX i j 4) (hd : decode (mC M) pc = .ok (.iastore, 1)) (h : V E M d out (pc + 1) lv st (S g σ (up2 w 132 j x))) : V E M d out pc lv (.int x :: .int i :: .ref (g.1 132) :: st) (S g σ w) := V.wast hW.1 hW.m (hW.2.2.2.1 31 (by decide)).2 hi hd h
theorem aM32 (hW : WM g σ) {j : Nat} {i : Int32} (hi : IX i j 6) (hd : decode (mC M) pc = .ok (.iaload, 1)) (h : V E M d out (pc + 1) lv (.int (w 133 j) :: st) (S g σ w)) : V E M d out pc lv (.int i :: .ref (g.1 133) :: st) (S g σ w) := V.wald hW.1 hW.m (hW.2.2.2.1 32 (by decide)).2 hi hd h
theorem sM32 (hW : WM g σ) {j : Nat} {i x : Int32} (hi : IX i j 6) (hd : decode (mC M) pc = .ok (.iastore, 1)) (h : V E M d out (pc + 1) lv st (S g σ (up2 w 133 j x))) : V E M d out pc lv (.int x :: .int i :: .ref (g.1 133) :: st) (S g σ w) := V.wast hW.1 hW.m (hW.2.2.2.1 32 (by decide)).2 hi hd h
theorem aM33 (hW : WM g σ) {j : Nat} {i : Int32} (hi : IX i j 6) (hd : decode (mC M) pc = .ok (.iaload, 1)) (h : V E M d out (pc + 1) lv (.int (w 134 j) :: st) (S g σ w)) : V E M d out pc lv (.int i :: .ref (g.1 134) :: st) (S g σ w) := V.wald hW.1 hW.m (hW.2.2.2.1 33 (by decide)).2 hi hd h
theorem sM33 (hW : WM g σ) {j : Nat} {i x : Int32} (hi : IX i j 6) (hd : decode (mC M) pc = .ok (.iastore, 1)) (h : V E M d out (pc + 1) lv st (S g σ (up2 w 134 j x))) : V E M d out pc lv (.int x :: .int i :: .ref (g.1 134) :: st) (S g σ w) := V.wast hW.1 hW.m (hW.2.2.2.1 33 (by decide)).2 hi hd h
theorem aM34 (hW : WM g σ) {j : Nat} {i : Int32} (hi : IX i j 48) (hd : decode (mC M) pc = .ok (.iaload, 1)) (h : V E M d out (pc + 1) lv (.int (w 135 j) :: st) (S g σ w)) : V E M d out pc lv (.int i :: .ref (g.1 135) :: st) (S g σ w) := V.wald hW.1 hW.m (hW.2.2.2.1 34 (by decide)).2 hi hd h
theorem sM34 (hW : WM g σ) {j : Nat} {i x : Int32} (hi : IX i j 48) (hd : decode (mC M) pc = .ok (.iastore, 1)) (h : V E M d out (pc + 1) lv st (S g σ (up2 w 135 j x))) : V E M d out pc lv (.int x :: .int i :: .ref (g.1 135) :: st) (S g σ w) := V.wast hW.1 hW.m (hW.2.2.2.1 34 (by decide)).2 hi hd h
theorem aM35 (hW : WM g σ) {j : Nat} {i : Int32} (hi : IX i j 4) (hd : decode (mC M) pc = .ok (.iaload, 1)) (h : V E M d out (pc + 1) lv (.int (w 136 j) :: st) (S g σ w)) : V E M d out pc lv (.int i :: .ref (g.1 136) :: st) (S g σ w) := V.wald hW.1 hW.m (hW.2.2.2.1 35 (by decide)).2 hi hd h
theorem sM35 (hW : WM g σ) {j : Nat} {i x : Int32} (hi : IX i j 4) (hd : decode (mC M) pc = .ok (.iastore, 1)) (h : V E M d out (pc + 1) lv st (S g σ (up2 w 136 j x))) : V E M d out pc lv (.int x :: .int i :: .ref (g.1 136) :: st) (S g σ w) := V.wast hW.1 hW.m (hW.2.2.2.1 35 (by decide)).2 hi hd h
theorem aM36 (hW : WM g σ) {j : Nat} {i : Int32} (hi : IX i j 4) (hd : decode (mC M) pc = .ok (.iaload, 1)) (h : V E M d out (pc + 1) lv (.int (w 137 j) :: st) (S g σ w)) : V E M d out pc lv (.int i :: .ref (g.1 137) :: st) (S g σ w) := V.wald hW.1 hW.m (hW.2.2.2.1 36 (by decide)).2 hi hd h
theorem sM36 (hW : WM g σ) {j : Nat} {i x : Int32} (hi : IX i j 4) (hd : decode (mC M) pc = .ok (.iastore, 1)) (h : V E M d out (pc + 1) lv st (S g σ (up2 w 137 j x))) : V E M d out pc lv (.int x :: .int i :: .ref (g.1 137) :: st) (S g σ w) := V.wast hW.1 hW.m (hW.2.2.2.1 36 (by decide)).2 hi hd h
theorem aM37 (hW : WM g σ) {j : Nat} {i : Int32} (hi : IX i j 4) (hd : decode (mC M) pc = .ok (.iaload, 1)) (h : V E M d out (pc + 1) lv (.int (w 138 j) :: st) (S g σ w)) : V E M d out pc lv (.int i :: .ref (g.1 138) :: st) (S g σ w) := V.wald hW.1 hW.m (hW.2.2.2.1 37 (by decide)).2 hi hd h
theorem sM37 (hW : WM g σ) {j : Nat} {i x : Int32} (hi : IX i j 4) (hd : decode (mC M) pc = .ok (.iastore, 1)) (h : V E M d out (pc + 1) lv st (S g σ (up2 w 138 j x))) : V E M d out pc lv (.int x :: .int i :: .ref (g.1 138) :: st) (S g σ w) := V.wast hW.1 hW.m (hW.2.2.2.1 37 (by decide)).2 hi hd h
theorem aM38 (hW : WM g σ) {j : Nat} {i : Int32} (hi : IX i j 4) (hd : decode (mC M) pc = .ok (.iaload, 1)) (h : V E M d out (pc + 1) lv (.int (w 139 j) :: st) (S g σ w)) : V E M d out pc lv (.int i :: .ref (g.1 139) :: st) (S g σ w) := V.wald hW.1 hW.m (hW.2.2.2.1 38 (by decide)).2 hi hd h
theorem sM38 (hW : WM g σ) {j : Nat} {i x : Int32} (hi : IX i j 4) (hd : decode (mC M) pc = .ok (.iastore, 1)) (h : V E M d out (pc + 1) lv st (S g σ (up2 w 139 j x))) : V E M d out pc lv (.int x :: .int i :: .ref (g.1 139) :: st) (S g σ w) := V.wast hW.1 hW.m (hW.2.2.2.1 38 (by decide)).2 hi hd h
theorem aM39 (hW : WM g σ) {j : Nat} {i : Int32} (hi : IX i j 240) (hd : decode (mC M) pc = .ok (.iaload, 1)) (h : V E M d out (pc + 1) lv (.int (w 140 j) :: st) (S g σ w)) : V E M d out pc lv (.int i :: .ref (g.1 140) :: st) (S g σ w) := V.wald hW.1 hW.m (hW.2.2.2.1 39 (by decide)).2 hi hd h
theorem sM39 (hW : WM g σ) {j : Nat} {i x : Int32} (hi : IX i j 240) (hd : decode (mC M) pc = .ok (.iastore, 1)) (h : V E M d out (pc + 1) lv st (S g σ (up2 w 140 j x))) : V E M d out pc lv (.int x :: .int i :: .ref (g.1 140) :: st) (S g σ w) := V.wast hW.1 hW.m (hW.2.2.2.1 39 (by decide)).2 hi hd h
theorem aM45 (hW : WM g σ) {j : Nat} {i : Int32} (hi : IX i j 200) (hd : decode (mC M) pc = .ok (.iaload, 1)) (h : V E M d out (pc + 1) lv (.int (w 146 j) :: st) (S g σ w)) : V E M d out pc lv (.int i :: .ref (g.1 146) :: st) (S g σ w) := V.wald hW.1 hW.m (hW.2.2.2.1 45 (by decide)).2 hi hd h
theorem sM45 (hW : WM g σ) {j : Nat} {i x : Int32} (hi : IX i j 200) (hd : decode (mC M) pc = .ok (.iastore, 1)) (h : V E M d out (pc + 1) lv st (S g σ (up2 w 146 j x))) : V E M d out pc lv (.int x :: .int i :: .ref (g.1 146) :: st) (S g σ w) := V.wast hW.1 hW.m (hW.2.2.2.1 45 (by decide)).2 hi hd h
theorem aM49 (hW : WM g σ) {j : Nat} {i : Int32} (hi : IX i j 200) (hd : decode (mC M) pc = .ok (.iaload, 1)) (h : V E M d out (pc + 1) lv (.int (w 150 j) :: st) (S g σ w)) : V E M d out pc lv (.int i :: .ref (g.1 150) :: st) (S g σ w) := V.wald hW.1 hW.m (hW.2.2.2.1 49 (by decide)).2 hi hd h
theorem sM49 (hW : WM g σ) {j : Nat} {i x : Int32} (hi : IX i j 200) (hd : decode (mC M) pc = .ok (.iastore, 1)) (h : V E M d out (pc + 1) lv st (S g σ (up2 w 150 j x))) : V E M d out pc lv (.int x :: .int i :: .ref (g.1 150) :: st) (S g σ w) := V.wast hW.1 hW.m (hW.2.2.2.1 49 (by decide)).2 hi hd h
theorem aM50 (hW : WM g σ) {j : Nat} {i : Int32} (hi : IX i j 6) (hd : decode (mC M) pc = .ok (.iaload, 1)) (h : V E M d out (pc + 1) lv (.int (w 151 j) :: st) (S g σ w)) : V E M d out pc lv (.int i :: .ref (g.1 151) :: st) (S g σ w) := V.wald hW.1 hW.m (hW.2.2.2.1 50 (by decide)).2 hi hd h
theorem sM50 (hW : WM g σ) {j : Nat} {i x : Int32} (hi : IX i j 6) (hd : decode (mC M) pc = .ok (.iastore, 1)) (h : V E M d out (pc + 1) lv st (S g σ (up2 w 151 j x))) : V E M d out pc lv (.int x :: .int i :: .ref (g.1 151) :: st) (S g σ w) := V.wast hW.1 hW.m (hW.2.2.2.1 50 (by decide)).2 hi hd h
theorem aM51 (hW : WM g σ) {j : Nat} {i : Int32} (hi : IX i j 6) (hd : decode (mC M) pc = .ok (.iaload, 1)) (h : V E M d out (pc + 1) lv (.int (w 152 j) :: st) (S g σ w)) : V E M d out pc lv (.int i :: .ref (g.1 152) :: st) (S g σ w) := V.wald hW.1 hW.m (hW.2.2.2.1 51 (by decide)).2 hi hd h
theorem sM51 (hW : WM g σ) {j : Nat} {i x : Int32} (hi : IX i j 6) (hd : decode (mC M) pc = .ok (.iastore, 1)) (h : V E M d out (pc + 1) lv st (S g σ (up2 w 152 j x))) : V E M d out pc lv (.int x :: .int i :: .ref (g.1 152) :: st) (S g σ w) := V.wast hW.1 hW.m (hW.2.2.2.1 51 (by decide)).2 hi hd h
theorem aM54 (hW : WM g σ) {j : Nat} {i : Int32} (hi : IX i j 48) (hd : decode (mC M) pc = .ok (.iaload, 1)) (h : V E M d out (pc + 1) lv (.int (w 155 j) :: st) (S g σ w)) : V E M d out pc lv (.int i :: .ref (g.1 155) :: st) (S g σ w) := V.wald hW.1 hW.m (hW.2.2.2.1 54 (by decide)).2 hi hd h
theorem sM54 (hW : WM g σ) {j : Nat} {i x : Int32} (hi : IX i j 48) (hd : decode (mC M) pc = .ok (.iastore, 1)) (h : V E M d out (pc + 1) lv st (S g σ (up2 w 155 j x))) : V E M d out pc lv (.int x :: .int i :: .ref (g.1 155) :: st) (S g σ w) := V.wast hW.1 hW.m (hW.2.2.2.1 54 (by decide)).2 hi hd h
theorem aM55 (hW : WM g σ) {j : Nat} {i : Int32} (hi : IX i j 6) (hd : decode (mC M) pc = .ok (.iaload, 1)) (h : V E M d out (pc + 1) lv (.int (w 156 j) :: st) (S g σ w)) : V E M d out pc lv (.int i :: .ref (g.1 156) :: st) (S g σ w) := V.wald hW.1 hW.m (hW.2.2.2.1 55 (by decide)).2 hi hd h
theorem sM55 (hW : WM g σ) {j : Nat} {i x : Int32} (hi : IX i j 6) (hd : decode (mC M) pc = .ok (.iastore, 1)) (h : V E M d out (pc + 1) lv st (S g σ (up2 w 156 j x))) : V E M d out pc lv (.int x :: .int i :: .ref (g.1 156) :: st) (S g σ w) := V.wast hW.1 hW.m (hW.2.2.2.1 55 (by decide)).2 hi hd h
theorem aM58 (hW : WM g σ) {j : Nat} {i : Int32} (hi : IX i j 1001) (hd : decode (mC M) pc = .ok (.iaload, 1)) (h : V E M d out (pc + 1) lv (.int (w 159 j) :: st) (S g σ w)) : V E M d out pc lv (.int i :: .ref (g.1 159) :: st) (S g σ w) := V.wald hW.1 hW.m (hW.2.2.2.1 58 (by decide)).2 hi hd h
theorem sM58 (hW : WM g σ) {j : Nat} {i x : Int32} (hi : IX i j 1001) (hd : decode (mC M) pc = .ok (.iastore, 1)) (h : V E M d out (pc + 1) lv st (S g σ (up2 w 159 j x))) : V E M d out pc lv (.int x :: .int i :: .ref (g.1 159) :: st) (S g σ w) := V.wast hW.1 hW.m (hW.2.2.2.1 58 (by decide)).2 hi hd h
theorem GX7_7 (hW : WM g σ) (hM : (mY M).cls = RX7) (hd : decode (mC M) pc = .ok (.getfield 7, 3)) (h : V E M d out (pc + 3) lv (.ref (g.1 101) :: st) (S g σ w)) : V E M d out pc lv (.ref (g.1 100) :: st) (S g σ w) := gX7_7 (σ := S g σ w) hM hW.2.2.1 hd (hW.2.2.2.1 0 (by decide)).1 h
theorem GX7_13 (hW : WM g σ) (hM : (mY M).cls = RX7) (hd : decode (mC M) pc = .ok (.getfield 13, 3)) (h : V E M d out (pc + 3) lv (.ref (g.1 102) :: st) (S g σ w)) : V E M d out pc lv (.ref (g.1 100) :: st) (S g σ w) := gX7_13 (σ := S g σ w) hM hW.2.2.1 hd (hW.2.2.2.1 1 (by decide)).1 h
theorem GX7_16 (hW : WM g σ) (hM : (mY M).cls = RX7) (hd : decode (mC M) pc = .ok (.getfield 16, 3)) (h : V E M d out (pc + 3) lv (.ref (g.1 103) :: st) (S g σ w)) : V E M d out pc lv (.ref (g.1 100) :: st) (S g σ w) := gX7_16 (σ := S g σ w) hM hW.2.2.1 hd (hW.2.2.2.1 2 (by decide)).1 h
theorem GX7_19 (hW : WM g σ) (hM : (mY M).cls = RX7) (hd : decode (mC M) pc = .ok (.getfield 19, 3)) (h : V E M d out (pc + 3) lv (.ref (g.1 105) :: st) (S g σ w)) : V E M d out pc lv (.ref (g.1 100) :: st) (S g σ w) := gX7_19 (σ := S g σ w) hM hW.2.2.1 hd (hW.2.2.2.1 4 (by decide)).1 h
theorem GX7_22 (hW : WM g σ) (hM : (mY M).cls = RX7) (hd : decode (mC M) pc = .ok (.getfield 22, 3)) (h : V E M d out (pc + 3) lv (.ref (g.1 106) :: st) (S g σ w)) : V E M d out pc lv (.ref (g.1 100) :: st) (S g σ w) := gX7_22 (σ := S g σ w) hM hW.2.2.1 hd (hW.2.2.2.1 5 (by decide)).1 h
theorem GX7_25 (hW : WM g σ) (hM : (mY M).cls = RX7) (hd : decode (mC M) pc = .ok (.getfield 25, 3)) (h : V E M d out (pc + 3) lv (.ref (g.1 107) :: st) (S g σ w)) : V E M d out pc lv (.ref (g.1 100) :: st) (S g σ w) := gX7_25 (σ := S g σ w) hM hW.2.2.1 hd (hW.2.2.2.1 6 (by decide)).1 h
theorem GX7_28 (hW : WM g σ) (hM : (mY M).cls = RX7) (hd : decode (mC M) pc = .ok (.getfield 28, 3)) (h : V E M d out (pc + 3) lv (.ref (g.1 108) :: st) (S g σ w)) : V E M d out pc lv (.ref (g.1 100) :: st) (S g σ w) := gX7_28 (σ := S g σ w) hM hW.2.2.1 hd (hW.2.2.2.1 7 (by decide)).1 h
theorem GX7_31 (hW : WM g σ) (hM : (mY M).cls = RX7) (hd : decode (mC M) pc = .ok (.getfield 31, 3)) (h : V E M d out (pc + 3) lv (.ref (g.1 109) :: st) (S g σ w)) : V E M d out pc lv (.ref (g.1 100) :: st) (S g σ w) := gX7_31 (σ := S g σ w) hM hW.2.2.1 hd (hW.2.2.2.1 8 (by decide)).1 h
theorem GX7_34 (hW : WM g σ) (hM : (mY M).cls = RX7) (hd : decode (mC M) pc = .ok (.getfield 34, 3)) (h : V E M d out (pc + 3) lv (.ref (g.1 110) :: st) (S g σ w)) : V E M d out pc lv (.ref (g.1 100) :: st) (S g σ w) := gX7_34 (σ := S g σ w) hM hW.2.2.1 hd (hW.2.2.2.1 9 (by decide)).1 h
theorem GX7_37 (hW : WM g σ) (hM : (mY M).cls = RX7) (hd : decode (mC M) pc = .ok (.getfield 37, 3)) (h : V E M d out (pc + 3) lv (.ref (g.1 112) :: st) (S g σ w)) : V E M d out pc lv (.ref (g.1 100) :: st) (S g σ w) := gX7_37 (σ := S g σ w) hM hW.2.2.1 hd (hW.2.2.2.1 11 (by decide)).1 h
theorem GX7_40 (hW : WM g σ) (hM : (mY M).cls = RX7) (hd : decode (mC M) pc = .ok (.getfield 40, 3)) (h : V E M d out (pc + 3) lv (.ref (g.1 113) :: st) (S g σ w)) : V E M d out pc lv (.ref (g.1 100) :: st) (S g σ w) := gX7_40 (σ := S g σ w) hM hW.2.2.1 hd (hW.2.2.2.1 12 (by decide)).1 h
theorem GX7_43 (hW : WM g σ) (hM : (mY M).cls = RX7) (hd : decode (mC M) pc = .ok (.getfield 43, 3)) (h : V E M d out (pc + 3) lv (.ref (g.1 114) :: st) (S g σ w)) : V E M d out pc lv (.ref (g.1 100) :: st) (S g σ w) := gX7_43 (σ := S g σ w) hM hW.2.2.1 hd (hW.2.2.2.1 13 (by decide)).1 h
theorem GX7_46 (hW : WM g σ) (hM : (mY M).cls = RX7) (hd : decode (mC M) pc = .ok (.getfield 46, 3)) (h : V E M d out (pc + 3) lv (.ref (g.1 116) :: st) (S g σ w)) : V E M d out pc lv (.ref (g.1 100) :: st) (S g σ w) := gX7_46 (σ := S g σ w) hM hW.2.2.1 hd (hW.2.2.2.1 15 (by decide)).1 h
theorem GX7_49 (hW : WM g σ) (hM : (mY M).cls = RX7) (hd : decode (mC M) pc = .ok (.getfield 49, 3)) (h : V E M d out (pc + 3) lv (.ref (g.1 117) :: st) (S g σ w)) : V E M d out pc lv (.ref (g.1 100) :: st) (S g σ w) := gX7_49 (σ := S g σ w) hM hW.2.2.1 hd (hW.2.2.2.1 16 (by decide)).1 h
theorem GX7_52 (hW : WM g σ) (hM : (mY M).cls = RX7) (hd : decode (mC M) pc = .ok (.getfield 52, 3)) (h : V E M d out (pc + 3) lv (.ref (g.1 118) :: st) (S g σ w)) : V E M d out pc lv (.ref (g.1 100) :: st) (S g σ w) := gX7_52 (σ := S g σ w) hM hW.2.2.1 hd (hW.2.2.2.1 17 (by decide)).1 h
theorem GX7_55 (hW : WM g σ) (hM : (mY M).cls = RX7) (hd : decode (mC M) pc = .ok (.getfield 55, 3)) (h : V E M d out (pc + 3) lv (.ref (g.1 120) :: st) (S g σ w)) : V E M d out pc lv (.ref (g.1 100) :: st) (S g σ w) := gX7_55 (σ := S g σ w) hM hW.2.2.1 hd (hW.2.2.2.1 19 (by decide)).1 h
theorem GX7_58 (hW : WM g σ) (hM : (mY M).cls = RX7) (hd : decode (mC M) pc = .ok (.getfield 58, 3)) (h : V E M d out (pc + 3) lv (.ref (g.1 121) :: st) (S g σ w)) : V E M d out pc lv (.ref (g.1 100) :: st) (S g σ w) := gX7_58 (σ := S g σ w) hM hW.2.2.1 hd (hW.2.2.2.1 20 (by decide)).1 h
theorem GX7_61 (hW : WM g σ) (hM : (mY M).cls = RX7) (hd : decode (mC M) pc = .ok (.getfield 61, 3)) (h : V E M d out (pc + 3) lv (.int (w 100 21) :: st) (S g σ w)) : V E M d out pc lv (.ref (g.1 100) :: st) (S g σ w) := gX7_61 (σ := S g σ w) hM hW.2.2.1 hd (by rw [S_int hW.1 hW.m]; exact h)
theorem PX7_61 (hW : WM g σ) (hM : (mY M).cls = RX7) (hd : decode (mC M) pc = .ok (.putfield 61, 3)) {v : Int32} (h : V E M d out (pc + 3) lv st (S g σ (up2 w 100 21 v))) : V E M d out pc lv (.int v :: .ref (g.1 100) :: st) (S g σ w) := pX7_61 (σ := S g σ w) hM hW.2.2.1 (hW.1.2 _ hW.m) hd (by rw [S_put hW.1 hW.m]; exact h)
theorem GX7_65 (hW : WM g σ) (hM : (mY M).cls = RX7) (hd : decode (mC M) pc = .ok (.getfield 65, 3)) (h : V E M d out (pc + 3) lv (.int (w 100 23) :: st) (S g σ w)) : V E M d out pc lv (.ref (g.1 100) :: st) (S g σ w) := gX7_65 (σ := S g σ w) hM hW.2.2.1 hd (by rw [S_int hW.1 hW.m]; exact h)
theorem PX7_65 (hW : WM g σ) (hM : (mY M).cls = RX7) (hd : decode (mC M) pc = .ok (.putfield 65, 3)) {v : Int32} (h : V E M d out (pc + 3) lv st (S g σ (up2 w 100 23 v))) : V E M d out pc lv (.int v :: .ref (g.1 100) :: st) (S g σ w) := pX7_65 (σ := S g σ w) hM hW.2.2.1 (hW.1.2 _ hW.m) hd (by rw [S_put hW.1 hW.m]; exact h)
theorem GX7_68 (hW : WM g σ) (hM : (mY M).cls = RX7) (hd : decode (mC M) pc = .ok (.getfield 68, 3)) (h : V E M d out (pc + 3) lv (.ref (g.1 130) :: st) (S g σ w)) : V E M d out pc lv (.ref (g.1 100) :: st) (S g σ w) := gX7_68 (σ := S g σ w) hM hW.2.2.1 hd (hW.2.2.2.1 29 (by decide)).1 h
theorem GX7_71 (hW : WM g σ) (hM : (mY M).cls = RX7) (hd : decode (mC M) pc = .ok (.getfield 71, 3)) (h : V E M d out (pc + 3) lv (.ref (g.1 131) :: st) (S g σ w)) : V E M d out pc lv (.ref (g.1 100) :: st) (S g σ w) := gX7_71 (σ := S g σ w) hM hW.2.2.1 hd (hW.2.2.2.1 30 (by decide)).1 h
theorem GX7_74 (hW : WM g σ) (hM : (mY M).cls = RX7) (hd : decode (mC M) pc = .ok (.getfield 74, 3)) (h : V E M d out (pc + 3) lv (.ref (g.1 132) :: st) (S g σ w)) : V E M d out pc lv (.ref (g.1 100) :: st) (S g σ w) := gX7_74 (σ := S g σ w) hM hW.2.2.1 hd (hW.2.2.2.1 31 (by decide)).1 h
theorem GX7_77 (hW : WM g σ) (hM : (mY M).cls = RX7) (hd : decode (mC M) pc = .ok (.getfield 77, 3)) (h : V E M d out (pc + 3) lv (.ref (g.1 133) :: st) (S g σ w)) : V E M d out pc lv (.ref (g.1 100) :: st) (S g σ w) := gX7_77 (σ := S g σ w) hM hW.2.2.1 hd (hW.2.2.2.1 32 (by decide)).1 h
theorem GX7_80 (hW : WM g σ) (hM : (mY M).cls = RX7) (hd : decode (mC M) pc = .ok (.getfield 80, 3)) (h : V E M d out (pc + 3) lv (.ref (g.1 134) :: st) (S g σ w)) : V E M d out pc lv (.ref (g.1 100) :: st) (S g σ w) := gX7_80 (σ := S g σ w) hM hW.2.2.1 hd (hW.2.2.2.1 33 (by decide)).1 h
theorem GX7_83 (hW : WM g σ) (hM : (mY M).cls = RX7) (hd : decode (mC M) pc = .ok (.getfield 83, 3)) (h : V E M d out (pc + 3) lv (.ref (g.1 135) :: st) (S g σ w)) : V E M d out pc lv (.ref (g.1 100) :: st) (S g σ w) := gX7_83 (σ := S g σ w) hM hW.2.2.1 hd (hW.2.2.2.1 34 (by decide)).1 h
theorem GX7_86 (hW : WM g σ) (hM : (mY M).cls = RX7) (hd : decode (mC M) pc = .ok (.getfield 86, 3)) (h : V E M d out (pc + 3) lv (.ref (g.1 136) :: st) (S g σ w)) : V E M d out pc lv (.ref (g.1 100) :: st) (S g σ w) := gX7_86 (σ := S g σ w) hM hW.2.2.1 hd (hW.2.2.2.1 35 (by decide)).1 h
theorem GX7_89 (hW : WM g σ) (hM : (mY M).cls = RX7) (hd : decode (mC M) pc = .ok (.getfield 89, 3)) (h : V E M d out (pc + 3) lv (.ref (g.1 137) :: st) (S g σ w)) : V E M d out pc lv (.ref (g.1 100) :: st) (S g σ w) := gX7_89 (σ := S g σ w) hM hW.2.2.1 hd (hW.2.2.2.1 36 (by decide)).1 h
theorem GX7_92 (hW : WM g σ) (hM : (mY M).cls = RX7) (hd : decode (mC M) pc = .ok (.getfield 92, 3)) (h : V E M d out (pc + 3) lv (.ref (g.1 138) :: st) (S g σ w)) : V E M d out pc lv (.ref (g.1 100) :: st) (S g σ w) := gX7_92 (σ := S g σ w) hM hW.2.2.1 hd (hW.2.2.2.1 37 (by decide)).1 h
theorem GX7_95 (hW : WM g σ) (hM : (mY M).cls = RX7) (hd : decode (mC M) pc = .ok (.getfield 95, 3)) (h : V E M d out (pc + 3) lv (.ref (g.1 139) :: st) (S g σ w)) : V E M d out pc lv (.ref (g.1 100) :: st) (S g σ w) := gX7_95 (σ := S g σ w) hM hW.2.2.1 hd (hW.2.2.2.1 38 (by decide)).1 h
theorem GX7_98 (hW : WM g σ) (hM : (mY M).cls = RX7) (hd : decode (mC M) pc = .ok (.getfield 98, 3)) (h : V E M d out (pc + 3) lv (.ref (g.1 140) :: st) (S g σ w)) : V E M d out pc lv (.ref (g.1 100) :: st) (S g σ w) := gX7_98 (σ := S g σ w) hM hW.2.2.1 hd (hW.2.2.2.1 39 (by decide)).1 h
theorem GX7_125 (hW : WM g σ) (hM : (mY M).cls = RX7) (hd : decode (mC M) pc = .ok (.getfield 125, 3)) (h : V E M d out (pc + 3) lv (.ref (g.1 145) :: st) (S g σ w)) : V E M d out pc lv (.ref (g.1 100) :: st) (S g σ w) := gX7_125 (σ := S g σ w) hM hW.2.2.1 hd hW.2.2.2.2.1 h
theorem GX7_129 (hW : WM g σ) (hM : (mY M).cls = RX7) (hd : decode (mC M) pc = .ok (.getfield 129, 3)) (h : V E M d out (pc + 3) lv (.ref (g.1 146) :: st) (S g σ w)) : V E M d out pc lv (.ref (g.1 100) :: st) (S g σ w) := gX7_129 (σ := S g σ w) hM hW.2.2.1 hd (hW.2.2.2.1 45 (by decide)).1 h
theorem GX7_132 (hW : WM g σ) (hM : (mY M).cls = RX7) (hd : decode (mC M) pc = .ok (.getfield 132, 3)) (h : V E M d out (pc + 3) lv (.ref (g.1 150) :: st) (S g σ w)) : V E M d out pc lv (.ref (g.1 100) :: st) (S g σ w) := gX7_132 (σ := S g σ w) hM hW.2.2.1 hd (hW.2.2.2.1 49 (by decide)).1 h
theorem GX7_135 (hW : WM g σ) (hM : (mY M).cls = RX7) (hd : decode (mC M) pc = .ok (.getfield 135, 3)) (h : V E M d out (pc + 3) lv (.ref (g.1 151) :: st) (S g σ w)) : V E M d out pc lv (.ref (g.1 100) :: st) (S g σ w) := gX7_135 (σ := S g σ w) hM hW.2.2.1 hd (hW.2.2.2.1 50 (by decide)).1 h
theorem GX7_138 (hW : WM g σ) (hM : (mY M).cls = RX7) (hd : decode (mC M) pc = .ok (.getfield 138, 3)) (h : V E M d out (pc + 3) lv (.ref (g.1 152) :: st) (S g σ w)) : V E M d out pc lv (.ref (g.1 100) :: st) (S g σ w) := gX7_138 (σ := S g σ w) hM hW.2.2.1 hd (hW.2.2.2.1 51 (by decide)).1 h
theorem GX7_141 (hW : WM g σ) (hM : (mY M).cls = RX7) (hd : decode (mC M) pc = .ok (.getfield 141, 3)) (h : V E M d out (pc + 3) lv (.ref (g.1 155) :: st) (S g σ w)) : V E M d out pc lv (.ref (g.1 100) :: st) (S g σ w) := gX7_141 (σ := S g σ w) hM hW.2.2.1 hd (hW.2.2.2.1 54 (by decide)).1 h
theorem GX7_144 (hW : WM g σ) (hM : (mY M).cls = RX7) (hd : decode (mC M) pc = .ok (.getfield 144, 3)) (h : V E M d out (pc + 3) lv (.ref (g.1 156) :: st) (S g σ w)) : V E M d out pc lv (.ref (g.1 100) :: st) (S g σ w) := gX7_144 (σ := S g σ w) hM hW.2.2.1 hd (hW.2.2.2.1 55 (by decide)).1 h
theorem GX7_147 (hW : WM g σ) (hM : (mY M).cls = RX7) (hd : decode (mC M) pc = .ok (.getfield 147, 3)) (h : V E M d out (pc + 3) lv (.ref (g.1 159) :: st) (S g σ w)) : V E M d out pc lv (.ref (g.1 100) :: st) (S g σ w) := gX7_147 (σ := S g σ w) hM hW.2.2.1 hd (hW.2.2.2.1 58 (by decide)).1 h
theorem GX7_156 (hW : WM g σ) (hM : (mY M).cls = RX7) (hd : decode (mC M) pc = .ok (.getfield 156, 3)) (h : V E M d out (pc + 3) lv (.int (w 100 3) :: st) (S g σ w)) : V E M d out pc lv (.ref (g.1 100) :: st) (S g σ w) := gX7_156 (σ := S g σ w) hM hW.2.2.1 hd (by rw [S_int hW.1 hW.m]; exact h)
theorem PX7_156 (hW : WM g σ) (hM : (mY M).cls = RX7) (hd : decode (mC M) pc = .ok (.putfield 156, 3)) {v : Int32} (h : V E M d out (pc + 3) lv st (S g σ (up2 w 100 3 v))) : V E M d out pc lv (.int v :: .ref (g.1 100) :: st) (S g σ w) := pX7_156 (σ := S g σ w) hM hW.2.2.1 (hW.1.2 _ hW.m) hd (by rw [S_put hW.1 hW.m]; exact h)
theorem GX7_179 (hW : WM g σ) (hM : (mY M).cls = RX7) (hd : decode (mC M) pc = .ok (.getfield 179, 3)) (h : V E M d out (pc + 3) lv (.int (w 100 24) :: st) (S g σ w)) : V E M d out pc lv (.ref (g.1 100) :: st) (S g σ w) := gX7_179 (σ := S g σ w) hM hW.2.2.1 hd (by rw [S_int hW.1 hW.m]; exact h)
theorem PX7_179 (hW : WM g σ) (hM : (mY M).cls = RX7) (hd : decode (mC M) pc = .ok (.putfield 179, 3)) {v : Int32} (h : V E M d out (pc + 3) lv st (S g σ (up2 w 100 24 v))) : V E M d out pc lv (.int v :: .ref (g.1 100) :: st) (S g σ w) := pX7_179 (σ := S g σ w) hM hW.2.2.1 (hW.1.2 _ hW.m) hd (by rw [S_put hW.1 hW.m]; exact h)
theorem GX7_197 (hW : WM g σ) (hM : (mY M).cls = RX7) (hd : decode (mC M) pc = .ok (.getfield 197, 3)) (h : V E M d out (pc + 3) lv (.int (w 100 10) :: st) (S g σ w)) : V E M d out pc lv (.ref (g.1 100) :: st) (S g σ w) := gX7_197 (σ := S g σ w) hM hW.2.2.1 hd (by rw [S_int hW.1 hW.m]; exact h)
theorem PX7_197 (hW : WM g σ) (hM : (mY M).cls = RX7) (hd : decode (mC M) pc = .ok (.putfield 197, 3)) {v : Int32} (h : V E M d out (pc + 3) lv st (S g σ (up2 w 100 10 v))) : V E M d out pc lv (.int v :: .ref (g.1 100) :: st) (S g σ w) := pX7_197 (σ := S g σ w) hM hW.2.2.1 (hW.1.2 _ hW.m) hd (by rw [S_put hW.1 hW.m]; exact h)
theorem GX7_200 (hW : WM g σ) (hM : (mY M).cls = RX7) (hd : decode (mC M) pc = .ok (.getfield 200, 3)) (h : V E M d out (pc + 3) lv (.int (w 100 14) :: st) (S g σ w)) : V E M d out pc lv (.ref (g.1 100) :: st) (S g σ w) := gX7_200 (σ := S g σ w) hM hW.2.2.1 hd (by rw [S_int hW.1 hW.m]; exact h)
theorem PX7_200 (hW : WM g σ) (hM : (mY M).cls = RX7) (hd : decode (mC M) pc = .ok (.putfield 200, 3)) {v : Int32} (h : V E M d out (pc + 3) lv st (S g σ (up2 w 100 14 v))) : V E M d out pc lv (.int v :: .ref (g.1 100) :: st) (S g σ w) := pX7_200 (σ := S g σ w) hM hW.2.2.1 (hW.1.2 _ hW.m) hd (by rw [S_put hW.1 hW.m]; exact h)
theorem GX7_203 (hW : WM g σ) (hM : (mY M).cls = RX7) (hd : decode (mC M) pc = .ok (.getfield 203, 3)) (h : V E M d out (pc + 3) lv (.int (w 100 22) :: st) (S g σ w)) : V E M d out pc lv (.ref (g.1 100) :: st) (S g σ w) := gX7_203 (σ := S g σ w) hM hW.2.2.1 hd (by rw [S_int hW.1 hW.m]; exact h)
theorem PX7_203 (hW : WM g σ) (hM : (mY M).cls = RX7) (hd : decode (mC M) pc = .ok (.putfield 203, 3)) {v : Int32} (h : V E M d out (pc + 3) lv st (S g σ (up2 w 100 22 v))) : V E M d out pc lv (.int v :: .ref (g.1 100) :: st) (S g σ w) := pX7_203 (σ := S g σ w) hM hW.2.2.1 (hW.1.2 _ hW.m) hd (by rw [S_put hW.1 hW.m]; exact h)
theorem GX7_206 (hW : WM g σ) (hM : (mY M).cls = RX7) (hd : decode (mC M) pc = .ok (.getfield 206, 3)) (h : V E M d out (pc + 3) lv (.int (w 100 18) :: st) (S g σ w)) : V E M d out pc lv (.ref (g.1 100) :: st) (S g σ w) := gX7_206 (σ := S g σ w) hM hW.2.2.1 hd (by rw [S_int hW.1 hW.m]; exact h)
theorem PX7_206 (hW : WM g σ) (hM : (mY M).cls = RX7) (hd : decode (mC M) pc = .ok (.putfield 206, 3)) {v : Int32} (h : V E M d out (pc + 3) lv st (S g σ (up2 w 100 18 v))) : V E M d out pc lv (.int v :: .ref (g.1 100) :: st) (S g σ w) := pX7_206 (σ := S g σ w) hM hW.2.2.1 (hW.1.2 _ hW.m) hd (by rw [S_put hW.1 hW.m]; exact h)
theorem GX7_211 (hW : WM g σ) (hM : (mY M).cls = RX7) (hd : decode (mC M) pc = .ok (.getfield 211, 3)) (h : V E M d out (pc + 3) lv (.int (w 100 40) :: st) (S g σ w)) : V E M d out pc lv (.ref (g.1 100) :: st) (S g σ w) := gX7_211 (σ := S g σ w) hM hW.2.2.1 hd (by rw [S_int hW.1 hW.m]; exact h)
theorem PX7_211 (hW : WM g σ) (hM : (mY M).cls = RX7) (hd : decode (mC M) pc = .ok (.putfield 211, 3)) {v : Int32} (h : V E M d out (pc + 3) lv st (S g σ (up2 w 100 40 v))) : V E M d out pc lv (.int v :: .ref (g.1 100) :: st) (S g σ w) := pX7_211 (σ := S g σ w) hM hW.2.2.1 (hW.1.2 _ hW.m) hd (by rw [S_put hW.1 hW.m]; exact h)
theorem GX7_214 (hW : WM g σ) (hM : (mY M).cls = RX7) (hd : decode (mC M) pc = .ok (.getfield 214, 3)) (h : V E M d out (pc + 3) lv (.int (w 100 41) :: st) (S g σ w)) : V E M d out pc lv (.ref (g.1 100) :: st) (S g σ w) := gX7_214 (σ := S g σ w) hM hW.2.2.1 hd (by rw [S_int hW.1 hW.m]; exact h)
theorem PX7_214 (hW : WM g σ) (hM : (mY M).cls = RX7) (hd : decode (mC M) pc = .ok (.putfield 214, 3)) {v : Int32} (h : V E M d out (pc + 3) lv st (S g σ (up2 w 100 41 v))) : V E M d out pc lv (.int v :: .ref (g.1 100) :: st) (S g σ w) := pX7_214 (σ := S g σ w) hM hW.2.2.1 (hW.1.2 _ hW.m) hd (by rw [S_put hW.1 hW.m]; exact h)
theorem GX7_217 (hW : WM g σ) (hM : (mY M).cls = RX7) (hd : decode (mC M) pc = .ok (.getfield 217, 3)) (h : V E M d out (pc + 3) lv (.int (w 100 42) :: st) (S g σ w)) : V E M d out pc lv (.ref (g.1 100) :: st) (S g σ w) := gX7_217 (σ := S g σ w) hM hW.2.2.1 hd (by rw [S_int hW.1 hW.m]; exact h)
theorem PX7_217 (hW : WM g σ) (hM : (mY M).cls = RX7) (hd : decode (mC M) pc = .ok (.putfield 217, 3)) {v : Int32} (h : V E M d out (pc + 3) lv st (S g σ (up2 w 100 42 v))) : V E M d out pc lv (.int v :: .ref (g.1 100) :: st) (S g σ w) := pX7_217 (σ := S g σ w) hM hW.2.2.1 (hW.1.2 _ hW.m) hd (by rw [S_put hW.1 hW.m]; exact h)
theorem GX7_220 (hW : WM g σ) (hM : (mY M).cls = RX7) (hd : decode (mC M) pc = .ok (.getfield 220, 3)) (h : V E M d out (pc + 3) lv (.int (w 100 43) :: st) (S g σ w)) : V E M d out pc lv (.ref (g.1 100) :: st) (S g σ w) := gX7_220 (σ := S g σ w) hM hW.2.2.1 hd (by rw [S_int hW.1 hW.m]; exact h)
theorem PX7_220 (hW : WM g σ) (hM : (mY M).cls = RX7) (hd : decode (mC M) pc = .ok (.putfield 220, 3)) {v : Int32} (h : V E M d out (pc + 3) lv st (S g σ (up2 w 100 43 v))) : V E M d out pc lv (.int v :: .ref (g.1 100) :: st) (S g σ w) := pX7_220 (σ := S g σ w) hM hW.2.2.1 (hW.1.2 _ hW.m) hd (by rw [S_put hW.1 hW.m]; exact h)
theorem GX7_227 (hW : WM g σ) (hM : (mY M).cls = RX7) (hd : decode (mC M) pc = .ok (.getfield 227, 3)) (h : V E M d out (pc + 3) lv (.int (w 100 48) :: st) (S g σ w)) : V E M d out pc lv (.ref (g.1 100) :: st) (S g σ w) := gX7_227 (σ := S g σ w) hM hW.2.2.1 hd (by rw [S_int hW.1 hW.m]; exact h)
theorem PX7_227 (hW : WM g σ) (hM : (mY M).cls = RX7) (hd : decode (mC M) pc = .ok (.putfield 227, 3)) {v : Int32} (h : V E M d out (pc + 3) lv st (S g σ (up2 w 100 48 v))) : V E M d out pc lv (.int v :: .ref (g.1 100) :: st) (S g σ w) := pX7_227 (σ := S g σ w) hM hW.2.2.1 (hW.1.2 _ hW.m) hd (by rw [S_put hW.1 hW.m]; exact h)
theorem GX7_230 (hW : WM g σ) (hM : (mY M).cls = RX7) (hd : decode (mC M) pc = .ok (.getfield 230, 3)) (h : V E M d out (pc + 3) lv (.int (w 100 46) :: st) (S g σ w)) : V E M d out pc lv (.ref (g.1 100) :: st) (S g σ w) := gX7_230 (σ := S g σ w) hM hW.2.2.1 hd (by rw [S_int hW.1 hW.m]; exact h)
theorem PX7_230 (hW : WM g σ) (hM : (mY M).cls = RX7) (hd : decode (mC M) pc = .ok (.putfield 230, 3)) {v : Int32} (h : V E M d out (pc + 3) lv st (S g σ (up2 w 100 46 v))) : V E M d out pc lv (.int v :: .ref (g.1 100) :: st) (S g σ w) := pX7_230 (σ := S g σ w) hM hW.2.2.1 (hW.1.2 _ hW.m) hd (by rw [S_put hW.1 hW.m]; exact h)
theorem GX7_236 (hW : WM g σ) (hM : (mY M).cls = RX7) (hd : decode (mC M) pc = .ok (.getfield 236, 3)) (h : V E M d out (pc + 3) lv (.int (w 100 47) :: st) (S g σ w)) : V E M d out pc lv (.ref (g.1 100) :: st) (S g σ w) := gX7_236 (σ := S g σ w) hM hW.2.2.1 hd (by rw [S_int hW.1 hW.m]; exact h)
theorem PX7_236 (hW : WM g σ) (hM : (mY M).cls = RX7) (hd : decode (mC M) pc = .ok (.putfield 236, 3)) {v : Int32} (h : V E M d out (pc + 3) lv st (S g σ (up2 w 100 47 v))) : V E M d out pc lv (.int v :: .ref (g.1 100) :: st) (S g σ w) := pX7_236 (σ := S g σ w) hM hW.2.2.1 (hW.1.2 _ hW.m) hd (by rw [S_put hW.1 hW.m]; exact h)
theorem GX7_319 (hW : WM g σ) (hM : (mY M).cls = RX7) (hd : decode (mC M) pc = .ok (.getfield 319, 3)) (h : V E M d out (pc + 3) lv (.int (w 100 52) :: st) (S g σ w)) : V E M d out pc lv (.ref (g.1 100) :: st) (S g σ w) := gX7_319 (σ := S g σ w) hM hW.2.2.1 hd (by rw [S_int hW.1 hW.m]; exact h)
theorem PX7_319 (hW : WM g σ) (hM : (mY M).cls = RX7) (hd : decode (mC M) pc = .ok (.putfield 319, 3)) {v : Int32} (h : V E M d out (pc + 3) lv st (S g σ (up2 w 100 52 v))) : V E M d out pc lv (.int v :: .ref (g.1 100) :: st) (S g σ w) := pX7_319 (σ := S g σ w) hM hW.2.2.1 (hW.1.2 _ hW.m) hd (by rw [S_put hW.1 hW.m]; exact h)
theorem GX7_322 (hW : WM g σ) (hM : (mY M).cls = RX7) (hd : decode (mC M) pc = .ok (.getfield 322, 3)) (h : V E M d out (pc + 3) lv (.long (sL σ (g.1 100) 53) :: st) (S g σ w)) : V E M d out pc lv (.ref (g.1 100) :: st) (S g σ w) := gX7_322 (σ := S g σ w) hM hW.2.2.1 hd h
theorem PX7_322 (hW : WM g σ) (hM : (mY M).cls = RX7) (hd : decode (mC M) pc = .ok (.putfield 322, 3)) {v : Int64} (h : V E M d out (pc + 3) lv st (S g (pL σ (g.1 100) 53 v) w)) : V E M d out pc lv (.long v :: .ref (g.1 100) :: st) (S g σ w) := pX7_322 (σ := S g σ w) hM hW.2.2.1 (hW.1.2 _ hW.m) hd h
theorem GX7_367 (hW : WM g σ) (hM : (mY M).cls = RX7) (hd : decode (mC M) pc = .ok (.getfield 367, 3)) (h : V E M d out (pc + 3) lv (.int (w 100 56) :: st) (S g σ w)) : V E M d out pc lv (.ref (g.1 100) :: st) (S g σ w) := gX7_367 (σ := S g σ w) hM hW.2.2.1 hd (by rw [S_int hW.1 hW.m]; exact h)
theorem PX7_367 (hW : WM g σ) (hM : (mY M).cls = RX7) (hd : decode (mC M) pc = .ok (.putfield 367, 3)) {v : Int32} (h : V E M d out (pc + 3) lv st (S g σ (up2 w 100 56 v))) : V E M d out pc lv (.int v :: .ref (g.1 100) :: st) (S g σ w) := pX7_367 (σ := S g σ w) hM hW.2.2.1 (hW.1.2 _ hW.m) hd (by rw [S_put hW.1 hW.m]; exact h)
theorem GX7_370 (hW : WM g σ) (hM : (mY M).cls = RX7) (hd : decode (mC M) pc = .ok (.getfield 370, 3)) (h : V E M d out (pc + 3) lv (.int (w 100 57) :: st) (S g σ w)) : V E M d out pc lv (.ref (g.1 100) :: st) (S g σ w) := gX7_370 (σ := S g σ w) hM hW.2.2.1 hd (by rw [S_int hW.1 hW.m]; exact h)
theorem PX7_370 (hW : WM g σ) (hM : (mY M).cls = RX7) (hd : decode (mC M) pc = .ok (.putfield 370, 3)) {v : Int32} (h : V E M d out (pc + 3) lv st (S g σ (up2 w 100 57 v))) : V E M d out pc lv (.int v :: .ref (g.1 100) :: st) (S g σ w) := pX7_370 (σ := S g σ w) hM hW.2.2.1 (hW.1.2 _ hW.m) hd (by rw [S_put hW.1 hW.m]; exact h)
theorem GX7_376 (hW : WM g σ) (hM : (mY M).cls = RX7) (hd : decode (mC M) pc = .ok (.getfield 376, 3)) (h : V E M d out (pc + 3) lv (.int (w 100 25) :: st) (S g σ w)) : V E M d out pc lv (.ref (g.1 100) :: st) (S g σ w) := gX7_376 (σ := S g σ w) hM hW.2.2.1 hd (by rw [S_int hW.1 hW.m]; exact h)
theorem PX7_376 (hW : WM g σ) (hM : (mY M).cls = RX7) (hd : decode (mC M) pc = .ok (.putfield 376, 3)) {v : Int32} (hn : narrow .boolean (.int v) = .int v ∧ fits .boolean (.int v) = true) (h : V E M d out (pc + 3) lv st (S g σ (up2 w 100 25 v))) : V E M d out pc lv (.int v :: .ref (g.1 100) :: st) (S g σ w) := pX7_376 (σ := S g σ w) hM hW.2.2.1 (hW.1.2 _ hW.m) hd hn (by rw [S_put hW.1 hW.m]; exact h)
theorem GX7_380 (hW : WM g σ) (hM : (mY M).cls = RX7) (hd : decode (mC M) pc = .ok (.getfield 380, 3)) (h : V E M d out (pc + 3) lv (.int (w 100 26) :: st) (S g σ w)) : V E M d out pc lv (.ref (g.1 100) :: st) (S g σ w) := gX7_380 (σ := S g σ w) hM hW.2.2.1 hd (by rw [S_int hW.1 hW.m]; exact h)
theorem PX7_380 (hW : WM g σ) (hM : (mY M).cls = RX7) (hd : decode (mC M) pc = .ok (.putfield 380, 3)) {v : Int32} (h : V E M d out (pc + 3) lv st (S g σ (up2 w 100 26 v))) : V E M d out pc lv (.int v :: .ref (g.1 100) :: st) (S g σ w) := pX7_380 (σ := S g σ w) hM hW.2.2.1 (hW.1.2 _ hW.m) hd (by rw [S_put hW.1 hW.m]; exact h)
theorem GX7_383 (hW : WM g σ) (hM : (mY M).cls = RX7) (hd : decode (mC M) pc = .ok (.getfield 383, 3)) (h : V E M d out (pc + 3) lv (.int (w 100 27) :: st) (S g σ w)) : V E M d out pc lv (.ref (g.1 100) :: st) (S g σ w) := gX7_383 (σ := S g σ w) hM hW.2.2.1 hd (by rw [S_int hW.1 hW.m]; exact h)
theorem PX7_383 (hW : WM g σ) (hM : (mY M).cls = RX7) (hd : decode (mC M) pc = .ok (.putfield 383, 3)) {v : Int32} (h : V E M d out (pc + 3) lv st (S g σ (up2 w 100 27 v))) : V E M d out pc lv (.int v :: .ref (g.1 100) :: st) (S g σ w) := pX7_383 (σ := S g σ w) hM hW.2.2.1 (hW.1.2 _ hW.m) hd (by rw [S_put hW.1 hW.m]; exact h)
theorem GX7_386 (hW : WM g σ) (hM : (mY M).cls = RX7) (hd : decode (mC M) pc = .ok (.getfield 386, 3)) (h : V E M d out (pc + 3) lv (.int (w 100 28) :: st) (S g σ w)) : V E M d out pc lv (.ref (g.1 100) :: st) (S g σ w) := gX7_386 (σ := S g σ w) hM hW.2.2.1 hd (by rw [S_int hW.1 hW.m]; exact h)
theorem PX7_386 (hW : WM g σ) (hM : (mY M).cls = RX7) (hd : decode (mC M) pc = .ok (.putfield 386, 3)) {v : Int32} (h : V E M d out (pc + 3) lv st (S g σ (up2 w 100 28 v))) : V E M d out pc lv (.int v :: .ref (g.1 100) :: st) (S g σ w) := pX7_386 (σ := S g σ w) hM hW.2.2.1 (hW.1.2 _ hW.m) hd (by rw [S_put hW.1 hW.m]; exact h)
end

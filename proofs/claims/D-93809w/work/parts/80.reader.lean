set_option maxRecDepth 100000
set_option maxHeartbeats 1000000
/-! ===== the reader at r: heaps with its fields laid over ===== -/
theorem sg_ext {σ τ : Sg} (h1 : sN σ = sN τ) (h2 : sS σ = sS τ) (h3 : sT σ = sT τ) (h4 : sI σ = sI τ) (h5 : sL σ = sL τ) (h6 : sR σ = sR τ) : σ = τ := by
  obtain ⟨a, b, c, d, e, f⟩ := σ
  obtain ⟨a', b', c', d', e', f'⟩ := τ
  simp only [sN, sS, sT, sI, sL, sR] at h1 h2 h3 h4 h5 h6
  subst h1 h2 h3 h4 h5 h6
  rfl
def rdI (I : Nat → Nat → Int32) (r : Nat) (a f o n s : Int32) : Nat → Nat → Int32 := fun b j => if b = r then (if j = 2 then a else if j = 3 then f else if j = 4 then o else if j = 6 then n else if j = 7 then s else I b j) else I b j
def rdR (R : Nat → Nat → Option Nat) (r : Nat) (w : Option Nat) : Nat → Nat → Option Nat := fun b j => if b = r ∧ j = 5 then w else R b j
def rdS (σ : Sg) (r : Nat) (a f o n s : Int32) (w : Option Nat) : Sg := (sN σ, sS σ, sT σ, rdI (sI σ) r a f o n s, sL σ, rdR (sR σ) r w)
section
variable {σ : Sg} {r : Nat} {a f o n s : Int32} {w : Option Nat}
theorem rd_ne {b : Nat} (h : b ≠ r) : sI (rdS σ r a f o n s w) b = sI σ b ∧ sR (rdS σ r a f o n s w) b = sR σ b := by
  constructor
  · funext j; show rdI (sI σ) r a f o n s b j = _; unfold rdI; rw [if_neg h]
  · funext j; show rdR (sR σ) r w b j = _; unfold rdR; rw [if_neg (fun z => h z.1)]
theorem rd_1 : sI (rdS σ r a f o n s w) r 1 = sI σ r 1 := by show rdI (sI σ) r a f o n s r 1 = _; simp [rdI]
theorem rd_0 : sR (rdS σ r a f o n s w) r 0 = sR σ r 0 := by show rdR (sR σ) r w r 0 = _; simp [rdR]
theorem rd_2 : sI (rdS σ r a f o n s w) r 2 = a := by show rdI (sI σ) r a f o n s r 2 = _; simp [rdI]
theorem rd_3 : sI (rdS σ r a f o n s w) r 3 = f := by show rdI (sI σ) r a f o n s r 3 = _; simp [rdI]
theorem rd_4 : sI (rdS σ r a f o n s w) r 4 = o := by show rdI (sI σ) r a f o n s r 4 = _; simp [rdI]
theorem rd_6 : sI (rdS σ r a f o n s w) r 6 = n := by show rdI (sI σ) r a f o n s r 6 = _; simp [rdI]
theorem rd_7 : sI (rdS σ r a f o n s w) r 7 = s := by show rdI (sI σ) r a f o n s r 7 = _; simp [rdI]
theorem rd_5 : sR (rdS σ r a f o n s w) r 5 = w := by show rdR (sR σ) r w r 5 = _; simp [rdR]
theorem up_rdI {I : Nat → Nat → Int32} {k : Nat} {v : Int32} (h : k = 2 ∨ k = 3 ∨ k = 4 ∨ k = 6 ∨ k = 7) : up2 (rdI I r a f o n s) r k v = rdI I r (if k = 2 then v else a) (if k = 3 then v else f) (if k = 4 then v else o) (if k = 6 then v else n) (if k = 7 then v else s) := by
  funext b j
  unfold up2 rdI
  by_cases hb : b = r
  · subst hb
    rcases h with rfl | rfl | rfl | rfl | rfl <;> (by_cases h2 : j = 2 <;> by_cases h3 : j = 3 <;> by_cases h4 : j = 4 <;> by_cases h6 : j = 6 <;> by_cases h7 : j = 7 <;> simp_all)
  · rw [if_neg (fun z => hb z.1), if_neg hb, if_neg hb]
theorem rd_p {k : Nat} {v : Int32} (h : k = 2 ∨ k = 3 ∨ k = 4 ∨ k = 6 ∨ k = 7) : pI (rdS σ r a f o n s w) r k v = rdS σ r (if k = 2 then v else a) (if k = 3 then v else f) (if k = 4 then v else o) (if k = 6 then v else n) (if k = 7 then v else s) w :=
  sg_ext rfl rfl rfl (up_rdI h) rfl rfl
theorem rd_p2 {v : Int32} : pI (rdS σ r a f o n s w) r 2 v = rdS σ r v f o n s w := rd_p (.inl rfl)
theorem rd_p3 {v : Int32} : pI (rdS σ r a f o n s w) r 3 v = rdS σ r a v o n s w := rd_p (.inr (.inl rfl))
theorem rd_p4 {v : Int32} : pI (rdS σ r a f o n s w) r 4 v = rdS σ r a f v n s w := rd_p (.inr (.inr (.inl rfl)))
theorem rd_p6 {v : Int32} : pI (rdS σ r a f o n s w) r 6 v = rdS σ r a f o v s w := rd_p (.inr (.inr (.inr (.inl rfl))))
theorem rd_p7 {v : Int32} : pI (rdS σ r a f o n s w) r 7 v = rdS σ r a f o n v w := rd_p (.inr (.inr (.inr (.inr rfl))))
theorem rd_pw {v : Option Nat} : pR (rdS σ r a f o n s w) r 5 v = rdS σ r a f o n s v := sg_ext rfl rfl rfl rfl rfl (by
  funext b j
  show up2 (rdR (sR σ) r w) r 5 v b j = rdR (sR σ) r v b j
  unfold up2 rdR
  by_cases h : b = r ∧ j = 5
  · rw [if_pos h, if_pos h]
  · rw [if_neg h, if_neg h, if_neg h])
theorem rd_nW {t : Nat × Nat} {k : Nat} (h : r ≠ sN σ) : nW (rdS σ r a f o n s w) t k = rdS (nW σ t k) r a f o n s w := sg_ext rfl rfl rfl (by
    funext b j
    show up1 (rdI (sI σ) r a f o n s) (sN σ) (fun _ => 0) b j = rdI (up1 (sI σ) (sN σ) (fun _ => 0)) r a f o n s b j
    unfold up1 rdI
    by_cases hb : b = r
    · subst hb; simp [h]
    · simp [hb]) rfl (by
    funext b j
    show up1 (rdR (sR σ) r w) (sN σ) (fun _ => none) b j = rdR (up1 (sR σ) (sN σ) (fun _ => none)) r w b j
    unfold up1 rdR
    by_cases hb : b = r
    · subst hb; simp [h]
    · simp [hb])
theorem rd_pI {b k : Nat} {v : Int32} (h : b ≠ r) : pI (rdS σ r a f o n s w) b k v = rdS (pI σ b k v) r a f o n s w := sg_ext rfl rfl rfl (by
    funext c j
    show up2 (rdI (sI σ) r a f o n s) b k v c j = rdI (up2 (sI σ) b k v) r a f o n s c j
    unfold up2 rdI
    by_cases hb : c = r
    · subst hb; rw [if_neg (fun z => h z.1.symm), if_pos rfl, if_pos rfl]; simp [Ne.symm h]
    · rw [if_neg hb, if_neg hb]) rfl rfl
theorem rd_pR {b k : Nat} {v : Option Nat} (h : b ≠ r) : pR (rdS σ r a f o n s w) b k v = rdS (pR σ b k v) r a f o n s w := sg_ext rfl rfl rfl rfl rfl (by
    funext c j
    show up2 (rdR (sR σ) r w) b k v c j = rdR (up2 (sR σ) b k v) r w c j
    unfold up2 rdR
    by_cases hb : c = r
    · subst hb; simp [Ne.symm h]
    · simp [hb])
theorem rd_rd {a' f' o' n' s' : Int32} {w' : Option Nat} : rdS (rdS σ r a f o n s w) r a' f' o' n' s' w' = rdS σ r a' f' o' n' s' w' := sg_ext rfl rfl rfl (by
    funext b j
    show rdI (rdI (sI σ) r a f o n s) r a' f' o' n' s' b j = rdI (sI σ) r a' f' o' n' s' b j
    unfold rdI
    by_cases hb : b = r
    · subst hb
      simp only [if_true]
      by_cases h2 : j = 2 <;> by_cases h3 : j = 3 <;> by_cases h4 : j = 4 <;> by_cases h6 : j = 6 <;> by_cases h7 : j = 7 <;> simp_all
    · rw [if_neg hb, if_neg hb, if_neg hb]) rfl (by
    funext b j
    show rdR (rdR (sR σ) r w) r w' b j = rdR (sR σ) r w' b j
    unfold rdR
    by_cases h : b = r ∧ j = 5
    · rw [if_pos h, if_pos h]
    · rw [if_neg h, if_neg h, if_neg h])
/-- what grows over a reader's heap grows under it -/
theorem rd_fg {τ : Sg} {b c : Nat} (ht : (sT σ r).1 ≠ 0) (h : FG (rdS σ r a f o n s w) τ b c) : ∃ σ', τ = rdS σ' r a f o n s w ∧ FG σ σ' b c := by
  have hr := h.2.2.2 r ht
  refine ⟨(sN τ, sS τ, sT τ, fun x j => if x = r then sI σ r j else sI τ x j, sL τ, fun x j => if x = r then sR σ r j else sR τ x j), sg_ext rfl rfl rfl ?_ rfl ?_, h.1, h.2.1, h.2.2.1, fun x hx => ?_⟩
  · funext x j
    show sI τ x j = rdI (fun x j => if x = r then sI σ r j else sI τ x j) r a f o n s x j
    unfold rdI
    by_cases hb : x = r
    · subst hb
      rw [if_pos rfl, hr.2.2.1]
      show rdI (sI σ) x a f o n s x j = _
      unfold rdI
      simp
    · rw [if_neg hb]; simp [hb]
  · funext x j
    show sR τ x j = rdR (fun x j => if x = r then sR σ r j else sR τ x j) r w x j
    unfold rdR
    by_cases hb : x = r
    · subst hb
      rw [hr.2.1]
      show rdR (sR σ) x w x j = _
      unfold rdR
      simp
    · rw [if_neg (fun z => hb z.1)]; simp [hb]
  · obtain ⟨q1, q2, q3, q4⟩ := h.2.2.2 x hx
    refine ⟨q1, ?_, ?_, q4⟩
    · funext j
      show (if x = r then sR σ r j else sR τ x j) = sR σ x j
      by_cases hb : x = r
      · rw [if_pos hb, hb]
      · rw [if_neg hb, q2, (rd_ne hb).2]
    · funext j
      show (if x = r then sI σ r j else sI τ x j) = sI σ x j
      by_cases hb : x = r
      · rw [if_pos hb, hb]
      · rw [if_neg hb, q3, (rd_ne hb).1]
theorem Stg.rd {b : Nat} {L : List Int32} (ht : (sT σ r).1 = 3) : Stg (rdS σ r a f o n s w) b L ↔ Stg σ b L := by
  unfold Stg
  constructor
  · rintro ⟨h1, h2, v, h3, h4, h5⟩
    have e1 : b ≠ r := fun z => by rw [z] at h1; exact absurd (ht.symm.trans h1) (by decide)
    have e2 : v ≠ r := fun z => by rw [z] at h4; have : (sT σ r).1 = 102 := by rw [show sT σ r = _ from h4]
                                   rw [ht] at this; exact absurd this (by decide)
    rw [(rd_ne e1).1] at h2
    rw [(rd_ne e1).2] at h3
    rw [(rd_ne e2).1] at h5
    exact ⟨h1, h2, v, h3, h4, h5⟩
  · rintro ⟨h1, h2, v, h3, h4, h5⟩
    have e1 : b ≠ r := fun z => by rw [z] at h1; exact absurd (ht.symm.trans h1) (by decide)
    have e2 : v ≠ r := fun z => by rw [z] at h4; have : (sT σ r).1 = 102 := by rw [h4]
                                   rw [ht] at this; exact absurd this (by decide)
    rw [(rd_ne e1).1, (rd_ne e1).2]
    exact ⟨h1, h2, v, h3, h4, by rw [(rd_ne e2).1]; exact h5⟩
end
/-- what a reader reads: N bytes B -/
def RB (σ : Sg) (r N : Nat) (B : Nat → Int32) : Prop := (sT σ r).1 = 3 ∧ 1000 ≤ r ∧ sI σ r 1 = nI N ∧ N ≤ 160 ∧ (∀ i, i < N → ∃ k, k < 256 ∧ B i = nI k) ∧ ∃ tb cap, tb ≠ r ∧ sR σ r 0 = some tb ∧ sT σ tb = (102, cap) ∧ N ≤ cap ∧ cap ≤ 1000 ∧ ∀ i, i < N → sI σ tb i &&& 255 = B i
theorem RB.fg {σ σ' : Sg} {r N b c : Nat} {B : Nat → Int32} (h : RB σ r N B) (hF : FG σ σ' b c) : RB σ' r N B := by
  obtain ⟨h1, h2, h3, h4, h5, tb, cap, k1, k2, k3, k4, k5, k6⟩ := h
  have t := hF.2.2.2 r (by rw [h1]; decide)
  have t' := hF.2.2.2 tb (by rw [k3]; exact (by decide : (102 : Nat) ≠ 0))
  exact ⟨by rw [t.1]; exact h1, h2, by rw [t.2.2.1]; exact h3, h4, h5, tb, cap, k1, by rw [t.2.1]; exact k2, by rw [t'.1]; exact k3, k4, k5, by rw [t'.2.2.1]; exact k6⟩
section
variable {E : En} {M : Mi} {d : Nat} {out : Out} {pc : Nat} {lv : List (Option Value)} {st : List Value} {σ : Sg} {r : Nat} {a f o n s : Int32} {w : Option Nat}
theorem gR1 {N : Nat} {B : Nat → Int32} (hB : RB σ r N B) (hM : (mY M).cls = RX2) (hd : decode (mC M) pc = .ok (.getfield 25, 3)) (h : V E M d out (pc + 3) lv (.int (nI N) :: st) (rdS σ r a f o n s w)) : V E M d out pc lv (.ref r :: st) (rdS σ r a f o n s w) := gX2_25 (σ := rdS σ r a f o n s w) hM hB.1 hd (by rw [rd_1, hB.2.2.1]; exact h)
theorem gR2 (ht : (sT σ r).1 = 3) (hM : (mY M).cls = RX2) (hd : decode (mC M) pc = .ok (.getfield 9, 3)) (h : V E M d out (pc + 3) lv (.int a :: st) (rdS σ r a f o n s w)) : V E M d out pc lv (.ref r :: st) (rdS σ r a f o n s w) := gX2_9 (σ := rdS σ r a f o n s w) hM ht hd (by rw [rd_2]; exact h)
theorem gR3 (ht : (sT σ r).1 = 3) (hM : (mY M).cls = RX2) (hd : decode (mC M) pc = .ok (.getfield 15, 3)) (h : V E M d out (pc + 3) lv (.int f :: st) (rdS σ r a f o n s w)) : V E M d out pc lv (.ref r :: st) (rdS σ r a f o n s w) := gX2_15 (σ := rdS σ r a f o n s w) hM ht hd (by rw [rd_3]; exact h)
theorem gR4 (ht : (sT σ r).1 = 3) (hM : (mY M).cls = RX2) (hd : decode (mC M) pc = .ok (.getfield 18, 3)) (h : V E M d out (pc + 3) lv (.int o :: st) (rdS σ r a f o n s w)) : V E M d out pc lv (.ref r :: st) (rdS σ r a f o n s w) := gX2_18 (σ := rdS σ r a f o n s w) hM ht hd (by rw [rd_4]; exact h)
theorem gR6 (ht : (sT σ r).1 = 3) (hM : (mY M).cls = RX2) (hd : decode (mC M) pc = .ok (.getfield 41, 3)) (h : V E M d out (pc + 3) lv (.int n :: st) (rdS σ r a f o n s w)) : V E M d out pc lv (.ref r :: st) (rdS σ r a f o n s w) := gX2_41 (σ := rdS σ r a f o n s w) hM ht hd (by rw [rd_6]; exact h)
theorem gR7 (ht : (sT σ r).1 = 3) (hM : (mY M).cls = RX2) (hd : decode (mC M) pc = .ok (.getfield 44, 3)) (h : V E M d out (pc + 3) lv (.int s :: st) (rdS σ r a f o n s w)) : V E M d out pc lv (.ref r :: st) (rdS σ r a f o n s w) := gX2_44 (σ := rdS σ r a f o n s w) hM ht hd (by rw [rd_7]; exact h)
theorem gR5 (ht : (sT σ r).1 = 3) (hM : (mY M).cls = RX2) (hd : decode (mC M) pc = .ok (.getfield 37, 3)) (h : V E M d out (pc + 3) lv (va_rf w :: st) (rdS σ r a f o n s w)) : V E M d out pc lv (.ref r :: st) (rdS σ r a f o n s w) := goX2_37 (σ := rdS σ r a f o n s w) hM ht hd (by rw [rd_5]; exact h)
theorem pR2 (ht : (sT σ r).1 = 3) (hr : 1000 ≤ r) (hM : (mY M).cls = RX2) (hd : decode (mC M) pc = .ok (.putfield 9, 3)) {v : Int32} (h : V E M d out (pc + 3) lv st (rdS σ r v f o n s w)) : V E M d out pc lv (.int v :: .ref r :: st) (rdS σ r a f o n s w) := pX2_9 (σ := rdS σ r a f o n s w) hM ht hr hd (by rw [rd_p2]; exact h)
theorem pR3 (ht : (sT σ r).1 = 3) (hr : 1000 ≤ r) (hM : (mY M).cls = RX2) (hd : decode (mC M) pc = .ok (.putfield 15, 3)) {v : Int32} (h : V E M d out (pc + 3) lv st (rdS σ r a v o n s w)) : V E M d out pc lv (.int v :: .ref r :: st) (rdS σ r a f o n s w) := pX2_15 (σ := rdS σ r a f o n s w) hM ht hr hd (by rw [rd_p3]; exact h)
theorem pR4 (ht : (sT σ r).1 = 3) (hr : 1000 ≤ r) (hM : (mY M).cls = RX2) (hd : decode (mC M) pc = .ok (.putfield 18, 3)) {v : Int32} (h : V E M d out (pc + 3) lv st (rdS σ r a f v n s w)) : V E M d out pc lv (.int v :: .ref r :: st) (rdS σ r a f o n s w) := pX2_18 (σ := rdS σ r a f o n s w) hM ht hr hd (by rw [rd_p4]; exact h)
theorem pR6 (ht : (sT σ r).1 = 3) (hr : 1000 ≤ r) (hM : (mY M).cls = RX2) (hd : decode (mC M) pc = .ok (.putfield 41, 3)) {v : Int32} (h : V E M d out (pc + 3) lv st (rdS σ r a f o v s w)) : V E M d out pc lv (.int v :: .ref r :: st) (rdS σ r a f o n s w) := pX2_41 (σ := rdS σ r a f o n s w) hM ht hr hd (by rw [rd_p6]; exact h)
theorem pR7 (ht : (sT σ r).1 = 3) (hr : 1000 ≤ r) (hM : (mY M).cls = RX2) (hd : decode (mC M) pc = .ok (.putfield 44, 3)) {v : Int32} (h : V E M d out (pc + 3) lv st (rdS σ r a f o n v w)) : V E M d out pc lv (.int v :: .ref r :: st) (rdS σ r a f o n s w) := pX2_44 (σ := rdS σ r a f o n s w) hM ht hr hd (by rw [rd_p7]; exact h)
theorem pR5n (ht : (sT σ r).1 = 3) (hr : 1000 ≤ r) (hM : (mY M).cls = RX2) (hd : decode (mC M) pc = .ok (.putfield 37, 3)) (h : V E M d out (pc + 3) lv st (rdS σ r a f o n s none)) : V E M d out pc lv (.null :: .ref r :: st) (rdS σ r a f o n s w) := pnX2_37 (σ := rdS σ r a f o n s w) hM ht hr hd (by rw [rd_pw]; exact h)
theorem pR5r (ht : (sT σ r).1 = 3) (hr : 1000 ≤ r) (hM : (mY M).cls = RX2) (hd : decode (mC M) pc = .ok (.putfield 37, 3)) {b : Nat} (h : V E M d out (pc + 3) lv st (rdS σ r a f o n s (some b))) : V E M d out pc lv (.ref b :: .ref r :: st) (rdS σ r a f o n s w) := pX2_37 (σ := rdS σ r a f o n s w) hM ht hr hd (by rw [rd_pw]; exact h)
end
/-- what stands at a place -/
def hrF (B : Nat → Int32) (N a : Nat) : Int32 := if a < N then B a else -1
theorem c_X2_here {E : En} {σ : Sg} {r N : Nat} {B : Nat → Int32} (hB : RB σ r N B) {a : Nat} (ha : a ≤ N) {f o n s : Int32} {w : Option Nat} : Ct E mX2_here 0 [.ref r] (.returned (some (.int (hrF B N a))), rdS σ r (nI a) f o n s w) (rdS σ r (nI a) f o n s w) := by
  have hN := hB.2.2.2.1
  obtain ⟨tb, cap, k1, k2, k3, k4, k5, k6⟩ := hB.2.2.2.2.2
  show V E mX2_here 0 _ 0 [some (.ref r)] [] (rdS σ r (nI a) f o n s w)
  refine V.ald0 dX2_here_0 (gR2 hB.1 rfl dX2_here_1 (V.ald0 dX2_here_4 (gR1 hB rfl dX2_here_5 (V.icmp_ge (tgt := 27) dX2_here_8 (by decide) (fun z => ?_) (fun z => ?_)))))
  · have h9 := (nI_leI (by omega) (by omega)).mp z
    unfold hrF
    rw [if_neg (by omega)]
    exact V.iconst_m1 dX2_here_27 (V.iret dX2_here_28 rfl rfl rfl)
  · have h9 : a < N := by
      rcases Nat.lt_or_ge a N with h | h
      · exact h
      · exact absurd ((nI_leI (by omega) (by omega)).mpr h) z
    refine V.ald0 dX2_here_11 (gX2_21 (σ := rdS σ r (nI a) f o n s w) rfl hB.1 dX2_here_12 (by rw [rd_0]; exact k2) (V.ald0 dX2_here_15 (gR2 hB.1 rfl dX2_here_16 (V.bald (σ := rdS σ r (nI a) f o n s w) k3 (IX.n (j := a) (by omega) (by omega)) dX2_here_19 (V.sipush (v := 255) dX2_here_20 (by decide) (V.iand dX2_here_23 (V.goto (tgt := 28) dX2_here_24 (by decide) ?_)))))))
    rw [(rd_ne k1).1, k6 a h9]
    exact V.iret dX2_here_28 rfl rfl (by unfold hrF; rw [if_pos h9])
/-- a Fault is made -/
def flt (σ : Sg) (x : Int32) : Sg := pI (nW σ (4, 0) 7) (sN σ) 6 x
theorem flt_t {σ : Sg} {x : Int32} : (sT (flt σ x) (sN σ)).1 = 4 := by
  show (up1 (sT σ) (sN σ) (4, 0) (sN σ)).1 = 4
  rw [up1_eq]
theorem flt_c {σ : Sg} {x : Int32} : sI (flt σ x) (sN σ) 6 = x := up2_eq _ _ _ _
theorem FG.flt {σ : Sg} (hC : CLN σ) {x : Int32} : FG σ (flt σ x) 1 7 := (FG.n hC).pI (hC _ (Nat.le_refl _))
theorem rd_flt {σ : Sg} {r : Nat} {a f o n s x : Int32} {w : Option Nat} (h : r ≠ sN σ) : flt (rdS σ r a f o n s w) x = rdS (flt σ x) r a f o n s w := by
  unfold flt
  rw [rd_nW h]
  exact rd_pI (Ne.symm h)
theorem c_X2_fault {E : En} (hU : EU E) {σ : Sg} (h1 : 1000 ≤ sN σ) {r : Nat} (ht : (sT σ r).1 = 3) (hr : r ≠ sN σ) {a f o n s : Int32} {w : Option Nat} : Ct E mX2_fault 5 [.ref r] (.returned (some (.ref (sN σ))), rdS (flt σ f) r a f o n s w) (rdS σ r a f o n s w) := by
  show V E mX2_fault 5 _ 0 [some (.ref r)] [] (rdS σ r a f o n s w)
  refine nX2_28 (σ := rdS σ r a f o n s w) rfl dX2_fault_0 ?_
  rw [rd_nW hr]
  have ht' : (sT (nW σ (4, 0) 7) r).1 = 3 := by
    show (up1 (sT σ) (sN σ) (4, 0) r).1 = 3
    rw [up1_ne _ _ hr]; exact ht
  have h0 : ∀ k, k < 4 → sR (rdS (nW σ (4, 0) 7) r a f o n s w) (sN σ) k = none := fun k _ => by rw [(rd_ne (Ne.symm hr)).2]; exact nX_0
  refine V.dup dX2_fault_3 (V.ald0 dX2_fault_4 (gR3 ht' rfl dX2_fault_5 (V.invI1v iX2_30 dX2_fault_8 (c_X3_init (σ := rdS (nW σ (4, 0) 7) r a f o n s w) hU h1 (show (sT (nW σ (4, 0) 7) (sN σ)).1 = 4 by rw [nX_t]) h0) ?_)))
  rw [rd_pI (Ne.symm hr)]
  exact V.aret (o := some (sN σ)) dX2_fault_11 rfl rfl rfl

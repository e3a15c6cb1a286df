set_option maxRecDepth 100000
set_option maxHeartbeats 4000000
/-! ===== heaps alike at all that has a tag ===== -/
def GE (H H' : Sg) : Prop := sN H' = sN H ∧ sS H' = sS H ∧ sT H' = sT H ∧ ∀ a, (sT H a).1 ≠ 0 → sI H' a = sI H a ∧ sR H' a = sR H a ∧ sL H' a = sL H a
theorem GE.rfl {H : Sg} : GE H H := ⟨_root_.rfl, _root_.rfl, _root_.rfl, fun _ _ => ⟨_root_.rfl, _root_.rfl, _root_.rfl⟩⟩
theorem fv_ge {E : En} {σ σ' : Sg} {a : Nat} (h1 : sI σ' a = sI σ a) (h2 : sR σ' a = sR σ a) (h3 : sL σ' a = sL σ a) (ty : FieldType) (j : Nat) : fv E σ' ty a j = fv E σ ty a j := by
  unfold fv
  cases ty <;> simp only [h1, h2, h3]
theorem V.ge {E : En} {M : Mi} {d : Nat} {out : Out} {pc : Nat} {lv : List (Option Value)} {st : List Value} {σ σ' : Sg} (h : GE σ σ') (hV : V E M d out pc lv st σ') : V E M d out pc lv st σ :=
  V.gh h.1 h.2.1 (fun H P => P.gh h.1 h.2.2.1 (fun c r a k h1 _ _ _ => by
    obtain ⟨q1, q2, q3⟩ := h.2.2.2 a (by rw [h1]; omega)
    exact fv_ge q1 q2 q3 _ _) (fun t a j h1 _ _ => by
    obtain ⟨q1, q2, q3⟩ := h.2.2.2 a (by rw [h1]; omega)
    exact fv_ge q1 q2 q3 _ _)) hV
theorem VE.ge {E : En} {M : Mi} {d : Nat} {P : Outcome → Sg → Prop} {pc : Nat} {lv : List (Option Value)} {st : List Value} {σ σ' : Sg} (h : GE σ σ') (hV : VE E M d P pc lv st σ') : VE E M d P pc lv st σ := by
  obtain ⟨out, h1, h2⟩ := hV
  exact ⟨out, h1, h2.ge h⟩
theorem CtE.w {E : En} {M : Mi} {d : Nat} {As : List Value} {P P' : Outcome → Sg → Prop} {σ : Sg} (h : CtE E M d As P σ) (hP : ∀ o s, P o s → P' o s) : CtE E M d As P' σ := by
  obtain ⟨out, h1, h2⟩ := h
  exact ⟨out, hP _ _ h1, h2⟩
theorem Ct.e {E : En} {M : Mi} {d : Nat} {As : List Value} {out : Out} {P : Outcome → Sg → Prop} {σ : Sg} (h : Ct E M d As out σ) (hP : P out.1 out.2) : CtE E M d As P σ := ⟨out, hP, h⟩
/-! ===== two worlds in one heap ===== -/
def AP (g g' : Ge) : Prop := ∀ k, k ∈ g.2 → ∀ l, l ∈ g'.2 → g.1 k ≠ g'.1 l
theorem S_comm {g g' : Ge} (hA : AP g g') (σ : Sg) (w w' : Wv) : S g (S g' σ w') w = S g' (S g σ w) w' := by
  refine sg_ext rfl rfl rfl ?_ rfl rfl
  show vset g (vset g' (sI σ) w') w = vset g' (vset g (sI σ) w) w'
  funext b j
  unfold vset
  cases h1 : g.2.find? (fun k => g.1 k == b) with
  | none => rfl
  | some k =>
    cases h2 : g'.2.find? (fun k => g'.1 k == b) with
    | none => rfl
    | some l =>
      have a1 := List.mem_of_find?_eq_some h1
      have a2 := List.find?_some h1
      have b1 := List.mem_of_find?_eq_some h2
      have b2 := List.find?_some h2
      simp only [beq_iff_eq] at a2 b2
      exact absurd (a2.trans b2.symm) (hA k a1 l b1)
/-- the law's state: x's hall is u, m's world is wm -/
def LV (E : En) (X : Ge) (M : Nat) (σ : Sg) (wx u wm : Wv) (n : Nat) (K : Nat → Nat) : Prop :=
  (XH X σ wx u n K ∧ XG X n ∧ 46 ∉ X.2 ∧ LD X σ n ∧ 1000 ≤ X.1 48 ∧ TXR X σ wm) ∧ (WM (mG M) σ ∧ HW (mG M) σ ∧ HA wm) ∧ (CLN σ ∧ GB X σ ∧ GB (mG M) σ ∧ AP X (mG M)) ∧ (OSo E σ ∧ BC E σ ∧ EMP E σ) ∧ 1000 ≤ sN σ
section
variable {E : En} {X : Ge} {M : Nat} {σ : Sg} {wx u wm : Wv} {n : Nat} {K : Nat → Nat}
theorem WM.lt3 (h : WM (mG M) σ) {k : Nat} (hk : k ∈ (mG M).2) (x1 : mlv k = true) : (sT σ ((mG M).1 k)).1 = 8 ∨ (sT σ ((mG M).1 k)).1 = 101 ∨ (sT σ ((mG M).1 k)).1 = 103 := by
  obtain ⟨k1, k2⟩ := mG_m.mp hk
  by_cases e1 : k = 100
  · rw [e1]; exact .inl h.2.2.1
  · by_cases e2 : k = 145
    · rw [e2, h.2.2.2.2.2]; exact .inr (.inr rfl)
    · obtain ⟨f, rfl⟩ : ∃ f, k = 101 + f := ⟨k - 101, by omega⟩
      have hf : mlen f ≠ 0 := (show ∀ f, f < 59 → mlv (101 + f) = true → 101 + f ≠ 145 → mlen f ≠ 0 by decide +kernel) f (by omega) x1 e2
      rw [(h.2.2.2.1 f hf).2]; exact .inr (.inl rfl)
theorem WM.lt (h : WM (mG M) σ) {k : Nat} (hk : k ∈ (mG M).2) (x1 : mlv k = true) : (sT σ ((mG M).1 k)).1 ≠ 0 := by
  have := h.lt3 hk x1
  omega
/-- m's names have tags of their own -/
theorem WM.tg (h : WM (mG M) σ) (hC : CLN σ) (hB : sN σ ≤ 2000000) {a : Nat} (ha : (sT σ a).1 = 5 ∨ (sT σ a).1 = 6 ∨ (sT σ a).1 = 7 ∨ (sT σ a).1 = 105 ∨ (sT σ a).1 = 106) : NA (mG M) a := by
  intro k hk z
  obtain ⟨k1, k2⟩ := mG_m.mp hk
  cases x1 : mlv k
  · have := hC a (by rw [← z, mG_gh x1]; omega)
    omega
  · have ht := h.lt3 hk x1
    rw [z] at ht
    omega
theorem LV.kt (h : LV E X M σ wx u wm n K) (hB : sN σ ≤ 2000000) (w : Wv) : KT X σ (S (mG M) σ w) := fun a ha => by
  refine ⟨rfl, rfl, ?_⟩
  have hN : NA (mG M) a := by
    refine h.2.1.1.tg h.2.2.1.1 hB ?_
    rcases ha with q | q | q | q | q
    · exact .inl q
    · exact .inr (.inl q)
    · exact .inr (.inr (.inl q))
    · exact .inr (.inr (.inr (.inl q)))
    · rw [q, h.1.1.1.2.2.2.2.2.2.2]; simp
  funext j
  exact hN.i j
/-- the heap grows -/
theorem LV.fg (h : LV E X M σ wx u wm n K) {σ1 : Sg} {b c : Nat} (hF : FG σ σ1 b c) : LV E X M σ1 wx u wm n K := by
  obtain ⟨⟨hX, hG, h46, hLD, h48, hR⟩, ⟨hW, hHW, hA⟩, ⟨hC, hB1, hB2, hAP⟩, ⟨hO, hBC, hE⟩, h1⟩ := h
  have k := hF.2.2.2
  have hN := hF.1.1
  refine ⟨⟨hX.fg hF, hG, h46, ?_, h48, hR.k (fun a ha => ?_)⟩, ⟨⟨hW.1, hW.2.1, ?_, fun f hf => ?_, ?_, ?_⟩, fun q hq => ?_, hA⟩, ⟨hF.2.2.1, fun q hq => ?_, fun q hq => ?_, hAP⟩, ⟨hO.fg hF, hBC.fg hF, hE.fg hF⟩, by omega⟩
  · rcases hLD with z | ⟨z1, z2, z3⟩
    · exact .inl z
    · exact .inr ⟨z1, z2, by rw [(k _ (by rw [z3]; decide)).1]; exact z3⟩
  · have ht : (sT σ a).1 ≠ 0 := by
      rcases ha with q | q | q | q | q
      · omega
      · omega
      · omega
      · omega
      · rw [q, hX.1.2.2.2.2.2.2.2]; decide
    exact ⟨(k a ht).1, (k a ht).2.1, (k a ht).2.2.1⟩
  · rw [(k _ (by rw [hW.2.2.1]; decide)).1]; exact hW.2.2.1
  · obtain ⟨q1, q2⟩ := hW.2.2.2.1 f hf
    rw [(k _ (by rw [hW.2.2.1]; decide)).2.1, (k ((mG M).1 (101 + f)) (by rw [q2]; simp)).1]
    exact ⟨q1, q2⟩
  · rw [(k _ (by rw [hW.2.2.1]; decide)).2.1]; exact hW.2.2.2.2.1
  · rw [(k _ (by rw [hW.2.2.2.2.2]; decide)).1]; exact hW.2.2.2.2.2
  · rw [(k _ (by rw [hW.2.2.2.2.2]; decide)).2.2.2]; exact hHW q hq
  · rcases hB1 q hq with z | z
    · exact .inl (by omega)
    · exact .inr z
  · rcases hB2 q hq with z | z
    · exact .inl (by omega)
    · exact .inr z
/-- x's world has moved -/
theorem LV.x (h : LV E X M σ wx u wm n K) {wx' u' : Wv} (hX : XH X σ wx' u' n K) : LV E X M σ wx' u' wm n K := ⟨⟨hX, h.1.2⟩, h.2⟩
/-- m's world has moved to where x's stands -/
theorem LV.m (h : LV E X M σ wx u wm n K) {w' : Wv} (hc : cv w' = cv u) (hA : HA u) (hD : CDS wm u) : LV E X M σ wx w' w' n K := by
  obtain ⟨⟨hX, hG, h46, hLD, h48, hR⟩, ⟨hW, hHW, -⟩, h3⟩ := h
  refine ⟨⟨hX.cv hc.symm, hG, h46, hLD, h48, hR.of ?_ ?_ ?_⟩, ⟨hW, hHW, hA.cg hc⟩, h3⟩
  · exact (cv_at hc).trans hD.1
  · exact (funext fun j => cv_at hc).trans hD.2.1
  · exact (funext fun j => cv_at hc).trans hD.2.2
theorem LV.R (h : LV E X M σ wx u wm n K) (hB : sN σ ≤ 2000000) : TXR X (S (mG M) σ wm) wm := h.1.2.2.2.2.2.k (h.kt hB wm)
/-- after a call of x: m's world as it was -/
def XQ (E : En) (X : Ge) (M : Nat) (σ : Sg) (wm u' : Wv) : Sg → Prop := fun s => ∃ (X' : Ge) (σ1 : Sg) (wx' : Wv) (n' : Nat) (K' : Nat → Nat), GE s (S X' (S (mG M) σ1 wm) wx') ∧ LV E X' M σ1 wx' u' wm n' K' ∧ X'.1 0 = X.1 0 ∧ (sN σ ≤ sN σ1 ∧ sN σ1 ≤ sN σ + 3260) ∧ sS σ ≤ sS σ1 ∧ sS σ1 ≤ sS σ + 16300
/-- after a call of m: x's world as it was -/
def MQM (E : En) (X : Ge) (M : Nat) (σ : Sg) (wx : Wv) (n : Nat) (K : Nat → Nat) : Sg → Prop := fun s => ∃ (σ1 : Sg) (w' : Wv), s = S X (S (mG M) σ1 w') wx ∧ LV E X M σ1 wx w' w' n K ∧ sN σ1 = sN σ ∧ sS σ1 = sS σ
theorem XQ.i (h : LV E X M σ wx u wm n K) {wx' u' : Wv} (hX : XH X (S (mG M) σ wm) wx' u' n K) : XQ E X M σ wm u' (S X (S (mG M) σ wm) wx') := ⟨X, σ, wx', n, K, GE.rfl, h.x hX, rfl, ⟨Nat.le_refl _, by omega⟩, Nat.le_refl _, by omega⟩
/-- x's call has let the heap grow -/
theorem XQ.g (h : LV E X M σ wx u wm n K) (hB : sN σ + 3260 ≤ 2000000) {σ' : Sg} {wx' u' : Wv} {b c : Nat} (hF : FG (S (mG M) σ wm) σ' b c) (hX : XH X σ' wx' u' n K) (hb : b ≤ 3260) (hc : c ≤ 16300) : XQ E X M σ wm u' (S X σ' wx') := by
  have hW := h.2.1.1
  obtain ⟨σ1, w', rfl, hF1, hk⟩ := S_fg hW.1 hF
  have hL := h.fg hF1
  have hL2 : LV E X M σ1 wx' u' wm n K := hL.x hX
  have n1 := hF1.1
  have n2 := hF1.2.1
  refine ⟨X, σ1, wx', n, K, ?_, hL2, rfl, ⟨n1.1, by omega⟩, n2.1, by omega⟩
  refine ⟨rfl, rfl, rfl, fun a ha => ⟨?_, rfl, rfl⟩⟩
  have ha' : (sT σ1 a).1 ≠ 0 := ha
  show vset X (vset (mG M) (sI σ1) wm) wx' a = vset X (vset (mG M) (sI σ1) w') wx' a
  have e : vset (mG M) (sI σ1) wm a = vset (mG M) (sI σ1) w' a := by
    funext j
    unfold vset
    cases hf : (mG M).2.find? (fun k => (mG M).1 k == a) with
    | none => rfl
    | some k =>
      have a1 := List.mem_of_find?_eq_some hf
      have a2 := List.find?_some hf
      simp only [beq_iff_eq] at a2
      have hlv : (sT σ ((mG M).1 k)).1 ≠ 0 := by
        cases x1 : mlv k
        · exfalso
          apply ha'
          have := hF1.2.2.1 a (by rw [← a2, mG_gh x1]; omega)
          exact this
        · exact hW.lt a1 x1
      show wm k j = w' k j
      rw [hk k (.inr hlv)]
  funext j
  unfold vset at e ⊢
  cases hf : X.2.find? (fun k => X.1 k == a) with
  | none => exact congrFun e j
  | some k => rfl
end

set_option maxRecDepth 100000
set_option maxHeartbeats 1000000
def cpW (w : Wv) (a sp b dp m : Nat) : Wv := fun id j => if id = b ∧ dp ≤ j ∧ j < dp + m then w a (sp + (j - dp)) else w id j
theorem cpW_0 {w : Wv} {a sp b dp : Nat} : cpW w a sp b dp 0 = w := by funext id j; unfold cpW; rw [if_neg (by omega)]
theorem cpW_s {w : Wv} {a sp b dp m : Nat} : cpW w a sp b dp (m + 1) = up2 (cpW w a sp b dp m) b (dp + m) (w a (sp + m)) := by
  funext id j
  by_cases e : id = b ∧ j = dp + m
  · obtain ⟨rfl, rfl⟩ := e
    rw [up2_eq]
    unfold cpW
    rw [if_pos ⟨rfl, by omega, by omega⟩, show sp + (dp + m - dp) = sp + m by omega]
  · rw [up2_ne _ _ e]
    unfold cpW
    by_cases e2 : id = b ∧ dp ≤ j ∧ j < dp + m
    · rw [if_pos e2, if_pos ⟨e2.1, e2.2.1, by omega⟩]
    · rw [if_neg e2, if_neg (fun z => e2 ⟨z.1, z.2.1, by have := z.2.2; have : ¬ j = dp + m := fun q => e ⟨z.1, q⟩; omega⟩)]
theorem cpW_ne {w : Wv} {a sp b dp m id : Nat} (h : id ≠ b) : cpW w a sp b dp m id = w id := by funext j; unfold cpW; rw [if_neg (fun z => h z.1)]
theorem cpW_at {w : Wv} {a sp b m j : Nat} (h : j < m) : cpW w a sp b 0 m b j = w a (sp + j) := by unfold cpW; rw [if_pos ⟨rfl, by omega, by omega⟩]; rfl
section
variable {E : En} {M : Mi} {d : Nat} {out : Out} {pc : Nat} {lv : List (Option Value)} {st : List Value} {σ : Sg} {g : Ge} {w u : Wv} {n : Nat} {K : Nat → Nat}
theorem S_cp (hg : Gok g) {a b sp dp m : Nat} (ha : a ∈ g.2) (hb : b ∈ g.2) : wI (S g σ w) (cpI (sI (S g σ w)) (g.1 a) sp (g.1 b) dp m) = S g σ (cpW w a sp b dp m) := by
  show wI σ (cpI (vset g (sI σ) w) (g.1 a) sp (g.1 b) dp m) = wI σ (vset g (sI σ) (cpW w a sp b dp m))
  congr 1
  induction m with
  | zero =>
    rw [cpW_0]
    funext x j
    unfold cpI
    rw [if_neg (by omega)]
  | succ m ih =>
    rw [cpW_s, ← vset_put hg hb, ← ih]
    funext x j
    by_cases e : x = g.1 b ∧ j = dp + m
    · obtain ⟨rfl, rfl⟩ := e
      rw [up2_eq]
      unfold cpI
      rw [if_pos ⟨rfl, by omega, by omega⟩, show sp + (dp + m - dp) = sp + m by omega]
      exact congrFun (vset_at hg ha) _
    · rw [up2_ne _ _ e]
      unfold cpI
      by_cases e2 : x = g.1 b ∧ dp ≤ j ∧ j < dp + m
      · rw [if_pos e2, if_pos ⟨e2.1, e2.2.1, by omega⟩]
      · rw [if_neg e2, if_neg (fun z => e2 ⟨z.1, z.2.1, by have := z.2.2; have : ¬ j = dp + m := fun q => e ⟨z.1, q⟩; omega⟩)]
theorem cl314 : CL RX0 314 := ⟨q1276, q367, q366, q105⟩
/-- System.arraycopy in x's world -/
theorem V.xcopy {ida idb na nb t sp dp m : Nat} {isp idp inn : Int32} (hg : Gok g) (hM : (mY M).cls = RX0) (ha : ida ∈ g.2) (hb : idb ∈ g.2) (ht1 : sT σ (g.1 ida) = (t + 1, na)) (ht2 : sT σ (g.1 idb) = (t + 1, nb)) (h1 : 100 ≤ t) (h2 : t < 102) (e1 : isp = nI sp) (e2 : idp = nI dp) (e3 : inn = nI m) (hs : sp + m ≤ na) (hdn : dp + m ≤ nb) (hna : na ≤ 2000) (hnb : nb ≤ 2000)
    (hfit : t = 100 ∨ ∀ i, i < m → fits (aTy t) (.int (w ida (sp + i))) = true) (hd : decode (mC M) pc = .ok (.invokestatic 314, 3)) (h : V E M d out (pc + 3) lv st (S g σ (cpW w ida sp idb dp m))) (hdd : Nat.blt 0 d = true := by rfl) (hst : Nat.ble (st.map fun v => v.category).sum 8 = true := by first | rfl | (simp [va_rf_cat]; done)) : V E M d out pc lv (.int inn :: .int idp :: .ref (g.1 idb) :: .int isp :: .ref (g.1 ida) :: st) (S g σ w) :=
  V.acopy (σ := S g σ w) (by rw [hM]; exact cl314) ht1 ht2 h1 h2 (hg.2 _ hb) e1 e2 e3 hs hdn (by omega) (by omega) (hfit.imp id (fun z i hi => by rw [S_int hg ha]; exact z i hi)) hd (by rw [S_cp hg ha hb]; exact h) hdd hst
theorem xsc_xi {a b : Nat} (hs : xsc a b = true) : xi a b = none := by
  simp only [xsc, Bool.or_eq_true, Bool.and_eq_true, beq_iff_eq] at hs
  rcases hs with ((((((h9 | h9) | h9) | h9) | h9) | h9) | ⟨h9, ((((h8 | h8) | h8) | h8) | h8)⟩) <;> subst h9 <;> first | (subst h8; rfl) | (simp [xi]; done)
theorem XH.scG {w' : Wv} (h : XH g σ w u n K) (hw : ∀ a b, xsc a b = false → w' a b = w a b) : XH g σ w' u n K := by
  obtain ⟨h1, h2, h3, h4⟩ := h
  obtain ⟨k1, k2, k3, k4⟩ := h2
  have nx : ∀ a b q, xi a b = some q → xsc a b = false := fun a b q hq => by
    cases hs : xsc a b with
    | false => rfl
    | true => rw [xsc_xi hs] at hq; cases hq
  refine ⟨h1, ⟨fun id j q hq => (k1 id j q hq).trans (hw _ _ (nx _ _ _ (xm_xi hq).1)).symm, ?_, ?_, fun k hk => by rw [hw 39 k (by simp [xsc])]; exact k4 k hk⟩, ⟨h3.1, (hw 45 2 rfl).trans h3.2⟩, fun i hi => ⟨(h4 i hi).1, (hw _ _ (by simp [xsc]; omega)).trans (h4 i hi).2⟩⟩
  · unfold hatP at k2 ⊢; rw [hw 0 25 rfl, hw 0 26 rfl]; exact k2
  · unfold imgP at k3 ⊢; rw [hw 0 33 rfl]; exact k3
theorem XH.cps (h : XH g σ w u n K) {a sp b dp m : Nat} (hb : ∀ j, xsc b j = true) : XH g σ (cpW w a sp b dp m) u n K := h.scG (fun c e hc => by
  by_cases z : c = b
  · rw [z, hb] at hc; cases hc
  · rw [cpW_ne z])
theorem XH.cp (h : XH g σ w u n K) {id a sp b dp : Nat} (hid : Nat.beq id 100 = false) : ∀ m, (∀ j, j < m → xm id j = some (b, dp + j)) → XH g σ (cpW w a sp b dp m) (fA id m (fun j => w a (sp + j)) u) n K
  | 0, _ => by rw [cpW_0, fA_0]; exact h
  | m + 1, hm => by
    rw [cpW_s, ← fA_s (d := id) (k := m) (f := fun j => w a (sp + j)) (v := w a (sp + m)) rfl]
    exact (XH.cp h hid m (fun j hj => hm j (by omega))).up (hm m (by omega)) (by rw [hid]; rfl)
theorem fA_back {u0 u1 : Wv} {id m : Nat} {f : Nat → Int32} (h : ∀ i j, ¬ (i = id ∧ j < m) → u1 i j = u0 i j) (hf : ∀ j, j < m → f j = u0 id j) : fA id m f u1 = u0 := by
  funext i j
  by_cases e : i = id ∧ j < m
  · rw [e.1, fA_at e.2]; exact hf j e.2
  · unfold fA; rw [if_neg e]; exact h i j e
theorem TXR.of {u' : Wv} (h : TXR g σ u) (h21 : u' 100 21 = u 100 21) (h0 : u' 120 = u 120) (h1 : u' 121 = u 121) : TXR g σ u' := by
  intro t ht
  rw [nT, h21] at ht
  obtain ⟨A, a1, a2, a3⟩ := h t ht
  refine ⟨A, a1, a2, fun p hp => ?_⟩
  obtain ⟨b, f, b1, b2, b3⟩ := a3 p hp
  refine ⟨b, f, b1, b2, ?_⟩
  rw [show codeL u' t p = codeL u t p by unfold codeL tB; rw [h0, h1]]
  exact b3
theorem TXR.up (h : TXR g σ u) {id j : Nat} {x : Int32} (hid : ¬ (id = 100 ∨ id = 120 ∨ id = 121)) : TXR g σ (up2 u id j x) := h.of (up2_ne _ _ (fun z => hid (.inl z.1.symm))) (up2_at _ _ (fun z => hid (.inr (.inl z.symm)))) (up2_at _ _ (fun z => hid (.inr (.inr z.symm))))
theorem TXR.f (h : TXR g σ u) {id m : Nat} {f : Nat → Int32} (hid : ¬ (id = 100 ∨ id = 120 ∨ id = 121)) : TXR g σ (fA id m f u) := h.of (fA_ne (fun z => hid (.inl z.symm))) (funext fun _ => fA_ne (fun z => hid (.inr (.inl z.symm)))) (funext fun _ => fA_ne (fun z => hid (.inr (.inr z.symm))))
theorem HE.up {u : Wv} (h : HE u) {id j : Nat} {x : Int32} (hid : ¬ (id = 101 ∨ id = 102 ∨ id = 103 ∨ id = 107 ∨ id = 108)) : HE (up2 u id j x) := by
  refine ⟨fun k hk => ?_, fun r hr => ?_⟩
  · rw [up2_ne _ _ (fun z => hid (.inl z.1.symm)), up2_ne _ _ (fun z => hid (.inr (.inl z.1.symm))), up2_ne _ _ (fun z => hid (.inr (.inr (.inl z.1.symm))))]; exact h.1 k hk
  · rw [up2_ne _ _ (fun z => hid (.inr (.inr (.inr (.inl z.1.symm))))), up2_ne _ _ (fun z => hid (.inr (.inr (.inr (.inr z.1.symm)))))]; exact h.2 r hr
theorem HE.up8 {u : Wv} (h : HE u) {r a : Nat} (ha : a ≤ 99) : HE (up2 u 108 r (nI a)) := by
  refine ⟨fun k hk => ?_, fun q hq => ?_⟩
  · rw [up2_ne _ _ (fun z => absurd z.1 (by decide)), up2_ne _ _ (fun z => absurd z.1 (by decide)), up2_ne _ _ (fun z => absurd z.1 (by decide))]; exact h.1 k hk
  · rw [up2_ne _ _ (fun z => absurd z.1 (by decide))]
    refine ⟨(h.2 q hq).1, ?_⟩
    by_cases e : q = r
    · rw [e, up2_eq]; exact ⟨a, ha, rfl⟩
    · rw [up2_ne _ _ (fun z => e z.2)]; exact (h.2 q hq).2
theorem HE.f8 {u : Wv} (h : HE u) {m : Nat} {f : Nat → Int32} (hf : ∀ r, r < m → r < 6 → ∃ a, a ≤ 99 ∧ f r = nI a) : HE (fA 108 m f u) := by
  refine ⟨fun k hk => ?_, fun q hq => ?_⟩
  · rw [fA_ne (by decide), fA_ne (by decide), fA_ne (by decide)]; exact h.1 k hk
  · rw [fA_ne (by decide)]
    refine ⟨(h.2 q hq).1, ?_⟩
    by_cases e : q < m
    · rw [fA_at e]; exact hf q e hq
    · rw [fA_ge e]; exact (h.2 q hq).2
end
theorem up2_self {w : Wv} {a b : Nat} : up2 w a b (w a b) = w := by
  funext i j
  by_cases e : i = a ∧ j = b
  · rw [e.1, e.2, up2_eq]
  · rw [up2_ne _ _ e]
theorem abs_law {x a : Int32} (h1 : -1000 < x.toInt) (h2 : x.toInt < 1000) (h3 : 0 ≤ a.toInt) (h4 : a.toInt < 1000) : absI x ≤ a ↔ (decide (a < x) || decide (x < -a)) = false := by
  have en : (-a).toInt = -a.toInt := by rw [Int32.toInt_neg, Int.bmod_def]; split <;> omega
  have ex : (-x).toInt = -x.toInt := by rw [Int32.toInt_neg, Int.bmod_def]; split <;> omega
  rw [Bool.or_eq_false_iff, decide_eq_false_iff_not, decide_eq_false_iff_not, Int32.lt_iff_toInt_lt, Int32.lt_iff_toInt_lt, en, Int32.le_iff_toInt_le]
  unfold absI
  by_cases h : x < 0
  · rw [if_pos h, ex]
    rw [Int32.lt_iff_toInt_lt, Int32.toInt_zero] at h
    omega
  · rw [if_neg h]
    rw [Int32.lt_iff_toInt_lt, Int32.toInt_zero] at h
    omega
theorem stp_b {u : Wv} (hE : HE u) {r : Nat} (hr : r < 6) : -1000 < (stpS u r).toInt ∧ (stpS u r).toInt < 1000 := by
  obtain ⟨a, ha, e⟩ := (hE.2 r hr).2
  obtain ⟨b, hb, e2⟩ : ∃ b, b ≤ 99 ∧ (if r = 0 then 0 else u 108 (r - 1)) = nI b := by
    by_cases h : r = 0
    · exact ⟨0, by omega, by rw [if_pos h]; rfl⟩
    · rw [if_neg h]; exact (hE.2 (r - 1) (by omega)).2
  rw [stpS, e, e2, Int32.toInt_sub, nI_toInt (by omega), nI_toInt (by omega), Int.bmod_def]
  split <;> omega
theorem c_X0_lawful {E : En} {g : Ge} {σ : Sg} {w u : Wv} {n : Nat} {K : Nat → Nat} (hX : XH g σ w u n K) (hE : HE u) {a : Int32} : Ct E mX0_lawful 1 [.ref (g.1 0), .int a] (.returned (some (.int (lawfulR u a))), S g σ w) (S g σ w) := by
  show V E mX0_lawful 1 _ 0 [some (.ref (g.1 0)), some (.int a), none] [] (S g σ w)
  refine V.ild1 dX0_lawful_0 (V.i2l dX0_lawful_1 (V.lconst_0 dX0_lawful_2 (V.ldc2_w q994 dX0_lawful_3 (V.invS3r sX0_112 dX0_lawful_6 (in_c (lo := 0) (hi := 99) rfl rfl) (V.ifb_ne (tgt := 15) dX0_lawful_9 (by decide) (fun c_9 => ?_) (fun c_9 => ?_))))))
  · refine V.iconst_0 dX0_lawful_15 (V.ist2 dX0_lawful_16 ?_)
    obtain ⟨a', ha', rfl⟩ := (inB_n (n := 100) (by decide)).mp c_9
    have ha : 0 ≤ (nI a').toInt ∧ (nI a').toInt < 1000 := by rw [nI_toInt (by omega)]; omega
    have h6 := hX.2.2.1.1
    rw [lawfulR, if_pos c_9, hX.nrw]
    generalize nI a' = a at ha ⊢
    have L17 : ∀ (m r : Nat), r + m = n → V E mX0_lawful 1 (.returned (some (.int (ffI (fun r => decide (a < stpS u r) || decide (stpS u r < -a)) r m))), S g σ w) 17 [some (.ref (g.1 0)), some (.int (a)), some (.int (nI r))] [] (S g σ w) := by
      intro m
      induction m with
      | zero =>
        intro r hk 
        refine V.ild2 dX0_lawful_17 (V.ald0 dX0_lawful_18 (GX0_22 hX rfl dX0_lawful_19 (V.invV0r vX0_142 hX.li.2.1 dX0_lawful_22 (c_J2_size hX) (V.icmp_ge (tgt := 66) dX0_lawful_25 (by decide) (fun c_25 => ?_) (fun c_25 => absurd (by exact nI_le (by omega) (by omega)) c_25)))))
        exact V.iconst_m1 dX0_lawful_66 (V.iret dX0_lawful_67 rfl rfl (by rw [ffI_0]))
      | succ m ih =>
        intro r hk 
        have hr : r < n := by omega
        have hb := stp_b hE (hX.n6 hr)
        refine V.ild2 dX0_lawful_17 (V.ald0 dX0_lawful_18 (GX0_22 hX rfl dX0_lawful_19 (V.invV0r vX0_142 hX.li.2.1 dX0_lawful_22 (c_J2_size hX) (V.icmp_ge (tgt := 66) dX0_lawful_25 (by decide) (fun c_25 => absurd c_25 (by first | exact nI_ge (by omega) (by omega) | exact fun h9 => absurd ((nI_leI (by omega) (by omega)).mp h9) (by omega))) (fun c_25 => ?_)))))
        refine V.ald0 dX0_lawful_28 (GX0_26 hX rfl dX0_lawful_29 (V.ild2 dX0_lawful_32 (aX4 hX (IX.n (hX.n6 hr) (by decide)) dX0_lawful_33 (V.ild2 dX0_lawful_34 (V.if_ne (tgt := 42) dX0_lawful_35 (by decide) (fun c_35 => ?_) (fun c_35 => ?_))))))
        · refine V.ald0 dX0_lawful_42 (GX0_26 hX rfl dX0_lawful_43 (V.ild2 dX0_lawful_46 (V.iconst_1 dX0_lawful_47 (V.isub dX0_lawful_48 (aX4 (j := r - 1) hX (IX.of (nI_prd c_35).1 (by have := hX.n6 hr; omega) (by decide)) dX0_lawful_49 (V.isub dX0_lawful_50 (V.invS1r sX0_223 dX0_lawful_51 c_J10_abs (V.ild1 dX0_lawful_54 (V.icmp_le (tgt := 60) dX0_lawful_55 (by decide) (fun c_55 => ?_) (fun c_55 => ?_))))))))))
          · refine V.inc2 dX0_lawful_60 (V.goto (tgt := 17) dX0_lawful_63 (by decide) ?_)
            rw [nI_1, ffI_s, if_neg (by rw [Bool.not_eq_true]; exact (abs_law hb.1 hb.2 ha.1 ha.2).mp (by unfold stpS; first | (rw [if_pos (rz c_35 (hX.n6 hr))]; exact Int32.not_lt.mp c_55) | (rw [if_neg (nI_prd c_35).2]; exact Int32.not_lt.mp c_55) | (rw [if_pos (rz c_35 (hX.n6 hr))]; exact c_55) | (rw [if_neg (nI_prd c_35).2]; exact c_55)))]
            exact ih (r + 1) (by omega)
          · exact V.ild2 dX0_lawful_58 (V.iret dX0_lawful_59 rfl rfl (by rw [ffI_s, if_pos (by rw [← Bool.not_eq_false]; exact fun z => absurd ((abs_law hb.1 hb.2 ha.1 ha.2).mpr z) (by unfold stpS; first | (rw [if_pos (rz c_35 (hX.n6 hr))]; exact c_55) | (rw [if_neg (nI_prd c_35).2]; exact c_55)))]))
        · refine V.iconst_0 dX0_lawful_38 (V.goto (tgt := 50) dX0_lawful_39 (by decide) (V.isub dX0_lawful_50 (V.invS1r sX0_223 dX0_lawful_51 c_J10_abs (V.ild1 dX0_lawful_54 (V.icmp_le (tgt := 60) dX0_lawful_55 (by decide) (fun c_55 => ?_) (fun c_55 => ?_))))))
          · refine V.inc2 dX0_lawful_60 (V.goto (tgt := 17) dX0_lawful_63 (by decide) ?_)
            rw [nI_1, ffI_s, if_neg (by rw [Bool.not_eq_true]; exact (abs_law hb.1 hb.2 ha.1 ha.2).mp (by unfold stpS; first | (rw [if_pos (rz c_35 (hX.n6 hr))]; exact Int32.not_lt.mp c_55) | (rw [if_neg (nI_prd c_35).2]; exact Int32.not_lt.mp c_55) | (rw [if_pos (rz c_35 (hX.n6 hr))]; exact c_55) | (rw [if_neg (nI_prd c_35).2]; exact c_55)))]
            exact ih (r + 1) (by omega)
          · exact V.ild2 dX0_lawful_58 (V.iret dX0_lawful_59 rfl rfl (by rw [ffI_s, if_pos (by rw [← Bool.not_eq_false]; exact fun z => absurd ((abs_law hb.1 hb.2 ha.1 ha.2).mpr z) (by unfold stpS; first | (rw [if_pos (rz c_35 (hX.n6 hr))]; exact c_55) | (rw [if_neg (nI_prd c_35).2]; exact c_55)))]))
    exact L17 n 0 (by omega)
  · exact V.bipush (v := (-2)) dX0_lawful_12 (by decide) (V.iret dX0_lawful_14 rfl rfl (by simp only [lawfulR, c_9, if_true, if_false, Bool.false_eq_true, eq_self, and_true, true_and, and_false, false_and, Bool.and_true, Bool.true_and, Bool.and_false, Bool.false_and, Bool.not_true, Bool.not_false, not_true_eq_false, not_false_eq_true, ne_eq, b2i_t, b2i_f]))

theorem flat0 {u : Wv} {r : Nat} (h : u 108 r ≤ 0) : b2i (decide (¬ u 108 r ≤ 0) && decide (¬ stpS u r = 0)) = 0 := by rw [decide_eq_false (fun z => z h)]; rfl
theorem flat1 {u : Wv} {r : Nat} (h : ¬ u 108 r ≤ 0) (h0 : r = 0) : b2i (decide (¬ u 108 r ≤ 0) && decide (¬ stpS u r = 0)) = 1 := by
  rw [decide_eq_true h, decide_eq_true (show ¬ stpS u r = 0 from fun z => by rw [stpS, if_pos h0, Int32.sub_zero] at z; exact h (by rw [z]; decide))]; rfl
theorem sub0 {a b : Int32} : a - b = 0 ↔ b = a := by
  constructor
  · intro h
    have : a - b + b = 0 + b := by rw [h]
    rw [Int32.sub_add_cancel, Int32.zero_add] at this
    exact this.symm
  · intro h; rw [h, Int32.sub_self]
theorem flat2 {u : Wv} {r : Nat} (h : ¬ u 108 r ≤ 0) (h0 : ¬ r = 0) (h1 : u 108 (r - 1) = u 108 r) : b2i (decide (¬ u 108 r ≤ 0) && decide (¬ stpS u r = 0)) = 0 := by
  rw [decide_eq_false (show ¬ ¬ stpS u r = 0 from fun z => z (by rw [stpS, if_neg h0]; exact sub0.mpr h1)), Bool.and_false]; rfl
theorem flat3 {u : Wv} {r : Nat} (h : ¬ u 108 r ≤ 0) (h0 : ¬ r = 0) (h1 : ¬ u 108 (r - 1) = u 108 r) : b2i (decide (¬ u 108 r ≤ 0) && decide (¬ stpS u r = 0)) = 1 := by
  rw [decide_eq_true h, decide_eq_true (show ¬ stpS u r = 0 from fun z => h1 (by rw [stpS, if_neg h0] at z; exact sub0.mp z))]; rfl
theorem c_X0_flat {E : En} {g : Ge} {σ : Sg} {w u : Wv} {n : Nat} {K : Nat → Nat} (hX : XH g σ w u n K)  : Ct E mX0_flat 1 [.ref (g.1 0)] (.returned (some (.int (flatR u))), S g σ w) (S g σ w) := by
  show V E mX0_flat 1 _ 0 [some (.ref (g.1 0)), none, none] [] (S g σ w)
  have h6 := hX.2.2.1.1
  have L4 : ∀ (m r : Nat) (y : Int32), r + m = n → V E mX0_flat 1 (.returned (some (.int (sumF (fun r => b2i (decide (¬ u 108 r ≤ 0) && decide (¬ stpS u r = 0))) r m y))), S g σ w) 4 [some (.ref (g.1 0)), some (.int (y)), some (.int (nI r))] [] (S g σ w) := by
    intro m
    induction m with
    | zero =>
      intro r y hk 
      refine V.ild2 dX0_flat_4 (V.ald0 dX0_flat_5 (GX0_22 hX rfl dX0_flat_6 (V.invV0r vX0_142 hX.li.2.1 dX0_flat_9 (c_J2_size hX) (V.icmp_ge (tgt := 54) dX0_flat_12 (by decide) (fun c_12 => ?_) (fun c_12 => absurd (by exact nI_le (by omega) (by omega)) c_12)))))
      exact V.ild1 dX0_flat_54 (V.iret dX0_flat_55 rfl rfl (rfl))
    | succ m ih =>
      intro r y hk 
      have hr : r < n := by omega
      refine V.ild2 dX0_flat_4 (V.ald0 dX0_flat_5 (GX0_22 hX rfl dX0_flat_6 (V.invV0r vX0_142 hX.li.2.1 dX0_flat_9 (c_J2_size hX) (V.icmp_ge (tgt := 54) dX0_flat_12 (by decide) (fun c_12 => absurd c_12 (by first | exact nI_ge (by omega) (by omega) | exact fun h9 => absurd ((nI_leI (by omega) (by omega)).mp h9) (by omega))) (fun c_12 => ?_)))))
      refine V.ald0 dX0_flat_15 (GX0_26 hX rfl dX0_flat_16 (V.ild2 dX0_flat_19 (aX4 hX (IX.n (hX.n6 hr) (by decide)) dX0_flat_20 (V.if_le (tgt := 48) dX0_flat_21 (by decide) (fun c_21 => ?_) (fun c_21 => ?_)))))
      · refine V.inc2 dX0_flat_48 (V.goto (tgt := 4) dX0_flat_51 (by decide) ?_)
        rw [nI_1, sumF]
        first
          | (rw [flat0 c_21, Int32.add_zero]; exact ih (r + 1) _ (by omega))
          | (rw [flat1 c_21 (rz c_25 (hX.n6 hr))]; exact ih (r + 1) _ (by omega))
          | (rw [flat2 c_21 (nI_prd c_25).2 c_42, Int32.add_zero]; exact ih (r + 1) _ (by omega))
          | (rw [flat3 c_21 (nI_prd c_25).2 c_42]; exact ih (r + 1) _ (by omega))
      · refine V.ild2 dX0_flat_24 (V.if_eq (tgt := 45) dX0_flat_25 (by decide) (fun c_25 => ?_) (fun c_25 => ?_))
        · refine V.inc1 dX0_flat_45 (V.inc2 dX0_flat_48 (V.goto (tgt := 4) dX0_flat_51 (by decide) ?_))
          rw [nI_1, sumF]
          first
            | (rw [flat0 c_21, Int32.add_zero]; exact ih (r + 1) _ (by omega))
            | (rw [flat1 c_21 (rz c_25 (hX.n6 hr))]; exact ih (r + 1) _ (by omega))
            | (rw [flat2 c_21 (nI_prd c_25).2 c_42, Int32.add_zero]; exact ih (r + 1) _ (by omega))
            | (rw [flat3 c_21 (nI_prd c_25).2 c_42]; exact ih (r + 1) _ (by omega))
        · refine V.ald0 dX0_flat_28 (GX0_26 hX rfl dX0_flat_29 (V.ild2 dX0_flat_32 (V.iconst_1 dX0_flat_33 (V.isub dX0_flat_34 (aX4 (j := r - 1) hX (IX.of (nI_prd c_25).1 (by have := hX.n6 hr; omega) (by decide)) dX0_flat_35 (V.ald0 dX0_flat_36 (GX0_26 hX rfl dX0_flat_37 (V.ild2 dX0_flat_40 (aX4 hX (IX.n (hX.n6 hr) (by decide)) dX0_flat_41 (V.icmp_eq (tgt := 48) dX0_flat_42 (by decide) (fun c_42 => ?_) (fun c_42 => ?_)))))))))))
          · refine V.inc2 dX0_flat_48 (V.goto (tgt := 4) dX0_flat_51 (by decide) ?_)
            rw [nI_1, sumF]
            first
              | (rw [flat0 c_21, Int32.add_zero]; exact ih (r + 1) _ (by omega))
              | (rw [flat1 c_21 (rz c_25 (hX.n6 hr))]; exact ih (r + 1) _ (by omega))
              | (rw [flat2 c_21 (nI_prd c_25).2 c_42, Int32.add_zero]; exact ih (r + 1) _ (by omega))
              | (rw [flat3 c_21 (nI_prd c_25).2 c_42]; exact ih (r + 1) _ (by omega))
          · refine V.inc1 dX0_flat_45 (V.inc2 dX0_flat_48 (V.goto (tgt := 4) dX0_flat_51 (by decide) ?_))
            rw [nI_1, sumF]
            first
              | (rw [flat0 c_21, Int32.add_zero]; exact ih (r + 1) _ (by omega))
              | (rw [flat1 c_21 (rz c_25 (hX.n6 hr))]; exact ih (r + 1) _ (by omega))
              | (rw [flat2 c_21 (nI_prd c_25).2 c_42, Int32.add_zero]; exact ih (r + 1) _ (by omega))
              | (rw [flat3 c_21 (nI_prd c_25).2 c_42]; exact ih (r + 1) _ (by omega))
  refine V.iconst_0 dX0_flat_0 (V.ist1 dX0_flat_1 (V.iconst_0 dX0_flat_2 (V.ist2 dX0_flat_3 ?_)))
  rw [flatR, hX.nrw]
  exact L4 n 0 _ (by omega)

theorem sh_neg {u : Wv} (hS : HS u) {s : Nat} (hs : s < 4) : ¬ 0 ≤ u 138 s ↔ u 138 s = -1 := by
  have h := (hS s hs).2
  unfold inB at h
  rw [decide_eq_true_eq, Int32.le_iff_toInt_le, Int32.le_iff_toInt_le] at h
  rw [Int32.le_iff_toInt_le, Int32.toInt_zero, ← Int32.toInt_inj]
  have e1 : (-1 : Int32).toInt = -1 := by decide
  rw [e1] at h ⊢
  omega
theorem c_X0_thursday {E : En} {g : Ge} {σ : Sg} {w u : Wv} {n : Nat} {K : Nat → Nat} (hX : XH g σ w u n K) (hS : HS u) {s : Int32} : Ct E mX0_thursday 2 [.ref (g.1 0), .int s] (.returned (some (.int (thursdayR u s))), S g σ w) (S g σ w) := by
  show V E mX0_thursday 2 _ 0 [some (.ref (g.1 0)), some (.int s), none, none, none] [] (S g σ w)
  refine V.ild1 dX0_thursday_0 (V.invS1r sX0_300 dX0_thursday_1 c_X0_isSheet (V.ifb_ne (tgt := 10) dX0_thursday_4 (by decide) (fun c_4 => ?_) (fun c_4 => ?_)))
  · obtain ⟨s, hs, rfl, es⟩ : ∃ s', s' < 4 ∧ s = nI s' ∧ cl s = s' := by
      obtain ⟨s', h1, h2⟩ := (inB_n (n := 4) (by decide)).mp c_4
      exact ⟨s', h1, h2, by rw [h2]; exact cl_n (by omega)⟩
    refine V.ald0 dX0_thursday_10 (GX0_97 hX rfl dX0_thursday_11 (V.ild1 dX0_thursday_14 (aXS (j := s) hX (IX.n hs (by decide)) dX0_thursday_15 (V.ast2 dX0_thursday_16 (V.ald2 dX0_thursday_17 (GX0_303 hX hs rfl dX0_thursday_18 (V.if_ge (tgt := 27) dX0_thursday_21 (by decide) (fun c_21 => ?_) (fun c_21 => ?_))))))))
    · refine V.ald2 dX0_thursday_27 (GX0_306 hX hs rfl dX0_thursday_28 (V.ald0 dX0_thursday_31 (GX0_22 hX rfl dX0_thursday_32 (V.invV0r vX0_142 hX.li.2.1 dX0_thursday_35 (c_J2_size hX) (V.icmp_eq (tgt := 44) dX0_thursday_38 (by decide) (fun c_38 => ?_) (fun c_38 => ?_))))))
      · refine V.iconst_0 dX0_thursday_44 (V.ist3 dX0_thursday_45 (V.iconst_0 dX0_thursday_46 (V.ist4 dX0_thursday_47 ?_)))
        have h6 := hX.2.2.1.1
        rw [thursdayR, if_pos c_4, es, if_neg (fun z => absurd c_21 ((sh_neg hS hs).mpr z)), if_pos (by rw [hX.rows]; exact c_38), thuS, hX.nrw]
        have L49 : ∀ (m r : Nat) (y : Int32), r + m = n → V E mX0_thursday 2 (.returned (some (.int (sumF (fun r => b2i (decide (¬ u 140 (60 * s + r) = u 108 r))) r m y))), S g σ w) 49 [some (.ref (g.1 0)), some (.int (nI s)), some (.ref (g.1 (50 + s))), some (.int (y)), some (.int (nI r))] [] (S g σ w) := by
          intro m
          induction m with
          | zero =>
            intro r y hk 
            refine V.ild4 dX0_thursday_49 (V.ald2 dX0_thursday_51 (GX0_306 hX hs rfl dX0_thursday_52 (V.icmp_ge (tgt := 84) dX0_thursday_55 (by decide) (fun c_55 => ?_) (fun c_55 => absurd (by rw [c_38]; exact nI_le (by omega) (by omega)) c_55))))
            exact V.ild3 dX0_thursday_84 (V.iret dX0_thursday_85 rfl rfl (rfl))
          | succ m ih =>
            intro r y hk 
            have hr : r < n := by omega
            refine V.ild4 dX0_thursday_49 (V.ald2 dX0_thursday_51 (GX0_306 hX hs rfl dX0_thursday_52 (V.icmp_ge (tgt := 84) dX0_thursday_55 (by decide) (fun c_55 => absurd c_55 (by rw [c_38]; first | exact nI_ge (by omega) (by omega) | exact fun h9 => absurd ((nI_leI (by omega) (by omega)).mp h9) (by omega))) (fun c_55 => ?_))))
            refine V.ald2 dX0_thursday_58 (GX0_308 hX hs rfl dX0_thursday_59 (V.ild4 dX0_thursday_62 (aXc hX hs (IX.n (by omega) (by decide)) dX0_thursday_64 (V.ald0 dX0_thursday_65 (GX0_26 hX rfl dX0_thursday_66 (V.ild4 dX0_thursday_69 (aX4 hX (IX.n (hX.n6 hr) (by decide)) dX0_thursday_71 (V.icmp_eq (tgt := 78) dX0_thursday_72 (by decide) (fun c_72 => ?_) (fun c_72 => ?_)))))))))
            · refine V.inc4 dX0_thursday_78 (V.goto (tgt := 49) dX0_thursday_81 (by decide) ?_)
              rw [nI_1, sumF]
              first
                | (rw [decide_eq_false (fun z => z c_72)]; rw [show b2i false = 0 from rfl, Int32.add_zero]; exact ih (r + 1) _ (by omega))
                | (rw [decide_eq_true c_72]; exact ih (r + 1) _ (by omega))
            · refine V.inc3 dX0_thursday_75 (V.inc4 dX0_thursday_78 (V.goto (tgt := 49) dX0_thursday_81 (by decide) ?_))
              rw [nI_1, sumF]
              first
                | (rw [decide_eq_false (fun z => z c_72)]; rw [show b2i false = 0 from rfl, Int32.add_zero]; exact ih (r + 1) _ (by omega))
                | (rw [decide_eq_true c_72]; exact ih (r + 1) _ (by omega))
        exact L49 n 0 _ (by omega)
      · exact V.bipush (v := (-2)) dX0_thursday_41 (by decide) (V.iret dX0_thursday_43 rfl rfl (by first | (simp only [thursdayR, c_4, c_21, c_38, if_true, if_false, Bool.false_eq_true, eq_self, and_true, true_and, and_false, false_and, Bool.and_true, Bool.true_and, Bool.and_false, Bool.false_and, Bool.not_true, Bool.not_false, not_true_eq_false, not_false_eq_true, ne_eq, b2i_t, b2i_f]; done) | (rw [thursdayR, if_pos c_4, es, if_pos ((sh_neg hS hs).mp c_21)]; done) | (rw [thursdayR, if_pos c_4, es, if_neg (fun z => absurd c_21 ((sh_neg hS hs).mpr z)), if_neg (by rw [hX.rows]; exact c_38)]; done)))
    · exact V.bipush (v := (-11)) dX0_thursday_24 (by decide) (V.iret dX0_thursday_26 rfl rfl (by first | (simp only [thursdayR, c_4, c_21, if_true, if_false, Bool.false_eq_true, eq_self, and_true, true_and, and_false, false_and, Bool.and_true, Bool.true_and, Bool.and_false, Bool.false_and, Bool.not_true, Bool.not_false, not_true_eq_false, not_false_eq_true, ne_eq, b2i_t, b2i_f]; done) | (rw [thursdayR, if_pos c_4, es, if_pos ((sh_neg hS hs).mp c_21)]; done) | (rw [thursdayR, if_pos c_4, es, if_neg (fun z => absurd c_21 ((sh_neg hS hs).mpr z)), if_neg (by rw [hX.rows]; exact c_38)]; done)))
  · exact V.bipush (v := (-2)) dX0_thursday_7 (by decide) (V.iret dX0_thursday_9 rfl rfl (by first | (simp only [thursdayR, c_4, if_true, if_false, Bool.false_eq_true, eq_self, and_true, true_and, and_false, false_and, Bool.and_true, Bool.true_and, Bool.and_false, Bool.false_and, Bool.not_true, Bool.not_false, not_true_eq_false, not_false_eq_true, ne_eq, b2i_t, b2i_f]; done) | (rw [thursdayR, if_pos c_4, es, if_pos ((sh_neg hS hs).mp c_21)]; done) | (rw [thursdayR, if_pos c_4, es, if_neg (fun z => absurd c_21 ((sh_neg hS hs).mpr z)), if_neg (by rw [hX.rows]; exact c_38)]; done)))

theorem c_X0_seesAll {E : En} {g : Ge} {σ : Sg} {w u : Wv} {n : Nat} {K : Nat → Nat} (hX : XH g σ w u n K) {r : Nat} (hr : r < n) (hI : HI u) (hE : HE u)  : Ct E mX0_seesAll 7 [.ref (g.1 0), .int (nI r)] (.returned (some (.int (b2i (aSee u r)))), S g σ w) (S g σ w) := by
  show V E mX0_seesAll 7 _ 0 [some (.ref (g.1 0)), some (.int (nI r)), none] [] (S g σ w)
  have hS8 := hI.seats (hX.n6 hr)
  have L2 : ∀ (m c : Nat), c + m = nS u r → V E mX0_seesAll 7 (.returned (some (.int (b2i (aB (fun c => decide (seeS u r c = fullB u)) c m)))), S g σ w) 2 [some (.ref (g.1 0)), some (.int (nI r)), some (.int (nI c))] [] (S g σ w) := by
    intro m
    induction m with
    | zero =>
      intro c hk 
      refine V.ild2 dX0_seesAll_2 (V.ald0 dX0_seesAll_3 (GX0_22 hX rfl dX0_seesAll_4 (V.ild1 dX0_seesAll_7 (V.invV1r vX0_150 hX.li.2.1 dX0_seesAll_8 (c_J2_get hX hr) (ccX0_122 hX hr rfl dX0_seesAll_11 (GX0_154 hX hr rfl dX0_seesAll_14 (V.icmp_ge (tgt := 55) dX0_seesAll_17 (by decide) (fun c_17 => ?_) (fun c_17 => absurd (by rw [hS8.1]; exact nI_le (by omega) (by omega)) c_17))))))))
      exact V.iconst_1 dX0_seesAll_55 (V.iret dX0_seesAll_56 rfl (by first | rfl | exact nar_b _) (rfl))
    | succ m ih =>
      intro c hk 
      refine V.ild2 dX0_seesAll_2 (V.ald0 dX0_seesAll_3 (GX0_22 hX rfl dX0_seesAll_4 (V.ild1 dX0_seesAll_7 (V.invV1r vX0_150 hX.li.2.1 dX0_seesAll_8 (c_J2_get hX hr) (ccX0_122 hX hr rfl dX0_seesAll_11 (GX0_154 hX hr rfl dX0_seesAll_14 (V.icmp_ge (tgt := 55) dX0_seesAll_17 (by decide) (fun c_17 => absurd c_17 (by rw [hS8.1]; first | exact nI_ge (by omega) (by omega) | exact fun h9 => absurd ((nI_leI (by omega) (by omega)).mp h9) (by omega))) (fun c_17 => ?_))))))))
      refine V.ald0 dX0_seesAll_20 (V.ald0 dX0_seesAll_21 (GX0_22 hX rfl dX0_seesAll_22 (V.ild1 dX0_seesAll_25 (V.invV1r vX0_150 hX.li.2.1 dX0_seesAll_26 (c_J2_get hX hr) (ccX0_122 hX hr rfl dX0_seesAll_29 (V.ild2 dX0_seesAll_32 (V.invV2r vX0_260 hX.t0 dX0_seesAll_33 (c_X0_seenBy hX hr hI hE (by omega)) (V.iconst_1 dX0_seesAll_36 (V.ald0 dX0_seesAll_37 (GX0_203 hX rfl dX0_seesAll_38 (V.ishl dX0_seesAll_41 (V.iconst_1 dX0_seesAll_42 ?_))))))))))))
      refine V.isub dX0_seesAll_43 (V.icmp_eq (tgt := 49) dX0_seesAll_44 (by decide) (fun c_44 => ?_) (fun c_44 => ?_))
      · refine V.inc2 dX0_seesAll_49 (V.goto (tgt := 2) dX0_seesAll_52 (by decide) ?_)
        rw [nI_1, aB, decide_eq_true (show seeS u r c = fullB u from c_44), Bool.true_and]
        exact ih (c + 1) (by omega)
      · exact V.iconst_0 dX0_seesAll_47 (V.iret dX0_seesAll_48 rfl (by first | rfl | exact nar_b _) (by rw [aB, decide_eq_false (show ¬ seeS u r c = fullB u from c_44)]; rfl))
  refine V.iconst_0 dX0_seesAll_0 (V.ist2 dX0_seesAll_1 ?_)
  rw [aSee]
  exact L2 (nS u r) 0 (by omega)

theorem c_X0_keepsRises {E : En} {g : Ge} {σ : Sg} {w u : Wv} {n : Nat} {K : Nat → Nat} (hX : XH g σ w u n K)  : Ct E mX0_keepsRises 1 [.ref (g.1 0)] (.returned none, S g σ (cpW w 5 0 16 0 6)) (S g σ w) := by
  show V E mX0_keepsRises 1 _ 0 [some (.ref (g.1 0))] [] (S g σ w)
  exact V.ald0 dX0_keepsRises_0 (GX0_26 hX rfl dX0_keepsRises_1 (V.iconst_0 dX0_keepsRises_4 (V.ald0 dX0_keepsRises_5 (GX0_50 hX rfl dX0_keepsRises_6 (V.iconst_0 dX0_keepsRises_9 (V.bipush (v := 6) dX0_keepsRises_10 (by decide) (V.xcopy (sp := 0) (dp := 0) (m := 6) (t := 100) hX.gk rfl hX.i0 hX.i0 (hX.ai (f := 4) (by decide)).2 (hX.ai (f := 15) (by decide)).2 (by decide) (by decide) rfl rfl rfl (by decide) (by decide) (by decide) (by decide) (.inl rfl) dX0_keepsRises_12 (V.vret dX0_keepsRises_15 rfl (rfl)))))))))

theorem c_X0_laysRises {E : En} {g : Ge} {σ : Sg} {w u : Wv} {n : Nat} {K : Nat → Nat} (hX : XH g σ w u n K)  : Ct E mX0_laysRises 1 [.ref (g.1 0)] (.returned none, S g σ (cpW w 16 0 5 0 6)) (S g σ w) := by
  show V E mX0_laysRises 1 _ 0 [some (.ref (g.1 0))] [] (S g σ w)
  exact V.ald0 dX0_laysRises_0 (GX0_50 hX rfl dX0_laysRises_1 (V.iconst_0 dX0_laysRises_4 (V.ald0 dX0_laysRises_5 (GX0_26 hX rfl dX0_laysRises_6 (V.iconst_0 dX0_laysRises_9 (V.bipush (v := 6) dX0_laysRises_10 (by decide) (V.xcopy (sp := 0) (dp := 0) (m := 6) (t := 100) hX.gk rfl hX.i0 hX.i0 (hX.ai (f := 15) (by decide)).2 (hX.ai (f := 4) (by decide)).2 (by decide) (by decide) rfl rfl rfl (by decide) (by decide) (by decide) (by decide) (.inl rfl) dX0_laysRises_12 (V.vret dX0_laysRises_15 rfl (rfl)))))))))

theorem c_X0_leastFloor {E : En} {g : Ge} {σ : Sg} {w u : Wv} {n : Nat} {K : Nat → Nat} (hX : XH g σ w u n K) {r : Nat} (hr : r < n) (hI : HI u) (hE : HE u) {f : Nat} (hf : f ≤ 100) : Ct E mX0_leastFloor 8 [.ref (g.1 0), .int (nI r), .int (nI f)] (.returned (some (.int (raiS u r f))), S g σ w) (S g σ w) := by
  show V E mX0_leastFloor 8 _ 0 [some (.ref (g.1 0)), some (.int (nI r)), some (.int (nI f)), none, none, none, none] [] (S g σ w)
  have hwr : up2 w 5 r (u 108 r) = w := by rw [← hX.sv.at (xm_108 (hX.n6 hr))]; exact up2_self
  have L10 : ∀ (m v : Nat) (w1 u1 : Wv) (z5 z6 : Option Value), v + m = 100 → XH g σ w1 u1 n K → (∀ x, up2 w1 5 r x = up2 w 5 r x) → V E mX0_leastFloor 8 (.returned (some (.int (ffI (raiP u r) v m))), S g σ w) 10 [some (.ref (g.1 0)), some (.int (nI r)), some (.int (nI f)), some (.int (u 108 r)), some (.int (nI v)), z5, z6] [] (S g σ w1) := by
    intro m
    induction m with
    | zero =>
      intro v w1 u1 z5 z6 hk hX1 hw
      refine V.ild4 dX0_leastFloor_10 (V.bipush (v := 99) dX0_leastFloor_12 (by decide) (V.icmp_gt (tgt := 53) dX0_leastFloor_14 (by decide) (fun c_14 => ?_) (fun c_14 => absurd (show (99 : Int32) < nI v by rw [show v = 100 by omega]; decide) c_14)))
      exact V.iconst_m1 dX0_leastFloor_53 (V.ist4 dX0_leastFloor_54 (V.ald0 dX0_leastFloor_56 (GX0_26 hX1 rfl dX0_leastFloor_57 (V.ild1 dX0_leastFloor_60 (V.ild3 dX0_leastFloor_61 (sX4 hX1 (IX.n (hX.n6 hr) (by decide)) dX0_leastFloor_62 (V.ild4 dX0_leastFloor_63 (V.iret dX0_leastFloor_65 rfl rfl (by rw [hw, hwr, ffI_0])))))))))
    | succ m ih =>
      intro v w1 u1 z5 z6 hk hX1 hw
      refine V.ild4 dX0_leastFloor_10 (V.bipush (v := 99) dX0_leastFloor_12 (by decide) (V.icmp_gt (tgt := 53) dX0_leastFloor_14 (by decide) (fun c_14 => absurd c_14 (show ¬ (99 : Int32) < nI v from fun z => absurd ((nI_ltI (a := 99) (by omega) (by omega)).mp z) (by omega))) (fun c_14 => ?_)))
      refine V.ald0 dX0_leastFloor_17 (GX0_26 hX1 rfl dX0_leastFloor_18 (V.ild1 dX0_leastFloor_21 (V.ild4 dX0_leastFloor_22 (sX4 hX1 (IX.n (hX.n6 hr) (by decide)) dX0_leastFloor_24 ?_))))
      rw [hw]
      have hX2 := hX.up (xm_108 (hX.n6 hr)) (x := nI v)
      refine V.ald0 dX0_leastFloor_25 (V.ild1 dX0_leastFloor_26 (V.invV1r vX0_320 hX2.t0 dX0_leastFloor_27 (c_X0_seesAll hX2 hr (hI.up (by decide) (by decide) (by decide)) (hE.up8 (by omega))) (V.ifb_eq (tgt := 47) dX0_leastFloor_30 (by decide) (fun c_30 => ?_) (fun c_30 => ?_))))
      · refine V.inc4 dX0_leastFloor_47 (V.goto (tgt := 10) dX0_leastFloor_50 (by decide) ?_)
        rw [nI_1, ffI_s, if_neg (by rw [show raiP u r v = false from c_30]; decide)]
        exact ih (v + 1) _ _ _ _ (by omega) hX2 (fun x => up2_up2)
      · exact V.ild4 dX0_leastFloor_33 (V.ist5 dX0_leastFloor_35 (V.ald0 dX0_leastFloor_37 (GX0_26 hX2 rfl dX0_leastFloor_38 (V.ild1 dX0_leastFloor_41 (V.ild3 dX0_leastFloor_42 (sX4 hX2 (IX.n (hX.n6 hr) (by decide)) dX0_leastFloor_43 (V.ild5 dX0_leastFloor_44 (V.iret dX0_leastFloor_46 rfl rfl (by rw [up2_up2, hwr, ffI_s, if_pos (show raiP u r v = true from c_30)])))))))))
  refine V.ald0 dX0_leastFloor_0 (GX0_26 hX rfl dX0_leastFloor_1 (V.ild1 dX0_leastFloor_4 (aX4 hX (IX.n (hX.n6 hr) (by decide)) dX0_leastFloor_5 (V.ist3 dX0_leastFloor_6 (V.ild2 dX0_leastFloor_7 (V.ist4 dX0_leastFloor_8 ?_))))))
  rw [raiS]
  exact L10 (100 - f) f w u _ _ (by omega) hX (fun _ => rfl)

theorem c_X0_needs {E : En} {g : Ge} {σ : Sg} {w u : Wv} {n : Nat} {K : Nat → Nat} (hX : XH g σ w u n K) (hI : HI u) (hE : HE u) {r : Int32} : Ct E mX0_needs 9 [.ref (g.1 0), .int r] (.returned (some (.int (needsR u r))), S g σ w) (S g σ w) := by
  show V E mX0_needs 9 _ 0 [some (.ref (g.1 0)), some (.int r)] [] (S g σ w)
  refine V.ald0 dX0_needs_0 (V.ild1 dX0_needs_1 (V.invV1r vX0_146 hX.t0 dX0_needs_2 (c_X0_isRow hX) (V.ifb_eq (tgt := 17) dX0_needs_5 (by decide) (fun c_5 => ?_) (fun c_5 => ?_))))
  · exact V.bipush (v := (-5)) dX0_needs_17 (by decide) (V.iret dX0_needs_19 rfl rfl (by first | (simp only [needsR, c_5, if_true, if_false, Bool.false_eq_true, eq_self, and_true, true_and, and_false, false_and, Bool.and_true, Bool.true_and, Bool.and_false, Bool.false_and, Bool.not_true, Bool.not_false, not_true_eq_false, not_false_eq_true, ne_eq, b2i_t, b2i_f]; done) | (simp only [needsR, c_5, e1, if_true, if_false, Bool.false_eq_true, eq_self, and_true, true_and, and_false, false_and, Bool.and_true, Bool.true_and, Bool.and_false, Bool.false_and, Bool.not_true, Bool.not_false, not_true_eq_false, not_false_eq_true, ne_eq, b2i_t, b2i_f]; done)))
  · obtain ⟨i, hi, rfl, e1⟩ := hX.ix c_5
    exact V.ald0 dX0_needs_8 (V.ild1 dX0_needs_9 (V.iconst_0 dX0_needs_10 (V.invV2r vX0_368 hX.t0 dX0_needs_11 (c_X0_leastFloor hX hi hI hE (f := 0) (by decide)) (V.goto (tgt := 19) dX0_needs_14 (by decide) (V.iret dX0_needs_19 rfl rfl (by first | (simp only [needsR, c_5, if_true, if_false, Bool.false_eq_true, eq_self, and_true, true_and, and_false, false_and, Bool.and_true, Bool.true_and, Bool.and_false, Bool.false_and, Bool.not_true, Bool.not_false, not_true_eq_false, not_false_eq_true, ne_eq, b2i_t, b2i_f]; done) | (simp only [needsR, c_5, e1, if_true, if_false, Bool.false_eq_true, eq_self, and_true, true_and, and_false, false_and, Bool.and_true, Bool.true_and, Bool.and_false, Bool.false_and, Bool.not_true, Bool.not_false, not_true_eq_false, not_false_eq_true, ne_eq, b2i_t, b2i_f]; done)))))))

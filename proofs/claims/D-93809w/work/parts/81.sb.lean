set_option maxRecDepth 100000
set_option maxHeartbeats 1000000
/-! ===== a StringBuilder of up to 16 letters ===== -/
def SBd (σ : Sg) (sb vb : Nat) (L : List Int32) : Prop := (sT σ sb).1 = 19 ∧ 1000 ≤ sb ∧ sI σ sb 1 = 0 ∧ sI σ sb 3 = nI L.length ∧ sR σ sb 0 = some vb ∧ sT σ vb = (102, 16) ∧ 1000 ≤ vb ∧ vb ≠ sb ∧ ∀ i, i < L.length → sI σ vb i = L.getD i 0
def sbH (σ : Sg) (sb : Nat) : Sg := pI (pR (nW σ (102, 16) 16) sb 0 (some (sN σ))) sb 1 0
theorem c_J7_init {E : En} (hJ : JS E) {σ : Sg} {sb : Nat} (ht : (sT σ sb).1 = 19) (hs : 1000 ≤ sb) (hne : sb ≠ sN σ) : Ct E mJ7_init 2 [.ref sb, .int 16] (.returned none, sbH σ sb) σ := by
  have ht' : (sT (nW σ (102, 16) 16) sb).1 = 19 := by
    show (up1 (sT σ) (sN σ) (102, 16) sb).1 = 19
    rw [up1_ne _ _ hne]; exact ht
  show V E mJ7_init 2 _ 0 [some (.ref sb), some (.int 16)] [] σ
  refine V.ald0 dJ7_init_0 (V.oinit q297 dJ7_init_1 (V.gets hJ.1 q298 dJ7_init_4 (V.if_eq (tgt := 25) dJ7_init_7 (by decide) (fun z => absurd z (by decide)) (fun _ => ?_))))
  refine V.ald0 dJ7_init_10 (V.ild1 dJ7_init_11 (V.newB (n := 16) rfl (by decide) dJ7_init_12 (pJ7_15 (σ := nW σ (102, 16) 16) rfl ht' hs dJ7_init_14 ?_)))
  exact V.ald0 dJ7_init_17 (V.iconst_0 dJ7_init_18 (pJ7_22 (σ := pR (nW σ (102, 16) 16) sb 0 (some (sN σ))) rfl ht' hs dJ7_init_19 ⟨rfl, rfl⟩ (V.goto (tgt := 38) dJ7_init_22 (by decide) (V.vret dJ7_init_38 rfl rfl))))
theorem c_J8_init {E : En} (hJ : JS E) {σ : Sg} {sb : Nat} (ht : (sT σ sb).1 = 19) (hs : 1000 ≤ sb) (hne : sb ≠ sN σ) : Ct E mJ8_init 3 [.ref sb] (.returned none, sbH σ sb) σ := by
  show V E mJ8_init 3 _ 0 [some (.ref sb)] [] σ
  exact V.ald0 dJ8_init_0 (V.bipush (v := 16) dJ8_init_1 (by decide) (V.invI1v iJ8_1 dJ8_init_3 (c_J7_init hJ ht hs hne) (V.vret dJ8_init_6 rfl rfl)))
theorem sbH_ok {σ : Sg} {sb : Nat} (ht : (sT σ sb).1 = 19) (hs : 1000 ≤ sb) (hne : sb ≠ sN σ) (h1 : 1000 ≤ sN σ) (h3 : sI σ sb 3 = 0) : SBd (sbH σ sb) sb (sN σ) [] := by
  refine ⟨?_, hs, up2_eq _ _ _ _, ?_, ?_, ?_, h1, Ne.symm hne, fun i hi => absurd hi (by simp)⟩
  · show (up1 (sT σ) (sN σ) (102, 16) sb).1 = 19
    rw [up1_ne _ _ hne]; exact ht
  · show up2 (up1 (sI σ) (sN σ) (fun _ => 0)) sb 1 0 sb 3 = 0
    rw [up2_ne _ _ (by simp), up1_ne _ _ hne]; exact h3
  · show up2 (up1 (sR σ) (sN σ) (fun _ => none)) sb 0 (some (sN σ)) sb 0 = _
    rw [up2_eq]
  · show up1 (sT σ) (sN σ) (102, 16) (sN σ) = _
    rw [up1_eq]
theorem FG.sbH {σ0 σ : Sg} {b c sb : Nat} (h : FG σ0 σ b c) (h0 : (sT σ0 sb).1 = 0) : FG σ0 (sbH σ sb) (b + 1) (c + 16) := ((h.tr (FG.n h.2.2.1)).pR h0).pI h0
theorem rd_sbH {σ : Sg} {r sb : Nat} {a f o n s : Int32} {w : Option Nat} (h : r ≠ sN σ) (h' : sb ≠ r) : sbH (rdS σ r a f o n s w) sb = rdS (sbH σ sb) r a f o n s w := by
  unfold sbH
  rw [rd_nW h]
  have e : pR (rdS (nW σ (102, 16) 16) r a f o n s w) sb 0 (some (sN (rdS σ r a f o n s w))) = rdS (pR (nW σ (102, 16) 16) sb 0 (some (sN σ))) r a f o n s w := rd_pR h'
  rw [e]
  exact rd_pI h'
theorem c_J7_isLatin1 {E : En} {σ : Sg} (hJ : JS E) {a : Nat} (ht : (sT σ a).1 = 19) (hc : sI σ a 1 = 0) : Ct E mJ7_isLatin1 0 [.ref a] (.returned (some (.int 1)), σ) σ := by
  show V E mJ7_isLatin1 0 _ 0 [some (.ref a)] [] σ
  refine V.gets hJ.1 q298 dJ7_isLatin1_0 (V.if_eq (tgt := 17) dJ7_isLatin1_3 (by decide) (fun z => absurd z (by decide)) (fun _ => V.ald0 dJ7_isLatin1_6 (gJ7_22 rfl ht dJ7_isLatin1_7 (V.if_ne (tgt := 17) dJ7_isLatin1_10 (by decide) (fun z => absurd hc z) (fun _ => ?_)))))
  exact V.iconst_1 dJ7_isLatin1_13 (V.goto (tgt := 18) dJ7_isLatin1_14 (by decide) (V.iret dJ7_isLatin1_18 rfl (nar_b true) rfl))
theorem c_J7_length {E : En} {σ : Sg} {a : Nat} (ht : (sT σ a).1 = 19) : Ct E mJ7_length 0 [.ref a] (.returned (some (.int (sI σ a 3))), σ) σ := by
  show V E mJ7_length 0 _ 0 [some (.ref a)] [] σ
  exact V.ald0 dJ7_length_0 (gJ7_79 rfl ht dJ7_length_1 (V.iret dJ7_length_4 rfl rfl rfl))
theorem c_J8_length {E : En} {σ : Sg} {sb vb : Nat} {L : List Int32} (h : SBd σ sb vb L) : Ct E mJ8_length 1 [.ref sb] (.returned (some (.int (nI L.length))), σ) σ := by
  show V E mJ8_length 1 _ 0 [some (.ref sb)] [] σ
  refine V.ald0 dJ8_length_0 (V.invU0r (c := 18) uJ8_343 h.1 (by decide) rfl dJ8_length_1 (c_J7_length h.1) ?_)
  rw [h.2.2.2.1]
  exact V.iret dJ8_length_4 rfl rfl rfl
theorem c_J7_ensure {E : En} {σ : Sg} {sb vb : Nat} {L : List Int32} (h : SBd σ sb vb L) {k : Nat} (hk : k ≤ 16) : Ct E mJ7_ensureCapacityInternal 3 [.ref sb, .int (nI k)] (.returned none, σ) σ := by
  obtain ⟨h1, h2, h3, h4, h5, h6, h7, h8, h9⟩ := h
  show V E mJ7_ensureCapacityInternal 3 _ 0 [some (.ref sb), some (.int (nI k)), none] [] σ
  refine V.ald0 dJ7_ensureCapacityInternal_0 (gJ7_15 rfl h1 dJ7_ensureCapacityInternal_1 h5 (V.alen (t := 101) h6 (by decide) (by decide) dJ7_ensureCapacityInternal_4 (V.ald0 dJ7_ensureCapacityInternal_5 (gJ7_22 rfl h1 dJ7_ensureCapacityInternal_6 ?_))))
  rw [h3]
  refine V.ishr dJ7_ensureCapacityInternal_9 ?_
  rw [sh0]
  refine V.ist2 dJ7_ensureCapacityInternal_10 (V.ild1 dJ7_ensureCapacityInternal_11 (V.ild2 dJ7_ensureCapacityInternal_12 (V.isub dJ7_ensureCapacityInternal_13 (V.if_le (tgt := 38) dJ7_ensureCapacityInternal_14 (by decide) (fun _ => V.vret dJ7_ensureCapacityInternal_38 rfl rfl) (fun z => absurd ?_ z)))))
  exact (show ∀ k, k ≤ 16 → nI k - nI 16 ≤ 0 by decide) k hk
theorem i7_n {k : Nat} (h : k < 128) : (nI k).toInt8.toInt32 = nI k := (show ∀ k, k < 128 → (nI k).toInt8.toInt32 = nI k by decide) k h
theorem c_J7_append {E : En} {σ : Sg} (hJ : JS E) {sb vb k : Nat} {L : List Int32} (h : SBd σ sb vb L) (hl : L.length < 16) (hk : k < 128) : Ct E mJ7_append 6 [.ref sb, .int (nI k)] (.returned (some (.ref sb)), pI (pI σ sb 3 (nI (L.length + 1))) vb L.length (nI k)) σ := by
  have hh := h
  obtain ⟨h1, h2, h3, h4, h5, h6, h7, h8, h9⟩ := h
  show V E mJ7_append 6 _ 0 [some (.ref sb), some (.int (nI k))] [] σ
  refine V.ald0 dJ7_append_0 (V.ald0 dJ7_append_1 (gJ7_79 rfl h1 dJ7_append_2 (V.iconst_1 dJ7_append_5 (V.iadd dJ7_append_6 ?_))))
  rw [h4, nI_1]
  refine V.callRet dJ7_append_7 wJ7_ensureCapacityInternal (show 3 < 6 by decide) (Nat.le_of_ble_eq_true rfl) (Nat.le_of_ble_eq_true rfl) (Lk.P (n := 1) (As := [.int (nI (L.length + 1))]) (rest := []) (c := 18) q333 q335 q334 q371 rfl ⟨by decide, by decide⟩ (by decide +kernel) h1 (by decide) rfl rfl dJ7_append_7) (c_J7_ensure hh (by omega)) ?_
  refine V.ald0 dJ7_append_10 (V.invV0r vJ7_83 h1 dJ7_append_11 (c_J7_isLatin1 hJ h1 h3) (V.if_eq (tgt := 45) dJ7_append_14 (by decide) (fun z => absurd z (by decide)) (fun _ => ?_)))
  have hce : Ct E mJ4_canEncode 0 [.int (nI k)] (.returned (some (.int 1)), σ) σ := by
    show V E mJ4_canEncode 0 _ 0 [some (.int (nI k))] [] σ
    refine V.ild0 dJ4_canEncode_0 (V.sipush (v := 255) dJ4_canEncode_1 (by decide) (V.icmp_gt (tgt := 11) dJ4_canEncode_4 (by decide) (fun z => absurd z (show ¬ nI 255 < nI k from fun y => absurd ((nI_ltI (by decide) (by omega)).mp y) (by omega))) (fun _ => ?_)))
    exact V.iconst_1 dJ4_canEncode_7 (V.goto (tgt := 12) dJ4_canEncode_8 (by decide) (V.iret dJ4_canEncode_12 rfl (nar_b true) rfl))
  refine V.ild1 dJ7_append_17 (V.invS1r sJ7_191 dJ7_append_18 hce (V.if_eq (tgt := 45) dJ7_append_21 (by decide) (fun z => absurd z (by decide)) (fun _ => ?_)))
  refine V.ald0 dJ7_append_24 (gJ7_15 rfl h1 dJ7_append_25 h5 (V.ald0 dJ7_append_28 (V.dup dJ7_append_29 (gJ7_79 rfl h1 dJ7_append_30 (V.dup_x1 dJ7_append_33 (V.iconst_1 dJ7_append_34 (V.iadd dJ7_append_35 ?_)))))))
  rw [h4, nI_1]
  refine pJ7_79 rfl h1 h2 dJ7_append_36 (V.ild1 dJ7_append_39 (V.i2b dJ7_append_40 (V.bast (σ := pI σ sb 3 (nI (L.length + 1))) h6 h7 (IX.n (j := L.length) hl (by decide)) dJ7_append_41 (V.goto (tgt := 75) dJ7_append_42 (by decide) ?_))))
  rw [i7_n hk, i7_n hk]
  exact V.ald0 dJ7_append_75 (V.aret (o := some sb) dJ7_append_76 rfl rfl rfl)
theorem c_J8_append {E : En} {σ : Sg} (hJ : JS E) {sb vb k : Nat} {L : List Int32} (h : SBd σ sb vb L) (hl : L.length < 16) (hk : k < 128) : Ct E mJ8_append 7 [.ref sb, .int (nI k)] (.returned (some (.ref sb)), pI (pI σ sb 3 (nI (L.length + 1))) vb L.length (nI k)) σ := by
  show V E mJ8_append 7 _ 0 [some (.ref sb), some (.int (nI k))] [] σ
  exact V.ald0 dJ8_append_0 (V.ild1 dJ8_append_1 (V.invU1r (c := 18) uJ8_50 h.1 (by decide) rfl dJ8_append_2 (c_J7_append hJ h hl hk) (V.pop dJ8_append_5 (V.ald0 dJ8_append_6 (V.aret (o := some sb) dJ8_append_7 rfl rfl rfl)))))
theorem SBd.app {σ : Sg} {sb vb k : Nat} {L : List Int32} (h : SBd σ sb vb L) : SBd (pI (pI σ sb 3 (nI (L.length + 1))) vb L.length (nI k)) sb vb (L ++ [nI k]) := by
  obtain ⟨h1, h2, h3, h4, h5, h6, h7, h8, h9⟩ := h
  refine ⟨h1, h2, ?_, ?_, h5, h6, h7, h8, fun i hi => ?_⟩
  · show up2 (up2 (sI σ) sb 3 _) vb L.length (nI k) sb 1 = 0
    rw [up2_ne _ _ (fun z => h8 z.1.symm), up2_ne _ _ (by simp)]; exact h3
  · show up2 (up2 (sI σ) sb 3 _) vb L.length (nI k) sb 3 = _
    rw [up2_ne _ _ (fun z => h8 z.1.symm), up2_eq, List.length_append]; rfl
  · show up2 (up2 (sI σ) sb 3 _) vb L.length (nI k) vb i = _
    rw [List.length_append] at hi
    by_cases e : i = L.length
    · subst e
      rw [up2_eq, List.getD_eq_getElem?_getD, List.getElem?_append_right (Nat.le_refl _), Nat.sub_self]; rfl
    · rw [up2_ne _ _ (fun z => e z.2), up2_ne _ _ (fun z => h8 z.1), h9 i (by simp at hi; omega), List.getD_eq_getElem?_getD, List.getD_eq_getElem?_getD, List.getElem?_append_left (by simp at hi; omega)]
theorem SBd.rd {σ : Sg} {r sb vb : Nat} {L : List Int32} {a f o n s : Int32} {w : Option Nat} (ht : (sT σ r).1 = 3) : SBd (rdS σ r a f o n s w) sb vb L ↔ SBd σ sb vb L := by
  unfold SBd
  constructor
  · rintro ⟨h1, h2, h3, h4, h5, h6, h7, h8, h9⟩
    have e1 : sb ≠ r := fun z => by rw [z] at h1; exact absurd (ht.symm.trans h1) (by decide)
    have e2 : vb ≠ r := fun z => by
      rw [z] at h6
      have : (sT σ r).1 = 102 := by rw [show sT σ r = _ from h6]
      rw [ht] at this; exact absurd this (by decide)
    rw [(rd_ne e1).1] at h3 h4
    rw [(rd_ne e1).2] at h5
    rw [(rd_ne e2).1] at h9
    exact ⟨h1, h2, h3, h4, h5, h6, h7, h8, h9⟩
  · rintro ⟨h1, h2, h3, h4, h5, h6, h7, h8, h9⟩
    have e1 : sb ≠ r := fun z => by rw [z] at h1; exact absurd (ht.symm.trans h1) (by decide)
    have e2 : vb ≠ r := fun z => by
      rw [z] at h6
      have : (sT σ r).1 = 102 := by rw [h6]
      rw [ht] at this; exact absurd this (by decide)
    refine ⟨h1, h2, by rw [(rd_ne e1).1]; exact h3, by rw [(rd_ne e1).1]; exact h4, by rw [(rd_ne e1).2]; exact h5, h6, h7, h8, by rw [(rd_ne e2).1]; exact h9⟩
/-! ===== its String ===== -/
theorem cl150 : CL RJ11 150 := ⟨q365, q367, q366, q105⟩
def cpyH (τ : Sg) (vb n : Nat) : Sg := wI (nW τ (102, n) n) (cpI (sI (nW τ (102, n) n)) vb 0 (sN τ) 0 n)
theorem c_J11_copyOfRange {E : En} {τ : Sg} {vb n : Nat} (h1 : 1000 ≤ sN τ) (ht : sT τ vb = (102, 16)) (hne : vb ≠ sN τ) (hn : n < 16) (hv : ∀ i, i < n → ∃ k, k < 128 ∧ sI τ vb i = nI k) : Ct E mJ11_copyOfRange 2 [.ref vb, .int 0, .int (nI n)] (.returned (some (.ref (sN τ))), cpyH τ vb n) τ := by
  have hc : Ct E mJ11_checkLength 0 [.int 0, .int (nI n)] (.returned none, τ) τ := by
    show V E mJ11_checkLength 0 _ 0 [some (.int 0), some (.int (nI n))] [] τ
    exact V.ild1 dJ11_checkLength_0 (V.ild0 dJ11_checkLength_1 (V.icmp_ge (tgt := 37) dJ11_checkLength_2 (by decide) (fun _ => V.vret dJ11_checkLength_37 rfl rfl) (fun z => absurd (nI_pos' (by omega)) z)))
  have hb : Ct E mJ11_copyOfRangeByte 1 [.ref vb, .int 0, .int (nI n)] (.returned (some (.ref (sN τ))), cpyH τ vb n) τ := by
    show V E mJ11_copyOfRangeByte 1 _ 0 [some (.ref vb), some (.int 0), some (.int (nI n)), none, none] [] τ
    have e16 : (nI n : Int32) - 0 = nI n := by rw [Int32.sub_zero]
    refine V.ild1 dJ11_copyOfRangeByte_0 (V.ild2 dJ11_copyOfRangeByte_1 (V.invS2v sJ11_343 dJ11_copyOfRangeByte_2 hc (V.ild2 dJ11_copyOfRangeByte_5 (V.ild1 dJ11_copyOfRangeByte_6 (V.isub dJ11_copyOfRangeByte_7 ?_)))))
    rw [e16]
    refine V.ist3 dJ11_copyOfRangeByte_8 (V.ild3 dJ11_copyOfRangeByte_9 (V.newB (n := n) rfl (by omega) dJ11_copyOfRangeByte_10 (V.ast4 dJ11_copyOfRangeByte_12 ?_)))
    have ht' : sT (nW τ (102, n) n) vb = (102, 16) := by
      show up1 (sT τ) (sN τ) (102, n) vb = _
      rw [up1_ne _ _ hne]; exact ht
    refine V.ald0 dJ11_copyOfRangeByte_14 (V.ild1 dJ11_copyOfRangeByte_15 (V.ald4 dJ11_copyOfRangeByte_16 (V.iconst_0 dJ11_copyOfRangeByte_18 (V.ald0 dJ11_copyOfRangeByte_19 (V.alen (t := 101) ht' (by decide) (by decide) dJ11_copyOfRangeByte_20 (V.ild1 dJ11_copyOfRangeByte_21 (V.isub dJ11_copyOfRangeByte_22 (V.ild3 dJ11_copyOfRangeByte_23 (V.invS2r sJ11_304 dJ11_copyOfRangeByte_24 c_J10_min ?_)))))))))
    rw [show minI (nI 16 - 0) (nI n) = nI n from by
      unfold minI
      rw [Int32.sub_zero, if_neg (fun z => absurd ((nI_leI (a := 16) (by decide) (by omega)).mp z) (by omega))]]
    refine V.acopy (t := 101) (na := 16) (nb := n) (sp := 0) (dp := 0) (n := n) (σ := nW τ (102, n) n) cl150 ht' (by show up1 (sT τ) (sN τ) (102, n) (sN τ) = _; rw [up1_eq]) (by decide) (by decide) h1 rfl rfl rfl (by omega) (by omega) (by decide) (by omega) (.inr (fun i hi => ?_)) dJ11_copyOfRangeByte_27 (V.ald4 dJ11_copyOfRangeByte_30 (V.aret (o := some (sN τ)) dJ11_copyOfRangeByte_32 rfl rfl rfl))
    obtain ⟨k, hk, e⟩ := hv i hi
    rw [show sI (nW τ (102, n) n) vb (0 + i) = nI k from by
      show up1 (sI τ) (sN τ) (fun _ => 0) vb (0 + i) = _
      rw [up1_ne _ _ hne, Nat.zero_add]; exact e]
    exact (show ∀ k, k < 128 → fits (aTy 101) (.int (nI k)) = true by decide) k hk
  show V E mJ11_copyOfRange 2 _ 0 [some (.ref vb), some (.int 0), some (.int (nI n))] [] τ
  refine V.ild1 dJ11_copyOfRange_0 (V.if_ne (tgt := 10) dJ11_copyOfRange_1 (by decide) (fun z => absurd rfl z) (fun _ => V.ild2 dJ11_copyOfRange_4 (V.ald0 dJ11_copyOfRange_5 (V.alen (t := 101) ht (by decide) (by decide) dJ11_copyOfRange_6 (V.icmp_eq (tgt := 17) dJ11_copyOfRange_7 (by decide) (fun z => absurd ((nI_eq (by omega) (by decide)).mp z) (by omega)) (fun _ => ?_))))))
  exact V.ald0 dJ11_copyOfRange_10 (V.ild1 dJ11_copyOfRange_11 (V.ild2 dJ11_copyOfRange_12 (V.invS3r sJ11_339 dJ11_copyOfRange_13 hb (V.aret (o := some (sN τ)) dJ11_copyOfRange_16 rfl rfl rfl))))
def strH (σ : Sg) (s1 vb n : Nat) : Sg := pR (cpyH (pI σ s1 1 0) vb n) s1 0 (some (sN σ))
theorem c_J3_init {E : En} (hJ : JS E) {σ : Sg} {s1 sb vb : Nat} {L : List Int32} (ht : (sT σ s1).1 = 18) (hs : 1000 ≤ s1) (h1 : 1000 ≤ sN σ) (hb : SBd σ sb vb L) (hl : L.length ≤ 9) (hv : vb ≠ sN σ) (hvs : vb ≠ s1) (hne : s1 ≠ sN σ) (hk : ∀ i, i < L.length → ∃ k, k < 128 ∧ L.getD i 0 = nI k) : Ct E mJ3_init 6 [.ref s1, .ref sb] (.returned none, strH σ s1 vb L.length) σ := by
  have hh := hb
  obtain ⟨b1, b2, b3, b4, b5, b6, b7, b8, b9⟩ := hb
  have h2 : Ct E mJ3_init_2 5 [.ref s1, .ref sb, .null] (.returned none, strH σ s1 vb L.length) σ := by
    show V E mJ3_init_2 5 _ 0 [some (.ref s1), some (.ref sb), some .null, none, none] [] σ
    have hgv : Ct E mJ7_getValue 0 [.ref sb] (.returned (some (.ref vb)), σ) σ := by
      show V E mJ7_getValue 0 _ 0 [some (.ref sb)] [] σ
      exact V.ald0 dJ7_getValue_0 (gJ7_15 rfl b1 dJ7_getValue_1 b5 (V.aret (o := some vb) dJ7_getValue_4 rfl rfl rfl))
    refine V.ald0 dJ3_init_2_0 (V.oinit q413 dJ3_init_2_1 (V.ald1 dJ3_init_2_4 (V.invV0r vJ3_552 b1 dJ3_init_2_5 hgv (V.ast3 dJ3_init_2_8 (V.ald1 dJ3_init_2_9 (V.callRet dJ3_init_2_10 wJ8_length (show 1 < 5 by decide) (Nat.le_of_ble_eq_true rfl) (Nat.le_of_ble_eq_true rfl) (Lk.VA (n := 0) (As := []) (rest := []) (c := 18) (q := (RJ8, TJ8, 4)) q419 q324 q320 q2097 q371 rfl ⟨by decide, by decide⟩ (by decide +kernel) ⟨_, _, _, q325⟩ b1 (by decide) rfl rfl dJ3_init_2_10) (c_J8_length hh) (V.ist4 dJ3_init_2_13 (V.ald1 dJ3_init_2_15 (V.invV0r vJ3_1047 b1 dJ3_init_2_16 (c_J7_isLatin1 hJ b1 b3) (V.if_eq (tgt := 41) dJ3_init_2_19 (by decide) (fun z => absurd z (by decide)) (fun _ => ?_)))))))))))
    refine V.ald0 dJ3_init_2_22 (V.iconst_0 dJ3_init_2_23 (pJ3_15 rfl rfl ht hs dJ3_init_2_24 ⟨rfl, rfl⟩ ?_))
    refine V.ald0 dJ3_init_2_27 (V.ald3 dJ3_init_2_28 (V.iconst_0 dJ3_init_2_29 (V.ild4 dJ3_init_2_30 (V.invS3r sJ3_54 dJ3_init_2_32 (c_J11_copyOfRange (τ := pI σ s1 1 0) h1 b6 hv (by omega) (fun i hi => ?_)) ?_))))
    · obtain ⟨k, k1, k2⟩ := hk i hi
      refine ⟨k, k1, ?_⟩
      show up2 (sI σ) s1 1 0 vb i = nI k
      rw [up2_ne _ _ (fun z => hvs z.1), b9 i hi, k2]
    · refine pJ3_9 (σ := cpyH (pI σ s1 1 0) vb L.length) rfl rfl ?_ hs dJ3_init_2_35 (V.goto (tgt := 97) dJ3_init_2_38 (by decide) (V.vret dJ3_init_2_97 rfl rfl))
      show (up1 (sT σ) (sN σ) (102, L.length) s1).1 = 18
      rw [up1_ne _ _ hne]; exact ht
  show V E mJ3_init 6 _ 0 [some (.ref s1), some (.ref sb)] [] σ
  exact V.ald0 dJ3_init_0 (V.ald1 dJ3_init_1 (V.aconst_null dJ3_init_2 (V.invI2v iJ3_489 dJ3_init_3 h2 (V.vret dJ3_init_6 rfl rfl))))
theorem c_J8_toString {E : En} (hJ : JS E) {σ : Sg} {sb vb : Nat} {L : List Int32} (h1 : 1000 ≤ sN σ) (hC : CLN σ) (hb : SBd σ sb vb L) (hl : L.length ≤ 9) (hk : ∀ i, i < L.length → ∃ k, k < 128 ∧ L.getD i 0 = nI k) : Ct E mJ8_toString 7 [.ref sb] (.returned (some (.ref (sN σ))), strH (nW σ (18, 0) 4) (sN σ) vb L.length) σ := by
  have n1 : sb ≠ sN σ := fun z => by have := hC (sN σ) (Nat.le_refl _); rw [← z, hb.1] at this; exact absurd this (by decide)
  have n2 : vb ≠ sN σ := fun z => by have := hC (sN σ) (Nat.le_refl _); rw [← z, hb.2.2.2.2.2.1] at this; exact absurd this (by decide)
  have n3 : vb ≠ sN σ + 1 := fun z => by have := hC (sN σ + 1) (Nat.le_succ _); rw [← z, hb.2.2.2.2.2.1] at this; exact absurd this (by decide)
  have hb2 : SBd (nW σ (18, 0) 4) sb vb L := by
    obtain ⟨b1, b2, b3, b4, b5, b6, b7, b8, b9⟩ := hb
    have t1 := (FG.n (t := (18, 0)) (k := 4) hC).2.2.2 sb (by rw [b1]; decide)
    have t2 := (FG.n (t := (18, 0)) (k := 4) hC).2.2.2 vb (by rw [b6]; decide)
    exact ⟨by rw [t1.1]; exact b1, b2, by rw [t1.2.2.1]; exact b3, by rw [t1.2.2.1]; exact b4, by rw [t1.2.1]; exact b5, by rw [t2.1]; exact b6, b7, b8, by rw [t2.2.2.1]; exact b9⟩
  show V E mJ8_toString 7 _ 0 [some (.ref sb)] [] σ
  refine nJ8_18 rfl dJ8_toString_0 (V.dup dJ8_toString_3 (V.ald0 dJ8_toString_4 (V.invI1v iJ8_137 dJ8_toString_5 (c_J3_init (σ := nW σ (18, 0) 4) hJ (s1 := sN σ) (by rw [nX_t]) h1 (by show 1000 ≤ sN σ + 1; omega) hb2 hl n3 n2 (by show sN σ ≠ sN σ + 1; omega) hk) (V.aret (o := some (sN σ)) dJ8_toString_8 rfl rfl rfl))))
theorem strH_ok {σ : Sg} {sb vb : Nat} {L : List Int32} (hC : CLN σ) (hb : SBd σ sb vb L) : FG σ (strH (nW σ (18, 0) 4) (sN σ) vb L.length) 2 (4 + L.length) ∧ Stg (strH (nW σ (18, 0) 4) (sN σ) vb L.length) (sN σ) L := by
  have hz := hC (sN σ) (Nat.le_refl _)
  have n2 : vb ≠ sN σ := fun z => by rw [← z, hb.2.2.2.2.2.1] at hz; exact absurd hz (by decide)
  have n3 : vb ≠ sN σ + 1 := fun z => by have := hC (sN σ + 1) (Nat.le_succ _); rw [← z, hb.2.2.2.2.2.1] at this; exact absurd this (by decide)
  have F1 : FG σ (pI (nW σ (18, 0) 4) (sN σ) 1 0) 1 4 := (FG.n hC).pI hz
  have F2 : FG σ (nW (pI (nW σ (18, 0) 4) (sN σ) 1 0) (102, L.length) L.length) 2 (4 + L.length) := F1.tr (FG.n F1.2.2.1)
  have F3 : FG σ (cpyH (pI (nW σ (18, 0) 4) (sN σ) 1 0) vb L.length) 2 (4 + L.length) := by
    refine ⟨F2.1, F2.2.1, F2.2.2.1, fun x hx => ?_⟩
    obtain ⟨q1, q2, q3, q4⟩ := F2.2.2.2 x hx
    refine ⟨q1, q2, ?_, q4⟩
    rw [← q3]
    funext j
    show cpI _ vb 0 (sN σ + 1) 0 L.length x j = _
    unfold cpI
    rw [if_neg]
    intro z
    have := hC (sN σ + 1) (Nat.le_succ _)
    rw [← z.1] at this
    exact hx this
  refine ⟨F3.pR hz, ?_, ?_, sN σ + 1, up2_eq _ _ _ _, ?_, fun i hi => ?_⟩
  · show (up1 (up1 (sT σ) (sN σ) (18, 0)) (sN σ + 1) (102, L.length) (sN σ)).1 = 18
    rw [up1_ne _ _ (by omega), up1_eq]
  · show cpI (sI (nW (pI (nW σ (18, 0) 4) (sN σ) 1 0) (102, L.length) L.length)) vb 0 (sN σ + 1) 0 L.length (sN σ) 1 = 0
    unfold cpI
    rw [if_neg (fun z => by omega)]
    show up1 (up2 (up1 (sI σ) (sN σ) (fun _ => 0)) (sN σ) 1 0) (sN σ + 1) (fun _ => 0) (sN σ) 1 = 0
    rw [up1_ne _ _ (by omega), up2_eq]
  · show up1 (up1 (sT σ) (sN σ) (18, 0)) (sN σ + 1) (102, L.length) (sN σ + 1) = _
    rw [up1_eq]
  · show cpI (sI (nW (pI (nW σ (18, 0) 4) (sN σ) 1 0) (102, L.length) L.length)) vb 0 (sN σ + 1) 0 L.length (sN σ + 1) i = _
    unfold cpI
    rw [if_pos ⟨rfl, by omega, by omega⟩]
    show up1 (up2 (up1 (sI σ) (sN σ) (fun _ => 0)) (sN σ) 1 0) (sN σ + 1) (fun _ => 0) vb (0 + (i - 0)) = _
    rw [up1_ne _ _ n3, up2_ne _ _ (fun z => n2 z.1), up1_ne _ _ n2, Nat.zero_add, Nat.sub_zero]
    exact hb.2.2.2.2.2.2.2.2 i hi

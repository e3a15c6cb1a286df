set_option maxRecDepth 100000
set_option maxHeartbeats 1000000
/-! ===== texts as trees ===== -/
def NA (g : Ge) (a : Nat) : Prop := ∀ k, k ∈ g.2 → g.1 k ≠ a
theorem NA.i {g : Ge} {a : Nat} (h : NA g a) {σ : Sg} {w : Wv} (j : Nat) : sI (S g σ w) a j = sI σ a j := by
  show vset g (sI σ) w a j = _
  unfold vset
  rw [show g.2.find? (fun k => g.1 k == a) = none from List.find?_eq_none.mpr (fun k hk => by simpa using h k hk)]
def sgs : List (Int32 × Int32) := [(43, 16), (45, 17), (42, 18), (60, 14), (61, 15), (38, 12), (124, 11)]
/-- the node at a, of height less than the number, says the codes -/
def Tr (g : Ge) (σ : Sg) : Nat → Nat → List Int32 → Prop
  | 0, _, _ => False
  | d + 1, a, c => NA g a ∧ (((sT σ a).1 = 6 ∧ ((sI σ a 1 = -1 ∧ ∃ k, k < 10000 ∧ sI σ a 0 = nI k ∧ c = [nI (100000 + k)]) ∨ ∃ k, k < 6 ∧ sI σ a 1 = nI k ∧ c = [nI k])) ∨
      ((sT σ a).1 = 5 ∧ ∃ b c', sR σ a 1 = some b ∧ Tr g σ d b c' ∧ ((sI σ a 0 = 0 ∧ c = c' ++ [19]) ∨ (sI σ a 0 = 1 ∧ c = c' ++ [13]))) ∨
      ((sT σ a).1 = 7 ∧ ∃ b1 b2 c1 c2 sc, sR σ a 1 = some b1 ∧ sR σ a 2 = some b2 ∧ Tr g σ d b1 c1 ∧ Tr g σ d b2 c2 ∧ sc ∈ sgs ∧ sI σ a 0 = sc.1 ∧ c = c1 ++ c2 ++ [sc.2]))
def WC (E : En) (σ : Sg) (f a A : Nat) (y : Int32) : Prop := ((sT σ a).1 = 5 ∧ Ct E mX4_worth f [.ref a, .ref A] (.returned (some (.int y)), σ) σ) ∨ ((sT σ a).1 = 6 ∧ Ct E mX5_worth f [.ref a, .ref A] (.returned (some (.int y)), σ) σ) ∨ ((sT σ a).1 = 7 ∧ Ct E mX6_worth f [.ref a, .ref A] (.returned (some (.int y)), σ) σ)
section
variable {E : En} {M : Mi} {d : Nat} {out : Out} {pc : Nat} {lv : List (Option Value)} {st : List Value} {σ : Sg}
theorem wcX4 {f b A : Nat} {y : Int32} (hc : WC E σ f b A y) (hM : (mY M).cls = RX4) (hd : decode (mC M) pc = .ok (.invokeinterface 17 2, 5)) (hdd : f < d) (h : V E M d out (pc + 5) lv (.int y :: st) σ) (hst : Nat.ble (st.map fun v => v.category).sum 8 = true := by first | rfl | (simp [va_rf_cat]; done)) : V E M d out pc lv (.ref A :: .ref b :: st) σ := by
  rcases hc with ⟨h9, hc⟩ | ⟨h9, hc⟩ | ⟨h9, hc⟩
  · exact V.invF1r (by rw [hM]; exact fX4_17_4) h9 hd hc h (Nat.ble_eq.mpr hdd) rfl hst
  · exact V.invF1r (by rw [hM]; exact fX4_17_5) h9 hd hc h (Nat.ble_eq.mpr hdd) rfl hst
  · exact V.invF1r (by rw [hM]; exact fX4_17_6) h9 hd hc h (Nat.ble_eq.mpr hdd) rfl hst
theorem wcX6 {f b A : Nat} {y : Int32} (hc : WC E σ f b A y) (hM : (mY M).cls = RX6) (hd : decode (mC M) pc = .ok (.invokeinterface 20 2, 5)) (hdd : f < d) (h : V E M d out (pc + 5) lv (.int y :: st) σ) (hst : Nat.ble (st.map fun v => v.category).sum 8 = true := by first | rfl | (simp [va_rf_cat]; done)) : V E M d out pc lv (.ref A :: .ref b :: st) σ := by
  rcases hc with ⟨h9, hc⟩ | ⟨h9, hc⟩ | ⟨h9, hc⟩
  · exact V.invF1r (by rw [hM]; exact fX6_20_4) h9 hd hc h (Nat.ble_eq.mpr hdd) rfl hst
  · exact V.invF1r (by rw [hM]; exact fX6_20_5) h9 hd hc h (Nat.ble_eq.mpr hdd) rfl hst
  · exact V.invF1r (by rw [hM]; exact fX6_20_6) h9 hd hc h (Nat.ble_eq.mpr hdd) rfl hst
theorem wcX0 {f b A : Nat} {y : Int32} (hc : WC E σ f b A y) (hM : (mY M).cls = RX0) (hd : decode (mC M) pc = .ok (.invokeinterface 264 2, 5)) (hdd : f < d) (h : V E M d out (pc + 5) lv (.int y :: st) σ) (hst : Nat.ble (st.map fun v => v.category).sum 8 = true := by first | rfl | (simp [va_rf_cat]; done)) : V E M d out pc lv (.ref A :: .ref b :: st) σ := by
  rcases hc with ⟨h9, hc⟩ | ⟨h9, hc⟩ | ⟨h9, hc⟩
  · exact V.invF1r (by rw [hM]; exact fX0_264_4) h9 hd hc h (Nat.ble_eq.mpr hdd) rfl hst
  · exact V.invF1r (by rw [hM]; exact fX0_264_5) h9 hd hc h (Nat.ble_eq.mpr hdd) rfl hst
  · exact V.invF1r (by rw [hM]; exact fX0_264_6) h9 hd hc h (Nat.ble_eq.mpr hdd) rfl hst
end
theorem evs_app (nm : Nat → Int32) (a b : List Int32) (s : List Int32) : evs nm (a ++ b) s = evs nm b (evs nm a s) := by rw [evs, List.foldl_append]; rfl
theorem evs_1 (nm : Nat → Int32) (c : Int32) (s : List Int32) : evs nm [c] s = stp nm s c := rfl
theorem stp_num {nm : Nat → Int32} {s : List Int32} {k : Nat} (h : k < 10000) : stp nm s (nI (100000 + k)) = nI k :: s := by
  rw [stp.eq_def, if_pos (show (100000 : Int32) ≤ nI (100000 + k) from nI_le (a := 100000) (by omega) (by omega)), show (100000 : Int32) = nI 100000 from rfl, nI_sb (by omega), show 100000 + k - 100000 = k by omega]
theorem stp_nam {nm : Nat → Int32} {s : List Int32} {k : Nat} (h : k < 6) : stp nm s (nI k) = nm k :: s := by
  rw [stp.eq_def, if_neg (show ¬ (100000 : Int32) ≤ nI k from fun z => absurd ((nI_leI (a := 100000) (b := k) (by omega) (by omega)).mp z) (by omega)), if_pos (show nI k < 11 from nI_lt (b := 11) (by omega) (by omega)), cl_n (by omega)]
theorem worth_ok {E : En} {g : Ge} {σ : Sg} {w u : Wv} {n : Nat} {K : Nat → Nat} (hX : XH g σ w u n K) {nm : Nat → Int32} (hnm : ∀ j, j < 6 → w 14 j = nm j) : ∀ (f a : Nat) (c : List Int32), Tr g σ f a c → ∃ y, (∀ s, evs nm c s = y :: s) ∧ WC E (S g σ w) f a (g.1 14) y := by
  intro f
  induction f with
  | zero => intro a c h; exact h.elim
  | succ f ih =>
    intro a c h
    obtain ⟨hN, ⟨h1, h2⟩ | ⟨h1, b, c', hb, hT, h2⟩ | ⟨h1, b1, b2, c1, c2, sc, hb1, hb2, hT1, hT2, hsc, h2, rfl⟩⟩ := h
    · rcases h2 with ⟨h3, k, hk, h4, rfl⟩ | ⟨k, hk, h3, rfl⟩
      · refine ⟨nI k, fun s => (evs_1 nm _ s).trans (stp_num hk), .inr (.inl ⟨h1, ?_⟩)⟩
        show V E mX5_worth (f + 1) _ 0 [some (.ref a), some (.ref (g.1 14))] [] (S g σ w)
        refine V.ald0 dX5_worth_0 (gX5_15 (σ := S g σ w) rfl h1 dX5_worth_1 (V.iconst_m1 dX5_worth_4 (V.icmp_ne (tgt := 15) dX5_worth_5 (by decide) (fun c_5 => absurd (by rw [hN.i]; exact h3) c_5) (fun c_5 => ?_))))
        refine V.ald0 dX5_worth_8 (gX5_9 (σ := S g σ w) rfl h1 dX5_worth_9 (V.goto (tgt := 21) dX5_worth_12 (by decide) ?_))
        rw [hN.i, h4]
        exact V.iret dX5_worth_21 rfl rfl rfl
      · refine ⟨nm k, fun s => (evs_1 nm _ s).trans (stp_nam hk), .inr (.inl ⟨h1, ?_⟩)⟩
        show V E mX5_worth (f + 1) _ 0 [some (.ref a), some (.ref (g.1 14))] [] (S g σ w)
        refine V.ald0 dX5_worth_0 (gX5_15 (σ := S g σ w) rfl h1 dX5_worth_1 (V.iconst_m1 dX5_worth_4 (V.icmp_ne (tgt := 15) dX5_worth_5 (by decide) (fun c_5 => ?_) (fun c_5 => absurd (by rw [hN.i, h3] at c_5; exact c_5) (nI_nm1 (by omega))))))
        refine V.ald1 dX5_worth_15 (V.ald0 dX5_worth_16 (gX5_15 (σ := S g σ w) rfl h1 dX5_worth_17 ?_))
        rw [hN.i, h3]
        refine aX13 hX (IX.n hk (by decide)) dX5_worth_20 ?_
        rw [hnm k hk]
        exact V.iret dX5_worth_21 rfl rfl rfl
    · obtain ⟨y, hy, hc⟩ := ih b c' hT
      rcases h2 with ⟨h3, rfl⟩ | ⟨h3, rfl⟩
      · refine ⟨-y, fun s => by rw [evs_app, hy, evs_1]; rfl, .inl ⟨h1, ?_⟩⟩
        show V E mX4_worth (f + 1) _ 0 [some (.ref a), some (.ref (g.1 14)), none] [] (S g σ w)
        refine V.ald0 dX4_worth_0 (gX4_13 (σ := S g σ w) rfl h1 dX4_worth_1 hb (V.ald1 dX4_worth_4 (wcX4 hc rfl dX4_worth_5 (by omega) (V.ist2 dX4_worth_10 (V.ald0 dX4_worth_11 (gX4_7 (σ := S g σ w) rfl h1 dX4_worth_12 (V.if_ne (tgt := 23) dX4_worth_15 (by decide) (fun c_15 => absurd (by rw [hN.i]; exact h3) c_15) (fun c_15 => ?_))))))))
        exact V.ild2 dX4_worth_18 (V.ineg dX4_worth_19 (V.goto (tgt := 32) dX4_worth_20 (by decide) (V.iret dX4_worth_32 rfl rfl rfl)))
      · refine ⟨b2i (decide (y = 0)), fun s => by rw [evs_app, hy, evs_1]; rfl, .inl ⟨h1, ?_⟩⟩
        show V E mX4_worth (f + 1) _ 0 [some (.ref a), some (.ref (g.1 14)), none] [] (S g σ w)
        refine V.ald0 dX4_worth_0 (gX4_13 (σ := S g σ w) rfl h1 dX4_worth_1 hb (V.ald1 dX4_worth_4 (wcX4 hc rfl dX4_worth_5 (by omega) (V.ist2 dX4_worth_10 (V.ald0 dX4_worth_11 (gX4_7 (σ := S g σ w) rfl h1 dX4_worth_12 (V.if_ne (tgt := 23) dX4_worth_15 (by decide) (fun c_15 => ?_) (fun c_15 => absurd (by rw [hN.i, h3] at c_15; exact c_15) (by decide)))))))))
        refine V.ild2 dX4_worth_23 (V.if_ne (tgt := 31) dX4_worth_24 (by decide) (fun c_24 => ?_) (fun c_24 => ?_))
        · rw [decide_eq_false c_24]
          exact V.iconst_0 dX4_worth_31 (V.iret dX4_worth_32 rfl rfl rfl)
        · rw [decide_eq_true c_24]
          exact V.iconst_1 dX4_worth_27 (V.goto (tgt := 32) dX4_worth_28 (by decide) (V.iret dX4_worth_32 rfl rfl rfl))
    · obtain ⟨y1, hy1, hc1⟩ := ih b1 c1 hT1
      obtain ⟨y2, hy2, hc2⟩ := ih b2 c2 hT2
      refine ⟨twoF sc.2 y1 y2, fun s => ?_, .inr (.inr ⟨h1, ?_⟩)⟩
      · rw [evs_app, evs_app, hy1, hy2, evs_1]
        simp only [sgs, List.mem_cons, List.not_mem_nil, or_false] at hsc
        rcases hsc with rfl | rfl | rfl | rfl | rfl | rfl | rfl <;> rfl
      · show V E mX6_worth (f + 1) _ 0 [some (.ref a), some (.ref (g.1 14)), none, none] [] (S g σ w)
        refine V.ald0 dX6_worth_0 (gX6_13 (σ := S g σ w) rfl h1 dX6_worth_1 hb1 (V.ald1 dX6_worth_4 (wcX6 hc1 rfl dX6_worth_5 (by omega) (V.ist2 dX6_worth_10 (V.ald0 dX6_worth_11 (gX6_17 (σ := S g σ w) rfl h1 dX6_worth_12 hb2 (V.ald1 dX6_worth_15 (wcX6 hc2 rfl dX6_worth_16 (by omega) (V.ist3 dX6_worth_21 (V.ald0 dX6_worth_22 (gX6_7 (σ := S g σ w) rfl h1 dX6_worth_23 ?_)))))))))))
        rw [hN.i, h2]
        simp only [sgs, List.mem_cons, List.not_mem_nil, or_false] at hsc
        rcases hsc with rfl | rfl | rfl | rfl | rfl | rfl | rfl
        · refine V.lookup (off := 58) (tgt := 84) dX6_worth_26 (by decide) (by decide) (by decide) ?_
          exact V.ild2 dX6_worth_84 (V.ild3 dX6_worth_85 (V.iadd dX6_worth_86 (V.iret dX6_worth_87 rfl rfl rfl)))
        · refine V.lookup (off := 62) (tgt := 88) dX6_worth_26 (by decide) (by decide) (by decide) ?_
          exact V.ild2 dX6_worth_88 (V.ild3 dX6_worth_89 (V.isub dX6_worth_90 (V.iret dX6_worth_91 rfl rfl rfl)))
        · refine V.lookup (off := 66) (tgt := 92) dX6_worth_26 (by decide) (by decide) (by decide) ?_
          exact V.ild2 dX6_worth_92 (V.ild3 dX6_worth_93 (V.imul dX6_worth_94 (V.iret dX6_worth_95 rfl rfl rfl)))
        · refine V.lookup (off := 70) (tgt := 96) dX6_worth_26 (by decide) (by decide) (by decide) ?_
          refine V.ild2 dX6_worth_96 (V.ild3 dX6_worth_97 (V.icmp_ge (tgt := 105) dX6_worth_98 (by decide) (fun c_9 => ?_) (fun c_9 => ?_)))
          · exact V.iconst_0 dX6_worth_105 (V.iret dX6_worth_106 rfl rfl (by show _ = (Outcome.returned (some (.int (0 : Int32))), _); rw [show twoF 14 y1 y2 = b2i (decide (y1 < y2)) from rfl, decide_eq_false (Int32.not_lt.mpr c_9)]; rfl))
          · exact V.iconst_1 dX6_worth_101 (V.goto (tgt := 106) dX6_worth_102 (by decide) (V.iret dX6_worth_106 rfl rfl (by show _ = (Outcome.returned (some (.int (1 : Int32))), _); rw [show twoF 14 y1 y2 = b2i (decide (y1 < y2)) from rfl, decide_eq_true (Int32.not_le.mp c_9)]; rfl)))
        · refine V.lookup (off := 81) (tgt := 107) dX6_worth_26 (by decide) (by decide) (by decide) ?_
          refine V.ild2 dX6_worth_107 (V.ild3 dX6_worth_108 (V.icmp_ne (tgt := 116) dX6_worth_109 (by decide) (fun c_9 => ?_) (fun c_9 => ?_)))
          · exact V.iconst_0 dX6_worth_116 (V.iret dX6_worth_117 rfl rfl (by rw [show twoF 15 y1 y2 = b2i (decide (y1 = y2)) from rfl, decide_eq_false c_9]; rfl))
          · exact V.iconst_1 dX6_worth_112 (V.goto (tgt := 117) dX6_worth_113 (by decide) (V.iret dX6_worth_117 rfl rfl (by rw [show twoF 15 y1 y2 = b2i (decide (y1 = y2)) from rfl, decide_eq_true c_9]; rfl)))
        · refine V.lookup (off := 92) (tgt := 118) dX6_worth_26 (by decide) (by decide) (by decide) ?_
          refine V.ild2 dX6_worth_118 (V.if_eq (tgt := 130) dX6_worth_119 (by decide) (fun c_9 => ?_) (fun c_9 => ?_))
          · exact V.iconst_0 dX6_worth_130 (V.iret dX6_worth_131 rfl rfl (by rw [show twoF 12 y1 y2 = b2i (decide (¬ y1 = 0) && decide (¬ y2 = 0)) from rfl, c_9]; rfl))
          · refine V.ild3 dX6_worth_122 (V.if_eq (tgt := 130) dX6_worth_123 (by decide) (fun c_8 => ?_) (fun c_8 => ?_))
            · exact V.iconst_0 dX6_worth_130 (V.iret dX6_worth_131 rfl rfl (by rw [show twoF 12 y1 y2 = b2i (decide (¬ y1 = 0) && decide (¬ y2 = 0)) from rfl, c_8, Bool.and_comm]; rfl))
            · exact V.iconst_1 dX6_worth_126 (V.goto (tgt := 131) dX6_worth_127 (by decide) (V.iret dX6_worth_131 rfl rfl (by rw [show twoF 12 y1 y2 = b2i (decide (¬ y1 = 0) && decide (¬ y2 = 0)) from rfl, decide_eq_true c_9, decide_eq_true c_8]; rfl)))
        · refine V.lookup (off := 106) (tgt := 132) dX6_worth_26 (by decide) (by decide) (by decide) ?_
          refine V.ild2 dX6_worth_132 (V.if_ne (tgt := 140) dX6_worth_133 (by decide) (fun c_9 => ?_) (fun c_9 => ?_))
          · exact V.iconst_1 dX6_worth_140 (V.goto (tgt := 145) dX6_worth_141 (by decide) (V.iret dX6_worth_145 rfl rfl (by rw [show twoF 11 y1 y2 = b2i (decide (¬ y1 = 0) || decide (¬ y2 = 0)) from rfl, decide_eq_true c_9]; rfl)))
          · refine V.ild3 dX6_worth_136 (V.if_eq (tgt := 144) dX6_worth_137 (by decide) (fun c_8 => ?_) (fun c_8 => ?_))
            · exact V.iconst_0 dX6_worth_144 (V.iret dX6_worth_145 rfl rfl (by rw [show twoF 11 y1 y2 = b2i (decide (¬ y1 = 0) || decide (¬ y2 = 0)) from rfl, c_9, c_8]; rfl))
            · exact V.iconst_1 dX6_worth_140 (V.goto (tgt := 145) dX6_worth_141 (by decide) (V.iret dX6_worth_145 rfl rfl (by rw [show twoF 11 y1 y2 = b2i (decide (¬ y1 = 0) || decide (¬ y2 = 0)) from rfl, decide_eq_true c_8, Bool.or_comm]; rfl)))
/-- x's texts are those of the hall -/
def TXR (g : Ge) (σ : Sg) (u : Wv) : Prop := ∀ t, t < nT u → ∃ A, sR σ (g.1 48) t = some A ∧ sT σ A = (105, 3) ∧ ∀ p, p < 3 → ∃ b f, f ≤ 400 ∧ sR σ A p = some b ∧ Tr g σ f b (codeL u t p)
theorem clamp_x {x most : Int32} (h : 0 ≤ most) : maxI 0 (minI most x) = clampI x most := by
  unfold maxI minI clampI
  by_cases h1 : 0 ≤ x
  · rw [if_pos h1]
    by_cases h2 : x ≤ most
    · rw [if_pos h2]
      by_cases h3 : most ≤ x
      · rw [if_pos h3, Int32.le_antisymm h2 h3]
        by_cases h4 : most ≤ 0
        · rw [if_pos h4]; exact Int32.le_antisymm h h4
        · rw [if_neg h4]
      · rw [if_neg h3]
        by_cases h4 : x ≤ 0
        · rw [if_pos h4]; exact Int32.le_antisymm h1 h4
        · rw [if_neg h4]
    · rw [if_neg h2, if_pos (Int32.le_of_lt (Int32.not_le.mp h2))]
      by_cases h4 : most ≤ 0
      · rw [if_pos h4]; exact Int32.le_antisymm h h4
      · rw [if_neg h4]
  · rw [if_neg h1, if_neg (fun z => h1 (Int32.le_trans h z)), if_pos (Int32.le_of_lt (Int32.not_le.mp h1))]
/-- the six names -/
def wNm (w : Wv) (nm : Nat → Int32) : Wv := up2 (up2 (up2 (up2 (up2 (up2 w 14 0 (nm 0)) 14 1 (nm 1)) 14 2 (nm 2)) 14 3 (nm 3)) 14 4 (nm 4)) 14 5 (nm 5)
theorem XH.nm {g : Ge} {σ : Sg} {w u : Wv} {n : Nat} {K : Nat → Nat} (h : XH g σ w u n K) {nm : Nat → Int32} : XH g σ (wNm w nm) u n K := ((((((h.sc (a := 14) (b := 0) rfl).sc (a := 14) (b := 1) rfl).sc (a := 14) (b := 2) rfl).sc (a := 14) (b := 3) rfl).sc (a := 14) (b := 4) rfl).sc (a := 14) (b := 5) rfl)
theorem wNm_at {w : Wv} {nm : Nat → Int32} {j : Nat} (hj : j < 6) : wNm w nm 14 j = nm j := by
  rcases (show j = 0 ∨ j = 1 ∨ j = 2 ∨ j = 3 ∨ j = 4 ∨ j = 5 by omega) with rfl | rfl | rfl | rfl | rfl | rfl <;> rfl
theorem c_X0_says {E : En} {g : Ge} {σ : Sg} {w u : Wv} {n : Nat} {K : Nat → Nat} (hX : XH g σ w u n K) (hT : HT u) (hR : TXR g σ u) {p : Nat} (hp : p < 3) {v h r x up k : Int32} : Ct E mX0_says 401 [.ref (g.1 0), .int (nI p), .int v, .int h, .int r, .int x, .int up, .int k] (.returned (some (.int (sayF u p (if p = 0 then 99 else 999) (nmF v h r x up k)))), S g σ (wNm w (nmF v h r x up k))) (S g σ w) := by
  show V E mX0_says 401 _ 0 [some (.ref (g.1 0)), some (.int (nI p)), some (.int v), some (.int h), some (.int r), some (.int x), some (.int up), some (.int k)] [] (S g σ w)
  obtain ⟨A, hA1, hA2, hA3⟩ := hR (ru u) hT.2.1.1
  obtain ⟨b, f, hf, hb, hTr⟩ := hA3 p hp
  have hX1 := hX.nm (nm := nmF v h r x up k)
  obtain ⟨y, hy, hc⟩ := worth_ok (E := E) hX1 (nm := nmF v h r x up k) (fun j hj => wNm_at hj) f b _ hTr
  have hT6 := hT.1.2.1
  have hru := hT.2.1.1
  have hY0 := hX
  refine V.ald0 dX0_says_0 (GX0_47 hY0 rfl dX0_says_1 (V.iconst_0 dX0_says_4 (V.ild2 dX0_says_5 (sX13 (j := 0) hY0 ⟨by decide, by decide, by decide⟩ dX0_says_6 ?_))))
  have hY1 := hY0.sc (a := 14) (b := 0) (x := v) rfl
  refine V.ald0 dX0_says_7 (GX0_47 hY1 rfl dX0_says_8 (V.iconst_1 dX0_says_11 (V.ild3 dX0_says_12 (sX13 (j := 1) hY1 ⟨by decide, by decide, by decide⟩ dX0_says_13 ?_))))
  have hY2 := hY1.sc (a := 14) (b := 1) (x := h) rfl
  refine V.ald0 dX0_says_14 (GX0_47 hY2 rfl dX0_says_15 (V.iconst_2 dX0_says_18 (V.ild4 dX0_says_19 (sX13 (j := 2) hY2 ⟨by decide, by decide, by decide⟩ dX0_says_21 ?_))))
  have hY3 := hY2.sc (a := 14) (b := 2) (x := r) rfl
  refine V.ald0 dX0_says_22 (GX0_47 hY3 rfl dX0_says_23 (V.iconst_3 dX0_says_26 (V.ild5 dX0_says_27 (sX13 (j := 3) hY3 ⟨by decide, by decide, by decide⟩ dX0_says_29 ?_))))
  have hY4 := hY3.sc (a := 14) (b := 3) (x := x) rfl
  refine V.ald0 dX0_says_30 (GX0_47 hY4 rfl dX0_says_31 (V.iconst_4 dX0_says_34 (V.ild6 dX0_says_35 (sX13 (j := 4) hY4 ⟨by decide, by decide, by decide⟩ dX0_says_37 ?_))))
  have hY5 := hY4.sc (a := 14) (b := 4) (x := up) rfl
  refine V.ald0 dX0_says_38 (GX0_47 hY5 rfl dX0_says_39 (V.iconst_5 dX0_says_42 (V.ild7 dX0_says_43 (sX13 (j := 5) hY5 ⟨by decide, by decide, by decide⟩ dX0_says_45 ?_))))
  show V E mX0_says 401 _ _ _ _ (S g σ (wNm w (nmF v h r x up k)))
  have fin : ∀ most : Int32, 0 ≤ most → (if p = 0 then (99 : Int32) else 999) = most → V E mX0_says 401 (.returned (some (.int (sayF u p (if p = 0 then 99 else 999) (nmF v h r x up k)))), S g σ (wNm w (nmF v h r x up k))) 59 [some (.ref (g.1 0)), some (.int (nI p)), some (.int v), some (.int h), some (.int r), some (.int x), some (.int up), some (.int k)] [.int most, .int 0] (S g σ (wNm w (nmF v h r x up k))) := by
    intro most hm he
    refine V.ald0 dX0_says_59 (GX0_87 hX1 rfl dX0_says_60 (V.ald0 dX0_says_63 (GX0_213 hX1 rfl dX0_says_64 (V.aald (t := 105) (j := ru u) (σ := S g σ (wNm w (nmF v h r x up k))) hX1.tx.2 (by decide) (by decide) rfl rfl (IX.of hT.2.1.2 (by omega) (by decide)) dX0_says_67 ?_))))
    rw [show sR (S g σ (wNm w (nmF v h r x up k))) (g.1 48) (ru u) = some A from hA1]
    refine V.ild1 dX0_says_68 (V.aald (t := 104) (j := p) (σ := S g σ (wNm w (nmF v h r x up k))) hA2 (by decide) (by decide) rfl rfl (IX.n hp (by decide)) dX0_says_69 ?_)
    rw [show sR (S g σ (wNm w (nmF v h r x up k))) A p = some b from hb]
    refine V.ald0 dX0_says_70 (GX0_47 hX1 rfl dX0_says_71 (wcX0 hc rfl dX0_says_74 (by omega) (V.invS2r sX0_270 dX0_says_79 c_J10_min (V.invS2r sX0_274 dX0_says_82 c_J10_max (V.iret dX0_says_85 rfl rfl ?_)))))
    rw [clamp_x hm, sayF, he, val, hy]
    rfl
  refine V.iconst_0 dX0_says_46 (V.ild1 dX0_says_47 (V.if_ne (tgt := 56) dX0_says_48 (by decide) (fun c_48 => ?_) (fun c_48 => ?_)))
  · exact V.sipush (v := 999) dX0_says_56 (by decide) (fin 999 (by decide) (if_neg (fun z => c_48 (by rw [z]; rfl))))
  · have hp0 : p = 0 := (nI_eq (b := 0) (by omega) (by decide)).mp c_48
    exact V.bipush (v := 99) dX0_says_51 (by decide) (V.goto (tgt := 59) dX0_says_53 (by decide) (fin 99 (by decide) (if_pos hp0)))
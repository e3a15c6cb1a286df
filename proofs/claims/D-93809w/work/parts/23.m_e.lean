set_option maxRecDepth 100000
set_option maxHeartbeats 1000000
theorem d_X7_placeOf {E : En} {g : Ge} {σ : Sg} {w u : Wv} (hW : WM g σ) (hu : cu w = u) {r : Nat} (hr : r < 6) {c : Int32} : Ct E mX7_placeOf 0 [.ref (g.1 100), .int (nI r), .int c] (.returned (some (.int (pl u r c))), S g σ w) (S g σ w) := by
  subst hu
  exact c_X7_placeOf hW hr
theorem d_X7_floorOf {E : En} {g : Ge} {σ : Sg} {w u : Wv} (hW : WM g σ) (hu : cu w = u) {r : Nat} (hr : r < 6) : Ct E mX7_floorOf 0 [.ref (g.1 100), .int (nI r)] (.returned (some (.int (fl u r))), S g σ w) (S g σ w) := by
  subst hu
  exact c_X7_floorOf hW hr
theorem d_X7_isSeat {E : En} {g : Ge} {σ : Sg} {w u : Wv} (hW : WM g σ) (hu : cu w = u) (hI : HI u) {r c : Int32} : Ct E mX7_isSeat 2 [.ref (g.1 100), .int r, .int c] (.returned (some (.int (b2i (seB u r c)))), S g σ w) (S g σ w) := by
  subst hu
  exact c_X7_isSeat hW (HI_cu.mp hI)
theorem d_X7_isRow {E : En} {g : Ge} {σ : Sg} {w u : Wv} (hW : WM g σ) (hu : cu w = u) {r : Int32} : Ct E mX7_isRow 1 [.ref (g.1 100), .int r] (.returned (some (.int (b2i (inB r 0 (u 100 3 - 1))))), S g σ w) (S g σ w) := by
  subst hu
  exact c_X7_isRow hW
theorem d_X7_hiderOf {E : En} {g : Ge} {σ : Sg} {w u : Wv} (hW : WM g σ) (hu : cu w = u) (hI : HI u) {r c : Nat} (hr : r < 6) (hc : c < 8) {p : Nat} (hp : p < 6) : Ct E mX7_hiderOf 4 [.ref (g.1 100), .int (nI r), .int (nI c), .int (nI p)] (.returned (some (.int (hid u r c p))), S g σ w) (S g σ w) := by
  subst hu
  rw [hid_cu]
  exact c_X7_hiderOf hW (HI_cu.mp hI) hr hc hp
theorem codeL_get {u : Wv} {t p i : Nat} (h : i < (codeL u t p).length) : u 120 (200 * t + (tB u t p + i)) = (codeL u t p).getD i 0 := by
  have h2 : i < tB u t (p + 1) - tB u t p := by simpa [codeL] using h
  simp [codeL, h2]
theorem HT.t {u : Wv} (h : HT u) : ru u < 6 ∧ u 100 22 = nI (ru u) ∧ TOK u (ru u) := ⟨by have := h.1.2.1; have := h.2.1.1; omega, h.2.1.2, h.2.2 _ h.2.1.1⟩
theorem TOK.le {u : Wv} {t : Nat} (h : TOK u t) {p : Nat} (hp : p < 3) : tB u t p ≤ tB u t (p + 1) := by
  obtain ⟨-, h1, h2, h3, -⟩ := h
  match p, hp with
  | 0, _ => exact h1
  | 1, _ => exact h2
  | 2, _ => exact h3

theorem c_X7_says {E : En} {g : Ge} {σ : Sg} {w : Wv} (hW : WM g σ) {u : Wv} (hu : cu w = u) (hT : HT u) {nm : Nat → Int32} (hnm : ∀ i, i < 6 → w 151 i = nm i) {p : Nat} (hp : p < 3) {most : Int32} : CtE E mX7_says 1 [.ref (g.1 100), .int (nI p), .int most] (PR (.int (sayF u p most nm)) (QM g σ u)) (S g σ w) := by
  show VE E mX7_says 1 _ 0 [some (.ref (g.1 100)), some (.int (nI p)), some (.int most), none, none, none] [] (S g σ w)
  obtain ⟨ht, ht22, hO⟩ := hT.t
  have h1 := hO.1 p (by omega)
  have h2 := hO.1 (p + 1) (by omega)
  have h3 := hO.le hp
  have hlen : (codeL u (ru u) p).length = tB u (ru u) (p + 1) - tB u (ru u) p := by simp [codeL]
  refine VE.step (fun _ h => V.iconst_0 dX7_says_0 (V.ist3 dX7_says_1 (V.ald0 dX7_says_2 (GX7_58 hW rfl dX7_says_3 (V.iconst_4 dX7_says_6 (V.ald0 dX7_says_7 (GX7_203 hW rfl dX7_says_8 (V.imul dX7_says_11 (V.ild1 dX7_says_12 (V.iadd dX7_says_13 (aM20 (j := 4 * ru u + p) hW (IX.of (by rw [cu_at hu, ht22]; show 4 * nI (ru u) + nI p = _; rw [show (4 : Int32) = nI 4 from rfl, pk_mul, nI_add]) (by omega) (by decide)) dX7_says_14 h))))))))))) ?_
  rw [cu_at hu, h1.1]
  refine VE.step (fun _ h => V.ist4 dX7_says_15 h) ?_
  exact says_loop (t := ru u) (X := val nm (codeL u (ru u) p)) hW ht hp ht22 h2.1 h2.2 rfl (codeL u (ru u) p) (tB u (ru u) p) [] w none hu hnm (fun j hj => absurd hj (by simp)) (fun i hi => codeL_get hi) (by rw [hlen]; omega) (hO.2.2.2.2 p hp) (by rw [hlen]; simp; omega) rfl

theorem nmF_w {w : Wv} {a b c e f k : Int32} : ∀ i, i < 6 → (up2 (up2 (up2 (up2 (up2 (up2 w 151 0 a) 151 1 b) 151 2 c) 151 3 e) 151 4 f) 151 5 k) 151 i = nmF a b c e f k i := by
  intro i hi
  match i, hi with
  | 0, _ => rfl
  | 1, _ => rfl
  | 2, _ => rfl
  | 3, _ => rfl
  | 4, _ => rfl
  | 5, _ => rfl
theorem nmF_cu {w u : Wv} (hu : cu w = u) {a b c e f k : Int32} : cu (up2 (up2 (up2 (up2 (up2 (up2 w 151 0 a) 151 1 b) 151 2 c) 151 3 e) 151 4 f) 151 5 k) = u := by
  rw [cu_up (by decide), cu_up (by decide), cu_up (by decide), cu_up (by decide), cu_up (by decide), cu_up (by decide), hu]

theorem c_X7_likeOf {E : En} {g : Ge} {σ : Sg} {w : Wv} (hW : WM g σ) {u : Wv} (hu : cu w = u) (hI : HI u) (hT : HT u) {r c : Nat} (hr : r < 6) (hc : c < 8) {p : Nat} (hp : p < 6) : CtE E mX7_likeOf 2 [.ref (g.1 100), .int (nI r), .int (nI c), .int (nI p)] (PR (.int (likeS u r c p)) (QM g σ u)) (S g σ w) := by
  show VE E mX7_likeOf 2 _ 0 [some (.ref (g.1 100)), some (.int (nI r)), some (.int (nI c)), some (.int (nI p))] [] (S g σ w)
  refine VE.step (fun _ h => V.ald0 dX7_likeOf_0 (V.ald0 dX7_likeOf_1 (GX7_43 hW rfl dX7_likeOf_2 (V.ild3 dX7_likeOf_5 (aM13 hW (by first | exact IX.n ‹_› (by decide) | exact IX.n (by omega) (by decide)) dX7_likeOf_6 (V.ald0 dX7_likeOf_7 (GX7_40 hW rfl dX7_likeOf_8 (V.ild3 dX7_likeOf_11 (aM12 hW (by first | exact IX.n ‹_› (by decide) | exact IX.n (by omega) (by decide)) dX7_likeOf_12 (V.ild1 dX7_likeOf_13 (V.ald0 dX7_likeOf_14 (V.ild1 dX7_likeOf_15 (V.ild2 dX7_likeOf_16 (V.invV2r vX7_182 hW.2.2.1 dX7_likeOf_17 (d_X7_placeOf hW hu hr) h)))))))))))))) ?_
  refine VE.step (fun _ h => V.ald0 dX7_likeOf_20 (V.ild1 dX7_likeOf_21 (V.invV1r vX7_171 hW.2.2.1 dX7_likeOf_22 (d_X7_floorOf hW hu hr) (V.ald0 dX7_likeOf_25 (GX7_34 hW rfl dX7_likeOf_26 (V.bipush (v := 8) dX7_likeOf_29 (by decide) (V.ild1 dX7_likeOf_31 (V.imul dX7_likeOf_32 (V.ild2 dX7_likeOf_33 (V.iadd dX7_likeOf_34 (aM9 hW (ix2 hr hc) dX7_likeOf_35 (V.invV6v vX7_291 hW.2.2.1 dX7_likeOf_36 (c_X7_names hW) (V.ald0 dX7_likeOf_39 (V.iconst_0 dX7_likeOf_40 h)))))))))))))) ?_
  refine VE.step (fun _ h => V.bipush (v := 99) dX7_likeOf_41 (by decide) h) ?_
  refine VE.invV2r vX7_295 hW.2.2.1 dX7_likeOf_43 (c_X7_says hW (nmF_cu hu) hT nmF_w (p := 0) (by decide)) (fun s9 q9 => ?_)
  obtain ⟨w1, hw1, rfl⟩ := q9
  exact VE.iret dX7_likeOf_46 rfl rfl (⟨by rw [likeS]; simp only [so, ← hu]; rfl, _, hw1, rfl⟩)

theorem c_X7_worthOf {E : En} {g : Ge} {σ : Sg} {w : Wv} (hW : WM g σ) {u : Wv} (hu : cu w = u) (hI : HI u) (hT : HT u) {r c : Nat} (hr : r < 6) (hc : c < 8) : CtE E mX7_worthOf 5 [.ref (g.1 100), .int (nI r), .int (nI c)] (PR (.int (worS u r c)) (QM g σ u)) (S g σ w) := by
  show VE E mX7_worthOf 5 _ 0 [some (.ref (g.1 100)), some (.int (nI r)), some (.int (nI c)), none, none] [] (S g σ w)
  have L5 : ∀ (m k : Nat) (acc : Int32) (w' : Wv), k + m = nP u → cu w' = u → sumF (worT u r c) k m acc = worS u r c → VE E mX7_worthOf 5 (PR (.int (worS u r c)) (QM g σ u)) 5 [some (.ref (g.1 100)), some (.int (nI r)), some (.int (nI c)), some (.int acc), some (.int (nI k))] [] (S g σ w') := by
    intro m
    induction m with
    | zero =>
      intro k acc w' hk hw hs
      have hP2 := hI.points.2
      refine VE.step (fun _ h => V.ild4 dX7_worthOf_5 (V.ald0 dX7_worthOf_7 (GX7_197 hW rfl dX7_worthOf_8 h))) ?_
      refine VE.icmp_ge (tgt := 47) dX7_worthOf_11 (by decide) (fun c_11 => ?_) (fun c_11 => absurd (by rw [cu_at hw, hI.points.1]; exact nI_le (by omega) (by omega)) c_11)
      refine VE.step (fun _ h => V.ild3 dX7_worthOf_47 h) ?_
      exact VE.iret dX7_worthOf_48 rfl rfl (⟨by rw [← hs]; rfl, _, hw, rfl⟩)
    | succ m ih =>
      intro k acc w' hk hw hs
      have hP2 := hI.points.2
      refine VE.step (fun _ h => V.ild4 dX7_worthOf_5 (V.ald0 dX7_worthOf_7 (GX7_197 hW rfl dX7_worthOf_8 h))) ?_
      refine VE.icmp_ge (tgt := 47) dX7_worthOf_11 (by decide) (fun c_11 => absurd c_11 (by rw [cu_at hw, hI.points.1]; first | exact nI_ge (by omega) (by omega) | exact fun h9 => absurd ((nI_leI (by omega) (by omega)).mp h9) (by omega))) (fun c_11 => ?_)
      refine VE.step (fun _ h => V.ild3 dX7_worthOf_14 (V.ald0 dX7_worthOf_15 (V.ild1 dX7_worthOf_16 (V.ild2 dX7_worthOf_17 (V.ild4 dX7_worthOf_18 (V.invV3r vX7_285 hW.2.2.1 dX7_worthOf_20 (d_X7_hiderOf hW hw hI hr hc (by omega)) (V.iconst_m1 dX7_worthOf_23 h))))))) ?_
      refine VE.icmp_ne (tgt := 38) dX7_worthOf_24 (by decide) (fun c_24 => ?_) (fun c_24 => ?_)
      · refine VE.step (fun _ h => V.iconst_0 dX7_worthOf_38 (V.iadd dX7_worthOf_39 (V.ist3 dX7_worthOf_40 (V.inc4 dX7_worthOf_41 (V.goto (tgt := 5) dX7_worthOf_44 (by decide) h))))) ?_
        rw [nI_1]
        first
          | exact ih (k + 1) _ _ (by omega) hw1 (by rw [← hs]; show _ = sumF _ (k + 1) m (acc + worT u r c k); rw [worT, if_pos c_24])
          | exact ih (k + 1) _ _ (by omega) hw (by rw [← hs]; show _ = sumF _ (k + 1) m (acc + worT u r c k); rw [worT, if_neg c_24])
      · refine VE.step (fun _ h => V.ald0 dX7_worthOf_27 (V.ild1 dX7_worthOf_28 (V.ild2 dX7_worthOf_29 (V.ild4 dX7_worthOf_30 h)))) ?_
        refine VE.invV3r vX7_298 hW.2.2.1 dX7_worthOf_32 (c_X7_likeOf hW hw hI hT hr hc (by omega)) (fun s9 q9 => ?_)
        obtain ⟨w1, hw1, rfl⟩ := q9
        refine VE.step (fun _ h => V.goto (tgt := 39) dX7_worthOf_35 (by decide) (V.iadd dX7_worthOf_39 (V.ist3 dX7_worthOf_40 (V.inc4 dX7_worthOf_41 (V.goto (tgt := 5) dX7_worthOf_44 (by decide) h))))) ?_
        rw [nI_1]
        first
          | exact ih (k + 1) _ _ (by omega) hw1 (by rw [← hs]; show _ = sumF _ (k + 1) m (acc + worT u r c k); rw [worT, if_pos c_24])
          | exact ih (k + 1) _ _ (by omega) hw (by rw [← hs]; show _ = sumF _ (k + 1) m (acc + worT u r c k); rw [worT, if_neg c_24])
  refine VE.step (fun _ h => V.iconst_0 dX7_worthOf_0 (V.ist3 dX7_worthOf_1 (V.iconst_0 dX7_worthOf_2 (V.ist4 dX7_worthOf_3 h)))) ?_
  exact L5 (nP u) 0 0 w (by omega) hu rfl

theorem c_X7_priceOf {E : En} {g : Ge} {σ : Sg} {w : Wv} (hW : WM g σ) {u : Wv} (hu : cu w = u) (hI : HI u) (hT : HT u) {r c : Nat} (hr : r < 6) (hc : c < 8) : CtE E mX7_priceOf 6 [.ref (g.1 100), .int (nI r), .int (nI c)] (PR (.int (priS u r c)) (QM g σ u)) (S g σ w) := by
  show VE E mX7_priceOf 6 _ 0 [some (.ref (g.1 100)), some (.int (nI r)), some (.int (nI c)), none] [] (S g σ w)
  refine VE.step (fun _ h => V.ald0 dX7_priceOf_0 (V.ild1 dX7_priceOf_1 (V.ild2 dX7_priceOf_2 h))) ?_
  refine VE.invV2r vX7_301 hW.2.2.1 dX7_priceOf_3 (c_X7_worthOf hW hu hI hT hr hc) (fun s9 q9 => ?_)
  obtain ⟨w1, hw1, rfl⟩ := q9
  refine VE.step (fun _ h => V.ist3 dX7_priceOf_6 (V.ald0 dX7_priceOf_7 (V.ild3 dX7_priceOf_8 (V.iconst_0 dX7_priceOf_9 (V.ild1 dX7_priceOf_10 (V.ald0 dX7_priceOf_11 (V.ild1 dX7_priceOf_12 (V.ild2 dX7_priceOf_13 (V.invV2r vX7_182 hW.2.2.1 dX7_priceOf_14 (d_X7_placeOf hW hw1 hr) (V.ald0 dX7_priceOf_17 (V.ild1 dX7_priceOf_18 (V.invV1r vX7_171 hW.2.2.1 dX7_priceOf_19 (d_X7_floorOf hW hw1 hr) (V.ald0 dX7_priceOf_22 (GX7_34 hW rfl dX7_priceOf_23 h)))))))))))))) ?_
  refine VE.step (fun _ h => V.bipush (v := 8) dX7_priceOf_26 (by decide) (V.ild1 dX7_priceOf_28 (V.imul dX7_priceOf_29 (V.ild2 dX7_priceOf_30 (V.iadd dX7_priceOf_31 (aM9 hW (ix2 hr hc) dX7_priceOf_32 (V.invV6v vX7_291 hW.2.2.1 dX7_priceOf_33 (c_X7_names hW) (V.ald0 dX7_priceOf_36 (V.iconst_1 dX7_priceOf_37 (V.sipush (v := 999) dX7_priceOf_38 (by decide) h)))))))))) ?_
  refine VE.invV2r vX7_295 hW.2.2.1 dX7_priceOf_41 (c_X7_says hW (nmF_cu hw1) hT nmF_w (p := 1) (by decide)) (fun s9 q9 => ?_)
  obtain ⟨w2, hw2, rfl⟩ := q9
  exact VE.iret dX7_priceOf_44 rfl rfl (⟨by rw [priS]; simp only [so, ← hw1]; rfl, _, hw2, rfl⟩)

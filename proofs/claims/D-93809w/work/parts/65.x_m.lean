set_option maxRecDepth 100000
set_option maxHeartbeats 1000000
/-- rows that aren't there are empty -/
def HZ (u : Wv) : Prop := (∀ r, nR u ≤ r → r < 6 → u 108 r = 0 ∧ u 109 r = 0) ∧ ∀ j, 8 * nR u ≤ j → j < 48 → u 110 j = 0 ∧ u 135 j = 0
/-- an image's bounds -/
def HJ (u : Wv) : Prop := (u 100 25 = 0 ∨ u 100 25 = 1) ∧ (u 100 25 = 1 → (∃ k, k ≤ nR u ∧ u 100 26 = nI k) ∧ ∃ q, q ≤ 4 ∧ u 100 27 = nI q) ∧ ∀ j, j < 48 → ∃ k, k < 4 ∧ u 135 j = nI k
theorem XH.imgG {g : Ge} {σ : Sg} {w u : Wv} {n : Nat} {K : Nat → Nat} (h : XH g σ w u n K) {k : Nat} (hk : k ≤ 6) : XH g σ (up2 w 0 33 (nI k)) (up2 (up2 u 100 25 1) 100 26 (nI k)) n K := by
  obtain ⟨h1, ⟨k1, k2, k3, k4⟩, h3, h4⟩ := h
  refine ⟨h1, ⟨fun id j q hq => ?_, ?_, ?_, fun j hj => ?_⟩, ⟨h3.1, by rw [up2_ne _ _ (by simp)]; exact h3.2⟩, fun i hi => ⟨by rw [up2_ne _ _ (by simp), up2_ne _ _ (by simp)]; exact (h4 i hi).1, by rw [up2_ne _ _ (by omega)]; exact (h4 i hi).2⟩⟩
  · rw [up2_ne _ _ (fun z => by rw [z.1, z.2, show xm 100 26 = none from rfl] at hq; cases hq), up2_ne _ _ (fun z => by rw [z.1, z.2, show xm 100 25 = none from rfl] at hq; cases hq), up2_ne _ _ (fun z => by have hx := (xm_xi hq).1; rw [z.1, z.2, show xi 0 33 = none from rfl] at hx; cases hx)]
    exact k1 id j q hq
  · unfold hatP at k2 ⊢
    rw [up2_ne _ _ (by simp), up2_ne _ _ (by simp), up2_ne _ _ (by simp), up2_ne _ _ (by simp)]; exact k2
  · refine .inr ⟨by rw [up2_eq]; exact nI_nm1 (by omega), rfl, by rw [up2_eq, up2_eq]⟩
  · rw [up2_ne _ _ (by simp), up2_ne _ _ (by simp), up2_ne _ _ (by simp)]; exact k4 j hj
theorem XH.cpu {g : Ge} {σ : Sg} {w U : Wv} {n : Nat} {K : Nat → Nat} (h : XH g σ w U n K) {id0 id a sp b dp m : Nat} {F : Nat → Int32} (hid : Nat.beq id 100 = false) (hs : ∀ j, j < m → xm id0 j = some (a, sp + j)) (hd : ∀ j, j < m → xm id j = some (b, dp + j)) (hU : ∀ j, j < m → U id0 j = F j) : XH g σ (cpW w a sp b dp m) (fA id m F U) n K := by
  have h9 := h.cp (id := id) (a := a) (sp := sp) (b := b) (dp := dp) hid m hd
  rw [fA_cg (f' := F) (fun j hj => by rw [h.sv.at (hs j hj)]; exact hU j hj)] at h9
  exact h9
theorem img_eq {u : Wv} {n : Nat} (hn : nR u = n) (h6 : n ≤ 6) (hZ : HZ u) : fA 135 (8 * n) (u 110) (fA 137 4 (u 117) (fA 136 4 (u 116) (fA 132 4 (u 103) (fA 131 4 (u 102) (fA 130 4 (u 101) (fA 134 6 (u 109) (fA 133 6 (u 108) (img0 u)))))))) = imageW u := by
  funext id j
  by_cases h135 : id = 135
  · subst h135
    by_cases hj : j < 48
    · rw [imageW, fA_at hj]
      by_cases h8 : j < 8 * n
      · rw [fA_at h8]
      · rw [fA_ge h8]
        have h9 := hZ.2 j (by omega) hj
        rw [h9.1]
        exact h9.2
    · rw [imageW, fA_ge hj]
      unfold fA
      rw [if_neg]
      · rfl
      · intro z; exact hj (by have := z.2; omega)
  · rw [imageW, fA_ne h135, fA_ne h135]
    unfold img2 img1
    simp only [fA]
    by_cases h1 : id = 130
    · subst h1; simp
    by_cases h1 : id = 131
    · subst h1; simp
    by_cases h1 : id = 132
    · subst h1; simp
    by_cases h1 : id = 133
    · subst h1; simp
    by_cases h1 : id = 134
    · subst h1; simp
    by_cases h1 : id = 136
    · subst h1; simp
    by_cases h1 : id = 137
    · subst h1; simp
    simp_all
theorem c_X0_image {E : En} {g : Ge} {σ : Sg} {w u : Wv} {n : Nat} {K : Nat → Nat} (hX : XH g σ w u n K) (hI : HI u) (hZ : HZ u) : CtE E mX0_image 3 [.ref (g.1 0)] (PR (.int (u 100 3)) (QX g σ (imageW u) n K)) (S g σ w) := by
  show VE E mX0_image 3 _ 0 [some (.ref (g.1 0)), none] [] (S g σ w)
  have hn6 := hX.2.2.1.1
  rw [hX.rows]
  refine VE.step (fun _ h => V.ald0 dX0_image_0 (V.ald0 dX0_image_1 (GX0_22 hX rfl dX0_image_2 (V.invV0r vX0_142 hX.li.2.1 dX0_image_5 (c_J2_size hX) (PX0_82 hX rfl dX0_image_8 h))))) ?_
  have hX1 := hX.imgG (k := n) hn6
  refine VE.step (fun _ h => V.ald0 dX0_image_11 (V.ald0 dX0_image_12 (GX0_210 hX1 rfl dX0_image_13 (PX0_403 hX1 rfl dX0_image_16 h)))) ?_
  have hX2 := hX1.up xm_0_27 (x := u 100 14)
  refine VE.step (fun _ h => V.ald0 dX0_image_19 (V.ald0 dX0_image_20 (GX0_213 hX2 rfl dX0_image_21 (PX0_406 hX2 rfl dX0_image_24 h)))) ?_
  have hY0 := hX2.up xm_0_28 (x := u 100 22)
  rw [show up2 (up2 (up2 (up2 u 100 25 1) 100 26 (nI n)) 100 27 (u 100 14)) 100 28 (u 100 22) = img0 u by rw [img0, hX.rows]] at hY0
  refine VE.step (fun _ h => V.ald0 dX0_image_27 (GX0_26 hY0 rfl dX0_image_28 (V.iconst_0 dX0_image_31 (V.ald0 dX0_image_32 (GX0_70 hY0 rfl dX0_image_33 (V.iconst_0 dX0_image_36 (V.bipush (v := 6) dX0_image_37 (by decide) (V.xcopy (sp := 0) (dp := 0) (m := 6) (t := 100) hY0.gk rfl hY0.i0 hY0.i0 (hY0.ai (f := 4) (by decide)).2 (hY0.ai (f := 29) (by decide)).2 (by decide) (by decide) rfl rfl rfl (by decide) (by decide) (by decide) (by decide) (.inl rfl) dX0_image_39 h)))))))) ?_
  have hY1 : XH g σ _ (fA 133 6 (u 108) (img0 u)) n K := hY0.cpu (id0 := 108) (id := 133) (a := 5) (sp := 0) (b := 30) (dp := 0) rfl (fun j hj => by rw [xm_108 hj, Nat.zero_add]) (fun j hj => by rw [xm_133 hj, Nat.zero_add]) (fun j hj => rfl)
  refine VE.step (fun _ h => V.ald0 dX0_image_42 (GX0_29 hY1 rfl dX0_image_43 (V.iconst_0 dX0_image_46 (V.ald0 dX0_image_47 (GX0_70 hY1 rfl dX0_image_48 (V.bipush (v := 6) dX0_image_51 (by decide) (V.bipush (v := 6) dX0_image_53 (by decide) (V.xcopy (sp := 0) (dp := 6) (m := 6) (t := 100) hY1.gk rfl hY1.i0 hY1.i0 (hY1.ai (f := 5) (by decide)).2 (hY1.ai (f := 29) (by decide)).2 (by decide) (by decide) rfl rfl rfl (by decide) (by decide) (by decide) (by decide) (.inl rfl) dX0_image_55 h)))))))) ?_
  have hY2 : XH g σ _ (fA 134 6 (u 109) (fA 133 6 (u 108) (img0 u))) n K := hY1.cpu (id0 := 109) (id := 134) (a := 6) (sp := 0) (b := 30) (dp := 6) rfl (fun j hj => by rw [xm_109 hj, Nat.zero_add]) (fun j hj => by rw [xm_134 hj]) (fun j hj => rfl)
  refine VE.step (fun _ h => V.ald0 dX0_image_58 (GX0_7 hY2 rfl dX0_image_59 (V.iconst_0 dX0_image_62 (V.ald0 dX0_image_63 (GX0_73 hY2 rfl dX0_image_64 (V.iconst_0 dX0_image_67 (V.iconst_4 dX0_image_68 (V.xcopy (sp := 0) (dp := 0) (m := 4) (t := 100) hY2.gk rfl hY2.i0 hY2.i0 (hY2.ai (f := 0) (by decide)).2 (hY2.ai (f := 30) (by decide)).2 (by decide) (by decide) rfl rfl rfl (by decide) (by decide) (by decide) (by decide) (.inl rfl) dX0_image_69 h)))))))) ?_
  have hY3 : XH g σ _ (fA 130 4 (u 101) (fA 134 6 (u 109) (fA 133 6 (u 108) (img0 u)))) n K := hY2.cpu (id0 := 101) (id := 130) (a := 1) (sp := 0) (b := 31) (dp := 0) rfl (fun j hj => by rw [xm_101 hj, Nat.zero_add]) (fun j hj => by rw [xm_130 hj, Nat.zero_add]) (fun j hj => rfl)
  refine VE.step (fun _ h => V.ald0 dX0_image_72 (GX0_13 hY3 rfl dX0_image_73 (V.iconst_0 dX0_image_76 (V.ald0 dX0_image_77 (GX0_73 hY3 rfl dX0_image_78 (V.iconst_4 dX0_image_81 (V.iconst_4 dX0_image_82 (V.xcopy (sp := 0) (dp := 4) (m := 4) (t := 100) hY3.gk rfl hY3.i0 hY3.i0 (hY3.ai (f := 1) (by decide)).2 (hY3.ai (f := 30) (by decide)).2 (by decide) (by decide) rfl rfl rfl (by decide) (by decide) (by decide) (by decide) (.inl rfl) dX0_image_83 h)))))))) ?_
  have hY4 : XH g σ _ (fA 131 4 (u 102) (fA 130 4 (u 101) (fA 134 6 (u 109) (fA 133 6 (u 108) (img0 u))))) n K := hY3.cpu (id0 := 102) (id := 131) (a := 2) (sp := 0) (b := 31) (dp := 4) rfl (fun j hj => by rw [xm_102 hj, Nat.zero_add]) (fun j hj => by rw [xm_131 hj]) (fun j hj => rfl)
  refine VE.step (fun _ h => V.ald0 dX0_image_86 (GX0_16 hY4 rfl dX0_image_87 (V.iconst_0 dX0_image_90 (V.ald0 dX0_image_91 (GX0_73 hY4 rfl dX0_image_92 (V.bipush (v := 8) dX0_image_95 (by decide) (V.iconst_4 dX0_image_97 (V.xcopy (sp := 0) (dp := 8) (m := 4) (t := 100) hY4.gk rfl hY4.i0 hY4.i0 (hY4.ai (f := 2) (by decide)).2 (hY4.ai (f := 30) (by decide)).2 (by decide) (by decide) rfl rfl rfl (by decide) (by decide) (by decide) (by decide) (.inl rfl) dX0_image_98 h)))))))) ?_
  have hY5 : XH g σ _ (fA 132 4 (u 103) (fA 131 4 (u 102) (fA 130 4 (u 101) (fA 134 6 (u 109) (fA 133 6 (u 108) (img0 u)))))) n K := hY4.cpu (id0 := 103) (id := 132) (a := 3) (sp := 0) (b := 31) (dp := 8) rfl (fun j hj => by rw [xm_103 hj, Nat.zero_add]) (fun j hj => by rw [xm_132 hj]) (fun j hj => rfl)
  refine VE.step (fun _ h => V.ald0 dX0_image_101 (GX0_41 hY5 rfl dX0_image_102 (V.iconst_0 dX0_image_105 (V.ald0 dX0_image_106 (GX0_76 hY5 rfl dX0_image_107 (V.iconst_0 dX0_image_110 (V.iconst_4 dX0_image_111 (V.xcopy (sp := 0) (dp := 0) (m := 4) (t := 100) hY5.gk rfl hY5.i0 hY5.i0 (hY5.ai (f := 10) (by decide)).2 (hY5.ai (f := 31) (by decide)).2 (by decide) (by decide) rfl rfl rfl (by decide) (by decide) (by decide) (by decide) (.inl rfl) dX0_image_112 h)))))))) ?_
  have hY6 : XH g σ _ (fA 136 4 (u 116) (fA 132 4 (u 103) (fA 131 4 (u 102) (fA 130 4 (u 101) (fA 134 6 (u 109) (fA 133 6 (u 108) (img0 u))))))) n K := hY5.cpu (id0 := 116) (id := 136) (a := 11) (sp := 0) (b := 32) (dp := 0) rfl (fun j hj => by rw [xm_116 hj, Nat.zero_add]) (fun j hj => by rw [xm_136 hj, Nat.zero_add]) (fun j hj => rfl)
  refine VE.step (fun _ h => V.ald0 dX0_image_115 (GX0_44 hY6 rfl dX0_image_116 (V.iconst_0 dX0_image_119 (V.ald0 dX0_image_120 (GX0_76 hY6 rfl dX0_image_121 (V.iconst_4 dX0_image_124 (V.iconst_4 dX0_image_125 (V.xcopy (sp := 0) (dp := 4) (m := 4) (t := 100) hY6.gk rfl hY6.i0 hY6.i0 (hY6.ai (f := 11) (by decide)).2 (hY6.ai (f := 31) (by decide)).2 (by decide) (by decide) rfl rfl rfl (by decide) (by decide) (by decide) (by decide) (.inl rfl) dX0_image_126 h)))))))) ?_
  have hY7 : XH g σ _ (fA 137 4 (u 117) (fA 136 4 (u 116) (fA 132 4 (u 103) (fA 131 4 (u 102) (fA 130 4 (u 101) (fA 134 6 (u 109) (fA 133 6 (u 108) (img0 u)))))))) n K := hY6.cpu (id0 := 117) (id := 137) (a := 12) (sp := 0) (b := 32) (dp := 4) rfl (fun j hj => by rw [xm_117 hj, Nat.zero_add]) (fun j hj => by rw [xm_137 hj]) (fun j hj => rfl)
  refine VE.step (fun _ h => V.iconst_0 dX0_image_129 (V.ist1 dX0_image_130 h)) ?_
  have L131 : ∀ (m r : Nat) (w1 : Wv), r + m = n → XH g σ w1 (fA 135 (8 * r) (u 110) (fA 137 4 (u 117) (fA 136 4 (u 116) (fA 132 4 (u 103) (fA 131 4 (u 102) (fA 130 4 (u 101) (fA 134 6 (u 109) (fA 133 6 (u 108) (img0 u))))))))) n K → w1 0 33 = nI n → VE E mX0_image 3 (PR (.int (nI n)) (QX g σ (imageW u) n K)) 131 [some (.ref (g.1 0)), some (.int (nI r))] [] (S g σ w1) := by
    intro m
    induction m with
    | zero =>
      intro r w1 hk hX1 hk1
      refine VE.step (fun _ h => V.ild1 dX0_image_131 (V.ald0 dX0_image_132 (GX0_82 hX1 rfl dX0_image_133 h))) ?_
      refine VE.icmp_ge (tgt := 173) dX0_image_136 (by decide) (fun c_136 => ?_) (fun c_136 => absurd (by rw [hk1]; exact nI_le (by omega) (by omega)) c_136)
      refine VE.step (fun _ h => V.ald0 dX0_image_173 (GX0_82 hX1 rfl dX0_image_174 h)) ?_
      exact VE.iret dX0_image_177 rfl rfl (⟨by rw [hk1], w1, rfl, by rw [← img_eq hX.nrw hn6 hZ]; rw [show r = n by omega] at hX1; exact hX1⟩)
    | succ m ih =>
      intro r w1 hk hX1 hk1
      have hr : r < n := by omega
      have h6 := hX.n6 hr
      refine VE.step (fun _ h => V.ild1 dX0_image_131 (V.ald0 dX0_image_132 (GX0_82 hX1 rfl dX0_image_133 h))) ?_
      refine VE.icmp_ge (tgt := 173) dX0_image_136 (by decide) (fun c_136 => absurd c_136 (by rw [hk1]; first | exact nI_ge (by omega) (by omega) | exact fun h9 => absurd ((nI_leI (by omega) (by omega)).mp h9) (by omega))) (fun c_136 => ?_)
      refine VE.step (fun _ h => V.ald0 dX0_image_139 (GX0_22 hX1 rfl dX0_image_140 (V.ild1 dX0_image_143 (V.invV1r vX0_150 hX1.li.2.1 dX0_image_144 (c_J2_get hX1 hr) (ccX0_122 hX1 hr rfl dX0_image_147 (GX0_177 hX1 hr rfl dX0_image_150 (V.iconst_0 dX0_image_153 (V.ald0 dX0_image_154 (GX0_79 hX1 rfl dX0_image_155 (V.bipush (v := 8) dX0_image_158 (by decide) (V.ild1 dX0_image_160 (V.imul dX0_image_161 (V.bipush (v := 8) dX0_image_162 (by decide) (V.xcopy (sp := 0) (dp := 8 * r) (m := 8) (t := 101) hX1.gk rfl (hX1.ir hr).2 hX1.i0 (hX1.ro hr).2.2 (hX1.bi (f := 32) (by decide)).2 (by decide) (by decide) rfl (by rw [show (8 : Int32) = nI 8 from rfl, pk_mul]) rfl (by decide) (by show 8 * r + 8 ≤ 48; omega) (by decide) (by decide) (.inr (fun i hi => by rw [Nat.zero_add, xso hX1.sv h6 hi]; exact fb4 (so4 hI h6 hi))) dX0_image_164 h)))))))))))))) ?_
      refine VE.step (fun _ h => V.inc1 dX0_image_167 (V.goto (tgt := 131) dX0_image_170 (by decide) h)) ?_
      rw [nI_1]
      exact ih (r + 1) _ (by omega) (by rw [show 8 * (r + 1) = 8 * r + 8 by omega]; exact XH.cpf (id := 135) (lo := 8 * r) (dp := 8 * r) rfl hX1 8 (fun j hj => by rw [xm_135 (by omega)]) (fun j hj => by rw [Nat.zero_add, xso hX1.sv h6 hj]; rfl)) (by rw [cpW_ne (by decide)]; exact hk1)
  exact L131 n 0 _ (by omega) (by rw [Nat.mul_zero, fA_0]; exact hY7) (by rw [cpW_ne (by decide), cpW_ne (by decide), cpW_ne (by decide), cpW_ne (by decide), cpW_ne (by decide), cpW_ne (by decide), cpW_ne (by decide)]; rfl)

theorem bk_eq {u : Wv} {k q : Nat} (h25 : u 100 25 = 1) (e26 : u 100 26 = nI k) (hk6 : k ≤ 6) (e34 : u 100 27 = nI q) (hq : q ≤ 4) : fA 110 (8 * k) (u 135) (fA 117 q (u 137) (fA 116 q (u 136) (fA 103 4 (u 132) (fA 102 4 (u 131) (fA 101 4 (u 130) (fA 109 k (u 134) (fA 108 k (u 133) (up2 u 100 22 (u 100 28))))))))) = backW u := by
  rw [backW, if_neg (by rw [h25]; decide), e26, cl_n (by omega), bk2]
  have hb : ∀ (d s j : Nat), j < 4 → bPt u d s j = if j < q then u s j else u d j := fun d s j hj => by
    rw [bPt, e34]
    by_cases h : j < q
    · rw [if_neg (fun z => absurd ((nI_leI (by omega) (by omega)).mp z) (by omega)), if_pos h]
    · rw [if_pos (nI_le (by omega) (by omega)), if_neg h]
  funext id j
  unfold bk1
  by_cases h1 : id = 116
  · subst h1
    simp only [fA]
    by_cases hj : j < 4
    · simp [hb 116 136 j hj, hj]
      by_cases hq2 : j < q <;> simp [hq2] <;> rfl
    · simp [hj, show ¬ j < q by omega]
  by_cases h2 : id = 117
  · subst h2
    simp only [fA]
    by_cases hj : j < 4
    · simp [hb 117 137 j hj, hj]
      by_cases hq2 : j < q <;> simp [hq2] <;> rfl
    · simp [hj, show ¬ j < q by omega]
  simp only [fA, h1, h2, false_and, if_false]
  by_cases h3 : id = 108
  · subst h3; simp
  by_cases h3 : id = 109
  · subst h3; simp
  by_cases h3 : id = 101
  · subst h3; simp
  by_cases h3 : id = 102
  · subst h3; simp
  by_cases h3 : id = 103
  · subst h3; simp
  by_cases h3 : id = 110
  · subst h3; simp
  simp_all
theorem c_X0_back {E : En} {g : Ge} {σ : Sg} {w u : Wv} {n : Nat} {K : Nat → Nat} (hX : XH g σ w u n K) (hI : HI u) (hJ : HJ u) : CtE E mX0_back 3 [.ref (g.1 0)] (PR (.int (backR u)) (QX g σ (backW u) n K)) (S g σ w) := by
  show VE E mX0_back 3 _ 0 [some (.ref (g.1 0)), none] [] (S g σ w)
  have hn6 := hX.2.2.1.1
  refine VE.step (fun _ h => V.ald0 dX0_back_0 (GX0_82 hX rfl dX0_back_1 (V.iconst_m1 dX0_back_4 h))) ?_
  refine VE.icmp_ne (tgt := 11) dX0_back_5 (by decide) (fun c_5 => ?_) (fun c_5 => ?_)
  · obtain ⟨h25, e26'⟩ : u 100 25 = 1 ∧ u 100 26 = w 0 33 := by
      rcases hX.sv.2.2.1 with ⟨h1, h2⟩ | ⟨h1, h2, h3⟩
      · exact absurd h1 c_5
      · exact ⟨h2, h3⟩
    obtain ⟨⟨k, hkn, e26⟩, ⟨q, hq4, e34⟩⟩ := hJ.2.1 h25
    have hk6 : k ≤ 6 := by rw [hX.nrw] at hkn; omega
    have hkn' : k ≤ n := by rw [hX.nrw] at hkn; exact hkn
    have e33 : w 0 33 = nI k := e26'.symm.trans e26
    rw [backR, if_neg (by rw [h25]; decide)]
    refine VE.step (fun _ h => V.ald0 dX0_back_11 (V.ald0 dX0_back_12 (GX0_406 hX rfl dX0_back_13 (PX0_213 hX rfl dX0_back_16 h)))) ?_
    have hY0 : XH g σ _ (up2 u 100 22 (u 100 28)) n K := hX.up xm_0_22
    refine VE.step (fun _ h => V.ald0 dX0_back_19 (GX0_70 hY0 rfl dX0_back_20 (V.iconst_0 dX0_back_23 (V.ald0 dX0_back_24 (GX0_26 hY0 rfl dX0_back_25 (V.iconst_0 dX0_back_28 (V.ald0 dX0_back_29 (GX0_82 hY0 rfl dX0_back_30 (V.xcopy (sp := 0) (dp := 0) (m := k) (t := 100) hY0.gk rfl hY0.i0 hY0.i0 (hY0.ai (f := 29) (by decide)).2 (hY0.ai (f := 4) (by decide)).2 (by decide) (by decide) rfl rfl (by rw [up2_ne _ _ (by simp)]; exact e33) (by show 0 + k ≤ 12; omega) (by show 0 + k ≤ 6; omega) (by decide) (by decide) (.inl rfl) dX0_back_33 h))))))))) ?_
    have hY1 : XH g σ _ (fA 108 k (u 133) (up2 u 100 22 (u 100 28))) n K := hY0.cpu (id0 := 133) (id := 108) (a := 30) (sp := 0) (b := 5) (dp := 0) rfl (fun j hj => by rw [xm_133 (by omega), Nat.zero_add]) (fun j hj => by rw [xm_108 (by omega), Nat.zero_add]) (fun j hj => rfl)
    refine VE.step (fun _ h => V.ald0 dX0_back_36 (GX0_70 hY1 rfl dX0_back_37 (V.bipush (v := 6) dX0_back_40 (by decide) (V.ald0 dX0_back_42 (GX0_29 hY1 rfl dX0_back_43 (V.iconst_0 dX0_back_46 (V.ald0 dX0_back_47 (GX0_82 hY1 rfl dX0_back_48 (V.xcopy (sp := 6) (dp := 0) (m := k) (t := 100) hY1.gk rfl hY1.i0 hY1.i0 (hY1.ai (f := 29) (by decide)).2 (hY1.ai (f := 5) (by decide)).2 (by decide) (by decide) rfl rfl (by rw [cpW_ne (by decide), up2_ne _ _ (by simp)]; exact e33) (by show 6 + k ≤ 12; omega) (by show 0 + k ≤ 6; omega) (by decide) (by decide) (.inl rfl) dX0_back_51 h))))))))) ?_
    have hY2 : XH g σ _ (fA 109 k (u 134) (fA 108 k (u 133) (up2 u 100 22 (u 100 28)))) n K := hY1.cpu (id0 := 134) (id := 109) (a := 30) (sp := 6) (b := 6) (dp := 0) rfl (fun j hj => by rw [xm_134 (by omega)]) (fun j hj => by rw [xm_109 (by omega), Nat.zero_add]) (fun j hj => rfl)
    refine VE.step (fun _ h => V.ald0 dX0_back_54 (GX0_73 hY2 rfl dX0_back_55 (V.iconst_0 dX0_back_58 (V.ald0 dX0_back_59 (GX0_7 hY2 rfl dX0_back_60 (V.iconst_0 dX0_back_63 (V.iconst_4 dX0_back_64 (V.xcopy (sp := 0) (dp := 0) (m := 4) (t := 100) hY2.gk rfl hY2.i0 hY2.i0 (hY2.ai (f := 30) (by decide)).2 (hY2.ai (f := 0) (by decide)).2 (by decide) (by decide) rfl rfl rfl (by decide) (by decide) (by decide) (by decide) (.inl rfl) dX0_back_65 h)))))))) ?_
    have hY3 : XH g σ _ (fA 101 4 (u 130) (fA 109 k (u 134) (fA 108 k (u 133) (up2 u 100 22 (u 100 28))))) n K := hY2.cpu (id0 := 130) (id := 101) (a := 31) (sp := 0) (b := 1) (dp := 0) rfl (fun j hj => by rw [xm_130 hj, Nat.zero_add]) (fun j hj => by rw [xm_101 hj, Nat.zero_add]) (fun j hj => rfl)
    refine VE.step (fun _ h => V.ald0 dX0_back_68 (GX0_73 hY3 rfl dX0_back_69 (V.iconst_4 dX0_back_72 (V.ald0 dX0_back_73 (GX0_13 hY3 rfl dX0_back_74 (V.iconst_0 dX0_back_77 (V.iconst_4 dX0_back_78 (V.xcopy (sp := 4) (dp := 0) (m := 4) (t := 100) hY3.gk rfl hY3.i0 hY3.i0 (hY3.ai (f := 30) (by decide)).2 (hY3.ai (f := 1) (by decide)).2 (by decide) (by decide) rfl rfl rfl (by decide) (by decide) (by decide) (by decide) (.inl rfl) dX0_back_79 h)))))))) ?_
    have hY4 : XH g σ _ (fA 102 4 (u 131) (fA 101 4 (u 130) (fA 109 k (u 134) (fA 108 k (u 133) (up2 u 100 22 (u 100 28)))))) n K := hY3.cpu (id0 := 131) (id := 102) (a := 31) (sp := 4) (b := 2) (dp := 0) rfl (fun j hj => by rw [xm_131 hj]) (fun j hj => by rw [xm_102 hj, Nat.zero_add]) (fun j hj => rfl)
    refine VE.step (fun _ h => V.ald0 dX0_back_82 (GX0_73 hY4 rfl dX0_back_83 (V.bipush (v := 8) dX0_back_86 (by decide) (V.ald0 dX0_back_88 (GX0_16 hY4 rfl dX0_back_89 (V.iconst_0 dX0_back_92 (V.iconst_4 dX0_back_93 (V.xcopy (sp := 8) (dp := 0) (m := 4) (t := 100) hY4.gk rfl hY4.i0 hY4.i0 (hY4.ai (f := 30) (by decide)).2 (hY4.ai (f := 2) (by decide)).2 (by decide) (by decide) rfl rfl rfl (by decide) (by decide) (by decide) (by decide) (.inl rfl) dX0_back_94 h)))))))) ?_
    have hY5 : XH g σ _ (fA 103 4 (u 132) (fA 102 4 (u 131) (fA 101 4 (u 130) (fA 109 k (u 134) (fA 108 k (u 133) (up2 u 100 22 (u 100 28))))))) n K := hY4.cpu (id0 := 132) (id := 103) (a := 31) (sp := 8) (b := 3) (dp := 0) rfl (fun j hj => by rw [xm_132 hj]) (fun j hj => by rw [xm_103 hj, Nat.zero_add]) (fun j hj => rfl)
    refine VE.step (fun _ h => V.ald0 dX0_back_97 (GX0_76 hY5 rfl dX0_back_98 (V.iconst_0 dX0_back_101 (V.ald0 dX0_back_102 (GX0_41 hY5 rfl dX0_back_103 (V.iconst_0 dX0_back_106 (V.ald0 dX0_back_107 (GX0_403 hY5 rfl dX0_back_108 (V.xcopy (sp := 0) (dp := 0) (m := q) (t := 100) hY5.gk rfl hY5.i0 hY5.i0 (hY5.ai (f := 31) (by decide)).2 (hY5.ai (f := 10) (by decide)).2 (by decide) (by decide) rfl rfl (show u 100 27 = nI q from e34) (by show 0 + q ≤ 8; omega) (by show 0 + q ≤ 4; omega) (by decide) (by decide) (.inl rfl) dX0_back_111 h))))))))) ?_
    have hY6 : XH g σ _ (fA 116 q (u 136) (fA 103 4 (u 132) (fA 102 4 (u 131) (fA 101 4 (u 130) (fA 109 k (u 134) (fA 108 k (u 133) (up2 u 100 22 (u 100 28)))))))) n K := hY5.cpu (id0 := 136) (id := 116) (a := 32) (sp := 0) (b := 11) (dp := 0) rfl (fun j hj => by rw [xm_136 (by omega), Nat.zero_add]) (fun j hj => by rw [xm_116 (by omega), Nat.zero_add]) (fun j hj => rfl)
    refine VE.step (fun _ h => V.ald0 dX0_back_114 (GX0_76 hY6 rfl dX0_back_115 (V.iconst_4 dX0_back_118 (V.ald0 dX0_back_119 (GX0_44 hY6 rfl dX0_back_120 (V.iconst_0 dX0_back_123 (V.ald0 dX0_back_124 (GX0_403 hY6 rfl dX0_back_125 (V.xcopy (sp := 4) (dp := 0) (m := q) (t := 100) hY6.gk rfl hY6.i0 hY6.i0 (hY6.ai (f := 31) (by decide)).2 (hY6.ai (f := 11) (by decide)).2 (by decide) (by decide) rfl rfl (show u 100 27 = nI q from e34) (by show 4 + q ≤ 8; omega) (by show 0 + q ≤ 4; omega) (by decide) (by decide) (.inl rfl) dX0_back_128 h))))))))) ?_
    have hY7 : XH g σ _ (fA 117 q (u 137) (fA 116 q (u 136) (fA 103 4 (u 132) (fA 102 4 (u 131) (fA 101 4 (u 130) (fA 109 k (u 134) (fA 108 k (u 133) (up2 u 100 22 (u 100 28))))))))) n K := hY6.cpu (id0 := 137) (id := 117) (a := 32) (sp := 4) (b := 12) (dp := 0) rfl (fun j hj => by rw [xm_137 (by omega)]) (fun j hj => by rw [xm_117 (by omega), Nat.zero_add]) (fun j hj => rfl)
    refine VE.step (fun _ h => V.iconst_0 dX0_back_131 (V.ist1 dX0_back_132 h)) ?_
    have L133 : ∀ (m r : Nat) (w1 : Wv), r + m = k → XH g σ w1 (fA 110 (8 * r) (u 135) (fA 117 q (u 137) (fA 116 q (u 136) (fA 103 4 (u 132) (fA 102 4 (u 131) (fA 101 4 (u 130) (fA 109 k (u 134) (fA 108 k (u 133) (up2 u 100 22 (u 100 28)))))))))) n K → w1 0 33 = nI k → VE E mX0_back 3 (PR (.int (u 100 3)) (QX g σ (backW u) n K)) 133 [some (.ref (g.1 0)), some (.int (nI r))] [] (S g σ w1) := by
      intro m
      induction m with
      | zero =>
        intro r w1 hk hX1 hk1
        refine VE.step (fun _ h => V.ild1 dX0_back_133 (V.ald0 dX0_back_134 (GX0_82 hX1 rfl dX0_back_135 h))) ?_
        refine VE.icmp_ge (tgt := 175) dX0_back_138 (by decide) (fun c_138 => ?_) (fun c_138 => absurd (by rw [hk1]; exact nI_le (by omega) (by omega)) c_138)
        refine VE.step (fun _ h => V.ald0 dX0_back_175 (GX0_22 hX1 rfl dX0_back_176 (V.invV0r vX0_142 hX1.li.2.1 dX0_back_179 (c_J2_size hX1) h))) ?_
        exact VE.iret dX0_back_182 rfl rfl (⟨by rw [hX.rows], w1, rfl, by rw [show r = k by omega] at hX1; rw [← bk_eq h25 e26 hk6 e34 hq4]; exact hX1⟩)
      | succ m ih =>
        intro r w1 hk hX1 hk1
        have hr : r < n := by omega
        have h6 := hX.n6 hr
        refine VE.step (fun _ h => V.ild1 dX0_back_133 (V.ald0 dX0_back_134 (GX0_82 hX1 rfl dX0_back_135 h))) ?_
        refine VE.icmp_ge (tgt := 175) dX0_back_138 (by decide) (fun c_138 => absurd c_138 (by rw [hk1]; first | exact nI_ge (by omega) (by omega) | exact fun h9 => absurd ((nI_leI (by omega) (by omega)).mp h9) (by omega))) (fun c_138 => ?_)
        refine VE.step (fun _ h => V.ald0 dX0_back_141 (GX0_79 hX1 rfl dX0_back_142 (V.bipush (v := 8) dX0_back_145 (by decide) (V.ild1 dX0_back_147 (V.imul dX0_back_148 (V.ald0 dX0_back_149 (GX0_22 hX1 rfl dX0_back_150 (V.ild1 dX0_back_153 (V.invV1r vX0_150 hX1.li.2.1 dX0_back_154 (c_J2_get hX1 hr) (ccX0_122 hX1 hr rfl dX0_back_157 (GX0_177 hX1 hr rfl dX0_back_160 (V.iconst_0 dX0_back_163 (V.bipush (v := 8) dX0_back_164 (by decide) (V.xcopy (sp := 8 * r) (dp := 0) (m := 8) (t := 101) hX1.gk rfl hX1.i0 (hX1.ir hr).2 (hX1.bi (f := 32) (by decide)).2 (hX1.ro hr).2.2 (by decide) (by decide) (by rw [show (8 : Int32) = nI 8 from rfl, pk_mul]) rfl rfl (by show 8 * r + 8 ≤ 48; omega) (by decide) (by decide) (by decide) (.inr (fun i hi => by rw [hX1.sv.at (xm_135 (j := 8 * r + i) (by omega))]; exact fb4 (hJ.2.2 (8 * r + i) (by omega)))) dX0_back_166 h)))))))))))))) ?_
        refine VE.step (fun _ h => V.inc1 dX0_back_169 (V.goto (tgt := 133) dX0_back_172 (by decide) h)) ?_
        rw [nI_1]
        exact ih (r + 1) _ (by omega) (by rw [show 8 * (r + 1) = 8 * r + 8 by omega]; exact XH.cpf (id := 110) (lo := 8 * r) (dp := 0) rfl hX1 8 (fun j hj => by rw [xsm h6 hj, Nat.zero_add]) (fun j hj => hX1.sv.at (xm_135 (j := 8 * r + j) (by omega)))) (by rw [cpW_ne (by omega)]; exact hk1)
    exact L133 k 0 _ (by omega) (by rw [Nat.mul_zero, fA_0]; exact hY7) (by rw [cpW_ne (by decide), cpW_ne (by decide), cpW_ne (by decide), cpW_ne (by decide), cpW_ne (by decide), cpW_ne (by decide), cpW_ne (by decide), up2_ne _ _ (by simp)]; exact e33)
  · refine VE.step (fun _ h => V.bipush (v := (-3)) dX0_back_8 (by decide) h) ?_
    exact VE.iret dX0_back_10 rfl rfl (by rcases hX.sv.2.2.1 with ⟨h1, h2⟩ | ⟨h1, h2, h3⟩; exact ⟨by rw [backR, if_pos h2], w, rfl, by rw [backW, if_pos h2]; exact hX⟩; exact absurd c_5 h1)

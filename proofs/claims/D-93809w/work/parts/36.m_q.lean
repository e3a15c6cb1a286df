set_option maxRecDepth 100000
set_option maxHeartbeats 1000000
theorem nI_sb {a b : Nat} (h : b ≤ a) : nI a - nI b = nI (a - b) := by
  obtain ⟨c, rfl⟩ := Nat.exists_eq_add_of_le h
  rw [Nat.add_sub_cancel_left, Nat.add_comm, ← nI_add]; exact Int32.add_sub_cancel _ _
theorem gA_p {d a k : Nat} {f : Nat → Int32} {w : Wv} {x : Int32} (h : x = f 0) : up2 (gA d (a + 1) k (fun i => f (i + 1)) w) d a x = gA d a (k + 1) f w := by
  subst h
  funext i j
  unfold gA
  by_cases h2 : i = d ∧ j = a
  · obtain ⟨rfl, rfl⟩ := h2
    rw [up2_eq, if_pos ⟨rfl, by omega, by omega⟩, Nat.sub_self]
  · rw [up2_ne _ _ h2]
    by_cases h3 : i = d ∧ a + 1 ≤ j ∧ j < a + 1 + k
    · rw [if_pos h3, if_pos ⟨h3.1, by omega, by omega⟩, show j - a = j - (a + 1) + 1 by omega]
    · rw [if_neg h3, if_neg (fun z => h3 ⟨z.1, by have : ¬ j = a := fun y => h2 ⟨z.1, y⟩; omega, by omega⟩)]
theorem gA_f {d a k : Nat} {f f' : Nat → Int32} {w : Wv} (h : ∀ i, f i = f' i) : gA d a k f w = gA d a k f' w := by rw [show f = f' from funext h]
def cpyOk (v : Wv) (s : Nat) (i : Int32) (o : Nat) (j n : Int32) : Bool := decide (¬ n < 0) && decide (¬ i < 0) && decide (¬ j < 0) && decide (¬ v 139 s < i) && decide (¬ v 139 o < j) && decide (¬ v 139 s - i < n) && decide (n ≤ v 139 o - j)
def cpyV (w : Wv) (s i o j n : Nat) : Wv := gA 140 (60 * o + j) n (fun x => w 140 (60 * s + i + x)) w
def copyR (v : Wv) (s i o j n : Int32) : Int32 := if inB s 0 3 && inB o 0 3 then (if decide (v 138 (cl s) = -1) || decide (v 138 (cl o) = -1) then -11 else if v 138 (cl s) = v 138 (cl o) then (if cpyOk v (cl s) i (cl o) j n then n else -12) else -13) else -2
def copyW (w v : Wv) (s i o j n : Int32) : Wv := if inB s 0 3 && inB o 0 3 then (if decide (v 138 (cl s) = -1) || decide (v 138 (cl o) = -1) then w else if v 138 (cl s) = v 138 (cl o) then (if cpyOk v (cl s) i (cl o) j n then cpyV w (cl s) (cl i) (cl o) (cl j) (cl n) else w) else w) else w
theorem cpyOk_n {v : Wv} {s o N M : Nat} {i j n : Int32} (hN : N ≤ 60) (hM : M ≤ 60) (e1 : v 139 s = nI N) (e2 : v 139 o = nI M) (h : cpyOk v s i o j n = true) : ∃ a b c, i = nI a ∧ j = nI b ∧ n = nI c ∧ a + c ≤ N ∧ b + c ≤ M := by
  simp only [cpyOk, Bool.and_eq_true, decide_eq_true_eq, e1, e2] at h
  obtain ⟨⟨⟨⟨⟨⟨h1, h2⟩, h3⟩, h4⟩, h5⟩, h6⟩, h7⟩ := h
  obtain ⟨c, hc, rfl⟩ := nI_of h1
  obtain ⟨a, ha, rfl⟩ := nI_of h2
  obtain ⟨b, hb, rfl⟩ := nI_of h3
  have a1 : a ≤ N := by rw [nI_ltI (by omega) ha] at h4; omega
  have b1 : b ≤ M := by rw [nI_ltI (by omega) hb] at h5; omega
  rw [nI_sb a1, nI_ltI (by omega) hc] at h6
  rw [nI_sb b1, nI_leI hc (by omega)] at h7
  exact ⟨a, b, c, rfl, rfl, rfl, by omega, by omega⟩
theorem copyW_cv {w v : Wv} (h : cv w = cv v) {s i o j n : Int32} : cv (copyW w v s i o j n) = cv (copyW v v s i o j n) := by
  unfold copyW
  split
  · split
    · exact h
    · split
      · split
        · unfold cpyV
          rw [cv_gA h, gA_f (fun x => cv_at h (e := rfl))]
        · exact h
      · exact h
  · exact h

theorem c_X7_copy {E : En} {g : Ge} {σ : Sg} {w : Wv} (hW : WM g σ) {v : Wv} (hA : cv w = cv v) (hI : HI v) (hS : HS v) {s i o j n : Int32} : Ct E mX7_copy 1 [.ref (g.1 100), .int s, .int i, .int o, .int j, .int n] (.returned (some (.int (copyR v s i o j n))), S g σ (copyW w v s i o j n)) (S g σ w) := by
  show V E mX7_copy 1 _ 0 [some (.ref (g.1 100)), some (.int s), some (.int i), some (.int o), some (.int j), some (.int n), none, none, none, none] [] (S g σ w)
  refine V.ild1 dX7_copy_0 (V.iconst_0 dX7_copy_1 (V.iconst_3 dX7_copy_2 (V.invS3r sX7_159 dX7_copy_3 c_X7_in (V.ifb_eq (tgt := 18) dX7_copy_6 (by decide) (fun c_6 => ?_) (fun c_6 => ?_)))))
  · exact V.bipush (v := (-2)) dX7_copy_18 (by decide) (V.iret dX7_copy_20 rfl rfl (by simp only [copyR, copyW, c_6, if_true, if_false, Bool.false_eq_true, eq_self, and_true, true_and, and_false, false_and, Bool.and_true, Bool.true_and, Bool.and_false, Bool.false_and, Bool.not_true, Bool.not_false, not_true_eq_false, not_false_eq_true, ne_eq, b2i_t, b2i_f]))
  · refine V.ild3 dX7_copy_9 (V.iconst_0 dX7_copy_10 (V.iconst_3 dX7_copy_11 (V.invS3r sX7_159 dX7_copy_12 c_X7_in (V.ifb_ne (tgt := 21) dX7_copy_15 (by decide) (fun c_15 => ?_) (fun c_15 => ?_)))))
    · obtain ⟨s, hs4, rfl⟩ := in_n (N := 4) (by decide) (by decide) c_6
      have e1 : cl (nI s) = s := cl_n (by omega)
      obtain ⟨o, ho4, rfl⟩ := in_n (N := 4) (by decide) (by decide) c_15
      have e2 : cl (nI o) = o := cl_n (by omega)
      obtain ⟨⟨N, hN, eN⟩, -⟩ := hS s hs4
      obtain ⟨⟨M, hM, eM⟩, -⟩ := hS o ho4
      have f1 := cv_at hA (id := 138) (j := s)
      have f2 := cv_at hA (id := 138) (j := o)
      have f3 := cv_at hA (id := 139) (j := s)
      have f4 := cv_at hA (id := 139) (j := o)
      refine V.ald0 dX7_copy_21 (GX7_92 hW rfl dX7_copy_22 (V.ild1 dX7_copy_25 (aM37 hW (IX.n hs4 (by decide)) dX7_copy_26 (V.iconst_m1 dX7_copy_27 (V.icmp_eq (tgt := 41) dX7_copy_28 (by decide) (fun c_28 => ?_) (fun c_28 => ?_))))))
      · exact V.bipush (v := (-11)) dX7_copy_41 (by decide) (V.iret dX7_copy_43 rfl rfl (by unfold copyR copyW; rw [c_6, c_15, e1, e2]; first | (rw [f1] at c_28; rw [c_28]; rfl) | (rw [f2] at c_38; rw [c_38, show decide ((-1 : Int32) = -1) = true from rfl, Bool.or_true]; rfl)))
      · refine V.ald0 dX7_copy_31 (GX7_92 hW rfl dX7_copy_32 (V.ild3 dX7_copy_35 (aM37 hW (IX.n ho4 (by decide)) dX7_copy_36 (V.iconst_m1 dX7_copy_37 (V.icmp_ne (tgt := 44) dX7_copy_38 (by decide) (fun c_38 => ?_) (fun c_38 => ?_))))))
        · refine V.ald0 dX7_copy_44 (GX7_92 hW rfl dX7_copy_45 (V.ild1 dX7_copy_48 (aM37 hW (IX.n hs4 (by decide)) dX7_copy_49 (V.ald0 dX7_copy_50 (GX7_92 hW rfl dX7_copy_51 (V.ild3 dX7_copy_54 (aM37 hW (IX.n ho4 (by decide)) dX7_copy_55 (V.icmp_eq (tgt := 62) dX7_copy_56 (by decide) (fun c_56 => ?_) (fun c_56 => ?_)))))))))
          · refine V.ild5 dX7_copy_62 (V.if_lt (tgt := 124) dX7_copy_64 (by decide) (fun c_64 => ?_) (fun c_64 => ?_))
            · exact V.bipush (v := (-12)) dX7_copy_124 (by decide) (V.iret dX7_copy_126 rfl rfl (by rw [f1] at c_28 c_56; rw [f2] at c_38 c_56; (try rw [f3] at c_83); (try rw [f4] at c_94); (try rw [f3] at c_107); (try rw [f4] at c_121); have hz : cpyOk v s i o j n = false := (by simp [cpyOk, c_6, c_15, c_28, c_38, c_56, c_64]); simp only [copyR, copyW, e1, e2, c_6, c_15, c_28, c_38, c_56, hz, decide_false, if_true, if_false, Bool.false_eq_true, eq_self, and_true, true_and, and_false, false_and, Bool.and_true, Bool.true_and, Bool.and_false, Bool.false_and, Bool.not_true, Bool.not_false, not_true_eq_false, not_false_eq_true, ne_eq, b2i_t, b2i_f, Bool.or_self]))
            · refine V.ild2 dX7_copy_67 (V.if_lt (tgt := 124) dX7_copy_68 (by decide) (fun c_68 => ?_) (fun c_68 => ?_))
              · exact V.bipush (v := (-12)) dX7_copy_124 (by decide) (V.iret dX7_copy_126 rfl rfl (by rw [f1] at c_28 c_56; rw [f2] at c_38 c_56; (try rw [f3] at c_83); (try rw [f4] at c_94); (try rw [f3] at c_107); (try rw [f4] at c_121); have hz : cpyOk v s i o j n = false := (by simp [cpyOk, c_6, c_15, c_28, c_38, c_56, c_64, c_68]); simp only [copyR, copyW, e1, e2, c_6, c_15, c_28, c_38, c_56, hz, decide_false, if_true, if_false, Bool.false_eq_true, eq_self, and_true, true_and, and_false, false_and, Bool.and_true, Bool.true_and, Bool.and_false, Bool.false_and, Bool.not_true, Bool.not_false, not_true_eq_false, not_false_eq_true, ne_eq, b2i_t, b2i_f, Bool.or_self]))
              · refine V.ild4 dX7_copy_71 (V.if_lt (tgt := 124) dX7_copy_73 (by decide) (fun c_73 => ?_) (fun c_73 => ?_))
                · exact V.bipush (v := (-12)) dX7_copy_124 (by decide) (V.iret dX7_copy_126 rfl rfl (by rw [f1] at c_28 c_56; rw [f2] at c_38 c_56; (try rw [f3] at c_83); (try rw [f4] at c_94); (try rw [f3] at c_107); (try rw [f4] at c_121); have hz : cpyOk v s i o j n = false := (by simp [cpyOk, c_6, c_15, c_28, c_38, c_56, c_64, c_68, c_73]); simp only [copyR, copyW, e1, e2, c_6, c_15, c_28, c_38, c_56, hz, decide_false, if_true, if_false, Bool.false_eq_true, eq_self, and_true, true_and, and_false, false_and, Bool.and_true, Bool.true_and, Bool.and_false, Bool.false_and, Bool.not_true, Bool.not_false, not_true_eq_false, not_false_eq_true, ne_eq, b2i_t, b2i_f, Bool.or_self]))
                · refine V.ild2 dX7_copy_76 (V.ald0 dX7_copy_77 (GX7_95 hW rfl dX7_copy_78 (V.ild1 dX7_copy_81 (aM38 hW (IX.n hs4 (by decide)) dX7_copy_82 (V.icmp_gt (tgt := 124) dX7_copy_83 (by decide) (fun c_83 => ?_) (fun c_83 => ?_))))))
                  · exact V.bipush (v := (-12)) dX7_copy_124 (by decide) (V.iret dX7_copy_126 rfl rfl (by rw [f1] at c_28 c_56; rw [f2] at c_38 c_56; (try rw [f3] at c_83); (try rw [f4] at c_94); (try rw [f3] at c_107); (try rw [f4] at c_121); have hz : cpyOk v s i o j n = false := (by simp [cpyOk, c_6, c_15, c_28, c_38, c_56, c_64, c_68, c_73, c_83]); simp only [copyR, copyW, e1, e2, c_6, c_15, c_28, c_38, c_56, hz, decide_false, if_true, if_false, Bool.false_eq_true, eq_self, and_true, true_and, and_false, false_and, Bool.and_true, Bool.true_and, Bool.and_false, Bool.false_and, Bool.not_true, Bool.not_false, not_true_eq_false, not_false_eq_true, ne_eq, b2i_t, b2i_f, Bool.or_self]))
                  · refine V.ild4 dX7_copy_86 (V.ald0 dX7_copy_88 (GX7_95 hW rfl dX7_copy_89 (V.ild3 dX7_copy_92 (aM38 hW (IX.n ho4 (by decide)) dX7_copy_93 (V.icmp_gt (tgt := 124) dX7_copy_94 (by decide) (fun c_94 => ?_) (fun c_94 => ?_))))))
                    · exact V.bipush (v := (-12)) dX7_copy_124 (by decide) (V.iret dX7_copy_126 rfl rfl (by rw [f1] at c_28 c_56; rw [f2] at c_38 c_56; (try rw [f3] at c_83); (try rw [f4] at c_94); (try rw [f3] at c_107); (try rw [f4] at c_121); have hz : cpyOk v s i o j n = false := (by simp [cpyOk, c_6, c_15, c_28, c_38, c_56, c_64, c_68, c_73, c_83, c_94]); simp only [copyR, copyW, e1, e2, c_6, c_15, c_28, c_38, c_56, hz, decide_false, if_true, if_false, Bool.false_eq_true, eq_self, and_true, true_and, and_false, false_and, Bool.and_true, Bool.true_and, Bool.and_false, Bool.false_and, Bool.not_true, Bool.not_false, not_true_eq_false, not_false_eq_true, ne_eq, b2i_t, b2i_f, Bool.or_self]))
                    · refine V.ild5 dX7_copy_97 (V.ald0 dX7_copy_99 (GX7_95 hW rfl dX7_copy_100 (V.ild1 dX7_copy_103 (aM38 hW (IX.n hs4 (by decide)) dX7_copy_104 (V.ild2 dX7_copy_105 (V.isub dX7_copy_106 (V.icmp_gt (tgt := 124) dX7_copy_107 (by decide) (fun c_107 => ?_) (fun c_107 => ?_))))))))
                      · exact V.bipush (v := (-12)) dX7_copy_124 (by decide) (V.iret dX7_copy_126 rfl rfl (by rw [f1] at c_28 c_56; rw [f2] at c_38 c_56; (try rw [f3] at c_83); (try rw [f4] at c_94); (try rw [f3] at c_107); (try rw [f4] at c_121); have hz : cpyOk v s i o j n = false := (by simp [cpyOk, c_6, c_15, c_28, c_38, c_56, c_64, c_68, c_73, c_83, c_94, c_107]); simp only [copyR, copyW, e1, e2, c_6, c_15, c_28, c_38, c_56, hz, decide_false, if_true, if_false, Bool.false_eq_true, eq_self, and_true, true_and, and_false, false_and, Bool.and_true, Bool.true_and, Bool.and_false, Bool.false_and, Bool.not_true, Bool.not_false, not_true_eq_false, not_false_eq_true, ne_eq, b2i_t, b2i_f, Bool.or_self]))
                      · refine V.ild5 dX7_copy_110 (V.ald0 dX7_copy_112 (GX7_95 hW rfl dX7_copy_113 (V.ild3 dX7_copy_116 (aM38 hW (IX.n ho4 (by decide)) dX7_copy_117 (V.ild4 dX7_copy_118 (V.isub dX7_copy_120 (V.icmp_le (tgt := 127) dX7_copy_121 (by decide) (fun c_121 => ?_) (fun c_121 => ?_))))))))
                        · rw [f1] at c_28 c_56
                          rw [f2] at c_38 c_56
                          rw [f3] at c_83 c_107
                          rw [f4] at c_94 c_121
                          have hz : cpyOk v s i o j n = true := by simp [cpyOk, c_64, c_68, c_73, c_83, c_94, c_107, c_121]
                          obtain ⟨i, j, n, rfl, rfl, rfl, hin, hjn⟩ := cpyOk_n hN hM eN eM hz
                          have e3 : cl (nI i) = i := cl_n (by omega)
                          have e4 : cl (nI j) = j := cl_n (by omega)
                          have e5 : cl (nI n) = n := cl_n (by omega)
                          rw [show copyR v (nI s) (nI i) (nI o) (nI j) (nI n) = nI n from by simp only [copyR, e1, e2, c_6, c_15, c_28, c_38, c_56, hz, decide_false, if_true, if_false, Bool.false_eq_true, eq_self, and_true, true_and, and_false, false_and, Bool.and_true, Bool.true_and, Bool.and_false, Bool.false_and, Bool.not_true, Bool.not_false, not_true_eq_false, not_false_eq_true, ne_eq, b2i_t, b2i_f, Bool.or_self], show copyW w v (nI s) (nI i) (nI o) (nI j) (nI n) = cpyV w s i o j n from by simp only [copyW, e1, e2, e3, e4, e5, c_6, c_15, c_28, c_38, c_56, hz, decide_false, if_true, if_false, Bool.false_eq_true, eq_self, and_true, true_and, and_false, false_and, Bool.and_true, Bool.true_and, Bool.and_false, Bool.false_and, Bool.not_true, Bool.not_false, not_true_eq_false, not_false_eq_true, ne_eq, b2i_t, b2i_f, Bool.or_self]]
                          refine V.bipush (v := 60) dX7_copy_127 (by decide) (V.ild1 dX7_copy_129 (V.imul dX7_copy_130 (V.ild2 dX7_copy_131 (V.iadd dX7_copy_132 (V.ist6 dX7_copy_133 (V.bipush (v := 60) dX7_copy_135 (by decide) (V.ild3 dX7_copy_137 (V.imul dX7_copy_138 (V.ild4 dX7_copy_139 (V.iadd dX7_copy_141 (V.ist7 dX7_copy_142 (V.iconst_0 dX7_copy_144 (V.ist8 dX7_copy_145 ?_)))))))))))))
                          rw [show (60 : Int32) = nI 60 from rfl, pk_mul, nI_add, pk_mul, nI_add]
                          rcases Nat.lt_or_ge (60 * s + i) (60 * o + j) with hab | hab
                          · have LD : ∀ (m k : Nat) (y : Option Value), k + m = n → V E mX7_copy 1 (.returned (some (.int (nI n))), S g σ (cpyV w s i o j n)) 147 [some (.ref (g.1 100)), some (.int (nI s)), some (.int (nI i)), some (.int (nI o)), some (.int (nI j)), some (.int (nI n)), some (.int (nI (60 * s + i))), some (.int (nI (60 * o + j))), some (.int (nI k)), y] [] (S g σ (gA 140 (60 * o + j + m) k (fun x => w 140 (60 * s + i + (m + x))) w)) := by
                              intro m
                              induction m with
                              | zero =>
                                intro k y hk 
                                obtain rfl : k = n := by omega
                                refine V.ild8 dX7_copy_147 (V.ild5 dX7_copy_149 (V.icmp_ge (tgt := 201) dX7_copy_151 (by decide) (fun c_151 => ?_) (fun c_151 => absurd (by exact nI_le (by omega) (by omega)) c_151)))
                                exact V.ild5 dX7_copy_201 (V.iret dX7_copy_203 rfl rfl (by unfold cpyV; rw [Nat.add_zero]; rw [gA_f (f := fun x => w 140 (60 * s + i + (0 + x))) (f' := fun x => w 140 (60 * s + i + x)) (fun x => by rw [Nat.zero_add])]))
                              | succ m ih =>
                                intro k y hk 
                                have hx : nI n - 1 - nI k = nI m := by rw [show n = m + k + 1 by omega, ← nI_1, Int32.add_sub_cancel, ← nI_add]; exact Int32.add_sub_cancel _ _
                                refine V.ild8 dX7_copy_147 (V.ild5 dX7_copy_149 (V.icmp_ge (tgt := 201) dX7_copy_151 (by decide) (fun c_151 => absurd c_151 (by first | exact nI_ge (by omega) (by omega) | exact fun h9 => absurd ((nI_leI (by omega) (by omega)).mp h9) (by omega))) (fun c_151 => ?_)))
                                refine V.ild6 dX7_copy_154 (V.ild7 dX7_copy_156 (V.icmp_ge (tgt := 171) dX7_copy_158 (by decide) (fun c_158 => absurd c_158 (nI_ge hab (by omega))) (fun c_158 => ?_)))
                                refine V.ild5 dX7_copy_161 (V.iconst_1 dX7_copy_163 (V.isub dX7_copy_164 (V.ild8 dX7_copy_165 (V.isub dX7_copy_167 (V.goto (tgt := 173) dX7_copy_168 (by decide) (V.ist9 dX7_copy_173 (V.ald0 dX7_copy_175 (GX7_98 hW rfl dX7_copy_176 (V.ild7 dX7_copy_179 (V.ild9 dX7_copy_181 (V.iadd dX7_copy_183 (V.ald0 dX7_copy_184 (GX7_98 hW rfl dX7_copy_185 ?_)))))))))))))
                                refine V.ild6 dX7_copy_188 (V.ild9 dX7_copy_190 (V.iadd dX7_copy_192 (aM39 (j := 60 * s + i + m) hW (IX.of (by rw [hx, nI_add]) (by omega) (by decide)) dX7_copy_193 (sM39 (j := 60 * o + j + m) hW (IX.of (by rw [hx, nI_add]) (by omega) (by decide)) dX7_copy_194 (V.inc8 dX7_copy_195 (V.goto (tgt := 147) dX7_copy_198 (by decide) ?_))))))
                                rw [nI_1]
                                have h9 := gA_p (d := 140) (a := 60 * o + j + m) (k := k) (f := fun x => w 140 (60 * s + i + (m + x))) (w := w) (x := w 140 (60 * s + i + m)) rfl
                                rw [gA_out (by omega)]
                                rw [gA_f (f := fun x => w 140 (60 * s + i + (m + 1 + x))) (f' := fun x => w 140 (60 * s + i + (m + (x + 1)))) (fun x => by rw [show m + 1 + x = m + (x + 1) by omega]), ← Nat.add_assoc, h9]
                                exact ih (k + 1) _ (by omega)
                            have h0 := LD n 0 none (by omega)
                            rw [gA_0] at h0
                            exact h0
                          · have LA : ∀ (m k : Nat) (y : Option Value), k + m = n → V E mX7_copy 1 (.returned (some (.int (nI n))), S g σ (cpyV w s i o j n)) 147 [some (.ref (g.1 100)), some (.int (nI s)), some (.int (nI i)), some (.int (nI o)), some (.int (nI j)), some (.int (nI n)), some (.int (nI (60 * s + i))), some (.int (nI (60 * o + j))), some (.int (nI k)), y] [] (S g σ (gA 140 (60 * o + j) k (fun x => w 140 (60 * s + i + x)) w)) := by
                              intro m
                              induction m with
                              | zero =>
                                intro k y hk 
                                obtain rfl : k = n := by omega
                                refine V.ild8 dX7_copy_147 (V.ild5 dX7_copy_149 (V.icmp_ge (tgt := 201) dX7_copy_151 (by decide) (fun c_151 => ?_) (fun c_151 => absurd (by exact nI_le (by omega) (by omega)) c_151)))
                                exact V.ild5 dX7_copy_201 (V.iret dX7_copy_203 rfl rfl (rfl))
                              | succ m ih =>
                                intro k y hk 
                                refine V.ild8 dX7_copy_147 (V.ild5 dX7_copy_149 (V.icmp_ge (tgt := 201) dX7_copy_151 (by decide) (fun c_151 => absurd c_151 (by first | exact nI_ge (by omega) (by omega) | exact fun h9 => absurd ((nI_leI (by omega) (by omega)).mp h9) (by omega))) (fun c_151 => ?_)))
                                refine V.ild6 dX7_copy_154 (V.ild7 dX7_copy_156 (V.icmp_ge (tgt := 171) dX7_copy_158 (by decide) (fun c_158 => ?_) (fun c_158 => absurd (nI_le hab (by omega)) c_158)))
                                refine V.ild8 dX7_copy_171 (V.ist9 dX7_copy_173 (V.ald0 dX7_copy_175 (GX7_98 hW rfl dX7_copy_176 (V.ild7 dX7_copy_179 (V.ild9 dX7_copy_181 (V.iadd dX7_copy_183 (V.ald0 dX7_copy_184 (GX7_98 hW rfl dX7_copy_185 (V.ild6 dX7_copy_188 (V.ild9 dX7_copy_190 (V.iadd dX7_copy_192 (aM39 (j := 60 * s + i + k) hW (IX.of (nI_add _ _) (by omega) (by decide)) dX7_copy_193 (sM39 (j := 60 * o + j + k) hW (IX.of (nI_add _ _) (by omega) (by decide)) dX7_copy_194 ?_)))))))))))))
                                refine V.inc8 dX7_copy_195 (V.goto (tgt := 147) dX7_copy_198 (by decide) ?_)
                                rw [nI_1, gA_out (a := 60 * o + j) (n := k) (j := 60 * s + i + k) (by omega), gA_s rfl]
                                exact ih (k + 1) _ (by omega)
                            have h0 := LA n 0 none (by omega)
                            rw [gA_0] at h0
                            exact h0
                        · exact V.bipush (v := (-12)) dX7_copy_124 (by decide) (V.iret dX7_copy_126 rfl rfl (by rw [f1] at c_28 c_56; rw [f2] at c_38 c_56; (try rw [f3] at c_83); (try rw [f4] at c_94); (try rw [f3] at c_107); (try rw [f4] at c_121); have hz : cpyOk v s i o j n = false := (by simp [cpyOk, c_6, c_15, c_28, c_38, c_56, c_64, c_68, c_73, c_83, c_94, c_107, c_121]); simp only [copyR, copyW, e1, e2, c_6, c_15, c_28, c_38, c_56, hz, decide_false, if_true, if_false, Bool.false_eq_true, eq_self, and_true, true_and, and_false, false_and, Bool.and_true, Bool.true_and, Bool.and_false, Bool.false_and, Bool.not_true, Bool.not_false, not_true_eq_false, not_false_eq_true, ne_eq, b2i_t, b2i_f, Bool.or_self]))
          · exact V.bipush (v := (-13)) dX7_copy_59 (by decide) (V.iret dX7_copy_61 rfl rfl (by rw [f1] at c_28 c_56; rw [f2] at c_38 c_56; simp only [copyR, copyW, e1, e2, c_6, c_15, c_28, c_38, c_56, decide_false, if_true, if_false, Bool.false_eq_true, eq_self, and_true, true_and, and_false, false_and, Bool.and_true, Bool.true_and, Bool.and_false, Bool.false_and, Bool.not_true, Bool.not_false, not_true_eq_false, not_false_eq_true, ne_eq, b2i_t, b2i_f, Bool.or_self]))
        · exact V.bipush (v := (-11)) dX7_copy_41 (by decide) (V.iret dX7_copy_43 rfl rfl (by unfold copyR copyW; rw [c_6, c_15, e1, e2]; first | (rw [f1] at c_28; rw [c_28]; rfl) | (rw [f2] at c_38; rw [c_38, show decide ((-1 : Int32) = -1) = true from rfl, Bool.or_true]; rfl)))
    · exact V.bipush (v := (-2)) dX7_copy_18 (by decide) (V.iret dX7_copy_20 rfl rfl (by simp only [copyR, copyW, c_6, c_15, if_true, if_false, Bool.false_eq_true, eq_self, and_true, true_and, and_false, false_and, Bool.and_true, Bool.true_and, Bool.and_false, Bool.false_and, Bool.not_true, Bool.not_false, not_true_eq_false, not_false_eq_true, ne_eq, b2i_t, b2i_f]))

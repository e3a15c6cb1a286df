set_option maxRecDepth 100000
set_option maxHeartbeats 1000000
def dg : Nat → Nat → Nat
  | 0, _ => 0
  | n + 1, k => dg n k + 10 ^ n * (k / 3 ^ n % 3)
def coiF (n k : Nat) : Nat → Int32 := fun r => nI (6 * (k / 3 ^ (n - 1 - r) % 3))
def coiV (v : Wv) (n k : Nat) : Wv := fA 108 n (coiF n k) v
def coiT (v : Wv) (n : Nat) (most : Int32) (k : Nat) (s : Int32 × Int32) : Int32 × Int32 := if cosS (coiV v n k) ≤ most then (if s.1 = -1 ∨ ¬ allS (coiV v n k) ≤ s.2 then (nI (dg n k), allS (coiV v n k)) else s) else s
def coiB (v : Wv) (n : Nat) (most : Int32) : Nat → Nat → Int32 × Int32 → Int32 × Int32
  | _, 0, s => s
  | k, m + 1, s => coiB v n most (k + 1) m (coiT v n most k s)
def coiN (v : Wv) : Nat := if v 100 3 < 4 then nR v else 4
def coiS (v : Wv) (most : Int32) : Int32 × Int32 := coiB v (coiN v) most 0 (3 ^ coiN v) (-1, 0)
def coinOk (most a : Int32) : Bool := inB most 0 99999 && inB a 0 1
def coinR (v : Wv) (most a : Int32) : Int32 := if coinOk most a then (if (coiS v most).1 = -1 ∨ a = 0 then (coiS v most).1 else (coiS v most).2) else -2
theorem gA_fA {d n : Nat} {f f' : Nat → Int32} {w : Wv} (h : ∀ i, f i = f' i) : gA d 0 n f w = fA d n f' w := by
  funext i j
  unfold gA fA
  by_cases h1 : i = d ∧ j < n
  · rw [if_pos h1, if_pos ⟨h1.1, by omega, by omega⟩, Nat.sub_zero, h]
  · rw [if_neg h1, if_neg (fun z => h1 ⟨z.1, by omega⟩)]
theorem dg_lt : ∀ n, n ≤ 4 → ∀ k, dg n k < 10 ^ n
  | 0, _, _ => by rw [dg]; decide
  | n + 1, h, k => by
    rw [dg]
    have := dg_lt n (by omega) k
    have h3 : k / 3 ^ n % 3 < 3 := Nat.mod_lt _ (by decide)
    have : 10 ^ n * (k / 3 ^ n % 3) ≤ 10 ^ n * 2 := Nat.mul_le_mul_left _ (by omega)
    rw [Nat.pow_succ]; omega
theorem c_X7_coin {E : En} {g : Ge} {σ : Sg} {w : Wv} (hW : WM g σ) {v : Wv} (hA : cv w = cv v) (hI : HI v) (hT : HT v) {most a : Int32} : CtE E mX7_coin 7 [.ref (g.1 100), .int most, .int a] (PR (.int (coinR v most a)) (QV g σ v)) (S g σ w) := by
  show VE E mX7_coin 7 _ 0 [some (.ref (g.1 100)), some (.int most), some (.int a), none, none, none, none, none, none, none, none, none] [] (S g σ w)
  refine VE.step (fun _ h => V.ild1 dX7_coin_0 (V.iconst_0 dX7_coin_1 (V.ldc_w q2008 dX7_coin_2 (V.invS3r sX7_159 dX7_coin_5 c_X7_in h)))) ?_
  refine VE.ifb_eq (tgt := 20) dX7_coin_8 (by decide) (fun c_8 => ?_) (fun c_8 => ?_)
  · refine VE.step (fun _ h => V.bipush (v := (-2)) dX7_coin_20 (by decide) h) ?_
    exact VE.iret dX7_coin_22 rfl rfl (⟨by simp only [coinR, coinOk, c_8, if_true, if_false, Bool.false_eq_true, eq_self, and_true, true_and, and_false, false_and, Bool.and_true, Bool.true_and, Bool.and_false, Bool.false_and, Bool.not_true, Bool.not_false, not_true_eq_false, not_false_eq_true, ne_eq, b2i_t, b2i_f], _, hA, rfl⟩)
  · refine VE.step (fun _ h => V.ild2 dX7_coin_11 (V.iconst_0 dX7_coin_12 (V.iconst_1 dX7_coin_13 (V.invS3r sX7_159 dX7_coin_14 c_X7_in h)))) ?_
    refine VE.ifb_ne (tgt := 23) dX7_coin_17 (by decide) (fun c_17 => ?_) (fun c_17 => ?_)
    · have hok : coinOk most a = true := by unfold coinOk; rw [c_8, c_17]; rfl
      have hR2 := hI.rows.2
      obtain ⟨n, hn4, hne⟩ : ∃ n, n ≤ 4 ∧ coiN v = n := ⟨coiN v, by unfold coiN; split; (rename_i h; rw [hI.rows.1] at h; exact (Nat.le_of_lt ((nI_ltI (by omega) (by decide)).mp (show nI (nR v) < nI 4 from h)))); exact Nat.le_refl _, rfl⟩
      have h81 : 3 ^ n ≤ 81 := Nat.pow_le_pow_right (n := 3) (by decide) hn4
      have H190 : ∀ (b h : Int32) (w' : Wv) (y y8 y9 y10 y11 : Option Value), Kp 108 6 152 w w' → (b, h) = coiS v most → VE E mX7_coin 7 (PR (.int (coinR v most a)) (QV g σ v)) 190 [some (.ref (g.1 100)), some (.int (most)), some (.int (a)), some (.int (nI n)), some (.int (nI (3 ^ n))), some (.int (b)), some (.int (h)), y, y8, y9, y10, y11] [] (S g σ w') := by
        intro b h w' y y8 y9 y10 y11 hK hs
        refine VE.step (fun _ h => V.ald0 dX7_coin_190 (V.invV0v vX7_316 hW.2.2.1 dX7_coin_191 (c_X7_laysRises hW) (V.ild5 dX7_coin_194 (V.iconst_m1 dX7_coin_196 h)))) ?_
        refine VE.icmp_eq (tgt := 204) dX7_coin_197 (by decide) (fun c_197 => ?_) (fun c_197 => ?_)
        · refine VE.step (fun _ h => V.ild5 dX7_coin_204 (V.goto (tgt := 211) dX7_coin_206 (by decide) h)) ?_
          exact VE.iret dX7_coin_211 rfl rfl (⟨by rw [coinR, if_pos hok, ← hs]; simp [c_197], _, (Kp.fin hK).trans hA, rfl⟩)
        · refine VE.step (fun _ h => V.ild2 dX7_coin_200 h) ?_
          refine VE.if_ne (tgt := 209) dX7_coin_201 (by decide) (fun c_201 => ?_) (fun c_201 => ?_)
          · refine VE.step (fun _ h => V.ild6 dX7_coin_209 h) ?_
            exact VE.iret dX7_coin_211 rfl rfl (⟨by rw [coinR, if_pos hok, ← hs]; simp [c_197, c_201], _, (Kp.fin hK).trans hA, rfl⟩)
          · refine VE.step (fun _ h => V.ild5 dX7_coin_204 (V.goto (tgt := 211) dX7_coin_206 (by decide) h)) ?_
            exact VE.iret dX7_coin_211 rfl rfl (⟨by rw [coinR, if_pos hok, ← hs]; simp [c_197, c_201], _, (Kp.fin hK).trans hA, rfl⟩)
      have L77 : ∀ (m k : Nat) (s : Int32 × Int32) (w' : Wv) (y8 y9 y10 y11 : Option Value), k + m = 3 ^ n → Kp 108 n 152 w w' → Kp 108 6 152 w w' → coiB v n most k m s = coiS v most → VE E mX7_coin 7 (PR (.int (coinR v most a)) (QV g σ v)) 77 [some (.ref (g.1 100)), some (.int (most)), some (.int (a)), some (.int (nI n)), some (.int (nI (3 ^ n))), some (.int (s.1)), some (.int (s.2)), some (.int (nI k)), y8, y9, y10, y11] [] (S g σ w') := by
        intro m
        induction m with
        | zero =>
          intro k s w' y8 y9 y10 y11 hk hK1 hK6 hs
          refine VE.step (fun _ h => V.ild7 dX7_coin_77 (V.ild4 dX7_coin_79 h)) ?_
          refine VE.icmp_ge (tgt := 190) dX7_coin_81 (by decide) (fun c_81 => ?_) (fun c_81 => absurd (by exact nI_le (by omega) (by omega)) c_81)
          exact H190 _ _ _ _ _ _ _ _ hK6 hs
        | succ m ih =>
          intro k s w' y8 y9 y10 y11 hk hK1 hK6 hs
          have hA2 : cv (fA 108 n (coiF n k) w') = cv (coiV v n k) := Kp.ov hK1 hA
          have L99 : ∀ (q : Nat), q ≤ n → VE E mX7_coin 7 (PR (.int (coinR v most a)) (QV g σ v)) 99 [some (.ref (g.1 100)), some (.int (most)), some (.int (a)), some (.int (nI n)), some (.int (nI (3 ^ n))), some (.int (s.1)), some (.int (s.2)), some (.int (nI k)), some (.int (nI (k / 3 ^ (n - q)))), some (.int (nI (dg (n - q) k))), some (.int (nI (10 ^ (n - q)))), some (.int (nI q + (-1)))] [] (S g σ (gA 108 q (n - q) (fun i => coiF n k (q + i)) w')) := by
            intro q
            induction q with
            | zero =>
              intro hq
              rw [dn_0, Nat.sub_zero, gA_fA (f' := coiF n k) (fun i => by rw [Nat.zero_add])]
              refine VE.step (fun _ h => V.ild11 dX7_coin_99 h) ?_
              refine VE.if_lt (tgt := 149) dX7_coin_101 (by decide) (fun c_101 => ?_) (fun c_101 => absurd (show (-1 : Int32) < 0 by decide) c_101)
              refine VE.step (fun _ h => V.ald0 dX7_coin_149 h) ?_
              refine VE.invV0r vX7_356 hW.2.2.1 dX7_coin_150 (e_X7_cost hW hA2 (HI.f hI (by decide) (by decide) (by decide)) (HT.f hT (by decide))) (fun s9 q9 => ?_)
              obtain ⟨w1, hw1, rfl⟩ := q9
              refine VE.step (fun _ h => V.ild1 dX7_coin_153 h) ?_
              refine VE.icmp_gt (tgt := 184) dX7_coin_154 (by decide) (fun c_154 => ?_) (fun c_154 => ?_)
              · refine VE.step (fun _ h => V.inc7 dX7_coin_184 (V.goto (tgt := 77) dX7_coin_187 (by decide) h)) ?_
                rw [nI_1]
                have hK1' := Kp.c (by decide) hw1 (Kp.f (f := coiF n k) (by decide) (Nat.le_refl _) hK1)
                have hK6' := Kp.c (by decide) hw1 (Kp.f (f := coiF n k) (by decide) (by omega) hK6)
                first
                  | exact ih (k + 1) s _ _ _ _ _ (by omega) hK1' hK6' (by rw [← hs, coiB, coiT, if_neg (Int32.not_le.mpr c_154)])
                  | (have c9 := Int32.not_lt.mp c_154
                     have hK1'' := Kp.c (by decide) hw2 hK1'
                     have hK6'' := Kp.c (by decide) hw2 hK6'
                     first
                       | exact ih (k + 1) (nI (dg n k), allS (coiV v n k)) _ _ _ _ _ (by omega) hK1'' hK6'' (by rw [← hs, coiB, coiT, if_pos c9, if_pos (show s.1 = -1 ∨ ¬ allS (coiV v n k) ≤ s.2 by first | exact .inl c_166 | exact .inr c_173)])
                       | exact ih (k + 1) s _ _ _ _ _ (by omega) hK1'' hK6'' (by rw [← hs, coiB, coiT, if_pos c9, if_neg (fun z => z.elim c_166 (fun y => y c_173))]))
              · refine VE.step (fun _ h => V.ald0 dX7_coin_157 h) ?_
                refine VE.invV0r vX7_346 hW.2.2.1 dX7_coin_158 (e_X7_allWorth hW (show cv w1 = cv (coiV v n k) by rw [cv_of_cu hw1]; exact hA2) (HI.f hI (by decide) (by decide) (by decide)) (HT.f hT (by decide))) (fun s9 q9 => ?_)
                obtain ⟨w2, hw2, rfl⟩ := q9
                refine VE.step (fun _ h => V.ist11 dX7_coin_161 (V.ild5 dX7_coin_163 (V.iconst_m1 dX7_coin_165 h))) ?_
                refine VE.icmp_eq (tgt := 176) dX7_coin_166 (by decide) (fun c_166 => ?_) (fun c_166 => ?_)
                · refine VE.step (fun _ h => V.ild9 dX7_coin_176 (V.ist5 dX7_coin_178 (V.ild11 dX7_coin_180 (V.ist6 dX7_coin_182 (V.inc7 dX7_coin_184 (V.goto (tgt := 77) dX7_coin_187 (by decide) h)))))) ?_
                  rw [nI_1]
                  have hK1' := Kp.c (by decide) hw1 (Kp.f (f := coiF n k) (by decide) (Nat.le_refl _) hK1)
                  have hK6' := Kp.c (by decide) hw1 (Kp.f (f := coiF n k) (by decide) (by omega) hK6)
                  first
                    | exact ih (k + 1) s _ _ _ _ _ (by omega) hK1' hK6' (by rw [← hs, coiB, coiT, if_neg (Int32.not_le.mpr c_154)])
                    | (have c9 := Int32.not_lt.mp c_154
                       have hK1'' := Kp.c (by decide) hw2 hK1'
                       have hK6'' := Kp.c (by decide) hw2 hK6'
                       first
                         | exact ih (k + 1) (nI (dg n k), allS (coiV v n k)) _ _ _ _ _ (by omega) hK1'' hK6'' (by rw [← hs, coiB, coiT, if_pos c9, if_pos (show s.1 = -1 ∨ ¬ allS (coiV v n k) ≤ s.2 by first | exact .inl c_166 | exact .inr c_173)])
                         | exact ih (k + 1) s _ _ _ _ _ (by omega) hK1'' hK6'' (by rw [← hs, coiB, coiT, if_pos c9, if_neg (fun z => z.elim c_166 (fun y => y c_173))]))
                · refine VE.step (fun _ h => V.ild11 dX7_coin_169 (V.ild6 dX7_coin_171 h)) ?_
                  refine VE.icmp_le (tgt := 184) dX7_coin_173 (by decide) (fun c_173 => ?_) (fun c_173 => ?_)
                  · refine VE.step (fun _ h => V.inc7 dX7_coin_184 (V.goto (tgt := 77) dX7_coin_187 (by decide) h)) ?_
                    rw [nI_1]
                    have hK1' := Kp.c (by decide) hw1 (Kp.f (f := coiF n k) (by decide) (Nat.le_refl _) hK1)
                    have hK6' := Kp.c (by decide) hw1 (Kp.f (f := coiF n k) (by decide) (by omega) hK6)
                    first
                      | exact ih (k + 1) s _ _ _ _ _ (by omega) hK1' hK6' (by rw [← hs, coiB, coiT, if_neg (Int32.not_le.mpr c_154)])
                      | (have c9 := Int32.not_lt.mp c_154
                         have hK1'' := Kp.c (by decide) hw2 hK1'
                         have hK6'' := Kp.c (by decide) hw2 hK6'
                         first
                           | exact ih (k + 1) (nI (dg n k), allS (coiV v n k)) _ _ _ _ _ (by omega) hK1'' hK6'' (by rw [← hs, coiB, coiT, if_pos c9, if_pos (show s.1 = -1 ∨ ¬ allS (coiV v n k) ≤ s.2 by first | exact .inl c_166 | exact .inr c_173)])
                           | exact ih (k + 1) s _ _ _ _ _ (by omega) hK1'' hK6'' (by rw [← hs, coiB, coiT, if_pos c9, if_neg (fun z => z.elim c_166 (fun y => y c_173))]))
                  · refine VE.step (fun _ h => V.ild9 dX7_coin_176 (V.ist5 dX7_coin_178 (V.ild11 dX7_coin_180 (V.ist6 dX7_coin_182 (V.inc7 dX7_coin_184 (V.goto (tgt := 77) dX7_coin_187 (by decide) h)))))) ?_
                    rw [nI_1]
                    have hK1' := Kp.c (by decide) hw1 (Kp.f (f := coiF n k) (by decide) (Nat.le_refl _) hK1)
                    have hK6' := Kp.c (by decide) hw1 (Kp.f (f := coiF n k) (by decide) (by omega) hK6)
                    first
                      | exact ih (k + 1) s _ _ _ _ _ (by omega) hK1' hK6' (by rw [← hs, coiB, coiT, if_neg (Int32.not_le.mpr c_154)])
                      | (have c9 := Int32.not_lt.mp c_154
                         have hK1'' := Kp.c (by decide) hw2 hK1'
                         have hK6'' := Kp.c (by decide) hw2 hK6'
                         first
                           | exact ih (k + 1) (nI (dg n k), allS (coiV v n k)) _ _ _ _ _ (by omega) hK1'' hK6'' (by rw [← hs, coiB, coiT, if_pos c9, if_pos (show s.1 = -1 ∨ ¬ allS (coiV v n k) ≤ s.2 by first | exact .inl c_166 | exact .inr c_173)])
                           | exact ih (k + 1) s _ _ _ _ _ (by omega) hK1'' hK6'' (by rw [← hs, coiB, coiT, if_pos c9, if_neg (fun z => z.elim c_166 (fun y => y c_173))]))
            | succ q ih9 =>
              intro hq
              rw [dn_s]
              have e9 : n - q = n - (q + 1) + 1 := by omega
              have hkb : k / 3 ^ (n - (q + 1)) ≤ k := Nat.div_le_self _ _
              have h7 := ih9 (by omega)
              rw [e9] at h7
              have e8 := gA_p (d := 108) (a := q) (k := n - (q + 1)) (f := fun i => coiF n k (q + i)) (w := w') (x := nI (6 * (k / 3 ^ (n - (q + 1)) % 3))) (by show _ = nI (6 * (k / 3 ^ (n - 1 - (q + 0)) % 3)); rw [show n - 1 - (q + 0) = n - (q + 1) by omega])
              rw [← e8, gA_f (f := fun i => (fun i => coiF n k (q + i)) (i + 1)) (f' := fun i => coiF n k (q + 1 + i)) (fun i => by show coiF n k (q + (i + 1)) = _; rw [show q + (i + 1) = q + 1 + i by omega])] at h7
              refine VE.step (fun _ h => V.ild11 dX7_coin_99 h) ?_
              refine VE.if_lt (tgt := 149) dX7_coin_101 (by decide) (fun c_101 => absurd c_101 (dn_lt (by omega))) (fun c_101 => ?_)
              refine VE.step (fun _ h => V.ald0 dX7_coin_104 (GX7_28 hW rfl dX7_coin_105 (V.ild11 dX7_coin_108 (V.bipush (v := 6) dX7_coin_110 (by decide) (V.ild8 dX7_coin_112 (V.iconst_3 dX7_coin_114 (V.irem dX7_coin_115 (by decide) (V.imul dX7_coin_116 (sM7 hW (by first | exact IX.n ‹_› (by decide) | exact IX.n (by omega) (by decide)) dX7_coin_117 (V.ild9 dX7_coin_118 (V.ild10 dX7_coin_120 (V.ild8 dX7_coin_122 (V.iconst_3 dX7_coin_124 (V.irem dX7_coin_125 (by decide) h)))))))))))))) ?_
              refine VE.step (fun _ h => V.imul dX7_coin_126 (V.iadd dX7_coin_127 (V.ist9 dX7_coin_128 (V.ild10 dX7_coin_130 (V.bipush (v := 10) dX7_coin_132 (by decide) (V.imul dX7_coin_134 (V.ist10 dX7_coin_135 (V.ild8 dX7_coin_137 (V.iconst_3 dX7_coin_139 (V.idiv dX7_coin_140 (by decide) (V.ist8 dX7_coin_141 (V.incm11 dX7_coin_143 (V.goto (tgt := 99) dX7_coin_146 (by decide) h))))))))))))) ?_
              rw [dg, Nat.pow_succ, Nat.pow_succ, ← Nat.div_div_eq_div_mul] at h7
              rw [show (3 : Int32) = nI 3 from rfl, pk_rem (by omega) (by decide) (by decide), pk_div (by omega) (by decide) (by decide), show (6 : Int32) = nI 6 from rfl, show (10 : Int32) = nI 10 from rfl, pk_mul, pk_mul, pk_mul, nI_add]
              exact h7
      
          refine VE.step (fun _ h => V.ild7 dX7_coin_77 (V.ild4 dX7_coin_79 h)) ?_
          refine VE.icmp_ge (tgt := 190) dX7_coin_81 (by decide) (fun c_81 => absurd c_81 (by first | exact nI_ge (by omega) (by omega) | exact fun h9 => absurd ((nI_leI (by omega) (by omega)).mp h9) (by omega))) (fun c_81 => ?_)
          refine VE.step (fun _ h => V.ild7 dX7_coin_84 (V.ist8 dX7_coin_86 (V.iconst_0 dX7_coin_88 (V.ist9 dX7_coin_89 (V.iconst_1 dX7_coin_91 (V.ist10 dX7_coin_92 (V.ild3 dX7_coin_94 (V.iconst_1 dX7_coin_95 (V.isub dX7_coin_96 (V.ist11 dX7_coin_97 h)))))))))) ?_
          have h0 := L99 n (Nat.le_refl _)
          rw [Nat.sub_self, gA_0] at h0
          rw [dn_st]
          have e0 : k / 3 ^ 0 = k := by rw [Nat.pow_zero, Nat.div_one]
          rw [e0] at h0
          exact h0
      have L46 : ∀ (m r : Nat), r + m = n → VE E mX7_coin 7 (PR (.int (coinR v most a)) (QV g σ v)) 46 [some (.ref (g.1 100)), some (.int (most)), some (.int (a)), some (.int (nI n)), some (.int (nI (3 ^ r))), some (.int (nI r)), none, none, none, none, none, none] [] (S g σ w) := by
        intro m
        induction m with
        | zero =>
          intro r hk 
          obtain rfl : r = n := by omega
          refine VE.step (fun _ h => V.ild5 dX7_coin_46 (V.ild3 dX7_coin_48 h)) ?_
          refine VE.icmp_ge (tgt := 64) dX7_coin_49 (by decide) (fun c_49 => ?_) (fun c_49 => absurd (by exact nI_le (by omega) (by omega)) c_49)
          refine VE.step (fun _ h => V.ald0 dX7_coin_64 (V.invV0v vX7_310 hW.2.2.1 dX7_coin_65 (c_X7_keepsRises hW) (V.iconst_m1 dX7_coin_68 (V.ist5 dX7_coin_69 (V.iconst_0 dX7_coin_71 (V.ist6 dX7_coin_72 (V.iconst_0 dX7_coin_74 (V.ist7 dX7_coin_75 h)))))))) ?_
          exact L77 (3 ^ r) 0 (-1, 0) _ _ _ _ _ (by omega) (Kp.lo (by omega) rfl) (Kp.start rfl) (by rw [coiS, hne])
        | succ m ih =>
          intro r hk 
          refine VE.step (fun _ h => V.ild5 dX7_coin_46 (V.ild3 dX7_coin_48 h)) ?_
          refine VE.icmp_ge (tgt := 64) dX7_coin_49 (by decide) (fun c_49 => absurd c_49 (by first | exact nI_ge (by omega) (by omega) | exact fun h9 => absurd ((nI_leI (by omega) (by omega)).mp h9) (by omega))) (fun c_49 => ?_)
          refine VE.step (fun _ h => V.ild4 dX7_coin_52 (V.iconst_3 dX7_coin_54 (V.imul dX7_coin_55 (V.ist4 dX7_coin_56 (V.inc5 dX7_coin_58 (V.goto (tgt := 46) dX7_coin_61 (by decide) h)))))) ?_
          rw [nI_1, show (3 : Int32) = nI 3 from rfl, pk_mul, ← Nat.pow_succ]
          exact ih (r + 1) (by omega)
      
      refine VE.step (fun _ h => V.ald0 dX7_coin_23 (GX7_156 hW rfl dX7_coin_24 (V.iconst_4 dX7_coin_27 h))) ?_
      refine VE.icmp_ge (tgt := 38) dX7_coin_28 (by decide) (fun c_28 => ?_) (fun c_28 => ?_)
      · rw [cv_at hA (id := 100) (j := 3)] at c_28
        have en : (4 : Int32) = nI n := by rw [← hne, coiN, if_neg (Int32.not_lt.mpr c_28)]; rfl
        refine VE.step (fun _ h => V.iconst_4 dX7_coin_38 h) ?_
        try rw [en]
        refine VE.step (fun _ h => V.ist3 dX7_coin_39 (V.iconst_1 dX7_coin_40 (V.ist4 dX7_coin_41 (V.iconst_0 dX7_coin_43 (V.ist5 dX7_coin_44 h))))) ?_
        exact L46 n 0 (by omega)
      · rw [cv_at hA (id := 100) (j := 3)] at c_28
        have en : w 100 3 = nI n := by rw [cv_at hA (id := 100) (j := 3), hI.rows.1, ← hne, coiN, if_pos (Int32.not_le.mp c_28)]
        refine VE.step (fun _ h => V.ald0 dX7_coin_31 (GX7_156 hW rfl dX7_coin_32 (V.goto (tgt := 39) dX7_coin_35 (by decide) h))) ?_
        try rw [en]
        refine VE.step (fun _ h => V.ist3 dX7_coin_39 (V.iconst_1 dX7_coin_40 (V.ist4 dX7_coin_41 (V.iconst_0 dX7_coin_43 (V.ist5 dX7_coin_44 h))))) ?_
        exact L46 n 0 (by omega)
    · refine VE.step (fun _ h => V.bipush (v := (-2)) dX7_coin_20 (by decide) h) ?_
      exact VE.iret dX7_coin_22 rfl rfl (⟨by simp only [coinR, coinOk, c_8, c_17, if_true, if_false, Bool.false_eq_true, eq_self, and_true, true_and, and_false, false_and, Bool.and_true, Bool.true_and, Bool.and_false, Bool.false_and, Bool.not_true, Bool.not_false, not_true_eq_false, not_false_eq_true, ne_eq, b2i_t, b2i_f], _, hA, rfl⟩)

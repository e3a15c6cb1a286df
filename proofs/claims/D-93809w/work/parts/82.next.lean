set_option maxRecDepth 100000
set_option maxHeartbeats 16000000
def GLt : List Int32 := [40, 41, 59, 43, 45, 42, 60, 61]
/-- the Strings of the start -/
def OS (E : En) (σ : Sg) : Prop := (∀ k, k < 12 → Stg σ (10 + k) (WL k)) ∧ Stg σ 22 GLt ∧ (sT σ 4 = (108, 3) ∧ ∀ k, k < 3 → sR σ 4 k = some (10 + k)) ∧ (sT σ 5 = (108, 6) ∧ ∀ k, k < 6 → sR σ 5 k = some (13 + k)) ∧ (SV E "OverTheHeads" "KEYS" "[Ljava/lang/String;" (.ref 4) ∧ SV E "OverTheHeads" "NAMES" "[Ljava/lang/String;" (.ref 5)) ∧ SR E RX2 77 "();+-*<=" 22 ∧ SR E RX2 132 "not" 21 ∧ SR E RX2 139 "and" 20 ∧ SR E RX2 144 "or" 19
theorem OS.fg {E : En} {σ σ' : Sg} {b c : Nat} (h : OS E σ) (hF : FG σ σ' b c) : OS E σ' := by
  obtain ⟨h1, h2, h3, h4, h5⟩ := h
  have t := hF.2.2.2 4 (by rw [h3.1]; decide)
  have t' := hF.2.2.2 5 (by rw [h4.1]; decide)
  exact ⟨fun k hk => (h1 k hk).fg hF, h2.fg hF, by rw [t.1, t.2.1]; exact h3, by rw [t'.1, t'.2.1]; exact h4, h5⟩
/-- a token, and what the reader has of it -/
def TKp (σ : Sg) (t y n s : Int32) (w : Option Nat) : Prop :=
  (t = 0 ∧ n = -1 ∧ s = -1 ∧ w = none) ∨ (t = 1 ∧ n = y ∧ (∃ k, k < 10000 ∧ y = nI k) ∧ s = -1 ∧ w = none) ∨ (isG t = true ∧ n = -1 ∧ s = t ∧ w = none) ∨
  ∃ (kx b : Nat) (Lt : List Int32), kx ≤ 12 ∧ t = tokW kx ∧ y = valW kx ∧ n = -1 ∧ s = -1 ∧ w = some b ∧ 1000 ≤ b ∧ Stg σ b Lt ∧ Lt.length ≤ 9 ∧ ∀ k, k < 12 → (Lt = WL k ↔ kx = k)
theorem TKp.fg {σ σ' : Sg} {b c : Nat} {t y n s : Int32} {w : Option Nat} (h : TKp σ t y n s w) (hF : FG σ σ' b c) : TKp σ' t y n s w := by
  rcases h with h | h | h | ⟨kx, b9, Lt, q1, q2, q3, q4, q5, q6, q7, q8, q9⟩
  · exact .inl h
  · exact .inr (.inl h)
  · exact .inr (.inr (.inl h))
  · exact .inr (.inr (.inr ⟨kx, b9, Lt, q1, q2, q3, q4, q5, q6, q7, q8.fg hF, q9⟩))
def RDp (σ : Sg) (r : Nat) (o : Int32) (L : Nat × Int32 × Int32 × Nat) (cN cS : Nat) : Sg → Prop := fun s9 => ∃ (σ' : Sg) (n' s' : Int32) (w' : Option Nat), s9 = rdS σ' r (nI L.2.2.2) (nI L.1) o n' s' w' ∧ FG σ σ' cN cS ∧ TKp σ' L.2.1 L.2.2.1 n' s' w'
def FLp (σ : Sg) (r p cN cS : Nat) : Outcome → Sg → Prop := fun oc s9 => ∃ (σ' : Sg) (fa : Nat) (a f o n s : Int32) (w : Option Nat), oc = .threw fa ∧ s9 = rdS σ' r a f o n s w ∧ FG σ σ' cN cS ∧ (sT σ' fa).1 = 4 ∧ 1000 ≤ fa ∧ sI σ' fa 6 = nI p
def NXP (σ : Sg) (r : Nat) (o : Int32) (L : Nat × Int32 × Int32 × Nat) : Outcome → Sg → Prop := fun oc s9 => (oc = .returned none ∧ RDp σ r o L 6 60 s9) ∨ (L.2.1 = -1 ∧ FLp σ r L.1 6 60 oc s9)
theorem hr_i {P : Int32 → Bool} (hP : P (-1) = false) {B : Nat → Int32} {N p : Nat} (h : P (hrF B N p) = true) : p < N ∧ P (B p) = true := by
  unfold hrF at h
  by_cases q : p < N
  · rw [if_pos q] at h; exact ⟨q, h⟩
  · rw [if_neg q, hP] at h; exact Bool.noConfusion h
theorem hr_t {B : Nat → Int32} {N p : Nat} (h : p < N) : hrF B N p = B p := by unfold hrF; rw [if_pos h]
theorem hr_n {P : Int32 → Bool} (hP : P (-1) = false) {B : Nat → Int32} {N p m : Nat} (hm : p + m = N) : P (hrF B N (runF P B m p)) = false := by
  obtain ⟨-, h2⟩ := runF_sp (P := P) (B := B) m p
  have h3 := runF_b (P := P) (B := B) m p
  by_cases q : runF P B m p < N
  · rw [hr_t q]; exact h2 (by omega)
  · unfold hrF; rw [if_neg q]; exact hP
theorem L_k {x : Int32} (h : isL x = true) : ∃ k, k < 128 ∧ x = nI k := by
  unfold isL inB at h
  rw [decide_eq_true_eq] at h
  obtain ⟨j, hj, e⟩ := nI_of (x := x) (fun z => Int32.lt_irrefl (Int32.lt_of_lt_of_le z (Int32.le_trans (show (0 : Int32) ≤ 97 by decide) h.1)))
  rw [e] at h
  have h2 := (nI_leI (b := 122) hj (by decide)).mp h.2
  exact ⟨j, by omega, e⟩
theorem gl_iff : ∀ k, k < 256 → (0 ≤ ffI (fun i => decide (GLt.getD i 0 = (nI k).toInt8.toInt32)) 0 8 ↔ isG (nI k) = true) := by decide +kernel
theorem ch_n : ∀ k, k < 128 → ((nI k).toUInt32 % 65536).toInt32 = nI k := by decide +kernel
theorem rd_C {σ : Sg} {r : Nat} {a f o n s : Int32} {w : Option Nat} (h : CLN σ) : CLN (rdS σ r a f o n s w) := h
theorem c_X2_next {E : En} (hJ : JS E) (hU : EU E) {σ : Sg} (hO : OS E σ) (h1 : 1000 ≤ sN σ) (hC : CLN σ) {r N : Nat} {B : Nat → Int32} (hB : RB σ r N B) {a : Nat} (ha : a ≤ N) {f o n s : Int32} {w : Option Nat} : CtE E mX2_next 8 [.ref r] (NXP σ r o (lexM B N a)) (rdS σ r (nI a) f o n s w) := by
  show VE E mX2_next 8 _ 0 [some (.ref r), none] [] (rdS σ r (nI a) f o n s w)
  have hN := hB.2.2.2.1
  have ht := hB.1
  have hr := hB.2.1
  have hz := hC (sN σ) (Nat.le_refl _)
  have hz1 := hC (sN σ + 1) (Nat.le_succ _)
  have hrn : r ≠ sN σ := fun z => by rw [← z, ht] at hz; exact absurd hz (by decide)
  have hrn1 : r ≠ sN σ + 1 := fun z => by rw [← z, ht] at hz1; exact absurd hz1 (by decide)
  obtain ⟨p, hp⟩ : ∃ p, runF isB B (N - a) a = p := ⟨_, rfl⟩
  have hpb := runF_b (P := isB) (B := B) (N - a) a
  rw [hp] at hpb
  have hpN : p ≤ N := by omega
  have hlex : lexM B N a = if p = N then (p, 0, 0, p) else (p, lexT B N p) := by unfold lexM; rw [hp]
  have H31 : VE E mX2_next 8 (NXP σ r o (lexM B N a)) 31 [some (.ref r), none] [] (rdS σ r (nI p) f o n s w) := by
    refine VE.step (fun _ h => V.ald0 dX2_next_31 (V.ald0 dX2_next_32 (gR2 ht rfl dX2_next_33 (pR3 ht hr rfl dX2_next_36 (V.ald0 dX2_next_39 (V.aconst_null dX2_next_40 (pR5n ht hr rfl dX2_next_41 (V.ald0 dX2_next_44 (V.iconst_m1 dX2_next_45 (pR6 ht hr rfl dX2_next_46 (V.ald0 dX2_next_49 (V.iconst_m1 dX2_next_50 (pR7 ht hr rfl dX2_next_51 h))))))))))))) ?_
    refine VE.step (fun _ h => V.ald0 dX2_next_54 (V.invV0r vX2_33 hB.1 dX2_next_55 (c_X2_here hB hpN) (V.i2l dX2_next_58 (V.ldc2_w q284 dX2_next_59 (V.ldc2_w q285 dX2_next_62 (V.invSN3r sX2_51 dX2_next_65 (in_c (lo := 97) (hi := 122) rfl rfl) (h))))))) ?_
    refine VE.ifb_eq (tgt := 139) dX2_next_68 (by decide) (fun c_68 => ?_) (fun c_68 => ?_)
    rotate_left 1
    · -- letters
      obtain ⟨hpl, hL⟩ := hr_i (P := isL) rfl c_68
      obtain ⟨e, he⟩ : ∃ e, runF isL B (N - p) p = e := ⟨_, rfl⟩
      have heb := runF_b (P := isL) (B := B) (N - p) p
      have hes := (runF_sp (P := isL) (B := B) (N - p) p).1
      have hen := hr_n (P := isL) rfl (B := B) (N := N) (p := p) (m := N - p) (by omega)
      rw [he] at heb hes hen
      have hlx : lexM B N a = (p, tokW (wdI (letF B p e)), valW (wdI (letF B p e)), e) := by
        rw [hlex, if_neg (by omega)]
        unfold lexT
        rw [if_pos hL, he]
      rw [hlx]
      refine VE.step (fun _ h => nX2_55 (σ := rdS σ r (nI p) (nI p) o (-1) (-1) none) rfl dX2_next_71 h) ?_
      rw [rd_nW hrn]
      have ht1 : (sT (nW σ (19, 0) 4) r).1 = 3 := by
        show (up1 (sT σ) (sN σ) (19, 0) r).1 = 3
        rw [up1_ne _ _ hrn]; exact ht
      have hsb : (sT (nW σ (19, 0) 4) (sN σ)).1 = 19 := by rw [nX_t]
      refine VE.step (fun _ h => V.dup dX2_next_74 (V.invI0v iX2_57 dX2_next_75 (c_J8_init (σ := rdS (nW σ (19, 0) 4) r (nI p) (nI p) o (-1) (-1) none) hJ (sb := sN σ) hsb h1 (by show sN σ ≠ sN σ + 1; omega)) (V.ast1 dX2_next_78 h))) ?_
      rw [rd_sbH (σ := nW σ (19, 0) 4) (by show r ≠ sN σ + 1; exact hrn1) (Ne.symm hrn)]
      have F0 : FG σ (sbH (nW σ (19, 0) 4) (sN σ)) 2 20 := (FG.n hC).sbH hz
      have S0 : SBd (sbH (nW σ (19, 0) 4) (sN σ)) (sN σ) (sN σ + 1) [] := sbH_ok (σ := nW σ (19, 0) 4) hsb h1 (by show sN σ ≠ sN σ + 1; omega) (by show 1000 ≤ sN σ + 1; omega) (by show up1 (sI σ) (sN σ) (fun _ => 0) (sN σ) 3 = 0; rw [up1_eq])
      have L79 : ∀ (m q : Nat) (σ2 : Sg), q + m = e → p ≤ q → FG σ σ2 2 20 → SBd σ2 (sN σ) (sN σ + 1) (lts B p (q - p)) → VE E mX2_next 8 (NXP σ r o (p, tokW (wdI (letF B p e)), valW (wdI (letF B p e)), e)) 79 [some (.ref r), some (.ref (sN σ))] [] (rdS σ2 r (nI q) (nI p) o (-1) (-1) none) := by
        intro m
        induction m with
        | zero =>
          intro q σ2 hq hpq hF hS
          obtain rfl : q = e := by omega
          have hB2 := hB.fg hF
          refine VE.step (fun _ h => V.ald0 dX2_next_79 (V.invV0r vX2_33 hB2.1 dX2_next_80 (c_X2_here hB2 (by omega)) (V.i2l dX2_next_83 (V.ldc2_w q284 dX2_next_84 (V.ldc2_w q285 dX2_next_87 (V.invSN3r sX2_51 dX2_next_90 (in_c (lo := 97) (hi := 122) rfl rfl) (h))))))) ?_
          refine VE.ifb_eq (tgt := 128) dX2_next_93 (by decide) (fun _ => ?_) (fun z => by rw [show inB (hrF B N q) 97 122 = false from hen] at z; exact Bool.noConfusion z)
          have hS' : SBd (rdS σ2 r (nI q) (nI p) o (-1) (-1) none) (sN σ) (sN σ + 1) (lts B p (q - p)) := (SBd.rd hB2.1).mpr hS
          have hC2 : CLN (rdS σ2 r (nI q) (nI p) o (-1) (-1) none) := hF.2.2.1
          have h12 : 1000 ≤ sN σ2 := Nat.le_trans h1 hF.1.1
          have hl9 : (lts B p (q - p)).length ≤ 9 := by rw [lts_len]; omega
          have hk9 : ∀ i, i < (lts B p (q - p)).length → ∃ k, k < 128 ∧ (lts B p (q - p)).getD i 0 = nI k := fun i hi => by
            rw [lts_len] at hi
            obtain ⟨k, hk, e9⟩ := L_k (hes (p + i) (by omega) (by omega))
            refine ⟨k, hk, ?_⟩
            unfold lts
            rw [List.getD_eq_getElem?_getD, List.getElem?_map, List.getElem?_range (by omega)]
            exact e9
          obtain ⟨F3, S3⟩ := strH_ok hC2 hS'
          refine VE.step (fun _ h => V.ald0 dX2_next_128 (V.ald1 dX2_next_129 (V.invV0r vX2_65 hS'.1 dX2_next_130 (c_J8_toString (σ := rdS σ2 r (nI q) (nI p) o (-1) (-1) none) hJ h12 hC2 hS' hl9 hk9) h))) ?_
          obtain ⟨σ3, e3, F4⟩ := rd_fg (σ := σ2) (by rw [hB2.1]; decide) F3
          rw [e3] at S3 ⊢
          have ht3 : (sT σ3 r).1 = 3 := (hB2.fg F4).1
          refine VE.step (fun _ h => pR5r ht3 hr rfl dX2_next_133 (V.goto (tgt := 279) dX2_next_136 (by decide) (h))) ?_
          refine VE.vret dX2_next_279 rfl (.inl ⟨rfl, σ3, -1, -1, some (sN σ2), rfl, (hF.tr F4).le (by omega) (by omega), .inr (.inr (.inr ⟨wdI (letF B p q), sN σ2, lts B p (q - p), wdI_sp.1, rfl, rfl, rfl, rfl, rfl, h12, (Stg.rd ht3).mp S3, hl9, fun k hk => ?_⟩))⟩)
          have := word_iff (B := B) (p := p) (m := q - p) (by omega) (fun i q1 q2 => hes i q1 (by omega)) hk
          rw [show p + (q - p) = q by omega] at this
          exact this
        | succ m ih =>
          intro q σ2 hq hpq hF hS
          have hB2 := hB.fg hF
          have hLq := hes q hpq (by omega)
          obtain ⟨k, hk, ek⟩ := L_k hLq
          refine VE.step (fun _ h => V.ald0 dX2_next_79 (V.invV0r vX2_33 hB2.1 dX2_next_80 (c_X2_here hB2 (show q ≤ N by omega)) (V.i2l dX2_next_83 (V.ldc2_w q284 dX2_next_84 (V.ldc2_w q285 dX2_next_87 (V.invSN3r sX2_51 dX2_next_90 (in_c (lo := 97) (hi := 122) rfl rfl) (h))))))) ?_
          refine VE.ifb_eq (tgt := 128) dX2_next_93 (by decide) (fun z => by rw [hr_t (by omega), show inB (B q) 97 122 = true from hLq] at z; exact Bool.noConfusion z) (fun _ => ?_)
          have hS' : SBd (rdS σ2 r (nI q) (nI p) o (-1) (-1) none) (sN σ) (sN σ + 1) (lts B p (q - p)) := (SBd.rd hB2.1).mpr hS
          refine VE.step (fun _ h => V.ald1 dX2_next_96 (V.invV0r vX2_58 hS'.1 dX2_next_97 (c_J8_length hS') (V.bipush (v := 9) dX2_next_100 (by decide) h))) ?_
          rw [lts_len]
          refine VE.icmp_ge (tgt := 115) dX2_next_102 (by decide) (fun z => ?_) (fun z => ?_)
          · have h9 := (nI_leI (a := 9) (by decide) (by omega)).mp z
            refine VE.step (fun _ h => V.ald0 dX2_next_115 (V.dup dX2_next_116 (gR2 hB2.1 rfl dX2_next_117 (V.iconst_1 dX2_next_120 (V.iadd dX2_next_121 (pR2 hB2.1 hr rfl dX2_next_122 (V.goto (tgt := 79) dX2_next_125 (by decide) (h)))))))) ?_
            rw [nI_1]
            refine ih (q + 1) σ2 (by omega) (by omega) hF ?_
            rw [show q + 1 - p = q - p + 1 by omega, lts_9 (by omega)]
            exact hS
          · have h9 : q - p < 9 := by
              rcases Nat.lt_or_ge (q - p) 9 with h | h
              · exact h
              · exact absurd (nI_le (a := 9) (by omega) (by omega)) z
            refine VE.step (fun _ h => V.ald1 dX2_next_105 (V.ald0 dX2_next_106 (V.invV0r vX2_33 hB2.1 dX2_next_107 (c_X2_here hB2 (show q ≤ N by omega)) (V.i2c dX2_next_110 h)))) ?_
            rw [hr_t (by omega), ek, ch_n k hk]
            refine VE.step (fun _ h => V.invV1r vX2_61 hS'.1 dX2_next_111 (c_J8_append hJ hS' (by rw [lts_len]; omega) hk) (V.pop dX2_next_114 h)) ?_
            have e5 : pI (pI (rdS σ2 r (nI q) (nI p) o (-1) (-1) none) (sN σ) 3 (nI ((lts B p (q - p)).length + 1))) (sN σ + 1) (lts B p (q - p)).length (nI k) = rdS (pI (pI σ2 (sN σ) 3 (nI ((lts B p (q - p)).length + 1))) (sN σ + 1) (lts B p (q - p)).length (nI k)) r (nI q) (nI p) o (-1) (-1) none := by
              rw [rd_pI (Ne.symm hrn)]
              exact rd_pI (Ne.symm hrn1)
            rw [e5]
            have hF5 : FG σ (pI (pI σ2 (sN σ) 3 (nI ((lts B p (q - p)).length + 1))) (sN σ + 1) (lts B p (q - p)).length (nI k)) 2 20 := (hF.pI hz).pI hz1
            have hB5 := hB.fg hF5
            refine VE.step (fun _ h => V.ald0 dX2_next_115 (V.dup dX2_next_116 (gR2 hB5.1 rfl dX2_next_117 (V.iconst_1 dX2_next_120 (V.iadd dX2_next_121 (pR2 hB5.1 hr rfl dX2_next_122 (V.goto (tgt := 79) dX2_next_125 (by decide) (h)))))))) ?_
            rw [nI_1]
            refine ih (q + 1) _ (by omega) (by omega) hF5 ?_
            rw [show q + 1 - p = q - p + 1 by omega, lts_s h9, show p + (q - p) = q by omega, ek]
            exact hS.app
      exact L79 (e - p) p _ (by omega) (Nat.le_refl _) F0 (by rw [Nat.sub_self]; exact S0)
    refine VE.step (fun _ h => V.ald0 dX2_next_139 (V.invV0r vX2_33 hB.1 dX2_next_140 (c_X2_here hB hpN) (V.i2l dX2_next_143 (V.ldc2_w q451 dX2_next_144 (V.ldc2_w q452 dX2_next_147 (V.invSN3r sX2_51 dX2_next_150 (in_c (lo := 48) (hi := 57) rfl rfl) (h))))))) ?_
    refine VE.ifb_eq (tgt := 233) dX2_next_153 (by decide) (fun c_153 => ?_) (fun c_153 => ?_)
    rotate_left 1
    · -- digits
      obtain ⟨hpl, hD⟩ := hr_i (P := isD) rfl c_153
      have hnL : isL (B p) = false := by rw [← hr_t (B := B) hpl]; exact c_68
      obtain ⟨e, he⟩ : ∃ e, runF isD B (N - p) p = e := ⟨_, rfl⟩
      have heb := runF_b (P := isD) (B := B) (N - p) p
      have hes := (runF_sp (P := isD) (B := B) (N - p) p).1
      have hen := hr_n (P := isD) rfl (B := B) (N := N) (p := p) (m := N - p) (by omega)
      rw [he] at heb hes hen
      have hlx : lexM B N a = (p, (if nI (e - p) ≤ 4 then 1 else -1), dgL B (e - p) p 0 0, e) := by
        rw [hlex, if_neg (by omega)]
        unfold lexT
        rw [hnL, if_neg (by decide), if_pos hD, he]
      rw [hlx]
      refine VE.step (fun _ h => V.iconst_0 dX2_next_156 (V.ist1 dX2_next_157 (V.ald0 dX2_next_158 (V.iconst_0 dX2_next_159 (pR6 ht hr rfl dX2_next_160 h))))) ?_
      have L163 : ∀ (m q : Nat) (v : Int32), q + m = e → p ≤ q → (e - p ≤ 4 → dgL B (e - q) q (q - p) v = dgL B (e - p) p 0 0) → VE E mX2_next 8 (NXP σ r o (p, (if nI (e - p) ≤ 4 then 1 else -1), dgL B (e - p) p 0 0, e)) 163 [some (.ref r), some (.int (nI (q - p)))] [] (rdS σ r (nI q) (nI p) o v (-1) none) := by
        intro m
        induction m with
        | zero =>
          intro q v hq hpq hv
          obtain rfl : q = e := by omega
          refine VE.step (fun _ h => V.ald0 dX2_next_163 (V.invV0r vX2_33 hB.1 dX2_next_164 (c_X2_here hB (show q ≤ N by omega)) (V.i2l dX2_next_167 (V.ldc2_w q451 dX2_next_168 (V.ldc2_w q452 dX2_next_171 (V.invSN3r sX2_51 dX2_next_174 (in_c (lo := 48) (hi := 57) rfl rfl) (h))))))) ?_
          refine VE.ifb_eq (tgt := 220) dX2_next_177 (by decide) (fun _ => ?_) (fun z => by rw [show inB (hrF B N q) 48 57 = false from hen] at z; exact Bool.noConfusion z)
          refine VE.step (fun _ h => V.ild1 dX2_next_220 (V.iconst_4 dX2_next_221 h)) ?_
          refine VE.icmp_le (tgt := 230) dX2_next_222 (by decide) (fun z => ?_) (fun z => ?_)
          · have h4 := (nI_leI (b := 4) (by omega) (by decide)).mp z
            rw [if_pos z]
            refine VE.step (fun _ h => V.goto (tgt := 279) dX2_next_230 (by decide) (h)) ?_
            have hv9 := hv h4
            rw [Nat.sub_self, dgL] at hv9
            obtain ⟨v9, hb9, e9⟩ := dgL_n (B := B) (q - p) p 0 0 (by omega) (by decide) (fun i q1 q2 => hes i q1 (by omega))
            have h10 : 10 ^ (0 + (q - p)) ≤ 10 ^ 4 := Nat.pow_le_pow_right (by decide) (by omega)
            exact VE.vret dX2_next_279 rfl (.inl ⟨rfl, σ, v, -1, none, rfl, (FG.rfl hC).le (by decide) (by decide), .inr (.inl ⟨rfl, hv9, ⟨v9, by omega, e9⟩, rfl, rfl⟩)⟩)
          · rw [if_neg z]
            refine VE.step (fun _ h => V.ald0 dX2_next_225 (V.invV0r vX2_73 ht dX2_next_226 (c_X2_fault hU h1 ht hrn) h)) ?_
            exact ⟨(.threw (sN σ), rdS (flt σ (nI p)) r (nI q) (nI p) o v (-1) none), .inr ⟨rfl, flt σ (nI p), sN σ, _, _, _, _, _, _, rfl, rfl, (FG.flt hC).le (by decide) (by decide), flt_t, h1, flt_c⟩, V.athrow (fun q hq => by cases hq) dX2_next_229 rfl⟩
        | succ m ih =>
          intro q v hq hpq hv
          have hDq := hes q hpq (by omega)
          refine VE.step (fun _ h => V.ald0 dX2_next_163 (V.invV0r vX2_33 hB.1 dX2_next_164 (c_X2_here hB (show q ≤ N by omega)) (V.i2l dX2_next_167 (V.ldc2_w q451 dX2_next_168 (V.ldc2_w q452 dX2_next_171 (V.invSN3r sX2_51 dX2_next_174 (in_c (lo := 48) (hi := 57) rfl rfl) (h))))))) ?_
          refine VE.ifb_eq (tgt := 220) dX2_next_177 (by decide) (fun z => by rw [hr_t (by omega), show inB (B q) 48 57 = true from hDq] at z; exact Bool.noConfusion z) (fun _ => ?_)
          refine VE.step (fun _ h => V.ild1 dX2_next_180 (V.iconst_4 dX2_next_181 h)) ?_
          have eq1 : q + 1 - p = q - p + 1 := by omega
          refine VE.icmp_ge (tgt := 204) dX2_next_182 (by decide) (fun z => ?_) (fun z => ?_)
          · have h4 := (nI_leI (a := 4) (by decide) (by omega)).mp z
            refine VE.step (fun _ h => V.inc1 dX2_next_204 (V.ald0 dX2_next_207 (V.dup dX2_next_208 (gR2 ht rfl dX2_next_209 (V.iconst_1 dX2_next_212 (V.iadd dX2_next_213 (pR2 ht hr rfl dX2_next_214 (V.goto (tgt := 163) dX2_next_217 (by decide) (h))))))))) ?_
            rw [nI_1, nI_1]
            have h9 := ih (q + 1) v (by omega) (by omega) (fun z9 => by omega)
            rw [eq1] at h9
            exact h9
          · have h4 : q - p < 4 := by
              rcases Nat.lt_or_ge (q - p) 4 with h | h
              · exact h
              · exact absurd (nI_le (a := 4) h (by omega)) z
            refine VE.step (fun _ h => V.ald0 dX2_next_185 (V.bipush (v := 10) dX2_next_186 (by decide) (V.ald0 dX2_next_188 (gR6 ht rfl dX2_next_189 (V.imul dX2_next_192 (V.ald0 dX2_next_193 (V.invV0r vX2_33 hB.1 dX2_next_194 (c_X2_here hB (show q ≤ N by omega)) (V.iadd dX2_next_197 (V.bipush (v := 48) dX2_next_198 (by decide) (V.isub dX2_next_200 (pR6 ht hr rfl dX2_next_201 h))))))))))) ?_
            rw [hr_t (by omega)]
            refine VE.step (fun _ h => V.inc1 dX2_next_204 (V.ald0 dX2_next_207 (V.dup dX2_next_208 (gR2 ht rfl dX2_next_209 (V.iconst_1 dX2_next_212 (V.iadd dX2_next_213 (pR2 ht hr rfl dX2_next_214 (V.goto (tgt := 163) dX2_next_217 (by decide) (h))))))))) ?_
            rw [nI_1, nI_1]
            have h9 := ih (q + 1) (10 * v + B q - 48) (by omega) (by omega) (fun z9 => by
              have h8 := hv z9
              rw [show e - q = e - (q + 1) + 1 by omega, dgL, if_neg z] at h8
              rw [eq1]; exact h8)
            rw [eq1] at h9
            exact h9
      have h0 := L163 (e - p) p 0 (by omega) (Nat.le_refl _) (fun _ => by rw [Nat.sub_self])
      rw [Nat.sub_self] at h0
      exact h0
    -- a sign, or the end
    refine VE.step (fun _ h => V.ald0 dX2_next_233 (gR2 ht rfl dX2_next_234 (V.ald0 dX2_next_237 (gR1 hB rfl dX2_next_238 h)))) ?_
    refine VE.icmp_ge (tgt := 279) dX2_next_241 (by decide) (fun z => ?_) (fun z => ?_)
    · have hpe : p = N := by have := (nI_leI (by omega) (by omega)).mp z; omega
      rw [hlex, if_pos hpe]
      exact VE.vret dX2_next_279 rfl (.inl ⟨rfl, σ, -1, -1, none, rfl, (FG.rfl hC).le (by decide) (by decide), .inl ⟨rfl, rfl, rfl, rfl⟩⟩)
    · have hpl : p < N := by
        rcases Nat.lt_or_ge p N with h | h
        · exact h
        · exact absurd (nI_le h (by omega)) z
      have hnL : isL (B p) = false := by rw [← hr_t (B := B) hpl]; exact c_68
      have hnD : isD (B p) = false := by rw [← hr_t (B := B) hpl]; exact c_153
      have hlx : lexM B N a = (p, (if isG (B p) then B p else -1), 0, p + 1) := by
        rw [hlex, if_neg (by omega)]
        unfold lexT
        rw [hnL, hnD, if_neg (by decide), if_neg (by decide)]
      rw [hlx]
      obtain ⟨k, hk, ek⟩ := hB.2.2.2.2.1 p hpl
      refine VE.step (fun _ h => V.ald0 dX2_next_244 (V.ald0 dX2_next_245 (V.invV0r vX2_33 hB.1 dX2_next_246 (c_X2_here hB hpN) (pR7 ht hr rfl dX2_next_249 h)))) ?_
      rw [hr_t hpl, ek]
      have hS22 : Stg (rdS σ r (nI p) (nI p) o (-1) (nI k) none) 22 GLt := (Stg.rd ht).mpr hO.2.1
      refine VE.step (fun _ h => V.ldcS hO.2.2.2.2.2.1 dX2_next_252 (V.ald0 dX2_next_254 (gR7 ht rfl dX2_next_255 (V.invV1r vX2_79 hS22.1 dX2_next_258 (c_J3_indexOf hJ hS22 (by decide) (by decide) hk) h)))) ?_
      have hg := gl_iff k hk
      refine VE.if_ge (tgt := 269) dX2_next_261 (by decide) (fun z => ?_) (fun z => ?_)
      · have hG := hg.mp z
        rw [if_pos hG]
        refine VE.step (fun _ h => V.ald0 dX2_next_269 (V.dup dX2_next_270 (gR2 ht rfl dX2_next_271 (V.iconst_1 dX2_next_274 (V.iadd dX2_next_275 (pR2 ht hr rfl dX2_next_276 (h))))))) ?_
        rw [nI_1]
        exact VE.vret dX2_next_279 rfl (.inl ⟨rfl, σ, -1, nI k, none, rfl, (FG.rfl hC).le (by decide) (by decide), .inr (.inr (.inl ⟨hG, rfl, rfl, rfl⟩))⟩)
      · have hG : ¬ isG (nI k) = true := fun y => z (hg.mpr y)
        rw [if_neg hG]
        refine VE.step (fun _ h => V.ald0 dX2_next_264 (V.invV0r vX2_73 ht dX2_next_265 (c_X2_fault hU h1 ht hrn) h)) ?_
        exact ⟨(.threw (sN σ), rdS (flt σ (nI p)) r (nI p) (nI p) o (-1) (nI k) none), .inr ⟨rfl, flt σ (nI p), sN σ, _, _, _, _, _, _, rfl, rfl, (FG.flt hC).le (by decide) (by decide), flt_t, h1, flt_c⟩, V.athrow (fun q hq => by cases hq) dX2_next_268 rfl⟩
  -- the blanks
  have hsp := runF_sp (P := isB) (B := B) (N - a) a
  have hbn := hr_n (P := isB) rfl (B := B) (N := N) (p := a) (m := N - a) (by omega)
  rw [hp] at hsp hbn
  have L0 : ∀ (m q : Nat), q + m = p → a ≤ q → VE E mX2_next 8 (NXP σ r o (lexM B N a)) 0 [some (.ref r), none] [] (rdS σ r (nI q) f o n s w) := by
    intro m
    induction m with
    | zero =>
      intro q hq haq
      obtain rfl : q = p := by omega
      unfold isB at hbn
      rw [Bool.or_eq_false_iff, decide_eq_false_iff_not, decide_eq_false_iff_not] at hbn
      refine VE.step (fun _ h => V.ald0 dX2_next_0 (V.invV0r vX2_33 hB.1 dX2_next_1 (c_X2_here hB hpN) (V.bipush (v := 32) dX2_next_4 (by decide) h))) ?_
      refine VE.icmp_eq (tgt := 18) dX2_next_6 (by decide) (fun z => absurd z hbn.1) (fun _ => ?_)
      refine VE.step (fun _ h => V.ald0 dX2_next_9 (V.invV0r vX2_33 hB.1 dX2_next_10 (c_X2_here hB hpN) (V.bipush (v := 10) dX2_next_13 (by decide) h))) ?_
      exact VE.icmp_ne (tgt := 31) dX2_next_15 (by decide) (fun _ => H31) (fun z => absurd z hbn.2)
    | succ m ih =>
      intro q hq haq
      have hb := hsp.1 q haq (by omega)
      rw [← hr_t (B := B) (N := N) (by omega)] at hb
      unfold isB at hb
      rw [Bool.or_eq_true, decide_eq_true_eq, decide_eq_true_eq] at hb
      have H18 : VE E mX2_next 8 (NXP σ r o (lexM B N a)) 18 [some (.ref r), none] [] (rdS σ r (nI q) f o n s w) := by
        refine VE.step (fun _ h => V.ald0 dX2_next_18 (V.dup dX2_next_19 (gR2 ht rfl dX2_next_20 (V.iconst_1 dX2_next_23 (V.iadd dX2_next_24 (pR2 ht hr rfl dX2_next_25 (V.goto (tgt := 0) dX2_next_28 (by decide) (h)))))))) ?_
        rw [nI_1]
        exact ih (q + 1) (by omega) (by omega)
      refine VE.step (fun _ h => V.ald0 dX2_next_0 (V.invV0r vX2_33 hB.1 dX2_next_1 (c_X2_here hB (show q ≤ N by omega)) (V.bipush (v := 32) dX2_next_4 (by decide) h))) ?_
      refine VE.icmp_eq (tgt := 18) dX2_next_6 (by decide) (fun _ => H18) (fun z => ?_)
      refine VE.step (fun _ h => V.ald0 dX2_next_9 (V.invV0r vX2_33 hB.1 dX2_next_10 (c_X2_here hB (show q ≤ N by omega)) (V.bipush (v := 10) dX2_next_13 (by decide) h))) ?_
      exact VE.icmp_ne (tgt := 31) dX2_next_15 (by decide) (fun z2 => absurd (hb.resolve_left z) z2) (fun _ => H18)
  exact L0 (p - a) a (by omega) (Nat.le_refl _)
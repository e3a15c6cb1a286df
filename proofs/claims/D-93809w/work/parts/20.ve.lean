set_option maxRecDepth 100000
/-- the end is one with P -/
def VE (E : En) (M : Mi) (d : Nat) (P : Outcome → Sg → Prop) (pc : Nat) (lv : List (Option Value)) (st : List Value) (σ : Sg) : Prop := ∃ out : Out, P out.1 out.2 ∧ V E M d out pc lv st σ
def CtE (E : En) (M : Mi) (d : Nat) (As : List Value) (P : Outcome → Sg → Prop) (σ : Sg) : Prop := ∃ out : Out, P out.1 out.2 ∧ Ct E M d As out σ
def PR (r : Value) (Q : Sg → Prop) : Outcome → Sg → Prop := fun o σ' => o = .returned (some r) ∧ Q σ'
def PV (Q : Sg → Prop) : Outcome → Sg → Prop := fun o σ' => o = .returned none ∧ Q σ'
section
variable {E : En} {M M' : Mi} {d d' : Nat} {P : Outcome → Sg → Prop} {pc index : Nat} {lv : List (Option Value)} {st : List Value} {σ : Sg}
theorem VE.step {pc' : Nat} {lv' : List (Option Value)} {st' : List Value} {σ' : Sg} (f : ∀ out : Out, V E M d out pc' lv' st' σ' → V E M d out pc lv st σ) (h : VE E M d P pc' lv' st' σ') : VE E M d P pc lv st σ := by
  obtain ⟨out, h1, h2⟩ := h
  exact ⟨out, h1, f out h2⟩
theorem VE.post {P' : Outcome → Sg → Prop} (h : VE E M d P' pc lv st σ) (hp : ∀ o s, P' o s → P o s) : VE E M d P pc lv st σ := by
  obtain ⟨out, h1, h2⟩ := h
  exact ⟨out, hp _ _ h1, h2⟩
theorem CtE.of {As : List Value} (h : VE E M d P 0 (lvE As (mL M)) [] σ) : CtE E M d As P σ := h
theorem CtE.mono {As : List Value} {P' : Outcome → Sg → Prop} (h : CtE E M d As P' σ) (hp : ∀ o s, P' o s → P o s) : CtE E M d As P σ := by
  obtain ⟨out, h1, h2⟩ := h
  exact ⟨out, hp _ _ h1, h2⟩
theorem VE.iret {v : Int32} {ty : FieldType} (hd : decode (mC M) pc = .ok (.ireturn, 1)) (hr : mR M = some ty) (hn : narrow ty (.int v) = .int v) (hp : P (.returned (some (.int v))) σ) : VE E M d P pc lv [.int v] σ := ⟨(_, _), hp, V.iret hd hr hn rfl⟩
theorem VE.lret {v : Int64} (hd : decode (mC M) pc = .ok (.lreturn, 1)) (hr : mR M = some .long) (hp : P (.returned (some (.long v))) σ) : VE E M d P pc lv [.long v] σ := ⟨(_, _), hp, V.lret hd hr rfl⟩
theorem VE.vret (hd : decode (mC M) pc = .ok (.return_, 1)) (hr : mR M = none) (hp : P (.returned none) σ) : VE E M d P pc lv [] σ := ⟨(_, _), hp, V.vret hd hr rfl⟩
theorem VE.aret {o : Option Nat} {rt : FieldType} (hd : decode (mC M) pc = .ok (.areturn, 1)) (hr : mR M = some rt) (hk : fk rt = 2) (hp : P (.returned (some (va_rf o))) σ) : VE E M d P pc lv [va_rf o] σ := ⟨(_, _), hp, V.aret hd hr hk rfl⟩
theorem VE.if_eq {x : Int32} {off : Int} {tgt : Nat} (hd : decode (mC M) pc = .ok (.ifCond .eq off, 3)) (ht : (pc : Int) + off = (tgt : Int)) (h1 : x = 0 → VE E M d P tgt lv st σ) (h2 : ¬ x = 0 → VE E M d P (pc + 3) lv st σ) : VE E M d P pc lv (.int x :: st) σ := by
  by_cases q : x = 0
  · exact VE.step (fun _ h => V.if_eq hd ht (fun _ => h) (fun z => absurd q z)) (h1 q)
  · exact VE.step (fun _ h => V.if_eq hd ht (fun z => absurd z q) (fun _ => h)) (h2 q)
theorem VE.icmp_eq {x y : Int32} {off : Int} {tgt : Nat} (hd : decode (mC M) pc = .ok (.if_icmp .eq off, 3)) (ht : (pc : Int) + off = (tgt : Int)) (h1 : x = y → VE E M d P tgt lv st σ) (h2 : ¬ x = y → VE E M d P (pc + 3) lv st σ) : VE E M d P pc lv (.int y :: .int x :: st) σ := by
  by_cases q : x = y
  · exact VE.step (fun _ h => V.icmp_eq hd ht (fun _ => h) (fun z => absurd q z)) (h1 q)
  · exact VE.step (fun _ h => V.icmp_eq hd ht (fun z => absurd z q) (fun _ => h)) (h2 q)
theorem VE.if_ne {x : Int32} {off : Int} {tgt : Nat} (hd : decode (mC M) pc = .ok (.ifCond .ne off, 3)) (ht : (pc : Int) + off = (tgt : Int)) (h1 : ¬ x = 0 → VE E M d P tgt lv st σ) (h2 : x = 0 → VE E M d P (pc + 3) lv st σ) : VE E M d P pc lv (.int x :: st) σ := by
  by_cases q : x = 0
  · exact VE.step (fun _ h => V.if_ne hd ht (fun z => absurd q z) (fun _ => h)) (h2 q)
  · exact VE.step (fun _ h => V.if_ne hd ht (fun _ => h) (fun z => absurd z q)) (h1 q)
theorem VE.icmp_ne {x y : Int32} {off : Int} {tgt : Nat} (hd : decode (mC M) pc = .ok (.if_icmp .ne off, 3)) (ht : (pc : Int) + off = (tgt : Int)) (h1 : ¬ x = y → VE E M d P tgt lv st σ) (h2 : x = y → VE E M d P (pc + 3) lv st σ) : VE E M d P pc lv (.int y :: .int x :: st) σ := by
  by_cases q : x = y
  · exact VE.step (fun _ h => V.icmp_ne hd ht (fun z => absurd q z) (fun _ => h)) (h2 q)
  · exact VE.step (fun _ h => V.icmp_ne hd ht (fun _ => h) (fun z => absurd z q)) (h1 q)
theorem VE.if_lt {x : Int32} {off : Int} {tgt : Nat} (hd : decode (mC M) pc = .ok (.ifCond .lt off, 3)) (ht : (pc : Int) + off = (tgt : Int)) (h1 : x < 0 → VE E M d P tgt lv st σ) (h2 : ¬ x < 0 → VE E M d P (pc + 3) lv st σ) : VE E M d P pc lv (.int x :: st) σ := by
  by_cases q : x < 0
  · exact VE.step (fun _ h => V.if_lt hd ht (fun _ => h) (fun z => absurd q z)) (h1 q)
  · exact VE.step (fun _ h => V.if_lt hd ht (fun z => absurd z q) (fun _ => h)) (h2 q)
theorem VE.icmp_lt {x y : Int32} {off : Int} {tgt : Nat} (hd : decode (mC M) pc = .ok (.if_icmp .lt off, 3)) (ht : (pc : Int) + off = (tgt : Int)) (h1 : x < y → VE E M d P tgt lv st σ) (h2 : ¬ x < y → VE E M d P (pc + 3) lv st σ) : VE E M d P pc lv (.int y :: .int x :: st) σ := by
  by_cases q : x < y
  · exact VE.step (fun _ h => V.icmp_lt hd ht (fun _ => h) (fun z => absurd q z)) (h1 q)
  · exact VE.step (fun _ h => V.icmp_lt hd ht (fun z => absurd z q) (fun _ => h)) (h2 q)
theorem VE.if_ge {x : Int32} {off : Int} {tgt : Nat} (hd : decode (mC M) pc = .ok (.ifCond .ge off, 3)) (ht : (pc : Int) + off = (tgt : Int)) (h1 : 0 ≤ x → VE E M d P tgt lv st σ) (h2 : ¬ 0 ≤ x → VE E M d P (pc + 3) lv st σ) : VE E M d P pc lv (.int x :: st) σ := by
  by_cases q : 0 ≤ x
  · exact VE.step (fun _ h => V.if_ge hd ht (fun _ => h) (fun z => absurd q z)) (h1 q)
  · exact VE.step (fun _ h => V.if_ge hd ht (fun z => absurd z q) (fun _ => h)) (h2 q)
theorem VE.icmp_ge {x y : Int32} {off : Int} {tgt : Nat} (hd : decode (mC M) pc = .ok (.if_icmp .ge off, 3)) (ht : (pc : Int) + off = (tgt : Int)) (h1 : y ≤ x → VE E M d P tgt lv st σ) (h2 : ¬ y ≤ x → VE E M d P (pc + 3) lv st σ) : VE E M d P pc lv (.int y :: .int x :: st) σ := by
  by_cases q : y ≤ x
  · exact VE.step (fun _ h => V.icmp_ge hd ht (fun _ => h) (fun z => absurd q z)) (h1 q)
  · exact VE.step (fun _ h => V.icmp_ge hd ht (fun z => absurd z q) (fun _ => h)) (h2 q)
theorem VE.if_gt {x : Int32} {off : Int} {tgt : Nat} (hd : decode (mC M) pc = .ok (.ifCond .gt off, 3)) (ht : (pc : Int) + off = (tgt : Int)) (h1 : 0 < x → VE E M d P tgt lv st σ) (h2 : ¬ 0 < x → VE E M d P (pc + 3) lv st σ) : VE E M d P pc lv (.int x :: st) σ := by
  by_cases q : 0 < x
  · exact VE.step (fun _ h => V.if_gt hd ht (fun _ => h) (fun z => absurd q z)) (h1 q)
  · exact VE.step (fun _ h => V.if_gt hd ht (fun z => absurd z q) (fun _ => h)) (h2 q)
theorem VE.icmp_gt {x y : Int32} {off : Int} {tgt : Nat} (hd : decode (mC M) pc = .ok (.if_icmp .gt off, 3)) (ht : (pc : Int) + off = (tgt : Int)) (h1 : y < x → VE E M d P tgt lv st σ) (h2 : ¬ y < x → VE E M d P (pc + 3) lv st σ) : VE E M d P pc lv (.int y :: .int x :: st) σ := by
  by_cases q : y < x
  · exact VE.step (fun _ h => V.icmp_gt hd ht (fun _ => h) (fun z => absurd q z)) (h1 q)
  · exact VE.step (fun _ h => V.icmp_gt hd ht (fun z => absurd z q) (fun _ => h)) (h2 q)
theorem VE.if_le {x : Int32} {off : Int} {tgt : Nat} (hd : decode (mC M) pc = .ok (.ifCond .le off, 3)) (ht : (pc : Int) + off = (tgt : Int)) (h1 : x ≤ 0 → VE E M d P tgt lv st σ) (h2 : ¬ x ≤ 0 → VE E M d P (pc + 3) lv st σ) : VE E M d P pc lv (.int x :: st) σ := by
  by_cases q : x ≤ 0
  · exact VE.step (fun _ h => V.if_le hd ht (fun _ => h) (fun z => absurd q z)) (h1 q)
  · exact VE.step (fun _ h => V.if_le hd ht (fun z => absurd z q) (fun _ => h)) (h2 q)
theorem VE.icmp_le {x y : Int32} {off : Int} {tgt : Nat} (hd : decode (mC M) pc = .ok (.if_icmp .le off, 3)) (ht : (pc : Int) + off = (tgt : Int)) (h1 : x ≤ y → VE E M d P tgt lv st σ) (h2 : ¬ x ≤ y → VE E M d P (pc + 3) lv st σ) : VE E M d P pc lv (.int y :: .int x :: st) σ := by
  by_cases q : x ≤ y
  · exact VE.step (fun _ h => V.icmp_le hd ht (fun _ => h) (fun z => absurd q z)) (h1 q)
  · exact VE.step (fun _ h => V.icmp_le hd ht (fun z => absurd z q) (fun _ => h)) (h2 q)
theorem VE.ifb_ne {b : Bool} {off : Int} {tgt : Nat} (hd : decode (mC M) pc = .ok (.ifCond .ne off, 3)) (ht : (pc : Int) + off = (tgt : Int)) (h1 : b = true → VE E M d P tgt lv st σ) (h2 : b = false → VE E M d P (pc + 3) lv st σ) : VE E M d P pc lv (.int (b2i b) :: st) σ := VE.if_ne hd ht (fun q => h1 (b2i_n0.mp q)) (fun q => h2 (b2i_0.mp q))
theorem VE.ifb_eq {b : Bool} {off : Int} {tgt : Nat} (hd : decode (mC M) pc = .ok (.ifCond .eq off, 3)) (ht : (pc : Int) + off = (tgt : Int)) (h1 : b = false → VE E M d P tgt lv st σ) (h2 : b = true → VE E M d P (pc + 3) lv st σ) : VE E M d P pc lv (.int (b2i b) :: st) σ := VE.if_eq hd ht (fun q => h1 (b2i_0.mp q)) (fun q => h2 (b2i_n0.mp q))
theorem VE.invS0r {r : Value} {Q : Sg → Prop} (hk : SL (mY M).cls index M' 0) (hd : decode (mC M) pc = .ok (.invokestatic index, 3)) (hV : CtE E M' d' [] (PR r Q) σ) (h : ∀ σ' : Sg, Q σ' → VE E M d P (pc + 3) lv (r :: st) σ') (hdd : Nat.blt d' d = true := by rfl) (hlen : Nat.ble (lvF []).length (mL M') = true := by first | rfl | (simp [lvF, va_rf_cat]; done)) (hst : Nat.ble (st.map fun v => v.category).sum 8 = true := by first | rfl | (simp [va_rf_cat]; done)) : VE E M d P pc lv (st) σ := by
  obtain ⟨⟨o, s⟩, ⟨h1, h2⟩, h3⟩ := hV
  dsimp only at h1 h2
  subst h1
  exact VE.step (fun _ z => V.invS0r hk hd h3 z hdd hlen hst) (h s h2)
theorem VE.invS0v {Q : Sg → Prop} (hk : SL (mY M).cls index M' 0) (hd : decode (mC M) pc = .ok (.invokestatic index, 3)) (hV : CtE E M' d' [] (PV Q) σ) (h : ∀ σ' : Sg, Q σ' → VE E M d P (pc + 3) lv (st) σ') (hdd : Nat.blt d' d = true := by rfl) (hlen : Nat.ble (lvF []).length (mL M') = true := by first | rfl | (simp [lvF, va_rf_cat]; done)) (hst : Nat.ble (st.map fun v => v.category).sum 8 = true := by first | rfl | (simp [va_rf_cat]; done)) : VE E M d P pc lv (st) σ := by
  obtain ⟨⟨o, s⟩, ⟨h1, h2⟩, h3⟩ := hV
  dsimp only at h1 h2
  subst h1
  exact VE.step (fun _ z => V.invS0v hk hd h3 z hdd hlen hst) (h s h2)
theorem VE.invS1r {x1 : Value} {r : Value} {Q : Sg → Prop} (hk : SL (mY M).cls index M' 1) (hd : decode (mC M) pc = .ok (.invokestatic index, 3)) (hV : CtE E M' d' [x1] (PR r Q) σ) (h : ∀ σ' : Sg, Q σ' → VE E M d P (pc + 3) lv (r :: st) σ') (hdd : Nat.blt d' d = true := by rfl) (hlen : Nat.ble (lvF [x1]).length (mL M') = true := by first | rfl | (simp [lvF, va_rf_cat]; done)) (hst : Nat.ble (st.map fun v => v.category).sum 8 = true := by first | rfl | (simp [va_rf_cat]; done)) : VE E M d P pc lv (x1 :: st) σ := by
  obtain ⟨⟨o, s⟩, ⟨h1, h2⟩, h3⟩ := hV
  dsimp only at h1 h2
  subst h1
  exact VE.step (fun _ z => V.invS1r hk hd h3 z hdd hlen hst) (h s h2)
theorem VE.invS1v {x1 : Value} {Q : Sg → Prop} (hk : SL (mY M).cls index M' 1) (hd : decode (mC M) pc = .ok (.invokestatic index, 3)) (hV : CtE E M' d' [x1] (PV Q) σ) (h : ∀ σ' : Sg, Q σ' → VE E M d P (pc + 3) lv (st) σ') (hdd : Nat.blt d' d = true := by rfl) (hlen : Nat.ble (lvF [x1]).length (mL M') = true := by first | rfl | (simp [lvF, va_rf_cat]; done)) (hst : Nat.ble (st.map fun v => v.category).sum 8 = true := by first | rfl | (simp [va_rf_cat]; done)) : VE E M d P pc lv (x1 :: st) σ := by
  obtain ⟨⟨o, s⟩, ⟨h1, h2⟩, h3⟩ := hV
  dsimp only at h1 h2
  subst h1
  exact VE.step (fun _ z => V.invS1v hk hd h3 z hdd hlen hst) (h s h2)
theorem VE.invS2r {x1 x2 : Value} {r : Value} {Q : Sg → Prop} (hk : SL (mY M).cls index M' 2) (hd : decode (mC M) pc = .ok (.invokestatic index, 3)) (hV : CtE E M' d' [x1, x2] (PR r Q) σ) (h : ∀ σ' : Sg, Q σ' → VE E M d P (pc + 3) lv (r :: st) σ') (hdd : Nat.blt d' d = true := by rfl) (hlen : Nat.ble (lvF [x1, x2]).length (mL M') = true := by first | rfl | (simp [lvF, va_rf_cat]; done)) (hst : Nat.ble (st.map fun v => v.category).sum 8 = true := by first | rfl | (simp [va_rf_cat]; done)) : VE E M d P pc lv (x2 :: x1 :: st) σ := by
  obtain ⟨⟨o, s⟩, ⟨h1, h2⟩, h3⟩ := hV
  dsimp only at h1 h2
  subst h1
  exact VE.step (fun _ z => V.invS2r hk hd h3 z hdd hlen hst) (h s h2)
theorem VE.invS2v {x1 x2 : Value} {Q : Sg → Prop} (hk : SL (mY M).cls index M' 2) (hd : decode (mC M) pc = .ok (.invokestatic index, 3)) (hV : CtE E M' d' [x1, x2] (PV Q) σ) (h : ∀ σ' : Sg, Q σ' → VE E M d P (pc + 3) lv (st) σ') (hdd : Nat.blt d' d = true := by rfl) (hlen : Nat.ble (lvF [x1, x2]).length (mL M') = true := by first | rfl | (simp [lvF, va_rf_cat]; done)) (hst : Nat.ble (st.map fun v => v.category).sum 8 = true := by first | rfl | (simp [va_rf_cat]; done)) : VE E M d P pc lv (x2 :: x1 :: st) σ := by
  obtain ⟨⟨o, s⟩, ⟨h1, h2⟩, h3⟩ := hV
  dsimp only at h1 h2
  subst h1
  exact VE.step (fun _ z => V.invS2v hk hd h3 z hdd hlen hst) (h s h2)
theorem VE.invS3r {x1 x2 x3 : Value} {r : Value} {Q : Sg → Prop} (hk : SL (mY M).cls index M' 3) (hd : decode (mC M) pc = .ok (.invokestatic index, 3)) (hV : CtE E M' d' [x1, x2, x3] (PR r Q) σ) (h : ∀ σ' : Sg, Q σ' → VE E M d P (pc + 3) lv (r :: st) σ') (hdd : Nat.blt d' d = true := by rfl) (hlen : Nat.ble (lvF [x1, x2, x3]).length (mL M') = true := by first | rfl | (simp [lvF, va_rf_cat]; done)) (hst : Nat.ble (st.map fun v => v.category).sum 8 = true := by first | rfl | (simp [va_rf_cat]; done)) : VE E M d P pc lv (x3 :: x2 :: x1 :: st) σ := by
  obtain ⟨⟨o, s⟩, ⟨h1, h2⟩, h3⟩ := hV
  dsimp only at h1 h2
  subst h1
  exact VE.step (fun _ z => V.invS3r hk hd h3 z hdd hlen hst) (h s h2)
theorem VE.invS3v {x1 x2 x3 : Value} {Q : Sg → Prop} (hk : SL (mY M).cls index M' 3) (hd : decode (mC M) pc = .ok (.invokestatic index, 3)) (hV : CtE E M' d' [x1, x2, x3] (PV Q) σ) (h : ∀ σ' : Sg, Q σ' → VE E M d P (pc + 3) lv (st) σ') (hdd : Nat.blt d' d = true := by rfl) (hlen : Nat.ble (lvF [x1, x2, x3]).length (mL M') = true := by first | rfl | (simp [lvF, va_rf_cat]; done)) (hst : Nat.ble (st.map fun v => v.category).sum 8 = true := by first | rfl | (simp [va_rf_cat]; done)) : VE E M d P pc lv (x3 :: x2 :: x1 :: st) σ := by
  obtain ⟨⟨o, s⟩, ⟨h1, h2⟩, h3⟩ := hV
  dsimp only at h1 h2
  subst h1
  exact VE.step (fun _ z => V.invS3v hk hd h3 z hdd hlen hst) (h s h2)
theorem VE.invS4r {x1 x2 x3 x4 : Value} {r : Value} {Q : Sg → Prop} (hk : SL (mY M).cls index M' 4) (hd : decode (mC M) pc = .ok (.invokestatic index, 3)) (hV : CtE E M' d' [x1, x2, x3, x4] (PR r Q) σ) (h : ∀ σ' : Sg, Q σ' → VE E M d P (pc + 3) lv (r :: st) σ') (hdd : Nat.blt d' d = true := by rfl) (hlen : Nat.ble (lvF [x1, x2, x3, x4]).length (mL M') = true := by first | rfl | (simp [lvF, va_rf_cat]; done)) (hst : Nat.ble (st.map fun v => v.category).sum 8 = true := by first | rfl | (simp [va_rf_cat]; done)) : VE E M d P pc lv (x4 :: x3 :: x2 :: x1 :: st) σ := by
  obtain ⟨⟨o, s⟩, ⟨h1, h2⟩, h3⟩ := hV
  dsimp only at h1 h2
  subst h1
  exact VE.step (fun _ z => V.invS4r hk hd h3 z hdd hlen hst) (h s h2)
theorem VE.invS4v {x1 x2 x3 x4 : Value} {Q : Sg → Prop} (hk : SL (mY M).cls index M' 4) (hd : decode (mC M) pc = .ok (.invokestatic index, 3)) (hV : CtE E M' d' [x1, x2, x3, x4] (PV Q) σ) (h : ∀ σ' : Sg, Q σ' → VE E M d P (pc + 3) lv (st) σ') (hdd : Nat.blt d' d = true := by rfl) (hlen : Nat.ble (lvF [x1, x2, x3, x4]).length (mL M') = true := by first | rfl | (simp [lvF, va_rf_cat]; done)) (hst : Nat.ble (st.map fun v => v.category).sum 8 = true := by first | rfl | (simp [va_rf_cat]; done)) : VE E M d P pc lv (x4 :: x3 :: x2 :: x1 :: st) σ := by
  obtain ⟨⟨o, s⟩, ⟨h1, h2⟩, h3⟩ := hV
  dsimp only at h1 h2
  subst h1
  exact VE.step (fun _ z => V.invS4v hk hd h3 z hdd hlen hst) (h s h2)
theorem VE.invS5r {x1 x2 x3 x4 x5 : Value} {r : Value} {Q : Sg → Prop} (hk : SL (mY M).cls index M' 5) (hd : decode (mC M) pc = .ok (.invokestatic index, 3)) (hV : CtE E M' d' [x1, x2, x3, x4, x5] (PR r Q) σ) (h : ∀ σ' : Sg, Q σ' → VE E M d P (pc + 3) lv (r :: st) σ') (hdd : Nat.blt d' d = true := by rfl) (hlen : Nat.ble (lvF [x1, x2, x3, x4, x5]).length (mL M') = true := by first | rfl | (simp [lvF, va_rf_cat]; done)) (hst : Nat.ble (st.map fun v => v.category).sum 8 = true := by first | rfl | (simp [va_rf_cat]; done)) : VE E M d P pc lv (x5 :: x4 :: x3 :: x2 :: x1 :: st) σ := by
  obtain ⟨⟨o, s⟩, ⟨h1, h2⟩, h3⟩ := hV
  dsimp only at h1 h2
  subst h1
  exact VE.step (fun _ z => V.invS5r hk hd h3 z hdd hlen hst) (h s h2)
theorem VE.invS5v {x1 x2 x3 x4 x5 : Value} {Q : Sg → Prop} (hk : SL (mY M).cls index M' 5) (hd : decode (mC M) pc = .ok (.invokestatic index, 3)) (hV : CtE E M' d' [x1, x2, x3, x4, x5] (PV Q) σ) (h : ∀ σ' : Sg, Q σ' → VE E M d P (pc + 3) lv (st) σ') (hdd : Nat.blt d' d = true := by rfl) (hlen : Nat.ble (lvF [x1, x2, x3, x4, x5]).length (mL M') = true := by first | rfl | (simp [lvF, va_rf_cat]; done)) (hst : Nat.ble (st.map fun v => v.category).sum 8 = true := by first | rfl | (simp [va_rf_cat]; done)) : VE E M d P pc lv (x5 :: x4 :: x3 :: x2 :: x1 :: st) σ := by
  obtain ⟨⟨o, s⟩, ⟨h1, h2⟩, h3⟩ := hV
  dsimp only at h1 h2
  subst h1
  exact VE.step (fun _ z => V.invS5v hk hd h3 z hdd hlen hst) (h s h2)
theorem VE.invSN3r {host : String} {x1 x2 x3 : Value} {r : Value} {Q : Sg → Prop} (hk : SNL (mY M).cls index host M' 3) (hd : decode (mC M) pc = .ok (.invokestatic index, 3)) (hV : CtE E M' d' [x1, x2, x3] (PR r Q) σ) (h : ∀ σ' : Sg, Q σ' → VE E M d P (pc + 3) lv (r :: st) σ') (hdd : Nat.blt d' d = true := by rfl) (hlen : Nat.ble (lvF [x1, x2, x3]).length (mL M') = true := by first | rfl | (simp [lvF, va_rf_cat]; done)) (hst : Nat.ble (st.map fun v => v.category).sum 8 = true := by first | rfl | (simp [va_rf_cat]; done)) : VE E M d P pc lv (x3 :: x2 :: x1 :: st) σ := by
  obtain ⟨⟨o, s⟩, ⟨h1, h2⟩, h3⟩ := hV
  dsimp only at h1 h2
  subst h1
  exact VE.step (fun _ z => V.invSN3r hk hd h3 z hdd hlen hst) (h s h2)
theorem VE.invSN3v {host : String} {x1 x2 x3 : Value} {Q : Sg → Prop} (hk : SNL (mY M).cls index host M' 3) (hd : decode (mC M) pc = .ok (.invokestatic index, 3)) (hV : CtE E M' d' [x1, x2, x3] (PV Q) σ) (h : ∀ σ' : Sg, Q σ' → VE E M d P (pc + 3) lv (st) σ') (hdd : Nat.blt d' d = true := by rfl) (hlen : Nat.ble (lvF [x1, x2, x3]).length (mL M') = true := by first | rfl | (simp [lvF, va_rf_cat]; done)) (hst : Nat.ble (st.map fun v => v.category).sum 8 = true := by first | rfl | (simp [va_rf_cat]; done)) : VE E M d P pc lv (x3 :: x2 :: x1 :: st) σ := by
  obtain ⟨⟨o, s⟩, ⟨h1, h2⟩, h3⟩ := hV
  dsimp only at h1 h2
  subst h1
  exact VE.step (fun _ z => V.invSN3v hk hd h3 z hdd hlen hst) (h s h2)
theorem VE.invV0r {c : Nat} {a : Nat} {r : Value} {Q : Sg → Prop} (hk : VL (mY M).cls index c M' 0) (ht : (sT σ a).1 = c + 1) (hd : decode (mC M) pc = .ok (.invokevirtual index, 3)) (hV : CtE E M' d' [.ref a] (PR r Q) σ) (h : ∀ σ' : Sg, Q σ' → VE E M d P (pc + 3) lv (r :: st) σ') (hdd : Nat.blt d' d = true := by rfl) (hlen : Nat.ble (lvF [.ref a]).length (mL M') = true := by first | rfl | (simp [lvF, va_rf_cat]; done)) (hst : Nat.ble (st.map fun v => v.category).sum 8 = true := by first | rfl | (simp [va_rf_cat]; done)) : VE E M d P pc lv (.ref a :: st) σ := by
  obtain ⟨⟨o, s⟩, ⟨h1, h2⟩, h3⟩ := hV
  dsimp only at h1 h2
  subst h1
  exact VE.step (fun _ z => V.invV0r hk ht hd h3 z hdd hlen hst) (h s h2)
theorem VE.invV0v {c : Nat} {a : Nat} {Q : Sg → Prop} (hk : VL (mY M).cls index c M' 0) (ht : (sT σ a).1 = c + 1) (hd : decode (mC M) pc = .ok (.invokevirtual index, 3)) (hV : CtE E M' d' [.ref a] (PV Q) σ) (h : ∀ σ' : Sg, Q σ' → VE E M d P (pc + 3) lv (st) σ') (hdd : Nat.blt d' d = true := by rfl) (hlen : Nat.ble (lvF [.ref a]).length (mL M') = true := by first | rfl | (simp [lvF, va_rf_cat]; done)) (hst : Nat.ble (st.map fun v => v.category).sum 8 = true := by first | rfl | (simp [va_rf_cat]; done)) : VE E M d P pc lv (.ref a :: st) σ := by
  obtain ⟨⟨o, s⟩, ⟨h1, h2⟩, h3⟩ := hV
  dsimp only at h1 h2
  subst h1
  exact VE.step (fun _ z => V.invV0v hk ht hd h3 z hdd hlen hst) (h s h2)
theorem VE.invV1r {c : Nat} {a : Nat} {x1 : Value} {r : Value} {Q : Sg → Prop} (hk : VL (mY M).cls index c M' 1) (ht : (sT σ a).1 = c + 1) (hd : decode (mC M) pc = .ok (.invokevirtual index, 3)) (hV : CtE E M' d' [.ref a, x1] (PR r Q) σ) (h : ∀ σ' : Sg, Q σ' → VE E M d P (pc + 3) lv (r :: st) σ') (hdd : Nat.blt d' d = true := by rfl) (hlen : Nat.ble (lvF [.ref a, x1]).length (mL M') = true := by first | rfl | (simp [lvF, va_rf_cat]; done)) (hst : Nat.ble (st.map fun v => v.category).sum 8 = true := by first | rfl | (simp [va_rf_cat]; done)) : VE E M d P pc lv (x1 :: .ref a :: st) σ := by
  obtain ⟨⟨o, s⟩, ⟨h1, h2⟩, h3⟩ := hV
  dsimp only at h1 h2
  subst h1
  exact VE.step (fun _ z => V.invV1r hk ht hd h3 z hdd hlen hst) (h s h2)
theorem VE.invV1v {c : Nat} {a : Nat} {x1 : Value} {Q : Sg → Prop} (hk : VL (mY M).cls index c M' 1) (ht : (sT σ a).1 = c + 1) (hd : decode (mC M) pc = .ok (.invokevirtual index, 3)) (hV : CtE E M' d' [.ref a, x1] (PV Q) σ) (h : ∀ σ' : Sg, Q σ' → VE E M d P (pc + 3) lv (st) σ') (hdd : Nat.blt d' d = true := by rfl) (hlen : Nat.ble (lvF [.ref a, x1]).length (mL M') = true := by first | rfl | (simp [lvF, va_rf_cat]; done)) (hst : Nat.ble (st.map fun v => v.category).sum 8 = true := by first | rfl | (simp [va_rf_cat]; done)) : VE E M d P pc lv (x1 :: .ref a :: st) σ := by
  obtain ⟨⟨o, s⟩, ⟨h1, h2⟩, h3⟩ := hV
  dsimp only at h1 h2
  subst h1
  exact VE.step (fun _ z => V.invV1v hk ht hd h3 z hdd hlen hst) (h s h2)
theorem VE.invV2r {c : Nat} {a : Nat} {x1 x2 : Value} {r : Value} {Q : Sg → Prop} (hk : VL (mY M).cls index c M' 2) (ht : (sT σ a).1 = c + 1) (hd : decode (mC M) pc = .ok (.invokevirtual index, 3)) (hV : CtE E M' d' [.ref a, x1, x2] (PR r Q) σ) (h : ∀ σ' : Sg, Q σ' → VE E M d P (pc + 3) lv (r :: st) σ') (hdd : Nat.blt d' d = true := by rfl) (hlen : Nat.ble (lvF [.ref a, x1, x2]).length (mL M') = true := by first | rfl | (simp [lvF, va_rf_cat]; done)) (hst : Nat.ble (st.map fun v => v.category).sum 8 = true := by first | rfl | (simp [va_rf_cat]; done)) : VE E M d P pc lv (x2 :: x1 :: .ref a :: st) σ := by
  obtain ⟨⟨o, s⟩, ⟨h1, h2⟩, h3⟩ := hV
  dsimp only at h1 h2
  subst h1
  exact VE.step (fun _ z => V.invV2r hk ht hd h3 z hdd hlen hst) (h s h2)
theorem VE.invV2v {c : Nat} {a : Nat} {x1 x2 : Value} {Q : Sg → Prop} (hk : VL (mY M).cls index c M' 2) (ht : (sT σ a).1 = c + 1) (hd : decode (mC M) pc = .ok (.invokevirtual index, 3)) (hV : CtE E M' d' [.ref a, x1, x2] (PV Q) σ) (h : ∀ σ' : Sg, Q σ' → VE E M d P (pc + 3) lv (st) σ') (hdd : Nat.blt d' d = true := by rfl) (hlen : Nat.ble (lvF [.ref a, x1, x2]).length (mL M') = true := by first | rfl | (simp [lvF, va_rf_cat]; done)) (hst : Nat.ble (st.map fun v => v.category).sum 8 = true := by first | rfl | (simp [va_rf_cat]; done)) : VE E M d P pc lv (x2 :: x1 :: .ref a :: st) σ := by
  obtain ⟨⟨o, s⟩, ⟨h1, h2⟩, h3⟩ := hV
  dsimp only at h1 h2
  subst h1
  exact VE.step (fun _ z => V.invV2v hk ht hd h3 z hdd hlen hst) (h s h2)
theorem VE.invV3r {c : Nat} {a : Nat} {x1 x2 x3 : Value} {r : Value} {Q : Sg → Prop} (hk : VL (mY M).cls index c M' 3) (ht : (sT σ a).1 = c + 1) (hd : decode (mC M) pc = .ok (.invokevirtual index, 3)) (hV : CtE E M' d' [.ref a, x1, x2, x3] (PR r Q) σ) (h : ∀ σ' : Sg, Q σ' → VE E M d P (pc + 3) lv (r :: st) σ') (hdd : Nat.blt d' d = true := by rfl) (hlen : Nat.ble (lvF [.ref a, x1, x2, x3]).length (mL M') = true := by first | rfl | (simp [lvF, va_rf_cat]; done)) (hst : Nat.ble (st.map fun v => v.category).sum 8 = true := by first | rfl | (simp [va_rf_cat]; done)) : VE E M d P pc lv (x3 :: x2 :: x1 :: .ref a :: st) σ := by
  obtain ⟨⟨o, s⟩, ⟨h1, h2⟩, h3⟩ := hV
  dsimp only at h1 h2
  subst h1
  exact VE.step (fun _ z => V.invV3r hk ht hd h3 z hdd hlen hst) (h s h2)
theorem VE.invV3v {c : Nat} {a : Nat} {x1 x2 x3 : Value} {Q : Sg → Prop} (hk : VL (mY M).cls index c M' 3) (ht : (sT σ a).1 = c + 1) (hd : decode (mC M) pc = .ok (.invokevirtual index, 3)) (hV : CtE E M' d' [.ref a, x1, x2, x3] (PV Q) σ) (h : ∀ σ' : Sg, Q σ' → VE E M d P (pc + 3) lv (st) σ') (hdd : Nat.blt d' d = true := by rfl) (hlen : Nat.ble (lvF [.ref a, x1, x2, x3]).length (mL M') = true := by first | rfl | (simp [lvF, va_rf_cat]; done)) (hst : Nat.ble (st.map fun v => v.category).sum 8 = true := by first | rfl | (simp [va_rf_cat]; done)) : VE E M d P pc lv (x3 :: x2 :: x1 :: .ref a :: st) σ := by
  obtain ⟨⟨o, s⟩, ⟨h1, h2⟩, h3⟩ := hV
  dsimp only at h1 h2
  subst h1
  exact VE.step (fun _ z => V.invV3v hk ht hd h3 z hdd hlen hst) (h s h2)
theorem VE.invV4r {c : Nat} {a : Nat} {x1 x2 x3 x4 : Value} {r : Value} {Q : Sg → Prop} (hk : VL (mY M).cls index c M' 4) (ht : (sT σ a).1 = c + 1) (hd : decode (mC M) pc = .ok (.invokevirtual index, 3)) (hV : CtE E M' d' [.ref a, x1, x2, x3, x4] (PR r Q) σ) (h : ∀ σ' : Sg, Q σ' → VE E M d P (pc + 3) lv (r :: st) σ') (hdd : Nat.blt d' d = true := by rfl) (hlen : Nat.ble (lvF [.ref a, x1, x2, x3, x4]).length (mL M') = true := by first | rfl | (simp [lvF, va_rf_cat]; done)) (hst : Nat.ble (st.map fun v => v.category).sum 8 = true := by first | rfl | (simp [va_rf_cat]; done)) : VE E M d P pc lv (x4 :: x3 :: x2 :: x1 :: .ref a :: st) σ := by
  obtain ⟨⟨o, s⟩, ⟨h1, h2⟩, h3⟩ := hV
  dsimp only at h1 h2
  subst h1
  exact VE.step (fun _ z => V.invV4r hk ht hd h3 z hdd hlen hst) (h s h2)
theorem VE.invV4v {c : Nat} {a : Nat} {x1 x2 x3 x4 : Value} {Q : Sg → Prop} (hk : VL (mY M).cls index c M' 4) (ht : (sT σ a).1 = c + 1) (hd : decode (mC M) pc = .ok (.invokevirtual index, 3)) (hV : CtE E M' d' [.ref a, x1, x2, x3, x4] (PV Q) σ) (h : ∀ σ' : Sg, Q σ' → VE E M d P (pc + 3) lv (st) σ') (hdd : Nat.blt d' d = true := by rfl) (hlen : Nat.ble (lvF [.ref a, x1, x2, x3, x4]).length (mL M') = true := by first | rfl | (simp [lvF, va_rf_cat]; done)) (hst : Nat.ble (st.map fun v => v.category).sum 8 = true := by first | rfl | (simp [va_rf_cat]; done)) : VE E M d P pc lv (x4 :: x3 :: x2 :: x1 :: .ref a :: st) σ := by
  obtain ⟨⟨o, s⟩, ⟨h1, h2⟩, h3⟩ := hV
  dsimp only at h1 h2
  subst h1
  exact VE.step (fun _ z => V.invV4v hk ht hd h3 z hdd hlen hst) (h s h2)
theorem VE.invV5r {c : Nat} {a : Nat} {x1 x2 x3 x4 x5 : Value} {r : Value} {Q : Sg → Prop} (hk : VL (mY M).cls index c M' 5) (ht : (sT σ a).1 = c + 1) (hd : decode (mC M) pc = .ok (.invokevirtual index, 3)) (hV : CtE E M' d' [.ref a, x1, x2, x3, x4, x5] (PR r Q) σ) (h : ∀ σ' : Sg, Q σ' → VE E M d P (pc + 3) lv (r :: st) σ') (hdd : Nat.blt d' d = true := by rfl) (hlen : Nat.ble (lvF [.ref a, x1, x2, x3, x4, x5]).length (mL M') = true := by first | rfl | (simp [lvF, va_rf_cat]; done)) (hst : Nat.ble (st.map fun v => v.category).sum 8 = true := by first | rfl | (simp [va_rf_cat]; done)) : VE E M d P pc lv (x5 :: x4 :: x3 :: x2 :: x1 :: .ref a :: st) σ := by
  obtain ⟨⟨o, s⟩, ⟨h1, h2⟩, h3⟩ := hV
  dsimp only at h1 h2
  subst h1
  exact VE.step (fun _ z => V.invV5r hk ht hd h3 z hdd hlen hst) (h s h2)
theorem VE.invV5v {c : Nat} {a : Nat} {x1 x2 x3 x4 x5 : Value} {Q : Sg → Prop} (hk : VL (mY M).cls index c M' 5) (ht : (sT σ a).1 = c + 1) (hd : decode (mC M) pc = .ok (.invokevirtual index, 3)) (hV : CtE E M' d' [.ref a, x1, x2, x3, x4, x5] (PV Q) σ) (h : ∀ σ' : Sg, Q σ' → VE E M d P (pc + 3) lv (st) σ') (hdd : Nat.blt d' d = true := by rfl) (hlen : Nat.ble (lvF [.ref a, x1, x2, x3, x4, x5]).length (mL M') = true := by first | rfl | (simp [lvF, va_rf_cat]; done)) (hst : Nat.ble (st.map fun v => v.category).sum 8 = true := by first | rfl | (simp [va_rf_cat]; done)) : VE E M d P pc lv (x5 :: x4 :: x3 :: x2 :: x1 :: .ref a :: st) σ := by
  obtain ⟨⟨o, s⟩, ⟨h1, h2⟩, h3⟩ := hV
  dsimp only at h1 h2
  subst h1
  exact VE.step (fun _ z => V.invV5v hk ht hd h3 z hdd hlen hst) (h s h2)
theorem VE.invV6r {c : Nat} {a : Nat} {x1 x2 x3 x4 x5 x6 : Value} {r : Value} {Q : Sg → Prop} (hk : VL (mY M).cls index c M' 6) (ht : (sT σ a).1 = c + 1) (hd : decode (mC M) pc = .ok (.invokevirtual index, 3)) (hV : CtE E M' d' [.ref a, x1, x2, x3, x4, x5, x6] (PR r Q) σ) (h : ∀ σ' : Sg, Q σ' → VE E M d P (pc + 3) lv (r :: st) σ') (hdd : Nat.blt d' d = true := by rfl) (hlen : Nat.ble (lvF [.ref a, x1, x2, x3, x4, x5, x6]).length (mL M') = true := by first | rfl | (simp [lvF, va_rf_cat]; done)) (hst : Nat.ble (st.map fun v => v.category).sum 8 = true := by first | rfl | (simp [va_rf_cat]; done)) : VE E M d P pc lv (x6 :: x5 :: x4 :: x3 :: x2 :: x1 :: .ref a :: st) σ := by
  obtain ⟨⟨o, s⟩, ⟨h1, h2⟩, h3⟩ := hV
  dsimp only at h1 h2
  subst h1
  exact VE.step (fun _ z => V.invV6r hk ht hd h3 z hdd hlen hst) (h s h2)
theorem VE.invV6v {c : Nat} {a : Nat} {x1 x2 x3 x4 x5 x6 : Value} {Q : Sg → Prop} (hk : VL (mY M).cls index c M' 6) (ht : (sT σ a).1 = c + 1) (hd : decode (mC M) pc = .ok (.invokevirtual index, 3)) (hV : CtE E M' d' [.ref a, x1, x2, x3, x4, x5, x6] (PV Q) σ) (h : ∀ σ' : Sg, Q σ' → VE E M d P (pc + 3) lv (st) σ') (hdd : Nat.blt d' d = true := by rfl) (hlen : Nat.ble (lvF [.ref a, x1, x2, x3, x4, x5, x6]).length (mL M') = true := by first | rfl | (simp [lvF, va_rf_cat]; done)) (hst : Nat.ble (st.map fun v => v.category).sum 8 = true := by first | rfl | (simp [va_rf_cat]; done)) : VE E M d P pc lv (x6 :: x5 :: x4 :: x3 :: x2 :: x1 :: .ref a :: st) σ := by
  obtain ⟨⟨o, s⟩, ⟨h1, h2⟩, h3⟩ := hV
  dsimp only at h1 h2
  subst h1
  exact VE.step (fun _ z => V.invV6v hk ht hd h3 z hdd hlen hst) (h s h2)
theorem VE.invV7r {c : Nat} {a : Nat} {x1 x2 x3 x4 x5 x6 x7 : Value} {r : Value} {Q : Sg → Prop} (hk : VL (mY M).cls index c M' 7) (ht : (sT σ a).1 = c + 1) (hd : decode (mC M) pc = .ok (.invokevirtual index, 3)) (hV : CtE E M' d' [.ref a, x1, x2, x3, x4, x5, x6, x7] (PR r Q) σ) (h : ∀ σ' : Sg, Q σ' → VE E M d P (pc + 3) lv (r :: st) σ') (hdd : Nat.blt d' d = true := by rfl) (hlen : Nat.ble (lvF [.ref a, x1, x2, x3, x4, x5, x6, x7]).length (mL M') = true := by first | rfl | (simp [lvF, va_rf_cat]; done)) (hst : Nat.ble (st.map fun v => v.category).sum 8 = true := by first | rfl | (simp [va_rf_cat]; done)) : VE E M d P pc lv (x7 :: x6 :: x5 :: x4 :: x3 :: x2 :: x1 :: .ref a :: st) σ := by
  obtain ⟨⟨o, s⟩, ⟨h1, h2⟩, h3⟩ := hV
  dsimp only at h1 h2
  subst h1
  exact VE.step (fun _ z => V.invV7r hk ht hd h3 z hdd hlen hst) (h s h2)
theorem VE.invV7v {c : Nat} {a : Nat} {x1 x2 x3 x4 x5 x6 x7 : Value} {Q : Sg → Prop} (hk : VL (mY M).cls index c M' 7) (ht : (sT σ a).1 = c + 1) (hd : decode (mC M) pc = .ok (.invokevirtual index, 3)) (hV : CtE E M' d' [.ref a, x1, x2, x3, x4, x5, x6, x7] (PV Q) σ) (h : ∀ σ' : Sg, Q σ' → VE E M d P (pc + 3) lv (st) σ') (hdd : Nat.blt d' d = true := by rfl) (hlen : Nat.ble (lvF [.ref a, x1, x2, x3, x4, x5, x6, x7]).length (mL M') = true := by first | rfl | (simp [lvF, va_rf_cat]; done)) (hst : Nat.ble (st.map fun v => v.category).sum 8 = true := by first | rfl | (simp [va_rf_cat]; done)) : VE E M d P pc lv (x7 :: x6 :: x5 :: x4 :: x3 :: x2 :: x1 :: .ref a :: st) σ := by
  obtain ⟨⟨o, s⟩, ⟨h1, h2⟩, h3⟩ := hV
  dsimp only at h1 h2
  subst h1
  exact VE.step (fun _ z => V.invV7v hk ht hd h3 z hdd hlen hst) (h s h2)
theorem VE.invV8r {c : Nat} {a : Nat} {x1 x2 x3 x4 x5 x6 x7 x8 : Value} {r : Value} {Q : Sg → Prop} (hk : VL (mY M).cls index c M' 8) (ht : (sT σ a).1 = c + 1) (hd : decode (mC M) pc = .ok (.invokevirtual index, 3)) (hV : CtE E M' d' [.ref a, x1, x2, x3, x4, x5, x6, x7, x8] (PR r Q) σ) (h : ∀ σ' : Sg, Q σ' → VE E M d P (pc + 3) lv (r :: st) σ') (hdd : Nat.blt d' d = true := by rfl) (hlen : Nat.ble (lvF [.ref a, x1, x2, x3, x4, x5, x6, x7, x8]).length (mL M') = true := by first | rfl | (simp [lvF, va_rf_cat]; done)) (hst : Nat.ble (st.map fun v => v.category).sum 8 = true := by first | rfl | (simp [va_rf_cat]; done)) : VE E M d P pc lv (x8 :: x7 :: x6 :: x5 :: x4 :: x3 :: x2 :: x1 :: .ref a :: st) σ := by
  obtain ⟨⟨o, s⟩, ⟨h1, h2⟩, h3⟩ := hV
  dsimp only at h1 h2
  subst h1
  exact VE.step (fun _ z => V.invV8r hk ht hd h3 z hdd hlen hst) (h s h2)
theorem VE.invV8v {c : Nat} {a : Nat} {x1 x2 x3 x4 x5 x6 x7 x8 : Value} {Q : Sg → Prop} (hk : VL (mY M).cls index c M' 8) (ht : (sT σ a).1 = c + 1) (hd : decode (mC M) pc = .ok (.invokevirtual index, 3)) (hV : CtE E M' d' [.ref a, x1, x2, x3, x4, x5, x6, x7, x8] (PV Q) σ) (h : ∀ σ' : Sg, Q σ' → VE E M d P (pc + 3) lv (st) σ') (hdd : Nat.blt d' d = true := by rfl) (hlen : Nat.ble (lvF [.ref a, x1, x2, x3, x4, x5, x6, x7, x8]).length (mL M') = true := by first | rfl | (simp [lvF, va_rf_cat]; done)) (hst : Nat.ble (st.map fun v => v.category).sum 8 = true := by first | rfl | (simp [va_rf_cat]; done)) : VE E M d P pc lv (x8 :: x7 :: x6 :: x5 :: x4 :: x3 :: x2 :: x1 :: .ref a :: st) σ := by
  obtain ⟨⟨o, s⟩, ⟨h1, h2⟩, h3⟩ := hV
  dsimp only at h1 h2
  subst h1
  exact VE.step (fun _ z => V.invV8v hk ht hd h3 z hdd hlen hst) (h s h2)
theorem VE.invI0v {a : Nat} {Q : Sg → Prop} (hk : IL (mY M).cls index M' 0) (hd : decode (mC M) pc = .ok (.invokespecial index, 3)) (hV : CtE E M' d' [.ref a] (PV Q) σ) (h : ∀ σ' : Sg, Q σ' → VE E M d P (pc + 3) lv (st) σ') (hdd : Nat.blt d' d = true := by rfl) (hlen : Nat.ble (lvF [.ref a]).length (mL M') = true := by first | rfl | (simp [lvF, va_rf_cat]; done)) (hst : Nat.ble (st.map fun v => v.category).sum 8 = true := by first | rfl | (simp [va_rf_cat]; done)) : VE E M d P pc lv (.ref a :: st) σ := by
  obtain ⟨⟨o, s⟩, ⟨h1, h2⟩, h3⟩ := hV
  dsimp only at h1 h2
  subst h1
  exact VE.step (fun _ z => V.invI0v hk hd h3 z hdd hlen hst) (h s h2)
theorem VE.invI1v {a : Nat} {x1 : Value} {Q : Sg → Prop} (hk : IL (mY M).cls index M' 1) (hd : decode (mC M) pc = .ok (.invokespecial index, 3)) (hV : CtE E M' d' [.ref a, x1] (PV Q) σ) (h : ∀ σ' : Sg, Q σ' → VE E M d P (pc + 3) lv (st) σ') (hdd : Nat.blt d' d = true := by rfl) (hlen : Nat.ble (lvF [.ref a, x1]).length (mL M') = true := by first | rfl | (simp [lvF, va_rf_cat]; done)) (hst : Nat.ble (st.map fun v => v.category).sum 8 = true := by first | rfl | (simp [va_rf_cat]; done)) : VE E M d P pc lv (x1 :: .ref a :: st) σ := by
  obtain ⟨⟨o, s⟩, ⟨h1, h2⟩, h3⟩ := hV
  dsimp only at h1 h2
  subst h1
  exact VE.step (fun _ z => V.invI1v hk hd h3 z hdd hlen hst) (h s h2)
theorem VE.invI2v {a : Nat} {x1 x2 : Value} {Q : Sg → Prop} (hk : IL (mY M).cls index M' 2) (hd : decode (mC M) pc = .ok (.invokespecial index, 3)) (hV : CtE E M' d' [.ref a, x1, x2] (PV Q) σ) (h : ∀ σ' : Sg, Q σ' → VE E M d P (pc + 3) lv (st) σ') (hdd : Nat.blt d' d = true := by rfl) (hlen : Nat.ble (lvF [.ref a, x1, x2]).length (mL M') = true := by first | rfl | (simp [lvF, va_rf_cat]; done)) (hst : Nat.ble (st.map fun v => v.category).sum 8 = true := by first | rfl | (simp [va_rf_cat]; done)) : VE E M d P pc lv (x2 :: x1 :: .ref a :: st) σ := by
  obtain ⟨⟨o, s⟩, ⟨h1, h2⟩, h3⟩ := hV
  dsimp only at h1 h2
  subst h1
  exact VE.step (fun _ z => V.invI2v hk hd h3 z hdd hlen hst) (h s h2)
theorem VE.invI3v {a : Nat} {x1 x2 x3 : Value} {Q : Sg → Prop} (hk : IL (mY M).cls index M' 3) (hd : decode (mC M) pc = .ok (.invokespecial index, 3)) (hV : CtE E M' d' [.ref a, x1, x2, x3] (PV Q) σ) (h : ∀ σ' : Sg, Q σ' → VE E M d P (pc + 3) lv (st) σ') (hdd : Nat.blt d' d = true := by rfl) (hlen : Nat.ble (lvF [.ref a, x1, x2, x3]).length (mL M') = true := by first | rfl | (simp [lvF, va_rf_cat]; done)) (hst : Nat.ble (st.map fun v => v.category).sum 8 = true := by first | rfl | (simp [va_rf_cat]; done)) : VE E M d P pc lv (x3 :: x2 :: x1 :: .ref a :: st) σ := by
  obtain ⟨⟨o, s⟩, ⟨h1, h2⟩, h3⟩ := hV
  dsimp only at h1 h2
  subst h1
  exact VE.step (fun _ z => V.invI3v hk hd h3 z hdd hlen hst) (h s h2)
theorem VE.invI4v {a : Nat} {x1 x2 x3 x4 : Value} {Q : Sg → Prop} (hk : IL (mY M).cls index M' 4) (hd : decode (mC M) pc = .ok (.invokespecial index, 3)) (hV : CtE E M' d' [.ref a, x1, x2, x3, x4] (PV Q) σ) (h : ∀ σ' : Sg, Q σ' → VE E M d P (pc + 3) lv (st) σ') (hdd : Nat.blt d' d = true := by rfl) (hlen : Nat.ble (lvF [.ref a, x1, x2, x3, x4]).length (mL M') = true := by first | rfl | (simp [lvF, va_rf_cat]; done)) (hst : Nat.ble (st.map fun v => v.category).sum 8 = true := by first | rfl | (simp [va_rf_cat]; done)) : VE E M d P pc lv (x4 :: x3 :: x2 :: x1 :: .ref a :: st) σ := by
  obtain ⟨⟨o, s⟩, ⟨h1, h2⟩, h3⟩ := hV
  dsimp only at h1 h2
  subst h1
  exact VE.step (fun _ z => V.invI4v hk hd h3 z hdd hlen hst) (h s h2)
theorem VE.invI5v {a : Nat} {x1 x2 x3 x4 x5 : Value} {Q : Sg → Prop} (hk : IL (mY M).cls index M' 5) (hd : decode (mC M) pc = .ok (.invokespecial index, 3)) (hV : CtE E M' d' [.ref a, x1, x2, x3, x4, x5] (PV Q) σ) (h : ∀ σ' : Sg, Q σ' → VE E M d P (pc + 3) lv (st) σ') (hdd : Nat.blt d' d = true := by rfl) (hlen : Nat.ble (lvF [.ref a, x1, x2, x3, x4, x5]).length (mL M') = true := by first | rfl | (simp [lvF, va_rf_cat]; done)) (hst : Nat.ble (st.map fun v => v.category).sum 8 = true := by first | rfl | (simp [va_rf_cat]; done)) : VE E M d P pc lv (x5 :: x4 :: x3 :: x2 :: x1 :: .ref a :: st) σ := by
  obtain ⟨⟨o, s⟩, ⟨h1, h2⟩, h3⟩ := hV
  dsimp only at h1 h2
  subst h1
  exact VE.step (fun _ z => V.invI5v hk hd h3 z hdd hlen hst) (h s h2)
theorem VE.invIN0v {host : String} {a : Nat} {Q : Sg → Prop} (hk : INL (mY M).cls index host M' 0) (hd : decode (mC M) pc = .ok (.invokespecial index, 3)) (hV : CtE E M' d' [.ref a] (PV Q) σ) (h : ∀ σ' : Sg, Q σ' → VE E M d P (pc + 3) lv (st) σ') (hdd : Nat.blt d' d = true := by rfl) (hlen : Nat.ble (lvF [.ref a]).length (mL M') = true := by first | rfl | (simp [lvF, va_rf_cat]; done)) (hst : Nat.ble (st.map fun v => v.category).sum 8 = true := by first | rfl | (simp [va_rf_cat]; done)) : VE E M d P pc lv (.ref a :: st) σ := by
  obtain ⟨⟨o, s⟩, ⟨h1, h2⟩, h3⟩ := hV
  dsimp only at h1 h2
  subst h1
  exact VE.step (fun _ z => V.invIN0v hk hd h3 z hdd hlen hst) (h s h2)
theorem VE.invU0r {c : Nat} {q : vw_C} {a : Nat} {r : Value} {Q : Sg → Prop} (hk : UL (mY M).cls index M' 0) (ht : (sT σ a).1 = c + 1) (hc : c < 100) (hq : cls[c]? = some q) (hd : decode (mC M) pc = .ok (.invokespecial index, 3)) (hV : CtE E M' d' [.ref a] (PR r Q) σ) (h : ∀ σ' : Sg, Q σ' → VE E M d P (pc + 3) lv (r :: st) σ') (hdd : Nat.blt d' d = true := by rfl) (hlen : Nat.ble (lvF [.ref a]).length (mL M') = true := by first | rfl | (simp [lvF, va_rf_cat]; done)) (hst : Nat.ble (st.map fun v => v.category).sum 8 = true := by first | rfl | (simp [va_rf_cat]; done)) : VE E M d P pc lv (.ref a :: st) σ := by
  obtain ⟨⟨o, s⟩, ⟨h1, h2⟩, h3⟩ := hV
  dsimp only at h1 h2
  subst h1
  exact VE.step (fun _ z => V.invU0r hk ht hc hq hd h3 z hdd hlen hst) (h s h2)
theorem VE.invU0v {c : Nat} {q : vw_C} {a : Nat} {Q : Sg → Prop} (hk : UL (mY M).cls index M' 0) (ht : (sT σ a).1 = c + 1) (hc : c < 100) (hq : cls[c]? = some q) (hd : decode (mC M) pc = .ok (.invokespecial index, 3)) (hV : CtE E M' d' [.ref a] (PV Q) σ) (h : ∀ σ' : Sg, Q σ' → VE E M d P (pc + 3) lv (st) σ') (hdd : Nat.blt d' d = true := by rfl) (hlen : Nat.ble (lvF [.ref a]).length (mL M') = true := by first | rfl | (simp [lvF, va_rf_cat]; done)) (hst : Nat.ble (st.map fun v => v.category).sum 8 = true := by first | rfl | (simp [va_rf_cat]; done)) : VE E M d P pc lv (.ref a :: st) σ := by
  obtain ⟨⟨o, s⟩, ⟨h1, h2⟩, h3⟩ := hV
  dsimp only at h1 h2
  subst h1
  exact VE.step (fun _ z => V.invU0v hk ht hc hq hd h3 z hdd hlen hst) (h s h2)
theorem VE.invU1r {c : Nat} {q : vw_C} {a : Nat} {x1 : Value} {r : Value} {Q : Sg → Prop} (hk : UL (mY M).cls index M' 1) (ht : (sT σ a).1 = c + 1) (hc : c < 100) (hq : cls[c]? = some q) (hd : decode (mC M) pc = .ok (.invokespecial index, 3)) (hV : CtE E M' d' [.ref a, x1] (PR r Q) σ) (h : ∀ σ' : Sg, Q σ' → VE E M d P (pc + 3) lv (r :: st) σ') (hdd : Nat.blt d' d = true := by rfl) (hlen : Nat.ble (lvF [.ref a, x1]).length (mL M') = true := by first | rfl | (simp [lvF, va_rf_cat]; done)) (hst : Nat.ble (st.map fun v => v.category).sum 8 = true := by first | rfl | (simp [va_rf_cat]; done)) : VE E M d P pc lv (x1 :: .ref a :: st) σ := by
  obtain ⟨⟨o, s⟩, ⟨h1, h2⟩, h3⟩ := hV
  dsimp only at h1 h2
  subst h1
  exact VE.step (fun _ z => V.invU1r hk ht hc hq hd h3 z hdd hlen hst) (h s h2)
theorem VE.invU1v {c : Nat} {q : vw_C} {a : Nat} {x1 : Value} {Q : Sg → Prop} (hk : UL (mY M).cls index M' 1) (ht : (sT σ a).1 = c + 1) (hc : c < 100) (hq : cls[c]? = some q) (hd : decode (mC M) pc = .ok (.invokespecial index, 3)) (hV : CtE E M' d' [.ref a, x1] (PV Q) σ) (h : ∀ σ' : Sg, Q σ' → VE E M d P (pc + 3) lv (st) σ') (hdd : Nat.blt d' d = true := by rfl) (hlen : Nat.ble (lvF [.ref a, x1]).length (mL M') = true := by first | rfl | (simp [lvF, va_rf_cat]; done)) (hst : Nat.ble (st.map fun v => v.category).sum 8 = true := by first | rfl | (simp [va_rf_cat]; done)) : VE E M d P pc lv (x1 :: .ref a :: st) σ := by
  obtain ⟨⟨o, s⟩, ⟨h1, h2⟩, h3⟩ := hV
  dsimp only at h1 h2
  subst h1
  exact VE.step (fun _ z => V.invU1v hk ht hc hq hd h3 z hdd hlen hst) (h s h2)
theorem VE.invU2r {c : Nat} {q : vw_C} {a : Nat} {x1 x2 : Value} {r : Value} {Q : Sg → Prop} (hk : UL (mY M).cls index M' 2) (ht : (sT σ a).1 = c + 1) (hc : c < 100) (hq : cls[c]? = some q) (hd : decode (mC M) pc = .ok (.invokespecial index, 3)) (hV : CtE E M' d' [.ref a, x1, x2] (PR r Q) σ) (h : ∀ σ' : Sg, Q σ' → VE E M d P (pc + 3) lv (r :: st) σ') (hdd : Nat.blt d' d = true := by rfl) (hlen : Nat.ble (lvF [.ref a, x1, x2]).length (mL M') = true := by first | rfl | (simp [lvF, va_rf_cat]; done)) (hst : Nat.ble (st.map fun v => v.category).sum 8 = true := by first | rfl | (simp [va_rf_cat]; done)) : VE E M d P pc lv (x2 :: x1 :: .ref a :: st) σ := by
  obtain ⟨⟨o, s⟩, ⟨h1, h2⟩, h3⟩ := hV
  dsimp only at h1 h2
  subst h1
  exact VE.step (fun _ z => V.invU2r hk ht hc hq hd h3 z hdd hlen hst) (h s h2)
theorem VE.invU2v {c : Nat} {q : vw_C} {a : Nat} {x1 x2 : Value} {Q : Sg → Prop} (hk : UL (mY M).cls index M' 2) (ht : (sT σ a).1 = c + 1) (hc : c < 100) (hq : cls[c]? = some q) (hd : decode (mC M) pc = .ok (.invokespecial index, 3)) (hV : CtE E M' d' [.ref a, x1, x2] (PV Q) σ) (h : ∀ σ' : Sg, Q σ' → VE E M d P (pc + 3) lv (st) σ') (hdd : Nat.blt d' d = true := by rfl) (hlen : Nat.ble (lvF [.ref a, x1, x2]).length (mL M') = true := by first | rfl | (simp [lvF, va_rf_cat]; done)) (hst : Nat.ble (st.map fun v => v.category).sum 8 = true := by first | rfl | (simp [va_rf_cat]; done)) : VE E M d P pc lv (x2 :: x1 :: .ref a :: st) σ := by
  obtain ⟨⟨o, s⟩, ⟨h1, h2⟩, h3⟩ := hV
  dsimp only at h1 h2
  subst h1
  exact VE.step (fun _ z => V.invU2v hk ht hc hq hd h3 z hdd hlen hst) (h s h2)
theorem VE.invU3r {c : Nat} {q : vw_C} {a : Nat} {x1 x2 x3 : Value} {r : Value} {Q : Sg → Prop} (hk : UL (mY M).cls index M' 3) (ht : (sT σ a).1 = c + 1) (hc : c < 100) (hq : cls[c]? = some q) (hd : decode (mC M) pc = .ok (.invokespecial index, 3)) (hV : CtE E M' d' [.ref a, x1, x2, x3] (PR r Q) σ) (h : ∀ σ' : Sg, Q σ' → VE E M d P (pc + 3) lv (r :: st) σ') (hdd : Nat.blt d' d = true := by rfl) (hlen : Nat.ble (lvF [.ref a, x1, x2, x3]).length (mL M') = true := by first | rfl | (simp [lvF, va_rf_cat]; done)) (hst : Nat.ble (st.map fun v => v.category).sum 8 = true := by first | rfl | (simp [va_rf_cat]; done)) : VE E M d P pc lv (x3 :: x2 :: x1 :: .ref a :: st) σ := by
  obtain ⟨⟨o, s⟩, ⟨h1, h2⟩, h3⟩ := hV
  dsimp only at h1 h2
  subst h1
  exact VE.step (fun _ z => V.invU3r hk ht hc hq hd h3 z hdd hlen hst) (h s h2)
theorem VE.invU3v {c : Nat} {q : vw_C} {a : Nat} {x1 x2 x3 : Value} {Q : Sg → Prop} (hk : UL (mY M).cls index M' 3) (ht : (sT σ a).1 = c + 1) (hc : c < 100) (hq : cls[c]? = some q) (hd : decode (mC M) pc = .ok (.invokespecial index, 3)) (hV : CtE E M' d' [.ref a, x1, x2, x3] (PV Q) σ) (h : ∀ σ' : Sg, Q σ' → VE E M d P (pc + 3) lv (st) σ') (hdd : Nat.blt d' d = true := by rfl) (hlen : Nat.ble (lvF [.ref a, x1, x2, x3]).length (mL M') = true := by first | rfl | (simp [lvF, va_rf_cat]; done)) (hst : Nat.ble (st.map fun v => v.category).sum 8 = true := by first | rfl | (simp [va_rf_cat]; done)) : VE E M d P pc lv (x3 :: x2 :: x1 :: .ref a :: st) σ := by
  obtain ⟨⟨o, s⟩, ⟨h1, h2⟩, h3⟩ := hV
  dsimp only at h1 h2
  subst h1
  exact VE.step (fun _ z => V.invU3v hk ht hc hq hd h3 z hdd hlen hst) (h s h2)
theorem VE.invF1r {c count : Nat} {a : Nat} {x1 : Value} {r : Value} {Q : Sg → Prop} (hk : FL (mY M).cls index c M' 1) (ht : (sT σ a).1 = c + 1) (hd : decode (mC M) pc = .ok (.invokeinterface index count, 5)) (hV : CtE E M' d' [.ref a, x1] (PR r Q) σ) (h : ∀ σ' : Sg, Q σ' → VE E M d P (pc + 5) lv (r :: st) σ') (hdd : Nat.blt d' d = true := by rfl) (hlen : Nat.ble (lvF [.ref a, x1]).length (mL M') = true := by first | rfl | (simp [lvF, va_rf_cat]; done)) (hst : Nat.ble (st.map fun v => v.category).sum 8 = true := by first | rfl | (simp [va_rf_cat]; done)) : VE E M d P pc lv (x1 :: .ref a :: st) σ := by
  obtain ⟨⟨o, s⟩, ⟨h1, h2⟩, h3⟩ := hV
  dsimp only at h1 h2
  subst h1
  exact VE.step (fun _ z => V.invF1r hk ht hd h3 z hdd hlen hst) (h s h2)
theorem VE.invF1v {c count : Nat} {a : Nat} {x1 : Value} {Q : Sg → Prop} (hk : FL (mY M).cls index c M' 1) (ht : (sT σ a).1 = c + 1) (hd : decode (mC M) pc = .ok (.invokeinterface index count, 5)) (hV : CtE E M' d' [.ref a, x1] (PV Q) σ) (h : ∀ σ' : Sg, Q σ' → VE E M d P (pc + 5) lv (st) σ') (hdd : Nat.blt d' d = true := by rfl) (hlen : Nat.ble (lvF [.ref a, x1]).length (mL M') = true := by first | rfl | (simp [lvF, va_rf_cat]; done)) (hst : Nat.ble (st.map fun v => v.category).sum 8 = true := by first | rfl | (simp [va_rf_cat]; done)) : VE E M d P pc lv (x1 :: .ref a :: st) σ := by
  obtain ⟨⟨o, s⟩, ⟨h1, h2⟩, h3⟩ := hV
  dsimp only at h1 h2
  subst h1
  exact VE.step (fun _ z => V.invF1v hk ht hd h3 z hdd hlen hst) (h s h2)
end

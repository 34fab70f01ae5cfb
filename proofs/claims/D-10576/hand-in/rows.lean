section
/-! ===== Int32 by its bits (rows of kit/laws/BITS.to-paste, renamed) ===== -/
def zb_t (x : Int32) (i : Nat) : Bool := x.toBitVec.getLsbD i
theorem zb_ext {x y : Int32} (h : ∀ i, i < 32 → zb_t x i = zb_t y i) : x = y := Int32.toBitVec_inj.mp (BitVec.eq_of_getLsbD_eq (fun i hi => h i hi))
theorem zb_and (x y : Int32) (i : Nat) : zb_t (x &&& y) i = (zb_t x i && zb_t y i) := by unfold zb_t; rw [Int32.toBitVec_and, BitVec.getLsbD_and]
theorem zb_xor (x y : Int32) (i : Nat) : zb_t (x ^^^ y) i = (zb_t x i ^^ zb_t y i) := by unfold zb_t; rw [Int32.toBitVec_xor, BitVec.getLsbD_xor]
theorem zb_big {x : Int32} {i : Nat} (h : 32 ≤ i) : zb_t x i = false := BitVec.getLsbD_of_ge _ _ h
theorem zb_65535 (i : Nat) : zb_t 65535 i = decide (i < 16) := by
  rcases Nat.lt_or_ge i 32 with h | h
  · exact (by decide +kernel : ∀ i, i < 32 → zb_t 65535 i = decide (i < 16)) i h
  · rw [zb_big h, decide_eq_false (by omega)]
theorem zb_m1 : ∀ i, i < 32 → zb_t (-1) i = true := by decide +kernel
theorem zb_0 (i : Nat) : zb_t 0 i = false := BitVec.getLsbD_zero
theorem zb_sl : ∀ n, n < 32 → ((nI n &&& 31).toBitVec.smod 32).toNat = n := by decide +kernel
theorem zb_su : ∀ n, n < 32 → (((nI n).toUInt32 &&& Int32.toUInt32 31).toBitVec % 32).toNat = n := by decide +kernel
theorem zb_shl (n : Nat) (hn : n < 32) (x : Int32) {i : Nat} (hi : i < 32) : zb_t (x <<< (nI n &&& 31)) i = (decide (n ≤ i) && zb_t x (i - n)) := by
  unfold zb_t
  rw [Int32.toBitVec_shiftLeft]
  show (x.toBitVec <<< ((nI n &&& 31).toBitVec.smod 32).toNat).getLsbD i = _
  rw [zb_sl n hn, BitVec.getLsbD_shiftLeft]
  rcases Nat.lt_or_ge i n with h | h
  · simp [h, Nat.not_le.mpr h]
  · simp [hi, h, Nat.not_lt.mpr h]
theorem zb_ushr (n : Nat) (hn : n < 32) (x : Int32) (i : Nat) : zb_t ((x.toUInt32 >>> ((nI n).toUInt32 &&& Int32.toUInt32 31)).toInt32) i = zb_t x (n + i) := by
  show (x.toUInt32 >>> ((nI n).toUInt32 &&& Int32.toUInt32 31)).toBitVec.getLsbD i = x.toUInt32.toBitVec.getLsbD (n + i)
  rw [UInt32.toBitVec_shiftRight]
  show (x.toUInt32.toBitVec >>> (((nI n).toUInt32 &&& Int32.toUInt32 31).toBitVec % 32).toNat).getLsbD i = _
  rw [zb_su n hn, BitVec.getLsbD_ushiftRight]
theorem zb_sshr (n : Nat) (hn : n < 32) (x : Int32) {i : Nat} (hi : i < 32) : zb_t (x >>> (nI n &&& 31)) i = if n + i < 32 then zb_t x (n + i) else zb_t x 31 := by
  unfold zb_t
  rw [Int32.toBitVec_shiftRight]
  show (x.toBitVec.sshiftRight ((nI n &&& 31).toBitVec.smod 32).toNat).getLsbD i = _
  rw [zb_sl n hn, BitVec.getLsbD_sshiftRight, BitVec.msb_eq_getLsbD_last]
  simp [hi]
/-! ===== mine ===== -/
theorem zb_1 (i : Nat) : zb_t 1 i = decide (i = 0) := by
  rcases Nat.lt_or_ge i 32 with h | h
  · exact (by decide +kernel : ∀ i, i < 32 → zb_t 1 i = decide (i = 0)) i h
  · rw [zb_big h, decide_eq_false (by omega)]
theorem zb_3 (i : Nat) : zb_t 3 i = decide (i < 2) := by
  rcases Nat.lt_or_ge i 32 with h | h
  · exact (by decide +kernel : ∀ i, i < 32 → zb_t 3 i = decide (i < 2)) i h
  · rw [zb_big h, decide_eq_false (by omega)]
theorem zb_z {x : Int32} : x = 0 ↔ ∀ i, i < 32 → zb_t x i = false := by
  constructor
  · intro e i _
    rw [e, zb_0]
  · intro h
    exact zb_ext (fun i hi => by rw [h i hi, zb_0])
/-- the lowest bit -/
theorem zb_and1 (x : Int32) : x &&& 1 = 0 ↔ zb_t x 0 = false := by
  rw [zb_z]
  constructor
  · intro h
    have t := h 0 (by omega)
    rw [zb_and, zb_1] at t
    simpa using t
  · intro h i _
    rw [zb_and, zb_1]
    by_cases e : i = 0
    · rw [e, h]; rfl
    · simp [e]
/-- the lowest two bits -/
theorem zb_and3 (x : Int32) : x &&& 3 = 0 ↔ (zb_t x 0 = false ∧ zb_t x 1 = false) := by
  rw [zb_z]
  constructor
  · intro h
    have t := h 0 (by omega)
    have t1 := h 1 (by omega)
    rw [zb_and, zb_3] at t t1
    exact ⟨by simpa using t, by simpa using t1⟩
  · intro h i _
    rw [zb_and, zb_3]
    by_cases e : i < 2
    · have e2 : i = 0 ∨ i = 1 := by omega
      rcases e2 with e2 | e2
      · rw [e2, h.1]; rfl
      · rw [e2, h.2]; rfl
    · simp [e]
/-- bit n, by >> -/
theorem zb_bs (x : Int32) (n : Nat) (hn : n < 32) : (x >>> (nI n &&& 31)) &&& 1 = 0 ↔ zb_t x n = false := by
  rw [zb_and1, zb_sshr n hn x (by omega), if_pos (by omega), Nat.add_zero]
/-- bit n, by >>> -/
theorem zb_bu (x : Int32) (n : Nat) (hn : n < 32) : ((x.toUInt32 >>> ((nI n).toUInt32 &&& Int32.toUInt32 31)).toInt32) &&& 1 = 0 ↔ zb_t x n = false := by
  rw [zb_and1, zb_ushr n hn, Nat.add_zero]
/-- bits n and n + 1, by >>> -/
theorem zb_bu3 (x : Int32) (n : Nat) (hn : n < 32) : ((x.toUInt32 >>> ((nI n).toUInt32 &&& Int32.toUInt32 31)).toInt32) &&& 3 = 0 ↔ (zb_t x n = false ∧ zb_t x (n + 1) = false) := by
  rw [zb_and3, zb_ushr n hn, zb_ushr n hn, Nat.add_zero]
/-- taking one bit away -/
theorem zb_clr (x : Int32) (n : Nat) (hn : n < 32) {i : Nat} (hi : i < 32) : zb_t (x &&& (((1 : Int32) <<< (nI n &&& 31)) ^^^ (-1))) i = (zb_t x i && !decide (i = n)) := by
  rw [zb_and, zb_xor, zb_shl n hn _ hi, zb_1, zb_m1 i hi]
  congr 1
  by_cases e : i = n
  · subst e
    simp
  · by_cases e2 : n ≤ i
    · have e3 : ¬ i - n = 0 := by omega
      simp [e, e3]
    · simp [e, e2]
theorem zb_nf {x : Bool} (h : ¬ x = false) : x = true := by cases x <;> simp_all
/-- bit k of a number below 256, by >> -/
theorem zb_nb {A : Nat} (hA : A < 256) (k : Nat) (hk : k < 32) : (nI A >>> (nI k &&& 31)) &&& 1 = nI (A / 2 ^ k % 2) := by
  rw [pk_shrN (by omega) _ k (zb_sl k hk)]
  have h2 : A / 2 ^ k ≤ A := Nat.div_le_self _ _
  exact pk_andN (by omega) 1 (by decide)
/-- bit k of a number below 256, by >>> -/
theorem zb_nu {A : Nat} (hA : A < 256) (k : Nat) (hk : k < 32) : (((nI A).toUInt32 >>> ((nI k).toUInt32 &&& Int32.toUInt32 31)).toInt32) &&& 1 = nI (A / 2 ^ k % 2) := by
  rw [pk_ushrN (by omega) _ k (zb_su k hk)]
  have h2 : A / 2 ^ k ≤ A := Nat.div_le_self _ _
  exact pk_andN (by omega) 1 (by decide)
theorem zb_half {l : Nat} (hl : l < 16) : nI l >>> ((1 : Int32) &&& 31) = nI (l / 2) := by
  have t := pk_shrN (n := l) (by omega) ((1 : Int32) &&& 31) 1 (by decide)
  rw [t]
theorem zb_odd {l : Nat} (hl : l < 16) : nI l &&& 1 = nI (l % 2) := pk_andN (by omega) 1 (by decide)
end
section
/-! ===== the pure picture ===== -/
/-- a value of a variable: none, false, true -/
def so_V (x : Int32) : Prop := x = -1 ∨ x = 0 ∨ x = 1
/-- every literal of the clause c is false under a -/
def so_F (c : Int32) (a : Nat → Int32) : Prop := ∀ i, i < 16 → zb_t c i = true → a (i / 2) = nI (i % 2)
/-- what is lost under a: W, if there is a clause and it is false, else nothing -/
noncomputable def so_L (m c : Int32) (W : Nat) (a : Nat → Int32) : Nat := @ite Nat (m = 1 ∧ so_F c a) (Classical.propDecidable _) W 0
/-- the assignment with the number A -/
def so_ar (A : Nat) : Nat → Int32 := fun j => nI (A / 2 ^ j % 2)
/-- A agrees with what is given -/
def so_G (g : Nat → Int32) (A : Nat) : Prop := ∀ j, j < 8 → g j < 0 ∨ g j = nI (A / 2 ^ j % 2)
/-- (l, ba) is the first best of the leaves below D -/
def so_T (G : Nat → Prop) (f : Nat → Nat) (D l : Nat) (ba : Int32) : Prop :=
  (l = 2000 ∧ ba = -1 ∧ ∀ A, A < D → ¬ G A) ∨ (∃ A, A < D ∧ G A ∧ ba = nI A ∧ l = f A ∧ ∀ A', A' < D → G A' → f A ≤ f A' ∧ (A' < A → f A < f A'))
/-- the clauses: none, or one with the weight W -/
def so_C (m c : Int32) (W : Nat) (a1 a2 : Nat → Int32) : Prop := m = 0 ∨ (m = 1 ∧ a1 0 = c ∧ a2 0 = nI W ∧ 1 ≤ W ∧ W ≤ 50)
theorem so_L_t {m c : Int32} {W : Nat} {a : Nat → Int32} (h : m = 1) (h2 : so_F c a) : so_L m c W a = W := if_pos ⟨h, h2⟩
theorem so_L_f {m c : Int32} {W : Nat} {a : Nat → Int32} (h : ¬ so_F c a) : so_L m c W a = 0 := if_neg (fun z => h z.2)
theorem so_L_0 {m c : Int32} {W : Nat} {a : Nat → Int32} (h : m = 0) : so_L m c W a = 0 := if_neg (fun z => absurd (h.symm.trans z.1) (by decide))
theorem so_L_le {m c : Int32} {W : Nat} {a : Nat → Int32} : so_L m c W a ≤ W := by
  unfold so_L
  split
  · exact Nat.le_refl _
  · exact Nat.zero_le _
theorem so_nn : ∀ i, i < 2 → nI i ≠ -1 := by decide +kernel
theorem so_F_mono {c : Int32} {a b : Nat → Int32} (h : ∀ j, j < 8 → a j = -1 ∨ a j = b j) (hF : so_F c a) : so_F c b := by
  intro i hi hc
  have t := hF i hi hc
  rcases h (i / 2) (by omega) with z | z
  · exact absurd (t.symm.trans z) (so_nn _ (by omega))
  · rw [← z, t]
theorem so_L_mono {m c : Int32} {W : Nat} {a b : Nat → Int32} (h : ∀ j, j < 8 → a j = -1 ∨ a j = b j) : so_L m c W a ≤ so_L m c W b := by
  by_cases hF : m = 1 ∧ so_F c a
  · rw [so_L_t hF.1 hF.2, so_L_t hF.1 (so_F_mono h hF.2)]
    exact Nat.le_refl _
  · have e : so_L m c W a = 0 := if_neg hF
    rw [e]
    exact Nat.zero_le _
theorem so_L_eq {m c : Int32} {W : Nat} {a b : Nat → Int32} (h : ∀ j, j < 8 → a j = b j) : so_L m c W a = so_L m c W b :=
  Nat.le_antisymm (so_L_mono (fun j hj => Or.inr (h j hj))) (so_L_mono (fun j hj => Or.inr (h j hj).symm))
theorem so_T_skip {G : Nat → Prop} {f : Nat → Nat} {D D' l : Nat} {ba : Int32} (h : so_T G f D l ba) (hf : ∀ A, f A < 2000) (hs : ∀ A, D ≤ A → A < D' → G A → l ≤ f A) (hD : D ≤ D') : so_T G f D' l ba := by
  rcases h with ⟨h1, h2, h3⟩ | ⟨A, h1, h2, h3, h4, h5⟩
  · refine Or.inl ⟨h1, h2, fun A hA g => ?_⟩
    by_cases e : A < D
    · exact h3 A e g
    · have t := hs A (by omega) hA g
      have t2 := hf A
      omega
  · refine Or.inr ⟨A, by omega, h2, h3, h4, fun A' hA g => ?_⟩
    by_cases e : A' < D
    · exact h5 A' e g
    · have t := hs A' (by omega) hA g
      exact ⟨by omega, fun z => by omega⟩
theorem so_T_take {G : Nat → Prop} {f : Nat → Nat} {D l : Nat} {ba : Int32} (h : so_T G f D l ba) (hg : G D) (hl : f D < l) : so_T G f (D + 1) (f D) (nI D) := by
  refine Or.inr ⟨D, by omega, hg, rfl, rfl, fun A' hA g => ?_⟩
  rcases h with ⟨h1, h2, h3⟩ | ⟨A, h1, h2, h3, h4, h5⟩
  · by_cases e : A' < D
    · exact absurd g (h3 A' e)
    · have e2 : A' = D := by omega
      rw [e2]
      exact ⟨Nat.le_refl _, fun z => by omega⟩
  · by_cases e : A' < D
    · have t := (h5 A' e g).1
      exact ⟨by omega, fun _ => by omega⟩
    · have e2 : A' = D := by omega
      rw [e2]
      exact ⟨Nat.le_refl _, fun z => by omega⟩
/-! numbers -/
theorem so_up1 : ∀ p, p < 8 → ∀ P, P < 256 → (P % 2 ^ p = 0 → (P / 2 ^ (p + 1) * 2 ^ (p + 1) < 256 ∧ (P / 2 ^ (p + 1) * 2 ^ (p + 1)) % 2 ^ (p + 1) = 0 ∧ P / 2 ^ (p + 1) * 2 ^ (p + 1) + (P / 2 ^ p % 2) * 2 ^ p = P)) := by decide +kernel
theorem so_up2 : ∀ p, p < 8 → ∀ P, P < 256 → ∀ j, j < 8 → (p + 1 ≤ j → (P / 2 ^ (p + 1) * 2 ^ (p + 1)) / 2 ^ j % 2 = P / 2 ^ j % 2) := by decide +kernel
theorem so_up (p : Nat) (hp : p < 8) (P : Nat) (hP : P < 256) (hm : P % 2 ^ p = 0) : (P / 2 ^ (p + 1) * 2 ^ (p + 1) < 256 ∧ (P / 2 ^ (p + 1) * 2 ^ (p + 1)) % 2 ^ (p + 1) = 0 ∧ P / 2 ^ (p + 1) * 2 ^ (p + 1) + (P / 2 ^ p % 2) * 2 ^ p = P ∧ ∀ j, j < 8 → p + 1 ≤ j → (P / 2 ^ (p + 1) * 2 ^ (p + 1)) / 2 ^ j % 2 = P / 2 ^ j % 2) := by
  obtain ⟨h1, h2, h3⟩ := so_up1 p hp P hP hm
  exact ⟨h1, h2, h3, so_up2 p hp P hP⟩
theorem so_dn1 : ∀ v, v < 8 → ∀ P, P < 256 → (P % 2 ^ (v + 1) = 0 → P + 2 * 2 ^ v ≤ 256) := by decide +kernel
theorem so_dn2 : ∀ v, v < 8 → ∀ P, P < 256 → ∀ x, x < 2 → (P % 2 ^ (v + 1) = 0 → (P + x * 2 ^ v < 256 ∧ (P + x * 2 ^ v) % 2 ^ v = 0)) := by decide +kernel
theorem so_bk1 : ∀ v, v < 8 → ∀ P, P < 256 → ∀ x, x < 2 → ∀ r, r < 2 ^ v → (P % 2 ^ (v + 1) = 0 → (P + x * 2 ^ v + r) / 2 ^ v % 2 = x) := by
  intro v hv P hP x hx r hr hm
  have e : P = 2 ^ (v + 1) * (P / 2 ^ (v + 1)) := by
    have t := Nat.div_add_mod P (2 ^ (v + 1))
    omega
  generalize P / 2 ^ (v + 1) = k at e
  have e2 : P + x * 2 ^ v + r = 2 ^ v * (2 * k + x) + r := by
    rw [e, Nat.pow_succ, Nat.mul_add, Nat.mul_assoc, Nat.mul_comm x]
  rw [e2, Nat.mul_add_div (Nat.two_pow_pos v), Nat.div_eq_of_lt hr]
  omega
theorem so_bk2 {v P x r j : Nat} (hx : x < 2) (hr : r < 2 ^ v) (hm : P % 2 ^ (v + 1) = 0) (hj : v + 1 ≤ j) : (P + x * 2 ^ v + r) / 2 ^ j % 2 = P / 2 ^ j % 2 := by
  have e : P = 2 ^ (v + 1) * (P / 2 ^ (v + 1)) := by
    have t := Nat.div_add_mod P (2 ^ (v + 1))
    omega
  have hs : x * 2 ^ v + r < 2 ^ (v + 1) := by
    have t : x * 2 ^ v ≤ 1 * 2 ^ v := Nat.mul_le_mul_right _ (by omega)
    rw [Nat.pow_succ]
    omega
  have e3 : (P + x * 2 ^ v + r) / 2 ^ (v + 1) = P / 2 ^ (v + 1) := by
    rw [Nat.add_assoc]
    conv => lhs; rw [e]
    rw [Nat.mul_add_div (Nat.two_pow_pos _), Nat.div_eq_of_lt hs, Nat.add_zero]
  have e4 : 2 ^ j = 2 ^ (v + 1) * 2 ^ (j - (v + 1)) := by
    rw [← Nat.pow_add]
    congr 1
    omega
  rw [e4, ← Nat.div_div_eq_div_mul, ← Nat.div_div_eq_div_mul, e3]
theorem so_bk0 (v : Nat) (hv : v < 8) (P : Nat) (hP : P < 256) (hm : P % 2 ^ (v + 1) = 0) (x : Nat) (hx : x < 2) (r : Nat) (hr : r < 2 ^ v) : ((P + x * 2 ^ v + r) / 2 ^ v % 2 = x ∧ ∀ j, j < 8 → v + 1 ≤ j → (P + x * 2 ^ v + r) / 2 ^ j % 2 = P / 2 ^ j % 2) :=
  ⟨so_bk1 v hv P hP x hx r hr hm, fun _ _ hj => so_bk2 hx hr hm hj⟩
theorem so_dn (v : Nat) (hv : v < 8) (P : Nat) (hP : P < 256) (hm : P % 2 ^ (v + 1) = 0) : (P + 2 * 2 ^ v ≤ 256 ∧ ∀ x, x < 2 → (P + x * 2 ^ v < 256 ∧ (P + x * 2 ^ v) % 2 ^ v = 0 ∧ (P + x * 2 ^ v) / 2 ^ v % 2 = x ∧ ∀ j, j < 8 → v + 1 ≤ j → (P + x * 2 ^ v) / 2 ^ j % 2 = P / 2 ^ j % 2)) :=
  ⟨so_dn1 v hv P hP hm, fun x hx => ⟨(so_dn2 v hv P hP x hx hm).1, (so_dn2 v hv P hP x hx hm).2, (so_bk0 v hv P hP hm x hx 0 (Nat.two_pow_pos v)).1, (so_bk0 v hv P hP hm x hx 0 (Nat.two_pow_pos v)).2⟩⟩
theorem so_bk {v P x A : Nat} (hv : v < 8) (hP : P < 256) (hm : P % 2 ^ (v + 1) = 0) (hx : x < 2) (h1 : P + x * 2 ^ v ≤ A) (h2 : A < P + (x + 1) * 2 ^ v) : A / 2 ^ v % 2 = x ∧ ∀ j, j < 8 → v + 1 ≤ j → A / 2 ^ j % 2 = P / 2 ^ j % 2 := by
  rw [Nat.add_mul, Nat.one_mul] at h2
  have t := so_bk0 v hv P hP hm x hx (A - (P + x * 2 ^ v)) (by omega)
  rw [show P + x * 2 ^ v + (A - (P + x * 2 ^ v)) = A by omega] at t
  exact t
theorem so_or : ∀ j, j < 8 → ∀ P, P < 256 → nI (P % 2 ^ j) ||| (nI (P / 2 ^ j % 2) <<< (nI j &&& 31)) = nI (P % 2 ^ (j + 1)) := by decide +kernel
theorem so_ex8 : ∀ b0 b1 b2 b3 b4 b5 b6 b7 : Bool, (b0.toNat + 2 * b1.toNat + 4 * b2.toNat + 8 * b3.toNat + 16 * b4.toNat + 32 * b5.toNat + 64 * b6.toNat + 128 * b7.toNat < 256 ∧ ∀ j, j < 8 → (b0.toNat + 2 * b1.toNat + 4 * b2.toNat + 8 * b3.toNat + 16 * b4.toNat + 32 * b5.toNat + 64 * b6.toNat + 128 * b7.toNat) / 2 ^ j % 2 = ([b0, b1, b2, b3, b4, b5, b6, b7].getD j false).toNat) := by decide +kernel
theorem so_ex (f : Nat → Bool) : ∃ A, A < 256 ∧ ∀ j, j < 8 → A / 2 ^ j % 2 = (f j).toNat := by
  obtain ⟨h1, h2⟩ := so_ex8 (f 0) (f 1) (f 2) (f 3) (f 4) (f 5) (f 6) (f 7)
  refine ⟨_, h1, fun j hj => ?_⟩
  rw [h2 j hj]
  have e : j = 0 ∨ j = 1 ∨ j = 2 ∨ j = 3 ∨ j = 4 ∨ j = 5 ∨ j = 6 ∨ j = 7 := by omega
  rcases e with e | e | e | e | e | e | e | e <;> (rw [e]; rfl)
/-! the measure of the search -/
def so_b (x : Int32) : Nat := if x = -1 then 0 else if x = 0 then 1 else 2
def so_B (a : Nat → Int32) : Nat := so_b (a 0) + so_b (a 1) + so_b (a 2) + so_b (a 3) + so_b (a 4) + so_b (a 5) + so_b (a 6) + so_b (a 7)
theorem so_b_n : ∀ x, x < 2 → so_b (nI x) = x + 1 := by decide +kernel
theorem so_b_m : so_b (-1) = 0 := by decide +kernel
theorem so_b_le (x : Int32) : so_b x ≤ 2 := by
  unfold so_b
  split
  · omega
  · split <;> omega
theorem so_B_u {a : Nat → Int32} {v : Nat} (hv : v < 8) (x : Int32) : so_B (upd a v x) + so_b (a v) = so_B a + so_b x := by
  have e : v = 0 ∨ v = 1 ∨ v = 2 ∨ v = 3 ∨ v = 4 ∨ v = 5 ∨ v = 6 ∨ v = 7 := by omega
  unfold so_B
  rcases e with e | e | e | e | e | e | e | e <;> (subst e; simp [upd]; omega)
/-- the value that stands there, by so_b -/
theorem so_b_v {x : Int32} (h : so_V x) : x + 1 = nI (so_b x) := by
  rcases h with h | h | h <;> (rw [h]; decide +kernel)
theorem so_V_u {a : Nat → Int32} {v : Nat} {x : Int32} (h : ∀ j, j < 8 → so_V (a j)) (hx : so_V x) : ∀ j, j < 8 → so_V (upd a v x j) := by
  intro j hj
  by_cases e : j = v
  · rw [e, pk_us]
    exact hx
  · rw [pk_un e]
    exact h j hj
theorem so_V_n {x : Nat} (h : x < 2) : so_V (nI x) := by
  have e : x = 0 ∨ x = 1 := by omega
  rcases e with e | e
  · rw [e]; exact Or.inr (Or.inl rfl)
  · rw [e]; exact Or.inr (Or.inr rfl)
/-! how many variables have no value -/
def so_N (a : Nat → Int32) : Nat → Nat
  | 0 => 0
  | k + 1 => so_N a k + (if a k < 0 then 1 else 0)
theorem so_N_le (a : Nat → Int32) (k : Nat) : so_N a k ≤ k := by
  induction k with
  | zero => exact Nat.le_refl 0
  | succ k ih =>
    unfold so_N
    split <;> omega
theorem so_N_o {a : Nat → Int32} {v : Nat} {x : Int32} (k : Nat) (h : k ≤ v) : so_N (upd a v x) k = so_N a k := by
  induction k with
  | zero => rfl
  | succ k ih =>
    unfold so_N
    rw [ih (by omega), pk_un (by omega)]
theorem so_N_u {a : Nat → Int32} {v : Nat} {x : Int32} (ha : a v < 0) (hx : ¬ x < 0) (k : Nat) (h : v < k) : so_N (upd a v x) k + 1 = so_N a k := by
  induction k with
  | zero => omega
  | succ k ih =>
    unfold so_N
    by_cases e : k = v
    · subst e
      rw [so_N_o k (Nat.le_refl k), pk_us, if_pos ha, if_neg hx]
    · rw [pk_un e, ← ih (by omega)]
      omega
/-- a literal that is made true: the clause isn't false -/
theorem so_F_s {c : Int32} {a : Nat → Int32} {v b : Nat} (hv : v < 8) (hb : b < 2) (hc : zb_t c (2 * v + 1 - b) = true) : ¬ so_F c (upd a v (nI b)) := by
  intro h
  have t := h (2 * v + 1 - b) (by omega) hc
  rw [show (2 * v + 1 - b) / 2 = v by omega, show (2 * v + 1 - b) % 2 = 1 - b by omega, pk_us, nI_eq (by omega) (by omega)] at t
  omega
/-- filling an array from 0 on -/
theorem so_fl {f s : Nat → Int32} {i k : Nat} {x : Int32} (hk : k = i) (h : ∀ j, j < i → s j = f j) (hx : x = f i) : ∀ j, j < i + 1 → upd s k x j = f j := by
  intro j hj
  rw [hk]
  by_cases e : j = i
  · rw [e, pk_us, hx]
  · rw [pk_un e]
    exact h j (by omega)
end
section
/-! ===== openLiterals, by bits ===== -/
/-- s: what is left of c behind the variables below i -/
def so_O (c : Int32) (a : Nat → Int32) (i : Nat) (s : Int32) : Prop := ∀ k, k < 32 → zb_t s k = (zb_t c k && !decide (k / 2 < i ∧ a (k / 2) = nI (k % 2)))
theorem so_O_0 {c : Int32} {a : Nat → Int32} : so_O c a 0 c := by
  intro k _
  rw [decide_eq_false (fun z => absurd z.1 (by omega))]
  simp
theorem so_O_m {c s : Int32} {a : Nat → Int32} {i : Nat} (h : so_O c a i s) (e : a i = -1) : so_O c a (i + 1) s := by
  intro k hk
  have q : (k / 2 < i ∧ a (k / 2) = nI (k % 2)) ↔ (k / 2 < i + 1 ∧ a (k / 2) = nI (k % 2)) := by
    constructor
    · intro z
      exact ⟨by omega, z.2⟩
    · intro z
      refine ⟨?_, z.2⟩
      by_cases g : k / 2 = i
      · have t := z.2
        rw [g, e] at t
        exact absurd t.symm (so_nn _ (by omega))
      · have t := z.1
        omega
  have qd : decide (k / 2 < i ∧ a (k / 2) = nI (k % 2)) = decide (k / 2 < i + 1 ∧ a (k / 2) = nI (k % 2)) := decide_eq_decide.mpr q
  rw [h k hk, qd]
theorem so_O_b {c s : Int32} {a : Nat → Int32} {i b : Nat} (h : so_O c a i s) (hi : i < 8) (hb : b < 2) (e : a i = nI b) : so_O c a (i + 1) (s &&& (((1 : Int32) <<< (nI (2 * i + b) &&& 31)) ^^^ (-1))) := by
  intro k hk
  have q : (k / 2 < i + 1 ∧ a (k / 2) = nI (k % 2)) ↔ ((k / 2 < i ∧ a (k / 2) = nI (k % 2)) ∨ k = 2 * i + b) := by
    constructor
    · intro z
      by_cases g : k / 2 = i
      · have t := z.2
        rw [g, e, nI_eq (by omega) (by omega)] at t
        exact Or.inr (by omega)
      · have t := z.1
        exact Or.inl ⟨by omega, z.2⟩
    · intro z
      rcases z with z | z
      · exact ⟨by omega, z.2⟩
      · refine ⟨by omega, ?_⟩
        rw [show k / 2 = i by omega, show k % 2 = b by omega, e]
  have qd : decide (k / 2 < i + 1 ∧ a (k / 2) = nI (k % 2)) = (decide (k / 2 < i ∧ a (k / 2) = nI (k % 2)) || decide (k = 2 * i + b)) := by
    rw [← Bool.decide_or]
    exact decide_eq_decide.mpr q
  rw [zb_clr s (2 * i + b) (by omega) hk, h k hk, qd]
  generalize decide (k / 2 < i ∧ a (k / 2) = nI (k % 2)) = d1
  generalize decide (k = 2 * i + b) = d2
  generalize zb_t c k = d3
  cases d1 <;> cases d2 <;> cases d3 <;> rfl
theorem so_O_F {c r : Int32} {a : Nat → Int32} (h : so_O c a 8 r) (hc : ∀ i, 16 ≤ i → zb_t c i = false) : r = 0 ↔ so_F c a := by
  rw [zb_z]
  constructor
  · intro z i hi g
    have t := z i (by omega)
    rw [h i (by omega), g] at t
    refine Classical.byContradiction (fun w => ?_)
    rw [decide_eq_false (fun q => w q.2)] at t
    exact absurd t (by decide)
  · intro F i hi
    rw [h i hi]
    by_cases g : i < 16
    · cases e : zb_t c i
      · rfl
      · rw [decide_eq_true ⟨by omega, F i g e⟩]
        rfl
    · rw [hc i (by omega)]
      rfl
theorem so_O_s {c r : Int32} {a : Nat → Int32} (h : so_O c a 8 r) {k : Nat} (hk : k < 32) (g : zb_t r k = true) : zb_t c k = true := by
  rw [h k hk] at g
  cases e : zb_t c k
  · rw [e] at g
    exact g
  · rfl
theorem so_V_2 {x : Int32} (h : so_V x) : x = -1 ∨ ∃ b, b < 2 ∧ x = nI b := by
  rcases h with h | h | h
  · exact Or.inl h
  · exact Or.inr ⟨0, by omega, h⟩
  · exact Or.inr ⟨1, by omega, h⟩
theorem so_at0 {a : Nat → Int32} {x : Int32} (h : a 0 = x) : a (0 : Int32).toNatClampNeg = x := by
  rw [sb_cl0]
  exact h
section
variable {m bl ba t : Int32} {a1 a2 a3 a4 a5 a6 a7 a8 a9 : Nat → Int32}
theorem so_free {post : St2 → Prop} (H : ∀ g, (∀ j, j < 8 → g j = -1) → post (m, bl, ba, t, a1, a2, a3, g, a5, a6, a7, a8, a9)) : wpX_freeAll post (m, bl, ba, t, a1, a2, a3, a4, a5, a6, a7, a8, a9) :=
  pk_loop (fun n i s => wX_freeAll_2 post m bl ba t n (nI i) a1 a2 a3 s a5 a6 a7 a8 a9) (fun i s => ∀ j, j < i → s j = -1) 8 0 a4 (by omega) (fun j hj => absurd hj (by omega))
    (fun n s h => pk_le 8 8 (fun _ => H s h) (fun z => absurd z (by omega)))
    (fun n i s hi h hw => pk_le 8 i (fun z => absurd z (by omega)) (fun _ => ⟨pk_in i 8 hi, nm_e (nm_r (nI_1 i) (hw _ (so_fl (f := fun _ => -1) (nI_clamp (by omega)) h rfl)))⟩))
theorem so_open {post : Int32 → Prop} {c : Int32} (hc : a1 0 = c) (hV : ∀ j, j < 8 → so_V (a3 j)) (H : ∀ r, so_O c a3 8 r → post r) : wpX_openLiterals post (m, bl, ba, t, a1, a2, a3, a4, a5, a6, a7, a8, a9) 0 := by
  refine ⟨pk_in 0 24 (by omega), nm_r (so_at0 hc) ?_⟩
  refine pk_loop (fun n i s => wX_openLiterals_10 post m bl ba t a1 a2 a3 a4 a5 a6 a7 a8 a9 n s (nI i)) (fun i s => so_O c a3 i s) 8 0 c (by omega) so_O_0 ?_ ?_
  · intro n s h
    exact pk_le 8 8 (fun _ => H s h) (fun z => absurd z (by omega))
  · intro n i s hi h hw
    refine pk_le 8 i (fun z => absurd z (by omega)) (fun _ => ⟨pk_in i 8 hi, ?_⟩)
    rw [nI_clamp (show i < 2 ^ 31 by omega)]
    rcases so_V_2 (hV i hi) with e | ⟨b, hb, e⟩
    · exact br_t (by rw [e]; decide) (nm_r (nI_1 i) (hw s (so_O_m h e)))
    · refine br_f (by rw [e]; exact nI_pos (by omega)) ⟨pk_in i 8 hi, nm_r (e' := s &&& (((1 : Int32) <<< (nI (2 * i + b) &&& 31)) ^^^ (-1))) ?_ (nm_r (nI_1 i) (hw _ (so_O_b h hi hb e)))⟩
      rw [e, show (2 : Int32) * nI i = nI (2 * i) from pk_mul 2 i, nI_add]
theorem so_open2 {post : Int32 → Prop} {c : Int32} (hc : a1 0 = c) (hV : ∀ j, j < 8 → so_V (a5 j)) (H : ∀ r, so_O c a5 8 r → post r) : wpX_openLiterals_2 post (m, bl, ba, t, a1, a2, a3, a4, a5, a6, a7, a8, a9) 0 := by
  refine ⟨pk_in 0 24 (by omega), nm_r (so_at0 hc) ?_⟩
  refine pk_loop (fun n i s => wX_openLiterals_2_10 post m bl ba t a1 a2 a3 a4 a5 a6 a7 a8 a9 n s (nI i)) (fun i s => so_O c a5 i s) 8 0 c (by omega) so_O_0 ?_ ?_
  · intro n s h
    exact pk_le 8 8 (fun _ => H s h) (fun z => absurd z (by omega))
  · intro n i s hi h hw
    refine pk_le 8 i (fun z => absurd z (by omega)) (fun _ => ⟨pk_in i 8 hi, ?_⟩)
    rw [nI_clamp (show i < 2 ^ 31 by omega)]
    rcases so_V_2 (hV i hi) with e | ⟨b, hb, e⟩
    · exact br_t (by rw [e]; decide) (nm_r (nI_1 i) (hw s (so_O_m h e)))
    · refine br_f (by rw [e]; exact nI_pos (by omega)) ⟨pk_in i 8 hi, nm_r (e' := s &&& (((1 : Int32) <<< (nI (2 * i + b) &&& 31)) ^^^ (-1))) ?_ (nm_r (nI_1 i) (hw _ (so_O_b h hi hb e)))⟩
      rw [e, show (2 : Int32) * nI i = nI (2 * i) from pk_mul 2 i, nI_add]
theorem so_loss {post : Int32 → Prop} {c : Int32} {W : Nat} (C : so_C m c W a1 a2) (hc : ∀ i, 16 ≤ i → zb_t c i = false) (hV : ∀ j, j < 8 → so_V (a3 j)) (H : post (nI (so_L m c W a3))) : wpX_lossSoFar post (m, bl, ba, t, a1, a2, a3, a4, a5, a6, a7, a8, a9) := by
  rcases C with e | ⟨e, e1, e2, w1, w2⟩
  · subst e
    rw [so_L_0 rfl] at H
    exact ⟨1, br_t (by decide) H⟩
  · subst e
    refine ⟨2, br_f (by decide) (so_open e1 hV (fun r hr => ?_))⟩
    refine br_c (fun z => ⟨pk_in 0 24 (by omega), nm_r (e' := nI W) ?_ (nm_e (br_t (by decide) ?_))⟩) (fun z => nm_r (e' := nI 0) (by decide) (nm_e (br_t (by decide) ?_)))
    · rw [so_at0 e2, Int32.zero_add]
    · rw [so_L_t rfl ((so_O_F hr hc).mp z)] at H
      exact H
    · rw [so_L_f (fun F => z ((so_O_F hr hc).mpr F))] at H
      exact H
theorem so_next {post : Int32 → Prop} {v : Nat} (hv : v < 8) (hV : so_V (a3 v)) (H1 : ∀ x, so_b (a3 v) ≤ x → x < 2 → (a4 v < 0 ∨ a4 v = nI x) → (∀ z, so_b (a3 v) ≤ z → z < x → ¬ (a4 v < 0 ∨ a4 v = nI z)) → post (nI x)) (H2 : (∀ z, so_b (a3 v) ≤ z → z < 2 → ¬ (a4 v < 0 ∨ a4 v = nI z)) → post (-1)) : wpX_nextValue post (m, bl, ba, t, a1, a2, a3, a4, a5, a6, a7, a8, a9) (nI v) := by
  refine ⟨pk_in v 8 hv, nm_r (e' := nI (so_b (a3 v))) (by rw [nI_clamp (by omega)]; exact so_b_v hV) ?_⟩
  refine pk_loop (σ := Unit) (fun n i _ => wX_nextValue_9 post (nI v) m bl ba t a1 a2 a3 a4 a5 a6 a7 a8 a9 n (nI i)) (fun i _ => so_b (a3 v) ≤ i ∧ ∀ z, so_b (a3 v) ≤ z → z < i → ¬ (a4 v < 0 ∨ a4 v = nI z)) 2 (so_b (a3 v)) () (so_b_le _) ⟨Nat.le_refl _, fun z h1 h2 => absurd h1 (by omega)⟩ ?_ ?_
  · intro n _ h
    exact pk_le 2 2 (fun _ => H2 h.2) (fun z => absurd z (by omega))
  · intro n i _ hi h hw
    refine pk_le 2 i (fun z => absurd z (by omega)) (fun _ => ⟨pk_in v 8 hv, ?_⟩)
    rw [nI_clamp (show v < 2 ^ 31 by omega)]
    refine br_c (fun g => H1 i h.1 hi (Or.inl g) h.2) (fun g => ⟨pk_in v 8 hv, br_c (fun g2 => H1 i h.1 hi (Or.inr g2) h.2) (fun g2 => nm_r (nI_1 i) (hw () ⟨by have := h.1; omega, fun z h1 h2 => ?_⟩))⟩)
    by_cases e : z = i
    · rw [e]
      exact fun q => q.elim g g2
    · exact h.2 z h1 (by omega)
theorem so_leaf {post : Int32 → St2 → Prop} {c : Int32} {W P : Nat} (C : so_C m c W a1 a2) (hc : ∀ i, 16 ≤ i → zb_t c i = false) (hV : ∀ j, j < 8 → so_V (a3 j)) (hP : P < 256) (hA : ∀ j, j < 8 → a3 j = nI (P / 2 ^ j % 2)) (H : post 0 (m, nI (so_L m c W a3), nI P, t, a1, a2, a3, a4, a5, a6, a7, a8, a9)) : wpX_takeLeaf post (m, bl, ba, t, a1, a2, a3, a4, a5, a6, a7, a8, a9) := by
  unfold wpX_takeLeaf
  dsimp only
  refine so_loss C hc hV ?_
  refine pk_loop (fun n i s => wX_takeLeaf_15 post m (nI (so_L m c W a3)) t a1 a2 a3 a4 a5 a6 a7 a8 a9 n (nI i) s) (fun i s => s = nI (P % 2 ^ i)) 8 0 0 (by omega) ?_ ?_ ?_
  · rw [Nat.pow_zero, Nat.mod_one]
    rfl
  · intro n s h
    have e : P % 2 ^ 8 = P := Nat.mod_eq_of_lt hP
    rw [e] at h
    exact pk_le 8 8 (fun _ => by rw [h]; exact H) (fun z => absurd z (by omega))
  · intro n i s hi h hw
    refine pk_le 8 i (fun z => absurd z (by omega)) (fun _ => ⟨pk_in i 8 hi, nm_r (e' := nI (P % 2 ^ (i + 1))) ?_ (nm_r (nI_1 i) (hw _ rfl))⟩)
    rw [nI_clamp (show i < 2 ^ 31 by omega), h, hA i hi]
    exact so_or i hi P hP
end
end
section
/-! ===== step, unitSteps, worthwhile ===== -/
section
variable {m bl ba t : Int32} {a1 a2 a3 a4 a5 a6 a7 a8 a9 : Nat → Int32}
theorem so_step {post : Int32 → St2 → Prop} {k op : Int32} {tl : Nat} (ht : tl + so_N a5 8 ≤ 8)
    (H0 : post 0 (m, bl, ba, nI tl, a1, a2, a3, a4, a5, a6, a7, a8, a9))
    (H1 : ∀ v b g6 g7, v < 8 → a5 v < 0 → b < 2 → zb_t op (2 * v + 1 - b) = true → post 1 (m, bl, ba, nI (tl + 1), a1, a2, a3, a4, upd a5 v (nI b), g6, g7, a8, a9)) :
    wpX_step post (m, bl, ba, nI tl, a1, a2, a3, a4, a5, a6, a7, a8, a9) k op := by
  refine br_c (fun _ => ?_) (fun _ => H0)
  refine pk_loop (σ := Unit) (fun n i _ => wX_step_12 post k op m bl ba (nI tl) a1 a2 a3 a4 a5 a6 a7 a8 a9 n (nI i)) (fun _ _ => True) 8 0 () (by omega) trivial ?_ ?_
  · intro n _ _
    exact pk_le 8 8 (fun _ => H0) (fun z => absurd z (by omega))
  · intro n i _ hi _ hw
    have hw' := hw () trivial
    have e2 : (2 : Int32) * nI i = nI (2 * i) := pk_mul 2 i
    refine pk_le 8 i (fun z => absurd z (by omega)) (fun _ => ?_)
    rw [e2]
    refine br_c (fun _ => br_t rfl (nm_r (nI_1 i) hw')) (fun g => ?_)
    refine br_f (by decide) ⟨pk_in i 8 hi, ?_⟩
    rw [nI_clamp (show i < 2 ^ 31 by omega), e2]
    refine br_c (fun _ => nm_r (nI_1 i) hw') (fun g2 => ?_)
    have hneg : a5 i < 0 := Int32.not_le.mp g2
    have hN := so_N_u hneg (nI_pos (n := 0) (by omega)) 8 hi
    rw [zb_bu3 op (2 * i) (by omega)] at g
    refine br_c (fun g3 => ?_) (fun g3 => ?_)
    · rw [zb_bu op (2 * i) (by omega)] at g3
      have hb : zb_t op (2 * i + 1 - 0) = true := zb_nf (fun z => g ⟨g3, z⟩)
      exact ⟨pk_in i 8 hi, nm_r (e' := upd a5 i (nI 0)) (by rw [nI_clamp (by omega)]; rfl) ⟨pk_in i 8 hi, nm_e ⟨pk_in tl 8 (by omega), nm_e (nm_r (nI_1 tl) (H1 i 0 _ _ hi hneg (by omega) hb))⟩⟩⟩
    · rw [zb_bu op (2 * i) (by omega)] at g3
      have hb : zb_t op (2 * i + 1 - 1) = true := zb_nf g3
      exact ⟨pk_in i 8 hi, nm_r (e' := upd a5 i (nI 1)) (by rw [nI_clamp (by omega)]; rfl) ⟨pk_in i 8 hi, nm_e ⟨pk_in tl 8 (by omega), nm_e (nm_r (nI_1 tl) (H1 i 1 _ _ hi hneg (by omega) hb))⟩⟩⟩
theorem so_u42 {post : Int32 → St2 → Prop} {c : Int32} {W : Nat} (C : so_C m c W a1 a2) (hc : ∀ i, 16 ≤ i → zb_t c i = false)
    (H : ∀ x g5 g6 g7, post (-1) (m, bl, ba, x, a1, a2, a3, a4, g5, g6, g7, a8, a9)) {x1 : Int32} {tl : Nat}
    (hV : ∀ j, j < 8 → so_V (a5 j)) (hF : m = 1 → ¬ a8 0 ≤ 0 → ¬ so_F c a5) (ht : tl + so_N a5 8 ≤ 8) :
    ∃ n, wX_unitSteps_42 post n x1 0 m bl ba (nI tl) a1 a2 a3 a4 a5 a6 a7 a8 a9 := by
  refine pk_loop (σ := Int32 × Nat × (Nat → Int32) × (Nat → Int32) × (Nat → Int32)) (fun n i s => wX_unitSteps_42 post n s.1 (nI i) m bl ba (nI s.2.1) a1 a2 a3 a4 s.2.2.1 s.2.2.2.1 s.2.2.2.2 a8 a9) (fun _ s => (∀ j, j < 8 → so_V (s.2.2.1 j)) ∧ (m = 1 → ¬ a8 0 ≤ 0 → ¬ so_F c s.2.2.1) ∧ s.2.1 + so_N s.2.2.1 8 ≤ 8) 9 0 (x1, tl, a5, a6, a7) (by omega) ⟨hV, hF, ht⟩ ?_ ?_
  · intro n s h
    exact pk_le 9 9 (fun _ => H _ _ _ _) (fun z => absurd z (by omega))
  · intro n i s hi h hw
    obtain ⟨x, tl', b5, b6, b7⟩ := s
    obtain ⟨hV, hF, ht⟩ := h
    dsimp only at hV hF ht ⊢
    refine pk_le 9 i (fun z => absurd z (by omega)) (fun _ => br_c (fun _ => H _ _ _ _) (fun _ => ?_))
    rcases C with e | ⟨e, e1, e2, w1, w2⟩
    · subst e
      exact ⟨1, br_t (by decide) (nm_r (nI_1 i) (hw (0, tl', b5, b6, b7) ⟨hV, hF, ht⟩))⟩
    · subst e
      have fin : ∀ (y : Int32) (k : Nat) (d5 d6 d7 : Nat → Int32), (∀ j, j < 8 → so_V (d5 j)) → ((1 : Int32) = 1 → ¬ a8 0 ≤ 0 → ¬ so_F c d5) → k + so_N d5 8 ≤ 8 → wX_unitSteps_56 post (wX_unitSteps_42 post n) (nI i) 1 y (0 + 1) 1 bl ba (nI k) a1 a2 a3 a4 d5 d6 d7 a8 a9 :=
        fun y k d5 d6 d7 q1 q2 q3 => br_t (by decide) (nm_r (nI_1 i) (hw (y, k, d5, d6, d7) ⟨q1, q2, q3⟩))
      refine ⟨2, br_f (by decide) ⟨pk_in 0 24 (by omega), ?_⟩⟩
      rw [sb_cl0]
      refine br_f (by rw [e2]; exact nI_ne0 (by omega) (by omega)) ⟨pk_in 0 24 (by omega), br_c (fun _ => nm_e (fin 0 tl' b5 b6 b7 hV hF ht)) (fun g => ?_)⟩
      unfold wX_unitSteps_82
      refine so_open2 e1 hV (fun r hr => ?_)
      refine br_f (fun z => hF rfl g ((so_O_F hr hc).mp z)) ?_
      refine so_step ht ?_ ?_
      · exact br_t rfl (br_t rfl (nm_e (fin 0 tl' b5 b6 b7 hV hF ht)))
      · intro v b g6 g7 hv hneg hb ho
        refine br_f (by decide) (nm_e (fin 1 (tl' + 1) (upd b5 v (nI b)) g6 g7 (so_V_u hV (so_V_n hb)) (fun _ _ => so_F_s hv hb (so_O_s hr (by omega) ho)) ?_))
        have := so_N_u hneg (nI_pos (n := b) (by omega)) 8 hv
        omega
theorem so_unit {post : Int32 → St2 → Prop} {c : Int32} {W : Nat} (C : so_C m c W a1 a2) (hc : ∀ i, 16 ≤ i → zb_t c i = false)
    (H : ∀ x g5 g6 g7, post (-1) (m, bl, ba, x, a1, a2, a3, a4, g5, g6, g7, a8, a9))
    (hV : ∀ j, j < 8 → so_V (a3 j)) (hF : m = 1 → ¬ a8 0 ≤ 0 → ¬ so_F c a3) :
    wpX_unitSteps post (m, bl, ba, t, a1, a2, a3, a4, a5, a6, a7, a8, a9) := by
  refine pk_loop (σ := (Nat → Int32) × (Nat → Int32)) (fun n i s => wX_unitSteps_2 post m bl ba t n (nI i) a1 a2 a3 a4 s.1 s.2 a7 a8 a9) (fun i s => ∀ j, j < i → s.1 j = a3 j) 8 0 (a5, a6) (by omega) (fun j hj => absurd hj (by omega)) ?_ ?_
  · intro n s h
    refine pk_le 8 8 (fun _ => ?_) (fun z => absurd z (by omega))
    refine so_u42 (tl := 0) C hc H (fun j hj => by rw [h j hj]; exact hV j hj) (fun z1 z2 F => hF z1 z2 (so_F_mono (fun j hj => Or.inr (h j hj)) F)) ?_
    have := so_N_le s.1 8
    omega
  · intro n i s hi h hw
    exact pk_le 8 i (fun z => absurd z (by omega)) (fun _ => ⟨pk_in i 8 hi, pk_in i 8 hi, nm_e ⟨pk_in i 8 hi, nm_e (nm_r (nI_1 i) (hw (_, _) (so_fl (nI_clamp (by omega)) h (by rw [nI_clamp (by omega)]))))⟩⟩)
theorem so_worth {post : Int32 → St2 → Prop} {c : Int32} {W l : Nat} (C : so_C m c W a1 a2) (hc : ∀ i, 16 ≤ i → zb_t c i = false) (hW : W ≤ 50)
    (hV : ∀ j, j < 8 → so_V (a3 j)) (hl : l ≤ 2000)
    (H0 : l ≤ so_L m c W a3 → ∀ x g5 g6 g7 g8, post 0 (m, nI l, ba, x, a1, a2, a3, a4, g5, g6, g7, g8, a9))
    (H1 : so_L m c W a3 < l → ∀ x g5 g6 g7 g8, post 1 (m, nI l, ba, x, a1, a2, a3, a4, g5, g6, g7, g8, a9)) :
    wpX_worthwhile post (m, nI l, ba, t, a1, a2, a3, a4, a5, a6, a7, a8, a9) := by
  unfold wpX_worthwhile
  dsimp only
  refine so_loss C hc hV ?_
  have hL : so_L m c W a3 ≤ W := so_L_le
  have fin : ∀ g8 : Nat → Int32, (m = 1 → ¬ g8 0 ≤ 0 → ¬ so_F c a3) → ∃ n, wX_worthwhile_93 post n (nI (so_L m c W a3)) 0 m (nI l) ba t a1 a2 a3 a4 a5 a6 a7 g8 a9 :=
    fun g8 h => ⟨1, pk_le 25 0 (fun z => absurd z (by omega)) (fun _ => pk_le l (so_L m c W a3) (fun z => br_t (nI_le z (by omega)) (H0 z _ _ _ _ _)) (fun z => so_unit C hc (fun x g5 g6 g7 => br_f (by decide) (H1 z _ _ _ _ _)) hV h))⟩
  rcases C with e | ⟨e, e1, e2, w1, w2⟩
  · subst e
    exact ⟨1, br_t (by decide) (fin a8 (fun z => absurd z (by decide)))⟩
  · subst e
    refine ⟨2, br_f (by decide) ⟨pk_in 0 24 (by omega), ?_⟩⟩
    refine br_f (by rw [so_at0 e2]; exact nI_ne0 (by omega) (by omega)) ⟨pk_in 0 24 (by omega), ?_⟩
    refine br_f (by rw [so_at0 e2]; exact nI_nle (by omega) (by omega)) (so_open e1 hV (fun r hr => ?_))
    refine br_c (fun z => ?_) (fun z => ?_)
    · exact br_t rfl ⟨pk_in 0 24 (by omega), nm_r (e' := upd a8 0 0) (by rw [sb_cl0]) (nm_e (br_t (by decide) (fin (upd a8 0 0) (fun _ q => absurd (by rw [pk_us]; decide) q))))⟩
    · exact br_f (by decide) ⟨pk_in 0 24 (by omega), pk_in 0 24 (by omega), nm_e (nm_e (br_t (by decide) (fin _ (fun _ _ F => z ((so_O_F hr hc).mpr F)))))⟩
end
end
section
/-! ===== the search ===== -/
theorem so_blk {P q y x A : Nat} (hq : 1 ≤ q) (h1 : P + y * q ≤ A) (h2 : A < P + x * q) : ∃ z, y ≤ z ∧ z < x ∧ P + z * q ≤ A ∧ A < P + (z + 1) * q := by
  have d := Nat.div_add_mod (A - P) q
  have r := Nat.mod_lt (A - P) (show 0 < q by omega)
  refine ⟨(A - P) / q, (Nat.le_div_iff_mul_le (by omega)).mpr (by omega), (Nat.div_lt_iff_lt_mul (by omega)).mpr (by omega), ?_, ?_⟩
  · have t := Nat.div_mul_le_self (A - P) q
    have t2 : P ≤ A := by omega
    omega
  · rw [Nat.add_mul, Nat.one_mul, Nat.mul_comm]
    have t2 : P ≤ A := by omega
    omega
theorem so_muc {P q y x B B' : Nat} (hq : 1 ≤ q) (hb : P + 2 * q ≤ 256) (hy : y ≤ x) (hx : x < 2) (hB : B' + y = B + (x + 1)) : 4 * (256 - (P + (x + 1) * q)) + 2 * B' < 4 * (256 - (P + y * q)) + 2 * B := by
  have e : (x = 0 ∧ y = 0) ∨ (x = 1 ∧ y = 0) ∨ (x = 1 ∧ y = 1) := by omega
  rcases e with ⟨e, f⟩ | ⟨e, f⟩ | ⟨e, f⟩ <;> (subst e f; omega)
theorem so_mub {P q y x v B B' : Nat} (hq : 1 ≤ q) (hb : P + 2 * q ≤ 256) (hy : y ≤ x) (hx : x < 2) (hB : B' + y = B + (x + 1)) : 4 * (256 - (P + x * q)) + 2 * B' + 3 * v < 4 * (256 - (P + y * q)) + 2 * B + 3 * (v + 1) := by
  have e : (x = 0 ∧ y = 0) ∨ (x = 1 ∧ y = 0) ∨ (x = 1 ∧ y = 1) := by omega
  rcases e with ⟨e, f⟩ | ⟨e, f⟩ | ⟨e, f⟩ <;> (subst e f; omega)
theorem so_mud {P q y v B B' : Nat} (hq : 1 ≤ q) (hb : P + 2 * q ≤ 256) (hy : y ≤ 2) (hB : B' + y = B + 0) : 4 * (256 - (P + 2 * q)) + 2 * B' + 3 * (v + 2) < 4 * (256 - (P + y * q)) + 2 * B + 3 * (v + 1) := by
  have e : y = 0 ∨ y = 1 ∨ y = 2 := by omega
  rcases e with e | e | e <;> (subst e; omega)
/-- leaves that are skipped don't agree with what is given -/
theorem so_noG {g : Nat → Int32} {v P x y A : Nat} (hv : v < 8) (hP : P < 256) (hm : P % 2 ^ (v + 1) = 0) (hx : x ≤ 2) (hno : ∀ z, y ≤ z → z < x → ¬ (g v < 0 ∨ g v = nI z)) (h1 : P + y * 2 ^ v ≤ A) (h2 : A < P + x * 2 ^ v) : ¬ so_G g A := by
  obtain ⟨z, z1, z2, z3, z4⟩ := so_blk (Nat.one_le_two_pow) h1 h2
  intro G
  have t := G v hv
  rw [(so_bk hv hP hm (by omega) z3 z4).1] at t
  exact hno z z1 z2 t
/-- the leaves behind a value are no better than what is lost there already -/
theorem so_ext {m c : Int32} {W : Nat} {a : Nat → Int32} {v P x A : Nat} (hv : v < 8) (hP : P < 256) (hm : P % 2 ^ (v + 1) = 0) (hx : x < 2) (hhi : ∀ j, v + 1 ≤ j → j < 8 → a j = nI (P / 2 ^ j % 2)) (hlo : ∀ j, j + 1 < v + 1 → a j = -1) (h1 : P + x * 2 ^ v ≤ A) (h2 : A < P + (x + 1) * 2 ^ v) : so_L m c W (upd a v (nI x)) ≤ so_L m c W (so_ar A) := by
  obtain ⟨b1, b2⟩ := so_bk hv hP hm hx h1 h2
  refine so_L_mono (fun j hj => ?_)
  by_cases e : j = v
  · refine Or.inr ?_
    rw [e, pk_us]
    show nI x = nI (A / 2 ^ v % 2)
    rw [b1]
  · rw [pk_un e]
    by_cases f : j < v
    · exact Or.inl (hlo j (by omega))
    · refine Or.inr ?_
      rw [hhi j (by omega) hj]
      show nI (P / 2 ^ j % 2) = nI (A / 2 ^ j % 2)
      rw [b2 j hj (by omega)]
section
variable {m bl ba t : Int32} {a1 a2 a3 a4 a5 a6 a7 a8 a9 : Nat → Int32}
theorem so_s38 {post : St2 → Prop} {c : Int32} {W : Nat} (C : so_C m c W a1 a2) (hc : ∀ i, 16 ≤ i → zb_t c i = false) (hW : W ≤ 50)
    (H : ∀ l ba x g3 g5 g6 g7 g8, so_T (so_G a4) (fun A => so_L m c W (so_ar A)) 256 l ba → post (m, nI l, ba, x, a1, a2, g3, a4, g5, g6, g7, g8, a9)) :
    ∀ (n p P D l s : Nat) (x1 ba t : Int32) (a3 a5 a6 a7 a8 : Nat → Int32), x1 = nI p - 1 → p ≤ 8 → P < 256 → P % 2 ^ p = 0 → (∀ j, j < 8 → so_V (a3 j)) →
      (∀ j, p ≤ j → j < 8 → a3 j = nI (P / 2 ^ j % 2)) → (∀ j, j + 1 < p → a3 j = -1) → (∀ j, p ≤ j → j < 8 → a4 j < 0 ∨ a4 j = nI (P / 2 ^ j % 2)) →
      (p = 0 → D = P ∧ so_L m c W a3 < l) → (∀ v, p = v + 1 → D = P + so_b (a3 v) * 2 ^ v) →
      so_T (so_G a4) (fun A => so_L m c W (so_ar A)) D l ba → l ≤ 2000 →
      4 * (256 - D) + 2 * so_B a3 + 3 * p < n → s + (4 * (256 - D) + 2 * so_B a3 + 3 * p) ≤ 1048 →
      wX_search_38 post n x1 (nI s) m (nI l) ba t a1 a2 a3 a4 a5 a6 a7 a8 a9 := by
  intro n
  induction n with
  | zero => intro p P D l s x1 ba t a3 a5 a6 a7 a8 hx hp hP hm hV hhi hlo hg h0 hv hT hl hn hs; omega
  | succ n ih =>
    intro p P D l s x1 ba t a3 a5 a6 a7 a8 hx hp hP hm hV hhi hlo hg h0 hv hT hl hn hs
    have hf : ∀ A, so_L m c W (so_ar A) < 2000 := fun A => by
      have : so_L m c W (so_ar A) ≤ W := so_L_le
      omega
    cases p with
    | zero =>
      have ex : x1 = -1 := hx.trans (by decide)
      subst ex
      obtain ⟨eD, hlt⟩ := h0 rfl
      subst eD
      have hA : ∀ j, j < 8 → a3 j = nI (D / 2 ^ j % 2) := fun j hj => hhi j (Nat.zero_le j) hj
      have eL : so_L m c W a3 = so_L m c W (so_ar D) := so_L_eq hA
      obtain ⟨u1, u2, u3, u4⟩ := so_up 0 (by omega) D hP hm
      refine pk_le 2000 s (fun z => absurd z (by omega)) (fun _ => br_f (by decide) (br_f (by decide) ?_))
      refine so_leaf C hc hV hP hA ?_
      refine nm_r (nI_1 s) ?_
      have hT' := so_T_take hT (fun j hj => hg j (Nat.zero_le j) hj) (by rw [← eL]; exact hlt)
      have hT2 : so_T (so_G a4) (fun A => so_L m c W (so_ar A)) (D + 1) (so_L m c W a3) (nI D) := by rw [eL]; exact hT'
      refine ih 1 (D / 2 ^ (0 + 1) * 2 ^ (0 + 1)) (D + 1) (so_L m c W a3) (s + 1) 0 (nI D) t a3 a5 a6 a7 a8 (by decide) (by omega) u1 u2 hV (fun j h1 hj => ?_) (fun j hj => absurd hj (by omega)) (fun j h1 hj => ?_) (fun z => absurd z (by omega)) (fun v ev => ?_) hT2 (by omega) (by omega) (by omega)
      · rw [u4 j hj h1]
        exact hA j hj
      · rw [u4 j hj h1]
        exact hg j (Nat.zero_le j) hj
      · have e0 : v = 0 := by omega
        subst e0
        rw [hA 0 (by omega), so_b_n _ (by omega), Nat.add_mul, ← Nat.add_assoc, u3]
    | succ v =>
      have ex : x1 = nI v := hx.trans (nI_pred v)
      subst ex
      have hv8 : v < 8 := by omega
      have eD := hv v rfl
      obtain ⟨d1, d2⟩ := so_dn v hv8 P hP hm
      have hq : 1 ≤ 2 ^ v := Nat.one_le_two_pow
      have hb2 := so_b_le (a3 v)
      refine pk_le 2000 s (fun z => absurd z (by omega)) (fun _ => pk_le 8 v (fun z => absurd z (by omega)) (fun _ => pk_le 0 v (fun _ => ?_) (fun z => absurd z (by omega))))
      refine so_next hv8 (hV v hv8) (fun x hx1 hx2 hok hno => ?_) (fun hno => ?_)
      · refine ⟨pk_in v 8 hv8, nm_r (e' := upd a3 v (nI x)) (by rw [nI_clamp (by omega)]) ⟨pk_in v 8 hv8, br_t ?_ ?_⟩⟩
        · rw [nI_clamp (by omega), pk_us]
          exact nI_pos' (by omega)
        have hV' := so_V_u (v := v) hV (so_V_n hx2)
        have hB := so_B_u (a := a3) hv8 (nI x)
        rw [so_b_n x hx2] at hB
        obtain ⟨k1, k2, k3, k4⟩ := d2 x hx2
        refine so_worth C hc hW hV' hl (fun hle x' g5 g6 g7 g8 => ?_) (fun hlt x' g5 g6 g7 g8 => ?_)
        · have mu := so_muc hq d1 hx1 hx2 hB
          rw [eD] at hn hs hT
          refine br_t rfl (nm_r (nI_1 s) ?_)
          refine ih (v + 1) P (P + (x + 1) * 2 ^ v) l (s + 1) (nI v) ba x' (upd a3 v (nI x)) g5 g6 g7 g8 (nI_pred v).symm hp hP hm hV' (fun j h1 hj => ?_) (fun j hj => ?_) hg (fun z => absurd z (by omega)) (fun w ew => ?_) (so_T_skip hT hf (fun A hA1 hA2 hG => ?_) ?_) hl (by omega) (by omega)
          · rw [pk_un (by omega)]
            exact hhi j h1 hj
          · rw [pk_un (by omega)]
            exact hlo j hj
          · have ew' : w = v := by omega
            rw [ew', pk_us, so_b_n x hx2]
          · by_cases e : A < P + x * 2 ^ v
            · exact absurd hG (so_noG hv8 hP hm (by omega) hno hA1 e)
            · exact Nat.le_trans hle (so_ext hv8 hP hm hx2 hhi hlo (by omega) hA2)
          · exact Nat.add_le_add_left (Nat.mul_le_mul_right _ (by omega)) _
        · have mu := so_mub (v := v) hq d1 hx1 hx2 hB
          rw [eD] at hn hs hT
          refine br_f (by decide) (nm_e (nm_r (nI_1 s) ?_))
          refine ih v (P + x * 2 ^ v) (P + x * 2 ^ v) l (s + 1) (nI v - 1) ba x' (upd a3 v (nI x)) g5 g6 g7 g8 rfl (by omega) k1 k2 hV' (fun j h1 hj => ?_) (fun j hj => ?_) (fun j h1 hj => ?_) (fun z => ⟨rfl, hlt⟩) (fun w ew => ?_) (so_T_skip hT hf (fun A hA1 hA2 hG => ?_) ?_) hl (by omega) (by omega)
          · by_cases e : j = v
            · rw [e, pk_us, k3]
            · rw [pk_un e, k4 j hj (by omega)]
              exact hhi j (by omega) hj
          · rw [pk_un (by omega)]
            exact hlo j (by omega)
          · by_cases e : j = v
            · rw [e, k3]
              exact hok
            · rw [k4 j hj (by omega)]
              exact hg j (by omega) hj
          · rw [pk_un (by omega), hlo w (by omega), so_b_m, Nat.zero_mul, Nat.add_zero]
          · exact absurd hG (so_noG hv8 hP hm (by omega) hno hA1 hA2)
          · exact Nat.add_le_add_left (Nat.mul_le_mul_right _ hx1) _
      · refine ⟨pk_in v 8 hv8, nm_r (e' := upd a3 v (-1)) (by rw [nI_clamp (by omega)]) ⟨pk_in v 8 hv8, br_f ?_ ?_⟩⟩
        · rw [nI_clamp (by omega), pk_us]
          decide
        have hV' := so_V_u (v := v) hV (x := -1) (Or.inl rfl)
        have hB := so_B_u (a := a3) hv8 (-1)
        rw [so_b_m] at hB
        have mu := so_mud (v := v) hq d1 hb2 hB
        rw [eD] at hn hs hT
        have hT' : so_T (so_G a4) (fun A => so_L m c W (so_ar A)) (P + 2 * 2 ^ v) l ba := so_T_skip hT hf (fun A hA1 hA2 hG => absurd hG (so_noG hv8 hP hm (by omega) hno hA1 hA2)) (Nat.add_le_add_left (Nat.mul_le_mul_right _ hb2) _)
        refine nm_r (nI_1 v) (nm_r (nI_1 s) ?_)
        by_cases e8 : v = 7
        · subst e8
          have hP0 : P = 0 := by omega
          subst hP0
          cases n with
          | zero => omega
          | succ n => exact pk_le 2000 (s + 1) (fun z => absurd z (by omega)) (fun _ => pk_le 8 8 (fun _ => H _ _ _ _ _ _ _ _ hT') (fun z => absurd z (by omega)))
        · obtain ⟨u1, u2, u3, u4⟩ := so_up (v + 1) (by omega) P hP hm
          refine ih (v + 2) (P / 2 ^ (v + 1 + 1) * 2 ^ (v + 1 + 1)) (P + 2 * 2 ^ v) l (s + 1) (nI (v + 1)) ba t (upd a3 v (-1)) a5 a6 a7 a8 (nI_pred (v + 1)).symm (by omega) u1 u2 hV' (fun j h1 hj => ?_) (fun j hj => ?_) (fun j h1 hj => ?_) (fun z => absurd z (by omega)) (fun w ew => ?_) hT' hl (by omega) (by omega)
          · rw [pk_un (by omega), u4 j hj (by omega)]
            exact hhi j (by omega) hj
          · by_cases e : j = v
            · rw [e, pk_us]
            · rw [pk_un e]
              exact hlo j (by omega)
          · rw [u4 j hj (by omega)]
            exact hg j (by omega) hj
          · have ew' : w = v + 1 := by omega
            subst ew'
            rw [pk_un (by omega), hhi (v + 1) (by omega) (by omega), so_b_n _ (by omega), Nat.add_mul, ← Nat.add_assoc, u3, Nat.pow_succ]
            omega
theorem so_search {post : St2 → Prop} {c : Int32} {W : Nat} (C : so_C m c W a1 a2) (hc : ∀ i, 16 ≤ i → zb_t c i = false) (hW : W ≤ 50)
    (H : ∀ l ba x g3 g5 g6 g7 g8, so_T (so_G a4) (fun A => so_L m c W (so_ar A)) 256 l ba → post (m, nI l, ba, x, a1, a2, g3, a4, g5, g6, g7, g8, a9)) :
    wpX_search post (m, bl, ba, t, a1, a2, a3, a4, a5, a6, a7, a8, a9) := by
  refine pk_loop (fun n i s => wX_search_14 post m 2000 (-1) t n (nI i) a1 a2 s a4 a5 a6 a7 a8 a9) (fun i s => ∀ j, j < i → s j = -1) 8 0 a3 (by omega) (fun j hj => absurd hj (by omega)) ?_ ?_
  · intro n s h
    refine pk_le 8 8 (fun _ => ⟨1049, ?_⟩) (fun z => absurd z (by omega))
    have hB : so_B s = 0 := by
      unfold so_B
      rw [h 0 (by omega), h 1 (by omega), h 2 (by omega), h 3 (by omega), h 4 (by omega), h 5 (by omega), h 6 (by omega), h 7 (by omega), so_b_m]
    exact so_s38 C hc hW H 1049 8 0 0 2000 0 7 (-1) t s a5 a6 a7 a8 (by decide) (by omega) (by omega) (by decide) (fun j hj => Or.inl (h j hj)) (fun j h1 h2 => absurd h1 (by omega)) (fun j hj => h j (by omega)) (fun j h1 h2 => absurd h1 (by omega)) (fun z => absurd z (by omega)) (fun v ev => by rw [h v (by omega), so_b_m, Nat.zero_mul]) (Or.inl ⟨rfl, rfl, fun A hA => absurd hA (by omega)⟩) (by omega) (by omega) (by omega)
  · intro n i s hi h hw
    exact pk_le 8 i (fun z => absurd z (by omega)) (fun _ => ⟨pk_in i 8 hi, nm_e (nm_r (nI_1 i) (hw _ (so_fl (f := fun _ => -1) (nI_clamp (by omega)) h rfl)))⟩)
end
end
section
/-! ===== the public methods, and the law's least ===== -/
/-- A is the first of the least -/
def so_M (f : Nat → Nat) (A : Nat) : Prop := A < 256 ∧ ∀ A', A' < 256 → f A ≤ f A' ∧ (A' < A → f A < f A')
theorem so_T_all {g : Nat → Int32} {f : Nat → Nat} {l : Nat} {ba : Int32} (hg : ∀ j, j < 8 → g j = -1) (h : so_T (so_G g) f 256 l ba) : ∃ A, so_M f A ∧ ba = nI A ∧ l = f A := by
  have G : ∀ A, so_G g A := fun A j hj => Or.inl (by rw [hg j hj]; decide)
  rcases h with ⟨_, _, h3⟩ | ⟨A, h1, _, h3, h4, h5⟩
  · exact absurd (G 0) (h3 0 (by omega))
  · exact ⟨A, ⟨h1, fun A' hA => h5 A' hA (G A')⟩, h3, h4⟩
/-- what lossAgainst has given, behind the literals below i -/
def so_A (x0 : Int32) (i : Nat) (g : Nat → Int32) : Prop := (∀ k, k < i → zb_t x0 k = true → g (k / 2) = nI (k % 2)) ∧ (∀ j, j < 8 → g j = -1 ∨ ∃ k, k < i ∧ zb_t x0 k = true ∧ k / 2 = j ∧ g j = nI (k % 2))
theorem so_A_0 {x0 : Int32} {g : Nat → Int32} (hg : ∀ j, j < 8 → g j = -1) : so_A x0 0 g := ⟨fun k hk => absurd hk (by omega), fun j hj => Or.inl (hg j hj)⟩
theorem so_A_k {x0 : Int32} {i : Nat} {g : Nat → Int32} (h : so_A x0 i g) (hb : zb_t x0 i = false) : so_A x0 (i + 1) g := by
  refine ⟨fun k hk hz => ?_, fun j hj => ?_⟩
  · by_cases e : k = i
    · rw [e, hb] at hz
      exact absurd hz (by decide)
    · exact h.1 k (by omega) hz
  · rcases h.2 j hj with q | ⟨k, q1, q2⟩
    · exact Or.inl q
    · exact Or.inr ⟨k, by omega, q2⟩
theorem so_A_t {x0 : Int32} {i : Nat} {g : Nat → Int32} (h : so_A x0 i g) (hb : zb_t x0 i = true) (hg : g (i / 2) < 0 ∨ g (i / 2) = nI (i % 2)) : so_A x0 (i + 1) (upd g (i / 2) (nI (i % 2))) := by
  refine ⟨fun k hk hz => ?_, fun j hj => ?_⟩
  · by_cases e : k / 2 = i / 2
    · rw [e, pk_us]
      by_cases e2 : k = i
      · rw [e2]
      · have t := h.1 k (by omega) hz
        rw [e] at t
        rcases hg with q | q
        · rw [t] at q
          exact absurd q (nI_pos (by omega))
        · rw [← q, t]
    · rw [pk_un e]
      exact h.1 k (by omega) hz
  · by_cases e : j = i / 2
    · exact Or.inr ⟨i, by omega, hb, e.symm, by rw [e, pk_us]⟩
    · rw [pk_un e]
      rcases h.2 j hj with q | ⟨k, q1, q2⟩
      · exact Or.inl q
      · exact Or.inr ⟨k, by omega, q2⟩
theorem so_A_x {x0 : Int32} {i : Nat} {g : Nat → Int32} (h : so_A x0 i g) (hi : i < 16) (hb : zb_t x0 i = true) (h1 : ¬ g (i / 2) < 0) (h2 : ¬ g (i / 2) = nI (i % 2)) (A : Nat) : ¬ so_F x0 (so_ar A) := by
  intro F
  rcases h.2 (i / 2) (by omega) with q | ⟨k, q1, q2, q3, q4⟩
  · rw [q] at h1
    exact h1 (by decide)
  · have t1 := F i hi hb
    have t2 := F k (by omega) q2
    rw [q3] at t2
    exact h2 (q4.trans (t2.symm.trans t1))
theorem so_A_G {x0 : Int32} {g : Nat → Int32} {A : Nat} (h : so_A x0 16 g) (hG : so_G g A) : so_F x0 (so_ar A) := by
  intro k hk hz
  have t := h.1 k hk hz
  rcases hG (k / 2) (by omega) with q | q
  · rw [t] at q
    exact absurd q (nI_pos (by omega))
  · exact q.symm.trans t
theorem so_A_e {x0 : Int32} {g : Nat → Int32} (h : so_A x0 16 g) : ∃ A, A < 256 ∧ so_G g A := by
  obtain ⟨A, hA, e⟩ := so_ex (fun j => decide (g j = 1))
  refine ⟨A, hA, fun j hj => ?_⟩
  rcases h.2 j hj with q | ⟨k, q1, q2, q3, q4⟩
  · exact Or.inl (by rw [q]; decide)
  · refine Or.inr ?_
    rw [e j hj]
    have ek : k % 2 = 0 ∨ k % 2 = 1 := by omega
    rcases ek with ek | ek
    · rw [ek] at q4
      rw [q4]
      rfl
    · rw [ek] at q4
      rw [q4]
      rfl
/-- what least answers -/
def so_S (Q : Nat → Prop) (r : Int32) : Prop := (∃ A, A < 256 ∧ r = nI A ∧ Q A ∧ ∀ A', A' < A → ¬ Q A') ∨ (r = -1 ∧ ∀ A, A < 256 → ¬ Q A)
theorem so_l14 {post J2 : Int32 → Prop} {x0 x1 : Int32} {A : Nat} (hA : A < 256) (H : ∀ z : Int32, (z = 0 ∧ so_F x0 (so_ar A)) ∨ (z = 1 ∧ ¬ so_F x0 (so_ar A)) → ((z = x1 → post (nI A)) ∧ (¬ z = x1 → J2 (nI (A + 1))))) : ∃ n, wL_least_14 post J2 x0 x1 (nI A) n 0 0 := by
  refine pk_loop (fun n i s => wL_least_14 post J2 x0 x1 (nI A) n s (nI i)) (fun i s => (s = 0 ∧ ∀ k, k < i → zb_t x0 k = true → so_ar A (k / 2) = nI (k % 2)) ∨ (s = 1 ∧ ¬ so_F x0 (so_ar A))) 16 0 0 (by omega) (Or.inl ⟨rfl, fun k hk => absurd hk (by omega)⟩) ?_ ?_
  · intro n s h
    exact pk_le 16 16 (fun _ => br_c (fun e => (H s h).1 e) (fun e => nm_r (nI_1 A) ((H s h).2 e))) (fun z => absurd z (by omega))
  · intro n i s hi h hw
    refine pk_le 16 i (fun z => absurd z (by omega)) (fun _ => br_c (fun g => nm_r (nI_1 i) (hw s ?_)) (fun g => ?_))
    · rcases h with ⟨h1, h2⟩ | h
      · refine Or.inl ⟨h1, fun k hk hz => ?_⟩
        by_cases e : k = i
        · rw [e, (zb_bs x0 i (by omega)).mp g] at hz
          exact absurd hz (by decide)
        · exact h2 k (by omega) hz
      · exact Or.inr h
    · have hb : zb_t x0 i = true := zb_nf (fun z => g ((zb_bs x0 i (by omega)).mpr z))
      rw [zb_half hi, zb_nb hA (i / 2) (by omega), zb_odd hi]
      refine br_c (fun g2 => nm_r (nI_1 i) (hw s ?_)) (fun g2 => nm_r (nI_1 i) (hw 1 (Or.inr ⟨rfl, fun F => g2 (F i hi hb)⟩)))
      rcases h with ⟨h1, h2⟩ | h
      · refine Or.inl ⟨h1, fun k hk hz => ?_⟩
        by_cases e : k = i
        · rw [e]
          exact g2
        · exact h2 k (by omega) hz
      · exact Or.inr h
theorem so_least {post : Int32 → Prop} {x0 x1 : Int32} {Q : Nat → Prop} (hQ : ∀ (A : Nat) (z : Int32), ((z = 0 ∧ so_F x0 (so_ar A)) ∨ (z = 1 ∧ ¬ so_F x0 (so_ar A))) → (z = x1 ↔ Q A)) (H : ∀ r, so_S Q r → post r) : wpL_least post () x0 x1 :=
  pk_loop (σ := Unit) (fun n i _ => wL_least_2 post x0 x1 n (nI i)) (fun i _ => ∀ A', A' < i → ¬ Q A') 256 0 () (by omega) (fun A hA => absurd hA (by omega))
    (fun n _ h => pk_le 256 256 (fun _ => H _ (Or.inr ⟨rfl, h⟩)) (fun z => absurd z (by omega)))
    (fun n i _ hi h hw => pk_le 256 i (fun z => absurd z (by omega)) (fun _ => so_l14 hi (fun z hz => ⟨fun e => H _ (Or.inl ⟨i, hi, rfl, (hQ i z hz).mp e, h⟩), fun e => hw () (lt_s h (fun q => e ((hQ i z hz).mpr q)))⟩)))
section
variable {m bl ba t : Int32} {a1 a2 a3 a4 a5 a6 a7 a8 a9 : Nat → Int32}
theorem so_mloss {post : Int32 → St2 → Prop} {c : Int32} {W : Nat} (C : so_C m c W a1 a2) (hc : ∀ i, 16 ≤ i → zb_t c i = false) (hW : W ≤ 50)
    (H : ∀ A, so_M (fun A => so_L m c W (so_ar A)) A → ∀ y1 y2 y3 g3 g4 g5 g6 g7 g8, post (nI (so_L m c W (so_ar A))) (m, y1, y2, y3, a1, a2, g3, g4, g5, g6, g7, g8, a9)) :
    wpX_loss post (m, bl, ba, t, a1, a2, a3, a4, a5, a6, a7, a8, a9) := by
  unfold wpX_loss
  dsimp only
  refine so_free (fun g hg => ?_)
  dsimp only
  refine so_search C hc hW (fun l ba' x g3 g5 g6 g7 g8 hT => ?_)
  obtain ⟨A, hM, e1, e2⟩ := so_T_all hg hT
  subst e1 e2
  exact br_f (nI_pos (by have := hM.1; omega)) (H A hM _ _ _ _ _ _ _ _ _)
theorem so_mbest {post : Int32 → St2 → Prop} {c : Int32} {W : Nat} (C : so_C m c W a1 a2) (hc : ∀ i, 16 ≤ i → zb_t c i = false) (hW : W ≤ 50)
    (H : ∀ A, so_M (fun A => so_L m c W (so_ar A)) A → ∀ y1 y2 y3 g3 g4 g5 g6 g7 g8, post (nI A) (m, y1, y2, y3, a1, a2, g3, g4, g5, g6, g7, g8, a9)) :
    wpX_best post (m, bl, ba, t, a1, a2, a3, a4, a5, a6, a7, a8, a9) := by
  unfold wpX_best
  dsimp only
  refine so_free (fun g hg => ?_)
  dsimp only
  refine so_search C hc hW (fun l ba' x g3 g5 g6 g7 g8 hT => ?_)
  obtain ⟨A, hM, e1, e2⟩ := so_T_all hg hT
  subst e1 e2
  exact H A hM _ _ _ _ _ _ _ _ _
theorem so_magn {post : Int32 → St2 → Prop} {c x0 : Int32} {W : Nat} (C : so_C m c W a1 a2) (hc : ∀ i, 16 ≤ i → zb_t c i = false) (hW : W ≤ 50)
    (Hn : (∀ A, ¬ so_F x0 (so_ar A)) → ∀ y1 y2 y3 g3 g4 g5 g6 g7 g8, post (-1) (m, y1, y2, y3, a1, a2, g3, g4, g5, g6, g7, g8, a9))
    (Hy : ∀ A, A < 256 → so_F x0 (so_ar A) → ∀ y1 y2 y3 g3 g4 g5 g6 g7 g8, post (nI (so_L m c W (so_ar A))) (m, y1, y2, y3, a1, a2, g3, g4, g5, g6, g7, g8, a9)) :
    wpX_lossAgainst post (m, bl, ba, t, a1, a2, a3, a4, a5, a6, a7, a8, a9) x0 := by
  unfold wpX_lossAgainst
  dsimp only
  refine so_free (fun g hg => ?_)
  refine pk_loop (fun n i s => wX_lossAgainst_6 post x0 m bl ba t n (nI i) a1 a2 a3 s a5 a6 a7 a8 a9) (fun i s => so_A x0 i s) 16 0 g (by omega) (so_A_0 hg) ?_ ?_
  · intro n s h
    refine pk_le 16 16 (fun _ => so_search C hc hW (fun l ba' x g3 g5 g6 g7 g8 hT => ?_)) (fun z => absurd z (by omega))
    rcases hT with ⟨_, _, h3⟩ | ⟨A, h1, h2, h3, h4, h5⟩
    · obtain ⟨A, hA, hG⟩ := so_A_e h
      exact absurd hG (h3 A hA)
    · subst h3 h4
      exact br_f (nI_pos (by omega)) (Hy A h1 (so_A_G h h2) _ _ _ _ _ _ _ _ _)
  · intro n i s hi h hw
    refine pk_le 16 i (fun z => absurd z (by omega)) (fun _ => br_c (fun g1 => nm_r (nI_1 i) (hw s (so_A_k h ((zb_bu x0 i (by omega)).mp g1)))) (fun g1 => ?_))
    have hb : zb_t x0 i = true := zb_nf (fun z => g1 ((zb_bu x0 i (by omega)).mpr z))
    refine nm_r (zb_half hi) (nm_r (zb_odd hi) ⟨pk_in (i / 2) 8 (by omega), ?_⟩)
    rw [nI_clamp (show i / 2 < 2 ^ 31 by omega)]
    exact br_c (fun g2 => ⟨pk_in (i / 2) 8 (by omega), nm_e (nm_r (nI_1 i) (hw _ (so_A_t h hb (Or.inl g2))))⟩) (fun g2 => ⟨pk_in (i / 2) 8 (by omega), br_c (fun g3 => ⟨pk_in (i / 2) 8 (by omega), nm_e (nm_r (nI_1 i) (hw _ (so_A_t h hb (Or.inr g3))))⟩) (fun g3 => Hn (so_A_x h hi hb g2 g3) _ _ _ _ _ _ _ _ _)⟩)
theorem so_hold {post : Int32 → Prop} {c : Int32} {A : Nat} (hA : A < 256) (hc : a1 0 = c) (H0 : so_F c (so_ar A) → post 0) (H1 : ¬ so_F c (so_ar A) → post 1) : wpX_holdsFor post (m, bl, ba, t, a1, a2, a3, a4, a5, a6, a7, a8, a9) 0 (nI A) := by
  refine pk_loop (σ := Unit) (fun n i _ => wX_holdsFor_2 post 0 (nI A) m bl ba t a1 a2 a3 a4 a5 a6 a7 a8 a9 n (nI i)) (fun i _ => ∀ u, u < i → zb_t c (2 * u + 1 - A / 2 ^ u % 2) = false) 8 0 () (by omega) (fun u hu => absurd hu (by omega)) ?_ ?_
  · intro n _ h
    refine pk_le 8 8 (fun _ => H0 (fun i hi hz => ?_)) (fun z => absurd z (by omega))
    show nI (A / 2 ^ (i / 2) % 2) = nI (i % 2)
    have t := h (i / 2) (by omega)
    by_cases e : A / 2 ^ (i / 2) % 2 = i % 2
    · rw [e]
    · rw [show 2 * (i / 2) + 1 - A / 2 ^ (i / 2) % 2 = i by omega, hz] at t
      exact absurd t (by decide)
  · intro n i _ hi h hw
    refine pk_le 8 i (fun z => absurd z (by omega)) (fun _ => nm_r (e' := nI (2 * i + 1 - A / 2 ^ i % 2)) ?_ ⟨pk_in 0 24 (by omega), ?_⟩)
    · rw [zb_nu hA i (by omega), show (2 : Int32) * nI i = nI (2 * i) from pk_mul 2 i, nI_1, pk_sub (by omega)]
    · rw [so_at0 hc]
      refine br_c (fun g => nm_r (nI_1 i) (hw () (lt_s h ((zb_bu c _ (by omega)).mp g)))) (fun g => H1 (fun F => ?_))
      have hb : zb_t c (2 * i + 1 - A / 2 ^ i % 2) = true := zb_nf (fun z => g ((zb_bu c _ (by omega)).mpr z))
      have t := F _ (by omega) hb
      rw [show (2 * i + 1 - A / 2 ^ i % 2) / 2 = i by omega] at t
      have t' : nI (A / 2 ^ i % 2) = nI ((2 * i + 1 - A / 2 ^ i % 2) % 2) := t
      rw [nI_eq (by omega) (by omega)] at t'
      omega
theorem so_mkept {post : Int32 → St2 → Prop} {c : Int32} {W : Nat} (C : so_C m c W a1 a2) (hc : ∀ i, 16 ≤ i → zb_t c i = false) (hW : W ≤ 50)
    (H0 : ∀ A, so_M (fun A => so_L m c W (so_ar A)) A → (m = 0 ∨ so_F c (so_ar A)) → ∀ y1 y2 y3 g3 g4 g5 g6 g7 g8, post 0 (m, y1, y2, y3, a1, a2, g3, g4, g5, g6, g7, g8, a9))
    (H1 : ∀ A, so_M (fun A => so_L m c W (so_ar A)) A → m = 1 → ¬ so_F c (so_ar A) → ∀ y1 y2 y3 g3 g4 g5 g6 g7 g8, post 1 (m, y1, y2, y3, a1, a2, g3, g4, g5, g6, g7, g8, a9)) :
    wpX_kept post (m, bl, ba, t, a1, a2, a3, a4, a5, a6, a7, a8, a9) := by
  unfold wpX_kept
  dsimp only
  refine so_free (fun g hg => ?_)
  dsimp only
  refine so_search C hc hW (fun l ba' x g3 g5 g6 g7 g8 hT => ?_)
  obtain ⟨A, hM, e1, e2⟩ := so_T_all hg hT
  subst e1 e2
  have hA := hM.1
  dsimp only
  refine br_t (nI_pos' (by omega)) ?_
  rcases C with e | ⟨e, e1, e2, w1, w2⟩
  · subst e
    exact ⟨1, br_t (by decide) (H0 A hM (Or.inl rfl) _ _ _ _ _ _ _ _ _)⟩
  · subst e
    refine ⟨2, br_f (by decide) ⟨pk_in 0 24 (by omega), br_f (by rw [so_at0 e2]; exact nI_nle (by omega) (by omega)) ?_⟩⟩
    exact so_hold hA e1 (fun F => br_t rfl (nm_r (e' := 0) (by decide) (nm_e (br_t (by decide) (H0 A hM (Or.inr F) _ _ _ _ _ _ _ _ _))))) (fun F => br_f (by decide) (nm_r (e' := 1) (by decide) (nm_e (br_t (by decide) (H1 A hM rfl F _ _ _ _ _ _ _ _ _)))))
theorem so_mdrop {post : Int32 → St2 → Prop} {x2 : Int32} (hm : m = 0 ∨ m = 1) (H : ∀ r, ((m = 1 ∧ x2 = 0 ∧ r = 0) ∨ ((m = 0 ∨ x2 ≠ 0) ∧ r = -1)) → ∀ y, post r (y, bl, ba, t, a1, a2, a3, a4, a5, a6, a7, a8, a9)) :
    wpX_drop post (m, bl, ba, t, a1, a2, a3, a4, a5, a6, a7, a8, a9) x2 := by
  rcases hm with e | e
  · subst e
    exact br_c (fun _ => H (-1) (Or.inr ⟨Or.inl rfl, rfl⟩) _) (fun g => br_f g (H (-1) (Or.inr ⟨Or.inl rfl, rfl⟩) _))
  · subst e
    refine br_c (fun g => H (-1) (Or.inr ⟨Or.inr (fun e => ?_), rfl⟩) _) (fun g => br_c (fun g2 => ?_) (fun g2 => H (-1) (Or.inr ⟨Or.inr (fun e => ?_), rfl⟩) _))
    · rw [e] at g
      exact absurd g (by decide)
    · obtain ⟨j, hj, e⟩ := nI_of g
      subst e
      have g3 : nI j < nI 1 := g2
      rw [nI_ltI hj (by omega)] at g3
      have ej : j = 0 := by omega
      subst ej
      exact nm_r (e' := 0) (by decide) ⟨1, br_t (by decide) (H 0 (Or.inl ⟨rfl, rfl, rfl⟩) 0)⟩
    · rw [e] at g2
      exact absurd (by decide) g2
theorem so_msoft {post : Int32 → St2 → Prop} {x0 x1 : Int32} (H0 : (x1 < 1 ∨ ¬ x1 ≤ 50) → post (-1) (0, bl, ba, t, a1, a2, a3, a4, a5, a6, a7, a8, a9))
    (H1 : ¬ x1 < 1 → x1 ≤ 50 → post 1 (1, bl, ba, t, upd a1 0 (x0 &&& 65535), upd a2 0 x1, a3, a4, a5, a6, a7, a8, a9)) :
    wpX_soft post (0, bl, ba, t, a1, a2, a3, a4, a5, a6, a7, a8, a9) x0 x1 := by
  refine br_c (fun g => H0 (Or.inl g)) (fun g => br_c (fun g2 => ?_) (fun g2 => H0 (Or.inr g2)))
  unfold wpX_addClause
  exact br_t (by decide) ⟨pk_in 0 24 (by omega), nm_r (e' := upd a1 0 (x0 &&& 65535)) (by rw [sb_cl0]) ⟨pk_in 0 24 (by omega), nm_r (e' := upd a2 0 x1) (by rw [sb_cl0]) (nm_r (e' := 1) (by decide) (H1 g g2))⟩⟩
end
end
section
/-! ===== the law ===== -/
theorem so_fx {c x0 : Int32} {a : Nat → Int32} (h : ∀ i, i < 16 → zb_t c i = zb_t x0 i) : so_F c a ↔ so_F x0 a :=
  ⟨fun F i hi hz => F i hi ((h i hi).trans hz), fun F i hi hz => F i hi ((h i hi).symm.trans hz)⟩
/-- if the first best makes the clause false, all do -/
theorem so_M_F {c : Int32} {W A : Nat} (hW : 1 ≤ W) (hM : so_M (fun A => so_L 1 c W (so_ar A)) A) (F : so_F c (so_ar A)) : ∀ A', A' < 256 → so_F c (so_ar A') := by
  intro A' hA
  refine Classical.byContradiction (fun z => ?_)
  have t : so_L 1 c W (so_ar A) ≤ so_L 1 c W (so_ar A') := (hM.2 A' hA).1
  rw [so_L_t rfl F, so_L_f z] at t
  omega
/-- else those below it do -/
theorem so_M_n {c : Int32} {W A : Nat} (hM : so_M (fun A => so_L 1 c W (so_ar A)) A) : ∀ A', A' < A → so_F c (so_ar A') := by
  intro A' hA
  refine Classical.byContradiction (fun z => ?_)
  have h1 := hM.1
  have t : so_L 1 c W (so_ar A) < so_L 1 c W (so_ar A') := (hM.2 A' (by omega)).2 hA
  rw [so_L_f z] at t
  omega
/-- nothing to tell them apart: the first one -/
theorem so_M_0 {f : Nat → Nat} {A : Nat} (hM : so_M f A) (h : f A = f 0) : A = 0 := by
  refine Classical.byContradiction (fun z => ?_)
  have t := (hM.2 0 (by omega)).2 (by omega)
  omega
/-- what the law knows of the solver: x4 says whether there is a clause -/
def so_K (m x4 x1 : Int32) (W : Nat) : Prop := (m = 0 ∧ x4 = 0) ∨ (m = 1 ∧ x4 = 1 ∧ x1 = nI W ∧ 1 ≤ W)
section
variable {m bl ba t : Int32} {a1 a2 a3 a4 a5 a6 a7 a8 a9 : Nat → Int32} {post : Int32 → St0 → Prop} {mc ms kc ks : Nat} {x0 x1 x2 x4 x5 x6 z c : Int32} {W : Nat}
theorem so_s154 (hp : post 1 ()) (h4 : so_K m x4 x1 W) : wL_lawOf_154 post mc ms x2 x4 z z kc ks m bl ba t a1 a2 a3 a4 a5 a6 a7 a8 a9 := by
  refine br_t rfl (so_mdrop (h4.elim (fun q => Or.inl q.1) (fun q => Or.inr q.1)) (fun r hr y => ?_))
  rcases h4 with ⟨q1, q2⟩ | ⟨q1, q2, q3, q4⟩
  · rcases hr with ⟨w, _⟩ | ⟨_, er⟩
    · exact absurd (q1.symm.trans w) (by decide)
    · subst er
      exact br_t q2 (br_t rfl hp)
  · refine br_f (by rw [q2]; decide) (br_c (fun g => ?_) (fun g => ?_))
    · rcases hr with ⟨_, _, er⟩ | ⟨w | w, er⟩
      · subst er
        exact br_t rfl hp
      · exact absurd (q1.symm.trans w) (by decide)
      · exact absurd g w
    · rcases hr with ⟨_, w, _⟩ | ⟨_, er⟩
      · exact absurd w g
      · subst er
        exact br_t rfl hp
theorem so_s132 (hp : post 1 ()) (h4 : so_K m x4 x1 W) (C : so_C m c W a1 a2) (hc : ∀ i, 16 ≤ i → zb_t c i = false) (hW : W ≤ 50) (hx : ∀ i, i < 16 → zb_t c i = zb_t x0 i) (h5 : so_S (fun A => ¬ so_F x0 (so_ar A)) x5) :
    wL_lawOf_132 post mc ms x2 x4 x5 z z kc ks m bl ba t a1 a2 a3 a4 a5 a6 a7 a8 a9 := by
  refine br_t rfl (so_mkept C hc hW (fun A hM h y1 y2 y3 g3 g4 g5 g6 g7 g8 => ?_) (fun A hM hm1 h y1 y2 y3 g3 g4 g5 g6 g7 g8 => ?_))
  · have h4' := h4
    rcases h4 with ⟨q1, q2⟩ | ⟨q1, q2, q3, q4⟩
    · exact br_t q2 (so_s154 hp h4')
    · subst q1
      have F : so_F c (so_ar A) := h.elim (fun w => absurd w (by decide)) id
      have all := so_M_F q4 hM F
      refine br_f (by rw [q2]; decide) (br_t ?_ (so_s154 hp h4'))
      rcases h5 with ⟨Y, y1, y2, y3, y4⟩ | ⟨e, _⟩
      · exact absurd ((so_fx hx).mp (all Y y1)) y3
      · rw [e]; decide
  · have h4' := h4
    rcases h4 with ⟨q1, q2⟩ | ⟨q1, q2, q3, q4⟩
    · exact absurd (q1.symm.trans hm1) (by decide)
    · refine br_f (by rw [q2]; decide) (br_f ?_ (so_s154 hp h4'))
      rcases h5 with ⟨Y, y1, y2, y3, y4⟩ | ⟨_, e⟩
      · rw [y2]
        exact nI_pos (by omega)
      · exact absurd (fun F => h ((so_fx hx).mpr F)) (e A hM.1)
theorem so_s103 (hp : post 1 ()) (h4 : so_K m x4 x1 W) (C : so_C m c W a1 a2) (hc : ∀ i, 16 ≤ i → zb_t c i = false) (hW : W ≤ 50) (hx : ∀ i, i < 16 → zb_t c i = zb_t x0 i) (h5 : so_S (fun A => ¬ so_F x0 (so_ar A)) x5) (h6 : so_S (fun A => so_F x0 (so_ar A)) x6) :
    wL_lawOf_103 post mc ms x0 x1 x2 x4 x5 x6 z z kc ks m bl ba t a1 a2 a3 a4 a5 a6 a7 a8 a9 := by
  refine br_t rfl (so_magn C hc hW (fun hn y1 y2 y3 g3 g4 g5 g6 g7 g8 => ?_) (fun A hA F y1 y2 y3 g3 g4 g5 g6 g7 g8 => ?_))
  · refine br_f ?_ (so_s132 hp h4 C hc hW hx h5)
    rcases h6 with ⟨Y, _, _, w, _⟩ | ⟨e, _⟩
    · exact absurd w (hn Y)
    · rw [e]; decide
  · refine br_t ?_ ?_
    · rcases h6 with ⟨Y, w1, w2, _, _⟩ | ⟨_, e⟩
      · rw [w2]
        exact nI_pos' (by omega)
      · exact absurd F (e A hA)
    · have h4' := h4
      rcases h4 with ⟨q1, q2⟩ | ⟨q1, q2, q3, q4⟩
      · rw [so_L_0 q1]
        exact br_t q2 (so_s132 hp h4' C hc hW hx h5)
      · rw [so_L_t q1 ((so_fx hx).mpr F), ← q3]
        exact br_f (by rw [q2]; decide) (so_s132 hp h4' C hc hW hx h5)
theorem so_s80 (hp : post 1 ()) (h4 : so_K m x4 x1 W) (C : so_C m c W a1 a2) (hc : ∀ i, 16 ≤ i → zb_t c i = false) (hW : W ≤ 50) (hx : ∀ i, i < 16 → zb_t c i = zb_t x0 i) (h5 : so_S (fun A => ¬ so_F x0 (so_ar A)) x5) (h6 : so_S (fun A => so_F x0 (so_ar A)) x6) :
    wL_lawOf_80 post mc ms x0 x1 x2 x4 x5 x6 z z kc ks m bl ba t a1 a2 a3 a4 a5 a6 a7 a8 a9 := by
  refine br_t rfl (so_mbest C hc hW (fun A hM y1 y2 y3 g3 g4 g5 g6 g7 g8 => ?_))
  have h4' := h4
  rcases h4 with ⟨q1, q2⟩ | ⟨q1, q2, q3, q4⟩
  · have eA : A = 0 := so_M_0 hM (by show so_L m c W (so_ar A) = so_L m c W (so_ar 0); rw [so_L_0 q1, so_L_0 q1])
    subst eA
    exact br_t q2 (so_s103 hp h4' C hc hW hx h5 h6)
  · subst q1
    refine br_f (by rw [q2]; decide) ?_
    have h5' := h5
    rcases h5 with ⟨Y, w1, w2, w3, w4⟩ | ⟨e, w⟩
    · have nF : ¬ so_F c (so_ar A) := fun F => w3 ((so_fx hx).mp (so_M_F q4 hM F Y w1))
      have eA : A = Y := by
        rcases Nat.lt_trichotomy A Y with g | g | g
        · exact absurd (fun F => nF ((so_fx hx).mpr F)) (w4 A g)
        · exact g
        · exact absurd ((so_fx hx).mp (so_M_n hM Y g)) w3
      rw [eA, ← w2]
      exact br_f (by rw [w2]; exact nI_pos (by omega)) (so_s103 hp h4' C hc hW hx h5' h6)
    · have all : ∀ A, A < 256 → so_F c (so_ar A) := fun A hA => (so_fx hx).mpr (Classical.byContradiction (w A hA))
      have eA : A = 0 := so_M_0 hM (by show so_L 1 c W (so_ar A) = so_L 1 c W (so_ar 0); rw [so_L_t rfl (all A hM.1), so_L_t rfl (all 0 (by omega))])
      subst eA
      exact br_t (by rw [e]; decide) (so_s103 hp h4' C hc hW hx h5' h6)
theorem so_s42 (hp : post 1 ()) (h4 : so_K m x4 x1 W) (C : so_C m c W a1 a2) (hc : ∀ i, 16 ≤ i → zb_t c i = false) (hW : W ≤ 50) (hx : ∀ i, i < 16 → zb_t c i = zb_t x0 i) :
    wL_lawOf_42 post mc ms x0 x1 x2 x4 z z kc ks m bl ba t a1 a2 a3 a4 a5 a6 a7 a8 a9 := by
  refine br_t rfl (so_least (Q := fun A => ¬ so_F x0 (so_ar A)) (fun A z hz => ?_) (fun x5 h5 => so_least (Q := fun A => so_F x0 (so_ar A)) (fun A z hz => ?_) (fun x6 h6 => so_mloss C hc hW (fun A hM y1 y2 y3 g3 g4 g5 g6 g7 g8 => ?_))))
  · rcases hz with ⟨e, F⟩ | ⟨e, F⟩
    · rw [e]
      exact ⟨fun q => absurd q (by decide), fun q => absurd F q⟩
    · rw [e]
      exact ⟨fun _ => F, fun _ => rfl⟩
  · rcases hz with ⟨e, F⟩ | ⟨e, F⟩
    · rw [e]
      exact ⟨fun _ => F, fun _ => rfl⟩
    · rw [e]
      exact ⟨fun q => absurd q (by decide), fun q => absurd q F⟩
  · have h4' := h4
    rcases h4 with ⟨q1, q2⟩ | ⟨q1, q2, q3, q4⟩
    · rw [so_L_0 q1]
      exact br_t q2 (so_s80 hp h4' C hc hW hx h5 h6)
    · subst q1
      refine br_f (by rw [q2]; decide) ?_
      have h5' := h5
      rcases h5 with ⟨Y, w1, w2, w3, w4⟩ | ⟨e, w⟩
      · have nF : ¬ so_F c (so_ar A) := fun F => w3 ((so_fx hx).mp (so_M_F q4 hM F Y w1))
        rw [so_L_f nF]
        exact br_t (by rw [w2]; exact nI_pos' (by omega)) (so_s80 hp h4' C hc hW hx h5' h6)
      · have F : so_F c (so_ar A) := (so_fx hx).mpr (Classical.byContradiction (w A hM.1))
        rw [so_L_t rfl F, ← q3]
        exact br_f (by rw [e]; decide) (so_s80 hp h4' C hc hW hx h5' h6)
theorem so_s24 (hp : post 1 ()) (hz : (z = 0 ∧ (x1 < 1 ∨ ¬ x1 ≤ 50)) ∨ (z = 1 ∧ ¬ x1 < 1 ∧ x1 ≤ 50)) : wL_lawOf_24 post mc ms x0 x1 x2 z kc ks 0 bl ba t a1 a2 a3 a4 a5 a6 a7 a8 a9 := by
  have hc : ∀ i, 16 ≤ i → zb_t (x0 &&& 65535) i = false := fun i hi => by
    rw [zb_and, zb_65535, decide_eq_false (by omega), Bool.and_false]
  have hx : ∀ i, i < 16 → zb_t (x0 &&& 65535) i = zb_t x0 i := fun i hi => by
    rw [zb_and, zb_65535, decide_eq_true hi, Bool.and_true]
  unfold wL_lawOf_24
  refine so_msoft (fun h => ?_) (fun h1 h2 => ?_)
  · rcases hz with ⟨q, _⟩ | ⟨_, q1, q2⟩
    · subst q
      exact br_t rfl (so_s42 (W := 0) hp (Or.inl ⟨rfl, rfl⟩) (Or.inl rfl) hc (by omega) hx)
    · exact absurd h (fun w => w.elim q1 (fun w => w q2))
  · rcases hz with ⟨_, q⟩ | ⟨q, _, _⟩
    · exact absurd q (fun w => w.elim h1 (fun w => w h2))
    · subst q
      have h0 : ¬ x1 < 0 := fun w => h1 (by
        rw [Int32.lt_iff_toInt_lt] at w ⊢
        have e0 : (0 : Int32).toInt = 0 := by decide
        have e1 : (1 : Int32).toInt = 1 := by decide
        rw [e0] at w
        rw [e1]
        omega)
      obtain ⟨W, hW, e⟩ := nI_of2 (n := 50) (by decide) h0 h2
      subst e
      have hW1 : 1 ≤ W := by
        refine Classical.byContradiction (fun w => h1 ?_)
        exact nI_lt (b := 1) (by omega) (by omega)
      exact br_f (by decide) (so_s42 (W := W) hp (Or.inr ⟨rfl, rfl, rfl, hW1⟩) (Or.inr ⟨rfl, pk_us, pk_us, hW1, hW⟩) hc hW hx)
end
theorem so_lawOf {post : Int32 → St0 → Prop} (hp : post 1 ()) (x0 x1 x2 : Int32) : wpL_lawOf post 86 1360 () x0 x1 x2 := by
  refine ⟨by omega, by omega, 85, 1347, by omega, by omega, ?_⟩
  refine ⟨by omega, by omega, by omega, by omega, by omega, by omega, by omega, by omega, by omega, by omega, by omega, by omega, by omega, by omega, by omega, by omega, by omega, by omega, ?_⟩
  refine br_c (fun g => ?_) (fun g => br_c (fun g2 => ?_) (fun g2 => ?_))
  · exact so_s24 hp (Or.inl ⟨rfl, Or.inl g⟩)
  · exact so_s24 hp (Or.inl ⟨rfl, Or.inr (Int32.not_le.mpr g2)⟩)
  · exact so_s24 hp (Or.inr ⟨rfl, g, Int32.not_lt.mp g2⟩)
theorem so_cell {post : Int32 → Prop} {L : Nat} {xs : Nat → Int32} {p : Int32} (k : Nat) (hL : L ≤ 3) (hk : k ≤ 3) (hp : p = nI k) (H : ∀ r, post r) : wpL_cellAt post L xs () p := by
  subst hp
  exact pk_le L k (fun _ => H _) (fun w => ⟨pk_in k L w, H _⟩)
theorem i_vc (xs : Nat → Int32) (L : Nat) (hL : L ≤ 3) : wpL_law (fun r => r = 1) L xs := by
  unfold wpL_law
  exact so_cell 0 hL (by omega) rfl (fun r1 => so_cell 1 hL (by omega) rfl (fun r2 => so_cell 2 hL (by omega) rfl (fun r3 => ⟨86, 1360, by omega, by omega, so_lawOf rfl r1 r2 r3⟩)))
end

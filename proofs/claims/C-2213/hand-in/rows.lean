section
/-! ===== longs and ints as whole numbers: rf_L z, rf_I z ===== -/
def rf_L (z : Int) : Int64 := Int64.ofInt z
def rf_I (z : Int) : Int32 := Int32.ofInt z
theorem rf_Lt {z : Int} (h : -9223372036854775808 ≤ z ∧ z < 9223372036854775808) : (rf_L z).toInt = z := Int64.toInt_ofInt_of_le (by omega) (by omega)
theorem rf_It {z : Int} (h : -2147483648 ≤ z ∧ z < 2147483648) : (rf_I z).toInt = z := Int32.toInt_ofInt_of_le (by omega) (by omega)
theorem rf_Lof (x : Int64) : x = rf_L x.toInt := (Int64.ofInt_toInt x).symm
theorem rf_Iof (x : Int32) : x = rf_I x.toInt := (Int32.ofInt_toInt x).symm
theorem rf_Ln (n : Nat) : rf_L n = lN n := Int64.ofInt_eq_ofNat
theorem rf_In (n : Nat) : rf_I n = nI n := Int32.ofInt_eq_ofNat
theorem rf_Ladd (a b : Int) : rf_L a + rf_L b = rf_L (a + b) := (Int64.ofInt_add a b).symm
theorem rf_Lsub (a b : Int) : rf_L a - rf_L b = rf_L (a - b) := (Int64.ofInt_sub a b).symm
theorem rf_Lmul (a b : Int) : rf_L a * rf_L b = rf_L (a * b) := (Int64.ofInt_mul a b).symm
theorem rf_Lneg (a : Int) : -rf_L a = rf_L (-a) := (Int64.ofInt_neg a).symm
theorem rf_Iadd (a b : Int) : rf_I a + rf_I b = rf_I (a + b) := (Int32.ofInt_add a b).symm
theorem rf_Isub (a b : Int) : rf_I a - rf_I b = rf_I (a - b) := (Int32.ofInt_sub a b).symm
theorem rf_Ineg (a : Int) : -rf_I a = rf_I (-a) := (Int32.ofInt_neg a).symm
theorem rf_L2I (a : Int) : (rf_L a).toInt32 = rf_I a := Int64.toInt32_ofInt
theorem rf_I2L {a : Int} (h : -2147483648 ≤ a ∧ a < 2147483648) : (rf_I a).toInt64 = rf_L a := by
  apply Int64.toInt_inj.mp
  rw [Int32.toInt_toInt64, rf_It h, rf_Lt (by omega)]
theorem rf_Lle {a b : Int} (ha : -9223372036854775808 ≤ a ∧ a < 9223372036854775808) (hb : -9223372036854775808 ≤ b ∧ b < 9223372036854775808) : rf_L a ≤ rf_L b ↔ a ≤ b := by
  rw [Int64.le_iff_toInt_le, rf_Lt ha, rf_Lt hb]
theorem rf_Llt {a b : Int} (ha : -9223372036854775808 ≤ a ∧ a < 9223372036854775808) (hb : -9223372036854775808 ≤ b ∧ b < 9223372036854775808) : rf_L a < rf_L b ↔ a < b := by
  rw [Int64.lt_iff_toInt_lt, rf_Lt ha, rf_Lt hb]
theorem rf_Leq {a b : Int} (ha : -9223372036854775808 ≤ a ∧ a < 9223372036854775808) (hb : -9223372036854775808 ≤ b ∧ b < 9223372036854775808) : rf_L a = rf_L b ↔ a = b := by
  rw [← Int64.toInt_inj, rf_Lt ha, rf_Lt hb]
theorem rf_Ile {a b : Int} (ha : -2147483648 ≤ a ∧ a < 2147483648) (hb : -2147483648 ≤ b ∧ b < 2147483648) : rf_I a ≤ rf_I b ↔ a ≤ b := by
  rw [Int32.le_iff_toInt_le, rf_It ha, rf_It hb]
theorem rf_Ilt {a b : Int} (ha : -2147483648 ≤ a ∧ a < 2147483648) (hb : -2147483648 ≤ b ∧ b < 2147483648) : rf_I a < rf_I b ↔ a < b := by
  rw [Int32.lt_iff_toInt_lt, rf_It ha, rf_It hb]
theorem rf_Ieq {a b : Int} (ha : -2147483648 ≤ a ∧ a < 2147483648) (hb : -2147483648 ≤ b ∧ b < 2147483648) : rf_I a = rf_I b ↔ a = b := by
  rw [← Int32.toInt_inj, rf_It ha, rf_It hb]
/-! branches: longs -/
theorem rf_ble {x y : Int64} {A B : Prop} (a b : Int) (f : a ≤ b → A) (g : b < a → B) (hx : x = rf_L a := by first | rfl | decide) (hy : y = rf_L b := by first | rfl | decide) (ha : -9223372036854775808 ≤ a ∧ a < 9223372036854775808 := by omega) (hb : -9223372036854775808 ≤ b ∧ b < 9223372036854775808 := by omega) : (x ≤ y → A) ∧ (¬ x ≤ y → B) := by
  subst hx; subst hy
  rw [rf_Lle ha hb]
  exact ⟨f, fun h => g (by omega)⟩
theorem rf_blt {x y : Int64} {A B : Prop} (a b : Int) (f : a < b → A) (g : b ≤ a → B) (hx : x = rf_L a := by first | rfl | decide) (hy : y = rf_L b := by first | rfl | decide) (ha : -9223372036854775808 ≤ a ∧ a < 9223372036854775808 := by omega) (hb : -9223372036854775808 ≤ b ∧ b < 9223372036854775808 := by omega) : (x < y → A) ∧ (¬ x < y → B) := by
  subst hx; subst hy
  rw [rf_Llt ha hb]
  exact ⟨f, fun h => g (by omega)⟩
theorem rf_beq {x y : Int64} {A B : Prop} (a b : Int) (f : a = b → A) (g : a ≠ b → B) (hx : x = rf_L a := by first | rfl | decide) (hy : y = rf_L b := by first | rfl | decide) (ha : -9223372036854775808 ≤ a ∧ a < 9223372036854775808 := by omega) (hb : -9223372036854775808 ≤ b ∧ b < 9223372036854775808 := by omega) : (x = y → A) ∧ (¬ x = y → B) := by
  subst hx; subst hy
  rw [rf_Leq ha hb]
  exact ⟨f, g⟩
/-! branches: ints -/
theorem rf_cle {x y : Int32} {A B : Prop} (a b : Int) (f : a ≤ b → A) (g : b < a → B) (hx : x = rf_I a := by first | rfl | decide) (hy : y = rf_I b := by first | rfl | decide) (ha : -2147483648 ≤ a ∧ a < 2147483648 := by omega) (hb : -2147483648 ≤ b ∧ b < 2147483648 := by omega) : (x ≤ y → A) ∧ (¬ x ≤ y → B) := by
  subst hx; subst hy
  rw [rf_Ile ha hb]
  exact ⟨f, fun h => g (by omega)⟩
theorem rf_clt {x y : Int32} {A B : Prop} (a b : Int) (f : a < b → A) (g : b ≤ a → B) (hx : x = rf_I a := by first | rfl | decide) (hy : y = rf_I b := by first | rfl | decide) (ha : -2147483648 ≤ a ∧ a < 2147483648 := by omega) (hb : -2147483648 ≤ b ∧ b < 2147483648 := by omega) : (x < y → A) ∧ (¬ x < y → B) := by
  subst hx; subst hy
  rw [rf_Ilt ha hb]
  exact ⟨f, fun h => g (by omega)⟩
theorem rf_ceq {x y : Int32} {A B : Prop} (a b : Int) (f : a = b → A) (g : a ≠ b → B) (hx : x = rf_I a := by first | rfl | decide) (hy : y = rf_I b := by first | rfl | decide) (ha : -2147483648 ≤ a ∧ a < 2147483648 := by omega) (hb : -2147483648 ≤ b ∧ b < 2147483648 := by omega) : (x = y → A) ∧ (¬ x = y → B) := by
  subst hx; subst hy
  rw [rf_Ieq ha hb]
  exact ⟨f, g⟩
/-! shifts -/
theorem rf_cnt : ∀ k, k < 64 → (((nI k).toInt64 &&& 63).toBitVec.smod 64).toNat = k := by decide +kernel
theorem rf_shl (a : Int) (k : Nat) (hk : k < 64) {x : Int64} {s : Int32} (hx : x = rf_L a := by first | rfl | decide) (hs : s = rf_I k := by first | rfl | decide) : x <<< (s.toInt64 &&& 63) = rf_L (a * 2 ^ k) := by
  subst hx; subst hs
  rw [rf_In]
  apply Int64.toInt_inj.mp
  have e : (rf_L a <<< ((nI k).toInt64 &&& 63)).toInt = ((rf_L a).toBitVec <<< k).toInt := by
    have h := rf_cnt k hk
    show ((rf_L a).toBitVec <<< (((nI k).toInt64 &&& 63).toBitVec.smod 64).toNat).toInt = _
    rw [h]
  have e2 : (rf_L (a * 2 ^ k)).toInt = (a * 2 ^ k).bmod (2 ^ 64) := Int64.toInt_ofInt
  have e3 : (rf_L a).toBitVec.toNat = (a % (2 ^ 64 : Nat)).toNat := BitVec.toNat_ofInt a
  rw [e, e2, BitVec.toInt_shiftLeft, e3, Nat.shiftLeft_eq]
  have e4 : (((a % (2 ^ 64 : Nat)).toNat * 2 ^ k : Nat) : Int) = a % (2 ^ 64 : Nat) * 2 ^ k := by
    rw [Int.natCast_mul, Int.toNat_of_nonneg (by omega)]
    congr 1
  rw [e4, Int.emod_mul_bmod]
theorem rf_shr {a : Int} (k : Nat) (hk : k < 64) (ha : -9223372036854775808 ≤ a ∧ a < 9223372036854775808) {x : Int64} {s : Int32} (hx : x = rf_L a := by first | rfl | decide) (hs : s = rf_I k := by first | rfl | decide) : x >>> (s.toInt64 &&& 63) = rf_L (a / 2 ^ k) := by
  subst hx; subst hs
  rw [rf_In]
  apply Int64.toInt_inj.mp
  have e : (rf_L a >>> ((nI k).toInt64 &&& 63)).toInt = (rf_L a).toInt >>> k := by
    have h := rf_cnt k hk
    show ((rf_L a).toBitVec.sshiftRight (((nI k).toInt64 &&& 63).toBitVec.smod 64).toNat).toInt = _
    rw [h]
    exact BitVec.toInt_sshiftRight
  have p : (0 : Int) < 2 ^ k := Int.pow_pos (by decide)
  have b1 : -9223372036854775808 ≤ a / 2 ^ k := by
    rw [Int.le_ediv_iff_mul_le p]
    exact Int.le_trans (Int.mul_le_mul_of_nonpos_left (by decide) (Int.add_one_le_of_lt p)) (by omega)
  have b2 : a / 2 ^ k < 9223372036854775808 := by
    apply Int.ediv_lt_of_lt_mul p
    exact Int.lt_of_lt_of_le ha.2 (by have h1 : (1 : Int) ≤ 2 ^ k := p; omega)
  rw [e, rf_Lt ha, rf_Lt ⟨b1, b2⟩, Int.shiftRight_eq_div_pow]
  rfl
theorem rf_and1 (a : Int) {x : Int64} (hx : x = rf_L a := by first | rfl | decide) : x &&& 1 = rf_L (a % 2) := by
  subst hx
  apply Int64.toBitVec_inj.mp
  apply BitVec.eq_of_toNat_eq
  have e1 : (rf_L a).toBitVec.toNat = (a % (2 ^ 64 : Nat)).toNat := BitVec.toNat_ofInt a
  have e2 : (rf_L (a % 2)).toBitVec.toNat = (a % 2 % (2 ^ 64 : Nat)).toNat := BitVec.toNat_ofInt _
  have e3 : (1 : Int64).toBitVec.toNat = 2 ^ 1 - 1 := by decide
  rw [Int64.toBitVec_and, BitVec.toNat_and, e1, e2, e3, Nat.and_two_pow_sub_one_eq_mod]
  omega
theorem rf_div {a b : Int} (ha : -9223372036854775808 ≤ a ∧ a < 9223372036854775808) (hb : -9223372036854775808 ≤ b ∧ b < 9223372036854775808) : rf_L a / rf_L b = rf_L (a.tdiv b) := by
  have m1 : Int64.minValue.toInt = -9223372036854775808 := by decide
  have m2 : Int64.maxValue.toInt = 9223372036854775807 := by decide
  exact (Int64.ofInt_tdiv (by rw [m1]; omega) (by rw [m2]; omega) (by rw [m1]; omega) (by rw [m2]; omega)).symm
theorem rf_at {P : Int32 → Prop} {x y : Int32} (e : x = y) (h : P y) : P x := e ▸ h
theorem rf_atL {P : Int64 → Prop} {x y : Int64} (e : x = y) (h : P y) : P x := e ▸ h
theorem rf_us {f : Nat → Int32} {k : Nat} {x : Int32} : upd f k x k = x := if_pos rfl
theorem rf_un {f : Nat → Int32} {k j : Nat} {x : Int32} (h : j ≠ k) : upd f k x j = f j := if_neg h
theorem rf_nc (k : Nat) : ((2 ^ k : Nat) : Int) = (2 : Int) ^ k := Int.natCast_pow 2 k
theorem rf_shrN (m k : Nat) (hk : k < 64) (hm : m < 9223372036854775808) {x : Int64} {s : Int32} (hx : x = rf_L m := by first | rfl | decide) (hs : s = rf_I k := by first | rfl | decide) : x >>> (s.toInt64 &&& 63) = rf_L ((m / 2 ^ k : Nat) : Int) := by
  rw [rf_shr (a := m) k hk (by omega) hx hs, Int.natCast_ediv, rf_nc]
theorem rf_shlN (m k : Nat) (hk : k < 64) {x : Int64} {s : Int32} (hx : x = rf_L m := by first | rfl | decide) (hs : s = rf_I k := by first | rfl | decide) : x <<< (s.toInt64 &&& 63) = rf_L ((m * 2 ^ k : Nat) : Int) := by
  rw [rf_shl (a := m) k hk hx hs, Int.natCast_mul, rf_nc]
theorem rf_L0 : (0 : Int64) = rf_L 0 := by decide
theorem rf_L1 : (1 : Int64) = rf_L 1 := by decide
theorem rf_L2 : (2 : Int64) = rf_L 2 := by decide
theorem rf_I0 : (0 : Int32) = rf_I 0 := by decide
end
section
/-! ===== the plain law: numbers, neighbours, the rounded value ===== -/
def rf_F (p : Nat) (z : Int) : Prop := ∃ m E : Nat, m < 2 ^ p ∧ z.natAbs = m * 2 ^ E ∧ z.natAbs < 2 ^ (p + 23)
def rf_M (c : Int → Int) : Prop := ∀ x y : Int, x < y → c x = 1 ∨ c y = -1
def rf_Un (p : Nat) (c : Int → Int) (u : Int) : Prop := rf_F p u ∧ 0 ≤ c (2 * u) ∧ ∀ x, rf_F p x → 0 ≤ c (2 * x) → x ≤ u
def rf_Ov (p : Nat) (c : Int → Int) (o : Int) : Prop := rf_F p o ∧ c (2 * o) ≤ 0 ∧ ∀ x, rf_F p x → c (2 * x) ≤ 0 → o ≤ x
def rf_nU (p : Nat) (c : Int → Int) : Prop := ∀ x, rf_F p x → ¬ 0 ≤ c (2 * x)
def rf_nO (p : Nat) (c : Int → Int) : Prop := ∀ x, rf_F p x → ¬ c (2 * x) ≤ 0
def rf_ch (w : Nat) (u o t : Int) : Int := if w = 1 then u else if w = 2 then o else if w = 3 then (if 0 ≤ u then u else o) else if t < 0 ∨ (t = 0 ∧ (u.tdiv (o - u)) % 2 = 0) then u else o
def rf_RS (p w : Nat) (c : Int → Int) (f : Nat) (z : Int) : Prop :=
  (rf_Un p c z ∧ rf_Ov p c z ∧ f = 0) ∨ (∃ u o, rf_Un p c u ∧ rf_Ov p c o ∧ u < o ∧ f = 1 ∧ z = rf_ch w u o (c (u + o))) ∨ (rf_Un p c z ∧ rf_nO p c ∧ f = 3) ∨ (rf_Ov p c z ∧ rf_nU p c ∧ f = 3)
theorem rf_Un1 {p : Nat} {c : Int → Int} {u v : Int} (h : rf_Un p c u) (g : rf_Un p c v) : u = v := Int.le_antisymm (g.2.2 u h.1 h.2.1) (h.2.2 v g.1 g.2.1)
theorem rf_Ov1 {p : Nat} {c : Int → Int} {u v : Int} (h : rf_Ov p c u) (g : rf_Ov p c v) : u = v := Int.le_antisymm (h.2.2 v g.1 g.2.1) (g.2.2 u h.1 h.2.1)
theorem rf_UnN {p : Nat} {c : Int → Int} {u : Int} (h : rf_Un p c u) (g : rf_nU p c) : False := g u h.1 h.2.1
theorem rf_OvN {p : Nat} {c : Int → Int} {u : Int} (h : rf_Ov p c u) (g : rf_nO p c) : False := g u h.1 h.2.1
theorem rf_RS1 {p w : Nat} {c : Int → Int} {f f' : Nat} {z z' : Int} (h : rf_RS p w c f z) (g : rf_RS p w c f' z') : f = f' ∧ z = z' := by
  rcases h with ⟨h1, h2, h3⟩ | ⟨u, o, h1, h2, h3, h4, h5⟩ | ⟨h1, h2, h3⟩ | ⟨h1, h2, h3⟩
  · rcases g with ⟨g1, g2, g3⟩ | ⟨u', o', g1, g2, g3, g4, g5⟩ | ⟨g1, g2, g3⟩ | ⟨g1, g2, g3⟩
    · exact ⟨h3.trans g3.symm, rf_Un1 h1 g1⟩
    · have a := rf_Un1 h1 g1
      have b := rf_Ov1 h2 g2
      omega
    · exact (rf_OvN h2 g2).elim
    · exact (rf_UnN h1 g2).elim
  · rcases g with ⟨g1, g2, g3⟩ | ⟨u', o', g1, g2, g3, g4, g5⟩ | ⟨g1, g2, g3⟩ | ⟨g1, g2, g3⟩
    · have a := rf_Un1 h1 g1
      have b := rf_Ov1 h2 g2
      omega
    · have a := rf_Un1 h1 g1
      have b := rf_Ov1 h2 g2
      subst a; subst b
      exact ⟨h4.trans g4.symm, h5.trans g5.symm⟩
    · exact (rf_OvN h2 g2).elim
    · exact (rf_UnN h1 g2).elim
  · rcases g with ⟨g1, g2, g3⟩ | ⟨u', o', g1, g2, g3, g4, g5⟩ | ⟨g1, g2, g3⟩ | ⟨g1, g2, g3⟩
    · exact (rf_OvN g2 h2).elim
    · exact (rf_OvN g2 h2).elim
    · exact ⟨h3.trans g3.symm, rf_Un1 h1 g1⟩
    · exact (rf_UnN h1 g2).elim
  · rcases g with ⟨g1, g2, g3⟩ | ⟨u', o', g1, g2, g3, g4, g5⟩ | ⟨g1, g2, g3⟩ | ⟨g1, g2, g3⟩
    · exact (rf_UnN g1 h2).elim
    · exact (rf_UnN g1 h2).elim
    · exact (rf_UnN g1 h2).elim
    · exact ⟨h3.trans g3.symm, rf_Ov1 h1 g1⟩
theorem rf_nb {p : Nat} {c : Int → Int} {a b : Int} (M : rf_M c) (ha : rf_F p a) (hb : rf_F p b) (g : ∀ x, rf_F p x → a < x → b ≤ x) (ca : c (2 * a) = 1) (cb : c (2 * b) = -1) : rf_Un p c a ∧ rf_Ov p c b := by
  refine ⟨⟨ha, by omega, fun x hx h => ?_⟩, ⟨hb, by omega, fun x hx h => ?_⟩⟩
  · apply Int.not_lt.mp
    intro q
    have q2 := g x hx q
    by_cases e : x = b
    · subst e; omega
    · rcases M (2 * b) (2 * x) (by omega) with r | r <;> omega
  · apply Int.not_lt.mp
    intro q
    have q2 : x ≤ a := Int.not_lt.mp fun r => by have := g x hx r; omega
    by_cases e : x = a
    · subst e; omega
    · rcases M (2 * x) (2 * a) (by omega) with r | r <;> omega
theorem rf_ex {p : Nat} {c : Int → Int} {a : Int} (M : rf_M c) (ha : rf_F p a) (ca : c (2 * a) = 0) : rf_Un p c a ∧ rf_Ov p c a := by
  refine ⟨⟨ha, by omega, fun x hx h => ?_⟩, ⟨ha, by omega, fun x hx h => ?_⟩⟩
  · apply Int.not_lt.mp
    intro q
    rcases M (2 * a) (2 * x) (by omega) with r | r <;> omega
  · apply Int.not_lt.mp
    intro q
    rcases M (2 * x) (2 * a) (by omega) with r | r <;> omega
theorem rf_lm {p : Nat} {c : Int → Int} {a : Int} (M : rf_M c) (ha : rf_F p a) (g : ∀ x, rf_F p x → x ≤ a) (ca : c (2 * a) = 1) : rf_Un p c a ∧ rf_nO p c := by
  refine ⟨⟨ha, by omega, fun x hx _ => g x hx⟩, fun x hx h => ?_⟩
  have q := g x hx
  by_cases e : x = a
  · subst e; omega
  · rcases M (2 * x) (2 * a) (by omega) with r | r <;> omega
theorem rf_lm' {p : Nat} {c : Int → Int} {a : Int} (M : rf_M c) (ha : rf_F p a) (g : ∀ x, rf_F p x → a ≤ x) (ca : c (2 * a) = -1) : rf_Ov p c a ∧ rf_nU p c := by
  refine ⟨⟨ha, by omega, fun x hx _ => g x hx⟩, fun x hx h => ?_⟩
  have q := g x hx
  by_cases e : x = a
  · subst e; omega
  · rcases M (2 * a) (2 * x) (by omega) with r | r <;> omega
/-! numbers by size -/
theorem rf_F0 (p : Nat) : rf_F p 0 := ⟨0, 0, Nat.two_pow_pos p, rfl, Nat.two_pow_pos _⟩
theorem rf_Fn {p : Nat} {z : Int} (h : rf_F p z) : rf_F p (-z) := by
  unfold rf_F
  rw [Int.natAbs_neg]
  exact h
theorem rf_Fs {p : Nat} {σ : Int} (hσ : σ = 1 ∨ σ = -1) {z : Int} (h : rf_F p z) : rf_F p (σ * z) := by
  rcases hσ with rfl | rfl
  · rw [Int.one_mul]; exact h
  · rw [Int.neg_mul, Int.one_mul]; exact rf_Fn h
theorem rf_pp {p : Nat} (hp : 1 ≤ p) : 2 ^ p = 2 * 2 ^ (p - 1) := by
  obtain ⟨q, rfl⟩ : ∃ q, p = q + 1 := ⟨p - 1, by omega⟩
  rw [Nat.add_sub_cancel, Nat.pow_succ]; omega
theorem rf_Fk {p k s : Nat} (hp : 1 ≤ p) (hk : k ≤ 2 ^ p) (h : k * 2 ^ s < 2 ^ (p + 23)) {z : Int} (hz : z.natAbs = k * 2 ^ s) : rf_F p z := by
  rcases Nat.lt_or_ge k (2 ^ p) with h1 | h1
  · exact ⟨k, s, h1, hz, hz ▸ h⟩
  · have e : k = 2 ^ p := by omega
    refine ⟨2 ^ (p - 1), s + 1, Nat.pow_lt_pow_right (by decide) (by omega), ?_, hz ▸ h⟩
    rw [hz, e, ← Nat.pow_add, ← Nat.pow_add]
    congr 1
    omega
theorem rf_gap {p k s : Nat} (hp : 1 ≤ p) (hk : s = 0 ∨ 2 ^ (p - 1) ≤ k) {x : Int} (hx : rf_F p x) (h : k * 2 ^ s < x.natAbs) : (k + 1) * 2 ^ s ≤ x.natAbs := by
  obtain ⟨m, E, hm, e, _⟩ := hx
  rw [e] at h ⊢
  rcases Nat.lt_or_ge E s with hE | hE
  · exfalso
    have h2 : 2 ^ (p - 1) ≤ k := by
      rcases hk with hk | hk
      · omega
      · exact hk
    have a1 : m * 2 ^ E ≤ 2 ^ p * 2 ^ E := Nat.mul_le_mul_right _ (Nat.le_of_lt hm)
    have a2 : 2 ^ p * 2 ^ E = 2 ^ (p + E) := (Nat.pow_add ..).symm
    have a3 : 2 ^ (p + E) ≤ 2 ^ (p - 1 + s) := Nat.pow_le_pow_right (by decide) (by omega)
    have a4 : 2 ^ (p - 1 + s) = 2 ^ (p - 1) * 2 ^ s := Nat.pow_add ..
    have a5 : 2 ^ (p - 1) * 2 ^ s ≤ k * 2 ^ s := Nat.mul_le_mul_right _ h2
    exact Nat.lt_irrefl _ (Nat.lt_of_lt_of_le h (Nat.le_trans a1 (a2 ▸ Nat.le_trans a3 (a4 ▸ a5))))
  · have e1 : m * 2 ^ E = (m * 2 ^ (E - s)) * 2 ^ s := by
      rw [Nat.mul_assoc, ← Nat.pow_add]
      congr 2
      omega
    rw [e1] at h ⊢
    exact Nat.mul_le_mul_right _ (Nat.lt_of_mul_lt_mul_right h)
theorem rf_Fmax {p : Nat} (hp : 1 ≤ p) {x : Int} (hx : rf_F p x) : x.natAbs ≤ (2 ^ p - 1) * 2 ^ 23 := by
  rcases Nat.lt_or_ge ((2 ^ p - 1) * 2 ^ 23) x.natAbs with h | h
  · exfalso
    have h1 := rf_pp hp
    have h0 := Nat.two_pow_pos (p - 1)
    have g := rf_gap hp (Or.inr (by omega)) hx h
    obtain ⟨_, _, _, _, l⟩ := hx
    rw [show 2 ^ p - 1 + 1 = 2 ^ p by omega, ← Nat.pow_add] at g
    omega
  · exact h
theorem rf_Ftop {p : Nat} (hp : 1 ≤ p) : rf_F p (((2 ^ p - 1) * 2 ^ 23 : Nat) : Int) := by
  have h0 := Nat.two_pow_pos p
  refine rf_Fk (k := 2 ^ p - 1) (s := 23) hp (by omega) ?_ (Int.natAbs_natCast _)
  rw [Nat.pow_add]
  exact Nat.mul_lt_mul_of_pos_right (by omega) (by decide)
theorem rf_norm {p : Nat} (hp : 1 ≤ p) : ∀ E m, m < 2 ^ p → m * 2 ^ E < 2 ^ (p + 23) → ∃ e' m', e' ≤ 23 ∧ m' < 2 ^ p ∧ (e' = 0 ∨ 2 ^ (p - 1) ≤ m') ∧ m * 2 ^ E = m' * 2 ^ e' := by
  intro E
  induction E with
  | zero => intro m hm h; exact ⟨0, m, by omega, hm, Or.inl rfl, rfl⟩
  | succ E ih =>
    intro m hm h
    rcases Nat.lt_or_ge m (2 ^ (p - 1)) with h1 | h1
    · have e : m * 2 ^ (E + 1) = (2 * m) * 2 ^ E := by rw [Nat.pow_succ, Nat.mul_comm 2 m, Nat.mul_assoc, Nat.mul_comm 2 (2 ^ E)]
      have h2 := rf_pp hp
      rw [e] at h ⊢
      exact ih (2 * m) (by omega) h
    · refine ⟨E + 1, m, ?_, hm, Or.inr h1, rfl⟩
      apply Nat.le_of_not_lt
      intro hc
      have a1 : 2 ^ (p + 23) = 2 ^ (p - 1) * 2 ^ 24 := by rw [← Nat.pow_add]; congr 1; omega
      have a2 : 2 ^ 24 ≤ 2 ^ (E + 1) := Nat.pow_le_pow_right (by decide) (by omega)
      have a3 := Nat.mul_le_mul h1 a2
      rw [a1] at h
      exact absurd h (Nat.not_lt.mpr a3)
/-! the three outcomes, by sign and size -/
theorem rf_2s (σ : Int) (a : Nat) : 2 * (σ * (a : Int)) = σ * ((2 * a : Nat) : Int) := by
  rw [Int.natCast_mul]
  exact Int.mul_left_comm 2 σ a
def rf_Lk (σ : Int) (m T : Nat) (mo : Prop) (c : Int → Int) : Prop := ∀ N B a b : Nat, a + T = b + 59 → N * 2 ^ a = B * 2 ^ b → (B < m → c (σ * N) = σ) ∧ (B = m → mo → c (σ * N) = σ) ∧ (B = m → ¬ mo → c (σ * N) = 0) ∧ (m < B → c (σ * N) = -σ)
theorem rf_ab (T j : Nat) : ∃ a b : Nat, a + T = b + j := ⟨j, T, by omega⟩
theorem rf_2p (k n : Nat) : 2 * k * 2 ^ n = k * 2 ^ (n + 1) := by
  rw [Nat.pow_succ, Nat.mul_comm 2 k, Nat.mul_assoc, Nat.mul_comm 2 (2 ^ n)]
theorem rf_exz {p w m T z a b : Nat} {σ : Int} {c : Int → Int} {mo : Prop} (M : rf_M c) (L : rf_Lk σ m T mo c) (hmo : ¬ mo) (hab : a + T = b + 60) (ha : z * 2 ^ a = m * 2 ^ b) (hF : rf_F p (σ * (z : Int))) : rf_RS p w c 0 (σ * (z : Int)) := by
  have h0 : 2 * z * 2 ^ a = m * 2 ^ (b + 1) := by
    rw [rf_2p, Nat.pow_succ, Nat.pow_succ, ← Nat.mul_assoc, ← Nat.mul_assoc, ha]
  have h := (L (2 * z) m a (b + 1) (by omega) h0).2.2.1 rfl hmo
  have e := rf_ex M hF (by rw [rf_2s]; exact h)
  exact Or.inl ⟨e.1, e.2, rfl⟩
theorem rf_lmz {p w : Nat} {σ : Int} {c : Int → Int} (hp : 1 ≤ p) (hσ : σ = 1 ∨ σ = -1) (M : rf_M c) (h : c (σ * ((2 * ((2 ^ p - 1) * 2 ^ 23) : Nat) : Int)) = σ) : rf_RS p w c 3 (σ * (((2 ^ p - 1) * 2 ^ 23 : Nat) : Int)) := by
  have F := rf_Fs hσ (rf_Ftop hp)
  rw [← rf_2s] at h
  have X : ∀ x, rf_F p x → x.natAbs ≤ (2 ^ p - 1) * 2 ^ 23 := fun x hx => rf_Fmax hp hx
  generalize (2 ^ p - 1) * 2 ^ 23 = A at h F X ⊢
  rcases hσ with rfl | rfl
  · have e := rf_lm M F (fun x hx => by have := X x hx; omega) h
    exact Or.inr (Or.inr (Or.inl ⟨e.1, e.2, rfl⟩))
  · have e := rf_lm' M F (fun x hx => by have := X x hx; omega) h
    exact Or.inr (Or.inr (Or.inr ⟨e.1, e.2, rfl⟩))
def rf_aw (w : Nat) (σ t : Int) (k : Nat) : Prop := (w = 0 ∧ (0 < t ∨ (t = 0 ∧ k % 2 = 1))) ∨ (w = 2 ∧ σ = 1) ∨ (w = 1 ∧ σ = -1)
theorem rf_td {k D : Int} (hD : 0 < D) {a b : Int} (ha : a = k * D) (hb : b - a = D) : a.tdiv (b - a) = k := by
  rw [hb, ha]
  exact Int.mul_tdiv_cancel k (by omega)
theorem rf_inz {p w k s : Nat} {σ t : Int} {c : Int → Int} (hp : 1 ≤ p) (hw : w ≤ 3) (hσ : σ = 1 ∨ σ = -1) (M : rf_M c) (hs : s = 0 ∨ 2 ^ (p - 1) ≤ k) (hk : k + 1 ≤ 2 ^ p) (hb : (k + 1) * 2 ^ s < 2 ^ (p + 23))
    (c1 : c (σ * ((2 * (k * 2 ^ s) : Nat) : Int)) = σ) (c2 : c (σ * ((2 * ((k + 1) * 2 ^ s) : Nat) : Int)) = -σ) (ht : c (σ * (((2 * k + 1) * 2 ^ s : Nat) : Int)) = σ * t) :
    (rf_aw w σ t k → rf_RS p w c 1 (σ * (((k + 1) * 2 ^ s : Nat) : Int))) ∧ (¬ rf_aw w σ t k → rf_RS p w c 1 (σ * ((k * 2 ^ s : Nat) : Int))) := by
  have D0 := Nat.two_pow_pos s
  have e1 : (k + 1) * 2 ^ s = k * 2 ^ s + 2 ^ s := Nat.add_one_mul k _
  have e2 : (2 * k + 1) * 2 ^ s = k * 2 ^ s + (k * 2 ^ s + 2 ^ s) := by rw [Nat.add_one_mul, Nat.mul_assoc]; omega
  have e3 : ((k * 2 ^ s : Nat) : Int) = (k : Int) * ((2 ^ s : Nat) : Int) := Int.natCast_mul _ _
  have FA : rf_F p ((k * 2 ^ s : Nat) : Int) := rf_Fk (k := k) (s := s) hp (by omega) (by omega) (Int.natAbs_natCast _)
  have FB : rf_F p (((k + 1) * 2 ^ s : Nat) : Int) := rf_Fk (k := k + 1) (s := s) hp hk hb (Int.natAbs_natCast _)
  have G : ∀ x, rf_F p x → k * 2 ^ s < x.natAbs → (k + 1) * 2 ^ s ≤ x.natAbs := fun x hx h => rf_gap hp hs hx h
  rw [← rf_2s] at c1 c2
  rw [e2] at ht
  rw [e1] at c2 FB G ⊢
  generalize k * 2 ^ s = A at c1 c2 ht e3 FA FB G ⊢
  generalize 2 ^ s = D at c2 ht e3 FB G D0 ⊢
  rcases hσ with rfl | rfl
  · rw [Int.one_mul] at c1 c2
    rw [Int.one_mul, Int.one_mul] at ht
    rw [Int.one_mul, Int.one_mul]
    have N := rf_nb M FA FB (fun x hx h => by have := G x hx; omega) c1 c2
    have V : rf_RS p w c 1 (rf_ch w (A : Int) ((A + D : Nat) : Int) t) := by
      have h2 : c ((A : Int) + ((A + D : Nat) : Int)) = t := (congrArg c (by omega)).trans ht
      exact Or.inr (Or.inl ⟨_, _, N.1, N.2, by omega, rfl, by rw [h2]⟩)
    have td := rf_td (k := (k : Int)) (D := (D : Int)) (by omega) (a := (A : Int)) (b := ((A + D : Nat) : Int)) e3 (by omega)
    unfold rf_ch at V
    rw [td] at V
    unfold rf_aw
    have w4 : w = 0 ∨ w = 1 ∨ w = 2 ∨ w = 3 := by omega
    constructor
    · intro h
      rcases w4 with rfl | rfl | rfl | rfl
      · rw [if_neg (by decide), if_neg (by decide), if_neg (by decide), if_neg (by omega)] at V
        exact V
      · omega
      · rw [if_neg (by decide), if_pos rfl] at V
        exact V
      · omega
    · intro h
      rcases w4 with rfl | rfl | rfl | rfl
      · rw [if_neg (by decide), if_neg (by decide), if_neg (by decide), if_pos (by omega)] at V
        exact V
      · rw [if_pos rfl] at V
        exact V
      · omega
      · rw [if_neg (by decide), if_neg (by decide), if_pos rfl, if_pos (by omega)] at V
        exact V
  · rw [Int.neg_mul, Int.one_mul] at c1 c2
    rw [Int.neg_mul, Int.one_mul, Int.neg_mul, Int.one_mul] at ht
    rw [Int.neg_mul, Int.one_mul, Int.neg_mul, Int.one_mul]
    have N := rf_nb M (rf_Fn FB) (rf_Fn FA) (fun x hx h => by have := G x hx; omega) c2 c1
    have V : rf_RS p w c 1 (rf_ch w (-((A + D : Nat) : Int)) (-(A : Int)) (-t)) := by
      have h2 : c (-((A + D : Nat) : Int) + -(A : Int)) = -t := (congrArg c (by omega)).trans ht
      exact Or.inr (Or.inl ⟨_, _, N.1, N.2, by omega, rfl, by rw [h2]⟩)
    have td := rf_td (k := -((k : Int) + 1)) (D := (D : Int)) (by omega) (a := -((A + D : Nat) : Int)) (b := -(A : Int)) (by rw [Int.neg_mul, Int.add_mul, ← e3]; omega) (by omega)
    unfold rf_ch at V
    rw [td] at V
    unfold rf_aw
    have w4 : w = 0 ∨ w = 1 ∨ w = 2 ∨ w = 3 := by omega
    constructor
    · intro h
      rcases w4 with rfl | rfl | rfl | rfl
      · rw [if_neg (by decide), if_neg (by decide), if_neg (by decide), if_pos (by omega)] at V
        exact V
      · rw [if_pos rfl] at V
        exact V
      · omega
      · omega
    · intro h
      rcases w4 with rfl | rfl | rfl | rfl
      · rw [if_neg (by decide), if_neg (by decide), if_neg (by decide), if_neg (by omega)] at V
        exact V
      · omega
      · rw [if_neg (by decide), if_pos rfl] at V
        exact V
      · rw [if_neg (by decide), if_neg (by decide), if_pos rfl, if_neg (by omega)] at V
        exact V
end
section
/-! ===== X: bitsOf, store, limit, goesAway, round ===== -/
theorem rf_bl (m : Nat) : ∀ n, m < 2 ^ n → ∃ b, b ≤ n ∧ m < 2 ^ b ∧ (b = 0 ∨ 2 ^ (b - 1) ≤ m) := by
  intro n
  induction n with
  | zero => intro h; exact ⟨0, Nat.le_refl _, h, Or.inl rfl⟩
  | succ n ih =>
    intro h
    rcases Nat.lt_or_ge m (2 ^ n) with h1 | h1
    · obtain ⟨b, h2, h3⟩ := ih h1
      exact ⟨b, by omega, h3⟩
    · exact ⟨n + 1, Nat.le_refl _, h, Or.inr h1⟩
theorem rf_lt63 {m b : Nat} (hm : m < 2 ^ b) (hb : b ≤ 61) : m < 2305843009213693952 := Nat.lt_of_lt_of_le hm (Nat.le_trans (Nat.pow_le_pow_right (by decide) hb) (by decide))
theorem rf_bits_l {post : Int32 → Prop} {m b : Nat} (hm : m < 2 ^ b) (hb : b ≤ 61) (hb2 : b = 0 ∨ 2 ^ (b - 1) ≤ m) (h : post (nI b)) : ∀ d n, n + d = b → wX_bitsOf_2 post (rf_L m) (d + 1) (nI n) := by
  have h61 := rf_lt63 hm hb
  intro d
  induction d with
  | zero =>
    intro n hn
    have e : n = b := by omega
    subst e
    have hz : rf_L m >>> ((nI n).toInt64 &&& 63) = 0 := by
      rw [rf_shrN m n (by omega) (by omega) rfl (rf_In n).symm, Nat.div_eq_of_lt hm]
      exact rf_L0.symm
    exact br_f (nI_ge (b := 62) (by omega) (by decide)) (br_t hz h)
  | succ d ih =>
    intro n hn
    have hz : ¬ rf_L m >>> ((nI n).toInt64 &&& 63) = 0 := by
      rw [rf_shrN m n (by omega) (by omega) rfl (rf_In n).symm, rf_L0]
      have q : 1 ≤ m / 2 ^ n := by
        rw [Nat.le_div_iff_mul_le (Nat.two_pow_pos n), Nat.one_mul]
        have := Nat.pow_le_pow_right (n := 2) (by decide) (show n ≤ b - 1 by omega)
        omega
      have q2 : m / 2 ^ n ≤ m := Nat.div_le_self _ _
      rw [rf_Leq (by omega) (by omega)]
      omega
    exact br_f (nI_ge (b := 62) (by omega) (by decide)) (br_f hz (nm_r (nI_1 n) (ih (n + 1) (by omega))))
theorem rf_bits {post : Int32 → Prop} {m b : Nat} (hm : m < 2 ^ b) (hb : b ≤ 61) (hb2 : b = 0 ∨ 2 ^ (b - 1) ≤ m) (h : post (nI b)) : wpX_bitsOf post (rf_L m) := ⟨b + 1, rf_bits_l hm hb hb2 h b 0 (by omega)⟩
theorem rf_store_48 {post : SX → Prop} {fb fm ff ng : Int32} {am ae : Nat → Int32} {k : Nat} (hk : k < 4) (m1 : Nat) (hm : m1 < 2305843009213693952) (e1 : Int)
    (h : post (fb, fm, ff, upd am k (if ng = 0 then rf_I m1 else rf_I (-m1)), upd ae k (if m1 = 0 then 0 else rf_I e1))) : wX_store_48 post (nI k) ng (rf_L m1) (rf_I e1) fb fm ff am ae := by
  have hin : vp_in (nI k) 4 := vp_in_nI hk (by decide)
  have hc := nI_clamp (n := k) (by omega)
  have A : ∀ z : Int, post (fb, fm, ff, upd am k (rf_I z), upd ae k (if m1 = 0 then 0 else rf_I e1)) → wX_store_65 post (nI k) (rf_L m1) (rf_I e1) (rf_L z) (nI k) fb fm ff am ae := by
    intro z hz
    refine And.intro hin (nm_r (e' := upd am k (rf_I z)) (by rw [hc, rf_L2I]) ?_)
    refine rf_beq (m1 : Int) 0 (fun q => ⟨hin, nm_r (e' := upd ae k 0) (by rw [hc]) ?_⟩) (fun q => ⟨hin, nm_r (e' := upd ae k (rf_I e1)) (by rw [hc]) ?_⟩) rfl rf_L0
    · rw [if_pos (by omega)] at hz; exact hz
    · rw [if_neg (by omega)] at hz; exact hz
  refine br_c (fun q => ?_) (fun q => ?_)
  · rw [if_pos q] at h; exact A m1 h
  · rw [if_neg q] at h
    rw [rf_Lneg]
    exact A _ h
theorem rf_store_l {post : SX → Prop} {fb fm ff ng : Int32} {am ae : Nat → Int32} {k : Nat} (hk : k < 4) : ∀ (d m j : Nat) (e : Int), j + d = 62 → m * 2 ^ j < 2 ^ 61 →
    (∀ (m1 i : Nat) (e1 : Int), m = m1 * 2 ^ i → (m1 = 0 ∨ m1 % 2 = 1) → e1 = e + i → post (fb, fm, ff, upd am k (if ng = 0 then rf_I m1 else rf_I (-m1)), upd ae k (if m1 = 0 then 0 else rf_I e1))) →
    wX_store_10 post (nI k) ng fb fm ff am ae (d + 1) (rf_L m) (rf_I e) (nI j) := by
  intro d
  induction d with
  | zero =>
    intro m j e hj hm h
    have e0 : m = 0 := by
      have : j = 62 := by omega
      subst this
      omega
    subst e0
    have hj2 : j = 62 := by omega
    subst hj2
    refine br_t (nI_le (Nat.le_refl 62) (by decide)) ?_
    exact rf_store_48 hk 0 (by decide) e (h 0 0 e rfl (Or.inl rfl) (by omega))
  | succ d ih =>
    intro m j e hj hm h
    have hm1 : m < 2305843009213693952 := Nat.lt_of_le_of_lt (Nat.le_mul_of_pos_right m (Nat.two_pow_pos j)) hm
    refine br_f (nI_ge (b := 62) (by omega) (by decide)) ?_
    refine rf_beq (m : Int) 0 (fun q => ?_) (fun q => ?_) rfl rf_L0
    · exact rf_store_48 hk m hm1 e (h m 0 e (by omega) (Or.inl (by omega)) (by omega))
    · rw [rf_and1 (m : Int) rfl]
      refine rf_beq ((m : Int) % 2) 0 (fun q2 => ?_) (fun q2 => ?_) rfl rf_L0
      · refine nm_r (rf_shrN m 1 (by decide) (by omega) rfl (by decide)) (nm_r (e' := rf_I (e + 1)) (rf_Iadd e 1) (nm_r (nI_1 j) ?_))
        have e2 : m = m / 2 ^ 1 * 2 := by omega
        generalize m / 2 ^ 1 = q3 at e2 ⊢
        refine ih q3 (j + 1) (e + 1) (by omega) ?_ (fun m1 i e1 h1 h2 h3 => h m1 (i + 1) e1 ?_ h2 (by omega))
        · rw [Nat.pow_succ, Nat.mul_comm (2 ^ j) 2, ← Nat.mul_assoc, ← e2]
          exact hm
        · rw [e2, h1, Nat.pow_succ, Nat.mul_assoc]
      · exact rf_store_48 hk m hm1 e (h m 0 e (by omega) (Or.inr (by omega)) (by omega))
/-- a register of X holds (x, y), of Y the whole number z -/
def rf_G (p : Nat) (x y : Int32) (z : Int) : Prop := ∃ (m : Int) (E : Nat), x = rf_I m ∧ y = rf_I ((E : Int) - 12) ∧ z = m * 2 ^ E ∧ ((m = 0 ∧ E = 12) ∨ m % 2 = 1) ∧ rf_F p z
theorem rf_G0 (p : Nat) : rf_G p 0 0 0 := ⟨0, 12, by decide, by decide, by decide, Or.inl ⟨rfl, rfl⟩, rf_F0 p⟩
def rf_S (ng : Int32) (σ : Int) : Prop := (ng = 0 ∧ σ = 1) ∨ (¬ ng = 0 ∧ σ = -1)
theorem rf_S1 {ng : Int32} {σ : Int} (h : rf_S ng σ) : σ = 1 ∨ σ = -1 := by
  rcases h with h | h
  · exact Or.inl h.2
  · exact Or.inr h.2
theorem rf_storeG {post : SX → Prop} {fb fm ff ng : Int32} {am ae : Nat → Int32} {p k : Nat} {σ e : Int} (hk : k < 4) (hσ : rf_S ng σ) (m s : Nat) (hm : m < 2305843009213693952) (he : e = (s : Int) - 12)
    (hF : rf_F p (σ * ((m * 2 ^ s : Nat) : Int))) (h : ∀ x y, rf_G p x y (σ * ((m * 2 ^ s : Nat) : Int)) → post (fb, fm, ff, upd am k x, upd ae k y)) :
    wpX_store post (fb, fm, ff, am, ae) (nI k) ng (rf_L m) (rf_I e) := by
  refine ⟨63, rf_store_l hk 62 m 0 e (by omega) (by omega) (fun m1 i e1 h1 h2 h3 => h _ _ ?_)⟩
  by_cases hz : m1 = 0
  · subst hz
    rw [Nat.zero_mul] at h1
    subst h1
    refine ⟨0, 12, ?_, ?_, ?_, Or.inl ⟨rfl, rfl⟩, hF⟩
    · rw [show (-((0 : Nat) : Int)) = ((0 : Nat) : Int) by omega]
      exact ite_self _
    · rw [if_pos rfl]; decide
    · rw [Nat.zero_mul, Int.zero_mul]; exact Int.mul_zero σ
  · refine ⟨σ * m1, s + i, ?_, ?_, ?_, Or.inr ?_, hF⟩
    · rcases hσ with ⟨g, rfl⟩ | ⟨g, rfl⟩
      · rw [if_pos g, Int.one_mul]
      · rw [if_neg g, Int.neg_mul, Int.one_mul]
    · rw [if_neg hz, h3, he]
      congr 1
      omega
    · rw [h1, Int.mul_assoc]
      congr 1
      rw [Nat.mul_assoc, Nat.mul_comm (2 ^ i), ← Nat.pow_add, Int.natCast_mul, rf_nc]
    · rcases hσ with ⟨g, rfl⟩ | ⟨g, rfl⟩ <;> omega
theorem rf_1shl (p : Nat) (hp : p ≤ 10) : ((1 : Int64) <<< ((nI p).toInt64 &&& 63)) - 1 = rf_L ((2 ^ p - 1 : Nat) : Int) := by
  rw [rf_shlN 1 p (by omega) (by decide) (rf_In p).symm, rf_L1, rf_Lsub]
  congr 1
  have := Nat.two_pow_pos p
  omega
theorem rf_p10 {p : Nat} (hp : p ≤ 10) : 2 ^ p ≤ 1024 := Nat.pow_le_pow_right (n := 2) (by decide) hp
theorem rf_limit {post : Int32 → SX → Prop} {fm ff ng : Int32} {am ae : Nat → Int32} {p k : Nat} {σ : Int} (hk : k < 4) (hp : 2 ≤ p ∧ p ≤ 10) (hσ : rf_S ng σ)
    (h : ∀ x y, rf_G p x y (σ * (((2 ^ p - 1) * 2 ^ 23 : Nat) : Int)) → post 3 (nI p, fm, ff ||| 3, upd am k x, upd ae k y)) : wpX_limit post (nI p, fm, ff, am, ae) (nI k) ng := by
  unfold wpX_limit
  dsimp only
  rw [rf_1shl p hp.2]
  have := rf_p10 hp.2
  exact rf_storeG (p := p) (σ := σ) (e := 11) hk hσ (2 ^ p - 1) 23 (by omega) (by decide) (rf_Fs (rf_S1 hσ) (rf_Ftop (by omega))) (fun x y g => nm_e (h x y g))
def rf_ax (w : Nat) (ng mo od : Int32) (lost half : Nat) : Prop := (w = 0 ∧ (half < lost ∨ (lost = half ∧ (¬ mo = 0 ∨ ¬ od = 0)))) ∨ (w = 2 ∧ ng = 0) ∨ (w = 1 ∧ ¬ ng = 0)
theorem rf_goes {post : Int32 → Prop} {ff ng mo od : Int32} {am ae : Nat → Int32} {p w cut lost : Nat} (hw : w ≤ 3) (hc : 1 ≤ cut ∧ cut ≤ 60) (hl : lost < 2305843009213693952)
    (h1 : rf_ax w ng mo od lost (2 ^ (cut - 1)) → post 1) (h0 : ¬ rf_ax w ng mo od lost (2 ^ (cut - 1)) → post 0) : wpX_goesAway post (nI p, nI w, ff, am, ae) ng od (rf_L lost) (rf_I cut) mo := by
  have w4 : w = 0 ∨ w = 1 ∨ w = 2 ∨ w = 3 := by omega
  have p1 : 2 ^ (cut - 1) ≤ 2 ^ 59 := Nat.pow_le_pow_right (by decide) (by omega)
  unfold wpX_goesAway
  dsimp only
  rcases w4 with rfl | rfl | rfl | rfl
  · refine br_t rfl (rf_cle (cut : Int) 60 (fun _ => ?_) (fun q => by omega) rfl (by decide))
    refine nm_r (e' := rf_L ((2 ^ (cut - 1) : Nat) : Int)) ?_ ?_
    · have := rf_shlN 1 (cut - 1) (by omega) (x := 1) (s := rf_I cut - 1) (by decide) (by rw [show (1 : Int32) = rf_I 1 by decide, rf_Isub]; congr 1; omega)
      rw [this, Nat.one_mul]
    · generalize 2 ^ (cut - 1) = H at h1 h0 p1 ⊢
      refine rf_blt (H : Int) (lost : Int) (fun q => h1 (Or.inl ⟨rfl, Or.inl (by omega)⟩)) (fun q => ?_)
      refine rf_beq (lost : Int) (H : Int) (fun q2 => ?_) (fun q2 => h0 ?_)
      · refine br_c (fun m0 => br_c (fun o0 => h0 ?_) (fun o1 => h1 (Or.inl ⟨rfl, Or.inr ⟨by omega, Or.inr o1⟩⟩))) (fun m1 => h1 (Or.inl ⟨rfl, Or.inr ⟨by omega, Or.inl m1⟩⟩))
        rintro (⟨_, h | ⟨_, h | h⟩⟩ | ⟨h, _⟩ | ⟨h, _⟩)
        · omega
        · exact h m0
        · exact h o0
        · omega
        · omega
      · rintro (⟨_, h | ⟨h, _⟩⟩ | ⟨h, _⟩ | ⟨h, _⟩) <;> omega
  · refine br_f (by decide) (br_f (by decide) (br_t rfl (br_c (fun q => h0 ?_) (fun q => h1 (Or.inr (Or.inr ⟨rfl, q⟩))))))
    rintro (⟨h, _⟩ | ⟨h, _⟩ | ⟨_, h⟩)
    · omega
    · omega
    · exact h q
  · refine br_f (by decide) (br_t rfl (br_c (fun q => h1 (Or.inr (Or.inl ⟨rfl, q⟩))) (fun q => br_f (by decide) (h0 ?_))))
    rintro (⟨h, _⟩ | ⟨_, h⟩ | ⟨h, _⟩)
    · omega
    · exact q h
    · omega
  · refine br_f (by decide) (br_f (by decide) (br_f (by decide) (h0 ?_)))
    rintro (⟨h, _⟩ | ⟨h, _⟩ | ⟨h, _⟩) <;> omega
end
section
/-! ===== X: round ===== -/
theorem rf_chF {p w : Nat} {u o t : Int} (h : rf_F p u) (g : rf_F p o) : rf_F p (rf_ch w u o t) := by
  unfold rf_ch
  split
  · exact h
  · split
    · exact g
    · split
      · split
        · exact h
        · exact g
      · split
        · exact h
        · exact g
theorem rf_RSF {p w : Nat} {c : Int → Int} {f : Nat} {z : Int} (h : rf_RS p w c f z) : rf_F p z := by
  rcases h with ⟨h1, _⟩ | ⟨u, o, h1, h2, _, _, h5⟩ | ⟨h1, _⟩ | ⟨h1, _⟩
  · exact h1.1
  · rw [h5]; exact rf_chF h1.1 h2.1
  · exact h1.1
  · exact h1.1
section
variable {post : Int32 → SX → Prop} {ff ng mo : Int32} {am ae : Nat → Int32} {p w k m T b s cut kept lost : Nat} {σ : Int}
theorem rf_wround (hp : 2 ≤ p ∧ p ≤ 10) (hT : T ≤ 200) (hm : m < 2 ^ b) (hb : b ≤ 61) (hb2 : b = 0 ∨ 2 ^ (b - 1) ≤ m) (hs : s = b + T - (p + 60))
    (h : wX_round_33 post (nI k) ng (rf_L m) (rf_I ((T : Int) - 72)) mo (rf_I ((s : Int) - 12)) (nI p) (nI w) ff am ae) : wpX_round post (nI p, nI w, ff, am, ae) (nI k) ng (rf_L m) (rf_I ((T : Int) - 72)) mo := by
  unfold wpX_round
  dsimp only
  refine rf_bits hm hb hb2 (nm_r (e' := rf_I ((b : Int) + T - 72)) (by rw [← rf_In, rf_Iadd]; congr 1; omega) ?_)
  have e : rf_I ((b : Int) + T - 72) - nI p = rf_I ((b : Int) + T - 72 - p) := by rw [← rf_In, rf_Isub]
  rw [e]
  refine rf_cle (-12) ((b : Int) + T - 72 - p) (fun q => ?_) (fun q => ?_) (by decide)
  · have e2 : ((b : Int) + T - 72 - p) = (s : Int) - 12 := by omega
    rw [e2]
    exact h
  · have e2 : s = 0 := by omega
    rw [e2] at h
    have e3 : rf_I (((0 : Nat) : Int) - 12) = -12 := by decide
    rw [e3] at h
    exact h
theorem rf_w33a {x5 fb fm : Int32} (hm : m < 2305843009213693952) (hs : s ≤ 300) (h0 : m = 0 ∨ s ≤ 23) (h : wX_round_55 post (nI k) ng (rf_L m) x5 mo (rf_I ((s : Int) - 12)) fb fm ff am ae) : wX_round_33 post (nI k) ng (rf_L m) x5 mo (rf_I ((s : Int) - 12)) fb fm ff am ae :=
  rf_beq (m : Int) 0 (fun _ => h) (fun q => rf_cle ((s : Int) - 12) 11 (fun _ => h) (fun q2 => by omega) rfl (by decide)) rfl rf_L0
theorem rf_w33b {x5 fm : Int32} (hk : k < 4) (hp : 2 ≤ p ∧ p ≤ 10) (hσ : rf_S ng σ) (hm : m < 2305843009213693952) (hs : s ≤ 300) (h0 : ¬ m = 0) (h1 : 23 < s) (h : ∀ x y, rf_G p x y (σ * (((2 ^ p - 1) * 2 ^ 23 : Nat) : Int)) → post 3 (nI p, fm, ff ||| 3, upd am k x, upd ae k y)) : wX_round_33 post (nI k) ng (rf_L m) x5 mo (rf_I ((s : Int) - 12)) (nI p) fm ff am ae :=
  rf_beq (m : Int) 0 (fun q => by omega) (fun _ => rf_cle ((s : Int) - 12) 11 (fun q => by omega) (fun _ => rf_limit hk hp hσ h) rfl (by decide)) rfl rf_L0
theorem rf_w55a {fb fm : Int32} (hk : k < 4) (hσ : rf_S ng σ) (hm : m < 2305843009213693952) (hT : T ≤ 200) (hc : s + 60 ≤ T) (hF : rf_F p (σ * ((m * 2 ^ (T - 60) : Nat) : Int)))
    (h : ∀ x y, rf_G p x y (σ * ((m * 2 ^ (T - 60) : Nat) : Int)) → post 0 (fb, fm, ff, upd am k x, upd ae k y)) : wX_round_55 post (nI k) ng (rf_L m) (rf_I ((T : Int) - 72)) mo (rf_I ((s : Int) - 12)) fb fm ff am ae := by
  unfold wX_round_55
  refine nm_r (e' := rf_I ((s : Int) + 60 - T)) (by rw [rf_Isub]; congr 1; omega) (rf_clt 0 ((s : Int) + 60 - T) (fun q => by omega) (fun _ => ?_) (by decide) rfl)
  exact rf_storeG (p := p) hk hσ m (T - 60) hm (by omega) hF (fun x y g => h x y g)
theorem rf_w55b {fb fm : Int32} (hm : m < 2305843009213693952) (hT : T ≤ 200) (hc : cut + T = s + 60) (hc1 : 1 ≤ cut ∧ cut ≤ 60)
    (h : wX_round_113 post (nI k) ng mo (rf_I ((s : Int) - 12)) (rf_I (cut : Int)) (rf_L ((m / 2 ^ cut : Nat) : Int)) (rf_L ((m % 2 ^ cut : Nat) : Int)) fb fm ff am ae) : wX_round_55 post (nI k) ng (rf_L m) (rf_I ((T : Int) - 72)) mo (rf_I ((s : Int) - 12)) fb fm ff am ae := by
  unfold wX_round_55
  refine nm_r (e' := rf_I (cut : Int)) (by rw [rf_Isub]; congr 1; omega) (rf_clt 0 (cut : Int) (fun _ => rf_cle (cut : Int) 60 (fun _ => ?_) (fun q => by omega) rfl (by decide)) (fun q => by omega) (by decide) rfl)
  rw [rf_shrN m cut (by omega) (by omega) rfl rfl]
  unfold wX_round_93
  refine rf_cle (cut : Int) 60 (fun _ => ?_) (fun q => by omega) rfl (by decide)
  rw [rf_shlN (m / 2 ^ cut) cut (by omega) rfl rfl, rf_Lsub]
  have e : (m : Int) - ((m / 2 ^ cut * 2 ^ cut : Nat) : Int) = ((m % 2 ^ cut : Nat) : Int) := by
    have := Nat.div_add_mod' m (2 ^ cut)
    omega
  rw [e]
  exact h
theorem rf_w113a {fb fm : Int32} (hk : k < 4) (hσ : rf_S ng σ) (hm : kept < 2305843009213693952) (h0 : lost = 0) (hmo : mo = 0) (hF : rf_F p (σ * ((kept * 2 ^ s : Nat) : Int)))
    (h : ∀ x y, rf_G p x y (σ * ((kept * 2 ^ s : Nat) : Int)) → post 0 (fb, fm, ff, upd am k x, upd ae k y)) : wX_round_113 post (nI k) ng mo (rf_I ((s : Int) - 12)) (rf_I (cut : Int)) (rf_L kept) (rf_L lost) fb fm ff am ae := by
  subst h0
  refine br_t rf_L0.symm (br_t hmo ?_)
  exact rf_storeG (p := p) hk hσ kept s hm rfl hF (fun x y g => h x y g)
theorem rf_w113b {fb fm x8 x9 : Int32} (hm : lost < 2305843009213693952) (h0 : ¬ lost = 0 ∨ ¬ mo = 0) (h : wX_round_139 post (nI k) ng mo x8 x9 (rf_L kept) (rf_L lost) fb fm ff am ae) : wX_round_113 post (nI k) ng mo x8 x9 (rf_L kept) (rf_L lost) fb fm ff am ae := by
  refine rf_beq (lost : Int) 0 (fun q => br_f ?_ h) (fun _ => h) rfl rf_L0
  rcases h0 with h0 | h0
  · omega
  · exact h0
theorem rf_w139a {fm x9 : Int32} (hk : k < 4) (hp : 2 ≤ p ∧ p ≤ 10) (hσ : rf_S ng σ) (h0 : s = 23) (h1 : kept = 2 ^ p - 1) (h : ∀ x y, rf_G p x y (σ * (((2 ^ p - 1) * 2 ^ 23 : Nat) : Int)) → post 3 (nI p, fm, ff ||| 3, upd am k x, upd ae k y)) : wX_round_139 post (nI k) ng mo (rf_I ((s : Int) - 12)) x9 (rf_L kept) (rf_L lost) (nI p) fm ff am ae := by
  subst h0
  subst h1
  unfold wX_round_139
  exact br_t (by decide) (br_t (rf_1shl p hp.2).symm (rf_limit hk hp hσ h))
theorem rf_w139b {fm x9 : Int32} (hp : 2 ≤ p ∧ p ≤ 10) (hs : s ≤ 300) (hm : kept < 2305843009213693952) (h0 : ¬ (s = 23 ∧ kept = 2 ^ p - 1)) (h : wX_round_167 post (nI k) ng mo (rf_I ((s : Int) - 12)) x9 (rf_L kept) (rf_L lost) (nI p) fm ff am ae) : wX_round_139 post (nI k) ng mo (rf_I ((s : Int) - 12)) x9 (rf_L kept) (rf_L lost) (nI p) fm ff am ae := by
  have p10 := rf_p10 hp.2
  have p0 := Nat.two_pow_pos p
  unfold wX_round_139
  rw [rf_1shl p hp.2]
  refine rf_ceq ((s : Int) - 12) 11 (fun q => rf_beq (kept : Int) ((2 ^ p - 1 : Nat) : Int) (fun q2 => ?_) (fun _ => h)) (fun _ => h) rfl (by decide)
  exact absurd ⟨by omega, by omega⟩ h0
def rf_ay (w : Nat) (ng mo : Int32) (kept lost half : Nat) : Prop := (w = 0 ∧ (half < lost ∨ (lost = half ∧ (¬ mo = 0 ∨ kept % 2 = 1)))) ∨ (w = 2 ∧ ng = 0) ∨ (w = 1 ∧ ¬ ng = 0)
theorem rf_w167 (hk : k < 4) (hw : w ≤ 3) (hσ : rf_S ng σ) (hc : 1 ≤ cut ∧ cut ≤ 60) (hl : lost < 2305843009213693952) (hm : kept + 1 < 2305843009213693952)
    (h1 : rf_ay w ng mo kept lost (2 ^ (cut - 1)) → rf_F p (σ * (((kept + 1) * 2 ^ s : Nat) : Int)) ∧ ∀ x y, rf_G p x y (σ * (((kept + 1) * 2 ^ s : Nat) : Int)) → post 1 (nI p, nI w, ff ||| 1, upd am k x, upd ae k y))
    (h0 : ¬ rf_ay w ng mo kept lost (2 ^ (cut - 1)) → rf_F p (σ * ((kept * 2 ^ s : Nat) : Int)) ∧ ∀ x y, rf_G p x y (σ * ((kept * 2 ^ s : Nat) : Int)) → post 1 (nI p, nI w, ff ||| 1, upd am k x, upd ae k y)) :
    wX_round_167 post (nI k) ng mo (rf_I ((s : Int) - 12)) (rf_I (cut : Int)) (rf_L kept) (rf_L lost) (nI p) (nI w) ff am ae := by
  have A1 : rf_ay w ng mo kept lost (2 ^ (cut - 1)) → wX_round_211 post (rf_I ((s : Int) - 12)) (rf_L kept + 1) ng (nI k) (nI p) (nI w) ff am ae := by
    intro a
    unfold wX_round_211
    have e : rf_L kept + 1 = rf_L ((kept + 1 : Nat) : Int) := by rw [rf_L1, rf_Ladd]; rfl
    rw [e]
    exact rf_storeG (p := p) hk hσ (kept + 1) s (by omega) rfl (h1 a).1 (fun x y g => nm_e ((h1 a).2 x y g))
  have A0 : ¬ rf_ay w ng mo kept lost (2 ^ (cut - 1)) → wX_round_211 post (rf_I ((s : Int) - 12)) (rf_L kept) ng (nI k) (nI p) (nI w) ff am ae := by
    intro a
    unfold wX_round_211
    exact rf_storeG (p := p) hk hσ kept s (by omega) rfl (h0 a).1 (fun x y g => nm_e ((h0 a).2 x y g))
  have B : ∀ od : Int32, (¬ od = 0 ↔ kept % 2 = 1) → wX_round_183 post (nI k) ng mo (rf_I ((s : Int) - 12)) (rf_I (cut : Int)) (rf_L kept) (rf_L lost) od ng (nI p) (nI w) ff am ae := by
    intro od ho
    have e : rf_ax w ng mo od lost (2 ^ (cut - 1)) ↔ rf_ay w ng mo kept lost (2 ^ (cut - 1)) := by
      unfold rf_ax rf_ay
      rw [ho]
    unfold wX_round_183
    exact rf_goes hw hc hl (fun a => br_f (by decide) (A1 (e.mp a))) (fun a => br_t rfl (A0 (fun x => a (e.mpr x))))
  unfold wX_round_167
  rw [rf_and1 (kept : Int) rfl]
  refine rf_beq ((kept : Int) % 2) 0 (fun q => B 0 ?_) (fun q => B 1 ?_) rfl rf_L0
  · constructor
    · intro x; exact absurd rfl x
    · intro x; omega
  · constructor
    · intro x; omega
    · intro x; decide
end
end
section
/-! ===== X: round against the plain law ===== -/
theorem rf_al (K s cut a b : Nat) (h : s + a = cut + b) : K * 2 ^ s * 2 ^ a = K * 2 ^ cut * 2 ^ b := by
  rw [Nat.mul_assoc, Nat.mul_assoc, ← Nat.pow_add, ← Nat.pow_add, h]
theorem rf_2q (k n : Nat) : 2 * (k * 2 ^ n) = k * 2 ^ (n + 1) := by rw [← Nat.mul_assoc, rf_2p]
theorem rf_far {m T N0 N B a b : Nat} {σ : Int} {c : Int → Int} {mo : Prop} (hσ : σ = 1 ∨ σ = -1) (M : rf_M c) (L : rf_Lk σ m T mo c) (hab : a + T = b + 59) (h : N * 2 ^ a = B * 2 ^ b) (hB : B ≤ m) (hN : N0 < N) : c (σ * (N0 : Int)) = σ := by
  have l := L N B a b hab h
  have h1 : c (σ * (N : Int)) = σ ∨ c (σ * (N : Int)) = 0 := by
    rcases Nat.lt_or_ge B m with q | q
    · exact Or.inl (l.1 q)
    · have e : B = m := by omega
      by_cases hm : mo
      · exact Or.inl (l.2.1 e hm)
      · exact Or.inr (l.2.2.1 e hm)
  rcases hσ with rfl | rfl
  · rcases M (1 * (N0 : Int)) (1 * (N : Int)) (by omega) with r | r <;> omega
  · rcases M (-1 * (N : Int)) (-1 * (N0 : Int)) (by omega) with r | r <;> omega
theorem rf_ltop' (p n : Nat) : 2 * ((2 ^ p - 1) * 2 ^ n) < 2 ^ (p + (n + 1)) := by
  rw [rf_2q, Nat.pow_add 2 p]
  have := Nat.two_pow_pos p
  exact Nat.mul_lt_mul_of_pos_right (by omega) (Nat.two_pow_pos _)
theorem rf_ltop {p : Nat} : 2 * ((2 ^ p - 1) * 2 ^ 23) < 2 ^ (p + 24) := rf_ltop' p 23
section
variable {ff ng mo : Int32} {am ae : Nat → Int32} {p w k m T : Nat} {σ : Int} {c : Int → Int}
theorem rf_xfar {b : Nat} (hp : 2 ≤ p ∧ p ≤ 10) (hσ : σ = 1 ∨ σ = -1) (M : rf_M c) {mor : Prop} (L : rf_Lk σ m T mor c) (hm0 : ¬ m = 0) (hb2 : b = 0 ∨ 2 ^ (b - 1) ≤ m) (hmb : m < 2 ^ b) (hs : p + 84 ≤ b + T) : c (σ * ((2 * ((2 ^ p - 1) * 2 ^ 23) : Nat) : Int)) = σ := by
  have hb0 : ¬ b = 0 := by
    intro e
    rw [e] at hmb
    omega
  have hb3 : 2 ^ (b - 1) ≤ m := by
    rcases hb2 with h | h
    · exact absurd h hb0
    · exact h
  rcases Nat.lt_or_ge (p + 83) T with q | q
  · refine rf_far hσ M L (N := m * 2 ^ (T - 59)) (B := m) (a := 0) (b := T - 59) (by omega) (Nat.mul_one _) (Nat.le_refl m) ?_
    have h1 := rf_ltop (p := p)
    have h2 : 2 ^ (p + 24) ≤ 2 ^ (T - 59) := Nat.pow_le_pow_right (by decide) (by omega)
    have h3 : 2 ^ (T - 59) ≤ m * 2 ^ (T - 59) := Nat.le_mul_of_pos_left _ (by omega)
    exact Nat.lt_of_lt_of_le h1 (Nat.le_trans h2 h3)
  · obtain ⟨a, b', hab⟩ := rf_ab T 59
    refine rf_far hσ M L (N := 2 ^ (p + 24)) (B := 2 ^ (p + 83 - T)) (a := a) (b := b') hab ?_ ?_ rf_ltop
    · rw [← Nat.pow_add, ← Nat.pow_add]
      congr 1
      omega
    · exact Nat.le_trans (Nat.pow_le_pow_right (by decide) (by omega)) hb3
theorem rf_xround (hk : k < 4) (hp : 2 ≤ p ∧ p ≤ 10) (hw : w ≤ 3) (hσ : rf_S ng σ) (hm : m < 2 ^ 61) (hT : T ≤ 200) (M : rf_M c) (L : rf_Lk σ m T (¬ mo = 0) c) (hmo : ¬ mo = 0 → 2 ^ p ≤ m) :
    ∃ (f : Nat) (z : Int), rf_RS p w c f z ∧ ∀ post : Int32 → SX → Prop, (∀ x y, rf_G p x y z → post (nI f) (nI p, nI w, ff ||| nI f, upd am k x, upd ae k y)) → wpX_round post (nI p, nI w, ff, am, ae) (nI k) ng (rf_L m) (rf_I ((T : Int) - 72)) mo := by
  obtain ⟨b, hb, hmb, hb2⟩ := rf_bl m 61 hm
  obtain ⟨s, hs⟩ : ∃ s, s = b + T - (p + 60) := ⟨_, rfl⟩
  have σ1 := rf_S1 hσ
  have hm' : m < 2305843009213693952 := hm
  have p10 := rf_p10 hp.2
  have pp := rf_pp (p := p) (by omega)
  have or0 : ff ||| nI 0 = ff := Int32.or_zero
  by_cases hA : ¬ m = 0 ∧ 23 < s
  · have R : rf_RS p w c 3 _ := rf_lmz (by omega) σ1 M (rf_xfar hp σ1 M L hA.1 hb2 hmb (by omega))
    exact ⟨3, _, R, fun post h => rf_wround hp hT hmb hb hb2 hs (rf_w33b hk hp hσ hm' (by omega) hA.1 hA.2 (fun x y g => h x y g))⟩
  have hA2 : m = 0 ∨ s ≤ 23 := by omega
  rcases Nat.lt_or_ge T (s + 60) with hC | hB
  · -- bits are cut off
    obtain ⟨cut, hcut⟩ : ∃ cut, cut + T = s + 60 := ⟨s + 60 - T, by omega⟩
    have hc1 : 1 ≤ cut ∧ cut ≤ 60 := by omega
    have hbp : b ≤ p + cut := by omega
    have hs23 : s ≤ 23 := by
      rcases hA2 with e | e
      · have : b = 0 := by
          rcases hb2 with h | h
          · exact h
          · have := Nat.two_pow_pos (b - 1)
            omega
        omega
      · exact e
    have D0 := Nat.two_pow_pos cut
    have hk1 : m / 2 ^ cut < 2 ^ p := by
      apply Nat.div_lt_of_lt_mul
      rw [← Nat.pow_add]
      exact Nat.lt_of_lt_of_le hmb (Nat.pow_le_pow_right (by decide) (by omega))
    have hn : s = 0 ∨ 2 ^ (p - 1) ≤ m / 2 ^ cut := by
      rcases Nat.eq_zero_or_pos s with e | e
      · exact Or.inl e
      · refine Or.inr ?_
        rw [Nat.le_div_iff_mul_le D0, ← Nat.pow_add]
        rcases hb2 with h | h
        · omega
        · rw [show p - 1 + cut = b - 1 by omega]
          exact h
    have hdm := Nat.div_add_mod' m (2 ^ cut)
    have hml := Nat.mod_lt m D0
    have hlm : m % 2 ^ cut ≤ m := Nat.mod_le _ _
    obtain ⟨a, b', hab⟩ := rf_ab T 59
    have W : ∀ post : Int32 → SX → Prop, wX_round_113 post (nI k) ng mo (rf_I ((s : Int) - 12)) (rf_I (cut : Int)) (rf_L ((m / 2 ^ cut : Nat) : Int)) (rf_L ((m % 2 ^ cut : Nat) : Int)) (nI p) (nI w) ff am ae → wpX_round post (nI p, nI w, ff, am, ae) (nI k) ng (rf_L m) (rf_I ((T : Int) - 72)) mo :=
      fun post h => rf_wround hp hT hmb hb hb2 hs (rf_w33a hm' (by omega) hA2 (rf_w55b hm' hT hcut hc1 h))
    have l1 := L (2 * (m / 2 ^ cut * 2 ^ s)) (m / 2 ^ cut * 2 ^ cut) a b' hab (by rw [rf_2q]; exact rf_al _ _ _ _ _ (by omega))
    have l2 := L (2 * ((m / 2 ^ cut + 1) * 2 ^ s)) ((m / 2 ^ cut + 1) * 2 ^ cut) a b' hab (by rw [rf_2q]; exact rf_al _ _ _ _ _ (by omega))
    have l3 := L ((2 * (m / 2 ^ cut) + 1) * 2 ^ s) ((2 * (m / 2 ^ cut) + 1) * 2 ^ (cut - 1)) a b' hab (rf_al _ _ _ _ _ (by omega))
    have e2 : (m / 2 ^ cut + 1) * 2 ^ cut = m / 2 ^ cut * 2 ^ cut + 2 ^ cut := Nat.add_one_mul _ _
    have e3 : (2 * (m / 2 ^ cut) + 1) * 2 ^ (cut - 1) = m / 2 ^ cut * 2 ^ cut + 2 ^ (cut - 1) := by
      rw [Nat.add_one_mul, rf_2p, show cut - 1 + 1 = cut by omega]
    have x1 : m / 2 ^ cut * 2 ^ s < 2 ^ (p + 23) := by
      rw [Nat.pow_add]
      exact Nat.lt_of_le_of_lt (Nat.mul_le_mul_left _ (Nat.pow_le_pow_right (by decide) hs23)) (Nat.mul_lt_mul_of_pos_right hk1 (by decide))
    have x2 : m = m / 2 ^ cut * 2 ^ cut + m % 2 ^ cut := hdm.symm
    generalize m / 2 ^ cut = kept at *
    generalize m % 2 ^ cut = lost at *
    by_cases hex : lost = 0 ∧ mo = 0
    · have F : rf_F p (σ * ((kept * 2 ^ s : Nat) : Int)) := rf_Fs σ1 (rf_Fk (k := kept) (s := s) (by omega) (by omega) x1 (Int.natAbs_natCast _))
      have R : rf_RS p w c 0 (σ * ((kept * 2 ^ s : Nat) : Int)) := rf_exz (a := a + 1) (b := b') M L (fun h => h hex.2) (by omega) (by
        rw [x2, hex.1, Nat.add_zero]
        exact rf_al _ _ _ _ _ (by omega)) F
      refine ⟨0, _, R, fun post h => W post (rf_w113a hk hσ (by omega) hex.1 hex.2 F (fun x y g => ?_))⟩
      have := h x y g
      rw [or0] at this
      exact this
    · have hne : ¬ lost = 0 ∨ ¬ mo = 0 := by
        by_cases q : lost = 0
        · exact Or.inr (fun r => hex ⟨q, r⟩)
        · exact Or.inl q
      have c1 : c (σ * ((2 * (kept * 2 ^ s) : Nat) : Int)) = σ := by
        by_cases q : lost = 0
        · refine l1.2.1 (by omega) ?_
          rcases hne with r | r
          · exact absurd q r
          · exact r
        · exact l1.1 (by omega)
      by_cases hlim : s = 23 ∧ kept = 2 ^ p - 1
      · obtain ⟨rfl, rfl⟩ := hlim
        have R : rf_RS p w c 3 _ := rf_lmz (by omega) σ1 M c1
        exact ⟨3, _, R, fun post h => W post (rf_w113b (by omega) hne (rf_w139a hk hp hσ rfl rfl (fun x y g => h x y g)))⟩
      · have c2 := l2.2.2.2 (by omega)
        have x3 : (kept + 1) * 2 ^ s < 2 ^ (p + 23) := by
          rw [Nat.pow_add]
          rcases Nat.lt_or_ge s 23 with q | q
          · have y1 : (kept + 1) * 2 ^ s ≤ 2 ^ p * 2 ^ 22 := Nat.mul_le_mul (by omega) (Nat.pow_le_pow_right (by decide) (by omega))
            exact Nat.lt_of_le_of_lt y1 (Nat.mul_lt_mul_of_pos_left (by decide) (Nat.two_pow_pos p))
          · have y1 : s = 23 := by omega
            subst y1
            exact Nat.mul_lt_mul_of_pos_right (by omega) (by decide)
        have ht : ∃ t : Int, c (σ * (((2 * kept + 1) * 2 ^ s : Nat) : Int)) = σ * t ∧ (0 < t ↔ (2 ^ (cut - 1) < lost ∨ (lost = 2 ^ (cut - 1) ∧ ¬ mo = 0))) ∧ (t = 0 ↔ (lost = 2 ^ (cut - 1) ∧ mo = 0)) := by
          rw [e3] at l3
          generalize 2 ^ (cut - 1) = H at l3 ⊢
          rcases Nat.lt_trichotomy H lost with q | q | q
          · exact ⟨1, by rw [l3.1 (by omega), Int.mul_one], by omega, by omega⟩
          · by_cases r : mo = 0
            · refine ⟨0, by rw [l3.2.2.1 (by omega) (fun z => z r), Int.mul_zero], ⟨fun z => by omega, fun z => ?_⟩, ⟨fun _ => ⟨q.symm, r⟩, fun _ => rfl⟩⟩
              rcases z with z | z
              · omega
              · exact absurd r z.2
            · refine ⟨1, by rw [l3.2.1 (by omega) r, Int.mul_one], ⟨fun _ => Or.inr ⟨q.symm, r⟩, fun _ => by omega⟩, ⟨fun z => by omega, fun z => absurd z.2 r⟩⟩
          · exact ⟨-1, by rw [l3.2.2.2 (by omega)]; omega, by omega, by omega⟩
        obtain ⟨t, ht1, ht2, ht3⟩ := ht
        have I := rf_inz (p := p) (w := w) (by omega) hw σ1 M hn (by omega) x3 c1 c2 ht1
        have E : rf_aw w σ t kept ↔ rf_ay w ng mo kept lost (2 ^ (cut - 1)) := by
          unfold rf_aw rf_ay
          rw [ht2, ht3]
          have s1 : σ = 1 ↔ ng = 0 := by
            rcases hσ with ⟨g, rfl⟩ | ⟨g, rfl⟩
            · exact ⟨fun _ => g, fun _ => rfl⟩
            · exact ⟨fun z => by omega, fun z => absurd z g⟩
          have s2 : σ = -1 ↔ ¬ ng = 0 := by
            rcases hσ with ⟨g, rfl⟩ | ⟨g, rfl⟩
            · exact ⟨fun z => by omega, fun z => absurd g z⟩
            · exact ⟨fun _ => g, fun _ => rfl⟩
          rw [s1, s2]
          by_cases r : mo = 0
          · constructor
            · rintro (⟨q1, (q2 | ⟨_, q2⟩) | ⟨⟨q2, _⟩, q3⟩⟩ | q)
              · exact Or.inl ⟨q1, Or.inl q2⟩
              · exact absurd r q2
              · exact Or.inl ⟨q1, Or.inr ⟨q2, Or.inr q3⟩⟩
              · exact Or.inr q
            · rintro (⟨q1, q2 | ⟨q2, q3 | q3⟩⟩ | q)
              · exact Or.inl ⟨q1, Or.inl (Or.inl q2)⟩
              · exact absurd r q3
              · exact Or.inl ⟨q1, Or.inr ⟨⟨q2, r⟩, q3⟩⟩
              · exact Or.inr q
          · constructor
            · rintro (⟨q1, (q2 | ⟨q3, q2⟩) | ⟨⟨_, q2⟩, _⟩⟩ | q)
              · exact Or.inl ⟨q1, Or.inl q2⟩
              · exact Or.inl ⟨q1, Or.inr ⟨q3, Or.inl q2⟩⟩
              · exact absurd q2 r
              · exact Or.inr q
            · rintro (⟨q1, q2 | ⟨q2, _⟩⟩ | q)
              · exact Or.inl ⟨q1, Or.inl (Or.inl q2)⟩
              · exact Or.inl ⟨q1, Or.inl (Or.inr ⟨q2, r⟩)⟩
              · exact Or.inr q
        rw [E] at I
        by_cases y : rf_ay w ng mo kept lost (2 ^ (cut - 1))
        · have R := I.1 y
          exact ⟨1, _, R, fun post h => W post (rf_w113b (by omega) hne (rf_w139b hp (by omega) (by omega) hlim (rf_w167 hk hw hσ hc1 (by omega) (by omega) (fun _ => ⟨rf_RSF R, fun x y g => h x y g⟩) (fun z => absurd y z))))⟩
        · have R := I.2 y
          exact ⟨1, _, R, fun post h => W post (rf_w113b (by omega) hne (rf_w139b hp (by omega) (by omega) hlim (rf_w167 hk hw hσ hc1 (by omega) (by omega) (fun z => absurd z y) (fun _ => ⟨rf_RSF R, fun x y g => h x y g⟩))))⟩
  · -- nothing is cut off
    have hmo0 : mo = 0 := by
      by_cases q : mo = 0
      · exact q
      · have q2 := Nat.lt_of_le_of_lt (hmo q) hmb
        have q3 : p < b := (Nat.pow_lt_pow_iff_right (by decide)).mp q2
        omega
    have F : rf_F p (σ * ((m * 2 ^ (T - 60) : Nat) : Int)) := by
      refine rf_Fs σ1 ?_
      by_cases q : m = 0
      · subst q
        rw [Nat.zero_mul]
        exact rf_F0 p
      · have e : m * 2 ^ (T - 60) = (m * 2 ^ (T - 60 - s)) * 2 ^ s := by
          rw [Nat.mul_assoc, ← Nat.pow_add]
          congr 2
          omega
        have h1 : m * 2 ^ (T - 60 - s) < 2 ^ p := by
          refine Nat.lt_of_lt_of_le (Nat.mul_lt_mul_of_pos_right hmb (Nat.two_pow_pos _)) ?_
          rw [← Nat.pow_add]
          exact Nat.pow_le_pow_right (by decide) (by omega)
        refine rf_Fk (k := m * 2 ^ (T - 60 - s)) (s := s) (by omega) (by omega) ?_ (by rw [Int.natAbs_natCast]; exact e)
        rw [Nat.pow_add]
        exact Nat.lt_of_le_of_lt (Nat.mul_le_mul_left _ (Nat.pow_le_pow_right (by decide) (show s ≤ 23 by omega))) (Nat.mul_lt_mul_of_pos_right h1 (by decide))
    have R : rf_RS p w c 0 (σ * ((m * 2 ^ (T - 60) : Nat) : Int)) := rf_exz (a := 0) (b := T - 60) M L (fun h => h hmo0) (by omega) (Nat.mul_one _) F
    refine ⟨0, _, R, fun post h => rf_wround hp hT hmb hb hb2 hs (rf_w33a hm' (by omega) hA2 (rf_w55a (p := p) hk hσ hm' hT hB F (fun x y g => ?_)))⟩
    have := h x y g
    rw [or0] at this
    exact this
end
end
section
/-! ===== Y: against, look, search ===== -/
def rf_Ag (t l : Int64) (sq : Int32) (c : Int → Int) : Prop := ∀ x : Int, (-34359738368 ≤ x ∧ x ≤ 34359738368) → (c x = -1 ∨ c x = 0 ∨ c x = 1) ∧ ∀ (post : Int32 → Prop) (fb fw ff : Int32) (r0 r1 r2 r3 u o : Int64) (hu ho : Int32), post (rf_I (c x)) → wpY_against post (fb, fw, ff, r0, r1, r2, r3, t, l, sq, u, o, hu, ho) (rf_L x)
def rf_Iu (S : Int → Prop) (c : Int → Int) (hu : Int32) (u : Int64) : Prop := (hu = 0 ∧ ∀ x, S x → ¬ 0 ≤ c (2 * x)) ∨ (hu = 1 ∧ ∃ z : Int, u = rf_L z ∧ (-17179869184 ≤ z ∧ z ≤ 17179869184) ∧ S z ∧ 0 ≤ c (2 * z) ∧ ∀ x, S x → 0 ≤ c (2 * x) → x ≤ z)
def rf_Io (S : Int → Prop) (c : Int → Int) (ho : Int32) (o : Int64) : Prop := (ho = 0 ∧ ∀ x, S x → ¬ c (2 * x) ≤ 0) ∨ (ho = 1 ∧ ∃ z : Int, o = rf_L z ∧ (-17179869184 ≤ z ∧ z ≤ 17179869184) ∧ S z ∧ c (2 * z) ≤ 0 ∧ ∀ x, S x → c (2 * x) ≤ 0 → z ≤ x)
section
variable {post : SY → Prop} {fb fw ff sq hu ho : Int32} {r0 r1 r2 r3 t l u o : Int64} {c : Int → Int} {S : Int → Prop}
theorem rf_look40 (x : Int) (hx : -17179869184 ≤ x ∧ x ≤ 17179869184) (hc : c (2 * x) = -1 ∨ c (2 * x) = 0 ∨ c (2 * x) = 1) (O : rf_Io S c ho o) (K : ∀ o' ho', rf_Io (fun y => S y ∨ y = x) c ho' o' → post (fb, fw, ff, r0, r1, r2, r3, t, l, sq, u, o', hu, ho')) : wY_look_40 post (rf_L x) (rf_I (c (2 * x))) fb fw ff r0 r1 r2 r3 t l sq u o hu ho := by
  have N : c (2 * x) ≤ 0 → (∀ y, S y → c (2 * y) ≤ 0 → x ≤ y) → rf_Io (fun y => S y ∨ y = x) c 1 (rf_L x) := by
    intro h1 h2
    refine Or.inr ⟨rfl, x, rfl, hx, Or.inr rfl, h1, ?_⟩
    rintro y (hy | rfl) h
    · exact h2 y hy h
    · exact Int.le_refl _
  refine rf_clt 0 (c (2 * x)) (fun q => K o ho ?_) (fun q => ?_) (by decide) rfl
  · rcases O with ⟨h1, h2⟩ | ⟨h1, z, h2, h3, h4, h5, h6⟩
    · refine Or.inl ⟨h1, ?_⟩
      rintro y (hy | rfl)
      · exact h2 y hy
      · omega
    · refine Or.inr ⟨h1, z, h2, h3, Or.inl h4, h5, ?_⟩
      rintro y (hy | rfl) h
      · exact h6 y hy h
      · omega
  · rcases O with ⟨h1, h2⟩ | ⟨h1, z, h2, h3, h4, h5, h6⟩
    · exact br_t h1 (K _ _ (N q (fun y hy h => absurd h (h2 y hy))))
    · subst h1; subst h2
      refine br_f (by decide) (rf_ble z x (fun q2 => K _ _ ?_) (fun q2 => K _ _ (N q (fun y hy h => by have := h6 y hy h; omega))))
      refine Or.inr ⟨rfl, z, rfl, h3, Or.inl h4, h5, ?_⟩
      rintro y (hy | rfl) h
      · exact h6 y hy h
      · exact q2
theorem rf_look (A : rf_Ag t l sq c) (x : Int) (hx : -17179869184 ≤ x ∧ x ≤ 17179869184) (U : rf_Iu S c hu u) (O : rf_Io S c ho o)
    (K : ∀ u' o' hu' ho', rf_Iu (fun y => S y ∨ y = x) c hu' u' → rf_Io (fun y => S y ∨ y = x) c ho' o' → post (fb, fw, ff, r0, r1, r2, r3, t, l, sq, u', o', hu', ho')) : wpY_look post (fb, fw, ff, r0, r1, r2, r3, t, l, sq, u, o, hu, ho) (rf_L x) := by
  have a := A (2 * x) (by omega)
  unfold wpY_look
  dsimp only
  rw [rf_L2, rf_Lmul]
  refine a.2 _ _ _ _ _ _ _ _ _ _ _ _ ?_
  have N : 0 ≤ c (2 * x) → (∀ y, S y → 0 ≤ c (2 * y) → y ≤ x) → wY_look_30 post (rf_L x) (rf_I (c (2 * x))) fb fw ff r0 r1 r2 r3 t l sq u o hu ho := by
    intro h1 h2
    refine rf_look40 x hx a.1 O (fun o' ho' O' => K _ _ _ _ (Or.inr ⟨rfl, x, rfl, hx, Or.inr rfl, h1, ?_⟩) O')
    rintro y (hy | rfl) h
    · exact h2 y hy h
    · exact Int.le_refl _
  refine rf_clt (c (2 * x)) 0 (fun q => rf_look40 x hx a.1 O (fun o' ho' O' => K _ _ _ _ ?_ O')) (fun q => ?_) rfl (by decide)
  · rcases U with ⟨h1, h2⟩ | ⟨h1, z, h2, h3, h4, h5, h6⟩
    · refine Or.inl ⟨h1, ?_⟩
      rintro y (hy | rfl)
      · exact h2 y hy
      · omega
    · refine Or.inr ⟨h1, z, h2, h3, Or.inl h4, h5, ?_⟩
      rintro y (hy | rfl) h
      · exact h6 y hy h
      · omega
  · rcases U with ⟨h1, h2⟩ | ⟨h1, z, h2, h3, h4, h5, h6⟩
    · exact br_t h1 (N q (fun y hy h => absurd h (h2 y hy)))
    · subst h1; subst h2
      refine br_f (by decide) (rf_ble x z (fun q2 => rf_look40 x hx a.1 O (fun o' ho' O' => K _ _ _ _ ?_ O')) (fun q2 => N q (fun y hy h => by have := h6 y hy h; omega)))
      refine Or.inr ⟨rfl, z, rfl, h3, Or.inl h4, h5, ?_⟩
      rintro y (hy | rfl) h
      · exact h6 y hy h
      · exact q2
end
def rf_Sd (p : Nat) (S : Int → Prop) : Prop := ∀ x, S x → rf_F p x
def rf_Cv (p e m : Nat) (S : Int → Prop) : Prop := ∀ e' m' : Nat, ((e' < e ∧ m' < 2 ^ p) ∨ (e' = e ∧ m' < m)) → (e' = 0 ∨ 2 ^ (p - 1) ≤ m') → S ((m' * 2 ^ e' : Nat) : Int) ∧ S (-((m' * 2 ^ e' : Nat) : Int))
theorem rf_sh1 : ∀ p, p < 11 → (1 : Int32) <<< (nI p &&& 31) = nI (2 ^ p) := by decide +kernel
theorem rf_sh2 : ∀ p, p < 11 → 0 < p → (1 : Int32) <<< ((nI p - 1) &&& 31) = nI (2 ^ (p - 1)) := by decide +kernel
theorem rf_nL {n : Nat} (h : n < 2147483648) : (nI n).toInt64 = rf_L n := by rw [← rf_In, rf_I2L (by omega)]
section
variable {post : SY → Prop} {fw ff sq : Int32} {r0 r1 r2 r3 t l : Int64} {c : Int → Int} {p : Nat}
theorem rf_s35 {J : Int32 → Int32 → Int32 → Int32 → Int64 → Int64 → Int64 → Int64 → Int64 → Int64 → Int32 → Int64 → Int64 → Int32 → Int32 → Prop} (A : rf_Ag t l sq c) (hp : 2 ≤ p ∧ p ≤ 10) {e : Nat} (he : e ≤ 23)
    (KJ : ∀ (S : Int → Prop) (u o : Int64) (hu ho : Int32), rf_Iu S c hu u → rf_Io S c ho o → rf_Sd p S → rf_Cv p (e + 1) 0 S → J (nI (e + 1)) (nI p) fw ff r0 r1 r2 r3 t l sq u o hu ho) :
    ∀ (d m : Nat) (S : Int → Prop) (u o : Int64) (hu ho : Int32), m + d = 2 ^ p → rf_Iu S c hu u → rf_Io S c ho o → rf_Sd p S → rf_Cv p e m S → wY_search_35 post J (nI e) (d + 1) (nI m) (nI p) fw ff r0 r1 r2 r3 t l sq u o hu ho := by
  have p10 := rf_p10 hp.2
  intro d
  induction d with
  | zero =>
    intro m S u o hu ho hm U O Sd Cv
    have hm2 : m = 2 ^ p := by omega
    subst hm2
    refine br_t ?_ (nm_r (nI_1 e) (KJ S u o hu ho U O Sd ?_))
    · rw [rf_sh1 p (by omega)]
      exact nI_le (Nat.le_refl _) (by omega)
    · intro e' m' h1 h2
      refine Cv e' m' ?_ h2
      rcases h1 with h1 | h1
      · rcases Nat.lt_or_ge e' e with q | q
        · exact Or.inl ⟨q, h1.2⟩
        · exact Or.inr ⟨by omega, h1.2⟩
      · omega
  | succ d ih =>
    intro m S u o hu ho hm U O Sd Cv
    have hm2 : m < 2 ^ p := by omega
    have b1 : m * 2 ^ e < 2 ^ (p + 23) := by
      rw [Nat.pow_add]
      exact Nat.lt_of_le_of_lt (Nat.mul_le_mul_left _ (Nat.pow_le_pow_right (by decide) he)) (Nat.mul_lt_mul_of_pos_right hm2 (by decide))
    have b2 : 2 ^ (p + 23) ≤ 2 ^ 33 := Nat.pow_le_pow_right (by decide) (by omega)
    have F : rf_F p ((m * 2 ^ e : Nat) : Int) := ⟨m, e, hm2, Int.natAbs_natCast _, by rw [Int.natAbs_natCast]; exact b1⟩
    refine br_f ?_ ?_
    · rw [rf_sh1 p (by omega)]
      exact nI_ge hm2 (by omega)
    · rw [rf_nL (n := m) (by omega), rf_shlN m e (by omega) rfl (rf_In e).symm, rf_Lneg]
      have b3 : m * 2 ^ e ≤ 17179869184 := by omega
      generalize hX : m * 2 ^ e = X at F b3 ⊢
      refine rf_look A (X : Int) (by omega) U O (fun u1 o1 hu1 ho1 U1 O1 => ?_)
      refine rf_look A (-(X : Int)) (by omega) U1 O1 (fun u2 o2 hu2 ho2 U2 O2 => ?_)
      refine nm_r (nI_1 m) (ih (m + 1) _ u2 o2 hu2 ho2 (by omega) U2 O2 ?_ ?_)
      · rintro y ((hy | rfl) | rfl)
        · exact Sd y hy
        · exact F
        · exact rf_Fn F
      · intro e' m' h1 h2
        by_cases q : e' = e ∧ m' = m
        · obtain ⟨rfl, rfl⟩ := q
          rw [hX]
          exact ⟨Or.inl (Or.inr rfl), Or.inr rfl⟩
        · have := Cv e' m' (by omega) h2
          exact ⟨Or.inl (Or.inl this.1), Or.inl (Or.inl this.2)⟩
theorem rf_s12 (A : rf_Ag t l sq c) (hp : 2 ≤ p ∧ p ≤ 10) (K : ∀ (u o : Int64) (hu ho : Int32), rf_Iu (rf_F p) c hu u → rf_Io (rf_F p) c ho o → post (nI p, fw, ff, r0, r1, r2, r3, t, l, sq, u, o, hu, ho)) :
    ∀ (d e : Nat) (S : Int → Prop) (u o : Int64) (hu ho : Int32), e + d = 24 → rf_Iu S c hu u → rf_Io S c ho o → rf_Sd p S → rf_Cv p e 0 S → wY_search_12 post (d + 1) (nI e) (nI p) fw ff r0 r1 r2 r3 t l sq u o hu ho := by
  have p10 := rf_p10 hp.2
  intro d
  induction d with
  | zero =>
    intro e S u o hu ho he U O Sd Cv
    have he2 : e = 24 := by omega
    subst he2
    have E : S = rf_F p := by
      funext x
      apply propext
      refine ⟨Sd x, ?_⟩
      rintro ⟨m, E, h1, h2, h3⟩
      rw [h2] at h3
      obtain ⟨e', m', g1, g2, g3, g4⟩ := rf_norm (by omega) E m h1 h3
      have c1 := Cv e' m' (Or.inl ⟨by omega, g2⟩) g3
      rw [← g4, ← h2] at c1
      rcases Int.natAbs_eq x with q | q
      · rw [q]; exact c1.1
      · rw [q]; exact c1.2
    subst E
    exact br_t (by decide) (K u o hu ho U O)
  | succ d ih =>
    intro e S u o hu ho he U O Sd Cv
    have KJ : ∀ (S : Int → Prop) (u o : Int64) (hu ho : Int32), rf_Iu S c hu u → rf_Io S c ho o → rf_Sd p S → rf_Cv p (e + 1) 0 S → wY_search_12 post (d + 1) (nI (e + 1)) (nI p) fw ff r0 r1 r2 r3 t l sq u o hu ho :=
      fun S u o hu ho U O Sd Cv => ih (e + 1) S u o hu ho (by omega) U O Sd Cv
    refine br_f (nI_nlt (b := e) (a := 23) (by omega) (by decide)) ?_
    by_cases q : e = 0
    · subst q
      exact br_t rfl ⟨_, rf_s35 A hp (by omega) KJ (2 ^ p) 0 S u o hu ho (by omega) U O Sd Cv⟩
    · refine br_f (nI_ne0 (by omega) (by omega)) (nm_r (rf_sh2 p (by omega) (by omega)) ⟨_, rf_s35 A hp (by omega) KJ (2 ^ p - 2 ^ (p - 1)) (2 ^ (p - 1)) S u o hu ho ?_ U O Sd ?_⟩)
      · have := rf_pp (p := p) (by omega)
        omega
      · intro e' m' h1 h2
        exact Cv e' m' (by omega) h2
theorem rf_search {hu ho : Int32} {u o : Int64} (A : rf_Ag t l sq c) (hp : 2 ≤ p ∧ p ≤ 10) (K : ∀ (u o : Int64) (hu ho : Int32), rf_Iu (rf_F p) c hu u → rf_Io (rf_F p) c ho o → post (nI p, fw, ff, r0, r1, r2, r3, t, l, sq, u, o, hu, ho)) : wpY_search post (nI p, fw, ff, r0, r1, r2, r3, t, l, sq, u, o, hu, ho) :=
  ⟨25, rf_s12 A hp K 24 0 (fun _ => False) u o 0 0 rfl (Or.inl ⟨rfl, fun _ h => h.elim⟩) (Or.inl ⟨rfl, fun _ h => h.elim⟩) (fun _ h => h.elim) (fun _ _ h => by omega)⟩
end
end
section
/-! ===== Y: put, get, choose, round ===== -/
theorem rf_10 : ¬ (1 : Int32) = 0 := by decide
def rf_zu (zs : Nat → Int) (k : Nat) (z : Int) : Nat → Int := fun j => if j = k then z else zs j
section
variable {post : SY → Prop} {fb fw ff sq hu ho : Int32} {t l uu oo : Int64} {c : Int → Int} {p w k : Nat} {zs : Nat → Int}
theorem rf_put (hk : k < 4) (z : Int) (h : post (fb, fw, ff, rf_L (rf_zu zs k z 0), rf_L (rf_zu zs k z 1), rf_L (rf_zu zs k z 2), rf_L (rf_zu zs k z 3), t, l, sq, uu, oo, hu, ho)) : wpY_put post (fb, fw, ff, rf_L (zs 0), rf_L (zs 1), rf_L (zs 2), rf_L (zs 3), t, l, sq, uu, oo, hu, ho) (nI k) (rf_L z) := by
  have k4 : k = 0 ∨ k = 1 ∨ k = 2 ∨ k = 3 := by omega
  rcases k4 with rfl | rfl | rfl | rfl
  · exact br_t rfl (br_f (by decide) (br_f (by decide) (br_f (by decide) h)))
  · exact br_f (by decide) (br_t rfl (br_f (by decide) (br_f (by decide) h)))
  · exact br_f (by decide) (br_f (by decide) (br_t rfl (br_f (by decide) h)))
  · exact br_f (by decide) (br_f (by decide) (br_f (by decide) (br_t rfl h)))
theorem rf_get {post : Int64 → Prop} (hk : k < 4) (h : post (rf_L (zs k))) : wpY_get post (fb, fw, ff, rf_L (zs 0), rf_L (zs 1), rf_L (zs 2), rf_L (zs 3), t, l, sq, uu, oo, hu, ho) (nI k) := by
  have k4 : k = 0 ∨ k = 1 ∨ k = 2 ∨ k = 3 := by omega
  rcases k4 with rfl | rfl | rfl | rfl
  · exact br_t rfl h
  · exact br_f (by decide) (br_t rfl h)
  · exact br_f (by decide) (br_f (by decide) (br_t rfl h))
  · exact br_f (by decide) (br_f (by decide) (br_f (by decide) h))
theorem rf_is1 {post : Int32 → Prop} {v : SY} (hk : k < 4) (h : post 1) : wpY_is post v (nI k) := by
  have k4 : k = 0 ∨ k = 1 ∨ k = 2 ∨ k = 3 := by omega
  obtain ⟨_, _, _, _, _, _, _, _, _, _, _, _, _, _⟩ := v
  rcases k4 with rfl | rfl | rfl | rfl <;> exact br_f (by decide) (br_f (by decide) h)
theorem rf_is0 {post : Int32 → Prop} {v : SY} {x : Int32} (hx : ∀ k, k < 4 → ¬ x = nI k) (h : post 0) : wpY_is post v x := by
  obtain ⟨_, _, _, _, _, _, _, _, _, _, _, _, _, _⟩ := v
  refine br_c (fun _ => h) (fun q => br_c (fun _ => h) (fun q2 => ?_))
  obtain ⟨j, hj, e⟩ := nI_of2 (x := x) (M := 3) (n := 3) (by decide) q (Int32.not_lt.mp q2)
  exact absurd e (hx j (by omega))
theorem rf_xis1 {post : Int32 → Prop} (hk : k < 4) (h : post 1) : wpX_isRegister post (nI k) := by
  have k4 : k = 0 ∨ k = 1 ∨ k = 2 ∨ k = 3 := by omega
  rcases k4 with rfl | rfl | rfl | rfl <;> exact br_f (by decide) (br_f (by decide) h)
theorem rf_xis0 {post : Int32 → Prop} {x : Int32} (hx : ∀ k, k < 4 → ¬ x = nI k) (h : post 0) : wpX_isRegister post x := by
  refine br_c (fun _ => h) (fun q => br_c (fun _ => h) (fun q2 => ?_))
  obtain ⟨j, hj, rfl⟩ := nI_of q
  have : ¬ 4 ≤ j := fun r => q2 (nI_le (a := 4) r (by omega))
  exact absurd rfl (hx j (by omega))
theorem rf_isq (x : Int32) : (∃ k, k < 4 ∧ x = nI k) ∨ (∀ k, k < 4 → ¬ x = nI k) := by
  by_cases h : ∃ k, k < 4 ∧ x = nI k
  · exact Or.inl h
  · exact Or.inr (fun k hk e => h ⟨k, hk, e⟩)
end
section
variable {fb fw ff sq hu ho : Int32} {r0 r1 r2 r3 t l uu oo : Int64} {c : Int → Int} {p w k : Nat}
theorem rf_c105 {post : Int64 → Prop} {r u o : Int} {z0 : Int32} (hr : r = -1 ∨ r = 0 ∨ r = 1) (h : post (rf_L (if r < 0 ∨ (r = 0 ∧ ¬ z0 = 0) then u else o))) : wY_choose_105 post (rf_I r) z0 fb fw ff r0 r1 r2 r3 t l sq (rf_L u) (rf_L o) hu ho := by
  refine rf_clt r 0 (fun q => ?_) (fun q => rf_ceq r 0 (fun q2 => br_c (fun q3 => ?_) (fun q3 => ?_)) (fun q2 => ?_) rfl (by decide)) rfl (by decide)
  · rw [if_pos (Or.inl q)] at h; exact h
  · rw [if_neg (by rintro (x | ⟨_, x⟩); omega; exact x q3)] at h; exact h
  · rw [if_pos (Or.inr ⟨q2, q3⟩)] at h; exact h
  · rw [if_neg (by rintro (x | ⟨x, _⟩) <;> omega)] at h; exact h
theorem rf_choose {post : Int64 → Prop} {u o : Int} (hw : w ≤ 3) (A : rf_Ag t l sq c) (hu1 : -17179869184 ≤ u ∧ u ≤ 17179869184) (ho1 : -17179869184 ≤ o ∧ o ≤ 17179869184) (huo : u < o) (h : post (rf_L (rf_ch w u o (c (u + o))))) : wpY_choose post (fb, nI w, ff, r0, r1, r2, r3, t, l, sq, rf_L u, rf_L o, hu, ho) := by
  have w4 : w = 0 ∨ w = 1 ∨ w = 2 ∨ w = 3 := by omega
  have a := A (u + o) (by omega)
  unfold rf_ch at h
  unfold wpY_choose
  dsimp only
  rcases w4 with rfl | rfl | rfl | rfl
  · rw [if_neg (by decide), if_neg (by decide), if_neg (by decide)] at h
    refine br_f (by decide) (br_f (by decide) (br_f (by decide) ?_))
    rw [rf_Ladd]
    refine a.2 _ _ _ _ _ _ _ _ _ _ _ _ (nm_r (rf_Lsub o u) (rf_ble (o - u) 0 (fun q => by omega) (fun q => ⟨?_, by decide, ?_⟩) rfl rf_L0))
    · rw [rf_L0, rf_Leq (by omega) (by omega)]
      omega
    · have q1 := Int.natAbs_tdiv_le_natAbs u (o - u)
      rw [rf_div (by omega) (by omega)]
      generalize u.tdiv (o - u) = Q at q1 h ⊢
      rw [rf_L2, rf_div (by omega) (by omega), rf_Lmul, rf_Lsub]
      have q2 := Int.mul_tdiv_add_tmod Q 2
      have q3 := Int.tmod_two_eq Q
      generalize Q.tdiv 2 = Y at q2 ⊢
      generalize Q.tmod 2 = Z at q2 q3
      refine rf_beq (Q - Y * 2) 0 (fun q => ?_) (fun q => ?_) rfl rf_L0
      · refine rf_c105 a.1 ?_
        by_cases z : c (u + o) < 0 ∨ (c (u + o) = 0 ∧ Q % 2 = 0)
        · rw [if_pos z] at h
          rw [if_pos (by rcases z with z | z; exact Or.inl z; exact Or.inr ⟨z.1, by decide⟩)]
          exact h
        · rw [if_neg z] at h
          rw [if_neg (by rintro (x | ⟨x, _⟩); exact z (Or.inl x); exact z (Or.inr ⟨x, by omega⟩))]
          exact h
      · refine rf_c105 a.1 ?_
        by_cases z : c (u + o) < 0 ∨ (c (u + o) = 0 ∧ Q % 2 = 0)
        · rw [if_pos z] at h
          rw [if_pos (by rcases z with z | z; exact Or.inl z; omega)]
          exact h
        · rw [if_neg z] at h
          rw [if_neg (by rintro (x | ⟨_, x⟩); exact z (Or.inl x); exact x rfl)]
          exact h
  · rw [if_pos rfl] at h
    exact br_t rfl h
  · rw [if_neg (by decide), if_pos rfl] at h
    exact br_f (by decide) (br_t rfl h)
  · rw [if_neg (by decide), if_neg (by decide), if_pos rfl] at h
    refine br_f (by decide) (br_f (by decide) (br_t rfl (rf_blt u 0 (fun q => ?_) (fun q => ?_) rfl rf_L0)))
    · rw [if_neg (by omega)] at h; exact h
    · rw [if_pos q] at h; exact h
theorem rf_yround {post : Int32 → SY → Prop} {zs : Nat → Int} {f : Nat} {z : Int} (hk : k < 4) (hp : 2 ≤ p ∧ p ≤ 10) (hw : w ≤ 3) (A : rf_Ag t l sq c) (M : rf_M c) (R : rf_RS p w c f z)
    (h : ∀ (u o : Int64) (hu ho : Int32), post (nI f) (nI p, nI w, ff ||| nI f, rf_L (rf_zu zs k z 0), rf_L (rf_zu zs k z 1), rf_L (rf_zu zs k z 2), rf_L (rf_zu zs k z 3), t, l, sq, u, o, hu, ho)) :
    wpY_round post (nI p, nI w, ff, rf_L (zs 0), rf_L (zs 1), rf_L (zs 2), rf_L (zs 3), t, l, sq, uu, oo, hu, ho) (nI k) := by
  unfold wpY_round
  dsimp only
  have P : ∀ (f' : Nat) (z' : Int) (u o : Int64) (hu ho : Int32), rf_RS p w c f' z' → wY_round_68 post (nI k) (nI f') (rf_L z') (nI p) (nI w) ff (rf_L (zs 0)) (rf_L (zs 1)) (rf_L (zs 2)) (rf_L (zs 3)) t l sq u o hu ho := by
    intro f' z' u o hu ho R'
    have e := rf_RS1 R' R
    obtain ⟨rfl, rfl⟩ := e
    unfold wY_round_68
    exact rf_put (post := fun v => match v with | (b1, b2, b3, b4, b5, b6, b7, b8, b9, b10, b11, b12, b13, b14) => ∀ x : Int32, x = b3 ||| nI f' → post (nI f') (b1, b2, x, b4, b5, b6, b7, b8, b9, b10, b11, b12, b13, b14)) hk z' (nm_e (h u o hu ho))
  refine rf_search A hp (fun u o hu ho U O => ?_)
  rcases U with ⟨rfl, U2⟩ | ⟨rfl, zu, rfl, U3, U4, U5, U6⟩
  · rcases O with ⟨rfl, O2⟩ | ⟨rfl, zo, rfl, O3, O4, O5, O6⟩
    · exfalso
      rcases R with ⟨h1, _⟩ | ⟨_, _, h1, _⟩ | ⟨h1, _⟩ | ⟨h1, _⟩
      · exact rf_UnN h1 U2
      · exact rf_UnN h1 U2
      · exact rf_UnN h1 U2
      · exact rf_OvN h1 O2
    · exact br_f rf_10 (br_t rfl (br_t rfl (P 3 zo _ _ _ _ (Or.inr (Or.inr (Or.inr ⟨⟨O4, O5, O6⟩, U2, rfl⟩))))))
  · have HU : rf_Un p c zu := ⟨U4, U5, U6⟩
    rcases O with ⟨rfl, O2⟩ | ⟨rfl, zo, rfl, O3, O4, O5, O6⟩
    · exact br_t rfl (br_f rf_10 (P 3 zu _ _ _ _ (Or.inr (Or.inr (Or.inl ⟨HU, O2, rfl⟩)))))
    · have HO : rf_Ov p c zo := ⟨O4, O5, O6⟩
      have hle : zu ≤ zo := by
        apply Int.not_lt.mp
        intro q
        rcases M (2 * zo) (2 * zu) (by omega) with r | r <;> omega
      refine br_f rf_10 (br_f rf_10 (rf_beq zu zo (fun q => ?_) (fun q => ?_)))
      · subst q
        exact P 0 zu _ _ _ _ (Or.inl ⟨HU, HO, rfl⟩)
      · exact rf_choose hw A U3 O3 (by omega) (P 1 _ _ _ _ _ (Or.inr (Or.inl ⟨zu, zo, HU, HO, by omega, rfl, rfl⟩)))
end
end
section
/-! ===== the exact value as a comparison, on Y's side and on X's ===== -/
def rf_sg (a : Int) : Int := if a < 0 then -1 else if a = 0 then 0 else 1
def rf_cq (t l x : Int) : Int := rf_sg (2 * t - x * l)
def rf_cs (t x : Int) : Int := if x < 0 then 1 else rf_sg (4 * t - x * x)
theorem rf_sgn {a : Int} (h : a < 0) : rf_sg a = -1 := if_pos h
theorem rf_sgz {a : Int} (h : a = 0) : rf_sg a = 0 := by unfold rf_sg; rw [if_neg (by omega), if_pos h]
theorem rf_sgp {a : Int} (h : 0 < a) : rf_sg a = 1 := by unfold rf_sg; rw [if_neg (by omega), if_neg (by omega)]
theorem rf_sg3 (a : Int) : rf_sg a = -1 ∨ rf_sg a = 0 ∨ rf_sg a = 1 := by
  rcases Int.lt_trichotomy a 0 with h | h | h
  · exact Or.inl (rf_sgn h)
  · exact Or.inr (Or.inl (rf_sgz h))
  · exact Or.inr (Or.inr (rf_sgp h))
theorem rf_I1 : (1 : Int32) = rf_I 1 := by decide
theorem rf_Im1 : (-1 : Int32) = rf_I (-1) := by decide
theorem rf_Mq {t l : Int} (hl : 0 < l) : rf_M (rf_cq t l) := by
  intro x y h
  have h1 := Int.mul_lt_mul_of_pos_right h hl
  unfold rf_cq
  generalize x * l = X at h1 ⊢
  generalize y * l = Y at h1 ⊢
  rcases Int.lt_or_le X (2 * t) with q | q
  · exact Or.inl (rf_sgp (by omega))
  · exact Or.inr (rf_sgn (by omega))
theorem rf_Agq {t l : Int} (ht : -2305843009213693952 ≤ t ∧ t ≤ 2305843009213693952) (hl : 0 ≤ l ∧ l ≤ 134217728) : rf_Ag (rf_L t) (rf_L l) 0 (rf_cq t l) := by
  intro x hx
  refine ⟨rf_sg3 _, fun post fb fw ff r0 r1 r2 r3 u o hu ho h => ?_⟩
  have b : (x * l).natAbs ≤ 4611686018427387904 := by
    rw [Int.natAbs_mul]
    exact Nat.le_trans (Nat.mul_le_mul (show x.natAbs ≤ 34359738368 by omega) (show l.natAbs ≤ 134217728 by omega)) (by decide)
  unfold rf_cq at h
  unfold wpY_against
  dsimp only
  refine br_t rfl (nm_r (e' := rf_L (2 * t)) (by rw [rf_L2, rf_Lmul]) (nm_r (rf_Lmul x l) ?_))
  generalize x * l = X at b h ⊢
  refine rf_ble X (2 * t) (fun q => rf_ble (2 * t) X (fun q2 => ?_) (fun q2 => ?_)) (fun q => ?_)
  · rw [rf_sgz (by omega), ← rf_I0] at h; exact h
  · rw [rf_sgp (by omega), ← rf_I1] at h; exact h
  · rw [rf_sgn (by omega), ← rf_Im1] at h; exact h
theorem rf_Ms {t : Int} (ht : 0 ≤ t) : rf_M (rf_cs t) := by
  intro x y h
  unfold rf_cs
  by_cases h0 : x < 0
  · exact Or.inl (if_pos h0)
  · have h1 : x * x < y * y := Int.mul_lt_mul' (by omega) h (by omega) (by omega)
    rw [if_neg h0, if_neg (by omega)]
    generalize x * x = X at h1 ⊢
    generalize y * y = Y at h1 ⊢
    rcases Int.lt_or_le X (4 * t) with q | q
    · exact Or.inl (rf_sgp (by omega))
    · exact Or.inr (rf_sgn (by omega))
theorem rf_Ags {t : Int} {l : Int64} (ht : 0 ≤ t ∧ t ≤ 35184372088832) : rf_Ag (rf_L t) l 1 (rf_cs t) := by
  intro x hx
  refine ⟨?_, fun post fb fw ff r0 r1 r2 r3 u o hu ho h => ?_⟩
  · unfold rf_cs
    split
    · exact Or.inr (Or.inr rfl)
    · exact rf_sg3 _
  unfold rf_cs at h
  unfold wpY_against
  dsimp only
  refine br_f rf_10 (nm_r (e' := rf_L (4 * t)) (by rw [show (4 : Int64) = rf_L 4 by decide, rf_Lmul]) ?_)
  refine rf_blt x 0 (fun q => ?_) (fun q => ?_) rfl rf_L0
  · rw [if_pos q, ← rf_I1] at h
    exact rf_ble 0 x (fun q2 => by omega) (fun _ => h) rf_L0 rfl
  · rw [if_neg (by omega)] at h
    refine rf_ble x 1073741824 (fun q2 => ?_) (fun q2 => ?_) rfl (by decide)
    · have b : x * x ≤ 1152921504606846976 := Int.le_trans (Int.mul_le_mul q2 q2 q (by decide)) (by decide)
      have b0 : 0 ≤ x * x := Int.mul_nonneg q q
      rw [rf_Lmul]
      generalize x * x = X at b b0 h ⊢
      refine rf_ble (4 * t) X (fun q => rf_ble X (4 * t) (fun q2 => ?_) (fun q2 => ?_)) (fun q => ?_)
      · rw [rf_sgz (by omega), ← rf_I0] at h; exact h
      · rw [rf_sgn (by omega), ← rf_Im1] at h; exact h
      · rw [rf_sgp (by omega), ← rf_I1] at h; exact h
    · have b : 1152921504606846976 ≤ x * x := Int.le_trans (by decide) (Int.mul_le_mul (show (1073741824 : Int) ≤ x by omega) (show (1073741824 : Int) ≤ x by omega) (by decide) q)
      rw [rf_sgn (by omega), ← rf_Im1] at h
      exact rf_ble 0 x (fun _ => h) (fun q2 => by omega) rf_L0 rfl
theorem rf_sgm {σ X Y V W : Int} (hσ : σ = 1 ∨ σ = -1) (hV : 0 < V) (hW : 0 < W) (h : X * V = σ * Y * W) : rf_sg X = σ * rf_sg Y := by
  have hX : (0 < X → 0 < X * V) ∧ (X < 0 → X * V < 0) ∧ (X = 0 → X * V = 0) := ⟨fun q => Int.mul_pos q hV, fun q => Int.mul_neg_of_neg_of_pos q hV, fun q => by rw [q, Int.zero_mul]⟩
  have hY : (0 < Y → 0 < Y * W) ∧ (Y < 0 → Y * W < 0) ∧ (Y = 0 → Y * W = 0) := ⟨fun q => Int.mul_pos q hW, fun q => Int.mul_neg_of_neg_of_pos q hW, fun q => by rw [q, Int.zero_mul]⟩
  rw [Int.mul_assoc] at h
  generalize X * V = X1 at h hX
  generalize Y * W = Y1 at h hY
  rcases hσ with rfl | rfl
  · rcases Int.lt_trichotomy Y 0 with q | q | q
    · rw [rf_sgn q, rf_sgn (by omega)]; decide
    · rw [rf_sgz q, rf_sgz (by omega)]; decide
    · rw [rf_sgp q, rf_sgp (by omega)]; decide
  · rcases Int.lt_trichotomy Y 0 with q | q | q
    · rw [rf_sgn q, rf_sgp (by omega)]; decide
    · rw [rf_sgz q, rf_sgz (by omega)]; decide
    · rw [rf_sgp q, rf_sgn (by omega)]; decide
theorem rf_p0 (n : Nat) : (0 : Int) < 2 ^ n := Int.pow_pos (by decide)
theorem rf_keyq {t σ N l D A B P P' Qb Q' : Int} (hQ : Qb * P' = 2 * P * Q') (h : t * P' * D = σ * A * Q' * l) (hN : N * P = B * Qb) : (2 * t - σ * N * l) * (D * (P * P')) = σ * (A - B * D) * (l * (2 * P * Q')) := by
  have e1 : (2 * t - σ * N * l) * (D * (P * P')) = 2 * P * (t * P' * D) - σ * l * D * P' * (N * P) := by grind
  rw [e1, h, hN]
  have e2 : σ * l * D * P' * (B * Qb) = σ * l * D * B * (Qb * P') := by grind
  rw [e2, hQ]
  grind
theorem rf_cast {N B a b : Nat} (h : N * 2 ^ a = B * 2 ^ b) : (N : Int) * 2 ^ a = (B : Int) * 2 ^ b := by
  have := congrArg (fun n : Nat => (n : Int)) h
  rw [← rf_nc, ← rf_nc, ← Int.natCast_mul, ← Int.natCast_mul]
  exact this
theorem rf_lkq {σ t l : Int} {A D m T a' b' : Nat} {mo : Prop} (hσ : σ = 1 ∨ σ = -1) (hl : 0 < l) (hD : 0 < D) (hab : a' + T = b' + 60) (h : t * 2 ^ a' * (D : Int) = σ * (A : Int) * 2 ^ b' * l) (hm : m = A / D) (hmo : mo ↔ ¬ m * D = A) : rf_Lk σ m T mo (rf_cq t l) := by
  intro N B a b hab2 hN
  have hQ : (2 : Int) ^ b * 2 ^ a' = 2 * 2 ^ a * 2 ^ b' := by
    rw [← Int.pow_add, Int.mul_comm 2, ← Int.pow_succ, ← Int.pow_add]
    congr 1
    omega
  have key := rf_keyq hQ h (rf_cast hN)
  have S := rf_sgm (Y := (A : Int) - B * D) hσ (Int.mul_pos (show (0 : Int) < D by omega) (Int.mul_pos (rf_p0 a) (rf_p0 a'))) (Int.mul_pos hl (Int.mul_pos (Int.mul_pos (by decide) (rf_p0 a)) (rf_p0 b'))) key
  have S' : rf_cq t l (σ * N) = σ * rf_sg ((A : Int) - B * D) := S
  rw [S']
  have hle : m * D ≤ A := by rw [hm]; exact Nat.div_mul_le_self A D
  have hBD : ((B * D : Nat) : Int) = (B : Int) * D := Int.natCast_mul _ _
  rw [← hBD]
  refine ⟨fun q => ?_, fun q q2 => ?_, fun q q2 => ?_, fun q => ?_⟩
  · have h1 : (B + 1) * D ≤ m * D := Nat.mul_le_mul_right _ q
    rw [Nat.add_one_mul] at h1
    rw [rf_sgp (by omega), Int.mul_one]
  · subst q
    have := hmo.mp q2
    rw [rf_sgp (by omega), Int.mul_one]
  · subst q
    have : B * D = A := Classical.byContradiction fun r => q2 (hmo.mpr r)
    rw [rf_sgz (by omega), Int.mul_zero]
  · rw [hm, Nat.div_lt_iff_lt_mul hD] at q
    rw [rf_sgn (by omega)]
    omega
theorem rf_keys {t S N B P P' Qb Q' : Int} (hQ : Qb * Qb * P' = 4 * P * P * Q') (h : t * P' = S * Q') (hN : N * P = B * Qb) : (4 * t - N * N) * (P' * (P * P)) = 1 * (S - B * B) * (4 * P * P * Q') := by
  have e1 : (4 * t - N * N) * (P' * (P * P)) = 4 * (P * P) * (t * P') - P' * ((N * P) * (N * P)) := by grind
  rw [e1, h, hN]
  have e2 : P' * (B * Qb * (B * Qb)) = B * B * (Qb * Qb * P') := by grind
  rw [e2, hQ]
  grind
theorem rf_lks {t : Int} {S m T a' b' : Nat} {mo : Prop} (hab : a' + 2 * T = b' + 120) (h : t * 2 ^ a' = (S : Int) * 2 ^ b') (h1 : m * m ≤ S) (h2 : S < (m + 1) * (m + 1)) (hmo : mo ↔ ¬ m * m = S) : rf_Lk 1 m T mo (rf_cs t) := by
  intro N B a b hab2 hN
  have hQ : (2 : Int) ^ b * 2 ^ b * 2 ^ a' = 4 * 2 ^ a * 2 ^ a * 2 ^ b' := by
    rw [show (4 : Int) = 2 ^ 2 by decide, ← Int.pow_add, ← Int.pow_add, ← Int.pow_add, ← Int.pow_add, ← Int.pow_add]
    congr 1
    omega
  have key := rf_keys hQ h (rf_cast hN)
  have Z := rf_sgm (Y := (S : Int) - B * B) (Or.inl rfl) (Int.mul_pos (rf_p0 a') (Int.mul_pos (rf_p0 a) (rf_p0 a))) (Int.mul_pos (Int.mul_pos (Int.mul_pos (by decide) (rf_p0 a)) (rf_p0 a)) (rf_p0 b')) key
  have S' : rf_cs t (1 * (N : Int)) = rf_sg ((S : Int) - B * B) := by
    unfold rf_cs
    rw [Int.one_mul, if_neg (by omega), Z, Int.one_mul]
  rw [S']
  have hBD : ((B * B : Nat) : Int) = (B : Int) * B := Int.natCast_mul _ _
  rw [← hBD]
  refine ⟨fun q => ?_, fun q q2 => ?_, fun q q2 => ?_, fun q => ?_⟩
  · have : B * B < m * m := Nat.mul_self_lt_mul_self q
    exact rf_sgp (by omega)
  · subst q
    have := hmo.mp q2
    exact rf_sgp (by omega)
  · subst q
    have : B * B = S := Classical.byContradiction fun r => q2 (hmo.mpr r)
    exact rf_sgz (by omega)
  · have : (m + 1) * (m + 1) ≤ B * B := Nat.mul_le_mul q q
    exact rf_sgn (by omega)
end
section
/-! ===== the relation; registers ===== -/
def rf_RR (p w : Nat) (am ae : Nat → Int32) (zs : Nat → Int) : Prop := (2 ≤ p ∧ p ≤ 10) ∧ w ≤ 3 ∧ ∀ i, i < 4 → rf_G p (am i) (ae i) (zs i)
/-- the relation at the head of a turn: the same precision, mode and flags; a register's mantissa and exponent are those of Y's whole number -/
def i_Rel (k : Nat) (u : SX) (v : SY) : Prop := ∃ (p w : Nat) (ff : Int32) (am ae : Nat → Int32) (zs : Nat → Int) (t l : Int64) (sq : Int32) (uu oo : Int64) (hu ho : Int32), u = (nI p, nI w, ff, am, ae) ∧ v = (nI p, nI w, ff, rf_L (zs 0), rf_L (zs 1), rf_L (zs 2), rf_L (zs 3), t, l, sq, uu, oo, hu, ho) ∧ rf_RR p w am ae zs
theorem i_up {k : Nat} {u : SX} {v : SY} (h : i_Rel k u v) : i_Rel (k + 4) u v := h
theorem rf_el {k : Nat} {P : SX → SY → Prop} (h : ∀ (p w : Nat) (ff : Int32) (am ae : Nat → Int32) (zs : Nat → Int) (t l : Int64) (sq : Int32) (uu oo : Int64) (hu ho : Int32), rf_RR p w am ae zs → P (nI p, nI w, ff, am, ae) (nI p, nI w, ff, rf_L (zs 0), rf_L (zs 1), rf_L (zs 2), rf_L (zs 3), t, l, sq, uu, oo, hu, ho)) {u : SX} {v : SY} (I : i_Rel k u v) : P u v := by
  obtain ⟨p, w, ff, am, ae, zs, t, l, sq, uu, oo, hu, ho, rfl, rfl, H⟩ := I
  exact h p w ff am ae zs t l sq uu oo hu ho H
theorem rf_in {k p w : Nat} {ff : Int32} {am ae : Nat → Int32} {zs : Nat → Int} {t l : Int64} {sq : Int32} {uu oo : Int64} {hu ho : Int32} (H : rf_RR p w am ae zs) : i_Rel k (nI p, nI w, ff, am, ae) (nI p, nI w, ff, rf_L (zs 0), rf_L (zs 1), rf_L (zs 2), rf_L (zs 3), t, l, sq, uu, oo, hu, ho) := ⟨p, w, ff, am, ae, zs, t, l, sq, uu, oo, hu, ho, rfl, rfl, H⟩
theorem rf_RRu {p w k : Nat} {am ae : Nat → Int32} {zs : Nat → Int} {x y : Int32} {z : Int} (H : rf_RR p w am ae zs) (g : rf_G p x y z) : rf_RR p w (upd am k x) (upd ae k y) (rf_zu zs k z) := by
  refine ⟨H.1, H.2.1, fun i hi => ?_⟩
  by_cases e : i = k
  · subst e
    unfold rf_zu
    rw [rf_us, rf_us, if_pos rfl]
    exact g
  · unfold rf_zu
    rw [rf_un e, rf_un e, if_neg e]
    exact H.2.2 i hi
theorem rf_init {k p : Nat} (hp : 2 ≤ p ∧ p ≤ 10) : i_Rel k (nI p, 0, 0, fun _ => 0, fun _ => 0) (nI p, 0, 0, 0, 0, 0, 0, 0, 0, 0, 0, 0, 0, 0) := by
  have h := rf_in (k := k) (p := p) (w := 0) (ff := 0) (am := fun _ => 0) (ae := fun _ => 0) (zs := fun _ => 0) (t := 0) (l := 0) (sq := 0) (uu := 0) (oo := 0) (hu := 0) (ho := 0) ⟨hp, by omega, fun i _ => rf_G0 p⟩
  rw [← rf_L0] at h
  exact h
theorem i_vc0 (k0 : Int32) : wpX_init (fun u => wpY_init (fun v => i_Rel 1 u v) k0) k0 := by
  by_cases h2 : 2 ≤ k0
  · by_cases h10 : k0 ≤ 10
    · have h0 : ¬ k0 < 0 := by
        rw [Int32.le_iff_toInt_le] at h2
        rw [Int32.lt_iff_toInt_lt]
        have e1 : (2 : Int32).toInt = 2 := by decide
        have e2 : (0 : Int32).toInt = 0 := by decide
        omega
      obtain ⟨j, hj, rfl⟩ := nI_of2 (M := 10) (n := 10) (by decide) h0 h10
      have hj2 : 2 ≤ j := (nI_leI (a := 2) (by decide) (by omega)).mp h2
      exact br_t h2 (br_t h10 (br_t h2 (br_t h10 (rf_init ⟨hj2, hj⟩))))
    · exact br_t h2 (br_f h10 (br_t h2 (br_f h10 (rf_init (p := 10) (by decide)))))
  · exact br_f h2 (br_f h2 (rf_init (p := 2) (by decide)))
theorem i_vc_precision {k : Nat} {u : SX} {v : SY} (I : i_Rel k u v) (hk : k + 4 ≤ 2049) : wpX_precision (fun r => wpY_precision (fun r' => r' = r ∧ i_Rel (k + 4) u v) v) u := by
  refine rf_el (P := fun u v => wpX_precision (fun r => wpY_precision (fun r' => r' = r ∧ i_Rel (k + 4) u v) v) u) ?_ I
  intro p w ff am ae zs t l sq uu oo hu ho H
  exact ⟨rfl, rf_in H⟩
theorem i_vc_setMode {k : Nat} {u : SX} {v : SY} (I : i_Rel k u v) (hk : k + 4 ≤ 2049) (v1 : Int32) : wpX_setMode (fun r u' => wpY_setMode (fun r' v' => r' = r ∧ i_Rel (k + 4) u' v') v v1) u v1 := by
  refine rf_el (P := fun u v => wpX_setMode (fun r u' => wpY_setMode (fun r' v' => r' = r ∧ i_Rel (k + 4) u' v') v v1) u v1) ?_ I
  intro p w ff am ae zs t l sq uu oo hu ho H
  by_cases h0 : v1 < 0
  · exact br_t h0 (br_t h0 ⟨rfl, rf_in H⟩)
  · by_cases h3 : v1 ≤ 3
    · obtain ⟨j, hj, rfl⟩ := nI_of2 (M := 3) (n := 3) (by decide) h0 h3
      exact br_f h0 (br_t h3 (br_f h0 (br_t h3 ⟨rfl, rf_in ⟨H.1, hj, H.2.2⟩⟩)))
    · exact br_f h0 (br_f h3 (br_f h0 (br_f h3 ⟨rfl, rf_in H⟩)))
theorem i_vc_takeFlags {k : Nat} {u : SX} {v : SY} (I : i_Rel k u v) (hk : k + 4 ≤ 2049) : wpX_takeFlags (fun r u' => wpY_takeFlags (fun r' v' => r' = r ∧ i_Rel (k + 4) u' v') v) u := by
  refine rf_el (P := fun u v => wpX_takeFlags (fun r u' => wpY_takeFlags (fun r' v' => r' = r ∧ i_Rel (k + 4) u' v') v) u) ?_ I
  intro p w ff am ae zs t l sq uu oo hu ho H
  exact ⟨rfl, rf_in H⟩
/-! a register's mantissa and exponent are small -/
theorem rf_odd {m m' E E' : Nat} (h : m * 2 ^ E = m' * 2 ^ E') (ho : m % 2 = 1) : m ≤ m' := by
  rcases Nat.lt_or_ge E E' with q | q
  · exfalso
    have e : m' * 2 ^ E' = m' * 2 ^ (E' - E) * 2 ^ E := by
      rw [Nat.mul_assoc, ← Nat.pow_add]
      congr 2
      omega
    rw [e] at h
    have h2 := Nat.eq_of_mul_eq_mul_right (Nat.two_pow_pos E) h
    obtain ⟨d, hd⟩ : ∃ d, E' - E = d + 1 := ⟨E' - E - 1, by omega⟩
    rw [hd, Nat.pow_succ, ← Nat.mul_assoc] at h2
    omega
  · have e : m * 2 ^ E = m * 2 ^ (E - E') * 2 ^ E' := by
      rw [Nat.mul_assoc, ← Nat.pow_add]
      congr 2
      omega
    rw [e] at h
    have h2 := Nat.eq_of_mul_eq_mul_right (Nat.two_pow_pos E') h
    rw [← h2]
    exact Nat.le_mul_of_pos_right _ (Nat.two_pow_pos _)
theorem rf_abs2 (m : Int) (E : Nat) : (m * 2 ^ E).natAbs = m.natAbs * 2 ^ E := by
  rw [← rf_nc, Int.natAbs_mul, Int.natAbs_natCast]
theorem rf_Gb {p : Nat} {x y : Int32} {z : Int} (hp : 2 ≤ p ∧ p ≤ 10) (g : rf_G p x y z) : ∃ (m : Int) (E : Nat), x = rf_I m ∧ y = rf_I ((E : Int) - 12) ∧ z = m * 2 ^ E ∧ ((m = 0 ∧ E = 12) ∨ m % 2 = 1) ∧ rf_F p z ∧ m.natAbs < 2 ^ p ∧ E ≤ 32 ∧ m.natAbs * 2 ^ E < 8589934592 := by
  obtain ⟨m, E, h1, h2, h3, h4, h5⟩ := g
  refine ⟨m, E, h1, h2, h3, h4, h5, ?_⟩
  obtain ⟨m', E', g1, g2, g3⟩ := h5
  rw [h3, rf_abs2] at g2 g3
  have b : m.natAbs * 2 ^ E < 8589934592 := Nat.lt_of_lt_of_le g3 (Nat.le_trans (Nat.pow_le_pow_right (by decide) (show p + 23 ≤ 33 by omega)) (by decide))
  refine ⟨?_, ?_, b⟩
  · rcases h4 with h4 | h4
    · rw [h4.1]
      exact Nat.two_pow_pos p
    · exact Nat.lt_of_le_of_lt (rf_odd g2 (by omega)) g1
  · rcases h4 with h4 | h4
    · omega
    · apply Nat.le_of_not_lt
      intro q
      have c1 : 2 ^ 33 ≤ 2 ^ E := Nat.pow_le_pow_right (by decide) q
      have c2 : 2 ^ E ≤ m.natAbs * 2 ^ E := Nat.le_mul_of_pos_left _ (by omega)
      omega
/-! Y's mantissa and exponent -/
theorem rf_half (m : Int) (j : Nat) (h : (m * 2 ^ (j + 1)).natAbs < 17179869184) : rf_L (m * 2 ^ (j + 1)) / 2 = rf_L (m * 2 ^ j) ∧ rf_L (m * 2 ^ (j + 1)) - rf_L (m * 2 ^ j) * 2 = 0 := by
  have e : m * 2 ^ (j + 1) = m * 2 ^ j * 2 := by rw [Int.pow_succ, Int.mul_assoc]
  constructor
  · rw [rf_L2, rf_div (by omega) (by omega), e, Int.mul_tdiv_cancel _ (by decide)]
  · rw [rf_L2, rf_Lmul, e, rf_Lsub, Int.sub_self]
    exact rf_L0.symm
theorem rf_oddL (m : Int) (h : m.natAbs < 17179869184) (ho : m % 2 = 1) : ¬ rf_L m = 0 ∧ ¬ rf_L m - rf_L m / 2 * 2 = 0 := by
  have q2 := Int.mul_tdiv_add_tmod m 2
  have q3 := Int.tmod_two_eq m
  have q1 := Int.natAbs_tdiv_le_natAbs m 2
  constructor
  · rw [rf_L0, rf_Leq (by omega) (by omega)]
    omega
  · rw [rf_L2, rf_div (by omega) (by omega), rf_Lmul, rf_Lsub, rf_L0, rf_Leq (by omega) (by omega)]
    omega
theorem rf_evL (m : Int) (j : Nat) (h : (m * 2 ^ (j + 1)).natAbs < 17179869184) (ho : m % 2 = 1) : ¬ rf_L (m * 2 ^ (j + 1)) = 0 := by
  rw [rf_L0, rf_Leq (by omega) (by omega)]
  intro e
  have e2 : (m * 2 ^ (j + 1)).natAbs = 0 := by rw [e]; rfl
  rw [rf_abs2] at e2
  have := Nat.mul_pos (show 0 < m.natAbs by omega) (Nat.two_pow_pos (j + 1))
  omega
section
variable {post : Int32 → Prop} {fb fw ff sq hu ho : Int32} {r0 r1 r2 r3 t l uu oo : Int64}
theorem rf_ym (m : Int) (ho1 : m % 2 = 1) (h : post (rf_I m)) : ∀ (j i : Nat), i + j ≤ 33 → (m * 2 ^ j).natAbs < 17179869184 → wY_mantissa_21 post fb fw ff r0 r1 r2 r3 t l sq uu oo hu ho (j + 1) (rf_L (m * 2 ^ j)) (nI i) := by
  intro j
  induction j with
  | zero =>
    intro i hi hb
    rw [Int.pow_zero, Int.mul_one] at hb ⊢
    have g := rf_oddL m hb ho1
    refine br_f (nI_ge (b := 34) (by omega) (by decide)) (br_f g.1 ⟨by decide, br_f g.2 ?_⟩)
    rw [rf_L2I]
    exact h
  | succ j ih =>
    intro i hi hb
    have g := rf_half m j hb
    refine br_f (nI_ge (b := 34) (by omega) (by decide)) (br_f (rf_evL m j hb ho1) ⟨by decide, ?_⟩)
    rw [g.1]
    refine br_t g.2 ⟨by decide, nm_e (nm_r (nI_1 i) (ih (i + 1) (by omega) ?_))⟩
    rw [rf_abs2] at hb ⊢
    exact Nat.lt_of_le_of_lt (Nat.mul_le_mul_left _ (Nat.pow_le_pow_right (by decide) (by omega))) hb
theorem rf_ye (m : Int) (ho1 : m % 2 = 1) : ∀ (j i : Nat) (e : Int), i + j ≤ 33 → (m * 2 ^ j).natAbs < 17179869184 → post (rf_I (e + j)) → wY_exponent_35 post fb fw ff r0 r1 r2 r3 t l sq uu oo hu ho (j + 1) (rf_L (m * 2 ^ j)) (rf_I e) (nI i) := by
  intro j
  induction j with
  | zero =>
    intro i e hi hb h
    rw [Int.pow_zero, Int.mul_one] at hb ⊢
    have g := rf_oddL m hb ho1
    refine br_f (nI_ge (b := 34) (by omega) (by decide)) (br_f g.1 ⟨by decide, br_f g.2 ?_⟩)
    have e0 : e + ((0 : Nat) : Int) = e := by omega
    rw [e0] at h
    exact h
  | succ j ih =>
    intro i e hi hb h
    have g := rf_half m j hb
    refine br_f (nI_ge (b := 34) (by omega) (by decide)) (br_f (rf_evL m j hb ho1) ⟨by decide, ?_⟩)
    rw [g.1]
    refine br_t g.2 ⟨by decide, nm_e (nm_r (rf_Iadd e 1) (nm_r (nI_1 i) (ih (i + 1) (e + 1) (by omega) ?_ ?_)))⟩
    · rw [rf_abs2] at hb ⊢
      exact Nat.lt_of_le_of_lt (Nat.mul_le_mul_left _ (Nat.pow_le_pow_right (by decide) (by omega))) hb
    · have e1 : e + 1 + (j : Int) = e + ((j + 1 : Nat) : Int) := by omega
      rw [e1]
      exact h
theorem rf_yman {p k : Nat} {zs : Nat → Int} {x y : Int32} (hp : 2 ≤ p ∧ p ≤ 10) (hk : k < 4) (g : rf_G p x y (zs k)) (h : post x) : wpY_mantissa post (fb, fw, ff, rf_L (zs 0), rf_L (zs 1), rf_L (zs 2), rf_L (zs 3), t, l, sq, uu, oo, hu, ho) (nI k) := by
  obtain ⟨m, E, g1, g2, g3, g4, g5, g6, g7, g8⟩ := rf_Gb hp g
  unfold wpY_mantissa
  dsimp only
  refine rf_is1 hk (br_f rf_10 (rf_get hk ?_))
  rw [g3]
  rw [g1] at h
  rcases g4 with ⟨rfl, rfl⟩ | g4
  · refine ⟨1, ?_⟩
    rw [Int.zero_mul]
    exact br_f (by decide) (br_t rf_L0.symm (by rw [rf_L2I]; exact h))
  · exact ⟨E + 1, rf_ym m g4 h E 0 (by omega) (by rw [rf_abs2]; omega)⟩
theorem rf_yexp {p k : Nat} {zs : Nat → Int} {x y : Int32} (hp : 2 ≤ p ∧ p ≤ 10) (hk : k < 4) (g : rf_G p x y (zs k)) (h : post y) : wpY_exponent post (fb, fw, ff, rf_L (zs 0), rf_L (zs 1), rf_L (zs 2), rf_L (zs 3), t, l, sq, uu, oo, hu, ho) (nI k) := by
  obtain ⟨m, E, g1, g2, g3, g4, g5, g6, g7, g8⟩ := rf_Gb hp g
  unfold wpY_exponent
  dsimp only
  refine rf_is1 hk (br_f rf_10 (rf_get hk ?_))
  rw [g3]
  rw [g2] at h
  rcases g4 with ⟨rfl, rfl⟩ | g4
  · rw [Int.zero_mul]
    exact br_t rf_L0.symm ⟨1, br_f (by decide) (br_t rf_L0.symm h)⟩
  · refine br_f ?_ ⟨E + 1, rf_ye (e := -12) m g4 E 0 (by omega) (by rw [rf_abs2]; omega) ?_⟩
    · rw [rf_L0, rf_Leq (by have := rf_abs2 m E; omega) (by omega)]
      intro e
      have e2 : (m * 2 ^ E).natAbs = 0 := by rw [e]; rfl
      rw [rf_abs2] at e2
      have := Nat.mul_pos (show 0 < m.natAbs by omega) (Nat.two_pow_pos E)
      omega
    · rw [show (-12 : Int) + (E : Int) = (E : Int) - 12 by omega]
      exact h
end
theorem i_vc_mantissa {k : Nat} {u : SX} {v : SY} (I : i_Rel k u v) (hk : k + 4 ≤ 2049) (v1 : Int32) : wpX_mantissa (fun r => wpY_mantissa (fun r' => r' = r ∧ i_Rel (k + 4) u v) v v1) u v1 := by
  refine rf_el (P := fun u v => wpX_mantissa (fun r => wpY_mantissa (fun r' => r' = r ∧ i_Rel (k + 4) u v) v v1) u v1) ?_ I
  intro p w ff am ae zs t l sq uu oo hu ho H
  unfold wpX_mantissa
  dsimp only
  rcases rf_isq v1 with ⟨a, ha, rfl⟩ | hn
  · refine rf_xis1 ha (br_f rf_10 ⟨vp_in_nI ha (by decide), ?_⟩)
    rw [nI_clamp (n := a) (by omega)]
    exact rf_yman H.1 ha (H.2.2 a ha) ⟨rfl, rf_in H⟩
  · refine rf_xis0 hn (br_t rfl ?_)
    unfold wpY_mantissa
    dsimp only
    exact rf_is0 hn (br_t rfl ⟨1, br_f (by decide) (br_t rfl ⟨by decide, rf_in H⟩)⟩)
theorem i_vc_exponent {k : Nat} {u : SX} {v : SY} (I : i_Rel k u v) (hk : k + 4 ≤ 2049) (v1 : Int32) : wpX_exponent (fun r => wpY_exponent (fun r' => r' = r ∧ i_Rel (k + 4) u v) v v1) u v1 := by
  refine rf_el (P := fun u v => wpX_exponent (fun r => wpY_exponent (fun r' => r' = r ∧ i_Rel (k + 4) u v) v v1) u v1) ?_ I
  intro p w ff am ae zs t l sq uu oo hu ho H
  unfold wpX_exponent
  dsimp only
  rcases rf_isq v1 with ⟨a, ha, rfl⟩ | hn
  · refine rf_xis1 ha (br_f rf_10 ⟨vp_in_nI ha (by decide), ?_⟩)
    rw [nI_clamp (n := a) (by omega)]
    exact rf_yexp H.1 ha (H.2.2 a ha) ⟨rfl, rf_in H⟩
  · refine rf_xis0 hn (br_t rfl ?_)
    unfold wpY_exponent
    dsimp only
    exact rf_is0 hn (br_t rfl (br_t rfl ⟨1, br_f (by decide) (br_t rfl ⟨rfl, rf_in H⟩)⟩))
end
section
/-! ===== exactly, sum; load, add, sub, compare ===== -/
/-- whatever the post: X's walk W ends with answer f, register k holding the number z -/
def rf_E (p w k f : Nat) (ff : Int32) (am ae : Nat → Int32) (z : Int) (W : (Int32 → SX → Prop) → Prop) : Prop := ∀ post : Int32 → SX → Prop, (∀ x y, rf_G p x y z → post (nI f) (nI p, nI w, ff ||| nI f, upd am k x, upd ae k y)) → W post
section
variable {ff : Int32} {am ae : Nat → Int32} {p w k : Nat}
theorem rf_xexact {t l z0 : Int} {T a' b' : Nat} (hk : k < 4) (hp : 2 ≤ p ∧ p ≤ 10) (hw : w ≤ 3) (hl : 0 < l) (hab : a' + T = b' + 60) (h : t * 2 ^ a' = z0 * 2 ^ b' * l) (hz : z0.natAbs < 2305843009213693952) (hT : T ≤ 200) :
    ∃ (f : Nat) (z : Int), rf_RS p w (rf_cq t l) f z ∧ rf_E p w k f ff am ae z (fun post => wpX_exactly post (nI p, nI w, ff, am, ae) (nI k) (rf_L z0) (rf_I ((T : Int) - 72))) := by
  rcases Int.lt_or_le z0 0 with q | q
  · have e : z0 = -1 * (z0.natAbs : Int) := by omega
    have Lk : rf_Lk (-1) z0.natAbs T (¬ (0 : Int32) = 0) (rf_cq t l) := rf_lkq (A := z0.natAbs) (D := 1) (Or.inr rfl) hl (by decide) hab (by rw [← e]; show t * 2 ^ a' * 1 = _; rw [Int.mul_one]; exact h) (Nat.div_one _).symm ⟨fun x => absurd rfl x, fun x => absurd (Nat.mul_one _) x⟩
    obtain ⟨f, z, R, HX⟩ := rf_xround (ff := ff) (am := am) (ae := ae) (ng := 1) (σ := -1) (mo := 0) (m := z0.natAbs) hk hp hw (Or.inr ⟨rf_10, rfl⟩) hz hT (rf_Mq hl) Lk (fun x => absurd rfl x)
    refine ⟨f, z, R, fun post hP => ?_⟩
    unfold wpX_exactly wpX_size
    dsimp only
    refine rf_ble 0 z0 (fun q2 => by omega) (fun _ => rf_ble 0 z0 (fun _ => by omega) (fun _ => ?_) rf_L0 rfl) rf_L0 rfl
    rw [rf_Lneg, show -z0 = (z0.natAbs : Int) by omega]
    unfold wX_exactly_19
    exact HX _ (fun x y g => hP x y g)
  · have e : z0 = 1 * (z0.natAbs : Int) := by omega
    have Lk : rf_Lk 1 z0.natAbs T (¬ (0 : Int32) = 0) (rf_cq t l) := rf_lkq (A := z0.natAbs) (D := 1) (Or.inl rfl) hl (by decide) hab (by rw [← e]; show t * 2 ^ a' * 1 = _; rw [Int.mul_one]; exact h) (Nat.div_one _).symm ⟨fun x => absurd rfl x, fun x => absurd (Nat.mul_one _) x⟩
    obtain ⟨f, z, R, HX⟩ := rf_xround (ff := ff) (am := am) (ae := ae) (ng := 0) (σ := 1) (mo := 0) (m := z0.natAbs) hk hp hw (Or.inl ⟨rfl, rfl⟩) hz hT (rf_Mq hl) Lk (fun x => absurd rfl x)
    refine ⟨f, z, R, fun post hP => ?_⟩
    unfold wpX_exactly wpX_size
    dsimp only
    refine rf_ble 0 z0 (fun _ => rf_ble 0 z0 (fun _ => ?_) (fun _ => by omega) rf_L0 rfl) (fun q2 => by omega) rf_L0 rfl
    rw [show rf_L z0 = rf_L (z0.natAbs : Int) by congr 1; omega]
    unfold wX_exactly_19
    exact HX _ (fun x y g => hP x y g)
theorem rf_xsum {f : Nat} {z : Int} {x1 x2 e1 e2 : Int} {T1 T2 T : Nat} (h1 : e1 = (T1 : Int) - 72) (h2 : e2 = (T2 : Int) - 72) (hT : T1 ≤ 200 ∧ T2 ≤ 200) (hmin : (T = T1 ∧ T1 ≤ T2) ∨ (T = T2 ∧ T2 ≤ T1)) (hd : T1 < T + 64 ∧ T2 < T + 64)
    (h : rf_E p w k f ff am ae z (fun post => wpX_exactly post (nI p, nI w, ff, am, ae) (nI k) (rf_L (x1 * 2 ^ (T1 - T) + x2 * 2 ^ (T2 - T))) (rf_I ((T : Int) - 72)))) :
    rf_E p w k f ff am ae z (fun post => wpX_sum post (nI p, nI w, ff, am, ae) (nI k) (rf_L x1) (rf_I e1) (rf_L x2) (rf_I e2)) := by
  intro post hP
  have B : wX_sum_14 post (nI k) (rf_L x1) (rf_I e1) (rf_L x2) (rf_I e2) (rf_I ((T : Int) - 72)) (nI p) (nI w) ff am ae := by
    unfold wX_sum_14
    refine nm_r (e' := rf_L (x1 * 2 ^ (T1 - T) + x2 * 2 ^ (T2 - T))) ?_ (h _ (fun x y g => hP x y g))
    rw [rf_Isub, rf_Isub, rf_shl x1 (T1 - T) (by omega) rfl (by congr 1; omega), rf_shl x2 (T2 - T) (by omega) rfl (by congr 1; omega), rf_Ladd]
  show wpX_sum post (nI p, nI w, ff, am, ae) (nI k) (rf_L x1) (rf_I e1) (rf_L x2) (rf_I e2)
  unfold wpX_sum
  dsimp only
  refine rf_cle e2 e1 (fun q => ?_) (fun q => ?_)
  · have e : e2 = (T : Int) - 72 := by omega
    rw [← e] at B
    exact B
  · have e : e1 = (T : Int) - 72 := by omega
    rw [← e] at B
    exact B
end
theorem rf_rng {x A B : Int32} {a b : Int} (hA : A.toInt = a) (hB : B.toInt = b) (h1 : ¬ x < A) (h2 : ¬ B < x) : a ≤ x.toInt ∧ x.toInt ≤ b := by
  rw [Int32.lt_iff_toInt_lt, hA] at h1
  rw [Int32.lt_iff_toInt_lt, hB] at h2
  omega
theorem i_vc_load {k : Nat} {u : SX} {v : SY} (I : i_Rel k u v) (hk : k + 4 ≤ 2049) (v1 : Int32) (v2 : Int32) (v3 : Int32) : wpX_load (fun r u' => wpY_load (fun r' v' => r' = r ∧ i_Rel (k + 4) u' v') v v1 v2 v3) u v1 v2 v3 := by
  refine rf_el (P := fun u v => wpX_load (fun r u' => wpY_load (fun r' v' => r' = r ∧ i_Rel (k + 4) u' v') v v1 v2 v3) u v1 v2 v3) ?_ I
  intro p w ff am ae zs t l sq uu oo hu ho H
  unfold wpX_load
  dsimp only
  rcases rf_isq v1 with ⟨a, ha, rfl⟩ | hn
  rotate_left
  · refine rf_xis0 hn (br_t rfl ?_)
    unfold wpY_load
    dsimp only
    exact rf_is0 hn (br_t rfl ⟨rfl, rf_in H⟩)
  by_cases q1 : v2 < -1000000
  · refine rf_xis1 ha (br_f rf_10 (br_t q1 ?_))
    unfold wpY_load
    dsimp only
    exact rf_is1 ha (br_f rf_10 (br_t q1 ⟨rfl, rf_in H⟩))
  by_cases q2 : 1000000 < v2
  · refine rf_xis1 ha (br_f rf_10 (br_f q1 (br_t q2 ?_)))
    unfold wpY_load
    dsimp only
    exact rf_is1 ha (br_f rf_10 (br_f q1 (br_t q2 ⟨rfl, rf_in H⟩)))
  by_cases q3 : v3 < -20
  · refine rf_xis1 ha (br_f rf_10 (br_f q1 (br_f q2 (br_t q3 ?_))))
    unfold wpY_load
    dsimp only
    exact rf_is1 ha (br_f rf_10 (br_f q1 (br_f q2 (br_t q3 ⟨rfl, rf_in H⟩))))
  by_cases q4 : v3 ≤ 20
  rotate_left
  · refine rf_xis1 ha (br_f rf_10 (br_f q1 (br_f q2 (br_f q3 (br_f q4 ?_)))))
    unfold wpY_load
    dsimp only
    exact rf_is1 ha (br_f rf_10 (br_f q1 (br_f q2 (br_f q3 (br_f q4 ⟨rfl, rf_in H⟩)))))
  have bm := rf_rng (x := v2) (a := -1000000) (b := 1000000) (by decide) (by decide) q1 q2
  have be := rf_rng (x := v3) (a := -20) (b := 20) (by decide) (by decide) q3 (Int32.not_lt.mpr q4)
  obtain ⟨m0, hm0⟩ : ∃ m0, m0 = v2.toInt := ⟨_, rfl⟩
  have em : v2 = rf_I m0 := by rw [hm0]; exact rf_Iof v2
  obtain ⟨T, hT⟩ : ∃ T : Nat, (T : Int) - 72 = v3.toInt := ⟨(v3.toInt + 72).toNat, by omega⟩
  have ee : v3 = rf_I ((T : Int) - 72) := by rw [hT]; exact rf_Iof v3
  refine rf_xis1 ha (br_f rf_10 (br_f q1 (br_f q2 (br_f q3 (br_t q4 ?_)))))
  have Y0 : ∀ (t0 l0 : Int) (f : Nat) (z : Int) (x y : Int32), rf_RS p w (rf_cq t0 l0) f z → rf_G p x y z → (-2305843009213693952 ≤ t0 ∧ t0 ≤ 2305843009213693952) → (0 < l0 ∧ l0 ≤ 134217728) → wY_load_70 (fun r' v' => r' = nI f ∧ i_Rel (k + 4) (nI p, nI w, ff ||| nI f, upd am a x, upd ae a y) v') (nI a) (rf_L l0) (rf_L t0) (nI p) (nI w) ff (rf_L (zs 0)) (rf_L (zs 1)) (rf_L (zs 2)) (rf_L (zs 3)) t l sq uu oo hu ho := by
    intro t0 l0 f z x y R g b1 b2
    unfold wY_load_70 wpY_exact
    dsimp only
    exact rf_yround ha H.1 H.2.1 (rf_Agq b1 (by omega)) (rf_Mq b2.1) R (fun u o hu ho => ⟨rfl, rf_in (rf_RRu H g)⟩)
  have e12 : v3 + 12 = rf_I ((T : Int) - 60) := by rw [ee, show (12 : Int32) = rf_I 12 by decide, rf_Iadd]; congr 1; omega
  have em2 : v2.toInt64 = rf_L m0 := by rw [em, rf_I2L (by omega)]
  rcases Nat.lt_or_ge T 60 with c | c
  · have pw : (2 : Int) ^ (60 - T) ≤ 134217728 := by
      rw [← rf_nc]
      have : 2 ^ (60 - T) ≤ 2 ^ 27 := Nat.pow_le_pow_right (by decide) (by omega)
      omega
    obtain ⟨f, z, R, HX⟩ := rf_xexact (ff := ff) (am := am) (ae := ae) (t := m0) (l := 2 ^ (60 - T)) (z0 := m0) (T := T) (a' := 60 - T) (b' := 0) ha H.1 H.2.1 (rf_p0 _) (by omega) (by rw [Int.pow_zero, Int.mul_one]) (by omega) (by omega)
    rw [em2, ee]
    refine HX _ (fun x y g => ?_)
    unfold wpY_load
    dsimp only
    rw [← ee]
    refine rf_is1 ha (br_f rf_10 (br_f q1 (br_f q2 (br_f q3 (br_t q4 (nm_r e12 ?_))))))
    refine rf_clt ((T : Int) - 60) 0 (fun _ => ?_) (fun q => by omega) rfl (by decide)
    unfold wY_load_56
    refine rf_clt ((T : Int) - 60) 0 (fun _ => ?_) (fun q => by omega) rfl (by decide)
    rw [em2, rf_Ineg, rf_shl 1 (60 - T) (by omega) rf_L1 (by congr 1; omega), Int.one_mul]
    exact Y0 m0 _ f z x y R g (by omega) ⟨rf_p0 _, pw⟩
  · have pw : (m0 * 2 ^ (T - 60)).natAbs ≤ 2305843009213693952 := by
      rw [rf_abs2]
      have h1 : 2 ^ (T - 60) ≤ 2 ^ 32 := Nat.pow_le_pow_right (by decide) (by omega)
      exact Nat.le_trans (Nat.mul_le_mul (show m0.natAbs ≤ 1000000 by omega) h1) (by decide)
    obtain ⟨f, z, R, HX⟩ := rf_xexact (ff := ff) (am := am) (ae := ae) (t := m0 * 2 ^ (T - 60)) (l := 1) (z0 := m0) (T := T) (a' := 0) (b' := T - 60) ha H.1 H.2.1 (by decide) (by omega) (by rw [Int.pow_zero, Int.mul_one]) (by omega) (by omega)
    rw [em2, ee]
    refine HX _ (fun x y g => ?_)
    unfold wpY_load
    dsimp only
    rw [← ee]
    refine rf_is1 ha (br_f rf_10 (br_f q1 (br_f q2 (br_f q3 (br_t q4 (nm_r e12 ?_))))))
    refine rf_clt ((T : Int) - 60) 0 (fun q => by omega) (fun _ => ?_) rfl (by decide)
    unfold wY_load_56
    refine rf_clt ((T : Int) - 60) 0 (fun q => by omega) (fun _ => ?_) rfl (by decide)
    rw [em2, rf_shl m0 (T - 60) (by omega) rfl (by congr 1; omega), rf_L1]
    exact Y0 _ 1 f z x y R g (by omega) (by decide)
end
section
/-! ===== add, sub, compare ===== -/
theorem rf_mulp (m : Int) {E D : Nat} (h : D ≤ E) : m * 2 ^ (E - D) * 2 ^ D = m * 2 ^ E := by
  rw [Int.mul_assoc, ← Int.pow_add]
  congr 2
  omega
theorem rf_b42 {m : Int} {E : Nat} (hm : m.natAbs ≤ 1024) (hE : E ≤ 32) : (m * 2 ^ E).natAbs ≤ 4398046511104 := by
  rw [rf_abs2]
  exact Nat.le_trans (Nat.mul_le_mul hm (Nat.pow_le_pow_right (n := 2) (by decide) hE)) (by decide)
section
variable {ff : Int32} {am ae : Nat → Int32} {p w k : Nat}
theorem rf_xadd {ma mb : Int} {Ea Eb : Nat} (hk : k < 4) (hp : 2 ≤ p ∧ p ≤ 10) (hw : w ≤ 3) (ha : ma.natAbs ≤ 1024) (hb : mb.natAbs ≤ 1024) (hEa : Ea ≤ 32) (hEb : Eb ≤ 32) :
    ∃ (f : Nat) (z : Int), rf_RS p w (rf_cq (ma * 2 ^ Ea + mb * 2 ^ Eb) 1) f z ∧ rf_E p w k f ff am ae z (fun post => wpX_sum post (nI p, nI w, ff, am, ae) (nI k) (rf_L ma) (rf_I ((Ea : Int) - 12)) (rf_L mb) (rf_I ((Eb : Int) - 12))) := by
  obtain ⟨Em, h1, h2, h3⟩ : ∃ Em, Em ≤ Ea ∧ Em ≤ Eb ∧ (Em = Ea ∨ Em = Eb) := by
    rcases Nat.le_total Ea Eb with q | q
    · exact ⟨Ea, Nat.le_refl _, q, Or.inl rfl⟩
    · exact ⟨Eb, q, Nat.le_refl _, Or.inr rfl⟩
  have b1 := rf_b42 (E := Ea - Em) ha (by omega)
  have b2 := rf_b42 (E := Eb - Em) hb (by omega)
  obtain ⟨f, z, R, HX⟩ := rf_xexact (ff := ff) (am := am) (ae := ae) (t := ma * 2 ^ Ea + mb * 2 ^ Eb) (l := 1) (z0 := ma * 2 ^ (Ea - Em) + mb * 2 ^ (Eb - Em)) (T := Em + 60) (a' := 0) (b' := Em) hk hp hw (by decide) (by omega)
    (by rw [Int.pow_zero, Int.mul_one, Int.mul_one, Int.add_mul, rf_mulp ma h1, rf_mulp mb h2]) (by omega) (by omega)
  refine ⟨f, z, R, rf_xsum (T1 := Ea + 60) (T2 := Eb + 60) (T := Em + 60) (by omega) (by omega) (by omega) (by omega) (by omega) ?_⟩
  rw [show Ea + 60 - (Em + 60) = Ea - Em by omega, show Eb + 60 - (Em + 60) = Eb - Em by omega]
  exact HX
end
theorem i_vc_add {k : Nat} {u : SX} {v : SY} (I : i_Rel k u v) (hk : k + 4 ≤ 2049) (v1 : Int32) (v2 : Int32) (v3 : Int32) : wpX_add (fun r u' => wpY_add (fun r' v' => r' = r ∧ i_Rel (k + 4) u' v') v v1 v2 v3) u v1 v2 v3 := by
  refine rf_el (P := fun u v => wpX_add (fun r u' => wpY_add (fun r' v' => r' = r ∧ i_Rel (k + 4) u' v') v v1 v2 v3) u v1 v2 v3) ?_ I
  intro p w ff am ae zs t l sq uu oo hu ho H
  unfold wpX_add
  dsimp only
  rcases rf_isq v1 with ⟨r, hr, rfl⟩ | hn
  rotate_left
  · refine rf_xis0 hn (br_t rfl ?_)
    unfold wpY_add
    dsimp only
    exact rf_is0 hn (br_t rfl ⟨rfl, rf_in H⟩)
  rcases rf_isq v2 with ⟨a, ha, rfl⟩ | hn
  rotate_left
  · refine rf_xis1 hr (br_f rf_10 (rf_xis0 hn (br_t rfl ?_)))
    unfold wpY_add
    dsimp only
    exact rf_is1 hr (br_f rf_10 (rf_is0 hn (br_t rfl ⟨rfl, rf_in H⟩)))
  rcases rf_isq v3 with ⟨b, hb, rfl⟩ | hn
  rotate_left
  · refine rf_xis1 hr (br_f rf_10 (rf_xis1 ha (br_f rf_10 (rf_xis0 hn (br_t rfl ?_)))))
    unfold wpY_add
    dsimp only
    exact rf_is1 hr (br_f rf_10 (rf_is1 ha (br_f rf_10 (rf_is0 hn (br_t rfl ⟨rfl, rf_in H⟩)))))
  have p10 := rf_p10 H.1.2
  obtain ⟨ma, Ea, a1, a2, a3, a4, a5, a6, a7, a8⟩ := rf_Gb H.1 (H.2.2 a ha)
  obtain ⟨mb, Eb, b1, b2, b3, b4, b5, b6, b7, b8⟩ := rf_Gb H.1 (H.2.2 b hb)
  obtain ⟨f, z, R, HX⟩ := rf_xadd (ff := ff) (am := am) (ae := ae) (ma := ma) (mb := mb) (Ea := Ea) (Eb := Eb) hr H.1 H.2.1 (by omega) (by omega) a7 b7
  have ia := vp_in_nI (N := 4) ha (by decide)
  have ib := vp_in_nI (N := 4) hb (by decide)
  refine rf_xis1 hr (br_f rf_10 (rf_xis1 ha (br_f rf_10 (rf_xis1 hb (br_f rf_10 ⟨ia, ia, ib, ib, ?_⟩)))))
  rw [nI_clamp (n := a) (by omega), nI_clamp (n := b) (by omega), a1, a2, b1, b2, rf_I2L (by omega), rf_I2L (by omega)]
  refine HX _ (fun x y g => ?_)
  unfold wpY_add
  dsimp only
  refine rf_is1 hr (br_f rf_10 (rf_is1 ha (br_f rf_10 (rf_is1 hb (br_f rf_10 (rf_get ha (rf_get hb ?_)))))))
  unfold wpY_exact
  dsimp only
  rw [rf_Ladd, a3, b3, rf_L1]
  have c1 := rf_abs2 ma Ea
  have c2 := rf_abs2 mb Eb
  exact rf_yround hr H.1 H.2.1 (rf_Agq (by omega) (by decide)) (rf_Mq (by decide)) R (fun u o hu ho => ⟨rfl, rf_in (rf_RRu H g)⟩)
theorem i_vc_sub {k : Nat} {u : SX} {v : SY} (I : i_Rel k u v) (hk : k + 4 ≤ 2049) (v1 : Int32) (v2 : Int32) (v3 : Int32) : wpX_sub (fun r u' => wpY_sub (fun r' v' => r' = r ∧ i_Rel (k + 4) u' v') v v1 v2 v3) u v1 v2 v3 := by
  refine rf_el (P := fun u v => wpX_sub (fun r u' => wpY_sub (fun r' v' => r' = r ∧ i_Rel (k + 4) u' v') v v1 v2 v3) u v1 v2 v3) ?_ I
  intro p w ff am ae zs t l sq uu oo hu ho H
  unfold wpX_sub
  dsimp only
  rcases rf_isq v1 with ⟨r, hr, rfl⟩ | hn
  rotate_left
  · refine rf_xis0 hn (br_t rfl ?_)
    unfold wpY_sub
    dsimp only
    exact rf_is0 hn (br_t rfl ⟨rfl, rf_in H⟩)
  rcases rf_isq v2 with ⟨a, ha, rfl⟩ | hn
  rotate_left
  · refine rf_xis1 hr (br_f rf_10 (rf_xis0 hn (br_t rfl ?_)))
    unfold wpY_sub
    dsimp only
    exact rf_is1 hr (br_f rf_10 (rf_is0 hn (br_t rfl ⟨rfl, rf_in H⟩)))
  rcases rf_isq v3 with ⟨b, hb, rfl⟩ | hn
  rotate_left
  · refine rf_xis1 hr (br_f rf_10 (rf_xis1 ha (br_f rf_10 (rf_xis0 hn (br_t rfl ?_)))))
    unfold wpY_sub
    dsimp only
    exact rf_is1 hr (br_f rf_10 (rf_is1 ha (br_f rf_10 (rf_is0 hn (br_t rfl ⟨rfl, rf_in H⟩)))))
  have p10 := rf_p10 H.1.2
  obtain ⟨ma, Ea, a1, a2, a3, a4, a5, a6, a7, a8⟩ := rf_Gb H.1 (H.2.2 a ha)
  obtain ⟨mb, Eb, b1, b2, b3, b4, b5, b6, b7, b8⟩ := rf_Gb H.1 (H.2.2 b hb)
  obtain ⟨f, z, R, HX⟩ := rf_xadd (ff := ff) (am := am) (ae := ae) (ma := ma) (mb := -mb) (Ea := Ea) (Eb := Eb) hr H.1 H.2.1 (by omega) (by omega) a7 b7
  have ia := vp_in_nI (N := 4) ha (by decide)
  have ib := vp_in_nI (N := 4) hb (by decide)
  refine rf_xis1 hr (br_f rf_10 (rf_xis1 ha (br_f rf_10 (rf_xis1 hb (br_f rf_10 ⟨ia, ia, ib, ib, ?_⟩)))))
  rw [nI_clamp (n := a) (by omega), nI_clamp (n := b) (by omega), a1, a2, b1, b2, rf_Ineg, rf_I2L (by omega), rf_I2L (by omega)]
  refine HX _ (fun x y g => ?_)
  unfold wpY_sub
  dsimp only
  refine rf_is1 hr (br_f rf_10 (rf_is1 ha (br_f rf_10 (rf_is1 hb (br_f rf_10 (rf_get ha (rf_get hb ?_)))))))
  unfold wpY_exact
  dsimp only
  rw [Int.neg_mul, ← Int.sub_eq_add_neg] at R
  rw [rf_Lsub, a3, b3, rf_L1]
  have c1 := rf_abs2 ma Ea
  have c2 := rf_abs2 mb Eb
  exact rf_yround hr H.1 H.2.1 (rf_Agq (by omega) (by decide)) (rf_Mq (by decide)) R (fun u o hu ho => ⟨rfl, rf_in (rf_RRu H g)⟩)
theorem rf_y51 {post : Int32 → Prop} {fb fw ff sq hu ho : Int32} {r0 r1 r2 r3 t l uu oo : Int64} (a b : Int) (ha : a.natAbs < 9223372036854775808) (hb : b.natAbs < 9223372036854775808) (h : post (rf_I (rf_sg (a - b)))) : wY_compare_51 post (rf_L a) (rf_L b) fb fw ff r0 r1 r2 r3 t l sq uu oo hu ho := by
  unfold wY_compare_51
  refine rf_ble b a (fun q => rf_ble a b (fun q2 => ?_) (fun q2 => ?_)) (fun q => ?_)
  · rw [rf_sgz (by omega), ← rf_I0] at h; exact h
  · rw [rf_sgp (by omega), ← rf_I1] at h; exact h
  · rw [rf_sgn (by omega), ← rf_Im1] at h; exact h
theorem rf_x46 {post : Int32 → Prop} {fb fm ff : Int32} {am ae : Nat → Int32} {a b Ea Eb Em : Nat} {ma mb : Int} (ha : a < 4) (hb : b < 4) (a1 : am a = rf_I ma) (a2 : ae a = rf_I ((Ea : Int) - 12)) (b1 : am b = rf_I mb) (b2 : ae b = rf_I ((Eb : Int) - 12)) (a6 : ma.natAbs ≤ 1024) (b6 : mb.natAbs ≤ 1024) (a7 : Ea ≤ 32) (b7 : Eb ≤ 32) (h1 : Em ≤ Ea) (h2 : Em ≤ Eb)
    (h : post (rf_I (rf_sg (ma * 2 ^ Ea - mb * 2 ^ Eb)))) : wX_compare_46 post (nI a) (nI b) (rf_I ((Em : Int) - 12)) fb fm ff am ae := by
  have ia := vp_in_nI (N := 4) ha (by decide)
  have ib := vp_in_nI (N := 4) hb (by decide)
  have c1 := rf_b42 (E := Ea - Em) a6 (by omega)
  have c2 := rf_b42 (E := Eb - Em) b6 (by omega)
  have S := rf_sgm (σ := 1) (X := ma * 2 ^ Ea - mb * 2 ^ Eb) (Y := ma * 2 ^ (Ea - Em) - mb * 2 ^ (Eb - Em)) (V := 1) (W := 2 ^ Em) (Or.inl rfl) (by decide) (rf_p0 Em) (by rw [Int.mul_one, Int.one_mul, Int.sub_mul, rf_mulp ma h1, rf_mulp mb h2])
  rw [S, Int.one_mul] at h
  unfold wX_compare_46
  rw [nI_clamp (n := a) (by omega), nI_clamp (n := b) (by omega), a1, a2, b1, b2, rf_I2L (by omega), rf_I2L (by omega), rf_Isub, rf_Isub, rf_shl ma (Ea - Em) (by omega) rfl (by congr 1; omega), rf_shl mb (Eb - Em) (by omega) rfl (by congr 1; omega)]
  generalize ma * 2 ^ (Ea - Em) = X at c1 h ⊢
  generalize mb * 2 ^ (Eb - Em) = Y at c2 h ⊢
  refine ⟨ia, ia, nm_e ⟨ib, ib, nm_e (rf_beq X Y (fun q => ?_) (fun q => rf_ble Y X (fun q2 => ?_) (fun q2 => ?_)))⟩⟩
  · rw [rf_sgz (by omega), ← rf_I0] at h; exact h
  · rw [rf_sgp (by omega), ← rf_I1] at h; exact h
  · rw [rf_sgn (by omega), ← rf_Im1] at h; exact h
theorem i_vc_compare {k : Nat} {u : SX} {v : SY} (I : i_Rel k u v) (hk : k + 4 ≤ 2049) (v1 : Int32) (v2 : Int32) : wpX_compare (fun r => wpY_compare (fun r' => r' = r ∧ i_Rel (k + 4) u v) v v1 v2) u v1 v2 := by
  refine rf_el (P := fun u v => wpX_compare (fun r => wpY_compare (fun r' => r' = r ∧ i_Rel (k + 4) u v) v v1 v2) u v1 v2) ?_ I
  intro p w ff am ae zs t l sq uu oo hu ho H
  unfold wpX_compare
  dsimp only
  rcases rf_isq v1 with ⟨a, ha, rfl⟩ | hn
  rotate_left
  · refine rf_xis0 hn (br_t rfl ?_)
    unfold wpY_compare wY_compare_24 wY_compare_25 wY_compare_50
    dsimp only
    exact rf_is0 hn (br_t rfl (rf_is0 hn (br_t rfl (rf_y51 0 0 (by decide) (by decide) ⟨by decide, rf_in H⟩))))
  rcases rf_isq v2 with ⟨b, hb, rfl⟩ | hn
  rotate_left
  · refine rf_xis1 ha (br_f rf_10 (rf_xis0 hn (br_t rfl ?_)))
    unfold wpY_compare wY_compare_24 wY_compare_25 wY_compare_50
    dsimp only
    exact rf_is1 ha (br_f rf_10 (rf_is0 hn (br_t rfl (rf_is1 ha (br_f rf_10 (rf_is0 hn (br_t rfl (rf_y51 0 0 (by decide) (by decide) ⟨by decide, rf_in H⟩))))))))
  have p10 := rf_p10 H.1.2
  obtain ⟨ma, Ea, a1, a2, a3, a4, a5, a6, a7, a8⟩ := rf_Gb H.1 (H.2.2 a ha)
  obtain ⟨mb, Eb, b1, b2, b3, b4, b5, b6, b7, b8⟩ := rf_Gb H.1 (H.2.2 b hb)
  have ia := vp_in_nI (N := 4) ha (by decide)
  have ib := vp_in_nI (N := 4) hb (by decide)
  have Y : wpY_compare (fun r' => r' = rf_I (rf_sg (ma * 2 ^ Ea - mb * 2 ^ Eb)) ∧ i_Rel (k + 4) (nI p, nI w, ff, am, ae) (nI p, nI w, ff, rf_L (zs 0), rf_L (zs 1), rf_L (zs 2), rf_L (zs 3), t, l, sq, uu, oo, hu, ho)) (nI p, nI w, ff, rf_L (zs 0), rf_L (zs 1), rf_L (zs 2), rf_L (zs 3), t, l, sq, uu, oo, hu, ho) (nI a) (nI b) := by
    unfold wpY_compare wY_compare_25
    dsimp only
    refine rf_is1 ha (br_f rf_10 (rf_is1 hb (br_f rf_10 (rf_get ha (rf_is1 ha (br_f rf_10 (rf_is1 hb (br_f rf_10 (rf_get hb ?_)))))))))
    have c1 := rf_abs2 ma Ea
    have c2 := rf_abs2 mb Eb
    rw [a3, b3]
    exact rf_y51 _ _ (by omega) (by omega) ⟨rfl, rf_in H⟩
  refine rf_xis1 ha (br_f rf_10 (rf_xis1 hb (br_f rf_10 ⟨ia, ib, ?_⟩)))
  rw [nI_clamp (n := a) (by omega), nI_clamp (n := b) (by omega), a2, b2]
  refine rf_cle ((Eb : Int) - 12) ((Ea : Int) - 12) (fun q => ⟨ib, ?_⟩) (fun q => ⟨ia, ?_⟩)
  · exact rf_x46 ha hb a1 a2 b1 b2 (by omega) (by omega) a7 b7 (by omega) (by omega) Y
  · exact rf_x46 ha hb a1 a2 b1 b2 (by omega) (by omega) a7 b7 (by omega) (by omega) Y
end
section
/-! ===== product; mul, fuse ===== -/
def rf_big (M : Int) (E : Nat) : Prop := 55 ≤ E ∨ (24 ≤ E ∧ 2 ^ (55 - E) ≤ M.natAbs)
theorem rf_bigN {M : Int} {E : Nat} (h : rf_big M E) (h0 : M = 0 → E < 55) : ¬ M = 0 ∧ 36028797018963968 ≤ M.natAbs * 2 ^ E := by
  have p := Nat.two_pow_pos (55 - E)
  have hM : ¬ M = 0 := by
    intro e
    have := h0 e
    rcases h with h | h
    · omega
    · rw [e] at h
      have : (0 : Int).natAbs = 0 := rfl
      omega
  refine ⟨hM, ?_⟩
  rcases Nat.lt_or_ge E 55 with q | q
  · have h1 : 2 ^ (55 - E) ≤ M.natAbs := by
      rcases h with h | h
      · omega
      · exact h.2
    have h2 := Nat.mul_le_mul_right (2 ^ E) h1
    rw [← Nat.pow_add, show 55 - E + E = 55 by omega] at h2
    exact h2
  · have h1 : 2 ^ 55 ≤ 2 ^ E := Nat.pow_le_pow_right (by decide) q
    have h2 : 2 ^ E ≤ M.natAbs * 2 ^ E := Nat.le_mul_of_pos_left _ (by omega)
    exact Nat.le_trans h1 h2
theorem rf_top34 {p : Nat} (hp : p ≤ 10) : 2 * ((2 ^ p - 1) * 2 ^ 23) < 17179869184 :=
  Nat.lt_of_lt_of_le rf_ltop (Nat.le_trans (Nat.pow_le_pow_right (by decide) (show p + 24 ≤ 34 by omega)) (by decide))
theorem rf_hugeRS {p w : Nat} {σ t : Int} (hp : 2 ≤ p ∧ p ≤ 10) (hσ : σ = 1 ∨ σ = -1) (h : 562949953421312 ≤ σ * t) : rf_RS p w (rf_cq t 4096) 3 (σ * (((2 ^ p - 1) * 2 ^ 23 : Nat) : Int)) := by
  have b := rf_top34 hp.2
  refine rf_lmz (by omega) hσ (rf_Mq (by decide)) ?_
  generalize 2 * ((2 ^ p - 1) * 2 ^ 23) = X at b ⊢
  unfold rf_cq
  rcases hσ with rfl | rfl
  · exact rf_sgp (by omega)
  · exact rf_sgn (by omega)
theorem rf_bigRS {p w : Nat} {σ : Int} (hp : 2 ≤ p ∧ p ≤ 10) (hσ : σ = 1 ∨ σ = -1) : rf_RS p w (rf_cq (σ * 8796093022208) 1) 3 (σ * (((2 ^ p - 1) * 2 ^ 23 : Nat) : Int)) := by
  have b := rf_top34 hp.2
  refine rf_lmz (by omega) hσ (rf_Mq (by decide)) ?_
  generalize 2 * ((2 ^ p - 1) * 2 ^ 23) = X at b ⊢
  unfold rf_cq
  rcases hσ with rfl | rfl
  · exact rf_sgp (by omega)
  · exact rf_sgn (by omega)
theorem rf_b20 {ma mb : Int} (ha : ma.natAbs ≤ 1024) (hb : mb.natAbs ≤ 1024) : (ma * mb).natAbs ≤ 1048576 := by
  rw [Int.natAbs_mul]
  exact Nat.le_trans (Nat.mul_le_mul ha hb) (by decide)
section
variable {ff sq hu ho : Int32} {t l uu oo : Int64} {p w a b Ea Eb : Nat} {zs : Nat → Int} {ma mb zc : Int} {am ae : Nat → Int32}
theorem rf_yprod {post : SY → Prop} (H : rf_RR p w am ae zs) (ha : a < 4) (hb : b < 4) (a1 : am a = rf_I ma) (a2 : ae a = rf_I ((Ea : Int) - 12)) (b1 : am b = rf_I mb) (b2 : ae b = rf_I ((Eb : Int) - 12)) (a6 : ma.natAbs ≤ 1024) (b6 : mb.natAbs ≤ 1024) (a7 : Ea ≤ 32) (b7 : Eb ≤ 32)
    (hbig : rf_big (ma * mb) (Ea + Eb) → post (nI p, nI w, ff, rf_L (zs 0), rf_L (zs 1), rf_L (zs 2), rf_L (zs 3), rf_L (if ma * mb < 0 then -8796093022208 else 8796093022208), rf_L 1, 0, uu, oo, hu, ho))
    (hsm : ¬ rf_big (ma * mb) (Ea + Eb) → post (nI p, nI w, ff, rf_L (zs 0), rf_L (zs 1), rf_L (zs 2), rf_L (zs 3), rf_L (ma * mb * 2 ^ (Ea + Eb) + zc * 4096), rf_L 4096, 0, uu, oo, hu, ho)) :
    wpY_product post (nI p, nI w, ff, rf_L (zs 0), rf_L (zs 1), rf_L (zs 2), rf_L (zs 3), t, l, sq, uu, oo, hu, ho) (nI a) (nI b) (rf_L zc) := by
  have ga := H.2.2 a ha
  have gb := H.2.2 b hb
  have bM := rf_b20 a6 b6
  have B70 : rf_big (ma * mb) (Ea + Eb) → wY_product_70 post (rf_L (ma * mb)) (nI p) (nI w) ff (rf_L (zs 0)) (rf_L (zs 1)) (rf_L (zs 2)) (rf_L (zs 3)) t l sq uu oo hu ho := by
    intro q
    have h := hbig q
    unfold wY_product_70
    refine rf_ble 0 (ma * mb) (fun q2 => ?_) (fun q2 => ?_) rf_L0 rfl
    · rw [if_neg (by omega)] at h
      rw [show (8796093022208 : Int64) = rf_L 8796093022208 by decide]
      unfold wY_product_87
      rw [rf_L1]
      exact h
    · rw [if_pos q2] at h
      rw [show (-8796093022208 : Int64) = rf_L (-8796093022208) by decide]
      unfold wY_product_87
      rw [rf_L1]
      exact h
  have B94 : ¬ rf_big (ma * mb) (Ea + Eb) → wY_product_94 post (rf_L zc) (rf_L (ma * mb)) (rf_I (((Ea + Eb : Nat) : Int) - 24)) (nI p) (nI w) ff (rf_L (zs 0)) (rf_L (zs 1)) (rf_L (zs 2)) (rf_L (zs 3)) t l sq uu oo hu ho := by
    intro q
    have h := hsm q
    have hE : Ea + Eb < 64 := by
      apply Nat.lt_of_not_le
      intro r
      exact q (Or.inl (by omega))
    unfold wY_product_94
    rw [show (24 : Int32) = rf_I 24 by decide, rf_Iadd, rf_shl (ma * mb) (Ea + Eb) hE rfl (by congr 1; omega), rf_shl zc 12 (by decide) rfl (by decide), rf_Ladd, show (4096 : Int64) = rf_L 4096 by decide]
    exact h
  have B43 : ∀ s : Int, s = ((ma * mb).natAbs : Int) → wY_product_43 post (rf_L zc) (rf_L (ma * mb)) (rf_I (((Ea + Eb : Nat) : Int) - 24)) (rf_L s) (nI p) (nI w) ff (rf_L (zs 0)) (rf_L (zs 1)) (rf_L (zs 2)) (rf_L (zs 3)) t l sq uu oo hu ho := by
    intro s hs
    unfold wY_product_43
    refine rf_cle 31 (((Ea + Eb : Nat) : Int) - 24) (fun q => B70 (Or.inl (by omega))) (fun q => ?_) (by decide) rfl
    refine rf_clt (((Ea + Eb : Nat) : Int) - 24) 0 (fun q2 => B94 ?_) (fun q2 => ?_) rfl (by decide)
    · rintro (r | r) <;> omega
    · rw [show (31 : Int32) = rf_I 31 by decide, rf_Isub, rf_shlN 1 (55 - (Ea + Eb)) (by omega) rf_L1 (by congr 1; omega), Nat.one_mul]
      have pw : 2 ^ (55 - (Ea + Eb)) ≤ 2 ^ 31 := Nat.pow_le_pow_right (by decide) (by omega)
      obtain ⟨PW, hPW⟩ : ∃ PW : Nat, 2 ^ (55 - (Ea + Eb)) = PW := ⟨_, rfl⟩
      rw [hPW] at pw ⊢
      refine rf_blt s (PW : Int) (fun q3 => B94 ?_) (fun q3 => B70 (Or.inr ⟨by omega, by rw [hPW]; omega⟩))
      rintro (r | ⟨_, r⟩)
      · omega
      · rw [hPW] at r
        omega
  unfold wpY_product
  dsimp only
  refine rf_yman H.1 ha ga (rf_yman H.1 hb gb (nm_r (e' := rf_L (ma * mb)) ?_ (rf_yexp H.1 ha ga (rf_yexp H.1 hb gb (nm_r (e' := rf_I (((Ea + Eb : Nat) : Int) - 24)) ?_ ?_)))))
  · rw [a1, b1, rf_I2L (by omega), rf_I2L (by omega), rf_Lmul]
  · rw [a2, b2, rf_Iadd]
    congr 1
    omega
  · refine rf_ble 0 (ma * mb) (fun q2 => B43 _ (by omega)) (fun q2 => ?_) rf_L0 rfl
    rw [rf_Lneg]
    exact B43 _ (by omega)
theorem rf_ypr {POST : Int32 → SY → Prop} {k f : Nat} {z : Int} (H : rf_RR p w am ae zs) (hk : k < 4) (ha : a < 4) (hb : b < 4) (a1 : am a = rf_I ma) (a2 : ae a = rf_I ((Ea : Int) - 12)) (b1 : am b = rf_I mb) (b2 : ae b = rf_I ((Eb : Int) - 12)) (a6 : ma.natAbs ≤ 1024) (b6 : mb.natAbs ≤ 1024) (a7 : Ea ≤ 32) (b7 : Eb ≤ 32)
    (h0 : ma * mb = 0 → Ea + Eb < 55) (hzc : zc.natAbs < 8589934592) (R : rf_RS p w (rf_cq (ma * mb * 2 ^ (Ea + Eb) + zc * 4096) 4096) f z)
    (h : ∀ (t l : Int64) (sq : Int32) (u o : Int64) (hu ho : Int32), POST (nI f) (nI p, nI w, ff ||| nI f, rf_L (rf_zu zs k z 0), rf_L (rf_zu zs k z 1), rf_L (rf_zu zs k z 2), rf_L (rf_zu zs k z 3), t, l, sq, u, o, hu, ho)) :
    wpY_product (fun u => match u with | (c1, c2, c3, c4, c5, c6, c7, c8, c9, c10, c11, c12, c13, c14) => wpY_round POST (c1, c2, c3, c4, c5, c6, c7, c8, c9, c10, c11, c12, c13, c14) (nI k)) (nI p, nI w, ff, rf_L (zs 0), rf_L (zs 1), rf_L (zs 2), rf_L (zs 3), t, l, sq, uu, oo, hu, ho) (nI a) (nI b) (rf_L zc) := by
  refine rf_yprod H ha hb a1 a2 b1 b2 a6 b6 a7 b7 (fun q => ?_) (fun q => ?_)
  · have n := rf_bigN q h0
    have e := rf_abs2 (ma * mb) (Ea + Eb)
    generalize ma * mb = M at *
    have sM : (0 < M → 0 < M * 2 ^ (Ea + Eb)) ∧ (M < 0 → M * 2 ^ (Ea + Eb) < 0) := ⟨fun q => Int.mul_pos q (rf_p0 _), fun q => Int.mul_neg_of_neg_of_pos q (rf_p0 _)⟩
    generalize M * 2 ^ (Ea + Eb) = X at *
    by_cases s : M < 0
    · rw [if_pos s]
      have R1 : rf_RS p w _ 3 _ := rf_hugeRS (p := p) (w := w) (σ := -1) (t := X + zc * 4096) H.1 (Or.inr rfl) (by omega)
      have R2 : rf_RS p w _ 3 _ := rf_bigRS (p := p) (w := w) (σ := -1) H.1 (Or.inr rfl)
      obtain ⟨rfl, rfl⟩ := rf_RS1 R R1
      exact rf_yround hk H.1 H.2.1 (rf_Agq (t := -8796093022208) (l := 1) (by decide) (by decide)) (rf_Mq (by decide)) R2 (fun u o hu ho => h _ _ _ u o hu ho)
    · rw [if_neg s]
      have R1 : rf_RS p w _ 3 _ := rf_hugeRS (p := p) (w := w) (σ := 1) (t := X + zc * 4096) H.1 (Or.inl rfl) (by omega)
      have R2 : rf_RS p w _ 3 _ := rf_bigRS (p := p) (w := w) (σ := 1) H.1 (Or.inl rfl)
      obtain ⟨rfl, rfl⟩ := rf_RS1 R R1
      exact rf_yround hk H.1 H.2.1 (rf_Agq (t := 8796093022208) (l := 1) (by decide) (by decide)) (rf_Mq (by decide)) R2 (fun u o hu ho => h _ _ _ u o hu ho)
  · have bM := rf_b20 a6 b6
    have hE : Ea + Eb < 55 := by
      apply Nat.lt_of_not_le
      intro r
      exact q (Or.inl r)
    have bX : (ma * mb * 2 ^ (Ea + Eb)).natAbs ≤ 36028797018963968 := by
      rw [rf_abs2]
      rcases Nat.lt_or_ge (Ea + Eb) 24 with r | r
      · exact Nat.le_trans (Nat.mul_le_mul bM (Nat.pow_le_pow_right (n := 2) (by decide) (show Ea + Eb ≤ 24 by omega))) (by decide)
      · have h1 : (ma * mb).natAbs ≤ 2 ^ (55 - (Ea + Eb)) := Nat.le_of_lt (Nat.lt_of_not_le (fun x => q (Or.inr ⟨r, x⟩)))
        have h2 := Nat.mul_le_mul_right (2 ^ (Ea + Eb)) h1
        rw [← Nat.pow_add, show 55 - (Ea + Eb) + (Ea + Eb) = 55 by omega] at h2
        exact h2
    generalize ma * mb * 2 ^ (Ea + Eb) = X at *
    exact rf_yround hk H.1 H.2.1 (rf_Agq (t := X + zc * 4096) (l := 4096) (by omega) (by decide)) (rf_Mq (by decide)) R (fun u o hu ho => h _ _ _ u o hu ho)
end
theorem rf_zE {ma mb : Int} {Ea Eb : Nat} (a4 : (ma = 0 ∧ Ea = 12) ∨ ma % 2 = 1) (b4 : (mb = 0 ∧ Eb = 12) ∨ mb % 2 = 1) (a7 : Ea ≤ 32) (b7 : Eb ≤ 32) (h : ma * mb = 0) : Ea + Eb < 55 := by
  rcases Int.mul_eq_zero.mp h with q | q <;> omega
theorem i_vc_mul {k : Nat} {u : SX} {v : SY} (I : i_Rel k u v) (hk : k + 4 ≤ 2049) (v1 : Int32) (v2 : Int32) (v3 : Int32) : wpX_mul (fun r u' => wpY_mul (fun r' v' => r' = r ∧ i_Rel (k + 4) u' v') v v1 v2 v3) u v1 v2 v3 := by
  refine rf_el (P := fun u v => wpX_mul (fun r u' => wpY_mul (fun r' v' => r' = r ∧ i_Rel (k + 4) u' v') v v1 v2 v3) u v1 v2 v3) ?_ I
  intro p w ff am ae zs t l sq uu oo hu ho H
  unfold wpX_mul
  dsimp only
  rcases rf_isq v1 with ⟨r, hr, rfl⟩ | hn
  rotate_left
  · refine rf_xis0 hn (br_t rfl ?_)
    unfold wpY_mul
    dsimp only
    exact rf_is0 hn (br_t rfl ⟨rfl, rf_in H⟩)
  rcases rf_isq v2 with ⟨a, ha, rfl⟩ | hn
  rotate_left
  · refine rf_xis1 hr (br_f rf_10 (rf_xis0 hn (br_t rfl ?_)))
    unfold wpY_mul
    dsimp only
    exact rf_is1 hr (br_f rf_10 (rf_is0 hn (br_t rfl ⟨rfl, rf_in H⟩)))
  rcases rf_isq v3 with ⟨b, hb, rfl⟩ | hn
  rotate_left
  · refine rf_xis1 hr (br_f rf_10 (rf_xis1 ha (br_f rf_10 (rf_xis0 hn (br_t rfl ?_)))))
    unfold wpY_mul
    dsimp only
    exact rf_is1 hr (br_f rf_10 (rf_is1 ha (br_f rf_10 (rf_is0 hn (br_t rfl ⟨rfl, rf_in H⟩)))))
  have p10 := rf_p10 H.1.2
  obtain ⟨ma, Ea, a1, a2, a3, a4, a5, a6, a7, a8⟩ := rf_Gb H.1 (H.2.2 a ha)
  obtain ⟨mb, Eb, b1, b2, b3, b4, b5, b6, b7, b8⟩ := rf_Gb H.1 (H.2.2 b hb)
  have bM := rf_b20 (ma := ma) (mb := mb) (by omega) (by omega)
  obtain ⟨f, z, R, HX⟩ := rf_xexact (ff := ff) (am := am) (ae := ae) (t := ma * mb * 2 ^ (Ea + Eb) + 0 * 4096) (l := 4096) (z0 := ma * mb) (T := Ea + Eb + 48) (a' := 12) (b' := Ea + Eb) hr H.1 H.2.1 (by decide) (by omega)
    (by rw [Int.zero_mul, Int.add_zero]; rfl) (by omega) (by omega)
  have ia := vp_in_nI (N := 4) ha (by decide)
  have ib := vp_in_nI (N := 4) hb (by decide)
  refine rf_xis1 hr (br_f rf_10 (rf_xis1 ha (br_f rf_10 (rf_xis1 hb (br_f rf_10 ⟨ia, ib, ?_⟩)))))
  rw [nI_clamp (n := a) (by omega), nI_clamp (n := b) (by omega), a1, a2, b1, b2, rf_I2L (by omega), rf_I2L (by omega), rf_Lmul, rf_Iadd, show (Ea : Int) - 12 + ((Eb : Int) - 12) = ((Ea + Eb + 48 : Nat) : Int) - 72 by omega]
  refine nm_e ⟨ia, ib, HX _ (fun x y g => ?_)⟩
  unfold wpY_mul
  dsimp only
  refine rf_is1 hr (br_f rf_10 (rf_is1 ha (br_f rf_10 (rf_is1 hb (br_f rf_10 ?_)))))
  rw [rf_L0]
  exact rf_ypr H hr ha hb a1 a2 b1 b2 (by omega) (by omega) a7 b7 (rf_zE a4 b4 a7 b7) (by decide) R (fun t l sq u o hu ho => ⟨rfl, rf_in (rf_RRu H g)⟩)
end
section
/-! ===== fuse ===== -/
theorem rf_f1 : ∀ j, j < 64 → nI j &&& 3 = nI (j % 4) := by decide +kernel
theorem rf_f2 : ∀ j, j < 64 → (nI j >>> ((2 : Int32) &&& 31)) &&& 3 = nI (j / 4 % 4) := by decide +kernel
theorem rf_f3 : ∀ j, j < 64 → nI j >>> ((4 : Int32) &&& 31) = nI (j / 16) := by decide +kernel
theorem rf_p12 (m : Int) (E : Nat) : m * 2 ^ E * 4096 = m * 2 ^ (E + 12) := by
  rw [Int.pow_add, Int.mul_assoc]
  rfl
section
variable {ff : Int32} {am ae : Nat → Int32} {p w k : Nat}
/-- X: the sum of a product and a register -/
theorem rf_xfs {M mc e1 : Int} {E Ec T1 : Nat} (hk : k < 4) (hp : 2 ≤ p ∧ p ≤ 10) (hw : w ≤ 3) (he : e1 = (T1 : Int) - 72) (hM : (M = 0 ∧ T1 = 72) ∨ (T1 = E + 48 ∧ E < 55)) (hb : M.natAbs * 2 ^ E ≤ 1125899906842624) (hc : mc.natAbs ≤ 1024) (hEc : Ec ≤ 32) :
    ∃ (f : Nat) (z : Int), rf_RS p w (rf_cq (M * 2 ^ E + mc * 2 ^ Ec * 4096) 4096) f z ∧ rf_E p w k f ff am ae z (fun post => wpX_sum post (nI p, nI w, ff, am, ae) (nI k) (rf_L M) (rf_I e1) (rf_L mc) (rf_I ((Ec : Int) - 12))) := by
  obtain ⟨T, h1, h2, h3⟩ : ∃ T, T ≤ T1 ∧ T ≤ Ec + 60 ∧ (T = T1 ∨ T = Ec + 60) := by
    rcases Nat.le_total T1 (Ec + 60) with q | q
    · exact ⟨T1, Nat.le_refl _, q, Or.inl rfl⟩
    · exact ⟨Ec + 60, q, Nat.le_refl _, Or.inr rfl⟩
  have h48 : 48 ≤ T := by omega
  have c2 : (mc * 2 ^ (Ec + 60 - T)).natAbs ≤ 18014398509481984 := by
    rw [rf_abs2]
    exact Nat.le_trans (Nat.mul_le_mul hc (Nat.pow_le_pow_right (n := 2) (by decide) (show Ec + 60 - T ≤ 44 by omega))) (by decide)
  have c1 : (M * 2 ^ (T1 - T)).natAbs ≤ 1125899906842624 := by
    rw [rf_abs2]
    rcases hM with ⟨rfl, _⟩ | ⟨h, _⟩
    · rw [show (0 : Int).natAbs = 0 from rfl, Nat.zero_mul]
      exact Nat.zero_le _
    · exact Nat.le_trans (Nat.mul_le_mul_left _ (Nat.pow_le_pow_right (by decide) (by omega))) hb
  have d1 : M * 2 ^ (T1 - T) * 2 ^ (T - 48) = M * 2 ^ E := by
    rcases hM with ⟨rfl, _⟩ | ⟨h, _⟩
    · rw [Int.zero_mul, Int.zero_mul, Int.zero_mul]
    · rw [Int.mul_assoc, ← Int.pow_add]
      congr 2
      omega
  have d2 : mc * 2 ^ (Ec + 60 - T) * 2 ^ (T - 48) = mc * 2 ^ Ec * 4096 := by
    rw [rf_p12, Int.mul_assoc, ← Int.pow_add]
    congr 2
    omega
  obtain ⟨f, z, R, HX⟩ := rf_xexact (ff := ff) (am := am) (ae := ae) (t := M * 2 ^ E + mc * 2 ^ Ec * 4096) (l := 4096) (z0 := M * 2 ^ (T1 - T) + mc * 2 ^ (Ec + 60 - T)) (T := T) (a' := 12) (b' := T - 48) hk hp hw (by decide) (by omega)
    (by rw [Int.add_mul (M * 2 ^ (T1 - T)), d1, d2]; rfl) (by omega) (by omega)
  exact ⟨f, z, R, rf_xsum (T1 := T1) (T2 := Ec + 60) (T := T) he (by omega) (by omega) (by omega) (by omega) HX⟩
end
theorem i_vc_fuse {k : Nat} {u : SX} {v : SY} (I : i_Rel k u v) (hk : k + 4 ≤ 2049) (v1 : Int32) (v2 : Int32) : wpX_fuse (fun r u' => wpY_fuse (fun r' v' => r' = r ∧ i_Rel (k + 4) u' v') v v1 v2) u v1 v2 := by
  refine rf_el (P := fun u v => wpX_fuse (fun r u' => wpY_fuse (fun r' v' => r' = r ∧ i_Rel (k + 4) u' v') v v1 v2) u v1 v2) ?_ I
  intro p w ff am ae zs t l sq uu oo hu ho H
  unfold wpX_fuse
  dsimp only
  rcases rf_isq v1 with ⟨r, hr, rfl⟩ | hn
  rotate_left
  · refine rf_xis0 hn (br_t rfl ?_)
    unfold wpY_fuse
    dsimp only
    exact rf_is0 hn (br_t rfl ⟨rfl, rf_in H⟩)
  by_cases q1 : v2 < 0
  · refine rf_xis1 hr (br_f rf_10 (br_t q1 ?_))
    unfold wpY_fuse
    dsimp only
    exact rf_is1 hr (br_f rf_10 (br_t q1 ⟨rfl, rf_in H⟩))
  by_cases q2 : v2 ≤ 63
  rotate_left
  · refine rf_xis1 hr (br_f rf_10 (br_f q1 (br_f q2 ?_)))
    unfold wpY_fuse
    dsimp only
    exact rf_is1 hr (br_f rf_10 (br_f q1 (br_f q2 ⟨rfl, rf_in H⟩)))
  obtain ⟨j, hj, rfl⟩ := nI_of2 (M := 63) (n := 63) (by decide) q1 q2
  have f1 := rf_f1 j (by omega)
  have f2 := rf_f2 j (by omega)
  have f3 := rf_f3 j (by omega)
  obtain ⟨a, ea⟩ : ∃ a, a = j % 4 := ⟨_, rfl⟩
  obtain ⟨b, eb⟩ : ∃ b, b = j / 4 % 4 := ⟨_, rfl⟩
  obtain ⟨c, ec⟩ : ∃ c, c = j / 16 := ⟨_, rfl⟩
  rw [← ea] at f1
  rw [← eb] at f2
  rw [← ec] at f3
  have ha : a < 4 := by omega
  have hb : b < 4 := by omega
  have hc : c < 4 := by omega
  have p10 := rf_p10 H.1.2
  obtain ⟨ma, Ea, a1, a2, a3, a4, a5, a6, a7, a8⟩ := rf_Gb H.1 (H.2.2 a ha)
  obtain ⟨mb, Eb, b1, b2, b3, b4, b5, b6, b7, b8⟩ := rf_Gb H.1 (H.2.2 b hb)
  obtain ⟨mc, Ec, c1, c2, c3, c4, c5, c6, c7, c8⟩ := rf_Gb H.1 (H.2.2 c hc)
  have bM := rf_b20 (ma := ma) (mb := mb) (by omega) (by omega)
  have h0 := rf_zE a4 b4 a7 b7
  have ia := vp_in_nI (N := 4) ha (by decide)
  have ib := vp_in_nI (N := 4) hb (by decide)
  have ic := vp_in_nI (N := 4) hc (by decide)
  have bz := rf_abs2 mc Ec
  have Y : ∀ (f : Nat) (z : Int) (x y : Int32), rf_RS p w (rf_cq (ma * mb * 2 ^ (Ea + Eb) + mc * 2 ^ Ec * 4096) 4096) f z → rf_G p x y z → wpY_fuse (fun r' v' => r' = nI f ∧ i_Rel (k + 4) (nI p, nI w, ff ||| nI f, upd am r x, upd ae r y) v') (nI p, nI w, ff, rf_L (zs 0), rf_L (zs 1), rf_L (zs 2), rf_L (zs 3), t, l, sq, uu, oo, hu, ho) (nI r) (nI j) := by
    intro f z x y R g
    unfold wpY_fuse
    dsimp only
    refine rf_is1 hr (br_f rf_10 (br_f q1 (br_t q2 ?_)))
    rw [f1, f2, f3]
    refine rf_get hc ?_
    rw [c3]
    exact rf_ypr H hr ha hb a1 a2 b1 b2 (by omega) (by omega) a7 b7 h0 (by omega) R (fun t l sq u o hu ho => ⟨rfl, rf_in (rf_RRu H g)⟩)
  refine rf_xis1 hr (br_f rf_10 (br_f q1 (br_t q2 ?_)))
  rw [f1, f2, f3]
  obtain ⟨nb, hnb, hmb, hb2⟩ := rf_bl (ma * mb).natAbs 21 (Nat.lt_of_le_of_lt bM (by decide))
  refine nm_e (nm_e (nm_e ⟨ia, ib, nm_r (e' := rf_L (ma * mb)) ?_ ⟨ia, ib, nm_r (e' := rf_I (((Ea + Eb : Nat) : Int) - 24)) ?_ ?_⟩⟩))
  · rw [nI_clamp (n := a) (by omega), nI_clamp (n := b) (by omega), a1, b1, rf_I2L (by omega), rf_I2L (by omega), rf_Lmul]
  · rw [nI_clamp (n := a) (by omega), nI_clamp (n := b) (by omega), a2, b2, rf_Iadd]
    congr 1
    omega
  have W : ∀ (P : Int64 → Prop), P (rf_L ((ma * mb).natAbs : Int)) → wpX_size P (rf_L (ma * mb)) := by
    intro P h
    unfold wpX_size
    refine rf_ble 0 (ma * mb) (fun q => ?_) (fun q => ?_) rf_L0 rfl
    · rw [show ((ma * mb).natAbs : Int) = ma * mb by omega] at h
      exact h
    · rw [show ((ma * mb).natAbs : Int) = -(ma * mb) by omega] at h
      rw [rf_Lneg]
      exact h
  refine W _ (rf_bits hmb (by omega) hb2 (nm_r (e' := rf_I ((nb : Int) + ((Ea + Eb : Nat) : Int) - 24)) ?_ ?_))
  · rw [← rf_In, rf_Iadd]
    congr 1
    omega
  have eX := rf_abs2 (ma * mb) (Ea + Eb)
  generalize hME : ma * mb = M at *
  by_cases hbig : ¬ M = 0 ∧ 50 < nb + (Ea + Eb)
  · -- beyond the limits
    refine rf_beq M 0 (fun q => absurd q hbig.1) (fun _ => rf_cle ((nb : Int) + ((Ea + Eb : Nat) : Int) - 24) 26 (fun q => by omega) (fun _ => ?_) rfl (by decide)) rfl rf_L0
    have hb3 : 2 ^ (nb - 1) ≤ M.natAbs := by
      rcases hb2 with h | h
      · rw [h] at hmb
        omega
      · exact h
    have big : 1125899906842624 ≤ M.natAbs * 2 ^ (Ea + Eb) := by
      have e1 := Nat.mul_le_mul_right (2 ^ (Ea + Eb)) hb3
      rw [← Nat.pow_add] at e1
      have e2 : 2 ^ 50 ≤ 2 ^ (nb - 1 + (Ea + Eb)) := Nat.pow_le_pow_right (by decide) (by omega)
      exact Nat.le_trans e2 e1
    have sM : (0 < M → 0 < M * 2 ^ (Ea + Eb)) ∧ (M < 0 → M * 2 ^ (Ea + Eb) < 0) := ⟨fun q => Int.mul_pos q (rf_p0 _), fun q => Int.mul_neg_of_neg_of_pos q (rf_p0 _)⟩
    generalize M * 2 ^ (Ea + Eb) = X at *
    generalize mc * 2 ^ Ec = ZC at *
    refine rf_ble 0 M (fun q => ?_) (fun q => ?_) rf_L0 rfl
    · have R : rf_RS p w _ 3 _ := rf_hugeRS (p := p) (w := w) (σ := 1) (t := X + ZC * 4096) H.1 (Or.inl rfl) (by omega)
      unfold wX_fuse_114
      exact rf_limit hr H.1 (Or.inl ⟨rfl, rfl⟩) (fun x y g => Y 3 _ x y R g)
    · have R : rf_RS p w _ 3 _ := rf_hugeRS (p := p) (w := w) (σ := -1) (t := X + ZC * 4096) H.1 (Or.inr rfl) (by omega)
      unfold wX_fuse_114
      exact rf_limit hr H.1 (Or.inr ⟨rf_10, rfl⟩) (fun x y g => Y 3 _ x y R g)
  · have F118 : ∀ POST : Int32 → SX → Prop, (∀ (f : Nat) (z : Int) (x y : Int32), rf_RS p w (rf_cq (M * 2 ^ (Ea + Eb) + mc * 2 ^ Ec * 4096) 4096) f z → rf_G p x y z → POST (nI f) (nI p, nI w, ff ||| nI f, upd am r x, upd ae r y)) → wX_fuse_118 POST (nI r) (nI c) (rf_L M) (rf_I (((Ea + Eb : Nat) : Int) - 24)) (nI p) (nI w) ff am ae := by
      intro POST hP
      unfold wX_fuse_118 wX_fuse_135
      rw [nI_clamp (n := c) (by omega), c1, c2, rf_I2L (by omega)]
      refine rf_beq M 0 (fun q => ⟨ic, ic, ?_⟩) (fun q => ⟨ic, ic, ?_⟩) rfl rf_L0
      · obtain ⟨f, z, R, HX⟩ := rf_xfs (ff := ff) (am := am) (ae := ae) (M := M) (mc := mc) (e1 := 0) (E := Ea + Eb) (Ec := Ec) (T1 := 72) hr H.1 H.2.1 (by decide) (Or.inl ⟨q, rfl⟩) (by rw [q]; show 0 * _ ≤ _; rw [Nat.zero_mul]; decide) (by omega) c7
        exact HX _ (fun x y g => hP f z x y R g)
      · have hE : nb + (Ea + Eb) ≤ 50 := by omega
        have hnb0 : ¬ nb = 0 := by
          intro e
          rw [e] at hmb
          omega
        have hX : M.natAbs * 2 ^ (Ea + Eb) ≤ 1125899906842624 := by
          have e1 := Nat.mul_le_mul_right (2 ^ (Ea + Eb)) (Nat.le_of_lt hmb)
          rw [← Nat.pow_add] at e1
          have e2 : 2 ^ (nb + (Ea + Eb)) ≤ 2 ^ 50 := Nat.pow_le_pow_right (by decide) hE
          exact Nat.le_trans e1 e2
        obtain ⟨f, z, R, HX⟩ := rf_xfs (ff := ff) (am := am) (ae := ae) (M := M) (mc := mc) (e1 := ((Ea + Eb : Nat) : Int) - 24) (E := Ea + Eb) (Ec := Ec) (T1 := Ea + Eb + 48) hr H.1 H.2.1 (by omega) (Or.inr ⟨rfl, by omega⟩) hX (by omega) c7
        exact HX _ (fun x y g => hP f z x y R g)
    refine rf_beq M 0 (fun q => F118 _ Y) (fun q => rf_cle ((nb : Int) + ((Ea + Eb : Nat) : Int) - 24) 26 (fun q2 => F118 _ Y) (fun q2 => by omega) rfl (by decide)) rfl rf_L0
end
section
/-! ===== invalid, div ===== -/
theorem rf_xinv {post : Int32 → SX → Prop} {fm ff : Int32} {am ae : Nat → Int32} {p k : Nat} (hk : k < 4)
    (h : ∀ x y, rf_G p x y 0 → post 4 (nI p, fm, ff ||| 4, upd am k x, upd ae k y)) : wpX_invalid post (nI p, fm, ff, am, ae) (nI k) := by
  have e : (1 : Int) * ((0 * 2 ^ 12 : Nat) : Int) = 0 := by decide
  unfold wpX_invalid
  dsimp only
  exact rf_storeG (p := p) (σ := 1) (e := 0) hk (Or.inl ⟨rfl, rfl⟩) 0 12 (by decide) (by decide) (by rw [e]; exact rf_F0 p) (fun x y g => nm_e (h x y (by rw [e] at g; exact g)))
theorem rf_yinv {post : Int32 → SY → Prop} {fb fw ff sq hu ho : Int32} {t l uu oo : Int64} {zs : Nat → Int} {k : Nat} (hk : k < 4)
    (h : post 4 (fb, fw, ff ||| 4, rf_L (rf_zu zs k 0 0), rf_L (rf_zu zs k 0 1), rf_L (rf_zu zs k 0 2), rf_L (rf_zu zs k 0 3), t, l, sq, uu, oo, hu, ho)) : wpY_invalid post (fb, fw, ff, rf_L (zs 0), rf_L (zs 1), rf_L (zs 2), rf_L (zs 3), t, l, sq, uu, oo, hu, ho) (nI k) := by
  unfold wpY_invalid
  dsimp only
  rw [rf_L0]
  exact rf_put (post := fun v => match v with | (b1, b2, b3, b4, b5, b6, b7, b8, b9, b10, b11, b12, b13, b14) => ∀ x : Int32, x = b3 ||| 4 → post 4 (b1, b2, x, b4, b5, b6, b7, b8, b9, b10, b11, b12, b13, b14)) hk 0 (nm_e h)
theorem rf_sizeN {P : Int64 → Prop} {m : Int} (hm : m.natAbs < 9223372036854775808) (h : P (rf_L (m.natAbs : Int))) : wpX_size P (rf_L m) := by
  unfold wpX_size
  refine rf_ble 0 m (fun q => ?_) (fun q => ?_) rf_L0 rfl
  · rw [show (m.natAbs : Int) = m by omega] at h
    exact h
  · rw [show (m.natAbs : Int) = -m by omega] at h
    rw [rf_Lneg]
    exact h
theorem rf_divN (a b : Nat) (ha : a < 9223372036854775808) (hb : b < 9223372036854775808) : rf_L a / rf_L b = rf_L ((a / b : Nat) : Int) := by
  rw [rf_div (by omega) (by omega), ← Int.ofNat_tdiv]
section
variable {ff : Int32} {am ae : Nat → Int32} {p w k a b Ea Eb : Nat} {ma mb : Int}
theorem rf_xd86 {f : Nat} {z : Int} {q : Int64} {T : Nat} {mo : Int32} (ha : a < 4) (hb : b < 4) (a1 : am a = rf_I ma) (a2 : ae a = rf_I ((Ea : Int) - 12)) (b1 : am b = rf_I mb) (b2 : ae b = rf_I ((Eb : Int) - 12)) (a6 : ma.natAbs ≤ 1024) (b6 : mb.natAbs ≤ 1024) (hT : (T : Int) = (Ea : Int) + 32 - Eb)
    (h : rf_E p w k f ff am ae z (fun post => wpX_round post (nI p, nI w, ff, am, ae) (nI k) (if (0 ≤ ma ↔ 0 ≤ mb) then 0 else 1) q (rf_I ((T : Int) - 72)) mo)) :
    rf_E p w k f ff am ae z (fun post => wX_div_86 post (nI k) (nI a) (nI b) q mo (nI p) (nI w) ff am ae) := by
  intro post hP
  have ia := vp_in_nI (N := 4) ha (by decide)
  have ib := vp_in_nI (N := 4) hb (by decide)
  have B : wX_div_124 post (nI k) (nI a) (nI b) q mo (if (0 ≤ ma ↔ 0 ≤ mb) then 0 else 1) (nI p) (nI w) ff am ae := by
    unfold wX_div_124
    rw [nI_clamp (n := a) (by omega), nI_clamp (n := b) (by omega), a2, b2, show (40 : Int32) = rf_I 40 by decide, rf_Isub, rf_Isub, show (Ea : Int) - 12 - ((Eb : Int) - 12) - 40 = (T : Int) - 72 by omega]
    exact ⟨ia, ib, h _ (fun x y g => hP x y g)⟩
  show wX_div_86 post (nI k) (nI a) (nI b) q mo (nI p) (nI w) ff am ae
  unfold wX_div_86
  rw [nI_clamp (n := a) (by omega), a1]
  refine ⟨ia, rf_cle 0 ma (fun qa => ?_) (fun qa => ?_) rf_I0 rfl⟩
  · unfold wX_div_102
    rw [nI_clamp (n := b) (by omega), b1]
    refine ⟨ib, rf_cle 0 mb (fun qb => ?_) (fun qb => ?_) rf_I0 rfl⟩
    · rw [if_pos ⟨fun _ => qb, fun _ => qa⟩] at B
      exact br_t rfl B
    · rw [if_neg (fun x => by have := x.mp qa; omega)] at B
      exact br_f (by decide) B
  · unfold wX_div_102
    rw [nI_clamp (n := b) (by omega), b1]
    refine ⟨ib, rf_cle 0 mb (fun qb => ?_) (fun qb => ?_) rf_I0 rfl⟩
    · rw [if_neg (fun x => by have := x.mpr qb; omega)] at B
      exact br_f (by decide) B
    · rw [if_pos ⟨fun _ => by omega, fun _ => by omega⟩] at B
      exact br_t rfl B
/-- X's division, the exact value being t / l -/
theorem rf_xdiv {σ t l : Int} {T a' b' : Nat} {ng : Int32} (hk : k < 4) (hp : 2 ≤ p ∧ p ≤ 10) (hw : w ≤ 3) (hS : rf_S ng σ) (a6 : ma.natAbs ≤ 1024) (b6 : mb.natAbs ≤ 1024) (hb0 : ¬ mb = 0) (hT : T ≤ 200) (hl : 0 < l) (hab : a' + T = b' + 60)
    (h : t * 2 ^ a' * (mb.natAbs : Int) = σ * ((ma.natAbs * 2 ^ 40 : Nat) : Int) * 2 ^ b' * l) :
    ∃ (f : Nat) (z : Int), rf_RS p w (rf_cq t l) f z ∧ ∀ (mo : Int32), (¬ mo = 0 ↔ ¬ ma.natAbs * 2 ^ 40 / mb.natAbs * mb.natAbs = ma.natAbs * 2 ^ 40) → rf_E p w k f ff am ae z (fun post => wpX_round post (nI p, nI w, ff, am, ae) (nI k) ng (rf_L ((ma.natAbs * 2 ^ 40 / mb.natAbs : Nat) : Int)) (rf_I ((T : Int) - 72)) mo) := by
  have D0 : 0 < mb.natAbs := by omega
  have A1 : ma.natAbs * 2 ^ 40 ≤ 1125899906842624 := Nat.le_trans (Nat.mul_le_mul_right _ a6) (by decide)
  have q1 : ma.natAbs * 2 ^ 40 / mb.natAbs ≤ ma.natAbs * 2 ^ 40 := Nat.div_le_self _ _
  have p10 := rf_p10 hp.2
  have hmo : ¬ ma.natAbs * 2 ^ 40 / mb.natAbs * mb.natAbs = ma.natAbs * 2 ^ 40 → 2 ^ p ≤ ma.natAbs * 2 ^ 40 / mb.natAbs := by
    intro x
    have m0 : ¬ ma.natAbs = 0 := by
      intro e
      rw [e, Nat.zero_mul, Nat.zero_div, Nat.zero_mul] at x
      exact x rfl
    rw [Nat.le_div_iff_mul_le D0]
    have e1 : 2 ^ p * mb.natAbs ≤ 1024 * 1024 := Nat.mul_le_mul p10 b6
    have e2 : 2 ^ 40 ≤ ma.natAbs * 2 ^ 40 := Nat.le_mul_of_pos_left _ (by omega)
    exact Nat.le_trans e1 (Nat.le_trans (by decide) e2)
  by_cases x : ma.natAbs * 2 ^ 40 / mb.natAbs * mb.natAbs = ma.natAbs * 2 ^ 40
  · have Lk := rf_lkq (mo := ¬ (0 : Int32) = 0) (rf_S1 hS) hl D0 hab h rfl ⟨fun y => absurd rfl y, fun y => absurd x y⟩
    obtain ⟨f, z, R, HX⟩ := rf_xround (ff := ff) (am := am) (ae := ae) hk hp hw hS (Nat.lt_of_le_of_lt (Nat.le_trans q1 A1) (by decide)) hT (rf_Mq hl) Lk (fun y => absurd rfl y)
    refine ⟨f, z, R, fun mo hm => ?_⟩
    have e : mo = 0 := Classical.byContradiction fun y => hm.mp y x
    rw [e]
    exact HX
  · have Lk := rf_lkq (mo := ¬ (1 : Int32) = 0) (rf_S1 hS) hl D0 hab h rfl ⟨fun _ => x, fun _ => rf_10⟩
    obtain ⟨f, z, R, HX⟩ := rf_xround (ff := ff) (am := am) (ae := ae) (mo := 1) hk hp hw hS (Nat.lt_of_le_of_lt (Nat.le_trans q1 A1) (by decide)) hT (rf_Mq hl) Lk (fun _ => hmo x)
    refine ⟨f, z, R, fun mo hm => ?_⟩
    have e := hm.mpr x
    have Lk2 := rf_lkq (mo := ¬ mo = 0) (rf_S1 hS) hl D0 hab h rfl hm
    obtain ⟨f2, z2, R2, HX2⟩ := rf_xround (ff := ff) (am := am) (ae := ae) (mo := mo) hk hp hw hS (Nat.lt_of_le_of_lt (Nat.le_trans q1 A1) (by decide)) hT (rf_Mq hl) Lk2 (fun _ => hmo x)
    obtain ⟨rfl, rfl⟩ := rf_RS1 R2 R
    exact HX2
end
theorem rf_dk1 {xa σ na K P D : Int} (h : xa = σ * na) : xa * P * K * D = σ * (na * K) * P * D := by subst h; grind
theorem rf_dk2 {xa σ na K Q D : Int} (h : xa = σ * na) : xa * (K * Q) * D = σ * (na * K) * 1 * (D * Q) := by subst h; grind
section
variable {ff sq hu ho : Int32} {t l uu oo : Int64} {p w r a b Ea Eb : Nat} {zs : Nat → Int} {ma mb : Int} {am ae : Nat → Int32}
/-- Y's division: the exact value -/
theorem rf_ydiv (hr : r < 4) (H : rf_RR p w am ae zs) (ha : a < 4) (hb : b < 4) (a1 : am a = rf_I ma) (a2 : ae a = rf_I ((Ea : Int) - 12)) (b1 : am b = rf_I mb) (b2 : ae b = rf_I ((Eb : Int) - 12)) (b3 : zs b = mb * 2 ^ Eb) (a6 : ma.natAbs ≤ 1024) (b6 : mb.natAbs ≤ 1024) (a7 : Ea ≤ 32) (b7 : Eb ≤ 32) (b8 : mb.natAbs * 2 ^ Eb < 8589934592) (hb0 : ¬ mb = 0) {σ : Int} (hσ : σ = if (0 ≤ ma ↔ 0 ≤ mb) then 1 else -1) :
    ∃ (t0 l0 : Int) (T a' b' : Nat), T ≤ 200 ∧ (T : Int) = (Ea : Int) + 32 - Eb ∧ 0 < l0 ∧ a' + T = b' + 60 ∧ t0 * 2 ^ a' * (mb.natAbs : Int) = σ * ((ma.natAbs * 2 ^ 40 : Nat) : Int) * 2 ^ b' * l0 ∧
    ∀ (POST : Int32 → SY → Prop) (f : Nat) (z : Int), rf_RS p w (rf_cq t0 l0) f z → (∀ (t l : Int64) (sq : Int32) (u o : Int64) (hu ho : Int32), POST (nI f) (nI p, nI w, ff ||| nI f, rf_L (rf_zu zs r z 0), rf_L (rf_zu zs r z 1), rf_L (rf_zu zs r z 2), rf_L (rf_zu zs r z 3), t, l, sq, u, o, hu, ho)) →
      wpY_div POST (nI p, nI w, ff, rf_L (zs 0), rf_L (zs 1), rf_L (zs 2), rf_L (zs 3), t, l, sq, uu, oo, hu, ho) (nI r) (nI a) (nI b) := by
  have ga := H.2.2 a ha
  have gb := H.2.2 b hb
  obtain ⟨xa, hxa⟩ : ∃ xa : Int, xa = if 0 ≤ mb then ma else -ma := ⟨_, rfl⟩
  have xs : xa = σ * (ma.natAbs : Int) := by
    rw [hxa, hσ]
    by_cases s1 : 0 ≤ ma
    · by_cases s2 : 0 ≤ mb
      · rw [if_pos s2, if_pos ⟨fun _ => s2, fun _ => s1⟩]; omega
      · rw [if_neg s2, if_neg (fun x => s2 (x.mp s1))]; omega
    · by_cases s2 : 0 ≤ mb
      · rw [if_pos s2, if_neg (fun x => s1 (x.mpr s2))]; omega
      · rw [if_neg s2, if_pos ⟨fun x => absurd x s1, fun x => absurd x s2⟩]; omega
  have xb : xa.natAbs ≤ 1024 := by
    rw [hxa]
    split <;> omega
  have zb : ¬ rf_L (zs b) = 0 := by
    have e := rf_abs2 mb Eb
    have := Nat.mul_pos (show 0 < mb.natAbs by omega) (Nat.two_pow_pos Eb)
    rw [b3, rf_L0, rf_Leq (by omega) (by omega)]
    intro x
    rw [x] at e
    have : (0 : Int).natAbs = 0 := rfl
    omega
  have K40 : ((ma.natAbs * 2 ^ 40 : Nat) : Int) = (ma.natAbs : Int) * 2 ^ 40 := by rw [Int.natCast_mul, rf_nc]
  -- the walk down to div_106
  have W : ∀ POST : Int32 → SY → Prop, wY_div_106 POST (nI r) (rf_L xa) (rf_I ((Ea : Int) - Eb + 12)) (rf_L (mb.natAbs : Int)) (nI p) (nI w) ff (rf_L (zs 0)) (rf_L (zs 1)) (rf_L (zs 2)) (rf_L (zs 3)) t l sq uu oo hu ho → wpY_div POST (nI p, nI w, ff, rf_L (zs 0), rf_L (zs 1), rf_L (zs 2), rf_L (zs 3), t, l, sq, uu, oo, hu, ho) (nI r) (nI a) (nI b) := by
    intro POST h
    unfold wpY_div
    dsimp only
    refine rf_is1 hr (br_f rf_10 (rf_is1 ha (br_f rf_10 (rf_is1 hb (br_f rf_10 (rf_get hb (br_f zb ?_)))))))
    refine rf_yman H.1 ha ga (rf_yman H.1 hb gb (rf_yexp H.1 ha ga (rf_yexp H.1 hb gb ?_)))
    rw [a1, a2, b1, b2, rf_I2L (by omega), rf_I2L (by omega), rf_Isub, show (12 : Int32) = rf_I 12 by decide, rf_Iadd]
    refine nm_r (e' := rf_I ((Ea : Int) - Eb + 12)) (by congr 1; omega) ?_
    refine rf_ble 0 mb (fun q => ?_) (fun q => ?_) rf_L0 rfl
    · rw [if_pos q] at hxa
      rw [hxa] at h
      unfold wY_div_89
      refine rf_ble 0 mb (fun _ => ?_) (fun q2 => by omega) rf_L0 rfl
      rw [show (mb.natAbs : Int) = mb by omega] at h
      exact h
    · rw [if_neg (by omega)] at hxa
      rw [hxa] at h
      unfold wY_div_89
      refine rf_ble 0 mb (fun q2 => by omega) (fun _ => ?_) rf_L0 rfl
      rw [show (mb.natAbs : Int) = -mb by omega] at h
      rw [rf_Lneg, rf_Lneg]
      exact h
  have D1 : (0 : Int) < (mb.natAbs : Int) := by omega
  rcases Nat.lt_or_ge (Ea + 12) Eb with q | q
  · obtain ⟨d, hd⟩ : ∃ d, d + (Ea + 12) = Eb := ⟨Eb - (Ea + 12), by omega⟩
    have lb : mb.natAbs * 2 ^ d ≤ 2097152 := by
      have e1 : mb.natAbs * 2 ^ d * 2 ^ 12 ≤ mb.natAbs * 2 ^ Eb := by
        rw [Nat.mul_assoc, ← Nat.pow_add]
        exact Nat.mul_le_mul_left _ (Nat.pow_le_pow_right (by decide) (by omega))
      generalize mb.natAbs * 2 ^ d = G at e1 ⊢
      omega
    have lc : ((mb.natAbs * 2 ^ d : Nat) : Int) = (mb.natAbs : Int) * 2 ^ d := by rw [Int.natCast_mul, rf_nc]
    refine ⟨xa, (mb.natAbs : Int) * 2 ^ d, 20 - d, 40 + d, 0, by omega, by omega, Int.mul_pos D1 (rf_p0 d), by omega, ?_, fun POST f z R h => W POST ?_⟩
    · rw [K40, Int.pow_add, Int.pow_zero]
      exact rf_dk2 xs
    · unfold wY_div_106
      refine rf_clt ((Ea : Int) - Eb + 12) 0 (fun _ => ?_) (fun q2 => by omega) rfl (by decide)
      unfold wY_div_124
      refine rf_clt ((Ea : Int) - Eb + 12) 0 (fun _ => ?_) (fun q2 => by omega) rfl (by decide)
      rw [rf_Ineg, rf_shl (mb.natAbs : Int) d (by omega) rfl (by congr 1; omega)]
      unfold wY_div_140 wpY_exact
      dsimp only
      exact rf_yround hr H.1 H.2.1 (rf_Agq (by omega) (by omega)) (rf_Mq (Int.mul_pos D1 (rf_p0 d))) R (fun u o hu ho => h _ _ _ u o hu ho)
  · obtain ⟨e, he⟩ : ∃ e, e + Eb = Ea + 12 := ⟨Ea + 12 - Eb, by omega⟩
    have tb : (xa * 2 ^ e).natAbs ≤ 18014398509481984 := by
      rw [rf_abs2]
      exact Nat.le_trans (Nat.mul_le_mul xb (Nat.pow_le_pow_right (n := 2) (by decide) (show e ≤ 44 by omega))) (by decide)
    refine ⟨xa * 2 ^ e, (mb.natAbs : Int), e + 20, 40, e, by omega, by omega, D1, by omega, ?_, fun POST f z R h => W POST ?_⟩
    · rw [K40]
      exact rf_dk1 xs
    · unfold wY_div_106
      refine rf_clt ((Ea : Int) - Eb + 12) 0 (fun q2 => by omega) (fun _ => ?_) rfl (by decide)
      unfold wY_div_124
      refine rf_clt ((Ea : Int) - Eb + 12) 0 (fun q2 => by omega) (fun _ => ?_) rfl (by decide)
      rw [rf_shl xa e (by omega) rfl (by congr 1; omega)]
      unfold wY_div_140 wpY_exact
      dsimp only
      exact rf_yround hr H.1 H.2.1 (rf_Agq (by omega) (by omega)) (rf_Mq D1) R (fun u o hu ho => h _ _ _ u o hu ho)
end
theorem i_vc_div {k : Nat} {u : SX} {v : SY} (I : i_Rel k u v) (hk : k + 4 ≤ 2049) (v1 : Int32) (v2 : Int32) (v3 : Int32) : wpX_div (fun r u' => wpY_div (fun r' v' => r' = r ∧ i_Rel (k + 4) u' v') v v1 v2 v3) u v1 v2 v3 := by
  refine rf_el (P := fun u v => wpX_div (fun r u' => wpY_div (fun r' v' => r' = r ∧ i_Rel (k + 4) u' v') v v1 v2 v3) u v1 v2 v3) ?_ I
  intro p w ff am ae zs t l sq uu oo hu ho H
  unfold wpX_div
  dsimp only
  rcases rf_isq v1 with ⟨r, hr, rfl⟩ | hn
  rotate_left
  · refine rf_xis0 hn (br_t rfl ?_)
    unfold wpY_div
    dsimp only
    exact rf_is0 hn (br_t rfl ⟨rfl, rf_in H⟩)
  rcases rf_isq v2 with ⟨a, ha, rfl⟩ | hn
  rotate_left
  · refine rf_xis1 hr (br_f rf_10 (rf_xis0 hn (br_t rfl ?_)))
    unfold wpY_div
    dsimp only
    exact rf_is1 hr (br_f rf_10 (rf_is0 hn (br_t rfl ⟨rfl, rf_in H⟩)))
  rcases rf_isq v3 with ⟨b, hb, rfl⟩ | hn
  rotate_left
  · refine rf_xis1 hr (br_f rf_10 (rf_xis1 ha (br_f rf_10 (rf_xis0 hn (br_t rfl ?_)))))
    unfold wpY_div
    dsimp only
    exact rf_is1 hr (br_f rf_10 (rf_is1 ha (br_f rf_10 (rf_is0 hn (br_t rfl ⟨rfl, rf_in H⟩)))))
  have p10 := rf_p10 H.1.2
  obtain ⟨ma, Ea, a1, a2, a3, a4, a5, a6, a7, a8⟩ := rf_Gb H.1 (H.2.2 a ha)
  obtain ⟨mb, Eb, b1, b2, b3, b4, b5, b6, b7, b8⟩ := rf_Gb H.1 (H.2.2 b hb)
  have ia := vp_in_nI (N := 4) ha (by decide)
  have ib := vp_in_nI (N := 4) hb (by decide)
  refine rf_xis1 hr (br_f rf_10 (rf_xis1 ha (br_f rf_10 (rf_xis1 hb (br_f rf_10 ⟨ib, ?_⟩)))))
  rw [nI_clamp (n := a) (by omega), nI_clamp (n := b) (by omega), a1, b1, rf_I2L (by omega), rf_I2L (by omega)]
  refine rf_sizeN (by omega) (rf_beq (mb.natAbs : Int) 0 (fun q => ?_) (fun q => ⟨ia, ?_⟩) rfl rf_L0)
  · -- a divisor of 0
    refine rf_xinv hr (fun x y g => ?_)
    unfold wpY_div
    dsimp only
    refine rf_is1 hr (br_f rf_10 (rf_is1 ha (br_f rf_10 (rf_is1 hb (br_f rf_10 (rf_get hb (br_t ?_ ?_)))))))
    · rw [b3, show mb = 0 by omega, Int.zero_mul]
      exact rf_L0.symm
    · exact rf_yinv hr ⟨rfl, rf_in (rf_RRu H g)⟩
  · have hb0 : ¬ mb = 0 := by omega
    have hS : rf_S (if (0 ≤ ma ↔ 0 ≤ mb) then 0 else 1) (if (0 ≤ ma ↔ 0 ≤ mb) then 1 else -1) := by
      by_cases s : (0 ≤ ma ↔ 0 ≤ mb)
      · rw [if_pos s, if_pos s]; exact Or.inl ⟨rfl, rfl⟩
      · rw [if_neg s, if_neg s]; exact Or.inr ⟨rf_10, rfl⟩
    obtain ⟨t0, l0, T, a', b', y1, y2, y3, y4, y5, HY⟩ := rf_ydiv (ff := ff) (t := t) (l := l) (sq := sq) (uu := uu) (oo := oo) (hu := hu) (ho := ho) hr H ha hb a1 a2 b1 b2 b3 (by omega) (by omega) a7 b7 b8 hb0 rfl
    obtain ⟨f, z, R, HX⟩ := rf_xdiv (ff := ff) (am := am) (ae := ae) hr H.1 H.2.1 hS (by omega) (by omega) hb0 y1 y3 y4 y5
    have A1 : ma.natAbs * 2 ^ 40 ≤ 1125899906842624 := Nat.le_trans (Nat.mul_le_mul_right _ (show ma.natAbs ≤ 1024 by omega)) (by decide)
    have q1 : ma.natAbs * 2 ^ 40 / mb.natAbs * mb.natAbs ≤ ma.natAbs * 2 ^ 40 := Nat.div_mul_le_self _ _
    have Z : ∀ mo : Int32, (¬ mo = 0 ↔ ¬ ma.natAbs * 2 ^ 40 / mb.natAbs * mb.natAbs = ma.natAbs * 2 ^ 40) → _ := fun mo hm => rf_xd86 ha hb a1 a2 b1 b2 (by omega) (by omega) y2 (HX mo hm)
    refine rf_sizeN (by omega) (nm_r (rf_shlN ma.natAbs 40 (by decide) rfl (by decide)) ⟨?_, ?_⟩)
    · rw [rf_L0, rf_Leq (by omega) (by omega)]
      exact q
    · refine nm_r (rf_divN _ _ (Nat.lt_of_le_of_lt A1 (by decide)) (by omega)) ?_
      rw [rf_Lmul, ← Int.natCast_mul]
      generalize hA : ma.natAbs * 2 ^ 40 = A at *
      generalize A / mb.natAbs * mb.natAbs = Q at *
      refine rf_beq (Q : Int) (A : Int) (fun q2 => ?_) (fun q2 => ?_)
      · exact Z 0 ⟨fun x => absurd rfl x, fun x => absurd (by omega) x⟩ _ (fun x y g => HY _ f z R (fun t l sq u o hu ho => ⟨rfl, rf_in (rf_RRu H g)⟩))
      · exact Z 1 ⟨fun _ => by omega, fun _ => rf_10⟩ _ (fun x y g => HY _ f z R (fun t l sq u o hu ho => ⟨rfl, rf_in (rf_RRu H g)⟩))
end
section
/-! ===== root ===== -/
theorem rf_or {a b : Nat} (ha : a < 2 ^ 64) (hb : b < 2 ^ 64) : rf_L a ||| rf_L b = rf_L ((a ||| b : Nat) : Int) := by
  rw [rf_Ln, rf_Ln, rf_Ln]
  apply Int64.toBitVec_inj.mp
  rw [Int64.toBitVec_or]
  show BitVec.ofNat 64 a ||| BitVec.ofNat 64 b = BitVec.ofNat 64 (a ||| b)
  apply BitVec.eq_of_toNat_eq
  rw [BitVec.toNat_or, BitVec.toNat_ofNat, BitVec.toNat_ofNat, BitVec.toNat_ofNat, Nat.mod_eq_of_lt ha, Nat.mod_eq_of_lt hb, Nat.mod_eq_of_lt (Nat.or_lt_two_pow ha hb)]
theorem rf_sqrt (n : Nat) : ∃ q, q * q ≤ n ∧ n < (q + 1) * (q + 1) := by
  induction n with
  | zero => exact ⟨0, by decide, by decide⟩
  | succ n ih =>
    obtain ⟨q, h1, h2⟩ := ih
    rcases Nat.lt_or_ge (n + 1) ((q + 1) * (q + 1)) with h | h
    · exact ⟨q, by omega, h⟩
    · refine ⟨q + 1, h, ?_⟩
      have : (q + 1) * (q + 1) < (q + 1 + 1) * (q + 1 + 1) := Nat.mul_self_lt_mul_self (by omega)
      omega
theorem rf_sq1 {n q c : Nat} (h1 : q * q ≤ n) (h2 : n < (q + 1) * (q + 1)) (g1 : c * c ≤ n) (g2 : n < (c + 1) * (c + 1)) : c = q := by
  have a : c < q + 1 := Nat.mul_self_lt_mul_self_iff.mp (Nat.lt_of_le_of_lt g1 h2)
  have b : q < c + 1 := Nat.mul_self_lt_mul_self_iff.mp (Nat.lt_of_le_of_lt h1 g2)
  omega
theorem rf_wr {post : Int64 → Prop} {n q : Nat} (hn : n < 18014398509481984) (h1 : q * q ≤ n) (h2 : n < (q + 1) * (q + 1)) (h : post (rf_L q)) : ∀ (j c : Nat), j ≤ 27 → (c * 2 ^ j) * (c * 2 ^ j) ≤ n → n < ((c + 1) * 2 ^ j) * ((c + 1) * 2 ^ j) → (c + 1) * 2 ^ j ≤ 134217728 → wX_wholeRoot_6 post (rf_L n) (j + 1) (rf_L ((c * 2 ^ j : Nat) : Int)) (rf_I ((j : Int) - 1)) := by
  intro j
  induction j with
  | zero =>
    intro c hj g1 g2 g3
    rw [Nat.pow_zero, Nat.mul_one] at g1 g2
    have e := rf_sq1 h1 h2 g1 g2
    subst e
    refine br_t (by decide) ?_
    rw [Nat.pow_zero, Nat.mul_one]
    exact h
  | succ j ih =>
    intro c hj g1 g2 g3
    have e0 : c * 2 ^ (j + 1) = 2 * c * 2 ^ j := (rf_2p c j).symm
    have e1 : (c + 1) * 2 ^ (j + 1) = (2 * c + 1 + 1) * 2 ^ j := by rw [← rf_2p]; rfl
    have e2 : (2 * c + 1) * 2 ^ j ≤ (2 * c + 1 + 1) * 2 ^ j := Nat.mul_le_mul_right _ (by omega)
    have e3 : 2 * c * 2 ^ j ≤ (2 * c + 1 + 1) * 2 ^ j := Nat.mul_le_mul_right _ (by omega)
    have e4 : 2 ^ j ≤ (2 * c + 1 + 1) * 2 ^ j := Nat.le_mul_of_pos_left _ (by omega)
    rw [e1] at g2 g3
    have X5 : rf_L ((c * 2 ^ (j + 1) : Nat) : Int) ||| ((1 : Int64) <<< ((rf_I (((j + 1 : Nat) : Int) - 1)).toInt64 &&& 63)) = rf_L (((2 * c + 1) * 2 ^ j : Nat) : Int) := by
      rw [rf_shlN 1 j (by omega) rf_L1 (by congr 1; omega), Nat.one_mul, rf_or (by omega) (by omega)]
      congr 2
      have := Nat.two_pow_add_eq_or_of_lt (i := j + 1) (b := 2 ^ j) (Nat.pow_lt_pow_right (by decide) (by omega)) c
      rw [Nat.mul_comm c, ← this, Nat.mul_comm _ c, e0]
      exact (Nat.add_one_mul (2 * c) (2 ^ j)).symm
    have j1 : rf_I (((j + 1 : Nat) : Int) - 1) + (-1) = rf_I ((j : Int) - 1) := by
      rw [rf_Im1, rf_Iadd]
      congr 1
      omega
    have sq : (2 * c + 1) * 2 ^ j * ((2 * c + 1) * 2 ^ j) ≤ 134217728 * 134217728 := Nat.mul_le_mul (by omega) (by omega)
    refine rf_clt (((j + 1 : Nat) : Int) - 1) 0 (fun x => by omega) (fun _ => nm_r X5 ?_) rfl (by decide)
    rw [rf_Lmul, ← Int.natCast_mul]
    refine rf_blt (n : Int) (((2 * c + 1) * 2 ^ j * ((2 * c + 1) * 2 ^ j) : Nat) : Int) (fun x => nm_r j1 ?_) (fun x => nm_r j1 ?_)
    · rw [e0] at g1 ⊢
      exact ih (2 * c) (by omega) g1 (by omega) (by omega)
    · exact ih (2 * c + 1) (by omega) (by omega) g2 g3
theorem rf_r1 : ∀ E : Nat, E < 33 → rf_I ((E : Int) - 12) &&& 1 = rf_I ((E % 2 : Nat) : Int) := by decide +kernel
theorem rf_r2 : ∀ E : Nat, E < 33 → ((rf_I ((E : Int) - 12) - rf_I ((E % 2 : Nat) : Int)) - 40) / 2 = rf_I (((E / 2 + 46 : Nat) : Int) - 72) := by decide +kernel
theorem i_vc_root {k : Nat} {u : SX} {v : SY} (I : i_Rel k u v) (hk : k + 4 ≤ 2049) (v1 : Int32) (v2 : Int32) : wpX_root (fun r u' => wpY_root (fun r' v' => r' = r ∧ i_Rel (k + 4) u' v') v v1 v2) u v1 v2 := by
  refine rf_el (P := fun u v => wpX_root (fun r u' => wpY_root (fun r' v' => r' = r ∧ i_Rel (k + 4) u' v') v v1 v2) u v1 v2) ?_ I
  intro p w ff am ae zs t l sq uu oo hu ho H
  unfold wpX_root
  dsimp only
  rcases rf_isq v1 with ⟨r, hr, rfl⟩ | hn
  rotate_left
  · refine rf_xis0 hn (br_t rfl ?_)
    unfold wpY_root
    dsimp only
    exact rf_is0 hn (br_t rfl ⟨rfl, rf_in H⟩)
  rcases rf_isq v2 with ⟨a, ha, rfl⟩ | hn
  rotate_left
  · refine rf_xis1 hr (br_f rf_10 (rf_xis0 hn (br_t rfl ?_)))
    unfold wpY_root
    dsimp only
    exact rf_is1 hr (br_f rf_10 (rf_is0 hn (br_t rfl ⟨rfl, rf_in H⟩)))
  have p10 := rf_p10 H.1.2
  obtain ⟨ma, Ea, a1, a2, a3, a4, a5, a6, a7, a8⟩ := rf_Gb H.1 (H.2.2 a ha)
  have ia := vp_in_nI (N := 4) ha (by decide)
  have az := rf_abs2 ma Ea
  have sM : (0 ≤ ma → 0 ≤ ma * 2 ^ Ea) ∧ (ma < 0 → ma * 2 ^ Ea < 0) := ⟨fun q => Int.mul_nonneg q (Int.le_of_lt (rf_p0 _)), fun q => Int.mul_neg_of_neg_of_pos q (rf_p0 _)⟩
  refine rf_xis1 hr (br_f rf_10 (rf_xis1 ha (br_f rf_10 ⟨ia, ?_⟩)))
  rw [nI_clamp (n := a) (by omega), a1, a2]
  refine rf_cle 0 ma (fun q => ⟨ia, nm_r (rf_r1 Ea (by omega)) ⟨ia, ?_⟩⟩) (fun q => ?_) rf_I0 rfl
  · obtain ⟨o, ho2⟩ : ∃ o, o = Ea % 2 := ⟨_, rfl⟩
    have S1 : ma.natAbs * 2 ^ (40 + o) ≤ 2251799813685248 := Nat.le_trans (Nat.mul_le_mul (show ma.natAbs ≤ 1024 by omega) (Nat.pow_le_pow_right (n := 2) (by decide) (show 40 + o ≤ 41 by omega))) (by decide)
    have eS : ma * 2 ^ (40 + o) = ((ma.natAbs * 2 ^ (40 + o) : Nat) : Int) := by
      rw [Int.natCast_mul, rf_nc, show (ma.natAbs : Int) = ma by omega]
    have S0 : ¬ ma = 0 → 1099511627776 ≤ ma.natAbs * 2 ^ (40 + o) := by
      intro x
      have e1 : 2 ^ 40 ≤ 2 ^ (40 + o) := Nat.pow_le_pow_right (by decide) (by omega)
      have e2 : 2 ^ (40 + o) ≤ ma.natAbs * 2 ^ (40 + o) := Nat.le_mul_of_pos_left _ (by omega)
      exact Nat.le_trans e1 e2
    have Sz : ma = 0 → ma.natAbs * 2 ^ (40 + o) = 0 := by
      intro x
      rw [x]
      exact Nat.zero_mul _
    have tl : ma * 2 ^ Ea * 4096 * 2 ^ (28 + o) = ((ma.natAbs * 2 ^ (40 + o) : Nat) : Int) * 2 ^ Ea := by
      rw [← eS, rf_p12, Int.mul_assoc, Int.mul_assoc, ← Int.pow_add, ← Int.pow_add]
      congr 2
      omega
    rw [← ho2]
    refine nm_r (e' := rf_L ((ma.natAbs * 2 ^ (40 + o) : Nat) : Int)) ?_ ?_
    · rw [rf_I2L (by omega), show (40 : Int32) = rf_I 40 by decide, rf_Iadd, rf_shl ma (40 + o) (by omega) rfl (by congr 1), eS]
    have r2 := rf_r2 Ea (by omega)
    rw [← ho2] at r2
    rw [r2]
    obtain ⟨Q, q1, q2⟩ := rf_sqrt (ma.natAbs * 2 ^ (40 + o))
    generalize ma.natAbs * 2 ^ (40 + o) = S at *
    have hQ : Q ≤ 67108864 := by
      apply Nat.le_of_not_lt
      intro x
      have : 67108864 * 67108864 < Q * Q := Nat.mul_self_lt_mul_self x
      omega
    have hQ2 : ¬ Q * Q = S → 2 ^ p ≤ Q := by
      intro x
      have m0 : ¬ ma = 0 := by
        intro y
        have := Sz y
        omega
      have := S0 m0
      have y : 1048576 < Q + 1 := Nat.mul_self_lt_mul_self_iff.mp (Nat.lt_of_le_of_lt (by omega) q2)
      omega
    have Y : ∀ (f : Nat) (z : Int) (x y : Int32), rf_RS p w (rf_cs (ma * 2 ^ Ea * 4096)) f z → rf_G p x y z → wpY_root (fun r' v' => r' = nI f ∧ i_Rel (k + 4) (nI p, nI w, ff ||| nI f, upd am r x, upd ae r y) v') (nI p, nI w, ff, rf_L (zs 0), rf_L (zs 1), rf_L (zs 2), rf_L (zs 3), t, l, sq, uu, oo, hu, ho) (nI r) (nI a) := by
      intro f z x y R g
      unfold wpY_root
      dsimp only
      refine rf_is1 hr (br_f rf_10 (rf_is1 ha (br_f rf_10 (rf_get ha ?_))))
      rw [a3]
      refine rf_ble 0 (ma * 2 ^ Ea) (fun _ => ?_) (fun x => by omega) rf_L0 rfl
      refine rf_get ha ?_
      unfold wpY_exact
      dsimp only
      rw [a3, rf_shl (ma * 2 ^ Ea) 12 (by decide) rfl (by decide)]
      exact rf_yround hr H.1 H.2.1 (rf_Ags (t := ma * 2 ^ Ea * 4096) (by omega)) (rf_Ms (by omega)) R (fun u o hu ho => ⟨rfl, rf_in (rf_RRu H g)⟩)
    refine ⟨28, rf_wr (by omega) q1 q2 ⟨ia, by decide, ?_⟩ 27 0 (by decide) (by rw [Nat.zero_mul]; exact Nat.zero_le _) (Nat.lt_of_le_of_lt S1 (by decide)) (by decide)⟩
    rw [rf_Lmul, ← Int.natCast_mul]
    have QQ : Q * Q ≤ 67108864 * 67108864 := Nat.mul_le_mul hQ hQ
    refine rf_beq ((Q * Q : Nat) : Int) (S : Int) (fun x => ?_) (fun x => ?_)
    · have Lk := rf_lks (mo := ¬ (0 : Int32) = 0) (T := Ea / 2 + 46) (a' := 28 + o) (b' := Ea) (by omega) tl q1 q2 ⟨fun y => absurd rfl y, fun y => absurd (by omega) y⟩
      obtain ⟨f, z, R, HX⟩ := rf_xround (ff := ff) (am := am) (ae := ae) (ng := 0) (mo := 0) hr H.1 H.2.1 (Or.inl ⟨rfl, rfl⟩) (Nat.lt_of_le_of_lt hQ (by decide)) (by omega) (rf_Ms (by omega)) Lk (fun y => absurd rfl y)
      exact HX _ (fun x y g => Y f z x y R g)
    · have Lk := rf_lks (mo := ¬ (1 : Int32) = 0) (T := Ea / 2 + 46) (a' := 28 + o) (b' := Ea) (by omega) tl q1 q2 ⟨fun _ => by omega, fun _ => rf_10⟩
      obtain ⟨f, z, R, HX⟩ := rf_xround (ff := ff) (am := am) (ae := ae) (ng := 0) (mo := 1) hr H.1 H.2.1 (Or.inl ⟨rfl, rfl⟩) (Nat.lt_of_le_of_lt hQ (by decide)) (by omega) (rf_Ms (by omega)) Lk (fun _ => hQ2 (by omega))
      exact HX _ (fun x y g => Y f z x y R g)
  · refine rf_xinv hr (fun x y g => ?_)
    unfold wpY_root
    dsimp only
    refine rf_is1 hr (br_f rf_10 (rf_is1 ha (br_f rf_10 (rf_get ha ?_))))
    rw [a3]
    refine rf_ble 0 (ma * 2 ^ Ea) (fun x => by omega) (fun _ => ?_) rf_L0 rfl
    exact rf_yinv hr ⟨rfl, rf_in (rf_RRu H g)⟩
end
section
/-! ===== next ===== -/
def rf_Nx (p : Nat) (d z z' : Int) : Prop := rf_F p z' ∧ d * z < d * z' ∧ ∀ x, rf_F p x → d * z < d * x → d * z' ≤ d * x
def rf_No (p : Nat) (d z : Int) : Prop := ∀ x, rf_F p x → ¬ d * z < d * x
theorem rf_nOut {p W s : Nat} {σ : Int} (hp : 1 ≤ p) (hσ : σ = 1 ∨ σ = -1) (hn : s = 0 ∨ 2 ^ (p - 1) ≤ W) (hW : W + 1 ≤ 2 ^ p) (hb : (W + 1) * 2 ^ s < 2 ^ (p + 23)) : rf_Nx p σ (σ * ((W * 2 ^ s : Nat) : Int)) (σ * (((W + 1) * 2 ^ s : Nat) : Int)) := by
  have F : rf_F p (((W + 1) * 2 ^ s : Nat) : Int) := rf_Fk (k := W + 1) (s := s) hp hW hb (Int.natAbs_natCast _)
  have G : ∀ x, rf_F p x → W * 2 ^ s < x.natAbs → (W + 1) * 2 ^ s ≤ x.natAbs := fun x hx h => rf_gap hp hn hx h
  have D0 := Nat.two_pow_pos s
  have e1 : (W + 1) * 2 ^ s = W * 2 ^ s + 2 ^ s := Nat.add_one_mul W _
  refine ⟨rf_Fs hσ F, ?_, fun x hx h => ?_⟩
  · generalize (W + 1) * 2 ^ s = B at e1 ⊢
    generalize W * 2 ^ s = A at e1 ⊢
    rcases hσ with rfl | rfl <;> omega
  · have g := G x hx
    generalize (W + 1) * 2 ^ s = B at e1 g h ⊢
    generalize W * 2 ^ s = A at e1 g h ⊢
    rcases hσ with rfl | rfl <;> omega
theorem rf_nMax {p : Nat} {σ : Int} (hp : 1 ≤ p) (hσ : σ = 1 ∨ σ = -1) : rf_No p σ (σ * (((2 ^ p - 1) * 2 ^ 23 : Nat) : Int)) := by
  intro x hx
  have g := rf_Fmax hp hx
  generalize (2 ^ p - 1) * 2 ^ 23 = A at g ⊢
  rcases hσ with rfl | rfl <;> omega
theorem rf_nIn {p W s V : Nat} {σ d : Int} (hp : 1 ≤ p) (hσ : σ = 1 ∨ σ = -1) (hd : d = -σ) (hn : s = 0 ∨ 2 ^ (p - 1) ≤ W) (hW : W < 2 ^ p) (hV : V = (W + 1) * 2 ^ s) (hb : V < 2 ^ (p + 23)) : rf_Nx p d (σ * (V : Int)) (σ * ((W * 2 ^ s : Nat) : Int)) := by
  have D0 := Nat.two_pow_pos s
  have e1 : (W + 1) * 2 ^ s = W * 2 ^ s + 2 ^ s := Nat.add_one_mul W _
  have F : rf_F p ((W * 2 ^ s : Nat) : Int) := rf_Fk (k := W) (s := s) hp (by omega) (by omega) (Int.natAbs_natCast _)
  have G : ∀ x, rf_F p x → W * 2 ^ s < x.natAbs → (W + 1) * 2 ^ s ≤ x.natAbs := fun x hx h => rf_gap hp hn hx h
  rw [← hV] at e1 G
  subst hd
  refine ⟨rf_Fs hσ F, ?_, fun x hx h => ?_⟩
  · generalize W * 2 ^ s = A at e1 ⊢
    rcases hσ with rfl | rfl <;> omega
  · have g := G x hx
    generalize W * 2 ^ s = A at e1 g h ⊢
    rcases hσ with rfl | rfl <;> omega
/-! Y -/
theorem rf_cnx {d z x : Int} (hd : d = 1 ∨ d = -1) : (d * z < d * x → d * rf_cq (2 * z + d) 2 (2 * x) = -1) ∧ (¬ d * z < d * x → d * rf_cq (2 * z + d) 2 (2 * x) = 1) := by
  unfold rf_cq
  rcases hd with rfl | rfl
  · constructor
    · intro h
      rw [rf_sgn (by omega)]; decide
    · intro h
      rw [rf_sgp (by omega)]; decide
  · constructor
    · intro h
      rw [rf_sgp (by omega)]; decide
    · intro h
      rw [rf_sgn (by omega)]; decide
section
variable {post : Int32 → SY → Prop} {fw ff sq hu ho up : Int32} {t l uu oo : Int64} {p k : Nat} {zs : Nat → Int} {d : Int}
theorem rf_ynx (hp : 2 ≤ p ∧ p ≤ 10) (hk : k < 4) (hz : (zs k).natAbs < 8589934592) (hd : (up = 1 ∧ d = 1) ∨ (up = 0 ∧ d = -1))
    (h : (rf_No p d (zs k) ∧ ∀ (t l : Int64) (sq : Int32) (u o : Int64) (hu ho : Int32), post 0 (nI p, fw, ff, rf_L (zs 0), rf_L (zs 1), rf_L (zs 2), rf_L (zs 3), t, l, sq, u, o, hu, ho)) ∨
      (∃ z', rf_Nx p d (zs k) z' ∧ ∀ (t l : Int64) (sq : Int32) (u o : Int64) (hu ho : Int32), post 1 (nI p, fw, ff, rf_L (rf_zu zs k z' 0), rf_L (rf_zu zs k z' 1), rf_L (rf_zu zs k z' 2), rf_L (rf_zu zs k z' 3), t, l, sq, u, o, hu, ho))) :
    wpY_next post (nI p, fw, ff, rf_L (zs 0), rf_L (zs 1), rf_L (zs 2), rf_L (zs 3), t, l, sq, uu, oo, hu, ho) (nI k) up := by
  have d1 : d = 1 ∨ d = -1 := by
    rcases hd with h | h
    · exact Or.inl h.2
    · exact Or.inr h.2
  have C : ∀ x, (d * zs k < d * x → d * rf_cq (2 * zs k + d) 2 (2 * x) = -1) ∧ (¬ d * zs k < d * x → d * rf_cq (2 * zs k + d) 2 (2 * x) = 1) := fun x => rf_cnx d1
  have A : rf_Ag (rf_L (2 * zs k + d)) (rf_L 2) 0 (rf_cq (2 * zs k + d) 2) := rf_Agq (by omega) (by decide)
  have P1 : ∀ (z' : Int) (t l : Int64) (sq : Int32) (u o : Int64) (hu ho : Int32), rf_Nx p d (zs k) z' → wY_next_87 post 1 (rf_L z') (nI k) (nI p) fw ff (rf_L (zs 0)) (rf_L (zs 1)) (rf_L (zs 2)) (rf_L (zs 3)) t l sq u o hu ho := by
    intro z' t l sq u o hu ho N
    rcases h with ⟨h1, _⟩ | ⟨z2, h1, h2⟩
    · exact absurd N.2.1 (h1 z' N.1)
    · have e : z' = z2 := by
        have q1 := N.2.2 z2 h1.1 h1.2.1
        have q2 := h1.2.2 z' N.1 N.2.1
        rcases d1 with rfl | rfl <;> omega
      subst e
      unfold wY_next_87
      exact rf_put (post := fun v => match v with | (b1, b2, b3, b4, b5, b6, b7, b8, b9, b10, b11, b12, b13, b14) => narrow .boolean (.int 1) = .int 1 ∧ post 1 (b1, b2, b3, b4, b5, b6, b7, b8, b9, b10, b11, b12, b13, b14)) hk z' ⟨rfl, h2 t l sq u o hu ho⟩
  have P0 : ∀ (t l : Int64) (sq : Int32) (u o : Int64) (hu ho : Int32), rf_No p d (zs k) → narrow .boolean (.int (0 : Int32)) = .int 0 ∧ post 0 (nI p, fw, ff, rf_L (zs 0), rf_L (zs 1), rf_L (zs 2), rf_L (zs 3), t, l, sq, u, o, hu, ho) := by
    intro t l sq u o hu ho N
    rcases h with ⟨_, h2⟩ | ⟨z2, h1, h2⟩
    · exact ⟨rfl, h2 t l sq u o hu ho⟩
    · exact absurd h1.2.1 (N z2 h1.1)
  have S : wY_next_38 post (nI k) up (rf_L (2 * zs k + d)) (nI p) fw ff (rf_L (zs 0)) (rf_L (zs 1)) (rf_L (zs 2)) (rf_L (zs 3)) t l sq uu oo hu ho := by
    unfold wY_next_38 wpY_exact
    dsimp only
    rw [rf_L2]
    refine rf_search A hp (fun u o hu ho U O => ?_)
    rcases hd with ⟨rfl, rfl⟩ | ⟨rfl, rfl⟩
    · refine br_f rf_10 ?_
      rcases O with ⟨rfl, O2⟩ | ⟨rfl, zo, rfl, O3, O4, O5, O6⟩
      · refine br_t rfl (P0 _ _ _ _ _ _ _ (fun x hx q => O2 x hx ?_))
        have := (C x).1 q
        omega
      · refine br_f rf_10 (br_f rf_10 (P1 zo _ _ _ _ _ _ _ ⟨O4, ?_, fun x hx q => ?_⟩))
        · apply Classical.byContradiction
          intro q
          have := (C zo).2 q
          omega
        · have := O6 x hx (by have := (C x).1 q; omega)
          omega
    · refine br_t rfl ?_
      rcases U with ⟨rfl, U2⟩ | ⟨rfl, zu, rfl, U3, U4, U5, U6⟩
      · refine br_t rfl (P0 _ _ _ _ _ _ _ (fun x hx q => U2 x hx ?_))
        have := (C x).1 q
        omega
      · refine br_f rf_10 (br_t rfl (P1 zu _ _ _ _ _ _ _ ⟨U4, ?_, fun x hx q => ?_⟩))
        · apply Classical.byContradiction
          intro q
          have := (C zu).2 q
          omega
        · have := U6 x hx (by have := (C x).1 q; omega)
          omega
  unfold wpY_next
  dsimp only
  refine rf_is1 hk (br_f rf_10 (rf_get hk ?_))
  rw [rf_L2, rf_Lmul, rf_L1, rf_Lsub, rf_Ladd]
  rcases hd with ⟨rfl, rfl⟩ | ⟨rfl, rfl⟩
  · exact br_f rf_10 S
  · exact br_t rfl S
end
/-! X -/
section
variable {fm ff ng : Int32} {am ae : Nat → Int32} {p k W s : Nat} {σ d : Int} {x0 : Int32} {x1 : Int64}
theorem rf_x204 {post : Int32 → SX → Prop} {cr : Int32} {W' s' : Nat} (hk : k < 4) (hp : 2 ≤ p ∧ p ≤ 10) (hσ : rf_S ng σ) (hW : W < 2 ^ p) (hc : (cr = 0 ∧ W' + 1 = W ∧ s' = s) ∨ (¬ cr = 0 ∧ W' = 2 ^ p - 1 ∧ s' + 1 = s)) (hF : rf_F p (σ * ((W' * 2 ^ s' : Nat) : Int)))
    (h : ∀ x y, rf_G p x y (σ * ((W' * 2 ^ s' : Nat) : Int)) → post 1 (nI p, fm, ff, upd am k x, upd ae k y)) : wX_next_204 post (nI k) ng (rf_I ((s : Int) - 12)) (rf_L W) cr (nI p) fm ff am ae := by
  have p10 := rf_p10 hp.2
  unfold wX_next_204
  rcases hc with ⟨rfl, h1, rfl⟩ | ⟨h0, rfl, h2⟩
  · refine br_t rfl ?_
    rw [rf_L1, rf_Lsub]
    unfold wX_next_230
    refine br_t rfl ?_
    unfold wX_next_244
    rw [show (W : Int) - 1 = ((W' : Nat) : Int) by omega]
    exact rf_storeG (p := p) hk hσ W' s' (by omega) rfl hF (fun x y g => h x y g)
  · refine br_f h0 ?_
    rw [rf_1shl p hp.2]
    unfold wX_next_230
    refine br_f h0 ?_
    unfold wX_next_244
    rw [show (1 : Int32) = rf_I 1 by decide, rf_Isub]
    exact rf_storeG (p := p) hk hσ (2 ^ p - 1) s' (by omega) (by omega) hF (fun x y g => h x y g)
theorem rf_x132 {ow : Int32} (hk : k < 4) (hp : 2 ≤ p ∧ p ≤ 10) (hσ : rf_S ng σ) (hs : s ≤ 23) (hW : W < 2 ^ p) (hn : s = 0 ∨ 2 ^ (p - 1) ≤ W) (hx : x1 <<< (x0.toInt64 &&& 63) = rf_L W) (ho : (¬ ow = 0 ∧ d = σ) ∨ (ow = 0 ∧ d = -σ ∧ 1 ≤ W)) :
    (rf_No p d (σ * ((W * 2 ^ s : Nat) : Int)) ∧ ∀ post : Int32 → SX → Prop, post 0 (nI p, fm, ff, am, ae) → wX_next_132 post (nI k) ng ow (rf_I ((s : Int) - 12)) x0 x1 (nI p) fm ff am ae) ∨
    (∃ z', rf_Nx p d (σ * ((W * 2 ^ s : Nat) : Int)) z' ∧ ∀ post : Int32 → SX → Prop, (∀ x y, rf_G p x y z' → post 1 (nI p, fm, ff, upd am k x, upd ae k y)) → wX_next_132 post (nI k) ng ow (rf_I ((s : Int) - 12)) x0 x1 (nI p) fm ff am ae) := by
  have p10 := rf_p10 hp.2
  have pp := rf_pp (p := p) (by omega)
  have pq := Nat.two_pow_pos (p - 1)
  have σ1 := rf_S1 hσ
  have sh : ((1 : Int64) <<< ((nI p - 1).toInt64 &&& 63)) = rf_L ((2 ^ (p - 1) : Nat) : Int) := by
    rw [rf_shlN 1 (p - 1) (by omega) rf_L1 (by rw [← rf_In, show (1 : Int32) = rf_I 1 by decide, rf_Isub]; congr 1; omega), Nat.one_mul]
  have lt1 : ∀ W' s' : Nat, W' < 2 ^ p → s' ≤ 23 → W' * 2 ^ s' < 2 ^ (p + 23) := by
    intro W' s' h1 h2
    rw [Nat.pow_add]
    exact Nat.lt_of_le_of_lt (Nat.mul_le_mul_left _ (Nat.pow_le_pow_right (by decide) h2)) (Nat.mul_lt_mul_of_pos_right h1 (by decide))
  rcases ho with ⟨o1, rfl⟩ | ⟨rfl, hd, hW1⟩
  · by_cases hm : s = 23 ∧ W = 2 ^ p - 1
    · obtain ⟨rfl, rfl⟩ := hm
      refine Or.inl ⟨rf_nMax (by omega) σ1, fun post h => ?_⟩
      unfold wX_next_132
      exact nm_r hx (br_f o1 (br_t (by decide) (br_t (rf_1shl p hp.2).symm h)))
    · have x3 : (W + 1) * 2 ^ s < 2 ^ (p + 23) := by
        rcases Nat.lt_or_ge s 23 with q | q
        · have y1 : (W + 1) * 2 ^ s ≤ 2 ^ p * 2 ^ 22 := Nat.mul_le_mul (by omega) (Nat.pow_le_pow_right (by decide) (by omega))
          rw [Nat.pow_add]
          exact Nat.lt_of_le_of_lt y1 (Nat.mul_lt_mul_of_pos_left (by decide) (Nat.two_pow_pos p))
        · exact lt1 (W + 1) s (by omega) hs
      have N := rf_nOut (p := p) (by omega) σ1 hn (by omega) x3
      refine Or.inr ⟨_, N, fun post h => ?_⟩
      have Z : wX_next_163 post (nI k) ng (rf_I ((s : Int) - 12)) (rf_L W) (nI p) fm ff am ae := by
        unfold wX_next_163
        rw [rf_L1, rf_Ladd]
        exact rf_storeG (p := p) hk hσ (W + 1) s (by omega) rfl N.1 (fun x y g => h x y g)
      unfold wX_next_132
      rw [rf_1shl p hp.2]
      refine nm_r hx (br_f o1 (rf_ceq ((s : Int) - 12) 11 (fun q => rf_beq (W : Int) ((2 ^ p - 1 : Nat) : Int) (fun q2 => ?_) (fun _ => Z)) (fun _ => Z) rfl (by decide)))
      exact absurd ⟨by omega, by omega⟩ hm
  · have q2 : 2 ^ (p - 1) ≤ 1024 := by omega
    by_cases hc : W = 2 ^ (p - 1) ∧ 0 < s
    · obtain ⟨s', rfl⟩ : ∃ s', s = s' + 1 := ⟨s - 1, by omega⟩
      have eV : W * 2 ^ (s' + 1) = (2 ^ p - 1 + 1) * 2 ^ s' := by
        rw [show 2 ^ p - 1 + 1 = 2 * W by omega, rf_2p]
      have N := rf_nIn (p := p) (W := 2 ^ p - 1) (s := s') (V := W * 2 ^ (s' + 1)) (by omega) σ1 hd (Or.inr (by omega)) (by omega) eV (lt1 W (s' + 1) hW hs)
      refine Or.inr ⟨_, N, fun post h => ?_⟩
      have Z := rf_x204 (cr := 1) (s := s' + 1) (W := W) (W' := 2 ^ p - 1) (s' := s') hk hp hσ hW (Or.inr ⟨rf_10, rfl, rfl⟩) N.1 h
      unfold wX_next_132
      rw [sh]
      refine nm_r hx (br_t rfl (br_t (by rw [← hc.1]) (rf_cle (((s' + 1 : Nat) : Int) - 12) (-12) (fun q => by omega) (fun _ => Z) rfl (by decide))))
    · have N := rf_nIn (p := p) (W := W - 1) (s := s) (V := W * 2 ^ s) (by omega) σ1 hd (by omega) (by omega) (by rw [show W - 1 + 1 = W by omega]) (lt1 W s hW hs)
      refine Or.inr ⟨_, N, fun post h => ?_⟩
      have Z := rf_x204 (cr := 0) (s := s) (W := W) (W' := W - 1) (s' := s) hk hp hσ hW (Or.inl ⟨rfl, by omega, rfl⟩) N.1 h
      unfold wX_next_132
      rw [sh]
      refine nm_r hx (br_t rfl (rf_beq (W : Int) ((2 ^ (p - 1) : Nat) : Int) (fun q => rf_cle ((s : Int) - 12) (-12) (fun _ => Z) (fun q3 => ?_) rfl (by decide)) (fun _ => Z)))
      exact absurd ⟨by omega, by omega⟩ hc
end
end
section
/-! ===== next, joined ===== -/
section
variable {fm ff ng ow up : Int32} {am ae : Nat → Int32} {p k E s b m : Nat} {σ d : Int}
theorem rf_x65 {post : Int32 → SX → Prop} (hk : k < 4) (hp : 2 ≤ p ∧ p ≤ 10) (a2 : ae k = rf_I ((E : Int) - 12)) (hE : E ≤ 32) (hm0 : ¬ m = 0) (hb : b ≤ p) (hmb : m < 2 ^ b) (hb2 : b = 0 ∨ 2 ^ (b - 1) ≤ m) (hs : s = b + E - p)
    (h : wX_next_132 post (nI k) ng ow (rf_I ((s : Int) - 12)) (rf_I ((E : Int) - s)) (rf_L m) (nI p) fm ff am ae) : wX_next_65 post (nI k) (rf_L m) ng ow (nI p) fm ff am ae := by
  have ik := vp_in_nI (N := 4) hk (by decide)
  have m61 := rf_lt63 hmb (by omega)
  have B : wX_next_110 post (nI k) (rf_L m) ng ow (rf_I ((s : Int) - 12)) (nI p) fm ff am ae := by
    unfold wX_next_110
    rw [nI_clamp (n := k) (by omega), a2, rf_Isub, show (E : Int) - 12 - ((s : Int) - 12) = (E : Int) - s by omega]
    exact rf_beq (m : Int) 0 (fun q => by omega) (fun _ => ⟨ik, h⟩) rfl rf_L0
  unfold wX_next_65
  rw [nI_clamp (n := k) (by omega), a2]
  refine rf_bits hmb (by omega) hb2 ⟨ik, nm_r (e' := rf_I ((b : Int) + E - 12)) ?_ ?_⟩
  · rw [← rf_In, rf_Iadd]
    congr 1
    omega
  · refine rf_beq (m : Int) 0 (fun q => by omega) (fun _ => ?_) rfl rf_L0
    rw [← rf_In, rf_Isub]
    refine rf_cle (-12) ((b : Int) + E - 12 - p) (fun q => ?_) (fun q => ?_) (by decide) rfl
    · rw [show (b : Int) + E - 12 - p = (s : Int) - 12 by omega, rf_In]
      exact B
    · unfold wX_next_98
      have e : (-12 : Int32) = rf_I ((s : Int) - 12) := by
        rw [show s = 0 by omega]
        decide
      rw [e, rf_In]
      exact B
theorem rf_x65z {post : Int32 → SX → Prop} (hk : k < 4) (h : wX_next_132 post (nI k) ng ow (-12) 0 0 (nI p) fm ff am ae) : wX_next_65 post (nI k) 0 ng ow (nI p) fm ff am ae := by
  have ik := vp_in_nI (N := 4) hk (by decide)
  unfold wX_next_65 wX_next_98 wX_next_110
  rw [rf_L0]
  refine rf_bits (m := 0) (b := 0) (by decide) (by decide) (Or.inl rfl) ⟨ik, nm_e (br_t rf_L0.symm (br_t rf_L0.symm ?_))⟩
  rw [rf_L0] at h
  exact h
theorem rf_x52 (hk : k < 4) (hp : 2 ≤ p ∧ p ≤ 10) (a2 : ae k = rf_I ((E : Int) - 12)) (hE : E ≤ 32) (hm : m < 2 ^ p) (hF : m * 2 ^ E < 2 ^ (p + 23)) (hd : (up = 1 ∧ d = 1) ∨ (up = 0 ∧ d = -1)) (hg : (ng = 0 ∧ σ = 1) ∨ (ng = 1 ∧ σ = -1)) (hz : m = 0 → σ = d) :
    (rf_No p d (σ * ((m * 2 ^ E : Nat) : Int)) ∧ ∀ post : Int32 → SX → Prop, post 0 (nI p, fm, ff, am, ae) → wX_next_52 post (nI k) up (rf_L m) ng (nI p) fm ff am ae) ∨
    (∃ z', rf_Nx p d (σ * ((m * 2 ^ E : Nat) : Int)) z' ∧ ∀ post : Int32 → SX → Prop, (∀ x y, rf_G p x y z' → post 1 (nI p, fm, ff, upd am k x, upd ae k y)) → wX_next_52 post (nI k) up (rf_L m) ng (nI p) fm ff am ae) := by
  have hσ : rf_S ng σ := by
    rcases hg with ⟨rfl, h⟩ | ⟨rfl, h⟩
    · exact Or.inl ⟨rfl, h⟩
    · exact Or.inr ⟨rf_10, h⟩
  -- the outward word, and next_52 from next_65
  have hw : ∃ ow : Int32, ((¬ ow = 0 ∧ d = σ) ∨ (ow = 0 ∧ d = -σ)) ∧ ∀ post : Int32 → SX → Prop, wX_next_65 post (nI k) (rf_L m) ng ow (nI p) fm ff am ae → wX_next_52 post (nI k) up (rf_L m) ng (nI p) fm ff am ae := by
    rcases hd with ⟨rfl, rfl⟩ | ⟨rfl, rfl⟩
    · rcases hg with ⟨rfl, rfl⟩ | ⟨rfl, rfl⟩
      · exact ⟨1, Or.inl ⟨rf_10, rfl⟩, fun post h => br_f (by decide) h⟩
      · exact ⟨0, Or.inr ⟨rfl, rfl⟩, fun post h => br_t rfl h⟩
    · rcases hg with ⟨rfl, rfl⟩ | ⟨rfl, rfl⟩
      · exact ⟨0, Or.inr ⟨rfl, rfl⟩, fun post h => br_t rfl h⟩
      · exact ⟨1, Or.inl ⟨rf_10, rfl⟩, fun post h => br_f (by decide) h⟩
  obtain ⟨ow, ho, HW⟩ := hw
  by_cases hm0 : m = 0
  · subst hm0
    have hd2 := hz rfl
    have ho2 : ¬ ow = 0 ∧ d = σ := by
      rcases ho with h | h
      · exact h
      · rcases rf_S1 hσ with q | q <;> omega
    have e : (0 * 2 ^ E : Nat) = 0 * 2 ^ 0 := by rw [Nat.zero_mul, Nat.zero_mul]
    have K := rf_x132 (fm := fm) (ff := ff) (am := am) (ae := ae) (d := d) (x0 := 0) (x1 := 0) (W := 0) (s := 0) hk hp hσ (by omega) hm (Or.inl rfl) (by decide) (Or.inl ho2)
    rw [e]
    have e12 : rf_I (((0 : Nat) : Int) - 12) = -12 := by decide
    have eL : rf_L ((0 : Nat) : Int) = 0 := rf_L0.symm
    rw [e12] at K
    rw [eL] at HW ⊢
    rcases K with ⟨k1, k2⟩ | ⟨z', k1, k2⟩
    · exact Or.inl ⟨k1, fun post h => HW post (rf_x65z hk (k2 post h))⟩
    · exact Or.inr ⟨z', k1, fun post h => HW post (rf_x65z hk (k2 post h))⟩
  · obtain ⟨b, hb, hmb, hb2⟩ := rf_bl m p hm
    obtain ⟨s, hs⟩ : ∃ s, s = b + E - p := ⟨_, rfl⟩
    have hsE : s ≤ E := by omega
    have eW : m * 2 ^ (E - s) * 2 ^ s = m * 2 ^ E := by
      rw [Nat.mul_assoc, ← Nat.pow_add]
      congr 2
      omega
    have hW : m * 2 ^ (E - s) < 2 ^ p := by
      refine Nat.lt_of_lt_of_le (Nat.mul_lt_mul_of_pos_right hmb (Nat.two_pow_pos _)) ?_
      rw [← Nat.pow_add]
      exact Nat.pow_le_pow_right (by decide) (by omega)
    have hn : s = 0 ∨ 2 ^ (p - 1) ≤ m * 2 ^ (E - s) := by
      rcases Nat.eq_zero_or_pos s with q | q
      · exact Or.inl q
      · refine Or.inr ?_
        rcases hb2 with h | h
        · rw [h] at hmb
          omega
        · have e1 := Nat.mul_le_mul_right (2 ^ (E - s)) h
          rw [← Nat.pow_add] at e1
          refine Nat.le_trans (Nat.pow_le_pow_right (by decide) ?_) e1
          have : ¬ b = 0 := by
            intro x
            rw [x] at hmb
            omega
          omega
    have hs23 : s ≤ 23 := by
      rcases hn with h | h
      · omega
      · have e1 := Nat.mul_le_mul_right (2 ^ s) h
        rw [eW, ← Nat.pow_add] at e1
        have e2 : p - 1 + s < p + 23 := (Nat.pow_lt_pow_iff_right (by decide)).mp (Nat.lt_of_le_of_lt e1 hF)
        omega
    have hx : rf_L m <<< ((rf_I ((E : Int) - s)).toInt64 &&& 63) = rf_L ((m * 2 ^ (E - s) : Nat) : Int) := rf_shlN m (E - s) (by omega) rfl (by congr 1; omega)
    have W1 : 1 ≤ m * 2 ^ (E - s) := Nat.mul_pos (by omega) (Nat.two_pow_pos _)
    have K := rf_x132 (fm := fm) (ff := ff) (am := am) (ae := ae) (d := d) (ow := ow) hk hp hσ hs23 hW hn hx (by
      rcases ho with h | h
      · exact Or.inl h
      · exact Or.inr ⟨h.1, h.2, W1⟩)
    rw [eW] at K
    rcases K with ⟨k1, k2⟩ | ⟨z', k1, k2⟩
    · exact Or.inl ⟨k1, fun post h => HW post (rf_x65 hk hp a2 hE hm0 hb hmb hb2 hs (k2 post h))⟩
    · exact Or.inr ⟨z', k1, fun post h => HW post (rf_x65 hk hp a2 hE hm0 hb hmb hb2 hs (k2 post h))⟩
end
theorem i_vc_next {k : Nat} {u : SX} {v : SY} (I : i_Rel k u v) (hk : k + 4 ≤ 2049) (v1 : Int32) (v2 : Int32) : wpX_next (fun r u' => wpY_next (fun r' v' => r' = r ∧ i_Rel (k + 4) u' v') v v1 (lw_bz v2)) u v1 (lw_bz v2) := by
  refine rf_el (P := fun u v => wpX_next (fun r u' => wpY_next (fun r' v' => r' = r ∧ i_Rel (k + 4) u' v') v v1 (lw_bz v2)) u v1 (lw_bz v2)) ?_ I
  intro p w ff am ae zs t l sq uu oo hu ho H
  unfold wpX_next
  dsimp only
  rcases rf_isq v1 with ⟨a, ha, rfl⟩ | hn
  rotate_left
  · refine rf_xis0 hn (br_t rfl ?_)
    unfold wpY_next
    dsimp only
    exact rf_is0 hn (br_t rfl ⟨rfl, rf_in H⟩)
  have p10 := rf_p10 H.1.2
  obtain ⟨m, E, a1, a2, a3, a4, a5, a6, a7, a8⟩ := rf_Gb H.1 (H.2.2 a ha)
  have ia := vp_in_nI (N := 4) ha (by decide)
  have hF : m.natAbs * 2 ^ E < 2 ^ (p + 23) := by
    obtain ⟨_, _, _, _, h⟩ := a5
    rw [a3, rf_abs2] at h
    exact h
  have hz : (zs a).natAbs < 8589934592 := by
    rw [a3, rf_abs2]
    exact a8
  obtain ⟨d, hd⟩ : ∃ d : Int, (lw_bz v2 = 1 ∧ d = 1) ∨ (lw_bz v2 = 0 ∧ d = -1) := by
    rcases lw_bz_01 v2 with h | h
    · exact ⟨-1, Or.inr ⟨h, rfl⟩⟩
    · exact ⟨1, Or.inl ⟨h, rfl⟩⟩
  generalize lw_bz v2 = up at *
  have D : ∀ (ng : Int32) (σ : Int), ((ng = 0 ∧ σ = 1) ∨ (ng = 1 ∧ σ = -1)) → (m.natAbs = 0 → σ = d) → zs a = σ * ((m.natAbs * 2 ^ E : Nat) : Int) → wX_next_52 (fun r u' => wpY_next (fun r' v' => r' = r ∧ i_Rel (k + 4) u' v') (nI p, nI w, ff, rf_L (zs 0), rf_L (zs 1), rf_L (zs 2), rf_L (zs 3), t, l, sq, uu, oo, hu, ho) (nI a) up) (nI a) up (rf_L (m.natAbs : Int)) ng (nI p) (nI w) ff am ae := by
    intro ng σ hg h0 ez
    have K := rf_x52 (fm := nI w) (ff := ff) (am := am) ha H.1 a2 a7 a6 hF hd hg h0
    rw [← ez] at K
    rcases K with ⟨k1, k2⟩ | ⟨z', k1, k2⟩
    · exact k2 _ (rf_ynx H.1 ha hz hd (Or.inl ⟨k1, fun t l sq u o hu ho => ⟨rfl, rf_in H⟩⟩))
    · exact k2 _ (fun x y g => rf_ynx H.1 ha hz hd (Or.inr ⟨z', k1, fun t l sq u o hu ho => ⟨rfl, rf_in (rf_RRu H g)⟩⟩))
  have ez : zs a = m * 2 ^ E := a3
  have en : ((m.natAbs * 2 ^ E : Nat) : Int) = (m.natAbs : Int) * 2 ^ E := by rw [Int.natCast_mul, rf_nc]
  refine rf_xis1 ha (br_f rf_10 ⟨ia, ?_⟩)
  rw [nI_clamp (n := a) (by omega), a1, rf_I2L (by omega)]
  refine rf_sizeN (by omega) (rf_beq (m.natAbs : Int) 0 (fun q => ?_) (fun q => ⟨ia, ?_⟩) rfl rf_L0)
  · have e0 : ∀ σ : Int, zs a = σ * ((m.natAbs * 2 ^ E : Nat) : Int) := by
      intro σ
      rw [ez, en, show m = 0 by omega, Int.zero_mul]
      show 0 = σ * (0 * 2 ^ E)
      rw [Int.zero_mul, Int.mul_zero]
    rcases hd with ⟨rfl, rfl⟩ | ⟨rfl, rfl⟩
    · exact br_f rf_10 (D 0 1 (Or.inl ⟨rfl, rfl⟩) (fun _ => rfl) (e0 1))
    · exact br_t rfl (D 1 (-1) (Or.inr ⟨rfl, rfl⟩) (fun _ => rfl) (e0 (-1)))
  · refine rf_cle 0 m (fun q2 => ?_) (fun q2 => ?_) rf_I0 rfl
    · exact D 0 1 (Or.inl ⟨rfl, rfl⟩) (fun x => by omega) (by rw [ez, en, Int.one_mul, show (m.natAbs : Int) = m by omega])
    · exact D 1 (-1) (Or.inr ⟨rfl, rfl⟩) (fun x => by omega) (by rw [ez, en, Int.neg_mul, Int.one_mul, ← Int.neg_mul, show -(m.natAbs : Int) = m by omega])
end

section
/-! rows of kit/rows, as they stand there -/
theorem pk_us {f : Nat → Int32} {k : Nat} {x : Int32} : upd f k x k = x := if_pos rfl
theorem pk_un {f : Nat → Int32} {k j : Nat} {x : Int32} (h : j ≠ k) : upd f k x j = f j := if_neg h
theorem pk_uLs {f : Nat → Int64} {k : Nat} {x : Int64} : vp_updL f k x k = x := if_pos rfl
theorem pk_uLn {f : Nat → Int64} {k j : Nat} {x : Int64} (h : j ≠ k) : vp_updL f k x j = f j := if_neg h
theorem pk_sub {a b : Nat} (h : b ≤ a) : nI a - nI b = nI (a - b) := by
  obtain ⟨c, rfl⟩ : ∃ c, a = c + b := ⟨a - b, by omega⟩
  rw [← nI_add, Int32.add_sub_cancel, Nat.add_sub_cancel]
theorem pk_m1 (n : Nat) : nI (n + 1) + (-1) = nI n := by
  rw [← nI_1, Int32.add_assoc, show (1 : Int32) + (-1) = 0 from rfl, Int32.add_zero]
theorem pk_mul (a b : Nat) : nI a * nI b = nI (a * b) := (Int32.ofNat_mul a b).symm
theorem pk_div {a d : Nat} (ha : a < 2 ^ 31) (h0 : 0 < d) (hd : d < 2 ^ 31) : nI a / nI d = nI (a / d) := by
  apply Int32.toInt_inj.mp
  rw [lg_idiv_nonneg (by rw [nI_toInt ha]; omega) (by rw [nI_toInt hd]; omega), nI_toInt ha, nI_toInt hd, nI_toInt (Nat.lt_of_le_of_lt (Nat.div_le_self a d) ha)]
  first | rfl | exact (Int.natCast_ediv _ _).symm
theorem pk_rem {a d : Nat} (ha : a < 2 ^ 31) (h0 : 0 < d) (hd : d < 2 ^ 31) : nI a - nI a / nI d * nI d = nI (a % d) := by
  rw [pk_div ha h0 hd, pk_mul, pk_sub (Nat.div_mul_le_self a d)]
  exact congrArg nI (by have := Nat.div_add_mod' a d; omega)
theorem pk_le {x y : Int32} {A B : Prop} (a b : Nat) (f : a ≤ b → A) (g : b < a → B) (hx : x = nI a := by rfl) (hy : y = nI b := by rfl) (ha : a < 2 ^ 31 := by omega) (hb : b < 2 ^ 31 := by omega) : (x ≤ y → A) ∧ (¬ x ≤ y → B) := by
  subst hx hy
  rw [nI_leI ha hb]
  exact ⟨f, fun z => g (by omega)⟩
theorem pk_lt {x y : Int32} {A B : Prop} (a b : Nat) (f : a < b → A) (g : b ≤ a → B) (hx : x = nI a := by rfl) (hy : y = nI b := by rfl) (ha : a < 2 ^ 31 := by omega) (hb : b < 2 ^ 31 := by omega) : (x < y → A) ∧ (¬ x < y → B) := by
  subst hx hy
  rw [nI_ltI ha hb]
  exact ⟨f, fun z => g (by omega)⟩
theorem pk_eq {x y : Int32} {A B : Prop} (a b : Nat) (f : a = b → A) (g : a ≠ b → B) (hx : x = nI a := by rfl) (hy : y = nI b := by rfl) (ha : a < 2 ^ 31 := by omega) (hb : b < 2 ^ 31 := by omega) : (x = y → A) ∧ (¬ x = y → B) := by
  subst hx hy
  rw [nI_eq ha hb]
  exact ⟨f, g⟩
theorem pk_in {x : Int32} (n N : Nat) (h : n < N) (hx : x = nI n := by rfl) (hN : N < 2 ^ 31 := by omega) : vp_in x N := by
  subst hx
  exact vp_in_nI h hN
theorem pk_cl {x : Int32} (n : Nat) (hx : x = nI n := by rfl) (h : n < 2 ^ 31 := by omega) : x.toNatClampNeg = n := by
  subst hx
  exact nI_clamp h
theorem pk_tn {n : Nat} (h : n < 2 ^ 32) : (nI n).toBitVec.toNat = n := Nat.mod_eq_of_lt h
theorem pk_vb (z : Int32) : vp_nar .byte z.toInt8.toInt32 = z.toInt8.toInt32 := by rw [vp_nar_byte]; simp
theorem pk_lT {n : Nat} (h : n < 2 ^ 63) : (lN n).toInt = (n : Int) := lg_ofNat_toInt h
theorem pk_lLT {a b : Nat} (ha : a < 2 ^ 63) (hb : b < 2 ^ 63) : lN a < lN b ↔ a < b := by
  rw [Int64.lt_iff_toInt_lt, pk_lT ha, pk_lT hb]; omega
theorem pk_lLE {a b : Nat} (ha : a < 2 ^ 63) (hb : b < 2 ^ 63) : lN a ≤ lN b ↔ a ≤ b := by
  rw [Int64.le_iff_toInt_le, pk_lT ha, pk_lT hb]; omega
theorem pk_lEQ {a b : Nat} (ha : a < 2 ^ 63) (hb : b < 2 ^ 63) : lN a = lN b ↔ a = b := by
  rw [← Int64.toInt_inj, pk_lT ha, pk_lT hb]; omega
theorem pk_lOf {x : Int64} (h : ¬ x < 0) : ∃ k : Nat, k < 2 ^ 63 ∧ x = lN k := by
  rw [Int64.lt_iff_toInt_lt] at h
  have h0 : (0 : Int64).toInt = 0 := by decide
  have hx := Int64.toInt_lt x
  refine ⟨x.toInt.toNat, by omega, Int64.toInt_inj.mp ?_⟩
  rw [pk_lT (by omega)]
  omega
theorem pk_lDiv {a b : Nat} (ha : a < 2 ^ 63) (h0 : 0 < b) (hb : b < 2 ^ 63) : lN a / lN b = lN (a / b) := by
  apply Int64.toInt_inj.mp
  rw [lg_ldiv_nonneg (by rw [pk_lT ha]; omega) (by rw [pk_lT hb]; omega), pk_lT ha, pk_lT hb, pk_lT (Nat.lt_of_le_of_lt (Nat.div_le_self a b) ha)]
  rfl
theorem pk_lRem {a b : Nat} (ha : a < 2 ^ 63) (h0 : 0 < b) (hb : b < 2 ^ 63) : lN a - lN a / lN b * lN b = lN (a % b) := by
  rw [pk_lDiv ha h0 hb, lN_mul, lN_sub (Nat.div_mul_le_self a b)]
  exact congrArg lN (by have := Nat.div_add_mod' a b; omega)
theorem u_tn {n : Nat} (h : n < 2 ^ 64) : (UInt64.ofNat n).toNat = n := Nat.mod_eq_of_lt h
theorem g_and {a b c : Nat} (ha : a < 2 ^ 64) (hb : b < 2 ^ 64) (hc : a &&& b = c) : lN a &&& lN b = lN c := by
  subst hc
  have h : UInt64.ofNat a &&& UInt64.ofNat b = UInt64.ofNat (a &&& b) := UInt64.toNat_inj.mp (by rw [UInt64.toNat_and, u_tn ha, u_tn hb, u_tn (Nat.and_lt_two_pow a hb)])
  have h2 := congrArg UInt64.toInt64 h
  exact h2
theorem g_and1 {a : Nat} (ha : a < 2 ^ 64) : lN a &&& 1 = lN (a % 2) := g_and (b := 1) ha (by decide) (Nat.and_two_pow_sub_one_eq_mod a 1)
end
section
/-! ints of any sign: du_i z the int, du_l z the long; du_b a boolean -/
def du_i (z : Int) : Int32 := Int32.ofInt z
def du_l (z : Int) : Int64 := Int64.ofInt z
def du_b (b : Bool) : Int32 := cond b 1 0
theorem du_iT {z : Int} (h1 : -2147483648 ≤ z) (h2 : z < 2147483648) : (du_i z).toInt = z := Int32.toInt_ofInt_of_le (by omega) (by omega)
theorem du_lT {z : Int} (h1 : -9223372036854775808 ≤ z) (h2 : z < 9223372036854775808) : (du_l z).toInt = z := Int64.toInt_ofInt_of_le (by omega) (by omega)
theorem du_iN (n : Nat) : nI n = du_i n := Int32.ofInt_eq_ofNat.symm
theorem du_lN (n : Nat) : lN n = du_l n := Int64.ofInt_eq_ofNat.symm
theorem du_io (x : Int32) : x = du_i x.toInt := (Int32.ofInt_toInt x).symm
theorem du_iadd (a b : Int) : du_i a + du_i b = du_i (a + b) := (Int32.ofInt_add a b).symm
theorem du_isub (a b : Int) : du_i a - du_i b = du_i (a - b) := (Int32.ofInt_sub a b).symm
theorem du_imul (a b : Int) : du_i a * du_i b = du_i (a * b) := (Int32.ofInt_mul a b).symm
theorem du_ineg (a : Int) : -du_i a = du_i (-a) := (Int32.ofInt_neg a).symm
theorem du_ladd (a b : Int) : du_l a + du_l b = du_l (a + b) := (Int64.ofInt_add a b).symm
theorem du_lsub (a b : Int) : du_l a - du_l b = du_l (a - b) := (Int64.ofInt_sub a b).symm
theorem du_lmul (a b : Int) : du_l a * du_l b = du_l (a * b) := (Int64.ofInt_mul a b).symm
theorem du_lneg (a : Int) : -du_l a = du_l (-a) := (Int64.ofInt_neg a).symm
theorem du_iaddN (a : Int) (n : Nat) : du_i a + nI n = du_i (a + n) := by rw [du_iN, du_iadd]
theorem du_isubN (a : Int) (n : Nat) : du_i a - nI n = du_i (a - n) := by rw [du_iN, du_isub]
theorem du_ile {a b : Int} (a1 : -2147483648 ≤ a) (a2 : a < 2147483648) (b1 : -2147483648 ≤ b) (b2 : b < 2147483648) : du_i a ≤ du_i b ↔ a ≤ b := by
  rw [Int32.le_iff_toInt_le, du_iT a1 a2, du_iT b1 b2]
theorem du_ilt {a b : Int} (a1 : -2147483648 ≤ a) (a2 : a < 2147483648) (b1 : -2147483648 ≤ b) (b2 : b < 2147483648) : du_i a < du_i b ↔ a < b := by
  rw [Int32.lt_iff_toInt_lt, du_iT a1 a2, du_iT b1 b2]
theorem du_ieq {a b : Int} (a1 : -2147483648 ≤ a) (a2 : a < 2147483648) (b1 : -2147483648 ≤ b) (b2 : b < 2147483648) : du_i a = du_i b ↔ a = b := by
  constructor
  · intro h
    have h2 := congrArg Int32.toInt h
    rwa [du_iT a1 a2, du_iT b1 b2] at h2
  · intro h; rw [h]
theorem du_lle {a b : Int} (a1 : -9223372036854775808 ≤ a) (a2 : a < 9223372036854775808) (b1 : -9223372036854775808 ≤ b) (b2 : b < 9223372036854775808) : du_l a ≤ du_l b ↔ a ≤ b := by
  rw [Int64.le_iff_toInt_le, du_lT a1 a2, du_lT b1 b2]
theorem du_llt {a b : Int} (a1 : -9223372036854775808 ≤ a) (a2 : a < 9223372036854775808) (b1 : -9223372036854775808 ≤ b) (b2 : b < 9223372036854775808) : du_l a < du_l b ↔ a < b := by
  rw [Int64.lt_iff_toInt_lt, du_lT a1 a2, du_lT b1 b2]
theorem du_leq {a b : Int} (a1 : -9223372036854775808 ≤ a) (a2 : a < 9223372036854775808) (b1 : -9223372036854775808 ≤ b) (b2 : b < 9223372036854775808) : du_l a = du_l b ↔ a = b := by
  constructor
  · intro h
    have h2 := congrArg Int64.toInt h
    rwa [du_lT a1 a2, du_lT b1 b2] at h2
  · intro h; rw [h]
/-! branches by ints -/
theorem di_le {x y : Int32} {A B : Prop} (a b : Int) (f : a ≤ b → A) (g : b < a → B) (hx : x = du_i a := by first | rfl | decide) (hy : y = du_i b := by first | rfl | decide) (a1 : -2147483648 ≤ a := by omega) (a2 : a < 2147483648 := by omega) (b1 : -2147483648 ≤ b := by omega) (b2 : b < 2147483648 := by omega) : (x ≤ y → A) ∧ (¬ x ≤ y → B) := by
  subst hx hy
  rw [du_ile a1 a2 b1 b2]
  exact ⟨f, fun z => g (by omega)⟩
theorem di_lt {x y : Int32} {A B : Prop} (a b : Int) (f : a < b → A) (g : b ≤ a → B) (hx : x = du_i a := by first | rfl | decide) (hy : y = du_i b := by first | rfl | decide) (a1 : -2147483648 ≤ a := by omega) (a2 : a < 2147483648 := by omega) (b1 : -2147483648 ≤ b := by omega) (b2 : b < 2147483648 := by omega) : (x < y → A) ∧ (¬ x < y → B) := by
  subst hx hy
  rw [du_ilt a1 a2 b1 b2]
  exact ⟨f, fun z => g (by omega)⟩
theorem di_eq {x y : Int32} {A B : Prop} (a b : Int) (f : a = b → A) (g : a ≠ b → B) (hx : x = du_i a := by first | rfl | decide) (hy : y = du_i b := by first | rfl | decide) (a1 : -2147483648 ≤ a := by omega) (a2 : a < 2147483648 := by omega) (b1 : -2147483648 ≤ b := by omega) (b2 : b < 2147483648 := by omega) : (x = y → A) ∧ (¬ x = y → B) := by
  subst hx hy
  rw [du_ieq a1 a2 b1 b2]
  exact ⟨f, g⟩
theorem dl_le {x y : Int64} {A B : Prop} (a b : Int) (f : a ≤ b → A) (g : b < a → B) (hx : x = du_l a := by first | rfl | decide) (hy : y = du_l b := by first | rfl | decide) (a1 : -9223372036854775808 ≤ a := by omega) (a2 : a < 9223372036854775808 := by omega) (b1 : -9223372036854775808 ≤ b := by omega) (b2 : b < 9223372036854775808 := by omega) : (x ≤ y → A) ∧ (¬ x ≤ y → B) := by
  subst hx hy
  rw [du_lle a1 a2 b1 b2]
  exact ⟨f, fun z => g (by omega)⟩
theorem dl_lt {x y : Int64} {A B : Prop} (a b : Int) (f : a < b → A) (g : b ≤ a → B) (hx : x = du_l a := by first | rfl | decide) (hy : y = du_l b := by first | rfl | decide) (a1 : -9223372036854775808 ≤ a := by omega) (a2 : a < 9223372036854775808 := by omega) (b1 : -9223372036854775808 ≤ b := by omega) (b2 : b < 9223372036854775808 := by omega) : (x < y → A) ∧ (¬ x < y → B) := by
  subst hx hy
  rw [du_llt a1 a2 b1 b2]
  exact ⟨f, fun z => g (by omega)⟩
theorem dl_eq {x y : Int64} {A B : Prop} (a b : Int) (f : a = b → A) (g : a ≠ b → B) (hx : x = du_l a := by first | rfl | decide) (hy : y = du_l b := by first | rfl | decide) (a1 : -9223372036854775808 ≤ a := by omega) (a2 : a < 9223372036854775808 := by omega) (b1 : -9223372036854775808 ≤ b := by omega) (b2 : b < 9223372036854775808 := by omega) : (x = y → A) ∧ (¬ x = y → B) := by
  subst hx hy
  rw [du_leq a1 a2 b1 b2]
  exact ⟨f, g⟩
/-- branches by natural longs -/
theorem dn_le {x y : Int64} {A B : Prop} (a b : Nat) (f : a ≤ b → A) (g : b < a → B) (hx : x = lN a := by first | rfl | decide) (hy : y = lN b := by first | rfl | decide) (a2 : a < 9223372036854775808 := by omega) (b2 : b < 9223372036854775808 := by omega) : (x ≤ y → A) ∧ (¬ x ≤ y → B) := by
  subst hx hy
  rw [pk_lLE (by omega) (by omega)]
  exact ⟨f, fun z => g (by omega)⟩
theorem dn_lt {x y : Int64} {A B : Prop} (a b : Nat) (f : a < b → A) (g : b ≤ a → B) (hx : x = lN a := by first | rfl | decide) (hy : y = lN b := by first | rfl | decide) (a2 : a < 9223372036854775808 := by omega) (b2 : b < 9223372036854775808 := by omega) : (x < y → A) ∧ (¬ x < y → B) := by
  subst hx hy
  rw [pk_lLT (by omega) (by omega)]
  exact ⟨f, fun z => g (by omega)⟩
theorem dn_eq {x y : Int64} {A B : Prop} (a b : Nat) (f : a = b → A) (g : a ≠ b → B) (hx : x = lN a := by first | rfl | decide) (hy : y = lN b := by first | rfl | decide) (a2 : a < 9223372036854775808 := by omega) (b2 : b < 9223372036854775808 := by omega) : (x = y → A) ∧ (¬ x = y → B) := by
  subst hx hy
  rw [pk_lEQ (by omega) (by omega)]
  exact ⟨f, g⟩
/-- branches by booleans -/
theorem db_0 {A B : Prop} (b : Bool) (f : b = false → A) (g : b = true → B) : (du_b b = 0 → A) ∧ (¬ du_b b = 0 → B) := by
  cases b
  · exact br_t rfl (f rfl)
  · exact br_f (by decide) (g rfl)
theorem db_ne {A B : Prop} (a b : Bool) (f : a = b → A) (g : (a != b) = true → B) : (du_b a = du_b b → A) ∧ (¬ du_b a = du_b b → B) := by
  cases a <;> cases b
  · exact br_t rfl (f rfl)
  · exact br_f (by decide) (g rfl)
  · exact br_f (by decide) (g rfl)
  · exact br_t rfl (f rfl)
theorem db_nar (b : Bool) : narrow .boolean (.int (du_b b)) = .int (du_b b) := by cases b <;> rfl
theorem db_fit (b : Bool) : fits .boolean (.int (du_b b)) = true := by cases b <;> rfl
/-! index, division, casts -/
theorem du_in {z : Int} {N : Nat} (h0 : 0 ≤ z) (h : z < N) (hN : N < 2147483648 := by omega) : vp_in (du_i z) N := by
  rw [vp_in_iff, du_iT (by omega) (by omega)]
  exact ⟨h0, h⟩
theorem du_cl {z : Int} (n : Nat) (h : z = n) (hn : n < 2147483648 := by omega) : (du_i z).toNatClampNeg = n := by
  subst h
  rw [← du_iN]
  exact nI_clamp (by omega)
theorem du_ldiv {a b : Int} (a1 : -9223372036854775808 ≤ a) (a2 : a < 9223372036854775808) (b1 : -9223372036854775808 ≤ b) (b2 : b < 9223372036854775808) : du_l a / du_l b = du_l (a.tdiv b) := by
  refine (Int64.ofInt_tdiv ?_ ?_ ?_ ?_).symm
  · rw [Int64.toInt_minValue]; omega
  · rw [Int64.toInt_maxValue]; omega
  · rw [Int64.toInt_minValue]; omega
  · rw [Int64.toInt_maxValue]; omega
theorem du_lrem {a b : Int} (a1 : -9223372036854775808 ≤ a) (a2 : a < 9223372036854775808) (b1 : -9223372036854775808 ≤ b) (b2 : b < 9223372036854775808) : du_l a - du_l a / du_l b * du_l b = du_l (a.tmod b) := by
  rw [du_ldiv a1 a2 b1 b2, du_lmul, du_lsub, Int.tmod_def, Int.mul_comm b]
theorem du_idiv {a b : Int} (a1 : -2147483648 ≤ a) (a2 : a < 2147483648) (b1 : -2147483648 ≤ b) (b2 : b < 2147483648) : du_i a / du_i b = du_i (a.tdiv b) := by
  refine (Int32.ofInt_tdiv ?_ ?_ ?_ ?_).symm
  · rw [Int32.toInt_minValue]; omega
  · rw [Int32.toInt_maxValue]; omega
  · rw [Int32.toInt_minValue]; omega
  · rw [Int32.toInt_maxValue]; omega
theorem du_irem {a b : Int} (a1 : -2147483648 ≤ a) (a2 : a < 2147483648) (b1 : -2147483648 ≤ b) (b2 : b < 2147483648) : du_i a - du_i a / du_i b * du_i b = du_i (a.tmod b) := by
  rw [du_idiv a1 a2 b1 b2, du_imul, du_isub, Int.tmod_def, Int.mul_comm b]
theorem du_i2l {z : Int} (h1 : -2147483648 ≤ z) (h2 : z < 2147483648) : (du_i z).toInt64 = du_l z := by
  have h : Int64.ofInt (du_i z).toInt = (du_i z).toInt64 := rfl
  rw [← h, du_iT h1 h2]
  rfl
theorem du_l2i (z : Int) : (du_l z).toInt32 = du_i z := Int64.toInt32_ofInt
theorem du_byte {z : Int} (h1 : -128 ≤ z) (h2 : z < 128) : vp_nar .byte (du_i z).toInt8.toInt32 = du_i z := by
  rw [pk_vb]
  apply Int32.toInt_inj.mp
  rw [Int8.toInt_toInt32, Int32.toInt_toInt8, du_iT (by omega) (by omega)]
  exact Int.bmod_eq_of_le (by omega) (by omega)
end
section
/-! decimal numbers without a program -/
theorem dc_pp (k : Nat) : 0 < 10 ^ k := Nat.pow_pos (by decide)
theorem dc_ple {a b : Nat} (h : a ≤ b) : 10 ^ a ≤ 10 ^ b := Nat.pow_le_pow_right (by decide) h
theorem dc_plt {a b : Nat} (h : a < b) : 10 ^ a < 10 ^ b := Nat.pow_lt_pow_right (by decide) h
theorem dc_pinj {a b : Nat} (h : 10 ^ a < 10 ^ b) : a < b := by
  apply Decidable.byContradiction
  intro hn
  have := dc_ple (a := b) (b := a) (by omega)
  omega
/-- d is the number of decimal digits of n (0 has one) -/
def dc_dg (n d : Nat) : Prop := 1 ≤ d ∧ n < 10 ^ d ∧ (d = 1 ∨ 10 ^ (d - 1) ≤ n)
theorem dc_dg_le {n d p : Nat} (h : dc_dg n d) (hp : 1 ≤ p) : d ≤ p ↔ n < 10 ^ p := by
  obtain ⟨h1, h2, h3⟩ := h
  constructor
  · intro hd
    exact Nat.lt_of_lt_of_le h2 (dc_ple hd)
  · intro hn
    rcases h3 with h3 | h3
    · omega
    · have := dc_pinj (Nat.lt_of_le_of_lt h3 hn)
      omega
theorem dc_dg_u {n d e : Nat} (h : dc_dg n d) (g : dc_dg n e) : d = e := by
  have a := (dc_dg_le h g.1).mpr g.2.1
  have b := (dc_dg_le g h.1).mpr h.2.1
  omega
theorem dc_dg_lo {n d : Nat} (h : dc_dg n d) (hn : 0 < n) : 10 ^ (d - 1) ≤ n := by
  rcases h.2.2 with h3 | h3
  · subst h3
    exact hn
  · exact h3
theorem dc_dg_mul {n d : Nat} (k : Nat) (hn : 0 < n) (h : dc_dg n d) : dc_dg (n * 10 ^ k) (d + k) := by
  refine ⟨by have := h.1; omega, ?_, Or.inr ?_⟩
  · rw [Nat.pow_add]
    exact Nat.mul_lt_mul_of_pos_right h.2.1 (dc_pp k)
  · have e : d + k - 1 = (d - 1) + k := by have := h.1; omega
    rw [e, Nat.pow_add]
    exact Nat.mul_le_mul_right _ (dc_dg_lo h hn)
/-- the digits of a number, from those of what is left when k are taken off -/
theorem dc_dg_up {n d k : Nat} (h : dc_dg (n / 10 ^ k) d) (hd : 2 ≤ d) : dc_dg n (d + k) := by
  refine ⟨by omega, ?_, Or.inr ?_⟩
  · rw [Nat.pow_add]
    exact (Nat.div_lt_iff_lt_mul (dc_pp k)).mp h.2.1
  · have e : d + k - 1 = (d - 1) + k := by omega
    rw [e, Nat.pow_add]
    rcases h.2.2 with h3 | h3
    · omega
    · exact (Nat.le_div_iff_mul_le (dc_pp k)).mp h3
theorem dc_dg_ex (n : Nat) : ∃ d, dc_dg n d := by
  induction n using Nat.strongRecOn with
  | ind n ih =>
    by_cases h : n < 10
    · exact ⟨1, by omega, by simpa using h, Or.inl rfl⟩
    · obtain ⟨d, hd⟩ := ih (n / 10) (by omega)
      refine ⟨d + 1, by omega, ?_, Or.inr ?_⟩
      · have h1 := hd.2.1
        rw [Nat.pow_succ]
        omega
      · have h1 := dc_dg_lo hd (by omega)
        have h0 := hd.1
        have e : d + 1 - 1 = (d - 1) + 1 := by omega
        rw [e, Nat.pow_succ]
        omega
/-- the zeros at the end -/
theorem dc_tz (M : Nat) (h : 0 < M) : ∃ m z, M = m * 10 ^ z ∧ m % 10 ≠ 0 := by
  induction M using Nat.strongRecOn with
  | ind M ih =>
    by_cases h0 : M % 10 = 0
    · obtain ⟨m, z, e, hm⟩ := ih (M / 10) (by omega) (by omega)
      refine ⟨m, z + 1, ?_, hm⟩
      rw [Nat.pow_succ, ← Nat.mul_assoc, ← e]
      omega
    · exact ⟨M, 0, by simp, h0⟩
theorem dc_tz_u {m n y z : Nat} (e : m * 10 ^ z = n * 10 ^ y) (hm : m % 10 ≠ 0) (hn : n % 10 ≠ 0) : m = n ∧ z = y := by
  rcases Nat.lt_trichotomy z y with h | h | h
  · obtain ⟨t, rfl⟩ : ∃ t, y = z + 1 + t := ⟨y - z - 1, by omega⟩
    have e2 : m * 10 ^ z = (n * 10 ^ t * 10) * 10 ^ z := by
      rw [e, Nat.pow_add, Nat.pow_succ]
      simp only [Nat.mul_assoc, Nat.mul_comm, Nat.mul_left_comm]
    have e3 := Nat.eq_of_mul_eq_mul_right (dc_pp z) e2
    omega
  · subst h
    exact ⟨Nat.eq_of_mul_eq_mul_right (dc_pp z) e, rfl⟩
  · obtain ⟨t, rfl⟩ : ∃ t, z = y + 1 + t := ⟨z - y - 1, by omega⟩
    have e2 : n * 10 ^ y = (m * 10 ^ t * 10) * 10 ^ y := by
      rw [← e, Nat.pow_add, Nat.pow_succ]
      simp only [Nat.mul_assoc, Nat.mul_comm, Nat.mul_left_comm]
    have e3 := Nat.eq_of_mul_eq_mul_right (dc_pp y) e2
    omega
/-! rounding: what is dropped against the middle; whether it goes up -/
def dc_hf (M j : Nat) (mo : Bool) : Int := if 2 * (M % 10 ^ j) < 10 ^ j then -1 else if 2 * (M % 10 ^ j) = 10 ^ j ∧ mo = false then 0 else 1
def dc_ex (M j : Nat) (mo : Bool) : Prop := M % 10 ^ j = 0 ∧ mo = false
def dc_up (mode : Int32) (neg : Bool) (kept : Nat) (h : Int) : Bool :=
  if mode = 2 then false else if mode = 3 then true else if mode = 4 then neg else if mode = 5 then !neg
  else if h = 0 then (if mode = 0 then decide (kept % 2 = 1) else decide (mode = 1)) else decide (0 < h)
/-- what is kept when j digits are dropped and it is not exact -/
def dc_rd (mode : Int32) (neg : Bool) (M j : Nat) (mo : Bool) : Nat := M / 10 ^ j + cond (dc_up mode neg (M / 10 ^ j) (dc_hf M j mo)) 1 0
def dc_mo (M k : Nat) (mo : Bool) : Bool := mo || decide (M % 10 ^ k ≠ 0)
theorem dc_mo_f {M k : Nat} {mo : Bool} : dc_mo M k mo = false ↔ mo = false ∧ M % 10 ^ k = 0 := by
  unfold dc_mo
  cases mo <;> simp
theorem dc_mod (M j k : Nat) : M % 10 ^ (j + k) = M % 10 ^ k + 10 ^ k * (M / 10 ^ k % 10 ^ j) := by
  rw [Nat.add_comm j k, Nat.pow_add, Nat.mod_mul]
theorem dc_even {j : Nat} (hj : 1 ≤ j) : ∃ b, 10 ^ j = 2 * b ∧ 0 < b := by
  obtain ⟨i, rfl⟩ : ∃ i, j = i + 1 := ⟨j - 1, by omega⟩
  refine ⟨5 * 10 ^ i, by rw [Nat.pow_succ]; omega, ?_⟩
  have := dc_pp i
  omega
theorem dc_cmp1 {A r q b : Nat} (h : r < A) : 2 * (r + A * q) < A * (2 * b) ↔ q < b := by
  constructor
  · intro h1
    apply Decidable.byContradiction
    intro h2
    have h3 : A * b ≤ A * q := Nat.mul_le_mul_left A (by omega)
    have h4 : A * (2 * b) = 2 * (A * b) := by rw [Nat.mul_left_comm]
    omega
  · intro h1
    have h3 : A * (q + 1) ≤ A * b := Nat.mul_le_mul_left A h1
    have h4 : A * (2 * b) = 2 * (A * b) := by rw [Nat.mul_left_comm]
    rw [Nat.mul_succ] at h3
    omega
theorem dc_cmp2 {A r q b : Nat} (h : r < A) : 2 * (r + A * q) = A * (2 * b) ↔ q = b ∧ r = 0 := by
  have h4 : A * (2 * b) = 2 * (A * b) := by rw [Nat.mul_left_comm]
  constructor
  · intro h1
    have h5 : ¬ q < b := fun z => by have := (dc_cmp1 (q := q) (b := b) h).mpr z; omega
    have h6 : q ≤ b := by
      apply Decidable.byContradiction
      intro h2
      have h3 : A * (b + 1) ≤ A * q := Nat.mul_le_mul_left A (by omega)
      rw [Nat.mul_succ] at h3
      omega
    have h7 : q = b := by omega
    subst h7
    exact ⟨rfl, by omega⟩
  · rintro ⟨rfl, rfl⟩
    omega
theorem dc_hf_sh (M k : Nat) (mo : Bool) {j : Nat} (hj : 1 ≤ j) : dc_hf (M / 10 ^ k) j (dc_mo M k mo) = dc_hf M (j + k) mo := by
  obtain ⟨b, eb, hb⟩ := dc_even hj
  have hr : M % 10 ^ k < 10 ^ k := Nat.mod_lt _ (dc_pp k)
  have e1 : 10 ^ (j + k) = 10 ^ k * (2 * b) := by rw [Nat.pow_add, eb, Nat.mul_comm]
  unfold dc_hf
  rw [dc_mod M j k, e1]
  have c1 := dc_cmp1 (q := M / 10 ^ k % 10 ^ j) (b := b) hr
  have c2 := dc_cmp2 (q := M / 10 ^ k % 10 ^ j) (b := b) hr
  rw [eb] at c1 c2 ⊢
  have c3 : (2 * (M / 10 ^ k % (2 * b)) < 2 * b) ↔ (2 * (M % 10 ^ k + 10 ^ k * (M / 10 ^ k % (2 * b))) < 10 ^ k * (2 * b)) := by
    rw [c1]; omega
  have c4 : (2 * (M / 10 ^ k % (2 * b)) = 2 * b ∧ dc_mo M k mo = false) ↔ (2 * (M % 10 ^ k + 10 ^ k * (M / 10 ^ k % (2 * b))) = 10 ^ k * (2 * b) ∧ mo = false) := by
    rw [c2, dc_mo_f]
    constructor
    · rintro ⟨h1, h2, h3⟩
      exact ⟨⟨by omega, h3⟩, h2⟩
    · rintro ⟨⟨h1, h2⟩, h3⟩
      exact ⟨by omega, h3, h2⟩
  simp only [c3, c4]
theorem dc_ex_sh (M j k : Nat) (mo : Bool) : dc_ex (M / 10 ^ k) j (dc_mo M k mo) ↔ dc_ex M (j + k) mo := by
  unfold dc_ex
  rw [dc_mod M j k, dc_mo_f]
  have := dc_pp k
  constructor
  · rintro ⟨h1, h2, h3⟩
    rw [h1, h3]
    exact ⟨by simp, h2⟩
  · rintro ⟨h1, h2⟩
    have h3 : M % 10 ^ k = 0 := by omega
    have h4 : 10 ^ k * (M / 10 ^ k % 10 ^ j) = 0 := by omega
    rcases Nat.mul_eq_zero.mp h4 with h5 | h5
    · omega
    · exact ⟨h5, h2, h3⟩
theorem dc_div (M j k : Nat) : M / 10 ^ k / 10 ^ j = M / 10 ^ (j + k) := by
  rw [Nat.div_div_eq_div_mul, ← Nat.pow_add, Nat.add_comm]
theorem dc_rd_sh (mode : Int32) (neg : Bool) (M k : Nat) (mo : Bool) {j : Nat} (hj : 1 ≤ j) : dc_rd mode neg (M / 10 ^ k) j (dc_mo M k mo) = dc_rd mode neg M (j + k) mo := by
  unfold dc_rd
  rw [dc_hf_sh M k mo hj, dc_div]
/-- M / 10^j has the p digits that are kept, so the rounded one is at most 10^p -/
theorem dc_rd_le {mode : Int32} {neg : Bool} {M j p : Nat} {mo : Bool} (h : M < 10 ^ (p + j)) : dc_rd mode neg M j mo ≤ 10 ^ p := by
  have h1 : M / 10 ^ j < 10 ^ p := (Nat.div_lt_iff_lt_mul (dc_pp j)).mpr (by rw [← Nat.pow_add]; exact h)
  unfold dc_rd
  cases dc_up mode neg (M / 10 ^ j) (dc_hf M j mo)
  · show M / 10 ^ j + 0 ≤ _
    omega
  · show M / 10 ^ j + 1 ≤ _
    omega
end
section
/-! what finishing gives: coefficient c, exponent e, flags fl, of the number M·10^s (mo: and something more behind its last digit), the exponent w wanted -/
def dc_y (p cn : Nat) (t w : Int) : Nat := min (p - cn) (t - w).toNat
def dc_FO (p : Nat) (mode : Int32) (neg : Bool) (M : Nat) (s : Int) (mo : Bool) (w : Int) (c : Nat) (e : Int) (fl : Int32) : Prop :=
  (∃ m z cn : Nat, mo = false ∧ M = m * 10 ^ z ∧ m % 10 ≠ 0 ∧ dc_dg m cn ∧ cn ≤ p ∧ c = m * 10 ^ dc_y p cn (s + z) w ∧ e = s + z - dc_y p cn (s + z) w ∧ fl = if w < e then 2 else 0)
  ∨ (∃ j : Nat, dc_dg M (p + j) ∧ 1 ≤ j ∧ ¬ dc_ex M j mo ∧ fl = 3 ∧ ((dc_rd mode neg M j mo = 10 ^ p ∧ c = 10 ^ (p - 1) ∧ e = s + j + 1) ∨ (dc_rd mode neg M j mo ≠ 10 ^ p ∧ c = dc_rd mode neg M j mo ∧ e = s + j)))
theorem dc_FO_x {p m z cn j M : Nat} {mo : Bool} (h1 : mo = false) (h2 : M = m * 10 ^ z) (h3 : m % 10 ≠ 0) (h4 : dc_dg m cn) (h5 : cn ≤ p) (g1 : dc_dg M (p + j)) (g3 : ¬ dc_ex M j mo) : False := by
  subst h2
  have h6 := dc_dg_u (dc_dg_mul z (by omega) h4) g1
  apply g3
  refine ⟨?_, h1⟩
  obtain ⟨t, rfl⟩ : ∃ t, z = t + j := ⟨z - j, by omega⟩
  rw [Nat.pow_add, ← Nat.mul_assoc]
  exact Nat.mul_mod_left _ _
theorem dc_FO_u {p : Nat} {mode : Int32} {neg : Bool} {M : Nat} {s : Int} {mo : Bool} {w : Int} {c c' : Nat} {e e' : Int} {fl fl' : Int32} (h : dc_FO p mode neg M s mo w c e fl) (g : dc_FO p mode neg M s mo w c' e' fl') : c = c' ∧ e = e' ∧ fl = fl' := by
  rcases h with ⟨m, z, cn, h1, h2, h3, h4, h5, h6, h7, h8⟩ | ⟨j, h1, h2, h3, h4, h5⟩
  · rcases g with ⟨m', z', cn', g1, g2, g3, g4, g5, g6, g7, g8⟩ | ⟨j', g1, g2, g3, g4, g5⟩
    · obtain ⟨rfl, rfl⟩ := dc_tz_u (h2.symm.trans g2) h3 g3
      cases dc_dg_u h4 g4
      cases h7.trans g7.symm
      exact ⟨h6.trans g6.symm, rfl, h8.trans g8.symm⟩
    · exact (dc_FO_x h1 h2 h3 h4 h5 g1 g3).elim
  · rcases g with ⟨m', z', cn', g1, g2, g3, g4, g5, g6, g7, g8⟩ | ⟨j', g1, g2, g3, g4, g5⟩
    · exact (dc_FO_x g1 g2 g3 g4 g5 h1 h3).elim
    · have hj : j = j' := by have := dc_dg_u h1 g1; omega
      subst hj
      rcases h5 with ⟨a1, a2, a3⟩ | ⟨a1, a2, a3⟩
      · rcases g5 with ⟨b1, b2, b3⟩ | ⟨b1, b2, b3⟩
        · exact ⟨a2.trans b2.symm, a3.trans b3.symm, h4.trans g4.symm⟩
        · exact (b1 a1).elim
      · rcases g5 with ⟨b1, b2, b3⟩ | ⟨b1, b2, b3⟩
        · exact (a1 b1).elim
        · exact ⟨a2.trans b2.symm, a3.trans b3.symm, h4.trans g4.symm⟩
theorem dc_FO_sh {p : Nat} {mode : Int32} {neg : Bool} {M k : Nat} {s : Int} {mo : Bool} {w : Int} {c : Nat} {e : Int} {fl : Int32} (hp : 1 ≤ p) (h : dc_FO p mode neg (M / 10 ^ k) (s + k) (dc_mo M k mo) w c e fl) : dc_FO p mode neg M s mo w c e fl := by
  rcases h with ⟨m, z, cn, h1, h2, h3, h4, h5, h6, h7, h8⟩ | ⟨j, h1, h2, h3, h4, h5⟩
  · obtain ⟨a1, a2⟩ := dc_mo_f.mp h1
    have es : s + (k : Int) + (z : Int) = s + ((z + k : Nat) : Int) := by omega
    rw [es] at h6 h7
    refine Or.inl ⟨m, z + k, cn, a1, ?_, h3, h4, h5, h6, h7, h8⟩
    rw [Nat.pow_add, ← Nat.mul_assoc, ← h2]
    exact (Nat.div_mul_cancel (Nat.dvd_of_mod_eq_zero a2)).symm
  · refine Or.inr ⟨j + k, ?_, by omega, fun z => h3 ((dc_ex_sh M j k mo).mpr z), h4, ?_⟩
    · rw [← Nat.add_assoc]
      exact dc_dg_up h1 (by omega)
    · rw [dc_rd_sh mode neg M k mo h2] at h5
      rcases h5 with ⟨a1, a2, a3⟩ | ⟨a1, a2, a3⟩
      · exact Or.inl ⟨a1, a2, by omega⟩
      · exact Or.inr ⟨a1, a2, by omega⟩
theorem dc_FO_c {p : Nat} {mode : Int32} {neg : Bool} {M : Nat} {s : Int} {mo : Bool} {w : Int} {c : Nat} {e : Int} {fl : Int32} (hp : 1 ≤ p) (h : dc_FO p mode neg M s mo w c e fl) : 0 < c ∧ c < 10 ^ p := by
  rcases h with ⟨m, z, cn, h1, h2, h3, h4, h5, h6, h7, h8⟩ | ⟨j, h1, h2, h3, h4, h5⟩
  · have hy : dc_y p cn (s + z) w ≤ p - cn := Nat.min_le_left _ _
    have hg := dc_dg_mul (dc_y p cn (s + z) w) (by omega) h4
    rw [← h6] at hg
    refine ⟨?_, (dc_dg_le hg hp).mp (by omega)⟩
    rw [h6]
    exact Nat.mul_pos (by omega) (dc_pp _)
  · have hl := dc_rd_le (mode := mode) (neg := neg) (mo := mo) h1.2.1
    have hk : 10 ^ (p - 1) ≤ M / 10 ^ j := by
      refine (Nat.le_div_iff_mul_le (dc_pp j)).mpr ?_
      rw [← Nat.pow_add]
      have e : p - 1 + j = p + j - 1 := by omega
      rw [e]
      rcases h1.2.2 with h | h
      · omega
      · exact h
    have h0 := dc_pp (p - 1)
    rcases h5 with ⟨a1, a2, a3⟩ | ⟨a1, a2, a3⟩
    · rw [a2]
      exact ⟨h0, dc_plt (by omega)⟩
    · rw [a2]
      have h9 : M / 10 ^ j ≤ dc_rd mode neg M j mo := Nat.le_add_right _ _
      exact ⟨by omega, by omega⟩
/-- the far sum: f·T and a, of the same sign or not -/
theorem dc_far1 {f a T : Nat} (hT : 0 < T) : (f * T + a) / T = f + a / T ∧ (f * T + a) % T = a % T := by
  rw [Nat.add_comm (f * T) a]
  refine ⟨?_, Nat.add_mul_mod_self_right a f T⟩
  rw [Nat.add_mul_div_right _ _ hT, Nat.add_comm]
theorem dc_far2 {f a T : Nat} (hT : 0 < T) (h : a / T < f) (hr : a % T = 0) : (f * T - a) / T = f - a / T ∧ (f * T - a) % T = 0 := by
  have e : f * T - a = (f - a / T) * T := by
    have e1 := Nat.div_add_mod' a T
    rw [Nat.sub_mul]
    omega
  rw [e]
  exact ⟨Nat.mul_div_cancel _ hT, Nat.mul_mod_left _ _⟩
theorem dc_far3 {f a T : Nat} (h : a / T < f) (hr : a % T ≠ 0) (hT : 0 < T) : (f * T - a) / T = f - a / T - 1 ∧ (f * T - a) % T ≠ 0 := by
  have e1 := Nat.div_add_mod' a T
  have hl := Nat.mod_lt a hT
  have e : f * T - a = (T - a % T) + (f - a / T - 1) * T := by
    obtain ⟨g, rfl⟩ : ∃ g, f = g + 1 + a / T := ⟨f - a / T - 1, by omega⟩
    have e2 : g + 1 + a / T - a / T - 1 = g := by omega
    rw [e2, Nat.add_mul, Nat.add_mul, Nat.one_mul]
    omega
  rw [e, Nat.add_mul_div_right _ _ hT, Nat.add_mul_mod_self_right, Nat.div_eq_of_lt (by omega), Nat.mod_eq_of_lt (by omega)]
  exact ⟨by omega, by omega⟩
/-- division by D with so many digits more -/
theorem dc_quo {S D T : Nat} (hD : 0 < D) (hT : 0 < T) : S * T / D / T = S / D ∧ ((S * T / D % T ≠ 0 ∨ S * T % D ≠ 0) ↔ S % D ≠ 0) := by
  have e1 := Nat.div_add_mod' S D
  have hr := Nat.mod_lt S hD
  refine ⟨?_, ?_⟩
  · rw [Nat.div_div_eq_div_mul, Nat.mul_div_mul_right _ _ hT]
  · have e2 : S * T = S % D * T + S / D * T * D := by
      have : S * T = (S / D * D + S % D) * T := by rw [e1]
      rw [this, Nat.add_mul, Nat.mul_assoc, Nat.mul_comm D T, ← Nat.mul_assoc]
      omega
    have e3 : S * T % D = S % D * T % D := by rw [e2, Nat.add_mul_mod_self_right]
    have e4 : S * T / D = S % D * T / D + S / D * T := by rw [e2, Nat.add_mul_div_right _ _ hD]
    have hq : S % D * T / D < T := by
      rw [Nat.div_lt_iff_lt_mul hD, Nat.mul_comm]
      exact Nat.mul_lt_mul_of_pos_left hr hT
    rw [e3, e4, Nat.add_mul_mod_self_right, Nat.mod_eq_of_lt hq]
    constructor
    · intro h z
      rw [z] at h
      simp at h
    · intro h
      have h5 := Nat.div_add_mod' (S % D * T) D
      have h6 : 0 < S % D * T := Nat.mul_pos (by omega) hT
      apply Decidable.byContradiction
      intro h7
      have h8 : S % D * T / D = 0 := by omega
      have h9 : S % D * T % D = 0 := by omega
      rw [h8, h9] at h5
      omega
end
section
/-! the component's small methods -/
def dx_te (te : Nat → Int64) : Prop := ∀ k, k < 19 → te k = lN (10 ^ k)
theorem dc_p18 {d : Nat} (h : d ≤ 18) : 10 ^ d ≤ 1000000000000000000 := Nat.le_trans (dc_ple h) (by decide)
section
variable {P md ra ng sc mo : Int32} {mg : Int64} {co ex : Nat → Int32} {te : Nat → Int64}
theorem dx_dig_l {post : Int32 → Prop} (hte : dx_te te) {M d : Nat} (hM : M < 9223372036854775808) (hd : dc_dg M d) (hp : post (nI d)) : ∀ t d0 : Nat, d0 + t = 19 → 1 ≤ d0 → d0 ≤ d → wX_digitsOf_2 post (lN M) P md ra ng mg sc mo co ex te (t + 1) (nI d0) := by
  have h19 : d ≤ 19 := (dc_dg_le hd (by decide)).mpr (Nat.lt_of_lt_of_le hM (by decide))
  intro t
  induction t with
  | zero =>
    intro d0 h0 h1 h2
    have e : d0 = d := by omega
    have e2 : d = 19 := by omega
    subst e
    subst e2
    exact br_t (by decide) hp
  | succ t ih =>
    intro d0 h0 h1 h2
    have hn : ¬ (19 : Int32) ≤ nI d0 := nI_ge (b := 19) (by omega) (by decide)
    have hi : vp_in (nI d0) 19 := vp_in_nI (by omega) (by decide)
    have hc : (nI d0).toNatClampNeg = d0 := nI_clamp (by omega)
    have h18 := dc_p18 (d := d0) (by omega)
    have hw : te (nI d0).toNatClampNeg = lN (10 ^ d0) := by rw [hc]; exact hte d0 (by omega)
    refine br_f hn (And.intro hi (dn_lt M (10 ^ d0) (fun h => ?_) (fun h => ?_) rfl hw))
    · have e : d0 = d := by have := (dc_dg_le hd h1).mpr h; omega
      subst e
      exact hp
    · have e : ¬ d ≤ d0 := fun z => by have := (dc_dg_le hd h1).mp z; omega
      exact nm_r (nI_1 d0) (ih (d0 + 1) (by omega) (by omega) (by omega))
theorem dx_dig {post : Int32 → Prop} (hte : dx_te te) {M d : Nat} (hM : M < 9223372036854775808) (hd : dc_dg M d) (hp : post (nI d)) : wpX_digitsOf post (P, md, ra, ng, mg, sc, mo, co, ex, te) (lN M) :=
  ⟨19, dx_dig_l hte hM hd hp 18 1 rfl (by decide) hd.1⟩
theorem dx_take {post : SX → Prop} {z : Int} {x0 : Int64} (hx : x0 = du_l z) (h1 : -9223372036854775808 < z) (h2 : z < 9223372036854775808) {x : Int32} (hp : post (P, md, ra, du_b (decide (z < 0)), lN z.natAbs, x, 0, co, ex, te)) : wpX_take post (P, md, ra, ng, mg, sc, mo, co, ex, te) x0 x := by
  subst hx
  refine dl_le 0 z (fun h => ?_) (fun h => ?_)
  · have e1 : decide (z < 0) = false := decide_eq_false (by omega)
    have e2 : lN z.natAbs = du_l z := by rw [du_lN]; exact congrArg du_l (by omega)
    rw [e1, e2] at hp
    exact And.intro (db_nar false) (And.intro (db_fit false) (br_t rfl hp))
  · have e1 : decide (z < 0) = true := decide_eq_true (by omega)
    have e2 : lN z.natAbs = -du_l z := by rw [du_lN, du_lneg]; exact congrArg du_l (by omega)
    rw [e1, e2] at hp
    exact And.intro (db_nar true) (And.intro (db_fit true) (br_f (by decide) hp))
theorem dx_takeN {post : SX → Prop} {n : Nat} {x0 : Int64} (hx : x0 = lN n) (h2 : n < 9223372036854775808) {x : Int32} (hp : post (P, md, ra, 0, lN n, x, 0, co, ex, te)) : wpX_take post (P, md, ra, ng, mg, sc, mo, co, ex, te) x0 x := by
  refine dx_take (z := (n : Int)) (by rw [hx, du_lN]) (by omega) (by omega) ?_
  have e1 : decide ((n : Int) < 0) = false := decide_eq_false (by omega)
  have e2 : (n : Int).natAbs = n := Int.natAbs_natCast n
  rw [e1, e2]
  exact hp
theorem dx_goes {post : Int32 → Prop} {nb : Bool} {kept : Nat} (hk : kept < 9223372036854775808) {h : Int} (hh : h = -1 ∨ h = 0 ∨ h = 1) (hp : post (du_b (dc_up md nb kept h))) : wpX_goesUp post (P, md, ra, du_b nb, mg, sc, mo, co, ex, te) (lN kept) (du_i h) := by
  unfold dc_up at hp
  refine br_c (fun c => ?_) (fun c => ?_)
  · rw [if_pos c] at hp
    exact hp
  rw [if_neg c] at hp
  refine br_c (fun c => ?_) (fun c => ?_)
  · rw [if_pos c] at hp
    exact hp
  rw [if_neg c] at hp
  refine br_c (fun c => ?_) (fun c => ?_)
  · rw [if_pos c] at hp
    exact And.intro (db_nar nb) hp
  rw [if_neg c] at hp
  refine br_c (fun c => ?_) (fun c => ?_)
  · rw [if_pos c] at hp
    refine db_0 nb (fun e => ?_) (fun e => ?_)
    · subst e
      exact hp
    · subst e
      exact hp
  rw [if_neg c] at hp
  refine di_eq h 0 (fun e => ?_) (fun e => ?_)
  · rw [if_pos e] at hp
    refine br_c (fun c => ?_) (fun c => ?_)
    · rw [if_pos c] at hp
      refine dn_eq (kept % 2) 0 (fun e => ?_) (fun e => ?_) (g_and1 (by omega))
      · rw [decide_eq_false (by omega)] at hp
        exact hp
      · rw [decide_eq_true (by omega)] at hp
        exact hp
    · rw [if_neg c] at hp
      refine br_c (fun c => ?_) (fun c => ?_)
      · rw [decide_eq_true c] at hp
        exact hp
      · rw [decide_eq_false c] at hp
        exact hp
  · rw [if_neg e] at hp
    refine di_le h 0 (fun e => ?_) (fun e => ?_)
    · rw [decide_eq_false (by omega)] at hp
      exact hp
    · rw [decide_eq_true (by omega)] at hp
      exact hp
theorem dc_hf_r (M j : Nat) (mb : Bool) : dc_hf M j mb = -1 ∨ dc_hf M j mb = 0 ∨ dc_hf M j mb = 1 := by
  unfold dc_hf
  split
  · exact Or.inl rfl
  · split
    · exact Or.inr (Or.inl rfl)
    · exact Or.inr (Or.inr rfl)
theorem dx_half {post : Int32 → Prop} {M j : Nat} {mb : Bool} (hj : j ≤ 18) (hp : post (du_i (dc_hf M j mb))) : wpX_halfOf post (P, md, ra, ng, mg, sc, du_b mb, co, ex, te) (lN (M % 10 ^ j)) (lN (10 ^ j)) := by
  have h18 := dc_p18 hj
  have h0 := dc_pp j
  have hr : M % 10 ^ j < 10 ^ j := Nat.mod_lt _ h0
  unfold dc_hf at hp
  refine dn_eq (10 ^ j) 0 (fun e => by omega) (fun e => nm_r (lN_sub (by omega)) ?_)
  refine dn_eq (M % 10 ^ j) (10 ^ j - M % 10 ^ j) (fun e => ?_) (fun e => ?_)
  · rw [if_neg (by omega)] at hp
    refine db_0 mb (fun c => ?_) (fun c => ?_)
    · rw [if_pos ⟨by omega, c⟩] at hp
      exact hp
    · rw [if_neg (fun z => by rw [c] at z; exact absurd z.2 (by decide))] at hp
      exact hp
  · refine dn_le (M % 10 ^ j) (10 ^ j - M % 10 ^ j) (fun e2 => ?_) (fun e2 => ?_)
    · rw [if_pos (by omega)] at hp
      exact hp
    · rw [if_neg (by omega), if_neg (fun z => by omega)] at hp
      exact hp
theorem dx_d64 {post : Int32 → SX → Prop} {un : Int64} {kept dr : Nat} {h : Int} {nb mb : Bool} (hh : h = -1 ∨ h = 0 ∨ h = 1)
    (hhalf : ∀ post' : Int32 → Prop, post' (du_i h) → wpX_halfOf post' (P, md, ra, du_b nb, mg, sc, du_b mb, co, ex, te) (lN dr) un)
    (hdr : dr < 9223372036854775808) (hk : kept < 9223372036854775808)
    (hp : dr = 0 ∧ mb = false → post 2 (P, md, ra, du_b nb, lN kept, sc, 0, co, ex, te))
    (hq : ¬ (dr = 0 ∧ mb = false) → post 3 (P, md, ra, du_b nb, lN (kept + cond (dc_up md nb kept h) 1 0), sc, 0, co, ex, te)) :
    wX_dropDigits_64 post un (lN kept) (lN dr) P md ra (du_b nb) mg sc (du_b mb) co ex te := by
  have K : ¬ (dr = 0 ∧ mb = false) → wX_dropDigits_84 post un (lN kept) (lN dr) P md ra (du_b nb) mg sc (du_b mb) co ex te := by
    intro hx
    have hq := hq hx
    refine br_t rfl (hhalf _ (dx_goes hk hh (db_0 _ (fun e => ?_) (fun e => ?_))))
    · rw [e] at hq
      exact br_t rfl hq
    · rw [e] at hq
      exact nm_r (lN_1 kept) (br_t rfl hq)
  refine dn_eq dr 0 (fun e => ?_) (fun e => K (fun z => e z.1))
  refine db_0 mb (fun c => ?_) (fun c => K (fun z => by rw [c] at z; exact absurd z.2 (by decide)))
  exact br_f (by decide) (br_f (by decide) (hp ⟨e, c⟩))
theorem dx_drop {post : Int32 → SX → Prop} (hte : dx_te te) {M j : Nat} {s : Int} {nb mb : Bool} {x : Int32} (hx : x = nI j) (hM : M < 2000000000000000000) (hj2 : j ≤ 1000)
    (hp : dc_ex M j mb → post 2 (P, md, ra, du_b nb, lN (M / 10 ^ j), du_i (s + j), 0, co, ex, te))
    (hq : ¬ dc_ex M j mb → post 3 (P, md, ra, du_b nb, lN (dc_rd md nb M j mb), du_i (s + j), 0, co, ex, te)) :
    wpX_dropDigits post (P, md, ra, du_b nb, lN M, du_i s, du_b mb, co, ex, te) x := by
  subst hx
  refine nm_r (du_iaddN s j) (pk_le j 18 (fun h => ?_) (fun h => ?_))
  · have h18 := dc_p18 h
    have h0 := dc_pp j
    have hw : te (nI j).toNatClampNeg = lN (10 ^ j) := by rw [nI_clamp (by omega)]; exact hte j (by omega)
    have hr : M % 10 ^ j < 10 ^ j := Nat.mod_lt _ h0
    have hk : M / 10 ^ j ≤ M := Nat.div_le_self _ _
    have hne : ¬ lN (10 ^ j) = 0 := fun z => by
      have := (pk_lEQ (a := 10 ^ j) (b := 0) (by omega) (by omega)).mp z
      omega
    refine And.intro (vp_in_nI (by omega) (by decide)) ?_
    rw [hw]
    refine br_f hne (And.intro hne (br_f hne (And.intro hne ?_)))
    rw [pk_lRem (by omega) h0 (by omega), pk_lDiv (by omega) h0 (by omega)]
    exact dx_d64 (dc_hf_r M j mb) (fun _ h => dx_half (by omega) h) (by omega) (by omega) hp hq
  · have h19 : (10000000000000000000 : Nat) ≤ 10 ^ j := Nat.le_trans (by decide) (dc_ple (a := 19) (b := j) (by omega))
    have e1 : M / 10 ^ j = 0 := Nat.div_eq_of_lt (by omega)
    have e2 : M % 10 ^ j = M := Nat.mod_eq_of_lt (by omega)
    have e3 : dc_hf M j mb = -1 := by
      unfold dc_hf
      rw [e2, if_pos (by omega)]
    unfold dc_rd at hq
    unfold dc_ex at hp hq
    rw [e1, e2] at hp hq
    rw [e3] at hq
    refine br_t rfl (br_t rfl ?_)
    exact dx_d64 (kept := 0) (h := -1) (Or.inl rfl) (fun post' h' => br_t rfl h') (by omega) (by omega) hp hq
end
end
section
/-! the component's approach, store and finish -/
theorem dc_y_1 (p cn : Nat) (t w : Int) : dc_y p cn t w ≤ p - cn := Nat.min_le_left _ _
theorem dc_y_2 (p cn : Nat) (t w : Int) : dc_y p cn t w ≤ (t - w).toNat := Nat.min_le_right _ _
theorem dc_y_3 (p cn : Nat) (t w : Int) : dc_y p cn t w = p - cn ∨ dc_y p cn t w = (t - w).toNat := by
  unfold dc_y
  rcases Nat.le_total (p - cn) (t - w).toNat with h | h
  · exact Or.inl (Nat.min_eq_left h)
  · exact Or.inr (Nat.min_eq_right h)
theorem dc_y_4 {p cn y : Nat} {t w : Int} (h1 : y ≤ p - cn) (h2 : y ≤ (t - w).toNat) : y ≤ dc_y p cn t w := Nat.le_min.mpr ⟨h1, h2⟩
def dc_in (e : Int) : Bool := decide (-20 ≤ e ∧ e ≤ 20)
def dc_sg (nb : Bool) (c : Nat) : Int := cond nb (-(c : Int)) c
def dc_r (e : Int) (fl : Int32) : Int32 := cond (dc_in e) fl 8
def dc_co (d : Nat) (nb : Bool) (c : Nat) (e : Int) (co : Nat → Int32) : Nat → Int32 := cond (dc_in e) (upd co d (du_i (dc_sg nb c))) co
def dc_ee (d : Nat) (e : Int) (ex : Nat → Int32) : Nat → Int32 := cond (dc_in e) (upd ex d (du_i e)) ex
def dc_clp (w : Int) : Int := if w < -20 then -20 else if 20 < w then 20 else w
section
variable {p : Nat} {md ra ng mo : Int32} {co ex : Nat → Int32} {te : Nat → Int64}
theorem dx_ap66 {post : SX → Prop} {m cn : Nat} {t w : Int} (hp7 : p ≤ 7) (t1 : -1000000 ≤ t) (t2 : t ≤ 1000000) (w1 : -1000000 ≤ w) (w2 : w ≤ 1000000) (hcn : cn ≤ 20)
    (hp : post (nI p, md, ra, ng, lN (m * 10 ^ dc_y p cn t w), du_i (t - dc_y p cn t w), mo, co, ex, te)) :
    ∀ f y : Nat, y + f = dc_y p cn t w → wX_approach_66 post (du_i w) (nI p) md ra ng mo co ex te (f + 1) (nI (cn + y)) (lN (m * 10 ^ y)) (du_i (t - y)) := by
  have b1 := dc_y_1 p cn t w
  have b2 := dc_y_2 p cn t w
  have b3 := dc_y_3 p cn t w
  intro f
  induction f with
  | zero =>
    intro y hy
    have e : y = dc_y p cn t w := by omega
    rw [← e] at hp
    refine di_le (t - y) w (fun _ => hp) (fun h => pk_le p (cn + y) (fun _ => hp) (fun h2 => ?_))
    exfalso
    omega
  | succ f ih =>
    intro y hy
    have e1 : lN (m * 10 ^ y) * 10 = lN (m * 10 ^ (y + 1)) := by
      rw [Nat.pow_succ, ← Nat.mul_assoc]
      exact lN_mul _ 10
    have e2 : du_i (t - y) - 1 = du_i (t - (y + 1 : Nat)) := by
      have h : du_i (t - y) - 1 = du_i (t - y - 1) := du_isub _ 1
      rw [h]
      exact congrArg du_i (by omega)
    refine di_le (t - y) w (fun h => ?_) (fun h => pk_le p (cn + y) (fun h2 => ?_) (fun h2 => ?_))
    · exfalso
      omega
    · exfalso
      omega
    · exact nm_r e1 (nm_r e2 (nm_r (nI_1 _) (ih (y + 1) (by omega))))
theorem dx_ap9 {post : SX → Prop} {m cn z : Nat} {t w : Int} (hm : m % 10 ≠ 0) (hz : m * 10 ^ z < 9223372036854775808) (hp7 : p ≤ 7) (t1 : -1000000 ≤ t) (t2 : t ≤ 1000000) (w1 : -1000000 ≤ w) (w2 : w ≤ 1000000) (hcn : cn + z ≤ 20)
    (hp : post (nI p, md, ra, ng, lN (m * 10 ^ dc_y p cn t w), du_i (t - dc_y p cn t w), mo, co, ex, te)) :
    ∀ y : Nat, y ≤ z → wX_approach_9 post (du_i w) (nI p) md ra ng mo co ex te (y + 1) (nI (cn + y)) (lN (m * 10 ^ y)) (du_i (t - y)) := by
  intro y
  induction y with
  | zero =>
    intro hy
    have e0 : m * 10 ^ 0 = m := by simp
    have hb : m * 10 ^ 0 ≤ m * 10 ^ z := Nat.mul_le_mul_left m (dc_ple hy)
    refine And.intro (by decide) (dn_eq (m * 10 ^ 0 % 10) 0 (fun h => ?_) (fun h => ?_) (pk_lRem (b := 10) (by omega) (by decide) (by decide)))
    · rw [e0] at h
      exact absurd h hm
    · exact ⟨dc_y p cn t w + 1, dx_ap66 hp7 t1 t2 w1 w2 (by omega) hp (dc_y p cn t w) 0 (by omega)⟩
  | succ y ih =>
    intro hy
    have hb : m * 10 ^ (y + 1) ≤ m * 10 ^ z := Nat.mul_le_mul_left m (dc_ple hy)
    have e0 : m * 10 ^ (y + 1) = m * 10 ^ y * 10 := by rw [Nat.pow_succ, Nat.mul_assoc]
    have e1 : lN (m * 10 ^ (y + 1)) / 10 = lN (m * 10 ^ y) := by
      have h : lN (m * 10 ^ (y + 1)) / lN 10 = lN (m * 10 ^ (y + 1) / 10) := pk_lDiv (by omega) (by decide) (by decide)
      have h2 : m * 10 ^ (y + 1) / 10 = m * 10 ^ y := by omega
      rw [h2] at h
      exact h
    have e2 : du_i (t - (y + 1 : Nat)) + 1 = du_i (t - y) := by
      have h : du_i (t - (y + 1 : Nat)) + 1 = du_i (t - (y + 1 : Nat) + 1) := du_iadd _ 1
      rw [h]
      exact congrArg du_i (by omega)
    have S : wX_approach_38 post (wX_approach_9 post (du_i w) (nI p) md ra ng mo co ex te (y + 1)) (du_i w) (nI (cn + (y + 1))) (nI p) md ra ng (lN (m * 10 ^ (y + 1))) (du_i (t - (y + 1 : Nat))) mo co ex te :=
      And.intro (by decide) (nm_r e1 (nm_r e2 (nm_r (pk_m1 _) (ih (by omega)))))
    refine And.intro (by decide) (dn_eq (m * 10 ^ (y + 1) % 10) 0 (fun h => ?_) (fun h => ?_) (pk_lRem (b := 10) (by omega) (by decide) (by decide)))
    · refine di_lt (t - (y + 1 : Nat)) w (fun _ => S) (fun h1 => pk_le (cn + (y + 1)) p (fun h2 => ?_) (fun _ => S))
      have hT : y + 1 ≤ dc_y p cn t w := dc_y_4 (by omega) (by omega)
      exact ⟨dc_y p cn t w - (y + 1) + 1, dx_ap66 hp7 t1 t2 w1 w2 (by omega) hp _ (y + 1) (by omega)⟩
    · exfalso
      omega
theorem dx_appr {post : SX → Prop} (hte : dx_te te) {m cn z : Nat} {t w : Int} (hm : m % 10 ≠ 0) (hdg : dc_dg m cn) (hz : m * 10 ^ z < 9223372036854775808) (hp7 : p ≤ 7) (t1 : -1000000 ≤ t) (t2 : t ≤ 1000000) (w1 : -1000000 ≤ w) (w2 : w ≤ 1000000)
    (hp : post (nI p, md, ra, ng, lN (m * 10 ^ dc_y p cn t w), du_i (t - dc_y p cn t w), mo, co, ex, te)) :
    wpX_approach post (nI p, md, ra, ng, lN (m * 10 ^ z), du_i (t - z), mo, co, ex, te) (du_i w) := by
  have hd := dc_dg_mul z (by omega) hdg
  have h19 : cn + z ≤ 19 := (dc_dg_le hd (by decide)).mpr (Nat.lt_of_lt_of_le hz (by decide))
  refine dx_dig hte hz hd ?_
  exact ⟨z + 1, dx_ap9 hm hz hp7 t1 t2 w1 w2 (by omega) hp z (Nat.le_refl z)⟩
theorem dx_store {post : SX → Prop} {P : Int32} {nb : Bool} {d c : Nat} {e : Int} (hd : d < 6) (e1 : -20 ≤ e) (e2 : e ≤ 20)
    (hp : post (P, md, ra, du_b nb, lN c, du_i e, mo, upd co d (du_i (dc_sg nb c)), upd ex d (du_i e), te)) :
    wpX_store post (P, md, ra, du_b nb, lN c, du_i e, mo, co, ex, te) (nI d) := by
  have hc : (nI d).toNatClampNeg = d := nI_clamp (by omega)
  have hi : vp_in (nI d) 6 := vp_in_nI hd (by decide)
  have ee : upd ex (nI d).toNatClampNeg (vp_nar .byte (du_i e).toInt8.toInt32) = upd ex d (du_i e) := by
    rw [hc, du_byte (by omega) (by omega)]
  refine db_0 nb (fun h => ?_) (fun h => ?_)
  · subst h
    have ec : upd co (nI d).toNatClampNeg (lN c).toInt32 = upd co d (du_i (dc_sg false c)) := by
      rw [hc, lN_i, du_iN]
      rfl
    exact And.intro hi (nm_r ec (And.intro hi (nm_r ee hp)))
  · subst h
    have ec : upd co (nI d).toNatClampNeg (-lN c).toInt32 = upd co d (du_i (dc_sg true c)) := by
      rw [hc, du_lN, du_lneg, du_l2i]
      rfl
    exact And.intro hi (nm_r ec (And.intro hi (nm_r ee hp)))
theorem dx_fin155 {post : Int32 → SX → Prop} {P fl : Int32} {nb : Bool} {d c : Nat} {e : Int} (hd : d < 6) (e1 : -1000000 ≤ e) (e2 : e ≤ 1000000)
    (hp : ∀ ng' mg' sc' mo', post (dc_r e fl) (P, md, ra ||| dc_r e fl, ng', mg', sc', mo', dc_co d nb c e co, dc_ee d e ex, te)) :
    wX_finish_155 post (nI d) fl P md ra (du_b nb) (lN c) (du_i e) mo co ex te := by
  unfold dc_r dc_co dc_ee at hp
  have K : ¬ (-20 ≤ e ∧ e ≤ 20) → wX_finish_173 post P md ra (du_b nb) (lN c) (du_i e) mo co ex te := by
    intro h
    have hf : dc_in e = false := decide_eq_false h
    rw [hf] at hp
    exact nm_e (hp _ _ _ _)
  refine di_lt e (-20) (fun h => K (by omega)) (fun h => di_le e 20 (fun h2 => ?_) (fun h2 => K (by omega)))
  have hf : dc_in e = true := decide_eq_true ⟨h, h2⟩
  rw [hf] at hp
  exact dx_store hd h h2 (nm_e (hp _ _ _ _))
theorem dx_fin143 {post : Int32 → SX → Prop} {P fl fl0 : Int32} {nb : Bool} {d c : Nat} {e w : Int} (hd : d < 6) (e1 : -1000000 ≤ e) (e2 : e ≤ 1000000) (w1 : -1000000 ≤ w) (w2 : w ≤ 1000000) (hf : fl = if w < e then fl0 ||| 2 else fl0)
    (hp : ∀ ng' mg' sc' mo', post (dc_r e fl) (P, md, ra ||| dc_r e fl, ng', mg', sc', mo', dc_co d nb c e co, dc_ee d e ex, te)) :
    wX_finish_143 post (nI d) (du_i w) fl0 P md ra (du_b nb) (lN c) (du_i e) mo co ex te := by
  refine di_le e w (fun h => ?_) (fun h => ?_)
  · rw [if_neg (by omega)] at hf
    subst hf
    exact dx_fin155 hd e1 e2 hp
  · rw [if_pos (by omega)] at hf
    subst hf
    exact nm_e (dx_fin155 hd e1 e2 hp)
theorem dx_fin73b (hte : dx_te te) {M j d : Nat} {s w : Int} {nb mb : Bool} (hd : d < 6) (hp3 : 3 ≤ p) (hp7 : p ≤ 7) (hM : M < 2000000000000000000) (hD : dc_dg M (p + j)) (hj : 1 ≤ j) (hx : ¬ dc_ex M j mb)
    (s1 : -100000 ≤ s) (s2 : s ≤ 100000) (w1 : -1000000 ≤ w) (w2 : w ≤ 1000000) :
    ∃ (c : Nat) (e : Int), dc_FO p md nb M s mb w c e 3 ∧ ∀ post : Int32 → SX → Prop, (∀ ng' mg' sc' mo', post (dc_r e 3) (nI p, md, ra ||| dc_r e 3, ng', mg', sc', mo', dc_co d nb c e co, dc_ee d e ex, te)) → wX_finish_73 post (nI d) (du_i w) 0 (nI p) md ra (du_b nb) (lN M) (du_i s) (du_b mb) co ex te := by
  have h19 : p + j ≤ 19 := (dc_dg_le hD (by decide)).mpr (Nat.lt_trans hM (by decide))
  have hsub : nI (p + j) - nI p = nI j := by rw [pk_sub (by omega)]; exact congrArg nI (by omega)
  have h10 : 10 ^ p ≤ 10000000 := Nat.le_trans (dc_ple hp7) (by decide)
  have hrd := dc_rd_le (mode := md) (neg := nb) (mo := mb) hD.2.1
  have hw : te (nI p).toNatClampNeg = lN (10 ^ p) := by rw [nI_clamp (by omega)]; exact hte p (by omega)
  have hi : vp_in (nI p) 19 := vp_in_nI (by omega) (by decide)
  have hgt : ¬ nI (p + j) ≤ nI p := nI_ge (by omega) (by omega)
  have f3 : ∀ e : Int, (3 : Int32) = if w < e then 3 ||| 2 else 3 := by
    intro e
    split <;> decide
  by_cases hr : dc_rd md nb M j mb = 10 ^ p
  · refine ⟨10 ^ (p - 1), s + j + 1, Or.inr ⟨j, hD, hj, hx, rfl, Or.inl ⟨hr, rfl, rfl⟩⟩, fun post hp => ?_⟩
    have e1 : lN (dc_rd md nb M j mb) / 10 = lN (10 ^ (p - 1)) := by
      have h : lN (dc_rd md nb M j mb) / lN 10 = lN (dc_rd md nb M j mb / 10) := pk_lDiv (by omega) (by decide) (by decide)
      have h2 : dc_rd md nb M j mb / 10 = 10 ^ (p - 1) := by
        rw [hr]
        obtain ⟨q, rfl⟩ : ∃ q, p = q + 1 := ⟨p - 1, by omega⟩
        rw [Nat.pow_succ, Nat.add_sub_cancel]
        omega
      rw [h2] at h
      exact h
    have e2 : du_i (s + j) + 1 = du_i (s + j + 1) := du_iadd _ 1
    refine dx_dig hte (by omega) hD (br_f hgt (dx_drop hte hsub hM (by omega) (fun z => absurd z hx) (fun _ => And.intro hi (dn_eq (dc_rd md nb M j mb) (10 ^ p) (fun _ => ?_) (fun h => absurd hr h) rfl hw))))
    exact And.intro (by decide) (nm_r e1 (nm_r e2 (dx_fin143 hd (by omega) (by omega) w1 w2 (f3 _) hp)))
  · refine ⟨dc_rd md nb M j mb, s + j, Or.inr ⟨j, hD, hj, hx, rfl, Or.inr ⟨hr, rfl, rfl⟩⟩, fun post hp => ?_⟩
    refine dx_dig hte (by omega) hD (br_f hgt (dx_drop hte hsub hM (by omega) (fun z => absurd z hx) (fun _ => And.intro hi (dn_eq (dc_rd md nb M j mb) (10 ^ p) (fun h => absurd h hr) (fun _ => ?_) rfl hw))))
    exact dx_fin143 hd (by omega) (by omega) w1 w2 (f3 _) hp
/-- finishing a number that is not 0 -/
theorem dx_fin (hte : dx_te te) {M d : Nat} {s w : Int} {nb mb : Bool} (hd : d < 6) (hp3 : 3 ≤ p) (hp7 : p ≤ 7) (hM : M < 2000000000000000000) (h0 : 0 < M) (hmb : mb = true → 10000000 ≤ M)
    (s1 : -10000 ≤ s) (s2 : s ≤ 10000) (w1 : -1000000 ≤ w) (w2 : w ≤ 1000000) :
    ∃ (c : Nat) (e : Int) (fl : Int32), dc_FO p md nb M s mb w c e fl ∧ ∀ post : Int32 → SX → Prop, (∀ ng' mg' sc' mo', post (dc_r e fl) (nI p, md, ra ||| dc_r e fl, ng', mg', sc', mo', dc_co d nb c e co, dc_ee d e ex, te)) → wpX_finish post (nI p, md, ra, du_b nb, lN M, du_i s, du_b mb, co, ex, te) (nI d) (du_i w) := by
  have h10 : 10 ^ p ≤ 10000000 := Nat.le_trans (dc_ple hp7) (by decide)
  have hne : ¬ lN M = 0 := fun z => by
    have := (pk_lEQ (a := M) (b := 0) (by omega) (by omega)).mp z
    omega
  cases mb with
  | true =>
    obtain ⟨D, hD⟩ := dc_dg_ex M
    have hm := hmb rfl
    have hDp : ¬ D ≤ p := fun z => by have := (dc_dg_le hD (by omega)).mp z; omega
    obtain ⟨j, rfl⟩ : ∃ j, D = p + j := ⟨D - p, by omega⟩
    obtain ⟨c, e, hF, hW⟩ := dx_fin73b (md := md) (ra := ra) (co := co) (ex := ex) (nb := nb) (s := s) (w := w) hte hd hp3 hp7 hM hD (by omega) (mb := true) (fun z => absurd z.2 (by decide)) (by omega) (by omega) w1 w2
    exact ⟨c, e, 3, hF, fun post hp => br_f hne (br_f (by decide) (hW post hp))⟩
  | false =>
    obtain ⟨m, z, rfl, hmz⟩ := dc_tz M h0
    obtain ⟨cn, hcn⟩ := dc_dg_ex m
    have hd2 := dc_dg_mul z (by omega) hcn
    have h19 : cn + z ≤ 19 := (dc_dg_le hd2 (by decide)).mpr (Nat.lt_trans hM (by decide))
    have es : du_i s = du_i (s + z - z) := congrArg du_i (by omega)
    by_cases hc : cn ≤ p
    · have hfl : ∃ e : Int, e = s + z - dc_y p cn (s + z) w := ⟨_, rfl⟩
      obtain ⟨e, he⟩ := hfl
      have b1 := dc_y_1 p cn (s + z) w
      have hd3 := dc_dg_mul (dc_y p cn (s + z) w) (by omega) hcn
      have hlt : m * 10 ^ dc_y p cn (s + z) w < 10 ^ p := (dc_dg_le hd3 (by omega)).mp (by omega)
      refine ⟨m * 10 ^ dc_y p cn (s + z) w, e, if w < e then 2 else 0, Or.inl ⟨m, z, cn, rfl, rfl, hmz, hcn, hc, rfl, he, rfl⟩, fun post hp => ?_⟩
      refine br_f hne (br_t rfl ?_)
      rw [es]
      refine dx_appr hte hmz hcn (by omega) hp7 (by omega) (by omega) w1 w2 ?_
      rw [← he]
      refine dx_dig hte (by omega) hd3 (br_t (nI_le (by omega) (by omega)) ?_)
      refine dx_fin143 hd (by omega) (by omega) w1 w2 ?_ hp
      split <;> decide
    · obtain ⟨j, rfl⟩ : ∃ j, cn = p + j := ⟨cn - p, by omega⟩
      have hj : 1 ≤ j := by omega
      have hy : dc_y p (p + j) (s + z) w = 0 := by have := dc_y_1 p (p + j) (s + z) w; omega
      have hm1 : m ≤ m * 10 ^ z := Nat.le_mul_of_pos_right m (dc_pp z)
      have hx : ¬ dc_ex m j false := by
        intro h
        have h1 := h.1
        obtain ⟨i, rfl⟩ : ∃ i, j = i + 1 := ⟨j - 1, by omega⟩
        rw [dc_mod m i 1] at h1
        simp only [Nat.pow_one] at h1
        omega
      obtain ⟨c, e, hF, hW⟩ := dx_fin73b (md := md) (ra := ra) (co := co) (ex := ex) (nb := nb) (s := s + z) (w := w) hte hd hp3 hp7 (Nat.lt_of_le_of_lt hm1 hM) hcn hj (mb := false) hx (by omega) (by omega) w1 w2
      refine ⟨c, e, 3, ?_, fun post hp => br_f hne (br_t rfl ?_)⟩
      · refine dc_FO_sh (k := z) (by omega) ?_
        have a1 : m * 10 ^ z / 10 ^ z = m := Nat.mul_div_cancel _ (dc_pp z)
        have a2 : dc_mo (m * 10 ^ z) z false = false := dc_mo_f.mpr ⟨rfl, Nat.mul_mod_left _ _⟩
        rw [a1, a2]
        exact hF
      · rw [es]
        refine dx_appr hte hmz hcn (by omega) hp7 (by omega) (by omega) w1 w2 ?_
        rw [hy, Nat.pow_zero, Nat.mul_one]
        have e0 : s + (z : Int) - ((0 : Nat) : Int) = s + z := by omega
        rw [e0]
        exact hW post hp
theorem dx_fin0 {post : Int32 → SX → Prop} {d : Nat} {w : Int} {sc : Int32} (hd : d < 6) (w1 : -1000000 ≤ w) (w2 : w ≤ 1000000)
    (hp : ∀ ng' mg' sc' mo', post 0 (nI p, md, ra ||| 0, ng', mg', sc', mo', upd co d (du_i 0), upd ex d (du_i (dc_clp w)), te)) :
    wpX_finish post (nI p, md, ra, ng, lN 0, sc, 0, co, ex, te) (nI d) (du_i w) := by
  have S : ∀ (v : Int) (x : Int32), x = du_i v → -20 ≤ v → v ≤ 20 → dc_clp w = v → wX_finish_45 post (nI d) x (nI p) md ra 0 (lN 0) sc 0 co ex te := by
    intro v x hx v1 v2 hv
    subst hx
    rw [hv] at hp
    exact dx_store (nb := false) (c := 0) hd v1 v2 (nm_e (hp _ _ _ _))
  have h0 : lN 0 = 0 := rfl
  have m20 : (-20 : Int32) = du_i (-20) := by decide
  have p20 : (20 : Int32) = du_i 20 := by decide
  refine br_t h0 (br_t rfl ?_)
  refine di_le (-20) w (fun h => ?_) (fun h => S (-20) _ m20 (by decide) (by decide) ?_) m20 rfl
  rotate_left
  · unfold dc_clp
    rw [if_pos (by omega)]
  refine di_le w 20 (fun h2 => S w _ rfl h h2 ?_) (fun h2 => S 20 _ p20 (by decide) (by decide) ?_) rfl p20
  · unfold dc_clp
    rw [if_neg (by omega), if_neg (by omega)]
  · unfold dc_clp
    rw [if_neg (by omega), if_pos (by omega)]
end
end
section
/-! the component's sums and quotients -/
theorem dc_sg_a (nf na : Bool) {f q : Nat} (h : q < f) : (dc_sg nf f + dc_sg na q).natAbs = (if nf = na then f + q else f - q) ∧ decide (dc_sg nf f + dc_sg na q < 0) = nf := by
  cases nf <;> cases na
  · refine ⟨?_, decide_eq_false ?_⟩
    · show ((f : Int) + (q : Int)).natAbs = f + q
      omega
    · show ¬ (f : Int) + (q : Int) < 0
      omega
  · refine ⟨?_, decide_eq_false ?_⟩
    · show ((f : Int) + -(q : Int)).natAbs = f - q
      omega
    · show ¬ (f : Int) + -(q : Int) < 0
      omega
  · refine ⟨?_, decide_eq_true ?_⟩
    · show (-(f : Int) + (q : Int)).natAbs = f - q
      omega
    · show -(f : Int) + (q : Int) < 0
      omega
  · refine ⟨?_, decide_eq_true ?_⟩
    · show (-(f : Int) + -(q : Int)).natAbs = f + q
      omega
    · show -(f : Int) + -(q : Int) < 0
      omega
theorem dc_sg_of (x : Int) : x = dc_sg (decide (x < 0)) x.natAbs := by
  by_cases h : x < 0
  · rw [decide_eq_true h]
    show x = -(x.natAbs : Int)
    omega
  · rw [decide_eq_false h]
    show x = (x.natAbs : Int)
    omega
theorem dc_sg_mul (nf : Bool) (f T : Nat) : dc_sg nf f * (T : Int) = dc_sg nf (f * T) := by
  cases nf
  · show (f : Int) * (T : Int) = ((f * T : Nat) : Int)
    exact (Int.natCast_mul f T).symm
  · show -(f : Int) * (T : Int) = -((f * T : Nat) : Int)
    rw [Int.natCast_mul, Int.neg_mul]
theorem dc_sg_b (nf : Bool) {f B : Nat} (h : f < B) : -(B : Int) < dc_sg nf f ∧ dc_sg nf f < B := by
  cases nf
  · show -(B : Int) < (f : Int) ∧ (f : Int) < B
    omega
  · show -(B : Int) < -(f : Int) ∧ -(f : Int) < B
    omega
theorem dc_sg_tdiv (na : Bool) (a T : Nat) : (dc_sg na a).tdiv (T : Int) = dc_sg na (a / T) := by
  cases na
  · show ((a : Int)).tdiv (T : Int) = ((a / T : Nat) : Int)
    rw [Int.tdiv_eq_ediv_of_nonneg (by omega)]
    rfl
  · show (-(a : Int)).tdiv (T : Int) = -((a / T : Nat) : Int)
    rw [Int.neg_tdiv, Int.tdiv_eq_ediv_of_nonneg (by omega)]
    rfl
theorem dc_sg_tmod (na : Bool) (a T : Nat) : (dc_sg na a).tmod (T : Int) = dc_sg na (a % T) := by
  cases na
  · show ((a : Int)).tmod (T : Int) = ((a % T : Nat) : Int)
    rw [Int.tmod_eq_emod_of_nonneg (by omega)]
    rfl
  · show (-(a : Int)).tmod (T : Int) = -((a % T : Nat) : Int)
    rw [Int.neg_tmod, Int.tmod_eq_emod_of_nonneg (by omega)]
    rfl
theorem dc_sg_0 (na : Bool) (a : Nat) : dc_sg na a = 0 ↔ a = 0 := by
  cases na
  · show (a : Int) = 0 ↔ _
    omega
  · show -(a : Int) = 0 ↔ _
    omega
/-- the magnitude of the far sum, cut -/
def dc_K (nf na : Bool) (f q : Nat) (rb : Bool) : Nat := if nf = na then f + q else if rb = true then f - q - 1 else f - q
section
variable {P md ra ng sc mo : Int32} {mg : Int64} {co ex : Nat → Int32} {te : Nat → Int64}
theorem dx_sf94 {post : SX → Prop} {f q : Nat} {nf na rb : Bool} {x5 : Int32} (hf : q < f) (hf2 : f < 1000000000000000000) (hp : post (P, md, ra, du_b nf, lN (dc_K nf na f q rb), x5, du_b rb, co, ex, te)) :
    wX_sumFar_94 post (du_l (dc_sg nf f)) x5 (du_l (dc_sg na q)) (du_b rb) (du_b (nf != na)) P md ra ng mg sc mo co ex te := by
  obtain ⟨a1, a2⟩ := dc_sg_a nf na hf
  have b1 := dc_sg_b nf hf2
  have b2 := dc_sg_b na (Nat.lt_trans hf hf2)
  refine dx_take (du_ladd _ _) (by omega) (by omega) ?_
  rw [a1, a2]
  unfold dc_K at hp
  refine db_0 rb (fun h => ?_) (fun h => ?_)
  · subst h
    rw [if_neg (by decide : ¬ false = true)] at hp
    exact hp
  · subst h
    rw [if_pos rfl] at hp
    refine db_0 (nf != na) (fun c => ?_) (fun c => ?_)
    · have e : nf = na := by simpa using c
      rw [if_pos e] at hp ⊢
      exact hp
    · have e : ¬ nf = na := by simpa using c
      rw [if_neg e] at hp ⊢
      exact nm_r (lN_sub (b := 1) (by omega)) hp
theorem dx_sf62 {post : SX → Prop} {f a q : Nat} {nf na rb : Bool} {x5 : Int32} (hf : q < f) (hf2 : f < 1000000000000000000) (ha : na = true → 0 < a) (ha2 : a < 1000000000000000000) (hp : post (P, md, ra, du_b nf, lN (dc_K nf na f q rb), x5, du_b rb, co, ex, te)) :
    wX_sumFar_62 post (du_l (dc_sg nf f)) (du_l (dc_sg na a)) x5 (du_l (dc_sg na q)) (du_b rb) P md ra ng mg sc mo co ex te := by
  have A : wX_sumFar_94 post (du_l (dc_sg nf f)) x5 (du_l (dc_sg na q)) (du_b rb) (du_b (nf != na)) P md ra ng mg sc mo co ex te := dx_sf94 hf hf2 hp
  have b1 := dc_sg_b nf hf2
  have b2 := dc_sg_b na ha2
  refine dl_le 0 (dc_sg nf f) (fun h => ?_) (fun h => ?_)
  · have e1 : nf = false := by
      cases nf
      · rfl
      · have h2 : (0 : Int) ≤ -(f : Int) := h
        omega
    refine dl_le 0 (dc_sg na a) (fun g => ?_) (fun g => ?_)
    · have e2 : na = false := by
        cases na
        · rfl
        · have h2 : (0 : Int) ≤ -(a : Int) := g
          have := ha rfl
          omega
      subst e1 e2
      exact br_t rfl A
    · have e2 : na = true := by
        cases na
        · have h2 : (a : Int) < 0 := g
          omega
        · rfl
      subst e1 e2
      exact br_f (by decide) A
  · have e1 : nf = true := by
      cases nf
      · have h2 : (f : Int) < 0 := h
        omega
      · rfl
    refine dl_le 0 (dc_sg na a) (fun g => ?_) (fun g => ?_)
    · have e2 : na = false := by
        cases na
        · rfl
        · have h2 : (0 : Int) ≤ -(a : Int) := g
          have := ha rfl
          omega
      subst e1 e2
      exact br_f (by decide) A
    · have e2 : na = true := by
        cases na
        · have h2 : (a : Int) < 0 := g
          omega
        · rfl
      subst e1 e2
      exact br_t rfl A
theorem dx_sf {post : SX → Prop} (hte : dx_te te) {f a pl : Nat} {nf na : Bool} {x5 x3 : Int32} {X0 X1 : Int64} (h0 : X0 = du_l (dc_sg nf f)) (h1 : X1 = du_l (dc_sg na a)) (h3 : x3 = nI pl) (hf : a < f) (hf2 : f < 1000000000000000000) (ha : na = true → 0 < a) (hpl : pl ≤ 1000)
    (hp : post (P, md, ra, du_b nf, lN (dc_K nf na f (a / 10 ^ pl) (decide (a % 10 ^ pl ≠ 0))), x5, du_b (decide (a % 10 ^ pl ≠ 0)), co, ex, te)) :
    wpX_sumFar post (P, md, ra, ng, mg, sc, mo, co, ex, te) X0 X1 x5 x3 := by
  subst h0 h1 h3
  have hq : a / 10 ^ pl ≤ a := Nat.div_le_self _ _
  have b2 := dc_sg_b na (Nat.lt_trans hf hf2)
  have A := dx_sf62 (ng := ng) (mg := mg) (sc := sc) (mo := mo) (Nat.lt_of_le_of_lt hq hf) hf2 ha (Nat.lt_trans hf hf2) hp
  refine pk_le pl 18 (fun h => ?_) (fun h => ?_)
  · have h18 := dc_p18 h
    have h0 := dc_pp pl
    have hw : te (nI pl).toNatClampNeg = lN (10 ^ pl) := by rw [nI_clamp (by omega)]; exact hte pl (by omega)
    have hne : ¬ lN (10 ^ pl) = 0 := fun z => by
      have := (pk_lEQ (a := 10 ^ pl) (b := 0) (by omega) (by omega)).mp z
      omega
    have hi : vp_in (nI pl) 19 := vp_in_nI (by omega) (by decide)
    have hle : nI pl ≤ 18 := nI_le (b := 18) h (by decide)
    have b3 : ((10 ^ pl : Nat) : Int) ≤ 1000000000000000000 := by omega
    have e1 : du_l (dc_sg na a) / lN (10 ^ pl) = du_l (dc_sg na (a / 10 ^ pl)) := by
      rw [du_lN, du_ldiv (by omega) (by omega) (by omega) (by omega), dc_sg_tdiv]
    have e2 : du_l (dc_sg na a) - du_l (dc_sg na a) / lN (10 ^ pl) * lN (10 ^ pl) = du_l (dc_sg na (a % 10 ^ pl)) := by
      rw [du_lN, du_lrem (by omega) (by omega) (by omega) (by omega), dc_sg_tmod]
    have hr : a % 10 ^ pl ≤ a := Nat.mod_le _ _
    have b4 := dc_sg_b na (Nat.lt_of_le_of_lt hr (Nat.lt_trans hf hf2))
    refine And.intro hi ?_
    rw [hw]
    refine And.intro hne ?_
    rw [e1]
    refine br_t hle (And.intro hi ?_)
    rw [hw]
    refine And.intro hne ?_
    refine dl_eq (dc_sg na (a % 10 ^ pl)) 0 (fun z => ?_) (fun z => ?_) e2
    · have e : decide (a % 10 ^ pl ≠ 0) = false := decide_eq_false (fun y => y ((dc_sg_0 _ _).mp z))
      rw [e] at A
      exact A
    · have e : decide (a % 10 ^ pl ≠ 0) = true := decide_eq_true (fun y => z ((dc_sg_0 _ _).mpr y))
      rw [e] at A
      exact A
  · have hle : ¬ nI pl ≤ 18 := nI_ge (b := pl) (a := 18) h (by omega)
    have h19 : (10000000000000000000 : Nat) ≤ 10 ^ pl := Nat.le_trans (by decide) (dc_ple (a := 19) (b := pl) (by omega))
    have e1 : a / 10 ^ pl = 0 := Nat.div_eq_of_lt (by omega)
    have e2 : a % 10 ^ pl = a := Nat.mod_eq_of_lt (by omega)
    rw [e1, e2] at A
    have e3 : du_l (dc_sg na 0) = 0 := by cases na <;> rfl
    rw [e3] at A
    refine br_f hle (dl_eq (dc_sg na a) 0 (fun z => ?_) (fun z => ?_))
    · have e : decide (a ≠ 0) = false := decide_eq_false (fun y => y ((dc_sg_0 _ _).mp z))
      rw [e] at A
      exact A
    · have e : decide (a ≠ 0) = true := decide_eq_true (fun y => z ((dc_sg_0 _ _).mpr y))
      rw [e] at A
      exact A
end
/-- what the far sum cuts is the exact one, cut -/
theorem dc_K_ok {nf na : Bool} {f a T : Nat} (hT : 0 < T) (h : a / T < f) : (dc_sg nf (f * T) + dc_sg na a).natAbs / T = dc_K nf na f (a / T) (decide (a % T ≠ 0)) ∧ decide ((dc_sg nf (f * T) + dc_sg na a).natAbs % T ≠ 0) = decide (a % T ≠ 0) ∧ decide (dc_sg nf (f * T) + dc_sg na a < 0) = nf := by
  have haf : a < f * T := (Nat.div_lt_iff_lt_mul hT).mp h
  obtain ⟨a1, a2⟩ := dc_sg_a nf na haf
  rw [a1, a2]
  unfold dc_K
  by_cases e : nf = na
  · rw [if_pos e, if_pos e]
    obtain ⟨c1, c2⟩ := dc_far1 (f := f) (a := a) hT
    rw [c1, c2]
    exact ⟨rfl, rfl, rfl⟩
  · rw [if_neg e, if_neg e]
    by_cases hr : a % T = 0
    · obtain ⟨c1, c2⟩ := dc_far2 hT h hr
      rw [c1, c2, hr]
      exact ⟨rfl, rfl, rfl⟩
    · obtain ⟨c1, c2⟩ := dc_far3 h hr hT
      rw [c1, decide_eq_true c2, decide_eq_true hr, if_pos rfl]
      exact ⟨rfl, rfl, rfl⟩
end
section
def dc_OK (N k : Nat) (ym : Bool) : Prop := (dc_mo N k ym = true → 10000000 ≤ N / 10 ^ k) ∧ N / 10 ^ k < 2000000000000000000
theorem dc_mo_0 (N : Nat) : dc_mo N 0 false = false := dc_mo_f.mpr ⟨rfl, by rw [Nat.pow_zero, Nat.mod_one]⟩
theorem dc_OK_0 {N : Nat} (h : N < 2000000000000000000) : dc_OK N 0 false := by
  refine ⟨fun z => ?_, ?_⟩
  · rw [dc_mo_0] at z
    exact absurd z (by decide)
  · rw [Nat.pow_zero, Nat.div_one]
    exact h
theorem dc_K_b (nf na rb : Bool) (f q : Nat) : f - q - 1 ≤ dc_K nf na f q rb ∧ dc_K nf na f q rb ≤ f + q := by
  unfold dc_K
  split
  · omega
  · split
    · omega
    · omega
theorem dc_nab (x T V s : Int) (hV : V = x * T + s) : V.natAbs ≤ x.natAbs * T.natAbs + s.natAbs := by
  have h := Int.natAbs_mul x T
  rw [hV]
  omega
section
variable {P md ra ng sc mo : Int32} {mg : Int64} {co ex : Nat → Int32} {te : Nat → Int64}
theorem dx_s79 (hte : dx_te te) {xb xs ss V : Int} {ap : Nat} (hV : V = xb * ((10 ^ ap : Nat) : Int) + xs) (hb : xb.natAbs < 100000000000000) (hs : xs.natAbs < 100000000000000) (hap : ap ≤ 200) :
    ∃ k : Nat, k ≤ 200 ∧ dc_OK V.natAbs k false ∧ ∀ post : SX → Prop, post (P, md, ra, du_b (decide (V < 0)), lN (V.natAbs / 10 ^ k), du_i (ss + k), du_b (dc_mo V.natAbs k false), co, ex, te) → wX_sum_79 post (du_l xb) (du_l xs) (du_i (ss + ap)) (du_i ss) (nI ap) (lN xb.natAbs) P md ra ng mg sc mo co ex te := by
  obtain ⟨d, hd⟩ := dc_dg_ex xb.natAbs
  have hd14 : d ≤ 14 := (dc_dg_le hd (by decide)).mpr (Nat.lt_of_lt_of_le hb (by decide))
  have hd1 := hd.1
  have es0 : du_i (ss + ((0 : Nat) : Int)) = du_i ss := congrArg du_i (by omega)
  have N0 : ∀ post : SX → Prop, post (P, md, ra, du_b (decide (V < 0)), lN (V.natAbs / 10 ^ 0), du_i (ss + ((0 : Nat) : Int)), du_b (dc_mo V.natAbs 0 false), co, ex, te) → post (P, md, ra, du_b (decide (V < 0)), lN V.natAbs, du_i ss, 0, co, ex, te) := by
    intro post hp
    rw [Nat.pow_zero, Nat.div_one, es0, dc_mo_0] at hp
    exact hp
  by_cases hz : xb = 0
  · have hV2 : V = xs := by rw [hV, hz, Int.zero_mul, Int.zero_add]
    refine ⟨0, by omega, dc_OK_0 (by omega), fun post hp => ?_⟩
    have hx0 : du_l xb = 0 := by rw [hz]; rfl
    exact dx_dig hte (by omega) hd (br_t hx0 (dx_take (z := V) (by rw [hV2]) (by omega) (by omega) (N0 post hp)))
  · have hne : ¬ du_l xb = 0 := fun z => hz ((du_leq (a := xb) (b := 0) (by omega) (by omega) (by omega) (by omega)).mp z)
    by_cases h18 : d + ap ≤ 18
    · have hw : te (nI ap).toNatClampNeg = lN (10 ^ ap) := by rw [nI_clamp (by omega)]; exact hte ap (by omega)
      have c1 : xb.natAbs * 10 ^ ap < 10 ^ d * 10 ^ ap := Nat.mul_lt_mul_of_pos_right hd.2.1 (dc_pp ap)
      rw [← Nat.pow_add] at c1
      have c2 := dc_p18 h18
      have c3 := dc_nab xb ((10 ^ ap : Nat) : Int) V xs hV
      rw [Int.natAbs_natCast] at c3
      refine ⟨0, by omega, dc_OK_0 (by omega), fun post hp => ?_⟩
      have hx : du_l xb * te (nI ap).toNatClampNeg + du_l xs = du_l V := by rw [hw, du_lN, du_lmul, du_ladd, hV]
      have hn : ¬ (18 : Int32) < nI d + nI ap := by
        rw [nI_add]
        exact nI_nlt (a := 18) h18 (by decide)
      exact dx_dig hte (by omega) hd (br_f hne (br_f hn (And.intro (vp_in_nI (by omega) (by decide)) (dx_take hx (by omega) (by omega) (N0 post hp)))))
    · obtain ⟨up, hup⟩ : ∃ up, up = 17 - d := ⟨_, rfl⟩
      obtain ⟨pl, hpl⟩ : ∃ pl, pl = ap - up := ⟨_, rfl⟩
      have hap2 : ap = up + pl := by omega
      have e15 : (17 : Int32) - nI d = nI up := by
        have h : nI 17 - nI d = nI (17 - d) := pk_sub (by omega)
        rw [hup]
        exact h
      have e13 : nI ap - nI up = nI pl := by rw [pk_sub (by omega), hpl]
      have e5 : du_i (ss + ap) - nI up = du_i (ss + pl) := by
        rw [du_isubN]
        exact congrArg du_i (by omega)
      have hw : te (nI up).toNatClampNeg = lN (10 ^ up) := by rw [nI_clamp (by omega)]; exact hte up (by omega)
      have f1 : 10 ^ (d - 1) ≤ xb.natAbs := dc_dg_lo hd (by omega)
      have f2 : 10 ^ (d - 1) * 10 ^ up ≤ xb.natAbs * 10 ^ up := Nat.mul_le_mul_right _ f1
      have f3 : xb.natAbs * 10 ^ up < 10 ^ d * 10 ^ up := Nat.mul_lt_mul_of_pos_right hd.2.1 (dc_pp up)
      rw [← Nat.pow_add] at f2 f3
      have g1 : d - 1 + up = 16 := by omega
      have g2 : d + up = 17 := by omega
      rw [g1] at f2
      rw [g2] at f3
      have f4 : 10000000000000000 ≤ xb.natAbs * 10 ^ up := f2
      have f5 : xb.natAbs * 10 ^ up < 100000000000000000 := f3
      have eV : V = dc_sg (decide (xb < 0)) (xb.natAbs * 10 ^ up * 10 ^ pl) + dc_sg (decide (xs < 0)) xs.natAbs := by
        rw [hV, hap2, ← dc_sg_of xs, Nat.mul_assoc, ← Nat.pow_add, ← dc_sg_mul, ← dc_sg_of xb]
      have hq : xs.natAbs / 10 ^ pl ≤ xs.natAbs := Nat.div_le_self _ _
      obtain ⟨k1, k2, k3⟩ := dc_K_ok (nf := decide (xb < 0)) (na := decide (xs < 0)) (f := xb.natAbs * 10 ^ up) (a := xs.natAbs) (dc_pp pl) (by omega)
      rw [← eV] at k1 k2 k3
      have kb := dc_K_b (decide (xb < 0)) (decide (xs < 0)) (decide (xs.natAbs % 10 ^ pl ≠ 0)) (xb.natAbs * 10 ^ up) (xs.natAbs / 10 ^ pl)
      rw [← k1] at kb
      have km : dc_mo V.natAbs pl false = decide (xs.natAbs % 10 ^ pl ≠ 0) := by
        unfold dc_mo
        rw [Bool.false_or]
        exact k2
      refine ⟨pl, by omega, ⟨fun _ => by omega, by omega⟩, fun post hp => ?_⟩
      rw [k3, k1, km] at hp
      have hx0 : du_l xb * te (nI up).toNatClampNeg = du_l (dc_sg (decide (xb < 0)) (xb.natAbs * 10 ^ up)) := by
        rw [hw, du_lN, du_lmul, ← dc_sg_mul, ← dc_sg_of xb]
      have hx1 : du_l xs = du_l (dc_sg (decide (xs < 0)) xs.natAbs) := congrArg du_l (dc_sg_of xs)
      have hn : (18 : Int32) < nI d + nI ap := by
        rw [nI_add]
        exact nI_lt (a := 18) (by omega) (by omega)
      refine dx_dig hte (by omega) hd (br_f hne (br_t hn (nm_r e15 (And.intro (vp_in_nI (by omega) (by decide)) ?_))))
      refine dx_sf hte hx0 hx1 e13 (by omega) (by omega) (fun h => ?_) (by omega) ?_
      · have := of_decide_eq_true h
        omega
      · rw [e5]
        exact hp
theorem dx_s54 (hte : dx_te te) {xb xs ss bs V : Int} {ap : Nat} (hbs : bs = ss + ap) (hV : V = xb * ((10 ^ ap : Nat) : Int) + xs) (hb : xb.natAbs < 100000000000000) (hs : xs.natAbs < 100000000000000) (hap : ap ≤ 200) :
    ∃ k : Nat, k ≤ 200 ∧ dc_OK V.natAbs k false ∧ ∀ post : SX → Prop, post (P, md, ra, du_b (decide (V < 0)), lN (V.natAbs / 10 ^ k), du_i (ss + k), du_b (dc_mo V.natAbs k false), co, ex, te) → wX_sum_54 post (du_l xb) (du_l xs) (du_i bs) (du_i ss) P md ra ng mg sc mo co ex te := by
  subst hbs
  obtain ⟨k, a1, a2, a3⟩ := dx_s79 (P := P) (md := md) (ra := ra) (ng := ng) (sc := sc) (mo := mo) (mg := mg) (co := co) (ex := ex) (ss := ss) hte hV hb hs hap
  refine ⟨k, a1, a2, fun post hp => ?_⟩
  have A := a3 post hp
  have e : du_i (ss + ap) - du_i ss = nI ap := by
    rw [du_isub, du_iN]
    exact congrArg du_i (by omega)
  refine nm_r e (dl_le 0 xb (fun h => ?_) (fun h => ?_))
  · have e2 : lN xb.natAbs = du_l xb := by rw [du_lN]; exact congrArg du_l (by omega)
    rw [e2] at A
    exact A
  · have e2 : lN xb.natAbs = -du_l xb := by rw [du_lN, du_lneg]; exact congrArg du_l (by omega)
    rw [e2] at A
    exact A
/-- the sum: V at the lower exponent w, cut by k digits -/
theorem dx_sum (hte : dx_te te) {x y e1 e2 w V : Int} (hw : (w = e1 ∧ e1 ≤ e2) ∨ (w = e2 ∧ e2 ≤ e1)) (hV : V = x * ((10 ^ (e1 - w).toNat : Nat) : Int) + y * ((10 ^ (e2 - w).toNat : Nat) : Int))
    (hx : x.natAbs < 100000000000000) (hy : y.natAbs < 100000000000000) (b1 : -100 ≤ e1) (b2 : e1 ≤ 100) (b3 : -100 ≤ e2) (b4 : e2 ≤ 100) :
    ∃ k : Nat, k ≤ 200 ∧ dc_OK V.natAbs k false ∧ ∀ post : SX → Prop, post (P, md, ra, du_b (decide (V < 0)), lN (V.natAbs / 10 ^ k), du_i (w + k), du_b (dc_mo V.natAbs k false), co, ex, te) → wpX_sum post (P, md, ra, ng, mg, sc, mo, co, ex, te) (du_l x) (du_i e1) (du_l y) (du_i e2) := by
  by_cases h : e1 < e2
  · have ew : w = e1 := by omega
    subst ew
    have z0 : (w - w).toNat = 0 := by omega
    rw [z0, Nat.pow_zero] at hV
    obtain ⟨k, a1, a2, a3⟩ := dx_s54 (P := P) (md := md) (ra := ra) (ng := ng) (sc := sc) (mo := mo) (mg := mg) (co := co) (ex := ex) (xb := y) (xs := x) (ss := w) (bs := e2) (ap := (e2 - w).toNat) (V := V) hte (by omega) (by rw [hV]; omega) hy hx (by omega)
    have hl : du_i w < du_i e2 := (du_ilt (by omega) (by omega) (by omega) (by omega)).mpr h
    exact ⟨k, a1, a2, fun post hp => br_t hl (br_t hl (br_t hl (br_t hl (a3 post hp))))⟩
  · have ew : w = e2 := by omega
    subst ew
    have z0 : (w - w).toNat = 0 := by omega
    rw [z0, Nat.pow_zero] at hV
    obtain ⟨k, a1, a2, a3⟩ := dx_s54 (P := P) (md := md) (ra := ra) (ng := ng) (sc := sc) (mo := mo) (mg := mg) (co := co) (ex := ex) (xb := x) (xs := y) (ss := w) (bs := e1) (ap := (e1 - w).toNat) (V := V) hte (by omega) (by rw [hV]; omega) hx hy (by omega)
    have hl : ¬ du_i e1 < du_i w := fun z => h ((du_ilt (by omega) (by omega) (by omega) (by omega)).mp z)
    exact ⟨k, a1, a2, fun post hp => br_f hl (br_f hl (br_f hl (br_f hl (a3 post hp))))⟩
/-- the quotient -/
theorem dx_d81 {post : SX → Prop} {x y : Int} {a : Nat} {mb : Bool} (x1 : -1000000000 < x) (x2 : x < 1000000000) (y1 : -1000000000 < y) (y2 : y < 1000000000) (ha : a = x.natAbs)
    (hp : post (P, md, ra, du_b ((decide (x < 0) != decide (y < 0)) && decide (a ≠ 0)), mg, sc, du_b mb, co, ex, te)) :
    wX_divide_81 post (du_l x) (du_l y) (lN a) (du_b mb) P md ra ng mg sc mo co ex te := by
  refine And.intro (db_nar mb) (And.intro (db_fit mb) ?_)
  have K : ∀ (b1 b2 : Bool), decide (x < 0) = b1 → decide (y < 0) = b2 → wX_divide_107 post (lN a) (du_b b2) (du_b b1) P md ra ng mg sc (du_b mb) co ex te := by
    intro b1 b2 e1 e2
    rw [e1, e2] at hp
    refine db_ne b1 b2 (fun h => ?_) (fun h => ?_)
    · have e : (b1 != b2) = false := by rw [h]; cases b2 <;> rfl
      rw [e] at hp
      exact hp
    · rw [h] at hp
      refine dn_eq a 0 (fun g => ?_) (fun g => ?_)
      · rw [decide_eq_false (fun z => z g)] at hp
        exact hp
      · rw [decide_eq_true g] at hp
        exact hp
  refine dl_le 0 x (fun h => dl_le 0 y (fun g => ?_) (fun g => ?_)) (fun h => dl_le 0 y (fun g => ?_) (fun g => ?_))
  · exact K false false (decide_eq_false (by omega)) (decide_eq_false (by omega))
  · exact K false true (decide_eq_false (by omega)) (decide_eq_true (by omega))
  · exact K true false (decide_eq_true (by omega)) (decide_eq_false (by omega))
  · exact K true true (decide_eq_true (by omega)) (decide_eq_true (by omega))
theorem dx_d26 (hte : dx_te te) {x y w : Int} {a b : Nat} (ha : a = x.natAbs) (hb : b = y.natAbs) (hy : y ≠ 0) (hx7 : a < 10000000) (hy7 : b < 10000000) :
    ∃ k : Nat, k ≤ 40 ∧ dc_OK (a * 10 ^ 40 / b) k (decide (a * 10 ^ 40 % b ≠ 0)) ∧ ∀ post : SX → Prop, post (P, md, ra, du_b ((decide (x < 0) != decide (y < 0)) && decide (a ≠ 0)), lN (a * 10 ^ 40 / b / 10 ^ k), du_i (w - 40 + k), du_b (dc_mo (a * 10 ^ 40 / b) k (decide (a * 10 ^ 40 % b ≠ 0))), co, ex, te) → wX_divide_26 post (du_l x) (du_l y) (du_i w) (lN a) (lN b) P md ra ng mg sc mo co ex te := by
  obtain ⟨d, hd⟩ := dc_dg_ex a
  have hd7 : d ≤ 7 := (dc_dg_le hd (by decide)).mpr (Nat.lt_of_lt_of_le hx7 (by decide))
  have hd1 := hd.1
  have hb0 : 0 < b := by omega
  obtain ⟨up, hup⟩ : ∃ up, up = 18 - d := ⟨_, rfl⟩
  have e10 : (18 : Int32) - nI d = nI up := by
    have h : nI 18 - nI d = nI (18 - d) := pk_sub (by omega)
    rw [hup]
    exact h
  have hw : te (nI up).toNatClampNeg = lN (10 ^ up) := by rw [nI_clamp (by omega)]; exact hte up (by omega)
  have e11 : lN a * te (nI up).toNatClampNeg = lN (a * 10 ^ up) := by rw [hw, lN_mul]
  have f3 : a * 10 ^ up < 10 ^ d * 10 ^ up := Nat.mul_lt_mul_of_pos_right hd.2.1 (dc_pp up)
  rw [← Nat.pow_add, show d + up = 18 by omega] at f3
  have f5 : a * 10 ^ up < 1000000000000000000 := f3
  have hT := dc_pp (40 - up)
  have e40 : a * 10 ^ 40 = a * 10 ^ up * 10 ^ (40 - up) := by rw [Nat.mul_assoc, ← Nat.pow_add, show up + (40 - up) = 40 by omega]
  obtain ⟨q1, q2⟩ := dc_quo (S := a * 10 ^ up) (D := b) (T := 10 ^ (40 - up)) hb0 hT
  have qm : dc_mo (a * 10 ^ 40 / b) (40 - up) (decide (a * 10 ^ 40 % b ≠ 0)) = decide (a * 10 ^ up % b ≠ 0) := by
    unfold dc_mo
    rw [e40]
    by_cases h : a * 10 ^ up % b ≠ 0
    · rw [decide_eq_true h]
      rcases q2.mpr h with g | g
      · rw [decide_eq_true g, Bool.or_true]
      · rw [decide_eq_true g, Bool.true_or]
    · rw [decide_eq_false h, decide_eq_false (fun z => h (q2.mp (Or.inr z))), decide_eq_false (fun z => h (q2.mp (Or.inl z)))]
      rfl
  have qv : a * 10 ^ 40 / b / 10 ^ (40 - up) = a * 10 ^ up / b := by rw [e40]; exact q1
  have qle : a * 10 ^ up / b ≤ a * 10 ^ up := Nat.div_le_self _ _
  refine ⟨40 - up, by omega, ⟨?_, ?_⟩, fun post hp => ?_⟩
  · rw [qm, qv]
    intro h
    have h1 := of_decide_eq_true h
    have a0 : 0 < a := by
      apply Decidable.byContradiction
      intro z
      have z2 : a = 0 := by omega
      rw [z2, Nat.zero_mul, Nat.zero_mod] at h1
      exact h1 rfl
    have f1 : 10 ^ (d - 1) * 10 ^ up ≤ a * 10 ^ up := Nat.mul_le_mul_right _ (dc_dg_lo hd a0)
    rw [← Nat.pow_add, show d - 1 + up = 17 by omega] at f1
    have f6 : 100000000000000000 ≤ a * 10 ^ up := f1
    refine (Nat.le_div_iff_mul_le hb0).mpr ?_
    have f7 : 10000000 * b ≤ 10000000 * 10000000 := Nat.mul_le_mul_left _ (by omega)
    omega
  · rw [qv]
    omega
  · rw [qm, qv] at hp
    have es : du_i w - nI up = du_i (w - 40 + ((40 - up : Nat) : Int)) := by
      rw [du_isubN]
      exact congrArg du_i (by omega)
    have hne : ¬ lN b = 0 := fun z => by
      have := (pk_lEQ (a := b) (b := 0) (by omega) (by omega)).mp z
      omega
    refine dx_dig hte (by omega) hd (nm_r e10 (And.intro (vp_in_nI (by omega) (by decide)) (nm_r e11 (And.intro hne (dx_takeN (pk_lDiv (by omega) hb0 (by omega)) (by omega) ?_)))))
    refine And.intro hne (dn_eq (a * 10 ^ up % b) 0 (fun h => ?_) (fun h => ?_) (pk_lRem (by omega) hb0 (by omega)) rfl (by have := Nat.mod_le (a * 10 ^ up) b; omega))
    · have e9 : decide (a * 10 ^ up % b ≠ 0) = false := decide_eq_false (fun z => z h)
      rw [e9, ← es] at hp
      exact dx_d81 (mb := false) (by omega) (by omega) (by omega) (by omega) ha hp
    · rw [decide_eq_true h, ← es] at hp
      exact dx_d81 (mb := true) (by omega) (by omega) (by omega) (by omega) ha hp
theorem dx_div (hte : dx_te te) {x y w : Int} (hy : y ≠ 0) (hx7 : x.natAbs < 10000000) (hy7 : y.natAbs < 10000000) :
    ∃ k : Nat, k ≤ 40 ∧ dc_OK (x.natAbs * 10 ^ 40 / y.natAbs) k (decide (x.natAbs * 10 ^ 40 % y.natAbs ≠ 0)) ∧ ∀ post : SX → Prop, post (P, md, ra, du_b ((decide (x < 0) != decide (y < 0)) && decide (x.natAbs ≠ 0)), lN (x.natAbs * 10 ^ 40 / y.natAbs / 10 ^ k), du_i (w - 40 + k), du_b (dc_mo (x.natAbs * 10 ^ 40 / y.natAbs) k (decide (x.natAbs * 10 ^ 40 % y.natAbs ≠ 0))), co, ex, te) → wpX_divide post (P, md, ra, ng, mg, sc, mo, co, ex, te) (du_l x) (du_l y) (du_i w) := by
  obtain ⟨k, a1, a2, a3⟩ := dx_d26 (P := P) (md := md) (ra := ra) (ng := ng) (sc := sc) (mo := mo) (mg := mg) (co := co) (ex := ex) (w := w) hte (x := x) (y := y) rfl rfl hy hx7 hy7
  refine ⟨k, a1, a2, fun post hp => ?_⟩
  have A := a3 post hp
  refine dl_le 0 x (fun h => ?_) (fun h => ?_)
  · have e1 : lN x.natAbs = du_l x := by rw [du_lN]; exact congrArg du_l (by omega)
    rw [e1] at A
    refine dl_le 0 y (fun g => ?_) (fun g => ?_)
    · have e2 : lN y.natAbs = du_l y := by rw [du_lN]; exact congrArg du_l (by omega)
      rw [e2] at A
      exact A
    · have e2 : lN y.natAbs = -du_l y := by rw [du_lN, du_lneg]; exact congrArg du_l (by omega)
      rw [e2] at A
      exact A
  · have e1 : lN x.natAbs = -du_l x := by rw [du_lN, du_lneg]; exact congrArg du_l (by omega)
    rw [e1] at A
    refine dl_le 0 y (fun g => ?_) (fun g => ?_)
    · have e2 : lN y.natAbs = du_l y := by rw [du_lN]; exact congrArg du_l (by omega)
      rw [e2] at A
      exact A
    · have e2 : lN y.natAbs = -du_l y := by rw [du_lN, du_lneg]; exact congrArg du_l (by omega)
      rw [e2] at A
      exact A
end
end
section
/-! the row of digits: its value; begin, put, tidy -/
def dc_sm (a : Nat → Int32) : Nat → Int
  | 0 => 0
  | n + 1 => dc_sm a n + (a n).toInt * ((10 ^ n : Nat) : Int)
theorem dc_sm_ge (a : Nat → Int32) (k : Nat) (x : Int32) : ∀ n, n ≤ k → dc_sm (upd a k x) n = dc_sm a n := by
  intro n
  induction n with
  | zero => intro _; rfl
  | succ n ih =>
    intro h
    show dc_sm (upd a k x) n + (upd a k x n).toInt * _ = dc_sm a n + (a n).toInt * _
    rw [ih (by omega), pk_un (by omega)]
theorem dc_sm_upd (a : Nat → Int32) (k : Nat) (x : Int32) : ∀ n, k < n → dc_sm (upd a k x) n = dc_sm a n + (x.toInt - (a k).toInt) * ((10 ^ k : Nat) : Int) := by
  intro n
  induction n with
  | zero => intro h; omega
  | succ n ih =>
    intro h
    show dc_sm (upd a k x) n + (upd a k x n).toInt * _ = dc_sm a n + (a n).toInt * _ + _
    by_cases e : n = k
    · subst e
      rw [dc_sm_ge a n x n (Nat.le_refl n), pk_us, Int.sub_mul]
      omega
    · rw [ih (by omega), pk_un e]
      omega
def dc_bd (a : Nat → Int32) (lo hi B : Nat) : Prop := ∀ j, lo ≤ j → j < hi → (a j).toInt.natAbs ≤ B
def dc_d9 (a : Nat → Int32) (n : Nat) : Prop := ∀ j, j < n → 0 ≤ (a j).toInt ∧ (a j).toInt ≤ 9
theorem dc_sm_lt (a : Nat → Int32) : ∀ n, dc_d9 a n → 0 ≤ dc_sm a n ∧ dc_sm a n < ((10 ^ n : Nat) : Int) := by
  intro n
  induction n with
  | zero =>
    intro _
    exact ⟨Int.le_refl 0, (show (0 : Int) < 1 by decide)⟩
  | succ n ih =>
    intro h
    obtain ⟨a1, a2⟩ := ih (fun j hj => h j (by omega))
    obtain ⟨b1, b2⟩ := h n (by omega)
    have e : ((10 ^ (n + 1) : Nat) : Int) = 10 * ((10 ^ n : Nat) : Int) := by rw [Nat.pow_succ]; omega
    have t0 : 0 ≤ ((10 ^ n : Nat) : Int) := by omega
    have c1 : 0 ≤ (a n).toInt * ((10 ^ n : Nat) : Int) := Int.mul_nonneg b1 t0
    have c2 : (a n).toInt * ((10 ^ n : Nat) : Int) ≤ 9 * ((10 ^ n : Nat) : Int) := Int.mul_le_mul_of_nonneg_right b2 t0
    show 0 ≤ dc_sm a n + (a n).toInt * ((10 ^ n : Nat) : Int) ∧ dc_sm a n + (a n).toInt * ((10 ^ n : Nat) : Int) < _
    rw [e]
    omega
theorem dc_sm_dig (a : Nat → Int32) : ∀ (n N : Nat), dc_d9 a n → dc_sm a n = (N : Int) → ∀ j, j < n → (a j).toInt = ((N / 10 ^ j % 10 : Nat) : Int) := by
  intro n
  induction n with
  | zero =>
    intro N _ _ j hj
    omega
  | succ n ih =>
    intro N h hN j hj
    have h' : dc_d9 a n := fun j hj => h j (by omega)
    obtain ⟨a1, a2⟩ := dc_sm_lt a n h'
    obtain ⟨b1, b2⟩ := h n (by omega)
    obtain ⟨d, hd⟩ : ∃ d : Nat, (a n).toInt = (d : Int) := ⟨(a n).toInt.toNat, by omega⟩
    obtain ⟨N0, hN0⟩ : ∃ N0 : Nat, dc_sm a n = (N0 : Int) := ⟨(dc_sm a n).toNat, by omega⟩
    have hN2 : dc_sm a n + (a n).toInt * ((10 ^ n : Nat) : Int) = (N : Int) := hN
    have e : N = N0 + d * 10 ^ n := by
      rw [hd, hN0, ← Int.natCast_mul, ← Int.natCast_add] at hN2
      exact (Int.ofNat_inj.mp hN2).symm
    by_cases hjn : j = n
    · subst hjn
      rw [hd, e, Nat.add_mul_div_right _ _ (dc_pp j), Nat.div_eq_of_lt (by omega)]
      omega
    · rw [ih N0 h' hN0 j (by omega), e]
      obtain ⟨t, rfl⟩ : ∃ t, n = j + (t + 1) := ⟨n - j - 1, by omega⟩
      have e2 : N0 + d * 10 ^ (j + (t + 1)) = N0 + d * 10 ^ t * 10 * 10 ^ j := by
        rw [Nat.pow_add, Nat.pow_succ]
        simp only [Nat.mul_assoc, Nat.mul_comm, Nat.mul_left_comm]
      rw [e2, Nat.add_mul_div_right _ _ (dc_pp j), Nat.add_mul_mod_self_right]
section
variable {P md fl lo ng mo : Int32} {co ex a : Nat → Int32}
theorem dy_begin_l {post : SY → Prop} {x : Int32} (hp : ∀ a' : Nat → Int32, (∀ j, j < 128 → a' j = 0) → post (P, md, fl, x, 0, 0, co, ex, a')) :
    ∀ (t i : Nat) (a : Nat → Int32), i + t = 128 → (∀ j, j < i → a j = 0) → wY_begin_2 post x P md fl lo ng mo (t + 1) (nI i) co ex a := by
  intro t
  induction t with
  | zero =>
    intro i a hi ha
    have e : i = 128 := by omega
    subst e
    exact br_t (by decide) (hp a ha)
  | succ t ih =>
    intro i a hi ha
    have hn : ¬ (128 : Int32) ≤ nI i := nI_ge (b := 128) (by omega) (by decide)
    refine br_f hn (And.intro (vp_in_nI (by omega) (by decide)) (nm_e (nm_r (nI_1 i) (ih (i + 1) _ (by omega) ?_))))
    intro j hj
    rw [nI_clamp (by omega)]
    by_cases e : j = i
    · rw [e, pk_us]
    · rw [pk_un e]
      exact ha j (by omega)
theorem dy_begin {post : SY → Prop} {x : Int32} (hp : ∀ a' : Nat → Int32, (∀ j, j < 128 → a' j = 0) → post (P, md, fl, x, 0, 0, co, ex, a')) : wpY_begin post (P, md, fl, lo, ng, mo, co, ex, a) x :=
  ⟨129, dy_begin_l hp 128 0 a (by omega) (fun j hj => by omega)⟩
theorem dy_put_l {post : SY → Prop} {B i0 : Nat} {S : Int} {a0 : Nat → Int32} (hB : B ≤ 1000)
    (hp : ∀ a' : Nat → Int32, dc_bd a' 0 128 (B + 9) → (∀ j, j < i0 → a' j = a0 j) → dc_sm a' 128 = S → post (P, md, fl, lo, ng, mo, co, ex, a')) :
    ∀ (L : Nat) (r : Int) (i : Nat) (a : Nat → Int32), L ≤ 18 → r.natAbs < 10 ^ L → i + L ≤ 128 → i0 ≤ i → dc_bd a 0 i (B + 9) → dc_bd a i 128 B → (∀ j, j < i0 → a j = a0 j) → dc_sm a 128 + r * ((10 ^ i : Nat) : Int) = S → wY_put_11 post P md fl lo ng mo (L + 1) (du_l r) (nI i) co ex a := by
  intro L
  induction L with
  | zero =>
    intro r i a hL hr hi h0 h1 h2 h3 h4
    have hr0 : r = 0 := by
      rw [Nat.pow_zero] at hr
      omega
    have A : post (P, md, fl, lo, ng, mo, co, ex, a) := by
      refine hp a (fun j z hj => ?_) h3 (by rw [← h4, hr0, Int.zero_mul, Int.add_zero])
      by_cases c : j < i
      · exact h1 j z c
      · have := h2 j (by omega) hj
        omega
    exact br_f (nI_pos (by omega)) (pk_le 128 i (fun _ => A) (fun _ => dl_eq r 0 (fun _ => A) (fun z => absurd hr0 z)))
  | succ L ih =>
    intro r i a hL hr hi h0 h1 h2 h3 h4
    have h18 := dc_p18 hL
    have hc : (nI i).toNatClampNeg = i := nI_clamp (by omega)
    have hin : vp_in (nI i) 128 := vp_in_nI (by omega) (by decide)
    have q1 := Int.mul_tdiv_add_tmod r 10
    have q2 : (r.tdiv 10).natAbs = r.natAbs / 10 := Int.natAbs_tdiv r 10
    have q3 : (r.tmod 10).natAbs = r.natAbs % 10 := Int.natAbs_tmod r 10
    refine br_f (nI_pos (by omega)) (pk_le 128 i (fun h => by omega) (fun _ => dl_eq r 0 (fun hr0 => ?_) (fun hr0 => ?_)))
    · refine hp a (fun j z hj => ?_) h3 (by rw [← h4, hr0, Int.zero_mul, Int.add_zero])
      by_cases c : j < i
      · exact h1 j z c
      · have := h2 j (by omega) hj
        omega
    · have bi := h2 i (Nat.le_refl i) (by omega)
      have ev : a (nI i).toNatClampNeg + (du_l r - du_l r / 10 * 10).toInt32 = du_i ((a i).toInt + r.tmod 10) := by
        have e1 : du_l r - du_l r / du_l 10 * du_l 10 = du_l (r.tmod 10) := du_lrem (by omega) (by omega) (by omega) (by omega)
        have e2 : (10 : Int64) = du_l 10 := rfl
        rw [e2, e1, du_l2i, hc, ← du_iadd, ← du_io]
      have et : (du_i ((a i).toInt + r.tmod 10)).toInt = (a i).toInt + r.tmod 10 := du_iT (by omega) (by omega)
      have ed : du_l r / 10 = du_l (r.tdiv 10) := by
        have e2 : (10 : Int64) = du_l 10 := rfl
        rw [e2]
        exact du_ldiv (by omega) (by omega) (by omega) (by omega)
      have eu : upd a (nI i).toNatClampNeg (a (nI i).toNatClampNeg + (du_l r - du_l r / 10 * 10).toInt32) = upd a i (du_i ((a i).toInt + r.tmod 10)) := by rw [ev, hc]
      refine And.intro hin (And.intro (by decide) (And.intro hin (nm_r eu (And.intro (by decide) (nm_r ed (nm_r (nI_1 i) (ih _ (i + 1) _ (by omega) ?_ (by omega) (by omega) ?_ ?_ ?_ ?_)))))))
      · rw [Nat.pow_succ] at hr
        omega
      · intro j z hj
        by_cases c : j = i
        · rw [c, pk_us, et]
          omega
        · rw [pk_un c]
          exact h1 j z (by omega)
      · intro j z hj
        rw [pk_un (by omega)]
        exact h2 j (by omega) hj
      · intro j hj
        rw [pk_un (by omega)]
        exact h3 j hj
      · rw [dc_sm_upd a i _ 128 (by omega), et, ← h4]
        have e5 : ((10 ^ (i + 1) : Nat) : Int) = 10 * ((10 ^ i : Nat) : Int) := by rw [Nat.pow_succ]; omega
        have e6 : r * ((10 ^ i : Nat) : Int) = (10 * r.tdiv 10 + r.tmod 10) * ((10 ^ i : Nat) : Int) := by rw [q1]
        rw [e5, e6]
        generalize ((10 ^ i : Nat) : Int) = T
        generalize r.tdiv 10 = q
        generalize r.tmod 10 = s
        have e7 : (a i).toInt + s - (a i).toInt = s := by omega
        rw [e7, Int.add_mul, Int.mul_assoc, Int.mul_left_comm]
        omega
/-- put: the value grows by v·10^(e - lo) -/
theorem dy_put {post : SY → Prop} {B i L : Nat} {v e l : Int} (hB : B ≤ 1000) (hL : L ≤ 18) (hv : v.natAbs < 10 ^ L) (he : e = l + i) (hi : i + L ≤ 128) (hb : dc_bd a 0 128 B)
    (hp : ∀ a' : Nat → Int32, dc_bd a' 0 128 (B + 9) → (∀ j, j < i → a' j = a j) → dc_sm a' 128 = dc_sm a 128 + v * ((10 ^ i : Nat) : Int) → post (P, md, fl, du_i l, ng, mo, co, ex, a')) :
    wpY_put post (P, md, fl, du_i l, ng, mo, co, ex, a) (du_l v) (du_i e) := by
  have e1 : du_i e - du_i l = nI i := by
    rw [du_isub, du_iN]
    exact congrArg du_i (by omega)
  refine nm_r e1 ⟨L + 1, dy_put_l hB hp L v i a hL hv hi (Nat.le_refl i) (fun j z hj => ?_) (fun j z hj => hb j (by omega) hj) (fun j _ => rfl) rfl⟩
  have := hb j (by omega) (by omega)
  omega
end
end
section
/-! tidy: all digits 0 to 9, the sign apart -/
section
variable {P md fl lo ng mo : Int32} {co ex a : Nat → Int32}
theorem dy_t72 {post : SY → Prop} {W : Nat} {n : Nat} (hn : n = 128) (hW : W < 10 ^ n) (hp : ∀ a' : Nat → Int32, dc_d9 a' n → dc_sm a' n = (W : Int) → post (P, md, fl, lo, ng, mo, co, ex, a')) :
    ∀ (t i : Nat) (a : Nat → Int32) (c : Int), i + t = n → dc_d9 a n → 0 ≤ c → c ≤ 1 → 2 * dc_sm a i + c * ((10 ^ i : Nat) : Int) + ((10 ^ n : Nat) : Int) - ((10 ^ i : Nat) : Int) - dc_sm a n = (W : Int) → wY_tidy_72 post P md fl lo ng mo (t + 1) (du_i c) (nI i) co ex a := by
  intro t
  induction t with
  | zero =>
    intro i a c hi ha c0 c1 hs
    have e : i = n := by omega
    subst e
    have h128 : (128 : Int32) ≤ nI i := nI_le (a := 128) (by omega) (by omega)
    refine br_t h128 (hp a ha ?_)
    obtain ⟨b1, b2⟩ := dc_sm_lt a i ha
    have hc : c = 0 ∨ c = 1 := by omega
    rcases hc with hc | hc
    · subst hc
      omega
    · subst hc
      omega
  | succ t ih =>
    intro i a c hi ha c0 c1 hs
    have hn1 : ¬ (128 : Int32) ≤ nI i := nI_ge (b := 128) (by omega) (by decide)
    have hc : (nI i).toNatClampNeg = i := nI_clamp (by omega)
    have hin : vp_in (nI i) 128 := vp_in_nI (by omega) (by decide)
    obtain ⟨b1, b2⟩ := ha i (by omega)
    obtain ⟨v, hv⟩ : ∃ v : Int, v = 9 - (a i).toInt + c := ⟨_, rfl⟩
    have ev : (9 : Int32) - a (nI i).toNatClampNeg + du_i c = du_i v := by
      have e9 : (9 : Int32) = du_i 9 := rfl
      have e8 : du_i 9 - a i + du_i c = du_i 9 - du_i (a i).toInt + du_i c := by rw [← du_io]
      rw [hc, e9, e8, du_isub, du_iadd, hv]
    have ed : du_i v / 10 = du_i (v / 10) := by
      have e9 : (10 : Int32) = du_i 10 := rfl
      rw [e9, du_idiv (by omega) (by omega) (by omega) (by omega), Int.tdiv_eq_ediv_of_nonneg (by omega)]
    have er : du_i v - du_i v / 10 * 10 = du_i (v - v / 10 * 10) := by
      have e9 : (10 : Int32) = du_i 10 := rfl
      rw [ed, e9, du_imul, du_isub]
    have et : (du_i (v - v / 10 * 10)).toInt = v - v / 10 * 10 := du_iT (by omega) (by omega)
    have eu : upd a (nI i).toNatClampNeg (du_i v - du_i v / 10 * 10) = upd a i (du_i (v - v / 10 * 10)) := by rw [hc, er]
    refine br_f hn1 (And.intro hin (nm_r ev (And.intro (by decide) (nm_r ed (And.intro (by decide) (And.intro hin (nm_r eu (nm_r (nI_1 i) (ih (i + 1) _ _ (by omega) ?_ (by omega) (by omega) ?_)))))))))
    · intro j hj
      by_cases e : j = i
      · rw [e, pk_us, et]
        omega
      · rw [pk_un e]
        exact ha j hj
    · have s1 : dc_sm (upd a i (du_i (v - v / 10 * 10))) (i + 1) = dc_sm (upd a i (du_i (v - v / 10 * 10))) i + (upd a i (du_i (v - v / 10 * 10)) i).toInt * ((10 ^ i : Nat) : Int) := rfl
      rw [s1, dc_sm_ge a i _ i (Nat.le_refl i), pk_us, dc_sm_upd a i _ n (by omega), et, ← hs]
      have e5 : ((10 ^ (i + 1) : Nat) : Int) = 10 * ((10 ^ i : Nat) : Int) := by rw [Nat.pow_succ]; omega
      rw [e5]
      have ec : c = v - 9 + (a i).toInt := by omega
      rw [ec]
      generalize ((10 ^ i : Nat) : Int) = T
      generalize ((10 ^ n : Nat) : Int) = Z
      generalize v / 10 = q
      generalize (a i).toInt = x
      grind
theorem dy_t4 {post : SY → Prop} {nb : Bool} {V : Int} {n : Nat} (hn : n = 128) (hV : V.natAbs < 10 ^ n) (hp : ∀ a' : Nat → Int32, dc_d9 a' n → dc_sm a' n = (V.natAbs : Int) → post (P, md, fl, lo, du_b (nb || decide (V < 0)), mo, co, ex, a')) :
    ∀ (t i : Nat) (a : Nat → Int32) (c : Int), i + t = n → dc_d9 a i → dc_bd a i n 18 → -2 ≤ c → c ≤ 2 → dc_sm a n + c * ((10 ^ i : Nat) : Int) = V → wY_tidy_4 post P md fl lo (du_b nb) mo (t + 1) (du_i c) (nI i) co ex a := by
  intro t
  induction t with
  | zero =>
    intro i a c hi ha hb c0 c1 hs
    have e : i = n := by omega
    subst e
    have h128 : (128 : Int32) ≤ nI i := nI_le (a := 128) (by omega) (by omega)
    obtain ⟨b1, b2⟩ := dc_sm_lt a i ha
    have hp0 : 0 < ((10 ^ i : Nat) : Int) := by have := dc_pp i; omega
    have hc : c = -2 ∨ c = -1 ∨ c = 0 ∨ c = 1 ∨ c = 2 := by omega
    have hc2 : c = -1 ∨ c = 0 := by
      rcases hc with hc | hc | hc | hc | hc <;> subst hc <;> omega
    rcases hc2 with hc | hc
    · subst hc
      have hVn : V < 0 := by omega
      rw [decide_eq_true hVn, Bool.or_true] at hp
      refine br_t h128 (br_t (by decide) ⟨129, dy_t72 hn hV hp 128 0 a 1 (by omega) ha (by omega) (by omega) ?_⟩)
      have z1 : dc_sm a 0 = 0 := rfl
      rw [z1, Nat.pow_zero]
      omega
    · subst hc
      have hVn : ¬ V < 0 := by omega
      rw [decide_eq_false hVn, Bool.or_false] at hp
      exact br_t h128 (br_f (by decide) (hp a ha (by omega)))
  | succ t ih =>
    intro i a c hi ha hb c0 c1 hs
    have hn1 : ¬ (128 : Int32) ≤ nI i := nI_ge (b := 128) (by omega) (by decide)
    have hc : (nI i).toNatClampNeg = i := nI_clamp (by omega)
    have hin : vp_in (nI i) 128 := vp_in_nI (by omega) (by decide)
    have bi := hb i (Nat.le_refl i) (by omega)
    obtain ⟨v, hv⟩ : ∃ v : Int, v = (a i).toInt + c := ⟨_, rfl⟩
    have ev : a (nI i).toNatClampNeg + du_i c = du_i v := by
      have e8 : a i + du_i c = du_i (a i).toInt + du_i c := by rw [← du_io]
      rw [hc, e8, du_iadd, hv]
    have e9 : (9 : Int32) = du_i 9 := rfl
    have e10 : (10 : Int32) = du_i 10 := rfl
    have J : ∀ (q : Int) (z : Int32), z = du_i q → 0 ≤ v - 10 * q → v - 10 * q ≤ 9 → wY_tidy_39 post (wY_tidy_4 post P md fl lo (du_b nb) mo (t + 1)) (nI i) (du_i v) z P md fl lo (du_b nb) mo co ex a := by
      intro q z hz q1 q2
      subst hz
      have et : (du_i (v - 10 * q)).toInt = v - 10 * q := du_iT (by omega) (by omega)
      have eu : upd a (nI i).toNatClampNeg (du_i v - 10 * du_i q) = upd a i (du_i (v - 10 * q)) := by rw [hc, e10, du_imul, du_isub]
      refine And.intro hin (nm_r eu (nm_r (nI_1 i) (ih (i + 1) _ _ (by omega) ?_ ?_ (by omega) (by omega) ?_)))
      · intro j hj
        by_cases e : j = i
        · rw [e, pk_us, et]
          omega
        · rw [pk_un e]
          exact ha j (by omega)
      · intro j hj hj2
        rw [pk_un (by omega)]
        exact hb j (by omega) hj2
      · rw [dc_sm_upd a i _ n (by omega), et, ← hs]
        have e5 : ((10 ^ (i + 1) : Nat) : Int) = 10 * ((10 ^ i : Nat) : Int) := by rw [Nat.pow_succ]; omega
        rw [e5]
        have ec : c = v - (a i).toInt := by omega
        rw [ec]
        generalize ((10 ^ i : Nat) : Int) = T
        generalize (a i).toInt = x
        simp only [Int.add_mul, Int.sub_mul, Int.mul_assoc, Int.mul_left_comm]
        omega
    refine br_f hn1 (And.intro hin (nm_r ev (di_le 0 v (fun h => ?_) (fun h => ?_))))
    · refine And.intro (by decide) (J (v / 10) _ ?_ (by omega) (by omega))
      rw [e10, du_idiv (by omega) (by omega) (by omega) (by omega), Int.tdiv_eq_ediv_of_nonneg (by omega)]
    · refine And.intro (by decide) (J (-((9 - v) / 10)) _ ?_ (by omega) (by omega))
      rw [e9, e10, du_isub, du_idiv (by omega) (by omega) (by omega) (by omega), Int.tdiv_eq_ediv_of_nonneg (by omega), du_ineg]
/-- the digits of N -/
def dc_dgt (N : Nat) (a : Nat → Int32) : Prop := ∀ j, j < 128 → a j = nI (N / 10 ^ j % 10)
theorem dy_tidy {post : SY → Prop} {nb : Bool} {V : Int} (hb : dc_bd a 0 128 18) (hs : dc_sm a 128 = V) (hV : V.natAbs < 10 ^ 100) (hp : ∀ a' : Nat → Int32, dc_dgt V.natAbs a' → post (P, md, fl, lo, du_b (nb || decide (V < 0)), mo, co, ex, a')) :
    wpY_tidy post (P, md, fl, lo, du_b nb, mo, co, ex, a) := by
  obtain ⟨n, hn⟩ : ∃ n, n = 128 := ⟨_, rfl⟩
  refine ⟨128 + 1, dy_t4 (V := V) hn (Nat.lt_of_lt_of_le hV (dc_ple (by omega))) (fun a' h9 hs' => hp a' (fun j hj => ?_)) 128 0 a 0 (by omega) (fun j hj => by omega) (fun j h1 h2 => hb j h1 (by omega)) (by omega) (by omega) ?_⟩
  · have h := dc_sm_dig a' n V.natAbs h9 hs' j (by omega)
    rw [du_io (a' j), h, du_iN]
  · rw [Int.zero_mul, Int.add_zero, hn]
    exact hs
end
end
section
/-! the reference's readers of the row: top, bottom, part, up; its count of digits; keep -/
theorem dc_dig0 {N i : Nat} (h : N < 10 ^ i) : N / 10 ^ i % 10 = 0 := by rw [Nat.div_eq_of_lt h]
section
variable {P md fl lo ng mo : Int32} {co ex a : Nat → Int32}
theorem dy_top_l {post : Int32 → Prop} {N D : Nat} (hN : dc_dgt N a) (h0 : 0 < N) (hD : dc_dg N D) (hp : post (nI (D - 1))) :
    ∀ i : Nat, i < 128 → D - 1 ≤ i → wY_top_3 post P md fl lo ng mo co ex a (i + 1) (nI i) := by
  have hD1 := hD.1
  have hlo := dc_dg_lo hD h0
  have T : ∀ i : Nat, i < 128 → D - 1 = i → ¬ a (nI i).toNatClampNeg = 0 := by
    intro i hi e
    rw [nI_clamp (by omega), hN i hi, ← e]
    have q : N / 10 ^ (D - 1) < 10 := by
      refine (Nat.div_lt_iff_lt_mul (dc_pp _)).mpr ?_
      have h := hD.2.1
      have e2 : D = (D - 1) + 1 := by omega
      rw [e2, Nat.pow_succ, Nat.mul_comm] at h
      exact h
    have q2 : 1 ≤ N / 10 ^ (D - 1) := (Nat.le_div_iff_mul_le (dc_pp _)).mpr (by omega)
    exact nI_ne0 (by omega) (by omega)
  intro i
  induction i with
  | zero =>
    intro h1 h2
    have e : D - 1 = 0 := by omega
    rw [e] at hp
    exact br_f (by decide) (And.intro (vp_in_nI (by omega) (by decide)) (br_f (T 0 (by omega) e) hp))
  | succ i ih =>
    intro h1 h2
    refine br_f (nI_pos (by omega)) (And.intro (vp_in_nI (by omega) (by decide)) ?_)
    by_cases e : D - 1 = i + 1
    · rw [e] at hp
      exact br_f (T _ h1 e) hp
    · have hz : a (nI (i + 1)).toNatClampNeg = 0 := by
        rw [nI_clamp (by omega), hN _ h1, dc_dig0 (Nat.lt_of_lt_of_le hD.2.1 (dc_ple (by omega)))]
        rfl
      exact br_t hz (nm_r (pk_m1 i) (ih (by omega) (by omega)))
theorem dy_top {post : Int32 → Prop} {N D : Nat} (hN : dc_dgt N a) (hN2 : N < 10 ^ 100) (h0 : 0 < N) (hD : dc_dg N D) (hp : post (nI (D - 1))) : wpY_top post (P, md, fl, lo, ng, mo, co, ex, a) := by
  have h100 : D ≤ 100 := (dc_dg_le hD (by decide)).mpr hN2
  exact ⟨128, dy_top_l hN h0 hD hp 127 (by omega) (by omega)⟩
theorem dy_top0_l {post : Int32 → Prop} (hN : dc_dgt 0 a) (hp : post (-1)) :
    ∀ i : Nat, i < 128 → wY_top_3 post P md fl lo ng mo co ex a (i + 2) (nI i) := by
  intro i
  induction i with
  | zero =>
    intro h1
    have hz : a (nI 0).toNatClampNeg = 0 := by
      rw [nI_clamp (by omega), hN _ h1, dc_dig0 (dc_pp _)]
      rfl
    exact br_f (by decide) (And.intro (vp_in_nI (by omega) (by decide)) (br_t hz (nm_r (e' := -1) (by decide) (br_t (by decide) hp))))
  | succ i ih =>
    intro h1
    have hz : a (nI (i + 1)).toNatClampNeg = 0 := by
      rw [nI_clamp (by omega), hN _ h1, dc_dig0 (dc_pp _)]
      rfl
    exact br_f (nI_pos (by omega)) (And.intro (vp_in_nI (by omega) (by decide)) (br_t hz (nm_r (pk_m1 i) (ih (by omega)))))
theorem dy_top0 {post : Int32 → Prop} (hN : dc_dgt 0 a) (hp : post (-1)) : wpY_top post (P, md, fl, lo, ng, mo, co, ex, a) :=
  ⟨129, dy_top0_l hN hp 127 (by omega)⟩
theorem dy_bot_l {post : Int32 → Prop} {m z : Nat} (hN : dc_dgt (m * 10 ^ z) a) (hm : m % 10 ≠ 0) (hz : z < 128) (hp : post (nI z)) :
    ∀ t i : Nat, i + t = z → wY_bottom_2 post P md fl lo ng mo co ex a (t + 1) (nI i) := by
  intro t
  induction t with
  | zero =>
    intro i hi
    have e : i = z := by omega
    subst e
    have hn : ¬ a (nI i).toNatClampNeg = 0 := by
      rw [nI_clamp (by omega), hN i hz, Nat.mul_div_cancel _ (dc_pp i)]
      exact nI_ne0 (by omega) (by omega)
    exact br_f (nI_ge (b := 128) (by omega) (by decide)) (And.intro (vp_in_nI (by omega) (by decide)) (br_f hn hp))
  | succ t ih =>
    intro i hi
    have hn : a (nI i).toNatClampNeg = 0 := by
      rw [nI_clamp (by omega), hN i (by omega)]
      have e : z = t + 1 + i := by omega
      rw [e, Nat.pow_add, ← Nat.mul_assoc, Nat.mul_div_cancel _ (dc_pp i), Nat.pow_succ, ← Nat.mul_assoc, Nat.mul_mod_left]
      rfl
    exact br_f (nI_ge (b := 128) (by omega) (by decide)) (And.intro (vp_in_nI (by omega) (by decide)) (br_t hn (nm_r (nI_1 i) (ih (i + 1) (by omega)))))
theorem dy_bot {post : Int32 → Prop} {m z : Nat} (hN : dc_dgt (m * 10 ^ z) a) (hm : m % 10 ≠ 0) (hz : z < 128) (hp : post (nI z)) : wpY_bottom post (P, md, fl, lo, ng, mo, co, ex, a) :=
  ⟨z + 1, dy_bot_l hN hm hz hp z 0 (by omega)⟩
theorem dc_step (N i : Nat) : N / 10 ^ (i + 1) * 10 + N / 10 ^ i % 10 = N / 10 ^ i := by
  have e : N / 10 ^ (i + 1) = N / 10 ^ i / 10 := by rw [Nat.pow_succ, Nat.div_div_eq_div_mul]
  rw [e]
  omega
theorem dy_part_l {post : Int64 → Prop} {N f : Nat} (hN : dc_dgt N a) (hf2 : f ≤ 200) (hp : post (lN (N / 10 ^ f))) :
    ∀ i : Nat, i < 128 → f ≤ i + 1 → wY_part_5 post (nI f) P md fl lo ng mo co ex a (i + 2) (lN (N / 10 ^ (i + 1))) (nI i) := by
  have V : ∀ i : Nat, i < 128 → lN (N / 10 ^ (i + 1)) * 10 + (a (nI i).toNatClampNeg).toInt64 = lN (N / 10 ^ i) := by
    intro i hi
    rw [nI_clamp (by omega), hN i hi, nI_l (by omega)]
    have e : lN (N / 10 ^ (i + 1)) * lN 10 = lN (N / 10 ^ (i + 1) * 10) := lN_mul _ _
    have e2 : (10 : Int64) = lN 10 := rfl
    rw [e2, e, lN_add, dc_step]
  intro i
  induction i with
  | zero =>
    intro h1 h2
    refine pk_lt 0 f (fun h => ?_) (fun h => ?_)
    · have e : f = 0 + 1 := by omega
      subst e
      exact hp
    · have e : f = 0 := by omega
      subst e
      exact br_f (by decide) (And.intro (vp_in_nI (by omega) (by decide)) (nm_r (V 0 h1) (nm_r (e' := -1) (by decide) (br_t (by decide) hp))))
  | succ i ih =>
    intro h1 h2
    refine pk_lt (i + 1) f (fun h => ?_) (fun h => ?_)
    · have e : f = i + 1 + 1 := by omega
      subst e
      exact hp
    · exact br_f (nI_pos (by omega)) (And.intro (vp_in_nI (by omega) (by decide)) (nm_r (V _ h1) (nm_r (pk_m1 i) (ih (by omega) (by omega)))))
theorem dy_part {post : Int64 → Prop} {N f t : Nat} (hN : dc_dgt N a) (ht : t < 128) (hf : f ≤ t + 1) (hlt : N < 10 ^ (t + 1)) (hp : post (lN (N / 10 ^ f))) : wpY_part post (P, md, fl, lo, ng, mo, co, ex, a) (nI f) (nI t) := by
  have A := dy_part_l (P := P) (md := md) (fl := fl) (lo := lo) (ng := ng) (mo := mo) (co := co) (ex := ex) hN (by omega) hp t ht hf
  rw [Nat.div_eq_of_lt hlt] at A
  exact ⟨t + 2, A⟩
/-! up -/
theorem dy_u101 {post : Int32 → Prop} {nb ov ha : Bool} {kept : Nat} {h : Int} (hh : h = -1 ∨ h = 0 ∨ h = 1) (ho : ov = decide (h = 1)) (hha : ha = decide (h = 0)) (hp : post (du_b (dc_up md nb kept h))) :
    wY_up_101 post (du_b (decide (kept % 2 = 1))) (du_b ov) (du_b ha) P md fl lo (du_b nb) mo co ex a := by
  have H : (h = 0 → ov = false ∧ ha = true) ∧ (h ≠ 0 → ha = false ∧ ov = decide (0 < h)) := by
    subst ho hha
    rcases hh with e | e | e <;> subst e <;> exact ⟨fun z => by first | exact absurd z (by decide) | decide, fun z => by first | exact absurd rfl z | decide⟩
  unfold dc_up at hp
  refine br_c (fun c => ?_) (fun c0 => ?_)
  · rw [c, if_neg (by decide), if_neg (by decide), if_neg (by decide), if_neg (by decide), if_pos (rfl : (0 : Int32) = 0)] at hp
    by_cases h0 : h = 0
    · obtain ⟨e1, e2⟩ := H.1 h0
      rw [if_pos h0] at hp
      rw [e1, e2]
      refine br_t rfl (br_f (by decide) (db_0 _ (fun e => ?_) (fun e => ?_)))
      · rw [e] at hp
        exact hp
      · rw [e] at hp
        exact hp
    · obtain ⟨e1, e2⟩ := H.2 h0
      rw [if_neg h0, ← e2] at hp
      rw [e1]
      refine db_0 ov (fun e => br_t rfl ?_) (fun e => ?_)
      · rw [e] at hp
        exact hp
      · rw [e] at hp
        exact hp
  refine br_c (fun c => ?_) (fun c1 => ?_)
  · rw [c, if_neg (by decide), if_neg (by decide), if_neg (by decide), if_neg (by decide), if_neg (by decide : ¬ (1 : Int32) = 0)] at hp
    by_cases h0 : h = 0
    · obtain ⟨e1, e2⟩ := H.1 h0
      rw [if_pos h0] at hp
      rw [e1, e2]
      exact br_t rfl (br_f (by decide) hp)
    · obtain ⟨e1, e2⟩ := H.2 h0
      rw [if_neg h0, ← e2] at hp
      rw [e1]
      refine db_0 ov (fun e => br_t rfl ?_) (fun e => ?_)
      · rw [e] at hp
        exact hp
      · rw [e] at hp
        exact hp
  refine br_c (fun c => ?_) (fun c2 => ?_)
  · rw [if_pos c] at hp
    exact hp
  rw [if_neg c2] at hp
  refine br_c (fun c => ?_) (fun c3 => ?_)
  · rw [if_pos c] at hp
    exact hp
  rw [if_neg c3] at hp
  refine br_c (fun c => ?_) (fun c4 => ?_)
  · rw [if_pos c] at hp
    exact And.intro (db_nar nb) hp
  rw [if_neg c4] at hp
  refine br_c (fun c => ?_) (fun c5 => ?_)
  · rw [if_pos c] at hp
    refine db_0 nb (fun e => ?_) (fun e => ?_)
    · subst e
      exact hp
    · subst e
      exact hp
  rw [if_neg c5] at hp
  refine And.intro (db_nar ov) ?_
  by_cases h0 : h = 0
  · obtain ⟨e1, e2⟩ := H.1 h0
    rw [if_pos h0, if_neg c0, decide_eq_false c1] at hp
    rw [e1]
    exact hp
  · obtain ⟨e1, e2⟩ := H.2 h0
    rw [if_neg h0, ← e2] at hp
    exact hp
theorem dy_u50 {post : Int32 → Prop} {nb any : Bool} {kept q : Nat} (hq : q < 10) (hp0 : q = 0 ∧ any = false → post 0)
    (hp : ¬ (q = 0 ∧ any = false) → post (du_b (dc_up md nb kept (if 2 * q < 10 then -1 else if 2 * q = 10 ∧ any = false then 0 else 1)))) :
    wY_up_50 post (du_b (decide (kept % 2 = 1))) (du_b any) (nI q) P md fl lo (du_b nb) mo co ex a := by
  have K : ¬ (q = 0 ∧ any = false) → wY_up_63 post (du_b (decide (kept % 2 = 1))) (du_b any) (nI q) P md fl lo (du_b nb) mo co ex a := by
    intro hne
    have hp := hp hne
    refine pk_lt 5 q (fun h => ?_) (fun h => pk_eq q 5 (fun h5 => ?_) (fun h5 => ?_))
    · rw [if_neg (by omega), if_neg (fun z => by omega)] at hp
      exact br_f (fun z => by have := (nI_eq (a := q) (b := 5) (by omega) (by omega)).mp z; omega) (dy_u101 (h := 1) (ov := true) (ha := false) (by decide) (by decide) (by decide) hp)
    · subst h5
      refine db_0 any (fun e => ?_) (fun e => ?_)
      · subst e
        exact br_t rfl (br_t rfl (dy_u101 (h := 0) (ov := false) (ha := true) (by decide) (by decide) (by decide) hp))
      · subst e
        exact br_t rfl (br_f (by decide) (dy_u101 (h := 1) (ov := true) (ha := false) (by decide) (by decide) (by decide) hp))
    · rw [if_pos (by omega)] at hp
      exact br_f (fun z => h5 ((nI_eq (a := q) (b := 5) (by omega) (by omega)).mp z)) (dy_u101 (h := -1) (ov := false) (ha := false) (by decide) (by decide) (by decide) hp)
  refine pk_eq q 0 (fun h => db_0 any (fun e => hp0 ⟨h, e⟩) (fun e => K (fun z => by rw [e] at z; exact absurd z.2 (by decide)))) (fun h => K (fun z => h z.1))
theorem dc_mo_s (N k : Nat) (mb : Bool) : dc_mo N (k + 1) mb = (dc_mo N k mb || decide (N / 10 ^ k % 10 ≠ 0)) := by
  have e := dc_mod N 1 k
  rw [Nat.add_comm 1 k, Nat.pow_one] at e
  have h0 := dc_pp k
  unfold dc_mo
  rw [Bool.or_assoc]
  refine congrArg (fun b => mb || b) ?_
  rw [e]
  by_cases h1 : N % 10 ^ k = 0
  · rw [h1]
    by_cases h2 : N / 10 ^ k % 10 = 0
    · rw [h2]
      simp
    · have h3 : 0 < 10 ^ k * (N / 10 ^ k % 10) := Nat.mul_pos h0 (by omega)
      rw [decide_eq_true (by omega), decide_eq_true h2]
      simp
  · rw [decide_eq_true (by omega), decide_eq_true h1]
    simp
theorem dy_up_l {post : Int32 → Prop} {N i : Nat} {nb mb od : Bool} (hN : dc_dgt N a) (hi : 1 ≤ i) (hi2 : i ≤ 128)
    (hp : wY_up_50 post (du_b od) (du_b (dc_mo N (i - 1) mb)) (nI (N / 10 ^ (i - 1) % 10)) P md fl lo (du_b nb) mo co ex a) :
    ∀ t k : Nat, k + t = i - 1 → wY_up_8 post (nI i) (du_b od) P md fl lo (du_b nb) mo co ex a (t + 1) (du_b (dc_mo N k mb)) (nI k) := by
  have e1 : nI i - 1 = nI (i - 1) := pk_sub (b := 1) hi
  have hd : a (nI i - 1).toNatClampNeg = nI (N / 10 ^ (i - 1) % 10) := by rw [e1, nI_clamp (by omega)]; exact hN _ (by omega)
  have hin : vp_in (nI i - 1) 128 := by rw [e1]; exact vp_in_nI (by omega) (by decide)
  intro t
  induction t with
  | zero =>
    intro k hk
    have e : k = i - 1 := by omega
    subst e
    rw [← hd] at hp
    exact br_t (by rw [e1]; exact nI_le (Nat.le_refl _) (by omega)) (br_f (nI_nle (by omega) (by omega)) (And.intro hin hp))
  | succ t ih =>
    intro k hk
    have hl : ¬ nI i - 1 ≤ nI k := by rw [e1]; exact nI_ge (by omega) (by omega)
    have A := ih (k + 1) (by omega)
    rw [dc_mo_s] at A
    refine br_f hl (And.intro (vp_in_nI (by omega) (by decide)) (pk_eq (N / 10 ^ k % 10) 0 (fun h => nm_r (nI_1 k) ?_) (fun h => nm_r (nI_1 k) ?_) (by rw [nI_clamp (by omega)]; exact hN k (by omega))))
    · rw [decide_eq_false (fun z => z h), Bool.or_false] at A
      exact A
    · rw [decide_eq_true h, Bool.or_true] at A
      exact A
theorem dy_up {post : Int32 → Prop} {N i : Nat} {nb mb : Bool} (hN : dc_dgt N a) (hi : 1 ≤ i) (hi2 : i ≤ 128) (hp0 : dc_ex N i mb → post 0)
    (hp : ¬ dc_ex N i mb → post (du_b (dc_up md nb (N / 10 ^ i) (dc_hf N i mb)))) :
    wpY_up post (P, md, fl, lo, du_b nb, du_b mb, co, ex, a) (nI i) (du_b (decide (N / 10 ^ i % 2 = 1))) := by
  have e0 : 1 + (i - 1) = i := by omega
  have h1 := dc_hf_sh N (i - 1) mb (j := 1) (by decide)
  have h2 := dc_ex_sh N 1 (i - 1) mb
  rw [e0] at h1 h2
  have m0 : dc_mo N 0 mb = mb := by
    unfold dc_mo
    rw [Nat.pow_zero, Nat.mod_one]
    simp
  have A := dy_up_l (P := P) (md := md) (fl := fl) (lo := lo) (mo := du_b mb) (co := co) (ex := ex) (post := post) (nb := nb) (mb := mb) (od := decide (N / 10 ^ i % 2 = 1)) hN hi hi2 (dy_u50 (by omega) (fun z => hp0 (h2.mp ?_)) (fun z => ?_)) (i - 1) 0 (by omega)
  · rw [m0] at A
    exact ⟨i - 1 + 1, A⟩
  · unfold dc_ex
    rw [Nat.pow_one]
    exact z
  · have q := hp (fun y => z (by have := h2.mpr y; unfold dc_ex at this; rw [Nat.pow_one] at this; exact this))
    rw [← h1] at q
    unfold dc_hf at q
    rw [Nat.pow_one] at q
    exact q
theorem dy_up0 {post : Int32 → Prop} {od : Int32} (hp : post 0) : wpY_up post (P, md, fl, lo, ng, 0, co, ex, a) (nI 0) od :=
  ⟨1, br_t (by decide) (br_t (by decide) (br_t rfl (br_t rfl hp)))⟩
end
end
section
/-! the reference's count of digits, keep and finish -/
section
variable {P md fl lo ng mo : Int32} {co ex a : Nat → Int32}
theorem dy_dig_l {post : Int32 → Prop} {c d : Nat} (hc : c < 9223372036854775808) (hd : dc_dg c d) (hp : post (nI d)) :
    ∀ t k e : Nat, k + t = 18 → e ≤ 100 → (0 < c / 10 ^ k → e = k + 1) → (c / 10 ^ k = 0 → dc_dg c e) → wY_digitsOf_19 post P md fl lo ng mo co ex a (t + 1) (lN (c / 10 ^ k)) (nI e) (nI k) := by
  intro t
  induction t with
  | zero =>
    intro k e hk he h1 h2
    have ek : k = 18 := by omega
    subst ek
    have e2 : e = d := by
      by_cases h : c / 10 ^ 18 = 0
      · exact dc_dg_u (h2 h) hd
      · refine dc_dg_u (n := c) ?_ hd
        rw [h1 (by omega)]
        refine ⟨by decide, Nat.lt_of_lt_of_le hc (by decide), Or.inr ?_⟩
        show 10 ^ 18 ≤ c
        omega
    subst e2
    exact br_t (by decide) hp
  | succ t ih =>
    intro k e hk he h1 h2
    have hn : ¬ (18 : Int32) ≤ nI k := nI_ge (b := 18) (by omega) (by decide)
    have hle : c / 10 ^ k ≤ c := Nat.div_le_self _ _
    have es : c / 10 ^ (k + 1) = c / 10 ^ k / 10 := by rw [Nat.pow_succ, Nat.div_div_eq_div_mul]
    have e3 : lN (c / 10 ^ k) / 10 = lN (c / 10 ^ (k + 1)) := by
      have h : lN (c / 10 ^ k) / lN 10 = lN (c / 10 ^ k / 10) := pk_lDiv (by omega) (by decide) (by decide)
      rw [es]
      exact h
    refine br_f hn (And.intro (by decide) (nm_r e3 (dn_le (c / 10 ^ (k + 1)) 0 (fun h => ?_) (fun h => ?_))))
    · refine nm_r (nI_1 k) (ih (k + 1) e (by omega) he (fun z => by omega) (fun z => ?_))
      by_cases h0 : c / 10 ^ k = 0
      · exact h2 h0
      · rw [h1 (by omega)]
        refine ⟨by omega, ?_, Or.inr ?_⟩
        · exact (Nat.div_eq_zero_iff_lt (dc_pp _)).mp z
        · have := (Nat.le_div_iff_mul_le (dc_pp k)).mp (by omega : 1 ≤ c / 10 ^ k)
          rw [Nat.add_sub_cancel]
          omega
    · have h9 := h1 (by omega)
      exact nm_r (nI_1 e) (nm_r (nI_1 k) (ih (k + 1) (e + 1) (by omega) (by omega) (fun _ => by omega) (fun z => by omega)))
theorem dy_digZ {post : Int32 → Prop} {z : Int} {d : Nat} (hc : z.natAbs < 9223372036854775808) (hd : dc_dg z.natAbs d) (hp : post (nI d)) : wpY_digitsOf post (P, md, fl, lo, ng, mo, co, ex, a) (du_l z) := by
  have A := dy_dig_l (P := P) (md := md) (fl := fl) (lo := lo) (ng := ng) (mo := mo) (co := co) (ex := ex) (a := a) hc hd hp 18 0 1 (by omega) (by omega) (fun _ => rfl) (fun h => ?_)
  · rw [Nat.pow_zero, Nat.div_one] at A
    refine dl_le 0 z (fun h => ?_) (fun h => ?_)
    · have e2 : lN z.natAbs = du_l z := by rw [du_lN]; exact congrArg du_l (by omega)
      rw [e2] at A
      exact ⟨19, A⟩
    · have e2 : -du_l z = lN z.natAbs := by rw [du_lN, du_lneg]; exact congrArg du_l (by omega)
      exact nm_r e2 ⟨19, A⟩
  · rw [Nat.pow_zero, Nat.div_one] at h
    rw [h]
    exact ⟨by decide, by decide, Or.inl rfl⟩
theorem dy_dig {post : Int32 → Prop} {c d : Nat} (hc : c < 9223372036854775808) (hd : dc_dg c d) (hp : post (nI d)) : wpY_digitsOf post (P, md, fl, lo, ng, mo, co, ex, a) (lN c) := by
  rw [du_lN]
  exact dy_digZ (z := (c : Int)) (by rw [Int.natAbs_natCast]; exact hc) (by rw [Int.natAbs_natCast]; exact hd) hp
theorem dy_k45 {post : Int32 → SY → Prop} {x5 : Int32} {d : Nat} {w v : Int} {c : Int64} (hd : d < 6) (w1 : -1000000 ≤ w) (w2 : w ≤ 1000000) (hc : c.toInt32 = du_i v)
    (hp : post x5 (P, md, fl ||| x5, lo, ng, mo, upd co d (du_i v), upd ex d (du_i (dc_clp w)), a)) :
    wY_keep_45 post (nI d) (du_i w) x5 c (nI d) P md fl lo ng mo co ex a := by
  have hcl : (nI d).toNatClampNeg = d := nI_clamp (by omega)
  have hi : vp_in (nI d) 6 := vp_in_nI hd (by decide)
  have ec : upd co (nI d).toNatClampNeg c.toInt32 = upd co d (du_i v) := by rw [hcl, hc]
  have S : ∀ (u : Int) (x : Int32), x = du_i u → dc_clp w = u → wY_keep_78 post x5 x (nI d) P md fl lo ng mo (upd co d (du_i v)) ex a := by
    intro u x hx hu
    subst hx
    rw [hu] at hp
    have ee : upd ex (nI d).toNatClampNeg (du_i u) = upd ex d (du_i u) := by rw [hcl]
    exact And.intro hi (nm_r ee (nm_e hp))
  have m20 : (-20 : Int32) = du_i (-20) := by decide
  have p20 : (20 : Int32) = du_i 20 := by decide
  refine And.intro hi (nm_r ec (di_le (-20) w (fun h => di_le w 20 (fun h2 => S w _ rfl ?_) (fun h2 => S 20 _ p20 ?_) rfl p20) (fun h => S (-20) _ m20 ?_) m20 rfl))
  · unfold dc_clp
    rw [if_neg (by omega), if_neg (by omega)]
  · unfold dc_clp
    rw [if_neg (by omega), if_pos (by omega)]
  · unfold dc_clp
    rw [if_pos (by omega)]
theorem dy_k27 {post : Int32 → SY → Prop} {x5 : Int32} {nb : Bool} {d c : Nat} {w : Int} (hd : d < 6) (w1 : -1000000 ≤ w) (w2 : w ≤ 1000000)
    (hp : post x5 (P, md, fl ||| x5, lo, du_b nb, mo, upd co d (du_i (dc_sg nb c)), upd ex d (du_i (dc_clp w)), a)) :
    wY_keep_27 post (nI d) (lN c) (du_i w) x5 P md fl lo (du_b nb) mo co ex a := by
  refine db_0 nb (fun h => ?_) (fun h => ?_)
  · refine dy_k45 hd w1 w2 ?_ hp
    rw [h, lN_i, du_iN]
    rfl
  · refine dy_k45 hd w1 w2 ?_ hp
    rw [h, du_lN, du_lneg, du_l2i]
    rfl
theorem dy_keep0 {post : Int32 → SY → Prop} {nb : Bool} {d : Nat} {w : Int} {x : Int64} (hx : x = lN 0) (hd : d < 6) (w1 : -1000000 ≤ w) (w2 : w ≤ 1000000)
    (hp : post 0 (P, md, fl ||| 0, lo, du_b nb, mo, upd co d (du_i 0), upd ex d (du_i (dc_clp w)), a)) :
    wpY_keep post (P, md, fl, lo, du_b nb, mo, co, ex, a) (nI d) x (du_i w) 0 := by
  subst hx
  have e : dc_sg nb 0 = 0 := by cases nb <;> rfl
  have h0 : lN 0 = 0 := rfl
  refine br_t h0 (dy_k27 (c := 0) hd w1 w2 ?_)
  rw [e]
  exact hp
theorem dy_keep {post : Int32 → SY → Prop} {x5 : Int32} {nb : Bool} {d c : Nat} {e : Int} (hd : d < 6) (c0 : 0 < c) (c1 : c < 9223372036854775808) (w1 : -1000000 ≤ e) (w2 : e ≤ 1000000)
    (hp : post (dc_r e x5) (P, md, fl ||| dc_r e x5, lo, du_b nb, mo, dc_co d nb c e co, dc_ee d e ex, a)) :
    wpY_keep post (P, md, fl, lo, du_b nb, mo, co, ex, a) (nI d) (lN c) (du_i e) x5 := by
  have hne : ¬ lN c = 0 := fun z => by
    have := (pk_lEQ (a := c) (b := 0) (by omega) (by omega)).mp z
    omega
  unfold dc_r dc_co dc_ee at hp
  have K : ¬ (-20 ≤ e ∧ e ≤ 20) → wY_keep_20 post P md fl lo (du_b nb) mo co ex a := by
    intro h
    have hf : dc_in e = false := decide_eq_false h
    rw [hf] at hp
    exact nm_e hp
  refine br_f hne (di_lt e (-20) (fun h => K (by omega)) (fun h => di_le e 20 (fun h2 => ?_) (fun h2 => K (by omega))))
  have hf : dc_in e = true := decide_eq_true ⟨h, h2⟩
  rw [hf] at hp
  refine dy_k27 hd w1 w2 ?_
  have hcl : dc_clp e = e := by
    unfold dc_clp
    rw [if_neg (by omega), if_neg (by omega)]
  rw [hcl]
  exact hp
end
section
variable {p : Nat} {md fl : Int32} {co ex a : Nat → Int32}
theorem dy_f111 {post : Int32 → SY → Prop} {x1 x2 x8 : Int32} {P lo ng mo : Int32} {m y : Nat} {e : Int} (e1 : -1000000 ≤ e) (e2 : e ≤ 1000000) (hy : y ≤ 1000)
    (hp : (x8 ≤ x2 → wY_finish_149 post 0 x8 (lN (m * 10 ^ y)) x1 P md fl lo ng mo co ex a) ∧ (¬ x8 ≤ x2 → wY_finish_149 post 2 x8 (lN (m * 10 ^ y)) x1 P md fl lo ng mo co ex a)) :
    ∀ t i : Nat, i + t = y → wY_finish_111 post x1 x2 (du_i (e + y)) x8 P md fl lo ng mo co ex a (t + 1) (lN (m * 10 ^ i)) (du_i (e + i)) := by
  intro t
  induction t with
  | zero =>
    intro i hi
    have ei : i = y := by omega
    subst ei
    exact br_t ((du_ile (by omega) (by omega) (by omega) (by omega)).mpr (Int.le_refl _)) hp
  | succ t ih =>
    intro i hi
    have e3 : lN (m * 10 ^ i) * 10 = lN (m * 10 ^ (i + 1)) := by
      rw [Nat.pow_succ, ← Nat.mul_assoc]
      exact lN_mul _ 10
    have e4 : du_i (e + i) + 1 = du_i (e + (i + 1 : Nat)) := by
      have h : du_i (e + i) + 1 = du_i (e + i + 1) := du_iadd _ 1
      rw [h]
      exact congrArg du_i (by omega)
    refine di_le (e + y) (e + i) (fun h => ?_) (fun h => nm_r e3 (nm_r e4 (ih (i + 1) (by omega))))
    exfalso
    omega
/-- the exact one with few digits -/
theorem dy_f96 {post : Int32 → SY → Prop} {nb mb : Bool} {d m z cn y : Nat} {l e w t : Int} (hN : dc_dgt (m * 10 ^ z) a) (hd : d < 6) (hm : m % 10 ≠ 0) (hcn : dc_dg m cn) (hp7 : p ≤ 7) (hc7 : cn ≤ p) (hz : cn + z ≤ 100) (hy : cn + y ≤ p) (ht : t = e + y) (b1 : -100000 ≤ e) (b2 : e ≤ 100000) (w1 : -100000 ≤ w) (w2 : w ≤ 100000)
    (hp : post (dc_r e (if w < e then 2 else 0)) (nI p, md, fl ||| dc_r e (if w < e then 2 else 0), du_i l, du_b nb, du_b mb, dc_co d nb (m * 10 ^ y) e co, dc_ee d e ex, a)) :
    wY_finish_96 post (nI d) (du_i w) (nI (cn + z - 1)) (nI z) (du_i t) (du_i e) (nI p) md fl (du_i l) (du_b nb) (du_b mb) co ex a := by
  subst ht
  have hc1 := hcn.1
  have hD := dc_dg_mul z (by omega) hcn
  have hD2 := dc_dg_mul y (by omega) hcn
  have c1 : m * 10 ^ y < 10 ^ 7 := (dc_dg_le hD2 (by decide)).mp (by omega)
  have c2 : m * 10 ^ y < 10000000 := c1
  have c0 : 0 < m * 10 ^ y := Nat.mul_pos (by omega) (dc_pp _)
  have e1 : cn + z - 1 + 1 = cn + z := by omega
  refine dy_part hN (by omega) (by omega) (by rw [e1]; exact hD.2.1) ⟨y + 1, ?_⟩
  rw [Nat.mul_div_cancel _ (dc_pp z)]
  have e0 : du_i e = du_i (e + ((0 : Nat) : Int)) := congrArg du_i (by omega)
  have A := dy_f111 (post := post) (x1 := nI d) (x2 := du_i w) (x8 := du_i e) (P := nI p) (md := md) (fl := fl) (lo := du_i l) (ng := du_b nb) (mo := du_b mb) (co := co) (ex := ex) (a := a) (m := m) (y := y) (e := e) (by omega) (by omega) (by omega) ?_ y 0 (by omega)
  · rw [← e0, Nat.pow_zero, Nat.mul_one] at A
    exact A
  · refine di_le e w (fun h => ?_) (fun h => ?_)
    · rw [if_neg (by omega)] at hp
      exact dy_keep hd c0 (by omega) (by omega) (by omega) hp
    · rw [if_pos (by omega)] at hp
      exact dy_keep hd c0 (by omega) (by omega) (by omega) hp
/-- the one that must be rounded -/
theorem dy_f153 {d N j : Nat} {nb mb : Bool} {l w : Int} (hN : dc_dgt N a) (hd : d < 6) (hp3 : 3 ≤ p) (hp7 : p ≤ 7) (hD : dc_dg N (p + j)) (hj : 1 ≤ j) (hj2 : p + j ≤ 100) (hx : ¬ dc_ex N j mb) (b1 : -10000 ≤ l) (b2 : l ≤ 10000) :
    ∃ (c : Nat) (e : Int), dc_FO p md nb N l mb w c e 3 ∧ ∀ post : Int32 → SY → Prop, post (dc_r e 3) (nI p, md, fl ||| dc_r e 3, du_i l, du_b nb, du_b mb, dc_co d nb c e co, dc_ee d e ex, a) → wY_finish_153 post (nI d) (nI (p + j - 1)) (nI p) md fl (du_i l) (du_b nb) (du_b mb) co ex a := by
  have h10 : 10 ^ p ≤ 10000000 := Nat.le_trans (dc_ple hp7) (by decide)
  have hrd := dc_rd_le (mode := md) (neg := nb) (mo := mb) hD.2.1
  have hkp : N / 10 ^ j < 10 ^ p := (Nat.div_lt_iff_lt_mul (dc_pp j)).mpr (by rw [← Nat.pow_add]; exact hD.2.1)
  have hklo : 10 ^ (p - 1) ≤ N / 10 ^ j := by
    refine (Nat.le_div_iff_mul_le (dc_pp j)).mpr ?_
    rw [← Nat.pow_add, show p - 1 + j = p + j - 1 by omega]
    rcases hD.2.2 with h | h
    · omega
    · exact h
  have hpos := dc_pp (p - 1)
  have e6 : nI (p + j - 1) - nI p + 1 = nI j := by
    rw [pk_sub (by omega), nI_1]
    exact congrArg nI (by omega)
  have e1 : p + j - 1 + 1 = p + j := by omega
  have e9 : du_i l + nI j = du_i (l + j) := du_iaddN l j
  have hrdlo : N / 10 ^ j ≤ dc_rd md nb N j mb := Nat.le_add_right _ _
  -- the walk down to the rounded one
  have W : ∀ post : Int32 → SY → Prop, wY_finish_203 post (nI d) (nI j) (lN (dc_rd md nb N j mb)) (nI p) md fl (du_i l) (du_b nb) (du_b mb) co ex a → wY_finish_153 post (nI d) (nI (p + j - 1)) (nI p) md fl (du_i l) (du_b nb) (du_b mb) co ex a := by
    intro post hW
    have U : wY_finish_191 post (nI d) (nI j) (lN (N / 10 ^ j)) (du_b (decide (N / 10 ^ j % 2 = 1))) (nI j) (nI p) md fl (du_i l) (du_b nb) (du_b mb) co ex a := by
      refine dy_up hN hj (by omega) (fun z => absurd z hx) (fun _ => ?_)
      unfold dc_rd at hW
      refine db_0 _ (fun h => ?_) (fun h => ?_)
      · rw [h] at hW
        exact hW
      · rw [h] at hW
        exact nm_r (lN_1 _) hW
    refine nm_r e6 (dy_part hN (by omega) (by omega) (by rw [e1]; exact hD.2.1) (And.intro (by decide) (dn_eq (N / 10 ^ j % 2) 1 (fun h => ?_) (fun h => ?_) (pk_lRem (b := 2) (by omega) (by decide) (by decide)))))
    · rw [decide_eq_true h] at U
      exact U
    · rw [decide_eq_false h] at U
      exact U
  obtain ⟨q, hq⟩ := dc_dg_ex (dc_rd md nb N j mb)
  have hq1 := hq.1
  have hq8 : q ≤ 8 := (dc_dg_le hq (by decide)).mpr (Nat.lt_of_le_of_lt hrd (Nat.lt_of_le_of_lt h10 (by decide)))
  by_cases hr : dc_rd md nb N j mb = 10 ^ p
  · refine ⟨10 ^ (p - 1), l + j + 1, Or.inr ⟨j, hD, hj, hx, rfl, Or.inl ⟨hr, rfl, rfl⟩⟩, fun post hp => W post ?_⟩
    have hqp : ¬ q ≤ p := fun z => by have := (dc_dg_le hq (by omega)).mp z; omega
    have ed : lN (dc_rd md nb N j mb) / 10 = lN (10 ^ (p - 1)) := by
      have h : lN (dc_rd md nb N j mb) / lN 10 = lN (dc_rd md nb N j mb / 10) := pk_lDiv (by omega) (by decide) (by decide)
      have h2 : dc_rd md nb N j mb / 10 = 10 ^ (p - 1) := by
        rw [hr]
        obtain ⟨q, rfl⟩ : ∃ q, p = q + 1 := ⟨p - 1, by omega⟩
        rw [Nat.pow_succ, Nat.add_sub_cancel]
        omega
      rw [h2] at h
      exact h
    have e2 : du_i (l + j) + 1 = du_i (l + j + 1) := du_iadd _ 1
    have hple := dc_ple (a := p - 1) (b := p) (by omega)
    exact nm_r e9 (dy_dig (by omega) hq (br_f (nI_ge (by omega) (by omega)) (And.intro (by decide) (nm_r ed (nm_r e2 (dy_keep hd hpos (by omega) (by omega) (by omega) hp))))))
  · refine ⟨dc_rd md nb N j mb, l + j, Or.inr ⟨j, hD, hj, hx, rfl, Or.inr ⟨hr, rfl, rfl⟩⟩, fun post hp => W post ?_⟩
    have hqp : q ≤ p := (dc_dg_le hq (by omega)).mpr (by omega)
    exact nm_r e9 (dy_dig (by omega) hq (br_t (nI_le hqp (by omega)) (dy_keep hd (by omega) (by omega) (by omega) (by omega) hp)))
/-- finishing a row whose value is not 0 -/
theorem dy_fin {d : Nat} {nb mb : Bool} {V l w : Int} (hb : dc_bd a 0 128 18) (hs : dc_sm a 128 = V) (hV : V.natAbs < 10 ^ 100) (h0 : V ≠ 0) (hd : d < 6) (hp3 : 3 ≤ p) (hp7 : p ≤ 7) (hmb : mb = true → 10000000 ≤ V.natAbs)
    (l1 : -10000 ≤ l) (l2 : l ≤ 10000) (w1 : -10000 ≤ w) (w2 : w ≤ 10000) :
    ∃ (c : Nat) (e : Int) (f : Int32), dc_FO p md (nb || decide (V < 0)) V.natAbs l mb w c e f ∧ ∀ post : Int32 → SY → Prop, (∀ lo' ng' mo' a', post (dc_r e f) (nI p, md, fl ||| dc_r e f, lo', ng', mo', dc_co d (nb || decide (V < 0)) c e co, dc_ee d e ex, a')) → wpY_finish post (nI p, md, fl, du_i l, du_b nb, du_b mb, co, ex, a) (nI d) (du_i w) := by
  have h10 : 10 ^ p ≤ 10000000 := Nat.le_trans (dc_ple hp7) (by decide)
  obtain ⟨nb', hnb⟩ : ∃ b, b = (nb || decide (V < 0)) := ⟨_, rfl⟩
  obtain ⟨N, hNV⟩ : ∃ N, N = V.natAbs := ⟨_, rfl⟩
  rw [← hNV] at hV hmb
  have hN0 : 0 < N := by omega
  obtain ⟨m, z, hmz, hm⟩ := dc_tz N hN0
  obtain ⟨cn, hcn⟩ := dc_dg_ex m
  have hc1 := hcn.1
  have hD : dc_dg N (cn + z) := by rw [hmz]; exact dc_dg_mul z (by omega) hcn
  have hD100 : cn + z ≤ 100 := (dc_dg_le hD (by decide)).mpr hV
  rw [← hnb, ← hNV]
  -- the walk down to the count
  have W : ∀ post : Int32 → SY → Prop, (∀ a' : Nat → Int32, dc_dgt N a' → ((du_b mb = 0 → (nI p < nI cn → wY_finish_153 post (nI d) (nI (cn + z - 1)) (nI p) md fl (du_i l) (du_b nb') (du_b mb) co ex a') ∧ (¬ nI p < nI cn → ((du_i (l + z - (p - cn : Int)) ≤ du_i w → (du_i w ≤ du_i (l + z) → wY_finish_96 post (nI d) (du_i w) (nI (cn + z - 1)) (nI z) (du_i (l + z)) (du_i w) (nI p) md fl (du_i l) (du_b nb') (du_b mb) co ex a') ∧ (¬ du_i w ≤ du_i (l + z) → wY_finish_96 post (nI d) (du_i w) (nI (cn + z - 1)) (nI z) (du_i (l + z)) (du_i (l + z)) (nI p) md fl (du_i l) (du_b nb') (du_b mb) co ex a')) ∧ (¬ du_i (l + z - (p - cn : Int)) ≤ du_i w → wY_finish_96 post (nI d) (du_i w) (nI (cn + z - 1)) (nI z) (du_i (l + z)) (du_i (l + z - (p - cn : Int))) (nI p) md fl (du_i l) (du_b nb') (du_b mb) co ex a')))) ∧ (¬ du_b mb = 0 → wY_finish_153 post (nI d) (nI (cn + z - 1)) (nI p) md fl (du_i l) (du_b nb') (du_b mb) co ex a'))) → wpY_finish post (nI p, md, fl, du_i l, du_b nb, du_b mb, co, ex, a) (nI d) (du_i w) := by
    intro post hW
    refine dy_tidy hb hs (by rw [← hNV]; exact hV) (fun a' ha' => ?_)
    rw [← hnb]
    rw [← hNV] at ha'
    have hW := hW a' ha'
    refine dy_top ha' hV hN0 hD (br_t (nI_pos' (by omega)) ?_)
    rw [hmz] at ha'
    have e5 : nI (cn + z - 1) - nI z + 1 = nI cn := by
      rw [pk_sub (by omega), nI_1]
      exact congrArg nI (by omega)
    have e6 : du_i l + nI z = du_i (l + z) := du_iaddN l z
    have e7 : du_i (l + z) - (nI p - nI cn) = du_i (l + z - (p - cn : Int)) := by rw [du_iN, du_iN, du_isub, du_isub]
    refine dy_bot ha' hm (by omega) (nm_r e5 ?_)
    refine And.intro (fun c => And.intro (hW.1 c).1 (fun c2 => nm_r e6 (nm_r e7 ((hW.1 c).2 c2)))) hW.2
  by_cases hc : cn ≤ p ∧ mb = false
  · obtain ⟨hcp, hmf⟩ := hc
    subst hmf
    obtain ⟨y, hy⟩ : ∃ y, y = dc_y p cn (l + z) w := ⟨_, rfl⟩
    have y1 := dc_y_1 p cn (l + z) w
    have y2 := dc_y_2 p cn (l + z) w
    have y3 := dc_y_3 p cn (l + z) w
    rw [← hy] at y1 y2 y3
    obtain ⟨e, he⟩ : ∃ e : Int, e = l + z - y := ⟨_, rfl⟩
    refine ⟨m * 10 ^ y, e, if w < e then 2 else 0, Or.inl ⟨m, z, cn, rfl, hmz, hm, hcn, hcp, by rw [hy], by rw [he, hy], rfl⟩, fun post hp => W post (fun a' ha' => ?_)⟩
    rw [hmz] at ha'
    have F : ∀ e' : Int, e' = e → wY_finish_96 post (nI d) (du_i w) (nI (cn + z - 1)) (nI z) (du_i (l + z)) (du_i e') (nI p) md fl (du_i l) (du_b nb') (du_b false) co ex a' := by
      intro e' h
      rw [h]
      exact dy_f96 ha' hd hm hcn hp7 hcp hD100 (by omega) (by omega) (by omega) (by omega) (by omega) (by omega) (hp _ _ _ _)
    refine br_t rfl (br_f (nI_nlt hcp (by omega)) (di_le (l + z - (p - cn : Int)) w (fun h => di_le w (l + z) (fun h2 => F _ ?_) (fun h2 => F _ ?_)) (fun h => F _ ?_)))
    · omega
    · omega
    · omega
  · have hX : ∃ j, cn + z = p + j ∧ 1 ≤ j ∧ ¬ dc_ex N j mb := by
      cases mb with
      | true =>
        have h7 := hmb rfl
        have : ¬ cn + z ≤ p := fun h => by have := (dc_dg_le hD (by omega)).mp h; omega
        exact ⟨cn + z - p, by omega, by omega, fun h => absurd h.2 (by decide)⟩
      | false =>
        have hcp : ¬ cn ≤ p := fun h => hc ⟨h, rfl⟩
        refine ⟨cn + z - p, by omega, by omega, fun h => ?_⟩
        have h1 := h.1
        obtain ⟨i, hi⟩ : ∃ i, cn + z - p = i + 1 + z := ⟨cn - p - 1, by omega⟩
        rw [hi, dc_mod N (i + 1) z, hmz, Nat.mul_mod_left, Nat.mul_div_cancel _ (dc_pp z), dc_mod m i 1, Nat.pow_one] at h1
        have h2 := dc_pp z
        rw [Nat.zero_add] at h1
        rcases Nat.mul_eq_zero.mp h1 with h3 | h3
        · omega
        · omega
    obtain ⟨j, hj1, hj2, hj3⟩ := hX
    have hD' := hD
    rw [hj1] at hD'
    obtain ⟨c, e, hF, hW2⟩ := dy_f153 (a := fun i => nI (N / 10 ^ i % 10)) (md := md) (fl := fl) (co := co) (ex := ex) (nb := nb') (l := l) (w := w) (d := d) (fun i hi => rfl) hd hp3 hp7 hD' hj2 (by omega) hj3 l1 l2
    refine ⟨c, e, 3, hF, fun post hp => W post (fun a' ha' => ?_)⟩
    obtain ⟨c', e', hF', hW'⟩ := dy_f153 (a := a') (md := md) (fl := fl) (co := co) (ex := ex) (nb := nb') (l := l) (w := w) (d := d) ha' hd hp3 hp7 hD' hj2 (by omega) hj3 l1 l2
    obtain ⟨u1, u2, _⟩ := dc_FO_u hF hF'
    rw [← u1, ← u2] at hW'
    have A := hW' post (hp _ _ _ _)
    rw [← hj1] at A
    refine And.intro (fun c => br_t ?_ A) (fun _ => A)
    have hmf : mb = false := by
      cases mb
      · rfl
      · exact absurd c (by decide)
    have hcp : ¬ cn ≤ p := fun h => hc ⟨h, hmf⟩
    exact nI_lt (by omega) (by omega)
/-- finishing a row whose value is 0 -/
theorem dy_fin0 {post : Int32 → SY → Prop} {d : Nat} {nb : Bool} {mo : Int32} {l w : Int} (hb : dc_bd a 0 128 18) (hs : dc_sm a 128 = 0) (hd : d < 6) (w1 : -10000 ≤ w) (w2 : w ≤ 10000)
    (hp : ∀ lo' ng' mo' a', post 0 (nI p, md, fl ||| 0, lo', ng', mo', upd co d (du_i 0), upd ex d (du_i (dc_clp w)), a')) :
    wpY_finish post (nI p, md, fl, du_i l, du_b nb, mo, co, ex, a) (nI d) (du_i w) := by
  refine dy_tidy (V := 0) hb hs (dc_pp 100) (fun a' ha' => dy_top0 ha' (br_f (by decide) (dy_keep0 rfl hd (by omega) (by omega) (hp _ _ _ _))))
end
end
section
/-! the relation: the same precision, mode, flags and registers; the component's powers of ten; what lies in the scratch fields is free -/
def du_G (p : Nat) (co ex : Nat → Int32) : Prop := ∀ j, j < 6 → (co j).toInt.natAbs < 10 ^ p ∧ -20 ≤ (ex j).toInt ∧ (ex j).toInt ≤ 20
def i_Rel (_ : Nat) (u : SX) (v : SY) : Prop :=
  ∃ (p : Nat) (md ra ng : Int32) (mg : Int64) (sc mo : Int32) (co ex : Nat → Int32) (te : Nat → Int64) (lo ng2 mo2 : Int32) (a : Nat → Int32),
    u = (nI p, md, ra, ng, mg, sc, mo, co, ex, te) ∧ v = (nI p, md, ra, lo, ng2, mo2, co, ex, a) ∧ 3 ≤ p ∧ p ≤ 7 ∧ dx_te te ∧ du_G p co ex
theorem i_up {k : Nat} {u : SX} {v : SY} (h : i_Rel k u v) : i_Rel (k + 5) u v := h
theorem du_R {k p : Nat} {md ra ng : Int32} {mg : Int64} {sc mo : Int32} {co ex : Nat → Int32} {te : Nat → Int64} {lo ng2 mo2 : Int32} {a : Nat → Int32} (h3 : 3 ≤ p) (h7 : p ≤ 7) (hte : dx_te te) (hG : du_G p co ex) :
    i_Rel k (nI p, md, ra, ng, mg, sc, mo, co, ex, te) (nI p, md, ra, lo, ng2, mo2, co, ex, a) :=
  ⟨p, md, ra, ng, mg, sc, mo, co, ex, te, lo, ng2, mo2, a, rfl, rfl, h3, h7, hte, hG⟩
theorem du_el {k : Nat} {u : SX} {v : SY} {Q : SX → SY → Prop} (I : i_Rel k u v)
    (h : ∀ (p : Nat) (md ra ng : Int32) (mg : Int64) (sc mo : Int32) (co ex : Nat → Int32) (te : Nat → Int64) (lo ng2 mo2 : Int32) (a : Nat → Int32), 3 ≤ p → p ≤ 7 → dx_te te → du_G p co ex → Q (nI p, md, ra, ng, mg, sc, mo, co, ex, te) (nI p, md, ra, lo, ng2, mo2, co, ex, a)) : Q u v := by
  obtain ⟨p, md, ra, ng, mg, sc, mo, co, ex, te, lo, ng2, mo2, a, rfl, rfl, h3, h7, hte, hG⟩ := I
  exact h p md ra ng mg sc mo co ex te lo ng2 mo2 a h3 h7 hte hG
theorem du_p7 {p : Nat} (h : p ≤ 7) : 10 ^ p ≤ 10000000 := Nat.le_trans (dc_ple h) (by decide)
theorem du_Gu {p d : Nat} {co ex : Nat → Int32} {v e : Int} (h7 : p ≤ 7) (hG : du_G p co ex) (hv : v.natAbs < 10 ^ p) (e1 : -20 ≤ e) (e2 : e ≤ 20) : du_G p (upd co d (du_i v)) (upd ex d (du_i e)) := by
  have h10 := du_p7 h7
  intro j hj
  by_cases h : j = d
  · rw [h, pk_us, pk_us, du_iT (by omega) (by omega), du_iT (by omega) (by omega)]
    exact ⟨hv, e1, e2⟩
  · rw [pk_un h, pk_un h]
    exact hG j hj
theorem dc_clp_b (w : Int) : -20 ≤ dc_clp w ∧ dc_clp w ≤ 20 := by
  unfold dc_clp
  split
  · omega
  · split
    · omega
    · omega
theorem dc_sg_n (nb : Bool) (c : Nat) : (dc_sg nb c).natAbs = c := by
  cases nb
  · show ((c : Int)).natAbs = c
    omega
  · show (-(c : Int)).natAbs = c
    omega
theorem du_Gk {p d c : Nat} {co ex : Nat → Int32} {nb : Bool} {e : Int} (h7 : p ≤ 7) (hG : du_G p co ex) (hc : c < 10 ^ p) : du_G p (dc_co d nb c e co) (dc_ee d e ex) := by
  unfold dc_co dc_ee
  cases h : dc_in e
  · exact hG
  · have h2 := of_decide_eq_true h
    exact du_Gu h7 hG (by rw [dc_sg_n]; exact hc) h2.1 h2.2
/-- both finish alike -/
theorem du_join {p d N k : Nat} {md ra : Int32} {co ex : Nat → Int32} {te : Nat → Int64} {nb nbx ym : Bool} {V l w : Int} (h3 : 3 ≤ p) (h7 : p ≤ 7) (hte : dx_te te) (hG : du_G p co ex) (hd : d < 6)
    (hN : N = V.natAbs) (hV : N < 10 ^ 100) (hk : k ≤ 200) (hOK : dc_OK N k ym) (hnb : N ≠ 0 → nbx = (nb || decide (V < 0))) (hym : ym = true → 10000000 ≤ N)
    (l1 : -1000 ≤ l) (l2 : l ≤ 1000) (w1 : -1000 ≤ w) (w2 : w ≤ 1000) :
    ∃ (r ra' : Int32) (co' ex' : Nat → Int32), du_G p co' ex' ∧
      (∀ post : Int32 → SX → Prop, (∀ ng' mg' sc' mo', post r (nI p, md, ra', ng', mg', sc', mo', co', ex', te)) → wpX_finish post (nI p, md, ra, du_b nbx, lN (N / 10 ^ k), du_i (l + k), du_b (dc_mo N k ym), co, ex, te) (nI d) (du_i w)) ∧
      (∀ a : Nat → Int32, dc_bd a 0 128 18 → dc_sm a 128 = V → ∀ post : Int32 → SY → Prop, (∀ lo' ng' mo' a', post r (nI p, md, ra', lo', ng', mo', co', ex', a')) → wpY_finish post (nI p, md, ra, du_i l, du_b nb, du_b ym, co, ex, a) (nI d) (du_i w)) := by
  by_cases h0 : N = 0
  · have hyf : ym = false := by
      cases ym
      · rfl
      · have := hym rfl
        omega
    subst hyf
    have hV0 : V = 0 := by omega
    have hmf : dc_mo N k false = false := dc_mo_f.mpr ⟨rfl, by rw [h0, Nat.zero_mod]⟩
    refine ⟨0, ra ||| 0, upd co d (du_i 0), upd ex d (du_i (dc_clp w)), du_Gu h7 hG (dc_pp p) (dc_clp_b w).1 (dc_clp_b w).2, fun post hp => ?_, fun a hb hs post hp => ?_⟩
    · rw [hmf, h0, Nat.zero_div]
      exact dx_fin0 hd (by omega) (by omega) hp
    · exact dy_fin0 hb (by rw [hs, hV0]) hd (by omega) (by omega) hp
  · have hM0 : 0 < N / 10 ^ k := by
      apply Decidable.byContradiction
      intro hz
      have hz2 : N / 10 ^ k = 0 := Nat.eq_zero_of_not_pos hz
      have hlt := (Nat.div_eq_zero_iff_lt (dc_pp k)).mp hz2
      have hmt : dc_mo N k ym = true := by
        unfold dc_mo
        rw [Nat.mod_eq_of_lt hlt, decide_eq_true h0, Bool.or_true]
      have hle := hOK.1 hmt
      rw [hz2] at hle
      exact absurd hle (by decide)
    obtain ⟨c, e, f, hF, hX⟩ := dx_fin (p := p) (md := md) (ra := ra) (co := co) (ex := ex) (d := d) (s := l + k) (w := w) (nb := nbx) hte hd h3 h7 hOK.2 hM0 hOK.1 (by omega) (by omega) (by omega) (by omega)
    have hF2 := dc_FO_sh (by omega) hF
    have hc := dc_FO_c (by omega) hF2
    refine ⟨dc_r e f, ra ||| dc_r e f, dc_co d nbx c e co, dc_ee d e ex, du_Gk h7 hG hc.2, hX, fun a hb hs post hp => ?_⟩
    obtain ⟨c', e', f', hF', hY⟩ := dy_fin (p := p) (md := md) (fl := ra) (co := co) (ex := ex) (d := d) (nb := nb) (mb := ym) (l := l) (w := w) hb hs (by rw [← hN]; exact hV) (by omega) hd h3 h7 (fun z => by rw [← hN]; exact hym z) (by omega) (by omega) (by omega) (by omega)
    rw [← hN, ← hnb h0] at hF'
    obtain ⟨u1, u2, u3⟩ := dc_FO_u hF2 hF'
    rw [← hnb h0, ← u1, ← u2, ← u3] at hY
    exact hY post hp
/-! registers -/
theorem du_reg (x : Int32) : (∃ d : Nat, d < 6 ∧ x = nI d) ∨ (x < 0 ∨ 5 < x) := by
  by_cases h : x < 0
  · exact Or.inr (Or.inl h)
  · by_cases h5 : 5 < x
    · exact Or.inr (Or.inr h5)
    · obtain ⟨j, hj, e⟩ := nI_of2 (x := x) (M := 5) (n := 5) (by decide) h (Int32.not_lt.mp h5)
      exact Or.inl ⟨j, by omega, e⟩
theorem dx_reg1 {post : Int32 → Prop} {P md ra ng sc mo : Int32} {mg : Int64} {co ex : Nat → Int32} {te : Nat → Int64} {d : Nat} (hd : d < 6) (hp : post 1) : wpX_isRegister post (P, md, ra, ng, mg, sc, mo, co, ex, te) (nI d) :=
  br_f (nI_pos (by omega)) (br_f (nI_nlt (b := d) (a := 5) (by omega) (by decide)) hp)
theorem dx_reg0 {post : Int32 → Prop} {P md ra ng sc mo : Int32} {mg : Int64} {co ex : Nat → Int32} {te : Nat → Int64} {x : Int32} (h : x < 0 ∨ 5 < x) (hp : post 0) : wpX_isRegister post (P, md, ra, ng, mg, sc, mo, co, ex, te) x := by
  by_cases h0 : x < 0
  · exact br_t h0 hp
  · exact br_f h0 (br_t (h.resolve_left h0) hp)
theorem dy_reg1 {post : Int32 → Prop} {P md fl lo ng mo : Int32} {co ex a : Nat → Int32} {d : Nat} (hd : d < 6) (hp : post 1) : wpY_isRegister post (P, md, fl, lo, ng, mo, co, ex, a) (nI d) :=
  br_f (nI_pos (by omega)) (br_f (nI_nlt (b := d) (a := 5) (by omega) (by decide)) hp)
theorem dy_reg0 {post : Int32 → Prop} {P md fl lo ng mo : Int32} {co ex a : Nat → Int32} {x : Int32} (h : x < 0 ∨ 5 < x) (hp : post 0) : wpY_isRegister post (P, md, fl, lo, ng, mo, co, ex, a) x := by
  by_cases h0 : x < 0
  · exact br_t h0 hp
  · exact br_f h0 (br_t (h.resolve_left h0) hp)
end
section
/-! the constructors and the small methods -/
theorem dx_init62 {post : SX → Prop} {x md ra ng sc mo : Int32} {mg : Int64} {co ex : Nat → Int32} (hp : ∀ te, dx_te te → post (x, md, ra, ng, mg, sc, mo, co, ex, te)) :
    ∀ (t i : Nat) (te : Nat → Int64), i + t = 19 → 1 ≤ i → (∀ j, j < i → te j = lN (10 ^ j)) → wX_init_62 post x md ra ng mg sc mo (t + 1) (nI i) co ex te := by
  intro t
  induction t with
  | zero =>
    intro i te hi h1 h
    have e : i = 19 := by omega
    subst e
    exact br_t (by decide) (hp te h)
  | succ t ih =>
    intro i te hi h1 h
    have e1 : nI i - 1 = nI (i - 1) := pk_sub (b := 1) h1
    have hn : ¬ (19 : Int32) ≤ nI i := nI_ge (b := 19) (by omega) (by decide)
    have hi1 : vp_in (nI i - 1) 19 := by rw [e1]; exact vp_in_nI (by omega) (by decide)
    have hv : (10 : Int64) * te (nI i - 1).toNatClampNeg = lN (10 ^ i) := by
      rw [e1, nI_clamp (by omega), h (i - 1) (by omega)]
      have e2 : lN 10 * lN (10 ^ (i - 1)) = lN (10 * 10 ^ (i - 1)) := lN_mul _ _
      have e3 : 10 * 10 ^ (i - 1) = 10 ^ i := by
        rw [Nat.mul_comm, ← Nat.pow_succ]
        exact congrArg (fun n => 10 ^ n) (by omega)
      rw [e3] at e2
      exact e2
    have eu : vp_updL te (nI i).toNatClampNeg ((10 : Int64) * te (nI i - 1).toNatClampNeg) = vp_updL te i (lN (10 ^ i)) := by rw [hv, nI_clamp (by omega)]
    refine br_f hn (And.intro hi1 (And.intro (vp_in_nI (by omega) (by decide)) (nm_r eu (nm_r (nI_1 i) (ih (i + 1) _ (by omega) (by omega) ?_)))))
    intro j hj
    by_cases e : j = i
    · rw [e, pk_uLs]
    · rw [pk_uLn e]
      exact h j (by omega)
theorem dx_init50 {post : SX → Prop} {x P md ra ng sc mo : Int32} {mg : Int64} {co ex : Nat → Int32} {te : Nat → Int64} (hp : ∀ te, dx_te te → post (x, md, ra, ng, mg, sc, mo, co, ex, te)) : wX_init_50 post x P md ra ng mg sc mo co ex te := by
  refine nm_e ⟨19, dx_init62 hp 18 1 _ (by omega) (by omega) ?_⟩
  intro j hj
  have e : j = 0 := by omega
  subst e
  rfl
theorem du_G0 (p : Nat) : du_G p (fun _ => 0) (fun _ => 0) := by
  intro j hj
  have e : (0 : Int32).toInt = 0 := by decide
  show (0 : Int32).toInt.natAbs < 10 ^ p ∧ -20 ≤ (0 : Int32).toInt ∧ (0 : Int32).toInt ≤ 20
  rw [e]
  exact ⟨dc_pp p, by decide, by decide⟩
theorem i_vc0 (k0 : Int32) : wpX_init (fun u => wpY_init (fun v => i_Rel 1 u v) k0) k0 := by
  by_cases h3 : 3 ≤ k0
  · by_cases h7 : k0 ≤ 7
    · obtain ⟨p, hp, rfl⟩ := nI_of2 (x := k0) (M := 7) (n := 7) (by decide) (Int32.not_lt.mpr (Int32.le_trans (by decide) h3)) h7
      have hp3 : 3 ≤ p := (nI_leI (a := 3) (by decide) (by omega)).mp h3
      exact br_t h3 (br_t h7 (dx_init50 (fun te hte => br_t h3 (br_t h7 (du_R hp3 hp hte (du_G0 p))))))
    · exact br_t h3 (br_f h7 (dx_init50 (fun te hte => br_t h3 (br_f h7 (du_R (p := 7) (by decide) (by decide) hte (du_G0 7))))))
  · exact br_f h3 (dx_init50 (fun te hte => br_f h3 (du_R (p := 3) (by decide) (by decide) hte (du_G0 3))))
theorem i_vc_mode {k : Nat} {u : SX} {v : SY} (I : i_Rel k u v) (hk : k + 5 ≤ 2561) (v1 : Int32) : wpX_mode (fun r u' => wpY_mode (fun r' v' => r' = r ∧ i_Rel (k + 5) u' v') v v1) u v1 := by
  refine du_el (Q := fun u v => wpX_mode (fun r u' => wpY_mode (fun r' v' => r' = r ∧ i_Rel (k + 5) u' v') v v1) u v1) I ?_
  intro p md ra ng mg sc mo co ex te lo ng2 mo2 a h3 h7 hte hG
  by_cases h0 : v1 < 0
  · exact br_t h0 (br_t h0 ⟨rfl, du_R h3 h7 hte hG⟩)
  · by_cases h6 : v1 ≤ 6
    · exact br_f h0 (br_t h6 (br_f h0 (br_t h6 ⟨rfl, du_R h3 h7 hte hG⟩)))
    · exact br_f h0 (br_f h6 (br_f h0 (br_f h6 ⟨rfl, du_R h3 h7 hte hG⟩)))
section
variable {P md ra ng sc mo fl lo : Int32} {mg : Int64} {co ex a : Nat → Int32} {te : Nat → Int64}
theorem dx_coef1 {post : Int32 → Prop} {d : Nat} (hd : d < 6) (hp : post (co (nI d).toNatClampNeg)) : wpX_coefficient post (P, md, ra, ng, mg, sc, mo, co, ex, te) (nI d) := by
  unfold wpX_coefficient
  exact dx_reg1 hd (br_f (by decide) (And.intro (vp_in_nI hd (by decide)) hp))
theorem dx_coef0 {post : Int32 → Prop} {x : Int32} (h : x < 0 ∨ 5 < x) (hp : post 0) : wpX_coefficient post (P, md, ra, ng, mg, sc, mo, co, ex, te) x := by
  unfold wpX_coefficient
  exact dx_reg0 h (br_t rfl hp)
theorem dx_expo1 {post : Int32 → Prop} {d : Nat} (hd : d < 6) (hp : post (ex (nI d).toNatClampNeg)) : wpX_exponent post (P, md, ra, ng, mg, sc, mo, co, ex, te) (nI d) := by
  unfold wpX_exponent
  exact dx_reg1 hd (br_f (by decide) (And.intro (vp_in_nI hd (by decide)) hp))
theorem dx_expo0 {post : Int32 → Prop} {x : Int32} (h : x < 0 ∨ 5 < x) (hp : post 0) : wpX_exponent post (P, md, ra, ng, mg, sc, mo, co, ex, te) x := by
  unfold wpX_exponent
  exact dx_reg0 h (br_t rfl hp)
theorem dy_coef1 {post : Int32 → Prop} {d : Nat} (hd : d < 6) (hp : post (co (nI d).toNatClampNeg)) : wpY_coefficient post (P, md, fl, lo, ng, mo, co, ex, a) (nI d) := by
  unfold wpY_coefficient
  exact dy_reg1 hd (br_f (by decide) (And.intro (vp_in_nI hd (by decide)) hp))
theorem dy_coef0 {post : Int32 → Prop} {x : Int32} (h : x < 0 ∨ 5 < x) (hp : post 0) : wpY_coefficient post (P, md, fl, lo, ng, mo, co, ex, a) x := by
  unfold wpY_coefficient
  exact dy_reg0 h (br_t rfl hp)
theorem dy_expo1 {post : Int32 → Prop} {d : Nat} (hd : d < 6) (hp : post (ex (nI d).toNatClampNeg)) : wpY_exponent post (P, md, fl, lo, ng, mo, co, ex, a) (nI d) := by
  unfold wpY_exponent
  exact dy_reg1 hd (br_f (by decide) (And.intro (vp_in_nI hd (by decide)) hp))
theorem dy_expo0 {post : Int32 → Prop} {x : Int32} (h : x < 0 ∨ 5 < x) (hp : post 0) : wpY_exponent post (P, md, fl, lo, ng, mo, co, ex, a) x := by
  unfold wpY_exponent
  exact dy_reg0 h (br_t rfl hp)
theorem dx_set0 {post : Int32 → SX → Prop} {x v2 v3 : Int32} (h : x < 0 ∨ 5 < x) (hp : post 0 (P, md, ra, ng, mg, sc, mo, co, ex, te)) : wpX_set post (P, md, ra, ng, mg, sc, mo, co, ex, te) x v2 v3 := by
  unfold wpX_set
  exact dx_reg0 h (br_t rfl hp)
theorem dx_set1 {post : Int32 → SX → Prop} {d : Nat} {v2 v3 : Int32} (hd : d < 6)
    (K : (v3 < (-20) → post 0 (P, md, ra, ng, mg, sc, mo, co, ex, te)) ∧ (¬ v3 < (-20) → ((v3 ≤ 20 → ((0 ≤ v2 → wX_set_34 post (nI d) v2 v3 v2.toInt64 P md ra ng mg sc mo co ex te) ∧ (¬ 0 ≤ v2 → wX_set_34 post (nI d) v2 v3 (-v2.toInt64) P md ra ng mg sc mo co ex te))) ∧ (¬ v3 ≤ 20 → post 0 (P, md, ra, ng, mg, sc, mo, co, ex, te))))) :
    wpX_set post (P, md, ra, ng, mg, sc, mo, co, ex, te) (nI d) v2 v3 := by
  unfold wpX_set
  exact dx_reg1 hd (br_f (by decide) K)
theorem dy_set0 {post : Int32 → SY → Prop} {x v2 v3 : Int32} (h : x < 0 ∨ 5 < x) (hp : post 0 (P, md, fl, lo, ng, mo, co, ex, a)) : wpY_set post (P, md, fl, lo, ng, mo, co, ex, a) x v2 v3 := by
  unfold wpY_set
  exact dy_reg0 h (br_t rfl hp)
theorem dy_set1 {post : Int32 → SY → Prop} {d : Nat} {v2 v3 : Int32} (hd : d < 6)
    (K : (v3 < (-20) → post 0 (P, md, fl, lo, ng, mo, co, ex, a)) ∧ (¬ v3 < (-20) → ((20 < v3 → post 0 (P, md, fl, lo, ng, mo, co, ex, a)) ∧ (¬ 20 < v3 → wpY_digitsOf (fun r_14 => (r_14 ≤ P → vp_in (nI d) 6 ∧ ∀ c', c' = upd co (nI d).toNatClampNeg v2 → (vp_in (nI d) 6 ∧ ∀ e', e' = upd ex (nI d).toNatClampNeg v3 → post 1 (P, md, fl, lo, ng, mo, c', e', a))) ∧ (¬ r_14 ≤ P → post 0 (P, md, fl, lo, ng, mo, co, ex, a))) (P, md, fl, lo, ng, mo, co, ex, a) v2.toInt64)))) :
    wpY_set post (P, md, fl, lo, ng, mo, co, ex, a) (nI d) v2 v3 := by
  unfold wpY_set
  exact dy_reg1 hd (br_f (by decide) K)
end
theorem i_vc_coefficient {k : Nat} {u : SX} {v : SY} (I : i_Rel k u v) (hk : k + 5 ≤ 2561) (v1 : Int32) : wpX_coefficient (fun r => wpY_coefficient (fun r' => r' = r ∧ i_Rel (k + 5) u v) v v1) u v1 := by
  refine du_el (Q := fun u v => wpX_coefficient (fun r => wpY_coefficient (fun r' => r' = r ∧ i_Rel (k + 5) u v) v v1) u v1) I ?_
  intro p md ra ng mg sc mo co ex te lo ng2 mo2 a h3 h7 hte hG
  rcases du_reg v1 with ⟨d, hd, rfl⟩ | h
  · exact dx_coef1 hd (dy_coef1 hd ⟨rfl, du_R h3 h7 hte hG⟩)
  · exact dx_coef0 h (dy_coef0 h ⟨rfl, du_R h3 h7 hte hG⟩)
theorem i_vc_exponent {k : Nat} {u : SX} {v : SY} (I : i_Rel k u v) (hk : k + 5 ≤ 2561) (v1 : Int32) : wpX_exponent (fun r => wpY_exponent (fun r' => r' = r ∧ i_Rel (k + 5) u v) v v1) u v1 := by
  refine du_el (Q := fun u v => wpX_exponent (fun r => wpY_exponent (fun r' => r' = r ∧ i_Rel (k + 5) u v) v v1) u v1) I ?_
  intro p md ra ng mg sc mo co ex te lo ng2 mo2 a h3 h7 hte hG
  rcases du_reg v1 with ⟨d, hd, rfl⟩ | h
  · exact dx_expo1 hd (dy_expo1 hd ⟨rfl, du_R h3 h7 hte hG⟩)
  · exact dx_expo0 h (dy_expo0 h ⟨rfl, du_R h3 h7 hte hG⟩)
theorem i_vc_flags {k : Nat} {u : SX} {v : SY} (I : i_Rel k u v) (hk : k + 5 ≤ 2561) : wpX_flags (fun r => wpY_flags (fun r' => r' = r ∧ i_Rel (k + 5) u v) v) u := by
  refine du_el (Q := fun u v => wpX_flags (fun r => wpY_flags (fun r' => r' = r ∧ i_Rel (k + 5) u v) v) u) I ?_
  intro p md ra ng mg sc mo co ex te lo ng2 mo2 a h3 h7 hte hG
  exact And.intro rfl (du_R h3 h7 hte hG)
theorem i_vc_lower {k : Nat} {u : SX} {v : SY} (I : i_Rel k u v) (hk : k + 5 ≤ 2561) : wpX_lower (fun r u' => wpY_lower (fun r' v' => r' = r ∧ i_Rel (k + 5) u' v') v) u := by
  refine du_el (Q := fun u v => wpX_lower (fun r u' => wpY_lower (fun r' v' => r' = r ∧ i_Rel (k + 5) u' v') v) u) I ?_
  intro p md ra ng mg sc mo co ex te lo ng2 mo2 a h3 h7 hte hG
  exact And.intro rfl (du_R h3 h7 hte hG)
theorem i_vc_set {k : Nat} {u : SX} {v : SY} (I : i_Rel k u v) (hk : k + 5 ≤ 2561) (v1 : Int32) (v2 : Int32) (v3 : Int32) : wpX_set (fun r u' => wpY_set (fun r' v' => r' = r ∧ i_Rel (k + 5) u' v') v v1 v2 v3) u v1 v2 v3 := by
  refine du_el (Q := fun u v => wpX_set (fun r u' => wpY_set (fun r' v' => r' = r ∧ i_Rel (k + 5) u' v') v v1 v2 v3) u v1 v2 v3) I ?_
  intro p md ra ng mg sc mo co ex te lo ng2 mo2 a h3 h7 hte hG
  rcases du_reg v1 with ⟨d, hd, rfl⟩ | h
  · have hi : vp_in (nI d) 6 := vp_in_nI hd (by decide)
    have hcl : (nI d).toNatClampNeg = d := nI_clamp (by omega)
    by_cases hlo : v3 < -20
    · exact dx_set1 hd ((br_t hlo (dy_set1 hd ((br_t hlo ⟨rfl, du_R h3 h7 hte hG⟩)))))
    · by_cases hhi : v3 ≤ 20
      · have hhi2 : ¬ 20 < v3 := Int32.not_lt.mpr hhi
        obtain ⟨c, hc⟩ : ∃ c : Int, c = v2.toInt := ⟨_, rfl⟩
        obtain ⟨e, he⟩ : ∃ e : Int, e = v3.toInt := ⟨_, rfl⟩
        have ec : v2 = du_i c := by rw [hc]; exact du_io v2
        have ee : v3 = du_i e := by rw [he]; exact du_io v3
        have e1 : -20 ≤ e := by
          rw [Int32.lt_iff_toInt_lt, ← he, show (-20 : Int32).toInt = -20 by decide] at hlo
          omega
        have e2 : e ≤ 20 := by
          rw [Int32.le_iff_toInt_le, ← he, show (20 : Int32).toInt = 20 by decide] at hhi
          omega
        have b1 := v2.le_toInt
        have b2 := v2.toInt_lt
        rw [← hc] at b1 b2
        have h10 := du_p7 h7
        have hw : te (nI p).toNatClampNeg = lN (10 ^ p) := by rw [nI_clamp (by omega)]; exact hte p (by omega)
        obtain ⟨q, hq⟩ := dc_dg_ex c.natAbs
        have hq1 := hq.1
        have hq10 : q ≤ 10 := (dc_dg_le hq (by decide)).mpr (Nat.lt_of_lt_of_le (show c.natAbs < 3000000000 by omega) (by decide))
        have hqp := dc_dg_le hq (p := p) (by omega)
        have hl : v2.toInt64 = du_l c := by rw [ec]; exact du_i2l (by omega) (by omega)
        have A : ∀ z0 : Int64, z0 = lN c.natAbs → wX_set_34 (fun r u' => wpY_set (fun r' v' => r' = r ∧ i_Rel (k + 5) u' v') (nI p, md, ra, lo, ng2, mo2, co, ex, a) (nI d) v2 v3) (nI d) v2 v3 z0 (nI p) md ra ng mg sc mo co ex te := by
          intro z0 hz
          subst hz
          refine And.intro (vp_in_nI (by omega) (by decide)) (dn_lt c.natAbs (10 ^ p) (fun hh => ?_) (fun hh => ?_) rfl hw)
          · have eco : upd co (nI d).toNatClampNeg v2 = upd co d (du_i c) := by rw [hcl, ec]
            have eex : upd ex (nI d).toNatClampNeg (vp_nar .byte v3.toInt8.toInt32) = upd ex d (du_i e) := by rw [hcl, ee, du_byte (by omega) (by omega)]
            have eex2 : upd ex (nI d).toNatClampNeg v3 = upd ex d (du_i e) := by rw [hcl, ee]
            refine And.intro hi (nm_r eco (And.intro hi (nm_r eex (dy_set1 hd ((br_f hlo (br_f hhi2 ?_)))))))
            rw [hl]
            exact dy_digZ (by omega) hq (br_t (nI_le (hqp.mpr hh) (by omega)) (And.intro hi (nm_r eco (And.intro hi (nm_r eex2 ⟨rfl, du_R h3 h7 hte (du_Gu h7 hG hh e1 e2)⟩)))))
          · refine dy_set1 hd ((br_f hlo (br_f hhi2 ?_)))
            rw [hl]
            have hnq : ¬ q ≤ p := fun z => by have := hqp.mp z; omega
            exact dy_digZ (by omega) hq (br_f (nI_ge (by omega) (by omega)) ⟨rfl, du_R h3 h7 hte hG⟩)
        refine dx_set1 hd ((br_f hlo (br_t hhi (di_le 0 c (fun hh => A _ ?_) (fun hh => A _ ?_) rfl ec))))
        · rw [hl, du_lN]
          exact congrArg du_l (by omega)
        · rw [hl, du_lN, du_lneg]
          exact congrArg du_l (by omega)
      · have hhi2 : 20 < v3 := Int32.not_le.mp hhi
        exact dx_set1 hd ((br_f hlo (br_f hhi (dy_set1 hd ((br_f hlo (br_t hhi2 ⟨rfl, du_R h3 h7 hte hG⟩)))))))
  · exact dx_set0 h (dy_set0 h ⟨rfl, du_R h3 h7 hte hG⟩)
end
section
/-! helpers for the operations -/
theorem dc_bd_z {a : Nat → Int32} (h : ∀ j, j < 128 → a j = 0) : dc_bd a 0 128 0 := by
  intro j _ hj
  rw [h j hj]
  decide
theorem dc_sm_z {a : Nat → Int32} : ∀ n, (∀ j, j < n → a j = 0) → dc_sm a n = 0 := by
  intro n
  induction n with
  | zero => intro _; rfl
  | succ n ih =>
    intro h
    show dc_sm a n + (a n).toInt * _ = 0
    rw [ih (fun j hj => h j (by omega)), h n (by omega), show (0 : Int32).toInt = 0 by decide, Int.zero_mul]
    rfl
theorem dc_bd_m {a : Nat → Int32} {B C : Nat} (h : dc_bd a 0 128 B) (hc : B ≤ C) : dc_bd a 0 128 C := fun j h1 h2 => Nat.le_trans (h j h1 h2) hc
theorem dc_ab {A B : Int} (h1 : A.natAbs < 10000000) (h2 : B.natAbs < 10000000) : (A * B).natAbs < 100000000000000 := by
  rw [Int.natAbs_mul]
  have h : A.natAbs * B.natAbs ≤ 9999999 * 9999999 := Nat.mul_le_mul (by omega) (by omega)
  omega
theorem du_join0 {p d : Nat} {md ra : Int32} {co ex : Nat → Int32} {te : Nat → Int64} {V w : Int} (h3 : 3 ≤ p) (h7 : p ≤ 7) (hte : dx_te te) (hG : du_G p co ex) (hd : d < 6)
    (hV : V.natAbs < 2000000000000000000) (w1 : -1000 ≤ w) (w2 : w ≤ 1000) :
    ∃ (r ra' : Int32) (co' ex' : Nat → Int32), du_G p co' ex' ∧
      (∀ post : Int32 → SX → Prop, (∀ ng' mg' sc' mo', post r (nI p, md, ra', ng', mg', sc', mo', co', ex', te)) → wpX_finish post (nI p, md, ra, du_b (decide (V < 0)), lN V.natAbs, du_i w, 0, co, ex, te) (nI d) (du_i w)) ∧
      (∀ a : Nat → Int32, dc_bd a 0 128 18 → dc_sm a 128 = V → ∀ post : Int32 → SY → Prop, (∀ lo' ng' mo' a', post r (nI p, md, ra', lo', ng', mo', co', ex', a')) → wpY_finish post (nI p, md, ra, du_i w, 0, 0, co, ex, a) (nI d) (du_i w)) := by
  obtain ⟨r, ra', co', ex', g, x, y⟩ := du_join (p := p) (d := d) (N := V.natAbs) (k := 0) (md := md) (ra := ra) (co := co) (ex := ex) (te := te) (nb := false) (nbx := decide (V < 0)) (ym := false) (V := V) (l := w) (w := w) h3 h7 hte hG hd rfl (Nat.lt_trans hV (by decide)) (by omega) (dc_OK_0 hV) (fun _ => rfl) (fun z => absurd z (by decide)) (by omega) (by omega) (by omega) (by omega)
  refine ⟨r, ra', co', ex', g, fun post hp => ?_, y⟩
  have A := x post hp
  have es0 : du_i (w + ((0 : Nat) : Int)) = du_i w := congrArg du_i (by omega)
  rw [Nat.pow_zero, Nat.div_one, es0, dc_mo_0] at A
  exact A
/-! the reference's long division -/
section
variable {p : Nat} {md fl : Int32} {co ex : Nat → Int32}
theorem dy_d141 {post : Int32 → SY → Prop} {x1 x2 x3 x4 : Int32} {o u : Nat} {lo ng mo : Int32} (hu : 0 < u) (hu7 : u < 10000000)
    (hp : ∀ a' : Nat → Int32, dc_bd a' 0 128 9 → dc_sm a' 128 = ((o * 10 ^ 40 / u : Nat) : Int) → wY_divide_215 post x1 x2 x3 x4 (du_b (decide (o * 10 ^ 40 % u ≠ 0))) (nI p) md fl lo ng mo co ex a') :
    ∀ (t : Nat) (a : Nat → Int32), t ≤ 40 → dc_bd a 0 128 9 → (∀ j, j < t → a j = 0) → dc_sm a 128 = ((o * 10 ^ (40 - t) / u * 10 ^ t : Nat) : Int) → wY_divide_141 post x1 x2 x3 x4 (lN u) (nI p) md fl lo ng mo (t + 1) (lN (o * 10 ^ (40 - t) % u)) (du_i ((t : Int) - 1)) co ex a := by
  intro t
  induction t with
  | zero =>
    intro a ht hb hz hs
    have e : o * 10 ^ (40 - 0) / u * 10 ^ 0 = o * 10 ^ 40 / u := by rw [Nat.pow_zero, Nat.mul_one]
    rw [e] at hs
    have A := hp a hb hs
    have hr : o * 10 ^ 40 % u < u := Nat.mod_lt _ hu
    have hr2 : o * 10 ^ (40 - 0) % u < u := Nat.mod_lt _ hu
    refine br_t (by decide) (dn_eq (o * 10 ^ (40 - 0) % u) 0 (fun h => ?_) (fun h => ?_) rfl rfl (by omega))
    · have e2 : decide (o * 10 ^ 40 % u ≠ 0) = false := decide_eq_false (fun z => z h)
      rw [e2] at A
      exact A
    · have e2 : decide (o * 10 ^ 40 % u ≠ 0) = true := decide_eq_true h
      rw [e2] at A
      exact A
  | succ t ih =>
    intro a ht hb hz hs
    obtain ⟨S, hS⟩ : ∃ S, S = o * 10 ^ (40 - (t + 1)) := ⟨_, rfl⟩
    have eS : o * 10 ^ (40 - t) = S * 10 := by
      rw [hS, show 40 - t = 40 - (t + 1) + 1 by omega, Nat.pow_succ, Nat.mul_assoc]
    rw [← hS] at hs ⊢
    have hdm := Nat.div_add_mod' S u
    have hr : S % u < u := Nat.mod_lt _ hu
    have ex : ((t + 1 : Nat) : Int) - 1 = (t : Int) := by omega
    rw [ex]
    have hl : ¬ du_i (t : Int) < 0 := fun z => by
      have := (du_ilt (a := (t : Int)) (b := 0) (by omega) (by omega) (by omega) (by omega)).mp z
      omega
    have hul : ¬ lN u ≤ 0 := fun z => by
      have := (pk_lLE (a := u) (b := 0) (by omega) (by omega)).mp z
      omega
    have hue : ¬ lN u = 0 := fun z => by
      have := (pk_lEQ (a := u) (b := 0) (by omega) (by omega)).mp z
      omega
    have e55 : lN (S % u) * 10 = lN (S % u * 10) := lN_mul _ 10
    have ed : lN (S % u * 10) / lN u = lN (S % u * 10 / u) := pk_lDiv (by omega) hu (by omega)
    have er : lN (S % u * 10) - lN (S % u * 10) / lN u * lN u = lN (S * 10 % u) := by
      rw [pk_lRem (by omega) hu (by omega)]
      have e2 : S * 10 % u = S % u * 10 % u := by rw [Nat.mod_mul_mod]
      rw [e2]
    have hq : S % u * 10 / u < 10 := (Nat.div_lt_iff_lt_mul hu).mpr (by omega)
    have eQ : S * 10 / u = S / u * 10 + S % u * 10 / u := by
      have e2 : S * 10 = S % u * 10 + S / u * 10 * u := by
        have e3 : S * 10 = (S / u * u + S % u) * 10 := by rw [hdm]
        rw [e3, Nat.add_mul, Nat.mul_assoc, Nat.mul_comm u 10, ← Nat.mul_assoc, Nat.add_comm]
      rw [e2, Nat.add_mul_div_right _ _ hu, Nat.add_comm]
    have hcl : (du_i (t : Int)).toNatClampNeg = t := du_cl t rfl (by omega)
    have eu : upd a (du_i (t : Int)).toNatClampNeg (lN (S % u * 10 / u)).toInt32 = upd a t (nI (S % u * 10 / u)) := by rw [hcl, lN_i]
    have ei : du_i (t : Int) + (-1) = du_i ((t : Int) - 1) := by
      have e1 : (-1 : Int32) = du_i (-1) := by decide
      rw [e1, du_iadd]
      exact congrArg du_i (by omega)
    have et : (nI (S % u * 10 / u)).toInt = ((S % u * 10 / u : Nat) : Int) := nI_toInt (by omega)
    refine br_f hl (nm_r e55 (br_f hul (And.intro hue ?_)))
    rw [ed]
    refine And.intro (du_in (by omega) (by omega)) (nm_r eu (br_f hul (And.intro hue (nm_r er (nm_r ei ?_)))))
    rw [← eS]
    refine ih _ (by omega) ?_ ?_ ?_
    · intro j h1 h2
      by_cases e : j = t
      · rw [e, pk_us, et, Int.natAbs_natCast]
        exact Nat.le_of_lt_succ hq
      · rw [pk_un e]
        exact hb j h1 h2
    · intro j hj
      rw [pk_un (by omega)]
      exact hz j (by omega)
    · rw [dc_sm_upd a t _ 128 (by omega), et, hz t (by omega), show (0 : Int32).toInt = 0 by decide, hs, eS, eQ, Int.sub_zero, ← Int.natCast_mul, ← Int.natCast_add]
      refine congrArg Int.ofNat ?_
      rw [Nat.pow_succ, Nat.add_mul, Nat.mul_comm (10 ^ t) 10, ← Nat.mul_assoc]
theorem dy_div {post : Int32 → SY → Prop} {r ra' : Int32} {co' ex' : Nat → Int32} {d a b : Nat} {A B w : Int} {lo ng mo : Int32} {dg : Nat → Int32} (ha : a < 6) (hb : b < 6)
    (hA : co a = du_i A) (hB : co b = du_i B) (hA7 : A.natAbs < 10000000) (hB7 : B.natAbs < 10000000) (hB0 : B ≠ 0) (hw : ex a - ex b = du_i w)
    (HY : ∀ dg' : Nat → Int32, dc_bd dg' 0 128 18 → dc_sm dg' 128 = ((A.natAbs * 10 ^ 40 / B.natAbs : Nat) : Int) → ∀ post : Int32 → SY → Prop, (∀ lo' ng' mo' a', post r (nI p, md, ra', lo', ng', mo', co', ex', a')) → wpY_finish post (nI p, md, fl, du_i (w - 40), du_b (decide (A < 0) != decide (B < 0)), du_b (decide (A.natAbs * 10 ^ 40 % B.natAbs ≠ 0)), co, ex, dg') (nI d) (du_i w))
    (hp : ∀ lo' ng' mo' a', post r (nI p, md, ra', lo', ng', mo', co', ex', a')) :
    wpY_divide post (nI p, md, fl, lo, ng, mo, co, ex, dg) (nI d) (nI a) (nI b) := by
  have ca : (nI a).toNatClampNeg = a := nI_clamp (by omega)
  have cb : (nI b).toNatClampNeg = b := nI_clamp (by omega)
  have ia : vp_in (nI a) 6 := vp_in_nI ha (by decide)
  have ib : vp_in (nI b) 6 := vp_in_nI hb (by decide)
  have hAc : co (nI a).toNatClampNeg = du_i A := by rw [ca, hA]
  have hBc : co (nI b).toNatClampNeg = du_i B := by rw [cb, hB]
  have hwc : ex (nI a).toNatClampNeg - ex (nI b).toNatClampNeg = du_i w := by rw [ca, cb, hw]
  have hlA : (co (nI a).toNatClampNeg).toInt64 = du_l A := by rw [hAc]; exact du_i2l (by omega) (by omega)
  have hlB : (co (nI b).toNatClampNeg).toInt64 = du_l B := by rw [hBc]; exact du_i2l (by omega) (by omega)
  have hu : 0 < B.natAbs := by omega
  -- from the row on
  have T215 : ∀ dg' : Nat → Int32, dc_bd dg' 0 128 9 → dc_sm dg' 128 = ((A.natAbs * 10 ^ 40 / B.natAbs : Nat) : Int) → wY_divide_215 post (nI d) (nI a) (nI b) (du_i w) (du_b (decide (A.natAbs * 10 ^ 40 % B.natAbs ≠ 0))) (nI p) md fl (du_i (w - 40)) 0 0 co ex dg' := by
    intro dg' h1 h2
    have F := HY dg' (dc_bd_m h1 (by decide)) h2
    have T255 : ∀ sb : Bool, (decide (A < 0) != decide (B < 0)) = sb → wY_divide_255 post (nI d) (du_i w) (du_b sb) (nI p) md fl (du_i (w - 40)) 0 (du_b (decide (A.natAbs * 10 ^ 40 % B.natAbs ≠ 0))) co ex dg' := by
      intro sb hsb
      rw [hsb] at F
      exact And.intro (db_nar sb) (And.intro (db_fit sb) (F _ (fun _ _ _ _ => hp _ _ _ _)))
    have T247 : ∀ b1 b2 : Bool, decide (A < 0) = b1 → decide (B < 0) = b2 → wY_divide_247 post (nI d) (du_i w) (du_b b2) (du_b b1) (nI p) md fl (du_i (w - 40)) 0 (du_b (decide (A.natAbs * 10 ^ 40 % B.natAbs ≠ 0))) co ex dg' := by
      intro b1 b2 e1 e2
      refine db_ne b1 b2 (fun h => T255 false ?_) (fun h => T255 true ?_)
      · rw [e1, e2, h]
        cases b2 <;> rfl
      · rw [e1, e2, h]
    refine And.intro (db_nar _) (And.intro (db_fit _) (And.intro ia (di_le 0 A (fun h => And.intro ib (di_le 0 B (fun g => ?_) (fun g => ?_) rfl hBc)) (fun h => And.intro ib (di_le 0 B (fun g => ?_) (fun g => ?_) rfl hBc)) rfl hAc)))
    · exact T247 false false (decide_eq_false (by omega)) (decide_eq_false (by omega))
    · exact T247 false true (decide_eq_false (by omega)) (decide_eq_true (by omega))
    · exact T247 true false (decide_eq_true (by omega)) (decide_eq_false (by omega))
    · exact T247 true true (decide_eq_true (by omega)) (decide_eq_true (by omega))
  have T86 : wY_divide_86 post (nI d) (nI a) (nI b) (du_i w) (lN A.natAbs) (lN B.natAbs) (nI p) md fl lo ng mo co ex dg := by
    have hul : ¬ lN B.natAbs ≤ 0 := fun z => by
      have := (pk_lLE (a := B.natAbs) (b := 0) (by omega) (by omega)).mp z
      omega
    have hue : ¬ lN B.natAbs = 0 := fun z => by
      have := (pk_lEQ (a := B.natAbs) (b := 0) (by omega) (by omega)).mp z
      omega
    have e40 : du_i w - 40 = du_i (w - 40) := du_isub w 40
    have e1 : lN A.natAbs - lN A.natAbs / lN B.natAbs * lN B.natAbs = lN (A.natAbs % B.natAbs) := pk_lRem (by omega) hu (by omega)
    have e2 : lN A.natAbs / lN B.natAbs = du_l ((A.natAbs / B.natAbs : Nat) : Int) := by rw [pk_lDiv (by omega) hu (by omega), du_lN]
    have hq : A.natAbs / B.natAbs ≤ A.natAbs := Nat.div_le_self _ _
    unfold wY_divide_86
    rw [e40]
    refine dy_begin (fun a' hz => br_f hul (And.intro hue ?_))
    rw [e1]
    refine br_f hul (And.intro hue ?_)
    rw [e2]
    refine dy_put (B := 0) (i := 40) (L := 7) (by decide) (by decide) ?_ (by omega) (by decide) (dc_bd_z hz) (fun a'' h1 h2 h3 => ⟨41, ?_⟩)
    · rw [Int.natAbs_natCast]
      exact Nat.lt_of_le_of_lt hq hA7
    · have L := dy_d141 (p := p) (md := md) (fl := fl) (co := co) (ex := ex) (post := post) (x1 := nI d) (x2 := nI a) (x3 := nI b) (x4 := du_i w) (lo := du_i (w - 40)) (ng := 0) (mo := 0) hu hB7 T215 40 a'' (Nat.le_refl 40) h1 (fun j hj => by rw [h2 j hj]; exact hz j (by omega)) ?_
      · rw [show 40 - 40 = 0 from rfl, Nat.pow_zero, Nat.mul_one] at L
        exact L
      · rw [h3, dc_sm_z 128 hz, show 40 - 40 = 0 from rfl, Nat.pow_zero, Nat.mul_one, Int.zero_add]
        rfl
  have T57 : wY_divide_57 post (nI d) (nI a) (nI b) (du_i w) (lN A.natAbs) (nI p) md fl lo ng mo co ex dg := by
    refine And.intro ib (di_le 0 B (fun g => And.intro ib ?_) (fun g => And.intro ib ?_) rfl hBc)
    · have e : (co (nI b).toNatClampNeg).toInt64 = lN B.natAbs := by rw [hlB, du_lN]; exact congrArg du_l (by omega)
      rw [e]
      exact T86
    · have e : -(co (nI b).toNatClampNeg).toInt64 = lN B.natAbs := by rw [hlB, du_lN, du_lneg]; exact congrArg du_l (by omega)
      rw [e]
      exact T86
  refine And.intro ia (And.intro ib (nm_r hwc (And.intro ib (di_eq B 0 (fun z => absurd z hB0) (fun _ => And.intro ia (di_le 0 A (fun h => And.intro ia ?_) (fun h => And.intro ia ?_) rfl hAc)) hBc rfl))))
  · have e : (co (nI a).toNatClampNeg).toInt64 = lN A.natAbs := by rw [hlA, du_lN]; exact congrArg du_l (by omega)
    rw [e]
    exact T57
  · have e : -(co (nI a).toNatClampNeg).toInt64 = lN A.natAbs := by rw [hlA, du_lN, du_lneg]; exact congrArg du_l (by omega)
    rw [e]
    exact T57
end
end
section
/-! apply -/
theorem dc_big {x y : Int} {i j : Nat} (hx : x.natAbs < 100000000000000) (hy : y.natAbs < 100000000000000) (hi : i ≤ 80) (hj : j ≤ 80) : (x * ((10 ^ i : Nat) : Int) + y * ((10 ^ j : Nat) : Int)).natAbs < 10 ^ 100 := by
  have a1 : (x * ((10 ^ i : Nat) : Int)).natAbs = x.natAbs * 10 ^ i := by rw [Int.natAbs_mul, Int.natAbs_natCast]
  have a2 : (y * ((10 ^ j : Nat) : Int)).natAbs = y.natAbs * 10 ^ j := by rw [Int.natAbs_mul, Int.natAbs_natCast]
  have b1 : x.natAbs * 10 ^ i ≤ 100000000000000 * 10 ^ 80 := Nat.mul_le_mul (by omega) (dc_ple hi)
  have b2 : y.natAbs * 10 ^ j ≤ 100000000000000 * 10 ^ 80 := Nat.mul_le_mul (by omega) (dc_ple hj)
  have c := Int.natAbs_add_le (x * ((10 ^ i : Nat) : Int)) (y * ((10 ^ j : Nat) : Int))
  rw [a1, a2] at c
  exact Nat.lt_of_le_of_lt c (Nat.lt_of_le_of_lt (Nat.add_le_add b1 b2) (by decide))
/-- both sums, finished alike -/
theorem du_sumj {p d : Nat} {md ra ng sc mo : Int32} {mg : Int64} {co ex : Nat → Int32} {te : Nat → Int64} {x y e1 e2 w V : Int} (h3 : 3 ≤ p) (h7 : p ≤ 7) (hte : dx_te te) (hG : du_G p co ex) (hd : d < 6)
    (hw : (w = e1 ∧ e1 ≤ e2) ∨ (w = e2 ∧ e2 ≤ e1)) (hV : V = x * ((10 ^ (e1 - w).toNat : Nat) : Int) + y * ((10 ^ (e2 - w).toNat : Nat) : Int))
    (hx : x.natAbs < 100000000000000) (hy : y.natAbs < 100000000000000) (b1 : -40 ≤ e1) (b2 : e1 ≤ 40) (b3 : -40 ≤ e2) (b4 : e2 ≤ 40) :
    ∃ (r ra' : Int32) (co' ex' : Nat → Int32), du_G p co' ex' ∧
      (∀ Q : SX → Prop, (∀ ng' mg' sc' mo', (∀ post : Int32 → SX → Prop, (∀ ng' mg' sc' mo', post r (nI p, md, ra', ng', mg', sc', mo', co', ex', te)) → wpX_finish post (nI p, md, ra, ng', mg', sc', mo', co, ex, te) (nI d) (du_i w)) → Q (nI p, md, ra, ng', mg', sc', mo', co, ex, te)) →
        wpX_sum Q (nI p, md, ra, ng, mg, sc, mo, co, ex, te) (du_l x) (du_i e1) (du_l y) (du_i e2)) ∧
      (∀ a : Nat → Int32, dc_bd a 0 128 18 → dc_sm a 128 = V → ∀ post : Int32 → SY → Prop, (∀ lo' ng' mo' a', post r (nI p, md, ra', lo', ng', mo', co', ex', a')) → wpY_finish post (nI p, md, ra, du_i w, 0, 0, co, ex, a) (nI d) (du_i w)) := by
  have hbig : V.natAbs < 10 ^ 100 := by rw [hV]; exact dc_big hx hy (by omega) (by omega)
  obtain ⟨k, k1, k2, k3⟩ := dx_sum (P := nI p) (md := md) (ra := ra) (ng := ng) (sc := sc) (mo := mo) (mg := mg) (co := co) (ex := ex) hte hw hV hx hy (by omega) (by omega) (by omega) (by omega)
  obtain ⟨r, ra', co', ex', g, fx, fy⟩ := du_join (p := p) (d := d) (N := V.natAbs) (k := k) (md := md) (ra := ra) (co := co) (ex := ex) (te := te) (nb := false) (nbx := decide (V < 0)) (ym := false) (V := V) (l := w) (w := w) h3 h7 hte hG hd rfl hbig k1 k2 (fun _ => rfl) (fun z => absurd z (by decide)) (by omega) (by omega) (by omega) (by omega)
  exact ⟨r, ra', co', ex', g, fun Q hQ => k3 Q (hQ _ _ _ _ fx), fy⟩
def du_bad (x : Int32) : Prop := x < 0 ∨ 5 < x
theorem du_nbad {d : Nat} (hd : d < 6) : ¬ du_bad (nI d) := by
  intro h
  rcases h with h | h
  · exact nI_pos (by omega) h
  · exact nI_nlt (b := d) (a := 5) (by omega) (by decide) h
section
variable {P md ra ng sc mo fl lo : Int32} {mg : Int64} {co ex dg : Nat → Int32} {te : Nat → Int64}
theorem dx_app0 {post : Int32 → SX → Prop} {p0 p1 p2 p3 : Int32} (h : p0 < 0 ∨ 3 < p0 ∨ du_bad p1 ∨ du_bad p2 ∨ du_bad p3) (hp : post (-1) (P, md, ra, ng, mg, sc, mo, co, ex, te)) : wpX_apply post (P, md, ra, ng, mg, sc, mo, co, ex, te) p0 p1 p2 p3 := by
  unfold wpX_apply
  by_cases h0 : p0 < 0
  · exact br_t h0 hp
  by_cases h3 : 3 < p0
  · exact br_f h0 (br_t h3 hp)
  refine br_f h0 (br_f h3 ?_)
  rcases du_reg p1 with ⟨d, hd, e⟩ | h1
  · subst e
    refine dx_reg1 hd (br_f (by decide) ?_)
    rcases du_reg p2 with ⟨a, ha, e⟩ | h2
    · subst e
      refine dx_reg1 ha (br_f (by decide) ?_)
      rcases du_reg p3 with ⟨b, hb, e⟩ | h4
      · subst e
        rcases h with h | h | h | h | h
        · exact absurd h h0
        · exact absurd h h3
        · exact absurd h (du_nbad hd)
        · exact absurd h (du_nbad ha)
        · exact absurd h (du_nbad hb)
      · exact dx_reg0 h4 (br_t rfl hp)
    · exact dx_reg0 h2 (br_t rfl hp)
  · exact dx_reg0 h1 (br_t rfl hp)
theorem dy_app0 {post : Int32 → SY → Prop} {p0 p1 p2 p3 : Int32} (h : p0 < 0 ∨ 3 < p0 ∨ du_bad p1 ∨ du_bad p2 ∨ du_bad p3) (hp : post (-1) (P, md, fl, lo, ng, mo, co, ex, dg)) : wpY_apply post (P, md, fl, lo, ng, mo, co, ex, dg) p0 p1 p2 p3 := by
  unfold wpY_apply
  by_cases h0 : p0 < 0
  · exact br_t h0 hp
  by_cases h3 : 3 < p0
  · exact br_f h0 (br_t h3 hp)
  refine br_f h0 (br_f h3 ?_)
  rcases du_reg p1 with ⟨d, hd, e⟩ | h1
  · subst e
    refine dy_reg1 hd (br_f (by decide) ?_)
    rcases du_reg p2 with ⟨a, ha, e⟩ | h2
    · subst e
      refine dy_reg1 ha (br_f (by decide) ?_)
      rcases du_reg p3 with ⟨b, hb, e⟩ | h4
      · subst e
        rcases h with h | h | h | h | h
        · exact absurd h h0
        · exact absurd h h3
        · exact absurd h (du_nbad hd)
        · exact absurd h (du_nbad ha)
        · exact absurd h (du_nbad hb)
      · exact dy_reg0 h4 (br_t rfl hp)
    · exact dy_reg0 h2 (br_t rfl hp)
  · exact dy_reg0 h1 (br_t rfl hp)
/-- a divisor 0 -/
theorem dx_appz {post : Int32 → SX → Prop} {d a b : Nat} (hd : d < 6) (ha : a < 6) (hb : b < 6) (hz : co b = 0) (hp : post 4 (P, md, ra ||| 4, ng, mg, sc, mo, co, ex, te)) : wpX_apply post (P, md, ra, ng, mg, sc, mo, co, ex, te) (nI 3) (nI d) (nI a) (nI b) := by
  have cb : (nI b).toNatClampNeg = b := nI_clamp (by omega)
  have hz2 : co (nI b).toNatClampNeg = 0 := by rw [cb, hz]
  unfold wpX_apply
  refine br_f (by decide) (br_f (by decide) (dx_reg1 hd (br_f (by decide) (dx_reg1 ha (br_f (by decide) (dx_reg1 hb (br_f (by decide) (br_t rfl (And.intro (vp_in_nI hb (by decide)) (br_t hz2 ?_))))))))))
  exact nm_e hp
theorem dy_appz {post : Int32 → SY → Prop} {d a b : Nat} (hd : d < 6) (ha : a < 6) (hb : b < 6) (hz : co b = 0) (hp : post 4 (P, md, fl ||| 4, lo, ng, mo, co, ex, dg)) : wpY_apply post (P, md, fl, lo, ng, mo, co, ex, dg) (nI 3) (nI d) (nI a) (nI b) := by
  have cb : (nI b).toNatClampNeg = b := nI_clamp (by omega)
  have hz2 : co (nI b).toNatClampNeg = 0 := by rw [cb, hz]
  unfold wpY_apply
  refine br_f (by decide) (br_f (by decide) (dy_reg1 hd (br_f (by decide) (dy_reg1 ha (br_f (by decide) (dy_reg1 hb (br_f (by decide) (br_t rfl ?_))))))))
  refine And.intro (vp_in_nI ha (by decide)) (And.intro (vp_in_nI hb (by decide)) (nm_e (And.intro (vp_in_nI hb (by decide)) (br_t hz2 ?_))))
  exact nm_e hp
/-- the walk to the operation -/
theorem dx_app57 {post : Int32 → SX → Prop} {o d a b : Nat} (ho : o ≤ 3) (hd : d < 6) (ha : a < 6) (hb : b < 6) (hz : o = 3 → ¬ co b = 0) (hp : wX_apply_57 post (nI o) (nI d) (nI a) (nI b) P md ra ng mg sc mo co ex te) : wpX_apply post (P, md, ra, ng, mg, sc, mo, co, ex, te) (nI o) (nI d) (nI a) (nI b) := by
  have cb : (nI b).toNatClampNeg = b := nI_clamp (by omega)
  unfold wpX_apply
  refine br_f (nI_pos (by omega)) (br_f (nI_nlt (b := o) (a := 3) (by omega) (by decide)) (dx_reg1 hd (br_f (by decide) (dx_reg1 ha (br_f (by decide) (dx_reg1 hb (br_f (by decide) ?_)))))))
  refine pk_eq o 3 (fun h => And.intro (vp_in_nI hb (by decide)) (br_f ?_ hp)) (fun h => hp)
  rw [cb]
  exact hz h
theorem dy_app3 {post : Int32 → SY → Prop} {d a b : Nat} (hd : d < 6) (ha : a < 6) (hb : b < 6) {r ra' : Int32} {co' ex' : Nat → Int32}
    (HY : ∀ post2 : Int32 → SY → Prop, (∀ lo' ng' mo' a', post2 r (P, md, ra', lo', ng', mo', co', ex', a')) → wpY_divide post2 (P, md, fl, lo, ng, mo, co, ex, dg) (nI d) (nI a) (nI b))
    (hp : ∀ lo' ng' mo' a', post r (P, md, ra', lo', ng', mo', co', ex', a')) : wpY_apply post (P, md, fl, lo, ng, mo, co, ex, dg) (nI 3) (nI d) (nI a) (nI b) := by
  unfold wpY_apply
  refine br_f (by decide) (br_f (by decide) (dy_reg1 hd (br_f (by decide) (dy_reg1 ha (br_f (by decide) (dy_reg1 hb (br_f (by decide) (br_t rfl ?_))))))))
  exact HY _ (fun _ _ _ _ => hp _ _ _ _)
end
end
section
/-! apply: the four operations -/
theorem du_Gf {p a : Nat} {co ex : Nat → Int32} (h7 : p ≤ 7) (hG : du_G p co ex) (ha : a < 6) : ∃ A e : Int, co a = du_i A ∧ ex a = du_i e ∧ A.natAbs < 10000000 ∧ -20 ≤ e ∧ e ≤ 20 := by
  obtain ⟨g1, g2, g3⟩ := hG a ha
  exact ⟨(co a).toInt, (ex a).toInt, du_io _, du_io _, Nat.lt_of_lt_of_le g1 (du_p7 h7), g2, g3⟩
section
variable {p d a b : Nat} {md ra ng sc mo lo ng2 mo2 : Int32} {mg : Int64} {co ex dg : Nat → Int32} {te : Nat → Int64}
theorem du_app2 (h3 : 3 ≤ p) (h7 : p ≤ 7) (hte : dx_te te) (hG : du_G p co ex) (hd : d < 6) (ha : a < 6) (hb : b < 6) :
    ∃ (r ra' : Int32) (co' ex' : Nat → Int32), du_G p co' ex' ∧
      (∀ post : Int32 → SX → Prop, (∀ ng' mg' sc' mo', post r (nI p, md, ra', ng', mg', sc', mo', co', ex', te)) → wpX_apply post (nI p, md, ra, ng, mg, sc, mo, co, ex, te) (nI 2) (nI d) (nI a) (nI b)) ∧
      (∀ post : Int32 → SY → Prop, (∀ lo' ng' mo' a', post r (nI p, md, ra', lo', ng', mo', co', ex', a')) → wpY_apply post (nI p, md, ra, lo, ng2, mo2, co, ex, dg) (nI 2) (nI d) (nI a) (nI b)) := by
  obtain ⟨A, ea, hA, hea, hA7, a1, a2⟩ := du_Gf h7 hG ha
  obtain ⟨B, eb, hB, heb, hB7, b1, b2⟩ := du_Gf h7 hG hb
  have ca : (nI a).toNatClampNeg = a := nI_clamp (by omega)
  have cb : (nI b).toNatClampNeg = b := nI_clamp (by omega)
  have ia : vp_in (nI a) 6 := vp_in_nI ha (by decide)
  have ib : vp_in (nI b) 6 := vp_in_nI hb (by decide)
  have hlA : (co (nI a).toNatClampNeg).toInt64 = du_l A := by rw [ca, hA]; exact du_i2l (by omega) (by omega)
  have hlB : (co (nI b).toNatClampNeg).toInt64 = du_l B := by rw [cb, hB]; exact du_i2l (by omega) (by omega)
  have hw : ex (nI a).toNatClampNeg + ex (nI b).toNatClampNeg = du_i (ea + eb) := by rw [ca, cb, hea, heb, du_iadd]
  have hAB := dc_ab hA7 hB7
  obtain ⟨r, ra', co', ex', g, HX, HY⟩ := du_join0 (p := p) (d := d) (md := md) (ra := ra) (te := te) (V := A * B) (w := ea + eb) h3 h7 hte hG hd (by omega) (by omega) (by omega)
  refine ⟨r, ra', co', ex', g, fun post hp => ?_, fun post hp => ?_⟩
  · refine dx_app57 (by decide) hd ha hb (fun z => absurd z (by decide)) ?_
    refine And.intro ia (nm_r hlA (And.intro ib (nm_r hlB (br_t rfl (And.intro ia (And.intro ib (nm_r hw ?_)))))))
    exact dx_take (du_lmul A B) (by omega) (by omega) (HX _ (fun _ _ _ _ => hp _ _ _ _))
  · unfold wpY_apply
    refine br_f (by decide) (br_f (by decide) (dy_reg1 hd (br_f (by decide) (dy_reg1 ha (br_f (by decide) (dy_reg1 hb (br_f (by decide) (br_f (by decide) (br_t rfl (And.intro ia (And.intro ib ?_)))))))))))
    rw [hw]
    refine dy_begin (fun a' hz => And.intro ia (And.intro ib (And.intro ia (And.intro ib ?_))))
    rw [hw, hlA, hlB, du_lmul]
    refine dy_put (B := 0) (i := 0) (L := 14) (by decide) (by decide) hAB (by omega) (by decide) (dc_bd_z hz) (fun a'' h1 h2 h4 => And.intro ia (And.intro ib ?_))
    rw [hw]
    refine HY a'' (dc_bd_m h1 (by decide)) ?_ _ (fun _ _ _ _ => hp _ _ _ _)
    rw [h4, dc_sm_z 128 hz, Nat.pow_zero, Int.zero_add]
    exact Int.mul_one _
theorem du_app01 {o : Nat} (ho : o ≤ 1) (h3 : 3 ≤ p) (h7 : p ≤ 7) (hte : dx_te te) (hG : du_G p co ex) (hd : d < 6) (ha : a < 6) (hb : b < 6) :
    ∃ (r ra' : Int32) (co' ex' : Nat → Int32), du_G p co' ex' ∧
      (∀ post : Int32 → SX → Prop, (∀ ng' mg' sc' mo', post r (nI p, md, ra', ng', mg', sc', mo', co', ex', te)) → wpX_apply post (nI p, md, ra, ng, mg, sc, mo, co, ex, te) (nI o) (nI d) (nI a) (nI b)) ∧
      (∀ post : Int32 → SY → Prop, (∀ lo' ng' mo' a', post r (nI p, md, ra', lo', ng', mo', co', ex', a')) → wpY_apply post (nI p, md, ra, lo, ng2, mo2, co, ex, dg) (nI o) (nI d) (nI a) (nI b)) := by
  obtain ⟨A, ea, hA, hea, hA7, a1, a2⟩ := du_Gf h7 hG ha
  obtain ⟨B, eb, hB, heb, hB7, b1, b2⟩ := du_Gf h7 hG hb
  have ca : (nI a).toNatClampNeg = a := nI_clamp (by omega)
  have cb : (nI b).toNatClampNeg = b := nI_clamp (by omega)
  have ia : vp_in (nI a) 6 := vp_in_nI ha (by decide)
  have ib : vp_in (nI b) 6 := vp_in_nI hb (by decide)
  have hlA : (co (nI a).toNatClampNeg).toInt64 = du_l A := by rw [ca, hA]; exact du_i2l (by omega) (by omega)
  have hlB : (co (nI b).toNatClampNeg).toInt64 = du_l B := by rw [cb, hB]; exact du_i2l (by omega) (by omega)
  have hlB2 : (-(co (nI b).toNatClampNeg)).toInt64 = du_l (-B) := by rw [cb, hB, du_ineg]; exact du_i2l (by omega) (by omega)
  have hea2 : ex (nI a).toNatClampNeg = du_i ea := by rw [ca, hea]
  have heb2 : ex (nI b).toNatClampNeg = du_i eb := by rw [cb, heb]
  obtain ⟨w, hw, hwm⟩ : ∃ w : Int, ((w = ea ∧ ea ≤ eb) ∨ (w = eb ∧ eb ≤ ea)) ∧ w = if eb ≤ ea then eb else ea := by
    by_cases h : eb ≤ ea
    · exact ⟨eb, Or.inr ⟨rfl, h⟩, by rw [if_pos h]⟩
    · exact ⟨ea, Or.inl ⟨rfl, by omega⟩, by rw [if_neg h]⟩
  obtain ⟨y, hy⟩ : ∃ y : Int, y = if o = 1 then -B else B := ⟨_, rfl⟩
  have hy7 : y.natAbs < 10000000 := by
    rw [hy]
    split <;> omega
  obtain ⟨V, hV⟩ : ∃ V : Int, V = A * ((10 ^ (ea - w).toNat : Nat) : Int) + y * ((10 ^ (eb - w).toNat : Nat) : Int) := ⟨_, rfl⟩
  obtain ⟨r, ra', co', ex', g, HX, HY⟩ := du_sumj (p := p) (d := d) (md := md) (ra := ra) (ng := ng) (sc := sc) (mo := mo) (mg := mg) (te := te) h3 h7 hte hG hd hw hV (by omega) (by omega) (by omega) (by omega) (by omega) (by omega)
  refine ⟨r, ra', co', ex', g, fun post hp => ?_, fun post hp => ?_⟩
  · have T180 : wX_apply_180 post (nI o) (nI d) (nI a) (nI b) (du_l A) (du_l B) (du_i w) (nI p) md ra ng mg sc mo co ex te := by
      have T204 : wX_apply_204 post (nI d) (nI b) (du_i w) (du_l y) (ex (nI a).toNatClampNeg) (du_l A) (nI p) md ra ng mg sc mo co ex te := by
        refine And.intro ib ?_
        rw [hea2, heb2]
        exact HX _ (fun ng' mg' sc' mo' F => F _ (fun _ _ _ _ => hp _ _ _ _))
      refine And.intro ia (pk_eq o 1 (fun h => ?_) (fun h => ?_))
      · rw [hy, if_pos h, ← du_lneg] at T204
        exact T204
      · rw [hy, if_neg h] at T204
        exact T204
    refine dx_app57 (by omega) hd ha hb (fun z => by omega) ?_
    refine And.intro ia (nm_r hlA (And.intro ib (nm_r hlB (br_f ?_ (br_f ?_ (And.intro ia (And.intro ib (di_le eb ea (fun h => And.intro ib ?_) (fun h => And.intro ia ?_) heb2 hea2))))))))
    · intro z
      have := (nI_eq (a := o) (b := 2) (by omega) (by omega)).mp z
      omega
    · intro z
      have := (nI_eq (a := o) (b := 3) (by omega) (by omega)).mp z
      omega
    · rw [heb2]
      rw [if_pos h] at hwm
      rw [hwm] at T180
      exact T180
    · rw [hea2]
      rw [if_neg (by omega)] at hwm
      rw [hwm] at T180
      exact T180
  · have T159 : wY_apply_159 post (nI o) (nI d) (nI a) (nI b) (du_i w) (nI p) md ra lo ng2 mo2 co ex dg := by
      refine dy_begin (fun a' hz => And.intro ia (And.intro ia ?_))
      rw [hea2, hlA]
      refine dy_put (B := 0) (i := (ea - w).toNat) (L := 14) (by decide) (by decide) (show A.natAbs < 100000000000000 by omega) (by omega) (by omega) (dc_bd_z hz) (fun a'' h1 h2 h4 => ?_)
      have T209 : wY_apply_209 post (nI d) (nI b) (du_i w) (du_l y) (nI p) md ra (du_i w) 0 0 co ex a'' := by
        refine And.intro ib ?_
        rw [heb2]
        refine dy_put (B := 9) (i := (eb - w).toNat) (L := 14) (by decide) (by decide) (show y.natAbs < 100000000000000 by omega) (by omega) (by omega) h1 (fun a3 h5 h6 h8 => HY a3 h5 ?_ _ (fun _ _ _ _ => hp _ _ _ _))
        rw [h8, h4, dc_sm_z 128 hz, Int.zero_add, hV]
      refine pk_eq o 0 (fun h => And.intro ib ?_) (fun h => And.intro ib ?_)
      · rw [hlB]
        rw [hy, if_neg (by omega)] at T209
        exact T209
      · rw [hlB2]
        rw [hy, if_pos (by omega)] at T209
        exact T209
    unfold wpY_apply
    refine br_f (nI_pos (by omega)) (br_f (nI_nlt (b := o) (a := 3) (by omega) (by decide)) (dy_reg1 hd (br_f (by decide) (dy_reg1 ha (br_f (by decide) (dy_reg1 hb (br_f (by decide) (br_f ?_ (br_f ?_ (And.intro ia (And.intro ib (di_le eb ea (fun h => And.intro ib ?_) (fun h => And.intro ia ?_) heb2 hea2))))))))))))
    · intro z
      have := (nI_eq (a := o) (b := 3) (by omega) (by omega)).mp z
      omega
    · intro z
      have := (nI_eq (a := o) (b := 2) (by omega) (by omega)).mp z
      omega
    · rw [heb2]
      rw [if_pos h] at hwm
      rw [hwm] at T159
      exact T159
    · rw [hea2]
      rw [if_neg (by omega)] at hwm
      rw [hwm] at T159
      exact T159
theorem du_app3 (h3 : 3 ≤ p) (h7 : p ≤ 7) (hte : dx_te te) (hG : du_G p co ex) (hd : d < 6) (ha : a < 6) (hb : b < 6) :
    ∃ (r ra' : Int32) (co' ex' : Nat → Int32), du_G p co' ex' ∧
      (∀ post : Int32 → SX → Prop, (∀ ng' mg' sc' mo', post r (nI p, md, ra', ng', mg', sc', mo', co', ex', te)) → wpX_apply post (nI p, md, ra, ng, mg, sc, mo, co, ex, te) (nI 3) (nI d) (nI a) (nI b)) ∧
      (∀ post : Int32 → SY → Prop, (∀ lo' ng' mo' a', post r (nI p, md, ra', lo', ng', mo', co', ex', a')) → wpY_apply post (nI p, md, ra, lo, ng2, mo2, co, ex, dg) (nI 3) (nI d) (nI a) (nI b)) := by
  obtain ⟨A, ea, hA, hea, hA7, a1, a2⟩ := du_Gf h7 hG ha
  obtain ⟨B, eb, hB, heb, hB7, b1, b2⟩ := du_Gf h7 hG hb
  by_cases hB0 : B = 0
  · have hz : co b = 0 := by rw [hB, hB0]; rfl
    exact ⟨4, ra ||| 4, co, ex, hG, fun post hp => dx_appz hd ha hb hz (hp _ _ _ _), fun post hp => dy_appz hd ha hb hz (hp _ _ _ _)⟩
  have ca : (nI a).toNatClampNeg = a := nI_clamp (by omega)
  have cb : (nI b).toNatClampNeg = b := nI_clamp (by omega)
  have ia : vp_in (nI a) 6 := vp_in_nI ha (by decide)
  have ib : vp_in (nI b) 6 := vp_in_nI hb (by decide)
  have hlA : (co (nI a).toNatClampNeg).toInt64 = du_l A := by rw [ca, hA]; exact du_i2l (by omega) (by omega)
  have hlB : (co (nI b).toNatClampNeg).toInt64 = du_l B := by rw [cb, hB]; exact du_i2l (by omega) (by omega)
  have hw0 : ex a - ex b = du_i (ea - eb) := by rw [hea, heb, du_isub]
  have hw : ex (nI a).toNatClampNeg - ex (nI b).toNatClampNeg = du_i (ea - eb) := by rw [ca, cb, hw0]
  have hbz : ¬ co b = 0 := fun z => by
    rw [hB] at z
    exact hB0 ((du_ieq (a := B) (b := 0) (by omega) (by omega) (by omega) (by omega)).mp z)
  obtain ⟨k, k1, k2, k3⟩ := dx_div (P := nI p) (md := md) (ra := ra) (ng := ng) (sc := sc) (mo := mo) (mg := mg) (co := co) (ex := ex) (w := ea - eb) hte hB0 hA7 hB7
  have hN100 : A.natAbs * 10 ^ 40 / B.natAbs < 10 ^ 100 := by
    have e1 : A.natAbs * 10 ^ 40 ≤ 10000000 * 10 ^ 40 := Nat.mul_le_mul_right _ (by omega)
    exact Nat.lt_of_le_of_lt (Nat.div_le_self _ _) (Nat.lt_of_le_of_lt e1 (by decide))
  have hpos : A.natAbs ≠ 0 → 10000000 ≤ A.natAbs * 10 ^ 40 / B.natAbs := by
    intro h
    refine (Nat.le_div_iff_mul_le (by omega)).mpr ?_
    have e1 : 10000000 * B.natAbs ≤ 10000000 * 10000000 := Nat.mul_le_mul_left _ (by omega)
    have e2 : 1 * 10 ^ 40 ≤ A.natAbs * 10 ^ 40 := Nat.mul_le_mul_right _ (by omega)
    exact Nat.le_trans e1 (Nat.le_trans (by decide) e2)
  obtain ⟨N, hN⟩ : ∃ N, N = A.natAbs * 10 ^ 40 / B.natAbs := ⟨_, rfl⟩
  obtain ⟨ym, hym⟩ : ∃ ym, ym = decide (A.natAbs * 10 ^ 40 % B.natAbs ≠ 0) := ⟨_, rfl⟩
  obtain ⟨r, ra', co', ex', g, HX, HY⟩ := du_join (p := p) (d := d) (N := N) (k := k) (md := md) (ra := ra) (co := co) (ex := ex) (te := te) (nb := (decide (A < 0) != decide (B < 0))) (nbx := (decide (A < 0) != decide (B < 0)) && decide (A.natAbs ≠ 0)) (ym := ym) (V := (N : Int)) (l := ea - eb - 40) (w := ea - eb) h3 h7 hte hG hd (Int.natAbs_natCast N).symm (by rw [hN]; exact hN100) (by omega) (by rw [hN, hym]; exact k2)
    (fun h => by
      have hA0 : A.natAbs ≠ 0 := fun z => by
        rw [z, Nat.zero_mul, Nat.zero_div] at hN
        exact h hN
      have hV0 : ¬ ((N : Int) < 0) := by omega
      rw [decide_eq_true hA0, decide_eq_false hV0, Bool.and_true, Bool.or_false])
    (fun h => by
      rw [hN]
      apply hpos
      intro z
      rw [hym, z, Nat.zero_mul, Nat.zero_mod] at h
      exact absurd h (by decide)) (by omega) (by omega) (by omega) (by omega)
  refine ⟨r, ra', co', ex', g, fun post hp => ?_, fun post hp => ?_⟩
  · refine dx_app57 (by decide) hd ha hb (fun _ => hbz) ?_
    refine And.intro ia (nm_r hlA (And.intro ib (nm_r hlB (br_f (by decide) (br_t rfl (And.intro ia (And.intro ib (nm_r hw ?_))))))))
    refine k3 _ ?_
    rw [← hN, ← hym]
    exact HX _ (fun _ _ _ _ => hp _ _ _ _)
  · refine dy_app3 hd ha hb (fun post2 hp2 => ?_) hp
    rw [hN, hym] at HY
    exact dy_div ha hb hA hB hA7 hB7 hB0 hw0 HY hp2
end
theorem i_vc_apply {k : Nat} {u : SX} {v : SY} (I : i_Rel k u v) (hk : k + 5 ≤ 2561) (v1 : Int32) (v2 : Int32) (v3 : Int32) (v4 : Int32) : wpX_apply (fun r u' => wpY_apply (fun r' v' => r' = r ∧ i_Rel (k + 5) u' v') v v1 v2 v3 v4) u v1 v2 v3 v4 := by
  refine du_el (Q := fun u v => wpX_apply (fun r u' => wpY_apply (fun r' v' => r' = r ∧ i_Rel (k + 5) u' v') v v1 v2 v3 v4) u v1 v2 v3 v4) I ?_
  intro p md ra ng mg sc mo co ex te lo ng2 mo2 dg h3 h7 hte hG
  have bad : (v1 < 0 ∨ 3 < v1 ∨ du_bad v2 ∨ du_bad v3 ∨ du_bad v4) → wpX_apply (fun r u' => wpY_apply (fun r' v' => r' = r ∧ i_Rel (k + 5) u' v') (nI p, md, ra, lo, ng2, mo2, co, ex, dg) v1 v2 v3 v4) (nI p, md, ra, ng, mg, sc, mo, co, ex, te) v1 v2 v3 v4 :=
    fun h => dx_app0 h (dy_app0 h ⟨rfl, du_R h3 h7 hte hG⟩)
  by_cases h0 : v1 < 0
  · exact bad (Or.inl h0)
  by_cases h4 : 3 < v1
  · exact bad (Or.inr (Or.inl h4))
  rcases du_reg v2 with ⟨d, hd, e2⟩ | h
  · rcases du_reg v3 with ⟨a, ha, e3⟩ | h
    · rcases du_reg v4 with ⟨b, hb, e4⟩ | h
      · obtain ⟨o, ho, e1⟩ := nI_of2 (x := v1) (M := 3) (n := 3) (by decide) h0 (Int32.not_lt.mp h4)
        subst e1 e2 e3 e4
        have main : ∃ (r ra' : Int32) (co' ex' : Nat → Int32), du_G p co' ex' ∧
            (∀ post : Int32 → SX → Prop, (∀ ng' mg' sc' mo', post r (nI p, md, ra', ng', mg', sc', mo', co', ex', te)) → wpX_apply post (nI p, md, ra, ng, mg, sc, mo, co, ex, te) (nI o) (nI d) (nI a) (nI b)) ∧
            (∀ post : Int32 → SY → Prop, (∀ lo' ng' mo' a', post r (nI p, md, ra', lo', ng', mo', co', ex', a')) → wpY_apply post (nI p, md, ra, lo, ng2, mo2, co, ex, dg) (nI o) (nI d) (nI a) (nI b)) := by
          by_cases h1 : o ≤ 1
          · exact du_app01 h1 h3 h7 hte hG hd ha hb
          · by_cases h2 : o = 2
            · subst h2
              exact du_app2 h3 h7 hte hG hd ha hb
            · have h5 : o = 3 := by omega
              subst h5
              exact du_app3 h3 h7 hte hG hd ha hb
        obtain ⟨r, ra', co', ex', g, HX, HY⟩ := main
        exact HX _ (fun _ _ _ _ => HY _ (fun _ _ _ _ => ⟨rfl, du_R h3 h7 hte g⟩))
      · exact bad (Or.inr (Or.inr (Or.inr (Or.inr h))))
    · exact bad (Or.inr (Or.inr (Or.inr (Or.inl h))))
  · exact bad (Or.inr (Or.inr (Or.inl h)))
end
section
/-! fused, compare -/
section
variable {P md ra ng sc mo fl lo : Int32} {mg : Int64} {co ex dg : Nat → Int32} {te : Nat → Int64}
theorem dx_fus0 {post : Int32 → SX → Prop} {p0 p1 p2 p3 : Int32} (h : du_bad p0 ∨ du_bad p1 ∨ du_bad p2 ∨ du_bad p3) (hp : post (-1) (P, md, ra, ng, mg, sc, mo, co, ex, te)) : wpX_fused post (P, md, ra, ng, mg, sc, mo, co, ex, te) p0 p1 p2 p3 := by
  unfold wpX_fused
  rcases du_reg p0 with ⟨d, hd, e⟩ | h1
  · subst e
    refine dx_reg1 hd (br_f (by decide) ?_)
    rcases du_reg p1 with ⟨a, ha, e⟩ | h2
    · subst e
      refine dx_reg1 ha (br_f (by decide) ?_)
      rcases du_reg p2 with ⟨b, hb, e⟩ | h4
      · subst e
        refine dx_reg1 hb (br_f (by decide) ?_)
        rcases du_reg p3 with ⟨c, hc, e⟩ | h5
        · subst e
          rcases h with h | h | h | h
          · exact absurd h (du_nbad hd)
          · exact absurd h (du_nbad ha)
          · exact absurd h (du_nbad hb)
          · exact absurd h (du_nbad hc)
        · exact dx_reg0 h5 (br_t rfl hp)
      · exact dx_reg0 h4 (br_t rfl hp)
    · exact dx_reg0 h2 (br_t rfl hp)
  · exact dx_reg0 h1 (br_t rfl hp)
theorem dy_fus0 {post : Int32 → SY → Prop} {p0 p1 p2 p3 : Int32} (h : du_bad p0 ∨ du_bad p1 ∨ du_bad p2 ∨ du_bad p3) (hp : post (-1) (P, md, fl, lo, ng, mo, co, ex, dg)) : wpY_fused post (P, md, fl, lo, ng, mo, co, ex, dg) p0 p1 p2 p3 := by
  unfold wpY_fused
  rcases du_reg p0 with ⟨d, hd, e⟩ | h1
  · subst e
    refine dy_reg1 hd (br_f (by decide) ?_)
    rcases du_reg p1 with ⟨a, ha, e⟩ | h2
    · subst e
      refine dy_reg1 ha (br_f (by decide) ?_)
      rcases du_reg p2 with ⟨b, hb, e⟩ | h4
      · subst e
        refine dy_reg1 hb (br_f (by decide) ?_)
        rcases du_reg p3 with ⟨c, hc, e⟩ | h5
        · subst e
          rcases h with h | h | h | h
          · exact absurd h (du_nbad hd)
          · exact absurd h (du_nbad ha)
          · exact absurd h (du_nbad hb)
          · exact absurd h (du_nbad hc)
        · exact dy_reg0 h5 (br_t rfl hp)
      · exact dy_reg0 h4 (br_t rfl hp)
    · exact dy_reg0 h2 (br_t rfl hp)
  · exact dy_reg0 h1 (br_t rfl hp)
theorem dx_cmp0 {post : Int32 → SX → Prop} {p0 p1 : Int32} (h : du_bad p0 ∨ du_bad p1) (hp : post (-2) (P, md, ra, ng, mg, sc, mo, co, ex, te)) : wpX_compare post (P, md, ra, ng, mg, sc, mo, co, ex, te) p0 p1 := by
  unfold wpX_compare
  rcases du_reg p0 with ⟨d, hd, e⟩ | h1
  · subst e
    refine dx_reg1 hd (br_f (by decide) ?_)
    rcases du_reg p1 with ⟨a, ha, e⟩ | h2
    · subst e
      rcases h with h | h
      · exact absurd h (du_nbad hd)
      · exact absurd h (du_nbad ha)
    · exact dx_reg0 h2 (br_t rfl hp)
  · exact dx_reg0 h1 (br_t rfl hp)
theorem dy_cmp0 {post : Int32 → SY → Prop} {p0 p1 : Int32} (h : du_bad p0 ∨ du_bad p1) (hp : post (-2) (P, md, fl, lo, ng, mo, co, ex, dg)) : wpY_compare post (P, md, fl, lo, ng, mo, co, ex, dg) p0 p1 := by
  unfold wpY_compare
  rcases du_reg p0 with ⟨d, hd, e⟩ | h1
  · subst e
    refine dy_reg1 hd (br_f (by decide) ?_)
    rcases du_reg p1 with ⟨a, ha, e⟩ | h2
    · subst e
      rcases h with h | h
      · exact absurd h (du_nbad hd)
      · exact absurd h (du_nbad ha)
    · exact dy_reg0 h2 (br_t rfl hp)
  · exact dy_reg0 h1 (br_t rfl hp)
end
section
variable {p d a b c : Nat} {md ra ng sc mo lo ng2 mo2 : Int32} {mg : Int64} {co ex dg : Nat → Int32} {te : Nat → Int64}
theorem du_fus (h3 : 3 ≤ p) (h7 : p ≤ 7) (hte : dx_te te) (hG : du_G p co ex) (hd : d < 6) (ha : a < 6) (hb : b < 6) (hc : c < 6) :
    ∃ (r ra' : Int32) (co' ex' : Nat → Int32), du_G p co' ex' ∧
      (∀ post : Int32 → SX → Prop, (∀ ng' mg' sc' mo', post r (nI p, md, ra', ng', mg', sc', mo', co', ex', te)) → wpX_fused post (nI p, md, ra, ng, mg, sc, mo, co, ex, te) (nI d) (nI a) (nI b) (nI c)) ∧
      (∀ post : Int32 → SY → Prop, (∀ lo' ng' mo' a', post r (nI p, md, ra', lo', ng', mo', co', ex', a')) → wpY_fused post (nI p, md, ra, lo, ng2, mo2, co, ex, dg) (nI d) (nI a) (nI b) (nI c)) := by
  obtain ⟨A, ea, hA, hea, hA7, a1, a2⟩ := du_Gf h7 hG ha
  obtain ⟨B, eb, hB, heb, hB7, b1, b2⟩ := du_Gf h7 hG hb
  obtain ⟨C, ec, hC, hec, hC7, c1, c2⟩ := du_Gf h7 hG hc
  have ca : (nI a).toNatClampNeg = a := nI_clamp (by omega)
  have cb : (nI b).toNatClampNeg = b := nI_clamp (by omega)
  have cc : (nI c).toNatClampNeg = c := nI_clamp (by omega)
  have ia : vp_in (nI a) 6 := vp_in_nI ha (by decide)
  have ib : vp_in (nI b) 6 := vp_in_nI hb (by decide)
  have ic : vp_in (nI c) 6 := vp_in_nI hc (by decide)
  have hlAB : (co (nI a).toNatClampNeg).toInt64 * (co (nI b).toNatClampNeg).toInt64 = du_l (A * B) := by
    rw [ca, cb, hA, hB, du_i2l (by omega) (by omega), du_i2l (by omega) (by omega), du_lmul]
  have hlC : (co (nI c).toNatClampNeg).toInt64 = du_l C := by rw [cc, hC]; exact du_i2l (by omega) (by omega)
  have hes : ex (nI a).toNatClampNeg + ex (nI b).toNatClampNeg = du_i (ea + eb) := by rw [ca, cb, hea, heb, du_iadd]
  have hec2 : ex (nI c).toNatClampNeg = du_i ec := by rw [cc, hec]
  have hAB := dc_ab hA7 hB7
  obtain ⟨es, hs⟩ : ∃ es : Int, es = ea + eb := ⟨_, rfl⟩
  rw [← hs] at hes
  obtain ⟨w, hw, hwm⟩ : ∃ w : Int, ((w = es ∧ es ≤ ec) ∨ (w = ec ∧ ec ≤ es)) ∧ w = if ec ≤ es then ec else es := by
    by_cases h : ec ≤ es
    · exact ⟨ec, Or.inr ⟨rfl, h⟩, by rw [if_pos h]⟩
    · exact ⟨es, Or.inl ⟨rfl, by omega⟩, by rw [if_neg h]⟩
  obtain ⟨V, hV⟩ : ∃ V : Int, V = A * B * ((10 ^ (es - w).toNat : Nat) : Int) + C * ((10 ^ (ec - w).toNat : Nat) : Int) := ⟨_, rfl⟩
  obtain ⟨r, ra', co', ex', g, HX, HY⟩ := du_sumj (p := p) (d := d) (md := md) (ra := ra) (ng := ng) (sc := sc) (mo := mo) (mg := mg) (te := te) h3 h7 hte hG hd hw hV hAB (by omega) (by omega) (by omega) (by omega) (by omega)
  refine ⟨r, ra', co', ex', g, fun post hp => ?_, fun post hp => ?_⟩
  · unfold wpX_fused
    refine dx_reg1 hd (br_f (by decide) (dx_reg1 ha (br_f (by decide) (dx_reg1 hb (br_f (by decide) (dx_reg1 hc (br_f (by decide) ?_)))))))
    refine And.intro ia (And.intro ib (nm_r hes (And.intro ia (And.intro ib (nm_r hlAB (And.intro ic (And.intro ic ?_)))))))
    rw [hlC, hec2]
    refine HX _ (fun ng' mg' sc' mo' F => And.intro ic (di_le ec es (fun h => And.intro ic ?_) (fun h => ?_) hec2 rfl))
    · rw [hec2]
      rw [if_pos h] at hwm
      rw [hwm] at F
      exact F _ (fun _ _ _ _ => hp _ _ _ _)
    · rw [if_neg (by omega)] at hwm
      rw [hwm] at F
      exact F _ (fun _ _ _ _ => hp _ _ _ _)
  · have T74 : wY_fused_74 post (nI d) (nI a) (nI b) (nI c) (du_i es) (du_i w) (nI p) md ra lo ng2 mo2 co ex dg := by
      refine dy_begin (fun a' hz => And.intro ia (And.intro ib ?_))
      rw [hlAB]
      refine dy_put (B := 0) (i := (es - w).toNat) (L := 14) (by decide) (by decide) hAB (by omega) (by omega) (dc_bd_z hz) (fun a'' h1 h2 h4 => And.intro ic (And.intro ic ?_))
      rw [hlC, hec2]
      refine dy_put (B := 9) (i := (ec - w).toNat) (L := 14) (by decide) (by decide) (show C.natAbs < 100000000000000 by omega) (by omega) (by omega) h1 (fun a3 h5 h6 h8 => HY a3 h5 ?_ _ (fun _ _ _ _ => hp _ _ _ _))
      rw [h8, h4, dc_sm_z 128 hz, Int.zero_add, hV]
    unfold wpY_fused
    refine dy_reg1 hd (br_f (by decide) (dy_reg1 ha (br_f (by decide) (dy_reg1 hb (br_f (by decide) (dy_reg1 hc (br_f (by decide) ?_)))))))
    refine And.intro ia (And.intro ib (nm_r hes (And.intro ic (di_le ec es (fun h => And.intro ic ?_) (fun h => ?_) hec2 rfl))))
    · rw [hec2]
      rw [if_pos h] at hwm
      rw [hwm] at T74
      exact T74
    · rw [if_neg (by omega)] at hwm
      rw [hwm] at T74
      exact T74
/-- the sign of a number as compare gives it -/
def dc_cmp (V : Int) : Int32 := if V = 0 then 0 else if V < 0 then -1 else 1
theorem du_cmp (h7 : p ≤ 7) (hte : dx_te te) (hG : du_G p co ex) (ha : a < 6) (hb : b < 6) :
    ∃ r : Int32,
      (∀ post : Int32 → SX → Prop, (∀ ng' mg' sc' mo', post r (nI p, md, ra, ng', mg', sc', mo', co, ex, te)) → wpX_compare post (nI p, md, ra, ng, mg, sc, mo, co, ex, te) (nI a) (nI b)) ∧
      (∀ post : Int32 → SY → Prop, (∀ lo' ng' mo' a', post r (nI p, md, ra, lo', ng', mo', co, ex, a')) → wpY_compare post (nI p, md, ra, lo, ng2, mo2, co, ex, dg) (nI a) (nI b)) := by
  obtain ⟨A, ea, hA, hea, hA7, a1, a2⟩ := du_Gf h7 hG ha
  obtain ⟨B, eb, hB, heb, hB7, b1, b2⟩ := du_Gf h7 hG hb
  have ca : (nI a).toNatClampNeg = a := nI_clamp (by omega)
  have cb : (nI b).toNatClampNeg = b := nI_clamp (by omega)
  have ia : vp_in (nI a) 6 := vp_in_nI ha (by decide)
  have ib : vp_in (nI b) 6 := vp_in_nI hb (by decide)
  have hlA : (co (nI a).toNatClampNeg).toInt64 = du_l A := by rw [ca, hA]; exact du_i2l (by omega) (by omega)
  have hlB : -(co (nI b).toNatClampNeg).toInt64 = du_l (-B) := by rw [cb, hB, du_i2l (by omega) (by omega), du_lneg]
  have hlB2 : (-(co (nI b).toNatClampNeg)).toInt64 = du_l (-B) := by rw [cb, hB, du_ineg]; exact du_i2l (by omega) (by omega)
  have hea2 : ex (nI a).toNatClampNeg = du_i ea := by rw [ca, hea]
  have heb2 : ex (nI b).toNatClampNeg = du_i eb := by rw [cb, heb]
  obtain ⟨w, hw, hwm⟩ : ∃ w : Int, ((w = ea ∧ ea ≤ eb) ∨ (w = eb ∧ eb ≤ ea)) ∧ w = if eb ≤ ea then eb else ea := by
    by_cases h : eb ≤ ea
    · exact ⟨eb, Or.inr ⟨rfl, h⟩, by rw [if_pos h]⟩
    · exact ⟨ea, Or.inl ⟨rfl, by omega⟩, by rw [if_neg h]⟩
  obtain ⟨V, hV⟩ : ∃ V : Int, V = A * ((10 ^ (ea - w).toNat : Nat) : Int) + -B * ((10 ^ (eb - w).toNat : Nat) : Int) := ⟨_, rfl⟩
  have hbig : V.natAbs < 10 ^ 100 := by rw [hV]; exact dc_big (by omega) (by omega) (by omega) (by omega)
  obtain ⟨k, k1, k2, k3⟩ := dx_sum (P := nI p) (md := md) (ra := ra) (ng := ng) (sc := sc) (mo := mo) (mg := mg) (co := co) (ex := ex) hte hw hV (by omega) (by omega) (by omega) (by omega) (by omega) (by omega)
  refine ⟨dc_cmp V, fun post hp => ?_, fun post hp => ?_⟩
  · unfold wpX_compare
    refine dx_reg1 ha (br_f (by decide) (dx_reg1 hb (br_f (by decide) ?_)))
    refine And.intro ia (And.intro ia (And.intro ib (And.intro ib ?_)))
    rw [hlA, hlB, hea2, heb2]
    refine k3 _ ?_
    have k4 := k2.2
    unfold dc_cmp at hp
    refine dn_eq (V.natAbs / 10 ^ k) 0 (fun h => ?_) (fun h => db_0 _ (fun c => ?_) (fun c => ?_)) rfl rfl (Nat.lt_trans k4 (by decide))
    · have hz : V = 0 := by
        apply Decidable.byContradiction
        intro hne
        have hlt := (Nat.div_eq_zero_iff_lt (dc_pp k)).mp h
        have hmt : dc_mo V.natAbs k false = true := by
          unfold dc_mo
          rw [Nat.mod_eq_of_lt hlt, decide_eq_true (by omega), Bool.or_true]
        have hle := k2.1 hmt
        rw [h] at hle
        exact absurd hle (by decide)
      rw [if_pos hz] at hp
      exact hp _ _ _ _
    · have hne : V ≠ 0 := fun z => h (by rw [z]; exact Nat.zero_div _)
      rw [if_neg hne, if_neg (of_decide_eq_false c)] at hp
      exact hp _ _ _ _
    · have hlt := of_decide_eq_true c
      rw [if_neg (by omega), if_pos hlt] at hp
      exact hp _ _ _ _
  · have T50 : wY_compare_50 post (nI a) (nI b) (du_i w) (nI p) md ra lo ng2 mo2 co ex dg := by
      refine dy_begin (fun a' hz => And.intro ia (And.intro ia ?_))
      rw [hea2, hlA]
      refine dy_put (B := 0) (i := (ea - w).toNat) (L := 14) (by decide) (by decide) (show A.natAbs < 100000000000000 by omega) (by omega) (by omega) (dc_bd_z hz) (fun a'' h1 h2 h4 => And.intro ib (And.intro ib ?_))
      rw [heb2, hlB2]
      refine dy_put (B := 9) (i := (eb - w).toNat) (L := 14) (by decide) (by decide) (show (-B).natAbs < 100000000000000 by omega) (by omega) (by omega) h1 (fun a3 h5 h6 h8 => ?_)
      have hs : dc_sm a3 128 = V := by rw [h8, h4, dc_sm_z 128 hz, Int.zero_add, hV]
      refine dy_tidy (nb := false) h5 hs hbig (fun a4 h9 => ?_)
      unfold dc_cmp at hp
      by_cases hz0 : V = 0
      · rw [if_pos hz0] at hp
        rw [hz0] at h9
        exact dy_top0 h9 (br_f (by decide) (hp _ _ _ _))
      · obtain ⟨D, hD⟩ := dc_dg_ex V.natAbs
        have hD1 := hD.1
        have hD100 : D ≤ 100 := (dc_dg_le hD (by decide)).mpr hbig
        rw [if_neg hz0] at hp
        refine dy_top h9 hbig (by omega) hD (br_t (nI_pos' (by omega)) (db_0 _ (fun c => ?_) (fun c => ?_)))
        · rw [Bool.false_or] at c
          rw [if_neg (of_decide_eq_false c)] at hp
          exact hp _ _ _ _
        · rw [Bool.false_or] at c
          rw [if_pos (of_decide_eq_true c)] at hp
          exact hp _ _ _ _
    unfold wpY_compare
    refine dy_reg1 ha (br_f (by decide) (dy_reg1 hb (br_f (by decide) ?_)))
    refine And.intro ia (And.intro ib (di_le eb ea (fun h => And.intro ib ?_) (fun h => And.intro ia ?_) heb2 hea2))
    · rw [heb2]
      rw [if_pos h] at hwm
      rw [hwm] at T50
      exact T50
    · rw [hea2]
      rw [if_neg (by omega)] at hwm
      rw [hwm] at T50
      exact T50
end
theorem i_vc_fused {k : Nat} {u : SX} {v : SY} (I : i_Rel k u v) (hk : k + 5 ≤ 2561) (v1 : Int32) (v2 : Int32) (v3 : Int32) (v4 : Int32) : wpX_fused (fun r u' => wpY_fused (fun r' v' => r' = r ∧ i_Rel (k + 5) u' v') v v1 v2 v3 v4) u v1 v2 v3 v4 := by
  refine du_el (Q := fun u v => wpX_fused (fun r u' => wpY_fused (fun r' v' => r' = r ∧ i_Rel (k + 5) u' v') v v1 v2 v3 v4) u v1 v2 v3 v4) I ?_
  intro p md ra ng mg sc mo co ex te lo ng2 mo2 dg h3 h7 hte hG
  have bad : (du_bad v1 ∨ du_bad v2 ∨ du_bad v3 ∨ du_bad v4) → wpX_fused (fun r u' => wpY_fused (fun r' v' => r' = r ∧ i_Rel (k + 5) u' v') (nI p, md, ra, lo, ng2, mo2, co, ex, dg) v1 v2 v3 v4) (nI p, md, ra, ng, mg, sc, mo, co, ex, te) v1 v2 v3 v4 :=
    fun h => dx_fus0 h (dy_fus0 h ⟨rfl, du_R h3 h7 hte hG⟩)
  rcases du_reg v1 with ⟨d, hd, e1⟩ | h
  · rcases du_reg v2 with ⟨a, ha, e2⟩ | h
    · rcases du_reg v3 with ⟨b, hb, e3⟩ | h
      · rcases du_reg v4 with ⟨c, hc, e4⟩ | h
        · subst e1 e2 e3 e4
          obtain ⟨r, ra', co', ex', g, HX, HY⟩ := du_fus (md := md) (ra := ra) (ng := ng) (sc := sc) (mo := mo) (lo := lo) (ng2 := ng2) (mo2 := mo2) (mg := mg) (dg := dg) h3 h7 hte hG hd ha hb hc
          exact HX _ (fun _ _ _ _ => HY _ (fun _ _ _ _ => ⟨rfl, du_R h3 h7 hte g⟩))
        · exact bad (Or.inr (Or.inr (Or.inr h)))
      · exact bad (Or.inr (Or.inr (Or.inl h)))
    · exact bad (Or.inr (Or.inl h))
  · exact bad (Or.inl h)
theorem i_vc_compare {k : Nat} {u : SX} {v : SY} (I : i_Rel k u v) (hk : k + 5 ≤ 2561) (v1 : Int32) (v2 : Int32) : wpX_compare (fun r u' => wpY_compare (fun r' v' => r' = r ∧ i_Rel (k + 5) u' v') v v1 v2) u v1 v2 := by
  refine du_el (Q := fun u v => wpX_compare (fun r u' => wpY_compare (fun r' v' => r' = r ∧ i_Rel (k + 5) u' v') v v1 v2) u v1 v2) I ?_
  intro p md ra ng mg sc mo co ex te lo ng2 mo2 dg h3 h7 hte hG
  have bad : (du_bad v1 ∨ du_bad v2) → wpX_compare (fun r u' => wpY_compare (fun r' v' => r' = r ∧ i_Rel (k + 5) u' v') (nI p, md, ra, lo, ng2, mo2, co, ex, dg) v1 v2) (nI p, md, ra, ng, mg, sc, mo, co, ex, te) v1 v2 :=
    fun h => dx_cmp0 h (dy_cmp0 h ⟨rfl, du_R h3 h7 hte hG⟩)
  rcases du_reg v1 with ⟨a, ha, e1⟩ | h
  · rcases du_reg v2 with ⟨b, hb, e2⟩ | h
    · subst e1 e2
      obtain ⟨r, HX, HY⟩ := du_cmp (md := md) (ra := ra) (ng := ng) (sc := sc) (mo := mo) (lo := lo) (ng2 := ng2) (mo2 := mo2) (mg := mg) (dg := dg) h7 hte hG ha hb
      exact HX _ (fun _ _ _ _ => HY _ (fun _ _ _ _ => ⟨rfl, du_R h3 h7 hte hG⟩))
    · exact bad (Or.inr h)
  · exact bad (Or.inl h)
end
section
/-! quantise -/
/-- the coefficient C and the flags f of A·10^ea at the exponent q -/
def dc_Q (md : Int32) (nb : Bool) (m : Nat) (ea q : Int) (C : Nat) (f : Int32) : Prop :=
  (∃ i : Nat, ea = q + i ∧ C = m * 10 ^ i ∧ f = 0) ∨
  (∃ j : Nat, 1 ≤ j ∧ q = ea + j ∧ ((dc_ex m j false ∧ C = m / 10 ^ j ∧ f = 2) ∨ (¬ dc_ex m j false ∧ C = dc_rd md nb m j false ∧ f = 3)))
theorem dc_Q_ex (md : Int32) (nb : Bool) (m : Nat) (ea q : Int) : ∃ (C : Nat) (f : Int32), dc_Q md nb m ea q C f := by
  by_cases h : q ≤ ea
  · exact ⟨_, 0, Or.inl ⟨(ea - q).toNat, by omega, rfl, rfl⟩⟩
  · by_cases e : dc_ex m (q - ea).toNat false
    · exact ⟨_, 2, Or.inr ⟨(q - ea).toNat, by omega, by omega, Or.inl ⟨e, rfl, rfl⟩⟩⟩
    · exact ⟨_, 3, Or.inr ⟨(q - ea).toNat, by omega, by omega, Or.inr ⟨e, rfl, rfl⟩⟩⟩
theorem dc_rd_b (md : Int32) (nb : Bool) (m j : Nat) (mo : Bool) : dc_rd md nb m j mo ≤ m + 1 := by
  have h : m / 10 ^ j ≤ m := Nat.div_le_self _ _
  unfold dc_rd
  cases dc_up md nb (m / 10 ^ j) (dc_hf m j mo)
  · show m / 10 ^ j + 0 ≤ _
    omega
  · show m / 10 ^ j + 1 ≤ _
    omega
section
variable {P md ra ng sc mo fl lo : Int32} {mg : Int64} {co ex dg : Nat → Int32} {te : Nat → Int64}
theorem dx_qua0 {post : Int32 → SX → Prop} {p0 p1 p2 : Int32} (h : du_bad p0 ∨ du_bad p1 ∨ p2 < -20 ∨ ¬ p2 ≤ 20) (hp : post (-1) (P, md, ra, ng, mg, sc, mo, co, ex, te)) : wpX_quantise post (P, md, ra, ng, mg, sc, mo, co, ex, te) p0 p1 p2 := by
  unfold wpX_quantise
  rcases du_reg p0 with ⟨d, hd, e⟩ | h1
  · subst e
    refine dx_reg1 hd (br_f (by decide) ?_)
    rcases du_reg p1 with ⟨a, ha, e⟩ | h2
    · subst e
      refine dx_reg1 ha (br_f (by decide) ?_)
      by_cases h5 : p2 < -20
      · exact br_t h5 hp
      · rcases h with h | h | h | h
        · exact absurd h (du_nbad hd)
        · exact absurd h (du_nbad ha)
        · exact absurd h h5
        · exact br_f h5 (br_f h hp)
    · exact dx_reg0 h2 (br_t rfl hp)
  · exact dx_reg0 h1 (br_t rfl hp)
theorem dy_qua0 {post : Int32 → SY → Prop} {p0 p1 p2 : Int32} (h : du_bad p0 ∨ du_bad p1 ∨ p2 < -20 ∨ ¬ p2 ≤ 20) (hp : post (-1) (P, md, fl, lo, ng, mo, co, ex, dg)) : wpY_quantise post (P, md, fl, lo, ng, mo, co, ex, dg) p0 p1 p2 := by
  unfold wpY_quantise
  rcases du_reg p0 with ⟨d, hd, e⟩ | h1
  · subst e
    refine dy_reg1 hd (br_f (by decide) ?_)
    rcases du_reg p1 with ⟨a, ha, e⟩ | h2
    · subst e
      refine dy_reg1 ha (br_f (by decide) ?_)
      by_cases h5 : p2 < -20
      · exact br_t h5 hp
      · rcases h with h | h | h | h
        · exact absurd h (du_nbad hd)
        · exact absurd h (du_nbad ha)
        · exact absurd h h5
        · exact br_f h5 (br_f h hp)
    · exact dy_reg0 h2 (br_t rfl hp)
  · exact dy_reg0 h1 (br_t rfl hp)
end
section
variable {p d a : Nat} {md ra ng sc mo lo ng2 mo2 : Int32} {mg : Int64} {co ex dg : Nat → Int32} {te : Nat → Int64}
theorem dx_q143 {post : Int32 → SX → Prop} {f : Int32} {nb : Bool} {C : Nat} {q : Int} (hte : dx_te te) (h7 : p ≤ 7) (hd : d < 6) (q1 : -20 ≤ q) (q2 : q ≤ 20) (hC : C < 9223372036854775808)
    (hp1 : C < 10 ^ p → ∀ ng' mg' sc' mo', post f (nI p, md, ra ||| f, ng', mg', sc', mo', upd co d (du_i (dc_sg nb C)), upd ex d (du_i q), te))
    (hp2 : ¬ C < 10 ^ p → ∀ ng' mg' sc' mo', post 8 (nI p, md, ra ||| 8, ng', mg', sc', mo', co, ex, te)) :
    wX_quantise_143 post (nI d) (du_i q) f (nI p) md ra (du_b nb) (lN C) sc mo co ex te := by
  have h10 := du_p7 h7
  have hw : te (nI p).toNatClampNeg = lN (10 ^ p) := by rw [nI_clamp (by omega)]; exact hte p (by omega)
  refine And.intro (vp_in_nI (by omega) (by decide)) (dn_lt C (10 ^ p) (fun h => ?_) (fun h => ?_) rfl hw)
  · exact dx_store hd q1 q2 (nm_e (hp1 h _ _ _ _))
  · exact nm_e (hp2 (by omega) _ _ _ _)
theorem dx_qua {post : Int32 → SX → Prop} {f : Int32} {C : Nat} {A ea q : Int} (hte : dx_te te) (h7 : p ≤ 7) (hd : d < 6) (ha : a < 6) (hA : co a = du_i A) (hea : ex a = du_i ea) (hA7 : A.natAbs < 10000000) (a1 : -20 ≤ ea) (a2 : ea ≤ 20) (q1 : -20 ≤ q) (q2 : q ≤ 20)
    (hQ : dc_Q md (decide (A < 0)) A.natAbs ea q C f)
    (hp1 : C < 10 ^ p → ∀ ng' mg' sc' mo', post f (nI p, md, ra ||| f, ng', mg', sc', mo', upd co d (du_i (dc_sg (decide (A < 0)) C)), upd ex d (du_i q), te))
    (hp2 : ¬ C < 10 ^ p → ∀ ng' mg' sc' mo', post 8 (nI p, md, ra ||| 8, ng', mg', sc', mo', co, ex, te)) :
    wpX_quantise post (nI p, md, ra, ng, mg, sc, mo, co, ex, te) (nI d) (nI a) (du_i q) := by
  have h10 := du_p7 h7
  have ca : (nI a).toNatClampNeg = a := nI_clamp (by omega)
  have ia : vp_in (nI a) 6 := vp_in_nI ha (by decide)
  have hlA : (co (nI a).toNatClampNeg).toInt64 = du_l A := by rw [ca, hA]; exact du_i2l (by omega) (by omega)
  have hea2 : ex (nI a).toNatClampNeg = du_i ea := by rw [ca, hea]
  have m20 : (-20 : Int32) = du_i (-20) := by decide
  have p20 : (20 : Int32) = du_i 20 := by decide
  unfold wpX_quantise
  refine dx_reg1 hd (br_f (by decide) (dx_reg1 ha (br_f (by decide) (di_lt q (-20) (fun h => by omega) (fun _ => di_le q 20 (fun _ => And.intro ia (And.intro ia ?_)) (fun h => by omega) rfl p20) rfl m20))))
  rw [hea2]
  refine dx_take hlA (by omega) (by omega) ?_
  obtain ⟨m, hm⟩ : ∃ m, m = A.natAbs := ⟨_, rfl⟩
  rw [← hm] at hQ hA7 ⊢
  rcases hQ with ⟨i, hi, hC, hf⟩ | ⟨j, hj1, hj, hQ⟩
  · -- no digits are dropped
    subst hf
    have hle : du_i q ≤ du_i ea := (du_ile (by omega) (by omega) (by omega) (by omega)).mpr (by omega)
    have T82 : wX_quantise_82 post (nI d) (du_i q) 0 (nI p) md ra (du_b (decide (A < 0))) (lN m) (du_i ea) 0 co ex te := by
      refine dn_eq m 0 (fun h => br_t hle ?_) (fun h => ?_)
      · have e : C = m := by rw [hC, h, Nat.zero_mul]
        subst e
        exact dx_q143 hte h7 hd q1 q2 (by omega) hp1 hp2
      · have e5 : du_i ea - du_i q = nI i := by
          rw [du_isub, du_iN]
          exact congrArg du_i (by omega)
        refine nm_r e5 (pk_le i 7 (fun h8 => ?_) (fun h8 => ?_))
        · have hw : te (nI i).toNatClampNeg = lN (10 ^ i) := by rw [nI_clamp (by omega)]; exact hte i (by omega)
          have em : lN m * te (nI i).toNatClampNeg = lN C := by rw [hw, lN_mul, hC]
          have hb : m * 10 ^ i ≤ 10000000 * 10 ^ 7 := Nat.mul_le_mul (by omega) (dc_ple h8)
          have hb2 : m * 10 ^ i ≤ 100000000000000 := Nat.le_trans hb (by decide)
          refine And.intro (vp_in_nI (by omega) (by decide)) (nm_r em ?_)
          exact dx_q143 hte h7 hd q1 q2 (by omega) hp1 hp2
        · have hb : 1 * 10 ^ 8 ≤ m * 10 ^ i := Nat.mul_le_mul (by omega) (dc_ple h8)
          have hb2 : 100000000 ≤ m * 10 ^ i := Nat.le_trans (by decide) hb
          exact nm_e (hp2 (by omega) _ _ _ _)
    exact dn_eq m 0 (fun _ => T82) (fun _ => br_t hle T82)
  · have hgt : ¬ du_i q ≤ du_i ea := fun z => by
      have := (du_ile (by omega) (by omega) (by omega) (by omega)).mp z
      omega
    have hmd : m / 10 ^ j ≤ m := Nat.div_le_self _ _
    have hrb := dc_rd_b md (decide (A < 0)) m j false
    refine dn_eq m 0 (fun h => ?_) (fun h => br_f hgt ?_)
    · have hx : dc_ex m j false := ⟨by rw [h, Nat.zero_mod], rfl⟩
      rcases hQ with ⟨_, hC, hf⟩ | ⟨h1, _⟩
      · subst hf
        have e : C = m := by rw [hC, h, Nat.zero_div]
        subst e
        exact dn_eq C 0 (fun _ => br_f hgt (dx_q143 hte h7 hd q1 q2 (by omega) hp1 hp2)) (fun z => absurd h z)
      · exact absurd hx h1
    · have ej : du_i q - du_i ea = nI j := by
        rw [du_isub, du_iN]
        exact congrArg du_i (by omega)
      refine dx_drop (mb := false) hte ej (by omega) (by omega) (fun z => ?_) (fun z => ?_)
      · rcases hQ with ⟨_, hC, hf⟩ | ⟨h1, _⟩
        · subst hf hC
          exact dx_q143 hte h7 hd q1 q2 (by omega) hp1 hp2
        · exact absurd z h1
      · rcases hQ with ⟨h1, _⟩ | ⟨_, hC, hf⟩
        · exact absurd h1 z
        · subst hf hC
          exact dx_q143 hte h7 hd q1 q2 (by omega) hp1 hp2
/-! the reference -/
theorem dy_q204 {post : Int32 → SY → Prop} {f : Int32} {chg lb nb : Bool} {C : Nat} {q l : Int} {mo' : Int32} {dg' : Nat → Int32} (hp3 : 1 ≤ p) (h7 : p ≤ 7) (hd : d < 6) (hC : C < 9223372036854775808) (hf : f = (du_b chg ||| cond lb 2 0))
    (hp1 : C < 10 ^ p → ∀ lo' ng' mo' a', post f (nI p, md, ra ||| f, lo', ng', mo', upd co d (du_i (dc_sg nb C)), upd ex d (du_i q), a'))
    (hp2 : ¬ C < 10 ^ p → ∀ lo' ng' mo' a', post 8 (nI p, md, ra ||| 8, lo', ng', mo', co, ex, a')) :
    wY_quantise_204 post (nI d) (du_i q) (du_b lb) (lN C) (du_b chg) (nI p) md ra (du_i l) (du_b nb) mo' co ex dg' := by
  have h10 := du_p7 h7
  have hcl : (nI d).toNatClampNeg = d := nI_clamp (by omega)
  have hi : vp_in (nI d) 6 := vp_in_nI hd (by decide)
  obtain ⟨D, hD⟩ := dc_dg_ex C
  have hD1 := hD.1
  have hD19 : D ≤ 19 := (dc_dg_le hD (by decide)).mpr (Nat.lt_of_lt_of_le hC (by decide))
  have hDp := dc_dg_le hD (p := p) hp3
  unfold wY_quantise_204
  refine dy_dig hC hD (pk_le D p (fun h => ?_) (fun h => nm_e (hp2 (fun z => by have := hDp.mpr z; omega) _ _ _ _)))
  have hp := hp1 (hDp.mp h)
  have T244 : ∀ z : Int64, z.toInt32 = du_i (dc_sg nb C) → wY_quantise_244 post (nI d) (du_i q) (du_b lb) (du_b chg) z (nI d) (nI p) md ra (du_i l) (du_b nb) mo' co ex dg' := by
    intro z hz
    have ec : upd co (nI d).toNatClampNeg z.toInt32 = upd co d (du_i (dc_sg nb C)) := by rw [hcl, hz]
    have ee : upd ex (nI d).toNatClampNeg (du_i q) = upd ex d (du_i q) := by rw [hcl]
    refine And.intro hi (nm_r ec (And.intro hi (nm_r ee (db_0 chg (fun c => db_0 lb (fun e => ?_) (fun e => ?_)) (fun c => db_0 lb (fun e => ?_) (fun e => ?_))))))
    · subst c e
      have e0 : f = (0 ||| 0 : Int32) := hf
      subst e0
      exact nm_e (hp _ _ _ _)
    · subst c e
      have e0 : f = (0 ||| 2 : Int32) := hf
      subst e0
      exact nm_e (hp _ _ _ _)
    · subst c e
      have e0 : f = (1 ||| 0 : Int32) := hf
      subst e0
      exact nm_e (hp _ _ _ _)
    · subst c e
      have e0 : f = (1 ||| 2 : Int32) := hf
      subst e0
      exact nm_e (hp _ _ _ _)
  refine db_0 nb (fun c => T244 _ ?_) (fun c => T244 _ ?_)
  · rw [c, lN_i, du_iN]
    rfl
  · rw [c, du_lN, du_lneg, du_l2i]
    rfl
theorem dy_q147 {post : Int32 → SY → Prop} {x1 x3 x4 x7' : Int32} {N cut : Nat} {x7 : Int64} {lo' ng' : Int32} {dg' : Nat → Int32} (hN : dc_dgt N dg') (hcut : cut ≤ 128)
    (hp : wY_quantise_147 post x1 x3 x4 (nI cut) x7 (nI p) md ra lo' ng' x7' co ex dg' 1 (du_b (dc_mo N cut false)) (nI cut)) :
    ∀ t k : Nat, k + t = cut → wY_quantise_147 post x1 x3 x4 (nI cut) x7 (nI p) md ra lo' ng' x7' co ex dg' (t + 1) (du_b (dc_mo N k false)) (nI k) := by
  intro t
  induction t with
  | zero =>
    intro k hk
    have e : k = cut := by omega
    rw [e]
    exact hp
  | succ t ih =>
    intro k hk
    have A := ih (k + 1) (by omega)
    rw [dc_mo_s] at A
    refine br_f (nI_ge (by omega) (by omega)) (And.intro (vp_in_nI (by omega) (by decide)) (pk_eq (N / 10 ^ k % 10) 0 (fun h => nm_r (nI_1 k) ?_) (fun h => nm_r (nI_1 k) ?_) (by rw [nI_clamp (by omega)]; exact hN k (by omega))))
    · rw [decide_eq_false (fun z => z h), Bool.or_false] at A
      exact A
    · rw [decide_eq_true h, Bool.or_true] at A
      exact A
theorem dy_q63 {post : Int32 → SY → Prop} {f : Int32} {lb : Bool} {C i cut : Nat} {A ea q l : Int} (hp3 : 1 ≤ p) (h7 : p ≤ 7) (hd : d < 6) (ha : a < 6) (hA : co a = du_i A) (hea : ex a = du_i ea) (hA7 : A.natAbs < 10000000)
    (hi : ea = l + i) (hi40 : i ≤ 40) (hcut : q = l + cut) (hc40 : cut ≤ 40)
    (hlb : (lb = false ∧ cut = 0 ∧ C = A.natAbs * 10 ^ i ∧ f = 0) ∨ (lb = true ∧ i = 0 ∧ 1 ≤ cut ∧ ((dc_ex A.natAbs cut false ∧ C = A.natAbs / 10 ^ cut ∧ f = 2) ∨ (¬ dc_ex A.natAbs cut false ∧ C = dc_rd md (decide (A < 0)) A.natAbs cut false ∧ f = 3))))
    (hp1 : C < 10 ^ p → ∀ lo' ng' mo' a', post f (nI p, md, ra ||| f, lo', ng', mo', upd co d (du_i (dc_sg (decide (A < 0)) C)), upd ex d (du_i q), a'))
    (hp2 : ¬ C < 10 ^ p → ∀ lo' ng' mo' a', post 8 (nI p, md, ra ||| 8, lo', ng', mo', co, ex, a')) :
    wY_quantise_63 post (nI d) (nI a) (du_i q) (du_b lb) (du_i l) (nI p) md ra lo ng2 mo2 co ex dg := by
  have h10 := du_p7 h7
  have ca : (nI a).toNatClampNeg = a := nI_clamp (by omega)
  have ia : vp_in (nI a) 6 := vp_in_nI ha (by decide)
  have hlA : (co (nI a).toNatClampNeg).toInt64 = du_l A := by rw [ca, hA]; exact du_i2l (by omega) (by omega)
  have hea2 : ex (nI a).toNatClampNeg = du_i ea := by rw [ca, hea]
  obtain ⟨V, hV⟩ : ∃ V : Int, V = A * ((10 ^ i : Nat) : Int) := ⟨_, rfl⟩
  obtain ⟨N, hN⟩ : ∃ N : Nat, N = V.natAbs := ⟨_, rfl⟩
  have hNm : N = A.natAbs * 10 ^ i := by rw [hN, hV, Int.natAbs_mul, Int.natAbs_natCast]
  have hT0 : 0 < ((10 ^ i : Nat) : Int) := by have := dc_pp i; omega
  have hVs : decide (V < 0) = decide (A < 0) := by
    by_cases h : A < 0
    · rw [decide_eq_true h, decide_eq_true (by rw [hV]; exact Int.mul_neg_of_neg_of_pos h hT0)]
    · have h2 : 0 ≤ V := by rw [hV]; exact Int.mul_nonneg (by omega) (by omega)
      rw [decide_eq_false h, decide_eq_false (by omega)]
  have hNb : N ≤ 10000000 * 10 ^ 40 := by rw [hNm]; exact Nat.mul_le_mul (by omega) (dc_ple hi40)
  have hN100 : N < 10 ^ 100 := Nat.lt_of_le_of_lt hNb (by decide)
  refine dy_begin (fun a' hz => And.intro ia (And.intro ia ?_))
  rw [hea2, hlA]
  refine dy_put (B := 0) (i := i) (L := 7) (by decide) (by decide) hA7 hi (by omega) (dc_bd_z hz) (fun a'' h1 h2 h4 => ?_)
  have hs : dc_sm a'' 128 = V := by rw [h4, dc_sm_z 128 hz, Int.zero_add, hV]
  refine dy_tidy (nb := false) (dc_bd_m h1 (by decide)) hs (by rw [← hN]; exact hN100) (fun a4 h9 => ?_)
  rw [← hN] at h9
  rw [Bool.false_or, hVs]
  have ec : du_i q - du_i l = nI cut := by
    rw [du_isub, du_iN]
    exact congrArg du_i (by omega)
  refine nm_r ec ?_
  -- the loop and what lies behind it, for a number of at most 18 digits
  have T147 : N / 10 ^ cut < 1000000000000000000 → ∃ n147 : Nat, wY_quantise_147 post (nI d) (du_i q) (du_b lb) (nI cut) (lN (N / 10 ^ cut)) (nI p) md ra (du_i l) (du_b (decide (A < 0))) 0 co ex a4 n147 0 0 := by
    intro h18
    have T204 : wY_quantise_204 post (nI d) (du_i q) (du_b lb) (lN C) (du_b (dc_mo N cut false)) (nI p) md ra (du_i l) (du_b (decide (A < 0))) 0 co ex a4 := by
      refine dy_q204 hp3 h7 hd ?_ ?_ hp1 hp2
      · rcases hlb with ⟨_, e2, e3, _⟩ | ⟨_, e2, _, e3⟩
        · rw [e2, Nat.pow_zero, Nat.div_one] at h18
          omega
        · rcases e3 with ⟨_, e4, _⟩ | ⟨_, e4, _⟩
          · have := Nat.div_le_self A.natAbs (10 ^ cut)
            omega
          · have := dc_rd_b md (decide (A < 0)) A.natAbs cut false
            omega
      · rcases hlb with ⟨e1, e2, _, e4⟩ | ⟨e1, e2, _, e3⟩
        · rw [e1, e2, e4, dc_mo_0]
          decide
        · rw [e2, Nat.pow_zero, Nat.mul_one] at hNm
          rw [e1, hNm]
          rcases e3 with ⟨e5, _, e6⟩ | ⟨e5, _, e6⟩
          · rw [e6, dc_mo_f.mpr ⟨rfl, e5.1⟩]
            decide
          · have e7 : dc_mo A.natAbs cut false = true := by
              cases h : dc_mo A.natAbs cut false
              · exact absurd ⟨(dc_mo_f.mp h).2, rfl⟩ e5
              · rfl
            rw [e6, e7]
            decide
    have T192 : wY_quantise_192 post (nI d) (du_i q) (du_b lb) (lN (N / 10 ^ cut)) (du_b (dc_mo N cut false)) (du_b (decide (N / 10 ^ cut % 2 = 1))) (nI cut) (nI p) md ra (du_i l) (du_b (decide (A < 0))) 0 co ex a4 := by
      rcases hlb with ⟨_, e2, e3, _⟩ | ⟨_, e2, e4, e3⟩
      · subst e2
        have eC : C = N / 10 ^ 0 := by rw [Nat.pow_zero, Nat.div_one, hNm, e3]
        rw [eC] at T204
        exact dy_up0 (br_t rfl T204)
      · rw [e2, Nat.pow_zero, Nat.mul_one] at hNm
        rw [← hNm] at e3
        refine dy_up (mb := false) h9 e4 (by omega) (fun z => br_t rfl ?_) (fun z => ?_)
        · rcases e3 with ⟨_, e5, _⟩ | ⟨e5, _⟩
          · rw [e5] at T204
            exact T204
          · exact absurd z e5
        · rcases e3 with ⟨e5, _⟩ | ⟨_, e5, _⟩
          · exact absurd e5 z
          · unfold dc_rd at e5
            rw [e5] at T204
            refine db_0 _ (fun h => ?_) (fun h => ?_)
            · rw [h] at T204
              exact T204
            · rw [h] at T204
              exact nm_r (lN_1 _) T204
    refine ⟨cut + 1, ?_⟩
    have L := dy_q147 (p := p) (md := md) (ra := ra) (co := co) (ex := ex) (post := post) (x1 := nI d) (x3 := du_i q) (x4 := du_b lb) (x7 := lN (N / 10 ^ cut)) (x7' := 0) (lo' := du_i l) (ng' := du_b (decide (A < 0))) h9 (by omega) (br_t (nI_le (Nat.le_refl cut) (by omega)) (And.intro (by decide) (dn_eq (N / 10 ^ cut % 2) 1 (fun h => ?_) (fun h => ?_) (pk_lRem (b := 2) (by omega) (by decide) (by decide))))) cut 0 (by omega)
    · rw [dc_mo_0] at L
      exact L
    · rw [decide_eq_true h] at T192
      exact T192
    · rw [decide_eq_false h] at T192
      exact T192
  by_cases hN0 : N = 0
  · rw [hN0] at h9 T147
    have hz0 : (0 : Nat) / 10 ^ cut = 0 := Nat.zero_div _
    rw [hz0] at T147
    refine dy_top0 h9 (di_le (-(cut : Int)) 18 (fun _ => br_f ?_ (T147 (by decide))) (fun h => by omega) ?_)
    · intro z
      rw [du_iN, show (-1 : Int32) = du_i (-1) by decide] at z
      have := (du_ile (by omega) (by omega) (by omega) (by omega)).mp z
      omega
    · rw [du_iN, show (-1 : Int32) = du_i (-1) by decide, show (1 : Int32) = du_i 1 by decide, du_isub, du_iadd]
      exact congrArg du_i (by omega)
  · obtain ⟨D, hD⟩ := dc_dg_ex N
    have hD1 := hD.1
    have hD100 : D ≤ 100 := (dc_dg_le hD (by decide)).mpr hN100
    refine dy_top h9 hN100 (by omega) hD (di_le ((D : Int) - cut) 18 (fun h => ?_) (fun h => ?_) ?_)
    · have hlt : N / 10 ^ cut < 1000000000000000000 := by
        refine (Nat.div_lt_iff_lt_mul (dc_pp cut)).mpr ?_
        have e1 : 10 ^ D ≤ 10 ^ (18 + cut) := dc_ple (by omega)
        rw [Nat.pow_add] at e1
        exact Nat.lt_of_lt_of_le hD.2.1 e1
      refine pk_le cut (D - 1) (fun h5 => ?_) (fun h5 => ?_)
      · exact dy_part h9 (by omega) (by omega) (by rw [show D - 1 + 1 = D by omega]; exact hD.2.1) (T147 hlt)
      · have hz0 : N / 10 ^ cut = 0 := Nat.div_eq_of_lt (Nat.lt_of_lt_of_le hD.2.1 (dc_ple (by omega)))
        have T := T147 hlt
        rw [hz0] at T
        exact T
    · refine nm_e (hp2 ?_ _ _ _ _)
      rcases hlb with ⟨_, e2, e3, _⟩ | ⟨_, e2, e4, _⟩
      · have e5 : C = N := by rw [hNm, e3]
        have e6 := dc_dg_lo hD (by omega)
        have e7 : 10 ^ p ≤ 10 ^ (D - 1) := dc_ple (by omega)
        omega
      · rw [e2, Nat.pow_zero, Nat.mul_one] at hNm
        have e5 : D ≤ 7 := (dc_dg_le hD (by decide)).mpr (Nat.lt_of_lt_of_le (show N < 10000000 by omega) (by decide))
        omega
    · rw [du_iN, du_iN, show (1 : Int32) = du_i 1 by decide, du_isub, du_iadd]
      exact congrArg du_i (by omega)
theorem dy_qua {post : Int32 → SY → Prop} {f : Int32} {C : Nat} {A ea q : Int} (hp3 : 1 ≤ p) (h7 : p ≤ 7) (hd : d < 6) (ha : a < 6) (hA : co a = du_i A) (hea : ex a = du_i ea) (hA7 : A.natAbs < 10000000) (a1 : -20 ≤ ea) (a2 : ea ≤ 20) (q1 : -20 ≤ q) (q2 : q ≤ 20)
    (hQ : dc_Q md (decide (A < 0)) A.natAbs ea q C f)
    (hp1 : C < 10 ^ p → ∀ lo' ng' mo' a', post f (nI p, md, ra ||| f, lo', ng', mo', upd co d (du_i (dc_sg (decide (A < 0)) C)), upd ex d (du_i q), a'))
    (hp2 : ¬ C < 10 ^ p → ∀ lo' ng' mo' a', post 8 (nI p, md, ra ||| 8, lo', ng', mo', co, ex, a')) :
    wpY_quantise post (nI p, md, ra, lo, ng2, mo2, co, ex, dg) (nI d) (nI a) (du_i q) := by
  have ca : (nI a).toNatClampNeg = a := nI_clamp (by omega)
  have ia : vp_in (nI a) 6 := vp_in_nI ha (by decide)
  have hea2 : ex (nI a).toNatClampNeg = du_i ea := by rw [ca, hea]
  have m20 : (-20 : Int32) = du_i (-20) := by decide
  have p20 : (20 : Int32) = du_i 20 := by decide
  unfold wpY_quantise
  refine dy_reg1 hd (br_f (by decide) (dy_reg1 ha (br_f (by decide) (di_lt q (-20) (fun h => by omega) (fun _ => di_le q 20 (fun _ => And.intro ia ?_) (fun h => by omega) rfl p20) rfl m20))))
  rcases hQ with ⟨i, hi, hC, hf⟩ | ⟨j, hj1, hj, hQ⟩
  · refine di_le q ea (fun h => ?_) (fun h => by omega) rfl hea2
    exact br_t rfl (dy_q63 (lb := false) (i := i) (cut := 0) (l := q) hp3 h7 hd ha hA hea hA7 hi (by omega) (by omega) (by omega) (Or.inl ⟨rfl, rfl, hC, hf⟩) hp1 hp2)
  · refine di_le q ea (fun h => by omega) (fun h => br_f (by decide) (And.intro ia ?_)) rfl hea2
    rw [hea2]
    exact dy_q63 (lb := true) (i := 0) (cut := j) (l := ea) hp3 h7 hd ha hA hea hA7 (by omega) (by omega) hj (by omega) (Or.inr ⟨rfl, rfl, hj1, hQ⟩) hp1 hp2
end
theorem i_vc_quantise {k : Nat} {u : SX} {v : SY} (I : i_Rel k u v) (hk : k + 5 ≤ 2561) (v1 : Int32) (v2 : Int32) (v3 : Int32) : wpX_quantise (fun r u' => wpY_quantise (fun r' v' => r' = r ∧ i_Rel (k + 5) u' v') v v1 v2 v3) u v1 v2 v3 := by
  refine du_el (Q := fun u v => wpX_quantise (fun r u' => wpY_quantise (fun r' v' => r' = r ∧ i_Rel (k + 5) u' v') v v1 v2 v3) u v1 v2 v3) I ?_
  intro p md ra ng mg sc mo co ex te lo ng2 mo2 dg h3 h7 hte hG
  have bad : (du_bad v1 ∨ du_bad v2 ∨ v3 < -20 ∨ ¬ v3 ≤ 20) → wpX_quantise (fun r u' => wpY_quantise (fun r' v' => r' = r ∧ i_Rel (k + 5) u' v') (nI p, md, ra, lo, ng2, mo2, co, ex, dg) v1 v2 v3) (nI p, md, ra, ng, mg, sc, mo, co, ex, te) v1 v2 v3 :=
    fun h => dx_qua0 h (dy_qua0 h ⟨rfl, du_R h3 h7 hte hG⟩)
  rcases du_reg v1 with ⟨d, hd, e1⟩ | h
  · rcases du_reg v2 with ⟨a, ha, e2⟩ | h
    · by_cases h4 : v3 < -20
      · exact bad (Or.inr (Or.inr (Or.inl h4)))
      · by_cases h5 : v3 ≤ 20
        · obtain ⟨q, hq⟩ : ∃ q : Int, q = v3.toInt := ⟨_, rfl⟩
          have eq : v3 = du_i q := by rw [hq]; exact du_io v3
          have q1 : -20 ≤ q := by
            rw [Int32.lt_iff_toInt_lt, ← hq, show (-20 : Int32).toInt = -20 by decide] at h4
            omega
          have q2 : q ≤ 20 := by
            rw [Int32.le_iff_toInt_le, ← hq, show (20 : Int32).toInt = 20 by decide] at h5
            omega
          subst e1 e2
          rw [eq]
          obtain ⟨A, ea, hA, hea, hA7, a1, a2⟩ := du_Gf h7 hG ha
          obtain ⟨C, f, hQ⟩ := dc_Q_ex md (decide (A < 0)) A.natAbs ea q
          refine dx_qua hte h7 hd ha hA hea hA7 a1 a2 q1 q2 hQ (fun hc _ _ _ _ => ?_) (fun hc _ _ _ _ => ?_)
          · refine dy_qua (by omega) h7 hd ha hA hea hA7 a1 a2 q1 q2 hQ (fun _ _ _ _ _ => ?_) (fun z => absurd hc z)
            exact ⟨rfl, du_R h3 h7 hte (du_Gu h7 hG (by rw [dc_sg_n]; exact hc) q1 q2)⟩
          · refine dy_qua (by omega) h7 hd ha hA hea hA7 a1 a2 q1 q2 hQ (fun z => absurd z hc) (fun _ _ _ _ _ => ?_)
            exact ⟨rfl, du_R h3 h7 hte hG⟩
        · exact bad (Or.inr (Or.inr (Or.inr h5)))
    · exact bad (Or.inr (Or.inl h))
  · exact bad (Or.inl h)
end

section
/-! pure rows to paste: stores, nI and lN arithmetic, masks, shifts, narrowing, branches by naturals (pk_le, pk_lt, pk_eq), loops (lp1 .. lp16: the measure of the state; rp1 ..: recursion), negatives. Take what you need -/
theorem pk_us {f : Nat → Int32} {k : Nat} {x : Int32} : upd f k x k = x := if_pos rfl
theorem pk_un {f : Nat → Int32} {k j : Nat} {x : Int32} (h : j ≠ k) : upd f k x j = f j := if_neg h
theorem pk_uLs {f : Nat → Int64} {k : Nat} {x : Int64} : vp_updL f k x k = x := if_pos rfl
theorem pk_uLn {f : Nat → Int64} {k j : Nat} {x : Int64} (h : j ≠ k) : vp_updL f k x j = f j := if_neg h
theorem pk_sub {a b : Nat} (h : b ≤ a) : nI a - nI b = nI (a - b) := by
  obtain ⟨c, rfl⟩ : ∃ c, a = c + b := ⟨a - b, by omega⟩
  rw [← nI_add, Int32.add_sub_cancel, Nat.add_sub_cancel]
theorem pk_m1 (n : Nat) : nI (n + 1) + (-1) = nI n := by
  rw [← nI_1, Int32.add_assoc, show (1 : Int32) + (-1) = 0 from rfl, Int32.add_zero]
theorem pk_mul (a b : Nat) : nI a * nI b = nI (a * b) := (Int32.ofNat_mul a b).symm
theorem pk_div {a d : Nat} (ha : a < 2 ^ 31) (h0 : 0 < d) (hd : d < 2 ^ 31) : nI a / nI d = nI (a / d) := by
  apply Int32.toInt_inj.mp
  rw [lg_idiv_nonneg (by rw [nI_toInt ha]; omega) (by rw [nI_toInt hd]; omega), nI_toInt ha, nI_toInt hd, nI_toInt (Nat.lt_of_le_of_lt (Nat.div_le_self a d) ha)]
  first | rfl | exact (Int.natCast_ediv _ _).symm
theorem pk_rem {a d : Nat} (ha : a < 2 ^ 31) (h0 : 0 < d) (hd : d < 2 ^ 31) : nI a - nI a / nI d * nI d = nI (a % d) := by
  rw [pk_div ha h0 hd, pk_mul, pk_sub (Nat.div_mul_le_self a d)]
  exact congrArg nI (by have := Nat.div_add_mod' a d; omega)
theorem pk_sub_toInt {a b : Nat} (ha : a < 2 ^ 30) (hb : b < 2 ^ 30) : (nI a - nI b).toInt = (a : Int) - b := by
  rw [Int32.toInt_sub, nI_toInt (by omega), nI_toInt (by omega)]
  exact Int.bmod_eq_of_le (by omega) (by omega)
theorem pk_sneg {a b : Nat} (hb : b < 2 ^ 30) (h : a < b) : nI a - nI b < 0 := by
  rw [Int32.lt_iff_toInt_lt, pk_sub_toInt (by omega) hb, show (0 : Int32).toInt = 0 from by decide]
  omega
theorem pk_ix (x : Int32) {n : Nat} (hn : n < 2 ^ 31) : x < 0 ∨ nI n ≤ x ∨ ∃ j : Nat, j < n ∧ x = nI j := by
  by_cases h : x < 0
  · exact Or.inl h
  · obtain ⟨j, hj, rfl⟩ := nI_of h
    by_cases h2 : j < n
    · exact Or.inr (Or.inr ⟨j, h2, rfl⟩)
    · exact Or.inr (Or.inl (nI_le (by omega) hj))
theorem pk_le {x y : Int32} {A B : Prop} (a b : Nat) (f : a ≤ b → A) (g : b < a → B) (hx : x = nI a := by rfl) (hy : y = nI b := by rfl) (ha : a < 2 ^ 31 := by omega) (hb : b < 2 ^ 31 := by omega) : (x ≤ y → A) ∧ (¬ x ≤ y → B) := by
  subst hx hy
  rw [nI_leI ha hb]
  exact ⟨f, fun z => g (by omega)⟩
theorem pk_lt {x y : Int32} {A B : Prop} (a b : Nat) (f : a < b → A) (g : b ≤ a → B) (hx : x = nI a := by rfl) (hy : y = nI b := by rfl) (ha : a < 2 ^ 31 := by omega) (hb : b < 2 ^ 31 := by omega) : (x < y → A) ∧ (¬ x < y → B) := by
  subst hx hy
  rw [nI_ltI ha hb]
  exact ⟨f, fun z => g (by omega)⟩
theorem pk_eq {x y : Int32} {A B : Prop} (a b : Nat) (f : a = b → A) (g : a ≠ b → B) (hx : x = nI a := by rfl) (hy : y = nI b := by rfl) (ha : a < 2 ^ 31 := by omega) (hb : b < 2 ^ 31 := by omega) : (x = y → A) ∧ (¬ x = y → B) := by
  subst hx hy
  rw [nI_eq ha hb]
  exact ⟨f, g⟩
theorem pk_in {x : Int32} (n N : Nat) (h : n < N) (hx : x = nI n := by rfl) (hN : N < 2 ^ 31 := by omega) : vp_in x N := by
  subst hx
  exact vp_in_nI h hN
theorem pk_cl {x : Int32} (n : Nat) (hx : x = nI n := by rfl) (h : n < 2 ^ 31 := by omega) : x.toNatClampNeg = n := by
  subst hx
  exact nI_clamp h
theorem pk_lT {n : Nat} (h : n < 2 ^ 63) : (lN n).toInt = (n : Int) := lg_ofNat_toInt h
theorem pk_lLT {a b : Nat} (ha : a < 2 ^ 63) (hb : b < 2 ^ 63) : lN a < lN b ↔ a < b := by
  rw [Int64.lt_iff_toInt_lt, pk_lT ha, pk_lT hb]; omega
theorem pk_lLE {a b : Nat} (ha : a < 2 ^ 63) (hb : b < 2 ^ 63) : lN a ≤ lN b ↔ a ≤ b := by
  rw [Int64.le_iff_toInt_le, pk_lT ha, pk_lT hb]; omega
theorem pk_lEQ {a b : Nat} (ha : a < 2 ^ 63) (hb : b < 2 ^ 63) : lN a = lN b ↔ a = b := by
  rw [← Int64.toInt_inj, pk_lT ha, pk_lT hb]; omega
theorem pk_lOf {x : Int64} (h : ¬ x < 0) : ∃ k : Nat, k < 2 ^ 63 ∧ x = lN k := by
  rw [Int64.lt_iff_toInt_lt] at h
  have h0 : (0 : Int64).toInt = 0 := by decide
  have hx := Int64.toInt_lt x
  refine ⟨x.toInt.toNat, by omega, Int64.toInt_inj.mp ?_⟩
  rw [pk_lT (by omega)]
  omega
theorem pk_lDiv {a b : Nat} (ha : a < 2 ^ 63) (h0 : 0 < b) (hb : b < 2 ^ 63) : lN a / lN b = lN (a / b) := by
  apply Int64.toInt_inj.mp
  rw [lg_ldiv_nonneg (by rw [pk_lT ha]; omega) (by rw [pk_lT hb]; omega), pk_lT ha, pk_lT hb, pk_lT (Nat.lt_of_le_of_lt (Nat.div_le_self a b) ha)]
  rfl
theorem pk_lRem {a b : Nat} (ha : a < 2 ^ 63) (h0 : 0 < b) (hb : b < 2 ^ 63) : lN a - lN a / lN b * lN b = lN (a % b) := by
  rw [pk_lDiv ha h0 hb, lN_mul, lN_sub (Nat.div_mul_le_self a b)]
  exact congrArg lN (by have := Nat.div_add_mod' a b; omega)
theorem pk_loop {σ : Type} (W : Nat → Nat → σ → Prop) (I : Nat → σ → Prop) (e i0 : Nat) (s : σ) (hi : i0 ≤ e) (h0 : I i0 s) (hx : ∀ n s, I e s → W (n + 1) e s)
    (hs : ∀ n i s, i < e → I i s → (∀ s', I (i + 1) s' → W n (i + 1) s') → W (n + 1) i s) : ∃ n, W n i0 s :=
  ⟨e + 1, loop_i W I e hx hs (e + 1) i0 s hi (by omega) h0⟩
end
section
/-! numbers of any sign: zI z, zL z; bounds -/
def zI (z : Int) : Int32 := Int32.ofInt z
def zL (z : Int) : Int64 := Int64.ofInt z
theorem zi_add (a b : Int) : zI a + zI b = zI (a + b) := (Int32.ofInt_add a b).symm
theorem zi_sub (a b : Int) : zI a - zI b = zI (a - b) := (Int32.ofInt_sub a b).symm
theorem zi_mul (a b : Int) : zI a * zI b = zI (a * b) := (Int32.ofInt_mul a b).symm
theorem zi_neg (a : Int) : -zI a = zI (-a) := (Int32.ofInt_neg a).symm
theorem zi_of (x : Int32) : zI x.toInt = x := Int32.ofInt_toInt x
theorem zi_n (n : Nat) : nI n = zI n := (Int32.ofInt_eq_ofNat).symm
theorem zi_toInt {a : Int} (h : -2147483648 ≤ a) (h' : a < 2147483648) : (zI a).toInt = a := Int32.toInt_ofInt_of_le h h'
theorem zl_add (a b : Int) : zL a + zL b = zL (a + b) := (Int64.ofInt_add a b).symm
theorem zl_sub (a b : Int) : zL a - zL b = zL (a - b) := (Int64.ofInt_sub a b).symm
theorem zl_mul (a b : Int) : zL a * zL b = zL (a * b) := (Int64.ofInt_mul a b).symm
theorem zl_neg (a : Int) : -zL a = zL (-a) := (Int64.ofInt_neg a).symm
theorem zl_toInt {a : Int} (h : -9223372036854775808 ≤ a) (h' : a < 9223372036854775808) : (zL a).toInt = a := Int64.toInt_ofInt_of_le h h'
theorem zl_i (a : Int) : (zL a).toInt32 = zI a := Int64.toInt32_ofInt
/-- bounded by m on both sides -/
def bo_ (m a : Int) : Prop := -m ≤ a ∧ a ≤ m
theorem bo_add {m n a b : Int} (h : bo_ m a) (g : bo_ n b) : bo_ (m + n) (a + b) := by unfold bo_ at *; omega
theorem bo_sub {m n a b : Int} (h : bo_ m a) (g : bo_ n b) : bo_ (m + n) (a - b) := by unfold bo_ at *; omega
theorem bo_neg {m a : Int} (h : bo_ m a) : bo_ m (-a) := by unfold bo_ at *; omega
theorem bo_le {m n a : Int} (h : bo_ m a) (g : m ≤ n) : bo_ n a := by unfold bo_ at *; omega
theorem bo_mul {m n a b : Int} (h : bo_ m a) (g : bo_ n b) : bo_ (m * n) (a * b) := by
  obtain ⟨h1, h2⟩ := h
  obtain ⟨g1, g2⟩ := g
  have p1 := Int.mul_nonneg (a := m - a) (b := n - b) (by omega) (by omega)
  have p2 := Int.mul_nonneg (a := m - a) (b := n + b) (by omega) (by omega)
  have p3 := Int.mul_nonneg (a := m + a) (b := n - b) (by omega) (by omega)
  have p4 := Int.mul_nonneg (a := m + a) (b := n + b) (by omega) (by omega)
  constructor
  · grind
  · grind
theorem bo_lit {m a : Int} (h : -m ≤ a) (g : a ≤ m) : bo_ m a := ⟨h, g⟩
theorem bo_z (a : Int) {m : Int} (h : bo_ m a) (hm : m < 2147483648) : (zI a).toInt = a := zi_toInt (by have := h.1; omega) (by have := h.2; omega)
theorem zi_le {a b : Int} (ha : bo_ 2147483647 a) (hb : bo_ 2147483647 b) : zI a ≤ zI b ↔ a ≤ b := by
  rw [Int32.le_iff_toInt_le, bo_z a ha (by omega), bo_z b hb (by omega)]
theorem zi_lt {a b : Int} (ha : bo_ 2147483647 a) (hb : bo_ 2147483647 b) : zI a < zI b ↔ a < b := by
  rw [Int32.lt_iff_toInt_lt, bo_z a ha (by omega), bo_z b hb (by omega)]
theorem zi_eq {a b : Int} (ha : bo_ 2147483647 a) (hb : bo_ 2147483647 b) : zI a = zI b ↔ a = b := by
  rw [← Int32.toInt_inj, bo_z a ha (by omega), bo_z b hb (by omega)]
theorem zi_div {a b : Int} (ha : bo_ 2147483647 a) (hb : bo_ 2147483647 b) : zI a / zI b = zI (a.tdiv b) := by
  unfold bo_ at ha hb
  exact (Int32.ofInt_tdiv (by show (-2147483648 : Int) ≤ a; omega) (by show a ≤ (2147483647 : Int); omega) (by show (-2147483648 : Int) ≤ b; omega) (by show b ≤ (2147483647 : Int); omega)).symm
theorem zi_rem {a b : Int} (ha : bo_ 2147483647 a) (hb : bo_ 2147483647 b) : zI a - zI a / zI b * zI b = zI (a.tmod b) := by
  rw [zi_div ha hb, zi_mul, zi_sub]
  congr 1
  have := Int.mul_tdiv_add_tmod a b
  have e := Int.mul_comm b (a.tdiv b)
  omega
theorem zi_l {a : Int} (ha : bo_ 2147483647 a) : (zI a).toInt64 = zL a := by
  unfold bo_ at ha
  exact Int32.toInt64_ofInt (by show (-2147483648 : Int) ≤ a; omega) (by show a ≤ (2147483647 : Int); omega)
theorem zl_le {a b : Int} (ha : bo_ 9223372036854775807 a) (hb : bo_ 9223372036854775807 b) : zL a ≤ zL b ↔ a ≤ b := by
  unfold bo_ at ha hb
  rw [Int64.le_iff_toInt_le, zl_toInt (by omega) (by omega), zl_toInt (by omega) (by omega)]
theorem zl_lt {a b : Int} (ha : bo_ 9223372036854775807 a) (hb : bo_ 9223372036854775807 b) : zL a < zL b ↔ a < b := by
  unfold bo_ at ha hb
  rw [Int64.lt_iff_toInt_lt, zl_toInt (by omega) (by omega), zl_toInt (by omega) (by omega)]
theorem zl_eq {a b : Int} (ha : bo_ 9223372036854775807 a) (hb : bo_ 9223372036854775807 b) : zL a = zL b ↔ a = b := by
  unfold bo_ at ha hb
  rw [← Int64.toInt_inj, zl_toInt (by omega) (by omega), zl_toInt (by omega) (by omega)]
theorem zl_div {a b : Int} (ha : bo_ 9223372036854775807 a) (hb : bo_ 9223372036854775807 b) : zL a / zL b = zL (a.tdiv b) := by
  unfold bo_ at ha hb
  exact (Int64.ofInt_tdiv (by show (-9223372036854775808 : Int) ≤ a; omega) (by show a ≤ (9223372036854775807 : Int); omega) (by show (-9223372036854775808 : Int) ≤ b; omega) (by show b ≤ (9223372036854775807 : Int); omega)).symm
theorem zl_rem {a b : Int} (ha : bo_ 9223372036854775807 a) (hb : bo_ 9223372036854775807 b) : zL a - zL a / zL b * zL b = zL (a.tmod b) := by
  rw [zl_div ha hb, zl_mul, zl_sub]
  congr 1
  have := Int.mul_tdiv_add_tmod a b
  have e := Int.mul_comm b (a.tdiv b)
  omega
theorem bo_nat {n : Nat} {m : Int} (h : (n : Int) ≤ m) : bo_ m (n : Int) := by unfold bo_; omega
theorem zi_cl {n : Nat} (h : n < 2 ^ 31) : (zI n).toNatClampNeg = n := by rw [← zi_n, nI_clamp h]
theorem zi_in {n N : Nat} (h : n < N) (hN : N < 2 ^ 31) : vp_in (zI n) N := by rw [← zi_n]; exact vp_in_nI h hN
/-- the array with a value stored, over Int -/
def iu_ (f : Nat → Int) (k : Nat) (x : Int) : Nat → Int := fun j => if j = k then x else f j
theorem iu_s {f : Nat → Int} {k : Nat} {x : Int} : iu_ f k x k = x := if_pos rfl
theorem iu_n {f : Nat → Int} {k j : Nat} {x : Int} (h : j ≠ k) : iu_ f k x j = f j := if_neg h
theorem zi_upd (f : Nat → Int) (k : Nat) (x : Int) : upd (fun i => zI (f i)) k (zI x) = fun i => zI (iu_ f k x i) := by
  funext j
  unfold upd iu_
  by_cases h : j = k
  · rw [if_pos h, if_pos h]
  · rw [if_neg h, if_neg h]
theorem zi_fun (a : Nat → Int32) : a = fun i => zI (a i).toInt := funext fun i => (zi_of (a i)).symm
/-- pigeonhole: as many different things as there are holes, at most -/
theorem pg_hole : ∀ (m n : Nat) (R : Nat → Nat → Prop), (∀ a, a < n → ∃ b, b < m ∧ R a b) → (∀ a a' b, a < n → a' < n → b < m → R a b → R a' b → a = a') → n ≤ m := by
  intro m
  induction m with
  | zero =>
    intro n R h _
    rcases Nat.eq_zero_or_pos n with z | z
    · omega
    · obtain ⟨b, hb, _⟩ := h 0 z
      omega
  | succ m ih =>
    intro n R h u
    by_cases e : ∃ a, a < n ∧ R a m
    · obtain ⟨a0, ha0, hR⟩ := e
      have key : n - 1 ≤ m := by
        refine ih (n - 1) (fun a b => R (if a < a0 then a else a + 1) b) ?_ ?_
        · intro a ha
          have hlt : (if a < a0 then a else a + 1) < n := by split <;> omega
          obtain ⟨b, hb, hr⟩ := h _ hlt
          refine ⟨b, ?_, hr⟩
          rcases Nat.lt_or_ge b m with z | z
          · exact z
          · have eb : b = m := by omega
            rw [eb] at hr
            have := u _ _ m hlt ha0 (by omega) hr hR
            split at this <;> omega
        · intro a a' b ha ha' hb hr hr'
          have h1 : (if a < a0 then a else a + 1) < n := by split <;> omega
          have h2 : (if a' < a0 then a' else a' + 1) < n := by split <;> omega
          have := u _ _ b h1 h2 (by omega) hr hr'
          split at this <;> split at this <;> omega
      omega
    · have := ih n R (fun a ha => by
        obtain ⟨b, hb, hr⟩ := h a ha
        refine ⟨b, ?_, hr⟩
        rcases Nat.lt_or_ge b m with z | z
        · exact z
        · have eb : b = m := by omega
          rw [eb] at hr
          exact absurd ⟨a, ha, hr⟩ e) (fun a a' b ha ha' hb => u a a' b ha ha' (by omega))
      omega
end
section
/-! plane geometry over Int: points (x, y, d), d > 0; borders A B C; S says which are there -/
theorem sg_le {n z : Int} (hn : 0 < n) : n * z ≤ 0 ↔ z ≤ 0 := by
  constructor
  · intro h
    rcases Int.lt_or_le 0 z with g | g
    · have := Int.mul_pos hn g
      omega
    · exact g
  · intro h
    have := Int.mul_nonneg (Int.le_of_lt hn) (show 0 ≤ -z by omega)
    rw [Int.mul_neg] at this
    omega
theorem sg_ge {n z : Int} (hn : 0 < n) : 0 ≤ n * z ↔ 0 ≤ z := by
  have := sg_le (z := -z) hn
  rw [Int.mul_neg] at this
  omega
theorem sg_lt {n z : Int} (hn : 0 < n) : 0 < n * z ↔ 0 < z := by
  have := sg_le (z := z) hn
  omega
theorem sg_eq {n z : Int} (hn : 0 < n) : n * z = 0 ↔ z = 0 := by
  have := sg_le (z := z) hn
  have := sg_ge (z := z) hn
  omega
/-- fractions: a/b ≤ c/d ≤ e/f -/
theorem fr_trans {a b c d e f : Int} (hb : 0 ≤ b) (hd : 0 < d) (hf : 0 ≤ f) (h : a * d ≤ c * b) (g : c * f ≤ e * d) : a * f ≤ e * b := by
  have h1 := Int.mul_le_mul_of_nonneg_right h hf
  have h2 := Int.mul_le_mul_of_nonneg_right g hb
  have h3 : 0 ≤ d * (e * b - a * f) := by grind
  have := (sg_ge hd).mp h3
  omega
theorem sq_pos {a b : Int} (h : ¬ (a = 0 ∧ b = 0)) : 0 < a * a + b * b := by
  have h1 : 0 ≤ a * a := by
    rcases Int.le_total 0 a with g | g
    · exact Int.mul_nonneg g g
    · exact Int.mul_nonneg_of_nonpos_of_nonpos g g
  have h2 : 0 ≤ b * b := by
    rcases Int.le_total 0 b with g | g
    · exact Int.mul_nonneg g g
    · exact Int.mul_nonneg_of_nonpos_of_nonpos g g
  by_cases z : a = 0
  · have hb : b ≠ 0 := fun e => h ⟨z, e⟩
    have : 0 < b * b := by
      rcases Int.lt_or_le 0 b with g | g
      · exact Int.mul_pos g g
      · exact Int.mul_pos_of_neg_of_neg (by omega) (by omega)
    omega
  · have : 0 < a * a := by
      rcases Int.lt_or_le 0 a with g | g
      · exact Int.mul_pos g g
      · exact Int.mul_pos_of_neg_of_neg (by omega) (by omega)
    omega
def fe_ (A B C : Nat → Int) (S : Nat → Prop) (x y d : Int) : Prop := 0 < d ∧ ∀ j, S j → A j * x + B j * y ≤ C j * d
def ti_ (A B C : Nat → Int) (j : Nat) (x y d : Int) : Prop := A j * x + B j * y = C j * d
def ve_ (A B C : Nat → Int) (S : Nat → Prop) (x y d : Int) : Prop := fe_ A B C S x y d ∧ ∃ i j, S i ∧ S j ∧ A i * B j - A j * B i ≠ 0 ∧ ti_ A B C i x y d ∧ ti_ A B C j x y d
def sl_ (A B : Nat → Int) (k j : Nat) : Int := A j * B k - B j * A k
def li_ (A B C : Nat → Int) (k j : Nat) : Int := C j * (A k * A k + B k * B k) - C k * (A j * A k + B j * B k)
theorem id_line (a b c p q r x y d : Int) (h : a * x + b * y = c * d) : (a * a + b * b) * (p * x + q * y - r * d) = (p * b - q * a) * (b * x - a * y) - (r * (a * a + b * b) - c * (p * a + q * b)) * d := by
  have e : (r * (a * a + b * b) - c * (p * a + q * b)) * d = r * (a * a + b * b) * d - (c * d) * (p * a + q * b) := by grind
  rw [e, ← h]
  grind
section
variable {A B C : Nat → Int} {S : Nat → Prop}
theorem ln_le {k j : Nat} {x y d : Int} (hN : 0 < A k * A k + B k * B k) (h : ti_ A B C k x y d) : A j * x + B j * y ≤ C j * d ↔ sl_ A B k j * (B k * x - A k * y) ≤ li_ A B C k j * d := by
  have e := id_line (A k) (B k) (C k) (A j) (B j) (C j) x y d h
  have := sg_le (z := A j * x + B j * y - C j * d) hN
  unfold sl_ li_
  omega
theorem ln_eq {k j : Nat} {x y d : Int} (hN : 0 < A k * A k + B k * B k) (h : ti_ A B C k x y d) : ti_ A B C j x y d ↔ sl_ A B k j * (B k * x - A k * y) = li_ A B C k j * d := by
  have e := id_line (A k) (B k) (C k) (A j) (B j) (C j) x y d h
  have := sg_eq (z := A j * x + B j * y - C j * d) hN
  unfold sl_ li_ ti_
  omega
/-- the point of line k at parameter t / b -/
theorem pt_ti (k : Nat) (t b : Int) : ti_ A B C k (A k * C k * b + t * B k) (B k * C k * b - t * A k) ((A k * A k + B k * B k) * b) := by
  unfold ti_
  grind
theorem pt_t (a b c t e : Int) : b * (a * c * e + t * b) - a * (b * c * e - t * a) = (a * a + b * b) * t := by grind
theorem pt_le {k j : Nat} {t b : Int} (hN : 0 < A k * A k + B k * B k) (h : sl_ A B k j * t ≤ li_ A B C k j * b) : A j * (A k * C k * b + t * B k) + B j * (B k * C k * b - t * A k) ≤ C j * ((A k * A k + B k * B k) * b) := by
  rw [ln_le hN (pt_ti k t b), pt_t]
  have := Int.mul_le_mul_of_nonneg_left h (Int.le_of_lt hN)
  grind
theorem pt_eq {k j : Nat} {t b : Int} (hN : 0 < A k * A k + B k * B k) (h : sl_ A B k j * t = li_ A B C k j * b) : ti_ A B C j (A k * C k * b + t * B k) (B k * C k * b - t * A k) ((A k * A k + B k * B k) * b) := by
  rw [ln_eq hN (pt_ti k t b), pt_t]
  grind
/-- a cap: the least of l i / s i over the i below j with s i > 0, as t / b; none: b = 0 -/
def cp_ (S : Nat → Prop) (s l : Nat → Int) (j : Nat) (t b : Int) : Prop := (b = 0 ∧ ∀ i, i < j → S i → s i ≤ 0) ∨ (0 < b ∧ (∃ i, i < j ∧ S i ∧ s i = b ∧ l i = t) ∧ ∀ i, i < j → S i → 0 < s i → t * s i ≤ l i * b)
theorem cp_0 {s l : Nat → Int} {t : Int} : cp_ S s l 0 t 0 := Or.inl ⟨rfl, fun i h => absurd h (Nat.not_lt_zero i)⟩
theorem cp_skip {s l : Nat → Int} {j : Nat} {t b : Int} (h : cp_ S s l j t b) (g : S j → s j ≤ 0) : cp_ S s l (j + 1) t b := by
  rcases h with ⟨e, h⟩ | ⟨e, ⟨i, hi, hS, h1, h2⟩, h⟩
  · exact Or.inl ⟨e, lt_s h g⟩
  · exact Or.inr ⟨e, ⟨i, by omega, hS, h1, h2⟩, lt_s h (fun hS hp => absurd hp (by have := g hS; omega))⟩
theorem cp_keep {s l : Nat → Int} {j : Nat} {t b : Int} (h : cp_ S s l j t b) (hb : b ≠ 0) (g : t * s j ≤ l j * b) : cp_ S s l (j + 1) t b := by
  rcases h with ⟨e, h⟩ | ⟨e, ⟨i, hi, hS, h1, h2⟩, h⟩
  · exact absurd e hb
  · exact Or.inr ⟨e, ⟨i, by omega, hS, h1, h2⟩, lt_s h (fun _ _ => g)⟩
theorem cp_new {s l : Nat → Int} {j : Nat} {t b : Int} (h : cp_ S s l j t b) (hS : S j) (hs : 0 < s j) (g : b = 0 ∨ l j * b ≤ t * s j) : cp_ S s l (j + 1) (l j) (s j) := by
  refine Or.inr ⟨hs, ⟨j, by omega, hS, rfl, rfl⟩, lt_s ?_ (fun _ _ => Int.le_refl _)⟩
  intro i hi hSi hp
  rcases h with ⟨e, h⟩ | ⟨e, _, h⟩
  · exact absurd hp (by have := h i hi hSi; omega)
  · rcases g with g | g
    · omega
    · exact fr_trans (Int.le_of_lt hs) e (Int.le_of_lt hp) g (h i hi hSi hp)
theorem cp_up {s l : Nat → Int} {j : Nat} {t b u d : Int} (h : cp_ S s l j t b) (hb : 0 < b) (hd : 0 ≤ d) (g : u * b ≤ t * d) : ∀ i, i < j → S i → 0 < s i → s i * u ≤ l i * d := by
  intro i hi hS hp
  rcases h with ⟨e, h⟩ | ⟨e, _, h⟩
  · omega
  · have := fr_trans hd hb (Int.le_of_lt hp) g (h i hi hS hp)
    rw [Int.mul_comm]
    exact this
theorem cp_dn {s l : Nat → Int} {j : Nat} {t b u d : Int} (h : cp_ S s l j t b) (hb : 0 < b) (g : ∀ i, i < j → S i → 0 < s i → s i * u ≤ l i * d) : u * b ≤ t * d := by
  rcases h with ⟨e, h⟩ | ⟨e, ⟨i, hi, hS, h1, h2⟩, _⟩
  · omega
  · have := g i hi hS (by omega)
    rw [h1, h2, Int.mul_comm] at this
    exact this
theorem cp_nn {s l : Nat → Int} {j : Nat} {t b : Int} (h : cp_ S s l j t b) : 0 ≤ b := by
  rcases h with ⟨e, _⟩ | ⟨e, _⟩ <;> omega
theorem cp_ex (s l : Nat → Int) : ∀ j, ∃ t b, cp_ S s l j t b := by
  intro j
  induction j with
  | zero => exact ⟨0, 0, cp_0⟩
  | succ j ih =>
    obtain ⟨t, b, h⟩ := ih
    by_cases hS : S j
    · rcases Int.lt_or_le 0 (s j) with hs | hs
      · by_cases hb : b = 0
        · exact ⟨_, _, cp_new h hS hs (Or.inl hb)⟩
        · rcases Int.le_total (t * s j) (l j * b) with g | g
          · exact ⟨_, _, cp_keep h hb g⟩
          · exact ⟨_, _, cp_new h hS hs (Or.inr g)⟩
      · exact ⟨_, _, cp_skip h (fun _ => hs)⟩
    · exact ⟨_, _, cp_skip h (fun z => absurd z hS)⟩
/-- the stretch of line k that the borders below j in S allow: no parallel one forbids, low end lt / lb, high end ht / hb -/
def al_ (A B C : Nat → Int) (S : Nat → Prop) (k j : Nat) (lt lb ht hb : Int) : Prop :=
  (∀ i, i < j → S i → sl_ A B k i = 0 → 0 ≤ li_ A B C k i) ∧ cp_ S (sl_ A B k) (li_ A B C k) j ht hb ∧ cp_ S (fun i => -sl_ A B k i) (li_ A B C k) j (-lt) lb
theorem al_all {k j : Nat} {lt lb ht hb t d : Int} (h : al_ A B C S k j lt lb ht hb) (hl : 0 < lb) (hh : 0 < hb) (hd : 0 ≤ d) (g1 : t * hb ≤ ht * d) (g2 : lt * d ≤ t * lb) : ∀ i, i < j → S i → sl_ A B k i * t ≤ li_ A B C k i * d := by
  intro i hi hS
  obtain ⟨h0, h1, h2⟩ := h
  rcases Int.lt_trichotomy (sl_ A B k i) 0 with z | z | z
  · have := cp_up (u := -t) h2 hl hd (by rw [Int.neg_mul, Int.neg_mul]; omega) i hi hS (by show 0 < -sl_ A B k i; omega)
    have e : (-sl_ A B k i) * (-t) = sl_ A B k i * t := Int.neg_mul_neg _ _
    rw [← e]
    exact this
  · have := Int.mul_nonneg (h0 i hi hS z) hd
    rw [z, Int.zero_mul]
    exact this
  · exact cp_up h1 hh hd g1 i hi hS z
theorem al_hi {k j : Nat} {lt lb ht hb t d : Int} (h : al_ A B C S k j lt lb ht hb) (hh : 0 < hb) (g : ∀ i, i < j → S i → sl_ A B k i * t ≤ li_ A B C k i * d) : t * hb ≤ ht * d :=
  cp_dn h.2.1 hh (fun i hi hS _ => g i hi hS)
theorem al_lo {k j : Nat} {lt lb ht hb t d : Int} (h : al_ A B C S k j lt lb ht hb) (hl : 0 < lb) (g : ∀ i, i < j → S i → sl_ A B k i * t ≤ li_ A B C k i * d) : lt * d ≤ t * lb := by
  have := cp_dn (u := -t) (d := d) h.2.2 hl (fun i hi hS _ => by
    have e : (-sl_ A B k i) * (-t) = sl_ A B k i * t := Int.neg_mul_neg _ _
    show (-sl_ A B k i) * (-t) ≤ _
    rw [e]
    exact g i hi hS)
  rw [Int.neg_mul, Int.neg_mul] at this
  omega
/-- what the end of the walk along line k gives -/
theorem al_end {k j : Nat} {lt lb ht hb : Int} (hN : 0 < A k * A k + B k * B k) (hj : ∀ i, S i → i < j) (h : al_ A B C S k j lt lb ht hb) (hl : 0 < lb) (hh : 0 < hb) (g : lt * hb ≤ ht * lb) :
    (fe_ A B C S (A k * C k * hb + ht * B k) (B k * C k * hb - ht * A k) ((A k * A k + B k * B k) * hb) ∧ ∃ i, S i ∧ 0 < sl_ A B k i ∧ ti_ A B C i (A k * C k * hb + ht * B k) (B k * C k * hb - ht * A k) ((A k * A k + B k * B k) * hb)) ∧
    (fe_ A B C S (A k * C k * lb + lt * B k) (B k * C k * lb - lt * A k) ((A k * A k + B k * B k) * lb) ∧ ∃ i, S i ∧ sl_ A B k i < 0 ∧ ti_ A B C i (A k * C k * lb + lt * B k) (B k * C k * lb - lt * A k) ((A k * A k + B k * B k) * lb)) := by
  refine ⟨⟨⟨Int.mul_pos hN hh, fun i hS => pt_le hN ?_⟩, ?_⟩, ⟨Int.mul_pos hN hl, fun i hS => pt_le hN ?_⟩, ?_⟩
  · exact al_all h hl hh (Int.le_of_lt hh) (Int.le_refl _) g i (hj i hS) hS
  · rcases h.2.1 with ⟨e, _⟩ | ⟨_, ⟨i, hi, hS, h1, h2⟩, _⟩
    · omega
    · exact ⟨i, hS, by omega, pt_eq hN (by rw [h1, h2, Int.mul_comm])⟩
  · exact al_all h hl hh (Int.le_of_lt hl) g (Int.le_refl _) i (hj i hS) hS
  · rcases h.2.2 with ⟨e, _⟩ | ⟨_, ⟨i, hi, hS, h1, h2⟩, _⟩
    · omega
    · have e1 : sl_ A B k i = -lb := by
        have h3 : -sl_ A B k i = lb := h1
        omega
      refine ⟨i, hS, by omega, pt_eq hN ?_⟩
      rw [e1, h2, Int.neg_mul, Int.neg_mul, Int.mul_comm]
/-- points of line k that S allows lie between the ends -/
theorem al_btw {k j : Nat} {lt lb ht hb x y d : Int} (hN : 0 < A k * A k + B k * B k) (hj : ∀ i, i < j → S i → A i * x + B i * y ≤ C i * d) (h : al_ A B C S k j lt lb ht hb) (hl : 0 < lb) (hh : 0 < hb) (ht' : ti_ A B C k x y d) :
    (B k * x - A k * y) * hb ≤ ht * d ∧ lt * d ≤ (B k * x - A k * y) * lb :=
  ⟨al_hi h hh (fun i hi hS => (ln_le hN ht').mp (hj i hi hS)), al_lo h hl (fun i hi hS => (ln_le hN ht').mp (hj i hi hS))⟩
theorem al_gap {lt lb ht hb t d : Int} (hl : 0 < lb) (hh : 0 < hb) (hd : 0 < d) (h1 : t * hb ≤ ht * d) (h2 : lt * d ≤ t * lb) : lt * hb ≤ ht * lb :=
  fr_trans (Int.le_of_lt hl) hd (Int.le_of_lt hh) h2 h1
end
end
section
/-! the best point for a linear goal: line by line -/
def be_ (A B C : Nat → Int) (S : Nat → Prop) (G H x y d : Int) : Prop := fe_ A B C S x y d ∧ ∀ x' y' d', fe_ A B C S x' y' d' → (G * x' + H * y') * d ≤ (G * x + H * y) * d'
/-- the borders below k but one -/
def ss_ (k o : Nat) (j : Nat) : Prop := j < k ∧ j ≠ o
/-- the square's four borders -/
def sq_ (A B C : Nat → Int) : Prop := (A 0 = 1 ∧ B 0 = 0 ∧ C 0 = 20) ∧ (A 1 = -1 ∧ B 1 = 0 ∧ C 1 = 20) ∧ (A 2 = 0 ∧ B 2 = 1 ∧ C 2 = 20) ∧ (A 3 = 0 ∧ B 3 = -1 ∧ C 3 = 20)
theorem id_val (a b c x y d G H : Int) (h : a * x + b * y = c * d) : (a * a + b * b) * (G * x + H * y) = (G * a + H * b) * c * d + (G * b - H * a) * (b * x - a * y) := by
  have e : (G * a + H * b) * c * d = (G * a + H * b) * (c * d) := by grind
  rw [e, ← h]
  grind
/-- values along a line: the point at parameter t/e against (x, y, d) with parameter u = b x - a y -/
theorem id_cmp (a b c x y d G H t e : Int) (h : a * x + b * y = c * d) : (G * (a * c * e + t * b) + H * (b * c * e - t * a)) * d - (G * x + H * y) * ((a * a + b * b) * e) = (G * b - H * a) * (t * d - (b * x - a * y) * e) := by
  have e1 := id_val a b c x y d G H h
  have e2 : (G * x + H * y) * ((a * a + b * b) * e) = ((a * a + b * b) * (G * x + H * y)) * e := by grind
  rw [e2, e1]
  grind
section
variable {A B C : Nat → Int} {S : Nat → Prop}
theorem fe_mono {T : Nat → Prop} {x y d : Int} (h : fe_ A B C S x y d) (g : ∀ j, T j → S j) : fe_ A B C T x y d := ⟨h.1, fun j hj => h.2 j (g j hj)⟩
theorem fe_scale {g x y d : Int} (hg : 0 < g) (h : fe_ A B C S (g * x) (g * y) (g * d)) : fe_ A B C S x y d := by
  refine ⟨(sg_lt hg).mp h.1, fun j hj => ?_⟩
  have e : A j * (g * x) + B j * (g * y) - C j * (g * d) = g * (A j * x + B j * y - C j * d) := by grind
  have := h.2 j hj
  have := sg_le (z := A j * x + B j * y - C j * d) hg
  omega
theorem be_scale {g x y d G H : Int} (hg : 0 < g) (h : be_ A B C S G H (g * x) (g * y) (g * d)) : be_ A B C S G H x y d := by
  refine ⟨fe_scale hg h.1, fun x' y' d' h' => ?_⟩
  have e : (G * x' + H * y') * (g * d) - (G * (g * x) + H * (g * y)) * d' = g * ((G * x' + H * y') * d - (G * x + H * y) * d') := by grind
  have := h.2 x' y' d' h'
  have := sg_le (z := (G * x' + H * y') * d - (G * x + H * y) * d') hg
  omega
theorem id_mix (p q r x y d x' y' d' s t : Int) : p * (s * x + t * x') + q * (s * y + t * y') - r * (s * d + t * d') = s * (p * x + q * y - r * d) + t * (p * x' + q * y' - r * d') := by grind
theorem fe_mix {x y d x' y' d' s t : Int} (h : fe_ A B C S x y d) (h' : fe_ A B C S x' y' d') (hs : 0 ≤ s) (ht : 0 ≤ t) (hst : 0 < s + t) : fe_ A B C S (s * x + t * x') (s * y + t * y') (s * d + t * d') := by
  constructor
  · have h1 := Int.mul_nonneg hs (Int.le_of_lt h.1)
    have h2 := Int.mul_nonneg ht (Int.le_of_lt h'.1)
    rcases Int.lt_or_le 0 s with z | z
    · have := Int.mul_pos z h.1
      omega
    · have := Int.mul_pos (show 0 < t by omega) h'.1
      omega
  · intro j hj
    have e := id_mix (A j) (B j) (C j) x y d x' y' d' s t
    have h1 := Int.mul_nonneg hs (show 0 ≤ -(A j * x + B j * y - C j * d) by have := h.2 j hj; omega)
    have h2 := Int.mul_nonneg ht (show 0 ≤ -(A j * x' + B j * y' - C j * d') by have := h'.2 j hj; omega)
    rw [Int.mul_neg] at h1 h2
    omega
theorem be_keep {k o : Nat} {G H x y d : Int} (h : be_ A B C (ss_ k o) G H x y d) (g : k ≠ o → A k * x + B k * y ≤ C k * d) : be_ A B C (ss_ (k + 1) o) G H x y d := by
  refine ⟨⟨h.1.1, fun j hj => ?_⟩, fun x' y' d' h' => h.2 x' y' d' (fe_mono h' (fun j hj => ⟨by have := hj.1; omega, hj.2⟩))⟩
  rcases Nat.lt_or_ge j k with z | z
  · exact h.1.2 j ⟨z, hj.2⟩
  · have e : j = k := by have := hj.1; omega
    subst e
    exact g hj.2
/-- a point that the new line allows is no better than some point on the line -/
theorem be_cross {k : Nat} {G H x y d x' y' d' : Int} (h : be_ A B C S G H x y d) (hk : C k * d < A k * x + B k * y) (h' : fe_ A B C S x' y' d') (hk' : A k * x' + B k * y' ≤ C k * d') :
    ∃ x2 y2 d2, fe_ A B C S x2 y2 d2 ∧ ti_ A B C k x2 y2 d2 ∧ (G * x' + H * y') * d2 ≤ (G * x2 + H * y2) * d' := by
  refine ⟨(C k * d' - (A k * x' + B k * y')) * x + (A k * x + B k * y - C k * d) * x', (C k * d' - (A k * x' + B k * y')) * y + (A k * x + B k * y - C k * d) * y', (C k * d' - (A k * x' + B k * y')) * d + (A k * x + B k * y - C k * d) * d', ?_, ?_, ?_⟩
  · exact fe_mix h.1 h' (by omega) (by omega) (by omega)
  · have e := id_mix (A k) (B k) (C k) x y d x' y' d' (C k * d' - (A k * x' + B k * y')) (A k * x + B k * y - C k * d)
    have e2 : (C k * d' - (A k * x' + B k * y')) * (A k * x + B k * y - C k * d) + (A k * x + B k * y - C k * d) * (A k * x' + B k * y' - C k * d') = 0 := by grind
    unfold ti_
    omega
  · have hh := h.2 x' y' d' h'
    have hs : 0 ≤ C k * d' - (A k * x' + B k * y') := by omega
    generalize C k * d' - (A k * x' + B k * y') = s at hs ⊢
    generalize A k * x + B k * y - C k * d = t
    have e : (G * (s * x + t * x') + H * (s * y + t * y')) * d' - (G * x' + H * y') * (s * d + t * d') = s * ((G * x + H * y) * d' - (G * x' + H * y') * d) := by grind
    have := Int.mul_nonneg hs (show 0 ≤ (G * x + H * y) * d' - (G * x' + H * y') * d by omega)
    omega
/-- the best end of the stretch is the best point, once the best point so far lies beyond the new line -/
theorem be_new {k o : Nat} {G H x y d x2 y2 d2 : Int} (h : be_ A B C (ss_ k o) G H x y d) (hk : C k * d < A k * x + B k * y) (ho : k ≠ o)
    (h2 : fe_ A B C (ss_ k o) x2 y2 d2) (t2 : ti_ A B C k x2 y2 d2) (g : ∀ x' y' d', fe_ A B C (ss_ k o) x' y' d' → ti_ A B C k x' y' d' → (G * x' + H * y') * d2 ≤ (G * x2 + H * y2) * d') : be_ A B C (ss_ (k + 1) o) G H x2 y2 d2 := by
  refine ⟨⟨h2.1, fun j hj => ?_⟩, fun x' y' d' h' => ?_⟩
  · rcases Nat.lt_or_ge j k with z | z
    · exact h2.2 j ⟨z, hj.2⟩
    · have e : j = k := by have := hj.1; omega
      subst e
      exact Int.le_of_eq t2
  · have f' : fe_ A B C (ss_ k o) x' y' d' := fe_mono h' (fun j hj => ⟨by have := hj.1; omega, hj.2⟩)
    obtain ⟨x3, y3, d3, f3, t3, c3⟩ := be_cross h hk f' (h'.2 k ⟨by omega, ho⟩)
    exact fr_trans (Int.le_of_lt h'.1) f3.1 (Int.le_of_lt h2.1) c3 (g x3 y3 d3 f3 t3)
theorem be_none {k o : Nat} {G H x y d : Int} (h : be_ A B C (ss_ k o) G H x y d) (hk : C k * d < A k * x + B k * y) (ho : k ≠ o)
    (g : ∀ x' y' d', fe_ A B C (ss_ k o) x' y' d' → ¬ ti_ A B C k x' y' d') (n : Nat) (hn : k < n) : ∀ x' y' d', ¬ fe_ A B C (ss_ n o) x' y' d' := by
  intro x' y' d' h'
  have f' : fe_ A B C (ss_ k o) x' y' d' := fe_mono h' (fun j hj => ⟨by have := hj.1; omega, hj.2⟩)
  obtain ⟨x3, y3, d3, f3, t3, c3⟩ := be_cross h hk f' (h'.2 k ⟨by omega, ho⟩)
  exact g x3 y3 d3 f3 t3
/-- the high end is best if the goal rises along the line -/
theorem be_hi {k j : Nat} {lt lb ht hb G H : Int} (hN : 0 < A k * A k + B k * B k) (h : al_ A B C S k j lt lb ht hb) (hh : 0 < hb) (hr : 0 ≤ G * B k - H * A k) :
    ∀ x' y' d', fe_ A B C S x' y' d' → ti_ A B C k x' y' d' → (G * x' + H * y') * ((A k * A k + B k * B k) * hb) ≤ (G * (A k * C k * hb + ht * B k) + H * (B k * C k * hb - ht * A k)) * d' := by
  intro x' y' d' f' t'
  have e := id_cmp (A k) (B k) (C k) x' y' d' G H ht hb t'
  have := al_hi (t := B k * x' - A k * y') (d := d') h hh (fun i hi hS => (ln_le hN t').mp (f'.2 i hS))
  have := Int.mul_nonneg hr (show 0 ≤ ht * d' - (B k * x' - A k * y') * hb by omega)
  omega
theorem be_lo {k j : Nat} {lt lb ht hb G H : Int} (hN : 0 < A k * A k + B k * B k) (h : al_ A B C S k j lt lb ht hb) (hl : 0 < lb) (hr : G * B k - H * A k ≤ 0) :
    ∀ x' y' d', fe_ A B C S x' y' d' → ti_ A B C k x' y' d' → (G * x' + H * y') * ((A k * A k + B k * B k) * lb) ≤ (G * (A k * C k * lb + lt * B k) + H * (B k * C k * lb - lt * A k)) * d' := by
  intro x' y' d' f' t'
  have e := id_cmp (A k) (B k) (C k) x' y' d' G H lt lb t'
  have := al_lo (t := B k * x' - A k * y') (d := d') h hl (fun i hi hS => (ln_le hN t').mp (f'.2 i hS))
  have := Int.mul_nonneg_of_nonpos_of_nonpos hr (show lt * d' - (B k * x' - A k * y') * lb ≤ 0 by omega)
  omega
/-- with the square's borders there, both caps are set -/
theorem al_sq {k j : Nat} {lt lb ht hb : Int} (hq : sq_ A B C) (hN : 0 < A k * A k + B k * B k) (hj : 4 ≤ j) (hS : ∀ i, i < 4 → S i) (h : al_ A B C S k j lt lb ht hb) : 0 < lb ∧ 0 < hb := by
  obtain ⟨⟨a0, b0, c0'⟩, ⟨a1, b1, c1'⟩, ⟨a2, b2, c2'⟩, a3, b3, c3'⟩ := hq
  have e0 : sl_ A B k 0 = B k := by unfold sl_; rw [a0, b0]; omega
  have e1 : sl_ A B k 1 = -B k := by unfold sl_; rw [a1, b1]; omega
  have e2 : sl_ A B k 2 = -A k := by unfold sl_; rw [a2, b2]; omega
  have e3 : sl_ A B k 3 = A k := by unfold sl_; rw [a3, b3]; omega
  have hne : ¬ (A k = 0 ∧ B k = 0) := by
    intro z
    rw [z.1, z.2] at hN
    omega
  constructor
  · rcases h.2.2 with ⟨e, g⟩ | ⟨e, _⟩
    · have g0 := g 0 (by omega) (hS 0 (by omega))
      have g1 := g 1 (by omega) (hS 1 (by omega))
      have g2 := g 2 (by omega) (hS 2 (by omega))
      have g3 := g 3 (by omega) (hS 3 (by omega))
      simp only [e0, e1, e2, e3] at g0 g1 g2 g3
      exact absurd ⟨by omega, by omega⟩ hne
    · exact e
  · rcases h.2.1 with ⟨e, g⟩ | ⟨e, _⟩
    · have g0 := g 0 (by omega) (hS 0 (by omega))
      have g1 := g 1 (by omega) (hS 1 (by omega))
      have g2 := g 2 (by omega) (hS 2 (by omega))
      have g3 := g 3 (by omega) (hS 3 (by omega))
      simp only [e0, e1, e2, e3] at g0 g1 g2 g3
      exact absurd ⟨by omega, by omega⟩ hne
    · exact e
/-- the square's own best corner -/
theorem be_sq {o : Nat} (ho : 4 ≤ o) (hq : sq_ A B C) (G H : Int) (x y : Int) (hx : x = if 0 < G then 20 else -20) (hy : y = if 0 < H then 20 else -20) : be_ A B C (ss_ 4 o) G H x y 1 ∧ ve_ A B C (ss_ 4 o) x y 1 := by
  obtain ⟨⟨a0, b0, c0'⟩, ⟨a1, b1, c1'⟩, ⟨a2, b2, c2'⟩, a3, b3, c3'⟩ := hq
  have hxb : x ≤ 20 ∧ -20 ≤ x := by rw [hx]; split <;> omega
  have hyb : y ≤ 20 ∧ -20 ≤ y := by rw [hy]; split <;> omega
  have f : fe_ A B C (ss_ 4 o) x y 1 := by
    refine ⟨by omega, fun j hj => ?_⟩
    have h4 := hj.1
    have : j = 0 ∨ j = 1 ∨ j = 2 ∨ j = 3 := by omega
    rcases this with e | e | e | e
    · rw [e, a0, b0, c0']; omega
    · rw [e, a1, b1, c1']; omega
    · rw [e, a2, b2, c2']; omega
    · rw [e, a3, b3, c3']; omega
  refine ⟨⟨f, fun x' y' d' h' => ?_⟩, f, ?_⟩
  · have g0 := h'.2 0 ⟨by omega, by omega⟩
    have g1 := h'.2 1 ⟨by omega, by omega⟩
    have g2 := h'.2 2 ⟨by omega, by omega⟩
    have g3 := h'.2 3 ⟨by omega, by omega⟩
    rw [a0, b0, c0'] at g0
    rw [a1, b1, c1'] at g1
    rw [a2, b2, c2'] at g2
    rw [a3, b3, c3'] at g3
    have hG : G * x' ≤ G * x * d' := by
      rw [hx]
      split
      · have := Int.mul_le_mul_of_nonneg_left (show x' ≤ 20 * d' by omega) (show 0 ≤ G by omega)
        grind
      · have := Int.mul_nonneg (show 0 ≤ -G by omega) (show 0 ≤ x' + 20 * d' by omega)
        grind
    have hH : H * y' ≤ H * y * d' := by
      rw [hy]
      split
      · have := Int.mul_le_mul_of_nonneg_left (show y' ≤ 20 * d' by omega) (show 0 ≤ H by omega)
        grind
      · have := Int.mul_nonneg (show 0 ≤ -H by omega) (show 0 ≤ y' + 20 * d' by omega)
        grind
    rw [Int.mul_one, Int.add_mul]
    omega
  · have hi : ∃ i, (i = 0 ∨ i = 1) ∧ ti_ A B C i x y 1 := by
      rw [hx]
      split
      · exact ⟨0, Or.inl rfl, by unfold ti_; rw [a0, b0, c0']; omega⟩
      · exact ⟨1, Or.inr rfl, by unfold ti_; rw [a1, b1, c1']; omega⟩
    have hj : ∃ j, (j = 2 ∨ j = 3) ∧ ti_ A B C j x y 1 := by
      rw [hy]
      split
      · exact ⟨2, Or.inl rfl, by unfold ti_; rw [a2, b2, c2']; omega⟩
      · exact ⟨3, Or.inr rfl, by unfold ti_; rw [a3, b3, c3']; omega⟩
    obtain ⟨i, hi, ti⟩ := hi
    obtain ⟨j, hj, tj⟩ := hj
    refine ⟨i, j, ⟨by omega, by omega⟩, ⟨by omega, by omega⟩, ?_, ti, tj⟩
    rcases hi with e | e <;> rcases hj with e' | e' <;> subst e <;> subst e' <;> simp only [a0, b0, a1, b1, a2, b2, a3, b3] <;> omega
/-- for every goal: nothing is allowed, or a meeting point of two borders is best -/
theorem be_ex {o : Nat} (ho : 4 ≤ o) (hq : sq_ A B C) (G H : Int) : ∀ m, (∀ x y d, ¬ fe_ A B C (ss_ (4 + m) o) x y d) ∨ ∃ x y d, be_ A B C (ss_ (4 + m) o) G H x y d ∧ ve_ A B C (ss_ (4 + m) o) x y d := by
  intro m
  induction m with
  | zero => exact Or.inr ⟨_, _, 1, be_sq ho hq G H _ _ rfl rfl⟩
  | succ m ih =>
    have mono : ∀ j, ss_ (4 + m) o j → ss_ (4 + (m + 1)) o j := fun j hj => ⟨by have := hj.1; omega, hj.2⟩
    rcases ih with ih | ⟨x, y, d, hb, hv⟩
    · exact Or.inl fun x y d h => ih x y d (fe_mono h mono)
    · by_cases hk : 4 + m ≠ o → A (4 + m) * x + B (4 + m) * y ≤ C (4 + m) * d
      · refine Or.inr ⟨x, y, d, be_keep hb hk, (be_keep hb hk).1, ?_⟩
        obtain ⟨i, j, hi, hj, h⟩ := hv.2
        exact ⟨i, j, mono i hi, mono j hj, h⟩
      · have hk1 : 4 + m ≠ o := by
          intro z
          exact hk (fun w => absurd z w)
        have hk2 : C (4 + m) * d < A (4 + m) * x + B (4 + m) * y := by
          rcases Int.lt_or_le (C (4 + m) * d) (A (4 + m) * x + B (4 + m) * y) with z | z
          · exact z
          · exact absurd (fun _ => z) hk
        by_cases hz : A (4 + m) = 0 ∧ B (4 + m) = 0
        · refine Or.inl (be_none hb hk2 hk1 ?_ _ (by omega))
          intro x' y' d' f' t'
          unfold ti_ at t'
          rw [hz.1, hz.2] at t' hk2
          have h1 : C (4 + m) * d < 0 := by omega
          have h2 : C (4 + m) * d' = 0 := by omega
          rcases Int.mul_eq_zero.mp h2 with z | z
          · rw [z] at h1
            omega
          · have := f'.1
            omega
        · have hN := sq_pos hz
          by_cases hp : ∀ i, i < 4 + m → ss_ (4 + m) o i → sl_ A B (4 + m) i = 0 → 0 ≤ li_ A B C (4 + m) i
          · obtain ⟨ht, hb', h1⟩ := cp_ex (S := ss_ (4 + m) o) (sl_ A B (4 + m)) (li_ A B C (4 + m)) (4 + m)
            obtain ⟨lt, lb, h2⟩ := cp_ex (S := ss_ (4 + m) o) (fun i => -sl_ A B (4 + m) i) (li_ A B C (4 + m)) (4 + m)
            have al : al_ A B C (ss_ (4 + m) o) (4 + m) (4 + m) (-lt) lb ht hb' := ⟨hp, h1, by rw [Int.neg_neg]; exact h2⟩
            obtain ⟨pl, ph⟩ := al_sq hq hN (by omega) (fun i hi => ⟨by omega, by omega⟩) al
            by_cases hlh : -lt * hb' ≤ ht * lb
            · obtain ⟨⟨f1, i1, s1, l1, t1⟩, f2, i2, s2, l2, t2⟩ := al_end hN (fun i hi => hi.1) al pl ph hlh
              rcases Int.le_total 0 (G * B (4 + m) - H * A (4 + m)) with hr | hr
              · have b := be_new hb hk2 hk1 f1 (pt_ti _ _ _) (be_hi hN al ph hr)
                refine Or.inr ⟨_, _, _, b, b.1, 4 + m, i1, ⟨by omega, hk1⟩, mono _ s1, ?_, pt_ti _ _ _, t1⟩
                unfold sl_ at l1
                have e1 := Int.mul_comm (B i1) (A (4 + m))
                omega
              · have b := be_new hb hk2 hk1 f2 (pt_ti _ _ _) (be_lo hN al pl hr)
                refine Or.inr ⟨_, _, _, b, b.1, 4 + m, i2, ⟨by omega, hk1⟩, mono _ s2, ?_, pt_ti _ _ _, t2⟩
                unfold sl_ at l2
                have e1 := Int.mul_comm (B i2) (A (4 + m))
                omega
            · refine Or.inl (be_none hb hk2 hk1 ?_ _ (by omega))
              intro x' y' d' f' t'
              obtain ⟨g1, g2⟩ := al_btw hN (fun i _ hS => f'.2 i hS) al pl ph t'
              exact hlh (al_gap pl ph f'.1 g1 g2)
          · refine Or.inl (be_none hb hk2 hk1 ?_ _ (by omega))
            intro x' y' d' f' t'
            refine hp (fun i hi hS hz0 => ?_)
            have := (ln_le (j := i) hN t').mp (f'.2 i hS)
            rw [hz0, Int.zero_mul, Int.mul_comm] at this
            exact (sg_ge f'.1).mp this
end
end
section
/-! meeting points, primitive triples -/
def g3_ (x y d : Int) : Nat := Nat.gcd y.natAbs (Nat.gcd x.natAbs d.natAbs)
def pr_ (x y d : Int) : Prop := 0 < d ∧ g3_ x y d = 1
/-- the same point -/
def eq_ (x y d x' y' d' : Int) : Prop := x * d' = x' * d ∧ y * d' = y' * d
theorem eq_symm {x y d x' y' d' : Int} (h : eq_ x y d x' y' d') : eq_ x' y' d' x y d := ⟨h.1.symm, h.2.symm⟩
theorem cn_ {g a b : Int} (hg : 0 < g) (h : g * a = g * b) : a = b := by
  have : g * (a - b) = 0 := by rw [Int.mul_sub]; omega
  have := (sg_eq hg).mp this
  omega
theorem eq_trans {x y d x' y' d' x2 y2 d2 : Int} (hd : 0 < d') (h : eq_ x y d x' y' d') (g : eq_ x' y' d' x2 y2 d2) : eq_ x y d x2 y2 d2 := by
  obtain ⟨h1, h2⟩ := h
  obtain ⟨g1, g2⟩ := g
  constructor
  · apply cn_ hd
    have e1 : d' * (x * d2) = (x * d') * d2 := by grind
    have e2 : d' * (x2 * d) = (x2 * d') * d := by grind
    rw [e1, e2, h1, ← g1]
    grind
  · apply cn_ hd
    have e1 : d' * (y * d2) = (y * d') * d2 := by grind
    have e2 : d' * (y2 * d) = (y2 * d') * d := by grind
    rw [e1, e2, h2, ← g2]
    grind
theorem eq_lin {x y d x' y' d' : Int} (h : eq_ x y d x' y' d') (p q r : Int) : d * (p * x' + q * y' - r * d') = d' * (p * x + q * y - r * d) := by
  obtain ⟨h1, h2⟩ := h
  have e1 : d * (p * x' + q * y' - r * d') = p * (x' * d) + q * (y' * d) - r * d * d' := by grind
  rw [e1, ← h1, ← h2]
  grind
section
variable {A B C : Nat → Int} {S : Nat → Prop}
theorem ti_tr {x y d x' y' d' : Int} (hd : 0 < d) (h : eq_ x y d x' y' d') {j : Nat} (t : ti_ A B C j x y d) : ti_ A B C j x' y' d' := by
  unfold ti_ at *
  have e := eq_lin h (A j) (B j) (C j)
  have z : A j * x + B j * y - C j * d = 0 := by omega
  rw [z, Int.mul_zero] at e
  have := (sg_eq hd).mp e
  omega
theorem fe_tr {x y d x' y' d' : Int} (hd : 0 < d') (h : eq_ x y d x' y' d') (t : fe_ A B C S x y d) : fe_ A B C S x' y' d' := by
  refine ⟨hd, fun j hj => ?_⟩
  have e := eq_lin h (A j) (B j) (C j)
  have z : A j * x + B j * y - C j * d ≤ 0 := by have := t.2 j hj; omega
  have z2 := (sg_le hd).mpr z
  have := (sg_le (z := A j * x' + B j * y' - C j * d') t.1).mp (by omega)
  omega
theorem ve_tr {x y d x' y' d' : Int} (hd : 0 < d') (h : eq_ x y d x' y' d') (t : ve_ A B C S x y d) : ve_ A B C S x' y' d' := by
  obtain ⟨f, i, j, hi, hj, hn, ti, tj⟩ := t
  exact ⟨fe_tr hd h f, i, j, hi, hj, hn, ti_tr f.1 h ti, ti_tr f.1 h tj⟩
/-- Cramer -/
theorem cr_ {a b c p q r x y d : Int} (h : a * x + b * y = c * d) (g : p * x + q * y = r * d) : x * (a * q - p * b) = (c * q - r * b) * d ∧ y * (a * q - p * b) = (a * r - p * c) * d := by
  constructor
  · have e : (c * q - r * b) * d = (c * d) * q - (r * d) * b := by grind
    rw [e, ← h, ← g]
    grind
  · have e : (a * r - p * c) * d = a * (r * d) - p * (c * d) := by grind
    rw [e, ← h, ← g]
    grind
theorem ti_uniq {i j : Nat} {x y d x' y' d' : Int} (hn : A i * B j - A j * B i ≠ 0) (h1 : ti_ A B C i x y d) (h2 : ti_ A B C j x y d) (g1 : ti_ A B C i x' y' d') (g2 : ti_ A B C j x' y' d') : eq_ x y d x' y' d' := by
  obtain ⟨e1, e2⟩ := cr_ h1 h2
  obtain ⟨f1, f2⟩ := cr_ g1 g2
  generalize A i * B j - A j * B i = D at *
  constructor
  · have : D * (x * d' - x' * d) = 0 := by
      have z : D * (x * d' - x' * d) = (x * D) * d' - (x' * D) * d := by grind
      rw [z, e1, f1]
      grind
    rcases Int.mul_eq_zero.mp this with z | z
    · exact absurd z hn
    · omega
  · have : D * (y * d' - y' * d) = 0 := by
      have z : D * (y * d' - y' * d) = (y * D) * d' - (y' * D) * d := by grind
      rw [z, e2, f2]
      grind
    rcases Int.mul_eq_zero.mp this with z | z
    · exact absurd z hn
    · omega
theorem g3_mul (k x y d : Int) : g3_ (k * x) (k * y) (k * d) = k.natAbs * g3_ x y d := by
  unfold g3_
  rw [Int.natAbs_mul, Int.natAbs_mul, Int.natAbs_mul, Nat.gcd_mul_left, Nat.gcd_mul_left]
theorem g3_pos {x y d : Int} (hd : 0 < d) : 0 < g3_ x y d := Nat.gcd_pos_of_pos_right _ (Nat.gcd_pos_of_pos_right _ (by omega))
/-- a triple is a multiple of the primitive one of the same point -/
theorem pr_div {x y d x' y' d' : Int} (hd : 0 < d) (p : pr_ x' y' d') (h : eq_ x y d x' y' d') : ∃ g : Int, 0 < g ∧ g = g3_ x y d ∧ x = g * x' ∧ y = g * y' ∧ d = g * d' := by
  obtain ⟨hd', hp⟩ := p
  have e1 := g3_mul d x' y' d'
  have e2 := g3_mul d' x y d
  have z1 : d * x' = d' * x := by rw [Int.mul_comm d, Int.mul_comm d']; exact h.1.symm
  have z2 : d * y' = d' * y := by rw [Int.mul_comm d, Int.mul_comm d']; exact h.2.symm
  have z3 : d * d' = d' * d := Int.mul_comm _ _
  rw [z1, z2, z3, e2, hp, Nat.mul_one] at e1
  have hg := g3_pos (x := x) (y := y) hd
  have e3 : d = g3_ x y d * d' := by
    have : ((d'.natAbs * g3_ x y d : Nat) : Int) = (d.natAbs : Int) := by rw [e1]
    rw [Int.natCast_mul, Int.natAbs_of_nonneg (by omega), Int.natAbs_of_nonneg (by omega), Int.mul_comm] at this
    exact this.symm
  refine ⟨(g3_ x y d : Int), by omega, rfl, ?_, ?_, e3⟩
  · apply cn_ hd'
    rw [← z1]
    generalize (g3_ x y d : Int) = g at *
    rw [e3]
    grind
  · apply cn_ hd'
    rw [← z2]
    generalize (g3_ x y d : Int) = g at *
    rw [e3]
    grind
theorem pr_uniq {x y d x' y' d' : Int} (p : pr_ x y d) (p' : pr_ x' y' d') (h : eq_ x y d x' y' d') : x = x' ∧ y = y' ∧ d = d' := by
  obtain ⟨g, hg, e, e1, e2, e3⟩ := pr_div p.1 p' h
  rw [p.2] at e
  have : g = 1 := by omega
  subst this
  omega
/-- dividing by the greatest common divisor -/
theorem pr_nrm {x y d : Int} (hd : 0 < d) : pr_ (x.tdiv (g3_ x y d)) (y.tdiv (g3_ x y d)) (d.tdiv (g3_ x y d)) ∧ x = g3_ x y d * x.tdiv (g3_ x y d) ∧ y = g3_ x y d * y.tdiv (g3_ x y d) ∧ d = g3_ x y d * d.tdiv (g3_ x y d) := by
  have hg := g3_pos (x := x) (y := y) hd
  have d1 : g3_ x y d ∣ y.natAbs := Nat.gcd_dvd_left _ _
  have d0 : g3_ x y d ∣ Nat.gcd x.natAbs d.natAbs := Nat.gcd_dvd_right _ _
  have d2 : g3_ x y d ∣ x.natAbs := Nat.dvd_trans d0 (Nat.gcd_dvd_left _ _)
  have d3 : g3_ x y d ∣ d.natAbs := Nat.dvd_trans d0 (Nat.gcd_dvd_right _ _)
  have key : ∀ z : Int, g3_ x y d ∣ z.natAbs → z = g3_ x y d * z.tdiv (g3_ x y d) := by
    intro z hz
    have : (g3_ x y d : Int) ∣ z := Int.ofNat_dvd_left.mpr hz
    exact (Int.mul_tdiv_cancel' this).symm
  have k1 := key x d2
  have k2 := key y d1
  have k3 := key d d3
  refine ⟨⟨?_, ?_⟩, k1, k2, k3⟩
  · exact (sg_lt (n := (g3_ x y d : Int)) (by omega)).mp (by omega)
  · have e := g3_mul (g3_ x y d) (x.tdiv (g3_ x y d)) (y.tdiv (g3_ x y d)) (d.tdiv (g3_ x y d))
    rw [← k1, ← k2, ← k3, Int.natAbs_natCast] at e
    have : g3_ x y d * 1 = g3_ x y d * g3_ (x.tdiv (g3_ x y d)) (y.tdiv (g3_ x y d)) (d.tdiv (g3_ x y d)) := by rw [Nat.mul_one]; exact e
    exact (Nat.eq_of_mul_eq_mul_left hg this).symm
theorem eq_mul {g x y d : Int} : eq_ (g * x) (g * y) (g * d) x y d := by
  constructor <;> grind
/-- bounds of the borders' numbers -/
def bb_ (A B C : Nat → Int) : Prop := ∀ j, j < 14 → bo_ 9 (A j) ∧ bo_ 9 (B j) ∧ bo_ 99 (C j)
theorem bb_det {a b p q : Int} (ha : bo_ 9 a) (hb : bo_ 9 b) (hp : bo_ 9 p) (hq : bo_ 9 q) : bo_ 162 (a * q - p * b) := bo_le (bo_sub (bo_mul ha hq) (bo_mul hp hb)) (by decide)
theorem bb_num {a b p q : Int} (ha : bo_ 9 a) (hb : bo_ 9 b) (hp : bo_ 99 p) (hq : bo_ 99 q) : bo_ 1782 (a * q - b * p) := bo_le (bo_sub (bo_mul ha hq) (bo_mul hb hp)) (by decide)
theorem ve_sq {x y d : Int} (hq : sq_ A B C) (hS : ∀ i, i < 4 → S i) (h : fe_ A B C S x y d) : (x ≤ 20 * d ∧ -(20 * d) ≤ x) ∧ y ≤ 20 * d ∧ -(20 * d) ≤ y := by
  obtain ⟨⟨a0, b0, c0'⟩, ⟨a1, b1, c1'⟩, ⟨a2, b2, c2'⟩, a3, b3, c3'⟩ := hq
  have g0 := h.2 0 (hS 0 (by omega))
  have g1 := h.2 1 (hS 1 (by omega))
  have g2 := h.2 2 (hS 2 (by omega))
  have g3 := h.2 3 (hS 3 (by omega))
  rw [a0, b0, c0'] at g0
  rw [a1, b1, c1'] at g1
  rw [a2, b2, c2'] at g2
  rw [a3, b3, c3'] at g3
  omega
/-- a primitive vertex is small -/
theorem ve_small {x y d : Int} (hq : sq_ A B C) (hb : bb_ A B C) (hS : ∀ i, i < 4 → S i) (h14 : ∀ i, S i → i < 14) (p : pr_ x y d) (h : ve_ A B C S x y d) : d ≤ 162 ∧ bo_ 3240 x ∧ bo_ 3240 y := by
  have hsq := ve_sq hq hS h.1
  obtain ⟨f, i, j, hi, hj, hn, ti, tj⟩ := h
  obtain ⟨e1, e2⟩ := cr_ ti tj
  have hD := bb_det (hb i (h14 i hi)).1 (hb i (h14 i hi)).2.1 (hb j (h14 j hj)).1 (hb j (h14 j hj)).2.1
  generalize A i * B j - A j * B i = D at *
  generalize C i * B j - C j * B i = X at *
  generalize A i * C j - A j * C i = Y at *
  have hd : d ≤ 162 := by
    rcases Int.lt_or_le 0 D with z | z
    · obtain ⟨g, hg, _, _, _, e⟩ := pr_div (x := X) (y := Y) z p ⟨by rw [e1], by rw [e2]⟩
      have h1 : D ≤ 162 := hD.2
      have := Int.mul_le_mul_of_nonneg_right (show 1 ≤ g by omega) (Int.le_of_lt p.1)
      omega
    · obtain ⟨g, hg, _, _, _, e⟩ := pr_div (x := -X) (y := -Y) (d := -D) (by omega) p ⟨by rw [Int.neg_mul, Int.mul_neg, e1], by rw [Int.neg_mul, Int.mul_neg, e2]⟩
      have h1 : -162 ≤ D := hD.1
      have := Int.mul_le_mul_of_nonneg_right (show 1 ≤ g by omega) (Int.le_of_lt p.1)
      omega
  refine ⟨hd, ?_, ?_⟩ <;> unfold bo_ <;> omega
end
end
section
/-! the outline: corners in order -/
def dt_ (p q r : Int × Int × Int) : Int := p.1 * (q.2.1 * r.2.2 - q.2.2 * r.2.1) - p.2.1 * (q.1 * r.2.2 - q.2.2 * r.1) + p.2.2 * (q.1 * r.2.1 - q.2.1 * r.1)
def gv_ (A B C : Nat → Int) (k : Nat) (p : Int × Int × Int) : Int := C k * p.2.2 - A k * p.1 - B k * p.2.1
/-- p lies strictly between u and w (or all three are one point) -/
def mx_ (p u w : Int × Int × Int) : Prop := ∃ g t s : Int, 0 < g ∧ 0 < t ∧ 0 < s ∧ g * p.1 = t * u.1 + s * w.1 ∧ g * p.2.1 = t * u.2.1 + s * w.2.1 ∧ g * p.2.2 = t * u.2.2 + s * w.2.2
theorem mx_self (p : Int × Int × Int) : mx_ p p p := ⟨2, 1, 1, by omega, by omega, by omega, by omega, by omega, by omega⟩
theorem dt_cyc (p q r : Int × Int × Int) : dt_ p q r = dt_ q r p := by
  unfold dt_
  grind
theorem dt_swap (p q r : Int × Int × Int) : dt_ p r q = -dt_ p q r := by
  unfold dt_
  grind
theorem dt_aab (p r : Int × Int × Int) : dt_ p p r = 0 := by
  unfold dt_
  grind
theorem dt_abb (p r : Int × Int × Int) : dt_ p r r = 0 := by
  unfold dt_
  grind
theorem dt_aba (p r : Int × Int × Int) : dt_ p r p = 0 := by
  unfold dt_
  grind
theorem id_dt {g t s a b c a1 b1 c1 a2 b2 c2 x y z : Int} (h1 : g * a = t * a1 + s * a2) (h2 : g * b = t * b1 + s * b2) (h3 : g * c = t * c1 + s * c2) : g * (a * x - b * y + c * z) = t * (a1 * x - b1 * y + c1 * z) + s * (a2 * x - b2 * y + c2 * z) := by
  have e : g * (a * x - b * y + c * z) = (g * a) * x - (g * b) * y + (g * c) * z := by grind
  rw [e, h1, h2, h3]
  grind
theorem dt_mx {p u w : Int × Int × Int} (h : mx_ p u w) (q r : Int × Int × Int) (h1 : 0 ≤ dt_ u q r) (h2 : 0 ≤ dt_ w q r) : 0 ≤ dt_ p q r ∧ (0 < dt_ u q r ∨ 0 < dt_ w q r → 0 < dt_ p q r) := by
  obtain ⟨g, t, s, hg, ht, hs, e1, e2, e3⟩ := h
  have e : g * dt_ p q r = t * dt_ u q r + s * dt_ w q r := id_dt e1 e2 e3
  have m1 := Int.mul_nonneg (Int.le_of_lt ht) h1
  have m2 := Int.mul_nonneg (Int.le_of_lt hs) h2
  constructor
  · exact (sg_ge hg).mp (by omega)
  · intro z
    rcases z with z | z
    · have := Int.mul_pos ht z
      exact (sg_lt hg).mp (by omega)
    · have := Int.mul_pos hs z
      exact (sg_lt hg).mp (by omega)
theorem gv_mx {A B C : Nat → Int} {k : Nat} {p u w : Int × Int × Int} {g t s : Int} (e1 : g * p.1 = t * u.1 + s * w.1) (e2 : g * p.2.1 = t * u.2.1 + s * w.2.1) (e3 : g * p.2.2 = t * u.2.2 + s * w.2.2) : g * gv_ A B C k p = t * gv_ A B C k u + s * gv_ A B C k w := by
  unfold gv_
  have e : g * (C k * p.2.2 - A k * p.1 - B k * p.2.1) = C k * (g * p.2.2) - A k * (g * p.1) - B k * (g * p.2.1) := by grind
  rw [e, e1, e2, e3]
  grind
/-- the corner behind corner i -/
def nx_ (m i : Nat) : Nat := if i + 1 < m then i + 1 else 0
/-- corners 0 .. m, corner m being corner 0 again -/
def ex_ (m : Nat) (V : Nat → Int × Int × Int) (i : Nat) : Int × Int × Int := if i < m then V i else V 0
theorem ex_lt {m : Nat} {V : Nat → Int × Int × Int} {i : Nat} (h : i < m) : ex_ m V i = V i := if_pos h
theorem ex_m {m : Nat} {V : Nat → Int × Int × Int} : ex_ m V m = V 0 := if_neg (Nat.lt_irrefl m)
theorem ex_nx {m : Nat} {V : Nat → Int × Int × Int} {i : Nat} (h : i < m) : ex_ m V (i + 1) = V (nx_ m i) := by
  unfold ex_ nx_
  by_cases z : i + 1 < m
  · rw [if_pos z, if_pos z]
  · rw [if_neg z, if_neg z]
/-- V 0 .. V (m-1) are the vertices of what S allows, in order, as primitive triples -/
def po_ (A B C : Nat → Int) (S : Nat → Prop) (m : Nat) (V : Nat → Int × Int × Int) : Prop :=
  (∀ a, a < m → pr_ (V a).1 (V a).2.1 (V a).2.2 ∧ ve_ A B C S (V a).1 (V a).2.1 (V a).2.2) ∧
  (∀ x y d, ve_ A B C S x y d → ∃ a, a < m ∧ eq_ (V a).1 (V a).2.1 (V a).2.2 x y d) ∧
  (∀ a b, a < b → b < m → V a ≠ V b) ∧
  (∀ a b c, a < b → b < c → c < m → 0 < dt_ (V a) (V b) (V c))
section
variable {A B C : Nat → Int} {S : Nat → Prop} {m : Nat} {V : Nat → Int × Int × Int}
theorem ex_dt (h : ∀ a b c, a < b → b < c → c < m → 0 < dt_ (V a) (V b) (V c)) {a b c : Nat} (hab : a ≤ b) (hbc : b ≤ c) (hc : c ≤ m) : 0 ≤ dt_ (ex_ m V a) (ex_ m V b) (ex_ m V c) ∧ (a < b → b < c → ¬ (a = 0 ∧ c = m) → 0 < dt_ (ex_ m V a) (ex_ m V b) (ex_ m V c)) := by
  by_cases e1 : a = b
  · subst e1
    rw [dt_aab]
    exact ⟨Int.le_refl _, fun z => absurd z (Nat.lt_irrefl _)⟩
  by_cases e2 : b = c
  · subst e2
    rw [dt_abb]
    exact ⟨Int.le_refl _, fun _ z => absurd z (Nat.lt_irrefl _)⟩
  rcases Nat.lt_or_ge c m with z | z
  · rw [ex_lt z, ex_lt (show a < m by omega), ex_lt (show b < m by omega)]
    have := h a b c (by omega) (by omega) z
    exact ⟨Int.le_of_lt this, fun _ _ _ => this⟩
  · have e3 : c = m := by omega
    subst e3
    rw [ex_m, ex_lt (show a < c by omega), ex_lt (show b < c by omega), ← dt_cyc]
    by_cases e4 : a = 0
    · subst e4
      rw [dt_aab]
      exact ⟨Int.le_refl _, fun _ _ z => absurd ⟨rfl, rfl⟩ z⟩
    · have := h 0 a b (by omega) (by omega) (by omega)
      exact ⟨Int.le_of_lt this, fun _ _ _ => this⟩
/-- every corner lies to the left of every edge -/
theorem ex_edge (h : ∀ a b c, a < b → b < c → c < m → 0 < dt_ (V a) (V b) (V c)) {i a : Nat} (hi : i < m) (ha : a < m) : 0 ≤ dt_ (V i) (V (nx_ m i)) (V a) := by
  rw [← ex_nx (V := V) hi, ← ex_lt (V := V) hi, ← ex_lt (V := V) ha]
  rcases Nat.lt_or_ge i a with z | z
  · exact (ex_dt h (by omega) (by omega) (by omega)).1
  · rw [← dt_cyc]
    exact (ex_dt h z (by omega) (by omega)).1
/-- a linear form that isn't negative at the corners is nowhere negative -/
theorem po_hull {n o : Nat} (hq : sq_ A B C) (ho : 4 ≤ o) (h : po_ A B C (ss_ (4 + n) o) m V) {p q r : Int} (g : ∀ a, a < m → 0 ≤ p * (V a).1 + q * (V a).2.1 + r * (V a).2.2) {x y d : Int} (f : fe_ A B C (ss_ (4 + n) o) x y d) : 0 ≤ p * x + q * y + r * d := by
  rcases be_ex ho hq (-p) (-q) n with e | ⟨x', y', d', hb, hv⟩
  · exact absurd f (e x y d)
  · obtain ⟨a, ha, ea⟩ := h.2.1 x' y' d' hv
    have h1 := eq_lin ea p q (-r)
    have h2 := Int.mul_nonneg (Int.le_of_lt hv.1.1) (g a ha)
    have h3 := ((h.1 a ha).1).1
    have e1 : p * (V a).1 + q * (V a).2.1 - -r * (V a).2.2 = p * (V a).1 + q * (V a).2.1 + r * (V a).2.2 := by rw [Int.neg_mul]; omega
    rw [e1] at h1
    have h4 : 0 ≤ p * x' + q * y' - -r * d' := (sg_ge h3).mp (by omega)
    have h5 := hb.2 x y d f
    have h6 := Int.mul_nonneg h4 (Int.le_of_lt f.1)
    have e2 : d' * (p * x + q * y + r * d) = ((-p * x' + -q * y') * d - (-p * x + -q * y) * d') + (p * x' + q * y' - -r * d') * d := by grind
    exact (sg_ge hb.1.1).mp (by omega)
theorem nn_sq {a x : Int} (h : bo_ 9 a) : 0 ≤ 9 * (x * x) + a * x := by
  have e : 9 * (x * x) + a * x = x * (9 * x + a) := by grind
  obtain ⟨h1, h2⟩ := h
  rw [e]
  rcases Int.lt_trichotomy x 0 with z | z | z
  · exact Int.mul_nonneg_of_nonpos_of_nonpos (by omega) (by omega)
  · rw [z]; omega
  · exact Int.mul_nonneg (by omega) (by omega)
/-- neighbours share a border -/
theorem po_share {n o : Nat} (hq : sq_ A B C) (hb : bb_ A B C) (ho : 4 ≤ o) (hn : n ≤ 10) (h : po_ A B C (ss_ (4 + n) o) m V) {i : Nat} (hi : i < m)
    (hne : ¬ ((V i).2.1 * (V (nx_ m i)).2.2 - (V i).2.2 * (V (nx_ m i)).2.1 = 0 ∧ (V i).2.2 * (V (nx_ m i)).1 - (V i).1 * (V (nx_ m i)).2.2 = 0)) :
    ∃ L, ss_ (4 + n) o L ∧ ¬ (A L = 0 ∧ B L = 0) ∧ ti_ A B C L (V i).1 (V i).2.1 (V i).2.2 ∧ ti_ A B C L (V (nx_ m i)).1 (V (nx_ m i)).2.1 (V (nx_ m i)).2.2 := by
  have hj : nx_ m i < m := by unfold nx_; split <;> omega
  have hE : ∀ a, a < m → 0 ≤ dt_ (V i) (V (nx_ m i)) (V a) := fun a ha => ex_edge h.2.2.2 hi ha
  have fu := (h.1 i hi).2.1
  have fw := (h.1 _ hj).2.1
  apply Classical.byContradiction
  intro hc
  have hE2 : ∀ x y d, fe_ A B C (ss_ (4 + n) o) x y d → 0 ≤ dt_ (V i) (V (nx_ m i)) (x, y, d) := by
    intro x y d f
    have := po_hull hq ho h (p := (V i).2.1 * (V (nx_ m i)).2.2 - (V i).2.2 * (V (nx_ m i)).2.1) (q := (V i).2.2 * (V (nx_ m i)).1 - (V i).1 * (V (nx_ m i)).2.2) (r := (V i).1 * (V (nx_ m i)).2.1 - (V i).2.1 * (V (nx_ m i)).1) (fun a ha => by
      have := hE a ha
      have e : dt_ (V i) (V (nx_ m i)) (V a) = ((V i).2.1 * (V (nx_ m i)).2.2 - (V i).2.2 * (V (nx_ m i)).2.1) * (V a).1 + ((V i).2.2 * (V (nx_ m i)).1 - (V i).1 * (V (nx_ m i)).2.2) * (V a).2.1 + ((V i).1 * (V (nx_ m i)).2.1 - (V i).2.1 * (V (nx_ m i)).1) * (V a).2.2 := by unfold dt_; grind
      rw [← e]
      exact this) f
    have e : dt_ (V i) (V (nx_ m i)) (x, y, d) = ((V i).2.1 * (V (nx_ m i)).2.2 - (V i).2.2 * (V (nx_ m i)).2.1) * x + ((V i).2.2 * (V (nx_ m i)).1 - (V i).1 * (V (nx_ m i)).2.2) * y + ((V i).1 * (V (nx_ m i)).2.1 - (V i).2.1 * (V (nx_ m i)).1) * d := by unfold dt_; grind
    rw [e]
    exact this
  generalize V i = u at *
  generalize V (nx_ m i) = w at *
  obtain ⟨x1, y1, d1⟩ := u
  obtain ⟨x2, y2, d2⟩ := w
  dsimp only at *
  have hp := sq_pos hne
  have key : ∀ a b : Int, a = y1 * d2 - d1 * y2 → b = d1 * x2 - x1 * d2 → False := by
    intro a b ea eb
    rw [← ea, ← eb] at hp
    have haa : 0 ≤ a * a := by
      rcases Int.le_total 0 a with z | z
      · exact Int.mul_nonneg z z
      · exact Int.mul_nonneg_of_nonpos_of_nonpos z z
    have hbb : 0 ≤ b * b := by
      rcases Int.le_total 0 b with z | z
      · exact Int.mul_nonneg z z
      · exact Int.mul_nonneg_of_nonpos_of_nonpos z z
    have f : fe_ A B C (ss_ (4 + n) o) ((9 * (a * a) + 9 * (b * b) + 1) * (x1 + x2) - a) ((9 * (a * a) + 9 * (b * b) + 1) * (y1 + y2) - b) ((9 * (a * a) + 9 * (b * b) + 1) * (d1 + d2)) := by
      refine ⟨Int.mul_pos (by omega) (by have := fu.1; have := fw.1; omega), fun j hj => ?_⟩
      have g1 := fu.2 j hj
      have g2 := fw.2 j hj
      obtain ⟨ba, bb, bc⟩ := hb j (by have := hj.1; omega)
      have q1 := nn_sq (x := a) ba
      have q2 := nn_sq (x := b) bb
      have e : A j * ((9 * (a * a) + 9 * (b * b) + 1) * (x1 + x2) - a) + B j * ((9 * (a * a) + 9 * (b * b) + 1) * (y1 + y2) - b) - C j * ((9 * (a * a) + 9 * (b * b) + 1) * (d1 + d2)) = (9 * (a * a) + 9 * (b * b) + 1) * ((A j * x1 + B j * y1 - C j * d1) + (A j * x2 + B j * y2 - C j * d2)) - A j * a - B j * b := by grind
      by_cases hz : A j = 0 ∧ B j = 0
      · have := Int.mul_nonneg (show 0 ≤ 9 * (a * a) + 9 * (b * b) + 1 by omega) (show 0 ≤ -((A j * x1 + B j * y1 - C j * d1) + (A j * x2 + B j * y2 - C j * d2)) by omega)
        rw [Int.mul_neg] at this
        have z1 : A j * a = 0 := by rw [hz.1, Int.zero_mul]
        have z2 : B j * b = 0 := by rw [hz.2, Int.zero_mul]
        omega
      · have hs : 0 < -((A j * x1 + B j * y1 - C j * d1) + (A j * x2 + B j * y2 - C j * d2)) := by
          rcases Int.lt_or_le 0 (-((A j * x1 + B j * y1 - C j * d1) + (A j * x2 + B j * y2 - C j * d2))) with z | z
          · exact z
          · exact absurd ⟨j, hj, hz, by unfold ti_; omega, by unfold ti_; omega⟩ hc
        have := Int.mul_le_mul_of_nonneg_left (show 1 ≤ -((A j * x1 + B j * y1 - C j * d1) + (A j * x2 + B j * y2 - C j * d2)) by omega) (show 0 ≤ 9 * (a * a) + 9 * (b * b) + 1 by omega)
        rw [Int.mul_neg, Int.mul_one] at this
        omega
    have := hE2 _ _ _ f
    have e : dt_ (x1, y1, d1) (x2, y2, d2) ((9 * (a * a) + 9 * (b * b) + 1) * (x1 + x2) - a, (9 * (a * a) + 9 * (b * b) + 1) * (y1 + y2) - b, (9 * (a * a) + 9 * (b * b) + 1) * (d1 + d2)) = -((y1 * d2 - d1 * y2) * a + (d1 * x2 - x1 * d2) * b) := by
      unfold dt_
      dsimp only
      generalize 9 * (a * a) + 9 * (b * b) + 1 = K
      grind
    rw [e, ← ea, ← eb] at this
    omega
  exact key _ _ rfl rfl
/-- a point on a border lies between two vertices on that border -/
theorem fc_ends {n o i : Nat} (hq : sq_ A B C) (ho : 4 ≤ o) (hi : ss_ (4 + n) o i) (hz : ¬ (A i = 0 ∧ B i = 0)) {x y d : Int} (f : fe_ A B C (ss_ (4 + n) o) x y d) (t : ti_ A B C i x y d) :
    ∃ x1 y1 d1 x2 y2 d2, ve_ A B C (ss_ (4 + n) o) x1 y1 d1 ∧ ti_ A B C i x1 y1 d1 ∧ ve_ A B C (ss_ (4 + n) o) x2 y2 d2 ∧ ti_ A B C i x2 y2 d2 ∧ (B i * x1 - A i * y1) * d ≤ (B i * x - A i * y) * d1 ∧ (B i * x - A i * y) * d2 ≤ (B i * x2 - A i * y2) * d := by
  have hN := sq_pos hz
  have hp : ∀ j, j < 4 + n → ss_ (4 + n) o j → sl_ A B i j = 0 → 0 ≤ li_ A B C i j := by
    intro j _ hS hz0
    have := (ln_le (j := j) hN t).mp (f.2 j hS)
    rw [hz0, Int.zero_mul, Int.mul_comm] at this
    exact (sg_ge f.1).mp this
  obtain ⟨ht, hb, h1⟩ := cp_ex (S := ss_ (4 + n) o) (sl_ A B i) (li_ A B C i) (4 + n)
  obtain ⟨lt, lb, h2⟩ := cp_ex (S := ss_ (4 + n) o) (fun j => -sl_ A B i j) (li_ A B C i) (4 + n)
  have al : al_ A B C (ss_ (4 + n) o) i (4 + n) (-lt) lb ht hb := ⟨hp, h1, by rw [Int.neg_neg]; exact h2⟩
  obtain ⟨pl, ph⟩ := al_sq hq hN (by omega) (fun j hj => ⟨by omega, by omega⟩) al
  obtain ⟨g1, g2⟩ := al_btw hN (fun j _ hS => f.2 j hS) al pl ph t
  obtain ⟨⟨f1, i1, s1, l1, t1⟩, f2, i2, s2, l2, t2⟩ := al_end hN (fun j hj => hj.1) al pl ph (al_gap pl ph f.1 g1 g2)
  refine ⟨_, _, _, _, _, _, ⟨f2, i, i2, hi, s2, ?_, pt_ti _ _ _, t2⟩, pt_ti _ _ _, ⟨f1, i, i1, hi, s1, ?_, pt_ti _ _ _, t1⟩, pt_ti _ _ _, ?_, ?_⟩
  · unfold sl_ at l2
    have e1 := Int.mul_comm (B i2) (A i)
    omega
  · unfold sl_ at l1
    have e1 := Int.mul_comm (B i1) (A i)
    omega
  · rw [pt_t]
    have := Int.mul_le_mul_of_nonneg_left g2 (Int.le_of_lt hN)
    grind
  · rw [pt_t]
    have := Int.mul_le_mul_of_nonneg_left g1 (Int.le_of_lt hN)
    grind
theorem id_side (a b c x1 y1 d1 x2 y2 d2 x y d : Int) (h1 : a * x1 + b * y1 = c * d1) (h2 : a * x2 + b * y2 = c * d2) : (a * a + b * b) * dt_ (x1, y1, d1) (x2, y2, d2) (x, y, d) = ((b * x2 - a * y2) * d1 - (b * x1 - a * y1) * d2) * (a * x + b * y - c * d) := by
  unfold dt_
  dsimp only
  grind
/-- two corners on one border are neighbours -/
theorem po_adj {n o i : Nat} (h : po_ A B C (ss_ (4 + n) o) m V) (hi : ss_ (4 + n) o i) (hz : ¬ (A i = 0 ∧ B i = 0)) {a b : Nat} (hab : a < b) (hb : b < m) (ta : ti_ A B C i (V a).1 (V a).2.1 (V a).2.2) (tb : ti_ A B C i (V b).1 (V b).2.1 (V b).2.2) : b = nx_ m a ∨ a = nx_ m b := by
  have hN := sq_pos hz
  have key : ∀ c, c < m → (A i * A i + B i * B i) * dt_ (V a) (V b) (V c) = ((B i * (V b).1 - A i * (V b).2.1) * (V a).2.2 - (B i * (V a).1 - A i * (V a).2.1) * (V b).2.2) * (A i * (V c).1 + B i * (V c).2.1 - C i * (V c).2.2) := fun c hc => id_side (A i) (B i) (C i) _ _ _ _ _ _ _ _ _ ta tb
  have hle : ∀ c, c < m → A i * (V c).1 + B i * (V c).2.1 - C i * (V c).2.2 ≤ 0 := fun c hc => by
    have := (h.1 c hc).2.1.2 i hi
    omega
  generalize (B i * (V b).1 - A i * (V b).2.1) * (V a).2.2 - (B i * (V a).1 - A i * (V a).2.1) * (V b).2.2 = T at key
  by_cases hm : b = a + 1
  · left
    unfold nx_
    rw [if_pos (by omega)]
    exact hm
  by_cases hw : a = 0 ∧ b + 1 = m
  · right
    unfold nx_
    rw [if_neg (by omega)]
    exact hw.1
  exfalso
  have n1 : dt_ (V a) (V b) (V (a + 1)) < 0 := by
    have := h.2.2.2 a (a + 1) b (by omega) (by omega) hb
    rw [dt_swap]
    omega
  have n2 : ∃ c, c < m ∧ 0 < dt_ (V a) (V b) (V c) := by
    by_cases z : a = 0
    · exact ⟨b + 1, by omega, h.2.2.2 a b (b + 1) hab (by omega) (by omega)⟩
    · refine ⟨0, by omega, ?_⟩
      rw [← dt_cyc]
      exact h.2.2.2 0 a b (by omega) hab hb
  obtain ⟨c, hc, n2⟩ := n2
  have k1 := key (a + 1) (by omega)
  have k2 := key c hc
  have l1 := hle (a + 1) (by omega)
  have l2 := hle c hc
  have m1 : T * (A i * (V (a + 1)).1 + B i * (V (a + 1)).2.1 - C i * (V (a + 1)).2.2) < 0 := by
    have := (sg_ge (z := dt_ (V a) (V b) (V (a + 1))) hN)
    omega
  have m2 : 0 < T * (A i * (V c).1 + B i * (V c).2.1 - C i * (V c).2.2) := by
    have := (sg_lt (z := dt_ (V a) (V b) (V c)) hN)
    omega
  rcases Int.le_total 0 T with z | z
  · have := Int.mul_nonneg z (show 0 ≤ -(A i * (V c).1 + B i * (V c).2.1 - C i * (V c).2.2) by omega)
    rw [Int.mul_neg] at this
    omega
  · have := Int.mul_nonneg_of_nonpos_of_nonpos z l1
    omega
end
end
section
/-! clipping the outline by one more border -/
def xs_ (h t : Int) : Prop := (0 < h ∧ t < 0) ∨ (h < 0 ∧ 0 < t)
def ab_ (x : Int) : Int := if 0 ≤ x then x else -x
def nr_ (x y d : Int) : Int × Int × Int := (x.tdiv (g3_ x y d), y.tdiv (g3_ x y d), d.tdiv (g3_ x y d))
def mt_ (h t : Int) (u w : Int × Int × Int) : Int × Int × Int := nr_ (u.1 * ab_ t + w.1 * ab_ h) (u.2.1 * ab_ t + w.2.1 * ab_ h) (u.2.2 * ab_ t + w.2.2 * ab_ h)
/-- code 2i: corner i is kept; code 2i+1: the new line crosses the edge behind corner i -/
def vd_ (A B C : Nat → Int) (k m : Nat) (V : Nat → Int × Int × Int) (c : Nat) : Prop := c < 2 * m ∧ ((c % 2 = 0 ∧ 0 ≤ gv_ A B C k (V (c / 2))) ∨ (c % 2 = 1 ∧ xs_ (gv_ A B C k (V (c / 2))) (gv_ A B C k (V (nx_ m (c / 2))))))
def pc_ (A B C : Nat → Int) (k m : Nat) (V : Nat → Int × Int × Int) (c : Nat) : Int × Int × Int := if c % 2 = 0 then V (c / 2) else mt_ (gv_ A B C k (V (c / 2))) (gv_ A B C k (V (nx_ m (c / 2)))) (V (c / 2)) (V (nx_ m (c / 2)))
/-- W 0 .. W (t-1): the points of the valid codes below cur, in order, without repeats -/
def cl_ (A B C : Nat → Int) (k m : Nat) (V : Nat → Int × Int × Int) (cur t : Nat) (W : Nat → Int × Int × Int) : Prop :=
  ∃ cd : Nat → Nat, (∀ a, a < t → vd_ A B C k m V (cd a) ∧ cd a < cur ∧ W a = pc_ A B C k m V (cd a)) ∧ (∀ a b, a < b → b < t → cd a < cd b) ∧ (∀ a b, a < b → b < t → W a ≠ W b) ∧ (∀ c, c < cur → vd_ A B C k m V c → ∃ a, a < t ∧ W a = pc_ A B C k m V c)
theorem ab_pos {x : Int} (h : x ≠ 0) : 0 < ab_ x := by unfold ab_; split <;> omega
theorem xs_ne {h t : Int} (x : xs_ h t) : h ≠ 0 ∧ t ≠ 0 := by unfold xs_ at x; omega
theorem xs_0 {h t : Int} (x : xs_ h t) : ab_ t * h + ab_ h * t = 0 := by
  unfold ab_
  rcases x with ⟨h1, h2⟩ | ⟨h1, h2⟩
  · rw [if_neg (by omega), if_pos (by omega), Int.neg_mul, Int.mul_comm]
    omega
  · rw [if_pos (by omega), if_neg (by omega), Int.neg_mul, Int.mul_comm]
    omega
theorem mt_sym (h t : Int) (u w : Int × Int × Int) : mt_ h t u w = mt_ t h w u := by
  unfold mt_
  rw [Int.add_comm (u.1 * ab_ t), Int.add_comm (u.2.1 * ab_ t), Int.add_comm (u.2.2 * ab_ t)]
theorem mt_ok {h t : Int} {u w : Int × Int × Int} (x : xs_ h t) (hu : 0 < u.2.2) (hw : 0 < w.2.2) : pr_ (mt_ h t u w).1 (mt_ h t u w).2.1 (mt_ h t u w).2.2 ∧ ∃ g : Int, 0 < g ∧ g * (mt_ h t u w).1 = ab_ t * u.1 + ab_ h * w.1 ∧ g * (mt_ h t u w).2.1 = ab_ t * u.2.1 + ab_ h * w.2.1 ∧ g * (mt_ h t u w).2.2 = ab_ t * u.2.2 + ab_ h * w.2.2 := by
  have p1 := ab_pos (xs_ne x).1
  have p2 := ab_pos (xs_ne x).2
  have hd : 0 < u.2.2 * ab_ t + w.2.2 * ab_ h := by
    have := Int.mul_pos hu p2
    have := Int.mul_pos hw p1
    omega
  obtain ⟨hp, e1, e2, e3⟩ := pr_nrm (x := u.1 * ab_ t + w.1 * ab_ h) (y := u.2.1 * ab_ t + w.2.1 * ab_ h) hd
  refine ⟨hp, (g3_ (u.1 * ab_ t + w.1 * ab_ h) (u.2.1 * ab_ t + w.2.1 * ab_ h) (u.2.2 * ab_ t + w.2.2 * ab_ h) : Int), ?_, ?_, ?_, ?_⟩
  · have := g3_pos (x := u.1 * ab_ t + w.1 * ab_ h) (y := u.2.1 * ab_ t + w.2.1 * ab_ h) hd
    omega
  · rw [Int.mul_comm (ab_ t), Int.mul_comm (ab_ h)]
    exact e1.symm
  · rw [Int.mul_comm (ab_ t), Int.mul_comm (ab_ h)]
    exact e2.symm
  · rw [Int.mul_comm (ab_ t), Int.mul_comm (ab_ h)]
    exact e3.symm
section
variable {A B C : Nat → Int} {k m : Nat} {V W : Nat → Int × Int × Int} {cur t : Nat}
theorem cl_0 : cl_ A B C k m V 0 0 W := ⟨fun _ => 0, fun a h => absurd h (Nat.not_lt_zero a), fun a b _ h => absurd h (Nat.not_lt_zero b), fun a b _ h => absurd h (Nat.not_lt_zero b), fun c h => absurd h (Nat.not_lt_zero c)⟩
theorem cl_skip (h : cl_ A B C k m V cur t W) (hv : ¬ vd_ A B C k m V cur) : cl_ A B C k m V (cur + 1) t W := by
  obtain ⟨cd, h1, h2, h3, h4⟩ := h
  refine ⟨cd, fun a ha => ⟨(h1 a ha).1, by have := (h1 a ha).2.1; omega, (h1 a ha).2.2⟩, h2, h3, fun c hc v => ?_⟩
  rcases Nat.lt_or_ge c cur with z | z
  · exact h4 c z v
  · have e : c = cur := by omega
    subst e
    exact absurd v hv
theorem cl_dup (h : cl_ A B C k m V cur t W) {a : Nat} (ha : a < t) (e : W a = pc_ A B C k m V cur) : cl_ A B C k m V (cur + 1) t W := by
  obtain ⟨cd, h1, h2, h3, h4⟩ := h
  refine ⟨cd, fun a ha => ⟨(h1 a ha).1, by have := (h1 a ha).2.1; omega, (h1 a ha).2.2⟩, h2, h3, fun c hc v => ?_⟩
  rcases Nat.lt_or_ge c cur with z | z
  · exact h4 c z v
  · have e2 : c = cur := by omega
    subst e2
    exact ⟨a, ha, e⟩
theorem cl_new (h : cl_ A B C k m V cur t W) (hv : vd_ A B C k m V cur) {p : Int × Int × Int} (hp : p = pc_ A B C k m V cur) (e : ∀ a, a < t → W a ≠ p) : cl_ A B C k m V (cur + 1) (t + 1) (fun j => if j = t then p else W j) := by
  obtain ⟨cd, h1, h2, h3, h4⟩ := h
  refine ⟨fun j => if j = t then cur else cd j, fun a ha => ?_, fun a b hab hb => ?_, fun a b hab hb => ?_, fun c hc v => ?_⟩
  · by_cases z : a = t
    · dsimp only
      rw [if_pos z, if_pos z]
      exact ⟨hv, by omega, hp⟩
    · dsimp only
      rw [if_neg z, if_neg z]
      have := h1 a (by omega)
      exact ⟨this.1, by omega, this.2.2⟩
  · dsimp only
    rw [if_neg (show a ≠ t by omega)]
    by_cases z : b = t
    · rw [if_pos z]
      exact (h1 a (by omega)).2.1
    · rw [if_neg z]
      exact h2 a b hab (by omega)
  · dsimp only
    rw [if_neg (show a ≠ t by omega)]
    by_cases z : b = t
    · rw [if_pos z]
      exact e a (by omega)
    · rw [if_neg z]
      exact h3 a b hab (by omega)
  · rcases Nat.lt_or_ge c cur with z | z
    · obtain ⟨a, ha, ea⟩ := h4 c z v
      refine ⟨a, by omega, ?_⟩
      dsimp only
      rw [if_neg (show a ≠ t by omega)]
      exact ea
    · have e2 : c = cur := by omega
      subst e2
      exact ⟨t, by omega, by dsimp only; rw [if_pos rfl]; exact hp⟩
theorem pc_even {i : Nat} : pc_ A B C k m V (2 * i) = V i := by
  unfold pc_
  rw [if_pos (by omega), show 2 * i / 2 = i by omega]
theorem pc_odd {i : Nat} : pc_ A B C k m V (2 * i + 1) = mt_ (gv_ A B C k (V i)) (gv_ A B C k (V (nx_ m i))) (V i) (V (nx_ m i)) := by
  unfold pc_
  rw [if_neg (by omega), show (2 * i + 1) / 2 = i by omega]
theorem vd_even {i : Nat} : vd_ A B C k m V (2 * i) ↔ i < m ∧ 0 ≤ gv_ A B C k (V i) := by
  unfold vd_
  rw [show 2 * i / 2 = i by omega]
  omega
theorem vd_odd {i : Nat} : vd_ A B C k m V (2 * i + 1) ↔ i < m ∧ xs_ (gv_ A B C k (V i)) (gv_ A B C k (V (nx_ m i))) := by
  unfold vd_
  rw [show (2 * i + 1) / 2 = i by omega]
  constructor
  · intro h
    refine ⟨by omega, ?_⟩
    rcases h.2 with z | z
    · omega
    · exact z.2
  · intro h
    exact ⟨by omega, Or.inr ⟨by omega, h.2⟩⟩
theorem nx_lt {i : Nat} (h : i < m) : nx_ m i < m := by unfold nx_; split <;> omega
theorem pc_mx (hV : ∀ a, a < m → 0 < (V a).2.2) {c : Nat} (h : vd_ A B C k m V c) : mx_ (pc_ A B C k m V c) (ex_ m V (c / 2)) (ex_ m V ((c + 1) / 2)) := by
  have hc := h.1
  rcases Nat.mod_two_eq_zero_or_one c with z | z
  · have e : (c + 1) / 2 = c / 2 := by omega
    rw [e, ex_lt (by omega)]
    unfold pc_
    rw [if_pos z]
    exact mx_self _
  · have e : (c + 1) / 2 = c / 2 + 1 := by omega
    have hi : c / 2 < m := by omega
    rw [e, ex_lt hi, ex_nx hi]
    unfold pc_
    rw [if_neg (by omega)]
    have hx : xs_ (gv_ A B C k (V (c / 2))) (gv_ A B C k (V (nx_ m (c / 2)))) := by
      rcases h.2 with w | w
      · omega
      · exact w.2
    obtain ⟨_, g, hg, e1, e2, e3⟩ := mt_ok hx (hV _ hi) (hV _ (nx_lt hi))
    exact ⟨g, _, _, hg, ab_pos (xs_ne hx).2, ab_pos (xs_ne hx).1, e1, e2, e3⟩
theorem ti_gv {j : Nat} {p : Int × Int × Int} : ti_ A B C j p.1 p.2.1 p.2.2 ↔ gv_ A B C j p = 0 := by
  unfold ti_ gv_
  omega
theorem eq_gv {p q : Int × Int × Int} {j : Nat} (h : eq_ p.1 p.2.1 p.2.2 q.1 q.2.1 q.2.2) : p.2.2 * gv_ A B C j q = q.2.2 * gv_ A B C j p := by
  have := eq_lin h (A j) (B j) (C j)
  have e1 : A j * q.1 + B j * q.2.1 - C j * q.2.2 = -gv_ A B C j q := by unfold gv_; omega
  have e2 : A j * p.1 + B j * p.2.1 - C j * p.2.2 = -gv_ A B C j p := by unfold gv_; omega
  rw [e1, e2, Int.mul_neg, Int.mul_neg] at this
  omega
theorem xs_same {p q h t : Int} (hp : 0 < p) (hq : 0 < q) (e : p * t = q * h) (x : xs_ h t) : False := by
  rcases x with ⟨h1, h2⟩ | ⟨h1, h2⟩
  · have := Int.mul_pos hq h1
    have := (sg_lt (z := t) hp).mp (by omega)
    omega
  · have := Int.mul_pos hp h2
    have := (sg_lt (z := h) hq).mp (by omega)
    omega
/-- the points of valid codes are vertices of the smaller region -/
theorem pc_ok {n o : Nat} (hq : sq_ A B C) (hb : bb_ A B C) (ho : 4 ≤ o) (hn : n ≤ 10) (h : po_ A B C (ss_ (4 + n) o) m V) (hko : 4 + n ≠ o) {c : Nat} (hv : vd_ A B C (4 + n) m V c) :
    pr_ (pc_ A B C (4 + n) m V c).1 (pc_ A B C (4 + n) m V c).2.1 (pc_ A B C (4 + n) m V c).2.2 ∧ ve_ A B C (ss_ (4 + n + 1) o) (pc_ A B C (4 + n) m V c).1 (pc_ A B C (4 + n) m V c).2.1 (pc_ A B C (4 + n) m V c).2.2 := by
  have mono : ∀ j, ss_ (4 + n) o j → ss_ (4 + n + 1) o j := fun j hj => ⟨by have := hj.1; omega, hj.2⟩
  have grow : ∀ p : Int × Int × Int, fe_ A B C (ss_ (4 + n) o) p.1 p.2.1 p.2.2 → 0 ≤ gv_ A B C (4 + n) p → fe_ A B C (ss_ (4 + n + 1) o) p.1 p.2.1 p.2.2 := by
    intro p f g
    refine ⟨f.1, fun j hj => ?_⟩
    rcases Nat.lt_or_ge j (4 + n) with z | z
    · exact f.2 j ⟨z, hj.2⟩
    · have e : j = 4 + n := by have := hj.1; omega
      rw [e]
      unfold gv_ at g
      omega
  have hc := hv.1
  rcases Nat.mod_two_eq_zero_or_one c with z | z
  · have e : c = 2 * (c / 2) := by omega
    rw [e] at hv ⊢
    rw [pc_even]
    obtain ⟨hi, hg⟩ := vd_even.mp hv
    obtain ⟨hp, f, i, j, hi', hj', hn', ti, tj⟩ := h.1 _ hi
    exact ⟨hp, grow _ f hg, i, j, mono i hi', mono j hj', hn', ti, tj⟩
  · have e : c = 2 * (c / 2) + 1 := by omega
    generalize c / 2 = i at e
    subst e
    rw [pc_odd]
    obtain ⟨hi, hx⟩ := vd_odd.mp hv
    have hu := (h.1 i hi)
    have hw := (h.1 _ (nx_lt hi))
    obtain ⟨hp, g, hg, e1, e2, e3⟩ := mt_ok hx hu.2.1.1 hw.2.1.1
    have hne : ¬ ((V i).2.1 * (V (nx_ m i)).2.2 - (V i).2.2 * (V (nx_ m i)).2.1 = 0 ∧ (V i).2.2 * (V (nx_ m i)).1 - (V i).1 * (V (nx_ m i)).2.2 = 0) := by
      rintro ⟨z1, z2⟩
      have ee : eq_ (V i).1 (V i).2.1 (V i).2.2 (V (nx_ m i)).1 (V (nx_ m i)).2.1 (V (nx_ m i)).2.2 := by
        have c1 := Int.mul_comm (V i).2.2 (V (nx_ m i)).1
        have c2 := Int.mul_comm (V i).2.2 (V (nx_ m i)).2.1
        constructor <;> omega
      exact xs_same hu.2.1.1 hw.2.1.1 (eq_gv ee) hx
    obtain ⟨L, hL, hz, tu, tw⟩ := po_share hq hb ho hn h hi hne
    have hN := sq_pos hz
    have gk : gv_ A B C (4 + n) (mt_ (gv_ A B C (4 + n) (V i)) (gv_ A B C (4 + n) (V (nx_ m i))) (V i) (V (nx_ m i))) = 0 := by
      have := gv_mx (A := A) (B := B) (C := C) (k := 4 + n) e1 e2 e3
      rw [xs_0 hx] at this
      exact (sg_eq hg).mp this
    have gL : gv_ A B C L (mt_ (gv_ A B C (4 + n) (V i)) (gv_ A B C (4 + n) (V (nx_ m i))) (V i) (V (nx_ m i))) = 0 := by
      have := gv_mx (A := A) (B := B) (C := C) (k := L) e1 e2 e3
      rw [ti_gv.mp tu, ti_gv.mp tw, Int.mul_zero, Int.mul_zero] at this
      exact (sg_eq hg).mp this
    refine ⟨hp, grow _ ?_ (by omega), L, 4 + n, mono L hL, ⟨by omega, hko⟩, ?_, ti_gv.mpr gL, ti_gv.mpr gk⟩
    · have f := fe_mix hu.2.1 hw.2.1 (Int.le_of_lt (ab_pos (xs_ne hx).2)) (Int.le_of_lt (ab_pos (xs_ne hx).1)) (by have := ab_pos (xs_ne hx).1; have := ab_pos (xs_ne hx).2; omega)
      rw [← e1, ← e2, ← e3] at f
      exact fe_scale hg f
    · intro zz
      have l1 := id_line (A L) (B L) (C L) (A (4 + n)) (B (4 + n)) (C (4 + n)) _ _ _ tu
      have l2 := id_line (A L) (B L) (C L) (A (4 + n)) (B (4 + n)) (C (4 + n)) _ _ _ tw
      have z0 : A (4 + n) * B L - B (4 + n) * A L = 0 := by
        have c1 := Int.mul_comm (B (4 + n)) (A L)
        omega
      rw [z0, Int.zero_mul] at l1 l2
      generalize C (4 + n) * (A L * A L + B L * B L) - C L * (A (4 + n) * A L + B (4 + n) * B L) = Q at l1 l2
      have q1 : (A L * A L + B L * B L) * gv_ A B C (4 + n) (V i) = Q * (V i).2.2 := by
        have : A (4 + n) * (V i).1 + B (4 + n) * (V i).2.1 - C (4 + n) * (V i).2.2 = -gv_ A B C (4 + n) (V i) := by unfold gv_; omega
        rw [this, Int.mul_neg] at l1
        omega
      have q2 : (A L * A L + B L * B L) * gv_ A B C (4 + n) (V (nx_ m i)) = Q * (V (nx_ m i)).2.2 := by
        have : A (4 + n) * (V (nx_ m i)).1 + B (4 + n) * (V (nx_ m i)).2.1 - C (4 + n) * (V (nx_ m i)).2.2 = -gv_ A B C (4 + n) (V (nx_ m i)) := by unfold gv_; omega
        rw [this, Int.mul_neg] at l2
        omega
      refine xs_same (p := (V i).2.2) (q := (V (nx_ m i)).2.2) hu.2.1.1 hw.2.1.1 ?_ hx
      apply cn_ hN
      have f1 : (A L * A L + B L * B L) * ((V i).2.2 * gv_ A B C (4 + n) (V (nx_ m i))) = ((A L * A L + B L * B L) * gv_ A B C (4 + n) (V (nx_ m i))) * (V i).2.2 := by grind
      have f2 : (A L * A L + B L * B L) * ((V (nx_ m i)).2.2 * gv_ A B C (4 + n) (V i)) = ((A L * A L + B L * B L) * gv_ A B C (4 + n) (V i)) * (V (nx_ m i)).2.2 := by grind
      rw [f1, f2, q1, q2]
      grind
end
end
section
/-! the clipped outline is the outline of the smaller region -/
section
variable {A B C : Nat → Int} {k m : Nat} {V W : Nat → Int × Int × Int} {cur t : Nat} {S : Nat → Prop}
theorem pc_pick {c1 c2 c3 : Nat} (hm : 3 ≤ m) (h12 : c1 < c2) (h23 : c2 < c3) (h3 : c3 < 2 * m) (x1 : ¬ (c1 % 2 = 0 ∧ c2 = c1 + 1 ∧ c3 = c1 + 2)) (x2 : ¬ (c1 = 0 ∧ c2 = 2 * m - 2 ∧ c3 = 2 * m - 1)) :
    ∃ a b c, (a = c1 / 2 ∨ a = (c1 + 1) / 2) ∧ (b = c2 / 2 ∨ b = (c2 + 1) / 2) ∧ (c = c3 / 2 ∨ c = (c3 + 1) / 2) ∧ a < b ∧ b < c ∧ ¬ (a = 0 ∧ c = m) := by
  by_cases w : c1 / 2 = 0 ∧ (c3 + 1) / 2 = m
  · by_cases y : c2 = 2 * m - 2
    · exact ⟨(c1 + 1) / 2, c2 / 2, (c3 + 1) / 2, Or.inr rfl, Or.inl rfl, Or.inr rfl, by omega, by omega, by omega⟩
    · by_cases z : c2 / 2 = 0
      · exact ⟨c1 / 2, (c2 + 1) / 2, c3 / 2, Or.inl rfl, Or.inr rfl, Or.inl rfl, by omega, by omega, by omega⟩
      · exact ⟨c1 / 2, c2 / 2, c3 / 2, Or.inl rfl, Or.inl rfl, Or.inl rfl, by omega, by omega, by omega⟩
  · by_cases z : c2 / 2 = c1 / 2
    · exact ⟨c1 / 2, (c2 + 1) / 2, (c3 + 1) / 2, Or.inl rfl, Or.inr rfl, Or.inr rfl, by omega, by omega, w⟩
    · exact ⟨c1 / 2, c2 / 2, (c3 + 1) / 2, Or.inl rfl, Or.inl rfl, Or.inr rfl, by omega, by omega, w⟩
/-- not all of one closed edge -/
theorem vd_x1 {c1 c2 c3 : Nat} (v1 : vd_ A B C k m V c1) (v2 : vd_ A B C k m V c2) (v3 : vd_ A B C k m V c3) : ¬ (c1 % 2 = 0 ∧ c2 = c1 + 1 ∧ c3 = c1 + 2) := by
  rintro ⟨z, e2, e3⟩
  have e : c1 = 2 * (c1 / 2) := by omega
  generalize c1 / 2 = i at e
  subst e
  subst e2
  have e3' : c3 = 2 * (i + 1) := by omega
  subst e3'
  have g1 := (vd_even.mp v1)
  have g2 := (vd_odd.mp v2)
  have g3 := (vd_even.mp v3)
  have en : nx_ m i = i + 1 := if_pos g3.1
  rw [en] at g2
  have := g2.2
  unfold xs_ at this
  omega
theorem vd_x2 {c1 c2 c3 : Nat} (hm : 1 ≤ m) (v1 : vd_ A B C k m V c1) (v2 : vd_ A B C k m V c2) (v3 : vd_ A B C k m V c3) : ¬ (c1 = 0 ∧ c2 = 2 * m - 2 ∧ c3 = 2 * m - 1) := by
  rintro ⟨e1, e2, e3⟩
  have e1' : c1 = 2 * 0 := by omega
  have e2' : c2 = 2 * (m - 1) := by omega
  have e3' : c3 = 2 * (m - 1) + 1 := by omega
  rw [e1'] at v1
  rw [e2'] at v2
  rw [e3'] at v3
  have g1 := (vd_even.mp v1)
  have g2 := (vd_even.mp v2)
  have g3 := (vd_odd.mp v3)
  have en : nx_ m (m - 1) = 0 := if_neg (by omega)
  rw [en] at g3
  have := g3.2
  unfold xs_ at this
  omega
theorem pc_dt (hm : 3 ≤ m) (hV : ∀ a, a < m → 0 < (V a).2.2) (h : ∀ a b c, a < b → b < c → c < m → 0 < dt_ (V a) (V b) (V c)) {c1 c2 c3 : Nat} (h12 : c1 < c2) (h23 : c2 < c3) (v1 : vd_ A B C k m V c1) (v2 : vd_ A B C k m V c2) (v3 : vd_ A B C k m V c3) :
    0 < dt_ (pc_ A B C k m V c1) (pc_ A B C k m V c2) (pc_ A B C k m V c3) := by
  have h3 := v3.1
  obtain ⟨a, b, c, ha, hb, hc, hab, hbc, hx⟩ := pc_pick hm h12 h23 h3 (vd_x1 v1 v2 v3) (vd_x2 (by omega) v1 v2 v3)
  have m1 := pc_mx hV v1
  have m2 := pc_mx hV v2
  have m3 := pc_mx hV v3
  have s1 : ∀ b' c', (b' = c2 / 2 ∨ b' = (c2 + 1) / 2) → (c' = c3 / 2 ∨ c' = (c3 + 1) / 2) → 0 ≤ dt_ (pc_ A B C k m V c1) (ex_ m V b') (ex_ m V c') ∧ (b' = b → c' = c → 0 < dt_ (pc_ A B C k m V c1) (ex_ m V b') (ex_ m V c')) := by
    intro b' c' hb' hc'
    have q1 := ex_dt h (a := c1 / 2) (b := b') (c := c') (by omega) (by omega) (by omega)
    have q2 := ex_dt h (a := (c1 + 1) / 2) (b := b') (c := c') (by omega) (by omega) (by omega)
    have := dt_mx m1 (ex_ m V b') (ex_ m V c') q1.1 q2.1
    refine ⟨this.1, fun eb ec => this.2 ?_⟩
    rcases ha with e | e
    · left
      exact q1.2 (by omega) (by omega) (by omega)
    · right
      exact q2.2 (by omega) (by omega) (by omega)
  have s2 : ∀ c', (c' = c3 / 2 ∨ c' = (c3 + 1) / 2) → 0 ≤ dt_ (pc_ A B C k m V c2) (ex_ m V c') (pc_ A B C k m V c1) ∧ (c' = c → 0 < dt_ (pc_ A B C k m V c2) (ex_ m V c') (pc_ A B C k m V c1)) := by
    intro c' hc'
    have q1 := s1 (c2 / 2) c' (Or.inl rfl) hc'
    have q2 := s1 ((c2 + 1) / 2) c' (Or.inr rfl) hc'
    rw [dt_cyc] at q1 q2
    have := dt_mx m2 (ex_ m V c') (pc_ A B C k m V c1) q1.1 q2.1
    refine ⟨this.1, fun ec => this.2 ?_⟩
    rcases hb with e | e
    · left
      exact q1.2 e.symm ec
    · right
      exact q2.2 e.symm ec
  have q1 := s2 (c3 / 2) (Or.inl rfl)
  have q2 := s2 ((c3 + 1) / 2) (Or.inr rfl)
  rw [dt_cyc] at q1 q2
  have := dt_mx m3 (pc_ A B C k m V c1) (pc_ A B C k m V c2) q1.1 q2.1
  rw [dt_cyc, dt_cyc]
  refine this.2 ?_
  rcases hc with e | e
  · left
    exact q1.2 e.symm
  · right
    exact q2.2 e.symm
/-- with two corners the edge's crossing point is met twice, and is the same -/
theorem pc_13 (hm : m = 2) : pc_ A B C k m V 1 = pc_ A B C k m V 3 := by
  subst hm
  rw [show (1 : Nat) = 2 * 0 + 1 by omega, show (3 : Nat) = 2 * 1 + 1 by omega, pc_odd, pc_odd]
  have e0 : nx_ 2 0 = 1 := rfl
  have e1 : nx_ 2 1 = 0 := rfl
  rw [e0, e1, mt_sym]
theorem cl_dt (hV : ∀ a, a < m → 0 < (V a).2.2) (h : ∀ a b c, a < b → b < c → c < m → 0 < dt_ (V a) (V b) (V c)) (hc : cl_ A B C k m V cur t W) {a b c : Nat} (hab : a < b) (hbc : b < c) (hct : c < t) : 0 < dt_ (W a) (W b) (W c) := by
  obtain ⟨cd, h1, h2, h3, h4⟩ := hc
  obtain ⟨va, _, ea⟩ := h1 a (by omega)
  obtain ⟨vb, _, eb⟩ := h1 b (by omega)
  obtain ⟨vc, _, ec⟩ := h1 c hct
  have l1 := h2 a b hab (by omega)
  have l2 := h2 b c hbc hct
  rcases Nat.lt_or_ge m 3 with z | z
  · exfalso
    have g := vc.1
    have hm : m = 2 := by omega
    have x1 := vd_x1 va vb vc
    have x2 := vd_x2 (by omega) va vb vc
    by_cases y : cd c = 3
    · by_cases y2 : cd a = 1
      · exact h3 a c (by omega) hct (by rw [ea, ec, y, y2]; exact pc_13 hm)
      · have y3 : cd b = 1 := by omega
        exact h3 b c hbc hct (by rw [eb, ec, y, y3]; exact pc_13 hm)
    · omega
  · rw [ea, eb, ec]
    exact pc_dt z hV h l1 l2 va vb vc
/-- every vertex is the far end of some border -/
theorem ve_max {x y d : Int} (h : ve_ A B C S x y d) : ∃ L, S L ∧ ti_ A B C L x y d ∧ 0 < A L * A L + B L * B L ∧ ∀ x' y' d', fe_ A B C S x' y' d' → ti_ A B C L x' y' d' → (B L * x' - A L * y') * d ≤ (B L * x - A L * y) * d' := by
  have key : ∀ L M, S L → S M → ti_ A B C L x y d → ti_ A B C M x y d → 0 < sl_ A B L M → 0 < A L * A L + B L * B L ∧ ∀ x' y' d', fe_ A B C S x' y' d' → ti_ A B C L x' y' d' → (B L * x' - A L * y') * d ≤ (B L * x - A L * y) * d' := by
    intro L M hL hM tL tM hs
    have hN : 0 < A L * A L + B L * B L := by
      apply sq_pos
      rintro ⟨z1, z2⟩
      unfold sl_ at hs
      rw [z1, z2] at hs
      omega
    refine ⟨hN, fun x' y' d' f' t' => ?_⟩
    have e1 := (ln_le (j := M) hN t').mp (f'.2 M hM)
    have e2 := (ln_eq hN tL).mp tM
    have g1 := Int.mul_le_mul_of_nonneg_right e1 (Int.le_of_lt h.1.1)
    have g2 : sl_ A B L M * ((B L * x - A L * y) * d' - (B L * x' - A L * y') * d) = (sl_ A B L M * (B L * x - A L * y)) * d' - sl_ A B L M * (B L * x' - A L * y') * d := by grind
    rw [e2] at g2
    have g3 : li_ A B C L M * d * d' = li_ A B C L M * d' * d := by grind
    have := (sg_ge (z := (B L * x - A L * y) * d' - (B L * x' - A L * y') * d) hs).mp (by omega)
    omega
  obtain ⟨f, i, j, hi, hj, hn, ti, tj⟩ := h
  have e1 := Int.mul_comm (A j) (B i)
  have e2 := Int.mul_comm (A i) (B j)
  rcases Int.lt_or_le 0 (A i * B j - A j * B i) with z | z
  · have := key j i hj hi tj ti (by unfold sl_; omega)
    exact ⟨j, hj, tj, this⟩
  · have := key i j hi hj ti tj (by unfold sl_; omega)
    exact ⟨i, hi, ti, this⟩
theorem ti_par {L : Nat} {x y d x' y' d' : Int} (hN : 0 < A L * A L + B L * B L) (h : ti_ A B C L x y d) (h' : ti_ A B C L x' y' d') (e : (B L * x' - A L * y') * d = (B L * x - A L * y) * d') : eq_ x y d x' y' d' := by
  unfold ti_ at h h'
  generalize A L = a at *
  generalize B L = b at *
  generalize C L = c at *
  constructor
  · apply cn_ hN
    have e1 : (a * a + b * b) * (x * d') = a * ((a * x + b * y) * d') + b * ((b * x - a * y) * d') := by grind
    have e2 : (a * a + b * b) * (x' * d) = a * ((a * x' + b * y') * d) + b * ((b * x' - a * y') * d) := by grind
    rw [e1, e2, h, h', e]
    grind
  · apply cn_ hN
    have e1 : (a * a + b * b) * (y * d') = b * ((a * x + b * y) * d') - a * ((b * x - a * y) * d') := by grind
    have e2 : (a * a + b * b) * (y' * d) = b * ((a * x' + b * y') * d) - a * ((b * x' - a * y') * d) := by grind
    rw [e1, e2, h, h', e]
    grind
/-- at most as many vertices as borders -/
theorem ve_room {N : Nat} (hS : ∀ i, S i → i < N) (hp : ∀ a, a < t → pr_ (W a).1 (W a).2.1 (W a).2.2 ∧ ve_ A B C S (W a).1 (W a).2.1 (W a).2.2) (hd : ∀ a b, a < b → b < t → W a ≠ W b) : t ≤ N := by
  refine pg_hole N t (fun a L => S L ∧ ti_ A B C L (W a).1 (W a).2.1 (W a).2.2 ∧ 0 < A L * A L + B L * B L ∧ ∀ x' y' d', fe_ A B C S x' y' d' → ti_ A B C L x' y' d' → (B L * x' - A L * y') * (W a).2.2 ≤ (B L * (W a).1 - A L * (W a).2.1) * d') ?_ ?_
  · intro a ha
    obtain ⟨L, hL, h⟩ := ve_max (hp a ha).2
    exact ⟨L, hS L hL, hL, h⟩
  · intro a a' L ha ha' hL r r'
    obtain ⟨_, t1, hN, m1⟩ := r
    obtain ⟨_, t2, _, m2⟩ := r'
    have e1 := m1 _ _ _ (hp a' ha').2.1 t2
    have e2 := m2 _ _ _ (hp a ha).2.1 t1
    have e := ti_par hN t1 t2 (by omega)
    obtain ⟨z1, z2, z3⟩ := pr_uniq (hp a ha).1 (hp a' ha').1 e
    have ew : W a = W a' := Prod.ext z1 (Prod.ext z2 z3)
    rcases Nat.lt_trichotomy a a' with z | z | z
    · exact absurd ew (hd a a' z ha')
    · exact z
    · exact absurd ew.symm (hd a' a z ha)
theorem cl_room {n o : Nat} (hq : sq_ A B C) (hb : bb_ A B C) (ho : 4 ≤ o) (hn : n < 10) (h : po_ A B C (ss_ (4 + n) o) m V) (hko : 4 + n ≠ o) (hc : cl_ A B C (4 + n) m V cur t W) : t ≤ 14 := by
  obtain ⟨cd, h1, h2, h3, h4⟩ := hc
  refine ve_room (A := A) (B := B) (C := C) (S := ss_ (4 + n + 1) o) (W := W) (fun i hi => by have := hi.1; omega) (fun a ha => ?_) h3
  obtain ⟨va, _, ea⟩ := h1 a ha
  rw [ea]
  exact pc_ok hq hb ho (by omega) h hko va
theorem id_gap {a b c p q r x y d x1 y1 d1 : Int} (h : a * x + b * y = c * d) (h1 : a * x1 + b * y1 = c * d1) (hk : p * x + q * y = r * d) : (a * a + b * b) * ((r * d1 - p * x1 - q * y1) * d) = (p * b - q * a) * ((b * x - a * y) * d1 - (b * x1 - a * y1) * d) := by
  have e1 := id_line a b c p q r x1 y1 d1 h1
  have e2 := id_line a b c p q r x y d h
  have z : p * x + q * y - r * d = 0 := by omega
  rw [z, Int.mul_zero] at e2
  generalize r * (a * a + b * b) - c * (p * a + q * b) = Q at e1 e2
  have e3 : (a * a + b * b) * ((r * d1 - p * x1 - q * y1) * d) = -(((a * a + b * b) * (p * x1 + q * y1 - r * d1)) * d) := by grind
  have e4 : Q * d = (p * b - q * a) * (b * x - a * y) := by omega
  rw [e3, e1]
  have e5 : ((p * b - q * a) * (b * x1 - a * y1) - Q * d1) * d = (p * b - q * a) * (b * x1 - a * y1) * d - (Q * d) * d1 := by grind
  rw [e5, e4]
  grind
/-- every vertex of the smaller region is the point of a valid code -/
theorem pc_all {n o : Nat} (hq : sq_ A B C) (ho : 4 ≤ o) (hko : 4 + n ≠ o) (h : po_ A B C (ss_ (4 + n) o) m V) {x y d : Int} (hv : ve_ A B C (ss_ (4 + n + 1) o) x y d) : ∃ c, vd_ A B C (4 + n) m V c ∧ eq_ (pc_ A B C (4 + n) m V c).1 (pc_ A B C (4 + n) m V c).2.1 (pc_ A B C (4 + n) m V c).2.2 x y d := by
  have fS : fe_ A B C (ss_ (4 + n) o) x y d := fe_mono hv.1 (fun j hj => ⟨by have := hj.1; omega, hj.2⟩)
  have old : ve_ A B C (ss_ (4 + n) o) x y d → A (4 + n) * x + B (4 + n) * y ≤ C (4 + n) * d → ∃ c, vd_ A B C (4 + n) m V c ∧ eq_ (pc_ A B C (4 + n) m V c).1 (pc_ A B C (4 + n) m V c).2.1 (pc_ A B C (4 + n) m V c).2.2 x y d := by
    intro hv' hk
    obtain ⟨a, ha, e⟩ := h.2.1 x y d hv'
    refine ⟨2 * a, vd_even.mpr ⟨ha, ?_⟩, by rw [pc_even]; exact e⟩
    have g := eq_gv (A := A) (B := B) (C := C) (j := 4 + n) (q := (x, y, d)) e
    have g2 : 0 ≤ gv_ A B C (4 + n) (x, y, d) := by unfold gv_; dsimp only; omega
    have g3 := Int.mul_nonneg (Int.le_of_lt (h.1 a ha).2.1.1) g2
    exact (sg_ge hv.1.1).mp (by rw [← g]; exact g3)
  have hk := hv.1.2 (4 + n) ⟨by omega, hko⟩
  obtain ⟨f, i, j, hi, hj, hn', ti, tj⟩ := hv
  have main : ∀ i, ss_ (4 + n) o i → A i * B (4 + n) - A (4 + n) * B i ≠ 0 → ti_ A B C i x y d → ti_ A B C (4 + n) x y d → ∃ c, vd_ A B C (4 + n) m V c ∧ eq_ (pc_ A B C (4 + n) m V c).1 (pc_ A B C (4 + n) m V c).2.1 (pc_ A B C (4 + n) m V c).2.2 x y d := by
    intro i hi hn' ti tk
    have hz : ¬ (A i = 0 ∧ B i = 0) := by
      rintro ⟨z1, z2⟩
      rw [z1, z2] at hn'
      omega
    have hN := sq_pos hz
    obtain ⟨x1, y1, d1, x2, y2, d2, v1, t1, v2, t2, l1, l2⟩ := fc_ends hq ho hi hz fS ti
    have g1 := id_gap ti t1 tk
    have g2 := id_gap ti t2 tk
    have hsig : A (4 + n) * B i - B (4 + n) * A i ≠ 0 := by
      have c1 := Int.mul_comm (B (4 + n)) (A i)
      omega
    generalize hs : A (4 + n) * B i - B (4 + n) * A i = sg at g1 g2 hsig
    by_cases q1 : (B i * x - A i * y) * d1 - (B i * x1 - A i * y1) * d = 0
    · have ee := ti_par hN ti t1 (by omega)
      exact old (ve_tr fS.1 (eq_symm ee) v1) hk
    by_cases q2 : (B i * x - A i * y) * d2 - (B i * x2 - A i * y2) * d = 0
    · have ee := ti_par hN ti t2 (by omega)
      exact old (ve_tr fS.1 (eq_symm ee) v2) hk
    obtain ⟨a, ha, ea⟩ := h.2.1 x1 y1 d1 v1
    obtain ⟨b, hb, eb⟩ := h.2.1 x2 y2 d2 v2
    have ta := ti_tr v1.1.1 (eq_symm ea) t1
    have tb := ti_tr v2.1.1 (eq_symm eb) t2
    have ga := eq_gv (A := A) (B := B) (C := C) (j := 4 + n) (q := (x1, y1, d1)) ea
    have gb := eq_gv (A := A) (B := B) (C := C) (j := 4 + n) (q := (x2, y2, d2)) eb
    have pa := (h.1 a ha).2.1.1
    have pb := (h.1 b hb).2.1.1
    have hx : xs_ (gv_ A B C (4 + n) (V a)) (gv_ A B C (4 + n) (V b)) := by
      have ua : gv_ A B C (4 + n) (x1, y1, d1) = C (4 + n) * d1 - A (4 + n) * x1 - B (4 + n) * y1 := rfl
      have ub : gv_ A B C (4 + n) (x2, y2, d2) = C (4 + n) * d2 - A (4 + n) * x2 - B (4 + n) * y2 := rfl
      rw [← ua] at g1
      rw [← ub] at g2
      dsimp only at ga gb
      have sgn : ∀ z u g D : Int, 0 < D → 0 < u → u * g = D * z → (0 < g → 0 < z) ∧ (g < 0 → z < 0) := by
        intro z u g D hD hu e
        constructor
        · intro hg
          have := Int.mul_pos hu hg
          exact (sg_lt hD).mp (by omega)
        · intro hg
          have := Int.mul_pos hu (show 0 < -g by omega)
          rw [Int.mul_neg] at this
          have := (sg_lt (z := -z) hD).mp (by rw [Int.mul_neg]; omega)
          omega
      have sa := sgn _ _ _ _ v1.1.1 pa ga
      have sb := sgn _ _ _ _ v2.1.1 pb gb
      rcases Int.lt_or_le 0 sg with z | z
      · have k1 := Int.mul_pos z (show 0 < (B i * x - A i * y) * d1 - (B i * x1 - A i * y1) * d by omega)
        have k2 := Int.mul_pos z (show 0 < -((B i * x - A i * y) * d2 - (B i * x2 - A i * y2) * d) by omega)
        rw [Int.mul_neg] at k2
        left
        constructor
        · apply sa.1
          have := (sg_lt hN).mp (show 0 < _ by rw [← g1] at k1; exact k1)
          rw [Int.mul_comm] at this
          exact (sg_lt fS.1).mp this
        · apply sb.2
          have := (sg_lt (z := -(gv_ A B C (4 + n) (x2, y2, d2) * d)) hN).mp (by rw [Int.mul_neg]; omega)
          rw [← Int.neg_mul, Int.mul_comm] at this
          have := (sg_lt fS.1).mp this
          omega
      · have k1 := Int.mul_pos (show 0 < -sg by omega) (show 0 < (B i * x - A i * y) * d1 - (B i * x1 - A i * y1) * d by omega)
        have k2 := Int.mul_pos (show 0 < -sg by omega) (show 0 < -((B i * x - A i * y) * d2 - (B i * x2 - A i * y2) * d) by omega)
        rw [Int.neg_mul] at k1
        rw [Int.neg_mul_neg] at k2
        right
        constructor
        · apply sa.2
          have := (sg_lt (z := -(gv_ A B C (4 + n) (x1, y1, d1) * d)) hN).mp (by rw [Int.mul_neg]; omega)
          rw [← Int.neg_mul, Int.mul_comm] at this
          have := (sg_lt fS.1).mp this
          omega
        · apply sb.1
          have := (sg_lt hN).mp (show 0 < _ by rw [← g2] at k2; exact k2)
          rw [Int.mul_comm] at this
          exact (sg_lt fS.1).mp this
    have fin : ∀ a b, a < m → b = nx_ m a → b < m → ti_ A B C i (V a).1 (V a).2.1 (V a).2.2 → ti_ A B C i (V b).1 (V b).2.1 (V b).2.2 → xs_ (gv_ A B C (4 + n) (V a)) (gv_ A B C (4 + n) (V b)) → ∃ c, vd_ A B C (4 + n) m V c ∧ eq_ (pc_ A B C (4 + n) m V c).1 (pc_ A B C (4 + n) m V c).2.1 (pc_ A B C (4 + n) m V c).2.2 x y d := by
      intro a b ha e hb ta tb hx
      subst e
      refine ⟨2 * a + 1, vd_odd.mpr ⟨ha, hx⟩, ?_⟩
      rw [pc_odd]
      obtain ⟨hp, g, hg, e1, e2, e3⟩ := mt_ok hx (h.1 a ha).2.1.1 (h.1 _ hb).2.1.1
      have gk := gv_mx (A := A) (B := B) (C := C) (k := 4 + n) e1 e2 e3
      rw [xs_0 hx] at gk
      have gL := gv_mx (A := A) (B := B) (C := C) (k := i) e1 e2 e3
      rw [ti_gv.mp ta, ti_gv.mp tb, Int.mul_zero, Int.mul_zero] at gL
      exact ti_uniq hn' (ti_gv.mpr ((sg_eq hg).mp gL)) (ti_gv.mpr ((sg_eq hg).mp gk)) ti tk
    have hxs : xs_ (gv_ A B C (4 + n) (V b)) (gv_ A B C (4 + n) (V a)) := by
      unfold xs_ at hx ⊢
      omega
    rcases Nat.lt_trichotomy a b with z | z | z
    · rcases po_adj h hi hz z hb ta tb with e | e
      · exact fin a b ha e hb ta tb hx
      · exact fin b a hb e ha tb ta hxs
    · subst z
      unfold xs_ at hx
      omega
    · rcases po_adj h hi hz z ha tb ta with e | e
      · exact fin b a hb e ha tb ta hxs
      · exact fin a b ha e hb ta tb hx
  rcases Nat.lt_or_ge i (4 + n) with zi | zi
  · rcases Nat.lt_or_ge j (4 + n) with zj | zj
    · exact old ⟨fS, i, j, ⟨zi, hi.2⟩, ⟨zj, hj.2⟩, hn', ti, tj⟩ hk
    · have e : j = 4 + n := by have := hj.1; omega
      subst e
      exact main i ⟨zi, hi.2⟩ hn' ti tj
  · have e : i = 4 + n := by have := hi.1; omega
    subst e
    rcases Nat.lt_or_ge j (4 + n) with zj | zj
    · refine main j ⟨zj, hj.2⟩ ?_ tj ti
      omega
    · have e : j = 4 + n := by have := hj.1; omega
      subst e
      omega
theorem cl_po {n o : Nat} (hq : sq_ A B C) (hb : bb_ A B C) (ho : 4 ≤ o) (hn : n < 10) (h : po_ A B C (ss_ (4 + n) o) m V) (hko : 4 + n ≠ o) (hc : cl_ A B C (4 + n) m V (2 * m) t W) : po_ A B C (ss_ (4 + n + 1) o) t W := by
  have hV : ∀ a, a < m → 0 < (V a).2.2 := fun a ha => (h.1 a ha).2.1.1
  refine ⟨?_, ?_, ?_, fun a b c hab hbc hct => cl_dt hV h.2.2.2 hc hab hbc hct⟩
  · obtain ⟨cd, h1, h2, h3, h4⟩ := hc
    intro a ha
    obtain ⟨va, _, ea⟩ := h1 a ha
    rw [ea]
    exact pc_ok hq hb ho (by omega) h hko va
  · obtain ⟨cd, h1, h2, h3, h4⟩ := hc
    intro x y d hv
    obtain ⟨c, vc, e⟩ := pc_all hq ho hko h hv
    obtain ⟨a, ha, ea⟩ := h4 c vc.1 vc
    exact ⟨a, ha, by rw [ea]; exact e⟩
  · obtain ⟨cd, h1, h2, h3, h4⟩ := hc
    exact h3
end
end
section
/-! the three loops for the greatest common divisor -/
theorem gd_half {x r : Nat} (hr : 0 < r) (h : r < x) : 2 * (x % r) < x := by
  have := Nat.mod_lt x hr
  rcases Nat.lt_or_ge x (2 * r) with z | z
  · have e : x % r = x - r := by
      rw [Nat.mod_eq_sub_mod (by omega), Nat.mod_eq_of_lt (by omega)]
    omega
  · omega
theorem xd_43 {post : Int32 → Prop} {y : Nat} (hy : 0 < y) (h31 : y < 2 ^ 31) (h : post (nI y)) : wX_divisor_43 post (nI y) := br_f (nI_nle hy h31) h
theorem xd_fin {post : Int32 → Prop} {n y : Nat} {x4 : Int32} (hy : 0 < y) (h31 : y < 2 ^ 31) (h : post (nI y)) : wX_divisor_16 post (n + 1) (nI 0) (nI y) x4 :=
  br_c (fun _ => xd_43 hy h31 h) (fun _ => br_t rfl (xd_43 hy h31 h))
theorem xd_step {post : Int32 → Prop} {n x y k : Nat} (hk : k < 64) (hx : 0 < x) (h1 : x < 2 ^ 31) (h2 : y < 2 ^ 31) (h : wX_divisor_16 post n (nI (y % x)) (nI x) (nI (k + 1))) : wX_divisor_16 post (n + 1) (nI x) (nI y) (nI k) :=
  br_f (nI_ge (b := 64) hk (by decide)) (br_f (nI_ne0 hx h1) ⟨nI_ne0 hx h1, nm_r (pk_rem h2 hx h1) (nm_r (nI_1 k) h)⟩)
theorem xd_loop {post : Int32 → Prop} : ∀ s x y k n : Nat, x < 2 ^ s → 0 < y → x < 2 ^ 31 → y < 2 ^ 31 → k + 2 * s ≤ 64 → 64 < n + k → post (nI (Nat.gcd x y)) → wX_divisor_16 post n (nI x) (nI y) (nI k) := by
  intro s
  induction s with
  | zero =>
    intro x y k n hx hy h1 h2 hk hn hp
    have e : x = 0 := by
      have : (2 : Nat) ^ 0 = 1 := rfl
      omega
    subst e
    rw [Nat.gcd_zero_left] at hp
    obtain ⟨n', rfl⟩ : ∃ n', n = n' + 1 := ⟨n - 1, by omega⟩
    exact xd_fin hy h2 hp
  | succ s ih =>
    intro x y k n hx hy h1 h2 hk hn hp
    obtain ⟨n', rfl⟩ : ∃ n', n = n' + 1 + 1 := ⟨n - 2, by omega⟩
    by_cases z : x = 0
    · subst z
      rw [Nat.gcd_zero_left] at hp
      exact xd_fin hy h2 hp
    · refine xd_step (by omega) (by omega) h1 h2 ?_
      have hlt := Nat.mod_lt y (show 0 < x by omega)
      by_cases r : y % x = 0
      · rw [r]
        rw [Nat.gcd_rec, r, Nat.gcd_zero_left] at hp
        exact xd_fin (by omega) h1 hp
      · refine xd_step (by omega) (by omega) (by omega) h1 ?_
        have hh := gd_half (show 0 < y % x by omega) hlt
        have hp2 : (2 : Nat) ^ (s + 1) = 2 * 2 ^ s := by rw [Nat.pow_succ, Nat.mul_comm]
        refine ih (x % (y % x)) (y % x) (k + 1 + 1) n' (by omega) (by omega) (by omega) (by omega) (by omega) (by omega) ?_
        rw [Nat.gcd_rec, Nat.gcd_rec (y % x)] at hp
        exact hp
theorem zi_abs {a : Int} (h : 0 ≤ a) : zI a = nI a.natAbs := by
  rw [zi_n]
  exact congrArg zI (by omega)
theorem zi_abs' {a : Int} (h : a ≤ 0) : -zI a = nI a.natAbs := by
  rw [zi_n, zi_neg]
  exact congrArg zI (by omega)
theorem zi_0 : (0 : Int32) = zI 0 := rfl
theorem zi_nn {a : Int} (h : bo_ 2147483647 a) : (0 : Int32) ≤ zI a ↔ 0 ≤ a := by
  rw [zi_0]
  exact zi_le (bo_lit (by omega) (by omega)) h
theorem xd_ {post : Int32 → Prop} {a : Int} {b : Nat} (ha : bo_ 2147483647 a) (hb : 0 < b) (hb' : b < 2 ^ 31) (hp : post (nI (Nat.gcd a.natAbs b))) : wpX_divisor post (zI a) (nI b) := by
  have h1 : a.natAbs < 2 ^ 31 := by unfold bo_ at ha; omega
  unfold wpX_divisor
  by_cases z : 0 ≤ a
  · refine br_t ((zi_nn ha).mpr z) ⟨65, ?_⟩
    rw [zi_abs z]
    exact xd_loop 31 _ _ 0 65 h1 hb h1 hb' (by omega) (by omega) hp
  · refine br_f (fun w => z ((zi_nn ha).mp w)) (nm_r (zi_abs' (by omega)) ⟨65, ?_⟩)
    exact xd_loop 31 _ _ 0 65 h1 hb h1 hb' (by omega) (by omega) hp
/-! the same with longs -/
theorem ln_ne0 {n : Nat} (h0 : 0 < n) (h : n < 2 ^ 63) : ¬ lN n = 0 := by
  intro z
  have : lN n = lN 0 := z
  rw [pk_lEQ h (by decide)] at this
  omega
theorem ln_nle {n : Nat} (h0 : 0 < n) (h : n < 2 ^ 63) : ¬ lN n ≤ 0 := by
  intro z
  have : lN n ≤ lN 0 := z
  rw [pk_lLE h (by decide)] at this
  omega
theorem xl_55 {post : Int64 → Prop} {y : Nat} (hy : 0 < y) (h31 : y < 2 ^ 63) (h : post (lN y)) : wX_longDivisor_55 post (lN y) := br_f (ln_nle hy h31) h
theorem xl_fin {post : Int64 → Prop} {n y : Nat} {x4 : Int32} (hy : 0 < y) (h31 : y < 2 ^ 63) (h : post (lN y)) : wX_longDivisor_20 post (n + 1) (lN 0) (lN y) x4 :=
  br_c (fun _ => xl_55 hy h31 h) (fun _ => br_t rfl (xl_55 hy h31 h))
theorem xl_step {post : Int64 → Prop} {n x y k : Nat} (hk : k < 100) (hx : 0 < x) (h1 : x < 2 ^ 63) (h2 : y < 2 ^ 63) (h : wX_longDivisor_20 post n (lN (y % x)) (lN x) (nI (k + 1))) : wX_longDivisor_20 post (n + 1) (lN x) (lN y) (nI k) :=
  br_f (nI_ge (b := 100) hk (by decide)) (br_f (ln_ne0 hx h1) ⟨ln_ne0 hx h1, nm_r (pk_lRem h2 hx h1) (nm_r (nI_1 k) h)⟩)
theorem xl_loop {post : Int64 → Prop} : ∀ s x y k n : Nat, x < 2 ^ s → 0 < y → x < 2 ^ 63 → y < 2 ^ 63 → k + 2 * s ≤ 100 → 100 < n + k → post (lN (Nat.gcd x y)) → wX_longDivisor_20 post n (lN x) (lN y) (nI k) := by
  intro s
  induction s with
  | zero =>
    intro x y k n hx hy h1 h2 hk hn hp
    have e : x = 0 := by
      have : (2 : Nat) ^ 0 = 1 := rfl
      omega
    subst e
    rw [Nat.gcd_zero_left] at hp
    obtain ⟨n', rfl⟩ : ∃ n', n = n' + 1 := ⟨n - 1, by omega⟩
    exact xl_fin hy h2 hp
  | succ s ih =>
    intro x y k n hx hy h1 h2 hk hn hp
    obtain ⟨n', rfl⟩ : ∃ n', n = n' + 1 + 1 := ⟨n - 2, by omega⟩
    by_cases z : x = 0
    · subst z
      rw [Nat.gcd_zero_left] at hp
      exact xl_fin hy h2 hp
    · refine xl_step (by omega) (by omega) h1 h2 ?_
      have hlt := Nat.mod_lt y (show 0 < x by omega)
      by_cases r : y % x = 0
      · rw [r]
        rw [Nat.gcd_rec, r, Nat.gcd_zero_left] at hp
        exact xl_fin (by omega) h1 hp
      · refine xl_step (by omega) (by omega) (by omega) h1 ?_
        have hh := gd_half (show 0 < y % x by omega) hlt
        have hp2 : (2 : Nat) ^ (s + 1) = 2 * 2 ^ s := by rw [Nat.pow_succ, Nat.mul_comm]
        refine ih (x % (y % x)) (y % x) (k + 1 + 1) n' (by omega) (by omega) (by omega) (by omega) (by omega) (by omega) ?_
        rw [Nat.gcd_rec, Nat.gcd_rec (y % x)] at hp
        exact hp
theorem zl_n (n : Nat) : lN n = zL n := (Int64.ofInt_eq_ofNat).symm
theorem zl_abs {a : Int} (h : 0 ≤ a) : zL a = lN a.natAbs := by
  rw [zl_n]
  exact congrArg zL (by omega)
theorem zl_abs' {a : Int} (h : a ≤ 0) : -zL a = lN a.natAbs := by
  rw [zl_n, zl_neg]
  exact congrArg zL (by omega)
theorem zl_0 : (0 : Int64) = zL 0 := rfl
theorem zl_nn {a : Int} (h : bo_ 9223372036854775807 a) : (0 : Int64) ≤ zL a ↔ 0 ≤ a := by
  rw [zl_0]
  exact zl_le (bo_lit (by omega) (by omega)) h
theorem xl_ {post : Int64 → Prop} {a : Int} {b : Nat} (ha : bo_ 1000000000000 a) (hb : 0 < b) (hb' : b < 2 ^ 63) (hp : post (lN (Nat.gcd a.natAbs b))) : wpX_longDivisor post (zL a) (lN b) := by
  have h1 : a.natAbs < 2 ^ 50 := by unfold bo_ at ha; omega
  have ha' : bo_ 9223372036854775807 a := bo_le ha (by decide)
  unfold wpX_longDivisor
  by_cases z : 0 ≤ a
  · refine br_t ((zl_nn ha').mpr z) ⟨101, ?_⟩
    rw [zl_abs z]
    exact xl_loop 50 _ _ 0 101 h1 hb (by omega) hb' (by omega) (by omega) hp
  · refine br_f (fun w => z ((zl_nn ha').mp w)) (nm_r (zl_abs' (by omega)) ⟨101, ?_⟩)
    exact xl_loop 50 _ _ 0 101 h1 hb (by omega) hb' (by omega) (by omega) hp
/-! Y's loop goes on to its sixtieth turn -/
section
variable {g_count g_p g_q g_x g_y g_down g_bestX g_bestY g_bestDown : Int32} {a_la a_lb a_lc : Nat → Int32}
theorem yc_idle {post : Int32 → Prop} {a : Nat} (ha : 0 < a) (h31 : a < 2 ^ 31) (hp : post (nI a)) : ∀ d k n : Nat, k + d = 60 → d < n → wY_common_17 post g_count g_p g_q g_x g_y g_down g_bestX g_bestY g_bestDown a_la a_lb a_lc n (nI a) (nI 0) (nI k) := by
  intro d
  induction d with
  | zero =>
    intro k n hk hn
    obtain ⟨n', rfl⟩ : ∃ n', n = n' + 1 := ⟨n - 1, by omega⟩
    have : k = 60 := by omega
    subst this
    exact br_t (nI_le (a := 60) (b := 60) (by decide) (by decide)) (br_t (nI_le (a := 1) (by omega) h31) hp)
  | succ d ih =>
    intro k n hk hn
    obtain ⟨n', rfl⟩ : ∃ n', n = n' + 1 := ⟨n - 1, by omega⟩
    exact br_f (nI_ge (b := 60) (by omega) (by decide)) (br_t (Int32.le_refl 0) (nm_r (nI_1 k) (ih (k + 1) n' (by omega) (by omega))))
theorem yc_step {post : Int32 → Prop} {n x y k : Nat} (hk : k < 60) (hx : 0 < x) (h1 : x < 2 ^ 31) (h2 : y < 2 ^ 31) (h : wY_common_17 post g_count g_p g_q g_x g_y g_down g_bestX g_bestY g_bestDown a_la a_lb a_lc n (nI x) (nI (y % x)) (nI (k + 1))) : wY_common_17 post g_count g_p g_q g_x g_y g_down g_bestX g_bestY g_bestDown a_la a_lb a_lc (n + 1) (nI y) (nI x) (nI k) :=
  br_f (nI_ge (b := 60) hk (by decide)) (br_f (nI_nle hx h1) ⟨nI_ne0 hx h1, nm_r (pk_rem h2 hx h1) (nm_r (nI_1 k) h)⟩)
theorem yc_loop {post : Int32 → Prop} : ∀ s x y k n : Nat, x < 2 ^ s → 0 < y → x < 2 ^ 31 → y < 2 ^ 31 → k + 2 * s ≤ 60 → 60 < n + k → post (nI (Nat.gcd x y)) → wY_common_17 post g_count g_p g_q g_x g_y g_down g_bestX g_bestY g_bestDown a_la a_lb a_lc n (nI y) (nI x) (nI k) := by
  intro s
  induction s with
  | zero =>
    intro x y k n hx hy h1 h2 hk hn hp
    have e : x = 0 := by
      have : (2 : Nat) ^ 0 = 1 := rfl
      omega
    subst e
    rw [Nat.gcd_zero_left] at hp
    exact yc_idle hy h2 hp (60 - k) k n (by omega) (by omega)
  | succ s ih =>
    intro x y k n hx hy h1 h2 hk hn hp
    by_cases z : x = 0
    · subst z
      rw [Nat.gcd_zero_left] at hp
      exact yc_idle hy h2 hp (60 - k) k n (by omega) (by omega)
    · obtain ⟨n', rfl⟩ : ∃ n', n = n' + 1 + 1 := ⟨n - 2, by omega⟩
      refine yc_step (by omega) (by omega) h1 h2 ?_
      have hlt := Nat.mod_lt y (show 0 < x by omega)
      by_cases r : y % x = 0
      · rw [r]
        rw [Nat.gcd_rec, r, Nat.gcd_zero_left] at hp
        exact yc_idle (by omega) h1 hp (60 - (k + 1)) (k + 1) (n' + 1) (by omega) (by omega)
      · refine yc_step (by omega) (by omega) (by omega) h1 ?_
        have hh := gd_half (show 0 < y % x by omega) hlt
        have hp2 : (2 : Nat) ^ (s + 1) = 2 * 2 ^ s := by rw [Nat.pow_succ, Nat.mul_comm]
        refine ih (x % (y % x)) (y % x) (k + 1 + 1) n' (by omega) (by omega) (by omega) (by omega) (by omega) (by omega) ?_
        rw [Nat.gcd_rec, Nat.gcd_rec (y % x)] at hp
        exact hp
theorem yc_pos {post : Int32 → Prop} {a b : Nat} (ha : a < 2 ^ 31) (hb : 0 < b) (hb' : b < 2 ^ 29) (hp : post (nI (Nat.gcd a b))) : ∃ n17 : Nat, wY_common_17 post g_count g_p g_q g_x g_y g_down g_bestX g_bestY g_bestDown a_la a_lb a_lc n17 (nI a) (nI b) 0 := by
  by_cases z : a = 0
  · subst z
    refine ⟨61, ?_⟩
    rw [Nat.gcd_zero_left] at hp
    refine yc_step (k := 0) (by omega) hb (by omega) (by decide) ?_
    rw [Nat.zero_mod]
    exact yc_idle hb (by omega) hp 59 1 60 (by omega) (by omega)
  · refine ⟨61, yc_loop 29 b a 0 61 hb' (by omega) (by omega) ha (by omega) (by omega) ?_⟩
    rw [Nat.gcd_comm]
    exact hp
theorem yc_ {post : Int32 → Prop} {a : Int} {b : Nat} (ha : bo_ 2147483647 a) (hb : 0 < b) (hb' : b < 2 ^ 29) (hp : post (nI (Nat.gcd a.natAbs b))) : wpY_common post (g_count, g_p, g_q, g_x, g_y, g_down, g_bestX, g_bestY, g_bestDown, a_la, a_lb, a_lc) (zI a) (nI b) := by
  have h1 : a.natAbs < 2 ^ 31 := by unfold bo_ at ha; omega
  unfold wpY_common
  dsimp only
  by_cases z : 0 ≤ a
  · refine br_t ((zi_nn ha).mpr z) ?_
    rw [zi_abs z]
    exact yc_pos h1 hb hb' hp
  · exact br_f (fun w => z ((zi_nn ha).mp w)) (nm_r (zi_abs' (by omega)) (yc_pos h1 hb hb' hp))
theorem gd_dv {a : Int} {b : Nat} (hb : 0 < b) : 0 < Nat.gcd a.natAbs b ∧ Nat.gcd a.natAbs b ≤ b := ⟨Nat.gcd_pos_of_pos_right _ hb, Nat.gcd_le_right _ hb⟩
theorem yt_top {post : Int32 → Prop} {a : Int} {b : Nat} (ha : bo_ 2147483647 a) (hb : 0 < b) (hb' : b < 2 ^ 29) (hp : post (zI (a.tdiv (Nat.gcd a.natAbs b)))) : wpY_top post (g_count, g_p, g_q, g_x, g_y, g_down, g_bestX, g_bestY, g_bestDown, a_la, a_lb, a_lc) (zI a) (nI b) := by
  have hg := gd_dv (a := a) hb
  refine yc_ ha hb hb' (br_t (nI_le (a := 1) (by omega) (by omega)) ⟨nI_ne0 hg.1 (by omega), ?_⟩)
  rw [zi_n, zi_div ha (bo_nat (by omega))]
  exact hp
theorem yt_bot {post : Int32 → Prop} {a : Int} {b : Nat} (ha : bo_ 2147483647 a) (hb : 0 < b) (hb' : b < 2 ^ 29) (hp : post (zI ((b : Int).tdiv (Nat.gcd a.natAbs b)))) : wpY_bottom post (g_count, g_p, g_q, g_x, g_y, g_down, g_bestX, g_bestY, g_bestDown, a_la, a_lb, a_lc) (zI a) (nI b) := by
  have hg := gd_dv (a := a) hb
  refine yc_ ha hb hb' (br_t (nI_le (a := 1) (by omega) (by omega)) ⟨nI_ne0 hg.1 (by omega), ?_⟩)
  rw [zi_n, zi_n, zi_div (bo_nat (by omega)) (bo_nat (by omega))]
  exact hp
end
end
section
/-! X's solve -/
def gg_ (g : Int) : Int := 1000000000000000000 * g - 1000000000
def gh_ (h : Int) : Int := 1000000000000000000 * h - 1
def rr_ (g h a b : Int) : Int := if g * b - h * a = 0 then (if b = 0 then a else -b) else g * b - h * a
theorem rr_sign {g h a b : Int} (ha : bo_ 9 a) (hb : bo_ 9 b) : (0 < rr_ g h a b → 0 ≤ gg_ g * b - gh_ h * a) ∧ (rr_ g h a b ≤ 0 → gg_ g * b - gh_ h * a ≤ 0) := by
  have e : gg_ g * b - gh_ h * a = 1000000000000000000 * (g * b - h * a) - 1000000000 * b + a := by
    unfold gg_ gh_
    grind
  rw [e]
  unfold rr_
  unfold bo_ at ha hb
  generalize g * b - h * a = D
  constructor
  · intro z
    split at z
    · split at z <;> omega
    · omega
  · intro z
    split at z
    · split at z <;> omega
    · omega
theorem zi_np {a : Int} (h : bo_ 2147483647 a) : zI a ≤ (0 : Int32) ↔ a ≤ 0 := by
  rw [zi_0]
  exact zi_le h (bo_lit (by omega) (by omega))
theorem zi_eq0 {a : Int} (h : bo_ 2147483647 a) : zI a = (0 : Int32) ↔ a = 0 := by
  rw [zi_0]
  exact zi_eq h (bo_lit (by omega) (by omega))
/-- the array's cells below 14 -/
def tb_ (a : Nat → Int32) (A : Nat → Int) : Prop := ∀ i, i < 14 → a i = zI (A i)
theorem tb_at {a : Nat → Int32} {A : Nat → Int} (h : tb_ a A) {j : Nat} (hj : j < 14) : a (nI j).toNatClampNeg = zI (A j) := by
  rw [nI_clamp (by omega)]
  exact h j hj
theorem cp_bo {S : Nat → Prop} {s l : Nat → Int} {j : Nat} {t b : Int} (h : cp_ S s l j t b) (hs : ∀ i, i < j → bo_ 162 (s i)) (hl : ∀ i, i < j → bo_ 32076 (l i)) : bo_ 162 b ∧ (b ≠ 0 → bo_ 32076 t) := by
  rcases h with ⟨e, _⟩ | ⟨e, ⟨i, hi, _, h1, h2⟩, _⟩
  · rw [e]
    exact ⟨bo_lit (by omega) (by omega), fun z => absurd rfl z⟩
  · rw [← h1, ← h2]
    exact ⟨hs i hi, fun _ => hl i hi⟩
theorem bo_quo {m w p x : Int} (hw : 0 < w) (e : w * p = x) (h : bo_ m x) : bo_ m p := by
  obtain ⟨h1, h2⟩ := h
  constructor
  · rcases Int.lt_or_le p (-m) with z | z
    · have := Int.mul_le_mul_of_nonneg_right (show 1 ≤ w by omega) (show 0 ≤ -p by omega)
      rw [Int.mul_neg, Int.mul_neg] at this
      omega
    · exact z
  · rcases Int.lt_or_le m p with z | z
    · have := Int.mul_le_mul_of_nonneg_right (show 1 ≤ w by omega) (show 0 ≤ p by omega)
      omega
    · exact z
section
variable {A B C : Nat → Int} {S : Nat → Prop}
theorem sl_bo (hb : bb_ A B C) {k j : Nat} (hk : k < 14) (hj : j < 14) : bo_ 162 (sl_ A B k j) := bo_le (bo_sub (bo_mul (hb j hj).1 (hb k hk).2.1) (bo_mul (hb j hj).2.1 (hb k hk).1)) (by decide)
theorem li_bo (hb : bb_ A B C) {k j : Nat} (hk : k < 14) (hj : j < 14) : bo_ 32076 (li_ A B C k j) :=
  bo_le (bo_sub (bo_mul (hb j hj).2.2 (bo_add (bo_mul (hb k hk).1 (hb k hk).1) (bo_mul (hb k hk).2.1 (hb k hk).2.1))) (bo_mul (hb k hk).2.2 (bo_add (bo_mul (hb j hj).1 (hb k hk).1) (bo_mul (hb j hj).2.1 (hb k hk).2.1)))) (by decide)
variable {f_count f_p f_q f_px f_py f_pd f_lowTop f_lowBottom f_highTop f_highBottom f_corners f_made : Int32} {a_as a_bs a_cs a_cornerX a_cornerY a_cornerD a_newX a_newY a_newD : Nat → Int32}
theorem xa_hi {post : SX → Prop} {k j : Nat} {ht hb : Int} (hbb : bb_ A B C) (hk : k < 14) (hj : j < 14) (hS : S j) (hp : 0 < sl_ A B k j) (h : cp_ S (sl_ A B k) (li_ A B C k) j ht hb)
    (K : ∀ ht' hb', cp_ S (sl_ A B k) (li_ A B C k) (j + 1) ht' hb' → post (f_count, f_p, f_q, f_px, f_py, f_pd, f_lowTop, f_lowBottom, zI ht', zI hb', f_corners, f_made, a_as, a_bs, a_cs, a_cornerX, a_cornerY, a_cornerD, a_newX, a_newY, a_newD)) : wpX_capHigh post (f_count, f_p, f_q, f_px, f_py, f_pd, f_lowTop, f_lowBottom, zI ht, zI hb, f_corners, f_made, a_as, a_bs, a_cs, a_cornerX, a_cornerY, a_cornerD, a_newX, a_newY, a_newD) (zI (li_ A B C k j)) (zI (sl_ A B k j)) := by
  obtain ⟨b1, b2⟩ := cp_bo h (fun i hi => sl_bo hbb hk (by omega)) (fun i hi => li_bo hbb hk (by omega))
  by_cases z : hb = 0
  · exact br_t ((zi_eq0 (bo_le b1 (by decide))).mpr z) (K _ _ (cp_new h hS hp (Or.inl z)))
  · refine br_f (fun w => z ((zi_eq0 (bo_le b1 (by decide))).mp w)) ?_
    have q := zi_le (a := ht * sl_ A B k j) (b := li_ A B C k j * hb) (bo_le (bo_mul (b2 z) (sl_bo hbb hk hj)) (by decide)) (bo_le (bo_mul (li_bo hbb hk hj) b1) (by decide))
    rw [zi_mul, zi_mul]
    by_cases y : ht * sl_ A B k j ≤ li_ A B C k j * hb
    · exact br_t (q.mpr y) (K _ _ (cp_keep h z y))
    · exact br_f (fun w => y (q.mp w)) (K _ _ (cp_new h hS hp (Or.inr (by omega))))
theorem xa_lo {post : SX → Prop} {k j : Nat} {lt lb : Int} (hbb : bb_ A B C) (hk : k < 14) (hj : j < 14) (hS : S j) (hp : sl_ A B k j < 0) (h : cp_ S (fun i => -sl_ A B k i) (li_ A B C k) j (-lt) lb)
    (K : ∀ lt' lb', cp_ S (fun i => -sl_ A B k i) (li_ A B C k) (j + 1) (-lt') lb' → post (f_count, f_p, f_q, f_px, f_py, f_pd, zI lt', zI lb', f_highTop, f_highBottom, f_corners, f_made, a_as, a_bs, a_cs, a_cornerX, a_cornerY, a_cornerD, a_newX, a_newY, a_newD)) : wpX_capLow post (f_count, f_p, f_q, f_px, f_py, f_pd, zI lt, zI lb, f_highTop, f_highBottom, f_corners, f_made, a_as, a_bs, a_cs, a_cornerX, a_cornerY, a_cornerD, a_newX, a_newY, a_newD) (-zI (li_ A B C k j)) (-zI (sl_ A B k j)) := by
  obtain ⟨b1, b2⟩ := cp_bo h (fun i hi => bo_neg (sl_bo hbb hk (by omega))) (fun i hi => li_bo hbb hk (by omega))
  have hn : 0 < (fun i => -sl_ A B k i) j := by
    show 0 < -sl_ A B k j
    omega
  have new : (lb = 0 ∨ li_ A B C k j * lb ≤ -lt * -sl_ A B k j) → post (f_count, f_p, f_q, f_px, f_py, f_pd, zI (-li_ A B C k j), zI (-sl_ A B k j), f_highTop, f_highBottom, f_corners, f_made, a_as, a_bs, a_cs, a_cornerX, a_cornerY, a_cornerD, a_newX, a_newY, a_newD) := fun z => K _ _ (by rw [Int.neg_neg]; exact cp_new h hS hn z)
  rw [zi_neg, zi_neg]
  by_cases z : lb = 0
  · exact br_t ((zi_eq0 (bo_le b1 (by decide))).mpr z) (new (Or.inl z))
  · refine br_f (fun w => z ((zi_eq0 (bo_le b1 (by decide))).mp w)) ?_
    have b3 : bo_ 32076 lt := by
      have := bo_neg (b2 z)
      rw [Int.neg_neg] at this
      exact this
    have q := zi_le (a := -li_ A B C k j * lb) (b := lt * -sl_ A B k j) (bo_le (bo_mul (bo_neg (li_bo hbb hk hj)) b1) (by decide)) (bo_le (bo_mul b3 (bo_neg (sl_bo hbb hk hj))) (by decide))
    rw [zi_mul, zi_mul]
    have e1 := Int.neg_mul_neg lt (sl_ A B k j)
    have e2 := Int.neg_mul (li_ A B C k j) lb
    have e3 := Int.mul_neg lt (sl_ A B k j)
    by_cases y : -li_ A B C k j * lb ≤ lt * -sl_ A B k j
    · refine br_t (q.mpr y) (K _ _ (cp_keep h z ?_))
      show -lt * -sl_ A B k j ≤ li_ A B C k j * lb
      omega
    · exact br_f (fun w => y (q.mp w)) (new (Or.inr (by omega)))
end
end
section
/-! X's walk along a line -/
section
variable {A B C : Nat → Int} {k o : Nat} {ov : Int32}
variable {f_count f_p f_q f_px f_py f_pd f_lowTop f_lowBottom f_highTop f_highBottom f_corners f_made : Int32} {a_as a_bs a_cs a_cornerX a_cornerY a_cornerD a_newX a_newY a_newD : Nat → Int32}
theorem al_skip {S : Nat → Prop} {j : Nat} {lt lb ht hb : Int} (h : al_ A B C S k j lt lb ht hb) (g : S j → sl_ A B k j = 0 ∧ 0 ≤ li_ A B C k j) : al_ A B C S k (j + 1) lt lb ht hb :=
  ⟨lt_s h.1 (fun hS _ => (g hS).2), cp_skip h.2.1 (fun hS => by have := (g hS).1; omega), cp_skip h.2.2 (fun hS => by show -sl_ A B k j ≤ 0; have := (g hS).1; omega)⟩
theorem al_high {S : Nat → Prop} {j : Nat} {lt lb ht hb ht' hb' : Int} (h : al_ A B C S k j lt lb ht hb) (hp : 0 < sl_ A B k j) (g : cp_ S (sl_ A B k) (li_ A B C k) (j + 1) ht' hb') : al_ A B C S k (j + 1) lt lb ht' hb' :=
  ⟨lt_s h.1 (fun _ z => by omega), g, cp_skip h.2.2 (fun _ => by show -sl_ A B k j ≤ 0; omega)⟩
theorem al_low {S : Nat → Prop} {j : Nat} {lt lb ht hb lt' lb' : Int} (h : al_ A B C S k j lt lb ht hb) (hp : sl_ A B k j < 0) (g : cp_ S (fun i => -sl_ A B k i) (li_ A B C k) (j + 1) (-lt') lb') : al_ A B C S k (j + 1) lt' lb' ht hb :=
  ⟨lt_s h.1 (fun _ z => by omega), cp_skip h.2.1 (fun _ => by omega), g⟩
theorem al_bo {S : Nat → Prop} {j : Nat} {lt lb ht hb : Int} (hbb : bb_ A B C) (hk : k < 14) (hj : j ≤ 14) (h : al_ A B C S k j lt lb ht hb) : (bo_ 162 lb ∧ bo_ 162 hb) ∧ (lb ≠ 0 → bo_ 32076 lt) ∧ (hb ≠ 0 → bo_ 32076 ht) := by
  obtain ⟨b1, b2⟩ := cp_bo h.2.1 (fun i hi => sl_bo hbb hk (by omega)) (fun i hi => li_bo hbb hk (by omega))
  obtain ⟨b3, b4⟩ := cp_bo h.2.2 (fun i hi => bo_neg (sl_bo hbb hk (by omega))) (fun i hi => li_bo hbb hk (by omega))
  refine ⟨⟨b3, b1⟩, fun z => ?_, b2⟩
  have := bo_neg (b4 z)
  rw [Int.neg_neg] at this
  exact this
theorem xa_loop {post : Int32 → SX → Prop} (hbb : bb_ A B C) (hq : sq_ A B C) (hA : tb_ a_as A) (hB : tb_ a_bs B) (hC : tb_ a_cs C) (hk : k < 14) (h4 : 4 ≤ k) (ho : 4 ≤ o) (hov : ∀ j, j < 14 → (nI j = ov ↔ j = o)) (hN : 0 < A k * A k + B k * B k)
    (H1 : ∀ lt lb ht hb, al_ A B C (ss_ k o) k k lt lb ht hb → 0 < lb → 0 < hb → lt * hb ≤ ht * lb → post 1 (f_count, f_p, f_q, f_px, f_py, f_pd, zI lt, zI lb, zI ht, zI hb, f_corners, f_made, a_as, a_bs, a_cs, a_cornerX, a_cornerY, a_cornerD, a_newX, a_newY, a_newD))
    (H0 : ∀ t1 t2 t3 t4 : Int32, (∀ x y d, fe_ A B C (ss_ k o) x y d → ¬ ti_ A B C k x y d) → post 0 (f_count, f_p, f_q, f_px, f_py, f_pd, t1, t2, t3, t4, f_corners, f_made, a_as, a_bs, a_cs, a_cornerX, a_cornerY, a_cornerD, a_newX, a_newY, a_newD)) :
    ∀ (d j fu : Nat) (lt lb ht hb : Int), j + d = k → d < fu → al_ A B C (ss_ k o) k j lt lb ht hb → wX_alongLine_41 post (nI k) ov (zI (A k * A k + B k * B k)) fu (nI j) f_count f_p f_q f_px f_py f_pd (zI lt) (zI lb) (zI ht) (zI hb) f_corners f_made a_as a_bs a_cs a_cornerX a_cornerY a_cornerD a_newX a_newY a_newD := by
  intro d
  induction d with
  | zero =>
    intro j fu lt lb ht hb hj hf al
    obtain ⟨fu, rfl⟩ : ∃ n', fu = n' + 1 := ⟨fu - 1, by omega⟩
    have hjk : j = k := by omega
    subst hjk
    refine br_t (nI_le (by omega) (by omega)) ?_
    obtain ⟨pl, ph⟩ := al_sq hq hN h4 (fun i hi => ⟨by omega, by omega⟩) al
    obtain ⟨⟨b1, b2⟩, b3, b4⟩ := al_bo hbb hk (by omega) al
    have q := zi_lt (a := ht * lb) (b := lt * hb) (bo_le (bo_mul (b4 (by omega)) b1) (by decide)) (bo_le (bo_mul (b3 (by omega)) b2) (by decide))
    rw [zi_mul, zi_mul]
    by_cases y : ht * lb < lt * hb
    · refine br_t (q.mpr y) (H0 _ _ _ _ ?_)
      intro x' y' d' f' t'
      obtain ⟨g1, g2⟩ := al_btw hN (fun i _ hS => f'.2 i hS) al pl ph t'
      have := al_gap pl ph f'.1 g1 g2
      omega
    · exact br_f (fun w => y (q.mp w)) (H1 _ _ _ _ al pl ph (by omega))
  | succ d ih =>
    intro j fu lt lb ht hb hj hf al
    obtain ⟨fu, rfl⟩ : ∃ n', fu = n' + 1 := ⟨fu - 1, by omega⟩
    have hj14 : j < 14 := by omega
    refine br_f (nI_ge (by omega) (by omega)) ?_
    by_cases zo : j = o
    · exact br_t ((hov j hj14).mpr zo) (nm_r (nI_1 j) (ih (j + 1) fu lt lb ht hb (by omega) (by omega) (al_skip al (fun hS => absurd zo hS.2))))
    · have hS : ss_ k o j := ⟨by omega, zo⟩
      have vj : vp_in (nI j) 14 := vp_in_nI hj14 (by decide)
      have vk : vp_in (nI k) 14 := vp_in_nI hk (by decide)
      have es : a_as (nI j).toNatClampNeg * a_bs (nI k).toNatClampNeg - a_bs (nI j).toNatClampNeg * a_as (nI k).toNatClampNeg = zI (sl_ A B k j) := by
        rw [tb_at hA hj14, tb_at hB hk, tb_at hB hj14, tb_at hA hk, zi_mul, zi_mul, zi_sub]
        rfl
      have el : a_cs (nI j).toNatClampNeg * zI (A k * A k + B k * B k) - a_cs (nI k).toNatClampNeg * (a_as (nI j).toNatClampNeg * a_as (nI k).toNatClampNeg + a_bs (nI j).toNatClampNeg * a_bs (nI k).toNatClampNeg) = zI (li_ A B C k j) := by
        rw [tb_at hA hj14, tb_at hB hk, tb_at hB hj14, tb_at hA hk, tb_at hC hj14, tb_at hC hk, zi_mul, zi_mul, zi_mul, zi_add, zi_mul, zi_sub]
        rfl
      have bs := bo_le (sl_bo hbb hk hj14) (show (162 : Int) ≤ 2147483647 by decide)
      have bl := bo_le (li_bo hbb hk hj14) (show (32076 : Int) ≤ 2147483647 by decide)
      refine br_f (fun w => zo ((hov j hj14).mp w)) ⟨vj, vk, vj, vk, nm_r es ⟨vj, vk, vj, vk, vj, vk, nm_r el ?_⟩⟩
      rcases Int.lt_trichotomy (sl_ A B k j) 0 with z | z | z
      · refine br_t ((zi_np bs).mpr (by omega)) (br_f (fun w => by have := (zi_nn bs).mp w; omega) ?_)
        exact xa_lo hbb hk hj14 hS z al.2.2 (fun lt' lb' hc => nm_r (nI_1 j) (ih (j + 1) fu lt' lb' ht hb (by omega) (by omega) (al_low al z hc)))
      · refine br_t ((zi_np bs).mpr (by omega)) (br_t ((zi_nn bs).mpr (by omega)) ?_)
        by_cases y : 0 ≤ li_ A B C k j
        · exact br_t ((zi_nn bl).mpr y) (nm_r (nI_1 j) (ih (j + 1) fu lt lb ht hb (by omega) (by omega) (al_skip al (fun _ => ⟨z, y⟩))))
        · refine br_f (fun w => y ((zi_nn bl).mp w)) (H0 _ _ _ _ ?_)
          intro x' y' d' f' t'
          have := (ln_le (j := j) hN t').mp (f'.2 j hS)
          rw [z, Int.zero_mul, Int.mul_comm] at this
          exact y ((sg_ge f'.1).mp this)
      · refine br_f (fun w => by have := (zi_np bs).mp w; omega) ?_
        exact xa_hi hbb hk hj14 hS z al.2.1 (fun ht' hb' hc => nm_r (nI_1 j) (ih (j + 1) fu lt lb ht' hb' (by omega) (by omega) (al_high al z hc)))
theorem xa_ {post : Int32 → SX → Prop} (hbb : bb_ A B C) (hq : sq_ A B C) (hA : tb_ a_as A) (hB : tb_ a_bs B) (hC : tb_ a_cs C) (hk : k < 14) (h4 : 4 ≤ k) (ho : 4 ≤ o) (hov : ∀ j, j < 14 → (nI j = ov ↔ j = o)) (hN : 0 < A k * A k + B k * B k)
    (H1 : ∀ lt lb ht hb, al_ A B C (ss_ k o) k k lt lb ht hb → 0 < lb → 0 < hb → lt * hb ≤ ht * lb → post 1 (f_count, f_p, f_q, f_px, f_py, f_pd, zI lt, zI lb, zI ht, zI hb, f_corners, f_made, a_as, a_bs, a_cs, a_cornerX, a_cornerY, a_cornerD, a_newX, a_newY, a_newD))
    (H0 : ∀ t1 t2 t3 t4 : Int32, (∀ x y d, fe_ A B C (ss_ k o) x y d → ¬ ti_ A B C k x y d) → post 0 (f_count, f_p, f_q, f_px, f_py, f_pd, t1, t2, t3, t4, f_corners, f_made, a_as, a_bs, a_cs, a_cornerX, a_cornerY, a_cornerD, a_newX, a_newY, a_newD)) :
    wpX_alongLine post (f_count, f_p, f_q, f_px, f_py, f_pd, f_lowTop, f_lowBottom, f_highTop, f_highBottom, f_corners, f_made, a_as, a_bs, a_cs, a_cornerX, a_cornerY, a_cornerD, a_newX, a_newY, a_newD) (nI k) ov := by
  have vk : vp_in (nI k) 14 := vp_in_nI hk (by decide)
  have en : a_as (nI k).toNatClampNeg * a_as (nI k).toNatClampNeg + a_bs (nI k).toNatClampNeg * a_bs (nI k).toNatClampNeg = zI (A k * A k + B k * B k) := by
    rw [tb_at hA hk, tb_at hB hk, zi_mul, zi_mul, zi_add]
  unfold wpX_alongLine
  dsimp only
  refine ⟨vk, vk, vk, vk, nm_r en ⟨15, ?_⟩⟩
  have := xa_loop hbb hq hA hB hC hk h4 ho hov hN H1 H0 k 0 15 f_lowTop.toInt 0 f_highTop.toInt 0 (by omega) (by omega) ⟨fun i h => absurd h (Nat.not_lt_zero i), cp_0, cp_0⟩
  rw [zi_of, zi_of] at this
  exact this
theorem xt_81 {post : Int32 → SX → Prop} {top bot : Int} (hbb : bb_ A B C) (hC : tb_ a_cs C) (hk : k < 14) (hz : ¬ (A k = 0 ∧ B k = 0)) (hbot : 0 < bot) (bb : bo_ 162 bot) (bt : bo_ 32076 top)
    (H : ∀ px py pd w : Int, 0 < w → bo_ 433026 px → bo_ 433026 py → bo_ 26244 pd → w * px = A k * C k * bot + top * B k → w * py = B k * C k * bot - top * A k → w * pd = (A k * A k + B k * B k) * bot → post 1 (f_count, f_p, f_q, zI px, zI py, zI pd, f_lowTop, f_lowBottom, f_highTop, f_highBottom, f_corners, f_made, a_as, a_bs, a_cs, a_cornerX, a_cornerY, a_cornerD, a_newX, a_newY, a_newD)) :
    wX_takeEnd_81 post (nI k) (zI (A k)) (zI (B k)) (zI top) (zI bot) f_count f_p f_q f_px f_py f_pd f_lowTop f_lowBottom f_highTop f_highBottom f_corners f_made a_as a_bs a_cs a_cornerX a_cornerY a_cornerD a_newX a_newY a_newD := by
  have vk : vp_in (nI k) 14 := vp_in_nI hk (by decide)
  obtain ⟨ba, bb', bc⟩ := hbb k hk
  have hN := sq_pos hz
  have hd := Int.mul_pos hN hbot
  have ex : zI (A k) * a_cs (nI k).toNatClampNeg * zI bot + zI top * zI (B k) = zI (A k * C k * bot + top * B k) := by
    rw [tb_at hC hk, zi_mul, zi_mul, zi_mul, zi_add]
  have ey : zI (B k) * a_cs (nI k).toNatClampNeg * zI bot - zI top * zI (A k) = zI (B k * C k * bot - top * A k) := by
    rw [tb_at hC hk, zi_mul, zi_mul, zi_mul, zi_sub]
  have ed : (zI (A k) * zI (A k) + zI (B k) * zI (B k)) * zI bot = zI ((A k * A k + B k * B k) * bot) := by
    rw [zi_mul, zi_mul, zi_add, zi_mul]
  have bx : bo_ 433026 (A k * C k * bot + top * B k) := bo_le (bo_add (bo_mul (bo_mul ba bc) bb) (bo_mul bt bb')) (by decide)
  have by' : bo_ 433026 (B k * C k * bot - top * A k) := bo_le (bo_sub (bo_mul (bo_mul bb' bc) bb) (bo_mul bt ba)) (by decide)
  have bd : bo_ 26244 ((A k * A k + B k * B k) * bot) := bo_le (bo_mul (bo_add (bo_mul ba ba) (bo_mul bb' bb')) bb) (by decide)
  refine br_f (fun w => by have := (zi_eq0 (bo_le bb (by decide))).mp w; omega) ⟨vk, nm_r ex ⟨vk, nm_r ey (nm_r ed ?_)⟩⟩
  generalize A k * C k * bot + top * B k = x at *
  generalize B k * C k * bot - top * A k = y at *
  generalize (A k * A k + B k * B k) * bot = d at *
  rw [zi_abs (Int.le_of_lt hd)]
  have hd31 : d.natAbs < 2 ^ 31 := by unfold bo_ at bd; omega
  have g1 := gd_dv (a := x) (b := d.natAbs) (by omega)
  have g2 := gd_dv (a := y) (b := Nat.gcd x.natAbs d.natAbs) g1.1
  refine xd_ (bo_le bx (by decide)) (by omega) hd31 (xd_ (bo_le by' (by decide)) g1.1 (by omega) ?_)
  obtain ⟨p, e1, e2, e3⟩ := pr_nrm (x := x) (y := y) hd
  have hg : Nat.gcd y.natAbs (Nat.gcd x.natAbs d.natAbs) = g3_ x y d := rfl
  rw [hg] at g2 ⊢
  have hne : ¬ nI (g3_ x y d) = 0 := nI_ne0 g2.1 (by omega)
  have hgb : bo_ 2147483647 (g3_ x y d : Int) := bo_nat (by omega)
  have q1 : zI x / nI (g3_ x y d) = zI (x.tdiv (g3_ x y d)) := by rw [zi_n, zi_div (bo_le bx (by decide)) hgb]
  have q2 : zI y / nI (g3_ x y d) = zI (y.tdiv (g3_ x y d)) := by rw [zi_n, zi_div (bo_le by' (by decide)) hgb]
  have q3 : nI d.natAbs / nI (g3_ x y d) = zI (d.tdiv (g3_ x y d)) := by rw [← zi_abs (Int.le_of_lt hd), zi_n, zi_div (bo_le bd (by decide)) hgb]
  have hgp : (0 : Int) < (g3_ x y d : Int) := by omega
  exact ⟨hne, nm_r q1 ⟨hne, nm_r q2 ⟨hne, nm_r q3 (H _ _ _ (g3_ x y d) hgp (bo_quo hgp e1.symm bx) (bo_quo hgp e2.symm by') (bo_quo hgp e3.symm bd) e1.symm e2.symm e3.symm)⟩⟩⟩
theorem xt_47 {post : Int32 → SX → Prop} {g h r lt lb ht hb : Int} (hbb : bb_ A B C) (hC : tb_ a_cs C) (hk : k < 14) (hz : ¬ (A k = 0 ∧ B k = 0)) (hr : bo_ 2147483647 r) (hl : 0 < lb) (hh : 0 < hb) (b1 : bo_ 162 lb) (b2 : bo_ 162 hb) (b3 : bo_ 32076 lt) (b4 : bo_ 32076 ht)
    (H : ∀ px py pd w top bot : Int, 0 < w → bo_ 433026 px → bo_ 433026 py → bo_ 26244 pd → ((0 < r ∧ top = ht ∧ bot = hb) ∨ (r ≤ 0 ∧ top = lt ∧ bot = lb)) → w * px = A k * C k * bot + top * B k → w * py = B k * C k * bot - top * A k → w * pd = (A k * A k + B k * B k) * bot → post 1 (f_count, f_p, f_q, zI px, zI py, zI pd, zI lt, zI lb, zI ht, zI hb, f_corners, f_made, a_as, a_bs, a_cs, a_cornerX, a_cornerY, a_cornerD, a_newX, a_newY, a_newD)) :
    wX_takeEnd_47 post (nI k) (zI (A k)) (zI (B k)) (zI r) f_count f_p f_q f_px f_py f_pd (zI lt) (zI lb) (zI ht) (zI hb) f_corners f_made a_as a_bs a_cs a_cornerX a_cornerY a_cornerD a_newX a_newY a_newD := by
  by_cases z : r ≤ 0
  · refine br_t ((zi_np hr).mpr z) (br_t ((zi_np hr).mpr z) ?_)
    exact xt_81 hbb hC hk hz hl b1 b3 (fun px py pd w hw p1 p2 p3 e1 e2 e3 => H px py pd w lt lb hw p1 p2 p3 (Or.inr ⟨z, rfl, rfl⟩) e1 e2 e3)
  · refine br_f (fun w => z ((zi_np hr).mp w)) (br_f (fun w => z ((zi_np hr).mp w)) ?_)
    exact xt_81 hbb hC hk hz hh b2 b4 (fun px py pd w hw p1 p2 p3 e1 e2 e3 => H px py pd w ht hb hw p1 p2 p3 (Or.inl ⟨by omega, rfl, rfl⟩) e1 e2 e3)
theorem xt_ {post : Int32 → SX → Prop} {g h lt lb ht hb : Int} (hbb : bb_ A B C) (hA : tb_ a_as A) (hB : tb_ a_bs B) (hC : tb_ a_cs C) (hk : k < 14) (hz : ¬ (A k = 0 ∧ B k = 0)) (hg : bo_ 9 g) (hh' : bo_ 9 h) (hl : 0 < lb) (hh : 0 < hb) (b1 : bo_ 162 lb) (b2 : bo_ 162 hb) (b3 : bo_ 32076 lt) (b4 : bo_ 32076 ht)
    (H : ∀ px py pd w top bot : Int, 0 < w → bo_ 433026 px → bo_ 433026 py → bo_ 26244 pd → ((0 < rr_ g h (A k) (B k) ∧ top = ht ∧ bot = hb) ∨ (rr_ g h (A k) (B k) ≤ 0 ∧ top = lt ∧ bot = lb)) → w * px = A k * C k * bot + top * B k → w * py = B k * C k * bot - top * A k → w * pd = (A k * A k + B k * B k) * bot → post 1 (f_count, f_p, f_q, zI px, zI py, zI pd, zI lt, zI lb, zI ht, zI hb, f_corners, f_made, a_as, a_bs, a_cs, a_cornerX, a_cornerY, a_cornerD, a_newX, a_newY, a_newD)) :
    wpX_takeEnd post (f_count, f_p, f_q, f_px, f_py, f_pd, zI lt, zI lb, zI ht, zI hb, f_corners, f_made, a_as, a_bs, a_cs, a_cornerX, a_cornerY, a_cornerD, a_newX, a_newY, a_newD) (nI k) (zI g) (zI h) := by
  have vk : vp_in (nI k) 14 := vp_in_nI hk (by decide)
  obtain ⟨ba, bb', bc⟩ := hbb k hk
  have er : zI g * zI (B k) - zI h * zI (A k) = zI (g * B k - h * A k) := by rw [zi_mul, zi_mul, zi_sub]
  have br : bo_ 2147483647 (g * B k - h * A k) := bo_le (bo_sub (bo_mul hg bb') (bo_mul hh' ba)) (by decide)
  unfold wpX_takeEnd
  dsimp only
  refine ⟨vk, nm_r (tb_at hA hk) ⟨vk, nm_r (tb_at hB hk) (nm_r er ?_)⟩⟩
  have hrr : rr_ g h (A k) (B k) = if g * B k - h * A k = 0 then (if B k = 0 then A k else -B k) else g * B k - h * A k := rfl
  by_cases z : g * B k - h * A k = 0
  · rw [if_pos z] at hrr
    refine br_t ((zi_eq0 br).mpr z) ?_
    by_cases y : B k = 0
    · rw [if_pos y] at hrr
      rw [hrr] at H
      refine br_t ((zi_eq0 (bo_le bb' (by decide))).mpr y) ?_
      exact xt_47 (g := g) (h := h) hbb hC hk hz (bo_le ba (by decide)) hl hh b1 b2 b3 b4 H
    · rw [if_neg y] at hrr
      rw [hrr] at H
      refine br_f (fun w => y ((zi_eq0 (bo_le bb' (by decide))).mp w)) ?_
      rw [zi_neg]
      exact xt_47 (g := g) (h := h) hbb hC hk hz (bo_le (bo_neg bb') (by decide)) hl hh b1 b2 b3 b4 H
  · rw [if_neg z] at hrr
    rw [hrr] at H
    refine br_f (fun w => z ((zi_eq0 br).mp w)) ?_
    exact xt_47 (g := g) (h := h) hbb hC hk hz br hl hh b1 b2 b3 b4 H
end
end
section
/-! X's solve: the loop over the lines -/
theorem zi_m20 : (-20 : Int32) = zI (-20) := by decide
section
variable {A B C : Nat → Int} {n o : Nat} {ov : Int32}
variable {f_count f_p f_q f_px f_py f_pd f_lowTop f_lowBottom f_highTop f_highBottom f_corners f_made : Int32} {a_as a_bs a_cs a_cornerX a_cornerY a_cornerD a_newX a_newY a_newD : Nat → Int32}
theorem xs_loop {post : Int32 → SX → Prop} {g h : Int} (hbb : bb_ A B C) (hq : sq_ A B C) (hA : tb_ a_as A) (hB : tb_ a_bs B) (hC : tb_ a_cs C) (hn : n ≤ 10) (ho : 4 ≤ o) (hov : ∀ j, j < 14 → (nI j = ov ↔ j = o)) (hg : bo_ 9 g) (hh : bo_ 9 h)
    (H1 : ∀ (px py pd : Int) (t1 t2 t3 t4 : Int32), be_ A B C (ss_ (4 + n) o) (gg_ g) (gh_ h) px py pd → bo_ 433026 px → bo_ 433026 py → bo_ 26244 pd → post 1 (nI n, f_p, f_q, zI px, zI py, zI pd, t1, t2, t3, t4, f_corners, f_made, a_as, a_bs, a_cs, a_cornerX, a_cornerY, a_cornerD, a_newX, a_newY, a_newD))
    (H0 : ∀ (s1 s2 s3 t1 t2 t3 t4 : Int32), (∀ x y d, ¬ fe_ A B C (ss_ (4 + n) o) x y d) → post 0 (nI n, f_p, f_q, s1, s2, s3, t1, t2, t3, t4, f_corners, f_made, a_as, a_bs, a_cs, a_cornerX, a_cornerY, a_cornerD, a_newX, a_newY, a_newD)) :
    ∀ (d k fu : Nat) (px py pd : Int) (t1 t2 t3 t4 : Int32), k + d = 4 + n → 4 ≤ k → d < fu → be_ A B C (ss_ k o) (gg_ g) (gh_ h) px py pd → bo_ 433026 px → bo_ 433026 py → bo_ 26244 pd →
      wX_solve_62 post (zI g) (zI h) ov fu (nI k) (nI n) f_p f_q (zI px) (zI py) (zI pd) t1 t2 t3 t4 f_corners f_made a_as a_bs a_cs a_cornerX a_cornerY a_cornerD a_newX a_newY a_newD := by
  intro d
  induction d with
  | zero =>
    intro k fu px py pd t1 t2 t3 t4 hk h4 hf hb b1 b2 b3
    obtain ⟨fu, rfl⟩ : ∃ n', fu = n' + 1 := ⟨fu - 1, by omega⟩
    have e : k = 4 + n := by omega
    subst e
    exact pk_le (4 + n) (4 + n) (fun _ => H1 _ _ _ _ _ _ _ hb b1 b2 b3) (fun z => by omega) (nI_add 4 n) rfl (by omega) (by omega)
  | succ d ih =>
    intro k fu px py pd t1 t2 t3 t4 hk h4 hf hb b1 b2 b3
    obtain ⟨fu, rfl⟩ : ∃ n', fu = n' + 1 := ⟨fu - 1, by omega⟩
    have hk14 : k < 14 := by omega
    have vk : vp_in (nI k) 14 := vp_in_nI hk14 (by decide)
    refine pk_le (4 + n) k (fun z => by omega) (fun _ => ?_) (nI_add 4 n) rfl (by omega) (by omega)
    by_cases zo : k = o
    · exact br_t ((hov k hk14).mpr zo) (nm_r (nI_1 k) (ih (k + 1) fu px py pd t1 t2 t3 t4 (by omega) (by omega) (by omega) (be_keep hb (fun z => absurd zo z)) b1 b2 b3))
    · obtain ⟨ba, bb', bc⟩ := hbb k hk14
      have e1 : a_as (nI k).toNatClampNeg * zI px + a_bs (nI k).toNatClampNeg * zI py = zI (A k * px + B k * py) := by
        rw [tb_at hA hk14, tb_at hB hk14, zi_mul, zi_mul, zi_add]
      have e2 : a_cs (nI k).toNatClampNeg * zI pd = zI (C k * pd) := by
        rw [tb_at hC hk14, zi_mul]
      have q := zi_le (a := A k * px + B k * py) (b := C k * pd) (bo_le (bo_add (bo_mul ba b1) (bo_mul bb' b2)) (by decide)) (bo_le (bo_mul bc b3) (by decide))
      refine br_f (fun w => zo ((hov k hk14).mp w)) ⟨vk, vk, vk, ?_⟩
      rw [e1, e2]
      by_cases y : A k * px + B k * py ≤ C k * pd
      · exact br_t (q.mpr y) (nm_r (nI_1 k) (ih (k + 1) fu px py pd t1 t2 t3 t4 (by omega) (by omega) (by omega) (be_keep hb (fun _ => y)) b1 b2 b3))
      · have hk2 : C k * pd < A k * px + B k * py := by omega
        refine br_f (fun w => y (q.mp w)) ⟨vk, ?_⟩
        have K139 : ¬ (A k = 0 ∧ B k = 0) → wX_solve_139 post (wX_solve_62 post (zI g) (zI h) ov fu) (zI g) (zI h) ov (nI k) (nI n) f_p f_q (zI px) (zI py) (zI pd) t1 t2 t3 t4 f_corners f_made a_as a_bs a_cs a_cornerX a_cornerY a_cornerD a_newX a_newY a_newD := by
          intro hz
          have hN := sq_pos hz
          refine xa_ hbb hq hA hB hC hk14 h4 ho hov hN (fun lt lb ht hb' al pl ph hle => ?_) (fun t1 t2 t3 t4 hE => ?_)
          · obtain ⟨⟨c1, c2⟩, c3, c4⟩ := al_bo hbb hk14 (by omega) al
            refine br_f (by decide) ?_
            refine xt_ hbb hA hB hC hk14 hz hg hh pl ph c1 c2 (c3 (by omega)) (c4 (by omega)) (fun px' py' pd' w top bot hw p1 p2 p3 hc e1 e2 e3 => ?_)
            refine br_f (by decide) (br_f (by decide) (nm_r (nI_1 k) (ih (k + 1) fu px' py' pd' _ _ _ _ (by omega) (by omega) (by omega) ?_ p1 p2 p3)))
            apply be_scale hw
            rw [e1, e2, e3]
            obtain ⟨⟨f1, i1, s1, l1, u1⟩, f2, i2, s2, l2, u2⟩ := al_end hN (fun i hi => hi.1) al pl ph hle
            rcases hc with ⟨hr, rfl, rfl⟩ | ⟨hr, rfl, rfl⟩
            · exact be_new hb hk2 zo f1 (pt_ti _ _ _) (be_hi hN al ph ((rr_sign ba bb').1 hr))
            · exact be_new hb hk2 zo f2 (pt_ti _ _ _) (be_lo hN al pl ((rr_sign ba bb').2 hr))
          · exact br_t rfl (br_t rfl (H0 _ _ _ _ _ _ _ (be_none hb hk2 zo hE _ (by omega))))
        have qa : a_as (nI k).toNatClampNeg = 0 ↔ A k = 0 := by
          rw [tb_at hA hk14]
          exact zi_eq0 (bo_le ba (by decide))
        have qb : a_bs (nI k).toNatClampNeg = 0 ↔ B k = 0 := by
          rw [tb_at hB hk14]
          exact zi_eq0 (bo_le bb' (by decide))
        by_cases za : A k = 0
        · refine br_t (qa.mpr za) ⟨vk, ?_⟩
          by_cases zb : B k = 0
          · refine br_t (qb.mpr zb) (br_t rfl (H0 _ _ _ _ _ _ _ (be_none hb hk2 zo ?_ _ (by omega))))
            intro x' y' d' f' t'
            unfold ti_ at t'
            rw [za, zb] at t' hk2
            have h1 : C k * pd < 0 := by omega
            have h2 : C k * d' = 0 := by omega
            rcases Int.mul_eq_zero.mp h2 with z | z
            · rw [z] at h1
              omega
            · have := f'.1
              omega
          · exact br_f (fun w => zb (qb.mp w)) (K139 (fun z => zb z.2))
        · exact br_f (fun w => za (qa.mp w)) (K139 (fun z => za z.1))
theorem xv_ {post : Int32 → SX → Prop} {g h : Int} (hbb : bb_ A B C) (hq : sq_ A B C) (hA : tb_ a_as A) (hB : tb_ a_bs B) (hC : tb_ a_cs C) (hn : n ≤ 10) (ho : 4 ≤ o) (hov : ∀ j, j < 14 → (nI j = ov ↔ j = o)) (hg : bo_ 9 g) (hh : bo_ 9 h)
    (H1 : ∀ (px py pd : Int) (t1 t2 t3 t4 : Int32), be_ A B C (ss_ (4 + n) o) (gg_ g) (gh_ h) px py pd → bo_ 433026 px → bo_ 433026 py → bo_ 26244 pd → post 1 (nI n, f_p, f_q, zI px, zI py, zI pd, t1, t2, t3, t4, f_corners, f_made, a_as, a_bs, a_cs, a_cornerX, a_cornerY, a_cornerD, a_newX, a_newY, a_newD))
    (H0 : ∀ (s1 s2 s3 t1 t2 t3 t4 : Int32), (∀ x y d, ¬ fe_ A B C (ss_ (4 + n) o) x y d) → post 0 (nI n, f_p, f_q, s1, s2, s3, t1, t2, t3, t4, f_corners, f_made, a_as, a_bs, a_cs, a_cornerX, a_cornerY, a_cornerD, a_newX, a_newY, a_newD)) :
    wpX_solve post (nI n, f_p, f_q, f_px, f_py, f_pd, f_lowTop, f_lowBottom, f_highTop, f_highBottom, f_corners, f_made, a_as, a_bs, a_cs, a_cornerX, a_cornerY, a_cornerD, a_newX, a_newY, a_newD) (zI g) (zI h) ov := by
  have bg := bo_le hg (show (9 : Int) ≤ 2147483647 by decide)
  have bh := bo_le hh (show (9 : Int) ≤ 2147483647 by decide)
  have L : ∀ x y : Int, x = (if 0 < gg_ g then 20 else -20) → y = (if 0 < gh_ h then 20 else -20) → wX_solve_62 post (zI g) (zI h) ov 15 (nI 4) (nI n) f_p f_q (zI x) (zI y) (zI 1) f_lowTop f_lowBottom f_highTop f_highBottom f_corners f_made a_as a_bs a_cs a_cornerX a_cornerY a_cornerD a_newX a_newY a_newD := by
    intro x y hx hy
    have bx : bo_ 433026 x := by rw [hx]; unfold bo_; split <;> omega
    have by' : bo_ 433026 y := by rw [hy]; unfold bo_; split <;> omega
    exact xs_loop hbb hq hA hB hC hn ho hov hg hh H1 H0 n 4 15 x y 1 _ _ _ _ (by omega) (by omega) (by omega) (be_sq ho hq _ _ x y hx hy).1 bx by' (bo_lit (by omega) (by omega))
  have up : ∀ x : Int, x = (if 0 < gg_ g then 20 else -20) → ∀ f : Int32, (f = 0 ↔ h ≤ 0) → wX_solve_35 post (zI g) (zI h) ov f (zI x) (nI n) f_p f_q f_px f_py f_pd f_lowTop f_lowBottom f_highTop f_highBottom f_corners f_made a_as a_bs a_cs a_cornerX a_cornerY a_cornerD a_newX a_newY a_newD := by
    intro x hx f hf
    by_cases z : h ≤ 0
    · refine br_t (hf.mpr z) ⟨15, ?_⟩
      rw [zi_m20]
      exact L x (-20) hx (by rw [if_neg (by unfold gh_; omega)])
    · exact br_f (fun w => z (hf.mp w)) ⟨15, L x 20 hx (by rw [if_pos (by unfold gh_; omega)])⟩
  have right : ∀ f : Int32, (f = 0 ↔ h ≤ 0) → ∀ e : Int32, (e = 0 ↔ g ≤ 0) → wX_solve_20 post (zI g) (zI h) ov e f (nI n) f_p f_q f_px f_py f_pd f_lowTop f_lowBottom f_highTop f_highBottom f_corners f_made a_as a_bs a_cs a_cornerX a_cornerY a_cornerD a_newX a_newY a_newD := by
    intro f hf e he
    by_cases z : g ≤ 0
    · refine br_t (he.mpr z) ?_
      rw [zi_m20]
      exact up (-20) (by rw [if_neg (by unfold gg_; omega)]) f hf
    · exact br_f (fun w => z (he.mp w)) (up 20 (by rw [if_pos (by unfold gg_; omega)]) f hf)
  have nine : ∀ e : Int32, (e = 0 ↔ g ≤ 0) → wX_solve_9 post (zI g) (zI h) ov e (nI n) f_p f_q f_px f_py f_pd f_lowTop f_lowBottom f_highTop f_highBottom f_corners f_made a_as a_bs a_cs a_cornerX a_cornerY a_cornerD a_newX a_newY a_newD := by
    intro e he
    by_cases z : h ≤ 0
    · exact br_t ((zi_np bh).mpr z) (right 0 ⟨fun _ => z, fun _ => rfl⟩ e he)
    · exact br_f (fun w => z ((zi_np bh).mp w)) (right 1 ⟨fun w => absurd w (by decide), fun w => absurd w z⟩ e he)
  unfold wpX_solve
  dsimp only
  by_cases z : g ≤ 0
  · exact br_t ((zi_np bg).mpr z) (nine 0 ⟨fun _ => z, fun _ => rfl⟩)
  · exact br_f (fun w => z ((zi_np bg).mp w)) (nine 1 ⟨fun w => absurd w (by decide), fun w => absurd w z⟩)
end
end
section
/-! Y: there, allowed, meets -/
def yT_ (n w : Nat) (i : Nat) : Prop := i < 14 ∧ (9 < i ∨ i < n) ∧ i ≠ w
/-- borders i and j meet at (x, y, d), which all others allow -/
def me_ (A B C : Nat → Int) (S : Nat → Prop) (i j : Nat) (x y d : Int) : Prop := fe_ A B C S x y d ∧ S i ∧ S j ∧ A i * B j - A j * B i ≠ 0 ∧ ti_ A B C i x y d ∧ ti_ A B C j x y d
section
variable {A B C : Nat → Int} {n w : Nat} {wv : Int32}
variable {g_count g_p g_q g_x g_y g_down g_bestX g_bestY g_bestDown : Int32} {a_la a_lb a_lc : Nat → Int32}
theorem yh_ {post : Int32 → Prop} {i : Nat} (hi : i < 14) (hn : n ≤ 10) (H1 : 9 < i ∨ i < n → post 1) (H0 : ¬ (9 < i ∨ i < n) → post 0) : wpY_there post (nI n, g_p, g_q, g_x, g_y, g_down, g_bestX, g_bestY, g_bestDown, a_la, a_lb, a_lc) (nI i) := by
  unfold wpY_there
  dsimp only
  refine pk_lt 9 i (fun z => H1 (Or.inl z)) (fun z => ?_) rfl rfl (by omega) (by omega)
  exact pk_le n i (fun y => H0 (by omega)) (fun y => H1 (Or.inr y)) rfl rfl (by omega) (by omega)
theorem ya_loop {post : Int32 → Prop} {x y d : Int} (hbb : bb_ A B C) (hA : tb_ a_la A) (hB : tb_ a_lb B) (hC : tb_ a_lc C) (hn : n ≤ 10) (hw : ∀ i, i < 14 → (nI i = wv ↔ i = w)) (bx : bo_ 2000 x) (by' : bo_ 2000 y) (bd : bo_ 200 d)
    (H1 : (∀ i, yT_ n w i → A i * x + B i * y ≤ C i * d) → post 1) (H0 : ¬ (∀ i, yT_ n w i → A i * x + B i * y ≤ C i * d) → post 0) :
    ∀ (e j fu : Nat), j + e = 14 → e < fu → (∀ i, i < j → yT_ n w i → A i * x + B i * y ≤ C i * d) → wY_allowed_3 post (zI x) (zI y) (zI d) wv (nI n) g_p g_q g_x g_y g_down g_bestX g_bestY g_bestDown a_la a_lb a_lc fu (nI j) := by
  intro e
  induction e with
  | zero =>
    intro j fu hj hf h
    obtain ⟨fu, rfl⟩ : ∃ n', fu = n' + 1 := ⟨fu - 1, by omega⟩
    exact pk_le 14 j (fun _ => H1 (fun i hi => h i (by have := hi.1; omega) hi)) (fun z => by omega) rfl rfl (by omega) (by omega)
  | succ e ih =>
    intro j fu hj hf h
    obtain ⟨fu, rfl⟩ : ∃ n', fu = n' + 1 := ⟨fu - 1, by omega⟩
    have hj14 : j < 14 := by omega
    have vj : vp_in (nI j) 14 := vp_in_nI hj14 (by decide)
    refine pk_le 14 j (fun z => by omega) (fun _ => ?_) rfl rfl (by omega) (by omega)
    refine yh_ hj14 hn (fun ht => ?_) (fun ht => ?_)
    · refine br_f (by decide) ?_
      by_cases z : j = w
      · exact br_t ((hw j hj14).mpr z) (nm_r (nI_1 j) (ih (j + 1) fu (by omega) (by omega) (lt_s h (fun q => absurd z q.2.2))))
      · refine br_f (fun y => z ((hw j hj14).mp y)) ⟨vj, vj, vj, ?_⟩
        obtain ⟨ba, bb', bc⟩ := hbb j hj14
        have e1 : a_la (nI j).toNatClampNeg * zI x + a_lb (nI j).toNatClampNeg * zI y = zI (A j * x + B j * y) := by
          rw [tb_at hA hj14, tb_at hB hj14, zi_mul, zi_mul, zi_add]
        have e2 : a_lc (nI j).toNatClampNeg * zI d = zI (C j * d) := by
          rw [tb_at hC hj14, zi_mul]
        have q := zi_le (a := A j * x + B j * y) (b := C j * d) (bo_le (bo_add (bo_mul ba bx) (bo_mul bb' by')) (by decide)) (bo_le (bo_mul bc bd) (by decide))
        rw [e1, e2]
        by_cases u : A j * x + B j * y ≤ C j * d
        · exact br_t (q.mpr u) (nm_r (nI_1 j) (ih (j + 1) fu (by omega) (by omega) (lt_s h (fun _ => u))))
        · exact br_f (fun v => u (q.mp v)) (H0 (fun v => u (v j ⟨hj14, ht, z⟩)))
    · exact br_t rfl (nm_r (nI_1 j) (ih (j + 1) fu (by omega) (by omega) (lt_s h (fun q => absurd q.2.1 ht))))
theorem ya_ {post : Int32 → Prop} {x y d : Int} (hbb : bb_ A B C) (hA : tb_ a_la A) (hB : tb_ a_lb B) (hC : tb_ a_lc C) (hn : n ≤ 10) (hw : ∀ i, i < 14 → (nI i = wv ↔ i = w)) (bx : bo_ 2000 x) (by' : bo_ 2000 y) (bd : bo_ 200 d)
    (H1 : (∀ i, yT_ n w i → A i * x + B i * y ≤ C i * d) → post 1) (H0 : ¬ (∀ i, yT_ n w i → A i * x + B i * y ≤ C i * d) → post 0) :
    wpY_allowed post (nI n, g_p, g_q, g_x, g_y, g_down, g_bestX, g_bestY, g_bestDown, a_la, a_lb, a_lc) (zI x) (zI y) (zI d) wv :=
  ⟨15, ya_loop hbb hA hB hC hn hw bx by' bd H1 H0 14 0 15 (by omega) (by omega) lt_0⟩
theorem ym_162 {post : Int32 → SY → Prop} {i j : Nat} {x y d : Int} (hbb : bb_ A B C) (hA : tb_ a_la A) (hB : tb_ a_lb B) (hC : tb_ a_lc C) (hn : n ≤ 10) (hw : ∀ i, i < 14 → (nI i = wv ↔ i = w))
    (hi : yT_ n w i) (hj : yT_ n w j) (hD : A i * B j - A j * B i ≠ 0) (hd : 0 < d) (bx : bo_ 1782 x) (by' : bo_ 1782 y) (bd : bo_ 162 d) (ti : ti_ A B C i x y d) (tj : ti_ A B C j x y d)
    (H1 : ∀ x y d, me_ A B C (yT_ n w) i j x y d → bo_ 1782 x → bo_ 1782 y → bo_ 162 d → post 1 (nI n, g_p, g_q, zI x, zI y, zI d, g_bestX, g_bestY, g_bestDown, a_la, a_lb, a_lc))
    (H0 : ∀ s1 s2 s3 : Int32, (∀ x y d, ¬ me_ A B C (yT_ n w) i j x y d) → post 0 (nI n, g_p, g_q, s1, s2, s3, g_bestX, g_bestY, g_bestDown, a_la, a_lb, a_lc)) :
    wY_meets_162 post wv (nI n) g_p g_q (zI x) (zI y) (zI d) g_bestX g_bestY g_bestDown a_la a_lb a_lc := by
  refine ya_ hbb hA hB hC hn hw (bo_le bx (by decide)) (bo_le by' (by decide)) (bo_le bd (by decide)) (fun z => ⟨narrow_b1, H1 x y d ⟨⟨hd, z⟩, hi, hj, hD, ti, tj⟩ bx by' bd⟩) (fun z => ⟨narrow_b0, H0 _ _ _ ?_⟩)
  intro x' y' d' m
  exact z (fe_tr hd (eq_symm (ti_uniq hD ti tj m.2.2.2.2.1 m.2.2.2.2.2)) m.1).2
theorem ym_ {post : Int32 → SY → Prop} {i j : Nat} (hbb : bb_ A B C) (hA : tb_ a_la A) (hB : tb_ a_lb B) (hC : tb_ a_lc C) (hn : n ≤ 10) (hw : ∀ i, i < 14 → (nI i = wv ↔ i = w)) (hi : i < 14) (hj : j < 14)
    (H1 : ∀ x y d, me_ A B C (yT_ n w) i j x y d → bo_ 1782 x → bo_ 1782 y → bo_ 162 d → post 1 (nI n, g_p, g_q, zI x, zI y, zI d, g_bestX, g_bestY, g_bestDown, a_la, a_lb, a_lc))
    (H0 : ∀ s1 s2 s3 : Int32, (∀ x y d, ¬ me_ A B C (yT_ n w) i j x y d) → post 0 (nI n, g_p, g_q, s1, s2, s3, g_bestX, g_bestY, g_bestDown, a_la, a_lb, a_lc)) :
    wpY_meets post (nI n, g_p, g_q, g_x, g_y, g_down, g_bestX, g_bestY, g_bestDown, a_la, a_lb, a_lc) (nI i) (nI j) wv := by
  have vi : vp_in (nI i) 14 := vp_in_nI hi (by decide)
  have vj : vp_in (nI j) 14 := vp_in_nI hj (by decide)
  unfold wpY_meets
  dsimp only
  refine yh_ hi hn (fun hti => br_f (by decide) ?_) (fun hti => br_t rfl (H0 _ _ _ (fun x y d m => hti m.2.1.2.1)))
  refine yh_ hj hn (fun htj => br_f (by decide) ?_) (fun htj => br_t rfl (H0 _ _ _ (fun x y d m => htj m.2.2.1.2.1)))
  by_cases zi : i = w
  · exact br_t ((hw i hi).mpr zi) (H0 _ _ _ (fun x y d m => m.2.1.2.2 zi))
  refine br_f (fun v => zi ((hw i hi).mp v)) ?_
  by_cases zj : j = w
  · exact br_t ((hw j hj).mpr zj) (H0 _ _ _ (fun x y d m => m.2.2.1.2.2 zj))
  refine br_f (fun v => zj ((hw j hj).mp v)) ⟨vi, vj, vj, vi, ?_⟩
  have hTi : yT_ n w i := ⟨hi, hti, zi⟩
  have hTj : yT_ n w j := ⟨hj, htj, zj⟩
  obtain ⟨ai, bi, ci⟩ := hbb i hi
  obtain ⟨aj, bj, cj⟩ := hbb j hj
  have ed : a_la (nI i).toNatClampNeg * a_lb (nI j).toNatClampNeg - a_la (nI j).toNatClampNeg * a_lb (nI i).toNatClampNeg = zI (A i * B j - A j * B i) := by
    rw [tb_at hA hi, tb_at hB hj, tb_at hA hj, tb_at hB hi, zi_mul, zi_mul, zi_sub]
  have ex : a_lc (nI i).toNatClampNeg * a_lb (nI j).toNatClampNeg - a_lc (nI j).toNatClampNeg * a_lb (nI i).toNatClampNeg = zI (C i * B j - C j * B i) := by
    rw [tb_at hC hi, tb_at hB hj, tb_at hC hj, tb_at hB hi, zi_mul, zi_mul, zi_sub]
  have ey : a_la (nI i).toNatClampNeg * a_lc (nI j).toNatClampNeg - a_la (nI j).toNatClampNeg * a_lc (nI i).toNatClampNeg = zI (A i * C j - A j * C i) := by
    rw [tb_at hA hi, tb_at hC hj, tb_at hA hj, tb_at hC hi, zi_mul, zi_mul, zi_sub]
  have bD : bo_ 162 (A i * B j - A j * B i) := bb_det ai bi aj bj
  have bX : bo_ 1782 (C i * B j - C j * B i) := bo_le (bo_sub (bo_mul ci bj) (bo_mul cj bi)) (by decide)
  have bY : bo_ 1782 (A i * C j - A j * C i) := bo_le (bo_sub (bo_mul ai cj) (bo_mul aj ci)) (by decide)
  refine nm_r ed ?_
  by_cases zd : A i * B j - A j * B i = 0
  · exact br_t ((zi_eq0 (bo_le bD (by decide))).mpr zd) (H0 _ _ _ (fun x y d m => m.2.2.2.1 zd))
  refine br_f (fun v => zd ((zi_eq0 (bo_le bD (by decide))).mp v)) ⟨vi, vj, vj, vi, nm_r ex ⟨vi, vj, vj, vi, nm_r ey ?_⟩⟩
  have ti : ti_ A B C i (C i * B j - C j * B i) (A i * C j - A j * C i) (A i * B j - A j * B i) := by
    unfold ti_
    grind
  have tj : ti_ A B C j (C i * B j - C j * B i) (A i * C j - A j * C i) (A i * B j - A j * B i) := by
    unfold ti_
    grind
  by_cases zp : 0 ≤ A i * B j - A j * B i
  · refine br_t ((zi_nn (bo_le bD (by decide))).mpr zp) ?_
    exact ym_162 hbb hA hB hC hn hw hTi hTj zd (by omega) bX bY bD ti tj H1 H0
  · refine br_f (fun v => zp ((zi_nn (bo_le bD (by decide))).mp v)) (nm_r (zi_neg _) (nm_r (zi_neg _) (nm_r (zi_neg _) ?_)))
    have ti' : ti_ A B C i (-(C i * B j - C j * B i)) (-(A i * C j - A j * C i)) (-(A i * B j - A j * B i)) := by
      unfold ti_ at ti ⊢
      rw [Int.mul_neg, Int.mul_neg, Int.mul_neg]
      omega
    have tj' : ti_ A B C j (-(C i * B j - C j * B i)) (-(A i * C j - A j * C i)) (-(A i * B j - A j * B i)) := by
      unfold ti_ at tj ⊢
      rw [Int.mul_neg, Int.mul_neg, Int.mul_neg]
      omega
    exact ym_162 hbb hA hB hC hn hw hTi hTj zd (by omega) (bo_neg bX) (bo_neg bY) (bo_neg bD) ti' tj' H1 H0
end
end
section
/-! Y: better, solve -/
def bf_ (i j i' j' : Nat) : Prop := j' < i' ∧ (i' < i ∨ (i' = i ∧ j' < j))
def yi_ (A B C : Nat → Int) (T : Nat → Prop) (G H : Int) (i j : Nat) (bx by' bd : Int) : Prop :=
  (bd = 0 ∧ ∀ i' j', bf_ i j i' j' → ∀ x y d, ¬ me_ A B C T i' j' x y d) ∨ (ve_ A B C T bx by' bd ∧ (bo_ 1782 bx ∧ bo_ 1782 by' ∧ bo_ 162 bd) ∧ ∀ i' j', bf_ i j i' j' → ∀ x y d, me_ A B C T i' j' x y d → (G * x + H * y) * bd ≤ (G * bx + H * by') * d)
theorem bf_s {i j i' j' : Nat} (h : bf_ i (j + 1) i' j') : bf_ i j i' j' ∨ (i' = i ∧ j' = j) := by
  unfold bf_ at *
  omega
theorem bf_n {i i' j' : Nat} (h : bf_ (i + 1) 0 i' j') : bf_ i i i' j' := by
  unfold bf_ at *
  omega
theorem id_lex (g h x y d x' y' d' : Int) : (gg_ g * x + gh_ h * y) * d' - (gg_ g * x' + gh_ h * y') * d = 1000000000000000000 * ((g * x + h * y) * d' - (g * x' + h * y') * d) - 1000000000 * (x * d' - x' * d) - (y * d' - y' * d) := by
  unfold gg_ gh_
  grind
section
variable {A B C : Nat → Int} {T : Nat → Prop}
theorem me_ve {i j : Nat} {x y d : Int} (h : me_ A B C T i j x y d) : ve_ A B C T x y d := ⟨h.1, i, j, h.2.1, h.2.2.1, h.2.2.2⟩
theorem eq_val {G H x y d x' y' d' : Int} (h : eq_ x y d x' y' d') : (G * x' + H * y') * d = (G * x + H * y) * d' := by
  obtain ⟨h1, h2⟩ := h
  have e1 : (G * x' + H * y') * d = G * (x' * d) + H * (y' * d) := by grind
  rw [e1, ← h1, ← h2]
  grind
theorem me_val {i j : Nat} {G H x y d x' y' d' : Int} (h : me_ A B C T i j x y d) (h' : me_ A B C T i j x' y' d') : (G * x' + H * y') * d = (G * x + H * y) * d' :=
  eq_val (ti_uniq h.2.2.2.1 h.2.2.2.2.1 h.2.2.2.2.2 h'.2.2.2.2.1 h'.2.2.2.2.2)
theorem yi_no {G H bx by' bd : Int} {i j : Nat} (h : yi_ A B C T G H i j bx by' bd) (g : ∀ x y d, ¬ me_ A B C T i j x y d) : yi_ A B C T G H i (j + 1) bx by' bd := by
  rcases h with ⟨e, h⟩ | ⟨v, b, h⟩
  · refine Or.inl ⟨e, fun i' j' hf x y d m => ?_⟩
    rcases bf_s hf with z | ⟨z1, z2⟩
    · exact h i' j' z x y d m
    · subst z1 z2
      exact g x y d m
  · refine Or.inr ⟨v, b, fun i' j' hf x y d m => ?_⟩
    rcases bf_s hf with z | ⟨z1, z2⟩
    · exact h i' j' z x y d m
    · subst z1 z2
      exact absurd m (g x y d)
theorem yi_new {G H bx by' bd x y d : Int} {i j : Nat} (h : yi_ A B C T G H i j bx by' bd) (m : me_ A B C T i j x y d) (b1 : bo_ 1782 x) (b2 : bo_ 1782 y) (b3 : bo_ 162 d) (g : bd = 0 ∨ (G * bx + H * by') * d ≤ (G * x + H * y) * bd) : yi_ A B C T G H i (j + 1) x y d := by
  refine Or.inr ⟨me_ve m, ⟨b1, b2, b3⟩, fun i' j' hf x' y' d' m' => ?_⟩
  rcases bf_s hf with z | ⟨z1, z2⟩
  · rcases h with ⟨e, h⟩ | ⟨v, b, h⟩
    · exact absurd m' (h i' j' z x' y' d')
    · rcases g with e | g
      · have := v.1.1
        omega
      · exact fr_trans (Int.le_of_lt m'.1.1) v.1.1 (Int.le_of_lt m.1.1) (h i' j' z x' y' d' m') g
  · subst z1 z2
    exact Int.le_of_eq (me_val m m')
theorem yi_keep {G H bx by' bd x y d : Int} {i j : Nat} (h : yi_ A B C T G H i j bx by' bd) (m : me_ A B C T i j x y d) (hb : bd ≠ 0) (g : (G * x + H * y) * bd ≤ (G * bx + H * by') * d) : yi_ A B C T G H i (j + 1) bx by' bd := by
  rcases h with ⟨e, h⟩ | ⟨v, b, h⟩
  · exact absurd e hb
  · refine Or.inr ⟨v, b, fun i' j' hf x' y' d' m' => ?_⟩
    rcases bf_s hf with z | ⟨z1, z2⟩
    · exact h i' j' z x' y' d' m'
    · subst z1 z2
      exact fr_trans (Int.le_of_lt m'.1.1) m.1.1 (Int.le_of_lt v.1.1) (Int.le_of_eq (me_val m m')) g
theorem yi_bo {G H bx by' bd : Int} {i j : Nat} (h : yi_ A B C T G H i j bx by' bd) : bo_ 162 bd ∧ (bd ≠ 0 → 0 < bd ∧ bo_ 1782 bx ∧ bo_ 1782 by') := by
  rcases h with ⟨e, h⟩ | ⟨v, b, h⟩
  · rw [e]
    exact ⟨bo_lit (by omega) (by omega), fun z => absurd rfl z⟩
  · exact ⟨b.2.2, fun _ => ⟨v.1.1, b.1, b.2.1⟩⟩
theorem yi_up {G H bx by' bd : Int} {i : Nat} (h : yi_ A B C T G H i i bx by' bd) : yi_ A B C T G H (i + 1) 0 bx by' bd := by
  rcases h with ⟨e, h⟩ | ⟨v, b, h⟩
  · exact Or.inl ⟨e, fun i' j' hf => h i' j' (bf_n hf)⟩
  · exact Or.inr ⟨v, b, fun i' j' hf => h i' j' (bf_n hf)⟩
end
section
variable {A B C : Nat → Int} {n w : Nat} {wv : Int32} {g h : Int}
variable {g_count g_p g_q g_x g_y g_down g_bestX g_bestY g_bestDown : Int32} {a_la a_lb a_lc : Nat → Int32}
theorem yb_ {post : Int32 → Prop} {x y d bx by' bd : Int} (hg : bo_ 9 g) (hh : bo_ 9 h) (b1 : bo_ 1782 x) (b2 : bo_ 1782 y) (b3 : bo_ 162 d) (b4 : bo_ 1782 bx) (b5 : bo_ 1782 by') (b6 : bo_ 162 bd)
    (H1 : (gg_ g * bx + gh_ h * by') * d ≤ (gg_ g * x + gh_ h * y) * bd → post 1) (H0 : (gg_ g * x + gh_ h * y) * bd ≤ (gg_ g * bx + gh_ h * by') * d → post 0) :
    wpY_better post (g_count, zI g, zI h, zI x, zI y, zI d, zI bx, zI by', zI bd, a_la, a_lb, a_lc) := by
  have e := id_lex g h x y d bx by' bd
  have e1 : (zI g * zI x + zI h * zI y) * zI bd = zI ((g * x + h * y) * bd) := by rw [zi_mul, zi_mul, zi_add, zi_mul]
  have e2 : (zI g * zI bx + zI h * zI by') * zI d = zI ((g * bx + h * by') * d) := by rw [zi_mul, zi_mul, zi_add, zi_mul]
  have c1 : bo_ 2147483647 ((g * x + h * y) * bd) := bo_le (bo_mul (bo_add (bo_mul hg b1) (bo_mul hh b2)) b6) (by decide)
  have c2 : bo_ 2147483647 ((g * bx + h * by') * d) := bo_le (bo_mul (bo_add (bo_mul hg b4) (bo_mul hh b5)) b3) (by decide)
  have c3 : bo_ 288684 (x * bd) := bo_le (bo_mul b1 b6) (by decide)
  have c4 : bo_ 288684 (bx * d) := bo_le (bo_mul b4 b3) (by decide)
  have c5 : bo_ 288684 (y * bd) := bo_le (bo_mul b2 b6) (by decide)
  have c6 : bo_ 288684 (by' * d) := bo_le (bo_mul b5 b3) (by decide)
  have q1 := zi_eq c1 c2
  have q2 := zi_le c1 c2
  have q3 := zi_eq (bo_le c3 (by decide)) (bo_le c4 (by decide))
  have q4 := zi_le (bo_le c4 (by decide)) (bo_le c3 (by decide))
  have q5 := zi_le (bo_le c6 (by decide)) (bo_le c5 (by decide))
  unfold wpY_better
  dsimp only
  refine nm_r e1 (nm_r e2 ?_)
  rw [zi_mul, zi_mul, zi_mul, zi_mul]
  generalize (g * x + h * y) * bd = v1 at *
  generalize (g * bx + h * by') * d = v2 at *
  unfold bo_ at c3 c4 c5 c6
  by_cases z1 : v1 = v2
  · refine br_t (q1.mpr z1) ?_
    by_cases z2 : x * bd = bx * d
    · refine br_t (q3.mpr z2) ?_
      by_cases z3 : by' * d ≤ y * bd
      · exact br_t (q5.mpr z3) (H0 (by omega))
      · exact br_f (fun v => z3 (q5.mp v)) (H1 (by omega))
    · refine br_f (fun v => z2 (q3.mp v)) ?_
      by_cases z3 : bx * d ≤ x * bd
      · exact br_t (q4.mpr z3) (H0 (by omega))
      · exact br_f (fun v => z3 (q4.mp v)) (H1 (by omega))
  · refine br_f (fun v => z1 (q1.mp v)) ?_
    by_cases z3 : v1 ≤ v2
    · exact br_t (q2.mpr z3) (H0 (by omega))
    · exact br_f (fun v => z3 (q2.mp v)) (H1 (by omega))
theorem yv_in {post : Int32 → SY → Prop} {J7 : Int32 → Int32 → Int32 → Int32 → Int32 → Int32 → Int32 → Int32 → Int32 → Int32 → (Nat → Int32) → (Nat → Int32) → (Nat → Int32) → Prop} {i : Nat}
    (hbb : bb_ A B C) (hA : tb_ a_la A) (hB : tb_ a_lb B) (hC : tb_ a_lc C) (hn : n ≤ 10) (hw : ∀ i, i < 14 → (nI i = -1 ↔ i = w)) (hg : bo_ 9 g) (hh : bo_ 9 h) (hi : i < 14)
    (K : ∀ (s1 s2 s3 : Int32) (bx by' bd : Int), yi_ A B C (yT_ n w) (gg_ g) (gh_ h) (i + 1) 0 bx by' bd → J7 (nI (i + 1)) (nI n) (zI g) (zI h) s1 s2 s3 (zI bx) (zI by') (zI bd) a_la a_lb a_lc) :
    ∀ (e j fu : Nat) (s1 s2 s3 : Int32) (bx by' bd : Int), j + e = i → e < fu → yi_ A B C (yT_ n w) (gg_ g) (gh_ h) i j bx by' bd →
      wY_solve_15 post J7 (nI i) fu (nI j) (nI n) (zI g) (zI h) s1 s2 s3 (zI bx) (zI by') (zI bd) a_la a_lb a_lc := by
  intro e
  induction e with
  | zero =>
    intro j fu s1 s2 s3 bx by' bd hj hf I
    obtain ⟨fu, rfl⟩ : ∃ n', fu = n' + 1 := ⟨fu - 1, by omega⟩
    have e : j = i := by omega
    subst e
    exact br_t (nI_le (by omega) (by omega)) (nm_r (nI_1 j) (K _ _ _ _ _ _ (yi_up I)))
  | succ e ih =>
    intro j fu s1 s2 s3 bx by' bd hj hf I
    obtain ⟨fu, rfl⟩ : ∃ n', fu = n' + 1 := ⟨fu - 1, by omega⟩
    refine br_f (nI_ge (by omega) (by omega)) ?_
    refine ym_ hbb hA hB hC hn hw hi (by omega) (fun x y d m b1 b2 b3 => ?_) (fun t1 t2 t3 m => ?_)
    · refine br_f (by decide) ?_
      obtain ⟨b6, b7⟩ := yi_bo I
      by_cases z : bd = 0
      · exact br_t ((zi_eq0 (bo_le b6 (by decide))).mpr z) (nm_r (nI_1 j) (ih (j + 1) fu _ _ _ x y d (by omega) (by omega) (yi_new I m b1 b2 b3 (Or.inl z))))
      · refine br_f (fun v => z ((zi_eq0 (bo_le b6 (by decide))).mp v)) ?_
        obtain ⟨_, b4, b5⟩ := b7 z
        exact yb_ hg hh b1 b2 b3 b4 b5 b6 (fun v => br_f (by decide) (nm_r (nI_1 j) (ih (j + 1) fu _ _ _ x y d (by omega) (by omega) (yi_new I m b1 b2 b3 (Or.inr v))))) (fun v => br_t rfl (nm_r (nI_1 j) (ih (j + 1) fu _ _ _ bx by' bd (by omega) (by omega) (yi_keep I m z v))))
    · exact br_t rfl (nm_r (nI_1 j) (ih (j + 1) fu _ _ _ bx by' bd (by omega) (by omega) (yi_no I m)))
theorem yv_out {post : Int32 → SY → Prop}
    (hbb : bb_ A B C) (hA : tb_ a_la A) (hB : tb_ a_lb B) (hC : tb_ a_lc C) (hn : n ≤ 10) (hw : ∀ i, i < 14 → (nI i = -1 ↔ i = w)) (hg : bo_ 9 g) (hh : bo_ 9 h)
    (H1 : ∀ (s1 s2 s3 : Int32) (bx by' bd : Int), yi_ A B C (yT_ n w) (gg_ g) (gh_ h) 14 0 bx by' bd → 0 < bd → post 1 (nI n, zI g, zI h, s1, s2, s3, zI bx, zI by', zI bd, a_la, a_lb, a_lc))
    (H0 : ∀ (s1 s2 s3 s4 s5 s6 : Int32), (∀ i' j', bf_ 14 0 i' j' → ∀ x y d, ¬ me_ A B C (yT_ n w) i' j' x y d) → post 0 (nI n, zI g, zI h, s1, s2, s3, s4, s5, s6, a_la, a_lb, a_lc)) :
    ∀ (e i fu : Nat) (s1 s2 s3 : Int32) (bx by' bd : Int), i + e = 14 → e < fu → yi_ A B C (yT_ n w) (gg_ g) (gh_ h) i 0 bx by' bd →
      wY_solve_7 post fu (nI i) (nI n) (zI g) (zI h) s1 s2 s3 (zI bx) (zI by') (zI bd) a_la a_lb a_lc := by
  intro e
  induction e with
  | zero =>
    intro i fu s1 s2 s3 bx by' bd hi hf I
    obtain ⟨fu, rfl⟩ : ∃ n', fu = n' + 1 := ⟨fu - 1, by omega⟩
    have e : i = 14 := by omega
    subst e
    refine br_t (nI_le (a := 14) (b := 14) (by decide) (by decide)) ?_
    obtain ⟨b6, b7⟩ := yi_bo I
    by_cases z : bd ≤ 0
    · refine br_t ((zi_np (bo_le b6 (by decide))).mpr z) (H0 _ _ _ _ _ _ ?_)
      rcases I with ⟨_, I⟩ | ⟨v, _⟩
      · exact I
      · have := v.1.1
        omega
    · exact br_f (fun v => z ((zi_np (bo_le b6 (by decide))).mp v)) (H1 _ _ _ _ _ _ I (by omega))
  | succ e ih =>
    intro i fu s1 s2 s3 bx by' bd hi hf I
    obtain ⟨fu, rfl⟩ : ∃ n', fu = n' + 1 := ⟨fu - 1, by omega⟩
    refine br_f (nI_ge (b := 14) (by omega) (by decide)) ⟨i + 1, ?_⟩
    exact yv_in hbb hA hB hC hn hw hg hh (by omega) (fun s1 s2 s3 bx by' bd I' => ih (i + 1) fu s1 s2 s3 bx by' bd (by omega) (by omega) I') i 0 (i + 1) s1 s2 s3 bx by' bd (by omega) (by omega) I
theorem yv_ {post : Int32 → SY → Prop}
    (hbb : bb_ A B C) (hA : tb_ a_la A) (hB : tb_ a_lb B) (hC : tb_ a_lc C) (hn : n ≤ 10) (hw : ∀ i, i < 14 → (nI i = -1 ↔ i = w)) (hg : bo_ 9 g) (hh : bo_ 9 h)
    (H1 : ∀ (s1 s2 s3 : Int32) (bx by' bd : Int), yi_ A B C (yT_ n w) (gg_ g) (gh_ h) 14 0 bx by' bd → 0 < bd → post 1 (nI n, zI g, zI h, s1, s2, s3, zI bx, zI by', zI bd, a_la, a_lb, a_lc))
    (H0 : ∀ (s1 s2 s3 s4 s5 s6 : Int32), (∀ i' j', bf_ 14 0 i' j' → ∀ x y d, ¬ me_ A B C (yT_ n w) i' j' x y d) → post 0 (nI n, zI g, zI h, s1, s2, s3, s4, s5, s6, a_la, a_lb, a_lc)) :
    wpY_solve post (nI n, zI g, zI h, g_x, g_y, g_down, g_bestX, g_bestY, g_bestDown, a_la, a_lb, a_lc) := by
  refine ⟨15, ?_⟩
  have := yv_out hbb hA hB hC hn hw hg hh H1 H0 14 0 15 g_x g_y g_down g_bestX.toInt g_bestY.toInt 0 (by omega) (by omega) (Or.inl ⟨rfl, fun i' j' hf => by unfold bf_ at hf; omega⟩)
  rw [zi_of, zi_of] at this
  exact this
end
end
section
/-! Y's order of the borders against X's; the one best point; reduced fractions -/
def yx_ (i : Nat) : Nat := if i < 10 then 4 + i else i - 10
def xy_ (j : Nat) : Nat := if j < 4 then j + 10 else j - 4
theorem yx_lo {i : Nat} (h : i < 10) : yx_ i = 4 + i := if_pos h
theorem yx_hi {i : Nat} (h : 10 ≤ i) : yx_ i = i - 10 := if_neg (by omega)
theorem yx_lt {i : Nat} (h : i < 14) : yx_ i < 14 := by unfold yx_; split <;> omega
theorem xy_yx {j : Nat} (h : j < 14) : yx_ (xy_ j) = j := by
  unfold xy_
  split
  · rw [yx_hi (by omega)]
    omega
  · rw [yx_lo (by omega)]
    omega
theorem xy_lt {j : Nat} (h : j < 14) : xy_ j < 14 := by unfold xy_; split <;> omega
theorem bb_yx {A B C : Nat → Int} (h : bb_ A B C) : bb_ (fun i => A (yx_ i)) (fun i => B (yx_ i)) (fun i => C (yx_ i)) := fun j hj => h (yx_ j) (yx_lt hj)
section
variable {A B C : Nat → Int} {n o w : Nat} {x y d : Int}
theorem yx_S (hn : n ≤ 10) (how : (w < 10 ∧ o = 4 + w) ∨ (w = 99 ∧ o = 99)) {i : Nat} (h : yT_ n w i) : ss_ (4 + n) o (yx_ i) := by
  obtain ⟨h1, h2, h3⟩ := h
  unfold ss_ yx_
  split <;> omega
theorem xy_S (hn : n ≤ 10) (how : (w < 10 ∧ o = 4 + w) ∨ (w = 99 ∧ o = 99)) {j : Nat} (h : ss_ (4 + n) o j) : yT_ n w (xy_ j) := by
  obtain ⟨h1, h2⟩ := h
  unfold yT_ xy_
  split <;> omega
theorem yx_fe (hn : n ≤ 10) (how : (w < 10 ∧ o = 4 + w) ∨ (w = 99 ∧ o = 99)) : fe_ (fun i => A (yx_ i)) (fun i => B (yx_ i)) (fun i => C (yx_ i)) (yT_ n w) x y d ↔ fe_ A B C (ss_ (4 + n) o) x y d := by
  constructor
  · intro h
    refine ⟨h.1, fun j hj => ?_⟩
    have := h.2 (xy_ j) (xy_S hn how hj)
    dsimp only at this
    rw [xy_yx (by have := hj.1; omega)] at this
    exact this
  · intro h
    exact ⟨h.1, fun i hi => h.2 (yx_ i) (yx_S hn how hi)⟩
theorem me_X (hn : n ≤ 10) (how : (w < 10 ∧ o = 4 + w) ∨ (w = 99 ∧ o = 99)) {i j : Nat} (h : me_ (fun i => A (yx_ i)) (fun i => B (yx_ i)) (fun i => C (yx_ i)) (yT_ n w) i j x y d) : ve_ A B C (ss_ (4 + n) o) x y d :=
  ⟨(yx_fe hn how).mp h.1, yx_ i, yx_ j, yx_S hn how h.2.1, yx_S hn how h.2.2.1, h.2.2.2⟩
theorem ve_Y (hn : n ≤ 10) (how : (w < 10 ∧ o = 4 + w) ∨ (w = 99 ∧ o = 99)) (h : ve_ A B C (ss_ (4 + n) o) x y d) : ∃ i j, j < i ∧ i < 14 ∧ me_ (fun i => A (yx_ i)) (fun i => B (yx_ i)) (fun i => C (yx_ i)) (yT_ n w) i j x y d := by
  obtain ⟨f, i, j, hi, hj, hD, ti, tj⟩ := h
  have ei := xy_yx (show i < 14 by have := hi.1; omega)
  have ej := xy_yx (show j < 14 by have := hj.1; omega)
  have li := xy_lt (show i < 14 by have := hi.1; omega)
  have lj := xy_lt (show j < 14 by have := hj.1; omega)
  have f' := (yx_fe (A := A) (B := B) (C := C) hn how).mpr f
  have si := xy_S hn how hi
  have sj := xy_S hn how hj
  generalize xy_ i = i' at *
  generalize xy_ j = j' at *
  subst ei ej
  rcases Nat.lt_trichotomy j' i' with z | z | z
  · exact ⟨i', j', z, li, f', si, sj, hD, ti, tj⟩
  · subst z
    omega
  · exact ⟨j', i', z, lj, f', sj, si, by dsimp only; omega, tj, ti⟩
theorem fe_ve (ho : 4 ≤ o) (hq : sq_ A B C) (h : fe_ A B C (ss_ (4 + n) o) x y d) : ∃ x y d, ve_ A B C (ss_ (4 + n) o) x y d := by
  rcases be_ex ho hq 0 0 n with e | ⟨x', y', d', _, v⟩
  · exact absurd h (e x y d)
  · exact ⟨x', y', d', v⟩
theorem yi_none (hn : n ≤ 10) (how : (w < 10 ∧ o = 4 + w) ∨ (w = 99 ∧ o = 99)) (ho : 4 ≤ o) (hq : sq_ A B C) (h : ∀ i' j', bf_ 14 0 i' j' → ∀ x y d, ¬ me_ (fun i => A (yx_ i)) (fun i => B (yx_ i)) (fun i => C (yx_ i)) (yT_ n w) i' j' x y d) : ∀ x y d, ¬ fe_ A B C (ss_ (4 + n) o) x y d := by
  intro x y d f
  obtain ⟨x', y', d', v⟩ := fe_ve ho hq f
  obtain ⟨i, j, h1, h2, m⟩ := ve_Y hn how v
  exact h i j ⟨h1, Or.inl h2⟩ x' y' d' m
theorem yi_be {G H bx by' bd : Int} (hn : n ≤ 10) (how : (w < 10 ∧ o = 4 + w) ∨ (w = 99 ∧ o = 99)) (ho : 4 ≤ o) (hq : sq_ A B C) (hd : 0 < bd) (h : yi_ (fun i => A (yx_ i)) (fun i => B (yx_ i)) (fun i => C (yx_ i)) (yT_ n w) G H 14 0 bx by' bd) : be_ A B C (ss_ (4 + n) o) G H bx by' bd ∧ bo_ 1782 bx ∧ bo_ 1782 by' ∧ bo_ 162 bd := by
  rcases h with ⟨e, _⟩ | ⟨v, b, h⟩
  · omega
  · have f := (yx_fe hn how).mp v.1
    refine ⟨⟨f, fun x' y' d' f' => ?_⟩, b⟩
    rcases be_ex ho hq G H n with e | ⟨x2, y2, d2, hb, hv⟩
    · exact absurd f (e _ _ _)
    · obtain ⟨i, j, h1, h2, m⟩ := ve_Y hn how hv
      exact fr_trans (Int.le_of_lt f'.1) hb.1.1 (Int.le_of_lt hd) (hb.2 x' y' d' f') (h i j ⟨h1, Or.inl h2⟩ x2 y2 d2 m)
theorem lex_0 {v a b : Int} (ha : bo_ 999999999 a) (hb : bo_ 999999999 b) (e : 1000000000000000000 * v - 1000000000 * a - b = 0) : a = 0 ∧ b = 0 := by
  unfold bo_ at ha hb
  omega
theorem lex_le {v a b : Int} (ha : bo_ 999999999 a) (hb : bo_ 999999999 b) (e : 1000000000000000000 * v - 1000000000 * a - b ≤ 0) : v ≤ 0 := by
  unfold bo_ at ha hb
  omega
theorem be_uniq {S : Nat → Prop} {g h px py pd bx by' bd : Int} (hP : be_ A B C S (gg_ g) (gh_ h) px py pd) (hQ : be_ A B C S (gg_ g) (gh_ h) bx by' bd) (b1 : bo_ 433026 px) (b2 : bo_ 433026 py) (b3 : bo_ 26244 pd) (b4 : bo_ 1782 bx) (b5 : bo_ 1782 by') (b6 : bo_ 162 bd) : eq_ px py pd bx by' bd := by
  have h1 := hP.2 _ _ _ hQ.1
  have h2 := hQ.2 _ _ _ hP.1
  have e := id_lex g h px py pd bx by' bd
  have := lex_0 (v := (g * px + h * py) * bd - (g * bx + h * by') * pd) (a := px * bd - bx * pd) (b := py * bd - by' * pd) (bo_le (bo_sub (bo_mul b1 b6) (bo_mul b4 b3)) (by decide)) (bo_le (bo_sub (bo_mul b2 b6) (bo_mul b5 b3)) (by decide)) (by omega)
  constructor <;> omega
/-- the best point has the best value, ties aside -/
theorem be_val {S : Nat → Prop} {g h px py pd bx by' bd : Int} (hP : be_ A B C S (gg_ g) (gh_ h) px py pd) (hQ : fe_ A B C S bx by' bd) (b1 : bo_ 433026 px) (b2 : bo_ 433026 py) (b3 : bo_ 26244 pd) (b4 : bo_ 1782 bx) (b5 : bo_ 1782 by') (b6 : bo_ 162 bd) : (g * bx + h * by') * pd ≤ (g * px + h * py) * bd := by
  have h1 := hP.2 _ _ _ hQ
  have e := id_lex g h bx by' bd px py pd
  have := lex_le (v := (g * bx + h * by') * pd - (g * px + h * py) * bd) (a := bx * pd - px * bd) (b := by' * pd - py * bd) (bo_le (bo_sub (bo_mul b4 b3) (bo_mul b1 b6)) (by decide)) (bo_le (bo_sub (bo_mul b5 b3) (bo_mul b2 b6)) (by decide)) (by omega)
  omega
end
theorem g3_0 (a b : Int) : g3_ a 0 b = Nat.gcd a.natAbs b.natAbs := by
  unfold g3_
  rw [Int.natAbs_zero, Nat.gcd_zero_left]
theorem fr_red {a b a' b' : Int} (hb : 0 < b) (hb' : 0 < b') (e : a * b' = a' * b) : a.tdiv (Nat.gcd a.natAbs b.natAbs) = a'.tdiv (Nat.gcd a'.natAbs b'.natAbs) ∧ b.tdiv (Nat.gcd a.natAbs b.natAbs) = b'.tdiv (Nat.gcd a'.natAbs b'.natAbs) := by
  obtain ⟨p, e1, e2, e3⟩ := pr_nrm (x := a) (y := 0) hb
  obtain ⟨p', e1', e2', e3'⟩ := pr_nrm (x := a') (y := 0) hb'
  have q1 : eq_ (a.tdiv (g3_ a 0 b)) ((0 : Int).tdiv (g3_ a 0 b)) (b.tdiv (g3_ a 0 b)) a 0 b := by
    have := eq_mul (g := g3_ a 0 b) (x := a.tdiv (g3_ a 0 b)) (y := (0 : Int).tdiv (g3_ a 0 b)) (d := b.tdiv (g3_ a 0 b))
    rw [← e1, ← e2, ← e3] at this
    exact eq_symm this
  have q2 : eq_ a' 0 b' (a'.tdiv (g3_ a' 0 b')) ((0 : Int).tdiv (g3_ a' 0 b')) (b'.tdiv (g3_ a' 0 b')) := by
    have := eq_mul (g := g3_ a' 0 b') (x := a'.tdiv (g3_ a' 0 b')) (y := (0 : Int).tdiv (g3_ a' 0 b')) (d := b'.tdiv (g3_ a' 0 b'))
    rw [← e1', ← e2', ← e3'] at this
    exact this
  have q3 : eq_ a 0 b a' 0 b' := ⟨e, by omega⟩
  have := pr_uniq p p' (eq_trans hb q1 (eq_trans hb' q3 q2))
  rw [g3_0, g3_0] at this
  exact ⟨this.1, this.2.2⟩
end
section
/-! the relation, and the calls that change the lines -/
def ri_ (f_count f_p f_q : Int32) (a_as a_bs a_cs : Nat → Int32) (g_count g_p g_q : Int32) (a_la a_lb a_lc : Nat → Int32) : Prop :=
  ∃ (A B C : Nat → Int) (n : Nat) (p q : Int), (bb_ A B C ∧ sq_ A B C ∧ n ≤ 10 ∧ bo_ 9 p ∧ bo_ 9 q) ∧ (f_count = nI n ∧ f_p = zI p ∧ f_q = zI q ∧ g_count = nI n ∧ g_p = zI p ∧ g_q = zI q) ∧
    (tb_ a_as A ∧ tb_ a_bs B ∧ tb_ a_cs C) ∧ tb_ a_la (fun i => A (yx_ i)) ∧ tb_ a_lb (fun i => B (yx_ i)) ∧ tb_ a_lc (fun i => C (yx_ i))
/-- the same lines and goal in both; all else of the two states is scratch -/
def i_Rel (k : Nat) (u : SX) (v : SY) : Prop := match u, v with
  | (f_count, f_p, f_q, f_px, f_py, f_pd, f_lowTop, f_lowBottom, f_highTop, f_highBottom, f_corners, f_made, a_as, a_bs, a_cs, a_cornerX, a_cornerY, a_cornerD, a_newX, a_newY, a_newD), (g_count, g_p, g_q, g_x, g_y, g_down, g_bestX, g_bestY, g_bestDown, a_la, a_lb, a_lc) => ri_ f_count f_p f_q a_as a_bs a_cs g_count g_p g_q a_la a_lb a_lc
theorem i_up {k : Nat} {u : SX} {v : SY} (h : i_Rel k u v) : i_Rel (k + 4) u v := h
def i0_A (i : Nat) : Int := if i = 0 then 1 else if i = 1 then -1 else 0
def i0_B (i : Nat) : Int := if i = 2 then 1 else if i = 3 then -1 else 0
def i0_C (i : Nat) : Int := if i < 4 then 20 else 0
theorem i0_bb : bb_ i0_A i0_B i0_C := by
  intro j _
  unfold bo_ i0_A i0_B i0_C
  refine ⟨?_, ?_, ?_⟩
  · split
    · omega
    · split <;> omega
  · split
    · omega
    · split <;> omega
  · split <;> omega
theorem i0_sq : sq_ i0_A i0_B i0_C := by
  unfold sq_
  decide
theorem i0_x1 : tb_ (upd (upd (fun _ => 0) 0 1) 1 (-1)) i0_A := by
  unfold tb_
  decide
theorem i0_x2 : tb_ (upd (upd (fun _ => 0) 2 1) 3 (-1)) i0_B := by
  unfold tb_
  decide
theorem i0_x3 : tb_ (upd (upd (upd (upd (fun _ => 0) 0 20) 1 20) 2 20) 3 20) i0_C := by
  unfold tb_
  decide
theorem i0_y1 : tb_ (upd (upd (fun _ => 0) 10 1) 11 (-1)) (fun i => i0_A (yx_ i)) := by
  unfold tb_
  decide
theorem i0_y2 : tb_ (upd (upd (fun _ => 0) 12 1) 13 (-1)) (fun i => i0_B (yx_ i)) := by
  unfold tb_
  decide
theorem i0_y3 : tb_ (upd (upd (upd (upd (fun _ => 0) 10 20) 11 20) 12 20) 13 20) (fun i => i0_C (yx_ i)) := by
  unfold tb_
  decide
theorem i0_xl {post : SX → Prop} (a_as a_bs : Nat → Int32) (H : post (0, 0, 0, 0, 0, 0, 0, 0, 0, 0, 0, 0, a_as, a_bs, upd (upd (upd (upd (fun _ => 0) 0 20) 1 20) 2 20) 3 20, (fun _ => 0), (fun _ => 0), (fun _ => 0), (fun _ => 0), (fun _ => 0), (fun _ => 0))) :
    wX_init_106 post 0 0 0 0 0 0 0 0 0 0 0 0 5 0 a_as a_bs (fun _ => 0) (fun _ => 0) (fun _ => 0) (fun _ => 0) (fun _ => 0) (fun _ => 0) (fun _ => 0) := by
  refine br_f (by decide) ⟨vp_in_nI (n := 0) (by decide) (by decide), nm_e (nm_r (e' := nI 1) (by decide) ?_)⟩
  refine br_f (by decide) ⟨vp_in_nI (n := 1) (by decide) (by decide), nm_e (nm_r (e' := nI 2) (by decide) ?_)⟩
  refine br_f (by decide) ⟨vp_in_nI (n := 2) (by decide) (by decide), nm_e (nm_r (e' := nI 3) (by decide) ?_)⟩
  refine br_f (by decide) ⟨vp_in_nI (n := 3) (by decide) (by decide), nm_e (nm_r (e' := nI 4) (by decide) ?_)⟩
  exact br_t (by decide) H
theorem i0_yl {post : SY → Prop} (a_la a_lb : Nat → Int32) (H : post (0, 0, 0, 0, 0, 0, 0, 0, 0, a_la, a_lb, upd (upd (upd (upd (fun _ => 0) 10 20) 11 20) 12 20) 13 20)) :
    wY_init_63 post 0 0 0 0 0 0 0 0 0 5 (nI 10) a_la a_lb (fun _ => 0) := by
  refine br_f (by decide) ⟨vp_in_nI (n := 10) (by decide) (by decide), nm_e (nm_r (e' := nI 11) (by decide) ?_)⟩
  refine br_f (by decide) ⟨vp_in_nI (n := 11) (by decide) (by decide), nm_e (nm_r (e' := nI 12) (by decide) ?_)⟩
  refine br_f (by decide) ⟨vp_in_nI (n := 12) (by decide) (by decide), nm_e (nm_r (e' := nI 13) (by decide) ?_)⟩
  refine br_f (by decide) ⟨vp_in_nI (n := 13) (by decide) (by decide), nm_e (nm_r (e' := nI 14) (by decide) ?_)⟩
  exact br_t (by decide) H
theorem i_vc0 : wpX_init (fun u => wpY_init (fun v => i_Rel 0 u v)) := by
  refine nm_e (nm_e (nm_e (nm_e ⟨5, i0_xl _ _ ?_⟩)))
  refine nm_e (nm_e (nm_e (nm_e ⟨5, i0_yl _ _ ?_⟩)))
  exact ⟨i0_A, i0_B, i0_C, 0, 0, 0, ⟨i0_bb, i0_sq, by omega, bo_lit (by omega) (by omega), bo_lit (by omega) (by omega)⟩, ⟨rfl, rfl, rfl, rfl, rfl, rfl⟩, ⟨i0_x1, i0_x2, i0_x3⟩, i0_y1, i0_y2, i0_y3⟩
end
section
/-! add, remove, shift, goal, lines -/
def rg_ (v m : Int32) : Prop := ¬ v < -m ∧ v ≤ m
theorem rg_9 {v : Int32} (h : rg_ v 9) : bo_ 9 v.toInt := by
  obtain ⟨h1, h2⟩ := h
  rw [Int32.lt_iff_toInt_lt] at h1
  rw [Int32.le_iff_toInt_le] at h2
  have e1 : (-9 : Int32).toInt = -9 := by decide
  have e2 : (9 : Int32).toInt = 9 := by decide
  unfold bo_
  omega
theorem rg_99 {v : Int32} (h : rg_ v 99) : bo_ 99 v.toInt := by
  obtain ⟨h1, h2⟩ := h
  rw [Int32.lt_iff_toInt_lt] at h1
  rw [Int32.le_iff_toInt_le] at h2
  have e1 : (-99 : Int32).toInt = -99 := by decide
  have e2 : (99 : Int32).toInt = 99 := by decide
  unfold bo_
  omega
theorem tb_upd {a : Nat → Int32} {A : Nat → Int} (h : tb_ a A) (k : Nat) (v : Int32) : tb_ (upd a k v) (iu_ A k v.toInt) := by
  intro i hi
  by_cases z : i = k
  · subst z
    rw [pk_us, iu_s, zi_of]
  · rw [pk_un z, iu_n z]
    exact h i hi
theorem tb_updY {a : Nat → Int32} {A : Nat → Int} (h : tb_ a (fun i => A (yx_ i))) {k : Nat} (hk : k < 10) (v : Int32) : tb_ (upd a k v) (fun i => iu_ A (4 + k) v.toInt (yx_ i)) := by
  intro i hi
  by_cases z : i = k
  · subst z
    dsimp only
    rw [pk_us, yx_lo hk, iu_s, zi_of]
  · have e : yx_ i ≠ 4 + k := by unfold yx_; split <;> omega
    dsimp only
    rw [pk_un z, iu_n e]
    exact h i hi
theorem sq_iu {A B C : Nat → Int} (h : sq_ A B C) {k : Nat} (hk : 4 ≤ k) (x y z : Int) : sq_ (iu_ A k x) (iu_ B k y) (iu_ C k z) := by
  unfold sq_ at *
  rw [iu_n (by omega), iu_n (by omega), iu_n (by omega), iu_n (by omega), iu_n (by omega), iu_n (by omega), iu_n (by omega), iu_n (by omega), iu_n (by omega), iu_n (by omega), iu_n (by omega), iu_n (by omega)]
  exact h
theorem sq_C {A B C : Nat → Int} (h : sq_ A B C) {k : Nat} (hk : 4 ≤ k) (z : Int) : sq_ A B (iu_ C k z) := by
  unfold sq_ at *
  rw [iu_n (by omega), iu_n (by omega), iu_n (by omega), iu_n (by omega)]
  exact h
theorem bo_iu {A : Nat → Int} {m : Int} (h : ∀ j, j < 14 → bo_ m (A j)) (k : Nat) {x : Int} (hx : bo_ m x) : ∀ j, j < 14 → bo_ m (iu_ A k x j) := by
  intro j hj
  by_cases z : j = k
  · subst z
    rw [iu_s]
    exact hx
  · rw [iu_n z]
    exact h j hj
section
variable {f_count f_p f_q f_px f_py f_pd f_lowTop f_lowBottom f_highTop f_highBottom f_corners f_made : Int32} {a_as a_bs a_cs a_cornerX a_cornerY a_cornerD a_newX a_newY a_newD : Nat → Int32}
variable {g_count g_p g_q g_x g_y g_down g_bestX g_bestY g_bestDown : Int32} {a_la a_lb a_lc : Nat → Int32}
theorem yf_ {post : Int32 → Prop} {v m : Int32} (H0 : rg_ v m → post 0) (H1 : ¬ rg_ v m → post 1) : wpY_far post (g_count, g_p, g_q, g_x, g_y, g_down, g_bestX, g_bestY, g_bestDown, a_la, a_lb, a_lc) v m :=
  br_c (fun h => H1 (fun z => z.1 h)) (fun h => br_c (fun h' => H0 ⟨h, h'⟩) (fun h' => H1 (fun z => h' z.2)))
theorem ed_xadd {post : Int32 → SX → Prop} {n : Nat} {v1 v2 v3 : Int32} (hn : n ≤ 10) (H1 : ¬ (rg_ v1 9 ∧ rg_ v2 9) → post (-1) (nI n, f_p, f_q, f_px, f_py, f_pd, f_lowTop, f_lowBottom, f_highTop, f_highBottom, f_corners, f_made, a_as, a_bs, a_cs, a_cornerX, a_cornerY, a_cornerD, a_newX, a_newY, a_newD)) (H2 : rg_ v1 9 → rg_ v2 9 → ¬ rg_ v3 99 → post (-2) (nI n, f_p, f_q, f_px, f_py, f_pd, f_lowTop, f_lowBottom, f_highTop, f_highBottom, f_corners, f_made, a_as, a_bs, a_cs, a_cornerX, a_cornerY, a_cornerD, a_newX, a_newY, a_newD)) (H3 : rg_ v1 9 → rg_ v2 9 → rg_ v3 99 → n = 10 → post (-3) (nI n, f_p, f_q, f_px, f_py, f_pd, f_lowTop, f_lowBottom, f_highTop, f_highBottom, f_corners, f_made, a_as, a_bs, a_cs, a_cornerX, a_cornerY, a_cornerD, a_newX, a_newY, a_newD))
    (H4 : rg_ v1 9 → rg_ v2 9 → rg_ v3 99 → n < 10 → post (nI n) (nI (n + 1), f_p, f_q, f_px, f_py, f_pd, f_lowTop, f_lowBottom, f_highTop, f_highBottom, f_corners, f_made, upd a_as (4 + n) v1, upd a_bs (4 + n) v2, upd a_cs (4 + n) v3, a_cornerX, a_cornerY, a_cornerD, a_newX, a_newY, a_newD)) : wpX_add post (nI n, f_p, f_q, f_px, f_py, f_pd, f_lowTop, f_lowBottom, f_highTop, f_highBottom, f_corners, f_made, a_as, a_bs, a_cs, a_cornerX, a_cornerY, a_cornerD, a_newX, a_newY, a_newD) v1 v2 v3 := by
  unfold wpX_add
  dsimp only
  refine br_c (fun h => H1 (fun z => z.1.1 h)) (fun h1 => br_c (fun h => H1 (fun z => Int32.not_lt.mpr z.1.2 h)) (fun h2 => br_c (fun h => H1 (fun z => z.2.1 h)) (fun h3 => br_c (fun h4 => ?_) (fun h => H1 (fun z => h z.2.2)))))
  have r1 : rg_ v1 9 := ⟨h1, Int32.not_lt.mp h2⟩
  have r2 : rg_ v2 9 := ⟨h3, h4⟩
  refine br_c (fun h => H2 r1 r2 (fun z => z.1 h)) (fun h5 => br_c (fun h6 => ?_) (fun h => H2 r1 r2 (fun z => h z.2)))
  have r3 : rg_ v3 99 := ⟨h5, h6⟩
  refine pk_eq n 10 (fun e => H3 r1 r2 r3 e) (fun e => ?_) rfl rfl (by omega) (by omega)
  have e4 : (4 : Int32) + nI n = nI (4 + n) := nI_add 4 n
  rw [e4, nI_clamp (by omega)]
  have v : vp_in (nI (4 + n)) 14 := vp_in_nI (by omega) (by decide)
  refine ⟨v, nm_e ⟨v, nm_e ⟨v, nm_e (nm_r (nI_1 n) ?_)⟩⟩⟩
  rw [nI_pred]
  exact H4 r1 r2 r3 (by omega)
theorem ed_yadd {post : Int32 → SY → Prop} {n : Nat} {v1 v2 v3 : Int32} (hn : n ≤ 10) (H1 : ¬ (rg_ v1 9 ∧ rg_ v2 9) → post (-1) (nI n, g_p, g_q, g_x, g_y, g_down, g_bestX, g_bestY, g_bestDown, a_la, a_lb, a_lc)) (H2 : rg_ v1 9 → rg_ v2 9 → ¬ rg_ v3 99 → post (-2) (nI n, g_p, g_q, g_x, g_y, g_down, g_bestX, g_bestY, g_bestDown, a_la, a_lb, a_lc)) (H3 : rg_ v1 9 → rg_ v2 9 → rg_ v3 99 → n = 10 → post (-3) (nI n, g_p, g_q, g_x, g_y, g_down, g_bestX, g_bestY, g_bestDown, a_la, a_lb, a_lc))
    (H4 : rg_ v1 9 → rg_ v2 9 → rg_ v3 99 → n < 10 → post (nI n) (nI (n + 1), g_p, g_q, g_x, g_y, g_down, g_bestX, g_bestY, g_bestDown, upd a_la n v1, upd a_lb n v2, upd a_lc n v3)) : wpY_add post (nI n, g_p, g_q, g_x, g_y, g_down, g_bestX, g_bestY, g_bestDown, a_la, a_lb, a_lc) v1 v2 v3 := by
  unfold wpY_add
  dsimp only
  refine yf_ (fun r1 => br_t rfl (yf_ (fun r2 => br_t rfl (yf_ (fun r3 => br_t rfl ?_) (fun h => br_f (by decide) (H2 r1 r2 h)))) (fun h => br_f (by decide) (H1 (fun z => h z.2))))) (fun h => br_f (by decide) (H1 (fun z => h z.1)))
  refine pk_lt n 10 (fun e => ?_) (fun e => H3 r1 r2 r3 (by omega)) rfl rfl (by omega) (by omega)
  rw [nI_clamp (by omega)]
  have v : vp_in (nI n) 14 := vp_in_nI (by omega) (by decide)
  exact ⟨v, nm_e ⟨v, nm_e ⟨v, nm_e (nm_r (nI_1 n) (H4 r1 r2 r3 e))⟩⟩⟩
end
theorem i_vc_add {k : Nat} {u : SX} {v : SY} (I : i_Rel k u v) (hk : k + 4 ≤ 2048) (v1 : Int32) (v2 : Int32) (v3 : Int32) : wpX_add (fun r u' => wpY_add (fun r' v' => r' = r ∧ i_Rel (k + 4) u' v') v v1 v2 v3) u v1 v2 v3 := by
  obtain ⟨f_count, f_p, f_q, f_px, f_py, f_pd, f_lowTop, f_lowBottom, f_highTop, f_highBottom, f_corners, f_made, a_as, a_bs, a_cs, a_cornerX, a_cornerY, a_cornerD, a_newX, a_newY, a_newD⟩ := u
  obtain ⟨g_count, g_p, g_q, g_x, g_y, g_down, g_bestX, g_bestY, g_bestDown, a_la, a_lb, a_lc⟩ := v
  obtain ⟨A, B, C, n, p, q, ⟨hbb, hsq, hn, bp, bq⟩, ⟨rfl, rfl, rfl, rfl, rfl, rfl⟩, ⟨x1, x2, x3⟩, y1, y2, y3⟩ := I
  have same : ri_ (nI n) (zI p) (zI q) a_as a_bs a_cs (nI n) (zI p) (zI q) a_la a_lb a_lc := ⟨A, B, C, n, p, q, ⟨hbb, hsq, hn, bp, bq⟩, ⟨rfl, rfl, rfl, rfl, rfl, rfl⟩, ⟨x1, x2, x3⟩, y1, y2, y3⟩
  refine ed_xadd hn (fun h => ed_yadd hn (fun _ => ⟨rfl, same⟩) (fun a b => absurd ⟨a, b⟩ h) (fun a b => absurd ⟨a, b⟩ h) (fun a b => absurd ⟨a, b⟩ h)) (fun a b c => ed_yadd hn (fun h => absurd ⟨a, b⟩ h) (fun _ _ _ => ⟨rfl, same⟩) (fun _ _ h => absurd h c) (fun _ _ h => absurd h c))
    (fun a b c e => ed_yadd hn (fun h => absurd ⟨a, b⟩ h) (fun _ _ h => absurd c h) (fun _ _ _ _ => ⟨rfl, same⟩) (fun _ _ _ h => by omega))
    (fun a b c e => ed_yadd hn (fun h => absurd ⟨a, b⟩ h) (fun _ _ h => absurd c h) (fun _ _ _ h => by omega) (fun _ _ _ _ => ⟨rfl, ?_⟩))
  refine ⟨iu_ A (4 + n) v1.toInt, iu_ B (4 + n) v2.toInt, iu_ C (4 + n) v3.toInt, n + 1, p, q, ⟨?_, sq_iu hsq (by omega) _ _ _, by omega, bp, bq⟩, ⟨rfl, rfl, rfl, rfl, rfl, rfl⟩, ⟨tb_upd x1 _ _, tb_upd x2 _ _, tb_upd x3 _ _⟩, tb_updY y1 e _, tb_updY y2 e _, tb_updY y3 e _⟩
  exact fun j hj => ⟨bo_iu (fun j hj => (hbb j hj).1) _ (rg_9 a) j hj, bo_iu (fun j hj => (hbb j hj).2.1) _ (rg_9 b) j hj, bo_iu (fun j hj => (hbb j hj).2.2) _ (rg_99 c) j hj⟩
theorem i_vc_goal {k : Nat} {u : SX} {v : SY} (I : i_Rel k u v) (hk : k + 4 ≤ 2048) (v1 : Int32) (v2 : Int32) : wpX_goal (fun r u' => wpY_goal (fun r' v' => r' = r ∧ i_Rel (k + 4) u' v') v v1 v2) u v1 v2 := by
  obtain ⟨f_count, f_p, f_q, f_px, f_py, f_pd, f_lowTop, f_lowBottom, f_highTop, f_highBottom, f_corners, f_made, a_as, a_bs, a_cs, a_cornerX, a_cornerY, a_cornerD, a_newX, a_newY, a_newD⟩ := u
  obtain ⟨g_count, g_p, g_q, g_x, g_y, g_down, g_bestX, g_bestY, g_bestDown, a_la, a_lb, a_lc⟩ := v
  obtain ⟨A, B, C, n, p, q, ⟨hbb, hsq, hn, bp, bq⟩, ⟨rfl, rfl, rfl, rfl, rfl, rfl⟩, ⟨x1, x2, x3⟩, y1, y2, y3⟩ := I
  have same : ri_ (nI n) (zI p) (zI q) a_as a_bs a_cs (nI n) (zI p) (zI q) a_la a_lb a_lc := ⟨A, B, C, n, p, q, ⟨hbb, hsq, hn, bp, bq⟩, ⟨rfl, rfl, rfl, rfl, rfl, rfl⟩, ⟨x1, x2, x3⟩, y1, y2, y3⟩
  have no : ¬ (rg_ v1 9 ∧ rg_ v2 9) → wpY_goal (fun r' v' => r' = -1 ∧ i_Rel (k + 4) (nI n, zI p, zI q, f_px, f_py, f_pd, f_lowTop, f_lowBottom, f_highTop, f_highBottom, f_corners, f_made, a_as, a_bs, a_cs, a_cornerX, a_cornerY, a_cornerD, a_newX, a_newY, a_newD) v') (nI n, zI p, zI q, g_x, g_y, g_down, g_bestX, g_bestY, g_bestDown, a_la, a_lb, a_lc) v1 v2 := by
    intro h
    unfold wpY_goal
    dsimp only
    exact yf_ (fun r1 => br_t rfl (yf_ (fun r2 => absurd ⟨r1, r2⟩ h) (fun _ => br_f (by decide) ⟨rfl, same⟩))) (fun _ => br_f (by decide) ⟨rfl, same⟩)
  unfold wpX_goal
  dsimp only
  refine br_c (fun h => no (fun z => z.1.1 h)) (fun h1 => br_c (fun h => no (fun z => Int32.not_lt.mpr z.1.2 h)) (fun h2 => br_c (fun h => no (fun z => z.2.1 h)) (fun h3 => br_c (fun h4 => ?_) (fun h => no (fun z => h z.2.2)))))
  have r1 : rg_ v1 9 := ⟨h1, Int32.not_lt.mp h2⟩
  have r2 : rg_ v2 9 := ⟨h3, h4⟩
  unfold wpY_goal
  dsimp only
  refine yf_ (fun _ => br_t rfl (yf_ (fun _ => br_t rfl ⟨rfl, ?_⟩) (fun h => absurd r2 h))) (fun h => absurd r1 h)
  exact ⟨A, B, C, n, v1.toInt, v2.toInt, ⟨hbb, hsq, hn, rg_9 r1, rg_9 r2⟩, ⟨rfl, (zi_of v1).symm, (zi_of v2).symm, rfl, (zi_of v1).symm, (zi_of v2).symm⟩, ⟨x1, x2, x3⟩, y1, y2, y3⟩
theorem i_vc_lines {k : Nat} {u : SX} {v : SY} (I : i_Rel k u v) (hk : k + 4 ≤ 2048) : wpX_lines (fun r => wpY_lines (fun r' => r' = r ∧ i_Rel (k + 4) u v) v) u := by
  obtain ⟨f_count, f_p, f_q, f_px, f_py, f_pd, f_lowTop, f_lowBottom, f_highTop, f_highBottom, f_corners, f_made, a_as, a_bs, a_cs, a_cornerX, a_cornerY, a_cornerD, a_newX, a_newY, a_newD⟩ := u
  obtain ⟨g_count, g_p, g_q, g_x, g_y, g_down, g_bestX, g_bestY, g_bestDown, a_la, a_lb, a_lc⟩ := v
  have J := I
  obtain ⟨A, B, C, n, p, q, ⟨hbb, hsq, hn, bp, bq⟩, ⟨rfl, rfl, rfl, rfl, rfl, rfl⟩, ⟨x1, x2, x3⟩, y1, y2, y3⟩ := I
  exact ⟨rfl, J⟩
end
section
/-! shift, remove -/
def rm_ (A : Nat → Int) (l k : Nat) : Nat → Int := fun i => if l ≤ i ∧ i + 1 < k then A (i + 1) else A i
theorem rm_0 (A : Nat → Int) (l : Nat) (i : Nat) : rm_ A l (l + 1) i = A i := if_neg (by omega)
theorem rm_s (A : Nat → Int) {l k i : Nat} (h : i + 1 ≠ k) : rm_ A l (k + 1) i = rm_ A l k i := by
  unfold rm_
  by_cases z : l ≤ i ∧ i + 1 < k
  · rw [if_pos z, if_pos (by omega)]
  · rw [if_neg z, if_neg (by omega)]
theorem rm_at (A : Nat → Int) {l k : Nat} : rm_ A l k k = A k := if_neg (by omega)
theorem rm_new (A : Nat → Int) {l j : Nat} (h : l ≤ j) : rm_ A l (j + 1 + 1) j = A (j + 1) := if_pos (by omega)
theorem rm_bo {A : Nat → Int} {m : Int} (h : ∀ j, j < 14 → bo_ m (A j)) {l k : Nat} (hk : k ≤ 14) : ∀ j, j < 14 → bo_ m (rm_ A l k j) := by
  intro j hj
  unfold rm_
  split
  · exact h _ (by omega)
  · exact h _ hj
theorem rm_sq {A B C : Nat → Int} (h : sq_ A B C) {l k : Nat} (hl : 4 ≤ l) : sq_ (rm_ A l k) (rm_ B l k) (rm_ C l k) := by
  have e : ∀ (F : Nat → Int) (i : Nat), i < 4 → rm_ F l k i = F i := fun F i hi => if_neg (by omega)
  unfold sq_ at *
  rw [e A 0 (by omega), e A 1 (by omega), e A 2 (by omega), e A 3 (by omega), e B 0 (by omega), e B 1 (by omega), e B 2 (by omega), e B 3 (by omega), e C 0 (by omega), e C 1 (by omega), e C 2 (by omega), e C 3 (by omega)]
  exact h
theorem rm_tb {a : Nat → Int32} {A : Nat → Int} {l j : Nat} (h : tb_ a (rm_ A l (j + 1))) (hl : l ≤ j) (hj : j + 1 < 14) : tb_ (upd a j (a (j + 1))) (rm_ A l (j + 1 + 1)) := by
  intro i hi
  by_cases z : i = j
  · subst z
    rw [pk_us, rm_new A hl, h _ hj, rm_at]
  · rw [pk_un z, rm_s A (by omega)]
    exact h i hi
theorem rm_tbY {a : Nat → Int32} {A : Nat → Int} {l i : Nat} (h : tb_ a (fun j => rm_ A (4 + l) (4 + i + 1) (yx_ j))) (hl : l ≤ i) (hi : i < 9) : tb_ (upd a i (a (i + 1))) (fun j => rm_ A (4 + l) (4 + (i + 1) + 1) (yx_ j)) := by
  intro j hj
  dsimp only
  by_cases z : j = i
  · subst z
    have := h (j + 1) (by omega)
    dsimp only at this
    rw [yx_lo (by omega)] at this
    rw [show 4 + (j + 1) = 4 + j + 1 by omega, rm_at] at this
    rw [pk_us, yx_lo (by omega), show 4 + (j + 1) + 1 = 4 + j + 1 + 1 by omega, rm_new A (by omega), this]
  · have e : yx_ j + 1 ≠ 4 + i + 1 := by unfold yx_; split <;> omega
    rw [pk_un z, show 4 + (i + 1) + 1 = 4 + i + 1 + 1 by omega, rm_s A e]
    exact h j hj
section
variable {f_count f_p f_q f_px f_py f_pd f_lowTop f_lowBottom f_highTop f_highBottom f_corners f_made : Int32} {a_as a_bs a_cs a_cornerX a_cornerY a_cornerD a_newX a_newY a_newD : Nat → Int32}
variable {g_count g_p g_q g_x g_y g_down g_bestX g_bestY g_bestDown : Int32} {a_la a_lb a_lc : Nat → Int32}
theorem xi_1 {post : Int32 → Prop} {n l : Nat} (hn : n ≤ 10) (hl : l < n) (h : post 1) : wpX_isLine post (nI n, f_p, f_q, f_px, f_py, f_pd, f_lowTop, f_lowBottom, f_highTop, f_highBottom, f_corners, f_made, a_as, a_bs, a_cs, a_cornerX, a_cornerY, a_cornerD, a_newX, a_newY, a_newD) (nI l) := br_f (nI_pos (by omega)) (br_f (nI_ge hl (by omega)) h)
theorem xi_0 {post : Int32 → Prop} {n : Nat} {v : Int32} (hv : v < 0 ∨ nI n ≤ v) (h : post 0) : wpX_isLine post (nI n, f_p, f_q, f_px, f_py, f_pd, f_lowTop, f_lowBottom, f_highTop, f_highBottom, f_corners, f_made, a_as, a_bs, a_cs, a_cornerX, a_cornerY, a_cornerD, a_newX, a_newY, a_newD) v := br_c (fun _ => h) (fun z => br_t (hv.resolve_left z) h)
theorem yi_0 {post : Int32 → Prop} {n l : Nat} (hn : n ≤ 10) (hl : l < n) (h : post 0) : wpY_bad post (nI n, g_p, g_q, g_x, g_y, g_down, g_bestX, g_bestY, g_bestDown, a_la, a_lb, a_lc) (nI l) := br_f (nI_pos (by omega)) (br_f (nI_ge hl (by omega)) (br_t (nI_le (b := 9) (by omega) (by decide)) h))
theorem yi_1 {post : Int32 → Prop} {n : Nat} {v : Int32} (hv : v < 0 ∨ nI n ≤ v) (h : post 1) : wpY_bad post (nI n, g_p, g_q, g_x, g_y, g_down, g_bestX, g_bestY, g_bestDown, a_la, a_lb, a_lc) v := br_c (fun _ => h) (fun z => br_t (hv.resolve_left z) h)
theorem rm_xl {post : Int32 → SX → Prop} {A B C : Nat → Int} {n l : Nat} (hn : n ≤ 10) (h0 : 0 < n)
    (H : ∀ a_as a_bs a_cs, tb_ a_as (rm_ A l (4 + n)) → tb_ a_bs (rm_ B l (4 + n)) → tb_ a_cs (rm_ C l (4 + n)) → post (nI (n - 1)) (nI (n - 1), f_p, f_q, f_px, f_py, f_pd, f_lowTop, f_lowBottom, f_highTop, f_highBottom, f_corners, f_made, a_as, a_bs, a_cs, a_cornerX, a_cornerY, a_cornerD, a_newX, a_newY, a_newD)) :
    ∀ (d j fu : Nat) (a_as a_bs a_cs : Nat → Int32), j + 1 + d = 4 + n → l ≤ j → d < fu → tb_ a_as (rm_ A l (j + 1)) → tb_ a_bs (rm_ B l (j + 1)) → tb_ a_cs (rm_ C l (j + 1)) →
      wX_remove_14 post (nI n) f_p f_q f_px f_py f_pd f_lowTop f_lowBottom f_highTop f_highBottom f_corners f_made fu (nI (j + 1)) a_as a_bs a_cs a_cornerX a_cornerY a_cornerD a_newX a_newY a_newD := by
  intro d
  induction d with
  | zero =>
    intro j fu a_as a_bs a_cs hj hl hf t1 t2 t3
    obtain ⟨fu, rfl⟩ : ∃ n', fu = n' + 1 := ⟨fu - 1, by omega⟩
    have e : j + 1 = 4 + n := by omega
    rw [e] at t1 t2 t3
    obtain ⟨n', rfl⟩ : ∃ n', n = n' + 1 := ⟨n - 1, by omega⟩
    exact pk_le (4 + (n' + 1)) (j + 1) (fun _ => nm_r (nI_pred n') (H _ _ _ t1 t2 t3)) (fun z => by omega) (nI_add 4 _) rfl (by omega) (by omega)
  | succ d ih =>
    intro j fu a_as a_bs a_cs hj hl hf t1 t2 t3
    obtain ⟨fu, rfl⟩ : ∃ n', fu = n' + 1 := ⟨fu - 1, by omega⟩
    refine pk_le (4 + n) (j + 1) (fun z => by omega) (fun _ => ?_) (nI_add 4 _) rfl (by omega) (by omega)
    rw [nI_pred, nI_clamp (show j < 2 ^ 31 by omega), nI_clamp (show j + 1 < 2 ^ 31 by omega)]
    have v1 : vp_in (nI (j + 1)) 14 := vp_in_nI (by omega) (by decide)
    have v2 : vp_in (nI j) 14 := vp_in_nI (by omega) (by decide)
    exact ⟨v1, v2, nm_e ⟨v1, v2, nm_e ⟨v1, v2, nm_e (nm_r (nI_1 (j + 1)) (ih (j + 1) fu _ _ _ (by omega) (by omega) (by omega) (rm_tb t1 hl (by omega)) (rm_tb t2 hl (by omega)) (rm_tb t3 hl (by omega))))⟩⟩⟩
theorem rm_yl {post : Int32 → SY → Prop} {A B C : Nat → Int} {n l : Nat} (hn : n ≤ 10) (h0 : 0 < n)
    (H : ∀ a_la a_lb a_lc, tb_ a_la (fun j => rm_ A (4 + l) (4 + n) (yx_ j)) → tb_ a_lb (fun j => rm_ B (4 + l) (4 + n) (yx_ j)) → tb_ a_lc (fun j => rm_ C (4 + l) (4 + n) (yx_ j)) → post (nI (n - 1)) (nI (n - 1), g_p, g_q, g_x, g_y, g_down, g_bestX, g_bestY, g_bestDown, a_la, a_lb, a_lc)) :
    ∀ (d i fu : Nat) (a_la a_lb a_lc : Nat → Int32), i + 1 + d = n → l ≤ i → d < fu → tb_ a_la (fun j => rm_ A (4 + l) (4 + i + 1) (yx_ j)) → tb_ a_lb (fun j => rm_ B (4 + l) (4 + i + 1) (yx_ j)) → tb_ a_lc (fun j => rm_ C (4 + l) (4 + i + 1) (yx_ j)) →
      wY_remove_12 post (nI n) g_p g_q g_x g_y g_down g_bestX g_bestY g_bestDown fu (nI i) a_la a_lb a_lc := by
  intro d
  obtain ⟨n, rfl⟩ : ∃ n', n = n' + 1 := ⟨n - 1, by omega⟩
  induction d with
  | zero =>
    intro i fu a_la a_lb a_lc hi hl hf t1 t2 t3
    obtain ⟨fu, rfl⟩ : ∃ n', fu = n' + 1 := ⟨fu - 1, by omega⟩
    have e : 4 + i + 1 = 4 + (n + 1) := by omega
    rw [e] at t1 t2 t3
    exact pk_le n i (fun _ => nm_r (nI_pred n) (H _ _ _ t1 t2 t3)) (fun z => by omega) (nI_pred n) rfl (by omega) (by omega)
  | succ d ih =>
    intro i fu a_la a_lb a_lc hi hl hf t1 t2 t3
    obtain ⟨fu, rfl⟩ : ∃ n', fu = n' + 1 := ⟨fu - 1, by omega⟩
    refine pk_le n i (fun z => by omega) (fun _ => pk_le 9 i (fun z => by omega) (fun _ => ?_) rfl rfl (by omega) (by omega)) (nI_pred n) rfl (by omega) (by omega)
    rw [nI_1, nI_clamp (show i < 2 ^ 31 by omega), nI_clamp (show i + 1 < 2 ^ 31 by omega)]
    have v1 : vp_in (nI (i + 1)) 14 := vp_in_nI (by omega) (by decide)
    have v2 : vp_in (nI i) 14 := vp_in_nI (by omega) (by decide)
    exact ⟨v1, v2, nm_e ⟨v1, v2, nm_e ⟨v1, v2, nm_e (nm_e (ih (i + 1) fu _ _ _ (by omega) (by omega) (by omega) (rm_tbY t1 hl (by omega)) (rm_tbY t2 hl (by omega)) (rm_tbY t3 hl (by omega))))⟩⟩⟩
end
theorem i_vc_remove {k : Nat} {u : SX} {v : SY} (I : i_Rel k u v) (hk : k + 4 ≤ 2048) (v1 : Int32) : wpX_remove (fun r u' => wpY_remove (fun r' v' => r' = r ∧ i_Rel (k + 4) u' v') v v1) u v1 := by
  obtain ⟨f_count, f_p, f_q, f_px, f_py, f_pd, f_lowTop, f_lowBottom, f_highTop, f_highBottom, f_corners, f_made, a_as, a_bs, a_cs, a_cornerX, a_cornerY, a_cornerD, a_newX, a_newY, a_newD⟩ := u
  obtain ⟨g_count, g_p, g_q, g_x, g_y, g_down, g_bestX, g_bestY, g_bestDown, a_la, a_lb, a_lc⟩ := v
  obtain ⟨A, B, C, n, p, q, ⟨hbb, hsq, hn, bp, bq⟩, ⟨rfl, rfl, rfl, rfl, rfl, rfl⟩, ⟨x1, x2, x3⟩, y1, y2, y3⟩ := I
  have same : ri_ (nI n) (zI p) (zI q) a_as a_bs a_cs (nI n) (zI p) (zI q) a_la a_lb a_lc := ⟨A, B, C, n, p, q, ⟨hbb, hsq, hn, bp, bq⟩, ⟨rfl, rfl, rfl, rfl, rfl, rfl⟩, ⟨x1, x2, x3⟩, y1, y2, y3⟩
  have bad : (v1 < 0 ∨ nI n ≤ v1) → wpX_remove (fun r u' => wpY_remove (fun r' v' => r' = r ∧ i_Rel (k + 4) u' v') (nI n, zI p, zI q, g_x, g_y, g_down, g_bestX, g_bestY, g_bestDown, a_la, a_lb, a_lc) v1) (nI n, zI p, zI q, f_px, f_py, f_pd, f_lowTop, f_lowBottom, f_highTop, f_highBottom, f_corners, f_made, a_as, a_bs, a_cs, a_cornerX, a_cornerY, a_cornerD, a_newX, a_newY, a_newD) v1 := by
    intro h
    unfold wpX_remove wpY_remove
    dsimp only
    exact xi_0 h (br_t rfl (yi_1 h (br_f (by decide) ⟨rfl, same⟩)))
  rcases pk_ix v1 (n := n) (by omega) with h | h | ⟨l, hl, rfl⟩
  · exact bad (Or.inl h)
  · exact bad (Or.inr h)
  · unfold wpX_remove wpY_remove
    dsimp only
    refine xi_1 hn hl (br_f (by decide) (nm_r (e' := nI (4 + l + 1)) ?_ ⟨15, ?_⟩))
    · rw [show 4 + l + 1 = 5 + l by omega]
      exact nI_add 5 l
    · have r0 : ∀ (a : Nat → Int32) (F : Nat → Int), tb_ a F → tb_ a (rm_ F (4 + l) (4 + l + 1)) := fun a F h i hi => by rw [rm_0]; exact h i hi
      have s0 : ∀ (a : Nat → Int32) (F : Nat → Int), tb_ a (fun i => F (yx_ i)) → tb_ a (fun i => rm_ F (4 + l) (4 + l + 1) (yx_ i)) := fun a F h i hi => by dsimp only; rw [rm_0]; exact h i hi
      refine rm_xl (A := A) (B := B) (C := C) (l := 4 + l) hn (by omega) (fun as' bs' cs' t1 t2 t3 => ?_) (n - l - 1) (4 + l) 15 a_as a_bs a_cs (by omega) (by omega) (by omega) (r0 _ _ x1) (r0 _ _ x2) (r0 _ _ x3)
      refine yi_0 hn hl (br_t rfl ⟨15, ?_⟩)
      refine rm_yl (A := A) (B := B) (C := C) (l := l) hn (by omega) (fun la' lb' lc' z1 z2 z3 => ⟨rfl, ?_⟩) (n - l - 1) l 15 a_la a_lb a_lc (by omega) (by omega) (by omega) (s0 _ _ y1) (s0 _ _ y2) (s0 _ _ y3)
      exact ⟨rm_ A (4 + l) (4 + n), rm_ B (4 + l) (4 + n), rm_ C (4 + l) (4 + n), n - 1, p, q, ⟨fun j hj => ⟨rm_bo (fun j hj => (hbb j hj).1) (by omega) j hj, rm_bo (fun j hj => (hbb j hj).2.1) (by omega) j hj, rm_bo (fun j hj => (hbb j hj).2.2) (by omega) j hj⟩, rm_sq hsq (by omega), by omega, bp, bq⟩, ⟨rfl, rfl, rfl, rfl, rfl, rfl⟩, ⟨t1, t2, t3⟩, z1, z2, z3⟩
theorem i_vc_shift {k : Nat} {u : SX} {v : SY} (I : i_Rel k u v) (hk : k + 4 ≤ 2048) (v1 : Int32) (v2 : Int32) : wpX_shift (fun r u' => wpY_shift (fun r' v' => r' = r ∧ i_Rel (k + 4) u' v') v v1 v2) u v1 v2 := by
  obtain ⟨f_count, f_p, f_q, f_px, f_py, f_pd, f_lowTop, f_lowBottom, f_highTop, f_highBottom, f_corners, f_made, a_as, a_bs, a_cs, a_cornerX, a_cornerY, a_cornerD, a_newX, a_newY, a_newD⟩ := u
  obtain ⟨g_count, g_p, g_q, g_x, g_y, g_down, g_bestX, g_bestY, g_bestDown, a_la, a_lb, a_lc⟩ := v
  obtain ⟨A, B, C, n, p, q, ⟨hbb, hsq, hn, bp, bq⟩, ⟨rfl, rfl, rfl, rfl, rfl, rfl⟩, ⟨x1, x2, x3⟩, y1, y2, y3⟩ := I
  have same : ri_ (nI n) (zI p) (zI q) a_as a_bs a_cs (nI n) (zI p) (zI q) a_la a_lb a_lc := ⟨A, B, C, n, p, q, ⟨hbb, hsq, hn, bp, bq⟩, ⟨rfl, rfl, rfl, rfl, rfl, rfl⟩, ⟨x1, x2, x3⟩, y1, y2, y3⟩
  have bad : (v1 < 0 ∨ nI n ≤ v1) → wpX_shift (fun r u' => wpY_shift (fun r' v' => r' = r ∧ i_Rel (k + 4) u' v') (nI n, zI p, zI q, g_x, g_y, g_down, g_bestX, g_bestY, g_bestDown, a_la, a_lb, a_lc) v1 v2) (nI n, zI p, zI q, f_px, f_py, f_pd, f_lowTop, f_lowBottom, f_highTop, f_highBottom, f_corners, f_made, a_as, a_bs, a_cs, a_cornerX, a_cornerY, a_cornerD, a_newX, a_newY, a_newD) v1 v2 := by
    intro h
    unfold wpX_shift wpY_shift
    dsimp only
    exact xi_0 h (br_t rfl (yi_1 h (br_f (by decide) ⟨rfl, same⟩)))
  rcases pk_ix v1 (n := n) (by omega) with h | h | ⟨l, hl, rfl⟩
  · exact bad (Or.inl h)
  · exact bad (Or.inr h)
  · have hc := (hbb (4 + l) (by omega)).2.2
    have e4 : (4 : Int32) + nI l = nI (4 + l) := nI_add 4 l
    have ec : a_cs (nI (4 + l)).toNatClampNeg = zI (C (4 + l)) := tb_at x3 (by omega)
    have ey : a_lc (nI l).toNatClampNeg = zI (C (4 + l)) := by
      have := tb_at y3 (show l < 14 by omega)
      rw [yx_lo (by omega)] at this
      exact this
    have vx : vp_in (nI (4 + l)) 14 := vp_in_nI (by omega) (by decide)
    have vy : vp_in (nI l) 14 := vp_in_nI (by omega) (by decide)
    have es : v2 = zI v2.toInt := (zi_of v2).symm
    have b0 := v2.le_toInt
    have b9 := v2.toInt_lt
    have c1 : v2 < -200 ↔ v2.toInt < -200 := by
      rw [Int32.lt_iff_toInt_lt, show (-200 : Int32).toInt = -200 by decide]
    have c2 : 200 < v2 ↔ 200 < v2.toInt := by
      rw [Int32.lt_iff_toInt_lt, show (200 : Int32).toInt = 200 by decide]
    have esum : zI (C (4 + l)) + v2 = zI (C (4 + l) + v2.toInt) := by
      rw [← zi_add, zi_of]
    have ed1 : (-99 : Int32) - zI (C (4 + l)) = zI (-99 - C (4 + l)) := by
      rw [← zi_sub]
      rfl
    have ed2 : (99 : Int32) - zI (C (4 + l)) = zI (99 - C (4 + l)) := by
      rw [← zi_sub]
      rfl
    have bc := hc
    unfold bo_ at bc
    have d1 : v2 < zI (-99 - C (4 + l)) ↔ v2.toInt < -99 - C (4 + l) := by
      rw [Int32.lt_iff_toInt_lt, zi_toInt (by omega) (by omega)]
    have d2 : v2 ≤ zI (99 - C (4 + l)) ↔ v2.toInt ≤ 99 - C (4 + l) := by
      rw [Int32.le_iff_toInt_le, zi_toInt (by omega) (by omega)]
    have c34 : bo_ 200 v2.toInt → (zI (C (4 + l) + v2.toInt) < -99 ↔ C (4 + l) + v2.toInt < -99) ∧ (zI (C (4 + l) + v2.toInt) ≤ 99 ↔ C (4 + l) + v2.toInt ≤ 99) := by
      intro hb
      unfold bo_ at hb
      constructor
      · rw [Int32.lt_iff_toInt_lt, zi_toInt (by omega) (by omega), show (-99 : Int32).toInt = -99 by decide]
      · rw [Int32.le_iff_toInt_le, zi_toInt (by omega) (by omega), show (99 : Int32).toInt = 99 by decide]
    unfold wpX_shift wpY_shift
    dsimp only
    refine xi_1 hn hl (br_f (by decide) ?_)
    rw [e4]
    refine ⟨vx, nm_r ec ?_⟩
    rw [esum]
    by_cases hr : bo_ 99 (C (4 + l) + v2.toInt)
    · have hb : bo_ 200 v2.toInt := by
        unfold bo_ at hr ⊢
        omega
      obtain ⟨c3, c4⟩ := c34 hb
      unfold bo_ at hr
      refine br_f (fun z => by have := c1.mp z; omega) (br_f (fun z => by have := c2.mp z; omega) (br_f (fun z => by have := c3.mp z; omega) (br_t (c4.mpr hr.2) ⟨vx, nm_e ?_⟩)))
      refine yi_0 hn hl (br_t rfl ⟨vy, ?_⟩)
      rw [ey, ed1, ed2, esum]
      refine br_f (fun z => by have := d1.mp z; omega) ⟨vy, br_t (d2.mpr (by omega)) ⟨vy, vy, nm_e ⟨vy, ?_, ?_⟩⟩⟩
      · exact pk_us
      · rw [nI_clamp (by omega), nI_clamp (by omega)]
        have ez : (zI (C (4 + l) + v2.toInt)).toInt = C (4 + l) + v2.toInt := zi_toInt (by omega) (by omega)
        have t1 := tb_upd x3 (4 + l) (zI (C (4 + l) + v2.toInt))
        have t2 := tb_updY y3 (show l < 10 by omega) (zI (C (4 + l) + v2.toInt))
        rw [ez] at t1 t2
        exact ⟨A, B, iu_ C (4 + l) (C (4 + l) + v2.toInt), n, p, q, ⟨fun j hj => ⟨(hbb j hj).1, (hbb j hj).2.1, bo_iu (fun j hj => (hbb j hj).2.2) _ hr j hj⟩, sq_C hsq (by omega) _, hn, bp, bq⟩, ⟨rfl, rfl, rfl, rfl, rfl, rfl⟩, ⟨x1, x2, t1⟩, y1, y2, t2⟩
    · have no : wpY_bad (fun r_1 => (r_1 = 0 → vp_in (nI l) 14 ∧ (v2 < -99 - a_lc (nI l).toNatClampNeg → (-2 : Int32) = -2 ∧ i_Rel (k + 4) (nI n, zI p, zI q, f_px, f_py, f_pd, f_lowTop, f_lowBottom, f_highTop, f_highBottom, f_corners, f_made, a_as, a_bs, a_cs, a_cornerX, a_cornerY, a_cornerD, a_newX, a_newY, a_newD) (nI n, zI p, zI q, g_x, g_y, g_down, g_bestX, g_bestY, g_bestDown, a_la, a_lb, a_lc)) ∧ (¬ v2 < -99 - a_lc (nI l).toNatClampNeg → vp_in (nI l) 14 ∧ (v2 ≤ 99 - a_lc (nI l).toNatClampNeg → vp_in (nI l) 14 ∧ vp_in (nI l) 14 ∧ ∀ a_lc_21 : Nat → Int32, a_lc_21 = upd a_lc (nI l).toNatClampNeg (a_lc (nI l).toNatClampNeg + v2) → vp_in (nI l) 14 ∧ a_lc_21 (nI l).toNatClampNeg = -2 ∧ i_Rel (k + 4) (nI n, zI p, zI q, f_px, f_py, f_pd, f_lowTop, f_lowBottom, f_highTop, f_highBottom, f_corners, f_made, a_as, a_bs, a_cs, a_cornerX, a_cornerY, a_cornerD, a_newX, a_newY, a_newD) (nI n, zI p, zI q, g_x, g_y, g_down, g_bestX, g_bestY, g_bestDown, a_la, a_lb, a_lc_21)) ∧ (¬ v2 ≤ 99 - a_lc (nI l).toNatClampNeg → (-2 : Int32) = -2 ∧ i_Rel (k + 4) (nI n, zI p, zI q, f_px, f_py, f_pd, f_lowTop, f_lowBottom, f_highTop, f_highBottom, f_corners, f_made, a_as, a_bs, a_cs, a_cornerX, a_cornerY, a_cornerD, a_newX, a_newY, a_newD) (nI n, zI p, zI q, g_x, g_y, g_down, g_bestX, g_bestY, g_bestDown, a_la, a_lb, a_lc)))) ∧ (¬ r_1 = 0 → (-1 : Int32) = -2 ∧ i_Rel (k + 4) (nI n, zI p, zI q, f_px, f_py, f_pd, f_lowTop, f_lowBottom, f_highTop, f_highBottom, f_corners, f_made, a_as, a_bs, a_cs, a_cornerX, a_cornerY, a_cornerD, a_newX, a_newY, a_newD) (nI n, zI p, zI q, g_x, g_y, g_down, g_bestX, g_bestY, g_bestDown, a_la, a_lb, a_lc))) (nI n, zI p, zI q, g_x, g_y, g_down, g_bestX, g_bestY, g_bestDown, a_la, a_lb, a_lc) (nI l) := by
        refine yi_0 hn hl (br_t rfl ⟨vy, ?_⟩)
        rw [ey, ed1, ed2]
        refine br_c (fun _ => ⟨rfl, same⟩) (fun z1 => ⟨vy, br_c (fun z2 => ?_) (fun _ => ⟨rfl, same⟩)⟩)
        have g1 : ¬ v2.toInt < -99 - C (4 + l) := fun z => z1 (d1.mpr z)
        have g2 := d2.mp z2
        exact absurd (bo_lit (by omega) (by omega)) hr
      refine br_c (fun _ => no) (fun z1 => br_c (fun _ => no) (fun z2 => br_c (fun _ => no) (fun z3 => br_c (fun z4 => ?_) (fun _ => no))))
      have g1 : ¬ v2.toInt < -200 := fun z => z1 (c1.mpr z)
      have g2 : ¬ 200 < v2.toInt := fun z => z2 (c2.mpr z)
      obtain ⟨c3, c4⟩ := c34 (bo_lit (by omega) (by omega))
      have g3 : ¬ C (4 + l) + v2.toInt < -99 := fun z => z3 (c3.mpr z)
      have g4 := c4.mp z4
      exact absurd (bo_lit (by omega) (by omega)) hr
end
section
/-! empty and the six numbers of the best point -/
theorem ng_1 : ∀ j, j < 14 → ¬ nI j = (-1 : Int32) := by decide
theorem ng_ov : ∀ j, j < 14 → (nI j = (-1 : Int32) ↔ j = 99) := fun j hj => ⟨fun z => absurd z (ng_1 j hj), fun z => by omega⟩
theorem xd_z {post : Int32 → Prop} {a d : Int} (ha : bo_ 2147483647 a) (hd : 0 < d) (hd' : bo_ 2147483647 d) (hp : post (nI (Nat.gcd a.natAbs d.natAbs))) : wpX_divisor post (zI a) (zI d) := by
  rw [zi_abs (Int.le_of_lt hd)]
  unfold bo_ at hd'
  exact xd_ ha (by omega) (by omega) hp
theorem dq_ {a b d : Int} (ha : bo_ 2147483647 a) (hd : 0 < d) (hd' : bo_ 2147483647 d) : zI a / nI (Nat.gcd b.natAbs d.natAbs) = zI (a.tdiv (Nat.gcd b.natAbs d.natAbs)) := by
  have hg := gd_dv (a := b) (b := d.natAbs) (by omega)
  unfold bo_ at hd'
  rw [zi_n, zi_div ha (bo_nat (by omega))]
theorem dn_ {b d : Int} (hd : 0 < d) (hd' : bo_ 2147483647 d) : ¬ nI (Nat.gcd b.natAbs d.natAbs) = 0 := by
  have hg := gd_dv (a := b) (b := d.natAbs) (by omega)
  unfold bo_ at hd'
  exact nI_ne0 hg.1 (by omega)
section
variable {g_count g_p g_q g_x g_y g_down g_bestX g_bestY g_bestDown : Int32} {a_la a_lb a_lc : Nat → Int32}
theorem yt_topz {post : Int32 → Prop} {a d : Int} (ha : bo_ 2147483647 a) (hd : 0 < d) (hd' : bo_ 162 d) (hp : post (zI (a.tdiv (Nat.gcd a.natAbs d.natAbs)))) : wpY_top post (g_count, g_p, g_q, g_x, g_y, g_down, g_bestX, g_bestY, g_bestDown, a_la, a_lb, a_lc) (zI a) (zI d) := by
  rw [zi_abs (Int.le_of_lt hd)]
  unfold bo_ at hd'
  exact yt_top ha (by omega) (by omega) hp
theorem yt_botz {post : Int32 → Prop} {a d : Int} (ha : bo_ 2147483647 a) (hd : 0 < d) (hd' : bo_ 162 d) (hp : post (zI (d.tdiv (Nat.gcd a.natAbs d.natAbs)))) : wpY_bottom post (g_count, g_p, g_q, g_x, g_y, g_down, g_bestX, g_bestY, g_bestDown, a_la, a_lb, a_lc) (zI a) (zI d) := by
  rw [zi_abs (Int.le_of_lt hd)]
  unfold bo_ at hd'
  refine yt_bot ha (by omega) (by omega) ?_
  rw [Int.natAbs_of_nonneg (Int.le_of_lt hd)]
  exact hp
end
theorem i_vc_empty {k : Nat} {u : SX} {v : SY} (I : i_Rel k u v) (hk : k + 4 ≤ 2048) : wpX_empty (fun r u' => wpY_empty (fun r' v' => r' = r ∧ i_Rel (k + 4) u' v') v) u := by
  obtain ⟨f_count, f_p, f_q, f_px, f_py, f_pd, f_lowTop, f_lowBottom, f_highTop, f_highBottom, f_corners, f_made, a_as, a_bs, a_cs, a_cornerX, a_cornerY, a_cornerD, a_newX, a_newY, a_newD⟩ := u
  obtain ⟨g_count, g_p, g_q, g_x, g_y, g_down, g_bestX, g_bestY, g_bestDown, a_la, a_lb, a_lc⟩ := v
  obtain ⟨A, B, C, n, p, q, ⟨hbb, hsq, hn, bp, bq⟩, ⟨rfl, rfl, rfl, rfl, rfl, rfl⟩, ⟨x1, x2, x3⟩, y1, y2, y3⟩ := I
  have same : ri_ (nI n) (zI p) (zI q) a_as a_bs a_cs (nI n) (zI p) (zI q) a_la a_lb a_lc := ⟨A, B, C, n, p, q, ⟨hbb, hsq, hn, bp, bq⟩, ⟨rfl, rfl, rfl, rfl, rfl, rfl⟩, ⟨x1, x2, x3⟩, y1, y2, y3⟩
  have how : (99 < 10 ∧ (99 : Nat) = 4 + 99) ∨ ((99 : Nat) = 99 ∧ (99 : Nat) = 99) := Or.inr ⟨rfl, rfl⟩
  unfold wpX_empty
  dsimp only
  refine xv_ hbb hsq x1 x2 x3 hn (o := 99) (by omega) ng_ov bp bq (fun px py pd t1 t2 t3 t4 hb b1 b2 b3 => ?_) (fun s1 s2 s3 t1 t2 t3 t4 hE => ?_)
  · refine br_f (by decide) ?_
    unfold wpY_empty
    dsimp only
    refine yv_ (bb_yx hbb) y1 y2 y3 hn ng_ov bp bq (fun s1 s2 s3 bx by' bd Y hd => br_f (by decide) ?_) (fun s1 s2 s3 s4 s5 s6 hN => absurd hb.1 (yi_none hn how (by omega) hsq hN px py pd))
    exact ⟨rfl, same⟩
  · refine br_t rfl ?_
    unfold wpY_empty
    dsimp only
    exact yv_ (bb_yx hbb) y1 y2 y3 hn ng_ov bp bq (fun s1 s2 s3 bx by' bd Y hd => absurd (yi_be hn how (by omega) hsq hd Y).1.1 (hE bx by' bd)) (fun s1 s2 s3 s4 s5 s6 hN => br_t rfl ⟨rfl, same⟩)
theorem i_vc_valueTop {k : Nat} {u : SX} {v : SY} (I : i_Rel k u v) (hk : k + 4 ≤ 2048) : wpX_valueTop (fun r u' => wpY_valueTop (fun r' v' => r' = r ∧ i_Rel (k + 4) u' v') v) u := by
  obtain ⟨f_count, f_p, f_q, f_px, f_py, f_pd, f_lowTop, f_lowBottom, f_highTop, f_highBottom, f_corners, f_made, a_as, a_bs, a_cs, a_cornerX, a_cornerY, a_cornerD, a_newX, a_newY, a_newD⟩ := u
  obtain ⟨g_count, g_p, g_q, g_x, g_y, g_down, g_bestX, g_bestY, g_bestDown, a_la, a_lb, a_lc⟩ := v
  obtain ⟨A, B, C, n, p, q, ⟨hbb, hsq, hn, bp, bq⟩, ⟨rfl, rfl, rfl, rfl, rfl, rfl⟩, ⟨x1, x2, x3⟩, y1, y2, y3⟩ := I
  have same : ri_ (nI n) (zI p) (zI q) a_as a_bs a_cs (nI n) (zI p) (zI q) a_la a_lb a_lc := ⟨A, B, C, n, p, q, ⟨hbb, hsq, hn, bp, bq⟩, ⟨rfl, rfl, rfl, rfl, rfl, rfl⟩, ⟨x1, x2, x3⟩, y1, y2, y3⟩
  have how : (99 < 10 ∧ (99 : Nat) = 4 + 99) ∨ ((99 : Nat) = 99 ∧ (99 : Nat) = 99) := Or.inr ⟨rfl, rfl⟩
  unfold wpX_valueTop
  dsimp only
  refine xv_ hbb hsq x1 x2 x3 hn (o := 99) (by omega) ng_ov bp bq (fun px py pd t1 t2 t3 t4 hb b1 b2 b3 => ?_) (fun s1 s2 s3 t1 t2 t3 t4 hE => ?_)
  · have ex : ∀ a b c d : Int, zI a * zI b + zI c * zI d = zI (a * b + c * d) := fun a b c d => by rw [zi_mul, zi_mul, zi_add]
    have ba : bo_ 2147483647 (p * px + q * py) := bo_le (bo_add (bo_mul bp b1) (bo_mul bq b2)) (by decide)
    have bd3 : bo_ 2147483647 pd := bo_le b3 (by decide)
    refine br_f (by decide) (nm_r (ex _ _ _ _) (xd_z ba hb.1.1 bd3 ⟨dn_ hb.1.1 bd3, ?_⟩))
    rw [dq_ ba hb.1.1 bd3]
    unfold wpY_valueTop
    dsimp only
    refine yv_ (bb_yx hbb) y1 y2 y3 hn ng_ov bp bq (fun s1 s2 s3 bx by' bd Y hd => br_f (by decide) ?_) (fun s1 s2 s3 s4 s5 s6 hN => absurd hb.1 (yi_none hn how (by omega) hsq hN px py pd))
    obtain ⟨yb, c1, c2, c3⟩ := yi_be hn how (by omega) hsq hd Y
    have ee := be_uniq hb yb b1 b2 b3 c1 c2 c3
    rw [ex]
    have fr := fr_red (a := p * px + q * py) (b := pd) (a' := p * bx + q * by') (b' := bd) hb.1.1 hd ((eq_val ee).symm)
    refine yt_topz (bo_le (bo_add (bo_mul bp c1) (bo_mul bq c2)) (by decide)) hd c3 ⟨?_, same⟩
    rw [fr.1]
  · refine br_t rfl ?_
    unfold wpY_valueTop
    dsimp only
    exact yv_ (bb_yx hbb) y1 y2 y3 hn ng_ov bp bq (fun s1 s2 s3 bx by' bd Y hd => absurd (yi_be hn how (by omega) hsq hd Y).1.1 (hE bx by' bd)) (fun s1 s2 s3 s4 s5 s6 hN => br_t rfl ⟨rfl, same⟩)
theorem i_vc_valueBottom {k : Nat} {u : SX} {v : SY} (I : i_Rel k u v) (hk : k + 4 ≤ 2048) : wpX_valueBottom (fun r u' => wpY_valueBottom (fun r' v' => r' = r ∧ i_Rel (k + 4) u' v') v) u := by
  obtain ⟨f_count, f_p, f_q, f_px, f_py, f_pd, f_lowTop, f_lowBottom, f_highTop, f_highBottom, f_corners, f_made, a_as, a_bs, a_cs, a_cornerX, a_cornerY, a_cornerD, a_newX, a_newY, a_newD⟩ := u
  obtain ⟨g_count, g_p, g_q, g_x, g_y, g_down, g_bestX, g_bestY, g_bestDown, a_la, a_lb, a_lc⟩ := v
  obtain ⟨A, B, C, n, p, q, ⟨hbb, hsq, hn, bp, bq⟩, ⟨rfl, rfl, rfl, rfl, rfl, rfl⟩, ⟨x1, x2, x3⟩, y1, y2, y3⟩ := I
  have same : ri_ (nI n) (zI p) (zI q) a_as a_bs a_cs (nI n) (zI p) (zI q) a_la a_lb a_lc := ⟨A, B, C, n, p, q, ⟨hbb, hsq, hn, bp, bq⟩, ⟨rfl, rfl, rfl, rfl, rfl, rfl⟩, ⟨x1, x2, x3⟩, y1, y2, y3⟩
  have how : (99 < 10 ∧ (99 : Nat) = 4 + 99) ∨ ((99 : Nat) = 99 ∧ (99 : Nat) = 99) := Or.inr ⟨rfl, rfl⟩
  unfold wpX_valueBottom
  dsimp only
  refine xv_ hbb hsq x1 x2 x3 hn (o := 99) (by omega) ng_ov bp bq (fun px py pd t1 t2 t3 t4 hb b1 b2 b3 => ?_) (fun s1 s2 s3 t1 t2 t3 t4 hE => ?_)
  · have ex : ∀ a b c d : Int, zI a * zI b + zI c * zI d = zI (a * b + c * d) := fun a b c d => by rw [zi_mul, zi_mul, zi_add]
    have ba : bo_ 2147483647 (p * px + q * py) := bo_le (bo_add (bo_mul bp b1) (bo_mul bq b2)) (by decide)
    have bd3 : bo_ 2147483647 pd := bo_le b3 (by decide)
    refine br_f (by decide) (nm_r (ex _ _ _ _) (xd_z ba hb.1.1 bd3 ⟨dn_ hb.1.1 bd3, ?_⟩))
    rw [dq_ bd3 hb.1.1 bd3]
    unfold wpY_valueBottom
    dsimp only
    refine yv_ (bb_yx hbb) y1 y2 y3 hn ng_ov bp bq (fun s1 s2 s3 bx by' bd Y hd => br_f (by decide) ?_) (fun s1 s2 s3 s4 s5 s6 hN => absurd hb.1 (yi_none hn how (by omega) hsq hN px py pd))
    obtain ⟨yb, c1, c2, c3⟩ := yi_be hn how (by omega) hsq hd Y
    have ee := be_uniq hb yb b1 b2 b3 c1 c2 c3
    rw [ex]
    have fr := fr_red (a := p * px + q * py) (b := pd) (a' := p * bx + q * by') (b' := bd) hb.1.1 hd ((eq_val ee).symm)
    refine yt_botz (bo_le (bo_add (bo_mul bp c1) (bo_mul bq c2)) (by decide)) hd c3 ⟨?_, same⟩
    rw [fr.2]
  · refine br_t rfl ?_
    unfold wpY_valueBottom
    dsimp only
    exact yv_ (bb_yx hbb) y1 y2 y3 hn ng_ov bp bq (fun s1 s2 s3 bx by' bd Y hd => absurd (yi_be hn how (by omega) hsq hd Y).1.1 (hE bx by' bd)) (fun s1 s2 s3 s4 s5 s6 hN => br_t rfl ⟨rfl, same⟩)
theorem i_vc_xTop {k : Nat} {u : SX} {v : SY} (I : i_Rel k u v) (hk : k + 4 ≤ 2048) : wpX_xTop (fun r u' => wpY_xTop (fun r' v' => r' = r ∧ i_Rel (k + 4) u' v') v) u := by
  obtain ⟨f_count, f_p, f_q, f_px, f_py, f_pd, f_lowTop, f_lowBottom, f_highTop, f_highBottom, f_corners, f_made, a_as, a_bs, a_cs, a_cornerX, a_cornerY, a_cornerD, a_newX, a_newY, a_newD⟩ := u
  obtain ⟨g_count, g_p, g_q, g_x, g_y, g_down, g_bestX, g_bestY, g_bestDown, a_la, a_lb, a_lc⟩ := v
  obtain ⟨A, B, C, n, p, q, ⟨hbb, hsq, hn, bp, bq⟩, ⟨rfl, rfl, rfl, rfl, rfl, rfl⟩, ⟨x1, x2, x3⟩, y1, y2, y3⟩ := I
  have same : ri_ (nI n) (zI p) (zI q) a_as a_bs a_cs (nI n) (zI p) (zI q) a_la a_lb a_lc := ⟨A, B, C, n, p, q, ⟨hbb, hsq, hn, bp, bq⟩, ⟨rfl, rfl, rfl, rfl, rfl, rfl⟩, ⟨x1, x2, x3⟩, y1, y2, y3⟩
  have how : (99 < 10 ∧ (99 : Nat) = 4 + 99) ∨ ((99 : Nat) = 99 ∧ (99 : Nat) = 99) := Or.inr ⟨rfl, rfl⟩
  unfold wpX_xTop
  dsimp only
  refine xv_ hbb hsq x1 x2 x3 hn (o := 99) (by omega) ng_ov bp bq (fun px py pd t1 t2 t3 t4 hb b1 b2 b3 => ?_) (fun s1 s2 s3 t1 t2 t3 t4 hE => ?_)
  · have ba : bo_ 2147483647 (px) := bo_le b1 (by decide)
    have bd3 : bo_ 2147483647 pd := bo_le b3 (by decide)
    refine br_f (by decide) (xd_z ba hb.1.1 bd3 ⟨dn_ hb.1.1 bd3, ?_⟩)
    rw [dq_ ba hb.1.1 bd3]
    unfold wpY_xTop
    dsimp only
    refine yv_ (bb_yx hbb) y1 y2 y3 hn ng_ov bp bq (fun s1 s2 s3 bx by' bd Y hd => br_f (by decide) ?_) (fun s1 s2 s3 s4 s5 s6 hN => absurd hb.1 (yi_none hn how (by omega) hsq hN px py pd))
    obtain ⟨yb, c1, c2, c3⟩ := yi_be hn how (by omega) hsq hd Y
    have ee := be_uniq hb yb b1 b2 b3 c1 c2 c3
    have fr := fr_red (a := px) (b := pd) (a' := bx) (b' := bd) hb.1.1 hd (ee.1)
    refine yt_topz (bo_le c1 (by decide)) hd c3 ⟨?_, same⟩
    rw [fr.1]
  · refine br_t rfl ?_
    unfold wpY_xTop
    dsimp only
    exact yv_ (bb_yx hbb) y1 y2 y3 hn ng_ov bp bq (fun s1 s2 s3 bx by' bd Y hd => absurd (yi_be hn how (by omega) hsq hd Y).1.1 (hE bx by' bd)) (fun s1 s2 s3 s4 s5 s6 hN => br_t rfl ⟨rfl, same⟩)
theorem i_vc_xBottom {k : Nat} {u : SX} {v : SY} (I : i_Rel k u v) (hk : k + 4 ≤ 2048) : wpX_xBottom (fun r u' => wpY_xBottom (fun r' v' => r' = r ∧ i_Rel (k + 4) u' v') v) u := by
  obtain ⟨f_count, f_p, f_q, f_px, f_py, f_pd, f_lowTop, f_lowBottom, f_highTop, f_highBottom, f_corners, f_made, a_as, a_bs, a_cs, a_cornerX, a_cornerY, a_cornerD, a_newX, a_newY, a_newD⟩ := u
  obtain ⟨g_count, g_p, g_q, g_x, g_y, g_down, g_bestX, g_bestY, g_bestDown, a_la, a_lb, a_lc⟩ := v
  obtain ⟨A, B, C, n, p, q, ⟨hbb, hsq, hn, bp, bq⟩, ⟨rfl, rfl, rfl, rfl, rfl, rfl⟩, ⟨x1, x2, x3⟩, y1, y2, y3⟩ := I
  have same : ri_ (nI n) (zI p) (zI q) a_as a_bs a_cs (nI n) (zI p) (zI q) a_la a_lb a_lc := ⟨A, B, C, n, p, q, ⟨hbb, hsq, hn, bp, bq⟩, ⟨rfl, rfl, rfl, rfl, rfl, rfl⟩, ⟨x1, x2, x3⟩, y1, y2, y3⟩
  have how : (99 < 10 ∧ (99 : Nat) = 4 + 99) ∨ ((99 : Nat) = 99 ∧ (99 : Nat) = 99) := Or.inr ⟨rfl, rfl⟩
  unfold wpX_xBottom
  dsimp only
  refine xv_ hbb hsq x1 x2 x3 hn (o := 99) (by omega) ng_ov bp bq (fun px py pd t1 t2 t3 t4 hb b1 b2 b3 => ?_) (fun s1 s2 s3 t1 t2 t3 t4 hE => ?_)
  · have ba : bo_ 2147483647 (px) := bo_le b1 (by decide)
    have bd3 : bo_ 2147483647 pd := bo_le b3 (by decide)
    refine br_f (by decide) (xd_z ba hb.1.1 bd3 ⟨dn_ hb.1.1 bd3, ?_⟩)
    rw [dq_ bd3 hb.1.1 bd3]
    unfold wpY_xBottom
    dsimp only
    refine yv_ (bb_yx hbb) y1 y2 y3 hn ng_ov bp bq (fun s1 s2 s3 bx by' bd Y hd => br_f (by decide) ?_) (fun s1 s2 s3 s4 s5 s6 hN => absurd hb.1 (yi_none hn how (by omega) hsq hN px py pd))
    obtain ⟨yb, c1, c2, c3⟩ := yi_be hn how (by omega) hsq hd Y
    have ee := be_uniq hb yb b1 b2 b3 c1 c2 c3
    have fr := fr_red (a := px) (b := pd) (a' := bx) (b' := bd) hb.1.1 hd (ee.1)
    refine yt_botz (bo_le c1 (by decide)) hd c3 ⟨?_, same⟩
    rw [fr.2]
  · refine br_t rfl ?_
    unfold wpY_xBottom
    dsimp only
    exact yv_ (bb_yx hbb) y1 y2 y3 hn ng_ov bp bq (fun s1 s2 s3 bx by' bd Y hd => absurd (yi_be hn how (by omega) hsq hd Y).1.1 (hE bx by' bd)) (fun s1 s2 s3 s4 s5 s6 hN => br_t rfl ⟨rfl, same⟩)
theorem i_vc_yTop {k : Nat} {u : SX} {v : SY} (I : i_Rel k u v) (hk : k + 4 ≤ 2048) : wpX_yTop (fun r u' => wpY_yTop (fun r' v' => r' = r ∧ i_Rel (k + 4) u' v') v) u := by
  obtain ⟨f_count, f_p, f_q, f_px, f_py, f_pd, f_lowTop, f_lowBottom, f_highTop, f_highBottom, f_corners, f_made, a_as, a_bs, a_cs, a_cornerX, a_cornerY, a_cornerD, a_newX, a_newY, a_newD⟩ := u
  obtain ⟨g_count, g_p, g_q, g_x, g_y, g_down, g_bestX, g_bestY, g_bestDown, a_la, a_lb, a_lc⟩ := v
  obtain ⟨A, B, C, n, p, q, ⟨hbb, hsq, hn, bp, bq⟩, ⟨rfl, rfl, rfl, rfl, rfl, rfl⟩, ⟨x1, x2, x3⟩, y1, y2, y3⟩ := I
  have same : ri_ (nI n) (zI p) (zI q) a_as a_bs a_cs (nI n) (zI p) (zI q) a_la a_lb a_lc := ⟨A, B, C, n, p, q, ⟨hbb, hsq, hn, bp, bq⟩, ⟨rfl, rfl, rfl, rfl, rfl, rfl⟩, ⟨x1, x2, x3⟩, y1, y2, y3⟩
  have how : (99 < 10 ∧ (99 : Nat) = 4 + 99) ∨ ((99 : Nat) = 99 ∧ (99 : Nat) = 99) := Or.inr ⟨rfl, rfl⟩
  unfold wpX_yTop
  dsimp only
  refine xv_ hbb hsq x1 x2 x3 hn (o := 99) (by omega) ng_ov bp bq (fun px py pd t1 t2 t3 t4 hb b1 b2 b3 => ?_) (fun s1 s2 s3 t1 t2 t3 t4 hE => ?_)
  · have ba : bo_ 2147483647 (py) := bo_le b2 (by decide)
    have bd3 : bo_ 2147483647 pd := bo_le b3 (by decide)
    refine br_f (by decide) (xd_z ba hb.1.1 bd3 ⟨dn_ hb.1.1 bd3, ?_⟩)
    rw [dq_ ba hb.1.1 bd3]
    unfold wpY_yTop
    dsimp only
    refine yv_ (bb_yx hbb) y1 y2 y3 hn ng_ov bp bq (fun s1 s2 s3 bx by' bd Y hd => br_f (by decide) ?_) (fun s1 s2 s3 s4 s5 s6 hN => absurd hb.1 (yi_none hn how (by omega) hsq hN px py pd))
    obtain ⟨yb, c1, c2, c3⟩ := yi_be hn how (by omega) hsq hd Y
    have ee := be_uniq hb yb b1 b2 b3 c1 c2 c3
    have fr := fr_red (a := py) (b := pd) (a' := by') (b' := bd) hb.1.1 hd (ee.2)
    refine yt_topz (bo_le c2 (by decide)) hd c3 ⟨?_, same⟩
    rw [fr.1]
  · refine br_t rfl ?_
    unfold wpY_yTop
    dsimp only
    exact yv_ (bb_yx hbb) y1 y2 y3 hn ng_ov bp bq (fun s1 s2 s3 bx by' bd Y hd => absurd (yi_be hn how (by omega) hsq hd Y).1.1 (hE bx by' bd)) (fun s1 s2 s3 s4 s5 s6 hN => br_t rfl ⟨rfl, same⟩)
theorem i_vc_yBottom {k : Nat} {u : SX} {v : SY} (I : i_Rel k u v) (hk : k + 4 ≤ 2048) : wpX_yBottom (fun r u' => wpY_yBottom (fun r' v' => r' = r ∧ i_Rel (k + 4) u' v') v) u := by
  obtain ⟨f_count, f_p, f_q, f_px, f_py, f_pd, f_lowTop, f_lowBottom, f_highTop, f_highBottom, f_corners, f_made, a_as, a_bs, a_cs, a_cornerX, a_cornerY, a_cornerD, a_newX, a_newY, a_newD⟩ := u
  obtain ⟨g_count, g_p, g_q, g_x, g_y, g_down, g_bestX, g_bestY, g_bestDown, a_la, a_lb, a_lc⟩ := v
  obtain ⟨A, B, C, n, p, q, ⟨hbb, hsq, hn, bp, bq⟩, ⟨rfl, rfl, rfl, rfl, rfl, rfl⟩, ⟨x1, x2, x3⟩, y1, y2, y3⟩ := I
  have same : ri_ (nI n) (zI p) (zI q) a_as a_bs a_cs (nI n) (zI p) (zI q) a_la a_lb a_lc := ⟨A, B, C, n, p, q, ⟨hbb, hsq, hn, bp, bq⟩, ⟨rfl, rfl, rfl, rfl, rfl, rfl⟩, ⟨x1, x2, x3⟩, y1, y2, y3⟩
  have how : (99 < 10 ∧ (99 : Nat) = 4 + 99) ∨ ((99 : Nat) = 99 ∧ (99 : Nat) = 99) := Or.inr ⟨rfl, rfl⟩
  unfold wpX_yBottom
  dsimp only
  refine xv_ hbb hsq x1 x2 x3 hn (o := 99) (by omega) ng_ov bp bq (fun px py pd t1 t2 t3 t4 hb b1 b2 b3 => ?_) (fun s1 s2 s3 t1 t2 t3 t4 hE => ?_)
  · have ba : bo_ 2147483647 (py) := bo_le b2 (by decide)
    have bd3 : bo_ 2147483647 pd := bo_le b3 (by decide)
    refine br_f (by decide) (xd_z ba hb.1.1 bd3 ⟨dn_ hb.1.1 bd3, ?_⟩)
    rw [dq_ bd3 hb.1.1 bd3]
    unfold wpY_yBottom
    dsimp only
    refine yv_ (bb_yx hbb) y1 y2 y3 hn ng_ov bp bq (fun s1 s2 s3 bx by' bd Y hd => br_f (by decide) ?_) (fun s1 s2 s3 s4 s5 s6 hN => absurd hb.1 (yi_none hn how (by omega) hsq hN px py pd))
    obtain ⟨yb, c1, c2, c3⟩ := yi_be hn how (by omega) hsq hd Y
    have ee := be_uniq hb yb b1 b2 b3 c1 c2 c3
    have fr := fr_red (a := py) (b := pd) (a' := by') (b' := bd) hb.1.1 hd (ee.2)
    refine yt_botz (bo_le c2 (by decide)) hd c3 ⟨?_, same⟩
    rw [fr.2]
  · refine br_t rfl ?_
    unfold wpY_yBottom
    dsimp only
    exact yv_ (bb_yx hbb) y1 y2 y3 hn ng_ov bp bq (fun s1 s2 s3 bx by' bd Y hd => absurd (yi_be hn how (by omega) hsq hd Y).1.1 (hE bx by' bd)) (fun s1 s2 s3 s4 s5 s6 hN => br_t rfl ⟨rfl, same⟩)
end
section
/-! tight, redundant -/
def ct_ (A B C : Nat → Int) (x y d : Int) : Nat → Nat
  | 0 => 0
  | m + 1 => ct_ A B C x y d m + (if A (4 + m) * x + B (4 + m) * y = C (4 + m) * d then 1 else 0)
theorem ct_le {A B C : Nat → Int} {x y d : Int} : ∀ m, ct_ A B C x y d m ≤ m := by
  intro m
  induction m with
  | zero => exact Nat.le_refl 0
  | succ m ih =>
    unfold ct_
    split <;> omega
theorem ct_eq {A B C : Nat → Int} {x y d x' y' d' : Int} (hd : 0 < d) (hd' : 0 < d') (e : eq_ x y d x' y' d') : ∀ m, ct_ A B C x y d m = ct_ A B C x' y' d' m := by
  intro m
  induction m with
  | zero => rfl
  | succ m ih =>
    unfold ct_
    rw [ih]
    congr 1
    by_cases z : A (4 + m) * x + B (4 + m) * y = C (4 + m) * d
    · have : A (4 + m) * x' + B (4 + m) * y' = C (4 + m) * d' := ti_tr hd e z
      rw [if_pos z, if_pos this]
    · have : ¬ A (4 + m) * x' + B (4 + m) * y' = C (4 + m) * d' := fun w => z (ti_tr hd' (eq_symm e) w)
      rw [if_neg z, if_neg this]
section
variable {A B C : Nat → Int} {n : Nat}
variable {f_count f_p f_q f_px f_py f_pd f_lowTop f_lowBottom f_highTop f_highBottom f_corners f_made : Int32} {a_as a_bs a_cs a_cornerX a_cornerY a_cornerD a_newX a_newY a_newD : Nat → Int32}
variable {g_count g_p g_q g_x g_y g_down g_bestX g_bestY g_bestDown : Int32} {a_la a_lb a_lc : Nat → Int32}
theorem xg_loop {post : Int32 → SX → Prop} {px py pd : Int} (hbb : bb_ A B C) (hA : tb_ a_as A) (hB : tb_ a_bs B) (hC : tb_ a_cs C) (hn : n ≤ 10) (b1 : bo_ 433026 px) (b2 : bo_ 433026 py) (b3 : bo_ 26244 pd)
    (H : post (nI (ct_ A B C px py pd n)) (nI n, f_p, f_q, zI px, zI py, zI pd, f_lowTop, f_lowBottom, f_highTop, f_highBottom, f_corners, f_made, a_as, a_bs, a_cs, a_cornerX, a_cornerY, a_cornerD, a_newX, a_newY, a_newD)) :
    ∀ (e j fu : Nat), j + e = n → e < fu → wX_tight_22 post (nI n) f_p f_q (zI px) (zI py) (zI pd) f_lowTop f_lowBottom f_highTop f_highBottom f_corners f_made a_as a_bs a_cs a_cornerX a_cornerY a_cornerD a_newX a_newY a_newD fu (nI (ct_ A B C px py pd j)) (nI (4 + j)) := by
  intro e
  induction e with
  | zero =>
    intro j fu hj hf
    obtain ⟨fu, rfl⟩ : ∃ n', fu = n' + 1 := ⟨fu - 1, by omega⟩
    have e : j = n := by omega
    subst e
    exact pk_le (4 + j) (4 + j) (fun _ => H) (fun z => by omega) (nI_add 4 j) rfl (by omega) (by omega)
  | succ e ih =>
    intro j fu hj hf
    obtain ⟨fu, rfl⟩ : ∃ n', fu = n' + 1 := ⟨fu - 1, by omega⟩
    have hj14 : 4 + j < 14 := by omega
    have v : vp_in (nI (4 + j)) 14 := vp_in_nI hj14 (by decide)
    obtain ⟨ba, bb', bc⟩ := hbb (4 + j) hj14
    have e1 : a_as (nI (4 + j)).toNatClampNeg * zI px + a_bs (nI (4 + j)).toNatClampNeg * zI py = zI (A (4 + j) * px + B (4 + j) * py) := by
      rw [tb_at hA hj14, tb_at hB hj14, zi_mul, zi_mul, zi_add]
    have e2 : a_cs (nI (4 + j)).toNatClampNeg * zI pd = zI (C (4 + j) * pd) := by
      rw [tb_at hC hj14, zi_mul]
    have q := zi_eq (a := A (4 + j) * px + B (4 + j) * py) (b := C (4 + j) * pd) (bo_le (bo_add (bo_mul ba b1) (bo_mul bb' b2)) (by decide)) (bo_le (bo_mul bc b3) (by decide))
    have ih' := ih (j + 1) fu (by omega) (by omega)
    refine pk_le (4 + n) (4 + j) (fun z => by omega) (fun _ => ⟨v, v, v, ?_⟩) (nI_add 4 n) rfl (by omega) (by omega)
    rw [e1, e2]
    by_cases z : A (4 + j) * px + B (4 + j) * py = C (4 + j) * pd
    · have ec : ct_ A B C px py pd (j + 1) = ct_ A B C px py pd j + 1 := by
        show ct_ A B C px py pd j + _ = _
        rw [if_pos z]
      rw [ec] at ih'
      exact br_t (q.mpr z) (nm_r (nI_1 _) (nm_r (nI_1 _) ih'))
    · have ec : ct_ A B C px py pd (j + 1) = ct_ A B C px py pd j := by
        show ct_ A B C px py pd j + _ = _
        rw [if_neg z]
        rfl
      rw [ec] at ih'
      exact br_f (fun w => z (q.mp w)) (nm_r (Int32.add_zero _) (nm_r (nI_1 _) ih'))
theorem yg_loop {post : Int32 → SY → Prop} {bx by' bd : Int} (hbb : bb_ A B C) (hA : tb_ a_la (fun i => A (yx_ i))) (hB : tb_ a_lb (fun i => B (yx_ i))) (hC : tb_ a_lc (fun i => C (yx_ i))) (hn : n ≤ 10) (b1 : bo_ 1782 bx) (b2 : bo_ 1782 by') (b3 : bo_ 162 bd)
    (H : post (nI (ct_ A B C bx by' bd n)) (nI n, g_p, g_q, g_x, g_y, g_down, zI bx, zI by', zI bd, a_la, a_lb, a_lc)) :
    ∀ (e j fu : Nat), j + e = n → e < fu → wY_tight_13 post (nI n) g_p g_q g_x g_y g_down (zI bx) (zI by') (zI bd) a_la a_lb a_lc fu (nI (ct_ A B C bx by' bd j)) (nI j) := by
  intro e
  induction e with
  | zero =>
    intro j fu hj hf
    obtain ⟨fu, rfl⟩ : ∃ n', fu = n' + 1 := ⟨fu - 1, by omega⟩
    have e : j = n := by omega
    subst e
    exact br_t (nI_le (by omega) (by omega)) H
  | succ e ih =>
    intro j fu hj hf
    obtain ⟨fu, rfl⟩ : ∃ n', fu = n' + 1 := ⟨fu - 1, by omega⟩
    have hj14 : j < 14 := by omega
    have v : vp_in (nI j) 14 := vp_in_nI hj14 (by decide)
    obtain ⟨ba, bb', bc⟩ := hbb (4 + j) (by omega)
    have t1 := tb_at hA hj14
    have t2 := tb_at hB hj14
    have t3 := tb_at hC hj14
    rw [yx_lo (by omega)] at t1 t2 t3
    have e1 : a_la (nI j).toNatClampNeg * zI bx + a_lb (nI j).toNatClampNeg * zI by' = zI (A (4 + j) * bx + B (4 + j) * by') := by
      rw [t1, t2, zi_mul, zi_mul, zi_add]
    have e2 : a_lc (nI j).toNatClampNeg * zI bd = zI (C (4 + j) * bd) := by
      rw [t3, zi_mul]
    have q := zi_eq (a := A (4 + j) * bx + B (4 + j) * by') (b := C (4 + j) * bd) (bo_le (bo_add (bo_mul ba b1) (bo_mul bb' b2)) (by decide)) (bo_le (bo_mul bc b3) (by decide))
    have ih' := ih (j + 1) fu (by omega) (by omega)
    refine br_f (nI_ge (by omega) (by omega)) (br_f (nI_ge (b := 10) (by omega) (by decide)) ⟨v, v, v, ?_⟩)
    rw [e1, e2]
    by_cases z : A (4 + j) * bx + B (4 + j) * by' = C (4 + j) * bd
    · have ec : ct_ A B C bx by' bd (j + 1) = ct_ A B C bx by' bd j + 1 := by
        show ct_ A B C bx by' bd j + _ = _
        rw [if_pos z]
      rw [ec] at ih'
      exact br_t (q.mpr z) (nm_r (nI_1 _) (nm_r (nI_1 _) ih'))
    · have ec : ct_ A B C bx by' bd (j + 1) = ct_ A B C bx by' bd j := by
        show ct_ A B C bx by' bd j + _ = _
        rw [if_neg z]
        rfl
      rw [ec] at ih'
      exact br_f (fun w => z (q.mp w)) (nm_r (nI_1 _) ih')
/-! Y's redundant: pairs of borders, one left out -/
theorem yr_in {post : Int32 → SY → Prop} {J12 : Int32 → Int32 → Int32 → Int32 → Int32 → Int32 → Int32 → Int32 → Int32 → Int32 → (Nat → Int32) → (Nat → Int32) → (Nat → Int32) → Prop} {i l : Nat}
    (hbb : bb_ A B C) (hA : tb_ a_la A) (hB : tb_ a_lb B) (hC : tb_ a_lc C) (hn : n ≤ 10) (hl : l < 14) (hi : i < 14)
    (K : ∀ (s1 s2 s3 : Int32), (∀ i' j', bf_ (i + 1) 0 i' j' → ∀ x y d, me_ A B C (yT_ n l) i' j' x y d → A l * x + B l * y ≤ C l * d) → J12 (nI (i + 1)) (nI n) g_p g_q s1 s2 s3 g_bestX g_bestY g_bestDown a_la a_lb a_lc)
    (H0 : ∀ i j x y d, me_ A B C (yT_ n l) i j x y d → bo_ 1782 x → bo_ 1782 y → bo_ 162 d → C l * d < A l * x + B l * y → post 0 (nI n, g_p, g_q, zI x, zI y, zI d, g_bestX, g_bestY, g_bestDown, a_la, a_lb, a_lc)) :
    ∀ (e j fu : Nat) (s1 s2 s3 : Int32), j + e = i → e < fu → (∀ i' j', bf_ i j i' j' → ∀ x y d, me_ A B C (yT_ n l) i' j' x y d → A l * x + B l * y ≤ C l * d) →
      wY_redundant_20 post J12 (nI l) (nI i) fu (nI j) (nI n) g_p g_q s1 s2 s3 g_bestX g_bestY g_bestDown a_la a_lb a_lc := by
  have hw : ∀ i, i < 14 → (nI i = nI l ↔ i = l) := fun i hi => nI_eq (by omega) (by omega)
  intro e
  induction e with
  | zero =>
    intro j fu s1 s2 s3 hj hf I
    obtain ⟨fu, rfl⟩ : ∃ n', fu = n' + 1 := ⟨fu - 1, by omega⟩
    have e : j = i := by omega
    subst e
    exact br_t (nI_le (by omega) (by omega)) (nm_r (nI_1 j) (K _ _ _ (fun i' j' hf => I i' j' (bf_n hf))))
  | succ e ih =>
    intro j fu s1 s2 s3 hj hf I
    obtain ⟨fu, rfl⟩ : ∃ n', fu = n' + 1 := ⟨fu - 1, by omega⟩
    have v : vp_in (nI l) 14 := vp_in_nI hl (by decide)
    obtain ⟨ba, bb', bc⟩ := hbb l hl
    refine br_f (nI_ge (by omega) (by omega)) ?_
    refine ym_ hbb hA hB hC hn hw hi (by omega) (fun x y d m b1 b2 b3 => ?_) (fun t1 t2 t3 m => ?_)
    · refine br_f (by decide) ⟨v, v, v, ?_⟩
      have e1 : a_la (nI l).toNatClampNeg * zI x + a_lb (nI l).toNatClampNeg * zI y = zI (A l * x + B l * y) := by
        rw [tb_at hA hl, tb_at hB hl, zi_mul, zi_mul, zi_add]
      have e2 : a_lc (nI l).toNatClampNeg * zI d = zI (C l * d) := by
        rw [tb_at hC hl, zi_mul]
      have q := zi_le (a := A l * x + B l * y) (b := C l * d) (bo_le (bo_add (bo_mul ba b1) (bo_mul bb' b2)) (by decide)) (bo_le (bo_mul bc b3) (by decide))
      rw [e1, e2]
      by_cases z : A l * x + B l * y ≤ C l * d
      · refine br_t (q.mpr z) (nm_r (nI_1 j) (ih (j + 1) fu _ _ _ (by omega) (by omega) ?_))
        intro i' j' hf x' y' d' m'
        rcases bf_s hf with w | ⟨w1, w2⟩
        · exact I i' j' w x' y' d' m'
        · subst w1 w2
          have ee := ti_uniq m.2.2.2.1 m.2.2.2.2.1 m.2.2.2.2.2 m'.2.2.2.2.1 m'.2.2.2.2.2
          have e := eq_lin ee (A l) (B l) (C l)
          have g1 := (sg_le (z := A l * x + B l * y - C l * d) m'.1.1).mpr (by omega)
          have := (sg_le (z := A l * x' + B l * y' - C l * d') m.1.1).mp (by omega)
          omega
      · exact br_f (fun w => z (q.mp w)) (H0 _ _ _ _ _ m b1 b2 b3 (by omega))
    · refine br_t rfl (nm_r (nI_1 j) (ih (j + 1) fu _ _ _ (by omega) (by omega) ?_))
      intro i' j' hf x' y' d' m'
      rcases bf_s hf with w | ⟨w1, w2⟩
      · exact I i' j' w x' y' d' m'
      · subst w1 w2
        exact absurd m' (m x' y' d')
theorem yr_out {post : Int32 → SY → Prop} {l : Nat}
    (hbb : bb_ A B C) (hA : tb_ a_la A) (hB : tb_ a_lb B) (hC : tb_ a_lc C) (hn : n ≤ 10) (hl : l < 14)
    (H1 : ∀ (s1 s2 s3 : Int32), (∀ i' j', bf_ 14 0 i' j' → ∀ x y d, me_ A B C (yT_ n l) i' j' x y d → A l * x + B l * y ≤ C l * d) → post 1 (nI n, g_p, g_q, s1, s2, s3, g_bestX, g_bestY, g_bestDown, a_la, a_lb, a_lc))
    (H0 : ∀ i j x y d, me_ A B C (yT_ n l) i j x y d → bo_ 1782 x → bo_ 1782 y → bo_ 162 d → C l * d < A l * x + B l * y → post 0 (nI n, g_p, g_q, zI x, zI y, zI d, g_bestX, g_bestY, g_bestDown, a_la, a_lb, a_lc)) :
    ∀ (e i fu : Nat) (s1 s2 s3 : Int32), i + e = 14 → e < fu → (∀ i' j', bf_ i 0 i' j' → ∀ x y d, me_ A B C (yT_ n l) i' j' x y d → A l * x + B l * y ≤ C l * d) →
      wY_redundant_12 post (nI l) fu (nI i) (nI n) g_p g_q s1 s2 s3 g_bestX g_bestY g_bestDown a_la a_lb a_lc := by
  intro e
  induction e with
  | zero =>
    intro i fu s1 s2 s3 hi hf I
    obtain ⟨fu, rfl⟩ : ∃ n', fu = n' + 1 := ⟨fu - 1, by omega⟩
    have e : i = 14 := by omega
    subst e
    exact br_t (nI_le (a := 14) (b := 14) (by decide) (by decide)) (H1 _ _ _ I)
  | succ e ih =>
    intro i fu s1 s2 s3 hi hf I
    obtain ⟨fu, rfl⟩ : ∃ n', fu = n' + 1 := ⟨fu - 1, by omega⟩
    refine br_f (nI_ge (b := 14) (by omega) (by decide)) ⟨i + 1, ?_⟩
    exact yr_in hbb hA hB hC hn hl (by omega) (fun s1 s2 s3 I' => ih (i + 1) fu s1 s2 s3 (by omega) (by omega) I') H0 i 0 (i + 1) s1 s2 s3 (by omega) (by omega) I
end
section
variable {A B C : Nat → Int} {S : Nat → Prop} {x y d : Int}
/-- a vertex by small numbers -/
theorem ve_cram (hb : bb_ A B C) (h14 : ∀ i, S i → i < 14) (h : ve_ A B C S x y d) : ∃ x' y' d', 0 < d' ∧ eq_ x y d x' y' d' ∧ bo_ 1782 x' ∧ bo_ 1782 y' ∧ bo_ 162 d' := by
  obtain ⟨f, i, j, hi, hj, hn, ti, tj⟩ := h
  obtain ⟨e1, e2⟩ := cr_ ti tj
  obtain ⟨ai, bi, ci⟩ := hb i (h14 i hi)
  obtain ⟨aj, bj, cj⟩ := hb j (h14 j hj)
  have bD := bb_det ai bi aj bj
  have bX : bo_ 1782 (C i * B j - C j * B i) := bo_le (bo_sub (bo_mul ci bj) (bo_mul cj bi)) (by decide)
  have bY : bo_ 1782 (A i * C j - A j * C i) := bo_le (bo_sub (bo_mul ai cj) (bo_mul aj ci)) (by decide)
  rcases Int.lt_or_le 0 (A i * B j - A j * B i) with z | z
  · exact ⟨_, _, _, z, ⟨e1, e2⟩, bX, bY, bD⟩
  · refine ⟨-(C i * B j - C j * B i), -(A i * C j - A j * C i), -(A i * B j - A j * B i), by omega, ⟨?_, ?_⟩, bo_neg bX, bo_neg bY, bo_neg bD⟩
    · rw [Int.mul_neg, Int.neg_mul, e1]
    · rw [Int.mul_neg, Int.neg_mul, e2]
theorem be_tr {G H x' y' d' : Int} (hd : 0 < d') (e : eq_ x y d x' y' d') (h : be_ A B C S G H x y d) : be_ A B C S G H x' y' d' := by
  refine ⟨fe_tr hd e h.1, fun x2 y2 d2 f2 => ?_⟩
  exact fr_trans (Int.le_of_lt f2.1) h.1.1 (Int.le_of_lt hd) (h.2 x2 y2 d2 f2) (Int.le_of_eq (eq_val (eq_symm e)))
/-- a best vertex by small numbers -/
theorem be_small {n o : Nat} (ho : 4 ≤ o) (hq : sq_ A B C) (hb : bb_ A B C) (hn : n ≤ 10) (G H : Int) (f : fe_ A B C (ss_ (4 + n) o) x y d) : ∃ x y d, be_ A B C (ss_ (4 + n) o) G H x y d ∧ ve_ A B C (ss_ (4 + n) o) x y d ∧ bo_ 1782 x ∧ bo_ 1782 y ∧ bo_ 162 d := by
  rcases be_ex ho hq G H n with e | ⟨x1, y1, d1, h1, v1⟩
  · exact absurd f (e x y d)
  · obtain ⟨x2, y2, d2, p, e, b⟩ := ve_cram hb (fun i hi => by have := hi.1; omega) v1
    exact ⟨x2, y2, d2, be_tr p e h1, ve_tr p e v1, b⟩
end
theorem i_vc_tight {k : Nat} {u : SX} {v : SY} (I : i_Rel k u v) (hk : k + 4 ≤ 2048) : wpX_tight (fun r u' => wpY_tight (fun r' v' => r' = r ∧ i_Rel (k + 4) u' v') v) u := by
  obtain ⟨f_count, f_p, f_q, f_px, f_py, f_pd, f_lowTop, f_lowBottom, f_highTop, f_highBottom, f_corners, f_made, a_as, a_bs, a_cs, a_cornerX, a_cornerY, a_cornerD, a_newX, a_newY, a_newD⟩ := u
  obtain ⟨g_count, g_p, g_q, g_x, g_y, g_down, g_bestX, g_bestY, g_bestDown, a_la, a_lb, a_lc⟩ := v
  obtain ⟨A, B, C, n, p, q, ⟨hbb, hsq, hn, bp, bq⟩, ⟨rfl, rfl, rfl, rfl, rfl, rfl⟩, ⟨x1, x2, x3⟩, y1, y2, y3⟩ := I
  have same : ri_ (nI n) (zI p) (zI q) a_as a_bs a_cs (nI n) (zI p) (zI q) a_la a_lb a_lc := ⟨A, B, C, n, p, q, ⟨hbb, hsq, hn, bp, bq⟩, ⟨rfl, rfl, rfl, rfl, rfl, rfl⟩, ⟨x1, x2, x3⟩, y1, y2, y3⟩
  have how : (99 < 10 ∧ (99 : Nat) = 4 + 99) ∨ ((99 : Nat) = 99 ∧ (99 : Nat) = 99) := Or.inr ⟨rfl, rfl⟩
  unfold wpX_tight
  dsimp only
  refine xv_ hbb hsq x1 x2 x3 hn (o := 99) (by omega) ng_ov bp bq (fun px py pd t1 t2 t3 t4 hb b1 b2 b3 => ?_) (fun s1 s2 s3 t1 t2 t3 t4 hE => ?_)
  · refine br_f (by decide) ⟨15, xg_loop hbb x1 x2 x3 hn b1 b2 b3 ?_ n 0 15 (by omega) (by omega)⟩
    unfold wpY_tight
    dsimp only
    refine yv_ (bb_yx hbb) y1 y2 y3 hn ng_ov bp bq (fun s1 s2 s3 bx by' bd Y hd => br_f (by decide) ⟨15, ?_⟩) (fun s1 s2 s3 s4 s5 s6 hN => absurd hb.1 (yi_none hn how (by omega) hsq hN px py pd))
    obtain ⟨yb, c1, c2, c3⟩ := yi_be hn how (by omega) hsq hd Y
    have ee := be_uniq hb yb b1 b2 b3 c1 c2 c3
    refine yg_loop hbb y1 y2 y3 hn c1 c2 c3 ⟨?_, same⟩ n 0 15 (by omega) (by omega)
    rw [ct_eq hb.1.1 hd ee]
  · refine br_t rfl ?_
    unfold wpY_tight
    dsimp only
    exact yv_ (bb_yx hbb) y1 y2 y3 hn ng_ov bp bq (fun s1 s2 s3 bx by' bd Y hd => absurd (yi_be hn how (by omega) hsq hd Y).1.1 (hE bx by' bd)) (fun s1 s2 s3 s4 s5 s6 hN => br_t rfl ⟨rfl, same⟩)
theorem i_vc_redundant {k : Nat} {u : SX} {v : SY} (I : i_Rel k u v) (hk : k + 4 ≤ 2048) (v1 : Int32) : wpX_redundant (fun r u' => wpY_redundant (fun r' v' => r' = r ∧ i_Rel (k + 4) u' v') v v1) u v1 := by
  obtain ⟨f_count, f_p, f_q, f_px, f_py, f_pd, f_lowTop, f_lowBottom, f_highTop, f_highBottom, f_corners, f_made, a_as, a_bs, a_cs, a_cornerX, a_cornerY, a_cornerD, a_newX, a_newY, a_newD⟩ := u
  obtain ⟨g_count, g_p, g_q, g_x, g_y, g_down, g_bestX, g_bestY, g_bestDown, a_la, a_lb, a_lc⟩ := v
  obtain ⟨A, B, C, n, p, q, ⟨hbb, hsq, hn, bp, bq⟩, ⟨rfl, rfl, rfl, rfl, rfl, rfl⟩, ⟨x1, x2, x3⟩, y1, y2, y3⟩ := I
  have same : ri_ (nI n) (zI p) (zI q) a_as a_bs a_cs (nI n) (zI p) (zI q) a_la a_lb a_lc := ⟨A, B, C, n, p, q, ⟨hbb, hsq, hn, bp, bq⟩, ⟨rfl, rfl, rfl, rfl, rfl, rfl⟩, ⟨x1, x2, x3⟩, y1, y2, y3⟩
  have bad : (v1 < 0 ∨ nI n ≤ v1) → wpX_redundant (fun r u' => wpY_redundant (fun r' v' => r' = r ∧ i_Rel (k + 4) u' v') (nI n, zI p, zI q, g_x, g_y, g_down, g_bestX, g_bestY, g_bestDown, a_la, a_lb, a_lc) v1) (nI n, zI p, zI q, f_px, f_py, f_pd, f_lowTop, f_lowBottom, f_highTop, f_highBottom, f_corners, f_made, a_as, a_bs, a_cs, a_cornerX, a_cornerY, a_cornerD, a_newX, a_newY, a_newD) v1 := by
    intro h
    unfold wpX_redundant wpY_redundant
    dsimp only
    exact xi_0 h (br_t rfl (yi_1 h (br_f (by decide) ⟨rfl, same⟩)))
  rcases pk_ix v1 (n := n) (by omega) with h | h | ⟨l, hl, rfl⟩
  · exact bad (Or.inl h)
  · exact bad (Or.inr h)
  · have how : (l < 10 ∧ 4 + l = 4 + l) ∨ (l = 99 ∧ 4 + l = 99) := Or.inl ⟨by omega, rfl⟩
    have hl14 : 4 + l < 14 := by omega
    have vx : vp_in (nI (4 + l)) 14 := vp_in_nI hl14 (by decide)
    obtain ⟨ba, bb', bc⟩ := hbb (4 + l) hl14
    have hov : ∀ j, j < 14 → (nI j = nI (4 + l) ↔ j = 4 + l) := fun j hj => nI_eq (by omega) (by omega)
    have ey : yx_ l = 4 + l := yx_lo (by omega)
    unfold wpX_redundant wpY_redundant
    dsimp only
    refine xi_1 hn hl (br_f (by decide) (nm_r (nI_add 4 l) ⟨vx, vx, ?_⟩))
    rw [tb_at x1 hl14, tb_at x2 hl14]
    refine xv_ hbb hsq x1 x2 x3 hn (o := 4 + l) (by omega) hov ba bb' (fun px py pd t1 t2 t3 t4 hb b1 b2 b3 => ?_) (fun s1 s2 s3 t1 t2 t3 t4 hE => ?_)
    · refine br_f (by decide) ⟨vx, vx, vx, ?_⟩
      have e1 : a_as (nI (4 + l)).toNatClampNeg * zI px + a_bs (nI (4 + l)).toNatClampNeg * zI py = zI (A (4 + l) * px + B (4 + l) * py) := by
        rw [tb_at x1 hl14, tb_at x2 hl14, zi_mul, zi_mul, zi_add]
      have e2 : a_cs (nI (4 + l)).toNatClampNeg * zI pd = zI (C (4 + l) * pd) := by
        rw [tb_at x3 hl14, zi_mul]
      have qq := zi_lt (a := C (4 + l) * pd) (b := A (4 + l) * px + B (4 + l) * py) (bo_le (bo_mul bc b3) (by decide)) (bo_le (bo_add (bo_mul ba b1) (bo_mul bb' b2)) (by decide))
      rw [e1, e2]
      by_cases z : C (4 + l) * pd < A (4 + l) * px + B (4 + l) * py
      · refine br_t (qq.mpr z) (yi_0 hn hl (br_t rfl ⟨15, ?_⟩))
        refine yr_out (bb_yx hbb) y1 y2 y3 hn (by omega) (fun s1 s2 s3 hN => ?_) (fun i j x y d m c1 c2 c3 hv => ⟨rfl, same⟩) 14 0 15 _ _ _ (by omega) (by omega) (fun i' j' hf => by unfold bf_ at hf; omega)
        exfalso
        obtain ⟨x4, y4, d4, hb4, v4, c1, c2, c3⟩ := be_small (by omega) hsq hbb hn (gg_ (A (4 + l))) (gh_ (B (4 + l))) hb.1
        have ee := be_uniq hb hb4 b1 b2 b3 c1 c2 c3
        obtain ⟨i, j, h1, h2, m⟩ := ve_Y hn how v4
        have := hN i j ⟨h1, Or.inl h2⟩ x4 y4 d4 m
        rw [ey] at this
        have e := eq_lin ee (A (4 + l)) (B (4 + l)) (C (4 + l))
        have g1 := (sg_lt (z := A (4 + l) * px + B (4 + l) * py - C (4 + l) * pd) v4.1.1).mpr (by omega)
        have := (sg_lt (z := A (4 + l) * x4 + B (4 + l) * y4 - C (4 + l) * d4) hb.1.1).mp (by omega)
        omega
      · refine br_f (fun w => z (qq.mp w)) (yi_0 hn hl (br_t rfl ⟨15, ?_⟩))
        refine yr_out (bb_yx hbb) y1 y2 y3 hn (by omega) (fun s1 s2 s3 hN => ⟨rfl, same⟩) (fun i j x y d m c1 c2 c3 hv => ?_) 14 0 15 _ _ _ (by omega) (by omega) (fun i' j' hf => by unfold bf_ at hf; omega)
        exfalso
        rw [ey] at hv
        have vz := me_X hn how m
        have := be_val hb vz.1 b1 b2 b3 c1 c2 c3
        have g1 := Int.mul_le_mul_of_nonneg_right (show A (4 + l) * px + B (4 + l) * py ≤ C (4 + l) * pd by omega) (Int.le_of_lt vz.1.1)
        have g2 := (sg_lt (z := A (4 + l) * x + B (4 + l) * y - C (4 + l) * d) hb.1.1).mpr (by omega)
        have g3 : pd * (A (4 + l) * x + B (4 + l) * y - C (4 + l) * d) = (A (4 + l) * x + B (4 + l) * y) * pd - C (4 + l) * pd * d := by grind
        omega
    · refine br_t rfl (yi_0 hn hl (br_t rfl ⟨15, ?_⟩))
      refine yr_out (bb_yx hbb) y1 y2 y3 hn (by omega) (fun s1 s2 s3 hN => ⟨rfl, same⟩) (fun i j x y d m c1 c2 c3 hv => ?_) 14 0 15 _ _ _ (by omega) (by omega) (fun i' j' hf => by unfold bf_ at hf; omega)
      exact absurd (me_X hn how m).1 (hE x y d)
end
section
/-! inside, grid -/
theorem rg_2000 {v : Int32} (h : rg_ v 2000) : bo_ 2000 v.toInt := by
  obtain ⟨h1, h2⟩ := h
  rw [Int32.lt_iff_toInt_lt] at h1
  rw [Int32.le_iff_toInt_le] at h2
  have e1 : (-2000 : Int32).toInt = -2000 := by decide
  have e2 : (2000 : Int32).toInt = 2000 := by decide
  unfold bo_
  omega
/-- Y's borders are X's -/
theorem yx_all {n : Nat} (hn : n ≤ 10) {P : Nat → Prop} : (∀ i, yT_ n 99 i → P (yx_ i)) ↔ (∀ j, j < 4 + n → P j) := by
  have how : (99 < 10 ∧ (99 : Nat) = 4 + 99) ∨ ((99 : Nat) = 99 ∧ (99 : Nat) = 99) := Or.inr ⟨rfl, rfl⟩
  constructor
  · intro h j hj
    have := h (xy_ j) (xy_S (o := 99) hn how ⟨hj, by omega⟩)
    rw [xy_yx (by omega)] at this
    exact this
  · intro h i hi
    exact h _ (yx_S (o := 99) hn how hi).1
section
variable {A B C : Nat → Int} {n : Nat}
variable {f_count f_p f_q f_px f_py f_pd f_lowTop f_lowBottom f_highTop f_highBottom f_corners f_made : Int32} {a_as a_bs a_cs a_cornerX a_cornerY a_cornerD a_newX a_newY a_newD : Nat → Int32}
variable {g_count g_p g_q g_x g_y g_down g_bestX g_bestY g_bestDown : Int32} {a_la a_lb a_lc : Nat → Int32}
theorem xn_loop {post : Int32 → Prop} {x y d : Int} (hbb : bb_ A B C) (hA : tb_ a_as A) (hB : tb_ a_bs B) (hC : tb_ a_cs C) (hn : n ≤ 10) (bx : bo_ 2000 x) (by' : bo_ 2000 y) (bd : bo_ 200 d)
    (H1 : (∀ i, i < 4 + n → A i * x + B i * y ≤ C i * d) → post 1) (H0 : ¬ (∀ i, i < 4 + n → A i * x + B i * y ≤ C i * d) → post 0) :
    ∀ (e j fu : Nat), j + e = 4 + n → e < fu → (∀ i, i < j → A i * x + B i * y ≤ C i * d) → wX_inside_47 post (zI x) (zI y) (zI d) (nI n) f_p f_q f_px f_py f_pd f_lowTop f_lowBottom f_highTop f_highBottom f_corners f_made a_as a_bs a_cs a_cornerX a_cornerY a_cornerD a_newX a_newY a_newD fu (nI j) := by
  intro e
  induction e with
  | zero =>
    intro j fu hj hf h
    obtain ⟨fu, rfl⟩ : ∃ n', fu = n' + 1 := ⟨fu - 1, by omega⟩
    exact pk_le (4 + n) j (fun _ => H1 (fun i hi => h i (by omega))) (fun z => by omega) (nI_add 4 n) rfl (by omega) (by omega)
  | succ e ih =>
    intro j fu hj hf h
    obtain ⟨fu, rfl⟩ : ∃ n', fu = n' + 1 := ⟨fu - 1, by omega⟩
    have hj14 : j < 14 := by omega
    have vj : vp_in (nI j) 14 := vp_in_nI hj14 (by decide)
    obtain ⟨ba, bb', bc⟩ := hbb j hj14
    have e1 : a_as (nI j).toNatClampNeg * zI x + a_bs (nI j).toNatClampNeg * zI y = zI (A j * x + B j * y) := by
      rw [tb_at hA hj14, tb_at hB hj14, zi_mul, zi_mul, zi_add]
    have e2 : a_cs (nI j).toNatClampNeg * zI d = zI (C j * d) := by
      rw [tb_at hC hj14, zi_mul]
    have q := zi_le (a := A j * x + B j * y) (b := C j * d) (bo_le (bo_add (bo_mul ba bx) (bo_mul bb' by')) (by decide)) (bo_le (bo_mul bc bd) (by decide))
    refine pk_le (4 + n) j (fun z => by omega) (fun _ => ⟨vj, vj, vj, ?_⟩) (nI_add 4 n) rfl (by omega) (by omega)
    rw [e1, e2]
    by_cases u : A j * x + B j * y ≤ C j * d
    · exact br_t (q.mpr u) (nm_r (nI_1 j) (ih (j + 1) fu (by omega) (by omega) (lt_s h u)))
    · exact br_f (fun v => u (q.mp v)) (H0 (fun v => u (v j (by omega))))
end
theorem i_vc_inside {k : Nat} {u : SX} {v : SY} (I : i_Rel k u v) (hk : k + 4 ≤ 2048) (v1 : Int32) (v2 : Int32) (v3 : Int32) : wpX_inside (fun r => wpY_inside (fun r' => r' = r ∧ i_Rel (k + 4) u v) v v1 v2 v3) u v1 v2 v3 := by
  obtain ⟨f_count, f_p, f_q, f_px, f_py, f_pd, f_lowTop, f_lowBottom, f_highTop, f_highBottom, f_corners, f_made, a_as, a_bs, a_cs, a_cornerX, a_cornerY, a_cornerD, a_newX, a_newY, a_newD⟩ := u
  obtain ⟨g_count, g_p, g_q, g_x, g_y, g_down, g_bestX, g_bestY, g_bestDown, a_la, a_lb, a_lc⟩ := v
  obtain ⟨A, B, C, n, p, q, ⟨hbb, hsq, hn, bp, bq⟩, ⟨rfl, rfl, rfl, rfl, rfl, rfl⟩, ⟨x1, x2, x3⟩, y1, y2, y3⟩ := I
  have same : i_Rel (k + 4) (nI n, zI p, zI q, f_px, f_py, f_pd, f_lowTop, f_lowBottom, f_highTop, f_highBottom, f_corners, f_made, a_as, a_bs, a_cs, a_cornerX, a_cornerY, a_cornerD, a_newX, a_newY, a_newD) (nI n, zI p, zI q, g_x, g_y, g_down, g_bestX, g_bestY, g_bestDown, a_la, a_lb, a_lc) := ⟨A, B, C, n, p, q, ⟨hbb, hsq, hn, bp, bq⟩, ⟨rfl, rfl, rfl, rfl, rfl, rfl⟩, ⟨x1, x2, x3⟩, y1, y2, y3⟩
  generalize hR : i_Rel (k + 4) (nI n, zI p, zI q, f_px, f_py, f_pd, f_lowTop, f_lowBottom, f_highTop, f_highBottom, f_corners, f_made, a_as, a_bs, a_cs, a_cornerX, a_cornerY, a_cornerD, a_newX, a_newY, a_newD) (nI n, zI p, zI q, g_x, g_y, g_down, g_bestX, g_bestY, g_bestDown, a_la, a_lb, a_lc) = R at same ⊢
  unfold wpX_inside
  dsimp only
  refine br_c (fun h => br_t h ⟨rfl, same⟩) (fun h1 => br_c (fun h2 => ?_) (fun h => br_f h1 (br_f h ⟨rfl, same⟩)))
  have no : ¬ (rg_ v1 2000 ∧ rg_ v2 2000) → wpY_inside (fun r' => r' = -2 ∧ R) (nI n, zI p, zI q, g_x, g_y, g_down, g_bestX, g_bestY, g_bestDown, a_la, a_lb, a_lc) v1 v2 v3 := fun h =>
    br_f h1 (br_t h2 (yf_ (fun r1 => br_t rfl (yf_ (fun r2 => absurd ⟨r1, r2⟩ h) (fun _ => br_f (by decide) ⟨rfl, same⟩))) (fun _ => br_f (by decide) ⟨rfl, same⟩)))
  refine br_c (fun h => no (fun z => z.1.1 h)) (fun h3 => br_c (fun h => no (fun z => Int32.not_lt.mpr z.1.2 h)) (fun h4 => br_c (fun h => no (fun z => z.2.1 h)) (fun h5 => br_c (fun h6 => ⟨15, ?_⟩) (fun h => no (fun z => h z.2.2)))))
  have r1 : rg_ v1 2000 := ⟨h3, Int32.not_lt.mp h4⟩
  have r2 : rg_ v2 2000 := ⟨h5, h6⟩
  have b1 := rg_2000 r1
  have b2 := rg_2000 r2
  have b3 : bo_ 200 v3.toInt := by
    rw [Int32.lt_iff_toInt_lt] at h1
    rw [Int32.le_iff_toInt_le] at h2
    have e1 : (1 : Int32).toInt = 1 := by decide
    have e2 : (50 : Int32).toInt = 50 := by decide
    unfold bo_
    omega
  have go : ∀ r : Int32, ((∀ i, i < 4 + n → A i * v1.toInt + B i * v2.toInt ≤ C i * v3.toInt) → r = 1) → (¬ (∀ i, i < 4 + n → A i * v1.toInt + B i * v2.toInt ≤ C i * v3.toInt) → r = 0) → wpY_inside (fun r' => r' = r ∧ R) (nI n, zI p, zI q, g_x, g_y, g_down, g_bestX, g_bestY, g_bestDown, a_la, a_lb, a_lc) v1 v2 v3 := by
    intro r hr1 hr0
    refine br_f h1 (br_t h2 (yf_ (fun _ => br_t rfl (yf_ (fun _ => br_t rfl ?_) (fun h => absurd r2 h))) (fun h => absurd r1 h)))
    have := ya_ (post := fun r_31 => (r_31 = 0 → 0 = r ∧ R) ∧ (¬ r_31 = 0 → 1 = r ∧ R)) (g_p := zI p) (g_q := zI q) (g_x := g_x) (g_y := g_y) (g_down := g_down) (g_bestX := g_bestX) (g_bestY := g_bestY) (g_bestDown := g_bestDown) (wv := -1) (bb_yx hbb) y1 y2 y3 hn ng_ov b1 b2 b3 (fun h => br_f (by decide) ⟨(hr1 ((yx_all hn (P := fun j => A j * v1.toInt + B j * v2.toInt ≤ C j * v3.toInt)).mp h)).symm, same⟩) (fun h => br_t rfl ⟨(hr0 (fun z => h ((yx_all hn (P := fun j => A j * v1.toInt + B j * v2.toInt ≤ C j * v3.toInt)).mpr z))).symm, same⟩)
    rw [zi_of, zi_of, zi_of] at this
    exact this
  have := xn_loop (post := fun r => wpY_inside (fun r' => r' = r ∧ R) (nI n, zI p, zI q, g_x, g_y, g_down, g_bestX, g_bestY, g_bestDown, a_la, a_lb, a_lc) v1 v2 v3) (f_p := zI p) (f_q := zI q) (f_px := f_px) (f_py := f_py) (f_pd := f_pd) (f_lowTop := f_lowTop) (f_lowBottom := f_lowBottom) (f_highTop := f_highTop) (f_highBottom := f_highBottom) (f_corners := f_corners) (f_made := f_made) (a_cornerX := a_cornerX) (a_cornerY := a_cornerY) (a_cornerD := a_cornerD) (a_newX := a_newX) (a_newY := a_newY) (a_newD := a_newD) hbb x1 x2 x3 hn b1 b2 b3 (fun h => go 1 (fun _ => rfl) (fun z => absurd h z)) (fun h => go 0 (fun z => absurd z h) (fun _ => rfl)) (4 + n) 0 15 (by omega) (by omega) lt_0
  rw [zi_of, zi_of, zi_of] at this
  exact this
end
section
/-! grid -/
noncomputable def b1_ (p : Prop) : Nat := @ite Nat p (Classical.propDecidable p) 1 0
theorem b1_t {p : Prop} (h : p) : b1_ p = 1 := if_pos h
theorem b1_f {p : Prop} (h : ¬ p) : b1_ p = 0 := if_neg h
noncomputable def cc_ (Q : Int → Prop) : Nat → Nat
  | 0 => 0
  | t + 1 => cc_ Q t + b1_ (Q ((t : Int) - 20))
noncomputable def tt_ (R : Int → Int → Prop) : Nat → Nat
  | 0 => 0
  | t + 1 => tt_ R t + cc_ (R ((t : Int) - 20)) 41
theorem cc_le (Q : Int → Prop) : ∀ t, cc_ Q t ≤ t := by
  intro t
  induction t with
  | zero => exact Nat.le_refl 0
  | succ t ih =>
    unfold cc_
    by_cases z : Q ((t : Int) - 20)
    · rw [b1_t z]; omega
    · rw [b1_f z]; omega
theorem tt_le (R : Int → Int → Prop) : ∀ t, tt_ R t ≤ 41 * t := by
  intro t
  induction t with
  | zero => exact Nat.le_refl 0
  | succ t ih =>
    unfold tt_
    have := cc_le (R ((t : Int) - 20)) 41
    omega
theorem cc_rng {Q : Int → Prop} {l h : Int} (hQ : ∀ y, -20 ≤ y → y ≤ 20 → ((l ≤ y ∧ y ≤ h) ↔ Q y)) (hl : -20 ≤ l) : ∀ t, t ≤ 41 → (cc_ Q t : Int) = if (t : Int) - 21 < l then 0 else if (t : Int) - 21 ≤ h then (t : Int) - 21 - l + 1 else if l ≤ h then h - l + 1 else 0 := by
  intro t
  induction t with
  | zero =>
    intro _
    rw [if_pos (by omega)]
    rfl
  | succ t ih =>
    intro ht
    have := ih (by omega)
    have q := hQ ((t : Int) - 20) (by omega) (by omega)
    unfold cc_
    by_cases z : Q ((t : Int) - 20)
    · have w := q.mpr z
      rw [b1_t z, Int.natCast_add, this]
      rw [if_neg (show ¬ ((t + 1 : Nat) : Int) - 21 < l by omega), if_pos (show ((t + 1 : Nat) : Int) - 21 ≤ h by omega)]
      by_cases y : (t : Int) - 21 < l
      · rw [if_pos y]
        omega
      · rw [if_neg y, if_pos (by omega)]
        omega
    · have w : ¬ (l ≤ (t : Int) - 20 ∧ (t : Int) - 20 ≤ h) := fun y => z (q.mp y)
      rw [b1_f z, Int.natCast_add, this]
      split
      · split
        · omega
        · split
          · omega
          · split <;> omega
      · split
        · split
          · omega
          · split
            · omega
            · split <;> omega
        · split
          · split
            · omega
            · split
              · omega
              · omega
          · split
            · omega
            · split
              · omega
              · omega
theorem cc_41 {Q : Int → Prop} {l h : Int} (hQ : ∀ y, -20 ≤ y → y ≤ 20 → ((l ≤ y ∧ y ≤ h) ↔ Q y)) (hl : -20 ≤ l) (hh : l ≤ h → h ≤ 20) : (cc_ Q 41 : Int) = if l ≤ h then h - l + 1 else 0 := by
  rw [cc_rng hQ hl 41 (by omega)]
  by_cases z : l ≤ h
  · have := hh z
    rw [if_pos z]
    split
    · omega
    · split
      · omega
      · rfl
  · rw [if_neg z]
    split
    · rfl
    · split <;> omega
/-- floorOf -/
theorem xf_9 {post : Int32 → Prop} {r m : Int} (hm : 0 < m) (bm : bo_ 9 m) (br : bo_ 279 r) (H : ∀ F : Int, F * m ≤ r → r < F * m + m → post (zI F)) : wX_floorOf_9 post (zI r) (zI m) := by
  have hr : bo_ 2147483647 r := bo_le br (by decide)
  have hm' : bo_ 2147483647 m := bo_le bm (by decide)
  have hne : ¬ zI m = 0 := fun w => by have := (zi_eq0 hm').mp w; omega
  have e1 := Int.mul_tdiv_add_tmod r m
  have e2 := Int.mul_comm m (r.tdiv m)
  have e3 := Int.tmod_lt_of_pos r hm
  have e4 : -m < r.tmod m := Int.lt_tmod_of_pos r hm
  refine ⟨hne, nm_r (zi_div hr hm') ⟨hne, ?_⟩⟩
  rw [zi_rem hr hm']
  have q := zi_nn (a := r.tmod m) (by unfold bo_ at bm ⊢; omega)
  by_cases z : 0 ≤ r.tmod m
  · exact br_t (q.mpr z) (H _ (by omega) (by omega))
  · refine br_f (fun w => z (q.mp w)) ?_
    have e5 : zI (r.tdiv m) - 1 = zI (r.tdiv m - 1) := zi_sub (r.tdiv m) 1
    rw [e5]
    have e6 : (r.tdiv m - 1) * m = r.tdiv m * m - m := by rw [Int.sub_mul, Int.one_mul]
    exact H _ (by omega) (by omega)
theorem xf_ {post : Int32 → Prop} {r m : Int} (hm : 0 < m) (bm : bo_ 9 m) (br : bo_ 279 r) (H : ∀ F : Int, F * m ≤ r → r < F * m + m → post (zI F)) : wpX_floorOf post (zI r) (zI m) :=
  br_f (fun w => by have := (zi_np (bo_le bm (by decide))).mp w; omega) (xf_9 hm bm br H)
theorem fl_bo {F m r : Int} (hm : 0 < m) (br : bo_ 279 r) (h1 : F * m ≤ r) (h2 : r < F * m + m) : bo_ 280 F := by
  unfold bo_ at br ⊢
  constructor
  · rcases Int.lt_or_le F (-280) with z | z
    · have := Int.mul_le_mul_of_nonneg_left (show 1 ≤ m by omega) (show 0 ≤ -(F + 1) by omega)
      have e : (F + 1) * m = F * m + m := by rw [Int.add_mul, Int.one_mul]
      rw [Int.mul_one, Int.neg_mul, e] at this
      omega
    · exact z
  · rcases Int.lt_or_le 280 F with z | z
    · have := Int.mul_le_mul_of_nonneg_left (show 1 ≤ m by omega) (show 0 ≤ F by omega)
      omega
    · exact z
theorem fl_le {F m r y : Int} (hm : 0 < m) (h1 : F * m ≤ r) (h2 : r < F * m + m) : m * y ≤ r ↔ y ≤ F := by
  constructor
  · intro h
    rcases Int.lt_or_le F y with z | z
    · have := Int.mul_le_mul_of_nonneg_left (show F + 1 ≤ y by omega) (Int.le_of_lt hm)
      rw [Int.mul_add, Int.mul_one, Int.mul_comm m F] at this
      omega
    · exact z
  · intro h
    have := Int.mul_le_mul_of_nonneg_left h (Int.le_of_lt hm)
    rw [Int.mul_comm m F] at this
    omega
section
variable {A B C : Nat → Int} {n : Nat}
variable {f_count f_p f_q f_px f_py f_pd f_lowTop f_lowBottom f_highTop f_highBottom f_corners f_made : Int32} {a_as a_bs a_cs a_cornerX a_cornerY a_cornerD a_newX a_newY a_newD : Nat → Int32}
variable {g_count g_p g_q g_x g_y g_down g_bestX g_bestY g_bestDown : Int32} {a_la a_lb a_lc : Nat → Int32}
/-- low and high after the lines below j, in column x -/
def gi_ (A B C : Nat → Int) (x : Int) (j : Nat) (l h : Int) : Prop := -20 ≤ l ∧ l ≤ 300 ∧ -300 ≤ h ∧ h ≤ 300 ∧ (l ≤ h → h ≤ 20) ∧ ∀ y, -20 ≤ y → y ≤ 20 → ((l ≤ y ∧ y ≤ h) ↔ ∀ i, i < j → A (4 + i) * x + B (4 + i) * y ≤ C (4 + i))
theorem gi_s {x : Int} {j : Nat} {l h l' h' : Int} (I : gi_ A B C x j l h) (b1 : -20 ≤ l' ∧ l' ≤ 300 ∧ -300 ≤ h' ∧ h' ≤ 300 ∧ (l' ≤ h' → h' ≤ 20)) (g : ∀ y, -20 ≤ y → y ≤ 20 → ((l' ≤ y ∧ y ≤ h') ↔ (l ≤ y ∧ y ≤ h) ∧ A (4 + j) * x + B (4 + j) * y ≤ C (4 + j))) : gi_ A B C x (j + 1) l' h' := by
  refine ⟨b1.1, b1.2.1, b1.2.2.1, b1.2.2.2.1, b1.2.2.2.2, fun y h1 h2 => ?_⟩
  rw [g y h1 h2, I.2.2.2.2.2 y h1 h2]
  constructor
  · intro w
    exact lt_s w.1 w.2
  · intro w
    exact ⟨fun i hi => w i (by omega), w j (by omega)⟩
theorem xr_in {post : Int32 → Prop} {J5 : Int32 → Int32 → Prop} {s : Nat} {x : Int} (hbb : bb_ A B C) (hA : tb_ a_as A) (hB : tb_ a_bs B) (hC : tb_ a_cs C) (hn : n ≤ 10) (hs : s ≤ 2000) (hx : bo_ 20 x)
    (K : J5 (nI (s + cc_ (fun y => ∀ i, i < n → A (4 + i) * x + B (4 + i) * y ≤ C (4 + i)) 41)) (zI (x + 1))) :
    ∀ (e j fu : Nat) (l h : Int), j + e = n → e < fu → gi_ A B C x j l h → wX_grid_21 post J5 (nI s) (zI x) (nI n) f_p f_q f_px f_py f_pd f_lowTop f_lowBottom f_highTop f_highBottom f_corners f_made a_as a_bs a_cs a_cornerX a_cornerY a_cornerD a_newX a_newY a_newD fu (zI l) (zI h) (nI (4 + j)) := by
  intro e
  induction e with
  | zero =>
    intro j fu l h hj hf I
    obtain ⟨fu, rfl⟩ : ∃ n', fu = n' + 1 := ⟨fu - 1, by omega⟩
    have e : j = n := by omega
    subst e
    refine pk_le (4 + j) (4 + j) (fun _ => ?_) (fun z => by omega) (nI_add 4 j) rfl (by omega) (by omega)
    obtain ⟨i1, i2, i3, i4, i5, i6⟩ := I
    have ec := cc_41 i6 i1 i5
    have q := zi_lt (a := h) (b := l) (bo_lit (by omega) (by omega)) (bo_lit (by omega) (by omega))
    have ex : zI x + 1 = zI (x + 1) := zi_add x 1
    by_cases z : h < l
    · rw [if_neg (by omega)] at ec
      have e0 : cc_ (fun y => ∀ i, i < j → A (4 + i) * x + B (4 + i) * y ≤ C (4 + i)) 41 = 0 := by omega
      rw [e0] at K
      exact br_t (q.mpr z) (nm_r (Int32.add_zero _) (nm_r ex K))
    · rw [if_pos (by omega)] at ec
      refine br_f (fun w => z (q.mp w)) (nm_r ?_ (nm_r ex K))
      rw [zi_sub]
      have e1 : zI (h - l) + 1 = zI (h - l + 1) := zi_add _ 1
      rw [e1, ← ec, ← zi_n, nI_add]
  | succ e ih =>
    intro j fu l h hj hf I
    obtain ⟨fu, rfl⟩ : ∃ n', fu = n' + 1 := ⟨fu - 1, by omega⟩
    have hj14 : 4 + j < 14 := by omega
    have v : vp_in (nI (4 + j)) 14 := vp_in_nI hj14 (by decide)
    obtain ⟨ba, bb', bc⟩ := hbb (4 + j) hj14
    have nx : ∀ l' h', gi_ A B C x (j + 1) l' h' → ∀ y : Int32, y = nI (4 + j) + 1 → wX_grid_21 post J5 (nI s) (zI x) (nI n) f_p f_q f_px f_py f_pd f_lowTop f_lowBottom f_highTop f_highBottom f_corners f_made a_as a_bs a_cs a_cornerX a_cornerY a_cornerD a_newX a_newY a_newD fu (zI l') (zI h') y := fun l' h' I' => nm_r (nI_1 (4 + j)) (ih (j + 1) fu l' h' (by omega) (by omega) I')
    have er : a_cs (nI (4 + j)).toNatClampNeg - a_as (nI (4 + j)).toNatClampNeg * zI x = zI (C (4 + j) - A (4 + j) * x) := by
      rw [tb_at hC hj14, tb_at hA hj14, zi_mul, zi_sub]
    have br : bo_ 279 (C (4 + j) - A (4 + j) * x) := bo_le (bo_sub bc (bo_mul ba hx)) (by decide)
    refine pk_le (4 + n) (4 + j) (fun z => by omega) (fun _ => ⟨v, v, nm_r er ⟨v, ?_⟩⟩) (nI_add 4 n) rfl (by omega) (by omega)
    rw [tb_at hB hj14]
    have bl := I.1
    have bl2 := I.2.1
    have bh := I.2.2.1
    have bh2 := I.2.2.2.1
    have b5 := I.2.2.2.2.1
    have bl' : bo_ 2147483647 l := bo_lit (by omega) (by omega)
    have bh' : bo_ 2147483647 h := bo_lit (by omega) (by omega)
    have bB := bo_le bb' (show (9 : Int) ≤ 2147483647 by decide)
    have hrr : C (4 + j) - A (4 + j) * x = C (4 + j) - A (4 + j) * x := rfl
    generalize hr : C (4 + j) - A (4 + j) * x = r at br ⊢
    have iff0 : ∀ y, A (4 + j) * x + B (4 + j) * y ≤ C (4 + j) ↔ B (4 + j) * y ≤ r := fun y => by omega
    rcases Int.lt_trichotomy (B (4 + j)) 0 with z | z | z
    · refine br_t ((zi_np bB).mpr (by omega)) ⟨v, br_f (fun w => by have := (zi_nn bB).mp w; omega) ⟨v, ?_⟩⟩
      rw [zi_neg]
      refine xf_ (by omega) (bo_neg bb') br (fun F h1 h2 => nm_r (zi_neg F) ?_)
      have bF := fl_bo (show 0 < -B (4 + j) by omega) br h1 h2
      have fle : ∀ y, B (4 + j) * y ≤ r ↔ -F ≤ y := fun y => by
        have := fl_le (y := -y) (show 0 < -B (4 + j) by omega) h1 h2
        rw [Int.neg_mul_neg] at this
        omega
      have bF' : bo_ 2147483647 (-F) := bo_le (bo_neg bF) (by decide)
      have q := zi_le bF' bl'
      unfold bo_ at bF
      by_cases y : -F ≤ l
      · refine br_t (q.mpr y) (nx l h (gi_s I ⟨by omega, by omega, by omega, by omega, b5⟩ (fun y' g1 g2 => ?_)))
        rw [iff0, fle]
        omega
      · refine br_f (fun w => y (q.mp w)) (nx (-F) h (gi_s I ⟨by omega, by omega, by omega, by omega, by omega⟩ (fun y' g1 g2 => ?_)))
        rw [iff0, fle]
        omega
    · refine br_t ((zi_np bB).mpr (by omega)) ⟨v, br_t ((zi_nn bB).mpr (by omega)) ?_⟩
      have q := zi_nn (bo_le br (show (279 : Int) ≤ 2147483647 by decide))
      by_cases y : 0 ≤ r
      · refine br_t (q.mpr y) (nx l h (gi_s I ⟨by omega, by omega, by omega, by omega, b5⟩ (fun y' g1 g2 => ?_)))
        rw [iff0, z, Int.zero_mul]
        omega
      · have e1 : zI l - 1 = zI (l - 1) := zi_sub l 1
        refine br_f (fun w => y (q.mp w)) (nm_r e1 (nx l (l - 1) (gi_s I ⟨by omega, by omega, by omega, by omega, by omega⟩ (fun y' g1 g2 => ?_))))
        rw [iff0, z, Int.zero_mul]
        omega
    · refine br_f (fun w => by have := (zi_np bB).mp w; omega) ⟨v, ?_⟩
      refine xf_ z bb' br (fun F h1 h2 => ?_)
      have bF := fl_bo z br h1 h2
      have bF' : bo_ 2147483647 F := bo_le bF (by decide)
      have q := zi_le bh' bF'
      unfold bo_ at bF
      by_cases y : h ≤ F
      · refine br_t (q.mpr y) (nx l h (gi_s I ⟨by omega, by omega, by omega, by omega, b5⟩ (fun y' g1 g2 => ?_)))
        rw [iff0, fl_le z h1 h2]
        omega
      · refine br_f (fun w => y (q.mp w)) (nx l F (gi_s I ⟨by omega, by omega, by omega, by omega, by omega⟩ (fun y' g1 g2 => ?_)))
        rw [iff0, fl_le z h1 h2]
        omega
theorem zi_20 : (20 : Int32) = zI 20 := rfl
theorem xr_out {post : Int32 → Prop} {R : Int → Int → Prop} (hR : ∀ x y, R x y ↔ ∀ i, i < n → A (4 + i) * x + B (4 + i) * y ≤ C (4 + i)) (hbb : bb_ A B C) (hA : tb_ a_as A) (hB : tb_ a_bs B) (hC : tb_ a_cs C) (hn : n ≤ 10)
    (H : post (nI (tt_ R 41))) : ∀ (e t fu : Nat), t + e = 41 → e < fu → wX_grid_5 post (nI n) f_p f_q f_px f_py f_pd f_lowTop f_lowBottom f_highTop f_highBottom f_corners f_made a_as a_bs a_cs a_cornerX a_cornerY a_cornerD a_newX a_newY a_newD fu (nI (tt_ R t)) (zI ((t : Int) - 20)) := by
  intro e
  induction e with
  | zero =>
    intro t fu ht hf
    obtain ⟨fu, rfl⟩ : ∃ n', fu = n' + 1 := ⟨fu - 1, by omega⟩
    have e : t = 41 := by omega
    subst e
    exact br_t (by decide) H
  | succ e ih =>
    intro t fu ht hf
    obtain ⟨fu, rfl⟩ : ∃ n', fu = n' + 1 := ⟨fu - 1, by omega⟩
    have q := zi_lt (a := 20) (b := (t : Int) - 20) (bo_lit (by omega) (by omega)) (bo_lit (by omega) (by omega))
    refine br_f (fun w => by rw [zi_20, q] at w; omega) ⟨15, ?_⟩
    rw [zi_m20]
    have tl := tt_le R t
    refine xr_in hbb hA hB hC hn (by omega) (bo_lit (by omega) (by omega)) ?_ n 0 15 (-20) 20 (by omega) (by omega) ⟨by omega, by omega, by omega, by omega, fun _ => by omega, fun y h1 h2 => ⟨fun _ i hi => absurd hi (Nat.not_lt_zero i), fun _ => ⟨h1, h2⟩⟩⟩
    have ih' := ih (t + 1) fu (by omega) (by omega)
    have e1 : ((t + 1 : Nat) : Int) - 20 = (t : Int) - 20 + 1 := by omega
    rw [e1] at ih'
    have e2 : tt_ R (t + 1) = tt_ R t + cc_ (fun y => ∀ i, i < n → A (4 + i) * ((t : Int) - 20) + B (4 + i) * y ≤ C (4 + i)) 41 := by
      show tt_ R t + cc_ (R ((t : Int) - 20)) 41 = _
      have : R ((t : Int) - 20) = fun y => ∀ i, i < n → A (4 + i) * ((t : Int) - 20) + B (4 + i) * y ≤ C (4 + i) := funext fun y => propext (hR _ y)
      rw [this]
    rw [e2] at ih'
    exact ih'
theorem yr_col {post : Int32 → Prop} {J5 : Int32 → Int32 → Prop} {R : Int → Int → Prop} {s : Nat} {x : Int} (hR : ∀ x y, bo_ 20 x → bo_ 20 y → (R x y ↔ ∀ i, yT_ n 99 i → A i * x + B i * y ≤ C i * 1)) (hbb : bb_ A B C) (hA : tb_ a_la A) (hB : tb_ a_lb B) (hC : tb_ a_lc C) (hn : n ≤ 10) (hs : s ≤ 2000) (hx : bo_ 20 x)
    (K : J5 (nI (s + cc_ (R x) 41)) (zI (x + 1))) : ∀ (e t fu : Nat), t + e = 41 → e < fu → wY_grid_14 post J5 (zI x) (nI n) g_p g_q g_x g_y g_down g_bestX g_bestY g_bestDown a_la a_lb a_lc fu (nI (s + cc_ (R x) t)) (zI ((t : Int) - 20)) := by
  intro e
  induction e with
  | zero =>
    intro t fu ht hf
    obtain ⟨fu, rfl⟩ : ∃ n', fu = n' + 1 := ⟨fu - 1, by omega⟩
    have e : t = 41 := by omega
    subst e
    have ex : zI x + 1 = zI (x + 1) := zi_add x 1
    exact br_t (by decide) (nm_r ex K)
  | succ e ih =>
    intro t fu ht hf
    obtain ⟨fu, rfl⟩ : ∃ n', fu = n' + 1 := ⟨fu - 1, by omega⟩
    have bt : bo_ 20 ((t : Int) - 20) := bo_lit (by omega) (by omega)
    have q := zi_lt (a := 20) (b := (t : Int) - 20) (bo_lit (by omega) (by omega)) (bo_le bt (by decide))
    have ih' := ih (t + 1) fu (by omega) (by omega)
    have e1 : zI ((t : Int) - 20) + 1 = zI (((t + 1 : Nat) : Int) - 20) := by
      have : zI ((t : Int) - 20) + 1 = zI ((t : Int) - 20 + 1) := zi_add _ 1
      rw [this]
      exact congrArg zI (by omega)
    have hR' := hR x ((t : Int) - 20) hx bt
    refine br_f (fun w => by rw [zi_20, q] at w; omega) ?_
    refine ya_ (x := x) (y := (t : Int) - 20) (d := 1) hbb hA hB hC hn ng_ov (bo_le hx (by decide)) (bo_le bt (by decide)) (bo_lit (by omega) (by omega)) (fun h => br_f (by decide) ?_) (fun h => br_t rfl (nm_r e1 ?_))
    · have e2 : s + cc_ (R x) (t + 1) = s + cc_ (R x) t + 1 := by
        show s + (cc_ (R x) t + b1_ (R x ((t : Int) - 20))) = _
        rw [b1_t (hR'.mpr h)]
        rfl
      rw [e2] at ih'
      exact nm_r (nI_1 _) (nm_r e1 ih')
    · have e2 : s + cc_ (R x) (t + 1) = s + cc_ (R x) t := by
        show s + (cc_ (R x) t + b1_ (R x ((t : Int) - 20))) = _
        rw [b1_f (fun w => h (hR'.mp w))]
        rfl
      rw [e2] at ih'
      exact ih'
theorem yr_grid {post : Int32 → Prop} {R : Int → Int → Prop} (hR : ∀ x y, bo_ 20 x → bo_ 20 y → (R x y ↔ ∀ i, yT_ n 99 i → A i * x + B i * y ≤ C i * 1)) (hbb : bb_ A B C) (hA : tb_ a_la A) (hB : tb_ a_lb B) (hC : tb_ a_lc C) (hn : n ≤ 10)
    (H : post (nI (tt_ R 41))) : ∀ (e t fu : Nat), t + e = 41 → e < fu → wY_grid_5 post (nI n) g_p g_q g_x g_y g_down g_bestX g_bestY g_bestDown a_la a_lb a_lc fu (nI (tt_ R t)) (zI ((t : Int) - 20)) := by
  intro e
  induction e with
  | zero =>
    intro t fu ht hf
    obtain ⟨fu, rfl⟩ : ∃ n', fu = n' + 1 := ⟨fu - 1, by omega⟩
    have e : t = 41 := by omega
    subst e
    exact br_t (by decide) H
  | succ e ih =>
    intro t fu ht hf
    obtain ⟨fu, rfl⟩ : ∃ n', fu = n' + 1 := ⟨fu - 1, by omega⟩
    have q := zi_lt (a := 20) (b := (t : Int) - 20) (bo_lit (by omega) (by omega)) (bo_lit (by omega) (by omega))
    refine br_f (fun w => by rw [zi_20, q] at w; omega) ⟨42, ?_⟩
    rw [zi_m20]
    have tl := tt_le R t
    have ih' := ih (t + 1) fu (by omega) (by omega)
    have e1 : ((t + 1 : Nat) : Int) - 20 = (t : Int) - 20 + 1 := by omega
    rw [e1] at ih'
    exact yr_col hR hbb hA hB hC hn (by omega) (bo_lit (by omega) (by omega)) ih' 41 0 42 (by omega) (by omega)
end
theorem i_vc_grid {k : Nat} {u : SX} {v : SY} (I : i_Rel k u v) (hk : k + 4 ≤ 2048) : wpX_grid (fun r => wpY_grid (fun r' => r' = r ∧ i_Rel (k + 4) u v) v) u := by
  obtain ⟨f_count, f_p, f_q, f_px, f_py, f_pd, f_lowTop, f_lowBottom, f_highTop, f_highBottom, f_corners, f_made, a_as, a_bs, a_cs, a_cornerX, a_cornerY, a_cornerD, a_newX, a_newY, a_newD⟩ := u
  obtain ⟨g_count, g_p, g_q, g_x, g_y, g_down, g_bestX, g_bestY, g_bestDown, a_la, a_lb, a_lc⟩ := v
  obtain ⟨A, B, C, n, p, q, ⟨hbb, hsq, hn, bp, bq⟩, ⟨rfl, rfl, rfl, rfl, rfl, rfl⟩, ⟨x1, x2, x3⟩, y1, y2, y3⟩ := I
  have same : i_Rel (k + 4) (nI n, zI p, zI q, f_px, f_py, f_pd, f_lowTop, f_lowBottom, f_highTop, f_highBottom, f_corners, f_made, a_as, a_bs, a_cs, a_cornerX, a_cornerY, a_cornerD, a_newX, a_newY, a_newD) (nI n, zI p, zI q, g_x, g_y, g_down, g_bestX, g_bestY, g_bestDown, a_la, a_lb, a_lc) := ⟨A, B, C, n, p, q, ⟨hbb, hsq, hn, bp, bq⟩, ⟨rfl, rfl, rfl, rfl, rfl, rfl⟩, ⟨x1, x2, x3⟩, y1, y2, y3⟩
  have hR : ∀ x y, bo_ 20 x → bo_ 20 y → ((∀ i, i < n → A (4 + i) * x + B (4 + i) * y ≤ C (4 + i)) ↔ ∀ i, yT_ n 99 i → A (yx_ i) * x + B (yx_ i) * y ≤ C (yx_ i) * 1) := by
    intro x y bx by'
    rw [yx_all hn (P := fun j => A j * x + B j * y ≤ C j * 1)]
    obtain ⟨⟨a0, b0, c0'⟩, ⟨a1, b1, c1'⟩, ⟨a2, b2, c2'⟩, a3, b3, c3'⟩ := hsq
    unfold bo_ at bx by'
    constructor
    · intro h j hj
      rcases Nat.lt_or_ge j 4 with z | z
      · have : j = 0 ∨ j = 1 ∨ j = 2 ∨ j = 3 := by omega
        rcases this with e | e | e | e
        · rw [e, a0, b0, c0']; omega
        · rw [e, a1, b1, c1']; omega
        · rw [e, a2, b2, c2']; omega
        · rw [e, a3, b3, c3']; omega
      · have := h (j - 4) (by omega)
        rw [show 4 + (j - 4) = j by omega] at this
        rw [Int.mul_one]
        exact this
    · intro h i hi
      have := h (4 + i) (by omega)
      rw [Int.mul_one] at this
      exact this
  generalize hRR : i_Rel (k + 4) (nI n, zI p, zI q, f_px, f_py, f_pd, f_lowTop, f_lowBottom, f_highTop, f_highBottom, f_corners, f_made, a_as, a_bs, a_cs, a_cornerX, a_cornerY, a_cornerD, a_newX, a_newY, a_newD) (nI n, zI p, zI q, g_x, g_y, g_down, g_bestX, g_bestY, g_bestDown, a_la, a_lb, a_lc) = RR at same ⊢
  unfold wpX_grid
  dsimp only
  refine ⟨42, ?_⟩
  rw [zi_m20]
  refine xr_out (R := fun x y => ∀ i, i < n → A (4 + i) * x + B (4 + i) * y ≤ C (4 + i)) (fun x y => Iff.rfl) hbb x1 x2 x3 hn ?_ 41 0 42 (by omega) (by omega)
  unfold wpY_grid
  dsimp only
  refine ⟨42, ?_⟩
  rw [zi_m20]
  exact yr_grid (R := fun x y => ∀ i, i < n → A (4 + i) * x + B (4 + i) * y ≤ C (4 + i)) hR (bb_yx hbb) y1 y2 y3 hn ⟨rfl, same⟩ 41 0 42 (by omega) (by omega)
end
section
/-! X's corners: gapAt, put, meet -/
def sm_ (p : Int × Int × Int) : Prop := bo_ 3240 p.1 ∧ bo_ 3240 p.2.1 ∧ bo_ 162 p.2.2
/-- three arrays hold the points below m -/
def tv_ (cx cy cd : Nat → Int32) (m : Nat) (V : Nat → Int × Int × Int) : Prop := ∀ i, i < m → cx i = zI (V i).1 ∧ cy i = zI (V i).2.1 ∧ cd i = zI (V i).2.2
def up_ (W : Nat → Int × Int × Int) (t : Nat) (p : Int × Int × Int) : Nat → Int × Int × Int := fun j => if j = t then p else W j
theorem tv_up {cx cy cd : Nat → Int32} {t : Nat} {W : Nat → Int × Int × Int} (h : tv_ cx cy cd t W) (p : Int × Int × Int) : tv_ (upd cx t (zI p.1)) (upd cy t (zI p.2.1)) (upd cd t (zI p.2.2)) (t + 1) (up_ W t p) := by
  intro i hi
  unfold up_
  by_cases z : i = t
  · subst z
    rw [pk_us, pk_us, pk_us, if_pos rfl]
    exact ⟨rfl, rfl, rfl⟩
  · rw [pk_un z, pk_un z, pk_un z, if_neg z]
    exact h i (by omega)
section
variable {A B C : Nat → Int} {V W : Nat → Int × Int × Int} {k m t : Nat}
variable {f_count f_p f_q f_px f_py f_pd f_lowTop f_lowBottom f_highTop f_highBottom f_corners f_made : Int32} {a_as a_bs a_cs a_cornerX a_cornerY a_cornerD a_newX a_newY a_newD : Nat → Int32}
theorem gv_bo (hbb : bb_ A B C) (hk : k < 14) {p : Int × Int × Int} (h : sm_ p) : bo_ 74358 (gv_ A B C k p) :=
  bo_le (bo_sub (bo_sub (bo_mul (hbb k hk).2.2 h.2.2) (bo_mul (hbb k hk).1 h.1)) (bo_mul (hbb k hk).2.1 h.2.1)) (by decide)
theorem xp_gap {post : Int32 → Prop} {i : Nat} (hA : tb_ a_as A) (hB : tb_ a_bs B) (hC : tb_ a_cs C) (hk : k < 14) (hm : m ≤ 20) (hi : i < m) (hV : tv_ a_cornerX a_cornerY a_cornerD m V) (H : post (zI (gv_ A B C k (V i)))) : wpX_gapAt post (f_count, f_p, f_q, f_px, f_py, f_pd, f_lowTop, f_lowBottom, f_highTop, f_highBottom, f_corners, f_made, a_as, a_bs, a_cs, a_cornerX, a_cornerY, a_cornerD, a_newX, a_newY, a_newD) (nI k) (nI i) := by
  have vk : vp_in (nI k) 14 := vp_in_nI hk (by decide)
  have vi : vp_in (nI i) 20 := vp_in_nI (by omega) (by decide)
  unfold wpX_gapAt
  dsimp only
  refine ⟨vk, vi, vk, vi, vk, vi, ?_⟩
  obtain ⟨e1, e2, e3⟩ := hV i hi
  rw [tb_at hA hk, tb_at hB hk, tb_at hC hk, nI_clamp (show i < 2 ^ 31 by omega), e1, e2, e3, zi_mul, zi_mul, zi_mul, zi_sub, zi_sub]
  exact H
theorem xp_loop {post : SX → Prop} {p : Int × Int × Int} (ht : t ≤ 19) (hW : tv_ a_newX a_newY a_newD t W) (hs : ∀ a, a < t → sm_ (W a)) (hp : sm_ p)
    (H1 : ∀ a, a < t → W a = p → post (f_count, f_p, f_q, f_px, f_py, f_pd, f_lowTop, f_lowBottom, f_highTop, f_highBottom, f_corners, nI t, a_as, a_bs, a_cs, a_cornerX, a_cornerY, a_cornerD, a_newX, a_newY, a_newD))
    (H2 : (∀ a, a < t → W a ≠ p) → post (f_count, f_p, f_q, f_px, f_py, f_pd, f_lowTop, f_lowBottom, f_highTop, f_highBottom, f_corners, nI (t + 1), a_as, a_bs, a_cs, a_cornerX, a_cornerY, a_cornerD, upd a_newX t (zI p.1), upd a_newY t (zI p.2.1), upd a_newD t (zI p.2.2))) :
    ∀ (e j fu : Nat), j + e = t → e < fu → (∀ a, a < j → W a ≠ p) → wX_put_3 post (zI p.1) (zI p.2.1) (zI p.2.2) f_count f_p f_q f_px f_py f_pd f_lowTop f_lowBottom f_highTop f_highBottom f_corners (nI t) a_as a_bs a_cs a_cornerX a_cornerY a_cornerD a_newX a_newY a_newD fu (nI j) := by
  intro e
  induction e with
  | zero =>
    intro j fu hj hf I
    obtain ⟨fu, rfl⟩ : ∃ n', fu = n' + 1 := ⟨fu - 1, by omega⟩
    have e : j = t := by omega
    subst e
    have v : vp_in (nI j) 20 := vp_in_nI (by omega) (by decide)
    refine br_t (nI_le (by omega) (by omega)) (br_f (nI_ge (b := 20) (by omega) (by decide)) ?_)
    rw [nI_clamp (by omega)]
    exact ⟨v, nm_e ⟨v, nm_e ⟨v, nm_e (nm_r (nI_1 j) (H2 I))⟩⟩⟩
  | succ e ih =>
    intro j fu hj hf I
    obtain ⟨fu, rfl⟩ : ∃ n', fu = n' + 1 := ⟨fu - 1, by omega⟩
    have v : vp_in (nI j) 20 := vp_in_nI (by omega) (by decide)
    obtain ⟨e1, e2, e3⟩ := hW j (by omega)
    obtain ⟨s1, s2, s3⟩ := hs j (by omega)
    obtain ⟨p1, p2, p3⟩ := hp
    have q1 := zi_eq (bo_le s1 (show (3240 : Int) ≤ 2147483647 by decide)) (bo_le p1 (show (3240 : Int) ≤ 2147483647 by decide))
    have q2 := zi_eq (bo_le s2 (show (3240 : Int) ≤ 2147483647 by decide)) (bo_le p2 (show (3240 : Int) ≤ 2147483647 by decide))
    have q3 := zi_eq (bo_le s3 (show (162 : Int) ≤ 2147483647 by decide)) (bo_le p3 (show (162 : Int) ≤ 2147483647 by decide))
    have nx : W j ≠ p → ∀ y : Int32, y = nI j + 1 → wX_put_3 post (zI p.1) (zI p.2.1) (zI p.2.2) f_count f_p f_q f_px f_py f_pd f_lowTop f_lowBottom f_highTop f_highBottom f_corners (nI t) a_as a_bs a_cs a_cornerX a_cornerY a_cornerD a_newX a_newY a_newD fu y := fun h => nm_r (nI_1 j) (ih (j + 1) fu (by omega) (by omega) (lt_s I h))
    refine br_f (nI_ge (by omega) (by omega)) ⟨v, ?_⟩
    rw [nI_clamp (by omega), e1, e2, e3]
    by_cases z1 : (W j).1 = p.1
    · refine br_t (q1.mpr z1) ⟨v, ?_⟩
      by_cases z2 : (W j).2.1 = p.2.1
      · refine br_t (q2.mpr z2) ⟨v, ?_⟩
        by_cases z3 : (W j).2.2 = p.2.2
        · exact br_t (q3.mpr z3) (H1 j (by omega) (Prod.ext z1 (Prod.ext z2 z3)))
        · exact br_f (fun w => z3 (q3.mp w)) (nx (fun h => z3 (by rw [h])))
      · exact br_f (fun w => z2 (q2.mp w)) (nx (fun h => z2 (by rw [h])))
    · exact br_f (fun w => z1 (q1.mp w)) (nx (fun h => z1 (by rw [h])))
theorem xp_ {post : SX → Prop} {p : Int × Int × Int} (ht : t ≤ 19) (hW : tv_ a_newX a_newY a_newD t W) (hs : ∀ a, a < t → sm_ (W a)) (hp : sm_ p)
    (H1 : ∀ a, a < t → W a = p → post (f_count, f_p, f_q, f_px, f_py, f_pd, f_lowTop, f_lowBottom, f_highTop, f_highBottom, f_corners, nI t, a_as, a_bs, a_cs, a_cornerX, a_cornerY, a_cornerD, a_newX, a_newY, a_newD))
    (H2 : (∀ a, a < t → W a ≠ p) → post (f_count, f_p, f_q, f_px, f_py, f_pd, f_lowTop, f_lowBottom, f_highTop, f_highBottom, f_corners, nI (t + 1), a_as, a_bs, a_cs, a_cornerX, a_cornerY, a_cornerD, upd a_newX t (zI p.1), upd a_newY t (zI p.2.1), upd a_newD t (zI p.2.2))) :
    wpX_put post (f_count, f_p, f_q, f_px, f_py, f_pd, f_lowTop, f_lowBottom, f_highTop, f_highBottom, f_corners, nI t, a_as, a_bs, a_cs, a_cornerX, a_cornerY, a_cornerD, a_newX, a_newY, a_newD) (zI p.1) (zI p.2.1) (zI p.2.2) :=
  ⟨21, xp_loop ht hW hs hp H1 H2 t 0 21 (by omega) (by omega) lt_0⟩
theorem xm_50 {post : SX → Prop} {i j : Nat} {h h' : Int} (hV : tv_ a_cornerX a_cornerY a_cornerD m V) (hm : m ≤ 20) (hi : i < m) (hj : j < m) (si : sm_ (V i)) (sj : sm_ (V j)) (di : 0 < (V i).2.2) (dj : 0 < (V j).2.2) (x : xs_ h h') (bh : bo_ 74358 h) (bh' : bo_ 74358 h')
    (H : wpX_put post (f_count, f_p, f_q, f_px, f_py, f_pd, f_lowTop, f_lowBottom, f_highTop, f_highBottom, f_corners, nI t, a_as, a_bs, a_cs, a_cornerX, a_cornerY, a_cornerD, a_newX, a_newY, a_newD) (zI (mt_ h h' (V i) (V j)).1) (zI (mt_ h h' (V i) (V j)).2.1) (zI (mt_ h h' (V i) (V j)).2.2)) : wX_meet_50 post (nI i) (nI j) (zL (ab_ h)) (zL (ab_ h')) f_count f_p f_q f_px f_py f_pd f_lowTop f_lowBottom f_highTop f_highBottom f_corners (nI t) a_as a_bs a_cs a_cornerX a_cornerY a_cornerD a_newX a_newY a_newD := by
  have vi : vp_in (nI i) 20 := vp_in_nI (by omega) (by decide)
  have vj : vp_in (nI j) 20 := vp_in_nI (by omega) (by decide)
  obtain ⟨i1, i2, i3⟩ := hV i hi
  obtain ⟨j1, j2, j3⟩ := hV j hj
  have p1 := ab_pos (xs_ne x).1
  have p2 := ab_pos (xs_ne x).2
  have b1 : bo_ 74358 (ab_ h) := by unfold ab_ bo_ at *; split <;> omega
  have b2 : bo_ 74358 (ab_ h') := by unfold ab_ bo_ at *; split <;> omega
  have hd : 0 < (V i).2.2 * ab_ h' + (V j).2.2 * ab_ h := by
    have := Int.mul_pos di p2
    have := Int.mul_pos dj p1
    omega
  have ex : (a_cornerX (nI i).toNatClampNeg).toInt64 * zL (ab_ h') + (a_cornerX (nI j).toNatClampNeg).toInt64 * zL (ab_ h) = zL ((V i).1 * ab_ h' + (V j).1 * ab_ h) := by
    rw [nI_clamp (show i < 2 ^ 31 by omega), nI_clamp (show j < 2 ^ 31 by omega), i1, j1, zi_l (bo_le si.1 (by decide)), zi_l (bo_le sj.1 (by decide)), zl_mul, zl_mul, zl_add]
  have ey : (a_cornerY (nI i).toNatClampNeg).toInt64 * zL (ab_ h') + (a_cornerY (nI j).toNatClampNeg).toInt64 * zL (ab_ h) = zL ((V i).2.1 * ab_ h' + (V j).2.1 * ab_ h) := by
    rw [nI_clamp (show i < 2 ^ 31 by omega), nI_clamp (show j < 2 ^ 31 by omega), i2, j2, zi_l (bo_le si.2.1 (by decide)), zi_l (bo_le sj.2.1 (by decide)), zl_mul, zl_mul, zl_add]
  have ed : (a_cornerD (nI i).toNatClampNeg).toInt64 * zL (ab_ h') + (a_cornerD (nI j).toNatClampNeg).toInt64 * zL (ab_ h) = zL ((V i).2.2 * ab_ h' + (V j).2.2 * ab_ h) := by
    rw [nI_clamp (show i < 2 ^ 31 by omega), nI_clamp (show j < 2 ^ 31 by omega), i3, j3, zi_l (bo_le si.2.2 (by decide)), zi_l (bo_le sj.2.2 (by decide)), zl_mul, zl_mul, zl_add]
  have bx : bo_ 1000000000000 ((V i).1 * ab_ h' + (V j).1 * ab_ h) := bo_le (bo_add (bo_mul si.1 b2) (bo_mul sj.1 b1)) (by decide)
  have by' : bo_ 1000000000000 ((V i).2.1 * ab_ h' + (V j).2.1 * ab_ h) := bo_le (bo_add (bo_mul si.2.1 b2) (bo_mul sj.2.1 b1)) (by decide)
  have bd : bo_ 1000000000000 ((V i).2.2 * ab_ h' + (V j).2.2 * ab_ h) := bo_le (bo_add (bo_mul si.2.2 b2) (bo_mul sj.2.2 b1)) (by decide)
  refine ⟨vi, vj, nm_r ex ⟨vi, vj, nm_r ey ⟨vi, vj, nm_r ed ?_⟩⟩⟩
  have em : mt_ h h' (V i) (V j) = nr_ ((V i).1 * ab_ h' + (V j).1 * ab_ h) ((V i).2.1 * ab_ h' + (V j).2.1 * ab_ h) ((V i).2.2 * ab_ h' + (V j).2.2 * ab_ h) := rfl
  rw [em] at H
  generalize (V i).1 * ab_ h' + (V j).1 * ab_ h = X at *
  generalize (V i).2.1 * ab_ h' + (V j).2.1 * ab_ h = Y at *
  generalize (V i).2.2 * ab_ h' + (V j).2.2 * ab_ h = D at *
  rw [zl_abs (Int.le_of_lt hd)]
  have hd63 : D.natAbs < 2 ^ 63 := by unfold bo_ at bd; omega
  have g1 := gd_dv (a := X) (b := D.natAbs) (by omega)
  have g2 := gd_dv (a := Y) (b := Nat.gcd X.natAbs D.natAbs) g1.1
  refine xl_ bx (by omega) hd63 (xl_ by' g1.1 (by omega) ?_)
  have hg : Nat.gcd Y.natAbs (Nat.gcd X.natAbs D.natAbs) = g3_ X Y D := rfl
  rw [hg] at g2 ⊢
  have hne : ¬ lN (g3_ X Y D) = 0 := ln_ne0 g2.1 (by omega)
  have hgb : bo_ 9223372036854775807 (g3_ X Y D : Int) := bo_nat (by omega)
  have q1 : (zL X / lN (g3_ X Y D)).toInt32 = zI (X.tdiv (g3_ X Y D)) := by rw [zl_n, zl_div (bo_le bx (by decide)) hgb, zl_i]
  have q2 : (zL Y / lN (g3_ X Y D)).toInt32 = zI (Y.tdiv (g3_ X Y D)) := by rw [zl_n, zl_div (bo_le by' (by decide)) hgb, zl_i]
  have q3 : (lN D.natAbs / lN (g3_ X Y D)).toInt32 = zI (D.tdiv (g3_ X Y D)) := by rw [← zl_abs (Int.le_of_lt hd), zl_n, zl_div (bo_le bd (by decide)) hgb, zl_i]
  refine ⟨hne, hne, hne, ?_⟩
  rw [q1, q2, q3]
  exact H
theorem xm_ {post : SX → Prop} {i j : Nat} (hbb : bb_ A B C) (hA : tb_ a_as A) (hB : tb_ a_bs B) (hC : tb_ a_cs C) (hk : k < 14) (hV : tv_ a_cornerX a_cornerY a_cornerD m V) (hm : m ≤ 20) (hi : i < m) (hj : j < m) (si : sm_ (V i)) (sj : sm_ (V j)) (di : 0 < (V i).2.2) (dj : 0 < (V j).2.2) (x : xs_ (gv_ A B C k (V i)) (gv_ A B C k (V j)))
    (ht : t ≤ 19) (hW : tv_ a_newX a_newY a_newD t W) (hs : ∀ a, a < t → sm_ (W a)) {p : Int × Int × Int} (ep : p = mt_ (gv_ A B C k (V i)) (gv_ A B C k (V j)) (V i) (V j)) (hp : sm_ p)
    (H1 : ∀ a, a < t → W a = p → post (f_count, f_p, f_q, f_px, f_py, f_pd, f_lowTop, f_lowBottom, f_highTop, f_highBottom, f_corners, nI t, a_as, a_bs, a_cs, a_cornerX, a_cornerY, a_cornerD, a_newX, a_newY, a_newD))
    (H2 : (∀ a, a < t → W a ≠ p) → post (f_count, f_p, f_q, f_px, f_py, f_pd, f_lowTop, f_lowBottom, f_highTop, f_highBottom, f_corners, nI (t + 1), a_as, a_bs, a_cs, a_cornerX, a_cornerY, a_cornerD, upd a_newX t (zI p.1), upd a_newY t (zI p.2.1), upd a_newD t (zI p.2.2))) :
    wpX_meet post (f_count, f_p, f_q, f_px, f_py, f_pd, f_lowTop, f_lowBottom, f_highTop, f_highBottom, f_corners, nI t, a_as, a_bs, a_cs, a_cornerX, a_cornerY, a_cornerD, a_newX, a_newY, a_newD) (nI k) (nI i) (nI j) := by
  have bi := gv_bo hbb hk si
  have bj := gv_bo hbb hk sj
  have P : wpX_put post (f_count, f_p, f_q, f_px, f_py, f_pd, f_lowTop, f_lowBottom, f_highTop, f_highBottom, f_corners, nI t, a_as, a_bs, a_cs, a_cornerX, a_cornerY, a_cornerD, a_newX, a_newY, a_newD) (zI (mt_ (gv_ A B C k (V i)) (gv_ A B C k (V j)) (V i) (V j)).1) (zI (mt_ (gv_ A B C k (V i)) (gv_ A B C k (V j)) (V i) (V j)).2.1) (zI (mt_ (gv_ A B C k (V i)) (gv_ A B C k (V j)) (V i) (V j)).2.2) := by
    rw [← ep]
    exact xp_ ht hW hs hp H1 H2
  have Q := xm_50 hV hm hi hj si sj di dj x bi bj P
  unfold wpX_meet
  dsimp only
  refine xp_gap hA hB hC hk hm hi hV (xp_gap hA hB hC hk hm hj hV ?_)
  rw [zi_l (bo_le bi (by decide)), zi_l (bo_le bj (by decide))]
  generalize gv_ A B C k (V i) = h at *
  generalize gv_ A B C k (V j) = h' at *
  have q1 := zl_nn (bo_le bi (show (74358 : Int) ≤ 9223372036854775807 by decide))
  have q2 := zl_nn (bo_le bj (show (74358 : Int) ≤ 9223372036854775807 by decide))
  unfold ab_ at Q
  by_cases z1 : 0 ≤ h
  · rw [if_pos z1] at Q
    refine br_t (q1.mpr z1) ?_
    by_cases z2 : 0 ≤ h'
    · rw [if_pos z2] at Q
      exact br_t (q2.mpr z2) Q
    · rw [if_neg z2] at Q
      refine br_f (fun w => z2 (q2.mp w)) ?_
      rw [zl_neg]
      exact Q
  · rw [if_neg z1] at Q
    refine br_f (fun w => z1 (q1.mp w)) ?_
    rw [zl_neg]
    by_cases z2 : 0 ≤ h'
    · rw [if_pos z2] at Q
      exact br_t (q2.mpr z2) Q
    · rw [if_neg z2] at Q
      refine br_f (fun w => z2 (q2.mp w)) ?_
      rw [zl_neg]
      exact Q
end
end
section
/-! X's clip -/
section
variable {A B C : Nat → Int} {V W : Nat → Int × Int × Int} {n m t cur : Nat}
theorem po_sm (hq : sq_ A B C) (hbb : bb_ A B C) (hn : n ≤ 10) (h : po_ A B C (ss_ (4 + n) 99) m V) {a : Nat} (ha : a < m) : sm_ (V a) ∧ 0 < (V a).2.2 := by
  obtain ⟨hp, hv⟩ := h.1 a ha
  obtain ⟨h1, h2, h3⟩ := ve_small hq hbb (fun i hi => ⟨by omega, by omega⟩) (fun i hi => by have := hi.1; omega) hp hv
  have := hp.1
  exact ⟨⟨h2, h3, bo_lit (by omega) (by omega)⟩, hp.1⟩
theorem po_room (hn : n ≤ 10) (h : po_ A B C (ss_ (4 + n) 99) m V) : m ≤ 14 :=
  ve_room (A := A) (B := B) (C := C) (S := ss_ (4 + n) 99) (W := V) (fun i hi => by have := hi.1; omega) h.1 h.2.2.1
theorem pc_sm (hq : sq_ A B C) (hbb : bb_ A B C) (hn : n < 10) (h : po_ A B C (ss_ (4 + n) 99) m V) {c : Nat} (hv : vd_ A B C (4 + n) m V c) : sm_ (pc_ A B C (4 + n) m V c) := by
  obtain ⟨hp, hve⟩ := pc_ok hq hbb (by omega) (by omega) h (by omega) hv
  obtain ⟨h1, h2, h3⟩ := ve_small hq hbb (fun i hi => ⟨by omega, by omega⟩) (fun i hi => by have := hi.1; omega) hp hve
  have := hp.1
  exact ⟨h2, h3, bo_lit (by omega) (by omega)⟩
theorem cl_sm (hq : sq_ A B C) (hbb : bb_ A B C) (hn : n < 10) (h : po_ A B C (ss_ (4 + n) 99) m V) (hc : cl_ A B C (4 + n) m V cur t W) : ∀ a, a < t → sm_ (W a) := by
  obtain ⟨cd, h1, _⟩ := hc
  intro a ha
  obtain ⟨v, _, e⟩ := h1 a ha
  rw [e]
  exact pc_sm hq hbb hn h v
variable {f_count f_p f_q f_px f_py f_pd f_lowTop f_lowBottom f_highTop f_highBottom f_corners f_made : Int32} {a_as a_bs a_cs a_cornerX a_cornerY a_cornerD a_newX a_newY a_newD : Nat → Int32}
theorem xc_76 {post : SX → Prop} {J7 : Int32 → Int32 → Int32 → Int32 → Int32 → Int32 → Int32 → Int32 → Int32 → Int32 → Int32 → Int32 → Int32 → (Nat → Int32) → (Nat → Int32) → (Nat → Int32) → (Nat → Int32) → (Nat → Int32) → (Nat → Int32) → (Nat → Int32) → (Nat → Int32) → (Nat → Int32) → Prop} {i : Nat}
    (hbb : bb_ A B C) (hq : sq_ A B C) (hA : tb_ a_as A) (hB : tb_ a_bs B) (hC : tb_ a_cs C) (hn : n < 10) (hP : po_ A B C (ss_ (4 + n) 99) m V) (hV : tv_ a_cornerX a_cornerY a_cornerD m V) (hi : i < m)
    (K : ∀ t W a_newX a_newY a_newD, tv_ a_newX a_newY a_newD t W → cl_ A B C (4 + n) m V (2 * i + 1 + 1) t W → J7 (nI (i + 1)) f_count f_p f_q f_px f_py f_pd f_lowTop f_lowBottom f_highTop f_highBottom f_corners (nI t) a_as a_bs a_cs a_cornerX a_cornerY a_cornerD a_newX a_newY a_newD)
    (hW : tv_ a_newX a_newY a_newD t W) (hc : cl_ A B C (4 + n) m V (2 * i + 1) t W) :
    wX_clip_76 post J7 (nI (4 + n)) (nI i) (nI (nx_ m i)) (zI (gv_ A B C (4 + n) (V i))) (zI (gv_ A B C (4 + n) (V (nx_ m i)))) f_count f_p f_q f_px f_py f_pd f_lowTop f_lowBottom f_highTop f_highBottom f_corners (nI t) a_as a_bs a_cs a_cornerX a_cornerY a_cornerD a_newX a_newY a_newD := by
  have hj := nx_lt hi
  obtain ⟨si, di⟩ := po_sm hq hbb (by omega) hP hi
  obtain ⟨sj, dj⟩ := po_sm hq hbb (by omega) hP hj
  have hm := po_room (by omega) hP
  have bi := bo_le (gv_bo hbb (show 4 + n < 14 by omega) si) (show (74358 : Int) ≤ 2147483647 by decide)
  have bj := bo_le (gv_bo hbb (show 4 + n < 14 by omega) sj) (show (74358 : Int) ≤ 2147483647 by decide)
  have no : ¬ xs_ (gv_ A B C (4 + n) (V i)) (gv_ A B C (4 + n) (V (nx_ m i))) → ∀ y : Int32, y = nI i + 1 → J7 y f_count f_p f_q f_px f_py f_pd f_lowTop f_lowBottom f_highTop f_highBottom f_corners (nI t) a_as a_bs a_cs a_cornerX a_cornerY a_cornerD a_newX a_newY a_newD := fun hx => nm_r (nI_1 i) (K t W _ _ _ hW (cl_skip hc (fun v => hx (vd_odd.mp v).2)))
  have yes : xs_ (gv_ A B C (4 + n) (V i)) (gv_ A B C (4 + n) (V (nx_ m i))) → wX_clip_96 post J7 (nI (4 + n)) (nI i) (nI (nx_ m i)) f_count f_p f_q f_px f_py f_pd f_lowTop f_lowBottom f_highTop f_highBottom f_corners (nI t) a_as a_bs a_cs a_cornerX a_cornerY a_cornerD a_newX a_newY a_newD := by
    intro hx
    have hv : vd_ A B C (4 + n) m V (2 * i + 1) := vd_odd.mpr ⟨hi, hx⟩
    have ht : t ≤ 14 := cl_room hq hbb (by omega) hn hP (by omega) hc
    refine xm_ (W := W) (p := pc_ A B C (4 + n) m V (2 * i + 1)) hbb hA hB hC (by omega) hV (by omega) hi hj si sj di dj hx (by omega) hW (cl_sm hq hbb hn hP hc) pc_odd (pc_sm hq hbb hn hP hv) (fun a ha e => ?_) (fun e => ?_)
    · exact nm_r (nI_1 i) (K t W _ _ _ hW (cl_dup hc ha e))
    · exact nm_r (nI_1 i) (K (t + 1) (up_ W t (pc_ A B C (4 + n) m V (2 * i + 1))) _ _ _ (tv_up hW _) (cl_new hc hv rfl e))
  generalize gv_ A B C (4 + n) (V i) = h at *
  generalize gv_ A B C (4 + n) (V (nx_ m i)) = h' at *
  have q1 := zi_np bi
  have q2 := zi_nn bi
  have q3 := zi_np bj
  have q4 : zI h' < 0 ↔ h' < 0 := by
    rw [zi_0]
    exact zi_lt bj (bo_lit (by omega) (by omega))
  have s86 : ¬ (0 < h ∧ h' < 0) → wX_clip_86 post J7 (nI (4 + n)) (nI i) (nI (nx_ m i)) (zI h) (zI h') f_count f_p f_q f_px f_py f_pd f_lowTop f_lowBottom f_highTop f_highBottom f_corners (nI t) a_as a_bs a_cs a_cornerX a_cornerY a_cornerD a_newX a_newY a_newD := by
    intro hx
    by_cases z1 : 0 ≤ h
    · exact br_t (q2.mpr z1) (no (by unfold xs_; omega))
    · refine br_f (fun w => z1 (q2.mp w)) ?_
      by_cases z2 : h' ≤ 0
      · exact br_t (q3.mpr z2) (no (by unfold xs_; omega))
      · exact br_f (fun w => z2 (q3.mp w)) (yes (by unfold xs_; omega))
  by_cases z1 : h ≤ 0
  · exact br_t (q1.mpr z1) (s86 (by omega))
  · refine br_f (fun w => z1 (q1.mp w)) ?_
    by_cases z2 : h' < 0
    · exact br_t (q4.mpr z2) (yes (by unfold xs_; omega))
    · exact br_f (fun w => z2 (q4.mp w)) (s86 (by omega))
theorem xc_32 {post : SX → Prop} {J7 : Int32 → Int32 → Int32 → Int32 → Int32 → Int32 → Int32 → Int32 → Int32 → Int32 → Int32 → Int32 → Int32 → (Nat → Int32) → (Nat → Int32) → (Nat → Int32) → (Nat → Int32) → (Nat → Int32) → (Nat → Int32) → (Nat → Int32) → (Nat → Int32) → (Nat → Int32) → Prop} {i : Nat}
    (hbb : bb_ A B C) (hq : sq_ A B C) (hA : tb_ a_as A) (hB : tb_ a_bs B) (hC : tb_ a_cs C) (hn : n < 10) (hP : po_ A B C (ss_ (4 + n) 99) m V) (hV : tv_ a_cornerX a_cornerY a_cornerD m V) (hi : i < m)
    (K : ∀ t W a_newX a_newY a_newD, tv_ a_newX a_newY a_newD t W → cl_ A B C (4 + n) m V (2 * i + 1 + 1) t W → J7 (nI (i + 1)) f_count f_p f_q f_px f_py f_pd f_lowTop f_lowBottom f_highTop f_highBottom f_corners (nI t) a_as a_bs a_cs a_cornerX a_cornerY a_cornerD a_newX a_newY a_newD)
    (hW : tv_ a_newX a_newY a_newD t W) (hc : cl_ A B C (4 + n) m V (2 * i) t W) :
    wX_clip_32 post J7 (nI (4 + n)) (nI i) (nI (nx_ m i)) f_count f_p f_q f_px f_py f_pd f_lowTop f_lowBottom f_highTop f_highBottom f_corners (nI t) a_as a_bs a_cs a_cornerX a_cornerY a_cornerD a_newX a_newY a_newD := by
  have hj := nx_lt hi
  obtain ⟨si, di⟩ := po_sm hq hbb (by omega) hP hi
  have hm := po_room (by omega) hP
  have bi := bo_le (gv_bo hbb (show 4 + n < 14 by omega) si) (show (74358 : Int) ≤ 2147483647 by decide)
  have q : zI (gv_ A B C (4 + n) (V i)) < 0 ↔ gv_ A B C (4 + n) (V i) < 0 := by
    rw [zi_0]
    exact zi_lt bi (bo_lit (by omega) (by omega))
  have vi : vp_in (nI i) 20 := vp_in_nI (by omega) (by decide)
  refine xp_gap hA hB hC (by omega) (by omega) hi hV (xp_gap hA hB hC (by omega) (by omega) hj hV ?_)
  by_cases z : gv_ A B C (4 + n) (V i) < 0
  · exact br_t (q.mpr z) (xc_76 hbb hq hA hB hC hn hP hV hi K hW (cl_skip hc (fun v => by have := (vd_even.mp v).2; omega)))
  · have hv : vd_ A B C (4 + n) m V (2 * i) := vd_even.mpr ⟨hi, by omega⟩
    have ht : t ≤ 14 := cl_room hq hbb (by omega) hn hP (by omega) hc
    have ep : pc_ A B C (4 + n) m V (2 * i) = V i := pc_even
    obtain ⟨e1, e2, e3⟩ := hV i hi
    refine br_f (fun w => z (q.mp w)) ⟨vi, vi, vi, ?_⟩
    rw [nI_clamp (by omega), e1, e2, e3]
    refine xp_ (W := W) (p := V i) (by omega) hW (cl_sm hq hbb hn hP hc) si (fun a ha e => ?_) (fun e => ?_)
    · exact xc_76 hbb hq hA hB hC hn hP hV hi K hW (cl_dup hc ha (by rw [ep]; exact e))
    · exact xc_76 hbb hq hA hB hC hn hP hV hi K (tv_up hW (V i)) (cl_new hc hv ep.symm e)
theorem xc_119 {post : SX → Prop} (ht : t ≤ 20) (hW : tv_ a_newX a_newY a_newD t W) (H : ∀ a_cornerX a_cornerY a_cornerD, tv_ a_cornerX a_cornerY a_cornerD t W → post (f_count, f_p, f_q, f_px, f_py, f_pd, f_lowTop, f_lowBottom, f_highTop, f_highBottom, nI t, nI t, a_as, a_bs, a_cs, a_cornerX, a_cornerY, a_cornerD, a_newX, a_newY, a_newD)) :
    ∀ (e j fu : Nat) (a_cornerX a_cornerY a_cornerD : Nat → Int32), j + e = t → e < fu → tv_ a_cornerX a_cornerY a_cornerD j W → wX_clip_119 post f_count f_p f_q f_px f_py f_pd f_lowTop f_lowBottom f_highTop f_highBottom (nI t) (nI t) fu (nI j) a_as a_bs a_cs a_cornerX a_cornerY a_cornerD a_newX a_newY a_newD := by
  intro e
  induction e with
  | zero =>
    intro j fu cx cy cd hj hf I
    obtain ⟨fu, rfl⟩ : ∃ n', fu = n' + 1 := ⟨fu - 1, by omega⟩
    have e : j = t := by omega
    subst e
    exact br_t (nI_le (by omega) (by omega)) (H _ _ _ I)
  | succ e ih =>
    intro j fu cx cy cd hj hf I
    obtain ⟨fu, rfl⟩ : ∃ n', fu = n' + 1 := ⟨fu - 1, by omega⟩
    have v : vp_in (nI j) 20 := vp_in_nI (by omega) (by decide)
    obtain ⟨e1, e2, e3⟩ := hW j (by omega)
    refine br_f (nI_ge (by omega) (by omega)) ?_
    rw [nI_clamp (by omega), e1, e2, e3]
    refine ⟨v, v, nm_e ⟨v, v, nm_e ⟨v, v, nm_e (nm_r (nI_1 j) (ih (j + 1) fu _ _ _ (by omega) (by omega) ?_))⟩⟩⟩
    intro a ha
    by_cases z : a = j
    · subst z
      rw [pk_us, pk_us, pk_us]
      exact ⟨rfl, rfl, rfl⟩
    · rw [pk_un z, pk_un z, pk_un z]
      exact I a (by omega)
theorem xc_7 {post : SX → Prop} (hbb : bb_ A B C) (hq : sq_ A B C) (hA : tb_ a_as A) (hB : tb_ a_bs B) (hC : tb_ a_cs C) (hn : n < 10) (hP : po_ A B C (ss_ (4 + n) 99) m V) (hV : tv_ a_cornerX a_cornerY a_cornerD m V)
    (H : ∀ t W a_cornerX a_cornerY a_cornerD a_newX a_newY a_newD, po_ A B C (ss_ (4 + n + 1) 99) t W → tv_ a_cornerX a_cornerY a_cornerD t W → post (f_count, f_p, f_q, f_px, f_py, f_pd, f_lowTop, f_lowBottom, f_highTop, f_highBottom, nI t, nI t, a_as, a_bs, a_cs, a_cornerX, a_cornerY, a_cornerD, a_newX, a_newY, a_newD)) :
    ∀ (e i fu t : Nat) (W : Nat → Int × Int × Int) (a_newX a_newY a_newD : Nat → Int32), i + e = m → e < fu → tv_ a_newX a_newY a_newD t W → cl_ A B C (4 + n) m V (2 * i) t W → wX_clip_7 post (nI (4 + n)) fu (nI i) f_count f_p f_q f_px f_py f_pd f_lowTop f_lowBottom f_highTop f_highBottom (nI m) (nI t) a_as a_bs a_cs a_cornerX a_cornerY a_cornerD a_newX a_newY a_newD := by
  have hm := po_room (by omega) hP
  intro e
  induction e with
  | zero =>
    intro i fu t W nx ny nd hi hf hW hc
    obtain ⟨fu, rfl⟩ : ∃ n', fu = n' + 1 := ⟨fu - 1, by omega⟩
    have e : i = m := by omega
    subst e
    have ht : t ≤ 14 := cl_room hq hbb (by omega) hn hP (by omega) hc
    refine br_t (nI_le (by omega) (by omega)) ⟨21, ?_⟩
    exact xc_119 (by omega) hW (fun cx cy cd I => H t W cx cy cd nx ny nd (cl_po hq hbb (by omega) hn hP (by omega) hc) I) t 0 21 _ _ _ (by omega) (by omega) (fun a ha => absurd ha (Nat.not_lt_zero a))
  | succ e ih =>
    intro i fu t W nx ny nd hi hf hW hc
    obtain ⟨fu, rfl⟩ : ∃ n', fu = n' + 1 := ⟨fu - 1, by omega⟩
    have g : wX_clip_32 post (wX_clip_7 post (nI (4 + n)) fu) (nI (4 + n)) (nI i) (nI (nx_ m i)) f_count f_p f_q f_px f_py f_pd f_lowTop f_lowBottom f_highTop f_highBottom (nI m) (nI t) a_as a_bs a_cs a_cornerX a_cornerY a_cornerD nx ny nd :=
      xc_32 hbb hq hA hB hC hn hP hV (by omega) (fun t W nx ny nd hW hc => ih (i + 1) fu t W nx ny nd (by omega) (by omega) hW hc) hW hc
    refine br_f (nI_ge (by omega) (by omega)) ?_
    rw [nI_1]
    by_cases z : i + 1 < m
    · have en : nx_ m i = i + 1 := if_pos z
      rw [en] at g
      exact br_f (nI_ge z (by omega)) g
    · have en : nx_ m i = 0 := if_neg z
      rw [en] at g
      exact br_t (nI_le (by omega) (by omega)) g
theorem xc_ {post : SX → Prop} (hbb : bb_ A B C) (hq : sq_ A B C) (hA : tb_ a_as A) (hB : tb_ a_bs B) (hC : tb_ a_cs C) (hn : n < 10) (hP : po_ A B C (ss_ (4 + n) 99) m V) (hV : tv_ a_cornerX a_cornerY a_cornerD m V)
    (H : ∀ t W (f_made : Int32) a_cornerX a_cornerY a_cornerD a_newX a_newY a_newD, po_ A B C (ss_ (4 + n + 1) 99) t W → tv_ a_cornerX a_cornerY a_cornerD t W → post (f_count, f_p, f_q, f_px, f_py, f_pd, f_lowTop, f_lowBottom, f_highTop, f_highBottom, nI t, f_made, a_as, a_bs, a_cs, a_cornerX, a_cornerY, a_cornerD, a_newX, a_newY, a_newD)) :
    wpX_clip post (f_count, f_p, f_q, f_px, f_py, f_pd, f_lowTop, f_lowBottom, f_highTop, f_highBottom, nI m, f_made, a_as, a_bs, a_cs, a_cornerX, a_cornerY, a_cornerD, a_newX, a_newY, a_newD) (nI (4 + n)) := by
  have hm := po_room (by omega) hP
  exact ⟨15, xc_7 hbb hq hA hB hC hn hP hV (fun t W cx cy cd nx ny nd h1 h2 => H t W _ cx cy cd nx ny nd h1 h2) m 0 15 0 V _ _ _ (by omega) (by omega) (fun a ha => absurd ha (Nat.not_lt_zero a)) cl_0⟩
end
end
section
/-! X's corners -/
def V0_ (i : Nat) : Int × Int × Int := if i = 0 then (-20, -20, 1) else if i = 1 then (20, -20, 1) else if i = 2 then (20, 20, 1) else (-20, 20, 1)
theorem V0_ne : ∀ b, b < 4 → ∀ a, a < b → V0_ a ≠ V0_ b := by decide
theorem V0_dt : ∀ c, c < 4 → ∀ b, b < c → ∀ a, a < b → 0 < dt_ (V0_ a) (V0_ b) (V0_ c) := by decide
theorem V0_g3 : ∀ a, a < 4 → g3_ (V0_ a).1 (V0_ a).2.1 (V0_ a).2.2 = 1 := by decide
section
variable {A B C : Nat → Int} {n : Nat}
theorem po_0 (hq : sq_ A B C) : po_ A B C (ss_ (4 + 0) 99) 4 V0_ := by
  have hq' := hq
  obtain ⟨⟨a0, b0, c0'⟩, ⟨a1, b1, c1'⟩, ⟨a2, b2, c2'⟩, a3, b3, c3'⟩ := hq'
  refine ⟨fun a ha => ⟨⟨?_, V0_g3 a ha⟩, ?_⟩, ?_, fun a b hab hb => V0_ne b hb a hab, fun a b c hab hbc hc => V0_dt c hc b hbc a hab⟩
  · have : a = 0 ∨ a = 1 ∨ a = 2 ∨ a = 3 := by omega
    rcases this with e | e | e | e <;> subst e <;> decide
  · have : a = 0 ∨ a = 1 ∨ a = 2 ∨ a = 3 := by omega
    rcases this with e | e | e | e <;> subst e
    · exact (be_sq (by omega) hq (-1) (-1) (-20) (-20) (by decide) (by decide)).2
    · exact (be_sq (by omega) hq 1 (-1) 20 (-20) (by decide) (by decide)).2
    · exact (be_sq (by omega) hq 1 1 20 20 (by decide) (by decide)).2
    · exact (be_sq (by omega) hq (-1) 1 (-20) 20 (by decide) (by decide)).2
  · rintro x y d ⟨f, i, j, hi, hj, hD, ti, tj⟩
    have hi4 := hi.1
    have hj4 := hj.1
    have ei : i = 0 ∨ i = 1 ∨ i = 2 ∨ i = 3 := by omega
    have ej : j = 0 ∨ j = 1 ∨ j = 2 ∨ j = 3 := by omega
    have fin : ∀ X Y : Int, ∀ a, a < 4 → V0_ a = (X, Y, 1) → x = X * d → y = Y * d → ∃ a, a < 4 ∧ eq_ (V0_ a).1 (V0_ a).2.1 (V0_ a).2.2 x y d := by
      intro X Y a ha e h1 h2
      refine ⟨a, ha, ?_⟩
      rw [e, h1, h2]
      constructor <;> dsimp only <;> rw [Int.mul_one]
    unfold ti_ at ti tj
    rcases ei with e | e | e | e <;> subst e <;> rcases ej with e' | e' | e' | e' <;> subst e' <;> simp only [a0, b0, c0', a1, b1, c1', a2, b2, c2', a3, b3, c3'] at hD ti tj <;> first
      | (exfalso; omega)
      | (exact fin (-20) (-20) 0 (by omega) rfl (by omega) (by omega))
      | (exact fin 20 (-20) 1 (by omega) rfl (by omega) (by omega))
      | (exact fin 20 20 2 (by omega) rfl (by omega) (by omega))
      | (exact fin (-20) 20 3 (by omega) rfl (by omega) (by omega))
variable {f_count f_p f_q f_px f_py f_pd f_lowTop f_lowBottom f_highTop f_highBottom f_corners f_made : Int32} {a_as a_bs a_cs a_cornerX a_cornerY a_cornerD a_newX a_newY a_newD : Nat → Int32}
theorem xk_91 {post : Int32 → SX → Prop} (hbb : bb_ A B C) (hq : sq_ A B C) (hA : tb_ a_as A) (hB : tb_ a_bs B) (hC : tb_ a_cs C) (hn : n ≤ 10)
    (H : ∀ m V (f_made : Int32) a_cornerX a_cornerY a_cornerD a_newX a_newY a_newD, po_ A B C (ss_ (4 + n) 99) m V → post (nI m) (nI n, f_p, f_q, f_px, f_py, f_pd, f_lowTop, f_lowBottom, f_highTop, f_highBottom, nI m, f_made, a_as, a_bs, a_cs, a_cornerX, a_cornerY, a_cornerD, a_newX, a_newY, a_newD)) :
    ∀ (e j fu m : Nat) (V : Nat → Int × Int × Int) (f_made : Int32) (a_cornerX a_cornerY a_cornerD a_newX a_newY a_newD : Nat → Int32), j + e = n → e < fu → po_ A B C (ss_ (4 + j) 99) m V → tv_ a_cornerX a_cornerY a_cornerD m V → wX_corners_91 post fu (nI (4 + j)) (nI n) f_p f_q f_px f_py f_pd f_lowTop f_lowBottom f_highTop f_highBottom (nI m) f_made a_as a_bs a_cs a_cornerX a_cornerY a_cornerD a_newX a_newY a_newD := by
  intro e
  induction e with
  | zero =>
    intro j fu m V f_made a_cornerX a_cornerY a_cornerD a_newX a_newY a_newD hj hf hP hV
    obtain ⟨fu, rfl⟩ : ∃ n', fu = n' + 1 := ⟨fu - 1, by omega⟩
    have e : j = n := by omega
    subst e
    exact pk_le (4 + j) (4 + j) (fun _ => H m V _ _ _ _ _ _ _ hP) (fun z => by omega) (nI_add 4 j) rfl (by omega) (by omega)
  | succ e ih =>
    intro j fu m V f_made a_cornerX a_cornerY a_cornerD a_newX a_newY a_newD hj hf hP hV
    obtain ⟨fu, rfl⟩ : ∃ n', fu = n' + 1 := ⟨fu - 1, by omega⟩
    refine pk_le (4 + n) (4 + j) (fun z => by omega) (fun _ => ?_) (nI_add 4 n) rfl (by omega) (by omega)
    exact xc_ hbb hq hA hB hC (by omega) hP hV (fun t W fm cx cy cd nx ny nd h1 h2 => nm_r (nI_1 (4 + j)) (ih (j + 1) fu t W fm cx cy cd nx ny nd (by omega) (by omega) h1 h2))
theorem xk_66 {post : Int32 → SX → Prop} (hbb : bb_ A B C) (hq : sq_ A B C) (hA : tb_ a_as A) (hB : tb_ a_bs B) (hC : tb_ a_cs C) (hn : n ≤ 10) (hx : ∀ i, i < 4 → a_cornerX i = zI (V0_ i).1) (hy : ∀ i, i < 4 → a_cornerY i = zI (V0_ i).2.1)
    (H : ∀ m V (f_made : Int32) a_cornerX a_cornerY a_cornerD a_newX a_newY a_newD, po_ A B C (ss_ (4 + n) 99) m V → post (nI m) (nI n, f_p, f_q, f_px, f_py, f_pd, f_lowTop, f_lowBottom, f_highTop, f_highBottom, nI m, f_made, a_as, a_bs, a_cs, a_cornerX, a_cornerY, a_cornerD, a_newX, a_newY, a_newD)) :
    ∀ (e j fu : Nat) (a_cornerD : Nat → Int32), j + e = 4 → e < fu → (∀ i, i < j → a_cornerD i = 1) → wX_corners_66 post (nI n) f_p f_q f_px f_py f_pd f_lowTop f_lowBottom f_highTop f_highBottom f_corners f_made fu (nI j) a_as a_bs a_cs a_cornerX a_cornerY a_cornerD a_newX a_newY a_newD := by
  intro e
  induction e with
  | zero =>
    intro j fu cd hj hf I
    obtain ⟨fu, rfl⟩ : ∃ n', fu = n' + 1 := ⟨fu - 1, by omega⟩
    have e : j = 4 := by omega
    subst e
    refine br_t (nI_le (a := 4) (b := 4) (by decide) (by decide)) ⟨15, ?_⟩
    refine xk_91 hbb hq hA hB hC hn H n 0 15 4 V0_ _ _ _ _ _ _ _ (by omega) (by omega) (po_0 hq) (fun i hi => ⟨hx i hi, hy i hi, ?_⟩)
    rw [I i hi]
    have : i = 0 ∨ i = 1 ∨ i = 2 ∨ i = 3 := by omega
    rcases this with e | e | e | e <;> subst e <;> decide
  | succ e ih =>
    intro j fu cd hj hf I
    obtain ⟨fu, rfl⟩ : ∃ n', fu = n' + 1 := ⟨fu - 1, by omega⟩
    have v : vp_in (nI j) 20 := vp_in_nI (by omega) (by decide)
    refine br_f (nI_ge (b := 4) (by omega) (by decide)) ?_
    rw [nI_clamp (by omega)]
    refine ⟨v, nm_e (nm_r (nI_1 j) (ih (j + 1) fu _ (by omega) (by omega) ?_))⟩
    intro i hi
    by_cases z : i = j
    · subst z
      exact pk_us
    · rw [pk_un z]
      exact I i (by omega)
theorem xk_ {post : Int32 → SX → Prop} (hbb : bb_ A B C) (hq : sq_ A B C) (hA : tb_ a_as A) (hB : tb_ a_bs B) (hC : tb_ a_cs C) (hn : n ≤ 10)
    (H : ∀ m V (f_made : Int32) a_cornerX a_cornerY a_cornerD a_newX a_newY a_newD, po_ A B C (ss_ (4 + n) 99) m V → post (nI m) (nI n, f_p, f_q, f_px, f_py, f_pd, f_lowTop, f_lowBottom, f_highTop, f_highBottom, nI m, f_made, a_as, a_bs, a_cs, a_cornerX, a_cornerY, a_cornerD, a_newX, a_newY, a_newD)) :
    wpX_corners post (nI n, f_p, f_q, f_px, f_py, f_pd, f_lowTop, f_lowBottom, f_highTop, f_highBottom, f_corners, f_made, a_as, a_bs, a_cs, a_cornerX, a_cornerY, a_cornerD, a_newX, a_newY, a_newD) := by
  unfold wpX_corners
  dsimp only
  refine nm_e (nm_e (nm_e (nm_e (nm_e (nm_e (nm_e (nm_e ⟨5, ?_⟩)))))))
  refine xk_66 hbb hq hA hB hC hn ?_ ?_ H 4 0 5 _ (by omega) (by omega) lt_0
  · intro i hi
    have : i = 0 ∨ i = 1 ∨ i = 2 ∨ i = 3 := by omega
    rcases this with e | e | e | e <;> subst e
    · rw [pk_un (by omega), pk_un (by omega), pk_un (by omega), pk_us]; decide
    · rw [pk_un (by omega), pk_un (by omega), pk_us]; decide
    · rw [pk_un (by omega), pk_us]; decide
    · rw [pk_us]; decide
  · intro i hi
    have : i = 0 ∨ i = 1 ∨ i = 2 ∨ i = 3 := by omega
    rcases this with e | e | e | e <;> subst e
    · rw [pk_un (by omega), pk_un (by omega), pk_un (by omega), pk_us]; decide
    · rw [pk_un (by omega), pk_un (by omega), pk_us]; decide
    · rw [pk_un (by omega), pk_us]; decide
    · rw [pk_us]; decide
end
end
section
/-! Y's corners -/
def ep_ (p q : Int × Int × Int) : Prop := eq_ p.1 p.2.1 p.2.2 q.1 q.2.1 q.2.2
/-- c different points L 0 .. L (c-1) are all the meeting points of the pairs before (i, j) -/
def yl_ (A B C : Nat → Int) (T : Nat → Prop) (i j c : Nat) (L : Nat → Int × Int × Int) : Prop :=
  (∀ a, a < c → ∃ i' j', bf_ i j i' j' ∧ me_ A B C T i' j' (L a).1 (L a).2.1 (L a).2.2) ∧ (∀ a b, a < b → b < c → ¬ ep_ (L a) (L b)) ∧ (∀ i' j', bf_ i j i' j' → ∀ x y d, me_ A B C T i' j' x y d → ∃ a, a < c ∧ ep_ (L a) (x, y, d))
theorem bf_u {i j i' j' : Nat} (h : bf_ i j i' j') : bf_ i (j + 1) i' j' := by
  unfold bf_ at *
  omega
section
variable {A B C : Nat → Int} {T : Nat → Prop} {i j c : Nat} {L : Nat → Int × Int × Int}
theorem yl_no (h : yl_ A B C T i j c L) (g : ∀ x y d, ¬ me_ A B C T i j x y d) : yl_ A B C T i (j + 1) c L := by
  obtain ⟨h1, h2, h3⟩ := h
  refine ⟨fun a ha => ?_, h2, fun i' j' hf x y d m => ?_⟩
  · obtain ⟨i', j', hf, m⟩ := h1 a ha
    exact ⟨i', j', bf_u hf, m⟩
  · rcases bf_s hf with z | ⟨z1, z2⟩
    · exact h3 i' j' z x y d m
    · subst z1 z2
      exact absurd m (g x y d)
theorem yl_old {x y d : Int} (h : yl_ A B C T i j c L) (m : me_ A B C T i j x y d) (g : ∃ i' j' x' y' d', bf_ i j i' j' ∧ me_ A B C T i' j' x' y' d' ∧ eq_ x' y' d' x y d) : yl_ A B C T i (j + 1) c L := by
  obtain ⟨h1, h2, h3⟩ := h
  refine ⟨fun a ha => ?_, h2, fun i' j' hf x2 y2 d2 m2 => ?_⟩
  · obtain ⟨i', j', hf, m'⟩ := h1 a ha
    exact ⟨i', j', bf_u hf, m'⟩
  · rcases bf_s hf with z | ⟨z1, z2⟩
    · exact h3 i' j' z x2 y2 d2 m2
    · subst z1 z2
      obtain ⟨i3, j3, x3, y3, d3, hf3, m3, e3⟩ := g
      obtain ⟨a, ha, ea⟩ := h3 i3 j3 hf3 x3 y3 d3 m3
      have e4 := ti_uniq m.2.2.2.1 m.2.2.2.2.1 m.2.2.2.2.2 m2.2.2.2.2.1 m2.2.2.2.2.2
      exact ⟨a, ha, eq_trans m3.1.1 ea (eq_trans m.1.1 e3 e4)⟩
theorem yl_new {x y d : Int} (h : yl_ A B C T i j c L) (hij : j < i) (m : me_ A B C T i j x y d) (g : ∀ i' j', bf_ i j i' j' → ∀ x' y' d', me_ A B C T i' j' x' y' d' → ¬ eq_ x' y' d' x y d) : yl_ A B C T i (j + 1) (c + 1) (up_ L c (x, y, d)) := by
  obtain ⟨h1, h2, h3⟩ := h
  have un : ∀ a, a ≠ c → up_ L c (x, y, d) a = L a := fun a ha => if_neg ha
  have us : up_ L c (x, y, d) c = (x, y, d) := if_pos rfl
  refine ⟨fun a ha => ?_, fun a b hab hb => ?_, fun i' j' hf x2 y2 d2 m2 => ?_⟩
  · by_cases z : a = c
    · subst z
      rw [us]
      exact ⟨i, j, by unfold bf_; omega, m⟩
    · rw [un a z]
      obtain ⟨i', j', hf, m'⟩ := h1 a (by omega)
      exact ⟨i', j', bf_u hf, m'⟩
  · rw [un a (by omega)]
    by_cases z : b = c
    · subst z
      rw [us]
      obtain ⟨i', j', hf, m'⟩ := h1 a hab
      exact g i' j' hf _ _ _ m'
    · rw [un b z]
      exact h2 a b hab (by omega)
  · rcases bf_s hf with z | ⟨z1, z2⟩
    · obtain ⟨a, ha, e⟩ := h3 i' j' z x2 y2 d2 m2
      refine ⟨a, by omega, ?_⟩
      rw [un a (by omega)]
      exact e
    · subst z1 z2
      refine ⟨c, by omega, ?_⟩
      rw [us]
      exact ti_uniq m.2.2.2.1 m.2.2.2.2.1 m.2.2.2.2.2 m2.2.2.2.2.1 m2.2.2.2.2.2
theorem yl_up (h : yl_ A B C T i i c L) : yl_ A B C T (i + 1) 0 c L := by
  obtain ⟨h1, h2, h3⟩ := h
  refine ⟨fun a ha => ?_, h2, fun i' j' hf => h3 i' j' (bf_n hf)⟩
  obtain ⟨i', j', hf, m'⟩ := h1 a ha
  exact ⟨i', j', by unfold bf_ at *; omega, m'⟩
end
section
variable {A B C : Nat → Int} {n : Nat}
variable {g_count g_p g_q g_x g_y g_down g_bestX g_bestY g_bestDown : Int32} {a_la a_lb a_lc : Nat → Int32}
theorem ye_in {post : Int32 → SY → Prop} {J20 : Int32 → Int32 → Int32 → Int32 → Int32 → Int32 → Int32 → Int32 → Int32 → Int32 → (Nat → Int32) → (Nat → Int32) → (Nat → Int32) → Prop} {i j k : Nat} {u v dd : Int}
    (hbb : bb_ A B C) (hA : tb_ a_la A) (hB : tb_ a_lb B) (hC : tb_ a_lc C) (hn : n ≤ 10) (hi : i < 14) (hj : j < i) (hk : k ≤ i) (bu : bo_ 1782 u) (bv : bo_ 1782 v) (bd : bo_ 162 dd) (hd : 0 < dd)
    (K : ∀ (s1 s2 s3 : Int32), (∀ i' j', bf_ (k + 1) 0 i' j' → bf_ i j i' j' → ∀ x y d, me_ A B C (yT_ n 99) i' j' x y d → ¬ eq_ x y d u v dd) → J20 (nI (k + 1)) (nI n) g_p g_q s1 s2 s3 g_bestX g_bestY g_bestDown a_la a_lb a_lc)
    (H1 : ∀ (s1 s2 s3 : Int32), (∃ i' j' x y d, bf_ i j i' j' ∧ me_ A B C (yT_ n 99) i' j' x y d ∧ eq_ x y d u v dd) → post 1 (nI n, g_p, g_q, s1, s2, s3, g_bestX, g_bestY, g_bestDown, a_la, a_lb, a_lc)) :
    ∀ (e l fu : Nat) (s1 s2 s3 : Int32), l + e = k → e < fu → (∀ i' j', bf_ k l i' j' → bf_ i j i' j' → ∀ x y d, me_ A B C (yT_ n 99) i' j' x y d → ¬ eq_ x y d u v dd) →
      wY_earlier_29 post J20 (nI i) (nI j) (zI u) (zI v) (zI dd) (nI k) fu (nI l) (nI n) g_p g_q s1 s2 s3 g_bestX g_bestY g_bestDown a_la a_lb a_lc := by
  intro e
  induction e with
  | zero =>
    intro l fu s1 s2 s3 hl hf I
    obtain ⟨fu, rfl⟩ : ∃ n', fu = n' + 1 := ⟨fu - 1, by omega⟩
    have e : l = k := by omega
    subst e
    exact br_t (nI_le (by omega) (by omega)) (nm_r (nI_1 l) (K _ _ _ (fun i' j' hf => I i' j' (bf_n hf))))
  | succ e ih =>
    intro l fu s1 s2 s3 hl hf I
    obtain ⟨fu, rfl⟩ : ∃ n', fu = n' + 1 := ⟨fu - 1, by omega⟩
    have s48 : bf_ i j k l → wY_earlier_48 post J20 (wY_earlier_29 post J20 (nI i) (nI j) (zI u) (zI v) (zI dd) (nI k) fu) (nI i) (nI j) (zI u) (zI v) (zI dd) (nI k) (nI l) (nI n) g_p g_q s1 s2 s3 g_bestX g_bestY g_bestDown a_la a_lb a_lc := by
      intro hb
      refine br_f (by decide) ?_
      refine ym_ hbb hA hB hC hn ng_ov (by omega) (by omega) (fun x y d m b1 b2 b3 => ?_) (fun t1 t2 t3 m => ?_)
      · refine br_f (by decide) ?_
        have q1 := zi_eq (a := x * dd) (b := u * d) (bo_le (bo_mul b1 bd) (by decide)) (bo_le (bo_mul bu b3) (by decide))
        have q2 := zi_eq (a := y * dd) (b := v * d) (bo_le (bo_mul b2 bd) (by decide)) (bo_le (bo_mul bv b3) (by decide))
        rw [zi_mul, zi_mul, zi_mul, zi_mul]
        have go : ¬ eq_ x y d u v dd → ∀ y2 : Int32, y2 = nI l + 1 → wY_earlier_29 post J20 (nI i) (nI j) (zI u) (zI v) (zI dd) (nI k) fu y2 (nI n) g_p g_q (zI x) (zI y) (zI d) g_bestX g_bestY g_bestDown a_la a_lb a_lc := by
          intro ne
          refine nm_r (nI_1 l) (ih (l + 1) fu _ _ _ (by omega) (by omega) ?_)
          intro i' j' hf hg x' y' d' m' e'
          rcases bf_s hf with w | ⟨w1, w2⟩
          · exact I i' j' w hg x' y' d' m' e'
          · subst w1 w2
            exact ne (eq_trans m'.1.1 (ti_uniq m.2.2.2.1 m.2.2.2.2.1 m.2.2.2.2.2 m'.2.2.2.2.1 m'.2.2.2.2.2) e')
        by_cases z1 : x * dd = u * d
        · refine br_t (q1.mpr z1) ?_
          by_cases z2 : y * dd = v * d
          · exact br_t (q2.mpr z2) (H1 _ _ _ ⟨k, l, x, y, d, hb, m, z1, z2⟩)
          · exact br_f (fun w => z2 (q2.mp w)) (go (fun w => z2 w.2))
        · exact br_f (fun w => z1 (q1.mp w)) (go (fun w => z1 w.1))
      · refine br_t rfl (nm_r (nI_1 l) (ih (l + 1) fu _ _ _ (by omega) (by omega) ?_))
        intro i' j' hf hg x' y' d' m' e'
        rcases bf_s hf with w | ⟨w1, w2⟩
        · exact I i' j' w hg x' y' d' m' e'
        · subst w1 w2
          exact m x' y' d' m'
    refine br_f (nI_ge (by omega) (by omega)) ?_
    by_cases z : k < i
    · exact br_t (nI_lt z (by omega)) (s48 (by unfold bf_; omega))
    · refine br_f (nI_nlt (by omega) (by omega)) ?_
      by_cases z2 : j ≤ l
      · refine br_t (nI_le z2 (by omega)) (br_t rfl (nm_r (nI_1 l) (ih (l + 1) fu _ _ _ (by omega) (by omega) ?_)))
        intro i' j' hf hg x' y' d' m' e'
        rcases bf_s hf with w | ⟨w1, w2⟩
        · exact I i' j' w hg x' y' d' m' e'
        · subst w1 w2
          unfold bf_ at hg
          omega
      · exact br_f (nI_ge (by omega) (by omega)) (s48 (by unfold bf_; omega))
theorem ye_out {post : Int32 → SY → Prop} {i j : Nat} {u v dd : Int}
    (hbb : bb_ A B C) (hA : tb_ a_la A) (hB : tb_ a_lb B) (hC : tb_ a_lc C) (hn : n ≤ 10) (hi : i < 14) (hj : j < i) (bu : bo_ 1782 u) (bv : bo_ 1782 v) (bd : bo_ 162 dd) (hd : 0 < dd)
    (H0 : ∀ (s1 s2 s3 : Int32), (∀ i' j', bf_ i j i' j' → ∀ x y d, me_ A B C (yT_ n 99) i' j' x y d → ¬ eq_ x y d u v dd) → post 0 (nI n, g_p, g_q, s1, s2, s3, g_bestX, g_bestY, g_bestDown, a_la, a_lb, a_lc))
    (H1 : ∀ (s1 s2 s3 : Int32), (∃ i' j' x y d, bf_ i j i' j' ∧ me_ A B C (yT_ n 99) i' j' x y d ∧ eq_ x y d u v dd) → post 1 (nI n, g_p, g_q, s1, s2, s3, g_bestX, g_bestY, g_bestDown, a_la, a_lb, a_lc)) :
    ∀ (e k fu : Nat) (s1 s2 s3 : Int32), k + e = i + 1 → e < fu → (∀ i' j', bf_ k 0 i' j' → bf_ i j i' j' → ∀ x y d, me_ A B C (yT_ n 99) i' j' x y d → ¬ eq_ x y d u v dd) →
      wY_earlier_20 post (nI i) (nI j) (zI u) (zI v) (zI dd) fu (nI k) (nI n) g_p g_q s1 s2 s3 g_bestX g_bestY g_bestDown a_la a_lb a_lc := by
  intro e
  induction e with
  | zero =>
    intro k fu s1 s2 s3 hk hf I
    obtain ⟨fu, rfl⟩ : ∃ n', fu = n' + 1 := ⟨fu - 1, by omega⟩
    have e : k = i + 1 := by omega
    subst e
    exact br_t (nI_lt (by omega) (by omega)) (H0 _ _ _ (fun i' j' hg => I i' j' (by unfold bf_ at *; omega) hg))
  | succ e ih =>
    intro k fu s1 s2 s3 hk hf I
    obtain ⟨fu, rfl⟩ : ∃ n', fu = n' + 1 := ⟨fu - 1, by omega⟩
    refine br_f (nI_nlt (by omega) (by omega)) ⟨k + 1, ?_⟩
    exact ye_in hbb hA hB hC hn hi hj (by omega) bu bv bd hd (fun s1 s2 s3 I' => ih (k + 1) fu s1 s2 s3 (by omega) (by omega) I') H1 k 0 (k + 1) s1 s2 s3 (by omega) (by omega) I
theorem ye_ {post : Int32 → SY → Prop} {i j : Nat} {u v dd : Int}
    (hbb : bb_ A B C) (hA : tb_ a_la A) (hB : tb_ a_lb B) (hC : tb_ a_lc C) (hn : n ≤ 10) (hi : i < 14) (hj : j < i) (bu : bo_ 1782 u) (bv : bo_ 1782 v) (bd : bo_ 162 dd) (hd : 0 < dd)
    (H0 : ∀ (s1 s2 s3 : Int32), (∀ i' j', bf_ i j i' j' → ∀ x y d, me_ A B C (yT_ n 99) i' j' x y d → ¬ eq_ x y d u v dd) → post 0 (nI n, g_p, g_q, s1, s2, s3, g_bestX, g_bestY, g_bestDown, a_la, a_lb, a_lc))
    (H1 : ∀ (s1 s2 s3 : Int32), (∃ i' j' x y d, bf_ i j i' j' ∧ me_ A B C (yT_ n 99) i' j' x y d ∧ eq_ x y d u v dd) → post 1 (nI n, g_p, g_q, s1, s2, s3, g_bestX, g_bestY, g_bestDown, a_la, a_lb, a_lc)) :
    wpY_earlier post (nI n, g_p, g_q, zI u, zI v, zI dd, g_bestX, g_bestY, g_bestDown, a_la, a_lb, a_lc) (nI i) (nI j) :=
  ⟨i + 2, ye_out hbb hA hB hC hn hi hj bu bv bd hd H0 H1 (i + 1) 0 (i + 2) _ _ _ (by omega) (by omega) (fun i' j' hf => by unfold bf_ at hf; omega)⟩
theorem yk_in {post : Int32 → SY → Prop} {J4 : Int32 → Int32 → Int32 → Int32 → Int32 → Int32 → Int32 → Int32 → Int32 → Int32 → Int32 → (Nat → Int32) → (Nat → Int32) → (Nat → Int32) → Prop} {i : Nat}
    (hbb : bb_ A B C) (hA : tb_ a_la A) (hB : tb_ a_lb B) (hC : tb_ a_lc C) (hn : n ≤ 10) (hi : i < 14)
    (K : ∀ (c : Nat) (L : Nat → Int × Int × Int) (s1 s2 s3 : Int32), yl_ A B C (yT_ n 99) (i + 1) 0 c L → J4 (nI c) (nI (i + 1)) (nI n) g_p g_q s1 s2 s3 g_bestX g_bestY g_bestDown a_la a_lb a_lc) :
    ∀ (e j fu c : Nat) (L : Nat → Int × Int × Int) (s1 s2 s3 : Int32), j + e = i → e < fu → yl_ A B C (yT_ n 99) i j c L →
      wY_corners_12 post J4 (nI i) fu (nI c) (nI j) (nI n) g_p g_q s1 s2 s3 g_bestX g_bestY g_bestDown a_la a_lb a_lc := by
  intro e
  induction e with
  | zero =>
    intro j fu c L s1 s2 s3 hj hf I
    obtain ⟨fu, rfl⟩ : ∃ n', fu = n' + 1 := ⟨fu - 1, by omega⟩
    have e : j = i := by omega
    subst e
    exact br_t (nI_le (by omega) (by omega)) (nm_r (nI_1 j) (K _ _ _ _ _ (yl_up I)))
  | succ e ih =>
    intro j fu c L s1 s2 s3 hj hf I
    obtain ⟨fu, rfl⟩ : ∃ n', fu = n' + 1 := ⟨fu - 1, by omega⟩
    refine br_f (nI_ge (by omega) (by omega)) ?_
    refine ym_ hbb hA hB hC hn ng_ov hi (by omega) (fun x y d m b1 b2 b3 => ?_) (fun t1 t2 t3 m => ?_)
    · refine br_f (by decide) ?_
      refine ye_ hbb hA hB hC hn hi (by omega) b1 b2 b3 m.1.1 (fun t1 t2 t3 g => ?_) (fun t1 t2 t3 g => ?_)
      · exact br_t rfl (nm_r (nI_1 c) (nm_r (nI_1 j) (ih (j + 1) fu (c + 1) _ _ _ _ (by omega) (by omega) (yl_new I (by omega) m g))))
      · exact br_f (by decide) (nm_r (nI_1 j) (ih (j + 1) fu c L _ _ _ (by omega) (by omega) (yl_old I m g)))
    · exact br_t rfl (nm_r (nI_1 j) (ih (j + 1) fu c L _ _ _ (by omega) (by omega) (yl_no I m)))
theorem yk_out {post : Int32 → SY → Prop}
    (hbb : bb_ A B C) (hA : tb_ a_la A) (hB : tb_ a_lb B) (hC : tb_ a_lc C) (hn : n ≤ 10)
    (H : ∀ (c : Nat) (L : Nat → Int × Int × Int) (s1 s2 s3 : Int32), yl_ A B C (yT_ n 99) 14 0 c L → post (nI c) (nI n, g_p, g_q, s1, s2, s3, g_bestX, g_bestY, g_bestDown, a_la, a_lb, a_lc)) :
    ∀ (e i fu c : Nat) (L : Nat → Int × Int × Int) (s1 s2 s3 : Int32), i + e = 14 → e < fu → yl_ A B C (yT_ n 99) i 0 c L →
      wY_corners_4 post fu (nI c) (nI i) (nI n) g_p g_q s1 s2 s3 g_bestX g_bestY g_bestDown a_la a_lb a_lc := by
  intro e
  induction e with
  | zero =>
    intro i fu c L s1 s2 s3 hi hf I
    obtain ⟨fu, rfl⟩ : ∃ n', fu = n' + 1 := ⟨fu - 1, by omega⟩
    have e : i = 14 := by omega
    subst e
    exact br_t (nI_le (a := 14) (b := 14) (by decide) (by decide)) (H _ _ _ _ _ I)
  | succ e ih =>
    intro i fu c L s1 s2 s3 hi hf I
    obtain ⟨fu, rfl⟩ : ∃ n', fu = n' + 1 := ⟨fu - 1, by omega⟩
    refine br_f (nI_ge (b := 14) (by omega) (by decide)) ⟨i + 1, ?_⟩
    exact yk_in hbb hA hB hC hn (by omega) (fun c L s1 s2 s3 I' => ih (i + 1) fu c L s1 s2 s3 (by omega) (by omega) I') i 0 (i + 1) c L s1 s2 s3 (by omega) (by omega) I
theorem yk_ {post : Int32 → SY → Prop}
    (hbb : bb_ A B C) (hA : tb_ a_la A) (hB : tb_ a_lb B) (hC : tb_ a_lc C) (hn : n ≤ 10)
    (H : ∀ (c : Nat) (L : Nat → Int × Int × Int) (s1 s2 s3 : Int32), yl_ A B C (yT_ n 99) 14 0 c L → post (nI c) (nI n, g_p, g_q, s1, s2, s3, g_bestX, g_bestY, g_bestDown, a_la, a_lb, a_lc)) : wpY_corners post (nI n, g_p, g_q, g_x, g_y, g_down, g_bestX, g_bestY, g_bestDown, a_la, a_lb, a_lc) :=
  ⟨15, yk_out hbb hA hB hC hn H 14 0 15 0 (fun _ => (0, 0, 0)) _ _ _ (by omega) (by omega) ⟨fun a ha => absurd ha (Nat.not_lt_zero a), fun a b _ hb => absurd hb (Nat.not_lt_zero b), fun i' j' hf => by unfold bf_ at hf; omega⟩⟩
end
/-- both lists hold every vertex once: they are as long -/
theorem ct_same {A B C : Nat → Int} {n m c : Nat} {V L : Nat → Int × Int × Int} (hn : n ≤ 10) (hP : po_ A B C (ss_ (4 + n) 99) m V) (hL : yl_ (fun i => A (yx_ i)) (fun i => B (yx_ i)) (fun i => C (yx_ i)) (yT_ n 99) 14 0 c L) : c = m := by
  have how : (99 < 10 ∧ (99 : Nat) = 4 + 99) ∨ ((99 : Nat) = 99 ∧ (99 : Nat) = 99) := Or.inr ⟨rfl, rfl⟩
  obtain ⟨l1, l2, l3⟩ := hL
  have lv : ∀ a, a < c → ve_ A B C (ss_ (4 + n) 99) (L a).1 (L a).2.1 (L a).2.2 := fun a ha => by
    obtain ⟨i', j', _, m'⟩ := l1 a ha
    exact me_X hn how m'
  have h1 : c ≤ m := by
    refine pg_hole m c (fun a b => ep_ (V b) (L a)) (fun a ha => ?_) (fun a a' b ha ha' hb e e' => ?_)
    · exact hP.2.1 _ _ _ (lv a ha)
    · have ee : ep_ (L a) (L a') := eq_trans (hP.1 b hb).2.1.1 (eq_symm e) e'
      rcases Nat.lt_trichotomy a a' with z | z | z
      · exact absurd ee (l2 a a' z ha')
      · exact z
      · exact absurd (eq_symm ee) (l2 a' a z ha)
  have h2 : m ≤ c := by
    refine pg_hole c m (fun a b => ep_ (L b) (V a)) (fun a ha => ?_) (fun a a' b ha ha' hb e e' => ?_)
    · obtain ⟨i, j, z1, z2, m'⟩ := ve_Y hn how (hP.1 a ha).2
      exact l3 i j ⟨z1, Or.inl z2⟩ _ _ _ m'
    · have ee : ep_ (V a) (V a') := eq_trans (lv b hb).1.1 (eq_symm e) e'
      obtain ⟨z1, z2, z3⟩ := pr_uniq (hP.1 a ha).1 (hP.1 a' ha').1 ee
      have ev : V a = V a' := Prod.ext z1 (Prod.ext z2 z3)
      rcases Nat.lt_trichotomy a a' with z | z | z
      · exact absurd ev (hP.2.2.1 a a' z ha')
      · exact z
      · exact absurd ev.symm (hP.2.2.1 a' a z ha)
  omega
theorem i_vc_corners {k : Nat} {u : SX} {v : SY} (I : i_Rel k u v) (hk : k + 4 ≤ 2048) : wpX_corners (fun r u' => wpY_corners (fun r' v' => r' = r ∧ i_Rel (k + 4) u' v') v) u := by
  obtain ⟨f_count, f_p, f_q, f_px, f_py, f_pd, f_lowTop, f_lowBottom, f_highTop, f_highBottom, f_corners, f_made, a_as, a_bs, a_cs, a_cornerX, a_cornerY, a_cornerD, a_newX, a_newY, a_newD⟩ := u
  obtain ⟨g_count, g_p, g_q, g_x, g_y, g_down, g_bestX, g_bestY, g_bestDown, a_la, a_lb, a_lc⟩ := v
  obtain ⟨A, B, C, n, p, q, ⟨hbb, hsq, hn, bp, bq⟩, ⟨rfl, rfl, rfl, rfl, rfl, rfl⟩, ⟨x1, x2, x3⟩, y1, y2, y3⟩ := I
  have same : ri_ (nI n) (zI p) (zI q) a_as a_bs a_cs (nI n) (zI p) (zI q) a_la a_lb a_lc := ⟨A, B, C, n, p, q, ⟨hbb, hsq, hn, bp, bq⟩, ⟨rfl, rfl, rfl, rfl, rfl, rfl⟩, ⟨x1, x2, x3⟩, y1, y2, y3⟩
  refine xk_ hbb hsq x1 x2 x3 hn (fun m V f_made a_cornerX a_cornerY a_cornerD a_newX a_newY a_newD hP => ?_)
  refine yk_ (bb_yx hbb) y1 y2 y3 hn (fun c L s1 s2 s3 hL => ⟨?_, same⟩)
  rw [ct_same hn hP hL]
end

section
theorem pk_us {f : Nat → Int32} {k : Nat} {x : Int32} : upd f k x k = x := if_pos rfl
theorem pk_un {f : Nat → Int32} {k j : Nat} {x : Int32} (h : j ≠ k) : upd f k x j = f j := if_neg h
theorem pk_sub {a b : Nat} (h : b ≤ a) : nI a - nI b = nI (a - b) := by
  obtain ⟨c, rfl⟩ : ∃ c, a = c + b := ⟨a - b, by omega⟩
  rw [← nI_add, Int32.add_sub_cancel, Nat.add_sub_cancel]
theorem pk_m1 (n : Nat) : nI (n + 1) + (-1) = nI n := by
  rw [← nI_1, Int32.add_assoc, show (1 : Int32) + (-1) = 0 from rfl, Int32.add_zero]
theorem pk_mul (a b : Nat) : nI a * nI b = nI (a * b) := (Int32.ofNat_mul a b).symm
theorem pk_div {a d : Nat} (ha : a < 2 ^ 31) (h0 : 0 < d) (hd : d < 2 ^ 31) : nI a / nI d = nI (a / d) := by
  apply Int32.toInt_inj.mp
  rw [lg_idiv_nonneg (by rw [nI_toInt ha]; omega) (by rw [nI_toInt hd]; omega), nI_toInt ha, nI_toInt hd, nI_toInt (Nat.lt_of_le_of_lt (Nat.div_le_self a d) ha)]
  first | rfl | exact (Int.natCast_ediv _ _).symm
theorem pk_rem {a d : Nat} (ha : a < 2 ^ 31) (h0 : 0 < d) (hd : d < 2 ^ 31) : nI a - nI a / nI d * nI d = nI (a % d) := by
  rw [pk_div ha h0 hd, pk_mul, pk_sub (Nat.div_mul_le_self a d)]
  exact congrArg nI (by have := Nat.div_add_mod' a d; omega)
theorem pk_sub_toInt {a b : Nat} (ha : a < 2 ^ 30) (hb : b < 2 ^ 30) : (nI a - nI b).toInt = (a : Int) - b := by
  rw [Int32.toInt_sub, nI_toInt (by omega), nI_toInt (by omega)]
  exact Int.bmod_eq_of_le (by omega) (by omega)
theorem pk_ix (x : Int32) {n : Nat} (hn : n < 2 ^ 31) : x < 0 ∨ nI n ≤ x ∨ ∃ j : Nat, j < n ∧ x = nI j := by
  by_cases h : x < 0
  · exact Or.inl h
  · obtain ⟨j, hj, rfl⟩ := nI_of h
    by_cases h2 : j < n
    · exact Or.inr (Or.inr ⟨j, h2, rfl⟩)
    · exact Or.inr (Or.inl (nI_le (by omega) hj))
theorem pk_le {x y : Int32} {A B : Prop} (a b : Nat) (f : a ≤ b → A) (g : b < a → B) (hx : x = nI a := by rfl) (hy : y = nI b := by rfl) (ha : a < 2 ^ 31 := by omega) (hb : b < 2 ^ 31 := by omega) : (x ≤ y → A) ∧ (¬ x ≤ y → B) := by
  subst hx hy
  rw [nI_leI ha hb]
  exact ⟨f, fun z => g (by omega)⟩
theorem pk_lt {x y : Int32} {A B : Prop} (a b : Nat) (f : a < b → A) (g : b ≤ a → B) (hx : x = nI a := by rfl) (hy : y = nI b := by rfl) (ha : a < 2 ^ 31 := by omega) (hb : b < 2 ^ 31 := by omega) : (x < y → A) ∧ (¬ x < y → B) := by
  subst hx hy
  rw [nI_ltI ha hb]
  exact ⟨f, fun z => g (by omega)⟩
theorem pk_eq {x y : Int32} {A B : Prop} (a b : Nat) (f : a = b → A) (g : a ≠ b → B) (hx : x = nI a := by rfl) (hy : y = nI b := by rfl) (ha : a < 2 ^ 31 := by omega) (hb : b < 2 ^ 31 := by omega) : (x = y → A) ∧ (¬ x = y → B) := by
  subst hx hy
  rw [nI_eq ha hb]
  exact ⟨f, g⟩
theorem pk_in {x : Int32} (n N : Nat) (h : n < N) (hx : x = nI n := by rfl) (hN : N < 2 ^ 31 := by omega) : vp_in x N := by
  subst hx
  exact vp_in_nI h hN
theorem pk_cl {x : Int32} (n : Nat) (hx : x = nI n := by rfl) (h : n < 2 ^ 31 := by omega) : x.toNatClampNeg = n := by
  subst hx
  exact nI_clamp h
theorem pk_tn {n : Nat} (h : n < 2 ^ 32) : (nI n).toBitVec.toNat = n := Nat.mod_eq_of_lt h
theorem pk_and (x : Int32) {m : Int32} (k : Nat) (hm : m.toBitVec.toNat = 2 ^ k - 1) : x &&& m = nI (x.toBitVec.toNat % 2 ^ k) := by
  apply Int32.toBitVec_inj.mp
  apply BitVec.eq_of_toNat_eq
  rw [Int32.toBitVec_and, BitVec.toNat_and, hm, Nat.and_two_pow_sub_one_eq_mod]
  show _ = (BitVec.ofNat 32 _).toNat
  rw [BitVec.toNat_ofNat]
  exact (Nat.mod_eq_of_lt (Nat.lt_of_le_of_lt (Nat.mod_le _ _) x.toBitVec.isLt)).symm
theorem pk_andN {n : Nat} (h : n < 2 ^ 32) {m : Int32} (k : Nat) (hm : m.toBitVec.toNat = 2 ^ k - 1) : nI n &&& m = nI (n % 2 ^ k) := by
  rw [pk_and _ k hm, pk_tn h]
theorem pk_shr (a s : Int32) (k : Nat) (hs : (s.toBitVec.smod 32).toNat = k) : (a >>> s).toInt = a.toInt >>> k := by
  show (a.toBitVec.sshiftRight (s.toBitVec.smod 32).toNat).toInt = _
  rw [hs, BitVec.toInt_sshiftRight]
  rfl
theorem pk_shrN {n : Nat} (h : n < 2 ^ 31) (s : Int32) (k : Nat) (hs : (s.toBitVec.smod 32).toNat = k) : nI n >>> s = nI (n / 2 ^ k) := by
  apply Int32.toInt_inj.mp
  have h2 : n / 2 ^ k ≤ n := Nat.div_le_self _ _
  rw [pk_shr _ _ k hs, nI_toInt h, nI_toInt (by omega), Int.shiftRight_eq_div_pow]
  rfl
theorem pk_vb (z : Int32) : vp_nar .byte z.toInt8.toInt32 = z.toInt8.toInt32 := by rw [vp_nar_byte]; simp
def bt (x : Int32) (i : Nat) : Bool := x.toBitVec.getLsbD i
theorem b_ext {x y : Int32} (h : ∀ i, i < 32 → bt x i = bt y i) : x = y := Int32.toBitVec_inj.mp (BitVec.eq_of_getLsbD_eq (fun i hi => h i hi))
theorem b_or (x y : Int32) (i : Nat) : bt (x ||| y) i = (bt x i || bt y i) := by unfold bt; rw [Int32.toBitVec_or, BitVec.getLsbD_or]
theorem b_and (x y : Int32) (i : Nat) : bt (x &&& y) i = (bt x i && bt y i) := by unfold bt; rw [Int32.toBitVec_and, BitVec.getLsbD_and]
theorem b_xor (x y : Int32) (i : Nat) : bt (x ^^^ y) i = (bt x i ^^ bt y i) := by unfold bt; rw [Int32.toBitVec_xor, BitVec.getLsbD_xor]
theorem b_big {x : Int32} {i : Nat} (h : 32 ≤ i) : bt x i = false := BitVec.getLsbD_of_ge _ _ h
theorem b_m1 : ∀ i, i < 32 → bt (-1) i = true := by decide +kernel
theorem b_0 (i : Nat) : bt 0 i = false := BitVec.getLsbD_zero
theorem s_l : ∀ n, n < 32 → ((nI n &&& 31).toBitVec.smod 32).toNat = n := by decide +kernel
theorem b_shl (n : Nat) (hn : n < 32) (x : Int32) {i : Nat} (hi : i < 32) : bt (x <<< (nI n &&& 31)) i = (decide (n ≤ i) && bt x (i - n)) := by
  unfold bt
  rw [Int32.toBitVec_shiftLeft]
  show (x.toBitVec <<< ((nI n &&& 31).toBitVec.smod 32).toNat).getLsbD i = _
  rw [s_l n hn, BitVec.getLsbD_shiftLeft]
  rcases Nat.lt_or_ge i n with h | h
  · simp [h, Nat.not_le.mpr h]
  · simp [hi, h, Nat.not_lt.mpr h]
theorem b_sshr (n : Nat) (hn : n < 32) (x : Int32) {i : Nat} (hi : i < 32) : bt (x >>> (nI n &&& 31)) i = if n + i < 32 then bt x (n + i) else bt x 31 := by
  unfold bt
  rw [Int32.toBitVec_shiftRight]
  show (x.toBitVec.sshiftRight ((nI n &&& 31).toBitVec.smod 32).toNat).getLsbD i = _
  rw [s_l n hn, BitVec.getLsbD_sshiftRight, BitVec.msb_eq_getLsbD_last]
  simp [hi]
theorem nx_and (a b : Nat) : nI a &&& nI b = nI (a &&& b) := by
  apply Int32.toBitVec_inj.1
  show BitVec.ofNat 32 a &&& BitVec.ofNat 32 b = BitVec.ofNat 32 (a &&& b)
  apply BitVec.eq_of_getLsbD_eq
  intro i hi
  simp [hi]
theorem wb_of32 (x : Int32) : ∃ n, n < 2 ^ 32 ∧ x = nI n := ⟨x.toBitVec.toNat, x.toBitVec.isLt, Int32.toBitVec_inj.mp (by show _ = BitVec.ofNat 32 _; simp)⟩
end
section
def rz_i (z : Int) : Int32 := Int32.ofInt z
theorem rz_add (a b : Int) : rz_i a + rz_i b = rz_i (a + b) := (Int32.ofInt_add a b).symm
theorem rz_sub (a b : Int) : rz_i a - rz_i b = rz_i (a - b) := (Int32.ofInt_sub a b).symm
theorem rz_mul (a b : Int) : rz_i a * rz_i b = rz_i (a * b) := (Int32.ofInt_mul a b).symm
theorem rz_neg (a : Int) : -rz_i a = rz_i (-a) := (Int32.ofInt_neg a).symm
theorem rz_p1 (a : Int) : rz_i a + 1 = rz_i (a + 1) := rz_add a 1
theorem rz_p2 (a : Int) : rz_i a + 2 = rz_i (a + 2) := rz_add a 2
theorem rz_m1 (a : Int) : rz_i a + (-1) = rz_i (a - 1) := by
  rw [show (-1 : Int32) = rz_i (-1) from rfl, rz_add]
  exact congrArg rz_i (by omega)
theorem rz_t2 (a : Int) : 2 * rz_i a = rz_i (2 * a) := rz_mul 2 a
theorem rz_nI (n : Nat) : nI n = rz_i n := Int32.ofInt_eq_ofNat.symm
theorem rz_of (x : Int32) : x = rz_i x.toInt := (Int32.ofInt_toInt x).symm
theorem rz_toInt {z : Int} (h : -2147483648 ≤ z ∧ z < 2147483648) : (rz_i z).toInt = z := Int32.toInt_ofInt_of_le (by omega) (by omega)
theorem rz_leI {a b : Int} (ha : -2147483648 ≤ a ∧ a < 2147483648) (hb : -2147483648 ≤ b ∧ b < 2147483648) : rz_i a ≤ rz_i b ↔ a ≤ b := by
  rw [Int32.le_iff_toInt_le, rz_toInt ha, rz_toInt hb]
theorem rz_ltI {a b : Int} (ha : -2147483648 ≤ a ∧ a < 2147483648) (hb : -2147483648 ≤ b ∧ b < 2147483648) : rz_i a < rz_i b ↔ a < b := by
  rw [Int32.lt_iff_toInt_lt, rz_toInt ha, rz_toInt hb]
theorem rz_eqI {a b : Int} (ha : -2147483648 ≤ a ∧ a < 2147483648) (hb : -2147483648 ≤ b ∧ b < 2147483648) : rz_i a = rz_i b ↔ a = b := by
  rw [← Int32.toInt_inj, rz_toInt ha, rz_toInt hb]
theorem rz_le {x y : Int32} {A B : Prop} (a b : Int) (f : a ≤ b → A) (g : b < a → B) (hx : x = rz_i a := by rfl) (hy : y = rz_i b := by rfl) (ha : -2147483648 ≤ a ∧ a < 2147483648 := by omega) (hb : -2147483648 ≤ b ∧ b < 2147483648 := by omega) : (x ≤ y → A) ∧ (¬ x ≤ y → B) := by
  subst hx hy
  rw [rz_leI ha hb]
  exact ⟨f, fun z => g (by omega)⟩
theorem rz_lt {x y : Int32} {A B : Prop} (a b : Int) (f : a < b → A) (g : b ≤ a → B) (hx : x = rz_i a := by rfl) (hy : y = rz_i b := by rfl) (ha : -2147483648 ≤ a ∧ a < 2147483648 := by omega) (hb : -2147483648 ≤ b ∧ b < 2147483648 := by omega) : (x < y → A) ∧ (¬ x < y → B) := by
  subst hx hy
  rw [rz_ltI ha hb]
  exact ⟨f, fun z => g (by omega)⟩
theorem rz_eq {x y : Int32} {A B : Prop} (a b : Int) (f : a = b → A) (g : a ≠ b → B) (hx : x = rz_i a := by rfl) (hy : y = rz_i b := by rfl) (ha : -2147483648 ≤ a ∧ a < 2147483648 := by omega) (hb : -2147483648 ≤ b ∧ b < 2147483648 := by omega) : (x = y → A) ∧ (¬ x = y → B) := by
  subst hx hy
  rw [rz_eqI ha hb]
  exact ⟨f, g⟩
theorem rz_cl {z : Int} (h0 : 0 ≤ z) (h : z < 2147483648) : (rz_i z).toNatClampNeg = z.toNat := by
  obtain ⟨n, rfl⟩ := Int.eq_ofNat_of_zero_le h0
  rw [← rz_nI, nI_clamp (by omega)]
  rfl
theorem rz_in {z : Int} {N : Nat} (h0 : 0 ≤ z) (h : z < N) (hN : N < 2147483648) : vp_in (rz_i z) N := by
  rw [vp_in_iff, rz_toInt (by omega)]
  exact ⟨h0, h⟩
theorem rz_mb {x y A B : Int} (hx : -A ≤ x ∧ x ≤ A) (hy : -B ≤ y ∧ y ≤ B) : -(A * B) ≤ x * y ∧ x * y ≤ A * B := by
  have hA : 0 ≤ A := by omega
  have hB : 0 ≤ B := by omega
  have e1 : 0 ≤ (A - x) * (B + y) := Int.mul_nonneg (by omega) (by omega)
  have e2 : 0 ≤ (A + x) * (B - y) := Int.mul_nonneg (by omega) (by omega)
  have e3 : 0 ≤ (A - x) * (B - y) := Int.mul_nonneg (by omega) (by omega)
  have e4 : 0 ≤ (A + x) * (B + y) := Int.mul_nonneg (by omega) (by omega)
  simp only [Int.sub_mul, Int.add_mul, Int.mul_sub, Int.mul_add] at e1 e2 e3 e4
  omega
theorem rz_mm {a b c d : Int} (h0 : 0 ≤ a) (h1 : a ≤ b) (h2 : 0 ≤ c) (h3 : c ≤ d) : a * c ≤ b * d := Int.mul_le_mul h1 h3 h2 (by omega)
def rb_n : Bool → Nat
  | true => 1
  | false => 0
def rb_c (p : Nat → Bool) : Nat → Nat
  | 0 => 0
  | n + 1 => rb_c p n + rb_n (p n)
theorem rb_n1 (b : Bool) : rb_n b ≤ 1 := by cases b <;> decide
theorem rb_le (p : Nat → Bool) : ∀ n, rb_c p n ≤ n
  | 0 => Nat.le_refl 0
  | n + 1 => by
    have h := rb_le p n
    have h1 := rb_n1 (p n)
    show rb_c p n + rb_n (p n) ≤ n + 1
    omega
theorem rb_congr {p q : Nat → Bool} : ∀ n, (∀ k, k < n → p k = q k) → rb_c p n = rb_c q n
  | 0, _ => rfl
  | n + 1, h => by
    show rb_c p n + rb_n (p n) = rb_c q n + rb_n (q n)
    rw [rb_congr n (fun k hk => h k (by omega)), h n (by omega)]
theorem rb_mono {p q : Nat → Bool} : ∀ n, (∀ k, k < n → p k = true → q k = true) → rb_c p n ≤ rb_c q n
  | 0, _ => Nat.le_refl 0
  | n + 1, h => by
    show rb_c p n + rb_n (p n) ≤ rb_c q n + rb_n (q n)
    have h1 := rb_mono n (fun k hk => h k (by omega))
    have h2 : rb_n (p n) ≤ rb_n (q n) := by
      have h3 := h n (by omega)
      cases hp : p n
      · exact Nat.zero_le _
      · rw [h3 hp]; exact Nat.le_refl _
    omega
theorem rb_lt {p q : Nat → Bool} : ∀ n, (∀ k, k < n → p k = true → q k = true) → ∀ j, j < n → p j = false → q j = true → rb_c p n + 1 ≤ rb_c q n
  | 0, _, j, hj, _, _ => absurd hj (by omega)
  | n + 1, h, j, hj, hp, hq => by
    show rb_c p n + rb_n (p n) + 1 ≤ rb_c q n + rb_n (q n)
    by_cases e : j = n
    · have h1 := rb_mono n (fun k hk => h k (by omega))
      rw [← e, hp, hq, e]
      show rb_c p n + 0 + 1 ≤ rb_c q n + 1
      omega
    · have h1 := rb_lt n (fun k hk => h k (by omega)) j (by omega) hp hq
      have h2 : rb_n (p n) ≤ rb_n (q n) := by
        have h3 := h n (by omega)
        cases hp : p n
        · exact Nat.zero_le _
        · rw [h3 hp]; exact Nat.le_refl _
      omega
theorem rb_add (p : Nat → Bool) (m : Nat) : ∀ n, rb_c p (m + n) = rb_c p m + rb_c (fun k => p (m + k)) n
  | 0 => rfl
  | n + 1 => by
    show rb_c p (m + n) + rb_n (p (m + n)) = rb_c p m + (rb_c (fun k => p (m + k)) n + rb_n (p (m + n)))
    rw [rb_add p m n]
    omega
theorem rb_front (p : Nat → Bool) (n : Nat) : rb_c p (n + 1) = rb_n (p 0) + rb_c (fun k => p (k + 1)) n := by
  rw [Nat.add_comm n 1, rb_add p 1 n]
  have e : rb_c p 1 = rb_n (p 0) := by
    show 0 + rb_n (p 0) = _
    omega
  rw [e]
  exact congrArg _ (rb_congr n (fun k _ => congrArg p (by omega)))
theorem rb_tail {p : Nat → Bool} (m : Nat) : ∀ n, (∀ k, m ≤ k → p k = false) → rb_c p (m + n) = rb_c p m
  | 0, _ => rfl
  | n + 1, h => by
    show rb_c p (m + n) + rb_n (p (m + n)) = _
    rw [rb_tail m n h, h (m + n) (by omega)]
    rfl
theorem rb_0 {p : Nat → Bool} : ∀ n, (∀ k, k < n → p k = false) → rb_c p n = 0
  | 0, _ => rfl
  | n + 1, h => by
    show rb_c p n + rb_n (p n) = 0
    rw [rb_0 n (fun k hk => h k (by omega)), h n (by omega)]
    rfl
theorem rb_iv : ∀ (p q : Nat → Bool) (n f d : Nat), f + d ≤ n → (∀ k, k < n → (k < f ∨ f + d ≤ k) → q k = p k) → (∀ k, f ≤ k → k < f + d → p k = false ∧ q k = true) → rb_c q n = rb_c p n + d := by
  intro p q n f d
  induction n generalizing d with
  | zero => intro h _ _; have : d = 0 := by omega
            subst this; rfl
  | succ n ih =>
    intro h h1 h2
    show rb_c q n + rb_n (q n) = rb_c p n + rb_n (p n) + d
    by_cases e : f + d = n + 1
    · by_cases e0 : d = 0
      · subst e0
        rw [rb_congr n (fun k hk => h1 k (by omega) (by omega)), h1 n (by omega) (by omega)]
        omega
      · obtain ⟨d', rfl⟩ : ∃ d', d = d' + 1 := ⟨d - 1, by omega⟩
        have hn := h2 n (by omega) (by omega)
        rw [ih d' (by omega) (fun k hk hh => h1 k (by omega) (by omega)) (fun k hk hh => h2 k hk (by omega)), hn.1, hn.2]
        show rb_c p n + d' + 1 = rb_c p n + 0 + (d' + 1)
        omega
    · rw [ih d (by omega) (fun k hk hh => h1 k (by omega) hh) h2, h1 n (by omega) (by omega)]
      omega
theorem rb_pop : ∀ w n : Nat, n < 2 ^ w → n ≠ 0 → rb_c (n &&& (n - 1)).testBit w + 1 = rb_c n.testBit w
  | 0, n, h, h0 => absurd h0 (by have : 2 ^ 0 = 1 := rfl
                                 omega)
  | w + 1, n, h, h0 => by
    have sh : ∀ m : Nat, rb_c m.testBit (w + 1) = rb_n (m.testBit 0) + rb_c (m / 2).testBit w := fun m => by
      rw [rb_front]
      exact congrArg _ (rb_congr w (fun k _ => Nat.testBit_succ m k))
    rw [sh, sh, Nat.and_div_two, Nat.testBit_and, Nat.testBit_zero, Nat.testBit_zero]
    have hp : 2 ^ (w + 1) = 2 * 2 ^ w := by rw [Nat.pow_succ]; omega
    rcases Nat.mod_two_eq_zero_or_one n with e | e
    · have e2 : (n - 1) / 2 = n / 2 - 1 := by omega
      have ih := rb_pop w (n / 2) (by omega) (by omega)
      rw [e2, e, ← ih]
      show rb_n (decide ((0 : Nat) = 1) && _) + _ + 1 = rb_n (decide ((0 : Nat) = 1)) + _
      rw [show decide ((0 : Nat) = 1) = false from rfl, Bool.false_and]
      omega
    · have e2 : (n - 1) / 2 = n / 2 := by omega
      have e3 : (n - 1) % 2 = 0 := by omega
      rw [e2, e, e3, Nat.and_self]
      show rb_n (decide ((1 : Nat) = 1) && decide ((0 : Nat) = 1)) + _ + 1 = rb_n (decide ((1 : Nat) = 1)) + _
      rw [show decide ((0 : Nat) = 1) = false from rfl, show decide ((1 : Nat) = 1) = true from rfl]
      show 0 + _ + 1 = 1 + _
      omega
theorem rb_bt {n i : Nat} (hi : i < 32) : bt (nI n) i = n.testBit i := by
  show (BitVec.ofNat 32 n).getLsbD i = _
  rw [BitVec.getLsbD_ofNat, decide_eq_true hi, Bool.true_and]
theorem rb_ne {n : Nat} (h : n < 2 ^ 32) (e : nI n = 0) : n = 0 := by
  have h1 : (nI n).toBitVec.toNat = (0 : Int32).toBitVec.toNat := congrArg (fun x : Int32 => x.toBitVec.toNat) e
  rw [pk_tn h] at h1
  exact h1
theorem rb_one : ∀ n, n < 32 → ∀ i, i < 32 → bt ((1 : Int32) <<< (nI n &&& 31)) i = decide (i = n) := by decide +kernel
theorem rb_1 (i : Nat) : bt 1 i = decide (i = 0) := by
  rcases Nat.lt_or_ge i 32 with h | h
  · exact (by decide +kernel : ∀ i, i < 32 → bt 1 i = decide (i = 0)) i h
  · rw [b_big h, decide_eq_false (by omega)]
theorem rb_run : ∀ l, l < 24 → ∀ f, f < l + 1 → ∀ i, i < 32 → bt (((1 : Int32) <<< (nI (l + 1) &&& 31)) - ((1 : Int32) <<< (nI f &&& 31))) i = (decide (f ≤ i) && decide (i ≤ l)) := by decide +kernel
theorem rb_whole (i : Nat) : bt 16777215 i = decide (i < 24) := by
  rcases Nat.lt_or_ge i 32 with h | h
  · exact (by decide +kernel : ∀ i, i < 32 → bt 16777215 i = decide (i < 24)) i h
  · rw [b_big h, decide_eq_false (by omega)]
theorem rb_get {x : Int32} {n : Nat} (h : n < 32) : (x >>> (nI n &&& 31)) &&& 1 = if bt x n = true then 1 else 0 := by
  apply b_ext
  intro i hi
  rw [b_and, b_sshr n h x hi, rb_1]
  by_cases e : i = 0
  · subst e
    rw [if_pos (show n + 0 < 32 from h), Nat.add_zero]
    cases bt x n <;> decide
  · rw [decide_eq_false e, Bool.and_false]
    cases bt x n
    · exact (b_0 i).symm
    · show false = bt (if true = true then 1 else 0) i
      rw [if_pos rfl, rb_1, decide_eq_false e]
end
section
section
variable {pm w : Int32} {rows fig rr rf rl : Nat → Int32}
theorem rx_bits_l {post : Int32 → Prop} : ∀ n b x : Nat, x < 2 ^ 32 → rb_c x.testBit 32 < n → post (nI (b + rb_c x.testBit 32)) → wX_bitsIn_4 post pm w rows fig rr rf rl n (nI b) (nI x)
  | 0, _, _, _, h, _ => absurd h (by omega)
  | n + 1, b, x, hx, h, hp => by
    by_cases e : x = 0
    · subst e
      have z : rb_c (Nat.testBit 0) 32 = 0 := rb_0 32 (fun k _ => Nat.zero_testBit k)
      rw [z] at hp
      exact br_t nI_0 hp
    · have hb := rb_pop 32 x hx e
      refine br_f (fun z => e (rb_ne hx z)) (nm_r (e' := nI (x &&& (x - 1))) ?_ (nm_r (nI_1 b) (rx_bits_l n (b + 1) _ ?_ ?_ ?_)))
      · obtain ⟨y, rfl⟩ : ∃ y, x = y + 1 := ⟨x - 1, by omega⟩
        rw [nI_pred, nx_and]
        rfl
      · exact Nat.lt_of_le_of_lt Nat.and_le_left hx
      · omega
      · rw [show b + 1 + rb_c (x &&& (x - 1)).testBit 32 = b + rb_c x.testBit 32 from by omega]
        exact hp
theorem rx_bits {post : Int32 → Prop} (x : Int32) (h : post (nI (rb_c (bt x) 32))) : wpX_bitsIn post (pm, w, rows, fig, rr, rf, rl) x := by
  obtain ⟨n, hn, rfl⟩ := wb_of32 x
  have e : rb_c (bt (nI n)) 32 = rb_c n.testBit 32 := rb_congr 32 (fun k hk => rb_bt hk)
  rw [e] at h
  exact Exists.intro (rb_c n.testBit 32 + 1) (rx_bits_l _ 0 n hn (by omega) (by rw [Nat.zero_add]; exact h))
end
def rs_g (a : Nat → Int32) (k : Nat) : Bool := bt (a (k / 24)) (k % 24)
def rs_H (a : Nat → Int32) : Prop := ∀ y, y < 24 → ∀ i, 24 ≤ i → bt (a y) i = false
def rs_b : Bool → Int32
  | true => 1
  | false => 0
def rs_R (a b : Nat → Int32) : Prop := rs_H a ∧ ∀ k, k < 576 → b k = rs_b (rs_g a k)
theorem rs_gat (a : Nat → Int32) {y x : Nat} (hx : x < 24) : rs_g a (24 * y + x) = bt (a y) x := by
  show bt (a ((24 * y + x) / 24)) ((24 * y + x) % 24) = _
  rw [show (24 * y + x) / 24 = y from by omega, show (24 * y + x) % 24 = x from by omega]
theorem rs_row {a : Nat → Int32} (h : rs_H a) {y : Nat} (hy : y < 24) : rb_c (rs_g a) (24 * (y + 1)) = rb_c (rs_g a) (24 * y) + rb_c (bt (a y)) 32 := by
  have e1 : rb_c (rs_g a) (24 * y + 24) = rb_c (rs_g a) (24 * y) + rb_c (fun k => rs_g a (24 * y + k)) 24 := rb_add _ _ _
  have e2 : rb_c (bt (a y)) (24 + 8) = rb_c (bt (a y)) 24 := rb_tail 24 8 (h y hy)
  have e3 : rb_c (fun k => rs_g a (24 * y + k)) 24 = rb_c (bt (a y)) 24 := rb_congr 24 (fun k hk => rs_gat a hk)
  rw [show 24 * (y + 1) = 24 * y + 24 from by omega, e1, e3, ← e2]
theorem rs_bn (b : Bool) : rs_b b = 0 ↔ b = false := by cases b <;> decide
theorem rs_b_inj {b c : Bool} : rs_b b = rs_b c ↔ b = c := by cases b <;> cases c <;> decide
theorem rs_nar (b : Bool) : vp_nar .boolean (rs_b b) = rs_b b := by cases b <;> rfl
section
variable {pm w : Int32} {rows fig rr rf rl : Nat → Int32}
theorem rx_count_l {post : Int32 → Prop} (h : rs_H rows) (hp : post (nI (rb_c (rs_g rows) 576))) : ∀ n y : Nat, y ≤ 24 → 24 - y < n → wX_count_4 post pm w rows fig rr rf rl n (nI (rb_c (rs_g rows) (24 * y))) (nI y)
  | 0, _, _, hn => absurd hn (by omega)
  | n + 1, y, hy, hn => pk_le 24 y (fun h1 => by
      obtain rfl : y = 24 := by omega
      exact hp) (fun h1 => ⟨pk_in y 24 h1, rx_bits _ (nm_r (e' := nI (rb_c (rs_g rows) (24 * (y + 1)))) (by rw [nI_clamp (n := y) (by omega), nI_add, ← rs_row h h1]) (nm_r (nI_1 y) (rx_count_l h hp n (y + 1) (by omega) (by omega))))⟩)
theorem rx_count {post : Int32 → Prop} (h : rs_H rows) (hp : post (nI (rb_c (rs_g rows) 576))) : wpX_count post (pm, w, rows, fig, rr, rf, rl) :=
  Exists.intro 25 (rx_count_l h hp 25 0 (by omega) (by omega))
end
section
variable {pen : Int32} {set fig : Nat → Int32} {g : Nat → Bool}
theorem ry_count_l {post : Int32 → Prop} (h : ∀ k, k < 576 → set k = rs_b (g k)) (hp : post (nI (rb_c g 576))) : ∀ n k : Nat, k ≤ 576 → 576 - k < n → wY_count_4 post pen set fig n (nI (rb_c g k)) (nI k)
  | 0, _, _, hn => absurd hn (by omega)
  | n + 1, k, hk, hn => pk_le 576 k (fun h1 => by
      obtain rfl : k = 576 := by omega
      exact hp) (fun h1 => ⟨pk_in k 576 h1, by
        have ih := ry_count_l h hp n (k + 1) (by omega) (by omega)
        have e : rb_c g (k + 1) = rb_c g k + rb_n (g k) := rfl
        rw [nI_clamp (n := k) (by omega), h k h1]
        cases hg : g k
        · rw [hg] at e
          rw [e] at ih
          exact br_t rfl (nm_r (nI_1 k) ih)
        · rw [hg] at e
          rw [e] at ih
          exact br_f (by decide) (nm_r (nI_1 _) (nm_r (nI_1 k) ih))⟩)
theorem ry_count {post : Int32 → Prop} (h : ∀ k, k < 576 → set k = rs_b (g k)) (hp : post (nI (rb_c g 576))) : wpY_count post (pen, set, fig) :=
  Exists.intro 577 (ry_count_l h hp 577 0 (by omega) (by omega))
end
def rs_i (pm r f : Int32) : Int32 := if pm = 0 then r ||| f else if pm = 1 then r &&& (f ^^^ (-1)) else r ^^^ f
def rs_ib (pm : Int32) (r f : Bool) : Bool := if pm = 0 then (r || f) else if pm = 1 then (r && !f) else (r ^^ f)
theorem rs_ibt (pm r f : Int32) {i : Nat} (hi : i < 32) : bt (rs_i pm r f) i = rs_ib pm (bt r i) (bt f i) := by
  unfold rs_i rs_ib
  by_cases h0 : pm = 0
  · rw [if_pos h0, if_pos h0, b_or]
  · rw [if_neg h0, if_neg h0]
    by_cases h1 : pm = 1
    · rw [if_pos h1, if_pos h1, b_and, b_xor, b_m1 i hi, Bool.xor_true]
    · rw [if_neg h1, if_neg h1, b_xor]
theorem rs_ib0 (pm : Int32) (r : Bool) : rs_ib pm r false = r := by
  unfold rs_ib
  by_cases h0 : pm = 0
  · rw [if_pos h0, Bool.or_false]
  · rw [if_neg h0]
    by_cases h1 : pm = 1
    · rw [if_pos h1]; cases r <;> rfl
    · rw [if_neg h1]; cases r <;> rfl
def rs_u (F R : Nat → Int32) (i : Nat) : Nat → Int32 := fun j => if j < i then F j else R j
theorem rs_u0 (F R : Nat → Int32) : rs_u F R 0 = R := funext (fun j => if_neg (by omega))
theorem rs_uat (F R : Nat → Int32) (i : Nat) : rs_u F R i i = R i := if_neg (by omega)
theorem rs_ult {F R : Nat → Int32} {i j : Nat} (h : j < i) : rs_u F R i j = F j := if_pos h
theorem rs_us (F R : Nat → Int32) (i : Nat) : upd (rs_u F R i) i (F i) = rs_u F R (i + 1) := by
  funext j
  unfold upd rs_u
  by_cases h : j = i
  · rw [if_pos h, if_pos (by omega), h]
  · rw [if_neg h]
    by_cases h2 : j < i
    · rw [if_pos h2, if_pos (by omega)]
    · rw [if_neg h2, if_neg (by omega)]
theorem rs_ueq {F R : Nat → Int32} {i : Nat} (h : F i = R i) : rs_u F R (i + 1) = rs_u F R i := by
  rw [← rs_us]
  funext j
  unfold upd
  by_cases e : j = i
  · rw [if_pos e, e, rs_uat, h]
  · rw [if_neg e]
def rs_E (pm : Int32) (rows fig : Nat → Int32) (j : Nat) : Int32 := rows j ^^^ rs_i pm (rows j) (fig j)
theorem rs_E_H {pm : Int32} {rows fig : Nat → Int32} (h : rs_H rows) (hf : rs_H fig) : rs_H (rs_E pm rows fig) := by
  intro y hy i hi
  rcases Nat.lt_or_ge i 32 with h2 | h2
  · show bt (rows y ^^^ rs_i pm (rows y) (fig y)) i = false
    rw [b_xor, rs_ibt _ _ _ h2, h y hy i hi, hf y hy i hi, rs_ib0]
    rfl
  · exact b_big h2
theorem rs_n_H {pm : Int32} {rows fig : Nat → Int32} (h : rs_H rows) (hf : rs_H fig) : rs_H (fun j => rs_i pm (rows j) (fig j)) := by
  intro y hy i hi
  rcases Nat.lt_or_ge i 32 with h2 | h2
  · show bt (rs_i pm (rows y) (fig y)) i = false
    rw [rs_ibt _ _ _ h2, h y hy i hi, hf y hy i hi, rs_ib0]
  · exact b_big h2
section
variable {pm w : Int32} {rows fig rr rf rl : Nat → Int32}
theorem rx_ink72 {post : Int32 → SX → Prop} {J : Int32 → Int32 → (Nat → Int32) → (Nat → Int32) → (Nat → Int32) → (Nat → Int32) → (Nat → Int32) → Prop} (h : rs_H rows) (hf : rs_H fig) {i : Nat} (hi : i < 24) {z : Int32} (hz : z = rs_i pm (rows i) (fig i))
    (hJ : J (nI (rb_c (rs_g (rs_E pm rows fig)) (24 * (i + 1)))) (nI (i + 1)) (rs_u (fun j => rs_i pm (rows j) (fig j)) rows (i + 1)) fig rr rf rl) :
    wX_ink_72 post J (nI (rb_c (rs_g (rs_E pm rows fig)) (24 * i))) (nI i) z pm w (rs_u (fun j => rs_i pm (rows j) (fig j)) rows i) fig rr rf rl := by
  subst hz
  refine And.intro (pk_in i 24 hi) (rx_bits _ (nm_r (e' := nI (rb_c (rs_g (rs_E pm rows fig)) (24 * (i + 1)))) ?_ (And.intro (pk_in i 24 hi) (nm_r (e' := rs_u (fun j => rs_i pm (rows j) (fig j)) rows (i + 1)) ?_ (nm_r (nI_1 i) hJ)))))
  · rw [nI_clamp (n := i) (by omega), nI_add, rs_uat, rs_row (rs_E_H h hf) hi]
    rfl
  · rw [nI_clamp (n := i) (by omega)]
    exact rs_us (fun j => rs_i pm (rows j) (fig j)) rows i
theorem rx_ink_l {post : Int32 → SX → Prop} (h : rs_H rows) (hf : rs_H fig) (hp : post (nI (rb_c (rs_g (rs_E pm rows fig)) 576)) (pm, w, rs_u (fun j => rs_i pm (rows j) (fig j)) rows 24, fig, rr, rf, rl)) : ∀ n i : Nat, i ≤ 24 → 24 - i < n → wX_ink_4 post pm w n (nI (rb_c (rs_g (rs_E pm rows fig)) (24 * i))) (nI i) (rs_u (fun j => rs_i pm (rows j) (fig j)) rows i) fig rr rf rl
  | 0, _, _, hn => absurd hn (by omega)
  | n + 1, i, hi, hn => pk_le 24 i (fun h1 => by
      obtain rfl : i = 24 := by omega
      exact hp) (fun h1 => by
        have ih := rx_ink_l h hf hp n (i + 1) (by omega) (by omega)
        have hin : vp_in (nI i) 24 := pk_in i 24 h1
        refine br_c (fun e => ⟨hin, hin, rx_ink72 h hf h1 ?_ ih⟩) (fun e => br_c (fun e1 => ⟨hin, hin, rx_ink72 h hf h1 ?_ ih⟩) (fun e1 => ⟨hin, hin, rx_ink72 h hf h1 ?_ ih⟩))
        · rw [nI_clamp (n := i) (by omega), rs_uat, rs_i, if_pos e]
        · rw [nI_clamp (n := i) (by omega), rs_uat, rs_i, if_neg e, if_pos e1]
        · rw [nI_clamp (n := i) (by omega), rs_uat, rs_i, if_neg e, if_neg e1])
theorem rx_ink {post : Int32 → SX → Prop} (h : rs_H rows) (hf : rs_H fig) (hp : post (nI (rb_c (rs_g (rs_E pm rows fig)) 576)) (pm, w, rs_u (fun j => rs_i pm (rows j) (fig j)) rows 24, fig, rr, rf, rl)) : wpX_ink post (pm, w, rows, fig, rr, rf, rl) := by
  have k := rx_ink_l h hf hp 25 0 (by omega) (by omega)
  rw [rs_u0] at k
  exact Exists.intro 25 k
end
section
variable {pen : Int32} {set fig : Nat → Int32} {g f : Nat → Bool}
theorem ry_ink40 {post : Int32 → SY → Prop} {J : Int32 → Int32 → (Nat → Int32) → (Nat → Int32) → Prop} (hs : ∀ k, k < 576 → set k = rs_b (g k)) (hf : ∀ k, k < 576 → fig k = rs_b (f k)) {i : Nat} (hi : i < 576) {z : Int32} (m : Bool) (hz : z = rs_b m) (hm : f i = true → m = rs_ib pen (g i) (f i))
    (hJ : J (nI (rb_c (fun k => g k ^^ rs_ib pen (g k) (f k)) (i + 1))) (nI (i + 1)) (rs_u (fun k => rs_b (rs_ib pen (g k) (f k))) set (i + 1)) fig) :
    wY_ink_40 post J (nI (rb_c (fun k => g k ^^ rs_ib pen (g k) (f k)) i)) (nI i) z pen (rs_u (fun k => rs_b (rs_ib pen (g k) (f k))) set i) fig := by
  subst hz
  have hin : vp_in (nI i) 576 := pk_in i 576 hi
  have e : rb_c (fun k => g k ^^ rs_ib pen (g k) (f k)) (i + 1) = rb_c (fun k => g k ^^ rs_ib pen (g k) (f k)) i + rb_n (g i ^^ rs_ib pen (g i) (f i)) := rfl
  unfold wY_ink_40
  rw [nI_clamp (n := i) (by omega), rs_uat, hs i hi, hf i hi]
  refine ⟨hin, ?_⟩
  cases hfi : f i
  · refine br_t rfl (nm_r (nI_1 i) ?_)
    rw [hfi, rs_ib0, Bool.xor_self] at e
    rw [e, rs_ueq (by show rs_b (rs_ib pen (g i) (f i)) = _; rw [hfi, rs_ib0, hs i hi])] at hJ
    exact hJ
  · refine br_f (by decide) ⟨hin, ?_⟩
    have hm' := hm hfi
    rw [← hm'] at e
    by_cases hgm : g i = m
    · refine br_t (congrArg rs_b hgm) (nm_r (nI_1 i) ?_)
      rw [hgm, Bool.xor_self] at e
      rw [e, rs_ueq (by show rs_b (rs_ib pen (g i) (f i)) = _; rw [← hm', hs i hi, hgm])] at hJ
      exact hJ
    · refine br_f (fun q => hgm (rs_b_inj.mp q)) ⟨hin, nm_r (e' := rs_u (fun k => rs_b (rs_ib pen (g k) (f k))) set (i + 1)) ?_ (nm_r (nI_1 _) (nm_r (nI_1 i) ?_))⟩
      · rw [rs_nar, hm']
        exact rs_us (fun k => rs_b (rs_ib pen (g k) (f k))) set i
      · rw [show (g i ^^ m) = true from by revert hgm; cases g i <;> cases m <;> decide] at e
        rw [e] at hJ
        exact hJ
theorem ry_ink_l {post : Int32 → SY → Prop} (hpen : pen = 0 ∨ pen = 1 ∨ pen = 2) (hs : ∀ k, k < 576 → set k = rs_b (g k)) (hf : ∀ k, k < 576 → fig k = rs_b (f k)) (hp : post (nI (rb_c (fun k => g k ^^ rs_ib pen (g k) (f k)) 576)) (pen, rs_u (fun k => rs_b (rs_ib pen (g k) (f k))) set 576, fig)) : ∀ n i : Nat, i ≤ 576 → 576 - i < n → wY_ink_4 post pen n (nI (rb_c (fun k => g k ^^ rs_ib pen (g k) (f k)) i)) (nI i) (rs_u (fun k => rs_b (rs_ib pen (g k) (f k))) set i) fig
  | 0, _, _, hn => absurd hn (by omega)
  | n + 1, i, hi, hn => pk_le 576 i (fun h1 => by
      obtain rfl : i = 576 := by omega
      exact hp) (fun h1 => by
        have ih := ry_ink_l hpen hs hf hp n (i + 1) (by omega) (by omega)
        have hin : vp_in (nI i) 576 := pk_in i 576 h1
        refine br_c (fun e => ry_ink40 hs hf h1 true rfl ?_ ih) (fun e => br_c (fun e1 => ⟨hin, br_c (fun e2 => ry_ink40 hs hf h1 true rfl ?_ ih) (fun e2 => ry_ink40 hs hf h1 false rfl ?_ ih)⟩) (fun e1 => ry_ink40 hs hf h1 false rfl ?_ ih))
        · intro hfi
          rw [hfi, rs_ib, if_pos e, Bool.or_true]
        · intro hfi
          rw [nI_clamp (n := i) (by omega), rs_uat, hs i h1, rs_bn] at e2
          rw [hfi, rs_ib, if_neg e, if_neg (by rw [e1]; decide), e2]
          rfl
        · intro hfi
          rw [nI_clamp (n := i) (by omega), rs_uat, hs i h1, rs_bn, Bool.not_eq_false] at e2
          rw [hfi, rs_ib, if_neg e, if_neg (by rw [e1]; decide), e2]
          rfl
        · intro hfi
          have e3 : pen = 1 := by
            rcases hpen with q | q | q
            · exact absurd q e
            · exact q
            · exact absurd q e1
          rw [hfi, rs_ib, if_neg e, if_pos e3]
          cases g i <;> rfl)
theorem ry_ink {post : Int32 → SY → Prop} (hpen : pen = 0 ∨ pen = 1 ∨ pen = 2) (hs : ∀ k, k < 576 → set k = rs_b (g k)) (hf : ∀ k, k < 576 → fig k = rs_b (f k)) (hp : post (nI (rb_c (fun k => g k ^^ rs_ib pen (g k) (f k)) 576)) (pen, rs_u (fun k => rs_b (rs_ib pen (g k) (f k))) set 576, fig)) : wpY_ink post (pen, set, fig) := by
  have k := ry_ink_l hpen hs hf hp 577 0 (by omega) (by omega)
  rw [rs_u0] at k
  exact Exists.intro 577 k
end
def rs_ans (pm : Int32) (rows fig : Nat → Int32) : Int32 := nI (rb_c (rs_g (rs_E pm rows fig)) 576)
def rs_new (pm : Int32) (rows fig : Nat → Int32) : Nat → Int32 := rs_u (fun j => rs_i pm (rows j) (fig j)) rows 24
theorem rs_inkX {pm w : Int32} {rows fig rr rf rl : Nat → Int32} {post : Int32 → SX → Prop} (h : rs_H rows) (hf : rs_H fig) (hp : post (rs_ans pm rows fig) (pm, w, rs_new pm rows fig, fig, rr, rf, rl)) : wpX_ink post (pm, w, rows, fig, rr, rf, rl) := rx_ink h hf hp
theorem rs_inkY {pm : Int32} {rows fig set yf : Nat → Int32} {post : Int32 → SY → Prop} (hpen : pm = 0 ∨ pm = 1 ∨ pm = 2) (h : rs_R rows set) (hf : rs_R fig yf) (hp : ∀ set', rs_R (rs_new pm rows fig) set' → post (rs_ans pm rows fig) (pm, set', yf)) : wpY_ink post (pm, set, yf) := by
  have e : rb_c (rs_g (rs_E pm rows fig)) 576 = rb_c (fun k => rs_g rows k ^^ rs_ib pm (rs_g rows k) (rs_g fig k)) 576 := by
    refine rb_congr 576 (fun k hk => ?_)
    show bt (rows (k / 24) ^^^ rs_i pm (rows (k / 24)) (fig (k / 24))) (k % 24) = _
    rw [b_xor, rs_ibt _ _ _ (by omega)]
    rfl
  refine ry_ink hpen h.2 hf.2 ?_
  rw [← e]
  refine hp _ ⟨?_, ?_⟩
  · intro y hy i hi
    unfold rs_new
    rw [rs_ult hy]
    exact rs_n_H h.1 hf.1 y hy i hi
  · intro k hk
    rw [rs_ult hk]
    unfold rs_g rs_new
    rw [rs_ult (show k / 24 < 24 from by omega), rs_ibt _ _ _ (by omega)]
end
section
def rp_P (p : Int32) (x y : Nat) : Prop := x < 24 ∧ y < 24 ∧ p = nI (32 * y + x)
theorem rp_a31 {j : Nat} (hj : j < 2 ^ 31) : nI j &&& 31 = nI (j % 32) := pk_andN (by omega) 5 (by decide)
theorem rp_s5 {j : Nat} (hj : j < 2 ^ 31) : nI j >>> ((5 : Int32) &&& 31) = nI (j / 32) := pk_shrN hj _ 5 (by decide)
theorem rp_d32 {j : Nat} (hj : j < 2 ^ 31) : nI j / 32 = nI (j / 32) := pk_div (d := 32) hj (by omega) (by omega)
theorem rp_r32 {j : Nat} (hj : j < 2 ^ 31) : nI j - nI j / 32 * 32 = nI (j % 32) := pk_rem (d := 32) hj (by omega) (by omega)
theorem rp_d24 {j : Nat} (hj : j < 2 ^ 31) : nI j / 24 = nI (j / 24) := pk_div (d := 24) hj (by omega) (by omega)
theorem rp_r24 {j : Nat} (hj : j < 2 ^ 31) : nI j - nI j / 24 * 24 = nI (j % 24) := pk_rem (d := 24) hj (by omega) (by omega)
theorem rp_and {p : Int32} {x y : Nat} (h : rp_P p x y) : p &&& 31 = nI x := by
  obtain ⟨hx, hy, rfl⟩ := h
  rw [rp_a31 (by omega)]
  exact congrArg nI (by omega)
theorem rp_shr {p : Int32} {x y : Nat} (h : rp_P p x y) : p >>> ((5 : Int32) &&& 31) = nI y := by
  obtain ⟨hx, hy, rfl⟩ := h
  rw [rp_s5 (by omega)]
  exact congrArg nI (by omega)
theorem rp_div {p : Int32} {x y : Nat} (h : rp_P p x y) : p / 32 = nI y := by
  obtain ⟨hx, hy, rfl⟩ := h
  rw [rp_d32 (by omega)]
  exact congrArg nI (by omega)
theorem rp_rem {p : Int32} {x y : Nat} (h : rp_P p x y) : p - p / 32 * 32 = nI x := by
  obtain ⟨hx, hy, rfl⟩ := h
  rw [rp_r32 (by omega)]
  exact congrArg nI (by omega)
theorem rp_dec (p : Int32) : (∃ x y, rp_P p x y) ∨ ∀ x y, ¬ rp_P p x y := by
  by_cases h : ∃ x y, rp_P p x y
  · exact Or.inl h
  · exact Or.inr (fun x y z => h ⟨x, y, z⟩)
theorem rp_no {j : Nat} (hj : j < 2 ^ 31) (h : 24 ≤ j % 32 ∨ 24 ≤ j / 32) : ∀ x y, ¬ rp_P (nI j) x y := by
  intro x y z
  obtain ⟨hx, hy, e⟩ := z
  rw [nI_eq hj (by omega)] at e
  omega
theorem rp_X {pm w : Int32} {rows fig rr rf rl : Nat → Int32} {post : Int32 → Prop} {p : Int32} (h1 : ∀ x y, rp_P p x y → post 1) (h0 : (∀ x y, ¬ rp_P p x y) → post 0) : wpX_isPixel post (pm, w, rows, fig, rr, rf, rl) p := by
  by_cases hn : p < 0
  · refine br_t hn (h0 (fun x y z => ?_))
    obtain ⟨hx, hy, rfl⟩ := z
    exact nI_pos (by omega) hn
  · obtain ⟨j, hj, rfl⟩ := nI_of hn
    exact br_f hn (pk_le 24 (j % 32) (fun h => h0 (rp_no hj (Or.inl h))) (fun h => pk_le 24 (j / 32) (fun h' => h0 (rp_no hj (Or.inr h'))) (fun h' => h1 (j % 32) (j / 32) ⟨h, h', congrArg nI (by omega)⟩) rfl (rp_s5 hj)) rfl (rp_a31 hj))
theorem rp_Y {pen : Int32} {set fig : Nat → Int32} {post : Int32 → Prop} {p : Int32} (h1 : ∀ x y, rp_P p x y → post 1) (h0 : (∀ x y, ¬ rp_P p x y) → post 0) : wpY_isPixel post (pen, set, fig) p := by
  by_cases hn : p < 0
  · refine br_t hn (h0 (fun x y z => ?_))
    obtain ⟨hx, hy, rfl⟩ := z
    exact nI_pos (by omega) hn
  · obtain ⟨j, hj, rfl⟩ := nI_of hn
    exact br_f hn ⟨by decide, pk_lt 23 (j % 32) (fun h => h0 (rp_no hj (Or.inl h))) (fun h => ⟨by decide, pk_lt 23 (j / 32) (fun h' => h0 (rp_no hj (Or.inr h'))) (fun h' => h1 (j % 32) (j / 32) ⟨by omega, by omega, congrArg nI (by omega)⟩) rfl (rp_d32 hj)⟩) rfl (rp_r32 hj)⟩
def rf_S (a : Nat → Int32) (P : Int → Int → Prop) : Prop := rs_H a ∧ ∀ y x : Nat, y < 24 → x < 24 → (bt (a y) x = true ↔ P x y)
def rf_Y (b : Nat → Int32) (P : Int → Int → Prop) : Prop := ∀ k : Nat, k < 576 → (b k = 1 ∧ P (k % 24 : Nat) (k / 24 : Nat)) ∨ (b k = 0 ∧ ¬ P (k % 24 : Nat) (k / 24 : Nat))
theorem rf_R {a b : Nat → Int32} {P : Int → Int → Prop} (h : rf_S a P) (h2 : rf_Y b P) : rs_R a b := by
  refine ⟨h.1, fun k hk => ?_⟩
  have e := h.2 (k / 24) (k % 24) (by omega) (by omega)
  unfold rs_g
  rcases h2 k hk with ⟨e1, e2⟩ | ⟨e1, e2⟩
  · rw [e1, e.mpr e2]; rfl
  · rw [e1]
    cases hb : bt (a (k / 24)) (k % 24)
    · rfl
    · exact absurd (e.mp hb) e2
theorem rf_c {a : Nat → Int32} {P Q : Int → Int → Prop} (h : rf_S a P) (e : ∀ i j : Int, 0 ≤ i → i < 24 → 0 ≤ j → j < 24 → (P i j ↔ Q i j)) : rf_S a Q :=
  ⟨h.1, fun y x hy hx => (h.2 y x hy hx).trans (e x y (by omega) (by omega) (by omega) (by omega))⟩
theorem rf_or {a : Nat → Int32} {P : Int → Int → Prop} (h : rf_S a P) {y : Nat} {m : Int32} (D : Int → Int → Prop) (hm : ∀ i, 24 ≤ i → bt m i = false) (hD : ∀ x : Nat, x < 24 → (bt m x = true ↔ D x y)) (hD2 : ∀ i j : Int, D i j → j = y) : rf_S (upd a y (a y ||| m)) (fun i j => P i j ∨ D i j) := by
  refine ⟨fun y' hy' i hi => ?_, fun y' x hy' hx => ?_⟩
  · by_cases e : y' = y
    · subst e
      rw [pk_us, b_or, h.1 y' hy' i hi, hm i hi]
      rfl
    · rw [pk_un e]
      exact h.1 y' hy' i hi
  · by_cases e : y' = y
    · subst e
      rw [pk_us, b_or, Bool.or_eq_true, h.2 y' x hy' hx, hD x hx]
    · rw [pk_un e, h.2 y' x hy' hx]
      constructor
      · exact Or.inl
      · rintro (q | q)
        · exact q
        · exact absurd (hD2 _ _ q) (by omega)
section
variable {pm w : Int32} {rows fig rr rf rl : Nat → Int32}
theorem rf_dot {post : SX → Prop} {P : Int → Int → Prop} {X Y : Int32} (x y : Int) (h : rf_S fig P) (hp : ∀ a, rf_S a (fun i j => P i j ∨ (i = x ∧ j = y)) → post (pm, w, rows, a, rr, rf, rl)) (hX : X = rz_i x) (hY : Y = rz_i y) (bx : -1000 ≤ x ∧ x ≤ 1000) (bb : -1000 ≤ y ∧ y ≤ 1000) : wpX_dot post (pm, w, rows, fig, rr, rf, rl) X Y := by
  subst hX hY
  have no : (x < 0 ∨ 24 ≤ x ∨ y < 0 ∨ 24 ≤ y) → post (pm, w, rows, fig, rr, rf, rl) := fun q => hp fig (rf_c h (fun i j h1 h2 h3 h4 => ⟨Or.inl, fun z => z.elim id (fun z => absurd z (by omega))⟩))
  refine rz_lt x 0 (fun q => no (by omega)) (fun q0 => rz_le 24 x (fun q => no (by omega)) (fun q1 => rz_lt y 0 (fun q => no (by omega)) (fun q2 => rz_le 24 y (fun q => no (by omega)) (fun q3 => ?_))))
  obtain ⟨x', rfl⟩ := Int.eq_ofNat_of_zero_le q0
  obtain ⟨y', rfl⟩ := Int.eq_ofNat_of_zero_le q2
  have hin : vp_in (rz_i (y' : Int)) 24 := rz_in (by omega) (by omega) (by omega)
  refine ⟨hin, hin, nm_e (hp _ ?_)⟩
  rw [rz_cl (by omega) (by omega), ← rz_nI]
  refine rf_or (y := y') h (fun i j => i = (x' : Int) ∧ j = (y' : Int)) (fun i hi => ?_) (fun i hi => ?_) (fun i j q => q.2)
  · rcases Nat.lt_or_ge i 32 with h2 | h2
    · rw [rb_one x' (by omega) i h2, decide_eq_false (by omega)]
    · exact b_big h2
  · rw [rb_one x' (by omega) i (by omega), decide_eq_true_iff]
    omega
theorem rf_run23 {post : SX → Prop} {P : Int → Int → Prop} {Y F L : Int32} (y f l : Int) (h : rf_S fig P) (hp : ∀ a, rf_S a (fun i j => P i j ∨ (j = y ∧ f ≤ i ∧ i ≤ l)) → post (pm, w, rows, a, rr, rf, rl)) (hY : Y = rz_i y) (hF : F = rz_i f) (hL : L = rz_i l) (bb : -1000 ≤ y ∧ y ≤ 1000) (bf : 0 ≤ f ∧ f ≤ 1000) (bl : -1000 ≤ l ∧ l ≤ 23) : wX_run_23 post Y F L pm w rows fig rr rf rl := by
  subst hY hF hL
  have no : (y < 0 ∨ 24 ≤ y ∨ l < f) → post (pm, w, rows, fig, rr, rf, rl) := fun q => hp fig (rf_c h (fun i j h1 h2 h3 h4 => ⟨Or.inl, fun z => z.elim id (fun z => absurd z (by omega))⟩))
  refine rz_lt y 0 (fun q => no (by omega)) (fun q0 => rz_le 24 y (fun q => no (by omega)) (fun q1 => rz_le f l (fun q2 => ?_) (fun q => no (by omega))))
  obtain ⟨y', rfl⟩ := Int.eq_ofNat_of_zero_le q0
  obtain ⟨f', rfl⟩ := Int.eq_ofNat_of_zero_le bf.1
  obtain ⟨l', rfl⟩ := Int.eq_ofNat_of_zero_le (show 0 ≤ l by omega)
  have hin : vp_in (rz_i (y' : Int)) 24 := rz_in (by omega) (by omega) (by omega)
  refine ⟨hin, hin, nm_e (hp _ ?_)⟩
  rw [rz_cl (by omega) (by omega), ← rz_nI, ← rz_nI, nI_1]
  have hb := rb_run l' (by omega) f' (by omega)
  refine rf_or (y := y') h (fun i j => j = (y' : Int) ∧ (f' : Int) ≤ i ∧ i ≤ (l' : Int)) (fun i hi => ?_) (fun i hi => ?_) (fun i j q => q.1)
  · rcases Nat.lt_or_ge i 32 with h2 | h2
    · rw [hb i h2, decide_eq_false (p := i ≤ l') (by omega), Bool.and_false]
    · exact b_big h2
  · rw [hb i (by omega), Bool.and_eq_true, decide_eq_true_iff, decide_eq_true_iff]
    omega
theorem rf_run {post : SX → Prop} {P : Int → Int → Prop} {Y F L : Int32} (y f l : Int) (h : rf_S fig P) (hp : ∀ a, rf_S a (fun i j => P i j ∨ (j = y ∧ f ≤ i ∧ i ≤ l)) → post (pm, w, rows, a, rr, rf, rl)) (hY : Y = rz_i y) (hF : F = rz_i f) (hL : L = rz_i l) (bb : -1000 ≤ y ∧ y ≤ 1000) (bf : -1000 ≤ f ∧ f ≤ 1000) (bl : -1000 ≤ l ∧ l ≤ 1000) : wpX_run post (pm, w, rows, fig, rr, rf, rl) Y F L := by
  subst hY hF hL
  have cg : ∀ (a : Nat → Int32) (f' l' : Int), (f' = f ∨ (f < 0 ∧ f' = 0)) → (l' = l ∨ (24 ≤ l ∧ l' = 23)) → rf_S a (fun i j => P i j ∨ (j = y ∧ f' ≤ i ∧ i ≤ l')) → post (pm, w, rows, a, rr, rf, rl) := fun a f' l' q1 q2 q3 => hp a (rf_c q3 (fun i j h1 h2 h3 h4 => or_congr Iff.rfl (by omega)))
  have st : ∀ (f' : Int), (f' = f ∨ (f < 0 ∧ f' = 0)) → 0 ≤ f' ∧ f' ≤ 1000 → wX_run_9 post (rz_i y) (rz_i l) (rz_i f') pm w rows fig rr rf rl := fun f' q q' =>
    rz_lt l 24 (fun z => rf_run23 y f' l h (fun a ha => cg a f' l q (by omega) ha) rfl rfl rfl bb q' (by omega)) (fun z => rf_run23 y f' 23 h (fun a ha => cg a f' 23 q (by omega) ha) rfl rfl rfl bb q' (by omega))
  exact rz_le 0 f (fun z => st f (by omega) (by omega)) (fun z => st 0 (by omega) (by omega))
theorem rf_clear_l {post : SX → Prop} (hp : ∀ a, rf_S a (fun _ _ => False) → post (pm, w, rows, a, rr, rf, rl)) : ∀ n y : Nat, y ≤ 24 → 24 - y < n → ∀ a : Nat → Int32, (∀ j, j < y → a j = 0) → wX_clearFigure_2 post pm w n (nI y) rows a rr rf rl
  | 0, _, _, hn, _, _ => absurd hn (by omega)
  | n + 1, y, hy, hn, a, ha => pk_le 24 y (fun h1 => hp a ⟨fun j hj i _ => by rw [ha j (by omega)]; exact b_0 i, fun j i hj _ => by
      rw [ha j (by omega), b_0]
      exact ⟨fun z => (by cases z), False.elim⟩⟩) (fun h1 => ⟨pk_in y 24 h1, nm_e (nm_r (nI_1 y) (rf_clear_l hp n (y + 1) (by omega) (by omega) _ (fun j hj => by
        rw [nI_clamp (n := y) (by omega)]
        by_cases e : j = y
        · rw [e, pk_us]
        · rw [pk_un e, ha j (by omega)])))⟩)
theorem rf_clear {post : SX → Prop} (hp : ∀ a, rf_S a (fun _ _ => False) → post (pm, w, rows, a, rr, rf, rl)) : wpX_clearFigure post (pm, w, rows, fig, rr, rf, rl) :=
  Exists.intro 25 (rf_clear_l hp 25 0 (by omega) (by omega) fig (fun j hj => absurd hj (by omega)))
end
end
section
def rl_N (L R f h0 i j : Int) : Prop := (-L ≤ 2 * (L * (j - h0) - R * (i - f)) ∧ 2 * (L * (j - h0) - R * (i - f)) < L) ∨ (L = 0 ∧ j = h0)
def rl_I (L R f h0 u h e : Int) : Prop := e = 2 * (R * (u - f) - L * (h - h0)) ∧ ((L = 0 ∧ h = h0) ∨ (0 < L ∧ -L < e ∧ e ≤ L)) ∧ f - u ≤ h - h0 ∧ h - h0 ≤ u - f
theorem rl_one {L R f h0 u h e : Int} (I : rl_I L R f h0 u h e) (hR : -L ≤ R ∧ R ≤ L) (j : Int) : rl_N L R f h0 u j ↔ j = h := by
  obtain ⟨he, hc, _⟩ := I
  have e1 : L * (j - h0) = L * (j - h) + L * (h - h0) := by
    rw [← Int.mul_add]
    exact congrArg (L * ·) (by omega)
  unfold rl_N
  rw [e1]
  constructor
  · intro q
    rcases hc with ⟨hL, hh⟩ | ⟨hL, h1, h2⟩
    · subst hL
      omega
    · rcases q with q | q
      · by_cases g1 : h + 1 ≤ j
        · have := rz_mm (a := L) (b := L) (c := 1) (d := j - h) (by omega) (by omega) (by omega) (by omega)
          omega
        · by_cases g2 : j + 1 ≤ h
          · have g3 := rz_mm (a := L) (b := L) (c := 1) (d := h - j) (by omega) (by omega) (by omega) (by omega)
            have g4 : L * (h - j) = -(L * (j - h)) := by
              rw [← Int.mul_neg]
              exact congrArg (L * ·) (by omega)
            omega
          · omega
      · omega
  · intro q
    subst q
    rcases hc with ⟨hL, hh⟩ | ⟨hL, h1, h2⟩
    · exact Or.inr ⟨hL, hh⟩
    · left
      rw [Int.sub_self, Int.mul_zero]
      omega
theorem rl_next {L R f h0 u h e h' e' : Int} (I : rl_I L R f h0 u h e) (hR : -L ≤ R ∧ R ≤ L) (c : (e + 2 * R ≤ L ∧ -L < e + 2 * R ∧ h' = h ∧ e' = e + 2 * R) ∨ (L = 0 ∧ h' = h ∧ e' = e + 2 * R) ∨ (0 < L ∧ e + 2 * R ≤ -L ∧ h' = h - 1 ∧ e' = e + 2 * R + 2 * L) ∨ (L < e + 2 * R ∧ h' = h + 1 ∧ e' = e + 2 * R - 2 * L)) : rl_I L R f h0 (u + 1) h' e' := by
  obtain ⟨he, hc, hb⟩ := I
  have e1 : R * (u + 1 - f) = R * (u - f) + R := by
    rw [show u + 1 - f = (u - f) + 1 from by omega, Int.mul_add, Int.mul_one]
  have e2 : L * (h - 1 - h0) = L * (h - h0) - L := by
    rw [show h - 1 - h0 = (h - h0) - 1 from by omega, Int.mul_sub, Int.mul_one]
  have e3 : L * (h + 1 - h0) = L * (h - h0) + L := by
    rw [show h + 1 - h0 = (h - h0) + 1 from by omega, Int.mul_add, Int.mul_one]
  unfold rl_I
  rw [e1]
  rcases c with ⟨c1, c2, rfl, rfl⟩ | ⟨c1, rfl, rfl⟩ | ⟨c1, c2, rfl, rfl⟩ | ⟨c1, rfl, rfl⟩
  · refine ⟨by omega, by omega, by omega, by omega⟩
  · refine ⟨by omega, by omega, by omega, by omega⟩
  · rw [e2]
    refine ⟨by omega, by omega, by omega, by omega⟩
  · rw [e3]
    refine ⟨by omega, ?_, by omega, by omega⟩
    rcases hc with ⟨hL, hh⟩ | ⟨hL, h1, h2⟩
    · subst hL
      exfalso
      have hR0 : R = 0 := by omega
      subst hR0
      simp only [Int.zero_mul] at he
      omega
    · right
      omega
def rl_w : Bool → (Int → Int → Prop) → Int → Int → Prop
  | false, Q => Q
  | true, Q => fun i j => Q j i
section
variable {pm w : Int32} {rows fig rr rf rl : Nat → Int32}
theorem rl_100 {post : SX → Prop} {J : Int32 → Int32 → Int32 → Int32 → Int32 → (Nat → Int32) → (Nat → Int32) → (Nat → Int32) → (Nat → Int32) → (Nat → Int32) → Prop} {x5 x7 : Int32} {L R f h0 u h e : Int} (I : rl_I L R f h0 u h e) (hR : -L ≤ R ∧ R ≤ L) (bL : 0 ≤ L ∧ L ≤ 23) (bu : 0 ≤ u ∧ u ≤ 23) (bh : -100 ≤ h ∧ h ≤ 100) (hJ : ∀ h' e', rl_I L R f h0 (u + 1) h' e' → J (rz_i h') (rz_i e') (rz_i (u + 1)) pm w rows fig rr rf rl) :
    wX_walkLine_100 post J x5 x7 (rz_i h) (rz_i R) (rz_i L) (rz_i e) (rz_i u) pm w rows fig rr rf rl := by
  have be : -23 ≤ e ∧ e ≤ 23 := by
    obtain ⟨he, hc, _⟩ := I
    rcases hc with ⟨hL, hh⟩ | ⟨hL, h1, h2⟩
    · have hR0 : R = 0 := by omega
      subst hL hR0
      simp only [Int.zero_mul] at he
      omega
    · omega
  refine nm_r (e' := rz_i (e + 2 * R)) (by rw [rz_t2, rz_add]) ?_
  refine rz_le (e + 2 * R) L (fun q => ?_) (fun q => ?_)
  · refine rz_lt (-L) (e + 2 * R) (fun q1 => ?_) (fun q1 => ?_) (rz_neg L)
    · exact nm_r (rz_p1 u) (hJ h _ (rl_next I hR (Or.inl ⟨q, q1, rfl, rfl⟩)))
    · refine rz_le L 0 (fun q2 => ?_) (fun q2 => ?_)
      · exact nm_r (rz_p1 u) (hJ h _ (rl_next I hR (Or.inr (Or.inl ⟨by omega, rfl, rfl⟩))))
      · exact nm_r (rz_m1 h) (nm_r (e' := rz_i (e + 2 * R + 2 * L)) (by rw [rz_t2, rz_add]) (nm_r (rz_p1 u) (hJ _ _ (rl_next I hR (Or.inr (Or.inr (Or.inl ⟨q2, by omega, rfl, rfl⟩)))))))
  · exact nm_r (rz_p1 h) (nm_r (e' := rz_i (e + 2 * R - 2 * L)) (by rw [rz_t2, rz_sub]) (nm_r (rz_p1 u) (hJ _ _ (rl_next I hR (Or.inr (Or.inr (Or.inr ⟨q, rfl, rfl⟩)))))))
theorem rl_l {post : SX → Prop} (sw : Bool) {L R f h0 t : Int} (hR : -L ≤ R ∧ R ≤ L) (hL : L = t - f) (bf : 0 ≤ f ∧ f ≤ t ∧ t ≤ 23) (bh0 : 0 ≤ h0 ∧ h0 ≤ 23)
    (hp : ∀ a, rf_S a (rl_w sw (fun i j => f ≤ i ∧ i ≤ t ∧ rl_N L R f h0 i j)) → post (pm, w, rows, a, rr, rf, rl)) :
    ∀ (n : Nat) (u h e : Int), t + 1 - u < n → f ≤ u → u ≤ t + 1 → rl_I L R f h0 u h e → ∀ a, rf_S a (rl_w sw (fun i j => f ≤ i ∧ i < u ∧ rl_N L R f h0 i j)) → wX_walkLine_69 post (rs_b sw) (rz_i t) (rz_i R) (rz_i L) n (rz_i h) (rz_i e) (rz_i u) pm w rows a rr rf rl := by
  intro n
  induction n with
  | zero => intro u h e q q1 q2; exact absurd q (by omega)
  | succ n ih =>
    intro u h e hn h1 h2 I a ha
    refine rz_lt t u (fun q => hp a ?_) (fun q => ?_)
    · have eu : u = t + 1 := by omega
      subst eu
      cases sw
      · exact rf_c ha (fun i j _ _ _ _ => ⟨fun z => ⟨z.1, by have := z.2.1; omega, z.2.2⟩, fun z => ⟨z.1, by have := z.2.1; omega, z.2.2⟩⟩)
      · exact rf_c ha (fun i j _ _ _ _ => ⟨fun z => ⟨z.1, by have := z.2.1; omega, z.2.2⟩, fun z => ⟨z.1, by have := z.2.1; omega, z.2.2⟩⟩)
    · have bh : -100 ≤ h ∧ h ≤ 100 := by
        have q1 := I.2.2
        omega
      have step : ∀ i j : Int, ((f ≤ i ∧ i < u ∧ rl_N L R f h0 i j) ∨ (i = u ∧ j = h)) ↔ (f ≤ i ∧ i < u + 1 ∧ rl_N L R f h0 i j) := by
        intro i j
        by_cases c : i = u
        · subst c
          rw [rl_one I hR j]
          omega
        · constructor
          · rintro (z | z)
            · exact ⟨z.1, by omega, z.2.2⟩
            · exact absurd z.1 c
          · rintro z
            exact Or.inl ⟨z.1, by omega, z.2.2⟩
      have K : ∀ a', rf_S a' (rl_w sw (fun i j => f ≤ i ∧ i < u + 1 ∧ rl_N L R f h0 i j)) → wX_walkLine_100 post (wX_walkLine_69 post (rs_b sw) (rz_i t) (rz_i R) (rz_i L) n) (rs_b sw) (rz_i t) (rz_i h) (rz_i R) (rz_i L) (rz_i e) (rz_i u) pm w rows a' rr rf rl := fun a' ha' =>
        rl_100 I hR (by omega) (by omega) bh (fun h' e' I' => ih (u + 1) h' e' (by omega) (by omega) (by omega) I' a' ha')
      cases sw
      · exact br_t rfl (rf_dot u h ha (fun a' ha' => K a' (rf_c ha' (fun i j _ _ _ _ => step i j))) rfl rfl (by omega) (by omega))
      · exact br_f (by decide) (rf_dot h u ha (fun a' ha' => K a' (rf_c ha' (fun i j _ _ _ _ => by
          refine Iff.trans (or_congr Iff.rfl ?_) (step j i)
          exact And.comm))) rfl rfl (by omega) (by omega))
theorem rl_53 {post : SX → Prop} (sw : Bool) {R f h0 t : Int} (hR : -(t - f) ≤ R ∧ R ≤ t - f) (bf : 0 ≤ f ∧ f ≤ t ∧ t ≤ 23) (bh0 : 0 ≤ h0 ∧ h0 ≤ 23) (h : rf_S fig (fun _ _ => False))
    (hp : ∀ a, rf_S a (rl_w sw (fun i j => f ≤ i ∧ i ≤ t ∧ rl_N (t - f) R f h0 i j)) → post (pm, w, rows, a, rr, rf, rl)) : wX_walkLine_53 post (rs_b sw) (rz_i f) (rz_i t) (rz_i h0) (rz_i R) pm w rows fig rr rf rl := by
  refine nm_r (rz_sub t f) (Exists.intro (t + 2 - f).toNat (rl_l sw hR rfl bf bh0 hp _ f h0 0 (by omega) (by omega) (by omega) ?_ fig ?_))
  · refine ⟨?_, ?_, by omega, by omega⟩
    · rw [Int.sub_self, Int.sub_self, Int.mul_zero, Int.mul_zero]
      rfl
    · omega
  · cases sw
    · exact rf_c h (fun i j _ _ _ _ => ⟨False.elim, fun z => by have := z.1; have := z.2.1; omega⟩)
    · exact rf_c h (fun i j _ _ _ _ => ⟨False.elim, fun z => by have := z.1; have := z.2.1; omega⟩)
theorem rl_walk {post : SX → Prop} (sw : Bool) {X5 A B C D : Int32} (a b c d : Int) (h : rf_S fig (fun _ _ => False)) (ba : 0 ≤ a ∧ a ≤ 23) (bb : 0 ≤ b ∧ b ≤ 23) (bc : 0 ≤ c ∧ c ≤ 23) (bd : 0 ≤ d ∧ d ≤ 23) (hA : A = rz_i a) (hB : B = rz_i b) (hC : C = rz_i c) (hD : D = rz_i d) (h5 : X5 = rs_b sw)
    (hs : (a ≤ c → d - b ≤ c - a ∧ b - d ≤ c - a) ∧ (c < a → d - b ≤ a - c ∧ b - d ≤ a - c))
    (hp : ∀ f, ((a ≤ c → rf_S f (rl_w sw (fun i j => a ≤ i ∧ i ≤ c ∧ rl_N (c - a) (d - b) a b i j))) ∧ (c < a → rf_S f (rl_w sw (fun i j => c ≤ i ∧ i ≤ a ∧ rl_N (a - c) (b - d) c d i j)))) → post (pm, w, rows, f, rr, rf, rl)) :
    wpX_walkLine post (pm, w, rows, fig, rr, rf, rl) A B C D X5 := by
  subst hA hB hC hD h5
  refine rz_lt c a (fun q => ?_) (fun q => ?_)
  · have lt : rz_i c < rz_i a := (rz_ltI (by omega) (by omega)).mpr q
    have hs' := hs.2 q
    exact br_t lt (br_t lt (br_t lt (by rw [rz_sub]; exact rl_53 sw (by omega) (by omega) bd h (fun f hf => hp f ⟨fun z => absurd z (by omega), fun _ => hf⟩))))
  · have lt : ¬ rz_i c < rz_i a := fun z => absurd ((rz_ltI (by omega) (by omega)).mp z) (by omega)
    have hs' := hs.1 q
    exact br_f lt (br_f lt (br_f lt (by rw [rz_sub]; exact rl_53 sw (by omega) (by omega) bb h (fun f hf => hp f ⟨fun _ => hf, fun z => absurd z (by omega)⟩))))
end
end
section
def rf_Yi (b : Nat → Int32) (P : Int → Int → Prop) (n : Nat) : Prop := ∀ k : Nat, k < n → (b k = 1 ∧ P (k % 24 : Nat) (k / 24 : Nat)) ∨ (b k = 0 ∧ ¬ P (k % 24 : Nat) (k / 24 : Nat))
theorem rf_Y0 (b : Nat → Int32) (P : Int → Int → Prop) : rf_Yi b P 0 := fun k hk => absurd hk (by omega)
theorem rf_Ys {b : Nat → Int32} {P : Int → Int → Prop} {n : Nat} {v : Int32} {b' : Nat → Int32} (h : rf_Yi b P n) (hn : n < 576) (hv : (v = 1 ∧ P (n % 24 : Nat) (n / 24 : Nat)) ∨ (v = 0 ∧ ¬ P (n % 24 : Nat) (n / 24 : Nat))) (hb : b' = upd b (nI n).toNatClampNeg (vp_nar .boolean v)) : rf_Yi b' P (n + 1) := by
  subst hb
  rw [nI_clamp (by omega)]
  have hv' : vp_nar .boolean v = v := by
    rcases hv with ⟨e, _⟩ | ⟨e, _⟩ <;> (rw [e]; rfl)
  rw [hv']
  intro k hk
  by_cases e : k = n
  · subst e
    rw [pk_us]
    exact hv
  · rw [pk_un e]
    exact h k (by omega)
section
variable {pen : Int32} {set fig : Nat → Int32}
theorem ry_size {post : Int32 → Prop} {X : Int32} (z : Int) (h : post (rz_i (z.natAbs : Int))) (hX : X = rz_i z) (hz : -2147483647 ≤ z ∧ z < 2147483648) : wpY_size post (pen, set, fig) X := by
  subst hX
  refine rz_le 0 z (fun q => ?_) (fun q => ?_)
  · rw [show (z.natAbs : Int) = z from by omega] at h
    exact h
  · rw [rz_neg, show -z = (z.natAbs : Int) from by omega]
    exact h
theorem rl_near {post : Int32 → Prop} {X Y A B C D : Int32} (x y a b c d : Int) (hX : X = rz_i x) (hY : Y = rz_i y) (hA : A = rz_i a) (hB : B = rz_i b) (hC : C = rz_i c) (hD : D = rz_i d) (bx : 0 ≤ x ∧ x ≤ 23) (bb : 0 ≤ y ∧ y ≤ 23) (ba : 0 ≤ a ∧ a ≤ 23) (b1 : 0 ≤ b ∧ b ≤ 23) (bc : 0 ≤ c ∧ c ≤ 23) (bd : 0 ≤ d ∧ d ≤ 23) (hac : a < c) (h1 : (a ≤ x ∧ x ≤ c ∧ rl_N (c - a) (d - b) a b x y) → post 1) (h0 : ¬ (a ≤ x ∧ x ≤ c ∧ rl_N (c - a) (d - b) a b x y) → post 0) : wpY_nearest post (pen, set, fig) X Y A B C D := by
  subst hX hY hA hB hC hD
  have m1 := rz_mb (x := c - a) (y := y - b) (A := 23) (B := 23) (by omega) (by omega)
  have m2 := rz_mb (x := d - b) (y := x - a) (A := 23) (B := 23) (by omega) (by omega)
  have eN : rl_N (c - a) (d - b) a b x y ↔ (-(c - a) ≤ 2 * ((c - a) * (y - b) - (d - b) * (x - a)) ∧ 2 * ((c - a) * (y - b) - (d - b) * (x - a)) < c - a) := by
    unfold rl_N
    omega
  rw [eN] at h1 h0
  refine nm_r (rz_sub c a) (nm_r (e' := rz_i (2 * ((c - a) * (y - b) - (d - b) * (x - a)))) (by rw [rz_sub, rz_sub, rz_sub, rz_mul, rz_mul, rz_sub, rz_t2]) ?_)
  generalize (c - a) * (y - b) = p at *
  generalize (d - b) * (x - a) = q at *
  exact rz_lt x a (fun z => h0 (by omega)) (fun z1 => rz_lt c x (fun z => h0 (by omega)) (fun z2 => rz_lt (2 * (p - q)) (-(c - a)) (fun z => h0 (by omega)) (fun z3 => rz_le (c - a) (2 * (p - q)) (fun z => h0 (by omega)) (fun z4 => h1 (by omega))) rfl (rz_neg _)))
def rl_P (a b c d i j : Int) : Prop := ((d - b).natAbs ≤ (c - a).natAbs ∧ ((a ≤ c ∧ a ≤ i ∧ i ≤ c ∧ rl_N (c - a) (d - b) a b i j) ∨ (c < a ∧ c ≤ i ∧ i ≤ a ∧ rl_N (a - c) (b - d) c d i j))) ∨ ((c - a).natAbs < (d - b).natAbs ∧ ((b ≤ d ∧ b ≤ j ∧ j ≤ d ∧ rl_N (d - b) (c - a) b a j i) ∨ (d < b ∧ d ≤ j ∧ j ≤ b ∧ rl_N (b - d) (a - c) d c j i)))
theorem rl_on30 {post : Int32 → Prop} {X Y A B C D : Int32} (x y a b c d : Int) (hX : X = rz_i x) (hY : Y = rz_i y) (hA : A = rz_i a) (hB : B = rz_i b) (hC : C = rz_i c) (hD : D = rz_i d) (bx : 0 ≤ x ∧ x ≤ 23) (bb : 0 ≤ y ∧ y ≤ 23) (ba : 0 ≤ a ∧ a ≤ 23) (b1 : 0 ≤ b ∧ b ≤ 23) (bc : 0 ≤ c ∧ c ≤ 23) (bd : 0 ≤ d ∧ d ≤ 23) (hne : ¬ (a = c ∧ b = d)) (h1 : rl_P a b c d x y → post 1) (h0 : ¬ rl_P a b c d x y → post 0) : wY_onLine_30 post X Y A B C D pen set fig := by
  subst hX hY hA hB hC hD
  refine ry_size (a - c) (ry_size (b - d) ?_ (rz_sub b d) (by omega)) (rz_sub a c) (by omega)
  refine rz_lt ((a - c).natAbs : Int) ((b - d).natAbs : Int) (fun q => ?_) (fun q => ?_)
  · refine rz_le d b (fun q1 => ?_) (fun q1 => ?_)
    · refine rl_near y x d c b a rfl rfl rfl rfl rfl rfl bb bx bd bc b1 ba (by omega) (fun z => ⟨rfl, h1 (Or.inr ⟨by omega, Or.inr ⟨by omega, z.1, z.2.1, z.2.2⟩⟩)⟩) (fun z => ⟨rfl, h0 (fun z' => z ?_)⟩)
      rcases z' with ⟨z1, _⟩ | ⟨_, ⟨z1, _⟩ | ⟨_, z1⟩⟩
      · omega
      · omega
      · exact z1
    · refine rl_near y x b a d c rfl rfl rfl rfl rfl rfl bb bx b1 ba bd bc (by omega) (fun z => ⟨rfl, h1 (Or.inr ⟨by omega, Or.inl ⟨by omega, z.1, z.2.1, z.2.2⟩⟩)⟩) (fun z => ⟨rfl, h0 (fun z' => z ?_)⟩)
      rcases z' with ⟨z1, _⟩ | ⟨_, ⟨_, z1⟩ | ⟨z1, _⟩⟩
      · omega
      · exact z1
      · omega
  · refine rz_le c a (fun q1 => ?_) (fun q1 => ?_)
    · refine rl_near x y c d a b rfl rfl rfl rfl rfl rfl bx bb bc bd ba b1 (by omega) (fun z => ⟨rfl, h1 (Or.inl ⟨by omega, Or.inr ⟨by omega, z.1, z.2.1, z.2.2⟩⟩)⟩) (fun z => ⟨rfl, h0 (fun z' => z ?_)⟩)
      rcases z' with ⟨_, ⟨z1, _⟩ | ⟨_, z1⟩⟩ | ⟨z1, _⟩
      · omega
      · exact z1
      · omega
    · refine rl_near x y a b c d rfl rfl rfl rfl rfl rfl bx bb ba b1 bc bd (by omega) (fun z => ⟨rfl, h1 (Or.inl ⟨by omega, Or.inl ⟨by omega, z.1, z.2.1, z.2.2⟩⟩)⟩) (fun z => ⟨rfl, h0 (fun z' => z ?_)⟩)
      rcases z' with ⟨_, ⟨_, z1⟩ | ⟨z1, _⟩⟩ | ⟨z1, _⟩
      · exact z1
      · omega
      · omega
theorem rl_on {post : Int32 → Prop} {X Y A B C D : Int32} (x y a b c d : Int) (hX : X = rz_i x) (hY : Y = rz_i y) (hA : A = rz_i a) (hB : B = rz_i b) (hC : C = rz_i c) (hD : D = rz_i d) (bx : 0 ≤ x ∧ x ≤ 23) (bb : 0 ≤ y ∧ y ≤ 23) (ba : 0 ≤ a ∧ a ≤ 23) (b1 : 0 ≤ b ∧ b ≤ 23) (bc : 0 ≤ c ∧ c ≤ 23) (bd : 0 ≤ d ∧ d ≤ 23) (h1 : rl_P a b c d x y → post 1) (h0 : ¬ rl_P a b c d x y → post 0) : wpY_onLine post (pen, set, fig) X Y A B C D := by
  by_cases hne : a = c ∧ b = d
  · subst hX hY hA hB hC hD
    have e : rl_P a b c d x y ↔ x = a ∧ y = b := by
      obtain ⟨rfl, rfl⟩ := hne
      unfold rl_P
      constructor
      · rintro (⟨_, ⟨_, q1, q2, q3⟩ | ⟨q1, _⟩⟩ | ⟨q1, _⟩)
        · unfold rl_N at q3
          rw [Int.sub_self, Int.sub_self, Int.zero_mul, Int.zero_mul] at q3
          omega
        · omega
        · omega
      · rintro ⟨q1, q2⟩
        exact Or.inl ⟨by omega, Or.inl ⟨by omega, by omega, by omega, Or.inr ⟨by omega, q2⟩⟩⟩
    rw [e] at h1 h0
    exact rz_eq a c (fun q1 => rz_eq b d (fun q2 => rz_eq x a (fun q3 => rz_eq y b (fun q4 => h1 (by omega)) (fun q4 => h0 (by omega))) (fun q3 => h0 (by omega))) (fun q2 => absurd hne (by omega))) (fun q1 => absurd hne (by omega))
  · have k := rl_on30 (pen := pen) (set := set) (fig := fig) x y a b c d hX hY hA hB hC hD bx bb ba b1 bc bd hne h1 h0
    exact br_c (fun _ => br_c (fun _ => by exfalso; rename_i q1 q2; subst hA hB hC hD; rw [rz_eqI (by omega) (by omega)] at q1 q2; exact hne ⟨q1, q2⟩) (fun _ => k)) (fun _ => k)
theorem rl_Yl {post : Int32 → SY → Prop} {p1 p2 : Int32} {a b c d : Nat} (h1 : rp_P p1 a b) (h2 : rp_P p2 c d) (hp : ∀ f, rf_Y f (rl_P a b c d) → ∀ K : Int32 → SY → Prop, (∀ r s, post r (pen, s, f) → K r (pen, s, f)) → wpY_ink K (pen, set, f)) : ∀ n k : Nat, k ≤ 576 → 576 - k < n → ∀ f, rf_Yi f (rl_P a b c d) k → wY_line_20 post p1 p2 pen n (nI k) set f
  | 0, _, _, hn, _, _ => absurd hn (by omega)
  | n + 1, k, hk, hn, f, hf => by
    refine pk_le 576 k (fun q => ?_) (fun q => ?_)
    · obtain rfl : k = 576 := by omega
      exact hp f hf _ (fun _ _ z => z)
    · have b1 := h1.1
      have b2 := h1.2.1
      have b3 := h2.1
      have b4 := h2.2.1
      have st : ∀ v : Int32, ((v = 1 ∧ rl_P a b c d (k % 24 : Nat) (k / 24 : Nat)) ∨ (v = 0 ∧ ¬ rl_P a b c d (k % 24 : Nat) (k / 24 : Nat))) → ∀ f', f' = upd f (nI k).toNatClampNeg (vp_nar .boolean v) → ∀ x, x = nI k + 1 → wY_line_20 post p1 p2 pen n x set f' := by
        intro v hv f' ef x ex
        rw [ex, nI_1]
        exact rl_Yl h1 h2 hp n (k + 1) (by omega) (by omega) f' (rf_Ys hf q hv ef)
      have hin : vp_in (nI k) 576 := pk_in k 576 q
      refine ⟨by decide, by decide, by decide, by decide, by decide, by decide, rl_on (k % 24 : Nat) (k / 24 : Nat) a b c d ((rp_r24 (by omega)).trans (rz_nI _)) ((rp_d24 (by omega)).trans (rz_nI _)) ((rp_rem h1).trans (rz_nI _)) ((rp_div h1).trans (rz_nI _)) ((rp_rem h2).trans (rz_nI _)) ((rp_div h2).trans (rz_nI _)) (by omega) (by omega) (by omega) (by omega) (by omega) (by omega) (fun z => ⟨hin, st 1 (Or.inl ⟨rfl, z⟩)⟩) (fun z => ⟨hin, st 0 (Or.inr ⟨rfl, z⟩)⟩)⟩
end
end
section
def rd_T (B : Int → Int → Prop) (p q : Int) : Prop :=
  (∀ s t : Int, 0 ≤ s → s ≤ p → 0 ≤ t → t ≤ q → (q * q * s * s + p * p * t * t ≤ p * p * q * q ↔ B s t)) ∧ (∀ s s' t t' : Int, 0 ≤ s → s ≤ s' → 0 ≤ t → t ≤ t' → B s' t' → B s t) ∧ B 0 q ∧ ¬ B (p + 1) 0 ∧ ¬ B 0 (q + 1)
theorem rd_b4 {q s : Int} (hq : 0 ≤ q ∧ q ≤ 30) (hs : -30 ≤ s ∧ s ≤ 30) : -810000 ≤ q * q * s * s ∧ q * q * s * s ≤ 810000 := by
  have h1 := rz_mb (x := q) (y := q) (A := 30) (B := 30) (by omega) (by omega)
  have h2 := rz_mb (x := q * q) (y := s) (A := 900) (B := 30) (by omega) (by omega)
  have h3 := rz_mb (x := q * q * s) (y := s) (A := 27000) (B := 30) (by omega) (by omega)
  omega
section
variable {pm w : Int32} {rows fig rr rf rl : Nat → Int32}
theorem rd_23 {post : SX → Prop} {J : Int32 → Int32 → Int32 → Int32 → (Nat → Int32) → (Nat → Int32) → (Nat → Int32) → (Nat → Int32) → (Nat → Int32) → Prop} {B : Int → Int → Prop} {p q a b v : Int} (hB : rd_T B p q) (bp : 0 ≤ p ∧ p ≤ 30) (bq : 0 ≤ q ∧ q ≤ 30) (bv : 0 ≤ v ∧ v ≤ q)
    (hc : ∀ wd : Int, 0 ≤ wd → wd ≤ p → B wd v → ¬ B (wd + 1) v → wX_drawBlot_63 post J (rz_i p) (rz_i q) (rz_i a) (rz_i b) (rz_i wd) (rz_i v) pm w rows fig rr rf rl) :
    ∀ (n : Nat) (wd : Int), wd < n → 0 ≤ wd → wd ≤ p → ¬ B (wd + 1) v → wX_drawBlot_23 post J (rz_i p) (rz_i q) (rz_i a) (rz_i b) (rz_i v) pm w rows fig rr rf rl n (rz_i wd) := by
  intro n
  induction n with
  | zero => intro wd h1 h2; exact absurd h1 (by omega)
  | succ n ih =>
    intro wd h1 h2 h3 h4
    obtain ⟨t1, t2, t3, t4, t5⟩ := hB
    have b1 := rd_b4 (q := q) (s := wd) bq (by omega)
    have b2 := rd_b4 (q := p) (s := v) bp (by omega)
    have b3 := rd_b4 (q := p) (s := q) bp (by omega)
    have e := t1 wd v h2 h3 bv.1 bv.2
    refine rz_lt wd 0 (fun z => absurd h2 (by omega)) (fun _ => ?_)
    refine rz_le (q * q * wd * wd + p * p * v * v) (p * p * q * q) (fun z => hc wd h2 h3 (e.mp z) h4) (fun z => ?_) (by simp only [rz_mul, rz_add]) (by simp only [rz_mul])
    have nB : ¬ B wd v := fun y => absurd (e.mpr y) (by omega)
    have wp : 1 ≤ wd := by
      by_cases c : wd = 0
      · subst c
        exact absurd (t2 0 0 v q (by omega) (by omega) bv.1 bv.2 t3) nB
      · omega
    exact nm_r (rz_m1 wd) (ih (wd - 1) (by omega) (by omega) (by omega) (by rw [show wd - 1 + 1 = wd from by omega]; exact nB))
theorem rd_l {post : SX → Prop} {B : Int → Int → Prop} {p q a b : Int} (hB : rd_T B p q) (bp : 0 ≤ p ∧ p ≤ 30) (bq : 0 ≤ q ∧ q ≤ 30) (ba : 0 ≤ a ∧ a ≤ 23) (bb : 0 ≤ b ∧ b ≤ 23)
    (hp : ∀ f, rf_S f (fun i j => B ((i - a).natAbs : Int) ((j - b).natAbs : Int)) → post (pm, w, rows, f, rr, rf, rl)) :
    ∀ (n : Nat) (v wd : Int), q + 1 - v < n → 0 ≤ v → v ≤ q + 1 → 0 ≤ wd → wd ≤ p → ¬ B (wd + 1) v → ∀ f, rf_S f (fun i j => ((j - b).natAbs : Int) < v ∧ B ((i - a).natAbs : Int) ((j - b).natAbs : Int)) → wX_drawBlot_17 post (rz_i p) (rz_i q) (rz_i a) (rz_i b) n (rz_i wd) (rz_i v) pm w rows f rr rf rl := by
  intro n
  induction n with
  | zero => intro v wd h1 h2 h3; exact absurd h1 (by omega)
  | succ n ih =>
    intro v wd h1 h2 h3 h4 h5 h6 f hf
    have hB' := hB
    obtain ⟨t1, t2, t3, t4, t5⟩ := hB'
    refine rz_lt q v (fun z => hp f (rf_c hf (fun i j _ _ _ _ => ?_))) (fun z => Exists.intro (wd.toNat + 1) (rd_23 hB bp bq ⟨h2, z⟩ (fun wd' g1 g2 g3 g4 => ?_) _ wd (by omega) h4 h5 h6))
    · constructor
      · exact fun y => y.2
      · intro y
        refine ⟨?_, y⟩
        by_cases c : ((j - b).natAbs : Int) ≤ q
        · omega
        · exact absurd (t2 0 _ (q + 1) _ (by omega) (by omega) (by omega) (by omega) y) t5
    · refine rz_le 0 wd' (fun _ => ?_) (fun y => absurd y (by omega))
      refine rf_run (b + v) (a - wd') (a + wd') hf (fun f1 hf1 => ?_) (rz_add b v) (rz_sub a wd') (rz_add a wd') (by omega) (by omega) (by omega)
      refine rf_run (b - v) (a - wd') (a + wd') hf1 (fun f2 hf2 => ?_) (rz_sub b v) (rz_sub a wd') (rz_add a wd') (by omega) (by omega) (by omega)
      refine nm_r (rz_p1 v) (ih (v + 1) wd' (by omega) (by omega) (by omega) g1 g2 (fun y => g4 (t2 _ _ v (v + 1) (by omega) (by omega) h2 (by omega) y)) f2 (rf_c hf2 (fun i j _ _ _ _ => ?_)))
      constructor
      · rintro ((y | y) | y)
        · exact ⟨by omega, y.2⟩
        · have e : ((j - b).natAbs : Int) = v := by omega
          rw [e]
          exact ⟨by omega, t2 _ wd' v v (by omega) (by omega) h2 (by omega) g3⟩
        · have e : ((j - b).natAbs : Int) = v := by omega
          rw [e]
          exact ⟨by omega, t2 _ wd' v v (by omega) (by omega) h2 (by omega) g3⟩
      · rintro ⟨y1, y2⟩
        by_cases c : ((j - b).natAbs : Int) < v
        · exact Or.inl (Or.inl ⟨c, y2⟩)
        · have e : ((j - b).natAbs : Int) = v := by omega
          rw [e] at y2
          have e2 : ((i - a).natAbs : Int) ≤ wd' := by
            by_cases c2 : ((i - a).natAbs : Int) ≤ wd'
            · exact c2
            · exact absurd (t2 (wd' + 1) _ v v (by omega) (by omega) h2 (by omega) y2) g4
          by_cases c3 : j = b + v
          · exact Or.inl (Or.inr ⟨c3, by omega, by omega⟩)
          · exact Or.inr ⟨by omega, by omega, by omega⟩
theorem rd_blot {post : SX → Prop} {B : Int → Int → Prop} {p q : Int} {m : Int32} {a b : Nat} (hB : rd_T B p q) (bp : 0 ≤ p ∧ p ≤ 30) (bq : 0 ≤ q ∧ q ≤ 30) (hm : rp_P m a b) (h : rf_S fig (fun _ _ => False))
    (hp : ∀ f, rf_S f (fun i j => B ((i - (a : Int)).natAbs : Int) ((j - (b : Int)).natAbs : Int)) → post (pm, w, rows, f, rr, rf, rl)) : wpX_drawBlot post (pm, w, rows, fig, rr, rf, rl) m (rz_i p) (rz_i q) := by
  have h1 := hm.1
  have h2 := hm.2.1
  refine nm_r ((rp_and hm).trans (rz_nI a)) (nm_r ((rp_shr hm).trans (rz_nI b)) (Exists.intro (q.toNat + 2) (rd_l hB bp bq (by omega) (by omega) hp _ 0 p (by omega) (by omega) (by omega) bp.1 (by omega) hB.2.2.2.1 fig (rf_c h (fun i j _ _ _ _ => ⟨False.elim, fun z => ?_⟩)))))
  have := z.1
  omega
end
def rd_D (r s t : Int) : Prop := s * s + t * t ≤ r * r
def rd_B (p q s t : Int) : Prop := q * q * s * s + p * p * t * t ≤ p * p * q * q
theorem rd_as (q s : Int) : q * q * s * s = q * q * (s * s) := Int.mul_assoc _ _ _
theorem rd_DT {r : Int} (hr : 0 ≤ r) : rd_T (rd_D r) r r := by
  unfold rd_D
  refine ⟨?_, ?_, ?_, ?_, ?_⟩
  · intro s t h1 h2 h3 h4
    rw [rd_as, rd_as, rd_as, ← Int.mul_add]
    by_cases c : r = 0
    · subst c
      have e1 : s = 0 := by omega
      have e2 : t = 0 := by omega
      subst e1 e2
      exact Iff.rfl
    · exact Int.mul_le_mul_left (Int.mul_pos (by omega) (by omega))
  · intro s s' t t' h1 h2 h3 h4 h5
    have := rz_mm h1 h2 h1 h2
    have := rz_mm h3 h4 h3 h4
    omega
  · show (0 : Int) * 0 + r * r ≤ r * r
    rw [Int.zero_mul]
    omega
  · intro z
    have : (r + 1) * (r + 1) = r * r + 2 * r + 1 := by
      rw [Int.add_mul, Int.mul_add]
      omega
    omega
  · intro z
    have : (r + 1) * (r + 1) = r * r + 2 * r + 1 := by
      rw [Int.add_mul, Int.mul_add]
      omega
    omega
theorem rd_BT {p q : Int} (hp : 1 ≤ p) (hq : 1 ≤ q) : rd_T (rd_B p q) p q := by
  have pp : 0 ≤ p * p := Int.mul_nonneg (by omega) (by omega)
  have qq : 0 ≤ q * q := Int.mul_nonneg (by omega) (by omega)
  unfold rd_B
  refine ⟨?_, ?_, ?_, ?_, ?_⟩
  · intro s t h1 h2 h3 h4
    exact Iff.rfl
  · intro s s' t t' h1 h2 h3 h4 h5
    have e1 := rz_mm h1 h2 h1 h2
    have e2 := rz_mm h3 h4 h3 h4
    have e3 := Int.mul_le_mul_of_nonneg_left e1 qq
    have e4 := Int.mul_le_mul_of_nonneg_left e2 pp
    rw [← rd_as, ← rd_as] at e3 e4
    omega
  · show q * q * 0 * 0 + p * p * q * q ≤ p * p * q * q
    rw [Int.mul_zero]
    omega
  · intro z
    have e : q * q * (p + 1) * (p + 1) = q * q * (p * p) + q * q * (2 * p + 1) := by
      rw [rd_as, ← Int.mul_add]
      refine congrArg (q * q * ·) ?_
      rw [Int.add_mul, Int.mul_add]
      omega
    have e2 : 0 < q * q * (2 * p + 1) := Int.mul_pos (Int.mul_pos (by omega) (by omega)) (by omega)
    have e3 : p * p * q * q = q * q * (p * p) := by rw [rd_as, Int.mul_comm]
    rw [Int.mul_zero] at z
    omega
  · intro z
    have e : p * p * (q + 1) * (q + 1) = p * p * (q * q) + p * p * (2 * q + 1) := by
      rw [rd_as, ← Int.mul_add]
      refine congrArg (p * p * ·) ?_
      rw [Int.add_mul, Int.mul_add]
      omega
    have e2 : 0 < p * p * (2 * q + 1) := Int.mul_pos (Int.mul_pos (by omega) (by omega)) (by omega)
    have e3 : p * p * q * q = p * p * (q * q) := rd_as p q
    rw [Int.mul_zero] at z
    omega
section
variable {pen : Int32} {set fig : Nat → Int32}
theorem rd_Yd {post : Int32 → SY → Prop} {m : Int32} {a b : Nat} {r : Int} (hm : rp_P m a b) (br : 0 ≤ r ∧ r ≤ 30) (hp : ∀ f, rf_Y f (fun i j => rd_D r ((i - (a : Int)).natAbs : Int) ((j - (b : Int)).natAbs : Int)) → ∀ K : Int32 → SY → Prop, (∀ r s, post r (pen, s, f) → K r (pen, s, f)) → wpY_ink K (pen, set, f)) : ∀ n k : Nat, k ≤ 576 → 576 - k < n → ∀ f, rf_Yi f (fun i j => rd_D r ((i - (a : Int)).natAbs : Int) ((j - (b : Int)).natAbs : Int)) k → wY_disc_13 post m (rz_i r) pen n (nI k) set f
  | 0, _, _, hn, _, _ => absurd hn (by omega)
  | n + 1, k, hk, hn, f, hf => by
    refine pk_le 576 k (fun q => ?_) (fun q => ?_)
    · obtain rfl : k = 576 := by omega
      exact hp f hf _ (fun _ _ z => z)
    · have b1 := hm.1
      have b2 := hm.2.1
      have st : ∀ v : Int32, ((v = 1 ∧ rd_D r ((((k % 24 : Nat) : Int) - (a : Int)).natAbs : Int) ((((k / 24 : Nat) : Int) - (b : Int)).natAbs : Int)) ∨ (v = 0 ∧ ¬ rd_D r ((((k % 24 : Nat) : Int) - (a : Int)).natAbs : Int) ((((k / 24 : Nat) : Int) - (b : Int)).natAbs : Int))) → ∀ f', f' = upd f (nI k).toNatClampNeg (vp_nar .boolean v) → ∀ x, x = nI k + 1 → wY_disc_13 post m (rz_i r) pen n x set f' := by
        intro v hv f' ef x ex
        rw [ex, nI_1]
        exact rd_Yd hm br hp n (k + 1) (by omega) (by omega) f' (rf_Ys hf q hv ef)
      unfold rd_D at st
      rw [Int.natAbs_mul_self', Int.natAbs_mul_self'] at st
      have hin : vp_in (nI k) 576 := pk_in k 576 q
      refine ⟨by decide, by decide, nm_r (e' := rz_i (((k % 24 : Nat) : Int) - (a : Int))) (by rw [rp_r24 (by omega), rp_rem hm, rz_nI, rz_nI, rz_sub]) ⟨by decide, by decide, nm_r (e' := rz_i (((k / 24 : Nat) : Int) - (b : Int))) (by rw [rp_d24 (by omega), rp_div hm, rz_nI, rz_nI, rz_sub]) ?_⟩⟩
      have m1 := rz_mb (x := ((k % 24 : Nat) : Int) - (a : Int)) (y := ((k % 24 : Nat) : Int) - (a : Int)) (A := 23) (B := 23) (by omega) (by omega)
      have m2 := rz_mb (x := ((k / 24 : Nat) : Int) - (b : Int)) (y := ((k / 24 : Nat) : Int) - (b : Int)) (A := 23) (B := 23) (by omega) (by omega)
      have m3 := rz_mb (x := r) (y := r) (A := 30) (B := 30) (by omega) (by omega)
      generalize ((k % 24 : Nat) : Int) - (a : Int) = X at *
      generalize ((k / 24 : Nat) : Int) - (b : Int) = Y at *
      exact rz_lt (r * r) (X * X + Y * Y) (fun z => ⟨hin, st 0 (Or.inr ⟨rfl, by omega⟩)⟩) (fun z => ⟨hin, st 1 (Or.inl ⟨rfl, z⟩)⟩) (rz_mul r r) (by simp only [rz_mul, rz_add])
theorem rd_Yb {post : Int32 → SY → Prop} {m : Int32} {a b : Nat} {p0 q0 : Int} (hm : rp_P m a b) (bp : 0 ≤ p0 ∧ p0 ≤ 30) (bq : 0 ≤ q0 ∧ q0 ≤ 30) (hp : ∀ f, rf_Y f (fun i j => rd_B p0 q0 ((i - (a : Int)).natAbs : Int) ((j - (b : Int)).natAbs : Int)) → ∀ K : Int32 → SY → Prop, (∀ r s, post r (pen, s, f) → K r (pen, s, f)) → wpY_ink K (pen, set, f)) : ∀ n k : Nat, k ≤ 576 → 576 - k < n → ∀ f, rf_Yi f (fun i j => rd_B p0 q0 ((i - (a : Int)).natAbs : Int) ((j - (b : Int)).natAbs : Int)) k → wY_blot_23 post m (rz_i p0) (rz_i q0) pen n (nI k) set f
  | 0, _, _, hn, _, _ => absurd hn (by omega)
  | n + 1, k, hk, hn, f, hf => by
    refine pk_le 576 k (fun q => ?_) (fun q => ?_)
    · obtain rfl : k = 576 := by omega
      exact hp f hf _ (fun _ _ z => z)
    · have b1 := hm.1
      have b2 := hm.2.1
      have st : ∀ v : Int32, ((v = 1 ∧ rd_B p0 q0 ((((k % 24 : Nat) : Int) - (a : Int)).natAbs : Int) ((((k / 24 : Nat) : Int) - (b : Int)).natAbs : Int)) ∨ (v = 0 ∧ ¬ rd_B p0 q0 ((((k % 24 : Nat) : Int) - (a : Int)).natAbs : Int) ((((k / 24 : Nat) : Int) - (b : Int)).natAbs : Int))) → ∀ f', f' = upd f (nI k).toNatClampNeg (vp_nar .boolean v) → ∀ x, x = nI k + 1 → wY_blot_23 post m (rz_i p0) (rz_i q0) pen n x set f' := by
        intro v hv f' ef x ex
        rw [ex, nI_1]
        exact rd_Yb hm bp bq hp n (k + 1) (by omega) (by omega) f' (rf_Ys hf q hv ef)
      unfold rd_B at st
      rw [rd_as, rd_as p0, Int.natAbs_mul_self', Int.natAbs_mul_self', ← rd_as, ← rd_as p0] at st
      have hin : vp_in (nI k) 576 := pk_in k 576 q
      refine ⟨by decide, by decide, nm_r (e' := rz_i (((k % 24 : Nat) : Int) - (a : Int))) (by rw [rp_r24 (by omega), rp_rem hm, rz_nI, rz_nI, rz_sub]) ⟨by decide, by decide, nm_r (e' := rz_i (((k / 24 : Nat) : Int) - (b : Int))) (by rw [rp_d24 (by omega), rp_div hm, rz_nI, rz_nI, rz_sub]) ?_⟩⟩
      have m1 := rd_b4 (q := q0) (s := ((k % 24 : Nat) : Int) - (a : Int)) bq (by omega)
      have m2 := rd_b4 (q := p0) (s := ((k / 24 : Nat) : Int) - (b : Int)) bp (by omega)
      have m3 := rd_b4 (q := p0) (s := q0) bp (by omega)
      generalize ((k % 24 : Nat) : Int) - (a : Int) = X at *
      generalize ((k / 24 : Nat) : Int) - (b : Int) = Y at *
      exact rz_lt (p0 * p0 * q0 * q0) (q0 * q0 * X * X + p0 * p0 * Y * Y) (fun z => ⟨hin, st 0 (Or.inr ⟨rfl, by omega⟩)⟩) (fun z => ⟨hin, st 1 (Or.inl ⟨rfl, z⟩)⟩) (by simp only [rz_mul]) (by simp only [rz_mul, rz_add])
end
section
variable {pm w : Int32} {rows fig rr rf rl : Nat → Int32}
theorem rd_cross_l {post : SX → Prop} {p q a b : Int} (bp : 0 ≤ p ∧ p ≤ 30) (bq : 0 ≤ q ∧ q ≤ 30) (hpq : p = 0 ∨ q = 0) (ba : 0 ≤ a ∧ a ≤ 23) (bb : 0 ≤ b ∧ b ≤ 23)
    (hp : ∀ f, rf_S f (fun i j => (p = 0 ∧ q = 0) ∨ (p = 0 ∧ i = a) ∨ (p ≠ 0 ∧ j = b)) → post (pm, w, rows, f, rr, rf, rl)) :
    ∀ (n : Nat) (y : Int), 24 - y < n → 0 ≤ y → y ≤ 24 → ∀ f, rf_S f (fun i j => j < y ∧ ((p = 0 ∧ q = 0) ∨ (p = 0 ∧ i = a) ∨ (p ≠ 0 ∧ j = b))) → wX_drawCross_14 post (rz_i p) (rz_i q) (rz_i a) (rz_i b) n (rz_i y) pm w rows f rr rf rl := by
  intro n
  induction n with
  | zero => intro y h1 h2 h3; exact absurd h1 (by omega)
  | succ n ih =>
    intro y h1 h2 h3 f hf
    refine rz_le 24 y (fun z => hp f (rf_c hf (fun i j _ _ _ _ => by omega))) (fun z => ?_)
    have K : ∀ f', rf_S f' (fun i j => j < y + 1 ∧ ((p = 0 ∧ q = 0) ∨ (p = 0 ∧ i = a) ∨ (p ≠ 0 ∧ j = b))) → ∀ x, x = rz_i y + 1 → wX_drawCross_14 post (rz_i p) (rz_i q) (rz_i a) (rz_i b) n x pm w rows f' rr rf rl := by
      intro f' hf' x ex
      rw [ex, rz_p1]
      exact ih (y + 1) (by omega) (by omega) (by omega) f' hf'
    have run : (p = 0 ∧ q = 0) ∨ (p ≠ 0 ∧ y = b) → ∀ (g : SX → Prop), (∀ f', rf_S f' (fun i j => j < y + 1 ∧ ((p = 0 ∧ q = 0) ∨ (p = 0 ∧ i = a) ∨ (p ≠ 0 ∧ j = b))) → g (pm, w, rows, f', rr, rf, rl)) → wpX_run g (pm, w, rows, f, rr, rf, rl) (rz_i y) 0 23 := by
      intro c g hg
      exact rf_run y 0 23 hf (fun f' hf' => hg f' (rf_c hf' (fun i j _ _ _ _ => by omega))) rfl rfl rfl (by omega) (by omega) (by omega)
    have c41 : ¬ (p = 0 ∧ q = 0) → wX_drawCross_41 post (wX_drawCross_14 post (rz_i p) (rz_i q) (rz_i a) (rz_i b) n) (rz_i p) (rz_i q) (rz_i a) (rz_i b) (rz_i y) pm w rows f rr rf rl := by
      intro c
      refine rz_eq p 0 (fun z1 => ?_) (fun z1 => ?_)
      · exact rf_dot a y hf (fun f' hf' => K f' (rf_c hf' (fun i j _ _ _ _ => by omega))) rfl rfl (by omega) (by omega)
      · exact rz_eq y b (fun z2 => run (Or.inr ⟨z1, z2⟩) _ (fun f' hf' => K f' hf')) (fun z2 => K f (rf_c hf (fun i j _ _ _ _ => by omega)))
    exact rz_eq p 0 (fun z1 => rz_eq q 0 (fun z2 => run (Or.inl ⟨z1, z2⟩) _ (fun f' hf' => K f' hf')) (fun z2 => c41 (by omega))) (fun z1 => c41 (by omega))
theorem rd_crB {p q i j : Int} (bp : 0 ≤ p) (bq : 0 ≤ q) (hpq : p = 0 ∨ q = 0) : ((p = 0 ∧ q = 0) ∨ (p = 0 ∧ i = 0) ∨ (p ≠ 0 ∧ j = 0)) ↔ rd_B p q i j := by
  unfold rd_B
  by_cases c : p = 0
  · subst c
    simp only [Int.zero_mul, Int.add_zero]
    by_cases c2 : q = 0
    · subst c2
      simp
    · constructor
      · rintro (z | z | z)
        · omega
        · rw [z.2, Int.mul_zero]
          omega
        · omega
      · intro z
        right; left
        refine ⟨by trivial, ?_⟩
        by_cases c3 : i = 0
        · exact c3
        · exfalso
          have e1 : 0 < q * q := Int.mul_pos (by omega) (by omega)
          have e2 : 0 < i * i := by
            rcases Int.lt_or_gt_of_ne c3 with c4 | c4
            · exact Int.mul_pos_of_neg_of_neg c4 c4
            · exact Int.mul_pos c4 c4
          have e3 := Int.mul_pos e1 e2
          rw [← rd_as] at e3
          omega
  · have c2 : q = 0 := by omega
    subst c2
    simp only [Int.zero_mul, Int.mul_zero, Int.zero_add]
    constructor
    · rintro (z | z | z)
      · omega
      · omega
      · rw [z.2, Int.mul_zero]
        omega
    · intro z
      right; right
      refine ⟨c, ?_⟩
      by_cases c3 : j = 0
      · exact c3
      · exfalso
        have e1 : 0 < p * p := Int.mul_pos (by omega) (by omega)
        have e2 : 0 < j * j := by
          rcases Int.lt_or_gt_of_ne c3 with c4 | c4
          · exact Int.mul_pos_of_neg_of_neg c4 c4
          · exact Int.mul_pos c4 c4
        have e3 := Int.mul_pos e1 e2
        rw [← rd_as] at e3
        omega
theorem rd_cross {post : SX → Prop} {p q : Int} {m : Int32} {a b : Nat} (bp : 0 ≤ p ∧ p ≤ 30) (bq : 0 ≤ q ∧ q ≤ 30) (hpq : p = 0 ∨ q = 0) (hm : rp_P m a b) (h : rf_S fig (fun _ _ => False))
    (hp : ∀ f, rf_S f (fun i j => rd_B p q ((i - (a : Int)).natAbs : Int) ((j - (b : Int)).natAbs : Int)) → post (pm, w, rows, f, rr, rf, rl)) : wpX_drawCross post (pm, w, rows, fig, rr, rf, rl) m (rz_i p) (rz_i q) := by
  have h1 := hm.1
  have h2 := hm.2.1
  refine nm_r ((rp_and hm).trans (rz_nI a)) (nm_r ((rp_shr hm).trans (rz_nI b)) (Exists.intro 25 (rd_cross_l bp bq hpq (by omega) (by omega) (fun f hf => hp f (rf_c hf (fun i j _ _ _ _ => ?_))) 25 0 (by omega) (by omega) (by omega) fig (rf_c h (fun i j _ _ _ _ => ⟨False.elim, fun z => ?_⟩)))))
  · refine Iff.trans ?_ (rd_crB bp.1 bq.1 hpq)
    omega
  · have := z.1
    omega
end
end
section
def rg_A (r s t : Int) : Prop := s ≤ t ∧ (t = 0 ∨ t * t - t + s * s < r * r) ∧ r * r ≤ t * t + t + s * s
theorem rg_step {u v : Int} (h0 : 0 ≤ u) (h : u + 1 ≤ v) : u * u + u ≤ v * v - v := by
  have e := rz_mm (a := u + 1) (b := v) (c := u) (d := v - 1) (by omega) (by omega) (by omega) (by omega)
  rw [Int.add_mul, Int.mul_sub] at e
  omega
theorem rg_one {r u v x : Int} (hu : 0 ≤ u) (hv : 0 ≤ v) (hx : 0 ≤ x) (huv : u ≤ v) (h1 : r * r ≤ v * v + v + u * u) (h2 : v = 0 ∨ v * v - v + u * u < r * r) : rg_A r u x ↔ x = v := by
  unfold rg_A
  constructor
  · rintro ⟨a1, a2, a3⟩
    by_cases c1 : x + 1 ≤ v
    · have := rg_step hx c1
      omega
    · by_cases c2 : v + 1 ≤ x
      · have := rg_step hv c2
        omega
      · omega
  · intro e
    subst e
    exact ⟨huv, h2, h1⟩
theorem rg_none {r u v s t : Int} (hu : 0 ≤ u) (hv : 0 ≤ v) (huv : v < u) (h1 : r * r ≤ v * v + v + u * u) (hs : u ≤ s) : ¬ rg_A r s t := by
  unfold rg_A
  rintro ⟨a1, a2, a3⟩
  have e1 := rg_step (u := v) (v := t) hv (by omega)
  have e2 := rz_mm hu hs hu hs
  omega
section
variable {pm w : Int32} {rows fig rr rf rl : Nat → Int32}
theorem rg_eight {post : SX → Prop} {P : Int → Int → Prop} (a b u v : Int) (h : rf_S fig P) (ba : 0 ≤ a ∧ a ≤ 23) (bb : 0 ≤ b ∧ b ≤ 23) (bu : 0 ≤ u ∧ u ≤ 31) (bv : 0 ≤ v ∧ v ≤ 31)
    (hp : ∀ f, rf_S f (fun i j => P i j ∨ ((((i - a).natAbs : Int) = u ∧ ((j - b).natAbs : Int) = v) ∨ (((j - b).natAbs : Int) = u ∧ ((i - a).natAbs : Int) = v))) → post (pm, w, rows, f, rr, rf, rl)) : wpX_eightDots post (pm, w, rows, fig, rr, rf, rl) (rz_i a) (rz_i b) (rz_i u) (rz_i v) := by
  refine Exists.intro 3 ?_
  refine rz_lt 1 (-1) (fun z => absurd z (by omega)) (fun _ => ?_)
  have em : (-1 : Int32) * rz_i v = rz_i (-v) := by
    rw [show (-1 : Int32) = rz_i (-1) from rfl, rz_mul]
    exact congrArg rz_i (by omega)
  have ep : ((-1 : Int32) + 2) * rz_i v = rz_i v := by
    rw [show (-1 : Int32) + 2 = rz_i 1 from rfl, rz_mul]
    exact congrArg rz_i (by omega)
  refine rf_dot (a + u) (b + -v) h (fun f1 h1 => ?_) (rz_add a u) (by rw [em, rz_add]) (by omega) (by omega)
  refine rf_dot (a - u) (b + -v) h1 (fun f2 h2 => ?_) (rz_sub a u) (by rw [em, rz_add]) (by omega) (by omega)
  refine rf_dot (a + -v) (b + u) h2 (fun f3 h3 => ?_) (by rw [em, rz_add]) (rz_add b u) (by omega) (by omega)
  refine rf_dot (a + -v) (b - u) h3 (fun f4 h4 => ?_) (by rw [em, rz_add]) (rz_sub b u) (by omega) (by omega)
  refine nm_e ?_
  refine rz_lt 1 1 (fun z => absurd z (by omega)) (fun _ => ?_) rfl rfl
  refine rf_dot (a + u) (b + v) h4 (fun f5 h5 => ?_) (rz_add a u) (by rw [ep, rz_add]) (by omega) (by omega)
  refine rf_dot (a - u) (b + v) h5 (fun f6 h6 => ?_) (rz_sub a u) (by rw [ep, rz_add]) (by omega) (by omega)
  refine rf_dot (a + v) (b + u) h6 (fun f7 h7 => ?_) (by rw [ep, rz_add]) (rz_add b u) (by omega) (by omega)
  refine rf_dot (a + v) (b - u) h7 (fun f8 h8 => ?_) (by rw [ep, rz_add]) (rz_sub b u) (by omega) (by omega)
  refine nm_e ?_
  refine rz_lt 1 3 (fun _ => hp f8 (rf_c h8 (fun i j _ _ _ _ => ?_))) (fun z => absurd z (by omega)) rfl rfl
  simp only [or_assoc]
  refine or_congr Iff.rfl ?_
  constructor
  · rintro (z | z | z | z | z | z | z | z) <;> omega
  · rintro (⟨z1, z2⟩ | ⟨z1, z2⟩)
    · have c1 : i = a + u ∨ i = a - u := by omega
      have c2 : j = b + -v ∨ j = b + v := by omega
      rcases c1 with c1 | c1 <;> rcases c2 with c2 | c2 <;> simp [c1, c2]
    · have c1 : i = a + -v ∨ i = a + v := by omega
      have c2 : j = b + u ∨ j = b - u := by omega
      rcases c1 with c1 | c1 <;> rcases c2 with c2 | c2 <;> simp [c1, c2]
theorem rg_13 {post : SX → Prop} {J : Int32 → Int32 → Int32 → Int32 → (Nat → Int32) → (Nat → Int32) → (Nat → Int32) → (Nat → Int32) → (Nat → Int32) → Prop} {A B : Int32} {r u : Int} (br : 0 ≤ r ∧ r ≤ 30) (bu : 0 ≤ u ∧ u ≤ 31)
    (hc : ∀ v : Int, 0 ≤ v → v ≤ r → r * r ≤ v * v + v + u * u → (v = 0 ∨ v * v - v + u * u < r * r) → wX_drawRing_44 post J A B (rz_i r) (rz_i v) (rz_i u) pm w rows fig rr rf rl) :
    ∀ (n : Nat) (v : Int), v < n → 0 ≤ v → v ≤ r → r * r ≤ v * v + v + u * u → wX_drawRing_13 post J A B (rz_i r) (rz_i u) pm w rows fig rr rf rl n (rz_i v) := by
  intro n
  induction n with
  | zero => intro v h1 h2; exact absurd h1 (by omega)
  | succ n ih =>
    intro v h1 h2 h3 h4
    have m1 := rz_mb (x := v) (y := v) (A := 30) (B := 30) (by omega) (by omega)
    have m2 := rz_mb (x := u) (y := u) (A := 31) (B := 31) (by omega) (by omega)
    have m3 := rz_mb (x := r) (y := r) (A := 30) (B := 30) (by omega) (by omega)
    refine rz_le v 0 (fun z => hc v h2 h3 h4 (Or.inl (by omega))) (fun z => ?_)
    refine rz_lt (v * v - v + u * u) (r * r) (fun z1 => hc v h2 h3 h4 (Or.inr z1)) (fun z1 => ?_) (by simp only [rz_mul, rz_sub, rz_add]) (rz_mul r r)
    refine nm_r (rz_m1 v) (ih (v - 1) (by omega) (by omega) (by omega) ?_)
    have e : (v - 1) * (v - 1) + (v - 1) = v * v - v := by
      rw [Int.sub_mul, Int.mul_sub]
      omega
    omega
theorem rg_l {post : SX → Prop} {r a b : Int} (br : 0 ≤ r ∧ r ≤ 30) (ba : 0 ≤ a ∧ a ≤ 23) (bb : 0 ≤ b ∧ b ≤ 23)
    (hp : ∀ f, rf_S f (fun i j => rg_A r ((i - a).natAbs : Int) ((j - b).natAbs : Int) ∨ rg_A r ((j - b).natAbs : Int) ((i - a).natAbs : Int)) → post (pm, w, rows, f, rr, rf, rl)) :
    ∀ (n : Nat) (u v : Int), 31 - u < n → 0 ≤ u → u ≤ 31 → 0 ≤ v → v ≤ r → r * r ≤ v * v + v + u * u → ∀ f, rf_S f (fun i j => (((i - a).natAbs : Int) < u ∧ rg_A r ((i - a).natAbs : Int) ((j - b).natAbs : Int)) ∨ (((j - b).natAbs : Int) < u ∧ rg_A r ((j - b).natAbs : Int) ((i - a).natAbs : Int))) → wX_drawRing_6 post (rz_i a) (rz_i b) (rz_i r) n (rz_i v) (rz_i u) pm w rows f rr rf rl := by
  intro n
  induction n with
  | zero => intro u v h1 h2 h3; exact absurd h1 (by omega)
  | succ n ih =>
    intro u v h1 h2 h3 h4 h5 h6 f hf
    have fin : ∀ v' : Int, 0 ≤ v' → v' < u → r * r ≤ v' * v' + v' + u * u → post (pm, w, rows, f, rr, rf, rl) := by
      intro v' g1 g2 g3
      refine hp f (rf_c hf (fun i j _ _ _ _ => ?_))
      have no : ∀ s t : Int, rg_A r s t → s < u := fun s t y => by
        by_cases c : s < u
        · exact c
        · exact absurd y (rg_none h2 g1 g2 g3 (by omega))
      constructor
      · exact fun y => y.imp (fun y => y.2) (fun y => y.2)
      · exact fun y => y.imp (fun y => ⟨no _ _ y, y⟩) (fun y => ⟨no _ _ y, y⟩)
    refine rz_lt v u (fun z => fin v h4 z h6) (fun z => Exists.intro (v.toNat + 1) (rg_13 br ⟨h2, h3⟩ (fun v' g1 g2 g3 g4 => ?_) _ v (by omega) h4 h5 h6))
    refine rz_le u v' (fun y => ?_) (fun y => fin v' g1 y g3)
    refine rg_eight a b u v' hf ba bb (by omega) (by omega) (fun f' hf' => nm_r (rz_p1 u) (ih (u + 1) v' (by omega) (by omega) (by omega) g1 g2 ?_ f' (rf_c hf' (fun i j _ _ _ _ => ?_))))
    · have e : (u + 1) * (u + 1) = u * u + 2 * u + 1 := by
        rw [Int.add_mul, Int.mul_add]
        omega
      omega
    · have one : ∀ s t : Int, 0 ≤ t → s = u → (rg_A r s t ↔ t = v') := fun s t k1 k2 => by
        rw [k2]
        exact rg_one h2 g1 k1 y g3 g4
      have s1 : ∀ s t : Int, 0 ≤ t → ((s < u ∧ rg_A r s t) ∨ (s = u ∧ t = v') ↔ s < u + 1 ∧ rg_A r s t) := by
        intro s t k1
        by_cases c : s = u
        · rw [one s t k1 c]
          omega
        · constructor
          · rintro (k | k)
            · exact ⟨by omega, k.2⟩
            · exact absurd k.1 c
          · rintro ⟨k2, k3⟩
            exact Or.inl ⟨by omega, k3⟩
      rw [← s1 ((i - a).natAbs : Int) ((j - b).natAbs : Int) (by omega), ← s1 ((j - b).natAbs : Int) ((i - a).natAbs : Int) (by omega)]
      constructor
      · rintro ((k | k) | (k | k))
        · exact Or.inl (Or.inl k)
        · exact Or.inr (Or.inl k)
        · exact Or.inl (Or.inr k)
        · exact Or.inr (Or.inr k)
      · rintro ((k | k) | (k | k))
        · exact Or.inl (Or.inl k)
        · exact Or.inr (Or.inl k)
        · exact Or.inl (Or.inr k)
        · exact Or.inr (Or.inr k)
theorem rg_ring {post : SX → Prop} {r : Int} {a b : Nat} {A B : Int32} (br : 0 ≤ r ∧ r ≤ 30) (ha : a < 24) (hb : b < 24) (hA : A = nI a) (hB : B = nI b) (h : rf_S fig (fun _ _ => False))
    (hp : ∀ f, rf_S f (fun i j => rg_A r ((i - (a : Int)).natAbs : Int) ((j - (b : Int)).natAbs : Int) ∨ rg_A r ((j - (b : Int)).natAbs : Int) ((i - (a : Int)).natAbs : Int)) → post (pm, w, rows, f, rr, rf, rl)) : wpX_drawRing post (pm, w, rows, fig, rr, rf, rl) A B (rz_i r) := by
  rw [rz_nI] at hA hB
  subst hA hB
  refine Exists.intro 32 (rg_l br (by omega) (by omega) hp 32 0 r (by omega) (by omega) (by omega) br.1 (by omega) (by omega) fig (rf_c h (fun i j _ _ _ _ => ⟨False.elim, fun z => ?_⟩)))
  rcases z with z | z
  · have := z.1
    omega
  · have := z.1
    omega
end
section
variable {pen : Int32} {set fig : Nat → Int32}
theorem rg_arc {post : Int32 → Prop} (x y r : Int) (bx : -23 ≤ x ∧ x ≤ 23) (bb : -23 ≤ y ∧ y ≤ 23) (br : 0 ≤ r ∧ r ≤ 30) (h1 : rg_A r (x.natAbs : Int) (y.natAbs : Int) → post 1) (h0 : ¬ rg_A r (x.natAbs : Int) (y.natAbs : Int) → post 0) : wpY_onArc post (pen, set, fig) (rz_i x) (rz_i y) (rz_i r) := by
  unfold rg_A at h1 h0
  rw [Int.natAbs_mul_self' x] at h1 h0
  unfold wpY_onArc
  dsimp only
  refine ry_size y ?_ rfl (by omega)
  have m1 := rz_mb (x := x) (y := x) (A := 23) (B := 23) (by omega) (by omega)
  have m3 := rz_mb (x := r) (y := r) (A := 30) (B := 30) (by omega) (by omega)
  have m2 := rz_mb (x := (y.natAbs : Int)) (y := (y.natAbs : Int)) (A := 23) (B := 23) (by omega) (by omega)
  have m6 : 0 ≤ r * r := Int.mul_nonneg br.1 br.1
  have yp : 0 ≤ (y.natAbs : Int) := by omega
  have y23 : (y.natAbs : Int) ≤ 23 := by omega
  have m5 : (y.natAbs : Int) ≠ 0 → (y.natAbs : Int) ≤ (y.natAbs : Int) * (y.natAbs : Int) := fun k => by
    have := rz_mm (a := 1) (b := (y.natAbs : Int)) (c := (y.natAbs : Int)) (d := (y.natAbs : Int)) (by omega) (by omega) (by omega) (by omega)
    omega
  have x0 : (x.natAbs : Int) ≤ 0 → x * x = 0 := fun k => by
    have : x = 0 := by omega
    rw [this]
    rfl
  generalize hY : (y.natAbs : Int) = Y at *
  generalize hxx : x * x = X2 at *
  generalize hrr : r * r = R2 at *
  generalize hyy : Y * Y = Y2 at *
  refine nm_r (e' := rz_i (R2 - X2)) (by rw [← hxx, ← hrr]; simp only [rz_mul, rz_sub]) ?_
  refine rz_lt (R2 - X2) 0 (fun z => h0 (by omega)) (fun z1 => ry_size x ?_ rfl (by omega))
  refine rz_le (x.natAbs : Int) Y (fun z2 => ?_) (fun z => h0 (by omega))
  refine rz_lt (Y2 + Y) (R2 - X2) (fun z => h0 (by omega)) (fun z3 => ?_) (by rw [← hyy]; simp only [rz_mul, rz_add])
  refine rz_eq Y 0 (fun z4 => h1 (by omega)) (fun z4 => ?_)
  exact rz_le (R2 - X2) (Y2 - Y) (fun z => h0 (by omega)) (fun z5 => h1 (by omega)) rfl (by rw [← hyy]; simp only [rz_mul, rz_sub])
theorem rg_Y {post : Int32 → SY → Prop} {m : Int32} {a b : Nat} {r : Int} (hm : rp_P m a b) (br : 0 ≤ r ∧ r ≤ 30) (hp : ∀ f, rf_Y f (fun i j => rg_A r ((i - (a : Int)).natAbs : Int) ((j - (b : Int)).natAbs : Int) ∨ rg_A r ((j - (b : Int)).natAbs : Int) ((i - (a : Int)).natAbs : Int)) → ∀ K : Int32 → SY → Prop, (∀ r s, post r (pen, s, f) → K r (pen, s, f)) → wpY_ink K (pen, set, f)) : ∀ n k : Nat, k ≤ 576 → 576 - k < n → ∀ f, rf_Yi f (fun i j => rg_A r ((i - (a : Int)).natAbs : Int) ((j - (b : Int)).natAbs : Int) ∨ rg_A r ((j - (b : Int)).natAbs : Int) ((i - (a : Int)).natAbs : Int)) k → wY_ring_13 post m (rz_i r) pen n (nI k) set f
  | 0, _, _, hn, _, _ => absurd hn (by omega)
  | n + 1, k, hk, hn, f, hf => by
    refine pk_le 576 k (fun q => ?_) (fun q => ?_)
    · obtain rfl : k = 576 := by omega
      exact hp f hf _ (fun _ _ z => z)
    · have b1 := hm.1
      have b2 := hm.2.1
      have st : ∀ v : Int32, ((v = 1 ∧ (rg_A r ((((k % 24 : Nat) : Int) - (a : Int)).natAbs : Int) ((((k / 24 : Nat) : Int) - (b : Int)).natAbs : Int) ∨ rg_A r ((((k / 24 : Nat) : Int) - (b : Int)).natAbs : Int) ((((k % 24 : Nat) : Int) - (a : Int)).natAbs : Int))) ∨ (v = 0 ∧ ¬ (rg_A r ((((k % 24 : Nat) : Int) - (a : Int)).natAbs : Int) ((((k / 24 : Nat) : Int) - (b : Int)).natAbs : Int) ∨ rg_A r ((((k / 24 : Nat) : Int) - (b : Int)).natAbs : Int) ((((k % 24 : Nat) : Int) - (a : Int)).natAbs : Int)))) → ∀ f', f' = upd f (nI k).toNatClampNeg (vp_nar .boolean v) → ∀ x, x = nI k + 1 → wY_ring_13 post m (rz_i r) pen n x set f' := by
        intro v hv f' ef x ex
        rw [ex, nI_1]
        exact rg_Y hm br hp n (k + 1) (by omega) (by omega) f' (rf_Ys hf q hv ef)
      have hin : vp_in (nI k) 576 := pk_in k 576 q
      refine ⟨by decide, by decide, nm_r (e' := rz_i (((k % 24 : Nat) : Int) - (a : Int))) (by rw [rp_r24 (by omega), rp_rem hm, rz_nI, rz_nI, rz_sub]) ⟨by decide, by decide, nm_r (e' := rz_i (((k / 24 : Nat) : Int) - (b : Int))) (by rw [rp_d24 (by omega), rp_div hm, rz_nI, rz_nI, rz_sub]) ?_⟩⟩
      have k1 : -23 ≤ ((k % 24 : Nat) : Int) - (a : Int) ∧ ((k % 24 : Nat) : Int) - (a : Int) ≤ 23 := by omega
      have k2 : -23 ≤ ((k / 24 : Nat) : Int) - (b : Int) ∧ ((k / 24 : Nat) : Int) - (b : Int) ≤ 23 := by omega
      generalize ((k % 24 : Nat) : Int) - (a : Int) = X at *
      generalize ((k / 24 : Nat) : Int) - (b : Int) = Y at *
      exact rg_arc X Y r k1 k2 br (fun z => br_f (by decide) ⟨hin, st 1 (Or.inl ⟨rfl, Or.inl z⟩)⟩) (fun z => br_t rfl (rg_arc Y X r k2 k1 br (fun z1 => br_f (by decide) ⟨hin, st 1 (Or.inl ⟨rfl, Or.inr z1⟩)⟩) (fun z1 => br_t rfl ⟨hin, st 0 (Or.inr ⟨rfl, fun z2 => z2.elim z z1⟩)⟩)))
end
end
section
def rt_s (ax ay bx b_y x y : Int) : Int := (bx - ax) * (y - ay) - (b_y - ay) * (x - ax)
theorem rt_s1 (ax ay bx b_y x y : Int) : rt_s ax ay bx b_y (x + 1) y = rt_s ax ay bx b_y x y - (b_y - ay) := by
  unfold rt_s
  rw [show x + 1 - ax = (x - ax) + 1 from by omega, Int.mul_add, Int.mul_one]
  omega
theorem rt_b {ax ay bx b_y x y : Int} (h1 : 0 ≤ ax ∧ ax ≤ 23) (h2 : 0 ≤ ay ∧ ay ≤ 23) (h3 : 0 ≤ bx ∧ bx ≤ 23) (h4 : 0 ≤ b_y ∧ b_y ≤ 23) (h5 : 0 ≤ x ∧ x ≤ 23) (h6 : 0 ≤ y ∧ y ≤ 23) : -2000 ≤ rt_s ax ay bx b_y x y ∧ rt_s ax ay bx b_y x y ≤ 2000 := by
  unfold rt_s
  have m1 := rz_mb (x := bx - ax) (y := y - ay) (A := 23) (B := 23) (by omega) (by omega)
  have m2 := rz_mb (x := b_y - ay) (y := x - ax) (A := 23) (B := 23) (by omega) (by omega)
  omega
def rt_I (A B C : Int) : Prop := (0 ≤ A ∧ 0 ≤ B ∧ 0 ≤ C) ∨ (A ≤ 0 ∧ B ≤ 0 ∧ C ≤ 0)
section
variable {pm w : Int32} {rows fig rr rf rl : Nat → Int32}
theorem rt_186 {post : SX → Prop} {J70 : Int32 → Int32 → Int32 → (Nat → Int32) → (Nat → Int32) → (Nat → Int32) → (Nat → Int32) → (Nat → Int32) → Prop} {J117 : Int32 → Int32 → Int32 → Int32 → Int32 → Int32 → (Nat → Int32) → (Nat → Int32) → (Nat → Int32) → (Nat → Int32) → (Nat → Int32) → Prop} {x1 x2 x3 x4 x5 x7 x8 : Int32} {p1 p2 p3 A B C x : Int} (h1 : x1 >>> ((5 : Int32) &&& 31) = rz_i p1) (h2 : x2 >>> ((5 : Int32) &&& 31) = rz_i p2) (h3 : x3 >>> ((5 : Int32) &&& 31) = rz_i p3)
    (hJ : J117 (rz_i (A - (p2 - p1))) (rz_i (B - (p3 - p2))) (rz_i (C - (p1 - p3))) (rz_i (x + 1)) pm w rows fig rr rf rl) : wX_drawTriangle_186 post J70 J117 x1 x2 x3 x4 x5 x7 x8 (rz_i A) (rz_i B) (rz_i C) (rz_i x) pm w rows fig rr rf rl := by
  unfold wX_drawTriangle_186
  rw [h1, h2, h3]
  exact nm_r (by rw [rz_sub, rz_sub]) (nm_r (by rw [rz_sub, rz_sub]) (nm_r (by rw [rz_sub, rz_sub]) (nm_r (rz_p1 x) hJ)))
theorem rt_144 {post : SX → Prop} {J70 : Int32 → Int32 → Int32 → (Nat → Int32) → (Nat → Int32) → (Nat → Int32) → (Nat → Int32) → (Nat → Int32) → Prop} {J117 : Int32 → Int32 → Int32 → Int32 → Int32 → Int32 → (Nat → Int32) → (Nat → Int32) → (Nat → Int32) → (Nat → Int32) → (Nat → Int32) → Prop} {x1 x2 x3 x4 x5 x7 x8 x12 : Int32} {A B C : Int} (bA : -2000 ≤ A ∧ A ≤ 2000) (bB : -2000 ≤ B ∧ B ≤ 2000) (bC : -2000 ≤ C ∧ C ≤ 2000) (z : Bool) (hz : z = true ↔ (0 ≤ A ∧ 0 ≤ B ∧ 0 ≤ C))
    (hY : rt_I A B C → wX_drawTriangle_178 post J70 J117 x1 x2 x3 x4 x5 x7 x8 (rz_i A) (rz_i B) (rz_i C) x12 pm w rows fig rr rf rl) (hN : ¬ rt_I A B C → wX_drawTriangle_186 post J70 J117 x1 x2 x3 x4 x5 x7 x8 (rz_i A) (rz_i B) (rz_i C) x12 pm w rows fig rr rf rl) :
    wX_drawTriangle_144 post J70 J117 x1 x2 x3 x4 x5 x7 x8 (rz_i A) (rz_i B) (rz_i C) x12 (rs_b z) pm w rows fig rr rf rl := by
  have k165 : ¬ (A ≤ 0 ∧ B ≤ 0 ∧ C ≤ 0) → wX_drawTriangle_165 post J70 J117 x1 x2 x3 x4 x5 x7 x8 (rz_i A) (rz_i B) (rz_i C) x12 (rs_b z) pm w rows fig rr rf rl := by
    intro c
    cases z
    · exact br_t rfl (br_t rfl (hN (fun d => d.elim (fun d => absurd (hz.mpr d) (by decide)) c)))
    · exact br_f (by decide) (hY (Or.inl (hz.mp rfl)))
  have k166 : (A ≤ 0 ∧ B ≤ 0 ∧ C ≤ 0) → wX_drawTriangle_166 post J70 J117 x1 x2 x3 x4 x5 x7 x8 (rz_i A) (rz_i B) (rz_i C) x12 (rs_b z) 1 pm w rows fig rr rf rl := by
    intro c
    cases z
    · exact br_t rfl (br_f (by decide) (hY (Or.inr c)))
    · exact br_f (by decide) (hY (Or.inr c))
  exact rz_lt 0 A (fun q => k165 (by omega)) (fun q1 => rz_lt 0 B (fun q => k165 (by omega)) (fun q2 => rz_lt 0 C (fun q => k165 (by omega)) (fun q3 => k166 ⟨q1, q2, q3⟩)))
theorem rt_117 {post : SX → Prop} {J : Int32 → Int32 → Int32 → (Nat → Int32) → (Nat → Int32) → (Nat → Int32) → (Nat → Int32) → (Nat → Int32) → Prop} {x1 x2 x3 x7 : Int32} {px py qx qy sx sy le ri y : Int} {Q : Int → Int → Prop} (h1 : x1 >>> ((5 : Int32) &&& 31) = rz_i py) (h2 : x2 >>> ((5 : Int32) &&& 31) = rz_i qy) (h3 : x3 >>> ((5 : Int32) &&& 31) = rz_i sy)
    (b1 : 0 ≤ px ∧ px ≤ 23) (b2 : 0 ≤ py ∧ py ≤ 23) (b3 : 0 ≤ qx ∧ qx ≤ 23) (b4 : 0 ≤ qy ∧ qy ≤ 23) (b5 : 0 ≤ sx ∧ sx ≤ 23) (b6 : 0 ≤ sy ∧ sy ≤ 23) (b7 : 0 ≤ le ∧ ri ≤ 23) (b8 : 0 ≤ y ∧ y ≤ 23)
    (hJ : ∀ f, rf_S f (fun i j => Q i j ∨ (j = y ∧ le ≤ i ∧ i ≤ ri ∧ rt_I (rt_s px py qx qy i j) (rt_s qx qy sx sy i j) (rt_s sx sy px py i j))) → J (rz_i (y + 1)) pm w rows f rr rf rl) :
    ∀ (n : Nat) (x : Int), ri + 1 - x < n → le ≤ x → x ≤ ri + 1 → ∀ f, rf_S f (fun i j => Q i j ∨ (j = y ∧ le ≤ i ∧ i < x ∧ rt_I (rt_s px py qx qy i j) (rt_s qx qy sx sy i j) (rt_s sx sy px py i j))) →
      wX_drawTriangle_117 post J x1 x2 x3 (rz_i le) (rz_i ri) x7 (rz_i y) n (rz_i (rt_s px py qx qy x y)) (rz_i (rt_s qx qy sx sy x y)) (rz_i (rt_s sx sy px py x y)) (rz_i x) pm w rows f rr rf rl := by
  intro n
  induction n with
  | zero => intro x g1 g2 g3; exact absurd g1 (by omega)
  | succ n ih =>
    intro x g1 g2 g3 f hf
    refine rz_lt ri x (fun z => nm_r (rz_p1 y) (hJ f (rf_c hf (fun i j _ _ _ _ => or_congr Iff.rfl ⟨fun k => ⟨k.1, k.2.1, by have := k.2.2.1; omega, k.2.2.2⟩, fun k => ⟨k.1, k.2.1, by have := k.2.2.1; omega, k.2.2.2⟩⟩)))) (fun z => ?_)
    have cA := rt_b b1 b2 b3 b4 (x := x) (y := y) (by omega) b8
    have cB := rt_b b3 b4 b5 b6 (x := x) (y := y) (by omega) b8
    have cC := rt_b b5 b6 b1 b2 (x := x) (y := y) (by omega) b8
    have nx : ∀ f', rf_S f' (fun i j => Q i j ∨ (j = y ∧ le ≤ i ∧ i < x + 1 ∧ rt_I (rt_s px py qx qy i j) (rt_s qx qy sx sy i j) (rt_s sx sy px py i j))) → wX_drawTriangle_186 post J (wX_drawTriangle_117 post J x1 x2 x3 (rz_i le) (rz_i ri) x7 (rz_i y) n) x1 x2 x3 (rz_i le) (rz_i ri) x7 (rz_i y) (rz_i (rt_s px py qx qy x y)) (rz_i (rt_s qx qy sx sy x y)) (rz_i (rt_s sx sy px py x y)) (rz_i x) pm w rows f' rr rf rl := by
      intro f' hf'
      refine rt_186 h1 h2 h3 ?_
      rw [← rt_s1, ← rt_s1, ← rt_s1]
      exact ih (x + 1) (by omega) (by omega) (by omega) f' hf'
    have hN : ¬ rt_I (rt_s px py qx qy x y) (rt_s qx qy sx sy x y) (rt_s sx sy px py x y) → wX_drawTriangle_186 post J (wX_drawTriangle_117 post J x1 x2 x3 (rz_i le) (rz_i ri) x7 (rz_i y) n) x1 x2 x3 (rz_i le) (rz_i ri) x7 (rz_i y) (rz_i (rt_s px py qx qy x y)) (rz_i (rt_s qx qy sx sy x y)) (rz_i (rt_s sx sy px py x y)) (rz_i x) pm w rows f rr rf rl := by
      intro no
      refine nx f (rf_c hf (fun i j _ _ _ _ => or_congr Iff.rfl ⟨fun k => ⟨k.1, k.2.1, by have := k.2.2.1; omega, k.2.2.2⟩, fun k => ⟨k.1, k.2.1, ?_, k.2.2.2⟩⟩))
      by_cases c : i = x
      · have e := k.2.2.2
        rw [c, k.1] at e
        exact absurd e no
      · have := k.2.2.1
        omega
    have hY : rt_I (rt_s px py qx qy x y) (rt_s qx qy sx sy x y) (rt_s sx sy px py x y) → wX_drawTriangle_178 post J (wX_drawTriangle_117 post J x1 x2 x3 (rz_i le) (rz_i ri) x7 (rz_i y) n) x1 x2 x3 (rz_i le) (rz_i ri) x7 (rz_i y) (rz_i (rt_s px py qx qy x y)) (rz_i (rt_s qx qy sx sy x y)) (rz_i (rt_s sx sy px py x y)) (rz_i x) pm w rows f rr rf rl := by
      intro yes
      refine rf_dot x y hf (fun f' hf' => nx f' (rf_c hf' (fun i j _ _ _ _ => ?_))) rfl rfl (by omega) (by omega)
      constructor
      · rintro ((k | k) | k)
        · exact Or.inl k
        · exact Or.inr ⟨k.1, k.2.1, by have := k.2.2.1; omega, k.2.2.2⟩
        · refine Or.inr ⟨k.2, by omega, by omega, ?_⟩
          rw [k.1, k.2]
          exact yes
      · rintro (k | k)
        · exact Or.inl (Or.inl k)
        · by_cases c : i = x
          · exact Or.inr ⟨c, k.1⟩
          · exact Or.inl (Or.inr ⟨k.1, k.2.1, by have := k.2.2.1; omega, k.2.2.2⟩)
    have k0 : ¬ (0 ≤ rt_s px py qx qy x y ∧ 0 ≤ rt_s qx qy sx sy x y ∧ 0 ≤ rt_s sx sy px py x y) → wX_drawTriangle_143 post J (wX_drawTriangle_117 post J x1 x2 x3 (rz_i le) (rz_i ri) x7 (rz_i y) n) x1 x2 x3 (rz_i le) (rz_i ri) x7 (rz_i y) (rz_i (rt_s px py qx qy x y)) (rz_i (rt_s qx qy sx sy x y)) (rz_i (rt_s sx sy px py x y)) (rz_i x) pm w rows f rr rf rl := fun c =>
      rt_144 cA cB cC false ⟨fun e => (by cases e), fun e => absurd e c⟩ hY hN
    exact rz_lt (rt_s px py qx qy x y) 0 (fun q => k0 (by omega)) (fun q1 => rz_lt (rt_s qx qy sx sy x y) 0 (fun q => k0 (by omega)) (fun q2 => rz_lt (rt_s sx sy px py x y) 0 (fun q => k0 (by omega)) (fun q3 => rt_144 cA cB cC true ⟨fun _ => ⟨q1, q2, q3⟩, fun _ => rfl⟩ hY hN)))
theorem rt_side {post : Int32 → Prop} {p q : Int32} {ax ay bx b_y : Nat} {x y : Int} (hp : rp_P p ax ay) (hq : rp_P q bx b_y) (h : post (rz_i (rt_s ax ay bx b_y x y))) : wpX_side post (pm, w, rows, fig, rr, rf, rl) p q (rz_i x) (rz_i y) := by
  unfold wpX_side
  dsimp only
  rw [rp_and hp, rp_and hq, rp_shr hp, rp_shr hq, rz_nI, rz_nI, rz_nI, rz_nI]
  refine nm_r (rz_sub _ _) (nm_r (rz_sub _ _) ?_)
  rw [rz_sub, rz_sub, rz_mul, rz_mul, rz_sub]
  exact h
theorem rt_70 {post : SX → Prop} {x1 x2 x3 : Int32} {px py qx qy sx sy : Nat} {le ri lo hi : Int} (h1 : rp_P x1 px py) (h2 : rp_P x2 qx qy) (h3 : rp_P x3 sx sy) (b7 : 0 ≤ le ∧ le ≤ ri ∧ ri ≤ 23) (b8 : 0 ≤ lo ∧ lo ≤ hi ∧ hi ≤ 23)
    (hp : ∀ f, rf_S f (fun i j => lo ≤ j ∧ j ≤ hi ∧ le ≤ i ∧ i ≤ ri ∧ rt_I (rt_s px py qx qy i j) (rt_s qx qy sx sy i j) (rt_s sx sy px py i j)) → post (pm, w, rows, f, rr, rf, rl)) :
    ∀ (n : Nat) (y : Int), hi + 1 - y < n → lo ≤ y → y ≤ hi + 1 → ∀ f, rf_S f (fun i j => lo ≤ j ∧ j < y ∧ le ≤ i ∧ i ≤ ri ∧ rt_I (rt_s px py qx qy i j) (rt_s qx qy sx sy i j) (rt_s sx sy px py i j)) → wX_drawTriangle_70 post x1 x2 x3 (rz_i le) (rz_i ri) (rz_i hi) n (rz_i y) pm w rows f rr rf rl := by
  have a1 := h1.1
  have a2 := h1.2.1
  have a3 := h2.1
  have a4 := h2.2.1
  have a5 := h3.1
  have a6 := h3.2.1
  intro n
  induction n with
  | zero => intro y g1 g2 g3; exact absurd g1 (by omega)
  | succ n ih =>
    intro y g1 g2 g3 f hf
    refine rz_lt hi y (fun z => hp f (rf_c hf (fun i j _ _ _ _ => ⟨fun k => ⟨k.1, by have := k.2.1; omega, k.2.2⟩, fun k => ⟨k.1, by have := k.2.1; omega, k.2.2⟩⟩))) (fun z => ?_)
    refine rt_side h1 h2 (rt_side h2 h3 (rt_side h3 h1 (Exists.intro (ri + 2 - le).toNat ?_)))
    refine rt_117 (Q := fun i j => lo ≤ j ∧ j < y ∧ le ≤ i ∧ i ≤ ri ∧ rt_I (rt_s px py qx qy i j) (rt_s qx qy sx sy i j) (rt_s sx sy px py i j)) ((rp_shr h1).trans (rz_nI _)) ((rp_shr h2).trans (rz_nI _)) ((rp_shr h3).trans (rz_nI _)) (by omega) (by omega) (by omega) (by omega) (by omega) (by omega) (by omega) (by omega) (fun f' hf' => ih (y + 1) (by omega) (by omega) (by omega) f' (rf_c hf' (fun i j _ _ _ _ => ?_))) _ le (by omega) (by omega) (by omega) f (rf_c hf (fun i j _ _ _ _ => ⟨Or.inl, fun k => k.elim id (fun k => by have := k.2.1; have := k.2.2.1; omega)⟩))
    constructor
    · rintro (k | k)
      · exact ⟨k.1, by have := k.2.1; omega, k.2.2⟩
      · exact ⟨by have := k.1; omega, by have := k.1; omega, k.2.1, k.2.2.1, k.2.2.2⟩
    · rintro k
      by_cases c : j = y
      · exact Or.inr ⟨c, k.2.2⟩
      · exact Or.inl ⟨k.1, by have := k.2.1; omega, k.2.2⟩
theorem rt_min {post : Int32 → Prop} {A B C : Int32} (a b c : Int) (hA : A = rz_i a) (hB : B = rz_i b) (hC : C = rz_i c) (ba : 0 ≤ a ∧ a ≤ 23) (bb : 0 ≤ b ∧ b ≤ 23) (bc : 0 ≤ c ∧ c ≤ 23) (hp : ∀ m : Int, (m = a ∨ m = b ∨ m = c) → m ≤ a → m ≤ b → m ≤ c → post (rz_i m)) : wpX_smallest post (pm, w, rows, fig, rr, rf, rl) A B C := by
  subst hA hB hC
  exact rz_le b a (fun q => rz_le b c (fun q1 => hp b (by omega) (by omega) (by omega) (by omega)) (fun q1 => hp c (by omega) (by omega) (by omega) (by omega))) (fun q => rz_le a c (fun q1 => hp a (by omega) (by omega) (by omega) (by omega)) (fun q1 => hp c (by omega) (by omega) (by omega) (by omega)))
theorem rt_max {post : Int32 → Prop} {A B C : Int32} (a b c : Int) (hA : A = rz_i a) (hB : B = rz_i b) (hC : C = rz_i c) (ba : 0 ≤ a ∧ a ≤ 23) (bb : 0 ≤ b ∧ b ≤ 23) (bc : 0 ≤ c ∧ c ≤ 23) (hp : ∀ m : Int, (m = a ∨ m = b ∨ m = c) → a ≤ m → b ≤ m → c ≤ m → post (rz_i m)) : wpX_greatest post (pm, w, rows, fig, rr, rf, rl) A B C := by
  subst hA hB hC
  exact rz_le a b (fun q => rz_le c b (fun q1 => hp b (by omega) (by omega) (by omega) (by omega)) (fun q1 => hp c (by omega) (by omega) (by omega) (by omega))) (fun q => rz_le c a (fun q1 => hp a (by omega) (by omega) (by omega) (by omega)) (fun q1 => hp c (by omega) (by omega) (by omega) (by omega)))
end
def rt_w (v a b c : Int) : Prop := (a ≤ v ∨ b ≤ v ∨ c ≤ v) ∧ (v ≤ a ∨ v ≤ b ∨ v ≤ c)
def rt_P (px py qx qy sx sy i j : Int) : Prop := rt_I (rt_s px py qx qy i j) (rt_s qx qy sx sy i j) (rt_s sx sy px py i j) ∧ rt_w i px qx sx ∧ rt_w j py qy sy
theorem rt_draw {pm w : Int32} {rows fig rr rf rl : Nat → Int32} {post : SX → Prop} {x1 x2 x3 : Int32} {px py qx qy sx sy : Nat} (h1 : rp_P x1 px py) (h2 : rp_P x2 qx qy) (h3 : rp_P x3 sx sy) (h : rf_S fig (fun _ _ => False))
    (hp : ∀ f, rf_S f (rt_P px py qx qy sx sy) → post (pm, w, rows, f, rr, rf, rl)) : wpX_drawTriangle post (pm, w, rows, fig, rr, rf, rl) x1 x2 x3 := by
  have a1 := h1.1
  have a2 := h1.2.1
  have a3 := h2.1
  have a4 := h2.2.1
  have a5 := h3.1
  have a6 := h3.2.1
  unfold wpX_drawTriangle
  dsimp only
  refine rt_min px qx sx ((rp_and h1).trans (rz_nI _)) ((rp_and h2).trans (rz_nI _)) ((rp_and h3).trans (rz_nI _)) (by omega) (by omega) (by omega) (fun le l1 l2 l3 l4 => ?_)
  refine rt_max px qx sx ((rp_and h1).trans (rz_nI _)) ((rp_and h2).trans (rz_nI _)) ((rp_and h3).trans (rz_nI _)) (by omega) (by omega) (by omega) (fun ri r1 r2 r3 r4 => ?_)
  refine rt_min py qy sy ((rp_shr h1).trans (rz_nI _)) ((rp_shr h2).trans (rz_nI _)) ((rp_shr h3).trans (rz_nI _)) (by omega) (by omega) (by omega) (fun lo m1 m2 m3 m4 => ?_)
  refine rt_max py qy sy ((rp_shr h1).trans (rz_nI _)) ((rp_shr h2).trans (rz_nI _)) ((rp_shr h3).trans (rz_nI _)) (by omega) (by omega) (by omega) (fun hi n1 n2 n3 n4 => ?_)
  refine Exists.intro (hi + 2 - lo).toNat (rt_70 (lo := lo) h1 h2 h3 (by omega) (by omega) (fun f hf => hp f (rf_c hf (fun i j _ _ _ _ => ?_))) _ lo (by omega) (by omega) (by omega) fig (rf_c h (fun i j _ _ _ _ => ⟨False.elim, fun k => by have := k.1; have := k.2.1; omega⟩)))
  unfold rt_P rt_w
  constructor
  · rintro ⟨k1, k2, k3, k4, k5⟩
    exact ⟨k5, ⟨by omega, by omega⟩, ⟨by omega, by omega⟩⟩
  · rintro ⟨k1, ⟨k2, k3⟩, ⟨k4, k5⟩⟩
    exact ⟨by omega, by omega, by omega, by omega, k1⟩
section
variable {pen : Int32} {set fig : Nat → Int32}
theorem rt_sideY {post : Int32 → Prop} {p q : Int32} {ax ay bx b_y : Nat} {x y : Int} (hp : rp_P p ax ay) (hq : rp_P q bx b_y) (h : post (rz_i (rt_s ax ay bx b_y x y))) : wpY_side post (pen, set, fig) (rz_i x) (rz_i y) p q := by
  unfold wpY_side
  dsimp only
  rw [rp_rem hp, rp_rem hq, rp_div hp, rp_div hq, rz_nI, rz_nI, rz_nI, rz_nI]
  refine ⟨by decide, by decide, by decide, by decide, by decide, by decide, ?_⟩
  rw [rz_sub, rz_sub, rz_sub, rz_sub, rz_mul, rz_mul, rz_sub]
  exact h
theorem rt_btw {post : Int32 → Prop} {V A B C : Int32} (v a b c : Int) (hV : V = rz_i v) (hA : A = rz_i a) (hB : B = rz_i b) (hC : C = rz_i c) (bv : 0 ≤ v ∧ v ≤ 23) (ba : 0 ≤ a ∧ a ≤ 23) (bb : 0 ≤ b ∧ b ≤ 23) (bc : 0 ≤ c ∧ c ≤ 23) (h1 : rt_w v a b c → post 1) (h0 : ¬ rt_w v a b c → post 0) : wpY_between post (pen, set, fig) V A B C := by
  subst hV hA hB hC
  unfold rt_w at h1 h0
  have k : (a ≤ v ∨ b ≤ v ∨ c ≤ v) → wY_between_16 post (rz_i v) (rz_i a) (rz_i b) (rz_i c) pen set fig := fun z =>
    rz_le v a (fun q => h1 (by omega)) (fun q => rz_le v b (fun q => h1 (by omega)) (fun q => rz_lt c v (fun q => h0 (by omega)) (fun q => h1 (by omega))))
  exact rz_le a v (fun q => k (by omega)) (fun q => rz_le b v (fun q => k (by omega)) (fun q => rz_lt v c (fun q => h0 (by omega)) (fun q => k (by omega))))
theorem rt_in {post : Int32 → Prop} {p1 p2 p3 : Int32} {px py qx qy sx sy : Nat} {X Y : Int32} (x y : Int) (hX : X = rz_i x) (hY' : Y = rz_i y) (h1 : rp_P p1 px py) (h2 : rp_P p2 qx qy) (h3 : rp_P p3 sx sy) (bx : 0 ≤ x ∧ x ≤ 23) (bb : 0 ≤ y ∧ y ≤ 23) (hY : rt_P px py qx qy sx sy x y → post 1) (hN : ¬ rt_P px py qx qy sx sy x y → post 0) : wpY_inTriangle post (pen, set, fig) X Y p1 p2 p3 := by
  subst hX hY'
  have a1 := h1.1
  have a2 := h1.2.1
  have a3 := h2.1
  have a4 := h2.2.1
  have a5 := h3.1
  have a6 := h3.2.1
  unfold wpY_inTriangle
  dsimp only
  refine rt_sideY h1 h2 (rt_sideY h2 h3 (rt_sideY h3 h1 ?_))
  have cA := rt_b (ax := px) (ay := py) (bx := qx) (b_y := qy) (x := x) (y := y) (by omega) (by omega) (by omega) (by omega) bx bb
  have cB := rt_b (ax := qx) (ay := qy) (bx := sx) (b_y := sy) (x := x) (y := y) (by omega) (by omega) (by omega) (by omega) bx bb
  have cC := rt_b (ax := sx) (ay := sy) (bx := px) (b_y := py) (x := x) (y := y) (by omega) (by omega) (by omega) (by omega) bx bb
  unfold rt_P at hY hN
  generalize rt_s px py qx qy x y = A at *
  generalize rt_s qx qy sx sy x y = B at *
  generalize rt_s sx sy px py x y = C at *
  have k64 : rt_I A B C → wY_inTriangle_64 post (rz_i x) (rz_i y) p1 p2 p3 pen set fig := by
    intro c
    refine br_f (by decide) ⟨by decide, by decide, by decide, rt_btw x px qx sx rfl ((rp_rem h1).trans (rz_nI _)) ((rp_rem h2).trans (rz_nI _)) ((rp_rem h3).trans (rz_nI _)) bx (by omega) (by omega) (by omega) (fun z => br_f (by decide) ⟨by decide, by decide, by decide, rt_btw y py qy sy rfl ((rp_div h1).trans (rz_nI _)) ((rp_div h2).trans (rz_nI _)) ((rp_div h3).trans (rz_nI _)) bb (by omega) (by omega) (by omega) (fun z1 => br_f (by decide) (hY ⟨c, z, z1⟩)) (fun z1 => br_t rfl (hN (fun k => z1 k.2.2)))⟩) (fun z => br_t rfl (hN (fun k => z k.2.1)))⟩
  have k68 : ¬ rt_I A B C → wY_inTriangle_68 post (rz_i x) (rz_i y) p1 p2 p3 pen set fig := fun c => br_t rfl (hN (fun k => c k.1))
  unfold rt_I at k64 k68
  have k49 : ¬ (0 ≤ A ∧ 0 ≤ B ∧ 0 ≤ C) → wY_inTriangle_49 post (rz_i x) (rz_i y) p1 p2 p3 (rz_i A) (rz_i B) (rz_i C) pen set fig := fun c =>
    rz_lt 0 A (fun q => k68 (by omega)) (fun q1 => rz_lt 0 B (fun q => k68 (by omega)) (fun q2 => rz_lt 0 C (fun q => k68 (by omega)) (fun q3 => k64 (by omega))))
  exact rz_lt A 0 (fun q => k49 (by omega)) (fun q1 => rz_lt B 0 (fun q => k49 (by omega)) (fun q2 => rz_le 0 C (fun q => k64 (by omega)) (fun q => k49 (by omega))))
theorem rt_Y {post : Int32 → SY → Prop} {p1 p2 p3 : Int32} {px py qx qy sx sy : Nat} (h1 : rp_P p1 px py) (h2 : rp_P p2 qx qy) (h3 : rp_P p3 sx sy) (hp : ∀ f, rf_Y f (rt_P px py qx qy sx sy) → ∀ K : Int32 → SY → Prop, (∀ r s, post r (pen, s, f) → K r (pen, s, f)) → wpY_ink K (pen, set, f)) : ∀ n k : Nat, k ≤ 576 → 576 - k < n → ∀ f, rf_Yi f (rt_P px py qx qy sx sy) k → wY_triangle_29 post p1 p2 p3 pen n (nI k) set f
  | 0, _, _, hn, _, _ => absurd hn (by omega)
  | n + 1, k, hk, hn, f, hf => by
    refine pk_le 576 k (fun q => ?_) (fun q => ?_)
    · obtain rfl : k = 576 := by omega
      exact hp f hf _ (fun _ _ z => z)
    · have st : ∀ v : Int32, ((v = 1 ∧ rt_P px py qx qy sx sy (k % 24 : Nat) (k / 24 : Nat)) ∨ (v = 0 ∧ ¬ rt_P px py qx qy sx sy (k % 24 : Nat) (k / 24 : Nat))) → ∀ f', f' = upd f (nI k).toNatClampNeg (vp_nar .boolean v) → ∀ x, x = nI k + 1 → wY_triangle_29 post p1 p2 p3 pen n x set f' := by
        intro v hv f' ef x ex
        rw [ex, nI_1]
        exact rt_Y h1 h2 h3 hp n (k + 1) (by omega) (by omega) f' (rf_Ys hf q hv ef)
      have hin : vp_in (nI k) 576 := pk_in k 576 q
      exact ⟨by decide, by decide, rt_in (k % 24 : Nat) (k / 24 : Nat) ((rp_r24 (by omega)).trans (rz_nI _)) ((rp_d24 (by omega)).trans (rz_nI _)) h1 h2 h3 (by omega) (by omega) (fun z => ⟨hin, st 1 (Or.inl ⟨rfl, z⟩)⟩) (fun z => ⟨hin, st 0 (Or.inr ⟨rfl, z⟩)⟩)⟩
end
end
section
def rq_C (V : Nat → Nat → Prop) (y0 x0 : Nat) (D : Nat → Nat → Prop) : Prop :=
  D y0 x0 ∧ (∀ y x, y < 24 → x < 24 → D y x → V y x) ∧ (∀ y x, y < 24 → x + 1 < 24 → V y x → V y (x + 1) → (D y x ↔ D y (x + 1))) ∧ (∀ y x, y + 1 < 24 → x < 24 → V y x → V (y + 1) x → (D y x ↔ D (y + 1) x))
theorem rq_chain {Q : Nat → Prop} {f l : Nat} (h : ∀ i, f ≤ i → i + 1 ≤ l → (Q i ↔ Q (i + 1))) : ∀ d, f + d ≤ l → (Q f ↔ Q (f + d))
  | 0, _ => Iff.rfl
  | d + 1, hd => (rq_chain h d (by omega)).trans (h (f + d) (by omega) (by omega))
theorem rq_ch2 {Q : Nat → Prop} {f l : Nat} (h : ∀ i, f ≤ i → i + 1 ≤ l → (Q i ↔ Q (i + 1))) {i j : Nat} (h1 : f ≤ i) (h2 : i ≤ l) (h3 : f ≤ j) (h4 : j ≤ l) : Q i ↔ Q j := by
  have e1 := rq_chain h (i - f) (by omega)
  have e2 := rq_chain h (j - f) (by omega)
  rw [show f + (i - f) = i from by omega] at e1
  rw [show f + (j - f) = j from by omega] at e2
  exact e1.symm.trans e2
def rq_h (a : Nat → Int32) (s : Nat) : Bool := bt (a (s / 12)) (2 * (s % 12)) || bt (a (s / 12)) (2 * (s % 12) + 1)
def rq_len : List (Nat × Nat × Nat) → Nat
  | [] => 0
  | e :: t => (e.2.2 + 1 - e.2.1) + rq_len t
def rq_SR (rr rf rl : Nat → Int32) : List (Nat × Nat × Nat) → Prop
  | [] => True
  | e :: t => (rr t.length = nI e.1 ∧ rf t.length = nI e.2.1 ∧ rl t.length = nI e.2.2) ∧ rq_SR rr rf rl t
theorem rq_SRu {rr rf rl : Nat → Int32} {u1 u2 u3 : Int32} {n : Nat} : ∀ st : List (Nat × Nat × Nat), st.length ≤ n → rq_SR rr rf rl st → rq_SR (upd rr n u1) (upd rf n u2) (upd rl n u3) st
  | [], _, _ => trivial
  | e :: t, h, k => by
    have h' : t.length + 1 ≤ n := h
    refine ⟨?_, rq_SRu t (by omega) k.2⟩
    rw [pk_un (by omega), pk_un (by omega), pk_un (by omega)]
    exact k.1
def rq_I (V : Nat → Nat → Prop) (y0 x0 : Nat) (a : Nat → Int32) (st : List (Nat × Nat × Nat)) (tot : Nat) (pend : Nat → Nat → Prop) : Prop :=
  rs_H a ∧
  (∀ y x, y < 24 → x < 24 → bt (a y) x = true → V y x) ∧
  (∀ y x, y < 24 → x + 1 < 24 → V y x → V y (x + 1) → (bt (a y) x = true ↔ bt (a y) (x + 1) = true)) ∧
  (∀ D : Nat → Nat → Prop, rq_C V y0 x0 D → ∀ y x, y < 24 → x < 24 → bt (a y) x = true → D y x) ∧
  (∀ e, e ∈ st → e.1 < 24 ∧ e.2.1 ≤ e.2.2 ∧ e.2.2 < 24 ∧ ∀ x, e.2.1 ≤ x → x ≤ e.2.2 → bt (a e.1) x = true) ∧
  tot + rq_len st = rb_c (rs_g a) 576 ∧
  st.length ≤ rb_c (rq_h a) 288 ∧
  (∀ y x, y < 24 → x < 24 → bt (a y) x = true → (∃ e, e ∈ st ∧ e.1 = y ∧ e.2.1 ≤ x ∧ x ≤ e.2.2) ∨ pend y x ∨ (∀ y', y' < 24 → (y' = y + 1 ∨ y = y' + 1) → V y' x → bt (a y') x = true))
theorem rq_I0 {V : Nat → Nat → Prop} {y0 x0 : Nat} {a : Nat → Int32} (h : rf_S a (fun _ _ => False)) : rq_I V y0 x0 a [] 0 (fun _ _ => False) := by
  have no : ∀ y x, y < 24 → bt (a y) x = false := by
    intro y x hy
    rcases Nat.lt_or_ge x 24 with hx | hx
    · cases hb : bt (a y) x
      · rfl
      · exact absurd ((h.2 y x hy hx).mp hb) id
    · exact h.1 y hy x hx
  have no' : ∀ y x, y < 24 → ¬ bt (a y) x = true := fun y x hy z => by rw [no y x hy] at z; cases z
  refine ⟨h.1, fun y x hy hx z => absurd z (no' y x hy), fun y x hy hx _ _ => ⟨fun z => absurd z (no' y x hy), fun z => absurd z (no' y _ hy)⟩, fun D _ y x hy hx z => absurd z (no' y x hy), fun e he => (by cases he), ?_, Nat.zero_le _, fun y x hy hx z => absurd z (no' y x hy)⟩
  exact (rb_0 576 (fun k hk => no (k / 24) (k % 24) (by omega))).symm
theorem rq_add {V : Nat → Nat → Prop} {y0 x0 : Nat} {a a' : Nat → Int32} {st : List (Nat × Nat × Nat)} {tot : Nat} {pend : Nat → Nat → Prop} (I : rq_I V y0 x0 a st tot pend) {y x f l : Nat} (hy : y < 24) (hx : x < 24) (hF : ¬ bt (a y) x = true) (hfx : f ≤ x) (hxl : x ≤ l) (hl : l < 24) (hV : ∀ i, f ≤ i → i ≤ l → V y i) (hf0 : f = 0 ∨ ¬ V y (f - 1)) (hl0 : l = 23 ∨ ¬ V y (l + 1)) (hD : ∀ D : Nat → Nat → Prop, rq_C V y0 x0 D → D y x)
    (hH : rs_H a') (hr : ∀ i, i < 24 → (bt (a' y) i = true ↔ bt (a y) i = true ∨ (f ≤ i ∧ i ≤ l))) (ho : ∀ y', y' ≠ y → a' y' = a y') :
    rq_I V y0 x0 a' ((y, f, l) :: st) tot pend ∧ rb_c (rq_h a) 288 + 1 ≤ rb_c (rq_h a') 288 ∧ (∀ y' x', y' < 24 → x' < 24 → bt (a y') x' = true → bt (a' y') x' = true) ∧ bt (a' y) x = true := by
  obtain ⟨i1, i2, i3, i4, i5, i6, i7, i8⟩ := I
  have mono : ∀ y' x', y' < 24 → x' < 24 → bt (a y') x' = true → bt (a' y') x' = true := by
    intro y' x' h1 h2 h3
    by_cases c : y' = y
    · subst c
      exact (hr x' h2).mpr (Or.inl h3)
    · rw [ho y' c]
      exact h3
  have nF : ∀ i, f ≤ i → i ≤ l → ¬ bt (a y) i = true := by
    intro i h1 h2 h3
    exact hF ((rq_ch2 (Q := fun i => bt (a y) i = true) (f := f) (l := l) (fun j g1 g2 => i3 y j hy (by omega) (hV j g1 (by omega)) (hV (j + 1) (by omega) g2)) h1 h2 hfx hxl).mp h3)
  have tF : ∀ i, f ≤ i → i ≤ l → bt (a' y) i = true := fun i h1 h2 => (hr i (by omega)).mpr (Or.inr ⟨h1, h2⟩)
  have slot : rb_c (rq_h a) 288 + 1 ≤ rb_c (rq_h a') 288 := by
    refine rb_lt 288 (fun k hk h => ?_) (12 * y + f / 2) (by omega) ?_ ?_
    · unfold rq_h at h ⊢
      rw [Bool.or_eq_true] at h ⊢
      exact h.imp (mono _ _ (by omega) (by omega)) (mono _ _ (by omega) (by omega))
    · unfold rq_h
      rw [show (12 * y + f / 2) / 12 = y from by omega, show (12 * y + f / 2) % 12 = f / 2 from by omega, Bool.or_eq_false_iff]
      have n1 := nF f (by omega) (by omega)
      rcases Nat.mod_two_eq_zero_or_one f with e | e
      · rw [show 2 * (f / 2) = f from by omega]
        refine ⟨Bool.eq_false_iff.mpr n1, Bool.eq_false_iff.mpr (fun z => ?_)⟩
        exact n1 ((i3 y f hy (by omega) (hV f (by omega) (by omega)) (i2 y (f + 1) hy (by omega) z)).mpr z)
      · rw [show 2 * (f / 2) + 1 = f from by omega, show 2 * (f / 2) = f - 1 from by omega]
        refine ⟨Bool.eq_false_iff.mpr (fun z => ?_), Bool.eq_false_iff.mpr n1⟩
        rcases hf0 with h | h
        · omega
        · exact h (i2 y (f - 1) hy (by omega) z)
    · unfold rq_h
      rw [show (12 * y + f / 2) / 12 = y from by omega, show (12 * y + f / 2) % 12 = f / 2 from by omega, Bool.or_eq_true]
      have t1 := tF f (by omega) (by omega)
      rcases Nat.mod_two_eq_zero_or_one f with e | e
      · left
        rw [show 2 * (f / 2) = f from by omega]
        exact t1
      · right
        rw [show 2 * (f / 2) + 1 = f from by omega]
        exact t1
  refine ⟨⟨hH, ?_, ?_, ?_, ?_, ?_, ?_, ?_⟩, slot, mono, tF x hfx hxl⟩
  · intro y' x' h1 h2 h3
    by_cases c : y' = y
    · subst c
      rcases (hr x' h2).mp h3 with z | z
      · exact i2 y' x' h1 h2 z
      · exact hV x' z.1 z.2
    · rw [ho y' c] at h3
      exact i2 y' x' h1 h2 h3
  · intro y' x' h1 h2 h3 h4
    by_cases c : y' = y
    · subst c
      rw [hr x' (by omega), hr (x' + 1) h2, i3 y' x' h1 h2 h3 h4]
      refine or_congr Iff.rfl ⟨fun z => ⟨by omega, ?_⟩, fun z => ⟨?_, by omega⟩⟩
      · by_cases c2 : x' = l
        · subst c2
          rcases hl0 with g | g
          · omega
          · exact absurd h4 g
        · omega
      · by_cases c2 : x' + 1 = f
        · rcases hf0 with g | g
          · omega
          · rw [show f - 1 = x' from by omega] at g
            exact absurd h3 g
        · omega
    · rw [ho y' c]
      exact i3 y' x' h1 h2 h3 h4
  · intro D hc y' x' h1 h2 h3
    by_cases c : y' = y
    · subst c
      rcases (hr x' h2).mp h3 with z | z
      · exact i4 D hc y' x' h1 h2 z
      · exact (rq_ch2 (Q := fun i => D y' i) (f := f) (l := l) (fun j g1 g2 => hc.2.2.1 y' j hy (by omega) (hV j g1 (by omega)) (hV (j + 1) (by omega) g2)) hfx hxl z.1 z.2).mp (hD D hc)
    · rw [ho y' c] at h3
      exact i4 D hc y' x' h1 h2 h3
  · intro e he
    rcases List.mem_cons.mp he with z | z
    · subst z
      exact ⟨hy, Nat.le_trans hfx hxl, hl, fun i g1 g2 => tF i g1 g2⟩
    · obtain ⟨g1, g2, g3, g4⟩ := i5 e z
      exact ⟨g1, g2, g3, fun i g5 g6 => mono e.1 i g1 (by omega) (g4 i g5 g6)⟩
  · have e : rb_c (rs_g a') 576 = rb_c (rs_g a) 576 + (l + 1 - f) := by
      refine rb_iv (rs_g a) (rs_g a') 576 (24 * y + f) (l + 1 - f) (by omega) (fun k hk h => ?_) (fun k h1 h2 => ?_)
      · unfold rs_g
        by_cases c : k / 24 = y
        · rw [c]
          have g := hr (k % 24) (by omega)
          cases hb : bt (a y) (k % 24)
          · cases hb' : bt (a' y) (k % 24)
            · rfl
            · rcases g.mp hb' with z | z
              · rw [hb] at z
                cases z
              · omega
          · exact g.mpr (Or.inl hb)
        · rw [ho _ c]
      · obtain ⟨i, rfl⟩ : ∃ i, k = 24 * y + i := ⟨k - 24 * y, by omega⟩
        rw [rs_gat a (by omega), rs_gat a' (by omega)]
        exact ⟨Bool.eq_false_iff.mpr (nF i (by omega) (by omega)), tF i (by omega) (by omega)⟩
    show tot + ((l + 1 - f) + rq_len st) = _
    omega
  · show st.length + 1 ≤ _
    omega
  · intro y' x' h1 h2 h3
    have old : bt (a y') x' = true → (∃ e, e ∈ (y, f, l) :: st ∧ e.1 = y' ∧ e.2.1 ≤ x' ∧ x' ≤ e.2.2) ∨ pend y' x' ∨ (∀ y'', y'' < 24 → (y'' = y' + 1 ∨ y' = y'' + 1) → V y'' x' → bt (a' y'') x' = true) := by
      intro z
      rcases i8 y' x' h1 h2 z with ⟨e, g1, g2⟩ | g | g
      · exact Or.inl ⟨e, List.mem_cons_of_mem _ g1, g2⟩
      · exact Or.inr (Or.inl g)
      · exact Or.inr (Or.inr (fun y'' k1 k2 k3 => mono y'' x' k1 h2 (g y'' k1 k2 k3)))
    by_cases c : y' = y
    · subst c
      rcases (hr x' h2).mp h3 with z | z
      · exact old z
      · exact Or.inl ⟨(y', f, l), List.mem_cons_self, rfl, z.1, z.2⟩
    · rw [ho y' c] at h3
      exact old h3
theorem rq_pop {V : Nat → Nat → Prop} {y0 x0 : Nat} {a : Nat → Int32} {e : Nat × Nat × Nat} {st : List (Nat × Nat × Nat)} {tot : Nat} (I : rq_I V y0 x0 a (e :: st) tot (fun _ _ => False)) : rq_I V y0 x0 a st (tot + (e.2.2 + 1 - e.2.1)) (fun y x => y = e.1 ∧ e.2.1 ≤ x ∧ x ≤ e.2.2) := by
  obtain ⟨i1, i2, i3, i4, i5, i6, i7, i8⟩ := I
  refine ⟨i1, i2, i3, i4, fun e' he => i5 e' (List.mem_cons_of_mem _ he), ?_, ?_, ?_⟩
  · have h : tot + ((e.2.2 + 1 - e.2.1) + rq_len st) = rb_c (rs_g a) 576 := i6
    omega
  · have h : st.length + 1 ≤ rb_c (rq_h a) 288 := i7
    omega
  · intro y x h1 h2 h3
    rcases i8 y x h1 h2 h3 with ⟨e', g1, g2, g3⟩ | g | g
    · rcases List.mem_cons.mp g1 with z | z
      · subst z
        exact Or.inr (Or.inl ⟨g2.symm, g3⟩)
      · exact Or.inl ⟨e', z, g2, g3⟩
    · exact absurd g id
    · exact Or.inr (Or.inr g)
theorem rq_pend {V : Nat → Nat → Prop} {y0 x0 : Nat} {a : Nat → Int32} {st : List (Nat × Nat × Nat)} {tot : Nat} {p q : Nat → Nat → Prop} (I : rq_I V y0 x0 a st tot p) (h : ∀ y x, y < 24 → x < 24 → p y x → q y x ∨ (∀ y', y' < 24 → (y' = y + 1 ∨ y = y' + 1) → V y' x → bt (a y') x = true)) : rq_I V y0 x0 a st tot q := by
  obtain ⟨i1, i2, i3, i4, i5, i6, i7, i8⟩ := I
  refine ⟨i1, i2, i3, i4, i5, i6, i7, fun y x h1 h2 h3 => ?_⟩
  rcases i8 y x h1 h2 h3 with g | g | g
  · exact Or.inl g
  · exact Or.inr (h y x h1 h2 g)
  · exact Or.inr (Or.inr g)
theorem rq_end {V : Nat → Nat → Prop} {y0 x0 : Nat} {a : Nat → Int32} {tot : Nat} (I : rq_I V y0 x0 a [] tot (fun _ _ => False)) (h0 : bt (a y0) x0 = true) : rq_C V y0 x0 (fun y x => bt (a y) x = true) ∧ tot = rb_c (rs_g a) 576 := by
  obtain ⟨i1, i2, i3, i4, i5, i6, i7, i8⟩ := I
  have nb : ∀ y x, y < 24 → x < 24 → bt (a y) x = true → ∀ y', y' < 24 → (y' = y + 1 ∨ y = y' + 1) → V y' x → bt (a y') x = true := by
    intro y x h1 h2 h3
    rcases i8 y x h1 h2 h3 with ⟨e, g1, _⟩ | g | g
    · cases g1
    · exact absurd g id
    · exact g
  refine ⟨⟨h0, i2, i3, fun y x h1 h2 h3 h4 => ⟨fun z => nb y x (by omega) h2 z (y + 1) h1 (Or.inl rfl) h4, fun z => nb (y + 1) x h1 h2 z y (by omega) (Or.inr rfl) h3⟩⟩, ?_⟩
  have h : tot + 0 = rb_c (rs_g a) 576 := i6
  omega
end
section
theorem rq_get {x : Int32} {n : Nat} (h : n < 32) (b : Bool) : (x >>> (nI n &&& 31)) &&& 1 = rs_b b ↔ bt x n = b := by
  rw [rb_get h]
  cases bt x n <;> cases b <;> decide
theorem rq_byte {n : Nat} (h : n < 128) : vp_nar .byte (nI n).toInt8.toInt32 = nI n := by
  rw [pk_vb]
  exact lg_i2b_small (by rw [nI_toInt (by omega)]; omega) (by rw [nI_toInt (by omega)]; omega)
section
variable {pm : Int32} {rows a rr rf rl : Nat → Int32}
theorem rq_72 {post : SX → Prop} {bv : Bool} {y x f sw : Nat} (hy : y < 24) (hx : x < 24) (hfx : f ≤ x) (hsw : sw < 1000) (hH : rs_H a)
    (hp : ∀ (l : Nat) (a' : Nat → Int32), x ≤ l → l < 24 → (∀ i, x ≤ i → i ≤ l → bt (rows y) i = bv) → (l = 23 ∨ ¬ bt (rows y) (l + 1) = bv) → rs_H a' → (∀ i, i < 24 → (bt (a' y) i = true ↔ bt (a y) i = true ∨ (f ≤ i ∧ i ≤ l))) → (∀ y', y' ≠ y → a' y' = a y') → sw < 288 ∧ post (pm, nI (sw + 1), rows, a', upd rr sw (nI y), upd rf sw (nI f), upd rl sw (nI l))) :
    ∀ n l : Nat, 24 - l < n → x ≤ l → l < 24 → (∀ i, x ≤ i → i ≤ l → bt (rows y) i = bv) → wX_addRun_72 post (nI y) (rs_b bv) (nI f) pm (nI sw) rows a rr rf rl n (nI l) := by
  intro n
  induction n with
  | zero => intro l h; exact absurd h (by omega)
  | succ n ih =>
    intro l h1 h2 h3 h4
    have hin : vp_in (nI y) 24 := pk_in y 24 hy
    have fin : (l = 23 ∨ ¬ bt (rows y) (l + 1) = bv) → wX_addRun_102 post (nI y) (nI f) (nI l) pm (nI sw) rows a rr rf rl := by
      intro c
      unfold wX_addRun_102
      rw [nI_clamp (n := y) (by omega), nI_clamp (n := sw) (by omega), rq_byte (by omega), rq_byte (by omega), rq_byte (by omega), nI_1, nI_1]
      have k := hp l (upd a y (a y ||| (((1 : Int32) <<< (nI (l + 1) &&& 31)) - ((1 : Int32) <<< (nI f &&& 31))))) h2 h3 h4 c ?_ ?_ ?_
      · have win : vp_in (nI sw) 288 := pk_in sw 288 k.1
        exact ⟨hin, hin, nm_e ⟨win, nm_e ⟨win, nm_e ⟨win, nm_e (nm_e k.2)⟩⟩⟩⟩
      · intro y' hy' i hi
        by_cases e : y' = y
        · subst e
          rw [pk_us, b_or, hH y' hy' i hi, Bool.false_or]
          rcases Nat.lt_or_ge i 32 with g | g
          · rw [rb_run l h3 f (by omega) i g, decide_eq_false (p := i ≤ l) (by omega), Bool.and_false]
          · exact b_big g
        · rw [pk_un e]
          exact hH y' hy' i hi
      · intro i hi
        rw [pk_us, b_or, Bool.or_eq_true, rb_run l h3 f (by omega) i (by omega), Bool.and_eq_true, decide_eq_true_iff, decide_eq_true_iff]
      · intro y' e
        rw [pk_un e]
    refine pk_le 23 l (fun z => fin (Or.inl (by omega))) (fun z => ⟨hin, ?_⟩)
    rw [nI_clamp (n := y) (by omega), nI_1, rq_get (by omega)]
    refine br_c (fun c => nm_e (ih (l + 1) (by omega) (by omega) (by omega) (fun i g1 g2 => ?_))) (fun c => fin (Or.inr c))
    by_cases e : i = l + 1
    · rw [e]
      exact c
    · exact h4 i g1 (by omega)
theorem rq_44 {post : SX → Prop} {bv : Bool} {y x sw : Nat} (hy : y < 24) (hx : x < 24) (hsw : sw < 1000) (hH : rs_H a)
    (hp : ∀ (f l : Nat) (a' : Nat → Int32), f ≤ x → x ≤ l → l < 24 → (∀ i, f ≤ i → i ≤ l → bt (rows y) i = bv) → (f = 0 ∨ ¬ bt (rows y) (f - 1) = bv) → (l = 23 ∨ ¬ bt (rows y) (l + 1) = bv) → rs_H a' → (∀ i, i < 24 → (bt (a' y) i = true ↔ bt (a y) i = true ∨ (f ≤ i ∧ i ≤ l))) → (∀ y', y' ≠ y → a' y' = a y') → sw < 288 ∧ post (pm, nI (sw + 1), rows, a', upd rr sw (nI y), upd rf sw (nI f), upd rl sw (nI l))) :
    ∀ n f : Nat, f < n → f ≤ x → (∀ i, f ≤ i → i ≤ x → bt (rows y) i = bv) → wX_addRun_44 post (nI y) (rs_b bv) (nI x) pm (nI sw) rows a rr rf rl n (nI f) := by
  intro n
  induction n with
  | zero => intro f h; exact absurd h (by omega)
  | succ n ih =>
    intro f h1 h2 h3
    have hin : vp_in (nI y) 24 := pk_in y 24 hy
    have fin : (f = 0 ∨ ¬ bt (rows y) (f - 1) = bv) → ∃ n72 : Nat, wX_addRun_72 post (nI y) (rs_b bv) (nI f) pm (nI sw) rows a rr rf rl n72 (nI x) := by
      intro c
      refine ⟨25, rq_72 hy hx h2 hsw hH (fun l a' g1 g2 g3 g4 g5 g6 g7 => hp f l a' h2 g1 g2 (fun i k1 k2 => ?_) c g4 g5 g6 g7) 25 x (by omega) (by omega) hx (fun i k1 k2 => h3 i (by omega) k2)⟩
      by_cases e : i ≤ x
      · exact h3 i k1 e
      · exact g3 i (by omega) k2
    refine pk_le f 0 (fun z => fin (Or.inl (by omega))) (fun z => ⟨hin, ?_⟩)
    obtain ⟨f', rfl⟩ : ∃ f', f = f' + 1 := ⟨f - 1, by omega⟩
    rw [nI_clamp (n := y) (by omega), nI_pred, rq_get (by omega)]
    refine br_c (fun c => nm_r (pk_m1 f') (ih f' (by omega) (by omega) (fun i g1 g2 => ?_))) (fun c => fin (Or.inr c))
    by_cases e : i = f'
    · rw [e]
      exact c
    · exact h3 i (by omega) g2
theorem rq_addX {post : SX → Prop} {bv : Bool} {x sw : Nat} {Y : Int32} (y : Int) (hY : Y = rz_i y) (b : -1 ≤ y ∧ y ≤ 24) (hx : x < 24) (hsw : sw < 1000) (hH : rs_H a)
    (hs : (y < 0 ∨ 24 ≤ y ∨ bt (a y.toNat) x = true ∨ ¬ bt (rows y.toNat) x = bv) → post (pm, nI sw, rows, a, rr, rf, rl))
    (hp : ∀ (f l : Nat) (a' : Nat → Int32), 0 ≤ y → y < 24 → ¬ bt (a y.toNat) x = true → f ≤ x → x ≤ l → l < 24 → (∀ i, f ≤ i → i ≤ l → bt (rows y.toNat) i = bv) → (f = 0 ∨ ¬ bt (rows y.toNat) (f - 1) = bv) → (l = 23 ∨ ¬ bt (rows y.toNat) (l + 1) = bv) → rs_H a' → (∀ i, i < 24 → (bt (a' y.toNat) i = true ↔ bt (a y.toNat) i = true ∨ (f ≤ i ∧ i ≤ l))) → (∀ y', y' ≠ y.toNat → a' y' = a y') → sw < 288 ∧ post (pm, nI (sw + 1), rows, a', upd rr sw (nI y.toNat), upd rf sw (nI f), upd rl sw (nI l))) :
    wpX_addRun post (pm, nI sw, rows, a, rr, rf, rl) Y (nI x) (rs_b bv) := by
  subst hY
  refine rz_lt y 0 (fun z => hs (Or.inl z)) (fun q0 => rz_le 24 y (fun z => hs (Or.inr (Or.inl z))) (fun q1 => ?_))
  obtain ⟨y', rfl⟩ := Int.eq_ofNat_of_zero_le q0
  have et : ((y' : Int)).toNat = y' := rfl
  rw [et] at hs hp
  rw [← rz_nI]
  have hin : vp_in (nI y') 24 := pk_in y' 24 (by omega)
  refine ⟨hin, ?_⟩
  rw [nI_clamp (n := y') (by omega)]
  refine ⟨?_, ?_⟩
  · intro c
    have c' := (rq_get (by omega) false).mp c
    refine ⟨hin, ?_⟩
    rw [rq_get (by omega)]
    have nb : ¬ bt (a y') x = true := by rw [c']; decide
    refine br_c (fun c2 => ⟨x + 1, rq_44 (by omega) hx hsw hH (fun f l a' => hp f l a' q0 q1 nb) (x + 1) x (by omega) (by omega) (fun i g1 g2 => ?_)⟩) (fun c2 => hs (Or.inr (Or.inr (Or.inr c2))))
    obtain rfl : i = x := by omega
    exact c2
  · intro c
    refine hs (Or.inr (Or.inr (Or.inl ?_)))
    cases hb : bt (a y') x
    · exact absurd ((rq_get (by omega) false).mpr hb) c
    · rfl
def rq_m (st : List (Nat × Nat × Nat)) (a : Nat → Int32) : Nat := st.length + (288 - rb_c (rq_h a) 288)
theorem rq_addI {post : SX → Prop} {bv : Bool} {y0 x0 x tot : Nat} {st : List (Nat × Nat × Nat)} {pend : Nat → Nat → Prop} {Y : Int32} (y : Int) (hY : Y = rz_i y) (b : -1 ≤ y ∧ y ≤ 24) (hx : x < 24) (I : rq_I (fun y x => bt (rows y) x = bv) y0 x0 a st tot pend) (hS : rq_SR rr rf rl st)
    (hD : 0 ≤ y → y < 24 → bt (rows y.toNat) x = bv → ∀ D : Nat → Nat → Prop, rq_C (fun y x => bt (rows y) x = bv) y0 x0 D → D y.toNat x)
    (hp : ∀ (a' rr' rf' rl' : Nat → Int32) (st' : List (Nat × Nat × Nat)), rq_I (fun y x => bt (rows y) x = bv) y0 x0 a' st' tot pend → rq_SR rr' rf' rl' st' → (∀ y' x', y' < 24 → x' < 24 → bt (a y') x' = true → bt (a' y') x' = true) → (0 ≤ y → y < 24 → bt (rows y.toNat) x = bv → bt (a' y.toNat) x = true) → rq_m st' a' ≤ rq_m st a → post (pm, nI st'.length, rows, a', rr', rf', rl')) :
    wpX_addRun post (pm, nI st.length, rows, a, rr, rf, rl) Y (nI x) (rs_b bv) := by
  have key : ∀ (f l : Nat) (a' : Nat → Int32), 0 ≤ y → y < 24 → ¬ bt (a y.toNat) x = true → f ≤ x → x ≤ l → l < 24 → (∀ i, f ≤ i → i ≤ l → bt (rows y.toNat) i = bv) → (f = 0 ∨ ¬ bt (rows y.toNat) (f - 1) = bv) → (l = 23 ∨ ¬ bt (rows y.toNat) (l + 1) = bv) → rs_H a' → (∀ i, i < 24 → (bt (a' y.toNat) i = true ↔ bt (a y.toNat) i = true ∨ (f ≤ i ∧ i ≤ l))) → (∀ y', y' ≠ y.toNat → a' y' = a y') → _ := fun f l a' g1 g2 g3 g4 g5 g6 g7 g8 g9 g10 g11 g12 =>
    rq_add I (y := y.toNat) (x := x) (f := f) (l := l) (by omega) hx g3 g4 g5 g6 g7 g8 g9 (hD g1 g2 (g7 x g4 g5)) g10 g11 g12
  have c0 := rb_le (rq_h a) 288
  have c1 : st.length ≤ rb_c (rq_h a) 288 := I.2.2.2.2.2.2.1
  refine rq_addX y hY b hx (by omega) I.1 (fun c => hp a rr rf rl st I hS (fun _ _ _ _ z => z) (fun g1 g2 g3 => ?_) (Nat.le_refl _)) (fun f l a' g1 g2 g3 g4 g5 g6 g7 g8 g9 g10 g11 g12 => ?_)
  · rcases c with c | c | c | c
    · omega
    · omega
    · exact c
    · exact absurd g3 c
  · obtain ⟨k1, k2, k3, k4⟩ := key f l a' g1 g2 g3 g4 g5 g6 g7 g8 g9 g10 g11 g12
    have c2 := rb_le (rq_h a') 288
    have hl : nI (st.length + 1) = nI ((y.toNat, f, l) :: st).length := rfl
    refine ⟨by omega, ?_⟩
    rw [hl]
    refine hp a' _ _ _ ((y.toNat, f, l) :: st) k1 ⟨⟨pk_us, pk_us, pk_us⟩, rq_SRu st (Nat.le_refl _) hS⟩ k3 (fun _ _ _ => k4) ?_
    unfold rq_m
    show st.length + 1 + (288 - rb_c (rq_h a') 288) ≤ st.length + (288 - rb_c (rq_h a) 288)
    omega
end
end
section
section
variable {pm : Int32} {rows : Nat → Int32}
theorem rq_103 {post : Int32 → SX → Prop} {J : Int32 → Int32 → Int32 → (Nat → Int32) → (Nat → Int32) → (Nat → Int32) → (Nat → Int32) → (Nat → Int32) → Prop} {bv : Bool} {y0 x0 tot Y l M : Nat} (hy0 : y0 < 24) (hx0 : x0 < 24) (hY : Y < 24) (hl : l < 24)
    (hJ : ∀ (st : List (Nat × Nat × Nat)) (a rr rf rl : Nat → Int32), rq_I (fun y x => bt (rows y) x = bv) y0 x0 a st tot (fun _ _ => False) → rq_SR rr rf rl st → bt (a y0) x0 = true → rq_m st a ≤ M → J (nI tot) pm (nI st.length) rows a rr rf rl) :
    ∀ (n x : Nat) (st : List (Nat × Nat × Nat)) (a rr rf rl : Nat → Int32), l + 1 - x < n → x ≤ l + 1 → rq_I (fun y x => bt (rows y) x = bv) y0 x0 a st tot (fun y' x' => y' = Y ∧ x ≤ x' ∧ x' ≤ l) → rq_SR rr rf rl st → bt (a y0) x0 = true → (∀ i, x ≤ i → i ≤ l → bt (a Y) i = true) → rq_m st a ≤ M → wX_flood_103 post J (rs_b bv) (nI tot) (nI Y) (nI l) n (nI x) pm (nI st.length) rows a rr rf rl := by
  intro n
  induction n with
  | zero => intro x st a rr rf rl h1; exact absurd h1 (by omega)
  | succ n ih =>
    intro x st a rr rf rl h1 h2 I S h0 hF hM
    refine pk_lt l x (fun z => hJ st a rr rf rl (rq_pend I (fun y' x' _ _ k => by omega)) S h0 hM) (fun z => ?_)
    have ax := hF x (by omega) (by omega)
    have vx : bt (rows Y) x = bv := I.2.1 Y x hY (by omega) ax
    refine rq_addI ((Y : Int) - 1) (by rw [rz_nI]; exact rz_sub Y 1) (by omega) (by omega) I S (fun g1 g2 g3 D hc => ?_) (fun a1 rr1 rf1 rl1 st1 I1 S1 mono1 new1 m1 => ?_)
    · obtain ⟨Y', rfl⟩ : ∃ Y', Y = Y' + 1 := ⟨Y - 1, by omega⟩
      have e : (((Y' + 1 : Nat) : Int) - 1).toNat = Y' := by omega
      rw [e] at g3 ⊢
      exact (hc.2.2.2 Y' x hY (by omega) g3 vx).mpr (I.2.2.2.1 D hc (Y' + 1) x hY (by omega) ax)
    · have ax1 := mono1 Y x hY (by omega) ax
      refine rq_addI ((Y : Int) + 1) (by rw [rz_nI]; exact rz_add Y 1) (by omega) (by omega) I1 S1 (fun g1 g2 g3 D hc => ?_) (fun a2 rr2 rf2 rl2 st2 I2 S2 mono2 new2 m2 => ?_)
      · have e : ((Y : Int) + 1).toNat = Y + 1 := by omega
        rw [e] at g3 ⊢
        exact (hc.2.2.2 Y x (by omega) (by omega) vx g3).mp (I1.2.2.2.1 D hc Y x hY (by omega) ax1)
      · refine nm_r (nI_1 x) (ih (x + 1) st2 a2 rr2 rf2 rl2 (by omega) (by omega) (rq_pend I2 (fun y' x' q1 q2 k => ?_)) S2 (mono2 y0 x0 hy0 hx0 (mono1 y0 x0 hy0 hx0 h0)) (fun i g1 g2 => mono2 Y i hY (by omega) (mono1 Y i hY (by omega) (hF i (by omega) g2))) (by omega))
        obtain ⟨k1, k2, k3⟩ := k
        by_cases c : x' = x
        · subst c k1
          right
          intro y'' p1 p2 p3
          rcases p2 with p2 | p2
          · subst p2
            have e : ((y' : Int) + 1).toNat = y' + 1 := by omega
            rw [e] at new2
            exact new2 (by omega) (by omega) p3
          · subst p2
            have e : (((y'' + 1 : Nat) : Int) - 1).toNat = y'' := by omega
            rw [e] at new1
            exact mono2 y'' x' p1 q2 (new1 (by omega) (by omega) p3)
        · exact Or.inl ⟨k1, by omega, k3⟩
theorem rq_39 {post : Int32 → SX → Prop} {bv : Bool} {y0 x0 : Nat} (hy0 : y0 < 24) (hx0 : x0 < 24)
    (hend : ∀ (a rr rf rl : Nat → Int32), rs_H a → rq_C (fun y x => bt (rows y) x = bv) y0 x0 (fun y x => bt (a y) x = true) → (∀ D : Nat → Nat → Prop, rq_C (fun y x => bt (rows y) x = bv) y0 x0 D → ∀ y x, y < 24 → x < 24 → bt (a y) x = true → D y x) → ∃ n144 : Nat, wX_flood_144 post (nI (rb_c (rs_g a) 576)) pm (nI 0) n144 0 rows a rr rf rl) :
    ∀ (n : Nat) (st : List (Nat × Nat × Nat)) (a rr rf rl : Nat → Int32) (tot : Nat), rq_m st a < n → rq_I (fun y x => bt (rows y) x = bv) y0 x0 a st tot (fun _ _ => False) → rq_SR rr rf rl st → bt (a y0) x0 = true → wX_flood_39 post (rs_b bv) n (nI tot) pm (nI st.length) rows a rr rf rl := by
  intro n
  induction n with
  | zero => intro st a rr rf rl tot h; exact absurd h (by omega)
  | succ n ih =>
    intro st a rr rf rl tot hn I S h0
    cases st with
    | nil =>
      obtain ⟨k1, k2⟩ := rq_end I h0
      subst k2
      exact br_t (show nI 0 ≤ 0 by decide) (hend a rr rf rl I.1 k1 I.2.2.2.1)
    | cons e t =>
      have c0 := rb_le (rq_h a) 288
      have c1 : t.length + 1 ≤ rb_c (rq_h a) 288 := I.2.2.2.2.2.2.1
      obtain ⟨e1, e2, e3, e4⟩ := I.2.2.2.2.1 e List.mem_cons_self
      obtain ⟨⟨s1, s2, s3⟩, S'⟩ := S
      have hin : vp_in (nI t.length) 288 := pk_in t.length 288 (by omega)
      have hm : rq_m (e :: t) a = rq_m t a + 1 := by
        unfold rq_m
        show t.length + 1 + _ = _
        omega
      refine br_f (nI_nle (n := t.length + 1) (by omega) (by omega)) (nm_r (nI_pred t.length) ⟨hin, nm_r (e' := nI e.1) (by rw [nI_clamp (by omega)]; exact s1) ⟨hin, nm_r (e' := nI e.2.1) (by rw [nI_clamp (by omega)]; exact s2) ⟨hin, nm_r (e' := nI e.2.2) (by rw [nI_clamp (by omega)]; exact s3) (nm_r (e' := nI (tot + (e.2.2 + 1 - e.2.1))) ?_ (Exists.intro (e.2.2 + 2) (rq_103 hy0 hx0 e1 e3 (M := rq_m t a) (fun st' a' rr' rf' rl' I' S'' h0' hM => ih st' a' rr' rf' rl' _ (by omega) I' S'' h0') _ e.2.1 t a rr rf rl (by omega) (by omega) (rq_pop I) S' h0 e4 (Nat.le_refl _))))⟩⟩⟩)
      rw [pk_sub e2, nI_1, nI_add]
      exact congrArg nI (by omega)
theorem rq_144 {post : Int32 → SX → Prop} {tot w : Int32} {a rr rf rl : Nat → Int32} (hp : post tot (pm, w, rs_u (fun j => rows j ^^^ a j) rows 24, a, rr, rf, rl)) : ∀ n i : Nat, 24 - i < n → i ≤ 24 → wX_flood_144 post tot pm w n (nI i) (rs_u (fun j => rows j ^^^ a j) rows i) a rr rf rl
  | 0, _, hn, _ => absurd hn (by omega)
  | n + 1, i, hn, hi => pk_le 24 i (fun z => by
      obtain rfl : i = 24 := by omega
      exact hp) (fun z => by
      have hin : vp_in (nI i) 24 := pk_in i 24 z
      refine ⟨hin, hin, hin, nm_r (e' := rs_u (fun j => rows j ^^^ a j) rows (i + 1)) ?_ (nm_r (nI_1 i) (rq_144 hp n (i + 1) (by omega) (by omega)))⟩
      rw [nI_clamp (by omega), rs_uat]
      exact rs_us (fun j => rows j ^^^ a j) rows i)
theorem rq_getX {post : Int32 → Prop} {w : Int32} {fig rr rf rl : Nat → Int32} {p : Int32} {x y : Nat} (h : rp_P p x y) (hp : post (rs_b (bt (rows y) x))) : wpX_get post (pm, w, rows, fig, rr, rf, rl) p := by
  have h1 := h.1
  have h2 := h.2.1
  unfold wpX_get
  dsimp only
  refine rp_X (fun _ _ _ => br_f (by decide) ?_) (fun no => absurd h (no x y))
  rw [rp_shr h, rp_and h, nI_clamp (by omega), (rq_get (by omega) _).mpr rfl]
  exact ⟨pk_in y 24 h2, hp⟩
theorem rq_floodX {post : Int32 → SX → Prop} {w : Int32} {fig rr rf rl : Nat → Int32} {p : Int32} {x0 y0 : Nat} (h : rp_P p x0 y0)
    (hp : ∀ (a rr rf rl : Nat → Int32), rs_H a → rq_C (fun y x => bt (rows y) x = bt (rows y0) x0) y0 x0 (fun y x => bt (a y) x = true) → (∀ D : Nat → Nat → Prop, rq_C (fun y x => bt (rows y) x = bt (rows y0) x0) y0 x0 D → ∀ y x, y < 24 → x < 24 → bt (a y) x = true → D y x) → post (nI (rb_c (rs_g a) 576)) (pm, 0, rs_u (fun j => rows j ^^^ a j) rows 24, a, rr, rf, rl)) :
    wpX_flood post (pm, w, rows, fig, rr, rf, rl) p := by
  have h1 := h.1
  have h2 := h.2.1
  unfold wpX_flood
  dsimp only
  refine rp_X (fun _ _ _ => br_f (by decide) ?_) (fun no => absurd h (no x0 y0))
  refine rq_getX h ?_
  refine rf_clear (fun a ha => ?_)
  dsimp only
  rw [rp_shr h, rp_and h]
  have I0 : rq_I (fun y x => bt (rows y) x = bt (rows y0) x0) y0 x0 a [] 0 (fun _ _ => False) := rq_I0 ha
  refine rq_addI (st := []) (pend := fun _ _ => False) (y0 := y0) (x0 := x0) (tot := 0) (y0 : Int) (rz_nI y0) (by omega) h1 I0 trivial (fun _ _ _ D hc => hc.1) (fun a' rr' rf' rl' st' I' S' mono new m => ?_)
  refine Exists.intro (rq_m st' a' + 1) (rq_39 h2 h1 (fun a2 rr2 rf2 rl2 k1 k2 k3 => Exists.intro 25 ?_) _ st' a' rr' rf' rl' 0 (by omega) I' S' (new (by omega) (by omega) rfl))
  have k := rq_144 (w := nI 0) (tot := nI (rb_c (rs_g a2) 576)) (hp a2 rr2 rf2 rl2 k1 k2 k3) 25 0 (by omega) (by omega)
  rw [rs_u0] at k
  exact k
end
end
section
def rv_B (C : Nat → Bool) (k : Nat) : Prop := (0 < k % 24 ∧ C (k - 1) = true) ∨ (k % 24 < 23 ∧ C (k + 1) = true) ∨ (24 ≤ k ∧ C (k - 24) = true) ∨ (k < 552 ∧ C (k + 24) = true)
def rv_L (V : Nat → Nat → Prop) (y0 x0 : Nat) (C : Nat → Bool) : Prop :=
  C (24 * y0 + x0) = true ∧ (∀ y x, y < 24 → x < 24 → C (24 * y + x) = true → V y x) ∧ (∀ D : Nat → Nat → Prop, rq_C V y0 x0 D → ∀ y x, y < 24 → x < 24 → C (24 * y + x) = true → D y x)
def rv_cl (V : Nat → Nat → Prop) (C : Nat → Bool) : Prop := ∀ y x, y < 24 → x < 24 → C (24 * y + x) = false → V y x → ¬ rv_B C (24 * y + x)
theorem rv_C {V : Nat → Nat → Prop} {y0 x0 : Nat} {C : Nat → Bool} (h : rv_L V y0 x0 C) (hc : rv_cl V C) : rq_C V y0 x0 (fun y x => C (24 * y + x) = true) := by
  refine ⟨h.1, h.2.1, fun y x h1 h2 h3 h4 => ⟨fun z => ?_, fun z => ?_⟩, fun y x h1 h2 h3 h4 => ⟨fun z => ?_, fun z => ?_⟩⟩
  · cases hb : C (24 * y + (x + 1))
    · refine absurd (Or.inl ⟨by omega, ?_⟩) (hc y (x + 1) h1 h2 hb h4)
      rw [show 24 * y + (x + 1) - 1 = 24 * y + x from by omega]
      exact z
    · exact hb
  · cases hb : C (24 * y + x)
    · refine absurd (Or.inr (Or.inl ⟨by omega, ?_⟩)) (hc y x h1 (by omega) hb h3)
      rw [show 24 * y + x + 1 = 24 * y + (x + 1) from by omega]
      exact z
    · exact hb
  · cases hb : C (24 * (y + 1) + x)
    · refine absurd (Or.inr (Or.inr (Or.inl ⟨by omega, ?_⟩))) (hc (y + 1) x h1 h2 hb h4)
      rw [show 24 * (y + 1) + x - 24 = 24 * y + x from by omega]
      exact z
    · exact hb
  · cases hb : C (24 * y + x)
    · refine absurd (Or.inr (Or.inr (Or.inr ⟨by omega, ?_⟩))) (hc y x (by omega) h2 hb h3)
      rw [show 24 * y + x + 24 = 24 * (y + 1) + x from by omega]
      exact z
    · exact hb
def rv_s (C : Nat → Bool) (k : Nat) : Nat → Bool := fun j => if j = k then true else C j
theorem rv_sT (C : Nat → Bool) (k : Nat) : rv_s C k k = true := if_pos rfl
theorem rv_sM {C : Nat → Bool} {k j : Nat} (h : C j = true) : rv_s C k j = true := by
  unfold rv_s
  by_cases c : j = k
  · rw [if_pos c]
  · rw [if_neg c]
    exact h
theorem rv_sO {C : Nat → Bool} {k j : Nat} (h : rv_s C k j = true) : j = k ∨ C j = true := by
  unfold rv_s at h
  by_cases c : j = k
  · exact Or.inl c
  · rw [if_neg c] at h
    exact Or.inr h
theorem rv_add {V : Nat → Nat → Prop} {y0 x0 : Nat} {C : Nat → Bool} (h : rv_L V y0 x0 C) {y x : Nat} (hy : y < 24) (hx : x < 24) (hV : V y x) (hB : rv_B C (24 * y + x)) : rv_L V y0 x0 (rv_s C (24 * y + x)) := by
  obtain ⟨i1, i2, i3⟩ := h
  refine ⟨rv_sM i1, fun y' x' h1 h2 h3 => ?_, fun D hc y' x' h1 h2 h3 => ?_⟩
  · rcases rv_sO h3 with z | z
    · obtain rfl : y' = y := by omega
      obtain rfl : x' = x := by omega
      exact hV
    · exact i2 y' x' h1 h2 z
  · rcases rv_sO h3 with z | z
    · obtain rfl : y' = y := by omega
      obtain rfl : x' = x := by omega
      rcases hB with ⟨b1, b2⟩ | ⟨b1, b2⟩ | ⟨b1, b2⟩ | ⟨b1, b2⟩
      · obtain ⟨t, rfl⟩ : ∃ t, x' = t + 1 := ⟨x' - 1, by omega⟩
        rw [show 24 * y' + (t + 1) - 1 = 24 * y' + t from by omega] at b2
        exact (hc.2.2.1 y' t h1 hx (i2 y' t h1 (by omega) b2) hV).mp (i3 D hc y' t h1 (by omega) b2)
      · rw [show 24 * y' + x' + 1 = 24 * y' + (x' + 1) from by omega] at b2
        exact (hc.2.2.1 y' x' h1 (by omega) hV (i2 y' (x' + 1) h1 (by omega) b2)).mpr (i3 D hc y' (x' + 1) h1 (by omega) b2)
      · obtain ⟨t, rfl⟩ : ∃ t, y' = t + 1 := ⟨y' - 1, by omega⟩
        rw [show 24 * (t + 1) + x' - 24 = 24 * t + x' from by omega] at b2
        exact (hc.2.2.2 t x' h1 h2 (i2 t x' (by omega) h2 b2) hV).mp (i3 D hc t x' (by omega) h2 b2)
      · rw [show 24 * y' + x' + 24 = 24 * (y' + 1) + x' from by omega] at b2
        exact (hc.2.2.2 y' x' (by omega) h2 hV (i2 (y' + 1) x' (by omega) h2 b2)).mpr (i3 D hc (y' + 1) x' (by omega) h2 b2)
    · exact i3 D hc y' x' h1 h2 z
section
variable {pen : Int32} {set f : Nat → Int32} {C : Nat → Bool}
theorem rv_z {k : Nat} (hf : ∀ k, k < 576 → f k = rs_b (C k)) (hk : k < 576) : f (nI k).toNatClampNeg = 0 ↔ C k = false := by
  rw [nI_clamp (by omega), hf k hk, rs_bn]
theorem rv_beside {post : Int32 → Prop} {k : Nat} (hf : ∀ k, k < 576 → f k = rs_b (C k)) (hk : k < 576) (h1 : rv_B C k → post 1) (h0 : ¬ rv_B C k → post 0) : wpY_besideFigure post (pen, set, f) (nI k) := by
  have k58 : ¬ (0 < k % 24 ∧ C (k - 1) = true) → ¬ (k % 24 < 23 ∧ C (k + 1) = true) → ¬ (24 ≤ k ∧ C (k - 24) = true) → wY_besideFigure_58 post (nI k) pen set f := by
    intro n1 n2 n3
    refine pk_le 552 k (fun z => h0 (fun z' => ?_)) (fun z => ?_)
    · rcases z' with z' | z' | z' | z'
      · exact n1 z'
      · exact n2 z'
      · exact n3 z'
      · omega
    · have e : nI k + 24 = nI (k + 24) := nI_add k 24
      rw [e, rv_z hf (by omega)]
      refine ⟨pk_in (k + 24) 576 (by omega), ?_⟩
      cases hb : C (k + 24)
      · refine br_t rfl (h0 (fun z' => ?_))
        rcases z' with z' | z' | z' | z'
        · exact n1 z'
        · exact n2 z'
        · exact n3 z'
        · rw [hb] at z'
          exact absurd z'.2 (by decide)
      · exact br_f (by decide) (h1 (Or.inr (Or.inr (Or.inr ⟨z, hb⟩))))
  have k40 : ¬ (0 < k % 24 ∧ C (k - 1) = true) → ¬ (k % 24 < 23 ∧ C (k + 1) = true) → wY_besideFigure_40 post (nI k) pen set f := by
    intro n1 n2
    refine pk_lt k 24 (fun z => k58 n1 n2 (fun z' => by omega)) (fun z => ?_)
    have e : nI k - 24 = nI (k - 24) := pk_sub (b := 24) z
    rw [e, rv_z hf (by omega)]
    refine ⟨pk_in (k - 24) 576 (by omega), ?_⟩
    cases hb : C (k - 24)
    · exact br_t rfl (k58 n1 n2 (fun z' => by rw [hb] at z'; exact absurd z'.2 (by decide)))
    · exact br_f (by decide) (h1 (Or.inr (Or.inr (Or.inl ⟨z, hb⟩))))
  have k18 : ¬ (0 < k % 24 ∧ C (k - 1) = true) → wY_besideFigure_18 post (nI k) pen set f := by
    intro n1
    refine And.intro (by decide) (pk_le 23 (k % 24) (fun z => k40 n1 (fun z' => by omega)) (fun z => ?_) rfl (rp_r24 (by omega)))
    rw [nI_1, rv_z hf (by omega)]
    refine ⟨pk_in (k + 1) 576 (by omega), ?_⟩
    cases hb : C (k + 1)
    · exact br_t rfl (k40 n1 (fun z' => by rw [hb] at z'; exact absurd z'.2 (by decide)))
    · exact br_f (by decide) (h1 (Or.inr (Or.inl ⟨z, hb⟩)))
  refine And.intro (by decide) (pk_le (k % 24) 0 (fun z => k18 (fun z' => by omega)) (fun z => ?_) (rp_r24 (by omega)) rfl)
  have e : nI k - 1 = nI (k - 1) := pk_sub (b := 1) (by omega)
  rw [e, rv_z hf (by omega)]
  refine ⟨pk_in (k - 1) 576 (by omega), ?_⟩
  cases hb : C (k - 1)
  · exact br_t rfl (k18 (fun z' => by rw [hb] at z'; exact absurd z'.2 (by decide)))
  · exact br_f (by decide) (h1 (Or.inl ⟨z, hb⟩))
end
section
variable {pen : Int32} {set : Nat → Int32} {g : Nat → Bool} {y0 x0 : Nat}
theorem rv_76 {post : Int32 → SY → Prop} {J : Int32 → Int32 → (Nat → Int32) → (Nat → Int32) → Prop} {rnd c0 : Nat} (hs : ∀ k, k < 576 → set k = rs_b (g k)) (hy0 : y0 < 24) (hx0 : x0 < 24)
    (hJ : ∀ (m : Bool) (C : Nat → Bool) (f : Nat → Int32), (∀ k, k < 576 → f k = rs_b (C k)) → rv_L (fun y x => g (24 * y + x) = g (24 * y0 + x0)) y0 x0 C → c0 + rb_n m ≤ rb_c C 576 → (m = false → rv_cl (fun y x => g (24 * y + x) = g (24 * y0 + x0)) C) → J (rs_b m) (nI (rnd + 1)) set f) :
    ∀ (n k : Nat) (m : Bool) (C : Nat → Bool) (f : Nat → Int32), 576 - k < n → k ≤ 576 → (∀ k, k < 576 → f k = rs_b (C k)) → rv_L (fun y x => g (24 * y + x) = g (24 * y0 + x0)) y0 x0 C → c0 + rb_n m ≤ rb_c C 576 → (m = false → ∀ j, j < k → C j = false → g j = g (24 * y0 + x0) → ¬ rv_B C j) → wY_flood_76 post J (nI (24 * y0 + x0)) (nI rnd) pen n (rs_b m) (nI k) set f := by
  intro n
  induction n with
  | zero => intro k m C f h; exact absurd h (by omega)
  | succ n ih =>
    intro k m C f h1 h2 hf hL hc hn
    refine pk_le 576 k (fun z => ?_) (fun z => ⟨pk_in k 576 z, ?_⟩)
    · exact nm_r (nI_1 rnd) (hJ m C f hf hL hc (fun e y x hy hx k1 k2 => hn e (24 * y + x) (by omega) k1 k2))
    · rw [rv_z hf z]
      cases hb : C k
      · refine br_t rfl ⟨pk_in k 576 z, pk_in (24 * y0 + x0) 576 (by omega), ?_⟩
        rw [nI_clamp (n := k) (by omega), nI_clamp (n := 24 * y0 + x0) (by omega), hs k z, hs (24 * y0 + x0) (by omega), rs_b_inj]
        refine br_c (fun e => rv_beside hf z (fun q => br_f (by decide) ⟨pk_in k 576 z, nm_e (nm_r (nI_1 k) (ih (k + 1) true (rv_s C k) _ (by omega) (by omega) ?_ ?_ ?_ (fun e => by cases e)))⟩) (fun q => br_t rfl (nm_r (nI_1 k) (ih (k + 1) m C f (by omega) (by omega) hf hL hc (fun e1 j hj k1 k2 => ?_))))) (fun e => nm_r (nI_1 k) (ih (k + 1) m C f (by omega) (by omega) hf hL hc (fun e1 j hj k1 k2 => ?_)))
        · intro j hj
          unfold rv_s
          by_cases c : j = k
          · rw [c, pk_us, if_pos rfl]
            rfl
          · rw [pk_un c, if_neg c]
            exact hf j hj
        · obtain ⟨y, x, hy, hx, rfl⟩ : ∃ y x, y < 24 ∧ x < 24 ∧ k = 24 * y + x := ⟨k / 24, k % 24, by omega, by omega, by omega⟩
          exact rv_add hL hy hx e q
        · have q1 := rb_lt (p := C) (q := rv_s C k) 576 (fun j _ w => rv_sM w) k z hb (rv_sT C k)
          show c0 + 1 ≤ _
          omega
        · by_cases c : j = k
          · rw [c]
            exact q
          · exact hn e1 j (by omega) k1 k2
        · by_cases c : j = k
          · rw [c] at k2
            exact absurd k2 e
          · exact hn e1 j (by omega) k1 k2
      · refine br_f (by decide) (nm_r (nI_1 k) (ih (k + 1) m C f (by omega) (by omega) hf hL hc (fun e1 j hj k1 k2 => ?_)))
        by_cases c : j = k
        · rw [c, hb] at k1
          cases k1
        · exact hn e1 j (by omega) k1 k2
theorem rv_59 {post : Int32 → SY → Prop} (hs : ∀ k, k < 576 → set k = rs_b (g k)) (hy0 : y0 < 24) (hx0 : x0 < 24)
    (hend : ∀ (C : Nat → Bool) (f : Nat → Int32), (∀ k, k < 576 → f k = rs_b (C k)) → rv_L (fun y x => g (24 * y + x) = g (24 * y0 + x0)) y0 x0 C → rv_cl (fun y x => g (24 * y + x) = g (24 * y0 + x0)) C → ∃ n147 : Nat, wY_flood_147 post pen n147 0 0 set f) :
    ∀ (n rnd : Nat) (m : Bool) (C : Nat → Bool) (f : Nat → Int32), 576 - rnd < n → rnd ≤ 576 → (∀ k, k < 576 → f k = rs_b (C k)) → rv_L (fun y x => g (24 * y + x) = g (24 * y0 + x0)) y0 x0 C → (m = true → rnd + 1 ≤ rb_c C 576) → (m = false → rv_cl (fun y x => g (24 * y + x) = g (24 * y0 + x0)) C) → wY_flood_59 post (nI (24 * y0 + x0)) pen n (rs_b m) (nI rnd) set f := by
  intro n
  induction n with
  | zero => intro rnd m C f h; exact absurd h (by omega)
  | succ n ih =>
    intro rnd m C f h1 h2 hf hL hc hn
    have b0 := rb_le C 576
    refine pk_le 576 rnd (fun z => ?_) (fun z => ?_)
    · cases m
      · exact hend C f hf hL (hn rfl)
      · have := hc rfl
        omega
    · cases m
      · exact br_t rfl (hend C f hf hL (hn rfl))
      · have c1 := hc rfl
        refine br_f (by decide) (Exists.intro 577 (rv_76 (c0 := rb_c C 576) hs hy0 hx0 (fun m' C' f' hf' hL' hc' hn' => ih (rnd + 1) m' C' f' (by omega) (by omega) hf' hL' (fun e => ?_) hn') 577 0 false C f (by omega) (by omega) hf hL (Nat.le_refl _) (fun _ j hj => absurd hj (by omega))))
        rw [e] at hc'
        have : rb_c C 576 + 1 ≤ rb_c C' 576 := hc'
        omega
theorem rv_147 {post : Int32 → SY → Prop} {C : Nat → Bool} {f : Nat → Int32} (hs : ∀ k, k < 576 → set k = rs_b (g k)) (hf : ∀ k, k < 576 → f k = rs_b (C k)) (hp : post (nI (rb_c C 576)) (pen, rs_u (fun k => rs_b (g k ^^ C k)) set 576, f)) : ∀ n i : Nat, 576 - i < n → i ≤ 576 → wY_flood_147 post pen n (nI (rb_c C i)) (nI i) (rs_u (fun k => rs_b (g k ^^ C k)) set i) f
  | 0, _, hn, _ => absurd hn (by omega)
  | n + 1, i, hn, hi => pk_le 576 i (fun z => by
      obtain rfl : i = 576 := by omega
      exact hp) (fun z => by
      have hin : vp_in (nI i) 576 := pk_in i 576 z
      have ih := rv_147 hs hf hp n (i + 1) (by omega) (by omega)
      have e : rb_c C (i + 1) = rb_c C i + rb_n (C i) := rfl
      refine ⟨hin, ?_⟩
      rw [rv_z hf z]
      cases hb : C i
      · refine br_t rfl (nm_r (nI_1 i) ?_)
        rw [hb] at e
        rw [e, rs_ueq (by show rs_b (g i ^^ C i) = _; rw [hb, hs i z, Bool.xor_false])] at ih
        exact ih
      · refine br_f (by decide) ⟨hin, ?_⟩
        rw [hb] at e
        rw [e, ← rs_us] at ih
        rw [nI_clamp (n := i) (by omega), rs_uat, hs i z, rs_bn]
        have e2 : rs_b (g i ^^ C i) = rs_b (!g i) := by rw [hb, Bool.xor_true]
        have ih2 : wY_flood_147 post pen n (nI (rb_c C i + 1)) (nI (i + 1)) (upd (rs_u (fun k => rs_b (g k ^^ C k)) set i) i (rs_b (g i ^^ C i))) f := ih
        rw [e2] at ih2
        cases hg : g i
        · rw [hg] at ih2
          exact br_t rfl ⟨hin, nm_e (nm_r (nI_1 _) (nm_r (nI_1 i) ih2))⟩
        · rw [hg] at ih2
          exact br_f (by decide) ⟨hin, nm_e (nm_r (nI_1 _) (nm_r (nI_1 i) ih2))⟩)
theorem rv_25 {post : Int32 → SY → Prop} (hy0 : y0 < 24) (hx0 : x0 < 24)
    (hend : ∀ f : Nat → Int32, (∀ k, k < 576 → f k = rs_b (decide (k = 24 * y0 + x0))) → ∃ n59 : Nat, wY_flood_59 post (nI (24 * y0 + x0)) pen n59 1 0 set f) : ∀ (n k : Nat) (f : Nat → Int32), 576 - k < n → k ≤ 576 → (∀ j, j < k → f j = rs_b (decide (j = 24 * y0 + x0))) → wY_flood_25 post (nI (24 * y0 + x0)) pen n (nI k) set f := by
  intro n
  induction n with
  | zero => intro k f h; exact absurd h (by omega)
  | succ n ih =>
    intro k f h1 h2 hf
    refine pk_le 576 k (fun z => hend f (fun j hj => hf j (by omega))) (fun z => ?_)
    have hin : vp_in (nI k) 576 := pk_in k 576 z
    refine pk_eq k (24 * y0 + x0) (fun e => ⟨hin, nm_e (nm_r (nI_1 k) (ih (k + 1) _ (by omega) (by omega) (fun j hj => ?_)))⟩) (fun e => ⟨hin, nm_e (nm_r (nI_1 k) (ih (k + 1) _ (by omega) (by omega) (fun j hj => ?_)))⟩)
    · rw [nI_clamp (n := k) (by omega)]
      by_cases c : j = k
      · rw [c, pk_us, decide_eq_true e]
        rfl
      · rw [pk_un c]
        exact hf j (by omega)
    · rw [nI_clamp (n := k) (by omega)]
      by_cases c : j = k
      · rw [c, pk_us, decide_eq_false e]
        rfl
      · rw [pk_un c]
        exact hf j (by omega)
theorem rv_floodY {post : Int32 → SY → Prop} {fig : Nat → Int32} {p : Int32} (h : rp_P p x0 y0) (hs : ∀ k, k < 576 → set k = rs_b (g k))
    (hp : ∀ (C : Nat → Bool) (f : Nat → Int32), rq_C (fun y x => g (24 * y + x) = g (24 * y0 + x0)) y0 x0 (fun y x => C (24 * y + x) = true) → (∀ D : Nat → Nat → Prop, rq_C (fun y x => g (24 * y + x) = g (24 * y0 + x0)) y0 x0 D → ∀ y x, y < 24 → x < 24 → C (24 * y + x) = true → D y x) → post (nI (rb_c C 576)) (pen, rs_u (fun k => rs_b (g k ^^ C k)) set 576, f)) :
    wpY_flood post (pen, set, fig) p := by
  have h1 := h.1
  have h2 := h.2.1
  unfold wpY_flood
  dsimp only
  refine rp_Y (fun _ _ _ => br_f (by decide) ⟨by decide, by decide, nm_r (e' := nI (24 * y0 + x0)) ?_ (Exists.intro 577 (rv_25 h2 h1 (fun f hf => Exists.intro 577 (rv_59 hs h2 h1 (fun C f' k1 k2 k3 => Exists.intro 577 ?_) 577 0 true (fun k => decide (k = 24 * y0 + x0)) f (by omega) (by omega) hf ?_ ?_ (fun e => by cases e))) 577 0 fig (by omega) (by omega) (fun j hj => absurd hj (by omega))))⟩) (fun no => absurd h (no x0 y0))
  · rw [rp_rem h, rp_div h]
    show nI 24 * nI y0 + nI x0 = _
    rw [pk_mul, nI_add]
  · have k := rv_147 (pen := pen) hs k1 (hp C f' (rv_C k2 k3) k2.2.2) 577 0 (by omega) (by omega)
    rw [rs_u0] at k
    exact k
  · refine ⟨decide_eq_true rfl, fun y x q1 q2 q3 => ?_, fun D hc y x q1 q2 q3 => ?_⟩
    · have q4 := of_decide_eq_true q3
      exact congrArg g q4
    · have q4 := of_decide_eq_true q3
      obtain rfl : y = y0 := by omega
      obtain rfl : x = x0 := by omega
      exact hc.1
  · intro _
    have q := rb_lt (p := fun _ => false) (q := fun k => decide (k = 24 * y0 + x0)) 576 (fun _ _ e => by cases e) (24 * y0 + x0) (by omega) rfl (decide_eq_true rfl)
    omega
end
end
section
def rm_T (g : Nat → Bool) (dx dy : Int) (k : Nat) : Bool := decide (0 ≤ ((k % 24 : Nat) : Int) - dx ∧ ((k % 24 : Nat) : Int) - dx < 24 ∧ 0 ≤ ((k / 24 : Nat) : Int) - dy ∧ ((k / 24 : Nat) : Int) - dy < 24) && g (24 * (((k / 24 : Nat) : Int) - dy) + (((k % 24 : Nat) : Int) - dx)).toNat
def rm_F (rows : Nat → Int32) (dy : Int) (j : Nat) : Int32 := if 0 ≤ (j : Int) - dy ∧ (j : Int) - dy < 24 then rows ((j : Int) - dy).toNat else 0
def rm_S (dx : Int) (v : Int32) : Int32 := if dx < 0 then (v >>> ((-rz_i dx) &&& 31)) &&& 16777215 else (v <<< (rz_i dx &&& 31)) &&& 16777215
theorem rm_bt {dx : Int} {v : Int32} (hd : -24 ≤ dx ∧ dx ≤ 24) (hv : ∀ i, 24 ≤ i → bt v i = false) {i : Nat} (hi : i < 24) : bt (rm_S dx v) i = (decide (0 ≤ (i : Int) - dx ∧ (i : Int) - dx < 24) && bt v ((i : Int) - dx).toNat) := by
  unfold rm_S
  by_cases c : dx < 0
  · obtain ⟨n, hn⟩ := Int.eq_ofNat_of_zero_le (show 0 ≤ -dx by omega)
    rw [if_pos c, rz_neg, hn, ← rz_nI, b_and, rb_whole, decide_eq_true hi, Bool.and_true, b_sshr n (by omega) v (by omega)]
    have e : ((i : Int) - dx).toNat = n + i := by omega
    rw [e]
    by_cases c2 : n + i < 24
    · rw [if_pos (by omega), decide_eq_true (by omega), Bool.true_and]
    · rw [decide_eq_false (by omega), Bool.false_and]
      by_cases c3 : n + i < 32
      · rw [if_pos c3]
        exact hv _ (by omega)
      · rw [if_neg c3]
        exact hv _ (by omega)
  · obtain ⟨n, hn⟩ := Int.eq_ofNat_of_zero_le (show 0 ≤ dx by omega)
    rw [if_neg c, hn, ← rz_nI, b_and, rb_whole, decide_eq_true hi, Bool.and_true, b_shl n (by omega) v (by omega)]
    have e : ((i : Int) - (n : Int)).toNat = i - n := by omega
    rw [e]
    by_cases c2 : n ≤ i
    · rw [decide_eq_true c2, decide_eq_true (by omega)]
    · rw [decide_eq_false c2, decide_eq_false (by omega)]
theorem rm_bt0 {dx : Int} {v : Int32} {i : Nat} (hi : 24 ≤ i) : bt (rm_S dx v) i = false := by
  unfold rm_S
  by_cases c : dx < 0
  · rw [if_pos c, b_and, rb_whole, decide_eq_false (by omega), Bool.and_false]
  · rw [if_neg c, b_and, rb_whole, decide_eq_false (by omega), Bool.and_false]
theorem rm_FH {rows : Nat → Int32} (h : rs_H rows) (dy : Int) : rs_H (rm_F rows dy) := by
  intro y hy i hi
  unfold rm_F
  by_cases c : 0 ≤ (y : Int) - dy ∧ (y : Int) - dy < 24
  · rw [if_pos c]
    exact h _ (by omega) i hi
  · rw [if_neg c]
    exact b_0 i
theorem rm_g {rows fig : Nat → Int32} (h : rs_H rows) {dx dy : Int} (hd : -24 ≤ dx ∧ dx ≤ 24) {k : Nat} (hk : k < 576) : rs_g (rs_u (fun j => rm_S dx (rs_u (rm_F rows dy) fig 24 j)) rows 24) k = rm_T (rs_g rows) dx dy k := by
  unfold rs_g
  rw [rs_ult (show k / 24 < 24 from by omega), rs_ult (show k / 24 < 24 from by omega), rm_bt hd (rm_FH h dy _ (by omega)) (by omega)]
  unfold rm_T rm_F
  by_cases c : 0 ≤ ((k / 24 : Nat) : Int) - dy ∧ ((k / 24 : Nat) : Int) - dy < 24
  · rw [if_pos c]
    by_cases c2 : 0 ≤ ((k % 24 : Nat) : Int) - dx ∧ ((k % 24 : Nat) : Int) - dx < 24
    · rw [decide_eq_true c2, decide_eq_true ⟨c2.1, c2.2, c.1, c.2⟩]
      obtain ⟨Y, hY⟩ := Int.eq_ofNat_of_zero_le c.1
      obtain ⟨X, hX⟩ := Int.eq_ofNat_of_zero_le c2.1
      rw [hY, hX]
      have e : (24 * (Y : Int) + (X : Int)).toNat = 24 * Y + X := by omega
      rw [e, show ((Y : Int)).toNat = Y from rfl, show ((X : Int)).toNat = X from rfl]
      show (true && bt (rows Y) X) = (true && bt (rows ((24 * Y + X) / 24)) ((24 * Y + X) % 24))
      rw [show (24 * Y + X) / 24 = Y from by omega, show (24 * Y + X) % 24 = X from by omega]
    · rw [decide_eq_false c2, decide_eq_false (fun z => c2 ⟨z.1, z.2.1⟩), Bool.false_and, Bool.false_and]
  · rw [if_neg c, b_0, Bool.and_false, decide_eq_false (fun z => c ⟨z.2.2.1, z.2.2.2⟩), Bool.false_and]
section
variable {pm w : Int32} {rows fig rr rf rl : Nat → Int32}
theorem rm_86 {post : Int32 → SX → Prop} {dx : Int} {x3 : Int32} (hd : -24 ≤ dx ∧ dx ≤ 24) (hp : ∀ c : Nat, c = rb_c (rs_g (rs_u (fun j => rm_S dx (fig j)) rows 24)) 576 → post (x3 - nI c) (pm, w, rs_u (fun j => rm_S dx (fig j)) rows 24, fig, rr, rf, rl)) : ∀ n i : Nat, 24 - i < n → i ≤ 24 → wX_move_86 post (rz_i dx) x3 pm w n (nI i) (rs_u (fun j => rm_S dx (fig j)) rows i) fig rr rf rl
  | 0, _, hn, _ => absurd hn (by omega)
  | n + 1, i, hn, hi => by
    refine pk_le 24 i (fun z => ?_) (fun z => ?_)
    · obtain rfl : i = 24 := by omega
      refine rx_count (fun y hy j hj => ?_) (hp _ rfl)
      rw [rs_ult hy]
      exact rm_bt0 hj
    · have hin : vp_in (nI i) 24 := pk_in i 24 z
      have ih := rm_86 hd hp n (i + 1) (by omega) (by omega)
      refine rz_lt dx 0 (fun c => ⟨hin, hin, nm_r (e' := rs_u (fun j => rm_S dx (fig j)) rows (i + 1)) ?_ (nm_r (nI_1 i) ih)⟩) (fun c => ⟨hin, hin, nm_r (e' := rs_u (fun j => rm_S dx (fig j)) rows (i + 1)) ?_ (nm_r (nI_1 i) ih)⟩)
      · rw [nI_clamp (by omega), ← rs_us]
        refine congrArg (upd _ i) ?_
        unfold rm_S
        rw [if_pos c]
      · rw [nI_clamp (by omega), ← rs_us]
        refine congrArg (upd _ i) ?_
        unfold rm_S
        rw [if_neg (by omega)]
theorem rm_34 {post : Int32 → SX → Prop} {dx dy : Int} {x3 : Int32} (hdy : -24 ≤ dy ∧ dy ≤ 24) (hp : ∃ n86 : Nat, wX_move_86 post (rz_i dx) x3 pm w n86 0 rows (rs_u (rm_F rows dy) fig 24) rr rf rl) : ∀ n i : Nat, 24 - i < n → i ≤ 24 → wX_move_34 post (rz_i dx) (rz_i dy) x3 pm w n (nI i) rows (rs_u (rm_F rows dy) fig i) rr rf rl
  | 0, _, hn, _ => absurd hn (by omega)
  | n + 1, i, hn, hi => by
    refine pk_le 24 i (fun z => ?_) (fun z => ?_)
    · obtain rfl : i = 24 := by omega
      exact hp
    · have hin : vp_in (nI i) 24 := pk_in i 24 z
      have ih := rm_34 hdy hp n (i + 1) (by omega) (by omega)
      have ed : nI i - rz_i dy = rz_i ((i : Int) - dy) := by rw [rz_nI, rz_sub]
      have st : ∀ v : Int32, v = rm_F rows dy i → upd (rs_u (rm_F rows dy) fig i) (nI i).toNatClampNeg v = rs_u (rm_F rows dy) fig (i + 1) := by
        intro v hv
        rw [nI_clamp (by omega), hv]
        exact rs_us _ _ i
      refine rz_lt ((i : Int) - dy) 0 (fun c => ⟨hin, nm_r (st _ ?_) (nm_r (nI_1 i) ih)⟩) (fun c => ?_) ed
      · unfold rm_F
        rw [if_neg (by omega)]
      · refine rz_le 24 ((i : Int) - dy) (fun c2 => ⟨hin, nm_r (st _ ?_) (nm_r (nI_1 i) ih)⟩) (fun c2 => ⟨?_, hin, nm_r (st _ ?_) (nm_r (nI_1 i) ih)⟩) rfl ed
        · unfold rm_F
          rw [if_neg (by omega)]
        · rw [ed]
          exact rz_in (by omega) (by omega) (by omega)
        · rw [ed, rz_cl (by omega) (by omega)]
          unfold rm_F
          rw [if_pos (by omega)]
end
section
variable {pen : Int32} {set : Nat → Int32} {g : Nat → Bool}
theorem rm_65 {post : Int32 → SY → Prop} {dx dy : Int} {x3 : Int32} {f : Nat → Int32} (hd : -24 ≤ dx ∧ dx ≤ 24) (hdy : -24 ≤ dy ∧ dy ≤ 24) (hf : ∀ k, k < 576 → f k = rs_b (g k)) (hp : post (x3 - nI (rb_c (rm_T g dx dy) 576)) (pen, rs_u (fun k => rs_b (rm_T g dx dy k)) set 576, f)) : ∀ n i : Nat, 576 - i < n → i ≤ 576 → wY_move_65 post (rz_i dx) (rz_i dy) x3 pen n (nI i) (rs_u (fun k => rs_b (rm_T g dx dy k)) set i) f
  | 0, _, hn, _ => absurd hn (by omega)
  | n + 1, i, hn, hi => by
    refine pk_le 576 i (fun z => ?_) (fun z => ?_)
    · obtain rfl : i = 576 := by omega
      exact ry_count (g := rm_T g dx dy) (fun k hk => rs_ult hk) hp
    · have hin : vp_in (nI i) 576 := pk_in i 576 z
      have ih := rm_65 hd hdy hf hp n (i + 1) (by omega) (by omega)
      have st : ∀ b : Bool, b = rm_T g dx dy i → ∀ s', s' = upd (rs_u (fun k => rs_b (rm_T g dx dy k)) set i) (nI i).toNatClampNeg (vp_nar .boolean (rs_b b)) → ∀ x, x = nI i + 1 → wY_move_65 post (rz_i dx) (rz_i dy) x3 pen n x s' f := by
        intro b hb s' es x ex
        rw [ex, nI_1, es, nI_clamp (by omega), rs_nar, hb]
        rw [← rs_us] at ih
        exact ih
      have b1 : ((i % 24 : Nat) : Int) < 24 := by omega
      have b2 : ((i / 24 : Nat) : Int) < 24 := by omega
      refine ⟨by decide, nm_r (e' := rz_i (((i % 24 : Nat) : Int) - dx)) (by rw [rp_r24 (by omega), rz_nI, rz_sub]) ⟨by decide, nm_r (e' := rz_i (((i / 24 : Nat) : Int) - dy)) (by rw [rp_d24 (by omega), rz_nI, rz_sub]) ?_⟩⟩
      have no : ¬ (0 ≤ ((i % 24 : Nat) : Int) - dx ∧ ((i % 24 : Nat) : Int) - dx < 24 ∧ 0 ≤ ((i / 24 : Nat) : Int) - dy ∧ ((i / 24 : Nat) : Int) - dy < 24) → wY_move_119 post (wY_move_65 post (rz_i dx) (rz_i dy) x3 pen n) (rz_i dx) (rz_i dy) x3 (nI i) (rz_i (((i % 24 : Nat) : Int) - dx)) (rz_i (((i / 24 : Nat) : Int) - dy)) pen (rs_u (fun k => rs_b (rm_T g dx dy k)) set i) f := by
        intro c
        refine br_t rfl ⟨hin, st false ?_⟩
        unfold rm_T
        rw [decide_eq_false c, Bool.false_and]
      refine rz_lt (((i % 24 : Nat) : Int) - dx) 0 (fun c => no (by omega)) (fun c1 => rz_lt 23 (((i % 24 : Nat) : Int) - dx) (fun c => no (by omega)) (fun c2 => rz_lt (((i / 24 : Nat) : Int) - dy) 0 (fun c => no (by omega)) (fun c3 => rz_lt 23 (((i / 24 : Nat) : Int) - dy) (fun c => no (by omega)) (fun c4 => ?_))))
      have ei : (24 : Int32) * rz_i (((i / 24 : Nat) : Int) - dy) + rz_i (((i % 24 : Nat) : Int) - dx) = rz_i (24 * (((i / 24 : Nat) : Int) - dy) + (((i % 24 : Nat) : Int) - dx)) := by
        rw [show (24 : Int32) = rz_i 24 from rfl, rz_mul, rz_add]
      have eT : rm_T g dx dy i = g (24 * (((i / 24 : Nat) : Int) - dy) + (((i % 24 : Nat) : Int) - dx)).toNat := by
        unfold rm_T
        rw [decide_eq_true (by omega), Bool.true_and]
      refine br_f (by decide) ⟨?_, ?_⟩
      · rw [ei]
        exact rz_in (by omega) (by omega) (by omega)
      · rw [ei, rz_cl (by omega) (by omega), hf _ (by omega), ← eT]
        cases hT : rm_T g dx dy i
        · exact br_t rfl ⟨hin, st false hT.symm⟩
        · exact br_f (by decide) ⟨hin, st true hT.symm⟩
theorem rm_Y34 {post : Int32 → SY → Prop} {x1 x2 x3 : Int32} (hs : ∀ k, k < 576 → set k = rs_b (g k)) (hp : ∀ f : Nat → Int32, (∀ k, k < 576 → f k = rs_b (g k)) → ∃ n65 : Nat, wY_move_65 post x1 x2 x3 pen n65 0 set f) : ∀ (n i : Nat) (f : Nat → Int32), 576 - i < n → i ≤ 576 → (∀ k, k < i → f k = rs_b (g k)) → wY_move_34 post x1 x2 x3 pen n (nI i) set f
  | 0, _, _, hn, _, _ => absurd hn (by omega)
  | n + 1, i, f, hn, hi, hf => by
    refine pk_le 576 i (fun z => hp f (fun k hk => hf k (by omega))) (fun z => ?_)
    have hin : vp_in (nI i) 576 := pk_in i 576 z
    refine ⟨hin, hin, nm_e (nm_r (nI_1 i) (rm_Y34 hs hp n (i + 1) _ (by omega) (by omega) (fun k hk => ?_)))⟩
    rw [nI_clamp (by omega), hs i z, rs_nar]
    by_cases c : k = i
    · rw [c, pk_us]
    · rw [pk_un c]
      exact hf k (by omega)
end
end
section
theorem ro_30 {x : Int32} {A B C : Prop} (f : ∀ r : Int, 0 ≤ r → r ≤ 30 → x = rz_i r → A) (g : (∀ r : Int, 0 ≤ r → r ≤ 30 → ¬ x = rz_i r) → B) (e : B = C) : (x < 0 → B) ∧ (¬ x < 0 → (x ≤ 30 → A) ∧ (¬ x ≤ 30 → C)) := by
  subst e
  have b := x.toInt_lt
  have b' := x.le_toInt
  have ex := rz_of x
  generalize x.toInt = z at *
  subst ex
  refine rz_lt z 0 (fun q => g (fun r h1 h2 h3 => ?_)) (fun q => rz_le z 30 (fun q1 => f z q q1 rfl) (fun q1 => g (fun r h1 h2 h3 => ?_)))
  · rw [rz_eqI (by omega) (by omega)] at h3
    omega
  · rw [rz_eqI (by omega) (by omega)] at h3
    omega
theorem ro_30' {x : Int32} {A B C : Prop} (f : ∀ r : Int, 0 ≤ r → r ≤ 30 → x = rz_i r → A) (g : (∀ r : Int, 0 ≤ r → r ≤ 30 → ¬ x = rz_i r) → B) (e : B = C) : (x < 0 → B) ∧ (¬ x < 0 → (30 < x → C) ∧ (¬ 30 < x → A)) := by
  subst e
  have b := x.toInt_lt
  have b' := x.le_toInt
  have ex := rz_of x
  generalize x.toInt = z at *
  subst ex
  refine rz_lt z 0 (fun q => g (fun r h1 h2 h3 => ?_)) (fun q => rz_lt 30 z (fun q1 => g (fun r h1 h2 h3 => ?_)) (fun q1 => f z q q1 rfl))
  · rw [rz_eqI (by omega) (by omega)] at h3
    omega
  · rw [rz_eqI (by omega) (by omega)] at h3
    omega
theorem ro_round {pen : Int32} {set fig : Nat → Int32} {post : Int32 → Prop} {p q : Int32} (h1 : ∀ x y, rp_P p x y → ∀ r : Int, 0 ≤ r → r ≤ 30 → q = rz_i r → post 1) (h0 : (∀ x y, rp_P p x y → ∀ r : Int, 0 ≤ r → r ≤ 30 → ¬ q = rz_i r) → post 0) : wpY_isRound post (pen, set, fig) p q := by
  unfold wpY_isRound
  dsimp only
  exact rp_Y (fun x y h => br_f (by decide) (ro_30' (fun r k1 k2 k3 => h1 x y h r k1 k2 k3) (fun no => h0 (fun _ _ _ => no)) rfl)) (fun no => br_t rfl (h0 (fun x y h => absurd h (no x y))))
section
variable {pm w : Int32} {rows fig rr rf rl : Nat → Int32}
theorem ro_dist {post : Int32 → Prop} {a b : Nat} (ha : a < 24) (hb : b < 24) (h : post (rz_i (((a : Int) - (b : Int)).natAbs : Int))) : wpX_distance post (pm, w, rows, fig, rr, rf, rl) (nI a) (nI b) := by
  refine pk_le b a (fun q => ?_) (fun q => ?_)
  · rw [show (((a : Int) - (b : Int)).natAbs : Int) = (a : Int) - (b : Int) from by omega, ← rz_sub, ← rz_nI, ← rz_nI] at h
    exact h
  · rw [show (((a : Int) - (b : Int)).natAbs : Int) = (b : Int) - (a : Int) from by omega, ← rz_sub, ← rz_nI, ← rz_nI] at h
    exact h
theorem ro_lineX {post : Int32 → SX → Prop} {v1 v2 : Int32} {a b c d : Nat} (h1 : rp_P v1 a b) (h2 : rp_P v2 c d) (hH : rs_H rows) (hp : ∀ f, rf_S f (rl_P a b c d) → post (rs_ans pm rows f) (pm, w, rs_new pm rows f, f, rr, rf, rl)) : wpX_line post (pm, w, rows, fig, rr, rf, rl) v1 v2 := by
  have b1 := h1.1
  have b2 := h1.2.1
  have b3 := h2.1
  have b4 := h2.2.1
  have fin : ∀ f, rf_S f (rl_P a b c d) → wX_line_94 post pm w rows f rr rf rl := fun f hf => rs_inkX hH hf.1 (hp f hf)
  unfold wpX_line
  dsimp only
  refine rp_X (fun _ _ _ => br_f (by decide) (rp_X (fun _ _ _ => br_f (by decide) ?_) (fun no => absurd h2 (no c d)))) (fun no => absurd h1 (no a b))
  refine rf_clear (fun f0 hf0 => ?_)
  dsimp only
  rw [rp_and h1, rp_and h2, rp_shr h1, rp_shr h2]
  refine ro_dist b1 b3 (ro_dist b2 b4 ?_)
  refine rz_lt (((a : Int) - (c : Int)).natAbs : Int) (((b : Int) - (d : Int)).natAbs : Int) (fun q => ?_) (fun q => ?_)
  · refine rl_walk true (b : Int) (a : Int) (d : Int) (c : Int) hf0 (by omega) (by omega) (by omega) (by omega) (rz_nI _) (rz_nI _) (rz_nI _) (rz_nI _) rfl ⟨fun z => by omega, fun z => by omega⟩ (fun f hf => fin f ?_)
    by_cases z : (b : Int) ≤ d
    · refine rf_c (hf.1 z) (fun i j _ _ _ _ => ⟨fun k => Or.inr ⟨by omega, Or.inl ⟨z, k⟩⟩, fun k => ?_⟩)
      rcases k with ⟨k, _⟩ | ⟨_, ⟨_, k⟩ | ⟨k, _⟩⟩
      · omega
      · exact k
      · omega
    · refine rf_c (hf.2 (by omega)) (fun i j _ _ _ _ => ⟨fun k => Or.inr ⟨by omega, Or.inr ⟨by omega, k⟩⟩, fun k => ?_⟩)
      rcases k with ⟨k, _⟩ | ⟨_, ⟨k, _⟩ | ⟨_, k⟩⟩
      · omega
      · omega
      · exact k
  · refine rl_walk false (a : Int) (b : Int) (c : Int) (d : Int) hf0 (by omega) (by omega) (by omega) (by omega) (rz_nI _) (rz_nI _) (rz_nI _) (rz_nI _) rfl ⟨fun z => by omega, fun z => by omega⟩ (fun f hf => fin f ?_)
    by_cases z : (a : Int) ≤ c
    · refine rf_c (hf.1 z) (fun i j _ _ _ _ => ⟨fun k => Or.inl ⟨by omega, Or.inl ⟨z, k⟩⟩, fun k => ?_⟩)
      rcases k with ⟨_, ⟨_, k⟩ | ⟨k, _⟩⟩ | ⟨k, _⟩
      · exact k
      · omega
      · omega
    · refine rf_c (hf.2 (by omega)) (fun i j _ _ _ _ => ⟨fun k => Or.inl ⟨by omega, Or.inr ⟨by omega, k⟩⟩, fun k => ?_⟩)
      rcases k with ⟨_, ⟨k, _⟩ | ⟨_, k⟩⟩ | ⟨k, _⟩
      · omega
      · exact k
      · omega
theorem ro_discX {post : Int32 → SX → Prop} {v1 : Int32} {a b : Nat} {r : Int} (h1 : rp_P v1 a b) (br : 0 ≤ r ∧ r ≤ 30) (hH : rs_H rows) (hp : ∀ f, rf_S f (fun i j => rd_D r ((i - (a : Int)).natAbs : Int) ((j - (b : Int)).natAbs : Int)) → post (rs_ans pm rows f) (pm, w, rs_new pm rows f, f, rr, rf, rl)) : wpX_disc post (pm, w, rows, fig, rr, rf, rl) v1 (rz_i r) := by
  unfold wpX_disc
  dsimp only
  exact rp_X (fun _ _ _ => br_f (by decide) (rz_lt r 0 (fun q => absurd q (by omega)) (fun _ => rz_le r 30 (fun _ => rf_clear (fun f0 hf0 => rd_blot (rd_DT br.1) br br h1 hf0 (fun f hf => rs_inkX hH hf.1 (hp f hf)))) (fun q => absurd q (by omega))))) (fun no => absurd h1 (no a b))
theorem ro_ringX {post : Int32 → SX → Prop} {v1 : Int32} {a b : Nat} {r : Int} (h1 : rp_P v1 a b) (br : 0 ≤ r ∧ r ≤ 30) (hH : rs_H rows) (hp : ∀ f, rf_S f (fun i j => rg_A r ((i - (a : Int)).natAbs : Int) ((j - (b : Int)).natAbs : Int) ∨ rg_A r ((j - (b : Int)).natAbs : Int) ((i - (a : Int)).natAbs : Int)) → post (rs_ans pm rows f) (pm, w, rs_new pm rows f, f, rr, rf, rl)) : wpX_ring post (pm, w, rows, fig, rr, rf, rl) v1 (rz_i r) := by
  unfold wpX_ring
  dsimp only
  exact rp_X (fun _ _ _ => br_f (by decide) (rz_lt r 0 (fun q => absurd q (by omega)) (fun _ => rz_le r 30 (fun _ => rf_clear (fun f0 hf0 => rg_ring br h1.1 h1.2.1 (rp_and h1) (rp_shr h1) hf0 (fun f hf => rs_inkX hH hf.1 (hp f hf)))) (fun q => absurd q (by omega))))) (fun no => absurd h1 (no a b))
theorem ro_blotX {post : Int32 → SX → Prop} {v1 : Int32} {a b : Nat} {p q : Int} (h1 : rp_P v1 a b) (bp : 0 ≤ p ∧ p ≤ 30) (bq : 0 ≤ q ∧ q ≤ 30) (hH : rs_H rows) (hp : ∀ f, rf_S f (fun i j => rd_B p q ((i - (a : Int)).natAbs : Int) ((j - (b : Int)).natAbs : Int)) → post (rs_ans pm rows f) (pm, w, rs_new pm rows f, f, rr, rf, rl)) : wpX_blot post (pm, w, rows, fig, rr, rf, rl) v1 (rz_i p) (rz_i q) := by
  have fin : ∀ f, rf_S f (fun i j => rd_B p q ((i - (a : Int)).natAbs : Int) ((j - (b : Int)).natAbs : Int)) → wX_blot_59 post pm w rows f rr rf rl := fun f hf => rs_inkX hH hf.1 (hp f hf)
  unfold wpX_blot
  dsimp only
  exact rp_X (fun _ _ _ => br_f (by decide) (rz_lt p 0 (fun z => absurd z (by omega)) (fun _ => rz_lt 30 p (fun z => absurd z (by omega)) (fun _ => rz_lt q 0 (fun z => absurd z (by omega)) (fun _ => rz_le q 30 (fun _ => rf_clear (fun f0 hf0 => rz_eq p 0 (fun z => rd_cross bp bq (Or.inl z) h1 hf0 fin) (fun z => rz_eq q 0 (fun z1 => rd_cross bp bq (Or.inr z1) h1 hf0 fin) (fun z1 => rd_blot (rd_BT (by omega) (by omega)) bp bq h1 hf0 fin)))) (fun z => absurd z (by omega))))))) (fun no => absurd h1 (no a b))
theorem ro_triX {post : Int32 → SX → Prop} {v1 v2 v3 : Int32} {px py qx qy sx sy : Nat} (h1 : rp_P v1 px py) (h2 : rp_P v2 qx qy) (h3 : rp_P v3 sx sy) (hH : rs_H rows) (hp : ∀ f, rf_S f (rt_P px py qx qy sx sy) → post (rs_ans pm rows f) (pm, w, rs_new pm rows f, f, rr, rf, rl)) : wpX_triangle post (pm, w, rows, fig, rr, rf, rl) v1 v2 v3 := by
  unfold wpX_triangle
  dsimp only
  exact rp_X (fun _ _ _ => br_f (by decide) (rp_X (fun _ _ _ => br_f (by decide) (rp_X (fun _ _ _ => br_f (by decide) (rf_clear (fun f0 hf0 => rt_draw h1 h2 h3 hf0 (fun f hf => rs_inkX hH hf.1 (hp f hf))))) (fun no => absurd h3 (no _ _)))) (fun no => absurd h2 (no _ _)))) (fun no => absurd h1 (no _ _))
end
section
variable {pm : Int32} {rows set yf f : Nat → Int32}
theorem ro_lineY {post : Int32 → SY → Prop} {v1 v2 : Int32} {a b c d : Nat} (h1 : rp_P v1 a b) (h2 : rp_P v2 c d) (hpen : pm = 0 ∨ pm = 1 ∨ pm = 2) (hR : rs_R rows set) (hf : rf_S f (rl_P a b c d)) (hp : ∀ set' yf', rs_R (rs_new pm rows f) set' → post (rs_ans pm rows f) (pm, set', yf')) : wpY_line post (pm, set, yf) v1 v2 := by
  unfold wpY_line
  dsimp only
  exact rp_Y (fun _ _ _ => br_f (by decide) (rp_Y (fun _ _ _ => br_f (by decide) (Exists.intro 577 (rl_Yl h1 h2 (fun g hg K hK => rs_inkY hpen hR (rf_R hf hg) (fun set' hs' => hK _ _ (hp set' g hs'))) 577 0 (by omega) (by omega) yf (rf_Y0 _ _)))) (fun no => absurd h2 (no c d)))) (fun no => absurd h1 (no a b))
theorem ro_discY {post : Int32 → SY → Prop} {v1 : Int32} {a b : Nat} {r : Int} (h1 : rp_P v1 a b) (br : 0 ≤ r ∧ r ≤ 30) (hpen : pm = 0 ∨ pm = 1 ∨ pm = 2) (hR : rs_R rows set) (hf : rf_S f (fun i j => rd_D r ((i - (a : Int)).natAbs : Int) ((j - (b : Int)).natAbs : Int))) (hp : ∀ set' yf', rs_R (rs_new pm rows f) set' → post (rs_ans pm rows f) (pm, set', yf')) : wpY_disc post (pm, set, yf) v1 (rz_i r) := by
  unfold wpY_disc
  dsimp only
  exact ro_round (fun _ _ _ _ _ _ _ => br_f (by decide) (Exists.intro 577 (rd_Yd h1 br (fun g hg K hK => rs_inkY hpen hR (rf_R hf hg) (fun set' hs' => hK _ _ (hp set' g hs'))) 577 0 (by omega) (by omega) yf (rf_Y0 _ _)))) (fun no => absurd rfl (no a b h1 r br.1 br.2))
theorem ro_ringY {post : Int32 → SY → Prop} {v1 : Int32} {a b : Nat} {r : Int} (h1 : rp_P v1 a b) (br : 0 ≤ r ∧ r ≤ 30) (hpen : pm = 0 ∨ pm = 1 ∨ pm = 2) (hR : rs_R rows set) (hf : rf_S f (fun i j => rg_A r ((i - (a : Int)).natAbs : Int) ((j - (b : Int)).natAbs : Int) ∨ rg_A r ((j - (b : Int)).natAbs : Int) ((i - (a : Int)).natAbs : Int))) (hp : ∀ set' yf', rs_R (rs_new pm rows f) set' → post (rs_ans pm rows f) (pm, set', yf')) : wpY_ring post (pm, set, yf) v1 (rz_i r) := by
  unfold wpY_ring
  dsimp only
  exact ro_round (fun _ _ _ _ _ _ _ => br_f (by decide) (Exists.intro 577 (rg_Y h1 br (fun g hg K hK => rs_inkY hpen hR (rf_R hf hg) (fun set' hs' => hK _ _ (hp set' g hs'))) 577 0 (by omega) (by omega) yf (rf_Y0 _ _)))) (fun no => absurd rfl (no a b h1 r br.1 br.2))
theorem ro_blotY {post : Int32 → SY → Prop} {v1 : Int32} {a b : Nat} {p q : Int} (h1 : rp_P v1 a b) (bp : 0 ≤ p ∧ p ≤ 30) (bq : 0 ≤ q ∧ q ≤ 30) (hpen : pm = 0 ∨ pm = 1 ∨ pm = 2) (hR : rs_R rows set) (hf : rf_S f (fun i j => rd_B p q ((i - (a : Int)).natAbs : Int) ((j - (b : Int)).natAbs : Int))) (hp : ∀ set' yf', rs_R (rs_new pm rows f) set' → post (rs_ans pm rows f) (pm, set', yf')) : wpY_blot post (pm, set, yf) v1 (rz_i p) (rz_i q) := by
  unfold wpY_blot
  dsimp only
  exact ro_round (fun _ _ _ _ _ _ _ => br_f (by decide) (ro_round (fun _ _ _ _ _ _ _ => br_f (by decide) (Exists.intro 577 (rd_Yb h1 bp bq (fun g hg K hK => rs_inkY hpen hR (rf_R hf hg) (fun set' hs' => hK _ _ (hp set' g hs'))) 577 0 (by omega) (by omega) yf (rf_Y0 _ _)))) (fun no => absurd rfl (no a b h1 q bq.1 bq.2)))) (fun no => absurd rfl (no a b h1 p bp.1 bp.2))
theorem ro_triY {post : Int32 → SY → Prop} {v1 v2 v3 : Int32} {px py qx qy sx sy : Nat} (h1 : rp_P v1 px py) (h2 : rp_P v2 qx qy) (h3 : rp_P v3 sx sy) (hpen : pm = 0 ∨ pm = 1 ∨ pm = 2) (hR : rs_R rows set) (hf : rf_S f (rt_P px py qx qy sx sy)) (hp : ∀ set' yf', rs_R (rs_new pm rows f) set' → post (rs_ans pm rows f) (pm, set', yf')) : wpY_triangle post (pm, set, yf) v1 v2 v3 := by
  unfold wpY_triangle
  dsimp only
  exact rp_Y (fun _ _ _ => br_f (by decide) (rp_Y (fun _ _ _ => br_f (by decide) (rp_Y (fun _ _ _ => br_f (by decide) (Exists.intro 577 (rt_Y h1 h2 h3 (fun g hg K hK => rs_inkY hpen hR (rf_R hf hg) (fun set' hs' => hK _ _ (hp set' g hs'))) 577 0 (by omega) (by omega) yf (rf_Y0 _ _)))) (fun no => absurd h3 (no _ _)))) (fun no => absurd h2 (no _ _)))) (fun no => absurd h1 (no _ _))
end
theorem ro_dec (v1 v2 : Int32) : (∃ (a b : Nat) (r : Int), rp_P v1 a b ∧ (0 ≤ r ∧ r ≤ 30) ∧ v2 = rz_i r) ∨ (∀ x y, rp_P v1 x y → ∀ r : Int, 0 ≤ r → r ≤ 30 → ¬ v2 = rz_i r) := by
  by_cases h : ∃ (a b : Nat) (r : Int), rp_P v1 a b ∧ (0 ≤ r ∧ r ≤ 30) ∧ v2 = rz_i r
  · exact Or.inl h
  · exact Or.inr (fun x y h1 r h2 h3 h4 => h ⟨x, y, r, h1, ⟨h2, h3⟩, h4⟩)
theorem ro_Cc {V V' : Nat → Nat → Prop} {y0 x0 : Nat} {D : Nat → Nat → Prop} (h : ∀ y x, y < 24 → x < 24 → (V y x ↔ V' y x)) (hc : rq_C V y0 x0 D) : rq_C V' y0 x0 D :=
  ⟨hc.1, fun y x h1 h2 h3 => (h y x h1 h2).mp (hc.2.1 y x h1 h2 h3), fun y x h1 h2 h3 h4 => hc.2.2.1 y x h1 h2 ((h y x h1 (by omega)).mpr h3) ((h y _ h1 h2).mpr h4), fun y x h1 h2 h3 h4 => hc.2.2.2 y x h1 h2 ((h y x (by omega) h2).mpr h3) ((h _ x h1 h2).mpr h4)⟩
theorem ro_row_l {post : Int32 → Prop} {pen : Int32} {rows set yf : Nat → Int32} {y : Nat} (hR : rs_R rows set) (hy : y < 24) (hp : post (rows y)) : ∀ (n x : Nat) (v : Int32), 24 - x < n → x ≤ 24 → (∀ i, i < 32 → bt v i = (decide (i < x) && bt (rows y) i)) → wY_row_16 post (nI y) pen set yf n v (nI x)
  | 0, _, _, hn, _, _ => absurd hn (by omega)
  | n + 1, x, v, hn, hx, hv => by
    refine pk_le 24 x (fun z => ?_) (fun z => ?_)
    · have e : v = rows y := b_ext (fun i hi => by
        rw [hv i hi]
        by_cases c : i < x
        · rw [decide_eq_true c, Bool.true_and]
        · rw [hR.1 y hy i (by omega), Bool.and_false])
      rw [e]
      exact hp
    · have e : (24 : Int32) * nI y + nI x = nI (24 * y + x) := by
        show nI 24 * nI y + nI x = _
        rw [pk_mul, nI_add]
      rw [e, nI_clamp (by omega), hR.2 (24 * y + x) (by omega), rs_gat rows z, rs_bn]
      refine ⟨pk_in (24 * y + x) 576 (by omega), ?_⟩
      cases hb : bt (rows y) x
      · refine br_t rfl (nm_r (nI_1 x) (ro_row_l hR hy hp n (x + 1) v (by omega) (by omega) (fun i hi => ?_)))
        rw [hv i hi]
        by_cases c : i = x
        · rw [c, hb, Bool.and_false, Bool.and_false]
        · rw [show decide (i < x + 1) = decide (i < x) from decide_eq_decide.mpr (by omega)]
      · refine br_f (by decide) (nm_e (nm_r (nI_1 x) (ro_row_l hR hy hp n (x + 1) _ (by omega) (by omega) (fun i hi => ?_))))
        rw [b_or, hv i hi, rb_one x (by omega) i hi]
        by_cases c : i = x
        · rw [c, hb, decide_eq_true rfl, Bool.or_true, decide_eq_true (show x < x + 1 by omega)]
          rfl
        · rw [decide_eq_false c, Bool.or_false, show decide (i < x + 1) = decide (i < x) from decide_eq_decide.mpr (by omega)]
theorem ro_getY {post : Int32 → Prop} {pen : Int32} {rows set yf : Nat → Int32} {p : Int32} {x y : Nat} (hR : rs_R rows set) (h : rp_P p x y) (hp : post (rs_b (bt (rows y) x))) : wpY_get post (pen, set, yf) p := by
  have h1 := h.1
  have h2 := h.2.1
  unfold wpY_get
  dsimp only
  refine rp_Y (fun _ _ _ => br_f (by decide) ⟨by decide, by decide, ?_⟩) (fun no => absurd h (no x y))
  have e : (24 : Int32) * nI y + nI x = nI (24 * y + x) := by
    show nI 24 * nI y + nI x = _
    rw [pk_mul, nI_add]
  rw [rp_rem h, rp_div h, e, nI_clamp (by omega), hR.2 (24 * y + x) (by omega), rs_gat rows h1, rs_bn]
  refine ⟨pk_in (24 * y + x) 576 (by omega), ?_⟩
  cases hb : bt (rows y) x
  · rw [hb] at hp
    exact br_t rfl hp
  · rw [hb] at hp
    exact br_f (by decide) hp
end
section
def i_Rel (_ : Nat) (u : SX) (v : SY) : Prop := u.1 = v.1 ∧ (v.1 = 0 ∨ v.1 = 1 ∨ v.1 = 2) ∧ rs_R u.2.2.1 v.2.1
theorem i_up {k : Nat} {u : SX} {v : SY} (h : i_Rel k u v) : i_Rel (k + 4) u v := h
theorem i_vc0 : wpX_init (fun u => wpY_init (fun v => i_Rel 0 u v)) := by
  refine ⟨rfl, Or.inl rfl, fun y _ i _ => b_0 i, fun k _ => ?_⟩
  show (0 : Int32) = rs_b (bt 0 (k % 24))
  rw [b_0]
  rfl
theorem ro_mk {k : Nat} {pm w : Int32} {rows fig rr rf rl set yf : Nat → Int32} (hpen : pm = 0 ∨ pm = 1 ∨ pm = 2) (h : rs_R rows set) : i_Rel k (pm, w, rows, fig, rr, rf, rl) (pm, set, yf) := ⟨rfl, hpen, h⟩
theorem i_vc_pen {k : Nat} {u : SX} {v : SY} (I : i_Rel k u v) (hk : k + 4 ≤ 2048) (v1 : Int32) : wpX_pen (fun r u' => wpY_pen (fun r' v' => r' = r ∧ i_Rel (k + 4) u' v') v v1) u v1 := by
  obtain ⟨pm, w, rows, fig, rr, rf, rl⟩ := u
  obtain ⟨pen, set, yf⟩ := v
  obtain ⟨e, hpen, hR⟩ := I
  obtain rfl : pm = pen := e
  refine br_c (fun h => br_t h ⟨rfl, rfl, hpen, hR⟩) (fun h => br_c (fun h2 => br_f h (br_t h2 ⟨rfl, rfl, ?_, hR⟩)) (fun h2 => br_f h (br_f h2 ⟨rfl, rfl, hpen, hR⟩)))
  obtain ⟨j, hj, rfl⟩ := nI_of2 (n := 2) (M := 2) (by decide) h h2
  have c : j = 0 ∨ j = 1 ∨ j = 2 := by omega
  rcases c with rfl | rfl | rfl
  · exact Or.inl rfl
  · exact Or.inr (Or.inl rfl)
  · exact Or.inr (Or.inr rfl)
theorem i_vc_line {k : Nat} {u : SX} {v : SY} (I : i_Rel k u v) (hk : k + 4 ≤ 2048) (v1 : Int32) (v2 : Int32) : wpX_line (fun r u' => wpY_line (fun r' v' => r' = r ∧ i_Rel (k + 4) u' v') v v1 v2) u v1 v2 := by
  obtain ⟨pm, w, rows, fig, rr, rf, rl⟩ := u
  obtain ⟨pen, set, yf⟩ := v
  obtain ⟨e, hpen, hR⟩ := I
  obtain rfl : pm = pen := e
  replace hR : rs_R rows set := hR
  replace hpen : pm = 0 ∨ pm = 1 ∨ pm = 2 := hpen
  rcases rp_dec v1 with ⟨a, b, h1⟩ | no
  · rcases rp_dec v2 with ⟨c, d, h2⟩ | no
    · exact ro_lineX h1 h2 hR.1 (fun f hf => ro_lineY h1 h2 hpen hR hf (fun _ _ hs => ⟨rfl, ro_mk hpen hs⟩))
    · unfold wpX_line wpY_line
      dsimp only
      refine rp_X (fun _ _ _ => br_f (by decide) (rp_X (fun _ _ h => absurd h (no _ _)) (fun _ => br_t rfl ?_))) (fun no => absurd h1 (no _ _))
      exact rp_Y (fun _ _ _ => br_f (by decide) (rp_Y (fun _ _ h => absurd h (no _ _)) (fun _ => br_t rfl ⟨rfl, ro_mk hpen hR⟩))) (fun no => absurd h1 (no _ _))
  · unfold wpX_line wpY_line
    dsimp only
    refine rp_X (fun _ _ h => absurd h (no _ _)) (fun _ => br_t rfl ?_)
    exact rp_Y (fun _ _ h => absurd h (no _ _)) (fun _ => br_t rfl ⟨rfl, ro_mk hpen hR⟩)
theorem i_vc_disc {k : Nat} {u : SX} {v : SY} (I : i_Rel k u v) (hk : k + 4 ≤ 2048) (v1 : Int32) (v2 : Int32) : wpX_disc (fun r u' => wpY_disc (fun r' v' => r' = r ∧ i_Rel (k + 4) u' v') v v1 v2) u v1 v2 := by
  obtain ⟨pm, w, rows, fig, rr, rf, rl⟩ := u
  obtain ⟨pen, set, yf⟩ := v
  obtain ⟨e, hpen, hR⟩ := I
  obtain rfl : pm = pen := e
  replace hR : rs_R rows set := hR
  replace hpen : pm = 0 ∨ pm = 1 ∨ pm = 2 := hpen
  rcases ro_dec v1 v2 with ⟨a, b, r, h1, br, rfl⟩ | no
  · exact ro_discX h1 br hR.1 (fun f hf => ro_discY h1 br hpen hR hf (fun _ _ hs => ⟨rfl, ro_mk hpen hs⟩))
  · have Y : wpY_disc (fun r' v' => r' = -1 ∧ i_Rel (k + 4) (pm, w, rows, fig, rr, rf, rl) v') (pm, set, yf) v1 v2 := by
      unfold wpY_disc
      dsimp only
      exact ro_round (fun x y h r k1 k2 k3 => absurd k3 (no x y h r k1 k2)) (fun _ => br_t rfl ⟨rfl, ro_mk hpen hR⟩)
    unfold wpX_disc
    dsimp only
    exact rp_X (fun x y h => br_f (by decide) (ro_30 (fun r k1 k2 k3 => absurd k3 (no x y h r k1 k2)) (fun _ => Y) rfl)) (fun _ => br_t rfl Y)
theorem i_vc_ring {k : Nat} {u : SX} {v : SY} (I : i_Rel k u v) (hk : k + 4 ≤ 2048) (v1 : Int32) (v2 : Int32) : wpX_ring (fun r u' => wpY_ring (fun r' v' => r' = r ∧ i_Rel (k + 4) u' v') v v1 v2) u v1 v2 := by
  obtain ⟨pm, w, rows, fig, rr, rf, rl⟩ := u
  obtain ⟨pen, set, yf⟩ := v
  obtain ⟨e, hpen, hR⟩ := I
  obtain rfl : pm = pen := e
  replace hR : rs_R rows set := hR
  replace hpen : pm = 0 ∨ pm = 1 ∨ pm = 2 := hpen
  rcases ro_dec v1 v2 with ⟨a, b, r, h1, br, rfl⟩ | no
  · exact ro_ringX h1 br hR.1 (fun f hf => ro_ringY h1 br hpen hR hf (fun _ _ hs => ⟨rfl, ro_mk hpen hs⟩))
  · have Y : wpY_ring (fun r' v' => r' = -1 ∧ i_Rel (k + 4) (pm, w, rows, fig, rr, rf, rl) v') (pm, set, yf) v1 v2 := by
      unfold wpY_ring
      dsimp only
      exact ro_round (fun x y h r k1 k2 k3 => absurd k3 (no x y h r k1 k2)) (fun _ => br_t rfl ⟨rfl, ro_mk hpen hR⟩)
    unfold wpX_ring
    dsimp only
    exact rp_X (fun x y h => br_f (by decide) (ro_30 (fun r k1 k2 k3 => absurd k3 (no x y h r k1 k2)) (fun _ => Y) rfl)) (fun _ => br_t rfl Y)
theorem i_vc_blot {k : Nat} {u : SX} {v : SY} (I : i_Rel k u v) (hk : k + 4 ≤ 2048) (v1 : Int32) (v2 : Int32) (v3 : Int32) : wpX_blot (fun r u' => wpY_blot (fun r' v' => r' = r ∧ i_Rel (k + 4) u' v') v v1 v2 v3) u v1 v2 v3 := by
  obtain ⟨pm, w, rows, fig, rr, rf, rl⟩ := u
  obtain ⟨pen, set, yf⟩ := v
  obtain ⟨e, hpen, hR⟩ := I
  obtain rfl : pm = pen := e
  replace hR : rs_R rows set := hR
  replace hpen : pm = 0 ∨ pm = 1 ∨ pm = 2 := hpen
  rcases ro_dec v1 v2 with ⟨a, b, p, h1, bp, rfl⟩ | no
  · rcases ro_dec v1 v3 with ⟨a', b', q, _, bq, rfl⟩ | no
    · exact ro_blotX h1 bp bq hR.1 (fun f hf => ro_blotY h1 bp bq hpen hR hf (fun _ _ hs => ⟨rfl, ro_mk hpen hs⟩))
    · have Y : wpY_blot (fun r' v' => r' = -1 ∧ i_Rel (k + 4) (pm, w, rows, fig, rr, rf, rl) v') (pm, set, yf) v1 (rz_i p) v3 := by
        unfold wpY_blot
        dsimp only
        exact ro_round (fun _ _ _ _ _ _ _ => br_f (by decide) (ro_round (fun x y h r k1 k2 k3 => absurd k3 (no x y h r k1 k2)) (fun _ => br_t rfl ⟨rfl, ro_mk hpen hR⟩))) (fun _ => br_t rfl ⟨rfl, ro_mk hpen hR⟩)
      unfold wpX_blot
      dsimp only
      exact rp_X (fun x y h => br_f (by decide) (ro_30' (fun _ _ _ _ => ro_30 (fun r k1 k2 k3 => absurd k3 (no x y h r k1 k2)) (fun _ => Y) rfl) (fun _ => Y) rfl)) (fun _ => br_t rfl Y)
  · have Y : wpY_blot (fun r' v' => r' = -1 ∧ i_Rel (k + 4) (pm, w, rows, fig, rr, rf, rl) v') (pm, set, yf) v1 v2 v3 := by
      unfold wpY_blot
      dsimp only
      exact ro_round (fun x y h r k1 k2 k3 => absurd k3 (no x y h r k1 k2)) (fun _ => br_t rfl ⟨rfl, ro_mk hpen hR⟩)
    unfold wpX_blot
    dsimp only
    exact rp_X (fun x y h => br_f (by decide) (ro_30' (fun r k1 k2 k3 => absurd k3 (no x y h r k1 k2)) (fun _ => Y) rfl)) (fun _ => br_t rfl Y)
theorem i_vc_triangle {k : Nat} {u : SX} {v : SY} (I : i_Rel k u v) (hk : k + 4 ≤ 2048) (v1 : Int32) (v2 : Int32) (v3 : Int32) : wpX_triangle (fun r u' => wpY_triangle (fun r' v' => r' = r ∧ i_Rel (k + 4) u' v') v v1 v2 v3) u v1 v2 v3 := by
  obtain ⟨pm, w, rows, fig, rr, rf, rl⟩ := u
  obtain ⟨pen, set, yf⟩ := v
  obtain ⟨e, hpen, hR⟩ := I
  obtain rfl : pm = pen := e
  replace hR : rs_R rows set := hR
  replace hpen : pm = 0 ∨ pm = 1 ∨ pm = 2 := hpen
  have Y : (∀ x y, ¬ rp_P v1 x y) ∨ (∀ x y, ¬ rp_P v2 x y) ∨ (∀ x y, ¬ rp_P v3 x y) → wpY_triangle (fun r' v' => r' = -1 ∧ i_Rel (k + 4) (pm, w, rows, fig, rr, rf, rl) v') (pm, set, yf) v1 v2 v3 := by
    intro N
    unfold wpY_triangle
    dsimp only
    refine rp_Y (fun _ _ h1 => br_f (by decide) (rp_Y (fun _ _ h2 => br_f (by decide) (rp_Y (fun _ _ h3 => ?_) (fun _ => br_t rfl ⟨rfl, ro_mk hpen hR⟩))) (fun _ => br_t rfl ⟨rfl, ro_mk hpen hR⟩))) (fun _ => br_t rfl ⟨rfl, ro_mk hpen hR⟩)
    rcases N with N | N | N
    · exact absurd h1 (N _ _)
    · exact absurd h2 (N _ _)
    · exact absurd h3 (N _ _)
  rcases rp_dec v1 with ⟨px, py, h1⟩ | no
  · rcases rp_dec v2 with ⟨qx, qy, h2⟩ | no
    · rcases rp_dec v3 with ⟨sx, sy, h3⟩ | no
      · exact ro_triX h1 h2 h3 hR.1 (fun f hf => ro_triY h1 h2 h3 hpen hR hf (fun _ _ hs => ⟨rfl, ro_mk hpen hs⟩))
      · unfold wpX_triangle
        dsimp only
        exact rp_X (fun _ _ _ => br_f (by decide) (rp_X (fun _ _ _ => br_f (by decide) (rp_X (fun _ _ h => absurd h (no _ _)) (fun _ => br_t rfl (Y (Or.inr (Or.inr no)))))) (fun no => absurd h2 (no _ _)))) (fun no => absurd h1 (no _ _))
    · unfold wpX_triangle
      dsimp only
      exact rp_X (fun _ _ _ => br_f (by decide) (rp_X (fun _ _ h => absurd h (no _ _)) (fun _ => br_t rfl (Y (Or.inr (Or.inl no)))))) (fun no => absurd h1 (no _ _))
  · unfold wpX_triangle
    dsimp only
    exact rp_X (fun _ _ h => absurd h (no _ _)) (fun _ => br_t rfl (Y (Or.inl no)))
theorem i_vc_flood {k : Nat} {u : SX} {v : SY} (I : i_Rel k u v) (hk : k + 4 ≤ 2048) (v1 : Int32) : wpX_flood (fun r u' => wpY_flood (fun r' v' => r' = r ∧ i_Rel (k + 4) u' v') v v1) u v1 := by
  obtain ⟨pm, w, rows, fig, rr, rf, rl⟩ := u
  obtain ⟨pen, set, yf⟩ := v
  obtain ⟨e, hpen, hR⟩ := I
  obtain rfl : pm = pen := e
  replace hR : rs_R rows set := hR
  replace hpen : pm = 0 ∨ pm = 1 ∨ pm = 2 := hpen
  rcases rp_dec v1 with ⟨x0, y0, h⟩ | no
  · have h1 := h.1
    have h2 := h.2.1
    refine rq_floodX h (fun a rr' rf' rl' hH hC hL => rv_floodY (g := rs_g rows) h hR.2 (fun C f hC' hL' => ?_))
    have eV : ∀ y x, y < 24 → x < 24 → (bt (rows y) x = bt (rows y0) x0 ↔ rs_g rows (24 * y + x) = rs_g rows (24 * y0 + x0)) := fun y x _ q2 => by rw [rs_gat rows q2, rs_gat rows h1]
    have e1 : ∀ k, k < 576 → rs_g a k = C k := by
      intro k hk
      obtain ⟨y, x, hy, hx, rfl⟩ : ∃ y x, y < 24 ∧ x < 24 ∧ k = 24 * y + x := ⟨k / 24, k % 24, by omega, by omega, by omega⟩
      rw [rs_gat a hx]
      have f1 : bt (a y) x = true → C (24 * y + x) = true := hL (fun y x => C (24 * y + x) = true) (ro_Cc (fun y x q1 q2 => (eV y x q1 q2).symm) hC') y x hy hx
      have f2 : C (24 * y + x) = true → bt (a y) x = true := hL' (fun y x => bt (a y) x = true) (ro_Cc eV hC) y x hy hx
      cases hb : bt (a y) x
      · cases hc : C (24 * y + x)
        · rfl
        · rw [f2 hc] at hb
          cases hb
      · exact (f1 hb).symm
    refine ⟨congrArg nI (rb_congr 576 (fun k hk => (e1 k hk).symm)), ro_mk hpen ⟨fun y hy i hi => ?_, fun k hk => ?_⟩⟩
    · rw [rs_ult hy, b_xor, hR.1 y hy i hi, hH y hy i hi]
      rfl
    · rw [rs_ult hk, ← e1 k hk]
      unfold rs_g
      rw [rs_ult (show k / 24 < 24 from by omega), b_xor]
  · unfold wpX_flood wpY_flood
    dsimp only
    refine rp_X (fun _ _ h => absurd h (no _ _)) (fun _ => br_t rfl ?_)
    exact rp_Y (fun _ _ h => absurd h (no _ _)) (fun _ => br_t rfl ⟨rfl, ro_mk hpen hR⟩)
theorem i_vc_get {k : Nat} {u : SX} {v : SY} (I : i_Rel k u v) (hk : k + 4 ≤ 2048) (v1 : Int32) : wpX_get (fun r => wpY_get (fun r' => r' = r ∧ i_Rel (k + 4) u v) v v1) u v1 := by
  obtain ⟨pm, w, rows, fig, rr, rf, rl⟩ := u
  obtain ⟨pen, set, yf⟩ := v
  obtain ⟨e, hpen, hR⟩ := I
  obtain rfl : pm = pen := e
  replace hR : rs_R rows set := hR
  replace hpen : pm = 0 ∨ pm = 1 ∨ pm = 2 := hpen
  rcases rp_dec v1 with ⟨x, y, h⟩ | no
  · exact rq_getX h (ro_getY hR h ⟨rfl, ro_mk hpen hR⟩)
  · unfold wpX_get wpY_get
    dsimp only
    refine rp_X (fun _ _ h => absurd h (no _ _)) (fun _ => br_t rfl ?_)
    exact rp_Y (fun _ _ h => absurd h (no _ _)) (fun _ => br_t rfl ⟨rfl, ro_mk hpen hR⟩)
theorem i_vc_count {k : Nat} {u : SX} {v : SY} (I : i_Rel k u v) (hk : k + 4 ≤ 2048) : wpX_count (fun r => wpY_count (fun r' => r' = r ∧ i_Rel (k + 4) u v) v) u := by
  obtain ⟨pm, w, rows, fig, rr, rf, rl⟩ := u
  obtain ⟨pen, set, yf⟩ := v
  obtain ⟨e, hpen, hR⟩ := I
  obtain rfl : pm = pen := e
  replace hR : rs_R rows set := hR
  replace hpen : pm = 0 ∨ pm = 1 ∨ pm = 2 := hpen
  exact rx_count hR.1 (ry_count hR.2 ⟨rfl, ro_mk hpen hR⟩)
theorem i_vc_row {k : Nat} {u : SX} {v : SY} (I : i_Rel k u v) (hk : k + 4 ≤ 2048) (v1 : Int32) : wpX_row (fun r => wpY_row (fun r' => r' = r ∧ i_Rel (k + 4) u v) v v1) u v1 := by
  obtain ⟨pm, w, rows, fig, rr, rf, rl⟩ := u
  obtain ⟨pen, set, yf⟩ := v
  obtain ⟨e, hpen, hR⟩ := I
  obtain rfl : pm = pen := e
  replace hR : rs_R rows set := hR
  replace hpen : pm = 0 ∨ pm = 1 ∨ pm = 2 := hpen
  by_cases h0 : v1 < 0
  · exact br_t h0 (br_t h0 ⟨rfl, ro_mk hpen hR⟩)
  · obtain ⟨y, hy, rfl⟩ := nI_of h0
    refine br_f h0 (pk_lt y 24 (fun q => ⟨pk_in y 24 q, br_f h0 (pk_le y 23 (fun _ => Exists.intro 25 (ro_row_l hR q ?_ 25 0 0 (by omega) (by omega) (fun i hi => ?_))) (fun z => absurd z (by omega)))⟩) (fun q => br_f h0 (pk_le y 23 (fun z => absurd z (by omega)) (fun _ => ⟨rfl, ro_mk hpen hR⟩))))
    · rw [nI_clamp hy]
      exact ⟨rfl, ro_mk hpen hR⟩
    · rw [b_0, decide_eq_false (by omega), Bool.false_and]
theorem i_vc_move {k : Nat} {u : SX} {v : SY} (I : i_Rel k u v) (hk : k + 4 ≤ 2048) (v1 : Int32) (v2 : Int32) : wpX_move (fun r u' => wpY_move (fun r' v' => r' = r ∧ i_Rel (k + 4) u' v') v v1 v2) u v1 v2 := by
  obtain ⟨pm, w, rows, fig, rr, rf, rl⟩ := u
  obtain ⟨pen, set, yf⟩ := v
  obtain ⟨e, hpen, hR⟩ := I
  obtain rfl : pm = pen := e
  replace hR : rs_R rows set := hR
  replace hpen : pm = 0 ∨ pm = 1 ∨ pm = 2 := hpen
  refine br_c (fun c1 => br_t c1 ⟨rfl, ro_mk hpen hR⟩) (fun c1 => br_c (fun c2 => br_f c1 (br_t c2 ⟨rfl, ro_mk hpen hR⟩)) (fun c2 => br_c (fun c3 => br_f c1 (br_f c2 (br_t c3 ⟨rfl, ro_mk hpen hR⟩))) (fun c3 => br_c (fun c4 => ?_) (fun c4 => br_f c1 (br_f c2 (br_f c3 (br_f c4 ⟨rfl, ro_mk hpen hR⟩)))))))
  have q1 : -24 ≤ v1.toInt := by
    rw [Int32.lt_iff_toInt_lt, show (-24 : Int32).toInt = -24 from by decide] at c1
    omega
  have q2 : v1.toInt ≤ 24 := by
    rw [Int32.lt_iff_toInt_lt, show (24 : Int32).toInt = 24 from by decide] at c2
    omega
  have q3 : -24 ≤ v2.toInt := by
    rw [Int32.lt_iff_toInt_lt, show (-24 : Int32).toInt = -24 from by decide] at c3
    omega
  have q4 : v2.toInt ≤ 24 := by
    rw [Int32.le_iff_toInt_le, show (24 : Int32).toInt = 24 from by decide] at c4
    omega
  obtain ⟨dx, e1⟩ : ∃ dx, dx = v1.toInt := ⟨_, rfl⟩
  obtain ⟨dy, e2⟩ : ∃ dy, dy = v2.toInt := ⟨_, rfl⟩
  have ev1 : v1 = rz_i dx := by rw [e1]; exact rz_of v1
  have ev2 : v2 = rz_i dy := by rw [e2]; exact rz_of v2
  rw [← e1] at q1 q2
  rw [← e2] at q3 q4
  subst ev1 ev2
  refine rx_count hR.1 (Exists.intro 25 ?_)
  have k1 : ∀ c : Nat, c = rb_c (rs_g (rs_u (fun j => rm_S dx (rs_u (rm_F rows dy) fig 24 j)) rows 24)) 576 → wpY_move (fun r' v' => r' = nI (rb_c (rs_g rows) 576) - nI c ∧ i_Rel (k + 4) (pm, w, rs_u (fun j => rm_S dx (rs_u (rm_F rows dy) fig 24 j)) rows 24, rs_u (rm_F rows dy) fig 24, rr, rf, rl) v') (pm, set, yf) (rz_i dx) (rz_i dy) := by
    intro c ec
    have eg : rb_c (rs_g (rs_u (fun j => rm_S dx (rs_u (rm_F rows dy) fig 24 j)) rows 24)) 576 = rb_c (rm_T (rs_g rows) dx dy) 576 := rb_congr 576 (fun j hj => rm_g hR.1 ⟨q1, q2⟩ hj)
    refine br_f c1 (br_f c2 (br_f c3 (br_t c4 (ry_count hR.2 (Exists.intro 577 (rm_Y34 hR.2 (fun f hf => Exists.intro 577 ?_) 577 0 yf (by omega) (by omega) (fun j hj => absurd hj (by omega))))))))
    have k2 := rm_65 (pen := pm) (set := set) (post := fun r' v' => r' = nI (rb_c (rs_g rows) 576) - nI c ∧ i_Rel (k + 4) (pm, w, rs_u (fun j => rm_S dx (rs_u (rm_F rows dy) fig 24 j)) rows 24, rs_u (rm_F rows dy) fig 24, rr, rf, rl) v') (x3 := nI (rb_c (rs_g rows) 576)) ⟨q1, q2⟩ ⟨q3, q4⟩ hf ⟨by rw [ec, eg], ro_mk hpen ⟨fun y hy i hi => ?_, fun j hj => ?_⟩⟩ 577 0 (by omega) (by omega)
    · rw [rs_u0] at k2
      exact k2
    · rw [rs_ult hy]
      exact rm_bt0 hi
    · rw [rs_ult hj, rm_g hR.1 ⟨q1, q2⟩ hj]
  have k3 := rm_86 (pm := pm) (w := w) (rows := rows) (fig := rs_u (rm_F rows dy) fig 24) (rr := rr) (rf := rf) (rl := rl) (x3 := nI (rb_c (rs_g rows) 576)) (post := fun r u' => wpY_move (fun r' v' => r' = r ∧ i_Rel (k + 4) u' v') (pm, set, yf) (rz_i dx) (rz_i dy)) ⟨q1, q2⟩ k1 25 0 (by omega) (by omega)
  rw [rs_u0] at k3
  have k4 := rm_34 (fig := fig) ⟨q3, q4⟩ (Exists.intro 25 k3) 25 0 (by omega) (by omega)
  rw [rs_u0] at k4
  exact k4
end

section
/-! 64-bit words as naturals below 2^64 (two's complement): exact arithmetic -/
def fd_tN (x : Int64) : Nat := x.toBitVec.toNat
def fd_add (a b : Nat) : Nat := Nat.mod (Nat.add a b) 18446744073709551616
def fd_sub (a b : Nat) : Nat := Nat.mod (Nat.add (Nat.sub 18446744073709551616 b) a) 18446744073709551616
def fd_mul (a b : Nat) : Nat := Nat.mod (Nat.mul a b) 18446744073709551616
def fd_neg (a : Nat) : Nat := Nat.mod (Nat.sub 18446744073709551616 a) 18446744073709551616
def fd_div (a b : Nat) : Nat :=
  cond (Nat.ble 9223372036854775808 a)
    (cond (Nat.ble 9223372036854775808 b) (Nat.div (fd_neg a) (fd_neg b)) (fd_neg (Nat.div (fd_neg a) b)))
    (cond (Nat.ble 9223372036854775808 b) (fd_neg (Nat.div a (fd_neg b))) (Nat.div a b))
def fd_rem (a b : Nat) : Nat :=
  cond (Nat.ble 9223372036854775808 a) (fd_sub a (fd_mul (fd_div a b) b))
    (cond (Nat.ble 9223372036854775808 b) (fd_sub a (fd_mul (fd_div a b) b)) (Nat.mod a b))
/-- the number shifted so that signed order is the order of naturals -/
def fd_sh (a : Nat) : Nat := Nat.mod (Nat.add a 9223372036854775808) 18446744073709551616
def fd_rest (m x : Nat) : Nat := cond (Nat.ble 9223372036854775808 (fd_rem x m)) (fd_add (fd_rem x m) m) (fd_rem x m)

theorem fd_tN_lt (x : Int64) : fd_tN x < 18446744073709551616 := x.toBitVec.isLt
theorem fd_inj {x y : Int64} (h : fd_tN x = fd_tN y) : x = y := Int64.toBitVec.inj (BitVec.eq_of_toNat_eq h)
theorem fd_tN0 : fd_tN 0 = 0 := by decide
theorem fd_tN1 : fd_tN 1 = 1 := by decide
theorem fd_eq {x y : Int64} : x = y ↔ fd_tN x = fd_tN y := ⟨fun h => by rw [h], fd_inj⟩
theorem fd_eq0 {x : Int64} : x = 0 ↔ fd_tN x = 0 := by
  rw [fd_eq, fd_tN0]
theorem fd_tN_add (x y : Int64) : fd_tN (x + y) = fd_add (fd_tN x) (fd_tN y) := rfl
theorem fd_tN_sub (x y : Int64) : fd_tN (x - y) = fd_sub (fd_tN x) (fd_tN y) := rfl
theorem fd_tN_mul (x y : Int64) : fd_tN (x * y) = fd_mul (fd_tN x) (fd_tN y) := rfl
theorem fd_neg_eq (a : Nat) : fd_neg a = (18446744073709551616 - a) % 18446744073709551616 := rfl
theorem fd_add_eq (a b : Nat) : fd_add a b = (a + b) % 18446744073709551616 := rfl
theorem fd_sub_eq (a b : Nat) : fd_sub a b = ((18446744073709551616 - b) + a) % 18446744073709551616 := rfl
theorem fd_mul_eq (a b : Nat) : fd_mul a b = (a * b) % 18446744073709551616 := rfl
theorem fd_tN_neg (x : Int64) : fd_tN (-x) = fd_neg (fd_tN x) := by
  show (-x).toBitVec.toNat = _
  rw [Int64.toBitVec_neg, BitVec.toNat_neg]
  rfl
theorem fd_msb (x : BitVec 64) : x.msb = Nat.ble 9223372036854775808 x.toNat := by
  rw [BitVec.msb_eq_decide]
  by_cases h : 9223372036854775808 ≤ x.toNat
  · rw [Nat.ble_eq_true_of_le h]
    exact decide_eq_true h
  · have e : Nat.ble 9223372036854775808 x.toNat = false := by
      cases hb : Nat.ble 9223372036854775808 x.toNat
      · rfl
      · exact absurd (Nat.le_of_ble_eq_true hb) h
    rw [e]
    exact decide_eq_false h
theorem fd_udiv (x y : BitVec 64) : (x.udiv y).toNat = x.toNat / y.toNat := BitVec.toNat_udiv
theorem fd_bneg (x : BitVec 64) : (-x).toNat = fd_neg x.toNat := by
  rw [BitVec.toNat_neg]
  rfl
theorem fd_tN_div (x y : Int64) : fd_tN (x / y) = fd_div (fd_tN x) (fd_tN y) := by
  show (BitVec.sdiv x.toBitVec y.toBitVec).toNat = _
  rw [BitVec.sdiv_eq, fd_msb, fd_msb]
  unfold fd_div fd_tN
  cases Nat.ble 9223372036854775808 x.toBitVec.toNat <;> cases Nat.ble 9223372036854775808 y.toBitVec.toNat
  · exact fd_udiv _ _
  · show (-(x.toBitVec.udiv (-y.toBitVec))).toNat = fd_neg (x.toBitVec.toNat / fd_neg y.toBitVec.toNat)
    rw [fd_bneg, fd_udiv, fd_bneg]
  · show (-((-x.toBitVec).udiv y.toBitVec)).toNat = fd_neg (fd_neg x.toBitVec.toNat / y.toBitVec.toNat)
    rw [fd_bneg, fd_udiv, fd_bneg]
  · show ((-x.toBitVec).udiv (-y.toBitVec)).toNat = fd_neg x.toBitVec.toNat / fd_neg y.toBitVec.toNat
    rw [fd_udiv, fd_bneg, fd_bneg]
theorem fd_ble_t {a b : Nat} (h : a ≤ b) : Nat.ble a b = true := Nat.ble_eq_true_of_le h
theorem fd_ble_f {a b : Nat} (h : b < a) : Nat.ble a b = false := by
  cases hb : Nat.ble a b
  · rfl
  · exact absurd (Nat.le_of_ble_eq_true hb) (by omega)
theorem fd_beq_t {a b : Nat} (h : a = b) : Nat.beq a b = true := by
  subst h
  exact Nat.beq_refl a
theorem fd_beq_f {a b : Nat} (h : a ≠ b) : Nat.beq a b = false := by
  cases hb : Nat.beq a b
  · rfl
  · exact absurd (Nat.eq_of_beq_eq_true hb) h
theorem fd_rem_eq {a b : Nat} (ha : a < 18446744073709551616) : fd_rem a b = fd_sub a (fd_mul (fd_div a b) b) := by
  unfold fd_rem
  by_cases h : 9223372036854775808 ≤ a
  · rw [fd_ble_t h]
    rfl
  · rw [fd_ble_f (by omega : a < 9223372036854775808)]
    by_cases h2 : 9223372036854775808 ≤ b
    · rw [fd_ble_t h2]
      rfl
    · rw [fd_ble_f (by omega : b < 9223372036854775808)]
      show a % b = _
      have e : fd_div a b = a / b := by
        unfold fd_div
        rw [fd_ble_f (by omega : a < 9223372036854775808), fd_ble_f (by omega : b < 9223372036854775808)]
        rfl
      rw [e, fd_mul_eq, fd_sub_eq]
      have h3 : a / b * b ≤ a := Nat.div_mul_le_self a b
      have h4 : a % b = a - a / b * b := by
        have h5 := Nat.div_add_mod a b
        rw [Nat.mul_comm b (a / b)] at h5
        omega
      rw [h4]
      generalize a / b * b = c at h3
      omega
theorem fd_tN_rem (x y : Int64) : fd_tN (x - x / y * y) = fd_rem (fd_tN x) (fd_tN y) := by
  rw [fd_rem_eq (fd_tN_lt x), fd_tN_sub, fd_tN_mul, fd_tN_div]
theorem fd_toInt (x : Int64) : x.toInt = if fd_tN x < 9223372036854775808 then (fd_tN x : Int) else (fd_tN x : Int) - 18446744073709551616 := by
  show x.toBitVec.toInt = _
  rw [BitVec.toInt_eq_toNat_cond]
  show (if 2 * fd_tN x < 18446744073709551616 then (fd_tN x : Int) else (fd_tN x : Int) - 18446744073709551616) = _
  by_cases h : fd_tN x < 9223372036854775808
  · rw [if_pos h, if_pos (by omega)]
  · rw [if_neg h, if_neg (by omega)]
theorem fd_sh_eq (a : Nat) : fd_sh a = (a + 9223372036854775808) % 18446744073709551616 := rfl
theorem fd_toInt_sh (x : Int64) : x.toInt = (fd_sh (fd_tN x) : Int) - 9223372036854775808 := by
  rw [fd_toInt, fd_sh_eq]
  have := fd_tN_lt x
  split <;> omega
theorem fd_le (x y : Int64) : x ≤ y ↔ fd_sh (fd_tN x) ≤ fd_sh (fd_tN y) := by
  rw [Int64.le_iff_toInt_le, fd_toInt_sh, fd_toInt_sh]
  omega
theorem fd_lt (x y : Int64) : x < y ↔ fd_sh (fd_tN x) < fd_sh (fd_tN y) := by
  rw [Int64.lt_iff_toInt_lt, fd_toInt_sh, fd_toInt_sh]
  omega
theorem fd_ge0 (x : Int64) : 0 ≤ x ↔ fd_tN x < 9223372036854775808 := by
  rw [fd_le, fd_tN0, fd_sh_eq, fd_sh_eq]
  have := fd_tN_lt x
  omega
theorem fd_tN_lN {n : Nat} (h : n < 18446744073709551616) : fd_tN (lN n) = n := by
  show (BitVec.ofNat 64 n).toNat = n
  rw [BitVec.toNat_ofNat]
  exact Nat.mod_eq_of_lt h
/-- a whole number from -2^63 to 2^63 - 1, as a word -/
theorem fd_tN_i (x : Int32) : fd_tN x.toInt64 = fd_add (x.toInt + 9223372036854775808).toNat 9223372036854775808 := by
  have h1 : x.toInt64.toInt = x.toInt := Int32.toInt_toInt64 x
  have h2 := fd_toInt x.toInt64
  have h3 := fd_tN_lt x.toInt64
  have h4 : -2147483648 ≤ x.toInt := Int32.le_toInt x
  have h5 : x.toInt < 2147483648 := Int32.toInt_lt x
  rw [h1] at h2
  rw [fd_add_eq]
  split at h2 <;> omega
theorem fd_rest_eq (m x : Nat) : fd_rest m x = if fd_rem x m < 9223372036854775808 then fd_rem x m else fd_add (fd_rem x m) m := by
  unfold fd_rest
  by_cases h : fd_rem x m < 9223372036854775808
  · rw [fd_ble_f h, if_pos h]
    rfl
  · rw [fd_ble_t (by omega), if_neg h]
    rfl
theorem fd_rem_0 (m : Nat) : fd_rem 0 m = 0 := by
  rw [fd_rem_eq (by omega)]
  have h : fd_div 0 m = 0 := by
    unfold fd_div
    rw [fd_ble_f (by omega)]
    show cond _ (fd_neg (0 / fd_neg m)) (0 / m) = 0
    rw [Nat.zero_div, Nat.zero_div]
    cases Nat.ble 9223372036854775808 m <;> rfl
  rw [h, fd_mul_eq, Nat.zero_mul]
  rfl
theorem fd_div_0 (m : Nat) : fd_div 0 m = 0 := by
  unfold fd_div
  rw [fd_ble_f (by omega)]
  show cond _ (fd_neg (0 / fd_neg m)) (0 / m) = 0
  rw [Nat.zero_div, Nat.zero_div]
  cases Nat.ble 9223372036854775808 m <;> rfl
theorem fd_rest_0 (m : Nat) : fd_rest m 0 = 0 := by
  rw [fd_rest_eq, fd_rem_0, if_pos (by omega)]
theorem fd_mul_0 (m : Nat) : fd_mul 0 m = 0 := by
  rw [fd_mul_eq, Nat.zero_mul]
theorem fd_mul_0' (m : Nat) : fd_mul m 0 = 0 := by
  rw [fd_mul_eq, Nat.mul_zero]
end
section
/-! coefficient lists and the picture of the slots -/
def fd_cf : List Nat → Nat → Nat
  | [], _ => 0
  | x :: _, 0 => x
  | _ :: t, n + 1 => fd_cf t n
theorem fd_cf_nil (i : Nat) : fd_cf [] i = 0 := by
  cases i <;> rfl
theorem fd_cf_big : ∀ (L : List Nat) (i : Nat), L.length ≤ i → fd_cf L i = 0
  | [], i, _ => fd_cf_nil i
  | _ :: t, 0, h => absurd h (by simp)
  | _ :: t, i + 1, h => fd_cf_big t i (by simpa using h)
/-- how many coefficients up to the last that isn't zero -/
def fd_ln : List Nat → Nat
  | [] => 0
  | c :: t => match fd_ln t with
    | 0 => (match c with
      | 0 => 0
      | _ + 1 => 1)
    | n + 1 => n + 2
theorem fd_ln_cons (c : Nat) (t : List Nat) : fd_ln (c :: t) = if fd_ln t = 0 then (if c = 0 then 0 else 1) else fd_ln t + 1 := by
  show (match fd_ln t with
    | 0 => (match c with
      | 0 => 0
      | _ + 1 => 1)
    | n + 1 => n + 2) = _
  cases h : fd_ln t with
  | zero =>
    cases c with
    | zero => rfl
    | succ k => rfl
  | succ n => rw [if_neg (by omega)]
theorem fd_ln_le : ∀ L : List Nat, fd_ln L ≤ L.length
  | [] => Nat.le_refl 0
  | c :: t => by
    have ih := fd_ln_le t
    rw [fd_ln_cons, List.length_cons]
    split
    · split <;> omega
    · omega
theorem fd_ln_out : ∀ (L : List Nat) (i : Nat), fd_ln L ≤ i → fd_cf L i = 0
  | [], i, _ => fd_cf_nil i
  | c :: t, i, h => by
    rw [fd_ln_cons] at h
    cases i with
    | zero =>
      show c = 0
      split at h
      · split at h
        · assumption
        · omega
      · omega
    | succ i =>
      show fd_cf t i = 0
      refine fd_ln_out t i ?_
      split at h
      · omega
      · omega
theorem fd_ln_top : ∀ (L : List Nat) (n : Nat), fd_ln L = n + 1 → fd_cf L n ≠ 0
  | [], n, h => absurd h (by show ¬ 0 = n + 1; omega)
  | c :: t, n, h => by
    rw [fd_ln_cons] at h
    split at h
    · split at h
      · omega
      · have e : n = 0 := by omega
        subst e
        assumption
    · cases n with
      | zero => omega
      | succ n => exact fd_ln_top t n (by omega)
/-- the leading coefficient, 0 if there is none -/
def fd_ld (L : List Nat) : Nat := match fd_ln L with
  | 0 => 0
  | n + 1 => fd_cf L n
theorem fd_ld_0 {L : List Nat} (h : fd_ln L = 0) : fd_ld L = 0 := by
  unfold fd_ld
  rw [h]
theorem fd_ld_s {L : List Nat} {n : Nat} (h : fd_ln L = n + 1) : fd_ld L = fd_cf L n := by
  unfold fd_ld
  rw [h]
theorem fd_ld_ne {L : List Nat} (h : fd_ln L ≠ 0) : fd_ld L ≠ 0 := by
  obtain ⟨n, e⟩ := Nat.exists_eq_succ_of_ne_zero h
  rw [fd_ld_s e]
  exact fd_ln_top L n e
/-- without the zeros at the end -/
def fd_tr : List Nat → List Nat
  | [] => []
  | c :: t => match fd_tr t with
    | [] => (match c with
      | 0 => []
      | k + 1 => [Nat.succ k])
    | x :: t' => c :: x :: t'
theorem fd_tr_cf : ∀ (L : List Nat) (i : Nat), fd_cf (fd_tr L) i = fd_cf L i
  | [], _ => rfl
  | c :: t, i => by
    have ih := fd_tr_cf t
    show fd_cf (match fd_tr t with
    | [] => (match c with
      | 0 => []
      | k + 1 => [Nat.succ k])
    | x :: t' => c :: x :: t') i = _
    cases h : fd_tr t with
    | nil =>
      rw [h] at ih
      cases c with
      | zero =>
        cases i with
        | zero => rfl
        | succ i =>
          show 0 = fd_cf t i
          rw [← ih i, fd_cf_nil]
      | succ k =>
        cases i with
        | zero => rfl
        | succ i =>
          show fd_cf [] i = fd_cf t i
          exact ih i
    | cons x t' =>
      rw [h] at ih
      cases i with
      | zero => rfl
      | succ i => exact ih i
theorem fd_tr_len : ∀ L : List Nat, (fd_tr L).length = fd_ln L
  | [] => rfl
  | c :: t => by
    have ih := fd_tr_len t
    rw [fd_ln_cons]
    show (match fd_tr t with
    | [] => (match c with
      | 0 => []
      | k + 1 => [Nat.succ k])
    | x :: t' => c :: x :: t').length = _
    cases h : fd_tr t with
    | nil =>
      rw [h] at ih
      rw [if_pos (by rw [← ih]; rfl)]
      cases c with
      | zero => rfl
      | succ k => rfl
    | cons x t' =>
      rw [h] at ih
      rw [if_neg (by rw [← ih]; simp), ← ih]
      rfl
theorem fd_tr_ln (L : List Nat) : fd_ln (fd_tr L) = fd_ln L := by
  refine Nat.le_antisymm (fd_tr_len L ▸ fd_ln_le (fd_tr L)) ?_
  rcases Nat.lt_or_ge (fd_ln (fd_tr L)) (fd_ln L) with h | h
  · exfalso
    obtain ⟨n, e⟩ := Nat.exists_eq_succ_of_ne_zero (show fd_ln L ≠ 0 by omega)
    have h1 := fd_ln_top L n e
    rw [← fd_tr_cf] at h1
    exact h1 (fd_ln_out _ n (by omega))
  · exact h
/-- one coefficient written -/
def fd_po : List Nat → Nat → Nat → List Nat
  | [], 0, v => [v]
  | [], n + 1, v => 0 :: fd_po [] n v
  | _ :: t, 0, v => v :: t
  | x :: t, n + 1, v => x :: fd_po t n v
theorem fd_po_cf : ∀ (L : List Nat) (i v j : Nat), fd_cf (fd_po L i v) j = if j = i then v else fd_cf L j
  | [], 0, v, 0 => rfl
  | [], 0, v, j + 1 => by
    rw [if_neg (by omega)]
    exact fd_cf_nil j
  | [], n + 1, v, 0 => rfl
  | [], n + 1, v, j + 1 => by
    show fd_cf (fd_po [] n v) j = _
    rw [fd_po_cf [] n v j]
    by_cases h : j = n
    · rw [if_pos h, if_pos (by omega)]
    · rw [if_neg h, if_neg (by omega), fd_cf_nil, fd_cf_nil]
  | x :: t, 0, v, 0 => rfl
  | x :: t, 0, v, j + 1 => by
    rw [if_neg (by omega)]
    rfl
  | x :: t, n + 1, v, 0 => rfl
  | x :: t, n + 1, v, j + 1 => by
    show fd_cf (fd_po t n v) j = _
    rw [fd_po_cf t n v j]
    by_cases h : j = n
    · rw [if_pos h, if_pos (by omega)]
    · rw [if_neg h, if_neg (by omega)]
      rfl
theorem fd_po_len : ∀ (L : List Nat) (i v : Nat), (fd_po L i v).length ≤ L.length + (i + 1 - L.length)
  | [], 0, v => Nat.le_refl _
  | [], n + 1, v => by
    have := fd_po_len [] n v
    show (fd_po [] n v).length + 1 ≤ _
    simp only [List.length_nil] at this ⊢
    omega
  | x :: t, 0, v => by
    show (v :: t).length ≤ _
    simp only [List.length_cons]
    omega
  | x :: t, n + 1, v => by
    have := fd_po_len t n v
    show (fd_po t n v).length + 1 ≤ _
    simp only [List.length_cons]
    omega
theorem fd_po_12 {L : List Nat} {i v : Nat} (h : L.length ≤ 12) (hi : i < 12) : (fd_po L i v).length ≤ 12 := by
  have := fd_po_len L i v
  omega
/-- f over the places from i on, as long as B goes -/
def fd_s0 (f : Nat → Nat → Nat) : List Nat → List Nat → List Nat
  | [], R => R
  | b :: B, R => (match R with
    | [] => f 0 b :: fd_s0 f B []
    | r :: R' => f r b :: fd_s0 f B R')
def fd_sa (f : Nat → Nat → Nat) (B : List Nat) : Nat → List Nat → List Nat
  | 0, R => fd_s0 f B R
  | i + 1, [] => 0 :: fd_sa f B i []
  | i + 1, r :: R => r :: fd_sa f B i R
theorem fd_s0_cf (f : Nat → Nat → Nat) : ∀ (B R : List Nat) (j : Nat), fd_cf (fd_s0 f B R) j = if j < B.length then f (fd_cf R j) (fd_cf B j) else fd_cf R j
  | [], R, j => by
    rw [if_neg (by simp)]
    rfl
  | b :: B, [], 0 => by
    rw [if_pos (by simp)]
    rfl
  | b :: B, [], j + 1 => by
    show fd_cf (fd_s0 f B []) j = _
    rw [fd_s0_cf f B [] j]
    by_cases h : j < B.length
    · rw [if_pos h, if_pos (by simpa using h), fd_cf_nil, fd_cf_nil]
      rfl
    · rw [if_neg h, if_neg (by simpa using h), fd_cf_nil, fd_cf_nil]
  | b :: B, r :: R, 0 => by
    rw [if_pos (by simp)]
    rfl
  | b :: B, r :: R, j + 1 => by
    show fd_cf (fd_s0 f B R) j = _
    rw [fd_s0_cf f B R j]
    by_cases h : j < B.length
    · rw [if_pos h, if_pos (by simpa using h)]
      rfl
    · rw [if_neg h, if_neg (by simpa using h)]
      rfl
theorem fd_sa_cf (f : Nat → Nat → Nat) (B : List Nat) : ∀ (i : Nat) (R : List Nat) (j : Nat), fd_cf (fd_sa f B i R) j = if i ≤ j ∧ j < i + B.length then f (fd_cf R j) (fd_cf B (j - i)) else fd_cf R j
  | 0, R, j => by
    show fd_cf (fd_s0 f B R) j = _
    rw [fd_s0_cf]
    by_cases h : j < B.length
    · rw [if_pos h, if_pos (by omega)]
      rfl
    · rw [if_neg h, if_neg (by omega)]
  | i + 1, [], 0 => by
    rw [if_neg (by omega)]
    rfl
  | i + 1, r :: R, 0 => by
    rw [if_neg (by omega)]
    rfl
  | i + 1, [], j + 1 => by
    show fd_cf (fd_sa f B i []) j = _
    rw [fd_sa_cf f B i [] j]
    by_cases h : i ≤ j ∧ j < i + B.length
    · rw [if_pos h, if_pos (by omega), fd_cf_nil, fd_cf_nil, show j + 1 - (i + 1) = j - i by omega]
    · rw [if_neg h, if_neg (by omega), fd_cf_nil, fd_cf_nil]
  | i + 1, r :: R, j + 1 => by
    show fd_cf (fd_sa f B i R) j = _
    rw [fd_sa_cf f B i R j]
    by_cases h : i ≤ j ∧ j < i + B.length
    · rw [if_pos h, if_pos (by omega), show j + 1 - (i + 1) = j - i by omega]
      rfl
    · rw [if_neg h, if_neg (by omega)]
      rfl
theorem fd_s0_len (f : Nat → Nat → Nat) : ∀ (B R : List Nat) (n : Nat), B.length ≤ n → R.length ≤ n → (fd_s0 f B R).length ≤ n
  | [], R, n, _, h => h
  | b :: B, [], n, h, h2 => by
    simp only [List.length_cons] at h
    obtain ⟨k, e⟩ := Nat.exists_eq_succ_of_ne_zero (show n ≠ 0 by omega)
    have := fd_s0_len f B [] k (by omega) (by simp)
    show (fd_s0 f B []).length + 1 ≤ n
    omega
  | b :: B, r :: R, n, h, h2 => by
    simp only [List.length_cons] at h h2
    obtain ⟨k, e⟩ := Nat.exists_eq_succ_of_ne_zero (show n ≠ 0 by omega)
    have := fd_s0_len f B R k (by omega) (by omega)
    show (fd_s0 f B R).length + 1 ≤ n
    omega
theorem fd_sa_len (f : Nat → Nat → Nat) (B : List Nat) : ∀ (i : Nat) (R : List Nat) (n : Nat), i + B.length ≤ n → R.length ≤ n → (fd_sa f B i R).length ≤ n
  | 0, R, n, h, h2 => fd_s0_len f B R n (by omega) h2
  | i + 1, [], n, h, h2 => by
    obtain ⟨k, e⟩ := Nat.exists_eq_succ_of_ne_zero (show n ≠ 0 by omega)
    have := fd_sa_len f B i [] k (by omega) (by simp)
    show (fd_sa f B i []).length + 1 ≤ n
    omega
  | i + 1, r :: R, n, h, h2 => by
    simp only [List.length_cons] at h2
    obtain ⟨k, e⟩ := Nat.exists_eq_succ_of_ne_zero (show n ≠ 0 by omega)
    have := fd_sa_len f B i R k (by omega) (by omega)
    show (fd_sa f B i R).length + 1 ≤ n
    omega
/-- zeros in front -/
def fd_pz : Nat → List Nat → List Nat
  | 0, Q => Q
  | n + 1, Q => 0 :: fd_pz n Q
theorem fd_pz_cf : ∀ (n : Nat) (Q : List Nat) (j : Nat), fd_cf (fd_pz n Q) j = if j < n then 0 else fd_cf Q (j - n)
  | 0, Q, j => by
    rw [if_neg (by omega)]
    rfl
  | n + 1, Q, 0 => by
    rw [if_pos (by omega)]
    rfl
  | n + 1, Q, j + 1 => by
    show fd_cf (fd_pz n Q) j = _
    rw [fd_pz_cf n Q j]
    by_cases h : j < n
    · rw [if_pos h, if_pos (by omega)]
    · rw [if_neg h, if_neg (by omega), show j + 1 - (n + 1) = j - n by omega]
theorem fd_pz_len : ∀ (n : Nat) (Q : List Nat), (fd_pz n Q).length = n + Q.length
  | 0, Q => by
    show Q.length = 0 + Q.length
    omega
  | n + 1, Q => by
    show (fd_pz n Q).length + 1 = _
    rw [fd_pz_len n Q]
    omega
/-- two lists place by place, zeros where one is shorter -/
def fd_hd : List Nat → Nat
  | [] => 0
  | x :: _ => x
def fd_tl : List Nat → List Nat
  | [] => []
  | _ :: t => t
def fd_z2 (f : Nat → Nat → Nat) : List Nat → List Nat → List Nat
  | [], B => B.map (f 0)
  | x :: A, B => f x (fd_hd B) :: fd_z2 f A (fd_tl B)
theorem fd_map_cf (f : Nat → Nat) (hf : f 0 = 0) : ∀ (L : List Nat) (i : Nat), fd_cf (L.map f) i = f (fd_cf L i)
  | [], i => by
    show fd_cf [] i = _
    rw [fd_cf_nil, hf]
  | x :: t, 0 => rfl
  | x :: t, i + 1 => fd_map_cf f hf t i
theorem fd_hd_cf (B : List Nat) : fd_hd B = fd_cf B 0 := by
  cases B <;> rfl
theorem fd_tl_cf (B : List Nat) (i : Nat) : fd_cf (fd_tl B) i = fd_cf B (i + 1) := by
  cases B with
  | nil =>
    show fd_cf [] i = fd_cf [] (i + 1)
    rw [fd_cf_nil, fd_cf_nil]
  | cons b B => rfl
theorem fd_tl_len (B : List Nat) : (fd_tl B).length = B.length - 1 := by
  cases B <;> rfl
theorem fd_z2_cf (f : Nat → Nat → Nat) (hf : f 0 0 = 0) : ∀ (A B : List Nat) (i : Nat), fd_cf (fd_z2 f A B) i = f (fd_cf A i) (fd_cf B i)
  | [], B, i => by
    show fd_cf (B.map (f 0)) i = _
    rw [fd_map_cf (f 0) hf, fd_cf_nil]
  | x :: A, B, 0 => by
    show f x (fd_hd B) = _
    rw [fd_hd_cf]
    rfl
  | x :: A, B, i + 1 => by
    show fd_cf (fd_z2 f A (fd_tl B)) i = _
    rw [fd_z2_cf f hf A (fd_tl B) i, fd_tl_cf]
    rfl
theorem fd_z2_len (f : Nat → Nat → Nat) : ∀ (A B : List Nat) (n : Nat), A.length ≤ n → B.length ≤ n → (fd_z2 f A B).length ≤ n
  | [], B, n, _, h => by
    show (B.map (f 0)).length ≤ n
    rw [List.length_map]
    exact h
  | x :: A, B, n, h, h2 => by
    simp only [List.length_cons] at h
    obtain ⟨k, e⟩ := Nat.exists_eq_succ_of_ne_zero (show n ≠ 0 by omega)
    have := fd_z2_len f A (fd_tl B) k (by omega) (by rw [fd_tl_len]; omega)
    show (fd_z2 f A (fd_tl B)).length + 1 ≤ n
    omega
/-- evaluation in order: a number, a list of numbers -/
def fd_nf {α : Type} (n : Nat) (f : Nat → α) : α := match n with
  | 0 => f 0
  | m + 1 => f (Nat.succ m)
theorem fd_nf_eq {α : Type} (n : Nat) (f : Nat → α) : fd_nf n f = f n := by
  cases n <;> rfl
def fd_lf {α : Type} : List Nat → (List Nat → α) → α
  | [], f => f []
  | x :: t, f => fd_nf x (fun y => fd_lf t (fun s => f (y :: s)))
theorem fd_lf_eq {α : Type} : ∀ (L : List Nat) (f : List Nat → α), fd_lf L f = f L
  | [], f => rfl
  | x :: t, f => by
    show fd_nf x (fun y => fd_lf t (fun s => f (y :: s))) = _
    rw [fd_nf_eq, fd_lf_eq t]
end
section
/-! the picture of the 26 slots; loops that write place by place -/
def fd_RR (M : Nat → List Nat) (a : Nat → Int64) : Prop := ∀ k, k < 26 → (M k).length ≤ 12 ∧ ∀ i, i < 12 → fd_tN (a (12 * k + i)) = fd_cf (M k) i
def fd_up (M : Nat → List Nat) (k : Nat) (L : List Nat) : Nat → List Nat := fun j => if j = k then L else M j
theorem fd_up_s {M : Nat → List Nat} {k : Nat} {L : List Nat} : fd_up M k L k = L := if_pos rfl
theorem fd_up_n {M : Nat → List Nat} {k j : Nat} {L : List Nat} (h : j ≠ k) : fd_up M k L j = M j := if_neg h
theorem fd_rd {M : Nat → List Nat} {a : Nat → Int64} (h : fd_RR M a) {k i : Nat} (hk : k < 26) (hi : i < 12) : fd_tN (a (12 * k + i)) = fd_cf (M k) i := (h k hk).2 i hi
theorem fd_ix (k i : Nat) : (12 : Int32) * nI k + nI i = nI (12 * k + i) := by
  show nI 12 * nI k + nI i = _
  rw [pk_mul, nI_add]
theorem fd_ixi {k i : Nat} (hk : k < 26) (hi : i < 12) : vp_in ((12 : Int32) * nI k + nI i) 312 := pk_in (12 * k + i) 312 (by omega) (fd_ix k i)
theorem fd_cx {k i : Nat} (hk : k < 26) (hi : i < 12) : ((12 : Int32) * nI k + nI i).toNatClampNeg = 12 * k + i := by
  rw [fd_ix, nI_clamp (by omega)]
/-- from a on, the places b .. b + n - 1 are written with G -/
def fd_lo (a s : Nat → Int64) (b n : Nat) (G : Nat → Nat) : Prop := (∀ i, i < n → fd_tN (s (b + i)) = G i) ∧ (∀ j, (j < b ∨ b + n ≤ j) → s j = a j)
theorem fd_lo_0 {a : Nat → Int64} {b : Nat} {G : Nat → Nat} : fd_lo a a b 0 G := ⟨fun i h => absurd h (by omega), fun _ _ => rfl⟩
theorem fd_lo_s {a s : Nat → Int64} {b n : Nat} {G : Nat → Nat} {x : Int64} (h : fd_lo a s b n G) (hx : fd_tN x = G n) : fd_lo a (vp_updL s (b + n) x) b (n + 1) G := by
  refine ⟨fun i hi => ?_, fun j hj => ?_⟩
  · by_cases e : i = n
    · rw [e, pk_uLs, hx]
    · rw [pk_uLn (by omega)]
      exact h.1 i (by omega)
  · rw [pk_uLn (by omega)]
    exact h.2 j (by omega)
theorem fd_wl {W : Nat → Nat → (Nat → Int64) → Prop} (a : Nat → Int64) (b e : Nat) (G : Nat → Nat)
    (hx : ∀ n s, fd_lo a s b e G → W (n + 1) e s)
    (hs : ∀ n i s, i < e → fd_lo a s b i G → (∀ x, fd_tN x = G i → W n (i + 1) (vp_updL s (b + i) x)) → W (n + 1) i s) : ∃ n, W n 0 a :=
  pk_loop W (fun i s => fd_lo a s b i G) e 0 a (by omega) fd_lo_0 hx (fun n i s hi h hw => hs n i s hi h (fun x ex => hw _ (fd_lo_s h ex)))
theorem fd_lo_RR {M : Nat → List Nat} {a s : Nat → Int64} {k : Nat} {G : Nat → Nat} {L : List Nat} (h : fd_RR M a) (hs : fd_lo a s (12 * k) 12 G) (hl : L.length ≤ 12) (hG : ∀ i, i < 12 → fd_cf L i = G i) : fd_RR (fd_up M k L) s := by
  intro q hq
  by_cases e : q = k
  · subst e
    rw [fd_up_s]
    refine ⟨hl, fun i hi => ?_⟩
    rw [hs.1 i hi, hG i hi]
  · rw [fd_up_n e]
    refine ⟨(h q hq).1, fun i hi => ?_⟩
    rw [hs.2 _ (by omega)]
    exact (h q hq).2 i hi
/-- part of a slot written -/
theorem fd_lo_RP {M : Nat → List Nat} {a s : Nat → Int64} {k i0 n : Nat} {G : Nat → Nat} {L : List Nat} (h : fd_RR M a) (hs : fd_lo a s (12 * k + i0) n G) (hn : i0 + n ≤ 12) (hl : L.length ≤ 12) (hG : ∀ i, i < 12 → fd_cf L i = if i0 ≤ i ∧ i < i0 + n then G (i - i0) else fd_cf (M k) i) : fd_RR (fd_up M k L) s := by
  intro q hq
  by_cases e : q = k
  · subst e
    rw [fd_up_s]
    refine ⟨hl, fun i hi => ?_⟩
    rw [hG i hi]
    by_cases c : i0 ≤ i ∧ i < i0 + n
    · rw [if_pos c, ← hs.1 (i - i0) (by omega), show 12 * q + i0 + (i - i0) = 12 * q + i by omega]
    · rw [if_neg c, hs.2 _ (by omega)]
      exact (h q hq).2 i hi
  · rw [fd_up_n e]
    refine ⟨(h q hq).1, fun i hi => ?_⟩
    rw [hs.2 _ (by omega)]
    exact (h q hq).2 i hi
/-- one place written -/
theorem fd_RR_po {M : Nat → List Nat} {a : Nat → Int64} {k i v : Nat} {x : Int64} {L : List Nat} (h : fd_RR M a) (hi : i < 12) (hx : fd_tN x = v) (hl : L.length ≤ 12) (hG : ∀ j, j < 12 → fd_cf L j = if j = i then v else fd_cf (M k) j) : fd_RR (fd_up M k L) (vp_updL a (12 * k + i) x) := by
  intro q hq
  by_cases e : q = k
  · subst e
    rw [fd_up_s]
    refine ⟨hl, fun j hj => ?_⟩
    rw [hG j hj]
    by_cases c : j = i
    · rw [if_pos c, c, pk_uLs, hx]
    · rw [if_neg c, pk_uLn (by omega)]
      exact (h q hq).2 j hj
  · rw [fd_up_n e]
    refine ⟨(h q hq).1, fun j hj => ?_⟩
    rw [pk_uLn (by omega)]
    exact (h q hq).2 j hj
theorem fd_RR_p {M : Nat → List Nat} {a : Nat → Int64} {k i v : Nat} {x : Int64} (h : fd_RR M a) (hk : k < 26) (hi : i < 12) (hx : fd_tN x = v) : fd_RR (fd_up M k (fd_po (M k) i v)) (vp_updL a (12 * k + i) x) :=
  fd_RR_po h hi hx (fd_po_12 (h k hk).1 hi) (fun j _ => fd_po_cf (M k) i v j)
/-- another list with the same coefficients -/
theorem fd_RR_c {M : Nat → List Nat} {a : Nat → Int64} {k : Nat} {L : List Nat} (h : fd_RR M a) (hl : L.length ≤ 12) (hG : ∀ j, j < 12 → fd_cf L j = fd_cf (M k) j) : fd_RR (fd_up M k L) a := by
  intro q hq
  by_cases e : q = k
  · subst e
    rw [fd_up_s]
    refine ⟨hl, fun j hj => ?_⟩
    rw [hG j hj]
    exact (h q hq).2 j hj
  · rw [fd_up_n e]
    exact h q hq
theorem fd_RR_e {M M' : Nat → List Nat} {a : Nat → Int64} (h : fd_RR M a) (e : ∀ k, k < 26 → M' k = M k) : fd_RR M' a := by
  intro q hq
  rw [e q hq]
  exact h q hq
/-- a degree as the code holds it: d coefficients, degree d - 1 -/
def fd_di (d : Nat) : Int32 := nI d + (-1)
theorem fd_di_0 : fd_di 0 = -1 := by decide
theorem fd_di_s (n : Nat) : fd_di (n + 1) = nI n := pk_m1 n
theorem fd_di_i {d : Nat} (h : d < 2 ^ 31) : (fd_di d).toInt = (d : Int) - 1 := by
  cases d with
  | zero => decide
  | succ n =>
    rw [fd_di_s, nI_toInt (by omega)]
    omega
theorem fd_di_lt0 {d : Nat} (h : d < 2 ^ 31) : fd_di d < 0 ↔ d = 0 := by
  rw [Int32.lt_iff_toInt_lt, fd_di_i h]
  show (d : Int) - 1 < 0 ↔ _
  omega
theorem fd_di_ge0 {d : Nat} (h : d < 2 ^ 31) : 0 ≤ fd_di d ↔ d ≠ 0 := by
  rw [Int32.le_iff_toInt_le, fd_di_i h]
  show (0 : Int) ≤ (d : Int) - 1 ↔ _
  omega
theorem fd_di_ge1 {d : Nat} (h : d < 2 ^ 31) : 1 ≤ fd_di d ↔ 2 ≤ d := by
  rw [Int32.le_iff_toInt_le, fd_di_i h]
  show (1 : Int) ≤ (d : Int) - 1 ↔ _
  omega
theorem fd_di_le5 {d : Nat} (h : d < 2 ^ 31) : fd_di d ≤ 5 ↔ d ≤ 6 := by
  rw [Int32.le_iff_toInt_le, fd_di_i h]
  show (d : Int) - 1 ≤ 5 ↔ _
  omega
theorem fd_di_le0 {d : Nat} (h : d < 2 ^ 31) : fd_di d ≤ 0 ↔ d ≤ 1 := by
  rw [Int32.le_iff_toInt_le, fd_di_i h]
  show (d : Int) - 1 ≤ 0 ↔ _
  omega
theorem fd_di_lt1 {d : Nat} (h : d < 2 ^ 31) : fd_di d < 1 ↔ d ≤ 1 := by
  rw [Int32.lt_iff_toInt_lt, fd_di_i h]
  show (d : Int) - 1 < 1 ↔ _
  omega
theorem fd_di_lt {d e : Nat} (h : d < 2 ^ 31) (he : e < 2 ^ 31) : fd_di d < fd_di e ↔ d < e := by
  rw [Int32.lt_iff_toInt_lt, fd_di_i h, fd_di_i he]
  omega
theorem fd_di_inj {d e : Nat} (h : d < 2 ^ 31) (he : e < 2 ^ 31) : fd_di d = fd_di e ↔ d = e := by
  constructor
  · intro z
    have := fd_di_i h
    rw [z, fd_di_i he] at this
    omega
  · intro z
    rw [z]
theorem fd_di_eq0 {d : Nat} (h : d < 2 ^ 31) : fd_di d = 0 ↔ d = 1 := by
  rw [← fd_di_inj h (by omega : 1 < 2 ^ 31)]
  exact Iff.rfl
/-- the difference of two degrees as a counter that ends below 0 -/
theorem fd_di_sub {d e : Nat} (h : e ≤ d) : fd_di d - fd_di e = fd_di (d + 1 - e) := by
  have e1 : d + 1 - e = (d - e) + 1 := by omega
  have e2 : nI d = nI (d - e) + nI e := by
    rw [nI_add]
    congr 1
    omega
  rw [e1, fd_di_s]
  unfold fd_di
  rw [e2]
  grind
theorem fd_di_subn {d e : Nat} (h : d < e) (he : e < 2 ^ 30) : fd_di d - fd_di e < 0 := by
  have : fd_di d - fd_di e = nI d - nI e := by
    unfold fd_di
    grind
  rw [this]
  exact pk_sneg he h
end
section
/-! the small methods -/
section
variable {fc lc dc : Int32} {mo pr : Int64} {a1 a3 : Nat → Int64} {a2 a4 a5 a6 : Nat → Int32} {M : Nat → List Nat}
theorem fd_copy {post : St2 → Prop} (h : fd_RR M a1) (t f : Nat) (ht : t < 26) (hf : f < 26) (H : ∀ s, fd_RR (fd_up M t (M f)) s → post (fc, mo, pr, lc, dc, s, a2, a3, a4, a5, a6)) :
    wpX_copy post (fc, mo, pr, lc, dc, a1, a2, a3, a4, a5, a6) (nI t) (nI f) :=
  fd_wl (W := fun n i s => wX_copy_2 post (nI t) (nI f) fc mo pr lc dc n (nI i) s a2 a3 a4 a5 a6) a1 (12 * t) 12 (fd_cf (M f))
    (fun n s hs => pk_le 12 12 (fun _ => H s (fd_lo_RR h hs (h f hf).1 (fun i _ => rfl))) (fun z => absurd z (by omega)))
    (fun n i s hi hs hw => pk_le 12 i (fun z => absurd z (by omega)) (fun _ => ⟨fd_ixi hf hi, fd_ixi ht hi,
      nm_r (by rw [fd_cx ht hi, fd_cx hf hi]) (nm_r (nI_1 i) (hw (s (12 * f + i)) (by rw [hs.2 _ (by omega)]; exact fd_rd h hf hi)))⟩))
theorem fd_clear {post : St2 → Prop} (h : fd_RR M a1) (t : Nat) (ht : t < 26) (H : ∀ s, fd_RR (fd_up M t []) s → post (fc, mo, pr, lc, dc, s, a2, a3, a4, a5, a6)) :
    wpX_clear post (fc, mo, pr, lc, dc, a1, a2, a3, a4, a5, a6) (nI t) :=
  fd_wl (W := fun n i s => wX_clear_2 post (nI t) fc mo pr lc dc n (nI i) s a2 a3 a4 a5 a6) a1 (12 * t) 12 (fun _ => 0)
    (fun n s hs => pk_le 12 12 (fun _ => H s (fd_lo_RR h hs (by simp) (fun i _ => fd_cf_nil i))) (fun z => absurd z (by omega)))
    (fun n i s hi hs hw => pk_le 12 i (fun z => absurd z (by omega)) (fun _ => ⟨fd_ixi ht hi,
      nm_r (by rw [fd_cx ht hi]) (nm_r (nI_1 i) (hw 0 fd_tN0))⟩))
theorem fd_degreeOf {post : Int32 → Prop} (h : fd_RR M a1) (k : Nat) (hk : k < 26) (H : post (fd_di (fd_ln (M k)))) :
    wpX_degreeOf post (fc, mo, pr, lc, dc, a1, a2, a3, a4, a5, a6) (nI k) := by
  have key : ∀ j, j ≤ 12 → fd_ln (M k) ≤ j → wX_degreeOf_3 post (nI k) fc mo pr lc dc a1 a2 a3 a4 a5 a6 (j + 1) (fd_di j) := by
    intro j
    induction j with
    | zero =>
      intro _ hl
      have e : fd_ln (M k) = 0 := by omega
      rw [e] at H
      exact br_t (by decide) H
    | succ j ih =>
      intro hj hl
      rw [fd_di_s]
      refine br_f (nI_pos (by omega)) ⟨fd_ixi hk (by omega), ?_⟩
      rw [fd_cx hk (by omega)]
      by_cases e : fd_ln (M k) = j + 1
      · refine br_f ?_ ?_
        · rw [fd_eq0, fd_rd h hk (by omega)]
          exact fd_ln_top _ _ e
        · rw [e, fd_di_s] at H
          exact H
      · refine br_t ?_ (nm_e (ih (by omega) (by omega)))
        rw [fd_eq0, fd_rd h hk (by omega)]
        exact fd_ln_out _ _ (by omega)
  exact ⟨13, key 12 (by omega) (Nat.le_trans (fd_ln_le _) (h k hk).1)⟩
theorem fd_ln12 (h : fd_RR M a1) {k : Nat} (hk : k < 26) : fd_ln (M k) ≤ 12 := Nat.le_trans (fd_ln_le _) (h k hk).1
theorem fd_leadOf {post : Int64 → Prop} (h : fd_RR M a1) (k : Nat) (hk : k < 26) (H : ∀ r, fd_tN r = fd_ld (M k) → post r) :
    wpX_leadOf post (fc, mo, pr, lc, dc, a1, a2, a3, a4, a5, a6) (nI k) := by
  have hl := fd_ln12 h hk
  refine fd_degreeOf h k hk ?_
  cases e : fd_ln (M k) with
  | zero => exact br_f (by decide) (H 0 (by rw [fd_tN0, fd_ld_0 e]))
  | succ n =>
    rw [fd_di_s]
    refine br_t (nI_pos' (by omega)) ⟨fd_ixi hk (by omega), H _ ?_⟩
    rw [fd_cx hk (by omega), fd_rd h hk (by omega), fd_ld_s e]
theorem fd_restW {post : Int64 → Prop} {x : Int64} (hm : fd_tN mo ≠ 0) (H : ∀ r, fd_tN r = fd_rest (fd_tN mo) (fd_tN x) → post r) :
    wpX_rest post (fc, mo, pr, lc, dc, a1, a2, a3, a4, a5, a6) x := by
  refine ⟨fun z => hm (fd_eq0.mp z), nm_e (br_c (fun z => H _ ?_) (fun z => H _ ?_))⟩
  · rw [fd_ge0, fd_tN_rem] at z
    rw [fd_tN_rem, fd_rest_eq, if_pos z]
  · rw [fd_ge0, fd_tN_rem] at z
    rw [fd_tN_add, fd_tN_rem, fd_rest_eq, if_neg z]
theorem fd_reduce {post : St2 → Prop} (h : fd_RR M a1) (hm : fd_tN mo ≠ 0) (t : Nat) (ht : t < 26) (H : ∀ s, fd_RR (fd_up M t ((M t).map (fd_rest (fd_tN mo)))) s → post (fc, mo, pr, lc, dc, s, a2, a3, a4, a5, a6)) :
    wpX_reduce post (fc, mo, pr, lc, dc, a1, a2, a3, a4, a5, a6) (nI t) :=
  fd_wl (W := fun n i s => wX_reduce_2 post (nI t) fc mo pr lc dc n (nI i) s a2 a3 a4 a5 a6) a1 (12 * t) 12 (fun i => fd_rest (fd_tN mo) (fd_cf (M t) i))
    (fun n s hs => pk_le 12 12 (fun _ => H s (fd_lo_RR h hs (by rw [List.length_map]; exact (h t ht).1) (fun i _ => fd_map_cf _ (fd_rest_0 _) _ i))) (fun z => absurd z (by omega)))
    (fun n i s hi hs hw => pk_le 12 i (fun z => absurd z (by omega)) (fun _ => ⟨fd_ixi ht hi,
      fd_restW hm (fun r hr => ⟨fd_ixi ht hi, nm_r (by rw [fd_cx ht hi]) (nm_r (nI_1 i) (hw r (by rw [hr, fd_cx ht hi, hs.2 _ (by omega), fd_rd h ht hi])))⟩)⟩))
theorem fd_scale {post : St2 → Prop} (h : fd_RR M a1) (hm : fd_tN mo ≠ 0) (t : Nat) (y : Int64) (ht : t < 26) (H : ∀ s, fd_RR (fd_up M t ((M t).map (fun x => fd_rest (fd_tN mo) (fd_mul x (fd_tN y))))) s → post (fc, mo, pr, lc, dc, s, a2, a3, a4, a5, a6)) :
    wpX_scale post (fc, mo, pr, lc, dc, a1, a2, a3, a4, a5, a6) (nI t) y :=
  fd_wl (W := fun n i s => wX_scale_3 post (nI t) y fc mo pr lc dc n (nI i) s a2 a3 a4 a5 a6) a1 (12 * t) 12 (fun i => fd_rest (fd_tN mo) (fd_mul (fd_cf (M t) i) (fd_tN y)))
    (fun n s hs => pk_le 12 12 (fun _ => H s (fd_lo_RR h hs (by rw [List.length_map]; exact (h t ht).1) (fun i _ => fd_map_cf (fun x => fd_rest (fd_tN mo) (fd_mul x (fd_tN y))) (by rw [fd_mul_0, fd_rest_0]) _ i))) (fun z => absurd z (by omega)))
    (fun n i s hi hs hw => pk_le 12 i (fun z => absurd z (by omega)) (fun _ => ⟨fd_ixi ht hi,
      fd_restW hm (fun r hr => ⟨fd_ixi ht hi, nm_r (by rw [fd_cx ht hi]) (nm_r (nI_1 i) (hw r (by rw [hr, fd_tN_mul, fd_cx ht hi, hs.2 _ (by omega), fd_rd h ht hi])))⟩)⟩))
/-- center: the modulus is not below 0 -/
def fd_cen (m x : Nat) : Nat := cond (Nat.ble (fd_sh (fd_mul 2 x)) (fd_sh m)) x (fd_sub x m)
theorem fd_cen_0 {m : Nat} (hm : m < 9223372036854775808) : fd_cen m 0 = 0 := by
  unfold fd_cen
  rw [fd_mul_0', fd_ble_t (by rw [fd_sh_eq, fd_sh_eq]; omega)]
  rfl
theorem fd_tN2 : fd_tN 2 = 2 := by decide
theorem fd_center {post : St2 → Prop} (h : fd_RR M a1) (hm : fd_tN mo < 9223372036854775808) (t : Nat) (ht : t < 26) (H : ∀ s, fd_RR (fd_up M t ((M t).map (fd_cen (fd_tN mo)))) s → post (fc, mo, pr, lc, dc, s, a2, a3, a4, a5, a6)) :
    wpX_center post (fc, mo, pr, lc, dc, a1, a2, a3, a4, a5, a6) (nI t) := by
  refine fd_wl (W := fun n i s => wX_center_2 post (nI t) fc mo pr lc dc n (nI i) s a2 a3 a4 a5 a6) a1 (12 * t) 12 (fun i => fd_cen (fd_tN mo) (fd_cf (M t) i))
    (fun n s hs => pk_le 12 12 (fun _ => H s (fd_lo_RR h hs (by rw [List.length_map]; exact (h t ht).1) (fun i _ => fd_map_cf _ (fd_cen_0 hm) _ i))) (fun z => absurd z (by omega)))
    (fun n i s hi hs hw => pk_le 12 i (fun z => absurd z (by omega)) (fun _ => ⟨fd_ixi ht hi, ?_⟩))
  have e : fd_tN (s (12 * t + i)) = fd_cf (M t) i := by
    rw [hs.2 _ (by omega)]
    exact fd_rd h ht hi
  rw [fd_cx ht hi]
  refine br_c (fun z => nm_r (nI_1 i) ?_) (fun z => ⟨fd_ixi ht hi, fd_ixi ht hi, nm_e (nm_r (nI_1 i) (hw _ ?_))⟩)
  · have t1 := hw (s (12 * t + i)) (by
      rw [fd_le, fd_tN_mul, fd_tN2, e] at z
      unfold fd_cen
      rw [fd_ble_t z, e]
      rfl)
    have t2 : vp_updL s (12 * t + i) (s (12 * t + i)) = s := by
      funext j
      by_cases c : j = 12 * t + i
      · rw [c, pk_uLs]
      · rw [pk_uLn c]
    rw [t2] at t1
    exact t1
  · rw [fd_le, fd_tN_mul, fd_tN2, e] at z
    rw [fd_tN_sub, e]
    unfold fd_cen
    rw [fd_ble_f (by omega)]
    rfl
/-- the derivative -/
def fd_der : Nat → List Nat → List Nat
  | _, [] => []
  | k, x :: t => fd_mul k x :: fd_der (Nat.succ k) t
theorem fd_der_cf : ∀ (L : List Nat) (k i : Nat), fd_cf (fd_der k L) i = fd_mul (k + i) (fd_cf L i)
  | [], k, i => by
    show fd_cf [] i = _
    rw [fd_cf_nil, fd_mul_0']
  | x :: t, k, 0 => rfl
  | x :: t, k, i + 1 => by
    show fd_cf (fd_der (k + 1) t) i = _
    rw [fd_der_cf t (k + 1) i, show k + 1 + i = k + (i + 1) by omega]
    rfl
theorem fd_der_len : ∀ (L : List Nat) (k : Nat), (fd_der k L).length = L.length
  | [], k => rfl
  | x :: t, k => by
    show (fd_der (k + 1) t).length + 1 = _
    rw [fd_der_len t (k + 1)]
    rfl
theorem fd_deriveInto {post : St2 → Prop} (h : fd_RR M a1) (t f : Nat) (ht : t < 26) (hf : f < 26) (hne : f ≠ t) (H : ∀ s, fd_RR (fd_up M t (fd_der 1 (fd_tl (M f)))) s → post (fc, mo, pr, lc, dc, s, a2, a3, a4, a5, a6)) :
    wpX_deriveInto post (fc, mo, pr, lc, dc, a1, a2, a3, a4, a5, a6) (nI t) (nI f) := by
  have hl := (h f hf).1
  refine fd_wl (W := fun n i s => wX_deriveInto_2 post (nI t) (nI f) fc mo pr lc dc n (nI i) s a2 a3 a4 a5 a6) a1 (12 * t) 11 (fun i => fd_mul (1 + i) (fd_cf (M f) (i + 1))) ?_ ?_
  · intro n s hs
    have e : (12 : Int32) * nI t + 12 - 1 = nI (12 * t + 11) := by
      show nI 12 * nI t + nI 12 - 1 = _
      rw [pk_mul, nI_add]
      exact nI_pred (12 * t + 11)
    have e2 : ((12 : Int32) * nI t + 12 - 1).toNatClampNeg = 12 * t + 11 := by
      rw [e, nI_clamp (by omega)]
    refine pk_le 11 11 (fun _ => ⟨pk_in (12 * t + 11) 312 (by omega) e, nm_r (by rw [e2]) (H _ ?_)⟩) (fun z => absurd z (by omega))
    refine fd_lo_RR h (fd_lo_s hs (x := 0) ?_) (by rw [fd_der_len, fd_tl_len]; omega) (fun i hi => ?_)
    · rw [fd_tN0, fd_cf_big _ (11 + 1) hl, fd_mul_0']
    · rw [fd_der_cf, fd_tl_cf]
  · intro n i s hi hs hw
    have e : (12 : Int32) * nI f + nI i + 1 = nI (12 * f + (i + 1)) := by
      rw [fd_ix, nI_1]
      rfl
    have e2 : ((12 : Int32) * nI f + nI i + 1).toNatClampNeg = 12 * f + (i + 1) := by
      rw [e, nI_clamp (by omega)]
    refine pk_le 11 i (fun z => absurd z (by omega)) (fun _ => ⟨pk_in (12 * f + (i + 1)) 312 (by omega) e, fd_ixi ht (by omega), nm_r (by rw [fd_cx ht (by omega), e2]) (nm_r (nI_1 i) (hw _ ?_))⟩)
    rw [fd_tN_mul, hs.2 _ (by omega), fd_rd h hf (by omega), nI_1, nI_l (by omega), fd_tN_lN (by omega), Nat.add_comm i 1]
end
end
section
/-! common divisors, inverses, products, quotients -/
def fd_abs (a : Nat) : Nat := cond (Nat.ble 9223372036854775808 a) (fd_neg a) a
theorem fd_abs_lt {a : Nat} (h : a ≠ 9223372036854775808) (ha : a < 18446744073709551616) : fd_abs a < 9223372036854775808 := by
  unfold fd_abs
  by_cases c : 9223372036854775808 ≤ a
  · rw [fd_ble_t c]
    show fd_neg a < _
    rw [fd_neg_eq]
    omega
  · rw [fd_ble_f (by omega)]
    show a < _
    omega
theorem fd_abs_n {a : Nat} (h : a < 9223372036854775808) : fd_abs a = a := by
  unfold fd_abs
  rw [fd_ble_f h]
  rfl
theorem fd_rem_n {a b : Nat} (ha : a < 9223372036854775808) (hb : b < 9223372036854775808) : fd_rem a b = a % b := by
  unfold fd_rem
  rw [fd_ble_f ha, fd_ble_f hb]
  rfl
theorem fd_gcd_lt {a b n : Nat} (ha : a < n) (hb : b < n) : Nat.gcd a b < n := by
  rcases Nat.eq_zero_or_pos a with h | h
  · rw [h, Nat.gcd_zero_left]
    exact hb
  · exact Nat.lt_of_le_of_lt (Nat.gcd_le_left b h) ha
section
variable {fc lc dc : Int32} {mo pr : Int64} {a1 a3 : Nat → Int64} {a2 a4 a5 a6 : Nat → Int32} {M : Nat → List Nat}
theorem fd_cd28 {post : Int64 → Prop} : ∀ (x y : Nat), x < 9223372036854775808 → y < 9223372036854775808 → ∀ X Y : Int64, fd_tN X = x → fd_tN Y = y → (∀ r, fd_tN r = Nat.gcd x y → post r) →
    ∃ n, wX_commonDivisor_28 post fc mo pr lc dc a1 a2 a3 a4 a5 a6 n X Y := by
  intro x
  induction x using Nat.strongRecOn with
  | _ x ih =>
    intro y hx hy X Y eX eY H
    by_cases c : x = 0
    · refine ⟨1, br_t (fd_eq0.mpr (by rw [eX, c])) (H Y ?_)⟩
      rw [c, Nat.gcd_zero_left, eY]
    · have h1 : y % x < x := Nat.mod_lt _ (Nat.pos_of_ne_zero c)
      have hX : ¬ X = 0 := fun z => c (by rw [← eX]; exact fd_eq0.mp z)
      obtain ⟨n, hn⟩ := ih (y % x) h1 x (by omega) hx (Y - Y / X * X) X (by rw [fd_tN_rem, eX, eY, fd_rem_n hy hx]) eX (fun r hr => H r (by rw [hr, Nat.gcd_rec x y]))
      exact ⟨n + 1, br_f hX ⟨hX, nm_e hn⟩⟩
theorem fd_cd {post : Int64 → Prop} {x y : Int64} (hx : fd_tN x ≠ 9223372036854775808) (hy : fd_tN y ≠ 9223372036854775808) (H : ∀ r, fd_tN r = Nat.gcd (fd_abs (fd_tN x)) (fd_abs (fd_tN y)) → post r) :
    wpX_commonDivisor post (fc, mo, pr, lc, dc, a1, a2, a3, a4, a5, a6) x y := by
  have lx := fd_abs_lt hx (fd_tN_lt x)
  have ly := fd_abs_lt hy (fd_tN_lt y)
  have key : ∀ z : Int64, fd_tN z = fd_abs (fd_tN x) → wX_commonDivisor_12 post y z fc mo pr lc dc a1 a2 a3 a4 a5 a6 := by
    intro z ez
    refine br_c (fun c => fd_cd28 _ _ lx ly z y ez ?_ H) (fun c => nm_e (fd_cd28 _ _ lx ly z (-y) ez ?_ H))
    · rw [fd_ge0] at c
      rw [fd_abs_n c]
    · rw [fd_ge0] at c
      rw [fd_tN_neg]
      unfold fd_abs
      rw [fd_ble_t (by omega)]
      rfl
  refine br_c (fun c => key x ?_) (fun c => key (-x) ?_)
  · rw [fd_ge0] at c
    rw [fd_abs_n c]
  · rw [fd_ge0] at c
    rw [fd_tN_neg]
    unfold fd_abs
    rw [fd_ble_t (by omega)]
    rfl
end
/-- the content: the greatest common divisor of the coefficients -/
def fd_gc : Nat → List Nat → Nat
  | g, [] => g
  | g, c :: t => fd_gc (Nat.gcd g (fd_abs c)) t
/-- no coefficient is the least number -/
def fd_okc : List Nat → Bool
  | [] => true
  | c :: t => cond (Nat.beq c 9223372036854775808) false (fd_okc t)
theorem fd_okc_cf : ∀ (L : List Nat) (i : Nat), fd_okc L = true → fd_cf L i ≠ 9223372036854775808
  | [], i, _ => by
    rw [fd_cf_nil]
    omega
  | c :: t, i, h => by
    by_cases e : c = 9223372036854775808
    · exfalso
      have h' : cond (Nat.beq c 9223372036854775808) false (fd_okc t) = true := h
      rw [fd_beq_t e] at h'
      exact absurd h' (by simp)
    · have h' : cond (Nat.beq c 9223372036854775808) false (fd_okc t) = true := h
      rw [fd_beq_f e] at h'
      cases i with
      | zero => exact e
      | succ i => exact fd_okc_cf t i h'
theorem fd_gc_drop : ∀ (L : List Nat) (i g : Nat), fd_gc g (L.drop i) = fd_gc (Nat.gcd g (fd_abs (fd_cf L i))) (L.drop (i + 1))
  | [], i, g => by
    rw [fd_cf_nil, List.drop_nil, List.drop_nil]
    show g = Nat.gcd g 0
    rw [Nat.gcd_zero_right]
  | c :: t, 0, g => rfl
  | c :: t, i + 1, g => fd_gc_drop t i g
section
variable {fc lc dc : Int32} {mo pr : Int64} {a1 a3 : Nat → Int64} {a2 a4 a5 a6 : Nat → Int32} {M : Nat → List Nat}
theorem fd_contentOf {post : Int64 → Prop} (h : fd_RR M a1) (k : Nat) (hk : k < 26) (ho : fd_okc (M k) = true) (H : ∀ r, fd_tN r = fd_gc 0 (M k) → fd_tN r < 9223372036854775808 → post r) :
    wpX_contentOf post (fc, mo, pr, lc, dc, a1, a2, a3, a4, a5, a6) (nI k) := by
  refine pk_loop (fun n i s => wX_contentOf_5 post (nI k) fc mo pr lc dc a1 a2 a3 a4 a5 a6 n s (nI i)) (fun i s => fd_tN s < 9223372036854775808 ∧ fd_gc (fd_tN s) ((M k).drop i) = fd_gc 0 (M k)) 12 0 0 (by omega) ⟨by rw [fd_tN0]; omega, by rw [fd_tN0]; rfl⟩ ?_ ?_
  · intro n s hs
    refine pk_le 12 12 (fun _ => H s ?_ hs.1) (fun z => absurd z (by omega))
    rw [← hs.2, List.drop_eq_nil_of_le (h k hk).1]
    rfl
  · intro n i s hi hs hw
    refine pk_le 12 i (fun z => absurd z (by omega)) (fun _ => ⟨fd_ixi hk hi, ?_⟩)
    have hc := fd_okc_cf (M k) i ho
    refine fd_cd (by have := hs.1; omega) ?_ (fun r hr => nm_r (nI_1 i) (hw r ?_))
    · rw [fd_cx hk hi, fd_rd h hk hi]
      exact hc
    · rw [fd_cx hk hi, fd_rd h hk hi, fd_abs_n hs.1] at hr
      rw [hr]
      refine ⟨fd_gcd_lt hs.1 (fd_abs_lt hc ?_), ?_⟩
      · rw [← fd_rd h hk hi]
        exact fd_tN_lt _
      · rw [← hs.2, fd_gc_drop (M k) i]
end
/-- without the content, the leading coefficient above 0 -/
def fd_mp (L : List Nat) : List Nat := match fd_gc 0 L with
  | 0 => L
  | n + 1 => fd_nf (cond (Nat.ble 9223372036854775808 (fd_ld L)) (fd_neg (Nat.succ n)) (Nat.succ n)) (fun d => L.map (fun x => fd_div x d))
theorem fd_mp_0 {L : List Nat} (h : fd_gc 0 L = 0) : fd_mp L = L := by
  unfold fd_mp
  rw [h]
theorem fd_mp_s {L : List Nat} {g : Nat} (h : fd_gc 0 L = g) (hg : g ≠ 0) : fd_mp L = L.map (fun x => fd_div x (cond (Nat.ble 9223372036854775808 (fd_ld L)) (fd_neg g) g)) := by
  obtain ⟨n, e⟩ := Nat.exists_eq_succ_of_ne_zero hg
  unfold fd_mp
  rw [h, e]
  show fd_nf _ _ = _
  rw [fd_nf_eq]
theorem fd_mp_len (L : List Nat) : (fd_mp L).length = L.length := by
  by_cases h : fd_gc 0 L = 0
  · rw [fd_mp_0 h]
  · rw [fd_mp_s rfl h, List.length_map]
section
variable {fc lc dc : Int32} {mo pr : Int64} {a1 a3 : Nat → Int64} {a2 a4 a5 a6 : Nat → Int32} {M : Nat → List Nat}
theorem fd_mp29 {post : St2 → Prop} (h : fd_RR M a1) (k : Nat) (hk : k < 26) (y : Int64) (hy : ¬ y = 0) (H : ∀ s, fd_RR (fd_up M k ((M k).map (fun x => fd_div x (fd_tN y)))) s → post (fc, mo, pr, lc, dc, s, a2, a3, a4, a5, a6)) :
    ∃ n, wX_makePrimitive_29 post (nI k) y fc mo pr lc dc n 0 a1 a2 a3 a4 a5 a6 :=
  fd_wl (W := fun n i s => wX_makePrimitive_29 post (nI k) y fc mo pr lc dc n (nI i) s a2 a3 a4 a5 a6) a1 (12 * k) 12 (fun i => fd_div (fd_cf (M k) i) (fd_tN y))
    (fun n s hs => pk_le 12 12 (fun _ => H s (fd_lo_RR h hs (by rw [List.length_map]; exact (h k hk).1) (fun i _ => fd_map_cf (fun x => fd_div x (fd_tN y)) (fd_div_0 _) _ i))) (fun z => absurd z (by omega)))
    (fun n i s hi hs hw => pk_le 12 i (fun z => absurd z (by omega)) (fun _ => ⟨fd_ixi hk hi, hy, fd_ixi hk hi,
      nm_r (by rw [fd_cx hk hi]) (nm_r (nI_1 i) (hw _ (by rw [fd_tN_div, hs.2 _ (by omega), fd_rd h hk hi])))⟩))
theorem fd_makePrimitive {post : St2 → Prop} (h : fd_RR M a1) (k : Nat) (hk : k < 26) (ho : fd_okc (M k) = true) (H : ∀ s, fd_RR (fd_up M k (fd_mp (M k))) s → post (fc, mo, pr, lc, dc, s, a2, a3, a4, a5, a6)) :
    wpX_makePrimitive post (fc, mo, pr, lc, dc, a1, a2, a3, a4, a5, a6) (nI k) := by
  refine fd_contentOf h k hk ho (fun r hr hr2 => br_c (fun z => H a1 ?_) (fun z => ?_))
  · have e : fd_gc 0 (M k) = 0 := by
      rw [← hr]
      exact fd_eq0.mp z
    rw [fd_mp_0 e]
    exact fd_RR_c h (h k hk).1 (fun j _ => rfl)
  · have hg : fd_gc 0 (M k) ≠ 0 := by
      rw [← hr]
      exact fun z' => z (fd_eq0.mpr z')
    refine fd_leadOf h k hk (fun d hd => br_c (fun c => fd_mp29 h k hk r z (fun s hs => H s ?_)) (fun c => nm_e (fd_mp29 h k hk (-r) ?_ (fun s hs => H s ?_))))
    · rw [fd_ge0, hd] at c
      rw [fd_mp_s rfl hg, fd_ble_f c, ← hr]
      exact hs
    · intro z'
      have := fd_tN_neg r
      rw [z', fd_tN0, fd_neg_eq] at this
      have h3 : fd_tN r ≠ 0 := fun z'' => z (fd_eq0.mpr z'')
      omega
    · rw [fd_ge0, hd] at c
      rw [fd_mp_s rfl hg, fd_ble_t (by omega), ← hr]
      rw [fd_tN_neg] at hs
      exact hs
end
/-- the inverse modulo p: the couples of Euclid -/
def fd_iv : Nat → Nat → Nat → Nat → Nat → Option Nat
  | 0, _, _, _, _ => none
  | n + 1, a, b, s, t => match b with
    | 0 => some s
    | k + 1 => fd_nf (fd_div a (Nat.succ k)) (fun q => fd_nf (fd_sub a (fd_mul q (Nat.succ k))) (fun b' => fd_nf (fd_sub s (fd_mul q t)) (fun t' => fd_iv n (Nat.succ k) b' t t')))
def fd_inv (p x : Nat) : Option Nat := match fd_iv 64 p (fd_rem x p) 0 1 with
  | none => none
  | some s => some (cond (Nat.ble 9223372036854775808 s) (fd_add s p) s)
section
variable {fc lc dc : Int32} {mo pr : Int64} {a1 a3 : Nat → Int64} {a2 a4 a5 a6 : Nat → Int32} {M : Nat → List Nat}
theorem fd_iv19 {post : Int64 → Prop} : ∀ (n : Nat) (A B S T : Int64) (y : Nat), fd_iv n (fd_tN A) (fd_tN B) (fd_tN S) (fd_tN T) = some y →
    (∀ r, fd_tN r = cond (Nat.ble 9223372036854775808 y) (fd_add y (fd_tN pr)) y → post r) → wX_inverse_19 post fc mo pr lc dc a1 a2 a3 a4 a5 a6 n A B S T := by
  intro n
  induction n with
  | zero => intro A B S T y h; exact absurd h (by simp [fd_iv])
  | succ n ih =>
    intro A B S T y h H
    by_cases c : B = 0
    · refine br_t c ?_
      have e : fd_tN B = 0 := fd_eq0.mp c
      rw [e] at h
      have e2 : fd_tN S = y := Option.some.inj h
      refine br_c (fun z => H S ?_) (fun z => H _ ?_)
      · rw [fd_ge0, e2] at z
        rw [fd_ble_f z]
        exact e2
      · rw [fd_ge0, e2] at z
        rw [fd_ble_t (by omega), fd_tN_add, e2]
        rfl
    · refine br_f c ⟨c, nm_e (nm_e (nm_e (ih _ _ _ _ y ?_ H)))⟩
      obtain ⟨k, e⟩ := Nat.exists_eq_succ_of_ne_zero (show fd_tN B ≠ 0 from fun z => c (fd_eq0.mpr z))
      rw [fd_tN_sub, fd_tN_mul, fd_tN_div, fd_tN_sub, fd_tN_mul, fd_tN_div, e]
      rw [e] at h
      have h' : fd_nf (fd_div (fd_tN A) (Nat.succ k)) (fun q => fd_nf (fd_sub (fd_tN A) (fd_mul q (Nat.succ k))) (fun b' => fd_nf (fd_sub (fd_tN S) (fd_mul q (fd_tN T))) (fun t' => fd_iv n (Nat.succ k) b' (fd_tN T) t'))) = some y := h
      rw [fd_nf_eq, fd_nf_eq, fd_nf_eq] at h'
      exact h'
theorem fd_inverse {post : Int64 → Prop} {x : Int64} {y : Nat} (hp : fd_tN pr ≠ 0) (h : fd_inv (fd_tN pr) (fd_tN x) = some y) (H : ∀ r, fd_tN r = y → post r) :
    wpX_inverse post (fc, mo, pr, lc, dc, a1, a2, a3, a4, a5, a6) x := by
  refine ⟨fun z => hp (fd_eq0.mp z), nm_e ⟨64, ?_⟩⟩
  unfold fd_inv at h
  cases e : fd_iv 64 (fd_tN pr) (fd_rem (fd_tN x) (fd_tN pr)) 0 1 with
  | none =>
    rw [e] at h
    exact absurd h (by simp)
  | some s =>
    rw [e] at h
    have h' := Option.some.inj h
    refine fd_iv19 64 _ _ _ _ s ?_ (fun r hr => H r (by rw [hr]; exact h'))
    rw [fd_tN_rem, fd_tN0, fd_tN1]
    exact e
/-- leading coefficient 1 -/
def fd_mo (m p : Nat) (L : List Nat) : Option (List Nat) := match fd_ld L with
  | 0 => some L
  | n + 1 => match fd_inv p (Nat.succ n) with
    | none => none
    | some y => some (L.map (fun x => fd_rest m (fd_mul x y)))
theorem fd_makeMonic {post : St2 → Prop} (h : fd_RR M a1) (hm : fd_tN mo ≠ 0) (hp : fd_tN pr ≠ 0) (k : Nat) (hk : k < 26) {R : List Nat} (hR : fd_mo (fd_tN mo) (fd_tN pr) (M k) = some R) (H : ∀ s, fd_RR (fd_up M k R) s → post (fc, mo, pr, lc, dc, s, a2, a3, a4, a5, a6)) :
    wpX_makeMonic post (fc, mo, pr, lc, dc, a1, a2, a3, a4, a5, a6) (nI k) := by
  unfold wpX_makeMonic
  dsimp only
  refine fd_leadOf h k hk (fun r hr => br_c (fun z => ?_) (fun z => ?_))
  · have e : fd_ld (M k) = 0 := by
      rw [← hr]
      exact fd_eq0.mp z
    unfold fd_mo at hR
    rw [e] at hR
    have e2 : M k = R := Option.some.inj hR
    exact H a1 (fd_RR_c h (e2 ▸ (h k hk).1) (fun j _ => by rw [e2]))
  · obtain ⟨n, e⟩ := Nat.exists_eq_succ_of_ne_zero (show fd_ld (M k) ≠ 0 from fun z' => z (fd_eq0.mpr (by rw [hr, z'])))
    unfold fd_mo at hR
    rw [e] at hR
    cases e2 : fd_inv (fd_tN pr) (Nat.succ n) with
    | none =>
      have hR' : (match fd_inv (fd_tN pr) (Nat.succ n) with
        | none => none
        | some y => some ((M k).map (fun x => fd_rest (fd_tN mo) (fd_mul x y)))) = some R := hR
      rw [e2] at hR'
      exact absurd hR' (by simp)
    | some y =>
      have hR' : (match fd_inv (fd_tN pr) (Nat.succ n) with
        | none => none
        | some y => some ((M k).map (fun x => fd_rest (fd_tN mo) (fd_mul x y)))) = some R := hR
      rw [e2] at hR'
      have e3 := Option.some.inj hR'
      refine fd_inverse hp (y := y) (by rw [hr, e]; exact e2) (fun v hv => fd_scale h hm k v hk (fun s hs => H s ?_))
      rw [hv] at hs
      rw [← e3]
      exact hs
end
end
section
/-! quotient and rest, modulo and whole; products modulo -/
theorem fd_up_up (M : Nat → List Nat) (k : Nat) (X Y : List Nat) : fd_up (fd_up M k X) k Y = fd_up M k Y := by
  funext j
  by_cases c : j = k
  · rw [c, fd_up_s, fd_up_s]
  · rw [fd_up_n c, fd_up_n c, fd_up_n c]
theorem fd_up_cm (M : Nat → List Nat) {k l : Nat} (X Y : List Nat) (h : k ≠ l) : fd_up (fd_up M k X) l Y = fd_up (fd_up M l Y) k X := by
  funext j
  by_cases c : j = k
  · rw [c, fd_up_n h, fd_up_s, fd_up_s]
  · rw [fd_up_n c]
    by_cases d : j = l
    · rw [d, fd_up_s, fd_up_s]
    · rw [fd_up_n d, fd_up_n d, fd_up_n c]
theorem fd_ix10 (i k : Nat) : (120 : Int32) + nI i + nI k = nI (12 * 10 + i + k) := by
  show nI 120 + nI i + nI k = _
  rw [nI_add, nI_add]
theorem fd_ix9 (i : Nat) : (108 : Int32) + nI i = nI (12 * 9 + i) := by
  show nI 108 + nI i = _
  rw [nI_add]
/-- the loop of divideModulo -/
def fd_dl (m y d : Nat) (B : List Nat) : Nat → List Nat → List Nat → List Nat × List Nat
  | 0, R, Q => (Q, R)
  | i + 1, R, Q => fd_nf (fd_rem (fd_mul (fd_cf R (Nat.add i d)) y) m) (fun q =>
      fd_lf (fd_sa (fun r b => fd_rest m (fd_sub r (fd_rem (fd_mul q b) m))) B i R) (fun R' => fd_dl m y d B i R' (q :: Q)))
def fd_dm (m p : Nat) (A B : List Nat) : Option (List Nat × List Nat) :=
  match fd_tr B with
  | [] => none
  | b :: B' => match fd_inv p (fd_ld B) with
    | none => none
    | some y => match fd_dl m y B'.length (b :: B') (Nat.sub (fd_ln A) B'.length) A [] with
      | (Q, R) => some (Q, fd_tr R)
section
variable {fc lc dc : Int32} {mo pr : Int64} {a1 a3 : Nat → Int64} {a2 a4 a5 a6 : Nat → Int32} {M : Nat → List Nat}
theorem fd_dm88 {post : St2 → Prop} {J : Int32 → (Nat → Int64) → (Nat → Int32) → (Nat → Int64) → (Nat → Int32) → (Nat → Int32) → (Nat → Int32) → Prop} {x4 x7 : Int64} {b d i : Nat} (h : fd_RR M a1) (hm : fd_tN mo ≠ 0) (hb : b < 26) (hb10 : b ≠ 10) (hd : fd_ln (M b) = d + 1) (hi : i + d < 12)
    (H : ∀ s, fd_RR (fd_up M 10 (fd_sa (fun r c => fd_rest (fd_tN mo) (fd_sub r (fd_rem (fd_mul (fd_tN x7) c) (fd_tN mo)))) (fd_tr (M b)) i (M 10))) s → J (fd_di i) s a2 a3 a4 a5 a6) :
    ∃ n, wX_divideModulo_88 post J (nI b) (nI d) x4 (nI i) x7 fc mo pr lc dc n 0 a1 a2 a3 a4 a5 a6 := by
  have hdl : (fd_tr (M b)).length = d + 1 := by rw [fd_tr_len, hd]
  have hmo : ¬ mo = 0 := fun z => hm (fd_eq0.mp z)
  refine fd_wl (W := fun n k s => wX_divideModulo_88 post J (nI b) (nI d) x4 (nI i) x7 fc mo pr lc dc n (nI k) s a2 a3 a4 a5 a6) a1 (12 * 10 + i) (d + 1)
    (fun k => fd_rest (fd_tN mo) (fd_sub (fd_cf (M 10) (i + k)) (fd_rem (fd_mul (fd_tN x7) (fd_cf (M b) k)) (fd_tN mo)))) ?_ ?_
  · intro n s hs
    refine pk_lt d (d + 1) (fun _ => nm_e (H s ?_)) (fun z => absurd z (by omega))
    refine fd_lo_RP h hs (by omega) (fd_sa_len _ _ _ _ 12 (by omega) (h 10 (by omega)).1) (fun j hj => ?_)
    rw [fd_sa_cf, hdl]
    by_cases c : i ≤ j ∧ j < i + (d + 1)
    · rw [if_pos c, if_pos c, fd_tr_cf, show i + (j - i) = j by omega]
    · rw [if_neg c, if_neg c]
  · intro n k s hk hs hw
    have hin : vp_in ((120 : Int32) + nI i + nI k) 312 := pk_in (12 * 10 + i + k) 312 (by omega) (fd_ix10 i k)
    have ecx : ((120 : Int32) + nI i + nI k).toNatClampNeg = 12 * 10 + i + k := by rw [fd_ix10, nI_clamp (by omega)]
    refine pk_lt d k (fun z => absurd z (by omega)) (fun _ => ⟨fd_ixi hb (by omega), hmo, nm_e ⟨hin, fd_restW hm (fun r hr => ⟨hin, nm_r (by rw [ecx]) (nm_r (nI_1 k) (hw r ?_))⟩)⟩⟩)
    rw [hr, fd_tN_sub, fd_tN_rem, fd_tN_mul, ecx, fd_cx hb (by omega), hs.2 _ (by omega), hs.2 _ (by omega), fd_rd h hb (by omega), Nat.add_assoc, fd_rd h (by omega) (by omega)]
theorem fd_dm46 {post : St2 → Prop} {x4 : Int64} {b d : Nat} (hm : fd_tN mo ≠ 0) (hb : b < 26) (hb9 : b ≠ 9) (hb10 : b ≠ 10) (hd : fd_ln (M b) = d + 1) :
    ∀ (c : Nat) (R Q : List Nat) (s : Nat → Int64), c + d ≤ 12 → c + Q.length ≤ 12 → fd_RR (fd_up (fd_up M 9 (fd_pz c Q)) 10 R) s →
    (∀ s, fd_RR (fd_up (fd_up M 9 (fd_dl (fd_tN mo) (fd_tN x4) d (fd_tr (M b)) c R Q).1) 10 (fd_dl (fd_tN mo) (fd_tN x4) d (fd_tr (M b)) c R Q).2) s → post (fc, mo, pr, lc, dc, s, a2, a3, a4, a5, a6)) →
    wX_divideModulo_46 post (nI b) (nI d) x4 fc mo pr lc dc (c + 1) (fd_di c) s a2 a3 a4 a5 a6 := by
  have hmo : ¬ mo = 0 := fun z => hm (fd_eq0.mp z)
  intro c
  induction c with
  | zero =>
    intro R Q s _ _ hs H
    exact br_t (by decide) (H s hs)
  | succ i ih =>
    intro R Q s hc hq hs H
    rw [fd_di_s]
    have hin : vp_in ((120 : Int32) + nI i + nI d) 312 := pk_in (12 * 10 + i + d) 312 (by omega) (fd_ix10 i d)
    have ecx : ((120 : Int32) + nI i + nI d).toNatClampNeg = 12 * 10 + (i + d) := by rw [fd_ix10, nI_clamp (by omega), Nat.add_assoc]
    have hin9 : vp_in ((108 : Int32) + nI i) 312 := pk_in (12 * 9 + i) 312 (by omega) (fd_ix9 i)
    have ecx9 : ((108 : Int32) + nI i).toNatClampNeg = 12 * 9 + i := by rw [fd_ix9, nI_clamp (by omega)]
    refine br_f (nI_pos (by omega)) ⟨hin, hmo, nm_e ⟨hin9, nm_r (by rw [ecx9]) ?_⟩⟩
    have eR : fd_up (fd_up M 9 (fd_pz (i + 1) Q)) 10 R 10 = R := fd_up_s
    generalize hx : s ((120 : Int32) + nI i + nI d).toNatClampNeg * x4 - s ((120 : Int32) + nI i + nI d).toNatClampNeg * x4 / mo * mo = x7
    have eq : fd_tN x7 = fd_rem (fd_mul (fd_cf R (i + d)) (fd_tN x4)) (fd_tN mo) := by
      rw [← hx, fd_tN_rem, fd_tN_mul, ecx, fd_rd hs (by omega) (by omega), eR]
    have h2 : fd_RR (fd_up (fd_up M 9 (fd_pz i (fd_tN x7 :: Q))) 10 R) (vp_updL s (12 * 9 + i) x7) := by
      have := fd_RR_po (k := 9) (i := i) (x := x7) (L := fd_pz i (fd_tN x7 :: Q)) hs (by omega) rfl (by rw [fd_pz_len]; simp only [List.length_cons]; omega) (fun j hj => by
        rw [fd_up_n (by omega), fd_up_s, fd_pz_cf, fd_pz_cf]
        by_cases e : j = i
        · rw [if_pos e, if_neg (by omega), show j - i = 0 by omega]
          rfl
        · rw [if_neg e]
          by_cases e2 : j < i
          · rw [if_pos e2, if_pos (by omega)]
          · rw [if_neg e2, if_neg (by omega), show j - i = (j - (i + 1)) + 1 by omega]
            rfl)
      rw [fd_up_cm _ _ _ (by omega), fd_up_up] at this
      exact this
    have eb : fd_up (fd_up M 9 (fd_pz i (fd_tN x7 :: Q))) 10 R b = M b := by rw [fd_up_n hb10, fd_up_n hb9]
    refine fd_dm88 h2 hm hb hb10 (by rw [eb]; exact hd) (by omega) (fun s' hs' => ?_)
    rw [eb, fd_up_up, fd_up_s] at hs'
    refine ih _ _ s' (by omega) (by simp only [List.length_cons]; omega) hs' (fun s'' hs'' => H s'' ?_)
    have ed : fd_dl (fd_tN mo) (fd_tN x4) d (fd_tr (M b)) (i + 1) R Q = fd_dl (fd_tN mo) (fd_tN x4) d (fd_tr (M b)) i (fd_sa (fun r c => fd_rest (fd_tN mo) (fd_sub r (fd_rem (fd_mul (fd_tN x7) c) (fd_tN mo)))) (fd_tr (M b)) i R) (fd_tN x7 :: Q) := by
      show fd_nf (fd_rem (fd_mul (fd_cf R (i + d)) (fd_tN x4)) (fd_tN mo)) _ = _
      rw [fd_nf_eq, fd_lf_eq, ← eq]
    rw [ed]
    exact hs''
theorem fd_tr_ne {B : List Nat} {d : Nat} (h : fd_ln B = d + 1) : ∃ b B', fd_tr B = b :: B' ∧ B'.length = d := by
  have e := fd_tr_len B
  cases c : fd_tr B with
  | nil =>
    rw [c, h] at e
    exact absurd e (by simp)
  | cons b B' =>
    rw [c, h] at e
    exact ⟨b, B', rfl, by simpa using e⟩
theorem fd_dm_some {m p : Nat} {A B Q R : List Nat} (h : fd_dm m p A B = some (Q, R)) : ∃ d y R0, fd_ln B = d + 1 ∧ fd_inv p (fd_ld B) = some y ∧ fd_dl m y d (fd_tr B) (fd_ln A - d) A [] = (Q, R0) ∧ R = fd_tr R0 := by
  unfold fd_dm at h
  cases c : fd_tr B with
  | nil =>
    rw [c] at h
    exact absurd h (by simp)
  | cons b B' =>
    rw [c] at h
    have h' : (match fd_inv p (fd_ld B) with
      | none => none
      | some y => match fd_dl m y B'.length (b :: B') (fd_ln A - B'.length) A [] with
        | (Q, R) => some (Q, fd_tr R)) = some (Q, R) := h
    cases e : fd_inv p (fd_ld B) with
    | none =>
      rw [e] at h'
      exact absurd h' (by simp)
    | some y =>
      rw [e] at h'
      cases e2 : fd_dl m y B'.length (b :: B') (fd_ln A - B'.length) A [] with
      | mk Q0 R0 =>
        have h2 : (match fd_dl m y B'.length (b :: B') (fd_ln A - B'.length) A [] with
          | (Q, R) => some (Q, fd_tr R)) = some (Q, R) := h'
        rw [e2] at h2
        have h3 : (Q0, fd_tr R0) = (Q, R) := Option.some.inj h2
        have h4 : Q0 = Q := congrArg Prod.fst h3
        have h5 : fd_tr R0 = R := congrArg Prod.snd h3
        refine ⟨B'.length, y, R0, ?_, rfl, ?_, h5.symm⟩
        · rw [← fd_tr_len, c]
          rfl
        · rw [← h4]
          exact e2
theorem fd_divideModulo {post : St2 → Prop} (h : fd_RR M a1) (hm : fd_tN mo ≠ 0) (hp : fd_tN pr ≠ 0) (a b : Nat) (ha : a < 26) (hb : b < 26) (hb9 : b ≠ 9) (hb10 : b ≠ 10) {Q R : List Nat} (hd : fd_dm (fd_tN mo) (fd_tN pr) (M a) (M b) = some (Q, R))
    (H : ∀ s, fd_RR (fd_up (fd_up M 9 Q) 10 R) s → post (fc, mo, pr, lc, dc, s, a2, a3, a4, a5, a6)) :
    wpX_divideModulo post (fc, mo, pr, lc, dc, a1, a2, a3, a4, a5, a6) (nI a) (nI b) := by
  obtain ⟨d, y, R0, e1, e2, e3, eR⟩ := fd_dm_some hd
  have H' : ∀ s, fd_RR (fd_up (fd_up M 9 Q) 10 R0) s → post (fc, mo, pr, lc, dc, s, a2, a3, a4, a5, a6) := by
    intro s hs
    refine H s ?_
    have h3 := fd_RR_c (k := 10) (L := R) hs (by
      have := (hs 10 (by omega)).1
      rw [fd_up_s] at this
      rw [eR, fd_tr_len]
      exact Nat.le_trans (fd_ln_le _) this) (fun j _ => by rw [eR, fd_tr_cf, fd_up_s])
    rw [fd_up_up] at h3
    exact h3
  refine fd_copy h 10 a (by omega) ha (fun s1 h1 => fd_clear h1 9 (by omega) (fun s2 h2 => ?_))
  have eb : fd_up (fd_up M 10 (M a)) 9 [] b = M b := by rw [fd_up_n hb9, fd_up_n hb10]
  have e10 : fd_up (fd_up M 10 (M a)) 9 [] 10 = M a := by rw [fd_up_n (by omega), fd_up_s]
  have hl := fd_ln12 h hb
  have hla := fd_ln12 h ha
  refine fd_degreeOf h2 b hb ?_
  rw [eb, e1, fd_di_s]
  refine ⟨fd_ixi hb (by omega), fd_inverse hp (y := y) ?_ (fun r hr => fd_degreeOf h2 10 (by omega) (nm_e ?_))⟩
  · rw [fd_cx hb (by omega), fd_rd h2 hb (by omega), eb, ← fd_ld_s e1]
    exact e2
  · rw [e10]
    by_cases c : d < fd_ln (M a)
    · have ex : fd_di (fd_ln (M a)) - nI d = fd_di (fd_ln (M a) - d) := by
        rw [← fd_di_s d, fd_di_sub (by omega)]
        congr 1
        omega
      rw [ex]
      refine ⟨_, fd_dm46 (M := M) hm hb hb9 hb10 e1 (fd_ln (M a) - d) (M a) [] s2 (by omega) (by simp only [List.length_nil]; omega) ?_ (fun s hs => H' s ?_)⟩
      · have h3 := fd_RR_c (k := 9) (L := fd_pz (fd_ln (M a) - d) []) h2 (by rw [fd_pz_len]; simp only [List.length_nil]; omega) (fun j _ => by
          rw [fd_up_s, fd_pz_cf, fd_cf_nil, fd_cf_nil]
          split <;> rfl)
        rw [fd_up_up, fd_up_cm _ _ _ (by omega)] at h3
        exact h3
      · rw [hr, e3] at hs
        exact hs
    · refine ⟨1, br_t ?_ (H' s2 ?_)⟩
      · rw [← fd_di_s d]
        exact fd_di_subn (by omega) (by omega)
      · rw [show fd_ln (M a) - d = 0 by omega] at e3
        have e4 : (([] : List Nat), M a) = (Q, R0) := e3
        have e5 : Q = [] := (congrArg Prod.fst e4).symm
        have e6 : R0 = M a := (congrArg Prod.snd e4).symm
        rw [e5, e6, ← fd_up_cm _ _ _ (by omega)]
        exact h2
end
/-- the loop of divide -/
def fd_el (l d : Nat) (B : List Nat) : Nat → List Nat → List Nat → Option (List Nat × List Nat)
  | 0, R, Q => some (Q, R)
  | i + 1, R, Q => fd_nf (fd_cf R (Nat.add i d)) (fun x => match fd_rem x l with
      | _ + 1 => none
      | 0 => fd_nf (fd_div x l) (fun q => fd_lf (fd_sa (fun r b => fd_sub r (fd_mul q b)) B i R) (fun R' => fd_el l d B i R' (q :: Q))))
def fd_dv (A B : List Nat) : Option (List Nat × List Nat) :=
  match fd_tr B with
  | [] => none
  | b :: B' => fd_nf (fd_ld B) (fun l => fd_el l B'.length (b :: B') (Nat.sub (fd_ln A) B'.length) A [])
section
variable {fc lc dc : Int32} {mo pr : Int64} {a1 a3 : Nat → Int64} {a2 a4 a5 a6 : Nat → Int32} {M : Nat → List Nat}
theorem fd_dv95 {post : Int32 → St2 → Prop} {J : Int32 → (Nat → Int64) → (Nat → Int32) → (Nat → Int64) → (Nat → Int32) → (Nat → Int32) → (Nat → Int32) → Prop} {x4 x7 : Int64} {b d i : Nat} (h : fd_RR M a1) (hb : b < 26) (hb10 : b ≠ 10) (hd : fd_ln (M b) = d + 1) (hi : i + d < 12)
    (H : ∀ s, fd_RR (fd_up M 10 (fd_sa (fun r c => fd_sub r (fd_mul (fd_tN x7) c)) (fd_tr (M b)) i (M 10))) s → J (fd_di i) s a2 a3 a4 a5 a6) :
    ∃ n, wX_divide_95 post J (nI b) (nI d) x4 (nI i) x7 fc mo pr lc dc n 0 a1 a2 a3 a4 a5 a6 := by
  have hdl : (fd_tr (M b)).length = d + 1 := by rw [fd_tr_len, hd]
  refine fd_wl (W := fun n k s => wX_divide_95 post J (nI b) (nI d) x4 (nI i) x7 fc mo pr lc dc n (nI k) s a2 a3 a4 a5 a6) a1 (12 * 10 + i) (d + 1)
    (fun k => fd_sub (fd_cf (M 10) (i + k)) (fd_mul (fd_tN x7) (fd_cf (M b) k))) ?_ ?_
  · intro n s hs
    refine pk_lt d (d + 1) (fun _ => nm_e (H s ?_)) (fun z => absurd z (by omega))
    refine fd_lo_RP h hs (by omega) (fd_sa_len _ _ _ _ 12 (by omega) (h 10 (by omega)).1) (fun j hj => ?_)
    rw [fd_sa_cf, hdl]
    by_cases c : i ≤ j ∧ j < i + (d + 1)
    · rw [if_pos c, if_pos c, fd_tr_cf, show i + (j - i) = j by omega]
    · rw [if_neg c, if_neg c]
  · intro n k s hk hs hw
    have hin : vp_in ((120 : Int32) + nI i + nI k) 312 := pk_in (12 * 10 + i + k) 312 (by omega) (fd_ix10 i k)
    have ecx : ((120 : Int32) + nI i + nI k).toNatClampNeg = 12 * 10 + i + k := by rw [fd_ix10, nI_clamp (by omega)]
    refine pk_lt d k (fun z => absurd z (by omega)) (fun _ => ⟨hin, fd_ixi hb (by omega), hin, nm_r (by rw [ecx]) (nm_r (nI_1 k) (hw _ ?_))⟩)
    rw [fd_tN_sub, fd_tN_mul, fd_cx hb (by omega), hs.2 _ (by omega), hs.2 _ (by omega), fd_rd h hb (by omega), Nat.add_assoc, fd_rd h (by omega) (by omega)]
theorem fd_dv42 {post : Int32 → St2 → Prop} {x4 : Int64} {b d : Nat} (hx4 : ¬ x4 = 0) (hb : b < 26) (hb9 : b ≠ 9) (hb10 : b ≠ 10) (hd : fd_ln (M b) = d + 1) :
    ∀ (c : Nat) (R Q : List Nat) (s : Nat → Int64), c + d ≤ 12 → c + Q.length ≤ 12 → fd_RR (fd_up (fd_up M 9 (fd_pz c Q)) 10 R) s →
    (fd_el (fd_tN x4) d (fd_tr (M b)) c R Q = none → ∀ Q' R' s, fd_RR (fd_up (fd_up M 9 Q') 10 R') s → post 0 (fc, mo, pr, lc, dc, s, a2, a3, a4, a5, a6)) →
    (∀ Q' R', fd_el (fd_tN x4) d (fd_tr (M b)) c R Q = some (Q', R') → ∀ s, fd_RR (fd_up (fd_up M 9 Q') 10 R') s → post (if fd_ln R' = 0 then 1 else 0) (fc, mo, pr, lc, dc, s, a2, a3, a4, a5, a6)) →
    wX_divide_42 post (nI b) (nI d) x4 fc mo pr lc dc (c + 1) (fd_di c) s a2 a3 a4 a5 a6 := by
  intro c
  induction c with
  | zero =>
    intro R Q s _ _ hs H0 H1
    have hR : fd_ln R ≤ 12 := by
      have := fd_ln12 hs (k := 10) (by omega)
      rw [fd_up_s] at this
      exact this
    refine br_t (by decide) (fd_degreeOf hs 10 (by omega) ?_)
    rw [fd_up_s]
    have := H1 Q R rfl s hs
    refine br_c (fun z => ?_) (fun z => ?_)
    · rw [fd_di_ge0 (by omega)] at z
      rw [if_neg z] at this
      exact this
    · rw [fd_di_ge0 (by omega)] at z
      rw [if_pos (by omega)] at this
      exact this
  | succ i ih =>
    intro R Q s hc hq hs H0 H1
    rw [fd_di_s]
    have hin : vp_in ((120 : Int32) + nI i + nI d) 312 := pk_in (12 * 10 + i + d) 312 (by omega) (fd_ix10 i d)
    have ecx : ((120 : Int32) + nI i + nI d).toNatClampNeg = 12 * 10 + (i + d) := by rw [fd_ix10, nI_clamp (by omega), Nat.add_assoc]
    have hin9 : vp_in ((108 : Int32) + nI i) 312 := pk_in (12 * 9 + i) 312 (by omega) (fd_ix9 i)
    have ecx9 : ((108 : Int32) + nI i).toNatClampNeg = 12 * 9 + i := by rw [fd_ix9, nI_clamp (by omega)]
    have eR : fd_up (fd_up M 9 (fd_pz (i + 1) Q)) 10 R 10 = R := fd_up_s
    have e0 : fd_el (fd_tN x4) d (fd_tr (M b)) (i + 1) R Q = (match fd_rem (fd_cf R (i + d)) (fd_tN x4) with
      | _ + 1 => none
      | 0 => fd_nf (fd_div (fd_cf R (i + d)) (fd_tN x4)) (fun q => fd_lf (fd_sa (fun r b => fd_sub r (fd_mul q b)) (fd_tr (M b)) i R) (fun R' => fd_el (fd_tN x4) d (fd_tr (M b)) i R' (q :: Q)))) := by
      show fd_nf (fd_cf R (i + d)) _ = _
      rw [fd_nf_eq]
    refine br_f (nI_pos (by omega)) ⟨hin, nm_r (by rw [ecx]) ⟨hx4, br_c (fun z => ⟨hx4, nm_e ⟨hin9, nm_r (by rw [ecx9]) ?_⟩⟩) (fun z => ?_)⟩⟩
    · have z1 : fd_rem (fd_cf R (i + d)) (fd_tN x4) = 0 := by
        rw [fd_eq0, fd_tN_rem, fd_rd hs (by omega) (by omega), eR] at z
        exact z
      rw [z1] at e0
      have e0' : fd_el (fd_tN x4) d (fd_tr (M b)) (i + 1) R Q = fd_nf (fd_div (fd_cf R (i + d)) (fd_tN x4)) (fun q => fd_lf (fd_sa (fun r b => fd_sub r (fd_mul q b)) (fd_tr (M b)) i R) (fun R' => fd_el (fd_tN x4) d (fd_tr (M b)) i R' (q :: Q))) := e0
      rw [fd_nf_eq, fd_lf_eq] at e0'
      generalize hx : s (12 * 10 + (i + d)) / x4 = x7
      have eq : fd_tN x7 = fd_div (fd_cf R (i + d)) (fd_tN x4) := by
        rw [← hx, fd_tN_div, fd_rd hs (by omega) (by omega), eR]
      rw [← eq] at e0'
      have h2 : fd_RR (fd_up (fd_up M 9 (fd_pz i (fd_tN x7 :: Q))) 10 R) (vp_updL s (12 * 9 + i) x7) := by
        have := fd_RR_po (k := 9) (i := i) (x := x7) (L := fd_pz i (fd_tN x7 :: Q)) hs (by omega) rfl (by rw [fd_pz_len]; simp only [List.length_cons]; omega) (fun j hj => by
          rw [fd_up_n (by omega), fd_up_s, fd_pz_cf, fd_pz_cf]
          by_cases e : j = i
          · rw [if_pos e, if_neg (by omega), show j - i = 0 by omega]
            rfl
          · rw [if_neg e]
            by_cases e2 : j < i
            · rw [if_pos e2, if_pos (by omega)]
            · rw [if_neg e2, if_neg (by omega), show j - i = (j - (i + 1)) + 1 by omega]
              rfl)
        rw [fd_up_cm _ _ _ (by omega), fd_up_up] at this
        exact this
      have eb : fd_up (fd_up M 9 (fd_pz i (fd_tN x7 :: Q))) 10 R b = M b := by rw [fd_up_n hb10, fd_up_n hb9]
      refine fd_dv95 h2 hb hb10 (by rw [eb]; exact hd) (by omega) (fun s' hs' => ?_)
      rw [eb, fd_up_up, fd_up_s] at hs'
      refine ih _ _ s' (by omega) (by simp only [List.length_cons]; omega) hs' (fun hn => H0 (by rw [e0']; exact hn)) (fun Q' R' hq' => H1 Q' R' (by rw [e0']; exact hq'))
    · refine H0 ?_ (fd_pz (i + 1) Q) R s hs
      have z1 : fd_rem (fd_cf R (i + d)) (fd_tN x4) ≠ 0 := by
        rw [fd_eq0, fd_tN_rem, fd_rd hs (by omega) (by omega), eR] at z
        exact z
      obtain ⟨n, en⟩ := Nat.exists_eq_succ_of_ne_zero z1
      rw [e0, en]
theorem fd_divide {post : Int32 → St2 → Prop} (h : fd_RR M a1) (a b : Nat) (ha : a < 26) (hb : b < 26) (hb9 : b ≠ 9) (hb10 : b ≠ 10) (hB : fd_ln (M b) ≠ 0)
    (H0 : fd_dv (M a) (M b) = none → ∀ Q R s, fd_RR (fd_up (fd_up M 9 Q) 10 R) s → post 0 (fc, mo, pr, lc, dc, s, a2, a3, a4, a5, a6))
    (H1 : ∀ Q R, fd_dv (M a) (M b) = some (Q, R) → ∀ s, fd_RR (fd_up (fd_up M 9 Q) 10 R) s → post (if fd_ln R = 0 then 1 else 0) (fc, mo, pr, lc, dc, s, a2, a3, a4, a5, a6)) :
    wpX_divide post (fc, mo, pr, lc, dc, a1, a2, a3, a4, a5, a6) (nI a) (nI b) := by
  obtain ⟨d, e1⟩ := Nat.exists_eq_succ_of_ne_zero hB
  obtain ⟨b0, B', e2, e3⟩ := fd_tr_ne e1
  have edv : fd_dv (M a) (M b) = fd_el (fd_ld (M b)) d (fd_tr (M b)) (fd_ln (M a) - d) (M a) [] := by
    unfold fd_dv
    rw [e2]
    show fd_nf (fd_ld (M b)) (fun l => fd_el l B'.length (b0 :: B') (fd_ln (M a) - B'.length) (M a) []) = _
    rw [fd_nf_eq, e3]
  refine fd_copy h 10 a (by omega) ha (fun s1 h1 => fd_clear h1 9 (by omega) (fun s2 h2 => ?_))
  have eb : fd_up (fd_up M 10 (M a)) 9 [] b = M b := by rw [fd_up_n hb9, fd_up_n hb10]
  have e10 : fd_up (fd_up M 10 (M a)) 9 [] 10 = M a := by rw [fd_up_n (by omega), fd_up_s]
  have hl := fd_ln12 h hb
  have hla := fd_ln12 h ha
  refine fd_degreeOf h2 b hb ?_
  rw [eb, e1, fd_di_s]
  refine ⟨fd_ixi hb (by omega), nm_r (by rw [fd_cx hb (by omega)]) (fd_degreeOf h2 10 (by omega) (nm_e ?_))⟩
  have ex4 : fd_tN (s2 (12 * b + d)) = fd_ld (M b) := by rw [fd_rd h2 hb (by omega), eb, ← fd_ld_s e1]
  have hx4 : ¬ s2 (12 * b + d) = 0 := fun z => fd_ld_ne hB (by rw [← ex4]; exact fd_eq0.mp z)
  rw [e10]
  by_cases c : d < fd_ln (M a)
  · have ex : fd_di (fd_ln (M a)) - nI d = fd_di (fd_ln (M a) - d) := by
      rw [← fd_di_s d, fd_di_sub (by omega)]
      congr 1
      omega
    rw [ex]
    refine ⟨_, fd_dv42 (M := M) hx4 hb hb9 hb10 e1 (fd_ln (M a) - d) (M a) [] s2 (by omega) (by simp only [List.length_nil]; omega) ?_ (fun hn => H0 ?_) (fun Q R hq => H1 Q R ?_)⟩
    · have h3 := fd_RR_c (k := 9) (L := fd_pz (fd_ln (M a) - d) []) h2 (by rw [fd_pz_len]; simp only [List.length_nil]; omega) (fun j _ => by
        rw [fd_up_s, fd_pz_cf, fd_cf_nil, fd_cf_nil]
        split <;> rfl)
      rw [fd_up_up, fd_up_cm _ _ _ (by omega)] at h3
      exact h3
    · rw [ex4] at hn
      rw [edv]
      exact hn
    · rw [ex4] at hq
      rw [edv]
      exact hq
  · refine ⟨1, br_t ?_ (fd_degreeOf h2 10 (by omega) ?_)⟩
    · rw [← fd_di_s d]
      exact fd_di_subn (by omega) (by omega)
    · rw [show fd_ln (M a) - d = 0 by omega] at edv
      rw [e10]
      have := H1 [] (M a) edv s2 (by rw [← fd_up_cm _ _ _ (by omega)]; exact h2)
      refine br_c (fun z => ?_) (fun z => ?_)
      · rw [fd_di_ge0 (by omega)] at z
        rw [if_neg z] at this
        exact this
      · rw [fd_di_ge0 (by omega)] at z
        rw [if_pos (by omega)] at this
        exact this
end
end
section
/-! products modulo -/
def fd_st (m s x b : Nat) : Nat := match x with
  | 0 => s
  | k + 1 => fd_rest m (fd_add s (fd_rem (fd_mul (Nat.succ k) b) m))
theorem fd_st_0 (m s b : Nat) : fd_st m s 0 b = s := rfl
theorem fd_st_n {m s x b : Nat} (h : x ≠ 0) : fd_st m s x b = fd_rest m (fd_add s (fd_rem (fd_mul x b) m)) := by
  obtain ⟨k, e⟩ := Nat.exists_eq_succ_of_ne_zero h
  rw [e]
  rfl
def fd_zf (m : Nat) : Nat → List Nat → List Nat → Nat
  | s, x :: A, b :: R => fd_nf (fd_st m s x b) (fun s' => fd_zf m s' A R)
  | s, _, _ => s
theorem fd_zf_c (m s x b : Nat) (A R : List Nat) : fd_zf m s (x :: A) (b :: R) = fd_zf m (fd_st m s x b) A R := by
  show fd_nf _ _ = _
  rw [fd_nf_eq]
theorem fd_zf_n (m s : Nat) (R : List Nat) : fd_zf m s [] R = s := rfl
theorem fd_zf_n' (m s : Nat) (A : List Nat) : fd_zf m s A [] = s := by
  cases A <;> rfl
/-- the coefficients n - 1, .., 0 -/
def fd_rv (B : List Nat) : Nat → List Nat
  | 0 => []
  | n + 1 => fd_cf B n :: fd_rv B n
def fd_mg (m : Nat) (A : List Nat) : Nat → List Nat → List Nat → List Nat
  | 0, _, _ => []
  | n + 1, B, R => fd_zf m 0 A (fd_hd B :: R) :: fd_mg m A n (fd_tl B) (fd_hd B :: R)
def fd_mn (a b : Nat) : Nat := cond (Nat.ble a b) a b
def fd_mm (m : Nat) (A B : List Nat) : List Nat := fd_tr (fd_mg m A (fd_mn (Nat.add A.length B.length) 12) B [])
theorem fd_mg_len (m : Nat) (A : List Nat) : ∀ (n : Nat) (B R : List Nat), (fd_mg m A n B R).length = n
  | 0, _, _ => rfl
  | n + 1, B, R => by
    show (fd_mg m A n (fd_tl B) (fd_hd B :: R)).length + 1 = _
    rw [fd_mg_len m A n]
theorem fd_mg_cf (m : Nat) (A B : List Nat) : ∀ (n q : Nat) (B' : List Nat) (j : Nat), (∀ i, fd_cf B' i = fd_cf B (q + i)) → j < n → fd_cf (fd_mg m A n B' (fd_rv B q)) j = fd_zf m 0 A (fd_rv B (q + j + 1))
  | 0, q, B', j, _, h => absurd h (by omega)
  | n + 1, q, B', 0, hB, h => by
    show fd_zf m 0 A (fd_hd B' :: fd_rv B q) = fd_zf m 0 A (fd_cf B q :: fd_rv B q)
    rw [fd_hd_cf, hB 0]
    rfl
  | n + 1, q, B', j + 1, hB, h => by
    show fd_cf (fd_mg m A n (fd_tl B') (fd_hd B' :: fd_rv B q)) j = _
    have e : fd_hd B' :: fd_rv B q = fd_rv B (q + 1) := by
      show _ = fd_cf B q :: fd_rv B q
      rw [fd_hd_cf, hB 0]
      rfl
    rw [e, fd_mg_cf m A B n (q + 1) (fd_tl B') j (fun i => by rw [fd_tl_cf, hB]; congr 1; omega) (by omega)]
    congr 2
    omega
theorem fd_zf_big (m : Nat) (B : List Nat) : ∀ (A : List Nat) (j : Nat), A.length + B.length ≤ j → fd_zf m 0 A (fd_rv B (j + 1)) = 0
  | [], j, _ => rfl
  | x :: A, j, h => by
    simp only [List.length_cons] at h
    show fd_zf m 0 (x :: A) (fd_cf B j :: fd_rv B j) = 0
    rw [fd_zf_c, fd_cf_big B j (by omega)]
    have e : fd_st m 0 x 0 = 0 := by
      by_cases c : x = 0
      · rw [c]
        rfl
      · rw [fd_st_n c, fd_mul_0', fd_rem_0]
        exact fd_rest_0 m
    obtain ⟨k, ek⟩ := Nat.exists_eq_succ_of_ne_zero (show j ≠ 0 by omega)
    rw [e, ek]
    exact fd_zf_big m B A k (by omega)
theorem fd_mm_cf (m : Nat) (A B : List Nat) (j : Nat) (hj : j < 12) : fd_cf (fd_mm m A B) j = fd_zf m 0 A (fd_rv B (j + 1)) := by
  unfold fd_mm
  rw [fd_tr_cf]
  have en : fd_mn (Nat.add A.length B.length) 12 = if A.length + B.length ≤ 12 then A.length + B.length else 12 := by
    unfold fd_mn
    by_cases c : A.length + B.length ≤ 12
    · rw [fd_ble_t (show Nat.add A.length B.length ≤ 12 from c), if_pos c]
      rfl
    · rw [fd_ble_f (show 12 < Nat.add A.length B.length by show 12 < A.length + B.length; omega), if_neg c]
      rfl
  by_cases c : j < fd_mn (Nat.add A.length B.length) 12
  · have := fd_mg_cf m A B _ 0 B j (fun i => by rw [Nat.zero_add]) c
    rw [Nat.zero_add] at this
    exact this
  · rw [fd_cf_big _ _ (by rw [fd_mg_len]; omega), fd_zf_big]
    rw [en] at c
    split at c <;> omega
theorem fd_mm_len (m : Nat) (A B : List Nat) : (fd_mm m A B).length ≤ 12 := by
  unfold fd_mm
  rw [fd_tr_len]
  refine Nat.le_trans (fd_ln_le _) ?_
  rw [fd_mg_len]
  unfold fd_mn
  by_cases c : A.length + B.length ≤ 12
  · rw [fd_ble_t (show Nat.add A.length B.length ≤ 12 from c)]
    exact c
  · rw [fd_ble_f (show 12 < Nat.add A.length B.length by show 12 < A.length + B.length; omega)]
    exact Nat.le_refl 12
/-- a table -/
def fd_tb (G : Nat → Nat) : Nat → Nat → List Nat
  | 0, _ => []
  | n + 1, k => G k :: fd_tb G n (k + 1)
theorem fd_tb_cf (G : Nat → Nat) : ∀ (n k j : Nat), j < n → fd_cf (fd_tb G n k) j = G (k + j)
  | 0, k, j, h => absurd h (by omega)
  | n + 1, k, 0, h => rfl
  | n + 1, k, j + 1, h => by
    show fd_cf (fd_tb G n (k + 1)) j = _
    rw [fd_tb_cf G n (k + 1) j (by omega)]
    congr 1
    omega
theorem fd_tb_len (G : Nat → Nat) : ∀ (n k : Nat), (fd_tb G n k).length = n
  | 0, _ => rfl
  | n + 1, k => by
    show (fd_tb G n (k + 1)).length + 1 = _
    rw [fd_tb_len G n]
theorem fd_RR_tab {M : Nat → List Nat} {a s : Nat → Int64} {k : Nat} (h : fd_RR M a) (hs : ∀ j, (j < 12 * k ∨ 12 * k + 12 ≤ j) → s j = a j) : fd_RR (fd_up M k (fd_tb (fun i => fd_tN (s (12 * k + i))) 12 0)) s := by
  intro q hq
  by_cases e : q = k
  · subst e
    rw [fd_up_s]
    refine ⟨by rw [fd_tb_len]; omega, fun i hi => ?_⟩
    rw [fd_tb_cf _ _ _ _ hi, Nat.zero_add]
  · rw [fd_up_n e]
    refine ⟨(h q hq).1, fun i hi => ?_⟩
    rw [hs _ (by omega)]
    exact (h q hq).2 i hi
section
variable {fc lc dc : Int32} {mo pr : Int64} {a1 a3 : Nat → Int64} {a2 a4 a5 a6 : Nat → Int32} {M : Nat → List Nat}
theorem fd_ix25 (i k : Nat) : (300 : Int32) + nI i + nI k = nI (12 * 25 + i + k) := by
  show nI 300 + nI i + nI k = _
  rw [nI_add, nI_add]
theorem fd_mm39 {post : St2 → Prop} {J : Int32 → (Nat → Int64) → (Nat → Int32) → (Nat → Int64) → (Nat → Int32) → (Nat → Int32) → (Nat → Int32) → Prop} {t a b i : Nat} (h : fd_RR M a1) (hm : fd_tN mo ≠ 0) (ha : a < 25) (hb : b < 25) (hi : i < 12) (hx : fd_cf (M a) i ≠ 0)
    (H : ∀ S s, (∀ j, j < 12 → fd_cf S j = if i ≤ j then fd_st (fd_tN mo) (fd_cf (M 25) j) (fd_cf (M a) i) (fd_cf (M b) (j - i)) else fd_cf (M 25) j) → fd_RR (fd_up M 25 S) s → J (nI (i + 1)) s a2 a3 a4 a5 a6) :
    ∃ n, wX_multiplyModulo_39 post J (nI t) (nI a) (nI b) (nI i) fc mo pr lc dc n 0 a1 a2 a3 a4 a5 a6 := by
  have hmo : ¬ mo = 0 := fun z => hm (fd_eq0.mp z)
  refine fd_wl (W := fun n k s => wX_multiplyModulo_39 post J (nI t) (nI a) (nI b) (nI i) fc mo pr lc dc n (nI k) s a2 a3 a4 a5 a6) a1 (12 * 25 + i) (12 - i)
    (fun k => fd_st (fd_tN mo) (fd_cf (M 25) (i + k)) (fd_cf (M a) i) (fd_cf (M b) k)) ?_ ?_
  · intro n s hs
    refine pk_le 12 (i + (12 - i)) (fun _ => nm_r (nI_1 i) (H _ s (fun j hj => ?_) (fd_RR_tab (k := 25) h (fun j hj => hs.2 j (by omega))))) (fun z => absurd z (by omega)) rfl (by rw [nI_add])
    rw [fd_tb_cf _ _ _ _ hj, Nat.zero_add]
    by_cases c : i ≤ j
    · have := hs.1 (j - i) (by omega)
      dsimp only at this
      rw [show 12 * 25 + i + (j - i) = 12 * 25 + j by omega, show i + (j - i) = j by omega] at this
      rw [if_pos c, this]
    · rw [if_neg c, hs.2 _ (by omega), fd_rd h (by omega) hj]
  · intro n k s hk hs hw
    have hin : vp_in ((300 : Int32) + nI i + nI k) 312 := pk_in (12 * 25 + i + k) 312 (by omega) (fd_ix25 i k)
    have ecx : ((300 : Int32) + nI i + nI k).toNatClampNeg = 12 * 25 + i + k := by rw [fd_ix25, nI_clamp (by omega)]
    refine pk_le 12 (i + k) (fun z => absurd z (by omega)) (fun _ => ⟨fd_ixi (by omega) hi, fd_ixi (by omega) (by omega), hmo, nm_e ⟨hin, fd_restW hm (fun r hr => ⟨hin, nm_r (by rw [ecx]) (nm_r (nI_1 k) (hw r ?_))⟩)⟩⟩) rfl (by rw [nI_add])
    rw [hr, fd_tN_add, fd_tN_rem, fd_tN_mul, ecx, fd_cx (by omega) hi, fd_cx (by omega) (by omega), hs.2 _ (by omega), hs.2 _ (by omega), hs.2 _ (by omega), fd_rd h (by omega) hi, fd_rd h (by omega) (by omega), Nat.add_assoc, fd_rd h (by omega) (by omega), fd_st_n hx]
/-- drop one more row -/
theorem fd_drop_cf : ∀ (A : List Nat) (i : Nat), A.drop i = [] ∨ A.drop i = fd_cf A i :: A.drop (i + 1)
  | [], i => Or.inl (List.drop_nil)
  | x :: A, 0 => Or.inr rfl
  | x :: A, i + 1 => fd_drop_cf A i
theorem fd_drop_nx {A : List Nat} {i : Nat} (h : A.drop i = []) : fd_cf A i = 0 ∧ A.drop (i + 1) = [] := by
  have h2 : A.length ≤ i := List.drop_eq_nil_iff.mp h
  exact ⟨fd_cf_big A i h2, List.drop_eq_nil_of_le (by omega)⟩
theorem fd_mm9 {post : St2 → Prop} {t a b : Nat} (hm : fd_tN mo ≠ 0) (ht : t < 26) (ha : a < 25) (hb : b < 25)
    (H : ∀ g s, fd_RR (fd_up (fd_up M 25 g) t (fd_mm (fd_tN mo) (M a) (M b))) s → post (fc, mo, pr, lc, dc, s, a2, a3, a4, a5, a6)) :
    ∀ (f i : Nat) (S : List Nat) (s : Nat → Int64), i + f = 12 → fd_RR (fd_up M 25 S) s → (∀ j, j < 12 → if i ≤ j then fd_zf (fd_tN mo) (fd_cf S j) ((M a).drop i) (fd_rv (M b) (j - i + 1)) = fd_zf (fd_tN mo) 0 (M a) (fd_rv (M b) (j + 1)) else fd_cf S j = fd_zf (fd_tN mo) 0 (M a) (fd_rv (M b) (j + 1))) →
    wX_multiplyModulo_9 post (nI t) (nI a) (nI b) fc mo pr lc dc (f + 1) (nI i) s a2 a3 a4 a5 a6 := by
  intro f
  induction f with
  | zero =>
    intro i S s hi hs hI
    have ei : i = 12 := by omega
    subst ei
    refine pk_le 12 12 (fun _ => fd_copy hs t 25 ht (by omega) (fun s' hs' => H S s' ?_)) (fun z => absurd z (by omega))
    rw [fd_up_s] at hs'
    have h3 := fd_RR_c (k := t) (L := fd_mm (fd_tN mo) (M a) (M b)) hs' (fd_mm_len _ _ _) (fun j hj => by
      have := hI j hj
      rw [if_neg (by omega)] at this
      rw [fd_mm_cf _ _ _ _ hj, fd_up_s, this])
    rw [fd_up_up] at h3
    exact h3
  | succ f ih =>
    intro i S s hi hs hI
    have e25 : fd_up M 25 S 25 = S := fd_up_s
    have ea : fd_up M 25 S a = M a := fd_up_n (by omega)
    have eb : fd_up M 25 S b = M b := fd_up_n (by omega)
    have e1 : (s ((12 : Int32) * nI a + nI i).toNatClampNeg = 0) ↔ fd_cf (M a) i = 0 := by
      rw [fd_eq0, fd_cx (by omega) (by omega), fd_rd hs (by omega) (by omega), ea]
    refine pk_le 12 i (fun z => absurd z (by omega)) (fun _ => ⟨fd_ixi (by omega) (by omega), br_c (fun z => ?_) (fun z => ?_)⟩)
    · rw [e1] at z
      refine nm_r (nI_1 i) (ih (i + 1) S s (by omega) hs (fun j hj => ?_))
      have := hI j hj
      by_cases c : i + 1 ≤ j
      · rw [if_pos c]
        rw [if_pos (by omega)] at this
        rw [← this]
        rcases fd_drop_cf (M a) i with d | d
        · rw [d, (fd_drop_nx d).2, fd_zf_n, fd_zf_n]
        · rw [d, z, show j - i + 1 = (j - (i + 1) + 1) + 1 by omega]
          show _ = fd_zf _ _ (0 :: (M a).drop (i + 1)) (fd_cf (M b) (j - (i + 1) + 1) :: fd_rv (M b) (j - (i + 1) + 1))
          rw [fd_zf_c, fd_st_0]
      · rw [if_neg c]
        by_cases c2 : i ≤ j
        · rw [if_pos c2] at this
          rw [← this]
          rcases fd_drop_cf (M a) i with d | d
          · rw [d, fd_zf_n]
          · rw [d, z, show j - i + 1 = 0 + 1 by omega]
            show _ = fd_zf _ _ (0 :: (M a).drop (i + 1)) (fd_cf (M b) 0 :: fd_rv (M b) 0)
            rw [fd_zf_c, fd_st_0]
            show _ = fd_zf _ _ _ []
            rw [fd_zf_n']
        · rw [if_neg c2] at this
          exact this
    · rw [e1] at z
      refine fd_mm39 hs hm ha hb (by omega) (by rw [ea]; exact z) (fun S' s' hS' hs' => ?_)
      rw [fd_up_up] at hs'
      refine ih (i + 1) S' s' (by omega) hs' (fun j hj => ?_)
      have t1 := hS' j hj
      rw [e25, ea, eb] at t1
      have := hI j hj
      have d : (M a).drop i = fd_cf (M a) i :: (M a).drop (i + 1) := by
        rcases fd_drop_cf (M a) i with d | d
        · exact absurd (fd_drop_nx d).1 z
        · exact d
      by_cases c : i + 1 ≤ j
      · rw [if_pos c]
        rw [if_pos (by omega)] at this t1
        rw [← this, t1, d, show j - i + 1 = (j - (i + 1) + 1) + 1 by omega]
        show _ = fd_zf _ _ (fd_cf (M a) i :: (M a).drop (i + 1)) (fd_cf (M b) (j - (i + 1) + 1) :: fd_rv (M b) (j - (i + 1) + 1))
        rw [fd_zf_c, show j - (i + 1) + 1 = j - i by omega]
      · rw [if_neg c]
        by_cases c2 : i ≤ j
        · rw [if_pos c2] at this t1
          rw [← this, t1, d, show j - i + 1 = 0 + 1 by omega, show j - i = 0 by omega]
          show _ = fd_zf _ _ (fd_cf (M a) i :: (M a).drop (i + 1)) (fd_cf (M b) 0 :: fd_rv (M b) 0)
          rw [fd_zf_c]
          show _ = fd_zf _ _ _ []
          rw [fd_zf_n']
        · rw [if_neg c2] at this t1
          rw [t1]
          exact this
theorem fd_multiplyModulo {post : St2 → Prop} (h : fd_RR M a1) (hm : fd_tN mo ≠ 0) (t a b : Nat) (ht : t < 26) (ha : a < 25) (hb : b < 25)
    (H : ∀ g s, fd_RR (fd_up (fd_up M 25 g) t (fd_mm (fd_tN mo) (M a) (M b))) s → post (fc, mo, pr, lc, dc, s, a2, a3, a4, a5, a6)) :
    wpX_multiplyModulo post (fc, mo, pr, lc, dc, a1, a2, a3, a4, a5, a6) (nI t) (nI a) (nI b) := by
  refine fd_clear h 25 (by omega) (fun s hs => ⟨13, fd_mm9 (M := M) hm ht ha hb H 12 0 [] s (by omega) hs (fun j hj => ?_)⟩)
  rw [if_pos (by omega), fd_cf_nil]
  rfl
end
end
section
/-! common divisors of polynomials; the square-free part; the prime -/
def fd_cm (m p : Nat) : Nat → List Nat → List Nat → Option (List Nat)
  | 0, _, _ => none
  | n + 1, A, B => match fd_ln B with
    | 0 => fd_mo m p A
    | _ + 1 => match fd_dm m p A B with
      | none => none
      | some (_, R) => fd_lf R (fun R' => fd_cm m p n B R')
theorem fd_cm_0 {m p n : Nat} {A B : List Nat} (h : fd_ln B = 0) : fd_cm m p (n + 1) A B = fd_mo m p A := by
  show (match fd_ln B with
    | 0 => fd_mo m p A
    | _ + 1 => match fd_dm m p A B with
      | none => none
      | some (_, R) => fd_lf R (fun R' => fd_cm m p n B R')) = _
  rw [h]
theorem fd_cm_s {m p n : Nat} {A B G : List Nat} (h : fd_ln B ≠ 0) (hG : fd_cm m p (n + 1) A B = some G) : ∃ Q R, fd_dm m p A B = some (Q, R) ∧ fd_cm m p n B R = some G := by
  obtain ⟨d, e⟩ := Nat.exists_eq_succ_of_ne_zero h
  have h1 : (match fd_ln B with
    | 0 => fd_mo m p A
    | _ + 1 => match fd_dm m p A B with
      | none => none
      | some (_, R) => fd_lf R (fun R' => fd_cm m p n B R')) = some G := hG
  rw [e] at h1
  have h2 : (match fd_dm m p A B with
      | none => none
      | some (_, R) => fd_lf R (fun R' => fd_cm m p n B R')) = some G := h1
  cases c : fd_dm m p A B with
  | none =>
    rw [c] at h2
    exact absurd h2 (by simp)
  | some QR =>
    rw [c] at h2
    refine ⟨QR.1, QR.2, rfl, ?_⟩
    have h3 : fd_lf QR.2 (fun R' => fd_cm m p n B R') = some G := h2
    rw [fd_lf_eq] at h3
    exact h3
/-- commonModulo -/
def fd_cn (m p : Nat) (A B : List Nat) : Option (List Nat) :=
  fd_lf (fd_tr (A.map (fd_rest m))) (fun A' => fd_lf (fd_tr (B.map (fd_rest m))) (fun B' => fd_cm m p 20 A' B'))
theorem fd_cn_eq (m p : Nat) (A B : List Nat) : fd_cn m p A B = fd_cm m p 20 (fd_tr (A.map (fd_rest m))) (fd_tr (B.map (fd_rest m))) := by
  unfold fd_cn
  rw [fd_lf_eq, fd_lf_eq]
theorem fd_tr_l12 {L : List Nat} (h : L.length ≤ 12) : (fd_tr L).length ≤ 12 := by
  rw [fd_tr_len]
  exact Nat.le_trans (fd_ln_le L) h
section
variable {fc lc dc : Int32} {mo pr : Int64} {a1 a3 : Nat → Int64} {a2 a4 a5 a6 : Nat → Int32} {M : Nat → List Nat}
theorem fd_cm24 {post : St2 → Prop} {t : Nat} {G : List Nat} (hm : fd_tN mo ≠ 0) (hp : fd_tN pr ≠ 0) (ht : t < 26) (ht8 : t ≠ 8) (ht9 : t ≠ 9) (ht10 : t ≠ 10)
    (H : ∀ M' s, (∀ k, k ≠ t → k ≠ 8 → k ≠ 9 → k ≠ 10 → M' k = M k) → M' t = G → fd_RR M' s → post (fc, mo, pr, lc, dc, s, a2, a3, a4, a5, a6)) :
    ∀ (n : Nat) (M1 : Nat → List Nat) (s : Nat → Int64), fd_cm (fd_tN mo) (fd_tN pr) n (M1 t) (M1 8) = some G → (∀ k, k ≠ t → k ≠ 8 → k ≠ 9 → k ≠ 10 → M1 k = M k) → fd_RR M1 s →
    wX_commonModulo_24 post (nI t) n fc mo pr lc dc s a2 a3 a4 a5 a6 := by
  intro n
  induction n with
  | zero =>
    intro M1 s h
    exact absurd h (by simp [fd_cm])
  | succ n ih =>
    intro M1 s h hf hs
    have hl := fd_ln12 hs (k := 8) (by omega)
    refine fd_degreeOf hs 8 (by omega) (br_c (fun z => ?_) (fun z => ?_))
    · rw [fd_di_lt0 (by omega)] at z
      rw [fd_cm_0 z] at h
      refine fd_makeMonic hs hm hp t ht h (fun s' hs' => H _ s' (fun k h1 h2 h3 h4 => ?_) fd_up_s hs')
      rw [fd_up_n h1]
      exact hf k h1 h2 h3 h4
    · rw [fd_di_lt0 (by omega)] at z
      obtain ⟨Q, R, e1, e2⟩ := fd_cm_s z h
      refine fd_divideModulo hs hm hp t 8 ht (by omega) (by omega) (by omega) e1 (fun s1 h1 => fd_copy h1 t 8 ht (by omega) (fun s2 h2 => fd_copy h2 8 10 (by omega) (by omega) (fun s3 h3 => ih _ s3 ?_ ?_ h3)))
      · rw [fd_up_n ht8, fd_up_s, fd_up_s, fd_up_n ht10.symm, fd_up_s, fd_up_n (by omega), fd_up_n (by omega)]
        exact e2
      · intro k k1 k2 k3 k4
        rw [fd_up_n k2, fd_up_n k1, fd_up_n k4, fd_up_n k3]
        exact hf k k1 k2 k3 k4
theorem fd_commonModulo {post : St2 → Prop} (h : fd_RR M a1) (hm : fd_tN mo ≠ 0) (hp : fd_tN pr ≠ 0) (t a b : Nat) (ht : t < 26) (ha : a < 26) (hb : b < 26) (ht8 : t ≠ 8) (ht9 : t ≠ 9) (ht10 : t ≠ 10) (hbt : b ≠ t) {G : List Nat} (hG : fd_cn (fd_tN mo) (fd_tN pr) (M a) (M b) = some G)
    (H : ∀ M' s, (∀ k, k ≠ t → k ≠ 8 → k ≠ 9 → k ≠ 10 → M' k = M k) → M' t = G → fd_RR M' s → post (fc, mo, pr, lc, dc, s, a2, a3, a4, a5, a6)) :
    wpX_commonModulo post (fc, mo, pr, lc, dc, a1, a2, a3, a4, a5, a6) (nI t) (nI a) (nI b) := by
  refine fd_copy h t a ht ha (fun s1 h1 => fd_copy h1 8 b (by omega) hb (fun s2 h2 => fd_reduce h2 hm t ht (fun s3 h3 => fd_reduce h3 hm 8 (by omega) (fun s4 h4 => ?_))))
  have h5 := fd_RR_c (k := t) (L := fd_tr ((M a).map (fd_rest (fd_tN mo)))) h4 (fd_tr_l12 (by rw [List.length_map]; exact (h a ha).1)) (fun j _ => by
    rw [fd_up_n ht8, fd_up_s, fd_tr_cf, fd_up_n ht8, fd_up_s])
  have h6 := fd_RR_c (k := 8) (L := fd_tr ((M b).map (fd_rest (fd_tN mo)))) h5 (fd_tr_l12 (by rw [List.length_map]; exact (h b hb).1)) (fun j _ => by
    rw [fd_up_n ht8.symm, fd_up_s, fd_tr_cf, fd_up_n ht8.symm, fd_up_s, fd_up_n hbt])
  rw [fd_cn_eq] at hG
  refine ⟨20, fd_cm24 (M := M) hm hp ht ht8 ht9 ht10 H 20 _ s4 ?_ ?_ h6⟩
  · rw [fd_up_n ht8, fd_up_s, fd_up_s]
    exact hG
  · intro k k1 k2 k3 k4
    rw [fd_up_n k2, fd_up_n k1, fd_up_n k2, fd_up_n k1, fd_up_n k2, fd_up_n k1]
end
/-- division without rest -/
def fd_ex (A B : List Nat) : Bool := match fd_dv A B with
  | none => false
  | some (_, R) => Nat.beq (fd_ln R) 0
/-- tryPrime, where it succeeds -/
def fd_tp (p : Nat) (A B : List Nat) : Option (List Nat) :=
  cond (Nat.beq (fd_ld A) 9223372036854775808) none (cond (Nat.beq (fd_ld B) 9223372036854775808) none
    (match fd_cn p p A B with
    | none => none
    | some G => fd_nf (Nat.gcd (fd_abs (fd_ld A)) (fd_abs (fd_ld B))) (fun l =>
      fd_lf ((G.map (fun x => fd_rest p (fd_mul x l))).map (fd_cen p)) (fun C =>
        cond (fd_okc C) (fd_lf (fd_mp C) (fun T => cond (Nat.beq (fd_ln T) 0) none (cond (fd_ex A T) (cond (fd_ex B T) (some T) none) none))) none))))
theorem fd_tp_some {p : Nat} {A B T : List Nat} (h : fd_tp p A B = some T) : fd_ld A ≠ 9223372036854775808 ∧ fd_ld B ≠ 9223372036854775808 ∧ ∃ G C, fd_cn p p A B = some G ∧ C = (G.map (fun x => fd_rest p (fd_mul x (Nat.gcd (fd_abs (fd_ld A)) (fd_abs (fd_ld B)))))).map (fd_cen p) ∧
    fd_okc C = true ∧ T = fd_mp C ∧ fd_ln T ≠ 0 ∧ fd_ex A T = true ∧ fd_ex B T = true := by
  unfold fd_tp at h
  by_cases c1 : fd_ld A = 9223372036854775808
  · rw [fd_beq_t c1] at h
    exact absurd h (by simp)
  by_cases c2 : fd_ld B = 9223372036854775808
  · rw [fd_beq_f c1, fd_beq_t c2] at h
    exact absurd h (by simp)
  rw [fd_beq_f c1, fd_beq_f c2] at h
  refine ⟨c1, c2, ?_⟩
  have h1 : (match fd_cn p p A B with
    | none => none
    | some G => fd_nf (Nat.gcd (fd_abs (fd_ld A)) (fd_abs (fd_ld B))) (fun l =>
      fd_lf ((G.map (fun x => fd_rest p (fd_mul x l))).map (fd_cen p)) (fun C =>
        cond (fd_okc C) (fd_lf (fd_mp C) (fun T => cond (Nat.beq (fd_ln T) 0) none (cond (fd_ex A T) (cond (fd_ex B T) (some T) none) none))) none))) = some T := h
  cases c : fd_cn p p A B with
  | none =>
    rw [c] at h1
    exact absurd h1 (by simp)
  | some G =>
    rw [c] at h1
    have h2 : fd_nf (Nat.gcd (fd_abs (fd_ld A)) (fd_abs (fd_ld B))) (fun l =>
      fd_lf ((G.map (fun x => fd_rest p (fd_mul x l))).map (fd_cen p)) (fun C =>
        cond (fd_okc C) (fd_lf (fd_mp C) (fun T => cond (Nat.beq (fd_ln T) 0) none (cond (fd_ex A T) (cond (fd_ex B T) (some T) none) none))) none)) = some T := h1
    rw [fd_nf_eq, fd_lf_eq] at h2
    refine ⟨G, _, rfl, rfl, ?_⟩
    generalize (G.map (fun x => fd_rest p (fd_mul x (Nat.gcd (fd_abs (fd_ld A)) (fd_abs (fd_ld B)))))).map (fd_cen p) = C at h2 ⊢
    cases o : fd_okc C with
    | false =>
      rw [o] at h2
      exact absurd h2 (by simp)
    | true =>
      rw [o] at h2
      have h3 : fd_lf (fd_mp C) (fun T => cond (Nat.beq (fd_ln T) 0) none (cond (fd_ex A T) (cond (fd_ex B T) (some T) none) none)) = some T := h2
      rw [fd_lf_eq] at h3
      by_cases l : fd_ln (fd_mp C) = 0
      · rw [fd_beq_t l] at h3
        exact absurd h3 (by simp)
      rw [fd_beq_f l] at h3
      cases e1 : fd_ex A (fd_mp C) with
      | false =>
        rw [e1] at h3
        exact absurd h3 (by simp)
      | true =>
        cases e2 : fd_ex B (fd_mp C) with
        | false =>
          rw [e1, e2] at h3
          exact absurd h3 (by simp)
        | true =>
          rw [e1, e2] at h3
          have h4 : fd_mp C = T := Option.some.inj h3
          rw [← h4]
          exact ⟨rfl, rfl, l, e1, e2⟩
theorem fd_ex_some {A B : List Nat} (h : fd_ex A B = true) : ∃ Q R, fd_dv A B = some (Q, R) ∧ fd_ln R = 0 := by
  unfold fd_ex at h
  cases c : fd_dv A B with
  | none =>
    rw [c] at h
    exact absurd h (by simp)
  | some QR =>
    rw [c] at h
    exact ⟨QR.1, QR.2, rfl, Nat.eq_of_beq_eq_true h⟩
section
variable {fc lc dc : Int32} {mo pr : Int64} {a1 a3 : Nat → Int64} {a2 a4 a5 a6 : Nat → Int32} {M : Nat → List Nat}
/-- division that is known to leave no rest -/
theorem fd_divideT {post : Int32 → St2 → Prop} (h : fd_RR M a1) (a b : Nat) (ha : a < 26) (hb : b < 26) (hb9 : b ≠ 9) (hb10 : b ≠ 10) (hB : fd_ln (M b) ≠ 0) {Q R : List Nat} (hd : fd_dv (M a) (M b) = some (Q, R)) (hR : fd_ln R = 0)
    (H : ∀ s, fd_RR (fd_up (fd_up M 9 Q) 10 R) s → post 1 (fc, mo, pr, lc, dc, s, a2, a3, a4, a5, a6)) :
    wpX_divide post (fc, mo, pr, lc, dc, a1, a2, a3, a4, a5, a6) (nI a) (nI b) := by
  refine fd_divide h a b ha hb hb9 hb10 hB (fun z => ?_) (fun Q' R' z s hs => ?_)
  · rw [hd] at z
    exact absurd z (by simp)
  · rw [hd] at z
    have e := Option.some.inj z
    have e1 : Q = Q' := congrArg Prod.fst e
    have e2 : R = R' := congrArg Prod.snd e
    rw [← e2, if_pos hR]
    rw [← e1, ← e2] at hs
    exact H s hs
theorem fd_tryPrime {post : Int32 → St2 → Prop} {q : Int64} (h : fd_RR M a1) (hq : fd_tN q ≠ 0) (hq2 : fd_tN q < 9223372036854775808) {T : List Nat} (hT : fd_tp (fd_tN q) (M 6) (M 7) = some T)
    (H : ∀ M' s, (∀ k, k ≠ 22 → k ≠ 8 → k ≠ 9 → k ≠ 10 → M' k = M k) → M' 22 = T → fd_RR M' s → post 1 (fc, q, q, lc, dc, s, a2, a3, a4, a5, a6)) :
    wpX_tryPrime post (fc, mo, pr, lc, dc, a1, a2, a3, a4, a5, a6) q := by
  obtain ⟨c1, c2, G, C, e1, e2, e3, e4, e5, e6, e7⟩ := fd_tp_some hT
  refine fd_leadOf h 6 (by omega) (fun r1 hr1 => fd_leadOf h 7 (by omega) (fun r2 hr2 => fd_cd (by rw [hr1]; exact c1) (by rw [hr2]; exact c2) (fun r3 hr3 => ?_)))
  refine fd_commonModulo h hq hq 22 6 7 (by omega) (by omega) (by omega) (by omega) (by omega) (by omega) (by omega) e1 (fun M1 s1 f1 g1 h1 => ?_)
  refine fd_scale h1 hq 22 r3 (by omega) (fun s2 h2 => fd_center h2 hq2 22 (by omega) (fun s3 h3 => ?_))
  rw [fd_up_up, fd_up_s, g1, hr3, hr1, hr2, ← e2] at h3
  have hC : fd_up M1 22 C 22 = C := fd_up_s
  refine fd_makePrimitive h3 22 (by omega) (by rw [hC]; exact e3) (fun s4 h4 => ?_)
  rw [hC, fd_up_up, ← e4] at h4
  have g6 : fd_up M1 22 T 6 = M 6 := by
    rw [fd_up_n (by omega)]
    exact f1 6 (by omega) (by omega) (by omega) (by omega)
  have g7 : fd_up M1 22 T 7 = M 7 := by
    rw [fd_up_n (by omega)]
    exact f1 7 (by omega) (by omega) (by omega) (by omega)
  obtain ⟨Q1, R1, d1, l1⟩ := fd_ex_some e6
  obtain ⟨Q2, R2, d2, l2⟩ := fd_ex_some e7
  refine fd_divideT h4 6 22 (by omega) (by omega) (by omega) (by omega) (by rw [fd_up_s]; exact e5) (by rw [g6, fd_up_s]; exact d1) l1 (fun s5 h5 => br_f (by decide) ?_)
  refine fd_divideT h5 7 22 (by omega) (by omega) (by omega) (by omega) (Q := Q2) (R := R2) ?_ ?_ l2 (fun s6 h6 => br_f (by decide) (H _ s6 ?_ ?_ h6))
  · rw [fd_up_n (by omega), fd_up_n (by omega), fd_up_s]
    exact e5
  · have k7 : fd_up (fd_up (fd_up M1 22 T) 9 Q1) 10 R1 7 = M 7 := by
      rw [fd_up_n (by omega), fd_up_n (by omega)]
      exact g7
    have k22 : fd_up (fd_up (fd_up M1 22 T) 9 Q1) 10 R1 22 = T := by
      rw [fd_up_n (by omega), fd_up_n (by omega), fd_up_s]
    rw [k7, k22]
    exact d2
  · intro k k1 k2 k3 k4
    rw [fd_up_n k4, fd_up_n k3, fd_up_n k4, fd_up_n k3, fd_up_n k1]
    exact f1 k k1 k2 k3 k4
  · rw [fd_up_n (by omega), fd_up_n (by omega), fd_up_n (by omega), fd_up_n (by omega), fd_up_s]
end
/-- greatestCommon, where the first prime serves -/
def fd_gg (A B : List Nat) : Option (List Nat) :=
  cond (fd_okc A) (cond (fd_okc B) (fd_lf (fd_mp A) (fun A' => fd_lf (fd_mp B) (fun B' => match fd_ln A' with
    | 0 => some B'
    | _ + 1 => match fd_ln B' with
      | 0 => some A'
      | _ + 1 => fd_tp 2147483647 A' B'))) none) none
theorem fd_gg_some {A B T : List Nat} (h : fd_gg A B = some T) : fd_okc A = true ∧ fd_okc B = true ∧ ((fd_ln (fd_mp A) = 0 ∧ fd_mp B = T) ∨ (fd_ln (fd_mp A) ≠ 0 ∧ fd_ln (fd_mp B) = 0 ∧ fd_mp A = T) ∨ (fd_ln (fd_mp A) ≠ 0 ∧ fd_ln (fd_mp B) ≠ 0 ∧ fd_tp 2147483647 (fd_mp A) (fd_mp B) = some T)) := by
  unfold fd_gg at h
  cases o1 : fd_okc A with
  | false =>
    rw [o1] at h
    exact absurd h (by simp)
  | true =>
    cases o2 : fd_okc B with
    | false =>
      rw [o1, o2] at h
      exact absurd h (by simp)
    | true =>
      rw [o1, o2] at h
      refine ⟨rfl, rfl, ?_⟩
      have h1 : fd_lf (fd_mp A) (fun A' => fd_lf (fd_mp B) (fun B' => match fd_ln A' with
        | 0 => some B'
        | _ + 1 => match fd_ln B' with
          | 0 => some A'
          | _ + 1 => fd_tp 2147483647 A' B')) = some T := h
      rw [fd_lf_eq, fd_lf_eq] at h1
      cases l1 : fd_ln (fd_mp A) with
      | zero =>
        rw [l1] at h1
        exact Or.inl ⟨rfl, Option.some.inj h1⟩
      | succ n1 =>
        rw [l1] at h1
        cases l2 : fd_ln (fd_mp B) with
        | zero =>
          rw [l2] at h1
          exact Or.inr (Or.inl ⟨by omega, rfl, Option.some.inj h1⟩)
        | succ n2 =>
          rw [l2] at h1
          exact Or.inr (Or.inr ⟨by omega, by omega, h1⟩)
theorem fd_tNp1 : fd_tN 2147483647 = 2147483647 := by decide
section
variable {fc lc dc : Int32} {mo pr : Int64} {a1 a3 : Nat → Int64} {a2 a4 a5 a6 : Nat → Int32} {M : Nat → List Nat}
theorem fd_greatestCommon {post : St2 → Prop} (h : fd_RR M a1) (t a b : Nat) (ht : t < 26) (ha : a < 26) (hb : b < 26) (hb6 : b ≠ 6) {T : List Nat} (hT : fd_gg (M a) (M b) = some T)
    (H : ∀ M' s mo' pr', (∀ k, k ≠ t → k ≠ 6 → k ≠ 7 → k ≠ 22 → k ≠ 8 → k ≠ 9 → k ≠ 10 → M' k = M k) → M' t = T → fd_RR M' s → post (fc, mo', pr', lc, dc, s, a2, a3, a4, a5, a6)) :
    wpX_greatestCommon post (fc, mo, pr, lc, dc, a1, a2, a3, a4, a5, a6) (nI t) (nI a) (nI b) := by
  obtain ⟨o1, o2, hc⟩ := fd_gg_some hT
  refine fd_copy h 6 a (by omega) ha (fun s1 h1 => fd_copy h1 7 b (by omega) hb (fun s2 h2 => ?_))
  rw [fd_up_n hb6] at h2
  refine fd_makePrimitive h2 6 (by omega) (by rw [fd_up_n (by omega), fd_up_s]; exact o1) (fun s3 h3 => ?_)
  rw [fd_up_n (show 6 ≠ 7 by omega), fd_up_s, fd_up_cm _ _ _ (show 7 ≠ 6 by omega), fd_up_up] at h3
  refine fd_makePrimitive h3 7 (by omega) (by rw [fd_up_s]; exact o2) (fun s4 h4 => ?_)
  rw [fd_up_s, fd_up_up] at h4
  have g6 : fd_up (fd_up M 6 (fd_mp (M a))) 7 (fd_mp (M b)) 6 = fd_mp (M a) := by rw [fd_up_n (by omega), fd_up_s]
  have g7 : fd_up (fd_up M 6 (fd_mp (M a))) 7 (fd_mp (M b)) 7 = fd_mp (M b) := fd_up_s
  have n6 := fd_ln12 h4 (k := 6) (by omega)
  have n7 := fd_ln12 h4 (k := 7) (by omega)
  rw [g6] at n6
  rw [g7] at n7
  have HC : ∀ f, f = 6 ∨ f = 7 → fd_up (fd_up M 6 (fd_mp (M a))) 7 (fd_mp (M b)) f = T → wX_greatestCommon_60 post (nI t) (nI f) fc mo pr lc dc s4 a2 a3 a4 a5 a6 := by
    intro f hf e
    refine fd_copy h4 t f ht (by omega) (fun s5 h5 => H _ s5 mo pr (fun k k1 k2 k3 _ _ _ _ => ?_) ?_ h5)
    · rw [fd_up_n k1, fd_up_n k3, fd_up_n k2]
    · rw [fd_up_s, e]
  refine fd_degreeOf h4 6 (by omega) ?_
  rw [g6]
  refine br_c (fun z => fd_degreeOf h4 6 (by omega) ?_) (fun z => fd_degreeOf h4 7 (by omega) ?_)
  · rw [g6]
    rw [fd_di_lt0 (by omega)] at z
    refine br_f (by rw [fd_di_ge0 (by omega)]; omega) (HC 7 (Or.inr rfl) ?_)
    rw [g7]
    rcases hc with c | c | c
    · exact c.2
    · exact absurd z c.1
    · exact absurd z c.1
  · rw [g7]
    rw [fd_di_lt0 (by omega)] at z
    refine br_c (fun y => ?_) (fun y => fd_degreeOf h4 6 (by omega) ?_)
    · rw [fd_di_ge0 (by omega)] at y
      have e : fd_tp 2147483647 (fd_mp (M a)) (fd_mp (M b)) = some T := by
        rcases hc with c | c | c
        · exact absurd c.1 z
        · exact absurd c.2.1 y
        · exact c.2.2
      refine fd_tryPrime h4 (by rw [fd_tNp1]; omega) (by rw [fd_tNp1]; omega) (T := T) (by rw [g6, g7, fd_tNp1]; exact e) (fun M5 s5 f5 g5 h5 => br_f (by decide) (fd_copy h5 t 22 ht (by omega) (fun s6 h6 => H _ s6 _ _ (fun k k1 k2 k3 k4 k5 k6 k7 => ?_) ?_ h6)))
      · rw [fd_up_n k1, f5 k k4 k5 k6 k7, fd_up_n k3, fd_up_n k2]
      · rw [fd_up_s, g5]
    · rw [g6]
      rw [fd_di_ge0 (by omega)] at y
      refine br_t (by rw [fd_di_ge0 (by omega)]; exact z) (HC 6 (Or.inl rfl) ?_)
      rw [g6]
      rcases hc with c | c | c
      · exact absurd c.1 z
      · exact c.2.2
      · exact absurd c.2.1 (by omega)
end
/-- splitOffMultiple: what is left -/
def fd_so (P : List Nat) : Option (List Nat) := match fd_gg P (fd_der 1 (fd_tl P)) with
  | none => none
  | some G => fd_lf G (fun G => cond (Nat.beq (fd_ln G) 0) none (match fd_dv P G with
    | none => none
    | some (Q, _) => some Q))
theorem fd_so_some {P L : List Nat} (h : fd_so P = some L) : ∃ G R, fd_gg P (fd_der 1 (fd_tl P)) = some G ∧ fd_ln G ≠ 0 ∧ fd_dv P G = some (L, R) := by
  unfold fd_so at h
  cases c : fd_gg P (fd_der 1 (fd_tl P)) with
  | none =>
    rw [c] at h
    exact absurd h (by simp)
  | some G =>
    rw [c] at h
    have h1 : fd_lf G (fun G => cond (Nat.beq (fd_ln G) 0) none (match fd_dv P G with
      | none => none
      | some (Q, _) => some Q)) = some L := h
    rw [fd_lf_eq] at h1
    by_cases l : fd_ln G = 0
    · rw [fd_beq_t l] at h1
      exact absurd h1 (by simp)
    rw [fd_beq_f l] at h1
    have h2 : (match fd_dv P G with
      | none => none
      | some (Q, _) => some Q) = some L := h1
    cases d : fd_dv P G with
    | none =>
      rw [d] at h2
      exact absurd h2 (by simp)
    | some QR =>
      rw [d] at h2
      have h3 : QR.1 = L := Option.some.inj h2
      exact ⟨G, QR.2, rfl, l, by rw [← h3]; exact d⟩
section
variable {fc lc dc : Int32} {mo pr : Int64} {a1 a3 : Nat → Int64} {a2 a4 a5 a6 : Nat → Int32} {M : Nat → List Nat}
theorem fd_splitOff {post : St2 → Prop} (h : fd_RR M a1) {L : List Nat} (hL : fd_so (M 4) = some L)
    (H : ∀ M' s mo' pr', (∀ k, k < 5 → M' k = M k) → M' 5 = L → fd_RR M' s → post (fc, mo', pr', lc, dc, s, a2, a3, a4, a5, a6)) :
    wpX_splitOffMultiple post (fc, mo, pr, lc, dc, a1, a2, a3, a4, a5, a6) := by
  obtain ⟨G, R, e1, e2, e3⟩ := fd_so_some hL
  refine fd_deriveInto h 24 4 (by omega) (by omega) (by omega) (fun s1 h1 => ?_)
  refine fd_greatestCommon h1 23 4 24 (by omega) (by omega) (by omega) (by omega) (T := G) (by rw [fd_up_n (by omega), fd_up_s]; exact e1) (fun M2 s2 mo2 pr2 f2 g2 h2 => ?_)
  have g4 : M2 4 = M 4 := by
    rw [f2 4 (by omega) (by omega) (by omega) (by omega) (by omega) (by omega) (by omega), fd_up_n (by omega)]
  refine fd_divide h2 4 23 (by omega) (by omega) (by omega) (by omega) (by rw [g2]; exact e2) (fun z => ?_) (fun Q' R' z s3 h3 => ?_)
  · rw [g4, g2, e3] at z
    exact absurd z (by simp)
  · rw [g4, g2, e3] at z
    have e := Option.some.inj z
    have eq : L = Q' := congrArg Prod.fst e
    refine fd_copy h3 5 9 (by omega) (by omega) (fun s4 h4 => H _ s4 mo2 pr2 (fun k hk => ?_) ?_ h4)
    · rw [fd_up_n (by omega), fd_up_n (by omega), fd_up_n (by omega), f2 k (by omega) (by omega) (by omega) (by omega) (by omega) (by omega) (by omega), fd_up_n (by omega)]
    · rw [fd_up_s, fd_up_n (by omega), fd_up_s, eq]
end
/-- isGoodPrime -/
def fd_gp (p : Nat) (L : List Nat) : Option Bool := match fd_rem (fd_ld L) p with
  | 0 => some false
  | _ + 1 => match fd_cn p p L (fd_der 1 (fd_tl L)) with
    | none => none
    | some G => some (Nat.beq (fd_ln G) 1)
section
variable {fc lc dc : Int32} {mo pr : Int64} {a1 a3 : Nat → Int64} {a2 a4 a5 a6 : Nat → Int32} {M : Nat → List Nat}
theorem fd_isGood {post : Int32 → St2 → Prop} {q : Int64} {g : Bool} (h : fd_RR M a1) (hq : fd_tN q ≠ 0) (hg : fd_gp (fd_tN q) (M 5) = some g)
    (H : ∀ M' s, (∀ k, k ≠ 8 → k ≠ 9 → k ≠ 10 → k ≠ 23 → k ≠ 24 → M' k = M k) → fd_RR M' s → post (cond g 1 0) (fc, q, q, lc, dc, s, a2, a3, a4, a5, a6)) :
    wpX_isGoodPrime post (fc, mo, pr, lc, dc, a1, a2, a3, a4, a5, a6) q := by
  have hq0 : ¬ q = 0 := fun z => hq (fd_eq0.mp z)
  unfold wpX_isGoodPrime
  dsimp only
  refine fd_leadOf h 5 (by omega) (fun r hr => ⟨hq0, br_c (fun z => ?_) (fun z => ?_)⟩)
  · rw [fd_eq0, fd_tN_rem, hr] at z
    unfold fd_gp at hg
    rw [z] at hg
    have e : false = g := Option.some.inj hg
    subst e
    exact H M a1 (fun _ _ _ _ _ _ => rfl) h
  · rw [fd_eq0, fd_tN_rem, hr] at z
    obtain ⟨n, en⟩ := Nat.exists_eq_succ_of_ne_zero z
    unfold fd_gp at hg
    rw [en] at hg
    have hg1 : (match fd_cn (fd_tN q) (fd_tN q) (M 5) (fd_der 1 (fd_tl (M 5))) with
      | none => none
      | some G => some (Nat.beq (fd_ln G) 1)) = some g := hg
    cases c : fd_cn (fd_tN q) (fd_tN q) (M 5) (fd_der 1 (fd_tl (M 5))) with
    | none =>
      rw [c] at hg1
      exact absurd hg1 (by simp)
    | some G =>
      rw [c] at hg1
      have e : Nat.beq (fd_ln G) 1 = g := Option.some.inj hg1
      refine fd_deriveInto h 24 5 (by omega) (by omega) (by omega) (fun s1 h1 => fd_commonModulo h1 hq hq 23 5 24 (by omega) (by omega) (by omega) (by omega) (by omega) (by omega) (by omega) (G := G) (by rw [fd_up_n (by omega), fd_up_s]; exact c) (fun M2 s2 f2 g2 h2 => fd_degreeOf h2 23 (by omega) ?_))
      have hl := fd_ln12 h2 (k := 23) (by omega)
      have hf : ∀ k, k ≠ 8 → k ≠ 9 → k ≠ 10 → k ≠ 23 → k ≠ 24 → M2 k = M k := by
        intro k k1 k2 k3 k4 k5
        rw [f2 k k4 k1 k2 k3, fd_up_n k5]
      rw [g2]
      rw [g2] at hl
      refine br_c (fun y => ?_) (fun y => ?_)
      · rw [fd_di_eq0 (by omega)] at y
        rw [fd_beq_t y] at e
        subst e
        exact H M2 s2 hf h2
      · rw [fd_di_eq0 (by omega)] at y
        rw [fd_beq_f y] at e
        subst e
        exact H M2 s2 hf h2
end
/-- choosePrime, where 3, 5 or 7 serves -/
def fd_cp (L : List Nat) : Option Nat := match fd_gp 3 L with
  | none => none
  | some true => some 3
  | some false => match fd_gp 5 L with
    | none => none
    | some true => some 5
    | some false => match fd_gp 7 L with
      | none => none
      | some true => some 7
      | some false => none
theorem fd_tN3 : fd_tN 3 = 3 := by decide
theorem fd_tN5 : fd_tN 5 = 5 := by decide
theorem fd_tN7 : fd_tN 7 = 7 := by decide
theorem fd_cp_some {L : List Nat} {p : Nat} (h : fd_cp L = some p) : (p = 3 ∧ fd_gp 3 L = some true) ∨ (p = 5 ∧ fd_gp 3 L = some false ∧ fd_gp 5 L = some true) ∨ (p = 7 ∧ fd_gp 3 L = some false ∧ fd_gp 5 L = some false ∧ fd_gp 7 L = some true) := by
  unfold fd_cp at h
  cases c3 : fd_gp 3 L with
  | none =>
    rw [c3] at h
    exact absurd h (by simp)
  | some g3 =>
    rw [c3] at h
    cases g3 with
    | true => exact Or.inl ⟨(Option.some.inj h).symm, rfl⟩
    | false =>
      cases c5 : fd_gp 5 L with
      | none =>
        rw [c5] at h
        exact absurd h (by simp)
      | some g5 =>
        rw [c5] at h
        cases g5 with
        | true => exact Or.inr (Or.inl ⟨(Option.some.inj h).symm, rfl, rfl⟩)
        | false =>
          cases c7 : fd_gp 7 L with
          | none =>
            rw [c7] at h
            exact absurd h (by simp)
          | some g7 =>
            rw [c7] at h
            cases g7 with
            | true => exact Or.inr (Or.inr ⟨(Option.some.inj h).symm, rfl, rfl, rfl⟩)
            | false => exact absurd h (by simp)
section
variable {fc lc dc : Int32} {mo pr : Int64} {a1 a3 : Nat → Int64} {a2 a4 a5 a6 : Nat → Int32} {M : Nat → List Nat}
theorem fd_cp4 {post : St2 → Prop} {n : Nat} {q : Int64} {g : Bool} (h : fd_RR M a1) (hq : fd_tN q ≠ 0) (hg : fd_gp (fd_tN q) (M 5) = some g)
    (H1 : g = true → ∀ M' s, (∀ k, k ≠ 8 → k ≠ 9 → k ≠ 10 → k ≠ 23 → k ≠ 24 → M' k = M k) → fd_RR M' s → post (fc, q, q, lc, dc, s, a2, a3, a4, a5, a6))
    (H0 : g = false → ∀ M' s, (∀ k, k ≠ 8 → k ≠ 9 → k ≠ 10 → k ≠ 23 → k ≠ 24 → M' k = M k) → fd_RR M' s → ∃ f, wX_choosePrime_18 post (wX_choosePrime_4 post n) fc q q lc dc s a2 a3 a4 a5 a6 f (q + 2)) :
    wX_choosePrime_4 post (n + 1) q fc mo pr lc dc a1 a2 a3 a4 a5 a6 := by
  unfold wX_choosePrime_4
  refine fd_isGood h hq hg (fun M1 s1 f1 h1 => ?_)
  cases g with
  | true => exact br_f (by decide) (H1 rfl M1 s1 f1 h1)
  | false => exact br_t rfl (nm_e (H0 rfl M1 s1 f1 h1))
theorem fd_cp18a {post : St2 → Prop} {J : Int64 → Int32 → Int64 → Int64 → Int32 → Int32 → (Nat → Int64) → (Nat → Int32) → (Nat → Int64) → (Nat → Int32) → (Nat → Int32) → (Nat → Int32) → Prop} (h : J 5 fc mo pr lc dc a1 a2 a3 a4 a5 a6) :
    ∃ f, wX_choosePrime_18 post J fc mo pr lc dc a1 a2 a3 a4 a5 a6 f (3 + 2) := by
  refine ⟨1, ⟨by decide, br_f (by decide) ⟨by decide, br_t (by decide) (br_f (by decide) ⟨by decide, br_f (by decide) ?_⟩)⟩⟩⟩
  exact h
theorem fd_cp18b {post : St2 → Prop} {J : Int64 → Int32 → Int64 → Int64 → Int32 → Int32 → (Nat → Int64) → (Nat → Int32) → (Nat → Int64) → (Nat → Int32) → (Nat → Int32) → (Nat → Int32) → Prop} (h : J 7 fc mo pr lc dc a1 a2 a3 a4 a5 a6) :
    ∃ f, wX_choosePrime_18 post J fc mo pr lc dc a1 a2 a3 a4 a5 a6 f (5 + 2) := by
  refine ⟨1, ⟨by decide, br_f (by decide) ⟨by decide, br_f (by decide) ⟨by decide, br_t (by decide) (br_t (by decide) ?_)⟩⟩⟩⟩
  exact h
theorem fd_choosePrime {post : St2 → Prop} {p : Nat} (h : fd_RR M a1) (hp : fd_cp (M 5) = some p)
    (H : ∀ M' s q, fd_tN q = p → (∀ k, k ≠ 8 → k ≠ 9 → k ≠ 10 → k ≠ 23 → k ≠ 24 → M' k = M k) → fd_RR M' s → post (fc, q, q, lc, dc, s, a2, a3, a4, a5, a6)) :
    wpX_choosePrime post (fc, mo, pr, lc, dc, a1, a2, a3, a4, a5, a6) := by
  rcases fd_cp_some hp with ⟨e, c⟩ | ⟨e, c, c2⟩ | ⟨e, c, c2, c3⟩
  · subst e
    exact ⟨0 + 1, fd_cp4 h (by decide) (g := true) (by rw [fd_tN3]; exact c) (fun _ M1 s1 f1 h1 => H M1 s1 3 fd_tN3 f1 h1) (fun z => absurd z (by decide))⟩
  · subst e
    refine ⟨(0 + 1) + 1, fd_cp4 h (by decide) (g := false) (by rw [fd_tN3]; exact c) (fun z => absurd z (by decide)) (fun _ M1 s1 f1 h1 => fd_cp18a ?_)⟩
    have g5 : M1 5 = M 5 := f1 5 (by omega) (by omega) (by omega) (by omega) (by omega)
    refine fd_cp4 h1 (by decide) (g := true) (by rw [fd_tN5, g5]; exact c2) (fun _ M2 s2 f2 h2 => H M2 s2 5 fd_tN5 (fun k k1 k2 k3 k4 k5 => ?_) h2) (fun z => absurd z (by decide))
    rw [f2 k k1 k2 k3 k4 k5, f1 k k1 k2 k3 k4 k5]
  · subst e
    refine ⟨((0 + 1) + 1) + 1, fd_cp4 h (by decide) (g := false) (by rw [fd_tN3]; exact c) (fun z => absurd z (by decide)) (fun _ M1 s1 f1 h1 => fd_cp18a ?_)⟩
    have g5 : M1 5 = M 5 := f1 5 (by omega) (by omega) (by omega) (by omega) (by omega)
    refine fd_cp4 h1 (by decide) (g := false) (by rw [fd_tN5, g5]; exact c2) (fun z => absurd z (by decide)) (fun _ M2 s2 f2 h2 => fd_cp18b ?_)
    have g5' : M2 5 = M 5 := by rw [f2 5 (by omega) (by omega) (by omega) (by omega) (by omega), g5]
    refine fd_cp4 h2 (by decide) (g := true) (by rw [fd_tN7, g5']; exact c3) (fun _ M3 s3 f3 h3 => H M3 s3 7 fd_tN7 (fun k k1 k2 k3 k4 k5 => ?_) h3) (fun z => absurd z (by decide))
    rw [f3 k k1 k2 k3 k4 k5, f2 k k1 k2 k3 k4 k5, f1 k k1 k2 k3 k4 k5]
end
end
section
/-! times x; the matrix -/
theorem fd_take_cf : ∀ (L : List Nat) (n i : Nat), fd_cf (L.take n) i = if i < n then fd_cf L i else 0
  | [], n, i => by
    rw [List.take_nil, fd_cf_nil]
    split <;> rfl
  | x :: t, 0, i => by
    rw [if_neg (by omega)]
    show fd_cf [] i = 0
    exact fd_cf_nil i
  | x :: t, n + 1, 0 => by
    rw [if_pos (by omega)]
    rfl
  | x :: t, n + 1, i + 1 => by
    show fd_cf (t.take n) i = _
    rw [fd_take_cf t n i]
    by_cases c : i < n
    · rw [if_pos c, if_pos (by omega)]
      rfl
    · rw [if_neg c, if_neg (by omega)]
def fd_tu (m n : Nat) (B S : List Nat) : List Nat := fd_lf (0 :: S.take n) (fun L => fd_nf (fd_cf L n) (fun x => fd_s0 (fun s b => fd_rest m (fd_sub s (fd_rem (fd_mul x b) m))) B L))
theorem fd_tu_eq (m n : Nat) (B S : List Nat) : fd_tu m n B S = fd_s0 (fun s b => fd_rest m (fd_sub s (fd_rem (fd_mul (fd_cf (0 :: S.take n) n) b) m))) B (0 :: S.take n) := by
  unfold fd_tu
  rw [fd_lf_eq, fd_nf_eq]
theorem fd_tu_len {m n : Nat} {B S : List Nat} (hB : B.length = n + 1) : (fd_tu m n B S).length ≤ n + 1 := by
  rw [fd_tu_eq]
  refine fd_s0_len _ _ _ _ (by omega) ?_
  rw [List.length_cons, List.length_take]
  omega
section
variable {fc lc dc : Int32} {mo pr : Int64} {a1 a3 : Nat → Int64} {a2 a4 a5 a6 : Nat → Int32} {M : Nat → List Nat}
theorem fd_tu72 {post : St2 → Prop} {x4 : Int64} {t b n : Nat} (h : fd_RR M a1) (hm : fd_tN mo ≠ 0) (ht : t < 26) (hb : b < 26) (hne : b ≠ t) (hB : fd_ln (M b) = n + 1) (hn : n < 12)
    (H : ∀ s, fd_RR (fd_up M t (fd_s0 (fun s c => fd_rest (fd_tN mo) (fd_sub s (fd_rem (fd_mul (fd_tN x4) c) (fd_tN mo)))) (fd_tr (M b)) (M t))) s → post (fc, mo, pr, lc, dc, s, a2, a3, a4, a5, a6)) :
    ∃ f, wX_timesUnknown_72 post (nI t) (nI b) (nI n) x4 fc mo pr lc dc f 0 a1 a2 a3 a4 a5 a6 := by
  have hdl : (fd_tr (M b)).length = n + 1 := by rw [fd_tr_len, hB]
  have hmo : ¬ mo = 0 := fun z => hm (fd_eq0.mp z)
  refine fd_wl (W := fun f k s => wX_timesUnknown_72 post (nI t) (nI b) (nI n) x4 fc mo pr lc dc f (nI k) s a2 a3 a4 a5 a6) a1 (12 * t + 0) (n + 1)
    (fun k => fd_rest (fd_tN mo) (fd_sub (fd_cf (M t) k) (fd_rem (fd_mul (fd_tN x4) (fd_cf (M b) k)) (fd_tN mo)))) ?_ ?_
  · intro f s hs
    refine pk_lt n (n + 1) (fun _ => H s ?_) (fun z => absurd z (by omega))
    refine fd_lo_RP h hs (by omega) (fd_s0_len _ _ _ 12 (by omega) (h t ht).1) (fun j hj => ?_)
    rw [fd_s0_cf, hdl]
    by_cases c : j < n + 1
    · rw [if_pos c, if_pos (by omega), fd_tr_cf]
      rfl
    · rw [if_neg c, if_neg (by omega)]
  · intro f k s hk hs hw
    refine pk_lt n k (fun z => absurd z (by omega)) (fun _ => ⟨fd_ixi ht (by omega), fd_ixi hb (by omega), hmo, fd_restW hm (fun r hr => ⟨fd_ixi ht (by omega), nm_r (by rw [fd_cx ht (by omega)]; rfl) (nm_r (nI_1 k) (hw r ?_))⟩)⟩)
    rw [hr, fd_tN_sub, fd_tN_rem, fd_tN_mul, fd_cx ht (by omega), fd_cx hb (by omega), hs.2 _ (by omega), hs.2 _ (by omega), fd_rd h hb (by omega), fd_rd h ht (by omega)]
theorem fd_timesUnknown {post : St2 → Prop} (h : fd_RR M a1) (hm : fd_tN mo ≠ 0) (t b : Nat) (ht : t < 26) (hb : b < 26) (hne : b ≠ t) {n : Nat} (hB : fd_ln (M b) = n + 1) (hS : (M t).length ≤ n + 1)
    (H : ∀ s, fd_RR (fd_up M t (fd_tu (fd_tN mo) n (fd_tr (M b)) (M t))) s → post (fc, mo, pr, lc, dc, s, a2, a3, a4, a5, a6)) :
    wpX_timesUnknown post (fc, mo, pr, lc, dc, a1, a2, a3, a4, a5, a6) (nI t) (nI b) := by
  unfold wpX_timesUnknown
  dsimp only
  have hn : n < 12 := by
    have := fd_ln12 h hb
    omega
  refine fd_degreeOf h b hb ?_
  rw [hB, fd_di_s]
  refine ⟨_, pk_loopD (fun f k s => wX_timesUnknown_9 post (nI t) (nI b) (nI n) fc mo pr lc dc f (nI k) s a2 a3 a4 a5 a6)
    (fun k s => k ≤ n ∧ (∀ j, j < 12 → fd_tN (s (12 * t + j)) = if k < j ∧ j ≤ n then fd_cf (M t) (j - 1) else fd_cf (M t) j) ∧ (∀ j, (j < 12 * t ∨ 12 * t + 12 ≤ j) → s j = a1 j)) ?_ ?_ n a1 ⟨Nat.le_refl n, fun j hj => ?_, fun _ _ => rfl⟩⟩
  · intro f s hs
    have e0 : (12 : Int32) * nI t = nI (12 * t + 0) := by
      show nI 12 * nI t = _
      rw [pk_mul]
      rfl
    have e1 : ((12 : Int32) * nI t).toNatClampNeg = 12 * t + 0 := by rw [e0, nI_clamp (by omega)]
    refine pk_le 0 0 (fun _ => ⟨pk_in (12 * t + 0) 312 (by omega) e0, nm_r (by rw [e1]) ⟨fd_ixi ht (by omega), nm_r (by rw [fd_cx ht (by omega)]) ?_⟩⟩) (fun z => absurd z (by omega))
    have h1 : fd_RR (fd_up M t (0 :: (M t).take n)) (vp_updL s (12 * t + 0) 0) := by
      intro q hq
      by_cases e : q = t
      · subst e
        rw [fd_up_s]
        refine ⟨by rw [List.length_cons, List.length_take]; omega, fun i hi => ?_⟩
        cases i with
        | zero => rw [pk_uLs]; exact fd_tN0
        | succ i =>
          rw [pk_uLn (by omega), hs.2.1 (i + 1) hi]
          show _ = fd_cf ((M q).take n) i
          rw [fd_take_cf]
          by_cases c : i < n
          · rw [if_pos (by omega), if_pos c]
            rfl
          · rw [if_neg (by omega), if_neg c]
            exact fd_cf_big _ _ (by omega)
      · rw [fd_up_n e]
        refine ⟨(h q hq).1, fun i hi => ?_⟩
        rw [pk_uLn (by omega), hs.2.2 _ (by omega)]
        exact (h q hq).2 i hi
    have eb : fd_up M t (0 :: (M t).take n) b = M b := fd_up_n hne
    refine fd_tu72 h1 hm ht hb hne (by rw [eb]; exact hB) hn (fun s' hs' => H s' ?_)
    rw [eb, fd_up_up, fd_rd h1 ht (by omega), fd_up_s] at hs'
    rw [fd_tu_eq]
    exact hs'
  · intro f k s hs hw
    have e1 : (12 : Int32) * nI t + nI (k + 1) - 1 = nI (12 * t + k) := by
      rw [fd_ix]
      exact nI_pred (12 * t + k)
    have e2 : ((12 : Int32) * nI t + nI (k + 1) - 1).toNatClampNeg = 12 * t + k := by
      have := hs.1
      rw [e1, nI_clamp (by omega)]
    refine pk_le (k + 1) 0 (fun z => absurd z (by omega)) (fun _ => ⟨pk_in (12 * t + k) 312 (by have := hs.1; omega) e1, fd_ixi ht (by have := hs.1; omega), nm_r (by rw [fd_cx ht (by have := hs.1; omega), e2]) (nm_r (pk_m1 k) (hw _ ⟨by have := hs.1; omega, fun j hj => ?_, fun j hj => ?_⟩))⟩) (ha := by have := hs.1; omega)
    · have h1 := hs.1
      by_cases c : j = k + 1
      · rw [c, pk_uLs, if_pos (by omega), hs.2.1 k (by omega), if_neg (by omega)]
        rfl
      · rw [pk_uLn (by omega), hs.2.1 j hj]
        by_cases c2 : k + 1 < j ∧ j ≤ n
        · rw [if_pos c2, if_pos (by omega)]
        · rw [if_neg c2, if_neg (by omega)]
    · have h1 := hs.1
      rw [pk_uLn (by omega)]
      exact hs.2.2 j hj
  · rw [if_neg (by omega)]
    exact fd_rd h ht hj
end
/-- rows of numbers -/
def fd_rw : List (List Nat) → Nat → List Nat
  | [], _ => []
  | x :: _, 0 => x
  | _ :: t, n + 1 => fd_rw t n
def fd_tt (G : Nat → List Nat) : Nat → Nat → List (List Nat)
  | 0, _ => []
  | n + 1, k => G k :: fd_tt G n (Nat.succ k)
theorem fd_tt_rw (G : Nat → List Nat) : ∀ (n k j : Nat), j < n → fd_rw (fd_tt G n k) j = G (k + j)
  | 0, k, j, h => absurd h (by omega)
  | n + 1, k, 0, h => rfl
  | n + 1, k, j + 1, h => by
    show fd_rw (fd_tt G n (k + 1)) j = _
    rw [fd_tt_rw G n (k + 1) j (by omega)]
    congr 1
    omega
def fd_rf {α : Type} : List (List Nat) → (List (List Nat) → α) → α
  | [], f => f []
  | x :: t, f => fd_lf x (fun y => fd_rf t (fun s => f (y :: s)))
theorem fd_rf_eq {α : Type} : ∀ (L : List (List Nat)) (f : List (List Nat) → α), fd_rf L f = f L
  | [], f => rfl
  | x :: t, f => by
    show fd_lf x (fun y => fd_rf t (fun s => f (y :: s))) = _
    rw [fd_lf_eq, fd_rf_eq t]
/-- the matrix holds the rows X -/
def fd_RM (n : Nat) (X : List (List Nat)) (a : Nat → Int64) : Prop := ∀ r c, r < n → c < n → fd_tN (a (5 * r + c)) = fd_cf (fd_rw X r) c
/-- x times, t times -/
def fd_tx (m n : Nat) (B : List Nat) : Nat → List Nat → List Nat
  | 0, W => W
  | t + 1, W => fd_lf (fd_tu m n B W) (fun W' => fd_tx m n B t W')
theorem fd_tx_s (m n : Nat) (B : List Nat) (t : Nat) (W : List Nat) : fd_tx m n B (t + 1) W = fd_tx m n B t (fd_tu m n B W) := by
  show fd_lf _ _ = _
  rw [fd_lf_eq]
def fd_col (m n i : Nat) (W : List Nat) : List Nat := fd_tb (fun k => fd_rest m (fd_sub (fd_cf W k) (cond (Nat.beq k i) 1 0))) n 0
def fd_cols (m n p : Nat) (B : List Nat) : Nat → Nat → List Nat → List (List Nat)
  | 0, _, _ => []
  | c + 1, i, W => fd_lf (fd_col m n i W) (fun y => y :: fd_lf (fd_tx m n B p W) (fun W' => fd_cols m n p B c (Nat.succ i) W'))
theorem fd_cols_s (m n p : Nat) (B : List Nat) (c i : Nat) (W : List Nat) : fd_cols m n p B (c + 1) i W = fd_col m n i W :: fd_cols m n p B c (i + 1) (fd_tx m n B p W) := by
  show fd_lf _ _ = _
  rw [fd_lf_eq, fd_lf_eq]
section
variable {fc lc dc : Int32} {mo pr : Int64} {a1 a3 : Nat → Int64} {a2 a4 a5 a6 : Nat → Int32} {M : Nat → List Nat}
theorem fd_sh_le {p k : Nat} (hp : p < 2147483648) (hk : k < 2147483648) : fd_sh p ≤ fd_sh k ↔ p ≤ k := by
  rw [fd_sh_eq, fd_sh_eq]
  omega
theorem fd_sh_lt {p k : Nat} (hp : p < 2147483648) (hk : k < 2147483648) : fd_sh p < fd_sh k ↔ p < k := by
  rw [fd_sh_eq, fd_sh_eq]
  omega
theorem fd_tN_nI {k : Nat} (hk : k < 2147483648) : fd_tN (nI k).toInt64 = k := by
  rw [nI_l (by omega), fd_tN_lN (by omega)]
theorem fd_fm72 {post : St2 → Prop} {J : Int32 → Int32 → Int64 → Int64 → Int32 → Int32 → (Nat → Int64) → (Nat → Int32) → (Nat → Int64) → (Nat → Int32) → (Nat → Int32) → (Nat → Int32) → Prop} {n i p : Nat} {x1 : Int32} (hm : fd_tN mo ≠ 0) (hpr : fd_tN pr = p) (hp : p < 1000) (hB : fd_ln (M 24) = n + 1) :
    ∀ (f k : Nat) (W : List Nat) (s : Nat → Int64), k + f = p → W.length ≤ n + 1 → fd_RR (fd_up M 23 W) s →
    (∀ s, fd_RR (fd_up M 23 (fd_tx (fd_tN mo) n (fd_tr (M 24)) f W)) s → J (nI (i + 1)) fc mo pr lc dc s a2 a3 a4 a5 a6) →
    wX_fillMatrix_72 post J x1 (nI i) (f + 1) (nI k) fc mo pr lc dc s a2 a3 a4 a5 a6 := by
  intro f
  induction f with
  | zero =>
    intro k W s hk hW hs H
    refine br_t ?_ (nm_r (nI_1 i) (H s hs))
    rw [fd_le, hpr, fd_tN_nI (by omega), fd_sh_le (by omega) (by omega)]
    omega
  | succ f ih =>
    intro k W s hk hW hs H
    refine br_f ?_ ?_
    · rw [fd_le, hpr, fd_tN_nI (by omega), fd_sh_le (by omega) (by omega)]
      omega
    · have e24 : fd_up M 23 W 24 = M 24 := fd_up_n (by omega)
      have e23 : fd_up M 23 W 23 = W := fd_up_s
      refine fd_timesUnknown hs hm 23 24 (by omega) (by omega) (by omega) (n := n) (by rw [e24]; exact hB) (by rw [e23]; exact hW) (fun s' hs' => nm_r (nI_1 k) ?_)
      rw [e24, e23, fd_up_up] at hs'
      refine ih (k + 1) _ s' (by omega) (fd_tu_len (by rw [fd_tr_len, hB])) hs' (fun s'' hs'' => H s'' ?_)
      rw [fd_tx_s]
      exact hs''
theorem fd_ix23 (k : Nat) : (276 : Int32) + nI k = nI (12 * 23 + k) := by
  show nI 276 + nI k = _
  rw [nI_add]
theorem fd_ix5 (k i : Nat) : (5 : Int32) * nI k + nI i = nI (5 * k + i) := by
  show nI 5 * nI k + nI i = _
  rw [pk_mul, nI_add]
theorem fd_cx5 {k i : Nat} (hk : k < 1000) (hi : i < 1000) : ((5 : Int32) * nI k + nI i).toNatClampNeg = 5 * k + i := by
  rw [fd_ix5, nI_clamp (by omega)]
theorem fd_ixi5 {k i : Nat} (hk : k < 5) (hi : i < 5) : vp_in ((5 : Int32) * nI k + nI i) 25 := pk_in (5 * k + i) 25 (by omega) (fd_ix5 k i)
theorem fd_fm24 {post : St2 → Prop} {J : Int32 → Int32 → Int64 → Int64 → Int32 → Int32 → (Nat → Int64) → (Nat → Int32) → (Nat → Int64) → (Nat → Int32) → (Nat → Int32) → (Nat → Int32) → Prop} {n i : Nat} (h : fd_RR M a1) (hm : fd_tN mo ≠ 0) (hn : n ≤ 5) (hi : i < n)
    (H : ∀ a, (∀ r, r < n → fd_tN (a (5 * r + i)) = fd_cf (fd_col (fd_tN mo) n i (M 23)) r) → (∀ r c, c < 5 → c ≠ i → a (5 * r + c) = a3 (5 * r + c)) → ∃ f, wX_fillMatrix_72 post J (nI n) (nI i) f 0 fc mo pr lc dc a1 a2 a a4 a5 a6) :
    ∃ f, wX_fillMatrix_24 post J (nI n) (nI i) fc mo pr lc dc f 0 a1 a2 a3 a4 a5 a6 := by
  refine pk_loop (fun f k a => wX_fillMatrix_24 post J (nI n) (nI i) fc mo pr lc dc f (nI k) a1 a2 a a4 a5 a6) (fun k a => (∀ r, r < k → fd_tN (a (5 * r + i)) = fd_cf (fd_col (fd_tN mo) n i (M 23)) r) ∧ (∀ r c, c < 5 → c ≠ i → a (5 * r + c) = a3 (5 * r + c))) n 0 a3 (by omega) ⟨fun r hr => absurd hr (by omega), fun _ _ _ _ => rfl⟩ ?_ ?_
  · intro f a ha
    exact pk_le n n (fun _ => H a ha.1 ha.2) (fun z => absurd z (by omega))
  · intro f k a hk ha hw
    have hin : vp_in ((276 : Int32) + nI k) 312 := pk_in (12 * 23 + k) 312 (by omega) (fd_ix23 k)
    have ecx : ((276 : Int32) + nI k).toNatClampNeg = 12 * 23 + k := by rw [fd_ix23, nI_clamp (by omega)]
    have key : ∀ z0 : Int64, fd_tN z0 = cond (Nat.beq k i) 1 0 → wX_fillMatrix_59 post J (wX_fillMatrix_24 post J (nI n) (nI i) fc mo pr lc dc f) (nI n) (nI i) (nI k) z0 (a1 ((276 : Int32) + nI k).toNatClampNeg) ((5 : Int32) * nI k + nI i) fc mo pr lc dc a1 a2 a a4 a5 a6 := by
      intro z0 hz
      refine fd_restW hm (fun r hr => ⟨fd_ixi5 (by omega) (by omega), nm_r (by rw [fd_cx5 (by omega) (by omega)]) (nm_r (nI_1 k) (hw _ ⟨fun q hq => ?_, fun q c hc hci => ?_⟩))⟩)
      · by_cases e : q = k
        · rw [e, pk_uLs, hr, fd_tN_sub, ecx, fd_rd h (by omega) (by omega), hz]
          unfold fd_col
          rw [fd_tb_cf _ _ _ _ hk, Nat.zero_add]
        · rw [pk_uLn (by omega)]
          exact ha.1 q (by omega)
      · rw [pk_uLn (by omega)]
        exact ha.2 q c hc hci
    refine pk_le n k (fun z => absurd z (by omega)) (fun _ => ⟨hin, pk_eq k i (fun z => key 1 ?_) (fun z => key 0 ?_)⟩)
    · rw [fd_beq_t z]
      exact fd_tN1
    · rw [fd_beq_f z]
      exact fd_tN0
theorem fd_fm17 {post : St2 → Prop} {n p : Nat} (hm : fd_tN mo ≠ 0) (hpr : fd_tN pr = p) (hp : p < 1000) (hn : n ≤ 5) (hB : fd_ln (M 24) = n + 1) :
    ∀ (c i : Nat) (W : List Nat) (s a : Nat → Int64), i + c = n → W.length ≤ n + 1 → fd_RR (fd_up M 23 W) s →
    (∀ W' s' b, fd_RR (fd_up M 23 W') s' → (∀ r q, r < n → q < c → fd_tN (b (5 * r + (i + q))) = fd_cf (fd_rw (fd_cols (fd_tN mo) n p (fd_tr (M 24)) c i W) q) r) → (∀ r q, q < i → b (5 * r + q) = a (5 * r + q)) → post (fc, mo, pr, lc, dc, s', a2, b, a4, a5, a6)) →
    wX_fillMatrix_17 post (nI n) (c + 1) (nI i) fc mo pr lc dc s a2 a a4 a5 a6 := by
  intro c
  induction c with
  | zero =>
    intro i W s a hi hW hs H
    exact pk_le n i (fun _ => H W s a hs (fun r q _ hq => absurd hq (by omega)) (fun _ _ _ => rfl)) (fun z => absurd z (by omega))
  | succ c ih =>
    intro i W s a hi hW hs H
    have e23 : fd_up M 23 W 23 = W := fd_up_s
    refine pk_le n i (fun z => absurd z (by omega)) (fun _ => fd_fm24 hs hm hn (by omega) (fun b hb1 hb2 => ⟨p + 1, fd_fm72 (M := M) hm hpr hp hB p 0 W s (by omega) hW hs (fun s' hs' => ?_)⟩))
    rw [e23] at hb1
    have hW' : (fd_tx (fd_tN mo) n (fd_tr (M 24)) p W).length ≤ n + 1 := by
      have key : ∀ (t : Nat) (W : List Nat), W.length ≤ n + 1 → (fd_tx (fd_tN mo) n (fd_tr (M 24)) t W).length ≤ n + 1 := by
        intro t
        induction t with
        | zero => exact fun W h => h
        | succ t iht =>
          intro W h
          rw [fd_tx_s]
          exact iht _ (fd_tu_len (by rw [fd_tr_len, hB]))
      exact key p W hW
    refine ih (i + 1) _ s' b (by omega) hW' hs' (fun W2 s2 b2 h2 h3 h4 => H W2 s2 b2 h2 (fun r q hr hq => ?_) (fun r q hq => ?_))
    · rw [fd_cols_s]
      cases q with
      | zero =>
        show _ = fd_cf (fd_col (fd_tN mo) n i W) r
        rw [← hb1 r hr, ← h4 r i (by omega)]
        rfl
      | succ q =>
        show _ = fd_cf (fd_rw (fd_cols (fd_tN mo) n p (fd_tr (M 24)) c (i + 1) (fd_tx (fd_tN mo) n (fd_tr (M 24)) p W)) q) r
        rw [← h3 r q hr (by omega), show i + (q + 1) = i + 1 + q by omega]
    · rw [h4 r q (by omega), hb2 r q (by omega) (by omega)]
/-- the rows of the matrix -/
def fd_mat (m n p : Nat) (B : List Nat) : List (List Nat) := fd_rf (fd_cols m n p B n 0 [1]) (fun C => fd_tt (fun r => C.map (fun y => fd_cf y r)) n 0)
theorem fd_map_rw (r : Nat) : ∀ (C : List (List Nat)) (c : Nat), fd_cf (C.map (fun y => fd_cf y r)) c = fd_cf (fd_rw C c) r
  | [], c => by
    show fd_cf [] c = fd_cf (fd_rw [] c) r
    rw [fd_cf_nil]
    cases c <;> exact (fd_cf_nil r).symm
  | y :: C, 0 => rfl
  | y :: C, c + 1 => fd_map_rw r C c
theorem fd_fillMatrix {post : St2 → Prop} {n p : Nat} (h : fd_RR M a1) (hm : fd_tN mo ≠ 0) (hpr : fd_tN pr = p) (hp : p < 1000) (hn : n ≤ 5) (hB : fd_ln (M 24) = n + 1)
    (H : ∀ W s b, fd_RR (fd_up M 23 W) s → fd_RM n (fd_mat (fd_tN mo) n p (fd_tr (M 24))) b → post (fc, mo, pr, lc, dc, s, a2, b, a4, a5, a6)) :
    wpX_fillMatrix post (fc, mo, pr, lc, dc, a1, a2, a3, a4, a5, a6) (nI n) := by
  refine fd_clear h 23 (by omega) (fun s hs => nm_e ⟨n + 1, ?_⟩)
  have h1 : fd_RR (fd_up M 23 [1]) (vp_updL s 276 1) := by
    have := fd_RR_po (k := 23) (i := 0) (v := 1) (x := 1) (L := [1]) hs (by omega) fd_tN1 (by simp) (fun j hj => by
      rw [fd_up_s]
      cases j with
      | zero => rfl
      | succ j => rw [if_neg (by omega)]; rfl)
    rw [fd_up_up] at this
    exact this
  refine fd_fm17 (M := M) hm hpr hp hn hB n 0 [1] _ a3 (by omega) (by simp) h1 (fun W' s' b h2 h3 _ => H W' s' b h2 (fun r c hr hc => ?_))
  have := h3 r c hr hc
  rw [Nat.zero_add] at this
  rw [this]
  unfold fd_mat
  rw [fd_rf_eq, fd_tt_rw _ _ _ _ hr, fd_map_rw, Nat.zero_add]
end
end
section
/-! elimination and the solutions -/
def fd_swp (X : List (List Nat)) (n r q : Nat) : List (List Nat) := fd_tt (fun k => cond (Nat.beq k r) (fd_rw X q) (cond (Nat.beq k q) (fd_rw X r) (fd_rw X k))) n 0
theorem fd_swp_rw {X : List (List Nat)} {n r q i : Nat} (hi : i < n) : fd_rw (fd_swp X n r q) i = if i = r then fd_rw X q else if i = q then fd_rw X r else fd_rw X i := by
  unfold fd_swp
  rw [fd_tt_rw _ _ _ _ hi, Nat.zero_add]
  by_cases c : i = r
  · rw [fd_beq_t c, if_pos c]
    rfl
  · rw [fd_beq_f c, if_neg c]
    by_cases d : i = q
    · rw [fd_beq_t d, if_pos d]
      rfl
    · rw [fd_beq_f d, if_neg d]
      rfl
def fd_ccf (m f x v : Nat) : Nat := fd_rest m (fd_sub x (fd_rem (fd_mul f v) m))
theorem fd_ccf_0 (m f : Nat) : fd_ccf m f 0 0 = 0 := by
  unfold fd_ccf
  rw [fd_mul_0', fd_rem_0]
  exact fd_rest_0 m
def fd_ccr (m c : Nat) (x w : List Nat) : List Nat := match fd_cf x c with
  | 0 => x
  | k + 1 => fd_z2 (fd_ccf m (Nat.succ k)) x w
theorem fd_ccr_0 {m c : Nat} {x w : List Nat} (h : fd_cf x c = 0) : fd_ccr m c x w = x := by
  unfold fd_ccr
  rw [h]
theorem fd_ccr_n {m c : Nat} {x w : List Nat} (h : fd_cf x c ≠ 0) : fd_ccr m c x w = fd_z2 (fd_ccf m (fd_cf x c)) x w := by
  obtain ⟨k, e⟩ := Nat.exists_eq_succ_of_ne_zero h
  unfold fd_ccr
  rw [e]
def fd_ccl (m y : Nat) (X : List (List Nat)) (n row c : Nat) : List (List Nat) :=
  fd_lf ((fd_rw X row).map (fun x => fd_rem (fd_mul x y) m)) (fun w => fd_tt (fun r => cond (Nat.beq r row) w (fd_ccr m c (fd_rw X r) w)) n 0)
theorem fd_ccl_rw {m y : Nat} {X : List (List Nat)} {n row c i : Nat} (hi : i < n) : fd_rw (fd_ccl m y X n row c) i = if i = row then (fd_rw X row).map (fun x => fd_rem (fd_mul x y) m) else fd_ccr m c (fd_rw X i) ((fd_rw X row).map (fun x => fd_rem (fd_mul x y) m)) := by
  unfold fd_ccl
  rw [fd_lf_eq, fd_tt_rw _ _ _ _ hi, Nat.zero_add]
  by_cases c : i = row
  · rw [fd_beq_t c, if_pos c]
    rfl
  · rw [fd_beq_f c, if_neg c]
    rfl
section
variable {fc lc dc : Int32} {mo pr : Int64} {a1 a3 : Nat → Int64} {a2 a4 a5 a6 : Nat → Int32} {M : Nat → List Nat}
theorem fd_exchange {post : St2 → Prop} {n r q : Nat} {X : List (List Nat)} (hn : n ≤ 5) (hr : r < n) (hq : q < n) (hX : fd_RM n X a3) (H : ∀ b, fd_RM n (fd_swp X n r q) b → post (fc, mo, pr, lc, dc, a1, a2, b, a4, a5, a6)) :
    wpX_exchangeRows post (fc, mo, pr, lc, dc, a1, a2, a3, a4, a5, a6) (nI r) (nI q) (nI n) := by
  refine pk_loop (fun f k a => wX_exchangeRows_3 post (nI r) (nI q) (nI n) fc mo pr lc dc f (nI k) a1 a2 a a4 a5 a6) (fun k a => ∀ i c, i < n → c < n → fd_tN (a (5 * i + c)) = if c < k then fd_cf (fd_rw (fd_swp X n r q) i) c else fd_cf (fd_rw X i) c) n 0 a3 (by omega) (fun i c hi hc => ?_) ?_ ?_
  · rw [if_neg (by omega)]
    exact hX i c hi hc
  · intro f a ha
    refine pk_le n n (fun _ => H a (fun i c hi hc => ?_)) (fun z => absurd z (by omega))
    rw [ha i c hi hc, if_pos hc]
  · intro f k a hk ha hw
    have c1 : ((5 : Int32) * nI r + nI k).toNatClampNeg = 5 * r + k := fd_cx5 (by omega) (by omega)
    have c2 : ((5 : Int32) * nI q + nI k).toNatClampNeg = 5 * q + k := fd_cx5 (by omega) (by omega)
    refine pk_le n k (fun z => absurd z (by omega)) (fun _ => ⟨fd_ixi5 (by omega) (by omega), nm_r (by rw [c1]) ⟨fd_ixi5 (by omega) (by omega), fd_ixi5 (by omega) (by omega), nm_r (by rw [c1, c2]) ⟨fd_ixi5 (by omega) (by omega), nm_r (by rw [c2]) (nm_r (nI_1 k) (hw _ (fun i c hi hc => ?_)))⟩⟩⟩)
    have t1 := ha r k hr hk
    have t2 := ha q k hq hk
    have t3 := ha i c hi hc
    rw [if_neg (by omega)] at t1 t2
    by_cases e : c = k
    · rw [e, if_pos (by omega), fd_swp_rw hi]
      by_cases e1 : i = q
      · rw [e1, pk_uLs, t1]
        by_cases e2 : q = r
        · rw [if_pos e2, e2]
        · rw [if_neg e2, if_pos rfl]
      · rw [pk_uLn (by omega)]
        by_cases e2 : i = r
        · rw [e2, pk_uLs, if_pos rfl, t2]
        · rw [pk_uLn (by omega), if_neg e2, if_neg e1]
          rw [e, if_neg (by omega)] at t3
          exact t3
    · rw [pk_uLn (by omega), pk_uLn (by omega), t3]
      by_cases e1 : c < k
      · rw [if_pos e1, if_pos (by omega)]
      · rw [if_neg e1, if_neg (by omega)]
theorem fd_cc102 {post : St2 → Prop} {J : Int32 → (Nat → Int64) → (Nat → Int32) → (Nat → Int64) → (Nat → Int32) → (Nat → Int32) → (Nat → Int32) → Prop} {n row c r : Nat} {x7 : Int64} {G : Nat → List Nat} (hn : n ≤ 5) (hm : fd_tN mo ≠ 0) (hrow : row < n) (hr : r < n) (hne : r ≠ row)
    (hX : ∀ i k, i < n → k < n → fd_tN (a3 (5 * i + k)) = fd_cf (G i) k)
    (H : ∀ b, (∀ i k, i < n → k < n → fd_tN (b (5 * i + k)) = fd_cf (if i = r then fd_z2 (fd_ccf (fd_tN mo) (fd_tN x7)) (G r) (G row) else G i) k) → J (nI (r + 1)) a1 a2 b a4 a5 a6) :
    ∃ f, wX_clearColumn_102 post J (nI row) (nI c) (nI n) (nI r) x7 fc mo pr lc dc f 0 a1 a2 a3 a4 a5 a6 := by
  have hmo : ¬ mo = 0 := fun z => hm (fd_eq0.mp z)
  refine pk_loop (fun f k a => wX_clearColumn_102 post J (nI row) (nI c) (nI n) (nI r) x7 fc mo pr lc dc f (nI k) a1 a2 a a4 a5 a6) (fun k a => ∀ i q, i < n → q < n → fd_tN (a (5 * i + q)) = if i = r ∧ q < k then fd_cf (fd_z2 (fd_ccf (fd_tN mo) (fd_tN x7)) (G r) (G row)) q else fd_cf (G i) q) n 0 a3 (by omega) (fun i q hi hq => ?_) ?_ ?_
  · rw [if_neg (by omega)]
    exact hX i q hi hq
  · intro f a ha
    refine pk_le n n (fun _ => nm_r (nI_1 r) (H a (fun i k hi hk => ?_))) (fun z => absurd z (by omega))
    rw [ha i k hi hk]
    by_cases e : i = r
    · rw [if_pos e, if_pos ⟨e, hk⟩]
    · rw [if_neg e, if_neg (by omega)]
  · intro f k a hk ha hw
    have c1 : ((5 : Int32) * nI r + nI k).toNatClampNeg = 5 * r + k := fd_cx5 (by omega) (by omega)
    have c2 : ((5 : Int32) * nI row + nI k).toNatClampNeg = 5 * row + k := fd_cx5 (by omega) (by omega)
    refine pk_le n k (fun z => absurd z (by omega)) (fun _ => ⟨fd_ixi5 (by omega) (by omega), fd_ixi5 (by omega) (by omega), hmo, fd_restW hm (fun v hv => ⟨fd_ixi5 (by omega) (by omega), nm_r (by rw [c1]) (nm_r (nI_1 k) (hw _ (fun i q hi hq => ?_)))⟩)⟩)
    have t1 := ha r k hr hk
    have t2 := ha row k hrow hk
    rw [if_neg (by omega)] at t1 t2
    by_cases e : i = r ∧ q = k
    · rw [e.1, e.2, pk_uLs, if_pos ⟨rfl, by omega⟩, hv, fd_tN_sub, fd_tN_rem, fd_tN_mul, c1, c2, t1, t2, fd_z2_cf _ (fd_ccf_0 _ _)]
      rfl
    · rw [pk_uLn (by omega), ha i q hi hq]
      by_cases e1 : i = r ∧ q < k
      · rw [if_pos e1, if_pos (by omega)]
      · rw [if_neg e1, if_neg (by omega)]
theorem fd_clearColumn {post : St2 → Prop} {n row c y : Nat} {X : List (List Nat)} (hn : n ≤ 5) (hm : fd_tN mo ≠ 0) (hp : fd_tN pr ≠ 0) (hrow : row < n) (hc : c < n) (hX : fd_RM n X a3) (hy : fd_inv (fd_tN pr) (fd_cf (fd_rw X row) c) = some y)
    (H : ∀ b, fd_RM n (fd_ccl (fd_tN mo) y X n row c) b → post (fc, mo, pr, lc, dc, a1, a2, b, a4, a5, a6)) :
    wpX_clearColumn post (fc, mo, pr, lc, dc, a1, a2, a3, a4, a5, a6) (nI row) (nI c) (nI n) := by
  have hmo : ¬ mo = 0 := fun z => hm (fd_eq0.mp z)
  refine ⟨fd_ixi5 (by omega) (by omega), fd_inverse hp (y := y) (by rw [fd_cx5 (by omega) (by omega), hX row c hrow hc]; exact hy) (fun v hv => ?_)⟩
  have hw0 : ∀ k, fd_cf ((fd_rw X row).map (fun x => fd_rem (fd_mul x y) (fd_tN mo))) k = fd_rem (fd_mul (fd_cf (fd_rw X row) k) y) (fd_tN mo) := fun k => fd_map_cf (fun x => fd_rem (fd_mul x y) (fd_tN mo)) (by rw [fd_mul_0, fd_rem_0]) _ k
  generalize hw : (fd_rw X row).map (fun x => fd_rem (fd_mul x y) (fd_tN mo)) = w at hw0
  refine pk_loop (fun f k a => wX_clearColumn_19 post (nI row) (nI c) (nI n) v fc mo pr lc dc f (nI k) a1 a2 a a4 a5 a6) (fun k a => ∀ i q, i < n → q < n → fd_tN (a (5 * i + q)) = if i = row ∧ q < k then fd_cf w q else fd_cf (fd_rw X i) q) n 0 a3 (by omega) (fun i q hi hq => ?_) ?_ ?_
  · rw [if_neg (by omega)]
    exact hX i q hi hq
  · intro f a ha
    refine pk_le n n (fun _ => ?_) (fun z => absurd z (by omega))
    refine pk_loop (fun f r a => wX_clearColumn_64 post (nI row) (nI c) (nI n) fc mo pr lc dc f (nI r) a1 a2 a a4 a5 a6) (fun r a => ∀ i q, i < n → q < n → fd_tN (a (5 * i + q)) = fd_cf (if i = row then w else if i < r then fd_ccr (fd_tN mo) c (fd_rw X i) w else fd_rw X i) q) n 0 a (by omega) (fun i q hi hq => ?_) ?_ ?_
    · rw [ha i q hi hq]
      by_cases e : i = row
      · rw [if_pos e, if_pos ⟨e, hq⟩]
      · rw [if_neg e, if_neg (by omega), if_neg (by omega)]
    · intro f b hb
      refine pk_le n n (fun _ => H b (fun i q hi hq => ?_)) (fun z => absurd z (by omega))
      rw [hb i q hi hq, fd_ccl_rw hi, hw]
      by_cases e : i = row
      · rw [if_pos e, if_pos e]
      · rw [if_neg e, if_neg e, if_pos hi]
    · intro f r b hr hb hnx
      have c1 : ((5 : Int32) * nI r + nI c).toNatClampNeg = 5 * r + c := fd_cx5 (by omega) (by omega)
      refine pk_le n r (fun z => absurd z (by omega)) (fun _ => ⟨fd_ixi5 (by omega) (by omega), nm_r (by rw [c1]) (pk_eq r row (fun z => nm_r (nI_1 r) (hnx b (fun i q hi hq => ?_))) (fun z => br_c (fun y0 => nm_r (nI_1 r) (hnx b (fun i q hi hq => ?_))) (fun y0 => ?_)))⟩)
      · rw [hb i q hi hq]
        by_cases e : i = row
        · rw [if_pos e, if_pos e]
        · rw [if_neg e, if_neg e]
          by_cases e1 : i < r
          · rw [if_pos e1, if_pos (by omega)]
          · rw [if_neg e1, if_neg (by omega)]
      · have e0 : fd_cf (fd_rw X r) c = 0 := by
          have := hb r c hr hc
          rw [if_neg z, if_neg (by omega)] at this
          rw [← this]
          exact fd_eq0.mp y0
        rw [hb i q hi hq]
        by_cases e : i = row
        · rw [if_pos e, if_pos e]
        · rw [if_neg e, if_neg e]
          by_cases e1 : i < r
          · rw [if_pos e1, if_pos (by omega)]
          · rw [if_neg e1]
            by_cases e2 : i = r
            · rw [if_pos (by omega), e2, fd_ccr_0 e0]
            · rw [if_neg (by omega)]
      · have e0 : fd_tN (b (5 * r + c)) = fd_cf (fd_rw X r) c := by
          have := hb r c hr hc
          rw [if_neg z, if_neg (by omega)] at this
          exact this
        refine fd_cc102 (G := fun i => if i = row then w else if i < r then fd_ccr (fd_tN mo) c (fd_rw X i) w else fd_rw X i) hn hm hrow hr z hb (fun b' hb' => hnx b' (fun i q hi hq => ?_))
        rw [hb' i q hi hq]
        by_cases e : i = r
        · rw [if_pos e, if_neg z, if_neg (by omega), if_pos rfl, if_neg (by omega : ¬ i = row), if_pos (by omega : i < r + 1), e, e0, fd_ccr_n]
          rw [← e0]
          exact fun z' => y0 (fd_eq0.mpr z')
        · rw [if_neg e]
          by_cases e1 : i = row
          · rw [if_pos e1, if_pos e1]
          · rw [if_neg e1, if_neg e1]
            by_cases e2 : i < r
            · rw [if_pos e2, if_pos (by omega)]
            · rw [if_neg e2, if_neg (by omega)]
  · intro f k a hk ha hnx
    have c1 : ((5 : Int32) * nI row + nI k).toNatClampNeg = 5 * row + k := fd_cx5 (by omega) (by omega)
    refine pk_le n k (fun z => absurd z (by omega)) (fun _ => ⟨fd_ixi5 (by omega) (by omega), hmo, fd_ixi5 (by omega) (by omega), nm_r (by rw [c1]) (nm_r (nI_1 k) (hnx _ (fun i q hi hq => ?_)))⟩)
    have t1 := ha row k hrow hk
    rw [if_neg (by omega)] at t1
    by_cases e : i = row ∧ q = k
    · rw [e.1, e.2, pk_uLs, if_pos ⟨rfl, by omega⟩, fd_tN_rem, fd_tN_mul, t1, hw0, hv]
    · rw [pk_uLn (by omega), ha i q hi hq]
      by_cases e1 : i = row ∧ q < k
      · rw [if_pos e1, if_pos (by omega)]
      · rw [if_neg e1, if_neg (by omega)]
end
/-- the first row from r on whose place c isn't zero -/
def fd_fnd (X : List (List Nat)) (c : Nat) : Nat → Nat → Nat
  | 0, r => r
  | k + 1, r => match fd_cf (fd_rw X r) c with
    | 0 => fd_fnd X c k (Nat.succ r)
    | _ + 1 => r
theorem fd_fnd_0 {X : List (List Nat)} {c k r : Nat} (h : fd_cf (fd_rw X r) c = 0) : fd_fnd X c (k + 1) r = fd_fnd X c k (r + 1) := by
  show (match fd_cf (fd_rw X r) c with
    | 0 => fd_fnd X c k (Nat.succ r)
    | _ + 1 => r) = _
  rw [h]
theorem fd_fnd_n {X : List (List Nat)} {c k r : Nat} (h : fd_cf (fd_rw X r) c ≠ 0) : fd_fnd X c (k + 1) r = r := by
  obtain ⟨d, e⟩ := Nat.exists_eq_succ_of_ne_zero h
  show (match fd_cf (fd_rw X r) c with
    | 0 => fd_fnd X c k (Nat.succ r)
    | _ + 1 => r) = _
  rw [e]
theorem fd_fnd_in (X : List (List Nat)) (c : Nat) : ∀ k r, r ≤ fd_fnd X c k r ∧ fd_fnd X c k r ≤ r + k
  | 0, r => ⟨Nat.le_refl r, Nat.le_refl r⟩
  | k + 1, r => by
    by_cases h : fd_cf (fd_rw X r) c = 0
    · rw [fd_fnd_0 h]
      have := fd_fnd_in X c k (r + 1)
      omega
    · rw [fd_fnd_n h]
      omega
def fd_elm (m p n : Nat) : Nat → Nat → Nat → List (List Nat) → List Nat → Option (Nat × List (List Nat) × List Nat)
  | 0, _, row, X, V => some (row, X, V)
  | k + 1, c, row, X, V => fd_nf (fd_fnd X c (Nat.sub n row) row) (fun r => cond (Nat.beq r n) (fd_elm m p n k (Nat.succ c) row X (V ++ [0]))
      (match fd_inv p (fd_cf (fd_rw (fd_swp X n r row) row) c) with
      | none => none
      | some y => fd_rf (fd_ccl m y (fd_swp X n r row) n row c) (fun X' => fd_elm m p n k (Nat.succ c) (Nat.succ row) X' (V ++ [Nat.succ row]))))
theorem fd_elm_z {m p n k c row : Nat} {X : List (List Nat)} {V : List Nat} (h : fd_fnd X c (n - row) row = n) : fd_elm m p n (k + 1) c row X V = fd_elm m p n k (c + 1) row X (V ++ [0]) := by
  show fd_nf (fd_fnd X c (n - row) row) _ = _
  rw [fd_nf_eq, h, fd_beq_t rfl]
  rfl
theorem fd_elm_s {m p n k c row : Nat} {X : List (List Nat)} {V : List Nat} {R : Nat × List (List Nat) × List Nat} (h : fd_fnd X c (n - row) row ≠ n) (he : fd_elm m p n (k + 1) c row X V = some R) :
    ∃ y, fd_inv p (fd_cf (fd_rw (fd_swp X n (fd_fnd X c (n - row) row) row) row) c) = some y ∧ fd_elm m p n k (c + 1) (row + 1) (fd_ccl m y (fd_swp X n (fd_fnd X c (n - row) row) row) n row c) (V ++ [row + 1]) = some R := by
  have h1 : fd_nf (fd_fnd X c (n - row) row) (fun r => cond (Nat.beq r n) (fd_elm m p n k (Nat.succ c) row X (V ++ [0]))
      (match fd_inv p (fd_cf (fd_rw (fd_swp X n r row) row) c) with
      | none => none
      | some y => fd_rf (fd_ccl m y (fd_swp X n r row) n row c) (fun X' => fd_elm m p n k (Nat.succ c) (Nat.succ row) X' (V ++ [Nat.succ row])))) = some R := he
  rw [fd_nf_eq, fd_beq_f h] at h1
  have h2 : (match fd_inv p (fd_cf (fd_rw (fd_swp X n (fd_fnd X c (n - row) row) row) row) c) with
      | none => none
      | some y => fd_rf (fd_ccl m y (fd_swp X n (fd_fnd X c (n - row) row) row) n row c) (fun X' => fd_elm m p n k (Nat.succ c) (Nat.succ row) X' (V ++ [Nat.succ row]))) = some R := h1
  cases e : fd_inv p (fd_cf (fd_rw (fd_swp X n (fd_fnd X c (n - row) row) row) row) c) with
  | none =>
    rw [e] at h2
    exact absurd h2 (by simp)
  | some y =>
    rw [e] at h2
    have h3 : fd_rf (fd_ccl m y (fd_swp X n (fd_fnd X c (n - row) row) row) n row c) (fun X' => fd_elm m p n k (Nat.succ c) (Nat.succ row) X' (V ++ [Nat.succ row])) = some R := h2
    rw [fd_rf_eq] at h3
    exact ⟨y, rfl, h3⟩
/-- the pivots: 0 for none, else the row and one -/
def fd_RV (n : Nat) (V : List Nat) (b4 b5 : Nat → Int32) : Prop := ∀ i, i < V.length → fd_cf V i ≤ n ∧ (fd_cf V i = 0 → b4 i = 0) ∧ (∀ r, fd_cf V i = r + 1 → b4 i = 1 ∧ b5 i = nI r)
theorem fd_app_cf : ∀ (V : List Nat) (v i : Nat), fd_cf (V ++ [v]) i = if i = V.length then v else fd_cf V i
  | [], v, 0 => rfl
  | [], v, i + 1 => by
    rw [if_neg (by simp)]
    show fd_cf [] i = fd_cf [] (i + 1)
    rw [fd_cf_nil, fd_cf_nil]
  | x :: V, v, 0 => by
    rw [if_neg (by simp)]
    rfl
  | x :: V, v, i + 1 => by
    show fd_cf (V ++ [v]) i = _
    rw [fd_app_cf V v i, List.length_cons]
    by_cases c : i = V.length
    · rw [if_pos c, if_pos (by omega)]
    · rw [if_neg c, if_neg (by omega)]
      rfl
theorem fd_b8 : ∀ r, r < 5 → (nI r).toInt8.toInt32 = nI r := by decide
section
variable {fc lc dc : Int32} {mo pr : Int64} {a1 a3 : Nat → Int64} {a2 a4 a5 a6 : Nat → Int32} {M : Nat → List Nat}
theorem fd_el19 {post : Int32 → St2 → Prop} {J : Int32 → Int32 → Int32 → Int64 → Int64 → Int32 → Int32 → (Nat → Int64) → (Nat → Int32) → (Nat → Int64) → (Nat → Int32) → (Nat → Int32) → (Nat → Int32) → Prop} {n c row : Nat} {X : List (List Nat)} (hn : n ≤ 5) (hc : c < n) (hX : fd_RM n X a3) :
    ∀ k r, r + k = n → wX_eliminate_47 post J (nI n) (nI row) (nI c) (nI (fd_fnd X c k r)) fc mo pr lc dc a1 a2 a3 a4 a5 a6 → wX_eliminate_19 post J (nI n) (nI row) (nI c) fc mo pr lc dc a1 a2 a3 a4 a5 a6 (k + 1) (nI r) := by
  intro k
  induction k with
  | zero =>
    intro r hr h
    exact pk_le n r (fun _ => h) (fun z => absurd z (by omega))
  | succ k ih =>
    intro r hr h
    have e1 : fd_tN (a3 ((5 : Int32) * nI r + nI c).toNatClampNeg) = fd_cf (fd_rw X r) c := by
      rw [fd_cx5 (by omega) (by omega)]
      exact hX r c (by omega) hc
    refine pk_le n r (fun z => absurd z (by omega)) (fun _ => ⟨fd_ixi5 (by omega) (by omega), br_c (fun z => nm_r (nI_1 r) (ih (r + 1) (by omega) ?_)) (fun z => ?_)⟩)
    · rw [fd_eq0, e1] at z
      rw [fd_fnd_0 z] at h
      exact h
    · rw [fd_eq0, e1] at z
      rw [fd_fnd_n z] at h
      exact h
theorem fd_el4 {post : Int32 → St2 → Prop} {n : Nat} (hn : n ≤ 5) (hm : fd_tN mo ≠ 0) (hp : fd_tN pr ≠ 0) :
    ∀ (k c row : Nat) (X : List (List Nat)) (V : List Nat) (a : Nat → Int64) (b4 b5 : Nat → Int32) (row' : Nat) (X' : List (List Nat)) (V' : List Nat), c + k = n → row ≤ c → V.length = c → fd_RM n X a → fd_RV n V b4 b5 → fd_elm (fd_tN mo) (fd_tN pr) n k c row X V = some (row', X', V') →
    (∀ b b4 b5, row' ≤ n → V'.length = n → fd_RM n X' b → fd_RV n V' b4 b5 → post (nI row') (fc, mo, pr, lc, dc, a1, a2, b, b4, b5, a6)) →
    wX_eliminate_4 post (nI n) (k + 1) (nI row) (nI c) fc mo pr lc dc a1 a2 a b4 b5 a6 := by
  intro k
  induction k with
  | zero =>
    intro c row X V a b4 b5 row' X' V' hc hrow hV hX hRV he H
    have e0 : (row, X, V) = (row', X', V') := Option.some.inj he
    have e1 : row = row' := congrArg Prod.fst e0
    have e2 : X = X' := congrArg (fun z => z.2.1) e0
    have e3 : V = V' := congrArg (fun z => z.2.2) e0
    refine pk_le n c (fun _ => ?_) (fun z => absurd z (by omega))
    rw [e1]
    exact H a b4 b5 (by omega) (by rw [← e3]; omega) (e2 ▸ hX) (e3 ▸ hRV)
  | succ k ih =>
    intro c row X V a b4 b5 row' X' V' hc hrow hV hX hRV he H
    have ec : (nI c).toNatClampNeg = c := nI_clamp (by omega)
    have hF := fd_fnd_in X c (n - row) row
    refine pk_le n c (fun z => absurd z (by omega)) (fun _ => ⟨pk_in c 5 (by omega), nm_r (by rw [ec]) ⟨n - row + 1, fd_el19 hn (by omega) hX (n - row) row (by omega) ?_⟩⟩)
    refine pk_eq (fd_fnd X c (n - row) row) n (fun z => nm_r (nI_1 c) ?_) (fun z => ?_)
    · rw [fd_elm_z z] at he
      refine ih (c + 1) row X (V ++ [0]) a _ b5 row' X' V' (by omega) (by omega) (by rw [List.length_append]; simp [hV]) hX (fun i hi => ?_) he H
      rw [fd_app_cf]
      by_cases e : i = V.length
      · rw [if_pos e]
        refine ⟨by omega, fun _ => ?_, fun r hr => absurd hr (by omega)⟩
        rw [e, hV, pk_us]
      · rw [if_neg e, pk_un (by omega)]
        rw [List.length_append] at hi
        exact hRV i (by simp at hi; omega)
    · obtain ⟨y, hy, he'⟩ := fd_elm_s z he
      refine fd_exchange hn (r := fd_fnd X c (n - row) row) (q := row) (by omega) (by omega) hX (fun b hb => fd_clearColumn hn hm hp (by omega) (by omega) hb hy (fun b' hb' => ?_))
      refine ⟨pk_in c 5 (by omega), nm_r (by rw [ec]) ⟨pk_in c 5 (by omega), nm_r (by rw [ec, fd_b8 row (by omega)]) (nm_r (nI_1 row) (nm_r (nI_1 c) ?_))⟩⟩
      refine ih (c + 1) (row + 1) _ _ b' _ _ row' X' V' (by omega) (by omega) (by rw [List.length_append]; simp [hV]) hb' (fun i hi => ?_) he' H
      rw [fd_app_cf]
      by_cases e : i = V.length
      · rw [if_pos e]
        refine ⟨by omega, fun z => absurd z (by omega), fun r hr => ?_⟩
        have er : r = row := by omega
        rw [e, hV, pk_us, pk_us, er]
        exact ⟨rfl, rfl⟩
      · rw [if_neg e, pk_un (by omega), pk_un (by omega), pk_un (by omega)]
        rw [List.length_append] at hi
        exact hRV i (by simp at hi; omega)
theorem fd_eliminate {post : Int32 → St2 → Prop} {n : Nat} {X : List (List Nat)} (hn : n ≤ 5) (hm : fd_tN mo ≠ 0) (hp : fd_tN pr ≠ 0) (hX : fd_RM n X a3) {row' : Nat} {X' : List (List Nat)} {V' : List Nat} (he : fd_elm (fd_tN mo) (fd_tN pr) n n 0 0 X [] = some (row', X', V'))
    (H : ∀ b b4 b5, row' ≤ n → V'.length = n → fd_RM n X' b → fd_RV n V' b4 b5 → post (nI row') (fc, mo, pr, lc, dc, a1, a2, b, b4, b5, a6)) :
    wpX_eliminate post (fc, mo, pr, lc, dc, a1, a2, a3, a4, a5, a6) (nI n) :=
  ⟨n + 1, fd_el4 hn hm hp n 0 0 X [] a3 a4 a5 row' X' V' (by omega) (by omega) rfl hX (fun i hi => absurd hi (by simp)) he H⟩
/-- the solution -/
def fd_sol (m n fr : Nat) (X : List (List Nat)) (V : List Nat) : List Nat := fd_tb (fun c => match fd_cf V c with
  | 0 => cond (Nat.beq c fr) 1 0
  | r + 1 => fd_rest m (fd_neg (fd_cf (fd_rw X r) fr))) n 0
theorem fd_sol_0 {m n fr c : Nat} {X : List (List Nat)} {V : List Nat} (hc : c < n) (h : fd_cf V c = 0) : fd_cf (fd_sol m n fr X V) c = if c = fr then 1 else 0 := by
  unfold fd_sol
  rw [fd_tb_cf _ _ _ _ hc, Nat.zero_add, h]
  by_cases e : c = fr
  · rw [if_pos e]
    show cond (Nat.beq c fr) 1 0 = 1
    rw [fd_beq_t e]
    rfl
  · rw [if_neg e]
    show cond (Nat.beq c fr) 1 0 = 0
    rw [fd_beq_f e]
    rfl
theorem fd_sol_s {m n fr c r : Nat} {X : List (List Nat)} {V : List Nat} (hc : c < n) (h : fd_cf V c = r + 1) : fd_cf (fd_sol m n fr X V) c = fd_rest m (fd_neg (fd_cf (fd_rw X r) fr)) := by
  unfold fd_sol
  rw [fd_tb_cf _ _ _ _ hc, Nat.zero_add, h]
theorem fd_solution {post : St2 → Prop} {n fr : Nat} {X : List (List Nat)} {V : List Nat} (h : fd_RR M a1) (hm : fd_tN mo ≠ 0) (hn : n ≤ 5) (hfr : fr < n) (hX : fd_RM n X a3) (hV : fd_RV n V a4 a5) (hVl : V.length = n)
    (H : ∀ s, fd_RR (fd_up M 23 (fd_sol (fd_tN mo) n fr X V)) s → post (fc, mo, pr, lc, dc, s, a2, a3, a4, a5, a6)) :
    wpX_solution post (fc, mo, pr, lc, dc, a1, a2, a3, a4, a5, a6) (nI n) (nI fr) := by
  have hin : vp_in ((276 : Int32) + nI fr) 312 := pk_in (12 * 23 + fr) 312 (by omega) (fd_ix23 fr)
  have ecx : ((276 : Int32) + nI fr).toNatClampNeg = 12 * 23 + fr := by rw [fd_ix23, nI_clamp (by omega)]
  refine fd_clear h 23 (by omega) (fun s hs => ⟨hin, nm_r (by rw [ecx]) ?_⟩)
  refine pk_loop (fun f c s => wX_solution_19 post (nI n) (nI fr) fc mo pr lc dc f (nI c) s a2 a3 a4 a5 a6) (fun c s' => (∀ j, j < 12 → fd_tN (s' (12 * 23 + j)) = if j < c then fd_cf (fd_sol (fd_tN mo) n fr X V) j else if j = fr then 1 else 0) ∧ (∀ j, (j < 12 * 23 ∨ 12 * 23 + 12 ≤ j) → s' j = s j)) n 0 (vp_updL s (12 * 23 + fr) 1) (by omega) ⟨fun j hj => ?_, fun j hj => pk_uLn (by omega)⟩ ?_ ?_
  · rw [if_neg (by omega)]
    by_cases e : j = fr
    · rw [if_pos e, e, pk_uLs]
      exact fd_tN1
    · rw [if_neg e, pk_uLn (by omega), fd_rd hs (by omega) hj, fd_up_s, fd_cf_nil]
  · intro f s' hs'
    refine pk_le n n (fun _ => H s' ?_) (fun z => absurd z (by omega))
    intro q hq
    by_cases e : q = 23
    · subst e
      rw [fd_up_s]
      refine ⟨by unfold fd_sol; rw [fd_tb_len]; omega, fun i hi => ?_⟩
      rw [hs'.1 i hi]
      by_cases c : i < n
      · rw [if_pos c]
      · rw [if_neg c, if_neg (by omega), fd_cf_big]
        unfold fd_sol
        rw [fd_tb_len]
        omega
    · rw [fd_up_n e]
      refine ⟨(h q hq).1, fun i hi => ?_⟩
      rw [hs'.2 _ (by omega), fd_rd hs hq hi, fd_up_n e]
  · intro f c s' hc hs' hw
    have ec : (nI c).toNatClampNeg = c := nI_clamp (by omega)
    have hv := hV c (by omega)
    refine pk_le n c (fun z => absurd z (by omega)) (fun _ => ⟨pk_in c 5 (by omega), ?_⟩)
    rw [ec]
    refine br_c (fun z => nm_r (nI_1 c) (hw s' ⟨fun j hj => ?_, hs'.2⟩)) (fun z => ?_)
    · have e0 : fd_cf V c = 0 := by
        rcases Nat.eq_zero_or_pos (fd_cf V c) with e | e
        · exact e
        · exfalso
          obtain ⟨r, er⟩ := Nat.exists_eq_succ_of_ne_zero (show fd_cf V c ≠ 0 by omega)
          rw [(hv.2.2 r er).1] at z
          exact absurd z (by decide)
      rw [hs'.1 j hj]
      by_cases e : j < c
      · rw [if_pos e, if_pos (by omega)]
      · rw [if_neg e]
        by_cases e1 : j = c
        · rw [if_pos (show j < c + 1 by omega), e1, fd_sol_0 hc e0]
        · rw [if_neg (show ¬ j < c + 1 by omega)]
    · have e0 : fd_cf V c ≠ 0 := fun e => z (hv.2.1 e)
      obtain ⟨r, er⟩ := Nat.exists_eq_succ_of_ne_zero e0
      have hin2 : vp_in ((276 : Int32) + nI c) 312 := pk_in (12 * 23 + c) 312 (by omega) (fd_ix23 c)
      have ecx2 : ((276 : Int32) + nI c).toNatClampNeg = 12 * 23 + c := by rw [fd_ix23, nI_clamp (by omega)]
      rw [(hv.2.2 r er).2, fd_cx5 (by omega) (by omega)]
      refine ⟨pk_in c 5 (by omega), fd_ixi5 (by omega) (by omega), fd_restW hm (fun v hv' => ⟨hin2, nm_r (by rw [ecx2]) (nm_r (nI_1 c) (hw _ ⟨fun j hj => ?_, fun j hj => ?_⟩))⟩)⟩
      · by_cases e1 : j = c
        · rw [e1, pk_uLs, if_pos (by omega), hv', fd_tN_neg, hX r fr (by omega) hfr, fd_sol_s hc er]
        · rw [pk_uLn (by omega), hs'.1 j hj]
          by_cases e : j < c
          · rw [if_pos e, if_pos (by omega)]
          · rw [if_neg e, if_neg (show ¬ j < c + 1 by omega)]
      · rw [pk_uLn (by omega)]
        exact hs'.2 j hj
end
end
section
/-! the pieces modulo the prime -/
def fd_ps : List (List Nat) → Nat → List Nat → List (List Nat)
  | [], _, _ => []
  | _ :: t, 0, v => v :: t
  | x :: t, n + 1, v => x :: fd_ps t n v
theorem fd_ps_len : ∀ (P : List (List Nat)) (k : Nat) (v : List Nat), (fd_ps P k v).length = P.length
  | [], _, _ => rfl
  | _ :: t, 0, v => rfl
  | x :: t, n + 1, v => by
    show (fd_ps t n v).length + 1 = t.length + 1
    rw [fd_ps_len t n v]
theorem fd_ps_rw : ∀ (P : List (List Nat)) (k : Nat) (v : List Nat) (j : Nat), k < P.length → fd_rw (fd_ps P k v) j = if j = k then v else fd_rw P j
  | [], k, v, j, h => absurd h (by simp)
  | _ :: t, 0, v, 0, _ => rfl
  | _ :: t, 0, v, j + 1, _ => by
    rw [if_neg (by omega)]
    rfl
  | x :: t, n + 1, v, 0, _ => rfl
  | x :: t, n + 1, v, j + 1, h => by
    show fd_rw (fd_ps t n v) j = _
    rw [fd_ps_rw t n v j (by simpa using h)]
    by_cases c : j = n
    · rw [if_pos c, if_pos (by omega)]
    · rw [if_neg c, if_neg (by omega)]
      rfl
theorem fd_ap_rw : ∀ (P : List (List Nat)) (v : List Nat) (j : Nat), j ≤ P.length → fd_rw (P ++ [v]) j = if j = P.length then v else fd_rw P j
  | [], v, 0, _ => rfl
  | [], v, j + 1, h => absurd h (by simp)
  | x :: P, v, 0, _ => by
    rw [if_neg (by simp)]
    rfl
  | x :: P, v, j + 1, h => by
    show fd_rw (P ++ [v]) j = _
    rw [fd_ap_rw P v j (by simpa using h), List.length_cons]
    by_cases c : j = P.length
    · rw [if_pos c, if_pos (by omega)]
    · rw [if_neg c, if_neg (by omega)]
      rfl
/-- the pieces lie in the slots from 11 on -/
def fd_PP (P : List (List Nat)) (M : Nat → List Nat) : Prop := P.length ≤ 5 ∧ ∀ k, k < P.length → M (11 + k) = fd_rw P k
def fd_sp (m : Nat) (U : List Nat) (P : List (List Nat)) (k : Nat) : Option (List (List Nat)) :=
  match fd_cn m m (fd_rw P k) U with
  | none => none
  | some G => cond (Nat.ble (fd_ln G) 1) (some P) (cond (Nat.ble (fd_ln (fd_rw P k)) (fd_ln G)) (some P)
      (match fd_dm m m (fd_rw P k) G with
      | none => none
      | some (Q, _) => cond (Nat.ble 5 P.length) none (some (fd_ps P k Q ++ [G]))))
theorem fd_sp_some {m : Nat} {U : List Nat} {P P' : List (List Nat)} {k : Nat} (h : fd_sp m U P k = some P') : ∃ G, fd_cn m m (fd_rw P k) U = some G ∧
    ((fd_ln G ≤ 1 ∧ P' = P) ∨ (2 ≤ fd_ln G ∧ fd_ln (fd_rw P k) ≤ fd_ln G ∧ P' = P) ∨ (2 ≤ fd_ln G ∧ fd_ln G < fd_ln (fd_rw P k) ∧ P.length < 5 ∧ ∃ Q R, fd_dm m m (fd_rw P k) G = some (Q, R) ∧ P' = fd_ps P k Q ++ [G])) := by
  unfold fd_sp at h
  cases c : fd_cn m m (fd_rw P k) U with
  | none =>
    rw [c] at h
    exact absurd h (by simp)
  | some G =>
    rw [c] at h
    refine ⟨G, rfl, ?_⟩
    have h1 : cond (Nat.ble (fd_ln G) 1) (some P) (cond (Nat.ble (fd_ln (fd_rw P k)) (fd_ln G)) (some P)
      (match fd_dm m m (fd_rw P k) G with
      | none => none
      | some (Q, _) => cond (Nat.ble 5 P.length) none (some (fd_ps P k Q ++ [G])))) = some P' := h
    by_cases d : fd_ln G ≤ 1
    · rw [fd_ble_t d] at h1
      exact Or.inl ⟨d, (Option.some.inj h1).symm⟩
    rw [fd_ble_f (by omega)] at h1
    by_cases e : fd_ln (fd_rw P k) ≤ fd_ln G
    · rw [fd_ble_t e] at h1
      exact Or.inr (Or.inl ⟨by omega, e, (Option.some.inj h1).symm⟩)
    rw [fd_ble_f (by omega)] at h1
    have h2 : (match fd_dm m m (fd_rw P k) G with
      | none => none
      | some (Q, _) => cond (Nat.ble 5 P.length) none (some (fd_ps P k Q ++ [G]))) = some P' := h1
    cases f : fd_dm m m (fd_rw P k) G with
    | none =>
      rw [f] at h2
      exact absurd h2 (by simp)
    | some QR =>
      rw [f] at h2
      have h3 : cond (Nat.ble 5 P.length) none (some (fd_ps P k QR.1 ++ [G])) = some P' := h2
      by_cases g : 5 ≤ P.length
      · rw [fd_ble_t g] at h3
        exact absurd h3 (by simp)
      rw [fd_ble_f (by omega)] at h3
      exact Or.inr (Or.inr ⟨by omega, by omega, by omega, QR.1, QR.2, rfl, (Option.some.inj h3).symm⟩)
theorem fd_ix11 (k : Nat) : (11 : Int32) + nI k = nI (11 + k) := by
  show nI 11 + nI k = _
  rw [nI_add]
section
variable {fc lc dc : Int32} {mo pr : Int64} {a1 a3 : Nat → Int64} {a2 a4 a5 a6 : Nat → Int32} {M : Nat → List Nat}
theorem fd_splitPiece {post : St2 → Prop} {P P' : List (List Nat)} {k m : Nat} (h : fd_RR M a1) (hm : fd_tN mo = m) (hp : fd_tN pr = m) (hm0 : m ≠ 0) (hP : fd_PP P M) (hlc : lc = nI P.length) (hk : k < P.length) (hs : fd_sp m (M 20) P k = some P')
    (H : ∀ M' s, (∀ j, j ≠ 8 → j ≠ 9 → j ≠ 10 → j ≠ 21 → (j < 11 ∨ 16 ≤ j) → M' j = M j) → fd_PP P' M' → P.length ≤ P'.length → fd_RR M' s → post (fc, mo, pr, nI P'.length, dc, s, a2, a3, a4, a5, a6)) :
    wpX_splitPiece post (fc, mo, pr, lc, dc, a1, a2, a3, a4, a5, a6) (nI (11 + k)) := by
  obtain ⟨G, e1, e2⟩ := fd_sp_some hs
  have hl5 := hP.1
  have hpk := hP.2 k hk
  subst hlc
  unfold wpX_splitPiece
  dsimp only
  refine fd_commonModulo h (by omega) (by omega) 21 (11 + k) 20 (by omega) (by omega) (by omega) (by omega) (by omega) (by omega) (by omega) (G := G) (by rw [hm, hp, hpk]; exact e1) (fun M1 s1 f1 g1 h1 => fd_degreeOf h1 21 (by omega) ?_)
  have l1 := fd_ln12 h1 (k := 21) (by omega)
  have l2 := fd_ln12 h1 (k := 11 + k) (by omega)
  have gk : M1 (11 + k) = fd_rw P k := by
    rw [f1 (11 + k) (by omega) (by omega) (by omega) (by omega)]
    exact hpk
  rw [gk] at l2
  rw [g1] at l1 ⊢
  have Hs : P' = P → post (fc, mo, pr, nI P.length, dc, s1, a2, a3, a4, a5, a6) := by
    intro e
    have := H M1 s1 (fun j j1 j2 j3 j4 _ => f1 j j4 j1 j2 j3) (by
      rw [e]
      exact ⟨hP.1, fun q hq => by rw [f1 (11 + q) (by omega) (by omega) (by omega) (by omega)]; exact hP.2 q hq⟩) (by rw [e]; exact Nat.le_refl _) h1
    rw [e] at this
    exact this
  refine br_c (fun z => Hs ?_) (fun z => fd_degreeOf h1 (11 + k) (by omega) ?_)
  · rw [fd_di_lt1 (by omega)] at z
    rcases e2 with c | c | c
    · exact c.2
    · exact absurd c.1 (by omega)
    · exact absurd c.1 (by omega)
  · rw [fd_di_lt1 (by omega)] at z
    rw [gk]
    refine br_c (fun y => ?_) (fun y => Hs ?_)
    · rw [fd_di_lt (by omega) (by omega)] at y
      have c : 2 ≤ fd_ln G ∧ fd_ln G < fd_ln (fd_rw P k) ∧ P.length < 5 ∧ ∃ Q R, fd_dm m m (fd_rw P k) G = some (Q, R) ∧ P' = fd_ps P k Q ++ [G] := by
        rcases e2 with c | c | c
        · exact absurd c.1 (by omega)
        · exact absurd c.2.1 (by omega)
        · exact c
      obtain ⟨_, _, hl, Q, R, ed, eP⟩ := c
      have hlen : P'.length = P.length + 1 := by
        rw [eP, List.length_append, fd_ps_len]
        rfl
      refine fd_divideModulo h1 (by rw [hm]; exact hm0) (by rw [hp]; exact hm0) (11 + k) 21 (by omega) (by omega) (by omega) (by omega) (Q := Q) (R := R) (by rw [hm, hp, gk, g1]; exact ed) (fun s2 h2 => fd_copy h2 (11 + k) 9 (by omega) (by omega) (fun s3 h3 => ?_))
      rw [fd_ix11]
      refine fd_copy h3 (11 + P.length) 21 (by omega) (by omega) (fun s4 h4 => nm_r (nI_1 P.length) ?_)
      rw [← hlen]
      refine H _ s4 (fun j j1 j2 j3 j4 j5 => ?_) ⟨by omega, fun q hq => ?_⟩ (by omega) h4
      · rw [fd_up_n (by omega), fd_up_n (by omega), fd_up_n j3, fd_up_n j2]
        exact f1 j j4 j1 j2 j3
      · rw [eP, fd_ap_rw _ _ _ (by rw [fd_ps_len]; omega), fd_ps_len, fd_ps_rw _ _ _ _ hk]
        by_cases c1 : q = P.length
        · rw [c1, if_pos rfl, fd_up_s, fd_up_n (by omega), fd_up_n (by omega), fd_up_n (by omega)]
          exact g1
        · rw [if_neg c1, fd_up_n (by omega)]
          by_cases c2 : q = k
          · rw [if_pos c2, c2, fd_up_s, fd_up_n (by omega), fd_up_s]
          · rw [if_neg c2, fd_up_n (by omega), fd_up_n (by omega), fd_up_n (by omega), f1 _ (by omega) (by omega) (by omega) (by omega)]
            exact hP.2 q (by omega)
    · rw [fd_di_lt (by omega) (by omega)] at y
      rcases e2 with c | c | c
      · exact c.2
      · exact c.2.2
      · exact absurd c.2.1 (by omega)
end
def fd_sc (m : Nat) (U : List Nat) : Nat → Nat → List (List Nat) → Option (List (List Nat))
  | 0, _, P => some P
  | c + 1, k, P => match fd_sp m U P k with
    | none => none
    | some P' => fd_rf P' (fun P' => fd_sc m U c (Nat.succ k) P')
theorem fd_sc_s {m : Nat} {U : List Nat} {c k : Nat} {P R : List (List Nat)} (h : fd_sc m U (c + 1) k P = some R) : ∃ P', fd_sp m U P k = some P' ∧ fd_sc m U c (k + 1) P' = some R := by
  have h1 : (match fd_sp m U P k with
    | none => none
    | some P' => fd_rf P' (fun P' => fd_sc m U c (Nat.succ k) P')) = some R := h
  cases e : fd_sp m U P k with
  | none =>
    rw [e] at h1
    exact absurd h1 (by simp)
  | some P' =>
    rw [e] at h1
    have h2 : fd_rf P' (fun P' => fd_sc m U c (Nat.succ k) P') = some R := h1
    rw [fd_rf_eq] at h2
    exact ⟨P', rfl, h2⟩
def fd_sb (m : Nat) (W : List Nat) : Nat → Nat → List (List Nat) → Option (List (List Nat))
  | 0, _, P => some P
  | c + 1, x, P => fd_lf (fd_po W 0 (fd_rest m (fd_sub (fd_cf W 0) x))) (fun U => match fd_sc m U P.length 0 P with
    | none => none
    | some P' => fd_sb m W c (Nat.succ x) P')
theorem fd_sb_s {m : Nat} {W : List Nat} {c x : Nat} {P R : List (List Nat)} (h : fd_sb m W (c + 1) x P = some R) : ∃ P', fd_sc m (fd_po W 0 (fd_rest m (fd_sub (fd_cf W 0) x))) P.length 0 P = some P' ∧ fd_sb m W c (x + 1) P' = some R := by
  have h1 : fd_lf (fd_po W 0 (fd_rest m (fd_sub (fd_cf W 0) x))) (fun U => match fd_sc m U P.length 0 P with
    | none => none
    | some P' => fd_sb m W c (Nat.succ x) P') = some R := h
  rw [fd_lf_eq] at h1
  cases e : fd_sc m (fd_po W 0 (fd_rest m (fd_sub (fd_cf W 0) x))) P.length 0 P with
  | none =>
    rw [e] at h1
    exact absurd h1 (by simp)
  | some P' =>
    rw [e] at h1
    exact ⟨P', rfl, h1⟩
section
variable {fc lc dc : Int32} {mo pr : Int64} {a1 a3 : Nat → Int64} {a2 a4 a5 a6 : Nat → Int32} {M : Nat → List Nat}
theorem fd_sb49 {post : St2 → Prop} {J : Int64 → Int32 → Int64 → Int64 → Int32 → Int32 → (Nat → Int64) → (Nat → Int32) → (Nat → Int64) → (Nat → Int32) → (Nat → Int32) → (Nat → Int32) → Prop} {m n0 : Nat} {x1 : Int64} {R : List (List Nat)} {U : List Nat} (hm : fd_tN mo = m) (hp : fd_tN pr = m) (hm0 : m ≠ 0) (hn0 : n0 ≤ 5)
    (H : ∀ M' s, (∀ j, j ≠ 8 → j ≠ 9 → j ≠ 10 → j ≠ 21 → (j < 11 ∨ 16 ≤ j) → M' j = M j) → fd_PP R M' → fd_RR M' s → J (x1 + 1) fc mo pr (nI R.length) dc s a2 a3 a4 a5 a6) :
    ∀ (c k : Nat) (P : List (List Nat)) (M1 : Nat → List Nat) (s : Nat → Int64), k + c = n0 → n0 ≤ P.length → (∀ j, j ≠ 8 → j ≠ 9 → j ≠ 10 → j ≠ 21 → (j < 11 ∨ 16 ≤ j) → M1 j = M j) → M1 20 = U → fd_PP P M1 → fd_RR M1 s → fd_sc m U c k P = some R →
    wX_splitBy_49 post J x1 (nI n0) (c + 1) (nI k) fc mo pr (nI P.length) dc s a2 a3 a4 a5 a6 := by
  intro c
  induction c with
  | zero =>
    intro k P M1 s hk hn hf hU hP hs he
    have e : P = R := Option.some.inj he
    refine pk_le n0 k (fun _ => nm_e ?_) (fun z => absurd z (by omega))
    rw [e] at hP ⊢
    exact H M1 s hf hP hs
  | succ c ih =>
    intro k P M1 s hk hn hf hU hP hs he
    obtain ⟨P', e1, e2⟩ := fd_sc_s he
    refine pk_le n0 k (fun z => absurd z (by omega)) (fun _ => ?_)
    rw [fd_ix11]
    refine fd_splitPiece hs hm hp hm0 hP rfl (by omega) (by rw [hU]; exact e1) (fun M2 s2 f2 p2 l2 h2 => nm_r (nI_1 k) ?_)
    refine ih (k + 1) P' M2 s2 (by omega) (by omega) (fun j j1 j2 j3 j4 j5 => ?_) ?_ p2 h2 e2
    · rw [f2 j j1 j2 j3 j4 j5]
      exact hf j j1 j2 j3 j4 j5
    · rw [f2 20 (by omega) (by omega) (by omega) (by omega) (by omega)]
      exact hU
theorem fd_sb2 {post : St2 → Prop} {m : Nat} {R : List (List Nat)} {W : List Nat} (hm : fd_tN mo = m) (hp : fd_tN pr = m) (hm0 : m ≠ 0) (hm1 : m < 1000)
    (H : ∀ M' s, (∀ j, j ≠ 8 → j ≠ 9 → j ≠ 10 → j ≠ 20 → j ≠ 21 → (j < 11 ∨ 16 ≤ j) → M' j = M j) → fd_PP R M' → fd_RR M' s → post (fc, mo, pr, nI R.length, dc, s, a2, a3, a4, a5, a6)) :
    ∀ (c x : Nat) (X : Int64) (P : List (List Nat)) (M1 : Nat → List Nat) (s : Nat → Int64), x + c = m → fd_tN X = x → (∀ j, j ≠ 8 → j ≠ 9 → j ≠ 10 → j ≠ 20 → j ≠ 21 → (j < 11 ∨ 16 ≤ j) → M1 j = M j) → M1 23 = W → fd_PP P M1 → fd_RR M1 s → fd_sb m W c x P = some R →
    wX_splitBy_2 post (c + 1) X fc mo pr (nI P.length) dc s a2 a3 a4 a5 a6 := by
  intro c
  induction c with
  | zero =>
    intro x X P M1 s hx hX hf hW hP hs he
    have e : P = R := Option.some.inj he
    refine br_t ?_ ?_
    · rw [fd_le, hp, hX, fd_sh_le (by omega) (by omega)]
      omega
    · rw [e] at hP ⊢
      exact H M1 s hf hP hs
  | succ c ih =>
    intro x X P M1 s hx hX hf hW hP hs he
    obtain ⟨P', e1, e2⟩ := fd_sb_s he
    have hl5 := hP.1
    refine br_f ?_ ?_
    · rw [fd_le, hp, hX, fd_sh_le (by omega) (by omega)]
      omega
    · refine fd_copy hs 20 23 (by omega) (by omega) (fun s1 h1 => fd_restW (by omega) (fun r hr => nm_e ?_))
      have e20 : fd_tN (s1 240) = fd_cf W 0 := by
        have := fd_rd h1 (k := 20) (i := 0) (by omega) (by omega)
        rw [fd_up_s, hW] at this
        exact this
      rw [hm, fd_tN_sub, e20, hX] at hr
      have h2 : fd_RR (fd_up M1 20 (fd_po W 0 (fd_rest m (fd_sub (fd_cf W 0) x)))) (vp_updL s1 240 r) := by
        have := fd_RR_p (k := 20) (i := 0) (x := r) h1 (by omega) (by omega) hr
        rw [fd_up_s, fd_up_up, hW] at this
        exact this
      refine ⟨P.length + 1, fd_sb49 (M := fd_up M1 20 (fd_po W 0 (fd_rest m (fd_sub (fd_cf W 0) x)))) hm hp hm0 hl5 (fun M3 s3 f3 p3 h3 => ?_) P.length 0 P _ _ (by omega) (Nat.le_refl _) (fun _ _ _ _ _ _ => rfl) fd_up_s ⟨hP.1, fun k hk => by rw [fd_up_n (by omega)]; exact hP.2 k hk⟩ h2 e1⟩
      refine ih (x + 1) (X + 1) P' M3 s3 (by omega) ?_ (fun j j1 j2 j3 j4 j5 j6 => ?_) ?_ p3 h3 e2
      · rw [fd_tN_add, hX, fd_tN1, fd_add_eq]
        omega
      · rw [f3 j j1 j2 j3 j5 j6, fd_up_n j4]
        exact hf j j1 j2 j3 j4 j5 j6
      · rw [f3 23 (by omega) (by omega) (by omega) (by omega) (by omega), fd_up_n (by omega)]
        exact hW
theorem fd_splitBy {post : St2 → Prop} {m : Nat} {P R : List (List Nat)} (h : fd_RR M a1) (hm : fd_tN mo = m) (hp : fd_tN pr = m) (hm0 : m ≠ 0) (hm1 : m < 1000) (hP : fd_PP P M) (hlc : lc = nI P.length) (he : fd_sb m (M 23) m 0 P = some R)
    (H : ∀ M' s, (∀ j, j ≠ 8 → j ≠ 9 → j ≠ 10 → j ≠ 20 → j ≠ 21 → (j < 11 ∨ 16 ≤ j) → M' j = M j) → fd_PP R M' → fd_RR M' s → post (fc, mo, pr, nI R.length, dc, s, a2, a3, a4, a5, a6)) :
    wpX_splitBy post (fc, mo, pr, lc, dc, a1, a2, a3, a4, a5, a6) := by
  subst hlc
  exact ⟨m + 1, fd_sb2 (M := M) hm hp hm0 hm1 H m 0 0 P M a1 (by omega) fd_tN0 (fun _ _ _ _ _ _ _ => rfl) rfl hP h he⟩
end
def fd_sm (m n pc : Nat) (X : List (List Nat)) (V : List Nat) : Nat → Nat → List (List Nat) → Option (List (List Nat))
  | 0, _, P => some P
  | c + 1, fr, P => cond (Nat.ble pc P.length) (some P) (match fd_cf V fr with
    | _ + 1 => fd_sm m n pc X V c (Nat.succ fr) P
    | 0 => fd_lf (fd_sol m n fr X V) (fun W => match fd_sb m W m 0 P with
      | none => none
      | some P' => fd_sm m n pc X V c (Nat.succ fr) P'))
section
variable {fc lc dc : Int32} {mo pr : Int64} {a1 a3 : Nat → Int64} {a2 a4 a5 a6 : Nat → Int32} {M : Nat → List Nat}
theorem fd_sm54 {post : St2 → Prop} {m n pc : Nat} {R X : List (List Nat)} {V : List Nat} (hm : fd_tN mo = m) (hp : fd_tN pr = m) (hm0 : m ≠ 0) (hm1 : m < 1000) (hn : n ≤ 5) (hpc : pc ≤ 5) (hX : fd_RM n X a3) (hV : fd_RV n V a4 a5) (hVl : V.length = n)
    (H : ∀ M' s, (∀ j, j < 8 → M' j = M j) → fd_PP R M' → fd_RR M' s → post (fc, mo, pr, nI R.length, dc, s, a2, a3, a4, a5, a6)) :
    ∀ (c fr : Nat) (P : List (List Nat)) (M1 : Nat → List Nat) (s : Nat → Int64), fr + c = n → (∀ j, j < 8 → M1 j = M j) → fd_PP P M1 → fd_RR M1 s → fd_sm m n pc X V c fr P = some R →
    wX_splitModulo_54 post (nI n) (nI pc) (c + 1) (nI fr) fc mo pr (nI P.length) dc s a2 a3 a4 a5 a6 := by
  intro c
  induction c with
  | zero =>
    intro fr P M1 s hfr hf hP hs he
    have e : P = R := Option.some.inj he
    refine pk_le n fr (fun _ => ?_) (fun z => absurd z (by omega))
    rw [e] at hP ⊢
    exact H M1 s hf hP hs
  | succ c ih =>
    intro fr P M1 s hfr hf hP hs he
    have hl5 := hP.1
    have he1 : cond (Nat.ble pc P.length) (some P) (match fd_cf V fr with
      | _ + 1 => fd_sm m n pc X V c (Nat.succ fr) P
      | 0 => fd_lf (fd_sol m n fr X V) (fun W => match fd_sb m W m 0 P with
        | none => none
        | some P' => fd_sm m n pc X V c (Nat.succ fr) P')) = some R := he
    refine pk_le n fr (fun z => absurd z (by omega)) (fun _ => pk_le pc P.length (fun z => ?_) (fun z => ⟨pk_in fr 5 (by omega), ?_⟩))
    · rw [fd_ble_t z] at he1
      have e : P = R := Option.some.inj he1
      rw [e] at hP ⊢
      exact H M1 s hf hP hs
    · rw [fd_ble_f z] at he1
      have he2 : (match fd_cf V fr with
        | _ + 1 => fd_sm m n pc X V c (Nat.succ fr) P
        | 0 => fd_lf (fd_sol m n fr X V) (fun W => match fd_sb m W m 0 P with
          | none => none
          | some P' => fd_sm m n pc X V c (Nat.succ fr) P')) = some R := he1
      rw [nI_clamp (show fr < 2 ^ 31 by omega)]
      have hv := hV fr (by omega)
      refine br_c (fun y => ?_) (fun y => nm_r (nI_1 fr) ?_)
      · have e0 : fd_cf V fr = 0 := by
          rcases Nat.eq_zero_or_pos (fd_cf V fr) with e | e
          · exact e
          · exfalso
            obtain ⟨r, er⟩ := Nat.exists_eq_succ_of_ne_zero (show fd_cf V fr ≠ 0 by omega)
            rw [(hv.2.2 r er).1] at y
            exact absurd y (by decide)
        rw [e0] at he2
        have he3 : fd_lf (fd_sol m n fr X V) (fun W => match fd_sb m W m 0 P with
          | none => none
          | some P' => fd_sm m n pc X V c (Nat.succ fr) P') = some R := he2
        rw [fd_lf_eq] at he3
        cases e : fd_sb m (fd_sol m n fr X V) m 0 P with
        | none =>
          rw [e] at he3
          exact absurd he3 (by simp)
        | some P' =>
          rw [e] at he3
          refine fd_solution hs (by omega) hn (by omega) hX hV hVl (fun s1 h1 => ?_)
          rw [hm] at h1
          refine fd_splitBy (P := P) (R := P') h1 hm hp hm0 hm1 ⟨hP.1, fun k hk => by rw [fd_up_n (by omega)]; exact hP.2 k hk⟩ rfl (by rw [fd_up_s]; exact e) (fun M2 s2 f2 p2 h2 => nm_r (nI_1 fr) ?_)
          refine ih (fr + 1) P' M2 s2 (by omega) (fun j hj => ?_) p2 h2 he3
          rw [f2 j (by omega) (by omega) (by omega) (by omega) (by omega) (by omega), fd_up_n (by omega)]
          exact hf j hj
      · have e0 : fd_cf V fr ≠ 0 := fun e => y (hv.2.1 e)
        obtain ⟨r, er⟩ := Nat.exists_eq_succ_of_ne_zero e0
        rw [er] at he2
        exact ih (fr + 1) P M1 s (by omega) hf hP hs he2
end
/-- splitModulo: the pieces -/
def fd_spl (p : Nat) (L : List Nat) : Option (List (List Nat)) :=
  match fd_mo p p (fd_tr (L.map (fd_rest p))) with
  | none => none
  | some L1 => fd_lf L1 (fun L1 => match fd_tr L1 with
    | [] => none
    | b :: B => match B.length with
      | 0 => none
      | k + 1 => cond (Nat.ble (Nat.succ k) 5) (fd_rf (fd_mat p (Nat.succ k) p (b :: B)) (fun X => match fd_elm p p (Nat.succ k) (Nat.succ k) 0 0 X [] with
        | none => none
        | some (row, X', V) => fd_sm p (Nat.succ k) (Nat.sub (Nat.succ k) row) X' V k 1 [L1])) none)
theorem fd_spl_some {p : Nat} {L : List Nat} {R : List (List Nat)} (h : fd_spl p L = some R) : ∃ L1 k row X' V, fd_mo p p (fd_tr (L.map (fd_rest p))) = some L1 ∧ fd_ln L1 = k + 1 + 1 ∧ k + 1 ≤ 5 ∧ fd_elm p p (k + 1) (k + 1) 0 0 (fd_mat p (k + 1) p (fd_tr L1)) [] = some (row, X', V) ∧ fd_sm p (k + 1) (k + 1 - row) X' V k 1 [L1] = some R := by
  unfold fd_spl at h
  cases c : fd_mo p p (fd_tr (L.map (fd_rest p))) with
  | none =>
    rw [c] at h
    exact absurd h (by simp)
  | some L1 =>
    rw [c] at h
    have h1 : fd_lf L1 (fun L1 => match fd_tr L1 with
      | [] => none
      | b :: B => match B.length with
        | 0 => none
        | k + 1 => cond (Nat.ble (Nat.succ k) 5) (fd_rf (fd_mat p (Nat.succ k) p (b :: B)) (fun X => match fd_elm p p (Nat.succ k) (Nat.succ k) 0 0 X [] with
          | none => none
          | some (row, X', V) => fd_sm p (Nat.succ k) (Nat.sub (Nat.succ k) row) X' V k 1 [L1])) none) = some R := h
    rw [fd_lf_eq] at h1
    have hl := fd_tr_len L1
    cases d : fd_tr L1 with
    | nil =>
      rw [d] at h1
      exact absurd h1 (by simp)
    | cons b B =>
      rw [d] at h1 hl
      have h2 : (match B.length with
        | 0 => none
        | k + 1 => cond (Nat.ble (Nat.succ k) 5) (fd_rf (fd_mat p (Nat.succ k) p (b :: B)) (fun X => match fd_elm p p (Nat.succ k) (Nat.succ k) 0 0 X [] with
          | none => none
          | some (row, X', V) => fd_sm p (Nat.succ k) (Nat.sub (Nat.succ k) row) X' V k 1 [L1])) none) = some R := h1
      cases e : B.length with
      | zero =>
        rw [e] at h2
        exact absurd h2 (by simp)
      | succ k =>
        rw [e] at h2
        have h3 : cond (Nat.ble (Nat.succ k) 5) (fd_rf (fd_mat p (Nat.succ k) p (b :: B)) (fun X => match fd_elm p p (Nat.succ k) (Nat.succ k) 0 0 X [] with
          | none => none
          | some (row, X', V) => fd_sm p (Nat.succ k) (Nat.sub (Nat.succ k) row) X' V k 1 [L1])) none = some R := h2
        by_cases g : k + 1 ≤ 5
        · rw [fd_ble_t g] at h3
          have h4 : fd_rf (fd_mat p (Nat.succ k) p (b :: B)) (fun X => match fd_elm p p (Nat.succ k) (Nat.succ k) 0 0 X [] with
            | none => none
            | some (row, X', V) => fd_sm p (Nat.succ k) (Nat.sub (Nat.succ k) row) X' V k 1 [L1]) = some R := h3
          rw [fd_rf_eq] at h4
          cases f : fd_elm p p (Nat.succ k) (Nat.succ k) 0 0 (fd_mat p (Nat.succ k) p (b :: B)) [] with
          | none =>
            rw [f] at h4
            exact absurd h4 (by simp)
          | some T =>
            rw [f] at h4
            refine ⟨L1, k, T.1, T.2.1, T.2.2, rfl, ?_, g, by rw [d]; exact f, h4⟩
            rw [← hl, List.length_cons, e]
        · rw [fd_ble_f (by omega)] at h3
          exact absurd h3 (by simp)
section
variable {fc lc dc : Int32} {mo pr : Int64} {a1 a3 : Nat → Int64} {a2 a4 a5 a6 : Nat → Int32} {M : Nat → List Nat}
theorem fd_splitModulo {post : St2 → Prop} {p : Nat} {R : List (List Nat)} (h : fd_RR M a1) (hm : fd_tN mo = p) (hp : fd_tN pr = p) (hp0 : p ≠ 0) (hp1 : p < 1000) (he : fd_spl p (M 5) = some R)
    (H : ∀ M' s b3 b4 b5, (∀ j, j < 8 → M' j = M j) → fd_PP R M' → fd_RR M' s → post (fc, mo, pr, nI R.length, dc, s, a2, b3, b4, b5, a6)) :
    wpX_splitModulo post (fc, mo, pr, lc, dc, a1, a2, a3, a4, a5, a6) := by
  obtain ⟨L1, k, row, X', V, e1, e2, e3, e4, e5⟩ := fd_spl_some he
  refine fd_copy h 11 5 (by omega) (by omega) (fun s1 h1 => fd_reduce h1 (by omega) 11 (by omega) (fun s2 h2 => ?_))
  rw [fd_up_s, fd_up_up, hm] at h2
  have h3 := fd_RR_c (k := 11) (L := fd_tr ((M 5).map (fd_rest p))) h2 (fd_tr_l12 (by rw [List.length_map]; exact (h 5 (by omega)).1)) (fun j _ => by rw [fd_up_s, fd_tr_cf])
  rw [fd_up_up] at h3
  refine fd_makeMonic h3 (by omega) (by omega) 11 (by omega) (R := L1) (by rw [fd_up_s, hm, hp]; exact e1) (fun s4 h4 => ?_)
  rw [fd_up_up] at h4
  have g11 : fd_up M 11 L1 11 = L1 := fd_up_s
  refine fd_degreeOf h4 11 (by omega) ?_
  rw [g11, e2, fd_di_s]
  refine fd_copy h4 24 11 (by omega) (by omega) (fun s5 h5 => ?_)
  rw [g11] at h5
  have g24 : fd_up (fd_up M 11 L1) 24 L1 24 = L1 := fd_up_s
  refine fd_fillMatrix (n := k + 1) (p := p) h5 (by omega) hp hp1 e3 (by rw [g24]; exact e2) (fun W s6 b6 h6 m6 => ?_)
  rw [g24, hm] at m6
  refine fd_eliminate e3 (by omega) (by omega) m6 (by rw [hm, hp]; exact e4) (fun b7 b4' b5' hr hVl hX7 hV7 => ?_)
  refine nm_r (pk_sub hr) ⟨k + 1, ?_⟩
  refine fd_sm54 (M := M) hm hp hp0 hp1 e3 (by omega) hX7 hV7 hVl (fun M8 s8 f8 p8 h8 => H M8 s8 _ _ _ f8 p8 h8) k 1 [L1] _ s6 (by omega) (fun j hj => ?_) ⟨by simp, fun q hq => ?_⟩ h6 e5
  · rw [fd_up_n (by omega), fd_up_n (by omega), fd_up_n (by omega)]
  · have eq : q = 0 := by
      simp at hq
      exact hq
    subst eq
    rw [fd_up_n (by omega), fd_up_n (by omega)]
    exact fd_up_s
end
end
section
/-! the couples of Bezout; sharing out a fault -/
def fd_bk (m : Nat) (B T : List Nat) : List Nat := fd_tr (fd_z2 (fun x y => fd_rest m (fd_sub x y)) B T)
theorem fd_bk_cf (m : Nat) (B T : List Nat) (i : Nat) : fd_cf (fd_bk m B T) i = fd_rest m (fd_sub (fd_cf B i) (fd_cf T i)) := by
  unfold fd_bk
  rw [fd_tr_cf, fd_z2_cf _ (show (fun x y => fd_rest m (fd_sub x y)) 0 0 = 0 from fd_rest_0 m)]
theorem fd_bk_len {m : Nat} {B T : List Nat} (hB : B.length ≤ 12) (hT : T.length ≤ 12) : (fd_bk m B T).length ≤ 12 := fd_tr_l12 (fd_z2_len _ _ _ 12 hB hT)
/-- two slots given place by place, the others kept -/
theorem fd_RR_2 {M : Nat → List Nat} {a s : Nat → Int64} {b n : Nat} {X Y : List Nat} (h : fd_RR M a) (hbn : b ≠ n) (hX : X.length ≤ 12) (hY : Y.length ≤ 12)
    (h1 : ∀ j, j < 12 → fd_tN (s (12 * b + j)) = fd_cf X j) (h2 : ∀ j, j < 12 → fd_tN (s (12 * n + j)) = fd_cf Y j)
    (h3 : ∀ j, (j < 12 * b ∨ 12 * b + 12 ≤ j) → (j < 12 * n ∨ 12 * n + 12 ≤ j) → s j = a j) : fd_RR (fd_up (fd_up M b X) n Y) s := by
  intro q hq
  by_cases e : q = n
  · subst e
    rw [fd_up_s]
    exact ⟨hY, h2⟩
  · rw [fd_up_n e]
    by_cases e1 : q = b
    · subst e1
      rw [fd_up_s]
      exact ⟨hX, h1⟩
    · rw [fd_up_n e1]
      refine ⟨(h q hq).1, fun i hi => ?_⟩
      rw [h3 _ (by omega) (by omega)]
      exact (h q hq).2 i hi
theorem fd_ix8 (k : Nat) : (96 : Int32) + nI k = nI (12 * 8 + k) := by
  show nI 96 + nI k = _
  rw [nI_add]
theorem fd_ix20 (k : Nat) : (240 : Int32) + nI k = nI (12 * 20 + k) := by
  show nI 240 + nI k = _
  rw [nI_add]
theorem fd_ix16 (k : Nat) : (192 : Int32) + nI k = nI (12 * 16 + k) := by
  show nI 192 + nI k = _
  rw [nI_add]
theorem fd_ix21 (k : Nat) : (252 : Int32) + nI k = nI (12 * 21 + k) := by
  show nI 252 + nI k = _
  rw [nI_add]
theorem fd_ix19 (k : Nat) : (228 : Int32) + nI k = nI (12 * 19 + k) := by
  show nI 228 + nI k = _
  rw [nI_add]
theorem fd_ix22 (k : Nat) : (264 : Int32) + nI k = nI (12 * 22 + k) := by
  show nI 264 + nI k = _
  rw [nI_add]
section
variable {fc lc dc : Int32} {mo pr : Int64} {a1 a3 : Nat → Int64} {a2 a4 a5 a6 : Nat → Int32} {M : Nat → List Nat}
theorem fd_sb11 {post : St2 → Prop} {b n : Nat} (h : fd_RR M a1) (hm : fd_tN mo ≠ 0) (hb : b < 26) (hn : n < 26) (hbn : b ≠ n) (hb8 : b ≠ 8) (hn8 : n ≠ 8)
    (H : ∀ s, fd_RR (fd_up (fd_up M b (M n)) n (fd_bk (fd_tN mo) (M b) (M 8))) s → post (fc, mo, pr, lc, dc, s, a2, a3, a4, a5, a6)) :
    ∃ f, wX_stepBack_11 post (nI b) (nI n) fc mo pr lc dc f 0 a1 a2 a3 a4 a5 a6 := by
  refine pk_loop (fun f i s => wX_stepBack_11 post (nI b) (nI n) fc mo pr lc dc f (nI i) s a2 a3 a4 a5 a6) (fun i s => (∀ j, j < 12 → fd_tN (s (12 * b + j)) = if j < i then fd_cf (M n) j else fd_cf (M b) j) ∧ (∀ j, j < 12 → fd_tN (s (12 * n + j)) = if j < i then fd_cf (fd_bk (fd_tN mo) (M b) (M 8)) j else fd_cf (M n) j) ∧ (∀ j, (j < 12 * b ∨ 12 * b + 12 ≤ j) → (j < 12 * n ∨ 12 * n + 12 ≤ j) → s j = a1 j)) 12 0 a1 (by omega) ⟨fun j hj => ?_, fun j hj => ?_, fun _ _ _ => rfl⟩ ?_ ?_
  · rw [if_neg (by omega)]
    exact fd_rd h hb hj
  · rw [if_neg (by omega)]
    exact fd_rd h hn hj
  · intro f s hs
    refine pk_le 12 12 (fun _ => H s (fd_RR_2 h hbn (h n hn).1 (fd_bk_len (h b hb).1 (h 8 (by omega)).1) (fun j hj => ?_) (fun j hj => ?_) hs.2.2)) (fun z => absurd z (by omega))
    · rw [hs.1 j hj, if_pos hj]
    · rw [hs.2.1 j hj, if_pos hj]
  · intro f i s hi hs hw
    have hin : vp_in ((96 : Int32) + nI i) 312 := pk_in (12 * 8 + i) 312 (by omega) (fd_ix8 i)
    have ecx : ((96 : Int32) + nI i).toNatClampNeg = 12 * 8 + i := by rw [fd_ix8, nI_clamp (by omega)]
    refine pk_le 12 i (fun z => absurd z (by omega)) (fun _ => ⟨fd_ixi hb hi, hin, fd_restW hm (fun r hr => ⟨fd_ixi hn hi, fd_ixi hb hi, nm_r (by rw [fd_cx hb hi, fd_cx hn hi]) ⟨fd_ixi hn hi, nm_r (by rw [fd_cx hn hi]) (nm_r (nI_1 i) (hw _ ⟨fun j hj => ?_, fun j hj => ?_, fun j h1 h2 => ?_⟩))⟩⟩)⟩)
    · rw [pk_uLn (by omega)]
      by_cases e : j = i
      · rw [e, pk_uLs, if_pos (by omega), hs.2.1 i hi, if_neg (by omega)]
      · rw [pk_uLn (by omega), hs.1 j hj]
        by_cases e1 : j < i
        · rw [if_pos e1, if_pos (by omega)]
        · rw [if_neg e1, if_neg (by omega)]
    · by_cases e : j = i
      · rw [e, pk_uLs, if_pos (by omega), hr, fd_tN_sub, fd_cx hb hi, ecx, hs.1 i hi, if_neg (by omega), hs.2.2 _ (by omega) (by omega), fd_rd h (by omega) hi, fd_bk_cf]
      · rw [pk_uLn (by omega), pk_uLn (by omega), hs.2.1 j hj]
        by_cases e1 : j < i
        · rw [if_pos e1, if_pos (by omega)]
        · rw [if_neg e1, if_neg (by omega)]
    · rw [pk_uLn (by omega), pk_uLn (by omega)]
      exact hs.2.2 j h1 h2
theorem fd_stepBack {post : St2 → Prop} {b n : Nat} (h : fd_RR M a1) (hm : fd_tN mo ≠ 0) (hb : b < 25) (hn : n < 25) (hbn : b ≠ n) (hb8 : b ≠ 8) (hn8 : n ≠ 8)
    (H : ∀ M' s, (∀ j, j ≠ b → j ≠ n → j ≠ 8 → j ≠ 25 → M' j = M j) → M' b = M n → M' n = fd_bk (fd_tN mo) (M b) (fd_mm (fd_tN mo) (M 9) (M n)) → fd_RR M' s → post (fc, mo, pr, lc, dc, s, a2, a3, a4, a5, a6)) :
    wpX_stepBack post (fc, mo, pr, lc, dc, a1, a2, a3, a4, a5, a6) (nI b) (nI n) := by
  unfold wpX_stepBack
  dsimp only
  refine fd_multiplyModulo h hm 8 9 n (by omega) (by omega) hn (fun g s1 h1 => fd_sb11 h1 hm (by omega) (by omega) hbn hb8 hn8 (fun s2 h2 => H _ s2 (fun j j1 j2 j3 j4 => ?_) ?_ ?_ h2))
  · rw [fd_up_n j2, fd_up_n j1, fd_up_n j3, fd_up_n j4]
  · rw [fd_up_n hbn, fd_up_s, fd_up_n hn8, fd_up_n (by omega)]
  · rw [fd_up_s, fd_up_n hb8, fd_up_n (by omega), fd_up_s]
end
/-- the couples -/
def fd_bz (m p : Nat) : Nat → List Nat → List Nat → List Nat → List Nat → List Nat → List Nat → Option (List Nat × List Nat)
  | 0, _, _, _, _, _, _ => none
  | n + 1, A, B, S, U, T, W => match fd_ln B with
    | 0 => (match fd_inv p (fd_ld A) with
      | none => none
      | some y => some (S.map (fun x => fd_rest m (fd_mul x y)), T.map (fun x => fd_rest m (fd_mul x y))))
    | _ + 1 => (match fd_dm m p A B with
      | none => none
      | some (Q, R) => fd_lf Q (fun Q => fd_lf R (fun R => fd_lf (fd_bk m S (fd_mm m Q U)) (fun U' => fd_lf (fd_bk m T (fd_mm m Q W)) (fun W' => fd_bz m p n B R U U' W W')))))
theorem fd_bz_0 {m p n : Nat} {A B S U T W : List Nat} {R : List Nat × List Nat} (hB : fd_ln B = 0) (h : fd_bz m p (n + 1) A B S U T W = some R) : ∃ y, fd_inv p (fd_ld A) = some y ∧ R = (S.map (fun x => fd_rest m (fd_mul x y)), T.map (fun x => fd_rest m (fd_mul x y))) := by
  unfold fd_bz at h
  rw [hB] at h
  cases c : fd_inv p (fd_ld A) with
  | none =>
    rw [c] at h
    exact absurd h (by simp)
  | some y =>
    rw [c] at h
    exact ⟨y, rfl, (Option.some.inj h).symm⟩
theorem fd_bz_s {m p n : Nat} {A B S U T W : List Nat} {R : List Nat × List Nat} (hB : fd_ln B ≠ 0) (h : fd_bz m p (n + 1) A B S U T W = some R) : ∃ Q R', fd_dm m p A B = some (Q, R') ∧ fd_bz m p n B R' U (fd_bk m S (fd_mm m Q U)) W (fd_bk m T (fd_mm m Q W)) = some R := by
  obtain ⟨d, e⟩ := Nat.exists_eq_succ_of_ne_zero hB
  unfold fd_bz at h
  rw [e] at h
  cases c : fd_dm m p A B with
  | none =>
    rw [c] at h
    exact absurd h (by simp)
  | some QR =>
    rw [c] at h
    have h1 : fd_lf QR.1 (fun Q => fd_lf QR.2 (fun R => fd_lf (fd_bk m S (fd_mm m Q U)) (fun U' => fd_lf (fd_bk m T (fd_mm m Q W)) (fun W' => fd_bz m p n B R U U' W W')))) = some R := h
    rw [fd_lf_eq, fd_lf_eq, fd_lf_eq, fd_lf_eq] at h1
    exact ⟨QR.1, QR.2, rfl, h1⟩
section
variable {fc lc dc : Int32} {mo pr : Int64} {a1 a3 : Nat → Int64} {a2 a4 a5 a6 : Nat → Int32} {M : Nat → List Nat}
/-- the slots that findBezout leaves -/
def fd_fb (M M' : Nat → List Nat) : Prop := ∀ j, j ≠ 6 → j ≠ 7 → j ≠ 8 → j ≠ 9 → j ≠ 10 → j ≠ 17 → j ≠ 18 → j ≠ 20 → j ≠ 21 → j ≠ 25 → M' j = M j
theorem fd_bz57 {post : St2 → Prop} {m p : Nat} {S' T' : List Nat} (hm : fd_tN mo = m) (hp : fd_tN pr = p) (hm0 : m ≠ 0) (hp0 : p ≠ 0)
    (H : ∀ M' s, fd_fb M M' → M' 17 = S' → M' 18 = T' → fd_RR M' s → post (fc, mo, pr, lc, dc, s, a2, a3, a4, a5, a6)) :
    ∀ (n : Nat) (M1 : Nat → List Nat) (s : Nat → Int64), fd_fb M M1 → fd_RR M1 s → fd_bz m p n (M1 6) (M1 7) (M1 17) (M1 20) (M1 18) (M1 21) = some (S', T') →
    wX_findBezout_57 post n fc mo pr lc dc s a2 a3 a4 a5 a6 := by
  have hmo : fd_tN mo ≠ 0 := by rw [hm]; exact hm0
  have hpr : fd_tN pr ≠ 0 := by rw [hp]; exact hp0
  intro n
  induction n with
  | zero =>
    intro M1 s _ _ h
    exact absurd h (by simp [fd_bz])
  | succ n ih =>
    intro M1 s hf hs h
    have l7 := fd_ln12 hs (k := 7) (by omega)
    unfold wX_findBezout_57
    refine fd_degreeOf hs 7 (by omega) (br_c (fun z => ?_) (fun z => ?_))
    · rw [fd_di_lt0 (by omega)] at z
      obtain ⟨y, e1, e2⟩ := fd_bz_0 z h
      have e3 : S' = (M1 17).map (fun x => fd_rest m (fd_mul x y)) := congrArg Prod.fst e2
      have e4 : T' = (M1 18).map (fun x => fd_rest m (fd_mul x y)) := congrArg Prod.snd e2
      refine fd_leadOf hs 6 (by omega) (fun r hr => fd_inverse hpr (y := y) (by rw [hp, hr]; exact e1) (fun v hv => fd_scale hs hmo 17 v (by omega) (fun s2 h2 => fd_scale h2 hmo 18 v (by omega) (fun s3 h3 => H _ s3 (fun j j1 j2 j3 j4 j5 j6 j7 j8 j9 j10 => ?_) ?_ ?_ h3))))
      · rw [fd_up_n j7, fd_up_n j6]
        exact hf j j1 j2 j3 j4 j5 j6 j7 j8 j9 j10
      · rw [fd_up_n (by omega), fd_up_s, e3, hm, hv]
      · rw [fd_up_s, fd_up_n (by omega), e4, hm, hv]
    · rw [fd_di_lt0 (by omega)] at z
      obtain ⟨Q, R', e1, e2⟩ := fd_bz_s z h
      refine fd_divideModulo hs hmo hpr 6 7 (by omega) (by omega) (by omega) (by omega) (Q := Q) (R := R') (by rw [hm, hp]; exact e1) (fun s2 h2 => fd_copy h2 6 7 (by omega) (by omega) (fun s3 h3 => fd_copy h3 7 10 (by omega) (by omega) (fun s4 h4 => ?_)))
      have h5 := fd_RR_e (M' := fd_up (fd_up (fd_up (fd_up M1 9 Q) 10 R') 6 (M1 7)) 7 R') h4 (fun k _ => by
        by_cases c : k = 7
        · rw [c, fd_up_s, fd_up_s, fd_up_n (by omega), fd_up_s]
        · rw [fd_up_n c, fd_up_n c]
          by_cases c1 : k = 6
          · rw [c1, fd_up_s, fd_up_s, fd_up_n (by omega), fd_up_n (by omega)]
          · rw [fd_up_n c1, fd_up_n c1])
      generalize hM5 : fd_up (fd_up (fd_up (fd_up M1 9 Q) 10 R') 6 (M1 7)) 7 R' = M5 at h5
      have g9 : M5 9 = Q := by rw [← hM5, fd_up_n (by omega), fd_up_n (by omega), fd_up_n (by omega), fd_up_s]
      have g6 : M5 6 = M1 7 := by rw [← hM5, fd_up_n (by omega), fd_up_s]
      have g7 : M5 7 = R' := by rw [← hM5, fd_up_s]
      have go : ∀ j, j ≠ 6 → j ≠ 7 → j ≠ 9 → j ≠ 10 → M5 j = M1 j := by
        intro j j1 j2 j3 j4
        rw [← hM5, fd_up_n j2, fd_up_n j1, fd_up_n j4, fd_up_n j3]
      refine fd_stepBack (b := 17) (n := 20) h5 hmo (by omega) (by omega) (by omega) (by omega) (by omega) (fun M6 s6 f6 x6 y6 h6 => fd_stepBack (b := 18) (n := 21) h6 hmo (by omega) (by omega) (by omega) (by omega) (by omega) (fun M7 s7 f7 x7 y7 h7 => ih M7 s7 (fun j j1 j2 j3 j4 j5 j6 j7 j8 j9 j10 => ?_) h7 ?_))
      · rw [f7 j j7 j9 j3 j10, f6 j j6 j8 j3 j10, go j j1 j2 j4 j5]
        exact hf j j1 j2 j3 j4 j5 j6 j7 j8 j9 j10
      · rw [f7 6 (by omega) (by omega) (by omega) (by omega), f6 6 (by omega) (by omega) (by omega) (by omega), g6,
          f7 7 (by omega) (by omega) (by omega) (by omega), f6 7 (by omega) (by omega) (by omega) (by omega), g7,
          f7 17 (by omega) (by omega) (by omega) (by omega), x6, go 20 (by omega) (by omega) (by omega) (by omega),
          f7 20 (by omega) (by omega) (by omega) (by omega), y6, go 17 (by omega) (by omega) (by omega) (by omega), g9, go 20 (by omega) (by omega) (by omega) (by omega),
          x7, f6 21 (by omega) (by omega) (by omega) (by omega), go 21 (by omega) (by omega) (by omega) (by omega),
          y7, f6 18 (by omega) (by omega) (by omega) (by omega), go 18 (by omega) (by omega) (by omega) (by omega),
          f6 9 (by omega) (by omega) (by omega) (by omega), g9, f6 21 (by omega) (by omega) (by omega) (by omega), go 21 (by omega) (by omega) (by omega) (by omega), hm]
        exact e2
theorem fd_findBezout {post : St2 → Prop} {fu m p u : Nat} {S' T' : List Nat} (h : fd_RR M a1) (hm : fd_tN mo = m) (hp : fd_tN pr = p) (hm0 : m ≠ 0) (hp0 : p ≠ 0) (hu : u < 26) (he : fd_bz m p fu (M u) (M 16) [1] [] [] [1] = some (S', T'))
    (H : ∀ M' s, fd_fb M M' → M' 17 = S' → M' 18 = T' → fd_RR M' s → post (fc, mo, pr, lc, dc, s, a2, a3, a4, a5, a6)) :
    wpX_findBezout post (fc, mo, pr, lc, dc, a1, a2, a3, a4, a5, a6) (nI u) := by
  refine fd_copy h 6 u (by omega) hu (fun s1 h1 => fd_copy h1 7 16 (by omega) (by omega) (fun s2 h2 => fd_clear h2 17 (by omega) (fun s3 h3 => fd_clear h3 20 (by omega) (fun s4 h4 => fd_clear h4 18 (by omega) (fun s5 h5 => fd_clear h5 21 (by omega) (fun s6 h6 => nm_e (nm_e ⟨fu, ?_⟩)))))))
  rw [fd_up_n (show 16 ≠ 6 by omega)] at h6
  have h7 := fd_RR_p (k := 17) (i := 0) (x := 1) (v := 1) h6 (by omega) (by omega) fd_tN1
  have h8 := fd_RR_p (k := 21) (i := 0) (x := 1) (v := 1) h7 (by omega) (by omega) fd_tN1
  refine fd_bz57 (M := M) hm hp hm0 hp0 H fu _ _ (fun j j1 j2 j3 j4 j5 j6 j7 j8 j9 j10 => ?_) h8 ?_
  · rw [fd_up_n j9, fd_up_n j6, fd_up_n j9, fd_up_n j7, fd_up_n j8, fd_up_n j6, fd_up_n j2, fd_up_n j1]
  · have g6 : ∀ X, fd_up (fd_up (fd_up (fd_up (fd_up (fd_up (fd_up (fd_up M 6 (M u)) 7 (M 16)) 17 []) 20 []) 18 []) 21 []) 17 X) 21 (fd_po (fd_up (fd_up (fd_up (fd_up (fd_up (fd_up (fd_up M 6 (M u)) 7 (M 16)) 17 []) 20 []) 18 []) 21 []) 17 X 21) 0 1) 6 = M u := fun _ => rfl
    rw [g6]
    exact he
end
/-- sharing out -/
def fd_pl (w x y : Nat) : Nat := fd_add x (fd_mul w y)
theorem fd_pl_0 (w : Nat) : fd_pl w 0 0 = 0 := by
  unfold fd_pl
  rw [fd_mul_0']
  rfl
def fd_ar (m x y : Nat) : Nat := fd_rest m (fd_add x y)
theorem fd_ar_0 (m : Nat) : fd_ar m 0 0 = 0 := fd_rest_0 m
def fd_s2 (p w : Nat) (S T u C F : List Nat) : Option (List Nat × List Nat) :=
  fd_lf (fd_tr (u.map (fd_rest p))) (fun o => fd_lf (fd_tr (C.map (fd_rest p))) (fun t => fd_lf (fd_mm p T F) (fun su => match fd_dm p p su o with
    | none => none
    | some (Q, R) => fd_lf Q (fun Q => fd_lf (fd_mm p Q t) (fun sw => fd_lf (fd_mm p S F) (fun F2 => some (fd_z2 (fd_pl w) u R, fd_tr (fd_z2 (fd_pl w) C (fd_z2 (fd_ar p) sw F2)))))))))
theorem fd_s2_some {p w : Nat} {S T u C F u' C' : List Nat} (h : fd_s2 p w S T u C F = some (u', C')) : ∃ Q R, fd_dm p p (fd_mm p T F) (fd_tr (u.map (fd_rest p))) = some (Q, R) ∧ u' = fd_z2 (fd_pl w) u R ∧ C' = fd_tr (fd_z2 (fd_pl w) C (fd_z2 (fd_ar p) (fd_mm p Q (fd_tr (C.map (fd_rest p)))) (fd_mm p S F))) := by
  unfold fd_s2 at h
  rw [fd_lf_eq, fd_lf_eq, fd_lf_eq] at h
  cases c : fd_dm p p (fd_mm p T F) (fd_tr (u.map (fd_rest p))) with
  | none =>
    rw [c] at h
    exact absurd h (by simp)
  | some QR =>
    rw [c] at h
    have h1 : fd_lf QR.1 (fun Q => fd_lf (fd_mm p Q (fd_tr (C.map (fd_rest p)))) (fun sw => fd_lf (fd_mm p S F) (fun F2 => some (fd_z2 (fd_pl w) u QR.2, fd_tr (fd_z2 (fd_pl w) C (fd_z2 (fd_ar p) sw F2)))))) = some (u', C') := h
    rw [fd_lf_eq, fd_lf_eq, fd_lf_eq] at h1
    have h2 := Option.some.inj h1
    exact ⟨QR.1, QR.2, rfl, (congrArg Prod.fst h2).symm, (congrArg Prod.snd h2).symm⟩
section
variable {fc lc dc : Int32} {mo pr : Int64} {a1 a3 : Nat → Int64} {a2 a4 a5 a6 : Nat → Int32} {M : Nat → List Nat}
theorem fd_s76 {post : St2 → Prop} {u : Nat} {x2 : Int64} (h : fd_RR M a1) (hm : fd_tN mo ≠ 0) (hu : u < 16)
    (H : ∀ s, fd_RR (fd_up (fd_up M u (fd_z2 (fd_pl (fd_tN x2)) (M u) (M 20))) 16 (fd_z2 (fd_pl (fd_tN x2)) (M 16) (fd_z2 (fd_ar (fd_tN mo)) (M 21) (M 19)))) s → post (fc, mo, pr, lc, dc, s, a2, a3, a4, a5, a6)) :
    ∃ f, wX_shareOut_76 post (nI u) x2 fc mo pr lc dc f 0 a1 a2 a3 a4 a5 a6 := by
  have cu : ∀ j, fd_cf (fd_z2 (fd_pl (fd_tN x2)) (M u) (M 20)) j = fd_pl (fd_tN x2) (fd_cf (M u) j) (fd_cf (M 20) j) := fun j => fd_z2_cf _ (fd_pl_0 _) _ _ j
  have cC : ∀ j, fd_cf (fd_z2 (fd_pl (fd_tN x2)) (M 16) (fd_z2 (fd_ar (fd_tN mo)) (M 21) (M 19))) j = fd_pl (fd_tN x2) (fd_cf (M 16) j) (fd_ar (fd_tN mo) (fd_cf (M 21) j) (fd_cf (M 19) j)) := fun j => by
    rw [fd_z2_cf _ (fd_pl_0 _), fd_z2_cf _ (fd_ar_0 _)]
  refine pk_loop (fun f i s => wX_shareOut_76 post (nI u) x2 fc mo pr lc dc f (nI i) s a2 a3 a4 a5 a6) (fun i s => (∀ j, j < 12 → fd_tN (s (12 * u + j)) = if j < i then fd_cf (fd_z2 (fd_pl (fd_tN x2)) (M u) (M 20)) j else fd_cf (M u) j) ∧ (∀ j, j < 12 → fd_tN (s (12 * 16 + j)) = if j < i then fd_cf (fd_z2 (fd_pl (fd_tN x2)) (M 16) (fd_z2 (fd_ar (fd_tN mo)) (M 21) (M 19))) j else fd_cf (M 16) j) ∧ (∀ j, (j < 12 * u ∨ 12 * u + 12 ≤ j) → (j < 12 * 16 ∨ 12 * 16 + 12 ≤ j) → s j = a1 j)) 12 0 a1 (by omega) ⟨fun j hj => ?_, fun j hj => ?_, fun _ _ _ => rfl⟩ ?_ ?_
  · rw [if_neg (by omega)]
    exact fd_rd h (by omega) hj
  · rw [if_neg (by omega)]
    exact fd_rd h (by omega) hj
  · intro f s hs
    refine pk_le 12 12 (fun _ => H s (fd_RR_2 h (by omega) (fd_z2_len _ _ _ 12 (h u (by omega)).1 (h 20 (by omega)).1) (fd_z2_len _ _ _ 12 (h 16 (by omega)).1 (fd_z2_len _ _ _ 12 (h 21 (by omega)).1 (h 19 (by omega)).1)) (fun j hj => ?_) (fun j hj => ?_) hs.2.2)) (fun z => absurd z (by omega))
    · rw [hs.1 j hj, if_pos hj]
    · rw [hs.2.1 j hj, if_pos hj]
  · intro f i s hi hs hw
    have i20 : vp_in ((240 : Int32) + nI i) 312 := pk_in (12 * 20 + i) 312 (by omega) (fd_ix20 i)
    have c20 : ((240 : Int32) + nI i).toNatClampNeg = 12 * 20 + i := by rw [fd_ix20, nI_clamp (by omega)]
    have i16 : vp_in ((192 : Int32) + nI i) 312 := pk_in (12 * 16 + i) 312 (by omega) (fd_ix16 i)
    have c16 : ((192 : Int32) + nI i).toNatClampNeg = 12 * 16 + i := by rw [fd_ix16, nI_clamp (by omega)]
    have i21 : vp_in ((252 : Int32) + nI i) 312 := pk_in (12 * 21 + i) 312 (by omega) (fd_ix21 i)
    have c21 : ((252 : Int32) + nI i).toNatClampNeg = 12 * 21 + i := by rw [fd_ix21, nI_clamp (by omega)]
    have i19 : vp_in ((228 : Int32) + nI i) 312 := pk_in (12 * 19 + i) 312 (by omega) (fd_ix19 i)
    have c19 : ((228 : Int32) + nI i).toNatClampNeg = 12 * 19 + i := by rw [fd_ix19, nI_clamp (by omega)]
    refine pk_le 12 i (fun z => absurd z (by omega)) (fun _ => ⟨fd_ixi (by omega) hi, i20, fd_ixi (by omega) hi, nm_r (by rw [fd_cx (by omega) hi, c20]) ⟨i16, i21, i19, fd_restW hm (fun r hr => ⟨i16, nm_r (by rw [c16]) (nm_r (nI_1 i) (hw _ ⟨fun j hj => ?_, fun j hj => ?_, fun j h1 h2 => ?_⟩))⟩)⟩⟩)
    · rw [pk_uLn (by omega)]
      by_cases e : j = i
      · rw [e, pk_uLs, if_pos (by omega), fd_tN_add, fd_tN_mul, hs.1 i hi, if_neg (by omega), hs.2.2 _ (by omega) (by omega), fd_rd h (by omega) hi, cu]
        rfl
      · rw [pk_uLn (by omega), hs.1 j hj]
        by_cases e1 : j < i
        · rw [if_pos e1, if_pos (by omega)]
        · rw [if_neg e1, if_neg (by omega)]
    · by_cases e : j = i
      · rw [c21, c19, fd_tN_add, pk_uLn (by omega), pk_uLn (by omega), hs.2.2 _ (by omega) (by omega), hs.2.2 _ (by omega) (by omega), fd_rd h (by omega) hi, fd_rd h (by omega) hi] at hr
        rw [e, pk_uLs, if_pos (by omega), fd_tN_add, fd_tN_mul, pk_uLn (by omega), hs.2.1 i hi, if_neg (by omega), hr, cC]
        rfl
      · rw [pk_uLn (by omega), pk_uLn (by omega), hs.2.1 j hj]
        by_cases e1 : j < i
        · rw [if_pos e1, if_pos (by omega)]
        · rw [if_neg e1, if_neg (by omega)]
    · rw [pk_uLn (by omega), pk_uLn (by omega)]
      exact hs.2.2 j h1 h2
/-- the slots that sharing out leaves -/
def fd_fs (u : Nat) (M M' : Nat → List Nat) : Prop := ∀ j, j ≠ u → j ≠ 16 → j ≠ 6 → j ≠ 7 → j ≠ 9 → j ≠ 10 → j ≠ 19 → j ≠ 20 → j ≠ 21 → j ≠ 25 → M' j = M j
theorem fd_shareOut {post : St2 → Prop} {p u : Nat} {x2 : Int64} {u' C' : List Nat} (h : fd_RR M a1) (hm : fd_tN mo = p) (hp : fd_tN pr = p) (hp0 : p ≠ 0) (hu : 11 ≤ u) (hu2 : u < 16) (he : fd_s2 p (fd_tN x2) (M 17) (M 18) (M u) (M 16) (M 19) = some (u', C'))
    (H : ∀ M' s, fd_fs u M M' → M' u = u' → M' 16 = C' → fd_RR M' s → post (fc, mo, pr, lc, dc, s, a2, a3, a4, a5, a6)) :
    wpX_shareOut post (fc, mo, pr, lc, dc, a1, a2, a3, a4, a5, a6) (nI u) x2 := by
  have hmo : fd_tN mo ≠ 0 := by rw [hm]; exact hp0
  have hpr : fd_tN pr ≠ 0 := by rw [hp]; exact hp0
  obtain ⟨Q, R, e1, e2, e3⟩ := fd_s2_some he
  refine fd_copy h 6 u (by omega) (by omega) (fun s1 h1 => fd_reduce h1 hmo 6 (by omega) (fun s2 h2 => fd_copy h2 7 16 (by omega) (by omega) (fun s3 h3 => fd_reduce h3 hmo 7 (by omega) (fun s4 h4 => ?_))))
  have h5 : fd_RR (fd_up (fd_up M 6 (fd_tr ((M u).map (fd_rest p)))) 7 (fd_tr ((M 16).map (fd_rest p)))) s4 := by
    have t1 := fd_RR_c (k := 6) (L := fd_tr ((M u).map (fd_rest p))) h4 (fd_tr_l12 (by rw [List.length_map]; exact (h u (by omega)).1)) (fun j _ => by
      rw [fd_up_n (by omega), fd_up_n (by omega), fd_up_s, fd_up_s, fd_tr_cf, hm])
    have t2 := fd_RR_c (k := 7) (L := fd_tr ((M 16).map (fd_rest p))) t1 (fd_tr_l12 (by rw [List.length_map]; exact (h 16 (by omega)).1)) (fun j _ => by
      rw [fd_up_n (by omega), fd_up_s, fd_up_s, fd_up_n (by omega), fd_up_n (by omega), fd_tr_cf, hm])
    refine fd_RR_e t2 (fun k _ => ?_)
    by_cases c7 : k = 7
    · rw [c7, fd_up_s, fd_up_s]
    · rw [fd_up_n c7, fd_up_n c7]
      by_cases c6 : k = 6
      · rw [c6, fd_up_s, fd_up_s]
      · rw [fd_up_n c6, fd_up_n c6, fd_up_n c7, fd_up_n c7, fd_up_n c6, fd_up_n c6]
  generalize hM5 : fd_up (fd_up M 6 (fd_tr ((M u).map (fd_rest p)))) 7 (fd_tr ((M 16).map (fd_rest p))) = M5 at h5
  have g6 : M5 6 = fd_tr ((M u).map (fd_rest p)) := by rw [← hM5, fd_up_n (by omega), fd_up_s]
  have g7 : M5 7 = fd_tr ((M 16).map (fd_rest p)) := by rw [← hM5, fd_up_s]
  have go : ∀ j, j ≠ 6 → j ≠ 7 → M5 j = M j := by
    intro j j1 j2
    rw [← hM5, fd_up_n j2, fd_up_n j1]
  refine fd_multiplyModulo h5 hmo 20 18 19 (by omega) (by omega) (by omega) (fun g s6 h6 => ?_)
  rw [go 18 (by omega) (by omega), go 19 (by omega) (by omega), hm] at h6
  refine fd_divideModulo h6 hmo hpr 20 6 (by omega) (by omega) (by omega) (by omega) (Q := Q) (R := R) (by rw [fd_up_s, fd_up_n (by omega), fd_up_n (by omega), g6, hm, hp]; exact e1) (fun s7 h7 => fd_copy h7 20 10 (by omega) (by omega) (fun s8 h8 => ?_))
  rw [fd_up_s] at h8
  refine fd_multiplyModulo h8 hmo 21 9 7 (by omega) (by omega) (by omega) (fun g2 s9 h9 => fd_multiplyModulo h9 hmo 19 17 19 (by omega) (by omega) (by omega) (fun g3 s10 h10 => ?_))
  generalize hM10 : fd_up (fd_up (fd_up (fd_up (fd_up (fd_up (fd_up (fd_up (fd_up M5 25 g) 20 (fd_mm p (M 18) (M 19))) 9 Q) 10 R) 20 R) 25 g2) 21 _) 25 g3) 19 _ = M10 at h10
  have k20 : M10 20 = R := by rw [← hM10]; rfl
  have k21 : M10 21 = fd_mm p Q (fd_tr ((M 16).map (fd_rest p))) := by
    rw [← hM10, ← g7]
    show fd_mm (fd_tN mo) Q (M5 7) = _
    rw [hm]
  have k19 : M10 19 = fd_mm p (M 17) (M 19) := by
    rw [← hM10, ← go 17 (by omega) (by omega), ← go 19 (by omega) (by omega), ← hm]
    rfl
  have ko : ∀ j, j ≠ 6 → j ≠ 7 → j ≠ 9 → j ≠ 10 → j ≠ 19 → j ≠ 20 → j ≠ 21 → j ≠ 25 → M10 j = M j := by
    intro j j1 j2 j3 j4 j5 j6 j7 j8
    rw [← hM10, fd_up_n j5, fd_up_n j8, fd_up_n j7, fd_up_n j8, fd_up_n j6, fd_up_n j4, fd_up_n j3, fd_up_n j6, fd_up_n j8]
    exact go j j1 j2
  refine fd_s76 h10 hmo hu2 (fun s11 h11 => H (fd_up (fd_up M10 u u') 16 C') s11 (fun j j1 j2 j3 j4 j5 j6 j7 j8 j9 j10 => ?_) ?_ fd_up_s ?_)
  · rw [fd_up_n j2, fd_up_n j1]
    exact ko j j3 j4 j5 j6 j7 j8 j9 j10
  · rw [fd_up_n (by omega), fd_up_s]
  · rw [k20, k21, k19, ko u (by omega) (by omega) (by omega) (by omega) (by omega) (by omega) (by omega) (by omega), ko 16 (by omega) (by omega) (by omega) (by omega) (by omega) (by omega) (by omega) (by omega), hm, ← e2] at h11
    have t := fd_RR_c (k := 16) (L := C') h11 (by
      have := (h11 16 (by omega)).1
      rw [fd_up_s] at this
      rw [e3]
      exact fd_tr_l12 this) (fun j _ => by rw [fd_up_s, e3, fd_tr_cf])
    rw [fd_up_up] at t
    exact t
end
end
section
/-! lifting -/
def fd_fw (m w t f : Nat) : Nat := fd_div (fd_rest m (fd_sub t f)) w
theorem fd_fw_0 (m w : Nat) : fd_fw m w 0 0 = 0 := by
  unfold fd_fw
  rw [show fd_sub 0 0 = 0 from rfl, fd_rest_0, fd_div_0]
def fd_lp (p top : Nat) (TR S T : List Nat) : Nat → Nat → List Nat → List Nat → Option (List Nat × List Nat)
  | 0, _, _, _ => none
  | n + 1, w, u, C => cond (Nat.ble (fd_sh top) (fd_sh w)) (some (u, C)) (cond (Nat.beq w 0) none (match fd_mul w p with
    | 0 => none
    | k + 1 => fd_lf (fd_mm (Nat.succ k) u C) (fun F0 => fd_lf (fd_tr (fd_z2 (fd_fw (Nat.succ k) w) TR F0)) (fun F => match fd_s2 p w S T u C F with
      | none => none
      | some (u', C') => fd_lf u' (fun u' => fd_lf C' (fun C' => fd_lp p top TR S T n (Nat.succ k) u' C'))))))
theorem fd_lp_e {p top n w : Nat} {TR S T u C : List Nat} {R : List Nat × List Nat} (h : fd_lp p top TR S T (n + 1) w u C = some R) (hw : fd_sh top ≤ fd_sh w) : (u, C) = R := by
  unfold fd_lp at h
  rw [fd_ble_t hw] at h
  exact Option.some.inj h
theorem fd_lp_s {p top n w : Nat} {TR S T u C : List Nat} {R : List Nat × List Nat} (h : fd_lp p top TR S T (n + 1) w u C = some R) (hw : ¬ fd_sh top ≤ fd_sh w) : w ≠ 0 ∧ fd_mul w p ≠ 0 ∧ ∃ u' C', fd_s2 p w S T u C (fd_tr (fd_z2 (fd_fw (fd_mul w p) w) TR (fd_mm (fd_mul w p) u C))) = some (u', C') ∧ fd_lp p top TR S T n (fd_mul w p) u' C' = some R := by
  unfold fd_lp at h
  rw [fd_ble_f (by omega)] at h
  by_cases c : w = 0
  · rw [fd_beq_t c] at h
    exact absurd h (by simp)
  rw [fd_beq_f c] at h
  cases e : fd_mul w p with
  | zero =>
    rw [e] at h
    exact absurd h (by simp)
  | succ k =>
    rw [e] at h
    have h1 : fd_lf (fd_mm (Nat.succ k) u C) (fun F0 => fd_lf (fd_tr (fd_z2 (fd_fw (Nat.succ k) w) TR F0)) (fun F => match fd_s2 p w S T u C F with
      | none => none
      | some (u', C') => fd_lf u' (fun u' => fd_lf C' (fun C' => fd_lp p top TR S T n (Nat.succ k) u' C')))) = some R := h
    rw [fd_lf_eq, fd_lf_eq] at h1
    refine ⟨c, by omega, ?_⟩
    cases d : fd_s2 p w S T u C (fd_tr (fd_z2 (fd_fw (Nat.succ k) w) TR (fd_mm (Nat.succ k) u C))) with
    | none =>
      rw [d] at h1
      exact absurd h1 (by simp)
    | some uC =>
      rw [d] at h1
      have h2 : fd_lf uC.1 (fun u' => fd_lf uC.2 (fun C' => fd_lp p top TR S T n (Nat.succ k) u' C')) = some R := h1
      rw [fd_lf_eq, fd_lf_eq] at h2
      exact ⟨uC.1, uC.2, rfl, h2⟩
section
variable {fc lc dc : Int32} {mo pr : Int64} {a1 a3 : Nat → Int64} {a2 a4 a5 a6 : Nat → Int32} {M : Nat → List Nat}
theorem fd_lp36 {post : St2 → Prop} {J : Int64 → Int32 → Int64 → Int64 → Int32 → Int32 → (Nat → Int64) → (Nat → Int32) → (Nat → Int64) → (Nat → Int32) → (Nat → Int32) → (Nat → Int32) → Prop} {p u : Nat} {x2 x4 : Int64} {u' C' : List Nat} (h : fd_RR M a1) (hm : fd_tN mo ≠ 0) (hp : fd_tN pr = p) (hp0 : p ≠ 0) (hx4 : fd_tN x4 ≠ 0) (hu : 11 ≤ u) (hu2 : u < 16)
    (he : fd_s2 p (fd_tN x4) (M 17) (M 18) (M u) (M 16) (fd_tr (fd_z2 (fd_fw (fd_tN mo) (fd_tN x4)) (M 22) (M 19))) = some (u', C'))
    (H : ∀ M' s, fd_fs u M M' → M' u = u' → M' 16 = C' → fd_RR M' s → J (x4 * pr) fc pr pr lc dc s a2 a3 a4 a5 a6) :
    ∃ f, wX_liftPair_36 post J (nI u) x2 x4 fc mo pr lc dc f 0 a1 a2 a3 a4 a5 a6 := by
  have hx : ¬ x4 = 0 := fun z => hx4 (fd_eq0.mp z)
  refine fd_wl (W := fun f i s => wX_liftPair_36 post J (nI u) x2 x4 fc mo pr lc dc f (nI i) s a2 a3 a4 a5 a6) a1 (12 * 19) 12 (fun i => fd_fw (fd_tN mo) (fd_tN x4) (fd_cf (M 22) i) (fd_cf (M 19) i)) ?_ ?_
  · intro f s hs
    have h1 : fd_RR (fd_up M 19 (fd_tr (fd_z2 (fd_fw (fd_tN mo) (fd_tN x4)) (M 22) (M 19)))) s := fd_lo_RR h hs (fd_tr_l12 (fd_z2_len _ _ _ 12 (h 22 (by omega)).1 (h 19 (by omega)).1)) (fun i _ => by rw [fd_tr_cf, fd_z2_cf _ (fd_fw_0 _ _)])
    refine pk_le 12 12 (fun _ => fd_shareOut (p := p) (u' := u') (C' := C') h1 hp hp hp0 hu hu2 ?_ (fun M2 s2 f2 x2' y2' h2 => nm_e (H M2 s2 (fun j j1 j2 j3 j4 j5 j6 j7 j8 j9 j10 => ?_) x2' y2' h2))) (fun z => absurd z (by omega))
    · rw [fd_up_n (by omega), fd_up_n (by omega), fd_up_n (by omega), fd_up_n (by omega), fd_up_s]
      exact he
    · rw [f2 j j1 j2 j3 j4 j5 j6 j7 j8 j9 j10, fd_up_n j7]
  · intro f i s hi hs hw
    have i22 : vp_in ((264 : Int32) + nI i) 312 := pk_in (12 * 22 + i) 312 (by omega) (fd_ix22 i)
    have c22 : ((264 : Int32) + nI i).toNatClampNeg = 12 * 22 + i := by rw [fd_ix22, nI_clamp (by omega)]
    have i19 : vp_in ((228 : Int32) + nI i) 312 := pk_in (12 * 19 + i) 312 (by omega) (fd_ix19 i)
    have c19 : ((228 : Int32) + nI i).toNatClampNeg = 12 * 19 + i := by rw [fd_ix19, nI_clamp (by omega)]
    refine pk_le 12 i (fun z => absurd z (by omega)) (fun _ => ⟨i22, i19, fd_restW hm (fun r hr => ⟨hx, i19, nm_r (by rw [c19]) (nm_r (nI_1 i) (hw _ ?_))⟩)⟩)
    rw [fd_tN_div, hr, fd_tN_sub, c22, c19, hs.2 _ (by omega), hs.2 _ (by omega), fd_rd h (by omega) hi, fd_rd h (by omega) hi]
    rfl
theorem fd_lp6 {post : St2 → Prop} {p u top : Nat} {x2 : Int64} {TR S T u' C' : List Nat} (hp : fd_tN pr = p) (hp0 : p ≠ 0) (hx2 : fd_tN x2 = top) (hu : 11 ≤ u) (hu2 : u < 16)
    (H : ∀ M' s, fd_fs u M M' → M' u = u' → M' 16 = C' → fd_RR M' s → post (fc, x2, pr, lc, dc, s, a2, a3, a4, a5, a6)) :
    ∀ (n : Nat) (x4 mo : Int64) (M1 : Nat → List Nat) (s : Nat → Int64), fd_fs u M M1 → M1 17 = S → M1 18 = T → M1 22 = TR → fd_RR M1 s → fd_lp p top TR S T n (fd_tN x4) (M1 u) (M1 16) = some (u', C') →
    wX_liftPair_6 post (nI u) x2 n x4 fc mo pr lc dc s a2 a3 a4 a5 a6 := by
  intro n
  induction n with
  | zero =>
    intro x4 mo M1 s _ _ _ _ _ h
    exact absurd h (by simp [fd_lp])
  | succ n ih =>
    intro x4 mo M1 s hf hS hT hTR hs h
    refine br_c (fun z => ?_) (fun z => nm_e ?_)
    · rw [fd_le, hx2] at z
      have e := fd_lp_e h z
      exact H M1 s hf (congrArg Prod.fst e) (congrArg Prod.snd e) hs
    · rw [fd_le, hx2] at z
      obtain ⟨z1, z2, u1, C1, e1, e2⟩ := fd_lp_s h z
      have hmo : fd_tN (x4 * pr) ≠ 0 := by
        rw [fd_tN_mul, hp]
        exact z2
      refine fd_multiplyModulo hs hmo 19 u 16 (by omega) (by omega) (by omega) (fun g s1 h1 => ?_)
      have k17 : fd_up (fd_up M1 25 g) 19 (fd_mm (fd_tN (x4 * pr)) (M1 u) (M1 16)) 17 = S := by rw [fd_up_n (by omega), fd_up_n (by omega), hS]
      have k18 : fd_up (fd_up M1 25 g) 19 (fd_mm (fd_tN (x4 * pr)) (M1 u) (M1 16)) 18 = T := by rw [fd_up_n (by omega), fd_up_n (by omega), hT]
      have k22 : fd_up (fd_up M1 25 g) 19 (fd_mm (fd_tN (x4 * pr)) (M1 u) (M1 16)) 22 = TR := by rw [fd_up_n (by omega), fd_up_n (by omega), hTR]
      have ku : fd_up (fd_up M1 25 g) 19 (fd_mm (fd_tN (x4 * pr)) (M1 u) (M1 16)) u = M1 u := by rw [fd_up_n (by omega), fd_up_n (by omega)]
      have k16 : fd_up (fd_up M1 25 g) 19 (fd_mm (fd_tN (x4 * pr)) (M1 u) (M1 16)) 16 = M1 16 := by rw [fd_up_n (by omega), fd_up_n (by omega)]
      refine fd_lp36 (p := p) (u' := u1) (C' := C1) h1 hmo hp hp0 z1 hu hu2 ?_ (fun M2 s2 f2 x2' y2' h2 => ?_)
      · rw [k17, k18, ku, k16, k22, fd_up_s, fd_tN_mul, hp]
        exact e1
      · refine ih (x4 * pr) pr M2 s2 (fun j j1 j2 j3 j4 j5 j6 j7 j8 j9 j10 => ?_) ?_ ?_ ?_ h2 ?_
        · rw [f2 j j1 j2 j3 j4 j5 j6 j7 j8 j9 j10, fd_up_n j7, fd_up_n j10]
          exact hf j j1 j2 j3 j4 j5 j6 j7 j8 j9 j10
        · rw [f2 17 (by omega) (by omega) (by omega) (by omega) (by omega) (by omega) (by omega) (by omega) (by omega) (by omega)]
          exact k17
        · rw [f2 18 (by omega) (by omega) (by omega) (by omega) (by omega) (by omega) (by omega) (by omega) (by omega) (by omega)]
          exact k18
        · rw [f2 22 (by omega) (by omega) (by omega) (by omega) (by omega) (by omega) (by omega) (by omega) (by omega) (by omega)]
          exact k22
        · rw [x2', y2', fd_tN_mul, hp]
          exact e2
theorem fd_liftPair {post : St2 → Prop} {fu p u top : Nat} {x2 : Int64} {u' C' : List Nat} (h : fd_RR M a1) (hp : fd_tN pr = p) (hp0 : p ≠ 0) (hx2 : fd_tN x2 = top) (hu : 11 ≤ u) (hu2 : u < 16) (he : fd_lp p top (M 22) (M 17) (M 18) fu p (M u) (M 16) = some (u', C'))
    (H : ∀ M' s, fd_fs u M M' → M' u = u' → M' 16 = C' → fd_RR M' s → post (fc, x2, pr, lc, dc, s, a2, a3, a4, a5, a6)) :
    wpX_liftPair post (fc, mo, pr, lc, dc, a1, a2, a3, a4, a5, a6) (nI u) x2 :=
  ⟨fu, fd_lp6 (M := M) (TR := M 22) (S := M 17) (T := M 18) hp hp0 hx2 hu hu2 H fu pr mo M a1 (fun _ _ _ _ _ _ _ _ _ _ _ => rfl) rfl rfl rfl h (by rw [hp]; exact he)⟩
end
/-- the inverse of the lead modulo a power -/
def fd_my (top ld : Nat) : Nat → Nat → Nat
  | 0, y => y
  | n + 1, y => fd_nf (fd_rem (fd_mul y (fd_rest top (fd_sub 2 (fd_rem (fd_mul ld y) top)))) top) (fun y' => fd_my top ld n y')
theorem fd_my_s (top ld n y : Nat) : fd_my top ld (n + 1) y = fd_my top ld n (fd_rem (fd_mul y (fd_rest top (fd_sub 2 (fd_rem (fd_mul ld y) top)))) top) := by
  show fd_nf _ _ = _
  rw [fd_nf_eq]
def fd_mq (p top : Nat) (L : List Nat) : Option (List Nat) := fd_nf (fd_ld L) (fun ld => match fd_inv p ld with
  | none => none
  | some y => fd_nf (fd_my top ld 20 y) (fun y => some ((L.map (fd_rest top)).map (fun x => fd_rest top (fd_mul x y)))))
theorem fd_mq_some {p top : Nat} {L R : List Nat} (h : fd_mq p top L = some R) : ∃ y, fd_inv p (fd_ld L) = some y ∧ R = (L.map (fd_rest top)).map (fun x => fd_rest top (fd_mul x (fd_my top (fd_ld L) 20 y))) := by
  unfold fd_mq at h
  rw [fd_nf_eq] at h
  cases c : fd_inv p (fd_ld L) with
  | none =>
    rw [c] at h
    exact absurd h (by simp)
  | some y =>
    rw [c] at h
    have h1 : fd_nf (fd_my top (fd_ld L) 20 y) (fun y => some ((L.map (fd_rest top)).map (fun x => fd_rest top (fd_mul x y)))) = some R := h
    rw [fd_nf_eq] at h1
    exact ⟨y, rfl, (Option.some.inj h1).symm⟩
section
variable {fc lc dc : Int32} {mo pr : Int64} {a1 a3 : Nat → Int64} {a2 a4 a5 a6 : Nat → Int32} {M : Nat → List Nat}
theorem fd_my31 {post : St2 → Prop} {x4 mo : Int64} {t : Nat} (h : fd_RR M a1) (hm : fd_tN mo ≠ 0) (ht : t < 26) :
    ∀ (n i : Nat) (X : Int64), i + n = 20 → (∀ s, fd_RR (fd_up M t (((M t).map (fd_rest (fd_tN mo))).map (fun x => fd_rest (fd_tN mo) (fd_mul x (fd_my (fd_tN mo) (fd_tN x4) n (fd_tN X)))))) s → post (fc, mo, pr, lc, dc, s, a2, a3, a4, a5, a6)) →
    wX_monicModulo_31 post (nI t) mo x4 fc mo pr lc dc a1 a2 a3 a4 a5 a6 (n + 1) X (nI i) := by
  have hmo : ¬ mo = 0 := fun z => hm (fd_eq0.mp z)
  intro n
  induction n with
  | zero =>
    intro i X hi H
    refine pk_le 20 i (fun _ => fd_reduce h hm t ht (fun s1 h1 => fd_scale h1 hm t X ht (fun s2 h2 => H s2 ?_))) (fun z => absurd z (by omega))
    rw [fd_up_s, fd_up_up] at h2
    exact h2
  | succ n ih =>
    intro i X hi H
    refine pk_le 20 i (fun z => absurd z (by omega)) (fun _ => ⟨hmo, nm_e (fd_restW hm (fun r hr => ⟨hmo, nm_e (nm_r (nI_1 i) (ih (i + 1) _ (by omega) (fun s hs => H s ?_)))⟩))⟩)
    rw [fd_tN_rem, fd_tN_mul, hr, fd_tN_sub, fd_tN2, fd_tN_rem, fd_tN_mul] at hs
    rw [fd_my_s]
    exact hs
theorem fd_monicModulo {post : St2 → Prop} {x2 : Int64} {t p : Nat} {R : List Nat} (h : fd_RR M a1) (hp : fd_tN pr = p) (hp0 : p ≠ 0) (hx2 : fd_tN x2 ≠ 0) (ht : t < 26) (he : fd_mq p (fd_tN x2) (M t) = some R)
    (H : ∀ s, fd_RR (fd_up M t R) s → post (fc, x2, pr, lc, dc, s, a2, a3, a4, a5, a6)) :
    wpX_monicModulo post (fc, mo, pr, lc, dc, a1, a2, a3, a4, a5, a6) (nI t) x2 := by
  obtain ⟨y, e1, e2⟩ := fd_mq_some he
  unfold wpX_monicModulo
  dsimp only
  refine fd_leadOf h t ht (fun r hr => fd_inverse (by rw [hp]; exact hp0) (y := y) (by rw [hp, hr]; exact e1) (fun v hv => ⟨21, fd_my31 h hx2 ht 20 0 v (by omega) (fun s hs => H s ?_)⟩))
  rw [hr, hv] at hs
  rw [e2]
  exact hs
end
/-- the product of the pieces from j on -/
def fd_co (p : Nat) (P : List (List Nat)) : Nat → Nat → List Nat → List Nat
  | 0, _, C => C
  | c + 1, j, C => fd_lf (fd_mm p C (fd_rw P j)) (fun C' => fd_co p P c (Nat.succ j) C')
theorem fd_co_s (p : Nat) (P : List (List Nat)) (c j : Nat) (C : List Nat) : fd_co p P (c + 1) j C = fd_co p P c (j + 1) (fd_mm p C (fd_rw P j)) := by
  show fd_lf _ _ = _
  rw [fd_lf_eq]
def fd_la (fu p top ld : Nat) : Nat → Nat → List (List Nat) → List Nat → Option (List (List Nat) × List Nat)
  | 0, _, P, TR => some (P, TR)
  | c + 1, k, P, TR => fd_lf (fd_co p P (Nat.sub P.length (Nat.succ k)) (Nat.succ k) [fd_rest p ld]) (fun C => match fd_ln C with
    | 0 => none
    | d + 1 => match fd_bz p p fu (fd_rw P k) C [1] [] [] [1] with
      | none => none
      | some (S, T) => fd_lf S (fun S => fd_lf T (fun T => match fd_lp p top TR S T fu p (fd_rw P k) (fd_po C d ld) with
        | none => none
        | some (u, C') => fd_lf u (fun u => fd_lf C' (fun C' => fd_la fu p top ld c (Nat.succ k) (fd_ps P k u) C')))))
theorem fd_la_s {fu p top ld c k : Nat} {P : List (List Nat)} {TR : List Nat} {R : List (List Nat) × List Nat} (h : fd_la fu p top ld (c + 1) k P TR = some R) :
    ∃ C d S T u C', C = fd_co p P (P.length - (k + 1)) (k + 1) [fd_rest p ld] ∧ fd_ln C = d + 1 ∧ fd_bz p p fu (fd_rw P k) C [1] [] [] [1] = some (S, T) ∧ fd_lp p top TR S T fu p (fd_rw P k) (fd_po C d ld) = some (u, C') ∧ fd_la fu p top ld c (k + 1) (fd_ps P k u) C' = some R := by
  unfold fd_la at h
  rw [fd_lf_eq] at h
  refine ⟨fd_co p P (P.length - (k + 1)) (k + 1) [fd_rest p ld], ?_⟩
  have h0 : (match fd_ln (fd_co p P (P.length - (k + 1)) (k + 1) [fd_rest p ld]) with
    | 0 => none
    | d + 1 => match fd_bz p p fu (fd_rw P k) (fd_co p P (P.length - (k + 1)) (k + 1) [fd_rest p ld]) [1] [] [] [1] with
      | none => none
      | some (S, T) => fd_lf S (fun S => fd_lf T (fun T => match fd_lp p top TR S T fu p (fd_rw P k) (fd_po (fd_co p P (P.length - (k + 1)) (k + 1) [fd_rest p ld]) d ld) with
        | none => none
        | some (u, C') => fd_lf u (fun u => fd_lf C' (fun C' => fd_la fu p top ld c (Nat.succ k) (fd_ps P k u) C'))))) = some R := h
  clear h
  generalize fd_co p P (P.length - (k + 1)) (k + 1) [fd_rest p ld] = C at h0 ⊢
  cases e : fd_ln C with
  | zero =>
    rw [e] at h0
    exact absurd h0 (by simp)
  | succ d =>
    rw [e] at h0
    cases f : fd_bz p p fu (fd_rw P k) C [1] [] [] [1] with
    | none =>
      rw [f] at h0
      exact absurd h0 (by simp)
    | some ST =>
      rw [f] at h0
      have h1 : fd_lf ST.1 (fun S => fd_lf ST.2 (fun T => match fd_lp p top TR S T fu p (fd_rw P k) (fd_po C d ld) with
        | none => none
        | some (u, C') => fd_lf u (fun u => fd_lf C' (fun C' => fd_la fu p top ld c (Nat.succ k) (fd_ps P k u) C')))) = some R := h0
      rw [fd_lf_eq, fd_lf_eq] at h1
      cases g : fd_lp p top TR ST.1 ST.2 fu p (fd_rw P k) (fd_po C d ld) with
      | none =>
        rw [g] at h1
        exact absurd h1 (by simp)
      | some uC =>
        rw [g] at h1
        have h2 : fd_lf uC.1 (fun u => fd_lf uC.2 (fun C' => fd_la fu p top ld c (Nat.succ k) (fd_ps P k u) C')) = some R := h1
        rw [fd_lf_eq, fd_lf_eq] at h2
        exact ⟨d, ST.1, ST.2, uC.1, uC.2, rfl, rfl, rfl, g, h2⟩
section
variable {fc lc dc : Int32} {mo pr : Int64} {a1 a3 : Nat → Int64} {a2 a4 a5 a6 : Nat → Int32} {M : Nat → List Nat}
theorem fd_la83 {post : St2 → Prop} {J : Int32 → Int32 → Int64 → Int64 → Int32 → Int32 → (Nat → Int64) → (Nat → Int32) → (Nat → Int64) → (Nat → Int32) → (Nat → Int32) → (Nat → Int32) → Prop} {fu p k top d : Nat} {x1 x3 : Int64} {P : List (List Nat)} {CC S T u C' : List Nat} (hm : fd_tN mo = p) (hp : fd_tN pr = p) (hp0 : p ≠ 0) (hx3 : fd_tN x3 = top) (hlc : lc = nI P.length) (hPl : P.length ≤ 5) (hk : k < P.length)
    (hd : fd_ln CC = d + 1) (hb : fd_bz p p fu (fd_rw P k) CC [1] [] [] [1] = some (S, T)) (hl : fd_lp p top (M 22) S T fu p (fd_rw P k) (fd_po CC d (fd_tN x1)) = some (u, C'))
    (H : ∀ M' s, (∀ j, j < 6 → M' j = M j) → (∀ q, q < P.length → M' (11 + q) = fd_rw (fd_ps P k u) q) → M' 22 = C' → fd_RR M' s → J (nI (k + 1)) fc x3 pr lc dc s a2 a3 a4 a5 a6) :
    ∀ (c j : Nat) (C : List Nat) (M1 : Nat → List Nat) (s : Nat → Int64), j + c = P.length → M1 16 = C → fd_co p P c j C = CC → (∀ q, q ≠ 16 → q ≠ 25 → M1 q = M q) → (∀ q, q < P.length → M (11 + q) = fd_rw P q) → fd_RR M1 s →
    wX_liftAll_83 post J x1 x3 (nI k) (c + 1) (nI j) fc mo pr lc dc s a2 a3 a4 a5 a6 := by
  have hmo : fd_tN mo ≠ 0 := by rw [hm]; exact hp0
  subst hlc
  intro c
  induction c with
  | zero =>
    intro j C M1 s hj hC hco hf hP hs
    have eC : C = CC := hco
    refine pk_le P.length j (fun _ => ?_) (fun z => absurd z (by omega))
    rw [fd_ix11]
    have gk : M1 (11 + k) = fd_rw P k := by
      rw [hf (11 + k) (by omega) (by omega)]
      exact hP k hk
    refine fd_findBezout (S' := S) (T' := T) hs hm hp hp0 hp0 (by omega) (by rw [gk, hC, eC]; exact hb) (fun M2 s2 f2 x2 y2 h2 => fd_degreeOf h2 16 (by omega) ?_)
    have g16 : M2 16 = CC := by
      rw [f2 16 (by omega) (by omega) (by omega) (by omega) (by omega) (by omega) (by omega) (by omega) (by omega) (by omega), hC, eC]
    have l16 := fd_ln12 h2 (k := 16) (by omega)
    rw [g16] at l16
    rw [g16, hd, fd_di_s]
    have i16 : vp_in ((192 : Int32) + nI d) 312 := pk_in (12 * 16 + d) 312 (by omega) (fd_ix16 d)
    have c16 : ((192 : Int32) + nI d).toNatClampNeg = 12 * 16 + d := by rw [fd_ix16, nI_clamp (by omega)]
    refine ⟨i16, nm_r (by rw [c16]) ?_⟩
    have h3 := fd_RR_p (k := 16) (i := d) (x := x1) (v := fd_tN x1) h2 (by omega) (by omega) rfl
    rw [g16] at h3
    generalize hM3 : fd_up M2 16 (fd_po CC d (fd_tN x1)) = M3 at h3
    have k16 : M3 16 = fd_po CC d (fd_tN x1) := by rw [← hM3, fd_up_s]
    have k17 : M3 17 = S := by rw [← hM3, fd_up_n (by omega), x2]
    have k18 : M3 18 = T := by rw [← hM3, fd_up_n (by omega), y2]
    have ko : ∀ q, q < 6 ∨ (11 ≤ q ∧ q < 16) ∨ q = 22 → M3 q = M q := by
      intro q hq
      rw [← hM3, fd_up_n (by omega), f2 q (by omega) (by omega) (by omega) (by omega) (by omega) (by omega) (by omega) (by omega) (by omega) (by omega), hf q (by omega) (by omega)]
    refine fd_liftPair (u' := u) (C' := C') h3 hp hp0 hx3 (by omega) (by omega) (by rw [ko 22 (by omega), k17, k18, ko (11 + k) (by omega), hP k hk, k16]; exact hl) (fun M4 s4 f4 x4 y4 h4 => fd_copy h4 22 16 (by omega) (by omega) (fun s5 h5 => nm_r (nI_1 k) (H _ s5 (fun j hj => ?_) (fun q hq => ?_) ?_ h5)))
    · rw [fd_up_n (by omega), f4 j (by omega) (by omega) (by omega) (by omega) (by omega) (by omega) (by omega) (by omega) (by omega) (by omega)]
      exact ko j (by omega)
    · rw [fd_up_n (by omega), fd_ps_rw _ _ _ _ hk]
      by_cases e : q = k
      · rw [if_pos e, e, x4]
      · rw [if_neg e, f4 (11 + q) (by omega) (by omega) (by omega) (by omega) (by omega) (by omega) (by omega) (by omega) (by omega) (by omega), ko (11 + q) (by omega)]
        exact hP q hq
    · rw [fd_up_s, y4]
  | succ c ih =>
    intro j C M1 s hj hC hco hf hP hs
    refine pk_le P.length j (fun z => absurd z (by omega)) (fun _ => ?_)
    rw [fd_ix11]
    refine fd_multiplyModulo hs hmo 16 16 (11 + j) (by omega) (by omega) (by omega) (fun g s1 h1 => nm_r (nI_1 j) ?_)
    rw [hC, hf (11 + j) (by omega) (by omega), hP j (by omega), hm] at h1
    refine ih (j + 1) (fd_mm p C (fd_rw P j)) _ s1 (by omega) fd_up_s ?_ (fun q q1 q2 => ?_) hP h1
    · rw [fd_co_s] at hco
      exact hco
    · rw [fd_up_n q1, fd_up_n q2]
      exact hf q q1 q2
end
/-- the whole of liftAll -/
def fd_top (p : Nat) : Nat → Nat → Option Nat
  | 0, _ => none
  | n + 1, x => cond (Nat.ble (fd_sh x) (fd_sh 70000)) (fd_nf (fd_mul x p) (fun y => fd_top p n y)) (some x)
def fd_lall (fu p : Nat) (L : List Nat) (P : List (List Nat)) : Option (Nat × List (List Nat)) := match fd_top p fu p with
  | none => none
  | some top => cond (Nat.beq top 0) none (match P.length with
    | 0 => none
    | k + 1 => fd_nf (fd_ld L) (fun ld => match fd_la fu p top ld k 0 P L with
      | none => none
      | some (P', TR) => match fd_mq p top TR with
        | none => none
        | some R => some (top, fd_ps P' k R)))
theorem fd_lall_some {fu p top : Nat} {L : List Nat} {P R : List (List Nat)} (h : fd_lall fu p L P = some (top, R)) : fd_top p fu p = some top ∧ top ≠ 0 ∧ ∃ k P' TR Q, P.length = k + 1 ∧ fd_la fu p top (fd_ld L) k 0 P L = some (P', TR) ∧ fd_mq p top TR = some Q ∧ R = fd_ps P' k Q := by
  unfold fd_lall at h
  cases c : fd_top p fu p with
  | none =>
    rw [c] at h
    exact absurd h (by simp)
  | some t0 =>
    rw [c] at h
    have h1 : cond (Nat.beq t0 0) none (match P.length with
      | 0 => none
      | k + 1 => fd_nf (fd_ld L) (fun ld => match fd_la fu p t0 ld k 0 P L with
        | none => none
        | some (P', TR) => match fd_mq p t0 TR with
          | none => none
          | some R => some (t0, fd_ps P' k R))) = some (top, R) := h
    by_cases d : t0 = 0
    · rw [fd_beq_t d] at h1
      exact absurd h1 (by simp)
    rw [fd_beq_f d] at h1
    cases e : P.length with
    | zero =>
      rw [e] at h1
      exact absurd h1 (by simp)
    | succ k =>
      rw [e] at h1
      have h2 : fd_nf (fd_ld L) (fun ld => match fd_la fu p t0 ld k 0 P L with
        | none => none
        | some (P', TR) => match fd_mq p t0 TR with
          | none => none
          | some R => some (t0, fd_ps P' k R)) = some (top, R) := h1
      rw [fd_nf_eq] at h2
      cases f : fd_la fu p t0 (fd_ld L) k 0 P L with
      | none =>
        rw [f] at h2
        exact absurd h2 (by simp)
      | some PT =>
        rw [f] at h2
        have h3 : (match fd_mq p t0 PT.2 with
          | none => none
          | some R => some (t0, fd_ps PT.1 k R)) = some (top, R) := h2
        cases g : fd_mq p t0 PT.2 with
        | none =>
          rw [g] at h3
          exact absurd h3 (by simp)
        | some Q =>
          rw [g] at h3
          have h4 : (t0, fd_ps PT.1 k Q) = (top, R) := Option.some.inj h3
          have h5 : t0 = top := congrArg Prod.fst h4
          have h6 : fd_ps PT.1 k Q = R := congrArg Prod.snd h4
          subst h5
          exact ⟨rfl, d, k, PT.1, PT.2, Q, rfl, f, g, h6.symm⟩
theorem fd_tNE : fd_tN 70000 = 70000 := by decide
section
variable {fc lc dc : Int32} {mo pr : Int64} {a1 a3 : Nat → Int64} {a2 a4 a5 a6 : Nat → Int32} {M : Nat → List Nat}
theorem fd_la39 {post : St2 → Prop} {fu p top k0 : Nat} {x1 x3 : Int64} {L : List Nat} {P' : List (List Nat)} {TR Q : List Nat} (hp : fd_tN pr = p) (hp0 : p ≠ 0) (hx1 : fd_tN x1 = fd_ld L) (hx3 : fd_tN x3 = top) (htop : top ≠ 0) (hk0 : k0 + 1 ≤ 5) (hlc : lc = nI (k0 + 1)) (hq : fd_mq p top TR = some Q)
    (H : ∀ M' s, (∀ j, j < 6 → M' j = M j) → fd_PP (fd_ps P' k0 Q) M' → fd_RR M' s → post (fc, x3, pr, lc, dc, s, a2, a3, a4, a5, a6)) :
    ∀ (c k : Nat) (P : List (List Nat)) (mo : Int64) (M1 : Nat → List Nat) (s : Nat → Int64), k + c = k0 → P.length = k0 + 1 → (∀ q, q < P.length → M1 (11 + q) = fd_rw P q) → (∀ j, j < 6 → M1 j = M j) → fd_RR M1 s → fd_la fu p top (fd_ld L) c k P (M1 22) = some (P', TR) →
    wX_liftAll_39 post x1 x3 (c + 1) (nI k) fc mo pr lc dc s a2 a3 a4 a5 a6 := by
  have el1 : lc - 1 = nI k0 := by
    rw [hlc]
    exact nI_pred k0
  have el2 : (11 : Int32) + lc - 1 = nI (11 + k0) := by
    rw [hlc, fd_ix11]
    exact nI_pred (11 + k0)
  intro c
  induction c with
  | zero =>
    intro k P mo M1 s hk hPl hP hf hs he
    have e0 : (P, M1 22) = (P', TR) := Option.some.inj he
    have e1 : P = P' := congrArg Prod.fst e0
    have e2 : M1 22 = TR := congrArg Prod.snd e0
    refine pk_le k0 k (fun _ => ?_) (fun z => absurd z (by omega)) el1
    rw [el2]
    refine fd_copy hs (11 + k0) 22 (by omega) (by omega) (fun s1 h1 => ?_)
    dsimp only
    rw [el2]
    refine fd_monicModulo (R := Q) h1 hp hp0 (by rw [hx3]; exact htop) (by omega) (by rw [fd_up_s, e2, hx3]; exact hq) (fun s2 h2 => H _ s2 (fun j hj => ?_) ⟨?_, fun q hq' => ?_⟩ h2)
    · rw [fd_up_n (by omega), fd_up_n (by omega)]
      exact hf j hj
    · rw [fd_ps_len, ← e1]
      omega
    · rw [fd_ps_len, ← e1] at hq'
      rw [fd_ps_rw _ _ _ _ (by rw [← e1]; omega)]
      by_cases c1 : q = k0
      · rw [if_pos c1, c1, fd_up_s]
      · rw [if_neg c1, fd_up_n (by omega), fd_up_n (by omega), ← e1]
        exact hP q hq'
  | succ c ih =>
    intro k P mo M1 s hk hPl hP hf hs he
    obtain ⟨C, d, S, T, u, C', e1, e2, e3, e4, e5⟩ := fd_la_s he
    refine pk_le k0 k (fun z => absurd z (by omega)) (fun _ => ?_) el1
    refine fd_clear hs 16 (by omega) (fun s1 h1 => fd_restW (by rw [hp]; exact hp0) (fun r hr => nm_e (nm_r (nI_1 k) ?_)))
    rw [hp, hx1] at hr
    have h2 : fd_RR (fd_up M1 16 [fd_rest p (fd_ld L)]) (vp_updL s1 192 r) := by
      have := fd_RR_p (k := 16) (i := 0) (x := r) h1 (by omega) (by omega) hr
      rw [fd_up_s, fd_up_up] at this
      exact this
    refine ⟨P.length - (k + 1) + 1, fd_la83 (M := fd_up M1 16 [fd_rest p (fd_ld L)]) (P := P) hp hp hp0 hx3 (by rw [hlc, hPl]) (by omega) (by omega) e2 e3 (by rw [fd_up_n (by omega), hx1]; exact e4) (fun M3 s3 f3 p3 g3 h3 => ?_) (P.length - (k + 1)) (k + 1) [fd_rest p (fd_ld L)] _ _ (by omega) fd_up_s e1.symm (fun _ _ _ => rfl) (fun q hq' => by rw [fd_up_n (by omega)]; exact hP q hq') h2⟩
    refine ih (k + 1) (fd_ps P k u) x3 M3 s3 (by omega) (by rw [fd_ps_len]; exact hPl) (fun q hq' => p3 q (by rw [fd_ps_len] at hq'; exact hq')) (fun j hj => ?_) h3 (by rw [g3]; exact e5)
    rw [f3 j hj, fd_up_n (by omega)]
    exact hf j hj
theorem fd_la18 {post : St2 → Prop} {p top : Nat} {x1 : Int64} (hp : fd_tN pr = p) (H : ∀ x3, fd_tN x3 = top → ∃ f, wX_liftAll_39 post x1 x3 f 0 fc mo pr lc dc a1 a2 a3 a4 a5 a6) :
    ∀ (n : Nat) (X : Int64), fd_top p n (fd_tN X) = some top → wX_liftAll_18 post x1 fc mo pr lc dc a1 a2 a3 a4 a5 a6 n X := by
  intro n
  induction n with
  | zero =>
    intro X h
    exact absurd h (by simp [fd_top])
  | succ n ih =>
    intro X h
    have h1 : cond (Nat.ble (fd_sh (fd_tN X)) (fd_sh 70000)) (fd_nf (fd_mul (fd_tN X) p) (fun y => fd_top p n y)) (some (fd_tN X)) = some top := h
    refine br_c (fun z => ?_) (fun z => nm_e ?_)
    · rw [fd_lt, fd_tNE] at z
      rw [fd_ble_f z] at h1
      exact H X (Option.some.inj h1)
    · rw [fd_lt, fd_tNE] at z
      rw [fd_ble_t (by omega)] at h1
      have h2 : fd_nf (fd_mul (fd_tN X) p) (fun y => fd_top p n y) = some top := h1
      rw [fd_nf_eq] at h2
      exact ih (X * pr) (by rw [fd_tN_mul, hp]; exact h2)
theorem fd_liftAll {post : St2 → Prop} {fu p top : Nat} {P R : List (List Nat)} (h : fd_RR M a1) (hp : fd_tN pr = p) (hp0 : p ≠ 0) (hP : fd_PP P M) (hlc : lc = nI P.length) (he : fd_lall fu p (M 5) P = some (top, R))
    (H : ∀ M' s mo', fd_tN mo' = top → top ≠ 0 → (∀ j, j < 6 → M' j = M j) → fd_PP R M' → R.length = P.length → fd_RR M' s → post (fc, mo', pr, lc, dc, s, a2, a3, a4, a5, a6)) :
    wpX_liftAll post (fc, mo, pr, lc, dc, a1, a2, a3, a4, a5, a6) := by
  obtain ⟨e1, e2, k, P', TR, Q, e3, e4, e5, e6⟩ := fd_lall_some he
  have hP' : P'.length = P.length := by
    have key : ∀ (c k : Nat) (P : List (List Nat)) (TR : List Nat) (P' : List (List Nat)) (TR' : List Nat), fd_la fu p top (fd_ld (M 5)) c k P TR = some (P', TR') → P'.length = P.length := by
      intro c
      induction c with
      | zero =>
        intro k P TR P' TR' h
        have e0 : (P, TR) = (P', TR') := Option.some.inj h
        have : P = P' := congrArg Prod.fst e0
        rw [this]
      | succ c ih =>
        intro k P TR P' TR' h
        obtain ⟨C, d, S, T, u, C', _, _, _, _, e⟩ := fd_la_s h
        rw [ih _ _ _ _ _ e, fd_ps_len]
    exact key _ _ _ _ _ _ e4
  have hl5 := hP.1
  refine fd_copy h 22 5 (by omega) (by omega) (fun s1 h1 => fd_leadOf h1 5 (by omega) (fun r hr => ⟨fu, fd_la18 hp (fun x3 hx3 => ⟨k + 1, ?_⟩) fu pr (by rw [hp]; exact e1)⟩))
  rw [fd_up_n (by omega)] at hr
  refine fd_la39 (M := M) (L := M 5) (P' := P') hp hp0 hr hx3 e2 (by omega) (by rw [hlc, e3]) e5 (fun M2 s2 f2 p2 h2 => ?_) k 0 P mo _ s1 (by omega) e3 (fun q hq => by rw [fd_up_n (by omega)]; exact hP.2 q hq) (fun j hj => fd_up_n (by omega)) h1 (by rw [fd_up_s]; exact e4)
  rw [← e6] at p2
  exact H M2 s2 x3 hx3 e2 f2 p2 (by rw [e6, fd_ps_len, hP']) h2
end
end
section
/-! the list of factors -/
theorem fd_i0 (x : Int32) : x = 0 ↔ fd_tN x.toInt64 = 0 := by
  rw [← fd_eq0]
  constructor
  · intro h
    rw [h]
    rfl
  · intro h
    have h1 : x.toInt64.toInt = x.toInt := Int32.toInt_toInt64 x
    rw [h] at h1
    exact Int32.toInt_inj.mp h1.symm
/-- the number is in the range of an int -/
def fd_oki (c : Nat) : Bool := cond (Nat.ble 2147483648 c) (Nat.ble 18446744071562067968 c) true
def fd_okl : List Nat → Bool
  | [] => true
  | c :: t => cond (fd_oki c) (fd_okl t) false
theorem fd_okl_cf : ∀ (L : List Nat) (i : Nat), fd_okl L = true → fd_oki (fd_cf L i) = true
  | [], i, _ => by
    rw [fd_cf_nil]
    rfl
  | c :: t, i, h => by
    have h' : cond (fd_oki c) (fd_okl t) false = true := h
    cases e : fd_oki c with
    | false =>
      rw [e] at h'
      exact absurd h' (by simp)
    | true =>
      rw [e] at h'
      cases i with
      | zero => exact e
      | succ i => exact fd_okl_cf t i h'
theorem fd_i32 {x : Int64} (h : fd_oki (fd_tN x) = true) : x.toInt32.toInt64 = x := by
  have hr : -2147483648 ≤ x.toInt ∧ x.toInt < 2147483648 := by
    have h2 := fd_toInt x
    have h3 := fd_tN_lt x
    unfold fd_oki at h
    by_cases c : 2147483648 ≤ fd_tN x
    · rw [fd_ble_t c] at h
      have h4 : 18446744071562067968 ≤ fd_tN x := Nat.le_of_ble_eq_true h
      rw [if_neg (by omega)] at h2
      omega
    · rw [if_pos (by omega)] at h2
      omega
  refine Int64.toInt_inj.mp ?_
  rw [Int32.toInt_toInt64, Int64.toInt_toInt32]
  exact Int.bmod_eq_of_le (by omega) (by omega)
def fd_RF (Fs : List (List Nat)) (b : Nat → Int32) : Prop := ∀ k, k < Fs.length → ∀ i, i < 6 → fd_tN (b (6 * k + i)).toInt64 = fd_cf (fd_rw Fs k) i
theorem fd_ix6 (k i : Nat) : (6 : Int32) * nI k + nI i = nI (6 * k + i) := by
  show nI 6 * nI k + nI i = _
  rw [pk_mul, nI_add]
theorem fd_cx6 {k i : Nat} (hk : k < 6) (hi : i < 6) : ((6 : Int32) * nI k + nI i).toNatClampNeg = 6 * k + i := by
  rw [fd_ix6, nI_clamp (by omega)]
theorem fd_ixi6 {k i : Nat} (hk : k < 6) (hi : i < 6) : vp_in ((6 : Int32) * nI k + nI i) 36 := pk_in (6 * k + i) 36 (by omega) (fd_ix6 k i)
/-- comesBefore -/
def fd_cmp (A F : List Nat) : Nat → Bool
  | 0 => false
  | n + 1 => cond (Nat.beq (fd_cf A n) (fd_cf F n)) (fd_cmp A F n) (Nat.blt (fd_sh (fd_cf A n)) (fd_sh (fd_cf F n)))
def fd_cb (A F : List Nat) : Bool := cond (Nat.beq (fd_ln A) (fd_ln F)) (fd_cmp A F (fd_ln A)) (Nat.blt (fd_ln A) (fd_ln F))
theorem fd_blt_t {a b : Nat} (h : a < b) : Nat.blt a b = true := Nat.ble_eq_true_of_le h
theorem fd_blt_f {a b : Nat} (h : b ≤ a) : Nat.blt a b = false := fd_ble_f (show b < a + 1 by omega)
section
variable {fc lc dc : Int32} {mo pr : Int64} {a1 a3 : Nat → Int64} {a2 a4 a5 a6 : Nat → Int32} {M : Nat → List Nat}
theorem fd_cb51 {post : Int32 → Prop} {F : List Nat} {k : Nat} (h : fd_RR M a1) (hk : k < 6) (hF : ∀ i, i < 6 → fd_tN (a2 (6 * k + i)).toInt64 = fd_cf F i) :
    ∀ n, n ≤ 6 → post (cond (fd_cmp (M 23) F n) 1 0) → wX_comesBefore_51 post 23 (nI k) fc mo pr lc dc a1 a2 a3 a4 a5 a6 (n + 1) (fd_di n) := by
  intro n
  induction n with
  | zero =>
    intro _ H
    exact br_t (by decide) H
  | succ n ih =>
    intro hn H
    have c1 : ((6 : Int32) * nI k + nI n).toNatClampNeg = 6 * k + n := fd_cx6 hk (by omega)
    have c2 : ((12 : Int32) * 23 + nI n).toNatClampNeg = 12 * 23 + n := fd_cx (k := 23) (by omega) (by omega)
    have i2 : vp_in ((12 : Int32) * 23 + nI n) 312 := fd_ixi (k := 23) (by omega) (by omega)
    have e1 := fd_rd h (k := 23) (i := n) (by omega) (by omega)
    have e2 := hF n (by omega)
    have H' : post (cond (cond (Nat.beq (fd_cf (M 23) n) (fd_cf F n)) (fd_cmp (M 23) F n) (Nat.blt (fd_sh (fd_cf (M 23) n)) (fd_sh (fd_cf F n)))) 1 0) := H
    rw [fd_di_s]
    refine br_f (nI_pos (by omega)) ⟨fd_ixi6 hk (by omega), nm_r (by rw [c1]) ⟨i2, ?_⟩⟩
    rw [c2]
    refine br_c (fun z => nm_e (ih (by omega) ?_)) (fun z => ⟨i2, br_c (fun y => ?_) (fun y => ?_)⟩)
    · rw [fd_eq, e1, e2] at z
      rw [fd_beq_t z] at H'
      exact H'
    · rw [fd_eq, e1, e2] at z
      rw [fd_le, e1, e2] at y
      rw [fd_beq_f z, fd_blt_f y] at H'
      exact H'
    · rw [fd_eq, e1, e2] at z
      rw [fd_le, e1, e2] at y
      rw [fd_beq_f z, fd_blt_t (by omega)] at H'
      exact H'
theorem fd_comesBefore {post : Int32 → Prop} {F : List Nat} {k : Nat} (h : fd_RR M a1) (hk : k < 6) (hF : ∀ i, i < 6 → fd_tN (a2 (6 * k + i)).toInt64 = fd_cf F i) (hl : fd_ln F ≤ 6) (hl0 : fd_ln F ≠ 0) (H : post (cond (fd_cb (M 23) F) 1 0)) :
    wpX_comesBefore post (fc, mo, pr, lc, dc, a1, a2, a3, a4, a5, a6) 23 (nI k) := by
  have l23 := fd_ln12 h (k := 23) (by omega)
  unfold wpX_comesBefore
  dsimp only
  refine fd_degreeOf h 23 (by omega) ?_
  have key : ∀ n, n ≤ 6 → fd_ln F ≤ n → wX_comesBefore_9 post 23 (nI k) (fd_di (fd_ln (M 23))) fc mo pr lc dc a1 a2 a3 a4 a5 a6 n (fd_di n) := by
    intro n
    induction n with
    | zero => exact fun _ h => absurd h (by omega)
    | succ n ih =>
      intro hn hFn
      have c1 : ((6 : Int32) * nI k + nI n).toNatClampNeg = 6 * k + n := fd_cx6 hk (by omega)
      have e2 := hF n (by omega)
      rw [fd_di_s]
      refine ⟨fd_ixi6 hk (by omega), ?_⟩
      rw [c1]
      by_cases c : fd_ln F = n + 1
      · have hne : ¬ a2 (6 * k + n) = 0 := by
          rw [fd_i0, e2]
          exact fd_ln_top F n c
        refine br_f hne ?_
        rw [← fd_di_s n, ← c]
        have H' : post (cond (cond (Nat.beq (fd_ln (M 23)) (fd_ln F)) (fd_cmp (M 23) F (fd_ln (M 23))) (Nat.blt (fd_ln (M 23)) (fd_ln F))) 1 0) := H
        refine br_c (fun z => ⟨_, fd_cb51 h hk hF (fd_ln (M 23)) ?_ ?_⟩) (fun z => br_c (fun y => ?_) (fun y => ?_))
        · rw [fd_di_inj (by omega) (by omega)] at z
          omega
        · rw [fd_di_inj (by omega) (by omega)] at z
          rw [fd_beq_t z] at H'
          exact H'
        · rw [fd_di_inj (by omega) (by omega)] at z
          have y' : ¬ fd_ln (M 23) < fd_ln F := by
            intro y2
            rw [← fd_di_lt (by omega) (by omega)] at y2
            exact absurd y (Int32.not_le.mpr y2)
          rw [fd_beq_f z, fd_blt_f (by omega)] at H'
          exact H'
        · rw [fd_di_inj (by omega) (by omega)] at z
          have y' : fd_ln (M 23) < fd_ln F := by
            rw [← fd_di_lt (by omega) (by omega)]
            exact Int32.not_le.mp y
          rw [fd_beq_f z, fd_blt_t y'] at H'
          exact H'
      · refine br_t ?_ (nm_e (ih (by omega) (by omega)))
        rw [fd_i0, e2]
        exact fd_ln_out F n (by omega)
  exact ⟨6, key 6 (by omega) hl⟩
end
/-- the place for a new factor -/
def fd_plc (A : List Nat) (Fs : List (List Nat)) : Nat → Nat
  | 0 => 0
  | n + 1 => cond (fd_cb A (fd_rw Fs n)) (fd_plc A Fs n) (Nat.succ n)
def fd_ini : List (List Nat) → Nat → List Nat → List (List Nat)
  | L, 0, A => A :: L
  | [], _ + 1, A => [A]
  | x :: t, n + 1, A => x :: fd_ini t n A
theorem fd_ini_len : ∀ (L : List (List Nat)) (n : Nat) (A : List Nat), (fd_ini L n A).length = L.length + 1
  | L, 0, A => by
    cases L <;> rfl
  | [], _ + 1, A => rfl
  | x :: t, n + 1, A => by
    show (fd_ini t n A).length + 1 = _
    rw [fd_ini_len t n A]
    rfl
theorem fd_ini_rw : ∀ (L : List (List Nat)) (n : Nat) (A : List Nat) (j : Nat), n ≤ L.length → fd_rw (fd_ini L n A) j = if j < n then fd_rw L j else if j = n then A else fd_rw L (j - 1)
  | L, 0, A, 0, _ => by
    cases L <;> rfl
  | L, 0, A, j + 1, _ => by
    rw [if_neg (by omega), if_neg (by omega)]
    cases L <;> rfl
  | [], n + 1, A, j, h => absurd h (by simp)
  | x :: t, n + 1, A, 0, _ => by
    rw [if_pos (by omega)]
    rfl
  | x :: t, n + 1, A, j + 1, h => by
    show fd_rw (fd_ini t n A) j = _
    rw [fd_ini_rw t n A j (by simpa using h)]
    by_cases c : j < n
    · rw [if_pos c, if_pos (show j + 1 < n + 1 by omega)]
      rfl
    · rw [if_neg c, if_neg (show ¬ j + 1 < n + 1 by omega)]
      by_cases d : j = n
      · rw [if_pos d, if_pos (show j + 1 = n + 1 by omega)]
      · rw [if_neg d, if_neg (show ¬ j + 1 = n + 1 by omega)]
        obtain ⟨q, e⟩ := Nat.exists_eq_succ_of_ne_zero (show j ≠ 0 by omega)
        rw [e]
        rfl
theorem fd_plc_le (A : List Nat) (Fs : List (List Nat)) : ∀ n, fd_plc A Fs n ≤ n
  | 0 => Nat.le_refl 0
  | n + 1 => by
    have ih := fd_plc_le A Fs n
    show cond (fd_cb A (fd_rw Fs n)) (fd_plc A Fs n) (Nat.succ n) ≤ n + 1
    cases fd_cb A (fd_rw Fs n) with
    | true =>
      show fd_plc A Fs n ≤ n + 1
      omega
    | false => exact Nat.le_refl _
/-- all rows of the list are not zero and not too long -/
def fd_okr : List (List Nat) → Bool
  | [] => true
  | x :: t => cond (Nat.ble (fd_ln x) 6) (cond (Nat.beq (fd_ln x) 0) false (fd_okr t)) false
theorem fd_okr_rw : ∀ (L : List (List Nat)) (k : Nat), fd_okr L = true → k < L.length → fd_ln (fd_rw L k) ≤ 6 ∧ fd_ln (fd_rw L k) ≠ 0
  | [], k, _, h => absurd h (by simp)
  | x :: t, k, h, hk => by
    have h' : cond (Nat.ble (fd_ln x) 6) (cond (Nat.beq (fd_ln x) 0) false (fd_okr t)) false = true := h
    by_cases c : fd_ln x ≤ 6
    · rw [fd_ble_t c] at h'
      by_cases d : fd_ln x = 0
      · rw [fd_beq_t d] at h'
        exact absurd h' (by simp)
      · rw [fd_beq_f d] at h'
        cases k with
        | zero => exact ⟨c, d⟩
        | succ k => exact fd_okr_rw t k h' (by simpa using hk)
    · rw [fd_ble_f (by omega)] at h'
      exact absurd h' (by simp)
section
variable {fc lc dc : Int32} {mo pr : Int64} {a1 a3 : Nat → Int64} {a2 a4 a5 a6 : Nat → Int32} {M : Nat → List Nat}
theorem fd_in67 {post : St2 → Prop} {q n : Nat} {Fs : List (List Nat)} {b : Nat → Int32} (h : fd_RR M a1) (hfc : fc = nI n) (hn : n ≤ 5) (hFl : Fs.length = n) (hq : q ≤ n) (ho : fd_okl (M 23) = true) (h1 : ∀ j, j < q → ∀ i, i < 6 → fd_tN (b (6 * j + i)).toInt64 = fd_cf (fd_rw Fs j) i) (h2 : ∀ j, q < j → j ≤ n → ∀ i, i < 6 → fd_tN (b (6 * j + i)).toInt64 = fd_cf (fd_rw Fs (j - 1)) i)
    (H : ∀ b', fd_RF (fd_ini Fs q (M 23)) b' → post (nI (n + 1), mo, pr, lc, dc, a1, b', a3, a4, a5, a6)) :
    ∃ f, wX_insertFactor_67 post 23 (nI q) fc mo pr lc dc f 0 a1 b a3 a4 a5 a6 := by
  subst hfc
  refine pk_loop (fun f i b => wX_insertFactor_67 post 23 (nI q) (nI n) mo pr lc dc f (nI i) a1 b a3 a4 a5 a6) (fun k b' => (∀ j, j ≠ q → ∀ i, i < 6 → b' (6 * j + i) = b (6 * j + i)) ∧ (∀ i, i < k → fd_tN (b' (6 * q + i)).toInt64 = fd_cf (M 23) i)) 6 0 b (by omega) ⟨fun _ _ _ _ => rfl, fun i hi => absurd hi (by omega)⟩ ?_ ?_
  · intro f b' hb
    refine pk_le 6 6 (fun _ => nm_r (nI_1 n) (H b' (fun k hk i hi => ?_))) (fun z => absurd z (by omega))
    rw [fd_ini_len] at hk
    rw [fd_ini_rw _ _ _ _ (by omega)]
    by_cases c : k < q
    · rw [if_pos c, hb.1 k (by omega) i hi]
      exact h1 k c i hi
    · rw [if_neg c]
      by_cases d : k = q
      · rw [if_pos d, d]
        exact hb.2 i hi
      · rw [if_neg d, hb.1 k d i hi]
        exact h2 k (by omega) (by omega) i hi
  · intro f i b' hi hb hw
    have i2 : vp_in ((12 : Int32) * 23 + nI i) 312 := fd_ixi (k := 23) (by omega) (by omega)
    have c2 : ((12 : Int32) * 23 + nI i).toNatClampNeg = 12 * 23 + i := fd_cx (k := 23) (by omega) (by omega)
    refine pk_le 6 i (fun z => absurd z (by omega)) (fun _ => ⟨i2, fd_ixi6 (by omega) hi, nm_r (by rw [fd_cx6 (by omega) hi, c2]) (nm_r (nI_1 i) (hw _ ⟨fun j hj k hk => ?_, fun k hk => ?_⟩))⟩)
    · rw [pk_un (by omega)]
      exact hb.1 j hj k hk
    · by_cases e : k = i
      · have e1 := fd_rd h (k := 23) (i := i) (by omega) (by omega)
        rw [e, pk_us, fd_i32 (by rw [e1]; exact fd_okl_cf _ _ ho), e1]
      · rw [pk_un (by omega)]
        exact hb.2 k (by omega)
theorem fd_insertFactor {post : St2 → Prop} {n : Nat} {Fs : List (List Nat)} (h : fd_RR M a1) (hfc : fc = nI n) (hn : n ≤ 5) (hFl : Fs.length = n) (hF : fd_RF Fs a2) (hr : fd_okr Fs = true) (ho : fd_okl (M 23) = true)
    (H : ∀ b', fd_RF (fd_ini Fs (fd_plc (M 23) Fs n) (M 23)) b' → post (nI (n + 1), mo, pr, lc, dc, a1, b', a3, a4, a5, a6)) :
    wpX_insertFactor post (fc, mo, pr, lc, dc, a1, a2, a3, a4, a5, a6) 23 := by
  have key : ∀ (q : Nat) (b : Nat → Int32), q ≤ n → fd_plc (M 23) Fs q = fd_plc (M 23) Fs n → (∀ j, j < q → ∀ i, i < 6 → fd_tN (b (6 * j + i)).toInt64 = fd_cf (fd_rw Fs j) i) → (∀ j, q < j → j ≤ n → ∀ i, i < 6 → fd_tN (b (6 * j + i)).toInt64 = fd_cf (fd_rw Fs (j - 1)) i) →
      wX_insertFactor_5 post 23 fc mo pr lc dc (q + 1) (nI q) a1 b a3 a4 a5 a6 := by
    intro q
    induction q with
    | zero =>
      intro b _ hp h1 h2
      refine pk_le 0 0 (fun _ => fd_in67 h hfc hn hFl (by omega) ho h1 h2 (fun b' hb' => H b' ?_)) (fun z => absurd z (by omega))
      have e : 0 = fd_plc (M 23) Fs n := hp
      rw [← e]
      exact hb'
    | succ q ih =>
      intro b hq hp h1 h2
      have hro := fd_okr_rw Fs q hr (by omega)
      have hp' : cond (fd_cb (M 23) (fd_rw Fs q)) (fd_plc (M 23) Fs q) (q + 1) = fd_plc (M 23) Fs n := hp
      have em : nI (q + 1) - 1 = nI q := nI_pred q
      refine pk_le (q + 1) 0 (fun z => absurd z (by omega)) (fun _ => ?_)
      rw [em]
      refine fd_comesBefore (F := fd_rw Fs q) h (by omega) (fun i hi => h1 q (by omega) i hi) hro.1 hro.2 ?_
      cases c : fd_cb (M 23) (fd_rw Fs q) with
      | false =>
        rw [c] at hp'
        refine br_t rfl (fd_in67 h hfc hn hFl (by omega) ho h1 h2 (fun b' hb' => H b' ?_))
        have e : q + 1 = fd_plc (M 23) Fs n := hp'
        rw [← e]
        exact hb'
      | true =>
        rw [c] at hp'
        refine br_f (by decide) ?_
        refine pk_loop (fun f i b => wX_insertFactor_22 post (wX_insertFactor_5 post 23 fc mo pr lc dc (q + 1)) 23 (nI (q + 1)) fc mo pr lc dc f (nI i) a1 b a3 a4 a5 a6) (fun k b' => (∀ j, j ≠ q + 1 → ∀ i, i < 6 → b' (6 * j + i) = b (6 * j + i)) ∧ (∀ i, i < k → b' (6 * (q + 1) + i) = b (6 * q + i))) 6 0 b (by omega) ⟨fun _ _ _ _ => rfl, fun i hi => absurd hi (by omega)⟩ ?_ ?_
        · intro f b' hb
          refine pk_le 6 6 (fun _ => nm_r (pk_m1 q) (ih b' (by omega) hp' (fun j hj i hi => ?_) (fun j hj hjn i hi => ?_))) (fun z => absurd z (by omega))
          · rw [hb.1 j (by omega) i hi]
            exact h1 j (by omega) i hi
          · by_cases e : j = q + 1
            · rw [e, hb.2 i hi]
              exact h1 q (by omega) i hi
            · rw [hb.1 j e i hi]
              exact h2 j (by omega) hjn i hi
        · intro f i b' hi hb hw
          have e1 : (6 : Int32) * nI (q + 1) - 6 + nI i = nI (6 * q + i) := by
            show nI 6 * nI (q + 1) - nI 6 + nI i = _
            rw [pk_mul, pk_sub (by omega), nI_add]
            congr 1
          have c1 : ((6 : Int32) * nI (q + 1) - 6 + nI i).toNatClampNeg = 6 * q + i := by rw [e1, nI_clamp (by omega)]
          refine pk_le 6 i (fun z => absurd z (by omega)) (fun _ => ⟨pk_in (6 * q + i) 36 (by omega) e1, fd_ixi6 (by omega) hi, nm_r (by rw [fd_cx6 (by omega) hi, c1]) (nm_r (nI_1 i) (hw _ ⟨fun j hj k hk => ?_, fun k hk => ?_⟩))⟩)
          · rw [pk_un (by omega)]
            exact hb.1 j hj k hk
          · by_cases e : k = i
            · rw [e, pk_us, hb.1 q (by omega) i hi]
            · rw [pk_un (by omega)]
              exact hb.2 k (by omega)
  subst hfc
  exact ⟨n + 1, key n a2 (Nat.le_refl n) rfl (fun j hj i hi => hF j (by omega) i hi) (fun j hj hjn => absurd hjn (by omega))⟩
end
/-- addFactor -/
def fd_af (A : List Nat) : Nat → List Nat → List (List Nat) → Option (List Nat × List (List Nat))
  | 0, _, _ => none
  | n + 1, W, Fs => match fd_dv W A with
    | none => some (W, Fs)
    | some (Q, R) => match fd_ln R with
      | _ + 1 => some (W, Fs)
      | 0 => cond (Nat.ble Fs.length 5) (cond (fd_okr Fs) (fd_lf Q (fun Q => fd_rf (fd_ini Fs (fd_plc A Fs Fs.length) A) (fun Fs' => fd_af A n Q Fs'))) none) none
theorem fd_af_0 {A W : List Nat} {n : Nat} {Fs : List (List Nat)} {X : List Nat × List (List Nat)} (h : fd_af A (n + 1) W Fs = some X) (hd : fd_dv W A = none) : (W, Fs) = X := by
  unfold fd_af at h
  rw [hd] at h
  exact Option.some.inj h
theorem fd_af_1 {A W Q R : List Nat} {n : Nat} {Fs : List (List Nat)} {X : List Nat × List (List Nat)} (h : fd_af A (n + 1) W Fs = some X) (hd : fd_dv W A = some (Q, R)) (hR : fd_ln R ≠ 0) : (W, Fs) = X := by
  obtain ⟨d, e⟩ := Nat.exists_eq_succ_of_ne_zero hR
  unfold fd_af at h
  rw [hd] at h
  have h1 : (match fd_ln R with
      | _ + 1 => some (W, Fs)
      | 0 => cond (Nat.ble Fs.length 5) (cond (fd_okr Fs) (fd_lf Q (fun Q => fd_rf (fd_ini Fs (fd_plc A Fs Fs.length) A) (fun Fs' => fd_af A n Q Fs'))) none) none) = some X := h
  rw [e] at h1
  exact Option.some.inj h1
theorem fd_af_2 {A W Q R : List Nat} {n : Nat} {Fs : List (List Nat)} {X : List Nat × List (List Nat)} (h : fd_af A (n + 1) W Fs = some X) (hd : fd_dv W A = some (Q, R)) (hR : fd_ln R = 0) : Fs.length ≤ 5 ∧ fd_okr Fs = true ∧ fd_af A n Q (fd_ini Fs (fd_plc A Fs Fs.length) A) = some X := by
  unfold fd_af at h
  rw [hd] at h
  have h1 : (match fd_ln R with
      | _ + 1 => some (W, Fs)
      | 0 => cond (Nat.ble Fs.length 5) (cond (fd_okr Fs) (fd_lf Q (fun Q => fd_rf (fd_ini Fs (fd_plc A Fs Fs.length) A) (fun Fs' => fd_af A n Q Fs'))) none) none) = some X := h
  rw [hR] at h1
  have h2 : cond (Nat.ble Fs.length 5) (cond (fd_okr Fs) (fd_lf Q (fun Q => fd_rf (fd_ini Fs (fd_plc A Fs Fs.length) A) (fun Fs' => fd_af A n Q Fs'))) none) none = some X := h1
  by_cases c : Fs.length ≤ 5
  · rw [fd_ble_t c] at h2
    cases d : fd_okr Fs with
    | false =>
      rw [d] at h2
      exact absurd h2 (by simp)
    | true =>
      rw [d] at h2
      have h3 : fd_lf Q (fun Q => fd_rf (fd_ini Fs (fd_plc A Fs Fs.length) A) (fun Fs' => fd_af A n Q Fs')) = some X := h2
      rw [fd_lf_eq, fd_rf_eq] at h3
      exact ⟨c, rfl, h3⟩
  · rw [fd_ble_f (by omega)] at h2
    exact absurd h2 (by simp)
section
variable {fc lc dc : Int32} {mo pr : Int64} {a1 a3 : Nat → Int64} {a2 a4 a5 a6 : Nat → Int32} {M : Nat → List Nat}
theorem fd_af7 {post : St2 → Prop} {A W' : List Nat} {Fs' : List (List Nat)} (hA : fd_ln A ≠ 0) (ho : fd_okl A = true)
    (H : ∀ M' s b, (∀ j, j ≠ 4 → j ≠ 9 → j ≠ 10 → M' j = M j) → M' 4 = W' → fd_RR M' s → fd_RF Fs' b → post (nI Fs'.length, mo, pr, lc, dc, s, b, a3, a4, a5, a6)) :
    ∀ (n : Nat) (Fs : List (List Nat)) (M1 : Nat → List Nat) (s : Nat → Int64) (b : Nat → Int32), (∀ j, j ≠ 4 → j ≠ 9 → j ≠ 10 → M1 j = M j) → M1 23 = A → fd_RR M1 s → fd_RF Fs b → fd_af A n (M1 4) Fs = some (W', Fs') →
    wX_addFactor_7 post n (nI Fs.length) mo pr lc dc s b a3 a4 a5 a6 := by
  intro n
  induction n with
  | zero =>
    intro Fs M1 s b _ _ _ _ h
    exact absurd h (by simp [fd_af])
  | succ n ih =>
    intro Fs M1 s b hf hA1 hs hF h
    have Hend : (M1 4, Fs) = (W', Fs') → ∀ Q R s1, fd_RR (fd_up (fd_up M1 9 Q) 10 R) s1 → post (nI Fs.length, mo, pr, lc, dc, s1, b, a3, a4, a5, a6) := by
      intro e Q R s1 h1
      have e1 : M1 4 = W' := congrArg Prod.fst e
      have e2 : Fs = Fs' := congrArg Prod.snd e
      rw [e2]
      rw [e2] at hF
      refine H _ s1 b (fun j j1 j2 j3 => ?_) ?_ h1 hF
      · rw [fd_up_n j3, fd_up_n j2]
        exact hf j j1 j2 j3
      · rw [fd_up_n (by omega), fd_up_n (by omega), e1]
    unfold wX_addFactor_7
    refine fd_divide hs 4 23 (by omega) (by omega) (by omega) (by omega) (by rw [hA1]; exact hA) (fun z Q R s1 h1 => br_t rfl ?_) (fun Q R z s1 h1 => ?_)
    · rw [hA1] at z
      exact Hend (fd_af_0 h z) Q R s1 h1
    · rw [hA1] at z
      by_cases c : fd_ln R = 0
      · rw [if_pos c]
        obtain ⟨l1, l2, l3⟩ := fd_af_2 h z c
        refine br_f (by decide) (fd_copy h1 4 9 (by omega) (by omega) (fun s2 h2 => ?_))
        have g23 : fd_up (fd_up (fd_up M1 9 Q) 10 R) 4 (fd_up (fd_up M1 9 Q) 10 R 9) 23 = A := by
          rw [fd_up_n (by omega), fd_up_n (by omega), fd_up_n (by omega), hA1]
        refine fd_insertFactor (n := Fs.length) (Fs := Fs) h2 rfl l1 rfl hF l2 (by rw [g23]; exact ho) (fun b' hb' => ?_)
        rw [g23] at hb'
        have e1 : Fs.length + 1 = (fd_ini Fs (fd_plc A Fs Fs.length) A).length := by rw [fd_ini_len]
        rw [e1]
        refine ih _ _ s2 b' (fun j j1 j2 j3 => ?_) g23 h2 hb' ?_
        · rw [fd_up_n j1, fd_up_n j3, fd_up_n j2]
          exact hf j j1 j2 j3
        · rw [fd_up_s, fd_up_n (by omega), fd_up_s]
          exact l3
      · rw [if_neg c]
        exact br_t rfl (Hend (fd_af_1 h z c) Q R s1 h1)
theorem fd_addFactor {post : St2 → Prop} {t fu : Nat} {W' : List Nat} {Fs Fs' : List (List Nat)} (h : fd_RR M a1) (ht : t < 26) (hA : fd_ln (M t) ≠ 0) (ho : fd_okl (M t) = true) (hfc : fc = nI Fs.length) (hF : fd_RF Fs a2) (he : fd_af (M t) fu (M 4) Fs = some (W', Fs'))
    (H : ∀ M' s b, (∀ j, j ≠ 4 → j ≠ 9 → j ≠ 10 → j ≠ 23 → M' j = M j) → M' 4 = W' → fd_RR M' s → fd_RF Fs' b → post (nI Fs'.length, mo, pr, lc, dc, s, b, a3, a4, a5, a6)) :
    wpX_addFactor post (fc, mo, pr, lc, dc, a1, a2, a3, a4, a5, a6) (nI t) := by
  subst hfc
  refine fd_copy h 23 t (by omega) ht (fun s1 h1 => ⟨fu, fd_af7 (M := fd_up M 23 (M t)) (A := M t) hA ho (fun M2 s2 b2 f2 g2 h2 hF2 => H M2 s2 b2 (fun j j1 j2 j3 j4 => ?_) g2 h2 hF2) fu Fs _ s1 a2 (fun _ _ _ _ => rfl) fd_up_s h1 hF (by rw [fd_up_n (by omega)]; exact he)⟩)
  rw [f2 j j1 j2 j3, fd_up_n j4]
end
end
section
/-! products of pieces; the factors -/
def fd_bt (s k : Nat) : Nat := Nat.mod (Nat.div s (Nat.pow 2 k)) 2
theorem fd_bit : ∀ s, s < 32 → ∀ k, k < 5 → ((nI s >>> (nI k &&& 31)) &&& 1) = nI (fd_bt s k) := by decide +kernel
theorem fd_out : ∀ s, s < 32 → ∀ q, q < 32 → (nI s &&& (nI q ^^^ (-1))) = nI (Nat.land s (Nat.sub 31 q)) := by decide +kernel
theorem fd_out_lt : ∀ s, s < 32 → ∀ q, q < 32 → Nat.land s (Nat.sub 31 q) < 32 := by decide +kernel
def fd_cnt (s : Nat) : Nat → Nat
  | 0 => 0
  | k + 1 => Nat.add (fd_cnt s k) (fd_bt s k)
theorem fd_bt_le (s k : Nat) : fd_bt s k ≤ 1 := by
  have : fd_bt s k < 2 := Nat.mod_lt _ (by omega)
  omega
theorem fd_cnt_le (s : Nat) : ∀ k, fd_cnt s k ≤ k
  | 0 => Nat.le_refl 0
  | k + 1 => by
    have h1 := fd_cnt_le s k
    have h2 := fd_bt_le s k
    show fd_cnt s k + fd_bt s k ≤ k + 1
    omega
section
variable {fc lc dc : Int32} {mo pr : Int64} {a1 a3 : Nat → Int64} {a2 a4 a5 a6 : Nat → Int32} {M : Nat → List Nat}
theorem fd_onesIn {post : Int32 → Prop} {s : Nat} (hs : s < 32) (H : post (nI (fd_cnt s 5))) :
    wpX_onesIn post (fc, mo, pr, lc, dc, a1, a2, a3, a4, a5, a6) (nI s) := by
  refine pk_loop (fun f k x => wX_onesIn_4 post (nI s) fc mo pr lc dc a1 a2 a3 a4 a5 a6 f x (nI k)) (fun k x => x = nI (fd_cnt s k)) 5 0 0 (by omega) rfl ?_ ?_
  · intro f x hx
    subst hx
    exact pk_le 5 5 (fun _ => H) (fun z => absurd z (by omega))
  · intro f k x hk hx hw
    subst hx
    refine pk_le 5 k (fun z => absurd z (by omega)) (fun _ => nm_r ?_ (nm_r (nI_1 k) (hw _ rfl)))
    rw [fd_bit s hs k hk, nI_add]
    rfl
end
/-- the product of the pieces in the set -/
def fd_pr (m s : Nat) (P : List (List Nat)) : Nat → Nat → List Nat → List Nat
  | 0, _, T => T
  | c + 1, k, T => match fd_bt s k with
    | 0 => fd_pr m s P c (Nat.succ k) T
    | _ + 1 => fd_lf (fd_mm m T (fd_rw P k)) (fun T' => fd_pr m s P c (Nat.succ k) T')
theorem fd_pr_0 {m s c k : Nat} {P : List (List Nat)} {T : List Nat} (h : fd_bt s k = 0) : fd_pr m s P (c + 1) k T = fd_pr m s P c (k + 1) T := by
  show (match fd_bt s k with
    | 0 => fd_pr m s P c (Nat.succ k) T
    | _ + 1 => fd_lf (fd_mm m T (fd_rw P k)) (fun T' => fd_pr m s P c (Nat.succ k) T')) = _
  rw [h]
theorem fd_pr_1 {m s c k : Nat} {P : List (List Nat)} {T : List Nat} (h : fd_bt s k ≠ 0) : fd_pr m s P (c + 1) k T = fd_pr m s P c (k + 1) (fd_mm m T (fd_rw P k)) := by
  obtain ⟨d, e⟩ := Nat.exists_eq_succ_of_ne_zero h
  show (match fd_bt s k with
    | 0 => fd_pr m s P c (Nat.succ k) T
    | _ + 1 => fd_lf (fd_mm m T (fd_rw P k)) (fun T' => fd_pr m s P c (Nat.succ k) T')) = _
  rw [e]
  show fd_lf _ _ = _
  rw [fd_lf_eq]
/-- tryProduct: none: not covered; some none: no; some (some ..): yes, and what is left -/
def fd_tq (fu m s : Nat) (P : List (List Nat)) (L W : List Nat) (Fs : List (List Nat)) : Option (Option (List Nat × List Nat × List (List Nat))) :=
  fd_lf ((fd_pr m s P P.length 0 [fd_ld L]).map (fd_cen m)) (fun C => cond (fd_okc C) (fd_lf (fd_mp C) (fun T => cond (Nat.beq (fd_ln T) 0) none (match fd_dv L T with
    | none => some none
    | some (Q, R) => match fd_ln R with
      | _ + 1 => some none
      | 0 => cond (fd_okl T) (match fd_af T fu W Fs with
        | none => none
        | some (W', Fs') => fd_lf Q (fun Q => fd_lf W' (fun W' => some (some (Q, W', Fs'))))) none))) none)
theorem fd_tq_some {fu m s : Nat} {P : List (List Nat)} {L W : List Nat} {Fs : List (List Nat)} {X : Option (List Nat × List Nat × List (List Nat))} (h : fd_tq fu m s P L W Fs = some X) :
    ∃ C T, C = (fd_pr m s P P.length 0 [fd_ld L]).map (fd_cen m) ∧ fd_okc C = true ∧ T = fd_mp C ∧ fd_ln T ≠ 0 ∧
      ((fd_dv L T = none ∧ X = none) ∨ ∃ Q R, fd_dv L T = some (Q, R) ∧ ((fd_ln R ≠ 0 ∧ X = none) ∨ (fd_ln R = 0 ∧ fd_okl T = true ∧ ∃ W' Fs', fd_af T fu W Fs = some (W', Fs') ∧ X = some (Q, W', Fs')))) := by
  unfold fd_tq at h
  rw [fd_lf_eq] at h
  refine ⟨_, fd_mp ((fd_pr m s P P.length 0 [fd_ld L]).map (fd_cen m)), rfl, ?_⟩
  generalize (fd_pr m s P P.length 0 [fd_ld L]).map (fd_cen m) = C at h ⊢
  cases o : fd_okc C with
  | false =>
    rw [o] at h
    exact absurd h (by simp)
  | true =>
    rw [o] at h
    refine ⟨rfl, rfl, ?_⟩
    have h1 : fd_lf (fd_mp C) (fun T => cond (Nat.beq (fd_ln T) 0) none (match fd_dv L T with
      | none => some none
      | some (Q, R) => match fd_ln R with
        | _ + 1 => some none
        | 0 => cond (fd_okl T) (match fd_af T fu W Fs with
          | none => none
          | some (W', Fs') => fd_lf Q (fun Q => fd_lf W' (fun W' => some (some (Q, W', Fs'))))) none)) = some X := h
    rw [fd_lf_eq] at h1
    generalize fd_mp C = T at h1 ⊢
    by_cases c : fd_ln T = 0
    · rw [fd_beq_t c] at h1
      exact absurd h1 (by simp)
    rw [fd_beq_f c] at h1
    refine ⟨c, ?_⟩
    cases d : fd_dv L T with
    | none =>
      rw [d] at h1
      exact Or.inl ⟨rfl, (Option.some.inj h1).symm⟩
    | some QR =>
      rw [d] at h1
      refine Or.inr ⟨QR.1, QR.2, rfl, ?_⟩
      have h2 : (match fd_ln QR.2 with
        | _ + 1 => some none
        | 0 => cond (fd_okl T) (match fd_af T fu W Fs with
          | none => none
          | some (W', Fs') => fd_lf QR.1 (fun Q => fd_lf W' (fun W' => some (some (Q, W', Fs'))))) none) = some X := h1
      cases e : fd_ln QR.2 with
      | succ n =>
        rw [e] at h2
        exact Or.inl ⟨by omega, (Option.some.inj h2).symm⟩
      | zero =>
        rw [e] at h2
        have h3 : cond (fd_okl T) (match fd_af T fu W Fs with
          | none => none
          | some (W', Fs') => fd_lf QR.1 (fun Q => fd_lf W' (fun W' => some (some (Q, W', Fs'))))) none = some X := h2
        cases f : fd_okl T with
        | false =>
          rw [f] at h3
          exact absurd h3 (by simp)
        | true =>
          rw [f] at h3
          refine Or.inr ⟨rfl, rfl, ?_⟩
          cases g : fd_af T fu W Fs with
          | none =>
            rw [g] at h3
            exact absurd h3 (by simp)
          | some WF =>
            rw [g] at h3
            have h4 : fd_lf QR.1 (fun Q => fd_lf WF.1 (fun W' => some (some (Q, W', WF.2)))) = some X := h3
            rw [fd_lf_eq, fd_lf_eq] at h4
            exact ⟨WF.1, WF.2, rfl, (Option.some.inj h4).symm⟩
section
variable {fc lc dc : Int32} {mo pr : Int64} {a1 a3 : Nat → Int64} {a2 a4 a5 a6 : Nat → Int32} {M : Nat → List Nat}
theorem fd_tryProduct {post : Int32 → St2 → Prop} {fu m s : Nat} {P Fs : List (List Nat)} {X : Option (List Nat × List Nat × List (List Nat))} (h : fd_RR M a1) (hm : fd_tN mo = m) (hm0 : m ≠ 0) (hm1 : m < 9223372036854775808) (hs : s < 32) (hP : fd_PP P M) (hlc : lc = nI P.length) (hfc : fc = nI Fs.length) (hF : fd_RF Fs a2) (he : fd_tq fu m s P (M 5) (M 4) Fs = some X)
    (H0 : X = none → ∀ M' s, (∀ j, j < 6 → M' j = M j) → fd_PP P M' → fd_RR M' s → post 0 (fc, mo, pr, lc, dc, s, a2, a3, a4, a5, a6))
    (H1 : ∀ Q W' Fs', X = some (Q, W', Fs') → ∀ M' s b, (∀ j, j < 4 → M' j = M j) → M' 5 = Q → M' 4 = W' → fd_PP P M' → fd_RR M' s → fd_RF Fs' b → post 1 (nI Fs'.length, mo, pr, lc, dc, s, b, a3, a4, a5, a6)) :
    wpX_tryProduct post (fc, mo, pr, lc, dc, a1, a2, a3, a4, a5, a6) (nI s) := by
  have hmo : fd_tN mo ≠ 0 := by rw [hm]; exact hm0
  obtain ⟨C, T, e1, e2, e3, e4, e5⟩ := fd_tq_some he
  have hl5 := hP.1
  subst hlc
  refine fd_clear h 22 (by omega) (fun s1 h1 => fd_leadOf h1 5 (by omega) (fun r hr => nm_e ⟨P.length + 1, ?_⟩))
  rw [fd_up_n (by omega)] at hr
  have h2 : fd_RR (fd_up M 22 [fd_ld (M 5)]) (vp_updL s1 264 r) := by
    have := fd_RR_p (k := 22) (i := 0) (x := r) h1 (by omega) (by omega) hr
    rw [fd_up_s, fd_up_up] at this
    exact this
  have key : ∀ (c k : Nat) (T0 : List Nat) (M1 : Nat → List Nat) (s1 : Nat → Int64), k + c = P.length → M1 22 = T0 → (∀ j, j ≠ 22 → j ≠ 25 → M1 j = M j) → fd_RR M1 s1 → fd_pr m s P c k T0 = fd_pr m s P P.length 0 [fd_ld (M 5)] →
      wX_tryProduct_21 post (nI s) (c + 1) (nI k) fc mo pr (nI P.length) dc s1 a2 a3 a4 a5 a6 := by
    intro c
    induction c with
    | zero =>
      intro k T0 M1 s1 hk hT hf hs1 hp
      have hp' : T0 = fd_pr m s P P.length 0 [fd_ld (M 5)] := hp
      refine pk_le P.length k (fun _ => ?_) (fun z => absurd z (by omega))
      refine fd_center hs1 (by rw [hm]; exact hm1) 22 (by omega) (fun s2 h2 => ?_)
      rw [hT, hp', hm, ← e1] at h2
      refine fd_makePrimitive h2 22 (by omega) (by rw [fd_up_s]; exact e2) (fun s3 h3 => ?_)
      rw [fd_up_s, fd_up_up, ← e3] at h3
      have g5 : fd_up M1 22 T 5 = M 5 := by rw [fd_up_n (by omega), hf 5 (by omega) (by omega)]
      have g4 : fd_up M1 22 T 4 = M 4 := by rw [fd_up_n (by omega), hf 4 (by omega) (by omega)]
      have H0' : X = none → ∀ Q R s4, fd_RR (fd_up (fd_up (fd_up M1 22 T) 9 Q) 10 R) s4 → post 0 (fc, mo, pr, nI P.length, dc, s4, a2, a3, a4, a5, a6) := by
        intro eX Q R s4 h4
        refine H0 eX _ s4 (fun j hj => ?_) ⟨hP.1, fun q hq => ?_⟩ h4
        · rw [fd_up_n (by omega), fd_up_n (by omega), fd_up_n (by omega), hf j (by omega) (by omega)]
        · rw [fd_up_n (by omega), fd_up_n (by omega), fd_up_n (by omega), hf (11 + q) (by omega) (by omega)]
          exact hP.2 q hq
      refine fd_divide h3 5 22 (by omega) (by omega) (by omega) (by omega) (by rw [fd_up_s]; exact e4) (fun z Q R s4 h4 => br_t rfl (H0' ?_ Q R s4 h4)) (fun Q R z s4 h4 => ?_)
      · rw [g5, fd_up_s] at z
        rcases e5 with ⟨_, e⟩ | ⟨Q1, R1, e, _⟩
        · exact e
        · rw [e] at z
          exact absurd z (by simp)
      · rw [g5, fd_up_s] at z
        rcases e5 with ⟨e, _⟩ | ⟨Q1, R1, e, e6⟩
        · rw [e] at z
          exact absurd z (by simp)
        · rw [e] at z
          have ez := Option.some.inj z
          have eq : Q1 = Q := congrArg Prod.fst ez
          have er : R1 = R := congrArg Prod.snd ez
          subst eq
          subst er
          rcases e6 with ⟨l, eX⟩ | ⟨l, ok, W', Fs', ea, eX⟩
          · rw [if_neg l]
            exact br_t rfl (H0' eX _ _ s4 h4)
          · rw [if_pos l]
            refine br_f (by decide) (fd_copy h4 5 9 (by omega) (by omega) (fun s5 h5 => ?_))
            have k22 : fd_up (fd_up (fd_up (fd_up M1 22 T) 9 Q1) 10 R1) 5 (fd_up (fd_up (fd_up M1 22 T) 9 Q1) 10 R1 9) 22 = T := by
              rw [fd_up_n (by omega), fd_up_n (by omega), fd_up_n (by omega), fd_up_s]
            have k4 : fd_up (fd_up (fd_up (fd_up M1 22 T) 9 Q1) 10 R1) 5 (fd_up (fd_up (fd_up M1 22 T) 9 Q1) 10 R1 9) 4 = M 4 := by
              rw [fd_up_n (by omega), fd_up_n (by omega), fd_up_n (by omega), g4]
            refine fd_addFactor (fu := fu) (Fs := Fs) (Fs' := Fs') (W' := W') h5 (t := 22) (by omega) (by rw [k22]; exact e4) (by rw [k22]; exact ok) hfc hF (by rw [k22, k4]; exact ea) (fun M6 s6 b6 f6 g6 h6 hF6 => H1 Q1 W' Fs' eX M6 s6 b6 (fun j hj => ?_) ?_ g6 ⟨hP.1, fun q hq => ?_⟩ h6 hF6)
            · rw [f6 j (by omega) (by omega) (by omega) (by omega), fd_up_n (by omega), fd_up_n (by omega), fd_up_n (by omega), fd_up_n (by omega), hf j (by omega) (by omega)]
            · rw [f6 5 (by omega) (by omega) (by omega) (by omega), fd_up_s, fd_up_n (by omega), fd_up_s]
            · rw [f6 (11 + q) (by omega) (by omega) (by omega) (by omega), fd_up_n (by omega), fd_up_n (by omega), fd_up_n (by omega), fd_up_n (by omega), hf (11 + q) (by omega) (by omega)]
              exact hP.2 q hq
    | succ c ih =>
      intro k T0 M1 s1 hk hT hf hs1 hp
      refine pk_le P.length k (fun z => absurd z (by omega)) (fun _ => ?_)
      rw [fd_bit s hs k (by omega)]
      have hb := fd_bt_le s k
      refine pk_eq (fd_bt s k) 0 (fun z => nm_r (nI_1 k) (ih (k + 1) T0 M1 s1 (by omega) hT hf hs1 ?_)) (fun z => ?_)
      · rw [fd_pr_0 z] at hp
        exact hp
      · rw [fd_ix11]
        refine fd_multiplyModulo hs1 hmo 22 22 (11 + k) (by omega) (by omega) (by omega) (fun g s2 h2 => nm_r (nI_1 k) (ih (k + 1) (fd_mm m T0 (fd_rw P k)) _ s2 (by omega) ?_ (fun j j1 j2 => ?_) h2 ?_))
        · rw [fd_up_s, hT, hf (11 + k) (by omega) (by omega), hP.2 k (by omega), hm]
        · rw [fd_up_n j1, fd_up_n j2]
          exact hf j j1 j2
        · rw [fd_pr_1 z] at hp
          exact hp
  exact key P.length 0 [fd_ld (M 5)] _ _ (by omega) fd_up_s (fun j j1 _ => fd_up_n j1) h2 rfl
end
/-- the inner loop of recombine -/
def fd_rc (fu m sz : Nat) (P : List (List Nat)) : Nat → Nat → Nat → List Nat → List Nat → List (List Nat) → Option (Nat × List Nat × List Nat × List (List Nat))
  | 0, q, _, L, W, Fs => some (q, L, W, Fs)
  | c + 1, q, s, L, W, Fs => cond (Nat.blt (fd_cnt q 5) (Nat.mul 2 sz)) (some (q, L, W, Fs)) (cond (Nat.beq (Nat.land s (Nat.sub 31 q)) 0) (cond (Nat.beq (fd_cnt s 5) sz)
      (match fd_tq fu m s P L W Fs with
      | none => none
      | some none => fd_rc fu m sz P c q (Nat.succ s) L W Fs
      | some (some (L', W', Fs')) => fd_nf (Nat.land q (Nat.sub 31 s)) (fun q' => fd_rc fu m sz P c q' (Nat.succ s) L' W' Fs'))
      (fd_rc fu m sz P c q (Nat.succ s) L W Fs)) (fd_rc fu m sz P c q (Nat.succ s) L W Fs))
section
variable {fc lc dc : Int32} {mo pr : Int64} {a1 a3 : Nat → Int64} {a2 a4 a5 a6 : Nat → Int32} {M : Nat → List Nat}
theorem fd_rc24 {post : St2 → Prop} {J : Int32 → Int32 → Int32 → Int64 → Int64 → Int32 → Int32 → (Nat → Int64) → (Nat → Int32) → (Nat → Int64) → (Nat → Int32) → (Nat → Int32) → (Nat → Int32) → Prop} {fu m sz q' : Nat} {P Fs' : List (List Nat)} {L' W' : List Nat} (hm : fd_tN mo = m) (hm0 : m ≠ 0) (hm1 : m < 9223372036854775808) (hsz : sz < 100) (hlc : lc = nI P.length)
    (H : ∀ M' s b, q' < 32 → (∀ j, j < 4 → M' j = M j) → M' 5 = L' → M' 4 = W' → fd_PP P M' → fd_RR M' s → fd_RF Fs' b → J (nI q') (nI (sz + 1)) (nI Fs'.length) mo pr lc dc s b a3 a4 a5 a6) :
    ∀ (c q s : Nat) (Fs : List (List Nat)) (M1 : Nat → List Nat) (s1 : Nat → Int64) (b : Nat → Int32), s + c = 32 → q < 32 → (∀ j, j < 4 → M1 j = M j) → fd_PP P M1 → fd_RR M1 s1 → fd_RF Fs b → fd_rc fu m sz P c q s (M1 5) (M1 4) Fs = some (q', L', W', Fs') →
    wX_recombine_24 post J (nI sz) (c + 1) (nI q) (nI s) (nI Fs.length) mo pr lc dc s1 b a3 a4 a5 a6 := by
  intro c
  induction c with
  | zero =>
    intro q s Fs M1 s1 b hsc hq hf hP hs hF he
    have e := Option.some.inj he
    have e1 : q = q' := congrArg Prod.fst e
    have e2 : M1 5 = L' := congrArg (fun z => z.2.1) e
    have e3 : M1 4 = W' := congrArg (fun z => z.2.2.1) e
    have e4 : Fs = Fs' := congrArg (fun z => z.2.2.2) e
    refine pk_le 32 s (fun _ => nm_r (nI_1 sz) ?_) (fun z => absurd z (by omega))
    rw [e4] at hF
    rw [e1, e4]
    exact H M1 s1 b (by omega) hf e2 e3 hP hs hF
  | succ c ih =>
    intro q s Fs M1 s1 b hsc hq hf hP hs hF he
    have he1 : cond (Nat.blt (fd_cnt q 5) (2 * sz)) (some (q, M1 5, M1 4, Fs)) (cond (Nat.beq (Nat.land s (Nat.sub 31 q)) 0) (cond (Nat.beq (fd_cnt s 5) sz)
      (match fd_tq fu m s P (M1 5) (M1 4) Fs with
      | none => none
      | some none => fd_rc fu m sz P c q (Nat.succ s) (M1 5) (M1 4) Fs
      | some (some (L', W', Fs')) => fd_nf (Nat.land q (Nat.sub 31 s)) (fun q' => fd_rc fu m sz P c q' (Nat.succ s) L' W' Fs'))
      (fd_rc fu m sz P c q (Nat.succ s) (M1 5) (M1 4) Fs)) (fd_rc fu m sz P c q (Nat.succ s) (M1 5) (M1 4) Fs)) = some (q', L', W', Fs') := he
    have hc1 := fd_cnt_le q 5
    have hc2 := fd_cnt_le s 5
    have e2z : (2 : Int32) * nI sz = nI (2 * sz) := by
      show nI 2 * nI sz = _
      rw [pk_mul]
    refine pk_le 32 s (fun z => absurd z (by omega)) (fun _ => fd_onesIn hq (pk_lt (fd_cnt q 5) (2 * sz) (fun z => nm_r (nI_1 sz) ?_) (fun z => ?_) rfl e2z))
    · rw [fd_blt_t z] at he1
      have e := Option.some.inj he1
      have e1 : q = q' := congrArg Prod.fst e
      have e2 : M1 5 = L' := congrArg (fun z => z.2.1) e
      have e3 : M1 4 = W' := congrArg (fun z => z.2.2.1) e
      have e4 : Fs = Fs' := congrArg (fun z => z.2.2.2) e
      rw [e4] at hF
      rw [e1, e4]
      exact H M1 s1 b (by omega) hf e2 e3 hP hs hF
    · rw [fd_blt_f z] at he1
      have hol := fd_out_lt s (by omega) q hq
      rw [fd_out s (by omega) q hq]
      refine pk_eq (Nat.land s (Nat.sub 31 q)) 0 (fun y => fd_onesIn (by omega) (pk_eq (fd_cnt s 5) sz (fun x => ?_) (fun x => nm_r (nI_1 s) ?_))) (fun y => nm_r (nI_1 s) ?_)
      · rw [fd_beq_t y, fd_beq_t x] at he1
        have he2 : (match fd_tq fu m s P (M1 5) (M1 4) Fs with
          | none => none
          | some none => fd_rc fu m sz P c q (Nat.succ s) (M1 5) (M1 4) Fs
          | some (some (L', W', Fs')) => fd_nf (Nat.land q (Nat.sub 31 s)) (fun q' => fd_rc fu m sz P c q' (Nat.succ s) L' W' Fs')) = some (q', L', W', Fs') := he1
        cases e : fd_tq fu m s P (M1 5) (M1 4) Fs with
        | none =>
          rw [e] at he2
          exact absurd he2 (by simp)
        | some X =>
          rw [e] at he2
          refine fd_tryProduct (X := X) hs hm hm0 hm1 (by omega) hP hlc rfl hF e (fun eX M2 s2 f2 p2 h2 => br_t rfl (nm_r (nI_1 s) ?_)) (fun Q W1 Fs1 eX M2 s2 b2 f2 g5 g4 p2 h2 hF2 => br_f (by decide) (nm_r (fd_out q hq s (by omega)) (nm_r (nI_1 s) ?_)))
          · rw [eX] at he2
            refine ih q (s + 1) Fs M2 s2 b (by omega) hq (fun j hj => ?_) p2 h2 hF (by rw [f2 5 (by omega), f2 4 (by omega)]; exact he2)
            rw [f2 j (by omega)]
            exact hf j hj
          · rw [eX] at he2
            have he3 : fd_nf (Nat.land q (Nat.sub 31 s)) (fun q' => fd_rc fu m sz P c q' (Nat.succ s) Q W1 Fs1) = some (q', L', W', Fs') := he2
            rw [fd_nf_eq] at he3
            refine ih _ (s + 1) Fs1 M2 s2 b2 (by omega) (fd_out_lt q hq s (by omega)) (fun j hj => ?_) p2 h2 hF2 (by rw [g5, g4]; exact he3)
            rw [f2 j hj]
            exact hf j hj
      · rw [fd_beq_t y, fd_beq_f x] at he1
        exact ih q (s + 1) Fs M1 s1 b (by omega) hq hf hP hs hF he1
      · rw [fd_beq_f y] at he1
        exact ih q (s + 1) Fs M1 s1 b (by omega) hq hf hP hs hF he1
end
/-- recombine -/
def fd_re (fu m : Nat) (P : List (List Nat)) : Nat → Nat → Nat → List Nat → List Nat → List (List Nat) → Option (List (List Nat))
  | 0, _, _, _, _, _ => none
  | n + 1, q, sz, L, W, Fs => cond (Nat.blt (fd_cnt q 5) (Nat.mul 2 sz)) (cond (Nat.ble (fd_ln L) 1) (some Fs) (cond (fd_okl L) (match fd_af L fu W Fs with
      | none => none
      | some (_, Fs') => some Fs') none))
      (match fd_rc fu m sz P 31 q 1 L W Fs with
      | none => none
      | some (q', L', W', Fs') => fd_re fu m P n q' (Nat.succ sz) L' W' Fs')
theorem fd_pw : ∀ l, l < 6 → ((1 : Int32) <<< (nI l &&& 31)) - 1 = nI (Nat.sub (Nat.pow 2 l) 1) ∧ Nat.sub (Nat.pow 2 l) 1 < 32 := by decide +kernel
section
variable {fc lc dc : Int32} {mo pr : Int64} {a1 a3 : Nat → Int64} {a2 a4 a5 a6 : Nat → Int32} {M : Nat → List Nat}
theorem fd_re11 {post : St2 → Prop} {fu m : Nat} {P Fs' : List (List Nat)} (hm : fd_tN mo = m) (hm0 : m ≠ 0) (hm1 : m < 9223372036854775808) (hlc : lc = nI P.length)
    (H : ∀ M' s b, (∀ j, j < 4 → M' j = M j) → fd_RR M' s → fd_RF Fs' b → post (nI Fs'.length, mo, pr, lc, dc, s, b, a3, a4, a5, a6)) :
    ∀ (n q sz : Nat) (Fs : List (List Nat)) (M1 : Nat → List Nat) (s1 : Nat → Int64) (b : Nat → Int32), sz + n < 100 → q < 32 → (∀ j, j < 4 → M1 j = M j) → fd_PP P M1 → fd_RR M1 s1 → fd_RF Fs b → fd_re fu m P n q sz (M1 5) (M1 4) Fs = some Fs' →
    wX_recombine_11 post n (nI q) (nI sz) (nI Fs.length) mo pr lc dc s1 b a3 a4 a5 a6 := by
  intro n
  induction n with
  | zero =>
    intro q sz Fs M1 s1 b _ _ _ _ _ _ h
    exact absurd h (by simp [fd_re])
  | succ n ih =>
    intro q sz Fs M1 s1 b hn hq hf hP hs hF h
    have h1 : cond (Nat.blt (fd_cnt q 5) (2 * sz)) (cond (Nat.ble (fd_ln (M1 5)) 1) (some Fs) (cond (fd_okl (M1 5)) (match fd_af (M1 5) fu (M1 4) Fs with
      | none => none
      | some (_, Fs') => some Fs') none))
      (match fd_rc fu m sz P 31 q 1 (M1 5) (M1 4) Fs with
      | none => none
      | some (q', L', W', Fs') => fd_re fu m P n q' (Nat.succ sz) L' W' Fs') = some Fs' := h
    have hc1 := fd_cnt_le q 5
    have hl5 := fd_ln12 hs (k := 5) (by omega)
    have e2z : (2 : Int32) * nI sz = nI (2 * sz) := by
      show nI 2 * nI sz = _
      rw [pk_mul]
    unfold wX_recombine_11
    refine fd_onesIn hq (pk_lt (fd_cnt q 5) (2 * sz) (fun z => fd_degreeOf hs 5 (by omega) ?_) (fun z => ?_) rfl e2z)
    · rw [fd_blt_t z] at h1
      refine br_c (fun y => ?_) (fun y => ?_)
      · rw [fd_di_le0 (by omega)] at y
        rw [fd_ble_t y] at h1
        have e : Fs = Fs' := Option.some.inj h1
        rw [e] at hF ⊢
        exact H M1 s1 b hf hs hF
      · rw [fd_di_le0 (by omega)] at y
        rw [fd_ble_f (by omega)] at h1
        cases o : fd_okl (M1 5) with
        | false =>
          rw [o] at h1
          exact absurd h1 (by simp)
        | true =>
          rw [o] at h1
          cases e : fd_af (M1 5) fu (M1 4) Fs with
          | none =>
            rw [e] at h1
            exact absurd h1 (by simp)
          | some WF =>
            rw [e] at h1
            have e1 : WF.2 = Fs' := Option.some.inj h1
            refine fd_addFactor (t := 5) (fu := fu) (Fs := Fs) (W' := WF.1) (Fs' := Fs') hs (by omega) (by omega) o rfl hF (by rw [e, ← e1]) (fun M2 s2 b2 f2 g2 h2 hF2 => H M2 s2 b2 (fun j hj => ?_) h2 hF2)
            rw [f2 j (by omega) (by omega) (by omega) (by omega)]
            exact hf j hj
    · rw [fd_blt_f z] at h1
      cases e : fd_rc fu m sz P 31 q 1 (M1 5) (M1 4) Fs with
      | none =>
        rw [e] at h1
        exact absurd h1 (by simp)
      | some T =>
        rw [e] at h1
        have h2 : fd_re fu m P n T.1 (sz + 1) T.2.1 T.2.2.1 T.2.2.2 = some Fs' := h1
        refine ⟨31 + 1, fd_rc24 (M := M) (q' := T.1) (L' := T.2.1) (W' := T.2.2.1) (Fs' := T.2.2.2) hm hm0 hm1 (by omega) hlc (fun M2 s2 b2 hq2 f2 g5 g4 p2 h3 hF2 => ?_) 31 q 1 Fs M1 s1 b (by omega) hq hf hP hs hF e⟩
        exact ih T.1 (sz + 1) T.2.2.2 M2 s2 b2 (by omega) hq2 f2 p2 h3 hF2 (by rw [g5, g4]; exact h2)
theorem fd_recombine {post : St2 → Prop} {fu m n : Nat} {P Fs' : List (List Nat)} (h : fd_RR M a1) (hm : fd_tN mo = m) (hm0 : m ≠ 0) (hm1 : m < 9223372036854775808) (hn : n < 99) (hP : fd_PP P M) (hlc : lc = nI P.length) (hfc : fc = 0) (he : fd_re fu m P n (Nat.sub (Nat.pow 2 P.length) 1) 1 (M 5) (M 4) [] = some Fs')
    (H : ∀ M' s b, (∀ j, j < 4 → M' j = M j) → fd_RR M' s → fd_RF Fs' b → post (nI Fs'.length, mo, pr, lc, dc, s, b, a3, a4, a5, a6)) :
    wpX_recombine post (fc, mo, pr, lc, dc, a1, a2, a3, a4, a5, a6) := by
  have hw := fd_pw P.length (by have := hP.1; omega)
  subst hfc
  have e := hw.1
  rw [← hlc] at e
  refine nm_r e ⟨n, fd_re11 (M := M) hm hm0 hm1 hlc H n _ 1 [] M a1 a2 (by omega) hw.2 (fun _ _ => rfl) hP h (fun k hk => absurd hk (by simp)) he⟩
end
/-- findFactors: all that follows the square-free part -/
def fd_lift (fu : Nat) (L : List Nat) : Option (Nat × List (List Nat)) := match fd_cp L with
  | none => none
  | some p => fd_nf p (fun p => match fd_spl p L with
    | none => none
    | some P => fd_rf P (fun P => match fd_lall fu p L P with
      | none => none
      | some (top, R) => fd_nf top (fun top => fd_rf R (fun R => some (top, R)))))
theorem fd_lift_some {fu top : Nat} {L : List Nat} {R : List (List Nat)} (h : fd_lift fu L = some (top, R)) : ∃ p P, fd_cp L = some p ∧ fd_spl p L = some P ∧ fd_lall fu p L P = some (top, R) := by
  unfold fd_lift at h
  cases c : fd_cp L with
  | none =>
    rw [c] at h
    exact absurd h (by simp)
  | some p =>
    rw [c] at h
    have h1 : fd_nf p (fun p => match fd_spl p L with
      | none => none
      | some P => fd_rf P (fun P => match fd_lall fu p L P with
        | none => none
        | some (top, R) => fd_nf top (fun top => fd_rf R (fun R => some (top, R))))) = some (top, R) := h
    rw [fd_nf_eq] at h1
    cases d : fd_spl p L with
    | none =>
      rw [d] at h1
      exact absurd h1 (by simp)
    | some P =>
      rw [d] at h1
      have h2 : fd_rf P (fun P => match fd_lall fu p L P with
        | none => none
        | some (top, R) => fd_nf top (fun top => fd_rf R (fun R => some (top, R)))) = some (top, R) := h1
      rw [fd_rf_eq] at h2
      cases e : fd_lall fu p L P with
      | none =>
        rw [e] at h2
        exact absurd h2 (by simp)
      | some T =>
        rw [e] at h2
        have h3 : fd_nf T.1 (fun top => fd_rf T.2 (fun R => some (top, R))) = some (top, R) := h2
        rw [fd_nf_eq, fd_rf_eq] at h3
        have h4 : (T.1, T.2) = (top, R) := Option.some.inj h3
        refine ⟨p, P, rfl, d, ?_⟩
        rw [e, ← h4]
section
variable {fc lc dc : Int32} {mo pr : Int64} {a1 a3 : Nat → Int64} {a2 a4 a5 a6 : Nat → Int32} {M : Nat → List Nat}
theorem fd_findFactors {post : St2 → Prop} {r fu n top : Nat} {P L : List Nat} {R Fs : List (List Nat)} (h : fd_RR M a1) (hr : r < 4) (hn : n < 99) (hl : 2 ≤ fd_ln (M r)) (ho : fd_okc (M r) = true) (hP : fd_mp (M r) = P) (hL : fd_so P = some L) (hR : fd_lift fu L = some (top, R)) (htop : top < 9223372036854775808) (hF : fd_re fu top R n (Nat.sub (Nat.pow 2 R.length) 1) 1 L P [] = some Fs)
    (H : ∀ M' s mo' pr' lc' b b3 b4 b5, (∀ j, j < 4 → M' j = M j) → fd_RR M' s → fd_RF Fs b → post (nI Fs.length, mo', pr', lc', dc, s, b, b3, b4, b5, a6)) :
    wpX_findFactors post (fc, mo, pr, lc, dc, a1, a2, a3, a4, a5, a6) (nI r) := by
  obtain ⟨p, P0, e1, e2, e3⟩ := fd_lift_some hR
  have l0 := fd_ln12 h (k := r) (by omega)
  have hp3 : p ≠ 0 ∧ p < 1000 := by
    rcases fd_cp_some e1 with c | c | c
    · omega
    · omega
    · omega
  unfold wpX_findFactors
  dsimp only
  refine fd_degreeOf h r (by omega) (br_t (by rw [fd_di_ge1 (by omega)]; exact hl) (fd_copy h 4 r (by omega) (by omega) (fun s1 h1 => fd_makePrimitive h1 4 (by omega) (by rw [fd_up_s]; exact ho) (fun s2 h2 => ?_))))
  rw [fd_up_s, fd_up_up, hP] at h2
  refine fd_splitOff h2 (L := L) (by rw [fd_up_s]; exact hL) (fun M3 s3 mo3 pr3 f3 g3 h3 => ?_)
  have k4 : M3 4 = P := by rw [f3 4 (by omega), fd_up_s]
  have k0 : ∀ j, j < 4 → M3 j = M j := fun j hj => by rw [f3 j (by omega), fd_up_n (by omega)]
  refine fd_choosePrime h3 (p := p) (by rw [g3]; exact e1) (fun M4 s4 q hq f4 h4 => ?_)
  have g4 : M4 5 = L := by rw [f4 5 (by omega) (by omega) (by omega) (by omega) (by omega), g3]
  refine fd_splitModulo (p := p) (R := P0) h4 hq hq hp3.1 hp3.2 (by rw [g4]; exact e2) (fun M5 s5 b3 b4 b5 f5 p5 h5 => ?_)
  refine fd_liftAll (fu := fu) (p := p) (top := top) (P := P0) (R := R) h5 hq hp3.1 p5 rfl (by rw [f5 5 (by omega), g4]; exact e3) (fun M6 s6 mo6 hm6 ht0 f6 p6 l6 h6 => ?_)
  refine fd_recombine (fu := fu) (n := n) (P := R) (Fs' := Fs) h6 hm6 ht0 htop hn p6 (by rw [l6]) rfl (by rw [f6 5 (by omega), f5 5 (by omega), g4, f6 4 (by omega), f5 4 (by omega), f4 4 (by omega) (by omega) (by omega) (by omega) (by omega), k4]; exact hF) (fun M7 s7 b7 f7 h7 hF7 => H M7 s7 _ _ _ b7 _ _ _ (fun j hj => ?_) h7 hF7)
  rw [f7 j hj, f6 j (by omega), f5 j (by omega), f4 j (by omega) (by omega) (by omega) (by omega) (by omega), k0 j hj]
theorem fd_findFactors0 {post : St2 → Prop} {r : Nat} (h : fd_RR M a1) (hr : r < 4) (hl : fd_ln (M r) ≤ 1) (H : post (0, mo, pr, lc, dc, a1, a2, a3, a4, a5, a6)) :
    wpX_findFactors post (fc, mo, pr, lc, dc, a1, a2, a3, a4, a5, a6) (nI r) := by
  unfold wpX_findFactors
  dsimp only
  exact fd_degreeOf h r (by omega) (br_f (by rw [fd_di_ge1 (by omega)]; omega) H)
end
end
section
/-! the public methods -/
def fd_rg (c : Nat) : Bool := cond (Nat.ble c 20) true (Nat.ble 18446744073709551596 c)
def fd_al : List Nat → Bool
  | [] => true
  | c :: t => cond (fd_rg c) (fd_al t) false
def fd_kp (L : List Nat) : Bool := cond (Nat.ble (fd_ln L) 6) (fd_al L) false
theorem fd_al_cf : ∀ (L : List Nat) (i : Nat), fd_al L = true → fd_rg (fd_cf L i) = true
  | [], i, _ => by
    rw [fd_cf_nil]
    rfl
  | c :: t, i, h => by
    have h' : cond (fd_rg c) (fd_al t) false = true := h
    cases e : fd_rg c with
    | false =>
      rw [e] at h'
      exact absurd h' (by simp)
    | true =>
      rw [e] at h'
      cases i with
      | zero => exact e
      | succ i => exact fd_al_cf t i h'
theorem fd_al_f : ∀ (L : List Nat), fd_al L = false → ∃ i, i < fd_ln L ∧ fd_rg (fd_cf L i) = false
  | [], h => absurd h (by simp [fd_al])
  | c :: t, h => by
    have h' : cond (fd_rg c) (fd_al t) false = false := h
    cases e : fd_rg c with
    | false =>
      refine ⟨0, ?_, e⟩
      rw [fd_ln_cons]
      split
      · split
        · rename_i _ hc
          rw [hc] at e
          exact absurd e (by decide)
        · omega
      · omega
    | true =>
      rw [e] at h'
      obtain ⟨i, hi, hr⟩ := fd_al_f t h'
      refine ⟨i + 1, ?_, hr⟩
      rw [fd_ln_cons, if_neg (by omega)]
      omega
theorem fd_rg_iff (x : Int64) : fd_rg (fd_tN x) = true ↔ (¬ x < -20 ∧ x ≤ 20) := by
  have hx := fd_tN_lt x
  have e1 : fd_tN (-20) = 18446744073709551596 := by decide
  have e2 : fd_tN 20 = 20 := by decide
  rw [fd_lt, fd_le, e1, e2, fd_sh_eq, fd_sh_eq, fd_sh_eq]
  unfold fd_rg
  by_cases c : fd_tN x ≤ 20
  · rw [fd_ble_t c]
    refine ⟨fun _ => ⟨by omega, by omega⟩, fun _ => rfl⟩
  · rw [fd_ble_f (by omega)]
    by_cases d : 18446744073709551596 ≤ fd_tN x
    · rw [fd_ble_t d]
      refine ⟨fun _ => ⟨by omega, by omega⟩, fun _ => rfl⟩
    · rw [fd_ble_f (by omega)]
      refine ⟨fun z => absurd z (by simp), fun z => absurd z.1 (by omega)⟩
section
variable {fc lc dc : Int32} {mo pr : Int64} {a1 a3 : Nat → Int64} {a2 a4 a5 a6 : Nat → Int32} {M : Nat → List Nat}
theorem fd_isReg {post : Int32 → Prop} {u : St2} {r : Nat} (hr : r < 4) (H : post 1) : wpX_isRegister post u (nI r) := by
  obtain ⟨fc, mo, pr, lc, dc, a1, a2, a3, a4, a5, a6⟩ := u
  exact br_f (nI_pos (by omega)) (pk_lt 3 r (fun z => absurd z (by omega)) (fun _ => H))
theorem fd_keep {post : Int32 → St2 → Prop} {d f : Nat} (h : fd_RR M a1) (hd : d < 26) (hf : f < 26) (H1 : fd_kp (M f) = true → ∀ s, fd_RR (fd_up M d (M f)) s → post (fd_di (fd_ln (M f))) (fc, mo, pr, lc, dc, s, a2, a3, a4, a5, a6)) (H0 : fd_kp (M f) = false → post (-1001) (fc, mo, pr, lc, dc, a1, a2, a3, a4, a5, a6)) :
    wpX_keep post (fc, mo, pr, lc, dc, a1, a2, a3, a4, a5, a6) (nI d) (nI f) := by
  have hl := fd_ln12 h hf
  unfold wpX_keep
  dsimp only
  refine fd_degreeOf h f hf (br_c (fun z => ?_) (fun z => H0 ?_))
  · rw [fd_di_le5 (by omega)] at z
    have ek : fd_kp (M f) = fd_al (M f) := by
      unfold fd_kp
      rw [fd_ble_t z]
      rfl
    rw [ek] at H1 H0
    have key : ∀ (c i : Nat), i + c = fd_ln (M f) → (∀ j, j < i → fd_rg (fd_cf (M f) j) = true) → wX_keep_18 post (nI d) (nI f) (fd_di (fd_ln (M f))) fc mo pr lc dc a1 a2 a3 a4 a5 a6 (c + 1) (nI i) := by
      intro c
      induction c with
      | zero =>
        intro i hi hok
        refine br_t ?_ (fd_copy h d f hd hf (H1 ?_))
        · rw [← fd_di_s i, fd_di_lt (by omega) (by omega)]
          omega
        · cases e : fd_al (M f) with
          | true => rfl
          | false =>
            obtain ⟨j, hj, hr⟩ := fd_al_f _ e
            rw [hok j (by omega)] at hr
            exact absurd hr (by simp)
      | succ c ih =>
        intro i hi hok
        have e1 := fd_rd h hf (show i < 12 by omega)
        refine br_f ?_ ⟨fd_ixi hf (by omega), ?_⟩
        · rw [← fd_di_s i, fd_di_lt (by omega) (by omega)]
          omega
        · rw [fd_cx hf (by omega)]
          cases e : fd_rg (fd_cf (M f) i) with
          | true =>
            rw [← e1, fd_rg_iff] at e
            refine br_f e.1 ⟨fd_ixi hf (by omega), br_t e.2 (nm_r (nI_1 i) (ih (i + 1) (by omega) (fun j hj => ?_)))⟩
            by_cases c1 : j = i
            · rw [c1, ← e1, fd_rg_iff]
              exact e
            · exact hok j (by omega)
          | false =>
            have hal : fd_al (M f) = false := by
              cases e3 : fd_al (M f) with
              | false => rfl
              | true =>
                rw [fd_al_cf _ i e3] at e
                exact absurd e (by simp)
            refine br_c (fun y => H0 hal) (fun y => ⟨fd_ixi hf (by omega), br_c (fun x => ?_) (fun x => H0 hal)⟩)
            exfalso
            have : fd_rg (fd_tN (a1 (12 * f + i))) = true := (fd_rg_iff _).mpr ⟨y, x⟩
            rw [e1, e] at this
            exact absurd this (by simp)
    exact ⟨_, key (fd_ln (M f)) 0 (by omega) (fun j hj => absurd hj (by omega))⟩
  · rw [fd_di_le5 (by omega)] at z
    unfold fd_kp
    rw [fd_ble_f (by omega)]
    rfl
/-- the value at a place, by Horner -/
def fd_ev (g : Nat → Int64) (y : Int64) : Int64 := (((((0 * y + g 5) * y + g 4) * y + g 3) * y + g 2) * y + g 1) * y + g 0
theorem fd_at {post : Int64 → Prop} {r : Nat} {x : Int32} (hr : r < 4) (h1 : ¬ x < -1000) (h2 : x ≤ 1000) (H : post (fd_ev (fun i => a1 (12 * r + i)) x.toInt64)) :
    wpX_at post (fc, mo, pr, lc, dc, a1, a2, a3, a4, a5, a6) (nI r) x := by
  have st : ∀ (n i : Nat) (v : Int64), i < 6 → wX_at_29 post (nI r) x fc mo pr lc dc a1 a2 a3 a4 a5 a6 n (v * x.toInt64 + a1 (12 * r + i)) (nI i + (-1)) → wX_at_29 post (nI r) x fc mo pr lc dc a1 a2 a3 a4 a5 a6 (n + 1) v (nI i) := by
    intro n i v hi hw
    refine br_f (nI_pos (by omega)) ⟨fd_ixi (by omega) (by omega), nm_r ?_ (nm_e hw)⟩
    rw [fd_cx (by omega) (by omega)]
  unfold wpX_at
  dsimp only
  refine fd_isReg hr (br_f (by decide) (br_f h1 (br_t h2 ⟨7, ?_⟩)))
  refine st 6 5 0 (by omega) ?_
  rw [pk_m1]
  refine st 5 4 _ (by omega) ?_
  rw [pk_m1]
  refine st 4 3 _ (by omega) ?_
  rw [pk_m1]
  refine st 3 2 _ (by omega) ?_
  rw [pk_m1]
  refine st 2 1 _ (by omega) ?_
  rw [pk_m1]
  refine st 1 0 _ (by omega) ?_
  exact br_t (by decide) H
theorem fd_set {post : Int32 → St2 → Prop} {r i : Nat} {v : Int32} (h : fd_RR M a1) (hr : r < 4) (hi : i < 6) (h1 : ¬ v < -20) (h2 : v ≤ 20) (H : ∀ s, fd_RR (fd_up M r (fd_po (M r) i (fd_tN v.toInt64))) s → post 1 (fc, mo, pr, lc, dc, s, a2, a3, a4, a5, a6)) :
    wpX_set post (fc, mo, pr, lc, dc, a1, a2, a3, a4, a5, a6) (nI r) (nI i) v := by
  unfold wpX_set
  dsimp only
  refine fd_isReg hr (br_f (by decide) (br_f (nI_pos (by omega)) (pk_lt 5 i (fun z => absurd z (by omega)) (fun _ => br_f h1 (br_t h2 ⟨fd_ixi (by omega) (by omega), nm_r (by rw [fd_cx (by omega) (by omega)]) (H _ (fd_RR_p h (by omega) (by omega) rfl))⟩)))))
theorem fd_get {post : Int32 → Prop} {r i : Nat} {v : Int32} (h : fd_RR M a1) (hr : r < 4) (hi : i < 6) (hv : fd_cf (M r) i = fd_tN v.toInt64) (H : post v) :
    wpX_get post (fc, mo, pr, lc, dc, a1, a2, a3, a4, a5, a6) (nI r) (nI i) := by
  unfold wpX_get
  dsimp only
  refine fd_isReg hr (br_f (by decide) (br_f (nI_pos (by omega)) (pk_le i 5 (fun _ => ⟨fd_ixi (by omega) (by omega), ?_⟩) (fun z => absurd z (by omega)))))
  rw [fd_cx (by omega) (by omega)]
  have e : a1 (12 * r + i) = v.toInt64 := fd_inj (by rw [fd_rd h (by omega) (by omega), hv])
  rw [e, Int32.toInt32_toInt64]
  exact H
theorem fd_degree {post : Int32 → Prop} {r : Nat} (h : fd_RR M a1) (hr : r < 4) (H : post (fd_di (fd_ln (M r)))) : wpX_degree post (fc, mo, pr, lc, dc, a1, a2, a3, a4, a5, a6) (nI r) := by
  unfold wpX_degree
  dsimp only
  exact fd_isReg hr (br_f (by decide) (fd_degreeOf h r (by omega) H))
theorem fd_content {post : Int32 → Prop} {r : Nat} (h : fd_RR M a1) (hr : r < 4) (ho : fd_okc (M r) = true) (hs : fd_gc 0 (M r) < 2147483648) (H : post (nI (fd_gc 0 (M r)))) : wpX_content post (fc, mo, pr, lc, dc, a1, a2, a3, a4, a5, a6) (nI r) := by
  unfold wpX_content
  dsimp only
  refine fd_isReg hr (br_f (by decide) (fd_contentOf h r (by omega) ho (fun v hv _ => ?_)))
  have e : v = lN (fd_gc 0 (M r)) := fd_inj (by rw [hv, fd_tN_lN (by omega)])
  rw [e, lN_i]
  exact H
theorem fd_loadFactor {post : St2 → Prop} {k : Nat} {Fs : List (List Nat)} (h : fd_RR M a1) (hF : fd_RF Fs a2) (hk : k < Fs.length) (hk6 : k < 6) (hl : (fd_rw Fs k).length ≤ 6) (H : ∀ s, fd_RR (fd_up M 6 (fd_rw Fs k)) s → post (fc, mo, pr, lc, dc, s, a2, a3, a4, a5, a6)) :
    wpX_loadFactor post (fc, mo, pr, lc, dc, a1, a2, a3, a4, a5, a6) 6 (nI k) := by
  refine fd_clear h 6 (by omega) (fun s1 h1 => ?_)
  refine fd_wl (W := fun f i s => wX_loadFactor_7 post 6 (nI k) fc mo pr lc dc f (nI i) s a2 a3 a4 a5 a6) s1 (12 * 6 + 0) 6 (fd_cf (fd_rw Fs k)) ?_ ?_
  · intro f s hs
    refine pk_le 6 6 (fun _ => H s ?_) (fun z => absurd z (by omega))
    have := fd_lo_RP (k := 6) (i0 := 0) (L := fd_rw Fs k) h1 hs (by omega) (by omega) (fun i hi => by
      by_cases c : i < 6
      · rw [if_pos (by omega)]
        rfl
      · rw [if_neg (by omega), fd_up_s, fd_cf_nil, fd_cf_big _ _ (by omega)])
    rw [fd_up_up] at this
    exact this
  · intro f i s hi hs hw
    have c2 : ((12 : Int32) * 6 + nI i).toNatClampNeg = 12 * 6 + 0 + i := fd_cx (k := 6) (by omega) (by omega)
    exact pk_le 6 i (fun z => absurd z (by omega)) (fun _ => ⟨fd_ixi6 hk6 hi, fd_ixi (k := 6) (by omega) (by omega), nm_r (by rw [c2, fd_cx6 hk6 hi]) (nm_r (nI_1 i) (hw _ (hF k hk i hi)))⟩)
end
/-- what is known of a register's polynomial: all that the factoring methods find -/
def fd_Fok (P0 : List Nat) (Fs : List (List Nat)) : Prop := (fd_ln P0 ≤ 1 ∧ Fs = []) ∨ ∃ (fu n top : Nat) (P L : List Nat) (R : List (List Nat)), n < 99 ∧ 2 ≤ fd_ln P0 ∧ fd_okc P0 = true ∧ fd_mp P0 = P ∧ fd_so P = some L ∧ fd_lift fu L = some (top, R) ∧ top < 9223372036854775808 ∧ fd_re fu top R n (Nat.sub (Nat.pow 2 R.length) 1) 1 L P [] = some Fs
section
variable {fc lc dc : Int32} {mo pr : Int64} {a1 a3 : Nat → Int64} {a2 a4 a5 a6 : Nat → Int32} {M : Nat → List Nat}
theorem fd_ffs {post : St2 → Prop} {r : Nat} {Fs : List (List Nat)} (h : fd_RR M a1) (hr : r < 4) (hF : fd_Fok (M r) Fs)
    (H : ∀ M' s mo' pr' lc' b b3 b4 b5, (∀ j, j < 4 → M' j = M j) → fd_RR M' s → fd_RF Fs b → post (nI Fs.length, mo', pr', lc', dc, s, b, b3, b4, b5, a6)) :
    wpX_findFactors post (fc, mo, pr, lc, dc, a1, a2, a3, a4, a5, a6) (nI r) := by
  rcases hF with ⟨hl, e⟩ | ⟨fu, n, top, P, L, R, h1, h2, h3, h4, h5, h6, h7, h8⟩
  · subst e
    exact fd_findFactors0 h hr hl (H M a1 mo pr lc a2 a3 a4 a5 (fun _ _ => rfl) h (fun k hk => absurd hk (by simp)))
  · exact fd_findFactors h hr h1 h2 h3 h4 h5 h6 h7 h8 H
theorem fd_factors {post : Int32 → St2 → Prop} {r : Nat} {Fs : List (List Nat)} (h : fd_RR M a1) (hr : r < 4) (hF : fd_Fok (M r) Fs)
    (H : ∀ M' s mo' pr' lc' b b3 b4 b5, (∀ j, j < 4 → M' j = M j) → fd_RR M' s → post (nI Fs.length) (nI Fs.length, mo', pr', lc', dc, s, b, b3, b4, b5, a6)) :
    wpX_factors post (fc, mo, pr, lc, dc, a1, a2, a3, a4, a5, a6) (nI r) := by
  unfold wpX_factors
  dsimp only
  exact fd_isReg hr (br_f (by decide) (fd_ffs h hr hF (fun M' s mo' pr' lc' b b3 b4 b5 f h' _ => H M' s mo' pr' lc' b b3 b4 b5 f h')))
theorem fd_factor {post : Int32 → St2 → Prop} {d r k : Nat} {Fs : List (List Nat)} (h : fd_RR M a1) (hd : d < 4) (hr : r < 4) (hF : fd_Fok (M r) Fs) (hk : k < Fs.length) (hFl : Fs.length ≤ 6) (hl : (fd_rw Fs k).length ≤ 6) (hkp : fd_kp (fd_rw Fs k) = true)
    (H : ∀ M' s mo' pr' lc' b b3 b4 b5, (∀ j, j < 4 → j ≠ d → M' j = M j) → M' d = fd_rw Fs k → fd_RR M' s → post (fd_di (fd_ln (fd_rw Fs k))) (nI Fs.length, mo', pr', lc', dc, s, b, b3, b4, b5, a6)) :
    wpX_factor post (fc, mo, pr, lc, dc, a1, a2, a3, a4, a5, a6) (nI d) (nI r) (nI k) := by
  unfold wpX_factor
  dsimp only
  refine fd_isReg hd (br_f (by decide) (fd_isReg hr (br_f (by decide) (fd_ffs h hr hF (fun M1 s1 mo1 pr1 lc1 b1 b3 b4 b5 f1 h1 hF1 => br_f (nI_pos (by omega)) (pk_lt k Fs.length (fun _ => fd_loadFactor h1 hF1 hk (by omega) hl (fun s2 h2 => fd_keep (d := d) (f := 6) h2 (by omega) (by omega) (fun _ s3 h3 => ?_) (fun z => ?_))) (fun z => absurd z (by omega))))))))
  · rw [fd_up_s] at h3 ⊢
    refine H _ s3 _ _ _ b1 _ _ _ (fun j j1 j2 => ?_) fd_up_s h3
    rw [fd_up_n j2, fd_up_n (by omega)]
    exact f1 j j1
  · rw [fd_up_s, hkp] at z
    exact absurd z (by simp)
theorem fd_factorN {post : Int32 → St2 → Prop} {d r : Nat} {x : Int32} {Fs : List (List Nat)} (h : fd_RR M a1) (hd : d < 4) (hr : r < 4) (hF : fd_Fok (M r) Fs) (hx : x < 0 ∨ ¬ x < nI Fs.length)
    (H : ∀ M' s mo' pr' lc' b b3 b4 b5, (∀ j, j < 4 → M' j = M j) → fd_RR M' s → post (-1002) (nI Fs.length, mo', pr', lc', dc, s, b, b3, b4, b5, a6)) :
    wpX_factor post (fc, mo, pr, lc, dc, a1, a2, a3, a4, a5, a6) (nI d) (nI r) x := by
  unfold wpX_factor
  dsimp only
  refine fd_isReg hd (br_f (by decide) (fd_isReg hr (br_f (by decide) (fd_ffs h hr hF (fun M1 s1 mo1 pr1 lc1 b1 b3 b4 b5 f1 h1 hF1 => br_c (fun _ => H M1 s1 _ _ _ b1 _ _ _ f1 h1) (fun y => br_f ?_ (H M1 s1 _ _ _ b1 _ _ _ f1 h1)))))))
  rcases hx with z | z
  · exact absurd z y
  · exact z
/-- simple: the degree of what is left, or full -/
theorem fd_simple {post : Int32 → St2 → Prop} {d r : Nat} {L : List Nat} (h : fd_RR M a1) (hd : d < 4) (hr : r < 4) (hL : (fd_ln (M r) = 1 ∧ L = [1]) ∨ (2 ≤ fd_ln (M r) ∧ fd_okc (M r) = true ∧ fd_so (fd_mp (M r)) = some L))
    (H : ∀ M' s mo' pr' v, (v = -1001 ∨ v = fd_di (fd_ln L)) → (∀ j, j < 4 → j ≠ d → M' j = M j) → fd_RR M' s → post v (fc, mo', pr', lc, dc, s, a2, a3, a4, a5, a6)) :
    wpX_simple post (fc, mo, pr, lc, dc, a1, a2, a3, a4, a5, a6) (nI d) (nI r) := by
  have hl := fd_ln12 h (k := r) (by omega)
  have key : ∀ (M1 : Nat → List Nat) (s1 : Nat → Int64) (mo1 pr1 : Int64), (∀ j, j < 4 → M1 j = M j) → M1 6 = L → fd_RR M1 s1 → wX_simple_70 post (nI d) fc mo1 pr1 lc dc s1 a2 a3 a4 a5 a6 := by
    intro M1 s1 mo1 pr1 f1 g1 h1
    refine fd_keep (d := d) (f := 6) h1 (by omega) (by omega) (fun _ s2 h2 => H _ s2 mo1 pr1 _ (Or.inr (by rw [g1])) (fun j j1 j2 => ?_) h2) (fun _ => H _ s1 mo1 pr1 _ (Or.inl rfl) (fun j j1 _ => f1 j j1) h1)
    rw [fd_up_n j2]
    exact f1 j j1
  unfold wpX_simple
  dsimp only
  refine fd_isReg hd (br_f (by decide) (fd_isReg hr (br_f (by decide) (fd_degreeOf h r (by omega) (fd_clear h 6 (by omega) (fun s1 h1 => ?_))))))
  rcases hL with ⟨c1, c2⟩ | ⟨c1, c2, c3⟩
  · rw [c1]
    refine br_t (by decide) (nm_e (br_t (by decide) (key _ _ mo pr (fun j hj => ?_) ?_ (fd_RR_p (k := 6) (i := 0) (x := 1) (v := 1) h1 (by omega) (by omega) fd_tN1))))
    · rw [fd_up_n (by omega), fd_up_n (by omega)]
    · rw [fd_up_s, fd_up_s, c2]
      rfl
  · refine br_f (by rw [fd_di_eq0 (by omega)]; omega) (br_f (by rw [fd_di_le0 (by omega)]; omega) (fd_copy h1 4 r (by omega) (by omega) (fun s2 h2 => ?_)))
    have gr : fd_up M 6 [] r = M r := fd_up_n (by omega)
    rw [gr] at h2
    refine fd_makePrimitive h2 4 (by omega) (by rw [fd_up_s]; exact c2) (fun s3 h3 => ?_)
    rw [fd_up_s, fd_up_up] at h3
    refine fd_splitOff h3 (L := L) (by rw [fd_up_s]; exact c3) (fun M4 s4 mo4 pr4 f4 g4 h4 => fd_copy h4 6 5 (by omega) (by omega) (fun s5 h5 => key _ s5 mo4 pr4 (fun j hj => ?_) ?_ h5))
    · rw [fd_up_n (by omega), f4 j (by omega), fd_up_n (by omega), fd_up_n (by omega)]
    · rw [fd_up_s, g4]
theorem fd_derive {post : Int32 → St2 → Prop} {d r : Nat} (h : fd_RR M a1) (hd : d < 4) (hr : r < 4)
    (H1 : ∀ M' s, (∀ j, j < 4 → j ≠ d → M' j = M j) → M' d = fd_der 1 (fd_tl (M r)) → fd_RR M' s → post (fd_di (fd_ln (fd_der 1 (fd_tl (M r))))) (fc, mo, pr, lc, dc, s, a2, a3, a4, a5, a6))
    (H0 : ∀ M' s, (∀ j, j < 4 → M' j = M j) → fd_RR M' s → post (-1001) (fc, mo, pr, lc, dc, s, a2, a3, a4, a5, a6)) :
    wpX_derive post (fc, mo, pr, lc, dc, a1, a2, a3, a4, a5, a6) (nI d) (nI r) := by
  unfold wpX_derive
  dsimp only
  refine fd_isReg hd (br_f (by decide) (fd_isReg hr (br_f (by decide) (fd_deriveInto h 6 r (by omega) (by omega) (by omega) (fun s1 h1 => fd_keep (d := d) (f := 6) h1 (by omega) (by omega) (fun _ s2 h2 => ?_) (fun _ => H0 _ s1 (fun j hj => fd_up_n (by omega)) h1))))))
  rw [fd_up_s] at h2 ⊢
  refine H1 _ s2 (fun j j1 j2 => ?_) fd_up_s h2
  rw [fd_up_n j2, fd_up_n (by omega)]
theorem fd_applyG {post : Int32 → St2 → Prop} {d a b : Nat} {G : List Nat} (h : fd_RR M a1) (hd : d < 4) (ha : a < 4) (hb : b < 4) (hG : fd_gg (M a) (M b) = some G)
    (H : ∀ M' s mo' pr' v, (v = -1001 ∨ v = fd_di (fd_ln G)) → (∀ j, j < 4 → j ≠ d → M' j = M j) → fd_RR M' s → post v (fc, mo', pr', lc, dc, s, a2, a3, a4, a5, a6)) :
    wpX_apply post (fc, mo, pr, lc, dc, a1, a2, a3, a4, a5, a6) 3 (nI d) (nI a) (nI b) := by
  unfold wpX_apply
  dsimp only
  refine br_f (by decide) (br_f (by decide) (fd_isReg hd (br_f (by decide) (fd_isReg ha (br_f (by decide) (fd_isReg hb (br_f (by decide) (br_t (by decide) (br_f (by decide) (br_f (by decide) (br_t rfl ?_)))))))))))
  refine fd_greatestCommon h 6 a b (by omega) (by omega) (by omega) (by omega) hG (fun M1 s1 mo1 pr1 f1 g1 h1 => fd_keep (d := d) (f := 6) h1 (by omega) (by omega) (fun _ s2 h2 => H _ s2 mo1 pr1 _ (Or.inr (by rw [g1])) (fun j j1 j2 => ?_) h2) (fun _ => H _ s1 mo1 pr1 _ (Or.inl rfl) (fun j j1 _ => ?_) h1))
  · rw [fd_up_n j2]
    exact f1 j (by omega) (by omega) (by omega) (by omega) (by omega) (by omega) (by omega)
  · exact f1 j (by omega) (by omega) (by omega) (by omega) (by omega) (by omega) (by omega)
theorem fd_applyQ {post : Int32 → St2 → Prop} {d a b : Nat} {Q R : List Nat} (h : fd_RR M a1) (hd : d < 4) (ha : a < 4) (hb : b < 4) (hB : fd_ln (M b) ≠ 0) (hq : fd_dv (M a) (M b) = some (Q, R)) (hR : fd_ln R = 0)
    (H1 : ∀ M' s, (∀ j, j < 4 → j ≠ d → M' j = M j) → M' d = Q → fd_RR M' s → post (fd_di (fd_ln Q)) (fc, mo, pr, lc, dc, s, a2, a3, a4, a5, a6))
    (H0 : ∀ M' s, (∀ j, j < 4 → M' j = M j) → fd_RR M' s → post (-1001) (fc, mo, pr, lc, dc, s, a2, a3, a4, a5, a6)) :
    wpX_apply post (fc, mo, pr, lc, dc, a1, a2, a3, a4, a5, a6) 4 (nI d) (nI a) (nI b) := by
  have hl := fd_ln12 h (k := b) (by omega)
  unfold wpX_apply
  dsimp only
  refine br_f (by decide) (br_f (by decide) (fd_isReg hd (br_f (by decide) (fd_isReg ha (br_f (by decide) (fd_isReg hb (br_f (by decide) (br_f (by decide) (fd_degreeOf h b (by omega) (br_t (by rw [fd_di_ge0 (by omega)]; exact hB) (br_t rfl ?_)))))))))))
  refine fd_divideT h a b (by omega) (by omega) (by omega) (by omega) hB hq hR (fun s1 h1 => br_f (by decide) (fd_keep (d := d) (f := 9) h1 (by omega) (by omega) (fun _ s2 h2 => ?_) (fun _ => H0 _ s1 (fun j hj => ?_) h1)))
  · have e9 : fd_up (fd_up M 9 Q) 10 R 9 = Q := by rw [fd_up_n (by omega), fd_up_s]
    rw [e9] at h2 ⊢
    refine H1 _ s2 (fun j j1 j2 => ?_) fd_up_s h2
    rw [fd_up_n j2, fd_up_n (by omega), fd_up_n (by omega)]
  · rw [fd_up_n (by omega), fd_up_n (by omega)]
theorem fd_applyR {post : Int32 → St2 → Prop} {d a b : Nat} {Q R : List Nat} (h : fd_RR M a1) (hd : d < 4) (ha : a < 4) (hb : b < 4) (hB : fd_ld (M b) = 1) (hq : fd_dv (M a) (M b) = some (Q, R))
    (H1 : fd_kp R = true → ∀ M' s, (∀ j, j < 4 → j ≠ d → M' j = M j) → M' d = R → fd_RR M' s → post (fd_di (fd_ln R)) (fc, mo, pr, lc, dc, s, a2, a3, a4, a5, a6))
    (H0 : fd_kp R = false → ∀ M' s, (∀ j, j < 4 → M' j = M j) → fd_RR M' s → post (-1001) (fc, mo, pr, lc, dc, s, a2, a3, a4, a5, a6)) :
    wpX_apply post (fc, mo, pr, lc, dc, a1, a2, a3, a4, a5, a6) 5 (nI d) (nI a) (nI b) := by
  have hl := fd_ln12 h (k := b) (by omega)
  have hB0 : fd_ln (M b) ≠ 0 := by
    intro z
    rw [fd_ld_0 z] at hB
    omega
  unfold wpX_apply
  dsimp only
  refine br_f (by decide) (br_f (by decide) (fd_isReg hd (br_f (by decide) (fd_isReg ha (br_f (by decide) (fd_isReg hb (br_f (by decide) (br_f (by decide) (fd_degreeOf h b (by omega) (br_t (by rw [fd_di_ge0 (by omega)]; exact hB0) (br_f (by decide) (br_t rfl ?_))))))))))))
  have key : wX_apply_116 post (nI d) (nI a) (nI b) fc mo pr lc dc a1 a2 a3 a4 a5 a6 := by
    have fin : ∀ (s1 : Nat → Int64), fd_RR (fd_up (fd_up M 9 Q) 10 R) s1 → wpX_keep (fun r_123 u => post r_123 u) (fc, mo, pr, lc, dc, s1, a2, a3, a4, a5, a6) (nI d) (nI 10) := by
      intro s1 h1
      have e10 : fd_up (fd_up M 9 Q) 10 R 10 = R := fd_up_s
      refine fd_keep (d := d) (f := 10) h1 (by omega) (by omega) (fun k s2 h2 => ?_) (fun k => H0 (by rw [e10] at k; exact k) _ s1 (fun j hj => ?_) h1)
      · rw [e10] at k h2 ⊢
        refine H1 k _ s2 (fun j j1 j2 => ?_) fd_up_s h2
        rw [fd_up_n j2, fd_up_n (by omega), fd_up_n (by omega)]
      · rw [fd_up_n (by omega), fd_up_n (by omega)]
    refine fd_divide h a b (by omega) (by omega) (by omega) (by omega) hB0 (fun z => ?_) (fun Q' R' z s1 h1 => ?_)
    · rw [hq] at z
      exact absurd z (by simp)
    · rw [hq] at z
      have ez := Option.some.inj z
      have eq : Q = Q' := congrArg Prod.fst ez
      have er : R = R' := congrArg Prod.snd ez
      subst eq
      subst er
      exact fin s1 h1
  refine fd_leadOf h b (by omega) (fun v hv => br_t (fd_inj ?_) key)
  rw [hv, hB, fd_tN1]
end
end
section
/-! the law's own arithmetic -/
def fd_chl (n : Nat) : Nat → Nat
  | 0 => 1
  | i + 1 => fd_div (fd_mul (fd_chl n i) (Nat.sub n i)) (Nat.succ i)
def fd_pwl (A : Nat) : Nat → Nat
  | 0 => 1
  | i + 1 => fd_mul (fd_pwl A i) A
def fd_sq (C D n k : Nat) : Nat := match n with
  | 0 => (match k with
    | 0 => 1
    | _ + 1 => 0)
  | 1 => (match k with
    | 0 => D
    | 1 => C
    | 2 => 1
    | _ + 3 => 0)
  | _ + 2 => (match k with
    | 0 => fd_mul D D
    | 1 => fd_mul (fd_mul 2 C) D
    | 2 => fd_add (fd_mul 2 D) (fd_mul C C)
    | 3 => fd_mul 2 C
    | 4 => 1
    | _ + 5 => 0)
theorem fd_chooseW {post : Int64 → Prop} {n k : Nat} (hk : k ≤ n) (hn : n < 100) (H : ∀ r, fd_tN r = fd_chl n k → post r) : wpL_choose post () (nI n) (nI k) := by
  refine pk_loop (fun f i c => wL_choose_5 post (nI n) (nI k) f c (nI i)) (fun i c => fd_tN c = fd_chl n i) k 0 1 (by omega) fd_tN1 ?_ ?_
  · intro f c hc
    exact pk_le k k (fun _ => H c hc) (fun z => absurd z (by omega))
  · intro f i c hi hc hw
    have e1 : fd_tN (nI i + 1).toInt64 = i + 1 := by
      rw [nI_1, fd_tN_nI (by omega)]
    have e2 : fd_tN (nI n - nI i).toInt64 = n - i := by
      rw [pk_sub (by omega), fd_tN_nI (by omega)]
    refine pk_le k i (fun z => absurd z (by omega)) (fun _ => ⟨fun z => ?_, nm_e (nm_r (nI_1 i) (hw _ ?_))⟩)
    · rw [fd_eq0, e1] at z
      omega
    · rw [fd_tN_div, fd_tN_mul, hc, e1, e2]
      rfl
theorem fd_powerW {post : Int64 → Prop} {a : Int32} {k : Nat} (hk : k < 100) (H : ∀ r, fd_tN r = fd_pwl (fd_tN a.toInt64) k → post r) : wpL_power post () a (nI k) := by
  refine pk_loop (fun f i c => wL_power_5 post a (nI k) f c (nI i)) (fun i c => fd_tN c = fd_pwl (fd_tN a.toInt64) i) k 0 1 (by omega) fd_tN1 ?_ ?_
  · intro f c hc
    exact pk_le k k (fun _ => H c hc) (fun z => absurd z (by omega))
  · intro f i c hi hc hw
    refine pk_le k i (fun z => absurd z (by omega)) (fun _ => nm_e (nm_r (nI_1 i) (hw _ ?_)))
    rw [fd_tN_mul, hc]
    rfl
theorem fd_squaresW {post : Int64 → Prop} {c d : Int32} {n k : Nat} (hn : n < 100) (hk : k < 100) (H : ∀ r, fd_tN r = fd_sq (fd_tN c.toInt64) (fd_tN d.toInt64) n k → post r) : wpL_squares post () c d (nI n) (nI k) := by
  match n, hn with
  | 0, _ =>
    refine br_t rfl ?_
    match k, hk with
    | 0, _ => exact br_t rfl (H 1 fd_tN1)
    | k + 1, hk => exact br_f (nI_ne0 (by omega) (by omega)) (H 0 fd_tN0)
  | 1, _ =>
    refine br_f (by decide) (br_t rfl ?_)
    match k, hk with
    | 0, _ => exact br_t rfl (H _ rfl)
    | 1, _ => exact br_f (by decide) (br_t rfl (H _ rfl))
    | 2, _ => exact br_f (by decide) (br_f (by decide) (br_t rfl (H 1 fd_tN1)))
    | k + 3, hk => exact pk_eq (k + 3) 0 (fun z => absurd z (by omega)) (fun _ => pk_eq (k + 3) 1 (fun z => absurd z (by omega)) (fun _ => pk_eq (k + 3) 2 (fun z => absurd z (by omega)) (fun _ => H 0 fd_tN0)))
  | n + 2, hn =>
    refine pk_eq (n + 2) 0 (fun z => absurd z (by omega)) (fun _ => pk_eq (n + 2) 1 (fun z => absurd z (by omega)) (fun _ => ?_))
    match k, hk with
    | 0, _ => exact br_t rfl (H _ rfl)
    | 1, _ => exact br_f (by decide) (br_t rfl (H _ rfl))
    | 2, _ => exact br_f (by decide) (br_f (by decide) (br_t rfl (H _ rfl)))
    | 3, _ => exact br_f (by decide) (br_f (by decide) (br_f (by decide) (br_t rfl (H _ rfl))))
    | 4, _ => exact br_f (by decide) (br_f (by decide) (br_f (by decide) (br_f (by decide) (br_t rfl (H 1 fd_tN1)))))
    | k + 5, hk => exact pk_eq (k + 5) 0 (fun z => absurd z (by omega)) (fun _ => pk_eq (k + 5) 1 (fun z => absurd z (by omega)) (fun _ => pk_eq (k + 5) 2 (fun z => absurd z (by omega)) (fun _ => pk_eq (k + 5) 3 (fun z => absurd z (by omega)) (fun _ => pk_eq (k + 5) 4 (fun z => absurd z (by omega)) (fun _ => H 0 fd_tN0)))))
def fd_tm (A m C D n B o i p q : Nat) : Nat := fd_mul (fd_mul (fd_mul (fd_mul (fd_chl m p) (fd_chl o q)) (fd_pwl A (Nat.sub m p))) (fd_pwl B (Nat.sub o q))) (cond (Nat.ble (Nat.add p q) i) (fd_sq C D n (Nat.sub (Nat.sub i p) q)) 0)
def fd_cq (A m C D n B o i p : Nat) : Nat → Nat → Nat → Nat
  | 0, _, s => s
  | k + 1, q, s => fd_nf (fd_add s (fd_tm A m C D n B o i p q)) (fun s' => fd_cq A m C D n B o i p k (Nat.succ q) s')
theorem fd_cq_s (A m C D n B o i p k q s : Nat) : fd_cq A m C D n B o i p (k + 1) q s = fd_cq A m C D n B o i p k (q + 1) (fd_add s (fd_tm A m C D n B o i p q)) := by
  show fd_nf _ _ = _
  rw [fd_nf_eq]
def fd_cpp (A m C D n B o i : Nat) : Nat → Nat → Nat → Nat
  | 0, _, s => s
  | k + 1, p, s => fd_nf (fd_cq A m C D n B o i p (Nat.succ o) 0 s) (fun s' => fd_cpp A m C D n B o i k (Nat.succ p) s')
theorem fd_cpp_s (A m C D n B o i k p s : Nat) : fd_cpp A m C D n B o i (k + 1) p s = fd_cpp A m C D n B o i k (p + 1) (fd_cq A m C D n B o i p (o + 1) 0 s) := by
  show fd_nf _ _ = _
  rw [fd_nf_eq]
def fd_coef (A m C D n B o i : Nat) : Nat := fd_cpp A m C D n B o i (Nat.succ m) 0 0
theorem fd_c15 {post : Int64 → Prop} {J : Int64 → Int32 → Prop} {a c d b : Int32} {m n o i p : Nat} (hm : m < 50) (hn : n < 50) (ho : o < 50) (hi : i < 50) (hp : p ≤ m) :
    ∀ (k q : Nat) (s : Int64), q + k = o + 1 → (∀ r, fd_tN r = fd_cq (fd_tN a.toInt64) m (fd_tN c.toInt64) (fd_tN d.toInt64) n (fd_tN b.toInt64) o i p k q (fd_tN s) → J r (nI (p + 1))) →
    wL_coefficient_15 post J a (nI m) c d (nI n) b (nI o) (nI i) (nI p) (k + 1) s (nI q) := by
  intro k
  induction k with
  | zero =>
    intro q s hq H
    exact pk_lt o q (fun _ => nm_r (nI_1 p) (H s rfl)) (fun z => absurd z (by omega))
  | succ k ih =>
    intro q s hq H
    refine pk_lt o q (fun z => absurd z (by omega)) (fun _ => nm_e (fd_chooseW (by omega) (by omega) (fun r5 h5 => fd_chooseW (by omega) (by omega) (fun r6 h6 => nm_e ?_))))
    rw [pk_sub (show p ≤ m from hp), pk_sub (show q ≤ o by omega)]
    refine fd_powerW (by omega) (fun r8 h8 => fd_powerW (by omega) (fun r9 h9 => ?_))
    have fin : ∀ z : Int64, fd_tN z = cond (Nat.ble (Nat.add p q) i) (fd_sq (fd_tN c.toInt64) (fd_tN d.toInt64) n (Nat.sub (Nat.sub i p) q)) 0 → wL_coefficient_88 post J (wL_coefficient_15 post J a (nI m) c d (nI n) b (nI o) (nI i) (nI p) (k + 1)) a (nI m) c d (nI n) b (nI o) (nI i) s (nI p) (nI q) (r5 * r6) r8 r9 z := by
      intro z hz
      refine nm_e (nm_r (nI_1 q) (ih (q + 1) _ (by omega) (fun r hr => H r ?_)))
      rw [hr, fd_cq_s, fd_tN_add, fd_tN_mul, fd_tN_mul, fd_tN_mul, fd_tN_mul, h5, h6, h8, h9, hz]
      rfl
    by_cases e : p + q ≤ i
    · have e1 : nI i - nI p - nI q = nI (i - p - q) := by
        rw [pk_sub (by omega), pk_sub (by omega)]
      rw [e1]
      refine br_t (nI_pos' (by omega)) (fd_squaresW (by omega) (by omega) (fun r11 h11 => fin r11 ?_))
      rw [h11, fd_ble_t (show Nat.add p q ≤ i from e)]
      rfl
    · have e1 : nI i - nI p - nI q = nI i - nI (p + q) := by
        rw [← nI_add]
        grind
      refine br_f ?_ (fin 0 ?_)
      · rw [e1]
        exact Int32.not_le.mpr (pk_sneg (by omega) (by omega))
      · rw [fd_ble_f (show i < Nat.add p q by show i < p + q; omega)]
        exact fd_tN0
theorem fd_coefW {post : Int64 → Prop} {a c d b : Int32} {m n o i : Nat} (hm : m < 50) (hn : n < 50) (ho : o < 50) (hi : i < 50) (H : ∀ r, fd_tN r = fd_coef (fd_tN a.toInt64) m (fd_tN c.toInt64) (fd_tN d.toInt64) n (fd_tN b.toInt64) o i → post r) :
    wpL_coefficient post () a (nI m) c d (nI n) b (nI o) (nI i) := by
  have key : ∀ (k p : Nat) (s : Int64), p + k = m + 1 → fd_cpp (fd_tN a.toInt64) m (fd_tN c.toInt64) (fd_tN d.toInt64) n (fd_tN b.toInt64) o i k p (fd_tN s) = fd_coef (fd_tN a.toInt64) m (fd_tN c.toInt64) (fd_tN d.toInt64) n (fd_tN b.toInt64) o i → wL_coefficient_6 post a (nI m) c d (nI n) b (nI o) (nI i) (k + 1) s (nI p) := by
    intro k
    induction k with
    | zero =>
      intro p s hp he
      exact pk_lt m p (fun _ => H s he) (fun z => absurd z (by omega))
    | succ k ih =>
      intro p s hp he
      refine pk_lt m p (fun z => absurd z (by omega)) (fun _ => ⟨o + 2, fd_c15 hm hn ho hi (by omega) (o + 1) 0 s (by omega) (fun r hr => ih (p + 1) r (by omega) ?_)⟩)
      rw [fd_cpp_s] at he
      rw [hr]
      exact he
  refine ⟨m + 2, key (m + 1) 0 0 (by omega) ?_⟩
  rw [fd_tN0]
  rfl
end
section
/-! what has to be computed for each polynomial, as one check -/
def fd_v5 (j : Nat) : Nat := match j with
  | 0 => 18446744073709551614
  | 1 => 18446744073709551615
  | 2 => 0
  | 3 => 1
  | _ + 4 => 2
def fd_pmul : List Nat → List Nat → List Nat
  | [], _ => []
  | x :: A, B => fd_z2 fd_add (B.map (fd_mul x)) (0 :: fd_pmul A B)
def fd_Pq : List (List Nat) → List Nat
  | [] => [1]
  | q :: t => fd_lf (fd_Pq t) (fun B => fd_pmul q B)
def fd_Pf : List Nat → List (List Nat) → List Nat
  | [], qs => fd_Pq qs
  | r :: t, qs => fd_lf (fd_Pf t qs) (fun B => fd_pmul [r, 1] B)
def fd_Ff (rs : List Nat) (qs : List (List Nat)) : List (List Nat) := rs.map (fun r => [r, 1]) ++ qs
def fd_leq : List Nat → List Nat → Bool
  | [], [] => true
  | x :: a, y :: b => Nat.beq x y && fd_leq a b
  | _, _ => false
theorem fd_leq_e : ∀ (a b : List Nat), fd_leq a b = true → a = b
  | [], [], _ => rfl
  | x :: a, y :: b, h => by
    have h' : (Nat.beq x y && fd_leq a b) = true := h
    rw [Bool.and_eq_true] at h'
    rw [Nat.eq_of_beq_eq_true h'.1, fd_leq_e a b h'.2]
  | [], y :: b, h => absurd h (by simp [fd_leq])
  | x :: a, [], h => absurd h (by simp [fd_leq])
def fd_req : List (List Nat) → List (List Nat) → Bool
  | [], [] => true
  | x :: a, y :: b => fd_leq x y && fd_req a b
  | _, _ => false
theorem fd_req_e : ∀ (a b : List (List Nat)), fd_req a b = true → a = b
  | [], [], _ => rfl
  | x :: a, y :: b, h => by
    have h' : (fd_leq x y && fd_req a b) = true := h
    rw [Bool.and_eq_true] at h'
    rw [fd_leq_e x y h'.1, fd_req_e a b h'.2]
  | [], y :: b, h => absurd h (by simp [fd_req])
  | x :: a, [], h => absurd h (by simp [fd_req])
/-- the common divisor of primitive polynomials -/
def fd_gt (A B : List Nat) : Option (List Nat) := match fd_ln A with
  | 0 => some B
  | _ + 1 => match fd_ln B with
    | 0 => some A
    | _ + 1 => fd_tp 2147483647 A B
theorem fd_gg_eq {A B : List Nat} (hA : fd_okc A = true) (hB : fd_okc B = true) : fd_gg A B = fd_gt (fd_mp A) (fd_mp B) := by
  unfold fd_gg fd_gt
  rw [hA, hB]
  show fd_lf (fd_mp A) _ = _
  rw [fd_lf_eq, fd_lf_eq]
  rfl
theorem fd_so_of {P G Q R : List Nat} (h1 : fd_gg P (fd_der 1 (fd_tl P)) = some G) (h2 : fd_ln G ≠ 0) (h3 : fd_dv P G = some (Q, R)) : fd_so P = some Q := by
  unfold fd_so
  rw [h1]
  show fd_lf G _ = _
  rw [fd_lf_eq, fd_beq_f h2, h3]
  rfl
def fd_evN (W : List Nat) (y : Nat) : Nat := fd_add (fd_mul (fd_add (fd_mul (fd_add (fd_mul (fd_add (fd_mul (fd_add (fd_mul (fd_add (fd_mul 0 y) (fd_cf W 5)) y) (fd_cf W 4)) y) (fd_cf W 3)) y) (fd_cf W 2)) y) (fd_cf W 1)) y) (fd_cf W 0)
/-- W is Q times x + r -/
def fd_idn (W Q : List Nat) (r : Nat) : Bool := Nat.beq (fd_cf W 0) (fd_mul r (fd_cf Q 0)) && (Nat.beq (fd_cf W 1) (fd_add (fd_cf Q 0) (fd_mul r (fd_cf Q 1))) && (Nat.beq (fd_cf W 2) (fd_add (fd_cf Q 1) (fd_mul r (fd_cf Q 2))) && (Nat.beq (fd_cf W 3) (fd_add (fd_cf Q 2) (fd_mul r (fd_cf Q 3))) && (Nat.beq (fd_cf W 4) (fd_add (fd_cf Q 3) (fd_mul r (fd_cf Q 4))) && Nat.beq (fd_cf W 5) (fd_cf Q 4)))))
def fd_q1 (W : List Nat) (deg r : Nat) : Bool := match fd_dv W [r, 1, 0] with
  | none => false
  | some (Q, R) => Nat.beq (fd_ln R) 0 && (Nat.beq (fd_ln Q) deg && fd_idn W Q r)
def fd_qa (W : List Nat) (deg : Nat) : List Nat → Bool
  | [] => true
  | r :: t => fd_q1 W deg r && fd_qa W deg t
def fd_r3 (W : List Nat) : Bool := match fd_dv W [3, 1, 0] with
  | none => false
  | some (_, R) => Nat.ble (fd_ln R) 1 && Nat.beq (fd_cf R 0) (fd_evN W 18446744073709551613)
def fd_c1 (P D1 rr : List Nat) (deg y BS : Nat) : Bool := fd_lf (P.map (fd_mul BS)) (fun W => cond (fd_al W)
  (Nat.beq (fd_ln W) (Nat.succ deg) && (fd_okc W && (Nat.beq (fd_gc 0 W) y && (fd_leq (fd_mp W) P && (fd_okc (fd_der 1 (fd_tl W)) && (fd_leq (fd_mp (fd_der 1 (fd_tl W))) D1 && (fd_qa W deg rr && fd_r3 W))))))) true)
/-- content and factor: by 1 to 4, either sign -/
def fd_bs : List (Nat × Nat) := [(1, 1), (2, 2), (3, 3), (4, 4), (1, 18446744073709551615), (2, 18446744073709551614), (3, 18446744073709551613), (4, 18446744073709551612)]
def fd_c8 (P D1 rr : List Nat) (deg : Nat) : List (Nat × Nat) → Bool
  | [] => true
  | yb :: t => fd_c1 P D1 rr deg yb.1 yb.2 && fd_c8 P D1 rr deg t
theorem fd_c8_m (P D1 rr : List Nat) (deg : Nat) : ∀ (l : List (Nat × Nat)), fd_c8 P D1 rr deg l = true → ∀ yb, yb ∈ l → fd_c1 P D1 rr deg yb.1 yb.2 = true
  | [], _, yb, hm => absurd hm (by simp)
  | x :: t, h, yb, hm => by
    have h' : (fd_c1 P D1 rr deg x.1 x.2 && fd_c8 P D1 rr deg t) = true := h
    rw [Bool.and_eq_true] at h'
    rcases List.mem_cons.mp hm with e | e
    · rw [e]
      exact h'.1
    · exact fd_c8_m P D1 rr deg t h'.2 yb e
def fd_an (P : List Nat) : List (Nat × Nat) → Bool
  | [] => false
  | yb :: t => fd_al (P.map (fd_mul yb.2)) || fd_an P t
theorem fd_an_m (P : List Nat) : ∀ (l : List (Nat × Nat)) (yb : Nat × Nat), yb ∈ l → fd_al (P.map (fd_mul yb.2)) = true → fd_an P l = true
  | [], yb, hm, _ => absurd hm (by simp)
  | x :: t, yb, hm, h => by
    show (fd_al (P.map (fd_mul x.2)) || fd_an P t) = true
    rw [Bool.or_eq_true]
    rcases List.mem_cons.mp hm with e | e
    · rw [← e]
      exact Or.inl h
    · exact Or.inr (fd_an_m P t yb e h)
def fd_ok1 (fu n top : Nat) (R : List (List Nat)) (L rs rr : List Nat) (qs : List (List Nat)) (deg due : Nat) : Bool :=
  fd_lf (fd_Pf rs qs) (fun P => cond (fd_an P fd_bs) (fd_okc P && (fd_leq (fd_mp P) P && (fd_okc (fd_der 1 (fd_tl P)) &&
    fd_lf (fd_mp (fd_der 1 (fd_tl P))) (fun D1 => match fd_gt P D1 with
      | none => false
      | some G => fd_lf G (fun G => Nat.beq (fd_ln G) (Nat.succ due) && (match fd_dv P G with
        | none => false
        | some (Q, _) => fd_leq Q L && (match fd_re fu top R n (Nat.sub (Nat.pow 2 R.length) 1) 1 L P [] with
          | none => false
          | some Fs => fd_req Fs (fd_Ff rs qs) && fd_c8 P D1 rr deg fd_bs))))))) true)
/-- all that the law asks of register 0 -/
def fd_G0 (W : List Nat) (Fs : List (List Nat)) (deg y dif due : Nat) (rr : List Nat) : Prop :=
  fd_ln W = deg + 1 ∧ fd_okc W = true ∧ fd_gc 0 W = y ∧ fd_Fok W Fs ∧
  (∃ L, ((fd_ln W = 1 ∧ L = [1]) ∨ (2 ≤ fd_ln W ∧ fd_okc W = true ∧ fd_so (fd_mp W) = some L)) ∧ fd_ln L = dif + 1) ∧
  (∃ G, fd_gg W (fd_der 1 (fd_tl W)) = some G ∧ (deg ≠ 0 → fd_ln G = due + 1)) ∧
  (∀ r, r ∈ rr → fd_q1 W deg r = true) ∧ fd_r3 W = true
theorem fd_qa_m (W : List Nat) (deg : Nat) : ∀ (l : List Nat), fd_qa W deg l = true → ∀ r, r ∈ l → fd_q1 W deg r = true
  | [], _, r, hm => absurd hm (by simp)
  | x :: t, h, r, hm => by
    have h' : (fd_q1 W deg x && fd_qa W deg t) = true := h
    rw [Bool.and_eq_true] at h'
    rcases List.mem_cons.mp hm with e | e
    · rw [e]
      exact h'.1
    · exact fd_qa_m W deg t h'.2 r e
theorem fd_ok1_G {fu n top dif deg due y BS : Nat} {R qs : List (List Nat)} {L rs rr : List Nat} (hn : n < 99) (hL : fd_lift fu L = some (top, R)) (ht : top < 9223372036854775808) (hl : fd_ln L = dif + 1) (hd : deg ≠ 0) (h : fd_ok1 fu n top R L rs rr qs deg due = true) (hm : (y, BS) ∈ fd_bs) (ha : fd_al ((fd_Pf rs qs).map (fd_mul BS)) = true) :
    fd_G0 ((fd_Pf rs qs).map (fd_mul BS)) (fd_Ff rs qs) deg y dif due rr := by
  unfold fd_ok1 at h
  rw [fd_lf_eq] at h
  generalize fd_Pf rs qs = P at h ha ⊢
  rw [fd_an_m P fd_bs (y, BS) hm ha] at h
  have h1 : (fd_okc P && (fd_leq (fd_mp P) P && (fd_okc (fd_der 1 (fd_tl P)) &&
    fd_lf (fd_mp (fd_der 1 (fd_tl P))) (fun D1 => match fd_gt P D1 with
      | none => false
      | some G => fd_lf G (fun G => Nat.beq (fd_ln G) (Nat.succ due) && (match fd_dv P G with
        | none => false
        | some (Q, _) => fd_leq Q L && (match fd_re fu top R n (Nat.sub (Nat.pow 2 R.length) 1) 1 L P [] with
          | none => false
          | some Fs => fd_req Fs (fd_Ff rs qs) && fd_c8 P D1 rr deg fd_bs))))))) = true := h
  rw [Bool.and_eq_true, Bool.and_eq_true, Bool.and_eq_true, fd_lf_eq] at h1
  obtain ⟨o1, o2, o3, h2⟩ := h1
  have eP := fd_leq_e _ _ o2
  generalize hD1 : fd_mp (fd_der 1 (fd_tl P)) = D1 at h2
  cases eg : fd_gt P D1 with
  | none =>
    rw [eg] at h2
    exact absurd h2 (by simp)
  | some G =>
    rw [eg] at h2
    have h3 : fd_lf G (fun G => Nat.beq (fd_ln G) (Nat.succ due) && (match fd_dv P G with
        | none => false
        | some (Q, _) => fd_leq Q L && (match fd_re fu top R n (Nat.sub (Nat.pow 2 R.length) 1) 1 L P [] with
          | none => false
          | some Fs => fd_req Fs (fd_Ff rs qs) && fd_c8 P D1 rr deg fd_bs))) = true := h2
    rw [fd_lf_eq, Bool.and_eq_true] at h3
    obtain ⟨g1, h4⟩ := h3
    have lG : fd_ln G = due + 1 := Nat.eq_of_beq_eq_true g1
    cases ed : fd_dv P G with
    | none =>
      rw [ed] at h4
      exact absurd h4 (by simp)
    | some QR =>
      rw [ed] at h4
      have h5 : (fd_leq QR.1 L && (match fd_re fu top R n (Nat.sub (Nat.pow 2 R.length) 1) 1 L P [] with
          | none => false
          | some Fs => fd_req Fs (fd_Ff rs qs) && fd_c8 P D1 rr deg fd_bs)) = true := h4
      rw [Bool.and_eq_true] at h5
      obtain ⟨q1, h6⟩ := h5
      have eQ := fd_leq_e _ _ q1
      cases er : fd_re fu top R n (Nat.sub (Nat.pow 2 R.length) 1) 1 L P [] with
      | none =>
        rw [er] at h6
        exact absurd h6 (by simp)
      | some Fs =>
        rw [er] at h6
        have h7 : (fd_req Fs (fd_Ff rs qs) && fd_c8 P D1 rr deg fd_bs) = true := h6
        rw [Bool.and_eq_true] at h7
        have eF := fd_req_e _ _ h7.1
        have hc := fd_c8_m P D1 rr deg fd_bs h7.2 (y, BS) hm
        have eso : fd_so P = some L := by
          rw [← eQ]
          refine fd_so_of (G := G) (R := QR.2) ?_ (by omega) ed
          rw [fd_gg_eq o1 o3, eP, hD1]
          exact eg
        unfold fd_c1 at hc
        rw [fd_lf_eq] at hc
        dsimp only at hc
        generalize P.map (fd_mul BS) = W at hc ha ⊢
        rw [ha] at hc
        have hc1 : (Nat.beq (fd_ln W) (Nat.succ deg) && (fd_okc W && (Nat.beq (fd_gc 0 W) y && (fd_leq (fd_mp W) P && (fd_okc (fd_der 1 (fd_tl W)) && (fd_leq (fd_mp (fd_der 1 (fd_tl W))) D1 && (fd_qa W deg rr && fd_r3 W))))))) = true := hc
        rw [Bool.and_eq_true, Bool.and_eq_true, Bool.and_eq_true, Bool.and_eq_true, Bool.and_eq_true, Bool.and_eq_true, Bool.and_eq_true] at hc1
        obtain ⟨w1, w2, w3, w4, w5, w6, w7, w8⟩ := hc1
        have lW : fd_ln W = deg + 1 := Nat.eq_of_beq_eq_true w1
        have mW := fd_leq_e _ _ w4
        have mD := fd_leq_e _ _ w6
        refine ⟨lW, w2, Nat.eq_of_beq_eq_true w3, Or.inr ⟨fu, n, top, P, L, R, hn, by omega, w2, mW, eso, hL, ht, ?_⟩, ⟨L, Or.inr ⟨by omega, w2, by rw [mW]; exact eso⟩, hl⟩, ⟨G, ?_, fun _ => lG⟩, fd_qa_m W deg rr w7, w8⟩
        · rw [er, eF]
        · rw [fd_gg_eq w2 w5, mW, mD]
          exact eg
def fd_rs (rset : List Nat) (i j : Nat) : List Nat := match rset with
  | [] => []
  | r :: t => List.replicate i r ++ (match t with
    | [] => []
    | h :: _ => List.replicate j h)
def fd_qn (qset : List (List Nat)) (n : Nat) : List (List Nat) := match qset with
  | [] => []
  | q :: _ => List.replicate n q
def fd_ms (fu n0 top : Nat) (R : List (List Nat)) (L rset : List Nat) (qset : List (List Nat)) : List (Nat × Nat × Nat) → Bool
  | [] => true
  | x :: t => fd_ok1 fu n0 top R L (fd_rs rset x.1 x.2.1) rset (fd_qn qset x.2.2) (Nat.add (Nat.add x.1 x.2.1) (Nat.mul 2 x.2.2)) (Nat.add (Nat.add (Nat.sub x.1 1) (Nat.sub x.2.1 1)) (Nat.mul 2 (Nat.sub x.2.2 1))) && fd_ms fu n0 top R L rset qset t
theorem fd_ms_m (fu n0 top : Nat) (R : List (List Nat)) (L rset : List Nat) (qset : List (List Nat)) : ∀ (l : List (Nat × Nat × Nat)), fd_ms fu n0 top R L rset qset l = true → ∀ i j n, (i, j, n) ∈ l → fd_ok1 fu n0 top R L (fd_rs rset i j) rset (fd_qn qset n) (i + j + 2 * n) (i - 1 + (j - 1) + 2 * (n - 1)) = true
  | [], _, i, j, n, hm => absurd hm (by simp)
  | x :: t, h, i, j, n, hm => by
    have h' : (fd_ok1 fu n0 top R L (fd_rs rset x.1 x.2.1) rset (fd_qn qset x.2.2) (x.1 + x.2.1 + 2 * x.2.2) (x.1 - 1 + (x.2.1 - 1) + 2 * (x.2.2 - 1)) && fd_ms fu n0 top R L rset qset t) = true := h
    rw [Bool.and_eq_true] at h'
    rcases List.mem_cons.mp hm with e | e
    · rw [← e] at h'
      exact h'.1
    · exact fd_ms_m fu n0 top R L rset qset t h'.2 i j n e
def fd_LL (fu n0 : Nat) (rset : List Nat) (qset : List (List Nat)) (ms : List (Nat × Nat × Nat)) : Bool :=
  fd_lf (fd_Pf rset qset) (fun L => match fd_lift fu L with
    | none => false
    | some (top, R) => Nat.blt top 9223372036854775808 && (Nat.beq (fd_ln L) (Nat.succ (Nat.add rset.length (Nat.mul 2 qset.length))) && fd_ms fu n0 top R L rset qset ms))
theorem fd_LL_G {fu n0 : Nat} {rset : List Nat} {qset : List (List Nat)} {ms : List (Nat × Nat × Nat)} (hn0 : n0 < 99) (h : fd_LL fu n0 rset qset ms = true) {i j n : Nat} (hm : (i, j, n) ∈ ms) (hd : i + j + 2 * n ≠ 0) {y BS : Nat} (hy : (y, BS) ∈ fd_bs) (ha : fd_al ((fd_Pf (fd_rs rset i j) (fd_qn qset n)).map (fd_mul BS)) = true) :
    fd_G0 ((fd_Pf (fd_rs rset i j) (fd_qn qset n)).map (fd_mul BS)) (fd_Ff (fd_rs rset i j) (fd_qn qset n)) (i + j + 2 * n) y (rset.length + 2 * qset.length) (i - 1 + (j - 1) + 2 * (n - 1)) rset := by
  unfold fd_LL at h
  rw [fd_lf_eq] at h
  generalize fd_Pf rset qset = L at h
  cases e : fd_lift fu L with
  | none =>
    rw [e] at h
    exact absurd h (by simp)
  | some T =>
    rw [e] at h
    have h1 : (Nat.blt T.1 9223372036854775808 && (Nat.beq (fd_ln L) (rset.length + 2 * qset.length + 1) && fd_ms fu n0 T.1 T.2 L rset qset ms)) = true := h
    rw [Bool.and_eq_true, Bool.and_eq_true] at h1
    have ht : T.1 < 9223372036854775808 := Nat.le_of_ble_eq_true h1.1
    exact fd_ok1_G hn0 e ht (Nat.eq_of_beq_eq_true h1.2.1) hd (fd_ms_m fu n0 T.1 T.2 L rset qset ms h1.2.2 i j n hm) hy ha
end
section
/-! tables, evaluated by the kernel: no quadratic factor, or nothing else -/
def fd_m1 : List (Nat × Nat × Nat) := [(1, 0, 0), (2, 0, 0), (3, 0, 0), (4, 0, 0), (5, 0, 0)]
def fd_m2 : List (Nat × Nat × Nat) := [(1, 1, 0), (1, 2, 0), (1, 3, 0), (1, 4, 0), (2, 1, 0), (2, 2, 0), (2, 3, 0), (3, 1, 0), (3, 2, 0), (4, 1, 0)]
def fd_m3 : List (Nat × Nat × Nat) := [(0, 0, 1), (0, 0, 2)]
def fd_m4 : List (Nat × Nat × Nat) := [(1, 0, 1), (2, 0, 1), (3, 0, 1), (1, 0, 2)]
def fd_m5 : List (Nat × Nat × Nat) := [(1, 1, 1), (1, 2, 1), (2, 1, 1)]
def fd_qd (c d : Nat) : List Nat := [Nat.add d 2, fd_v5 c, 1]
theorem fd_E1 : ∀ r, r < 5 → fd_LL 30 10 [fd_v5 r] [] fd_m1 = true := by decide +kernel
theorem fd_E2 : ∀ l, l < 5 → ∀ h, h < 5 → l < h → fd_LL 30 10 [fd_v5 l, fd_v5 h] [] fd_m2 = true := by decide +kernel
theorem fd_E3 : ∀ c, c < 5 → ∀ d, d < 4 → fd_LL 30 10 [] [fd_qd c d] fd_m3 = true := by decide +kernel
end
section
/-! tables, evaluated by the kernel: the quadratic factor with 0 - 2 in the middle -/
theorem fd_E4_0 : ∀ r, r < 5 → ∀ d, d < 4 → fd_LL 30 10 [fd_v5 r] [fd_qd 0 d] fd_m4 = true := by decide +kernel
theorem fd_E5_0 : ∀ l, l < 5 → ∀ h, h < 5 → l < h → ∀ d, d < 4 → fd_LL 30 10 [fd_v5 l, fd_v5 h] [fd_qd 0 d] fd_m5 = true := by decide +kernel
end
section
/-! tables, evaluated by the kernel: the quadratic factor with 1 - 2 in the middle -/
theorem fd_E4_1 : ∀ r, r < 5 → ∀ d, d < 4 → fd_LL 30 10 [fd_v5 r] [fd_qd 1 d] fd_m4 = true := by decide +kernel
theorem fd_E5_1 : ∀ l, l < 5 → ∀ h, h < 5 → l < h → ∀ d, d < 4 → fd_LL 30 10 [fd_v5 l, fd_v5 h] [fd_qd 1 d] fd_m5 = true := by decide +kernel
end
section
/-! tables, evaluated by the kernel: the quadratic factor with 2 - 2 in the middle -/
theorem fd_E4_2 : ∀ r, r < 5 → ∀ d, d < 4 → fd_LL 30 10 [fd_v5 r] [fd_qd 2 d] fd_m4 = true := by decide +kernel
theorem fd_E5_2 : ∀ l, l < 5 → ∀ h, h < 5 → l < h → ∀ d, d < 4 → fd_LL 30 10 [fd_v5 l, fd_v5 h] [fd_qd 2 d] fd_m5 = true := by decide +kernel
end
section
/-! tables, evaluated by the kernel: the quadratic factor with 3 - 2 in the middle -/
theorem fd_E4_3 : ∀ r, r < 5 → ∀ d, d < 4 → fd_LL 30 10 [fd_v5 r] [fd_qd 3 d] fd_m4 = true := by decide +kernel
theorem fd_E5_3 : ∀ l, l < 5 → ∀ h, h < 5 → l < h → ∀ d, d < 4 → fd_LL 30 10 [fd_v5 l, fd_v5 h] [fd_qd 3 d] fd_m5 = true := by decide +kernel
end
section
/-! tables, evaluated by the kernel: the quadratic factor with 4 - 2 in the middle -/
theorem fd_E4_4 : ∀ r, r < 5 → ∀ d, d < 4 → fd_LL 30 10 [fd_v5 r] [fd_qd 4 d] fd_m4 = true := by decide +kernel
theorem fd_E5_4 : ∀ l, l < 5 → ∀ h, h < 5 → l < h → ∀ d, d < 4 → fd_LL 30 10 [fd_v5 l, fd_v5 h] [fd_qd 4 d] fd_m5 = true := by decide +kernel
end
section
/-! the law's coefficients are those of the product: evaluated by the kernel -/
def fd_cs (A m C D n B o deg : Nat) : List Nat := fd_tb (fun i => fd_coef A m C D n B o i) (Nat.succ deg) 0
/-- the two linear factors in the order of the list -/
def fd_rr (a b m o : Nat) : List Nat := cond (Nat.blt a b || Nat.beq o 0) (List.replicate m (fd_v5 a) ++ List.replicate o (fd_v5 b)) (List.replicate o (fd_v5 b) ++ List.replicate m (fd_v5 a))
def fd_B (a b c d n m o : Nat) : Bool := fd_leq (fd_cs (fd_v5 a) m (fd_v5 c) (Nat.add d 2) n (fd_v5 b) o (Nat.add (Nat.add (Nat.mul 2 n) m) o)) (fd_Pf (fd_rr a b m o) (List.replicate n (fd_qd c d)))
def fd_fa : Nat → (Nat → Bool) → Bool
  | 0, _ => true
  | n + 1, f => f n && fd_fa n f
theorem fd_fa_e : ∀ (n : Nat) (f : Nat → Bool), fd_fa n f = true → ∀ i, i < n → f i = true
  | 0, _, _, i, hi => absurd hi (by omega)
  | n + 1, f, h, i, hi => by
    have h' : (f n && fd_fa n f) = true := h
    rw [Bool.and_eq_true] at h'
    by_cases c : i = n
    · rw [c]
      exact h'.1
    · exact fd_fa_e n f h'.2 i (by omega)
def fd_Bc (a b c d n m o : Nat) : Bool := cond (Nat.blt (Nat.add m o) (Nat.sub 6 (Nat.mul 2 n))) (cond (Nat.beq a b) (cond (Nat.beq o 0) (fd_B a b c d n m o) true) (fd_B a b c d n m o)) true
theorem fd_Bc_e {a b c d n m o : Nat} (h : fd_Bc a b c d n m o = true) (h1 : m + o < 6 - 2 * n) (h2 : a = b → o = 0) : fd_B a b c d n m o = true := by
  unfold fd_Bc at h
  rw [fd_blt_t (show Nat.add m o < Nat.sub 6 (Nat.mul 2 n) from h1)] at h
  by_cases e : a = b
  · rw [fd_beq_t e, fd_beq_t (h2 e)] at h
    exact h
  · rw [fd_beq_f e] at h
    exact h
theorem fd_B0 : fd_fa 5 (fun a => fd_fa 5 (fun b => fd_fa 6 (fun m => fd_fa 6 (fun o => fd_Bc a b 0 0 0 m o)))) = true := by decide +kernel
theorem fd_B1 : fd_fa 5 (fun a => fd_fa 5 (fun b => fd_fa 5 (fun c => fd_fa 4 (fun d => fd_fa 4 (fun m => fd_fa 4 (fun o => fd_Bc a b c d 1 m o)))))) = true := by decide +kernel
theorem fd_B2 : fd_fa 5 (fun a => fd_fa 5 (fun b => fd_fa 5 (fun c => fd_fa 4 (fun d => fd_fa 2 (fun m => fd_fa 2 (fun o => fd_Bc a b c d 2 m o)))))) = true := by decide +kernel
end
section
/-! the tables read together -/
theorem fd_cq_n0 (A m C D C' D' B o i p : Nat) : ∀ (k q s : Nat), fd_cq A m C D 0 B o i p k q s = fd_cq A m C' D' 0 B o i p k q s
  | 0, _, _ => rfl
  | k + 1, q, s => by
    rw [fd_cq_s, fd_cq_s, fd_cq_n0 A m C D C' D' B o i p k]
    rfl
theorem fd_cpp_n0 (A m C D C' D' B o i : Nat) : ∀ (k p s : Nat), fd_cpp A m C D 0 B o i k p s = fd_cpp A m C' D' 0 B o i k p s
  | 0, _, _ => rfl
  | k + 1, p, s => by
    rw [fd_cpp_s, fd_cpp_s, fd_cq_n0 A m C D C' D' B o i p, fd_cpp_n0 A m C D C' D' B o i k]
theorem fd_coef_n0 (A m C D C' D' B o i : Nat) : fd_coef A m C D 0 B o i = fd_coef A m C' D' 0 B o i := fd_cpp_n0 A m C D C' D' B o i _ _ _
theorem fd_B_all {a b c d n m o : Nat} (ha : a < 5) (hb : b < 5) (hc : c < 5) (hd : d < 4) (hn : n < 3) (hs : m + o < 6 - 2 * n) (hab : a = b → o = 0) : fd_cs (fd_v5 a) m (fd_v5 c) (d + 2) n (fd_v5 b) o (2 * n + m + o) = fd_Pf (fd_rr a b m o) (List.replicate n (fd_qd c d)) := by
  match n, hn with
  | 0, _ =>
    have h := fd_leq_e _ _ (fd_Bc_e (fd_fa_e _ _ (fd_fa_e _ _ (fd_fa_e _ _ (fd_fa_e _ _ fd_B0 a ha) b hb) m (by omega)) o (by omega)) hs hab)
    have e : fd_cs (fd_v5 a) m (fd_v5 c) (d + 2) 0 (fd_v5 b) o (2 * 0 + m + o) = fd_cs (fd_v5 a) m (fd_v5 0) (0 + 2) 0 (fd_v5 b) o (2 * 0 + m + o) := by
      unfold fd_cs
      congr 1
      funext i
      exact fd_coef_n0 _ _ _ _ _ _ _ _ _
    rw [e]
    exact h
  | 1, _ => exact fd_leq_e _ _ (fd_Bc_e (fd_fa_e _ _ (fd_fa_e _ _ (fd_fa_e _ _ (fd_fa_e _ _ (fd_fa_e _ _ (fd_fa_e _ _ fd_B1 a ha) b hb) c hc) d hd) m (by omega)) o (by omega)) hs hab)
  | 2, _ => exact fd_leq_e _ _ (fd_Bc_e (fd_fa_e _ _ (fd_fa_e _ _ (fd_fa_e _ _ (fd_fa_e _ _ (fd_fa_e _ _ (fd_fa_e _ _ fd_B2 a ha) b hb) c hc) d hd) m (by omega)) o (by omega)) hs hab)
  | n + 3, h => exact absurd h (by omega)
theorem fd_E4 {c r d : Nat} (hc : c < 5) (hr : r < 5) (hd : d < 4) : fd_LL 30 10 [fd_v5 r] [fd_qd c d] fd_m4 = true := by
  match c, hc with
  | 0, _ => exact fd_E4_0 r hr d hd
  | 1, _ => exact fd_E4_1 r hr d hd
  | 2, _ => exact fd_E4_2 r hr d hd
  | 3, _ => exact fd_E4_3 r hr d hd
  | 4, _ => exact fd_E4_4 r hr d hd
  | c + 5, h => exact absurd h (by omega)
theorem fd_E5 {c l h d : Nat} (hc : c < 5) (hl : l < 5) (hh : h < 5) (hlh : l < h) (hd : d < 4) : fd_LL 30 10 [fd_v5 l, fd_v5 h] [fd_qd c d] fd_m5 = true := by
  match c, hc with
  | 0, _ => exact fd_E5_0 l hl h hh hlh d hd
  | 1, _ => exact fd_E5_1 l hl h hh hlh d hd
  | 2, _ => exact fd_E5_2 l hl h hh hlh d hd
  | 3, _ => exact fd_E5_3 l hl h hh hlh d hd
  | 4, _ => exact fd_E5_4 l hl h hh hlh d hd
  | c + 5, h => exact absurd h (by omega)
def fd_W (rs : List Nat) (qs : List (List Nat)) (BS : Nat) : List Nat := (fd_Pf rs qs).map (fd_mul BS)
def fd_r2 (lo i hi j : Nat) : List Nat := List.replicate i (fd_v5 lo) ++ List.replicate j (fd_v5 hi)
theorem fd_T0 : ∀ yb, yb ∈ fd_bs → fd_G0 (fd_W [] [] yb.2) [] 0 yb.1 0 0 [] := by
  have key : ∀ y BS : Nat, fd_ln (fd_W [] [] BS) = 1 → fd_okc (fd_W [] [] BS) = true → fd_gc 0 (fd_W [] [] BS) = y → fd_gg (fd_W [] [] BS) (fd_der 1 (fd_tl (fd_W [] [] BS))) = some [1] → fd_r3 (fd_W [] [] BS) = true → fd_G0 (fd_W [] [] BS) [] 0 y 0 0 [] := by
    intro y BS h1 h2 h3 h4 h5
    exact ⟨h1, h2, h3, Or.inl ⟨by omega, rfl⟩, ⟨[1], Or.inl ⟨h1, rfl⟩, rfl⟩, ⟨[1], h4, fun z => absurd rfl z⟩, fun r hr => absurd hr (by simp), h5⟩
  intro yb hm
  simp only [fd_bs, List.mem_cons, List.not_mem_nil, or_false] at hm
  rcases hm with e | e | e | e | e | e | e | e <;> subst e <;> exact key _ _ (by decide +kernel) (by decide +kernel) (by decide +kernel) (by decide +kernel) (by decide +kernel)
theorem fd_T {lo hi i j n c d y BS : Nat} (hlo : lo < 5) (hhi : hi < 5) (hij : i = 0 ∨ j = 0 ∨ lo < hi) (hs : i + j + 2 * n ≤ 5) (hc : c < 5) (hd : d < 4) (hy : (y, BS) ∈ fd_bs) (ha : fd_al (fd_W (fd_r2 lo i hi j) (List.replicate n (fd_qd c d)) BS) = true) :
    ∃ rr dif, (0 < i → fd_v5 lo ∈ rr) ∧ (0 < j → fd_v5 hi ∈ rr) ∧ dif = min i 1 + min j 1 + 2 * min n 1 ∧ fd_G0 (fd_W (fd_r2 lo i hi j) (List.replicate n (fd_qd c d)) BS) (fd_Ff (fd_r2 lo i hi j) (List.replicate n (fd_qd c d))) (i + j + 2 * n) y dif (i - 1 + (j - 1) + 2 * (n - 1)) rr := by
  have hn : n = 0 ∨ n = 1 ∨ n = 2 := by omega
  rcases Nat.eq_zero_or_pos i with ei | ei
  · rcases Nat.eq_zero_or_pos j with ej | ej
    · subst ei
      subst ej
      rcases hn with en | en
      · subst en
        exact ⟨[], 0, fun z => absurd z (by omega), fun z => absurd z (by omega), rfl, fd_T0 (y, BS) hy⟩
      · refine ⟨[], 2, fun z => absurd z (by omega), fun z => absurd z (by omega), by omega, ?_⟩
        have hm : (0, 0, n) ∈ fd_m3 := by rcases en with e | e <;> subst e <;> decide
        exact fd_LL_G (by omega) (fd_E3 c hc d hd) hm (by omega) hy ha
    · have er : fd_r2 lo i hi j = fd_rs [fd_v5 hi] j 0 := by
        subst ei
        show List.replicate j (fd_v5 hi) = List.replicate j (fd_v5 hi) ++ []
        rw [List.append_nil]
      have ed : i + j + 2 * n = j + 0 + 2 * n := by omega
      have eu : i - 1 + (j - 1) + 2 * (n - 1) = j - 1 + (0 - 1) + 2 * (n - 1) := by omega
      rw [er] at ha ⊢
      rw [ed, eu]
      rcases hn with en | en
      · subst en
        refine ⟨[fd_v5 hi], 1, fun z => absurd z (by omega), fun _ => List.mem_singleton.mpr rfl, by omega, ?_⟩
        have hm : (j, 0, 0) ∈ fd_m1 := by
          have : j = 1 ∨ j = 2 ∨ j = 3 ∨ j = 4 ∨ j = 5 := by omega
          rcases this with e | e | e | e | e <;> subst e <;> decide
        exact fd_LL_G (by omega) (fd_E1 hi hhi) hm (by omega) hy ha
      · refine ⟨[fd_v5 hi], 3, fun z => absurd z (by omega), fun _ => List.mem_singleton.mpr rfl, by omega, ?_⟩
        have hm : (j, 0, n) ∈ fd_m4 := by
          have : (j = 1 ∧ n = 1) ∨ (j = 2 ∧ n = 1) ∨ (j = 3 ∧ n = 1) ∨ (j = 1 ∧ n = 2) := by omega
          rcases this with ⟨e, f⟩ | ⟨e, f⟩ | ⟨e, f⟩ | ⟨e, f⟩ <;> subst e <;> subst f <;> decide
        exact fd_LL_G (by omega) (fd_E4 hc hhi hd) hm (by omega) hy ha
  · rcases Nat.eq_zero_or_pos j with ej | ej
    · subst ej
      have eu : i - 1 + (0 - 1) + 2 * (n - 1) = i - 1 + (0 - 1) + 2 * (n - 1) := rfl
      rcases hn with en | en
      · subst en
        refine ⟨[fd_v5 lo], 1, fun _ => List.mem_singleton.mpr rfl, fun z => absurd z (by omega), by omega, ?_⟩
        have hm : (i, 0, 0) ∈ fd_m1 := by
          have : i = 1 ∨ i = 2 ∨ i = 3 ∨ i = 4 ∨ i = 5 := by omega
          rcases this with e | e | e | e | e <;> subst e <;> decide
        exact fd_LL_G (by omega) (fd_E1 lo hlo) hm (by omega) hy ha
      · refine ⟨[fd_v5 lo], 3, fun _ => List.mem_singleton.mpr rfl, fun z => absurd z (by omega), by omega, ?_⟩
        have hm : (i, 0, n) ∈ fd_m4 := by
          have : (i = 1 ∧ n = 1) ∨ (i = 2 ∧ n = 1) ∨ (i = 3 ∧ n = 1) ∨ (i = 1 ∧ n = 2) := by omega
          rcases this with ⟨e, f⟩ | ⟨e, f⟩ | ⟨e, f⟩ | ⟨e, f⟩ <;> subst e <;> subst f <;> decide
        exact fd_LL_G (by omega) (fd_E4 hc hlo hd) hm (by omega) hy ha
    · have hlh : lo < hi := by omega
      rcases hn with en | en
      · subst en
        refine ⟨[fd_v5 lo, fd_v5 hi], 2, fun _ => by simp, fun _ => by simp, by omega, ?_⟩
        have hm : (i, j, 0) ∈ fd_m2 := by
          have : (i = 1 ∧ (j = 1 ∨ j = 2 ∨ j = 3 ∨ j = 4)) ∨ (i = 2 ∧ (j = 1 ∨ j = 2 ∨ j = 3)) ∨ (i = 3 ∧ (j = 1 ∨ j = 2)) ∨ (i = 4 ∧ j = 1) := by omega
          rcases this with ⟨e, f | f | f | f⟩ | ⟨e, f | f | f⟩ | ⟨e, f | f⟩ | ⟨e, f⟩ <;> subst e <;> subst f <;> decide
        exact fd_LL_G (by omega) (fd_E2 lo hlo hi hhi hlh) hm (by omega) hy ha
      · refine ⟨[fd_v5 lo, fd_v5 hi], 4, fun _ => by simp, fun _ => by simp, by omega, ?_⟩
        have hm : (i, j, n) ∈ fd_m5 := by
          have : n = 1 ∧ ((i = 1 ∧ j = 1) ∨ (i = 1 ∧ j = 2) ∨ (i = 2 ∧ j = 1)) := by omega
          rcases this with ⟨g, ⟨e, f⟩ | ⟨e, f⟩ | ⟨e, f⟩⟩ <;> subst e <;> subst f <;> subst g <;> decide
        exact fd_LL_G (by omega) (fd_E5 hc hlo hhi hlh hd) hm (by omega) hy ha
/-- the rows of the expected list -/
theorem fd_Ff_rep (x : Nat) (t : List Nat) (qs : List (List Nat)) : ∀ (i k : Nat), fd_rw (fd_Ff (List.replicate i x ++ t) qs) k = if k < i then [x, 1] else fd_rw (fd_Ff t qs) (k - i)
  | 0, k => by
    rw [if_neg (by omega)]
    rfl
  | i + 1, 0 => by
    rw [if_pos (by omega)]
    rfl
  | i + 1, k + 1 => by
    show fd_rw (fd_Ff (List.replicate i x ++ t) qs) k = _
    rw [fd_Ff_rep x t qs i k]
    by_cases c : k < i
    · rw [if_pos c, if_pos (by omega)]
    · rw [if_neg c, if_neg (by omega), show k + 1 - (i + 1) = k - i by omega]
theorem fd_rep_rw (q : List Nat) : ∀ (n k : Nat), k < n → fd_rw (List.replicate n q) k = q
  | 0, k, h => absurd h (by omega)
  | n + 1, 0, _ => rfl
  | n + 1, k + 1, h => fd_rep_rw q n k (by omega)
theorem fd_Ff_lin {lo i hi j k : Nat} {qs : List (List Nat)} (hk : k < i + j) : fd_rw (fd_Ff (fd_r2 lo i hi j) qs) k = [if k < i then fd_v5 lo else fd_v5 hi, 1] := by
  unfold fd_r2
  rw [fd_Ff_rep]
  by_cases c : k < i
  · rw [if_pos c, if_pos c]
  · rw [if_neg c, if_neg c]
    have := fd_Ff_rep (fd_v5 hi) [] qs j (k - i)
    rw [List.append_nil, if_pos (by omega)] at this
    exact this
theorem fd_Ff_quad {lo i hi j n k : Nat} {q : List Nat} (hk : i + j ≤ k) (hk2 : k < i + j + n) : fd_rw (fd_Ff (fd_r2 lo i hi j) (List.replicate n q)) k = q := by
  unfold fd_r2
  rw [fd_Ff_rep, if_neg (by omega)]
  have := fd_Ff_rep (fd_v5 hi) [] (List.replicate n q) j (k - i)
  rw [List.append_nil, if_neg (by omega)] at this
  rw [this]
  exact fd_rep_rw q n _ (by omega)
theorem fd_Ff_len (lo i hi j n : Nat) (q : List Nat) : (fd_Ff (fd_r2 lo i hi j) (List.replicate n q)).length = i + j + n := by
  unfold fd_Ff fd_r2
  rw [List.length_append, List.length_map, List.length_append, List.length_replicate, List.length_replicate, List.length_replicate]
end
section
/-! the law from behind: the last checks first -/
def fd_i5 (j : Nat) : Int32 := nI j - 2
theorem fd_i5_v : ∀ j, j < 5 → fd_tN (fd_i5 j).toInt64 = fd_v5 j := by decide
theorem fd_i5_r : ∀ j, j < 5 → ¬ fd_i5 j < -20 ∧ fd_i5 j ≤ 20 := by decide
theorem fd_i5_b : ∀ j, j < 5 → -2 ≤ (fd_i5 j).toInt ∧ (fd_i5 j).toInt ≤ 2 := by decide
theorem fd_rem20 (x : Int32) : -20 < (x - x / 20 * 20).toInt ∧ (x - x / 20 * 20).toInt < 20 := by
  have h1 : -2147483648 ≤ x.toInt := Int32.le_toInt x
  have h2 : x.toInt < 2147483648 := Int32.toInt_lt x
  have e0 : (20 : Int32).toInt = 20 := by decide
  have e1 : (x / 20).toInt = x.toInt.tdiv 20 := by
    rw [Int32.toInt_div_of_ne_right x 20 (by decide), e0]
  have e2 : -20 < x.toInt - x.toInt.tdiv 20 * 20 ∧ x.toInt - x.toInt.tdiv 20 * 20 < 20 ∧ -2147483648 ≤ x.toInt.tdiv 20 * 20 ∧ x.toInt.tdiv 20 * 20 < 2147483648 := by
    rcases Int.lt_or_le x.toInt 0 with c | c
    · have e3 : x.toInt.tdiv 20 = -((-x.toInt) / 20) := by
        rw [← Int.neg_neg x.toInt, Int.neg_tdiv, Int.tdiv_eq_ediv_of_nonneg (by omega), Int.neg_neg]
      rw [e3]
      omega
    · rw [Int.tdiv_eq_ediv_of_nonneg c]
      omega
  have e4 : (x / 20 * 20).toInt = x.toInt.tdiv 20 * 20 := by
    rw [Int32.toInt_mul, e1, e0]
    exact Int.bmod_eq_of_le (by omega) (by omega)
  have e5 : (x - x / 20 * 20).toInt = x.toInt - x.toInt.tdiv 20 * 20 := by
    rw [Int32.toInt_sub, e4]
    exact Int.bmod_eq_of_le (by omega) (by omega)
  rw [e5]
  exact ⟨e2.1, e2.2.1⟩
theorem fd_add64 {x a : Int32} (h1 : -1000 ≤ x.toInt) (h2 : x.toInt ≤ 1000) (h3 : -1000 ≤ a.toInt) (h4 : a.toInt ≤ 1000) : (x + a).toInt64 = x.toInt64 + a.toInt64 := by
  refine Int64.toInt_inj.mp ?_
  rw [Int32.toInt_toInt64, Int64.toInt_add, Int32.toInt_toInt64, Int32.toInt_toInt64, Int32.toInt_add, Int.bmod_eq_of_le (by omega) (by omega), Int.bmod_eq_of_le (by omega) (by omega)]
theorem fd_id {W Q : List Nat} {r : Nat} {g0 g3 : Nat → Int64} {y z : Int64} (h0 : ∀ i, i < 6 → fd_tN (g0 i) = fd_cf W i) (h3 : ∀ i, i < 6 → fd_tN (g3 i) = fd_cf Q i) (hz : fd_tN z = r) (hq : fd_idn W Q r = true) (hl : fd_ln Q ≤ 5) : fd_ev g3 y * (y + z) = fd_ev g0 y := by
  unfold fd_idn at hq
  rw [Bool.and_eq_true, Bool.and_eq_true, Bool.and_eq_true, Bool.and_eq_true, Bool.and_eq_true] at hq
  obtain ⟨q0, q1, q2, q3, q4, q5⟩ := hq
  have e0 : g0 0 = z * g3 0 := fd_inj (by rw [fd_tN_mul, h0 0 (by omega), h3 0 (by omega), hz]; exact Nat.eq_of_beq_eq_true q0)
  have e1 : g0 1 = g3 0 + z * g3 1 := fd_inj (by rw [fd_tN_add, fd_tN_mul, h0 1 (by omega), h3 0 (by omega), h3 1 (by omega), hz]; exact Nat.eq_of_beq_eq_true q1)
  have e2 : g0 2 = g3 1 + z * g3 2 := fd_inj (by rw [fd_tN_add, fd_tN_mul, h0 2 (by omega), h3 1 (by omega), h3 2 (by omega), hz]; exact Nat.eq_of_beq_eq_true q2)
  have e3 : g0 3 = g3 2 + z * g3 3 := fd_inj (by rw [fd_tN_add, fd_tN_mul, h0 3 (by omega), h3 2 (by omega), h3 3 (by omega), hz]; exact Nat.eq_of_beq_eq_true q3)
  have e4 : g0 4 = g3 3 + z * g3 4 := fd_inj (by rw [fd_tN_add, fd_tN_mul, h0 4 (by omega), h3 3 (by omega), h3 4 (by omega), hz]; exact Nat.eq_of_beq_eq_true q4)
  have e5 : g0 5 = g3 4 := fd_inj (by rw [h0 5 (by omega), h3 4 (by omega)]; exact Nat.eq_of_beq_eq_true q5)
  have e6 : g3 5 = 0 := fd_eq0.mpr (by rw [h3 5 (by omega)]; exact fd_ln_out Q 5 hl)
  unfold fd_ev
  rw [e0, e1, e2, e3, e4, e5, e6]
  grind
theorem fd_ev0 {g : Nat → Int64} {y : Int64} (h : ∀ i, 1 ≤ i → i < 6 → g i = 0) : fd_ev g y = g 0 := by
  unfold fd_ev
  rw [h 5 (by omega) (by omega), h 4 (by omega) (by omega), h 3 (by omega) (by omega), h 2 (by omega) (by omega), h 1 (by omega) (by omega)]
  grind
theorem fd_ev_N {W : List Nat} {g : Nat → Int64} {y : Int64} (h : ∀ i, i < 6 → fd_tN (g i) = fd_cf W i) : fd_tN (fd_ev g y) = fd_evN W (fd_tN y) := by
  unfold fd_ev fd_evN
  rw [fd_tN_add, fd_tN_mul, fd_tN_add, fd_tN_mul, fd_tN_add, fd_tN_mul, fd_tN_add, fd_tN_mul, fd_tN_add, fd_tN_mul, fd_tN_add, fd_tN_mul, fd_tN0, h 0 (by omega), h 1 (by omega), h 2 (by omega), h 3 (by omega), h 4 (by omega), h 5 (by omega)]
theorem fd_i0z : fd_tN ((0 : Int32).toInt64) = 0 := by decide
theorem fd_i1z : fd_tN ((1 : Int32).toInt64) = 1 := by decide
theorem fd_i3z : fd_tN ((3 : Int32).toInt64) = 3 := by decide
theorem fd_m3z : fd_tN ((-3 : Int32).toInt64) = 18446744073709551613 := by decide
section
variable {fc lc dc : Int32} {mo pr : Int64} {a1 a3 : Nat → Int64} {a2 a4 a5 a6 : Nat → Int32} {M : Nat → List Nat}
variable {post : Int32 → St0 → Prop} {mc ms kc ks : Nat}
theorem fd_L876 (H : post 1 ()) : wL_lawOf_876 post mc ms kc ks fc mo pr lc dc a1 a2 a3 a4 a5 a6 := by
  unfold wL_lawOf_876 wpX_factorsModulo
  dsimp only
  refine fd_isReg (r := 0) (by omega) (br_f (by decide) ?_)
  refine br_f (by decide) (br_f (by decide) (br_f (by decide) (br_f (by decide) (br_t rfl (br_t rfl ?_)))))
  refine br_f (by decide) (br_t (by decide) (br_t rfl ?_))
  unfold wpX_at
  dsimp only
  refine fd_isReg (r := 0) (by omega) (br_f (by decide) (br_f (by decide) (br_f (by decide) (br_t rfl ?_))))
  unfold wpX_set
  dsimp only
  exact fd_isReg (r := 0) (by omega) (br_f (by decide) (br_f (by decide) (br_t (by decide) (br_t rfl H))))
theorem fd_L781 {W : List Nat} {A : Nat} (h : fd_RR M a1) (h0 : M 0 = W) (h1 : M 1 = [A, 1, 0]) (hr : fd_r3 W = true) (H : post 1 ()) : wL_lawOf_781 post mc ms kc ks fc mo pr lc dc a1 a2 a3 a4 a5 a6 := by
  unfold fd_r3 at hr
  cases ed : fd_dv W [3, 1, 0] with
  | none =>
    rw [ed] at hr
    exact absurd hr (by simp)
  | some QR =>
    rw [ed] at hr
    have hr1 : (Nat.ble (fd_ln QR.2) 1 && Nat.beq (fd_cf QR.2 0) (fd_evN W 18446744073709551613)) = true := hr
    rw [Bool.and_eq_true] at hr1
    have l1 : fd_ln QR.2 ≤ 1 := Nat.le_of_ble_eq_true hr1.1
    have c0 : fd_cf QR.2 0 = fd_evN W 18446744073709551613 := Nat.eq_of_beq_eq_true hr1.2
    unfold wL_lawOf_781
    refine fd_set (r := 1) (i := 0) h (by omega) (by omega) (by decide) (by decide) (fun s1 h1' => br_f (by decide) ?_)
    rw [h1, fd_i3z] at h1'
    have k1 : fd_up M 1 (fd_po [A, 1, 0] 0 3) 1 = [3, 1, 0] := fd_up_s
    have k0 : fd_up M 1 (fd_po [A, 1, 0] 0 3) 0 = W := by rw [fd_up_n (by omega), h0]
    refine fd_at (r := 0) (by omega) (by decide) (by decide) ?_
    have ev : fd_tN (fd_ev (fun i => s1 (12 * 0 + i)) ((-3 : Int32).toInt64)) = fd_cf QR.2 0 := by
      rw [fd_ev_N (W := W) (fun i hi => by rw [fd_rd h1' (k := 0) (by omega) (by omega), k0]), fd_m3z, c0]
    generalize fd_ev (fun i => s1 (12 * 0 + i)) ((-3 : Int32).toInt64) = th at ev
    have rgk : fd_kp QR.2 = fd_rg (fd_tN th) := by
      rw [ev]
      unfold fd_kp
      rw [fd_ble_t (by omega)]
      show fd_al QR.2 = _
      cases e : fd_rg (fd_cf QR.2 0) with
      | true =>
        cases e2 : fd_al QR.2 with
        | true => rfl
        | false =>
          obtain ⟨i, hi, hri⟩ := fd_al_f _ e2
          have ei : i = 0 := by omega
          rw [ei, e] at hri
          exact absurd hri (by simp)
      | false =>
        cases e2 : fd_al QR.2 with
        | false => rfl
        | true =>
          rw [fd_al_cf _ 0 e2] at e
          exact absurd e (by simp)
    refine fd_applyR (d := 3) (a := 0) (b := 1) (Q := QR.1) (R := QR.2) h1' (by omega) (by omega) (by omega) (by rw [k1]; rfl) (by rw [k0, k1]; exact ed) (fun hk M2 s2 f2 g2 h2 => ?_) (fun hk M2 s2 f2 h2 => ?_)
    · rw [rgk, fd_rg_iff] at hk
      refine br_f (fun z => ?_) (br_t (Int64.not_lt.mp hk.1) (fd_at (r := 3) (by omega) (by decide) (by decide) ?_))
      · exact absurd hk.2 (Int64.not_le.mpr z)
      · have gz : ∀ i, 1 ≤ i → i < 6 → (fun i => s2 (12 * 3 + i)) i = 0 := by
          intro i hi hi2
          refine fd_eq0.mpr ?_
          show fd_tN (s2 (12 * 3 + i)) = 0
          rw [fd_rd h2 (k := 3) (by omega) (by omega), g2]
          exact fd_ln_out _ _ (by omega)
        have e3 : s2 (12 * 3 + 0) = th := fd_inj (by rw [fd_rd h2 (k := 3) (by omega) (by omega), g2, ev])
        rw [fd_ev0 gz]
        refine br_t e3 (br_c (fun z => br_t ?_ (fd_L876 H)) (fun z => br_t ?_ (fd_L876 H)))
        · have z1 : fd_cf QR.2 0 = 0 := by
            rw [← ev]
            exact fd_eq0.mp z
          have l0 : fd_ln QR.2 = 0 := by
            rcases Nat.eq_zero_or_pos (fd_ln QR.2) with e | e
            · exact e
            · exact absurd z1 (fd_ln_top QR.2 0 (by omega))
          rw [l0]
          exact fd_di_0
        · have z1 : fd_cf QR.2 0 ≠ 0 := by
            rw [← ev]
            exact fun z' => z (fd_eq0.mpr z')
          have l0 : fd_ln QR.2 = 1 := by
            rcases Nat.eq_zero_or_pos (fd_ln QR.2) with e | e
            · exact absurd (fd_ln_out QR.2 0 (by omega)) z1
            · omega
          rw [l0]
          exact fd_di_s 0
    · rw [rgk] at hk
      refine br_c (fun z => br_t rfl (fd_L876 H)) (fun z => br_f (fun z2 => ?_) (br_t rfl (fd_L876 H)))
      have : fd_rg (fd_tN th) = true := (fd_rg_iff th).mpr ⟨Int64.not_lt.mpr z2, Int64.not_lt.mp z⟩
      rw [hk] at this
      exact absurd this (by simp)
/-- what the rows before leave in register 1 -/
def fd_p3 (F : List Nat) : Prop := ∀ A, fd_po (fd_po (fd_po F 2 0) 1 1) 0 A = [A, 1, 0]
theorem fd_p3_0 : fd_p3 [] := fun _ => rfl
theorem fd_p3_2 (x y : Nat) : fd_p3 [x, y] := fun _ => rfl
theorem fd_p3_3 (x y z : Nat) : fd_p3 [x, y, z] := fun _ => rfl
theorem fd_L672 {W : List Nat} {ia m deg : Nat} {x : Int32} (h : fd_RR M a1) (h0 : M 0 = W) (h1 : fd_p3 (M 1)) (hia : ia < 5) (hm : m < 10) (hdeg : deg ≤ 5) (hd0 : m ≠ 0 → deg ≠ 0) (hx1 : -20 < x.toInt) (hx2 : x.toInt < 20) (hq : m ≠ 0 → fd_q1 W deg (fd_v5 ia) = true) (hr : fd_r3 W = true) (H : post 1 ()) :
    wL_lawOf_672 post mc ms (fd_i5 ia) (nI m) (nI deg) x kc ks fc mo pr lc dc a1 a2 a3 a4 a5 a6 := by
  have hi5 := fd_i5_r ia hia
  have hi5b := fd_i5_b ia hia
  refine pk_le m 0 (fun _ => fd_L876 H) (fun z => ?_)
  have hq1 := hq (by omega)
  unfold fd_q1 at hq1
  cases ed : fd_dv W [fd_v5 ia, 1, 0] with
  | none =>
    rw [ed] at hq1
    exact absurd hq1 (by simp)
  | some QR =>
    rw [ed] at hq1
    have hq2 : (Nat.beq (fd_ln QR.2) 0 && (Nat.beq (fd_ln QR.1) deg && fd_idn W QR.1 (fd_v5 ia))) = true := hq1
    rw [Bool.and_eq_true, Bool.and_eq_true] at hq2
    have lR : fd_ln QR.2 = 0 := Nat.eq_of_beq_eq_true hq2.1
    have lQ : fd_ln QR.1 = deg := Nat.eq_of_beq_eq_true hq2.2.1
    obtain ⟨d', ed'⟩ := Nat.exists_eq_succ_of_ne_zero (hd0 (by omega))
    have ex : nI deg - 1 = fd_di deg := by
      rw [ed', fd_di_s]
      exact nI_pred d'
    refine fd_set (r := 1) (i := 2) h (by omega) (by omega) (by decide) (by decide) (fun s1 t1 => br_f (by decide) (fd_set (r := 1) (i := 1) t1 (by omega) (by omega) (by decide) (by decide) (fun s2 t2 => br_f (by decide) (fd_set (r := 1) (i := 0) t2 (by omega) (by omega) hi5.1 hi5.2 (fun s3 t3 => br_f (by decide) ?_)))))
    rw [fd_up_s, fd_up_up, fd_up_s, fd_up_up, fd_i0z, fd_i1z, fd_i5_v ia hia, h1] at t3
    have k1 : fd_up M 1 [fd_v5 ia, 1, 0] 1 = [fd_v5 ia, 1, 0] := fd_up_s
    have k0 : fd_up M 1 [fd_v5 ia, 1, 0] 0 = W := by rw [fd_up_n (by omega), h0]
    refine fd_applyQ (d := 3) (a := 0) (b := 1) (Q := QR.1) (R := QR.2) t3 (by omega) (by omega) (by omega) (by rw [k1]; show ¬ 2 = 0; omega) (by rw [k0, k1]; exact ed) lR (fun M4 s4 f4 g4 h4 => ?_) (fun M4 s4 f4 h4 => ?_)
    · have j0 : M4 0 = W := by rw [f4 0 (by omega) (by omega), k0]
      have j1 : M4 1 = [fd_v5 ia, 1, 0] := by rw [f4 1 (by omega) (by omega), k1]
      rw [lQ]
      refine br_t ex.symm (br_t ex.symm ?_)
      have b1 : ¬ x < -1000 := by
        rw [Int32.lt_iff_toInt_lt]
        show ¬ x.toInt < -1000
        omega
      have b2 : x ≤ 1000 := by
        rw [Int32.le_iff_toInt_le]
        show x.toInt ≤ 1000
        omega
      refine fd_at (r := 3) (by omega) b1 b2 (fd_at (r := 0) (by omega) b1 b2 (br_t ?_ (fd_L781 h4 j0 j1 hr H)))
      rw [fd_add64 (by omega) (by omega) (by omega) (by omega)]
      exact fd_id (W := W) (Q := QR.1) (r := fd_v5 ia) (fun i hi => by rw [fd_rd h4 (k := 0) (by omega) (by omega), j0]) (fun i hi => by rw [fd_rd h4 (k := 3) (by omega) (by omega), g4]) (fd_i5_v ia hia) hq2.2.2 (by omega)
    · have j0 : M4 0 = W := by rw [f4 0 (by omega), k0]
      have j1 : M4 1 = [fd_v5 ia, 1, 0] := by rw [f4 1 (by omega), k1]
      have ne : ¬ (-1001 : Int32) = nI deg - 1 := by
        rw [ex]
        intro z'
        have := fd_di_i (d := deg) (by omega)
        rw [← z'] at this
        have e : (-1001 : Int32).toInt = -1001 := by decide
        omega
      exact br_f ne (br_t rfl (br_f ne (fd_L781 h4 j0 j1 hr H)))
theorem fd_L573 {W : List Nat} {ia n m o deg due : Nat} {x : Int32} {G : List Nat} (h : fd_RR M a1) (h0 : M 0 = W) (h1 : fd_p3 (M 1)) (hia : ia < 5) (hn : n < 3) (hm : m < 10) (ho : o < 10) (hdeg : deg ≤ 5) (hd0 : m ≠ 0 → deg ≠ 0) (hG : fd_gg W (fd_der 1 (fd_tl W)) = some G) (hdue : deg ≠ 0 → fd_ln G = due + 1) (edue : due = m - 1 + (o - 1) + 2 * (n - 1)) (hq : m ≠ 0 → fd_q1 W deg (fd_v5 ia) = true) (hr : fd_r3 W = true) (H : post 1 ()) :
    wL_lawOf_573 post mc ms x (fd_i5 ia) (nI n) (nI m) (nI o) (nI deg) kc ks fc mo pr lc dc a1 a2 a3 a4 a5 a6 := by
  have hx := fd_rem20 x
  unfold wL_lawOf_573
  refine fd_derive (d := 3) (r := 0) h (by omega) (by omega) (fun M1 s1 f1 g1 h1' => ⟨by decide, nm_e ?_⟩) (fun M1 s1 f1 h1' => ⟨by decide, nm_e ?_⟩)
  · have k0 : M1 0 = W := by rw [f1 0 (by omega) (by omega), h0]
    have k1 : fd_p3 (M1 1) := by rw [f1 1 (by omega) (by omega)]; exact h1
    rw [h0] at g1
    refine br_c (fun _ => fd_L672 h1' k0 k1 hia hm hdeg hd0 hx.1 hx.2 hq hr H) (fun _ => ?_)
    refine fd_applyG (d := 3) (a := 0) (b := 3) (G := G) h1' (by omega) (by omega) (by omega) (by rw [k0, g1]; exact hG) (fun M2 s2 mo2 pr2 v hv f2 h2 => ?_)
    have j0 : M2 0 = W := by rw [f2 0 (by omega) (by omega), k0]
    have j1 : fd_p3 (M2 1) := by rw [f2 1 (by omega) (by omega)]; exact k1
    have fin : ∀ z0 z1 : Int32, z1 + z0 = nI due → wL_lawOf_647 post mc ms (fd_i5 ia) (nI m) (nI deg) (x - x / 20 * 20) v z0 z1 kc ks fc mo2 pr2 lc dc s2 a2 a3 a4 a5 a6 := by
      intro z0 z1 hz
      refine nm_r hz (pk_le deg 0 (fun _ => fd_L672 h2 j0 j1 hia hm hdeg hd0 hx.1 hx.2 hq hr H) (fun z => br_c (fun _ => fd_L672 h2 j0 j1 hia hm hdeg hd0 hx.1 hx.2 hq hr H) (fun z' => br_t ?_ (fd_L672 h2 j0 j1 hia hm hdeg hd0 hx.1 hx.2 hq hr H))))
      rcases hv with e | e
      · exact absurd e z'
      · rw [e, hdue (by omega), fd_di_s]
    have f635 : ∀ z0 z1 : Int32, z1 + z0 = nI (m - 1 + (o - 1)) → wL_lawOf_635 post mc ms (fd_i5 ia) (nI n) (nI m) (nI deg) (x - x / 20 * 20) v z0 z1 kc ks fc mo2 pr2 lc dc s2 a2 a3 a4 a5 a6 := by
      intro z0 z1 hz
      refine pk_le n 1 (fun z => fin 0 (z1 + z0) ?_) (fun z => fin 2 (z1 + z0) ?_)
      · rw [hz]
        show nI _ + nI 0 = _
        rw [nI_add]
        congr 1
        omega
      · rw [hz]
        show nI _ + nI 2 = _
        rw [nI_add]
        congr 1
        omega
    have f621 : ∀ z0 : Int32, z0 = nI (m - 1) → wL_lawOf_621 post mc ms (fd_i5 ia) (nI n) (nI m) (nI o) (nI deg) (x - x / 20 * 20) v z0 kc ks fc mo2 pr2 lc dc s2 a2 a3 a4 a5 a6 := by
      intro z0 hz
      refine pk_le o 1 (fun z => f635 0 z0 ?_) (fun z => f635 (nI o - 1) z0 ?_)
      · rw [hz]
        show nI _ + nI 0 = _
        rw [nI_add]
        congr 1
        omega
      · rw [hz]
        show nI _ + (nI o - nI 1) = _
        rw [pk_sub (by omega), nI_add]
    refine pk_le m 1 (fun z => f621 0 ?_) (fun z => f621 (nI m - 1) ?_)
    · rw [show m - 1 = 0 by omega]
      rfl
    · show nI m - nI 1 = _
      rw [pk_sub (by omega)]
  · have k0 : M1 0 = W := by rw [f1 0 (by omega), h0]
    have k1 : fd_p3 (M1 1) := by rw [f1 1 (by omega)]; exact h1
    exact br_t rfl (fd_L672 h1' k0 k1 hia hm hdeg hd0 hx.1 hx.2 hq hr H)
end
end
section
/-! the law's loops, and the whole -/
theorem fd_i5_lt : ∀ a, a < 5 → ∀ b, b < 5 → (fd_i5 a < fd_i5 b ↔ a < b) := by decide
theorem fd_i5_eq : ∀ a, a < 5 → ∀ b, b < 5 → (fd_i5 a = fd_i5 b ↔ a = b) := by decide
theorem fd_kp2 : ∀ j, j < 5 → fd_kp [fd_v5 j, 1] = true := by decide +kernel
theorem fd_kp3 : ∀ c, c < 5 → ∀ d, d < 4 → fd_kp (fd_qd c d) = true := by decide +kernel
theorem fd_d2 (v : Nat) : fd_di (fd_ln [v, 1]) = 1 := by
  have e : fd_ln [v, 1] = 2 := rfl
  rw [e]
  decide
theorem fd_d3 (c d : Nat) : fd_di (fd_ln (fd_qd c d)) = 2 := by
  have e : fd_ln (fd_qd c d) = 3 := rfl
  rw [e]
  decide
theorem fd_o1 {i j m o n : Nat} (h : i + j = m + o) : i + j + 2 * n = 2 * n + m + o := by omega
theorem fd_o2 {i j m o n : Nat} (h : i + j = m + o) (hs : m + o < 6 - 2 * n) : i + j + 2 * n ≤ 5 := by omega
theorem fd_o3 {i j m o n : Nat} (h : i + j = m + o) : i + j + n = n + m + o := by omega
theorem fd_o4 {m o n : Nat} (hs : m + o < 6 - 2 * n) : n + m + o ≤ 5 := by omega
theorem fd_o5 {m o n : Nat} (hs : m + o < 6 - 2 * n) : 2 * n + m + o ≤ 5 := by omega
theorem fd_o6 {m o n : Nat} : m ≠ 0 → 2 * n + m + o ≠ 0 := by omega
section
variable {fc lc dc : Int32} {mo pr : Int64} {a1 a3 : Nat → Int64} {a2 a4 a5 a6 : Nat → Int32} {M : Nat → List Nat}
variable {post : Int32 → St0 → Prop} {mc ms kc ks : Nat}
theorem fd_L523 {W L G : List Nat} {ia n m o deg due dif : Nat} {x : Int32} (h : fd_RR M a1) (h0 : M 0 = W) (h1 : fd_p3 (M 1)) (hia : ia < 5) (hn : n < 3) (hm : m < 10) (ho : o < 10) (hdeg : deg ≤ 5) (hd0 : m ≠ 0 → deg ≠ 0)
    (hL : (fd_ln W = 1 ∧ L = [1]) ∨ (2 ≤ fd_ln W ∧ fd_okc W = true ∧ fd_so (fd_mp W) = some L)) (hLl : fd_ln L = dif + 1) (edif : dif = min m 1 + min o 1 + 2 * min n 1)
    (hG : fd_gg W (fd_der 1 (fd_tl W)) = some G) (hdue : deg ≠ 0 → fd_ln G = due + 1) (edue : due = m - 1 + (o - 1) + 2 * (n - 1)) (hq : m ≠ 0 → fd_q1 W deg (fd_v5 ia) = true) (hr : fd_r3 W = true) (H : post 1 ()) (z0 : Int32) (hz0 : z0 = nI (min m 1)) :
    wL_lawOf_523 post mc ms x (fd_i5 ia) (nI n) (nI m) (nI o) (nI deg) z0 kc ks fc mo pr lc dc a1 a2 a3 a4 a5 a6 := by
  have f544 : ∀ z0 z1 : Int32, z1 + z0 = nI dif → wL_lawOf_544 post mc ms x (fd_i5 ia) (nI n) (nI m) (nI o) (nI deg) z0 z1 kc ks fc mo pr lc dc a1 a2 a3 a4 a5 a6 := by
    intro z0 z1 hz
    refine nm_r hz (fd_simple (d := 2) (r := 0) (L := L) h (by omega) (by omega) (by rw [h0]; exact hL) (fun M1 s1 mo1 pr1 v hv f1 t1 => ?_))
    have k0 : M1 0 = W := by rw [f1 0 (by omega) (by omega), h0]
    have k1 : fd_p3 (M1 1) := by rw [f1 1 (by omega) (by omega)]; exact h1
    refine br_c (fun _ => fd_L573 t1 k0 k1 hia hn hm ho hdeg hd0 hG hdue edue hq hr H) (fun z => br_t ?_ (fd_L573 t1 k0 k1 hia hn hm ho hdeg hd0 hG hdue edue hq hr H))
    rcases hv with e | e
    · exact absurd e z
    · rw [e, hLl, fd_di_s]
  have f533 : ∀ z0 z1 : Int32, z1 + z0 = nI (min m 1 + min o 1) → wL_lawOf_533 post mc ms x (fd_i5 ia) (nI n) (nI m) (nI o) (nI deg) z0 z1 kc ks fc mo pr lc dc a1 a2 a3 a4 a5 a6 := by
    intro z0 z1 hz
    refine pk_le n 0 (fun z => f544 0 (z1 + z0) ?_) (fun z => f544 2 (z1 + z0) ?_)
    · rw [hz]
      show nI _ + nI 0 = _
      rw [nI_add]
      congr 1
      omega
    · rw [hz]
      show nI _ + nI 2 = _
      rw [nI_add]
      congr 1
      omega
  refine pk_le o 0 (fun z => f533 0 z0 ?_) (fun z => f533 1 z0 ?_)
  · rw [hz0]
    show nI _ + nI 0 = _
    rw [nI_add]
    congr 1
    omega
  · rw [hz0]
    show nI _ + nI 1 = _
    rw [nI_add]
    congr 1
    omega
theorem fd_L338 {W L G : List Nat} {ia ic id lo hi i j n m o deg due dif : Nat} {x : Int32} (hia : ia < 5) (hic : ic < 5) (hid : id < 4) (hlo : lo < 5) (hhi : hi < 5) (hn : n < 3) (hij : i + j = m + o) (hs : n + m + o ≤ 5) (hdeg : deg ≤ 5) (hd0 : m ≠ 0 → deg ≠ 0)
    (hF : fd_Fok W (fd_Ff (fd_r2 lo i hi j) (List.replicate n (fd_qd ic id))))
    (hL : (fd_ln W = 1 ∧ L = [1]) ∨ (2 ≤ fd_ln W ∧ fd_okc W = true ∧ fd_so (fd_mp W) = some L)) (hLl : fd_ln L = dif + 1) (edif : dif = min m 1 + min o 1 + 2 * min n 1)
    (hG : fd_gg W (fd_der 1 (fd_tl W)) = some G) (hdue : deg ≠ 0 → fd_ln G = due + 1) (edue : due = m - 1 + (o - 1) + 2 * (n - 1)) (hq : m ≠ 0 → fd_q1 W deg (fd_v5 ia) = true) (hr : fd_r3 W = true) (H : post 1 ()) :
    ∀ (cnt k : Nat) (M : Nat → List Nat) (fc lc dc : Int32) (mo pr : Int64) (a1 a3 : Nat → Int64) (a2 a4 a5 a6 : Nat → Int32), k + cnt = n + m + o → fd_RR M a1 → M 0 = W → fd_p3 (M 1) →
    wL_lawOf_338 post mc ms x (fd_i5 ia) (fd_i5 ic) (nI (2 + id)) (nI n) (nI m) (nI o) (nI deg) (fd_i5 lo) (nI i) (fd_i5 hi) kc ks (cnt + 1) (nI k) fc mo pr lc dc a1 a2 a3 a4 a5 a6 := by
  have hFl := fd_Ff_len lo i hi j n (fd_qd ic id)
  have eN : nI n + nI m + nI o = nI (n + m + o) := by rw [nI_add, nI_add]
  intro cnt
  induction cnt with
  | zero =>
    intro k M fc lc dc mo pr a1 a3 a2 a4 a5 a6 hk h h0 h1
    refine pk_le (n + m + o) k (fun _ => ?_) (fun z => absurd z (by omega)) eN
    rw [eN]
    refine fd_factorN (d := 1) (r := 0) h (by omega) (by omega) (by rw [h0]; exact hF) (Or.inr (nI_nlt (by omega) (by omega))) (fun M1 s1 mo1 pr1 lc1 b1 b3 b4 b5 f1 t1 => br_t rfl ?_)
    refine fd_factorN (d := 1) (r := 0) t1 (by omega) (by omega) (by rw [f1 0 (by omega), h0]; exact hF) (Or.inl (by decide)) (fun M2 s2 mo2 pr2 lc2 c1 c3 c4 c5 f2 t2 => br_t rfl ?_)
    have k0 : M2 0 = W := by rw [f2 0 (by omega), f1 0 (by omega), h0]
    have k1 : fd_p3 (M2 1) := by rw [f2 1 (by omega), f1 1 (by omega)]; exact h1
    refine pk_le m 0 (fun z => ?_) (fun z => ?_)
    · exact fd_L523 t2 k0 k1 hia hn (by omega) (by omega) hdeg hd0 hL hLl edif hG hdue edue hq hr H 0 (by rw [show min m 1 = 0 by omega]; rfl)
    · exact fd_L523 t2 k0 k1 hia hn (by omega) (by omega) hdeg hd0 hL hLl edif hG hdue edue hq hr H 1 (by rw [show min m 1 = 1 by omega]; rfl)
  | succ cnt ih =>
    intro k M fc lc dc mo pr a1 a3 a2 a4 a5 a6 hk h h0 h1
    have emo : nI m + nI o = nI (m + o) := nI_add m o
    refine pk_le (n + m + o) k (fun z => absurd z (by omega)) (fun _ => pk_le (m + o) k (fun z => ?_) (fun z => ?_) emo) eN
    · have eR := fd_Ff_quad (lo := lo) (i := i) (hi := hi) (j := j) (n := n) (k := k) (q := fd_qd ic id) (by omega) (by omega)
      unfold wL_lawOf_366
      refine fd_factor (d := 1) (r := 0) (k := k) h (by omega) (by omega) (by rw [h0]; exact hF) (by omega) (by omega) (by rw [eR]; show 3 ≤ 6; omega) (by rw [eR]; exact fd_kp3 ic hic id hid) (fun M1 s1 mo1 pr1 lc1 b1 b3 b4 b5 f1 g1 t1 => ?_)
      rw [eR] at g1 ⊢
      have nx : wL_lawOf_338 post mc ms x (fd_i5 ia) (fd_i5 ic) (nI (2 + id)) (nI n) (nI m) (nI o) (nI deg) (fd_i5 lo) (nI i) (fd_i5 hi) kc ks (cnt + 1) (nI k + 1) (nI (fd_Ff (fd_r2 lo i hi j) (List.replicate n (fd_qd ic id))).length) mo1 pr1 lc1 dc s1 b1 b3 b4 b5 a6 := by
        rw [nI_1]
        exact ih (k + 1) M1 _ _ _ _ _ s1 b3 b1 b4 b5 a6 (by omega) t1 (by rw [f1 0 (by omega) (by omega), h0]) (by rw [g1]; exact fd_p3_3 _ _ _)
      refine br_t (fd_d3 _ _) (br_f (by decide) (br_t rfl (fd_get (r := 1) (i := 2) (v := 1) t1 (by omega) (by omega) (by rw [g1, fd_i1z]; rfl) (br_t rfl (fd_get (r := 1) (i := 1) (v := fd_i5 ic) t1 (by omega) (by omega) (by rw [g1, fd_i5_v ic hic]; rfl) (br_t rfl (fd_get (r := 1) (i := 0) (v := nI (2 + id)) t1 (by omega) (by omega) ?_ (br_t rfl (nm_e nx)))))))))
      rw [g1, fd_tN_nI (by omega)]
      show id + 2 = 2 + id
      omega
    · have eR := fd_Ff_lin (lo := lo) (i := i) (hi := hi) (j := j) (k := k) (qs := List.replicate n (fd_qd ic id)) (by omega)
      have hv : fd_kp [if k < i then fd_v5 lo else fd_v5 hi, 1] = true := by
        by_cases c : k < i
        · rw [if_pos c]
          exact fd_kp2 lo hlo
        · rw [if_neg c]
          exact fd_kp2 hi hhi
      unfold wL_lawOf_366
      refine fd_factor (d := 1) (r := 0) (k := k) h (by omega) (by omega) (by rw [h0]; exact hF) (by omega) (by omega) (by rw [eR]; show 2 ≤ 6; omega) (by rw [eR]; exact hv) (fun M1 s1 mo1 pr1 lc1 b1 b3 b4 b5 f1 g1 t1 => ?_)
      rw [eR] at g1 ⊢
      have nx : wL_lawOf_338 post mc ms x (fd_i5 ia) (fd_i5 ic) (nI (2 + id)) (nI n) (nI m) (nI o) (nI deg) (fd_i5 lo) (nI i) (fd_i5 hi) kc ks (cnt + 1) (nI k + 1) (nI (fd_Ff (fd_r2 lo i hi j) (List.replicate n (fd_qd ic id))).length) mo1 pr1 lc1 dc s1 b1 b3 b4 b5 a6 := by
        rw [nI_1]
        exact ih (k + 1) M1 _ _ _ _ _ s1 b3 b1 b4 b5 a6 (by omega) t1 (by rw [f1 0 (by omega) (by omega), h0]) (by rw [g1]; exact fd_p3_2 _ _)
      refine br_t (fd_d2 _) (br_t rfl (fd_get (r := 1) (i := 1) (v := 1) t1 (by omega) (by omega) (by rw [g1, fd_i1z]; rfl) (br_t rfl ?_)))
      by_cases c : k < i
      · rw [if_pos c] at g1
        refine fd_get (r := 1) (i := 0) (v := fd_i5 lo) t1 (by omega) (by omega) (by rw [g1, fd_i5_v lo hlo]; rfl) (pk_le i k (fun z' => absurd z' (by omega)) (fun _ => br_t rfl (br_f (by decide) (nm_e nx))))
      · rw [if_neg c] at g1
        refine fd_get (r := 1) (i := 0) (v := fd_i5 hi) t1 (by omega) (by omega) (by rw [g1, fd_i5_v hi hhi]; rfl) (pk_le i k (fun _ => br_t rfl (br_f (by decide) (nm_e nx))) (fun z' => absurd z' (by omega)))
end
/-- the words for the sign and the content -/
def fd_sg (s : Bool) : Int32 := cond s 1 (-1)
def fd_BS (s : Bool) (y : Nat) : Nat := cond s y (18446744073709551616 - y)
theorem fd_BS_v : ∀ s : Bool, ∀ y, y < 5 → 0 < y → fd_tN ((nI y * fd_sg s).toInt64) = fd_BS s y := by decide
theorem fd_BS_m : ∀ s : Bool, ∀ y, y < 5 → 0 < y → (y, fd_BS s y) ∈ fd_bs := by decide
theorem fd_al_of {L : List Nat} (h : ∀ i, i < L.length → fd_rg (fd_cf L i) = true) : fd_al L = true := by
  cases e : fd_al L with
  | true => rfl
  | false =>
    obtain ⟨i, hi, hr⟩ := fd_al_f L e
    have := fd_ln_le L
    rw [h i (by omega)] at hr
    exact absurd hr (by simp)
theorem fd_rr_t {a b m o : Nat} (h : a < b ∨ o = 0) : fd_rr a b m o = fd_r2 a m b o := by
  unfold fd_rr fd_r2
  have : (Nat.blt a b || Nat.beq o 0) = true := by
    rw [Bool.or_eq_true]
    rcases h with e | e
    · exact Or.inl (fd_blt_t e)
    · exact Or.inr (fd_beq_t e)
  rw [this]
  rfl
theorem fd_rr_f {a b m o : Nat} (h1 : ¬ a < b) (h2 : ¬ o = 0) : fd_rr a b m o = fd_r2 b o a m := by
  unfold fd_rr fd_r2
  rw [fd_blt_f (by omega), fd_beq_f h2]
  rfl
section
variable {fc lc dc : Int32} {mo pr : Int64} {a1 a3 : Nat → Int64} {a2 a4 a5 a6 : Nat → Int32} {M : Nat → List Nat}
variable {post : Int32 → St0 → Prop} {mc ms kc ks : Nat}
theorem fd_L141 {ia ib ic id n m o y : Nat} {s : Bool} {x : Int32} (hia : ia < 5) (hib : ib < 5) (hic : ic < 5) (hid : id < 4) (hn : n < 3) (hs : m + o < 6 - 2 * n) (hab : ia = ib → o = 0) (hy : y < 5) (hy0 : 0 < y) (H : post 1 ()) :
    ∀ (cnt k : Nat) (f : Int32) (M : Nat → List Nat) (fc lc dc : Int32) (mo pr : Int64) (a1 a3 : Nat → Int64) (a2 a4 a5 a6 : Nat → Int32), k + cnt = 2 * n + m + o + 1 → (f = 0 ∨ (f = 1 ∧ fd_RR M a1 ∧ M 1 = [] ∧ M 0 = fd_tb (fun q => fd_mul (fd_BS s y) (fd_coef (fd_v5 ia) m (fd_v5 ic) (id + 2) n (fd_v5 ib) o q)) k 0 ∧ ∀ q, q < k → fd_rg (fd_mul (fd_BS s y) (fd_coef (fd_v5 ia) m (fd_v5 ic) (id + 2) n (fd_v5 ib) o q)) = true)) →
    wL_lawOf_141 post mc ms x (fd_i5 ia) (fd_i5 ib) (fd_i5 ic) (nI (2 + id)) (nI n) (nI m) (nI o) (nI y) (fd_sg s) (nI (2 * n + m + o)) kc ks (cnt + 1) f (nI k) fc mo pr lc dc a1 a2 a3 a4 a5 a6 := by
  intro cnt
  induction cnt with
  | zero =>
    intro k f M fc lc dc mo pr a1 a3 a2 a4 a5 a6 hk hf
    refine pk_lt (2 * n + m + o) k (fun _ => ?_) (fun z => absurd z (by omega))
    rcases hf with e | ⟨e, h, h1, h0, hrg⟩
    · exact br_t e H
    · subst e
      refine br_f (by decide) ?_
      have ek : k = 2 * n + m + o + 1 := by omega
      have eB := fd_B_all (a := ia) (b := ib) (c := ic) (d := id) (n := n) (m := m) (o := o) hia hib hic hid hn hs hab
      have eW : fd_W (fd_rr ia ib m o) (List.replicate n (fd_qd ic id)) (fd_BS s y) = (fd_cs (fd_v5 ia) m (fd_v5 ic) (id + 2) n (fd_v5 ib) o (2 * n + m + o)).map (fd_mul (fd_BS s y)) := by
        unfold fd_W
        rw [eB]
      have lW : (fd_W (fd_rr ia ib m o) (List.replicate n (fd_qd ic id)) (fd_BS s y)).length = k := by
        rw [eW, List.length_map, ek]
        exact fd_tb_len _ _ _
      have cW : ∀ q, q < k → fd_cf (fd_W (fd_rr ia ib m o) (List.replicate n (fd_qd ic id)) (fd_BS s y)) q = fd_mul (fd_BS s y) (fd_coef (fd_v5 ia) m (fd_v5 ic) (id + 2) n (fd_v5 ib) o q) := by
        intro q hq
        rw [eW, fd_map_cf _ (fd_mul_0' _)]
        unfold fd_cs
        rw [fd_tb_cf _ _ _ _ (by show q < 2 * n + m + o + 1; omega), Nat.zero_add]
      have aW : fd_al (fd_W (fd_rr ia ib m o) (List.replicate n (fd_qd ic id)) (fd_BS s y)) = true := fd_al_of (fun q hq => by
        rw [lW] at hq
        rw [cW q hq]
        exact hrg q hq)
      have hM := fd_RR_c (k := 0) (L := fd_W (fd_rr ia ib m o) (List.replicate n (fd_qd ic id)) (fd_BS s y)) h (by omega) (fun j hj => by
        rw [h0]
        by_cases c : j < k
        · rw [cW j c, fd_tb_cf _ _ _ _ c, Nat.zero_add]
        · rw [fd_cf_big _ _ (by omega), fd_cf_big _ _ (by rw [fd_tb_len]; omega)])
      -- the two linear factors, in order
      have key : ∃ lo i hi j, lo < 5 ∧ hi < 5 ∧ (i = 0 ∨ j = 0 ∨ lo < hi) ∧ i + j = m + o ∧ fd_rr ia ib m o = fd_r2 lo i hi j ∧ (0 < m → (0 < i ∧ ia = lo) ∨ (0 < j ∧ ia = hi)) ∧ min i 1 + min j 1 = min m 1 + min o 1 ∧ i - 1 + (j - 1) = m - 1 + (o - 1) ∧
          (((ia < ib ∨ o = 0) ∧ lo = ia ∧ i = m ∧ hi = ib) ∨ (¬ ia < ib ∧ ¬ o = 0 ∧ lo = ib ∧ i = o ∧ hi = ia)) := by
        by_cases c : ia < ib ∨ o = 0
        · exact ⟨ia, m, ib, o, hia, hib, by omega, rfl, fd_rr_t c, fun z => Or.inl ⟨z, rfl⟩, rfl, rfl, Or.inl ⟨c, rfl, rfl, rfl⟩⟩
        · have c1 : ¬ ia < ib := fun z => c (Or.inl z)
          have c2 : ¬ o = 0 := fun z => c (Or.inr z)
          have c3 : ia ≠ ib := fun z => c2 (hab z)
          exact ⟨ib, o, ia, m, hib, hia, by omega, by omega, fd_rr_f c1 c2, fun z => Or.inr ⟨z, rfl⟩, by omega, by omega, Or.inr ⟨c1, c2, rfl, rfl, rfl⟩⟩
      obtain ⟨lo, i, hi, j, hlo, hhi, hlh, hij, er, hroot, hdif, hdue, hcase⟩ := key
      rw [er] at aW hM
      obtain ⟨rr, dif, r1, r2, edif, g1, g2, g3, g4, ⟨L, gL, gLl⟩, ⟨G, gG, gGl⟩, gq, gr⟩ := fd_T (BS := fd_BS s y) (y := y) hlo hhi hlh (fd_o2 hij hs) hic hid (fd_BS_m s y hy hy0) aW
      generalize fd_W (fd_r2 lo i hi j) (List.replicate n (fd_qd ic id)) (fd_BS s y) = W at hM g1 g2 g3 g4 gL gG gq gr
      have k0 : fd_up M 0 W 0 = W := fd_up_s
      have k1 : fd_up M 0 W 1 = [] := by rw [fd_up_n (by decide), h1]
      have eN : nI n + nI m + nI o = nI (n + m + o) := by rw [nI_add, nI_add]
      have hFl := fd_Ff_len lo i hi j n (fd_qd ic id)
      refine fd_degree (r := 0) hM (by decide) (br_t (by rw [k0, g1, fd_di_s, fd_o1 hij]) ?_)
      refine fd_content (r := 0) hM (by decide) (by rw [k0]; exact g2) (by rw [k0, g3]; exact Nat.lt_trans hy (by decide)) (br_t (by rw [k0, g3]) ?_)
      refine fd_factors (r := 0) (Fs := fd_Ff (fd_r2 lo i hi j) (List.replicate n (fd_qd ic id))) hM (by decide) (by rw [k0]; exact g4) (fun M1 s1 mo1 pr1 lc1 b1 b3 b4 b5 f1 t1 => br_t (by rw [eN, hFl, fd_o3 hij]) ?_)
      have j0 : M1 0 = W := by rw [f1 0 (by decide), k0]
      have j1 : fd_p3 (M1 1) := by rw [f1 1 (by decide), k1]; exact fd_p3_0
      have hq : m ≠ 0 → fd_q1 W (2 * n + m + o) (fd_v5 ia) = true := by
        intro z
        rw [← fd_o1 hij]
        rcases hroot (Nat.pos_of_ne_zero z) with ⟨p, e⟩ | ⟨p, e⟩
        · rw [e]
          exact gq _ (r1 p)
        · rw [e]
          exact gq _ (r2 p)
      have fin := fd_L338 (post := post) (mc := mc) (ms := ms) (kc := kc) (ks := ks) (W := W) (L := L) (G := G) (ia := ia) (ic := ic) (id := id) (lo := lo) (hi := hi) (i := i) (j := j) (n := n) (m := m) (o := o) (deg := 2 * n + m + o) (due := i - 1 + (j - 1) + 2 * (n - 1)) (dif := dif) (x := x) hia hic hid hlo hhi hn hij (fd_o4 hs) (fd_o5 hs) fd_o6 g4 gL gLl (by rw [edif, hdif]) gG (fun z => gGl (by rw [fd_o1 hij]; exact z)) (by rw [hdue]) hq gr H (n + m + o) 0 M1 (nI (fd_Ff (fd_r2 lo i hi j) (List.replicate n (fd_qd ic id))).length) lc1 dc mo1 pr1 s1 b3 b1 b4 b5 a6 (Nat.zero_add _) t1 j0 j1
      rcases hcase with ⟨c, e1, e2, e3⟩ | ⟨c1, c2, e1, e2, e3⟩
      · subst e1 e2 e3
        by_cases ca : lo < hi
        · have cI : fd_i5 lo < fd_i5 hi := (fd_i5_lt lo hia hi hib).mpr ca
          exact br_t cI (br_t cI (br_t cI ⟨_, fin⟩))
        · have cI : ¬ fd_i5 lo < fd_i5 hi := fun z => ca ((fd_i5_lt lo hia hi hib).mp z)
          have co : nI o = 0 := by
            rw [show o = 0 by omega]
            rfl
          exact br_f cI (br_t co (br_f cI (br_t co (br_f cI (br_t co ⟨_, fin⟩)))))
      · subst e1 e2 e3
        have cI : ¬ fd_i5 hi < fd_i5 lo := fun z => c1 ((fd_i5_lt hi hia lo hib).mp z)
        have co : ¬ nI i = 0 := nI_ne0 (by omega) (by omega)
        exact br_f cI (br_f co (br_f cI (br_f co (br_f cI (br_f co ⟨_, fin⟩)))))
  | succ cnt ih =>
    intro k f M fc lc dc mo pr a1 a3 a2 a4 a5 a6 hk hf
    refine pk_lt (2 * n + m + o) k (fun z => absurd z (by omega)) (fun _ => fd_coefW (by omega) (by omega) (by omega) (by omega) (fun r hr => nm_e ?_))
    have ed : fd_tN (nI (2 + id)).toInt64 = id + 2 := by
      rw [fd_tN_nI (by omega)]
      omega
    rw [fd_i5_v ia hia, fd_i5_v ib hib, fd_i5_v ic hic, ed] at hr
    have ev : fd_tN ((nI y * fd_sg s).toInt64 * r) = fd_mul (fd_BS s y) (fd_coef (fd_v5 ia) m (fd_v5 ic) (id + 2) n (fd_v5 ib) o k) := by
      rw [fd_tN_mul, fd_BS_v s y hy hy0, hr]
    generalize (nI y * fd_sg s).toInt64 * r = v at ev
    have bad : wL_lawOf_194 post mc ms (wL_lawOf_141 post mc ms x (fd_i5 ia) (fd_i5 ib) (fd_i5 ic) (nI (2 + id)) (nI n) (nI m) (nI o) (nI y) (fd_sg s) (nI (2 * n + m + o)) kc ks (cnt + 1)) x (fd_i5 ia) (fd_i5 ib) (fd_i5 ic) (nI (2 + id)) (nI n) (nI m) (nI o) (nI y) (fd_sg s) (nI (2 * n + m + o)) (nI k) v kc ks fc mo pr lc dc a1 a2 a3 a4 a5 a6 :=
      br_t rfl (nm_r (nI_1 k) (ih (k + 1) 0 M _ _ _ _ _ a1 a3 a2 a4 a5 a6 (by omega) (Or.inl rfl)))
    refine br_c (fun _ => bad) (fun z1 => br_c (fun z2 => ?_) (fun _ => bad))
    have hrk : fd_rg (fd_tN v) = true := (fd_rg_iff v).mpr ⟨Int64.not_lt.mpr z2, Int64.not_lt.mp z1⟩
    rcases hf with e | ⟨e, h, h1, h0, hrg⟩
    · subst e
      exact br_t rfl (nm_r (nI_1 k) (ih (k + 1) 0 M _ _ _ _ _ a1 a3 a2 a4 a5 a6 (by omega) (Or.inl rfl)))
    · subst e
      have hoki : fd_oki (fd_tN v) = true := by
        have := fd_tN_lt v
        unfold fd_rg at hrk
        unfold fd_oki
        by_cases c : fd_tN v ≤ 20
        · rw [fd_ble_f (by omega)]
          rfl
        · rw [fd_ble_f (by omega)] at hrk
          have c2 : 18446744073709551596 ≤ fd_tN v := Nat.le_of_ble_eq_true hrk
          rw [fd_ble_t (by omega), fd_ble_t (by omega)]
          rfl
      have e64 : v.toInt32.toInt64 = v := fd_i32 hoki
      have b1 : ¬ v.toInt32 < -20 := by
        intro z
        have h2 := (fd_rg_iff v).mp hrk
        apply h2.1
        rw [Int64.lt_iff_toInt_lt, ← e64, Int32.toInt_toInt64]
        rw [Int32.lt_iff_toInt_lt] at z
        exact z
      have b2 : v.toInt32 ≤ 20 := by
        have h2 := ((fd_rg_iff v).mp hrk).2
        rw [Int64.le_iff_toInt_le, ← e64, Int32.toInt_toInt64] at h2
        rw [Int32.le_iff_toInt_le]
        exact h2
      refine br_f (by decide) (fd_set (r := 0) (i := k) h (by omega) (by omega) b1 b2 (fun s2 t2 => br_f (by decide) (nm_r (nI_1 k) ?_)))
      rw [h0, e64, ev] at t2
      have t3 := fd_RR_c (k := 0) (L := fd_tb (fun q => fd_mul (fd_BS s y) (fd_coef (fd_v5 ia) m (fd_v5 ic) (id + 2) n (fd_v5 ib) o q)) (k + 1) 0) t2 (by rw [fd_tb_len]; omega) (fun j hj => by
        rw [fd_up_s, fd_po_cf]
        by_cases c : j = k
        · rw [if_pos c, fd_tb_cf _ _ _ _ (by omega), Nat.zero_add, c]
        · rw [if_neg c]
          by_cases c2 : j < k
          · rw [fd_tb_cf _ _ _ _ (by omega), fd_tb_cf _ _ _ _ c2]
          · rw [fd_cf_big _ _ (by rw [fd_tb_len]; omega), fd_cf_big _ _ (by rw [fd_tb_len]; omega)])
      rw [fd_up_up] at t3
      refine ih (k + 1) 1 _ _ _ _ _ _ s2 a3 a2 a4 a5 a6 (by omega) (Or.inr ⟨rfl, t3, by rw [fd_up_n (by omega), h1], fd_up_s, fun q hq => ?_⟩)
      by_cases c : q = k
      · rw [c, ← ev]
        exact hrk
      · exact hrg q (by omega)
end
end
section
/-! the owed statement -/
theorem fd_oneW (w : Int32) (k : Int32) : ∃ j, j < 5 ∧ (((w >>> ((4 * k) &&& 31)) &&& 15) - ((w >>> ((4 * k) &&& 31)) &&& 15) / 5 * 5) - 2 = fd_i5 j := by
  obtain ⟨u, hu, e⟩ := pk_andE (w >>> ((4 * k) &&& 31)) (m := 15) 4 (by decide)
  refine ⟨u % 5, by omega, ?_⟩
  rw [e]
  have := pk_rem (a := u) (d := 5) (by omega) (by omega) (by omega)
  unfold fd_i5
  rw [← this]
  rfl
theorem fd_RR0 : fd_RR (fun _ => []) (fun _ => 0) := fun k _ => ⟨by simp, fun i _ => by rw [fd_cf_nil]; exact fd_tN0⟩
theorem fd_L121 {post : Int32 → St0 → Prop} {mc ms kc ks : Nat} {ia ib ic id n m o y : Nat} {s : Bool} {x : Int32} (hia : ia < 5) (hib : ib < 5) (hic : ic < 5) (hid : id < 4) (hn : n < 3) (hs : m + o < 6 - 2 * n) (hab : ia = ib → o = 0) (hy : y < 5) (hy0 : 0 < y) (H : post 1 ()) (fc lc dc : Int32) (mo pr : Int64) (a2 a4 a5 a6 : Nat → Int32) (a3 : Nat → Int64) :
    wL_lawOf_121 post mc ms x (fd_i5 ia) (fd_i5 ib) (fd_i5 ic) (nI (2 + id)) (nI n) (nI m) (nI o) (nI y) (fd_sg s) kc ks fc mo pr lc dc (fun _ => 0) a2 a3 a4 a5 a6 := by
  have e : (2 : Int32) * nI n + nI m + nI o = nI (2 * n + m + o) := by
    show nI 2 * nI n + nI m + nI o = _
    rw [pk_mul, nI_add, nI_add]
  exact nm_r e ⟨_, fd_L141 hia hib hic hid hn hs hab hy hy0 H (2 * n + m + o + 1) 0 1 (fun _ => []) fc lc dc mo pr (fun _ => 0) a3 a2 a4 a5 a6 (by omega) (Or.inr ⟨rfl, fd_RR0, rfl, rfl, fun q hq => absurd hq (by omega)⟩)⟩
theorem fd_L101 {post : Int32 → St0 → Prop} {mc ms kc ks : Nat} {ia ib ic id n m o : Nat} {ct x : Int32} (hia : ia < 5) (hib : ib < 5) (hic : ic < 5) (hid : id < 4) (hn : n < 3) (hs : m + o < 6 - 2 * n) (hab : ia = ib → o = 0) (H : post 1 ()) (fc lc dc : Int32) (mo pr : Int64) (a2 a4 a5 a6 : Nat → Int32) (a3 : Nat → Int64) :
    wL_lawOf_101 post mc ms ct x (fd_i5 ia) (fd_i5 ib) (fd_i5 ic) (nI (2 + id)) (nI n) (nI m) (nI o) kc ks fc mo pr lc dc (fun _ => 0) a2 a3 a4 a5 a6 := by
  obtain ⟨u, hu, e⟩ := pk_andE ct (m := 3) 2 (by decide)
  have e1 : (1 : Int32) + (ct &&& 3) = nI (1 + u) := by
    rw [e]
    show nI 1 + nI u = _
    rw [nI_add]
  refine nm_r e1 (br_c (fun _ => ?_) (fun _ => ?_))
  · exact fd_L121 (s := true) hia hib hic hid hn hs hab (by omega) (by omega) H fc lc dc mo pr a2 a4 a5 a6 a3
  · exact fd_L121 (s := false) hia hib hic hid hn hs hab (by omega) (by omega) H fc lc dc mo pr a2 a4 a5 a6 a3
theorem fd_lawOf {post : Int32 → St0 → Prop} (w pw ct pk : Int32) (H : post 1 ()) : wpL_lawOf post 378 6048 () w pw ct pk := by
  refine ⟨by omega, by omega, 377, 6037, by omega, by omega, ?_⟩
  refine ⟨by omega, by omega, by omega, by omega, by omega, by omega, by omega, by omega, by omega, by omega, by omega, by omega, ?_⟩
  obtain ⟨ia, hia, ea⟩ := fd_oneW w 0
  obtain ⟨ib, hib, eb⟩ := fd_oneW w 1
  obtain ⟨ic, hic, ec⟩ := fd_oneW w 2
  obtain ⟨ud, hud, ed⟩ := pk_andE (w >>> ((12 : Int32) &&& 31)) (m := 255) 8 (by decide)
  obtain ⟨un, hun, en⟩ := pk_andE pw (m := 255) 8 (by decide)
  obtain ⟨um, hum, em⟩ := pk_andE (pw >>> ((8 : Int32) &&& 31)) (m := 255) 8 (by decide)
  obtain ⟨uo, huo, eo⟩ := pk_andE (pw >>> ((16 : Int32) &&& 31)) (m := 255) 8 (by decide)
  have gd : (2 : Int32) + (((w >>> ((12 : Int32) &&& 31)) &&& 255) - ((w >>> ((12 : Int32) &&& 31)) &&& 255) / 4 * 4) = nI (2 + ud % 4) := by
    rw [ed]
    have := pk_rem (a := ud) (d := 4) (by omega) (by omega) (by omega)
    show nI 2 + (nI ud - nI ud / nI 4 * nI 4) = _
    rw [this, nI_add]
  have gn : (pw &&& 255) - (pw &&& 255) / 3 * 3 = nI (un % 3) := by
    rw [en]
    exact pk_rem (a := un) (d := 3) (by omega) (by omega) (by omega)
  have hn3 : un % 3 < 3 := Nat.mod_lt _ (by omega)
  generalize un % 3 = n at gn hn3
  have g6 : (6 : Int32) - 2 * nI n = nI (6 - 2 * n) := by
    show nI 6 - nI 2 * nI n = _
    rw [pk_mul, pk_sub (by omega)]
  have gm : ((pw >>> ((8 : Int32) &&& 31)) &&& 255) - ((pw >>> ((8 : Int32) &&& 31)) &&& 255) / (6 - 2 * nI n) * (6 - 2 * nI n) = nI (um % (6 - 2 * n)) := by
    rw [em, g6]
    exact pk_rem (a := um) (d := 6 - 2 * n) (by omega) (by omega) (by omega)
  have hm6 : um % (6 - 2 * n) < 6 - 2 * n := Nat.mod_lt _ (by omega)
  generalize um % (6 - 2 * n) = m at gm hm6
  have g6m : (6 : Int32) - 2 * nI n - nI m = nI (6 - 2 * n - m) := by
    rw [g6, pk_sub (by omega)]
  have go : ((pw >>> ((16 : Int32) &&& 31)) &&& 255) - ((pw >>> ((16 : Int32) &&& 31)) &&& 255) / (6 - 2 * nI n - nI m) * (6 - 2 * nI n - nI m) = nI (uo % (6 - 2 * n - m)) := by
    rw [eo, g6m]
    exact pk_rem (a := uo) (d := 6 - 2 * n - m) (by omega) (by omega) (by omega)
  have ho6 : uo % (6 - 2 * n - m) < 6 - 2 * n - m := Nat.mod_lt _ (by omega)
  generalize uo % (6 - 2 * n - m) = o at go ho6
  have hd4 : ud % 4 < 4 := Nat.mod_lt _ (by omega)
  refine ⟨by decide, ⟨by decide, ⟨by decide, ⟨by decide, nm_r gd ⟨by decide, nm_r gn ⟨?_, nm_r gm ?_⟩⟩⟩⟩⟩⟩
  · rw [g6]
    exact nI_ne0 (by omega) (by omega)
  · rw [ea, eb, ec, go]
    refine br_c (fun z => ?_) (fun z => ⟨?_, ?_⟩)
    · exact fd_L101 (o := 0) hia hib hic hd4 hn3 (by omega) (fun _ => rfl) H _ _ _ _ _ _ _ _ _ _
    · rw [g6m]
      exact nI_ne0 (by omega) (by omega)
    · exact fd_L101 hia hib hic hd4 hn3 (by omega) (fun e => absurd ((fd_i5_eq ia hia ib hib).mpr e) z) H _ _ _ _ _ _ _ _ _ _
theorem i_vc (xs : Nat → Int32) (L : Nat) (hL : L ≤ 4) : wpL_law (fun r => r = 1) L xs := by
  have cell : ∀ (post : Int32 → Prop) (k : Nat), k < 4 → (∀ r, post r) → wpL_cellAt post L xs () (nI k) := by
    intro post k hk H
    exact pk_le L k (fun _ => H 0) (fun z => ⟨pk_in k L z, H _⟩)
  refine cell _ 0 (by omega) (fun r1 => cell _ 1 (by omega) (fun r2 => cell _ 2 (by omega) (fun r3 => cell _ 3 (by omega) (fun r4 => ⟨378, 6048, by omega, by omega, ?_⟩))))
  exact fd_lawOf r1 r2 r3 r4 rfl
end

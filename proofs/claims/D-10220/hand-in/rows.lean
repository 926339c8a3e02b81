section
/-! ===== counting ===== -/
/-- how many numbers below n are in P -/
def rc_cnt (P : Nat → Bool) : Nat → Nat
  | 0 => 0
  | n + 1 => rc_cnt P n + (P n).toNat
theorem rc_cnt_t {P : Nat → Bool} {n : Nat} (h : P n = true) : rc_cnt P (n + 1) = rc_cnt P n + 1 := by
  show rc_cnt P n + (P n).toNat = _
  rw [h]
  rfl
theorem rc_cnt_f {P : Nat → Bool} {n : Nat} (h : P n = false) : rc_cnt P (n + 1) = rc_cnt P n := by
  show rc_cnt P n + (P n).toNat = _
  rw [h]
  rfl
theorem rc_cnt_add (P : Nat → Bool) (a b : Nat) : rc_cnt P (a + b) = rc_cnt P a + rc_cnt (fun j => P (a + j)) b := by
  induction b with
  | zero => rfl
  | succ b ih =>
    show rc_cnt P (a + b) + (P (a + b)).toNat = rc_cnt P a + (rc_cnt (fun j => P (a + j)) b + (P (a + b)).toNat)
    rw [ih]
    omega
theorem rc_cnt_le (P : Nat → Bool) (n : Nat) : rc_cnt P n ≤ n := by
  induction n with
  | zero => exact Nat.le_refl 0
  | succ n ih =>
    show rc_cnt P n + (P n).toNat ≤ n + 1
    have h : (P n).toNat ≤ 1 := Bool.toNat_le (P n)
    omega
theorem rc_cnt_mono {P : Nat → Bool} {a b : Nat} (h : a ≤ b) : rc_cnt P a ≤ rc_cnt P b := by
  obtain ⟨c, rfl⟩ := Nat.le.dest h
  rw [rc_cnt_add]
  exact Nat.le_add_right _ _
theorem rc_cnt_congr {P Q : Nat → Bool} {n : Nat} (h : ∀ x, x < n → P x = Q x) : rc_cnt P n = rc_cnt Q n := by
  induction n with
  | zero => rfl
  | succ n ih =>
    show rc_cnt P n + (P n).toNat = rc_cnt Q n + (Q n).toNat
    rw [ih (fun x hx => h x (by omega)), h n (by omega)]
theorem rc_cnt_false {P : Nat → Bool} {n : Nat} (h : ∀ x, x < n → P x = false) : rc_cnt P n = 0 := by
  induction n with
  | zero => rfl
  | succ n ih => rw [rc_cnt_f (h n (by omega)), ih (fun x hx => h x (by omega))]
theorem rc_cnt_true {P : Nat → Bool} {n : Nat} (h : ∀ x, x < n → P x = true) : rc_cnt P n = n := by
  induction n with
  | zero => rfl
  | succ n ih => rw [rc_cnt_t (h n (by omega)), ih (fun x hx => h x (by omega))]
theorem rc_cnt_segF {P : Nat → Bool} {a b : Nat} (hab : a ≤ b) (h : ∀ x, a ≤ x → x < b → P x = false) : rc_cnt P b = rc_cnt P a := by
  obtain ⟨c, rfl⟩ := Nat.le.dest hab
  rw [rc_cnt_add, rc_cnt_false (fun x hx => h (a + x) (by omega) (by omega))]
  rfl
theorem rc_cnt_segT {P : Nat → Bool} {a b : Nat} (hab : a ≤ b) (h : ∀ x, a ≤ x → x < b → P x = true) : rc_cnt P b = rc_cnt P a + (b - a) := by
  obtain ⟨c, rfl⟩ := Nat.le.dest hab
  rw [rc_cnt_add, rc_cnt_true (fun x hx => h (a + x) (by omega) (by omega))]
  omega
/-! ===== Int32 by its bits (from the starting text BITS.to-paste) ===== -/
def rc_bt (x : Int32) (i : Nat) : Bool := x.toBitVec.getLsbD i
theorem rc_b_ext {x y : Int32} (h : ∀ i, i < 32 → rc_bt x i = rc_bt y i) : x = y := Int32.toBitVec_inj.mp (BitVec.eq_of_getLsbD_eq (fun i hi => h i hi))
theorem rc_b_or (x y : Int32) (i : Nat) : rc_bt (x ||| y) i = (rc_bt x i || rc_bt y i) := by unfold rc_bt; rw [Int32.toBitVec_or, BitVec.getLsbD_or]
theorem rc_b_and (x y : Int32) (i : Nat) : rc_bt (x &&& y) i = (rc_bt x i && rc_bt y i) := by unfold rc_bt; rw [Int32.toBitVec_and, BitVec.getLsbD_and]
theorem rc_b_xor (x y : Int32) (i : Nat) : rc_bt (x ^^^ y) i = (rc_bt x i ^^ rc_bt y i) := by unfold rc_bt; rw [Int32.toBitVec_xor, BitVec.getLsbD_xor]
theorem rc_b_big {x : Int32} {i : Nat} (h : 32 ≤ i) : rc_bt x i = false := BitVec.getLsbD_of_ge _ _ h
theorem rc_b_m1 : ∀ i, i < 32 → rc_bt (-1) i = true := by decide +kernel
theorem rc_b_0 (i : Nat) : rc_bt 0 i = false := BitVec.getLsbD_zero
theorem rc_b_not (x : Int32) {i : Nat} (hi : i < 32) : rc_bt (x ^^^ (-1)) i = !rc_bt x i := by
  rw [rc_b_xor, rc_b_m1 i hi, Bool.xor_true]
theorem rc_s_l : ∀ n, n < 32 → ((nI n &&& 31).toBitVec.smod 32).toNat = n := by decide +kernel
theorem rc_s_u : ∀ n, n < 32 → (((nI n).toUInt32 &&& Int32.toUInt32 31).toBitVec % 32).toNat = n := by decide +kernel
theorem rc_b_shl (n : Nat) (hn : n < 32) (x : Int32) {i : Nat} (hi : i < 32) : rc_bt (x <<< (nI n &&& 31)) i = (decide (n ≤ i) && rc_bt x (i - n)) := by
  unfold rc_bt
  rw [Int32.toBitVec_shiftLeft]
  show (x.toBitVec <<< ((nI n &&& 31).toBitVec.smod 32).toNat).getLsbD i = _
  rw [rc_s_l n hn, BitVec.getLsbD_shiftLeft]
  rcases Nat.lt_or_ge i n with h | h
  · simp [h, Nat.not_le.mpr h]
  · simp [hi, h, Nat.not_lt.mpr h]
theorem rc_b_ushr (n : Nat) (hn : n < 32) (x : Int32) (i : Nat) : rc_bt ((x.toUInt32 >>> ((nI n).toUInt32 &&& Int32.toUInt32 31)).toInt32) i = rc_bt x (n + i) := by
  show (x.toUInt32 >>> ((nI n).toUInt32 &&& Int32.toUInt32 31)).toBitVec.getLsbD i = x.toUInt32.toBitVec.getLsbD (n + i)
  rw [UInt32.toBitVec_shiftRight]
  show (x.toUInt32.toBitVec >>> (((nI n).toUInt32 &&& Int32.toUInt32 31).toBitVec % 32).toNat).getLsbD i = _
  rw [rc_s_u n hn, BitVec.getLsbD_ushiftRight]
/-- one bit, as the code asks for it -/
theorem rc_b_1 : ∀ i, i < 32 → rc_bt 1 i = decide (i = 0) := by decide +kernel
theorem rc_bit (x : Int32) {n : Nat} (hn : n < 32) : ((x.toUInt32 >>> ((nI n).toUInt32 &&& Int32.toUInt32 31)).toInt32 &&& 1) = 1 ↔ rc_bt x n = true := by
  have hb : ∀ i, i < 32 → rc_bt ((x.toUInt32 >>> ((nI n).toUInt32 &&& Int32.toUInt32 31)).toInt32 &&& 1) i = (rc_bt x n && decide (i = 0)) := by
    intro i hi
    rw [rc_b_and, rc_b_ushr n hn, rc_b_1 i hi]
    by_cases h : i = 0
    · rw [h, Nat.add_zero]
    · rw [decide_eq_false h, Bool.and_false, Bool.and_false]
  constructor
  · intro e
    have h0 := hb 0 (by omega)
    rw [e] at h0
    rw [show rc_bt 1 0 = true from by decide, decide_eq_true rfl, Bool.and_true] at h0
    exact h0.symm
  · intro e
    apply rc_b_ext
    intro i hi
    rw [hb i hi, e, rc_b_1 i hi, Bool.true_and]
/-- membership in four words from place b of an array on -/
def rc_mem (a : Nat → Int32) (b x : Nat) : Bool := rc_bt (a (b + x / 32)) (x % 32)
theorem rc_mem_w (a : Nat → Int32) (b w : Nat) {j : Nat} (hj : j < 32) : rc_mem a b (32 * w + j) = rc_bt (a (b + w)) j := by
  unfold rc_mem
  rw [show (32 * w + j) / 32 = w by omega, show (32 * w + j) % 32 = j by omega]
/-! ===== ones: the bit count ===== -/
def rc_un (x : Int32) : Nat := x.toBitVec.toNat
theorem rc_un_lt (x : Int32) : rc_un x < 4294967296 := x.toBitVec.isLt
theorem rc_un_and (x y : Int32) : rc_un (x &&& y) = rc_un x &&& rc_un y := by
  unfold rc_un
  rw [Int32.toBitVec_and, BitVec.toNat_and]
theorem rc_un_sub (x y : Int32) : rc_un (x - y) = (4294967296 - rc_un y + rc_un x) % 4294967296 := by
  unfold rc_un
  rw [Int32.toBitVec_sub, BitVec.toNat_sub]
theorem rc_un_add (x y : Int32) : rc_un (x + y) = (rc_un x + rc_un y) % 4294967296 := by
  unfold rc_un
  rw [Int32.toBitVec_add, BitVec.toNat_add]
theorem rc_un_mul (x y : Int32) : rc_un (x * y) = (rc_un x * rc_un y) % 4294967296 := by
  unfold rc_un
  rw [Int32.toBitVec_mul, BitVec.toNat_mul]
theorem rc_un_inj {x : Int32} {n : Nat} (h : rc_un x = n) : x = nI n := by
  subst h
  apply Int32.toBitVec_inj.1
  show x.toBitVec = BitVec.ofNat 32 x.toBitVec.toNat
  simp
theorem rc_sp (x m M : Nat) (hm : m < 256) : x &&& (m + 256 * M) = ((x % 256) &&& m) + 256 * ((x / 256) &&& M) := by
  have h1 : (x &&& (m + 256 * M)) % 2 ^ 8 = (x % 2 ^ 8) &&& ((m + 256 * M) % 2 ^ 8) := Nat.and_mod_two_pow
  have h2 : (x &&& (m + 256 * M)) / 2 ^ 8 = (x / 2 ^ 8) &&& ((m + 256 * M) / 2 ^ 8) := Nat.and_div_two_pow
  rw [show (2 : Nat) ^ 8 = 256 from rfl] at h1 h2
  rw [show (m + 256 * M) % 256 = m by omega] at h1
  rw [show (m + 256 * M) / 256 = M by omega] at h2
  rw [← Nat.mod_add_div (x &&& (m + 256 * M)) 256, h1, h2]
/-- a number of four bytes under a mask that is the same in each -/
theorem rc_sp4 (x m : Nat) (hm : m < 256) (hx : x < 4294967296) : x &&& (16843009 * m) = ((x % 256) &&& m) + 256 * ((x / 256 % 256) &&& m) + 65536 * ((x / 65536 % 256) &&& m) + 16777216 * ((x / 16777216) &&& m) := by
  rw [show 16843009 * m = m + 256 * (m + 256 * (m + 256 * m)) by omega, rc_sp _ _ _ hm, rc_sp _ _ _ hm, rc_sp _ _ _ hm, Nat.div_div_eq_div_mul, Nat.div_div_eq_div_mul]
  show _ + 256 * (_ + 256 * ((x / 65536 % 256 &&& m) + 256 * ((x / 16777216) &&& m))) = _
  generalize (x % 256) &&& m = a
  generalize (x / 256 % 256) &&& m = b
  generalize (x / 65536 % 256) &&& m = c
  generalize (x / 16777216) &&& m = d
  omega
/-- the three steps on one byte -/
def rc_g (b : Nat) : Nat := (b / 2) &&& 85
def rc_h (b : Nat) : Nat := b - rc_g b
def rc_k (b : Nat) : Nat := (rc_h b &&& 51) + ((rc_h b / 4) &&& 51)
def rc_p (b : Nat) : Nat := rc_k b % 16 + rc_k b / 16
theorem rc_g1 : ∀ b, b < 256 → ∀ c, c < 2 → (b / 2 + 128 * c) &&& 85 = rc_g b := by decide +kernel
theorem rc_g2 : ∀ b, b < 256 → rc_g b ≤ b := by decide +kernel
theorem rc_h1 : ∀ b, b < 256 → ∀ c, c < 4 → (b / 4 + 64 * c) &&& 51 = (b / 4) &&& 51 := by decide +kernel
theorem rc_k1 : ∀ b, b < 256 → rc_k b % 16 ≤ 4 ∧ rc_k b / 16 ≤ 4 := by decide +kernel
theorem rc_k2 : ∀ b, b < 69 → ∀ c, c < 5 → b % 16 ≤ 4 → (b + b / 16 + 16 * c) % 256 &&& 15 = b % 16 + b / 16 := by decide +kernel
theorem rc_p1 : ∀ b, b < 256 → rc_p b = rc_cnt (fun j => b.testBit j) 8 := by decide +kernel
theorem rc_o1 (b0 b1 b2 b3 n : Nat) (h0 : b0 < 256) (h1 : b1 < 256) (h2 : b2 < 256) (h3 : b3 < 256) (e : n = b0 + 256 * b1 + 65536 * b2 + 16777216 * b3) : (n / 2) &&& 1431655765 = rc_g b0 + 256 * rc_g b1 + 65536 * rc_g b2 + 16777216 * rc_g b3 := by
  rw [show 1431655765 = 16843009 * 85 from rfl, rc_sp4 _ _ (by omega) (by omega), show n / 2 % 256 = b0 / 2 + 128 * (b1 % 2) by omega, show n / 2 / 256 % 256 = b1 / 2 + 128 * (b2 % 2) by omega, show n / 2 / 65536 % 256 = b2 / 2 + 128 * (b3 % 2) by omega, show n / 2 / 16777216 = b3 / 2 + 128 * 0 by omega, rc_g1 b0 h0 _ (by omega), rc_g1 b1 h1 _ (by omega), rc_g1 b2 h2 _ (by omega), rc_g1 b3 h3 _ (by omega)]
theorem rc_o2 (b0 b1 b2 b3 n : Nat) (h0 : b0 < 256) (h1 : b1 < 256) (h2 : b2 < 256) (h3 : b3 < 256) (e : n = b0 + 256 * b1 + 65536 * b2 + 16777216 * b3) : (n &&& 858993459) + ((n / 4) &&& 858993459) = ((b0 &&& 51) + ((b0 / 4) &&& 51)) + 256 * ((b1 &&& 51) + ((b1 / 4) &&& 51)) + 65536 * ((b2 &&& 51) + ((b2 / 4) &&& 51)) + 16777216 * ((b3 &&& 51) + ((b3 / 4) &&& 51)) := by
  have A : n &&& 858993459 = (b0 &&& 51) + 256 * (b1 &&& 51) + 65536 * (b2 &&& 51) + 16777216 * (b3 &&& 51) := by
    rw [show 858993459 = 16843009 * 51 from rfl, rc_sp4 _ _ (by omega) (by omega), show n % 256 = b0 by omega, show n / 256 % 256 = b1 by omega, show n / 65536 % 256 = b2 by omega, show n / 16777216 = b3 by omega]
  have B : (n / 4) &&& 858993459 = ((b0 / 4) &&& 51) + 256 * ((b1 / 4) &&& 51) + 65536 * ((b2 / 4) &&& 51) + 16777216 * ((b3 / 4) &&& 51) := by
    rw [show 858993459 = 16843009 * 51 from rfl, rc_sp4 _ _ (by omega) (by omega), show n / 4 % 256 = b0 / 4 + 64 * (b1 % 4) by omega, show n / 4 / 256 % 256 = b1 / 4 + 64 * (b2 % 4) by omega, show n / 4 / 65536 % 256 = b2 / 4 + 64 * (b3 % 4) by omega, show n / 4 / 16777216 = b3 / 4 + 64 * 0 by omega, rc_h1 b0 h0 _ (by omega), rc_h1 b1 h1 _ (by omega), rc_h1 b2 h2 _ (by omega), rc_h1 b3 h3 _ (by omega)]
  rw [A, B]
  generalize b0 &&& 51 = c0
  generalize b1 &&& 51 = c1
  generalize b2 &&& 51 = c2
  generalize b3 &&& 51 = c3
  generalize (b0 / 4) &&& 51 = d0
  generalize (b1 / 4) &&& 51 = d1
  generalize (b2 / 4) &&& 51 = d2
  generalize (b3 / 4) &&& 51 = d3
  omega
theorem rc_nib {b : Nat} (h : b % 16 ≤ 4 ∧ b / 16 ≤ 4) : b < 69 := by omega
theorem rc_o3 (b0 b1 b2 b3 n : Nat) (h0 : b0 % 16 ≤ 4 ∧ b0 / 16 ≤ 4) (h1 : b1 % 16 ≤ 4 ∧ b1 / 16 ≤ 4) (h2 : b2 % 16 ≤ 4 ∧ b2 / 16 ≤ 4) (h3 : b3 % 16 ≤ 4 ∧ b3 / 16 ≤ 4) (e : n = b0 + 256 * b1 + 65536 * b2 + 16777216 * b3) : (n + n / 16) &&& 252645135 = (b0 % 16 + b0 / 16) + 256 * (b1 % 16 + b1 / 16) + 65536 * (b2 % 16 + b2 / 16) + 16777216 * (b3 % 16 + b3 / 16) := by
  have l0 := rc_nib h0
  have l1 := rc_nib h1
  have l2 := rc_nib h2
  have l3 := rc_nib h3
  have d : n / 16 = (b0 / 16 + 16 * (b1 % 16)) + 256 * (b1 / 16 + 16 * (b2 % 16)) + 65536 * (b2 / 16 + 16 * (b3 % 16)) + 16777216 * (b3 / 16) := by omega
  have s : n + n / 16 = (b0 + b0 / 16 + 16 * (b1 % 16)) + 256 * (b1 + b1 / 16 + 16 * (b2 % 16)) + 65536 * (b2 + b2 / 16 + 16 * (b3 % 16)) + 16777216 * (b3 + b3 / 16 + 16 * 0) := by omega
  rw [s, show 252645135 = 16843009 * 15 from rfl]
  have k0 := rc_k2 b0 l0 (b1 % 16) (by omega) h0.1
  have k1 := rc_k2 b1 l1 (b2 % 16) (by omega) h1.1
  have k2 := rc_k2 b2 l2 (b3 % 16) (by omega) h2.1
  have k3 := rc_k2 b3 l3 0 (by omega) h3.1
  have g0 : b0 + b0 / 16 + 16 * (b1 % 16) < 256 := by omega
  have g1 : b1 + b1 / 16 + 16 * (b2 % 16) < 256 := by omega
  have g2 : b2 + b2 / 16 + 16 * (b3 % 16) < 256 := by omega
  have g3 : b3 + b3 / 16 + 16 * 0 < 256 := by omega
  rw [Nat.mod_eq_of_lt g0] at k0
  rw [Nat.mod_eq_of_lt g1] at k1
  rw [Nat.mod_eq_of_lt g2] at k2
  rw [Nat.mod_eq_of_lt g3] at k3
  rw [← k0, ← k1, ← k2, ← k3]
  clear k0 k1 k2 k3 s d
  generalize b0 + b0 / 16 + 16 * (b1 % 16) = c0 at *
  generalize b1 + b1 / 16 + 16 * (b2 % 16) = c1 at *
  generalize b2 + b2 / 16 + 16 * (b3 % 16) = c2 at *
  generalize b3 + b3 / 16 + 16 * 0 = c3 at *
  clear h0 h1 h2 h3 l0 l1 l2 l3 e
  rw [rc_sp4 _ _ (by omega) (by omega), show (c0 + 256 * c1 + 65536 * c2 + 16777216 * c3) % 256 = c0 by omega, show (c0 + 256 * c1 + 65536 * c2 + 16777216 * c3) / 256 % 256 = c1 by omega, show (c0 + 256 * c1 + 65536 * c2 + 16777216 * c3) / 65536 % 256 = c2 by omega, show (c0 + 256 * c1 + 65536 * c2 + 16777216 * c3) / 16777216 = c3 by omega]
theorem rc_o4 (b0 b1 b2 b3 : Nat) (h0 : b0 ≤ 8) (h1 : b1 ≤ 8) (h2 : b2 ≤ 8) (h3 : b3 ≤ 8) : (b0 + 256 * b1 + 65536 * b2 + 16777216 * b3) * 16843009 % 4294967296 / 2 ^ 24 = b0 + b1 + b2 + b3 := by
  rw [show (2 : Nat) ^ 24 = 16777216 from rfl, show (b0 + 256 * b1 + 65536 * b2 + 16777216 * b3) * 16843009 = (b0 + 256 * (b0 + b1) + 65536 * (b0 + b1 + b2)) + 16777216 * (b0 + b1 + b2 + b3) + 4294967296 * ((b1 + b2 + b3) + 256 * (b2 + b3) + 65536 * b3) by omega, Nat.add_mul_mod_self_left]
  have hl : b0 + 256 * (b0 + b1) + 65536 * (b0 + b1 + b2) < 16777216 := by omega
  have hs : b0 + b1 + b2 + b3 ≤ 32 := by omega
  generalize b0 + 256 * (b0 + b1) + 65536 * (b0 + b1 + b2) = l at *
  generalize b0 + b1 + b2 + b3 = s at *
  rw [Nat.mod_eq_of_lt (by omega)]
  omega
theorem rc_o5 (w : Int32) (b0 b1 b2 b3 : Nat) (h0 : b0 < 256) (h1 : b1 < 256) (h2 : b2 < 256) (h3 : b3 < 256) (e : rc_un w = b0 + 256 * b1 + 65536 * b2 + 16777216 * b3) : rc_cnt (rc_bt w) 32 = rc_p b0 + rc_p b1 + rc_p b2 + rc_p b3 := by
  have hb : ∀ i, rc_bt w i = (rc_un w).testBit i := fun i => rfl
  have q : ∀ (i b : Nat), b = rc_un w / 2 ^ i % 2 ^ 8 → b < 256 → rc_cnt (fun j => rc_bt w (i + j)) 8 = rc_p b := by
    intro i b eb hb'
    rw [rc_p1 b hb']
    apply rc_cnt_congr
    intro x hx
    rw [hb, eb, Nat.testBit_mod_two_pow, Nat.testBit_div_two_pow, decide_eq_true hx, Bool.true_and, Nat.add_comm]
  rw [show (32 : Nat) = 8 + (8 + (8 + 8)) from rfl, rc_cnt_add, rc_cnt_add, rc_cnt_add]
  have q0 := q 0 b0 (by rw [show (2 : Nat) ^ 0 = 1 from rfl, show (2 : Nat) ^ 8 = 256 from rfl]; omega) h0
  have q1 := q 8 b1 (by rw [show (2 : Nat) ^ 8 = 256 from rfl]; omega) h1
  have q2 := q 16 b2 (by rw [show (2 : Nat) ^ 16 = 65536 from rfl, show (2 : Nat) ^ 8 = 256 from rfl]; omega) h2
  have q3 := q 24 b3 (by rw [show (2 : Nat) ^ 24 = 16777216 from rfl, show (2 : Nat) ^ 8 = 256 from rfl]; omega) h3
  have t0 : rc_cnt (fun j => rc_bt w (0 + j)) 8 = rc_cnt (rc_bt w) 8 := rc_cnt_congr (fun x _ => by rw [Nat.zero_add])
  have t2 : rc_cnt (fun j => rc_bt w (16 + j)) 8 = rc_cnt (fun j => rc_bt w (8 + (8 + j))) 8 := rc_cnt_congr (fun x _ => by show rc_bt w (16 + x) = rc_bt w (8 + (8 + x)); rw [show 16 + x = 8 + (8 + x) by omega])
  have t3 : rc_cnt (fun j => rc_bt w (24 + j)) 8 = rc_cnt (fun j => rc_bt w (8 + (8 + (8 + j)))) 8 := rc_cnt_congr (fun x _ => by show rc_bt w (24 + x) = rc_bt w (8 + (8 + (8 + x))); rw [show 24 + x = 8 + (8 + (8 + x)) by omega])
  rw [t0] at q0
  rw [t2] at q2
  rw [t3] at q3
  rw [q0, q1, q2, q3]
  omega
theorem rc_ones {post : Int32 → Prop} (w : Int32) (H : post (nI (rc_cnt (rc_bt w) 32))) : wpX_ones post () w := by
  unfold wpX_ones
  intro x1 e1 x2 e2 x3 e3
  have hw := rc_un_lt w
  have hE : ∃ b0 b1 b2 b3 : Nat, b0 < 256 ∧ b1 < 256 ∧ b2 < 256 ∧ b3 < 256 ∧ rc_un w = b0 + 256 * b1 + 65536 * b2 + 16777216 * b3 :=
    ⟨rc_un w % 256, rc_un w / 256 % 256, rc_un w / 65536 % 256, rc_un w / 16777216, by omega, by omega, by omega, by omega, by omega⟩
  obtain ⟨b0, b1, b2, b3, h0, h1, h2, h3, e⟩ := hE
  have u1 : rc_un x1 = rc_h b0 + 256 * rc_h b1 + 65536 * rc_h b2 + 16777216 * rc_h b3 := by
    have s : rc_un ((w.toUInt32 >>> ((1 : Int32).toUInt32 &&& Int32.toUInt32 31)).toInt32) = rc_un w / 2 := pk_ushr w 1 1 (by decide)
    rw [e1, rc_un_sub, rc_un_and, s, show rc_un 1431655765 = 1431655765 from by decide, rc_o1 b0 b1 b2 b3 _ h0 h1 h2 h3 e, e]
    have g0 := rc_g2 b0 h0
    have g1 := rc_g2 b1 h1
    have g2 := rc_g2 b2 h2
    have g3 := rc_g2 b3 h3
    unfold rc_h
    generalize rc_g b0 = c0 at *
    generalize rc_g b1 = c1 at *
    generalize rc_g b2 = c2 at *
    generalize rc_g b3 = c3 at *
    clear s e1 e2 e3 H
    omega
  have i0 : rc_h b0 < 256 := Nat.lt_of_le_of_lt (Nat.sub_le _ _) h0
  have i1 : rc_h b1 < 256 := Nat.lt_of_le_of_lt (Nat.sub_le _ _) h1
  have i2 : rc_h b2 < 256 := Nat.lt_of_le_of_lt (Nat.sub_le _ _) h2
  have i3 : rc_h b3 < 256 := Nat.lt_of_le_of_lt (Nat.sub_le _ _) h3
  have k0 := rc_k1 b0 h0
  have k1 := rc_k1 b1 h1
  have k2 := rc_k1 b2 h2
  have k3 := rc_k1 b3 h3
  have u2 : rc_un x2 = rc_k b0 + 256 * rc_k b1 + 65536 * rc_k b2 + 16777216 * rc_k b3 := by
    have s : rc_un ((x1.toUInt32 >>> ((2 : Int32).toUInt32 &&& Int32.toUInt32 31)).toInt32) = rc_un x1 / 4 := pk_ushr x1 2 2 (by decide)
    rw [e2, rc_un_add, rc_un_and, rc_un_and, s, show rc_un 858993459 = 858993459 from by decide, rc_o2 _ _ _ _ _ i0 i1 i2 i3 u1]
    show (rc_k b0 + 256 * rc_k b1 + 65536 * rc_k b2 + 16777216 * rc_k b3) % 4294967296 = _
    have l0 := rc_nib k0
    have l1 := rc_nib k1
    have l2 := rc_nib k2
    have l3 := rc_nib k3
    exact Nat.mod_eq_of_lt (by omega)
  have u3 : rc_un x3 = rc_p b0 + 256 * rc_p b1 + 65536 * rc_p b2 + 16777216 * rc_p b3 := by
    have s : rc_un ((x2.toUInt32 >>> ((4 : Int32).toUInt32 &&& Int32.toUInt32 31)).toInt32) = rc_un x2 / 16 := pk_ushr x2 4 4 (by decide)
    have l0 := rc_nib k0
    have l1 := rc_nib k1
    have l2 := rc_nib k2
    have l3 := rc_nib k3
    rw [e3, rc_un_and, rc_un_add, s, show rc_un 252645135 = 252645135 from by decide, Nat.mod_eq_of_lt (by omega), rc_o3 _ _ _ _ _ k0 k1 k2 k3 u2]
    rfl
  have j0 : rc_p b0 ≤ 8 := by unfold rc_p; omega
  have j1 : rc_p b1 ≤ 8 := by unfold rc_p; omega
  have j2 : rc_p b2 ≤ 8 := by unfold rc_p; omega
  have j3 : rc_p b3 ≤ 8 := by unfold rc_p; omega
  have u4 : rc_un (((x3 * 16843009).toUInt32 >>> ((24 : Int32).toUInt32 &&& Int32.toUInt32 31)).toInt32) = rc_cnt (rc_bt w) 32 := by
    have s : rc_un (((x3 * 16843009).toUInt32 >>> ((24 : Int32).toUInt32 &&& Int32.toUInt32 31)).toInt32) = rc_un (x3 * 16843009) / 2 ^ 24 := pk_ushr _ 24 24 (by decide)
    rw [s, rc_un_mul, u3, show rc_un 16843009 = 16843009 from by decide, rc_o4 _ _ _ _ j0 j1 j2 j3, rc_o5 w b0 b1 b2 b3 h0 h1 h2 h3 e]
  rw [rc_un_inj u4]
  exact H
end
section
/-! ===== indices ===== -/
theorem rc_e4 (s c : Nat) : (4 : Int32) * nI s + nI c = nI (4 * s + c) := by
  rw [show (4 : Int32) = nI 4 from rfl, pk_mul, nI_add]
theorem rc_e8 (k i : Nat) : (8 : Int32) * nI k + nI i = nI (8 * k + i) := by
  rw [show (8 : Int32) = nI 8 from rfl, pk_mul, nI_add]
theorem rc_m2 (i : Nat) : (2 : Int32) * nI i = nI (2 * i) := pk_mul 2 i
theorem rc_m4 (i : Nat) : (4 : Int32) * nI i = nI (4 * i) := pk_mul 4 i
theorem rc_m8 (i : Nat) : (8 : Int32) * nI i = nI (8 * i) := pk_mul 8 i
theorem rc_m32 (i : Nat) : (32 : Int32) * nI i = nI (32 * i) := pk_mul 32 i
theorem rc_m128 (i : Nat) : (128 : Int32) * nI i = nI (128 * i) := pk_mul 128 i
theorem rc_e82 (k i : Nat) : (8 : Int32) * nI k + 2 * nI i = nI (8 * k + 2 * i) := by
  rw [rc_m2, rc_e8]
theorem rc_e821 (k i : Nat) : (8 : Int32) * nI k + 2 * nI i + 1 = nI (8 * k + 2 * i + 1) := by
  rw [rc_e82, nI_1]
theorem rc_shr5 {x : Nat} (h : x < 2 ^ 31) : nI x >>> ((5 : Int32) &&& 31) = nI (x / 32) := pk_shrN h _ 5 (by decide)
theorem rc_shr7 {x : Nat} (h : x < 2 ^ 31) : nI x >>> ((7 : Int32) &&& 31) = nI (x / 128) := pk_shrN h _ 7 (by decide)
theorem rc_and31 {x : Nat} (h : x < 2 ^ 32) : nI x &&& 31 = nI (x % 32) := pk_andN h 5 (by decide)
/-! ===== small methods ===== -/
theorem rc_isSet {post : Int32 → Prop} {s : Nat} (hs : s < 3) (H : post 1) : wpX_isSet post () (nI s) :=
  pk_lt s 0 (fun z => absurd z (by omega)) (fun _ => pk_lt 2 s (fun z => absurd z (by omega)) (fun _ => H))
theorem rc_isNumber {post : Int32 → Prop} {x : Nat} (hx : x < 512) (H : post 1) : wpX_isNumber post () (nI x) :=
  pk_lt x 0 (fun z => absurd z (by omega)) (fun _ => pk_lt 511 x (fun z => absurd z (by omega)) (fun _ => H))
theorem rc_isRange {post : Int32 → Prop} {x y : Nat} (hxy : x ≤ y) (hy : y < 512) (H : post 1) : wpX_isRange post () (nI x) (nI y) :=
  pk_lt x 0 (fun z => absurd z (by omega)) (fun _ => pk_lt y x (fun z => absurd z (by omega)) (fun _ => pk_lt 511 y (fun z => absurd z (by omega)) (fun _ => H)))
theorem rc_1 {A B : Prop} (h : B) : ((1 : Int32) = 0 → A) ∧ (¬ (1 : Int32) = 0 → B) := br_f (by decide) h
/-- a sum of cells -/
def rc_sm (a : Nat → Int32) (b : Nat) : Nat → Int32
  | 0 => 0
  | n + 1 => rc_sm a b n + a (b + n)
theorem rc_sm_n {a : Nat → Int32} {b : Nat} (N : Nat → Nat) {n : Nat} (h : ∀ c, c < n → a (b + c) = nI (N c)) {T : Nat → Nat} (T0 : T 0 = 0) (hT : ∀ c, c < n → T (c + 1) = T c + N c) : rc_sm a b n = nI (T n) := by
  induction n with
  | zero => rw [T0]; rfl
  | succ n ih =>
    show rc_sm a b n + a (b + n) = _
    rw [ih (fun c hc => h c (by omega)) (fun c hc => hT c (by omega)), h n (by omega), nI_add, hT n (by omega)]
theorem rc_sm_congr {a a' : Nat → Int32} {b b' n : Nat} (h : ∀ c, c < n → a (b + c) = a' (b' + c)) : rc_sm a b n = rc_sm a' b' n := by
  induction n with
  | zero => rfl
  | succ n ih =>
    show rc_sm a b n + a (b + n) = rc_sm a' b' n + a' (b' + n)
    rw [ih (fun c hc => h c (by omega)), h n (by omega)]
theorem rc_total {post : Int32 → Prop} {s : Nat} {f0 : Int32} {a1 a2 a3 a4 a5 a6 a7 : Nat → Int32} (hs : s < 3) (H : post (rc_sm a2 (4 * s) 4)) : wpX_total post (f0, a1, a2, a3, a4, a5, a6, a7) (nI s) :=
  pk_loop (fun n i x => wX_total_4 post (nI s) f0 a1 a2 a3 a4 a5 a6 a7 n x (nI i)) (fun i x => x = rc_sm a2 (4 * s) i) 4 0 0 (by omega) rfl
    (fun n x h => pk_le 4 4 (fun _ => by rw [h]; exact H) (fun z => absurd z (by omega)))
    (fun n i x hi h hw => pk_le 4 i (fun z => absurd z (by omega)) (fun _ => ⟨pk_in (4 * s + i) 12 (by omega) (rc_e4 s i), nm_r (by rw [rc_e4, nI_clamp (by omega)]) (nm_r (nI_1 i) (hw _ (by rw [h]; rfl)))⟩))
/-- maskOf, whatever it answers -/
theorem rc_maskA {post : Int32 → Prop} (x0 x1 : Int32) (H : ∀ r, post r) : wpX_maskOf post () x0 x1 :=
  br_c (fun _ => br_c (fun _ => nm_e (H _)) (fun _ => H _)) (fun _ => br_c (fun _ => nm_e (H _)) (fun _ => H _))
theorem rc_hiB : ∀ n, n < 31 → ∀ j, j < 32 → rc_bt (((2 : Int32) <<< (nI n &&& 31)) - 1) j = decide (j ≤ n) := by decide +kernel
theorem rc_loB : ∀ n, n < 32 → ∀ j, j < 32 → rc_bt (((1 : Int32) <<< (nI n &&& 31)) - 1) j = decide (j < n) := by decide +kernel
theorem rc_mask15 {post : Int32 → Prop} {x0 z0 : Int32} {f t w : Nat} (h0 : (f ≤ 32 * w ∧ ¬ 0 < x0) ∨ (32 * w < f ∧ x0 = nI (f - 32 * w))) (hf : f / 32 ≤ w) (hz : ∀ j, j < 32 → rc_bt z0 j = decide (32 * w + j ≤ t)) (H : ∀ r, (∀ j, j < 32 → rc_bt r j = decide (f ≤ 32 * w + j ∧ 32 * w + j ≤ t)) → post r) : wX_maskOf_15 post x0 z0 := by
  rcases h0 with ⟨h, g⟩ | ⟨h, g⟩
  · refine br_f g (H _ (fun j hj => ?_))
    rw [rc_b_and, hz j hj, rc_b_not _ hj, rc_b_0, Bool.not_false, Bool.and_true]
    exact decide_eq_decide.mpr (by omega)
  · refine br_t (by rw [g]; exact nI_lt (a := 0) (by omega) (by omega)) (nm_e (H _ (fun j hj => ?_)))
    rw [rc_b_and, hz j hj, rc_b_not _ hj, g, rc_loB _ (by omega) j hj, ← decide_not, ← Bool.decide_and]
    exact decide_eq_decide.mpr (by omega)
/-- maskOf: the bits of word w between f and t -/
theorem rc_mask {post : Int32 → Prop} {x0 x1 : Int32} {f t w : Nat} (h0 : (f ≤ 32 * w ∧ ¬ 0 < x0) ∨ (32 * w < f ∧ x0 = nI (f - 32 * w))) (h1 : x1 = nI (t - 32 * w)) (hf : f / 32 ≤ w) (ht : 32 * w ≤ t) (ht2 : t < 1024) (H : ∀ r, (∀ j, j < 32 → rc_bt r j = decide (f ≤ 32 * w + j ∧ 32 * w + j ≤ t)) → post r) : wpX_maskOf post () x0 x1 := by
  refine pk_lt (t - 32 * w) 31 (fun z => rc_mask15 h0 hf (fun j hj => ?_) H) (fun z => rc_mask15 h0 hf (fun j hj => ?_) H) h1
  · rw [h1, rc_hiB _ z j hj]
    exact decide_eq_decide.mpr (by omega)
  · rw [rc_b_m1 j hj]
    exact (decide_eq_true (by omega)).symm
/-- the lower end of a mask, as load asks for it -/
theorem rc_low {f w : Nat} (hf : f < 128) (hw : w < 4) : (f ≤ 32 * w ∧ ¬ 0 < nI f - 32 * nI w) ∨ (32 * w < f ∧ nI f - 32 * nI w = nI (f - 32 * w)) := by
  rw [rc_m32]
  by_cases h : f ≤ 32 * w
  · refine Or.inl ⟨h, fun z => ?_⟩
    rw [Int32.lt_iff_toInt_lt, pk_sub_toInt (by omega) (by omega), show (0 : Int32).toInt = 0 from by decide] at z
    omega
  · exact Or.inr ⟨by omega, pk_sub (by omega)⟩
theorem rc_inB {post : Int32 → Prop} {f0 : Int32} {a1 a2 a3 a4 a5 a6 a7 : Nat → Int32} {x : Nat} (hx : x < 128) (H1 : rc_mem a5 0 x = true → post 1) (H0 : rc_mem a5 0 x = false → post 0) : wpX_inBuffer post (f0, a1, a2, a3, a4, a5, a6, a7) (nI x) := by
  unfold wpX_inBuffer
  dsimp only
  rw [rc_shr5 (by omega), rc_and31 (by omega), nI_clamp (by omega)]
  refine ⟨pk_in (x / 32) 8 (by omega), ek_if (rc_bit _ (by omega)) (fun h => H1 ?_) (fun h => H0 ?_)⟩
  · unfold rc_mem
    rw [Nat.zero_add]
    exact h
  · unfold rc_mem
    rw [Nat.zero_add]
    exact Bool.eq_false_iff.mpr h
theorem rc_combine {post : Int32 → Prop} (x y z : Int32) (H : ∀ r, post r) : wpX_combine post () x y z :=
  br_c (fun _ => H _) (fun _ => br_c (fun _ => H _) (fun _ => br_c (fun _ => H _) (fun _ => H _)))
theorem rc_win {x : Int32} (h1 : ¬ x < (-1)) (h2 : ¬ 15 ≤ x) : vp_in (x + 1) 16 := by
  rw [Int32.lt_iff_toInt_lt, show (-1 : Int32).toInt = -1 from by decide] at h1
  rw [Int32.le_iff_toInt_le, show (15 : Int32).toInt = 15 from by decide] at h2
  rw [vp_in_iff, Int32.toInt_add, show (1 : Int32).toInt = 1 from by decide, Int.bmod_eq_of_le (by omega) (by omega)]
  omega
theorem rc_win2 {x : Int32} (h1 : ¬ x < 0) (h2 : ¬ 16 ≤ x) : vp_in x 16 := by
  rw [Int32.lt_iff_toInt_lt, show (0 : Int32).toInt = 0 from by decide] at h1
  rw [Int32.le_iff_toInt_le, show (16 : Int32).toInt = 16 from by decide] at h2
  rw [vp_in_iff]
  omega
theorem rc_wAt54 {post : Int32 → Prop} {f0 x3 x4 z0 : Int32} {a1 a2 a3 a4 a5 a6 a7 : Nat → Int32} (H : ∀ r, post r) : wX_wordAt_54 post x3 x4 z0 f0 a1 a2 a3 a4 a5 a6 a7 :=
  br_c (fun _ => H _) (fun _ => H _)
theorem rc_wAt29 {post : Int32 → Prop} {f0 x2 x3 z0 : Int32} {a1 a2 a3 a4 a5 a6 a7 : Nat → Int32} (H : ∀ r, post r) : wX_wordAt_29 post x2 x3 z0 f0 a1 a2 a3 a4 a5 a6 a7 :=
  br_c (fun _ => rc_wAt54 H) (fun h1 => br_c (fun _ => rc_wAt54 H) (fun h2 => ⟨rc_win h1 h2, rc_wAt54 H⟩))
theorem rc_wordAt {post : Int32 → Prop} {f0 : Int32} {a1 a2 a3 a4 a5 a6 a7 : Nat → Int32} (x : Int32) (H : ∀ r, post r) : wpX_wordAt post (f0, a1, a2, a3, a4, a5, a6, a7) x := by
  unfold wpX_wordAt
  dsimp only
  intro y _ z _
  exact br_c (fun _ => rc_wAt29 H) (fun h1 => br_c (fun _ => rc_wAt29 H) (fun h2 => ⟨rc_win2 h1 h2, rc_wAt29 H⟩))
end
section
/-! ===== what a chunk stands for ===== -/
/-- a list: the numbers of P in order -/
def rc_L (a3 a4 : Nat → Int32) (k : Nat) (P : Nat → Bool) : Prop := a3 k = nI (rc_cnt P 128) ∧ rc_cnt P 128 ≤ 8 ∧ ∀ i, i < rc_cnt P 128 → ∃ x, x < 128 ∧ a4 (8 * k + i) = nI x ∧ P x = true ∧ rc_cnt P x = i
/-- a map of four words -/
def rc_M (a3 a4 : Nat → Int32) (k : Nat) (P : Nat → Bool) : Prop := a3 k = nI 4 ∧ ∀ x, x < 128 → rc_mem a4 (8 * k) x = P x
/-- m runs: run i lies from f i to e (i + 1) - 1, outside of them nothing below e m -/
def rc_Rn (a4 : Nat → Int32) (k : Nat) (P : Nat → Bool) (m : Nat) (f e : Nat → Nat) : Prop := e 0 = 0 ∧ ∀ i, i < m → e i ≤ f i ∧ f i < e (i + 1) ∧ e (i + 1) ≤ 128 ∧ a4 (8 * k + 2 * i) = nI (f i) ∧ a4 (8 * k + 2 * i + 1) = nI (e (i + 1) - 1) ∧ (∀ x, e i ≤ x → x < f i → P x = false) ∧ (∀ x, f i ≤ x → x < e (i + 1) → P x = true)
def rc_R (a3 a4 : Nat → Int32) (k : Nat) (P : Nat → Bool) : Prop := ∃ (m : Nat) (f e : Nat → Nat), m ≤ 4 ∧ a3 k = nI m ∧ rc_Rn a4 k P m f e ∧ ∀ x, e m ≤ x → x < 128 → P x = false
/-- chunk k stands for P -/
def rc_C (a1 a2 a3 a4 : Nat → Int32) (k : Nat) (P : Nat → Bool) : Prop := a2 k = nI (rc_cnt P 128) ∧ ((a1 k = nI 0 ∧ rc_L a3 a4 k P) ∨ (a1 k = nI 1 ∧ rc_M a3 a4 k P) ∨ (a1 k = nI 2 ∧ rc_R a3 a4 k P))
/-- every chunk stands for something -/
def rc_V (a1 a2 a3 a4 : Nat → Int32) : Prop := ∀ k, k < 12 → ∃ P, rc_C a1 a2 a3 a4 k P
theorem rc_cnt_inj {P : Nat → Bool} {x y : Nat} (hx : P x = true) (hy : P y = true) (h : rc_cnt P x = rc_cnt P y) : x = y := by
  rcases Nat.lt_trichotomy x y with g | g | g
  · have h1 := rc_cnt_mono (P := P) (show x + 1 ≤ y from g)
    rw [rc_cnt_t hx] at h1
    omega
  · exact g
  · have h1 := rc_cnt_mono (P := P) (show y + 1 ≤ x from g)
    rw [rc_cnt_t hy] at h1
    omega
theorem rc_cnt_lt {P : Nat → Bool} {x n : Nat} (hx : P x = true) (h : x < n) : rc_cnt P x < rc_cnt P n := by
  have h1 := rc_cnt_mono (P := P) (show x + 1 ≤ n from h)
  rw [rc_cnt_t hx] at h1
  omega
/-! ===== words of a buffer ===== -/
theorem rc_memOr (s : Nat → Int32) (b w x : Nat) (r : Int32) : rc_mem (upd s (b + w) (s (b + w) ||| r)) b x = (rc_mem s b x || (decide (x / 32 = w) && rc_bt r (x % 32))) := by
  unfold rc_mem
  by_cases h : x / 32 = w
  · rw [h, pk_us, rc_b_or, decide_eq_true rfl, Bool.true_and]
  · rw [pk_un (by omega), decide_eq_false h, Bool.false_and, Bool.or_false]
theorem rc_b_one : ∀ n, n < 32 → ∀ j, j < 32 → rc_bt ((1 : Int32) <<< (nI n &&& 31)) j = decide (j = n) := by decide +kernel
theorem rc_memSet (s : Nat → Int32) (b y x : Nat) : rc_mem (upd s (b + y / 32) (s (b + y / 32) ||| ((1 : Int32) <<< (nI (y % 32) &&& 31)))) b x = (rc_mem s b x || decide (x = y)) := by
  rw [rc_memOr, rc_b_one _ (by omega) _ (by omega), ← Bool.decide_and]
  congr 1
  exact decide_eq_decide.mpr (by omega)
/-- the buffer's words at b .. b + 3 are X, the others as in a -/
def rc_B (a s : Nat → Int32) (b : Nat) (X : Nat → Bool) : Prop := (∀ x, x < 128 → rc_mem s b x = X x) ∧ ∀ j, (j < b ∨ b + 4 ≤ j) → s j = a j
theorem rc_B_or {a s : Nat → Int32} {b w : Nat} {X Y : Nat → Bool} {r : Int32} (h : rc_B a s b X) (hw : w < 4) (hY : ∀ x, x < 128 → Y x = (X x || (decide (x / 32 = w) && rc_bt r (x % 32)))) : rc_B a (upd s (b + w) (s (b + w) ||| r)) b Y := by
  refine ⟨fun x hx => ?_, fun j hj => ?_⟩
  · rw [rc_memOr, h.1 x hx, hY x hx]
  · rw [pk_un (by omega), h.2 j hj]
/-! ===== load ===== -/
section
variable {post : St1 → Prop} {f0 : Int32} {a1 a2 a3 a4 a5 a6 a7 : Nat → Int32} {k b : Nat} {P : Nat → Bool}
theorem rc_load57 (hk : k < 12) (hb : b ≤ 4) (hL : rc_L a3 a4 k P) {s : Nat → Int32} (hs : rc_B a5 s b (fun _ => false)) (H : ∀ s', rc_B a5 s' b P → post (f0, a1, a2, a3, a4, s', a6, a7)) : ∃ n, wX_load_57 post (nI k) (nI b) f0 n 0 a1 a2 a3 a4 s a6 a7 := by
  obtain ⟨h3, h8, hc⟩ := hL
  have ek : (nI k).toNatClampNeg = k := nI_clamp (by omega)
  refine pk_loop (fun n i s => wX_load_57 post (nI k) (nI b) f0 n (nI i) a1 a2 a3 a4 s a6 a7) (fun i s => rc_B a5 s b (fun x => P x && decide (rc_cnt P x < i))) (rc_cnt P 128) 0 s (by omega) ?_ ?_ ?_
  · refine ⟨fun x hx => ?_, hs.2⟩
    rw [hs.1 x hx]
    dsimp only
    rw [decide_eq_false (by omega), Bool.and_false]
  · intro n s h
    refine ⟨pk_in k 12 hk, pk_le (rc_cnt P 128) (rc_cnt P 128) (fun _ => H s ⟨fun x hx => ?_, h.2⟩) (fun z => absurd z (by omega)) (by rw [ek, h3])⟩
    rw [h.1 x hx]
    dsimp only
    cases hP : P x
    · rfl
    · rw [decide_eq_true (rc_cnt_lt hP hx)]
      rfl
  · intro n i s hi h hw
    obtain ⟨y, hy, e, hPy, hcy⟩ := hc i hi
    refine ⟨pk_in k 12 hk, pk_le (rc_cnt P 128) i (fun z => absurd z (by omega)) (fun _ => ⟨pk_in (8 * k + i) 96 (by omega) (rc_e8 k i), nm_r (e' := nI y) (by rw [rc_e8, nI_clamp (by omega), e]) ?_⟩) (by rw [ek, h3])⟩
    have eb : nI b + nI y >>> ((5 : Int32) &&& 31) = nI (b + y / 32) := by rw [rc_shr5 (by omega), nI_add]
    refine ⟨pk_in (b + y / 32) 8 (by omega) eb, pk_in (b + y / 32) 8 (by omega) eb, nm_r (by rw [eb, nI_clamp (by omega), rc_and31 (by omega)]) (nm_r (nI_1 i) (hw _ ?_))⟩
    refine rc_B_or h (by omega) (fun x hx => ?_)
    rw [rc_b_one _ (by omega) _ (by omega), ← Bool.decide_and]
    have ex : decide (x / 32 = y / 32 ∧ x % 32 = y % 32) = decide (x = y) := decide_eq_decide.mpr (by omega)
    rw [ex]
    by_cases g : x = y
    · rw [g, hPy, decide_eq_true (show rc_cnt P y < i + 1 by omega), decide_eq_true (rfl : y = y), Bool.or_true]
      rfl
    · rw [decide_eq_false g, Bool.or_false]
      cases hP : P x
      · rfl
      · rw [Bool.true_and, Bool.true_and]
        refine decide_eq_decide.mpr ⟨fun z => ?_, fun z => by omega⟩
        rcases Nat.lt_or_ge (rc_cnt P x) i with z2 | z2
        · exact z2
        · exact absurd (rc_cnt_inj hP hPy (by omega)) g
theorem rc_load179 {J : Int32 → (Nat → Int32) → (Nat → Int32) → (Nat → Int32) → (Nat → Int32) → (Nat → Int32) → (Nat → Int32) → (Nat → Int32) → Prop} (hb : b ≤ 4) {i f t : Nat} {X : Nat → Bool} (hft : f ≤ t) (ht : t < 128) {s : Nat → Int32} (hs : rc_B a5 s b X) (H : ∀ s', rc_B a5 s' b (fun x => X x || decide (f ≤ x ∧ x ≤ t)) → J (nI (i + 1)) a1 a2 a3 a4 s' a6 a7) : ∃ n, wX_load_179 post J (nI k) (nI b) (nI i) (nI f) (nI t) f0 n (nI (f / 32)) a1 a2 a3 a4 s a6 a7 := by
  have et : nI t >>> ((5 : Int32) &&& 31) = nI (t / 32) := rc_shr5 (by omega)
  refine pk_loop (fun n w s => wX_load_179 post J (nI k) (nI b) (nI i) (nI f) (nI t) f0 n (nI w) a1 a2 a3 a4 s a6 a7) (fun w s => f / 32 ≤ w ∧ rc_B a5 s b (fun x => X x || decide (f ≤ x ∧ x ≤ t ∧ x / 32 < w))) (t / 32 + 1) (f / 32) s (by omega) ?_ ?_ ?_
  · refine ⟨Nat.le_refl _, fun x hx => ?_, hs.2⟩
    rw [hs.1 x hx]
    dsimp only
    rw [decide_eq_false (by omega), Bool.or_false]
  · intro n s h
    refine pk_lt (t / 32) (t / 32 + 1) (fun _ => nm_r (nI_1 i) (H s ⟨fun x hx => ?_, h.2.2⟩)) (fun z => absurd z (by omega)) et
    rw [h.2.1 x hx]
    dsimp only
    congr 1
    exact decide_eq_decide.mpr (by omega)
  · intro n w s hw ⟨hf, h⟩ hn
    have eb : nI b + nI w = nI (b + w) := nI_add b w
    refine pk_lt (t / 32) w (fun z => absurd z (by omega)) (fun _ => ⟨pk_in (b + w) 8 (by omega) eb, rc_mask (f := f) (t := t) (w := w) (rc_low (by omega) (by omega)) (by rw [rc_m32, pk_sub (by omega)]) hf (by omega) (by omega) (fun r hr => ?_)⟩) et
    refine ⟨pk_in (b + w) 8 (by omega) eb, nm_r (by rw [eb, nI_clamp (by omega)]) (nm_r (nI_1 w) (hn _ ⟨by omega, ?_⟩))⟩
    refine rc_B_or h (by omega) (fun x hx => ?_)
    rw [hr _ (by omega), Bool.or_assoc]
    congr 1
    rw [← Bool.decide_and, ← Bool.decide_or]
    exact decide_eq_decide.mpr (by omega)
theorem rc_load131 (hk : k < 12) (hb : b ≤ 4) (hR : rc_R a3 a4 k P) {s : Nat → Int32} (hs : rc_B a5 s b (fun _ => false)) (H : ∀ s', rc_B a5 s' b P → post (f0, a1, a2, a3, a4, s', a6, a7)) : ∃ n, wX_load_131 post (nI k) (nI b) f0 n 0 a1 a2 a3 a4 s a6 a7 := by
  obtain ⟨m, f, e, hm, h3, ⟨e0, hr⟩, hz⟩ := hR
  have ek : (nI k).toNatClampNeg = k := nI_clamp (by omega)
  refine pk_loop (fun n i s => wX_load_131 post (nI k) (nI b) f0 n (nI i) a1 a2 a3 a4 s a6 a7) (fun i s => rc_B a5 s b (fun x => P x && decide (x < e i))) m 0 s (by omega) ?_ ?_ ?_
  · refine ⟨fun x hx => ?_, hs.2⟩
    rw [hs.1 x hx]
    dsimp only
    rw [decide_eq_false (by omega), Bool.and_false]
  · intro n s h
    refine ⟨pk_in k 12 hk, pk_le m m (fun _ => H s ⟨fun x hx => ?_, h.2⟩) (fun z => absurd z (by omega)) (by rw [ek, h3])⟩
    rw [h.1 x hx]
    dsimp only
    by_cases g : x < e m
    · rw [decide_eq_true g, Bool.and_true]
    · rw [hz x (by omega) hx]
      rfl
  · intro n i s hi h hw
    obtain ⟨r1, r2, r3, r4, r5, r6, r7⟩ := hr i hi
    refine ⟨pk_in k 12 hk, pk_le m i (fun z => absurd z (by omega)) (fun _ => ⟨pk_in (8 * k + 2 * i) 96 (by omega) (rc_e82 k i), nm_r (e' := nI (f i)) (by rw [rc_e82, nI_clamp (by omega), r4]) ⟨pk_in (8 * k + 2 * i + 1) 96 (by omega) (rc_e821 k i), nm_r (e' := nI (e (i + 1) - 1)) (by rw [rc_e821, nI_clamp (by omega), r5]) (nm_r (rc_shr5 (by omega)) ?_)⟩⟩) (by rw [ek, h3])⟩
    refine rc_load179 hb (by omega) (by omega) h (fun s' h' => hw s' ⟨fun x hx => ?_, h'.2⟩)
    rw [h'.1 x hx]
    dsimp only
    rcases Nat.lt_or_ge x (e i) with g | g
    · rw [decide_eq_true g, decide_eq_true (show x < e (i + 1) by omega), decide_eq_false (show ¬ (f i ≤ x ∧ x ≤ e (i + 1) - 1) by omega), Bool.or_false]
    · rw [decide_eq_false (show ¬ x < e i by omega), Bool.and_false, Bool.false_or]
      rcases Nat.lt_or_ge x (f i) with g2 | g2
      · rw [r6 x g g2, decide_eq_false (by omega)]
        rfl
      · rcases Nat.lt_or_ge x (e (i + 1)) with g3 | g3
        · rw [r7 x g2 g3, decide_eq_true g3, decide_eq_true (by omega)]
          rfl
        · rw [decide_eq_false (show ¬ x < e (i + 1) by omega), Bool.and_false, decide_eq_false (by omega)]
/-- load(k, b): the words b .. b + 3 of the buffer are the chunk's -/
theorem rc_load (hk : k < 12) (hb : b ≤ 4) (hC : rc_C a1 a2 a3 a4 k P) (H : ∀ s', rc_B a5 s' b P → post (f0, a1, a2, a3, a4, s', a6, a7)) : wpX_load post (f0, a1, a2, a3, a4, a5, a6, a7) (nI k) (nI b) := by
  have ek : (nI k).toNatClampNeg = k := nI_clamp (by omega)
  have hw4 : ∀ s : Nat → Int32, (∀ w, w < 4 → s (b + w) = 0) → ∀ x, x < 128 → rc_mem s b x = false := by
    intro s h x hx
    unfold rc_mem
    rw [h _ (by omega), rc_b_0]
  rcases hC.2 with ⟨h1, hL⟩ | ⟨h1, hM⟩ | ⟨h1, hR⟩
  · refine pk_loop (fun n i s => wX_load_2 post (nI k) (nI b) f0 n (nI i) a1 a2 a3 a4 s a6 a7) (fun i s => (∀ w, w < i → s (b + w) = 0) ∧ ∀ j, (j < b ∨ b + 4 ≤ j) → s j = a5 j) 4 0 a5 (by omega) ⟨fun w hw => absurd hw (by omega), fun _ _ => rfl⟩ ?_ ?_
    · intro n s h
      exact pk_le 4 4 (fun _ => ⟨pk_in k 12 hk, pk_eq 0 0 (fun _ => rc_load57 hk hb hL ⟨hw4 s h.1, h.2⟩ H) (fun z => absurd rfl z) (by rw [ek, h1])⟩) (fun z => absurd z (by omega))
    · intro n i s hi h hw
      refine pk_le 4 i (fun z => absurd z (by omega)) (fun _ => ⟨pk_in k 12 hk, pk_eq 0 1 (fun z => absurd z (by omega)) (fun _ => ⟨pk_in (b + i) 8 (by omega) (nI_add b i), nm_r (by rw [nI_add, nI_clamp (by omega)]) (nm_r (nI_1 i) (hw _ ⟨fun w hw => ?_, fun j hj => ?_⟩))⟩) (by rw [ek, h1])⟩)
      · by_cases g : w = i
        · rw [g, pk_us]
        · rw [pk_un (by omega), h.1 w (by omega)]
      · rw [pk_un (by omega), h.2 j hj]
  · refine pk_loop (fun n i s => wX_load_2 post (nI k) (nI b) f0 n (nI i) a1 a2 a3 a4 s a6 a7) (fun i s => (∀ w, w < i → s (b + w) = a4 (8 * k + w)) ∧ ∀ j, (j < b ∨ b + 4 ≤ j) → s j = a5 j) 4 0 a5 (by omega) ⟨fun w hw => absurd hw (by omega), fun _ _ => rfl⟩ ?_ ?_
    · intro n s h
      refine pk_le 4 4 (fun _ => ⟨pk_in k 12 hk, pk_eq 1 0 (fun z => absurd z (by omega)) (fun _ => ⟨pk_in k 12 hk, pk_eq 1 2 (fun z => absurd z (by omega)) (fun _ => H s ⟨fun x hx => ?_, h.2⟩) (by rw [ek, h1])⟩) (by rw [ek, h1])⟩) (fun z => absurd z (by omega))
      rw [← hM.2 x hx]
      unfold rc_mem
      rw [h.1 _ (by omega)]
    · intro n i s hi h hw
      refine pk_le 4 i (fun z => absurd z (by omega)) (fun _ => ⟨pk_in k 12 hk, pk_eq 1 1 (fun _ => ⟨pk_in (8 * k + i) 96 (by omega) (rc_e8 k i), pk_in (b + i) 8 (by omega) (nI_add b i), nm_r (by rw [nI_add, nI_clamp (by omega), rc_e8, nI_clamp (by omega)]) (nm_r (nI_1 i) (hw _ ⟨fun w hw => ?_, fun j hj => ?_⟩))⟩) (fun z => absurd rfl z) (by rw [ek, h1])⟩)
      · by_cases g : w = i
        · rw [g, pk_us]
        · rw [pk_un (by omega), h.1 w (by omega)]
      · rw [pk_un (by omega), h.2 j hj]
  · refine pk_loop (fun n i s => wX_load_2 post (nI k) (nI b) f0 n (nI i) a1 a2 a3 a4 s a6 a7) (fun i s => (∀ w, w < i → s (b + w) = 0) ∧ ∀ j, (j < b ∨ b + 4 ≤ j) → s j = a5 j) 4 0 a5 (by omega) ⟨fun w hw => absurd hw (by omega), fun _ _ => rfl⟩ ?_ ?_
    · intro n s h
      exact pk_le 4 4 (fun _ => ⟨pk_in k 12 hk, pk_eq 2 0 (fun z => absurd z (by omega)) (fun _ => ⟨pk_in k 12 hk, pk_eq 2 2 (fun _ => rc_load131 hk hb hR ⟨hw4 s h.1, h.2⟩ H) (fun z => absurd rfl z) (by rw [ek, h1])⟩) (by rw [ek, h1])⟩) (fun z => absurd z (by omega))
    · intro n i s hi h hw
      refine pk_le 4 i (fun z => absurd z (by omega)) (fun _ => ⟨pk_in k 12 hk, pk_eq 2 1 (fun z => absurd z (by omega)) (fun _ => ⟨pk_in (b + i) 8 (by omega) (nI_add b i), nm_r (by rw [nI_add, nI_clamp (by omega)]) (nm_r (nI_1 i) (hw _ ⟨fun w hw => ?_, fun j hj => ?_⟩))⟩) (by rw [ek, h1])⟩)
      · by_cases g : w = i
        · rw [g, pk_us]
        · rw [pk_un (by omega), h.1 w (by omega)]
      · rw [pk_un (by omega), h.2 j hj]
end
end
section
/-- only chunk k changed -/
def rc_F (k : Nat) (a1 a2 a3 a4 c1 c2 c3 c4 : Nat → Int32) : Prop := (∀ j, j ≠ k → c1 j = a1 j ∧ c2 j = a2 j ∧ c3 j = a3 j) ∧ ∀ j, (j < 8 * k ∨ 8 * k + 8 ≤ j) → c4 j = a4 j
/-- the same of parts and cells alone -/
def rc_G (k : Nat) (a3 a4 c3 c4 : Nat → Int32) : Prop := (∀ j, j ≠ k → c3 j = a3 j) ∧ ∀ j, (j < 8 * k ∨ 8 * k + 8 ≤ j) → c4 j = a4 j
theorem rc_G_0 {k : Nat} {a3 a4 : Nat → Int32} : rc_G k a3 a4 a3 a4 := ⟨fun _ _ => rfl, fun _ _ => rfl⟩
theorem rc_G_3 {k : Nat} {a3 a4 c3 c4 : Nat → Int32} {x : Int32} (h : rc_G k a3 a4 c3 c4) : rc_G k a3 a4 (upd c3 k x) c4 := ⟨fun j hj => by rw [pk_un hj, h.1 j hj], h.2⟩
theorem rc_G_4 {k i : Nat} {a3 a4 c3 c4 : Nat → Int32} {x : Int32} (h : rc_G k a3 a4 c3 c4) (hi : i < 8) : rc_G k a3 a4 c3 (upd c4 (8 * k + i) x) := ⟨h.1, fun j hj => by rw [pk_un (by omega), h.2 j hj]⟩
section
variable {post : St1 → Prop} {f0 : Int32} {a1 a2 a3 a4 a5 a6 a7 : Nat → Int32} {k : Nat}
/-! ===== as a list ===== -/
theorem rc_save139 (hk : k < 12) (hn : rc_cnt (rc_mem a5 0) 128 ≤ 8) (h0 : a3 k = nI 0) (H : ∀ c3 c4, rc_G k a3 a4 c3 c4 → rc_L c3 c4 k (rc_mem a5 0) → post (f0, a1, a2, c3, c4, a5, a6, a7)) : ∃ n, wX_save_139 post (nI k) f0 n 0 a1 a2 a3 a4 a5 a6 a7 := by
  have ek : (nI k).toNatClampNeg = k := nI_clamp (by omega)
  refine pk_loop (σ := (Nat → Int32) × (Nat → Int32)) (fun n x s => wX_save_139 post (nI k) f0 n (nI x) a1 a2 s.1 s.2 a5 a6 a7) (fun x s => rc_G k a3 a4 s.1 s.2 ∧ s.1 k = nI (rc_cnt (rc_mem a5 0) x) ∧ ∀ i, i < rc_cnt (rc_mem a5 0) x → ∃ y, y < 128 ∧ s.2 (8 * k + i) = nI y ∧ rc_mem a5 0 y = true ∧ rc_cnt (rc_mem a5 0) y = i) 128 0 (a3, a4) (by omega) ⟨rc_G_0, h0, fun i hi => absurd hi (Nat.not_lt_zero i)⟩ ?_ ?_
  · rintro n ⟨s3, s4⟩ ⟨hG, h3, h4⟩
    exact pk_le 128 128 (fun _ => H s3 s4 hG ⟨h3, hn, h4⟩) (fun z => absurd z (by omega))
  · rintro n x ⟨s3, s4⟩ hx ⟨hG, h3, h4⟩ hw
    dsimp only at hG h3 h4
    show wX_save_139 post (nI k) f0 (n + 1) (nI x) a1 a2 s3 s4 a5 a6 a7
    refine pk_le 128 x (fun z => absurd z (by omega)) (fun _ => rc_inB hx (fun hP => br_f (by decide) ?_) (fun hP => br_t rfl (nm_r (nI_1 x) (hw (s3, s4) ?_))))
    · have hm : rc_cnt (rc_mem a5 0) x < 8 := Nat.lt_of_lt_of_le (rc_cnt_lt hP hx) hn
      have e8 : (8 : Int32) * nI k + s3 (nI k).toNatClampNeg = nI (8 * k + rc_cnt (rc_mem a5 0) x) := by rw [ek, h3, rc_e8]
      refine ⟨pk_in k 12 hk, pk_in (8 * k + rc_cnt (rc_mem a5 0) x) 96 (by omega) e8, nm_r (e' := upd s4 (8 * k + rc_cnt (rc_mem a5 0) x) (nI x)) (by rw [e8, nI_clamp (by omega)]) ⟨pk_in k 12 hk, pk_in k 12 hk, nm_r (e' := upd s3 k (nI (rc_cnt (rc_mem a5 0) x + 1))) (by rw [ek, h3, nI_1]) (nm_r (nI_1 x) (hw (upd s3 k (nI (rc_cnt (rc_mem a5 0) x + 1)), upd s4 (8 * k + rc_cnt (rc_mem a5 0) x) (nI x)) ⟨rc_G_3 (rc_G_4 hG hm), ?_, ?_⟩))⟩⟩
      · dsimp only
        rw [pk_us, rc_cnt_t hP]
      · dsimp only
        rw [rc_cnt_t hP]
        intro i hi
        by_cases g : i = rc_cnt (rc_mem a5 0) x
        · exact ⟨x, hx, by rw [g, pk_us], hP, g.symm⟩
        · rw [pk_un (by omega)]
          exact h4 i (by omega)
    · rw [rc_cnt_f hP]
      exact ⟨hG, h3, h4⟩
/-! ===== as a map ===== -/
theorem rc_save210 (hk : k < 12) (h0 : a3 k = nI 4) (H : ∀ c4, rc_G k a3 a4 a3 c4 → rc_M a3 c4 k (rc_mem a5 0) → post (f0, a1, a2, a3, c4, a5, a6, a7)) : ∃ n, wX_save_210 post (nI k) f0 n 0 a1 a2 a3 a4 a5 a6 a7 := by
  refine pk_loop (fun n w s => wX_save_210 post (nI k) f0 n (nI w) a1 a2 a3 s a5 a6 a7) (fun w s => rc_G k a3 a4 a3 s ∧ ∀ v, v < w → s (8 * k + v) = a5 v) 4 0 a4 (by omega) ⟨rc_G_0, fun i hi => absurd hi (Nat.not_lt_zero i)⟩ ?_ ?_
  · intro n s ⟨hG, h⟩
    refine pk_le 4 4 (fun _ => H s hG ⟨h0, fun x hx => ?_⟩) (fun z => absurd z (by omega))
    unfold rc_mem
    rw [h _ (by omega), Nat.zero_add]
  · intro n w s hw ⟨hG, h⟩ hn
    refine pk_le 4 w (fun z => absurd z (by omega)) (fun _ => ⟨pk_in w 8 (by omega), pk_in (8 * k + w) 96 (by omega) (rc_e8 k w), nm_r (e' := upd s (8 * k + w) (a5 w)) (by rw [rc_e8, nI_clamp (by omega), nI_clamp (by omega)]) (nm_r (nI_1 w) (hn _ ⟨rc_G_4 hG (by omega), fun v hv => ?_⟩))⟩)
    by_cases g : v = w
    · rw [g, pk_us]
    · rw [pk_un (by omega), h v (by omega)]
/-! ===== as runs ===== -/
/-- x begins a run of P -/
def rc_st (P : Nat → Bool) (x : Nat) : Bool := P x && !(decide (0 < x) && P (x - 1))
section
variable {J : Int32 → (Nat → Int32) → (Nat → Int32) → (Nat → Int32) → (Nat → Int32) → (Nat → Int32) → (Nat → Int32) → (Nat → Int32) → Prop}
theorem rc_sr60 (hk : k < 12) {m x : Nat} (hm : m < 4) (h3 : a3 k = nI (m + 1)) (H : J (nI (x + 1)) a1 a2 a3 (upd a4 (8 * k + (2 * m + 1)) (nI x)) a5 a6 a7) : wX_saveRuns_60 post J (nI k) (nI x) f0 a1 a2 a3 a4 a5 a6 a7 := by
  have ek : (nI k).toNatClampNeg = k := nI_clamp (by omega)
  have e8 : (8 : Int32) * nI k + 2 * a3 (nI k).toNatClampNeg - 1 = nI (8 * k + (2 * m + 1)) := by
    rw [ek, h3, rc_e82, show 8 * k + 2 * (m + 1) = (8 * k + (2 * m + 1)) + 1 by omega, nI_pred]
  exact ⟨pk_in k 12 hk, pk_in (8 * k + (2 * m + 1)) 96 (by omega) e8, nm_r (e' := upd a4 (8 * k + (2 * m + 1)) (nI x)) (by rw [e8, nI_clamp (by omega)]) (nm_r (nI_1 x) H)⟩
theorem rc_sr31 (hk : k < 12) {m x : Nat} (hm : m < 4) (h3 : a3 k = nI m) (H : J (nI (x + 1)) a1 a2 (upd a3 k (nI (m + 1))) (upd (upd a4 (8 * k + 2 * m) (nI x)) (8 * k + (2 * m + 1)) (nI x)) a5 a6 a7) : wX_saveRuns_31 post J (nI k) (nI x) f0 a1 a2 a3 a4 a5 a6 a7 := by
  have ek : (nI k).toNatClampNeg = k := nI_clamp (by omega)
  have e8 : (8 : Int32) * nI k + 2 * a3 (nI k).toNatClampNeg = nI (8 * k + 2 * m) := by
    rw [ek, h3, rc_e82]
  exact ⟨pk_in k 12 hk, pk_in (8 * k + 2 * m) 96 (by omega) e8, nm_r (e' := upd a4 (8 * k + 2 * m) (nI x)) (by rw [e8, nI_clamp (by omega)]) ⟨pk_in k 12 hk, pk_in k 12 hk, nm_r (e' := upd a3 k (nI (m + 1))) (by rw [ek, h3, nI_1]) (rc_sr60 hk hm pk_us H)⟩⟩
end
/-- a new run of one number -/
theorem rc_Rn_new {P : Nat → Bool} {m x : Nat} {f e : Nat → Nat} (h : rc_Rn a4 k P m f e) (hx : x < 128) (hm : e m ≤ x) (hz : ∀ y, e m ≤ y → y < x → P y = false) (hP : P x = true) : rc_Rn (upd (upd a4 (8 * k + 2 * m) (nI x)) (8 * k + (2 * m + 1)) (nI x)) k P (m + 1) (fun i => if i = m then x else f i) (fun i => if i = m + 1 then x + 1 else e i) := by
  refine ⟨?_, fun i hi => ?_⟩
  · dsimp only
    rw [if_neg (by omega), h.1]
  · dsimp only
    by_cases g : i = m
    · subst g
      rw [if_neg (by omega), if_pos rfl, if_pos rfl, pk_un (by omega), pk_us, show 8 * k + 2 * i + 1 = 8 * k + (2 * i + 1) by omega, pk_us]
      refine ⟨hm, by omega, by omega, rfl, rfl, hz, fun y h1 h2 => ?_⟩
      rw [show y = x by omega]
      exact hP
    · rw [if_neg (by omega), if_neg g, if_neg (by omega), pk_un (by omega), pk_un (by omega), pk_un (by omega), pk_un (by omega)]
      exact h.2 i (by omega)
/-- the last run grows by one -/
theorem rc_Rn_grow {P : Nat → Bool} {m x : Nat} {f e : Nat → Nat} (h : rc_Rn a4 k P (m + 1) f e) (hx : x < 128) (hm : e (m + 1) = x) (hP : P x = true) : rc_Rn (upd a4 (8 * k + (2 * m + 1)) (nI x)) k P (m + 1) f (fun i => if i = m + 1 then x + 1 else e i) := by
  refine ⟨?_, fun i hi => ?_⟩
  · dsimp only
    rw [if_neg (by omega), h.1]
  · dsimp only
    obtain ⟨r1, r2, r3, r4, r5, r6, r7⟩ := h.2 i hi
    by_cases g : i = m
    · subst g
      rw [if_neg (by omega), if_pos rfl, pk_un (by omega), show 8 * k + 2 * i + 1 = 8 * k + (2 * i + 1) by omega, pk_us]
      refine ⟨r1, by omega, by omega, r4, rfl, r6, fun y h1 h2 => ?_⟩
      rcases Nat.lt_or_ge y x with g2 | g2
      · exact r7 y h1 (by omega)
      · rw [show y = x by omega]
        exact hP
    · rw [if_neg (by omega), if_neg (by omega), pk_un (by omega), pk_un (by omega)]
      exact ⟨r1, r2, r3, r4, r5, r6, r7⟩
theorem rc_saveRuns (hk : k < 12) (hn : rc_cnt (rc_st (rc_mem a5 0)) 128 ≤ 4) (h0 : a3 k = nI 0) (H : ∀ c3 c4, rc_G k a3 a4 c3 c4 → rc_R c3 c4 k (rc_mem a5 0) → post (f0, a1, a2, c3, c4, a5, a6, a7)) : wpX_saveRuns post (f0, a1, a2, a3, a4, a5, a6, a7) (nI k) := by
  refine pk_loop (σ := (Nat → Int32) × (Nat → Int32)) (fun n x s => wX_saveRuns_2 post (nI k) f0 n (nI x) a1 a2 s.1 s.2 a5 a6 a7) (fun x s => rc_G k a3 a4 s.1 s.2 ∧ ∃ (m : Nat) (f e : Nat → Nat), s.1 k = nI m ∧ m = rc_cnt (rc_st (rc_mem a5 0)) x ∧ rc_Rn s.2 k (rc_mem a5 0) m f e ∧ e m ≤ x ∧ ∀ y, e m ≤ y → y < x → rc_mem a5 0 y = false) 128 0 (a3, a4) (by omega) ⟨rc_G_0, 0, fun _ => 0, fun _ => 0, h0, rfl, ⟨rfl, fun i hi => absurd hi (Nat.not_lt_zero i)⟩, Nat.le_refl 0, fun y _ hy => absurd hy (Nat.not_lt_zero y)⟩ ?_ ?_
  · rintro n ⟨s3, s4⟩ ⟨hG, m, f, e, h3, hm, hR, he, hz⟩
    exact pk_le 128 128 (fun _ => H s3 s4 hG ⟨m, f, e, by omega, h3, hR, hz⟩) (fun z => absurd z (by omega))
  · rintro n x ⟨s3, s4⟩ hx ⟨hG, m, f, e, h3, hm, hR, he, hz⟩ hw
    dsimp only at hG h3 hR
    show wX_saveRuns_2 post (nI k) f0 (n + 1) (nI x) a1 a2 s3 s4 a5 a6 a7
    have hst : rc_st (rc_mem a5 0) x = true → m < 4 := fun h => Nat.lt_of_lt_of_le (by rw [hm]; exact rc_cnt_lt h hx) hn
    have key : rc_mem a5 0 x = true → rc_st (rc_mem a5 0) x = true → wX_saveRuns_31 post (wX_saveRuns_2 post (nI k) f0 n) (nI k) (nI x) f0 a1 a2 s3 s4 a5 a6 a7 := by
      intro hP hS
      refine rc_sr31 hk (hst hS) h3 (hw (upd s3 k (nI (m + 1)), upd (upd s4 (8 * k + 2 * m) (nI x)) (8 * k + (2 * m + 1)) (nI x)) ⟨rc_G_3 (rc_G_4 (rc_G_4 hG ?_) ?_), m + 1, _, _, pk_us, ?_, rc_Rn_new hR hx he hz hP, ?_, ?_⟩)
      · have := hst hS
        omega
      · have := hst hS
        omega
      · rw [rc_cnt_t hS, hm]
      · try dsimp only
        rw [if_pos rfl]
        exact Nat.le_refl _
      · try dsimp only
        rw [if_pos rfl]
        intro y h1 h2
        omega
    refine pk_le 128 x (fun z => absurd z (by omega)) (fun _ => rc_inB hx (fun hP => br_f (by decide) ?_) (fun hP => br_t rfl (nm_r (nI_1 x) (hw (s3, s4) ?_))))
    · refine pk_eq x 0 (fun g => ?_) (fun g => ?_)
      · refine key hP ?_
        unfold rc_st
        rw [hP, decide_eq_false (by omega)]
        rfl
      · have ex : nI x - 1 = nI (x - 1) := by rw [show x = (x - 1) + 1 by omega, nI_pred]; rfl
        rw [ex]
        refine rc_inB (by omega) (fun hQ => br_f (by decide) ?_) (fun hQ => br_t rfl (key hP ?_))
        · have em : e m = x := by
            rcases Nat.lt_or_ge (x - 1) (e m) with g2 | g2
            · omega
            · have := hz (x - 1) g2 (by omega)
              rw [hQ] at this
              exact absurd this (by decide)
          have hS : rc_st (rc_mem a5 0) x = false := by
            unfold rc_st
            rw [hQ, decide_eq_true (by omega), Bool.and_true, Bool.not_true, Bool.and_false]
          obtain ⟨m', rfl⟩ : ∃ m', m = m' + 1 := by
            cases m with
            | zero => exact absurd (hR.1.symm.trans em) (by omega)
            | succ m' => exact ⟨m', rfl⟩
          have hm4 : m' < 4 := by
            have := rc_cnt_mono (P := rc_st (rc_mem a5 0)) (show x ≤ 128 by omega)
            omega
          refine rc_sr60 hk hm4 h3 (hw (s3, upd s4 (8 * k + (2 * m' + 1)) (nI x)) ⟨rc_G_4 hG (by omega), m' + 1, f, _, h3, ?_, rc_Rn_grow hR hx em hP, ?_, ?_⟩)
          · rw [rc_cnt_f hS, hm]
          · try dsimp only
            rw [if_pos rfl]
            exact Nat.le_refl _
          · try dsimp only
            rw [if_pos rfl]
            intro y h1 h2
            omega
        · unfold rc_st
          rw [hP, hQ, Bool.and_false]
          rfl
    · have hS : rc_st (rc_mem a5 0) x = false := by
        unfold rc_st
        rw [hP, Bool.false_and]
      refine ⟨hG, m, f, e, h3, by rw [rc_cnt_f hS, hm], hR, by omega, fun y h1 h2 => ?_⟩
      rcases Nat.lt_or_ge y x with g2 | g2
      · exact hz y h1 g2
      · rw [show y = x by omega]
        exact hP
/-! ===== save ===== -/
theorem rc_F_of {x y z : Int32} {c3 c4 : Nat → Int32} (h : rc_G k (upd a3 k z) a4 c3 c4) : rc_F k a1 a2 a3 a4 (upd a1 k x) (upd a2 k y) c3 c4 :=
  ⟨fun j hj => ⟨pk_un hj, pk_un hj, by rw [h.1 j hj, pk_un hj]⟩, h.2⟩
theorem rc_save116 (hk : k < 12) (H : ∀ c1 c2 c3 c4, rc_F k a1 a2 a3 a4 c1 c2 c3 c4 → rc_C c1 c2 c3 c4 k (rc_mem a5 0) → post (f0, c1, c2, c3, c4, a5, a6, a7)) : wX_save_116 post (nI k) (nI (rc_cnt (rc_mem a5 0) 128)) f0 a1 (upd a2 k (nI (rc_cnt (rc_mem a5 0) 128))) a3 a4 a5 a6 a7 := by
  have ek : (nI k).toNatClampNeg = k := nI_clamp (by omega)
  have hl := rc_cnt_le (rc_mem a5 0) 128
  refine pk_lt 8 (rc_cnt (rc_mem a5 0) 128) (fun _ => ⟨pk_in k 12 hk, nm_r (e' := upd a1 k (nI 1)) (by rw [ek]; rfl) ⟨pk_in k 12 hk, nm_r (e' := upd a3 k (nI 4)) (by rw [ek]; rfl) ?_⟩⟩) (fun hn => ⟨pk_in k 12 hk, nm_r (e' := upd a1 k (nI 0)) (by rw [ek]; rfl) ⟨pk_in k 12 hk, nm_r (e' := upd a3 k (nI 0)) (by rw [ek]; rfl) ?_⟩⟩)
  · exact rc_save210 hk pk_us (fun c4 hG hM => H _ _ _ _ (rc_F_of hG) ⟨pk_us, Or.inr (Or.inl ⟨pk_us, hM⟩)⟩)
  · exact rc_save139 hk hn pk_us (fun c3 c4 hG hL => H _ _ _ _ (rc_F_of hG) ⟨pk_us, Or.inl ⟨pk_us, hL⟩⟩)
theorem rc_cw (a : Nat → Int32) (b w : Nat) : rc_cnt (rc_mem a b) (32 * (w + 1)) = rc_cnt (rc_mem a b) (32 * w) + rc_cnt (rc_bt (a (b + w))) 32 := by
  rw [show 32 * (w + 1) = 32 * w + 32 by omega, rc_cnt_add]
  congr 1
  exact rc_cnt_congr (fun j hj => rc_mem_w a b w hj)
theorem rc_b_u31 (x : Int32) (j : Nat) : rc_bt ((x.toUInt32 >>> ((31 : Int32).toUInt32 &&& Int32.toUInt32 31)).toInt32) j = rc_bt x (31 + j) := rc_b_ushr 31 (by omega) x j
theorem rc_b_l1 (x : Int32) {j : Nat} (hj : j < 32) : rc_bt (x <<< ((1 : Int32) &&& 31)) j = (decide (1 ≤ j) && rc_bt x (j - 1)) := rc_b_shl 1 (by omega) x hj
/-- the carry into word w -/
def rc_cy (P : Nat → Bool) (w : Nat) (x : Int32) : Prop := ∀ j, j < 32 → rc_bt x j = (decide (j = 0) && (decide (0 < w) && P (32 * w - 1)))
theorem rc_cys (a : Nat → Int32) (w : Nat) {x : Int32} (h : rc_cy (rc_mem a 0) w x) : rc_cnt (rc_st (rc_mem a 0)) (32 * (w + 1)) = rc_cnt (rc_st (rc_mem a 0)) (32 * w) + rc_cnt (rc_bt (a w &&& (((a w <<< ((1 : Int32) &&& 31)) ||| x) ^^^ (-1)))) 32 := by
  rw [show 32 * (w + 1) = 32 * w + 32 by omega, rc_cnt_add]
  congr 1
  refine rc_cnt_congr (fun j hj => ?_)
  have hm := rc_mem_w a 0 w hj
  rw [Nat.zero_add] at hm
  rw [rc_b_and, rc_b_not _ hj, rc_b_or, rc_b_l1 _ hj, h j hj, ← hm]
  unfold rc_st
  congr 2
  cases j with
  | zero =>
    rw [decide_eq_false (show ¬ 1 ≤ 0 by omega), Bool.false_and, Bool.false_or, decide_eq_true (rfl : (0 : Nat) = 0), Bool.true_and, Nat.add_zero]
    congr 1
    exact decide_eq_decide.mpr (by omega)
  | succ i =>
    have hi := rc_mem_w a 0 w (show i < 32 by omega)
    rw [Nat.zero_add] at hi
    rw [decide_eq_true (show 1 ≤ i + 1 by omega), decide_eq_false (show ¬ i + 1 = 0 by omega), Bool.false_and, Bool.or_false, decide_eq_true (show 0 < 32 * w + (i + 1) by omega), show i + 1 - 1 = i by omega, ← hi]
    rfl
theorem rc_cyn (a : Nat → Int32) (w : Nat) : rc_cy (rc_mem a 0) (w + 1) (((a w).toUInt32 >>> ((31 : Int32).toUInt32 &&& Int32.toUInt32 31)).toInt32) := by
  intro j hj
  rw [rc_b_u31]
  have hm := rc_mem_w a 0 w (show 31 < 32 by omega)
  rw [Nat.zero_add] at hm
  by_cases g : j = 0
  · rw [g, decide_eq_true (rfl : (0 : Nat) = 0), Bool.true_and, decide_eq_true (show 0 < w + 1 by omega), Bool.true_and, show 32 * (w + 1) - 1 = 32 * w + 31 by omega, hm]
  · rw [rc_b_big (by omega), decide_eq_false g, Bool.false_and]
/-- save(k): whatever lies in the buffer's first four words, chunk k stands for it -/
theorem rc_save (hk : k < 12) (H : ∀ c1 c2 c3 c4, rc_F k a1 a2 a3 a4 c1 c2 c3 c4 → rc_C c1 c2 c3 c4 k (rc_mem a5 0) → post (f0, c1, c2, c3, c4, a5, a6, a7)) : wpX_save post (f0, a1, a2, a3, a4, a5, a6, a7) (nI k) := by
  have ek : (nI k).toNatClampNeg = k := nI_clamp (by omega)
  refine pk_loop (σ := Int32 × Int32 × Int32) (fun n w s => wX_save_10 post (nI k) f0 a1 a2 a3 a4 a5 a6 a7 n s.1 s.2.1 s.2.2 (nI w)) (fun w s => s.1 = nI (rc_cnt (rc_mem a5 0) (32 * w)) ∧ s.2.1 = nI (rc_cnt (rc_st (rc_mem a5 0)) (32 * w)) ∧ rc_cy (rc_mem a5 0) w s.2.2) 4 0 (0, 0, 0) (by omega) ⟨rfl, rfl, ?_⟩ ?_ ?_
  · intro j hj
    rw [decide_eq_false (show ¬ 0 < 0 by omega), Bool.false_and, Bool.and_false]
    exact rc_b_0 j
  · rintro n ⟨x2, x3, x4⟩ ⟨h2, h3, h4⟩
    dsimp only at h2 h3 h4
    subst h2 h3
    have hl := rc_cnt_le (rc_mem a5 0) 128
    have hl2 := rc_cnt_le (rc_st (rc_mem a5 0)) 128
    refine pk_le 4 4 (fun _ => ⟨pk_in k 12 hk, nm_r (e' := upd a2 k (nI (rc_cnt (rc_mem a5 0) 128))) (by rw [ek]) ?_⟩) (fun z => absurd z (by omega))
    refine pk_lt 4 (rc_cnt (rc_st (rc_mem a5 0)) 128) (fun _ => rc_save116 hk H) (fun hn => pk_le (rc_cnt (rc_mem a5 0) 128) (2 * rc_cnt (rc_st (rc_mem a5 0)) 128) (fun _ => rc_save116 hk H) (fun _ => ?_) rfl (rc_m2 _))
    refine ⟨pk_in k 12 hk, nm_r (e' := upd a1 k (nI 2)) (by rw [ek]; rfl) ⟨pk_in k 12 hk, nm_r (e' := upd a3 k (nI 0)) (by rw [ek]; rfl) ?_⟩⟩
    exact rc_saveRuns hk hn pk_us (fun c3 c4 hG hR => H _ _ _ _ (rc_F_of hG) ⟨pk_us, Or.inr (Or.inr ⟨pk_us, hR⟩)⟩)
  · rintro n w ⟨x2, x3, x4⟩ hw ⟨h2, h3, h4⟩ hn
    dsimp only at h2 h3 h4
    have ew : (nI w).toNatClampNeg = w := nI_clamp (by omega)
    have i8 : vp_in (nI w) 8 := pk_in w 8 (by omega)
    have hm := rc_cw a5 0 w
    rw [Nat.zero_add] at hm
    refine pk_le 4 w (fun z => absurd z (by omega)) (fun _ => ⟨i8, rc_ones _ (nm_r (e' := nI (rc_cnt (rc_mem a5 0) (32 * (w + 1)))) ?_ ⟨i8, i8, rc_ones _ (nm_r (e' := nI (rc_cnt (rc_st (rc_mem a5 0)) (32 * (w + 1)))) ?_ ⟨i8, nm_r (e' := ((a5 w).toUInt32 >>> ((31 : Int32).toUInt32 &&& Int32.toUInt32 31)).toInt32) (by rw [ew]) (nm_r (nI_1 w) (hn (_, _, _) ⟨rfl, rfl, rc_cyn a5 w⟩))⟩)⟩)⟩)
    · rw [ew, h2, nI_add, hm]
    · rw [ew, h3, nI_add, rc_cys a5 w h4]
end
end
section
/-! ===== below: how many of a chunk are less than l ===== -/
section
variable {post : Int32 → Prop} {f0 : Int32} {a1 a2 a3 a4 a5 a6 a7 : Nat → Int32} {k : Nat} {P : Nat → Bool}
theorem rc_below67 {J : Int32 → Int32 → Prop} {w S : Nat} {x2 z0 : Int32} (hk : k < 12) (hw : w < 4) (H : J (nI (S + rc_cnt (rc_bt (a4 (8 * k + w) &&& z0)) 32)) (nI (w + 1))) : wX_below_67 post J x2 (nI (8 * k)) (nI S) (nI w) z0 f0 a1 a2 a3 a4 a5 a6 a7 := by
  have e8 : nI (8 * k) + nI w = nI (8 * k + w) := nI_add _ _
  refine ⟨pk_in (8 * k + w) 96 (by omega) e8, rc_ones _ (nm_r (nI_add _ _) (nm_r (nI_1 w) ?_))⟩
  rw [e8, nI_clamp (by omega)]
  exact H
/-- bits of a word below a bound -/
theorem rc_cmask {x z : Int32} {d : Nat} (hz : ∀ j, j < 32 → rc_bt z j = decide (j < d)) : rc_cnt (rc_bt (x &&& z)) 32 = rc_cnt (rc_bt x) (min 32 d) := by
  have h1 : rc_cnt (rc_bt (x &&& z)) (min 32 d) = rc_cnt (rc_bt x) (min 32 d) := by
    refine rc_cnt_congr (fun j hj => ?_)
    rw [rc_b_and, hz j (by omega), decide_eq_true (show j < d by omega), Bool.and_true]
  rw [← h1]
  refine rc_cnt_segF (by omega) (fun j h2 h3 => ?_)
  rw [rc_b_and, hz j h3, decide_eq_false (show ¬ j < d by omega), Bool.and_false]
theorem rc_below35 (hk : k < 12) {l : Nat} (hl : l < 128) (hM : ∀ x, x < 128 → rc_mem a4 (8 * k) x = P x) (H : post (nI (rc_cnt P l))) : ∃ n, wX_below_35 post (nI l) (nI (8 * k)) f0 a1 a2 a3 a4 a5 a6 a7 n 0 0 := by
  have hc : ∀ y, y ≤ 128 → rc_cnt P y = rc_cnt (rc_mem a4 (8 * k)) y := fun y hy => rc_cnt_congr (fun x hx => (hM x (by omega)).symm)
  have step : ∀ w d, w < 4 → d ≤ 32 → rc_cnt P (32 * w + d) = rc_cnt P (32 * w) + rc_cnt (rc_bt (a4 (8 * k + w))) d := by
    intro w d hw hd
    rw [hc _ (by omega), hc _ (by omega), rc_cnt_add]
    congr 1
    exact rc_cnt_congr (fun j hj => rc_mem_w a4 (8 * k) w (by omega))
  refine pk_loop (fun n w x => wX_below_35 post (nI l) (nI (8 * k)) f0 a1 a2 a3 a4 a5 a6 a7 n x (nI w)) (fun w x => x = nI (rc_cnt P (min l (32 * w)))) 4 0 0 (by omega) (by rw [Nat.mul_zero, Nat.min_zero]; rfl) ?_ ?_
  · intro n x h
    refine pk_le 4 4 (fun _ => ?_) (fun z => absurd z (by omega))
    rw [h, show min l (32 * 4) = l by omega]
    exact H
  · intro n w x hw h hn
    subst h
    refine pk_le 4 w (fun z => absurd z (by omega)) (fun _ => pk_lt (32 * w) l (fun g => ?_) (fun g => ?_) (rc_m32 w))
    · refine rc_mask (f := 0) (t := l - 1) (w := w) (Or.inl ⟨by omega, by decide⟩) ?_ (by omega) (by omega) (by omega) (fun r hr => rc_below67 hk hw (hn _ ?_))
      · rw [show l = (l - 1) + 1 by omega, nI_pred, rc_m32, pk_sub (by omega)]
        rfl
      · rw [rc_cmask (d := l - 32 * w) (fun j hj => by rw [hr j hj]; exact decide_eq_decide.mpr (by omega)), show min l (32 * w) = 32 * w by omega, ← step w _ hw (by omega), show 32 * w + min 32 (l - 32 * w) = min l (32 * (w + 1)) by omega]
    · refine rc_below67 hk hw (hn _ ?_)
      rw [rc_cmask (d := 0) (fun j hj => by rw [rc_b_0, decide_eq_false (by omega)]), Nat.min_zero, show min l (32 * w) = min l (32 * (w + 1)) by omega]
      rfl
theorem rc_below107 (hk : k < 12) {l : Nat} (hl : l < 128) (hL : rc_L a3 a4 k P) (H : post (nI (rc_cnt P l))) : ∃ n, wX_below_107 post (nI k) (nI l) (nI (8 * k)) f0 a1 a2 a3 a4 a5 a6 a7 n 0 := by
  obtain ⟨h3, h8, hc⟩ := hL
  have ek : (nI k).toNatClampNeg = k := nI_clamp (by omega)
  have hm : rc_cnt P l ≤ rc_cnt P 128 := rc_cnt_mono (by omega)
  refine pk_loop (σ := Unit) (fun n i _ => wX_below_107 post (nI k) (nI l) (nI (8 * k)) f0 a1 a2 a3 a4 a5 a6 a7 n (nI i)) (fun _ _ => True) (rc_cnt P l) 0 () (by omega) trivial ?_ ?_
  · intro n _ _
    refine ⟨pk_in k 12 hk, pk_le (rc_cnt P 128) (rc_cnt P l) (fun _ => H) (fun g => ?_) (by rw [ek, h3])⟩
    obtain ⟨y, hy, e, hP, hcy⟩ := hc (rc_cnt P l) g
    have e8 : nI (8 * k) + nI (rc_cnt P l) = nI (8 * k + rc_cnt P l) := nI_add _ _
    refine ⟨pk_in (8 * k + rc_cnt P l) 96 (by omega) e8, pk_le l y (fun _ => H) (fun g2 => ?_) rfl (by rw [e8, nI_clamp (by omega), e])⟩
    have := rc_cnt_lt hP g2
    omega
  · intro n i _ hi _ hw
    obtain ⟨y, hy, e, hP, hcy⟩ := hc i (by omega)
    have e8 : nI (8 * k) + nI i = nI (8 * k + i) := nI_add _ _
    refine ⟨pk_in k 12 hk, pk_le (rc_cnt P 128) i (fun z => absurd z (by omega)) (fun _ => ⟨pk_in (8 * k + i) 96 (by omega) e8, pk_le l y (fun g => ?_) (fun g => nm_r (nI_1 i) (hw () trivial)) rfl (by rw [e8, nI_clamp (by omega), e])⟩) (by rw [ek, h3])⟩
    have := rc_cnt_mono (P := P) g
    omega
theorem rc_below200 {J : Int32 → Int32 → Prop} {x1 x2 x3 : Int32} {S i f z : Nat} {z0 : Int32} (hf : f < 128) (hz : z ≤ 128) (h0 : z0 = nI z - 1) (H : J (nI (S + (z - f))) (nI (i + 1))) : wX_below_200 post J x1 x2 x3 (nI S) (nI i) (nI f) z0 f0 a1 a2 a3 a4 a5 a6 a7 := by
  have t0 : z0.toInt = (z : Int) - 1 := by rw [h0]; exact pk_sub_toInt (b := 1) (by omega) (by omega)
  by_cases g : z ≤ f
  · refine br_t ?_ (nm_r (e' := nI S) (nI_add S 0) (nm_r (nI_1 i) ?_))
    · rw [Int32.lt_iff_toInt_lt, t0, nI_toInt (by omega)]
      omega
    · rw [show S + (z - f) = S by omega] at H
      exact H
  · refine br_f ?_ (nm_r (e' := nI (S + (z - f))) ?_ (nm_r (nI_1 i) H))
    · rw [Int32.lt_iff_toInt_lt, t0, nI_toInt (by omega)]
      omega
    · rw [h0, show z = (z - 1) + 1 by omega, nI_pred, pk_sub (by omega), nI_1, nI_add, show z - 1 - f + 1 = z - 1 + 1 - f by omega]
theorem rc_below140 (hk : k < 12) {l : Nat} (hl : l < 128) (hR : rc_R a3 a4 k P) (H : post (nI (rc_cnt P l))) : ∃ n, wX_below_140 post (nI k) (nI l) (nI (8 * k)) f0 a1 a2 a3 a4 a5 a6 a7 n 0 0 := by
  obtain ⟨m, f, e, hm, h3, ⟨e0, hr⟩, hz⟩ := hR
  have ek : (nI k).toNatClampNeg = k := nI_clamp (by omega)
  refine pk_loop (fun n i x => wX_below_140 post (nI k) (nI l) (nI (8 * k)) f0 a1 a2 a3 a4 a5 a6 a7 n x (nI i)) (fun i x => x = nI (rc_cnt P (min l (e i)))) m 0 0 (by omega) (by rw [e0, Nat.min_zero]; rfl) ?_ ?_
  · intro n x h
    refine ⟨pk_in k 12 hk, pk_le m m (fun _ => ?_) (fun z => absurd z (by omega)) (by rw [ek, h3])⟩
    have hs : rc_cnt P l = rc_cnt P (min l (e m)) := rc_cnt_segF (by omega) (fun y h1 h2 => hz y (by omega) (by omega))
    rw [h, ← hs]
    exact H
  · intro n i x hi h hw
    subst h
    obtain ⟨r1, r2, r3, r4, r5, r6, r7⟩ := hr i hi
    have e8 : nI (8 * k) + 2 * nI i = nI (8 * k + 2 * i) := by rw [rc_m2, nI_add]
    have e9 : nI (8 * k) + 2 * nI i + 1 = nI (8 * k + 2 * i + 1) := by rw [e8, nI_1]
    have cS : rc_cnt P (min l (e (i + 1))) = rc_cnt P (min l (e i)) + (min l (e (i + 1)) - f i) := by
      rcases Nat.lt_or_ge l (f i) with g | g
      · rw [show min l (e (i + 1)) - f i = 0 by omega, Nat.add_zero]
        exact rc_cnt_segF (by omega) (fun y h1 h2 => r6 y (by omega) (by omega))
      · rw [rc_cnt_segT (show f i ≤ min l (e (i + 1)) by omega) (fun y h1 h2 => r7 y h1 (by omega)), show min l (e i) = e i by omega]
        congr 1
        exact rc_cnt_segF r1 r6
    refine ⟨pk_in k 12 hk, pk_le m i (fun z => absurd z (by omega)) (fun _ => ⟨pk_in (8 * k + 2 * i) 96 (by omega) e8, nm_r (e' := nI (f i)) (by rw [e8, nI_clamp (by omega), r4]) ⟨pk_in (8 * k + 2 * i + 1) 96 (by omega) e9, pk_le l (e (i + 1) - 1) (fun g => ?_) (fun g => ⟨pk_in (8 * k + 2 * i + 1) 96 (by omega) e9, ?_⟩) rfl (by rw [e9, nI_clamp (by omega), r5])⟩⟩) (by rw [ek, h3])⟩
    · refine rc_below200 (z := l) (by omega) (by omega) rfl (hw _ ?_)
      rw [cS, show min l (e (i + 1)) = l by omega]
    · refine rc_below200 (z := e (i + 1)) (by omega) (by omega) (by rw [e9, nI_clamp (by omega), r5, show e (i + 1) = (e (i + 1) - 1) + 1 by omega, nI_pred]; rfl) (hw _ ?_)
      rw [cS, show min l (e (i + 1)) = e (i + 1) by omega]
theorem rc_below (hk : k < 12) (hC : rc_C a1 a2 a3 a4 k P) {l : Nat} (hl : l ≤ 128) (H : post (nI (rc_cnt P l))) : wpX_below post (f0, a1, a2, a3, a4, a5, a6, a7) (nI k) (nI l) := by
  have ek : (nI k).toNatClampNeg = k := nI_clamp (by omega)
  unfold wpX_below
  dsimp only
  refine nm_r (rc_m8 k) (pk_lt l 128 (fun g => ⟨pk_in k 12 hk, ?_⟩) (fun g => ⟨pk_in k 12 hk, ?_⟩))
  · rcases hC.2 with ⟨h1, hL⟩ | ⟨h1, hM⟩ | ⟨h1, hR⟩
    · exact pk_eq 0 1 (fun z => absurd z (by omega)) (fun _ => ⟨pk_in k 12 hk, pk_eq 0 0 (fun _ => rc_below107 hk g hL H) (fun z => absurd rfl z) (by rw [ek, h1])⟩) (by rw [ek, h1])
    · exact pk_eq 1 1 (fun _ => rc_below35 hk g hM.2 H) (fun z => absurd rfl z) (by rw [ek, h1])
    · exact pk_eq 2 1 (fun z => absurd z (by omega)) (fun _ => ⟨pk_in k 12 hk, pk_eq 2 0 (fun z => absurd z (by omega)) (fun _ => rc_below140 hk g hR H) (by rw [ek, h1])⟩) (by rw [ek, h1])
  · rw [ek, hC.1]
    rw [show l = 128 by omega] at H
    exact H
/-! ===== selectIn: the number of a chunk that has r below it ===== -/
theorem rc_sel120 (hk : k < 12) {r : Nat} (hr : r < rc_cnt P 128) (hM : ∀ x, x < 128 → rc_mem a4 (8 * k) x = P x) (H : ∀ x, x < 128 → P x = true → rc_cnt P x = r → post (nI x)) : ∃ n, wX_selectIn_120 post (nI (8 * k)) f0 a1 a2 a3 a4 a5 a6 a7 n (nI r) 0 := by
  have hl := rc_cnt_le P 128
  refine pk_loop (fun n x y => wX_selectIn_120 post (nI (8 * k)) f0 a1 a2 a3 a4 a5 a6 a7 n y (nI x)) (fun x y => rc_cnt P x ≤ r ∧ y = nI (r - rc_cnt P x)) 128 0 (nI r) (by omega) ⟨Nat.zero_le _, rfl⟩ ?_ ?_
  · intro n y h
    omega
  · intro n x y hx ⟨h1, h2⟩ hw
    subst h2
    have e8 : nI (8 * k) + nI x >>> ((5 : Int32) &&& 31) = nI (8 * k + x / 32) := by rw [rc_shr5 (by omega), nI_add]
    have eb : rc_bt (a4 (8 * k + x / 32)) (x % 32) = P x := hM x hx
    refine pk_le 128 x (fun z => absurd z (by omega)) (fun _ => ⟨pk_in (8 * k + x / 32) 96 (by omega) e8, ?_⟩)
    rw [e8, nI_clamp (by omega), rc_and31 (by omega)]
    refine ek_if (rc_bit _ (by omega)) (fun hP => ?_) (fun hP => ?_)
    · rw [eb] at hP
      refine pk_eq (r - rc_cnt P x) 0 (fun g => H x hx hP (by omega)) (fun g => nm_r (e' := nI (r - rc_cnt P x - 1)) ?_ (nm_r (nI_1 x) (hw _ ⟨?_, ?_⟩)))
      · rw [show r - rc_cnt P x = (r - rc_cnt P x - 1) + 1 by omega, pk_m1]
        rfl
      · rw [rc_cnt_t hP]
        omega
      · rw [rc_cnt_t hP, show r - rc_cnt P x - 1 = r - (rc_cnt P x + 1) by omega]
    · rw [eb] at hP
      have hQ := Bool.eq_false_iff.mpr hP
      refine nm_r (nI_1 x) (hw _ ?_)
      rw [rc_cnt_f hQ]
      exact ⟨h1, rfl⟩
theorem rc_sel40 (hk : k < 12) {r : Nat} (hr : r < rc_cnt P 128) (hR : rc_R a3 a4 k P) (H : ∀ x, x < 128 → P x = true → rc_cnt P x = r → post (nI x)) : ∃ n, wX_selectIn_40 post (nI k) (nI (8 * k)) f0 a1 a2 a3 a4 a5 a6 a7 n (nI r) 0 := by
  have hl := rc_cnt_le P 128
  obtain ⟨m, f, e, hm, h3, ⟨e0, hrn⟩, hz⟩ := hR
  have ek : (nI k).toNatClampNeg = k := nI_clamp (by omega)
  have em : e m ≤ 128 := by
    cases m with
    | zero => omega
    | succ m' => exact (hrn m' (by omega)).2.2.1
  refine pk_loop (fun n i y => wX_selectIn_40 post (nI k) (nI (8 * k)) f0 a1 a2 a3 a4 a5 a6 a7 n y (nI i)) (fun i y => rc_cnt P (e i) ≤ r ∧ y = nI (r - rc_cnt P (e i))) m 0 (nI r) (by omega) ⟨by rw [e0]; exact Nat.zero_le _, by rw [e0]; rfl⟩ ?_ ?_
  · intro n y h
    have := rc_cnt_segF em hz
    omega
  · intro n i y hi ⟨h1, h2⟩ hw
    subst h2
    obtain ⟨r1, r2, r3, r4, r5, r6, r7⟩ := hrn i hi
    have c1 := rc_cnt_segF r1 r6
    have c2 := rc_cnt_segT (show f i ≤ e (i + 1) by omega) r7
    have e8 : nI (8 * k) + 2 * nI i = nI (8 * k + 2 * i) := by rw [rc_m2, nI_add]
    have e9 : nI (8 * k) + 2 * nI i + 1 = nI (8 * k + 2 * i + 1) := by rw [e8, nI_1]
    refine ⟨pk_in k 12 hk, pk_le m i (fun z => absurd z (by omega)) (fun _ => ⟨pk_in (8 * k + 2 * i + 1) 96 (by omega) e9, pk_in (8 * k + 2 * i) 96 (by omega) e8, nm_r (e' := nI (e (i + 1) - f i)) ?_ (pk_le (e (i + 1) - f i) (r - rc_cnt P (e i)) (fun g => nm_r (pk_sub g) (nm_r (nI_1 i) (hw _ ⟨by omega, ?_⟩))) (fun g => ⟨pk_in (8 * k + 2 * i) 96 (by omega) e8, ?_⟩))⟩) (by rw [ek, h3])⟩
    · rw [e9, e8, nI_clamp (by omega), nI_clamp (by omega), r4, r5, pk_sub (by omega), nI_1, show e (i + 1) - 1 - f i + 1 = e (i + 1) - f i by omega]
    · rw [show r - rc_cnt P (e i) - (e (i + 1) - f i) = r - rc_cnt P (e (i + 1)) by omega]
    · rw [e8, nI_clamp (by omega), r4, nI_add]
      refine H _ (by omega) (r7 _ (by omega) (by omega)) ?_
      rw [rc_cnt_segT (show f i ≤ f i + (r - rc_cnt P (e i)) by omega) (fun y h4 h5 => r7 y h4 (by omega))]
      omega
theorem rc_selectIn (hk : k < 12) (hC : rc_C a1 a2 a3 a4 k P) {r : Nat} (hr : r < rc_cnt P 128) (H : ∀ x, x < 128 → P x = true → rc_cnt P x = r → post (nI x)) : wpX_selectIn post (f0, a1, a2, a3, a4, a5, a6, a7) (nI k) (nI r) := by
  have ek : (nI k).toNatClampNeg = k := nI_clamp (by omega)
  have hl := rc_cnt_le P 128
  unfold wpX_selectIn
  dsimp only
  refine nm_r (rc_m8 k) ⟨pk_in k 12 hk, ?_⟩
  rcases hC.2 with ⟨h1, hL⟩ | ⟨h1, hM⟩ | ⟨h1, hR⟩
  · obtain ⟨y, hy, e, hP, hcy⟩ := hL.2.2 r hr
    have h8 := hL.2.1
    have e8 : nI (8 * k) + nI r = nI (8 * k + r) := nI_add _ _
    refine pk_eq 0 0 (fun _ => ⟨pk_in (8 * k + r) 96 (by omega) e8, ?_⟩) (fun z => absurd rfl z) (by rw [ek, h1])
    rw [e8, nI_clamp (by omega), e]
    exact H y hy hP hcy
  · exact pk_eq 1 0 (fun z => absurd z (by omega)) (fun _ => ⟨pk_in k 12 hk, pk_eq 1 2 (fun z => absurd z (by omega)) (fun _ => rc_sel120 hk hr hM.2 H) (by rw [ek, h1])⟩) (by rw [ek, h1])
  · exact pk_eq 2 0 (fun z => absurd z (by omega)) (fun _ => ⟨pk_in k 12 hk, pk_eq 2 2 (fun _ => rc_sel40 hk hr hR H) (fun z => absurd rfl z) (by rw [ek, h1])⟩) (by rw [ek, h1])
end
end
section
/-- the chunks stand for PP -/
def rc_I (a1 a2 a3 a4 : Nat → Int32) (PP : Nat → Nat → Bool) : Prop := ∀ k, k < 12 → rc_C a1 a2 a3 a4 k (PP k)
theorem rc_V_I {a1 a2 a3 a4 : Nat → Int32} (h : rc_V a1 a2 a3 a4) : ∃ PP, rc_I a1 a2 a3 a4 PP := by
  have h' : ∀ k, ∃ P, k < 12 → rc_C a1 a2 a3 a4 k P := by
    intro k
    by_cases g : k < 12
    · obtain ⟨P, hP⟩ := h k g
      exact ⟨P, fun _ => hP⟩
    · exact ⟨fun _ => false, fun z => absurd z g⟩
  exact ⟨fun k => Classical.choose (h' k), fun k hk => Classical.choose_spec (h' k) hk⟩
theorem rc_I_V {a1 a2 a3 a4 : Nat → Int32} {PP : Nat → Nat → Bool} (h : rc_I a1 a2 a3 a4 PP) : rc_V a1 a2 a3 a4 := fun k hk => ⟨PP k, h k hk⟩
/-- a set's numbers below 512 -/
def rc_Q (PP : Nat → Nat → Bool) (s y : Nat) : Bool := PP (4 * s + y / 128) (y % 128)
theorem rc_Qc (PP : Nat → Nat → Bool) (s c : Nat) {l : Nat} (hl : l ≤ 128) : rc_cnt (rc_Q PP s) (128 * c + l) = rc_cnt (rc_Q PP s) (128 * c) + rc_cnt (PP (4 * s + c)) l := by
  rw [rc_cnt_add]
  congr 1
  refine rc_cnt_congr (fun j hj => ?_)
  unfold rc_Q
  rw [show (128 * c + j) / 128 = c by omega, show (128 * c + j) % 128 = j by omega]
section
variable {f0 : Int32} {a1 a2 a3 a4 a5 a6 a7 : Nat → Int32} {s t : Nat} {PP : Nat → Nat → Bool}
theorem rc_smQ (hs : s < 3) (hI : rc_I a1 a2 a3 a4 PP) : rc_sm a2 (4 * s) 4 = nI (rc_cnt (rc_Q PP s) 512) := by
  refine rc_sm_n (fun c => rc_cnt (PP (4 * s + c)) 128) (fun c hc => (hI (4 * s + c) (by omega)).1) (T := fun c => rc_cnt (rc_Q PP s) (128 * c)) rfl (fun c hc => ?_)
  rw [show 128 * (c + 1) = 128 * c + 128 by omega, rc_Qc PP s c (by omega)]
/-! ===== rank ===== -/
theorem rc_rank73 {post : Int32 → Prop} {J : Int32 → Int32 → Prop} {x2 : Int32} {c l S : Nat} (hs : s < 3) (hc : c < 4) (hI : rc_I a1 a2 a3 a4 PP) (hl : l ≤ 128) (H : J (nI (S + rc_cnt (PP (4 * s + c)) l)) (nI (c + 1))) : wX_rank_73 post J (nI s) x2 (nI S) (nI c) (nI l) f0 a1 a2 a3 a4 a5 a6 a7 := by
  unfold wX_rank_73
  rw [rc_e4]
  exact rc_below (by omega) (hI _ (by omega)) hl (nm_r (nI_add _ _) (nm_r (nI_1 c) H))
theorem rc_rank {post : Int32 → Prop} (hs : s < 3) (hI : rc_I a1 a2 a3 a4 PP) {y : Nat} (hy : y ≤ 512) (H : post (nI (rc_cnt (rc_Q PP s) y))) : wpX_rank post (f0, a1, a2, a3, a4, a5, a6, a7) (nI s) (nI y) := by
  unfold wpX_rank
  dsimp only
  refine rc_isSet hs (rc_1 ?_)
  refine pk_loop (fun n c x => wX_rank_14 post (nI s) (nI y) f0 a1 a2 a3 a4 a5 a6 a7 n x (nI c)) (fun c x => x = nI (rc_cnt (rc_Q PP s) (min y (128 * c)))) 4 0 0 (by omega) (by rw [Nat.mul_zero, Nat.min_zero]; rfl) ?_ ?_
  · intro n x h
    refine pk_le 4 4 (fun _ => ?_) (fun z => absurd z (by omega))
    rw [h, show min y (128 * 4) = y by omega]
    exact H
  · intro n c x hc h hw
    subst h
    have e1 : (128 : Int32) * nI c + 128 = nI (128 * c + 128) := by rw [rc_m128]; exact nI_add _ 128
    refine pk_le 4 c (fun z => absurd z (by omega)) (fun _ => pk_lt (128 * c) y (fun g => ?_) (fun g => ?_) (rc_m128 c))
    · refine pk_le y (128 * c) (fun z => absurd z (by omega)) (fun _ => pk_le (128 * c + 128) y (fun g2 => ?_) (fun g2 => nm_r (e' := nI (y - 128 * c)) (by rw [rc_m128, pk_sub (by omega)]) ?_) e1) rfl (rc_m128 c)
      · refine rc_rank73 (l := 128) hs hc hI (by omega) (hw _ ?_)
        rw [show min y (128 * c) = 128 * c by omega, ← rc_Qc PP s c (by omega), show min y (128 * (c + 1)) = 128 * c + 128 by omega]
      · refine rc_rank73 hs hc hI (by omega) (hw _ ?_)
        rw [show min y (128 * c) = 128 * c by omega, ← rc_Qc PP s c (by omega), show min y (128 * (c + 1)) = 128 * c + (y - 128 * c) by omega]
    · refine pk_le y (128 * c) (fun _ => ?_) (fun z => absurd z (by omega)) rfl (rc_m128 c)
      refine rc_rank73 (l := 0) hs hc hI (by omega) (hw _ ?_)
      rw [show min y (128 * (c + 1)) = min y (128 * c) by omega]
      rfl
/-! ===== select ===== -/
theorem rc_select {post : Int32 → Prop} (hs : s < 3) (hI : rc_I a1 a2 a3 a4 PP) {k : Nat} (hk : k < rc_cnt (rc_Q PP s) 512) (H : ∀ y, y < 512 → rc_Q PP s y = true → rc_cnt (rc_Q PP s) y = k → post (nI y)) : wpX_select post (f0, a1, a2, a3, a4, a5, a6, a7) (nI s) (nI k) := by
  have hl := rc_cnt_le (rc_Q PP s) 512
  unfold wpX_select
  dsimp only
  refine rc_isSet hs (rc_1 ?_)
  refine pk_loop (fun n c x => wX_select_14 post (nI s) f0 a1 a2 a3 a4 a5 a6 a7 n x (nI c)) (fun c x => rc_cnt (rc_Q PP s) (128 * c) ≤ k ∧ x = nI (k - rc_cnt (rc_Q PP s) (128 * c))) 4 0 (nI k) (by omega) ⟨Nat.zero_le _, rfl⟩ ?_ ?_
  · intro n x h
    have h1 : rc_cnt (rc_Q PP s) 512 ≤ k := h.1
    omega
  · intro n c x hc ⟨h1, h2⟩ hw
    subst h2
    have hC := hI (4 * s + c) (by omega)
    have hl2 := rc_cnt_le (PP (4 * s + c)) 128
    have q := rc_Qc PP s c (Nat.le_refl 128)
    rw [show 128 * c + 128 = 128 * (c + 1) by omega] at q
    refine pk_le 4 c (fun z => absurd z (by omega)) (fun _ => ⟨pk_in (4 * s + c) 12 (by omega) (rc_e4 s c), nm_r (e' := nI (rc_cnt (PP (4 * s + c)) 128)) (by rw [rc_e4, nI_clamp (by omega), hC.1]) (pk_lt (k - rc_cnt (rc_Q PP s) (128 * c)) 0 (fun z => absurd z (by omega)) (fun _ => pk_le (rc_cnt (PP (4 * s + c)) 128) (k - rc_cnt (rc_Q PP s) (128 * c)) (fun g => nm_r (pk_sub g) (nm_r (nI_1 c) (hw _ ⟨by omega, ?_⟩))) (fun g => ?_)))⟩)
    · rw [q, Nat.sub_sub]
    · rw [rc_e4]
      refine rc_selectIn (by omega) hC g (fun x hx hP hcx => ?_)
      rw [rc_m128, nI_add]
      refine H _ (by omega) ?_ ?_
      · unfold rc_Q
        rw [show (128 * c + x) / 128 = c by omega, show (128 * c + x) % 128 = x by omega]
        exact hP
      · rw [rc_Qc PP s c (by omega), hcx]
        omega
theorem rc_size {post : Int32 → Prop} (hs : s < 3) (H : post (rc_sm a2 (4 * s) 4)) : wpX_size post (f0, a1, a2, a3, a4, a5, a6, a7) (nI s) := by
  unfold wpX_size
  dsimp only
  exact rc_isSet hs (rc_1 (rc_total hs H))
/-! ===== common ===== -/
/-- how many numbers two sets share below 512 -/
def rc_cm (PP : Nat → Nat → Bool) (s t n : Nat) : Nat := rc_cnt (fun y => rc_Q PP s y && rc_Q PP t y) n
theorem rc_cmw (PP : Nat → Nat → Bool) {s t c w : Nat} {b : Nat → Int32} (hw : w < 4) (h1 : ∀ x, x < 128 → rc_mem b 0 x = PP (4 * s + c) x) (h2 : ∀ x, x < 128 → rc_mem b 4 x = PP (4 * t + c) x) : rc_cm PP s t (128 * c + 32 * (w + 1)) = rc_cm PP s t (128 * c + 32 * w) + rc_cnt (rc_bt (b w &&& b (4 + w))) 32 := by
  unfold rc_cm
  rw [show 128 * c + 32 * (w + 1) = (128 * c + 32 * w) + 32 by omega, rc_cnt_add]
  congr 1
  refine rc_cnt_congr (fun j hj => ?_)
  unfold rc_Q
  have m1 := rc_mem_w b 0 w hj
  have m2 := rc_mem_w b 4 w hj
  rw [Nat.zero_add] at m1
  rw [rc_b_and, ← m1, ← m2, h1 _ (by omega), h2 _ (by omega), show (128 * c + 32 * w + j) / 128 = c by omega, show (128 * c + 32 * w + j) % 128 = 32 * w + j by omega]
theorem rc_com52 {post : Int32 → St1 → Prop} {J : Int32 → Int32 → Int32 → (Nat → Int32) → (Nat → Int32) → (Nat → Int32) → (Nat → Int32) → (Nat → Int32) → (Nat → Int32) → (Nat → Int32) → Prop} {x1 x2 : Int32} {c : Nat} {b : Nat → Int32} (h1 : ∀ x, x < 128 → rc_mem b 0 x = PP (4 * s + c) x) (h2 : ∀ x, x < 128 → rc_mem b 4 x = PP (4 * t + c) x) (H : J (nI (rc_cm PP s t (128 * (c + 1)))) (nI (c + 1)) f0 a1 a2 a3 a4 b a6 a7) : ∃ n, wX_common_52 post J x1 x2 (nI c) f0 a1 a2 a3 a4 b a6 a7 n (nI (rc_cm PP s t (128 * c))) 0 := by
  refine pk_loop (fun n w x => wX_common_52 post J x1 x2 (nI c) f0 a1 a2 a3 a4 b a6 a7 n x (nI w)) (fun w x => x = nI (rc_cm PP s t (128 * c + 32 * w))) 4 0 (nI (rc_cm PP s t (128 * c))) (by omega) rfl ?_ ?_
  · intro n x h
    refine pk_le 4 4 (fun _ => nm_r (nI_1 c) ?_) (fun z => absurd z (by omega))
    rw [h, show 128 * c + 32 * 4 = 128 * (c + 1) by omega]
    exact H
  · intro n w x hw h hn
    subst h
    have e4 : (4 : Int32) + nI w = nI (4 + w) := nI_add 4 w
    refine pk_le 4 w (fun z => absurd z (by omega)) (fun _ => ⟨pk_in w 8 (by omega), pk_in (4 + w) 8 (by omega) e4, ?_⟩)
    rw [e4, nI_clamp (by omega), nI_clamp (by omega)]
    refine rc_ones _ (nm_r (nI_add _ _) (nm_r (nI_1 w) (hn _ ?_)))
    rw [rc_cmw PP hw h1 h2]
theorem rc_common {post : Int32 → St1 → Prop} (hs : s < 3) (ht : t < 3) (hI : rc_I a1 a2 a3 a4 PP) (H : ∀ b, post (nI (rc_cm PP s t 512)) (f0, a1, a2, a3, a4, b, a6, a7)) : wpX_common post (f0, a1, a2, a3, a4, a5, a6, a7) (nI s) (nI t) := by
  unfold wpX_common
  dsimp only
  refine rc_isSet hs (rc_1 (rc_isSet ht (rc_1 ?_)))
  refine pk_loop (σ := Int32 × (Nat → Int32)) (fun n c p => wX_common_21 post (nI s) (nI t) n p.1 (nI c) f0 a1 a2 a3 a4 p.2 a6 a7) (fun c p => p.1 = nI (rc_cm PP s t (128 * c))) 4 0 (0, a5) (by omega) rfl ?_ ?_
  · rintro n ⟨x, b⟩ h
    dsimp only at h
    subst h
    exact pk_le 4 4 (fun _ => H b) (fun z => absurd z (by omega))
  · rintro n c ⟨x, b⟩ hc h hw
    dsimp only at h
    subst h
    show wX_common_21 post (nI s) (nI t) (n + 1) (nI (rc_cm PP s t (128 * c))) (nI c) f0 a1 a2 a3 a4 b a6 a7
    refine pk_le 4 c (fun z => absurd z (by omega)) (fun _ => ?_)
    rw [rc_e4 s c]
    refine rc_load (b := 0) (by omega) (by omega) (hI (4 * s + c) (by omega)) (fun b1 hb1 => ?_)
    dsimp only
    rw [rc_e4 t c]
    refine rc_load (b := 4) (by omega) (by omega) (hI (4 * t + c) (by omega)) (fun b2 hb2 => ?_)
    dsimp only
    refine rc_com52 (s := s) (t := t) (PP := PP) (fun x hx => ?_) hb2.1 (hw (_, b2) rfl)
    rw [← hb1.1 x hx]
    unfold rc_mem
    rw [hb2.2 _ (by omega)]
theorem rc_within {post : Int32 → St1 → Prop} (hs : s < 3) (ht : t < 3) (hI : rc_I a1 a2 a3 a4 PP) (H1 : rc_cm PP s t 512 = rc_cnt (rc_Q PP s) 512 → ∀ b, post 1 (f0, a1, a2, a3, a4, b, a6, a7)) (H0 : rc_cm PP s t 512 ≠ rc_cnt (rc_Q PP s) 512 → ∀ b, post 0 (f0, a1, a2, a3, a4, b, a6, a7)) : wpX_within post (f0, a1, a2, a3, a4, a5, a6, a7) (nI s) (nI t) := by
  have l1 := rc_cnt_le (rc_Q PP s) 512
  have l2 : rc_cm PP s t 512 ≤ 512 := rc_cnt_le _ 512
  unfold wpX_within
  dsimp only
  refine rc_isSet hs (rc_1 (rc_isSet ht (rc_1 (rc_common hs ht hI (fun b => rc_total hs ?_)))))
  exact pk_eq (rc_cm PP s t 512) (rc_cnt (rc_Q PP s) 512) (fun h => H1 h b) (fun h => H0 h b) rfl (rc_smQ hs hI)
/-! ===== holds ===== -/
theorem rc_h106 {post : Int32 → St1 → Prop} {z0 : Int32} (hs : s < 3) (ht : t < 3) (hI : rc_I a1 a2 a3 a4 PP) (h1 : rc_cm PP s t 512 = rc_cnt (rc_Q PP s) 512 → z0 = 1) (h0 : rc_cm PP s t 512 ≠ rc_cnt (rc_Q PP s) 512 → z0 = 0) (H : ∀ b, post 1 (f0, a1, a2, a3, a4, b, a6, a7)) : wL_holds_106 post (nI s) (nI t) (nI (rc_cnt (rc_Q PP s) 512)) z0 f0 a1 a2 a3 a4 a5 a6 a7 := by
  have l1 := rc_cnt_le (rc_Q PP s) 512
  have l2 : rc_cm PP s t 512 ≤ 512 := rc_cnt_le _ 512
  unfold wL_holds_106
  refine rc_common hs ht hI (fun b => ?_)
  dsimp only
  exact pk_eq (rc_cm PP s t 512) (rc_cnt (rc_Q PP s) 512) (fun h => br_t (h1 h) (H b)) (fun h => br_t (h0 h) (H b))
theorem rc_holds {post : Int32 → St1 → Prop} (hs : s < 3) (ht : t < 3) (hI : rc_I a1 a2 a3 a4 PP) (H : ∀ b, post 1 (f0, a1, a2, a3, a4, b, a6, a7)) : wpL_holds post (f0, a1, a2, a3, a4, a5, a6, a7) (nI s) (nI t) := by
  have hl := rc_cnt_le (rc_Q PP s) 512
  unfold wpL_holds
  dsimp only
  refine rc_size hs ?_
  rw [rc_smQ hs hI]
  refine pk_lt (rc_cnt (rc_Q PP s) 512) 0 (fun z => absurd z (by omega)) (fun _ => pk_lt 512 (rc_cnt (rc_Q PP s) 512) (fun z => absurd z (by omega)) (fun _ => rc_rank (y := 512) hs hI (by omega) (br_t rfl ?_)))
  refine pk_loop (fun n k x => wL_holds_37 post (nI s) (nI t) (nI (rc_cnt (rc_Q PP s) 512)) f0 a1 a2 a3 a4 a5 a6 a7 n x (nI k)) (fun k x => x = -1 ∨ ∃ y, y < 512 ∧ x = nI y ∧ rc_cnt (rc_Q PP s) y < k) (rc_cnt (rc_Q PP s) 512) 0 (-1) (by omega) (Or.inl rfl) ?_ ?_
  · intro n x h
    refine pk_le (rc_cnt (rc_Q PP s) 512) (rc_cnt (rc_Q PP s) 512) (fun _ => ?_) (fun z => absurd z (by omega))
    refine rc_within hs ht hI (fun h b => br_t rfl ?_) (fun h b => br_f (by decide) ?_)
    · exact rc_h106 hs ht hI (fun _ => rfl) (fun g => absurd h g) H
    · exact rc_h106 hs ht hI (fun g => absurd g h) (fun _ => rfl) H
  · intro n k x hk h hw
    refine pk_le (rc_cnt (rc_Q PP s) 512) k (fun z => absurd z (by omega)) (fun _ => rc_select hs hI hk (fun y hy hQ hc => br_f ?_ (br_f (nI_nlt (b := y) (a := 511) (by omega) (by omega)) (rc_rank hs hI (by omega) (br_t (by rw [hc]) (nm_r (nI_1 k) (hw _ (Or.inr ⟨y, hy, rfl, by omega⟩))))))))
    rcases h with h | ⟨y0, h0, h1, h2⟩
    · rw [h, Int32.le_iff_toInt_le, nI_toInt (by omega), show (-1 : Int32).toInt = -1 from by decide]
      omega
    · rw [h1]
      refine nI_ge ?_ (by omega)
      rcases Nat.lt_or_ge y0 y with g | g
      · exact g
      · have := rc_cnt_mono (P := rc_Q PP s) g
        omega
end
end
section
/-! ===== a chunk's cells; what another chunk's change leaves ===== -/
/-- chunk k has n cells -/
def rc_nc (a1 a3 : Nat → Int32) (k n : Nat) : Prop := n ≤ 8 ∧ ((a1 k = nI 0 ∧ a3 k = nI n) ∨ (a1 k = nI 1 ∧ a3 k = nI 4 ∧ n = 4) ∨ (a1 k = nI 2 ∧ ∃ m, a3 k = nI m ∧ n = 2 * m))
theorem rc_cells {a1 a2 a3 a4 : Nat → Int32} {k : Nat} {P : Nat → Bool} (hC : rc_C a1 a2 a3 a4 k P) : ∃ n, rc_nc a1 a3 k n ∧ ∀ (c1 c2 c3 c4 : Nat → Int32) (j : Nat), c1 j = a1 k → c2 j = a2 k → c3 j = a3 k → (∀ i, i < n → c4 (8 * j + i) = a4 (8 * k + i)) → rc_C c1 c2 c3 c4 j P := by
  obtain ⟨h2, h⟩ := hC
  rcases h with ⟨h1, h3, h8, hc⟩ | ⟨h1, h3, hc⟩ | ⟨h1, m, f, e, hm, h3, ⟨e0, hr⟩, hz⟩
  · refine ⟨rc_cnt P 128, ⟨h8, Or.inl ⟨h1, h3⟩⟩, fun c1 c2 c3 c4 j g1 g2 g3 g4 => ⟨by rw [g2, h2], Or.inl ⟨by rw [g1, h1], by rw [g3, h3], h8, fun i hi => ?_⟩⟩⟩
    obtain ⟨x, hx, ex, hP, hcx⟩ := hc i hi
    exact ⟨x, hx, by rw [g4 i hi, ex], hP, hcx⟩
  · refine ⟨4, ⟨by omega, Or.inr (Or.inl ⟨h1, h3, rfl⟩)⟩, fun c1 c2 c3 c4 j g1 g2 g3 g4 => ⟨by rw [g2, h2], Or.inr (Or.inl ⟨by rw [g1, h1], by rw [g3, h3], fun x hx => ?_⟩)⟩⟩
    rw [← hc x hx]
    unfold rc_mem
    rw [g4 _ (by omega)]
  · refine ⟨2 * m, ⟨by omega, Or.inr (Or.inr ⟨h1, m, h3, rfl⟩)⟩, fun c1 c2 c3 c4 j g1 g2 g3 g4 => ⟨by rw [g2, h2], Or.inr (Or.inr ⟨by rw [g1, h1], m, f, e, hm, by rw [g3, h3], ⟨e0, fun i hi => ?_⟩, hz⟩)⟩⟩
    obtain ⟨r1, r2, r3, r4, r5, r6, r7⟩ := hr i hi
    refine ⟨r1, r2, r3, by rw [g4 _ (by omega), r4], ?_, r6, r7⟩
    rw [show 8 * j + 2 * i + 1 = 8 * j + (2 * i + 1) by omega, g4 _ (by omega), show 8 * k + (2 * i + 1) = 8 * k + 2 * i + 1 by omega, r5]
theorem rc_C_F {a1 a2 a3 a4 c1 c2 c3 c4 : Nat → Int32} {j k : Nat} {P : Nat → Bool} (hC : rc_C a1 a2 a3 a4 j P) (hj : j ≠ k) (hF : rc_F k a1 a2 a3 a4 c1 c2 c3 c4) : rc_C c1 c2 c3 c4 j P := by
  obtain ⟨n, hn, h⟩ := rc_cells hC
  obtain ⟨f1, f2, f3⟩ := hF.1 j hj
  refine h c1 c2 c3 c4 j f1 f2 f3 (fun i hi => hF.2 _ ?_)
  have := hn.1
  omega
/-- a post that holds of every good state -/
def rc_H (post : St1 → Prop) : Prop := ∀ (f : Int32) (c1 c2 c3 c4 c5 c6 c7 : Nat → Int32), rc_V c1 c2 c3 c4 → post (f, c1, c2, c3, c4, c5, c6, c7)
def rc_HR (post : Int32 → St1 → Prop) : Prop := ∀ r, rc_H (post r)
/-- the same of a way on -/
def rc_HJ (J : Int32 → Int32 → (Nat → Int32) → (Nat → Int32) → (Nat → Int32) → (Nat → Int32) → (Nat → Int32) → (Nat → Int32) → (Nat → Int32) → Prop) (x : Int32) : Prop := ∀ (f : Int32) (c1 c2 c3 c4 c5 c6 c7 : Nat → Int32), rc_V c1 c2 c3 c4 → J x f c1 c2 c3 c4 c5 c6 c7
section
variable {f0 : Int32} {a1 a2 a3 a4 a5 a6 a7 : Nat → Int32} {s : Nat}
theorem rc_saveV {post : St1 → Prop} {k : Nat} (hk : k < 12) (hV : rc_V a1 a2 a3 a4) (H : rc_H post) : wpX_save post (f0, a1, a2, a3, a4, a5, a6, a7) (nI k) := by
  refine rc_save hk (fun c1 c2 c3 c4 hF hC => H _ _ _ _ _ _ _ _ (fun j hj => ?_))
  by_cases g : j = k
  · rw [g]
    exact ⟨_, hC⟩
  · obtain ⟨P, hP⟩ := hV j hj
    exact ⟨P, rc_C_F hP g hF⟩
theorem rc_loadV {post : St1 → Prop} {k b : Nat} (hk : k < 12) (hb : b ≤ 4) (hV : rc_V a1 a2 a3 a4) (H : ∀ c5, post (f0, a1, a2, a3, a4, c5, a6, a7)) : wpX_load post (f0, a1, a2, a3, a4, a5, a6, a7) (nI k) (nI b) := by
  obtain ⟨P, hP⟩ := hV k hk
  exact rc_load hk hb hP (fun c5 _ => H c5)
section
variable {J : Int32 → Int32 → (Nat → Int32) → (Nat → Int32) → (Nat → Int32) → (Nat → Int32) → (Nat → Int32) → (Nat → Int32) → (Nat → Int32) → Prop}
/-! ===== change ===== -/
theorem rc_ch87 {post : St1 → Prop} {x2 x3 x4 : Int32} {c F T : Nat} (hs : s < 3) (hc : c < 4) (hFT : F ≤ T) (hT : T < 128) (hV : rc_V a1 a2 a3 a4) (H : rc_HJ J (nI (c + 1))) : ∃ n, wX_change_87 post J (nI s) x2 x3 x4 (nI c) (nI F) (nI T) f0 n (nI (F / 32)) a1 a2 a3 a4 a5 a6 a7 := by
  refine pk_loop (fun n w b => wX_change_87 post J (nI s) x2 x3 x4 (nI c) (nI F) (nI T) f0 n (nI w) a1 a2 a3 a4 b a6 a7) (fun _ _ => True) (T / 32 + 1) (F / 32) a5 (by omega) trivial ?_ ?_
  · intro n b _
    refine pk_lt (T / 32) (T / 32 + 1) (fun _ => ?_) (fun z => absurd z (by omega)) (rc_shr5 (by omega))
    rw [rc_e4 s c]
    exact rc_saveV (by omega) hV (fun f c1 c2 c3 c4 c5 c6 c7 h => nm_r (nI_1 c) (H _ _ _ _ _ _ _ _ h))
  · intro n w b hw _ hn
    have i8 : vp_in (nI w) 8 := pk_in w 8 (by omega)
    exact pk_lt (T / 32) w (fun z => absurd z (by omega)) (fun _ => rc_maskA _ _ (fun r => br_c (fun _ => ⟨i8, i8, nm_e (nm_r (nI_1 w) (hn _ trivial))⟩) (fun _ => br_c (fun _ => ⟨i8, i8, nm_e (nm_r (nI_1 w) (hn _ trivial))⟩) (fun _ => ⟨i8, i8, nm_e (nm_r (nI_1 w) (hn _ trivial))⟩)))) (rc_shr5 (by omega))
theorem rc_ch68 {post : St1 → Prop} {x2 x3 x4 : Int32} {c F T : Nat} (hs : s < 3) (hc : c < 4) (hFT : F ≤ T) (hT : T < 128) (hV : rc_V a1 a2 a3 a4) (H : rc_HJ J (nI (c + 1))) : wX_change_68 post J (nI s) x2 x3 x4 (nI c) (nI F) (nI T) f0 a1 a2 a3 a4 a5 a6 a7 := by
  unfold wX_change_68
  rw [rc_e4 s c]
  exact rc_loadV (b := 0) (by omega) (by omega) hV (fun c5 => nm_r (rc_shr5 (by omega)) (rc_ch87 hs hc hFT hT hV H))
theorem rc_ch37 {post : St1 → Prop} {x2 x4 : Int32} {c F y : Nat} (hs : s < 3) (hc : c < 4) (hF : F < 128) (hy : y < 512) (hFy : 128 * c + F ≤ y) (hV : rc_V a1 a2 a3 a4) (H : rc_HJ J (nI (c + 1))) : wX_change_37 post J (nI s) x2 (nI y) x4 (nI c) (nI F) f0 a1 a2 a3 a4 a5 a6 a7 := by
  have e1 : (128 : Int32) * nI c + 128 - 1 = nI (128 * c + 127) := by
    rw [rc_m128, show nI (128 * c) + 128 = nI ((128 * c + 127) + 1) from nI_add _ 128, nI_pred]
  refine pk_le (128 * c + 127) y (fun g => rc_ch68 (T := 127) hs hc (by omega) (by omega) hV H) (fun g => ?_) e1
  rw [rc_m128, pk_sub (by omega)]
  exact rc_ch68 hs hc (by omega) (by omega) hV H
end
theorem rc_change {post : St1 → Prop} {x y : Nat} (how : Int32) (hs : s < 3) (hxy : x ≤ y) (hy : y < 512) (hV : rc_V a1 a2 a3 a4) (H : rc_H post) : wpX_change post (f0, a1, a2, a3, a4, a5, a6, a7) (nI s) (nI x) (nI y) how := by
  unfold wpX_change
  dsimp only
  refine nm_r (rc_shr7 (by omega)) ?_
  refine pk_loop (σ := St1) (fun n c u => wX_change_6 post (nI s) (nI x) (nI y) how n (nI c) u.1 u.2.1 u.2.2.1 u.2.2.2.1 u.2.2.2.2.1 u.2.2.2.2.2.1 u.2.2.2.2.2.2.1 u.2.2.2.2.2.2.2) (fun c u => x / 128 ≤ c ∧ rc_V u.2.1 u.2.2.1 u.2.2.2.1 u.2.2.2.2.1) (y / 128 + 1) (x / 128) (f0, a1, a2, a3, a4, a5, a6, a7) (by omega) ⟨Nat.le_refl _, hV⟩ ?_ ?_
  · rintro n ⟨f, c1, c2, c3, c4, c5, c6, c7⟩ ⟨_, h⟩
    exact pk_lt (y / 128) (y / 128 + 1) (fun _ => H _ _ _ _ _ _ _ _ h) (fun z => absurd z (by omega)) (rc_shr7 (by omega))
  · rintro n c ⟨f, c1, c2, c3, c4, c5, c6, c7⟩ hc ⟨hcx, h⟩ hw
    dsimp only at h
    show wX_change_6 post (nI s) (nI x) (nI y) how (n + 1) (nI c) f c1 c2 c3 c4 c5 c6 c7
    have HJ : rc_HJ (wX_change_6 post (nI s) (nI x) (nI y) how n) (nI (c + 1)) := fun f d1 d2 d3 d4 d5 d6 d7 g => hw (f, d1, d2, d3, d4, d5, d6, d7) ⟨by omega, g⟩
    refine pk_lt (y / 128) c (fun z => absurd z (by omega)) (fun _ => pk_le x (128 * c) (fun g => ?_) (fun g => ?_) rfl (rc_m128 c)) (rc_shr7 (by omega))
    · exact rc_ch37 (F := 0) hs (by omega) (by omega) hy (by omega) h HJ
    · rw [rc_m128, pk_sub (by omega)]
      exact rc_ch37 hs (by omega) (by omega) hy (by omega) h HJ
theorem rc_clear {post : Int32 → St1 → Prop} {x y : Nat} (hs : s < 3) (hxy : x ≤ y) (hy : y < 512) (hV : rc_V a1 a2 a3 a4) (H : rc_HR post) : wpX_clear post (f0, a1, a2, a3, a4, a5, a6, a7) (nI s) (nI x) (nI y) := by
  unfold wpX_clear
  dsimp only
  exact rc_isSet hs (rc_1 (rc_isRange hxy hy (rc_1 (rc_total hs (rc_change 1 hs hxy hy hV (fun f c1 c2 c3 c4 c5 c6 c7 h => rc_total hs (H _ _ _ _ _ _ _ _ _ h)))))))
theorem rc_fill {post : Int32 → St1 → Prop} {x y : Nat} (hs : s < 3) (hxy : x ≤ y) (hy : y < 512) (hV : rc_V a1 a2 a3 a4) (H : rc_HR post) : wpX_fill post (f0, a1, a2, a3, a4, a5, a6, a7) (nI s) (nI x) (nI y) := by
  unfold wpX_fill
  dsimp only
  exact rc_isSet hs (rc_1 (rc_isRange hxy hy (rc_1 (rc_total hs (rc_change 0 hs hxy hy hV (fun f c1 c2 c3 c4 c5 c6 c7 h => rc_total hs (H _ _ _ _ _ _ _ _ _ h)))))))
theorem rc_flip {post : Int32 → St1 → Prop} {x y : Nat} (hs : s < 3) (hxy : x ≤ y) (hy : y < 512) (hV : rc_V a1 a2 a3 a4) (H : rc_HR post) : wpX_flip post (f0, a1, a2, a3, a4, a5, a6, a7) (nI s) (nI x) (nI y) := by
  unfold wpX_flip
  dsimp only
  exact rc_isSet hs (rc_1 (rc_isRange hxy hy (rc_1 (rc_change 2 hs hxy hy hV (fun f c1 c2 c3 c4 c5 c6 c7 h => rc_total hs (H _ _ _ _ _ _ _ _ _ h))))))
theorem rc_add {post : Int32 → St1 → Prop} {x : Nat} (hs : s < 3) (hx : x < 512) (hV : rc_V a1 a2 a3 a4) (H : rc_HR post) : wpX_add post (f0, a1, a2, a3, a4, a5, a6, a7) (nI s) (nI x) := by
  unfold wpX_add
  dsimp only
  exact rc_isSet hs (rc_1 (rc_isNumber hx (rc_1 (rc_fill hs (Nat.le_refl x) hx hV (fun r f c1 c2 c3 c4 c5 c6 c7 h => H _ _ _ _ _ _ _ _ _ h)))))
theorem rc_remove {post : Int32 → St1 → Prop} {x : Nat} (hs : s < 3) (hx : x < 512) (hV : rc_V a1 a2 a3 a4) (H : rc_HR post) : wpX_remove post (f0, a1, a2, a3, a4, a5, a6, a7) (nI s) (nI x) := by
  unfold wpX_remove
  dsimp only
  exact rc_isSet hs (rc_1 (rc_isNumber hx (rc_1 (rc_clear hs (Nat.le_refl x) hx hV (fun r f c1 c2 c3 c4 c5 c6 c7 h => H _ _ _ _ _ _ _ _ _ h)))))
/-! ===== gather, spread ===== -/
theorem rc_gather {post : St1 → Prop} (hs : s < 3) (hV : rc_V a1 a2 a3 a4) (H : ∀ c5 c6, post (f0, a1, a2, a3, a4, c5, c6, a7)) : wpX_gather post (f0, a1, a2, a3, a4, a5, a6, a7) (nI s) := by
  unfold wpX_gather
  dsimp only
  refine pk_loop (σ := (Nat → Int32) × (Nat → Int32)) (fun n c u => wX_gather_2 post (nI s) n (nI c) f0 a1 a2 a3 a4 u.1 u.2 a7) (fun _ _ => True) 4 0 (a5, a6) (by omega) trivial ?_ ?_
  · rintro n ⟨c5, c6⟩ _
    exact pk_le 4 4 (fun _ => H c5 c6) (fun z => absurd z (by omega))
  · rintro n c ⟨c5, c6⟩ hc _ hw
    show wX_gather_2 post (nI s) (n + 1) (nI c) f0 a1 a2 a3 a4 c5 c6 a7
    refine pk_le 4 c (fun z => absurd z (by omega)) (fun _ => ?_)
    rw [rc_e4 s c]
    refine rc_loadV (b := 0) (by omega) (by omega) hV (fun d5 => ?_)
    refine pk_loop (fun m w d6 => wX_gather_19 post (wX_gather_2 post (nI s) n) (nI s) (nI c) f0 m (nI w) a1 a2 a3 a4 d5 d6 a7) (fun _ _ => True) 4 0 c6 (by omega) trivial ?_ ?_
    · intro m d6 _
      exact pk_le 4 4 (fun _ => nm_r (nI_1 c) (hw (d5, d6) trivial)) (fun z => absurd z (by omega))
    · intro m w d6 hw' _ hn
      exact pk_le 4 w (fun z => absurd z (by omega)) (fun _ => ⟨pk_in w 8 (by omega), pk_in (4 * c + w) 16 (by omega) (rc_e4 c w), nm_e (nm_r (nI_1 w) (hn _ trivial))⟩)
theorem rc_spread {post : St1 → Prop} (hs : s < 3) (hV : rc_V a1 a2 a3 a4) (H : rc_H post) : wpX_spread post (f0, a1, a2, a3, a4, a5, a6, a7) (nI s) := by
  unfold wpX_spread
  dsimp only
  refine pk_loop (σ := St1) (fun n c u => wX_spread_2 post (nI s) n (nI c) u.1 u.2.1 u.2.2.1 u.2.2.2.1 u.2.2.2.2.1 u.2.2.2.2.2.1 u.2.2.2.2.2.2.1 u.2.2.2.2.2.2.2) (fun c u => rc_V u.2.1 u.2.2.1 u.2.2.2.1 u.2.2.2.2.1) 4 0 (f0, a1, a2, a3, a4, a5, a6, a7) (by omega) hV ?_ ?_
  · rintro n ⟨f, c1, c2, c3, c4, c5, c6, c7⟩ h
    exact pk_le 4 4 (fun _ => H _ _ _ _ _ _ _ _ h) (fun z => absurd z (by omega))
  · rintro n c ⟨f, c1, c2, c3, c4, c5, c6, c7⟩ hc h hw
    dsimp only at h
    show wX_spread_2 post (nI s) (n + 1) (nI c) f c1 c2 c3 c4 c5 c6 c7
    refine pk_le 4 c (fun z => absurd z (by omega)) (fun _ => ?_)
    refine pk_loop (fun m w d5 => wX_spread_9 post (wX_spread_2 post (nI s) n) (nI s) (nI c) f m (nI w) c1 c2 c3 c4 d5 c6 c7) (fun _ _ => True) 4 0 c5 (by omega) trivial ?_ ?_
    · intro m d5 _
      refine pk_le 4 4 (fun _ => ?_) (fun z => absurd z (by omega))
      rw [rc_e4 s c]
      exact rc_saveV (by omega) h (fun f d1 d2 d3 d4 d5 d6 d7 g => nm_r (nI_1 c) (hw (f, d1, d2, d3, d4, d5, d6, d7) g))
    · intro m w d5 hw' _ hn
      exact pk_le 4 w (fun z => absurd z (by omega)) (fun _ => ⟨pk_in (4 * c + w) 16 (by omega) (rc_e4 c w), pk_in w 8 (by omega), nm_e (nm_r (nI_1 w) (hn _ trivial))⟩)
/-! ===== sow ===== -/
theorem rc_sow134 {post : Int32 → St1 → Prop} (hs : s < 3) (hV : rc_V a1 a2 a3 a4) (H : rc_HR post) : wX_sow_134 post (nI s) f0 a1 a2 a3 a4 a5 a6 a7 := by
  unfold wX_sow_134
  exact rc_spread hs hV (fun f c1 c2 c3 c4 c5 c6 c7 h => rc_total hs (H _ _ _ _ _ _ _ _ _ h))
theorem rc_sow80 {post : Int32 → St1 → Prop} {x d e : Nat} (hs : s < 3) (hx : x < 512) (hd : d ≤ 100) (he : e ≤ 200) (hV : rc_V a1 a2 a3 a4) (H : rc_HR post) : ∃ n, wX_sow_80 post (nI s) (nI d) (nI e) f0 n (nI x) 0 a1 a2 a3 a4 a5 a6 a7 := by
  refine pk_loop (σ := Int32 × (Nat → Int32)) (fun n k u => wX_sow_80 post (nI s) (nI d) (nI e) f0 n u.1 (nI k) a1 a2 a3 a4 a5 u.2 a7) (fun k u => ∃ z, z < 1000 ∧ u.1 = nI z) e 0 (nI x, a6) (by omega) ⟨x, by omega, rfl⟩ ?_ ?_
  · rintro n ⟨y, c6⟩ _
    exact pk_le e e (fun _ => rc_sow134 hs hV H) (fun z => absurd z (by omega))
  · rintro n k ⟨y, c6⟩ hk ⟨z, hz, ez⟩ hw
    dsimp only at ez
    subst ez
    show wX_sow_80 post (nI s) (nI d) (nI e) f0 (n + 1) (nI z) (nI k) a1 a2 a3 a4 a5 c6 a7
    refine pk_le e k (fun z => absurd z (by omega)) (fun _ => pk_lt 511 z (fun _ => rc_sow134 hs hV H) (fun g => ?_))
    have i16 : vp_in (nI z >>> ((5 : Int32) &&& 31)) 16 := pk_in (z / 32) 16 (by omega) (rc_shr5 (by omega))
    exact ⟨i16, i16, nm_e (nm_r (nI_add z d) (nm_r (nI_1 k) (hw (nI (z + d), _) ⟨z + d, by omega, rfl⟩)))⟩
theorem rc_pos {x : Int32} (h : ¬ x < 1) : ¬ x < 0 := by
  rw [Int32.lt_iff_toInt_lt] at h ⊢
  rw [show (1 : Int32).toInt = 1 from by decide] at h
  rw [show (0 : Int32).toInt = 0 from by decide]
  omega
theorem rc_sow {post : Int32 → St1 → Prop} {x : Nat} (rule : Int32) (hs : s < 3) (hx : x < 512) (hV : rc_V a1 a2 a3 a4) (H : rc_HR post) : wpX_sow post (f0, a1, a2, a3, a4, a5, a6, a7) (nI s) (nI x) rule := by
  unfold wpX_sow
  dsimp only
  intro x4 e4 x5 e5
  refine rc_isSet hs (rc_1 (rc_isNumber hx (rc_1 (br_c (fun _ => H _ _ _ _ _ _ _ _ _ hV) (fun _ => br_c (fun _ => H _ _ _ _ _ _ _ _ _ hV) (fun h1 => br_c (fun h2 => br_c (fun _ => H _ _ _ _ _ _ _ _ _ hV) (fun h3 => br_c (fun h4 => ?_) (fun _ => H _ _ _ _ _ _ _ _ _ hV))) (fun _ => H _ _ _ _ _ _ _ _ _ hV)))))))
  obtain ⟨d, hd, ed⟩ := nI_of2 (n := 100) (show (100 : Int32).toInt = 100 from by decide) (rc_pos h1) h2
  obtain ⟨e, he, ee⟩ := nI_of2 (n := 200) (show (200 : Int32).toInt = 200 from by decide) (rc_pos h3) h4
  rw [ed, ee]
  exact rc_gather hs hV (fun c5 c6 => rc_sow80 hs hx hd he hV H)
/-! ===== join ===== -/
theorem rc_join {post : Int32 → St1 → Prop} {t : Nat} (kind : Int32) (hs : s < 3) (ht : t < 3) (hV : rc_V a1 a2 a3 a4) (H : rc_HR post) : wpX_join post (f0, a1, a2, a3, a4, a5, a6, a7) kind (nI s) (nI t) := by
  unfold wpX_join
  dsimp only
  refine br_c (fun _ => H _ _ _ _ _ _ _ _ _ hV) (fun _ => br_c (fun _ => rc_isSet hs (rc_1 (rc_isSet ht (rc_1 ?_)))) (fun _ => H _ _ _ _ _ _ _ _ _ hV))
  refine pk_loop (σ := St1) (fun n c u => wX_join_31 post kind (nI s) (nI t) n (nI c) u.1 u.2.1 u.2.2.1 u.2.2.2.1 u.2.2.2.2.1 u.2.2.2.2.2.1 u.2.2.2.2.2.2.1 u.2.2.2.2.2.2.2) (fun c u => rc_V u.2.1 u.2.2.1 u.2.2.2.1 u.2.2.2.2.1) 4 0 (f0, a1, a2, a3, a4, a5, a6, a7) (by omega) hV ?_ ?_
  · rintro n ⟨f, c1, c2, c3, c4, c5, c6, c7⟩ h
    exact pk_le 4 4 (fun _ => rc_total hs (H _ _ _ _ _ _ _ _ _ h)) (fun z => absurd z (by omega))
  · rintro n c ⟨f, c1, c2, c3, c4, c5, c6, c7⟩ hc h hw
    dsimp only at h
    show wX_join_31 post kind (nI s) (nI t) (n + 1) (nI c) f c1 c2 c3 c4 c5 c6 c7
    refine pk_le 4 c (fun z => absurd z (by omega)) (fun _ => ?_)
    rw [rc_e4 s c]
    refine rc_loadV (b := 0) (by omega) (by omega) h (fun d5 => ?_)
    dsimp only
    rw [rc_e4 t c]
    refine rc_loadV (b := 4) (by omega) (by omega) h (fun d5 => ?_)
    refine pk_loop (fun m w b5 => wX_join_62 post (wX_join_31 post kind (nI s) (nI t) n) kind (nI s) (nI t) (nI c) f m (nI w) c1 c2 c3 c4 b5 c6 c7) (fun _ _ => True) 4 0 d5 (by omega) trivial ?_ ?_
    · intro m b5 _
      refine pk_le 4 4 (fun _ => ?_) (fun z => absurd z (by omega))
      rw [rc_e4 s c]
      exact rc_saveV (by omega) h (fun f d1 d2 d3 d4 d5 d6 d7 g => nm_r (nI_1 c) (hw (f, d1, d2, d3, d4, d5, d6, d7) g))
    · intro m w b5 hw' _ hn
      exact pk_le 4 w (fun z => absurd z (by omega)) (fun _ => ⟨pk_in w 8 (by omega), pk_in (4 + w) 8 (by omega) (nI_add 4 w), rc_combine _ _ _ (fun r => ⟨pk_in w 8 (by omega), nm_e (nm_r (nI_1 w) (hn _ trivial))⟩)⟩)
/-! ===== shift ===== -/
theorem rc_shift {post : Int32 → St1 → Prop} (by_ : Int32) (hs : s < 3) (hV : rc_V a1 a2 a3 a4) (H : rc_HR post) : wpX_shift post (f0, a1, a2, a3, a4, a5, a6, a7) (nI s) by_ := by
  unfold wpX_shift
  dsimp only
  refine rc_isSet hs (rc_1 (br_c (fun _ => H _ _ _ _ _ _ _ _ _ hV) (fun _ => br_c (fun _ => rc_gather hs hV (fun b5 b6 => ?_)) (fun _ => H _ _ _ _ _ _ _ _ _ hV))))
  dsimp only
  refine pk_loop (σ := St1) (fun n c u => wX_shift_33 post (nI s) by_ n (nI c) u.1 u.2.1 u.2.2.1 u.2.2.2.1 u.2.2.2.2.1 u.2.2.2.2.2.1 u.2.2.2.2.2.2.1 u.2.2.2.2.2.2.2) (fun c u => rc_V u.2.1 u.2.2.1 u.2.2.2.1 u.2.2.2.2.1) 4 0 (f0, a1, a2, a3, a4, b5, b6, a7) (by omega) hV ?_ ?_
  · rintro n ⟨f, c1, c2, c3, c4, c5, c6, c7⟩ h
    exact pk_le 4 4 (fun _ => rc_total hs (H _ _ _ _ _ _ _ _ _ h)) (fun z => absurd z (by omega))
  · rintro n c ⟨f, c1, c2, c3, c4, c5, c6, c7⟩ hc h hw
    dsimp only at h
    show wX_shift_33 post (nI s) by_ (n + 1) (nI c) f c1 c2 c3 c4 c5 c6 c7
    refine pk_le 4 c (fun z => absurd z (by omega)) (fun _ => ?_)
    refine pk_loop (fun m w d5 => wX_shift_41 post (wX_shift_33 post (nI s) by_ n) (nI s) by_ (nI c) f m (nI w) c1 c2 c3 c4 d5 c6 c7) (fun _ _ => True) 4 0 c5 (by omega) trivial ?_ ?_
    · intro m d5 _
      refine pk_le 4 4 (fun _ => ?_) (fun z => absurd z (by omega))
      rw [rc_e4 s c]
      exact rc_saveV (by omega) h (fun f d1 d2 d3 d4 d5 d6 d7 g => nm_r (nI_1 c) (hw (f, d1, d2, d3, d4, d5, d6, d7) g))
    · intro m w d5 hw' _ hn
      exact pk_le 4 w (fun z => absurd z (by omega)) (fun _ => rc_wordAt _ (fun r => ⟨pk_in w 8 (by omega), nm_e (nm_r (nI_1 w) (hn _ trivial))⟩))
/-! ===== turn ===== -/
theorem rc_turn35 {post : St1 → Prop} {x y : Nat} (op c d : Int32) (hs : s < 3) (hxy : x ≤ y) (hy : y < 512) (hV : rc_V a1 a2 a3 a4) (H : rc_H post) : wL_turn_35 post op (nI s) c d (nI x) (nI y) f0 a1 a2 a3 a4 a5 a6 a7 := by
  have HR : ∀ (r f : Int32) (c1 c2 c3 c4 c5 c6 c7 : Nat → Int32), rc_V c1 c2 c3 c4 → post (f, c1, c2, c3, c4, c5, c6, c7) := fun r f c1 c2 c3 c4 c5 c6 c7 h => H f c1 c2 c3 c4 c5 c6 c7 h
  refine br_c (fun _ => br_c (fun _ => rc_remove hs (by omega) hV HR) (fun _ => br_c (fun _ => br_c (fun _ => rc_clear hs hxy hy hV HR) (fun _ => br_c (fun _ => br_c (fun _ => br_c (fun _ => rc_shift _ hs hV HR) (fun _ => ⟨by decide, ?_⟩)) (fun _ => rc_sow _ hs (by omega) hV HR)) (fun _ => rc_flip hs hxy hy hV HR))) (fun _ => rc_fill hs hxy hy hV HR))) (fun _ => rc_add hs (by omega) hV HR)
  obtain ⟨j, hj, ej⟩ := pk_andE (c >>> ((2 : Int32) &&& 31)) (m := 3) 2 (by decide)
  rw [ej, show nI j - nI j / 3 * 3 = nI (j % 3) from pk_rem (d := 3) (by omega) (by omega) (by omega)]
  exact rc_join _ hs (by omega) hV HR
theorem rc_turn {post : St1 → Prop} (op c d : Int32) (hs : s < 3) (hV : rc_V a1 a2 a3 a4) (H : rc_H post) : wpL_turn post (f0, a1, a2, a3, a4, a5, a6, a7) op (nI s) c d := by
  obtain ⟨x, hx, ex⟩ := pk_andE d (m := 511) 9 (by decide)
  obtain ⟨e, he, ee⟩ := pk_andE (d >>> ((9 : Int32) &&& 31)) (m := 255) 8 (by decide)
  unfold wpL_turn
  dsimp only
  rw [ex, ee]
  refine nm_e (nm_r (nI_add x e) (pk_le (x + e) 511 (fun g => ?_) (fun g => ?_)))
  · exact rc_turn35 op c d hs (by omega) (by omega) hV H
  · exact rc_turn35 (y := 511) op c d hs (by omega) (by omega) hV H
end
end
section
/-! ===== the tape ===== -/
theorem rc_nc_tr {a1 a3 b1 b3 : Nat → Int32} {k j n : Nat} (h : rc_nc a1 a3 k n) (h1 : b1 j = a1 k) (h3 : b3 j = a3 k) : rc_nc b1 b3 j n := by
  unfold rc_nc
  rw [h1, h3]
  exact h
theorem rc_cellsOf {post : Int32 → Prop} {f0 : Int32} {a1 a2 a3 a4 a5 a6 a7 : Nat → Int32} {k n : Nat} (hk : k < 12) (h : rc_nc a1 a3 k n) (H : post (nI n)) : wpX_cellsOf post (f0, a1, a2, a3, a4, a5, a6, a7) (nI k) := by
  have ek : (nI k).toNatClampNeg = k := nI_clamp (by omega)
  have ik : vp_in (nI k) 12 := pk_in k 12 hk
  unfold wpX_cellsOf
  dsimp only
  rw [ek]
  refine ⟨ik, ?_⟩
  rcases h.2 with ⟨h1, h3⟩ | ⟨h1, h3, e⟩ | ⟨h1, m, h3, e⟩
  · refine pk_eq 0 1 (fun z => absurd z (by omega)) (fun _ => ⟨ik, pk_eq 0 0 (fun _ => ⟨ik, ?_⟩) (fun z => absurd rfl z) h1⟩) h1
    rw [h3]
    exact H
  · refine pk_eq 1 1 (fun _ => ?_) (fun z => absurd rfl z) h1
    rw [e] at H
    exact H
  · refine pk_eq 2 1 (fun z => absurd z (by omega)) (fun _ => ⟨ik, pk_eq 2 0 (fun z => absurd z (by omega)) (fun _ => ⟨ik, ?_⟩) h1⟩) h1
    rw [h3, rc_m2, ← e]
    exact H
/-- a chunk's head on the tape -/
def rc_hd (a1 a2 a3 : Nat → Int32) (k : Nat) : Int32 := (a1 k ||| (a3 k <<< ((2 : Int32) &&& 31))) ||| (a2 k <<< ((8 : Int32) &&& 31))
theorem rc_hdT : ∀ u, u < 3 → ∀ v, v < 9 → ∀ w, w < 129 → ((nI u ||| (nI v <<< ((2 : Int32) &&& 31))) ||| (nI w <<< ((8 : Int32) &&& 31))) &&& 3 = nI u ∧ (((nI u ||| (nI v <<< ((2 : Int32) &&& 31))) ||| (nI w <<< ((8 : Int32) &&& 31))) >>> ((2 : Int32) &&& 31)) &&& 63 = nI v ∧ ((nI u ||| (nI v <<< ((2 : Int32) &&& 31))) ||| (nI w <<< ((8 : Int32) &&& 31))) >>> ((8 : Int32) &&& 31) = nI w := by decide +kernel
theorem rc_hdC {a1 a2 a3 a4 : Nat → Int32} {k : Nat} {P : Nat → Bool} (hC : rc_C a1 a2 a3 a4 k P) : rc_hd a1 a2 a3 k &&& 3 = a1 k ∧ (rc_hd a1 a2 a3 k >>> ((2 : Int32) &&& 31)) &&& 63 = a3 k ∧ rc_hd a1 a2 a3 k >>> ((8 : Int32) &&& 31) = a2 k := by
  have hl := rc_cnt_le P 128
  obtain ⟨h2, h⟩ := hC
  unfold rc_hd
  rcases h with ⟨h1, h3, h8, _⟩ | ⟨h1, h3, _⟩ | ⟨h1, m, f, e, hm, h3, _⟩
  · rw [h1, h2, h3]
    exact rc_hdT _ (by omega) _ (by omega) _ (by omega)
  · rw [h1, h2, h3]
    exact rc_hdT _ (by omega) _ (by omega) _ (by omega)
  · rw [h1, h2, h3]
    exact rc_hdT _ (by omega) _ (by omega) _ (by omega)
/-- where chunk c of a set begins on the tape -/
def rc_off (N : Nat → Nat) : Nat → Nat
  | 0 => 0
  | c + 1 => rc_off N c + (1 + N c)
theorem rc_off_le {N : Nat → Nat} (hN : ∀ c, c < 4 → N c ≤ 8) : ∀ c, c ≤ 4 → rc_off N c ≤ 9 * c := by
  intro c
  induction c with
  | zero => exact fun _ => Nat.le_refl 0
  | succ c ih =>
    intro hc
    have h1 := ih (by omega)
    have h2 := hN c (by omega)
    show rc_off N c + (1 + N c) ≤ _
    omega
theorem rc_off_mono {N : Nat → Nat} {c d : Nat} (h : c ≤ d) : rc_off N c ≤ rc_off N d := by
  induction d with
  | zero => rw [show c = 0 by omega]; exact Nat.le_refl _
  | succ d ih =>
    by_cases g : c = d + 1
    · rw [g]; exact Nat.le_refl _
    · have := ih (by omega)
      show _ ≤ rc_off N d + (1 + N d)
      omega
/-- chunk c of set s lies on the tape t -/
def rc_tp (a1 a2 a3 a4 t : Nat → Int32) (N : Nat → Nat) (s c : Nat) : Prop := t (rc_off N c) = rc_hd a1 a2 a3 (4 * s + c) ∧ ∀ i, i < N c → t (rc_off N c + 1 + i) = a4 (8 * (4 * s + c) + i)
section
variable {f0 : Int32} {a1 a2 a3 a4 a5 a6 a7 : Nat → Int32} {s t : Nat}
theorem rc_w80 {post : Int32 → St1 → Prop} {J : Int32 → Int32 → (Nat → Int32) → (Nat → Int32) → (Nat → Int32) → (Nat → Int32) → (Nat → Int32) → (Nat → Int32) → (Nat → Int32) → Prop} {x1 : Int32} {k o n : Nat} (hk : k < 12) (hn : n ≤ 8) (ho : o + n ≤ 44) (H : ∀ c7 : Nat → Int32, (∀ j, j < n → c7 (o + j) = a4 (8 * k + j)) → (∀ j, j < o → c7 j = a7 j) → J (nI (k + 1)) (nI (o + n)) a1 a2 a3 a4 a5 a6 c7) : ∃ m, wX_write_80 post J x1 (nI k) (nI n) m 0 (nI o) a1 a2 a3 a4 a5 a6 a7 := by
  refine pk_loop (σ := Int32 × (Nat → Int32)) (fun m i u => wX_write_80 post J x1 (nI k) (nI n) m (nI i) u.1 a1 a2 a3 a4 a5 a6 u.2) (fun i u => u.1 = nI (o + i) ∧ (∀ j, j < i → u.2 (o + j) = a4 (8 * k + j)) ∧ ∀ j, j < o → u.2 j = a7 j) n 0 (nI o, a7) (by omega) ⟨rfl, fun j hj => absurd hj (Nat.not_lt_zero j), fun _ _ => rfl⟩ ?_ ?_
  · rintro m ⟨f, c7⟩ ⟨h1, h2, h3⟩
    dsimp only at h1 h2 h3
    subst h1
    exact pk_le n n (fun _ => nm_r (nI_1 k) (H c7 h2 h3)) (fun z => absurd z (by omega))
  · rintro m i ⟨f, c7⟩ hi ⟨h1, h2, h3⟩ hw
    dsimp only at h1 h2 h3
    subst h1
    show wX_write_80 post J x1 (nI k) (nI n) (m + 1) (nI i) (nI (o + i)) a1 a2 a3 a4 a5 a6 c7
    refine pk_le n i (fun z => absurd z (by omega)) (fun _ => ⟨pk_in (8 * k + i) 96 (by omega) (rc_e8 k i), pk_in (o + i) 44 (by omega), nm_r (e' := upd c7 (o + i) (a4 (8 * k + i))) (by rw [rc_e8, nI_clamp (by omega), nI_clamp (by omega)]) (nm_r (nI_1 (o + i)) (nm_r (nI_1 i) (hw (nI (o + i + 1), upd c7 (o + i) (a4 (8 * k + i))) ⟨rfl, fun j hj => ?_, fun j hj => ?_⟩)))⟩)
    · dsimp only
      by_cases g : j = i
      · rw [g, pk_us]
      · rw [pk_un (by omega), h2 j (by omega)]
    · dsimp only
      rw [pk_un (by omega), h3 j hj]
theorem rc_write {post : Int32 → St1 → Prop} {N : Nat → Nat} (hs : s < 3) (hN : ∀ c, c < 4 → rc_nc a1 a3 (4 * s + c) (N c)) (H : ∀ c7 : Nat → Int32, (∀ c, c < 4 → rc_tp a1 a2 a3 a4 c7 N s c) → post 0 (nI (rc_off N 4), a1, a2, a3, a4, a5, a6, c7)) : wpX_write post (f0, a1, a2, a3, a4, a5, a6, a7) (nI s) := by
  unfold wpX_write
  dsimp only
  refine rc_isSet hs (rc_1 (nm_r (rc_m4 s) ?_))
  have hL := rc_off_le (N := N) (fun c hc => (hN c hc).1)
  refine pk_loop (σ := Int32 × (Nat → Int32)) (fun m c u => wX_write_18 post (nI s) m (nI (4 * s + c)) u.1 a1 a2 a3 a4 a5 a6 u.2) (fun c u => u.1 = nI (rc_off N c) ∧ ∀ d, d < c → rc_tp a1 a2 a3 a4 u.2 N s d) 4 0 (0, a7) (by omega) ⟨rfl, fun j hj => absurd hj (Nat.not_lt_zero j)⟩ ?_ ?_
  · rintro m ⟨f, c7⟩ ⟨h1, h2⟩
    dsimp only at h1 h2
    subst h1
    exact pk_le (4 * s + 4) (4 * s + 4) (fun _ => H c7 h2) (fun z => absurd z (by omega)) (rc_e4 s 4)
  · rintro m c ⟨f, c7⟩ hc ⟨h1, h2⟩ hw
    dsimp only at h1 h2
    subst h1
    show wX_write_18 post (nI s) (m + 1) (nI (4 * s + c)) (nI (rc_off N c)) a1 a2 a3 a4 a5 a6 c7
    have hk : 4 * s + c < 12 := by omega
    have ik : vp_in (nI (4 * s + c)) 12 := pk_in (4 * s + c) 12 hk
    have hl := hL c (by omega)
    have h8 := (hN c hc).1
    refine pk_le (4 * s + 4) (4 * s + c) (fun z => absurd z (by omega)) (fun _ => ⟨ik, ik, ik, pk_in (rc_off N c) 44 (by omega), nm_r (e' := upd c7 (rc_off N c) (rc_hd a1 a2 a3 (4 * s + c))) (by rw [nI_clamp (by omega), nI_clamp (by omega)]; rfl) (nm_r (nI_1 (rc_off N c)) (rc_cellsOf hk (hN c hc) (rc_w80 hk h8 (by omega) (fun d7 g1 g2 => ?_))))⟩) (rc_e4 s 4)
    refine hw (nI (rc_off N c + 1 + N c), d7) ⟨?_, fun d hd => ?_⟩
    · show nI (rc_off N c + 1 + N c) = nI (rc_off N c + (1 + N c))
      rw [Nat.add_assoc]
    · dsimp only
      by_cases e : d = c
      · rw [e]
        refine ⟨?_, fun i hi => g1 i hi⟩
        rw [g2 _ (by omega), pk_us]
      · have hm : rc_off N d + (1 + N d) ≤ rc_off N c := rc_off_mono (N := N) (show d + 1 ≤ c by omega)
        have ht := h2 d (by omega)
        refine ⟨?_, fun i hi => ?_⟩
        · rw [g2 _ (by omega), pk_un (by omega), ht.1]
        · rw [g2 _ (by omega), pk_un (by omega), ht.2 i hi]
theorem rc_r93 {post : Int32 → St1 → Prop} {J : Int32 → Int32 → (Nat → Int32) → (Nat → Int32) → (Nat → Int32) → (Nat → Int32) → (Nat → Int32) → (Nat → Int32) → (Nat → Int32) → Prop} {x1 : Int32} {k o n : Nat} (hk : k < 12) (hn : n ≤ 8) (ho : o + n ≤ 44) (H : ∀ c4 : Nat → Int32, (∀ j, j < n → c4 (8 * k + j) = a7 (o + j)) → (∀ j, (j < 8 * k ∨ 8 * k + 8 ≤ j) → c4 j = a4 j) → J (nI (o + n)) (nI (k + 1)) a1 a2 a3 c4 a5 a6 a7) : ∃ m, wX_read_93 post J x1 (nI k) (nI n) f0 m (nI o) 0 a1 a2 a3 a4 a5 a6 a7 := by
  refine pk_loop (σ := Int32 × (Nat → Int32)) (fun m i u => wX_read_93 post J x1 (nI k) (nI n) f0 m u.1 (nI i) a1 a2 a3 u.2 a5 a6 a7) (fun i u => u.1 = nI (o + i) ∧ (∀ j, j < i → u.2 (8 * k + j) = a7 (o + j)) ∧ ∀ j, (j < 8 * k ∨ 8 * k + 8 ≤ j) → u.2 j = a4 j) n 0 (nI o, a4) (by omega) ⟨rfl, fun j hj => absurd hj (Nat.not_lt_zero j), fun _ _ => rfl⟩ ?_ ?_
  · rintro m ⟨f, c4⟩ ⟨h1, h2, h3⟩
    dsimp only at h1 h2 h3
    subst h1
    exact pk_le n n (fun _ => nm_r (nI_1 k) (H c4 h2 h3)) (fun z => absurd z (by omega))
  · rintro m i ⟨f, c4⟩ hi ⟨h1, h2, h3⟩ hw
    dsimp only at h1 h2 h3
    subst h1
    show wX_read_93 post J x1 (nI k) (nI n) f0 (m + 1) (nI (o + i)) (nI i) a1 a2 a3 c4 a5 a6 a7
    refine pk_le n i (fun z => absurd z (by omega)) (fun _ => ⟨pk_in (o + i) 44 (by omega), pk_in (8 * k + i) 96 (by omega) (rc_e8 k i), nm_r (e' := upd c4 (8 * k + i) (a7 (o + i))) (by rw [rc_e8, nI_clamp (by omega), nI_clamp (by omega)]) (nm_r (nI_1 (o + i)) (nm_r (nI_1 i) (hw (nI (o + i + 1), upd c4 (8 * k + i) (a7 (o + i))) ⟨rfl, fun j hj => ?_, fun j hj => ?_⟩)))⟩)
    · dsimp only
      by_cases g : j = i
      · rw [g, pk_us]
      · rw [pk_un (by omega), h2 j (by omega)]
    · dsimp only
      rw [pk_un (by omega), h3 j hj]
/-- chunk 4 t + c of the new arrays is as chunk 4 s + c of the old ones -/
def rc_cp (a1 a2 a3 a4 c1 c2 c3 c4 : Nat → Int32) (N : Nat → Nat) (s t c : Nat) : Prop := c1 (4 * t + c) = a1 (4 * s + c) ∧ c2 (4 * t + c) = a2 (4 * s + c) ∧ c3 (4 * t + c) = a3 (4 * s + c) ∧ ∀ i, i < N c → c4 (8 * (4 * t + c) + i) = a4 (8 * (4 * s + c) + i)
/-- outside of set t nothing changed -/
def rc_fr (a1 a2 a3 a4 c1 c2 c3 c4 : Nat → Int32) (t : Nat) : Prop := (∀ j, (j < 4 * t ∨ 4 * t + 4 ≤ j) → c1 j = a1 j ∧ c2 j = a2 j ∧ c3 j = a3 j) ∧ ∀ j, (j < 8 * (4 * t) ∨ 8 * (4 * t + 4) ≤ j) → c4 j = a4 j
theorem rc_read {post : Int32 → St1 → Prop} {N : Nat → Nat} {PP : Nat → Nat → Bool} (hs : s < 3) (ht : t < 3) (hI : rc_I a1 a2 a3 a4 PP) (hN : ∀ c, c < 4 → rc_nc a1 a3 (4 * s + c) (N c)) (hT : ∀ c, c < 4 → rc_tp a1 a2 a3 a4 a7 N s c) (hf : ¬ f0 = 0) (H : ∀ c1 c2 c3 c4 : Nat → Int32, (∀ c, c < 4 → rc_cp a1 a2 a3 a4 c1 c2 c3 c4 N s t c) → rc_fr a1 a2 a3 a4 c1 c2 c3 c4 t → post (rc_sm c2 (4 * t) 4) (f0, c1, c2, c3, c4, a5, a6, a7)) : wpX_read post (f0, a1, a2, a3, a4, a5, a6, a7) (nI t) := by
  unfold wpX_read
  dsimp only
  refine rc_isSet ht (rc_1 (br_f hf (nm_r (rc_m4 t) ?_)))
  have hL := rc_off_le (N := N) (fun c hc => (hN c hc).1)
  refine pk_loop (σ := Int32 × (Nat → Int32) × (Nat → Int32) × (Nat → Int32) × (Nat → Int32)) (fun m c u => wX_read_25 post (nI t) f0 m u.1 (nI (4 * t + c)) u.2.1 u.2.2.1 u.2.2.2.1 u.2.2.2.2 a5 a6 a7) (fun c u => u.1 = nI (rc_off N c) ∧ (∀ d, d < c → rc_cp a1 a2 a3 a4 u.2.1 u.2.2.1 u.2.2.2.1 u.2.2.2.2 N s t d) ∧ rc_fr a1 a2 a3 a4 u.2.1 u.2.2.1 u.2.2.2.1 u.2.2.2.2 t) 4 0 (0, a1, a2, a3, a4) (by omega) ⟨rfl, fun j hj => absurd hj (Nat.not_lt_zero j), fun _ _ => ⟨rfl, rfl, rfl⟩, fun _ _ => rfl⟩ ?_ ?_
  · rintro m ⟨x, c1, c2, c3, c4⟩ ⟨h1, h2, h3⟩
    dsimp only at h1 h2 h3
    subst h1
    exact pk_le (4 * t + 4) (4 * t + 4) (fun _ => rc_total ht (H c1 c2 c3 c4 h2 h3)) (fun z => absurd z (by omega)) (rc_e4 t 4)
  · rintro m c ⟨x, c1, c2, c3, c4⟩ hc ⟨h1, h2, h3⟩ hw
    dsimp only at h1 h2 h3
    subst h1
    show wX_read_25 post (nI t) f0 (m + 1) (nI (rc_off N c)) (nI (4 * t + c)) c1 c2 c3 c4 a5 a6 a7
    have hk : 4 * t + c < 12 := by omega
    have ik : vp_in (nI (4 * t + c)) 12 := pk_in (4 * t + c) 12 hk
    have hl := hL c (by omega)
    have h8 := (hN c hc).1
    have io : vp_in (nI (rc_off N c)) 44 := pk_in (rc_off N c) 44 (by omega)
    have ek : (nI (4 * t + c)).toNatClampNeg = 4 * t + c := nI_clamp (by omega)
    have eo : (nI (rc_off N c)).toNatClampNeg = rc_off N c := nI_clamp (by omega)
    obtain ⟨d1, d2, d3⟩ := rc_hdC (hI (4 * s + c) (by omega))
    have hT' := hT c hc
    refine pk_le (4 * t + 4) (4 * t + c) (fun z => absurd z (by omega)) (fun _ => ⟨io, ik, nm_r (e' := upd c1 (4 * t + c) (a1 (4 * s + c))) (by rw [ek, eo, hT'.1, d1]) ⟨io, ik, nm_r (e' := upd c3 (4 * t + c) (a3 (4 * s + c))) (by rw [ek, eo, hT'.1, d2]) ⟨io, ik, nm_r (e' := upd c2 (4 * t + c) (a2 (4 * s + c))) (by rw [ek, eo, hT'.1, d3]) (nm_r (nI_1 (rc_off N c)) (rc_cellsOf hk (rc_nc_tr (hN c hc) pk_us pk_us) (rc_r93 hk h8 (by omega) (fun e4 g1 g2 => ?_))))⟩⟩⟩) (rc_e4 t 4)
    refine hw (nI (rc_off N c + 1 + N c), upd c1 (4 * t + c) (a1 (4 * s + c)), upd c2 (4 * t + c) (a2 (4 * s + c)), upd c3 (4 * t + c) (a3 (4 * s + c)), e4) ⟨?_, fun d hd => ?_, fun j hj => ?_, fun j hj => ?_⟩
    · show nI (rc_off N c + 1 + N c) = nI (rc_off N c + (1 + N c))
      rw [Nat.add_assoc]
    · dsimp only
      by_cases e : d = c
      · rw [e]
        refine ⟨pk_us, pk_us, pk_us, fun i hi => ?_⟩
        rw [g1 i hi, hT'.2 i hi]
      · obtain ⟨p1, p2, p3, p4⟩ := h2 d (by omega)
        have q8 := (hN d (by omega)).1
        refine ⟨by rw [pk_un (by omega), p1], by rw [pk_un (by omega), p2], by rw [pk_un (by omega), p3], fun i hi => ?_⟩
        rw [g2 _ (by omega), p4 i hi]
    · dsimp only
      rw [pk_un (by omega), pk_un (by omega), pk_un (by omega)]
      exact h3.1 j hj
    · dsimp only
      rw [g2 _ (by omega)]
      exact h3.2 j hj
/-! ===== same ===== -/
theorem rc_same {post : Int32 → St1 → Prop} {PP : Nat → Nat → Bool} (hs : s < 3) (ht : t < 3) (hI : rc_I a1 a2 a3 a4 PP) (hQ : ∀ y, y < 512 → rc_Q PP s y = rc_Q PP t y) (H : ∀ c5, post 1 (f0, a1, a2, a3, a4, c5, a6, a7)) : wpX_same post (f0, a1, a2, a3, a4, a5, a6, a7) (nI s) (nI t) := by
  have q1 : rc_cnt (rc_Q PP s) 512 = rc_cnt (rc_Q PP t) 512 := rc_cnt_congr hQ
  have q2 : rc_cm PP s t 512 = rc_cnt (rc_Q PP s) 512 := rc_cnt_congr (fun y hy => by rw [← hQ y hy, Bool.and_self])
  unfold wpX_same
  dsimp only
  refine rc_isSet hs (rc_1 (rc_isSet ht (rc_1 (rc_common hs ht hI (fun c5 => rc_total hs (br_t ?_ (rc_total hs (rc_total ht (br_t ?_ (H c5))))))))))
  · rw [q2, rc_smQ hs hI]
  · rw [rc_smQ hs hI, rc_smQ ht hI, q1]
end
end
section
/-! ===== the law ===== -/
theorem rc_cell {post : Int32 → Prop} {L : Nat} {xs : Nat → Int32} {k : Nat} (hL : L ≤ 260) (hk : k < 1000) (H : ∀ r, post r) : wpL_cell post L xs () (nI k) :=
  pk_le L k (fun _ => H _) (fun g => ⟨pk_in k L g, H _⟩)
theorem rc_r3 (x : Int32) : ∃ s, s < 3 ∧ (x &&& 3) - (x &&& 3) / 3 * 3 = nI s := by
  obtain ⟨j, hj, ej⟩ := pk_andE x (m := 3) 2 (by decide)
  exact ⟨j % 3, by omega, by rw [ej]; exact pk_rem (d := 3) (by omega) (by omega) (by omega)⟩
theorem rc_136 {post : Int32 → Prop} {L : Nat} {xs : Nat → Int32} {J : Int32 → Int32 → (Nat → Int32) → (Nat → Int32) → (Nat → Int32) → (Nat → Int32) → (Nat → Int32) → (Nat → Int32) → (Nat → Int32) → Prop} {k s t kc ks : Nat} {f : Int32} {c1 c2 c3 c4 c5 c6 c7 : Nat → Int32} (hs : s < 3) (ht : t < 3) (hV : rc_V c1 c2 c3 c4) (H : rc_HJ J (nI (k + 2))) : wL_law_136 post L xs J (nI k) (nI s) (nI t) kc ks f c1 c2 c3 c4 c5 c6 c7 := by
  obtain ⟨PP, hI⟩ := rc_V_I hV
  unfold wL_law_136
  exact rc_holds hs ht hI (fun b => br_f (by decide) (nm_r (nI_add k 2) (H _ _ _ _ _ _ _ _ hV)))
/-- the chunks after write(s), read(t) -/
theorem rc_cpI {a1 a2 a3 a4 c1 c2 c3 c4 : Nat → Int32} {N : Nat → Nat} {PP : Nat → Nat → Bool} {s t : Nat} (hs : s < 3) (ht : t < 3) (hI : rc_I a1 a2 a3 a4 PP) (hN : ∀ c, c < 4 → ∀ (b1 b2 b3 b4 : Nat → Int32) (j : Nat), b1 j = a1 (4 * s + c) → b2 j = a2 (4 * s + c) → b3 j = a3 (4 * s + c) → (∀ i, i < N c → b4 (8 * j + i) = a4 (8 * (4 * s + c) + i)) → rc_C b1 b2 b3 b4 j (PP (4 * s + c))) (hc : ∀ c, c < 4 → rc_cp a1 a2 a3 a4 c1 c2 c3 c4 N s t c) (hf : rc_fr a1 a2 a3 a4 c1 c2 c3 c4 t) : rc_I c1 c2 c3 c4 (fun k => if 4 * t ≤ k ∧ k < 4 * t + 4 then PP (4 * s + (k - 4 * t)) else PP k) := by
  intro k hk
  dsimp only
  by_cases g : 4 * t ≤ k ∧ k < 4 * t + 4
  · rw [if_pos g]
    obtain ⟨p1, p2, p3, p4⟩ := hc (k - 4 * t) (by omega)
    rw [show 4 * t + (k - 4 * t) = k by omega] at p1 p2 p3 p4
    exact hN (k - 4 * t) (by omega) c1 c2 c3 c4 k p1 p2 p3 p4
  · rw [if_neg g]
    obtain ⟨n, hn, h⟩ := rc_cells (hI k hk)
    have h8 := hn.1
    obtain ⟨f1, f2, f3⟩ := hf.1 k (by omega)
    exact h c1 c2 c3 c4 k f1 f2 f3 (fun i hi => hf.2 _ (by omega))
theorem rc_cpQ {PP : Nat → Nat → Bool} {s t y : Nat} (hy : y < 512) : rc_Q (fun k => if 4 * t ≤ k ∧ k < 4 * t + 4 then PP (4 * s + (k - 4 * t)) else PP k) s y = rc_Q (fun k => if 4 * t ≤ k ∧ k < 4 * t + 4 then PP (4 * s + (k - 4 * t)) else PP k) t y := by
  unfold rc_Q
  dsimp only
  rw [if_pos (show 4 * t ≤ 4 * t + y / 128 ∧ 4 * t + y / 128 < 4 * t + 4 by omega), show 4 * s + (4 * t + y / 128 - 4 * t) = 4 * s + y / 128 by omega]
  by_cases g : s = t
  · rw [g, if_pos (by omega), show 4 * t + (4 * t + y / 128 - 4 * t) = 4 * t + y / 128 by omega]
  · rw [if_neg (by omega)]
theorem rc_off4 (N : Nat → Nat) : 0 < rc_off N 4 := by
  show 0 < rc_off N 3 + (1 + N 3)
  omega
theorem rc_tape {post : Int32 → Prop} {f : Int32} {a1 a2 a3 a4 a5 a6 a7 : Nat → Int32} {s t : Nat} {G : Int32 → (Nat → Int32) → (Nat → Int32) → (Nat → Int32) → (Nat → Int32) → (Nat → Int32) → (Nat → Int32) → (Nat → Int32) → Prop} (hs : s < 3) (ht : t < 3) (hV : rc_V a1 a2 a3 a4) (H : ∀ (f : Int32) (c1 c2 c3 c4 c5 c6 c7 : Nat → Int32), rc_V c1 c2 c3 c4 → G f c1 c2 c3 c4 c5 c6 c7) :
    wpX_write (fun r_87 u => match u with | (g0, b1, b2, b3, b4, b5, b6, b7) => (((r_87 = 0 → (wpX_read (fun r_111 u => match u with | (h0, d1, d2, d3, d4, d5, d6, d7) => (wpX_size (fun r_134 => (((r_111 = r_134 → (wpX_same (fun r_136 u => match u with | (i0, e1, e2, e3, e4, e5, e6, e7) => (((r_136 = 1 → (G i0 e1 e2 e3 e4 e5 e6 e7)) ∧ (¬ r_136 = 1 → (post 0))))) (h0, d1, d2, d3, d4, d5, d6, d7) (nI s) (nI t))) ∧ (¬ r_111 = r_134 → (post 0))))) (h0, d1, d2, d3, d4, d5, d6, d7) (nI s))) (g0, b1, b2, b3, b4, b5, b6, b7) (nI t))) ∧ (¬ r_87 = 0 → (post 0))))) (f, a1, a2, a3, a4, a5, a6, a7) (nI s) := by
  obtain ⟨PP, hI⟩ := rc_V_I hV
  have hN : ∀ c, ∃ n, c < 4 → rc_nc a1 a3 (4 * s + c) n ∧ ∀ (b1 b2 b3 b4 : Nat → Int32) (j : Nat), b1 j = a1 (4 * s + c) → b2 j = a2 (4 * s + c) → b3 j = a3 (4 * s + c) → (∀ i, i < n → b4 (8 * j + i) = a4 (8 * (4 * s + c) + i)) → rc_C b1 b2 b3 b4 j (PP (4 * s + c)) := by
    intro c
    by_cases g : c < 4
    · obtain ⟨n, h1, h2⟩ := rc_cells (hI (4 * s + c) (by omega))
      exact ⟨n, fun _ => ⟨h1, h2⟩⟩
    · exact ⟨0, fun z => absurd z g⟩
  have hN' : ∃ N : Nat → Nat, ∀ c, c < 4 → rc_nc a1 a3 (4 * s + c) (N c) ∧ ∀ (b1 b2 b3 b4 : Nat → Int32) (j : Nat), b1 j = a1 (4 * s + c) → b2 j = a2 (4 * s + c) → b3 j = a3 (4 * s + c) → (∀ i, i < N c → b4 (8 * j + i) = a4 (8 * (4 * s + c) + i)) → rc_C b1 b2 b3 b4 j (PP (4 * s + c)) := ⟨fun c => Classical.choose (hN c), fun c hc => Classical.choose_spec (hN c) hc⟩
  obtain ⟨N, hN'⟩ := hN'
  have hL := rc_off_le (N := N) (fun c hc => (hN' c hc).1.1) 4 (by omega)
  refine rc_write (N := N) hs (fun c hc => (hN' c hc).1) (fun t7 hT => br_t rfl ?_)
  refine rc_read (N := N) hs ht hI (fun c hc => (hN' c hc).1) hT (nI_ne0 (rc_off4 N) (by omega)) (fun c1 c2 c3 c4 hc hf => ?_)
  have hI' := rc_cpI hs ht hI (fun c hc => (hN' c hc).2) hc hf
  refine rc_size hs (br_t ?_ (rc_same hs ht hI' (fun y hy => rc_cpQ hy) (fun c5 => br_t rfl (H _ _ _ _ _ _ _ _ (rc_I_V hI')))))
  rw [rc_smQ hs hI', rc_smQ ht hI', rc_cnt_congr (fun y hy => rc_cpQ hy)]
theorem rc_V0 : rc_V (fun _ => 0) (fun _ => 0) (fun _ => 0) (fun _ => 0) := by
  intro k _
  have h0 : rc_cnt (fun _ => false) 128 = 0 := rc_cnt_false (fun _ _ => rfl)
  refine ⟨fun _ => false, ?_, Or.inl ⟨rfl, ?_, ?_, ?_⟩⟩
  · rw [h0]; rfl
  · rw [h0]; rfl
  · omega
  · intro i hi
    omega
theorem i_vc (xs : Nat → Int32) (L : Nat) (hL : L ≤ 260) : wpL_law (fun r => r = 1) L xs := by
  refine ⟨7, 200, by omega, by omega, ?_⟩
  refine ⟨by omega, by omega, by omega, by omega, by omega, by omega, by omega, by omega, by omega, by omega, by omega, by omega, by omega, by omega, ?_⟩
  refine loop_m (σ := Nat × St1) (fun n p => wL_law_10 (fun r => r = 1) L xs 8 208 n (nI p.1) p.2.1 p.2.2.1 p.2.2.2.1 p.2.2.2.2.1 p.2.2.2.2.2.1 p.2.2.2.2.2.2.1 p.2.2.2.2.2.2.2.1 p.2.2.2.2.2.2.2.2) (fun p => p.1 ≤ 300 ∧ rc_V p.2.2.1 p.2.2.2.1 p.2.2.2.2.1 p.2.2.2.2.2.1) (fun p => 400 - p.1) ?_ (0, 0, (fun _ => 0), (fun _ => 0), (fun _ => 0), (fun _ => 0), (fun _ => 0), (fun _ => 0), (fun _ => 0)) ⟨by omega, rc_V0⟩
  rintro n ⟨k, f, a1, a2, a3, a4, a5, a6, a7⟩ ⟨hk, hV⟩ hw
  dsimp only at hk hV
  show wL_law_10 (fun r => r = 1) L xs 8 208 (n + 1) (nI k) f a1 a2 a3 a4 a5 a6 a7
  refine pk_le L k (fun _ => rfl) (fun g => rc_cell hL (by omega) (fun r => ?_))
  have HJ : rc_HJ (wL_law_10 (fun r => r = 1) L xs 8 208 n) (nI (k + 2)) := fun f d1 d2 d3 d4 d5 d6 d7 h => hw (k + 2, f, d1, d2, d3, d4, d5, d6, d7) ⟨by show k + 2 ≤ 300; omega, h⟩ (by show 400 - (k + 2) < 400 - k; omega)
  dsimp only
  rw [nI_1 k]
  refine rc_cell hL (by omega) (fun q => ?_)
  obtain ⟨s, hs, es⟩ := rc_r3 (r >>> ((4 : Int32) &&& 31))
  obtain ⟨t, ht, et⟩ := rc_r3 (r >>> ((6 : Int32) &&& 31))
  refine nm_e ⟨by decide, nm_r es ⟨by decide, nm_r et ?_⟩⟩
  refine br_c (fun _ => br_c (fun _ => ?_) (fun _ => ?_)) (fun _ => ?_)
  · exact rc_tape (post := fun r => r = 1) (G := fun f c1 c2 c3 c4 c5 c6 c7 => wL_law_136 (fun r => r = 1) L xs (wL_law_10 (fun r => r = 1) L xs 8 208 n) (nI k) (nI s) (nI t) 8 208 f c1 c2 c3 c4 c5 c6 c7) hs ht hV (fun f c1 c2 c3 c4 c5 c6 c7 h => rc_136 hs ht h HJ)
  · exact rc_clear (x := 0) (y := 511) hs (by omega) (by omega) hV (fun r f c1 c2 c3 c4 c5 c6 c7 h => rc_136 hs ht h HJ)
  · exact rc_turn _ _ _ hs hV (fun f c1 c2 c3 c4 c5 c6 c7 h => rc_136 hs ht h HJ)
end

section
/- pasted from kit/laws/BITS.to-paste (starting text): the family wb_ -/
theorem wb_tb (n : Nat) : (lN n).toBitVec = BitVec.ofNat 64 n := rfl
theorem wb_inj {a b : Int64} (h : a.toBitVec = b.toBitVec) : a = b := Int64.toBitVec_inj.mp h
theorem wb_tn {n : Nat} (h : n < 2 ^ 64) : (lN n).toBitVec.toNat = n := by rw [wb_tb, BitVec.toNat_ofNat, Nat.mod_eq_of_lt h]
theorem wb_of (x : Int64) : ∃ n, n < 2 ^ 64 ∧ x = lN n := ⟨x.toBitVec.toNat, x.toBitVec.isLt, wb_inj (by rw [wb_tb]; simp)⟩
theorem wb_c : ∀ k, k < 64 → ((nI k).toInt64 &&& 63) = lN k := by decide +kernel
theorem wb_cu : ∀ k, k < 64 → ((nI k).toInt64.toUInt64 &&& Int64.toUInt64 63) = UInt64.ofNat k := by decide +kernel
theorem wb_sm : ∀ k, k < 64 → (BitVec.ofNat 64 k).smod 64 = BitVec.ofNat 64 k := by decide +kernel
theorem wb_pw {a b : Nat} (h : a ≤ b) : 2 ^ b = 2 ^ a * 2 ^ (b - a) := by rw [← Nat.pow_add]; congr 1; omega
theorem wb_lt2 {a b : Nat} (h : a < b) : 2 ^ a < 2 ^ b := Nat.pow_lt_pow_right (by decide) h
theorem wb_mod (n : Nat) : lN n = lN (n % 2 ^ 64) := wb_inj (by rw [wb_tb, wb_tb]; apply BitVec.eq_of_toNat_eq; rw [BitVec.toNat_ofNat, BitVec.toNat_ofNat, Nat.mod_mod])
theorem wb_shr {n k : Nat} (hn : n < 2 ^ 64) (hk : k < 64) : ((lN n).toUInt64 >>> ((nI k).toInt64.toUInt64 &&& Int64.toUInt64 63)).toInt64 = lN (n / 2 ^ k) := by
  rw [wb_cu k hk]
  apply wb_inj
  apply BitVec.eq_of_toNat_eq
  show ((lN n).toUInt64 >>> UInt64.ofNat k).toNat = (BitVec.ofNat 64 _).toNat
  have h1 : (UInt64.ofNat k).toNat = k := by
    show (BitVec.ofNat 64 k).toNat = k
    rw [BitVec.toNat_ofNat, Nat.mod_eq_of_lt (by omega)]
  have h2 : (lN n).toUInt64.toNat = n := wb_tn hn
  rw [UInt64.toNat_shiftRight, h1, h2, Nat.mod_eq_of_lt hk, Nat.shiftRight_eq_div_pow, BitVec.toNat_ofNat, Nat.mod_eq_of_lt (Nat.lt_of_le_of_lt (Nat.div_le_self _ _) hn)]
theorem wb_shl (n : Nat) {k : Nat} (hk : k < 64) : lN n <<< ((nI k).toInt64 &&& 63) = lN (n * 2 ^ k) := by
  rw [wb_c k hk]
  apply wb_inj
  rw [Int64.toBitVec_shiftLeft, wb_tb, wb_tb, wb_tb, wb_sm k hk]
  apply BitVec.eq_of_toNat_eq
  rw [BitVec.shiftLeft_eq', BitVec.toNat_shiftLeft, BitVec.toNat_ofNat, BitVec.toNat_ofNat, BitVec.toNat_ofNat, Nat.mod_eq_of_lt (show k < 2 ^ 64 by omega), Nat.shiftLeft_eq, Nat.mul_mod, Nat.mod_mod, ← Nat.mul_mod]
theorem wb_and {a b : Nat} (ha : a < 2 ^ 64) (hb : b < 2 ^ 64) : lN a &&& lN b = lN (a &&& b) := by
  apply wb_inj
  rw [Int64.toBitVec_and, wb_tb, wb_tb, wb_tb]
  apply BitVec.eq_of_toNat_eq
  rw [BitVec.toNat_and, BitVec.toNat_ofNat, BitVec.toNat_ofNat, BitVec.toNat_ofNat, Nat.mod_eq_of_lt ha, Nat.mod_eq_of_lt hb, Nat.mod_eq_of_lt (Nat.and_lt_two_pow _ hb)]
theorem wb_or {a b : Nat} (ha : a < 2 ^ 64) (hb : b < 2 ^ 64) : lN a ||| lN b = lN (a ||| b) := by
  apply wb_inj
  rw [Int64.toBitVec_or, wb_tb, wb_tb, wb_tb]
  apply BitVec.eq_of_toNat_eq
  rw [BitVec.toNat_or, BitVec.toNat_ofNat, BitVec.toNat_ofNat, BitVec.toNat_ofNat, Nat.mod_eq_of_lt ha, Nat.mod_eq_of_lt hb, Nat.mod_eq_of_lt (Nat.or_lt_two_pow ha hb)]
theorem wb_mask {n k : Nat} (hn : n < 2 ^ 64) (hk : k < 64) : lN n &&& lN (2 ^ k - 1) = lN (n % 2 ^ k) := by
  rw [wb_and hn (by have := wb_lt2 hk; omega), Nat.and_two_pow_sub_one_eq_mod]
theorem wb_a1 {n : Nat} (hn : n < 2 ^ 64) : lN n &&& 1 = lN (n % 2) := wb_mask (k := 1) hn (by decide)
theorem wb_bit {n k : Nat} (hn : n < 2 ^ 64) (hk : k < 64) : ((lN n).toUInt64 >>> ((nI k).toInt64.toUInt64 &&& Int64.toUInt64 63)).toInt64 &&& 1 = lN (n / 2 ^ k % 2) := by
  rw [wb_shr hn hk, wb_a1 (Nat.lt_of_le_of_lt (Nat.div_le_self _ _) hn)]
/- own rows: an Int64 as a row of bits -/
def sd_b (x : Int64) (i : Nat) : Bool := x.toBitVec.getLsbD i
theorem sd_and (x y : Int64) (i : Nat) : sd_b (x &&& y) i = (sd_b x i && sd_b y i) := by
  unfold sd_b
  rw [Int64.toBitVec_and, BitVec.getLsbD_and]
theorem sd_not (x : Int64) {i : Nat} (h : i < 64) : sd_b (x ^^^ (-1)) i = !sd_b x i := by
  unfold sd_b
  have e : (-1 : Int64).toBitVec = BitVec.allOnes 64 := by decide
  rw [Int64.toBitVec_xor, BitVec.getLsbD_xor, e, BitVec.getLsbD_allOnes]
  simp [h]
theorem sd_lN {n i : Nat} (hi : i < 64) : sd_b (lN n) i = n.testBit i := by
  unfold sd_b
  rw [wb_tb, BitVec.getLsbD_ofNat]
  simp [hi]
theorem sd_m1 {i : Nat} (h : i < 64) : sd_b (-1) i = true := by
  unfold sd_b
  have e : (-1 : Int64).toBitVec = BitVec.allOnes 64 := by decide
  rw [e, BitVec.getLsbD_allOnes]
  simp [h]
/-- the printed bit of a word -/
theorem sd_bit (x : Int64) {k : Nat} (hk : k < 64) : ((x.toUInt64 >>> ((nI k).toInt64.toUInt64 &&& Int64.toUInt64 63)).toInt64 &&& 1) = if sd_b x k = true then 1 else 0 := by
  obtain ⟨n, hn, rfl⟩ := wb_of x
  rw [wb_bit hn hk, sd_lN hk, Nat.testBit_eq_decide_div_mod_eq]
  rcases Nat.mod_two_eq_zero_or_one (n / 2 ^ k) with e | e
  · rw [e]
    rfl
  · rw [e]
    rfl
theorem sd_bit_t {x : Int64} {k : Nat} (hk : k < 64) (h : sd_b x k = true) : ((x.toUInt64 >>> ((nI k).toInt64.toUInt64 &&& Int64.toUInt64 63)).toInt64 &&& 1) = 1 := by
  rw [sd_bit x hk, if_pos h]
theorem sd_bit_f {x : Int64} {k : Nat} (hk : k < 64) (h : sd_b x k = false) : ¬ ((x.toUInt64 >>> ((nI k).toInt64.toUInt64 &&& Int64.toUInt64 63)).toInt64 &&& 1) = 1 := by
  rw [sd_bit x hk, if_neg (by rw [h]; decide)]
  decide
/-- a branch over a printed bit -/
theorem sd_br {x : Int64} {A B : Prop} (k : Nat) (hk : k < 64) (f : sd_b x k = true → A) (g : sd_b x k = false → B) : (((x.toUInt64 >>> ((nI k).toInt64.toUInt64 &&& Int64.toUInt64 63)).toInt64 &&& 1) = 1 → A) ∧ (¬ ((x.toUInt64 >>> ((nI k).toInt64.toUInt64 &&& Int64.toUInt64 63)).toInt64 &&& 1) = 1 → B) := by
  cases h : sd_b x k with
  | true => exact br_t (sd_bit_t hk h) (f h)
  | false => exact br_f (sd_bit_f hk h) (g h)
theorem sd_neg {x : Int64} (h : sd_b x 63 = true) : ¬ 0 ≤ x := by
  unfold sd_b at h
  have m : x.toBitVec.msb = true := by rw [BitVec.msb_eq_getLsbD_last]; exact h
  rw [BitVec.msb_eq_toInt] at m
  have m' : x.toBitVec.toInt < 0 := of_decide_eq_true m
  rw [Int64.le_iff_toInt_le]
  intro z
  have z' : (0 : Int) ≤ x.toBitVec.toInt := z
  omega
theorem sd_faults : ∀ g, g < 15 → ∀ i, i < 64 → sd_b (((1 : Int64) <<< ((2 * (7 + nI g)).toInt64 &&& 63)) - 1) i = decide (i < 2 * (7 + g)) := by decide +kernel
/-- the lowest bit alone -/
theorem sd_low {x : Int64} {k : Nat} (hk : k < 64) (h : sd_b x k = true) (hl : ∀ j, j < k → sd_b x j = false) : x &&& (-x) = lN (2 ^ k) := by
  apply wb_inj
  rw [Int64.toBitVec_and, Int64.toBitVec_neg, wb_tb]
  apply BitVec.eq_of_getLsbD_eq
  intro i hi
  rw [BitVec.getLsbD_and, BitVec.getLsbD_neg, BitVec.getLsbD_ofNat, Nat.testBit_two_pow]
  unfold sd_b at h hl
  rcases Nat.lt_trichotomy i k with c | c | c
  · rw [hl i c]
    simp [show ¬ k = i by omega]
  · subst c
    have e : ¬ ∃ j, j < i ∧ x.toBitVec.getLsbD j = true := by
      intro ⟨j, hj, hb⟩
      rw [hl j hj] at hb
      exact absurd hb (by decide)
    simp only [e, h, hi]
    decide
  · have e : ∃ j, j < i ∧ x.toBitVec.getLsbD j = true := ⟨k, c, h⟩
    simp only [e, hi]
    cases x.toBitVec.getLsbD i <;> simp [show ¬ k = i by omega]
end
section
/- counting bits: how many i < k with f i -/
def sd_c (f : Nat → Bool) : Nat → Nat
  | 0 => 0
  | k + 1 => sd_c f k + (f k).toNat
theorem sd_c_congr {f g : Nat → Bool} {k : Nat} (h : ∀ i, i < k → f i = g i) : sd_c f k = sd_c g k := by
  induction k with
  | zero => rfl
  | succ k ih =>
    show sd_c f k + (f k).toNat = sd_c g k + (g k).toNat
    rw [ih (fun i hi => h i (by omega)), h k (by omega)]
theorem sd_c_add (f : Nat → Bool) (k m : Nat) : sd_c f (k + m) = sd_c f k + sd_c (fun i => f (k + i)) m := by
  induction m with
  | zero => rfl
  | succ m ih =>
    show sd_c f (k + m) + (f (k + m)).toNat = sd_c f k + (sd_c (fun i => f (k + i)) m + (f (k + m)).toNat)
    rw [ih, Nat.add_assoc]
theorem sd_c_zero {f : Nat → Bool} {k : Nat} (h : ∀ i, i < k → f i = false) : sd_c f k = 0 := by
  induction k with
  | zero => rfl
  | succ k ih =>
    show sd_c f k + (f k).toNat = 0
    rw [ih (fun i hi => h i (by omega)), h k (by omega)]
    rfl
theorem sd_c_le (f : Nat → Bool) (k : Nat) : sd_c f k ≤ k := by
  induction k with
  | zero => exact Nat.le_refl 0
  | succ k ih =>
    have : (f k).toNat ≤ 1 := Bool.toNat_le (f k)
    show sd_c f k + (f k).toNat ≤ k + 1
    omega
theorem sd_c_mono (f : Nat → Bool) {k m : Nat} (h : k ≤ m) : sd_c f k ≤ sd_c f m := by
  obtain ⟨d, rfl⟩ : ∃ d, m = k + d := ⟨m - k, by omega⟩
  rw [sd_c_add]
  omega
theorem sd_c_t {f : Nat → Bool} {k : Nat} (h : f k = true) : sd_c f (k + 1) = sd_c f k + 1 := by
  show sd_c f k + (f k).toNat = _
  rw [h]
  rfl
theorem sd_c_f {f : Nat → Bool} {k : Nat} (h : f k = false) : sd_c f (k + 1) = sd_c f k := by
  show sd_c f k + (f k).toNat = _
  rw [h]
  rfl
theorem sd_c_lt {f : Nat → Bool} {k m : Nat} (h : f k = true) (hk : k < m) : sd_c f k < sd_c f m := by
  have a := sd_c_mono f (show k + 1 ≤ m from hk)
  rw [sd_c_t h] at a
  omega
/-- two set places with as many set ones below are one -/
theorem sd_c_inj {f : Nat → Bool} {k m : Nat} (hk : f k = true) (hm : f m = true) (h : sd_c f k = sd_c f m) : k = m := by
  rcases Nat.lt_trichotomy k m with c | c | c
  · have := sd_c_lt hk c
    omega
  · exact c
  · have := sd_c_lt hm c
    omega
/- bytes -/
def sd_V (m : Nat) : Nat → Nat
  | 0 => 0
  | k + 1 => m + 256 * sd_V m k
def sd_m (g : Nat → Nat) : Nat → Nat → Nat
  | 0, _ => 0
  | k + 1, n => g (n % 256) + 256 * sd_m g k (n / 256)
def sd_s (g : Nat → Nat) : Nat → Nat → Nat
  | 0, _ => 0
  | k + 1, n => g (n % 256) + sd_s g k (n / 256)
theorem sd_split (n : Nat) : n = n % 256 + 256 * (n / 256) := by omega
theorem sd_ands {a b c d : Nat} (ha : a < 256) (hc : c < 256) : (a + 256 * b) &&& (c + 256 * d) = (a &&& c) + 256 * (b &&& d) := by
  have hac : a &&& c < 2 ^ 8 := Nat.and_lt_two_pow a (n := 8) hc
  rw [show a + 256 * b = 2 ^ 8 * b + a by omega, show c + 256 * d = 2 ^ 8 * d + c by omega, show (a &&& c) + 256 * (b &&& d) = 2 ^ 8 * (b &&& d) + (a &&& c) by omega]
  apply Nat.eq_of_testBit_eq
  intro i
  rw [Nat.testBit_and, Nat.testBit_two_pow_mul_add b (i := 8) ha, Nat.testBit_two_pow_mul_add d (i := 8) hc, Nat.testBit_two_pow_mul_add (b &&& d) hac]
  by_cases e : i < 8
  · rw [if_pos e, if_pos e, if_pos e, Nat.testBit_and]
  · rw [if_neg e, if_neg e, if_neg e, Nat.testBit_and]
theorem sd_g1 : ∀ b, b < 256 → ∀ t, t < 2 → (b / 2 + 128 * t) &&& 85 = (b / 2) &&& 85 ∧ (b / 2) &&& 85 ≤ b := by decide +kernel
theorem sd_g2 : ∀ b, b < 256 → ∀ t, t < 4 → (b / 4 + 64 * t) &&& 51 = (b / 4) &&& 51 := by decide +kernel
theorem sd_st1 : ∀ k n, n < 256 ^ k → (n / 2) &&& sd_V 85 k = sd_m (fun b => (b / 2) &&& 85) k n := by
  intro k
  induction k with
  | zero => intro n _; exact Nat.and_zero _
  | succ k ih =>
    intro n hn
    rw [Nat.pow_succ] at hn
    have hd : n / 256 < 256 ^ k := by omega
    show (n / 2) &&& (85 + 256 * sd_V 85 k) = ((n % 256) / 2 &&& 85) + 256 * sd_m (fun b => (b / 2) &&& 85) k (n / 256)
    rw [← ih (n / 256) hd, ← (sd_g1 (n % 256) (by omega) (n / 256 % 2) (by omega)).1, ← sd_ands (by omega) (by decide)]
    congr 1
    omega
theorem sd_st1le : ∀ k n, sd_m (fun b => (b / 2) &&& 85) k n ≤ n := by
  intro k
  induction k with
  | zero => intro n; exact Nat.zero_le _
  | succ k ih =>
    intro n
    have h1 := ih (n / 256)
    have h2 := (sd_g1 (n % 256) (by omega) 0 (by omega)).2
    show ((n % 256) / 2 &&& 85) + 256 * sd_m (fun b => (b / 2) &&& 85) k (n / 256) ≤ n
    omega
def sd_h1 (b : Nat) : Nat := b - ((b / 2) &&& 85)
theorem sd_st1s : ∀ k n, n < 256 ^ k → n - ((n / 2) &&& sd_V 85 k) = sd_m sd_h1 k n := by
  intro k n hn
  rw [sd_st1 k n hn]
  revert n
  induction k with
  | zero => intro n hn; show n - 0 = 0; simp at hn; omega
  | succ k ih =>
    intro n hn
    rw [Nat.pow_succ] at hn
    have hd : n / 256 < 256 ^ k := by omega
    have h1 := ih (n / 256) hd
    have h2 := (sd_g1 (n % 256) (by omega) 0 (by omega)).2
    have h3 := sd_st1le k (n / 256)
    show n - (((n % 256) / 2 &&& 85) + 256 * sd_m (fun b => (b / 2) &&& 85) k (n / 256)) = (n % 256 - ((n % 256) / 2 &&& 85)) + 256 * sd_m sd_h1 k (n / 256)
    omega
def sd_h2 (b : Nat) : Nat := (b &&& 51) + ((b / 4) &&& 51)
theorem sd_st2 : ∀ k n, n < 256 ^ k → (n &&& sd_V 51 k) + ((n / 4) &&& sd_V 51 k) = sd_m sd_h2 k n := by
  intro k
  induction k with
  | zero => intro n _; show (n &&& 0) + ((n / 4) &&& 0) = 0; rw [Nat.and_zero, Nat.and_zero]
  | succ k ih =>
    intro n hn
    rw [Nat.pow_succ] at hn
    have hd : n / 256 < 256 ^ k := by omega
    have e1 : n &&& (51 + 256 * sd_V 51 k) = (n % 256 &&& 51) + 256 * (n / 256 &&& sd_V 51 k) := by
      rw [← sd_ands (by omega) (by decide)]
      congr 1
      omega
    have e2 : (n / 4) &&& (51 + 256 * sd_V 51 k) = ((n % 256) / 4 &&& 51) + 256 * ((n / 256) / 4 &&& sd_V 51 k) := by
      rw [← sd_g2 (n % 256) (by omega) (n / 256 % 4) (by omega), ← sd_ands (by omega) (by decide)]
      congr 1
      omega
    show (n &&& (51 + 256 * sd_V 51 k)) + ((n / 4) &&& (51 + 256 * sd_V 51 k)) = ((n % 256 &&& 51) + ((n % 256) / 4 &&& 51)) + 256 * sd_m sd_h2 k (n / 256)
    rw [e1, e2, ← ih (n / 256) hd]
    omega
theorem sd_comp {g h : Nat → Nat} (hh : ∀ b, b < 256 → h b < 256) : ∀ k n, sd_m g k (sd_m h k n) = sd_m (fun b => g (h b)) k n := by
  intro k
  induction k with
  | zero => intro n; rfl
  | succ k ih =>
    intro n
    have h1 := hh (n % 256) (by omega)
    show g ((h (n % 256) + 256 * sd_m h k (n / 256)) % 256) + 256 * sd_m g k ((h (n % 256) + 256 * sd_m h k (n / 256)) / 256) = g (h (n % 256)) + 256 * sd_m (fun b => g (h b)) k (n / 256)
    rw [show (h (n % 256) + 256 * sd_m h k (n / 256)) % 256 = h (n % 256) by omega, show (h (n % 256) + 256 * sd_m h k (n / 256)) / 256 = sd_m h k (n / 256) by omega, ih]
theorem sd_mlt {h : Nat → Nat} (hh : ∀ b, b < 256 → h b < 256) : ∀ k n, sd_m h k n < 256 ^ k := by
  intro k
  induction k with
  | zero => intro n; exact Nat.zero_lt_one
  | succ k ih =>
    intro n
    have h1 := hh (n % 256) (by omega)
    have h2 := ih (n / 256)
    show h (n % 256) + 256 * sd_m h k (n / 256) < 256 ^ (k + 1)
    rw [Nat.pow_succ]
    omega
theorem sd_lown {h : Nat → Nat} (hh : ∀ b, b < 256 → h b % 16 ≤ 4 ∧ h b / 16 ≤ 4) : ∀ k n, sd_m h k n % 16 ≤ 4 := by
  intro k
  cases k with
  | zero => intro n; exact Nat.zero_le _
  | succ k =>
    intro n
    have h1 := (hh (n % 256) (by omega)).1
    show (h (n % 256) + 256 * sd_m h k (n / 256)) % 16 ≤ 4
    omega
theorem sd_st3 {h : Nat → Nat} (hh : ∀ b, b < 256 → h b % 16 ≤ 4 ∧ h b / 16 ≤ 4) : ∀ k n, (sd_m h k n + sd_m h k n / 16) &&& sd_V 15 k = sd_m (fun b => h b % 16 + h b / 16) k n := by
  intro k
  induction k with
  | zero => intro n; exact Nat.and_zero _
  | succ k ih =>
    intro n
    obtain ⟨h1, h2⟩ := hh (n % 256) (by omega)
    have h3 := sd_lown hh k (n / 256)
    show ((h (n % 256) + 256 * sd_m h k (n / 256)) + (h (n % 256) + 256 * sd_m h k (n / 256)) / 16) &&& (15 + 256 * sd_V 15 k) = (h (n % 256) % 16 + h (n % 256) / 16) + 256 * sd_m (fun b => h b % 16 + h b / 16) k (n / 256)
    rw [← ih (n / 256)]
    generalize sd_m h k (n / 256) = m at h3 ⊢
    generalize h (n % 256) = p at h1 h2 ⊢
    rw [show (p + 256 * m) + (p + 256 * m) / 16 = (p + p / 16 + 16 * (m % 16)) + 256 * (m + m / 16) by omega, sd_ands (by omega) (by decide)]
    have e : (p + p / 16 + 16 * (m % 16)) &&& 15 = p % 16 + p / 16 := by
      rw [show 15 = 2 ^ 4 - 1 from rfl, Nat.and_two_pow_sub_one_eq_mod]
      omega
    rw [e]
theorem sd_top {lo s hi : Nat} (hl : lo < 2 ^ 56) (hs : s < 256) : (lo + 2 ^ 56 * s + 2 ^ 64 * hi) % 2 ^ 64 / 2 ^ 56 = s := by omega
theorem sd_mulB {b0 b1 b2 b3 b4 b5 b6 b7 : Nat} (q0 : b0 ≤ 8) (q1 : b1 ≤ 8) (q2 : b2 ≤ 8) (q3 : b3 ≤ 8) (q4 : b4 ≤ 8) (q5 : b5 ≤ 8) (q6 : b6 ≤ 8) (q7 : b7 ≤ 8) : ((b0 + 256 * (b1 + 256 * (b2 + 256 * (b3 + 256 * (b4 + 256 * (b5 + 256 * (b6 + 256 * (b7 + 256 * 0)))))))) * 72340172838076673) % 2 ^ 64 / 2 ^ 56 = b0 + (b1 + (b2 + (b3 + (b4 + (b5 + (b6 + (b7 + 0))))))) := by
  have l : 1 * (b0) + 256 * (b0 + b1) + 65536 * (b0 + b1 + b2) + 16777216 * (b0 + b1 + b2 + b3) + 4294967296 * (b0 + b1 + b2 + b3 + b4) + 1099511627776 * (b0 + b1 + b2 + b3 + b4 + b5) + 281474976710656 * (b0 + b1 + b2 + b3 + b4 + b5 + b6) < 2 ^ 56 := by omega
  have t : (b0 + b1 + b2 + b3 + b4 + b5 + b6 + b7) < 256 := by omega
  have r : b0 + (b1 + (b2 + (b3 + (b4 + (b5 + (b6 + (b7 + 0))))))) = (b0 + b1 + b2 + b3 + b4 + b5 + b6 + b7) := by omega
  have e : (b0 + 256 * (b1 + 256 * (b2 + 256 * (b3 + 256 * (b4 + 256 * (b5 + 256 * (b6 + 256 * (b7 + 256 * 0)))))))) * 72340172838076673 = (1 * (b0) + 256 * (b0 + b1) + 65536 * (b0 + b1 + b2) + 16777216 * (b0 + b1 + b2 + b3) + 4294967296 * (b0 + b1 + b2 + b3 + b4) + 1099511627776 * (b0 + b1 + b2 + b3 + b4 + b5) + 281474976710656 * (b0 + b1 + b2 + b3 + b4 + b5 + b6)) + 2 ^ 56 * (b0 + b1 + b2 + b3 + b4 + b5 + b6 + b7) + 2 ^ 64 * (1 * (b1 + b2 + b3 + b4 + b5 + b6 + b7) + 256 * (b2 + b3 + b4 + b5 + b6 + b7) + 65536 * (b3 + b4 + b5 + b6 + b7) + 16777216 * (b4 + b5 + b6 + b7) + 4294967296 * (b5 + b6 + b7) + 1099511627776 * (b6 + b7) + 281474976710656 * (b7)) := by clear q0 q1 q2 q3 q4 q5 q6 q7 l t r; grind
  exact ((congrArg (fun z => z % 2 ^ 64 / 2 ^ 56) e).trans (sd_top l t)).trans r.symm
theorem sd_st4 {p : Nat → Nat} (hp : ∀ b, b < 256 → p b ≤ 8) (n : Nat) : (sd_m p 8 n * 72340172838076673) % 2 ^ 64 / 2 ^ 56 = sd_s p 8 n := by
  show ((p (n % 256) + 256 * (p (n / 256 % 256) + 256 * (p (n / 256 / 256 % 256) + 256 * (p (n / 256 / 256 / 256 % 256) + 256 * (p (n / 256 / 256 / 256 / 256 % 256) + 256 * (p (n / 256 / 256 / 256 / 256 / 256 % 256) + 256 * (p (n / 256 / 256 / 256 / 256 / 256 / 256 % 256) + 256 * (p (n / 256 / 256 / 256 / 256 / 256 / 256 / 256 % 256) + 256 * 0)))))))) * 72340172838076673) % 2 ^ 64 / 2 ^ 56
    = p (n % 256) + (p (n / 256 % 256) + (p (n / 256 / 256 % 256) + (p (n / 256 / 256 / 256 % 256) + (p (n / 256 / 256 / 256 / 256 % 256) + (p (n / 256 / 256 / 256 / 256 / 256 % 256) + (p (n / 256 / 256 / 256 / 256 / 256 / 256 % 256) + (p (n / 256 / 256 / 256 / 256 / 256 / 256 / 256 % 256) + 0)))))))
  have q0 := hp (n % 256) (by omega)
  have q1 := hp (n / 256 % 256) (by omega)
  have q2 := hp (n / 256 / 256 % 256) (by omega)
  have q3 := hp (n / 256 / 256 / 256 % 256) (by omega)
  have q4 := hp (n / 256 / 256 / 256 / 256 % 256) (by omega)
  have q5 := hp (n / 256 / 256 / 256 / 256 / 256 % 256) (by omega)
  have q6 := hp (n / 256 / 256 / 256 / 256 / 256 / 256 % 256) (by omega)
  have q7 := hp (n / 256 / 256 / 256 / 256 / 256 / 256 / 256 % 256) (by omega)
  generalize p (n % 256) = b0 at q0 ⊢
  generalize p (n / 256 % 256) = b1 at q1 ⊢
  generalize p (n / 256 / 256 % 256) = b2 at q2 ⊢
  generalize p (n / 256 / 256 / 256 % 256) = b3 at q3 ⊢
  generalize p (n / 256 / 256 / 256 / 256 % 256) = b4 at q4 ⊢
  generalize p (n / 256 / 256 / 256 / 256 / 256 % 256) = b5 at q5 ⊢
  generalize p (n / 256 / 256 / 256 / 256 / 256 / 256 % 256) = b6 at q6 ⊢
  generalize p (n / 256 / 256 / 256 / 256 / 256 / 256 / 256 % 256) = b7 at q7 ⊢
  clear hp
  exact sd_mulB q0 q1 q2 q3 q4 q5 q6 q7
def sd_p (b : Nat) : Nat := sd_h2 (sd_h1 b) % 16 + sd_h2 (sd_h1 b) / 16
theorem sd_pA : ∀ b, b < 256 → sd_h1 b < 256 ∧ sd_h2 (sd_h1 b) < 256 ∧ sd_h2 (sd_h1 b) % 16 ≤ 4 ∧ sd_h2 (sd_h1 b) / 16 ≤ 4 ∧ sd_p b ≤ 8 ∧ sd_p b = sd_c (fun i => b.testBit i) 8 := by decide +kernel
theorem sd_scnt : ∀ k n, sd_s sd_p k n = sd_c (fun i => n.testBit i) (8 * k) := by
  intro k
  induction k with
  | zero => intro n; rfl
  | succ k ih =>
    intro n
    show sd_p (n % 256) + sd_s sd_p k (n / 256) = _
    rw [show 8 * (k + 1) = 8 + 8 * k by omega, sd_c_add, ih, (sd_pA (n % 256) (by omega)).2.2.2.2.2]
    congr 1
    · apply sd_c_congr
      intro i hi
      show (n % 2 ^ 8).testBit i = n.testBit i
      rw [Nat.testBit_mod_two_pow]
      simp [hi]
    · apply sd_c_congr
      intro i hi
      show (n / 2 ^ 8).testBit i = n.testBit (8 + i)
      rw [Nat.testBit_div_two_pow, Nat.add_comm]
/- the printed count -/
def sd_o1 (x : Int64) : Int64 := x - (((x.toUInt64 >>> ((1 : Int32).toInt64.toUInt64 &&& Int64.toUInt64 63)).toInt64) &&& 6148914691236517205)
def sd_o2 (x : Int64) : Int64 := (x &&& 3689348814741910323) + (((x.toUInt64 >>> ((2 : Int32).toInt64.toUInt64 &&& Int64.toUInt64 63)).toInt64) &&& 3689348814741910323)
def sd_o3 (x : Int64) : Int64 := (x + ((x.toUInt64 >>> ((4 : Int32).toInt64.toUInt64 &&& Int64.toUInt64 63)).toInt64)) &&& 1085102592571150095
def sd_o4 (x : Int64) : Int32 := (((x * 72340172838076673).toUInt64 >>> ((56 : Int32).toInt64.toUInt64 &&& Int64.toUInt64 63)).toInt64).toInt32
def sd_ones (x : Int64) : Int32 := sd_o4 (sd_o3 (sd_o2 (sd_o1 x)))
theorem sd_wones {post : Int32 → Prop} {x : Int64} (h : post (sd_ones x)) : wpX_ones post () x := nm_e (nm_e (nm_e h))
theorem sd_e1 {n : Nat} (hn : n < 2 ^ 64) : sd_o1 (lN n) = lN (n - ((n / 2) &&& 6148914691236517205)) := by
  have e : ((lN n).toUInt64 >>> ((1 : Int32).toInt64.toUInt64 &&& Int64.toUInt64 63)).toInt64 = lN (n / 2) := wb_shr (k := 1) hn (by decide)
  have a : lN (n / 2) &&& 6148914691236517205 = lN ((n / 2) &&& 6148914691236517205) := wb_and (b := 6148914691236517205) (by omega) (by decide)
  unfold sd_o1
  rw [e, a, lN_sub (Nat.le_trans Nat.and_le_left (by omega))]
theorem sd_e2 {n : Nat} (hn : n < 2 ^ 64) : sd_o2 (lN n) = lN ((n &&& 3689348814741910323) + ((n / 4) &&& 3689348814741910323)) := by
  have e : ((lN n).toUInt64 >>> ((2 : Int32).toInt64.toUInt64 &&& Int64.toUInt64 63)).toInt64 = lN (n / 4) := wb_shr (k := 2) hn (by decide)
  have a : lN (n / 4) &&& 3689348814741910323 = lN ((n / 4) &&& 3689348814741910323) := wb_and (b := 3689348814741910323) (by omega) (by decide)
  have c : lN n &&& 3689348814741910323 = lN (n &&& 3689348814741910323) := wb_and (b := 3689348814741910323) hn (by decide)
  unfold sd_o2
  rw [e, a, c, lN_add]
theorem sd_e3 {n : Nat} (hn : n + n / 16 < 2 ^ 64) : sd_o3 (lN n) = lN ((n + n / 16) &&& 1085102592571150095) := by
  have e : ((lN n).toUInt64 >>> ((4 : Int32).toInt64.toUInt64 &&& Int64.toUInt64 63)).toInt64 = lN (n / 16) := wb_shr (k := 4) (by omega) (by decide)
  have a : lN (n + n / 16) &&& 1085102592571150095 = lN ((n + n / 16) &&& 1085102592571150095) := wb_and (b := 1085102592571150095) hn (by decide)
  unfold sd_o3
  rw [e, lN_add, a]
theorem sd_e4 (n : Nat) : sd_o4 (lN n) = nI (n * 72340172838076673 % 2 ^ 64 / 2 ^ 56) := by
  have a : lN n * 72340172838076673 = lN (n * 72340172838076673 % 2 ^ 64) := by
    rw [← wb_mod]
    exact lN_mul n 72340172838076673
  have e : ((lN (n * 72340172838076673 % 2 ^ 64)).toUInt64 >>> ((56 : Int32).toInt64.toUInt64 &&& Int64.toUInt64 63)).toInt64 = lN (n * 72340172838076673 % 2 ^ 64 / 2 ^ 56) := wb_shr (k := 56) (Nat.mod_lt _ (by decide)) (by decide)
  unfold sd_o4
  rw [a, e, lN_i]
theorem sd_V85 : sd_V 85 8 = 6148914691236517205 := by decide +kernel
theorem sd_V51 : sd_V 51 8 = 3689348814741910323 := by decide +kernel
theorem sd_V15 : sd_V 15 8 = 1085102592571150095 := by decide +kernel
theorem sd_small {h : Nat → Nat} (hh : ∀ b, b < 256 → h b % 16 ≤ 4 ∧ h b / 16 ≤ 4) : ∀ k n, 255 * (sd_m h k n) + 68 ≤ 68 * 256 ^ k := by
  intro k
  induction k with
  | zero => intro n; show 255 * 0 + 68 ≤ 68 * 1; decide
  | succ k ih =>
    intro n
    obtain ⟨h1, h2⟩ := hh (n % 256) (by omega)
    have h3 := ih (n / 256)
    show 255 * (h (n % 256) + 256 * sd_m h k (n / 256)) + 68 ≤ 68 * 256 ^ (k + 1)
    rw [Nat.pow_succ]
    omega
theorem sd_pop {n : Nat} (hn : n < 2 ^ 64) : sd_ones (lN n) = nI (sd_c (fun i => n.testBit i) 64) := by
  have hn8 : n < 256 ^ 8 := Nat.lt_of_lt_of_le hn (by decide)
  have k1 : ∀ b, b < 256 → sd_h1 b < 256 := fun b hb => (sd_pA b hb).1
  have k2 : ∀ b, b < 256 → sd_h2 (sd_h1 b) < 256 := fun b hb => (sd_pA b hb).2.1
  have k3 : ∀ b, b < 256 → sd_h2 (sd_h1 b) % 16 ≤ 4 ∧ sd_h2 (sd_h1 b) / 16 ≤ 4 := fun b hb => ⟨(sd_pA b hb).2.2.1, (sd_pA b hb).2.2.2.1⟩
  have k4 : ∀ b, b < 256 → sd_p b ≤ 8 := fun b hb => (sd_pA b hb).2.2.2.2.1
  have e1 : sd_o1 (lN n) = lN (sd_m sd_h1 8 n) := by
    rw [sd_e1 hn, ← sd_V85, sd_st1s 8 n hn8]
  have l1 : sd_m sd_h1 8 n < 256 ^ 8 := sd_mlt k1 8 n
  have e2 : sd_o2 (lN (sd_m sd_h1 8 n)) = lN (sd_m (fun b => sd_h2 (sd_h1 b)) 8 n) := by
    rw [sd_e2 (Nat.lt_of_lt_of_le l1 (by decide)), ← sd_V51, sd_st2 8 _ l1, sd_comp k1]
  have l2 := sd_small k3 8 n
  have e3 : sd_o3 (lN (sd_m (fun b => sd_h2 (sd_h1 b)) 8 n)) = lN (sd_m sd_p 8 n) := by
    rw [sd_e3 (by omega), ← sd_V15, sd_st3 k3]
    rfl
  unfold sd_ones
  rw [e1, e2, e3, sd_e4, sd_st4 k4, sd_scnt]
theorem sd_onesB (x : Int64) : sd_ones x = nI (sd_c (sd_b x) 64) := by
  obtain ⟨n, hn, rfl⟩ := wb_of x
  rw [sd_pop hn]
  congr 1
  apply sd_c_congr
  intro i hi
  rw [sd_lN hi]
/-- what candidates() counts -/
theorem sd_cands {x : Int64} {g : Nat} (hg : g ≤ 14) : sd_ones (x &&& (((1 : Int64) <<< ((2 * (7 + nI g)).toInt64 &&& 63)) - 1)) = nI (sd_c (sd_b x) (2 * (7 + g))) := by
  rw [sd_onesB]
  congr 1
  have e : 64 = 2 * (7 + g) + (64 - 2 * (7 + g)) := by omega
  rw [e, sd_c_add]
  have z : sd_c (fun i => sd_b (x &&& (((1 : Int64) <<< ((2 * (7 + nI g)).toInt64 &&& 63)) - 1)) (2 * (7 + g) + i)) (64 - 2 * (7 + g)) = 0 := by
    apply sd_c_zero
    intro i hi
    rw [sd_and, sd_faults g (by omega) _ (by omega)]
    simp
  rw [z, Nat.add_zero]
  apply sd_c_congr
  intro i hi
  rw [sd_and, sd_faults g (by omega) i (by omega)]
  simp [hi]
theorem sd_onesP : ∀ k, k < 64 → sd_ones (lN (2 ^ k) - 1) = nI k := by decide +kernel
theorem sd_wlow {post : Int32 → Prop} {x : Int64} {k : Nat} (hk : k < 64) (h : sd_b x k = true) (hl : ∀ j, j < k → sd_b x j = false) (hp : post (nI k)) : wpX_lowest post () x := by
  unfold wpX_lowest
  refine nm_r (sd_low hk h hl) (sd_wones ?_)
  rw [sd_onesP k hk]
  exact hp
end
section
/- the pure picture of one run: words, states, answers -/
def sd_stk (p0 : Int32) (p1 : Int64) : Int64 := (p1 &&& (((1 : Int64) <<< ((2 * p0).toInt64 &&& 63)) ^^^ (-1))) ||| ((1 : Int64) <<< (((2 * p0) + 1).toInt64 &&& 63))
theorem sd_wstk {post : Int64 → Prop} {p0 : Int32} {p1 : Int64} (h : post (sd_stk p0 p1)) : wpX_stuck post () p0 p1 := h
def sd_cmb (k : Int32) (a b : Int64) : Int64 := if k = 0 then a &&& b else if k = 1 then a ||| b else if k = 2 then a ^^^ b else if k = 3 then (a &&& b) ^^^ (-1) else if k = 4 then (a ||| b) ^^^ (-1) else a ^^^ (-1)
theorem sd_wcmb {post : Int64 → Prop} {k : Int32} {a b : Int64} (h : post (sd_cmb k a b)) : wpX_combine post () k a b := by
  unfold sd_cmb at h
  unfold wpX_combine
  by_cases c0 : k = 0
  · rw [if_pos c0] at h
    exact br_t c0 h
  rw [if_neg c0] at h
  refine br_f c0 ?_
  by_cases c1 : k = 1
  · rw [if_pos c1] at h
    exact br_t c1 h
  rw [if_neg c1] at h
  refine br_f c1 ?_
  by_cases c2 : k = 2
  · rw [if_pos c2] at h
    exact br_t c2 h
  rw [if_neg c2] at h
  refine br_f c2 ?_
  by_cases c3 : k = 3
  · rw [if_pos c3] at h
    exact br_t c3 h
  rw [if_neg c3] at h
  refine br_f c3 ?_
  by_cases c4 : k = 4
  · rw [if_pos c4] at h
    exact br_t c4 h
  rw [if_neg c4] at h
  exact br_f c4 h
/-- bit i of the pattern, spread over a word -/
def sd_pb (x : Int32) (i : Nat) : Int64 := if ((x >>> (nI i &&& 31)) &&& 1) = 1 then -1 else 0
def sd_w0 (x : Int32) (st : Nat → Int64) (j : Nat) : Int64 := if j < 4 then sd_stk (nI j) (sd_pb x j) else sd_stk (nI j) (st (j - 4))
def sd_wg (K F S : Nat → Int32) (x : Int32) (st : Nat → Int64) : Nat → Nat → Int64
  | 0 => sd_w0 x st
  | g + 1 => vp_updL (sd_wg K F S x st g) (7 + g) (sd_stk (nI (7 + g)) (sd_cmb (K g) (sd_wg K F S x st g (F g).toNatClampNeg) (sd_wg K F S x st g (S g).toNatClampNeg)))
def sd_st (K F S fe : Nat → Int32) (g : Nat) (x : Int32) : Nat → Nat → Int64
  | 0 => fun k => sd_pb x (4 + k)
  | c + 1 => fun k => sd_wg K F S x (sd_st K F S fe g x c) g (fe k).toNatClampNeg
def sd_ans (K F S fe ou : Nat → Int32) (g : Nat) (x : Int32) (c : Nat) (j : Nat) : Int64 :=
  if j < 3 then sd_st K F S fe g x c j else sd_wg K F S x (sd_st K F S fe g x (c - 1)) g (ou (j - 3)).toNatClampNeg
theorem sd_ans3 (K F S fe ou : Nat → Int32) (g : Nat) (x : Int32) (c : Nat) : sd_ans K F S fe ou g x c 3 = sd_wg K F S x (sd_st K F S fe g x (c - 1)) g (ou 0).toNatClampNeg := by
  unfold sd_ans
  rw [if_neg (by decide)]
theorem sd_ans4 (K F S fe ou : Nat → Int32) (g : Nat) (x : Int32) (c : Nat) : sd_ans K F S fe ou g x c 4 = sd_wg K F S x (sd_st K F S fe g x (c - 1)) g (ou 1).toNatClampNeg := by
  unfold sd_ans
  rw [if_neg (by decide)]
/-- a circuit: each gate reads lines below it, feeds and outputs are lines -/
def sd_wf (g : Nat) (F S fe ou : Nat → Int32) : Prop := g ≤ 14 ∧ (∀ i, i < g → ∃ x, x < 7 + i ∧ F i = nI x) ∧ (∀ i, i < g → ∃ x, x < 7 + i ∧ S i = nI x) ∧ (∀ k, k < 3 → ∃ x, x < 7 + g ∧ fe k = nI x) ∧ (∀ k, k < 2 → ∃ x, x < 7 + g ∧ ou k = nI x)
theorem sd_fill {f s : Nat → Int64} {i k : Nat} {x : Int64} (hk : k = i) (h : ∀ j, j < i → s j = f j) (hx : x = f i) : ∀ j, j < i + 1 → vp_updL s k x j = f j := by
  intro j hj
  rw [hk]
  by_cases e : j = i
  · rw [e, pk_uLs, hx]
  · rw [pk_uLn e]
    exact h j (by omega)
section
variable {post : St1 → Prop} {f1 f2 : Int32} {f3 f4 : Int64} {f5 : Int32} {a1 a2 a3 a4 a5 : Nat → Int32} {a6 a7 a8 a9 : Nat → Int64} {g : Nat}
theorem sd_s76 (w : sd_wf g a2 a3 a4 a5) (x : Int32) (st : Nat → Int64) (h0 : ∀ j, j < 7 → a6 j = sd_w0 x st j)
    (H : ∀ b6, (∀ j, j < 7 + g → b6 j = sd_wg a1 a2 a3 x st g j) → post (nI g, f1, f2, f3, f4, f5, a1, a2, a3, a4, a5, b6, a7, a8, a9)) :
    ∃ n, wX_settle_76 post (nI g) f1 f2 f3 f4 f5 n 0 a1 a2 a3 a4 a5 a6 a7 a8 a9 := by
  have hg := w.1
  refine pk_loop (fun n i s => wX_settle_76 post (nI g) f1 f2 f3 f4 f5 n (nI i) a1 a2 a3 a4 a5 s a7 a8 a9) (fun i s => ∀ j, j < 7 + i → s j = sd_wg a1 a2 a3 x st i j) g 0 a6 (by omega) h0 (fun n s h => pk_le g g (fun _ => H s h) (fun z => absurd z (by omega))) ?_
  intro n i s hi h hw
  obtain ⟨p, hp, ep⟩ := w.2.1 i hi
  obtain ⟨q, hq, eq'⟩ := w.2.2.1 i hi
  have c : (nI i).toNatClampNeg = i := nI_clamp (by omega)
  have cp : (nI p).toNatClampNeg = p := nI_clamp (by omega)
  have cq : (nI q).toNatClampNeg = q := nI_clamp (by omega)
  have c7 : (7 : Int32) + nI i = nI (7 + i) := nI_add 7 i
  have cc : (nI (7 + i)).toNatClampNeg = 7 + i := nI_clamp (by omega)
  refine pk_le g i (fun z => absurd z (by omega)) (fun _ => ?_)
  rw [c, ep, eq', cp, cq, c7, cc]
  refine ⟨pk_in i 14 (by omega), pk_in i 14 (by omega), pk_in p 21 (by omega), pk_in i 14 (by omega), pk_in q 21 (by omega), sd_wcmb (sd_wstk ⟨pk_in (7 + i) 21 (by omega), nm_e (nm_r (nI_1 i) (hw _ ?_))⟩)⟩
  intro j hj
  show vp_updL s (7 + i) (sd_stk (nI (7 + i)) (sd_cmb (a1 i) (s p) (s q))) j = vp_updL (sd_wg a1 a2 a3 x st i) (7 + i) (sd_stk (nI (7 + i)) (sd_cmb (a1 i) (sd_wg a1 a2 a3 x st i (a2 i).toNatClampNeg) (sd_wg a1 a2 a3 x st i (a3 i).toNatClampNeg))) j
  rw [ep, eq', cp, cq, h p hp, h q hq]
  by_cases e : j = 7 + i
  · rw [e, pk_uLs, pk_uLs]
  · rw [pk_uLn e, pk_uLn e]
    exact h j (by omega)
theorem sd_s43 (w : sd_wf g a2 a3 a4 a5) (x : Int32) (st : Nat → Int64) (hs : ∀ k, k < 3 → a7 k = st k) (h0 : ∀ j, j < 4 → a6 j = sd_w0 x st j)
    (H : ∀ b6, (∀ j, j < 7 + g → b6 j = sd_wg a1 a2 a3 x st g j) → post (nI g, f1, f2, f3, f4, f5, a1, a2, a3, a4, a5, b6, a7, a8, a9)) :
    ∃ n, wX_settle_43 post (nI g) f1 f2 f3 f4 f5 n 0 a1 a2 a3 a4 a5 a6 a7 a8 a9 := by
  refine pk_loop (fun n i s => wX_settle_43 post (nI g) f1 f2 f3 f4 f5 n (nI i) a1 a2 a3 a4 a5 s a7 a8 a9) (fun i s => ∀ j, j < 4 + i → s j = sd_w0 x st j) 3 0 a6 (by omega) h0 (fun n s h => pk_le 3 3 (fun _ => sd_s76 w x st h H) (fun z => absurd z (by omega))) ?_
  intro n i s hi h hw
  have c : (nI i).toNatClampNeg = i := nI_clamp (by omega)
  have c4 : (4 : Int32) + nI i = nI (4 + i) := nI_add 4 i
  have cc : (nI (4 + i)).toNatClampNeg = 4 + i := nI_clamp (by omega)
  refine pk_le 3 i (fun z => absurd z (by omega)) (fun _ => ?_)
  rw [c, c4, cc]
  refine ⟨pk_in i 3 (by omega), sd_wstk ⟨pk_in (4 + i) 21 (by omega), nm_e (nm_r (nI_1 i) (hw _ ?_))⟩⟩
  refine sd_fill (i := 4 + i) rfl h ?_
  unfold sd_w0
  rw [if_neg (show ¬ 4 + i < 4 by omega), show 4 + i - 4 = i by omega, hs i hi]
theorem sd_s23 {J2 : Int32 → (Nat → Int32) → (Nat → Int32) → (Nat → Int32) → (Nat → Int32) → (Nat → Int32) → (Nat → Int64) → (Nat → Int64) → (Nat → Int64) → (Nat → Int64) → Prop} {f0 x : Int32} {i : Nat} {z : Int64} (hi : i < 21)
    (H : J2 (nI (i + 1)) a1 a2 a3 a4 a5 (vp_updL a6 i (sd_stk (nI i) z)) a7 a8 a9) : wX_settle_23 post J2 x (nI i) z f0 f1 f2 f3 f4 f5 a1 a2 a3 a4 a5 a6 a7 a8 a9 := by
  unfold wX_settle_23
  refine sd_wstk ⟨pk_in i 21 hi, ?_⟩
  rw [nI_clamp (show i < 2 ^ 31 by omega)]
  exact nm_e (nm_r (nI_1 i) H)
theorem sd_settle (w : sd_wf g a2 a3 a4 a5) (x : Int32) (st : Nat → Int64) (hs : ∀ k, k < 3 → a7 k = st k)
    (H : ∀ b6, (∀ j, j < 7 + g → b6 j = sd_wg a1 a2 a3 x st g j) → post (nI g, f1, f2, f3, f4, f5, a1, a2, a3, a4, a5, b6, a7, a8, a9)) :
    wpX_settle post (nI g, f1, f2, f3, f4, f5, a1, a2, a3, a4, a5, a6, a7, a8, a9) x := by
  unfold wpX_settle
  refine pk_loop (fun n i s => wX_settle_2 post x (nI g) f1 f2 f3 f4 f5 n (nI i) a1 a2 a3 a4 a5 s a7 a8 a9) (fun i s => ∀ j, j < i → s j = sd_w0 x st j) 4 0 a6 (by omega) (fun j hj => absurd hj (by omega)) (fun n s h => pk_le 4 4 (fun _ => sd_s43 w x st hs h H) (fun z => absurd z (by omega))) ?_
  intro n i s hi h hw
  refine pk_le 4 i (fun z => absurd z (by omega)) (fun _ => ?_)
  by_cases c : ((x >>> (nI i &&& 31)) &&& 1) = 1
  · refine br_t c (sd_s23 (by omega) (hw _ (sd_fill rfl h ?_)))
    unfold sd_w0 sd_pb
    rw [if_pos hi, if_pos c]
  · refine br_f c (sd_s23 (by omega) (hw _ (sd_fill rfl h ?_)))
    unfold sd_w0 sd_pb
    rw [if_pos hi, if_neg c]
theorem sd_r91 (w : sd_wf g a2 a3 a4 a5) (H : ∀ b8 : Nat → Int64, (∀ j, j < 3 → b8 j = a7 j) → b8 3 = a6 (a5 0).toNatClampNeg → b8 4 = a6 (a5 1).toNatClampNeg → post (nI g, f1, f2, f3, f4, f5, a1, a2, a3, a4, a5, a6, a7, b8, a9)) :
    ∃ n, wX_runAll_91 post (nI g) f1 f2 f3 f4 f5 n 0 a1 a2 a3 a4 a5 a6 a7 a8 a9 := by
  have hg := w.1
  obtain ⟨p, hp, ep⟩ := w.2.2.2.2 0 (by omega)
  obtain ⟨q, hq, eq'⟩ := w.2.2.2.2 1 (by omega)
  refine pk_loop (fun n i s => wX_runAll_91 post (nI g) f1 f2 f3 f4 f5 n (nI i) a1 a2 a3 a4 a5 a6 a7 s a9) (fun i s => ∀ j, j < i → s j = a7 j) 3 0 a8 (by omega) (fun j hj => absurd hj (by omega)) ?_ ?_
  · intro n s h
    refine pk_le 3 3 (fun _ => ?_) (fun z => absurd z (by omega))
    refine ⟨pk_in p 21 (by omega) ep, nm_e ⟨pk_in q 21 (by omega) eq', nm_e (H _ ?_ ?_ ?_)⟩⟩
    · intro j hj
      rw [pk_uLn (by omega), pk_uLn (by omega)]
      exact h j hj
    · rw [pk_uLn (by decide), pk_uLs]
    · rw [pk_uLs]
  · intro n i s hi h hw
    have c : (nI i).toNatClampNeg = i := nI_clamp (by omega)
    refine pk_le 3 i (fun z => absurd z (by omega)) (fun _ => ?_)
    rw [c]
    exact ⟨pk_in i 3 hi, pk_in i 5 (by omega), nm_e (nm_r (nI_1 i) (hw _ (sd_fill rfl h rfl)))⟩
theorem sd_r52 {J : Int32 → Int32 → Int32 → Int32 → Int64 → Int64 → Int32 → (Nat → Int32) → (Nat → Int32) → (Nat → Int32) → (Nat → Int32) → (Nat → Int32) → (Nat → Int64) → (Nat → Int64) → (Nat → Int64) → (Nat → Int64) → Prop} {x1 x2 : Int32} {c : Nat} (w : sd_wf g a2 a3 a4 a5)
    (H : ∀ b7 : Nat → Int64, (∀ k, k < 3 → b7 k = a6 (a4 k).toNatClampNeg) → J (nI (c + 1)) (nI g) f1 f2 f3 f4 f5 a1 a2 a3 a4 a5 a6 b7 a8 a9) :
    ∃ n, wX_runAll_52 post J x1 x2 (nI c) (nI g) f1 f2 f3 f4 f5 n 0 a1 a2 a3 a4 a5 a6 a7 a8 a9 := by
  have hg := w.1
  refine pk_loop (fun n i s => wX_runAll_52 post J x1 x2 (nI c) (nI g) f1 f2 f3 f4 f5 n (nI i) a1 a2 a3 a4 a5 a6 s a8 a9) (fun i s => ∀ k, k < i → s k = a6 (a4 k).toNatClampNeg) 3 0 a7 (by omega) (fun j hj => absurd hj (by omega)) (fun n s h => pk_le 3 3 (fun _ => nm_r (nI_1 c) (H s h)) (fun z => absurd z (by omega))) ?_
  intro n i s hi h hw
  have e : (nI i).toNatClampNeg = i := nI_clamp (by omega)
  obtain ⟨p, hp, ep⟩ := w.2.2.2.1 i hi
  refine pk_le 3 i (fun z => absurd z (by omega)) (fun _ => ?_)
  rw [e]
  exact ⟨pk_in i 3 hi, pk_in p 21 (by omega) ep, pk_in i 3 hi, nm_e (nm_r (nI_1 i) (hw _ (sd_fill (f := fun k => a6 (a4 k).toNatClampNeg) rfl h rfl)))⟩
theorem sd_r39 (w : sd_wf g a2 a3 a4 a5) (x : Int32) (c : Nat) (hc : 1 ≤ c) (hc4 : c ≤ 4) (h0 : ∀ k, k < 3 → a7 k = sd_pb x (4 + k))
    (H : ∀ b6 b7 b8 : Nat → Int64, (∀ j, j < 5 → b8 j = sd_ans a1 a2 a3 a4 a5 g x c j) → post (nI g, f1, f2, f3, f4, f5, a1, a2, a3, a4, a5, b6, b7, b8, a9)) :
    ∃ n, wX_runAll_39 post x (nI c) n 0 (nI g) f1 f2 f3 f4 f5 a1 a2 a3 a4 a5 a6 a7 a8 a9 := by
  have hg := w.1
  refine pk_loop (σ := (Nat → Int64) × (Nat → Int64)) (fun n i s => wX_runAll_39 post x (nI c) n (nI i) (nI g) f1 f2 f3 f4 f5 a1 a2 a3 a4 a5 s.1 s.2 a8 a9)
    (fun i s => (∀ k, k < 3 → s.2 k = sd_st a1 a2 a3 a4 g x i k) ∧ (1 ≤ i → ∀ j, j < 7 + g → s.1 j = sd_wg a1 a2 a3 x (sd_st a1 a2 a3 a4 g x (i - 1)) g j)) c 0 (a6, a7) (by omega) ⟨h0, fun z => absurd z (by omega)⟩ ?_ ?_
  · intro n s h
    refine pk_le c c (fun _ => ?_) (fun z => absurd z (by omega))
    refine sd_r91 w (fun b8 k1 k2 k3 => H _ _ b8 ?_)
    obtain ⟨p, hp, ep⟩ := w.2.2.2.2 0 (by omega)
    obtain ⟨q, hq, eq'⟩ := w.2.2.2.2 1 (by omega)
    have cp : (nI p).toNatClampNeg = p := nI_clamp (by omega)
    have cq : (nI q).toNatClampNeg = q := nI_clamp (by omega)
    intro j hj
    by_cases e : j < 3
    · unfold sd_ans
      rw [if_pos e, k1 j e, h.1 j e]
    · by_cases e3 : j = 3
      · subst e3
        rw [sd_ans3, k2, ep, cp]
        exact h.2 hc p hp
      · have e4 : j = 4 := by omega
        subst e4
        rw [sd_ans4, k3, eq', cq]
        exact h.2 hc q hq
  · intro n i s hi h hw
    refine pk_le c i (fun z => absurd z (by omega)) (fun _ => ?_)
    refine sd_settle w x (sd_st a1 a2 a3 a4 g x i) h.1 (fun b6 k6 => ?_)
    refine sd_r52 w (fun b7 k7 => hw (b6, b7) ⟨?_, ?_⟩)
    · intro k hk
      obtain ⟨p, hp, ep⟩ := w.2.2.2.1 k hk
      have cp : (nI p).toNatClampNeg = p := nI_clamp (by omega)
      show b7 k = sd_wg a1 a2 a3 x (sd_st a1 a2 a3 a4 g x i) g (a4 k).toNatClampNeg
      rw [k7 k hk, ep, cp, k6 p hp]
    · intro _ j hj
      exact k6 j hj
theorem sd_run (w : sd_wf g a2 a3 a4 a5) (x : Int32) (c : Nat) (hc : 1 ≤ c) (hc4 : c ≤ 4)
    (H : ∀ b6 b7 b8 : Nat → Int64, (∀ j, j < 5 → b8 j = sd_ans a1 a2 a3 a4 a5 g x c j) → post (nI g, f1, f2, f3, f4, f5, a1, a2, a3, a4, a5, b6, b7, b8, a9)) :
    wpX_runAll post (nI g, f1, f2, f3, f4, f5, a1, a2, a3, a4, a5, a6, a7, a8, a9) x (nI c) := by
  unfold wpX_runAll
  refine pk_loop (fun n i s => wX_runAll_2 post x (nI c) (nI g) f1 f2 f3 f4 f5 n (nI i) a1 a2 a3 a4 a5 a6 s a8 a9) (fun i s => ∀ k, k < i → s k = sd_pb x (4 + k)) 3 0 a7 (by omega) (fun j hj => absurd hj (by omega)) (fun n s h => pk_le 3 3 (fun _ => sd_r39 w x c hc hc4 h H) (fun z => absurd z (by omega))) ?_
  intro n i s hi h hw
  have e : (nI i).toNatClampNeg = i := nI_clamp (by omega)
  have e4 : (4 : Int32) + nI i = nI (4 + i) := nI_add 4 i
  refine pk_le 3 i (fun z => absurd z (by omega)) (fun _ => ?_)
  rw [e, e4]
  by_cases cb : ((x >>> (nI (4 + i) &&& 31)) &&& 1) = 1
  · refine br_t cb ⟨pk_in i 3 hi, nm_e (nm_r (nI_1 i) (hw _ (sd_fill (f := fun k => sd_pb x (4 + k)) rfl h ?_)))⟩
    unfold sd_pb
    rw [if_pos cb]
  · refine br_f cb ⟨pk_in i 3 hi, nm_e (nm_r (nI_1 i) (hw _ (sd_fill (f := fun k => sd_pb x (4 + k)) rfl h ?_)))⟩
    unfold sd_pb
    rw [if_neg cb]
end
end
section
/- the code of five answers -/
def sd_cd (f : Nat → Bool) : Nat → Nat
  | 0 => 0
  | j + 1 => sd_cd f j + (f j).toNat * 2 ^ j
theorem sd_cd_lt (f : Nat → Bool) (k : Nat) : sd_cd f k < 2 ^ k := by
  induction k with
  | zero => exact Nat.zero_lt_one
  | succ k ih =>
    have h1 : (f k).toNat * 2 ^ k ≤ 1 * 2 ^ k := Nat.mul_le_mul_right _ (Bool.toNat_le (f k))
    show sd_cd f k + (f k).toNat * 2 ^ k < 2 ^ (k + 1)
    rw [Nat.pow_succ]
    omega
theorem sd_cd_congr {f g : Nat → Bool} {k : Nat} (h : ∀ j, j < k → f j = g j) : sd_cd f k = sd_cd g k := by
  induction k with
  | zero => rfl
  | succ k ih =>
    show sd_cd f k + (f k).toNat * 2 ^ k = sd_cd g k + (g k).toNat * 2 ^ k
    rw [ih (fun i hi => h i (by omega)), h k (by omega)]
theorem sd_cdK : ∀ b0 b1 b2 b3 b4 : Bool, ∀ j, j < 5 → (((nI (0 + b0.toNat * 2 ^ 0 + b1.toNat * 2 ^ 1 + b2.toNat * 2 ^ 2 + b3.toNat * 2 ^ 3 + b4.toNat * 2 ^ 4) >>> (nI j &&& 31)) &&& 1) = 1 ↔ [b0, b1, b2, b3, b4].getD j false = true) := by decide +kernel
theorem sd_cdB (f : Nat → Bool) {j : Nat} (hj : j < 5) : ((nI (sd_cd f 5) >>> (nI j &&& 31)) &&& 1) = 1 ↔ f j = true := by
  have k := sd_cdK (f 0) (f 1) (f 2) (f 3) (f 4) j hj
  have e : [f 0, f 1, f 2, f 3, f 4].getD j false = f j := by
    rcases (show j = 0 ∨ j = 1 ∨ j = 2 ∨ j = 3 ∨ j = 4 by omega) with rfl | rfl | rfl | rfl | rfl <;> rfl
  rw [e] at k
  exact k
theorem sd_sh1 : ∀ i, i < 5 → (1 : Int64).toInt32 <<< (nI i &&& 31) = nI (true.toNat * 2 ^ i) := by decide +kernel
theorem sd_sh0 : ∀ i, i < 5 → (0 : Int64).toInt32 <<< (nI i &&& 31) = nI (false.toNat * 2 ^ i) := by decide +kernel
theorem sd_step {A : Prop} {P : Nat → Prop} {i : Nat} : ((A ∧ ∀ j, j < i → P j) ∧ P i) ↔ (A ∧ ∀ j, j < i + 1 → P j) := ⟨fun h => ⟨h.1.1, lt_s h.1.2 h.2⟩, fun h => ⟨⟨h.1, fun j hj => h.2 j (by omega)⟩, h.2 i (by omega)⟩⟩
theorem sd_and_t {s x : Int64} {b m : Nat} (h : sd_b x b = true) : sd_b (s &&& x) m = true ↔ sd_b s m = true ∧ sd_b x m = sd_b x b := by
  rw [sd_and, h]
  simp
theorem sd_and_f {s x : Int64} {b m : Nat} (hm : m < 64) (h : sd_b x b = false) : sd_b (s &&& (x ^^^ (-1))) m = true ↔ sd_b s m = true ∧ sd_b x m = sd_b x b := by
  rw [sd_and, sd_not x hm, h]
  simp
theorem sd_E (g : Nat) : 2 * (7 + nI g) = nI (2 * (7 + g)) := by
  show nI 2 * (nI 7 + nI g) = _
  rw [nI_add, pk_mul]
theorem sd_isPat {post : Int32 → Prop} {p : Nat} (hp : p < 128) (h : post 1) : wpX_isPattern post () (nI p) := pk_lt p 0 (fun z => absurd z (by omega)) (fun _ => pk_lt 127 p (fun z => absurd z (by omega)) (fun _ => h))
theorem sd_isCyc {post : Int32 → Prop} {c : Nat} (hc : 1 ≤ c) (hc4 : c ≤ 4) (h : post 1) : wpX_isCycles post () (nI c) := pk_lt c 1 (fun z => absurd z (by omega)) (fun _ => pk_lt 4 c (fun z => absurd z (by omega)) (fun _ => h))
section
variable {f0 f1 f2 : Int32} {f3 f4 : Int64} {f5 : Int32} {a1 a2 a3 a4 a5 : Nat → Int32} {a6 a7 a8 a9 : Nat → Int64} {g : Nat}
theorem sd_isF {post : Int32 → Prop} {f : Nat} (hg : g ≤ 14) (hf : f < 2 * (7 + g)) (h : post 1) : wpX_isFault post (nI g, f1, f2, f3, f4, f5, a1, a2, a3, a4, a5, a6, a7, a8, a9) (nI f) :=
  pk_lt f 0 (fun z => absurd z (by omega)) (fun _ => pk_le (2 * (7 + g)) f (fun z => absurd z (by omega)) (fun _ => h) (sd_E g))
theorem sd_ansOf {post : Int32 → Prop} {b : Nat} (hb : b < 64) (H : post (nI (sd_cd (fun j => sd_b (a8 j) b) 5))) : wpX_answerOf post (f0, f1, f2, f3, f4, f5, a1, a2, a3, a4, a5, a6, a7, a8, a9) (nI b) := by
  unfold wpX_answerOf
  refine pk_loop (σ := Unit) (fun n i _ => wX_answerOf_4 post (nI b) f0 f1 f2 f3 f4 f5 a1 a2 a3 a4 a5 a6 a7 a8 a9 n (nI (sd_cd (fun j => sd_b (a8 j) b) i)) (nI i)) (fun _ _ => True) 5 0 () (by omega) trivial (fun n _ _ => pk_le 5 5 (fun _ => H) (fun z => absurd z (by omega))) ?_
  intro n i _ hi _ hw
  refine pk_le 5 i (fun z => absurd z (by omega)) (fun _ => ?_)
  rw [nI_clamp (show i < 2 ^ 31 by omega)]
  refine ⟨pk_in i 5 hi, nm_r (e' := nI (sd_cd (fun j => sd_b (a8 j) b) (i + 1))) ?_ (nm_r (nI_1 i) (hw () trivial))⟩
  rw [sd_bit _ hb]
  show _ = nI (sd_cd (fun j => sd_b (a8 j) b) i + (sd_b (a8 i) b).toNat * 2 ^ i)
  rw [← nI_add]
  cases sd_b (a8 i) b with
  | true => rw [if_pos rfl, sd_sh1 i hi]
  | false => rw [if_neg (by decide), sd_sh0 i hi]
theorem sd_o64 {post : Int32 → St1 → Prop} {b : Nat}
    (H : ∀ l, (∀ m, m < 64 → (sd_b l m = true ↔ sd_b f3 m = true ∧ ∀ j, j < 5 → sd_b (a8 j) m = sd_b (a8 j) b)) → post (nI (sd_cd (fun j => sd_b (a8 j) b) 5)) (f0, f1, f2 + 1, l, f4, f5, a1, a2, a3, a4, a5, a6, a7, a8, a9)) :
    ∃ n, wX_observe_64 post (nI (sd_cd (fun j => sd_b (a8 j) b) 5)) f0 f1 f2 f4 f5 a1 a2 a3 a4 a5 a6 a7 a8 a9 n 0 f3 := by
  refine pk_loop (fun n i s => wX_observe_64 post (nI (sd_cd (fun j => sd_b (a8 j) b) 5)) f0 f1 f2 f4 f5 a1 a2 a3 a4 a5 a6 a7 a8 a9 n (nI i) s) (fun i s => ∀ m, m < 64 → (sd_b s m = true ↔ sd_b f3 m = true ∧ ∀ j, j < i → sd_b (a8 j) m = sd_b (a8 j) b)) 5 0 f3 (by omega) (fun m _ => ⟨fun h => ⟨h, fun j hj => absurd hj (by omega)⟩, fun h => h.1⟩) (fun n s h => pk_le 5 5 (fun _ => nm_e (H s h)) (fun z => absurd z (by omega))) ?_
  intro n i s hi h hw
  refine pk_le 5 i (fun z => absurd z (by omega)) (fun _ => ?_)
  rw [nI_clamp (show i < 2 ^ 31 by omega)]
  refine ek_if (sd_cdB (fun j => sd_b (a8 j) b) hi) (fun c => ⟨pk_in i 5 hi, nm_e (nm_r (nI_1 i) (hw _ ?_))⟩) (fun c => ⟨pk_in i 5 hi, nm_e (nm_r (nI_1 i) (hw _ ?_))⟩)
  · intro m hm
    rw [sd_and_t c, h m hm]
    exact sd_step (P := fun j => sd_b (a8 j) m = sd_b (a8 j) b)
  · intro m hm
    rw [sd_and_f hm (Bool.eq_false_iff.mpr c), h m hm]
    exact sd_step (P := fun j => sd_b (a8 j) m = sd_b (a8 j) b)
theorem sd_o53 {post : Int32 → St1 → Prop} {b : Nat} {A : Nat → Int64} (hb : b < 64) (hA : ∀ j, j < 5 → a8 j = A j)
    (H : ∀ n' l, (∀ m, m < 64 → (sd_b l m = true ↔ sd_b f3 m = true ∧ ∀ j, j < 5 → sd_b (A j) m = sd_b (A j) b)) → post (nI (sd_cd (fun j => sd_b (A j) b) 5)) (f0, f1, n', l, f4, f5, a1, a2, a3, a4, a5, a6, a7, a8, a9)) :
    wX_observe_53 post (nI b) f0 f1 f2 f3 f4 f5 a1 a2 a3 a4 a5 a6 a7 a8 a9 := by
  unfold wX_observe_53
  refine sd_ansOf hb (sd_o64 (fun l hl => ?_))
  rw [sd_cd_congr (g := fun j => sd_b (A j) b) (fun j hj => by rw [hA j hj])]
  refine H (f2 + 1) l (fun m hm => ?_)
  rw [hl m hm]
  constructor
  · intro ⟨h1, h2⟩
    exact ⟨h1, fun j hj => by rw [← hA j hj]; exact h2 j hj⟩
  · intro ⟨h1, h2⟩
    exact ⟨h1, fun j hj => by rw [hA j hj]; exact h2 j hj⟩
theorem sd_obs {post : Int32 → St1 → Prop} (w : sd_wf g a2 a3 a4 a5) {p c b : Nat} (hp : p < 128) (hc : 1 ≤ c) (hc4 : c ≤ 4) (hb : b < 64) (hd : f1 = nI b ∨ (f1 = -1 ∧ b = 63))
    (H0 : f2 = 20 → post (-3) (nI g, f1, f2, f3, f4, f5, a1, a2, a3, a4, a5, a6, a7, a8, a9))
    (H1 : ∀ n' l b6 b7 b8, (∀ m, m < 64 → (sd_b l m = true ↔ sd_b f3 m = true ∧ ∀ j, j < 5 → sd_b (sd_ans a1 a2 a3 a4 a5 g (nI p) c j) m = sd_b (sd_ans a1 a2 a3 a4 a5 g (nI p) c j) b)) → post (nI (sd_cd (fun j => sd_b (sd_ans a1 a2 a3 a4 a5 g (nI p) c j) b) 5)) (nI g, f1, n', l, f4, f5, a1, a2, a3, a4, a5, b6, b7, b8, a9)) :
    wpX_observe post (nI g, f1, f2, f3, f4, f5, a1, a2, a3, a4, a5, a6, a7, a8, a9) (nI p) (nI c) := by
  unfold wpX_observe
  refine sd_isPat hp (br_f (by decide) (sd_isCyc hc hc4 (br_f (by decide) (br_c H0 (fun _ => sd_run w (nI p) c hc hc4 (fun b6 b7 b8 k8 => ?_))))))
  rcases hd with e | ⟨e, e63⟩
  · refine br_t (by rw [e]; exact nI_pos' (by omega)) ?_
    have t := sd_o53 (post := post) (f0 := nI g) (f1 := f1) (f2 := f2) (f3 := f3) (f4 := f4) (f5 := f5) (a1 := a1) (a2 := a2) (a3 := a3) (a4 := a4) (a5 := a5) (a6 := b6) (a7 := b7) (a8 := b8) (a9 := a9) hb k8 (fun n' l hl => H1 n' l b6 b7 b8 hl)
    rw [← e] at t
    exact t
  · refine br_f (by rw [e]; decide) ?_
    subst e63
    exact sd_o53 (b := 63) hb k8 (fun n' l hl => H1 n' l b6 b7 b8 hl)
theorem sd_wflt {post : Int64 → Prop} (H : post (((1 : Int64) <<< ((2 * (7 + nI g)).toInt64 &&& 63)) - 1)) : wpX_faults post (nI g, f1, f2, f3, f4, f5, a1, a2, a3, a4, a5, a6, a7, a8, a9) := H
theorem sd_cnd {post : Int32 → Prop} (hg : g ≤ 14) (H : post (nI (sd_c (sd_b f3) (2 * (7 + g))))) : wpX_candidates post (nI g, f1, f2, f3, f4, f5, a1, a2, a3, a4, a5, a6, a7, a8, a9) := by
  unfold wpX_candidates
  refine sd_wflt (sd_wones ?_)
  rw [sd_cands hg]
  exact H
theorem sd_hlt {post : Int32 → Prop} (h : sd_b f3 63 = true) (H : post 1) : wpX_healthy post (f0, f1, f2, f3, f4, f5, a1, a2, a3, a4, a5, a6, a7, a8, a9) := br_f (sd_neg h) H
theorem sd_cand {post : Int32 → Prop} (hg : g ≤ 14) {i : Nat} (hi : i < sd_c (sd_b f3) (2 * (7 + g))) (H : ∀ f, f < 2 * (7 + g) → sd_b f3 f = true → sd_c (sd_b f3) f = i → post (nI f)) :
    wpX_candidate post (nI g, f1, f2, f3, f4, f5, a1, a2, a3, a4, a5, a6, a7, a8, a9) (nI i) := by
  have hi42 : i < 2 ^ 31 := by
    have := sd_c_le (sd_b f3) (2 * (7 + g))
    omega
  unfold wpX_candidate
  refine nm_r (sd_E g) ?_
  refine pk_loop (σ := Unit) (fun n k _ => wX_candidate_15 post (nI (2 * (7 + g))) (nI g) f1 f2 f3 f4 f5 a1 a2 a3 a4 a5 a6 a7 a8 a9 n (nI (i - sd_c (sd_b f3) k)) (nI k)) (fun k _ => sd_c (sd_b f3) k ≤ i) (2 * (7 + g)) 0 () (by omega) (Nat.zero_le i) (fun n _ h => absurd hi (Nat.not_lt.mpr h)) ?_
  intro n k _ hk h hw
  refine pk_le (2 * (7 + g)) k (fun z => absurd z (by omega)) (fun _ => sd_br k (by omega) (fun c => ?_) (fun c => ?_))
  · refine pk_eq (i - sd_c (sd_b f3) k) 0 (fun z => H k hk c (by omega)) (fun z => ?_)
    have t := hw () (show sd_c (sd_b f3) (k + 1) ≤ i by rw [sd_c_t c]; omega)
    rw [sd_c_t c] at t
    refine nm_r (sb_m1 (by omega)) (nm_r (nI_1 k) ?_)
    rw [show i - sd_c (sd_b f3) k - 1 = i - (sd_c (sd_b f3) k + 1) by omega]
    exact t
  · have t := hw () (show sd_c (sd_b f3) (k + 1) ≤ i by rw [sd_c_f c]; exact h)
    rw [sd_c_f c] at t
    exact nm_r (nI_1 k) t
theorem sd_resp {post : Int32 → St1 → Prop} (w : sd_wf g a2 a3 a4 a5) {f p c : Nat} (hf : f < 2 * (7 + g)) (hp : p < 128) (hc : 1 ≤ c) (hc4 : c ≤ 4)
    (H : ∀ b6 b7 b8, post (nI (sd_cd (fun j => sd_b (sd_ans a1 a2 a3 a4 a5 g (nI p) c j) f) 5)) (nI g, f1, f2, f3, f4, f5, a1, a2, a3, a4, a5, b6, b7, b8, a9)) :
    wpX_responseWith post (nI g, f1, f2, f3, f4, f5, a1, a2, a3, a4, a5, a6, a7, a8, a9) (nI f) (nI p) (nI c) := by
  have hg := w.1
  unfold wpX_responseWith
  refine sd_isF hg hf (br_f (by decide) (sd_isPat hp (br_f (by decide) (sd_isCyc hc hc4 (br_f (by decide) (sd_run w (nI p) c hc hc4 (fun b6 b7 b8 k8 => sd_ansOf (by omega) ?_)))))))
  rw [sd_cd_congr (g := fun j => sd_b (sd_ans a1 a2 a3 a4 a5 g (nI p) c j) f) (fun j hj => by rw [k8 j hj])]
  exact H b6 b7 b8
theorem sd_x50 {post : Int32 → St1 → Prop} {J : Int32 → Int32 → Int32 → Int32 → Int32 → Int64 → Int64 → Int32 → (Nat → Int32) → (Nat → Int32) → (Nat → Int32) → (Nat → Int32) → (Nat → Int32) → (Nat → Int64) → (Nat → Int64) → (Nat → Int64) → (Nat → Int64) → Prop} {x1 x4 x5 x6 : Int32}
    (w : sd_wf g a2 a3 a4 a5) {f p c i : Nat} (hf : f < 2 * (7 + g)) (hp : p < 128) (hc : 1 ≤ c) (hc4 : c ≤ 4)
    (hgot : x4 = -1 ∨ x4 = nI (sd_cd (fun j => sd_b (sd_ans a1 a2 a3 a4 a5 g (nI p) c j) f) 5))
    (H : ∀ b6 b7 b8, J x6 (nI (i + 1)) (nI g) f1 f2 f3 f4 f5 a1 a2 a3 a4 a5 b6 b7 b8 a9) :
    wL_explains_50 post J x1 (nI p) (nI c) x4 x5 x6 (nI i) (nI f) (nI g) f1 f2 f3 f4 f5 a1 a2 a3 a4 a5 a6 a7 a8 a9 := by
  unfold wL_explains_50
  rcases hgot with e | e
  · exact br_t (by rw [e]; decide) (nm_r (nI_1 i) (H a6 a7 a8))
  · have l := sd_cd_lt (fun j => sd_b (sd_ans a1 a2 a3 a4 a5 g (nI p) c j) f) 5
    refine br_f (by rw [e]; exact nI_pos (by omega)) (sd_resp w hf hp hc hc4 (fun b6 b7 b8 => ?_))
    exact br_t e.symm (nm_r (nI_1 i) (H b6 b7 b8))
theorem sd_x26 {post : Int32 → St1 → Prop} {x1 x4 : Int32} (w : sd_wf g a2 a3 a4 a5) {p c : Nat} (hp : p < 128) (hc : 1 ≤ c) (hc4 : c ≤ 4)
    (hx : (x1 = -1 ∧ sd_b f3 63 = true) ∨ ∃ q, x1 = nI q ∧ q < 2 * (7 + g) ∧ sd_b f3 q = true)
    (hgot : x4 = -1 ∨ ∀ f, f < 2 * (7 + g) → sd_b f3 f = true → x4 = nI (sd_cd (fun j => sd_b (sd_ans a1 a2 a3 a4 a5 g (nI p) c j) f) 5))
    (H : ∀ b6 b7 b8, post 1 (nI g, f1, f2, f3, f4, f5, a1, a2, a3, a4, a5, b6, b7, b8, a9)) :
    ∃ n, wL_explains_26 post x1 (nI p) (nI c) x4 (nI (sd_c (sd_b f3) (2 * (7 + g)))) n 0 0 (nI g) f1 f2 f3 f4 f5 a1 a2 a3 a4 a5 a6 a7 a8 a9 := by
  have hg := w.1
  have hN := sd_c_le (sd_b f3) (2 * (7 + g))
  refine pk_loop (σ := Int32 × (Nat → Int64) × (Nat → Int64) × (Nat → Int64)) (fun n i s => wL_explains_26 post x1 (nI p) (nI c) x4 (nI (sd_c (sd_b f3) (2 * (7 + g)))) n s.1 (nI i) (nI g) f1 f2 f3 f4 f5 a1 a2 a3 a4 a5 s.2.1 s.2.2.1 s.2.2.2 a9)
    (fun i s => ∀ q, x1 = nI q → q < 2 * (7 + g) → sd_b f3 q = true → sd_c (sd_b f3) q < i → s.1 = 1) (sd_c (sd_b f3) (2 * (7 + g))) 0 (0, a6, a7, a8) (by omega) (fun q _ _ _ z => absurd z (by omega)) ?_ ?_
  · intro n s h
    refine pk_le (sd_c (sd_b f3) (2 * (7 + g))) (sd_c (sd_b f3) (2 * (7 + g))) (fun _ => ?_) (fun z => absurd z (by omega))
    rcases hx with ⟨e, e63⟩ | ⟨q, e, hq, hb⟩
    · exact br_f (by rw [e]; decide) (sd_hlt e63 (br_t rfl (H _ _ _)))
    · have e1 : s.1 = 1 := h q e hq hb (sd_c_lt hb hq)
      rw [e1]
      exact br_t (by rw [e]; exact nI_pos' (by omega)) ⟨rfl, H _ _ _⟩
  · intro n i s hi h hw
    refine pk_le (sd_c (sd_b f3) (2 * (7 + g))) i (fun z => absurd z (by omega)) (fun _ => ?_)
    refine sd_cand hg hi (fun f hf hb hcnt => ?_)
    have hgf : x4 = -1 ∨ x4 = nI (sd_cd (fun j => sd_b (sd_ans a1 a2 a3 a4 a5 g (nI p) c j) f) 5) := by
      rcases hgot with e | e
      · exact Or.inl e
      · exact Or.inr (e f hf hb)
    refine br_c (fun e => sd_x50 w hf hp hc hc4 hgf (fun b6 b7 b8 => hw (1, b6, b7, b8) (fun q _ _ _ _ => rfl))) (fun ne => sd_x50 w hf hp hc hc4 hgf (fun b6 b7 b8 => hw (s.1, b6, b7, b8) (fun q eq' hq hbq hlt => ?_)))
    refine h q eq' hq hbq ?_
    by_cases hz : sd_c (sd_b f3) q = i
    · have : f = q := sd_c_inj hb hbq (by omega)
      exact absurd (by rw [eq', this]) ne
    · omega
theorem sd_expl {post : Int32 → St1 → Prop} {x1 x4 : Int32} (w : sd_wf g a2 a3 a4 a5) {p c : Nat} (hp : p < 128) (hc : 1 ≤ c) (hc4 : c ≤ 4)
    (hx : (x1 = -1 ∧ sd_b f3 63 = true) ∨ ∃ q, x1 = nI q ∧ q < 2 * (7 + g) ∧ sd_b f3 q = true)
    (hgot : x4 = -1 ∨ ∀ f, f < 2 * (7 + g) → sd_b f3 f = true → x4 = nI (sd_cd (fun j => sd_b (sd_ans a1 a2 a3 a4 a5 g (nI p) c j) f) 5))
    (H : ∀ b6 b7 b8, post 1 (nI g, f1, f2, f3, f4, f5, a1, a2, a3, a4, a5, b6, b7, b8, a9)) :
    wpL_explains post (nI g, f1, f2, f3, f4, f5, a1, a2, a3, a4, a5, a6, a7, a8, a9) x1 (nI p) (nI c) x4 := by
  have hg := w.1
  have hN := sd_c_le (sd_b f3) (2 * (7 + g))
  unfold wpL_explains
  exact sd_cnd hg (pk_lt (sd_c (sd_b f3) (2 * (7 + g))) 0 (fun z => absurd z (by omega)) (fun _ => pk_le (sd_c (sd_b f3) (2 * (7 + g))) 42 (fun _ => sd_x26 w hp hc hc4 hx hgot H) (fun z => absurd z (by omega))))
end
end
section
/- two faults answer alike to all patterns of one cycle -/
def sd_same (K F S fe ou : Nat → Int32) (g f m : Nat) : Prop := ∀ p, p < 128 → ∀ j, j < 5 → sd_b (sd_ans K F S fe ou g (nI p) 1 j) m = sd_b (sd_ans K F S fe ou g (nI p) 1 j) f
def sd_lk (K F S fe ou : Nat → Int32) (g : Nat) (a9 : Nat → Int64) : Prop := ∀ f, f < 2 * (7 + g) → ∀ m, m < 64 → (sd_b (a9 f) m = true ↔ m < 2 * (7 + g) ∧ sd_same K F S fe ou g f m)
section
variable {f1 f2 : Int32} {f3 f4 : Int64} {f5 : Int32} {a1 a2 a3 a4 a5 : Nat → Int32} {a6 a7 a8 a9 : Nat → Int64} {g : Nat}
theorem sd_spl {post : St1 → Prop} (hg : g ≤ 14) {x : Int64}
    (H : ∀ (h : Int64) (b9 : Nat → Int64), (∀ f, f < 2 * (7 + g) → ∀ m, m < 64 → (sd_b (b9 f) m = true ↔ sd_b (a9 f) m = true ∧ sd_b x m = sd_b x f)) → post (nI g, f1, f2, f3, h, f5, a1, a2, a3, a4, a5, a6, a7, a8, b9)) :
    wpX_split post (nI g, f1, f2, f3, f4, f5, a1, a2, a3, a4, a5, a6, a7, a8, a9) x := by
  unfold wpX_split
  refine pk_loop (fun n i s => wX_split_2 post x (nI g) f1 f2 f3 f4 f5 n (nI i) a1 a2 a3 a4 a5 a6 a7 a8 s)
    (fun i s => (∀ f, f < i → ∀ m, m < 64 → (sd_b (s f) m = true ↔ sd_b (a9 f) m = true ∧ sd_b x m = sd_b x f)) ∧ ∀ f, i ≤ f → s f = a9 f) (2 * (7 + g)) 0 a9 (by omega) ⟨fun f hf => absurd hf (by omega), fun _ _ => rfl⟩ ?_ ?_
  · intro n s h
    exact pk_le (2 * (7 + g)) (2 * (7 + g)) (fun _ => br_c (fun _ => nm_e (H _ s h.1)) (fun _ => nm_e (H _ s h.1))) (fun z => absurd z (by omega)) (sd_E g)
  · intro n i s hi h hw
    have put : ∀ v : Int64, (∀ m, m < 64 → (sd_b v m = true ↔ sd_b (a9 i) m = true ∧ sd_b x m = sd_b x i)) →
        (∀ f, f < i + 1 → ∀ m, m < 64 → (sd_b (vp_updL s i v f) m = true ↔ sd_b (a9 f) m = true ∧ sd_b x m = sd_b x f)) ∧ ∀ f, i + 1 ≤ f → vp_updL s i v f = a9 f := by
      intro v hv
      refine ⟨fun f hf m hm => ?_, fun f hf => ?_⟩
      · by_cases e : f = i
        · rw [e, pk_uLs]
          exact hv m hm
        · rw [pk_uLn e]
          exact h.1 f (by omega) m hm
      · rw [pk_uLn (by omega)]
        exact h.2 f (by omega)
    refine pk_le (2 * (7 + g)) i (fun z => absurd z (by omega)) (fun _ => ?_) (sd_E g)
    rw [nI_clamp (show i < 2 ^ 31 by omega)]
    refine ⟨pk_in i 42 (by omega), sd_br i (by omega) (fun c => ⟨pk_in i 42 (by omega), nm_e (nm_r (nI_1 i) (hw _ (put _ ?_)))⟩) (fun c => ⟨pk_in i 42 (by omega), nm_e (nm_r (nI_1 i) (hw _ (put _ ?_)))⟩)⟩
    · intro m hm
      rw [h.2 i (Nat.le_refl i)]
      exact sd_and_t c
    · intro m hm
      rw [h.2 i (Nat.le_refl i)]
      exact sd_and_f hm c
theorem sd_g61 {post : St1 → Prop} {J : Int32 → Int32 → Int32 → Int32 → Int64 → Int64 → Int32 → (Nat → Int32) → (Nat → Int32) → (Nat → Int32) → (Nat → Int32) → (Nat → Int32) → (Nat → Int64) → (Nat → Int64) → (Nat → Int64) → (Nat → Int64) → Prop} (hg : g ≤ 14) {p : Nat}
    (H : ∀ (h : Int64) (b9 : Nat → Int64), (∀ f, f < 2 * (7 + g) → ∀ m, m < 64 → (sd_b (b9 f) m = true ↔ sd_b (a9 f) m = true ∧ ∀ j, j < 5 → sd_b (a8 j) m = sd_b (a8 j) f)) → J (nI (p + 1)) (nI g) f1 f2 f3 h f5 a1 a2 a3 a4 a5 a6 a7 a8 b9) :
    ∃ n, wX_group_61 post J (nI p) n 0 (nI g) f1 f2 f3 f4 f5 a1 a2 a3 a4 a5 a6 a7 a8 a9 := by
  refine pk_loop (σ := Int64 × (Nat → Int64)) (fun n i s => wX_group_61 post J (nI p) n (nI i) (nI g) f1 f2 f3 s.1 f5 a1 a2 a3 a4 a5 a6 a7 a8 s.2)
    (fun i s => ∀ f, f < 2 * (7 + g) → ∀ m, m < 64 → (sd_b (s.2 f) m = true ↔ sd_b (a9 f) m = true ∧ ∀ j, j < i → sd_b (a8 j) m = sd_b (a8 j) f)) 5 0 (f4, a9) (by omega) (fun f _ m _ => ⟨fun h => ⟨h, fun j hj => absurd hj (by omega)⟩, fun h => h.1⟩)
    (fun n s h => pk_le 5 5 (fun _ => nm_r (nI_1 p) (H s.1 s.2 h)) (fun z => absurd z (by omega))) ?_
  intro n i s hi h hw
  refine pk_le 5 i (fun z => absurd z (by omega)) (fun _ => ?_)
  rw [nI_clamp (show i < 2 ^ 31 by omega)]
  refine ⟨pk_in i 5 hi, sd_spl hg (fun k b9 hb => nm_r (nI_1 i) (hw (k, b9) ?_))⟩
  intro f hf m hm
  show sd_b (b9 f) m = true ↔ _
  rw [hb f hf m hm, h f hf m hm]
  exact sd_step (P := fun j => sd_b (a8 j) m = sd_b (a8 j) f)
theorem sd_g46 {post : St1 → Prop} (w : sd_wf g a2 a3 a4 a5) (h0 : ∀ f, f < 42 → ∀ m, m < 64 → sd_b (a9 f) m = decide (m < 2 * (7 + g)))
    (H : ∀ (h : Int64) (b6 b7 b8 b9 : Nat → Int64), sd_lk a1 a2 a3 a4 a5 g b9 → post (nI g, f1, f2, f3, h, f5, a1, a2, a3, a4, a5, b6, b7, b8, b9)) :
    ∃ n, wX_group_46 post n 0 (nI g) f1 f2 f3 f4 f5 a1 a2 a3 a4 a5 a6 a7 a8 a9 := by
  have hg := w.1
  refine pk_loop (σ := Int64 × (Nat → Int64) × (Nat → Int64) × (Nat → Int64) × (Nat → Int64)) (fun n i s => wX_group_46 post n (nI i) (nI g) f1 f2 f3 s.1 f5 a1 a2 a3 a4 a5 s.2.1 s.2.2.1 s.2.2.2.1 s.2.2.2.2)
    (fun i s => ∀ f, f < 2 * (7 + g) → ∀ m, m < 64 → (sd_b (s.2.2.2.2 f) m = true ↔ m < 2 * (7 + g) ∧ ∀ p, p < i → ∀ j, j < 5 → sd_b (sd_ans a1 a2 a3 a4 a5 g (nI p) 1 j) m = sd_b (sd_ans a1 a2 a3 a4 a5 g (nI p) 1 j) f)) 128 0 (f4, a6, a7, a8, a9) (by omega) ?_
    (fun n s h => pk_le 128 128 (fun _ => H _ _ _ _ _ h) (fun z => absurd z (by omega))) ?_
  · intro f hf m hm
    show sd_b (a9 f) m = true ↔ _
    rw [h0 f (by omega) m hm, decide_eq_true_iff]
    exact ⟨fun h => ⟨h, fun j hj => absurd hj (by omega)⟩, fun h => h.1⟩
  · intro n i s hi h hw
    refine pk_le 128 i (fun z => absurd z (by omega)) (fun _ => ?_)
    refine sd_run w (nI i) 1 (by omega) (by omega) (fun b6 b7 b8 k8 => sd_g61 hg (fun k b9 hb => hw (k, b6, b7, b8, b9) ?_))
    intro f hf m hm
    show sd_b (b9 f) m = true ↔ _
    rw [hb f hf m hm, h f hf m hm]
    refine Iff.trans (and_congr_right (fun _ => ?_)) (sd_step (P := fun p => ∀ j, j < 5 → sd_b (sd_ans a1 a2 a3 a4 a5 g (nI p) 1 j) m = sd_b (sd_ans a1 a2 a3 a4 a5 g (nI p) 1 j) f))
    constructor
    · intro t j hj
      rw [← k8 j hj]
      exact t j hj
    · intro t j hj
      rw [k8 j hj]
      exact t j hj
theorem sd_g22 {post : St1 → Prop} (w : sd_wf g a2 a3 a4 a5)
    (H : ∀ (h : Int64) (b6 b7 b8 b9 : Nat → Int64), sd_lk a1 a2 a3 a4 a5 g b9 → post (nI g, f1, f2, f3, h, f5, a1, a2, a3, a4, a5, b6, b7, b8, b9)) :
    ∃ n, wX_group_22 post (nI g) f1 f2 f3 f4 f5 n 0 a1 a2 a3 a4 a5 a6 a7 a8 a9 := by
  have hg := w.1
  refine pk_loop (fun n i s => wX_group_22 post (nI g) f1 f2 f3 f4 f5 n (nI i) a1 a2 a3 a4 a5 a6 a7 a8 s) (fun i s => ∀ f, f < i → ∀ m, m < 64 → sd_b (s f) m = decide (m < 2 * (7 + g))) 42 0 a9 (by omega) (fun f hf => absurd hf (by omega))
    (fun n s h => pk_le 42 42 (fun _ => sd_g46 w h H) (fun z => absurd z (by omega))) ?_
  intro n i s hi h hw
  refine pk_le 42 i (fun z => absurd z (by omega)) (fun _ => sd_wflt ?_)
  rw [nI_clamp (show i < 2 ^ 31 by omega)]
  refine ⟨pk_in i 42 hi, nm_e (nm_r (nI_1 i) (hw _ ?_))⟩
  intro f hf m hm
  by_cases e : f = i
  · rw [e, pk_uLs]
    exact sd_faults g (by omega) m hm
  · rw [pk_uLn e]
    exact h f (by omega) m hm
theorem sd_grp {post : St1 → Prop} (w : sd_wf g a2 a3 a4 a5) (hk : f5 = 0 ∨ sd_lk a1 a2 a3 a4 a5 g a9)
    (H : ∀ (h : Int64) (s : Int32) (b6 b7 b8 b9 : Nat → Int64), sd_lk a1 a2 a3 a4 a5 g b9 → post (nI g, f1, f2, f3, h, s, a1, a2, a3, a4, a5, b6, b7, b8, b9)) :
    wpX_group post (nI g, f1, f2, f3, f4, f5, a1, a2, a3, a4, a5, a6, a7, a8, a9) := by
  unfold wpX_group
  exact br_c (fun _ => sd_g22 w (fun h b6 b7 b8 b9 lk => H h 1 b6 b7 b8 b9 lk)) (fun ne => H f4 f5 a6 a7 a8 a9 (hk.resolve_left ne))
theorem sd_lead {post : Int32 → St1 → Prop} (w : sd_wf g a2 a3 a4 a5) (hk : f5 = 0 ∨ sd_lk a1 a2 a3 a4 a5 g a9) {f : Nat} (hf : f < 2 * (7 + g))
    (H : ∀ (h : Int64) (s : Int32) (b6 b7 b8 b9 : Nat → Int64) (k : Nat), sd_lk a1 a2 a3 a4 a5 g b9 → k ≤ f → sd_same a1 a2 a3 a4 a5 g f k → (∀ m, m < k → ¬ sd_same a1 a2 a3 a4 a5 g f m) → post (nI k) (nI g, f1, f2, f3, h, s, a1, a2, a3, a4, a5, b6, b7, b8, b9)) :
    wpX_leader post (nI g, f1, f2, f3, f4, f5, a1, a2, a3, a4, a5, a6, a7, a8, a9) (nI f) := by
  have hg := w.1
  have hr : sd_same a1 a2 a3 a4 a5 g f f := fun _ _ _ _ => rfl
  obtain ⟨k, ks, kmin⟩ := pk_least (fun k => sd_same a1 a2 a3 a4 a5 g f k) ⟨f, hr⟩
  have kle : k ≤ f := Nat.not_lt.mp (fun z => kmin f z hr)
  unfold wpX_leader
  refine sd_isF hg hf (br_f (by decide) (sd_grp w hk (fun h s b6 b7 b8 b9 lk => ?_)))
  dsimp only
  rw [nI_clamp (show f < 2 ^ 31 by omega)]
  refine ⟨pk_in f 42 (by omega), sd_wlow (k := k) (by omega) ((lk f hf k (by omega)).mpr ⟨by omega, ks⟩) (fun j hj => Bool.eq_false_iff.mpr (fun z => kmin j hj ((lk f hf j (by omega)).mp z).2)) (H h s b6 b7 b8 b9 k lk kle ks kmin)⟩
end
end
section
section
variable {f1 f2 : Int32} {f3 f4 : Int64} {f5 : Int32} {a1 a2 a3 a4 a5 : Nat → Int32} {a6 a7 a8 a9 : Nat → Int64} {g : Nat}
theorem sd_isL {post : Int32 → Prop} {x : Nat} (hg : g ≤ 14) (hx : x < 7 + g) (h : post 1) : wpX_isLine post (nI g, f1, f2, f3, f4, f5, a1, a2, a3, a4, a5, a6, a7, a8, a9) (nI x) :=
  pk_lt x 0 (fun z => absurd z (by omega)) (fun _ => pk_le (7 + g) x (fun z => absurd z (by omega)) (fun _ => h) (nI_add 7 g))
theorem sd_lin {post : Int32 → Prop} (H : post (nI (7 + g))) : wpX_lines post (nI g, f1, f2, f3, f4, f5, a1, a2, a3, a4, a5, a6, a7, a8, a9) := by
  rw [← nI_add] at H
  exact H
theorem sd_put {f : Nat → Int32} {g x : Nat} (h : ∀ i, i < g → ∃ y, y < 7 + i ∧ f i = nI y) (hx : x < 7 + g) : ∀ i, i < g + 1 → ∃ y, y < 7 + i ∧ upd f g (nI x) i = nI y := by
  intro i hi
  by_cases e : i = g
  · exact ⟨x, by omega, by rw [e, pk_us]⟩
  · obtain ⟨y, hy, ey⟩ := h i (by omega)
    exact ⟨y, hy, by rw [pk_un e]; exact ey⟩
theorem sd_putL {f : Nat → Int32} {g x k n : Nat} (h : ∀ i, i < n → ∃ y, y < 7 + g ∧ f i = nI y) (hx : x < 7 + g) : ∀ i, i < n → ∃ y, y < 7 + g ∧ upd f k (nI x) i = nI y := by
  intro i hi
  by_cases e : i = k
  · exact ⟨x, hx, by rw [e, pk_us]⟩
  · obtain ⟨y, hy, ey⟩ := h i hi
    exact ⟨y, hy, by rw [pk_un e]; exact ey⟩
theorem sd_up {f : Nat → Int32} {g n : Nat} (h : ∀ i, i < n → ∃ y, y < 7 + g ∧ f i = nI y) : ∀ i, i < n → ∃ y, y < 7 + (g + 1) ∧ f i = nI y := by
  intro i hi
  obtain ⟨y, hy, ey⟩ := h i hi
  exact ⟨y, by omega, ey⟩
theorem sd_g85 {post : Int32 → St1 → Prop} {z : Nat} (hg : g < 14)
    (H : ∀ r, post r (nI (g + 1), f1, 0, -1, f4, 0, a1, a2, upd a3 g (nI z), a4, a5, a6, a7, a8, a9)) :
    wX_gate_85 post (nI z) (nI g) (nI g) f1 f2 f3 f4 f5 a1 a2 a3 a4 a5 a6 a7 a8 a9 := by
  unfold wX_gate_85
  rw [nI_clamp (show g < 2 ^ 31 by omega)]
  exact ⟨pk_in g 14 hg, nm_e (nm_r (nI_1 g) (H _))⟩
theorem sd_g35 {post : Int32 → St1 → Prop} (w : sd_wf g a2 a3 a4 a5) {k x y : Nat} (hk : k < 6) (hx : x < 7 + g) (hy : y < 7 + g)
    (Hs : post (-3) (nI g, f1, f2, f3, f4, f5, a1, a2, a3, a4, a5, a6, a7, a8, a9))
    (Hn : ∀ r K F S, sd_wf (g + 1) F S a4 a5 → post r (nI (g + 1), f1, 0, -1, f4, 0, K, F, S, a4, a5, a6, a7, a8, a9)) :
    wX_gate_35 post (nI k) (nI x) (nI y) (nI g) f1 f2 f3 f4 f5 a1 a2 a3 a4 a5 a6 a7 a8 a9 := by
  have hg := w.1
  unfold wX_gate_35
  rw [nI_clamp (show g < 2 ^ 31 by omega)]
  refine pk_eq g 14 (fun _ => Hs) (fun ne => ⟨pk_in g 14 (by omega), nm_e ⟨pk_in g 14 (by omega), nm_e (pk_eq k 5 (fun _ => sd_g85 (by omega) (fun r => Hn r _ _ _ ?_)) (fun _ => sd_g85 (by omega) (fun r => Hn r _ _ _ ?_)))⟩⟩)
  · exact ⟨by omega, sd_put w.2.1 hx, sd_put w.2.2.1 hx, sd_up w.2.2.2.1, sd_up w.2.2.2.2⟩
  · exact ⟨by omega, sd_put w.2.1 hx, sd_put w.2.2.1 hy, sd_up w.2.2.2.1, sd_up w.2.2.2.2⟩
theorem sd_gate {post : Int32 → St1 → Prop} (w : sd_wf g a2 a3 a4 a5) {k x y : Nat} (hk : k < 6) (hx : x < 7 + g) (hy : y < 7 + g)
    (Hs : post (-3) (nI g, f1, f2, f3, f4, f5, a1, a2, a3, a4, a5, a6, a7, a8, a9))
    (Hn : ∀ r K F S, sd_wf (g + 1) F S a4 a5 → post r (nI (g + 1), f1, 0, -1, f4, 0, K, F, S, a4, a5, a6, a7, a8, a9)) :
    wpX_gate post (nI g, f1, f2, f3, f4, f5, a1, a2, a3, a4, a5, a6, a7, a8, a9) (nI k) (nI x) (nI y) := by
  have hg := w.1
  unfold wpX_gate
  exact pk_lt k 0 (fun z => absurd z (by omega)) (fun _ => pk_le k 5 (fun _ => sd_isL hg hx (br_f (by decide) (pk_eq k 5 (fun _ => sd_g35 w hk hx hy Hs Hn) (fun _ => sd_isL hg hy (br_f (by decide) (sd_g35 w hk hx hy Hs Hn)))))) (fun z => absurd z (by omega)))
theorem sd_feed {post : Int32 → St1 → Prop} (w : sd_wf g a2 a3 a4 a5) {k x : Nat} (hk : k < 3) (hx : x < 7 + g)
    (Hn : ∀ r fe, sd_wf g a2 a3 fe a5 → post r (nI g, f1, 0, -1, f4, 0, a1, a2, a3, fe, a5, a6, a7, a8, a9)) :
    wpX_feed post (nI g, f1, f2, f3, f4, f5, a1, a2, a3, a4, a5, a6, a7, a8, a9) (nI k) (nI x) := by
  have hg := w.1
  unfold wpX_feed
  refine pk_lt k 0 (fun z => absurd z (by omega)) (fun _ => pk_le k 2 (fun _ => sd_isL hg hx (br_f (by decide) ?_)) (fun z => absurd z (by omega)))
  rw [nI_clamp (show k < 2 ^ 31 by omega)]
  exact ⟨pk_in k 3 hk, nm_e ⟨pk_in k 3 hk, nm_e (Hn _ _ ⟨hg, w.2.1, w.2.2.1, sd_putL w.2.2.2.1 hx, w.2.2.2.2⟩)⟩⟩
theorem sd_o11 {post : Int32 → St1 → Prop} (w : sd_wf g a2 a3 a4 a5) {k x : Nat} (hk : k < 2) (hx : x < 7 + g)
    (Hn : ∀ r ou, sd_wf g a2 a3 a4 ou → post r (nI g, f1, 0, -1, f4, 0, a1, a2, a3, a4, ou, a6, a7, a8, a9)) :
    wX_output_11 post (nI k) (nI x) (nI g) f1 f2 f3 f4 f5 a1 a2 a3 a4 a5 a6 a7 a8 a9 := by
  have hg := w.1
  unfold wX_output_11
  refine sd_isL hg hx (br_f (by decide) ?_)
  rw [nI_clamp (show k < 2 ^ 31 by omega)]
  exact ⟨pk_in k 2 hk, nm_e ⟨pk_in k 2 hk, nm_e (Hn _ _ ⟨hg, w.2.1, w.2.2.1, w.2.2.2.1, sd_putL w.2.2.2.2 hx⟩)⟩⟩
theorem sd_out {post : Int32 → St1 → Prop} (w : sd_wf g a2 a3 a4 a5) {k x : Nat} (hk : k < 2) (hx : x < 7 + g)
    (Hn : ∀ r ou, sd_wf g a2 a3 a4 ou → post r (nI g, f1, 0, -1, f4, 0, a1, a2, a3, a4, ou, a6, a7, a8, a9)) :
    wpX_output post (nI g, f1, f2, f3, f4, f5, a1, a2, a3, a4, a5, a6, a7, a8, a9) (nI k) (nI x) := by
  unfold wpX_output
  exact pk_eq k 0 (fun _ => sd_o11 w hk hx Hn) (fun _ => pk_eq k 1 (fun _ => sd_o11 w hk hx Hn) (fun z => absurd z (by omega)))
theorem sd_inj {post : Int32 → St1 → Prop} {x : Int32} (hg : g ≤ 14) (hx : x = -1 ∨ ∃ q, x = nI q ∧ q < 2 * (7 + g))
    (H : post 0 (nI g, x, 0, -1, f4, 0, a1, a2, a3, a4, a5, a6, a7, a8, a9)) :
    wpX_inject post (nI g, f1, f2, f3, f4, f5, a1, a2, a3, a4, a5, a6, a7, a8, a9) x := by
  unfold wpX_inject
  have h15 : wX_inject_15 post x (nI g) f1 f2 f3 f4 f5 a1 a2 a3 a4 a5 a6 a7 a8 a9 := H
  refine br_c (fun _ => h15) (fun ne => ?_)
  rcases hx with e | ⟨q, e, hq⟩
  · exact absurd e ne
  · rw [e]
    rw [e] at h15
    exact sd_isF hg hq (br_f (by decide) h15)
theorem sd_build {post : St1 → Prop} (w : sd_wf g a2 a3 a4 a5) {o : Nat} (ho : o < 16) {c d : Int32}
    (Hs : post (nI g, f1, f2, f3, f4, f5, a1, a2, a3, a4, a5, a6, a7, a8, a9))
    (Hn : ∀ g' K F S fe ou, g ≤ g' → sd_wf g' F S fe ou → post (nI g', f1, 0, -1, f4, 0, K, F, S, fe, ou, a6, a7, a8, a9)) :
    wpL_build post (nI g, f1, f2, f3, f4, f5, a1, a2, a3, a4, a5, a6, a7, a8, a9) (nI o) c d := by
  have hg := w.1
  obtain ⟨jx, hjx, ex⟩ := pk_andE d (m := 31) 5 (by decide)
  obtain ⟨jy, hjy, ey⟩ := pk_andE (d >>> ((5 : Int32) &&& 31)) (m := 31) 5 (by decide)
  obtain ⟨j1, hj1, e1⟩ := pk_andE (c >>> ((4 : Int32) &&& 31)) (m := 1) 1 (by decide)
  obtain ⟨j3, hj3, e3⟩ := pk_andE (c >>> ((4 : Int32) &&& 31)) (m := 3) 2 (by decide)
  obtain ⟨j7, hj7, e7⟩ := pk_andE (c >>> ((4 : Int32) &&& 31)) (m := 7) 3 (by decide)
  have hx : jx % (7 + g) < 7 + g := Nat.mod_lt _ (by omega)
  have hy : jy % (7 + g) < 7 + g := Nat.mod_lt _ (by omega)
  unfold wpL_build
  refine sd_lin ?_
  rw [ex, ey, e1, e3, e7]
  refine ⟨nI_ne0 (by omega) (by omega), nm_r (pk_rem (by omega) (by omega) (by omega)) ⟨nI_ne0 (by omega) (by omega), nm_r (pk_rem (by omega) (by omega) (by omega)) ?_⟩⟩
  refine pk_le 7 o (fun _ => pk_le 10 o (fun _ => ?_) (fun _ => ⟨by decide, ?_⟩)) (fun _ => ⟨by decide, ?_⟩)
  · exact sd_out w (by omega) hy (fun r ou w' => Hn g a1 a2 a3 a4 ou (Nat.le_refl g) w')
  · have r3 : nI j3 - nI j3 / 3 * 3 = nI (j3 % 3) := pk_rem (d := 3) (by omega) (by omega) (by omega)
    rw [r3]
    exact sd_feed w (Nat.mod_lt _ (by omega)) hx (fun r fe w' => Hn g a1 a2 a3 fe a5 (Nat.le_refl g) w')
  · have r6 : nI j7 - nI j7 / 6 * 6 = nI (j7 % 6) := pk_rem (d := 6) (by omega) (by omega) (by omega)
    rw [r6]
    exact sd_gate w (Nat.mod_lt _ (by omega)) hx hy Hs (fun r K F S w' => Hn (g + 1) K F S a4 a5 (by omega) w')
end
theorem sd_init {post : St1 → Prop} (H : ∀ fe, sd_wf 0 (fun _ => 0) (fun _ => 0) fe (fun _ => 0) → post (nI 0, -1, 0, -1, 0, 0, fun _ => 0, fun _ => 0, fun _ => 0, fe, fun _ => 0, fun _ => 0, fun _ => 0, fun _ => 0, fun _ => 0)) :
    wpX_init post 9 118 (0, 0, 0, 0, 0, 0) := by
  unfold wpX_init
  refine ⟨by omega, by omega, by omega, by omega, by omega, by omega, by omega, by omega, by omega, by omega, by omega, by omega, by omega, by omega, by omega, by omega, by omega, by omega, ?_⟩
  refine pk_loop (fun n i s => wX_init_74 post 9 118 9 118 0 0 0 0 0 0 n (nI i) (fun _ => 0) (fun _ => 0) (fun _ => 0) s (fun _ => 0) (fun _ => 0) (fun _ => 0) (fun _ => 0) (fun _ => 0)) (fun i s => ∀ k, k < i → ∃ y, y < 7 ∧ s k = nI y) 3 0 (fun _ => 0) (by omega) (fun k hk => absurd hk (by omega)) ?_ ?_
  · intro n s h
    exact pk_le 3 3 (fun _ => H s ⟨by omega, fun i hi => absurd hi (by omega), fun i hi => absurd hi (by omega), h, fun k _ => ⟨0, by omega, rfl⟩⟩) (fun z => absurd z (by omega))
  · intro n i s hi h hw
    refine pk_le 3 i (fun z => absurd z (by omega)) (fun _ => ?_)
    rw [nI_clamp (show i < 2 ^ 31 by omega)]
    refine ⟨pk_in i 3 hi, nm_e (nm_r (nI_1 i) (hw _ ?_))⟩
    intro k hk
    by_cases e : k = i
    · exact ⟨4 + i, by omega, by rw [e, pk_us]; exact nI_add 4 i⟩
    · obtain ⟨y, hy, ey⟩ := h k (by omega)
      exact ⟨y, hy, by rw [pk_un e]; exact ey⟩
end
section
section
variable {f1 f2 : Int32} {f3 f4 : Int64} {f5 : Int32} {a1 a2 a3 a4 a5 : Nat → Int32} {a6 a7 a8 a9 : Nat → Int64} {g : Nat}
/-- the device's bit is left -/
def sd_dev (x : Int32) (g : Nat) (l : Int64) : Prop := (x = -1 ∧ sd_b l 63 = true) ∨ ∃ q, x = nI q ∧ q < 2 * (7 + g) ∧ sd_b l q = true
/-- what was got is what every fault that is left answers -/
def sd_got (x : Int32) (K F S fe ou : Nat → Int32) (g p c : Nat) (l : Int64) : Prop := x = -1 ∨ ∀ f, f < 2 * (7 + g) → sd_b l f = true → x = nI (sd_cd (fun j => sd_b (sd_ans K F S fe ou g (nI p) c j) f) 5)
theorem sd_187 {L : Nat} {xs : Nat → Int32} {J : Int32 → Int32 → Int32 → Int32 → Int32 → Int32 → Int32 → Int32 → Int64 → Int64 → Int32 → (Nat → Int32) → (Nat → Int32) → (Nat → Int32) → (Nat → Int32) → (Nat → Int32) → (Nat → Int64) → (Nat → Int64) → (Nat → Int64) → (Nat → Int64) → Prop}
    {post : Int32 → Prop} {x2 x5 x8 : Int32} {p c i kc ks : Nat} (w : sd_wf g a2 a3 a4 a5) (hp : p < 128) (hc : 1 ≤ c) (hc4 : c ≤ 4) (hx : sd_dev x2 g f3) (hgot : sd_got x5 a1 a2 a3 a4 a5 g p c f3) (hk : f5 = 0 ∨ sd_lk a1 a2 a3 a4 a5 g a9)
    (H : ∀ (h : Int64) (s : Int32) (b6 b7 b8 b9 : Nat → Int64), sd_lk a1 a2 a3 a4 a5 g b9 → J x2 (nI p) (nI c) x5 (nI (i + 2)) (nI g) f1 f2 f3 h s a1 a2 a3 a4 a5 b6 b7 b8 b9) :
    wL_law_187 post L xs J x2 (nI p) (nI c) x5 (nI i) x8 kc ks (nI g) f1 f2 f3 f4 f5 a1 a2 a3 a4 a5 a6 a7 a8 a9 := by
  have hg := w.1
  obtain ⟨j, hj, ej⟩ := pk_andE (x8 >>> ((9 : Int32) &&& 31)) (m := 63) 6 (by decide)
  have e2 : 2 * nI (7 + g) = nI (2 * (7 + g)) := pk_mul 2 (7 + g)
  have hf : j % (2 * (7 + g)) < 2 * (7 + g) := Nat.mod_lt _ (by omega)
  unfold wL_law_187
  rw [ej]
  refine sd_expl w hp hc hc4 hx hgot (fun b6 b7 b8 => br_f (by decide) (sd_lin ?_))
  rw [e2]
  refine ⟨nI_ne0 (by omega) (by omega), nm_r (pk_rem (by omega) (by omega) (by omega)) ?_⟩
  refine sd_lead w hk hf (fun h s c6 c7 c8 c9 k lk kle hs hmin => pk_lt k 0 (fun z => absurd z (by omega)) (fun _ => pk_lt (j % (2 * (7 + g))) k (fun z => absurd z (by omega)) (fun _ => sd_lead w (Or.inr lk) (by omega) (fun h' s' d6 d7 d8 d9 k' lk' kle' hs' hmin' => br_t ?_ (nm_r (nI_add i 2) (H _ _ _ _ _ _ lk'))))))
  have : ¬ k' < k := fun z => hmin k' z (fun q hq t ht => (hs' q hq t ht).trans (hs q hq t ht))
  rw [show k' = k by omega]
theorem sd_cell {post : Int32 → Prop} {L : Nat} {xs : Nat → Int32} {k : Nat} (hL : L ≤ 260) (hk : k < 2 ^ 31) (H : ∀ v, post v) : wpL_cell post L xs () (nI k) := pk_le L k (fun _ => H 0) (fun z => ⟨pk_in k L z, H _⟩)
end
theorem sd_loop {L : Nat} {xs : Nat → Int32} {kc ks : Nat} (hL : L ≤ 260) : ∀ (m i : Nat), i + m = (L + 1) / 2 → ∀ (x2 x5 : Int32) (p c g : Nat) (f2 : Int32) (f3 f4 : Int64) (f5 : Int32) (a1 a2 a3 a4 a5 : Nat → Int32) (a6 a7 a8 a9 : Nat → Int64),
    sd_wf g a2 a3 a4 a5 → p < 128 → 1 ≤ c → c ≤ 4 → sd_dev x2 g f3 → sd_got x5 a1 a2 a3 a4 a5 g p c f3 → (f5 = 0 ∨ sd_lk a1 a2 a3 a4 a5 g a9) →
    wL_law_21 (fun r => r = 1) L xs kc ks (m + 1) x2 (nI p) (nI c) x5 (nI (2 * i)) (nI g) x2 f2 f3 f4 f5 a1 a2 a3 a4 a5 a6 a7 a8 a9 := by
  intro m
  induction m with
  | zero =>
    intro i hi x2 x5 p c g f2 f3 f4 f5 a1 a2 a3 a4 a5 a6 a7 a8 a9 w hp hc hc4 hx hgot hk
    exact pk_le L (2 * i) (fun _ => rfl) (fun z => absurd z (by omega))
  | succ m ih =>
    intro i hi x2 x5 p c g f2 f3 f4 f5 a1 a2 a3 a4 a5 a6 a7 a8 a9 w hp hc hc4 hx hgot hk
    have hg := w.1
    refine pk_le L (2 * i) (fun z => absurd z (by omega)) (fun _ => ?_)
    refine sd_cell hL (by omega) (fun vc => ?_)
    rw [nI_1]
    refine sd_cell hL (by omega) (fun vd => ?_)
    obtain ⟨o, ho, eo⟩ := pk_andE vc (m := 15) 4 (by decide)
    refine nm_r eo ?_
    have next : ∀ (x2 x5 : Int32) (p c g : Nat) (f2 : Int32) (f3 f4 : Int64) (f5 : Int32) (a1 a2 a3 a4 a5 : Nat → Int32) (a6 a7 a8 a9 : Nat → Int64),
        sd_wf g a2 a3 a4 a5 → p < 128 → 1 ≤ c → c ≤ 4 → sd_dev x2 g f3 → sd_got x5 a1 a2 a3 a4 a5 g p c f3 → (f5 = 0 ∨ sd_lk a1 a2 a3 a4 a5 g a9) →
        wL_law_187 (fun r => r = 1) L xs (wL_law_21 (fun r => r = 1) L xs kc ks (m + 1)) x2 (nI p) (nI c) x5 (nI (2 * i)) vd kc ks (nI g) x2 f2 f3 f4 f5 a1 a2 a3 a4 a5 a6 a7 a8 a9 :=
      fun x2 x5 p c g f2 f3 f4 f5 a1 a2 a3 a4 a5 a6 a7 a8 a9 w hp hc hc4 hx hgot hk => sd_187 w hp hc hc4 hx hgot hk (fun h s b6 b7 b8 b9 lk => ih (i + 1) (by omega) x2 x5 p c g f2 f3 h s a1 a2 a3 a4 a5 b6 b7 b8 b9 w hp hc hc4 hx hgot (Or.inr lk))
    refine pk_le 11 o (fun _ => pk_eq o 11 (fun _ => ?_) (fun _ => ?_)) (fun _ => ?_)
    · obtain ⟨j, hj, ej⟩ := pk_andE vd (m := 63) 6 (by decide)
      have e2 : 2 * nI (7 + g) + 1 = nI (2 * (7 + g) + 1) := by
        rw [← nI_1, ← pk_mul]
        rfl
      refine sd_lin ?_
      rw [ej, e2]
      refine ⟨nI_ne0 (by omega) (by omega), ?_⟩
      rw [pk_rem (show j < 2 ^ 31 by omega) (by omega) (by omega)]
      have hv : j % (2 * (7 + g) + 1) < 2 * (7 + g) + 1 := Nat.mod_lt _ (by omega)
      refine fun want ew => ?_
      have hw : want = -1 ∨ ∃ q, want = nI q ∧ q < 2 * (7 + g) := by
        rcases Nat.eq_zero_or_pos (j % (2 * (7 + g) + 1)) with z | z
        · rw [z] at ew
          exact Or.inl (ew.trans (by decide))
        · exact Or.inr ⟨j % (2 * (7 + g) + 1) - 1, ew.trans (pk_sub (b := 1) z), by omega⟩
      refine sd_inj hg hw (br_t rfl (next want (-1) p c g _ _ _ _ _ _ _ _ _ _ _ _ _ w hp hc hc4 ?_ (Or.inl rfl) (Or.inl rfl)))
      rcases hw with e | ⟨q, e, hq⟩
      · exact Or.inl ⟨e, sd_m1 (by decide)⟩
      · exact Or.inr ⟨q, e, hq, sd_m1 (by omega)⟩
    · obtain ⟨p', hp', ep⟩ := pk_andE vd (m := 127) 7 (by decide)
      obtain ⟨c', hc', ec⟩ := pk_andE (vc >>> ((4 : Int32) &&& 31)) (m := 3) 2 (by decide)
      have e1 : 1 + nI c' = nI (1 + c') := nI_add 1 c'
      have hb : ∃ b, b < 64 ∧ (x2 = nI b ∨ (x2 = -1 ∧ b = 63)) ∧ sd_b f3 b = true ∧ (x2 = -1 ∨ b < 2 * (7 + g)) := by
        rcases hx with ⟨e, h63⟩ | ⟨q, e, hq, hbq⟩
        · exact ⟨63, by omega, Or.inr ⟨e, rfl⟩, h63, Or.inl e⟩
        · exact ⟨q, by omega, Or.inl e, hbq, Or.inr hq⟩
      obtain ⟨b, hb64, hd, hbl, hbE⟩ := hb
      rw [ep, ec, e1]
      refine sd_obs w hp' (by omega) (by omega) hb64 hd (fun _ => br_t (by decide) (next _ _ _ _ _ _ _ _ _ _ _ _ _ _ _ _ _ _ w hp hc hc4 hx hgot hk)) (fun n' l b6 b7 b8 hl => ?_)
      have lc := sd_cd_lt (fun j => sd_b (sd_ans a1 a2 a3 a4 a5 g (nI p') (1 + c') j) b) 5
      have hx' : sd_dev x2 g l := by
        have hlb : sd_b l b = true := (hl b hb64).mpr ⟨hbl, fun _ _ => rfl⟩
        rcases hd with e | ⟨e, e63⟩
        · rcases hbE with z | z
          · exact absurd (by rw [← e, z]; decide : nI b < 0) (nI_pos (by omega))
          · exact Or.inr ⟨b, e, z, hlb⟩
        · rw [e63] at hlb
          exact Or.inl ⟨e, hlb⟩
      have hold : sd_got x5 a1 a2 a3 a4 a5 g p c l := by
        rcases hgot with e | h
        · exact Or.inl e
        · exact Or.inr (fun f hf hfl => h f hf ((hl f (by omega)).mp hfl).1)
      have hnew : sd_got (nI (sd_cd (fun j => sd_b (sd_ans a1 a2 a3 a4 a5 g (nI p') (1 + c') j) b) 5)) a1 a2 a3 a4 a5 g p' (1 + c') l :=
        Or.inr (fun f hf hfl => by rw [sd_cd_congr (fun j hj => (((hl f (by omega)).mp hfl).2 j hj).symm)])
      have g167 : wL_law_167 (fun r => r = 1) L xs (wL_law_21 (fun r => r = 1) L xs kc ks (m + 1)) x2 (nI (2 * i)) vc vd (nI (sd_cd (fun j => sd_b (sd_ans a1 a2 a3 a4 a5 g (nI p') (1 + c') j) b) 5)) kc ks (nI g) x2 n' l f4 f5 a1 a2 a3 a4 a5 b6 b7 b8 a9 := by
        unfold wL_law_167
        refine nm_r ep ?_
        rw [ec]
        exact nm_r e1 (next _ _ _ _ _ _ _ _ _ _ _ _ _ _ _ _ _ _ w hp' (by omega) (by omega) hx' hnew hk)
      exact br_f (nI_pos (by omega)) (br_c (fun _ => g167) (fun _ => br_c (fun _ => g167) (fun _ => next _ _ _ _ _ _ _ _ _ _ _ _ _ _ _ _ _ _ w hp hc hc4 hx' hold hk)))
    · refine sd_build w ho (br_c (fun _ => next _ _ _ _ _ _ _ _ _ _ _ _ _ _ _ _ _ _ w hp hc hc4 hx (Or.inl rfl) hk) (fun _ => next _ _ _ _ _ _ _ _ _ _ _ _ _ _ _ _ _ _ w hp hc hc4 hx hgot hk)) (fun g' K F S fe ou hgg w' => br_t rfl (next _ _ _ _ _ _ _ _ _ _ _ _ _ _ _ _ _ _ w' hp hc hc4 ?_ (Or.inl rfl) (Or.inl rfl)))
      have hg' := w'.1
      rcases hx with ⟨e, _⟩ | ⟨q, e, hq, _⟩
      · exact Or.inl ⟨e, sd_m1 (by decide)⟩
      · exact Or.inr ⟨q, e, by omega, sd_m1 (by omega)⟩
theorem i_vc (xs : Nat → Int32) (L : Nat) (hL : L ≤ 260) : wpL_law (fun r => r = 1) L xs := by
  unfold wpL_law
  refine ⟨9, 118, by omega, by omega, sd_init (fun fe w => ⟨(L + 1) / 2 + 1, ?_⟩)⟩
  exact sd_loop hL ((L + 1) / 2) 0 (by omega) (-1) (-1) 0 1 0 0 (-1) 0 0 _ _ _ fe _ _ _ _ _ w (by omega) (by omega) (by omega) (Or.inl ⟨rfl, sd_m1 (by decide)⟩) (Or.inl rfl) (Or.inl rfl)
end

section
/-! bits of an Int32 (the family 'Int32 by its bits' of kit/laws/BITS.to-paste, renamed), counts -/
def rb_t (x : Int32) (i : Nat) : Bool := x.toBitVec.getLsbD i
theorem rb_ext {x y : Int32} (h : ∀ i, i < 32 → rb_t x i = rb_t y i) : x = y := Int32.toBitVec_inj.mp (BitVec.eq_of_getLsbD_eq (fun i hi => h i hi))
theorem rb_or (x y : Int32) (i : Nat) : rb_t (x ||| y) i = (rb_t x i || rb_t y i) := by unfold rb_t; rw [Int32.toBitVec_or, BitVec.getLsbD_or]
theorem rb_and (x y : Int32) (i : Nat) : rb_t (x &&& y) i = (rb_t x i && rb_t y i) := by unfold rb_t; rw [Int32.toBitVec_and, BitVec.getLsbD_and]
theorem rb_xor (x y : Int32) (i : Nat) : rb_t (x ^^^ y) i = (rb_t x i ^^ rb_t y i) := by unfold rb_t; rw [Int32.toBitVec_xor, BitVec.getLsbD_xor]
theorem rb_big {x : Int32} {i : Nat} (h : 32 ≤ i) : rb_t x i = false := BitVec.getLsbD_of_ge _ _ h
theorem rb_m1 : ∀ i, i < 32 → rb_t (-1) i = true := by decide +kernel
theorem rb_0 (i : Nat) : rb_t 0 i = false := BitVec.getLsbD_zero
theorem rb_1 : ∀ i, i < 32 → rb_t 1 i = decide (i = 0) := by decide +kernel
theorem rb_sl : ∀ n, n < 32 → ((nI n &&& 31).toBitVec.smod 32).toNat = n := by decide +kernel
theorem rb_su : ∀ n, n < 32 → (((nI n).toUInt32 &&& Int32.toUInt32 31).toBitVec % 32).toNat = n := by decide +kernel
theorem rb_shl (n : Nat) (hn : n < 32) (x : Int32) {i : Nat} (hi : i < 32) : rb_t (x <<< (nI n &&& 31)) i = (decide (n ≤ i) && rb_t x (i - n)) := by
  unfold rb_t
  rw [Int32.toBitVec_shiftLeft]
  show (x.toBitVec <<< ((nI n &&& 31).toBitVec.smod 32).toNat).getLsbD i = _
  rw [rb_sl n hn, BitVec.getLsbD_shiftLeft]
  rcases Nat.lt_or_ge i n with h | h
  · simp [h, Nat.not_le.mpr h]
  · simp [hi, h, Nat.not_lt.mpr h]
theorem rb_ushr (n : Nat) (hn : n < 32) (x : Int32) (i : Nat) : rb_t ((x.toUInt32 >>> ((nI n).toUInt32 &&& Int32.toUInt32 31)).toInt32) i = rb_t x (n + i) := by
  show (x.toUInt32 >>> ((nI n).toUInt32 &&& Int32.toUInt32 31)).toBitVec.getLsbD i = x.toUInt32.toBitVec.getLsbD (n + i)
  rw [UInt32.toBitVec_shiftRight]
  show (x.toUInt32.toBitVec >>> (((nI n).toUInt32 &&& Int32.toUInt32 31).toBitVec % 32).toNat).getLsbD i = _
  rw [rb_su n hn, BitVec.getLsbD_ushiftRight]
theorem rb_not (x : Int32) {i : Nat} (hi : i < 32) : rb_t (x ^^^ (-1)) i = !rb_t x i := by
  rw [rb_xor, rb_m1 i hi]
  cases rb_t x i <;> rfl
theorem rb_bit (w : Int32) {l : Nat} (hl : l < 32) : ((w.toUInt32 >>> ((nI l).toUInt32 &&& Int32.toUInt32 31)).toInt32 &&& 1) = 1 ↔ rb_t w l = true := by
  constructor
  · intro e
    have h := congrArg (fun z => rb_t z 0) e
    rw [rb_and, rb_ushr l hl, rb_1 0 (by omega)] at h
    simpa using h
  · intro e
    apply rb_ext
    intro i hi
    rw [rb_and, rb_ushr l hl, rb_1 i hi]
    by_cases h : i = 0
    · subst h
      simp [e]
    · simp [h]
theorem rb_one : ∀ l, l < 32 → ∀ j, j < 32 → rb_t ((1 : Int32) <<< (nI l &&& 31)) j = decide (j = l) := by decide +kernel
theorem rb_hi : ∀ t, t < 31 → ∀ j, j < 32 → rb_t (((2 : Int32) <<< (nI t &&& 31)) - 1) j = decide (j ≤ t) := by decide +kernel
theorem rb_lo : ∀ f, f < 32 → ∀ j, j < 32 → rb_t (((1 : Int32) <<< (nI f &&& 31)) - 1) j = decide (j < f) := by decide +kernel
/-! how many below n -/
def rc_cnt (P : Nat → Bool) : Nat → Nat
  | 0 => 0
  | n + 1 => rc_cnt P n + (P n).toNat
theorem rc_cnt_s (P : Nat → Bool) (n : Nat) : rc_cnt P (n + 1) = rc_cnt P n + (P n).toNat := rfl
theorem rc_cnt_le (P : Nat → Bool) (n : Nat) : rc_cnt P n ≤ n := by
  induction n with
  | zero => exact Nat.le_refl 0
  | succ n ih =>
    have h := Bool.toNat_le (P n)
    rw [rc_cnt_s]
    omega
theorem rc_cnt_add (P : Nat → Bool) (m n : Nat) : rc_cnt P (m + n) = rc_cnt P m + rc_cnt (fun i => P (m + i)) n := by
  induction n with
  | zero => rfl
  | succ n ih =>
    show rc_cnt P (m + n) + (P (m + n)).toNat = rc_cnt P m + (rc_cnt (fun i => P (m + i)) n + (P (m + n)).toNat)
    omega
theorem rc_cnt_mono (P : Nat → Bool) {m n : Nat} (h : m ≤ n) : rc_cnt P m ≤ rc_cnt P n := by
  obtain ⟨c, rfl⟩ : ∃ c, n = m + c := ⟨n - m, by omega⟩
  rw [rc_cnt_add]
  omega
theorem rc_cnt_congr {P Q : Nat → Bool} {n : Nat} (h : ∀ i, i < n → P i = Q i) : rc_cnt P n = rc_cnt Q n := by
  induction n with
  | zero => rfl
  | succ n ih =>
    rw [rc_cnt_s, rc_cnt_s, ih (fun i hi => h i (by omega)), h n (by omega)]
theorem rc_cnt_none {P : Nat → Bool} {n : Nat} (h : ∀ i, i < n → P i = false) : rc_cnt P n = 0 := by
  induction n with
  | zero => rfl
  | succ n ih =>
    rw [rc_cnt_s, ih (fun i hi => h i (by omega)), h n (by omega)]
    rfl
theorem rc_cnt_or (P Q : Nat → Bool) (n : Nat) : rc_cnt (fun i => P i || Q i) n + rc_cnt (fun i => P i && Q i) n = rc_cnt P n + rc_cnt Q n := by
  induction n with
  | zero => rfl
  | succ n ih =>
    simp only [rc_cnt_s]
    have h : (P n || Q n).toNat + (P n && Q n).toNat = (P n).toNat + (Q n).toNat := by cases P n <;> cases Q n <;> rfl
    omega
theorem rc_cnt_xor (P Q : Nat → Bool) (n : Nat) : rc_cnt (fun i => P i ^^ Q i) n + 2 * rc_cnt (fun i => P i && Q i) n = rc_cnt P n + rc_cnt Q n := by
  induction n with
  | zero => rfl
  | succ n ih =>
    simp only [rc_cnt_s]
    have h : (P n ^^ Q n).toNat + 2 * (P n && Q n).toNat = (P n).toNat + (Q n).toNat := by cases P n <;> cases Q n <;> rfl
    omega
theorem rc_cnt_diff (P Q : Nat → Bool) (n : Nat) : rc_cnt (fun i => P i && !Q i) n + rc_cnt (fun i => P i && Q i) n = rc_cnt P n := by
  induction n with
  | zero => rfl
  | succ n ih =>
    simp only [rc_cnt_s]
    have h : (P n && !Q n).toNat + (P n && Q n).toNat = (P n).toNat := by cases P n <;> cases Q n <;> rfl
    omega
theorem rc_cnt_iv (a b n : Nat) : rc_cnt (fun i => decide (a ≤ i ∧ i ≤ b)) n = min n (b + 1) - a := by
  induction n with
  | zero =>
    show 0 = _
    omega
  | succ n ih =>
    rw [rc_cnt_s, ih]
    by_cases h : a ≤ n ∧ n ≤ b
    · rw [decide_eq_true h]
      show _ + 1 = _
      omega
    · rw [decide_eq_false h]
      show _ + 0 = _
      omega
/-! the number of ones of a word, as the code counts it -/
theorem rn_and8 (X Y : Nat) : X &&& Y = (X % 256 &&& Y % 256) + 256 * (X / 256 &&& Y / 256) := by
  have h1 : (X &&& Y) % 2 ^ 8 = (X % 2 ^ 8) &&& (Y % 2 ^ 8) := Nat.and_mod_two_pow
  have h2 : (X &&& Y) / 2 ^ 8 = (X / 2 ^ 8) &&& (Y / 2 ^ 8) := Nat.and_div_two_pow
  have h3 := Nat.div_add_mod (X &&& Y) (2 ^ 8)
  rw [h1, h2] at h3
  have h4 : (2 : Nat) ^ 8 = 256 := rfl
  rw [h4] at h3
  omega
def rn_t1 (a : Nat) : Nat := a - (a / 2 &&& 0x55)
def rn_t2 (a : Nat) : Nat := (a &&& 0x33) + (a / 4 &&& 0x33)
def rn_t3 (a : Nat) : Nat := (a + a / 16) &&& 0x0F
theorem rn_b1 : ∀ a, a < 256 → ∀ e, e < 2 → (a / 2 + 128 * e) &&& 0x55 = a / 2 &&& 0x55 := by decide +kernel
theorem rn_b2 : ∀ a, a < 256 → ∀ e, e < 4 → (a / 4 + 64 * e) &&& 0x33 = a / 4 &&& 0x33 := by decide +kernel
theorem rn_b3 : ∀ a, a < 69 → ∀ e, e < 5 → (a + a / 16 + 16 * e) &&& 0x0F = (a + a / 16) &&& 0x0F := by decide +kernel
theorem rn_l1 : ∀ a, a < 256 → a / 2 &&& 0x55 ≤ a ∧ rn_t1 a < 256 ∧ rn_t2 (rn_t1 a) < 69 ∧ rn_t2 (rn_t1 a) % 16 < 5 ∧ rn_t3 (rn_t2 (rn_t1 a)) ≤ 8 ∧ rn_t3 (rn_t2 (rn_t1 a)) = rc_cnt (fun i => a.testBit i) 8 := by decide +kernel
theorem rn_s1 {a m M : Nat} (ha : a < 256) : (a + 256 * m) - ((a + 256 * m) / 2 &&& (0x55 + 256 * M)) = rn_t1 a + 256 * (m - (m / 2 &&& M)) := by
  rw [rn_and8 ((a + 256 * m) / 2), show (a + 256 * m) / 2 % 256 = a / 2 + 128 * (m % 2) by omega, show (a + 256 * m) / 2 / 256 = m / 2 by omega, show (0x55 + 256 * M) % 256 = 0x55 by omega, show (0x55 + 256 * M) / 256 = M by omega, rn_b1 a ha _ (by omega)]
  have h1 := (rn_l1 a ha).1
  have h2 : m / 2 &&& M ≤ m / 2 := Nat.and_le_left
  unfold rn_t1
  omega
theorem rn_s2 {a m M : Nat} (ha : a < 256) : ((a + 256 * m) &&& (0x33 + 256 * M)) + ((a + 256 * m) / 4 &&& (0x33 + 256 * M)) = rn_t2 a + 256 * ((m &&& M) + (m / 4 &&& M)) := by
  rw [rn_and8 ((a + 256 * m) / 4), rn_and8 (a + 256 * m), show (a + 256 * m) / 4 % 256 = a / 4 + 64 * (m % 4) by omega, show (a + 256 * m) / 4 / 256 = m / 4 by omega, show (0x33 + 256 * M) % 256 = 0x33 by omega, show (0x33 + 256 * M) / 256 = M by omega, show (a + 256 * m) % 256 = a by omega, show (a + 256 * m) / 256 = m by omega, rn_b2 a ha _ (by omega)]
  unfold rn_t2
  omega
theorem rn_s3 {a m M : Nat} (ha : a < 69) (hm : m % 16 < 5) : ((a + 256 * m) + (a + 256 * m) / 16) &&& (0x0F + 256 * M) = rn_t3 a + 256 * ((m + m / 16) &&& M) := by
  rw [rn_and8 (_ + _), show ((a + 256 * m) + (a + 256 * m) / 16) % 256 = a + a / 16 + 16 * (m % 16) by omega, show ((a + 256 * m) + (a + 256 * m) / 16) / 256 = m + m / 16 by omega, show (0x0F + 256 * M) % 256 = 0x0F by omega, show (0x0F + 256 * M) / 256 = M by omega, rn_b3 a ha _ hm]
  rfl
theorem rn_mul {a b c d : Nat} (ha : a ≤ 8) (hb : b ≤ 8) (hc : c ≤ 8) (hd : d ≤ 8) : (a + 256 * (b + 256 * (c + 256 * d))) * 16843009 % 4294967296 / 16777216 = a + b + c + d := by
  have e : (a + 256 * (b + 256 * (c + 256 * d))) * 16843009 = (a + 256 * (a + b) + 65536 * (a + b + c) + 16777216 * (a + b + c + d)) + 4294967296 * ((b + c + d) + 256 * (c + d) + 65536 * d) := by omega
  rw [e, Nat.add_mul_mod_self_left, Nat.mod_eq_of_lt (by omega)]
  omega
theorem rn_all (n : Nat) (hn : n < 4294967296) (x1 x2 x3 : Nat) (e1 : x1 = n - (n / 2 &&& 1431655765)) (e2 : x2 = (x1 &&& 858993459) + (x1 / 4 &&& 858993459)) (e3 : x3 = (x2 + x2 / 16) &&& 252645135) : x1 < 4294967296 ∧ x2 < 4294967296 ∧ x3 * 16843009 % 4294967296 / 16777216 = rc_cnt (fun i => n.testBit i) 32 := by
  obtain ⟨a, b, c, d, ha, hb, hc, hd, rfl⟩ : ∃ a b c d, a < 256 ∧ b < 256 ∧ c < 256 ∧ d < 256 ∧ n = a + 256 * (b + 256 * (c + 256 * d)) := ⟨n % 256, n / 256 % 256, n / 65536 % 256, n / 16777216, by omega, by omega, by omega, by omega, by omega⟩
  have f1 : x1 = rn_t1 a + 256 * (rn_t1 b + 256 * (rn_t1 c + 256 * rn_t1 d)) := by
    have h0 := rn_s1 (a := d) (m := 0) (M := 0) hd
    have h1 := rn_s1 (a := c) (m := d) (M := 0x55) hc
    have h2 := rn_s1 (a := b) (m := c + 256 * d) (M := 0x5555) hb
    have h3 := rn_s1 (a := a) (m := b + 256 * (c + 256 * d)) (M := 0x555555) ha
    rw [e1]
    refine h3.trans ?_
    rw [show (0x555555 : Nat) = 0x55 + 256 * 0x5555 from rfl, h2, show (0x5555 : Nat) = 0x55 + 256 * 0x55 from rfl, h1]
    rfl
  obtain ⟨a0, a1, a2, a3, a4, a5⟩ := rn_l1 a ha
  obtain ⟨b0, b1, b2, b3, b4, b5⟩ := rn_l1 b hb
  obtain ⟨c0, c1, c2, c3, c4, c5⟩ := rn_l1 c hc
  obtain ⟨d0, d1, d2, d3, d4, d5⟩ := rn_l1 d hd
  have f2 : x2 = rn_t2 (rn_t1 a) + 256 * (rn_t2 (rn_t1 b) + 256 * (rn_t2 (rn_t1 c) + 256 * rn_t2 (rn_t1 d))) := by
    have h1 := rn_s2 (a := rn_t1 c) (m := rn_t1 d) (M := 0x33) c1
    have h2 := rn_s2 (a := rn_t1 b) (m := rn_t1 c + 256 * rn_t1 d) (M := 0x3333) b1
    have h3 := rn_s2 (a := rn_t1 a) (m := rn_t1 b + 256 * (rn_t1 c + 256 * rn_t1 d)) (M := 0x333333) a1
    rw [e2, f1]
    refine h3.trans ?_
    rw [show (0x333333 : Nat) = 0x33 + 256 * 0x3333 from rfl, h2, show (0x3333 : Nat) = 0x33 + 256 * 0x33 from rfl, h1]
    rfl
  have f3 : x3 = rn_t3 (rn_t2 (rn_t1 a)) + 256 * (rn_t3 (rn_t2 (rn_t1 b)) + 256 * (rn_t3 (rn_t2 (rn_t1 c)) + 256 * rn_t3 (rn_t2 (rn_t1 d)))) := by
    have h1 := rn_s3 (a := rn_t2 (rn_t1 c)) (m := rn_t2 (rn_t1 d)) (M := 0x0F) c2 d3
    have h2 := rn_s3 (a := rn_t2 (rn_t1 b)) (m := rn_t2 (rn_t1 c) + 256 * rn_t2 (rn_t1 d)) (M := 0x0F0F) b2 (by omega)
    have h3 := rn_s3 (a := rn_t2 (rn_t1 a)) (m := rn_t2 (rn_t1 b) + 256 * (rn_t2 (rn_t1 c) + 256 * rn_t2 (rn_t1 d))) (M := 0x0F0F0F) a2 (by omega)
    rw [e3, f2]
    refine h3.trans ?_
    rw [show (0x0F0F0F : Nat) = 0x0F + 256 * 0x0F0F from rfl, h2, show (0x0F0F : Nat) = 0x0F + 256 * 0x0F from rfl, h1]
    rfl
  have tb : ∀ (p q i : Nat), p < 256 → i < 8 → (p + 256 * q).testBit i = p.testBit i := by
    intro p q i hp hi
    have h := Nat.testBit_mod_two_pow (p + 256 * q) 8 i
    rw [show (p + 256 * q) % 2 ^ 8 = p by omega] at h
    rw [h]
    simp [hi]
  have td : ∀ (p q i : Nat), p < 256 → (p + 256 * q).testBit (8 + i) = q.testBit i := by
    intro p q i hp
    have h := Nat.testBit_div_two_pow (n := 8) (p + 256 * q) i
    rw [show (p + 256 * q) / 2 ^ 8 = q by omega] at h
    rw [h, Nat.add_comm 8 i]
  refine ⟨by omega, by omega, ?_⟩
  rw [f3, rn_mul a4 b4 c4 d4, show (32 : Nat) = 8 + (8 + (8 + 8)) from rfl, rc_cnt_add, rc_cnt_add, rc_cnt_add]
  rw [a5, b5, c5, d5]
  have g1 : rc_cnt (fun i => (a + 256 * (b + 256 * (c + 256 * d))).testBit i) 8 = rc_cnt (fun i => a.testBit i) 8 := rc_cnt_congr (fun i hi => tb _ _ i ha hi)
  have g2 : rc_cnt (fun i => (a + 256 * (b + 256 * (c + 256 * d))).testBit (8 + i)) 8 = rc_cnt (fun i => b.testBit i) 8 := rc_cnt_congr (fun i hi => by rw [td _ _ i ha]; exact tb _ _ i hb hi)
  have g3 : rc_cnt (fun i => (a + 256 * (b + 256 * (c + 256 * d))).testBit (8 + (8 + i))) 8 = rc_cnt (fun i => c.testBit i) 8 := rc_cnt_congr (fun i hi => by rw [td _ _ _ ha, td _ _ _ hb]; exact tb _ _ i hc hi)
  have g4 : rc_cnt (fun i => (a + 256 * (b + 256 * (c + 256 * d))).testBit (8 + (8 + (8 + i)))) 8 = rc_cnt (fun i => d.testBit i) 8 := rc_cnt_congr (fun i hi => by rw [td _ _ _ ha, td _ _ _ hb, td _ _ _ hc])
  rw [g1, g2, g3, g4]
  omega
theorem rn_of (x : Int32) : x = nI x.toBitVec.toNat := by
  apply Int32.toBitVec_inj.1
  show x.toBitVec = BitVec.ofNat 32 x.toBitVec.toNat
  simp
theorem rn_and (a b : Nat) : nI a &&& nI b = nI (a &&& b) := by
  apply Int32.toBitVec_inj.1
  show BitVec.ofNat 32 a &&& BitVec.ofNat 32 b = BitVec.ofNat 32 (a &&& b)
  apply BitVec.eq_of_getLsbD_eq
  intro i hi
  simp [hi]
theorem rn_mod (n : Nat) : nI n = nI (n % 4294967296) := by
  apply Int32.toBitVec_inj.1
  show BitVec.ofNat 32 n = BitVec.ofNat 32 (n % 4294967296)
  apply BitVec.eq_of_toNat_eq
  simp
theorem rn_ones (w x1 x2 x3 : Int32) (e1 : x1 = w - (((w.toUInt32 >>> ((1 : Int32).toUInt32 &&& Int32.toUInt32 31)).toInt32) &&& 1431655765)) (e2 : x2 = (x1 &&& 858993459) + (((x1.toUInt32 >>> ((2 : Int32).toUInt32 &&& Int32.toUInt32 31)).toInt32) &&& 858993459)) (e3 : x3 = (x2 + ((x2.toUInt32 >>> ((4 : Int32).toUInt32 &&& Int32.toUInt32 31)).toInt32)) &&& 252645135) : ((x3 * 16843009).toUInt32 >>> ((24 : Int32).toUInt32 &&& Int32.toUInt32 31)).toInt32 = nI (rc_cnt (rb_t w) 32) := by
  have hw := rn_of w
  have hn : w.toBitVec.toNat < 4294967296 := w.toBitVec.isLt
  have hb : rc_cnt (rb_t w) 32 = rc_cnt (fun i => w.toBitVec.toNat.testBit i) 32 := rfl
  rw [hb]
  generalize w.toBitVec.toNat = n at hw hn
  subst hw
  obtain ⟨l1, l2, l3⟩ := rn_all n hn _ _ _ rfl rfl rfl
  have f1 : x1 = nI (n - (n / 2 &&& 1431655765)) := by
    rw [e1, pk_ushrN hn 1 1 (by decide)]
    show nI n - (nI (n / 2) &&& nI 1431655765) = _
    rw [rn_and, pk_sub (Nat.le_trans Nat.and_le_left (Nat.div_le_self n 2))]
  rw [f1] at e2
  rw [pk_ushrN l1 2 2 (by decide)] at e2
  have f2 := e2.trans (show (nI _ &&& nI 858993459) + (nI (_ / 4) &&& nI 858993459) = _ by rw [rn_and, rn_and, nI_add])
  rw [f2] at e3
  rw [pk_ushrN l2 4 4 (by decide)] at e3
  have f3 := e3.trans (show (nI _ + nI (_ / 16)) &&& nI 252645135 = _ by rw [nI_add, rn_and])
  rw [f3]
  show ((nI _ * nI 16843009).toUInt32 >>> ((24 : Int32).toUInt32 &&& Int32.toUInt32 31)).toInt32 = _
  rw [pk_mul, rn_mod, pk_ushrN (Nat.mod_lt _ (by decide)) 24 24 (by decide)]
  exact congrArg nI l3
end
section
/-! indices, stores, shifts -/
theorem rc_rd (f : Nat → Int32) {x : Int32} {n : Nat} (hx : x = nI n) (hn : n < 2 ^ 31) : f x.toNatClampNeg = f n := by rw [hx, nI_clamp hn]
theorem rc_st {P : (Nat → Int32) → Prop} {f : Nat → Int32} {x v v' : Int32} {n : Nat} (hx : x = nI n) (hn : n < 2 ^ 31) (hv : v = v') (h : P (upd f n v')) : ∀ g, g = upd f x.toNatClampNeg v → P g := by
  intro g e
  rw [e, hx, nI_clamp hn, hv]
  exact h
theorem rc_ii (c k i : Nat) : nI c * nI k + nI i = nI (c * k + i) := by rw [pk_mul, nI_add]
theorem rc_i4 (k i : Nat) : (4 : Int32) * nI k + nI i = nI (4 * k + i) := rc_ii 4 k i
theorem rc_i8 (k i : Nat) : (8 : Int32) * nI k + nI i = nI (8 * k + i) := rc_ii 8 k i
theorem rc_i2 (i : Nat) : (2 : Int32) * nI i = nI (2 * i) := pk_mul 2 i
theorem rc_i32 (i : Nat) : (32 : Int32) * nI i = nI (32 * i) := pk_mul 32 i
theorem rc_i128 (i : Nat) : (128 : Int32) * nI i = nI (128 * i) := pk_mul 128 i
theorem rc_i82 (k i : Nat) : (8 : Int32) * nI k + 2 * nI i = nI (8 * k + 2 * i) := by rw [rc_i2, rc_i8]
theorem rc_i821 (k i : Nat) : (8 : Int32) * nI k + 2 * nI i + 1 = nI (8 * k + 2 * i + 1) := by rw [rc_i82, nI_1]
theorem rc_i82m (k i : Nat) : (8 : Int32) * nI k + 2 * nI (i + 1) - 1 = nI (8 * k + 2 * i + 1) := by
  rw [rc_i82, show 8 * k + 2 * (i + 1) = (8 * k + 2 * i + 1) + 1 by omega, nI_pred]
theorem rc_shr5 {n : Nat} (h : n < 2 ^ 31) : nI n >>> ((5 : Int32) &&& 31) = nI (n / 32) := pk_shrN h _ 5 (by decide)
theorem rc_shr7 {n : Nat} (h : n < 2 ^ 31) : nI n >>> ((7 : Int32) &&& 31) = nI (n / 128) := pk_shrN h _ 7 (by decide)
theorem rc_and31 {n : Nat} (h : n < 2 ^ 31) : nI n &&& 31 = nI (n % 32) := pk_andN (Nat.lt_trans h (by decide)) 5 (by decide)
/-! the words' methods -/
theorem rc_ones {post : Int32 → Prop} {w : Int32} (h : post (nI (rc_cnt (rb_t w) 32))) : wpX_ones post () w := by
  unfold wpX_ones
  intro x1 e1 x2 e2 x3 e3
  rw [rn_ones w x1 x2 x3 e1 e2 e3]
  exact h
theorem rc_mask15 {post : Int32 → Prop} {f w : Nat} {z : Int32} (hf : f < 128) (hw : w < 4) (h1 : f < 32 * w + 32) (H : ∀ r, (∀ j, j < 32 → rb_t r j = (rb_t z j && decide (f ≤ 32 * w + j))) → post r) : wX_maskOf_15 post (nI f - 32 * nI w) z := by
  unfold wX_maskOf_15
  rw [rc_i32]
  by_cases h : f ≤ 32 * w
  · refine br_f (fun z => ?_) (H _ (fun j hj => ?_))
    · rw [Int32.lt_iff_toInt_lt, pk_sub_toInt (by omega) (by omega), show (0 : Int32).toInt = 0 from by decide] at z
      omega
    · rw [rb_and, rb_not _ hj, rb_0, decide_eq_true (show f ≤ 32 * w + j by omega)]
      rfl
  · rw [pk_sub (show 32 * w ≤ f by omega)]
    refine br_t (nI_lt (a := 0) (by omega) (by omega)) (nm_e (H _ (fun j hj => ?_)))
    rw [rb_and, rb_not _ hj, rb_lo (f - 32 * w) (by omega) j hj]
    congr 1
    by_cases g : j < f - 32 * w
    · rw [decide_eq_true g, decide_eq_false (show ¬ f ≤ 32 * w + j by omega)]
      rfl
    · rw [decide_eq_false g, decide_eq_true (show f ≤ 32 * w + j by omega)]
      rfl
theorem rc_mask {post : Int32 → Prop} {f t w : Nat} (hf : f < 128) (ht : t < 128) (hw : w < 4) (h1 : f / 32 ≤ w) (h2 : w ≤ t / 32) (H : ∀ r, (∀ j, j < 32 → rb_t r j = decide (f ≤ 32 * w + j ∧ 32 * w + j ≤ t)) → post r) : wpX_maskOf post () (nI f - 32 * nI w) (nI t - 32 * nI w) := by
  unfold wpX_maskOf
  rw [rc_i32 w, pk_sub (show 32 * w ≤ t by omega), ← rc_i32 w]
  refine pk_lt (t - 32 * w) 31 (fun h => rc_mask15 hf hw (by omega) (fun r hr => H r (fun j hj => ?_))) (fun h => rc_mask15 hf hw (by omega) (fun r hr => H r (fun j hj => ?_)))
  · rw [hr j hj, rb_hi _ h j hj]
    by_cases g : f ≤ 32 * w + j ∧ 32 * w + j ≤ t
    · rw [decide_eq_true g, decide_eq_true g.1, decide_eq_true (show j ≤ t - 32 * w by omega)]
      rfl
    · rw [decide_eq_false g]
      by_cases g1 : f ≤ 32 * w + j
      · rw [decide_eq_false (show ¬ j ≤ t - 32 * w by omega)]
        rfl
      · rw [decide_eq_false g1, Bool.and_false]
  · rw [hr j hj, rb_m1 j hj, Bool.true_and]
    by_cases g1 : f ≤ 32 * w + j
    · rw [decide_eq_true g1, decide_eq_true (show f ≤ 32 * w + j ∧ 32 * w + j ≤ t by omega)]
    · rw [decide_eq_false g1, decide_eq_false (fun z => g1 z.1)]
/-- the bits of the buffer, one behind another -/
def rc_B (b : Nat → Int32) (x : Nat) : Bool := rb_t (b (x / 32)) (x % 32)
theorem rc_B_at (b : Nat → Int32) (w j : Nat) (hj : j < 32) : rc_B b (32 * w + j) = rb_t (b w) j := by
  unfold rc_B
  rw [show (32 * w + j) / 32 = w by omega, show (32 * w + j) % 32 = j by omega]
theorem rc_B_o (b : Nat → Int32) (o x : Nat) : rc_B b (32 * o + x) = rb_t (b (o + x / 32)) (x % 32) := by
  unfold rc_B
  rw [show (32 * o + x) / 32 = o + x / 32 by omega, show (32 * o + x) % 32 = x % 32 by omega]
theorem rc_B_or (s : Nat → Int32) (o w x : Nat) (v : Int32) : rc_B (upd s (o + w) (s (o + w) ||| v)) (32 * o + x) = (rc_B s (32 * o + x) || (decide (x / 32 = w) && rb_t v (x % 32))) := by
  rw [rc_B_o, rc_B_o]
  by_cases h : x / 32 = w
  · rw [h, pk_us, rb_or, decide_eq_true rfl, Bool.true_and]
  · rw [pk_un (by omega), decide_eq_false h, Bool.false_and, Bool.or_false]
theorem rc_inb {post : Int32 → Prop} {tp : Int32} {a1 a2 a3 a4 a5 a6 a7 : Nat → Int32} {x : Nat} (hx : x < 128) (h1 : rc_B a5 x = true → post 1) (h0 : rc_B a5 x = false → post 0) : wpX_inBuffer post (tp, a1, a2, a3, a4, a5, a6, a7) (nI x) := by
  unfold wpX_inBuffer
  dsimp only
  rw [rc_shr5 (by omega), rc_and31 (by omega), nI_clamp (by omega)]
  refine ⟨pk_in (x / 32) 8 (by omega), ?_⟩
  refine br_c (fun e => h1 ((rb_bit _ (by omega)).mp e)) (fun e => h0 ?_)
  cases g : rc_B a5 x
  · rfl
  · exact absurd ((rb_bit _ (by omega)).mpr g) e
theorem rc_isSet {post : Int32 → Prop} {s : Nat} (hs : s < 3) (h : post 1) : wpX_isSet post () (nI s) := by
  unfold wpX_isSet
  exact br_f (nI_pos (by omega)) (br_f (nI_nlt (b := s) (a := 2) (by omega) (by omega)) h)
end
section
/-! a chunk's three forms: a sorted list, runs, a map -/
def rc_list (d : Nat → Int32) (k n x : Nat) (S : Nat → Bool) : Prop := ∃ e : Nat → Nat, (∀ i, i < n → d (8 * k + i) = nI (e i) ∧ e i < x) ∧ (∀ i j, i < j → j < n → e i < e j) ∧ ∀ y, y < x → (S y = true ↔ ∃ i, i < n ∧ e i = y)
def rc_runs (d : Nat → Int32) (k n x : Nat) (S : Nat → Bool) : Prop := ∃ f t : Nat → Nat, (∀ i, i < n → d (8 * k + 2 * i) = nI (f i) ∧ d (8 * k + 2 * i + 1) = nI (t i) ∧ f i ≤ t i ∧ t i < x) ∧ (∀ i j, i < j → j < n → t i < f j) ∧ ∀ y, y < x → (S y = true ↔ ∃ i, i < n ∧ f i ≤ y ∧ y ≤ t i)
def rc_rep (a1 a3 a4 : Nat → Int32) (k : Nat) (S : Nat → Bool) : Prop :=
  (a1 k = nI 0 ∧ ∃ n, n ≤ 8 ∧ a3 k = nI n ∧ rc_list a4 k n 128 S) ∨ (a1 k = nI 1 ∧ a3 k = nI 4 ∧ ∀ x, x < 128 → rb_t (a4 (8 * k + x / 32)) (x % 32) = S x) ∨ (a1 k = nI 2 ∧ ∃ n, n ≤ 4 ∧ a3 k = nI n ∧ rc_runs a4 k n 128 S)
theorem rc_n01 : ¬ nI 0 = 1 := by decide
theorem rc_n20 : ¬ nI 2 = 0 := by decide
theorem rc_n21 : ¬ nI 2 = 1 := by decide
theorem rc_n10 : ¬ nI 1 = 0 := by decide
theorem rc_n12 : ¬ nI 1 = 2 := by decide
theorem rc_n02 : ¬ nI 0 = 2 := by decide
theorem rc_load2 {post : St2 → Prop} {tp : Int32} {a1 a2 a3 a4 a5 a6 a7 : Nat → Int32} {k o : Nat} (hk : k < 12) (ho : o ≤ 4) (g : Nat → Int32) (hg : (a1 k = 1 ∧ ∀ w, g w = a4 (8 * k + w)) ∨ (¬ a1 k = 1 ∧ ∀ w, g w = 0))
    (H : ∀ b, (∀ w, w < 4 → b (o + w) = g w) → (∀ j, (j < o ∨ o + 4 ≤ j) → b j = a5 j) → ((a1 k = 0 → ∃ n, wX_load_57 post (nI k) (nI o) tp n 0 a1 a2 a3 a4 b a6 a7) ∧ (¬ a1 k = 0 → vp_in (nI k) 12 ∧ ((a1 k = 2 → ∃ n, wX_load_131 post (nI k) (nI o) tp n 0 a1 a2 a3 a4 b a6 a7) ∧ (¬ a1 k = 2 → post (tp, a1, a2, a3, a4, b, a6, a7)))))) :
    wpX_load post (tp, a1, a2, a3, a4, a5, a6, a7) (nI k) (nI o) := by
  have ck : (nI k).toNatClampNeg = k := nI_clamp (by omega)
  unfold wpX_load
  dsimp only
  refine pk_loop (fun n i s => wX_load_2 post (nI k) (nI o) tp n (nI i) a1 a2 a3 a4 s a6 a7) (fun i s => (∀ w, w < i → s (o + w) = g w) ∧ (∀ j, (j < o ∨ o + 4 ≤ j) → s j = a5 j)) 4 0 a5 (by omega) ⟨fun w hw => absurd hw (by omega), fun j _ => rfl⟩ ?_ ?_
  · intro n s h
    refine pk_le 4 4 (fun _ => ⟨pk_in k 12 hk, ?_⟩) (fun z => absurd z (by omega))
    rw [ck]
    exact H s h.1 h.2
  · intro n i s hi h hw
    refine pk_le 4 i (fun z => absurd z (by omega)) (fun _ => ⟨pk_in k 12 hk, ?_⟩)
    rw [ck]
    have F : ∀ v, v = g i → (∀ w, w < i + 1 → upd s (o + i) v (o + w) = g w) ∧ (∀ j, (j < o ∨ o + 4 ≤ j) → upd s (o + i) v j = a5 j) := by
      intro v hv
      refine ⟨fun w hw' => ?_, fun j hj => ?_⟩
      · by_cases e : w = i
        · rw [e, pk_us, hv]
        · rw [pk_un (by omega)]
          exact h.1 w (by omega)
      · rw [pk_un (by omega)]
        exact h.2 j hj
    rcases hg with ⟨h1, hg⟩ | ⟨h1, hg⟩
    · exact br_t h1 ⟨pk_in (8 * k + i) 96 (by omega) (rc_i8 k i), pk_in (o + i) 8 (by omega) (nI_add o i), rc_st (nI_add o i) (by omega) (rc_rd a4 (rc_i8 k i) (by omega)) (nm_r (nI_1 i) (hw _ (F _ (hg i).symm)))⟩
    · exact br_f h1 ⟨pk_in (o + i) 8 (by omega) (nI_add o i), rc_st (nI_add o i) (by omega) rfl (nm_r (nI_1 i) (hw _ (F _ (hg i).symm)))⟩
theorem rc_load57 {post : St2 → Prop} {tp : Int32} {a1 a2 a3 a4 a5 a6 a7 : Nat → Int32} {k o n : Nat} {e : Nat → Nat} (hk : k < 12) (ho : o ≤ 4) (hn : n ≤ 8) (h3 : a3 k = nI n) (he : ∀ i, i < n → a4 (8 * k + i) = nI (e i) ∧ e i < 128) (h0 : ∀ x, x < 128 → rc_B a5 (32 * o + x) = false)
    (H : ∀ b, (∀ x, x < 128 → (rc_B b (32 * o + x) = true ↔ ∃ i, i < n ∧ e i = x)) → (∀ j, (j < o ∨ o + 4 ≤ j) → b j = a5 j) → post (tp, a1, a2, a3, a4, b, a6, a7)) :
    ∃ fu, wX_load_57 post (nI k) (nI o) tp fu 0 a1 a2 a3 a4 a5 a6 a7 := by
  have ck : (nI k).toNatClampNeg = k := nI_clamp (by omega)
  refine pk_loop (fun m i s => wX_load_57 post (nI k) (nI o) tp m (nI i) a1 a2 a3 a4 s a6 a7) (fun i s => (∀ x, x < 128 → (rc_B s (32 * o + x) = true ↔ ∃ j, j < i ∧ e j = x)) ∧ (∀ j, (j < o ∨ o + 4 ≤ j) → s j = a5 j)) n 0 a5 (by omega) ⟨fun x hx => ⟨fun z => ?_, fun ⟨j, hj, _⟩ => absurd hj (by omega)⟩, fun j _ => rfl⟩ ?_ ?_
  · rw [h0 x hx] at z
    exact absurd z Bool.false_ne_true
  · intro m s h
    refine ⟨pk_in k 12 hk, ?_⟩
    rw [ck, h3]
    exact pk_le n n (fun _ => H s h.1 h.2) (fun z => absurd z (by omega))
  · intro m i s hi h hw
    have hq := (he i hi).2
    refine ⟨pk_in k 12 hk, ?_⟩
    rw [ck, h3]
    refine pk_le n i (fun z => absurd z (by omega)) (fun _ => ⟨pk_in (8 * k + i) 96 (by omega) (rc_i8 k i), nm_r ((rc_rd a4 (rc_i8 k i) (by omega)).trans (he i hi).1) ?_⟩)
    rw [rc_shr5 (show e i < 2 ^ 31 by omega), rc_and31 (show e i < 2 ^ 31 by omega), nI_add o (e i / 32), nI_clamp (show o + e i / 32 < 2 ^ 31 by omega)]
    refine ⟨pk_in (o + e i / 32) 8 (by omega), pk_in (o + e i / 32) 8 (by omega), nm_e (nm_r (nI_1 i) (hw _ ⟨fun x hx => ?_, fun j hj => ?_⟩))⟩
    · rw [rc_B_or, Bool.or_eq_true, Bool.and_eq_true, decide_eq_true_iff, rb_one _ (by omega) _ (by omega), decide_eq_true_iff, h.1 x hx]
      constructor
      · rintro (⟨j, hj, ej⟩ | ⟨e1, e2⟩)
        · exact ⟨j, by omega, ej⟩
        · exact ⟨i, by omega, by omega⟩
      · rintro ⟨j, hj, ej⟩
        by_cases g : j = i
        · rw [g] at ej
          exact Or.inr ⟨by omega, by omega⟩
        · exact Or.inl ⟨j, by omega, ej⟩
    · rw [pk_un (by omega)]
      exact h.2 j hj
theorem rc_load179 {post : St2 → Prop} {J : Int32 → (Nat → Int32) → (Nat → Int32) → (Nat → Int32) → (Nat → Int32) → (Nat → Int32) → (Nat → Int32) → (Nat → Int32) → Prop} {x1 x3 tp : Int32} {a1 a2 a3 a4 s a6 a7 : Nat → Int32} {o f t : Nat} (ho : o ≤ 4) (hft : f ≤ t) (ht : t < 128)
    (H : ∀ b, (∀ x, rc_B b (32 * o + x) = (rc_B s (32 * o + x) || decide (f ≤ x ∧ x ≤ t))) → (∀ j, (j < o ∨ o + 4 ≤ j) → b j = s j) → J (x3 + 1) a1 a2 a3 a4 b a6 a7) :
    ∃ fu, wX_load_179 post J x1 (nI o) x3 (nI f) (nI t) tp fu (nI (f / 32)) a1 a2 a3 a4 s a6 a7 := by
  refine pk_loop (fun m w b => wX_load_179 post J x1 (nI o) x3 (nI f) (nI t) tp m (nI w) a1 a2 a3 a4 b a6 a7) (fun w b => f / 32 ≤ w ∧ (∀ x, rc_B b (32 * o + x) = (rc_B s (32 * o + x) || decide (x / 32 < w ∧ f ≤ x ∧ x ≤ t))) ∧ (∀ j, (j < o ∨ o + 4 ≤ j) → b j = s j)) (t / 32 + 1) (f / 32) s (by omega) ⟨Nat.le_refl _, fun x => ?_, fun j _ => rfl⟩ ?_ ?_
  · rw [decide_eq_false (show ¬ (x / 32 < f / 32 ∧ f ≤ x ∧ x ≤ t) by omega), Bool.or_false]
  · intro m b h
    refine pk_lt (t / 32) (t / 32 + 1) (fun _ => nm_e (H b (fun x => ?_) h.2.2)) (fun z => absurd z (by omega)) (rc_shr5 (by omega))
    rw [h.2.1 x]
    congr 1
    rw [decide_eq_decide]
    omega
  · intro m w b hw' h hw
    refine pk_lt (t / 32) w (fun z => absurd z (by omega)) (fun _ => ⟨pk_in (o + w) 8 (by omega) (nI_add o w), rc_mask (by omega) ht (by omega) h.1 (by omega) (fun r hr => ⟨pk_in (o + w) 8 (by omega) (nI_add o w), rc_st (v' := b (o + w) ||| r) (nI_add o w) (by omega) (by rw [nI_add, nI_clamp (by omega)]) (nm_r (nI_1 w) (hw _ ⟨by omega, fun x => ?_, fun j hj => ?_⟩))⟩)⟩) (rc_shr5 (by omega))
    · rw [rc_B_or, h.2.1 x, hr _ (by omega), Bool.or_assoc]
      congr 1
      rw [Bool.eq_iff_iff]
      simp only [Bool.or_eq_true, Bool.and_eq_true, decide_eq_true_eq]
      omega
    · rw [pk_un (by omega)]
      exact h.2.2 j hj
theorem rc_load131 {post : St2 → Prop} {tp : Int32} {a1 a2 a3 a4 a5 a6 a7 : Nat → Int32} {k o n : Nat} {f t : Nat → Nat} (hk : k < 12) (ho : o ≤ 4) (hn : n ≤ 4) (h3 : a3 k = nI n) (hd : ∀ i, i < n → a4 (8 * k + 2 * i) = nI (f i) ∧ a4 (8 * k + 2 * i + 1) = nI (t i) ∧ f i ≤ t i ∧ t i < 128) (h0 : ∀ x, x < 128 → rc_B a5 (32 * o + x) = false)
    (H : ∀ b, (∀ x, x < 128 → (rc_B b (32 * o + x) = true ↔ ∃ i, i < n ∧ f i ≤ x ∧ x ≤ t i)) → (∀ j, (j < o ∨ o + 4 ≤ j) → b j = a5 j) → post (tp, a1, a2, a3, a4, b, a6, a7)) :
    ∃ fu, wX_load_131 post (nI k) (nI o) tp fu 0 a1 a2 a3 a4 a5 a6 a7 := by
  have ck : (nI k).toNatClampNeg = k := nI_clamp (by omega)
  refine pk_loop (fun m i s => wX_load_131 post (nI k) (nI o) tp m (nI i) a1 a2 a3 a4 s a6 a7) (fun i s => (∀ x, x < 128 → (rc_B s (32 * o + x) = true ↔ ∃ j, j < i ∧ f j ≤ x ∧ x ≤ t j)) ∧ (∀ j, (j < o ∨ o + 4 ≤ j) → s j = a5 j)) n 0 a5 (by omega) ⟨fun x hx => ⟨fun z => ?_, fun ⟨j, hj, _⟩ => absurd hj (by omega)⟩, fun j _ => rfl⟩ ?_ ?_
  · rw [h0 x hx] at z
    exact absurd z Bool.false_ne_true
  · intro m s h
    refine ⟨pk_in k 12 hk, ?_⟩
    rw [ck, h3]
    exact pk_le n n (fun _ => H s h.1 h.2) (fun z => absurd z (by omega))
  · intro m i s hi h hw
    obtain ⟨d1, d2, d3, d4⟩ := hd i hi
    refine ⟨pk_in k 12 hk, ?_⟩
    rw [ck, h3]
    refine pk_le n i (fun z => absurd z (by omega)) (fun _ => ⟨pk_in (8 * k + 2 * i) 96 (by omega) (rc_i82 k i), nm_r ((rc_rd a4 (rc_i82 k i) (by omega)).trans d1) ⟨pk_in (8 * k + 2 * i + 1) 96 (by omega) (rc_i821 k i), nm_r ((rc_rd a4 (rc_i821 k i) (by omega)).trans d2) (nm_r (rc_shr5 (by omega)) (rc_load179 ho d3 d4 (fun b hb hf => ?_)))⟩⟩)
    rw [nI_1]
    refine hw b ⟨fun x hx => ?_, fun j hj => (hf j hj).trans (h.2 j hj)⟩
    rw [hb x, Bool.or_eq_true, decide_eq_true_iff, h.1 x hx]
    constructor
    · rintro (⟨j, hj, ej⟩ | e1)
      · exact ⟨j, by omega, ej⟩
      · exact ⟨i, by omega, e1⟩
    · rintro ⟨j, hj, ej⟩
      by_cases g : j = i
      · rw [g] at ej
        exact Or.inr ej
      · exact Or.inl ⟨j, by omega, ej⟩
theorem rc_load {post : St2 → Prop} {tp : Int32} {a1 a2 a3 a4 a5 a6 a7 : Nat → Int32} {k o : Nat} {S : Nat → Bool} (hk : k < 12) (ho : o ≤ 4) (hr : rc_rep a1 a3 a4 k S)
    (H : ∀ b, (∀ x, x < 128 → rc_B b (32 * o + x) = S x) → (∀ j, (j < o ∨ o + 4 ≤ j) → b j = a5 j) → post (tp, a1, a2, a3, a4, b, a6, a7)) :
    wpX_load post (tp, a1, a2, a3, a4, a5, a6, a7) (nI k) (nI o) := by
  rcases hr with ⟨h1, n, hn, h3, e, he, hs, hS⟩ | ⟨h1, h3, hS⟩ | ⟨h1, n, hn, h3, f, t, hd, hs, hS⟩
  · refine rc_load2 hk ho (fun _ => 0) (Or.inr ⟨by rw [h1]; exact rc_n01, fun _ => rfl⟩) (fun b hb hf => br_t h1 (rc_load57 hk ho hn h3 he (fun x hx => ?_) (fun b' hb' hf' => H b' (fun x hx => ?_) (fun j hj => (hf' j hj).trans (hf j hj)))))
    · rw [rc_B_o, hb (x / 32) (by omega)]
      exact rb_0 _
    · rw [Bool.eq_iff_iff, hb' x hx, hS x hx]
  · refine rc_load2 hk ho (fun w => a4 (8 * k + w)) (Or.inl ⟨h1, fun _ => rfl⟩) (fun b hb hf => br_f (by rw [h1]; exact rc_n10) ⟨pk_in k 12 hk, br_f (by rw [h1]; exact rc_n12) (H b (fun x hx => ?_) hf)⟩)
    rw [rc_B_o, hb (x / 32) (by omega)]
    exact hS x hx
  · refine rc_load2 hk ho (fun _ => 0) (Or.inr ⟨by rw [h1]; exact rc_n21, fun _ => rfl⟩) (fun b hb hf => br_f (by rw [h1]; exact rc_n20) ⟨pk_in k 12 hk, br_t h1 (rc_load131 hk ho hn h3 hd (fun x hx => ?_) (fun b' hb' hf' => H b' (fun x hx => ?_) (fun j hj => (hf' j hj).trans (hf j hj))))⟩)
    · rw [rc_B_o, hb (x / 32) (by omega)]
      exact rb_0 _
    · rw [Bool.eq_iff_iff, hb' x hx, hS x hx]
end
section
/-! a run's first number; runs and lists grow -/
def rc_S (B : Nat → Bool) (x : Nat) : Bool := B x && !(decide (0 < x) && B (x - 1))
theorem rc_S_t {B : Nat → Bool} {x : Nat} (h : B x = true) (g : x = 0 ∨ B (x - 1) = false) : rc_S B x = true := by
  unfold rc_S
  rcases g with g | g
  · rw [h, decide_eq_false (by omega)]
    rfl
  · rw [h, g, Bool.and_false]
    rfl
theorem rc_S_f {B : Nat → Bool} {x : Nat} (h : B x = false) : rc_S B x = false := by
  unfold rc_S
  rw [h, Bool.false_and]
theorem rc_S_e {B : Nat → Bool} {x : Nat} (hx : 0 < x) (h : B (x - 1) = true) : rc_S B x = false := by
  unfold rc_S
  rw [h, decide_eq_true hx]
  cases B x <;> rfl
theorem rc_runs_0 (d : Nat → Int32) (k : Nat) (B : Nat → Bool) : rc_runs d k 0 0 B := ⟨fun _ => 0, fun _ => 0, fun i hi => absurd hi (by omega), fun i j _ hj => absurd hj (by omega), fun y hy => absurd hy (by omega)⟩
theorem rc_runs_skip {d : Nat → Int32} {k p x : Nat} {B : Nat → Bool} (hB : B x = false) (h : rc_runs d k p x B) : rc_runs d k p (x + 1) B := by
  obtain ⟨f, t, h1, h2, h3⟩ := h
  refine ⟨f, t, fun i hi => ?_, h2, fun y hy => ?_⟩
  · obtain ⟨u1, u2, u3, u4⟩ := h1 i hi
    exact ⟨u1, u2, u3, by omega⟩
  · by_cases e : y = x
    · rw [e, hB]
      constructor
      · intro z
        exact absurd z Bool.false_ne_true
      · rintro ⟨i, hi, g1, g2⟩
        have := (h1 i hi).2.2.2
        omega
    · exact h3 y (by omega)
theorem rc_runs_new {d : Nat → Int32} {k p x : Nat} {B : Nat → Bool} (hB : B x = true) (h : rc_runs d k p x B) : rc_runs (upd (upd d (8 * k + 2 * p) (nI x)) (8 * k + 2 * p + 1) (nI x)) k (p + 1) (x + 1) B := by
  obtain ⟨f, t, h1, h2, h3⟩ := h
  refine ⟨fun i => if i = p then x else f i, fun i => if i = p then x else t i, fun i hi => ?_, fun i j hij hj => ?_, fun y hy => ?_⟩
  · dsimp only
    by_cases e : i = p
    · refine ⟨?_, ?_, ?_, ?_⟩
      · rw [if_pos e, e, pk_un (by omega), pk_us]
      · rw [if_pos e, e, pk_us]
      · rw [if_pos e, if_pos e]
        exact Nat.le_refl x
      · rw [if_pos e]
        omega
    · obtain ⟨u1, u2, u3, u4⟩ := h1 i (by omega)
      refine ⟨?_, ?_, ?_, ?_⟩
      · rw [if_neg e, pk_un (by omega), pk_un (by omega)]
        exact u1
      · rw [if_neg e, pk_un (by omega), pk_un (by omega)]
        exact u2
      · rw [if_neg e, if_neg e]
        exact u3
      · rw [if_neg e]
        omega
  · dsimp only
    rw [if_neg (show ¬ i = p by omega)]
    by_cases e : j = p
    · rw [if_pos e]
      exact (h1 i (by omega)).2.2.2
    · rw [if_neg e]
      exact h2 i j hij (by omega)
  · dsimp only
    by_cases e : y = x
    · rw [e, hB]
      exact ⟨fun _ => ⟨p, by omega, by rw [if_pos rfl]; exact Nat.le_refl x, by rw [if_pos rfl]; exact Nat.le_refl x⟩, fun _ => rfl⟩
    · rw [h3 y (by omega)]
      constructor
      · rintro ⟨i, hi, g⟩
        exact ⟨i, by omega, by rw [if_neg (show ¬ i = p by omega), if_neg (show ¬ i = p by omega)]; exact g⟩
      · rintro ⟨i, hi, g1, g2⟩
        by_cases e2 : i = p
        · rw [if_pos e2] at g1 g2
          omega
        · rw [if_neg e2] at g1 g2
          exact ⟨i, by omega, g1, g2⟩
theorem rc_runs_ext {d : Nat → Int32} {k p x : Nat} {B : Nat → Bool} (hB : B x = true) (hx : 0 < x) (hB' : B (x - 1) = true) (h : rc_runs d k p x B) : ∃ q, p = q + 1 ∧ rc_runs (upd d (8 * k + 2 * q + 1) (nI x)) k (q + 1) (x + 1) B := by
  obtain ⟨f, t, h1, h2, h3⟩ := h
  obtain ⟨i0, hi0, g1, g2⟩ := (h3 (x - 1) (by omega)).mp hB'
  obtain ⟨q, rfl⟩ : ∃ q, p = q + 1 := ⟨p - 1, by omega⟩
  obtain ⟨v1, v2, v3, v4⟩ := h1 q (by omega)
  have hi : i0 = q := by
    by_cases e : i0 = q
    · exact e
    · have a := h2 i0 q (by omega) (by omega)
      omega
  subst hi
  refine ⟨i0, rfl, f, fun i => if i = i0 then x else t i, fun i hi => ?_, fun i j hij hj => ?_, fun y hy => ?_⟩
  · obtain ⟨u1, u2, u3, u4⟩ := h1 i hi
    dsimp only
    refine ⟨?_, ?_, ?_, ?_⟩
    · rw [pk_un (by omega)]
      exact u1
    · by_cases e : i = i0
      · rw [if_pos e, e, pk_us]
      · rw [if_neg e, pk_un (by omega)]
        exact u2
    · by_cases e : i = i0
      · rw [if_pos e]
        omega
      · rw [if_neg e]
        exact u3
    · by_cases e : i = i0
      · rw [if_pos e]
        omega
      · rw [if_neg e]
        omega
  · dsimp only
    rw [if_neg (show ¬ i = i0 by omega)]
    exact h2 i j hij hj
  · dsimp only
    by_cases e : y = x
    · rw [e, hB]
      exact ⟨fun _ => ⟨i0, by omega, by omega, by rw [if_pos rfl]; exact Nat.le_refl x⟩, fun _ => rfl⟩
    · rw [h3 y (by omega)]
      constructor
      · rintro ⟨i, hi, u1, u2⟩
        refine ⟨i, hi, u1, ?_⟩
        by_cases e2 : i = i0
        · rw [if_pos e2]
          omega
        · rw [if_neg e2]
          exact u2
      · rintro ⟨i, hi, u1, u2⟩
        by_cases e2 : i = i0
        · rw [if_pos e2] at u2
          subst e2
          exact ⟨i, hi, u1, by omega⟩
        · rw [if_neg e2] at u2
          exact ⟨i, hi, u1, u2⟩
theorem rc_list_0 (d : Nat → Int32) (k : Nat) (B : Nat → Bool) : rc_list d k 0 0 B := ⟨fun _ => 0, fun i hi => absurd hi (by omega), fun i j _ hj => absurd hj (by omega), fun y hy => absurd hy (by omega)⟩
theorem rc_list_skip {d : Nat → Int32} {k p x : Nat} {B : Nat → Bool} (hB : B x = false) (h : rc_list d k p x B) : rc_list d k p (x + 1) B := by
  obtain ⟨e, h1, h2, h3⟩ := h
  refine ⟨e, fun i hi => ⟨(h1 i hi).1, Nat.lt_succ_of_lt (h1 i hi).2⟩, h2, fun y hy => ?_⟩
  by_cases g : y = x
  · rw [g, hB]
    constructor
    · intro z
      exact absurd z Bool.false_ne_true
    · rintro ⟨i, hi, g1⟩
      have := (h1 i hi).2
      omega
  · exact h3 y (by omega)
theorem rc_list_new {d : Nat → Int32} {k p x : Nat} {B : Nat → Bool} (hB : B x = true) (h : rc_list d k p x B) : rc_list (upd d (8 * k + p) (nI x)) k (p + 1) (x + 1) B := by
  obtain ⟨f, h1, h2, h3⟩ := h
  refine ⟨fun i => if i = p then x else f i, fun i hi => ?_, fun i j hij hj => ?_, fun y hy => ?_⟩
  · dsimp only
    by_cases e : i = p
    · refine ⟨?_, ?_⟩
      · rw [if_pos e, e, pk_us]
      · rw [if_pos e]
        omega
    · have u := h1 i (by omega)
      refine ⟨?_, ?_⟩
      · rw [if_neg e, pk_un (by omega)]
        exact u.1
      · rw [if_neg e]
        omega
  · dsimp only
    rw [if_neg (show ¬ i = p by omega)]
    by_cases e : j = p
    · rw [if_pos e]
      exact (h1 i (by omega)).2
    · rw [if_neg e]
      exact h2 i j hij (by omega)
  · dsimp only
    by_cases e : y = x
    · rw [e, hB]
      exact ⟨fun _ => ⟨p, by omega, by rw [if_pos rfl]⟩, fun _ => rfl⟩
    · rw [h3 y (by omega)]
      constructor
      · rintro ⟨i, hi, g⟩
        exact ⟨i, by omega, by rw [if_neg (show ¬ i = p by omega)]; exact g⟩
      · rintro ⟨i, hi, g⟩
        by_cases e2 : i = p
        · rw [if_pos e2] at g
          omega
        · rw [if_neg e2] at g
          exact ⟨i, by omega, g⟩
/-! the three ways to save -/
theorem rc_sruns {post : St2 → Prop} {tp : Int32} {a1 a2 a3 a4 a5 a6 a7 : Nat → Int32} {k : Nat} (hk : k < 12) (h3 : a3 k = nI 0) (hc : rc_cnt (rc_S (rc_B a5)) 128 ≤ 4)
    (H : ∀ b3 b4, (∀ j, j ≠ k → b3 j = a3 j) → (∀ j, (j < 8 * k ∨ 8 * k + 8 ≤ j) → b4 j = a4 j) → b3 k = nI (rc_cnt (rc_S (rc_B a5)) 128) → rc_runs b4 k (rc_cnt (rc_S (rc_B a5)) 128) 128 (rc_B a5) → post (tp, a1, a2, b3, b4, a5, a6, a7)) :
    wpX_saveRuns post (tp, a1, a2, a3, a4, a5, a6, a7) (nI k) := by
  have ck : (nI k).toNatClampNeg = k := nI_clamp (by omega)
  unfold wpX_saveRuns
  dsimp only
  refine pk_loop (σ := (Nat → Int32) × (Nat → Int32)) (fun n x s => wX_saveRuns_2 post (nI k) tp n (nI x) a1 a2 s.1 s.2 a5 a6 a7) (fun x s => (∀ j, j ≠ k → s.1 j = a3 j) ∧ (∀ j, (j < 8 * k ∨ 8 * k + 8 ≤ j) → s.2 j = a4 j) ∧ s.1 k = nI (rc_cnt (rc_S (rc_B a5)) x) ∧ rc_runs s.2 k (rc_cnt (rc_S (rc_B a5)) x) x (rc_B a5)) 128 0 (a3, a4) (by omega) ⟨fun _ _ => rfl, fun _ _ => rfl, h3, rc_runs_0 _ _ _⟩ ?_ ?_
  · rintro n s ⟨i1, i2, i3, i4⟩
    exact pk_le 128 128 (fun _ => H s.1 s.2 i1 i2 i3 i4) (fun z => absurd z (by omega))
  · rintro n x ⟨b3, b4⟩ hx ⟨i1, i2, i3, i4⟩ hw
    dsimp only at i1 i2 i3 i4
    have hm := rc_cnt_mono (rc_S (rc_B a5)) (show x + 1 ≤ 128 by omega)
    have hc1 := rc_cnt_s (rc_S (rc_B a5)) x
    generalize rc_cnt (rc_S (rc_B a5)) x = p at i3 i4 hc1
    have T : rc_B a5 x = true → rc_S (rc_B a5) x = true → wX_saveRuns_31 post (wX_saveRuns_2 post (nI k) tp n) (nI k) (nI x) tp a1 a2 b3 b4 a5 a6 a7 := by
      intro hB hS
      rw [hS] at hc1
      have hc2 : rc_cnt (rc_S (rc_B a5)) (x + 1) = p + 1 := hc1
      have hp : p < 4 := by omega
      unfold wX_saveRuns_31
      rw [ck, i3]
      refine ⟨pk_in k 12 hk, pk_in (8 * k + 2 * p) 96 (by omega) (rc_i82 k p), rc_st (rc_i82 k p) (by omega) rfl ⟨pk_in k 12 hk, pk_in k 12 hk, nm_r (e' := upd b3 k (nI (p + 1))) (by rw [nI_1]) ?_⟩⟩
      unfold wX_saveRuns_60
      rw [ck, pk_us]
      refine ⟨pk_in k 12 hk, pk_in (8 * k + 2 * p + 1) 96 (by omega) (rc_i82m k p), rc_st (rc_i82m k p) (by omega) rfl (nm_r (nI_1 x) (hw (_, _) ⟨fun j hj => ?_, fun j hj => ?_, ?_, ?_⟩))⟩
      · show upd b3 k (nI (p + 1)) j = a3 j
        rw [pk_un hj]
        exact i1 j hj
      · show upd (upd b4 (8 * k + 2 * p) (nI x)) (8 * k + 2 * p + 1) (nI x) j = a4 j
        rw [pk_un (by omega), pk_un (by omega)]
        exact i2 j hj
      · show upd b3 k (nI (p + 1)) k = nI _
        rw [hc2, pk_us]
      · rw [hc2]
        exact rc_runs_new hB i4
    have X : rc_B a5 x = true → 0 < x → rc_B a5 (x - 1) = true → wX_saveRuns_60 post (wX_saveRuns_2 post (nI k) tp n) (nI k) (nI x) tp a1 a2 b3 b4 a5 a6 a7 := by
      intro hB h0 hB'
      rw [rc_S_e h0 hB'] at hc1
      obtain ⟨q, rfl, hr⟩ := rc_runs_ext hB h0 hB' i4
      have hc2 : rc_cnt (rc_S (rc_B a5)) (x + 1) = q + 1 := hc1
      unfold wX_saveRuns_60
      rw [ck, i3]
      refine ⟨pk_in k 12 hk, pk_in (8 * k + 2 * q + 1) 96 (by omega) (rc_i82m k q), rc_st (rc_i82m k q) (by omega) rfl (nm_r (nI_1 x) (hw (_, _) ⟨i1, fun j hj => ?_, ?_, ?_⟩))⟩
      · show upd b4 (8 * k + 2 * q + 1) (nI x) j = a4 j
        rw [pk_un (by omega)]
        exact i2 j hj
      · show b3 k = nI _
        rw [hc2, i3]
      · rw [hc2]
        exact hr
    refine pk_le 128 x (fun z => absurd z (by omega)) (fun _ => rc_inb hx (fun hB => ?_) (fun hB => ?_))
    · refine br_f (by decide) (pk_eq x 0 (fun e => T hB (rc_S_t hB (Or.inl e))) (fun e => ?_))
      have ex : nI x - 1 = nI (x - 1) := by
        obtain ⟨y, rfl⟩ : ∃ y, x = y + 1 := ⟨x - 1, by omega⟩
        exact nI_pred y
      rw [ex]
      exact rc_inb (by omega) (fun h' => br_f (by decide) (X hB (by omega) h')) (fun h' => br_t rfl (T hB (rc_S_t hB (Or.inr h'))))
    · rw [rc_S_f hB] at hc1
      have hc2 : rc_cnt (rc_S (rc_B a5)) (x + 1) = p := hc1
      exact br_t rfl (nm_r (nI_1 x) (hw (b3, b4) ⟨i1, i2, by rw [hc2]; exact i3, by rw [hc2]; exact rc_runs_skip hB i4⟩))
theorem rc_slist {post : St2 → Prop} {tp : Int32} {a1 a2 a3 a4 a5 a6 a7 : Nat → Int32} {k : Nat} (hk : k < 12) (h3 : a3 k = nI 0) (hc : rc_cnt (rc_B a5) 128 ≤ 8)
    (H : ∀ b3 b4, (∀ j, j ≠ k → b3 j = a3 j) → (∀ j, (j < 8 * k ∨ 8 * k + 8 ≤ j) → b4 j = a4 j) → b3 k = nI (rc_cnt (rc_B a5) 128) → rc_list b4 k (rc_cnt (rc_B a5) 128) 128 (rc_B a5) → post (tp, a1, a2, b3, b4, a5, a6, a7)) :
    ∃ fu, wX_save_139 post (nI k) tp fu 0 a1 a2 a3 a4 a5 a6 a7 := by
  have ck : (nI k).toNatClampNeg = k := nI_clamp (by omega)
  refine pk_loop (σ := (Nat → Int32) × (Nat → Int32)) (fun n x s => wX_save_139 post (nI k) tp n (nI x) a1 a2 s.1 s.2 a5 a6 a7) (fun x s => (∀ j, j ≠ k → s.1 j = a3 j) ∧ (∀ j, (j < 8 * k ∨ 8 * k + 8 ≤ j) → s.2 j = a4 j) ∧ s.1 k = nI (rc_cnt (rc_B a5) x) ∧ rc_list s.2 k (rc_cnt (rc_B a5) x) x (rc_B a5)) 128 0 (a3, a4) (by omega) ⟨fun _ _ => rfl, fun _ _ => rfl, h3, rc_list_0 _ _ _⟩ ?_ ?_
  · rintro n s ⟨i1, i2, i3, i4⟩
    exact pk_le 128 128 (fun _ => H s.1 s.2 i1 i2 i3 i4) (fun z => absurd z (by omega))
  · rintro n x ⟨b3, b4⟩ hx ⟨i1, i2, i3, i4⟩ hw
    dsimp only at i1 i2 i3 i4
    have hm := rc_cnt_mono (rc_B a5) (show x + 1 ≤ 128 by omega)
    have hc1 := rc_cnt_s (rc_B a5) x
    generalize rc_cnt (rc_B a5) x = p at i3 i4 hc1
    refine pk_le 128 x (fun z => absurd z (by omega)) (fun _ => rc_inb hx (fun hB => br_f (by decide) ?_) (fun hB => ?_))
    · rw [hB] at hc1
      have hc2 : rc_cnt (rc_B a5) (x + 1) = p + 1 := hc1
      have hp : p < 8 := by omega
      dsimp only
      rw [ck, i3]
      refine ⟨pk_in k 12 hk, pk_in (8 * k + p) 96 (by omega) (rc_i8 k p), rc_st (rc_i8 k p) (by omega) rfl ⟨pk_in k 12 hk, pk_in k 12 hk, nm_r (e' := upd b3 k (nI (p + 1))) (by rw [nI_1]) (nm_r (nI_1 x) (hw (_, _) ⟨fun j hj => ?_, fun j hj => ?_, ?_, ?_⟩))⟩⟩
      · show upd b3 k (nI (p + 1)) j = a3 j
        rw [pk_un hj]
        exact i1 j hj
      · show upd b4 (8 * k + p) (nI x) j = a4 j
        rw [pk_un (by omega)]
        exact i2 j hj
      · show upd b3 k (nI (p + 1)) k = nI _
        rw [hc2, pk_us]
      · rw [hc2]
        exact rc_list_new hB i4
    · rw [hB] at hc1
      have hc2 : rc_cnt (rc_B a5) (x + 1) = p := hc1
      exact br_t rfl (nm_r (nI_1 x) (hw (b3, b4) ⟨i1, i2, by rw [hc2]; exact i3, by rw [hc2]; exact rc_list_skip hB i4⟩))
theorem rc_smap {post : St2 → Prop} {tp : Int32} {a1 a2 a3 a4 a5 a6 a7 : Nat → Int32} {k : Nat} (hk : k < 12)
    (H : ∀ b4, (∀ j, (j < 8 * k ∨ 8 * k + 8 ≤ j) → b4 j = a4 j) → (∀ w, w < 4 → b4 (8 * k + w) = a5 w) → post (tp, a1, a2, a3, b4, a5, a6, a7)) :
    ∃ fu, wX_save_210 post (nI k) tp fu 0 a1 a2 a3 a4 a5 a6 a7 := by
  refine pk_loop (fun n w s => wX_save_210 post (nI k) tp n (nI w) a1 a2 a3 s a5 a6 a7) (fun i s => (∀ j, (j < 8 * k ∨ 8 * k + 8 ≤ j) → s j = a4 j) ∧ (∀ w, w < i → s (8 * k + w) = a5 w)) 4 0 a4 (by omega) ⟨fun _ _ => rfl, fun w hw => absurd hw (by omega)⟩ ?_ ?_
  · intro n s h
    exact pk_le 4 4 (fun _ => H s h.1 h.2) (fun z => absurd z (by omega))
  · intro n i s hi h hw
    refine pk_le 4 i (fun z => absurd z (by omega)) (fun _ => ⟨pk_in i 8 (by omega), pk_in (8 * k + i) 96 (by omega) (rc_i8 k i), rc_st (rc_i8 k i) (by omega) (rc_rd a5 rfl (by omega)) (nm_r (nI_1 i) (hw _ ⟨fun j hj => ?_, fun w hw' => ?_⟩))⟩)
    · rw [pk_un (by omega)]
      exact h.1 j hj
    · by_cases e : w = i
      · rw [e, pk_us]
      · rw [pk_un (by omega)]
        exact h.2 w (by omega)
theorem rc_save116 {post : St2 → Prop} {tp : Int32} {a1 a2 a3 a4 a5 a6 a7 : Nat → Int32} {k : Nat} (hk : k < 12)
    (H : ∀ b1 b3 b4, (∀ j, j ≠ k → b1 j = a1 j) → (∀ j, j ≠ k → b3 j = a3 j) → (∀ j, (j < 8 * k ∨ 8 * k + 8 ≤ j) → b4 j = a4 j) → rc_rep b1 b3 b4 k (rc_B a5) → post (tp, b1, a2, b3, b4, a5, a6, a7)) :
    wX_save_116 post (nI k) (nI (rc_cnt (rc_B a5) 128)) tp a1 a2 a3 a4 a5 a6 a7 := by
  have hl := rc_cnt_le (rc_B a5) 128
  unfold wX_save_116
  refine pk_lt 8 (rc_cnt (rc_B a5) 128) (fun _ => ⟨pk_in k 12 hk, rc_st rfl (by omega) rfl ⟨pk_in k 12 hk, rc_st rfl (by omega) rfl (rc_smap hk (fun b4 f4 h4 => H _ _ _ (fun j hj => pk_un hj) (fun j hj => pk_un hj) f4 (Or.inr (Or.inl ⟨pk_us, pk_us, fun x hx => ?_⟩))))⟩⟩) (fun h8 => ⟨pk_in k 12 hk, rc_st rfl (by omega) rfl ⟨pk_in k 12 hk, rc_st rfl (by omega) rfl (rc_slist hk pk_us h8 (fun b3 b4 f3 f4 g3 g4 => H _ _ _ (fun j hj => pk_un hj) (fun j hj => (f3 j hj).trans (pk_un hj)) f4 (Or.inl ⟨pk_us, _, h8, g3, g4⟩)))⟩⟩)
  rw [h4 (x / 32) (by omega)]
  rfl
/-- the bit that a word hands to the next one -/
def rc_cr (a5 : Nat → Int32) : Nat → Int32
  | 0 => 0
  | i + 1 => ((a5 i).toUInt32 >>> ((31 : Int32).toUInt32 &&& Int32.toUInt32 31)).toInt32
theorem rc_cr_s (a5 : Nat → Int32) (i j : Nat) : rb_t (rc_cr a5 (i + 1)) j = rb_t (a5 i) (31 + j) := rb_ushr 31 (by omega) (a5 i) j
theorem rb_shl1 (x : Int32) {i : Nat} (hi : i < 32) : rb_t (x <<< ((1 : Int32) &&& 31)) i = (decide (1 ≤ i) && rb_t x (i - 1)) := rb_shl 1 (by omega) x hi
theorem rc_S_word (a5 : Nat → Int32) (i j : Nat) (hj : j < 32) : rb_t (a5 i &&& (((a5 i <<< ((1 : Int32) &&& 31)) ||| rc_cr a5 i) ^^^ (-1))) j = rc_S (rc_B a5) (32 * i + j) := by
  rw [rb_and, rb_not _ hj, rb_or, rb_shl1 _ hj]
  unfold rc_S
  rw [rc_B_at a5 i j hj]
  congr 2
  cases j with
  | zero =>
    cases i with
    | zero =>
      show (false && _ || rb_t 0 0) = (false && _)
      rw [rb_0]
      rfl
    | succ i =>
      rw [rc_cr_s, decide_eq_true (show 0 < 32 * (i + 1) + 0 by omega), show 32 * (i + 1) + 0 - 1 = 32 * i + 31 by omega, rc_B_at a5 i 31 (by omega)]
      show (false && _ || rb_t (a5 i) 31) = (true && _)
      simp
  | succ j =>
    have hz : rb_t (rc_cr a5 i) (j + 1) = false := by
      cases i with
      | zero => exact rb_0 _
      | succ i =>
        rw [rc_cr_s]
        exact rb_big (by omega)
    rw [hz, decide_eq_true (show 0 < 32 * i + (j + 1) by omega), decide_eq_true (show 1 ≤ j + 1 by omega), show 32 * i + (j + 1) - 1 = 32 * i + j by omega, rc_B_at a5 i j (by omega), Bool.or_false]
    rfl
theorem rc_save {post : St2 → Prop} {tp : Int32} {a1 a2 a3 a4 a5 a6 a7 : Nat → Int32} {k : Nat} (hk : k < 12)
    (H : ∀ b1 b2 b3 b4, (∀ j, j ≠ k → b1 j = a1 j) → (∀ j, j ≠ k → b2 j = a2 j) → (∀ j, j ≠ k → b3 j = a3 j) → (∀ j, (j < 8 * k ∨ 8 * k + 8 ≤ j) → b4 j = a4 j) → b2 k = nI (rc_cnt (rc_B a5) 128) → rc_rep b1 b3 b4 k (rc_B a5) → post (tp, b1, b2, b3, b4, a5, a6, a7)) :
    wpX_save post (tp, a1, a2, a3, a4, a5, a6, a7) (nI k) := by
  unfold wpX_save
  dsimp only
  have hl := rc_cnt_le (rc_B a5) 128
  have hz := rc_cnt_le (rc_S (rc_B a5)) 128
  refine pk_loop (σ := Unit) (fun n i _ => wX_save_10 post (nI k) tp a1 a2 a3 a4 a5 a6 a7 n (nI (rc_cnt (rc_B a5) (32 * i))) (nI (rc_cnt (rc_S (rc_B a5)) (32 * i))) (rc_cr a5 i) (nI i)) (fun _ _ => True) 4 0 () (by omega) trivial ?_ ?_
  · intro n _ _
    have G : wX_save_116 post (nI k) (nI (rc_cnt (rc_B a5) 128)) tp a1 (upd a2 k (nI (rc_cnt (rc_B a5) 128))) a3 a4 a5 a6 a7 := rc_save116 hk (fun b1 b3 b4 f1 f3 f4 hr => H b1 _ b3 b4 f1 (fun j hj => pk_un hj) f3 f4 pk_us hr)
    refine pk_le 4 4 (fun _ => ⟨pk_in k 12 hk, rc_st (v' := nI (rc_cnt (rc_B a5) 128)) rfl (by omega) rfl ?_⟩) (fun z => absurd z (by omega))
    refine pk_lt 4 (rc_cnt (rc_S (rc_B a5)) 128) (fun _ => G) (fun h4 => pk_le (rc_cnt (rc_B a5) 128) (2 * rc_cnt (rc_S (rc_B a5)) 128) (fun _ => G) (fun h5 => ⟨pk_in k 12 hk, rc_st rfl (by omega) rfl ⟨pk_in k 12 hk, rc_st rfl (by omega) rfl (rc_sruns hk pk_us h4 (fun b3 b4 f3 f4 g3 g4 => H _ _ b3 b4 (fun j hj => pk_un hj) (fun j hj => pk_un hj) (fun j hj => (f3 j hj).trans (pk_un hj)) f4 pk_us (Or.inr (Or.inr ⟨pk_us, _, h4, g3, g4⟩))))⟩⟩) rfl (rc_i2 _))
  · intro n i _ hi _ hw
    refine pk_le 4 i (fun z => absurd z (by omega)) (fun _ => ?_)
    rw [nI_clamp (show i < 2 ^ 31 by omega)]
    refine ⟨pk_in i 8 (by omega), rc_ones (nm_r ?_ ⟨pk_in i 8 (by omega), pk_in i 8 (by omega), rc_ones (nm_r ?_ ⟨pk_in i 8 (by omega), nm_r (e' := rc_cr a5 (i + 1)) rfl (nm_r (nI_1 i) (hw () trivial))⟩)⟩)⟩
    · rw [nI_add, show 32 * (i + 1) = 32 * i + 32 by omega, rc_cnt_add, rc_cnt_congr (P := fun j => rc_B a5 (32 * i + j)) (Q := rb_t (a5 i)) (fun j hj => rc_B_at a5 i j hj)]
    · rw [nI_add, show 32 * (i + 1) = 32 * i + 32 by omega, rc_cnt_add, rc_cnt_congr (P := fun j => rc_S (rc_B a5) (32 * i + j)) (fun j hj => (rc_S_word a5 i j hj).symm)]
end
section
/-! the cells that a chunk takes; a chunk moved; the whole state -/
theorem rc_i4p (w : Nat) : (4 : Int32) + nI w = nI (4 + w) := nI_add 4 w
def rc_cc (f p : Int32) : Nat := if f = 1 then 4 else if f = 0 then p.toNatClampNeg else 2 * p.toNatClampNeg
theorem rc_cc_0 {n : Nat} (h : n ≤ 8) : rc_cc (nI 0) (nI n) = n := by
  unfold rc_cc
  rw [if_neg rc_n01, if_pos nI_0, nI_clamp (by omega)]
theorem rc_cc_1 (p : Int32) : rc_cc (nI 1) p = 4 := by
  unfold rc_cc
  exact if_pos rfl
theorem rc_cc_2 {n : Nat} (h : n ≤ 8) : rc_cc (nI 2) (nI n) = 2 * n := by
  unfold rc_cc
  rw [if_neg rc_n21, if_neg rc_n20, nI_clamp (by omega)]
theorem rc_rep_cc {a1 a3 a4 : Nat → Int32} {k : Nat} {S : Nat → Bool} (h : rc_rep a1 a3 a4 k S) : rc_cc (a1 k) (a3 k) ≤ 8 ∧ ∃ f p, f < 3 ∧ p ≤ 8 ∧ a1 k = nI f ∧ a3 k = nI p := by
  rcases h with ⟨e1, n, hn, e3, _⟩ | ⟨e1, e3, _⟩ | ⟨e1, n, hn, e3, _⟩
  · refine ⟨?_, 0, n, by omega, hn, e1, e3⟩
    rw [e1, e3, rc_cc_0 hn]
    exact hn
  · refine ⟨?_, 1, 4, by omega, by omega, e1, e3⟩
    rw [e1, rc_cc_1]
    omega
  · refine ⟨?_, 2, n, by omega, by omega, e1, e3⟩
    rw [e1, e3, rc_cc_2 (by omega)]
    omega
theorem rc_rep_move {a1 a3 a4 b1 b3 b4 : Nat → Int32} {k q : Nat} {S T : Nat → Bool} (h : rc_rep a1 a3 a4 k S) (h1 : b1 q = a1 k) (h3 : b3 q = a3 k) (h4 : ∀ i, i < rc_cc (a1 k) (a3 k) → b4 (8 * q + i) = a4 (8 * k + i)) (hS : ∀ x, x < 128 → T x = S x) : rc_rep b1 b3 b4 q T := by
  rcases h with ⟨e1, n, hn, e3, e, he, hs, hS'⟩ | ⟨e1, e3, hS'⟩ | ⟨e1, n, hn, e3, f, t, hd, hs, hS'⟩
  · have hcc : rc_cc (a1 k) (a3 k) = n := by rw [e1, e3, rc_cc_0 hn]
    exact Or.inl ⟨h1.trans e1, n, hn, h3.trans e3, e, fun i hi => ⟨(h4 i (by omega)).trans (he i hi).1, (he i hi).2⟩, hs, fun y hy => by rw [hS y hy]; exact hS' y hy⟩
  · have hcc : rc_cc (a1 k) (a3 k) = 4 := by rw [e1, rc_cc_1]
    exact Or.inr (Or.inl ⟨h1.trans e1, h3.trans e3, fun x hx => by rw [h4 (x / 32) (by omega), hS x hx]; exact hS' x hx⟩)
  · have hcc : rc_cc (a1 k) (a3 k) = 2 * n := by rw [e1, e3, rc_cc_2 (by omega)]
    refine Or.inr (Or.inr ⟨h1.trans e1, n, hn, h3.trans e3, f, t, fun i hi => ?_, hs, fun y hy => by rw [hS y hy]; exact hS' y hy⟩)
    obtain ⟨u1, u2, u3, u4⟩ := hd i hi
    have g := h4 (2 * i + 1) (by omega)
    rw [show 8 * q + (2 * i + 1) = 8 * q + 2 * i + 1 by omega, show 8 * k + (2 * i + 1) = 8 * k + 2 * i + 1 by omega] at g
    exact ⟨(h4 (2 * i) (by omega)).trans u1, g.trans u2, u3, u4⟩
def rc_ok (M : Nat → Nat → Bool) (a1 a2 a3 a4 : Nat → Int32) : Prop := ∀ s c, s < 3 → c < 4 → a2 (4 * s + c) = nI (rc_cnt (fun x => M s (128 * c + x)) 128) ∧ rc_rep a1 a3 a4 (4 * s + c) (fun x => M s (128 * c + x))
theorem rc_ok_congr {M M' : Nat → Nat → Bool} {a1 a2 a3 a4 : Nat → Int32} (h : rc_ok M a1 a2 a3 a4) (e : ∀ s x, s < 3 → x < 512 → M' s x = M s x) : rc_ok M' a1 a2 a3 a4 := by
  intro s c hs hc
  obtain ⟨u1, u2⟩ := h s c hs hc
  refine ⟨?_, rc_rep_move u2 rfl rfl (fun i _ => rfl) (fun x hx => e s _ hs (by omega))⟩
  rw [u1]
  exact congrArg nI (rc_cnt_congr (fun x hx => (e s _ hs (by omega)).symm))
theorem rc_ok_upd {M M' : Nat → Nat → Bool} {a1 a2 a3 a4 b1 b2 b3 b4 : Nat → Int32} {s c : Nat} {S : Nat → Bool} (h : rc_ok M a1 a2 a3 a4) (hs : s < 3) (hc : c < 4) (f1 : ∀ j, j ≠ 4 * s + c → b1 j = a1 j) (f2 : ∀ j, j ≠ 4 * s + c → b2 j = a2 j) (f3 : ∀ j, j ≠ 4 * s + c → b3 j = a3 j) (f4 : ∀ j, (j < 8 * (4 * s + c) ∨ 8 * (4 * s + c) + 8 ≤ j) → b4 j = a4 j)
    (g2 : b2 (4 * s + c) = nI (rc_cnt S 128)) (g : rc_rep b1 b3 b4 (4 * s + c) S) (hS : ∀ x, x < 128 → M' s (128 * c + x) = S x) (ho : ∀ s' c' x, s' < 3 → c' < 4 → x < 128 → ¬ (s' = s ∧ c' = c) → M' s' (128 * c' + x) = M s' (128 * c' + x)) : rc_ok M' b1 b2 b3 b4 := by
  intro s' c' hs' hc'
  by_cases e : s' = s ∧ c' = c
  · obtain ⟨e1, e2⟩ := e
    rw [e1, e2]
    refine ⟨?_, rc_rep_move g rfl rfl (fun i _ => rfl) hS⟩
    rw [g2]
    exact congrArg nI (rc_cnt_congr (fun x hx => (hS x hx).symm))
  · have hk : 4 * s' + c' ≠ 4 * s + c := by omega
    obtain ⟨u1, u2⟩ := h s' c' hs' hc'
    have hl := (rc_rep_cc u2).1
    refine ⟨?_, rc_rep_move u2 (f1 _ hk) (f3 _ hk) (fun i hi => f4 _ (by omega)) (fun x hx => ho s' c' x hs' hc' hx e)⟩
    rw [f2 _ hk, u1]
    exact congrArg nI (rc_cnt_congr (fun x hx => (ho s' c' x hs' hc' hx e).symm))
theorem rc_total {post : Int32 → Prop} {tp : Int32} {a1 a2 a3 a4 a5 a6 a7 : Nat → Int32} {s : Nat} {M : Nat → Nat → Bool} (hs : s < 3) (h : rc_ok M a1 a2 a3 a4) (H : post (nI (rc_cnt (M s) 512))) : wpX_total post (tp, a1, a2, a3, a4, a5, a6, a7) (nI s) := by
  unfold wpX_total
  dsimp only
  refine pk_loop (σ := Unit) (fun n c _ => wX_total_4 post (nI s) tp a1 a2 a3 a4 a5 a6 a7 n (nI (rc_cnt (M s) (128 * c))) (nI c)) (fun _ _ => True) 4 0 () (by omega) trivial (fun n _ _ => pk_le 4 4 (fun _ => H) (fun z => absurd z (by omega))) (fun n c _ hc _ hw => pk_le 4 c (fun z => absurd z (by omega)) (fun _ => ⟨pk_in (4 * s + c) 12 (by omega) (rc_i4 s c), nm_r ?_ (nm_r (nI_1 c) (hw () trivial))⟩))
  rw [rc_rd a2 (rc_i4 s c) (by omega), (h s c hs hc).1, nI_add, show 128 * (c + 1) = 128 * c + 128 by omega, rc_cnt_add]
theorem rc_common {post : Int32 → St2 → Prop} {tp : Int32} {a1 a2 a3 a4 a5 a6 a7 : Nat → Int32} {s t : Nat} {M : Nat → Nat → Bool} (hs : s < 3) (ht : t < 3) (h : rc_ok M a1 a2 a3 a4) (H : ∀ b, post (nI (rc_cnt (fun x => M s x && M t x) 512)) (tp, a1, a2, a3, a4, b, a6, a7)) : wpX_common post (tp, a1, a2, a3, a4, a5, a6, a7) (nI s) (nI t) := by
  unfold wpX_common
  dsimp only
  refine rc_isSet hs (br_f (by decide) (rc_isSet ht (br_f (by decide) ?_)))
  refine pk_loop (fun n c b => wX_common_21 post (nI s) (nI t) n (nI (rc_cnt (fun x => M s x && M t x) (128 * c))) (nI c) tp a1 a2 a3 a4 b a6 a7) (fun _ _ => True) 4 0 a5 (by omega) trivial (fun n b _ => pk_le 4 4 (fun _ => H b) (fun z => absurd z (by omega))) ?_
  intro n c b hc _ hw
  refine pk_le 4 c (fun z => absurd z (by omega)) (fun _ => ?_)
  rw [rc_i4 s c, rc_i4 t c]
  refine rc_load (o := 0) (by omega) (by omega) (h s c hs hc).2 (fun b1 hb1 _ => rc_load (o := 4) (by omega) (by omega) (h t c ht hc).2 (fun b2 hb2 hf2 => ?_))
  refine pk_loop (σ := Unit) (fun m w _ => wX_common_52 post (wX_common_21 post (nI s) (nI t) n) (nI s) (nI t) (nI c) tp a1 a2 a3 a4 b2 a6 a7 m (nI (rc_cnt (fun x => M s x && M t x) (128 * c + 32 * w))) (nI w)) (fun _ _ => True) 4 0 () (by omega) trivial ?_ ?_
  · intro m _ _
    refine pk_le 4 4 (fun _ => nm_r (nI_1 c) ?_) (fun z => absurd z (by omega))
    have hh := hw b2 trivial
    rw [show 128 * (c + 1) = 128 * c + 32 * 4 by omega] at hh
    exact hh
  · intro m w _ hw4 _ hw2
    refine pk_le 4 w (fun z => absurd z (by omega)) (fun _ => ⟨pk_in w 8 (by omega), pk_in (4 + w) 8 (by omega) (nI_add 4 w), rc_ones (nm_r ?_ (nm_r (nI_1 w) (hw2 () trivial)))⟩)
    have hbit : ∀ j, j < 32 → rb_t (b2 w &&& b2 (4 + w)) j = (M s (128 * c + 32 * w + j) && M t (128 * c + 32 * w + j)) := by
      intro j hj
      have e1 : rb_t (b2 w) j = M s (128 * c + 32 * w + j) := by
        have g := hb1 (32 * w + j) (by omega)
        rw [show 32 * 0 + (32 * w + j) = 32 * w + j by omega, rc_B_at b1 w j hj, ← Nat.add_assoc] at g
        rw [hf2 w (by omega)]
        exact g
      have e2 : rb_t (b2 (4 + w)) j = M t (128 * c + 32 * w + j) := by
        have g := hb2 (32 * w + j) (by omega)
        rw [show 32 * 4 + (32 * w + j) = 32 * (4 + w) + j by omega, rc_B_at b2 (4 + w) j hj, ← Nat.add_assoc] at g
        exact g
      rw [rb_and, e1, e2]
    rw [rc_rd b2 (x := nI w) rfl (by omega), rc_rd b2 (rc_i4p w) (by omega), nI_add, show 128 * c + 32 * (w + 1) = 128 * c + 32 * w + 32 by omega, rc_cnt_add _ (128 * c + 32 * w) 32]
    exact congrArg (fun z => nI (rc_cnt (fun x => M s x && M t x) (128 * c + 32 * w) + z)) (rc_cnt_congr hbit)
theorem rc_within {post : Int32 → St2 → Prop} {tp : Int32} {a1 a2 a3 a4 a5 a6 a7 : Nat → Int32} {s t : Nat} {M : Nat → Nat → Bool} (hs : s < 3) (ht : t < 3) (h : rc_ok M a1 a2 a3 a4) (H : ∀ b, post (if rc_cnt (fun x => M s x && M t x) 512 = rc_cnt (M s) 512 then 1 else 0) (tp, a1, a2, a3, a4, b, a6, a7)) : wpX_within post (tp, a1, a2, a3, a4, a5, a6, a7) (nI s) (nI t) := by
  unfold wpX_within
  dsimp only
  have l1 := rc_cnt_le (fun x => M s x && M t x) 512
  have l2 := rc_cnt_le (M s) 512
  refine rc_isSet hs (br_f (by decide) (rc_isSet ht (br_f (by decide) (rc_common hs ht h (fun b => rc_total hs h (pk_eq (rc_cnt (fun x => M s x && M t x) 512) (rc_cnt (M s) 512) (fun e => ?_) (fun e => ?_)))))))
  · have g := H b
    rw [if_pos e] at g
    exact g
  · have g := H b
    rw [if_neg e] at g
    exact g
theorem rc_same {post : Int32 → St2 → Prop} {tp : Int32} {a1 a2 a3 a4 a5 a6 a7 : Nat → Int32} {s t : Nat} {M : Nat → Nat → Bool} (hs : s < 3) (ht : t < 3) (h : rc_ok M a1 a2 a3 a4) (H : ∀ b, post (if rc_cnt (fun x => M s x && M t x) 512 = rc_cnt (M s) 512 ∧ rc_cnt (M s) 512 = rc_cnt (M t) 512 then 1 else 0) (tp, a1, a2, a3, a4, b, a6, a7)) : wpX_same post (tp, a1, a2, a3, a4, a5, a6, a7) (nI s) (nI t) := by
  unfold wpX_same
  dsimp only
  have l1 := rc_cnt_le (fun x => M s x && M t x) 512
  have l2 := rc_cnt_le (M s) 512
  have l3 := rc_cnt_le (M t) 512
  refine rc_isSet hs (br_f (by decide) (rc_isSet ht (br_f (by decide) (rc_common hs ht h (fun b => rc_total hs h (pk_eq (rc_cnt (fun x => M s x && M t x) 512) (rc_cnt (M s) 512) (fun e => rc_total hs h (rc_total ht h (pk_eq (rc_cnt (M s) 512) (rc_cnt (M t) 512) (fun e2 => ?_) (fun e2 => ?_)))) (fun e => ?_)))))))
  · have g := H b
    rw [if_pos ⟨e, e2⟩] at g
    exact g
  · have g := H b
    rw [if_neg (fun z => e2 z.2)] at g
    exact g
  · have g := H b
    rw [if_neg (fun z => e z.1)] at g
    exact g
end
section
/-! fill -/
theorem rc_B_or0 (s : Nat → Int32) (w x : Nat) (v : Int32) : rc_B (upd s w (s w ||| v)) x = (rc_B s x || (decide (x / 32 = w) && rb_t v (x % 32))) := by
  unfold rc_B
  by_cases h : x / 32 = w
  · rw [h, pk_us, rb_or, decide_eq_true rfl, Bool.true_and]
  · rw [pk_un h, decide_eq_false h, Bool.false_and, Bool.or_false]
theorem rc_chg87 {post : St2 → Prop} {J : Int32 → Int32 → (Nat → Int32) → (Nat → Int32) → (Nat → Int32) → (Nat → Int32) → (Nat → Int32) → (Nat → Int32) → (Nat → Int32) → Prop} {x2 x3 tp : Int32} {a1 a2 a3 a4 b a6 a7 : Nat → Int32} {s c f t : Nat} {T : Nat → Bool} (hs : s < 3) (hc : c < 4) (hft : f ≤ t) (ht : t < 128) (hT : ∀ x, x < 128 → T x = (rc_B b x || decide (f ≤ x ∧ x ≤ t)))
    (H : ∀ b1 b2 b3 b4 b5, (∀ j, j ≠ 4 * s + c → b1 j = a1 j) → (∀ j, j ≠ 4 * s + c → b2 j = a2 j) → (∀ j, j ≠ 4 * s + c → b3 j = a3 j) → (∀ j, (j < 8 * (4 * s + c) ∨ 8 * (4 * s + c) + 8 ≤ j) → b4 j = a4 j) → b2 (4 * s + c) = nI (rc_cnt T 128) → rc_rep b1 b3 b4 (4 * s + c) T → J (nI (c + 1)) tp b1 b2 b3 b4 b5 a6 a7) :
    ∃ fu, wX_change_87 post J (nI s) x2 x3 0 (nI c) (nI f) (nI t) tp fu (nI (f / 32)) a1 a2 a3 a4 b a6 a7 := by
  refine pk_loop (fun m w b' => wX_change_87 post J (nI s) x2 x3 0 (nI c) (nI f) (nI t) tp m (nI w) a1 a2 a3 a4 b' a6 a7) (fun w b' => f / 32 ≤ w ∧ ∀ x, rc_B b' x = (rc_B b x || decide (x / 32 < w ∧ f ≤ x ∧ x ≤ t))) (t / 32 + 1) (f / 32) b (by omega) ⟨Nat.le_refl _, fun x => ?_⟩ ?_ ?_
  · rw [decide_eq_false (show ¬ (x / 32 < f / 32 ∧ f ≤ x ∧ x ≤ t) by omega), Bool.or_false]
  · intro m b' h
    have hB : ∀ x, x < 128 → T x = rc_B b' x := by
      intro x hx
      rw [hT x hx, h.2 x]
      congr 1
      rw [decide_eq_decide]
      omega
    refine pk_lt (t / 32) (t / 32 + 1) (fun _ => ?_) (fun z => absurd z (by omega)) (rc_shr5 (by omega))
    rw [rc_i4 s c]
    refine rc_save (by omega) (fun b1 b2 b3 b4 f1 f2 f3 f4 g2 g => nm_r (nI_1 c) (H b1 b2 b3 b4 b' f1 f2 f3 f4 ?_ (rc_rep_move g rfl rfl (fun i _ => rfl) hB)))
    rw [g2]
    exact congrArg nI (rc_cnt_congr (fun x hx => (hB x hx).symm))
  · intro m w b' hw' h hw
    refine pk_lt (t / 32) w (fun z => absurd z (by omega)) (fun _ => rc_mask (by omega) ht (by omega) h.1 (by omega) (fun r hr => br_t rfl ⟨pk_in w 8 (by omega), pk_in w 8 (by omega), rc_st (v' := b' w ||| r) rfl (by omega) (by rw [nI_clamp (by omega)]) (nm_r (nI_1 w) (hw _ ⟨by omega, fun x => ?_⟩))⟩)) (rc_shr5 (by omega))
    rw [rc_B_or0, h.2 x, hr _ (by omega), Bool.or_assoc]
    congr 1
    rw [Bool.eq_iff_iff]
    simp only [Bool.or_eq_true, Bool.and_eq_true, decide_eq_true_eq]
    omega
theorem rc_chg68 {post : St2 → Prop} {J : Int32 → Int32 → (Nat → Int32) → (Nat → Int32) → (Nat → Int32) → (Nat → Int32) → (Nat → Int32) → (Nat → Int32) → (Nat → Int32) → Prop} {x2 x3 tp : Int32} {a1 a2 a3 a4 a5 a6 a7 : Nat → Int32} {s c f t : Nat} {M : Nat → Nat → Bool} (hs : s < 3) (hc : c < 4) (hft : f ≤ t) (ht : t < 128) (h : rc_ok M a1 a2 a3 a4)
    (H : ∀ b1 b2 b3 b4 b5, (∀ j, j ≠ 4 * s + c → b1 j = a1 j) → (∀ j, j ≠ 4 * s + c → b2 j = a2 j) → (∀ j, j ≠ 4 * s + c → b3 j = a3 j) → (∀ j, (j < 8 * (4 * s + c) ∨ 8 * (4 * s + c) + 8 ≤ j) → b4 j = a4 j) → b2 (4 * s + c) = nI (rc_cnt (fun x => M s (128 * c + x) || decide (f ≤ x ∧ x ≤ t)) 128) → rc_rep b1 b3 b4 (4 * s + c) (fun x => M s (128 * c + x) || decide (f ≤ x ∧ x ≤ t)) → J (nI (c + 1)) tp b1 b2 b3 b4 b5 a6 a7) :
    wX_change_68 post J (nI s) x2 x3 0 (nI c) (nI f) (nI t) tp a1 a2 a3 a4 a5 a6 a7 := by
  unfold wX_change_68
  rw [rc_i4 s c]
  refine rc_load (o := 0) (by omega) (by omega) (h s c hs hc).2 (fun b hb _ => nm_r (rc_shr5 (by omega)) (rc_chg87 hs hc hft ht (fun x hx => ?_) H))
  have g := hb x hx
  rw [show 32 * 0 + x = x by omega] at g
  rw [g]
theorem rc_change {post : St2 → Prop} {tp : Int32} {a1 a2 a3 a4 a5 a6 a7 : Nat → Int32} {s f l : Nat} {M : Nat → Nat → Bool} (hs : s < 3) (hfl : f ≤ l) (hl : l < 512) (h : rc_ok M a1 a2 a3 a4)
    (H : ∀ b1 b2 b3 b4 b5, rc_ok (fun s' x => M s' x || decide (s' = s ∧ f ≤ x ∧ x ≤ l)) b1 b2 b3 b4 → post (tp, b1, b2, b3, b4, b5, a6, a7)) :
    wpX_change post (tp, a1, a2, a3, a4, a5, a6, a7) (nI s) (nI f) (nI l) 0 := by
  unfold wpX_change
  dsimp only
  refine nm_r (rc_shr7 (by omega)) ?_
  refine pk_loop (σ := (Nat → Int32) × (Nat → Int32) × (Nat → Int32) × (Nat → Int32) × (Nat → Int32)) (fun n c u => wX_change_6 post (nI s) (nI f) (nI l) 0 n (nI c) tp u.1 u.2.1 u.2.2.1 u.2.2.2.1 u.2.2.2.2 a6 a7) (fun c u => f / 128 ≤ c ∧ rc_ok (fun s' x => M s' x || decide (s' = s ∧ f ≤ x ∧ x ≤ l ∧ x < 128 * c)) u.1 u.2.1 u.2.2.1 u.2.2.2.1) (l / 128 + 1) (f / 128) (a1, a2, a3, a4, a5) (by omega) ⟨Nat.le_refl _, rc_ok_congr h (fun s' x _ _ => ?_)⟩ ?_ ?_
  · rw [decide_eq_false (show ¬ (s' = s ∧ f ≤ x ∧ x ≤ l ∧ x < 128 * (f / 128)) by omega), Bool.or_false]
  · rintro n ⟨b1, b2, b3, b4, b5⟩ ⟨_, hk⟩
    refine pk_lt (l / 128) (l / 128 + 1) (fun _ => H b1 b2 b3 b4 b5 (rc_ok_congr hk (fun s' x _ _ => ?_))) (fun z => absurd z (by omega)) (rc_shr7 (by omega))
    congr 1
    rw [decide_eq_decide]
    omega
  · rintro n c ⟨b1, b2, b3, b4, b5⟩ hc ⟨hc0, hk⟩ hw
    dsimp only at hk
    have K : ∀ t, t = min 127 (l - 128 * c) → wX_change_68 post (wX_change_6 post (nI s) (nI f) (nI l) 0 n) (nI s) (nI f) (nI l) 0 (nI c) (nI (f - 128 * c)) (nI t) tp b1 b2 b3 b4 b5 a6 a7 := by
      intro t ht
      refine rc_chg68 hs (by omega) (by omega) (by omega) hk (fun d1 d2 d3 d4 d5 f1 f2 f3 f4 g2 g => hw (d1, d2, d3, d4, d5) ⟨by omega, rc_ok_upd hk hs (by omega) f1 f2 f3 f4 g2 g (fun x hx => ?_) (fun s' c' x hs' hc' hx hne => ?_)⟩)
      · rw [Bool.or_assoc]
        congr 1
        rw [Bool.eq_iff_iff]
        simp only [Bool.or_eq_true, decide_eq_true_eq, eq_self, true_and]
        constructor
        · intro z
          omega
        · intro z
          omega
      · congr 1
        rw [decide_eq_decide]
        omega
    have G : wX_change_37 post (wX_change_6 post (nI s) (nI f) (nI l) 0 n) (nI s) (nI f) (nI l) 0 (nI c) (nI (f - 128 * c)) tp b1 b2 b3 b4 b5 a6 a7 := by
      unfold wX_change_37
      have e1 : (128 : Int32) * nI c + 128 - 1 = nI (128 * c + 127) := by
        rw [rc_i128]
        show nI (128 * c) + nI 128 - 1 = _
        rw [nI_add]
        exact nI_pred (128 * c + 127)
      refine pk_le (128 * c + 127) l (fun z => K 127 (by omega)) (fun z => ?_) e1
      rw [rc_i128, pk_sub (show 128 * c ≤ l by omega)]
      exact K _ (by omega)
    refine pk_lt (l / 128) c (fun z => absurd z (by omega)) (fun _ => pk_le f (128 * c) (fun z => ?_) (fun z => ?_) rfl (rc_i128 c)) (rc_shr7 (by omega))
    · rw [show f - 128 * c = 0 by omega] at G
      exact G
    · rw [rc_i128, pk_sub (show 128 * c ≤ f by omega)]
      exact G
theorem rc_range {post : Int32 → Prop} {f l : Nat} (hfl : f ≤ l) (hl : l < 512) (h : post 1) : wpX_isRange post () (nI f) (nI l) := by
  unfold wpX_isRange
  exact br_f (nI_pos (by omega)) (br_f (nI_nlt hfl (by omega)) (br_f (nI_nlt (a := 511) (b := l) (by omega) (by omega)) h))
theorem rc_norange {post : Int32 → Prop} {x y : Int32} (hn : x < 0 ∨ y < x ∨ 511 < y) (h : post 0) : wpX_isRange post () x y := by
  unfold wpX_isRange
  refine br_c (fun _ => h) (fun g1 => br_c (fun _ => h) (fun g2 => br_c (fun _ => h) (fun g3 => ?_)))
  rcases hn with z | z | z
  · exact absurd z g1
  · exact absurd z g2
  · exact absurd z g3
theorem rc_fill {post : Int32 → St2 → Prop} {tp : Int32} {a1 a2 a3 a4 a5 a6 a7 : Nat → Int32} {s f l : Nat} {M : Nat → Nat → Bool} (hs : s < 3) (hfl : f ≤ l) (hl : l < 512) (h : rc_ok M a1 a2 a3 a4)
    (H : ∀ b1 b2 b3 b4 b5, rc_ok (fun s' x => M s' x || decide (s' = s ∧ f ≤ x ∧ x ≤ l)) b1 b2 b3 b4 → post (nI (rc_cnt (fun x => M s x || decide (s = s ∧ f ≤ x ∧ x ≤ l)) 512) - nI (rc_cnt (M s) 512)) (tp, b1, b2, b3, b4, b5, a6, a7)) :
    wpX_fill post (tp, a1, a2, a3, a4, a5, a6, a7) (nI s) (nI f) (nI l) := by
  unfold wpX_fill
  dsimp only
  exact rc_isSet hs (br_f (by decide) (rc_range hfl hl (br_f (by decide) (rc_total hs h (rc_change hs hfl hl h (fun b1 b2 b3 b4 b5 hk => rc_total hs hk (H b1 b2 b3 b4 b5 hk)))))))
theorem rc_nofill {post : Int32 → St2 → Prop} {u : St2} {s : Nat} {x y : Int32} (hs : s < 3) (hn : x < 0 ∨ y < x ∨ 511 < y) (H : post (-2) u) : wpX_fill post u (nI s) x y := by
  obtain ⟨tp, a1, a2, a3, a4, a5, a6, a7⟩ := u
  unfold wpX_fill
  dsimp only
  exact rc_isSet hs (br_f (by decide) (rc_norange hn (br_t rfl H)))
end
section
/-! join -/
def rc_cb (kd : Nat) (p q : Bool) : Bool := if kd = 0 then p && q else if kd = 1 then p || q else if kd = 2 then p ^^ q else p && !q
theorem rc_comb {post : Int32 → Prop} {kd : Nat} {x y : Int32} (hk : kd < 4) (H : ∀ r, (∀ j, j < 32 → rb_t r j = rc_cb kd (rb_t x j) (rb_t y j)) → post r) : wpX_combine post () (nI kd) x y := by
  unfold wpX_combine
  refine pk_eq kd 0 (fun e => H _ (fun j _ => ?_)) (fun e0 => pk_eq kd 1 (fun e => H _ (fun j _ => ?_)) (fun e1 => pk_eq kd 2 (fun e => H _ (fun j _ => ?_)) (fun e2 => H _ (fun j hj => ?_))))
  · subst e
    exact rb_and x y j
  · subst e
    exact rb_or x y j
  · subst e
    exact rb_xor x y j
  · unfold rc_cb
    rw [if_neg e0, if_neg e1, if_neg e2, rb_and, rb_not _ hj]
theorem rc_join62 {post : Int32 → St2 → Prop} {J : Int32 → Int32 → (Nat → Int32) → (Nat → Int32) → (Nat → Int32) → (Nat → Int32) → (Nat → Int32) → (Nat → Int32) → (Nat → Int32) → Prop} {x3 tp : Int32} {a1 a2 a3 a4 b a6 a7 : Nat → Int32} {kd s c : Nat} {T : Nat → Bool} (hkd : kd < 4) (hs : s < 3) (hc : c < 4) (hT : ∀ x, x < 128 → T x = rc_cb kd (rc_B b x) (rc_B b (128 + x)))
    (H : ∀ b1 b2 b3 b4 b5, (∀ j, j ≠ 4 * s + c → b1 j = a1 j) → (∀ j, j ≠ 4 * s + c → b2 j = a2 j) → (∀ j, j ≠ 4 * s + c → b3 j = a3 j) → (∀ j, (j < 8 * (4 * s + c) ∨ 8 * (4 * s + c) + 8 ≤ j) → b4 j = a4 j) → b2 (4 * s + c) = nI (rc_cnt T 128) → rc_rep b1 b3 b4 (4 * s + c) T → J (nI (c + 1)) tp b1 b2 b3 b4 b5 a6 a7) :
    ∃ fu, wX_join_62 post J (nI kd) (nI s) x3 (nI c) tp fu 0 a1 a2 a3 a4 b a6 a7 := by
  refine pk_loop (fun m w b' => wX_join_62 post J (nI kd) (nI s) x3 (nI c) tp m (nI w) a1 a2 a3 a4 b' a6 a7) (fun w b' => (∀ x, x < 32 * w → rc_B b' x = rc_cb kd (rc_B b x) (rc_B b (128 + x))) ∧ (∀ j, w ≤ j → b' j = b j)) 4 0 b (by omega) ⟨fun x hx => absurd hx (by omega), fun j _ => rfl⟩ ?_ ?_
  · intro m b' h
    have hB : ∀ x, x < 128 → T x = rc_B b' x := by
      intro x hx
      rw [hT x hx, h.1 x hx]
    refine pk_le 4 4 (fun _ => ?_) (fun z => absurd z (by omega))
    rw [rc_i4 s c]
    refine rc_save (by omega) (fun b1 b2 b3 b4 f1 f2 f3 f4 g2 g => nm_r (nI_1 c) (H b1 b2 b3 b4 b' f1 f2 f3 f4 ?_ (rc_rep_move g rfl rfl (fun i _ => rfl) hB)))
    rw [g2]
    exact congrArg nI (rc_cnt_congr (fun x hx => (hB x hx).symm))
  · intro m w b' hw4 h hw
    refine pk_le 4 w (fun z => absurd z (by omega)) (fun _ => ⟨pk_in w 8 (by omega), pk_in (4 + w) 8 (by omega) (nI_add 4 w), ?_⟩)
    rw [rc_rd b' (x := nI w) rfl (by omega), rc_rd b' (rc_i4p w) (by omega), h.2 w (by omega), h.2 (4 + w) (by omega)]
    refine rc_comb hkd (fun r hr => ⟨pk_in w 8 (by omega), rc_st rfl (by omega) rfl (nm_r (nI_1 w) (hw _ ⟨fun x hx => ?_, fun j hj => ?_⟩))⟩)
    · by_cases e : x / 32 = w
      · show rb_t (upd b' w r (x / 32)) (x % 32) = _
        rw [e, pk_us, hr _ (by omega)]
        show _ = rc_cb kd (rb_t (b (x / 32)) (x % 32)) (rb_t (b ((128 + x) / 32)) ((128 + x) % 32))
        rw [show (128 + x) / 32 = 4 + w by omega, show (128 + x) % 32 = x % 32 by omega, e]
      · have g := h.1 x (by omega)
        show rb_t (upd b' w r (x / 32)) (x % 32) = _
        rw [pk_un e]
        exact g
    · rw [pk_un (by omega)]
      exact h.2 j (by omega)
theorem rc_join {post : Int32 → St2 → Prop} {tp : Int32} {a1 a2 a3 a4 a5 a6 a7 : Nat → Int32} {kd s t : Nat} {M : Nat → Nat → Bool} (hkd : kd < 4) (hs : s < 3) (ht : t < 3) (hst : s ≠ t) (h : rc_ok M a1 a2 a3 a4)
    (H : ∀ b1 b2 b3 b4 b5, rc_ok (fun s' x => if s' = s then rc_cb kd (M s x) (M t x) else M s' x) b1 b2 b3 b4 → post (nI (rc_cnt (fun x => rc_cb kd (M s x) (M t x)) 512)) (tp, b1, b2, b3, b4, b5, a6, a7)) :
    wpX_join post (tp, a1, a2, a3, a4, a5, a6, a7) (nI kd) (nI s) (nI t) := by
  unfold wpX_join
  dsimp only
  refine br_f (nI_pos (by omega)) (br_t (nI_le (a := kd) (b := 3) (by omega) (by omega)) (rc_isSet hs (br_f (by decide) (rc_isSet ht (br_f (by decide) ?_)))))
  refine pk_loop (σ := (Nat → Int32) × (Nat → Int32) × (Nat → Int32) × (Nat → Int32) × (Nat → Int32)) (fun n c u => wX_join_31 post (nI kd) (nI s) (nI t) n (nI c) tp u.1 u.2.1 u.2.2.1 u.2.2.2.1 u.2.2.2.2 a6 a7) (fun c u => rc_ok (fun s' x => if s' = s ∧ x < 128 * c then rc_cb kd (M s x) (M t x) else M s' x) u.1 u.2.1 u.2.2.1 u.2.2.2.1) 4 0 (a1, a2, a3, a4, a5) (by omega) (rc_ok_congr h (fun s' x _ _ => ?_)) ?_ ?_
  · exact if_neg (by omega)
  · rintro n ⟨b1, b2, b3, b4, b5⟩ hk
    have hk2 : rc_ok (fun s' x => if s' = s then rc_cb kd (M s x) (M t x) else M s' x) b1 b2 b3 b4 := by
      refine rc_ok_congr hk (fun s' x _ hx => ?_)
      by_cases e : s' = s
      · rw [if_pos e, if_pos ⟨e, hx⟩]
      · rw [if_neg e, if_neg (fun z => e z.1)]
    have g := H b1 b2 b3 b4 b5 hk2
    refine pk_le 4 4 (fun _ => rc_total hs hk2 ?_) (fun z => absurd z (by omega))
    have e : rc_cnt (fun x => if s = s then rc_cb kd (M s x) (M t x) else M s x) 512 = rc_cnt (fun x => rc_cb kd (M s x) (M t x)) 512 := rc_cnt_congr (fun x _ => if_pos rfl)
    dsimp only
    rw [e]
    exact g
  · rintro n c ⟨b1, b2, b3, b4, b5⟩ hc hk hw
    dsimp only at hk
    refine pk_le 4 c (fun z => absurd z (by omega)) (fun _ => ?_)
    dsimp only
    rw [rc_i4 s c, rc_i4 t c]
    refine rc_load (o := 0) (by omega) (by omega) (hk s c hs hc).2 (fun d1 hd1 _ => rc_load (o := 4) (by omega) (by omega) (hk t c ht hc).2 (fun d2 hd2 hf2 => ?_))
    refine rc_join62 (T := fun x => rc_cb kd (M s (128 * c + x)) (M t (128 * c + x))) hkd hs hc (fun x hx => ?_) (fun e1 e2 e3 e4 e5 f1 f2 f3 f4 g2 g => hw (e1, e2, e3, e4, e5) (rc_ok_upd hk hs hc f1 f2 f3 f4 g2 g (fun x hx => ?_) (fun s' c' x hs' hc' hx hne => ?_)))
    · have g1 := hd1 x hx
      have g2 := hd2 x hx
      rw [show 32 * 0 + x = x by omega] at g1
      rw [show 32 * 4 + x = 128 + x by omega] at g2
      dsimp only at g1 g2
      rw [if_neg (by omega)] at g1
      rw [if_neg (by omega)] at g2
      have g3 : rc_B d2 x = rc_B d1 x := by
        unfold rc_B
        rw [hf2 (x / 32) (by omega)]
      dsimp only
      rw [g3, g1, g2]
    · exact if_pos ⟨rfl, by omega⟩
    · by_cases e : s' = s ∧ 128 * c' + x < 128 * c
      · rw [if_pos e, if_pos ⟨e.1, by omega⟩]
      · rw [if_neg e, if_neg (by omega)]
theorem rc_nojoin {post : Int32 → St2 → Prop} {u : St2} {x p q : Int32} (hn : x < 0 ∨ 3 < x) (H : post (-1) u) : wpX_join post u x p q := by
  obtain ⟨tp, a1, a2, a3, a4, a5, a6, a7⟩ := u
  unfold wpX_join
  dsimp only
  refine br_c (fun _ => H) (fun g => br_f (fun z => ?_) H)
  rcases hn with y | y
  · exact g y
  · exact absurd y (Int32.not_lt.mpr z)
end
section
/-! write and read -/
def rc_off (g : Nat → Nat) : Nat → Nat
  | 0 => 0
  | c + 1 => rc_off g c + 1 + g c
theorem rc_off_le {g : Nat → Nat} {n : Nat} (h : ∀ c, c < n → g c ≤ 8) : rc_off g n ≤ 9 * n := by
  induction n with
  | zero => exact Nat.le_refl 0
  | succ n ih =>
    have h1 := ih (fun c hc => h c (by omega))
    have h2 := h n (by omega)
    show rc_off g n + 1 + g n ≤ _
    omega
theorem rc_off_lt {g : Nat → Nat} {c n : Nat} (h : c < n) : rc_off g c + 1 + g c ≤ rc_off g n := by
  induction n with
  | zero => omega
  | succ n ih =>
    show _ ≤ rc_off g n + 1 + g n
    by_cases e : c = n
    · rw [e]
      exact Nat.le_refl _
    · have := ih (by omega)
      omega
def rc_g (a1 a3 : Nat → Int32) (s c : Nat) : Nat := rc_cc (a1 (4 * s + c)) (a3 (4 * s + c))
def rc_hdr (a1 a2 a3 : Nat → Int32) (k : Nat) : Int32 := (a1 k ||| (a3 k <<< ((2 : Int32) &&& 31))) ||| (a2 k <<< ((8 : Int32) &&& 31))
def rc_tape (a1 a2 a3 a4 : Nat → Int32) (s n : Nat) (b : Nat → Int32) : Prop := ∀ c, c < n → b (rc_off (rc_g a1 a3 s) c) = rc_hdr a1 a2 a3 (4 * s + c) ∧ ∀ i, i < rc_g a1 a3 s c → b (rc_off (rc_g a1 a3 s) c + 1 + i) = a4 (8 * (4 * s + c) + i)
theorem rc_tape_keep {a1 a2 a3 a4 b d : Nat → Int32} {s n : Nat} (h : rc_tape a1 a2 a3 a4 s n b) (e : ∀ j, j < rc_off (rc_g a1 a3 s) n → d j = b j) : rc_tape a1 a2 a3 a4 s n d := by
  intro c hc
  have hl := rc_off_lt (g := rc_g a1 a3 s) hc
  obtain ⟨u1, u2⟩ := h c hc
  refine ⟨(e _ (by omega)).trans u1, fun i hi => (e _ (by omega)).trans (u2 i hi)⟩
theorem rc_cells {post : Int32 → Prop} {tp : Int32} {a1 a2 a3 a4 a5 a6 a7 : Nat → Int32} {k f p : Nat} (hk : k < 12) (hf : f < 3) (hp : p ≤ 8) (h1 : a1 k = nI f) (h3 : a3 k = nI p) (H : post (nI (rc_cc (a1 k) (a3 k)))) : wpX_cellsOf post (tp, a1, a2, a3, a4, a5, a6, a7) (nI k) := by
  unfold wpX_cellsOf
  dsimp only
  rw [nI_clamp (show k < 2 ^ 31 by omega)]
  refine ⟨pk_in k 12 hk, ?_⟩
  rw [h1, h3] at H
  rcases (show f = 0 ∨ f = 1 ∨ f = 2 by omega) with e | e | e
  · subst e
    rw [rc_cc_0 hp] at H
    refine br_f (by rw [h1]; exact rc_n01) ⟨pk_in k 12 hk, br_t h1 ⟨pk_in k 12 hk, ?_⟩⟩
    rw [h3]
    exact H
  · subst e
    rw [rc_cc_1] at H
    exact br_t h1 H
  · subst e
    rw [rc_cc_2 hp] at H
    refine br_f (by rw [h1]; exact rc_n21) ⟨pk_in k 12 hk, br_f (by rw [h1]; exact rc_n20) ⟨pk_in k 12 hk, ?_⟩⟩
    rw [h3, rc_i2]
    exact H
theorem rc_write80 {post : Int32 → St2 → Prop} {J : Int32 → Int32 → (Nat → Int32) → (Nat → Int32) → (Nat → Int32) → (Nat → Int32) → (Nat → Int32) → (Nat → Int32) → (Nat → Int32) → Prop} {x1 : Int32} {a1 a2 a3 a4 a5 a6 b0 : Nat → Int32} {k o G : Nat} (hk : k < 12) (hG : G ≤ 8) (ho : o ≤ 27)
    (H : ∀ b, (∀ j, j < o + 1 → b j = b0 j) → (∀ i, i < G → b (o + 1 + i) = a4 (8 * k + i)) → J (nI (k + 1)) (nI (o + 1 + G)) a1 a2 a3 a4 a5 a6 b) :
    ∃ fu, wX_write_80 post J x1 (nI k) (nI G) fu 0 (nI (o + 1)) a1 a2 a3 a4 a5 a6 b0 := by
  refine pk_loop (fun m i b => wX_write_80 post J x1 (nI k) (nI G) m (nI i) (nI (o + 1 + i)) a1 a2 a3 a4 a5 a6 b) (fun i b => (∀ j, j < o + 1 → b j = b0 j) ∧ (∀ i', i' < i → b (o + 1 + i') = a4 (8 * k + i'))) G 0 b0 (by omega) ⟨fun _ _ => rfl, fun i' hi => absurd hi (by omega)⟩ ?_ ?_
  · intro m b h
    exact pk_le G G (fun _ => nm_r (nI_1 k) (H b h.1 h.2)) (fun z => absurd z (by omega))
  · intro m i b hi h hw
    refine pk_le G i (fun z => absurd z (by omega)) (fun _ => ⟨pk_in (8 * k + i) 96 (by omega) (rc_i8 k i), pk_in (o + 1 + i) 44 (by omega), rc_st rfl (by omega) (rc_rd a4 (rc_i8 k i) (by omega)) (nm_r (nI_1 (o + 1 + i)) (nm_r (nI_1 i) (hw _ ⟨fun j hj => ?_, fun i' hi' => ?_⟩)))⟩)
    · rw [pk_un (by omega)]
      exact h.1 j hj
    · by_cases e : i' = i
      · rw [e, pk_us]
      · rw [pk_un (by omega)]
        exact h.2 i' (by omega)
theorem rc_write {post : Int32 → St2 → Prop} {tp : Int32} {a1 a2 a3 a4 a5 a6 a7 : Nat → Int32} {s : Nat} {M : Nat → Nat → Bool} (hs : s < 3) (h : rc_ok M a1 a2 a3 a4)
    (H : ∀ T b, 0 < T → T ≤ 36 → rc_tape a1 a2 a3 a4 s 4 b → post 0 (nI T, a1, a2, a3, a4, a5, a6, b)) : wpX_write post (tp, a1, a2, a3, a4, a5, a6, a7) (nI s) := by
  unfold wpX_write
  dsimp only
  have hg : ∀ c, c < 4 → rc_g a1 a3 s c ≤ 8 := fun c hc => (rc_rep_cc (h s c hs hc).2).1
  refine rc_isSet hs (br_f (by decide) (nm_r (e' := nI (4 * s)) (pk_mul 4 s) ?_))
  refine pk_loop (fun n c b => wX_write_18 post (nI s) n (nI (4 * s + c)) (nI (rc_off (rc_g a1 a3 s) c)) a1 a2 a3 a4 a5 a6 b) (fun c b => rc_tape a1 a2 a3 a4 s c b) 4 0 a7 (by omega) (fun c hc => absurd hc (by omega)) ?_ ?_
  · intro n b hb
    have h1 := rc_off_le (n := 4) hg
    have h2 := rc_off_lt (g := rc_g a1 a3 s) (c := 0) (n := 4) (by omega)
    exact pk_le (4 * s + 4) (4 * s + 4) (fun _ => H _ b (by omega) (by omega) hb) (fun z => absurd z (by omega)) (rc_i4 s 4)
  · intro n c b hc hb hw
    have ho := rc_off_le (g := rc_g a1 a3 s) (n := c) (fun c' hc' => hg c' (by omega))
    obtain ⟨f, p, hf, hp, e1, e3⟩ := (rc_rep_cc (h s c hs hc).2).2
    refine pk_le (4 * s + 4) (4 * s + c) (fun z => absurd z (by omega)) (fun _ => ?_) (rc_i4 s 4)
    rw [nI_clamp (show 4 * s + c < 2 ^ 31 by omega)]
    refine ⟨pk_in (4 * s + c) 12 (by omega), pk_in (4 * s + c) 12 (by omega), pk_in (4 * s + c) 12 (by omega), pk_in (rc_off (rc_g a1 a3 s) c) 44 (by omega), rc_st (v' := rc_hdr a1 a2 a3 (4 * s + c)) rfl (by omega) rfl (nm_r (nI_1 _) (rc_cells (by omega) hf hp e1 e3 (rc_write80 (by omega) (hg c hc) (by omega) (fun d hd1 hd2 => hw d ?_))))⟩
    intro c' hc'
    by_cases e : c' = c
    · rw [e]
      refine ⟨?_, hd2⟩
      rw [hd1 _ (by omega), pk_us]
    · exact rc_tape_keep hb (fun j hj => by rw [hd1 j (by omega), pk_un (by omega)]) c' (by omega)
theorem rc_or0 : ∀ f, f < 3 → ∀ p, p < 9 → nI f ||| (nI p <<< ((2 : Int32) &&& 31)) = nI (f + 4 * p) := by decide +kernel
theorem rc_or1 : ∀ m, m < 35 → ∀ z, z < 129 → nI m ||| (nI z <<< ((8 : Int32) &&& 31)) = nI (m + 256 * z) := by decide +kernel
theorem rc_dec {a1 a2 a3 : Nat → Int32} {k f p z : Nat} (hf : f < 3) (hp : p ≤ 8) (hz : z ≤ 128) (e1 : a1 k = nI f) (e3 : a3 k = nI p) (e2 : a2 k = nI z) : rc_hdr a1 a2 a3 k &&& 3 = a1 k ∧ (rc_hdr a1 a2 a3 k >>> ((2 : Int32) &&& 31)) &&& 63 = a3 k ∧ rc_hdr a1 a2 a3 k >>> ((8 : Int32) &&& 31) = a2 k := by
  have hh : rc_hdr a1 a2 a3 k = nI (f + 4 * p + 256 * z) := by
    unfold rc_hdr
    rw [e1, e2, e3, rc_or0 f hf p (by omega), rc_or1 _ (by omega) z (by omega)]
  rw [hh, e1, e2, e3, pk_andN (by omega) 2 (by decide), pk_shrN (by omega) _ 2 (by decide), pk_shrN (by omega) _ 8 (by decide), pk_andN (by omega) 6 (by decide)]
  refine ⟨congrArg nI ?_, congrArg nI ?_, congrArg nI ?_⟩ <;> omega
theorem rc_read93 {post : Int32 → St2 → Prop} {J : Int32 → Int32 → (Nat → Int32) → (Nat → Int32) → (Nat → Int32) → (Nat → Int32) → (Nat → Int32) → (Nat → Int32) → (Nat → Int32) → Prop} {x1 tp : Int32} {a1 a2 a3 d0 a5 a6 a7 : Nat → Int32} {k o G : Nat} (hk : k < 12) (hG : G ≤ 8) (ho : o ≤ 27)
    (H : ∀ d, (∀ j, (j < 8 * k ∨ 8 * k + 8 ≤ j) → d j = d0 j) → (∀ i, i < G → d (8 * k + i) = a7 (o + 1 + i)) → J (nI (o + 1 + G)) (nI (k + 1)) a1 a2 a3 d a5 a6 a7) :
    ∃ fu, wX_read_93 post J x1 (nI k) (nI G) tp fu (nI (o + 1)) 0 a1 a2 a3 d0 a5 a6 a7 := by
  refine pk_loop (fun m i d => wX_read_93 post J x1 (nI k) (nI G) tp m (nI (o + 1 + i)) (nI i) a1 a2 a3 d a5 a6 a7) (fun i d => (∀ j, (j < 8 * k ∨ 8 * k + 8 ≤ j) → d j = d0 j) ∧ (∀ i', i' < i → d (8 * k + i') = a7 (o + 1 + i'))) G 0 d0 (by omega) ⟨fun _ _ => rfl, fun i' hi => absurd hi (by omega)⟩ ?_ ?_
  · intro m d h
    exact pk_le G G (fun _ => nm_r (nI_1 k) (H d h.1 h.2)) (fun z => absurd z (by omega))
  · intro m i d hi h hw
    refine pk_le G i (fun z => absurd z (by omega)) (fun _ => ⟨pk_in (o + 1 + i) 44 (by omega), pk_in (8 * k + i) 96 (by omega) (rc_i8 k i), rc_st (rc_i8 k i) (by omega) (rc_rd a7 rfl (by omega)) (nm_r (nI_1 (o + 1 + i)) (nm_r (nI_1 i) (hw _ ⟨fun j hj => ?_, fun i' hi' => ?_⟩)))⟩)
    · rw [pk_un (by omega)]
      exact h.1 j hj
    · by_cases e : i' = i
      · rw [e, pk_us]
      · rw [pk_un (by omega)]
        exact h.2 i' (by omega)
theorem rc_read {post : Int32 → St2 → Prop} {a1 a2 a3 a4 a5 a6 a7 : Nat → Int32} {s t T : Nat} {M : Nat → Nat → Bool} (hs : s < 3) (ht : t < 3) (hT : 0 < T) (hT2 : T ≤ 36) (h : rc_ok M a1 a2 a3 a4) (htape : rc_tape a1 a2 a3 a4 s 4 a7)
    (H : ∀ b1 b2 b3 b4, rc_ok (fun s' x => if s' = t then M s x else M s' x) b1 b2 b3 b4 → post (nI (rc_cnt (M s) 512)) (nI T, b1, b2, b3, b4, a5, a6, a7)) : wpX_read post (nI T, a1, a2, a3, a4, a5, a6, a7) (nI t) := by
  unfold wpX_read
  dsimp only
  have hg : ∀ c, c < 4 → rc_g a1 a3 s c ≤ 8 := fun c hc => (rc_rep_cc (h s c hs hc).2).1
  refine rc_isSet ht (br_f (by decide) (br_f (nI_ne0 hT (by omega)) (nm_r (e' := nI (4 * t)) (pk_mul 4 t) ?_)))
  refine pk_loop (σ := (Nat → Int32) × (Nat → Int32) × (Nat → Int32) × (Nat → Int32)) (fun n c u => wX_read_25 post (nI t) (nI T) n (nI (rc_off (rc_g a1 a3 s) c)) (nI (4 * t + c)) u.1 u.2.1 u.2.2.1 u.2.2.2 a5 a6 a7)
    (fun c u => (∀ j, (j < 4 * t ∨ 4 * t + 4 ≤ j) → u.1 j = a1 j ∧ u.2.1 j = a2 j ∧ u.2.2.1 j = a3 j) ∧ (∀ j, (j < 32 * t ∨ 32 * t + 32 ≤ j) → u.2.2.2 j = a4 j) ∧ ∀ c', c' < c → u.1 (4 * t + c') = a1 (4 * s + c') ∧ u.2.1 (4 * t + c') = a2 (4 * s + c') ∧ u.2.2.1 (4 * t + c') = a3 (4 * s + c') ∧ ∀ i, i < rc_g a1 a3 s c' → u.2.2.2 (8 * (4 * t + c') + i) = a4 (8 * (4 * s + c') + i)) 4 0 (a1, a2, a3, a4) (by omega) ⟨fun _ _ => ⟨rfl, rfl, rfl⟩, fun _ _ => rfl, fun c hc => absurd hc (by omega)⟩ ?_ ?_
  · rintro n ⟨b1, b2, b3, b4⟩ ⟨i1, i2, i3⟩
    dsimp only at i1 i2 i3
    have hk : rc_ok (fun s' x => if s' = t then M s x else M s' x) b1 b2 b3 b4 := by
      intro s' c hs' hc
      by_cases e : s' = t
      · obtain ⟨g1, g2, g3, g4⟩ := i3 c hc
        obtain ⟨u1, u2⟩ := h s c hs hc
        rw [e]
        refine ⟨?_, rc_rep_move u2 g1 g3 g4 (fun x _ => if_pos rfl)⟩
        rw [g2, u1]
        exact congrArg nI (rc_cnt_congr (fun x _ => (if_pos rfl).symm))
      · obtain ⟨g1, g2, g3⟩ := i1 (4 * s' + c) (by omega)
        obtain ⟨u1, u2⟩ := h s' c hs' hc
        have hl := (rc_rep_cc u2).1
        refine ⟨?_, rc_rep_move u2 g1 g3 (fun i hi => i2 _ (by omega)) (fun x _ => if_neg e)⟩
        rw [g2, u1]
        exact congrArg nI (rc_cnt_congr (fun x _ => (if_neg e).symm))
    have g := H b1 b2 b3 b4 hk
    refine pk_le (4 * t + 4) (4 * t + 4) (fun _ => rc_total ht hk ?_) (fun z => absurd z (by omega)) (rc_i4 t 4)
    have e : rc_cnt (fun x => if t = t then M s x else M t x) 512 = rc_cnt (M s) 512 := rc_cnt_congr (fun x _ => if_pos rfl)
    dsimp only
    rw [e]
    exact g
  · rintro n c ⟨b1, b2, b3, b4⟩ hc ⟨i1, i2, i3⟩ hw
    dsimp only at i1 i2 i3
    have ho := rc_off_le (g := rc_g a1 a3 s) (n := c) (fun c' hc' => hg c' (by omega))
    obtain ⟨t1, t2⟩ := htape c hc
    obtain ⟨u1, u2⟩ := h s c hs hc
    obtain ⟨f, p, hf, hp, e1, e3⟩ := (rc_rep_cc u2).2
    have hz := rc_cnt_le (fun x => M s (128 * c + x)) 128
    obtain ⟨k1, k3, k2⟩ := rc_dec hf hp hz e1 e3 u1
    refine pk_le (4 * t + 4) (4 * t + c) (fun z => absurd z (by omega)) (fun _ => ?_) (rc_i4 t 4)
    dsimp only
    rw [nI_clamp (show 4 * t + c < 2 ^ 31 by omega), nI_clamp (show rc_off (rc_g a1 a3 s) c < 2 ^ 31 by omega), t1, k1, k2, k3]
    refine ⟨pk_in (rc_off (rc_g a1 a3 s) c) 44 (by omega), pk_in (4 * t + c) 12 (by omega), nm_e ⟨pk_in (rc_off (rc_g a1 a3 s) c) 44 (by omega), pk_in (4 * t + c) 12 (by omega), nm_e ⟨pk_in (rc_off (rc_g a1 a3 s) c) 44 (by omega), pk_in (4 * t + c) 12 (by omega), nm_e (nm_r (nI_1 _) (rc_cells (f := f) (p := p) (by omega) hf hp (pk_us.trans e1) (pk_us.trans e3) ?_))⟩⟩⟩
    rw [pk_us, pk_us]
    refine rc_read93 (by omega) (hg c hc) (by omega) (fun d hd1 hd2 => hw (_, _, _, d) ⟨fun j hj => ?_, fun j hj => ?_, fun c' hc' => ?_⟩)
    · obtain ⟨g1, g2, g3⟩ := i1 j hj
      refine ⟨?_, ?_, ?_⟩
      · show upd b1 (4 * t + c) _ j = a1 j
        rw [pk_un (by omega)]
        exact g1
      · show upd b2 (4 * t + c) _ j = a2 j
        rw [pk_un (by omega)]
        exact g2
      · show upd b3 (4 * t + c) _ j = a3 j
        rw [pk_un (by omega)]
        exact g3
    · show d j = a4 j
      rw [hd1 j (by omega)]
      exact i2 j hj
    · by_cases e : c' = c
      · rw [e]
        exact ⟨pk_us, pk_us, pk_us, fun i hi => (hd2 i hi).trans (t2 i hi)⟩
      · obtain ⟨g1, g2, g3, g4⟩ := i3 c' (by omega)
        have hl := hg c' (by omega)
        refine ⟨?_, ?_, ?_, fun i hi => ?_⟩
        · show upd b1 (4 * t + c) _ (4 * t + c') = _
          rw [pk_un (by omega)]
          exact g1
        · show upd b2 (4 * t + c) _ (4 * t + c') = _
          rw [pk_un (by omega)]
          exact g2
        · show upd b3 (4 * t + c) _ (4 * t + c') = _
          rw [pk_un (by omega)]
          exact g3
        · show d (8 * (4 * t + c') + i) = _
          rw [hd1 _ (by omega)]
          exact g4 i hi
end
section
/-! gap -/
theorem rc_gap109 {post : Int32 → Prop} {tp : Int32} {a1 a2 a3 a4 a5 a6 a7 : Nat → Int32} {k n : Nat} {S : Nat → Bool} (hk : k < 12) (hn : n ≤ 8) (h3 : a3 k = nI n) (hr : rc_list a4 k n 128 S) (H : ∀ m, m ≤ 128 → (∀ x, x < m → S x = true) → (m < 128 → S m = false) → post (nI m)) :
    ∃ fu, wX_gapIn_109 post (nI k) (nI (8 * k)) tp a1 a2 a3 a4 a5 a6 a7 fu (nI 0) 0 := by
  have ck : (nI k).toNatClampNeg = k := nI_clamp (by omega)
  obtain ⟨e, he, hs, hS⟩ := hr
  refine pk_loop (fun m i q => wX_gapIn_109 post (nI k) (nI (8 * k)) tp a1 a2 a3 a4 a5 a6 a7 m (nI q) (nI i)) (fun i q => q ≤ 128 ∧ (∀ x, x < q → S x = true) ∧ ∀ j, j < i → e j ≠ q) n 0 0 (by omega) ⟨by omega, fun x hx => absurd hx (by omega), fun j hj => absurd hj (by omega)⟩ ?_ ?_
  · rintro m q ⟨h1, h2, h4⟩
    refine ⟨pk_in k 12 hk, ?_⟩
    rw [ck, h3]
    refine pk_le n n (fun _ => H q h1 h2 (fun hq => ?_)) (fun z => absurd z (by omega))
    cases g : S q
    · rfl
    · obtain ⟨i, hi, ei⟩ := (hS q hq).mp g
      exact absurd ei (h4 i hi)
  · rintro m i q hi ⟨h1, h2, h4⟩ hw
    obtain ⟨d1, d2⟩ := he i hi
    refine ⟨pk_in k 12 hk, ?_⟩
    rw [ck, h3]
    refine pk_le n i (fun z => absurd z (by omega)) (fun _ => ⟨pk_in (8 * k + i) 96 (by omega) (nI_add (8 * k) i), ?_⟩)
    rw [rc_rd a4 (nI_add (8 * k) i) (by omega), d1]
    refine pk_eq (e i) q (fun z => nm_r (nI_1 q) (nm_r (nI_1 i) (hw (q + 1) ⟨by omega, fun x hx => ?_, fun j hj => ?_⟩))) (fun z => nm_r (nI_1 i) (hw q ⟨h1, h2, fun j hj => ?_⟩))
    · by_cases g : x = q
      · exact (hS x (by omega)).mpr ⟨i, hi, by omega⟩
      · exact h2 x (by omega)
    · by_cases g : j = i
      · rw [g]
        omega
      · have := hs j i (by omega) hi
        omega
    · by_cases g : j = i
      · rw [g]
        exact z
      · exact h4 j (by omega)
theorem rc_gap21 {post : Int32 → Prop} {tp : Int32} {a1 a2 a3 a4 a5 a6 a7 : Nat → Int32} {k n : Nat} {S : Nat → Bool} (hk : k < 12) (hn : n ≤ 4) (h3 : a3 k = nI n) (hr : rc_runs a4 k n 128 S) (H : ∀ m, m ≤ 128 → (∀ x, x < m → S x = true) → (m < 128 → S m = false) → post (nI m)) :
    ∃ fu, wX_gapIn_21 post (nI k) (nI (8 * k)) tp a1 a2 a3 a4 a5 a6 a7 fu (nI 0) 0 := by
  have ck : (nI k).toNatClampNeg = k := nI_clamp (by omega)
  obtain ⟨f, t, hd, hs, hS⟩ := hr
  refine pk_loop (fun m i q => wX_gapIn_21 post (nI k) (nI (8 * k)) tp a1 a2 a3 a4 a5 a6 a7 m (nI q) (nI i)) (fun i q => q ≤ 128 ∧ (∀ x, x < q → S x = true) ∧ ∀ j, j < i → ¬ (f j ≤ q ∧ q ≤ t j)) n 0 0 (by omega) ⟨by omega, fun x hx => absurd hx (by omega), fun j hj => absurd hj (by omega)⟩ ?_ ?_
  · rintro m q ⟨h1, h2, h4⟩
    refine ⟨pk_in k 12 hk, ?_⟩
    rw [ck, h3]
    refine pk_le n n (fun _ => H q h1 h2 (fun hq => ?_)) (fun z => absurd z (by omega))
    cases g : S q
    · rfl
    · obtain ⟨i, hi, ei⟩ := (hS q hq).mp g
      exact absurd ei (h4 i hi)
  · rintro m i q hi ⟨h1, h2, h4⟩ hw
    obtain ⟨d1, d2, d3, d4⟩ := hd i hi
    have x1 : nI (8 * k) + 2 * nI i = nI (8 * k + 2 * i) := by rw [rc_i2, nI_add]
    have x2 : nI (8 * k) + 2 * nI i + 1 = nI (8 * k + 2 * i + 1) := by rw [x1, nI_1]
    have K : ¬ (f i ≤ q ∧ q ≤ t i) → ∀ j, j < i + 1 → ¬ (f j ≤ q ∧ q ≤ t j) := by
      intro z j hj
      by_cases g : j = i
      · rw [g]
        exact z
      · exact h4 j (by omega)
    refine ⟨pk_in k 12 hk, ?_⟩
    rw [ck, h3]
    refine pk_le n i (fun z => absurd z (by omega)) (fun _ => ⟨pk_in (8 * k + 2 * i) 96 (by omega) x1, ?_⟩)
    rw [rc_rd a4 x1 (by omega), rc_rd a4 x2 (by omega), d1, d2]
    refine pk_lt q (f i) (fun z => nm_r (nI_1 i) (hw q ⟨h1, h2, K (by omega)⟩)) (fun z => ⟨pk_in (8 * k + 2 * i + 1) 96 (by omega) x2, pk_lt (t i) q (fun z2 => nm_r (nI_1 i) (hw q ⟨h1, h2, K (by omega)⟩)) (fun z2 => ⟨pk_in (8 * k + 2 * i + 1) 96 (by omega) x2, nm_r (nI_1 (t i)) (nm_r (nI_1 i) (hw (t i + 1) ⟨by omega, fun x hx => ?_, fun j hj => ?_⟩))⟩)⟩)
    · by_cases g : x < q
      · exact h2 x g
      · exact (hS x (by omega)).mpr ⟨i, hi, by omega, by omega⟩
    · by_cases g : j = i
      · rw [g]
        omega
      · have := hs j i (by omega) hi
        omega
theorem rc_gap154 {post : Int32 → Prop} {tp : Int32} {a1 a2 a3 a4 a5 a6 a7 : Nat → Int32} {k : Nat} {S : Nat → Bool} (hk : k < 12) (hS : ∀ x, x < 128 → rb_t (a4 (8 * k + x / 32)) (x % 32) = S x) (H : ∀ m, m ≤ 128 → (∀ x, x < m → S x = true) → (m < 128 → S m = false) → post (nI m)) :
    ∃ fu, wX_gapIn_154 post (nI (8 * k)) tp a1 a2 a3 a4 a5 a6 a7 fu (nI 0) := by
  refine pk_loop (σ := Unit) (fun m i _ => wX_gapIn_154 post (nI (8 * k)) tp a1 a2 a3 a4 a5 a6 a7 m (nI i)) (fun i _ => ∀ x, x < i → S x = true) 128 0 () (by omega) (fun x hx => absurd hx (by omega)) ?_ ?_
  · intro m _ h
    exact pk_le 128 128 (fun _ => H 128 (by omega) h (fun z => absurd z (by omega))) (fun z => absurd z (by omega))
  · intro m i _ hi h hw
    refine pk_le 128 i (fun z => absurd z (by omega)) (fun _ => ?_)
    rw [rc_shr5 (show i < 2 ^ 31 by omega), rc_and31 (show i < 2 ^ 31 by omega), nI_add (8 * k) (i / 32), nI_clamp (show 8 * k + i / 32 < 2 ^ 31 by omega)]
    refine ⟨pk_in (8 * k + i / 32) 96 (by omega), br_c (fun e => nm_r (nI_1 i) (hw () (fun x hx => ?_))) (fun e => H i (by omega) h (fun _ => ?_))⟩
    · by_cases g : x = i
      · rw [g, ← hS i hi]
        exact (rb_bit _ (by omega)).mp e
      · exact h x (by omega)
    · cases g : S i
      · rfl
      · rw [← hS i hi] at g
        exact absurd ((rb_bit _ (by omega)).mpr g) e
theorem rc_gapIn {post : Int32 → Prop} {tp : Int32} {a1 a2 a3 a4 a5 a6 a7 : Nat → Int32} {k : Nat} {S : Nat → Bool} (hk : k < 12) (hr : rc_rep a1 a3 a4 k S) (H : ∀ m, m ≤ 128 → (∀ x, x < m → S x = true) → (m < 128 → S m = false) → post (nI m)) :
    wpX_gapIn post (tp, a1, a2, a3, a4, a5, a6, a7) (nI k) (nI 0) := by
  unfold wpX_gapIn
  dsimp only
  refine nm_r (e' := nI (8 * k)) (pk_mul 8 k) ⟨pk_in k 12 hk, ?_⟩
  rw [nI_clamp (show k < 2 ^ 31 by omega)]
  rcases hr with ⟨h1, n, hn, h3, h4⟩ | ⟨h1, h3, h4⟩ | ⟨h1, n, hn, h3, h4⟩
  · exact br_f (by rw [h1]; exact rc_n02) ⟨pk_in k 12 hk, br_t h1 (rc_gap109 hk hn h3 h4 H)⟩
  · exact br_f (by rw [h1]; exact rc_n12) ⟨pk_in k 12 hk, br_f (by rw [h1]; exact rc_n10) (rc_gap154 hk h4 H)⟩
  · exact br_t h1 (rc_gap21 hk hn h3 h4 H)
theorem rc_gap {post : Int32 → Prop} {tp : Int32} {a1 a2 a3 a4 a5 a6 a7 : Nat → Int32} {s : Nat} {M : Nat → Nat → Bool} (hs : s < 3) (h : rc_ok M a1 a2 a3 a4) (H1 : ∀ m, m < 512 → (∀ x, x < m → M s x = true) → M s m = false → post (nI m)) (H2 : (∀ x, x < 512 → M s x = true) → post (-3)) :
    wpX_gap post (tp, a1, a2, a3, a4, a5, a6, a7) (nI s) 0 := by
  unfold wpX_gap
  dsimp only
  refine rc_isSet hs (br_f (by decide) ?_)
  have hnum : ∀ {Q : Int32 → Prop}, Q 1 → wpX_isNumber Q () 0 := by
    intro Q q
    unfold wpX_isNumber
    exact br_f (by decide) (br_f (by decide) q)
  refine hnum (br_f (by decide) (nm_r (e' := nI 0) (by decide) ?_))
  refine pk_loop (σ := Unit) (fun n c _ => wX_gap_27 post (nI s) tp a1 a2 a3 a4 a5 a6 a7 n (nI (128 * c)) (nI c)) (fun c _ => ∀ x, x < 128 * c → M s x = true) 4 0 () (by omega) (fun x hx => absurd hx (by omega)) ?_ ?_
  · intro n _ hx
    exact pk_le 4 4 (fun _ => H2 hx) (fun z => absurd z (by omega))
  · intro n c _ hc hx hw
    refine pk_le 4 c (fun z => absurd z (by omega)) (fun _ => ?_)
    rw [rc_i4 s c, rc_i128 c, pk_sub (Nat.le_refl _), Nat.sub_self]
    refine rc_gapIn (by omega) (h s c hs hc).2 (fun m hm h1 h2 => pk_le 128 m (fun z => nm_r (e' := nI (128 * (c + 1))) ?_ (nm_r (nI_1 c) (hw () (fun x hx' => ?_)))) (fun z => ?_))
    · show nI (128 * c) + nI 128 = _
      rw [nI_add]
      exact congrArg nI (by omega)
    · by_cases g : x < 128 * c
      · exact hx x g
      · have e := h1 (x - 128 * c) (by omega)
        rw [show 128 * c + (x - 128 * c) = x by omega] at e
        exact e
    · rw [nI_add]
      refine H1 (128 * c + m) (by omega) (fun x hx' => ?_) (h2 z)
      by_cases g : x < 128 * c
      · exact hx x g
      · have e := h1 (x - 128 * c) (by omega)
        rw [show 128 * c + (x - 128 * c) = x by omega] at e
        exact e
end
section
/-! the law -/
def rl_M (P Q R : Nat → Bool) (s x : Nat) : Bool := if s = 0 then P x else if s = 1 then Q x else R x
def rl_v (x y fl : Int32) : Prop := (fl = 1 ∧ ∃ a b : Nat, a ≤ b ∧ b < 512 ∧ x = nI a ∧ y = nI b) ∨ (fl = 0 ∧ (x < 0 ∨ y < x ∨ 511 < y))
def rl_iv (x y fl v : Int32) (P : Nat → Bool) : Prop := (fl = 1 ∧ ∃ a b : Nat, a ≤ b ∧ b < 512 ∧ x = nI a ∧ y = nI b ∧ v = nI (b + 1 - a) ∧ P = fun i => decide (a ≤ i ∧ i ≤ b)) ∨ (fl = 0 ∧ (x < 0 ∨ y < x ∨ 511 < y) ∧ v = 0 ∧ P = fun _ => false)
theorem rl_cnt {x y fl v : Int32} {P : Nat → Bool} (h : rl_iv x y fl v P) : v = nI (rc_cnt P 512) := by
  rcases h with ⟨_, a, b, hab, hb, _, _, rfl, rfl⟩ | ⟨_, _, rfl, rfl⟩
  · rw [rc_cnt_iv]
    exact congrArg nI (by omega)
  · rw [rc_cnt_none (fun _ _ => rfl)]
    rfl
theorem rl_ex {x y fl : Int32} (h : rl_v x y fl) : ∃ P, (fl = 0 → rl_iv x y fl 0 P) ∧ (¬ fl = 0 → rl_iv x y fl ((y - x) + 1) P) := by
  rcases h with ⟨e, a, b, hab, hb, rfl, rfl⟩ | ⟨e, hn⟩
  · refine ⟨fun i => decide (a ≤ i ∧ i ≤ b), fun z => ?_, fun _ => Or.inl ⟨e, a, b, hab, hb, rfl, rfl, ?_, rfl⟩⟩
    · rw [e] at z
      exact absurd z (by decide)
    · rw [pk_sub hab, nI_1]
      exact congrArg nI (by omega)
  · exact ⟨fun _ => false, fun _ => Or.inr ⟨e, hn, rfl, rfl⟩, fun z => absurd e z⟩
theorem rl_402 {post : Int32 → St0 → Prop} {mc ms kc ks : Nat} {z0 : Int32} {tp : Int32} {a1 a2 a3 a4 a5 a6 a7 : Nat → Int32} {P Q : Nat → Bool} (hp : post 1 ()) (h : rc_ok (rl_M P Q Q) a1 a2 a3 a4) (hz : (∃ m, m < 512 ∧ (∀ x, x < m → Q x = true) ∧ Q m = false ∧ z0 = nI m) ∨ ((∀ x, x < 512 → Q x = true) ∧ z0 = -3)) : wL_lawOf_402 post mc ms z0 kc ks tp a1 a2 a3 a4 a5 a6 a7 := by
  unfold wL_lawOf_402
  have e1 : rc_cnt (fun x => rl_M P Q Q 1 x && rl_M P Q Q 2 x) 512 = rc_cnt (rl_M P Q Q 1) 512 := rc_cnt_congr (fun x _ => Bool.and_self (Q x))
  have e2 : rc_cnt (rl_M P Q Q 1) 512 = rc_cnt (rl_M P Q Q 2) 512 := rfl
  refine rc_gap (s := 2) (by omega) h (fun m hm h1 h2 => br_t ?_ (rc_same (s := 1) (t := 2) (by omega) (by omega) h (fun b => br_t (if_pos ⟨e1, e2⟩) hp))) (fun hall => br_t ?_ (rc_same (s := 1) (t := 2) (by omega) (by omega) h (fun b => br_t (if_pos ⟨e1, e2⟩) hp)))
  · rcases hz with ⟨m', hm', g1, g2, rfl⟩ | ⟨g, rfl⟩
    · rcases Nat.lt_trichotomy m m' with z | z | z
      · have t := g1 m z
        exact absurd (t.symm.trans h2) (by decide)
      · rw [z]
      · have t : Q m' = true := h1 m' z
        exact absurd (t.symm.trans g2) (by decide)
    · have t := g m hm
      exact absurd (t.symm.trans h2) (by decide)
  · rcases hz with ⟨m', hm', g1, g2, rfl⟩ | ⟨g, rfl⟩
    · have t : Q m' = true := hall m' hm'
      exact absurd (t.symm.trans g2) (by decide)
    · rfl
theorem rl_401 {post : Int32 → St0 → Prop} {mc ms kc ks : Nat} {tp : Int32} {a1 a2 a3 a4 a5 a6 a7 : Nat → Int32} {P Q : Nat → Bool} (hp : post 1 ()) (h : rc_ok (rl_M P Q Q) a1 a2 a3 a4) (hz : Q 0 = false) : wL_lawOf_401 post mc ms kc ks tp a1 a2 a3 a4 a5 a6 a7 := by
  unfold wL_lawOf_401
  exact rl_402 hp h (Or.inl ⟨0, by omega, fun x hx => absurd hx (by omega), hz, rfl⟩)
theorem rl_347 {post : Int32 → St0 → Prop} {mc ms kc ks : Nat} {x2 x3 x7 x9 z0 z1 : Int32} {tp : Int32} {a1 a2 a3 a4 a5 a6 a7 : Nat → Int32} {P Q R : Nat → Bool} (hp : post 1 ()) (h : rc_ok (rl_M P Q R) a1 a2 a3 a4) (hq : rl_iv x2 x3 x7 x9 Q) (hz : z1 = z0) : wL_lawOf_347 post mc ms x2 x3 x7 x9 z0 z1 kc ks tp a1 a2 a3 a4 a5 a6 a7 := by
  unfold wL_lawOf_347
  refine br_t hz (rc_write (s := 1) (by omega) h (fun T b hT hT2 ht => br_t rfl (rc_read (s := 1) (t := 2) (by omega) (by omega) hT hT2 h ht (fun b1 b2 b3 b4 hk => br_t (rl_cnt hq).symm ?_))))
  have hk2 : rc_ok (rl_M P Q Q) b1 b2 b3 b4 := by
    refine rc_ok_congr hk (fun s x hs _ => ?_)
    rcases (show s = 0 ∨ s = 1 ∨ s = 2 by omega) with e | e | e
    · subst e
      rfl
    · subst e
      rfl
    · subst e
      rfl
  rcases hq with ⟨e7, c, d, hcd, hd, rfl, rfl, e9, rfl⟩ | ⟨e7, hn, e9, rfl⟩
  · refine br_f (by rw [e7]; decide) (pk_eq c 0 (fun e => pk_le 511 d (fun z => rl_402 hp hk2 (Or.inr ⟨fun x hx => decide_eq_true (by omega), rfl⟩)) (fun z => rl_402 hp hk2 (Or.inl ⟨d + 1, by omega, fun x hx => decide_eq_true (by omega), decide_eq_false (by omega), nI_1 d⟩))) (fun e => rl_401 hp hk2 (decide_eq_false (by omega))))
  · exact br_t e7 (rl_401 hp hk2 rfl)
theorem rl_325 {post : Int32 → St0 → Prop} {mc ms kc ks : Nat} {x2 x3 x4 x7 x9 x13 z0 : Int32} {tp : Int32} {a1 a2 a3 a4 a5 a6 a7 : Nat → Int32} {P Q R : Nat → Bool} (hp : post 1 ()) (h : rc_ok (rl_M P Q R) a1 a2 a3 a4) (hq : rl_iv x2 x3 x7 x9 Q) (hk : (x13 = 1 ∧ ∃ kd, kd < 4 ∧ x4 = nI kd ∧ z0 = nI (rc_cnt (fun x => rc_cb kd (P x) (Q x)) 512)) ∨ (x13 = 0 ∧ (x4 < 0 ∨ 3 < x4))) : wL_lawOf_325 post mc ms x2 x3 x4 x7 x9 x13 z0 kc ks tp a1 a2 a3 a4 a5 a6 a7 := by
  unfold wL_lawOf_325
  rcases hk with ⟨e, kd, hkd, rfl, ez⟩ | ⟨e, hn⟩
  · refine rc_join (s := 0) (t := 1) hkd (by omega) (by omega) (by omega) h (fun b1 b2 b3 b4 b5 hk => br_f (by rw [e]; decide) (rl_347 (P := fun x => rc_cb kd (P x) (Q x)) (Q := Q) (R := R) hp (rc_ok_congr hk (fun s x hs _ => ?_)) hq ez.symm))
    rcases (show s = 0 ∨ s = 1 ∨ s = 2 by omega) with e | e | e
    · subst e
      rfl
    · subst e
      rfl
    · subst e
      rfl
  · exact rc_nojoin hn (br_t e (rl_347 hp h hq rfl))
theorem rl_272 {post : Int32 → St0 → Prop} {mc ms kc ks : Nat} {x2 x3 x4 x7 x8 x9 x12 z0 : Int32} {tp : Int32} {a1 a2 a3 a4 a5 a6 a7 : Nat → Int32} {P Q R : Nat → Bool} (hp : post 1 ()) (h : rc_ok (rl_M P Q R) a1 a2 a3 a4) (hq : rl_iv x2 x3 x7 x9 Q) (h8 : x8 = nI (rc_cnt P 512)) (h12 : x12 = nI (rc_cnt (fun x => P x && Q x) 512)) (hk : (z0 = 1 ∧ ∃ kd, kd < 4 ∧ x4 = nI kd) ∨ (z0 = 0 ∧ (x4 < 0 ∨ 3 < x4))) : wL_lawOf_272 post mc ms x2 x3 x4 x7 x8 x9 x12 z0 kc ks tp a1 a2 a3 a4 a5 a6 a7 := by
  unfold wL_lawOf_272
  have h9 := rl_cnt hq
  have k1 := rc_cnt_or P Q 512
  have k2 := rc_cnt_xor P Q 512
  have k3 := rc_cnt_diff P Q 512
  rcases hk with ⟨e, kd, hkd, rfl⟩ | ⟨e, hn⟩
  · refine pk_eq kd 0 (fun g => rl_325 hp h hq (Or.inl ⟨e, kd, hkd, rfl, ?_⟩)) (fun g0 => pk_eq kd 1 (fun g => rl_325 hp h hq (Or.inl ⟨e, kd, hkd, rfl, ?_⟩)) (fun g1 => pk_eq kd 2 (fun g => rl_325 hp h hq (Or.inl ⟨e, kd, hkd, rfl, ?_⟩)) (fun g2 => rl_325 hp h hq (Or.inl ⟨e, kd, hkd, rfl, ?_⟩))))
    · subst g
      exact h12
    · subst g
      rw [h8, h9, h12, nI_add, pk_sub (by omega)]
      refine congrArg nI ?_
      show _ = rc_cnt (fun x => P x || Q x) 512
      omega
    · subst g
      rw [h8, h9, h12, nI_add, rc_i2, pk_sub (by omega)]
      refine congrArg nI ?_
      show _ = rc_cnt (fun x => P x ^^ Q x) 512
      omega
    · have g3 : kd = 3 := by omega
      subst g3
      rw [h8, h12, pk_sub (by omega)]
      refine congrArg nI ?_
      show _ = rc_cnt (fun x => P x && !Q x) 512
      omega
  · exact br_c (fun _ => rl_325 hp h hq (Or.inr ⟨e, hn⟩)) (fun _ => br_c (fun _ => rl_325 hp h hq (Or.inr ⟨e, hn⟩)) (fun _ => br_c (fun _ => rl_325 hp h hq (Or.inr ⟨e, hn⟩)) (fun _ => rl_325 hp h hq (Or.inr ⟨e, hn⟩))))
theorem rl_251 {post : Int32 → St0 → Prop} {mc ms kc ks : Nat} {x2 x3 x4 x7 x8 x9 x12 z0 z1 : Int32} {tp : Int32} {a1 a2 a3 a4 a5 a6 a7 : Nat → Int32} {P Q R : Nat → Bool} (hp : post 1 ()) (h : rc_ok (rl_M P Q R) a1 a2 a3 a4) (hq : rl_iv x2 x3 x7 x9 Q) (h8 : x8 = nI (rc_cnt P 512)) (h12 : x12 = nI (rc_cnt (fun x => P x && Q x) 512)) (hz : z1 = z0) : wL_lawOf_251 post mc ms x2 x3 x4 x7 x8 x9 x12 z0 z1 kc ks tp a1 a2 a3 a4 a5 a6 a7 := by
  unfold wL_lawOf_251
  unfold wL_lawOf_271
  refine br_t hz (br_c (fun g => rl_272 hp h hq h8 h12 (Or.inr ⟨rfl, Or.inl g⟩)) (fun g0 => br_c (fun g => rl_272 hp h hq h8 h12 (Or.inr ⟨rfl, Or.inr g⟩)) (fun g3 => rl_272 hp h hq h8 h12 (Or.inl ⟨rfl, ?_⟩))))
  obtain ⟨j, hj, e⟩ := nI_of2 (x := x4) (M := 3) (n := 3) (by decide) g0 (Int32.not_lt.mp g3)
  exact ⟨j, by omega, e⟩
theorem rl_220 {post : Int32 → St0 → Prop} {mc ms kc ks : Nat} {x2 x3 x4 x7 x8 x9 x12 z0 z1 : Int32} {tp : Int32} {a1 a2 a3 a4 a5 a6 a7 : Nat → Int32} {P Q R : Nat → Bool} (hp : post 1 ()) (h : rc_ok (rl_M P Q R) a1 a2 a3 a4) (hq : rl_iv x2 x3 x7 x9 Q) (h8 : x8 = nI (rc_cnt P 512)) (h12 : x12 = nI (rc_cnt (fun x => P x && Q x) 512)) (hz : z1 = z0) : wL_lawOf_220 post mc ms x2 x3 x4 x7 x8 x9 x12 z0 z1 kc ks tp a1 a2 a3 a4 a5 a6 a7 := by
  unfold wL_lawOf_220
  unfold wL_lawOf_250
  have h9 := rl_cnt hq
  have lp := rc_cnt_le P 512
  have lq := rc_cnt_le Q 512
  have lb := rc_cnt_le (fun x => P x && Q x) 512
  have ec : rc_cnt (fun x => rl_M P Q R 1 x && rl_M P Q R 0 x) 512 = rc_cnt (fun x => P x && Q x) 512 := rc_cnt_congr (fun x _ => Bool.and_comm (Q x) (P x))
  have ep : rc_cnt (rl_M P Q R 0) 512 = rc_cnt P 512 := rfl
  have eq : rc_cnt (rl_M P Q R 1) 512 = rc_cnt Q 512 := rfl
  refine br_t hz (rc_same (s := 1) (t := 0) (by omega) (by omega) h (fun b => pk_eq _ _ (fun e => pk_eq _ _ (fun e' => rl_251 hp h hq h8 h12 (if_pos ?_)) (fun e' => rl_251 hp h hq h8 h12 (if_neg ?_)) h12 h9) (fun e => rl_251 hp h hq h8 h12 (if_neg ?_)) h12 h8))
  · rw [ec, ep, eq]
    omega
  · rw [ec, ep, eq]
    omega
  · rw [ec, ep, eq]
    omega
theorem rl_187 {post : Int32 → St0 → Prop} {mc ms kc ks : Nat} {x2 x3 x4 x7 x8 x9 z0 : Int32} {tp : Int32} {a1 a2 a3 a4 a5 a6 a7 : Nat → Int32} {P Q R : Nat → Bool} (hp : post 1 ()) (h : rc_ok (rl_M P Q R) a1 a2 a3 a4) (hq : rl_iv x2 x3 x7 x9 Q) (h8 : x8 = nI (rc_cnt P 512)) (h12 : z0 = nI (rc_cnt (fun x => P x && Q x) 512)) : wL_lawOf_187 post mc ms x2 x3 x4 x7 x8 x9 z0 kc ks tp a1 a2 a3 a4 a5 a6 a7 := by
  unfold wL_lawOf_187
  have lp := rc_cnt_le P 512
  have lb := rc_cnt_le (fun x => P x && Q x) 512
  refine rc_common (s := 0) (t := 1) (by omega) (by omega) h (fun b => br_t h12.symm (rc_within (s := 0) (t := 1) (by omega) (by omega) h (fun b' => pk_eq (rc_cnt (fun x => P x && Q x) 512) (rc_cnt P 512) (fun e => rl_220 hp h hq h8 h12 (if_pos e)) (fun e => rl_220 hp h hq h8 h12 (if_neg e)) h12 h8)))
theorem rl_157 {post : Int32 → St0 → Prop} {mc ms kc ks : Nat} {x2 x3 x4 x6 x7 x8 x9 x10 z0 : Int32} {tp : Int32} {a1 a2 a3 a4 a5 a6 a7 : Nat → Int32} {P Q R : Nat → Bool} (hp : post 1 ()) (h : rc_ok (rl_M P Q R) a1 a2 a3 a4) (hq : rl_iv x2 x3 x7 x9 Q) (h8 : x8 = nI (rc_cnt P 512)) (hb : (x6 = 0 → rc_cnt (fun x => P x && Q x) 512 = 0) ∧ (x7 = 0 → rc_cnt (fun x => P x && Q x) 512 = 0) ∧ (¬ x6 = 0 → ¬ x7 = 0 → (z0 < x10 → rc_cnt (fun x => P x && Q x) 512 = 0) ∧ (¬ z0 < x10 → (z0 - x10) + 1 = nI (rc_cnt (fun x => P x && Q x) 512)))) : wL_lawOf_157 post mc ms x2 x3 x4 x6 x7 x8 x9 x10 z0 kc ks tp a1 a2 a3 a4 a5 a6 a7 := by
  unfold wL_lawOf_157
  unfold wL_lawOf_186
  obtain ⟨b1, b2, b3⟩ := hb
  exact br_c (fun e => rl_187 hp h hq h8 (by rw [b1 e]; rfl)) (fun e => br_c (fun e' => rl_187 hp h hq h8 (by rw [b2 e']; rfl)) (fun e' => br_c (fun g => rl_187 hp h hq h8 (by rw [(b3 e e').1 g]; rfl)) (fun g => rl_187 hp h hq h8 ((b3 e e').2 g))))
theorem rl_both {x0 x1 x2 x3 x6 x7 x8 x9 lo hi : Int32} {P Q : Nat → Bool} (hP : rl_iv x0 x1 x6 x8 P) (hQ : rl_iv x2 x3 x7 x9 Q) (hlo : lo = if x0 ≤ x2 then x2 else x0) (hhi : hi = if x3 ≤ x1 then x3 else x1) : (x6 = 0 → rc_cnt (fun x => P x && Q x) 512 = 0) ∧ (x7 = 0 → rc_cnt (fun x => P x && Q x) 512 = 0) ∧ (¬ x6 = 0 → ¬ x7 = 0 → (hi < lo → rc_cnt (fun x => P x && Q x) 512 = 0) ∧ (¬ hi < lo → (hi - lo) + 1 = nI (rc_cnt (fun x => P x && Q x) 512))) := by
  rcases hP with ⟨e6, a, b, hab, hb, rfl, rfl, _, rfl⟩ | ⟨e6, _, _, rfl⟩
  · rcases hQ with ⟨e7, c, d, hcd, hd, rfl, rfl, _, rfl⟩ | ⟨e7, _, _, rfl⟩
    · have e1 : lo = nI (max a c) := by
        rw [hlo]
        by_cases g : a ≤ c
        · rw [if_pos (nI_le g (by omega)), Nat.max_eq_right g]
        · rw [if_neg (nI_ge (by omega) (by omega)), Nat.max_eq_left (by omega)]
      have e2 : hi = nI (min b d) := by
        rw [hhi]
        by_cases g : d ≤ b
        · rw [if_pos (nI_le g (by omega)), Nat.min_eq_right g]
        · rw [if_neg (nI_ge (by omega) (by omega)), Nat.min_eq_left (by omega)]
      have e3 : rc_cnt (fun x => decide (a ≤ x ∧ x ≤ b) && decide (c ≤ x ∧ x ≤ d)) 512 = min b d + 1 - max a c := by
        rw [rc_cnt_congr (Q := fun x => decide (max a c ≤ x ∧ x ≤ min b d)) (fun x _ => ?_), rc_cnt_iv]
        · omega
        · rw [Bool.eq_iff_iff]
          simp only [Bool.and_eq_true, decide_eq_true_eq]
          omega
      rw [e3, e1, e2]
      refine ⟨fun z => ?_, fun z => ?_, fun _ _ => ⟨fun z => ?_, fun z => ?_⟩⟩
      · rw [e6] at z
        exact absurd z (by decide)
      · rw [e7] at z
        exact absurd z (by decide)
      · rw [nI_ltI (by omega) (by omega)] at z
        omega
      · rw [nI_ltI (by omega) (by omega)] at z
        rw [pk_sub (by omega), nI_1]
        exact congrArg nI (by omega)
    · have e3 : rc_cnt (fun x => decide (a ≤ x ∧ x ≤ b) && false) 512 = 0 := rc_cnt_none (fun x _ => Bool.and_false _)
      exact ⟨fun _ => e3, fun _ => e3, fun _ z => absurd e7 z⟩
  · have e3 : rc_cnt (fun x => false && Q x) 512 = 0 := rc_cnt_none (fun x _ => rfl)
    exact ⟨fun _ => e3, fun _ => e3, fun z => absurd e6 z⟩
theorem rl_130 {post : Int32 → St0 → Prop} {mc ms kc ks : Nat} {x0 x1 x2 x3 x4 x6 x7 x8 x9 z0 z1 : Int32} {tp : Int32} {a1 a2 a3 a4 a5 a6 a7 : Nat → Int32} {P Q R : Nat → Bool} (hp : post 1 ()) (h : rc_ok (rl_M P Q R) a1 a2 a3 a4) (hP : rl_iv x0 x1 x6 x8 P) (hq : rl_iv x2 x3 x7 x9 Q) (hz : z1 = z0) : wL_lawOf_130 post mc ms x0 x1 x2 x3 x4 x6 x7 x8 x9 z0 z1 kc ks tp a1 a2 a3 a4 a5 a6 a7 := by
  unfold wL_lawOf_130
  unfold wL_lawOf_145
  have h8 := rl_cnt hP
  exact br_t hz (br_c (fun g => br_c (fun g' => rl_157 hp h hq h8 (rl_both hP hq (if_pos g).symm (if_pos g').symm)) (fun g' => rl_157 hp h hq h8 (rl_both hP hq (if_pos g).symm (if_neg g').symm))) (fun g => br_c (fun g' => rl_157 hp h hq h8 (rl_both hP hq (if_neg g).symm (if_pos g').symm)) (fun g' => rl_157 hp h hq h8 (rl_both hP hq (if_neg g).symm (if_neg g').symm))))
theorem rl_107 {post : Int32 → St0 → Prop} {mc ms kc ks : Nat} {x0 x1 x2 x3 x4 x6 x7 x8 x9 z0 z1 : Int32} {tp : Int32} {a1 a2 a3 a4 a5 a6 a7 : Nat → Int32} {P : Nat → Bool} (hp : post 1 ()) (h : rc_ok (rl_M P (fun _ => false) (fun _ => false)) a1 a2 a3 a4) (hP : rl_iv x0 x1 x6 x8 P) {Q : Nat → Bool} (hq : rl_iv x2 x3 x7 x9 Q) (hz : z1 = z0) : wL_lawOf_107 post mc ms x0 x1 x2 x3 x4 x6 x7 x8 x9 z0 z1 kc ks tp a1 a2 a3 a4 a5 a6 a7 := by
  unfold wL_lawOf_107
  refine br_t hz ?_
  have hq' := hq
  rcases hq with ⟨e7, c, d, hcd, hd, rfl, rfl, e9, rfl⟩ | ⟨e7, hn, e9, rfl⟩
  · refine rc_fill (s := 1) (by omega) hcd hd h (fun b1 b2 b3 b4 b5 hk => br_f (by rw [e7]; decide) (rl_130 (Q := fun i => decide (c ≤ i ∧ i ≤ d)) (R := fun _ => false) hp (rc_ok_congr hk (fun s x hs _ => ?_)) hP hq' ?_))
    · rcases (show s = 0 ∨ s = 1 ∨ s = 2 by omega) with e | e | e
      · subst e
        show P x = (P x || decide ((0 : Nat) = 1 ∧ c ≤ x ∧ x ≤ d))
        rw [decide_eq_false (by omega), Bool.or_false]
      · subst e
        show decide (c ≤ x ∧ x ≤ d) = (false || decide ((1 : Nat) = 1 ∧ c ≤ x ∧ x ≤ d))
        rw [Bool.false_or, decide_eq_decide]
        omega
      · subst e
        show false = (false || decide ((2 : Nat) = 1 ∧ c ≤ x ∧ x ≤ d))
        rw [decide_eq_false (by omega)]
        rfl
    · have k1 : rc_cnt (rl_M P (fun _ => false) (fun _ => false) 1) 512 = 0 := rc_cnt_none (fun _ _ => rfl)
      have k2 : rc_cnt (fun x => rl_M P (fun _ => false) (fun _ => false) 1 x || decide (1 = 1 ∧ c ≤ x ∧ x ≤ d)) 512 = d + 1 - c := by
        rw [rc_cnt_congr (Q := fun x => decide (c ≤ x ∧ x ≤ d)) (fun x _ => ?_), rc_cnt_iv]
        · omega
        · show (false || decide ((1 : Nat) = 1 ∧ c ≤ x ∧ x ≤ d)) = decide (c ≤ x ∧ x ≤ d)
          rw [Bool.false_or, decide_eq_decide]
          omega
      rw [k1, k2, e9, pk_sub (by omega)]
      rfl
  · exact rc_nofill (s := 1) (by omega) hn (br_t e7 (rl_130 hp h hP hq' rfl))
theorem rl_85 {post : Int32 → St0 → Prop} {mc ms kc ks : Nat} {x0 x1 x2 x3 x4 x6 x7 x8 x9 : Int32} {tp : Int32} {a1 a2 a3 a4 a5 a6 a7 : Nat → Int32} (hp : post 1 ()) (h : rc_ok (rl_M (fun _ => false) (fun _ => false) (fun _ => false)) a1 a2 a3 a4) {P Q : Nat → Bool} (hP : rl_iv x0 x1 x6 x8 P) (hq : rl_iv x2 x3 x7 x9 Q) : wL_lawOf_85 post mc ms x0 x1 x2 x3 x4 x6 x7 x8 x9 kc ks tp a1 a2 a3 a4 a5 a6 a7 := by
  unfold wL_lawOf_85
  have hP' := hP
  rcases hP with ⟨e7, c, d, hcd, hd, rfl, rfl, e9, rfl⟩ | ⟨e7, hn, e9, rfl⟩
  · refine rc_fill (s := 0) (by omega) hcd hd h (fun b1 b2 b3 b4 b5 hk => br_f (by rw [e7]; decide) (rl_107 (P := fun i => decide (c ≤ i ∧ i ≤ d)) hp (rc_ok_congr hk (fun s x hs _ => ?_)) hP' hq ?_))
    · rcases (show s = 0 ∨ s = 1 ∨ s = 2 by omega) with e | e | e
      · subst e
        show decide (c ≤ x ∧ x ≤ d) = (false || decide ((0 : Nat) = 0 ∧ c ≤ x ∧ x ≤ d))
        rw [Bool.false_or, decide_eq_decide]
        omega
      · subst e
        show false = (false || decide ((1 : Nat) = 0 ∧ c ≤ x ∧ x ≤ d))
        rw [decide_eq_false (by omega)]
        rfl
      · subst e
        show false = (false || decide ((2 : Nat) = 0 ∧ c ≤ x ∧ x ≤ d))
        rw [decide_eq_false (by omega)]
        rfl
    · have k1 : rc_cnt (rl_M (fun _ => false) (fun _ => false) (fun _ => false) 0) 512 = 0 := rc_cnt_none (fun _ _ => rfl)
      have k2 : rc_cnt (fun x => rl_M (fun _ => false) (fun _ => false) (fun _ => false) 0 x || decide (0 = 0 ∧ c ≤ x ∧ x ≤ d)) 512 = d + 1 - c := by
        rw [rc_cnt_congr (Q := fun x => decide (c ≤ x ∧ x ≤ d)) (fun x _ => ?_), rc_cnt_iv]
        · omega
        · show (false || decide ((0 : Nat) = 0 ∧ c ≤ x ∧ x ≤ d)) = decide (c ≤ x ∧ x ≤ d)
          rw [Bool.false_or, decide_eq_decide]
          omega
      rw [k1, k2, e9, pk_sub (by omega)]
      rfl
  · exact rc_nofill (s := 0) (by omega) hn (br_t e7 (rl_107 hp h hP' hq rfl))
theorem rl_53 {post : Int32 → St0 → Prop} {mc ms kc ks : Nat} {x0 x1 x2 x3 x4 x6 x7 : Int32} {tp : Int32} {a1 a2 a3 a4 a5 a6 a7 : Nat → Int32} (hp : post 1 ()) (h : rc_ok (rl_M (fun _ => false) (fun _ => false) (fun _ => false)) a1 a2 a3 a4) (h6 : rl_v x0 x1 x6) (h7 : rl_v x2 x3 x7) : wL_lawOf_53 post mc ms x0 x1 x2 x3 x4 x6 x7 kc ks tp a1 a2 a3 a4 a5 a6 a7 := by
  unfold wL_lawOf_53
  unfold wL_lawOf_69
  obtain ⟨P, p0, p1⟩ := rl_ex h6
  obtain ⟨Q, q0, q1⟩ := rl_ex h7
  exact br_c (fun e => br_c (fun e' => rl_85 hp h (p0 e) (q0 e')) (fun e' => rl_85 hp h (p0 e) (q1 e'))) (fun e => br_c (fun e' => rl_85 hp h (p1 e) (q0 e')) (fun e' => rl_85 hp h (p1 e) (q1 e')))
theorem rl_ok {x y : Int32} (h0 : ¬ x < 0) (h1 : ¬ y < x) (h2 : ¬ 511 < y) : rl_v x y 1 := by
  have k1 := Int32.not_lt.mp h1
  have k2 := Int32.not_lt.mp h2
  obtain ⟨a, ha, rfl⟩ := nI_of h0
  have hy : ¬ y < 0 := fun z => h0 (Int32.lt_of_le_of_lt k1 z)
  obtain ⟨b, hb, e⟩ := nI_of2 (M := 511) (n := 511) (by decide) hy k2
  subst e
  rw [nI_leI (by omega) (by omega)] at k1
  exact Or.inl ⟨rfl, a, b, k1, by omega, rfl, rfl⟩
theorem rl_30 {post : Int32 → St0 → Prop} {mc ms kc ks : Nat} {x0 x1 x2 x3 x4 x6 : Int32} {tp : Int32} {a1 a2 a3 a4 a5 a6 a7 : Nat → Int32} (hp : post 1 ()) (h : rc_ok (rl_M (fun _ => false) (fun _ => false) (fun _ => false)) a1 a2 a3 a4) (h6 : rl_v x0 x1 x6) : wL_lawOf_30 post mc ms x0 x1 x2 x3 x4 x6 kc ks tp a1 a2 a3 a4 a5 a6 a7 := by
  unfold wL_lawOf_30
  unfold wL_lawOf_52
  exact br_c (fun g => rl_53 hp h h6 (Or.inr ⟨rfl, Or.inl g⟩)) (fun g0 => br_c (fun g => rl_53 hp h h6 (Or.inr ⟨rfl, Or.inr (Or.inl g)⟩)) (fun g1 => br_c (fun g => rl_53 hp h h6 (Or.inr ⟨rfl, Or.inr (Or.inr g)⟩)) (fun g2 => rl_53 hp h h6 (rl_ok g0 g1 g2))))
theorem rl_init : rc_ok (rl_M (fun _ => false) (fun _ => false) (fun _ => false)) (fun _ => 0) (fun _ => 0) (fun _ => 0) (fun _ => 0) := by
  intro s c hs hc
  have hf : ∀ x, rl_M (fun _ => false) (fun _ => false) (fun _ => false) s x = false := by
    intro x
    unfold rl_M
    split
    · rfl
    · split <;> rfl
  refine ⟨?_, Or.inl ⟨rfl, 0, by omega, rfl, fun _ => 0, fun i hi => absurd hi (by omega), fun i j _ hj => absurd hj (by omega), fun y _ => ⟨fun z => ?_, fun ⟨i, hi, _⟩ => absurd hi (by omega)⟩⟩⟩
  · rw [rc_cnt_none (fun x _ => hf _)]
    rfl
  · dsimp only at z
    rw [hf] at z
    exact absurd z Bool.false_ne_true
theorem rl_lawOf {post : Int32 → St0 → Prop} {x0 x1 x2 x3 x4 : Int32} (hp : post 1 ()) : wpL_lawOf post 120 1920 () x0 x1 x2 x3 x4 := by
  unfold wpL_lawOf
  refine ⟨by omega, by omega, 7, 200, by omega, by omega, ?_⟩
  unfold wpX_init
  refine ⟨by omega, by omega, by omega, by omega, by omega, by omega, by omega, by omega, by omega, by omega, by omega, by omega, by omega, by omega, ?_⟩
  dsimp only
  unfold wL_lawOf_29
  exact br_c (fun g => rl_30 hp rl_init (Or.inr ⟨rfl, Or.inl g⟩)) (fun g0 => br_c (fun g => rl_30 hp rl_init (Or.inr ⟨rfl, Or.inr (Or.inl g)⟩)) (fun g1 => br_c (fun g => rl_30 hp rl_init (Or.inr ⟨rfl, Or.inr (Or.inr g)⟩)) (fun g2 => rl_30 hp rl_init (rl_ok g0 g1 g2))))
theorem rl_cell {post : Int32 → Prop} {L j : Nat} {xs : Nat → Int32} (hL : L ≤ 5) (hj : j < 5) (h : ∀ r, post r) : wpL_cellAt post L xs () (nI j) := by
  unfold wpL_cellAt
  exact pk_le L j (fun _ => h _) (fun z => ⟨pk_in j L z, h _⟩)
theorem i_vc (xs : Nat → Int32) (L : Nat) (hL : L ≤ 5) : wpL_law (fun r => r = 1) L xs := by
  unfold wpL_law
  exact rl_cell (j := 0) hL (by omega) (fun r1 => rl_cell (j := 1) hL (by omega) (fun r2 => rl_cell (j := 2) hL (by omega) (fun r3 => rl_cell (j := 3) hL (by omega) (fun r4 => rl_cell (j := 4) hL (by omega) (fun r5 => ⟨120, 1920, by omega, by omega, rl_lawOf rfl⟩)))))
end

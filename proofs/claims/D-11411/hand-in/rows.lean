section
/-! ===== from kit/laws/BITS.to-paste (starting text): the wb_ family ===== -/
theorem wb_tb (n : Nat) : (lN n).toBitVec = BitVec.ofNat 64 n := rfl
theorem wb_inj {a b : Int64} (h : a.toBitVec = b.toBitVec) : a = b := Int64.toBitVec_inj.mp h
theorem wb_tn {n : Nat} (h : n < 2 ^ 64) : (lN n).toBitVec.toNat = n := by rw [wb_tb, BitVec.toNat_ofNat, Nat.mod_eq_of_lt h]
theorem wb_of (x : Int64) : ∃ n, n < 2 ^ 64 ∧ x = lN n := ⟨x.toBitVec.toNat, x.toBitVec.isLt, wb_inj (by rw [wb_tb]; simp)⟩
theorem wb_of32 (x : Int32) : ∃ n, n < 2 ^ 32 ∧ x = nI n := ⟨x.toBitVec.toNat, x.toBitVec.isLt, Int32.toBitVec_inj.mp (by show _ = BitVec.ofNat 32 _; simp)⟩
theorem wb_c : ∀ k, k < 64 → ((nI k).toInt64 &&& 63) = lN k := by decide +kernel
theorem wb_cu : ∀ k, k < 64 → ((nI k).toInt64.toUInt64 &&& Int64.toUInt64 63) = UInt64.ofNat k := by decide +kernel
theorem wb_sm : ∀ k, k < 64 → (BitVec.ofNat 64 k).smod 64 = BitVec.ofNat 64 k := by decide +kernel
theorem wb_pw {a b : Nat} (h : a ≤ b) : 2 ^ b = 2 ^ a * 2 ^ (b - a) := by rw [← Nat.pow_add]; congr 1; omega
theorem wb_lt2 {a b : Nat} (h : a < b) : 2 ^ a < 2 ^ b := Nat.pow_lt_pow_right (by decide) h
theorem wb_mod (n : Nat) : lN n = lN (n % 2 ^ 64) := wb_inj (by rw [wb_tb, wb_tb]; apply BitVec.eq_of_toNat_eq; rw [BitVec.toNat_ofNat, BitVec.toNat_ofNat, Nat.mod_mod])
theorem wb_shr {n k : Nat} (hn : n < 2 ^ 64) (hk : k < 64) : ((lN n).toUInt64 >>> ((nI k).toInt64.toUInt64 &&& Int64.toUInt64 63)).toInt64 = lN (n / 2 ^ k) := by
  rw [wb_cu k hk]
  apply wb_inj
  apply BitVec.eq_of_toNat_eq
  show ((lN n).toUInt64 >>> UInt64.ofNat k).toNat = (BitVec.ofNat 64 _).toNat
  have h1 : (UInt64.ofNat k).toNat = k := by
    show (BitVec.ofNat 64 k).toNat = k
    rw [BitVec.toNat_ofNat, Nat.mod_eq_of_lt (by omega)]
  have h2 : (lN n).toUInt64.toNat = n := wb_tn hn
  rw [UInt64.toNat_shiftRight, h1, h2, Nat.mod_eq_of_lt hk, Nat.shiftRight_eq_div_pow, BitVec.toNat_ofNat, Nat.mod_eq_of_lt (Nat.lt_of_le_of_lt (Nat.div_le_self _ _) hn)]
theorem wb_shl (n : Nat) {k : Nat} (hk : k < 64) : lN n <<< ((nI k).toInt64 &&& 63) = lN (n * 2 ^ k) := by
  rw [wb_c k hk]
  apply wb_inj
  rw [Int64.toBitVec_shiftLeft, wb_tb, wb_tb, wb_tb, wb_sm k hk]
  apply BitVec.eq_of_toNat_eq
  rw [BitVec.shiftLeft_eq', BitVec.toNat_shiftLeft, BitVec.toNat_ofNat, BitVec.toNat_ofNat, BitVec.toNat_ofNat, Nat.mod_eq_of_lt (show k < 2 ^ 64 by omega), Nat.shiftLeft_eq, Nat.mul_mod, Nat.mod_mod, ← Nat.mul_mod]
theorem wb_and {a b : Nat} (ha : a < 2 ^ 64) (hb : b < 2 ^ 64) : lN a &&& lN b = lN (a &&& b) := by
  apply wb_inj
  rw [Int64.toBitVec_and, wb_tb, wb_tb, wb_tb]
  apply BitVec.eq_of_toNat_eq
  rw [BitVec.toNat_and, BitVec.toNat_ofNat, BitVec.toNat_ofNat, BitVec.toNat_ofNat, Nat.mod_eq_of_lt ha, Nat.mod_eq_of_lt hb, Nat.mod_eq_of_lt (Nat.and_lt_two_pow _ hb)]
theorem wb_or {a b : Nat} (ha : a < 2 ^ 64) (hb : b < 2 ^ 64) : lN a ||| lN b = lN (a ||| b) := by
  apply wb_inj
  rw [Int64.toBitVec_or, wb_tb, wb_tb, wb_tb]
  apply BitVec.eq_of_toNat_eq
  rw [BitVec.toNat_or, BitVec.toNat_ofNat, BitVec.toNat_ofNat, BitVec.toNat_ofNat, Nat.mod_eq_of_lt ha, Nat.mod_eq_of_lt hb, Nat.mod_eq_of_lt (Nat.or_lt_two_pow ha hb)]
theorem wb_mask {n k : Nat} (hn : n < 2 ^ 64) (hk : k < 64) : lN n &&& lN (2 ^ k - 1) = lN (n % 2 ^ k) := by
  rw [wb_and hn (by have := wb_lt2 hk; omega), Nat.and_two_pow_sub_one_eq_mod]
theorem wb_a1 {n : Nat} (hn : n < 2 ^ 64) : lN n &&& 1 = lN (n % 2) := wb_mask (k := 1) hn (by decide)
theorem wb_bit {n k : Nat} (hn : n < 2 ^ 64) (hk : k < 64) : ((lN n).toUInt64 >>> ((nI k).toInt64.toUInt64 &&& Int64.toUInt64 63)).toInt64 &&& 1 = lN (n / 2 ^ k % 2) := by
  rw [wb_shr hn hk, wb_a1 (Nat.lt_of_le_of_lt (Nat.div_le_self _ _) hn)]
/-! ===== counting bits ===== -/
def cs_cnt (p : Nat → Bool) : Nat → Nat
  | 0 => 0
  | n + 1 => cs_cnt p n + (p n).toNat
theorem cs_cnt_congr {p q : Nat → Bool} {n : Nat} (h : ∀ i, i < n → p i = q i) : cs_cnt p n = cs_cnt q n := by
  induction n with
  | zero => rfl
  | succ n ih =>
    show cs_cnt p n + (p n).toNat = cs_cnt q n + (q n).toNat
    rw [ih (fun i hi => h i (by omega)), h n (by omega)]
theorem cs_cnt_le (p : Nat → Bool) (n : Nat) : cs_cnt p n ≤ n := by
  induction n with
  | zero => exact Nat.le_refl 0
  | succ n ih =>
    show cs_cnt p n + (p n).toNat ≤ n + 1
    have := Bool.toNat_le (p n)
    omega
theorem cs_cnt_add (p : Nat → Bool) (m n : Nat) : cs_cnt p (m + n) = cs_cnt p m + cs_cnt (fun i => p (m + i)) n := by
  induction n with
  | zero => rfl
  | succ n ih =>
    show cs_cnt p (m + n) + (p (m + n)).toNat = cs_cnt p m + (cs_cnt (fun i => p (m + i)) n + (p (m + n)).toNat)
    omega
/-! ===== bytes ===== -/
/-- a mask of k bytes d -/
def cs_m (d : Nat) : Nat → Nat
  | 0 => 0
  | k + 1 => 256 * cs_m d k + d
/-- g on each of k bytes -/
def cs_bs (g : Nat → Nat) : Nat → Nat → Nat
  | 0, _ => 0
  | k + 1, n => 256 * cs_bs g k (n / 256) + g (n % 256)
/-- the sum of g over k bytes -/
def cs_sm (g : Nat → Nat) : Nat → Nat → Nat
  | 0, _ => 0
  | k + 1, n => cs_sm g k (n / 256) + g (n % 256)
theorem cs_land {a b c d : Nat} (hb : b < 256) (hd : d < 256) : (256 * a + b) &&& (256 * c + d) = 256 * (a &&& c) + (b &&& d) := by
  have hbd : b &&& d < 2 ^ 8 := Nat.and_lt_two_pow _ hd
  apply Nat.eq_of_testBit_eq
  intro i
  rw [Nat.testBit_and, show 256 = 2 ^ 8 from rfl, Nat.testBit_two_pow_mul_add a hb, Nat.testBit_two_pow_mul_add c hd, Nat.testBit_two_pow_mul_add (a &&& c) hbd, Nat.testBit_and, Nat.testBit_and]
  by_cases h : i < 8
  · rw [if_pos h, if_pos h, if_pos h]
  · rw [if_neg h, if_neg h, if_neg h]
def cs_g1 (b : Nat) : Nat := b - (b / 2 &&& 85)
def cs_g2 (b : Nat) : Nat := (b &&& 51) + (b / 4 &&& 51)
def cs_g3 (b : Nat) : Nat := (b + b / 16) &&& 15
def cs_h2 (b : Nat) : Nat := cs_g2 (cs_g1 b)
def cs_h3 (b : Nat) : Nat := cs_g3 (cs_h2 b)
theorem cs_t1 : ∀ b, b < 256 → ∀ e, e < 2 → (128 * e + b / 2) &&& 85 = b / 2 &&& 85 := by decide +kernel
theorem cs_t2 : ∀ b, b < 256 → ∀ e, e < 4 → (64 * e + b / 4) &&& 51 = b / 4 &&& 51 := by decide +kernel
theorem cs_t3 : ∀ b, b < 256 → ∀ e, e < 5 → (cs_h2 b + (16 * e + cs_h2 b / 16)) < 256 ∧ (cs_h2 b + (16 * e + cs_h2 b / 16)) &&& 15 = cs_h3 b := by decide +kernel
theorem cs_tg1 : ∀ b, b < 256 → cs_g1 b < 256 := by decide +kernel
theorem cs_th2 : ∀ b, b < 256 → cs_h2 b < 256 ∧ cs_h2 b % 16 < 5 := by decide +kernel
theorem cs_th3 : ∀ b, b < 256 → cs_h3 b ≤ 8 ∧ cs_h3 b = cs_cnt (fun i => b.testBit i) 8 := by decide +kernel
theorem cs_s1 (k : Nat) : ∀ n, n < 256 ^ k → n - (n / 2 &&& cs_m 85 k) = cs_bs cs_g1 k n := by
  induction k with
  | zero =>
    intro n hn
    have h0 : n = 0 := by
      rw [Nat.pow_zero] at hn
      omega
    subst h0
    rfl
  | succ k ih =>
    intro n hn
    rw [Nat.pow_succ] at hn
    have ih' := ih (n / 256) (by omega)
    have hb : n % 256 < 256 := by omega
    have hdiv : n / 2 = 256 * (n / 256 / 2) + (128 * (n / 256 % 2) + n % 256 / 2) := by omega
    have hq : n % 256 / 2 &&& 85 ≤ n % 256 := Nat.le_trans Nat.and_le_left (by omega)
    have hp : n / 256 / 2 &&& cs_m 85 k ≤ n / 256 := Nat.le_trans Nat.and_le_left (by omega)
    show n - (n / 2 &&& (256 * cs_m 85 k + 85)) = 256 * cs_bs cs_g1 k (n / 256) + (n % 256 - (n % 256 / 2 &&& 85))
    rw [hdiv, cs_land (by omega) (by omega), cs_t1 _ hb _ (by omega), ← ih']
    omega
theorem cs_s2 (k : Nat) : ∀ n, (cs_bs cs_g1 k n &&& cs_m 51 k) + (cs_bs cs_g1 k n / 4 &&& cs_m 51 k) = cs_bs cs_h2 k n := by
  induction k with
  | zero => intro n; simp [cs_bs, cs_m]
  | succ k ih =>
    intro n
    have ih' := ih (n / 256)
    have hb := cs_tg1 (n % 256) (by omega)
    show ((256 * cs_bs cs_g1 k (n / 256) + cs_g1 (n % 256)) &&& (256 * cs_m 51 k + 51)) + ((256 * cs_bs cs_g1 k (n / 256) + cs_g1 (n % 256)) / 4 &&& (256 * cs_m 51 k + 51)) = 256 * cs_bs cs_h2 k (n / 256) + ((cs_g1 (n % 256) &&& 51) + (cs_g1 (n % 256) / 4 &&& 51))
    rw [← ih']
    generalize cs_bs cs_g1 k (n / 256) = a
    generalize cs_g1 (n % 256) = b at hb
    have hdiv : (256 * a + b) / 4 = 256 * (a / 4) + (64 * (a % 4) + b / 4) := by omega
    rw [hdiv, cs_land hb (by omega), cs_land (by omega) (by omega), cs_t2 _ hb _ (by omega)]
    omega
theorem cs_mod16 (k n : Nat) : cs_bs cs_h2 k n % 16 < 5 := by
  cases k with
  | zero => show 0 % 16 < 5; omega
  | succ k =>
    have h := (cs_th2 (n % 256) (by omega)).2
    show (256 * cs_bs cs_h2 k (n / 256) + cs_h2 (n % 256)) % 16 < 5
    omega
theorem cs_s3 (k : Nat) : ∀ n, (cs_bs cs_h2 k n + cs_bs cs_h2 k n / 16) &&& cs_m 15 k = cs_bs cs_h3 k n := by
  induction k with
  | zero => intro n; simp [cs_bs, cs_m]
  | succ k ih =>
    intro n
    have ih' := ih (n / 256)
    have h16 := cs_mod16 k (n / 256)
    have ht := cs_t3 (n % 256) (by omega) _ h16
    show ((256 * cs_bs cs_h2 k (n / 256) + cs_h2 (n % 256)) + (256 * cs_bs cs_h2 k (n / 256) + cs_h2 (n % 256)) / 16) &&& (256 * cs_m 15 k + 15) = 256 * cs_bs cs_h3 k (n / 256) + cs_h3 (n % 256)
    rw [← ih', ← ht.2]
    have hb := ht.1
    clear ht ih ih' h16
    generalize cs_bs cs_h2 k (n / 256) = a at hb
    generalize cs_h2 (n % 256) = b at hb
    have hdiv : (256 * a + b) + (256 * a + b) / 16 = 256 * (a + a / 16) + (b + (16 * (a % 16) + b / 16)) := by omega
    rw [hdiv, cs_land hb (by omega)]
theorem cs_s4a {H S Lo : Nat} (hS : S < 256) (hL : Lo < 72057594037927936) : (18446744073709551616 * H + (72057594037927936 * S + Lo)) % 18446744073709551616 / 72057594037927936 = S := by omega
theorem cs_s4 {c0 c1 c2 c3 c4 c5 c6 c7 : Nat} (h0 : c0 ≤ 8) (h1 : c1 ≤ 8) (h2 : c2 ≤ 8) (h3 : c3 ≤ 8) (h4 : c4 ≤ 8) (h5 : c5 ≤ 8) (h6 : c6 ≤ 8) (h7 : c7 ≤ 8) :
    (256 * (256 * (256 * (256 * (256 * (256 * (256 * c7 + c6) + c5) + c4) + c3) + c2) + c1) + c0) * 72340172838076673 % 18446744073709551616 / 72057594037927936 = c7 + c6 + c5 + c4 + c3 + c2 + c1 + c0 := by
  have e : (256 * (256 * (256 * (256 * (256 * (256 * (256 * c7 + c6) + c5) + c4) + c3) + c2) + c1) + c0) * 72340172838076673 =
      18446744073709551616 * (256 * (256 * (256 * (256 * (256 * (256 * c7 + (c7 + c6)) + (c7 + c6 + c5)) + (c7 + c6 + c5 + c4)) + (c7 + c6 + c5 + c4 + c3)) + (c7 + c6 + c5 + c4 + c3 + c2)) + (c7 + c6 + c5 + c4 + c3 + c2 + c1)) +
      (72057594037927936 * (c7 + c6 + c5 + c4 + c3 + c2 + c1 + c0) +
      (256 * (256 * (256 * (256 * (256 * (256 * (c6 + c5 + c4 + c3 + c2 + c1 + c0) + (c5 + c4 + c3 + c2 + c1 + c0)) + (c4 + c3 + c2 + c1 + c0)) + (c3 + c2 + c1 + c0)) + (c2 + c1 + c0)) + (c1 + c0)) + c0)) := by omega
  rw [e]
  exact cs_s4a (by omega) (by omega)
theorem cs_s5 (n : Nat) : cs_bs cs_h3 8 n * 72340172838076673 % 18446744073709551616 / 72057594037927936 = cs_sm cs_h3 8 n := by
  have h : ∀ x, cs_h3 (x % 256) ≤ 8 := fun x => (cs_th3 (x % 256) (by omega)).1
  have e1 : cs_bs cs_h3 8 n = 256 * (256 * (256 * (256 * (256 * (256 * (256 * (256 * 0 + cs_h3 (n / 256 / 256 / 256 / 256 / 256 / 256 / 256 % 256)) + cs_h3 (n / 256 / 256 / 256 / 256 / 256 / 256 % 256)) + cs_h3 (n / 256 / 256 / 256 / 256 / 256 % 256)) + cs_h3 (n / 256 / 256 / 256 / 256 % 256)) + cs_h3 (n / 256 / 256 / 256 % 256)) + cs_h3 (n / 256 / 256 % 256)) + cs_h3 (n / 256 % 256)) + cs_h3 (n % 256) := rfl
  have e2 : cs_sm cs_h3 8 n = 0 + cs_h3 (n / 256 / 256 / 256 / 256 / 256 / 256 / 256 % 256) + cs_h3 (n / 256 / 256 / 256 / 256 / 256 / 256 % 256) + cs_h3 (n / 256 / 256 / 256 / 256 / 256 % 256) + cs_h3 (n / 256 / 256 / 256 / 256 % 256) + cs_h3 (n / 256 / 256 / 256 % 256) + cs_h3 (n / 256 / 256 % 256) + cs_h3 (n / 256 % 256) + cs_h3 (n % 256) := rfl
  rw [e1, e2, Nat.mul_zero, Nat.zero_add]
  exact cs_s4 (h _) (h _) (h _) (h _) (h _) (h _) (h _) (h _)
theorem cs_s6 (k : Nat) : ∀ n, cs_sm cs_h3 k n = cs_cnt (fun i => n.testBit i) (8 * k) := by
  induction k with
  | zero => intro n; rfl
  | succ k ih =>
    intro n
    show cs_sm cs_h3 k (n / 256) + cs_h3 (n % 256) = _
    rw [show 8 * (k + 1) = 8 + 8 * k by omega, cs_cnt_add, ih (n / 256), (cs_th3 (n % 256) (by omega)).2, Nat.add_comm]
    have e1 : cs_cnt (fun i => (n % 256).testBit i) 8 = cs_cnt (fun i => n.testBit i) 8 := cs_cnt_congr (fun i hi => by
      show (n % 2 ^ 8).testBit i = n.testBit i
      rw [Nat.testBit_mod_two_pow, decide_eq_true hi, Bool.true_and])
    have e2 : cs_cnt (fun i => (n / 256).testBit i) (8 * k) = cs_cnt (fun i => n.testBit (8 + i)) (8 * k) := cs_cnt_congr (fun i hi => by
      show (n / 2 ^ 8).testBit i = n.testBit (8 + i)
      rw [Nat.testBit_div_two_pow, Nat.add_comm])
    rw [e1, e2]
theorem cs_bs_lt {g : Nat → Nat} (hg : ∀ b, b < 256 → g b < 256) (k : Nat) : ∀ n, cs_bs g k n < 256 ^ k := by
  induction k with
  | zero => intro n; show 0 < 1; omega
  | succ k ih =>
    intro n
    have := ih (n / 256)
    have := hg (n % 256) (by omega)
    rw [Nat.pow_succ]
    show 256 * cs_bs g k (n / 256) + g (n % 256) < _
    omega
theorem cs_th2b : ∀ b, b < 256 → cs_h2 b ≤ 68 := by decide +kernel
theorem cs_bs_le : ∀ n, cs_bs cs_h2 8 n ≤ 68 * 72340172838076673 := by
  have h : ∀ k n, cs_bs cs_h2 k n ≤ 68 * cs_m 1 k := by
    intro k
    induction k with
    | zero => intro n; exact Nat.le_refl _
    | succ k ih =>
      intro n
      have h1 := ih (n / 256)
      have h2 := cs_th2b (n % 256) (by omega)
      show 256 * cs_bs cs_h2 k (n / 256) + cs_h2 (n % 256) ≤ 68 * (256 * cs_m 1 k + 1)
      omega
  exact h 8
/-! ===== the code's count ===== -/
/-- what 'ones' computes -/
def cs_on (p0 : Int64) : Int32 :=
  let x1 : Int64 := p0 - (((p0.toUInt64 >>> ((1 : Int32).toInt64.toUInt64 &&& Int64.toUInt64 63)).toInt64) &&& 6148914691236517205)
  let x2 : Int64 := (x1 &&& 3689348814741910323) + (((x1.toUInt64 >>> ((2 : Int32).toInt64.toUInt64 &&& Int64.toUInt64 63)).toInt64) &&& 3689348814741910323)
  let x3 : Int64 := (x2 + ((x2.toUInt64 >>> ((4 : Int32).toInt64.toUInt64 &&& Int64.toUInt64 63)).toInt64)) &&& 1085102592571150095
  ((((x3 * 72340172838076673).toUInt64 >>> ((56 : Int32).toInt64.toUInt64 &&& Int64.toUInt64 63)).toInt64).toInt32)
theorem cs_wpOnes {post : Int32 → Prop} {w : Int64} (h : post (cs_on w)) : wpX_ones post () w :=
  fun _ e1 _ e2 _ e3 => by
    subst e1 e2 e3
    exact h
/-- a bit of a word -/
def cs_b (w : Int64) (i : Nat) : Bool := w.toBitVec.getLsbD i
/-- how many bits a word has -/
def cs_pc (w : Int64) : Nat := cs_cnt (cs_b w) 64
theorem cs_pc_le (w : Int64) : cs_pc w ≤ 64 := cs_cnt_le _ _
theorem cs_on_eq (w : Int64) : cs_on w = nI (cs_pc w) := by
  obtain ⟨n, hn, rfl⟩ := wb_of w
  have hbit : cs_pc (lN n) = cs_cnt (fun i => n.testBit i) (8 * 8) := cs_cnt_congr (fun i hi => by
    show (lN n).toBitVec.toNat.testBit i = n.testBit i
    rw [wb_tn hn])
  have n2 : n / 2 < 2 ^ 64 := by omega
  have hn8 : n < 256 ^ 8 := by rw [show 256 ^ 8 = 2 ^ 64 from rfl]; exact hn
  have k1 : lN n - (((lN n).toUInt64 >>> ((1 : Int32).toInt64.toUInt64 &&& Int64.toUInt64 63)).toInt64 &&& 6148914691236517205) = lN (cs_bs cs_g1 8 n) := by
    have e : ((lN n).toUInt64 >>> ((1 : Int32).toInt64.toUInt64 &&& Int64.toUInt64 63)).toInt64 = lN (n / 2) := wb_shr (k := 1) hn (by omega)
    rw [e, ← cs_s1 8 n hn8]
    have e2 : lN (n / 2) &&& 6148914691236517205 = lN (n / 2 &&& cs_m 85 8) := wb_and (b := cs_m 85 8) n2 (by decide)
    rw [e2, lN_sub (Nat.le_trans Nat.and_le_left (by omega))]
  have hb1 : cs_bs cs_g1 8 n < 2 ^ 64 := cs_bs_lt cs_tg1 8 n
  have k2 : (lN (cs_bs cs_g1 8 n) &&& 3689348814741910323) + (((lN (cs_bs cs_g1 8 n)).toUInt64 >>> ((2 : Int32).toInt64.toUInt64 &&& Int64.toUInt64 63)).toInt64 &&& 3689348814741910323) = lN (cs_bs cs_h2 8 n) := by
    have e : ((lN (cs_bs cs_g1 8 n)).toUInt64 >>> ((2 : Int32).toInt64.toUInt64 &&& Int64.toUInt64 63)).toInt64 = lN (cs_bs cs_g1 8 n / 4) := wb_shr (k := 2) hb1 (by omega)
    rw [e, ← cs_s2 8 n]
    have e2 : lN (cs_bs cs_g1 8 n / 4) &&& 3689348814741910323 = lN (cs_bs cs_g1 8 n / 4 &&& cs_m 51 8) := wb_and (b := cs_m 51 8) (by omega) (by decide)
    have e3 : lN (cs_bs cs_g1 8 n) &&& 3689348814741910323 = lN (cs_bs cs_g1 8 n &&& cs_m 51 8) := wb_and (b := cs_m 51 8) hb1 (by decide)
    rw [e2, e3, lN_add]
  have hb2 := cs_bs_le n
  have hb2' : cs_bs cs_h2 8 n < 2 ^ 64 := by omega
  have k3 : (lN (cs_bs cs_h2 8 n) + ((lN (cs_bs cs_h2 8 n)).toUInt64 >>> ((4 : Int32).toInt64.toUInt64 &&& Int64.toUInt64 63)).toInt64) &&& 1085102592571150095 = lN (cs_bs cs_h3 8 n) := by
    have e : ((lN (cs_bs cs_h2 8 n)).toUInt64 >>> ((4 : Int32).toInt64.toUInt64 &&& Int64.toUInt64 63)).toInt64 = lN (cs_bs cs_h2 8 n / 16) := wb_shr (k := 4) hb2' (by omega)
    rw [e, ← cs_s3 8 n, lN_add]
    exact wb_and (b := cs_m 15 8) (by omega) (by decide)
  have k4 : ((lN (cs_bs cs_h3 8 n) * 72340172838076673).toUInt64 >>> ((56 : Int32).toInt64.toUInt64 &&& Int64.toUInt64 63)).toInt64 = lN (cs_sm cs_h3 8 n) := by
    have e : lN (cs_bs cs_h3 8 n) * 72340172838076673 = lN (cs_bs cs_h3 8 n * 72340172838076673 % 2 ^ 64) := by
      rw [← wb_mod]
      exact lN_mul _ 72340172838076673
    rw [e]
    have e2 : ((lN (cs_bs cs_h3 8 n * 72340172838076673 % 2 ^ 64)).toUInt64 >>> ((56 : Int32).toInt64.toUInt64 &&& Int64.toUInt64 63)).toInt64 = lN (cs_bs cs_h3 8 n * 72340172838076673 % 2 ^ 64 / 2 ^ 56) := wb_shr (k := 56) (Nat.mod_lt _ (by decide)) (by omega)
    rw [e2]
    exact congrArg lN (cs_s5 n)
  unfold cs_on
  dsimp only
  rw [k1, k2, k3, k4, lN_i, hbit, cs_s6]
end
section
/-! ===== bits of words ===== -/
theorem cs_ext {x y : Int64} (h : ∀ i, i < 64 → cs_b x i = cs_b y i) : x = y := wb_inj (BitVec.eq_of_getLsbD_eq h)
theorem cs_b_lN {n : Nat} (hn : n < 2 ^ 64) (i : Nat) : cs_b (lN n) i = n.testBit i := by
  show (lN n).toBitVec.toNat.testBit i = n.testBit i
  rw [wb_tn hn]
theorem cs_b_and (x y : Int64) (i : Nat) : cs_b (x &&& y) i = (cs_b x i && cs_b y i) := by
  show (x &&& y).toBitVec.getLsbD i = _
  rw [Int64.toBitVec_and, BitVec.getLsbD_and]
  rfl
theorem cs_b_or (x y : Int64) (i : Nat) : cs_b (x ||| y) i = (cs_b x i || cs_b y i) := by
  show (x ||| y).toBitVec.getLsbD i = _
  rw [Int64.toBitVec_or, BitVec.getLsbD_or]
  rfl
theorem cs_b_xor (x y : Int64) (i : Nat) : cs_b (x ^^^ y) i = (cs_b x i ^^ cs_b y i) := by
  show (x ^^^ y).toBitVec.getLsbD i = _
  rw [Int64.toBitVec_xor, BitVec.getLsbD_xor]
  rfl
theorem cs_b_m1 : ∀ i, i < 64 → cs_b (-1) i = true := by decide +kernel
theorem cs_b_shl1 (w : Int64) {i : Nat} (hi : i < 64) : cs_b (w <<< ((1 : Int32).toInt64 &&& 63)) i = (decide (1 ≤ i) && cs_b w (i - 1)) := by
  show (w <<< ((1 : Int32).toInt64 &&& 63)).toBitVec.getLsbD i = _
  have e : (((1 : Int32).toInt64 &&& 63).toBitVec.smod 64) = 1#64 := by decide
  rw [Int64.toBitVec_shiftLeft, e, BitVec.shiftLeft_eq', BitVec.getLsbD_shiftLeft, decide_eq_true hi, Bool.true_and, show (1#64).toNat = 1 from rfl]
  by_cases h : i < 1
  · simp [h]
    intro z
    omega
  · simp [h]
    have h1 : decide (1 ≤ i) = true := decide_eq_true (by omega)
    try rw [h1]
    try rfl
/-! ===== the stretch [f, t) as a word ===== -/
def cs_S (f t : Nat) : Int64 := lN (2 ^ t - 2 ^ f)
theorem cs_S_lt {f t : Nat} (ht : t ≤ 64) : 2 ^ t - 2 ^ f < 2 ^ 64 := by
  have h1 : 2 ^ t ≤ 2 ^ 64 := Nat.pow_le_pow_right (by decide) ht
  have h2 : 0 < 2 ^ f := Nat.two_pow_pos f
  omega
theorem cs_S_b {f t i : Nat} (ht : t ≤ 64) : cs_b (cs_S f t) i = (decide (f ≤ i) && decide (i < t)) := by
  unfold cs_S
  rw [cs_b_lN (cs_S_lt ht)]
  by_cases h : f < t
  · have e : 2 ^ t - 2 ^ f = 2 ^ f * (2 ^ (t - f) - 1) := by
      rw [Nat.mul_sub, ← Nat.pow_add, Nat.mul_one, show f + (t - f) = t by omega]
    rw [e, Nat.testBit_two_pow_mul, Nat.testBit_two_pow_sub_one]
    by_cases h1 : f ≤ i
    · have h2 : (i - f < t - f) = (i < t) := propext ⟨fun _ => by omega, fun _ => by omega⟩
      simp [h1, h2]
    · simp [h1]
  · have e : 2 ^ t - 2 ^ f = 0 := by
      have h1 : 2 ^ t ≤ 2 ^ f := Nat.pow_le_pow_right (by decide) (by omega)
      omega
    rw [e, Nat.zero_testBit]
    by_cases h1 : f ≤ i
    · simp [h1]
      omega
    · simp [h1]
theorem cs_S_0 {f t : Nat} (h : t ≤ f) : cs_S f t = 0 := by
  unfold cs_S
  have h1 : 2 ^ t ≤ 2 ^ f := Nat.pow_le_pow_right (by decide) h
  rw [show 2 ^ t - 2 ^ f = 0 by omega]
  rfl
theorem cs_S_ne {f t : Nat} (h : f < t) (ht : t ≤ 64) : ¬ cs_S f t = 0 := by
  intro e
  have h1 : cs_b (cs_S f t) f = true := by
    rw [cs_S_b ht]
    simp [h]
  rw [e] at h1
  have h2 : cs_b 0 f = false := BitVec.getLsbD_zero
  rw [h2] at h1
  exact absurd h1 (by decide)
theorem cs_m1 : (-1 : Int64) = cs_S 0 64 := by decide
theorem cs_p1 {v : Nat} (hv : v < 64) : (1 : Int64) <<< ((nI v).toInt64 &&& 63) = cs_S v (v + 1) := by
  have h := wb_shl 1 hv
  unfold cs_S
  rw [Nat.one_mul] at h
  rw [Nat.pow_succ, show 2 ^ v * 2 - 2 ^ v = 2 ^ v by omega]
  exact h
theorem cs_p2 : ∀ v, v < 64 → -((1 : Int64) <<< ((nI v).toInt64 &&& 63)) = cs_S v 64 := by decide +kernel
theorem cs_p3 : ∀ v, v < 64 → ((1 : Int64) <<< ((nI v).toInt64 &&& 63)) - 1 = cs_S 0 v := by decide +kernel
/-- two words by their bits -/
theorem cs_and_S {f t g u : Nat} (ht : t ≤ 64) (hu : u ≤ 64) : cs_S f t &&& cs_S g u = cs_S (max f g) (min t u) :=
  cs_ext (fun i hi => by
    rw [cs_b_and, cs_S_b ht, cs_S_b hu, cs_S_b (by omega), Bool.eq_iff_iff]
    simp only [Bool.and_eq_true, decide_eq_true_eq]
    omega)
theorem cs_or_next {f v : Nat} (h : f ≤ v) (hv : v < 64) : cs_S f v ||| cs_S v (v + 1) = cs_S f (v + 1) :=
  cs_ext (fun i hi => by
    rw [cs_b_or, cs_S_b (by omega), cs_S_b (by omega), cs_S_b (by omega), Bool.eq_iff_iff]
    simp only [Bool.and_eq_true, Bool.or_eq_true, decide_eq_true_eq]
    omega)
theorem cs_0_or (w : Int64) : 0 ||| w = w := by
  rw [Int64.or_comm]
  exact Int64.or_zero
theorem cs_not_and {f t : Nat} (h : f ≤ t) (ht : t ≤ 64) : (cs_S f t ^^^ (-1)) &&& cs_S f 64 = cs_S t 64 :=
  cs_ext (fun i hi => by
    rw [cs_b_and, cs_b_xor, cs_b_m1 i hi, cs_S_b ht, cs_S_b (by omega), cs_S_b (by omega), Bool.eq_iff_iff]
    simp only [Bool.and_eq_true, Bool.xor_true, Bool.not_eq_true', Bool.and_eq_false_iff, decide_eq_true_eq, decide_eq_false_iff_not]
    omega)
/-- lowest bit, and the word without it: 2080 stretches -/
theorem cs_lw : ∀ t, t < 65 → ∀ f, f < t → ((cs_S f t &&& (-cs_S f t)) - 1) = cs_S 0 f := by decide +kernel
theorem cs_rs : ∀ t, t < 65 → ∀ f, f < t → cs_S f t &&& (cs_S f t - 1) = cs_S (f + 1) t := by decide +kernel
theorem cs_odd : ∀ t, t < 65 → ∀ f, f < 65 → (cs_S f t &&& 1 = 1 ↔ (f = 0 ∧ 0 < t)) := by decide +kernel
theorem cs_neg : ∀ t, t < 65 → ∀ f, f < 65 → (0 ≤ cs_S f t ↔ ¬ (f < 64 ∧ t = 64)) := by decide +kernel
/-! ===== counts ===== -/
theorem cs_cnt_iv (f t n : Nat) : cs_cnt (fun i => decide (f ≤ i) && decide (i < t)) n = min t n - f := by
  induction n with
  | zero => show 0 = min t 0 - f; omega
  | succ n ih =>
    show cs_cnt (fun i => decide (f ≤ i) && decide (i < t)) n + (decide (f ≤ n) && decide (n < t)).toNat = _
    rw [ih]
    by_cases h1 : f ≤ n
    · by_cases h2 : n < t
      · simp only [h1, h2, decide_true, Bool.and_self, Bool.toNat_true]
        omega
      · simp only [h2, decide_false, Bool.and_false, Bool.toNat_false]
        omega
    · simp only [h1, decide_false, Bool.false_and, Bool.toNat_false]
      omega
theorem cs_pc_S {f t : Nat} (ht : t ≤ 64) : cs_pc (cs_S f t) = t - f := by
  unfold cs_pc
  rw [cs_cnt_congr (q := fun i => decide (f ≤ i) && decide (i < t)) (fun i hi => cs_S_b ht), cs_cnt_iv]
  omega
/-- how many runs a word has, and its lowest bit, as the code counts them -/
def cs_rn (w : Int64) : Nat := cs_pc (w &&& ((w <<< ((1 : Int32).toInt64 &&& 63)) ^^^ (-1)))
def cs_low (w : Int64) : Nat := cs_pc ((w &&& (-w)) - 1)
theorem cs_rn_le (w : Int64) : cs_rn w ≤ 64 := cs_pc_le _
theorem cs_low_le (w : Int64) : cs_low w ≤ 64 := cs_pc_le _
theorem cs_rn_S {f t : Nat} (ht : t ≤ 64) : cs_rn (cs_S f t) = min t (f + 1) - f := by
  unfold cs_rn
  have e : cs_S f t &&& ((cs_S f t <<< ((1 : Int32).toInt64 &&& 63)) ^^^ (-1)) = cs_S f (min t (f + 1)) := cs_ext (fun i hi => by
    rw [cs_b_and, cs_b_xor, cs_b_m1 i hi, cs_b_shl1 _ hi, cs_S_b ht, cs_S_b ht, cs_S_b (by omega), Bool.eq_iff_iff]
    simp only [Bool.and_eq_true, Bool.xor_true, Bool.not_eq_true', Bool.and_eq_false_iff, decide_eq_true_eq, decide_eq_false_iff_not]
    omega)
  rw [e, cs_pc_S (by omega)]
theorem cs_low_S {f t : Nat} (h : f < t) (ht : t ≤ 64) : cs_low (cs_S f t) = f := by
  unfold cs_low
  rw [cs_lw t (by omega) f h, cs_pc_S (by omega)]
  omega
theorem cs_cnt_era (f t v : Nat) (h1 : f ≤ v) (h2 : v < t) (n : Nat) : cs_cnt (fun i => (decide (f ≤ i) && decide (i < t)) && !decide (i = v)) n = (min t n - f) - (if v < n then 1 else 0) := by
  induction n with
  | zero => show 0 = min t 0 - f - _; omega
  | succ n ih =>
    show cs_cnt (fun i => (decide (f ≤ i) && decide (i < t)) && !decide (i = v)) n + ((decide (f ≤ n) && decide (n < t)) && !decide (n = v)).toNat = _
    rw [ih]
    by_cases h3 : n = v
    · subst h3
      simp only [decide_true, Bool.not_true, Bool.and_false, Bool.toNat_false]
      rw [if_neg (by omega), if_pos (by omega)]
      omega
    · by_cases h4 : f ≤ n
      · by_cases h5 : n < t
        · simp only [h3, h4, h5, decide_true, decide_false, Bool.not_false, Bool.and_self, Bool.toNat_true]
          split <;> split <;> omega
        · simp only [h5, decide_false, Bool.and_false, Bool.false_and, Bool.toNat_false]
          split <;> split <;> omega
      · simp only [h4, decide_false, Bool.false_and, Bool.toNat_false]
        split <;> split <;> omega
theorem cs_pc_era {f t v : Nat} (h1 : f ≤ v) (h2 : v < t) (ht : t ≤ 64) : cs_pc (cs_S f t &&& (((1 : Int64) <<< ((nI v).toInt64 &&& 63)) ^^^ (-1))) = t - f - 1 := by
  unfold cs_pc
  rw [cs_p1 (by omega), cs_cnt_congr (q := fun i => (decide (f ≤ i) && decide (i < t)) && !decide (i = v)) (fun i hi => by
    rw [cs_b_and, cs_b_xor, cs_b_m1 i hi, cs_S_b ht, cs_S_b (by omega), Bool.eq_iff_iff]
    simp only [Bool.and_eq_true, Bool.xor_true, Bool.not_eq_true', Bool.and_eq_false_iff, decide_eq_true_eq, decide_eq_false_iff_not]
    omega), cs_cnt_era f t v h1 h2, if_pos (by omega)]
  omega
theorem cs_cnt_xor (f t g : Nat) (n : Nat) : cs_cnt (fun i => (decide (f ≤ i) && decide (i < t)) ^^ decide (g ≤ i)) n = (min (min t g) n - f) + ((n - g) - (min t n - max f g)) := by
  induction n with
  | zero => show 0 = _; omega
  | succ n ih =>
    show cs_cnt (fun i => (decide (f ≤ i) && decide (i < t)) ^^ decide (g ≤ i)) n + ((decide (f ≤ n) && decide (n < t)) ^^ decide (g ≤ n)).toNat = _
    rw [ih]
    by_cases h3 : g ≤ n
    · by_cases h4 : f ≤ n
      · by_cases h5 : n < t
        · simp only [h3, h4, h5, decide_true, Bool.and_self, Bool.xor_self, Bool.toNat_false]
          omega
        · simp only [h3, h5, decide_false, decide_true, Bool.and_false, Bool.false_xor, Bool.toNat_true]
          omega
      · simp only [h3, h4, decide_false, decide_true, Bool.false_and, Bool.false_xor, Bool.toNat_true]
        omega
    · by_cases h4 : f ≤ n
      · by_cases h5 : n < t
        · simp only [h3, h4, h5, decide_true, decide_false, Bool.and_self, Bool.xor_false, Bool.toNat_true]
          omega
        · simp only [h3, h5, decide_false, Bool.and_false, Bool.xor_false, Bool.toNat_false]
          omega
      · simp only [h3, h4, decide_false, Bool.false_and, Bool.xor_false, Bool.toNat_false]
        omega
theorem cs_pc_xor {f t g : Nat} (ht : t ≤ 64) : cs_pc (cs_S f t ^^^ cs_S g 64) = (min t g - f) + ((64 - g) - (t - max f g)) := by
  unfold cs_pc
  rw [cs_cnt_congr (q := fun i => (decide (f ≤ i) && decide (i < t)) ^^ decide (g ≤ i)) (fun i hi => by
    rw [cs_b_xor, cs_S_b ht, cs_S_b (by omega), decide_eq_true hi, Bool.and_true]), cs_cnt_xor]
  omega
/-! ===== the walks of the word methods ===== -/
theorem cs_wpRuns {post : Int32 → Prop} {w : Int64} (h : post (nI (cs_rn w))) : wpX_runsIn post () w :=
  cs_wpOnes (by rw [cs_on_eq]; exact h)
theorem cs_wpLow {post : Int32 → Prop} {w : Int64} (h : post (nI (cs_low w))) : wpX_lowest post () w :=
  cs_wpOnes (by rw [cs_on_eq]; exact h)
theorem cs_stretch_any {post : Int64 → Prop} (H : ∀ r, post r) (x y : Int32) : wpX_stretch post () x y :=
  br_c (fun _ => br_c (fun _ => H _) (fun _ => H _)) (fun _ => H _)
theorem cs_stretch {post : Int64 → Prop} {f t : Nat} (h : f < t) (ht : t ≤ 64) (H : post (cs_S f t)) : wpX_stretch post () (nI f) (nI t) := by
  refine br_t (nI_lt h (by omega)) (pk_eq t 64 (fun e => ?_) (fun e => ?_))
  · show post (-1 &&& (-((1 : Int64) <<< ((nI f).toInt64 &&& 63))))
    rw [cs_p2 f (by omega), cs_m1, cs_and_S (by omega) (by omega), show max 0 f = f by omega, show min 64 64 = t by omega]
    exact H
  · show post ((((1 : Int64) <<< ((nI t).toInt64 &&& 63)) - 1) &&& (-((1 : Int64) <<< ((nI f).toInt64 &&& 63))))
    rw [cs_p2 f (by omega), cs_p3 t (by omega), cs_and_S (by omega) (by omega), show max 0 f = f by omega, show min t 64 = t by omega]
    exact H
/-- where a number falls in container p, 0 to 64 -/
def cs_F (a p : Nat) : Nat := min (a - 64 * p) 64
theorem cs_F_le (a p : Nat) : cs_F a p ≤ 64 := by unfold cs_F; omega
theorem cs_part32 {post : Int64 → Prop} {f t : Nat} (hf : f ≤ 1024) (ht : t ≤ 64) (H : post (cs_S (min f 64) t)) : wX_partOf_32 post (nI f) (nI t) := by
  refine pk_le t f (fun h => ?_) (fun h => cs_stretch h ht ?_)
  · rw [cs_S_0 (by omega)] at H
    exact H
  · rw [show min f 64 = f by omega] at H
    exact H
theorem cs_part21 {post : Int64 → Prop} {f t : Nat} (hf : f ≤ 1024) (ht : t ≤ 1024) (H : post (cs_S (min f 64) (min t 64))) : wX_partOf_21 post (nI f) (nI t) := by
  refine pk_le t 64 (fun h => cs_part32 hf h ?_) (fun h => cs_part32 (t := 64) hf (by omega) ?_)
  · rw [show min t 64 = t by omega] at H
    exact H
  · rw [show min t 64 = 64 by omega] at H
    exact H
theorem cs_part21n {post : Int64 → Prop} {f : Nat} {x : Int32} (hf : f ≤ 1024) (hx : x < 0) (H : post 0) : wX_partOf_21 post (nI f) x := by
  have h0 : x.toInt < 0 := by
    have := Int32.lt_iff_toInt_lt.mp hx
    rw [show (0 : Int32).toInt = 0 from by decide] at this
    exact this
  have h1 : x ≤ 64 := by
    rw [Int32.le_iff_toInt_le, show (64 : Int32).toInt = 64 from by decide]
    omega
  have h2 : x ≤ nI f := by
    rw [Int32.le_iff_toInt_le, nI_toInt (by omega)]
    omega
  exact br_t h1 (br_t h2 H)
theorem cs_partOf {post : Int64 → Prop} {p a b : Nat} (hp : p < 16) (ha : a ≤ 1024) (hb : b ≤ 1024) (H : post (cs_S (cs_F a p) (cs_F b p))) : wpX_partOf post () (nI p) (nI a) (nI b) := by
  intro x3 e3 x4 e4
  have e64 : (64 : Int32) * nI p = nI (64 * p) := pk_mul 64 p
  rw [e64] at e3 e4
  unfold cs_F at H
  have key : ∀ f, f ≤ 1024 → min f 64 = min (a - 64 * p) 64 → wX_partOf_21 post (nI f) x4 := by
    intro f hf ef
    by_cases h : b < 64 * p
    · refine cs_part21n hf ?_ ?_
      · rw [e4]
        exact pk_sneg (by omega) h
      · rw [cs_S_0 (by omega)] at H
        exact H
    · rw [e4, pk_sub (by omega)]
      refine cs_part21 hf (by omega) ?_
      rw [ef]
      exact H
  by_cases h : a < 64 * p
  · refine br_f ?_ (key 0 (by omega) (by omega))
    rw [e3]
    intro z
    have h1 := pk_sneg (a := a) (b := 64 * p) (by omega) h
    rw [Int32.lt_iff_toInt_lt] at h1
    rw [Int32.le_iff_toInt_le] at z
    omega
  · have e : x3 = nI (a - 64 * p) := by rw [e3, pk_sub (by omega)]
    refine br_t ?_ ?_
    · rw [e]
      exact nI_pos' (by omega)
    · rw [e]
      exact key _ (by omega) rfl
end
section
/-! ===== a container that holds the stretch [f, t) ===== -/
def cs_K (a1 a2 a3 a4 : Nat → Int32) (c f t : Nat) : Prop :=
  a2 c = nI (t - f) ∧
  ((t ≤ f + 2 ∧ a1 c = 0 ∧ a3 c = nI (t - f) ∧ ∀ j, j < t - f → a4 (8 * c + j) = nI (f + j)) ∨
   (f + 3 ≤ t ∧ a1 c = 2 ∧ a3 c = nI 2 ∧ a4 (8 * c) = nI f ∧ a4 (8 * c + 1) = nI (t - 1)))
theorem cs_ix (c i : Nat) : nI c * 8 + nI i = nI (8 * c + i) := by
  rw [show (8 : Int32) = nI 8 from rfl, pk_mul, nI_add, Nat.mul_comm]
theorem cs_ix0 (c : Nat) : nI c * 8 = nI (8 * c) := by
  rw [show (8 : Int32) = nI 8 from rfl, pk_mul, Nat.mul_comm]
theorem cs_ix00 (c : Nat) : nI c * 8 + 0 = nI (8 * c) := cs_ix c 0
theorem cs_ixs (c i : Nat) : nI c * 8 + nI i + 1 = nI (8 * c + i + 1) := by rw [cs_ix, nI_1]
theorem cs_ixs0 (c : Nat) : nI c * 8 + 0 + 1 = nI (8 * c + 1) := by rw [cs_ix00, nI_1]
theorem cs_cl {x : Int32} {n : Nat} (h : x = nI n) (hn : n < 2 ^ 31) : x.toNatClampNeg = n := by rw [h, nI_clamp hn]
section
variable {mg : Int32} {a1 a2 a3 a4 a7 : Nat → Int32} {a5 a6 : Nat → Int64} {c f t : Nat}
theorem cs_wordOf {post : Int64 → Prop} (hc : c < 64) (ht : t ≤ 64) (k : cs_K a1 a2 a3 a4 c f t) (H : post (cs_S f t)) : wpX_wordOf post (mg, a1, a2, a3, a4, a5, a6, a7) (nI c) := by
  obtain ⟨k2, ⟨kt, k1, k3, k4⟩ | ⟨kt, k1, k3, k4, k5⟩⟩ := k
  · have hcl : (nI c).toNatClampNeg = c := nI_clamp (by omega)
    refine ⟨pk_in c 64 hc, br_f ?_ ⟨pk_in c 64 hc, br_t ?_ ?_⟩⟩
    · rw [hcl, k1]
      decide
    · rw [hcl, k1]
    · refine pk_loop (fun n i s => wX_wordOf_31 post (nI c) mg a1 a2 a3 a4 a5 a6 a7 n s (nI i)) (fun i s => s = cs_S f (f + i)) (t - f) 0 0 (by omega) (cs_S_0 (by omega)).symm ?_ ?_
      · intro n s hs
        refine And.intro (pk_in c 64 hc) (pk_le (t - f) (t - f) (fun _ => ?_) (fun z => absurd z (by omega)) (by rw [hcl, k3]))
        have e : cs_S f (f + (t - f)) = cs_S f t := by
          by_cases h : f ≤ t
          · rw [show f + (t - f) = t by omega]
          · rw [cs_S_0 (by omega), cs_S_0 (by omega)]
        rw [hs, e]
        exact H
      · intro n i s hi hs hw
        refine And.intro (pk_in c 64 hc) (pk_le (t - f) i (fun z => absurd z (by omega)) (fun _ => ⟨pk_in (8 * c + i) 512 (by omega) (cs_ix c i), nm_r ?_ (nm_r (nI_1 i) (hw (cs_S f (f + (i + 1))) rfl))⟩) (by rw [hcl, k3]))
        rw [cs_cl (cs_ix c i) (by omega), k4 i hi, cs_p1 (by omega), hs]
        exact cs_or_next (by omega) (by omega)
  · have hcl : (nI c).toNatClampNeg = c := nI_clamp (by omega)
    refine ⟨pk_in c 64 hc, br_f ?_ ⟨pk_in c 64 hc, br_f ?_ ⟨0 + 1 + 1, And.intro (pk_in c 64 hc) (pk_le 2 0 (fun z => absurd z (by omega)) (fun _ => ⟨pk_in (8 * c) 512 (by omega) (cs_ix00 c), pk_in (8 * c + 1) 512 (by omega) (cs_ixs0 c), ?_⟩) (by rw [hcl, k3]))⟩⟩⟩
    · rw [hcl, k1]
      decide
    · rw [hcl, k1]
      decide
    · rw [cs_cl (cs_ix00 c) (by omega), cs_cl (cs_ixs0 c) (by omega), k4, k5, nI_1, show t - 1 + 1 = t by omega]
      refine cs_stretch (by omega) ht (nm_r (cs_0_or _) (nm_r (e' := nI 2) (by decide) (And.intro (pk_in c 64 hc) (pk_le 2 2 (fun _ => H) (fun z => absurd z (by omega)) (by rw [hcl, k3])))))
theorem cs_seek {post : Int32 → Prop} {v : Nat} (hc : c < 64) (ht : t ≤ 64) (hv : v ≤ 64) (hn : t ≤ f + 2) (k3 : a3 c = nI (t - f)) (k4 : ∀ j, j < t - f → a4 (8 * c + j) = nI (f + j)) (H : post (nI (min v t - f))) : wpX_seek post (mg, a1, a2, a3, a4, a5, a6, a7) (nI c) (nI v) := by
  have hcl : (nI c).toNatClampNeg = c := nI_clamp (by omega)
  refine ⟨pk_in c 64 hc, nm_r (e' := nI (t - f)) (by rw [hcl, k3]) ?_⟩
  refine loop_m (σ := Nat × Nat) (fun n s => wX_seek_10 post (nI c) (nI v) mg a1 a2 a3 a4 a5 a6 a7 n (nI s.1) (nI s.2)) (fun s => s.1 ≤ min v t - f ∧ min v t - f ≤ s.2 ∧ s.2 ≤ t - f) (fun s => s.2 - s.1) ?_ (0, t - f) ⟨by omega, by dsimp only; omega, Nat.le_refl _⟩
  intro n s hI ih
  obtain ⟨l, h⟩ := s
  obtain ⟨i1, i2, i3⟩ := hI
  dsimp only at i1 i2 i3
  show wX_seek_10 post (nI c) (nI v) mg a1 a2 a3 a4 a5 a6 a7 (n + 1) (nI l) (nI h)
  refine pk_le h l (fun z => ?_) (fun z => ⟨by decide, nm_r (e' := nI ((l + h) / 2)) ?_ ⟨pk_in (8 * c + (l + h) / 2) 512 (by omega) (cs_ix c _), pk_le v (f + (l + h) / 2) (fun y => ?_) (fun y => nm_r (nI_1 _) ?_) rfl ?_⟩⟩)
  · rw [show l = min v t - f by omega]
    exact H
  · rw [nI_add]
    exact pk_div (d := 2) (by omega) (by omega) (by omega)
  · exact ih (l, (l + h) / 2) ⟨i1, by dsimp only; omega, by dsimp only; omega⟩ (by dsimp only; omega)
  · exact ih ((l + h) / 2 + 1, h) ⟨by dsimp only; omega, i2, i3⟩ (by dsimp only; omega)
  · rw [cs_cl (cs_ix c _) (by omega), k4 _ (by omega)]
theorem cs_contains {post : Int32 → Prop} {v : Nat} (hc : c < 64) (ht : t ≤ 64) (hv : v < 64) (k : cs_K a1 a2 a3 a4 c f t) (H1 : f ≤ v → v < t → post 1) (H0 : ¬ (f ≤ v ∧ v < t) → post 0) : wpX_contains post (mg, a1, a2, a3, a4, a5, a6, a7) (nI c) (nI v) := by
  have hcl : (nI c).toNatClampNeg = c := nI_clamp (by omega)
  obtain ⟨k2, ⟨kt, k1, k3, k4⟩ | ⟨kt, k1, k3, k4, k5⟩⟩ := k
  · refine ⟨pk_in c 64 hc, br_f ?_ ⟨pk_in c 64 hc, br_t ?_ (cs_seek hc ht (by omega) kt k3 k4 ⟨pk_in c 64 hc, pk_le (t - f) (min v t - f) (fun z => H0 (by omega)) (fun z => ⟨pk_in (8 * c + (min v t - f)) 512 (by omega) (cs_ix c _), pk_eq (f + (min v t - f)) v (fun y => H1 (by omega) (by omega)) (fun y => H0 (by omega)) ?_⟩) (by rw [hcl, k3])⟩)⟩⟩
    · rw [hcl, k1]
      decide
    · rw [hcl, k1]
    · rw [cs_cl (cs_ix c _) (by omega), k4 _ (by omega)]
  · refine ⟨pk_in c 64 hc, br_f ?_ ⟨pk_in c 64 hc, br_f ?_ ⟨0 + 1 + 1, And.intro (pk_in c 64 hc) (pk_le 2 0 (fun z => absurd z (by omega)) (fun _ => ⟨pk_in (8 * c) 512 (by omega) (cs_ix00 c), pk_lt v f (fun z => nm_r (e' := nI 2) (by decide) ?_) (fun z => ⟨pk_in (8 * c + 1) 512 (by omega) (cs_ixs0 c), pk_lt (t - 1) v (fun y => nm_r (e' := nI 2) (by decide) ?_) (fun y => H1 z (by omega)) ?_⟩) rfl ?_⟩) (by rw [hcl, k3]))⟩⟩⟩
    · rw [hcl, k1]
      decide
    · rw [hcl, k1]
      decide
    · exact And.intro (pk_in c 64 hc) (pk_le 2 2 (fun _ => H0 (by omega)) (fun z => absurd z (by omega)) (by rw [hcl, k3]))
    · exact And.intro (pk_in c 64 hc) (pk_le 2 2 (fun _ => H0 (by omega)) (fun z => absurd z (by omega)) (by rw [hcl, k3]))
    · rw [cs_cl (cs_ixs0 c) (by omega), k5]
    · rw [cs_cl (cs_ix00 c) (by omega), k4]
theorem cs_below {post : Int32 → Prop} {v : Nat} (hc : c < 64) (ht : t ≤ 64) (hv : v < 64) (k : cs_K a1 a2 a3 a4 c f t) (H : post (nI (min v t - f))) : wpX_below post (mg, a1, a2, a3, a4, a5, a6, a7) (nI c) (nI v) := by
  have hcl : (nI c).toNatClampNeg = c := nI_clamp (by omega)
  obtain ⟨k2, ⟨kt, k1, k3, k4⟩ | ⟨kt, k1, k3, k4, k5⟩⟩ := k
  · refine ⟨pk_in c 64 hc, br_t ?_ (cs_seek hc ht (by omega) kt k3 k4 H)⟩
    rw [hcl, k1]
  · refine ⟨pk_in c 64 hc, br_f ?_ ⟨pk_in c 64 hc, br_f ?_ ⟨0 + 1 + 1, And.intro (pk_in c 64 hc) (pk_le 2 0 (fun z => absurd z (by omega)) (fun _ => ⟨pk_in (8 * c) 512 (by omega) (cs_ix00 c), nm_r (e' := nI f) ?_ ⟨pk_in (8 * c + 1) 512 (by omega) (cs_ixs0 c), nm_r (e' := nI t) ?_ (pk_le v f (fun z => nm_r (e' := nI 2) (by decide) ?_) (fun z => pk_le t v (fun y => nm_r (e' := nI (t - f)) ?_ (nm_r (e' := nI 2) (by decide) ?_)) (fun y => nm_r (e' := nI (v - f)) ?_ (nm_r (e' := nI 2) (by decide) ?_))))⟩⟩) (by rw [hcl, k3]))⟩⟩⟩
    · rw [hcl, k1]
      decide
    · rw [hcl, k1]
      decide
    · rw [cs_cl (cs_ix00 c) (by omega), k4]
    · rw [cs_cl (cs_ixs0 c) (by omega), k5, nI_1, show t - 1 + 1 = t by omega]
    · rw [show min v t - f = 0 by omega] at H
      exact And.intro (pk_in c 64 hc) (pk_le 2 2 (fun _ => H) (fun z => absurd z (by omega)) (by rw [hcl, k3]))
    · rw [pk_sub (by omega)]
      exact (nI_add 0 (t - f)).trans (by rw [Nat.zero_add])
    · rw [show min v t - f = t - f by omega] at H
      exact And.intro (pk_in c 64 hc) (pk_le 2 2 (fun _ => H) (fun z => absurd z (by omega)) (by rw [hcl, k3]))
    · rw [pk_sub (by omega)]
      exact (nI_add 0 (v - f)).trans (by rw [Nat.zero_add])
    · rw [show min v t - f = v - f by omega] at H
      exact And.intro (pk_in c 64 hc) (pk_le 2 2 (fun _ => H) (fun z => absurd z (by omega)) (by rw [hcl, k3]))
theorem cs_pick {post : Int32 → Prop} {v : Nat} (hc : c < 64) (ht : t ≤ 64) (hv : v < t - f) (k : cs_K a1 a2 a3 a4 c f t) (H : post (nI (f + v))) : wpX_pick post (mg, a1, a2, a3, a4, a5, a6, a7) (nI c) (nI v) := by
  have hcl : (nI c).toNatClampNeg = c := nI_clamp (by omega)
  obtain ⟨k2, ⟨kt, k1, k3, k4⟩ | ⟨kt, k1, k3, k4, k5⟩⟩ := k
  · refine ⟨pk_in c 64 hc, br_t ?_ ⟨pk_in (8 * c + v) 512 (by omega) (cs_ix c v), ?_⟩⟩
    · rw [hcl, k1]
    · rw [cs_cl (cs_ix c v) (by omega), k4 v hv]
      exact H
  · refine ⟨pk_in c 64 hc, br_f ?_ ⟨pk_in c 64 hc, br_f ?_ ⟨pk_in (8 * c + 1) 512 (by omega) ?_, pk_in (8 * c) 512 (by omega) (cs_ix0 c), nm_e ⟨0 + 1, And.intro (pk_in c 64 hc) (pk_le 2 2 (fun _ => And.intro (pk_in (8 * c) 512 (by omega) (cs_ix00 c)) ?_) (fun z => absurd z (by omega)) (by rw [hcl, k3]))⟩⟩⟩⟩
    · rw [hcl, k1]
      decide
    · rw [hcl, k1]
      decide
    · rw [cs_ix0, nI_1]
    · rw [cs_cl (cs_ix00 c) (by omega), k4, nI_add]
      exact H
end
end
section
/-! ===== stores ===== -/
/-- only container c has changed -/
def cs_Fr (c : Nat) (a1 a2 a3 a4 b1 b2 b3 b4 : Nat → Int32) : Prop :=
  (∀ d, d ≠ c → b1 d = a1 d ∧ b2 d = a2 d ∧ b3 d = a3 d) ∧ (∀ j, j < 8 * c ∨ 8 * c + 8 ≤ j → b4 j = a4 j)
theorem cs_K_fr {a1 a2 a3 a4 b1 b2 b3 b4 : Nat → Int32} {c d f t : Nat} (h : cs_Fr c a1 a2 a3 a4 b1 b2 b3 b4) (hd : d ≠ c) (k : cs_K a1 a2 a3 a4 d f t) : cs_K b1 b2 b3 b4 d f t := by
  obtain ⟨e1, e2, e3⟩ := h.1 d hd
  unfold cs_K
  rw [e1, e2, e3]
  obtain ⟨k2, ⟨kt, k1, k3, k4⟩ | ⟨kt, k1, k3, k4, k5⟩⟩ := k
  · exact ⟨k2, Or.inl ⟨kt, k1, k3, fun j hj => (h.2 _ (by omega)).trans (k4 j hj)⟩⟩
  · exact ⟨k2, Or.inr ⟨kt, k1, k3, (h.2 _ (by omega)).trans k4, (h.2 _ (by omega)).trans k5⟩⟩
section
variable {mg : Int32} {a1 a2 a3 a4 a7 : Nat → Int32} {a5 a6 : Nat → Int64} {c : Nat} {post : St2 → Prop}
theorem cs_storeList_any {n : Nat} (hc : c < 64) (hn : n ≤ 8) (h2 : a2 c = nI n) (w : Int64)
    (H : ∀ b4, (∀ j, j < 8 * c ∨ 8 * c + 8 ≤ j → b4 j = a4 j) → post (mg, upd a1 c 0, a2, upd a3 c (nI n), b4, a5, a6, a7)) :
    wpX_storeList post (mg, a1, a2, a3, a4, a5, a6, a7) (nI c) w := by
  have hcl : (nI c).toNatClampNeg = c := nI_clamp (by omega)
  refine ⟨pk_in c 64 hc, nm_r (e' := upd a1 c 0) (by rw [hcl]) ?_⟩
  refine pk_loop (σ := Int64 × (Nat → Int32)) (fun k i s => wX_storeList_13 post (nI c) mg k s.1 (nI i) (upd a1 c 0) a2 a3 s.2 a5 a6 a7) (fun i s => ∀ j, j < 8 * c ∨ 8 * c + 8 ≤ j → s.2 j = a4 j) n 0 (w, a4) (by omega) (fun j _ => rfl) ?_ ?_
  · intro k s hs
    exact And.intro (pk_in c 64 hc) (pk_le n n (fun _ => ⟨pk_in c 64 hc, pk_in c 64 hc, nm_r (by rw [hcl, h2]) (H s.2 hs)⟩) (fun z => absurd z (by omega)) (by rw [hcl, h2]))
  · intro k i s hi hs hw
    refine And.intro (pk_in c 64 hc) (pk_le n i (fun z => absurd z (by omega)) (fun _ => cs_wpLow ⟨pk_in (8 * c + i) 512 (by omega) (cs_ix c i), nm_r (e' := upd s.2 (8 * c + i) (nI (cs_low s.1))) (by rw [cs_cl (cs_ix c i) (by omega)]) (nm_e (nm_r (nI_1 i) (hw (s.1 &&& (s.1 - 1), upd s.2 (8 * c + i) (nI (cs_low s.1))) ?_)))⟩) (by rw [hcl, h2]))
    intro j hj
    show upd s.2 (8 * c + i) (nI (cs_low s.1)) j = a4 j
    rw [pk_un (by omega)]
    exact hs j hj
theorem cs_runs60 {J : Int64 → Int32 → (Nat → Int32) → (Nat → Int32) → (Nat → Int32) → (Nat → Int32) → (Nat → Int64) → (Nat → Int64) → (Nat → Int32) → Prop} {i : Nat} {x4 x8 z0 : Int32} {x5 : Int64} (hc : c < 64) (hi : i < 4)
    (H : ∀ r b4, (∀ j, j < 8 * c ∨ 8 * c + 8 ≤ j → b4 j = a4 j) → J r (nI (i + 1)) a1 a2 a3 b4 a5 a6 a7) :
    wX_storeRuns_60 post J (nI c) x4 x5 (nI i) x8 z0 mg a1 a2 a3 a4 a5 a6 a7 := by
  have e2 : nI c * 8 + 2 * nI i = nI (8 * c + 2 * i) := by
    rw [show (2 : Int32) * nI i = nI (2 * i) from pk_mul 2 i, cs_ix]
  have e3 : nI c * 8 + 2 * nI i + 1 = nI (8 * c + 2 * i + 1) := by rw [e2, nI_1]
  refine And.intro (pk_in (8 * c + 2 * i) 512 (by omega) e2) (nm_e ⟨pk_in (8 * c + 2 * i + 1) 512 (by omega) e3, nm_e (cs_stretch_any (fun r => nm_e (nm_r (nI_1 i) (H _ _ ?_))) _ _)⟩)
  intro j hj
  rw [cs_cl e2 (by omega), cs_cl e3 (by omega), pk_un (by omega), pk_un (by omega)]
theorem cs_storeRuns_any {r : Nat} (hc : c < 64) (hr : r ≤ 4) (w : Int64)
    (H : ∀ b4, (∀ j, j < 8 * c ∨ 8 * c + 8 ≤ j → b4 j = a4 j) → post (mg, upd a1 c 2, a2, upd a3 c (nI (2 * r)), b4, a5, a6, a7)) :
    wpX_storeRuns post (mg, a1, a2, a3, a4, a5, a6, a7) (nI c) w (nI r) := by
  have hcl : (nI c).toNatClampNeg = c := nI_clamp (by omega)
  refine ⟨pk_in c 64 hc, nm_r (e' := upd a1 c 2) (by rw [hcl]) ?_⟩
  refine pk_loop (σ := Int64 × (Nat → Int32)) (fun k i s => wX_storeRuns_13 post (nI c) (nI r) mg k s.1 (nI i) (upd a1 c 2) a2 a3 s.2 a5 a6 a7) (fun i s => ∀ j, j < 8 * c ∨ 8 * c + 8 ≤ j → s.2 j = a4 j) r 0 (w, a4) (by omega) (fun j _ => rfl) ?_ ?_
  · intro k s hs
    exact pk_le r r (fun _ => ⟨pk_in c 64 hc, nm_r (by rw [hcl, show (2 : Int32) * nI r = nI (2 * r) from pk_mul 2 r]) (H s.2 hs)⟩) (fun z => absurd z (by omega))
  · intro k i s hi hs hw
    have key : ∀ x8 z0 x5, wX_storeRuns_60 post (wX_storeRuns_13 post (nI c) (nI r) mg k) (nI c) (nI r) x5 (nI i) x8 z0 mg (upd a1 c 2) a2 a3 s.2 a5 a6 a7 := fun x8 z0 x5 =>
      cs_runs60 hc (by omega) (fun y b4 hb => hw (y, b4) (fun j hj => (hb j hj).trans (hs j hj)))
    exact pk_le r i (fun z => absurd z (by omega)) (fun _ => cs_wpLow (nm_e (br_c (fun _ => key _ _ _) (fun _ => cs_wpLow (key _ _ _)))))
/-- any word: the store ends, the count is the word's, the other containers stay -/
theorem cs_store_any (hc : c < 64) (w : Int64)
    (H : ∀ b1 b2 b3 b4 b5, cs_Fr c a1 a2 a3 a4 b1 b2 b3 b4 → b2 c = nI (cs_pc w) → post (mg, b1, b2, b3, b4, b5, a6, a7)) :
    wpX_store post (mg, a1, a2, a3, a4, a5, a6, a7) (nI c) w := by
  have hcl : (nI c).toNatClampNeg = c := nI_clamp (by omega)
  have hp := cs_pc_le w
  have hr := cs_rn_le w
  have fr : ∀ x1 x3 b4, (∀ j, j < 8 * c ∨ 8 * c + 8 ≤ j → b4 j = a4 j) → cs_Fr c a1 a2 a3 a4 (upd a1 c x1) (upd a2 c (nI (cs_pc w))) (upd a3 c x3) b4 :=
    fun x1 x3 b4 hb => ⟨fun d hd => ⟨pk_un hd, pk_un hd, pk_un hd⟩, hb⟩
  have h46 : wX_store_46 post (nI c) w (nI (cs_pc w)) mg a1 (upd a2 c (nI (cs_pc w))) a3 a4 a5 a6 a7 := by
    refine pk_lt 8 (cs_pc w) (fun z => ⟨pk_in c 64 hc, nm_r (e' := upd a1 c 1) (by rw [hcl]) ⟨pk_in c 64 hc, nm_e (H _ _ _ _ _ ?_ pk_us)⟩⟩) (fun z => ?_)
    · exact ⟨fun d hd => ⟨pk_un hd, pk_un hd, rfl⟩, fun _ _ => rfl⟩
    · exact cs_storeList_any hc z pk_us w (fun b4 hb => H _ _ _ _ _ (fr _ _ b4 hb) pk_us)
  unfold wpX_store
  dsimp only
  refine cs_wpOnes ?_
  rw [cs_on_eq]
  refine cs_wpRuns ?_
  refine ⟨pk_in c 64 hc, nm_r (e' := upd a2 c (nI (cs_pc w))) (by rw [hcl]) ?_⟩
  refine pk_le (cs_pc w) (2 * cs_rn w) (fun _ => h46) (fun _ => pk_lt 4 (cs_rn w) (fun _ => h46) (fun z => ?_)) rfl (pk_mul 2 _)
  exact cs_storeRuns_any hc z w (fun b4 hb => H _ _ _ _ _ (fr _ _ b4 hb) pk_us)
/-- a stretch: the container holds it -/
theorem cs_store_S {f t : Nat} (hc : c < 64) (hf : f < t) (ht : t ≤ 64)
    (H : ∀ b1 b2 b3 b4 b5, cs_Fr c a1 a2 a3 a4 b1 b2 b3 b4 → cs_K b1 b2 b3 b4 c f t → post (mg, b1, b2, b3, b4, b5, a6, a7)) :
    wpX_store post (mg, a1, a2, a3, a4, a5, a6, a7) (nI c) (cs_S f t) := by
  have hcl : (nI c).toNatClampNeg = c := nI_clamp (by omega)
  unfold wpX_store
  dsimp only
  refine cs_wpOnes ?_
  rw [cs_on_eq, cs_pc_S ht]
  refine cs_wpRuns ?_
  rw [cs_rn_S ht, show min t (f + 1) - f = 1 by omega]
  refine ⟨pk_in c 64 hc, nm_r (e' := upd a2 c (nI (t - f))) (by rw [hcl]) ?_⟩
  refine pk_le (t - f) 2 (fun z => ?_) (fun z => br_f (by decide) ?_)
  · refine br_f (nI_nlt (a := 8) (by omega) (by omega)) ⟨pk_in c 64 hc, nm_r (e' := upd a1 c 0) (by rw [hcl]) ?_⟩
    refine pk_loop (σ := Int64 × (Nat → Int32)) (fun k i s => wX_storeList_13 _ (nI c) mg k s.1 (nI i) (upd a1 c 0) (upd a2 c (nI (t - f))) a3 s.2 a5 a6 a7) (fun i s => s.1 = cs_S (f + i) t ∧ (∀ j, j < 8 * c ∨ 8 * c + 8 ≤ j → s.2 j = a4 j) ∧ ∀ j, j < i → s.2 (8 * c + j) = nI (f + j)) (t - f) 0 (cs_S f t, a4) (by omega) ⟨rfl, fun j _ => rfl, fun j hj => absurd hj (by omega)⟩ ?_ ?_
    · intro k s hs
      refine And.intro (pk_in c 64 hc) (pk_le (t - f) (t - f) (fun _ => ⟨pk_in c 64 hc, pk_in c 64 hc, nm_r (e' := upd a3 c (nI (t - f))) (by rw [hcl, pk_us]) (H _ _ _ _ _ ?_ ?_)⟩) (fun z => absurd z (by omega)) (by rw [hcl, pk_us]))
      · exact ⟨fun d hd => ⟨pk_un hd, pk_un hd, pk_un hd⟩, hs.2.1⟩
      · exact ⟨pk_us, Or.inl ⟨by omega, pk_us, pk_us, hs.2.2⟩⟩
    · intro k i s hi hs hw
      obtain ⟨s1, s2⟩ := s
      obtain ⟨hs1, hs2, hs3⟩ := hs
      dsimp only at hs1 hs2 hs3
      subst hs1
      refine And.intro (pk_in c 64 hc) (pk_le (t - f) i (fun z => absurd z (by omega)) (fun _ => cs_wpLow ⟨pk_in (8 * c + i) 512 (by omega) (cs_ix c i), nm_r (e' := upd s2 (8 * c + i) (nI (f + i))) (by rw [cs_cl (cs_ix c i) (by omega), cs_low_S (by omega) ht]) (nm_r (e' := cs_S (f + (i + 1)) t) (cs_rs t (by omega) (f + i) (by omega)) (nm_r (nI_1 i) (hw (cs_S (f + (i + 1)) t, upd s2 (8 * c + i) (nI (f + i))) ⟨rfl, ?_, ?_⟩)))⟩) (by rw [hcl, pk_us]))
      · intro j hj
        show upd s2 (8 * c + i) (nI (f + i)) j = a4 j
        rw [pk_un (by omega)]
        exact hs2 j hj
      · intro j hj
        show upd s2 (8 * c + i) (nI (f + i)) (8 * c + j) = nI (f + j)
        by_cases e : j = i
        · rw [e, pk_us]
        · rw [pk_un (by omega)]
          exact hs3 j (by omega)
  · refine ⟨pk_in c 64 hc, nm_r (e' := upd a1 c 2) (by rw [hcl]) ⟨0 + 1 + 1, br_f (by decide) (cs_wpLow ?_)⟩⟩
    rw [cs_low_S hf ht, cs_p2 f (by omega)]
    have e0 : nI c * 8 + 2 * 0 = nI (8 * c) := cs_ix c 0
    have e1 : nI c * 8 + 2 * 0 + 1 = nI (8 * c + 1) := by rw [e0, nI_1]
    have key : ∀ z0 : Int32, z0 = nI (t - 1) → wX_storeRuns_60 (fun u => match u with | (f0_merged_36, am401_39, am402_42, am403_45, am404_48, am405_51, am406_54, am407_57) => (post (f0_merged_36, am401_39, am402_42, am403_45, am404_48, am405_51, am406_54, am407_57))) (wX_storeRuns_13 (fun u => match u with | (f0_merged_36, am401_39, am402_42, am403_45, am404_48, am405_51, am406_54, am407_57) => (post (f0_merged_36, am401_39, am402_42, am403_45, am404_48, am405_51, am406_54, am407_57))) (nI c) (nI 1) mg (0 + 1)) (nI c) (nI 1) (cs_S f t) 0 (nI f) z0 mg (upd a1 c 2) (upd a2 c (nI (t - f))) a3 a4 a5 a6 a7 := by
      intro z0 ez
      subst ez
      refine And.intro (pk_in (8 * c) 512 (by omega) e0) (nm_r (e' := upd a4 (8 * c) (nI f)) (by rw [cs_cl e0 (by omega)]) ⟨pk_in (8 * c + 1) 512 (by omega) e1, nm_r (e' := upd (upd a4 (8 * c) (nI f)) (8 * c + 1) (nI (t - 1))) (by rw [cs_cl e1 (by omega)]) ?_⟩)
      rw [nI_1, show t - 1 + 1 = t by omega]
      refine cs_stretch hf ht (nm_e (nm_r (e' := nI 1) (by decide) (br_t (by decide) ⟨pk_in c 64 hc, nm_r (e' := upd a3 c (nI 2)) (by rw [hcl]; rfl) (H _ _ _ _ _ ?_ ?_)⟩)))
      · refine ⟨fun d hd => ⟨pk_un hd, pk_un hd, pk_un hd⟩, fun j hj => ?_⟩
        rw [pk_un (by omega), pk_un (by omega)]
      · refine ⟨pk_us, Or.inr ⟨by omega, pk_us, pk_us, ?_, pk_us⟩⟩
        rw [pk_un (by omega), pk_us]
    refine nm_r (cs_not_and (by omega) ht) (br_c (fun e => ?_) (fun e => cs_wpLow ?_))
    · have h64 : t = 64 := by
        rcases Nat.lt_or_ge t 64 with h | h
        · exact absurd e (cs_S_ne h (by omega))
        · omega
      exact key 63 (by rw [h64]; rfl)
    · have h64 : t < 64 := by
        rcases Nat.lt_or_ge t 64 with h | h
        · exact h
        · exact absurd (cs_S_0 h) e
      rw [cs_low_S h64 (by omega)]
      exact key _ (pk_sub (b := 1) (by omega))
/-! ===== changePart ===== -/
theorem cs_change0 {f t : Nat} (hc : c < 64) (hf : f < t) (ht : t ≤ 64) (k : cs_K a1 a2 a3 a4 c 0 0)
    (H : ∀ b1 b2 b3 b4 b5, cs_Fr c a1 a2 a3 a4 b1 b2 b3 b4 → cs_K b1 b2 b3 b4 c f t → post (mg, b1, b2, b3, b4, b5, a6, a7)) :
    wpX_changePart post (mg, a1, a2, a3, a4, a5, a6, a7) (nI c) (cs_S f t) 0 := by
  refine br_c (fun e => br_f (by decide) (br_t rfl ?_)) (fun _ => ?_)
  · unfold wX_changePart_28
    rw [← e]
    exact cs_store_S hc hf ht H
  · refine cs_wordOf hc (by omega) k (br_t rfl (nm_r (e' := cs_S f t) ?_ (cs_store_S hc hf ht H)))
    rw [cs_S_0 (by omega), cs_0_or]
theorem cs_change2 {f t : Nat} {m : Int64} (hc : c < 64) (ht : t ≤ 64) (k : cs_K a1 a2 a3 a4 c f t)
    (H : ∀ b1 b2 b3 b4 b5, cs_Fr c a1 a2 a3 a4 b1 b2 b3 b4 → b2 c = nI (cs_pc (cs_S f t ^^^ m)) → post (mg, b1, b2, b3, b4, b5, a6, a7)) :
    wpX_changePart post (mg, a1, a2, a3, a4, a5, a6, a7) (nI c) m 2 := by
  have key : wX_changePart_32 post (nI c) m 2 mg a1 a2 a3 a4 a5 a6 a7 :=
    cs_wordOf hc ht k (br_f (by decide) (br_f (by decide) (nm_e (cs_store_any hc _ H))))
  exact br_c (fun _ => br_t (by decide) key) (fun _ => key)
/-! ===== erase ===== -/
theorem cs_erase {f t v : Nat} (hc : c < 64) (h1 : f ≤ v) (h2 : v < t) (ht : t ≤ 64) (k : cs_K a1 a2 a3 a4 c f t)
    (H : ∀ b1 b2 b3 b4 b5, (∀ d, d ≠ c → b2 d = a2 d) → b2 c = nI (t - f - 1) → post (mg, b1, b2, b3, b4, b5, a6, a7)) :
    wpX_erase post (mg, a1, a2, a3, a4, a5, a6, a7) (nI c) (nI v) := by
  have hcl : (nI c).toNatClampNeg = c := nI_clamp (by omega)
  have k' := k
  obtain ⟨k2, ⟨kt, k1, k3, k4⟩ | ⟨kt, k1, k3, k4, k5⟩⟩ := k
  · refine ⟨pk_in c 64 hc, br_t (by rw [hcl, k1]) (cs_seek hc ht (by omega) kt k3 k4 ⟨pk_in c 64 hc, pk_in c 64 hc, nm_r (e' := upd a3 c (nI (t - f - 1))) ?_ ⟨pk_in c 64 hc, pk_in c 64 hc, nm_r (e' := upd a2 c (nI (t - f - 1))) ?_ ?_⟩⟩)⟩
    · rw [hcl, k3, show nI (t - f) - 1 = nI (t - f - 1) from pk_sub (b := 1) (by omega)]
    · rw [hcl, k2, show nI (t - f) - 1 = nI (t - f - 1) from pk_sub (b := 1) (by omega)]
    · refine pk_loop (fun n i s => wX_erase_39 post (nI c) mg n (nI i) a1 (upd a2 c (nI (t - f - 1))) (upd a3 c (nI (t - f - 1))) s a5 a6 a7) (fun _ _ => True) (t - f - 1) (min v t - f) a4 (by omega) trivial ?_ ?_
      · intro n s _
        exact And.intro (pk_in c 64 hc) (pk_le (t - f - 1) (t - f - 1) (fun _ => H _ _ _ _ _ (fun d hd => pk_un hd) pk_us) (fun z => absurd z (by omega)) (by rw [hcl, pk_us]))
      · intro n i s hi _ hw
        exact And.intro (pk_in c 64 hc) (pk_le (t - f - 1) i (fun z => absurd z (by omega)) (fun _ => ⟨pk_in (8 * c + i + 1) 512 (by omega) (cs_ixs c i), pk_in (8 * c + i) 512 (by omega) (cs_ix c i), nm_e (nm_r (nI_1 i) (hw _ trivial))⟩) (by rw [hcl, pk_us]))
  · refine ⟨pk_in c 64 hc, br_f (by rw [hcl, k1]; decide) (cs_wordOf hc ht k' (nm_e (cs_store_any hc _ (fun b1 b2 b3 b4 b5 hf hb => H b1 b2 b3 b4 b5 (fun d hd => (hf.1 d hd).2.1) ?_))))⟩
    rw [hb, cs_pc_era h1 h2 ht]
end
end
section
/-! ===== sums over the containers ===== -/
def cs_sum (g : Nat → Nat) : Nat → Nat
  | 0 => 0
  | n + 1 => cs_sum g n + g n
theorem cs_sum_F (a b n : Nat) : cs_sum (fun q => cs_F b q - cs_F a q) n = min b (64 * n) - min a (64 * n) := by
  induction n with
  | zero => show 0 = min b 0 - min a 0; omega
  | succ n ih =>
    show cs_sum (fun q => cs_F b q - cs_F a q) n + (cs_F b n - cs_F a n) = _
    rw [ih]
    unfold cs_F
    omega
theorem cs_i16 (s q : Nat) : nI s * 16 + nI q = nI (16 * s + q) := by
  rw [show (16 : Int32) = nI 16 from rfl, pk_mul, nI_add, Nat.mul_comm]
theorem cs_i16z (s : Nat) : nI s * 16 = nI (16 * s) := by
  rw [show (16 : Int32) = nI 16 from rfl, pk_mul, Nat.mul_comm]
theorem cs_bad {post : Int32 → Prop} {s : Nat} (hs : s < 4) (H : post 0) : wpX_bad post () (nI s) :=
  br_f (nI_pos (by omega)) (br_t (nI_lt (b := 4) hs (by omega)) H)
theorem cs_badN {post : Int32 → Prop} {m : Nat} (hm : m < 1024) (H : post 0) : wpX_badNumber post () (nI m) :=
  br_f (nI_pos (by omega)) (br_t (nI_lt (b := 1024) hm (by omega)) H)
theorem cs_e1 {a b : Nat} (ha : a ≤ 1024) (hb : b ≤ 1024) : nI (a + 2048 * b) &&& 2047 = nI a := by
  have h := pk_andN (n := a + 2048 * b) (by omega) (m := 2047) 11 (by decide)
  rw [h]
  congr 1
  omega
theorem cs_e2 {a b : Nat} (ha : a ≤ 1024) (hb : b ≤ 1024) : (nI (a + 2048 * b) >>> ((11 : Int32) &&& 31)) &&& 2047 = nI b := by
  have h1 := pk_shrN (n := a + 2048 * b) (by omega) ((11 : Int32) &&& 31) 11 (by decide)
  rw [h1]
  have h := pk_andN (n := (a + 2048 * b) / 2 ^ 11) (by omega) (m := 2047) 11 (by decide)
  rw [h]
  congr 1
  omega
theorem cs_badE {post : Int32 → Prop} {a b : Nat} (ha : a ≤ 1024) (hb : b ≤ 1024) (H : post 0) : wpX_badEnds post () (nI (a + 2048 * b)) := by
  unfold wpX_badEnds
  rw [cs_e1 ha hb, cs_e2 ha hb]
  exact br_f (nI_nlt (b := a) (a := 1024) ha (by omega)) (br_t (nI_le (b := 1024) hb (by omega)) H)
theorem cs_m6 {m : Nat} (hm : m < 1024) : nI m >>> ((6 : Int32) &&& 31) = nI (m / 64) := pk_shrN (n := m) (by omega) ((6 : Int32) &&& 31) 6 (by decide)
theorem cs_m63 {m : Nat} (hm : m < 1024) : nI m &&& 63 = nI (m % 64) := pk_andN (n := m) (by omega) (m := 63) 6 (by decide)
section
variable {mg : Int32} {a1 a2 a3 a4 a7 : Nat → Int32} {a5 a6 : Nat → Int64} {s : Nat}
theorem cs_total {post : Int32 → Prop} {g : Nat → Nat} (hs : s < 4) (h : ∀ q, q < 16 → a2 (16 * s + q) = nI (g q)) (H : post (nI (cs_sum g 16))) : wpX_total post (mg, a1, a2, a3, a4, a5, a6, a7) (nI s) := by
  refine nm_r (cs_i16z s) ?_
  have e16 : nI s * 16 + 16 = nI (16 * s + 16) := cs_i16 s 16
  refine pk_loop (σ := Unit) (fun n q _ => wX_total_7 post (nI s) mg a1 a2 a3 a4 a5 a6 a7 n (nI (cs_sum g q)) (nI (16 * s + q))) (fun _ _ => True) 16 0 () (by omega) trivial ?_ ?_
  · intro n _ _
    exact pk_le (16 * s + 16) (16 * s + 16) (fun _ => H) (fun z => absurd z (by omega)) e16
  · intro n q _ hq _ hw
    refine pk_le (16 * s + 16) (16 * s + q) (fun z => absurd z (by omega)) (fun _ => ⟨pk_in (16 * s + q) 64 (by omega), nm_r (e' := nI (cs_sum g (q + 1))) ?_ (nm_r (nI_1 _) (hw () trivial))⟩) e16
    rw [nI_clamp (by omega), h q hq, nI_add]
    rfl
/-! ===== range ===== -/
theorem cs_range0 {post : Int32 → St2 → Prop} {a b : Nat} (hs : s < 4) (ha : a ≤ 1024) (hb : b ≤ 1024) (k : ∀ q, q < 16 → cs_K a1 a2 a3 a4 (16 * s + q) 0 0)
    (H : ∀ b1 b2 b3 b4 b5, (∀ q, q < 16 → cs_K b1 b2 b3 b4 (16 * s + q) (cs_F a q) (cs_F b q)) → post (nI (b - a)) (mg, b1, b2, b3, b4, b5, a6, a7)) :
    wpX_range post (mg, a1, a2, a3, a4, a5, a6, a7) (nI s) (nI (a + 2048 * b)) 0 := by
  unfold wpX_range
  dsimp only
  refine cs_bad hs ?_
  refine br_t rfl ?_
  refine cs_badE ha hb ?_
  refine br_t rfl (br_f (by decide) (br_t (by decide) (nm_r (cs_e1 ha hb) (nm_r (cs_e2 ha hb) ?_))))
  refine pk_loop (σ := (Nat → Int32) × (Nat → Int32) × (Nat → Int32) × (Nat → Int32) × (Nat → Int64)) (fun n q u => wX_range_48 post (nI s) 0 (nI a) (nI b) n (nI q) mg u.1 u.2.1 u.2.2.1 u.2.2.2.1 u.2.2.2.2 a6 a7)
    (fun q u => (∀ p, p < q → cs_K u.1 u.2.1 u.2.2.1 u.2.2.2.1 (16 * s + p) (cs_F a p) (cs_F b p)) ∧ ∀ p, q ≤ p → p < 16 → cs_K u.1 u.2.1 u.2.2.1 u.2.2.2.1 (16 * s + p) 0 0) 16 0 (a1, a2, a3, a4, a5) (by omega) ⟨fun p hp => absurd hp (by omega), fun p _ hp => k p hp⟩ ?_ ?_
  · intro n u hu
    refine br_t (by decide) (cs_total (g := fun q => cs_F b q - cs_F a q) hs (fun q hq => (hu.1 q hq).1) ?_)
    rw [cs_sum_F, show min b (64 * 16) - min a (64 * 16) = b - a by omega]
    exact H _ _ _ _ _ hu.1
  · intro n q u hq hu hw
    obtain ⟨u1, u2, u3, u4, u5⟩ := u
    obtain ⟨hu1, hu2⟩ := hu
    dsimp only at hu1 hu2
    refine pk_le 16 q (fun z => absurd z (by omega)) (fun _ => cs_partOf hq ha hb (br_c (fun e => nm_r (nI_1 q) (hw (u1, u2, u3, u4, u5) ⟨fun p hp => ?_, fun p h1 h2 => hu2 p (by omega) h2⟩)) (fun e => ?_)))
    · by_cases h : p = q
      · subst h
        have hfg : ¬ cs_F a p < cs_F b p := fun h => cs_S_ne h (cs_F_le b p) e
        have hk := hu2 p (by omega) (by omega)
        show cs_K u1 u2 u3 u4 (16 * s + p) (cs_F a p) (cs_F b p)
        unfold cs_K at hk ⊢
        rw [show cs_F b p - cs_F a p = 0 by omega]
        obtain ⟨k2, ⟨kt, k1, k3, k4⟩ | ⟨kt, _⟩⟩ := hk
        · exact ⟨k2, Or.inl ⟨by omega, k1, k3, fun j hj => absurd hj (by omega)⟩⟩
        · omega
      · exact hu1 p (by omega)
    · have hfg : cs_F a q < cs_F b q := by
        rcases Nat.lt_or_ge (cs_F a q) (cs_F b q) with h | h
        · exact h
        · exact absurd (cs_S_0 h) e
      rw [cs_i16]
      refine cs_change0 (by omega) hfg (cs_F_le b q) (hu2 q (by omega) hq) (fun b1 b2 b3 b4 b5 hf hk => nm_r (nI_1 q) (hw (b1, b2, b3, b4, b5) ⟨fun p hp => ?_, fun p h1 h2 => cs_K_fr hf (by omega) (hu2 p (by omega) h2)⟩))
      by_cases h : p = q
      · subst h
        exact hk
      · exact cs_K_fr hf (by omega) (hu1 p (by omega))
/-- the counts behind an exclusive or with [m, 1024) -/
def cs_X (a b m q : Nat) : Nat := (min (cs_F b q) (cs_F m q) - cs_F a q) + ((64 - cs_F m q) - (cs_F b q - max (cs_F a q) (cs_F m q)))
theorem cs_range2 {post : Int32 → St2 → Prop} {a b m : Nat} (hs : s < 4) (hm : m < 1024) (k : ∀ q, q < 16 → cs_K a1 a2 a3 a4 (16 * s + q) (cs_F a q) (cs_F b q))
    (H : ∀ b1 b2 b3 b4 b5, (∀ q, q < 16 → b2 (16 * s + q) = nI (cs_X a b m q)) → post (nI (cs_sum (cs_X a b m) 16)) (mg, b1, b2, b3, b4, b5, a6, a7)) :
    wpX_range post (mg, a1, a2, a3, a4, a5, a6, a7) (nI s) (nI (m + 2048 * 1024)) 2 := by
  unfold wpX_range
  dsimp only
  refine cs_bad hs ?_
  refine br_t rfl ?_
  have hm' : m ≤ 1024 := by omega
  have h24 : 1024 ≤ 1024 := by omega
  refine cs_badE hm' h24 ?_
  refine br_t rfl (br_f (by decide) (br_t (by decide) (nm_r (cs_e1 hm' h24) (nm_r (cs_e2 hm' h24) ?_))))
  have h64 : ∀ q, q < 16 → cs_F 1024 q = 64 := fun q hq => by
    unfold cs_F
    omega
  refine pk_loop (σ := (Nat → Int32) × (Nat → Int32) × (Nat → Int32) × (Nat → Int32) × (Nat → Int64)) (fun n q u => wX_range_48 post (nI s) 2 (nI m) (nI 1024) n (nI q) mg u.1 u.2.1 u.2.2.1 u.2.2.2.1 u.2.2.2.2 a6 a7)
    (fun q u => (∀ p, p < q → u.2.1 (16 * s + p) = nI (cs_X a b m p)) ∧ ∀ p, q ≤ p → p < 16 → cs_K u.1 u.2.1 u.2.2.1 u.2.2.2.1 (16 * s + p) (cs_F a p) (cs_F b p)) 16 0 (a1, a2, a3, a4, a5) (by omega) ⟨fun p hp => absurd hp (by omega), fun p _ hp => k p hp⟩ ?_ ?_
  · intro n u hu
    exact br_t (by decide) (cs_total hs hu.1 (H _ _ _ _ _ hu.1))
  · intro n q u hq hu hw
    obtain ⟨u1, u2, u3, u4, u5⟩ := u
    obtain ⟨hu1, hu2⟩ := hu
    dsimp only at hu1 hu2
    refine pk_le 16 q (fun z => absurd z (by omega)) (fun _ => cs_partOf hq (by omega) (by omega) ?_)
    rw [h64 q hq]
    refine br_c (fun e => nm_r (nI_1 q) (hw (u1, u2, u3, u4, u5) ⟨fun p hp => ?_, fun p h1 h2 => hu2 p (by omega) h2⟩)) (fun e => ?_)
    · by_cases h : p = q
      · subst h
        have hfg : ¬ cs_F m p < 64 := fun h => cs_S_ne h (by omega) e
        have hk := (hu2 p (by omega) (by omega)).1
        have h1 := cs_F_le b p
        show u2 (16 * s + p) = nI (cs_X a b m p)
        rw [hk]
        unfold cs_X
        congr 1
        omega
      · exact hu1 p (by omega)
    · rw [cs_i16]
      refine cs_change2 (by omega) (cs_F_le b q) (hu2 q (by omega) hq) (fun b1 b2 b3 b4 b5 hf hk => nm_r (nI_1 q) (hw (b1, b2, b3, b4, b5) ⟨fun p hp => ?_, fun p h1 h2 => cs_K_fr hf (by omega) (hu2 p (by omega) h2)⟩))
      show b2 (16 * s + p) = nI (cs_X a b m p)
      by_cases h : p = q
      · subst h
        rw [hk, cs_pc_xor (cs_F_le b p)]
        rfl
      · rw [(hf.1 _ (by omega)).2.1]
        exact hu1 p (by omega)
/-! ===== ranges ===== -/
def cs_rc (a b q : Nat) : Nat := if a < min b (64 * q) then 1 else 0
def cs_pw (a b : Nat) : Nat → Int64
  | 0 => 0
  | q + 1 => cs_S (cs_F a q) (cs_F b q)
theorem cs_pw_neg {a b q : Nat} : 0 ≤ cs_pw a b q ↔ ¬ (0 < q ∧ a < 64 * q ∧ 64 * q ≤ b) := by
  cases q with
  | zero => exact ⟨fun _ => by omega, fun _ => by show (0 : Int64) ≤ 0; decide⟩
  | succ q =>
    show 0 ≤ cs_S (cs_F a q) (cs_F b q) ↔ _
    rw [cs_neg _ (Nat.lt_succ_of_le (cs_F_le b q)) _ (Nat.lt_succ_of_le (cs_F_le a q))]
    unfold cs_F
    omega
theorem cs_ranges {post : Int32 → Prop} {a b : Nat} (hs : s < 4) (ha : a ≤ 1024) (hb : b ≤ 1024) (k : ∀ q, q < 16 → cs_K a1 a2 a3 a4 (16 * s + q) (cs_F a q) (cs_F b q))
    (H : post (nI (if a < b then 1 else 0))) : wpX_ranges post (mg, a1, a2, a3, a4, a5, a6, a7) (nI s) := by
  unfold wpX_ranges
  dsimp only
  refine cs_bad hs ?_
  refine br_t rfl ?_
  have st : (0 : Int32) = nI (cs_rc a b 0) := by
    unfold cs_rc
    rw [if_neg (by omega)]
    rfl
  refine Exists.elim (pk_loop (σ := Unit) (fun n q _ => wX_ranges_16 post (nI s) mg a1 a2 a3 a4 a5 a6 a7 n (nI (cs_rc a b q)) (cs_pw a b q) (nI q)) (fun _ _ => True) 16 0 () (by omega) trivial ?_ ?_) (fun n hn => ?_)
  rotate_left 2
  · refine ⟨n, ?_⟩
    have hn' : wX_ranges_16 post (nI s) mg a1 a2 a3 a4 a5 a6 a7 n (nI (cs_rc a b 0)) 0 0 := hn
    rw [← st] at hn'
    exact hn'
  · intro n _ _
    refine br_t (by decide) ?_
    unfold cs_rc
    rw [show min b (64 * 16) = b by omega]
    exact H
  · intro n q _ hq _ hw
    have hw' : wX_ranges_16 post (nI s) mg a1 a2 a3 a4 a5 a6 a7 n (nI (cs_rc a b (q + 1))) (cs_S (cs_F a q) (cs_F b q)) (nI (q + 1)) := hw () trivial
    refine pk_le 16 q (fun z => absurd z (by omega)) (fun _ => ?_)
    rw [cs_i16]
    refine cs_wordOf (by omega) (cs_F_le b q) (k q hq) (cs_wpRuns ?_)
    rw [cs_rn_S (cs_F_le b q)]
    refine nm_r (nI_add _ _) (br_c (fun e => br_c (fun y => nm_r (nI_1 q) ?_) (fun y => nm_r (e' := nI (cs_rc a b (q + 1))) ?_ (nm_r (nI_1 q) hw'))) (fun e => nm_r (nI_1 q) ?_))
    · rw [cs_odd _ (Nat.lt_succ_of_le (cs_F_le b q)) _ (Nat.lt_succ_of_le (cs_F_le a q))] at e
      have y' := cs_pw_neg.mp y
      have e1 : cs_rc a b q + (min (cs_F b q) (cs_F a q + 1) - cs_F a q) = cs_rc a b (q + 1) := by
        unfold cs_rc
        unfold cs_F at e ⊢
        split <;> split <;> omega
      rw [e1]
      exact hw'
    · rw [cs_odd _ (Nat.lt_succ_of_le (cs_F_le b q)) _ (Nat.lt_succ_of_le (cs_F_le a q))] at e
      have y' : 0 < q ∧ a < 64 * q ∧ 64 * q ≤ b := Decidable.byContradiction (fun z => y (cs_pw_neg.mpr z))
      have e1 : cs_rc a b q + (min (cs_F b q) (cs_F a q + 1) - cs_F a q) = cs_rc a b (q + 1) + 1 := by
        unfold cs_rc
        unfold cs_F at e ⊢
        split <;> split <;> omega
      rw [e1]
      exact pk_m1 _
    · rw [cs_odd _ (Nat.lt_succ_of_le (cs_F_le b q)) _ (Nat.lt_succ_of_le (cs_F_le a q))] at e
      have e1 : cs_rc a b q + (min (cs_F b q) (cs_F a q + 1) - cs_F a q) = cs_rc a b (q + 1) := by
        unfold cs_rc
        unfold cs_F at e ⊢
        split <;> split <;> omega
      rw [e1]
      exact hw'
end
end
section
section
variable {mg : Int32} {a1 a2 a3 a4 a7 : Nat → Int32} {a5 a6 : Nat → Int64} {s a b : Nat}
theorem cs_in {a m : Nat} : cs_F a (m / 64) ≤ m % 64 ↔ a ≤ m := by
  unfold cs_F
  omega
theorem cs_inb {b m : Nat} : m % 64 < cs_F b (m / 64) ↔ m < b := by
  unfold cs_F
  omega
theorem cs_has {post : Int32 → Prop} {m : Nat} (hs : s < 4) (hm : m < 1024) (k : ∀ q, q < 16 → cs_K a1 a2 a3 a4 (16 * s + q) (cs_F a q) (cs_F b q))
    (H1 : a ≤ m → m < b → post 1) (H0 : ¬ (a ≤ m ∧ m < b) → post 0) : wpX_has post (mg, a1, a2, a3, a4, a5, a6, a7) (nI s) (nI m) := by
  unfold wpX_has
  dsimp only
  refine cs_bad hs ?_
  refine br_t rfl ?_
  refine cs_badN hm ?_
  refine br_t rfl ?_
  rw [cs_m6 hm, cs_m63 hm, cs_i16]
  refine cs_contains (by omega) (cs_F_le b _) (by omega) (k (m / 64) (by omega)) (fun h1 h2 => ⟨rfl, H1 (cs_in.mp h1) (cs_inb.mp h2)⟩) (fun h => ⟨rfl, H0 (fun z => h ⟨cs_in.mpr z.1, cs_inb.mpr z.2⟩)⟩)
theorem cs_rank {post : Int32 → Prop} {m : Nat} (hs : s < 4) (hm : m < 1024) (k : ∀ q, q < 16 → cs_K a1 a2 a3 a4 (16 * s + q) (cs_F a q) (cs_F b q))
    (H : post (nI (min m b - a))) : wpX_rank post (mg, a1, a2, a3, a4, a5, a6, a7) (nI s) (nI m) := by
  unfold wpX_rank
  dsimp only
  refine cs_bad hs ?_
  refine br_t rfl (br_f (nI_pos (by omega)) (br_t (nI_le (b := 1024) (by omega) (by omega)) ?_))
  refine nm_r (cs_m6 hm) ?_
  refine pk_loop (σ := Unit) (fun n q _ => wX_rankOf_11 (fun r_5 => post r_5) (nI s) (nI m) (nI (m / 64)) mg a1 a2 a3 a4 a5 a6 a7 n (nI (cs_sum (fun q => cs_F b q - cs_F a q) q)) (nI q)) (fun _ _ => True) (m / 64) 0 () (by omega) trivial ?_ ?_
  · intro n _ _
    refine pk_le (m / 64) (m / 64) (fun _ => br_f (nI_ge (b := 16) (by omega) (by omega)) ?_) (fun z => absurd z (by omega))
    rw [cs_i16, cs_m63 hm]
    refine cs_below (by omega) (cs_F_le b _) (by omega) (k (m / 64) (by omega)) ?_
    rw [nI_add, cs_sum_F]
    have e : min b (64 * (m / 64)) - min a (64 * (m / 64)) + (min (m % 64) (cs_F b (m / 64)) - cs_F a (m / 64)) = min m b - a := by
      unfold cs_F
      omega
    rw [e]
    exact H
  · intro n q _ hq _ hw
    refine pk_le (m / 64) q (fun z => absurd z (by omega)) (fun _ => ⟨pk_in (16 * s + q) 64 (by omega) (cs_i16 s q), nm_r (e' := nI (cs_sum (fun q => cs_F b q - cs_F a q) (q + 1))) ?_ (nm_r (nI_1 q) (hw () trivial))⟩)
    rw [cs_cl (cs_i16 s q) (by omega), (k q (by omega)).1, nI_add]
    rfl
theorem cs_select {post : Int32 → Prop} (hs : s < 4) (ha : a ≤ 1024) (hb : b ≤ 1024) (k : ∀ q, q < 16 → cs_K a1 a2 a3 a4 (16 * s + q) (cs_F a q) (cs_F b q))
    (H0 : b ≤ a → post (-3)) (H1 : a < b → post (nI (b - 1))) : wpX_select post (mg, a1, a2, a3, a4, a5, a6, a7) (nI s) (nI (b - a) - 1) := by
  unfold wpX_select
  dsimp only
  refine cs_bad hs ?_
  refine br_t rfl ?_
  by_cases hab : b ≤ a
  · rw [show b - a = 0 by omega]
    exact br_f (by decide) (H0 hab)
  · have e1 : nI (b - a) - 1 = nI (b - a - 1) := pk_sub (b := 1) (by omega)
    rw [e1]
    refine br_t (nI_pos' (by omega)) ?_
    refine pk_loop (σ := Unit) (fun n q _ => wX_select_21 post (nI s) mg a1 a2 a3 a4 a5 a6 a7 n (nI (b - a - 1 - cs_sum (fun q => cs_F b q - cs_F a q) q)) (nI q)) (fun q _ => cs_sum (fun q => cs_F b q - cs_F a q) q ≤ b - a - 1) 16 0 () (by omega) (Nat.zero_le _) ?_ ?_
    · intro n _ h
      rw [cs_sum_F] at h
      omega
    · intro n q _ hq h hw
      have kq := k q hq
      have hsum := cs_sum_F a b q
      have hsum1 := cs_sum_F a b (q + 1)
      have hsucc : cs_sum (fun q => cs_F b q - cs_F a q) (q + 1) = cs_sum (fun q => cs_F b q - cs_F a q) q + (cs_F b q - cs_F a q) := rfl
      refine pk_le 16 q (fun z => absurd z (by omega)) (fun _ => nm_r (cs_i16 s q) ⟨pk_in (16 * s + q) 64 (by omega), pk_le (cs_F b q - cs_F a q) (b - a - 1 - cs_sum (fun q => cs_F b q - cs_F a q) q) (fun z => ⟨pk_in (16 * s + q) 64 (by omega), nm_r (e' := nI (b - a - 1 - cs_sum (fun q => cs_F b q - cs_F a q) (q + 1))) ?_ (nm_r (nI_1 q) (hw () (by omega)))⟩) (fun z => cs_pick (by omega) (cs_F_le b q) z kq ?_) (by rw [nI_clamp (by omega), kq.1]) rfl (by have := cs_F_le b q; omega)⟩)
      · rw [nI_clamp (by omega), kq.1, pk_sub z, hsucc]
        congr 1
        omega
      · rw [show (64 : Int32) * nI q = nI (64 * q) from pk_mul 64 q, nI_add]
        have e : 64 * q + (cs_F a q + (b - a - 1 - cs_sum (fun q => cs_F b q - cs_F a q) q)) = b - 1 := by
          unfold cs_F at hsum1 hsum hsucc z ⊢
          omega
        rw [e]
        exact H1 (by omega)
theorem cs_remove {post : Int32 → St2 → Prop} {m : Nat} (hs : s < 4) (hm : m < 1024) (k : ∀ q, q < 16 → cs_K a1 a2 a3 a4 (16 * s + q) (cs_F a q) (cs_F b q))
    (H0 : ¬ (a ≤ m ∧ m < b) → post 0 (mg, a1, a2, a3, a4, a5, a6, a7))
    (H1 : a ≤ m → m < b → ∀ b1 b2 b3 b4 b5, (∀ q, q < 16 → b2 (16 * s + q) = nI (cs_F b q - cs_F a q - if q = m / 64 then 1 else 0)) → post 1 (mg, b1, b2, b3, b4, b5, a6, a7)) :
    wpX_remove post (mg, a1, a2, a3, a4, a5, a6, a7) (nI s) (nI m) := by
  unfold wpX_remove
  dsimp only
  refine cs_bad hs ?_
  refine br_t rfl ?_
  refine cs_badN hm ?_
  refine br_t rfl ?_
  refine nm_r (e' := nI (16 * s + m / 64)) (by rw [cs_m6 hm, cs_i16]) ?_
  rw [cs_m63 hm]
  have kq := k (m / 64) (by omega)
  refine cs_contains (by omega) (cs_F_le b _) (by omega) kq (fun h1 h2 => br_f (by decide) ?_) (fun h => br_t rfl (H0 (fun z => h ⟨cs_in.mpr z.1, cs_inb.mpr z.2⟩)))
  refine cs_erase (by omega) h1 h2 (cs_F_le b _) kq (fun b1 b2 b3 b4 b5 hf hk => H1 (cs_in.mp h1) (cs_inb.mp h2) b1 b2 b3 b4 b5 (fun q hq => ?_))
  by_cases h : q = m / 64
  · rw [if_pos h, h, hk]
  · rw [if_neg h, hf _ (by omega), (k q hq).1]
    rfl
theorem cs_size {post : Int32 → Prop} {g : Nat → Nat} (hs : s < 4) (h : ∀ q, q < 16 → a2 (16 * s + q) = nI (g q)) (H : post (nI (cs_sum g 16))) : wpX_size post (mg, a1, a2, a3, a4, a5, a6, a7) (nI s) := by
  unfold wpX_size
  dsimp only
  refine cs_bad hs ?_
  exact br_t rfl (cs_total hs h H)
theorem cs_clear {post : Int32 → St2 → Prop} {g : Nat → Nat} (hs : s < 4) (h : ∀ q, q < 16 → a2 (16 * s + q) = nI (g q)) (H : ∀ u, post (nI (cs_sum g 16)) u) : wpX_clear post (mg, a1, a2, a3, a4, a5, a6, a7) (nI s) := by
  unfold wpX_clear
  dsimp only
  refine cs_bad hs ?_
  refine br_t rfl (cs_total hs h (nm_r (cs_i16z s) ?_))
  have e16 : nI s * 16 + 16 = nI (16 * s + 16) := cs_i16 s 16
  refine pk_loop (σ := (Nat → Int32) × (Nat → Int32) × (Nat → Int32) × (Nat → Int32) × (Nat → Int64)) (fun n q u => wX_clear_20 post (nI s) (nI (cs_sum g 16)) n (nI (16 * s + q)) mg u.1 u.2.1 u.2.2.1 u.2.2.2.1 u.2.2.2.2 a6 a7) (fun _ _ => True) 16 0 (a1, a2, a3, a4, a5) (by omega) trivial ?_ ?_
  · intro n u _
    exact pk_le (16 * s + 16) (16 * s + 16) (fun _ => H _) (fun z => absurd z (by omega)) e16
  · intro n q u hq _ hw
    obtain ⟨u1, u2, u3, u4, u5⟩ := u
    exact pk_le (16 * s + 16) (16 * s + q) (fun z => absurd z (by omega)) (fun _ => cs_store_any (by omega) _ (fun b1 b2 b3 b4 b5 _ _ => nm_r (nI_1 _) (hw (b1, b2, b3, b4, b5) trivial))) e16
end
/-! ===== the sums of the second step ===== -/
theorem cs_F_min (b m q : Nat) : min (cs_F b q) (cs_F m q) = cs_F (min b m) q := by
  unfold cs_F
  omega
theorem cs_F_max (a m q : Nat) : max (cs_F a q) (cs_F m q) = cs_F (max a m) q := by
  unfold cs_F
  omega
theorem cs_F_mono {a b : Nat} (h : a ≤ b) (q : Nat) : cs_F a q ≤ cs_F b q := by
  unfold cs_F
  omega
theorem cs_sum_D (m n : Nat) : cs_sum (fun q => 64 - cs_F m q) n = 64 * n - min m (64 * n) := by
  induction n with
  | zero => show 0 = 0 - min m 0; omega
  | succ n ih =>
    show cs_sum (fun q => 64 - cs_F m q) n + (64 - cs_F m n) = _
    rw [ih]
    unfold cs_F
    omega
theorem cs_sum_split (a b m n : Nat) : cs_sum (cs_X a b m) n + cs_sum (fun q => cs_F b q - cs_F (max a m) q) n = cs_sum (fun q => cs_F (min b m) q - cs_F a q) n + cs_sum (fun q => 64 - cs_F m q) n := by
  induction n with
  | zero => rfl
  | succ n ih =>
    have e : cs_X a b m n + (cs_F b n - cs_F (max a m) n) = (cs_F (min b m) n - cs_F a n) + (64 - cs_F m n) := by
      unfold cs_X
      rw [cs_F_min, cs_F_max]
      have h1 := cs_F_le b n
      have h2 := cs_F_mono (Nat.le_max_right a m) n
      generalize cs_F (max a m) n = x at *
      generalize cs_F (min b m) n = y at *
      generalize cs_F b n = z at *
      generalize cs_F a n = w at *
      generalize cs_F m n = v at *
      omega
    show cs_sum (cs_X a b m) n + cs_X a b m n + (cs_sum (fun q => cs_F b q - cs_F (max a m) q) n + (cs_F b n - cs_F (max a m) n)) = cs_sum (fun q => cs_F (min b m) q - cs_F a q) n + (cs_F (min b m) n - cs_F a n) + (cs_sum (fun q => 64 - cs_F m q) n + (64 - cs_F m n))
    generalize cs_sum (cs_X a b m) n = s1 at *
    generalize cs_sum (fun q => cs_F b q - cs_F (max a m) q) n = s2 at *
    generalize cs_sum (fun q => cs_F (min b m) q - cs_F a q) n = s3 at *
    generalize cs_sum (fun q => 64 - cs_F m q) n = s4 at *
    generalize cs_X a b m n = r1 at *
    generalize cs_F b n - cs_F (max a m) n = r2 at *
    generalize cs_F (min b m) n - cs_F a n = r3 at *
    generalize 64 - cs_F m n = r4 at *
    omega
/-- how many numbers the set has behind the exclusive or -/
theorem cs_sum_X {a b m : Nat} (ha : a ≤ 1024) (hb : b ≤ 1024) (hm : m < 1024) : cs_sum (cs_X a b m) 16 + (b - max a m) = (min b m - a) + (1024 - m) := by
  have h := cs_sum_split a b m 16
  rw [cs_sum_F, cs_sum_F, cs_sum_D] at h
  have e1 : min b (64 * 16) - min (max a m) (64 * 16) = b - max a m := by omega
  have e2 : min (min b m) (64 * 16) - min a (64 * 16) = min b m - a := by omega
  have e3 : 64 * 16 - min m (64 * 16) = 1024 - m := by omega
  rw [e1, e2, e3] at h
  exact h
theorem cs_sum_era (a b m : Nat) (h1 : a ≤ m) (h2 : m < b) (n : Nat) : cs_sum (fun q => cs_F b q - cs_F a q - if q = m / 64 then 1 else 0) n = (min b (64 * n) - min a (64 * n)) - (if m / 64 < n then 1 else 0) := by
  induction n with
  | zero => show 0 = min b 0 - min a 0 - _; omega
  | succ n ih =>
    show cs_sum (fun q => cs_F b q - cs_F a q - if q = m / 64 then 1 else 0) n + (cs_F b n - cs_F a n - if n = m / 64 then 1 else 0) = _
    rw [ih]
    unfold cs_F
    split <;> split <;> split <;> omega
end
section
/-! ===== the law ===== -/
/-- the last checks: counts g, and what the law compares -/
def cs_Fin (s : Nat) (g : Nat → Nat) (x8 x11 x12 x13 : Int32) (a2 : Nat → Int32) : Prop :=
  s < 4 ∧ (∀ q, q < 16 → a2 (16 * s + q) = nI (g q)) ∧ (x12 = 0 → x8 - x13 = nI (cs_sum g 16)) ∧ (¬ x12 = 0 → x13 = nI (cs_sum g 16)) ∧ (x12 = 0 → x11 = 0 → x13 = 0) ∧ (x12 = 0 → ¬ x11 = 0 → x13 = 1)
section
variable {post : Int32 → St0 → Prop} {mc ms kc ks : Nat} {mg : Int32} {a1 a2 a3 a4 a7 : Nat → Int32} {a5 a6 : Nat → Int64} {s a b m : Nat} {g : Nat → Nat} {x4 x8 x11 x12 x13 : Int32}
theorem cs_L380 {z0 z1 : Int32} (hp : post 1 ()) (h : cs_Fin s g x8 x11 x12 x13 a2) (hz : z1 = z0) : wL_lawOf_380 post mc ms x8 (nI s) x12 x13 z0 z1 kc ks mg a1 a2 a3 a4 a5 a6 a7 := by
  obtain ⟨hs, hg, e0, e1, _, _⟩ := h
  exact br_t hz (cs_clear hs hg (fun ⟨_, _, _, _, _, _, _, _⟩ => br_c (fun e => br_t (e0 e).symm hp) (fun e => br_t (e1 e).symm hp)))
theorem cs_L353 {z0 z1 : Int32} (hp : post 1 ()) (h : cs_Fin s g x8 x11 x12 x13 a2) (hz : z1 = z0) : wL_lawOf_353 post mc ms x8 (nI s) x12 x13 z0 z1 kc ks mg a1 a2 a3 a4 a5 a6 a7 := by
  have h' := h
  obtain ⟨hs, hg, e0, e1, _, _⟩ := h'
  exact br_t hz (cs_size hs hg (br_c (fun e => cs_L380 hp h (e0 e).symm) (fun e => cs_L380 hp h (e1 e).symm)))
theorem cs_L329 {z0 : Int32} (hp : post 1 ()) (h : cs_Fin s g x8 x11 x12 x13 a2) (hz : ¬ x12 = 0 → z0 = nI (cs_sum g 16)) : wL_lawOf_329 post mc ms x8 (nI s) x11 x12 x13 z0 kc ks mg a1 a2 a3 a4 a5 a6 a7 := by
  have h' := h
  obtain ⟨hs, hg, e0, e1, e2, e3⟩ := h'
  exact br_c (fun e => br_c (fun y => cs_L353 hp h (e2 e y)) (fun y => cs_L353 hp h (e3 e y))) (fun e => cs_L353 hp h ((e1 e).trans (hz e).symm))
theorem cs_L275 (hp : post 1 ()) (ha : a ≤ 1024) (hb : b ≤ 1024) (hm : m < 1024) (h : cs_Fin s g (nI (b - a)) x11 x12 x13 a2) (hz : ¬ x12 = 0 → cs_sum g 16 + (b - max a m) = (min b m - a) + (1024 - m)) :
    wL_lawOf_275 post mc ms (nI a) (nI b) (nI (b - a)) (nI s) (nI m) x11 x12 x13 (nI (min m b - a)) kc ks mg a1 a2 a3 a4 a5 a6 a7 := by
  have e : nI (min m b - a) + 1024 - nI m = nI (min m b - a + 1024 - m) := by
    rw [show nI (min m b - a) + 1024 = nI (min m b - a + 1024) from nI_add _ 1024, pk_sub (by omega)]
  unfold wL_lawOf_275
  rw [e]
  refine pk_eq (b - a) 0 (fun z => cs_L329 hp h (fun y => ?_)) (fun z => pk_le b m (fun w => cs_L329 hp h (fun y => ?_)) (fun w => pk_le m a (fun v => cs_L329 hp h (fun y => ?_)) (fun v => cs_L329 hp h (fun y => ?_))))
  · have t := hz y
    rw [show (1024 : Int32) - nI m = nI (1024 - m) from pk_sub (a := 1024) (by omega)]
    congr 1
    omega
  · have t := hz y
    rw [show nI (min m b - a + 1024 - m) - 0 = nI (min m b - a + 1024 - m - 0) from pk_sub (b := 0) (by omega)]
    congr 1
    omega
  · have t := hz y
    rw [pk_sub (show a ≤ b by omega), pk_sub (show b - a ≤ min m b - a + 1024 - m by omega)]
    congr 1
    omega
  · have t := hz y
    rw [pk_sub (show m ≤ b by omega), pk_sub (show b - m ≤ min m b - a + 1024 - m by omega)]
    congr 1
    omega
theorem cs_L245 (hp : post 1 ()) (ha : a ≤ 1024) (hb : b ≤ 1024) (hm : m < 1024) (h : cs_Fin s g (nI (b - a)) x11 x12 x13 a2) (hz : ¬ x12 = 0 → cs_sum g 16 + (b - max a m) = (min b m - a) + (1024 - m)) :
    wL_lawOf_245 post mc ms (nI a) (nI b) (nI (b - a)) (nI s) (nI m) x11 x12 x13 kc ks mg a1 a2 a3 a4 a5 a6 a7 := by
  have key := cs_L275 (mc := mc) (ms := ms) (kc := kc) (ks := ks) (mg := mg) (a1 := a1) (a3 := a3) (a4 := a4) (a5 := a5) (a6 := a6) (a7 := a7) hp ha hb hm h hz
  refine pk_lt m b (fun w => pk_lt a m (fun v => ?_) (fun v => ?_)) (fun w => ?_)
  · rw [pk_sub (show a ≤ m by omega), show m - a = min m b - a by omega]
    exact key
  · rw [show min m b - a = 0 by omega] at key
    exact key
  · rw [show min m b - a = b - a by omega] at key
    exact key
theorem cs_L204 {z0 z1 : Int32} (hp : post 1 ()) (hs : s < 4) (ha : a ≤ 1024) (hb : b ≤ 1024) (hm : m < 1024) (k : ∀ q, q < 16 → cs_K a1 a2 a3 a4 (16 * s + q) (cs_F a q) (cs_F b q))
    (i1 : a ≤ m → m < b → x11 = 1) (i0 : ¬ (a ≤ m ∧ m < b) → x11 = 0) (hz : z1 = z0) :
    wL_lawOf_204 post mc ms x4 (nI a) (nI b) (nI (b - a)) (nI s) (nI m) x11 z0 z1 kc ks mg a1 a2 a3 a4 a5 a6 a7 := by
  refine br_t hz (nm_e (br_c (fun e => ?_) (fun e => ?_)))
  · refine cs_remove hs hm k (fun h => cs_L245 (g := fun q => cs_F b q - cs_F a q) hp ha hb hm ⟨hs, fun q hq => (k q hq).1, fun _ => ?_, fun z => absurd e z, fun _ _ => rfl, fun _ z => absurd (i0 h) z⟩ (fun z => absurd e z)) (fun h1 h2 b1 b2 b3 b4 b5 hk => cs_L245 hp ha hb hm ⟨hs, hk, fun _ => ?_, fun z => absurd e z, fun _ z => ?_, fun _ _ => rfl⟩ (fun z => absurd e z))
    · rw [cs_sum_F]
      exact (pk_sub (b := 0) (by omega)).trans (congrArg nI (by omega))
    · rw [cs_sum_era a b m h1 h2, if_pos (by omega)]
      exact (pk_sub (b := 1) (by omega)).trans (congrArg nI (by omega))
    · rw [i1 h1 h2] at z
      exact absurd z (by decide)
  · rw [show nI m + 2097152 = nI (m + 2048 * 1024) from nI_add m 2097152]
    exact cs_range2 hs hm k (fun b1 b2 b3 b4 b5 hk => cs_L245 hp ha hb hm ⟨hs, hk, fun z => absurd z e, fun _ => rfl, fun z => absurd z e, fun z => absurd z e⟩ (fun _ => cs_sum_X ha hb hm))
theorem cs_L176 {z0 z1 : Int32} (hp : post 1 ()) (hs : s < 4) (ha : a ≤ 1024) (hb : b ≤ 1024) (hm : m < 1024) (k : ∀ q, q < 16 → cs_K a1 a2 a3 a4 (16 * s + q) (cs_F a q) (cs_F b q))
    (i1 : a ≤ m → m < b → x11 = 1) (i0 : ¬ (a ≤ m ∧ m < b) → x11 = 0) (hz : z1 = z0) :
    wL_lawOf_176 post mc ms x4 (nI a) (nI b) (nI (b - a)) (nI s) (nI m) x11 z0 z1 kc ks mg a1 a2 a3 a4 a5 a6 a7 := by
  refine br_t hz (cs_select hs ha hb k (fun h => ?_) (fun h => ?_))
  · exact pk_le (b - a) 0 (fun _ => cs_L204 hp hs ha hb hm k i1 i0 rfl) (fun z => absurd z (by omega))
  · exact pk_le (b - a) 0 (fun z => absurd z (by omega)) (fun _ => cs_L204 hp hs ha hb hm k i1 i0 (pk_sub (b := 1) (by omega)).symm)
theorem cs_L125 (hp : post 1 ()) (hs : s < 4) (ha : a ≤ 1024) (hb : b ≤ 1024) (hm : m < 1024) (k : ∀ q, q < 16 → cs_K a1 a2 a3 a4 (16 * s + q) (cs_F a q) (cs_F b q))
    (i1 : a ≤ m → m < b → x11 = 1) (i0 : ¬ (a ≤ m ∧ m < b) → x11 = 0) :
    wL_lawOf_125 post mc ms x4 (nI a) (nI b) (nI (b - a)) (nI s) (nI m) x11 kc ks mg a1 a2 a3 a4 a5 a6 a7 := by
  have key : wpX_rank (fun r_69 => (((x11 = 0 → (((nI a ≤ nI m → (wL_lawOf_176 post mc ms x4 (nI a) (nI b) (nI (b - a)) (nI s) (nI m) x11 (nI (b - a)) r_69 kc ks mg a1 a2 a3 a4 a5 a6 a7)) ∧ (¬ nI a ≤ nI m → (wL_lawOf_176 post mc ms x4 (nI a) (nI b) (nI (b - a)) (nI s) (nI m) x11 0 r_69 kc ks mg a1 a2 a3 a4 a5 a6 a7))))) ∧ (¬ x11 = 0 → (wL_lawOf_176 post mc ms x4 (nI a) (nI b) (nI (b - a)) (nI s) (nI m) x11 (nI m - nI a) r_69 kc ks mg a1 a2 a3 a4 a5 a6 a7))))) (mg, a1, a2, a3, a4, a5, a6, a7) (nI s) (nI m) := by
    refine cs_rank hs hm k (br_c (fun e => pk_le a m (fun z => ?_) (fun z => ?_)) (fun e => ?_))
    · refine cs_L176 hp hs ha hb hm k i1 i0 (congrArg nI ?_)
      rcases Nat.lt_or_ge m b with h | h
      · rw [i1 z h] at e
        exact absurd e (by decide)
      · omega
    · exact cs_L176 hp hs ha hb hm k i1 i0 (show nI (min m b - a) = nI 0 from congrArg nI (by omega))
    · have h : a ≤ m ∧ m < b := Decidable.byContradiction (fun z => e (i0 z))
      refine cs_L176 hp hs ha hb hm k i1 i0 ?_
      rw [pk_sub h.1]
      exact congrArg nI (by omega)
  exact cs_has hs hm k (fun h1 h2 => br_t (i1 h1 h2).symm key) (fun h => br_t (i0 h).symm key)
theorem cs_L101 {z0 z1 : Int32} (hp : post 1 ()) (hs : s < 4) (ha : a ≤ 1024) (hb : b ≤ 1024) (hm : m < 1024) (k : ∀ q, q < 16 → cs_K a1 a2 a3 a4 (16 * s + q) (cs_F a q) (cs_F b q)) (hz : z1 = z0) :
    wL_lawOf_101 post mc ms x4 (nI a) (nI b) (nI (b - a)) (nI s) (nI m) z0 z1 kc ks mg a1 a2 a3 a4 a5 a6 a7 :=
  br_t hz (pk_lt m a (fun z => cs_L125 hp hs ha hb hm k (fun h1 h2 => absurd h1 (by omega)) (fun _ => rfl)) (fun z => pk_le b m (fun y => cs_L125 hp hs ha hb hm k (fun h1 h2 => absurd h1 (by omega)) (fun _ => rfl)) (fun y => cs_L125 hp hs ha hb hm k (fun _ _ => rfl) (fun h => absurd h (by omega)))))
theorem cs_L45 {x0 x3 : Int32} (hp : post 1 ()) (ha : a ≤ 1024) (hb : b ≤ 1024) (k : ∀ c, cs_K a1 a2 a3 a4 c 0 0) :
    wL_lawOf_45 post mc ms x0 x3 x4 (nI a) (nI b) (nI (b - a)) kc ks mg a1 a2 a3 a4 a5 a6 a7 := by
  obtain ⟨s, hs, es⟩ := pk_andE x0 (m := 3) 2 (by decide)
  obtain ⟨y, hy, ey⟩ := pk_andE x3 (m := 65535) 16 (by decide)
  refine nm_r es ⟨by decide, nm_r (e' := nI (y % 1024)) ?_ ?_⟩
  · rw [ey]
    exact pk_rem (d := 1024) (by omega) (by omega) (by omega)
  · rw [show nI a + 2048 * nI b = nI (a + 2048 * b) by rw [show (2048 : Int32) * nI b = nI (2048 * b) from pk_mul 2048 b, nI_add]]
    refine cs_range0 hs ha hb (fun q _ => k _) (fun b1 b2 b3 b4 b5 hk => br_t rfl (cs_ranges hs ha hb hk (pk_le (b - a) 0 (fun z => cs_L101 hp hs ha hb (by omega) hk ?_) (fun z => cs_L101 hp hs ha hb (by omega) hk ?_))))
    · rw [if_neg (by omega)]
      rfl
    · rw [if_pos (by omega)]
      rfl
end
theorem cs_lawOf {post : Int32 → St0 → Prop} (hp : post 1 ()) (p0 p1 p2 p3 p4 : Int32) : wpL_lawOf post 456 7296 () p0 p1 p2 p3 p4 := by
  obtain ⟨x, hx, ex⟩ := pk_andE p1 (m := 65535) 16 (by decide)
  obtain ⟨y, hy, ey⟩ := pk_andE p2 (m := 65535) 16 (by decide)
  have k : ∀ c, cs_K (upd (fun _ => 0) 0 0) (fun _ => 0) (fun _ => 0) (fun _ => 0) c 0 0 := by
    intro c
    refine ⟨rfl, Or.inl ⟨by omega, ?_, rfl, fun j hj => absurd hj (by omega)⟩⟩
    by_cases h : c = 0
    · rw [h, pk_us]
    · rw [pk_un h]
  refine ⟨by omega, by omega, 455, 7288, by omega, by omega, ?_⟩
  refine ⟨by omega, by omega, by omega, by omega, by omega, by omega, by omega, by omega, by omega, by omega, by omega, by omega, by omega, by omega, nm_e ⟨by decide, nm_r (e' := nI (x % 1025)) ?_ ⟨by decide, nm_r (e' := nI (y % 1025)) ?_ ?_⟩⟩⟩
  · rw [ex]
    exact pk_rem (d := 1025) (by omega) (by omega) (by omega)
  · rw [ey]
    exact pk_rem (d := 1025) (by omega) (by omega) (by omega)
  · refine pk_le (y % 1025) (x % 1025) (fun z => ?_) (fun z => ?_)
    · have h := cs_L45 (mc := 456) (ms := 7296) (kc := 1 + 455) (ks := 8 + 7288) (mg := 0) (a5 := fun _ => 0) (a6 := fun _ => 0) (a7 := fun _ => 0) (x0 := p0) (x3 := p3) (x4 := p4) (a := x % 1025) (b := y % 1025) hp (by omega) (by omega) k
      rw [show y % 1025 - x % 1025 = 0 by omega] at h
      exact h
    · rw [pk_sub (by omega)]
      exact cs_L45 hp (by omega) (by omega) k
theorem cs_cell {post : Int32 → Prop} {L : Nat} {xs : Nat → Int32} (hL : L ≤ 5) (i : Nat) (hi : i < 5) (H : ∀ r, post r) : wpL_cellAt post L xs () (nI i) :=
  pk_le L i (fun _ => H 0) (fun z => ⟨pk_in i L z, H _⟩)
theorem i_vc (xs : Nat → Int32) (L : Nat) (hL : L ≤ 5) : wpL_law (fun r => r = 1) L xs :=
  cs_cell hL 0 (by omega) (fun r1 => cs_cell hL 1 (by omega) (fun r2 => cs_cell hL 2 (by omega) (fun r3 => cs_cell hL 3 (by omega) (fun r4 => cs_cell hL 4 (by omega) (fun r5 => ⟨456, 7296, by omega, by omega, cs_lawOf (post := fun r_6 _ => r_6 = 1) rfl r1 r2 r3 r4 r5⟩)))))
end

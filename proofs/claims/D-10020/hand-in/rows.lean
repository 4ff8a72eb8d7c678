section
/-! from the kit's BITS.to-paste: the wb family -/
theorem wb_tb (n : Nat) : (lN n).toBitVec = BitVec.ofNat 64 n := rfl
theorem wb_inj {a b : Int64} (h : a.toBitVec = b.toBitVec) : a = b := Int64.toBitVec_inj.mp h
theorem wb_tn {n : Nat} (h : n < 2 ^ 64) : (lN n).toBitVec.toNat = n := by rw [wb_tb, BitVec.toNat_ofNat, Nat.mod_eq_of_lt h]
theorem wb_of (x : Int64) : ∃ n, n < 2 ^ 64 ∧ x = lN n := ⟨x.toBitVec.toNat, x.toBitVec.isLt, wb_inj (by rw [wb_tb]; simp)⟩
theorem wb_of32 (x : Int32) : ∃ n, n < 2 ^ 32 ∧ x = nI n := ⟨x.toBitVec.toNat, x.toBitVec.isLt, Int32.toBitVec_inj.mp (by show _ = BitVec.ofNat 32 _; simp)⟩
theorem wb_c : ∀ k, k < 64 → ((nI k).toInt64 &&& 63) = lN k := by decide +kernel
theorem wb_cu : ∀ k, k < 64 → ((nI k).toInt64.toUInt64 &&& Int64.toUInt64 63) = UInt64.ofNat k := by decide +kernel
theorem wb_sm : ∀ k, k < 64 → (BitVec.ofNat 64 k).smod 64 = BitVec.ofNat 64 k := by decide +kernel
theorem wb_pw {a b : Nat} (h : a ≤ b) : 2 ^ b = 2 ^ a * 2 ^ (b - a) := by rw [← Nat.pow_add]; congr 1; omega
theorem wb_lt2 {a b : Nat} (h : a < b) : 2 ^ a < 2 ^ b := Nat.pow_lt_pow_right (by decide) h
theorem wb_mod (n : Nat) : lN n = lN (n % 2 ^ 64) := wb_inj (by rw [wb_tb, wb_tb]; apply BitVec.eq_of_toNat_eq; rw [BitVec.toNat_ofNat, BitVec.toNat_ofNat, Nat.mod_mod])
theorem wb_shr {n k : Nat} (hn : n < 2 ^ 64) (hk : k < 64) : ((lN n).toUInt64 >>> ((nI k).toInt64.toUInt64 &&& Int64.toUInt64 63)).toInt64 = lN (n / 2 ^ k) := by
  rw [wb_cu k hk]
  apply wb_inj
  apply BitVec.eq_of_toNat_eq
  show ((lN n).toUInt64 >>> UInt64.ofNat k).toNat = (BitVec.ofNat 64 _).toNat
  have h1 : (UInt64.ofNat k).toNat = k := by
    show (BitVec.ofNat 64 k).toNat = k
    rw [BitVec.toNat_ofNat, Nat.mod_eq_of_lt (by omega)]
  have h2 : (lN n).toUInt64.toNat = n := wb_tn hn
  rw [UInt64.toNat_shiftRight, h1, h2, Nat.mod_eq_of_lt hk, Nat.shiftRight_eq_div_pow, BitVec.toNat_ofNat, Nat.mod_eq_of_lt (Nat.lt_of_le_of_lt (Nat.div_le_self _ _) hn)]
theorem wb_shl (n : Nat) {k : Nat} (hk : k < 64) : lN n <<< ((nI k).toInt64 &&& 63) = lN (n * 2 ^ k) := by
  rw [wb_c k hk]
  apply wb_inj
  rw [Int64.toBitVec_shiftLeft, wb_tb, wb_tb, wb_tb, wb_sm k hk]
  apply BitVec.eq_of_toNat_eq
  rw [BitVec.shiftLeft_eq', BitVec.toNat_shiftLeft, BitVec.toNat_ofNat, BitVec.toNat_ofNat, BitVec.toNat_ofNat, Nat.mod_eq_of_lt (show k < 2 ^ 64 by omega), Nat.shiftLeft_eq, Nat.mul_mod, Nat.mod_mod, ← Nat.mul_mod]
theorem wb_and {a b : Nat} (ha : a < 2 ^ 64) (hb : b < 2 ^ 64) : lN a &&& lN b = lN (a &&& b) := by
  apply wb_inj
  rw [Int64.toBitVec_and, wb_tb, wb_tb, wb_tb]
  apply BitVec.eq_of_toNat_eq
  rw [BitVec.toNat_and, BitVec.toNat_ofNat, BitVec.toNat_ofNat, BitVec.toNat_ofNat, Nat.mod_eq_of_lt ha, Nat.mod_eq_of_lt hb, Nat.mod_eq_of_lt (Nat.and_lt_two_pow _ hb)]
theorem wb_or {a b : Nat} (ha : a < 2 ^ 64) (hb : b < 2 ^ 64) : lN a ||| lN b = lN (a ||| b) := by
  apply wb_inj
  rw [Int64.toBitVec_or, wb_tb, wb_tb, wb_tb]
  apply BitVec.eq_of_toNat_eq
  rw [BitVec.toNat_or, BitVec.toNat_ofNat, BitVec.toNat_ofNat, BitVec.toNat_ofNat, Nat.mod_eq_of_lt ha, Nat.mod_eq_of_lt hb, Nat.mod_eq_of_lt (Nat.or_lt_two_pow ha hb)]
theorem wb_mask {n k : Nat} (hn : n < 2 ^ 64) (hk : k < 64) : lN n &&& lN (2 ^ k - 1) = lN (n % 2 ^ k) := by
  rw [wb_and hn (by have := wb_lt2 hk; omega), Nat.and_two_pow_sub_one_eq_mod]
theorem wb_a1 {n : Nat} (hn : n < 2 ^ 64) : lN n &&& 1 = lN (n % 2) := wb_mask (k := 1) hn (by decide)
theorem wb_bit {n k : Nat} (hn : n < 2 ^ 64) (hk : k < 64) : ((lN n).toUInt64 >>> ((nI k).toInt64.toUInt64 &&& Int64.toUInt64 63)).toInt64 &&& 1 = lN (n / 2 ^ k % 2) := by
  rw [wb_shr hn hk, wb_a1 (Nat.lt_of_le_of_lt (Nat.div_le_self _ _) hn)]
theorem s_l : ∀ n, n < 32 → ((nI n &&& 31).toBitVec.smod 32).toNat = n := by decide +kernel
/-! ===== a long as a set of bits ===== -/
def tm_b (x : Int64) (b : Nat) : Bool := x.toBitVec.getLsbD b
theorem tm_b_and (x y : Int64) (b : Nat) : tm_b (x &&& y) b = (tm_b x b && tm_b y b) := by
  unfold tm_b; rw [Int64.toBitVec_and, BitVec.getLsbD_and]
theorem tm_b_or (x y : Int64) (b : Nat) : tm_b (x ||| y) b = (tm_b x b || tm_b y b) := by
  unfold tm_b; rw [Int64.toBitVec_or, BitVec.getLsbD_or]
theorem tm_b_xor (x y : Int64) (b : Nat) : tm_b (x ^^^ y) b = (tm_b x b ^^ tm_b y b) := by
  unfold tm_b; rw [Int64.toBitVec_xor, BitVec.getLsbD_xor]
theorem tm_b_0 (b : Nat) : tm_b 0 b = false := by
  unfold tm_b
  show (0#64).getLsbD b = false
  exact BitVec.getLsbD_zero
theorem tm_b_m1 {b : Nat} (h : b < 64) : tm_b (-1) b = true := by
  unfold tm_b
  rw [show (-1 : Int64).toBitVec = BitVec.allOnes 64 from by decide, BitVec.getLsbD_allOnes]
  exact decide_eq_true h
theorem tm_b_not (x : Int64) {b : Nat} (h : b < 64) : tm_b (x ^^^ (-1)) b = !tm_b x b := by
  rw [tm_b_xor, tm_b_m1 h, Bool.xor_true]
theorem tm_b_ext {x y : Int64} (h : ∀ b, b < 64 → tm_b x b = tm_b y b) : x = y :=
  Int64.toBitVec_inj.mp (BitVec.eq_of_getLsbD_eq h)
theorem tm_b_z {x : Int64} : x = 0 ↔ ∀ b, b < 64 → tm_b x b = false := by
  constructor
  · intro e b _
    rw [e, tm_b_0]
  · intro h
    exact tm_b_ext (fun b hb => by rw [h b hb, tm_b_0])
theorem tm_b_nz {x : Int64} (h : ¬ x = 0) : ∃ b, b < 64 ∧ tm_b x b = true := by
  refine Classical.byContradiction (fun c => h (tm_b_z.mpr (fun b hb => ?_)))
  cases e : tm_b x b
  · rfl
  · exact absurd ⟨b, hb, e⟩ c
theorem tm_b_lN (n : Nat) {b : Nat} (h : b < 64) : tm_b (lN n) b = n.testBit b := by
  unfold tm_b
  rw [wb_tb, BitVec.getLsbD_ofNat, decide_eq_true h, Bool.true_and]
theorem tm_b_big {x : Int64} {b : Nat} (h : 64 ≤ b) : tm_b x b = false := BitVec.getLsbD_of_ge _ _ h
theorem tm_b_15 : ∀ b, b < 64 → tm_b 15 b = decide (b < 4) := by decide +kernel
/-- one bit, as the code takes it -/
theorem tm_bit1 (x : Int64) {k : Nat} (hk : k < 64) : ((x.toUInt64 >>> ((nI k).toInt64.toUInt64 &&& Int64.toUInt64 63)).toInt64) &&& 1 = lN (tm_b x k).toNat := by
  obtain ⟨n, hn, rfl⟩ := wb_of x
  rw [wb_bit hn hk, tm_b_lN n hk, Nat.toNat_testBit]
theorem tm_and1 (q : Nat) : nI q &&& 1 = nI (q % 2) := by
  rw [pk_and (nI q) 1 (m := 1) (by decide)]
  show nI ((BitVec.ofNat 32 q).toNat % 2 ^ 1) = _
  rw [BitVec.toNat_ofNat]
  congr 1
  omega
theorem tm_bit2 (x : Int64) (m : Nat) (hm : m < 2 ^ 31) : (((x.toUInt64 >>> ((nI m &&& 63).toInt64.toUInt64 &&& Int64.toUInt64 63)).toInt64).toInt32) &&& 1 = nI (tm_b x (m % 64)).toNat := by
  obtain ⟨n, hn, rfl⟩ := wb_of x
  rw [pk_andN (n := m) (by omega) (m := 63) 6 (by decide)]
  show (((lN n).toUInt64 >>> ((nI (m % 64)).toInt64.toUInt64 &&& Int64.toUInt64 63)).toInt64).toInt32 &&& 1 = _
  rw [wb_shr hn (Nat.mod_lt _ (by decide)), lN_i, tm_and1, tm_b_lN n (Nat.mod_lt _ (by decide)), Nat.toNat_testBit]
/-- the low bits away -/
theorem tm_mask (x : Int64) (m : Nat) (hm : m < 2 ^ 31) {b : Nat} (hb : b < 64) : tm_b (((x.toUInt64 >>> ((nI m &&& 63).toInt64.toUInt64 &&& Int64.toUInt64 63)).toInt64) <<< ((nI m &&& 63).toInt64 &&& 63)) b = (decide (m % 64 ≤ b) && tm_b x b) := by
  obtain ⟨n, hn, rfl⟩ := wb_of x
  rw [pk_andN (n := m) (by omega) (m := 63) 6 (by decide)]
  show tm_b ((((lN n).toUInt64 >>> ((nI (m % 64)).toInt64.toUInt64 &&& Int64.toUInt64 63)).toInt64) <<< ((nI (m % 64)).toInt64 &&& 63)) b = _
  rw [wb_shr hn (Nat.mod_lt _ (by decide)), wb_shl _ (Nat.mod_lt _ (by decide)), tm_b_lN _ hb, tm_b_lN _ hb, Nat.testBit_mul_two_pow, ← Nat.shiftRight_eq_div_pow, Nat.testBit_shiftRight]
  by_cases h : m % 64 ≤ b
  · rw [Nat.add_sub_cancel' h]
  · rw [decide_eq_false h, Bool.false_and, Bool.false_and]
/-! ===== ints: or, one bit of an int ===== -/
theorem tm_or (a b : Nat) (ha : a < 2 ^ 32) (hb : b < 2 ^ 32) : nI a ||| nI b = nI (a ||| b) := by
  apply Int32.toBitVec_inj.mp
  rw [Int32.toBitVec_or]
  show BitVec.ofNat 32 a ||| BitVec.ofNat 32 b = BitVec.ofNat 32 (a ||| b)
  apply BitVec.eq_of_toNat_eq
  rw [BitVec.toNat_or, BitVec.toNat_ofNat, BitVec.toNat_ofNat, BitVec.toNat_ofNat, Nat.mod_eq_of_lt ha, Nat.mod_eq_of_lt hb, Nat.mod_eq_of_lt (Nat.or_lt_two_pow ha hb)]
theorem tm_ibit {m g : Nat} (hm : m < 2 ^ 31) (hg : g < 32) : (nI m >>> (nI g &&& 31)) &&& 1 = nI (m.testBit g).toNat := by
  rw [pk_shrN hm _ g (s_l g hg), tm_and1, Nat.toNat_testBit]
theorem tm_isl {x g : Nat} (hg : g < 32) (h : x * 2 ^ g < 2 ^ 32) : nI x <<< (nI g &&& 31) = nI (x * 2 ^ g) := pk_shlN _ g (s_l g hg) h
/-! ===== sums ===== -/
def tm_sum (f : Nat → Nat) : Nat → Nat
  | 0 => 0
  | n + 1 => tm_sum f n + f n
theorem tm_sum_congr {f g : Nat → Nat} : ∀ {n : Nat}, (∀ i, i < n → f i = g i) → tm_sum f n = tm_sum g n
  | 0, _ => rfl
  | n + 1, h => by
    show tm_sum f n + f n = tm_sum g n + g n
    rw [tm_sum_congr (fun i hi => h i (by omega)), h n (by omega)]
theorem tm_sum_add (f g : Nat → Nat) : ∀ n, tm_sum (fun i => f i + g i) n = tm_sum f n + tm_sum g n
  | 0 => rfl
  | n + 1 => by
    show tm_sum (fun i => f i + g i) n + (f n + g n) = tm_sum f n + f n + (tm_sum g n + g n)
    rw [tm_sum_add f g n]
    omega
theorem tm_sum_mul (c : Nat) (f : Nat → Nat) : ∀ n, tm_sum (fun i => c * f i) n = c * tm_sum f n
  | 0 => rfl
  | n + 1 => by
    show tm_sum (fun i => c * f i) n + c * f n = c * (tm_sum f n + f n)
    rw [tm_sum_mul c f n, Nat.mul_add]
theorem tm_sum_0 : ∀ n, tm_sum (fun _ => 0) n = 0
  | 0 => rfl
  | n + 1 => by
    show tm_sum (fun _ => 0) n + 0 = 0
    rw [tm_sum_0 n]
theorem tm_sum_z {f : Nat → Nat} {n : Nat} (h : ∀ i, i < n → f i = 0) : tm_sum f n = 0 := by
  rw [tm_sum_congr (g := fun _ => 0) h, tm_sum_0]
theorem tm_sum_swap (g : Nat → Nat → Nat) (k : Nat) : ∀ n, tm_sum (fun i => tm_sum (g i) k) n = tm_sum (fun j => tm_sum (fun i => g i j) n) k
  | 0 => (tm_sum_0 k).symm
  | n + 1 => by
    show tm_sum (fun i => tm_sum (g i) k) n + tm_sum (g n) k = tm_sum (fun j => tm_sum (fun i => g i j) n + g n j) k
    rw [tm_sum_swap g k n, tm_sum_add]
theorem tm_sum_le {f : Nat → Nat} {c : Nat} : ∀ {n : Nat}, (∀ i, i < n → f i ≤ c) → tm_sum f n ≤ c * n
  | 0, _ => Nat.le_refl 0
  | n + 1, h => by
    show tm_sum f n + f n ≤ c * (n + 1)
    have h1 := tm_sum_le (f := f) (c := c) (n := n) (fun i hi => h i (by omega))
    have h2 := h n (by omega)
    rw [Nat.mul_add]
    omega
theorem tm_sum_mono {f g : Nat → Nat} : ∀ {n : Nat}, (∀ i, i < n → f i ≤ g i) → tm_sum f n ≤ tm_sum g n
  | 0, _ => Nat.le_refl 0
  | n + 1, h => Nat.add_le_add (tm_sum_mono (fun i hi => h i (by omega))) (h n (by omega))
theorem tm_sum_app (f : Nat → Nat) (n : Nat) : ∀ k, tm_sum f (n + k) = tm_sum f n + tm_sum (fun i => f (n + i)) k
  | 0 => rfl
  | k + 1 => by
    show tm_sum f (n + k) + f (n + k) = tm_sum f n + (tm_sum (fun i => f (n + i)) k + f (n + k))
    rw [tm_sum_app f n k]
    omega
theorem tm_sum_blk (f : Nat → Nat) (w : Nat) : ∀ k, tm_sum (fun p => tm_sum (fun b => f (w * p + b)) w) k = tm_sum f (w * k)
  | 0 => rfl
  | k + 1 => by
    show tm_sum (fun p => tm_sum (fun b => f (w * p + b)) w) k + tm_sum (fun b => f (w * k + b)) w = tm_sum f (w * k + w)
    rw [tm_sum_blk f w k, tm_sum_app]
theorem tm_sum_first (f : Nat → Nat) (n : Nat) : tm_sum f (n + 1) = f 0 + tm_sum (fun i => f (i + 1)) n := by
  rw [Nat.add_comm n 1, tm_sum_app]
  show 0 + f 0 + _ = _
  rw [Nat.zero_add]
  congr 1
  exact tm_sum_congr (fun i _ => by rw [Nat.add_comm])
theorem tm_sum_one {f : Nat → Nat} {a : Nat} : ∀ {n : Nat}, a < n → (∀ i, i < n → i ≠ a → f i = 0) → tm_sum f n = f a
  | 0, h, _ => absurd h (by omega)
  | n + 1, h, hz => by
    show tm_sum f n + f n = f a
    by_cases e : a = n
    · rw [tm_sum_z (fun i hi => hz i (by omega) (by omega)), e, Nat.zero_add]
    · rw [tm_sum_one (a := a) (n := n) (by omega) (fun i hi => hz i (by omega)), hz n (by omega) (by omega), Nat.add_zero]
/-- how many of the first n -/
def tm_cnt (f : Nat → Bool) (n : Nat) : Nat := tm_sum (fun i => (f i).toNat) n
theorem tm_cnt_s (f : Nat → Bool) (n : Nat) : tm_cnt f (n + 1) = tm_cnt f n + (f n).toNat := rfl
theorem tm_cnt_congr {f g : Nat → Bool} {n : Nat} (h : ∀ i, i < n → f i = g i) : tm_cnt f n = tm_cnt g n :=
  tm_sum_congr (fun i hi => by rw [h i hi])
theorem tm_cnt_le (f : Nat → Bool) (n : Nat) : tm_cnt f n ≤ n := by
  have h := tm_sum_le (f := fun i => (f i).toNat) (c := 1) (n := n) (fun i _ => Bool.toNat_le (f i))
  unfold tm_cnt
  omega
theorem tm_cnt_split (f g : Nat → Bool) (n : Nat) : tm_cnt (fun i => f i && g i) n + tm_cnt (fun i => f i && !g i) n = tm_cnt f n := by
  unfold tm_cnt
  rw [← tm_sum_add]
  exact tm_sum_congr (fun i _ => by dsimp only; cases f i <;> cases g i <;> rfl)
theorem tm_cnt_full (f : Nat → Bool) : ∀ n, tm_cnt f n = n ↔ ∀ i, i < n → f i = true
  | 0 => ⟨fun _ i hi => absurd hi (by omega), fun _ => rfl⟩
  | n + 1 => by
    have h1 := tm_cnt_full f n
    have h2 := tm_cnt_le f n
    rw [tm_cnt_s]
    constructor
    · intro e i hi
      cases hf : f n
      · rw [hf] at e
        have e' : tm_cnt f n + 0 = n + 1 := e
        omega
      · rw [hf] at e
        have e' : tm_cnt f n + 1 = n + 1 := e
        by_cases g : i = n
        · rw [g, hf]
        · exact h1.mp (by omega) i (by omega)
    · intro h
      rw [h n (by omega), h1.mpr (fun i hi => h i (by omega))]
      rfl
/-! ===== the number of ones, one taken away at a time ===== -/
def tm_pc (x : Int64) : Nat := tm_cnt (tm_b x) 64
theorem tm_pc_le (x : Int64) : tm_pc x ≤ 64 := tm_cnt_le _ _
theorem tm_pc0 : tm_pc 0 = 0 := tm_sum_z (fun i _ => by rw [tm_b_0]; rfl)
theorem tm_kern : ∀ (w n : Nat), 0 < n → n < 2 ^ w → tm_cnt (n &&& (n - 1)).testBit w + 1 = tm_cnt n.testBit w
  | 0, n, h0, h => by
    have h' : n < 1 := h
    omega
  | w + 1, n, h0, h => by
    have e1 : tm_cnt (n &&& (n - 1)).testBit (w + 1) = ((n &&& (n - 1)).testBit 0).toNat + tm_cnt (fun i => (n / 2).testBit i && ((n - 1) / 2).testBit i) w := by
      unfold tm_cnt
      rw [tm_sum_first]
      congr 1
      exact tm_sum_congr (fun i _ => by rw [Nat.testBit_succ, ← Nat.testBit_succ, Nat.testBit_and, Nat.testBit_succ, Nat.testBit_succ])
    have e2 : tm_cnt n.testBit (w + 1) = (n.testBit 0).toNat + tm_cnt (n / 2).testBit w := by
      unfold tm_cnt
      rw [tm_sum_first]
      congr 1
      exact tm_sum_congr (fun i _ => by rw [Nat.testBit_succ])
    rw [e1, e2, Nat.testBit_and, Nat.testBit_zero, Nat.testBit_zero]
    have hw : 2 ^ (w + 1) = 2 * 2 ^ w := by rw [Nat.pow_succ, Nat.mul_comm]
    rcases Nat.mod_two_eq_zero_or_one n with p | p
    · have q : (n - 1) / 2 = n / 2 - 1 := by omega
      have t := tm_kern w (n / 2) (by omega) (by omega)
      have c : tm_cnt (fun i => (n / 2).testBit i && ((n - 1) / 2).testBit i) w = tm_cnt (n / 2 &&& (n / 2 - 1)).testBit w :=
        tm_cnt_congr (fun i _ => by rw [Nat.testBit_and, q])
      rw [c, p]
      have z : (decide ((0 : Nat) = 1) && decide ((n - 1) % 2 = 1)).toNat = 0 := rfl
      have z' : (decide ((0 : Nat) = 1)).toNat = 0 := rfl
      rw [z, z']
      omega
    · have q : (n - 1) / 2 = n / 2 := by omega
      have p2 : (n - 1) % 2 = 0 := by omega
      have c : tm_cnt (fun i => (n / 2).testBit i && ((n - 1) / 2).testBit i) w = tm_cnt (n / 2).testBit w :=
        tm_cnt_congr (fun i _ => by rw [q, Bool.and_self])
      rw [c, p, p2]
      have z : (decide ((1 : Nat) = 1) && decide ((0 : Nat) = 1)).toNat = 0 := rfl
      have z' : (decide ((1 : Nat) = 1)).toNat = 1 := rfl
      rw [z, z']
      omega
theorem tm_pc_step {x : Int64} (h : ¬ x = 0) : tm_pc (x &&& (x - 1)) + 1 = tm_pc x := by
  have hn : 0 < x.toBitVec.toNat := by
    rcases Nat.eq_zero_or_pos x.toBitVec.toNat with e | e
    · exact absurd (Int64.toBitVec_inj.mp (BitVec.eq_of_toNat_eq e)) h
    · exact e
  have hl := x.toBitVec.isLt
  have hs : (x - 1).toBitVec.toNat = x.toBitVec.toNat - 1 := by
    rw [Int64.toBitVec_sub, BitVec.toNat_sub]
    have h1 : (1 : Int64).toBitVec.toNat = 1 := by decide
    rw [h1]
    omega
  have t := tm_kern 64 x.toBitVec.toNat hn hl
  have c : tm_pc (x &&& (x - 1)) = tm_cnt (x.toBitVec.toNat &&& (x.toBitVec.toNat - 1)).testBit 64 :=
    tm_cnt_congr (fun i _ => by rw [tm_b_and, Nat.testBit_and, ← hs]; rfl)
  rw [c, t]
  rfl
end
section
/-! ===== lists of three elements, formulas over one interpretation ===== -/
def tm_el (l v : Nat) : Nat := if v = 0 then l % 3 else if v = 1 then l / 3 % 3 else l / 9
def tm_pl (v : Nat) : Nat := if v = 0 then 1 else if v = 1 then 3 else 9
def tm_is (d l : Nat) : Bool := decide (l % 3 < d) && (decide (l / 3 % 3 < d) && decide (l / 9 < d))
def tm_R (d m e f : Nat) : Bool := m.testBit (d + d * e + f)
/-- closing a relation over 0 .. k - 1 -/
def tm_cl (r : Nat → Nat → Bool) : Nat → Nat → Nat → Bool
  | 0, e, f => decide (e = f) || r e f
  | k + 1, e, f => tm_cl r k e f || (tm_cl r k e k && tm_cl r k k f)
def tm_atom (d m k e f : Nat) : Bool := if k = 0 then m.testBit e else if k = 1 then tm_R d m e f else if k = 2 then decide (e = f) else tm_cl (tm_R d m) d e f
def tm_join (k : Nat) (f g : Bool) : Bool := if k = 5 then f && g else if k = 6 then f || g else if k = 7 then !f || g else !(f ^^ g)
def tm_qt (d k w : Nat) (x y z : Bool) : Bool := if k = 10 then x || y || z else if k = 9 then (if d ≤ 2 then (if d ≤ 1 then x else x && y) else ((if d ≤ 1 then x else x && y) && z)) else if w = 1 then x && y && z else x && y || x && z || y && z
def tm_v (k a : Nat) : Nat := if k = 11 then a % 3 else a
def tm_z (l v : Nat) : Nat := l - tm_pl v * tm_el l v
def tm_quant (d k a : Nat) (T : Nat → Bool) (l : Nat) : Bool :=
  tm_qt d k (a / 3) (T (tm_z l (tm_v k a))) (if d ≤ 1 then false else T (tm_z l (tm_v k a) + tm_pl (tm_v k a))) (if d ≤ 2 then false else T (tm_z l (tm_v k a) + 2 * tm_pl (tm_v k a)))
def tm_tk (k : Nat) : Nat := if k ≤ 3 then 0 else if k = 4 then 1 else if k < 9 then 2 else 1
def tm_dn (k D : Nat) : Nat := if tm_tk k = 0 then D + 1 else if tm_tk k = 2 then D - 1 else D
def tm_at (d m k a l : Nat) : Bool := tm_atom d m k (tm_el l (if k = 0 then a else a / 3)) (tm_el l (if k = 0 then a else a % 3))
def tm_stp (d m k a D : Nat) (S : Nat → Nat → Bool) (i l : Nat) : Bool :=
  if tm_tk k = 0 then (if i = D then tm_at d m k a l else S i l)
  else if tm_tk k = 2 then (if i + 2 = D then tm_join k (S i l) (S (i + 1) l) else S i l)
  else if i + 1 = D then (if k = 4 then !S i l else tm_quant d k a (S i) l) else S i l
def tm_dep (K : Nat → Int32) (s : Nat) : Nat → Nat
  | 0 => 0
  | n + 1 => tm_dn (K (s + n)).toNatClampNeg (tm_dep K s n)
def tm_run (d m : Nat) (K A : Nat → Int32) (s : Nat) : Nat → Nat → Nat → Bool
  | 0 => fun _ _ => false
  | n + 1 => tm_stp d m (K (s + n)).toNatClampNeg (A (s + n)).toNatClampNeg (tm_dep K s n) (tm_run d m K A s n)
/-- a token's argument fits it -/
def tm_tok (k a : Nat) : Prop := k ≤ 11 ∧ a ≤ 15 ∧ (k = 0 → a ≤ 2) ∧ (k ≤ 3 → a ≤ 8) ∧ (9 ≤ k → k ≤ 10 → a ≤ 2) ∧ (k = 11 → a ≤ 5)
/-- a formula of n tokens stands from s on -/
def tm_frm (K A : Nat → Int32) (s n : Nat) : Prop := 1 ≤ n ∧ n ≤ 24 ∧ tm_dep K s n = 1 ∧ ∀ j, j < n → ∃ k a, K (s + j) = nI k ∧ A (s + j) = nI a ∧ tm_tok k a ∧ tm_tk k ≤ tm_dep K s j
theorem tm_tk_le (k : Nat) : tm_tk k ≤ 2 := by
  unfold tm_tk
  split
  · omega
  · split
    · omega
    · split <;> omega
theorem tm_dn_le (k D : Nat) : tm_dn k D ≤ D + 1 := by
  unfold tm_dn
  split
  · omega
  · split <;> omega
theorem tm_dn_ge (k D : Nat) : D ≤ tm_dn k D + 1 := by
  unfold tm_dn
  split
  · omega
  · split <;> omega
theorem tm_dn_s {k D : Nat} (h : tm_tk k ≤ D) : tm_dn k (1 + D) = 1 + tm_dn k D := by
  have := tm_tk_le k
  unfold tm_dn
  split
  · omega
  · split <;> omega
theorem tm_dep_le (K : Nat → Int32) (s : Nat) : ∀ n, tm_dep K s n ≤ n
  | 0 => Nat.le_refl 0
  | n + 1 => by
    have h1 := tm_dep_le K s n
    have h2 := tm_dn_le (K (s + n)).toNatClampNeg (tm_dep K s n)
    show tm_dn (K (s + n)).toNatClampNeg (tm_dep K s n) ≤ n + 1
    omega
theorem tm_dep_ge (K : Nat → Int32) (s j : Nat) : ∀ n, tm_dep K s j ≤ tm_dep K s (j + n) + n
  | 0 => Nat.le_refl _
  | n + 1 => by
    have h1 := tm_dep_ge K s j n
    have h2 := tm_dn_ge (K (s + (j + n))).toNatClampNeg (tm_dep K s (j + n))
    show tm_dep K s j ≤ tm_dn (K (s + (j + n))).toNatClampNeg (tm_dep K s (j + n)) + (n + 1)
    omega
theorem tm_frm_12 {K A : Nat → Int32} {s n j : Nat} (h : tm_frm K A s n) (hj : j ≤ n) : tm_dep K s j ≤ 12 := by
  obtain ⟨h1, h2, h3, _⟩ := h
  have a := tm_dep_le K s j
  have b := tm_dep_ge K s j (n - j)
  rw [Nat.add_sub_cancel' hj, h3] at b
  omega
theorem tm_dep_congr {K K' : Nat → Int32} {s s' n : Nat} (h : ∀ j, j < n → K' (s' + j) = K (s + j)) : ∀ j, j ≤ n → tm_dep K' s' j = tm_dep K s j
  | 0, _ => rfl
  | j + 1, hj => by
    show tm_dn (K' (s' + j)).toNatClampNeg (tm_dep K' s' j) = tm_dn (K (s + j)).toNatClampNeg (tm_dep K s j)
    rw [h j (by omega), tm_dep_congr h j (by omega)]
theorem tm_run_congr {K K' A A' : Nat → Int32} {s s' n : Nat} (d m : Nat) (h : ∀ j, j < n → K' (s' + j) = K (s + j)) (hA : ∀ j, j < n → A' (s' + j) = A (s + j)) : ∀ j, j ≤ n → tm_run d m K' A' s' j = tm_run d m K A s j
  | 0, _ => rfl
  | j + 1, hj => by
    show tm_stp d m (K' (s' + j)).toNatClampNeg (A' (s' + j)).toNatClampNeg (tm_dep K' s' j) (tm_run d m K' A' s' j) = tm_stp d m (K (s + j)).toNatClampNeg (A (s + j)).toNatClampNeg (tm_dep K s j) (tm_run d m K A s j)
    rw [h j (by omega), hA j (by omega), tm_dep_congr h j (by omega), tm_run_congr d m h hA j (by omega)]
theorem tm_frm_congr {K K' A A' : Nat → Int32} {s s' n : Nat} (h : ∀ j, j < n → K' (s' + j) = K (s + j)) (hA : ∀ j, j < n → A' (s' + j) = A (s + j)) (hf : tm_frm K A s n) : tm_frm K' A' s' n := by
  obtain ⟨h1, h2, h3, h4⟩ := hf
  refine ⟨h1, h2, by rw [tm_dep_congr h n (Nat.le_refl n), h3], fun j hj => ?_⟩
  rw [h j hj, hA j hj, tm_dep_congr h j (by omega)]
  exact h4 j hj
theorem tm_clk {k : Nat} (h : k < 2 ^ 31) : (nI k).toNatClampNeg = k := nI_clamp h
/-- formulas put together -/
theorem tm_frm_0 {K A : Nat → Int32} {s k a : Nat} (hK : K s = nI k) (hA : A s = nI a) (ht : tm_tok k a) (hk : tm_tk k = 0) : tm_frm K A s 1 := by
  have hk' := ht.1
  refine ⟨by omega, by omega, ?_, fun j hj => ?_⟩
  · show tm_dn (K (s + 0)).toNatClampNeg 0 = 1
    rw [Nat.add_zero, hK, nI_clamp (by omega)]
    unfold tm_dn
    rw [if_pos hk]
  · obtain rfl : j = 0 := by omega
    exact ⟨k, a, hK, hA, ht, by rw [hk]; exact Nat.zero_le _⟩
theorem tm_frm_1 {K A : Nat → Int32} {s n k a : Nat} (hf : tm_frm K A s n) (hn : n + 1 ≤ 24) (hK : K (s + n) = nI k) (hA : A (s + n) = nI a) (ht : tm_tok k a) (hk : tm_tk k = 1) : tm_frm K A s (n + 1) := by
  obtain ⟨h1, h2, h3, h4⟩ := hf
  have hk' := ht.1
  refine ⟨by omega, by omega, ?_, fun j hj => ?_⟩
  · show tm_dn (K (s + n)).toNatClampNeg (tm_dep K s n) = 1
    rw [hK, nI_clamp (by omega), h3]
    unfold tm_dn
    rw [hk]
    rfl
  · by_cases e : j = n
    · rw [e]
      exact ⟨k, a, hK, hA, ht, by rw [hk, h3]; exact Nat.le_refl _⟩
    · exact h4 j (by omega)
theorem tm_dep_two {K A : Nat → Int32} {s n n2 : Nat} (hf : tm_frm K A s n) (hg : tm_frm K A (s + n) n2) : ∀ j, j ≤ n2 → tm_dep K s (n + j) = 1 + tm_dep K (s + n) j
  | 0, _ => hf.2.2.1
  | j + 1, hj => by
    show tm_dn (K (s + (n + j))).toNatClampNeg (tm_dep K s (n + j)) = 1 + tm_dn (K (s + n + j)).toNatClampNeg (tm_dep K (s + n) j)
    rw [tm_dep_two hf hg j (by omega), ← Nat.add_assoc]
    obtain ⟨k, a, e1, _, ht, ht2⟩ := hg.2.2.2 j (by omega)
    have hk' := ht.1
    rw [e1, nI_clamp (by omega), tm_dn_s ht2]
theorem tm_frm_2 {K A : Nat → Int32} {s n n2 k a : Nat} (hf : tm_frm K A s n) (hg : tm_frm K A (s + n) n2) (hn : n + n2 + 1 ≤ 24) (hK : K (s + (n + n2)) = nI k) (hA : A (s + (n + n2)) = nI a) (ht : tm_tok k a) (hk : tm_tk k = 2) : tm_frm K A s (n + n2 + 1) := by
  have hd := tm_dep_two hf hg
  obtain ⟨h1, h2, h3, h4⟩ := hf
  obtain ⟨g1, g2, g3, g4⟩ := hg
  have hk' := ht.1
  have hl := hd n2 (Nat.le_refl _)
  rw [g3] at hl
  refine ⟨by omega, by omega, ?_, fun j hj => ?_⟩
  · show tm_dn (K (s + (n + n2))).toNatClampNeg (tm_dep K s (n + n2)) = 1
    rw [hK, nI_clamp (by omega), hl]
    unfold tm_dn
    rw [hk]
    rfl
  · by_cases e : j < n
    · exact h4 j e
    · by_cases e2 : j < n + n2
      · obtain ⟨i, rfl⟩ : ∃ i, j = n + i := ⟨j - n, by omega⟩
        obtain ⟨k', a', e1, e2', ht', ht2⟩ := g4 i (by omega)
        rw [hd i (by omega), ← Nat.add_assoc]
        exact ⟨k', a', e1, e2', ht', by omega⟩
      · obtain rfl : j = n + n2 := by omega
        exact ⟨k, a, hK, hA, ht, by rw [hk, hl]; exact Nat.le_refl _⟩
/-! ===== validity, models ===== -/
def tm_val (d m : Nat) (K A : Nat → Int32) (s n : Nat) : Bool := (List.range 27).all (fun l => !tm_is d l || tm_run d m K A s n 0 l)
theorem tm_val_iff {d m : Nat} {K A : Nat → Int32} {s n : Nat} : tm_val d m K A s n = true ↔ ∀ l, l < 27 → tm_is d l = true → tm_run d m K A s n 0 l = true := by
  unfold tm_val
  rw [List.all_eq_true]
  constructor
  · intro h l hl hi
    have t := h l (List.mem_range.mpr hl)
    rw [hi] at t
    exact t
  · intro h l hl
    have t := h l (List.mem_range.mp hl)
    cases hi : tm_is d l
    · rfl
    · rw [t hi]
      rfl
def tm_N (d : Nat) : Nat := 2 ^ (d + d * d)
/-- the first n axioms hold -/
def tm_axs (d m : Nat) (K A L : Nat → Int32) : Nat → Bool
  | 0 => true
  | n + 1 => tm_axs d m K A L n && tm_val d m K A (144 + 24 * n) (L n).toNatClampNeg
def tm_M (d : Nat) (K A L : Nat → Int32) (ax m : Nat) : Bool := decide (m < tm_N d) && tm_axs d m K A L ax
theorem tm_val_congr {K K' A A' : Nat → Int32} {s s' n : Nat} (d m : Nat) (h : ∀ j, j < n → K' (s' + j) = K (s + j)) (hA : ∀ j, j < n → A' (s' + j) = A (s + j)) : tm_val d m K' A' s' n = tm_val d m K A s n := by
  unfold tm_val
  rw [tm_run_congr d m h hA n (Nat.le_refl n)]
theorem tm_N_le {d : Nat} (h : d ≤ 3) : tm_N d ≤ 4096 := by
  have : ∀ d, d < 4 → tm_N d ≤ 4096 := by decide
  exact this d (by omega)
theorem tm_N_pos (d : Nat) : 0 < tm_N d := Nat.pow_pos (by decide)
/-! ===== the maps ===== -/
def tm_img (p e : Nat) : Nat := [0, 1, 2, 1, 0, 2, 0, 2, 1, 2, 0, 1, 1, 2, 0, 2, 1, 0].getD (3 * p + e) 0
def tm_maps (d : Nat) : Nat := if d = 1 then 1 else if d = 2 then 2 else 6
def tm_il (p l : Nat) : Nat := tm_img p (l % 3) + 3 * tm_img p (l / 3 % 3) + 9 * tm_img p (l / 9)
theorem tm_img_lt : ∀ d, d < 4 → ∀ p, p < tm_maps d → ∀ e, e < d → tm_img p e < d := by decide +kernel
theorem tm_img_inj : ∀ d, d < 4 → ∀ p, p < tm_maps d → ∀ e, e < d → ∀ f, f < d → tm_img p e = tm_img p f → e = f := by decide +kernel
theorem tm_img_sur : ∀ d, d < 4 → ∀ p, p < tm_maps d → ∀ e, e < d → ∃ f, f < d ∧ tm_img p f = e := by decide +kernel
theorem tm_il_el : ∀ p, p < 6 → ∀ l, l < 27 → ∀ v, v < 3 → tm_el (tm_il p l) v = tm_img p (tm_el l v) := by decide +kernel
theorem tm_il_set : ∀ p, p < 6 → ∀ l, l < 27 → ∀ v, v < 3 → ∀ y, y < 3 → tm_z (tm_il p l) v + tm_img p y * tm_pl v = tm_il p (tm_z l v + y * tm_pl v) := by decide +kernel
theorem tm_is_setb : ∀ d, d < 4 → ∀ y, y < d → ∀ v, v < 3 → ∀ l, l < 27 → (!tm_is d l || (tm_is d (tm_z l v + y * tm_pl v) && decide (tm_z l v + y * tm_pl v < 27))) = true := by decide +kernel
theorem tm_is_set {d y v l : Nat} (hd : d < 4) (hy : y < d) (hv : v < 3) (hl : l < 27) (h : tm_is d l = true) : tm_is d (tm_z l v + y * tm_pl v) = true ∧ tm_z l v + y * tm_pl v < 27 := by
  have t := tm_is_setb d hd y hy v hv l hl
  rw [h, Bool.not_true, Bool.false_or, Bool.and_eq_true, decide_eq_true_eq] at t
  exact t
theorem tm_is_il : ∀ d, d < 4 → ∀ p, p < tm_maps d → ∀ l, l < 27 → tm_is d l = true → tm_is d (tm_il p l) = true ∧ tm_il p l < 27 := by decide +kernel
theorem tm_is_el : ∀ d, d < 4 → ∀ l, l < 27 → tm_is d l = true → ∀ v, v < 3 → tm_el l v < d := by decide +kernel
theorem tm_il_sur : ∀ d, d < 4 → ∀ p, p < tm_maps d → ∀ l, l < 27 → tm_is d l = true → ∃ k, k < 27 ∧ tm_is d k = true ∧ tm_il p k = l := by decide +kernel
theorem tm_maps_le (d : Nat) : tm_maps d ≤ 6 := by
  unfold tm_maps
  split
  · omega
  · split <;> omega
theorem tm_maps_pos (d : Nat) : 0 < tm_maps d := by
  unfold tm_maps
  split
  · omega
  · split <;> omega
end
section
/-! ===== closing a relation of three elements ===== -/
def tm_rt (d n e f : Nat) : Bool := n.testBit (d * e + f)
theorem tm_cl_congr {r r' : Nat → Nat → Bool} {d : Nat} (h : ∀ e f, e < d → f < d → r e f = r' e f) : ∀ k, k ≤ d → ∀ e f, e < d → f < d → tm_cl r k e f = tm_cl r' k e f
  | 0, _, e, f, he, hf => by
    show (decide (e = f) || r e f) = (decide (e = f) || r' e f)
    rw [h e f he hf]
  | k + 1, hk, e, f, he, hf => by
    show (tm_cl r k e f || (tm_cl r k e k && tm_cl r k k f)) = (tm_cl r' k e f || (tm_cl r' k e k && tm_cl r' k k f))
    rw [tm_cl_congr h k (by omega) e f he hf, tm_cl_congr h k (by omega) e k he (by omega), tm_cl_congr h k (by omega) k f (by omega) hf]
theorem tm_cl3 : ∀ n, n < 512 → ∀ e, e < 3 → ∀ f, f < 3 → tm_cl (tm_rt 3 n) 3 e f = (decide (e = f) || (tm_rt 3 n e f || ((tm_rt 3 n e 0 && tm_rt 3 n 0 f) || ((tm_rt 3 n e 1 && tm_rt 3 n 1 f) || (tm_rt 3 n e 2 && tm_rt 3 n 2 f))))) := by decide +kernel
theorem tm_cl2 : ∀ n, n < 16 → ∀ e, e < 2 → ∀ f, f < 2 → tm_cl (tm_rt 2 n) 2 e f = (decide (e = f) || (tm_rt 2 n e f || ((tm_rt 2 n e 0 && tm_rt 2 n 0 f) || (tm_rt 2 n e 1 && tm_rt 2 n 1 f)))) := by decide +kernel
theorem tm_R_rt (d m e f w : Nat) (hw : d * e + f < w) : tm_R d m e f = tm_rt d (m / 2 ^ d % 2 ^ w) e f := by
  unfold tm_R tm_rt
  rw [Nat.testBit_mod_two_pow, decide_eq_true hw, Bool.true_and, ← Nat.shiftRight_eq_div_pow, Nat.testBit_shiftRight, Nat.add_assoc]
theorem tm_cl_iff {m d e f : Nat} (h1 : 1 ≤ d) (h3 : d ≤ 3) (he : e < d) (hf : f < d) : tm_cl (tm_R d m) d e f = true ↔ (e = f ∨ tm_R d m e f = true ∨ ∃ g, g < d ∧ tm_R d m e g = true ∧ tm_R d m g f = true) := by
  rcases (show d = 1 ∨ d = 2 ∨ d = 3 by omega) with rfl | rfl | rfl
  · obtain rfl : e = 0 := by omega
    obtain rfl : f = 0 := by omega
    exact ⟨fun _ => Or.inl rfl, fun _ => rfl⟩
  · have hr : ∀ e f, e < 2 → f < 2 → tm_R 2 m e f = tm_rt 2 (m / 2 ^ 2 % 2 ^ 4) e f := fun e f he hf => tm_R_rt 2 m e f 4 (by omega)
    rw [tm_cl_congr hr 2 (Nat.le_refl 2) e f he hf, tm_cl2 _ (Nat.mod_lt _ (by decide)) e he f hf, ← hr e f he hf, ← hr e 0 he (by omega), ← hr 0 f (by omega) hf, ← hr e 1 he (by omega), ← hr 1 f (by omega) hf]
    simp only [Bool.or_eq_true, Bool.and_eq_true, decide_eq_true_eq]
    constructor
    · rintro (h | h | h | h)
      · exact Or.inl h
      · exact Or.inr (Or.inl h)
      · exact Or.inr (Or.inr ⟨0, by omega, h⟩)
      · exact Or.inr (Or.inr ⟨1, by omega, h⟩)
    · rintro (h | h | ⟨g, hg, h⟩)
      · exact Or.inl h
      · exact Or.inr (Or.inl h)
      · rcases (show g = 0 ∨ g = 1 by omega) with rfl | rfl
        · exact Or.inr (Or.inr (Or.inl h))
        · exact Or.inr (Or.inr (Or.inr h))
  · have hr : ∀ e f, e < 3 → f < 3 → tm_R 3 m e f = tm_rt 3 (m / 2 ^ 3 % 2 ^ 9) e f := fun e f he hf => tm_R_rt 3 m e f 9 (by omega)
    rw [tm_cl_congr hr 3 (Nat.le_refl 3) e f he hf, tm_cl3 _ (Nat.mod_lt _ (by decide)) e he f hf, ← hr e f he hf, ← hr e 0 he (by omega), ← hr 0 f (by omega) hf, ← hr e 1 he (by omega), ← hr 1 f (by omega) hf, ← hr e 2 he (by omega), ← hr 2 f (by omega) hf]
    simp only [Bool.or_eq_true, Bool.and_eq_true, decide_eq_true_eq]
    constructor
    · rintro (h | h | h | h | h)
      · exact Or.inl h
      · exact Or.inr (Or.inl h)
      · exact Or.inr (Or.inr ⟨0, by omega, h⟩)
      · exact Or.inr (Or.inr ⟨1, by omega, h⟩)
      · exact Or.inr (Or.inr ⟨2, by omega, h⟩)
    · rintro (h | h | ⟨g, hg, h⟩)
      · exact Or.inl h
      · exact Or.inr (Or.inl h)
      · rcases (show g = 0 ∨ g = 1 ∨ g = 2 by omega) with rfl | rfl | rfl
        · exact Or.inr (Or.inr (Or.inl h))
        · exact Or.inr (Or.inr (Or.inr (Or.inl h)))
        · exact Or.inr (Or.inr (Or.inr (Or.inr h)))
/-! ===== the interpretation that a map takes another one to ===== -/
def tm_ai (d p m e r : Nat) : Nat → Nat
  | 0 => r
  | f + 1 => tm_ai d p m e r f ||| (m.testBit (d + d * e + f)).toNat * 2 ^ (d + d * tm_img p e + tm_img p f)
def tm_ao (d p m : Nat) : Nat → Nat
  | 0 => 0
  | e + 1 => tm_ai d p m e (tm_ao d p m e ||| (m.testBit e).toNat * 2 ^ (tm_img p e)) d
def tm_act (d p m : Nat) : Nat := tm_ao d p m d
theorem tm_tb1 (b : Bool) (k g : Nat) : (b.toNat * 2 ^ k).testBit g = true ↔ (g = k ∧ b = true) := by
  cases b
  · show (0 * 2 ^ k).testBit g = true ↔ _
    rw [Nat.zero_mul, Nat.zero_testBit]
    exact ⟨fun h => absurd h (by decide), fun h => absurd h.2 (by decide)⟩
  · show (1 * 2 ^ k).testBit g = true ↔ _
    rw [Nat.one_mul, Nat.testBit_two_pow, decide_eq_true_eq]
    exact ⟨fun h => ⟨h.symm, rfl⟩, fun h => h.1.symm⟩
theorem tm_ai_tb (d p m e r g : Nat) : ∀ n, (tm_ai d p m e r n).testBit g = true ↔ (r.testBit g = true ∨ ∃ f, f < n ∧ g = d + d * tm_img p e + tm_img p f ∧ tm_R d m e f = true)
  | 0 => ⟨fun h => Or.inl h, fun h => h.elim id (fun ⟨f, hf, _⟩ => absurd hf (by omega))⟩
  | n + 1 => by
    show (tm_ai d p m e r n ||| (m.testBit (d + d * e + n)).toNat * 2 ^ (d + d * tm_img p e + tm_img p n)).testBit g = true ↔ _
    rw [Nat.testBit_or, Bool.or_eq_true, tm_ai_tb d p m e r g n, tm_tb1]
    constructor
    · rintro ((h | ⟨f, hf, h⟩) | h)
      · exact Or.inl h
      · exact Or.inr ⟨f, by omega, h⟩
      · exact Or.inr ⟨n, by omega, h⟩
    · rintro (h | ⟨f, hf, h⟩)
      · exact Or.inl (Or.inl h)
      · by_cases e : f = n
        · rw [e] at h
          exact Or.inr h
        · exact Or.inl (Or.inr ⟨f, by omega, h⟩)
theorem tm_ao_tb (d p m g : Nat) : ∀ n, (tm_ao d p m n).testBit g = true ↔ ((∃ e, e < n ∧ g = tm_img p e ∧ m.testBit e = true) ∨ ∃ e f, e < n ∧ f < d ∧ g = d + d * tm_img p e + tm_img p f ∧ tm_R d m e f = true)
  | 0 => by
    show (0 : Nat).testBit g = true ↔ _
    rw [Nat.zero_testBit]
    constructor
    · intro h
      exact absurd h (by decide)
    · rintro (⟨e, he, _⟩ | ⟨e, f, he, _⟩)
      · omega
      · omega
  | n + 1 => by
    show (tm_ai d p m n (tm_ao d p m n ||| (m.testBit n).toNat * 2 ^ (tm_img p n)) d).testBit g = true ↔ _
    rw [tm_ai_tb, Nat.testBit_or, Bool.or_eq_true, tm_ao_tb d p m g n, tm_tb1]
    constructor
    · rintro (((⟨e, he, h⟩ | ⟨e, f, he, h⟩) | h) | ⟨f, hf, h⟩)
      · exact Or.inl ⟨e, by omega, h⟩
      · exact Or.inr ⟨e, f, by omega, h⟩
      · exact Or.inl ⟨n, by omega, h⟩
      · exact Or.inr ⟨n, f, by omega, hf, h⟩
    · rintro (⟨e, he, h⟩ | ⟨e, f, he, hf, h⟩)
      · by_cases c : e = n
        · rw [c] at h
          exact Or.inl (Or.inr h)
        · exact Or.inl (Or.inl (Or.inl ⟨e, by omega, h⟩))
      · by_cases c : e = n
        · rw [c] at h
          exact Or.inr ⟨f, hf, h⟩
        · exact Or.inl (Or.inl (Or.inr ⟨e, f, by omega, hf, h⟩))
theorem tm_dig {d a b x y : Nat} (hb : b < d) (hy : y < d) (h : d + d * a + b = d + d * x + y) : a = x ∧ b = y := by
  have h1 : (d * a + b) / d = (d * x + y) / d := by
    congr 1
    omega
  rw [Nat.mul_add_div (by omega), Nat.mul_add_div (by omega), Nat.div_eq_of_lt hb, Nat.div_eq_of_lt hy, Nat.add_zero, Nat.add_zero] at h1
  subst h1
  exact ⟨rfl, by omega⟩
section
variable {d p m : Nat} (h3 : d < 4) (hp : p < tm_maps d)
theorem tm_act_P (h3 : d < 4) (hp : p < tm_maps d) {e : Nat} (he : e < d) : (tm_act d p m).testBit (tm_img p e) = m.testBit e := by
  rw [Bool.eq_iff_iff]
  unfold tm_act
  rw [tm_ao_tb]
  have hi := tm_img_lt d h3 p hp e he
  constructor
  · rintro (⟨e', he', h, hb⟩ | ⟨e', f', he', hf', h, hb⟩)
    · rw [tm_img_inj d h3 p hp e he e' he' h]
      exact hb
    · omega
  · intro h
    exact Or.inl ⟨e, he, rfl, h⟩
theorem tm_act_R (h3 : d < 4) (hp : p < tm_maps d) {e f : Nat} (he : e < d) (hf : f < d) : tm_R d (tm_act d p m) (tm_img p e) (tm_img p f) = tm_R d m e f := by
  rw [Bool.eq_iff_iff]
  unfold tm_act
  show (tm_ao d p m d).testBit (d + d * tm_img p e + tm_img p f) = true ↔ _
  rw [tm_ao_tb]
  constructor
  · rintro (⟨e', he', h, hb⟩ | ⟨e', f', he', hf', h, hb⟩)
    · have hi := tm_img_lt d h3 p hp e' he'
      omega
    · obtain ⟨c1, c2⟩ := tm_dig (tm_img_lt d h3 p hp f hf) (tm_img_lt d h3 p hp f' hf') h
      rw [tm_img_inj d h3 p hp e he e' he' c1, tm_img_inj d h3 p hp f hf f' hf' c2]
      exact hb
  · intro h
    exact Or.inr ⟨e, f, he, hf, rfl, h⟩
theorem tm_sq {d x y : Nat} (hx : x < d) (hy : y < d) : d + d * x + y < d + d * d := by
  have h1 : d * (x + 1) ≤ d * d := Nat.mul_le_mul_left d hx
  rw [Nat.mul_add, Nat.mul_one] at h1
  omega
theorem tm_act_lt (h3 : d < 4) (hp : p < tm_maps d) : tm_act d p m < tm_N d := by
  apply Nat.lt_pow_two_of_testBit
  intro i hi
  cases hb : (tm_act d p m).testBit i
  · rfl
  · exfalso
    rcases (tm_ao_tb d p m i d).mp hb with ⟨e, he, h, _⟩ | ⟨e, f, he, hf, h, _⟩
    · have hi := tm_img_lt d h3 p hp e he
      omega
    · have := tm_sq (tm_img_lt d h3 p hp e he) (tm_img_lt d h3 p hp f hf)
      omega
/-- an interpretation is known by its digits -/
theorem tm_ext {x y : Nat} (hx : x < tm_N d) (hy : y < tm_N d) (hP : ∀ e, e < d → x.testBit e = y.testBit e) (hR : ∀ e f, e < d → f < d → tm_R d x e f = tm_R d y e f) : x = y := by
  apply Nat.eq_of_testBit_eq
  intro i
  by_cases c1 : i < d
  · exact hP i c1
  · by_cases c2 : i < d + d * d
    · have hd : 0 < d := Nat.pos_of_ne_zero (fun z => by subst z; omega)
      have e1 : i = d + d * ((i - d) / d) + (i - d) % d := by
        have := Nat.div_add_mod (i - d) d
        omega
      have l1 : (i - d) / d < d := Nat.div_lt_of_lt_mul (by omega)
      have t := hR ((i - d) / d) ((i - d) % d) l1 (Nat.mod_lt _ hd)
      unfold tm_R at t
      rw [← e1] at t
      exact t
    · have q : 2 ^ (d + d * d) ≤ 2 ^ i := Nat.pow_le_pow_right (by decide) (by omega)
      unfold tm_N at hx hy
      rw [Nat.testBit_lt_two_pow (by omega), Nat.testBit_lt_two_pow (by omega)]
theorem tm_act_eq (h3 : d < 4) (hp : p < tm_maps d) {y : Nat} (hy : y < tm_N d) : tm_act d p m = y ↔ ((∀ e, e < d → y.testBit (tm_img p e) = m.testBit e) ∧ ∀ e f, e < d → f < d → tm_R d y (tm_img p e) (tm_img p f) = tm_R d m e f) := by
  constructor
  · rintro rfl
    exact ⟨fun e he => tm_act_P h3 hp he, fun e f he hf => tm_act_R h3 hp he hf⟩
  · rintro ⟨hP, hR⟩
    refine tm_ext (d := d) (tm_act_lt h3 hp) hy (fun e he => ?_) (fun e f he hf => ?_)
    · obtain ⟨g, hg, rfl⟩ := tm_img_sur d h3 p hp e he
      rw [tm_act_P h3 hp hg, hP g hg]
    · obtain ⟨g, hg, rfl⟩ := tm_img_sur d h3 p hp e he
      obtain ⟨k, hk, rfl⟩ := tm_img_sur d h3 p hp f hf
      rw [tm_act_R h3 hp hg hk, hR g k hg hk]
theorem tm_act_cl (h1 : 1 ≤ d) (h3 : d < 4) (hp : p < tm_maps d) {e f : Nat} (he : e < d) (hf : f < d) : tm_cl (tm_R d (tm_act d p m)) d (tm_img p e) (tm_img p f) = tm_cl (tm_R d m) d e f := by
  rw [Bool.eq_iff_iff, tm_cl_iff h1 (by omega) (tm_img_lt d h3 p hp e he) (tm_img_lt d h3 p hp f hf), tm_cl_iff h1 (by omega) he hf, tm_act_R h3 hp he hf]
  constructor
  · rintro (h | h | ⟨g, hg, h⟩)
    · exact Or.inl (tm_img_inj d h3 p hp e he f hf h)
    · exact Or.inr (Or.inl h)
    · obtain ⟨k, hk, rfl⟩ := tm_img_sur d h3 p hp g hg
      rw [tm_act_R h3 hp he hk, tm_act_R h3 hp hk hf] at h
      exact Or.inr (Or.inr ⟨k, hk, h⟩)
  · rintro (h | h | ⟨g, hg, h⟩)
    · exact Or.inl (by rw [h])
    · exact Or.inr (Or.inl h)
    · refine Or.inr (Or.inr ⟨tm_img p g, tm_img_lt d h3 p hp g hg, ?_⟩)
      rw [tm_act_R h3 hp he hg, tm_act_R h3 hp hg hf]
      exact h
theorem tm_act_atom (h1 : 1 ≤ d) (h3 : d < 4) (hp : p < tm_maps d) {e f : Nat} (k : Nat) (he : e < d) (hf : f < d) : tm_atom d (tm_act d p m) k (tm_img p e) (tm_img p f) = tm_atom d m k e f := by
  unfold tm_atom
  rw [tm_act_P h3 hp he, tm_act_R h3 hp he hf, tm_act_cl h1 h3 hp he hf]
  have c : decide (tm_img p e = tm_img p f) = decide (e = f) := by
    by_cases c : e = f
    · rw [c, decide_eq_true rfl, decide_eq_true rfl]
    · rw [decide_eq_false c, decide_eq_false (fun z => c (tm_img_inj d h3 p hp e he f hf z))]
  rw [c]
end
end
section
/-! ===== the value of a formula doesn't change under a map ===== -/
theorem tm_q1 (k w : Nat) (x : Bool) : tm_qt 1 k w x false false = tm_qt 1 k w x false false := rfl
theorem tm_q2 (k w : Nat) (x y : Bool) : tm_qt 2 k w x y false = tm_qt 2 k w y x false := by
  unfold tm_qt
  rw [if_pos (show 2 ≤ 2 by omega), if_neg (show ¬ 2 ≤ 1 by omega)]
  by_cases a : k = 10
  · rw [if_pos a, if_pos a]; revert x y; decide
  · rw [if_neg a, if_neg a]
    by_cases b : k = 9
    · rw [if_pos b, if_pos b]; revert x y; decide
    · rw [if_neg b, if_neg b]
      by_cases c : w = 1
      · rw [if_pos c, if_pos c]; revert x y; decide
      · rw [if_neg c, if_neg c]; revert x y; decide
theorem tm_q3 (k w : Nat) (x y z : Bool) : tm_qt 3 k w x y z = tm_qt 3 k w y x z ∧ tm_qt 3 k w x y z = tm_qt 3 k w x z y := by
  unfold tm_qt
  rw [if_neg (show ¬ 3 ≤ 2 by omega), if_neg (show ¬ 3 ≤ 1 by omega)]
  by_cases a : k = 10
  · rw [if_pos a, if_pos a, if_pos a]; revert x y z; decide
  · rw [if_neg a, if_neg a, if_neg a]
    by_cases b : k = 9
    · rw [if_pos b, if_pos b, if_pos b]; revert x y z; decide
    · rw [if_neg b, if_neg b, if_neg b]
      by_cases c : w = 1
      · rw [if_pos c, if_pos c, if_pos c]; revert x y z; decide
      · rw [if_neg c, if_neg c, if_neg c]; revert x y z; decide
theorem tm_qsym {d p : Nat} (h1 : 1 ≤ d) (h3 : d < 4) (hp : p < tm_maps d) (k w : Nat) {t t' : Nat → Bool} (h : ∀ y, y < d → t' (tm_img p y) = t y) :
    tm_qt d k w (t' 0) (if d ≤ 1 then false else t' 1) (if d ≤ 2 then false else t' 2) = tm_qt d k w (t 0) (if d ≤ 1 then false else t 1) (if d ≤ 2 then false else t 2) := by
  rcases (show d = 1 ∨ d = 2 ∨ d = 3 by omega) with rfl | rfl | rfl
  · obtain rfl : p = 0 := by
      have : p < 1 := hp
      omega
    have e0 : t' 0 = t 0 := h 0 (by omega)
    rw [e0]
    rfl
  · have hp' : p < 2 := hp
    rcases (show p = 0 ∨ p = 1 by omega) with rfl | rfl
    · have e0 : t' 0 = t 0 := h 0 (by omega)
      have e1 : t' 1 = t 1 := h 1 (by omega)
      rw [e0, e1]
      rfl
    · have e0 : t' 1 = t 0 := h 0 (by omega)
      have e1 : t' 0 = t 1 := h 1 (by omega)
      rw [e0, e1]
      exact tm_q2 k w (t 1) (t 0)
  · have hp' : p < 6 := hp
    have g0 := h 0 (by omega)
    have g1 := h 1 (by omega)
    have g2 := h 2 (by omega)
    show tm_qt 3 k w (t' 0) (t' 1) (t' 2) = tm_qt 3 k w (t 0) (t 1) (t 2)
    have q := fun x y z => (tm_q3 k w x y z).1
    have s := fun x y z => (tm_q3 k w x y z).2
    rcases (show p = 0 ∨ p = 1 ∨ p = 2 ∨ p = 3 ∨ p = 4 ∨ p = 5 by omega) with rfl | rfl | rfl | rfl | rfl | rfl
    · have e0 : t' 0 = t 0 := g0
      have e1 : t' 1 = t 1 := g1
      have e2 : t' 2 = t 2 := g2
      rw [e0, e1, e2]
    · have e0 : t' 1 = t 0 := g0
      have e1 : t' 0 = t 1 := g1
      have e2 : t' 2 = t 2 := g2
      rw [e0, e1, e2, q]
    · have e0 : t' 0 = t 0 := g0
      have e1 : t' 2 = t 1 := g1
      have e2 : t' 1 = t 2 := g2
      rw [e0, e1, e2, s]
    · have e0 : t' 2 = t 0 := g0
      have e1 : t' 0 = t 1 := g1
      have e2 : t' 1 = t 2 := g2
      rw [e0, e1, e2, s (t 1) (t 2) (t 0), q (t 1) (t 0) (t 2)]
    · have e0 : t' 1 = t 0 := g0
      have e1 : t' 2 = t 1 := g1
      have e2 : t' 0 = t 2 := g2
      rw [e0, e1, e2, q (t 2) (t 0) (t 1), s (t 0) (t 2) (t 1)]
    · have e0 : t' 2 = t 0 := g0
      have e1 : t' 1 = t 1 := g1
      have e2 : t' 0 = t 2 := g2
      rw [e0, e1, e2, s (t 2) (t 1) (t 0), q (t 2) (t 0) (t 1), s (t 0) (t 2) (t 1)]
theorem tm_tkc : ∀ k, k < 12 → (tm_tk k = 0 ∧ k ≤ 3) ∨ (tm_tk k = 2 ∧ 5 ≤ k ∧ k ≤ 8) ∨ (tm_tk k = 1 ∧ k = 4) ∨ (tm_tk k = 1 ∧ 9 ≤ k) := by decide
theorem tm_tk9 {k : Nat} (h : k ≤ 11) (c0 : ¬ tm_tk k = 0) (c2 : ¬ tm_tk k = 2) (c4 : ¬ k = 4) : 9 ≤ k := by
  have := tm_tkc k (by omega)
  omega
theorem tm_tk0 {k : Nat} (h : k ≤ 11) (c0 : tm_tk k = 0) : k ≤ 3 := by
  have := tm_tkc k (by omega)
  omega
section
variable {d p m : Nat}
theorem tm_at_inv (h1 : 1 ≤ d) (h3 : d < 4) (hp : p < tm_maps d) {k a l : Nat} (ht : tm_tok k a) (hk : k ≤ 3) (hl : l < 27) (hi : tm_is d l = true) : tm_at d (tm_act d p m) k a (tm_il p l) = tm_at d m k a l := by
  have hp6 : p < 6 := Nat.lt_of_lt_of_le hp (tm_maps_le d)
  obtain ⟨t1, t2, t3, t4, _⟩ := ht
  have t4 := t4 hk
  have v1 : (if k = 0 then a else a / 3) < 3 := by
    split
    · have := t3 (by assumption); omega
    · omega
  have v2 : (if k = 0 then a else a % 3) < 3 := by
    split
    · have := t3 (by assumption); omega
    · omega
  unfold tm_at
  rw [tm_il_el p hp6 l hl _ v1, tm_il_el p hp6 l hl _ v2]
  exact tm_act_atom h1 h3 hp k (tm_is_el d h3 l hl hi _ v1) (tm_is_el d h3 l hl hi _ v2)
theorem tm_v_lt {k a : Nat} (ht : tm_tok k a) (hk : 9 ≤ k) : tm_v k a < 3 := by
  obtain ⟨t1, t2, t3, t4, t5, t6⟩ := ht
  unfold tm_v
  split
  · omega
  · have := t5 hk (by omega)
    omega
theorem tm_quant_inv (h1 : 1 ≤ d) (h3 : d < 4) (hp : p < tm_maps d) {k a l : Nat} {T T' : Nat → Bool} (hT : ∀ l, l < 27 → tm_is d l = true → T' (tm_il p l) = T l) (ht : tm_tok k a) (hk : 9 ≤ k) (hl : l < 27) (hi : tm_is d l = true) : tm_quant d k a T' (tm_il p l) = tm_quant d k a T l := by
  have hp6 : p < 6 := Nat.lt_of_lt_of_le hp (tm_maps_le d)
  have hv := tm_v_lt ht hk
  have e := tm_qsym h1 h3 hp k (a / 3) (t := fun y => T (tm_z l (tm_v k a) + y * tm_pl (tm_v k a))) (t' := fun y => T' (tm_z (tm_il p l) (tm_v k a) + y * tm_pl (tm_v k a))) (fun y hy => by
    obtain ⟨s1, s2⟩ := tm_is_set h3 hy hv hl hi
    rw [tm_il_set p hp6 l hl _ hv y (by omega), hT _ s2 s1])
  rw [Nat.zero_mul, Nat.add_zero, Nat.add_zero, Nat.one_mul] at e
  exact e
theorem tm_stp_inv (h1 : 1 ≤ d) (h3 : d < 4) (hp : p < tm_maps d) {k a D : Nat} {S S' : Nat → Nat → Bool} (hS : ∀ i l, l < 27 → tm_is d l = true → S' i (tm_il p l) = S i l) (ht : tm_tok k a) : ∀ i l, l < 27 → tm_is d l = true → tm_stp d (tm_act d p m) k a D S' i (tm_il p l) = tm_stp d m k a D S i l := by
  intro i l hl hi
  unfold tm_stp
  by_cases c0 : tm_tk k = 0
  · rw [if_pos c0, if_pos c0]
    have hk : k ≤ 3 := tm_tk0 ht.1 c0
    rw [tm_at_inv h1 h3 hp ht hk hl hi, hS i l hl hi]
  · rw [if_neg c0, if_neg c0, hS i l hl hi, hS (i + 1) l hl hi]
    by_cases c2 : tm_tk k = 2
    · rw [if_pos c2, if_pos c2]
    · rw [if_neg c2, if_neg c2]
      by_cases c4 : k = 4
      · rw [if_pos c4, if_pos c4]
      · rw [if_neg c4, if_neg c4]
        have hk : 9 ≤ k := tm_tk9 ht.1 c0 c2 c4
        rw [tm_quant_inv h1 h3 hp (hS i) ht hk hl hi]
theorem tm_run_inv (h1 : 1 ≤ d) (h3 : d < 4) (hp : p < tm_maps d) {K A : Nat → Int32} {s n : Nat} (hf : tm_frm K A s n) : ∀ j, j ≤ n → ∀ i l, l < 27 → tm_is d l = true → tm_run d (tm_act d p m) K A s j i (tm_il p l) = tm_run d m K A s j i l
  | 0, _ => fun _ _ _ _ => rfl
  | j + 1, hj => by
    obtain ⟨k, a, e1, e2, ht, _⟩ := hf.2.2.2 j (by omega)
    have hk := ht.1
    have ha := ht.2.1
    show ∀ i l, l < 27 → tm_is d l = true → tm_stp d (tm_act d p m) (K (s + j)).toNatClampNeg (A (s + j)).toNatClampNeg (tm_dep K s j) (tm_run d (tm_act d p m) K A s j) i (tm_il p l) = tm_stp d m (K (s + j)).toNatClampNeg (A (s + j)).toNatClampNeg (tm_dep K s j) (tm_run d m K A s j) i l
    rw [e1, e2, nI_clamp (by omega), nI_clamp (by omega)]
    exact tm_stp_inv h1 h3 hp (tm_run_inv h1 h3 hp hf j (by omega)) ht
theorem tm_val_inv (h1 : 1 ≤ d) (h3 : d < 4) (hp : p < tm_maps d) {K A : Nat → Int32} {s n : Nat} (hf : tm_frm K A s n) : tm_val d (tm_act d p m) K A s n = tm_val d m K A s n := by
  rw [Bool.eq_iff_iff, tm_val_iff, tm_val_iff]
  have hr := tm_run_inv (m := m) h1 h3 hp hf n (Nat.le_refl n) 0
  constructor
  · intro h l hl hi
    obtain ⟨q1, q2⟩ := tm_is_il d h3 p hp l hl hi
    rw [← hr l hl hi]
    exact h _ q2 q1
  · intro h l hl hi
    obtain ⟨k, hk, hki, rfl⟩ := tm_il_sur d h3 p hp l hl hi
    rw [hr k hk hki]
    exact h k hk hki
theorem tm_axs_inv (h1 : 1 ≤ d) (h3 : d < 4) (hp : p < tm_maps d) {K A L : Nat → Int32} {ax : Nat} (hf : ∀ i, i < ax → tm_frm K A (144 + 24 * i) (L i).toNatClampNeg) : ∀ n, n ≤ ax → tm_axs d (tm_act d p m) K A L n = tm_axs d m K A L n
  | 0, _ => rfl
  | n + 1, hn => by
    show (tm_axs d (tm_act d p m) K A L n && tm_val d (tm_act d p m) K A (144 + 24 * n) (L n).toNatClampNeg) = (tm_axs d m K A L n && tm_val d m K A (144 + 24 * n) (L n).toNatClampNeg)
    rw [tm_axs_inv h1 h3 hp hf n (by omega), tm_val_inv h1 h3 hp (hf n (by omega))]
theorem tm_M_inv (h1 : 1 ≤ d) (h3 : d < 4) (hp : p < tm_maps d) {K A L : Nat → Int32} {ax : Nat} (hf : ∀ i, i < ax → tm_frm K A (144 + 24 * i) (L i).toNatClampNeg) (hm : m < tm_N d) : tm_M d K A L ax (tm_act d p m) = tm_M d K A L ax m := by
  unfold tm_M
  rw [tm_axs_inv h1 h3 hp hf ax (Nat.le_refl ax), decide_eq_true hm, decide_eq_true (tm_act_lt h3 hp)]
theorem tm_M_lt {K A L : Nat → Int32} {ax m : Nat} (h : tm_M d K A L ax m = true) : m < tm_N d := by
  unfold tm_M at h
  rw [Bool.and_eq_true, decide_eq_true_eq] at h
  exact h.1
end
/-! ===== the maps are a group: how many maps keep the models, summed, is a multiple of their number ===== -/
def tm_mul (p q : Nat) : Nat := [0, 1, 2, 3, 4, 5, 1, 0, 4, 5, 2, 3, 2, 3, 0, 1, 5, 4, 3, 2, 5, 4, 0, 1, 4, 5, 1, 0, 3, 2, 5, 4, 3, 2, 1, 0].getD (6 * p + q) 0
theorem tm_mul_img : ∀ p, p < 6 → ∀ q, q < 6 → ∀ e, e < 3 → tm_img (tm_mul p q) e = tm_img p (tm_img q e) := by decide +kernel
theorem tm_mul_lt : ∀ d, d < 4 → ∀ p, p < tm_maps d → ∀ q, q < tm_maps d → tm_mul p q < tm_maps d := by decide +kernel
theorem tm_mul_inv : ∀ d, d < 4 → ∀ p, p < tm_maps d → ∃ q, q < tm_maps d ∧ tm_mul q p = 0 := by decide +kernel
theorem tm_perm {d q : Nat} (h1 : 1 ≤ d) (h3 : d < 4) (hq : q < tm_maps d) (g : Nat → Nat) : tm_sum (fun p => g (tm_mul p q)) (tm_maps d) = tm_sum g (tm_maps d) := by
  rcases (show d = 1 ∨ d = 2 ∨ d = 3 by omega) with rfl | rfl | rfl
  · have hq' : q < 1 := hq
    obtain rfl : q = 0 := by omega
    rfl
  · have hq' : q < 2 := hq
    rcases (show q = 0 ∨ q = 1 by omega) with rfl | rfl
    · show 0 + g 0 + g 1 = 0 + g 0 + g 1
      omega
    · show 0 + g 1 + g 0 = 0 + g 0 + g 1
      omega
  · have hq' : q < 6 := hq
    rcases (show q = 0 ∨ q = 1 ∨ q = 2 ∨ q = 3 ∨ q = 4 ∨ q = 5 by omega) with rfl | rfl | rfl | rfl | rfl | rfl
    · show 0 + g 0 + g 1 + g 2 + g 3 + g 4 + g 5 = 0 + g 0 + g 1 + g 2 + g 3 + g 4 + g 5
      omega
    · show 0 + g 1 + g 0 + g 3 + g 2 + g 5 + g 4 = 0 + g 0 + g 1 + g 2 + g 3 + g 4 + g 5
      omega
    · show 0 + g 2 + g 4 + g 0 + g 5 + g 1 + g 3 = 0 + g 0 + g 1 + g 2 + g 3 + g 4 + g 5
      omega
    · show 0 + g 3 + g 5 + g 1 + g 4 + g 0 + g 2 = 0 + g 0 + g 1 + g 2 + g 3 + g 4 + g 5
      omega
    · show 0 + g 4 + g 2 + g 5 + g 0 + g 3 + g 1 = 0 + g 0 + g 1 + g 2 + g 3 + g 4 + g 5
      omega
    · show 0 + g 5 + g 3 + g 4 + g 1 + g 2 + g 0 = 0 + g 0 + g 1 + g 2 + g 3 + g 4 + g 5
      omega
section
variable {d p q m : Nat}
theorem tm_act_mul (h3 : d < 4) (hp : p < tm_maps d) (hq : q < tm_maps d) : tm_act d p (tm_act d q m) = tm_act d (tm_mul p q) m := by
  have hp6 : p < 6 := Nat.lt_of_lt_of_le hp (tm_maps_le d)
  have hq6 : q < 6 := Nat.lt_of_lt_of_le hq (tm_maps_le d)
  have hm := tm_mul_lt d h3 p hp q hq
  refine ((tm_act_eq h3 hm (tm_act_lt h3 hp)).mpr ⟨fun e he => ?_, fun e f he hf => ?_⟩).symm
  · rw [tm_mul_img p hp6 q hq6 e (by omega), tm_act_P h3 hp (tm_img_lt d h3 q hq e he), tm_act_P h3 hq he]
  · rw [tm_mul_img p hp6 q hq6 e (by omega), tm_mul_img p hp6 q hq6 f (by omega), tm_act_R h3 hp (tm_img_lt d h3 q hq e he) (tm_img_lt d h3 q hq f hf), tm_act_R h3 hq he hf]
theorem tm_act_0 (h3 : d < 4) (hm : m < tm_N d) : tm_act d 0 m = m := by
  have h0 : ∀ e, e < 3 → tm_img 0 e = e := by decide
  refine (tm_act_eq h3 (tm_maps_pos d) hm).mpr ⟨fun e he => ?_, fun e f he hf => ?_⟩
  · rw [h0 e (by omega)]
  · rw [h0 e (by omega), h0 f (by omega)]
/-- one of the interpretations that maps take m to, the same for all of them -/
noncomputable def tm_rep (d m : Nat) : Nat := Classical.epsilon (fun k => ∃ q, q < tm_maps d ∧ tm_act d q m = k)
theorem tm_rep_of (d m : Nat) : ∃ q, q < tm_maps d ∧ tm_act d q m = tm_rep d m :=
  Classical.epsilon_spec (p := fun k => ∃ q, q < tm_maps d ∧ tm_act d q m = k) ⟨tm_act d 0 m, 0, tm_maps_pos d, rfl⟩
theorem tm_rep_act (h3 : d < 4) (hp : p < tm_maps d) (hm : m < tm_N d) : tm_rep d (tm_act d p m) = tm_rep d m := by
  unfold tm_rep
  congr 1
  funext k
  apply propext
  constructor
  · rintro ⟨q, hq, e⟩
    exact ⟨tm_mul q p, tm_mul_lt d h3 q hq p hp, by rw [← tm_act_mul h3 hq hp, e]⟩
  · rintro ⟨q, hq, e⟩
    obtain ⟨r, hr, hr0⟩ := tm_mul_inv d h3 p hp
    refine ⟨tm_mul q r, tm_mul_lt d h3 q hq r hr, ?_⟩
    rw [← tm_act_mul h3 hq hr, tm_act_mul h3 hr hp, hr0, tm_act_0 h3 hm, e]
def tm_stab (d m : Nat) : Nat := tm_sum (fun p => (decide (tm_act d p m = m)).toNat) (tm_maps d)
theorem tm_stab_le (d m : Nat) : tm_stab d m ≤ 6 := Nat.le_trans (tm_cnt_le (fun p => decide (tm_act d p m = m)) (tm_maps d)) (tm_maps_le d)
theorem tm_burn (h1 : 1 ≤ d) (h3 : d < 4) (M : Nat → Bool) (hM : ∀ p m, p < tm_maps d → m < tm_N d → M (tm_act d p m) = M m) : ∃ c, tm_sum (fun m => (M m).toNat * tm_stab d m) (tm_N d) = tm_maps d * c := by
  refine ⟨tm_sum (fun r => (M r && decide (tm_rep d r = r)).toNat) (tm_N d), ?_⟩
  have e1 : ∀ m, m < tm_N d → (M m).toNat * tm_stab d m = tm_sum (fun r => tm_sum (fun p => (M r && decide (tm_rep d r = r)).toNat * (decide (tm_act d p r = m)).toNat) (tm_maps d)) (tm_N d) := by
    intro m hm
    obtain ⟨q, hq, eq⟩ := tm_rep_of d m
    have hr : tm_rep d m < tm_N d := by
      rw [← eq]
      exact tm_act_lt h3 hq
    have hrr : tm_rep d (tm_rep d m) = tm_rep d m := by
      have t := tm_rep_act h3 hq hm
      rw [eq] at t
      exact t
    rw [tm_sum_one hr (fun r hr2 hne => tm_sum_z (fun p hp => ?_))]
    · rw [decide_eq_true hrr, Bool.and_true, tm_sum_mul]
      have hMr : M (tm_rep d m) = M m := by
        rw [← eq]
        exact hM q m hq hm
      rw [hMr]
      congr 1
      unfold tm_stab
      rw [← tm_perm h1 h3 hq (fun p => (decide (tm_act d p m = m)).toNat)]
      exact tm_sum_congr (fun p hp => by rw [← eq, tm_act_mul h3 hp hq])
    · by_cases c : tm_act d p r = m
      · by_cases c2 : tm_rep d r = r
        · exfalso
          apply hne
          have t := tm_rep_act h3 hp hr2
          rw [c, c2] at t
          exact t.symm
        · rw [decide_eq_false c2, Bool.and_false]
          exact Nat.zero_mul _
      · rw [decide_eq_false c]
        exact Nat.mul_zero _
  rw [tm_sum_congr e1, tm_sum_swap, ← tm_sum_mul]
  refine tm_sum_congr (fun r hr => ?_)
  rw [tm_sum_swap]
  have e2 : ∀ p, p < tm_maps d → tm_sum (fun m => (M r && decide (tm_rep d r = r)).toNat * (decide (tm_act d p r = m)).toNat) (tm_N d) = (M r && decide (tm_rep d r = r)).toNat := by
    intro p hp
    rw [tm_sum_mul, tm_sum_one (a := tm_act d p r) (tm_act_lt h3 hp) (fun m hm hne => by rw [decide_eq_false (fun z => hne z.symm)]; rfl), decide_eq_true rfl]
    exact Nat.mul_one _
  rw [tm_sum_congr e2]
  generalize (M r && decide (tm_rep d r = r)).toNat = x
  generalize tm_maps d = n
  induction n with
  | zero => rw [Nat.zero_mul]; rfl
  | succ n ih =>
    show tm_sum (fun _ => x) n + x = (n + 1) * x
    rw [ih, Nat.add_mul, Nat.one_mul]
end
end
section
section
variable {hh ax el kn sz dp : Int32} {a1 a2 a3 a4 a5 a7 : Nat → Int32} {a6 a8 a9 a10 a11 a12 a13 : Nat → Int64}
theorem tm_w_interp {post : Int32 → Prop} {d : Nat} (h3 : d < 4) (H : post (nI (tm_N d))) : wpX_interpretations post (hh, ax, (nI d), kn, sz, dp, a1, a2, a3, a4, a5, a6, a7, a8, a9, a10, a11, a12, a13) := by
  show post ((1 : Int32) <<< ((nI d + (nI d * nI d)) &&& 31))
  rw [pk_mul, nI_add, show (1 : Int32) = nI 1 from rfl]
  have hd : d * d ≤ 9 := by
    have : d * d ≤ 3 * 3 := Nat.mul_le_mul (by omega) (by omega)
    omega
  have hN := tm_N_le (d := d) (by omega)
  unfold tm_N at hN
  rw [tm_isl (by omega) (by omega), Nat.one_mul]
  exact H
theorem tm_w_isnum {post : Int32 → Prop} {d m : Nat} (h3 : d < 4) (hm : m < tm_N d) (H : post 1) : wpX_isNumber post (hh, ax, (nI d), kn, sz, dp, a1, a2, a3, a4, a5, a6, a7, a8, a9, a10, a11, a12, a13) (nI m) := by
  have hN := tm_N_le (d := d) (by omega)
  exact br_f (nI_pos (by omega)) (tm_w_interp h3 (pk_le (tm_N d) m (fun z => absurd z (by omega)) (fun _ => H)))
/-! digits of interpretations -/
theorem tm_dg0 : ∀ b, b < 64 → tm_b (-6148914691236517206) b = b.testBit 0 := by decide +kernel
theorem tm_dg1 : ∀ b, b < 64 → tm_b (-3689348814741910324) b = b.testBit 1 := by decide +kernel
theorem tm_dg2 : ∀ b, b < 64 → tm_b (-1085102592571150096) b = b.testBit 2 := by decide +kernel
theorem tm_dg3 : ∀ b, b < 64 → tm_b (-71777214294589696) b = b.testBit 3 := by decide +kernel
theorem tm_dg4 : ∀ b, b < 64 → tm_b (-281470681808896) b = b.testBit 4 := by decide +kernel
theorem tm_dg5 : ∀ b, b < 64 → tm_b (-4294967296) b = b.testBit 5 := by decide +kernel
theorem tm_dlo {p b g : Nat} (hb : b < 64) (hg : g < 6) : (64 * p + b).testBit g = b.testBit g := by
  have t := Nat.testBit_two_pow_mul_add p (b := b) (i := 6) hb g
  rw [if_pos hg] at t
  exact t
theorem tm_dhi {p b g : Nat} (hb : b < 64) (hg : 6 ≤ g) : (64 * p + b).testBit g = p.testBit (g - 6) := by
  have t := Nat.testBit_two_pow_mul_add p (b := b) (i := 6) hb g
  rw [if_neg (by omega)] at t
  exact t
theorem tm_w_dig {post : Int64 → Prop} {g p : Nat} (hg : g < 30) (hp : p < 64) (H : ∀ x, (∀ b, b < 64 → tm_b x b = (64 * p + b).testBit g) → post x) : wpX_withDigit post () (nI g) (nI p) := by
  refine br_f (nI_pos (by omega)) (pk_lt 5 g (fun c => ?_) (fun c => ?_))
  · have e : (nI p >>> ((nI g - 6) &&& 31)) &&& 1 = nI (p.testBit (g - 6)).toNat := by
      rw [show nI g - 6 = nI (g - 6) from pk_sub (b := 6) c]
      exact tm_ibit (by omega) (by omega)
    rw [e]
    cases hb : p.testBit (g - 6)
    · exact br_f (by decide) (H _ (fun b hb2 => by rw [tm_b_0, tm_dhi hb2 c, hb]))
    · exact br_t rfl (H _ (fun b hb2 => by rw [tm_b_m1 hb2, tm_dhi hb2 c, hb]))
  · refine pk_eq g 0 (fun e => ?_) (fun _ => pk_eq g 1 (fun e => ?_) (fun _ => pk_eq g 2 (fun e => ?_) (fun _ => pk_eq g 3 (fun e => ?_) (fun _ => pk_eq g 4 (fun e => ?_) (fun _ => pk_eq g 5 (fun e => ?_) (fun _ => trivial))))))
    · exact H _ (fun b hb => by rw [e, tm_dg0 b hb, tm_dlo hb (by omega)])
    · exact H _ (fun b hb => by rw [e, tm_dg1 b hb, tm_dlo hb (by omega)])
    · exact H _ (fun b hb => by rw [e, tm_dg2 b hb, tm_dlo hb (by omega)])
    · exact H _ (fun b hb => by rw [e, tm_dg3 b hb, tm_dlo hb (by omega)])
    · exact H _ (fun b hb => by rw [e, tm_dg4 b hb, tm_dlo hb (by omega)])
    · exact H _ (fun b hb => by rw [e, tm_dg5 b hb, tm_dlo hb (by omega)])
/-! lists -/
theorem tm_r3 {l : Nat} (hl : l < 100) : nI l - nI l / 3 * 3 = nI (l % 3) := pk_rem (d := 3) (by omega) (by omega) (by omega)
theorem tm_d3 {l : Nat} (hl : l < 100) : nI l / 3 = nI (l / 3) := pk_div (d := 3) (by omega) (by omega) (by omega)
theorem tm_d9 {l : Nat} (hl : l < 100) : nI l / 9 = nI (l / 9) := pk_div (d := 9) (by omega) (by omega) (by omega)
theorem tm_w_isl {post : Int32 → Prop} {d l : Nat} (h3 : d < 4) (hl : l < 27) (H0 : tm_is d l = false → post 0) (H1 : tm_is d l = true → post 1) : wpX_isList post (hh, ax, el, kn, (nI d), dp, a1, a2, a3, a4, a5, a6, a7, a8, a9, a10, a11, a12, a13) (nI l) := by
  have i0 : l % 3 < d → l / 3 % 3 < d → l / 9 < d → tm_is d l = true := fun x y z => by
    unfold tm_is; rw [decide_eq_true x, decide_eq_true y, decide_eq_true z]; rfl
  have i1 : ¬ (l % 3 < d) → tm_is d l = false := fun x => by
    unfold tm_is; rw [decide_eq_false x]; rfl
  have i2 : ¬ (l / 3 % 3 < d) → tm_is d l = false := fun x => by
    unfold tm_is; rw [decide_eq_false x, Bool.false_and, Bool.and_false]
  have i3 : ¬ (l / 9 < d) → tm_is d l = false := fun x => by
    unfold tm_is; rw [decide_eq_false x, Bool.and_false, Bool.and_false]
  refine ⟨by decide, pk_le d (l % 3) (fun z => H0 (i1 (by omega))) (fun z1 => ⟨by decide, by decide, pk_le d (l / 3 % 3) (fun z => H0 (i2 (by omega))) (fun z2 => ⟨by decide, pk_le d (l / 9) (fun z => H0 (i3 (by omega))) (fun z3 => H1 (i0 z1 z2 z3)) rfl (tm_d9 (by omega))⟩) rfl ?_⟩) rfl (tm_r3 (by omega))⟩
  rw [tm_d3 (by omega)]
  exact tm_r3 (by omega)
theorem tm_w_el {post : Int32 → Prop} {l v : Nat} (hl : l < 27) (hv : v < 3) (H : post (nI (tm_el l v))) : wpX_elementIn post () (nI l) (nI v) := by
  unfold tm_el at H
  refine pk_eq v 0 (fun e => ⟨by decide, ?_⟩) (fun e => pk_eq v 1 (fun e2 => ⟨by decide, by decide, ?_⟩) (fun e2 => ⟨by decide, ?_⟩))
  · rw [if_pos e] at H
    rw [tm_r3 (by omega)]
    exact H
  · rw [if_neg e, if_pos e2] at H
    rw [tm_d3 (by omega), tm_r3 (by omega)]
    exact H
  · rw [if_neg e, if_neg e2] at H
    rw [tm_d9 (by omega)]
    exact H
theorem tm_w_pl {post : Int32 → Prop} {v : Nat} (hv : v < 3) (H : post (nI (tm_pl v))) : wpX_placeOf post () (nI v) := by
  unfold tm_pl at H
  refine pk_eq v 0 (fun e => ?_) (fun e => pk_eq v 1 (fun e2 => ?_) (fun e2 => ?_))
  · rw [if_pos e] at H
    exact H
  · rw [if_neg e, if_pos e2] at H
    exact H
  · rw [if_neg e, if_neg e2] at H
    exact H
theorem tm_w_tk {post : Int32 → Prop} {k : Nat} (hk : k ≤ 11) (H : post (nI (tm_tk k))) : wpX_taken post () (nI k) := by
  unfold tm_tk at H
  refine pk_lt 3 k (fun e => pk_eq k 4 (fun e2 => ?_) (fun e2 => pk_lt k 9 (fun e3 => ?_) (fun e3 => ?_))) (fun e => ?_)
  · rw [if_neg (by omega), if_pos e2] at H
    exact H
  · rw [if_neg (by omega), if_neg e2, if_pos e3] at H
    exact H
  · rw [if_neg (by omega), if_neg e2, if_neg (by omega)] at H
    exact H
  · rw [if_pos e] at H
    exact H
theorem tm_w_qt {post : Int64 → Prop} {d k w : Nat} {x y z : Int64} (h3 : d < 4) (hk : k ≤ 11) (hw : w < 100) (H : ∀ r, (∀ b, b < 64 → tm_b r b = tm_qt d k w (tm_b x b) (tm_b y b) (tm_b z b)) → post r) : wpX_quantified post (hh, ax, el, kn, (nI d), dp, a1, a2, a3, a4, a5, a6, a7, a8, a9, a10, a11, a12, a13) (nI k) (nI w) x y z := by
  unfold tm_qt at H
  refine pk_eq k 10 (fun e => ?_) (fun e => pk_eq k 9 (fun e2 => ?_) (fun e2 => pk_eq w 1 (fun e3 => ?_) (fun e3 => ?_)))
  · exact H _ (fun b _ => by rw [if_pos e, tm_b_or, tm_b_or])
  · refine pk_le d 1 (fun c => pk_le d 2 (fun c2 => ?_) (fun c2 => ?_)) (fun c => pk_le d 2 (fun c2 => ?_) (fun c2 => ?_))
    · exact H _ (fun b _ => by rw [if_neg e, if_pos e2, if_pos c2, if_pos c])
    · omega
    · exact H _ (fun b _ => by rw [if_neg e, if_pos e2, if_pos c2, if_neg (by omega), tm_b_and])
    · exact H _ (fun b _ => by rw [if_neg e, if_pos e2, if_neg (by omega), if_neg (by omega), tm_b_and, tm_b_and])
  · exact H _ (fun b _ => by rw [if_neg e, if_neg e2, if_pos e3, tm_b_and, tm_b_and])
  · exact H _ (fun b _ => by rw [if_neg e, if_neg e2, if_neg e3, tm_b_or, tm_b_or, tm_b_and, tm_b_and, tm_b_and])
theorem tm_w_jn {post : Int64 → Prop} {k : Nat} {x y : Int64} (h5 : 5 ≤ k) (h8 : k ≤ 8) (H : ∀ r, (∀ b, b < 64 → tm_b r b = tm_join k (tm_b x b) (tm_b y b)) → post r) : wpX_joined post () (nI k) x y := by
  unfold tm_join at H
  refine pk_lt k 5 (fun c => absurd c (by omega)) (fun _ => pk_lt 7 k (fun c => ?_) (fun c => pk_eq k 5 (fun e => ?_) (fun e => pk_eq k 6 (fun e2 => ?_) (fun e2 => pk_eq k 7 (fun e3 => ?_) (fun _ => trivial)))))
  · exact H _ (fun b hb => by rw [if_neg (by omega), if_neg (by omega), if_neg (by omega), tm_b_not _ hb, tm_b_xor])
  · exact H _ (fun b hb => by rw [if_pos e, tm_b_and])
  · exact H _ (fun b hb => by rw [if_neg e, if_pos e2, tm_b_or])
  · exact H _ (fun b hb => by rw [if_neg e, if_neg e2, if_pos e3, tm_b_or, tm_b_not _ hb])
/-! the part at hand -/
def tm_lay (d p : Nat) (a8 a9 a10 : Nat → Int64) : Prop := (∀ e, e < d → ∀ b, b < 64 → tm_b (a8 e) b = (64 * p + b).testBit e) ∧ (∀ e f, e < d → f < d → ∀ b, b < 64 → tm_b (a9 (3 * e + f)) b = tm_R d (64 * p + b) e f) ∧ (∀ e f, e < d → f < d → ∀ b, b < 64 → tm_b (a10 (3 * e + f)) b = tm_cl (tm_R d (64 * p + b)) d e f)
theorem tm_3 (e f : Nat) : (3 : Int32) * nI e + nI f = nI (3 * e + f) := by
  show nI 3 * nI e + nI f = _
  rw [pk_mul, nI_add]
theorem tm_w_atom {post : Int64 → Prop} {d p k e f : Nat} (h3 : d < 4) (hk : k ≤ 3) (he : e < d) (hf : f < d) (hl : tm_lay d p a8 a9 a10) (H : ∀ r, (∀ b, b < 64 → tm_b r b = tm_atom d (64 * p + b) k e f) → post r) : wpX_atom post (hh, ax, el, kn, sz, dp, a1, a2, a3, a4, a5, a6, a7, a8, a9, a10, a11, a12, a13) (nI k) (nI e) (nI f) := by
  unfold tm_atom at H
  obtain ⟨l1, l2, l3⟩ := hl
  have c : ((3 : Int32) * nI e + nI f).toNatClampNeg = 3 * e + f := by rw [tm_3, nI_clamp (by omega)]
  have ce : (nI e).toNatClampNeg = e := nI_clamp (by omega)
  refine br_f (nI_pos (by omega)) (pk_lt 2 k (fun z => ⟨pk_in (3 * e + f) 9 (by omega) (tm_3 e f), ?_⟩) (fun z => pk_eq k 0 (fun e0 => ⟨pk_in e 3 (by omega), ?_⟩) (fun e0 => pk_eq k 1 (fun e1 => ⟨pk_in (3 * e + f) 9 (by omega) (tm_3 e f), ?_⟩) (fun e1 => pk_eq k 2 (fun e2 => pk_eq e f (fun g => ?_) (fun g => ?_)) (fun _ => trivial)))))
  · rw [c]
    exact H _ (fun b hb => by rw [if_neg (by omega), if_neg (by omega), if_neg (by omega)]; exact l3 e f he hf b hb)
  · rw [ce]
    exact H _ (fun b hb => by rw [if_pos e0]; exact l1 e he b hb)
  · rw [c]
    exact H _ (fun b hb => by rw [if_neg e0, if_pos e1]; exact l2 e f he hf b hb)
  · exact H _ (fun b hb => by rw [if_neg e0, if_neg e1, if_pos e2, tm_b_m1 hb, decide_eq_true g])
  · exact H _ (fun b hb => by rw [if_neg e0, if_neg e1, if_pos e2, tm_b_0, decide_eq_false g])
/-! the number of ones -/
theorem tm_w_ones {post : Int32 → Prop} {x : Int64} (H : post (nI (tm_pc x))) : wpX_ones post () x := by
  have main : ∀ n c (y : Int64), c + tm_pc y = tm_pc x → 64 - c < n → c ≤ 64 → wX_ones_7 post n (nI c) y (nI c) := by
    intro n
    induction n with
    | zero => intro c y _ hn _; omega
    | succ n ih =>
      intro c y hc hn h64
      have hx := tm_pc_le x
      refine pk_le 64 c (fun z => ?_) (fun z => br_c (fun e => ?_) (fun e => ?_))
      · rw [show c = tm_pc x by omega]
        exact H
      · rw [e, tm_pc0] at hc
        rw [show c = tm_pc x by omega]
        exact H
      · have t := tm_pc_step e
        exact nm_e (nm_r (nI_1 c) (nm_r (nI_1 c) (ih (c + 1) _ (by omega) (by omega) (by omega))))
  exact ⟨65, main 65 0 x (by omega) (by omega) (by omega)⟩
end
end
section
section
variable {hh ax el kn sz dp : Int32} {a1 a2 a3 a4 a5 a7 : Nat → Int32} {a6 a8 a9 a10 a11 a12 a13 : Nat → Int64}
def tm_nw (s0 : Nat → Int64) (o e f : Nat) : Int64 := s0 (3 * e + f) ||| (s0 (3 * e + o) &&& s0 (3 * o + f))
theorem tm_nw_r (s0 : Nat → Int64) (o e : Nat) : tm_nw s0 o e o = s0 (3 * e + o) := by
  apply tm_b_ext
  intro b _
  unfold tm_nw
  rw [tm_b_or, tm_b_and]
  cases tm_b (s0 (3 * e + o)) b <;> rfl
theorem tm_nw_l (s0 : Nat → Int64) (o f : Nat) : tm_nw s0 o o f = s0 (3 * o + f) := by
  apply tm_b_ext
  intro b _
  unfold tm_nw
  rw [tm_b_or, tm_b_and]
  cases tm_b (s0 (3 * o + f)) b
  · rw [Bool.and_false]; rfl
  · rfl
def tm_ci (s0 s : Nat → Int64) (d o e f : Nat) : Prop := ∀ e' f', e' < d → f' < d → s (3 * e' + f') = if e' < e ∨ (e' = e ∧ f' < f) then tm_nw s0 o e' f' else s0 (3 * e' + f')
theorem tm_ci_row {s0 s : Nat → Int64} {d o e : Nat} (h : tm_ci s0 s d o e d) : tm_ci s0 s d o (e + 1) 0 := by
  intro e' f' he hf
  rw [h e' f' he hf]
  by_cases c : e' < e ∨ (e' = e ∧ f' < d)
  · rw [if_pos c, if_pos (by omega)]
  · rw [if_neg c, if_neg (by omega)]
theorem tm_ci_old {s0 s : Nat → Int64} {d o e f : Nat} (h : tm_ci s0 s d o e f) {x y : Nat} (hx : x < d) (hy : y < d) (hn : tm_nw s0 o x y = s0 (3 * x + y)) : s (3 * x + y) = s0 (3 * x + y) := by
  rw [h x y hx hy, hn]
  split <;> rfl
theorem tm_ci_put {s0 s : Nat → Int64} {d o e f : Nat} (h3 : d < 4) (h : tm_ci s0 s d o e f) (ho : o < d) (he : e < d) (hf : f < d) : tm_ci s0 (vp_updL s (3 * e + f) (s (3 * e + f) ||| (s (3 * e + o) &&& s (3 * o + f)))) d o e (f + 1) := by
  have v : s (3 * e + f) ||| (s (3 * e + o) &&& s (3 * o + f)) = tm_nw s0 o e f := by
    rw [tm_ci_old h he ho (tm_nw_r s0 o e), tm_ci_old h ho hf (tm_nw_l s0 o f), h e f he hf, if_neg (by omega)]
    rfl
  rw [v]
  intro e' f' he' hf'
  by_cases c : e' = e ∧ f' = f
  · rw [c.1, c.2, pk_uLs, if_pos (by omega)]
  · rw [pk_uLn (by omega), h e' f' he' hf']
    by_cases c2 : e' < e ∨ (e' = e ∧ f' < f)
    · rw [if_pos c2, if_pos (by omega)]
    · rw [if_neg c2, if_neg (by omega)]
theorem tm_w_close {post : St1 → Prop} {d o : Nat} (h3 : d < 4) (ho : o < d) (H : ∀ s, (∀ e f, e < d → f < d → s (3 * e + f) = tm_nw a10 o e f) → post (hh, ax, el, kn, (nI d), dp, a1, a2, a3, a4, a5, a6, a7, a8, a9, s, a11, a12, a13)) : wpX_closeOver post (hh, ax, el, kn, (nI d), dp, a1, a2, a3, a4, a5, a6, a7, a8, a9, a10, a11, a12, a13) (nI o) := by
  refine pk_loop (fun n i s => wX_closeOver_2 post (nI o) hh ax el kn (nI d) dp n (nI i) a1 a2 a3 a4 a5 a6 a7 a8 a9 s a11 a12 a13) (fun i s => tm_ci a10 s d o i 0) d 0 a10 (by omega) ?_ ?_ ?_
  · intro e f _ _
    rw [if_neg (by omega)]
  · intro n s hI
    refine pk_le d d (fun _ => H s (fun e f he hf => ?_)) (fun z => absurd z (by omega))
    rw [hI e f he hf, if_pos (by omega)]
  · intro n i s hi hI hw
    refine pk_le d i (fun z => absurd z (by omega)) (fun _ => ?_)
    refine pk_loop (fun n' j t => wX_closeOver_12 post (wX_closeOver_2 post (nI o) hh ax el kn (nI d) dp n) (nI o) (nI i) hh ax el kn (nI d) dp n' (nI j) a1 a2 a3 a4 a5 a6 a7 a8 a9 t a11 a12 a13) (fun j t => tm_ci a10 t d o i j) d 0 s (by omega) hI ?_ ?_
    · intro n' t ht
      exact pk_le d d (fun _ => nm_r (nI_1 i) (hw t (tm_ci_row ht))) (fun z => absurd z (by omega))
    · intro n' j t hj ht hw'
      refine pk_le d j (fun z => absurd z (by omega)) (fun _ => ⟨pk_in (3 * i + j) 9 (by omega) (tm_3 i j), pk_in (3 * i + o) 9 (by omega) (tm_3 i o), pk_in (3 * o + j) 9 (by omega) (tm_3 o j), pk_in (3 * i + j) 9 (by omega) (tm_3 i j), nm_r ?_ (nm_r (nI_1 j) (hw' _ (tm_ci_put h3 ht ho hi hj)))⟩)
      rw [tm_3, tm_3, tm_3, nI_clamp (by omega), nI_clamp (by omega), nI_clamp (by omega)]
/-- rows of the part laid so far -/
def tm_pi (d p : Nat) (s9 s10 : Nat → Int64) (e f : Nat) : Prop := ∀ e' f', e' < d → f' < d → (e' < e ∨ (e' = e ∧ f' < f)) → ∀ b, b < 64 → tm_b (s9 (3 * e' + f')) b = tm_R d (64 * p + b) e' f' ∧ tm_b (s10 (3 * e' + f')) b = tm_cl (tm_R d (64 * p + b)) 0 e' f'
theorem tm_pi_put {d p : Nat} {s9 s10 : Nat → Int64} {e f : Nat} {x y : Int64} (h3 : d < 4) (h : tm_pi d p s9 s10 e f) (he : e < d) (hf : f < d) (hx : ∀ b, b < 64 → tm_b x b = tm_R d (64 * p + b) e f) (hy : ∀ b, b < 64 → tm_b y b = tm_cl (tm_R d (64 * p + b)) 0 e f) : tm_pi d p (vp_updL s9 (3 * e + f) x) (vp_updL s10 (3 * e + f) y) e (f + 1) := by
  intro e' f' he' hf' hc b hb
  by_cases c : e' = e ∧ f' = f
  · rw [c.1, c.2, pk_uLs, pk_uLs]
    exact ⟨hx b hb, hy b hb⟩
  · rw [pk_uLn (by omega), pk_uLn (by omega)]
    exact h e' f' he' hf' (by omega) b hb
theorem tm_w_lay {post : St1 → Prop} {d p : Nat} (h3 : d < 4) (hp : p < 64) (H : ∀ s8 s9 s10, tm_lay d p s8 s9 s10 → post (hh, ax, el, kn, (nI d), dp, a1, a2, a3, a4, a5, a6, a7, s8, s9, s10, a11, a12, a13)) : wpX_layPart post (hh, ax, el, kn, sz, dp, a1, a2, a3, a4, a5, a6, a7, a8, a9, a10, a11, a12, a13) (nI d) (nI p) := by
  refine pk_loop (σ := (Nat → Int64) × (Nat → Int64) × (Nat → Int64)) (fun n i s => wX_layPart_7 post (nI d) (nI p) hh ax el kn (nI d) dp n (nI i) a1 a2 a3 a4 a5 a6 a7 s.1 s.2.1 s.2.2 a11 a12 a13) (fun i s => (∀ e, e < i → ∀ b, b < 64 → tm_b (s.1 e) b = (64 * p + b).testBit e) ∧ tm_pi d p s.2.1 s.2.2 i 0) d 0 (a8, a9, a10) (by omega) ?_ ?_ ?_
  · exact ⟨fun e he => absurd he (by omega), fun e f _ _ hc => absurd hc (by omega)⟩
  · rintro n ⟨s8, s9, s10⟩ ⟨h8, hpi⟩
    dsimp only at h8 hpi
    refine pk_le d d (fun _ => ?_) (fun z => absurd z (by omega))
    refine pk_loop (fun n i t => wX_layPart_103 post (nI d) n (nI i) hh ax el kn (nI d) dp a1 a2 a3 a4 a5 a6 a7 s8 s9 t a11 a12 a13) (fun i t => ∀ e f, e < d → f < d → ∀ b, b < 64 → tm_b (t (3 * e + f)) b = tm_cl (tm_R d (64 * p + b)) i e f) d 0 s10 (by omega) ?_ ?_ ?_
    · intro e f he hf b hb
      exact (hpi e f he hf (by omega) b hb).2
    · intro n t ht
      exact pk_le d d (fun _ => H s8 s9 t ⟨h8, fun e f he hf b hb => (hpi e f he hf (by omega) b hb).1, ht⟩) (fun z => absurd z (by omega))
    · intro n i t hi ht hw
      refine pk_le d i (fun z => absurd z (by omega)) (fun _ => tm_w_close h3 hi (fun t' ht' => nm_r (nI_1 i) (hw t' (fun e f he hf b hb => ?_))))
      rw [ht' e f he hf]
      unfold tm_nw
      rw [tm_b_or, tm_b_and, ht e f he hf b hb, ht e i he hi b hb, ht i f hi hf b hb]
      rfl
  · rintro n i ⟨s8, s9, s10⟩ hi ⟨h8, hpi⟩ hw
    dsimp only at h8 hpi
    refine pk_le d i (fun z => absurd z (by omega)) (fun _ => tm_w_dig (by omega) hp (fun x hx => ⟨pk_in i 3 (by omega), nm_r (by rw [nI_clamp (by omega)]) ?_⟩))
    refine pk_loop (σ := (Nat → Int64) × (Nat → Int64)) (fun n' j t => wX_layPart_26 post (wX_layPart_7 post (nI d) (nI p) hh ax el kn (nI d) dp n) (nI d) (nI p) (nI i) hh ax el kn (nI d) dp n' (nI j) a1 a2 a3 a4 a5 a6 a7 (vp_updL s8 i x) t.1 t.2 a11 a12 a13) (fun j t => tm_pi d p t.1 t.2 i j) d 0 (s9, s10) (by omega) hpi ?_ ?_
    · rintro n' ⟨t9, t10⟩ ht
      dsimp only at ht
      refine pk_le d d (fun _ => nm_r (nI_1 i) (hw (vp_updL s8 i x, t9, t10) ⟨fun e he b hb => ?_, fun e f he hf hc b hb => ht e f he hf (by omega) b hb⟩)) (fun z => absurd z (by omega))
      dsimp only
      by_cases c : e = i
      · rw [c, pk_uLs, hx b hb]
      · rw [pk_uLn c]
        exact h8 e (by omega) b hb
    · rintro n' j ⟨t9, t10⟩ hj ht hw'
      dsimp only at ht
      have hdd : d * i ≤ 6 := by
        have : d * i ≤ 3 * 2 := Nat.mul_le_mul (by omega) (by omega)
        omega
      refine pk_le d j (fun z => absurd z (by omega)) (fun _ => ?_)
      have hdig : (nI d + nI d * nI i) + nI j = nI (d + d * i + j) := by rw [pk_mul, nI_add, nI_add]
      show wpX_withDigit _ () ((nI d + (nI d * nI i)) + nI j) (nI p)
      rw [hdig]
      refine tm_w_dig (by omega) hp (fun y hy => ⟨pk_in (3 * i + j) 9 (by omega) (tm_3 i j), nm_r (by rw [tm_3, nI_clamp (by omega)]) (pk_eq i j (fun e => ⟨pk_in (3 * i + j) 9 (by omega) (tm_3 i j), nm_r (by rw [tm_3, nI_clamp (by omega)]) (nm_r (nI_1 j) (hw' (vp_updL t9 (3 * i + j) y, vp_updL t10 (3 * i + j) (-1)) (tm_pi_put h3 ht hi hj hy (fun b hb => ?_))))⟩) (fun e => ⟨pk_in (3 * i + j) 9 (by omega) (tm_3 i j), pk_in (3 * i + j) 9 (by omega) (tm_3 i j), nm_r (by rw [tm_3, nI_clamp (by omega)]; dsimp only; rw [pk_uLs]) (nm_r (nI_1 j) (hw' (vp_updL t9 (3 * i + j) y, vp_updL t10 (3 * i + j) y) (tm_pi_put h3 ht hi hj hy (fun b hb => ?_))))⟩))⟩)
      · show tm_b (-1) b = (decide (i = j) || tm_R d (64 * p + b) i j)
        rw [tm_b_m1 hb, decide_eq_true e, Bool.true_or]
      · show tm_b y b = (decide (i = j) || tm_R d (64 * p + b) i j)
        rw [decide_eq_false e, Bool.false_or]
        exact hy b hb
end
end
section
/-! ===== a block of a table written place by place ===== -/
def tm_blk (a s : Nat → Int64) (B l : Nat) (Q : Nat → Int64 → Prop) : Prop := (∀ j, (j < B ∨ B + l ≤ j) → s j = a j) ∧ ∀ i, i < l → Q i (s (B + i))
theorem tm_blk_0 (a : Nat → Int64) (B : Nat) (Q : Nat → Int64 → Prop) : tm_blk a a B 0 Q := ⟨fun _ _ => rfl, fun i hi => absurd hi (by omega)⟩
theorem tm_blk_put {a s : Nat → Int64} {B l : Nat} {Q : Nat → Int64 → Prop} {x : Int64} (h : tm_blk a s B l Q) (hx : Q l x) : tm_blk a (vp_updL s (B + l) x) B (l + 1) Q := by
  refine ⟨fun j hj => ?_, fun i hi => ?_⟩
  · rw [pk_uLn (by omega)]
    exact h.1 j (by omega)
  · by_cases e : i = l
    · rw [e, pk_uLs]
      exact hx
    · rw [pk_uLn (by omega)]
      exact h.2 i (by omega)
theorem tm_blk_skip {a s : Nat → Int64} {B l : Nat} {Q : Nat → Int64 → Prop} (h : tm_blk a s B l Q) (hx : Q l (s (B + l))) : tm_blk a s B (l + 1) Q := by
  refine ⟨fun j hj => h.1 j (by omega), fun i hi => ?_⟩
  by_cases e : i = l
  · rw [e]
    exact hx
  · exact h.2 i (by omega)
theorem tm_zle : ∀ l, l < 27 → ∀ v, v < 3 → tm_pl v * tm_el l v ≤ l := by decide +kernel
theorem tm_zlt : ∀ l, l < 27 → ∀ v, v < 3 → tm_z l v + 2 * tm_pl v < 27 := by decide +kernel
theorem tm_quant_congr {d k a l : Nat} {T T' : Nat → Bool} (h1 : 1 ≤ d) (h3 : d < 4) (hv : tm_v k a < 3) (hl : l < 27) (hi : tm_is d l = true) (h : ∀ l, l < 27 → tm_is d l = true → T l = T' l) : tm_quant d k a T l = tm_quant d k a T' l := by
  have e0 : T (tm_z l (tm_v k a)) = T' (tm_z l (tm_v k a)) := by
    have t := tm_is_set (y := 0) h3 (by omega) hv hl hi
    rw [Nat.zero_mul, Nat.add_zero] at t
    exact h _ t.2 t.1
  have e1 : (if d ≤ 1 then false else T (tm_z l (tm_v k a) + tm_pl (tm_v k a))) = (if d ≤ 1 then false else T' (tm_z l (tm_v k a) + tm_pl (tm_v k a))) := by
    by_cases c : d ≤ 1
    · rw [if_pos c, if_pos c]
    · rw [if_neg c, if_neg c]
      have t := tm_is_set (y := 1) h3 (by omega) hv hl hi
      rw [Nat.one_mul] at t
      exact h _ t.2 t.1
  have e2 : (if d ≤ 2 then false else T (tm_z l (tm_v k a) + 2 * tm_pl (tm_v k a))) = (if d ≤ 2 then false else T' (tm_z l (tm_v k a) + 2 * tm_pl (tm_v k a))) := by
    by_cases c : d ≤ 2
    · rw [if_pos c, if_pos c]
    · rw [if_neg c, if_neg c]
      have t := tm_is_set (y := 2) h3 (by omega) hv hl hi
      exact h _ t.2 t.1
  unfold tm_quant
  rw [e0, e1, e2]
/-- the tables of the first D places are those of the run -/
def tm_tab (d p D : Nat) (s : Nat → Int64) (S : Nat → Nat → Nat → Bool) : Prop := ∀ i, i < D → ∀ l, l < 27 → tm_is d l = true → ∀ b, b < 64 → tm_b (s (27 * i + l)) b = S (64 * p + b) i l
theorem tm_tab_at {d p D k a : Nat} {s s' : Nat → Int64} {S : Nat → Nat → Nat → Bool} (h : tm_tab d p D s S) (hk : tm_tk k = 0) (hb : tm_blk s s' (27 * D) 27 (fun l x => tm_is d l = true → ∀ b, b < 64 → tm_b x b = tm_at d (64 * p + b) k a l)) : tm_tab d p (D + 1) s' (fun m => tm_stp d m k a D (S m)) := by
  intro i hi l hl hli b hbb
  show tm_b (s' (27 * i + l)) b = tm_stp d (64 * p + b) k a D (S (64 * p + b)) i l
  unfold tm_stp
  rw [if_pos hk]
  by_cases e : i = D
  · rw [if_pos e, e]
    exact hb.2 l hl hli b hbb
  · rw [if_neg e, hb.1 _ (by omega)]
    exact h i (by omega) l hl hli b hbb
theorem tm_tab_jn {d p E k a : Nat} {s s' : Nat → Int64} {S : Nat → Nat → Nat → Bool} (h : tm_tab d p (E + 2) s S) (hk : tm_tk k = 2) (hb : tm_blk s s' (27 * E) 27 (fun l x => ∀ b, b < 64 → tm_b x b = tm_join k (tm_b (s (27 * E + l)) b) (tm_b (s (27 * E + 27 + l)) b))) : tm_tab d p (E + 1) s' (fun m => tm_stp d m k a (E + 2) (S m)) := by
  intro i hi l hl hli b hbb
  show tm_b (s' (27 * i + l)) b = tm_stp d (64 * p + b) k a (E + 2) (S (64 * p + b)) i l
  unfold tm_stp
  rw [if_neg (by omega), if_pos hk]
  by_cases e : i = E
  · rw [if_pos (by omega), e, hb.2 l hl b hbb, h E (by omega) l hl hli b hbb, show 27 * E + 27 + l = 27 * (E + 1) + l by omega, h (E + 1) (by omega) l hl hli b hbb]
  · rw [if_neg (by omega), hb.1 _ (by omega)]
    exact h i (by omega) l hl hli b hbb
theorem tm_tab_ng {d p E a : Nat} {s s' : Nat → Int64} {S : Nat → Nat → Nat → Bool} (h : tm_tab d p (E + 1) s S) (hb : tm_blk s s' (27 * E) 27 (fun l x => ∀ b, b < 64 → tm_b x b = !tm_b (s (27 * E + l)) b)) : tm_tab d p (E + 1) s' (fun m => tm_stp d m 4 a (E + 1) (S m)) := by
  intro i hi l hl hli b hbb
  show tm_b (s' (27 * i + l)) b = if i + 1 = E + 1 then !S (64 * p + b) i l else S (64 * p + b) i l
  by_cases e : i = E
  · rw [if_pos (by omega), e, hb.2 l hl b hbb, h E (by omega) l hl hli b hbb]
  · rw [if_neg (by omega), hb.1 _ (by omega)]
    exact h i (by omega) l hl hli b hbb
theorem tm_tab_qt {d p E k a : Nat} {s s' : Nat → Int64} {S : Nat → Nat → Nat → Bool} (h1 : 1 ≤ d) (h3 : d < 4) (h : tm_tab d p (E + 1) s S) (ht : tm_tok k a) (hk : 9 ≤ k) (hb : tm_blk s s' (27 * E) 27 (fun l x => tm_is d l = true → ∀ b, b < 64 → tm_b x b = tm_quant d k a (fun l' => tm_b (s (27 * E + l')) b) l)) : tm_tab d p (E + 1) s' (fun m => tm_stp d m k a (E + 1) (S m)) := by
  intro i hi l hl hli b hbb
  have c := tm_tkc k (by have := ht.1; omega)
  show tm_b (s' (27 * i + l)) b = tm_stp d (64 * p + b) k a (E + 1) (S (64 * p + b)) i l
  unfold tm_stp
  rw [if_neg (by omega), if_neg (by omega)]
  by_cases e : i = E
  · rw [if_pos (by omega), if_neg (by omega), e, hb.2 l hl hli b hbb]
    exact tm_quant_congr h1 h3 (tm_v_lt ht hk) hl hli (fun l' hl' hli' => h E (by omega) l' hl' hli' b hbb)
  · rw [if_neg (by omega), hb.1 _ (by omega)]
    exact h i (by omega) l hl hli b hbb
end
section
section
variable {hh ax el kn sz dp : Int32} {a1 a2 a3 a4 a5 a7 : Nat → Int32} {a6 a8 a9 a10 a11 a12 a13 : Nat → Int64}
theorem tm_w_latom {post : St1 → Prop} {d p D k a : Nat} (h3 : d < 4) (hD : D ≤ 13) (ht : tm_tok k a) (hk : k ≤ 3) (hl : tm_lay d p a8 a9 a10)
    (H : ∀ s, tm_blk a11 s (27 * D) 27 (fun l x => tm_is d l = true → ∀ b, b < 64 → tm_b x b = tm_at d (64 * p + b) k a l) → post (hh, ax, el, kn, (nI d), (nI D), a1, a2, a3, a4, a5, a6, a7, a8, a9, a10, s, a12, a13)) :
    wpX_layAtom post (hh, ax, el, kn, (nI d), (nI D), a1, a2, a3, a4, a5, a6, a7, a8, a9, a10, a11, a12, a13) (nI k) (nI a) := by
  obtain ⟨t1, t2, t3, t4, _⟩ := ht
  have t4 := t4 hk
  refine nm_r (show (27 : Int32) * nI D = nI (27 * D) from pk_mul 27 D) ?_
  refine pk_loop (fun n i s => wX_layAtom_11 post (nI k) (nI a) (nI (27 * D)) hh ax el kn (nI d) (nI D) n (nI i) a1 a2 a3 a4 a5 a6 a7 a8 a9 a10 s a12 a13) (fun i s => tm_blk a11 s (27 * D) i (fun l x => tm_is d l = true → ∀ b, b < 64 → tm_b x b = tm_at d (64 * p + b) k a l)) 27 0 a11 (by omega) (tm_blk_0 _ _ _) ?_ ?_
  · intro n s hI
    exact pk_le 27 27 (fun _ => H s hI) (fun z => absurd z (by omega))
  · intro n i s hi hI hw
    refine pk_le 27 i (fun z => absurd z (by omega)) (fun _ => tm_w_isl h3 hi (fun hli => br_t rfl (nm_r (nI_1 i) (hw s (tm_blk_skip hI (fun z => absurd z (by rw [hli]; decide)))))) (fun hli => br_f (by decide) ?_))
    have fin : ∀ e f, e < d → f < d → (∀ b, tm_at d (64 * p + b) k a i = tm_atom d (64 * p + b) k e f) → wpX_atom (fun r_12 => (vp_in (nI (27 * D) + nI i) 378 ∧ ∀ s', s' = vp_updL s (nI (27 * D) + nI i).toNatClampNeg r_12 → (∀ x4_15 : Int32, x4_15 = nI i + 1 → (wX_layAtom_11 post (nI k) (nI a) (nI (27 * D)) hh ax el kn (nI d) (nI D) n x4_15 a1 a2 a3 a4 a5 a6 a7 a8 a9 a10 s' a12 a13)))) (hh, ax, el, kn, (nI d), (nI D), a1, a2, a3, a4, a5, a6, a7, a8, a9, a10, s, a12, a13) (nI k) (nI e) (nI f) := by
      intro e f he hf hat
      refine tm_w_atom h3 hk he hf hl (fun r hr => ⟨pk_in (27 * D + i) 378 (by omega) (nI_add _ _), nm_r (by rw [nI_add, nI_clamp (by omega)]) (nm_r (nI_1 i) (hw _ (tm_blk_put hI (fun _ b hb => ?_))))⟩)
      rw [hr b hb, hat b]
    refine pk_eq k 0 (fun e => ?_) (fun e => ⟨by decide, ?_⟩)
    · have ha := t3 e
      refine tm_w_el hi (by omega) (pk_eq k 0 (fun _ => ?_) (fun z => absurd e z))
      refine tm_w_el hi (by omega) ?_
      exact fin _ _ (tm_is_el d h3 i hi hli a (by omega)) (tm_is_el d h3 i hi hli a (by omega)) (fun b => by unfold tm_at; rw [if_pos e, if_pos e])
    · have c3 : (nI a / 3 : Int32) = nI (a / 3) := tm_d3 (by omega)
      rw [c3]
      refine tm_w_el hi (by omega) (pk_eq k 0 (fun z => absurd z e) (fun _ => ⟨by decide, ?_⟩))
      have c4 : nI a - nI a / 3 * 3 = nI (a % 3) := tm_r3 (by omega)
      rw [c4]
      refine tm_w_el hi (by omega) ?_
      exact fin _ _ (tm_is_el d h3 i hi hli (a / 3) (by omega)) (tm_is_el d h3 i hi hli (a % 3) (by omega)) (fun b => by unfold tm_at; rw [if_neg e, if_neg e])
theorem tm_w_join {post : St1 → Prop} {E k : Nat} (hE : E ≤ 12) (h5 : 5 ≤ k) (h8 : k ≤ 8)
    (H : ∀ s, tm_blk a11 s (27 * E) 27 (fun l x => ∀ b, b < 64 → tm_b x b = tm_join k (tm_b (a11 (27 * E + l)) b) (tm_b (a11 (27 * E + 27 + l)) b)) → post (hh, ax, el, kn, sz, (nI (E + 1)), a1, a2, a3, a4, a5, a6, a7, a8, a9, a10, s, a12, a13)) :
    wpX_join post (hh, ax, el, kn, sz, (nI (E + 1)), a1, a2, a3, a4, a5, a6, a7, a8, a9, a10, a11, a12, a13) (nI k) := by
  refine nm_r (show (27 : Int32) * (nI (E + 1) - 1) = nI (27 * E) from by rw [nI_pred]; exact pk_mul 27 E) ?_
  refine pk_loop (fun n i s => wX_join_12 post (nI k) (nI (27 * E)) hh ax el kn sz (nI (E + 1)) n (nI i) a1 a2 a3 a4 a5 a6 a7 a8 a9 a10 s a12 a13) (fun i s => tm_blk a11 s (27 * E) i (fun l x => ∀ b, b < 64 → tm_b x b = tm_join k (tm_b (a11 (27 * E + l)) b) (tm_b (a11 (27 * E + 27 + l)) b))) 27 0 a11 (by omega) (tm_blk_0 _ _ _) ?_ ?_
  · intro n s hI
    exact pk_le 27 27 (fun _ => H s hI) (fun z => absurd z (by omega))
  · intro n i s hi hI hw
    have q1 : nI (27 * E) + nI i = nI (27 * E + i) := nI_add _ _
    have q2 : (nI (27 * E) + 27) + nI i = nI (27 * E + 27 + i) := by
      show (nI (27 * E) + nI 27) + nI i = _
      rw [nI_add, nI_add]
    refine pk_le 27 i (fun z => absurd z (by omega)) (fun _ => ⟨pk_in (27 * E + i) 378 (by omega) q1, nm_e ⟨pk_in (27 * E + 27 + i) 378 (by omega) q2, nm_e (tm_w_jn h5 h8 (fun r hr => ⟨pk_in (27 * E + i) 378 (by omega) q1, nm_r (by rw [q1, nI_clamp (by omega)]) (nm_r (nI_1 i) (hw _ (tm_blk_put hI (fun b hb => ?_))))⟩))⟩⟩)
    rw [hr b hb, q1, q2, nI_clamp (by omega), nI_clamp (by omega), hI.1 _ (by omega), hI.1 _ (by omega)]
theorem tm_w_neg {post : St1 → Prop} {E : Nat} (hE : E ≤ 13)
    (H : ∀ s, tm_blk a11 s (27 * E) 27 (fun l x => ∀ b, b < 64 → tm_b x b = !tm_b (a11 (27 * E + l)) b) → post (hh, ax, el, kn, sz, (nI (E + 1)), a1, a2, a3, a4, a5, a6, a7, a8, a9, a10, s, a12, a13)) :
    wpX_negate post (hh, ax, el, kn, sz, (nI (E + 1)), a1, a2, a3, a4, a5, a6, a7, a8, a9, a10, a11, a12, a13) := by
  refine nm_r (show (27 : Int32) * (nI (E + 1) - 1) = nI (27 * E) from by rw [nI_pred]; exact pk_mul 27 E) ?_
  refine pk_loop (fun n i s => wX_negate_12 post (nI (27 * E)) hh ax el kn sz (nI (E + 1)) n (nI i) a1 a2 a3 a4 a5 a6 a7 a8 a9 a10 s a12 a13) (fun i s => tm_blk a11 s (27 * E) i (fun l x => ∀ b, b < 64 → tm_b x b = !tm_b (a11 (27 * E + l)) b)) 27 0 a11 (by omega) (tm_blk_0 _ _ _) ?_ ?_
  · intro n s hI
    exact pk_le 27 27 (fun _ => H s hI) (fun z => absurd z (by omega))
  · intro n i s hi hI hw
    have q1 : nI (27 * E) + nI i = nI (27 * E + i) := nI_add _ _
    refine pk_le 27 i (fun z => absurd z (by omega)) (fun _ => ⟨pk_in (27 * E + i) 378 (by omega) q1, pk_in (27 * E + i) 378 (by omega) q1, nm_r (by rw [q1, nI_clamp (by omega)]) (nm_r (nI_1 i) (hw _ (tm_blk_put hI (fun b hb => ?_))))⟩)
    rw [tm_b_not _ hb, hI.1 _ (by omega)]
theorem tm_w_quant {post : St1 → Prop} {d E k a : Nat} (h3 : d < 4) (hE : E ≤ 13) (ht : tm_tok k a) (hk : 9 ≤ k)
    (H : ∀ s s12, tm_blk a11 s (27 * E) 27 (fun l x => tm_is d l = true → ∀ b, b < 64 → tm_b x b = tm_quant d k a (fun l' => tm_b (a11 (27 * E + l')) b) l) → post (hh, ax, el, kn, (nI d), (nI (E + 1)), a1, a2, a3, a4, a5, a6, a7, a8, a9, a10, s, s12, a13)) :
    wpX_quantify post (hh, ax, el, kn, (nI d), (nI (E + 1)), a1, a2, a3, a4, a5, a6, a7, a8, a9, a10, a11, a12, a13) (nI k) (nI a) := by
  have hv := tm_v_lt ht hk
  have hk11 := ht.1
  have ha15 := ht.2.1
  have main : wX_quantify_13 post (nI k) (nI a) (nI (tm_v k a)) hh ax el kn (nI d) (nI (E + 1)) a1 a2 a3 a4 a5 a6 a7 a8 a9 a10 a11 a12 a13 := by
    refine nm_r (show (27 : Int32) * (nI (E + 1) - 1) = nI (27 * E) from by rw [nI_pred]; exact pk_mul 27 E) (tm_w_pl hv ?_)
    refine pk_loop (fun n i s => wX_quantify_34 post (nI k) (nI a) (nI (tm_v k a)) (nI (27 * E)) (nI (tm_pl (tm_v k a))) hh ax el kn (nI d) (nI (E + 1)) n (nI i) a1 a2 a3 a4 a5 a6 a7 a8 a9 a10 a11 s a13) (fun i s => tm_blk a12 s 0 i (fun l x => tm_is d l = true → ∀ b, b < 64 → tm_b x b = tm_quant d k a (fun l' => tm_b (a11 (27 * E + l')) b) l)) 27 0 a12 (by omega) (tm_blk_0 _ _ _) ?_ ?_
    · intro n s hI
      refine pk_le 27 27 (fun _ => ?_) (fun z => absurd z (by omega))
      refine pk_loop (fun n i t => wX_quantify_162 post (nI (27 * E)) hh ax el kn (nI d) (nI (E + 1)) n (nI i) a1 a2 a3 a4 a5 a6 a7 a8 a9 a10 t s a13) (fun i t => tm_blk a11 t (27 * E) i (fun l x => tm_is d l = true → ∀ b, b < 64 → tm_b x b = tm_quant d k a (fun l' => tm_b (a11 (27 * E + l')) b) l)) 27 0 a11 (by omega) (tm_blk_0 _ _ _) ?_ ?_
      · intro n t ht
        exact pk_le 27 27 (fun _ => H t s ht) (fun z => absurd z (by omega))
      · intro n i t hi ht hw
        have q1 : nI (27 * E) + nI i = nI (27 * E + i) := nI_add _ _
        refine pk_le 27 i (fun z => absurd z (by omega)) (fun _ => ⟨pk_in i 27 hi, pk_in (27 * E + i) 378 (by omega) q1, nm_r (by rw [q1, nI_clamp (by omega), nI_clamp (by omega)]) (nm_r (nI_1 i) (hw _ (tm_blk_put ht (fun hli b hb => ?_))))⟩)
        have c := hI.2 i hi hli b hb
        rw [Nat.zero_add] at c
        exact c
    · intro n i s hi hI hw
      have z1 := tm_zle i hi _ hv
      have z2 := tm_zlt i hi _ hv
      refine pk_le 27 i (fun z => absurd z (by omega)) (fun _ => tm_w_isl h3 hi (fun hli => br_t rfl (nm_r (nI_1 i) (hw s (tm_blk_skip hI (fun z => absurd z (by rw [hli]; decide)))))) (fun hli => br_f (by decide) (tm_w_el hi hv (nm_r (show nI i - nI (tm_pl (tm_v k a)) * nI (tm_el i (tm_v k a)) = nI (tm_z i (tm_v k a)) from by rw [pk_mul, pk_sub z1]; rfl) ?_))))
      have q0 : nI (27 * E) + nI (tm_z i (tm_v k a)) = nI (27 * E + tm_z i (tm_v k a)) := nI_add _ _
      have q1 : (nI (27 * E) + nI (tm_z i (tm_v k a))) + nI (tm_pl (tm_v k a)) = nI (27 * E + (tm_z i (tm_v k a) + tm_pl (tm_v k a))) := by rw [nI_add, nI_add, Nat.add_assoc]
      have q2 : (nI (27 * E) + nI (tm_z i (tm_v k a))) + 2 * nI (tm_pl (tm_v k a)) = nI (27 * E + (tm_z i (tm_v k a) + 2 * tm_pl (tm_v k a))) := by
        show (nI (27 * E) + nI (tm_z i (tm_v k a))) + nI 2 * nI (tm_pl (tm_v k a)) = _
        rw [pk_mul, nI_add, nI_add, Nat.add_assoc]
      have fin : ∀ y z : Int64, (∀ b, b < 64 → tm_b y b = if d ≤ 1 then false else tm_b (a11 (27 * E + (tm_z i (tm_v k a) + tm_pl (tm_v k a)))) b) → (∀ b, b < 64 → tm_b z b = if d ≤ 2 then false else tm_b (a11 (27 * E + (tm_z i (tm_v k a) + 2 * tm_pl (tm_v k a)))) b) → wX_quantify_130 post (wX_quantify_34 post (nI k) (nI a) (nI (tm_v k a)) (nI (27 * E)) (nI (tm_pl (tm_v k a))) hh ax el kn (nI d) (nI (E + 1)) n) (nI k) (nI a) (nI (tm_v k a)) (nI (27 * E)) (nI (tm_pl (tm_v k a))) (nI i) (a11 (27 * E + tm_z i (tm_v k a))) y z hh ax el kn (nI d) (nI (E + 1)) a1 a2 a3 a4 a5 a6 a7 a8 a9 a10 a11 s a13 := by
        intro y z hy hz
        refine ⟨by decide, ?_⟩
        rw [tm_d3 (by omega)]
        refine tm_w_qt h3 hk11 (by omega) (fun r hr => ⟨pk_in i 27 hi, nm_r (by rw [nI_clamp (by omega)]) (nm_r (nI_1 i) (hw (vp_updL s i r) ?_))⟩)
        have c : vp_updL s i r = vp_updL s (0 + i) r := by rw [Nat.zero_add]
        rw [c]
        refine tm_blk_put hI (fun _ b hb => ?_)
        rw [hr b hb, hy b hb, hz b hb]
        rfl
      refine ⟨pk_in (27 * E + tm_z i (tm_v k a)) 378 (by omega) q0, nm_r (by rw [q0, nI_clamp (by omega)]) (pk_le d 1 (fun c1 => pk_le d 2 (fun c2 => ?_) (fun c2 => ?_)) (fun c1 => ⟨pk_in (27 * E + (tm_z i (tm_v k a) + tm_pl (tm_v k a))) 378 (by omega) q1, pk_le d 2 (fun c2 => ?_) (fun c2 => ⟨pk_in (27 * E + (tm_z i (tm_v k a) + 2 * tm_pl (tm_v k a))) 378 (by omega) q2, ?_⟩)⟩))⟩
      · exact fin 0 0 (fun b _ => by rw [if_pos c1, tm_b_0]) (fun b _ => by rw [if_pos c2, tm_b_0])
      · omega
      · refine fin _ 0 (fun b _ => by rw [if_neg (by omega), q1, nI_clamp (by omega)]) (fun b _ => by rw [if_pos c2, tm_b_0])
      · refine fin _ _ (fun b _ => by rw [if_neg (by omega), q1, nI_clamp (by omega)]) (fun b _ => by rw [if_neg (by omega), q2, nI_clamp (by omega)])
  unfold tm_v at main hv
  refine pk_eq k 11 (fun e => ⟨by decide, ?_⟩) (fun e => ?_)
  · rw [if_pos e] at main
    rw [tm_r3 (by omega)]
    exact main
  · rw [if_neg e] at main
    exact main
theorem tm_w_work {post : St1 → Prop} {d p s n : Nat} (h1 : 1 ≤ d) (h3 : d < 4) (hf : tm_frm a1 a2 s n) (hs : s + n ≤ 288) (hl : tm_lay d p a8 a9 a10)
    (H : ∀ D s11 s12, (∀ l, l < 27 → tm_is d l = true → ∀ b, b < 64 → tm_b (s11 l) b = tm_run d (64 * p + b) a1 a2 s n 0 l) → post (hh, ax, el, kn, (nI d), D, a1, a2, a3, a4, a5, a6, a7, a8, a9, a10, s11, s12, a13)) :
    wpX_workOut post (hh, ax, el, kn, (nI d), dp, a1, a2, a3, a4, a5, a6, a7, a8, a9, a10, a11, a12, a13) (nI s) (nI n) := by
  have hn := hf.2.1
  refine pk_loop (σ := Int32 × (Nat → Int64) × (Nat → Int64)) (fun n' j t => wX_workOut_7 post (nI s) (nI n) n' (nI (s + j)) hh ax el kn (nI d) t.1 a1 a2 a3 a4 a5 a6 a7 a8 a9 a10 t.2.1 t.2.2 a13) (fun j t => t.1 = nI (tm_dep a1 s j) ∧ tm_tab d p (tm_dep a1 s j) t.2.1 (fun m => tm_run d m a1 a2 s j)) n 0 (0, a11, a12) (by omega) ⟨rfl, fun i hi => absurd hi (by show ¬ i < 0; omega)⟩ ?_ ?_
  · rintro n' ⟨D, t11, t12⟩ ⟨hD, ht⟩
    dsimp only at hD ht
    refine pk_le (s + n) (s + n) (fun _ => H D t11 t12 (fun l hl hi b hb => ?_)) (fun z => absurd z (by omega)) (nI_add s n)
    have c := ht 0 (by rw [hf.2.2.1]; omega) l hl hi b hb
    rw [Nat.mul_zero, Nat.zero_add] at c
    exact c
  · rintro n' j ⟨D0, t11, t12⟩ hj ⟨hD, ht⟩ hw
    dsimp only at hD ht
    subst hD
    obtain ⟨k, a, e1, e2, htk, hdep⟩ := hf.2.2.2 j hj
    have hk11 := htk.1
    have ha15 := htk.2.1
    have h12 := tm_frm_12 hf (Nat.le_of_lt hj)
    have hdn : tm_dep a1 s (j + 1) = tm_dn k (tm_dep a1 s j) := by
      show tm_dn (a1 (s + j)).toNatClampNeg (tm_dep a1 s j) = _
      rw [e1, nI_clamp (by omega)]
    have hrun : ∀ m, tm_run d m a1 a2 s (j + 1) = tm_stp d m k a (tm_dep a1 s j) (tm_run d m a1 a2 s j) := by
      intro m
      show tm_stp d m (a1 (s + j)).toNatClampNeg (a2 (s + j)).toNatClampNeg (tm_dep a1 s j) (tm_run d m a1 a2 s j) = _
      rw [e1, e2, nI_clamp (by omega), nI_clamp (by omega)]
    have hw' : ∀ (D' : Nat) (u11 u12 : Nat → Int64), D' = tm_dn k (tm_dep a1 s j) → tm_tab d p D' u11 (fun m => tm_stp d m k a (tm_dep a1 s j) (tm_run d m a1 a2 s j)) → wX_workOut_7 post (nI s) (nI n) n' (nI (s + (j + 1))) hh ax el kn (nI d) (nI D') a1 a2 a3 a4 a5 a6 a7 a8 a9 a10 u11 u12 a13 := by
      intro D' u11 u12 hD' hu
      refine hw (nI D', u11, u12) ⟨?_, ?_⟩
      · show nI D' = _
        rw [hdn, hD']
      · show tm_tab d p _ u11 _
        rw [hdn, ← hD']
        have q : (fun m => tm_run d m a1 a2 s (j + 1)) = (fun m => tm_stp d m k a (tm_dep a1 s j) (tm_run d m a1 a2 s j)) := funext hrun
        rw [q]
        exact hu
    clear hw
    refine pk_le (s + n) (s + j) (fun z => absurd z (by omega)) (fun _ => ⟨pk_in (s + j) 288 (by omega), ?_⟩) (nI_add s n)
    rw [nI_clamp (show s + j < 2 ^ 31 by omega), e1, e2]
    generalize hDe : tm_dep a1 s j = D at ht hdep h12 hdn hrun hw'
    have hkc := tm_tkc k (by omega)
    refine tm_w_tk hk11 (pk_eq (tm_tk k) 0 (fun c0 => ⟨pk_in (s + j) 288 (by omega), pk_in (s + j) 288 (by omega), ?_⟩) (fun c0 => pk_eq (tm_tk k) 2 (fun c2 => ?_) (fun c2 => ⟨pk_in (s + j) 288 (by omega), pk_eq k 4 (fun c4 => ?_) (fun c4 => ⟨pk_in (s + j) 288 (by omega), pk_in (s + j) 288 (by omega), ?_⟩)⟩) (ha := by omega)) (ha := by omega))
    · refine tm_w_latom h3 (by omega) htk (by omega) hl (fun u hu => nm_r (nI_1 D) (nm_r (nI_1 (s + j)) (hw' (D + 1) u t12 (by unfold tm_dn; rw [if_pos c0]) (tm_tab_at ht c0 hu))))
    · obtain ⟨E, rfl⟩ : ∃ E, D = E + 2 := ⟨D - 2, by omega⟩
      refine nm_r (nI_pred (E + 1)) ⟨pk_in (s + j) 288 (by omega), tm_w_join (by omega) (by omega) (by omega) (fun u hu => nm_r (nI_1 (s + j)) (hw' (E + 1) u t12 (by unfold tm_dn; rw [if_neg c0, if_pos c2]; rfl) (tm_tab_jn ht c2 hu)))⟩
    · obtain ⟨E, rfl⟩ : ∃ E, D = E + 1 := ⟨D - 1, by omega⟩
      subst c4
      exact tm_w_neg (by omega) (fun u hu => nm_r (nI_1 (s + j)) (hw' (E + 1) u t12 rfl (tm_tab_ng ht hu)))
    · obtain ⟨E, rfl⟩ : ∃ E, D = E + 1 := ⟨D - 1, by omega⟩
      have hk9 : 9 ≤ k := by omega
      exact tm_w_quant h3 (by omega) htk hk9 (fun u u12 hu => nm_r (nI_1 (s + j)) (hw' (E + 1) u u12 (by unfold tm_dn; rw [if_neg c0, if_neg c2]) (tm_tab_qt h1 h3 ht htk hk9 hu)))
end
end
section
section
variable {hh ax el kn sz dp : Int32} {a1 a2 a3 a4 a5 a7 : Nat → Int32} {a6 a8 a9 a10 a11 a12 a13 : Nat → Int64}
theorem tm_w2_latom {post : St1 → Prop} {d p D k a : Nat} (h3 : d < 4) (hD : D ≤ 13) (ht : tm_tok k a) (hk : k ≤ 3) (hl : tm_lay d p a8 a9 a10)
    (H : ∀ s, tm_blk a11 s (27 * D) 27 (fun l x => tm_is d l = true → ∀ b, b < 64 → tm_b x b = tm_at d (64 * p + b) k a l) → post (hh, ax, el, kn, (nI d), (nI D), a1, a2, a3, a4, a5, a6, a7, a8, a9, a10, s, a12, a13)) :
    wpX_layAtom_2 post (hh, ax, el, kn, (nI d), (nI D), a1, a2, a3, a4, a5, a6, a7, a8, a9, a10, a11, a12, a13) (nI k) (nI a) := by
  obtain ⟨t1, t2, t3, t4, _⟩ := ht
  have t4 := t4 hk
  refine nm_r (show (27 : Int32) * nI D = nI (27 * D) from pk_mul 27 D) ?_
  refine pk_loop (fun n i s => wX_layAtom_2_11 post (nI k) (nI a) (nI (27 * D)) hh ax el kn (nI d) (nI D) n (nI i) a1 a2 a3 a4 a5 a6 a7 a8 a9 a10 s a12 a13) (fun i s => tm_blk a11 s (27 * D) i (fun l x => tm_is d l = true → ∀ b, b < 64 → tm_b x b = tm_at d (64 * p + b) k a l)) 27 0 a11 (by omega) (tm_blk_0 _ _ _) ?_ ?_
  · intro n s hI
    exact pk_le 27 27 (fun _ => H s hI) (fun z => absurd z (by omega))
  · intro n i s hi hI hw
    refine pk_le 27 i (fun z => absurd z (by omega)) (fun _ => tm_w_isl h3 hi (fun hli => br_t rfl (nm_r (nI_1 i) (hw s (tm_blk_skip hI (fun z => absurd z (by rw [hli]; decide)))))) (fun hli => br_f (by decide) ?_))
    have fin : ∀ e f, e < d → f < d → (∀ b, tm_at d (64 * p + b) k a i = tm_atom d (64 * p + b) k e f) → wpX_atom (fun r_12 => (vp_in (nI (27 * D) + nI i) 378 ∧ ∀ s', s' = vp_updL s (nI (27 * D) + nI i).toNatClampNeg r_12 → (∀ x4_15 : Int32, x4_15 = nI i + 1 → (wX_layAtom_2_11 post (nI k) (nI a) (nI (27 * D)) hh ax el kn (nI d) (nI D) n x4_15 a1 a2 a3 a4 a5 a6 a7 a8 a9 a10 s' a12 a13)))) (hh, ax, el, kn, (nI d), (nI D), a1, a2, a3, a4, a5, a6, a7, a8, a9, a10, s, a12, a13) (nI k) (nI e) (nI f) := by
      intro e f he hf hat
      refine tm_w_atom h3 hk he hf hl (fun r hr => ⟨pk_in (27 * D + i) 378 (by omega) (nI_add _ _), nm_r (by rw [nI_add, nI_clamp (by omega)]) (nm_r (nI_1 i) (hw _ (tm_blk_put hI (fun _ b hb => ?_))))⟩)
      rw [hr b hb, hat b]
    refine pk_eq k 0 (fun e => ?_) (fun e => ⟨by decide, ?_⟩)
    · have ha := t3 e
      refine tm_w_el hi (by omega) (pk_eq k 0 (fun _ => ?_) (fun z => absurd e z))
      refine tm_w_el hi (by omega) ?_
      exact fin _ _ (tm_is_el d h3 i hi hli a (by omega)) (tm_is_el d h3 i hi hli a (by omega)) (fun b => by unfold tm_at; rw [if_pos e, if_pos e])
    · have c3 : (nI a / 3 : Int32) = nI (a / 3) := tm_d3 (by omega)
      rw [c3]
      refine tm_w_el hi (by omega) (pk_eq k 0 (fun z => absurd z e) (fun _ => ⟨by decide, ?_⟩))
      have c4 : nI a - nI a / 3 * 3 = nI (a % 3) := tm_r3 (by omega)
      rw [c4]
      refine tm_w_el hi (by omega) ?_
      exact fin _ _ (tm_is_el d h3 i hi hli (a / 3) (by omega)) (tm_is_el d h3 i hi hli (a % 3) (by omega)) (fun b => by unfold tm_at; rw [if_neg e, if_neg e])
theorem tm_w2_join {post : St1 → Prop} {E k : Nat} (hE : E ≤ 12) (h5 : 5 ≤ k) (h8 : k ≤ 8)
    (H : ∀ s, tm_blk a11 s (27 * E) 27 (fun l x => ∀ b, b < 64 → tm_b x b = tm_join k (tm_b (a11 (27 * E + l)) b) (tm_b (a11 (27 * E + 27 + l)) b)) → post (hh, ax, el, kn, sz, (nI (E + 1)), a1, a2, a3, a4, a5, a6, a7, a8, a9, a10, s, a12, a13)) :
    wpX_join_2 post (hh, ax, el, kn, sz, (nI (E + 1)), a1, a2, a3, a4, a5, a6, a7, a8, a9, a10, a11, a12, a13) (nI k) := by
  refine nm_r (show (27 : Int32) * (nI (E + 1) - 1) = nI (27 * E) from by rw [nI_pred]; exact pk_mul 27 E) ?_
  refine pk_loop (fun n i s => wX_join_2_12 post (nI k) (nI (27 * E)) hh ax el kn sz (nI (E + 1)) n (nI i) a1 a2 a3 a4 a5 a6 a7 a8 a9 a10 s a12 a13) (fun i s => tm_blk a11 s (27 * E) i (fun l x => ∀ b, b < 64 → tm_b x b = tm_join k (tm_b (a11 (27 * E + l)) b) (tm_b (a11 (27 * E + 27 + l)) b))) 27 0 a11 (by omega) (tm_blk_0 _ _ _) ?_ ?_
  · intro n s hI
    exact pk_le 27 27 (fun _ => H s hI) (fun z => absurd z (by omega))
  · intro n i s hi hI hw
    have q1 : nI (27 * E) + nI i = nI (27 * E + i) := nI_add _ _
    have q2 : (nI (27 * E) + 27) + nI i = nI (27 * E + 27 + i) := by
      show (nI (27 * E) + nI 27) + nI i = _
      rw [nI_add, nI_add]
    refine pk_le 27 i (fun z => absurd z (by omega)) (fun _ => ⟨pk_in (27 * E + i) 378 (by omega) q1, nm_e ⟨pk_in (27 * E + 27 + i) 378 (by omega) q2, nm_e (tm_w_jn h5 h8 (fun r hr => ⟨pk_in (27 * E + i) 378 (by omega) q1, nm_r (by rw [q1, nI_clamp (by omega)]) (nm_r (nI_1 i) (hw _ (tm_blk_put hI (fun b hb => ?_))))⟩))⟩⟩)
    rw [hr b hb, q1, q2, nI_clamp (by omega), nI_clamp (by omega), hI.1 _ (by omega), hI.1 _ (by omega)]
theorem tm_w2_neg {post : St1 → Prop} {E : Nat} (hE : E ≤ 13)
    (H : ∀ s, tm_blk a11 s (27 * E) 27 (fun l x => ∀ b, b < 64 → tm_b x b = !tm_b (a11 (27 * E + l)) b) → post (hh, ax, el, kn, sz, (nI (E + 1)), a1, a2, a3, a4, a5, a6, a7, a8, a9, a10, s, a12, a13)) :
    wpX_negate_2 post (hh, ax, el, kn, sz, (nI (E + 1)), a1, a2, a3, a4, a5, a6, a7, a8, a9, a10, a11, a12, a13) := by
  refine nm_r (show (27 : Int32) * (nI (E + 1) - 1) = nI (27 * E) from by rw [nI_pred]; exact pk_mul 27 E) ?_
  refine pk_loop (fun n i s => wX_negate_2_12 post (nI (27 * E)) hh ax el kn sz (nI (E + 1)) n (nI i) a1 a2 a3 a4 a5 a6 a7 a8 a9 a10 s a12 a13) (fun i s => tm_blk a11 s (27 * E) i (fun l x => ∀ b, b < 64 → tm_b x b = !tm_b (a11 (27 * E + l)) b)) 27 0 a11 (by omega) (tm_blk_0 _ _ _) ?_ ?_
  · intro n s hI
    exact pk_le 27 27 (fun _ => H s hI) (fun z => absurd z (by omega))
  · intro n i s hi hI hw
    have q1 : nI (27 * E) + nI i = nI (27 * E + i) := nI_add _ _
    refine pk_le 27 i (fun z => absurd z (by omega)) (fun _ => ⟨pk_in (27 * E + i) 378 (by omega) q1, pk_in (27 * E + i) 378 (by omega) q1, nm_r (by rw [q1, nI_clamp (by omega)]) (nm_r (nI_1 i) (hw _ (tm_blk_put hI (fun b hb => ?_))))⟩)
    rw [tm_b_not _ hb, hI.1 _ (by omega)]
theorem tm_w2_quant {post : St1 → Prop} {d E k a : Nat} (h3 : d < 4) (hE : E ≤ 13) (ht : tm_tok k a) (hk : 9 ≤ k)
    (H : ∀ s s12, tm_blk a11 s (27 * E) 27 (fun l x => tm_is d l = true → ∀ b, b < 64 → tm_b x b = tm_quant d k a (fun l' => tm_b (a11 (27 * E + l')) b) l) → post (hh, ax, el, kn, (nI d), (nI (E + 1)), a1, a2, a3, a4, a5, a6, a7, a8, a9, a10, s, s12, a13)) :
    wpX_quantify_2 post (hh, ax, el, kn, (nI d), (nI (E + 1)), a1, a2, a3, a4, a5, a6, a7, a8, a9, a10, a11, a12, a13) (nI k) (nI a) := by
  have hv := tm_v_lt ht hk
  have hk11 := ht.1
  have ha15 := ht.2.1
  have main : wX_quantify_2_13 post (nI k) (nI a) (nI (tm_v k a)) hh ax el kn (nI d) (nI (E + 1)) a1 a2 a3 a4 a5 a6 a7 a8 a9 a10 a11 a12 a13 := by
    refine nm_r (show (27 : Int32) * (nI (E + 1) - 1) = nI (27 * E) from by rw [nI_pred]; exact pk_mul 27 E) (tm_w_pl hv ?_)
    refine pk_loop (fun n i s => wX_quantify_2_34 post (nI k) (nI a) (nI (tm_v k a)) (nI (27 * E)) (nI (tm_pl (tm_v k a))) hh ax el kn (nI d) (nI (E + 1)) n (nI i) a1 a2 a3 a4 a5 a6 a7 a8 a9 a10 a11 s a13) (fun i s => tm_blk a12 s 0 i (fun l x => tm_is d l = true → ∀ b, b < 64 → tm_b x b = tm_quant d k a (fun l' => tm_b (a11 (27 * E + l')) b) l)) 27 0 a12 (by omega) (tm_blk_0 _ _ _) ?_ ?_
    · intro n s hI
      refine pk_le 27 27 (fun _ => ?_) (fun z => absurd z (by omega))
      refine pk_loop (fun n i t => wX_quantify_2_162 post (nI (27 * E)) hh ax el kn (nI d) (nI (E + 1)) n (nI i) a1 a2 a3 a4 a5 a6 a7 a8 a9 a10 t s a13) (fun i t => tm_blk a11 t (27 * E) i (fun l x => tm_is d l = true → ∀ b, b < 64 → tm_b x b = tm_quant d k a (fun l' => tm_b (a11 (27 * E + l')) b) l)) 27 0 a11 (by omega) (tm_blk_0 _ _ _) ?_ ?_
      · intro n t ht
        exact pk_le 27 27 (fun _ => H t s ht) (fun z => absurd z (by omega))
      · intro n i t hi ht hw
        have q1 : nI (27 * E) + nI i = nI (27 * E + i) := nI_add _ _
        refine pk_le 27 i (fun z => absurd z (by omega)) (fun _ => ⟨pk_in i 27 hi, pk_in (27 * E + i) 378 (by omega) q1, nm_r (by rw [q1, nI_clamp (by omega), nI_clamp (by omega)]) (nm_r (nI_1 i) (hw _ (tm_blk_put ht (fun hli b hb => ?_))))⟩)
        have c := hI.2 i hi hli b hb
        rw [Nat.zero_add] at c
        exact c
    · intro n i s hi hI hw
      have z1 := tm_zle i hi _ hv
      have z2 := tm_zlt i hi _ hv
      refine pk_le 27 i (fun z => absurd z (by omega)) (fun _ => tm_w_isl h3 hi (fun hli => br_t rfl (nm_r (nI_1 i) (hw s (tm_blk_skip hI (fun z => absurd z (by rw [hli]; decide)))))) (fun hli => br_f (by decide) (tm_w_el hi hv (nm_r (show nI i - nI (tm_pl (tm_v k a)) * nI (tm_el i (tm_v k a)) = nI (tm_z i (tm_v k a)) from by rw [pk_mul, pk_sub z1]; rfl) ?_))))
      have q0 : nI (27 * E) + nI (tm_z i (tm_v k a)) = nI (27 * E + tm_z i (tm_v k a)) := nI_add _ _
      have q1 : (nI (27 * E) + nI (tm_z i (tm_v k a))) + nI (tm_pl (tm_v k a)) = nI (27 * E + (tm_z i (tm_v k a) + tm_pl (tm_v k a))) := by rw [nI_add, nI_add, Nat.add_assoc]
      have q2 : (nI (27 * E) + nI (tm_z i (tm_v k a))) + 2 * nI (tm_pl (tm_v k a)) = nI (27 * E + (tm_z i (tm_v k a) + 2 * tm_pl (tm_v k a))) := by
        show (nI (27 * E) + nI (tm_z i (tm_v k a))) + nI 2 * nI (tm_pl (tm_v k a)) = _
        rw [pk_mul, nI_add, nI_add, Nat.add_assoc]
      have fin : ∀ y z : Int64, (∀ b, b < 64 → tm_b y b = if d ≤ 1 then false else tm_b (a11 (27 * E + (tm_z i (tm_v k a) + tm_pl (tm_v k a)))) b) → (∀ b, b < 64 → tm_b z b = if d ≤ 2 then false else tm_b (a11 (27 * E + (tm_z i (tm_v k a) + 2 * tm_pl (tm_v k a)))) b) → wX_quantify_2_130 post (wX_quantify_2_34 post (nI k) (nI a) (nI (tm_v k a)) (nI (27 * E)) (nI (tm_pl (tm_v k a))) hh ax el kn (nI d) (nI (E + 1)) n) (nI k) (nI a) (nI (tm_v k a)) (nI (27 * E)) (nI (tm_pl (tm_v k a))) (nI i) (a11 (27 * E + tm_z i (tm_v k a))) y z hh ax el kn (nI d) (nI (E + 1)) a1 a2 a3 a4 a5 a6 a7 a8 a9 a10 a11 s a13 := by
        intro y z hy hz
        refine ⟨by decide, ?_⟩
        rw [tm_d3 (by omega)]
        refine tm_w_qt h3 hk11 (by omega) (fun r hr => ⟨pk_in i 27 hi, nm_r (by rw [nI_clamp (by omega)]) (nm_r (nI_1 i) (hw (vp_updL s i r) ?_))⟩)
        have c : vp_updL s i r = vp_updL s (0 + i) r := by rw [Nat.zero_add]
        rw [c]
        refine tm_blk_put hI (fun _ b hb => ?_)
        rw [hr b hb, hy b hb, hz b hb]
        rfl
      refine ⟨pk_in (27 * E + tm_z i (tm_v k a)) 378 (by omega) q0, nm_r (by rw [q0, nI_clamp (by omega)]) (pk_le d 1 (fun c1 => pk_le d 2 (fun c2 => ?_) (fun c2 => ?_)) (fun c1 => ⟨pk_in (27 * E + (tm_z i (tm_v k a) + tm_pl (tm_v k a))) 378 (by omega) q1, pk_le d 2 (fun c2 => ?_) (fun c2 => ⟨pk_in (27 * E + (tm_z i (tm_v k a) + 2 * tm_pl (tm_v k a))) 378 (by omega) q2, ?_⟩)⟩))⟩
      · exact fin 0 0 (fun b _ => by rw [if_pos c1, tm_b_0]) (fun b _ => by rw [if_pos c2, tm_b_0])
      · omega
      · refine fin _ 0 (fun b _ => by rw [if_neg (by omega), q1, nI_clamp (by omega)]) (fun b _ => by rw [if_pos c2, tm_b_0])
      · refine fin _ _ (fun b _ => by rw [if_neg (by omega), q1, nI_clamp (by omega)]) (fun b _ => by rw [if_neg (by omega), q2, nI_clamp (by omega)])
  unfold tm_v at main hv
  refine pk_eq k 11 (fun e => ⟨by decide, ?_⟩) (fun e => ?_)
  · rw [if_pos e] at main
    rw [tm_r3 (by omega)]
    exact main
  · rw [if_neg e] at main
    exact main
theorem tm_w2_work {post : St1 → Prop} {d p s n : Nat} (h1 : 1 ≤ d) (h3 : d < 4) (hf : tm_frm a1 a2 s n) (hs : s + n ≤ 288) (hl : tm_lay d p a8 a9 a10)
    (H : ∀ D s11 s12, (∀ l, l < 27 → tm_is d l = true → ∀ b, b < 64 → tm_b (s11 l) b = tm_run d (64 * p + b) a1 a2 s n 0 l) → post (hh, ax, el, kn, (nI d), D, a1, a2, a3, a4, a5, a6, a7, a8, a9, a10, s11, s12, a13)) :
    wpX_workOut_2 post (hh, ax, el, kn, (nI d), dp, a1, a2, a3, a4, a5, a6, a7, a8, a9, a10, a11, a12, a13) (nI s) (nI n) := by
  have hn := hf.2.1
  refine pk_loop (σ := Int32 × (Nat → Int64) × (Nat → Int64)) (fun n' j t => wX_workOut_2_7 post (nI s) (nI n) n' (nI (s + j)) hh ax el kn (nI d) t.1 a1 a2 a3 a4 a5 a6 a7 a8 a9 a10 t.2.1 t.2.2 a13) (fun j t => t.1 = nI (tm_dep a1 s j) ∧ tm_tab d p (tm_dep a1 s j) t.2.1 (fun m => tm_run d m a1 a2 s j)) n 0 (0, a11, a12) (by omega) ⟨rfl, fun i hi => absurd hi (by show ¬ i < 0; omega)⟩ ?_ ?_
  · rintro n' ⟨D, t11, t12⟩ ⟨hD, ht⟩
    dsimp only at hD ht
    refine pk_le (s + n) (s + n) (fun _ => H D t11 t12 (fun l hl hi b hb => ?_)) (fun z => absurd z (by omega)) (nI_add s n)
    have c := ht 0 (by rw [hf.2.2.1]; omega) l hl hi b hb
    rw [Nat.mul_zero, Nat.zero_add] at c
    exact c
  · rintro n' j ⟨D0, t11, t12⟩ hj ⟨hD, ht⟩ hw
    dsimp only at hD ht
    subst hD
    obtain ⟨k, a, e1, e2, htk, hdep⟩ := hf.2.2.2 j hj
    have hk11 := htk.1
    have ha15 := htk.2.1
    have h12 := tm_frm_12 hf (Nat.le_of_lt hj)
    have hdn : tm_dep a1 s (j + 1) = tm_dn k (tm_dep a1 s j) := by
      show tm_dn (a1 (s + j)).toNatClampNeg (tm_dep a1 s j) = _
      rw [e1, nI_clamp (by omega)]
    have hrun : ∀ m, tm_run d m a1 a2 s (j + 1) = tm_stp d m k a (tm_dep a1 s j) (tm_run d m a1 a2 s j) := by
      intro m
      show tm_stp d m (a1 (s + j)).toNatClampNeg (a2 (s + j)).toNatClampNeg (tm_dep a1 s j) (tm_run d m a1 a2 s j) = _
      rw [e1, e2, nI_clamp (by omega), nI_clamp (by omega)]
    have hw' : ∀ (D' : Nat) (u11 u12 : Nat → Int64), D' = tm_dn k (tm_dep a1 s j) → tm_tab d p D' u11 (fun m => tm_stp d m k a (tm_dep a1 s j) (tm_run d m a1 a2 s j)) → wX_workOut_2_7 post (nI s) (nI n) n' (nI (s + (j + 1))) hh ax el kn (nI d) (nI D') a1 a2 a3 a4 a5 a6 a7 a8 a9 a10 u11 u12 a13 := by
      intro D' u11 u12 hD' hu
      refine hw (nI D', u11, u12) ⟨?_, ?_⟩
      · show nI D' = _
        rw [hdn, hD']
      · show tm_tab d p _ u11 _
        rw [hdn, ← hD']
        have q : (fun m => tm_run d m a1 a2 s (j + 1)) = (fun m => tm_stp d m k a (tm_dep a1 s j) (tm_run d m a1 a2 s j)) := funext hrun
        rw [q]
        exact hu
    clear hw
    refine pk_le (s + n) (s + j) (fun z => absurd z (by omega)) (fun _ => ⟨pk_in (s + j) 288 (by omega), ?_⟩) (nI_add s n)
    rw [nI_clamp (show s + j < 2 ^ 31 by omega), e1, e2]
    generalize hDe : tm_dep a1 s j = D at ht hdep h12 hdn hrun hw'
    have hkc := tm_tkc k (by omega)
    refine tm_w_tk hk11 (pk_eq (tm_tk k) 0 (fun c0 => ⟨pk_in (s + j) 288 (by omega), pk_in (s + j) 288 (by omega), ?_⟩) (fun c0 => pk_eq (tm_tk k) 2 (fun c2 => ?_) (fun c2 => ⟨pk_in (s + j) 288 (by omega), pk_eq k 4 (fun c4 => ?_) (fun c4 => ⟨pk_in (s + j) 288 (by omega), pk_in (s + j) 288 (by omega), ?_⟩)⟩) (ha := by omega)) (ha := by omega))
    · refine tm_w2_latom h3 (by omega) htk (by omega) hl (fun u hu => nm_r (nI_1 D) (nm_r (nI_1 (s + j)) (hw' (D + 1) u t12 (by unfold tm_dn; rw [if_pos c0]) (tm_tab_at ht c0 hu))))
    · obtain ⟨E, rfl⟩ : ∃ E, D = E + 2 := ⟨D - 2, by omega⟩
      refine nm_r (nI_pred (E + 1)) ⟨pk_in (s + j) 288 (by omega), tm_w2_join (by omega) (by omega) (by omega) (fun u hu => nm_r (nI_1 (s + j)) (hw' (E + 1) u t12 (by unfold tm_dn; rw [if_neg c0, if_pos c2]; rfl) (tm_tab_jn ht c2 hu)))⟩
    · obtain ⟨E, rfl⟩ : ∃ E, D = E + 1 := ⟨D - 1, by omega⟩
      subst c4
      exact tm_w2_neg (by omega) (fun u hu => nm_r (nI_1 (s + j)) (hw' (E + 1) u t12 rfl (tm_tab_ng ht hu)))
    · obtain ⟨E, rfl⟩ : ∃ E, D = E + 1 := ⟨D - 1, by omega⟩
      have hk9 : 9 ≤ k := by omega
      exact tm_w2_quant h3 (by omega) htk hk9 (fun u u12 hu => nm_r (nI_1 (s + j)) (hw' (E + 1) u u12 (by unfold tm_dn; rw [if_neg c0, if_neg c2]) (tm_tab_qt h1 h3 ht htk hk9 hu)))
end
end
section
/-! ===== validity, models ===== -/
theorem tm_nm1 {i : Nat} (h : i < 2 ^ 31) : ¬ nI i = -1 := by
  intro z
  have t := nI_toInt h
  rw [z, show (-1 : Int32).toInt = -1 from by decide] at t
  omega
def tm_parts (d : Nat) : Nat := if d = 3 then 64 else 1
theorem tm_axs_mono {d m : Nat} {K A L : Nat → Int32} {j : Nat} : ∀ n, j ≤ n → tm_axs d m K A L n = true → tm_axs d m K A L j = true
  | 0, h, t => by
    obtain rfl : j = 0 := by omega
    exact t
  | n + 1, h, t => by
    by_cases e : j = n + 1
    · rw [e]
      exact t
    · have t' : (tm_axs d m K A L n && tm_val d m K A (144 + 24 * n) (L n).toNatClampNeg) = true := t
      rw [Bool.and_eq_true] at t'
      exact tm_axs_mono n (by omega) t'.1
/-- axioms stand -/
def tm_pic (d x : Nat) (a1 a2 a5 : Nat → Int32) : Prop := 1 ≤ d ∧ d < 4 ∧ x ≤ 6 ∧ ∀ i, i < x → ∃ n, a5 i = nI n ∧ tm_frm a1 a2 (144 + 24 * i) n
/-- the models are laid -/
def tm_mb (d x : Nat) (a1 a2 a5 : Nat → Int32) (a6 : Nat → Int64) : Prop := ∀ p, p < 64 → ∀ b, b < 64 → tm_b (a6 p) b = tm_M d a1 a2 a5 x (64 * p + b)
/-- the formula on top stands -/
def tm_top (hh : Int32) (a1 a2 a3 a4 : Nat → Int32) (s n : Nat) : Prop := ∃ t, t < 6 ∧ hh = nI (t + 1) ∧ a3 t = nI s ∧ a4 t = nI n ∧ tm_frm a1 a2 s n ∧ s + n ≤ 288
theorem tm_N1 : tm_N 1 = 4 := rfl
theorem tm_N2 : tm_N 2 = 64 := rfl
theorem tm_N3 : tm_N 3 = 4096 := rfl
theorem tm_M_hi {d x m : Nat} {K A L : Nat → Int32} (h : tm_N d ≤ m) : tm_M d K A L x m = false := by
  unfold tm_M
  rw [decide_eq_false (by omega), Bool.false_and]
theorem tm_N_part {d : Nat} (h1 : 1 ≤ d) (h3 : d < 4) : tm_N d ≤ 64 * tm_parts d := by
  rcases (show d = 1 ∨ d = 2 ∨ d = 3 by omega) with rfl | rfl | rfl
  · rw [tm_N1]; decide
  · rw [tm_N2]; decide
  · rw [tm_N3]; decide
theorem tm_parts_le (d : Nat) : tm_parts d ≤ 64 := by
  unfold tm_parts
  split <;> omega
section
variable {hh ax el kn sz dp : Int32} {a1 a2 a3 a4 a5 a7 : Nat → Int32} {a6 a8 a9 a10 a11 a12 a13 : Nat → Int64}
theorem tm_w_parts {post : Int32 → Prop} {d : Nat} (h3 : d < 4) (H : post (nI (tm_parts d))) : wpX_partsOf post () (nI d) := by
  unfold tm_parts at H
  refine pk_eq d 3 (fun e => ?_) (fun e => ?_)
  · rw [if_pos e] at H
    exact H
  · rw [if_neg e] at H
    exact H
theorem tm_w_vones {post : Int64 → Prop} {d : Nat} {V : Nat → Nat → Bool} (h3 : d < 4) (hT : ∀ l, l < 27 → tm_is d l = true → ∀ b, b < 64 → tm_b (a11 l) b = V b l)
    (H : ∀ r, (∀ b, b < 64 → (tm_b r b = true ↔ ∀ l, l < 27 → tm_is d l = true → V b l = true)) → post r) : wpX_validOnes post (hh, ax, el, kn, (nI d), dp, a1, a2, a3, a4, a5, a6, a7, a8, a9, a10, a11, a12, a13) := by
  refine pk_loop (fun n i x => wX_validOnes_6 post hh ax el kn (nI d) dp a1 a2 a3 a4 a5 a6 a7 a8 a9 a10 a11 a12 a13 n x (nI i)) (fun i x => ∀ b, b < 64 → (tm_b x b = true ↔ ∀ l, l < i → tm_is d l = true → V b l = true)) 27 0 (-1) (by omega) ?_ ?_ ?_
  · intro b hb
    rw [tm_b_m1 hb]
    exact ⟨fun _ l hl => absurd hl (by omega), fun _ => rfl⟩
  · intro n x hI
    exact pk_le 27 27 (fun _ => H x hI) (fun z => absurd z (by omega))
  · intro n i x hi hI hw
    refine pk_le 27 i (fun z => absurd z (by omega)) (fun _ => tm_w_isl h3 hi (fun hli => br_t rfl (nm_r (nI_1 i) (hw x (fun b hb => ?_)))) (fun hli => br_f (by decide) ⟨pk_in i 378 (by omega), nm_r (by rw [nI_clamp (by omega)]) (nm_r (nI_1 i) (hw (x &&& a11 i) (fun b hb => ?_)))⟩))
    · rw [hI b hb]
      constructor
      · intro h l hl hli2
        by_cases e : l = i
        · rw [e, hli] at hli2
          exact absurd hli2 (by decide)
        · exact h l (by omega) hli2
      · intro h l hl hli2
        exact h l (by omega) hli2
    · rw [tm_b_and, Bool.and_eq_true, hI b hb, hT i hi hli b hb]
      constructor
      · rintro ⟨h, h2⟩ l hl hli2
        by_cases e : l = i
        · rw [e]
          exact h2
        · exact h l (by omega) hli2
      · intro h
        exact ⟨fun l hl hli2 => h l (by omega) hli2, h i (by omega) hli⟩
theorem tm_w_vax {post : Int64 → St1 → Prop} {d p i n : Nat} (h1 : 1 ≤ d) (h3 : d < 4) (hi : i < 6) (hn : a5 i = nI n) (hf : tm_frm a1 a2 (144 + 24 * i) n) (hl : tm_lay d p a8 a9 a10)
    (H : ∀ r dp a11 a12, (∀ b, b < 64 → tm_b r b = tm_val d (64 * p + b) a1 a2 (144 + 24 * i) (a5 i).toNatClampNeg) → post r (hh, ax, el, kn, (nI d), dp, a1, a2, a3, a4, a5, a6, a7, a8, a9, a10, a11, a12, a13)) : wpX_validAxiom post (hh, ax, el, kn, (nI d), dp, a1, a2, a3, a4, a5, a6, a7, a8, a9, a10, a11, a12, a13) (nI i) := by
  have hn24 := hf.2.1
  refine ⟨pk_in i 6 hi, ?_⟩
  rw [nI_clamp (show i < 2 ^ 31 by omega), hn]
  have q : (144 : Int32) + 24 * nI i = nI (144 + 24 * i) := by
    show nI 144 + nI 24 * nI i = _
    rw [pk_mul, nI_add]
  rw [q]
  refine tm_w2_work h1 h3 hf (by omega) hl (fun D s11 s12 hT => ?_)
  refine tm_w_vones (V := fun b l => tm_run d (64 * p + b) a1 a2 (144 + 24 * i) n 0 l) h3 hT (fun r hr => H r D s11 s12 (fun b hb => ?_))
  rw [hn, nI_clamp (by omega), Bool.eq_iff_iff, tm_val_iff, hr b hb]
theorem tm_w_here {post : Int64 → St1 → Prop} {d x p : Nat} (hp : tm_pic d x a1 a2 a5) (hpp : p < tm_parts d) (hl : tm_lay d p a8 a9 a10)
    (H : ∀ r dp a11 a12, (∀ b, b < 64 → tm_b r b = tm_M d a1 a2 a5 x (64 * p + b)) → post r (hh, (nI x), el, kn, (nI d), dp, a1, a2, a3, a4, a5, a6, a7, a8, a9, a10, a11, a12, a13)) : wpX_modelsHere post (hh, (nI x), el, kn, (nI d), dp, a1, a2, a3, a4, a5, a6, a7, a8, a9, a10, a11, a12, a13) (nI d) (-1) := by
  obtain ⟨h1, h3, hx, hax⟩ := hp
  have main : ∀ n i (r : Int64) dp a11 a12, i ≤ x → x - i < n → (∀ b, b < 64 → tm_b r b = (decide (64 * p + b < tm_N d) && tm_axs d (64 * p + b) a1 a2 a5 i)) → wX_modelsHere_8 post (-1) n r (nI i) hh (nI x) el kn (nI d) dp a1 a2 a3 a4 a5 a6 a7 a8 a9 a10 a11 a12 a13 := by
    intro n
    induction n with
    | zero => intro i r dp a11 a12 _ hn; omega
    | succ n ih =>
      intro i r dp a11 a12 hi hn hI
      refine pk_le x i (fun z => ?_) (fun z => br_c (fun e => ?_) (fun e => br_f (tm_nm1 (by omega)) ?_))
      · obtain rfl : i = x := by omega
        exact H r dp a11 a12 hI
      · refine H r dp a11 a12 (fun b hb => ?_)
        rw [e, tm_b_0]
        have t := hI b hb
        rw [e, tm_b_0] at t
        unfold tm_M
        cases c : decide (64 * p + b < tm_N d)
        · rw [Bool.false_and]
        · rw [c, Bool.true_and] at t
          rw [Bool.true_and]
          cases c2 : tm_axs d (64 * p + b) a1 a2 a5 x
          · rfl
          · rw [tm_axs_mono x hi c2] at t
            exact absurd t (by decide)
      · obtain ⟨m, e1, e2⟩ := hax i z
        refine tm_w_vax h1 h3 (by omega) e1 e2 hl (fun v dp' s11 s12 hv => nm_e (nm_r (nI_1 i) (ih (i + 1) _ dp' s11 s12 (by omega) (by omega) (fun b hb => ?_))))
        rw [tm_b_and, hI b hb, hv b hb, Bool.and_assoc]
        rfl
  have start : ∀ w : Int64, (∀ b, b < 64 → tm_b w b = decide (64 * p + b < tm_N d)) → ∃ fu, wX_modelsHere_8 post (-1) fu w 0 hh (nI x) el kn (nI d) dp a1 a2 a3 a4 a5 a6 a7 a8 a9 a10 a11 a12 a13 := by
    intro w hw
    refine ⟨x + 1, main (x + 1) 0 w dp a11 a12 (by omega) (by omega) (fun b hb => ?_)⟩
    rw [hw b hb]
    exact (Bool.and_true _).symm
  unfold tm_parts at hpp
  refine pk_eq d 1 (fun e => start 15 (fun b hb => ?_)) (fun e => start (-1) (fun b hb => ?_))
  · rw [e, if_neg (by omega)] at hpp
    rw [tm_b_15 b hb, e, tm_N1]
    congr 1
    apply propext
    omega
  · rw [tm_b_m1 hb]
    refine (decide_eq_true ?_).symm
    rcases (show d = 2 ∨ d = 3 by omega) with rfl | rfl
    · rw [if_neg (by omega)] at hpp
      rw [tm_N2]
      omega
    · rw [if_pos rfl] at hpp
      rw [tm_N3]
      omega
theorem tm_w_find {post : St1 → Prop} {d x : Nat} (hp : tm_pic d x a1 a2 a5) (hk : kn = 0 ∨ tm_mb d x a1 a2 a5 a6)
    (H : ∀ kn sz dp a6 a8 a9 a10 a11 a12, tm_mb d x a1 a2 a5 a6 → post (hh, (nI x), (nI d), kn, sz, dp, a1, a2, a3, a4, a5, a6, a7, a8, a9, a10, a11, a12, a13)) : wpX_find post (hh, (nI x), (nI d), kn, sz, dp, a1, a2, a3, a4, a5, a6, a7, a8, a9, a10, a11, a12, a13) := by
  have h1 := hp.1
  have h3 := hp.2.1
  have main : ∀ n i sz dp a6 a8 a9 a10 a11 a12, i ≤ 64 → 64 - i < n → (∀ p, p < i → ∀ b, b < 64 → tm_b (a6 p) b = tm_M d a1 a2 a5 x (64 * p + b)) → wX_find_15 post n (nI i) hh (nI x) (nI d) 1 sz dp a1 a2 a3 a4 a5 a6 a7 a8 a9 a10 a11 a12 a13 := by
    intro n
    induction n with
    | zero => intro i sz dp a6 a8 a9 a10 a11 a12 _ hn; omega
    | succ n ih =>
      intro i sz dp a6 a8 a9 a10 a11 a12 hi hn hI
      refine pk_le 64 i (fun z => ?_) (fun z => ⟨pk_in i 64 z, nm_r (by rw [nI_clamp (by omega)]) (tm_w_parts h3 (pk_le (tm_parts d) i (fun c => ?_) (fun c => ?_) (ha := Nat.lt_of_le_of_lt (tm_parts_le d) (by omega))))⟩)
      · obtain rfl : i = 64 := by omega
        exact H 1 sz dp a6 a8 a9 a10 a11 a12 hI
      · refine nm_r (nI_1 i) (ih (i + 1) sz dp (vp_updL a6 i 0) a8 a9 a10 a11 a12 (by omega) (by omega) (fun p hp' b hb => ?_))
        by_cases e : p = i
        · rw [e, pk_uLs, tm_b_0, tm_M_hi (by have := tm_N_part h1 h3; omega)]
        · rw [pk_uLn e]
          exact hI p (by omega) b hb
      · refine tm_w_lay h3 z (fun s8 s9 s10 hlay => tm_w_here hp c hlay (fun r dp' s11 s12 hr => ⟨pk_in i 64 z, nm_r (by rw [nI_clamp (by omega)]) (nm_r (nI_1 i) (ih (i + 1) (nI d) dp' (vp_updL (vp_updL a6 i 0) i r) s8 s9 s10 s11 s12 (by omega) (by omega) (fun p hp' b hb => ?_)))⟩))
        by_cases e : p = i
        · rw [e, pk_uLs]
          exact hr b hb
        · rw [pk_uLn e, pk_uLn e]
          exact hI p (by omega) b hb
  refine br_c (fun _ => ?_) (fun c => ?_)
  · exact ⟨65, main 65 0 sz dp a6 a8 a9 a10 a11 a12 (by omega) (by omega) (fun p hp' => absurd hp' (by omega))⟩
  · rcases hk with e | e
    · exact absurd e c
    · exact H kn sz dp a6 a8 a9 a10 a11 a12 e
theorem tm_cnt_blk {f : Nat → Bool} {r : Int64} {i : Nat} (h : ∀ b, b < 64 → tm_b r b = f (64 * i + b)) : tm_cnt f (64 * i) + tm_pc r = tm_cnt f (64 * (i + 1)) := by
  have e : tm_cnt f (64 * i + 64) = tm_cnt f (64 * i) + tm_cnt (fun b => f (64 * i + b)) 64 := tm_sum_app (fun j => (f j).toNat) (64 * i) 64
  have e2 : tm_pc r = tm_cnt (fun b => f (64 * i + b)) 64 := tm_cnt_congr h
  rw [Nat.mul_add, Nat.mul_one, e, e2]
theorem tm_w_models {post : Int32 → St1 → Prop} {d x : Nat} (hp : tm_pic d x a1 a2 a5) (hk : kn = 0 ∨ tm_mb d x a1 a2 a5 a6)
    (H : ∀ kn sz dp a6 a8 a9 a10 a11 a12, tm_mb d x a1 a2 a5 a6 → post (nI (tm_cnt (tm_M d a1 a2 a5 x) 4096)) (hh, (nI x), (nI d), kn, sz, dp, a1, a2, a3, a4, a5, a6, a7, a8, a9, a10, a11, a12, a13)) : wpX_models post (hh, (nI x), (nI d), kn, sz, dp, a1, a2, a3, a4, a5, a6, a7, a8, a9, a10, a11, a12, a13) := by
  refine tm_w_find hp hk (fun kn sz dp a6 a8 a9 a10 a11 a12 hm => ?_)
  refine pk_loop (fun n i c => wX_models_8 post hh (nI x) (nI d) kn sz dp a1 a2 a3 a4 a5 a6 a7 a8 a9 a10 a11 a12 a13 n c (nI i)) (fun i c => c = nI (tm_cnt (tm_M d a1 a2 a5 x) (64 * i))) 64 0 0 (by omega) rfl ?_ ?_
  · intro n c hI
    refine pk_le 64 64 (fun _ => ?_) (fun z => absurd z (by omega))
    rw [hI]
    exact H kn sz dp a6 a8 a9 a10 a11 a12 hm
  · intro n i c hi hI hw
    refine pk_le 64 i (fun z => absurd z (by omega)) (fun _ => ⟨pk_in i 64 hi, tm_w_ones (nm_r (e' := nI (tm_cnt (tm_M d a1 a2 a5 x) (64 * (i + 1)))) ?_ (nm_r (nI_1 i) (hw _ rfl)))⟩)
    rw [hI, nI_add, nI_clamp (by omega), tm_cnt_blk (hm i hi)]
theorem tm_w_vtop {post : Int64 → St1 → Prop} {d p s n : Nat} (h1 : 1 ≤ d) (h3 : d < 4) (ht : tm_top hh a1 a2 a3 a4 s n) (hl : tm_lay d p a8 a9 a10)
    (H : ∀ r dp a11 a12, (∀ b, b < 64 → tm_b r b = tm_val d (64 * p + b) a1 a2 s n) → post r (hh, ax, el, kn, (nI d), dp, a1, a2, a3, a4, a5, a6, a7, a8, a9, a10, a11, a12, a13)) : wpX_validTop post (hh, ax, el, kn, (nI d), dp, a1, a2, a3, a4, a5, a6, a7, a8, a9, a10, a11, a12, a13) := by
  obtain ⟨t, t6, rfl, e3, e4, hf, hs⟩ := ht
  have q : nI (t + 1) - 1 = nI t := nI_pred t
  refine ⟨pk_in t 6 t6 q, pk_in t 6 t6 q, ?_⟩
  rw [q, nI_clamp (by omega), e3, e4]
  refine tm_w_work h1 h3 hf hs hl (fun D s11 s12 hT => ?_)
  refine tm_w_vones (V := fun b l => tm_run d (64 * p + b) a1 a2 s n 0 l) h3 hT (fun r hr => H r D s11 s12 (fun b hb => ?_))
  rw [Bool.eq_iff_iff, tm_val_iff, hr b hb]
theorem tm_cnt_ext {f : Nat → Bool} {n : Nat} : ∀ k, (∀ i, n ≤ i → f i = false) → tm_cnt f (n + k) = tm_cnt f n
  | 0, _ => rfl
  | k + 1, h => by
    show tm_cnt f (n + k) + (f (n + k)).toNat = tm_cnt f n
    rw [tm_cnt_ext k h, h (n + k) (by omega)]
    rfl
theorem tm_w_agree {post : Int32 → St1 → Prop} {d x s n : Nat} (hp : tm_pic d x a1 a2 a5) (hk : kn = 0 ∨ tm_mb d x a1 a2 a5 a6) (ht : tm_top hh a1 a2 a3 a4 s n)
    (H : ∀ kn sz dp a6 a8 a9 a10 a11 a12, tm_mb d x a1 a2 a5 a6 → post (nI (tm_cnt (fun m => tm_M d a1 a2 a5 x m && tm_val d m a1 a2 s n) 4096)) (hh, (nI x), (nI d), kn, sz, dp, a1, a2, a3, a4, a5, a6, a7, a8, a9, a10, a11, a12, a13)) : wpX_agreeing post (hh, (nI x), (nI d), kn, sz, dp, a1, a2, a3, a4, a5, a6, a7, a8, a9, a10, a11, a12, a13) := by
  have h1 := hp.1
  have h3 := hp.2.1
  have hN := tm_N_part h1 h3
  have hP := tm_parts_le d
  have hh0 : ¬ hh = 0 := by
    obtain ⟨t, t6, rfl, _⟩ := ht
    exact nI_ne0 (by omega) (by omega)
  refine br_f hh0 (tm_w_find hp hk (fun kn sz dp a6 a8 a9 a10 a11 a12 hm => ?_))
  have main : ∀ k i sz dp a8 a9 a10 a11 a12, i ≤ tm_parts d → tm_parts d - i < k → wX_agreeing_17 post k (nI (tm_cnt (fun m => tm_M d a1 a2 a5 x m && tm_val d m a1 a2 s n) (64 * i))) (nI i) hh (nI x) (nI d) kn sz dp a1 a2 a3 a4 a5 a6 a7 a8 a9 a10 a11 a12 a13 := by
    intro k
    induction k with
    | zero => intro i sz dp a8 a9 a10 a11 a12 _ hn; omega
    | succ k ih =>
      intro i sz dp a8 a9 a10 a11 a12 hi hn
      have hs : ∀ r : Int64, (∀ b, b < 64 → tm_b r b = (tm_b (a6 i) b && tm_val d (64 * i + b) a1 a2 s n)) → i < 64 → tm_cnt (fun m => tm_M d a1 a2 a5 x m && tm_val d m a1 a2 s n) (64 * i) + tm_pc r = tm_cnt (fun m => tm_M d a1 a2 a5 x m && tm_val d m a1 a2 s n) (64 * (i + 1)) := by
        intro r hr hi6
        exact tm_cnt_blk (f := fun m => tm_M d a1 a2 a5 x m && tm_val d m a1 a2 s n) (fun b hb => by rw [hr b hb, hm i hi6 b hb])
      unfold wX_agreeing_17
      refine tm_w_parts h3 ?_
      refine pk_le (tm_parts d) i (fun z => ?_) (fun z => ⟨pk_in i 64 (by omega), ?_⟩)
      · obtain rfl : i = tm_parts d := by omega
        have e := tm_cnt_ext (f := fun m => tm_M d a1 a2 a5 x m && tm_val d m a1 a2 s n) (n := 64 * tm_parts d) (4096 - 64 * tm_parts d) (fun m hm => by rw [tm_M_hi (by omega), Bool.false_and])
        rw [show 64 * tm_parts d + (4096 - 64 * tm_parts d) = 4096 by omega] at e
        rw [← e]
        exact H kn sz dp a6 a8 a9 a10 a11 a12 hm
      · rw [nI_clamp (show i < 2 ^ 31 by omega)]
        refine br_c (fun e => nm_r (nI_1 i) ?_) (fun e => ?_)
        · have q := hs 0 (fun b hb => by rw [e, tm_b_0, Bool.false_and]) (by omega)
          rw [tm_pc0, Nat.add_zero] at q
          rw [q]
          exact ih (i + 1) sz dp a8 a9 a10 a11 a12 (by omega) (by omega)
        · refine tm_w_lay h3 (by omega) (fun s8 s9 s10 hlay => ⟨pk_in i 64 (by omega), tm_w_vtop h1 h3 ht hlay (fun r dp' s11 s12 hr => nm_e (tm_w_ones (nm_r (e' := nI (tm_cnt (fun m => tm_M d a1 a2 a5 x m && tm_val d m a1 a2 s n) (64 * (i + 1)))) ?_ (nm_r (nI_1 i) (ih (i + 1) (nI d) dp' s8 s9 s10 s11 s12 (by omega) (by omega))))))⟩)
          rw [nI_add, hs (a6 i &&& r) (fun b hb => by rw [tm_b_and, hr b hb]) (by omega)]
  exact ⟨tm_parts d + 1, main (tm_parts d + 1) 0 sz dp a8 a9 a10 a11 a12 (by omega) (by omega)⟩
theorem tm_w_follows {post : Int32 → St1 → Prop} {d x s n : Nat} (hp : tm_pic d x a1 a2 a5) (hk : kn = 0 ∨ tm_mb d x a1 a2 a5 a6) (ht : tm_top hh a1 a2 a3 a4 s n)
    (H1 : tm_cnt (tm_M d a1 a2 a5 x) 4096 = tm_cnt (fun m => tm_M d a1 a2 a5 x m && tm_val d m a1 a2 s n) 4096 → ∀ kn sz dp a6 a8 a9 a10 a11 a12, tm_mb d x a1 a2 a5 a6 → post 1 (hh, (nI x), (nI d), kn, sz, dp, a1, a2, a3, a4, a5, a6, a7, a8, a9, a10, a11, a12, a13))
    (H0 : tm_cnt (tm_M d a1 a2 a5 x) 4096 ≠ tm_cnt (fun m => tm_M d a1 a2 a5 x m && tm_val d m a1 a2 s n) 4096 → ∀ kn sz dp a6 a8 a9 a10 a11 a12, tm_mb d x a1 a2 a5 a6 → post 0 (hh, (nI x), (nI d), kn, sz, dp, a1, a2, a3, a4, a5, a6, a7, a8, a9, a10, a11, a12, a13)) : wpX_follows post (hh, (nI x), (nI d), kn, sz, dp, a1, a2, a3, a4, a5, a6, a7, a8, a9, a10, a11, a12, a13) := by
  have hh0 : ¬ hh = 0 := by
    obtain ⟨t, t6, rfl, _⟩ := ht
    exact nI_ne0 (by omega) (by omega)
  have l1 := tm_cnt_le (tm_M d a1 a2 a5 x) 4096
  have l2 := tm_cnt_le (fun m => tm_M d a1 a2 a5 x m && tm_val d m a1 a2 s n) 4096
  refine br_f hh0 (tm_w_models hp hk (fun kn sz dp a6 a8 a9 a10 a11 a12 hm => tm_w_agree hp (Or.inr hm) ht (fun kn sz dp a6 a8 a9 a10 a11 a12 hm => ?_)))
  exact pk_eq _ _ (fun e => H1 e kn sz dp a6 a8 a9 a10 a11 a12 hm) (fun e => H0 e kn sz dp a6 a8 a9 a10 a11 a12 hm)
end
end
section
section
variable {hh ax el kn sz dp : Int32} {a1 a2 a3 a4 a5 a7 : Nat → Int32} {a6 a8 a9 a10 a11 a12 a13 : Nat → Int64}
theorem tm_s6 {n : Nat} (h : n < 2 ^ 31) : nI n >>> ((6 : Int32) &&& 31) = nI (n / 64) := pk_shrN h _ 6 (by decide)
theorem tm_w_low {post : Int32 → Prop} {x : Int64} (hx : ¬ x = 0) (H : ∀ k, k < 64 → tm_b x k = true → (∀ j, j < k → tm_b x j = false) → post (nI k)) : wpX_lowest post () x := by
  obtain ⟨k, ⟨hk, hkt⟩, hmin⟩ := pk_least (fun k => k < 64 ∧ tm_b x k = true) (tm_b_nz hx)
  have hmin' : ∀ j, j < k → tm_b x j = false := by
    intro j hj
    cases e : tm_b x j
    · rfl
    · exact absurd ⟨by omega, e⟩ (hmin j hj)
  refine pk_loop (σ := Unit) (fun n i _ => wX_lowest_2 post x n (nI i)) (fun _ _ => True) k 0 () (by omega) trivial ?_ ?_
  · intro n _ _
    refine pk_le 64 k (fun z => absurd z (by omega)) (fun _ => br_t ?_ (H k hk hkt hmin'))
    rw [tm_bit1 x hk, hkt]
    rfl
  · intro n i _ hi _ hw
    refine pk_le 64 i (fun z => absurd z (by omega)) (fun _ => br_f ?_ (nm_r (nI_1 i) (hw () trivial)))
    rw [tm_bit1 x (by omega), hmin' i hi]
    decide
theorem tm_next_core {post : Int32 → St1 → Prop} {d x fr : Nat} (hp : tm_pic d x a1 a2 a5) (hm : tm_mb d x a1 a2 a5 a6) (hfr : fr < 4096)
    (H1 : ∀ m, fr ≤ m → tm_M d a1 a2 a5 x m = true → (∀ j, fr ≤ j → j < m → tm_M d a1 a2 a5 x j = false) → post (nI m) (hh, (nI x), (nI d), kn, sz, dp, a1, a2, a3, a4, a5, a6, a7, a8, a9, a10, a11, a12, a13))
    (H2 : (∀ j, fr ≤ j → tm_M d a1 a2 a5 x j = false) → post (-2) (hh, (nI x), (nI d), kn, sz, dp, a1, a2, a3, a4, a5, a6, a7, a8, a9, a10, a11, a12, a13)) :
    ∃ fu, wX_next_34 post (nI fr) hh (nI x) (nI d) kn sz dp a1 a2 a3 a4 a5 a6 a7 a8 a9 a10 a11 a12 a13 fu (nI (fr / 64)) := by
  have h3 := hp.2.1
  have hN := tm_N_le (d := d) (by omega)
  refine pk_loop (σ := Unit) (fun n i _ => wX_next_34 post (nI fr) hh (nI x) (nI d) kn sz dp a1 a2 a3 a4 a5 a6 a7 a8 a9 a10 a11 a12 a13 n (nI i)) (fun i _ => fr / 64 ≤ i ∧ ∀ j, fr ≤ j → j < 64 * i → tm_M d a1 a2 a5 x j = false) 64 (fr / 64) () (by omega) ⟨Nat.le_refl _, fun j h1 h2 => by omega⟩ ?_ ?_
  · rintro n _ ⟨_, hI⟩
    refine pk_le 64 64 (fun _ => H2 (fun j hj => ?_)) (fun z => absurd z (by omega))
    by_cases c : j < 64 * 64
    · exact hI j hj c
    · exact tm_M_hi (by omega)
  · rintro n i _ hi ⟨h64, hI⟩ hw
    have fin : ∀ here : Int64, (∀ b, b < 64 → tm_b here b = (decide (fr ≤ 64 * i + b) && tm_M d a1 a2 a5 x (64 * i + b))) → wX_next_70 post (wX_next_34 post (nI fr) hh (nI x) (nI d) kn sz dp a1 a2 a3 a4 a5 a6 a7 a8 a9 a10 a11 a12 a13 n) (nI fr) (nI i) here hh (nI x) (nI d) kn sz dp a1 a2 a3 a4 a5 a6 a7 a8 a9 a10 a11 a12 a13 := by
      intro here hh'
      refine br_c (fun e => nm_r (nI_1 i) (hw () ⟨by omega, fun j hj hj2 => ?_⟩)) (fun e => tm_w_low e (fun k hk hkt hmin => ?_))
      · by_cases c : j < 64 * i
        · exact hI j hj c
        · have t := hh' (j - 64 * i) (by omega)
          rw [e, tm_b_0, show 64 * i + (j - 64 * i) = j by omega, decide_eq_true hj, Bool.true_and] at t
          exact t.symm
      · have q : (64 : Int32) * nI i + nI k = nI (64 * i + k) := by
          show nI 64 * nI i + nI k = _
          rw [pk_mul, nI_add]
        rw [q]
        have t := hh' k hk
        rw [hkt] at t
        have t' := t.symm
        rw [Bool.and_eq_true, decide_eq_true_eq] at t'
        refine H1 (64 * i + k) t'.1 t'.2 (fun j hj hj2 => ?_)
        by_cases c : j < 64 * i
        · exact hI j hj c
        · have t := hh' (j - 64 * i) (by omega)
          rw [hmin _ (by omega), show 64 * i + (j - 64 * i) = j by omega, decide_eq_true hj, Bool.true_and] at t
          exact t.symm
    refine pk_le 64 i (fun z => absurd z (by omega)) (fun _ => ⟨pk_in i 64 hi, nm_r (by rw [nI_clamp (by omega)]) (pk_eq i (fr / 64) (fun e => nm_e (fin _ (fun b hb => ?_))) (fun e => fin _ (fun b hb => ?_)) rfl (tm_s6 (by omega)))⟩)
    · rw [tm_mask _ fr (by omega) hb, hm i hi b hb]
      congr 1
      rw [decide_eq_decide]
      omega
    · rw [hm i hi b hb, decide_eq_true (by omega), Bool.true_and]
theorem tm_w_next {post : Int32 → St1 → Prop} {d x : Nat} {y : Int32} {fr : Nat} (hp : tm_pic d x a1 a2 a5) (hk : kn = 0 ∨ tm_mb d x a1 a2 a5 a6) (hy : (y = -1 ∧ fr = 0) ∨ ∃ a, y = nI a ∧ a < tm_N d ∧ fr = a + 1)
    (H1 : ∀ m, fr ≤ m → tm_M d a1 a2 a5 x m = true → (∀ j, fr ≤ j → j < m → tm_M d a1 a2 a5 x j = false) → ∀ kn sz dp a6 a8 a9 a10 a11 a12, tm_mb d x a1 a2 a5 a6 → post (nI m) (hh, (nI x), (nI d), kn, sz, dp, a1, a2, a3, a4, a5, a6, a7, a8, a9, a10, a11, a12, a13))
    (H2 : (∀ j, fr ≤ j → tm_M d a1 a2 a5 x j = false) → ∀ kn sz dp a6 a8 a9 a10 a11 a12, tm_mb d x a1 a2 a5 a6 → post (-2) (hh, (nI x), (nI d), kn, sz, dp, a1, a2, a3, a4, a5, a6, a7, a8, a9, a10, a11, a12, a13)) : wpX_next post (hh, (nI x), (nI d), kn, sz, dp, a1, a2, a3, a4, a5, a6, a7, a8, a9, a10, a11, a12, a13) y := by
  have h3 := hp.2.1
  have hN := tm_N_le (d := d) (by omega)
  have hN0 := tm_N_pos d
  have q : nI (tm_N d) - 1 = nI (tm_N d - 1) := pk_sub (b := 1) (by omega)
  refine tm_w_find hp hk (fun kn sz dp a6 a8 a9 a10 a11 a12 hm => tm_w_interp h3 ?_)
  rcases hy with ⟨rfl, rfl⟩ | ⟨a, rfl, ha, rfl⟩
  · refine br_t ?_ (br_f (by decide) (nm_r (tm_s6 (n := 0) (by omega)) (tm_next_core (fr := 0) hp hm (by decide) (fun m h1 h2 h4 => H1 m h1 h2 h4 kn sz dp a6 a8 a9 a10 a11 a12 hm) (fun h => H2 h kn sz dp a6 a8 a9 a10 a11 a12 hm))))
    rw [q, Int32.lt_iff_toInt_lt, nI_toInt (by omega), show (-1 : Int32).toInt = -1 from by decide]
    omega
  · refine pk_lt a (tm_N d - 1) (fun c => br_t (nI_pos' (by omega)) (nm_r (nI_1 a) (nm_r (tm_s6 (by omega)) (tm_next_core hp hm (by omega) (fun m h1 h2 h4 => H1 m h1 h2 h4 kn sz dp a6 a8 a9 a10 a11 a12 hm) (fun h => H2 h kn sz dp a6 a8 a9 a10 a11 a12 hm))))) (fun c => H2 (fun j hj => tm_M_hi (by omega)) kn sz dp a6 a8 a9 a10 a11 a12 hm) rfl q
theorem tm_w_lists {post : Int32 → St1 → Prop} {d m s n : Nat} (h1 : 1 ≤ d) (h3 : d < 4) (hm : m < tm_N d) (ht : tm_top hh a1 a2 a3 a4 s n)
    (H : ∀ sz dp a8 a9 a10 a11 a12, post (nI (tm_cnt (fun l => tm_is d l && tm_run d m a1 a2 s n 0 l) 27)) (hh, ax, (nI d), kn, sz, dp, a1, a2, a3, a4, a5, a6, a7, a8, a9, a10, a11, a12, a13)) : wpX_lists post (hh, ax, (nI d), kn, sz, dp, a1, a2, a3, a4, a5, a6, a7, a8, a9, a10, a11, a12, a13) (nI m) := by
  have hN := tm_N_le (d := d) (by omega)
  obtain ⟨t, t6, rfl, e3, e4, hf, hs⟩ := ht
  refine br_f (nI_ne0 (by omega) (by omega)) (tm_w_isnum h3 hm (br_f (by decide) ?_))
  rw [tm_s6 (by omega)]
  have q : nI (t + 1) - 1 = nI t := nI_pred t
  refine tm_w_lay h3 (by omega) (fun s8 s9 s10 hlay => ⟨pk_in t 6 t6 q, pk_in t 6 t6 q, ?_⟩)
  rw [q, nI_clamp (by omega), e3, e4]
  refine tm_w_work h1 h3 hf hs hlay (fun D s11 s12 hT => ?_)
  refine pk_loop (fun n' i c => wX_lists_59 post (nI m) (nI (t + 1)) ax (nI d) kn (nI d) D a1 a2 a3 a4 a5 a6 a7 s8 s9 s10 s11 s12 a13 n' c (nI i)) (fun i c => c = nI (tm_cnt (fun l => tm_is d l && tm_run d m a1 a2 s n 0 l) i)) 27 0 0 (by omega) rfl ?_ ?_
  · intro n' c hc
    refine pk_le 27 27 (fun _ => ?_) (fun z => absurd z (by omega))
    rw [hc]
    exact H (nI d) D s8 s9 s10 s11 s12
  · intro n' i c hi hc hw
    refine pk_le 27 i (fun z => absurd z (by omega)) (fun _ => tm_w_isl h3 hi (fun hli => br_t rfl (nm_r (nI_1 i) (hw c ?_))) (fun hli => br_f (by decide) ⟨pk_in i 378 (by omega), nm_e (nm_r (nI_1 i) (hw _ ?_))⟩))
    · rw [hc, tm_cnt_s, hli]
      rfl
    · have e : tm_b (s11 i) (m % 64) = tm_run d m a1 a2 s n 0 i := by
        rw [hT i hi hli (m % 64) (Nat.mod_lt _ (by decide)), Nat.div_add_mod]
      rw [hc, nI_clamp (by omega), tm_bit2 _ m (by omega), nI_add, tm_cnt_s, hli, e]
      rfl
theorem tm_cnt_zero {f : Nat → Bool} {n : Nat} : tm_cnt f n = 0 ↔ ∀ i, i < n → f i = false := by
  constructor
  · intro h
    induction n with
    | zero => intro i hi; omega
    | succ n ih =>
      rw [tm_cnt_s] at h
      intro i hi
      by_cases e : i = n
      · rw [e]
        cases c : f n
        · rfl
        · rw [c] at h
          exact absurd h (by show ¬ tm_cnt f n + 1 = 0; omega)
      · exact ih (by omega) i (by omega)
  · intro h
    exact tm_sum_z (fun i hi => by rw [h i hi]; rfl)
theorem tm_is_cnt : ∀ d, d < 4 → tm_cnt (tm_is d) 27 = d * d * d := by decide +kernel
/-- all lists: the formula is valid -/
theorem tm_full {d m s n : Nat} (h3 : d < 4) : d * d * d ≤ tm_cnt (fun l => tm_is d l && tm_run d m a1 a2 s n 0 l) 27 ↔ tm_val d m a1 a2 s n = true := by
  have c := tm_cnt_split (tm_is d) (fun l => tm_run d m a1 a2 s n 0 l) 27
  rw [tm_is_cnt d h3] at c
  rw [tm_val_iff]
  constructor
  · intro h l hl hi
    have z : tm_cnt (fun i => tm_is d i && !tm_run d m a1 a2 s n 0 i) 27 = 0 := by omega
    have t := tm_cnt_zero.mp z l hl
    rw [hi, Bool.true_and] at t
    cases e : tm_run d m a1 a2 s n 0 l
    · rw [e] at t
      exact absurd t (by decide)
    · rfl
  · intro h
    have z : tm_cnt (fun i => tm_is d i && !tm_run d m a1 a2 s n 0 i) 27 = 0 := by
      refine tm_cnt_zero.mpr (fun l hl => ?_)
      cases e : tm_is d l
      · rfl
      · rw [h l hl e]
        rfl
    omega
theorem tm_w_ism {post : Int32 → St1 → Prop} {d x m : Nat} (hp : tm_pic d x a1 a2 a5) (hk : kn = 0 ∨ tm_mb d x a1 a2 a5 a6) (hm : m < tm_N d)
    (H : ∀ kn sz dp a6 a8 a9 a10 a11 a12, tm_mb d x a1 a2 a5 a6 → post (nI (tm_M d a1 a2 a5 x m).toNat) (hh, (nI x), (nI d), kn, sz, dp, a1, a2, a3, a4, a5, a6, a7, a8, a9, a10, a11, a12, a13)) : wpX_isModel post (hh, (nI x), (nI d), kn, sz, dp, a1, a2, a3, a4, a5, a6, a7, a8, a9, a10, a11, a12, a13) (nI m) := by
  have h3 := hp.2.1
  have hN := tm_N_le (d := d) (by omega)
  unfold wpX_isModel
  refine tm_w_isnum h3 hm ?_
  refine br_f (by decide) (tm_w_find hp hk (fun kn sz dp a6 a8 a9 a10 a11 a12 hb => ⟨pk_in (m / 64) 64 (by omega) (tm_s6 (by omega)), ?_⟩))
  rw [tm_s6 (by omega), nI_clamp (by omega), tm_bit2 _ m (by omega), hb (m / 64) (by omega) (m % 64) (Nat.mod_lt _ (by decide)), Nat.div_add_mod]
  exact H kn sz dp a6 a8 a9 a10 a11 a12 hb
end
end
section
/-- the array of the maps -/
def tm_im (a7 : Nat → Int32) : Prop := ∀ p, p < 6 → ∀ e, e < 3 → a7 (3 * p + e) = nI (tm_img p e)
theorem tm_pic_frm {d x : Nat} {a1 a2 a5 : Nat → Int32} (hp : tm_pic d x a1 a2 a5) : ∀ i, i < x → tm_frm a1 a2 (144 + 24 * i) (a5 i).toNatClampNeg := by
  intro i hi
  obtain ⟨n, e, hf⟩ := hp.2.2.2 i hi
  have h24 := hf.2.1
  rw [e, nI_clamp (by omega)]
  exact hf
theorem tm_bt12 (b : Bool) {k : Nat} (hk : k < 12) : b.toNat * 2 ^ k < 2 ^ 12 := by
  have h : 2 ^ k < 2 ^ 12 := Nat.pow_lt_pow_right (by decide) hk
  cases b
  · show 0 * 2 ^ k < 2 ^ 12
    rw [Nat.zero_mul]
    decide
  · show 1 * 2 ^ k < 2 ^ 12
    rw [Nat.one_mul]
    exact h
/-- the weight of an interpretation: models count by the maps that keep them -/
def tm_w (d x : Nat) (a1 a2 a5 : Nat → Int32) (m : Nat) : Nat := (tm_M d a1 a2 a5 x m).toNat * tm_stab d m
theorem tm_w_le (d x : Nat) (a1 a2 a5 : Nat → Int32) (n : Nat) : tm_sum (tm_w d x a1 a2 a5) n ≤ 6 * n := by
  refine tm_sum_le (fun i _ => ?_)
  have h := tm_stab_le d i
  unfold tm_w
  cases tm_M d a1 a2 a5 x i
  · show 0 * _ ≤ 6
    omega
  · show 1 * _ ≤ 6
    omega
theorem tm_sum_gap {g : Nat → Nat} {a b : Nat} (hab : a ≤ b) (h : ∀ j, a ≤ j → j < b → g j = 0) : tm_sum g b = tm_sum g a := by
  obtain ⟨k, rfl⟩ : ∃ k, b = a + k := ⟨b - a, by omega⟩
  rw [tm_sum_app, tm_sum_z (fun i hi => h (a + i) (by omega) (by omega)), Nat.add_zero]
section
variable {hh ax el kn sz dp : Int32} {a1 a2 a3 a4 a5 a7 : Nat → Int32} {a6 a8 a9 a10 a11 a12 a13 : Nat → Int64}
theorem tm_w_maps {post : Int32 → Prop} {d : Nat} (h3 : d < 4) (H : post (nI (tm_maps d))) : wpX_mapsOf post () (nI d) := by
  unfold tm_maps at H
  refine pk_eq d 1 (fun e => ?_) (fun e => pk_eq d 2 (fun e2 => ?_) (fun e2 => ?_))
  · rw [if_pos e] at H
    exact H
  · rw [if_neg e, if_pos e2] at H
    exact H
  · rw [if_neg e, if_neg e2] at H
    exact H
theorem tm_xb (u v : Int64) {b : Nat} (hb : b < 64) : tm_b ((u ^^^ v) ^^^ (-1)) b = true ↔ tm_b v b = tm_b u b := by
  rw [tm_b_not _ hb, tm_b_xor]
  cases tm_b u b <;> cases tm_b v b <;> decide
theorem tm_w_still {post : Int64 → Prop} {d p q : Nat} (h3 : d < 4) (hq : q < tm_maps d) (h7 : tm_im a7) (hl : tm_lay d p a8 a9 a10)
    (H : ∀ r, (∀ b, b < 64 → (tm_b r b = true ↔ ∀ e, e < d → ((64 * p + b).testBit (tm_img q e) = (64 * p + b).testBit e ∧ ∀ f, f < d → tm_R d (64 * p + b) (tm_img q e) (tm_img q f) = tm_R d (64 * p + b) e f))) → post r) : wpX_stillUnder post (hh, ax, el, kn, (nI d), dp, a1, a2, a3, a4, a5, a6, a7, a8, a9, a10, a11, a12, a13) (nI q) := by
  have hq6 : q < 6 := Nat.lt_of_lt_of_le hq (tm_maps_le d)
  obtain ⟨l1, l2, _⟩ := hl
  refine pk_loop (fun n i y => wX_stillUnder_7 post (nI q) hh ax el kn (nI d) dp a1 a2 a3 a4 a5 a6 a7 a8 a9 a10 a11 a12 a13 n y (nI i)) (fun i y => ∀ b, b < 64 → (tm_b y b = true ↔ ∀ e, e < i → ((64 * p + b).testBit (tm_img q e) = (64 * p + b).testBit e ∧ ∀ f, f < d → tm_R d (64 * p + b) (tm_img q e) (tm_img q f) = tm_R d (64 * p + b) e f))) d 0 (-1) (by omega) ?_ ?_ ?_
  · intro b hb
    rw [tm_b_m1 hb]
    exact ⟨fun _ e he => absurd he (by omega), fun _ => rfl⟩
  · intro n y hI
    exact pk_le d d (fun _ => H y hI) (fun z => absurd z (by omega))
  · intro n i y hi hI hw
    have hgi := tm_img_lt d h3 q hq i hi
    have q1 : (3 : Int32) * nI q + nI i = nI (3 * q + i) := tm_3 q i
    have e7 : a7 ((3 : Int32) * nI q + nI i).toNatClampNeg = nI (tm_img q i) := by
      rw [q1, nI_clamp (by omega)]
      exact h7 q hq6 i (by omega)
    refine pk_le d i (fun z => absurd z (by omega)) (fun _ => ⟨pk_in (3 * q + i) 18 (by omega) q1, nm_r e7 ⟨pk_in i 3 (by omega), pk_in (tm_img q i) 3 (by omega), nm_r (by rw [nI_clamp (by omega), nI_clamp (by omega)]) ?_⟩⟩)
    refine pk_loop (fun n' j t => wX_stillUnder_54 post (wX_stillUnder_7 post (nI q) hh ax el kn (nI d) dp a1 a2 a3 a4 a5 a6 a7 a8 a9 a10 a11 a12 a13 n) (nI q) (nI i) (nI (tm_img q i)) hh ax el kn (nI d) dp a1 a2 a3 a4 a5 a6 a7 a8 a9 a10 a11 a12 a13 n' t (nI j)) (fun j t => ∀ b, b < 64 → (tm_b t b = true ↔ ((∀ e, e < i → ((64 * p + b).testBit (tm_img q e) = (64 * p + b).testBit e ∧ ∀ f, f < d → tm_R d (64 * p + b) (tm_img q e) (tm_img q f) = tm_R d (64 * p + b) e f)) ∧ (64 * p + b).testBit (tm_img q i) = (64 * p + b).testBit i) ∧ ∀ f, f < j → tm_R d (64 * p + b) (tm_img q i) (tm_img q f) = tm_R d (64 * p + b) i f)) d 0 (y &&& ((a8 i ^^^ a8 (tm_img q i)) ^^^ (-1))) (by omega) ?_ ?_ ?_
    · intro b hb
      rw [tm_b_and, Bool.and_eq_true, hI b hb, tm_xb _ _ hb, l1 _ hgi b hb, l1 i hi b hb]
      exact ⟨fun h => ⟨h, fun f hf => absurd hf (by omega)⟩, fun h => h.1⟩
    · intro n' t ht
      refine pk_le d d (fun _ => nm_r (nI_1 i) (hw t (fun b hb => ?_))) (fun z => absurd z (by omega))
      rw [ht b hb]
      constructor
      · rintro ⟨⟨c1, c2⟩, c3⟩ e he
        by_cases c : e = i
        · rw [c]
          exact ⟨c2, c3⟩
        · exact c1 e (by omega)
      · intro h
        exact ⟨⟨fun e he => h e (by omega), (h i (by omega)).1⟩, (h i (by omega)).2⟩
    · intro n' j t hj ht hw'
      have hgj := tm_img_lt d h3 q hq j hj
      have q2 : (3 : Int32) * nI i + nI j = nI (3 * i + j) := tm_3 i j
      have q3 : (3 : Int32) * nI q + nI j = nI (3 * q + j) := tm_3 q j
      have e8 : a7 ((3 : Int32) * nI q + nI j).toNatClampNeg = nI (tm_img q j) := by
        rw [q3, nI_clamp (by omega)]
        exact h7 q hq6 j (by omega)
      have q4 : (3 : Int32) * nI (tm_img q i) + a7 ((3 : Int32) * nI q + nI j).toNatClampNeg = nI (3 * tm_img q i + tm_img q j) := by rw [e8, tm_3]
      refine pk_le d j (fun z => absurd z (by omega)) (fun _ => ⟨pk_in (3 * i + j) 9 (by omega) q2, pk_in (3 * q + j) 18 (by omega) q3, pk_in (3 * tm_img q i + tm_img q j) 9 (by omega) q4, nm_r (by rw [q2, q4, nI_clamp (by omega), nI_clamp (by omega)]) (nm_r (nI_1 j) (hw' _ (fun b hb => ?_)))⟩)
      rw [tm_b_and, Bool.and_eq_true, ht b hb, tm_xb _ _ hb, l2 i j hi hj b hb, l2 _ _ hgi hgj b hb]
      constructor
      · rintro ⟨⟨c1, c2⟩, c3⟩
        refine ⟨c1, fun f hf => ?_⟩
        by_cases c : f = j
        · rw [c]
          exact c3
        · exact c2 f (by omega)
      · rintro ⟨c1, c2⟩
        exact ⟨⟨c1, fun f hf => c2 f (by omega)⟩, c2 j (by omega)⟩
theorem tm_w_fixed {post : Int32 → Prop} {d x p : Nat} {y : Int64} (h3 : d < 4) (hy : ∀ b, b < 64 → tm_b y b = tm_M d a1 a2 a5 x (64 * p + b)) (h7 : tm_im a7) (hl : tm_lay d p a8 a9 a10)
    (H : post (nI (tm_sum (fun b => tm_w d x a1 a2 a5 (64 * p + b)) 64))) : wpX_fixedHere post (hh, ax, el, kn, (nI d), dp, a1, a2, a3, a4, a5, a6, a7, a8, a9, a10, a11, a12, a13) (nI (tm_maps d)) y := by
  have hM6 := tm_maps_le d
  have fin : tm_sum (fun b => tm_w d x a1 a2 a5 (64 * p + b)) 64 = tm_sum (fun q => tm_cnt (fun b => tm_M d a1 a2 a5 x (64 * p + b) && decide (tm_act d q (64 * p + b) = 64 * p + b)) 64) (tm_maps d) := by
    have sw := tm_sum_swap (fun q b => (tm_M d a1 a2 a5 x (64 * p + b) && decide (tm_act d q (64 * p + b) = 64 * p + b)).toNat) 64 (tm_maps d)
    refine Eq.trans ?_ sw.symm
    refine tm_sum_congr (fun b _ => ?_)
    unfold tm_w tm_stab
    cases tm_M d a1 a2 a5 x (64 * p + b)
    · exact (Nat.zero_mul _).trans (tm_sum_z (fun q _ => rfl)).symm
    · show 1 * _ = _
      rw [Nat.one_mul]
      exact tm_sum_congr (fun q _ => by rw [Bool.true_and])
  refine pk_loop (fun n i c => wX_fixedHere_6 post (nI (tm_maps d)) y hh ax el kn (nI d) dp a1 a2 a3 a4 a5 a6 a7 a8 a9 a10 a11 a12 a13 n c (nI i)) (fun i c => c = nI (tm_sum (fun q => tm_cnt (fun b => tm_M d a1 a2 a5 x (64 * p + b) && decide (tm_act d q (64 * p + b) = 64 * p + b)) 64) i)) (tm_maps d) 0 0 (by omega) rfl ?_ ?_
  · intro n c hc
    refine pk_le (tm_maps d) (tm_maps d) (fun _ => ?_) (fun z => absurd z (by omega))
    rw [hc, ← fin]
    exact H
  · intro n i c hi hc hw
    refine pk_le (tm_maps d) i (fun z => absurd z (by omega)) (fun _ => tm_w_still h3 hi h7 hl (fun r hr => nm_e (tm_w_ones (nm_e (nm_r (nI_1 i) (hw _ ?_))))))
    have e : tm_pc (y &&& r) = tm_cnt (fun b => tm_M d a1 a2 a5 x (64 * p + b) && decide (tm_act d i (64 * p + b) = 64 * p + b)) 64 := by
      refine tm_cnt_congr (fun b hb => ?_)
      rw [tm_b_and, hy b hb]
      cases hM : tm_M d a1 a2 a5 x (64 * p + b)
      · rw [Bool.false_and, Bool.false_and]
      · rw [Bool.true_and, Bool.true_and, Bool.eq_iff_iff, hr b hb, decide_eq_true_eq, tm_act_eq h3 hi (tm_M_lt hM)]
        exact ⟨fun h => ⟨fun e he => (h e he).1, fun e f he hf => (h e he).2 f hf⟩, fun h e he => ⟨h.1 e he, fun f hf => h.2 e f he hf⟩⟩
    rw [hc, e, nI_add]
    rfl
theorem tm_w_shapes {post : Int32 → St1 → Prop} {d x : Nat} (hp : tm_pic d x a1 a2 a5) (hk : kn = 0 ∨ tm_mb d x a1 a2 a5 a6) (h7 : tm_im a7)
    (H : ∀ kn sz dp a6 a8 a9 a10 a11 a12, tm_mb d x a1 a2 a5 a6 → post (nI (tm_sum (tm_w d x a1 a2 a5) 4096 / tm_maps d)) (hh, (nI x), (nI d), kn, sz, dp, a1, a2, a3, a4, a5, a6, a7, a8, a9, a10, a11, a12, a13)) : wpX_shapes post (hh, (nI x), (nI d), kn, sz, dp, a1, a2, a3, a4, a5, a6, a7, a8, a9, a10, a11, a12, a13) := by
  have h1 := hp.1
  have h3 := hp.2.1
  have hN := tm_N_part h1 h3
  have hP := tm_parts_le d
  have hM := tm_maps_pos d
  have hM6 := tm_maps_le d
  refine tm_w_find hp hk (fun kn sz dp a6 a8 a9 a10 a11 a12 hm => tm_w_maps h3 ?_)
  have main : ∀ k i sz dp a8 a9 a10 a11 a12, i ≤ tm_parts d → tm_parts d - i < k → wX_shapes_16 post (nI (tm_maps d)) k (nI (tm_sum (tm_w d x a1 a2 a5) (64 * i))) (nI i) hh (nI x) (nI d) kn sz dp a1 a2 a3 a4 a5 a6 a7 a8 a9 a10 a11 a12 a13 := by
    intro k
    induction k with
    | zero => intro i sz dp a8 a9 a10 a11 a12 _ hn; omega
    | succ k ih =>
      intro i sz dp a8 a9 a10 a11 a12 hi hn
      have step : tm_sum (tm_w d x a1 a2 a5) (64 * (i + 1)) = tm_sum (tm_w d x a1 a2 a5) (64 * i) + tm_sum (fun b => tm_w d x a1 a2 a5 (64 * i + b)) 64 := by rw [Nat.mul_add, Nat.mul_one, tm_sum_app]
      unfold wX_shapes_16
      refine tm_w_parts h3 ?_
      refine pk_le (tm_parts d) i (fun z => br_f (nI_ne0 hM (by omega)) ⟨nI_ne0 hM (by omega), ?_⟩) (fun z => ⟨pk_in i 64 (by omega), ?_⟩)
      · obtain rfl : i = tm_parts d := by omega
        have e := tm_sum_gap (g := tm_w d x a1 a2 a5) (a := 64 * tm_parts d) (b := 4096) (by omega) (fun j hj _ => by unfold tm_w; rw [tm_M_hi (by omega)]; exact Nat.zero_mul _)
        have b := tm_w_le d x a1 a2 a5 4096
        rw [← e, pk_div (by omega) hM (by omega)]
        exact H kn sz dp a6 a8 a9 a10 a11 a12 hm
      · rw [nI_clamp (show i < 2 ^ 31 by omega)]
        refine br_c (fun e => nm_r (nI_1 i) ?_) (fun e => ?_)
        · have z0 : tm_sum (fun b => tm_w d x a1 a2 a5 (64 * i + b)) 64 = 0 := by
            refine tm_sum_z (fun b hb => ?_)
            have t := hm i (by omega) b hb
            rw [e, tm_b_0] at t
            show (tm_M d a1 a2 a5 x (64 * i + b)).toNat * _ = 0
            rw [← t]
            exact Nat.zero_mul _
          rw [z0] at step
          have step2 : tm_sum (tm_w d x a1 a2 a5) (64 * (i + 1)) = tm_sum (tm_w d x a1 a2 a5) (64 * i) := step
          rw [← step2]
          exact ih (i + 1) sz dp a8 a9 a10 a11 a12 (by omega) (by omega)
        · refine tm_w_lay h3 (by omega) (fun s8 s9 s10 hlay => ⟨pk_in i 64 (by omega), tm_w_fixed h3 (hm i (by omega)) h7 hlay (nm_r (e' := nI (tm_sum (tm_w d x a1 a2 a5) (64 * (i + 1)))) (by rw [nI_add, step]) (nm_r (nI_1 i) (ih (i + 1) (nI d) dp s8 s9 s10 a11 a12 (by omega) (by omega))))⟩)
  exact ⟨tm_parts d + 1, main (tm_parts d + 1) 0 sz dp a8 a9 a10 a11 a12 (by omega) (by omega)⟩
theorem tm_w_image {post : Int32 → Prop} {d q m : Nat} (h3 : d < 4) (hq : q < tm_maps d) (hm : m < tm_N d) (h7 : tm_im a7) (H : post (nI (tm_act d q m))) : wpX_imageOf post (hh, ax, (nI d), kn, sz, dp, a1, a2, a3, a4, a5, a6, a7, a8, a9, a10, a11, a12, a13) (nI m) (nI q) := by
  have hq6 : q < 6 := Nat.lt_of_lt_of_le hq (tm_maps_le d)
  have hN := tm_N_le (d := d) (by omega)
  refine pk_loop (fun n i y => wX_imageOf_11 post (nI m) (nI q) (nI d) hh ax (nI d) kn sz dp a1 a2 a3 a4 a5 a6 a7 a8 a9 a10 a11 a12 a13 n y (nI i)) (fun i y => y = nI (tm_ao d q m i) ∧ tm_ao d q m i < 2 ^ 12) d 0 0 (by omega) ⟨rfl, by show 0 < 2 ^ 12; decide⟩ ?_ ?_
  · rintro n y ⟨rfl, _⟩
    exact pk_le d d (fun _ => H) (fun z => absurd z (by omega))
  · rintro n i y hi ⟨rfl, hb⟩ hw
    have hgi := tm_img_lt d h3 q hq i hi
    have q1 : (3 : Int32) * nI q + nI i = nI (3 * q + i) := tm_3 q i
    have e7 : a7 ((3 : Int32) * nI q + nI i).toNatClampNeg = nI (tm_img q i) := by
      rw [q1, nI_clamp (by omega)]
      exact h7 q hq6 i (by omega)
    have b1 := tm_bt12 (m.testBit i) (k := tm_img q i) (by omega)
    refine pk_le d i (fun z => absurd z (by omega)) (fun _ => ⟨pk_in (3 * q + i) 18 (by omega) q1, nm_r e7 (nm_r (show _ = nI (tm_ao d q m i ||| (m.testBit i).toNat * 2 ^ (tm_img q i)) from ?_) ?_)⟩)
    · rw [tm_ibit (by omega) (by omega), tm_isl (by omega) (by omega), tm_or _ _ (by omega) (by omega)]
    · have b2 : tm_ao d q m i ||| (m.testBit i).toNat * 2 ^ (tm_img q i) < 2 ^ 12 := Nat.or_lt_two_pow hb b1
      refine pk_loop (fun n' j t => wX_imageOf_47 post (wX_imageOf_11 post (nI m) (nI q) (nI d) hh ax (nI d) kn sz dp a1 a2 a3 a4 a5 a6 a7 a8 a9 a10 a11 a12 a13 n) (nI m) (nI q) (nI d) (nI i) (nI (tm_img q i)) hh ax (nI d) kn sz dp a1 a2 a3 a4 a5 a6 a7 a8 a9 a10 a11 a12 a13 n' t (nI j)) (fun j t => t = nI (tm_ai d q m i (tm_ao d q m i ||| (m.testBit i).toNat * 2 ^ (tm_img q i)) j) ∧ tm_ai d q m i (tm_ao d q m i ||| (m.testBit i).toNat * 2 ^ (tm_img q i)) j < 2 ^ 12) d 0 _ (by omega) ⟨rfl, b2⟩ ?_ ?_
      · rintro n' t ⟨rfl, ht⟩
        exact pk_le d d (fun _ => nm_r (nI_1 i) (hw _ ⟨rfl, ht⟩)) (fun z => absurd z (by omega))
      · rintro n' j t hj ⟨rfl, ht⟩ hw'
        have hgj := tm_img_lt d h3 q hq j hj
        have hdd : d * i ≤ 6 := by
          have : d * i ≤ 3 * 2 := Nat.mul_le_mul (by omega) (by omega)
          omega
        have hde : d * tm_img q i ≤ 6 := by
          have : d * tm_img q i ≤ 3 * 2 := Nat.mul_le_mul (by omega) (by omega)
          omega
        have q3 : (3 : Int32) * nI q + nI j = nI (3 * q + j) := tm_3 q j
        have e8 : a7 ((3 : Int32) * nI q + nI j).toNatClampNeg = nI (tm_img q j) := by
          rw [q3, nI_clamp (by omega)]
          exact h7 q hq6 j (by omega)
        have g1 : (nI d + nI d * nI i) + nI j = nI (d + d * i + j) := by rw [pk_mul, nI_add, nI_add]
        have g2 : (nI d + nI d * nI (tm_img q i)) + nI (tm_img q j) = nI (d + d * tm_img q i + tm_img q j) := by rw [pk_mul, nI_add, nI_add]
        have b3 := tm_bt12 (m.testBit (d + d * i + j)) (k := d + d * tm_img q i + tm_img q j) (by omega)
        refine pk_le d j (fun z => absurd z (by omega)) (fun _ => ⟨pk_in (3 * q + j) 18 (by omega) q3, nm_r e8 (nm_r ?_ (nm_r (nI_1 j) (hw' _ ⟨rfl, Nat.or_lt_two_pow ht b3⟩)))⟩)
        rw [g1, g2, tm_ibit (by omega) (by omega), tm_isl (by omega) (by omega), tm_or _ _ (by omega) (by omega)]
        rfl
theorem tm_w_sym {post : Int32 → Prop} {d m : Nat} (h3 : d < 4) (hm : m < tm_N d) (h7 : tm_im a7) (H : post (nI (tm_stab d m))) : wpX_symmetries post (hh, ax, (nI d), kn, sz, dp, a1, a2, a3, a4, a5, a6, a7, a8, a9, a10, a11, a12, a13) (nI m) := by
  have hN := tm_N_le (d := d) (by omega)
  have hM6 := tm_maps_le d
  unfold wpX_symmetries
  refine tm_w_isnum h3 hm ?_
  refine br_f (by decide) ?_
  refine pk_loop (fun n i c => wX_symmetries_14 post (nI m) hh ax (nI d) kn sz dp a1 a2 a3 a4 a5 a6 a7 a8 a9 a10 a11 a12 a13 n c (nI i)) (fun i c => c = nI (tm_sum (fun q => (decide (tm_act d q m = m)).toNat) i)) (tm_maps d) 0 0 (by omega) rfl ?_ ?_
  · intro n c hc
    unfold wX_symmetries_14
    refine tm_w_maps h3 ?_
    refine pk_le (tm_maps d) (tm_maps d) (fun _ => ?_) (fun z => absurd z (by omega))
    rw [hc]
    exact H
  · intro n i c hi hc hw
    unfold wX_symmetries_14
    refine tm_w_maps h3 ?_
    refine pk_le (tm_maps d) i (fun z => absurd z (by omega)) (fun _ => tm_w_image h3 hi hm h7 ?_)
    have hal := tm_act_lt (d := d) (p := i) (m := m) h3 hi
    refine pk_eq (tm_act d i m) m (fun e => nm_e (nm_r (nI_1 i) (hw _ ?_))) (fun e => nm_e (nm_r (nI_1 i) (hw _ ?_)))
    · rw [hc]
      show _ = nI (tm_sum (fun q => (decide (tm_act d q m = m)).toNat) i + (decide (tm_act d i m = m)).toNat)
      rw [decide_eq_true e]
      exact nI_1 _
    · rw [hc]
      show _ = nI (tm_sum (fun q => (decide (tm_act d q m = m)).toNat) i + (decide (tm_act d i m = m)).toNat)
      rw [decide_eq_false e]
      exact nI_add _ 0
theorem tm_w_same {post : Int32 → Prop} {d m k : Nat} (h3 : d < 4) (hm : m < tm_N d) (hk : k < tm_N d) (h7 : tm_im a7) (H1 : ∀ q, q < tm_maps d → tm_act d q m = k → post 1) (H0 : post 0) : wpX_sameShape post (hh, ax, (nI d), kn, sz, dp, a1, a2, a3, a4, a5, a6, a7, a8, a9, a10, a11, a12, a13) (nI m) (nI k) := by
  have hN := tm_N_le (d := d) (by omega)
  have hM6 := tm_maps_le d
  unfold wpX_sameShape
  refine tm_w_isnum h3 hm ?_
  refine br_f (by decide) ?_
  refine tm_w_isnum h3 hk ?_
  refine br_f (by decide) ?_
  refine pk_loop (σ := Unit) (fun n i _ => wX_sameShape_20 post (nI m) (nI k) hh ax (nI d) kn sz dp a1 a2 a3 a4 a5 a6 a7 a8 a9 a10 a11 a12 a13 n (nI i)) (fun _ _ => True) (tm_maps d) 0 () (by omega) trivial ?_ ?_
  · intro n _ _
    unfold wX_sameShape_20
    refine tm_w_maps h3 ?_
    exact pk_le (tm_maps d) (tm_maps d) (fun _ => H0) (fun z => absurd z (by omega))
  · intro n i _ hi _ hw
    unfold wX_sameShape_20
    refine tm_w_maps h3 ?_
    refine pk_le (tm_maps d) i (fun z => absurd z (by omega)) (fun _ => tm_w_image h3 hi hm h7 ?_)
    have hal := tm_act_lt (d := d) (p := i) (m := m) h3 hi
    exact pk_eq (tm_act d i m) k (fun e => H1 i hi e) (fun e => nm_r (nI_1 i) (hw () trivial))
theorem tm_w_symsum {post : Int32 → St1 → Prop} {d x : Nat} (hp : tm_pic d x a1 a2 a5) (hk : kn = 0 ∨ tm_mb d x a1 a2 a5 a6) (h7 : tm_im a7)
    (H : ∀ kn sz dp a6 a8 a9 a10 a11 a12, tm_mb d x a1 a2 a5 a6 → post (nI (tm_sum (tm_w d x a1 a2 a5) 4096)) (hh, (nI x), (nI d), kn, sz, dp, a1, a2, a3, a4, a5, a6, a7, a8, a9, a10, a11, a12, a13)) : wpL_symmetrySum post (hh, (nI x), (nI d), kn, sz, dp, a1, a2, a3, a4, a5, a6, a7, a8, a9, a10, a11, a12, a13) := by
  have h3 := hp.2.1
  have hN := tm_N_le (d := d) (by omega)
  have stop : ∀ n k c kn sz dp a6 a8 a9 a10 a11 a12, k ≤ 4096 → c = tm_sum (tm_w d x a1 a2 a5) 4096 → tm_mb d x a1 a2 a5 a6 → wL_symmetrySum_10 post (n + 1) (nI c) (-2) (nI k) hh (nI x) (nI d) kn sz dp a1 a2 a3 a4 a5 a6 a7 a8 a9 a10 a11 a12 a13 := by
    intro n k c kn sz dp a6 a8 a9 a10 a11 a12 hk hc hm
    subst hc
    exact pk_le 4096 k (fun _ => H kn sz dp a6 a8 a9 a10 a11 a12 hm) (fun _ => br_t (by decide) (H kn sz dp a6 a8 a9 a10 a11 a12 hm))
  have zero : ∀ a b, a ≤ b → (∀ j, a ≤ j → j < b → tm_M d a1 a2 a5 x j = false) → tm_sum (tm_w d x a1 a2 a5) b = tm_sum (tm_w d x a1 a2 a5) a := by
    intro a b hab hz
    refine tm_sum_gap hab (fun j h1 h2 => ?_)
    unfold tm_w
    rw [hz j h1 h2]
    exact Nat.zero_mul _
  have main : ∀ n m k kn sz dp a6 a8 a9 a10 a11 a12, k ≤ m → tm_M d a1 a2 a5 x m = true → 4096 - m < n → tm_mb d x a1 a2 a5 a6 → wL_symmetrySum_10 post n (nI (tm_sum (tm_w d x a1 a2 a5) m)) (nI m) (nI k) hh (nI x) (nI d) kn sz dp a1 a2 a3 a4 a5 a6 a7 a8 a9 a10 a11 a12 a13 := by
    intro n
    induction n with
    | zero => intro m k kn sz dp a6 a8 a9 a10 a11 a12 _ _ hn; omega
    | succ n ih =>
      intro m k kn sz dp a6 a8 a9 a10 a11 a12 hkm hmm hn hm
      have hmN := tm_M_lt hmm
      have step : nI (tm_sum (tm_w d x a1 a2 a5) m) + nI (tm_stab d m) = nI (tm_sum (tm_w d x a1 a2 a5) (m + 1)) := by
        rw [nI_add]
        show _ = nI (tm_sum (tm_w d x a1 a2 a5) m + tm_w d x a1 a2 a5 m)
        unfold tm_w
        rw [hmm]
        show _ = nI (_ + 1 * tm_stab d m)
        rw [Nat.one_mul]
      refine pk_le 4096 k (fun z => absurd z (by omega)) (fun _ => br_f (nI_pos (by omega)) (tm_w_sym h3 hmN h7 (nm_r step (tm_w_next hp (Or.inr hm) (Or.inr ⟨m, rfl, hmN, rfl⟩) (fun m2 g1 g2 g3 kn sz dp a6 a8 a9 a10 a11 a12 hm => nm_r (nI_1 k) ?_) (fun g kn sz dp a6 a8 a9 a10 a11 a12 hm => nm_r (nI_1 k) ?_)))))
      · rw [← zero (m + 1) m2 g1 g3]
        exact ih m2 (k + 1) kn sz dp a6 a8 a9 a10 a11 a12 (by omega) g2 (by omega) hm
      · cases n with
        | zero => omega
        | succ n => exact stop n (k + 1) _ kn sz dp a6 a8 a9 a10 a11 a12 (by omega) (zero (m + 1) 4096 (by omega) (fun j h1 _ => g j h1)).symm hm
  unfold wpL_symmetrySum
  refine tm_w_next hp hk (Or.inl ⟨rfl, rfl⟩) (fun m g1 g2 g3 kn sz dp a6 a8 a9 a10 a11 a12 hm => ⟨4097, ?_⟩) (fun g kn sz dp a6 a8 a9 a10 a11 a12 hm => ⟨1, ?_⟩)
  · have t := main 4097 m 0 kn sz dp a6 a8 a9 a10 a11 a12 (by omega) g2 (by omega) hm
    rw [zero 0 m g1 g3] at t
    exact t
  · exact stop 0 0 0 kn sz dp a6 a8 a9 a10 a11 a12 (by omega) (zero 0 4096 (by omega) (fun j h1 _ => g j h1)).symm hm
theorem tm_w_shaped {post : Int32 → St1 → Prop} {d x m : Nat} (hp : tm_pic d x a1 a2 a5) (hk : kn = 0 ∨ tm_mb d x a1 a2 a5 a6) (h7 : tm_im a7) (hm : m < tm_N d)
    (H : ∀ kn sz dp a6 a8 a9 a10 a11 a12, tm_mb d x a1 a2 a5 a6 → post 1 (hh, (nI x), (nI d), kn, sz, dp, a1, a2, a3, a4, a5, a6, a7, a8, a9, a10, a11, a12, a13)) : wpL_shaped post (hh, (nI x), (nI d), kn, sz, dp, a1, a2, a3, a4, a5, a6, a7, a8, a9, a10, a11, a12, a13) (nI (tm_N d)) (nI m) := by
  have h1 := hp.1
  have h3 := hp.2.1
  have hN := tm_N_le (d := d) (by omega)
  have main : ∀ n k kn sz dp a6 a8 a9 a10 a11 a12, k ≤ tm_N d → tm_N d - k < n → tm_mb d x a1 a2 a5 a6 → wL_shaped_9 post (nI (tm_N d)) (nI m) (nI (tm_M d a1 a2 a5 x m).toNat) n (nI k) hh (nI x) (nI d) kn sz dp a1 a2 a3 a4 a5 a6 a7 a8 a9 a10 a11 a12 a13 := by
    intro n
    induction n with
    | zero => intro k kn sz dp a6 a8 a9 a10 a11 a12 _ hn; omega
    | succ n ih =>
      intro k kn sz dp a6 a8 a9 a10 a11 a12 hk hn hb
      refine pk_le 4096 k (fun _ => H kn sz dp a6 a8 a9 a10 a11 a12 hb) (fun _ => pk_le (tm_N d) k (fun _ => H kn sz dp a6 a8 a9 a10 a11 a12 hb) (fun c => tm_w_same h3 hm c h7 (fun q hq e => br_t rfl (tm_w_ism hp (Or.inr hb) c (fun kn sz dp a6 a8 a9 a10 a11 a12 hb => br_t ?_ (nm_r (nI_1 k) (ih (k + 1) kn sz dp a6 a8 a9 a10 a11 a12 (by omega) (by omega) hb))))) (br_f (by decide) (nm_r (nI_1 k) (ih (k + 1) kn sz dp a6 a8 a9 a10 a11 a12 (by omega) (by omega) hb)))))
      rw [← e, tm_M_inv h1 h3 hq (tm_pic_frm hp) hm]
  unfold wpL_shaped
  exact tm_w_ism hp hk hm (fun kn sz dp a6 a8 a9 a10 a11 a12 hb => ⟨tm_N d + 1, main (tm_N d + 1) 0 kn sz dp a6 a8 a9 a10 a11 a12 (by omega) (by omega) hb⟩)
end
end
section
/-! ===== the stack of formulas ===== -/
def tm_stk (t : Nat) (a1 a2 a3 a4 : Nat → Int32) : Prop := t ≤ 6 ∧ ∃ B : Nat → Nat, B 0 = 0 ∧ ∀ i, i < t → a3 i = nI (B i) ∧ a4 i = nI (B (i + 1) - B i) ∧ B i ≤ B (i + 1) ∧ tm_frm a1 a2 (B i) (B (i + 1) - B i)
theorem tm_B_mono {B : Nat → Nat} {t : Nat} (h : ∀ i, i < t → B i ≤ B (i + 1)) {i : Nat} : ∀ j, i ≤ j → j ≤ t → B i ≤ B j
  | 0, h1, _ => by
    obtain rfl : i = 0 := by omega
    exact Nat.le_refl _
  | j + 1, h1, h2 => by
    by_cases e : i = j + 1
    · rw [e]
      exact Nat.le_refl _
    · exact Nat.le_trans (tm_B_mono h j (by omega) (by omega)) (h j (by omega))
theorem tm_B_24 {B : Nat → Nat} {t : Nat} (h0 : B 0 = 0) (h : ∀ i, i < t → B i ≤ B (i + 1) ∧ B (i + 1) - B i ≤ 24) : ∀ j, j ≤ t → B j ≤ 24 * j
  | 0, _ => by rw [h0]; exact Nat.le_refl _
  | j + 1, h2 => by
    have a := tm_B_24 h0 h j (by omega)
    have b := h j (by omega)
    omega
theorem tm_pic_congr {d x : Nat} {a1 a2 a5 b1 b2 : Nat → Int32} (hp : tm_pic d x a1 a2 a5) (h1 : ∀ j, 144 ≤ j → b1 j = a1 j) (h2 : ∀ j, 144 ≤ j → b2 j = a2 j) : tm_pic d x b1 b2 a5 := by
  obtain ⟨p1, p2, p3, p4⟩ := hp
  refine ⟨p1, p2, p3, fun i hi => ?_⟩
  obtain ⟨n, e, hf⟩ := p4 i hi
  exact ⟨n, e, tm_frm_congr (fun j _ => h1 _ (by omega)) (fun j _ => h2 _ (by omega)) hf⟩
theorem tm_stk_top {u : Nat} {a1 a2 a3 a4 : Nat → Int32} (h : tm_stk (u + 1) a1 a2 a3 a4) : tm_top (nI (u + 1)) a1 a2 a3 a4 (a3 u).toNatClampNeg (a4 u).toNatClampNeg := by
  obtain ⟨h6, B, h0, hB⟩ := h
  have b24 := tm_B_24 h0 (fun i hi => ⟨(hB i hi).2.2.1, (hB i hi).2.2.2.2.1⟩) u (by omega)
  obtain ⟨e3, e4, hm, hf⟩ := hB u (by omega)
  have hl := hf.2.1
  refine ⟨u, by omega, rfl, ?_⟩
  rw [e3, e4, nI_clamp (by omega), nI_clamp (by omega)]
  exact ⟨rfl, rfl, hf, by omega⟩
/-- a token written behind the last formula -/
theorem tm_put_lo {a : Nat → Int32} {E s n : Nat} {y : Int32} (h : s + n ≤ E) : ∀ j, j < n → upd a E y (s + j) = a (s + j) := fun j hj => pk_un (by omega)
theorem tm_stk_0 {t k a : Nat} {a1 a2 a3 a4 : Nat → Int32} {B : Nat → Nat} (ht : t < 6) (h0 : B 0 = 0) (hB : ∀ i, i < t → a3 i = nI (B i) ∧ a4 i = nI (B (i + 1) - B i) ∧ B i ≤ B (i + 1) ∧ tm_frm a1 a2 (B i) (B (i + 1) - B i)) (hk : tm_tok k a) (h : tm_tk k = 0) :
    tm_stk (t + 1) (upd a1 (B t) (nI k)) (upd a2 (B t) (nI a)) (upd a3 t (nI (B t))) (upd a4 t (nI 1)) := by
  refine ⟨by omega, fun i => if i = t + 1 then B t + 1 else B i, ?_, fun i hi => ?_⟩
  · dsimp only
    rw [if_neg (by omega), h0]
  · dsimp only
    rw [if_neg (show ¬ i = t + 1 by omega)]
    by_cases e : i = t
    · rw [if_pos (by omega), e, pk_us, pk_us, Nat.add_sub_cancel_left]
      exact ⟨rfl, rfl, by omega, tm_frm_0 pk_us pk_us hk h⟩
    · rw [if_neg (show ¬ i + 1 = t + 1 by omega), pk_un e, pk_un e]
      obtain ⟨e3, e4, hm, hf⟩ := hB i (by omega)
      have hmono := tm_B_mono (fun i hi => (hB i hi).2.2.1) (i := i + 1) t (by omega) (by omega)
      exact ⟨e3, e4, hm, tm_frm_congr (tm_put_lo (by omega)) (tm_put_lo (by omega)) hf⟩
theorem tm_stk_1 {u k a w : Nat} {a1 a2 a3 a4 : Nat → Int32} {B : Nat → Nat} (ht : u < 6) (h0 : B 0 = 0) (hB : ∀ i, i < u + 1 → a3 i = nI (B i) ∧ a4 i = nI (B (i + 1) - B i) ∧ B i ≤ B (i + 1) ∧ tm_frm a1 a2 (B i) (B (i + 1) - B i)) (hk : tm_tok k a) (h : tm_tk k = 1) (hw : w = 1 + (B (u + 1) - B u)) (hw24 : w ≤ 24) :
    tm_stk (u + 1) (upd a1 (B (u + 1)) (nI k)) (upd a2 (B (u + 1)) (nI a)) a3 (upd a4 u (nI w)) := by
  refine ⟨by omega, fun i => if i = u + 1 then B (u + 1) + 1 else B i, ?_, fun i hi => ?_⟩
  · dsimp only
    rw [if_neg (by omega), h0]
  · dsimp only
    rw [if_neg (show ¬ i = u + 1 by omega)]
    obtain ⟨e3, e4, hm, hf⟩ := hB i (by omega)
    by_cases e : i = u
    · subst e
      rw [if_pos rfl, pk_us, show B (i + 1) + 1 - B i = (B (i + 1) - B i) + 1 by omega]
      refine ⟨e3, by rw [hw, Nat.add_comm], by omega, ?_⟩
      have q : B i + (B (i + 1) - B i) = B (i + 1) := by omega
      refine tm_frm_1 (tm_frm_congr (tm_put_lo (by omega)) (tm_put_lo (by omega)) hf) (by omega) (k := k) (a := a) ?_ ?_ hk h
      · rw [q, pk_us]
      · rw [q, pk_us]
    · rw [if_neg (show ¬ i + 1 = u + 1 by omega), pk_un e]
      have hmono := tm_B_mono (fun i hi => (hB i hi).2.2.1) (i := i + 1) (u + 1) (by omega) (by omega)
      exact ⟨e3, e4, hm, tm_frm_congr (tm_put_lo (by omega)) (tm_put_lo (by omega)) hf⟩
theorem tm_stk_2 {u k a w : Nat} {a1 a2 a3 a4 : Nat → Int32} {B : Nat → Nat} (ht : u + 1 < 6) (h0 : B 0 = 0) (hB : ∀ i, i < u + 2 → a3 i = nI (B i) ∧ a4 i = nI (B (i + 1) - B i) ∧ B i ≤ B (i + 1) ∧ tm_frm a1 a2 (B i) (B (i + 1) - B i)) (hk : tm_tok k a) (h : tm_tk k = 2) (hw : w = 1 + (B (u + 1) - B u) + (B (u + 2) - B (u + 1))) (hw24 : w ≤ 24) :
    tm_stk (u + 1) (upd a1 (B (u + 2)) (nI k)) (upd a2 (B (u + 2)) (nI a)) a3 (upd a4 u (nI w)) := by
  refine ⟨by omega, fun i => if i = u + 1 then B (u + 2) + 1 else B i, ?_, fun i hi => ?_⟩
  · dsimp only
    rw [if_neg (by omega), h0]
  · dsimp only
    rw [if_neg (show ¬ i = u + 1 by omega)]
    obtain ⟨e3, e4, hm, hf⟩ := hB i (by omega)
    by_cases e : i = u
    · subst e
      obtain ⟨_, _, hm2, hf2⟩ := hB (i + 1) (by omega)
      have hm2' : B (i + 1) ≤ B (i + 2) := hm2
      rw [if_pos rfl, pk_us, show B (i + 2) + 1 - B i = (B (i + 1) - B i) + (B (i + 2) - B (i + 1)) + 1 by omega]
      refine ⟨e3, by rw [hw]; congr 1; omega, by omega, ?_⟩
      have q : B i + (B (i + 1) - B i) = B (i + 1) := by omega
      have q2 : B i + ((B (i + 1) - B i) + (B (i + 2) - B (i + 1))) = B (i + 2) := by omega
      refine tm_frm_2 (tm_frm_congr (tm_put_lo (by omega)) (tm_put_lo (by omega)) hf) ?_ (by omega) (k := k) (a := a) ?_ ?_ hk h
      · rw [q]
        exact tm_frm_congr (tm_put_lo (by omega)) (tm_put_lo (by omega)) hf2
      · rw [q2, pk_us]
      · rw [q2, pk_us]
    · rw [if_neg (show ¬ i + 1 = u + 1 by omega), pk_un e]
      have hmono := tm_B_mono (fun i hi => (hB i hi).2.2.1) (i := i + 1) (u + 2) (by omega) (by omega)
      exact ⟨e3, e4, hm, tm_frm_congr (tm_put_lo (by omega)) (tm_put_lo (by omega)) hf⟩
section
variable {hh ax el kn sz dp : Int32} {a1 a2 a3 a4 a5 a7 : Nat → Int32} {a6 a8 a9 a10 a11 a12 a13 : Nat → Int64}
theorem tm_w_fits {post : Int32 → Prop} {k a : Nat} (hk : k ≤ 11) (ha : a ≤ 15) (H0 : ¬ tm_tok k a → post 0) (H1 : tm_tok k a → post 1) : wpX_fits post () (nI k) (nI a) := by
  have f64 : (k = 0 ∨ k = 9 ∨ k = 10) → wX_fits_64 post (nI a) := fun c => br_f (nI_pos (by omega)) (pk_lt 2 a (fun z => H0 (fun ⟨_, _, c1, c2, c3, c4⟩ => by omega)) (fun z => H1 ⟨hk, ha, by omega, by omega, by omega, by omega⟩))
  have f79 : (k = 1 ∨ k = 2 ∨ k = 3) → wX_fits_79 post (nI a) := fun c => br_f (nI_pos (by omega)) (pk_lt 8 a (fun z => H0 (fun ⟨_, _, c1, c2, c3, c4⟩ => by omega)) (fun z => H1 ⟨hk, ha, by omega, by omega, by omega, by omega⟩))
  have fo : (4 ≤ k ∧ k ≤ 8) → post 1 := fun c => H1 ⟨hk, ha, by omega, by omega, by omega, by omega⟩
  refine br_f (nI_pos (by omega)) (pk_lt 11 k (fun z => absurd z (by omega)) (fun _ => ?_))
  refine pk_eq k 0 (fun e => f64 (by omega)) (fun _ => pk_eq k 1 (fun e => f79 (by omega)) (fun _ => pk_eq k 2 (fun e => f79 (by omega)) (fun _ => pk_eq k 3 (fun e => f79 (by omega)) (fun _ => ?_))))
  refine pk_eq k 4 (fun e => fo (by omega)) (fun _ => pk_eq k 5 (fun e => fo (by omega)) (fun _ => pk_eq k 6 (fun e => fo (by omega)) (fun _ => pk_eq k 7 (fun e => fo (by omega)) (fun _ => pk_eq k 8 (fun e => fo (by omega)) (fun _ => ?_)))))
  refine pk_eq k 9 (fun e => f64 (by omega)) (fun _ => pk_eq k 10 (fun e => f64 (by omega)) (fun _ => pk_eq k 11 (fun e => ?_) (fun _ => trivial)))
  exact br_f (nI_pos (by omega)) (pk_lt 5 a (fun z => H0 (fun ⟨_, _, c1, c2, c3, c4⟩ => by omega)) (fun z => H1 ⟨hk, ha, by omega, by omega, by omega, by omega⟩))
/-- the stores of a token -/
theorem tm_w_134 {post : Int32 → St1 → Prop} {t k a n w E : Nat} (hn : n ≤ t) (ht : t ≤ 6) (hlt : t - n < 6) (hE : E < 288)
    (H : post (nI (t - n + 1)) ((nI (t - n + 1)), ax, el, kn, sz, dp, (upd a1 E (nI k)), (upd a2 E (nI a)), (if n = 0 then upd a3 (t - n) (nI E) else a3), (upd a4 (t - n) (nI w)), a5, a6, a7, a8, a9, a10, a11, a12, a13)) : wX_token_134 post (nI k) (nI a) (nI n) (nI w) (nI E) (nI t) ax el kn sz dp a1 a2 a3 a4 a5 a6 a7 a8 a9 a10 a11 a12 a13 := by
  have q : nI t - nI n = nI (t - n) := pk_sub hn
  refine ⟨pk_in E 288 hE, nm_r (by rw [nI_clamp (by omega)]) ⟨pk_in E 288 hE, nm_r (by rw [nI_clamp (by omega)]) (nm_r q (pk_eq n 0 (fun e => ⟨pk_in (t - n) 6 hlt, nm_r (by rw [nI_clamp (by omega)]) ⟨pk_in (t - n) 6 hlt, nm_r (by rw [nI_clamp (by omega)]) (nm_r (nI_1 _) ?_)⟩⟩) (fun e => ⟨pk_in (t - n) 6 hlt, nm_r (by rw [nI_clamp (by omega)]) (nm_r (nI_1 _) ?_)⟩)))⟩⟩
  · rw [if_pos e] at H
    exact H
  · rw [if_neg e] at H
    exact H
theorem tm_w_token {post : Int32 → St1 → Prop} {t x d k a : Nat} (hs : tm_stk t a1 a2 a3 a4) (hp : tm_pic d x a1 a2 a5) (hk : k ≤ 11) (ha : a ≤ 15)
    (H : ∀ r t' a1 a2 a3 a4, tm_stk t' a1 a2 a3 a4 → tm_pic d x a1 a2 a5 → (t = 0 → k = 1 → a ≤ 8 → 1 ≤ t') → post r ((nI t'), ax, el, kn, sz, dp, a1, a2, a3, a4, a5, a6, a7, a8, a9, a10, a11, a12, a13)) : wpX_token post ((nI t), ax, el, kn, sz, dp, a1, a2, a3, a4, a5, a6, a7, a8, a9, a10, a11, a12, a13) (nI k) (nI a) := by
  have hs0 := hs
  obtain ⟨h6, B, h0, hB⟩ := hs
  have b24 := tm_B_24 h0 (fun i hi => ⟨(hB i hi).2.2.1, (hB i hi).2.2.2.2.1⟩) t (Nat.le_refl t)
  have same : ¬ (t = 0 ∧ k = 1 ∧ a ≤ 8) → ∀ r, post r ((nI t), ax, el, kn, sz, dp, a1, a2, a3, a4, a5, a6, a7, a8, a9, a10, a11, a12, a13) := fun c r => H r t a1 a2 a3 a4 hs0 hp (fun c1 c2 c3 => absurd ⟨c1, c2, c3⟩ c)
  have hend : ∀ n w, n ≤ t → w ≤ 24 → t - n < 6 → B t < 144 → tm_stk (t - n + 1) (upd a1 (B t) (nI k)) (upd a2 (B t) (nI a)) (if n = 0 then upd a3 (t - n) (nI (B t)) else a3) (upd a4 (t - n) (nI w)) → ((nI t = 0 → (wX_token_134 post (nI k) (nI a) (nI n) (nI w) 0 (nI t) ax el kn sz dp a1 a2 a3 a4 a5 a6 a7 a8 a9 a10 a11 a12 a13)) ∧ (¬ nI t = 0 → (vp_in (nI t - 1) 6 ∧ (vp_in (nI t - 1) 6 ∧ (wX_token_134 post (nI k) (nI a) (nI n) (nI w) ((a3 (nI t - 1).toNatClampNeg) + (a4 (nI t - 1).toNatClampNeg)) (nI t) ax el kn sz dp a1 a2 a3 a4 a5 a6 a7 a8 a9 a10 a11 a12 a13))))) := by
    intro n w hn hw hlt hb hstk
    have hpic : tm_pic d x (upd a1 (B t) (nI k)) (upd a2 (B t) (nI a)) a5 := tm_pic_congr hp (fun j hj => pk_un (by omega)) (fun j hj => pk_un (by omega))
    have fin : wX_token_134 post (nI k) (nI a) (nI n) (nI w) (nI (B t)) (nI t) ax el kn sz dp a1 a2 a3 a4 a5 a6 a7 a8 a9 a10 a11 a12 a13 := tm_w_134 hn h6 hlt (by omega) (H _ _ _ _ _ _ hstk hpic (fun _ _ _ => by omega))
    refine pk_eq t 0 (fun e => ?_) (fun e => ?_)
    · subst e
      rw [h0] at fin
      exact fin
    · obtain ⟨v, rfl⟩ : ∃ v, t = v + 1 := ⟨t - 1, by omega⟩
      have q : nI (v + 1) - 1 = nI v := nI_pred v
      obtain ⟨e3, e4, hm, _⟩ := hB v (by omega)
      refine ⟨pk_in v 6 (by omega) q, pk_in v 6 (by omega) q, ?_⟩
      rw [q, nI_clamp (by omega), e3, e4, nI_add, Nat.add_sub_cancel' hm]
      exact fin
  refine br_f (nI_pos (by omega)) (pk_lt 11 k (fun z => absurd z (by omega)) (fun _ => tm_w_fits hk ha (fun htok => ?_) (fun htok => ?_)))
  · refine br_t rfl (same (fun c => htok ?_) _)
    exact ⟨hk, ha, by omega, by omega, by omega, by omega⟩
  · have htk := tm_tkc k (by omega)
    have htl := tm_tk_le k
    refine br_f (by decide) (tm_w_tk hk (pk_le (tm_tk k) t (fun c => ?_) (fun c => same (by omega) _)))
    rcases (show tm_tk k = 0 ∨ tm_tk k = 1 ∨ tm_tk k = 2 by omega) with e | e | e
    · rw [e]
      rw [e] at c
      refine br_t rfl (pk_lt t 6 (fun c6 => nm_r (pk_sub c) ⟨1, pk_le t (t - 0) (fun _ => pk_le 1 24 (fun _ => hend 0 1 c (by omega) (by omega) (by omega) ?_) (fun z => absurd z (by omega))) (fun z => absurd z (by omega))⟩) (fun c6 => same (by omega) _))
      rw [if_pos rfl]
      exact tm_stk_0 c6 h0 hB htok e
    · rw [e]
      rw [e] at c
      obtain ⟨u, rfl⟩ : ∃ u, t = u + 1 := ⟨t - 1, by omega⟩
      obtain ⟨e3, e4, hm, hf⟩ := hB u (by omega)
      have hl24 := hf.2.1
      have b24' := tm_B_24 h0 (fun i hi => ⟨(hB i hi).2.2.1, (hB i hi).2.2.2.2.1⟩) u (by omega)
      refine br_f (by decide) (nm_r (pk_sub c) ⟨2, pk_le (u + 1) u (fun z => absurd z (by omega)) (fun _ => ⟨pk_in u 6 (by omega), nm_r (e' := nI (1 + (B (u + 1) - B u))) (by rw [nI_clamp (show u + 1 - 1 < 2 ^ 31 by omega), show u + 1 - 1 = u from rfl, e4]; exact nI_add 1 _) (nm_r (nI_1 u) (pk_le (u + 1) (u + 1) (fun _ => pk_le (1 + (B (u + 1) - B u)) 24 (fun hw => hend 1 (1 + (B (u + 1) - B u)) c hw (by omega) (by omega) ?_) (fun z => same (by omega) _)) (fun z => absurd z (by omega))))⟩)⟩)
      rw [if_neg (by omega)]
      exact tm_stk_1 (by omega) h0 hB htok e rfl hw
    · rw [e]
      rw [e] at c
      obtain ⟨u, rfl⟩ : ∃ u, t = u + 2 := ⟨t - 2, by omega⟩
      obtain ⟨e3, e4, hm, hf⟩ := hB u (by omega)
      obtain ⟨g3, g4, gm, gf⟩ := hB (u + 1) (by omega)
      have hl24 := hf.2.1
      have gl24 := gf.2.1
      have b24' := tm_B_24 h0 (fun i hi => ⟨(hB i hi).2.2.1, (hB i hi).2.2.2.2.1⟩) u (by omega)
      refine br_f (by decide) (nm_r (pk_sub c) ⟨3, pk_le (u + 2) u (fun z => absurd z (by omega)) (fun _ => ⟨pk_in u 6 (by omega), nm_r (e' := nI (1 + (B (u + 1) - B u))) (by rw [nI_clamp (show u + 2 - 2 < 2 ^ 31 by omega), show u + 2 - 2 = u from rfl, e4]; exact nI_add 1 _) (nm_r (nI_1 u) (pk_le (u + 2) (u + 1) (fun z => absurd z (by omega)) (fun _ => ⟨pk_in (u + 1) 6 (by omega), nm_r (e' := nI (1 + (B (u + 1) - B u) + (B (u + 1 + 1) - B (u + 1)))) (by rw [nI_clamp (by omega), g4, nI_add]) (nm_r (nI_1 (u + 1)) (pk_le (u + 2) (u + 2) (fun _ => pk_le (1 + (B (u + 1) - B u) + (B (u + 1 + 1) - B (u + 1))) 24 (fun hw => hend 2 (1 + (B (u + 1) - B u) + (B (u + 1 + 1) - B (u + 1))) c hw (by omega) ?_ ?_) (fun z => same (by omega) _)) (fun z => absurd z (by omega))))⟩)))⟩)⟩)
      · have gm' : B (u + 1) ≤ B (u + 2) := gm
        have hw' : 1 + (B (u + 1) - B u) + (B (u + 2) - B (u + 1)) ≤ 24 := hw
        omega
      · rw [if_neg (by omega)]
        exact tm_stk_2 (by omega) h0 hB htok e rfl hw
theorem tm_w_copy {post : St1 → Prop} {s q n : Nat} (hq : s + n ≤ q) (hqn : q + n ≤ 288)
    (H : ∀ b1 b2, (∀ j, j < n → b1 (q + j) = a1 (s + j) ∧ b2 (q + j) = a2 (s + j)) → (∀ j, (j < q ∨ q + n ≤ j) → b1 j = a1 j ∧ b2 j = a2 j) → post (hh, ax, el, kn, sz, dp, b1, b2, a3, a4, a5, a6, a7, a8, a9, a10, a11, a12, a13)) : wpX_copy post (hh, ax, el, kn, sz, dp, a1, a2, a3, a4, a5, a6, a7, a8, a9, a10, a11, a12, a13) (nI s) (nI q) (nI n) := by
  refine pk_loop (σ := (Nat → Int32) × (Nat → Int32)) (fun n' i b => wX_copy_3 post (nI s) (nI q) (nI n) hh ax el kn sz dp n' (nI i) b.1 b.2 a3 a4 a5 a6 a7 a8 a9 a10 a11 a12 a13) (fun i b => (∀ j, j < i → b.1 (q + j) = a1 (s + j) ∧ b.2 (q + j) = a2 (s + j)) ∧ ∀ j, (j < q ∨ q + i ≤ j) → b.1 j = a1 j ∧ b.2 j = a2 j) n 0 (a1, a2) (by omega) ⟨fun j hj => absurd hj (by omega), fun j _ => ⟨rfl, rfl⟩⟩ ?_ ?_
  · rintro n' ⟨b1, b2⟩ ⟨h1, h2⟩
    exact pk_le n n (fun _ => H b1 b2 h1 h2) (fun z => absurd z (by omega))
  · rintro n' i ⟨b1, b2⟩ hi ⟨h1, h2⟩ hw
    dsimp only at h1 h2
    have q1 : nI s + nI i = nI (s + i) := nI_add s i
    have q2 : nI q + nI i = nI (q + i) := nI_add q i
    refine pk_le n i (fun z => absurd z (by omega)) (fun _ => ⟨pk_in (s + i) 288 (by omega) q1, pk_in (q + i) 288 (by omega) q2, nm_r (by rw [q1, q2, nI_clamp (by omega), nI_clamp (by omega)]) ⟨pk_in (s + i) 288 (by omega) q1, pk_in (q + i) 288 (by omega) q2, nm_r (by rw [q1, q2, nI_clamp (by omega), nI_clamp (by omega)]) (nm_r (nI_1 i) (hw (upd b1 (q + i) (b1 (s + i)), upd b2 (q + i) (b2 (s + i))) ⟨fun j hj => ?_, fun j hj => ?_⟩))⟩⟩)
    · dsimp only
      by_cases e : j = i
      · rw [e, pk_us, pk_us]
        exact h2 (s + i) (by omega)
      · rw [pk_un (by omega), pk_un (by omega)]
        exact h1 j (by omega)
    · dsimp only
      rw [pk_un (by omega), pk_un (by omega)]
      exact h2 j (by omega)
end
end
section
theorem tm_axs_congr {d m : Nat} {K K' A A' L L' : Nat → Int32} : ∀ n, (∀ i, i < n → L' i = L i ∧ ∀ j, j < (L i).toNatClampNeg → K' (144 + 24 * i + j) = K (144 + 24 * i + j) ∧ A' (144 + 24 * i + j) = A (144 + 24 * i + j)) → tm_axs d m K' A' L' n = tm_axs d m K A L n
  | 0, _ => rfl
  | n + 1, h => by
    show (tm_axs d m K' A' L' n && tm_val d m K' A' (144 + 24 * n) (L' n).toNatClampNeg) = (tm_axs d m K A L n && tm_val d m K A (144 + 24 * n) (L n).toNatClampNeg)
    obtain ⟨e, hj⟩ := h n (by omega)
    rw [tm_axs_congr n (fun i hi => h i (by omega)), e, tm_val_congr d m (fun j hj' => (hj j hj').1) (fun j hj' => (hj j hj').2)]
section
variable {hh ax el kn sz dp : Int32} {a1 a2 a3 a4 a5 a7 : Nat → Int32} {a6 a8 a9 a10 a11 a12 a13 : Nat → Int64}
theorem tm_w_axiom {post : Int32 → St1 → Prop} {t x d : Nat} (hs : tm_stk t a1 a2 a3 a4) (hp : tm_pic d x a1 a2 a5)
    (H0 : t = 0 → post (-1) ((nI t), (nI x), el, kn, sz, dp, a1, a2, a3, a4, a5, a6, a7, a8, a9, a10, a11, a12, a13)) (H6 : 6 ≤ x → post (-2) ((nI t), (nI x), el, kn, sz, dp, a1, a2, a3, a4, a5, a6, a7, a8, a9, a10, a11, a12, a13))
    (H : ∀ u b1 b2 b5, t = u + 1 → x < 6 → tm_stk u b1 b2 a3 a4 → tm_pic d (x + 1) b1 b2 b5 → (∀ m, tm_M d b1 b2 b5 (x + 1) m = (tm_M d a1 a2 a5 x m && tm_val d m a1 a2 (a3 u).toNatClampNeg (a4 u).toNatClampNeg)) → post (nI (x + 1)) ((nI u), (nI (x + 1)), el, 0, sz, dp, b1, b2, a3, a4, b5, a6, a7, a8, a9, a10, a11, a12, a13)) : wpX_axiom post ((nI t), (nI x), el, kn, sz, dp, a1, a2, a3, a4, a5, a6, a7, a8, a9, a10, a11, a12, a13) := by
  obtain ⟨h6, B, h0, hB⟩ := hs
  have hx6 := hp.2.2.1
  refine pk_eq t 0 (fun e => H0 e) (fun e => pk_lt x 6 (fun c => ?_) (fun c => H6 c))
  obtain ⟨u, rfl⟩ : ∃ u, t = u + 1 := ⟨t - 1, by omega⟩
  obtain ⟨e3, e4, hm, hf⟩ := hB u (by omega)
  have hl24 := hf.2.1
  have b24 := tm_B_24 h0 (fun i hi => ⟨(hB i hi).2.2.1, (hB i hi).2.2.2.2.1⟩) u (by omega)
  have b24' := tm_B_24 h0 (fun i hi => ⟨(hB i hi).2.2.1, (hB i hi).2.2.2.2.1⟩) (u + 1) (by omega)
  refine nm_r (nI_pred u) ⟨pk_in u 6 (by omega), pk_in u 6 (by omega), ?_⟩
  have q : (144 : Int32) + 24 * nI x = nI (144 + 24 * x) := by
    show nI 144 + nI 24 * nI x = _
    rw [pk_mul, nI_add]
  rw [nI_clamp (show u < 2 ^ 31 by omega), q, e3, e4]
  refine tm_w_copy (by omega) (by omega) (fun b1 b2 hc ho => ⟨pk_in u 6 (by omega), pk_in x 6 c, nm_r (by rw [nI_clamp (by omega), nI_clamp (by omega)]) (nm_r (nI_1 x) (H u b1 b2 _ rfl c ?_ ?_ ?_))⟩)
  · refine ⟨by omega, B, h0, fun i hi => ?_⟩
    obtain ⟨g3, g4, gm, gf⟩ := hB i (by omega)
    have gl24 := gf.2.1
    have bi := tm_B_24 h0 (fun i hi => ⟨(hB i hi).2.2.1, (hB i hi).2.2.2.2.1⟩) i (by omega)
    exact ⟨g3, g4, gm, tm_frm_congr (fun j hj => (ho _ (by omega)).1) (fun j hj => (ho _ (by omega)).2) gf⟩
  · obtain ⟨p1, p2, p3, p4⟩ := hp
    refine ⟨p1, p2, by omega, fun i hi => ?_⟩
    by_cases ei : i = x
    · refine ⟨B (u + 1) - B u, by rw [ei, pk_us, e4], ?_⟩
      rw [ei]
      exact tm_frm_congr (fun j hj => (hc j hj).1) (fun j hj => (hc j hj).2) hf
    · obtain ⟨n, en, fn⟩ := p4 i (by omega)
      have n24 := fn.2.1
      exact ⟨n, by rw [pk_un ei, en], tm_frm_congr (fun j hj => (ho _ (by omega)).1) (fun j hj => (ho _ (by omega)).2) fn⟩
  · intro m
    have key : tm_axs d m b1 b2 (upd a5 x (a4 u)) x = tm_axs d m a1 a2 a5 x := by
      refine tm_axs_congr x (fun i hi => ⟨pk_un (by omega), fun j hj => ?_⟩)
      obtain ⟨n, en, fn⟩ := hp.2.2.2 i hi
      have n24 := fn.2.1
      rw [en, nI_clamp (by omega)] at hj
      exact ho _ (by omega)
    have kv : tm_val d m b1 b2 (144 + 24 * x) (B (u + 1) - B u) = tm_val d m a1 a2 (B u) (B (u + 1) - B u) := tm_val_congr d m (fun j hj => (hc j hj).1) (fun j hj => (hc j hj).2)
    unfold tm_M
    show (decide (m < tm_N d) && (tm_axs d m b1 b2 (upd a5 x (a4 u)) x && tm_val d m b1 b2 (144 + 24 * x) (upd a5 x (a4 u) x).toNatClampNeg)) = _
    rw [key, pk_us, e3, e4, nI_clamp (by omega), nI_clamp (by omega), kv, Bool.and_assoc]
theorem tm_w_drop {post : Int32 → St1 → Prop} {t : Nat} (hs : tm_stk t a1 a2 a3 a4) (H : ∀ r t', tm_stk t' a1 a2 a3 a4 → post r ((nI t'), ax, el, kn, sz, dp, a1, a2, a3, a4, a5, a6, a7, a8, a9, a10, a11, a12, a13)) : wpX_drop post ((nI t), ax, el, kn, sz, dp, a1, a2, a3, a4, a5, a6, a7, a8, a9, a10, a11, a12, a13) := by
  have h6 := hs.1
  refine pk_eq t 0 (fun e => H _ t hs) (fun e => ?_)
  obtain ⟨u, rfl⟩ : ∃ u, t = u + 1 := ⟨t - 1, by omega⟩
  refine nm_r (nI_pred u) (H _ u ?_)
  obtain ⟨h6, B, h0, hB⟩ := hs
  exact ⟨by omega, B, h0, fun i hi => hB i (by omega)⟩
theorem tm_w_call {post : Int32 → St1 → Prop} {t x d : Nat} (c : Int32) (hs : tm_stk t a1 a2 a3 a4) (hp : tm_pic d x a1 a2 a5)
    (H : ∀ r t x a1 a2 a3 a4 a5, tm_stk t a1 a2 a3 a4 → tm_pic d x a1 a2 a5 → post r ((nI t), (nI x), el, 0, sz, dp, a1, a2, a3, a4, a5, a6, a7, a8, a9, a10, a11, a12, a13)) : wpL_call post ((nI t), (nI x), el, 0, sz, dp, a1, a2, a3, a4, a5, a6, a7, a8, a9, a10, a11, a12, a13) c := by
  obtain ⟨k, hk, ek⟩ := pk_andE c (m := 31) 5 (by decide)
  obtain ⟨a, ha, ea⟩ := pk_andE (c >>> ((5 : Int32) &&& 31)) (m := 15) 4 (by decide)
  have hk' : k < 32 := hk
  have ha' : a < 16 := ha
  have r3 : ∀ n, n < 100 → nI n - nI n / 3 * 3 = nI (n % 3) := fun n hn => tm_r3 hn
  have r9 : ∀ n, n < 100 → nI n - nI n / 9 * 9 = nI (n % 9) := fun n hn => pk_rem (d := 9) (by omega) (by omega) (by omega)
  have r5 : ∀ n, n < 100 → nI n - nI n / 5 * 5 = nI (n % 5) := fun n hn => pk_rem (d := 5) (by omega) (by omega) (by omega)
  have tok : ∀ k' a', k' ≤ 11 → a' ≤ 15 → wpX_token post ((nI t), (nI x), el, 0, sz, dp, a1, a2, a3, a4, a5, a6, a7, a8, a9, a10, a11, a12, a13) (nI k') (nI a') := fun k' a' h1 h2 => tm_w_token hs hp h1 h2 (fun r t' b1 b2 b3 b4 g1 g2 _ => H r t' x b1 b2 b3 b4 a5 g1 g2)
  refine nm_r ek (nm_r ea ?_)
  refine pk_le 4 k (fun c4 => pk_le 12 k (fun c12 => pk_le 15 k (fun c15 => pk_le 22 k (fun c22 => pk_le 28 k (fun c28 => pk_le 31 k (fun c31 => ?_) (fun c31 => ?_)) (fun c28 => ⟨by decide, by decide, ?_⟩)) (fun c22 => ⟨by decide, ?_⟩)) (fun c15 => ⟨by decide, ?_⟩)) (fun c12 => ⟨by decide, ?_⟩)) (fun c4 => ⟨by decide, ?_⟩)
  · exact tm_w_drop hs (fun r t' g => H r t' x a1 a2 a3 a4 a5 g hp)
  · exact tm_w_axiom hs hp (fun _ => H _ t x a1 a2 a3 a4 a5 hs hp) (fun _ => H _ t x a1 a2 a3 a4 a5 hs hp) (fun u b1 b2 b5 _ _ g1 g2 _ => H _ u (x + 1) b1 b2 a3 a4 b5 g1 g2)
  · rw [r3 k (by omega), r3 a (by omega), show (9 : Int32) + nI (k % 3) = nI (9 + k % 3) from nI_add 9 _]
    exact tok _ _ (by omega) (by omega)
  · rw [show nI k - 15 = nI (k - 15) from pk_sub (b := 15) c15, r5 (k - 15) (by omega), show (4 : Int32) + nI ((k - 15) % 5) = nI (4 + (k - 15) % 5) from nI_add 4 _]
    exact tok _ _ (by omega) (by omega)
  · rw [tm_and1, r9 a (by omega), show (2 : Int32) + nI (k % 2) = nI (2 + k % 2) from nI_add 2 _]
    exact tok _ _ (by omega) (by omega)
  · rw [r9 a (by omega)]
    exact tok 1 _ (by omega) (by omega)
  · rw [r3 a (by omega)]
    exact tok 0 _ (by omega) (by omega)
/-! the maps are laid -/
theorem tm_w_map34 {post : St1 → Prop} {p f s t : Nat} (hp : p < 6) (H : post (hh, ax, el, kn, sz, dp, a1, a2, a3, a4, a5, a6, (upd (upd (upd a7 (3 * p) (nI (if p % 2 = 0 then f else s))) (3 * p + 1) (nI (if p % 2 = 0 then s else f))) (3 * p + 2) (nI t)), a8, a9, a10, a11, a12, a13)) : wX_layMap_34 post (nI p) (nI f) (nI s) (nI t) hh ax el kn sz dp a1 a2 a3 a4 a5 a6 a7 a8 a9 a10 a11 a12 a13 := by
  have q : nI p - nI p / 2 * 2 = nI (p % 2) := pk_rem (d := 2) (by omega) (by omega) (by omega)
  have q0 : (3 : Int32) * nI p = nI (3 * p) := pk_mul 3 p
  have q1 : (3 : Int32) * nI p + 1 = nI (3 * p + 1) := tm_3 p 1
  have q2 : (3 : Int32) * nI p + 2 = nI (3 * p + 2) := tm_3 p 2
  refine ⟨by decide, pk_eq (p % 2) 0 (fun e => ⟨pk_in (3 * p) 18 (by omega) q0, nm_r (by rw [q0, nI_clamp (by omega)]) ⟨by decide, br_t (by rw [q, e]; rfl) ⟨pk_in (3 * p + 1) 18 (by omega) q1, nm_r (by rw [q1, nI_clamp (by omega)]) ⟨pk_in (3 * p + 2) 18 (by omega) q2, nm_r (by rw [q2, nI_clamp (by omega)]) ?_⟩⟩⟩⟩) (fun e => ⟨pk_in (3 * p) 18 (by omega) q0, nm_r (by rw [q0, nI_clamp (by omega)]) ⟨by decide, br_f (by rw [q]; exact nI_ne0 (by omega) (by omega)) ⟨pk_in (3 * p + 1) 18 (by omega) q1, nm_r (by rw [q1, nI_clamp (by omega)]) ⟨pk_in (3 * p + 2) 18 (by omega) q2, nm_r (by rw [q2, nI_clamp (by omega)]) ?_⟩⟩⟩⟩) q⟩
  · rw [if_pos e, if_pos e] at H
    exact H
  · rw [if_neg e, if_neg e] at H
    exact H
theorem tm_w_map {post : St1 → Prop} {p : Nat} (hp : p < 6) (H : ∀ b7, (∀ e, e < 3 → b7 (3 * p + e) = nI (tm_img p e)) → (∀ j, j < 3 * p → b7 j = a7 j) → post (hh, ax, el, kn, sz, dp, a1, a2, a3, a4, a5, a6, b7, a8, a9, a10, a11, a12, a13)) : wpX_layMap post (hh, ax, el, kn, sz, dp, a1, a2, a3, a4, a5, a6, a7, a8, a9, a10, a11, a12, a13) (nI p) := by
  have fin : ∀ f s t, (tm_img p 0 = if p % 2 = 0 then f else s) → (tm_img p 1 = if p % 2 = 0 then s else f) → tm_img p 2 = t → post (hh, ax, el, kn, sz, dp, a1, a2, a3, a4, a5, a6, (upd (upd (upd a7 (3 * p) (nI (if p % 2 = 0 then f else s))) (3 * p + 1) (nI (if p % 2 = 0 then s else f))) (3 * p + 2) (nI t)), a8, a9, a10, a11, a12, a13) := by
    intro f s t g0 g1 g2
    refine H _ (fun e he => ?_) (fun j hj => ?_)
    · rcases (show e = 0 ∨ e = 1 ∨ e = 2 by omega) with rfl | rfl | rfl
      · rw [pk_un (by omega), pk_un (by omega), Nat.add_zero, pk_us, g0]
      · rw [pk_un (by omega), pk_us, g1]
      · rw [pk_us, g2]
    · rw [pk_un (by omega), pk_un (by omega), pk_un (by omega)]
  refine pk_lt p 4 (fun c4 => pk_lt p 2 (fun c2 => tm_w_map34 (f := 0) (s := 1) (t := 2) hp (fin 0 1 2 ?_ ?_ ?_)) (fun c2 => tm_w_map34 (f := 0) (s := 2) (t := 1) hp (fin 0 2 1 ?_ ?_ ?_))) (fun c4 => tm_w_map34 (f := 1) (s := 2) (t := 0) hp (fin 1 2 0 ?_ ?_ ?_))
  all_goals (rcases (show p = 0 ∨ p = 1 ∨ p = 2 ∨ p = 3 ∨ p = 4 ∨ p = 5 by omega) with rfl | rfl | rfl | rfl | rfl | rfl <;> first | rfl | omega)
theorem tm_w_init {post : St1 → Prop} (H : ∀ b7, tm_im b7 → post (hh, ax, 2, kn, sz, dp, (fun _ => 0), (fun _ => 0), (fun _ => 0), (fun _ => 0), (fun _ => 0), (fun _ => 0), b7, (fun _ => 0), (fun _ => 0), (fun _ => 0), (fun _ => 0), (fun _ => 0), (fun _ => 0))) : wpX_init post 13 1129 (hh, ax, el, kn, sz, dp) := by
  refine ⟨by omega, by omega, by omega, by omega, by omega, by omega, by omega, by omega, by omega, by omega, by omega, by omega, by omega, by omega, by omega, by omega, by omega, by omega, by omega, by omega, by omega, by omega, by omega, by omega, by omega, by omega, ?_⟩
  refine pk_loop (fun n i b => wX_init_117 post 13 1129 13 1129 n (nI i) hh ax 2 kn sz dp (fun _ => 0) (fun _ => 0) (fun _ => 0) (fun _ => 0) (fun _ => 0) (fun _ => 0) b (fun _ => 0) (fun _ => 0) (fun _ => 0) (fun _ => 0) (fun _ => 0) (fun _ => 0)) (fun i b => ∀ p, p < i → ∀ e, e < 3 → b (3 * p + e) = nI (tm_img p e)) 6 0 (fun _ => 0) (by omega) (fun p hp => absurd hp (by omega)) ?_ ?_
  · intro n b hb
    exact pk_le 6 6 (fun _ => H b hb) (fun z => absurd z (by omega))
  · intro n i b hi hb hw
    refine pk_le 6 i (fun z => absurd z (by omega)) (fun _ => tm_w_map hi (fun b7 g1 g2 => nm_r (nI_1 i) (hw b7 (fun p hp e he => ?_))))
    by_cases c : p = i
    · rw [c]
      exact g1 e he
    · rw [g2 _ (by omega)]
      exact hb p (by omega) e he
theorem tm_w_cell {post : Int32 → Prop} {xs : Nat → Int32} {L i : Nat} (hL : L ≤ 260) (hi : i < 100) (H : ∀ r, post r) : wpL_cell post L xs () (nI i) :=
  pk_le L i (fun _ => H _) (fun c => ⟨pk_in i L c, H _⟩)
theorem tm_w_dom {post : Int32 → St1 → Prop} {d : Nat} (h1 : 1 ≤ d) (h3 : d < 4) (H : post (nI (tm_N d)) (hh, ax, (nI d), 0, sz, dp, a1, a2, a3, a4, a5, a6, a7, a8, a9, a10, a11, a12, a13)) : wpX_domain post (hh, ax, el, kn, sz, dp, a1, a2, a3, a4, a5, a6, a7, a8, a9, a10, a11, a12, a13) (nI d) :=
  pk_lt d 1 (fun z => absurd z (by omega)) (fun _ => pk_le d 3 (fun _ => tm_w_interp h3 H) (fun z => absurd z (by omega)))
end
end
section
section
variable {hh ax el kn sz dp : Int32} {a1 a2 a3 a4 a5 a7 : Nat → Int32} {a6 a8 a9 a10 a11 a12 a13 : Nat → Int64}
theorem tm_nm2 {i : Nat} (h : i < 2 ^ 31) : ¬ nI i = -2 := by
  intro z
  have t := nI_toInt h
  rw [z, show (-2 : Int32).toInt = -2 from by decide] at t
  omega
theorem tm_law_224 {post : Int32 → Prop} {xs : Nat → Int32} {L kc ks d x u : Nat} (hL : L ≤ 260) (P1 : post 1) (hs : tm_stk (u + 1) a1 a2 a3 a4) (hp : tm_pic d x a1 a2 a5) (h7 : tm_im a7) (hk : kn = 0 ∨ tm_mb d x a1 a2 a5 a6) :
    wL_law_224 post L xs (nI (tm_N d)) (nI (tm_cnt (tm_M d a1 a2 a5 x) 4096)) (nI (tm_cnt (fun m => tm_M d a1 a2 a5 x m && tm_val d m a1 a2 (a3 u).toNatClampNeg (a4 u).toNatClampNeg) 4096)) (nI (tm_maps d)) kc ks (nI (u + 1)) (nI x) (nI d) kn sz dp a1 a2 a3 a4 a5 a6 a7 a8 a9 a10 a11 a12 a13 := by
  have h1 := hp.1
  have h3 := hp.2.1
  have hx6 := hp.2.2.1
  have hN := tm_N_le (d := d) (by omega)
  have hN0 := tm_N_pos d
  unfold wL_law_224
  refine tm_w_shapes hp hk h7 (fun kn sz dp a6 a8 a9 a10 a11 a12 hm => ?_)
  refine tm_w_symsum hp (Or.inr hm) h7 (fun kn sz dp a6 a8 a9 a10 a11 a12 hm => ?_)
  have hdiv : nI (tm_sum (tm_w d x a1 a2 a5) 4096 / tm_maps d) * nI (tm_maps d) = nI (tm_sum (tm_w d x a1 a2 a5) 4096) := by
    obtain ⟨c, hc⟩ := tm_burn h1 h3 (tm_M d a1 a2 a5 x) (fun p m hp' hm' => tm_M_inv h1 h3 hp' (tm_pic_frm hp) hm')
    have e : tm_sum (tm_w d x a1 a2 a5) 4096 = tm_maps d * c := by
      rw [← hc, tm_sum_gap (a := tm_N d) hN (fun j hj _ => by unfold tm_w; rw [tm_M_hi hj]; exact Nat.zero_mul _)]
      rfl
    rw [pk_mul, e, Nat.mul_div_cancel_left c (tm_maps_pos d), Nat.mul_comm]
  refine br_t hdiv (tm_w_cell (i := 41) hL (by omega) (fun r => ⟨nI_ne0 hN0 (by omega), ?_⟩))
  obtain ⟨j, hj, ej⟩ := pk_andE r (m := 4095) 12 (by decide)
  have hj' : j < 4096 := hj
  rw [ej, pk_rem (by omega) hN0 (by omega)]
  refine tm_w_shaped hp (Or.inr hm) h7 (Nat.mod_lt _ hN0) (fun kn sz dp a6 a8 a9 a10 a11 a12 hm => ?_)
  refine br_f (by decide) (tm_w_axiom hs hp (fun z => absurd z (by omega)) (fun c6 => br_t rfl (tm_w_models hp (Or.inr hm) (fun kn sz dp a6 a8 a9 a10 a11 a12 hm => br_t rfl P1))) (fun v b1 b2 b5 hv c6 hs' hp' hM => br_f (tm_nm2 (by omega)) (br_f (nI_nle (by omega) (by omega)) (tm_w_models hp' (Or.inl rfl) (fun kn sz dp a6 a8 a9 a10 a11 a12 hm => br_t ?_ P1)))))
  obtain rfl : v = u := by omega
  rw [tm_cnt_congr (fun i _ => hM i)]
theorem tm_law_161 {post : Int32 → Prop} {xs : Nat → Int32} {L kc ks d x u : Nat} (hL : L ≤ 260) (P1 : post 1) (hs : tm_stk (u + 1) a1 a2 a3 a4) (hp : tm_pic d x a1 a2 a5) (h7 : tm_im a7) (hk : kn = 0 ∨ tm_mb d x a1 a2 a5 a6) :
    wL_law_161 post L xs (nI d) (nI (tm_N d)) (nI (tm_cnt (tm_M d a1 a2 a5 x) 4096)) (nI (tm_cnt (fun m => tm_M d a1 a2 a5 x m && tm_val d m a1 a2 (a3 u).toNatClampNeg (a4 u).toNatClampNeg) 4096)) (nI (tm_cnt (fun m => tm_M d a1 a2 a5 x m && !tm_val d m a1 a2 (a3 u).toNatClampNeg (a4 u).toNatClampNeg) 4096)) kc ks (nI (u + 1)) (nI x) (nI d) kn sz dp a1 a2 a3 a4 a5 a6 a7 a8 a9 a10 a11 a12 a13 := by
  have h3 := hp.2.1
  have hN := tm_N_le (d := d) (by omega)
  have hN0 := tm_N_pos d
  have l1 := tm_cnt_le (tm_M d a1 a2 a5 x) 4096
  have l2 := tm_cnt_le (fun m => tm_M d a1 a2 a5 x m && tm_val d m a1 a2 (a3 u).toNatClampNeg (a4 u).toNatClampNeg) 4096
  have hsp := tm_cnt_split (tm_M d a1 a2 a5 x) (fun m => tm_val d m a1 a2 (a3 u).toNatClampNeg (a4 u).toNatClampNeg) 4096
  have l192 : ∀ (z : Int32) kn sz dp a6 a8 a9 a10 a11 a12, tm_mb d x a1 a2 a5 a6 → wL_law_192 post L xs (nI d) (nI (tm_N d)) (nI (tm_cnt (tm_M d a1 a2 a5 x) 4096)) (nI (tm_cnt (fun m => tm_M d a1 a2 a5 x m && tm_val d m a1 a2 (a3 u).toNatClampNeg (a4 u).toNatClampNeg) 4096)) z z kc ks (nI (u + 1)) (nI x) (nI d) kn sz dp a1 a2 a3 a4 a5 a6 a7 a8 a9 a10 a11 a12 a13 := by
    intro z kn sz dp a6 a8 a9 a10 a11 a12 hm
    have fin := tm_law_224 (xs := xs) (kc := kc) (ks := ks) (sz := sz) (dp := dp) (a8 := a8) (a9 := a9) (a10 := a10) (a11 := a11) (a12 := a12) (a13 := a13) (kn := kn) hL P1 hs hp h7 (Or.inr hm)
    unfold tm_maps at fin
    refine br_t rfl (pk_le 1 (tm_N d) (fun _ => pk_eq d 1 (fun e => ?_) (fun e => pk_eq d 2 (fun e2 => ?_) (fun e2 => ?_))) (fun z => absurd z (by omega)))
    · rw [if_pos e] at fin
      exact fin
    · rw [if_neg e, if_pos e2] at fin
      exact fin
    · rw [if_neg e, if_neg e2] at fin
      exact fin
  refine br_f (nI_pos (by omega)) (br_t ?_ (tm_w_follows hp hk (tm_stk_top hs) (fun e kn sz dp a6 a8 a9 a10 a11 a12 hm => ?_) (fun e kn sz dp a6 a8 a9 a10 a11 a12 hm => ?_)))
  · rw [nI_add, hsp]
  · exact pk_eq _ _ (fun _ => l192 1 kn sz dp a6 a8 a9 a10 a11 a12 hm) (fun z => absurd e.symm z)
  · exact pk_eq _ _ (fun z => absurd z.symm e) (fun _ => l192 0 kn sz dp a6 a8 a9 a10 a11 a12 hm)
theorem tm_law_80 {post : Int32 → Prop} {xs : Nat → Int32} {L kc ks d x u : Nat} (hL : L ≤ 260) (P1 : post 1) (hs : tm_stk (u + 1) a1 a2 a3 a4) (hp : tm_pic d x a1 a2 a5) (h7 : tm_im a7) (hk : kn = 0) :
    wL_law_80 post L xs (nI d) (nI (tm_N d)) kc ks (nI (u + 1)) (nI x) (nI d) kn sz dp a1 a2 a3 a4 a5 a6 a7 a8 a9 a10 a11 a12 a13 := by
  have h1 := hp.1
  have h3 := hp.2.1
  have hN := tm_N_le (d := d) (by omega)
  have htop := tm_stk_top hs
  have zero : ∀ a b, a ≤ b → (∀ j, a ≤ j → j < b → tm_M d a1 a2 a5 x j = false) → tm_cnt (fun m => tm_M d a1 a2 a5 x m && !tm_val d m a1 a2 (a3 u).toNatClampNeg (a4 u).toNatClampNeg) b = tm_cnt (fun m => tm_M d a1 a2 a5 x m && !tm_val d m a1 a2 (a3 u).toNatClampNeg (a4 u).toNatClampNeg) a := by
    intro a b hab hz
    refine tm_sum_gap hab (fun j g1 g2 => ?_)
    dsimp only
    rw [hz j g1 g2]
    rfl
  have stop : ∀ n k c kn sz dp a6 a8 a9 a10 a11 a12, k ≤ 4096 → c = tm_cnt (fun m => tm_M d a1 a2 a5 x m && !tm_val d m a1 a2 (a3 u).toNatClampNeg (a4 u).toNatClampNeg) 4096 → tm_mb d x a1 a2 a5 a6 → wL_law_112 post L xs (nI d) (nI (tm_N d)) (nI (tm_cnt (tm_M d a1 a2 a5 x) 4096)) (nI (tm_cnt (fun m => tm_M d a1 a2 a5 x m && tm_val d m a1 a2 (a3 u).toNatClampNeg (a4 u).toNatClampNeg) 4096)) (nI (d * d * d)) kc ks (n + 1) (nI c) (-2) (nI k) (nI (u + 1)) (nI x) (nI d) kn sz dp a1 a2 a3 a4 a5 a6 a7 a8 a9 a10 a11 a12 a13 := by
    intro n k c kn sz dp a6 a8 a9 a10 a11 a12 hk hc hm
    subst hc
    exact pk_le 4096 k (fun _ => tm_law_161 hL P1 hs hp h7 (Or.inr hm)) (fun _ => br_t (by decide) (tm_law_161 hL P1 hs hp h7 (Or.inr hm)))
  have main : ∀ n m k kn sz dp a6 a8 a9 a10 a11 a12, k ≤ m → tm_M d a1 a2 a5 x m = true → 4096 - m < n → tm_mb d x a1 a2 a5 a6 → wL_law_112 post L xs (nI d) (nI (tm_N d)) (nI (tm_cnt (tm_M d a1 a2 a5 x) 4096)) (nI (tm_cnt (fun m => tm_M d a1 a2 a5 x m && tm_val d m a1 a2 (a3 u).toNatClampNeg (a4 u).toNatClampNeg) 4096)) (nI (d * d * d)) kc ks n (nI (tm_cnt (fun m => tm_M d a1 a2 a5 x m && !tm_val d m a1 a2 (a3 u).toNatClampNeg (a4 u).toNatClampNeg) m)) (nI m) (nI k) (nI (u + 1)) (nI x) (nI d) kn sz dp a1 a2 a3 a4 a5 a6 a7 a8 a9 a10 a11 a12 a13 := by
    intro n
    induction n with
    | zero => intro m k kn sz dp a6 a8 a9 a10 a11 a12 _ _ hn; omega
    | succ n ih =>
      intro m k kn sz dp a6 a8 a9 a10 a11 a12 hkm hmm hn hm
      have hmN := tm_M_lt hmm
      have hd3 : d * d * d ≤ 27 := by
        have e1 : d * d ≤ 3 * 3 := Nat.mul_le_mul (by omega) (by omega)
        have e2 : d * d * d ≤ 9 * 3 := Nat.mul_le_mul (by omega) (by omega)
        omega
      have fin : ∀ z sz dp a8 a9 a10 a11 a12, z = nI (tm_cnt (fun m => tm_M d a1 a2 a5 x m && !tm_val d m a1 a2 (a3 u).toNatClampNeg (a4 u).toNatClampNeg) (m + 1)) → wL_law_145 post L xs (wL_law_112 post L xs (nI d) (nI (tm_N d)) (nI (tm_cnt (tm_M d a1 a2 a5 x) 4096)) (nI (tm_cnt (fun m => tm_M d a1 a2 a5 x m && tm_val d m a1 a2 (a3 u).toNatClampNeg (a4 u).toNatClampNeg) 4096)) (nI (d * d * d)) kc ks n) (nI d) (nI (tm_N d)) (nI (tm_cnt (tm_M d a1 a2 a5 x) 4096)) (nI (tm_cnt (fun m => tm_M d a1 a2 a5 x m && tm_val d m a1 a2 (a3 u).toNatClampNeg (a4 u).toNatClampNeg) 4096)) (nI (d * d * d)) (nI m) (nI k) z kc ks (nI (u + 1)) (nI x) (nI d) kn sz dp a1 a2 a3 a4 a5 a6 a7 a8 a9 a10 a11 a12 a13 := by
        intro z sz dp a8 a9 a10 a11 a12 hz
        subst hz
        unfold wL_law_145
        refine tm_w_next hp (Or.inr hm) (Or.inr ⟨m, rfl, hmN, rfl⟩) (fun m2 g1 g2 g3 kn sz dp a6 a8 a9 a10 a11 a12 hm => nm_r (nI_1 k) ?_) (fun g kn sz dp a6 a8 a9 a10 a11 a12 hm => nm_r (nI_1 k) ?_)
        · rw [← zero (m + 1) m2 g1 g3]
          exact ih m2 (k + 1) kn sz dp a6 a8 a9 a10 a11 a12 (by omega) g2 (by omega) hm
        · cases n with
          | zero => omega
          | succ n => exact stop n (k + 1) _ kn sz dp a6 a8 a9 a10 a11 a12 (by omega) (zero (m + 1) 4096 (by omega) (fun j h1 _ => g j h1)).symm hm
      have hc27 := tm_cnt_le (fun l => tm_is d l && tm_run d m a1 a2 (a3 u).toNatClampNeg (a4 u).toNatClampNeg 0 l) 27
      refine pk_le 4096 k (fun z => absurd z (by omega)) (fun _ => br_f (nI_pos (by omega)) (tm_w_lists h1 h3 hmN htop (fun sz dp a8 a9 a10 a11 a12 => ?_)))
      have hf := tm_full (a1 := a1) (a2 := a2) (m := m) (s := (a3 u).toNatClampNeg) (n := (a4 u).toNatClampNeg) h3
      refine pk_le (d * d * d) _ (fun c => fin _ sz dp a8 a9 a10 a11 a12 ?_) (fun c => fin _ sz dp a8 a9 a10 a11 a12 ?_)
      · rw [tm_cnt_s, hmm, hf.mp c]
        rfl
      · rw [tm_cnt_s, hmm]
        cases hv : tm_val d m a1 a2 (a3 u).toNatClampNeg (a4 u).toNatClampNeg
        · exact nI_1 _
        · exact absurd (hf.mpr hv) (by omega)
  subst hk
  unfold wL_law_80
  refine tm_w_models hp (Or.inl rfl) (fun kn sz dp a6 a8 a9 a10 a11 a12 hm => ?_)
  refine tm_w_agree hp (Or.inr hm) htop (fun kn sz dp a6 a8 a9 a10 a11 a12 hm => nm_r (show nI d * nI d * nI d = nI (d * d * d) from by rw [pk_mul, pk_mul]) ?_)
  refine tm_w_next hp (Or.inr hm) (Or.inl ⟨rfl, rfl⟩) (fun m g1 g2 g3 kn sz dp a6 a8 a9 a10 a11 a12 hm => ⟨4097, ?_⟩) (fun g kn sz dp a6 a8 a9 a10 a11 a12 hm => ⟨1, ?_⟩)
  · have t := main 4097 m 0 kn sz dp a6 a8 a9 a10 a11 a12 (by omega) g2 (by omega) hm
    rw [zero 0 m g1 g3] at t
    exact t
  · exact stop 0 0 0 kn sz dp a6 a8 a9 a10 a11 a12 (by omega) (zero 0 4096 (by omega) (fun j h1 _ => g j h1)).symm hm
theorem tm_law_30 {post : Int32 → Prop} {xs : Nat → Int32} {L kc ks d : Nat} (hL : L ≤ 260) (P1 : post 1) (h7 : tm_im a7) : ∀ n i t x a1 a2 a3 a4 a5, i ≤ 40 → 40 - i < n → tm_stk t a1 a2 a3 a4 → tm_pic d x a1 a2 a5 → wL_law_30 post L xs (nI d) (nI (tm_N d)) kc ks n (nI i) (nI t) (nI x) (nI d) 0 sz dp a1 a2 a3 a4 a5 a6 a7 a8 a9 a10 a11 a12 a13 := by
  intro n
  induction n with
  | zero => intro i t x a1 a2 a3 a4 a5 _ hn; omega
  | succ n ih =>
    intro i t x a1 a2 a3 a4 a5 hi hn hs hp
    have h1 := hp.1
    have h3 := hp.2.1
    refine pk_le 40 i (fun c => ?_) (fun c => tm_w_cell hL (by omega) (fun r => tm_w_call r hs hp (fun r' t x a1 a2 a3 a4 a5 hs hp => nm_r (nI_1 i) (ih (i + 1) t x a1 a2 a3 a4 a5 (by omega) (by omega) hs hp))))
    by_cases e : t = 0
    · subst e
      refine br_t rfl (br_f (by decide) (tm_w_cell (i := 40) hL (by omega) (fun r => ⟨by decide, ?_⟩)))
      obtain ⟨j, hj, ej⟩ := pk_andE r (m := 15) 4 (by decide)
      have hj' : j < 16 := hj
      have e9 : nI j - nI j / 9 * 9 = nI (j % 9) := pk_rem (d := 9) (by omega) (by omega) (by omega)
      rw [ej, e9]
      refine tm_w_token (t := 0) (k := 1) hs hp (by omega) (by omega) (fun r t' a1 a2 a3 a4 hs hp hq => ?_)
      have h1t := hq rfl rfl (by omega)
      obtain ⟨u, rfl⟩ : ∃ u, t' = u + 1 := ⟨t' - 1, by omega⟩
      exact tm_law_80 hL P1 hs hp h7 rfl
    · obtain ⟨u, rfl⟩ : ∃ u, t = u + 1 := ⟨t - 1, by omega⟩
      have hc27 := tm_cnt_le (fun l => tm_is d l && tm_run d 0 a1 a2 (a3 u).toNatClampNeg (a4 u).toNatClampNeg 0 l) 27
      exact tm_w_lists (m := 0) h1 h3 (tm_N_pos d) (tm_stk_top hs) (fun sz dp a8 a9 a10 a11 a12 => br_t (nI_pos' (by omega)) (tm_law_80 hL P1 hs hp h7 rfl))
end
theorem i_vc (xs : Nat → Int32) (L : Nat) (hL : L ≤ 260) : wpL_law (fun r => r = 1) L xs := by
  refine ⟨13, 1129, by omega, by omega, tm_w_init (fun b7 h7 => tm_w_cell (i := 0) hL (by omega) (fun r => ⟨by decide, ?_⟩))⟩
  obtain ⟨j, hj, ej⟩ := pk_andE r (m := 7) 3 (by decide)
  have hj' : j < 8 := hj
  have e3 : nI j - nI j / 3 * 3 = nI (j % 3) := tm_r3 (by omega)
  refine nm_r (show _ = nI (1 + j % 3) from by rw [ej, e3]; exact nI_add 1 _) (tm_w_dom (by omega) (by omega) ⟨40, ?_⟩)
  exact tm_law_30 (post := fun r => r = 1) (d := 1 + j % 3) hL rfl h7 40 1 0 0 _ _ _ _ _ (by omega) (by omega) ⟨by omega, fun _ => 0, rfl, fun i hi => absurd hi (by omega)⟩ ⟨by omega, by omega, by omega, fun i hi => absurd hi (by omega)⟩
end

section
/-! bits of an Int32 (rows turned from kit/laws/BITS.to-paste) -/
def tc_bt (x : Int32) (i : Nat) : Bool := x.toBitVec.getLsbD i
theorem tc_bext {x y : Int32} (h : ∀ i, i < 32 → tc_bt x i = tc_bt y i) : x = y := Int32.toBitVec_inj.mp (BitVec.eq_of_getLsbD_eq (fun i hi => h i hi))
theorem tc_bor (x y : Int32) (i : Nat) : tc_bt (x ||| y) i = (tc_bt x i || tc_bt y i) := by unfold tc_bt; rw [Int32.toBitVec_or, BitVec.getLsbD_or]
theorem tc_band (x y : Int32) (i : Nat) : tc_bt (x &&& y) i = (tc_bt x i && tc_bt y i) := by unfold tc_bt; rw [Int32.toBitVec_and, BitVec.getLsbD_and]
theorem tc_b0 (i : Nat) : tc_bt 0 i = false := BitVec.getLsbD_zero
theorem tc_sl : ∀ n, n < 32 → ((nI n &&& 31).toBitVec.smod 32).toNat = n := by decide +kernel
theorem tc_bshl (n : Nat) (hn : n < 32) (x : Int32) {i : Nat} (hi : i < 32) : tc_bt (x <<< (nI n &&& 31)) i = (decide (n ≤ i) && tc_bt x (i - n)) := by
  unfold tc_bt
  rw [Int32.toBitVec_shiftLeft]
  show (x.toBitVec <<< ((nI n &&& 31).toBitVec.smod 32).toNat).getLsbD i = _
  rw [tc_sl n hn, BitVec.getLsbD_shiftLeft]
  rcases Nat.lt_or_ge i n with h | h
  · simp [h, Nat.not_le.mpr h]
  · simp [hi, h, Nat.not_lt.mpr h]
theorem tc_bshr (n : Nat) (hn : n < 32) (x : Int32) {i : Nat} (hi : i < 32) : tc_bt (x >>> (nI n &&& 31)) i = if n + i < 32 then tc_bt x (n + i) else tc_bt x 31 := by
  unfold tc_bt
  rw [Int32.toBitVec_shiftRight]
  show (x.toBitVec.sshiftRight ((nI n &&& 31).toBitVec.smod 32).toNat).getLsbD i = _
  rw [tc_sl n hn, BitVec.getLsbD_sshiftRight, BitVec.msb_eq_getLsbD_last]
  simp [hi]
theorem tc_b1 : ∀ k, k < 32 → ∀ i, i < 32 → tc_bt ((1 : Int32) <<< (nI k &&& 31)) i = decide (i = k) := by decide +kernel
theorem tc_bone : ∀ i, i < 32 → tc_bt 1 i = decide (i = 0) := by decide +kernel
theorem tc_b511 : ∀ i, i < 32 → tc_bt 511 i = decide (i < 9) := by decide +kernel
theorem tc_b255 : ∀ i, i < 32 → tc_bt 255 i = decide (i < 8) := by decide +kernel
theorem tc_b63 : ∀ i, i < 32 → tc_bt 63 i = decide (i < 6) := by decide +kernel
theorem tc_at (w : Int32) (k : Nat) (hk : k < 32) : (w >>> (nI k &&& 31)) &&& 1 = if tc_bt w k = true then 1 else 0 := by
  apply tc_bext
  intro j hj
  rw [tc_band, tc_bshr k hk w hj, tc_bone j hj]
  by_cases h0 : j = 0
  · subst h0
    rw [if_pos (by omega)]
    cases h : tc_bt w k
    · rw [if_neg (by decide), tc_b0]; rfl
    · rw [if_pos rfl, tc_bone 0 hj]; rfl
  · rw [decide_eq_false h0, Bool.and_false]
    by_cases h : tc_bt w k = true
    · rw [if_pos h, tc_bone j hj, decide_eq_false h0]
    · rw [if_neg h, tc_b0]
/-! balanced ternary digits of an integer -/
def tc_q (x : Int) : Nat → Int
  | 0 => x
  | n + 1 => (tc_q x n + 1) / 3
def tc_d (x : Int) (n : Nat) : Int := (tc_q x n + 1) % 3 - 1
def tc_m (x : Int) : Int := (x + 9841) % 19683 - 9841
theorem tc_qs (x : Int) (n : Nat) : tc_q x (n + 1) = (tc_q x n + 1) / 3 := rfl
theorem tc_dr (x : Int) (n : Nat) : tc_d x n = -1 ∨ tc_d x n = 0 ∨ tc_d x n = 1 := by unfold tc_d; omega
theorem tc_q3 (x : Int) (n : Nat) : tc_q x n = tc_d x n + 3 * tc_q x (n + 1) := by rw [tc_qs]; unfold tc_d; omega
theorem tc_q_add (x : Int) (a : Nat) : ∀ b, tc_q x (a + b) = tc_q (tc_q x a) b
  | 0 => rfl
  | b + 1 => by rw [← Nat.add_assoc, tc_qs, tc_qs, tc_q_add x a b]
theorem tc_d_add (x : Int) (a b : Nat) : tc_d x (a + b) = tc_d (tc_q x a) b := by unfold tc_d; rw [tc_q_add]
theorem tc_q_neg (x : Int) : ∀ n, tc_q (-x) n = - tc_q x n
  | 0 => rfl
  | n + 1 => by rw [tc_qs, tc_qs, tc_q_neg x n]; omega
theorem tc_d_neg (x : Int) (n : Nat) : tc_d (-x) n = - tc_d x n := by unfold tc_d; rw [tc_q_neg]; omega
theorem tc_q_up (x : Int) : ∀ n, tc_q (3 * x) (n + 1) = tc_q x n
  | 0 => by show (3 * x + 1) / 3 = x; omega
  | n + 1 => by rw [tc_qs, tc_q_up x n, tc_qs]
theorem tc_d_up (x : Int) (n : Nat) : tc_d (3 * x) (n + 1) = tc_d x n := by unfold tc_d; rw [tc_q_up]
theorem tc_d_up0 (x : Int) : tc_d (3 * x) 0 = 0 := by show (3 * x + 1) % 3 - 1 = 0; omega
theorem tc_q_cg (x : Int) : ∀ (i : Nat) (k : Int), tc_q (x + 3 ^ i * k) i = tc_q x i + k
  | 0, k => by show x + 3 ^ 0 * k = x + k; rw [Int.pow_zero, Int.one_mul]
  | i + 1, k => by
    have h : x + 3 ^ (i + 1) * k = x + 3 ^ i * (3 * k) := by rw [Int.pow_succ, Int.mul_assoc]
    rw [tc_qs, h, tc_q_cg x i, tc_qs]
    omega
theorem tc_d_cgn (x k : Int) (n i : Nat) (hi : i < n) : tc_d (x + 3 ^ n * k) i = tc_d x i := by
  have h : x + 3 ^ n * k = x + 3 ^ i * (3 * (3 ^ (n - 1 - i) * k)) := by
    have e : (3 : Int) ^ n = 3 ^ i * 3 * 3 ^ (n - 1 - i) := by
      rw [← Int.pow_succ, ← Int.pow_add, show i + 1 + (n - 1 - i) = n by omega]
    rw [e, Int.mul_assoc, Int.mul_assoc]
  unfold tc_d
  rw [h, tc_q_cg]
  generalize 3 ^ (n - 1 - i) * k = z
  omega
theorem tc_d_cg (x k : Int) (i : Nat) (hi : i < 9) : tc_d (x + 19683 * k) i = tc_d x i := tc_d_cgn x k 9 i hi
theorem tc_q_0 : ∀ n, tc_q 0 n = 0
  | 0 => rfl
  | n + 1 => by rw [tc_qs, tc_q_0 n]; rfl
theorem tc_d_hi (x : Int) (n i : Nat) (h : tc_q x n = 0) (hi : n ≤ i) : tc_d x i = 0 := by
  have e : n + (i - n) = i := by omega
  rw [← e, tc_d_add, h]
  unfold tc_d
  rw [tc_q_0]
  rfl
theorem tc_m_q (x : Int) : x - 19683 * tc_q x 9 = tc_m x := by
  have h1 : tc_q x 1 = (x + 1) / 3 := rfl
  have h2 := tc_qs x 1
  have h3 := tc_qs x 2
  have h4 := tc_qs x 3
  have h5 := tc_qs x 4
  have h6 := tc_qs x 5
  have h7 := tc_qs x 6
  have h8 := tc_qs x 7
  have h9 := tc_qs x 8
  unfold tc_m
  simp only [Nat.reduceAdd] at h2 h3 h4 h5 h6 h7 h8 h9
  omega
theorem tc_m_cg {x y k : Int} (h : y = x + 19683 * k) : tc_m y = tc_m x := by unfold tc_m; omega
theorem tc_m_k (x : Int) : ∃ k : Int, tc_m x = x + 19683 * k := ⟨-((x + 9841) / 19683), by unfold tc_m; omega⟩
theorem tc_m_r (x : Int) : -9841 ≤ tc_m x ∧ tc_m x ≤ 9841 := by unfold tc_m; omega
theorem tc_m_id {x : Int} (h1 : -9841 ≤ x) (h2 : x ≤ 9841) : tc_m x = x := by unfold tc_m; omega
theorem tc_m_m (x : Int) : tc_m (tc_m x) = tc_m x := tc_m_id (tc_m_r x).1 (tc_m_r x).2
theorem tc_m_add (x y : Int) : tc_m (tc_m x + tc_m y) = tc_m (x + y) := by unfold tc_m; omega
theorem tc_m_sub (x y : Int) : tc_m (tc_m x - tc_m y) = tc_m (x - y) := by unfold tc_m; omega
theorem tc_m_mul (x y : Int) : tc_m (tc_m x * tc_m y) = tc_m (x * y) := by
  obtain ⟨a, ha⟩ := tc_m_k x
  obtain ⟨b, hb⟩ := tc_m_k y
  refine tc_m_cg (k := a * y + b * x + 19683 * a * b) ?_
  rw [ha, hb]
  grind
/-! the word of an integer -/
def tc_set (w : Int32) (i : Nat) (t : Int) : Int32 := if t = 1 then w ||| ((1 : Int32) <<< (nI i &&& 31)) else if t = -1 then w ||| ((1 : Int32) <<< (nI (9 + i) &&& 31)) else w
def tc_wd (x : Int) : Nat → Int32
  | 0 => 0
  | n + 1 => tc_set (tc_wd x n) n (tc_d x n)
def tc_en (x : Int) : Int32 := tc_wd x 9
theorem tc_wd_b (x : Int) : ∀ n, n ≤ 9 → ∀ i, i < 32 → tc_bt (tc_wd x n) i = decide ((i < 9 ∧ i < n ∧ tc_d x i = 1) ∨ (9 ≤ i ∧ i < 9 + n ∧ tc_d x (i - 9) = -1)) := by
  intro n
  induction n with
  | zero =>
    intro _ i hi
    show tc_bt 0 i = _
    rw [tc_b0, decide_eq_false (by omega)]
  | succ n ih =>
    intro hn i hi
    have IH := ih (by omega) i hi
    show tc_bt (tc_set (tc_wd x n) n (tc_d x n)) i = _
    have e1 : i = n → tc_d x i = tc_d x n := fun e => by rw [e]
    have e2 : i = 9 + n → tc_d x (i - 9) = tc_d x n := fun e => by rw [e, Nat.add_sub_cancel_left]
    unfold tc_set
    rcases tc_dr x n with h | h | h
    · rw [if_neg (by omega), if_pos h, tc_bor, IH, tc_b1 (9 + n) (by omega) i hi, ← Bool.decide_or]
      apply decide_eq_decide.mpr
      omega
    · rw [if_neg (by omega), if_neg (by omega), IH]
      apply decide_eq_decide.mpr
      omega
    · rw [if_pos h, tc_bor, IH, tc_b1 n (by omega) i hi, ← Bool.decide_or]
      apply decide_eq_decide.mpr
      omega
theorem tc_en_b (x : Int) (i : Nat) (hi : i < 32) : tc_bt (tc_en x) i = decide ((i < 9 ∧ tc_d x i = 1) ∨ (9 ≤ i ∧ i < 18 ∧ tc_d x (i - 9) = -1)) := by
  unfold tc_en
  rw [tc_wd_b x 9 (by omega) i hi]
  apply decide_eq_decide.mpr
  omega
theorem tc_en_0 : tc_en 0 = 0 := by decide +kernel
theorem tc_wd_cg {x y : Int} : ∀ n, (∀ i, i < n → tc_d x i = tc_d y i) → tc_wd x n = tc_wd y n
  | 0, _ => rfl
  | n + 1, h => by
    show tc_set (tc_wd x n) n (tc_d x n) = tc_set (tc_wd y n) n (tc_d y n)
    rw [tc_wd_cg n (fun i hi => h i (by omega)), h n (by omega)]
theorem tc_en_cg {x y k : Int} (h : y = x + 19683 * k) : tc_en y = tc_en x := by
  subst h
  exact tc_wd_cg 9 (fun i hi => tc_d_cg x k i hi)
theorem tc_en_m (x : Int) : tc_en (tc_m x) = tc_en x := by
  obtain ⟨k, hk⟩ := tc_m_k x
  exact tc_en_cg hk
/-! signed ints -/
def tc_sI (x : Int) : Int32 := Int32.ofInt x
theorem tc_sI_t {x : Int} (h1 : -2147483648 ≤ x) (h2 : x < 2147483648) : (tc_sI x).toInt = x := Int32.toInt_ofInt_of_le h1 h2
theorem tc_sI_n (n : Nat) : tc_sI (n : Int) = nI n := Int32.ofInt_eq_ofNat
theorem tc_sI_add (a b : Int) : tc_sI a + tc_sI b = tc_sI (a + b) := (Int32.ofInt_add a b).symm
theorem tc_sI_sub (a b : Int) : tc_sI a - tc_sI b = tc_sI (a - b) := (Int32.ofInt_sub a b).symm
theorem tc_sI_mul (a b : Int) : tc_sI a * tc_sI b = tc_sI (a * b) := (Int32.ofInt_mul a b).symm
theorem tc_sI_le {a b : Int} (ha1 : -2147483648 ≤ a) (ha2 : a < 2147483648) (hb1 : -2147483648 ≤ b) (hb2 : b < 2147483648) : tc_sI a ≤ tc_sI b ↔ a ≤ b := by
  rw [Int32.le_iff_toInt_le, tc_sI_t ha1 ha2, tc_sI_t hb1 hb2]
theorem tc_sI_lt {a b : Int} (ha1 : -2147483648 ≤ a) (ha2 : a < 2147483648) (hb1 : -2147483648 ≤ b) (hb2 : b < 2147483648) : tc_sI a < tc_sI b ↔ a < b := by
  rw [Int32.lt_iff_toInt_lt, tc_sI_t ha1 ha2, tc_sI_t hb1 hb2]
theorem tc_sI_eq {a b : Int} (ha1 : -2147483648 ≤ a) (ha2 : a < 2147483648) (hb1 : -2147483648 ≤ b) (hb2 : b < 2147483648) : tc_sI a = tc_sI b ↔ a = b := by
  rw [← Int32.toInt_inj, tc_sI_t ha1 ha2, tc_sI_t hb1 hb2]
/-! words under the bit operations -/
theorem tc_tr (x : Int) (i : Nat) (hi : i < 9) : ((tc_en x >>> (nI i &&& 31)) &&& 1) - ((tc_en x >>> ((9 + nI i) &&& 31)) &&& 1) = tc_sI (tc_d x i) := by
  rw [show (9 : Int32) + nI i = nI (9 + i) from nI_add 9 i, tc_at _ i (by omega), tc_at _ (9 + i) (by omega), tc_en_b x i (by omega), tc_en_b x (9 + i) (by omega), Nat.add_sub_cancel_left]
  rcases tc_dr x i with h | h | h
  · rw [h, decide_eq_false (by omega), decide_eq_true (by omega)]; decide
  · rw [h, decide_eq_false (by omega), decide_eq_false (by omega)]; decide
  · rw [h, decide_eq_true (by omega), decide_eq_false (by omega)]; decide
theorem tc_neg (x : Int) : ((tc_en x &&& 511) <<< ((9 : Int32) &&& 31)) ||| (tc_en x >>> ((9 : Int32) &&& 31)) = tc_en (-x) := by
  apply tc_bext
  intro i hi
  rw [tc_bor, show (9 : Int32) &&& 31 = nI 9 &&& 31 from rfl, tc_bshl 9 (by omega) _ hi, tc_bshr 9 (by omega) _ hi, tc_band, tc_en_b (-x) i hi, tc_d_neg, tc_d_neg, tc_en_b x (i - 9) (by omega), tc_b511 (i - 9) (by omega)]
  by_cases h : 9 + i < 32
  · rw [if_pos h, tc_en_b x (9 + i) h, Nat.add_sub_cancel_left, ← Bool.decide_and, ← Bool.decide_and, ← Bool.decide_or]
    apply decide_eq_decide.mpr
    omega
  · rw [if_neg h, tc_en_b x 31 (by omega), ← Bool.decide_and, ← Bool.decide_and, ← Bool.decide_or]
    apply decide_eq_decide.mpr
    omega
theorem tc_up (x : Int) : ((tc_en x &&& 255) <<< ((1 : Int32) &&& 31)) ||| (((tc_en x >>> ((9 : Int32) &&& 31)) &&& 255) <<< ((10 : Int32) &&& 31)) = tc_en (3 * x) := by
  apply tc_bext
  intro i hi
  rw [tc_bor, show (9 : Int32) &&& 31 = nI 9 &&& 31 from rfl, show (1 : Int32) &&& 31 = nI 1 &&& 31 from rfl, show (10 : Int32) &&& 31 = nI 10 &&& 31 from rfl, tc_bshl 1 (by omega) _ hi, tc_bshl 10 (by omega) _ hi, tc_band, tc_band, tc_bshr 9 (by omega) _ (show i - 10 < 32 by omega), tc_en_b (3 * x) i hi, tc_en_b x (i - 1) (by omega), tc_b255 (i - 1) (by omega), tc_b255 (i - 10) (by omega), if_pos (by omega), tc_en_b x (9 + (i - 10)) (by omega), Nat.add_sub_cancel_left]
  rw [← Bool.decide_and, ← Bool.decide_and, ← Bool.decide_and, ← Bool.decide_and, ← Bool.decide_or]
  apply decide_eq_decide.mpr
  have e0 := tc_d_up0 x
  have e1 : i = 0 → tc_d (3 * x) i = 0 := fun e => by rw [e]; exact e0
  have e2 : 1 ≤ i → tc_d (3 * x) i = tc_d x (i - 1) := fun e => by
    have := tc_d_up x (i - 1)
    rwa [Nat.sub_add_cancel e] at this
  have e3 : i = 9 → tc_d (3 * x) (i - 9) = 0 := fun e => by rw [e]; exact e0
  have e4 : 10 ≤ i → tc_d (3 * x) (i - 9) = tc_d x (i - 10) := fun e => by
    have := tc_d_up x (i - 10)
    rwa [show i - 10 + 1 = i - 9 by omega] at this
  have e5 : 10 ≤ i → i - 1 - 9 = i - 10 := fun e => by omega
  omega
/-! the sign -/
def tc_p (x : Int) : Nat → Nat
  | 0 => 0
  | n + 1 => if tc_d x n = 1 then 2 ^ n + tc_p x n else tc_p x n
theorem tc_p_lt (x : Int) : ∀ n, tc_p x n < 2 ^ n
  | 0 => by show 0 < 2 ^ 0; decide
  | n + 1 => by
    have h := tc_p_lt x n
    have e : 2 ^ (n + 1) = 2 * 2 ^ n := by rw [Nat.pow_succ, Nat.mul_comm]
    show (if tc_d x n = 1 then 2 ^ n + tc_p x n else tc_p x n) < 2 ^ (n + 1)
    rw [e]
    split <;> omega
theorem tc_p_b (x : Int) : ∀ n i, (tc_p x n).testBit i = decide (i < n ∧ tc_d x i = 1)
  | 0, i => by
    show Nat.testBit 0 i = _
    rw [Nat.zero_testBit, decide_eq_false (by omega)]
  | n + 1, i => by
    have IH := tc_p_b x n i
    have hl := tc_p_lt x n
    show (if tc_d x n = 1 then 2 ^ n + tc_p x n else tc_p x n).testBit i = _
    have e1 : i = n → tc_d x i = tc_d x n := fun e => by rw [e]
    by_cases h : tc_d x n = 1
    · rw [if_pos h]
      rcases Nat.lt_trichotomy i n with hi | hi | hi
      · rw [Nat.testBit_two_pow_add_gt hi, IH]
        apply decide_eq_decide.mpr
        omega
      · subst hi
        rw [Nat.testBit_two_pow_add_eq, IH, decide_eq_false (by omega), decide_eq_true (by omega)]
        rfl
      · rw [decide_eq_false (by omega)]
        apply Nat.testBit_lt_two_pow
        have h2 : 2 ^ (n + 1) ≤ 2 ^ i := Nat.pow_le_pow_right (by decide) hi
        rw [Nat.pow_succ] at h2
        omega
    · rw [if_neg h, IH]
      apply decide_eq_decide.mpr
      omega
theorem tc_b_nI (m i : Nat) (hi : i < 32) : tc_bt (nI m) i = m.testBit i := by
  show (BitVec.ofNat 32 m).getLsbD i = _
  rw [BitVec.getLsbD_ofNat, decide_eq_true hi, Bool.true_and]
theorem tc_plus (x : Int) : tc_en x &&& 511 = nI (tc_p x 9) := by
  apply tc_bext
  intro i hi
  rw [tc_band, tc_en_b x i hi, tc_b511 i hi, tc_b_nI _ i hi, tc_p_b, ← Bool.decide_and]
  apply decide_eq_decide.mpr
  omega
theorem tc_minus (x : Int) : tc_en x >>> ((9 : Int32) &&& 31) = nI (tc_p (-x) 9) := by
  apply tc_bext
  intro i hi
  rw [show (9 : Int32) &&& 31 = nI 9 &&& 31 from rfl, tc_bshr 9 (by omega) _ hi, tc_b_nI _ i hi, tc_p_b, tc_d_neg]
  by_cases h : 9 + i < 32
  · rw [if_pos h, tc_en_b x (9 + i) h, Nat.add_sub_cancel_left]
    apply decide_eq_decide.mpr
    omega
  · rw [if_neg h, tc_en_b x 31 (by omega)]
    apply decide_eq_decide.mpr
    omega
theorem tc_sg_step (T s s' W p m p' m' d : Int) (hp0 : 0 ≤ p) (hm0 : 0 ≤ m) (hp : p < W) (hm : m < W) (hs : -T < 2 * s ∧ 2 * s < T) (hl : p < m ↔ s < 0) (he : p = m ↔ s = 0)
    (h : (d = 1 ∧ s' = s + T ∧ p' = W + p ∧ m' = m) ∨ (d = 0 ∧ s' = s ∧ p' = p ∧ m' = m) ∨ (d = -1 ∧ s' = s - T ∧ p' = p ∧ m' = W + m)) :
    (-(3 * T) < 2 * s' ∧ 2 * s' < 3 * T) ∧ (p' < m' ↔ s' < 0) ∧ (p' = m' ↔ s' = 0) := by
  rcases h with h | h | h
  · obtain ⟨_, rfl, rfl, rfl⟩ := h
    omega
  · obtain ⟨_, rfl, rfl, rfl⟩ := h
    omega
  · obtain ⟨_, rfl, rfl, rfl⟩ := h
    omega
theorem tc_sg (x : Int) : ∀ n : Nat, (-(3 ^ n) < 2 * (x - 3 ^ n * tc_q x n) ∧ 2 * (x - 3 ^ n * tc_q x n) < 3 ^ n) ∧ ((tc_p x n : Int) < (tc_p (-x) n : Int) ↔ x - 3 ^ n * tc_q x n < 0) ∧ ((tc_p x n : Int) = (tc_p (-x) n : Int) ↔ x - 3 ^ n * tc_q x n = 0)
  | 0 => by
    have e : x - 3 ^ 0 * tc_q x 0 = 0 := by show x - 3 ^ 0 * x = 0; rw [Int.pow_zero]; omega
    rw [e]
    show _ ∧ (((0 : Nat) : Int) < ((0 : Nat) : Int) ↔ _) ∧ (((0 : Nat) : Int) = ((0 : Nat) : Int) ↔ _)
    rw [Int.pow_zero]
    omega
  | n + 1 => by
    obtain ⟨h1, h2, h3⟩ := tc_sg x n
    have hl := tc_p_lt x n
    have hm := tc_p_lt (-x) n
    have e : x - 3 ^ (n + 1) * tc_q x (n + 1) = (x - 3 ^ n * tc_q x n) + 3 ^ n * tc_d x n := by
      rw [tc_q3 x n, Int.pow_succ]
      grind
    have e3 : (3 : Int) ^ (n + 1) = 3 * 3 ^ n := by rw [Int.pow_succ, Int.mul_comm]
    have k := tc_sg_step (3 ^ n) (x - 3 ^ n * tc_q x n) (x - 3 ^ (n + 1) * tc_q x (n + 1)) ((2 ^ n : Nat) : Int) (tc_p x n) (tc_p (-x) n) (tc_p x (n + 1)) (tc_p (-x) (n + 1)) (tc_d x n) (by omega) (by omega) (by omega) (by omega) h1 h2 h3
    have k1 : (tc_p x (n + 1)) = if tc_d x n = 1 then 2 ^ n + tc_p x n else tc_p x n := rfl
    have k2 : (tc_p (-x) (n + 1)) = if tc_d (-x) n = 1 then 2 ^ n + tc_p (-x) n else tc_p (-x) n := rfl
    rw [tc_d_neg] at k2
    have k' := k (by
      rcases tc_dr x n with h | h | h
      · refine Or.inr (Or.inr ⟨h, ?_, ?_, ?_⟩)
        · rw [e, h]; omega
        · rw [k1, if_neg (by omega)]
        · rw [k2, if_pos (by omega)]; exact Int.natCast_add _ _
      · refine Or.inr (Or.inl ⟨h, ?_, ?_, ?_⟩)
        · rw [e, h]; omega
        · rw [k1, if_neg (by omega)]
        · rw [k2, if_neg (by omega)]
      · refine Or.inl ⟨h, ?_, ?_, ?_⟩
        · rw [e, h]; omega
        · rw [k1, if_pos h]; exact Int.natCast_add _ _
        · rw [k2, if_neg (by omega)])
    rw [e3]
    rw [e3] at k'
    exact k'
theorem tc_sign (x : Int) : (tc_p x 9 < tc_p (-x) 9 ↔ tc_m x < 0) ∧ (tc_p x 9 = tc_p (-x) 9 ↔ tc_m x = 0) := by
  have h := (tc_sg x 9).2
  rw [show (3 : Int) ^ 9 = 19683 from rfl, tc_m_q] at h
  omega
/-! a word's upper three trits and lower six -/
theorem tc_hi (op c : Int) (h1 : -13 ≤ op) (h2 : op ≤ 13) (h3 : -364 ≤ c) (h4 : c ≤ 364) : ((tc_en (729 * op + c) &&& 511) >>> ((6 : Int32) &&& 31)) ||| ((tc_en (729 * op + c) >>> ((15 : Int32) &&& 31)) <<< ((9 : Int32) &&& 31)) = tc_en op := by
  have hq : tc_q (729 * op + c) 6 = op := by
    have g1 : tc_q (729 * op + c) 1 = (729 * op + c + 1) / 3 := rfl
    have g2 := tc_qs (729 * op + c) 1
    have g3 := tc_qs (729 * op + c) 2
    have g4 := tc_qs (729 * op + c) 3
    have g5 := tc_qs (729 * op + c) 4
    have g6 := tc_qs (729 * op + c) 5
    simp only [Nat.reduceAdd] at g2 g3 g4 g5 g6
    omega
  have h0 : tc_q op 3 = 0 := by
    have g1 : tc_q op 1 = (op + 1) / 3 := rfl
    have g2 := tc_qs op 1
    have g3 := tc_qs op 2
    simp only [Nat.reduceAdd] at g2 g3
    omega
  have hd : ∀ j, tc_d (729 * op + c) (6 + j) = tc_d op j := fun j => by rw [tc_d_add, hq]
  have hz : ∀ j, 3 ≤ j → tc_d op j = 0 := fun j hj => tc_d_hi op 3 j h0 hj
  generalize 729 * op + c = N at *
  apply tc_bext
  intro i hi
  rw [tc_bor, show (9 : Int32) &&& 31 = nI 9 &&& 31 from rfl, show (6 : Int32) &&& 31 = nI 6 &&& 31 from rfl, show (15 : Int32) &&& 31 = nI 15 &&& 31 from rfl, tc_bshr 6 (by omega) _ hi, tc_bshl 9 (by omega) _ hi, tc_bshr 15 (by omega) _ (show i - 9 < 32 by omega), tc_en_b op i hi, tc_band, tc_band, tc_b511 31 (by omega), tc_en_b N 31 (by omega)]
  have z1 := hz i
  have z2 := hz (i - 9)
  have z3 := hd i
  have z4 := hd (i - 9)
  rcases Nat.lt_or_ge i 9 with g | g
  · rw [if_pos (by omega), if_pos (by omega), tc_en_b N (6 + i) (by omega), tc_b511 (6 + i) (by omega), decide_eq_false (show ¬ 9 ≤ i by omega), Bool.false_and, Bool.or_false, ← Bool.decide_and]
    apply decide_eq_decide.mpr
    omega
  · rcases Nat.lt_or_ge i 26 with g2 | g2
    · rw [if_pos (by omega), tc_b511 (6 + i) (by omega), decide_eq_false (show ¬ 6 + i < 9 by omega), Bool.and_false, Bool.false_or, decide_eq_true g, Bool.true_and]
      have z5 : 15 + (i - 9) - 9 = 6 + (i - 9) := by omega
      rw [if_pos (by omega), tc_en_b N (15 + (i - 9)) (by omega), z5, z4]
      apply decide_eq_decide.mpr
      omega
    · rw [if_neg (by omega), if_neg (by omega), decide_eq_false (show ¬ ((31 : Nat) < 9) by omega), Bool.and_false, Bool.false_or]
      rw [decide_eq_false (show ¬ (((31 : Nat) < 9 ∧ tc_d N 31 = 1) ∨ (9 ≤ 31 ∧ 31 < 18 ∧ tc_d N (31 - 9) = -1)) by omega), Bool.and_false, decide_eq_false (by omega)]
theorem tc_lo (op c : Int) (h3 : -364 ≤ c) (h4 : c ≤ 364) : (tc_en (729 * op + c) &&& 63) ||| (((tc_en (729 * op + c) >>> ((9 : Int32) &&& 31)) &&& 63) <<< ((9 : Int32) &&& 31)) = tc_en c := by
  have h0 : tc_q c 6 = 0 := by
    have g1 : tc_q c 1 = (c + 1) / 3 := rfl
    have g2 := tc_qs c 1
    have g3 := tc_qs c 2
    have g4 := tc_qs c 3
    have g5 := tc_qs c 4
    have g6 := tc_qs c 5
    simp only [Nat.reduceAdd] at g2 g3 g4 g5 g6
    omega
  have hd : ∀ j, j < 6 → tc_d (729 * op + c) j = tc_d c j := fun j hj => by
    have := tc_d_cgn c op 6 j hj
    rwa [show c + 3 ^ 6 * op = 729 * op + c by omega] at this
  have hz : ∀ j, 6 ≤ j → tc_d c j = 0 := fun j hj => tc_d_hi c 6 j h0 hj
  generalize 729 * op + c = N at *
  apply tc_bext
  intro i hi
  rw [tc_bor, show (9 : Int32) &&& 31 = nI 9 &&& 31 from rfl, tc_band, tc_bshl 9 (by omega) _ hi, tc_band, tc_bshr 9 (by omega) _ (show i - 9 < 32 by omega), tc_en_b N i hi, tc_en_b c i hi, tc_b63 i hi, tc_b63 (i - 9) (by omega)]
  have z1 := hz i
  have z2 := hz (i - 9)
  have z3 := hd i
  have z4 := hd (i - 9)
  rcases Nat.lt_or_ge i 9 with g | g
  · rw [decide_eq_false (show ¬ 9 ≤ i by omega), Bool.false_and, Bool.or_false, ← Bool.decide_and]
    apply decide_eq_decide.mpr
    omega
  · rw [if_pos (by omega), tc_en_b N (9 + (i - 9)) (by omega), Nat.add_sub_cancel_left, ← Bool.decide_and, ← Bool.decide_and, ← Bool.decide_and, ← Bool.decide_or]
    apply decide_eq_decide.mpr
    omega
end
section
/-! the methods over words -/
theorem tc_withTrit {post : Int32 → Prop} {u : St2} {w : Int32} {i : Nat} {t : Int} {t32 : Int32} (ht : t = -1 ∨ t = 0 ∨ t = 1) (h32 : t32 = tc_sI t) (H : post (tc_set w i t)) : wpX_withTrit post u w (nI i) t32 := by
  obtain ⟨f1, f2, f3, f4, f5, f6, f7, f8, f9, f10, a1, a2, a3, a4, a5, a6, a7, a8, a9, a10, a11, a12, a13⟩ := u
  show ((t32 = 1 → (post (w ||| ((1 : Int32) <<< (nI i &&& 31))))) ∧ (¬ t32 = 1 → (((t32 = (-1) → (post (w ||| ((1 : Int32) <<< ((9 + nI i) &&& 31))))) ∧ (¬ t32 = (-1) → (post w))))))
  rw [show (9 : Int32) + nI i = nI (9 + i) from nI_add 9 i]
  unfold tc_set at H
  subst h32
  rcases ht with rfl | rfl | rfl
  · rw [if_neg (by decide), if_pos rfl] at H
    exact br_f (by decide) (br_t (by decide) H)
  · rw [if_neg (by decide), if_neg (by decide)] at H
    exact br_f (by decide) (br_f (by decide) H)
  · rw [if_pos rfl] at H
    exact br_t (by decide) H
theorem tc_w42 {post : Int32 → Prop} {J : Int64 → Int32 → Int32 → Prop} {y : Int64} {w : Int32} {i : Nat} {t : Int} {t32 : Int32} {f1 f2 f3 f4 f5 f6 f7 f8 f9 f10 : Int32} {a1 a2 a3 a4 a5 a6 a7 a8 a9 a10 a11 a12 a13 : Nat → Int32} (ht : t = -1 ∨ t = 0 ∨ t = 1) (h32 : t32 = tc_sI t) (H : J ((y - (tc_sI t).toInt64) / 3) (tc_set w i t) (nI (i + 1))) : wX_wordOf_42 post J y w (nI i) t32 f1 f2 f3 f4 f5 f6 f7 f8 f9 f10 a1 a2 a3 a4 a5 a6 a7 a8 a9 a10 a11 a12 a13 := by
  unfold wX_wordOf_42
  refine tc_withTrit ht h32 ⟨by decide, nm_r (by rw [h32]) (nm_r (nI_1 i) H)⟩
theorem tc_w32 {post : Int32 → Prop} {J : Int64 → Int32 → Int32 → Prop} {y : Int64} {w : Int32} {i : Nat} {t d : Int} {t32 : Int32} {f1 f2 f3 f4 f5 f6 f7 f8 f9 f10 : Int32} {a1 a2 a3 a4 a5 a6 a7 a8 a9 a10 a11 a12 a13 : Nat → Int32} (h32 : t32 = tc_sI t) (h : (t = -2 ∧ d = 1) ∨ (t = d ∧ (t = -1 ∨ t = 0 ∨ t = 1))) (H : J ((y - (tc_sI d).toInt64) / 3) (tc_set w i d) (nI (i + 1))) : wX_wordOf_32 post J y w (nI i) t32 f1 f2 f3 f4 f5 f6 f7 f8 f9 f10 a1 a2 a3 a4 a5 a6 a7 a8 a9 a10 a11 a12 a13 := by
  unfold wX_wordOf_32
  rcases h with ⟨h, hd⟩ | ⟨h, ht⟩
  · refine br_t (by rw [h32, h]; decide) (tc_w42 (t := d) (by omega) (by rw [hd]; decide) H)
  · subst h
    refine br_f (by rw [h32]; rcases ht with rfl | rfl | rfl <;> decide) (tc_w42 ht h32 H)
theorem tc_td (Y k : Int) : (0 ≤ Y ∧ Y.tdiv k = Y / k) ∨ (Y < 0 ∧ Y.tdiv k = -((-Y) / k)) := by
  rcases Int.lt_or_le Y 0 with h | h
  · refine Or.inr ⟨h, ?_⟩
    have e : Y.tdiv k = -((-Y).tdiv k) := by rw [Int.neg_tdiv, Int.neg_neg]
    rw [e, Int.tdiv_eq_ediv_of_nonneg (by omega)]
  · exact Or.inl ⟨h, Int.tdiv_eq_ediv_of_nonneg h⟩
theorem tc_bm {x : Int} (h1 : -4611686018427387904 ≤ x) (h2 : x ≤ 4611686018427387904) : x.bmod (2 ^ 64) = x := Int.bmod_eq_of_le (by omega) (by omega)
theorem tc_rem3 {y : Int64} {Y : Int} (hy : y.toInt = Y) (h1 : -1099511627776 ≤ Y) (h2 : Y ≤ 1099511627776) : (y - y / 3 * 3).toInt = Y - Y.tdiv 3 * 3 := by
  rw [Int64.toInt_sub, Int64.toInt_mul, Int64.toInt_div, show (3 : Int64).toInt = 3 from rfl, hy]
  have hd : -1099511627776 ≤ Y.tdiv 3 ∧ Y.tdiv 3 ≤ 1099511627776 := by
    rcases tc_td Y 3 with ⟨_, e⟩ | ⟨_, e⟩ <;> rw [e] <;> omega
  rw [tc_bm (x := Y.tdiv 3) (by omega) (by omega), tc_bm (x := Y.tdiv 3 * 3) (by omega) (by omega), tc_bm (by omega) (by omega)]
theorem tc_next3 {y : Int64} {Y d : Int} (hy : y.toInt = Y) (h1 : -1099511627776 ≤ Y) (h2 : Y ≤ 1099511627776) (hd : d = (Y + 1) % 3 - 1) : ((y - (tc_sI d).toInt64) / 3).toInt = (Y + 1) / 3 := by
  have e : (tc_sI d).toInt64.toInt = d := by rw [Int32.toInt_toInt64, tc_sI_t (by omega) (by omega)]
  rw [Int64.toInt_div, Int64.toInt_sub, show (3 : Int64).toInt = 3 from rfl, hy, e, tc_bm (x := Y - d) (by omega) (by omega)]
  rcases tc_td (Y - d) 3 with ⟨_, e⟩ | ⟨_, e⟩ <;> rw [e, tc_bm (by omega) (by omega)] <;> omega
theorem tc_q_bd {x K : Int} (hK : 1 ≤ K) (h1 : -K ≤ x) (h2 : x ≤ K) : ∀ i, -K ≤ tc_q x i ∧ tc_q x i ≤ K
  | 0 => ⟨h1, h2⟩
  | i + 1 => by
    have h := tc_q_bd hK h1 h2 i
    rw [tc_qs]
    omega
theorem tc_wordOf_l {post : Int32 → Prop} {f1 f2 f3 f4 f5 f6 f7 f8 f9 f10 : Int32} {a1 a2 a3 a4 a5 a6 a7 a8 a9 a10 a11 a12 a13 : Nat → Int32} {x : Int} (hx1 : -1099511627776 ≤ x) (hx2 : x ≤ 1099511627776) (H : post (tc_en x)) : ∀ (j i : Nat) (y : Int64), i + j = 9 → y.toInt = tc_q x i → wX_wordOf_8 post f1 f2 f3 f4 f5 f6 f7 f8 f9 f10 a1 a2 a3 a4 a5 a6 a7 a8 a9 a10 a11 a12 a13 (j + 1) y (tc_wd x i) (nI i)
  | 0, i, y, hi, hy => by
    obtain rfl : i = 9 := by omega
    exact br_t (by decide) H
  | j + 1, i, y, hi, hy => by
    have hb := tc_q_bd (K := 1099511627776) (by decide) hx1 hx2 i
    have IH := tc_wordOf_l (post := post) (f1 := f1) (f2 := f2) (f3 := f3) (f4 := f4) (f5 := f5) (f6 := f6) (f7 := f7) (f8 := f8) (f9 := f9) (f10 := f10) (a1 := a1) (a2 := a2) (a3 := a3) (a4 := a4) (a5 := a5) (a6 := a6) (a7 := a7) (a8 := a8) (a9 := a9) (a10 := a10) (a11 := a11) (a12 := a12) (a13 := a13) hx1 hx2 H j (i + 1) ((y - (tc_sI (tc_d x i)).toInt64) / 3) (by omega) (tc_next3 hy hb.1 hb.2 rfl)
    have hr := tc_rem3 hy hb.1 hb.2
    have e : (y - y / 3 * 3).toInt32 = tc_sI (tc_q x i - (tc_q x i).tdiv 3 * 3) := by
      show Int32.ofInt (y - y / 3 * 3).toInt = _
      rw [hr]; rfl
    have hd : tc_d x i = (tc_q x i + 1) % 3 - 1 := rfl
    have ht := tc_td (tc_q x i) 3
    refine br_f (nI_ge (b := 9) (by omega) (by decide)) ⟨by decide, nm_r e ?_⟩
    by_cases h2 : tc_q x i - (tc_q x i).tdiv 3 * 3 = 2
    · rw [h2]
      exact br_t (by decide) (tc_w32 (t := -1) (d := tc_d x i) (by decide) (by omega) IH)
    · refine br_f ?_ (tc_w32 (t := tc_q x i - (tc_q x i).tdiv 3 * 3) (d := tc_d x i) rfl (by omega) IH)
      intro g
      have g' := (tc_sI_eq (a := tc_q x i - (tc_q x i).tdiv 3 * 3) (b := 2) (by omega) (by omega) (by decide) (by decide)).mp g
      exact h2 g'
theorem tc_wordOf {post : Int32 → Prop} {u : St2} {y : Int64} (x : Int) (hy : y.toInt = x) (hx1 : -1099511627776 ≤ x) (hx2 : x ≤ 1099511627776) (H : post (tc_en x)) : wpX_wordOf post u y := by
  obtain ⟨f1, f2, f3, f4, f5, f6, f7, f8, f9, f10, a1, a2, a3, a4, a5, a6, a7, a8, a9, a10, a11, a12, a13⟩ := u
  exact ⟨10, tc_wordOf_l hx1 hx2 H 9 0 y rfl hy⟩
theorem tc_tritOf {post : Int32 → Prop} {u : St2} {x : Int} {i : Nat} (hi : i < 9) (H : post (tc_sI (tc_d x i))) : wpX_tritOf post u (tc_en x) (nI i) := by
  obtain ⟨f1, f2, f3, f4, f5, f6, f7, f8, f9, f10, a1, a2, a3, a4, a5, a6, a7, a8, a9, a10, a11, a12, a13⟩ := u
  show post (((tc_en x >>> (nI i &&& 31)) &&& 1) - ((tc_en x >>> ((9 + nI i) &&& 31)) &&& 1))
  rw [tc_tr x i hi]
  exact H
theorem tc_valueOf_l {post : Int32 → Prop} {f1 f2 f3 f4 f5 f6 f7 f8 f9 f10 : Int32} {a1 a2 a3 a4 a5 a6 a7 a8 a9 a10 a11 a12 a13 : Nat → Int32} {x : Int} (H : post (tc_sI (tc_m x))) : ∀ (j : Nat) (v : Int), j ≤ 9 → v = tc_q x j - 3 ^ (9 - j) * tc_q x 9 → wX_valueOf_5 post (tc_en x) f1 f2 f3 f4 f5 f6 f7 f8 f9 f10 a1 a2 a3 a4 a5 a6 a7 a8 a9 a10 a11 a12 a13 (j + 1) (tc_sI v) (nI j + (-1))
  | 0, v, hj, hv => by
    have e : v = tc_m x := by
      rw [hv, ← tc_m_q]; rfl
    rw [e]
    exact br_t (by decide) H
  | j + 1, v, hj, hv => by
    rw [pk_m1]
    have e : 3 * v + tc_d x j = tc_q x j - 3 ^ (9 - j) * tc_q x 9 := by
      have h1 := tc_q3 x j
      have h2 : (3 : Int) ^ (9 - j) = 3 * 3 ^ (9 - (j + 1)) := by
        rw [show 9 - j = (9 - (j + 1)) + 1 by omega, Int.pow_succ, Int.mul_comm]
      rw [h1, hv, h2]
      grind
    have IH := tc_valueOf_l (post := post) (f1 := f1) (f2 := f2) (f3 := f3) (f4 := f4) (f5 := f5) (f6 := f6) (f7 := f7) (f8 := f8) (f9 := f9) (f10 := f10) (a1 := a1) (a2 := a2) (a3 := a3) (a4 := a4) (a5 := a5) (a6 := a6) (a7 := a7) (a8 := a8) (a9 := a9) (a10 := a10) (a11 := a11) (a12 := a12) (a13 := a13) (x := x) H j (3 * v + tc_d x j) (by omega) e
    refine br_f (nI_pos (by omega)) (tc_tritOf (by omega) (nm_r ?_ (nm_e IH)))
    rw [← tc_sI_add, ← tc_sI_mul]
    rfl
theorem tc_valueOf {post : Int32 → Prop} {u : St2} (x : Int) (H : post (tc_sI (tc_m x))) : wpX_valueOf post u (tc_en x) := by
  obtain ⟨f1, f2, f3, f4, f5, f6, f7, f8, f9, f10, a1, a2, a3, a4, a5, a6, a7, a8, a9, a10, a11, a12, a13⟩ := u
  exact ⟨10, tc_valueOf_l H 9 0 (by omega) (by rw [Nat.sub_self, Int.pow_zero]; omega)⟩
theorem tc_negated {post : Int32 → Prop} {u : St2} {x : Int} (H : post (tc_en (-x))) : wpX_negated post u (tc_en x) := by
  obtain ⟨f1, f2, f3, f4, f5, f6, f7, f8, f9, f10, a1, a2, a3, a4, a5, a6, a7, a8, a9, a10, a11, a12, a13⟩ := u
  show post (((tc_en x &&& 511) <<< ((9 : Int32) &&& 31)) ||| (tc_en x >>> ((9 : Int32) &&& 31)))
  rw [tc_neg]
  exact H
theorem tc_shiftedUp {post : Int32 → Prop} {u : St2} {x : Int} (H : post (tc_en (3 * x))) : wpX_shiftedUp post u (tc_en x) := by
  obtain ⟨f1, f2, f3, f4, f5, f6, f7, f8, f9, f10, a1, a2, a3, a4, a5, a6, a7, a8, a9, a10, a11, a12, a13⟩ := u
  show post (((tc_en x &&& 255) <<< ((1 : Int32) &&& 31)) ||| (((tc_en x >>> ((9 : Int32) &&& 31)) &&& 255) <<< ((10 : Int32) &&& 31)))
  rw [tc_up]
  exact H
theorem tc_s56 {post : Int32 → Prop} {J : Int32 → Int32 → Int32 → Prop} {x1 x2 w : Int32} {i : Nat} {T d c : Int} {z0 : Int32} {f1 f2 f3 f4 f5 f6 f7 f8 f9 f10 : Int32} {a1 a2 a3 a4 a5 a6 a7 a8 a9 a10 a11 a12 a13 : Nat → Int32} (hz : z0 = tc_sI c) (hd : T - 3 * c = d) (ht : d = -1 ∨ d = 0 ∨ d = 1) (H : J (tc_set w i d) (tc_sI c) (nI (i + 1))) : wX_sum_56 post J x1 x2 w (nI i) (tc_sI T) z0 f1 f2 f3 f4 f5 f6 f7 f8 f9 f10 a1 a2 a3 a4 a5 a6 a7 a8 a9 a10 a11 a12 a13 := by
  unfold wX_sum_56
  subst hz
  refine tc_withTrit ht ?_ (nm_r (nI_1 i) H)
  rw [← hd, ← tc_sI_sub, ← tc_sI_mul]
  rfl
theorem tc_sum_l {post : Int32 → Prop} {f1 f2 f3 f4 f5 f6 f7 f8 f9 f10 : Int32} {a1 a2 a3 a4 a5 a6 a7 a8 a9 a10 a11 a12 a13 : Nat → Int32} {x y : Int} (H : post (tc_en (x + y))) : ∀ (j i : Nat) (c : Int), i + j = 9 → tc_q (x + y) i = tc_q x i + tc_q y i + c → (c = -1 ∨ c = 0 ∨ c = 1) → wX_sum_8 post (tc_en x) (tc_en y) f1 f2 f3 f4 f5 f6 f7 f8 f9 f10 a1 a2 a3 a4 a5 a6 a7 a8 a9 a10 a11 a12 a13 (j + 1) (tc_wd (x + y) i) (tc_sI c) (nI i)
  | 0, i, c, hi, hc, hb => by
    obtain rfl : i = 9 := by omega
    exact br_t (by decide) H
  | j + 1, i, c, hi, hc, hb => by
    have IH := tc_sum_l (post := post) (f1 := f1) (f2 := f2) (f3 := f3) (f4 := f4) (f5 := f5) (f6 := f6) (f7 := f7) (f8 := f8) (f9 := f9) (f10 := f10) (a1 := a1) (a2 := a2) (a3 := a3) (a4 := a4) (a5 := a5) (a6 := a6) (a7 := a7) (a8 := a8) (a9 := a9) (a10 := a10) (a11 := a11) (a12 := a12) (a13 := a13) (x := x) (y := y) H j (i + 1)
    have d1 : tc_d x i = (tc_q x i + 1) % 3 - 1 := rfl
    have d2 : tc_d y i = (tc_q y i + 1) % 3 - 1 := rfl
    have d3 : tc_d (x + y) i = (tc_q (x + y) i + 1) % 3 - 1 := rfl
    have q1 := tc_qs x i
    have q2 := tc_qs y i
    have q3 := tc_qs (x + y) i
    refine br_f (nI_ge (b := 9) (by omega) (by decide)) (tc_tritOf (by omega) (tc_tritOf (by omega) (nm_r (e' := tc_sI (tc_d x i + tc_d y i + c)) (by rw [← tc_sI_add, ← tc_sI_add]) ?_)))
    have l1 : tc_sI (tc_d x i + tc_d y i + c) ≤ 1 ↔ tc_d x i + tc_d y i + c ≤ 1 := tc_sI_le (a := tc_d x i + tc_d y i + c) (b := 1) (by omega) (by omega) (by decide) (by decide)
    have l2 : (-1) ≤ tc_sI (tc_d x i + tc_d y i + c) ↔ -1 ≤ tc_d x i + tc_d y i + c := tc_sI_le (a := -1) (b := tc_d x i + tc_d y i + c) (by decide) (by decide) (by omega) (by omega)
    refine br_c (fun g1 => br_c (fun g2 => ?_) (fun g2 => ?_)) (fun g1 => ?_)
    · have g1' := l1.mp g1
      have g2' := l2.mp g2
      exact tc_s56 (c := 0) (d := tc_d (x + y) i) (by decide) (by omega) (tc_dr _ _) (IH 0 (by omega) (by omega) (by omega))
    · have g1' := l1.mp g1
      have g2' : ¬ -1 ≤ tc_d x i + tc_d y i + c := fun z => g2 (l2.mpr z)
      exact tc_s56 (c := -1) (d := tc_d (x + y) i) (by decide) (by omega) (tc_dr _ _) (IH (-1) (by omega) (by omega) (by omega))
    · have g1' : ¬ tc_d x i + tc_d y i + c ≤ 1 := fun z => g1 (l1.mpr z)
      exact tc_s56 (c := 1) (d := tc_d (x + y) i) (by decide) (by omega) (tc_dr _ _) (IH 1 (by omega) (by omega) (by omega))
theorem tc_sum {post : Int32 → Prop} {u : St2} {x y : Int} (H : post (tc_en (x + y))) : wpX_sum post u (tc_en x) (tc_en y) := by
  obtain ⟨f1, f2, f3, f4, f5, f6, f7, f8, f9, f10, a1, a2, a3, a4, a5, a6, a7, a8, a9, a10, a11, a12, a13⟩ := u
  exact ⟨10, tc_sum_l H 9 0 0 rfl (by show x + y = x + y + 0; omega) (by omega)⟩
theorem tc_p60 {post : Int32 → Prop} {J : Int32 → Int32 → Int32 → Prop} {x2 x3 : Int32} {b : Int} {i : Nat} {f1 f2 f3 f4 f5 f6 f7 f8 f9 f10 : Int32} {a1 a2 a3 a4 a5 a6 a7 a8 a9 a10 a11 a12 a13 : Nat → Int32} (H : J x3 (tc_en (3 * b)) (nI (i + 1))) : wX_product_60 post J x2 x3 (tc_en b) (nI i) f1 f2 f3 f4 f5 f6 f7 f8 f9 f10 a1 a2 a3 a4 a5 a6 a7 a8 a9 a10 a11 a12 a13 := by
  unfold wX_product_60
  exact tc_shiftedUp (nm_r (nI_1 i) H)
theorem tc_product_l {post : Int32 → Prop} {f1 f2 f3 f4 f5 f6 f7 f8 f9 f10 : Int32} {a1 a2 a3 a4 a5 a6 a7 a8 a9 a10 a11 a12 a13 : Nat → Int32} {x y : Int} (H : post (tc_en (x * y))) : ∀ (j i : Nat) (a b : Int), i + j = 9 → a = x * (y - 3 ^ i * tc_q y i) → b = 3 ^ i * x → wX_product_8 post (tc_en y) f1 f2 f3 f4 f5 f6 f7 f8 f9 f10 a1 a2 a3 a4 a5 a6 a7 a8 a9 a10 a11 a12 a13 (j + 1) (tc_en a) (tc_en b) (nI i)
  | 0, i, a, b, hi, ha, hb => by
    obtain rfl : i = 9 := by omega
    have e : tc_en a = tc_en (x * y) := by
      refine tc_en_cg (k := -(x * tc_q y 9)) ?_
      rw [ha, show (3 : Int) ^ 9 = 19683 from rfl]
      grind
    rw [e]
    exact br_t (by decide) H
  | j + 1, i, a, b, hi, ha, hb => by
    have IH := tc_product_l (post := post) (f1 := f1) (f2 := f2) (f3 := f3) (f4 := f4) (f5 := f5) (f6 := f6) (f7 := f7) (f8 := f8) (f9 := f9) (f10 := f10) (a1 := a1) (a2 := a2) (a3 := a3) (a4 := a4) (a5 := a5) (a6 := a6) (a7 := a7) (a8 := a8) (a9 := a9) (a10 := a10) (a11 := a11) (a12 := a12) (a13 := a13) (x := x) (y := y) H j (i + 1) (a + tc_d y i * b) (3 * b) (by omega) (by
      have h := tc_q3 y i
      rw [ha, hb, h, Int.pow_succ]
      grind) (by rw [hb, Int.pow_succ]; grind)
    refine br_f (nI_ge (b := 9) (by omega) (by decide)) (tc_tritOf (by omega) ?_)
    rcases tc_dr y i with h | h | h
    · rw [h] at IH ⊢
      refine br_f (by decide) ?_
      unfold wX_product_38
      refine tc_negated (br_t (by decide) (tc_sum (tc_p60 ?_)))
      rw [show a + -1 * b = a + -b by omega] at IH
      exact IH
    · rw [h] at IH ⊢
      refine br_f (by decide) ?_
      unfold wX_product_38
      refine tc_negated (br_f (by decide) (tc_p60 ?_))
      rw [show a + 0 * b = a by omega] at IH
      exact IH
    · rw [h] at IH ⊢
      refine br_t (by decide) (tc_sum ?_)
      unfold wX_product_38
      refine tc_negated (br_f (by decide) (tc_p60 ?_))
      rw [show a + 1 * b = a + b by omega] at IH
      exact IH
theorem tc_product {post : Int32 → Prop} {u : St2} {x y : Int} (H : post (tc_en (x * y))) : wpX_product post u (tc_en x) (tc_en y) := by
  obtain ⟨f1, f2, f3, f4, f5, f6, f7, f8, f9, f10, a1, a2, a3, a4, a5, a6, a7, a8, a9, a10, a11, a12, a13⟩ := u
  refine ⟨10, ?_⟩
  have h := tc_product_l (post := post) (x := x) (y := y) (f1 := f1) (f2 := f2) (f3 := f3) (f4 := f4) (f5 := f5) (f6 := f6) (f7 := f7) (f8 := f8) (f9 := f9) (f10 := f10) (a1 := a1) (a2 := a2) (a3 := a3) (a4 := a4) (a5 := a5) (a6 := a6) (a7 := a7) (a8 := a8) (a9 := a9) (a10 := a10) (a11 := a11) (a12 := a12) (a13 := a13) H 9 0 0 x rfl (by show 0 = x * (y - 3 ^ 0 * y); rw [Int.pow_zero]; grind) (by rw [Int.pow_zero, Int.one_mul])
  rw [tc_en_0] at h
  exact h
theorem tc_signOf {post : Int32 → Prop} {u : St2} {x : Int} (h0 : tc_m x = 0 → post 0) (hn : tc_m x < 0 → post (-1)) (hp : 0 < tc_m x → post 1) : wpX_signOf post u (tc_en x) := by
  obtain ⟨f1, f2, f3, f4, f5, f6, f7, f8, f9, f10, a1, a2, a3, a4, a5, a6, a7, a8, a9, a10, a11, a12, a13⟩ := u
  have hs := tc_sign x
  have b1 := tc_p_lt x 9
  have b2 := tc_p_lt (-x) 9
  have l1 := nI_leI (a := tc_p x 9) (b := tc_p (-x) 9) (by omega) (by omega)
  have l2 := nI_leI (a := tc_p (-x) 9) (b := tc_p x 9) (by omega) (by omega)
  refine nm_r (tc_plus x) (nm_r (tc_minus x) (br_c (fun g1 => br_c (fun g2 => h0 ?_) (fun g2 => hn ?_)) (fun g1 => hp ?_)))
  · have := l1.mp g1
    have := l2.mp g2
    omega
  · have := l1.mp g1
    have : ¬ tc_p (-x) 9 ≤ tc_p x 9 := fun z => g2 (l2.mpr z)
    omega
  · have : ¬ tc_p x 9 ≤ tc_p (-x) 9 := fun z => g1 (l1.mpr z)
    omega
end
section
/-! memory as a picture: cell i holds the word of M i -/
def tc_E (M : Nat → Int) : Nat → Int32 := fun i => tc_en (M i)
def tc_u (M : Nat → Int) (k : Nat) (v : Int) : Nat → Int := fun j => if j = k then v else M j
theorem tc_us {M : Nat → Int} {k : Nat} {v : Int} : tc_u M k v k = v := if_pos rfl
theorem tc_un {M : Nat → Int} {k j : Nat} {v : Int} (h : j ≠ k) : tc_u M k v j = M j := if_neg h
theorem tc_E_u (M : Nat → Int) (k : Nat) (v : Int) : upd (tc_E M) k (tc_en v) = tc_E (tc_u M k v) := by
  funext j
  show (if j = k then tc_en v else tc_en (M j)) = tc_en (if j = k then v else M j)
  split <;> rfl
theorem tc_st {M : Nat → Int} {k : Nat} {x : Int32} {v : Int} (hx : x = nI k) (hk : k < 2 ^ 31) : upd (tc_E M) x.toNatClampNeg (tc_en v) = tc_E (tc_u M k v) := by
  rw [hx, nI_clamp hk, tc_E_u]
theorem tc_sa {f : Nat → Int32} {k : Nat} {x v w : Int32} (hx : x = nI k) (hk : k < 2 ^ 31) (hv : v = w) : upd f x.toNatClampNeg v = upd f k w := by
  rw [hx, nI_clamp hk, hv]
theorem tc_rd {f : Nat → Int32} {k : Nat} {x v : Int32} (hx : x = nI k) (hk : k < 2 ^ 31) (hv : f k = v) : f x.toNatClampNeg = v := by
  rw [hx, nI_clamp hk, hv]
theorem tc_i8 : ∀ k, k < 128 → (nI k).toInt8.toInt32 = nI k := by decide +kernel
theorem tc_i16 {k : Nat} (h : k < 32768) : (nI k).toInt16.toInt32 = nI k := by
  have h1 : (nI k).toInt = (k : Int) := nI_toInt (by omega)
  apply Int32.toInt_inj.mp
  rw [Int16.toInt_toInt32, Int32.toInt_toInt16, h1]
  exact Int.bmod_eq_of_le (by omega) (by omega)
theorem tc_E0 : (fun _ => 0 : Nat → Int32) = tc_E (fun _ => 0) := by
  funext j
  exact tc_en_0.symm
/-! the source -/
theorem tc_isV {post : Int32 → Prop} {u : St2} {x : Int32} (k : Nat) (hx : x = nI k) (hk : k ≤ 5) (H : post 1) : wpX_isVariable post u x := by
  obtain ⟨f1, f2, f3, f4, f5, f6, f7, f8, f9, f10, a1, a2, a3, a4, a5, a6, a7, a8, a9, a10, a11, a12, a13⟩ := u
  subst hx
  exact br_f (nI_pos (by omega)) (br_f (nI_nlt (a := 5) (b := k) hk (by decide)) H)
theorem tc_put {post : Int32 → St2 → Prop} {f1 f2 f3 f4 f5 f6 f7 f8 f9 f10 : Int32} {a1 a2 a3 a4 a5 a6 a7 a8 a9 a10 a11 a13 : Nat → Int32} {M : Nat → Int} {x v : Int32} (k : Nat) (hx : x = nI k) (hk : k ≤ 5) (H : post 1 (f1, f2, f3, f4, f5, f6, f7, f8, f9, f10, a1, a2, a3, a4, a5, a6, a7, a8, a9, a10, a11, tc_E (tc_u M (500 + k) v.toInt), a13)) : wpX_put post (f1, f2, f3, f4, f5, f6, f7, f8, f9, f10, a1, a2, a3, a4, a5, a6, a7, a8, a9, a10, a11, tc_E M, a13) x v := by
  unfold wpX_put
  subst hx
  have h1 := v.le_toInt
  have h2 := v.toInt_lt
  have e : (500 : Int32) + nI k = nI (500 + k) := nI_add 500 k
  refine tc_isV k rfl hk (br_f (by decide) (tc_wordOf v.toInt (Int32.toInt_toInt64 v) (by omega) (by omega) ⟨pk_in (500 + k) 729 (by omega) e, nm_r (tc_st e (by omega)) H⟩))
theorem tc_add109 {post : Int32 → St2 → Prop} {f2 f3 f4 f5 f6 f7 f8 f9 f10 : Int32} {a1 a2 a3 a4 a5 a6 a7 a8 a9 a10 a11 a12 a13 : Nat → Int32} {n k : Nat} {a b c b8 c8 : Int32} (hn : n < 40) (h1 : 1 ≤ k) (h2 : k ≤ 12) (hb : b.toInt8.toInt32 = b8) (hc : c.toInt8.toInt32 = c8)
    (H : post (nI (n + 1)) (nI (n + 1), 0, f3, f4, f5, f6, f7, f8, f9, f10, upd a1 n (nI k), upd a2 n a, upd a3 n b8, upd a4 n c8, a5, a6, a7, a8, a9, a10, a11, a12, a13)) : wX_add_109 post (nI k) a b c (nI n) f2 f3 f4 f5 f6 f7 f8 f9 f10 a1 a2 a3 a4 a5 a6 a7 a8 a9 a10 a11 a12 a13 := by
  have k0 : ¬ nI k = 0 := nI_ne0 (by omega) (by omega)
  unfold wX_add_109
  refine ⟨pk_in n 40 hn, nm_r (tc_sa rfl (by omega) (tc_i8 k (by omega))) (br_f k0 ?_)⟩
  unfold wX_add_137
  refine ⟨pk_in n 40 hn, nm_r (tc_sa rfl (by omega) rfl) (br_f k0 ?_)⟩
  unfold wX_add_155
  exact ⟨pk_in n 40 hn, nm_r (tc_sa rfl (by omega) hb) ⟨pk_in n 40 hn, nm_r (tc_sa rfl (by omega) hc) (nm_r (nI_1 n) H)⟩⟩
theorem tc_add0 {post : Int32 → St2 → Prop} {f2 f3 f4 f5 f6 f7 f8 f9 f10 : Int32} {a1 a2 a3 a4 a5 a6 a7 a8 a9 a10 a11 a12 a13 : Nat → Int32} {n : Nat} {a b c va c8 : Int32} (hn : n < 40) (ha : a.toInt8.toInt32 = va) (hc : c.toInt8.toInt32 = c8)
    (H : post (nI (n + 1)) (nI (n + 1), 0, f3, f4, f5, f6, f7, f8, f9, f10, upd a1 n (nI 0), upd a2 n b, upd a3 n va, upd a4 n c8, a5, a6, a7, a8, a9, a10, a11, a12, a13)) : wX_add_109 post 0 a b c (nI n) f2 f3 f4 f5 f6 f7 f8 f9 f10 a1 a2 a3 a4 a5 a6 a7 a8 a9 a10 a11 a12 a13 := by
  unfold wX_add_109
  refine ⟨pk_in n 40 hn, nm_r (tc_sa rfl (by omega) (tc_i8 0 (by omega))) (br_t rfl ?_)⟩
  unfold wX_add_137
  refine ⟨pk_in n 40 hn, nm_r (tc_sa rfl (by omega) rfl) (br_t rfl ?_)⟩
  unfold wX_add_155
  exact ⟨pk_in n 40 hn, nm_r (tc_sa rfl (by omega) ha) ⟨pk_in n 40 hn, nm_r (tc_sa rfl (by omega) hc) (nm_r (nI_1 n) H)⟩⟩
theorem tc_add {post : Int32 → St2 → Prop} {f2 f3 f4 f5 f6 f7 f8 f9 f10 : Int32} {a1 a2 a3 a4 a5 a6 a7 a8 a9 a10 a11 a12 a13 : Nat → Int32} {x y z w : Int32} (n k a b c : Nat) (hx : x = nI k) (hy : y = nI a) (hz : z = nI b) (hw : w = nI c) (hn : n < 40) (h1 : 1 ≤ k) (h2 : k ≤ 12) (ha : a ≤ 5) (hb : b ≤ 5) (hc : c ≤ 5)
    (H : post (nI (n + 1)) (nI (n + 1), 0, f3, f4, f5, f6, f7, f8, f9, f10, upd a1 n (nI k), upd a2 n (nI a), upd a3 n (nI b), upd a4 n (nI c), a5, a6, a7, a8, a9, a10, a11, a12, a13)) : wpX_add post (nI n, f2, f3, f4, f5, f6, f7, f8, f9, f10, a1, a2, a3, a4, a5, a6, a7, a8, a9, a10, a11, a12, a13) x y z w := by
  subst hx hy hz hw
  have V : wX_add_109 post (nI k) (nI a) (nI b) (nI c) (nI n) f2 f3 f4 f5 f6 f7 f8 f9 f10 a1 a2 a3 a4 a5 a6 a7 a8 a9 a10 a11 a12 a13 := tc_add109 hn h1 h2 (tc_i8 b (by omega)) (tc_i8 c (by omega)) H
  have W : wX_add_96 post (nI k) (nI a) (nI b) (nI c) (nI n) f2 f3 f4 f5 f6 f7 f8 f9 f10 a1 a2 a3 a4 a5 a6 a7 a8 a9 a10 a11 a12 a13 := by
    unfold wX_add_96
    exact tc_isV c rfl hc (br_f (by decide) V)
  have Z : wX_add_90 post (nI k) (nI a) (nI b) (nI c) (nI n) f2 f3 f4 f5 f6 f7 f8 f9 f10 a1 a2 a3 a4 a5 a6 a7 a8 a9 a10 a11 a12 a13 := by
    unfold wX_add_90
    exact br_c (fun _ => W) (fun _ => V)
  have Y : wX_add_80 post (nI k) (nI a) (nI b) (nI c) (nI n) f2 f3 f4 f5 f6 f7 f8 f9 f10 a1 a2 a3 a4 a5 a6 a7 a8 a9 a10 a11 a12 a13 := by
    unfold wX_add_80
    exact br_c (fun _ => Z) (fun _ => br_c (fun _ => W) (fun _ => Z))
  have X : wX_add_57 post (nI k) (nI a) (nI b) (nI c) (nI n) f2 f3 f4 f5 f6 f7 f8 f9 f10 a1 a2 a3 a4 a5 a6 a7 a8 a9 a10 a11 a12 a13 := by
    unfold wX_add_57
    exact br_c (fun _ => Y) (fun _ => br_c (fun _ => Y) (fun _ => tc_isV b rfl hb (br_f (by decide) Y)))
  unfold wpX_add
  exact br_t (nI_lt (b := 40) hn (by decide)) (br_f (nI_pos (by omega)) (br_t (nI_le (b := 12) h2 (by decide)) (br_c (fun _ => X) (fun _ => br_c (fun _ => X) (fun _ => br_c (fun _ => X) (fun _ => tc_isV a rfl ha (br_f (by decide) X)))))))
theorem tc_addSet {post : Int32 → St2 → Prop} {f2 f3 f4 f5 f6 f7 f8 f9 f10 : Int32} {a1 a2 a3 a4 a5 a6 a7 a8 a9 a10 a11 a12 a13 : Nat → Int32} {y z w : Int32} (n a b c : Nat) (hy : y = nI a) (hz : z = nI b) (hw : w = nI c) (hn : n < 40) (ha : a ≤ 5) (hc : c ≤ 5)
    (H : post (nI (n + 1)) (nI (n + 1), 0, f3, f4, f5, f6, f7, f8, f9, f10, upd a1 n (nI 0), upd a2 n (nI b), upd a3 n (nI a), upd a4 n (nI c), a5, a6, a7, a8, a9, a10, a11, a12, a13)) : wpX_add post (nI n, f2, f3, f4, f5, f6, f7, f8, f9, f10, a1, a2, a3, a4, a5, a6, a7, a8, a9, a10, a11, a12, a13) 0 y z w := by
  subst hy hz hw
  have V : wX_add_109 post 0 (nI a) (nI b) (nI c) (nI n) f2 f3 f4 f5 f6 f7 f8 f9 f10 a1 a2 a3 a4 a5 a6 a7 a8 a9 a10 a11 a12 a13 := tc_add0 hn (tc_i8 a (by omega)) (tc_i8 c (by omega)) H
  have Z : wX_add_90 post 0 (nI a) (nI b) (nI c) (nI n) f2 f3 f4 f5 f6 f7 f8 f9 f10 a1 a2 a3 a4 a5 a6 a7 a8 a9 a10 a11 a12 a13 := by
    unfold wX_add_90
    exact br_f (by decide) V
  have Y : wX_add_80 post 0 (nI a) (nI b) (nI c) (nI n) f2 f3 f4 f5 f6 f7 f8 f9 f10 a1 a2 a3 a4 a5 a6 a7 a8 a9 a10 a11 a12 a13 := by
    unfold wX_add_80
    exact br_t (by decide) Z
  have X : wX_add_57 post 0 (nI a) (nI b) (nI c) (nI n) f2 f3 f4 f5 f6 f7 f8 f9 f10 a1 a2 a3 a4 a5 a6 a7 a8 a9 a10 a11 a12 a13 := by
    unfold wX_add_57
    exact br_t (by decide) Y
  unfold wpX_add
  exact br_t (nI_lt (b := 40) hn (by decide)) (br_f (by decide) (br_t (by decide) (br_f (by decide) (br_f (by decide) (br_f (by decide) (tc_isV a rfl ha (br_f (by decide) X)))))))
/-! do the blocks fit: one step a kind -/
theorem tc_bf31 {post : Int32 → St2 → Prop} {J : Int32 → Int32 → (Nat → Int32) → (Nat → Int32) → (Nat → Int32) → (Nat → Int32) → (Nat → Int32) → (Nat → Int32) → (Nat → Int32) → (Nat → Int32) → (Nat → Int32) → (Nat → Int32) → (Nat → Int32) → (Nat → Int32) → (Nat → Int32) → Prop} {f1 f2 f3 f4 f5 f6 f7 f8 f9 f10 : Int32} {a1 a2 a3 a4 a5 a6 a7 a8 a9 a10 a11 a12 a13 : Nat → Int32} {i o k : Nat} (hi : i < 40) (hk : k < 128) (ho : o < 3)
    (H : J (nI (o + 1)) (nI (i + 1)) a1 a2 a3 a4 (upd a5 o (nI k)) a6 a7 a8 a9 a10 a11 a12 a13) : wX_blocksFit_31 post J (nI o) (nI i) (nI k) f1 f2 f3 f4 f5 f6 f7 f8 f9 f10 a1 a2 a3 a4 a5 a6 a7 a8 a9 a10 a11 a12 a13 := by
  unfold wX_blocksFit_31
  exact br_f (fun z => absurd ((nI_eq (a := o) (b := 3) (by omega) (by decide)).mp z) (by omega)) ⟨pk_in o 4 (by omega), nm_r (tc_sa rfl (by omega) (tc_i8 k hk)) (nm_r (nI_1 o) (nm_r (nI_1 i) H))⟩
theorem tc_bf_open {post : Int32 → St2 → Prop} {f2 f3 f4 f5 f6 f7 f8 f9 f10 : Int32} {a1 a2 a3 a4 a5 a6 a7 a8 a9 a10 a11 a12 a13 : Nat → Int32} {L i o k n : Nat} (hL : L ≤ 40) (hi : i < L) (ha : a1 i = nI k) (hk : k = 7 ∨ k = 10) (ho : o < 3)
    (H : wX_blocksFit_4 post (nI L) f2 f3 f4 f5 f6 f7 f8 f9 f10 n (nI (o + 1)) (nI (i + 1)) a1 a2 a3 a4 (upd a5 o (nI k)) a6 a7 a8 a9 a10 a11 a12 a13) : wX_blocksFit_4 post (nI L) f2 f3 f4 f5 f6 f7 f8 f9 f10 (n + 1) (nI o) (nI i) a1 a2 a3 a4 a5 a6 a7 a8 a9 a10 a11 a12 a13 := by
  refine br_f (nI_ge hi (by omega)) ⟨pk_in i 40 (by omega), nm_r (tc_rd rfl (by omega) ha) ?_⟩
  rcases hk with rfl | rfl
  · exact br_t rfl (tc_bf31 (by omega) (by decide) ho H)
  · exact br_f (by decide) (br_t rfl (tc_bf31 (by omega) (by decide) ho H))
theorem tc_bf117 {post : Int32 → St2 → Prop} {J : Int32 → Int32 → (Nat → Int32) → (Nat → Int32) → (Nat → Int32) → (Nat → Int32) → (Nat → Int32) → (Nat → Int32) → (Nat → Int32) → (Nat → Int32) → (Nat → Int32) → (Nat → Int32) → (Nat → Int32) → (Nat → Int32) → (Nat → Int32) → Prop} {f1 f2 f3 f4 f5 f6 f7 f8 f9 f10 : Int32} {a1 a2 a3 a4 a5 a6 a7 a8 a9 a10 a11 a12 a13 : Nat → Int32} {i o k t : Nat} (hi : i < 40) (hk : k < 128) (ho : o < 3) (ht : a5 o = nI t) (h10 : ¬ nI t = 10) (h9 : ¬ nI t = 9) (h8 : nI t = 8 → ¬ nI k = 8)
    (H : J (nI (o + 1)) (nI (i + 1)) a1 a2 a3 a4 (upd a5 o (nI k)) a6 a7 a8 a9 a10 a11 a12 a13) : wX_blocksFit_64 post J (nI (o + 1)) (nI i) (nI k) f1 f2 f3 f4 f5 f6 f7 f8 f9 f10 a1 a2 a3 a4 a5 a6 a7 a8 a9 a10 a11 a12 a13 := by
  have e : nI (o + 1) - 1 = nI o := nI_pred o
  have r : a5 (nI (o + 1) - 1).toNatClampNeg = nI t := tc_rd e (by omega) ht
  have W : wX_blocksFit_117 post J (nI (o + 1)) (nI i) (nI k) f1 f2 f3 f4 f5 f6 f7 f8 f9 f10 a1 a2 a3 a4 a5 a6 a7 a8 a9 a10 a11 a12 a13 := by
    unfold wX_blocksFit_117
    exact ⟨pk_in o 4 (by omega) e, nm_r (tc_sa e (by omega) (tc_i8 k hk)) (nm_r (nI_1 i) H)⟩
  unfold wX_blocksFit_64
  rw [r]
  exact br_f (nI_ne0 (by omega) (by omega)) ⟨pk_in o 4 (by omega) e, br_f h10 ⟨pk_in o 4 (by omega) e, br_f h9 ⟨pk_in o 4 (by omega) e, br_c (fun z => br_f (h8 z) W) (fun _ => W)⟩⟩⟩
theorem tc_bf_sec {post : Int32 → St2 → Prop} {f2 f3 f4 f5 f6 f7 f8 f9 f10 : Int32} {a1 a2 a3 a4 a5 a6 a7 a8 a9 a10 a11 a12 a13 : Nat → Int32} {L i o k t n : Nat} (hL : L ≤ 40) (hi : i < L) (ha : a1 i = nI k) (hk : k = 8 ∨ k = 9) (ho : o < 3) (ht : a5 o = nI t) (h10 : ¬ nI t = 10) (h9 : ¬ nI t = 9) (h8 : nI t = 8 → ¬ nI k = 8)
    (H : wX_blocksFit_4 post (nI L) f2 f3 f4 f5 f6 f7 f8 f9 f10 n (nI (o + 1)) (nI (i + 1)) a1 a2 a3 a4 (upd a5 o (nI k)) a6 a7 a8 a9 a10 a11 a12 a13) : wX_blocksFit_4 post (nI L) f2 f3 f4 f5 f6 f7 f8 f9 f10 (n + 1) (nI (o + 1)) (nI i) a1 a2 a3 a4 a5 a6 a7 a8 a9 a10 a11 a12 a13 := by
  refine br_f (nI_ge hi (by omega)) ⟨pk_in i 40 (by omega), nm_r (tc_rd rfl (by omega) ha) ?_⟩
  rcases hk with rfl | rfl
  · exact br_f (by decide) (br_f (by decide) (br_t rfl (tc_bf117 (by omega) (by decide) ho ht h10 h9 h8 H)))
  · exact br_f (by decide) (br_f (by decide) (br_f (by decide) (br_t rfl (tc_bf117 (by omega) (by decide) ho ht h10 h9 h8 H))))
theorem tc_bf_end {post : Int32 → St2 → Prop} {f2 f3 f4 f5 f6 f7 f8 f9 f10 : Int32} {a1 a2 a3 a4 a5 a6 a7 a8 a9 a10 a11 a12 a13 : Nat → Int32} {L i o n : Nat} (hL : L ≤ 40) (hi : i < L) (ha : a1 i = nI 11) (ho : o < 3)
    (H : wX_blocksFit_4 post (nI L) f2 f3 f4 f5 f6 f7 f8 f9 f10 n (nI o) (nI (i + 1)) a1 a2 a3 a4 a5 a6 a7 a8 a9 a10 a11 a12 a13) : wX_blocksFit_4 post (nI L) f2 f3 f4 f5 f6 f7 f8 f9 f10 (n + 1) (nI (o + 1)) (nI i) a1 a2 a3 a4 a5 a6 a7 a8 a9 a10 a11 a12 a13 :=
  br_f (nI_ge hi (by omega)) ⟨pk_in i 40 (by omega), nm_r (tc_rd rfl (by omega) ha) (br_f (by decide) (br_f (by decide) (br_f (by decide) (br_f (by decide) (br_t rfl (br_f (nI_ne0 (by omega) (by omega)) (nm_r (pk_m1 o) (nm_r (nI_1 i) H))))))))⟩
theorem tc_bf_oth {post : Int32 → St2 → Prop} {f2 f3 f4 f5 f6 f7 f8 f9 f10 : Int32} {a1 a2 a3 a4 a5 a6 a7 a8 a9 a10 a11 a12 a13 : Nat → Int32} {L i o k n : Nat} (hL : L ≤ 40) (hi : i < L) (ha : a1 i = nI k) (hk : k < 7 ∨ k = 12)
    (H : wX_blocksFit_4 post (nI L) f2 f3 f4 f5 f6 f7 f8 f9 f10 n (nI o) (nI (i + 1)) a1 a2 a3 a4 a5 a6 a7 a8 a9 a10 a11 a12 a13) : wX_blocksFit_4 post (nI L) f2 f3 f4 f5 f6 f7 f8 f9 f10 (n + 1) (nI o) (nI i) a1 a2 a3 a4 a5 a6 a7 a8 a9 a10 a11 a12 a13 := by
  have ne : ∀ j, j < 128 → k ≠ j → ¬ nI k = nI j := fun j hj h z => h ((nI_eq (by omega) (by omega)).mp z)
  exact br_f (nI_ge hi (by omega)) ⟨pk_in i 40 (by omega), nm_r (tc_rd rfl (by omega) ha) (br_f (ne 7 (by omega) (by omega)) (br_f (ne 10 (by omega) (by omega)) (br_f (ne 8 (by omega) (by omega)) (br_f (ne 9 (by omega) (by omega)) (br_f (ne 11 (by omega) (by omega)) (nm_r (nI_1 i) H))))))⟩
theorem tc_bf_yes {post : Int32 → St2 → Prop} {f2 f3 f4 f5 f6 f7 f8 f9 f10 : Int32} {a1 a2 a3 a4 a5 a6 a7 a8 a9 a10 a11 a12 a13 : Nat → Int32} {L n : Nat} (H : post 1 (nI L, f2, f3, f4, f5, f6, f7, f8, f9, f10, a1, a2, a3, a4, a5, a6, a7, a8, a9, a10, a11, a12, a13)) : wX_blocksFit_4 post (nI L) f2 f3 f4 f5 f6 f7 f8 f9 f10 (n + 1) (nI 0) (nI L) a1 a2 a3 a4 a5 a6 a7 a8 a9 a10 a11 a12 a13 :=
  br_t (Int32.le_refl _) (br_t rfl H)
theorem tc_bf_no {post : Int32 → St2 → Prop} {f2 f3 f4 f5 f6 f7 f8 f9 f10 : Int32} {a1 a2 a3 a4 a5 a6 a7 a8 a9 a10 a11 a12 a13 : Nat → Int32} {L n o : Nat} (ho : o < 4) (H : post 0 (nI L, f2, f3, f4, f5, f6, f7, f8, f9, f10, a1, a2, a3, a4, a5, a6, a7, a8, a9, a10, a11, a12, a13)) : wX_blocksFit_4 post (nI L) f2 f3 f4 f5 f6 f7 f8 f9 f10 (n + 1) (nI (o + 1)) (nI L) a1 a2 a3 a4 a5 a6 a7 a8 a9 a10 a11 a12 a13 :=
  br_t (Int32.le_refl _) (br_f (nI_ne0 (by omega) (by omega)) H)
end
section
/-! the compiler's methods over the picture -/
def tc_I (o c : Nat) : Int := 729 * (o : Int) + ((c : Int) - 364)
theorem tc_iw {op cell : Int32} {o c : Nat} (ho : o ≤ 12) (hc : c < 729) (hop : op = nI o) (hcell : cell = nI c) : (((729 * op.toInt64) + cell.toInt64) - 364).toInt = tc_I o c := by
  subst hop hcell
  have e1 : (nI o).toInt64.toInt = (o : Int) := by rw [Int32.toInt_toInt64, nI_toInt (by omega)]
  have e2 : (nI c).toInt64.toInt = (c : Int) := by rw [Int32.toInt_toInt64, nI_toInt (by omega)]
  rw [Int64.toInt_sub, Int64.toInt_add, Int64.toInt_mul, e1, e2, show (729 : Int64).toInt = 729 from rfl, show (364 : Int64).toInt = 364 from rfl]
  rw [tc_bm (x := 729 * (o : Int)) (by omega) (by omega), tc_bm (x := 729 * (o : Int) + (c : Int)) (by omega) (by omega), tc_bm (by omega) (by omega)]
  unfold tc_I
  omega
theorem tc_write {post : St2 → Prop} {f1 f2 f3 f5 f6 f7 f8 f9 f10 : Int32} {a1 a2 a3 a4 a5 a6 a7 a8 a9 a10 a11 a13 : Nat → Int32} {M : Nat → Int} {k : Nat} {op cell : Int32} (o c : Nat) (hk : k < 729) (ho : o ≤ 12) (hc : c < 729) (hop : op = nI o) (hcell : cell = nI c)
    (H : post (f1, f2, f3, nI (k + 1), f5, f6, f7, f8, f9, f10, a1, a2, a3, a4, a5, a6, a7, a8, a9, a10, a11, tc_E (tc_u M k (tc_I o c)), a13)) : wpX_write post (f1, f2, f3, nI k, f5, f6, f7, f8, f9, f10, a1, a2, a3, a4, a5, a6, a7, a8, a9, a10, a11, tc_E M, a13) op cell := by
  unfold wpX_write
  exact tc_wordOf (tc_I o c) (tc_iw ho hc hop hcell) (by unfold tc_I; omega) (by unfold tc_I; omega) ⟨pk_in k 729 hk, nm_r (tc_st rfl (by omega)) (nm_r (nI_1 k) H)⟩
theorem tc_direct {post : St2 → Prop} {f1 f2 f3 f4 f5 f6 f7 f8 f9 f10 : Int32} {a1 a2 a3 a4 a5 a6 a7 a8 a9 a10 a11 a13 : Nat → Int32} {M : Nat → Int} {at32 op tg : Int32} (k o c : Nat) (hk : k < 729) (ho : o ≤ 12) (hc : c < 729) (hat : at32 = nI k) (hop : op = nI o) (htg : tg = nI c)
    (H : post (f1, f2, f3, f4, f5, f6, f7, f8, f9, f10, a1, a2, a3, a4, a5, a6, a7, a8, a9, a10, a11, tc_E (tc_u M k (tc_I o c)), a13)) : wpX_direct post (f1, f2, f3, f4, f5, f6, f7, f8, f9, f10, a1, a2, a3, a4, a5, a6, a7, a8, a9, a10, a11, tc_E M, a13) at32 op tg := by
  unfold wpX_direct
  exact tc_wordOf (tc_I o c) (tc_iw ho hc hop htg) (by unfold tc_I; omega) (by unfold tc_I; omega) ⟨pk_in k 729 hk hat, nm_r (tc_st hat (by omega)) H⟩
theorem tc_pool {post : Int32 → St2 → Prop} {f1 f2 f3 f4 f6 f7 f8 f9 f10 : Int32} {a1 a2 a3 a4 a5 a6 a7 a8 a9 a10 a11 a13 : Nat → Int32} {M : Nat → Int} {k : Nat} {v : Int32} (x : Int) (hv : v.toInt = x) (hk : k < 729)
    (H : post (nI k) (f1, f2, f3, f4, nI (k + 1), f6, f7, f8, f9, f10, a1, a2, a3, a4, a5, a6, a7, a8, a9, a10, a11, tc_E (tc_u M k x), a13)) : wpX_pool post (f1, f2, f3, f4, nI k, f6, f7, f8, f9, f10, a1, a2, a3, a4, a5, a6, a7, a8, a9, a10, a11, tc_E M, a13) v := by
  unfold wpX_pool
  have h1 := v.le_toInt
  have h2 := v.toInt_lt
  exact tc_wordOf x (by rw [Int32.toInt_toInt64, hv]) (by omega) (by omega) ⟨pk_in k 729 hk, nm_r (tc_st rfl (by omega)) (nm_r (nI_1 k) H)⟩
theorem tc_openLoop {post : St2 → Prop} {f1 f2 f3 f7 f8 f9 f10 : Int32} {a1 a2 a3 a4 a5 a6 a7 a8 a9 a10 a11 a13 : Nat → Int32} {M : Nat → Int} {v : Int32} (c p o : Nat) (x : Int) (hv : v.toInt = x) (hc : c < 400) (hp : p < 700) (ho : o < 4)
    (H : post (f1, f2, f3, nI (c + 4), nI (p + 2), nI (o + 1), f7, f8, f9, f10, a1, a2, a3, a4, upd a5 o 10, upd a6 o (nI (c + 2)), upd a7 o (nI (p + 1)), a8, a9, a10, a11, tc_E (tc_u (tc_u (tc_u (tc_u (tc_u (tc_u M p x) (p + 1) 0) c (tc_I 1 p)) (c + 1) (tc_I 2 (p + 1))) (c + 2) (tc_I 1 (p + 1))) (c + 3) (tc_I 10 364)), a13)) : wpX_openLoop post (f1, f2, f3, nI c, nI p, nI o, f7, f8, f9, f10, a1, a2, a3, a4, a5, a6, a7, a8, a9, a10, a11, tc_E M, a13) v := by
  unfold wpX_openLoop
  refine tc_pool x hv (by omega) ?_
  refine tc_pool 0 rfl (by omega) ?_
  refine tc_write 1 p (by omega) (by omega) (by omega) rfl rfl ?_
  refine tc_write 2 (p + 1) (by omega) (by omega) (by omega) rfl rfl ?_
  refine ⟨pk_in o 4 ho, nm_r (tc_sa rfl (by omega) rfl) ⟨pk_in o 4 ho, nm_r (tc_sa rfl (by omega) (tc_i16 (by omega))) ⟨pk_in o 4 ho, nm_r (tc_sa rfl (by omega) (tc_i16 (by omega))) (nm_r (nI_1 o) ?_)⟩⟩⟩
  refine tc_write 1 (p + 1) (by omega) (by omega) (by omega) rfl rfl ?_
  refine tc_write 10 364 (by omega) (by omega) (by omega) rfl rfl ?_
  exact H
theorem tc_openCase {post : St2 → Prop} {f1 f2 f3 f5 f7 f8 f9 f10 : Int32} {a1 a2 a3 a4 a5 a6 a7 a8 a9 a10 a11 a13 : Nat → Int32} {M : Nat → Int} {x : Int32} (c o v : Nat) (hx : x = nI v) (hv : v ≤ 5) (hc : c < 400) (ho : o < 4)
    (H : post (f1, f2, f3, nI (c + 3), f5, nI (o + 1), f7, f8, f9, f10, a1, a2, a3, a4, upd a5 o 7, a6, a7, upd a8 o (nI (c + 1)), upd a9 o (nI (c + 2)), upd a10 o (-1), upd a11 o (-1), tc_E (tc_u (tc_u (tc_u M c (tc_I 1 (500 + v))) (c + 1) (tc_I 10 364)) (c + 2) (tc_I 11 364)), a13)) : wpX_openCase post (f1, f2, f3, nI c, f5, nI o, f7, f8, f9, f10, a1, a2, a3, a4, a5, a6, a7, a8, a9, a10, a11, tc_E M, a13) x := by
  unfold wpX_openCase
  subst hx
  refine tc_write 1 (500 + v) (by omega) (by omega) (by omega) rfl (nI_add 500 v) ?_
  refine ⟨pk_in o 4 ho, nm_r (tc_sa rfl (by omega) rfl) ⟨pk_in o 4 ho, nm_r (tc_sa rfl (by omega) (tc_i16 (by omega))) ?_⟩⟩
  refine tc_write 10 364 (by omega) (by omega) (by omega) rfl rfl ?_
  refine ⟨pk_in o 4 ho, nm_r (tc_sa rfl (by omega) (tc_i16 (by omega))) ?_⟩
  refine tc_write 11 364 (by omega) (by omega) (by omega) rfl rfl ?_
  exact ⟨pk_in o 4 ho, nm_r (tc_sa rfl (by omega) rfl) ⟨pk_in o 4 ho, nm_r (tc_sa rfl (by omega) rfl) (nm_r (nI_1 o) H)⟩⟩
theorem tc_os8 {post : St2 → Prop} {f1 f2 f3 f5 f6 f7 f8 f9 f10 : Int32} {a1 a2 a3 a4 a5 a6 a7 a8 a9 a10 a11 a13 : Nat → Int32} {M : Nat → Int} (c o z : Nat) (hc : c < 400) (ho : o < 4) (h8 : a8 o = nI z) (hz : z < 400)
    (H : post (f1, f2, f3, nI (c + 1), f5, f6, f7, f8, f9, f10, a1, a2, a3, a4, a5, a6, a7, upd a8 o (-1), a9, a10, a11, tc_E (tc_u (tc_u M c (tc_I 9 364)) z (tc_I 10 (c + 1))), a13)) : wX_openSection_41 post 8 (nI o) f1 f2 f3 (nI c) f5 f6 f7 f8 f9 f10 a1 a2 a3 a4 a5 a6 a7 a8 a9 a10 a11 (tc_E M) a13 := by
  unfold wX_openSection_41
  refine tc_write 9 364 (by omega) (by omega) (by omega) rfl rfl ?_
  refine br_t rfl ⟨pk_in o 4 ho, ?_⟩
  refine tc_direct z 10 (c + 1) (by omega) (by omega) (by omega) (tc_rd rfl (by omega) h8) rfl rfl ?_
  exact ⟨pk_in o 4 ho, nm_r (tc_sa rfl (by omega) rfl) H⟩
theorem tc_os9 {post : St2 → Prop} {f1 f2 f3 f5 f6 f7 f8 f9 f10 : Int32} {a1 a2 a3 a4 a5 a6 a7 a8 a9 a10 a11 a13 : Nat → Int32} {M : Nat → Int} (c o z : Nat) (hc : c < 400) (ho : o < 4) (h9 : a9 o = nI z) (hz : z < 400)
    (H : post (f1, f2, f3, nI (c + 1), f5, f6, f7, f8, f9, f10, a1, a2, a3, a4, a5, a6, a7, a8, upd a9 o (-1), a10, a11, tc_E (tc_u (tc_u M c (tc_I 9 364)) z (tc_I 11 (c + 1))), a13)) : wX_openSection_41 post 9 (nI o) f1 f2 f3 (nI c) f5 f6 f7 f8 f9 f10 a1 a2 a3 a4 a5 a6 a7 a8 a9 a10 a11 (tc_E M) a13 := by
  unfold wX_openSection_41
  refine tc_write 9 364 (by omega) (by omega) (by omega) rfl rfl ?_
  refine br_f (by decide) ⟨pk_in o 4 ho, ?_⟩
  refine tc_direct z 11 (c + 1) (by omega) (by omega) (by omega) (tc_rd rfl (by omega) h9) rfl rfl ?_
  exact ⟨pk_in o 4 ho, nm_r (tc_sa rfl (by omega) rfl) H⟩
theorem tc_osF {post : St2 → Prop} {f1 f2 f3 f5 f7 f8 f9 f10 : Int32} {a1 a2 a3 a4 a5 a6 a7 a8 a9 a10 a11 a12 a13 : Nat → Int32} {k : Int32} (c o : Nat) (hc : c < 400) (ho : o < 4) (h10 : a10 o = -1)
    (H : wX_openSection_41 post k (nI o) f1 f2 f3 (nI c) f5 (nI (o + 1)) f7 f8 f9 f10 a1 a2 a3 a4 a5 a6 a7 a8 a9 (upd a10 o (nI c)) a11 a12 a13) : wpX_openSection post (f1, f2, f3, nI c, f5, nI (o + 1), f7, f8, f9, f10, a1, a2, a3, a4, a5, a6, a7, a8, a9, a10, a11, a12, a13) k := by
  unfold wpX_openSection
  have r : a10 (nI o).toNatClampNeg = -1 := tc_rd rfl (by omega) h10
  refine nm_r (nI_pred o) ⟨pk_in o 4 ho, br_f ?_ ⟨pk_in o 4 ho, nm_r (tc_sa rfl (by omega) (tc_i16 (by omega))) H⟩⟩
  rw [r]
  decide
theorem tc_osS {post : St2 → Prop} {f1 f2 f3 f5 f7 f8 f9 f10 : Int32} {a1 a2 a3 a4 a5 a6 a7 a8 a9 a10 a11 a12 a13 : Nat → Int32} {k : Int32} (c o j : Nat) (hc : c < 400) (ho : o < 4) (h10 : a10 o = nI j) (hj : j < 400)
    (H : wX_openSection_41 post k (nI o) f1 f2 f3 (nI c) f5 (nI (o + 1)) f7 f8 f9 f10 a1 a2 a3 a4 a5 a6 a7 a8 a9 a10 (upd a11 o (nI c)) a12 a13) : wpX_openSection post (f1, f2, f3, nI c, f5, nI (o + 1), f7, f8, f9, f10, a1, a2, a3, a4, a5, a6, a7, a8, a9, a10, a11, a12, a13) k := by
  unfold wpX_openSection
  have r : a10 (nI o).toNatClampNeg = nI j := tc_rd rfl (by omega) h10
  refine nm_r (nI_pred o) ⟨pk_in o 4 ho, br_t ?_ ⟨pk_in o 4 ho, nm_r (tc_sa rfl (by omega) (tc_i16 (by omega))) H⟩⟩
  rw [r]
  exact nI_pos' (by omega)
theorem tc_closeLoop {post : St2 → Prop} {f1 f2 f3 f5 f7 f8 f9 f10 : Int32} {a1 a2 a3 a4 a5 a6 a7 a8 a9 a10 a11 a13 : Nat → Int32} {M : Nat → Int} (c o cl tp : Nat) (hc : c < 400) (ho : o < 4) (h5 : a5 o = 10) (h7 : a7 o = nI cl) (hcl : cl < 729) (h6 : a6 o = nI tp) (ht : tp < 400)
    (H : post (f1, f2, f3, nI (c + 4), f5, nI o, f7, f8, f9, f10, a1, a2, a3, a4, a5, a6, a7, a8, a9, a10, a11, tc_E (tc_u (tc_u (tc_u (tc_u (tc_u M c (tc_I 1 cl)) (c + 1) (tc_I 4 506)) (c + 2) (tc_I 2 cl)) (c + 3) (tc_I 9 tp)) (tp + 1) (tc_I 10 (c + 4))), a13)) : wpX_closeBlock post (f1, f2, f3, nI c, f5, nI (o + 1), f7, f8, f9, f10, a1, a2, a3, a4, a5, a6, a7, a8, a9, a10, a11, tc_E M, a13) := by
  unfold wpX_closeBlock
  have r6 : a6 (nI o).toNatClampNeg = nI tp := tc_rd rfl (by omega) h6
  refine nm_r (nI_pred o) ⟨pk_in o 4 ho, br_t (tc_rd rfl (by omega) h5) ⟨pk_in o 4 ho, nm_r (tc_rd rfl (by omega) h7) ?_⟩⟩
  refine tc_write 1 cl (by omega) (by omega) (by omega) rfl rfl ?_
  refine tc_write 4 506 (by omega) (by omega) (by omega) rfl rfl ?_
  refine tc_write 2 cl (by omega) (by omega) (by omega) rfl rfl ?_
  refine ⟨pk_in o 4 ho, tc_write 9 tp (by omega) (by omega) (by omega) rfl r6 ?_⟩
  refine ⟨pk_in o 4 ho, tc_direct (tp + 1) 10 (c + 4) (by omega) (by omega) (by omega) ?_ rfl rfl ?_⟩
  · rw [r6]
    exact nI_1 tp
  · exact H
/-- a jump that waits for its target, or none -/
def tc_j (x : Int32) : Option Nat → Prop
  | none => x = -1
  | some k => x = nI k ∧ k < 729
def tc_pt (M : Nat → Int) (v : Int) : Option Nat → (Nat → Int)
  | none => M
  | some k => tc_u M k v
theorem tc_c159 {post : St2 → Prop} {f1 f2 f3 f5 f6 f7 f8 f9 f10 : Int32} {a1 a2 a3 a4 a5 a6 a7 a8 a9 a10 a11 a13 : Nat → Int32} {M : Nat → Int} (c o : Nat) (j : Option Nat) (hc : c < 400) (ho : o < 4) (h : tc_j (a11 o) j)
    (H : post (f1, f2, f3, nI c, f5, f6, f7, f8, f9, f10, a1, a2, a3, a4, a5, a6, a7, a8, a9, a10, a11, tc_E (tc_pt M (tc_I 9 c) j), a13)) : wX_closeBlock_159 post (nI o) f1 f2 f3 (nI c) f5 f6 f7 f8 f9 f10 a1 a2 a3 a4 a5 a6 a7 a8 a9 a10 a11 (tc_E M) a13 := by
  unfold wX_closeBlock_159
  cases j with
  | none =>
    have r : a11 (nI o).toNatClampNeg = -1 := tc_rd rfl (by omega) h
    exact ⟨pk_in o 4 ho, br_t (by rw [r]; decide) H⟩
  | some k =>
    have r : a11 (nI o).toNatClampNeg = nI k := tc_rd rfl (by omega) h.1
    have hk := h.2
    exact ⟨pk_in o 4 ho, br_f (by rw [r]; exact nI_pos (by omega)) ⟨pk_in o 4 ho, tc_direct k 9 c hk (by omega) (by omega) r rfl rfl H⟩⟩
theorem tc_c134 {post : St2 → Prop} {f1 f2 f3 f5 f6 f7 f8 f9 f10 : Int32} {a1 a2 a3 a4 a5 a6 a7 a8 a9 a10 a11 a13 : Nat → Int32} {M : Nat → Int} (c o : Nat) (j : Option Nat) (hc : c < 400) (ho : o < 4) (h : tc_j (a10 o) j)
    (H : wX_closeBlock_159 post (nI o) f1 f2 f3 (nI c) f5 f6 f7 f8 f9 f10 a1 a2 a3 a4 a5 a6 a7 a8 a9 a10 a11 (tc_E (tc_pt M (tc_I 9 c) j)) a13) : wX_closeBlock_134 post (nI o) f1 f2 f3 (nI c) f5 f6 f7 f8 f9 f10 a1 a2 a3 a4 a5 a6 a7 a8 a9 a10 a11 (tc_E M) a13 := by
  unfold wX_closeBlock_134
  cases j with
  | none =>
    have r : a10 (nI o).toNatClampNeg = -1 := tc_rd rfl (by omega) h
    exact ⟨pk_in o 4 ho, br_t (by rw [r]; decide) H⟩
  | some k =>
    have r : a10 (nI o).toNatClampNeg = nI k := tc_rd rfl (by omega) h.1
    have hk := h.2
    exact ⟨pk_in o 4 ho, br_f (by rw [r]; exact nI_pos (by omega)) ⟨pk_in o 4 ho, tc_direct k 9 c hk (by omega) (by omega) r rfl rfl H⟩⟩
theorem tc_c109 {post : St2 → Prop} {f1 f2 f3 f5 f6 f7 f8 f9 f10 : Int32} {a1 a2 a3 a4 a5 a6 a7 a8 a9 a10 a11 a13 : Nat → Int32} {M : Nat → Int} (c o : Nat) (j : Option Nat) (hc : c < 400) (ho : o < 4) (h : tc_j (a9 o) j)
    (H : wX_closeBlock_134 post (nI o) f1 f2 f3 (nI c) f5 f6 f7 f8 f9 f10 a1 a2 a3 a4 a5 a6 a7 a8 a9 a10 a11 (tc_E (tc_pt M (tc_I 11 c) j)) a13) : wX_closeBlock_109 post (nI o) f1 f2 f3 (nI c) f5 f6 f7 f8 f9 f10 a1 a2 a3 a4 a5 a6 a7 a8 a9 a10 a11 (tc_E M) a13 := by
  unfold wX_closeBlock_109
  cases j with
  | none =>
    have r : a9 (nI o).toNatClampNeg = -1 := tc_rd rfl (by omega) h
    exact ⟨pk_in o 4 ho, br_t (by rw [r]; decide) H⟩
  | some k =>
    have r : a9 (nI o).toNatClampNeg = nI k := tc_rd rfl (by omega) h.1
    have hk := h.2
    exact ⟨pk_in o 4 ho, br_f (by rw [r]; exact nI_pos (by omega)) ⟨pk_in o 4 ho, tc_direct k 11 c hk (by omega) (by omega) r rfl rfl H⟩⟩
theorem tc_closeCase {post : St2 → Prop} {f1 f2 f3 f5 f7 f8 f9 f10 : Int32} {a1 a2 a3 a4 a5 a6 a7 a8 a9 a10 a11 a13 : Nat → Int32} {M : Nat → Int} (c o : Nat) (jz jp j1 j2 : Option Nat) (hc : c < 400) (ho : o < 4) (h5 : ¬ a5 o = 10) (hz : tc_j (a8 o) jz) (hp : tc_j (a9 o) jp) (h1 : tc_j (a10 o) j1) (h2 : tc_j (a11 o) j2)
    (H : post (f1, f2, f3, nI c, f5, nI o, f7, f8, f9, f10, a1, a2, a3, a4, a5, a6, a7, a8, a9, a10, a11, tc_E (tc_pt (tc_pt (tc_pt (tc_pt M (tc_I 10 c) jz) (tc_I 11 c) jp) (tc_I 9 c) j1) (tc_I 9 c) j2), a13)) : wpX_closeBlock post (f1, f2, f3, nI c, f5, nI (o + 1), f7, f8, f9, f10, a1, a2, a3, a4, a5, a6, a7, a8, a9, a10, a11, tc_E M, a13) := by
  unfold wpX_closeBlock
  have r5 : ¬ a5 (nI o).toNatClampNeg = 10 := by rw [nI_clamp (by omega)]; exact h5
  refine nm_r (nI_pred o) ⟨pk_in o 4 ho, br_f r5 ⟨pk_in o 4 ho, ?_⟩⟩
  cases jz with
  | none =>
    have r : a8 (nI o).toNatClampNeg = -1 := tc_rd rfl (by omega) hz
    exact br_t (by rw [r]; decide) (tc_c109 c o jp hc ho hp (tc_c134 c o j1 hc ho h1 (tc_c159 c o j2 hc ho h2 H)))
  | some k =>
    have r : a8 (nI o).toNatClampNeg = nI k := tc_rd rfl (by omega) hz.1
    have hk := hz.2
    exact br_f (by rw [r]; exact nI_pos (by omega)) ⟨pk_in o 4 ho, tc_direct k 10 c hk (by omega) (by omega) r rfl rfl (tc_c109 c o jp hc ho hp (tc_c134 c o j1 hc ho h1 (tc_c159 c o j2 hc ho h2 H)))⟩
/-! one statement of the source: kind k, its three arguments -/
def tc_S (a1 a2 a3 a4 : Nat → Int32) (i k a b c : Nat) : Prop := a1 i = nI k ∧ a2 i = nI a ∧ a3 i = nI b ∧ a4 i = nI c
theorem tc_ca111 {post : St2 → Prop} {f1 f2 f3 f5 f6 f7 f8 f9 f10 : Int32} {a1 a2 a3 a4 a5 a6 a7 a8 a9 a10 a11 a13 : Nat → Int32} {M : Nat → Int} (i c v : Nat) (hi : i < 40) (hc : c < 410) (h2 : a2 i = nI v) (hv : v ≤ 5)
    (H : post (f1, f2, f3, nI (c + 1), f5, f6, f7, f8, f9, f10, a1, a2, a3, a4, a5, a6, a7, a8, a9, a10, a11, tc_E (tc_u M c (tc_I 2 (500 + v))), a13)) : wX_compileArithmetic_111 post (nI i) f1 f2 f3 (nI c) f5 f6 f7 f8 f9 f10 a1 a2 a3 a4 a5 a6 a7 a8 a9 a10 a11 (tc_E M) a13 := by
  unfold wX_compileArithmetic_111
  have r : (500 : Int32) + a2 (nI i).toNatClampNeg = nI (500 + v) := by rw [tc_rd rfl (by omega) h2]; exact nI_add 500 v
  exact ⟨pk_in i 40 hi, tc_write 2 (500 + v) (by omega) (by omega) (by omega) rfl r H⟩
theorem tc_arith {post : St2 → Prop} {f1 f2 f3 f5 f6 f7 f8 f9 f10 : Int32} {a1 a2 a3 a4 a5 a6 a7 a8 a9 a10 a11 a13 : Nat → Int32} {M : Nat → Int} (i c k a b d : Nat) (hi : i < 40) (hc : c < 400) (hS : tc_S a1 a2 a3 a4 i k a b d) (hk : k = 1 ∨ k = 2 ∨ k = 3) (ha : a ≤ 5) (hb : b ≤ 5) (hd : d ≤ 5)
    (H : post (f1, f2, f3, nI (c + 3), f5, f6, f7, f8, f9, f10, a1, a2, a3, a4, a5, a6, a7, a8, a9, a10, a11, tc_E (tc_u (tc_u (tc_u M c (tc_I 1 (500 + b))) (c + 1) (tc_I (k + 2) (500 + d))) (c + 2) (tc_I 2 (500 + a))), a13)) : wpX_compileArithmetic post (f1, f2, f3, nI c, f5, f6, f7, f8, f9, f10, a1, a2, a3, a4, a5, a6, a7, a8, a9, a10, a11, tc_E M, a13) (nI i) := by
  obtain ⟨h1, h2, h3, h4⟩ := hS
  unfold wpX_compileArithmetic
  have r4 : (500 : Int32) + a4 (nI i).toNatClampNeg = nI (500 + d) := by rw [tc_rd rfl (by omega) h4]; exact nI_add 500 d
  have r3 : (500 : Int32) + a3 (nI i).toNatClampNeg = nI (500 + b) := by rw [tc_rd rfl (by omega) h3]; exact nI_add 500 b
  refine ⟨pk_in i 40 hi, nm_r (tc_rd rfl (by omega) h1) ⟨pk_in i 40 hi, nm_r r4 ⟨pk_in i 40 hi, tc_write 1 (500 + b) (by omega) (by omega) (by omega) rfl r3 ?_⟩⟩⟩
  rcases hk with rfl | rfl | rfl
  · refine br_f (by decide) (br_f (by decide) (br_t rfl (tc_write 3 (500 + d) (by omega) (by omega) (by omega) rfl rfl ?_)))
    exact tc_ca111 i (c + 1 + 1) a hi (by omega) h2 ha H
  · refine br_f (by decide) (br_f (by decide) (br_f (by decide) (br_t rfl (tc_write 4 (500 + d) (by omega) (by omega) (by omega) rfl rfl ?_))))
    exact tc_ca111 i (c + 1 + 1) a hi (by omega) h2 ha H
  · refine br_f (by decide) (br_f (by decide) (br_f (by decide) (br_f (by decide) (br_t rfl ?_))))
    unfold wX_compileArithmetic_107
    refine tc_write 5 (500 + d) (by omega) (by omega) (by omega) rfl rfl ?_
    exact tc_ca111 i (c + 1 + 1) a hi (by omega) h2 ha H
theorem tc_cs_arith {post : St2 → Prop} {f1 f2 f3 f5 f6 f7 f8 f9 f10 : Int32} {a1 a2 a3 a4 a5 a6 a7 a8 a9 a10 a11 a13 : Nat → Int32} {M : Nat → Int} (i c k a b d : Nat) (hi : i < 40) (hc : c < 400) (hS : tc_S a1 a2 a3 a4 i k a b d) (hk : k = 1 ∨ k = 2 ∨ k = 3) (ha : a ≤ 5) (hb : b ≤ 5) (hd : d ≤ 5)
    (H : post (f1, f2, f3, nI (c + 3), f5, f6, f7, f8, f9, f10, a1, a2, a3, a4, a5, a6, a7, a8, a9, a10, a11, tc_E (tc_u (tc_u (tc_u M c (tc_I 1 (500 + b))) (c + 1) (tc_I (k + 2) (500 + d))) (c + 2) (tc_I 2 (500 + a))), a13)) : wpX_compileStatement post (f1, f2, f3, nI c, f5, f6, f7, f8, f9, f10, a1, a2, a3, a4, a5, a6, a7, a8, a9, a10, a11, tc_E M, a13) (nI i) := by
  unfold wpX_compileStatement
  refine ⟨pk_in i 40 hi, nm_r (tc_rd rfl (by omega) hS.1) (br_f (nI_ne0 (by omega) (by omega)) (br_f (nI_nlt (a := 6) (by omega) (by decide)) ?_))⟩
  exact tc_arith i c k a b d hi hc hS hk ha hb hd H
theorem tc_cs_set {post : St2 → Prop} {f1 f2 f3 f6 f7 f8 f9 f10 : Int32} {a1 a2 a3 a4 a5 a6 a7 a8 a9 a10 a11 a13 : Nat → Int32} {M : Nat → Int} (i c p a b d : Nat) (hi : i < 40) (hc : c < 400) (hp : p < 700) (hS : tc_S a1 a2 a3 a4 i 0 a b d) (ha : a < 1000) (hb : b ≤ 5)
    (H : post (f1, f2, f3, nI (c + 2), nI (p + 1), f6, f7, f8, f9, f10, a1, a2, a3, a4, a5, a6, a7, a8, a9, a10, a11, tc_E (tc_u (tc_u (tc_u M p (a : Int)) c (tc_I 1 p)) (c + 1) (tc_I 2 (500 + b))), a13)) : wpX_compileStatement post (f1, f2, f3, nI c, nI p, f6, f7, f8, f9, f10, a1, a2, a3, a4, a5, a6, a7, a8, a9, a10, a11, tc_E M, a13) (nI i) := by
  obtain ⟨h1, h2, h3, h4⟩ := hS
  unfold wpX_compileStatement
  have r2 : (a2 (nI i).toNatClampNeg).toInt = (a : Int) := by rw [tc_rd rfl (by omega) h2, nI_toInt (by omega)]
  have r3 : (500 : Int32) + a3 (nI i).toNatClampNeg = nI (500 + b) := by rw [tc_rd rfl (by omega) h3]; exact nI_add 500 b
  refine ⟨pk_in i 40 hi, nm_r (tc_rd rfl (by omega) h1) (br_t rfl ⟨pk_in i 40 hi, tc_pool (a : Int) r2 (by omega) ?_⟩)⟩
  refine tc_write 1 p (by omega) (by omega) (by omega) rfl rfl ?_
  exact ⟨pk_in i 40 hi, tc_write 2 (500 + b) (by omega) (by omega) (by omega) rfl r3 H⟩
theorem tc_cs_case {post : St2 → Prop} {f1 f2 f3 f5 f7 f8 f9 f10 : Int32} {a1 a2 a3 a4 a5 a6 a7 a8 a9 a10 a11 a13 : Nat → Int32} {M : Nat → Int} (i c o a b d : Nat) (hi : i < 40) (hc : c < 400) (ho : o < 4) (hS : tc_S a1 a2 a3 a4 i 7 a b d) (ha : a ≤ 5)
    (H : post (f1, f2, f3, nI (c + 3), f5, nI (o + 1), f7, f8, f9, f10, a1, a2, a3, a4, upd a5 o 7, a6, a7, upd a8 o (nI (c + 1)), upd a9 o (nI (c + 2)), upd a10 o (-1), upd a11 o (-1), tc_E (tc_u (tc_u (tc_u M c (tc_I 1 (500 + a))) (c + 1) (tc_I 10 364)) (c + 2) (tc_I 11 364)), a13)) : wpX_compileStatement post (f1, f2, f3, nI c, f5, nI o, f7, f8, f9, f10, a1, a2, a3, a4, a5, a6, a7, a8, a9, a10, a11, tc_E M, a13) (nI i) := by
  obtain ⟨h1, h2, h3, h4⟩ := hS
  unfold wpX_compileStatement
  refine ⟨pk_in i 40 hi, nm_r (tc_rd rfl (by omega) h1) (br_f (by decide) (br_t (by decide) (br_t rfl ⟨pk_in i 40 hi, ?_⟩)))⟩
  exact tc_openCase c o a (tc_rd rfl (by omega) h2) ha hc ho H
theorem tc_cs_loop {post : St2 → Prop} {f1 f2 f3 f7 f8 f9 f10 : Int32} {a1 a2 a3 a4 a5 a6 a7 a8 a9 a10 a11 a13 : Nat → Int32} {M : Nat → Int} (i c p o a b d : Nat) (hi : i < 40) (hc : c < 400) (hp : p < 700) (ho : o < 4) (hS : tc_S a1 a2 a3 a4 i 10 a b d) (ha : a < 1000)
    (H : post (f1, f2, f3, nI (c + 4), nI (p + 2), nI (o + 1), f7, f8, f9, f10, a1, a2, a3, a4, upd a5 o 10, upd a6 o (nI (c + 2)), upd a7 o (nI (p + 1)), a8, a9, a10, a11, tc_E (tc_u (tc_u (tc_u (tc_u (tc_u (tc_u M p (a : Int)) (p + 1) 0) c (tc_I 1 p)) (c + 1) (tc_I 2 (p + 1))) (c + 2) (tc_I 1 (p + 1))) (c + 3) (tc_I 10 364)), a13)) : wpX_compileStatement post (f1, f2, f3, nI c, nI p, nI o, f7, f8, f9, f10, a1, a2, a3, a4, a5, a6, a7, a8, a9, a10, a11, tc_E M, a13) (nI i) := by
  obtain ⟨h1, h2, h3, h4⟩ := hS
  unfold wpX_compileStatement
  have r2 : (a2 (nI i).toNatClampNeg).toInt = (a : Int) := by rw [tc_rd rfl (by omega) h2, nI_toInt (by omega)]
  refine ⟨pk_in i 40 hi, nm_r (tc_rd rfl (by omega) h1) (br_f (by decide) (br_t (by decide) (br_f (by decide) (br_f (by decide) (br_f (by decide) (br_t rfl ⟨pk_in i 40 hi, ?_⟩))))))⟩
  exact tc_openLoop c p o (a : Int) r2 hc hp ho H
theorem tc_cs_sec {post : St2 → Prop} {f1 f2 f3 f4 f5 f6 f7 f8 f9 f10 : Int32} {a1 a2 a3 a4 a5 a6 a7 a8 a9 a10 a11 a12 a13 : Nat → Int32} {k32 : Int32} (i k a b d : Nat) (hi : i < 40) (hS : tc_S a1 a2 a3 a4 i k a b d) (hk : k = 8 ∨ k = 9) (hk32 : nI k = k32)
    (H : wpX_openSection post (f1, f2, f3, f4, f5, f6, f7, f8, f9, f10, a1, a2, a3, a4, a5, a6, a7, a8, a9, a10, a11, a12, a13) k32) : wpX_compileStatement post (f1, f2, f3, f4, f5, f6, f7, f8, f9, f10, a1, a2, a3, a4, a5, a6, a7, a8, a9, a10, a11, a12, a13) (nI i) := by
  obtain ⟨h1, h2, h3, h4⟩ := hS
  unfold wpX_compileStatement
  subst hk32
  have W : wX_compileStatement_91 post (nI k) f1 f2 f3 f4 f5 f6 f7 f8 f9 f10 a1 a2 a3 a4 a5 a6 a7 a8 a9 a10 a11 a12 a13 := by
    unfold wX_compileStatement_91
    exact H
  rcases hk with rfl | rfl
  · exact ⟨pk_in i 40 hi, nm_r (tc_rd rfl (by omega) h1) (br_f (by decide) (br_t (by decide) (br_f (by decide) (br_t rfl W))))⟩
  · exact ⟨pk_in i 40 hi, nm_r (tc_rd rfl (by omega) h1) (br_f (by decide) (br_t (by decide) (br_f (by decide) (br_f (by decide) (br_t rfl W)))))⟩
theorem tc_cs_end {post : St2 → Prop} {f1 f2 f3 f4 f5 f6 f7 f8 f9 f10 : Int32} {a1 a2 a3 a4 a5 a6 a7 a8 a9 a10 a11 a12 a13 : Nat → Int32} (i a b d : Nat) (hi : i < 40) (hS : tc_S a1 a2 a3 a4 i 11 a b d)
    (H : wpX_closeBlock post (f1, f2, f3, f4, f5, f6, f7, f8, f9, f10, a1, a2, a3, a4, a5, a6, a7, a8, a9, a10, a11, a12, a13)) : wpX_compileStatement post (f1, f2, f3, f4, f5, f6, f7, f8, f9, f10, a1, a2, a3, a4, a5, a6, a7, a8, a9, a10, a11, a12, a13) (nI i) := by
  obtain ⟨h1, h2, h3, h4⟩ := hS
  unfold wpX_compileStatement
  exact ⟨pk_in i 40 hi, nm_r (tc_rd rfl (by omega) h1) (br_f (by decide) (br_t (by decide) (br_f (by decide) (br_f (by decide) (br_f (by decide) (br_f (by decide) (br_t rfl H)))))))⟩
theorem tc_cs_print {post : St2 → Prop} {f1 f2 f3 f5 f6 f7 f8 f9 f10 : Int32} {a1 a2 a3 a4 a5 a6 a7 a8 a9 a10 a11 a13 : Nat → Int32} {M : Nat → Int} (i c a b d : Nat) (hi : i < 40) (hc : c < 400) (hS : tc_S a1 a2 a3 a4 i 12 a b d) (ha : a ≤ 5)
    (H : post (f1, f2, f3, nI (c + 1), f5, f6, f7, f8, f9, f10, a1, a2, a3, a4, a5, a6, a7, a8, a9, a10, a11, tc_E (tc_u M c (tc_I 12 (500 + a))), a13)) : wpX_compileStatement post (f1, f2, f3, nI c, f5, f6, f7, f8, f9, f10, a1, a2, a3, a4, a5, a6, a7, a8, a9, a10, a11, tc_E M, a13) (nI i) := by
  obtain ⟨h1, h2, h3, h4⟩ := hS
  unfold wpX_compileStatement
  have r2 : (500 : Int32) + a2 (nI i).toNatClampNeg = nI (500 + a) := by rw [tc_rd rfl (by omega) h2]; exact nI_add 500 a
  exact ⟨pk_in i 40 hi, nm_r (tc_rd rfl (by omega) h1) (br_f (by decide) (br_t (by decide) (br_f (by decide) (br_f (by decide) (br_f (by decide) (br_f (by decide) (br_f (by decide) ⟨pk_in i 40 hi, tc_write 12 (500 + a) (by omega) (by omega) (by omega) rfl r2 H⟩)))))))⟩
/-! the compiler's loop: one statement, and the end -/
theorem tc_cl_end {post : St2 → Prop} {f2 f3 f5 f6 f7 f8 f9 f10 : Int32} {a1 a2 a3 a4 a5 a6 a7 a8 a9 a10 a11 a13 : Nat → Int32} {M : Nat → Int} {L n : Nat} (c : Nat) (hc : c < 400)
    (H : post (nI L, f2, f3, nI (c + 1), f5, f6, f7, f8, f9, f10, a1, a2, a3, a4, a5, a6, a7, a8, a9, a10, a11, tc_E (tc_u M c (tc_I 0 364)), a13)) : wX_compile_61 post (n + 1) (nI L) (nI L) f2 f3 (nI c) f5 f6 f7 f8 f9 f10 a1 a2 a3 a4 a5 a6 a7 a8 a9 a10 a11 (tc_E M) a13 :=
  br_t (Int32.le_refl _) (tc_write 0 364 (by omega) (by omega) (by omega) rfl rfl H)
end
section
/-! the machine -/
theorem tc_valHi {P : Int32 → Prop} {u : St2} (o c : Nat) (ho : o ≤ 12) (hc : c < 729) (H : P (nI o)) : wpX_valueOf P u (((tc_en (tc_I o c) &&& 511) >>> ((6 : Int32) &&& 31)) ||| ((tc_en (tc_I o c) >>> ((15 : Int32) &&& 31)) <<< ((9 : Int32) &&& 31))) := by
  unfold tc_I
  rw [tc_hi (o : Int) ((c : Int) - 364) (by omega) (by omega) (by omega) (by omega)]
  refine tc_valueOf (o : Int) ?_
  rw [tc_m_id (by omega) (by omega), tc_sI_n]
  exact H
theorem tc_valLo {P : Int32 → Prop} {u : St2} (o c : Nat) (hc : c < 729) (H : P (tc_sI ((c : Int) - 364))) : wpX_valueOf P u ((tc_en (tc_I o c) &&& 63) ||| (((tc_en (tc_I o c) >>> ((9 : Int32) &&& 31)) &&& 63) <<< ((9 : Int32) &&& 31))) := by
  unfold tc_I
  rw [tc_lo (o : Int) ((c : Int) - 364) (by omega) (by omega)]
  refine tc_valueOf ((c : Int) - 364) ?_
  rw [tc_m_id (by omega) (by omega)]
  exact H
theorem tc_c364 (c : Nat) : tc_sI ((c : Int) - 364) + 364 = nI c := by
  have e : tc_sI ((c : Int) - 364) + tc_sI 364 = nI c := by
    rw [tc_sI_add, show (c : Int) - 364 + 364 = (c : Int) by omega, tc_sI_n]
  exact e
theorem tc_mem {M : Nat → Int} {k : Nat} {v : Int} (hk : k < 2 ^ 31) (h : M k = v) : tc_E M (nI k).toNatClampNeg = tc_en v := by
  rw [nI_clamp hk]
  show tc_en (M k) = tc_en v
  rw [h]
theorem tc_sum' {post : Int32 → Prop} {u : St2} {x y : Int} {v w : Int32} (hv : v = tc_en x) (hw : w = tc_en y) (H : post (tc_en (x + y))) : wpX_sum post u v w := by
  subst hv hw
  exact tc_sum H
theorem tc_x_halt {Q : St2 → Prop} {f1 f2 f3 f4 f5 f6 f7 f9 f10 : Int32} {a1 a2 a3 a4 a5 a6 a7 a8 a9 a10 a11 a13 : Nat → Int32} {M : Nat → Int} {pl c : Nat} (hp : pl < 729) (hc : c < 729) (h : M pl = tc_I 0 c)
    (H : Q (f1, f2, f3, f4, f5, f6, f7, nI (pl + 1), 0, f10, a1, a2, a3, a4, a5, a6, a7, a8, a9, a10, a11, tc_E M, a13)) : wpX_execute Q (f1, f2, f3, f4, f5, f6, f7, nI pl, f9, f10, a1, a2, a3, a4, a5, a6, a7, a8, a9, a10, a11, tc_E M, a13) := by
  unfold wpX_execute
  refine ⟨pk_in pl 729 hp, nm_r (tc_mem (by omega) h) (tc_valHi 0 c (by omega) hc (tc_valLo 0 c hc (nm_r (tc_c364 c) (nm_r (nI_1 pl) ?_))))⟩
  exact br_t rfl H
theorem tc_x_load {Q : St2 → Prop} {f1 f2 f3 f4 f5 f6 f7 f9 f10 : Int32} {a1 a2 a3 a4 a5 a6 a7 a8 a9 a10 a11 a13 : Nat → Int32} {M : Nat → Int} {pl c : Nat} (hp : pl < 729) (hc : c < 729) (h : M pl = tc_I 1 c)
    (H : Q (f1, f2, f3, f4, f5, f6, tc_en (M c), nI (pl + 1), f9, f10, a1, a2, a3, a4, a5, a6, a7, a8, a9, a10, a11, tc_E M, a13)) : wpX_execute Q (f1, f2, f3, f4, f5, f6, f7, nI pl, f9, f10, a1, a2, a3, a4, a5, a6, a7, a8, a9, a10, a11, tc_E M, a13) := by
  unfold wpX_execute
  refine ⟨pk_in pl 729 hp, nm_r (tc_mem (by omega) h) (tc_valHi 1 c (by omega) hc (tc_valLo 1 c hc (nm_r (tc_c364 c) (nm_r (nI_1 pl) ?_))))⟩
  exact br_f (by decide) (br_t rfl ⟨pk_in c 729 hc, nm_r (tc_mem (by omega) rfl) H⟩)
theorem tc_x_store {Q : St2 → Prop} {f1 f2 f3 f4 f5 f6 f9 f10 : Int32} {a1 a2 a3 a4 a5 a6 a7 a8 a9 a10 a11 a13 : Nat → Int32} {M : Nat → Int} {pl c : Nat} {acc : Int} (hp : pl < 729) (hc : c < 729) (h : M pl = tc_I 2 c)
    (H : Q (f1, f2, f3, f4, f5, f6, tc_en acc, nI (pl + 1), f9, f10, a1, a2, a3, a4, a5, a6, a7, a8, a9, a10, a11, tc_E (tc_u M c acc), a13)) : wpX_execute Q (f1, f2, f3, f4, f5, f6, tc_en acc, nI pl, f9, f10, a1, a2, a3, a4, a5, a6, a7, a8, a9, a10, a11, tc_E M, a13) := by
  unfold wpX_execute
  refine ⟨pk_in pl 729 hp, nm_r (tc_mem (by omega) h) (tc_valHi 2 c (by omega) hc (tc_valLo 2 c hc (nm_r (tc_c364 c) (nm_r (nI_1 pl) ?_))))⟩
  exact br_f (by decide) (br_f (by decide) (br_t rfl ⟨pk_in c 729 hc, nm_r (tc_st rfl (by omega)) H⟩))
theorem tc_x_plus {Q : St2 → Prop} {f1 f2 f3 f4 f5 f6 f9 f10 : Int32} {a1 a2 a3 a4 a5 a6 a7 a8 a9 a10 a11 a13 : Nat → Int32} {M : Nat → Int} {pl c : Nat} {acc : Int} (hp : pl < 729) (hc : c < 729) (h : M pl = tc_I 3 c)
    (H : Q (f1, f2, f3, f4, f5, f6, tc_en (acc + M c), nI (pl + 1), f9, f10, a1, a2, a3, a4, a5, a6, a7, a8, a9, a10, a11, tc_E M, a13)) : wpX_execute Q (f1, f2, f3, f4, f5, f6, tc_en acc, nI pl, f9, f10, a1, a2, a3, a4, a5, a6, a7, a8, a9, a10, a11, tc_E M, a13) := by
  unfold wpX_execute
  refine ⟨pk_in pl 729 hp, nm_r (tc_mem (by omega) h) (tc_valHi 3 c (by omega) hc (tc_valLo 3 c hc (nm_r (tc_c364 c) (nm_r (nI_1 pl) ?_))))⟩
  refine br_f (by decide) (br_f (by decide) (br_f (by decide) (br_f (by decide) ⟨pk_in c 729 hc, ?_⟩)))
  rw [tc_mem (M := M) (k := c) (by omega) rfl]
  unfold wpX_combined
  exact br_t rfl (tc_sum H)
theorem tc_x_minus {Q : St2 → Prop} {f1 f2 f3 f4 f5 f6 f9 f10 : Int32} {a1 a2 a3 a4 a5 a6 a7 a8 a9 a10 a11 a13 : Nat → Int32} {M : Nat → Int} {pl c : Nat} {acc : Int} (hp : pl < 729) (hc : c < 729) (h : M pl = tc_I 4 c)
    (H : Q (f1, f2, f3, f4, f5, f6, tc_en (acc - M c), nI (pl + 1), f9, f10, a1, a2, a3, a4, a5, a6, a7, a8, a9, a10, a11, tc_E M, a13)) : wpX_execute Q (f1, f2, f3, f4, f5, f6, tc_en acc, nI pl, f9, f10, a1, a2, a3, a4, a5, a6, a7, a8, a9, a10, a11, tc_E M, a13) := by
  unfold wpX_execute
  refine ⟨pk_in pl 729 hp, nm_r (tc_mem (by omega) h) (tc_valHi 4 c (by omega) hc (tc_valLo 4 c hc (nm_r (tc_c364 c) (nm_r (nI_1 pl) ?_))))⟩
  refine br_f (by decide) (br_f (by decide) (br_f (by decide) (br_f (by decide) ⟨pk_in c 729 hc, ?_⟩)))
  rw [tc_mem (M := M) (k := c) (by omega) rfl]
  unfold wpX_combined
  exact br_f (by decide) (tc_negated (br_t rfl (tc_sum H)))
theorem tc_x_times {Q : St2 → Prop} {f1 f2 f3 f4 f5 f6 f9 f10 : Int32} {a1 a2 a3 a4 a5 a6 a7 a8 a9 a10 a11 a13 : Nat → Int32} {M : Nat → Int} {pl c : Nat} {acc : Int} (hp : pl < 729) (hc : c < 729) (h : M pl = tc_I 5 c)
    (H : Q (f1, f2, f3, f4, f5, f6, tc_en (acc * M c), nI (pl + 1), f9, f10, a1, a2, a3, a4, a5, a6, a7, a8, a9, a10, a11, tc_E M, a13)) : wpX_execute Q (f1, f2, f3, f4, f5, f6, tc_en acc, nI pl, f9, f10, a1, a2, a3, a4, a5, a6, a7, a8, a9, a10, a11, tc_E M, a13) := by
  unfold wpX_execute
  refine ⟨pk_in pl 729 hp, nm_r (tc_mem (by omega) h) (tc_valHi 5 c (by omega) hc (tc_valLo 5 c hc (nm_r (tc_c364 c) (nm_r (nI_1 pl) ?_))))⟩
  refine br_f (by decide) (br_f (by decide) (br_f (by decide) (br_f (by decide) ⟨pk_in c 729 hc, ?_⟩)))
  rw [tc_mem (M := M) (k := c) (by omega) rfl]
  unfold wpX_combined
  exact br_f (by decide) (tc_negated (br_f (by decide) (br_t rfl (tc_product H))))
theorem tc_x_out {Q : St2 → Prop} {f1 f2 f3 f4 f5 f6 f7 f9 : Int32} {a1 a2 a3 a4 a5 a6 a7 a8 a9 a10 a11 : Nat → Int32} {M O : Nat → Int} {pl c pc : Nat} (hp : pl < 729) (hc : c < 729) (hpc : pc < 48) (h : M pl = tc_I 12 c)
    (H : Q (f1, f2, f3, f4, f5, f6, f7, nI (pl + 1), f9, nI (pc + 1), a1, a2, a3, a4, a5, a6, a7, a8, a9, a10, a11, tc_E M, tc_E (tc_u O pc (M c)))) : wpX_execute Q (f1, f2, f3, f4, f5, f6, f7, nI pl, f9, nI pc, a1, a2, a3, a4, a5, a6, a7, a8, a9, a10, a11, tc_E M, tc_E O) := by
  unfold wpX_execute
  refine ⟨pk_in pl 729 hp, nm_r (tc_mem (by omega) h) (tc_valHi 12 c (by omega) hc (tc_valLo 12 c hc (nm_r (tc_c364 c) (nm_r (nI_1 pl) ?_))))⟩
  refine br_f (by decide) (br_f (by decide) (br_f (by decide) (br_t (by decide) (br_f (by decide) (br_f (by decide) (br_t rfl ⟨pk_in c 729 hc, ?_⟩))))))
  rw [tc_mem (M := M) (k := c) (by omega) rfl]
  unfold wpX_print
  exact br_f (nI_ge (b := 48) hpc (by decide)) ⟨pk_in pc 48 hpc, nm_r (tc_st rfl (by omega)) (nm_r (nI_1 pc) H)⟩
theorem tc_jump9 {Q : St2 → Prop} {f1 f2 f3 f4 f5 f6 f8 f9 f10 : Int32} {a1 a2 a3 a4 a5 a6 a7 a8 a9 a10 a11 a12 a13 : Nat → Int32} {acc : Int} {c : Int32} (H : Q (f1, f2, f3, f4, f5, f6, tc_en acc, c, f9, f10, a1, a2, a3, a4, a5, a6, a7, a8, a9, a10, a11, a12, a13)) : wpX_jump Q (f1, f2, f3, f4, f5, f6, tc_en acc, f8, f9, f10, a1, a2, a3, a4, a5, a6, a7, a8, a9, a10, a11, a12, a13) 9 c := by
  have W : ∀ r : Int32, wX_jump_20 Q 9 c r f1 f2 f3 f4 f5 f6 (tc_en acc) c f9 f10 a1 a2 a3 a4 a5 a6 a7 a8 a9 a10 a11 a12 a13 := by
    intro r
    unfold wX_jump_20
    refine br_f (by decide) ?_
    unfold wX_jump_35
    exact br_f (by decide) H
  unfold wpX_jump
  exact tc_signOf (fun _ => br_t rfl (W _)) (fun _ => br_t rfl (W _)) (fun _ => br_t rfl (W _))
theorem tc_jump10 {Q : St2 → Prop} {f1 f2 f3 f4 f5 f6 f8 f9 f10 : Int32} {a1 a2 a3 a4 a5 a6 a7 a8 a9 a10 a11 a12 a13 : Nat → Int32} {acc : Int} {c : Int32} (H0 : tc_m acc = 0 → Q (f1, f2, f3, f4, f5, f6, tc_en acc, c, f9, f10, a1, a2, a3, a4, a5, a6, a7, a8, a9, a10, a11, a12, a13)) (H1 : ¬ tc_m acc = 0 → Q (f1, f2, f3, f4, f5, f6, tc_en acc, f8, f9, f10, a1, a2, a3, a4, a5, a6, a7, a8, a9, a10, a11, a12, a13)) : wpX_jump Q (f1, f2, f3, f4, f5, f6, tc_en acc, f8, f9, f10, a1, a2, a3, a4, a5, a6, a7, a8, a9, a10, a11, a12, a13) 10 c := by
  unfold wpX_jump
  refine tc_signOf (fun h => br_f (by decide) ?_) (fun h => br_f (by decide) ?_) (fun h => br_f (by decide) ?_)
  · unfold wX_jump_20
    refine br_t rfl (br_t rfl ?_)
    unfold wX_jump_35
    exact br_f (by decide) (H0 h)
  · unfold wX_jump_20
    refine br_t rfl (br_f (by decide) ?_)
    unfold wX_jump_35
    exact br_f (by decide) (H1 (by omega))
  · unfold wX_jump_20
    refine br_t rfl (br_f (by decide) ?_)
    unfold wX_jump_35
    exact br_f (by decide) (H1 (by omega))
theorem tc_jump11 {Q : St2 → Prop} {f1 f2 f3 f4 f5 f6 f8 f9 f10 : Int32} {a1 a2 a3 a4 a5 a6 a7 a8 a9 a10 a11 a12 a13 : Nat → Int32} {acc : Int} {c : Int32} (H0 : 0 < tc_m acc → Q (f1, f2, f3, f4, f5, f6, tc_en acc, c, f9, f10, a1, a2, a3, a4, a5, a6, a7, a8, a9, a10, a11, a12, a13)) (H1 : ¬ 0 < tc_m acc → Q (f1, f2, f3, f4, f5, f6, tc_en acc, f8, f9, f10, a1, a2, a3, a4, a5, a6, a7, a8, a9, a10, a11, a12, a13)) : wpX_jump Q (f1, f2, f3, f4, f5, f6, tc_en acc, f8, f9, f10, a1, a2, a3, a4, a5, a6, a7, a8, a9, a10, a11, a12, a13) 11 c := by
  unfold wpX_jump
  refine tc_signOf (fun h => br_f (by decide) ?_) (fun h => br_f (by decide) ?_) (fun h => br_f (by decide) ?_)
  · unfold wX_jump_20
    refine br_f (by decide) ?_
    unfold wX_jump_35
    exact br_t rfl (br_f (by decide) (H1 (by omega)))
  · unfold wX_jump_20
    refine br_f (by decide) ?_
    unfold wX_jump_35
    exact br_t rfl (br_f (by decide) (H1 (by omega)))
  · unfold wX_jump_20
    refine br_f (by decide) ?_
    unfold wX_jump_35
    exact br_t rfl (br_t rfl (H0 h))
theorem tc_x_jump {Q : St2 → Prop} {f1 f2 f3 f4 f5 f6 f9 f10 : Int32} {a1 a2 a3 a4 a5 a6 a7 a8 a9 a10 a11 a13 : Nat → Int32} {M : Nat → Int} {pl c : Nat} {acc : Int} (hp : pl < 729) (hc : c < 729) (h : M pl = tc_I 9 c)
    (H : Q (f1, f2, f3, f4, f5, f6, tc_en acc, nI c, f9, f10, a1, a2, a3, a4, a5, a6, a7, a8, a9, a10, a11, tc_E M, a13)) : wpX_execute Q (f1, f2, f3, f4, f5, f6, tc_en acc, nI pl, f9, f10, a1, a2, a3, a4, a5, a6, a7, a8, a9, a10, a11, tc_E M, a13) := by
  unfold wpX_execute
  refine ⟨pk_in pl 729 hp, nm_r (tc_mem (by omega) h) (tc_valHi 9 c (by omega) hc (tc_valLo 9 c hc (nm_r (tc_c364 c) (nm_r (nI_1 pl) ?_))))⟩
  refine br_f (by decide) (br_f (by decide) (br_f (by decide) (br_t (by decide) (br_f (by decide) (br_f (by decide) (br_f (by decide) ?_))))))
  exact tc_jump9 H
theorem tc_x_jz {Q : St2 → Prop} {f1 f2 f3 f4 f5 f6 f9 f10 : Int32} {a1 a2 a3 a4 a5 a6 a7 a8 a9 a10 a11 a13 : Nat → Int32} {M : Nat → Int} {pl c : Nat} {acc : Int} (hp : pl < 729) (hc : c < 729) (h : M pl = tc_I 10 c)
    (H0 : tc_m acc = 0 → Q (f1, f2, f3, f4, f5, f6, tc_en acc, nI c, f9, f10, a1, a2, a3, a4, a5, a6, a7, a8, a9, a10, a11, tc_E M, a13)) (H1 : ¬ tc_m acc = 0 → Q (f1, f2, f3, f4, f5, f6, tc_en acc, nI (pl + 1), f9, f10, a1, a2, a3, a4, a5, a6, a7, a8, a9, a10, a11, tc_E M, a13)) : wpX_execute Q (f1, f2, f3, f4, f5, f6, tc_en acc, nI pl, f9, f10, a1, a2, a3, a4, a5, a6, a7, a8, a9, a10, a11, tc_E M, a13) := by
  unfold wpX_execute
  refine ⟨pk_in pl 729 hp, nm_r (tc_mem (by omega) h) (tc_valHi 10 c (by omega) hc (tc_valLo 10 c hc (nm_r (tc_c364 c) (nm_r (nI_1 pl) ?_))))⟩
  refine br_f (by decide) (br_f (by decide) (br_f (by decide) (br_t (by decide) (br_f (by decide) (br_f (by decide) (br_f (by decide) ?_))))))
  exact tc_jump10 H0 H1
theorem tc_x_jp {Q : St2 → Prop} {f1 f2 f3 f4 f5 f6 f9 f10 : Int32} {a1 a2 a3 a4 a5 a6 a7 a8 a9 a10 a11 a13 : Nat → Int32} {M : Nat → Int} {pl c : Nat} {acc : Int} (hp : pl < 729) (hc : c < 729) (h : M pl = tc_I 11 c)
    (H0 : 0 < tc_m acc → Q (f1, f2, f3, f4, f5, f6, tc_en acc, nI c, f9, f10, a1, a2, a3, a4, a5, a6, a7, a8, a9, a10, a11, tc_E M, a13)) (H1 : ¬ 0 < tc_m acc → Q (f1, f2, f3, f4, f5, f6, tc_en acc, nI (pl + 1), f9, f10, a1, a2, a3, a4, a5, a6, a7, a8, a9, a10, a11, tc_E M, a13)) : wpX_execute Q (f1, f2, f3, f4, f5, f6, tc_en acc, nI pl, f9, f10, a1, a2, a3, a4, a5, a6, a7, a8, a9, a10, a11, tc_E M, a13) := by
  unfold wpX_execute
  refine ⟨pk_in pl 729 hp, nm_r (tc_mem (by omega) h) (tc_valHi 11 c (by omega) hc (tc_valLo 11 c hc (nm_r (tc_c364 c) (nm_r (nI_1 pl) ?_))))⟩
  refine br_f (by decide) (br_f (by decide) (br_f (by decide) (br_t (by decide) (br_f (by decide) (br_f (by decide) (br_f (by decide) ?_))))))
  exact tc_jump11 H0 H1
/-! the run's loop: step s, the accumulator acc, the place pl, pc printed words O, memory M -/
def tc_R (post : Int32 → St2 → Prop) (f1 f2 f3 f4 f5 f6 : Int32) (a1 a2 a3 a4 a5 a6 a7 a8 a9 a10 a11 : Nat → Int32) (s : Nat) (acc : Int) (pl pc : Nat) (M O : Nat → Int) : Prop :=
  ∃ n, wX_run_37 post n (nI s) f1 f2 f3 f4 f5 f6 (tc_en acc) (nI pl) 1 (nI pc) a1 a2 a3 a4 a5 a6 a7 a8 a9 a10 a11 (tc_E M) (tc_E O)
theorem tc_step {post : Int32 → St2 → Prop} {f1 f2 f3 f4 f5 f6 : Int32} {a1 a2 a3 a4 a5 a6 a7 a8 a9 a10 a11 : Nat → Int32} {s pl pc pl' pc' : Nat} {acc acc' : Int} {M O M' O' : Nat → Int} (hs : s < 40000)
    (hx : ∀ Q : St2 → Prop, Q (f1, f2, f3, f4, f5, f6, tc_en acc', nI pl', 1, nI pc', a1, a2, a3, a4, a5, a6, a7, a8, a9, a10, a11, tc_E M', tc_E O') → wpX_execute Q (f1, f2, f3, f4, f5, f6, tc_en acc, nI pl, 1, nI pc, a1, a2, a3, a4, a5, a6, a7, a8, a9, a10, a11, tc_E M, tc_E O))
    (H : tc_R post f1 f2 f3 f4 f5 f6 a1 a2 a3 a4 a5 a6 a7 a8 a9 a10 a11 (s + 1) acc' pl' pc' M' O') : tc_R post f1 f2 f3 f4 f5 f6 a1 a2 a3 a4 a5 a6 a7 a8 a9 a10 a11 s acc pl pc M O := by
  obtain ⟨n, hn⟩ := H
  exact ⟨n + 1, br_f (nI_ge (b := 40000) hs (by decide)) (br_f (by decide) (hx _ (nm_r (nI_1 s) hn)))⟩
theorem tc_r_halt {post : Int32 → St2 → Prop} {f1 f2 f3 f4 f5 f6 : Int32} {a1 a2 a3 a4 a5 a6 a7 a8 a9 a10 a11 : Nat → Int32} {s pl pc c : Nat} {acc : Int} {M O : Nat → Int} (hs : s + 1 < 40000) (hp : pl < 729) (hc : c < 729) (h : M pl = tc_I 0 c)
    (H : post (nI pc) (f1, f2, f3, f4, f5, f6, tc_en acc, nI (pl + 1), 0, nI pc, a1, a2, a3, a4, a5, a6, a7, a8, a9, a10, a11, tc_E M, tc_E O)) : tc_R post f1 f2 f3 f4 f5 f6 a1 a2 a3 a4 a5 a6 a7 a8 a9 a10 a11 s acc pl pc M O := by
  refine ⟨2, br_f (nI_ge (b := 40000) (by omega) (by decide)) (br_f (by decide) (tc_x_halt hp hc h (nm_r (nI_1 s) ?_)))⟩
  exact br_f (nI_ge (b := 40000) hs (by decide)) (br_t rfl H)
theorem tc_r_load {post : Int32 → St2 → Prop} {f1 f2 f3 f4 f5 f6 : Int32} {a1 a2 a3 a4 a5 a6 a7 a8 a9 a10 a11 : Nat → Int32} {s pl pc c : Nat} {acc v : Int} {M O : Nat → Int} (hs : s < 40000) (hp : pl < 729) (hc : c < 729) (h : M pl = tc_I 1 c) (hv : M c = v)
    (H : tc_R post f1 f2 f3 f4 f5 f6 a1 a2 a3 a4 a5 a6 a7 a8 a9 a10 a11 (s + 1) v (pl + 1) pc M O) : tc_R post f1 f2 f3 f4 f5 f6 a1 a2 a3 a4 a5 a6 a7 a8 a9 a10 a11 s acc pl pc M O := by
  subst hv
  exact tc_step hs (fun Q hQ => tc_x_load hp hc h hQ) H
theorem tc_r_store {post : Int32 → St2 → Prop} {f1 f2 f3 f4 f5 f6 : Int32} {a1 a2 a3 a4 a5 a6 a7 a8 a9 a10 a11 : Nat → Int32} {s pl pc c : Nat} {acc : Int} {M O : Nat → Int} (hs : s < 40000) (hp : pl < 729) (hc : c < 729) (h : M pl = tc_I 2 c)
    (H : tc_R post f1 f2 f3 f4 f5 f6 a1 a2 a3 a4 a5 a6 a7 a8 a9 a10 a11 (s + 1) acc (pl + 1) pc (tc_u M c acc) O) : tc_R post f1 f2 f3 f4 f5 f6 a1 a2 a3 a4 a5 a6 a7 a8 a9 a10 a11 s acc pl pc M O :=
  tc_step hs (fun Q hQ => tc_x_store hp hc h hQ) H
theorem tc_r_plus {post : Int32 → St2 → Prop} {f1 f2 f3 f4 f5 f6 : Int32} {a1 a2 a3 a4 a5 a6 a7 a8 a9 a10 a11 : Nat → Int32} {s pl pc c : Nat} {acc v : Int} {M O : Nat → Int} (hs : s < 40000) (hp : pl < 729) (hc : c < 729) (h : M pl = tc_I 3 c) (hv : M c = v)
    (H : tc_R post f1 f2 f3 f4 f5 f6 a1 a2 a3 a4 a5 a6 a7 a8 a9 a10 a11 (s + 1) (acc + v) (pl + 1) pc M O) : tc_R post f1 f2 f3 f4 f5 f6 a1 a2 a3 a4 a5 a6 a7 a8 a9 a10 a11 s acc pl pc M O := by
  subst hv
  exact tc_step hs (fun Q hQ => tc_x_plus hp hc h hQ) H
theorem tc_r_minus {post : Int32 → St2 → Prop} {f1 f2 f3 f4 f5 f6 : Int32} {a1 a2 a3 a4 a5 a6 a7 a8 a9 a10 a11 : Nat → Int32} {s pl pc c : Nat} {acc v : Int} {M O : Nat → Int} (hs : s < 40000) (hp : pl < 729) (hc : c < 729) (h : M pl = tc_I 4 c) (hv : M c = v)
    (H : tc_R post f1 f2 f3 f4 f5 f6 a1 a2 a3 a4 a5 a6 a7 a8 a9 a10 a11 (s + 1) (acc - v) (pl + 1) pc M O) : tc_R post f1 f2 f3 f4 f5 f6 a1 a2 a3 a4 a5 a6 a7 a8 a9 a10 a11 s acc pl pc M O := by
  subst hv
  exact tc_step hs (fun Q hQ => tc_x_minus hp hc h hQ) H
theorem tc_r_times {post : Int32 → St2 → Prop} {f1 f2 f3 f4 f5 f6 : Int32} {a1 a2 a3 a4 a5 a6 a7 a8 a9 a10 a11 : Nat → Int32} {s pl pc c : Nat} {acc v : Int} {M O : Nat → Int} (hs : s < 40000) (hp : pl < 729) (hc : c < 729) (h : M pl = tc_I 5 c) (hv : M c = v)
    (H : tc_R post f1 f2 f3 f4 f5 f6 a1 a2 a3 a4 a5 a6 a7 a8 a9 a10 a11 (s + 1) (acc * v) (pl + 1) pc M O) : tc_R post f1 f2 f3 f4 f5 f6 a1 a2 a3 a4 a5 a6 a7 a8 a9 a10 a11 s acc pl pc M O := by
  subst hv
  exact tc_step hs (fun Q hQ => tc_x_times hp hc h hQ) H
theorem tc_r_out {post : Int32 → St2 → Prop} {f1 f2 f3 f4 f5 f6 : Int32} {a1 a2 a3 a4 a5 a6 a7 a8 a9 a10 a11 : Nat → Int32} {s pl pc c : Nat} {acc v : Int} {M O : Nat → Int} (hs : s < 40000) (hp : pl < 729) (hc : c < 729) (hpc : pc < 48) (h : M pl = tc_I 12 c) (hv : M c = v)
    (H : tc_R post f1 f2 f3 f4 f5 f6 a1 a2 a3 a4 a5 a6 a7 a8 a9 a10 a11 (s + 1) acc (pl + 1) (pc + 1) M (tc_u O pc v)) : tc_R post f1 f2 f3 f4 f5 f6 a1 a2 a3 a4 a5 a6 a7 a8 a9 a10 a11 s acc pl pc M O := by
  subst hv
  exact tc_step hs (fun Q hQ => tc_x_out hp hc hpc h hQ) H
theorem tc_r_jump {post : Int32 → St2 → Prop} {f1 f2 f3 f4 f5 f6 : Int32} {a1 a2 a3 a4 a5 a6 a7 a8 a9 a10 a11 : Nat → Int32} {s pl pc c : Nat} {acc : Int} {M O : Nat → Int} (hs : s < 40000) (hp : pl < 729) (hc : c < 729) (h : M pl = tc_I 9 c)
    (H : tc_R post f1 f2 f3 f4 f5 f6 a1 a2 a3 a4 a5 a6 a7 a8 a9 a10 a11 (s + 1) acc c pc M O) : tc_R post f1 f2 f3 f4 f5 f6 a1 a2 a3 a4 a5 a6 a7 a8 a9 a10 a11 s acc pl pc M O :=
  tc_step hs (fun Q hQ => tc_x_jump hp hc h hQ) H
theorem tc_r_jz1 {post : Int32 → St2 → Prop} {f1 f2 f3 f4 f5 f6 : Int32} {a1 a2 a3 a4 a5 a6 a7 a8 a9 a10 a11 : Nat → Int32} {s pl pc c : Nat} {acc : Int} {M O : Nat → Int} (hs : s < 40000) (hp : pl < 729) (hc : c < 729) (h : M pl = tc_I 10 c) (ha : tc_m acc = 0)
    (H : tc_R post f1 f2 f3 f4 f5 f6 a1 a2 a3 a4 a5 a6 a7 a8 a9 a10 a11 (s + 1) acc c pc M O) : tc_R post f1 f2 f3 f4 f5 f6 a1 a2 a3 a4 a5 a6 a7 a8 a9 a10 a11 s acc pl pc M O :=
  tc_step hs (fun Q hQ => tc_x_jz hp hc h (fun _ => hQ) (fun z => absurd ha z)) H
theorem tc_r_jz0 {post : Int32 → St2 → Prop} {f1 f2 f3 f4 f5 f6 : Int32} {a1 a2 a3 a4 a5 a6 a7 a8 a9 a10 a11 : Nat → Int32} {s pl pc c : Nat} {acc : Int} {M O : Nat → Int} (hs : s < 40000) (hp : pl < 729) (hc : c < 729) (h : M pl = tc_I 10 c) (ha : ¬ tc_m acc = 0)
    (H : tc_R post f1 f2 f3 f4 f5 f6 a1 a2 a3 a4 a5 a6 a7 a8 a9 a10 a11 (s + 1) acc (pl + 1) pc M O) : tc_R post f1 f2 f3 f4 f5 f6 a1 a2 a3 a4 a5 a6 a7 a8 a9 a10 a11 s acc pl pc M O :=
  tc_step hs (fun Q hQ => tc_x_jz hp hc h (fun z => absurd z ha) (fun _ => hQ)) H
theorem tc_r_jp1 {post : Int32 → St2 → Prop} {f1 f2 f3 f4 f5 f6 : Int32} {a1 a2 a3 a4 a5 a6 a7 a8 a9 a10 a11 : Nat → Int32} {s pl pc c : Nat} {acc : Int} {M O : Nat → Int} (hs : s < 40000) (hp : pl < 729) (hc : c < 729) (h : M pl = tc_I 11 c) (ha : 0 < tc_m acc)
    (H : tc_R post f1 f2 f3 f4 f5 f6 a1 a2 a3 a4 a5 a6 a7 a8 a9 a10 a11 (s + 1) acc c pc M O) : tc_R post f1 f2 f3 f4 f5 f6 a1 a2 a3 a4 a5 a6 a7 a8 a9 a10 a11 s acc pl pc M O :=
  tc_step hs (fun Q hQ => tc_x_jp hp hc h (fun _ => hQ) (fun z => absurd ha z)) H
theorem tc_r_jp0 {post : Int32 → St2 → Prop} {f1 f2 f3 f4 f5 f6 : Int32} {a1 a2 a3 a4 a5 a6 a7 a8 a9 a10 a11 : Nat → Int32} {s pl pc c : Nat} {acc : Int} {M O : Nat → Int} (hs : s < 40000) (hp : pl < 729) (hc : c < 729) (h : M pl = tc_I 11 c) (ha : ¬ 0 < tc_m acc)
    (H : tc_R post f1 f2 f3 f4 f5 f6 a1 a2 a3 a4 a5 a6 a7 a8 a9 a10 a11 (s + 1) acc (pl + 1) pc M O) : tc_R post f1 f2 f3 f4 f5 f6 a1 a2 a3 a4 a5 a6 a7 a8 a9 a10 a11 s acc pl pc M O :=
  tc_step hs (fun Q hQ => tc_x_jp hp hc h (fun z => absurd z ha) (fun _ => hQ)) H
end
section
/-! the machine program of the four shapes -/
def tc_prog (z p : Bool) : List (Nat × Nat) := match z, p with
  | false, false => [(1, 510), (2, 511), (1, 511), (10, 18), (1, 500), (10, 10), (11, 10), (1, 500), (3, 501), (2, 500), (12, 500), (1, 501), (5, 502), (2, 501), (1, 511), (4, 506), (2, 511), (9, 2), (0, 364)]
  | false, true => [(1, 510), (2, 511), (1, 511), (10, 22), (1, 500), (10, 14), (11, 11), (1, 500), (3, 501), (2, 500), (9, 14), (1, 500), (4, 502), (2, 500), (12, 500), (1, 501), (5, 502), (2, 501), (1, 511), (4, 506), (2, 511), (9, 2), (0, 364)]
  | true, false => [(1, 510), (2, 511), (1, 511), (10, 21), (1, 500), (10, 11), (11, 13), (1, 500), (3, 501), (2, 500), (9, 13), (1, 512), (2, 500), (12, 500), (1, 501), (5, 502), (2, 501), (1, 511), (4, 506), (2, 511), (9, 2), (0, 364)]
  | true, true => [(1, 510), (2, 511), (1, 511), (10, 25), (1, 500), (10, 11), (11, 14), (1, 500), (3, 501), (2, 500), (9, 17), (1, 512), (2, 500), (9, 17), (1, 500), (4, 502), (2, 500), (12, 500), (1, 501), (5, 502), (2, 501), (1, 511), (4, 506), (2, 511), (9, 2), (0, 364)]
def tc_e (z p : Bool) : Nat := match z, p with
  | false, false => 10
  | false, true => 14
  | true, false => 13
  | true, true => 17
def tc_tl : List (Nat × Nat) := [(12, 500), (1, 501), (5, 502), (2, 501), (1, 511), (4, 506), (2, 511), (9, 2), (0, 364)]
def tc_codeL (M : Nat → Int) : Nat → List (Nat × Nat) → Prop
  | _, [] => True
  | k, x :: l => M k = tc_I x.1 x.2 ∧ tc_codeL M (k + 1) l
theorem tc_code_at {M : Nat → Int} : ∀ (l : List (Nat × Nat)) (k i o c : Nat), tc_codeL M k l → l[i]? = some (o, c) → M (k + i) = tc_I o c
  | [], k, i, o, c, h, hi => by simp at hi
  | x :: l, k, 0, o, c, h, hi => by
    have e : x = (o, c) := by simpa using hi
    rw [e] at h
    exact h.1
  | x :: l, k, i + 1, o, c, h, hi => by
    have hi' : l[i]? = some (o, c) := by simpa using hi
    have := tc_code_at l (k + 1) i o c h.2 hi'
    rwa [show k + 1 + i = k + (i + 1) by omega] at this
theorem tc_code_u {M : Nat → Int} {j : Nat} {v : Int} : ∀ (l : List (Nat × Nat)) (k : Nat), tc_codeL M k l → k + l.length ≤ j → tc_codeL (tc_u M j v) k l
  | [], _, _, _ => trivial
  | x :: l, k, h, hj => by
    have hj' : k + (l.length + 1) ≤ j := hj
    exact ⟨(tc_un (by omega)).trans h.1, tc_code_u l (k + 1) h.2 (by omega)⟩
theorem tc_code_drop {M : Nat → Int} : ∀ (n : Nat) (l : List (Nat × Nat)) (k : Nat), tc_codeL M k l → tc_codeL M (k + n) (l.drop n)
  | 0, l, k, h => h
  | n + 1, [], k, h => trivial
  | n + 1, x :: l, k, h => by
    have := tc_code_drop n l (k + 1) h.2
    rwa [show k + 1 + n = k + (n + 1) by omega] at this
theorem tc_prog_len (z p : Bool) : (tc_prog z p).length ≤ 27 := by cases z <;> cases p <;> decide
theorem tc_prog_tl (z p : Bool) : (tc_prog z p).drop (tc_e z p) = tc_tl := by cases z <;> cases p <;> rfl
theorem tc_prog_u {z p : Bool} {M : Nat → Int} {j : Nat} {v : Int} (h : tc_codeL M 0 (tc_prog z p)) (hj : 27 ≤ j) : tc_codeL (tc_u M j v) 0 (tc_prog z p) :=
  tc_code_u _ 0 h (by have := tc_prog_len z p; omega)
theorem tc_e_le (z p : Bool) : tc_e z p ≤ 17 := by cases z <;> cases p <;> decide
theorem tc_u_id (M : Nat → Int) (k : Nat) : tc_u M k (M k) = M := by
  funext j
  by_cases h : j = k
  · rw [h, tc_us]
  · rw [tc_un h]
/-! what a pass does to the first variable -/
def tc_nx (z p : Bool) (a b c : Int) : Int := if a < 0 then tc_m (a + b) else if a = 0 then (if z = true then 7 else a) else (if p = true then tc_m (a - c) else a)
theorem tc_nx_neg {z p : Bool} {x y c : Int} (h0 : ¬ tc_m x = 0) (hp : ¬ 0 < tc_m x) : tc_m (x + y) = tc_nx z p (tc_m x) (tc_m y) c := by
  unfold tc_nx
  rw [if_pos (by omega), tc_m_add]
theorem tc_nx_z1 {p : Bool} {x b c v : Int} (h0 : tc_m x = 0) (hv : v = 7) : tc_m v = tc_nx true p (tc_m x) b c := by
  unfold tc_nx
  rw [if_neg (by omega), if_pos h0, if_pos rfl, hv]
  decide
theorem tc_nx_z0 {p : Bool} {x b c : Int} (h0 : tc_m x = 0) : tc_m x = tc_nx false p (tc_m x) b c := by
  unfold tc_nx
  rw [if_neg (by omega), if_pos h0, if_neg (by decide)]
theorem tc_nx_p1 {z : Bool} {x b y : Int} (hp : 0 < tc_m x) : tc_m (x - y) = tc_nx z true (tc_m x) b (tc_m y) := by
  unfold tc_nx
  rw [if_neg (by omega), if_neg (by omega), if_pos rfl, tc_m_sub]
theorem tc_nx_p0 {z : Bool} {x b c : Int} (hp : 0 < tc_m x) : tc_m x = tc_nx z false (tc_m x) b c := by
  unfold tc_nx
  rw [if_neg (by omega), if_neg (by omega), if_neg (by decide)]
theorem tc_case_ff {post : Int32 → St2 → Prop} {f1 f2 f3 f4 f5 f6 : Int32} {a1 a2 a3 a4 a5 a6 a7 a8 a9 a10 a11 : Nat → Int32} {s pc : Nat} {acc : Int} {M O : Nat → Int} (hs : s + 10 < 40000) (hM : tc_codeL M 0 (tc_prog false false)) (h512 : false = true → M 512 = 7)
    (H : ∀ (s' : Nat) (acc' v : Int), s' ≤ s + 10 → tc_m v = tc_nx false false (tc_m (M 500)) (tc_m (M 501)) (tc_m (M 502)) → tc_R post f1 f2 f3 f4 f5 f6 a1 a2 a3 a4 a5 a6 a7 a8 a9 a10 a11 s' acc' 10 pc (tc_u M 500 v) O) : tc_R post f1 f2 f3 f4 f5 f6 a1 a2 a3 a4 a5 a6 a7 a8 a9 a10 a11 s acc 4 pc M O := by
  have h4 : M 4 = tc_I 1 500 := tc_code_at _ 0 4 1 500 hM rfl
  have h5 : M 5 = tc_I 10 10 := tc_code_at _ 0 5 10 10 hM rfl
  have h6 : M 6 = tc_I 11 10 := tc_code_at _ 0 6 11 10 hM rfl
  have h7 : M 7 = tc_I 1 500 := tc_code_at _ 0 7 1 500 hM rfl
  have h8 : M 8 = tc_I 3 501 := tc_code_at _ 0 8 3 501 hM rfl
  have h9 : M 9 = tc_I 2 500 := tc_code_at _ 0 9 2 500 hM rfl
  refine tc_r_load (by omega) (by decide) (by decide) h4 rfl ?_
  by_cases hz : tc_m (M 500) = 0
  · refine tc_r_jz1 (by omega) (by decide) (by decide) h5 hz ?_
    have g := H (s + 1 + 1) (M 500) (M 500) (by omega) (tc_nx_z0 hz)
    rw [tc_u_id] at g
    exact g
  · refine tc_r_jz0 (by omega) (by decide) (by decide) h5 hz ?_
    by_cases hp : 0 < tc_m (M 500)
    · refine tc_r_jp1 (by omega) (by decide) (by decide) h6 hp ?_
      have g := H (s + 1 + 1 + 1) (M 500) (M 500) (by omega) (tc_nx_p0 hp)
      rw [tc_u_id] at g
      exact g
    · refine tc_r_jp0 (by omega) (by decide) (by decide) h6 hp ?_
      refine tc_r_load (by omega) (by decide) (by decide) h7 rfl ?_
      refine tc_r_plus (by omega) (by decide) (by decide) h8 rfl ?_
      refine tc_r_store (by omega) (by decide) (by decide) h9 ?_
      exact H _ _ (M 500 + M 501) (by omega) (tc_nx_neg hz hp)
theorem tc_case_ft {post : Int32 → St2 → Prop} {f1 f2 f3 f4 f5 f6 : Int32} {a1 a2 a3 a4 a5 a6 a7 a8 a9 a10 a11 : Nat → Int32} {s pc : Nat} {acc : Int} {M O : Nat → Int} (hs : s + 10 < 40000) (hM : tc_codeL M 0 (tc_prog false true)) (h512 : false = true → M 512 = 7)
    (H : ∀ (s' : Nat) (acc' v : Int), s' ≤ s + 10 → tc_m v = tc_nx false true (tc_m (M 500)) (tc_m (M 501)) (tc_m (M 502)) → tc_R post f1 f2 f3 f4 f5 f6 a1 a2 a3 a4 a5 a6 a7 a8 a9 a10 a11 s' acc' 14 pc (tc_u M 500 v) O) : tc_R post f1 f2 f3 f4 f5 f6 a1 a2 a3 a4 a5 a6 a7 a8 a9 a10 a11 s acc 4 pc M O := by
  have h4 : M 4 = tc_I 1 500 := tc_code_at _ 0 4 1 500 hM rfl
  have h5 : M 5 = tc_I 10 14 := tc_code_at _ 0 5 10 14 hM rfl
  have h6 : M 6 = tc_I 11 11 := tc_code_at _ 0 6 11 11 hM rfl
  have h7 : M 7 = tc_I 1 500 := tc_code_at _ 0 7 1 500 hM rfl
  have h8 : M 8 = tc_I 3 501 := tc_code_at _ 0 8 3 501 hM rfl
  have h9 : M 9 = tc_I 2 500 := tc_code_at _ 0 9 2 500 hM rfl
  have h10 : M 10 = tc_I 9 14 := tc_code_at _ 0 10 9 14 hM rfl
  have h11 : M 11 = tc_I 1 500 := tc_code_at _ 0 11 1 500 hM rfl
  have h12 : M 12 = tc_I 4 502 := tc_code_at _ 0 12 4 502 hM rfl
  have h13 : M 13 = tc_I 2 500 := tc_code_at _ 0 13 2 500 hM rfl
  refine tc_r_load (by omega) (by decide) (by decide) h4 rfl ?_
  by_cases hz : tc_m (M 500) = 0
  · refine tc_r_jz1 (by omega) (by decide) (by decide) h5 hz ?_
    have g := H (s + 1 + 1) (M 500) (M 500) (by omega) (tc_nx_z0 hz)
    rw [tc_u_id] at g
    exact g
  · refine tc_r_jz0 (by omega) (by decide) (by decide) h5 hz ?_
    by_cases hp : 0 < tc_m (M 500)
    · refine tc_r_jp1 (by omega) (by decide) (by decide) h6 hp ?_
      refine tc_r_load (by omega) (by decide) (by decide) h11 rfl ?_
      refine tc_r_minus (by omega) (by decide) (by decide) h12 rfl ?_
      refine tc_r_store (by omega) (by decide) (by decide) h13 ?_
      exact H _ _ (M 500 - M 502) (by omega) (tc_nx_p1 hp)
    · refine tc_r_jp0 (by omega) (by decide) (by decide) h6 hp ?_
      refine tc_r_load (by omega) (by decide) (by decide) h7 rfl ?_
      refine tc_r_plus (by omega) (by decide) (by decide) h8 rfl ?_
      refine tc_r_store (by omega) (by decide) (by decide) h9 ?_
      refine tc_r_jump (by omega) (by decide) (by decide) ((tc_un (by decide)).trans h10) ?_
      exact H _ _ (M 500 + M 501) (by omega) (tc_nx_neg hz hp)
theorem tc_case_tf {post : Int32 → St2 → Prop} {f1 f2 f3 f4 f5 f6 : Int32} {a1 a2 a3 a4 a5 a6 a7 a8 a9 a10 a11 : Nat → Int32} {s pc : Nat} {acc : Int} {M O : Nat → Int} (hs : s + 10 < 40000) (hM : tc_codeL M 0 (tc_prog true false)) (h512 : true = true → M 512 = 7)
    (H : ∀ (s' : Nat) (acc' v : Int), s' ≤ s + 10 → tc_m v = tc_nx true false (tc_m (M 500)) (tc_m (M 501)) (tc_m (M 502)) → tc_R post f1 f2 f3 f4 f5 f6 a1 a2 a3 a4 a5 a6 a7 a8 a9 a10 a11 s' acc' 13 pc (tc_u M 500 v) O) : tc_R post f1 f2 f3 f4 f5 f6 a1 a2 a3 a4 a5 a6 a7 a8 a9 a10 a11 s acc 4 pc M O := by
  have h4 : M 4 = tc_I 1 500 := tc_code_at _ 0 4 1 500 hM rfl
  have h5 : M 5 = tc_I 10 11 := tc_code_at _ 0 5 10 11 hM rfl
  have h6 : M 6 = tc_I 11 13 := tc_code_at _ 0 6 11 13 hM rfl
  have h7 : M 7 = tc_I 1 500 := tc_code_at _ 0 7 1 500 hM rfl
  have h8 : M 8 = tc_I 3 501 := tc_code_at _ 0 8 3 501 hM rfl
  have h9 : M 9 = tc_I 2 500 := tc_code_at _ 0 9 2 500 hM rfl
  have h10 : M 10 = tc_I 9 13 := tc_code_at _ 0 10 9 13 hM rfl
  have h11 : M 11 = tc_I 1 512 := tc_code_at _ 0 11 1 512 hM rfl
  have h12 : M 12 = tc_I 2 500 := tc_code_at _ 0 12 2 500 hM rfl
  refine tc_r_load (by omega) (by decide) (by decide) h4 rfl ?_
  by_cases hz : tc_m (M 500) = 0
  · refine tc_r_jz1 (by omega) (by decide) (by decide) h5 hz ?_
    refine tc_r_load (by omega) (by decide) (by decide) h11 rfl ?_
    refine tc_r_store (by omega) (by decide) (by decide) h12 ?_
    exact H _ _ (M 512) (by omega) (tc_nx_z1 hz (h512 rfl))
  · refine tc_r_jz0 (by omega) (by decide) (by decide) h5 hz ?_
    by_cases hp : 0 < tc_m (M 500)
    · refine tc_r_jp1 (by omega) (by decide) (by decide) h6 hp ?_
      have g := H (s + 1 + 1 + 1) (M 500) (M 500) (by omega) (tc_nx_p0 hp)
      rw [tc_u_id] at g
      exact g
    · refine tc_r_jp0 (by omega) (by decide) (by decide) h6 hp ?_
      refine tc_r_load (by omega) (by decide) (by decide) h7 rfl ?_
      refine tc_r_plus (by omega) (by decide) (by decide) h8 rfl ?_
      refine tc_r_store (by omega) (by decide) (by decide) h9 ?_
      refine tc_r_jump (by omega) (by decide) (by decide) ((tc_un (by decide)).trans h10) ?_
      exact H _ _ (M 500 + M 501) (by omega) (tc_nx_neg hz hp)
theorem tc_case_tt {post : Int32 → St2 → Prop} {f1 f2 f3 f4 f5 f6 : Int32} {a1 a2 a3 a4 a5 a6 a7 a8 a9 a10 a11 : Nat → Int32} {s pc : Nat} {acc : Int} {M O : Nat → Int} (hs : s + 10 < 40000) (hM : tc_codeL M 0 (tc_prog true true)) (h512 : true = true → M 512 = 7)
    (H : ∀ (s' : Nat) (acc' v : Int), s' ≤ s + 10 → tc_m v = tc_nx true true (tc_m (M 500)) (tc_m (M 501)) (tc_m (M 502)) → tc_R post f1 f2 f3 f4 f5 f6 a1 a2 a3 a4 a5 a6 a7 a8 a9 a10 a11 s' acc' 17 pc (tc_u M 500 v) O) : tc_R post f1 f2 f3 f4 f5 f6 a1 a2 a3 a4 a5 a6 a7 a8 a9 a10 a11 s acc 4 pc M O := by
  have h4 : M 4 = tc_I 1 500 := tc_code_at _ 0 4 1 500 hM rfl
  have h5 : M 5 = tc_I 10 11 := tc_code_at _ 0 5 10 11 hM rfl
  have h6 : M 6 = tc_I 11 14 := tc_code_at _ 0 6 11 14 hM rfl
  have h7 : M 7 = tc_I 1 500 := tc_code_at _ 0 7 1 500 hM rfl
  have h8 : M 8 = tc_I 3 501 := tc_code_at _ 0 8 3 501 hM rfl
  have h9 : M 9 = tc_I 2 500 := tc_code_at _ 0 9 2 500 hM rfl
  have h10 : M 10 = tc_I 9 17 := tc_code_at _ 0 10 9 17 hM rfl
  have h11 : M 11 = tc_I 1 512 := tc_code_at _ 0 11 1 512 hM rfl
  have h12 : M 12 = tc_I 2 500 := tc_code_at _ 0 12 2 500 hM rfl
  have h13 : M 13 = tc_I 9 17 := tc_code_at _ 0 13 9 17 hM rfl
  have h14 : M 14 = tc_I 1 500 := tc_code_at _ 0 14 1 500 hM rfl
  have h15 : M 15 = tc_I 4 502 := tc_code_at _ 0 15 4 502 hM rfl
  have h16 : M 16 = tc_I 2 500 := tc_code_at _ 0 16 2 500 hM rfl
  refine tc_r_load (by omega) (by decide) (by decide) h4 rfl ?_
  by_cases hz : tc_m (M 500) = 0
  · refine tc_r_jz1 (by omega) (by decide) (by decide) h5 hz ?_
    refine tc_r_load (by omega) (by decide) (by decide) h11 rfl ?_
    refine tc_r_store (by omega) (by decide) (by decide) h12 ?_
    refine tc_r_jump (by omega) (by decide) (by decide) ((tc_un (by decide)).trans h13) ?_
    exact H _ _ (M 512) (by omega) (tc_nx_z1 hz (h512 rfl))
  · refine tc_r_jz0 (by omega) (by decide) (by decide) h5 hz ?_
    by_cases hp : 0 < tc_m (M 500)
    · refine tc_r_jp1 (by omega) (by decide) (by decide) h6 hp ?_
      refine tc_r_load (by omega) (by decide) (by decide) h14 rfl ?_
      refine tc_r_minus (by omega) (by decide) (by decide) h15 rfl ?_
      refine tc_r_store (by omega) (by decide) (by decide) h16 ?_
      exact H _ _ (M 500 - M 502) (by omega) (tc_nx_p1 hp)
    · refine tc_r_jp0 (by omega) (by decide) (by decide) h6 hp ?_
      refine tc_r_load (by omega) (by decide) (by decide) h7 rfl ?_
      refine tc_r_plus (by omega) (by decide) (by decide) h8 rfl ?_
      refine tc_r_store (by omega) (by decide) (by decide) h9 ?_
      refine tc_r_jump (by omega) (by decide) (by decide) ((tc_un (by decide)).trans h10) ?_
      exact H _ _ (M 500 + M 501) (by omega) (tc_nx_neg hz hp)
theorem tc_case {post : Int32 → St2 → Prop} {f1 f2 f3 f4 f5 f6 : Int32} {a1 a2 a3 a4 a5 a6 a7 a8 a9 a10 a11 : Nat → Int32} {z p : Bool} {s pc : Nat} {acc : Int} {M O : Nat → Int} (hs : s + 10 < 40000) (hM : tc_codeL M 0 (tc_prog z p)) (h512 : z = true → M 512 = 7)
    (H : ∀ (s' : Nat) (acc' v : Int), s' ≤ s + 10 → tc_m v = tc_nx z p (tc_m (M 500)) (tc_m (M 501)) (tc_m (M 502)) → tc_R post f1 f2 f3 f4 f5 f6 a1 a2 a3 a4 a5 a6 a7 a8 a9 a10 a11 s' acc' (tc_e z p) pc (tc_u M 500 v) O) : tc_R post f1 f2 f3 f4 f5 f6 a1 a2 a3 a4 a5 a6 a7 a8 a9 a10 a11 s acc 4 pc M O := by
  cases z <;> cases p
  · exact tc_case_ff hs hM h512 H
  · exact tc_case_ft hs hM h512 H
  · exact tc_case_tf hs hM h512 H
  · exact tc_case_tt hs hM h512 H
theorem tc_tail {post : Int32 → St2 → Prop} {f1 f2 f3 f4 f5 f6 : Int32} {a1 a2 a3 a4 a5 a6 a7 a8 a9 a10 a11 : Nat → Int32} {e s pc : Nat} {acc : Int} {M O : Nat → Int} (hs : s + 10 < 40000) (he : e ≤ 17) (hpc : pc < 48) (hM : tc_codeL M e tc_tl)
    (H : tc_R post f1 f2 f3 f4 f5 f6 a1 a2 a3 a4 a5 a6 a7 a8 a9 a10 a11 (s + 8) (M 511 - M 506) 2 (pc + 1) (tc_u (tc_u M 501 (M 501 * M 502)) 511 (M 511 - M 506)) (tc_u O pc (M 500))) : tc_R post f1 f2 f3 f4 f5 f6 a1 a2 a3 a4 a5 a6 a7 a8 a9 a10 a11 s acc e pc M O := by
  have h0 : M e = tc_I 12 500 := tc_code_at _ e 0 12 500 hM rfl
  have h1 : M (e + 1) = tc_I 1 501 := tc_code_at _ e 1 1 501 hM rfl
  have h2 : M (e + 2) = tc_I 5 502 := tc_code_at _ e 2 5 502 hM rfl
  have h3 : M (e + 3) = tc_I 2 501 := tc_code_at _ e 3 2 501 hM rfl
  have h4 : M (e + 4) = tc_I 1 511 := tc_code_at _ e 4 1 511 hM rfl
  have h5 : M (e + 5) = tc_I 4 506 := tc_code_at _ e 5 4 506 hM rfl
  have h6 : M (e + 6) = tc_I 2 511 := tc_code_at _ e 6 2 511 hM rfl
  have h7 : M (e + 7) = tc_I 9 2 := tc_code_at _ e 7 9 2 hM rfl
  refine tc_r_out (by omega) (by omega) (by omega) hpc h0 rfl ?_
  refine tc_r_load (by omega) (by omega) (by omega) h1 rfl ?_
  refine tc_r_times (by omega) (by omega) (by omega) h2 rfl ?_
  refine tc_r_store (by omega) (by omega) (by omega) h3 ?_
  refine tc_r_load (by omega) (by omega) (by omega) ((tc_un (by omega)).trans h4) (tc_un (by decide)) ?_
  refine tc_r_minus (by omega) (by omega) (by omega) ((tc_un (by omega)).trans h5) (tc_un (by decide)) ?_
  refine tc_r_store (by omega) (by omega) (by omega) ((tc_un (by omega)).trans h6) ?_
  refine tc_r_jump (by omega) (by omega) (by omega) ((tc_un (by omega)).trans ((tc_un (by omega)).trans h7)) ?_
  exact H
/-! the pure run -/
def tc_sq (z p : Bool) (P Q R : Int) : Nat → Int × Int
  | 0 => (tc_m P, tc_m Q)
  | k + 1 => (tc_nx z p (tc_sq z p P Q R k).1 (tc_sq z p P Q R k).2 (tc_m R), tc_m ((tc_sq z p P Q R k).2 * tc_m R))
def tc_Inv (z p : Bool) (P Q R : Int) (ps k : Nat) (M O : Nat → Int) : Prop :=
  tc_codeL M 0 (tc_prog z p) ∧ tc_m (M 500) = (tc_sq z p P Q R k).1 ∧ tc_m (M 501) = (tc_sq z p P Q R k).2 ∧ tc_m (M 502) = tc_m R ∧ M 503 = 0 ∧ M 506 = 1 ∧ (z = true → M 512 = 7) ∧ M 511 = (ps : Int) - (k : Int) ∧ ∀ j, j < k → tc_m (O j) = (tc_sq z p P Q R (j + 1)).1
theorem tc_pass {post : Int32 → St2 → Prop} {f1 f2 f3 f4 f5 f6 : Int32} {a1 a2 a3 a4 a5 a6 a7 a8 a9 a10 a11 : Nat → Int32} {z p : Bool} {P Q R : Int} {ps k s : Nat} {acc : Int} {M O : Nat → Int} (hI : tc_Inv z p P Q R ps k M O) (hps : ps ≤ 5) (hk : k < ps) (hs : s + 30 < 40000)
    (H : ∀ (s' : Nat) (acc' : Int) (M' O' : Nat → Int), s' ≤ s + 30 → tc_Inv z p P Q R ps (k + 1) M' O' → tc_R post f1 f2 f3 f4 f5 f6 a1 a2 a3 a4 a5 a6 a7 a8 a9 a10 a11 s' acc' 2 (k + 1) M' O') : tc_R post f1 f2 f3 f4 f5 f6 a1 a2 a3 a4 a5 a6 a7 a8 a9 a10 a11 s acc 2 k M O := by
  obtain ⟨hc, h0, h1, h2, h3, h6, h12, h11, hO⟩ := hI
  have c2 : M 2 = tc_I 1 511 := tc_code_at _ 0 2 1 511 hc (by cases z <;> cases p <;> rfl)
  have c3 : M 3 = tc_I 10 (tc_e z p + 8) := tc_code_at _ 0 3 10 (tc_e z p + 8) hc (by cases z <;> cases p <;> rfl)
  have he := tc_e_le z p
  refine tc_r_load (by omega) (by decide) (by decide) c2 rfl ?_
  refine tc_r_jz0 (by omega) (by decide) (by omega) c3 (by rw [tc_m_id (by omega) (by omega)]; omega) ?_
  refine tc_case (by omega) hc h12 ?_
  intro s' acc' v hs' hv
  have hc1 := tc_prog_u (j := 500) (v := v) hc (by omega)
  have ht := tc_code_drop (tc_e z p) _ 0 hc1
  rw [tc_prog_tl, Nat.zero_add] at ht
  refine tc_tail (by omega) he (by omega) ht ?_
  refine H _ _ _ _ (by omega) ⟨tc_prog_u (tc_prog_u hc1 (by omega)) (by omega), ?_, ?_, ?_, ?_, ?_, ?_, ?_, ?_⟩
  · rw [tc_un (by decide), tc_un (by decide), tc_us, hv, h0, h1, h2]
    rfl
  · rw [tc_un (by decide), tc_us, tc_un (by decide), tc_un (by decide), ← tc_m_mul, h1, h2]
    rfl
  · rw [tc_un (by decide), tc_un (by decide), tc_un (by decide), h2]
  · rw [tc_un (by decide), tc_un (by decide), tc_un (by decide), h3]
  · rw [tc_un (by decide), tc_un (by decide), tc_un (by decide), h6]
  · intro hz
    rw [tc_un (by decide), tc_un (by decide), tc_un (by decide), h12 hz]
  · rw [tc_us, tc_un (by decide), tc_un (by decide), h11, h6]
    omega
  · intro j hj
    by_cases e : j = k
    · rw [e, tc_us, tc_us, hv, h0, h1, h2]
      rfl
    · rw [tc_un e]
      exact hO j (by omega)
theorem tc_passes {post : Int32 → St2 → Prop} {f1 f2 f3 f4 f5 f6 : Int32} {a1 a2 a3 a4 a5 a6 a7 a8 a9 a10 a11 : Nat → Int32} {z p : Bool} {P Q R : Int} {ps : Nat} (hps : ps ≤ 5)
    (H : ∀ (x y : Int32) (M O : Nat → Int), tc_Inv z p P Q R ps ps M O → post (nI ps) (f1, f2, f3, f4, f5, f6, x, y, 0, nI ps, a1, a2, a3, a4, a5, a6, a7, a8, a9, a10, a11, tc_E M, tc_E O)) : ∀ (j k s : Nat) (acc : Int) (M O : Nat → Int), k + j = ps → s ≤ 100 + 40 * k → tc_Inv z p P Q R ps k M O → tc_R post f1 f2 f3 f4 f5 f6 a1 a2 a3 a4 a5 a6 a7 a8 a9 a10 a11 s acc 2 k M O
  | 0, k, s, acc, M, O, hk, hs, hI => by
    obtain rfl : k = ps := by omega
    have hc := hI.1
    have h11 := hI.2.2.2.2.2.2.2.1
    have c2 : M 2 = tc_I 1 511 := tc_code_at _ 0 2 1 511 hc (by cases z <;> cases p <;> rfl)
    have c3 : M 3 = tc_I 10 (tc_e z p + 8) := tc_code_at _ 0 3 10 (tc_e z p + 8) hc (by cases z <;> cases p <;> rfl)
    have c9 : M (tc_e z p + 8) = tc_I 0 364 := by
      have ht := tc_code_drop (tc_e z p) _ 0 hc
      rw [tc_prog_tl, Nat.zero_add] at ht
      exact tc_code_at _ (tc_e z p) 8 0 364 ht rfl
    have he := tc_e_le z p
    refine tc_r_load (by omega) (by decide) (by decide) c2 rfl ?_
    refine tc_r_jz1 (by omega) (by decide) (by omega) c3 (by rw [tc_m_id (by omega) (by omega)]; omega) ?_
    exact tc_r_halt (by omega) (by omega) (by decide) c9 (H _ _ M O hI)
  | j + 1, k, s, acc, M, O, hk, hs, hI => by
    refine tc_pass hI hps (by omega) (by omega) ?_
    intro s' acc' M' O' hs' hI'
    exact tc_passes hps H j (k + 1) s' acc' M' O' (by omega) (by omega) hI'
theorem tc_run0 {post : Int32 → St2 → Prop} {f1 f2 f3 f4 f5 f6 : Int32} {a1 a2 a3 a4 a5 a6 a7 a8 a9 a10 a11 : Nat → Int32} {z p : Bool} {P Q R : Int} {ps : Nat} {M O : Nat → Int} (hps : ps ≤ 5)
    (H : ∀ (x y : Int32) (M O : Nat → Int), tc_Inv z p P Q R ps ps M O → post (nI ps) (f1, f2, f3, f4, f5, f6, x, y, 0, nI ps, a1, a2, a3, a4, a5, a6, a7, a8, a9, a10, a11, tc_E M, tc_E O))
    (hc : tc_codeL M 0 (tc_prog z p)) (h0 : M 500 = P) (h1 : M 501 = Q) (h2 : M 502 = R) (h3 : M 503 = 0) (h6 : M 506 = 1) (h10 : M 510 = (ps : Int)) (h12 : z = true → M 512 = 7) : tc_R post f1 f2 f3 f4 f5 f6 a1 a2 a3 a4 a5 a6 a7 a8 a9 a10 a11 0 0 0 0 M O := by
  have c0 : M 0 = tc_I 1 510 := tc_code_at _ 0 0 1 510 hc (by cases z <;> cases p <;> rfl)
  have c1 : M 1 = tc_I 2 511 := tc_code_at _ 0 1 2 511 hc (by cases z <;> cases p <;> rfl)
  refine tc_r_load (by decide) (by decide) (by decide) c0 rfl ?_
  refine tc_r_store (by decide) (by decide) (by decide) c1 ?_
  refine tc_passes hps H ps 0 _ _ _ _ (by omega) (by omega) ⟨tc_prog_u hc (by decide), ?_, ?_, ?_, ?_, ?_, ?_, ?_, ?_⟩
  · rw [tc_un (by decide), h0]; rfl
  · rw [tc_un (by decide), h1]; rfl
  · rw [tc_un (by decide), h2]
  · rw [tc_un (by decide), h3]
  · rw [tc_un (by decide), h6]
  · intro hz
    rw [tc_un (by decide), h12 hz]
  · rw [tc_us, h10]
    omega
  · intro j hj
    omega
theorem tc_run_yes {post : Int32 → St2 → Prop} {f1 f4 f5 f6 f7 f8 f9 f10 : Int32} {a1 a2 a3 a4 a5 a6 a7 a8 a9 a10 a11 : Nat → Int32} {z p : Bool} {P Q R : Int} {ps : Nat} {M O : Nat → Int} (hps : ps ≤ 5)
    (H : ∀ (x y : Int32) (M O : Nat → Int), tc_Inv z p P Q R ps ps M O → post (nI ps) (f1, 1, 1, f4, f5, f6, x, y, 0, nI ps, a1, a2, a3, a4, a5, a6, a7, a8, a9, a10, a11, tc_E M, tc_E O))
    (hc : tc_codeL M 0 (tc_prog z p)) (h0 : M 500 = P) (h1 : M 501 = Q) (h2 : M 502 = R) (h3 : M 503 = 0) (h6 : M 506 = 1) (h10 : M 510 = (ps : Int)) (h12 : z = true → M 512 = 7) : wpX_run post (f1, 1, 1, f4, f5, f6, f7, f8, f9, f10, a1, a2, a3, a4, a5, a6, a7, a8, a9, a10, a11, tc_E M, tc_E O) := by
  unfold wpX_run
  unfold wpX_compile
  refine br_f (by decide) (br_f (by decide) ?_)
  have g : tc_R post f1 1 1 f4 f5 f6 a1 a2 a3 a4 a5 a6 a7 a8 a9 a10 a11 0 0 0 0 M O := tc_run0 hps H hc h0 h1 h2 h3 h6 h10 h12
  unfold tc_R at g
  rw [tc_en_0] at g
  exact g
theorem tc_run_no {post : Int32 → St2 → Prop} {f1 f4 f5 f6 f7 f8 f9 f10 : Int32} {a1 a2 a3 a4 a5 a6 a7 a8 a9 a10 a11 a12 a13 : Nat → Int32} (H : post (-10002) (f1, 1, 0, f4, f5, f6, f7, f8, f9, f10, a1, a2, a3, a4, a5, a6, a7, a8, a9, a10, a11, a12, a13)) : wpX_run post (f1, 1, 0, f4, f5, f6, f7, f8, f9, f10, a1, a2, a3, a4, a5, a6, a7, a8, a9, a10, a11, a12, a13) := by
  unfold wpX_run
  unfold wpX_compile
  exact br_f (by decide) (br_t rfl H)
end
section
/-! the law's own pieces -/
theorem tc_wrap {post : Int32 → Prop} {u : St0} {y : Int64} (x : Int) (hy : y.toInt = x) (h1 : -1099511627776 ≤ x) (h2 : x ≤ 1099511627776) (H : post (tc_sI (tc_m x))) : wpL_wrap post u y := by
  have e1 : (y + 9841).toInt = x + 9841 := by
    rw [Int64.toInt_add, hy, show (9841 : Int64).toInt = 9841 from rfl, tc_bm (by omega) (by omega)]
  have ht := tc_td (x + 9841) 19683
  have e2 : ((y + 9841) - (y + 9841) / 19683 * 19683).toInt = (x + 9841) - (x + 9841).tdiv 19683 * 19683 := by
    rw [Int64.toInt_sub, Int64.toInt_mul, Int64.toInt_div, e1, show (19683 : Int64).toInt = 19683 from rfl]
    rw [tc_bm (x := (x + 9841).tdiv 19683) (by omega) (by omega), tc_bm (x := (x + 9841).tdiv 19683 * 19683) (by omega) (by omega), tc_bm (by omega) (by omega)]
  unfold wpL_wrap
  refine ⟨by decide, nm_e ?_⟩
  generalize hr : (y + 9841) - (y + 9841) / 19683 * 19683 = r at e2 ⊢
  have hm : tc_m x = (x + 9841) % 19683 - 9841 := rfl
  have z0 : (0 : Int64).toInt = 0 := rfl
  refine br_c (fun g => ?_) (fun g => ?_)
  · rw [Int64.le_iff_toInt_le, z0, e2] at g
    have e : r.toInt32 - 9841 = tc_sI (tc_m x) := by
      have e3 : r.toInt32 = tc_sI ((x + 9841) - (x + 9841).tdiv 19683 * 19683) := by
        show Int32.ofInt r.toInt = _
        rw [e2]; rfl
      rw [e3]
      have e5 : (x + 9841) - (x + 9841).tdiv 19683 * 19683 - 9841 = tc_m x := by omega
      have e4 : tc_sI ((x + 9841) - (x + 9841).tdiv 19683 * 19683) - tc_sI 9841 = tc_sI (tc_m x) := by
        rw [tc_sI_sub, e5]
      exact e4
    rw [e]
    exact H
  · rw [Int64.le_iff_toInt_le, z0, e2] at g
    have e : (r + 19683).toInt32 - 9841 = tc_sI (tc_m x) := by
      have e3 : (r + 19683).toInt32 = tc_sI ((x + 9841) - (x + 9841).tdiv 19683 * 19683 + 19683) := by
        show Int32.ofInt (r + 19683).toInt = _
        rw [Int64.toInt_add, e2, show (19683 : Int64).toInt = 19683 from rfl, tc_bm (by omega) (by omega)]; rfl
      rw [e3]
      have e5 : (x + 9841) - (x + 9841).tdiv 19683 * 19683 + 19683 - 9841 = tc_m x := by omega
      have e4 : tc_sI ((x + 9841) - (x + 9841).tdiv 19683 * 19683 + 19683) - tc_sI 9841 = tc_sI (tc_m x) := by
        rw [tc_sI_sub, e5]
      exact e4
    rw [e]
    exact H
theorem tc_variable {post : Int32 → Prop} {f1 f2 f3 f4 f5 f6 f7 f8 f9 f10 : Int32} {a1 a2 a3 a4 a5 a6 a7 a8 a9 a10 a11 a13 : Nat → Int32} {M : Nat → Int} {x : Int32} (k : Nat) (hx : x = nI k) (hk : k ≤ 5) (H : post (tc_sI (tc_m (M (500 + k))))) : wpX_variable post (f1, f2, f3, f4, f5, f6, f7, f8, f9, f10, a1, a2, a3, a4, a5, a6, a7, a8, a9, a10, a11, tc_E M, a13) x := by
  unfold wpX_variable
  subst hx
  have e : (500 : Int32) + nI k = nI (500 + k) := nI_add 500 k
  refine tc_isV k rfl hk (br_f (by decide) ⟨pk_in (500 + k) 729 (by omega) e, ?_⟩)
  rw [e, tc_mem (M := M) (k := 500 + k) (by omega) rfl]
  exact tc_valueOf _ H
theorem tc_output {post : Int32 → Prop} {f1 f2 f3 f4 f5 f6 f7 f8 f9 : Int32} {a1 a2 a3 a4 a5 a6 a7 a8 a9 a10 a11 a12 : Nat → Int32} {O : Nat → Int} {pc k : Nat} (hk : k < pc) (hpc : pc ≤ 48) (H : post (tc_sI (tc_m (O k)))) : wpX_output post (f1, f2, f3, f4, f5, f6, f7, f8, f9, nI pc, a1, a2, a3, a4, a5, a6, a7, a8, a9, a10, a11, a12, tc_E O) (nI k) := by
  unfold wpX_output
  refine br_f (nI_pos (by omega)) (br_f (nI_ge hk (by omega)) (br_t (nI_lt (b := 48) (by omega) (by decide)) ⟨pk_in k 48 (by omega), ?_⟩))
  rw [tc_mem (M := O) (k := k) (by omega) rfl]
  exact tc_valueOf _ H
theorem tc_outBad {post : Int32 → Prop} {f1 f2 f3 f4 f5 f6 f7 f8 f9 : Int32} {a1 a2 a3 a4 a5 a6 a7 a8 a9 a10 a11 a12 a13 : Nat → Int32} {pc : Nat} (hpc : pc ≤ 48) (H : post (-10000)) : wpX_output post (f1, f2, f3, f4, f5, f6, f7, f8, f9, nI pc, a1, a2, a3, a4, a5, a6, a7, a8, a9, a10, a11, a12, a13) (nI pc) := by
  unfold wpX_output
  exact br_f (nI_pos (by omega)) (br_t (Int32.le_refl _) H)
theorem tc_sq_r (z p : Bool) (P Q R : Int) : ∀ k, (-9841 ≤ (tc_sq z p P Q R k).1 ∧ (tc_sq z p P Q R k).1 ≤ 9841) ∧ (-9841 ≤ (tc_sq z p P Q R k).2 ∧ (tc_sq z p P Q R k).2 ≤ 9841)
  | 0 => ⟨tc_m_r P, tc_m_r Q⟩
  | k + 1 => by
    have h := tc_sq_r z p P Q R k
    refine ⟨?_, tc_m_r _⟩
    show -9841 ≤ tc_nx z p (tc_sq z p P Q R k).1 (tc_sq z p P Q R k).2 (tc_m R) ∧ tc_nx z p (tc_sq z p P Q R k).1 (tc_sq z p P Q R k).2 (tc_m R) ≤ 9841
    unfold tc_nx
    have r1 := tc_m_r ((tc_sq z p P Q R k).1 + (tc_sq z p P Q R k).2)
    have r2 := tc_m_r ((tc_sq z p P Q R k).1 - tc_m R)
    split
    · exact r1
    · split
      · split
        · omega
        · exact h.1
      · split
        · exact r2
        · exact h.1
theorem tc_mul64 {a b : Int} (ha : -9841 ≤ a ∧ a ≤ 9841) (hb : -9841 ≤ b ∧ b ≤ 9841) : ((tc_sI a).toInt64 * (tc_sI b).toInt64).toInt = a * b ∧ -1099511627776 ≤ a * b ∧ a * b ≤ 1099511627776 := by
  have h1 : a * b ≤ 9841 * 9841 := by
    rcases Int.le_total 0 a with h | h
    · have g1 := Int.mul_le_mul_of_nonneg_left hb.2 h
      have g2 := Int.mul_le_mul_of_nonneg_right ha.2 (show (0 : Int) ≤ 9841 by decide)
      omega
    · have g1 := Int.mul_le_mul_of_nonneg_left (show -b ≤ 9841 by omega) (show 0 ≤ -a by omega)
      rw [Int.neg_mul_neg] at g1
      omega
  have h2 : -(9841 * 9841) ≤ a * b := by
    rcases Int.le_total 0 a with h | h
    · have g1 := Int.mul_le_mul_of_nonneg_left (show -b ≤ 9841 by omega) h
      rw [Int.mul_neg] at g1
      omega
    · have g1 := Int.mul_le_mul_of_nonneg_left hb.2 (show 0 ≤ -a by omega)
      rw [Int.neg_mul] at g1
      omega
  refine ⟨?_, by omega, by omega⟩
  rw [Int64.toInt_mul, Int32.toInt_toInt64, Int32.toInt_toInt64, tc_sI_t (by omega) (by omega), tc_sI_t (by omega) (by omega), tc_bm (by omega) (by omega)]
theorem tc_359 {post : Int32 → St0 → Prop} {mc ms kc ks : Nat} {J : Int32 → Int32 → Int32 → Prop} {x5 x6 : Int32} {f1 f2 f3 f4 f5 f6 f7 f8 f9 : Int32} {a1 a2 a3 a4 a5 a6 a7 a8 a9 a10 a11 : Nat → Int32} {M O : Nat → Int} {z p : Bool} {P Q R : Int} {ps k : Nat} {x8 : Int32} (hps : ps ≤ 5) (hk : k < ps) (hI : tc_Inv z p P Q R ps ps M O)
    (h8 : x8 = tc_sI (tc_sq z p P Q R (k + 1)).1) (H : J (tc_sI (tc_sq z p P Q R (k + 1)).1) (tc_sI (tc_sq z p P Q R (k + 1)).2) (nI (k + 1))) :
    wL_lawOf_359 post mc ms J (nI ps) x5 x6 x8 (tc_sI (tc_sq z p P Q R k).2) (tc_sI (tc_m R)) (nI k) kc ks f1 f2 f3 f4 f5 f6 f7 f8 f9 (nI ps) a1 a2 a3 a4 a5 a6 a7 a8 a9 a10 a11 (tc_E M) (tc_E O) := by
  subst h8
  unfold wL_lawOf_359
  have hO := hI.2.2.2.2.2.2.2.2 k hk
  refine tc_output hk (by omega) ?_
  rw [hO]
  have hm := tc_mul64 (tc_sq_r z p P Q R k).2 (tc_m_r R)
  exact br_t rfl (tc_wrap _ hm.1 hm.2.1 hm.2.2 (nm_r (nI_1 k) H))
theorem tc_338 {post : Int32 → St0 → Prop} {mc ms kc ks : Nat} {J : Int32 → Int32 → Int32 → Prop} {x5 x6 : Int32} {f1 f2 f3 f4 f5 f6 f7 f8 f9 : Int32} {a1 a2 a3 a4 a5 a6 a7 a8 a9 a10 a11 : Nat → Int32} {M O : Nat → Int} {z p : Bool} {P Q R : Int} {ps k : Nat} {x8 : Int32} (hps : ps ≤ 5) (hk : k < ps) (hI : tc_Inv z p P Q R ps ps M O)
    (hp : x6 = if p = true then 1 else 0) (h8 : (tc_sq z p P Q R k).1 ≤ 0 → x8 = tc_sI (tc_sq z p P Q R (k + 1)).1) (h8' : 0 < (tc_sq z p P Q R k).1 → x8 = tc_sI (tc_sq z p P Q R k).1)
    (H : J (tc_sI (tc_sq z p P Q R (k + 1)).1) (tc_sI (tc_sq z p P Q R (k + 1)).2) (nI (k + 1))) :
    wL_lawOf_338 post mc ms J (nI ps) x5 x6 x8 (tc_sI (tc_sq z p P Q R k).2) (tc_sI (tc_m R)) (nI k) (tc_sI (tc_sq z p P Q R k).1) kc ks f1 f2 f3 f4 f5 f6 f7 f8 f9 (nI ps) a1 a2 a3 a4 a5 a6 a7 a8 a9 a10 a11 (tc_E M) (tc_E O) := by
  unfold wL_lawOf_338
  have hr := (tc_sq_r z p P Q R k).1
  have hR := tc_m_r R
  have l1 : tc_sI (tc_sq z p P Q R k).1 ≤ 0 ↔ (tc_sq z p P Q R k).1 ≤ 0 := tc_sI_le (b := 0) (by omega) (by omega) (by decide) (by decide)
  have hn : (tc_sq z p P Q R (k + 1)).1 = tc_nx z p (tc_sq z p P Q R k).1 (tc_sq z p P Q R k).2 (tc_m R) := rfl
  refine br_c (fun g => tc_359 hps hk hI (h8 (l1.mp g)) H) (fun g => ?_)
  have g' : ¬ (tc_sq z p P Q R k).1 ≤ 0 := fun h => g (l1.mpr h)
  have e8 := h8' (by omega)
  subst e8
  cases p
  · refine br_t (by rw [hp]; decide) (tc_359 hps hk hI ?_ H)
    rw [hn]
    unfold tc_nx
    rw [if_neg (by omega), if_neg (by omega), if_neg (by decide)]
  · refine br_f (by rw [hp]; decide) (tc_wrap ((tc_sq z true P Q R k).1 - tc_m R) ?_ (by omega) (by omega) (tc_359 hps hk hI ?_ H))
    · rw [tc_sI_sub, Int32.toInt_toInt64, tc_sI_t (by omega) (by omega)]
    · rw [hn]
      unfold tc_nx
      rw [if_neg (by omega), if_neg (by omega), if_pos rfl]
theorem tc_324 {post : Int32 → St0 → Prop} {mc ms kc ks : Nat} {J : Int32 → Int32 → Int32 → Prop} {x5 x6 : Int32} {f1 f2 f3 f4 f5 f6 f7 f8 f9 : Int32} {a1 a2 a3 a4 a5 a6 a7 a8 a9 a10 a11 : Nat → Int32} {M O : Nat → Int} {z p : Bool} {P Q R : Int} {ps k : Nat} {x8 : Int32} (hps : ps ≤ 5) (hk : k < ps) (hI : tc_Inv z p P Q R ps ps M O)
    (hz : x5 = if z = true then 1 else 0) (hp : x6 = if p = true then 1 else 0) (h8 : (tc_sq z p P Q R k).1 < 0 → x8 = tc_sI (tc_sq z p P Q R (k + 1)).1) (h8' : 0 ≤ (tc_sq z p P Q R k).1 → x8 = tc_sI (tc_sq z p P Q R k).1)
    (H : J (tc_sI (tc_sq z p P Q R (k + 1)).1) (tc_sI (tc_sq z p P Q R (k + 1)).2) (nI (k + 1))) :
    wL_lawOf_324 post mc ms J (nI ps) x5 x6 x8 (tc_sI (tc_sq z p P Q R k).2) (tc_sI (tc_m R)) (nI k) (tc_sI (tc_sq z p P Q R k).1) kc ks f1 f2 f3 f4 f5 f6 f7 f8 f9 (nI ps) a1 a2 a3 a4 a5 a6 a7 a8 a9 a10 a11 (tc_E M) (tc_E O) := by
  unfold wL_lawOf_324
  have hr := (tc_sq_r z p P Q R k).1
  have l1 : tc_sI (tc_sq z p P Q R k).1 = 0 ↔ (tc_sq z p P Q R k).1 = 0 := tc_sI_eq (b := 0) (by omega) (by omega) (by decide) (by decide)
  have hn : (tc_sq z p P Q R (k + 1)).1 = tc_nx z p (tc_sq z p P Q R k).1 (tc_sq z p P Q R k).2 (tc_m R) := rfl
  refine br_c (fun g => ?_) (fun g => ?_)
  · have g' := l1.mp g
    cases z
    · refine br_t (by rw [hz]; decide) (tc_338 hps hk hI hp (fun _ => ?_) (fun h => absurd h (by omega)) H)
      rw [h8' (by omega), hn]
      unfold tc_nx
      rw [if_neg (by omega), if_pos g', if_neg (by decide)]
    · refine br_f (by rw [hz]; decide) (tc_338 hps hk hI hp (fun _ => ?_) (fun h => absurd h (by omega)) H)
      rw [hn]
      unfold tc_nx
      rw [if_neg (by omega), if_pos g', if_pos rfl]
      decide
  · have g' : ¬ (tc_sq z p P Q R k).1 = 0 := fun h => g (l1.mpr h)
    exact tc_338 hps hk hI hp (fun h => h8 (by omega)) (fun h => h8' (by omega)) H
theorem tc_291 {post : Int32 → St0 → Prop} {mc ms kc ks : Nat} {x5 x6 : Int32} {f1 f2 f3 f4 f5 f6 f7 f8 f9 : Int32} {a1 a2 a3 a4 a5 a6 a7 a8 a9 a10 a11 : Nat → Int32} {M O : Nat → Int} {z p : Bool} {P Q R : Int} {ps : Nat} (hps : ps ≤ 5) (hI : tc_Inv z p P Q R ps ps M O)
    (hz : x5 = if z = true then 1 else 0) (hp : x6 = if p = true then 1 else 0) (H : post 1 ()) : ∀ (j k m : Nat), k + j = 5 → m = min k ps →
    wL_lawOf_291 post mc ms (nI ps) x5 x6 (tc_sI (tc_m R)) kc ks f1 f2 f3 f4 f5 f6 f7 f8 f9 (nI ps) a1 a2 a3 a4 a5 a6 a7 a8 a9 a10 a11 (tc_E M) (tc_E O) (j + 1) (tc_sI (tc_sq z p P Q R m).1) (tc_sI (tc_sq z p P Q R m).2) (nI k)
  | 0, k, m, hk, hm => by
    obtain rfl : k = 5 := by omega
    obtain rfl : m = ps := by omega
    obtain ⟨_, h0, h1, h2, h3, _⟩ := hI
    have t0 : tc_m (M (500 + 0)) = (tc_sq z p P Q R m).1 := h0
    have t1 : tc_m (M (500 + 1)) = (tc_sq z p P Q R m).2 := h1
    have t2 : tc_m (M (500 + 2)) = tc_m R := h2
    have t3 : M (500 + 3) = 0 := h3
    refine br_t (by decide) (tc_variable 0 rfl (by decide) (br_t (by rw [t0]) (tc_variable 1 rfl (by decide) (br_t (by rw [t1]) (tc_variable 2 rfl (by decide) (br_t (by rw [t2]) (tc_outBad (by omega) (br_t rfl (tc_variable 3 rfl (by decide) (br_t ?_ H)))))))))) 
    rw [t3]
    decide
  | j + 1, k, m, hk, hm => by
    have IH := tc_291 (post := post) (mc := mc) (ms := ms) (kc := kc) (ks := ks) (f1 := f1) (f2 := f2) (f3 := f3) (f4 := f4) (f5 := f5) (f6 := f6) (f7 := f7) (f8 := f8) (f9 := f9) (a1 := a1) (a2 := a2) (a3 := a3) (a4 := a4) (a5 := a5) (a6 := a6) (a7 := a7) (a8 := a8) (a9 := a9) (a10 := a10) (a11 := a11) hps hI hz hp H j (k + 1)
    refine br_f (nI_ge (b := 5) (by omega) (by decide)) (pk_le ps k (fun h => nm_r (nI_1 k) (IH m (by omega) (by omega))) (fun h => ?_))
    obtain rfl : m = k := by omega
    have H' := IH (m + 1) (by omega) (by omega)
    have hr := tc_sq_r z p P Q R m
    have l1 : 0 ≤ tc_sI (tc_sq z p P Q R m).1 ↔ 0 ≤ (tc_sq z p P Q R m).1 := tc_sI_le (a := 0) (by decide) (by decide) (by omega) (by omega)
    refine br_c (fun g => ?_) (fun g => ?_)
    · have g' := l1.mp g
      exact tc_324 hps h hI hz hp (fun z => absurd z (by omega)) (fun _ => rfl) H'
    · have g' : ¬ 0 ≤ (tc_sq z p P Q R m).1 := fun h => g (l1.mpr h)
      refine tc_wrap ((tc_sq z p P Q R m).1 + (tc_sq z p P Q R m).2) ?_ (by omega) (by omega) (tc_324 hps h hI hz hp (fun _ => ?_) (fun z => absurd z g') H')
      · rw [tc_sI_add, Int32.toInt_toInt64, tc_sI_t (by omega) (by omega)]
      · show _ = tc_sI (tc_nx z p (tc_sq z p P Q R m).1 (tc_sq z p P Q R m).2 (tc_m R))
        unfold tc_nx
        rw [if_pos (by omega)]
/-! the source as a list of statements -/
def tc_srcL (a1 a2 a3 a4 : Nat → Int32) : Nat → List (Nat × Nat × Nat × Nat) → Prop
  | _, [] => True
  | i, x :: l => tc_S a1 a2 a3 a4 i x.1 x.2.1 x.2.2.1 x.2.2.2 ∧ tc_srcL a1 a2 a3 a4 (i + 1) l
theorem tc_src_add {a1 a2 a3 a4 : Nat → Int32} {n k a b c : Nat} : ∀ (l : List (Nat × Nat × Nat × Nat)) (i : Nat), tc_srcL a1 a2 a3 a4 i l → n = i + l.length → tc_srcL (upd a1 n (nI k)) (upd a2 n (nI a)) (upd a3 n (nI b)) (upd a4 n (nI c)) i (l ++ [(k, a, b, c)])
  | [], i, _, hn => by
    obtain rfl : n = i := hn
    exact ⟨⟨pk_us, pk_us, pk_us, pk_us⟩, trivial⟩
  | x :: l, i, h, hn => by
    have hn' : n = i + (l.length + 1) := hn
    obtain ⟨⟨h1, h2, h3, h4⟩, ht⟩ := h
    exact ⟨⟨(pk_un (by omega)).trans h1, (pk_un (by omega)).trans h2, (pk_un (by omega)).trans h3, (pk_un (by omega)).trans h4⟩, tc_src_add l (i + 1) ht (by omega)⟩
theorem tc_addL {post : Int32 → St2 → Prop} {f2 f3 f4 f5 f6 f7 f8 f9 f10 : Int32} {a1 a2 a3 a4 a5 a6 a7 a8 a9 a10 a11 a12 a13 : Nat → Int32} {x y z w : Int32} (l : List (Nat × Nat × Nat × Nat)) (n k a b c : Nat) (hl : tc_srcL a1 a2 a3 a4 0 l) (hn : n = l.length) (hx : x = nI k) (hy : y = nI a) (hz : z = nI b) (hw : w = nI c) (hn40 : n < 40) (h1 : 1 ≤ k) (h2 : k ≤ 12) (ha : a ≤ 5) (hb : b ≤ 5) (hc : c ≤ 5)
    (H : ∀ b1 b2 b3 b4 : Nat → Int32, tc_srcL b1 b2 b3 b4 0 (l ++ [(k, a, b, c)]) → post (nI (n + 1)) (nI (n + 1), 0, f3, f4, f5, f6, f7, f8, f9, f10, b1, b2, b3, b4, a5, a6, a7, a8, a9, a10, a11, a12, a13)) : wpX_add post (nI n, f2, f3, f4, f5, f6, f7, f8, f9, f10, a1, a2, a3, a4, a5, a6, a7, a8, a9, a10, a11, a12, a13) x y z w :=
  tc_add n k a b c hx hy hz hw hn40 h1 h2 ha hb hc (H _ _ _ _ (tc_src_add l 0 hl (by omega)))
theorem tc_addS {post : Int32 → St2 → Prop} {f2 f3 f4 f5 f6 f7 f8 f9 f10 : Int32} {a1 a2 a3 a4 a5 a6 a7 a8 a9 a10 a11 a12 a13 : Nat → Int32} {y z w : Int32} (l : List (Nat × Nat × Nat × Nat)) (n a b c : Nat) (hl : tc_srcL a1 a2 a3 a4 0 l) (hn : n = l.length) (hy : y = nI a) (hz : z = nI b) (hw : w = nI c) (hn40 : n < 40) (ha : a ≤ 5) (hc : c ≤ 5)
    (H : ∀ b1 b2 b3 b4 : Nat → Int32, tc_srcL b1 b2 b3 b4 0 (l ++ [(0, b, a, c)]) → post (nI (n + 1)) (nI (n + 1), 0, f3, f4, f5, f6, f7, f8, f9, f10, b1, b2, b3, b4, a5, a6, a7, a8, a9, a10, a11, a12, a13)) : wpX_add post (nI n, f2, f3, f4, f5, f6, f7, f8, f9, f10, a1, a2, a3, a4, a5, a6, a7, a8, a9, a10, a11, a12, a13) 0 y z w :=
  tc_addSet n a b c hy hz hw hn40 ha hc (H _ _ _ _ (tc_src_add l 0 hl (by omega)))
/-! compile and sound -/
theorem tc_sound_no {post : Int32 → St2 → Prop} {f1 f3 f4 f5 f6 f7 f8 f9 f10 : Int32} {a1 a2 a3 a4 a5 a6 a7 a8 a9 a10 a11 a12 a13 : Nat → Int32} (hb : ∀ Q : Int32 → St2 → Prop, (∀ b5 : Nat → Int32, Q 0 (f1, 1, f3, f4, f5, f6, f7, f8, f9, f10, a1, a2, a3, a4, b5, a6, a7, a8, a9, a10, a11, a12, a13)) → wpX_blocksFit Q (f1, 1, f3, f4, f5, f6, f7, f8, f9, f10, a1, a2, a3, a4, a5, a6, a7, a8, a9, a10, a11, a12, a13)) (H : ∀ b5 : Nat → Int32, post 0 (f1, 1, 0, f4, f5, f6, f7, f8, f9, f10, a1, a2, a3, a4, b5, a6, a7, a8, a9, a10, a11, a12, a13)) : wpX_sound post (f1, 0, f3, f4, f5, f6, f7, f8, f9, f10, a1, a2, a3, a4, a5, a6, a7, a8, a9, a10, a11, a12, a13) := by
  unfold wpX_sound
  unfold wpX_compile
  exact br_t rfl (hb _ (fun b5 => ⟨rfl, rfl, br_t rfl ⟨rfl, H b5⟩⟩))
theorem tc_sound_yes {post : Int32 → St2 → Prop} {f1 f3 f4 f5 f6 f7 f8 f9 f10 : Int32} {a1 a2 a3 a4 a5 a6 a7 a8 a9 a10 a11 a13 : Nat → Int32} {M : Nat → Int} (hb : ∀ Q : Int32 → St2 → Prop, (∀ b5 : Nat → Int32, Q 1 (f1, 1, f3, f4, f5, f6, f7, f8, f9, f10, a1, a2, a3, a4, b5, a6, a7, a8, a9, a10, a11, tc_E M, a13)) → wpX_blocksFit Q (f1, 1, f3, f4, f5, f6, f7, f8, f9, f10, a1, a2, a3, a4, a5, a6, a7, a8, a9, a10, a11, tc_E M, a13))
    (hc : ∀ (Q : St2 → Prop) (b5 : Nat → Int32), (∀ (f4 f5 f6 : Int32) (a5 a6 a7 a8 a9 a10 a11 a12 : Nat → Int32), post 1 (f1, 1, 1, f4, f5, f6, f7, f8, f9, f10, a1, a2, a3, a4, a5, a6, a7, a8, a9, a10, a11, a12, a13) → Q (f1, 1, 1, f4, f5, f6, f7, f8, f9, f10, a1, a2, a3, a4, a5, a6, a7, a8, a9, a10, a11, a12, a13)) → ∃ n, wX_compile_61 Q n 0 f1 1 1 0 510 0 f7 f8 f9 f10 a1 a2 a3 a4 b5 a6 a7 a8 a9 a10 a11 (tc_E (tc_u M 506 1)) a13) : wpX_sound post (f1, 0, f3, f4, f5, f6, f7, f8, f9, f10, a1, a2, a3, a4, a5, a6, a7, a8, a9, a10, a11, tc_E M, a13) := by
  unfold wpX_sound
  unfold wpX_compile
  exact br_t rfl (hb _ (fun b5 => ⟨rfl, rfl, br_f (by decide) (tc_wordOf 1 rfl (by decide) (by decide) (nm_r (tc_E_u M 506 1) (hc _ b5 (fun _ _ _ _ _ _ _ _ _ _ _ h => ⟨rfl, h⟩))))⟩))
end
section
/-! the four sources -/
def tc_src0 (z p : Bool) (ps : Nat) : List (Nat × Nat × Nat × Nat) := match z, p with
  | false, false => [(10, ps, 0, 0), (7, 0, 0, 0), (1, 0, 0, 1)]
  | false, true => [(10, ps, 0, 0), (7, 0, 0, 0), (1, 0, 0, 1), (9, 0, 0, 0), (2, 0, 0, 2)]
  | true, false => [(10, ps, 0, 0), (7, 0, 0, 0), (1, 0, 0, 1), (8, 0, 0, 0), (0, 7, 0, 0)]
  | true, true => [(10, ps, 0, 0), (7, 0, 0, 0), (1, 0, 0, 1), (8, 0, 0, 0), (0, 7, 0, 0), (9, 0, 0, 0), (2, 0, 0, 2)]
def tc_src1 (z p : Bool) (ps : Nat) : List (Nat × Nat × Nat × Nat) := tc_src0 z p ps ++ [(11, 0, 0, 0)] ++ [(12, 0, 0, 0)] ++ [(3, 1, 1, 2)] ++ [(11, 0, 0, 0)]
def tc_Res (z p : Bool) (ps : Nat) (M M' : Nat → Int) : Prop := tc_codeL M' 0 (tc_prog z p) ∧ M' 500 = M 500 ∧ M' 501 = M 501 ∧ M' 502 = M 502 ∧ M' 503 = M 503 ∧ M' 506 = M 506 ∧ M' 510 = (ps : Int) ∧ (z = true → M' 512 = 7)
theorem tc_bfno_ff {Q : Int32 → St2 → Prop} {f2 f3 f4 f5 f6 f7 f8 f9 f10 : Int32} {a1 a2 a3 a4 a5 a6 a7 a8 a9 a10 a11 a12 a13 : Nat → Int32} {ps : Nat} (hS : tc_srcL a1 a2 a3 a4 0 [(10, ps, 0, 0), (7, 0, 0, 0), (1, 0, 0, 1)]) (H : ∀ b5 : Nat → Int32, Q 0 (nI 3, f2, f3, f4, f5, f6, f7, f8, f9, f10, a1, a2, a3, a4, b5, a6, a7, a8, a9, a10, a11, a12, a13)) : wpX_blocksFit Q (nI 3, f2, f3, f4, f5, f6, f7, f8, f9, f10, a1, a2, a3, a4, a5, a6, a7, a8, a9, a10, a11, a12, a13) := by
  obtain ⟨h0, h1, h2, _⟩ := hS
  unfold wpX_blocksFit
  refine ⟨4, ?_⟩
  refine tc_bf_open (o := 0) (k := 10) (by decide) (by decide) h0.1 (Or.inr rfl) (by decide) ?_
  refine tc_bf_open (o := 1) (k := 7) (by decide) (by decide) h1.1 (Or.inl rfl) (by decide) ?_
  refine tc_bf_oth (o := 2) (k := 1) (by decide) (by decide) h2.1 (by decide) ?_
  exact tc_bf_no (o := 1) (by decide) (H _)
theorem tc_bfyes_ff {Q : Int32 → St2 → Prop} {f2 f3 f4 f5 f6 f7 f8 f9 f10 : Int32} {a1 a2 a3 a4 a5 a6 a7 a8 a9 a10 a11 a12 a13 : Nat → Int32} {ps : Nat} (hS : tc_srcL a1 a2 a3 a4 0 [(10, ps, 0, 0), (7, 0, 0, 0), (1, 0, 0, 1), (11, 0, 0, 0), (12, 0, 0, 0), (3, 1, 1, 2), (11, 0, 0, 0)]) (H : ∀ b5 : Nat → Int32, Q 1 (nI 7, f2, f3, f4, f5, f6, f7, f8, f9, f10, a1, a2, a3, a4, b5, a6, a7, a8, a9, a10, a11, a12, a13)) : wpX_blocksFit Q (nI 7, f2, f3, f4, f5, f6, f7, f8, f9, f10, a1, a2, a3, a4, a5, a6, a7, a8, a9, a10, a11, a12, a13) := by
  obtain ⟨h0, h1, h2, h3, h4, h5, h6, _⟩ := hS
  unfold wpX_blocksFit
  refine ⟨8, ?_⟩
  refine tc_bf_open (o := 0) (k := 10) (by decide) (by decide) h0.1 (Or.inr rfl) (by decide) ?_
  refine tc_bf_open (o := 1) (k := 7) (by decide) (by decide) h1.1 (Or.inl rfl) (by decide) ?_
  refine tc_bf_oth (o := 2) (k := 1) (by decide) (by decide) h2.1 (by decide) ?_
  refine tc_bf_end (o := 1) (by decide) (by decide) h3.1 (by decide) ?_
  refine tc_bf_oth (o := 1) (k := 12) (by decide) (by decide) h4.1 (by decide) ?_
  refine tc_bf_oth (o := 1) (k := 3) (by decide) (by decide) h5.1 (by decide) ?_
  refine tc_bf_end (o := 0) (by decide) (by decide) h6.1 (by decide) ?_
  exact tc_bf_yes (H _)
theorem tc_comp_ff {Q : St2 → Prop} {f2 f3 f7 f8 f9 f10 : Int32} {a1 a2 a3 a4 a5 a6 a7 a8 a9 a10 a11 a13 : Nat → Int32} {M : Nat → Int} {ps : Nat} (hps : ps ≤ 5) (hS : tc_srcL a1 a2 a3 a4 0 [(10, ps, 0, 0), (7, 0, 0, 0), (1, 0, 0, 1), (11, 0, 0, 0), (12, 0, 0, 0), (3, 1, 1, 2), (11, 0, 0, 0)])
    (H : ∀ (f4 f5 f6 : Int32) (a5 a6 a7 a8 a9 a10 a11 : Nat → Int32) (M' : Nat → Int), tc_Res false false ps M M' → Q (nI 7, f2, f3, f4, f5, f6, f7, f8, f9, f10, a1, a2, a3, a4, a5, a6, a7, a8, a9, a10, a11, tc_E M', a13)) : ∃ n, wX_compile_61 Q n 0 (nI 7) f2 f3 0 510 0 f7 f8 f9 f10 a1 a2 a3 a4 a5 a6 a7 a8 a9 a10 a11 (tc_E M) a13 := by
  obtain ⟨h0, h1, h2, h3, h4, h5, h6, _⟩ := hS
  refine ⟨8, ?_⟩
  refine br_f (nI_ge (a := 0) (b := 7) (by decide) (by decide)) (tc_cs_loop 0 0 510 0 ps 0 0 (by decide) (by decide) (by decide) (by decide) h0 (by omega) (nm_r (nI_1 0) ?_))
  refine br_f (nI_ge (a := 1) (b := 7) (by decide) (by decide)) (tc_cs_case 1 4 1 0 0 0 (by decide) (by decide) (by decide) h1 (by decide) (nm_r (nI_1 1) ?_))
  refine br_f (nI_ge (a := 2) (b := 7) (by decide) (by decide)) (tc_cs_arith 2 7 1 0 0 1 (by decide) (by decide) h2 (by decide) (by decide) (by decide) (by decide) (nm_r (nI_1 2) ?_))
  refine br_f (nI_ge (a := 3) (b := 7) (by decide) (by decide)) (tc_cs_end 3 0 0 0 (by decide) h3 (tc_closeCase 10 1 (some 5) (some 6) none none (by decide) (by decide) (by show ¬ (7 : Int32) = 10; decide) ⟨rfl, by decide⟩ ⟨rfl, by decide⟩ rfl rfl (nm_r (nI_1 3) ?_)))
  refine br_f (nI_ge (a := 4) (b := 7) (by decide) (by decide)) (tc_cs_print 4 10 0 0 0 (by decide) (by decide) h4 (by decide) (nm_r (nI_1 4) ?_))
  refine br_f (nI_ge (a := 5) (b := 7) (by decide) (by decide)) (tc_cs_arith 5 11 3 1 1 2 (by decide) (by decide) h5 (by decide) (by decide) (by decide) (by decide) (nm_r (nI_1 5) ?_))
  refine br_f (nI_ge (a := 6) (b := 7) (by decide) (by decide)) (tc_cs_end 6 0 0 0 (by decide) h6 (tc_closeLoop 14 0 511 2 (by decide) (by decide) rfl rfl (by decide) rfl (by decide) (nm_r (nI_1 6) ?_)))
  refine tc_cl_end 18 (by decide) (H _ _ _ _ _ _ _ _ _ _ _ ⟨⟨rfl, rfl, rfl, rfl, rfl, rfl, rfl, rfl, rfl, rfl, rfl, rfl, rfl, rfl, rfl, rfl, rfl, rfl, rfl, trivial⟩, rfl, rfl, rfl, rfl, rfl, rfl, fun _ => by contradiction⟩)
theorem tc_bfno_ft {Q : Int32 → St2 → Prop} {f2 f3 f4 f5 f6 f7 f8 f9 f10 : Int32} {a1 a2 a3 a4 a5 a6 a7 a8 a9 a10 a11 a12 a13 : Nat → Int32} {ps : Nat} (hS : tc_srcL a1 a2 a3 a4 0 [(10, ps, 0, 0), (7, 0, 0, 0), (1, 0, 0, 1), (9, 0, 0, 0), (2, 0, 0, 2)]) (H : ∀ b5 : Nat → Int32, Q 0 (nI 5, f2, f3, f4, f5, f6, f7, f8, f9, f10, a1, a2, a3, a4, b5, a6, a7, a8, a9, a10, a11, a12, a13)) : wpX_blocksFit Q (nI 5, f2, f3, f4, f5, f6, f7, f8, f9, f10, a1, a2, a3, a4, a5, a6, a7, a8, a9, a10, a11, a12, a13) := by
  obtain ⟨h0, h1, h2, h3, h4, _⟩ := hS
  unfold wpX_blocksFit
  refine ⟨6, ?_⟩
  refine tc_bf_open (o := 0) (k := 10) (by decide) (by decide) h0.1 (Or.inr rfl) (by decide) ?_
  refine tc_bf_open (o := 1) (k := 7) (by decide) (by decide) h1.1 (Or.inl rfl) (by decide) ?_
  refine tc_bf_oth (o := 2) (k := 1) (by decide) (by decide) h2.1 (by decide) ?_
  refine tc_bf_sec (o := 1) (k := 9) (t := 7) (by decide) (by decide) h3.1 (Or.inr rfl) (by decide) rfl (by decide) (by decide) (by decide) ?_
  refine tc_bf_oth (o := 2) (k := 2) (by decide) (by decide) h4.1 (by decide) ?_
  exact tc_bf_no (o := 1) (by decide) (H _)
theorem tc_bfyes_ft {Q : Int32 → St2 → Prop} {f2 f3 f4 f5 f6 f7 f8 f9 f10 : Int32} {a1 a2 a3 a4 a5 a6 a7 a8 a9 a10 a11 a12 a13 : Nat → Int32} {ps : Nat} (hS : tc_srcL a1 a2 a3 a4 0 [(10, ps, 0, 0), (7, 0, 0, 0), (1, 0, 0, 1), (9, 0, 0, 0), (2, 0, 0, 2), (11, 0, 0, 0), (12, 0, 0, 0), (3, 1, 1, 2), (11, 0, 0, 0)]) (H : ∀ b5 : Nat → Int32, Q 1 (nI 9, f2, f3, f4, f5, f6, f7, f8, f9, f10, a1, a2, a3, a4, b5, a6, a7, a8, a9, a10, a11, a12, a13)) : wpX_blocksFit Q (nI 9, f2, f3, f4, f5, f6, f7, f8, f9, f10, a1, a2, a3, a4, a5, a6, a7, a8, a9, a10, a11, a12, a13) := by
  obtain ⟨h0, h1, h2, h3, h4, h5, h6, h7, h8, _⟩ := hS
  unfold wpX_blocksFit
  refine ⟨10, ?_⟩
  refine tc_bf_open (o := 0) (k := 10) (by decide) (by decide) h0.1 (Or.inr rfl) (by decide) ?_
  refine tc_bf_open (o := 1) (k := 7) (by decide) (by decide) h1.1 (Or.inl rfl) (by decide) ?_
  refine tc_bf_oth (o := 2) (k := 1) (by decide) (by decide) h2.1 (by decide) ?_
  refine tc_bf_sec (o := 1) (k := 9) (t := 7) (by decide) (by decide) h3.1 (Or.inr rfl) (by decide) rfl (by decide) (by decide) (by decide) ?_
  refine tc_bf_oth (o := 2) (k := 2) (by decide) (by decide) h4.1 (by decide) ?_
  refine tc_bf_end (o := 1) (by decide) (by decide) h5.1 (by decide) ?_
  refine tc_bf_oth (o := 1) (k := 12) (by decide) (by decide) h6.1 (by decide) ?_
  refine tc_bf_oth (o := 1) (k := 3) (by decide) (by decide) h7.1 (by decide) ?_
  refine tc_bf_end (o := 0) (by decide) (by decide) h8.1 (by decide) ?_
  exact tc_bf_yes (H _)
theorem tc_comp_ft {Q : St2 → Prop} {f2 f3 f7 f8 f9 f10 : Int32} {a1 a2 a3 a4 a5 a6 a7 a8 a9 a10 a11 a13 : Nat → Int32} {M : Nat → Int} {ps : Nat} (hps : ps ≤ 5) (hS : tc_srcL a1 a2 a3 a4 0 [(10, ps, 0, 0), (7, 0, 0, 0), (1, 0, 0, 1), (9, 0, 0, 0), (2, 0, 0, 2), (11, 0, 0, 0), (12, 0, 0, 0), (3, 1, 1, 2), (11, 0, 0, 0)])
    (H : ∀ (f4 f5 f6 : Int32) (a5 a6 a7 a8 a9 a10 a11 : Nat → Int32) (M' : Nat → Int), tc_Res false true ps M M' → Q (nI 9, f2, f3, f4, f5, f6, f7, f8, f9, f10, a1, a2, a3, a4, a5, a6, a7, a8, a9, a10, a11, tc_E M', a13)) : ∃ n, wX_compile_61 Q n 0 (nI 9) f2 f3 0 510 0 f7 f8 f9 f10 a1 a2 a3 a4 a5 a6 a7 a8 a9 a10 a11 (tc_E M) a13 := by
  obtain ⟨h0, h1, h2, h3, h4, h5, h6, h7, h8, _⟩ := hS
  refine ⟨10, ?_⟩
  refine br_f (nI_ge (a := 0) (b := 9) (by decide) (by decide)) (tc_cs_loop 0 0 510 0 ps 0 0 (by decide) (by decide) (by decide) (by decide) h0 (by omega) (nm_r (nI_1 0) ?_))
  refine br_f (nI_ge (a := 1) (b := 9) (by decide) (by decide)) (tc_cs_case 1 4 1 0 0 0 (by decide) (by decide) (by decide) h1 (by decide) (nm_r (nI_1 1) ?_))
  refine br_f (nI_ge (a := 2) (b := 9) (by decide) (by decide)) (tc_cs_arith 2 7 1 0 0 1 (by decide) (by decide) h2 (by decide) (by decide) (by decide) (by decide) (nm_r (nI_1 2) ?_))
  refine br_f (nI_ge (a := 3) (b := 9) (by decide) (by decide)) (tc_cs_sec (k32 := 9) 3 9 0 0 0 (by decide) h3 (by decide) rfl (tc_osF 10 1 (by decide) (by decide) rfl (tc_os9 10 1 6 (by decide) (by decide) rfl (by decide) (nm_r (nI_1 3) ?_))))
  refine br_f (nI_ge (a := 4) (b := 9) (by decide) (by decide)) (tc_cs_arith 4 11 2 0 0 2 (by decide) (by decide) h4 (by decide) (by decide) (by decide) (by decide) (nm_r (nI_1 4) ?_))
  refine br_f (nI_ge (a := 5) (b := 9) (by decide) (by decide)) (tc_cs_end 5 0 0 0 (by decide) h5 (tc_closeCase 14 1 (some 5) none (some 10) none (by decide) (by decide) (by show ¬ (7 : Int32) = 10; decide) ⟨rfl, by decide⟩ rfl ⟨rfl, by decide⟩ rfl (nm_r (nI_1 5) ?_)))
  refine br_f (nI_ge (a := 6) (b := 9) (by decide) (by decide)) (tc_cs_print 6 14 0 0 0 (by decide) (by decide) h6 (by decide) (nm_r (nI_1 6) ?_))
  refine br_f (nI_ge (a := 7) (b := 9) (by decide) (by decide)) (tc_cs_arith 7 15 3 1 1 2 (by decide) (by decide) h7 (by decide) (by decide) (by decide) (by decide) (nm_r (nI_1 7) ?_))
  refine br_f (nI_ge (a := 8) (b := 9) (by decide) (by decide)) (tc_cs_end 8 0 0 0 (by decide) h8 (tc_closeLoop 18 0 511 2 (by decide) (by decide) rfl rfl (by decide) rfl (by decide) (nm_r (nI_1 8) ?_)))
  refine tc_cl_end 22 (by decide) (H _ _ _ _ _ _ _ _ _ _ _ ⟨⟨rfl, rfl, rfl, rfl, rfl, rfl, rfl, rfl, rfl, rfl, rfl, rfl, rfl, rfl, rfl, rfl, rfl, rfl, rfl, rfl, rfl, rfl, rfl, trivial⟩, rfl, rfl, rfl, rfl, rfl, rfl, fun _ => by contradiction⟩)
theorem tc_bfno_tf {Q : Int32 → St2 → Prop} {f2 f3 f4 f5 f6 f7 f8 f9 f10 : Int32} {a1 a2 a3 a4 a5 a6 a7 a8 a9 a10 a11 a12 a13 : Nat → Int32} {ps : Nat} (hS : tc_srcL a1 a2 a3 a4 0 [(10, ps, 0, 0), (7, 0, 0, 0), (1, 0, 0, 1), (8, 0, 0, 0), (0, 7, 0, 0)]) (H : ∀ b5 : Nat → Int32, Q 0 (nI 5, f2, f3, f4, f5, f6, f7, f8, f9, f10, a1, a2, a3, a4, b5, a6, a7, a8, a9, a10, a11, a12, a13)) : wpX_blocksFit Q (nI 5, f2, f3, f4, f5, f6, f7, f8, f9, f10, a1, a2, a3, a4, a5, a6, a7, a8, a9, a10, a11, a12, a13) := by
  obtain ⟨h0, h1, h2, h3, h4, _⟩ := hS
  unfold wpX_blocksFit
  refine ⟨6, ?_⟩
  refine tc_bf_open (o := 0) (k := 10) (by decide) (by decide) h0.1 (Or.inr rfl) (by decide) ?_
  refine tc_bf_open (o := 1) (k := 7) (by decide) (by decide) h1.1 (Or.inl rfl) (by decide) ?_
  refine tc_bf_oth (o := 2) (k := 1) (by decide) (by decide) h2.1 (by decide) ?_
  refine tc_bf_sec (o := 1) (k := 8) (t := 7) (by decide) (by decide) h3.1 (Or.inl rfl) (by decide) rfl (by decide) (by decide) (by decide) ?_
  refine tc_bf_oth (o := 2) (k := 0) (by decide) (by decide) h4.1 (by decide) ?_
  exact tc_bf_no (o := 1) (by decide) (H _)
theorem tc_bfyes_tf {Q : Int32 → St2 → Prop} {f2 f3 f4 f5 f6 f7 f8 f9 f10 : Int32} {a1 a2 a3 a4 a5 a6 a7 a8 a9 a10 a11 a12 a13 : Nat → Int32} {ps : Nat} (hS : tc_srcL a1 a2 a3 a4 0 [(10, ps, 0, 0), (7, 0, 0, 0), (1, 0, 0, 1), (8, 0, 0, 0), (0, 7, 0, 0), (11, 0, 0, 0), (12, 0, 0, 0), (3, 1, 1, 2), (11, 0, 0, 0)]) (H : ∀ b5 : Nat → Int32, Q 1 (nI 9, f2, f3, f4, f5, f6, f7, f8, f9, f10, a1, a2, a3, a4, b5, a6, a7, a8, a9, a10, a11, a12, a13)) : wpX_blocksFit Q (nI 9, f2, f3, f4, f5, f6, f7, f8, f9, f10, a1, a2, a3, a4, a5, a6, a7, a8, a9, a10, a11, a12, a13) := by
  obtain ⟨h0, h1, h2, h3, h4, h5, h6, h7, h8, _⟩ := hS
  unfold wpX_blocksFit
  refine ⟨10, ?_⟩
  refine tc_bf_open (o := 0) (k := 10) (by decide) (by decide) h0.1 (Or.inr rfl) (by decide) ?_
  refine tc_bf_open (o := 1) (k := 7) (by decide) (by decide) h1.1 (Or.inl rfl) (by decide) ?_
  refine tc_bf_oth (o := 2) (k := 1) (by decide) (by decide) h2.1 (by decide) ?_
  refine tc_bf_sec (o := 1) (k := 8) (t := 7) (by decide) (by decide) h3.1 (Or.inl rfl) (by decide) rfl (by decide) (by decide) (by decide) ?_
  refine tc_bf_oth (o := 2) (k := 0) (by decide) (by decide) h4.1 (by decide) ?_
  refine tc_bf_end (o := 1) (by decide) (by decide) h5.1 (by decide) ?_
  refine tc_bf_oth (o := 1) (k := 12) (by decide) (by decide) h6.1 (by decide) ?_
  refine tc_bf_oth (o := 1) (k := 3) (by decide) (by decide) h7.1 (by decide) ?_
  refine tc_bf_end (o := 0) (by decide) (by decide) h8.1 (by decide) ?_
  exact tc_bf_yes (H _)
theorem tc_comp_tf {Q : St2 → Prop} {f2 f3 f7 f8 f9 f10 : Int32} {a1 a2 a3 a4 a5 a6 a7 a8 a9 a10 a11 a13 : Nat → Int32} {M : Nat → Int} {ps : Nat} (hps : ps ≤ 5) (hS : tc_srcL a1 a2 a3 a4 0 [(10, ps, 0, 0), (7, 0, 0, 0), (1, 0, 0, 1), (8, 0, 0, 0), (0, 7, 0, 0), (11, 0, 0, 0), (12, 0, 0, 0), (3, 1, 1, 2), (11, 0, 0, 0)])
    (H : ∀ (f4 f5 f6 : Int32) (a5 a6 a7 a8 a9 a10 a11 : Nat → Int32) (M' : Nat → Int), tc_Res true false ps M M' → Q (nI 9, f2, f3, f4, f5, f6, f7, f8, f9, f10, a1, a2, a3, a4, a5, a6, a7, a8, a9, a10, a11, tc_E M', a13)) : ∃ n, wX_compile_61 Q n 0 (nI 9) f2 f3 0 510 0 f7 f8 f9 f10 a1 a2 a3 a4 a5 a6 a7 a8 a9 a10 a11 (tc_E M) a13 := by
  obtain ⟨h0, h1, h2, h3, h4, h5, h6, h7, h8, _⟩ := hS
  refine ⟨10, ?_⟩
  refine br_f (nI_ge (a := 0) (b := 9) (by decide) (by decide)) (tc_cs_loop 0 0 510 0 ps 0 0 (by decide) (by decide) (by decide) (by decide) h0 (by omega) (nm_r (nI_1 0) ?_))
  refine br_f (nI_ge (a := 1) (b := 9) (by decide) (by decide)) (tc_cs_case 1 4 1 0 0 0 (by decide) (by decide) (by decide) h1 (by decide) (nm_r (nI_1 1) ?_))
  refine br_f (nI_ge (a := 2) (b := 9) (by decide) (by decide)) (tc_cs_arith 2 7 1 0 0 1 (by decide) (by decide) h2 (by decide) (by decide) (by decide) (by decide) (nm_r (nI_1 2) ?_))
  refine br_f (nI_ge (a := 3) (b := 9) (by decide) (by decide)) (tc_cs_sec (k32 := 8) 3 8 0 0 0 (by decide) h3 (by decide) rfl (tc_osF 10 1 (by decide) (by decide) rfl (tc_os8 10 1 5 (by decide) (by decide) rfl (by decide) (nm_r (nI_1 3) ?_))))
  refine br_f (nI_ge (a := 4) (b := 9) (by decide) (by decide)) (tc_cs_set 4 11 512 7 0 0 (by decide) (by decide) (by decide) h4 (by decide) (by decide) (nm_r (nI_1 4) ?_))
  refine br_f (nI_ge (a := 5) (b := 9) (by decide) (by decide)) (tc_cs_end 5 0 0 0 (by decide) h5 (tc_closeCase 13 1 none (some 6) (some 10) none (by decide) (by decide) (by show ¬ (7 : Int32) = 10; decide) rfl ⟨rfl, by decide⟩ ⟨rfl, by decide⟩ rfl (nm_r (nI_1 5) ?_)))
  refine br_f (nI_ge (a := 6) (b := 9) (by decide) (by decide)) (tc_cs_print 6 13 0 0 0 (by decide) (by decide) h6 (by decide) (nm_r (nI_1 6) ?_))
  refine br_f (nI_ge (a := 7) (b := 9) (by decide) (by decide)) (tc_cs_arith 7 14 3 1 1 2 (by decide) (by decide) h7 (by decide) (by decide) (by decide) (by decide) (nm_r (nI_1 7) ?_))
  refine br_f (nI_ge (a := 8) (b := 9) (by decide) (by decide)) (tc_cs_end 8 0 0 0 (by decide) h8 (tc_closeLoop 17 0 511 2 (by decide) (by decide) rfl rfl (by decide) rfl (by decide) (nm_r (nI_1 8) ?_)))
  refine tc_cl_end 21 (by decide) (H _ _ _ _ _ _ _ _ _ _ _ ⟨⟨rfl, rfl, rfl, rfl, rfl, rfl, rfl, rfl, rfl, rfl, rfl, rfl, rfl, rfl, rfl, rfl, rfl, rfl, rfl, rfl, rfl, rfl, trivial⟩, rfl, rfl, rfl, rfl, rfl, rfl, fun _ => rfl⟩)
theorem tc_bfno_tt {Q : Int32 → St2 → Prop} {f2 f3 f4 f5 f6 f7 f8 f9 f10 : Int32} {a1 a2 a3 a4 a5 a6 a7 a8 a9 a10 a11 a12 a13 : Nat → Int32} {ps : Nat} (hS : tc_srcL a1 a2 a3 a4 0 [(10, ps, 0, 0), (7, 0, 0, 0), (1, 0, 0, 1), (8, 0, 0, 0), (0, 7, 0, 0), (9, 0, 0, 0), (2, 0, 0, 2)]) (H : ∀ b5 : Nat → Int32, Q 0 (nI 7, f2, f3, f4, f5, f6, f7, f8, f9, f10, a1, a2, a3, a4, b5, a6, a7, a8, a9, a10, a11, a12, a13)) : wpX_blocksFit Q (nI 7, f2, f3, f4, f5, f6, f7, f8, f9, f10, a1, a2, a3, a4, a5, a6, a7, a8, a9, a10, a11, a12, a13) := by
  obtain ⟨h0, h1, h2, h3, h4, h5, h6, _⟩ := hS
  unfold wpX_blocksFit
  refine ⟨8, ?_⟩
  refine tc_bf_open (o := 0) (k := 10) (by decide) (by decide) h0.1 (Or.inr rfl) (by decide) ?_
  refine tc_bf_open (o := 1) (k := 7) (by decide) (by decide) h1.1 (Or.inl rfl) (by decide) ?_
  refine tc_bf_oth (o := 2) (k := 1) (by decide) (by decide) h2.1 (by decide) ?_
  refine tc_bf_sec (o := 1) (k := 8) (t := 7) (by decide) (by decide) h3.1 (Or.inl rfl) (by decide) rfl (by decide) (by decide) (by decide) ?_
  refine tc_bf_oth (o := 2) (k := 0) (by decide) (by decide) h4.1 (by decide) ?_
  refine tc_bf_sec (o := 1) (k := 9) (t := 8) (by decide) (by decide) h5.1 (Or.inr rfl) (by decide) rfl (by decide) (by decide) (by decide) ?_
  refine tc_bf_oth (o := 2) (k := 2) (by decide) (by decide) h6.1 (by decide) ?_
  exact tc_bf_no (o := 1) (by decide) (H _)
theorem tc_bfyes_tt {Q : Int32 → St2 → Prop} {f2 f3 f4 f5 f6 f7 f8 f9 f10 : Int32} {a1 a2 a3 a4 a5 a6 a7 a8 a9 a10 a11 a12 a13 : Nat → Int32} {ps : Nat} (hS : tc_srcL a1 a2 a3 a4 0 [(10, ps, 0, 0), (7, 0, 0, 0), (1, 0, 0, 1), (8, 0, 0, 0), (0, 7, 0, 0), (9, 0, 0, 0), (2, 0, 0, 2), (11, 0, 0, 0), (12, 0, 0, 0), (3, 1, 1, 2), (11, 0, 0, 0)]) (H : ∀ b5 : Nat → Int32, Q 1 (nI 11, f2, f3, f4, f5, f6, f7, f8, f9, f10, a1, a2, a3, a4, b5, a6, a7, a8, a9, a10, a11, a12, a13)) : wpX_blocksFit Q (nI 11, f2, f3, f4, f5, f6, f7, f8, f9, f10, a1, a2, a3, a4, a5, a6, a7, a8, a9, a10, a11, a12, a13) := by
  obtain ⟨h0, h1, h2, h3, h4, h5, h6, h7, h8, h9, h10, _⟩ := hS
  unfold wpX_blocksFit
  refine ⟨12, ?_⟩
  refine tc_bf_open (o := 0) (k := 10) (by decide) (by decide) h0.1 (Or.inr rfl) (by decide) ?_
  refine tc_bf_open (o := 1) (k := 7) (by decide) (by decide) h1.1 (Or.inl rfl) (by decide) ?_
  refine tc_bf_oth (o := 2) (k := 1) (by decide) (by decide) h2.1 (by decide) ?_
  refine tc_bf_sec (o := 1) (k := 8) (t := 7) (by decide) (by decide) h3.1 (Or.inl rfl) (by decide) rfl (by decide) (by decide) (by decide) ?_
  refine tc_bf_oth (o := 2) (k := 0) (by decide) (by decide) h4.1 (by decide) ?_
  refine tc_bf_sec (o := 1) (k := 9) (t := 8) (by decide) (by decide) h5.1 (Or.inr rfl) (by decide) rfl (by decide) (by decide) (by decide) ?_
  refine tc_bf_oth (o := 2) (k := 2) (by decide) (by decide) h6.1 (by decide) ?_
  refine tc_bf_end (o := 1) (by decide) (by decide) h7.1 (by decide) ?_
  refine tc_bf_oth (o := 1) (k := 12) (by decide) (by decide) h8.1 (by decide) ?_
  refine tc_bf_oth (o := 1) (k := 3) (by decide) (by decide) h9.1 (by decide) ?_
  refine tc_bf_end (o := 0) (by decide) (by decide) h10.1 (by decide) ?_
  exact tc_bf_yes (H _)
theorem tc_comp_tt {Q : St2 → Prop} {f2 f3 f7 f8 f9 f10 : Int32} {a1 a2 a3 a4 a5 a6 a7 a8 a9 a10 a11 a13 : Nat → Int32} {M : Nat → Int} {ps : Nat} (hps : ps ≤ 5) (hS : tc_srcL a1 a2 a3 a4 0 [(10, ps, 0, 0), (7, 0, 0, 0), (1, 0, 0, 1), (8, 0, 0, 0), (0, 7, 0, 0), (9, 0, 0, 0), (2, 0, 0, 2), (11, 0, 0, 0), (12, 0, 0, 0), (3, 1, 1, 2), (11, 0, 0, 0)])
    (H : ∀ (f4 f5 f6 : Int32) (a5 a6 a7 a8 a9 a10 a11 : Nat → Int32) (M' : Nat → Int), tc_Res true true ps M M' → Q (nI 11, f2, f3, f4, f5, f6, f7, f8, f9, f10, a1, a2, a3, a4, a5, a6, a7, a8, a9, a10, a11, tc_E M', a13)) : ∃ n, wX_compile_61 Q n 0 (nI 11) f2 f3 0 510 0 f7 f8 f9 f10 a1 a2 a3 a4 a5 a6 a7 a8 a9 a10 a11 (tc_E M) a13 := by
  obtain ⟨h0, h1, h2, h3, h4, h5, h6, h7, h8, h9, h10, _⟩ := hS
  refine ⟨12, ?_⟩
  refine br_f (nI_ge (a := 0) (b := 11) (by decide) (by decide)) (tc_cs_loop 0 0 510 0 ps 0 0 (by decide) (by decide) (by decide) (by decide) h0 (by omega) (nm_r (nI_1 0) ?_))
  refine br_f (nI_ge (a := 1) (b := 11) (by decide) (by decide)) (tc_cs_case 1 4 1 0 0 0 (by decide) (by decide) (by decide) h1 (by decide) (nm_r (nI_1 1) ?_))
  refine br_f (nI_ge (a := 2) (b := 11) (by decide) (by decide)) (tc_cs_arith 2 7 1 0 0 1 (by decide) (by decide) h2 (by decide) (by decide) (by decide) (by decide) (nm_r (nI_1 2) ?_))
  refine br_f (nI_ge (a := 3) (b := 11) (by decide) (by decide)) (tc_cs_sec (k32 := 8) 3 8 0 0 0 (by decide) h3 (by decide) rfl (tc_osF 10 1 (by decide) (by decide) rfl (tc_os8 10 1 5 (by decide) (by decide) rfl (by decide) (nm_r (nI_1 3) ?_))))
  refine br_f (nI_ge (a := 4) (b := 11) (by decide) (by decide)) (tc_cs_set 4 11 512 7 0 0 (by decide) (by decide) (by decide) h4 (by decide) (by decide) (nm_r (nI_1 4) ?_))
  refine br_f (nI_ge (a := 5) (b := 11) (by decide) (by decide)) (tc_cs_sec (k32 := 9) 5 9 0 0 0 (by decide) h5 (by decide) rfl (tc_osS 13 1 10 (by decide) (by decide) rfl (by decide) (tc_os9 13 1 6 (by decide) (by decide) rfl (by decide) (nm_r (nI_1 5) ?_))))
  refine br_f (nI_ge (a := 6) (b := 11) (by decide) (by decide)) (tc_cs_arith 6 14 2 0 0 2 (by decide) (by decide) h6 (by decide) (by decide) (by decide) (by decide) (nm_r (nI_1 6) ?_))
  refine br_f (nI_ge (a := 7) (b := 11) (by decide) (by decide)) (tc_cs_end 7 0 0 0 (by decide) h7 (tc_closeCase 17 1 none none (some 10) (some 13) (by decide) (by decide) (by show ¬ (7 : Int32) = 10; decide) rfl rfl ⟨rfl, by decide⟩ ⟨rfl, by decide⟩ (nm_r (nI_1 7) ?_)))
  refine br_f (nI_ge (a := 8) (b := 11) (by decide) (by decide)) (tc_cs_print 8 17 0 0 0 (by decide) (by decide) h8 (by decide) (nm_r (nI_1 8) ?_))
  refine br_f (nI_ge (a := 9) (b := 11) (by decide) (by decide)) (tc_cs_arith 9 18 3 1 1 2 (by decide) (by decide) h9 (by decide) (by decide) (by decide) (by decide) (nm_r (nI_1 9) ?_))
  refine br_f (nI_ge (a := 10) (b := 11) (by decide) (by decide)) (tc_cs_end 10 0 0 0 (by decide) h10 (tc_closeLoop 21 0 511 2 (by decide) (by decide) rfl rfl (by decide) rfl (by decide) (nm_r (nI_1 10) ?_)))
  refine tc_cl_end 25 (by decide) (H _ _ _ _ _ _ _ _ _ _ _ ⟨⟨rfl, rfl, rfl, rfl, rfl, rfl, rfl, rfl, rfl, rfl, rfl, rfl, rfl, rfl, rfl, rfl, rfl, rfl, rfl, rfl, rfl, rfl, rfl, rfl, rfl, rfl, trivial⟩, rfl, rfl, rfl, rfl, rfl, rfl, fun _ => rfl⟩)
theorem tc_bfno {Q : Int32 → St2 → Prop} {f2 f3 f4 f5 f6 f7 f8 f9 f10 : Int32} {a1 a2 a3 a4 a5 a6 a7 a8 a9 a10 a11 a12 a13 : Nat → Int32} {z p : Bool} {ps : Nat} (hS : tc_srcL a1 a2 a3 a4 0 (tc_src0 z p ps)) (H : ∀ b5 : Nat → Int32, Q 0 (nI ((tc_src0 z p ps).length), f2, f3, f4, f5, f6, f7, f8, f9, f10, a1, a2, a3, a4, b5, a6, a7, a8, a9, a10, a11, a12, a13)) : wpX_blocksFit Q (nI ((tc_src0 z p ps).length), f2, f3, f4, f5, f6, f7, f8, f9, f10, a1, a2, a3, a4, a5, a6, a7, a8, a9, a10, a11, a12, a13) := by
  cases z <;> cases p
  · exact tc_bfno_ff hS H
  · exact tc_bfno_ft hS H
  · exact tc_bfno_tf hS H
  · exact tc_bfno_tt hS H
theorem tc_bfyes {Q : Int32 → St2 → Prop} {f2 f3 f4 f5 f6 f7 f8 f9 f10 : Int32} {a1 a2 a3 a4 a5 a6 a7 a8 a9 a10 a11 a12 a13 : Nat → Int32} {z p : Bool} {ps : Nat} (hS : tc_srcL a1 a2 a3 a4 0 (tc_src1 z p ps)) (H : ∀ b5 : Nat → Int32, Q 1 (nI ((tc_src0 z p ps).length + 1 + 1 + 1 + 1), f2, f3, f4, f5, f6, f7, f8, f9, f10, a1, a2, a3, a4, b5, a6, a7, a8, a9, a10, a11, a12, a13)) : wpX_blocksFit Q (nI ((tc_src0 z p ps).length + 1 + 1 + 1 + 1), f2, f3, f4, f5, f6, f7, f8, f9, f10, a1, a2, a3, a4, a5, a6, a7, a8, a9, a10, a11, a12, a13) := by
  cases z <;> cases p
  · exact tc_bfyes_ff hS H
  · exact tc_bfyes_ft hS H
  · exact tc_bfyes_tf hS H
  · exact tc_bfyes_tt hS H
theorem tc_comp {Q : St2 → Prop} {f2 f3 f7 f8 f9 f10 : Int32} {a1 a2 a3 a4 a5 a6 a7 a8 a9 a10 a11 a13 : Nat → Int32} {M : Nat → Int} {z p : Bool} {ps : Nat} (hps : ps ≤ 5) (hS : tc_srcL a1 a2 a3 a4 0 (tc_src1 z p ps))
    (H : ∀ (f4 f5 f6 : Int32) (a5 a6 a7 a8 a9 a10 a11 : Nat → Int32) (M' : Nat → Int), tc_Res z p ps M M' → Q (nI ((tc_src0 z p ps).length + 1 + 1 + 1 + 1), f2, f3, f4, f5, f6, f7, f8, f9, f10, a1, a2, a3, a4, a5, a6, a7, a8, a9, a10, a11, tc_E M', a13)) : ∃ n, wX_compile_61 Q n 0 (nI ((tc_src0 z p ps).length + 1 + 1 + 1 + 1)) f2 f3 0 510 0 f7 f8 f9 f10 a1 a2 a3 a4 a5 a6 a7 a8 a9 a10 a11 (tc_E M) a13 := by
  cases z <;> cases p
  · exact tc_comp_ff hps hS H
  · exact tc_comp_ft hps hS H
  · exact tc_comp_tf hps hS H
  · exact tc_comp_tt hps hS H
theorem tc_src_len (z p : Bool) (ps : Nat) : (tc_src0 z p ps).length ≤ 7 := by
  cases z <;> cases p
  · exact (by decide : 3 ≤ 7)
  · exact (by decide : 5 ≤ 7)
  · exact (by decide : 5 ≤ 7)
  · exact (by decide : 7 ≤ 7)
end
section
theorem tc_173 {post : Int32 → St0 → Prop} {mc ms kc ks : Nat} {x1 x2 x3 x5 x6 : Int32} {f3 f4 f5 f6 f7 f8 f9 f10 : Int32} {a1 a2 a3 a4 a5 a6 a7 a8 a9 a10 a11 : Nat → Int32} {M : Nat → Int} {z p : Bool} {ps : Nat} (hps : ps ≤ 5) (hz : x5 = if z = true then 1 else 0) (hp : x6 = if p = true then 1 else 0)
    (hS : tc_srcL a1 a2 a3 a4 0 (tc_src0 z p ps)) (h0 : M 500 = x1.toInt) (h1 : M 501 = x2.toInt) (h2 : M 502 = x3.toInt) (h3 : M 503 = 0) (H : post 1 ()) :
    wL_lawOf_173 post mc ms x1 x2 x3 (nI ps) x5 x6 kc ks (nI (tc_src0 z p ps).length) 0 f3 f4 f5 f6 f7 f8 f9 f10 a1 a2 a3 a4 a5 a6 a7 a8 a9 a10 a11 (tc_E M) (tc_E (fun _ => 0)) := by
  unfold wL_lawOf_173
  have hl := tc_src_len z p ps
  refine tc_sound_no (fun Q hQ => tc_bfno hS hQ) (fun b5 => br_t rfl (tc_run_no (br_t rfl ?_)))
  refine tc_addL _ _ 11 0 0 0 hS rfl rfl rfl rfl rfl (by omega) (by decide) (by decide) (by decide) (by decide) (by decide) (fun b1 b2 b3 b4 hS1 => ?_)
  refine tc_addL _ _ 12 0 0 0 hS1 (by rw [List.length_append]; rfl) rfl rfl rfl rfl (by omega) (by decide) (by decide) (by decide) (by decide) (by decide) (fun c1 c2 c3 c4 hS2 => ?_)
  refine tc_addL _ _ 3 1 1 2 hS2 (by rw [List.length_append, List.length_append]; rfl) rfl rfl rfl rfl (by omega) (by decide) (by decide) (by decide) (by decide) (by decide) (fun d1 d2 d3 d4 hS3 => ?_)
  refine tc_addL _ _ 11 0 0 0 hS3 (by rw [List.length_append, List.length_append, List.length_append]; rfl) rfl rfl rfl rfl (by omega) (by decide) (by decide) (by decide) (by decide) (by decide) (fun e1 e2 e3 e4 hS4 => ?_)
  refine tc_sound_yes (fun Q hQ => tc_bfyes hS4 hQ) (fun Q g5 hQ => tc_comp hps hS4 (fun f4 f5 f6 a5 a6 a7 a8 a9 a10 a11 M' hr => hQ _ _ _ _ _ _ _ _ _ _ _ (br_f (by decide) ?_)))
  obtain ⟨hc, r0, r1, r2, r3, r6, r10, r12⟩ := hr
  rw [tc_un (by decide), h0] at r0
  rw [tc_un (by decide), h1] at r1
  rw [tc_un (by decide), h2] at r2
  rw [tc_un (by decide), h3] at r3
  rw [tc_us] at r6
  have b1l := x1.le_toInt
  have b1u := x1.toInt_lt
  have b2l := x2.le_toInt
  have b2u := x2.toInt_lt
  have b3l := x3.le_toInt
  have b3u := x3.toInt_lt
  refine tc_run_yes (z := z) (p := p) hps (fun x y M O hI => br_t rfl (br_t rfl ?_)) hc r0 r1 r2 r3 r6 r10 r12
  refine tc_wrap x1.toInt (Int32.toInt_toInt64 x1) (by omega) (by omega) ?_
  refine tc_wrap x2.toInt (Int32.toInt_toInt64 x2) (by omega) (by omega) ?_
  refine tc_wrap x3.toInt (Int32.toInt_toInt64 x3) (by omega) (by omega) ?_
  exact ⟨6, tc_291 (P := x1.toInt) (Q := x2.toInt) (R := x3.toInt) hps hI hz hp H 5 0 0 rfl (by omega)⟩
theorem tc_42 {post : Int32 → St0 → Prop} {x1 x2 x3 x4 x5 x6 : Int32} {z p : Bool} {ps : Nat} (h4 : x4 = nI ps) (hps : ps ≤ 5) (hz : x5 = if z = true then 1 else 0) (hp : x6 = if p = true then 1 else 0) (H : post 1 ()) :
    wL_lawOf_42 post 470 7504 x1 x2 x3 x4 x5 x6 0 0 := by
  subst h4
  unfold wL_lawOf_42
  refine ⟨by decide, by decide, 13, 965, by decide, by decide, ?_⟩
  unfold wpX_init
  refine ⟨by decide, by decide, by decide, by decide, by decide, by decide, by decide, by decide, by decide, by decide, by decide, by decide, by decide, by decide, by decide, by decide, by decide, by decide, by decide, by decide, by decide, by decide, by decide, by decide, by decide, by decide, ?_⟩
  rw [tc_E0]
  refine tc_put 0 rfl (by decide) (tc_put 1 rfl (by decide) (tc_put 2 rfl (by decide) ?_))
  refine tc_addL [] 0 10 ps 0 0 trivial rfl rfl rfl rfl rfl (by decide) (by decide) (by decide) hps (by decide) (by decide) (fun b1 b2 b3 b4 hS1 => ?_)
  refine tc_addL _ 1 7 0 0 0 hS1 rfl rfl rfl rfl rfl (by decide) (by decide) (by decide) (by decide) (by decide) (by decide) (fun c1 c2 c3 c4 hS2 => ?_)
  refine tc_addL _ 2 1 0 0 1 hS2 rfl rfl rfl rfl rfl (by decide) (by decide) (by decide) (by decide) (by decide) (by decide) (fun d1 d2 d3 d4 hS3 => ?_)
  cases z
  · refine br_t (by rw [hz]; decide) ?_
    unfold wL_lawOf_126
    refine br_t (by rw [hz]; decide) ?_
    unfold wL_lawOf_142
    cases p
    · refine br_t (by rw [hp]; decide) ?_
      unfold wL_lawOf_158
      refine br_t (by rw [hp]; decide) ?_
      exact tc_173 (z := false) (p := false) hps hz hp hS3 rfl rfl rfl rfl H
    · refine br_f (by rw [hp]; decide) ?_
      refine tc_addL _ 3 9 0 0 0 hS3 rfl rfl rfl rfl rfl (by decide) (by decide) (by decide) (by decide) (by decide) (by decide) (fun e1 e2 e3 e4 hS4 => ?_)
      unfold wL_lawOf_158
      refine br_f (by rw [hp]; decide) ?_
      refine tc_addL _ 4 2 0 0 2 hS4 rfl rfl rfl rfl rfl (by decide) (by decide) (by decide) (by decide) (by decide) (by decide) (fun g1 g2 g3 g4 hS5 => ?_)
      exact tc_173 (z := false) (p := true) hps hz hp hS5 rfl rfl rfl rfl H
  · refine br_f (by rw [hz]; decide) ?_
    refine tc_addL _ 3 8 0 0 0 hS3 rfl rfl rfl rfl rfl (by decide) (by decide) (by decide) (by decide) (by decide) (by decide) (fun e1 e2 e3 e4 hS4 => ?_)
    unfold wL_lawOf_126
    refine br_f (by rw [hz]; decide) ?_
    refine tc_addS _ 4 0 7 0 hS4 rfl rfl rfl rfl (by decide) (by decide) (by decide) (fun g1 g2 g3 g4 hS5 => ?_)
    unfold wL_lawOf_142
    cases p
    · refine br_t (by rw [hp]; decide) ?_
      unfold wL_lawOf_158
      refine br_t (by rw [hp]; decide) ?_
      exact tc_173 (z := true) (p := false) hps hz hp hS5 rfl rfl rfl rfl H
    · refine br_f (by rw [hp]; decide) ?_
      refine tc_addL _ 5 9 0 0 0 hS5 rfl rfl rfl rfl rfl (by decide) (by decide) (by decide) (by decide) (by decide) (by decide) (fun k1 k2 k3 k4 hS6 => ?_)
      unfold wL_lawOf_158
      refine br_f (by rw [hp]; decide) ?_
      refine tc_addL _ 6 2 0 0 2 hS6 rfl rfl rfl rfl rfl (by decide) (by decide) (by decide) (by decide) (by decide) (by decide) (fun l1 l2 l3 l4 hS7 => ?_)
      exact tc_173 (z := true) (p := true) hps hz hp hS7 rfl rfl rfl rfl H
theorem tc_lawOf {post : Int32 → St0 → Prop} (s x1 x2 x3 : Int32) (H : post 1 ()) : wpL_lawOf post 470 7504 () s x1 x2 x3 := by
  obtain ⟨j, hj, ej⟩ := pk_andE s (m := 255) 8 (by decide)
  have e : (s &&& 255) - (s &&& 255) / 6 * 6 = nI (j % 6) := by
    rw [ej]
    exact pk_rem (d := 6) (by omega) (by decide) (by decide)
  unfold wpL_lawOf
  refine ⟨by decide, nm_r e (br_c (fun _ => ?_) (fun _ => ?_))⟩
  · unfold wL_lawOf_25
    exact br_c (fun _ => tc_42 (z := true) (p := true) rfl (by omega) rfl rfl H) (fun _ => tc_42 (z := true) (p := false) rfl (by omega) rfl rfl H)
  · unfold wL_lawOf_25
    exact br_c (fun _ => tc_42 (z := false) (p := true) rfl (by omega) rfl rfl H) (fun _ => tc_42 (z := false) (p := false) rfl (by omega) rfl rfl H)
theorem tc_cell {post : Int32 → Prop} {L : Nat} {xs : Nat → Int32} {u : St0} {x : Int32} (k : Nat) (hx : x = nI k) (hk : k < 4) (hL : L ≤ 4) (H : ∀ r, post r) : wpL_cellAt post L xs u x := by
  subst hx
  unfold wpL_cellAt
  exact pk_le L k (fun _ => H _) (fun h => ⟨pk_in k L h, H _⟩)
theorem i_vc (xs : Nat → Int32) (L : Nat) (hL : L ≤ 4) : wpL_law (fun r => r = 1) L xs := by
  unfold wpL_law
  exact tc_cell 0 rfl (by decide) hL (fun r1 => tc_cell 1 rfl (by decide) hL (fun r2 => tc_cell 2 rfl (by decide) hL (fun r3 => tc_cell 3 rfl (by decide) hL (fun r4 => ⟨470, 7504, by decide, by decide, tc_lawOf r1 r2 r3 r4 rfl⟩))))
end

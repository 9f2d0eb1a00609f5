section
/-! balanced ternary, in plain integers -/
/-- what is left of x when its i lowest trits are taken off -/
def tc_r (x : Int) : Nat → Int
  | 0 => x
  | i + 1 => (tc_r x i + 1) / 3
/-- the trit at place i -/
def tc_d (x : Int) (i : Nat) : Int := tc_r x i - 3 * tc_r x (i + 1)
theorem tc_r0 (x : Int) : tc_r x 0 = x := rfl
theorem tc_rs (x : Int) (i : Nat) : tc_r x (i + 1) = (tc_r x i + 1) / 3 := rfl
theorem tc_d3 (x : Int) (i : Nat) : tc_d x i = -1 ∨ tc_d x i = 0 ∨ tc_d x i = 1 := by
  unfold tc_d
  rw [tc_rs]
  omega
theorem tc_dr (x : Int) (i : Nat) : tc_r x i = tc_d x i + 3 * tc_r x (i + 1) := by
  unfold tc_d
  omega
theorem tc_rneg (x : Int) (i : Nat) : tc_r (-x) i = - tc_r x i := by
  induction i with
  | zero => rfl
  | succ i ih =>
    rw [tc_rs, tc_rs, ih]
    omega
theorem tc_dneg (x : Int) (i : Nat) : tc_d (-x) i = - tc_d x i := by
  unfold tc_d
  rw [tc_rneg, tc_rneg]
  omega
theorem tc_rup (x : Int) (i : Nat) : tc_r (3 * x) (i + 1) = tc_r x i := by
  induction i with
  | zero =>
    show (3 * x + 1) / 3 = x
    omega
  | succ i ih => rw [tc_rs, ih, tc_rs]
theorem tc_dup (x : Int) (i : Nat) : tc_d (3 * x) (i + 1) = tc_d x i := by
  unfold tc_d
  rw [tc_rup, tc_rup]
theorem tc_dup0 (x : Int) : tc_d (3 * x) 0 = 0 := by
  unfold tc_d
  rw [tc_rup, tc_r0, tc_r0]
  omega
theorem tc_rr (x : Int) (j i : Nat) : tc_r (tc_r x j) i = tc_r x (j + i) := by
  induction i with
  | zero => rfl
  | succ i ih =>
    rw [tc_rs, ih]
    rfl
theorem tc_dd (x : Int) (j i : Nat) : tc_d (tc_r x j) i = tc_d x (j + i) := by
  unfold tc_d
  rw [tc_rr, tc_rr]
  rfl
theorem tc_radd (x : Int) (i : Nat) : ∀ m : Int, tc_r (x + 3 ^ i * m) i = tc_r x i + m := by
  induction i with
  | zero =>
    intro m
    show x + 3 ^ 0 * m = x + m
    rw [Int.pow_zero, Int.one_mul]
  | succ i ih =>
    intro m
    rw [tc_rs, tc_rs, show (3 : Int) ^ (i + 1) * m = 3 ^ i * (3 * m) by rw [Int.pow_succ, Int.mul_assoc], ih]
    omega
theorem tc_dadd (x m : Int) {i k : Nat} (h : i < k) : tc_d (x + 3 ^ k * m) i = tc_d x i := by
  have e2 : (3 : Int) ^ k * m = 3 ^ (i + 1) * (3 ^ (k - (i + 1)) * m) := by
    rw [← Int.mul_assoc, ← Int.pow_add, show i + 1 + (k - (i + 1)) = k by omega]
  have e1 : (3 : Int) ^ k * m = 3 ^ i * (3 * (3 ^ (k - (i + 1)) * m)) := by
    rw [e2, Int.pow_succ, Int.mul_assoc]
  have h1 : tc_r (x + 3 ^ k * m) i = tc_r x i + 3 * (3 ^ (k - (i + 1)) * m) := by rw [e1, tc_radd]
  have h2 : tc_r (x + 3 ^ k * m) (i + 1) = tc_r x (i + 1) + 3 ^ (k - (i + 1)) * m := by rw [e2, tc_radd]
  unfold tc_d
  rw [h1, h2]
  omega
theorem tc_rz (i : Nat) : tc_r 0 i = 0 := by
  induction i with
  | zero => rfl
  | succ i ih =>
    rw [tc_rs, ih]
    rfl
theorem tc_dz (i : Nat) : tc_d 0 i = 0 := by
  unfold tc_d
  rw [tc_rz, tc_rz]
  rfl
/-- nine trits hold what lies between -9841 and 9841 -/
theorem tc_r9 {x : Int} (h : -9841 ≤ x) (h' : x ≤ 9841) : tc_r x 9 = 0 := by
  have h0 := tc_r0 x
  have h1 : tc_r x 1 = (tc_r x 0 + 1) / 3 := rfl
  have b1 : -3280 ≤ tc_r x 1 ∧ tc_r x 1 ≤ 3280 := by omega
  have h2 : tc_r x 2 = (tc_r x 1 + 1) / 3 := rfl
  have b2 : -1093 ≤ tc_r x 2 ∧ tc_r x 2 ≤ 1093 := by omega
  have h3 : tc_r x 3 = (tc_r x 2 + 1) / 3 := rfl
  have b3 : -364 ≤ tc_r x 3 ∧ tc_r x 3 ≤ 364 := by omega
  have h4 : tc_r x 4 = (tc_r x 3 + 1) / 3 := rfl
  have b4 : -121 ≤ tc_r x 4 ∧ tc_r x 4 ≤ 121 := by omega
  have h5 : tc_r x 5 = (tc_r x 4 + 1) / 3 := rfl
  have b5 : -40 ≤ tc_r x 5 ∧ tc_r x 5 ≤ 40 := by omega
  have h6 : tc_r x 6 = (tc_r x 5 + 1) / 3 := rfl
  have b6 : -13 ≤ tc_r x 6 ∧ tc_r x 6 ≤ 13 := by omega
  have h7 : tc_r x 7 = (tc_r x 6 + 1) / 3 := rfl
  have b7 : -4 ≤ tc_r x 7 ∧ tc_r x 7 ≤ 4 := by omega
  have h8 : tc_r x 8 = (tc_r x 7 + 1) / 3 := rfl
  have b8 : -1 ≤ tc_r x 8 ∧ tc_r x 8 ≤ 1 := by omega
  have h9 : tc_r x 9 = (tc_r x 8 + 1) / 3 := rfl
  omega
theorem tc_r6 {x : Int} (h : -364 ≤ x) (h' : x ≤ 364) : tc_r x 6 = 0 := by
  have h0 := tc_r0 x
  have h1 : tc_r x 1 = (tc_r x 0 + 1) / 3 := rfl
  have b1 : -121 ≤ tc_r x 1 ∧ tc_r x 1 ≤ 121 := by omega
  have h2 : tc_r x 2 = (tc_r x 1 + 1) / 3 := rfl
  have b2 : -40 ≤ tc_r x 2 ∧ tc_r x 2 ≤ 40 := by omega
  have h3 : tc_r x 3 = (tc_r x 2 + 1) / 3 := rfl
  have b3 : -13 ≤ tc_r x 3 ∧ tc_r x 3 ≤ 13 := by omega
  have h4 : tc_r x 4 = (tc_r x 3 + 1) / 3 := rfl
  have b4 : -4 ≤ tc_r x 4 ∧ tc_r x 4 ≤ 4 := by omega
  have h5 : tc_r x 5 = (tc_r x 4 + 1) / 3 := rfl
  have b5 : -1 ≤ tc_r x 5 ∧ tc_r x 5 ≤ 1 := by omega
  have h6 : tc_r x 6 = (tc_r x 5 + 1) / 3 := rfl
  omega
/-- of a number with nothing left at k, every trit from k on is 0 -/
theorem tc_dhi {x : Int} {k i : Nat} (h : tc_r x k = 0) (hi : k ≤ i) : tc_d x i = 0 := by
  have e : i = k + (i - k) := by omega
  rw [e, ← tc_dd, h, tc_dz]
/-- what is left is no further from 0 -/
theorem tc_rb {x B : Int} (hB : 1 ≤ B) (h : -B ≤ x) (h' : x ≤ B) (i : Nat) : -B ≤ tc_r x i ∧ tc_r x i ≤ B := by
  induction i with
  | zero => exact ⟨h, h'⟩
  | succ i ih =>
    rw [tc_rs]
    omega
/-- a word's operation and cell -/
theorem tc_op {o m : Int} (h : 0 ≤ m) (h' : m ≤ 728) : tc_r (729 * o + m - 364) 6 = o := by
  have e : 729 * o + m - 364 = (m - 364) + 3 ^ 6 * o := by
    rw [show (3 : Int) ^ 6 = 729 by decide]
    omega
  rw [e, tc_radd, tc_r6 (by omega) (by omega)]
  omega
/-- the number that nine trits keep -/
def tc_b (z : Int) : Int := (z + 9841) % 19683 - 9841
theorem tc_bl (z : Int) : -9841 ≤ tc_b z := by
  unfold tc_b
  omega
theorem tc_bu (z : Int) : tc_b z ≤ 9841 := by
  unfold tc_b
  omega
theorem tc_b9 (z : Int) : tc_r (tc_b z) 9 = 0 := tc_r9 (tc_bl z) (tc_bu z)
theorem tc_bq (z : Int) : ∃ m : Int, tc_b z = z + 3 ^ 9 * m := by
  refine ⟨-((z + 9841) / 19683), ?_⟩
  rw [show (3 : Int) ^ 9 = 19683 by decide]
  unfold tc_b
  omega
theorem tc_bd (z : Int) {i : Nat} (h : i < 9) : tc_d (tc_b z) i = tc_d z i := by
  obtain ⟨m, e⟩ := tc_bq z
  rw [e, tc_dadd z m h]
/-- one step of a sum -/
theorem tc_sum {x y c k : Int} {i : Nat} (hc : c = -1 ∨ c = 0 ∨ c = 1) (h : tc_r (x + y) i = tc_r x i + tc_r y i + c)
    (hk : (tc_d x i + tc_d y i + c ≤ 1 ∧ -1 ≤ tc_d x i + tc_d y i + c ∧ k = 0) ∨ (tc_d x i + tc_d y i + c < -1 ∧ k = -1) ∨ (1 < tc_d x i + tc_d y i + c ∧ k = 1)) :
    tc_d (x + y) i = tc_d x i + tc_d y i + c - 3 * k ∧ tc_r (x + y) (i + 1) = tc_r x (i + 1) + tc_r y (i + 1) + k := by
  have hx := tc_d3 x i
  have hy := tc_d3 y i
  have ex := tc_dr x i
  have ey := tc_dr y i
  have e := tc_dr (x + y) i
  have hs := tc_rs (x + y) i
  omega
end
section
/-! words by their bits; tw_ext to tw_shr began as rows of the kit's laws for bits -/
def tw_b (w : Int32) (j : Nat) : Bool := w.toBitVec.getLsbD j
theorem tw_ext {x y : Int32} (h : ∀ j, j < 32 → (tw_b x j = true ↔ tw_b y j = true)) : x = y :=
  Int32.toBitVec_inj.mp (BitVec.eq_of_getLsbD_eq (fun i hi => Bool.eq_iff_iff.mpr (h i hi)))
theorem tw_or (x y : Int32) (j : Nat) : tw_b (x ||| y) j = true ↔ (tw_b x j = true ∨ tw_b y j = true) := by
  unfold tw_b
  rw [Int32.toBitVec_or, BitVec.getLsbD_or, Bool.or_eq_true]
theorem tw_and (x y : Int32) (j : Nat) : tw_b (x &&& y) j = true ↔ (tw_b x j = true ∧ tw_b y j = true) := by
  unfold tw_b
  rw [Int32.toBitVec_and, BitVec.getLsbD_and, Bool.and_eq_true]
theorem tw_big {x : Int32} {j : Nat} (h : 32 ≤ j) : ¬ tw_b x j = true := by
  unfold tw_b
  rw [BitVec.getLsbD_of_ge _ _ h]
  exact Bool.false_ne_true
theorem tw_0 (j : Nat) : ¬ tw_b 0 j = true := by
  unfold tw_b
  have e : (0 : Int32).toBitVec = 0#32 := rfl
  rw [e, BitVec.getLsbD_zero]
  exact Bool.false_ne_true
theorem tw_511 : ∀ j, j < 32 → (tw_b 511 j = true ↔ j < 9) := by decide +kernel
theorem tw_255 : ∀ j, j < 32 → (tw_b 255 j = true ↔ j < 8) := by decide +kernel
theorem tw_63 : ∀ j, j < 32 → (tw_b 63 j = true ↔ j < 6) := by decide +kernel
theorem tw_1 : ∀ j, j < 32 → (tw_b 1 j = true ↔ j < 1) := by decide +kernel
theorem tw_m {m : Int32} (k : Nat) (hm : ∀ j, j < 32 → (tw_b m j = true ↔ j < k)) (x : Int32) (j : Nat) : tw_b (x &&& m) j = true ↔ (j < k ∧ tw_b x j = true) := by
  rw [tw_and]
  rcases Nat.lt_or_ge j 32 with h | h
  · rw [hm j h]
    exact And.comm
  · exact ⟨fun z => absurd z.1 (tw_big h), fun z => absurd z.2 (tw_big h)⟩
theorem tw_s : ∀ n, n < 32 → ((nI n &&& 31).toBitVec.smod 32).toNat = n := by decide +kernel
theorem tw_shl (s : Int32) (n : Nat) (hs : s = nI n) (hn : n < 32) (x : Int32) {j : Nat} (hj : j < 32) : tw_b (x <<< (s &&& 31)) j = true ↔ (n ≤ j ∧ tw_b x (j - n) = true) := by
  subst hs
  unfold tw_b
  rw [Int32.toBitVec_shiftLeft]
  show (x.toBitVec <<< ((nI n &&& 31).toBitVec.smod 32).toNat).getLsbD j = true ↔ _
  rw [tw_s n hn, BitVec.getLsbD_shiftLeft]
  rcases Nat.lt_or_ge j n with h | h
  · simp [h, Nat.not_le.mpr h]
  · simp [hj, h, Nat.not_lt.mpr h]
theorem tw_shr (s : Int32) (n : Nat) (hs : s = nI n) (hn : n < 32) (x : Int32) (hx : ¬ tw_b x 31 = true) {j : Nat} (hj : j < 32) : tw_b (x >>> (s &&& 31)) j = true ↔ tw_b x (n + j) = true := by
  subst hs
  have e : tw_b (x >>> (nI n &&& 31)) j = if n + j < 32 then tw_b x (n + j) else tw_b x 31 := by
    unfold tw_b
    rw [Int32.toBitVec_shiftRight]
    show (x.toBitVec.sshiftRight ((nI n &&& 31).toBitVec.smod 32).toNat).getLsbD j = _
    rw [tw_s n hn, BitVec.getLsbD_sshiftRight, BitVec.msb_eq_getLsbD_last]
    simp [hj]
  rw [e]
  rcases Nat.lt_or_ge (n + j) 32 with h | h
  · rw [if_pos h]
  · rw [if_neg (by omega)]
    exact ⟨fun z => absurd z hx, fun z => absurd z (tw_big h)⟩
theorem tw_one (s : Int32) (n : Nat) (hs : s = nI n) (hn : n < 32) {j : Nat} (hj : j < 32) : tw_b ((1 : Int32) <<< (s &&& 31)) j = true ↔ j = n := by
  rw [tw_shl s n hs hn _ hj, tw_1 _ (by omega)]
  omega
/-- one bit of a word whose highest bit is 0 -/
theorem tw_bit (s : Int32) (n : Nat) (hs : s = nI n) (hn : n < 32) (x : Int32) (hx : ¬ tw_b x 31 = true) : (x >>> (s &&& 31)) &&& 1 = if tw_b x n = true then 1 else 0 := by
  by_cases h : tw_b x n = true
  · rw [if_pos h]
    apply tw_ext
    intro j hj
    rw [tw_m 1 tw_1, tw_shr s n hs hn x hx hj, tw_1 j hj]
    constructor
    · exact fun z => z.1
    · intro z
      refine ⟨z, ?_⟩
      rw [show n + j = n by omega]
      exact h
  · rw [if_neg h]
    apply tw_ext
    intro j hj
    rw [tw_m 1 tw_1, tw_shr s n hs hn x hx hj]
    constructor
    · intro z
      have e : n + j = n := by omega
      rw [e] at z
      exact absurd z.2 h
    · intro z
      exact absurd z (tw_0 j)
/-- a trit put into a word at place i -/
def tc_t (w : Int32) (i : Nat) (t : Int) : Int32 :=
  if t = 1 then w ||| ((1 : Int32) <<< (nI i &&& 31)) else if t = -1 then w ||| ((1 : Int32) <<< ((9 + nI i) &&& 31)) else w
/-- the word of the k lowest trits of x -/
def tc_k (x : Int) : Nat → Int32
  | 0 => 0
  | k + 1 => tc_t (tc_k x k) k (tc_d x k)
/-- the word of x -/
def tc_w (x : Int) : Int32 := tc_k x 9
theorem tc_ks (x : Int) (k : Nat) : tc_k x (k + 1) = tc_t (tc_k x k) k (tc_d x k) := rfl
theorem tc_kb (x : Int) : ∀ k, k ≤ 9 → ∀ j, j < 32 → (tw_b (tc_k x k) j = true ↔ ((j < k ∧ tc_d x j = 1) ∨ (9 ≤ j ∧ j < 9 + k ∧ tc_d x (j - 9) = -1))) := by
  intro k
  induction k with
  | zero =>
    intro _ j _
    constructor
    · exact fun z => absurd z (tw_0 j)
    · intro z
      omega
  | succ k ih =>
    intro hk j hj
    have ih' := ih (by omega) j hj
    rw [tc_ks]
    unfold tc_t
    rcases tc_d3 x k with e | e | e
    · rw [if_neg (by omega), if_pos e, tw_or, ih', tw_one (9 + nI k) (9 + k) (nI_add 9 k) (by omega) hj]
      clear ih ih'
      by_cases h1 : j = 9 + k
      · subst h1
        rw [show 9 + k - 9 = k by omega]
        omega
      · by_cases h2 : j = k
        · subst h2
          omega
        · omega
    · rw [if_neg (by omega), if_neg (by omega), ih']
      clear ih ih'
      by_cases h1 : j = 9 + k
      · subst h1
        rw [show 9 + k - 9 = k by omega]
        omega
      · by_cases h2 : j = k
        · subst h2
          omega
        · omega
    · rw [if_pos e, tw_or, ih', tw_one (nI k) k rfl (by omega) hj]
      clear ih ih'
      by_cases h1 : j = 9 + k
      · subst h1
        rw [show 9 + k - 9 = k by omega]
        omega
      · by_cases h2 : j = k
        · subst h2
          omega
        · omega
theorem tc_wb (x : Int) (j : Nat) : tw_b (tc_w x) j = true ↔ ((j < 9 ∧ tc_d x j = 1) ∨ (9 ≤ j ∧ j < 18 ∧ tc_d x (j - 9) = -1)) := by
  rcases Nat.lt_or_ge j 32 with h | h
  · exact tc_kb x 9 (by omega) j h
  · constructor
    · exact fun z => absurd z (tw_big h)
    · intro z
      omega
theorem tc_w31 (x : Int) : ¬ tw_b (tc_w x) 31 = true := by
  rw [tc_wb]
  omega
theorem tc_wx {x y : Int} (h : ∀ i, i < 9 → tc_d x i = tc_d y i) : tc_w x = tc_w y := by
  have e : ∀ k, k ≤ 9 → tc_k x k = tc_k y k := by
    intro k
    induction k with
    | zero => exact fun _ => rfl
    | succ k ih =>
      intro hk
      rw [tc_ks, tc_ks, ih (by omega), h k (by omega)]
  exact e 9 (by omega)
theorem tc_wm (z : Int) : tc_w (tc_b z) = tc_w z := tc_wx (fun _ h => tc_bd z h)
theorem tc_trit (x : Int) {i : Nat} (hi : i < 9) : ((tc_w x >>> (nI i &&& 31)) &&& 1) - ((tc_w x >>> ((9 + nI i) &&& 31)) &&& 1) = Int32.ofInt (tc_d x i) := by
  rw [tw_bit (nI i) i rfl (by omega) _ (tc_w31 x), tw_bit (9 + nI i) (9 + i) (nI_add 9 i) (by omega) _ (tc_w31 x)]
  have h1 : tw_b (tc_w x) i = true ↔ tc_d x i = 1 := by
    rw [tc_wb]
    omega
  have h2 : tw_b (tc_w x) (9 + i) = true ↔ tc_d x i = -1 := by
    rw [tc_wb, show 9 + i - 9 = i by omega]
    omega
  rcases tc_d3 x i with e | e | e
  · rw [if_neg (fun z => by rw [h1] at z; omega), if_pos (h2.mpr e), e]
    rfl
  · rw [if_neg (fun z => by rw [h1] at z; omega), if_neg (fun z => by rw [h2] at z; omega), e]
    rfl
  · rw [if_pos (h1.mpr e), if_neg (fun z => by rw [h2] at z; omega), e]
    rfl
theorem tc_neg (x : Int) : ((tc_w x &&& 511) <<< ((9 : Int32) &&& 31)) ||| (tc_w x >>> ((9 : Int32) &&& 31)) = tc_w (-x) := by
  apply tw_ext
  intro j hj
  rw [tw_or, tw_shl 9 9 rfl (by omega) _ hj, tw_m 9 tw_511, tw_shr 9 9 rfl (by omega) _ (tc_w31 x) hj, tc_wb, tc_wb, tc_wb, tc_dneg, tc_dneg, show 9 + j - 9 = j by omega]
  omega
theorem tc_up (x : Int) : ((tc_w x &&& 255) <<< ((1 : Int32) &&& 31)) ||| (((tc_w x >>> ((9 : Int32) &&& 31)) &&& 255) <<< ((10 : Int32) &&& 31)) = tc_w (3 * x) := by
  apply tw_ext
  intro j hj
  have a1 : 1 ≤ j → tc_d (3 * x) j = tc_d x (j - 1) := by
    intro h
    have e : j = (j - 1) + 1 := by omega
    rw [e, tc_dup, ← e]
  have a0 : j = 0 → tc_d (3 * x) j = 0 := by
    intro h
    rw [h, tc_dup0]
  have b1 : 10 ≤ j → tc_d (3 * x) (j - 9) = tc_d x (j - 10) := by
    intro h
    have e : j - 9 = (j - 10) + 1 := by omega
    rw [e, tc_dup]
  have b0 : j ≤ 9 → tc_d (3 * x) (j - 9) = 0 := by
    intro h
    have e : j - 9 = 0 := by omega
    rw [e, tc_dup0]
  rw [tw_or, tw_shl 1 1 rfl (by omega) _ hj, tw_m 8 tw_255, tw_shl 10 10 rfl (by omega) _ hj, tw_m 8 tw_255, tw_shr 9 9 rfl (by omega) _ (tc_w31 x) (show j - 10 < 32 by omega), tc_wb, tc_wb, tc_wb, show 9 + (j - 10) - 9 = j - 10 by omega]
  omega
theorem tc_511 (x : Int) : ¬ tw_b (tc_w x &&& 511) 31 = true := by
  rw [tw_m 9 tw_511]
  omega
/-- the trits from k on, moved down -/
theorem tc_dn (s s' : Int32) (k : Nat) (hs : s = nI k) (hs' : s' = nI (9 + k)) (hk : k ≤ 9) {x : Int} (hx : tc_r x 9 = 0) :
    ((tc_w x &&& 511) >>> (s &&& 31)) ||| ((tc_w x >>> (s' &&& 31)) <<< ((9 : Int32) &&& 31)) = tc_w (tc_r x k) := by
  apply tw_ext
  intro j hj
  have a : 9 ≤ k + j → tc_d x (k + j) = 0 := fun h => tc_dhi hx h
  have b : 9 ≤ k + (j - 9) → tc_d x (k + (j - 9)) = 0 := fun h => tc_dhi hx h
  rw [tw_or, tw_shr s k hs (by omega) _ (tc_511 x) hj, tw_m 9 tw_511, tw_shl 9 9 rfl (by omega) _ hj, tw_shr s' (9 + k) hs' (by omega) _ (tc_w31 x) (show j - 9 < 32 by omega), tc_wb, tc_wb, tc_wb, tc_dd, tc_dd, show 9 + k + (j - 9) - 9 = k + (j - 9) by omega]
  omega
/-- the six lowest trits -/
theorem tc_lo (x : Int) : (tc_w x &&& 63) ||| (((tc_w x >>> ((9 : Int32) &&& 31)) &&& 63) <<< ((9 : Int32) &&& 31)) = tc_w (x - 729 * tc_r x 6) := by
  have e : x - 729 * tc_r x 6 = x + 3 ^ 6 * (-(tc_r x 6)) := by
    rw [show (3 : Int) ^ 6 = 729 by decide]
    omega
  have z6 : tc_r (x - 729 * tc_r x 6) 6 = 0 := by
    rw [e, tc_radd]
    omega
  apply tw_ext
  intro j hj
  have a1 : j < 6 → tc_d (x - 729 * tc_r x 6) j = tc_d x j := by
    intro h
    rw [e, tc_dadd _ _ h]
  have a0 : 6 ≤ j → tc_d (x - 729 * tc_r x 6) j = 0 := fun h => tc_dhi z6 h
  have b1 : j - 9 < 6 → tc_d (x - 729 * tc_r x 6) (j - 9) = tc_d x (j - 9) := by
    intro h
    rw [e, tc_dadd _ _ h]
  have b0 : 6 ≤ j - 9 → tc_d (x - 729 * tc_r x 6) (j - 9) = 0 := fun h => tc_dhi z6 h
  clear e z6
  rw [tw_or, tw_m 6 tw_63, tw_shl 9 9 rfl (by omega) _ hj, tw_m 6 tw_63, tw_shr 9 9 rfl (by omega) _ (tc_w31 x) (show j - 9 < 32 by omega), tc_wb, tc_wb, tc_wb, show 9 + (j - 9) - 9 = j - 9 by omega]
  omega
end
section
/-! Int32 and Int64 as integers -/
theorem ti_nI (n : Nat) : nI n = Int32.ofInt (n : Int) := Int32.ofInt_eq_ofNat.symm
theorem ti_le {a b : Int} (ha : -2147483648 ≤ a) (ha' : a < 2147483648) (hb : -2147483648 ≤ b) (hb' : b < 2147483648) : Int32.ofInt a ≤ Int32.ofInt b ↔ a ≤ b := by
  rw [Int32.le_iff_toInt_le, Int32.toInt_ofInt_of_le ha ha', Int32.toInt_ofInt_of_le hb hb']
theorem ti_lt {a b : Int} (ha : -2147483648 ≤ a) (ha' : a < 2147483648) (hb : -2147483648 ≤ b) (hb' : b < 2147483648) : Int32.ofInt a < Int32.ofInt b ↔ a < b := by
  rw [Int32.lt_iff_toInt_lt, Int32.toInt_ofInt_of_le ha ha', Int32.toInt_ofInt_of_le hb hb']
theorem ti_eq {a b : Int} (ha : -2147483648 ≤ a) (ha' : a < 2147483648) (hb : -2147483648 ≤ b) (hb' : b < 2147483648) : Int32.ofInt a = Int32.ofInt b ↔ a = b := by
  rw [← Int32.toInt_inj, Int32.toInt_ofInt_of_le ha ha', Int32.toInt_ofInt_of_le hb hb']
theorem ti_l {a : Int} (ha : -2147483648 ≤ a) (ha' : a < 2147483648) : (Int32.ofInt a).toInt64 = Int64.ofInt a := by
  apply Int64.toInt.inj
  rw [Int32.toInt_toInt64, Int32.toInt_ofInt_of_le ha ha', Int64.toInt_ofInt_of_le (by omega) (by omega)]
theorem ti_i (x : Int32) : x.toInt64 = Int64.ofInt x.toInt := (Int64.ofInt_int32ToInt x).symm
theorem ti_tdiv (r d : Int) : (0 ≤ r ∧ r.tdiv d = r / d) ∨ (r < 0 ∧ r.tdiv d = -((-r) / d)) := by
  rcases (show r < 0 ∨ 0 ≤ r by omega) with h | h
  · right
    refine ⟨h, ?_⟩
    rw [← Int.tdiv_eq_ediv_of_nonneg (show 0 ≤ -r by omega), Int.neg_tdiv, Int.neg_neg]
  · left
    exact ⟨h, Int.tdiv_eq_ediv_of_nonneg h⟩
/-- division of longs by a positive number -/
theorem ti_div {r d : Int} {D : Int64} (hD : D = Int64.ofInt d) (hd : 2 ≤ d) (hd' : d < 2147483648) (h : -1099511627776 ≤ r) (h' : r ≤ 1099511627776) : Int64.ofInt r / D = Int64.ofInt (r.tdiv d) := by
  subst hD
  have e : (Int64.ofInt d).toInt = d := Int64.toInt_ofInt_of_le (by omega) (by omega)
  have b : -1099511627776 ≤ r.tdiv d ∧ r.tdiv d ≤ 1099511627776 := by
    rcases ti_tdiv r d with ⟨a, z⟩ | ⟨a, z⟩
    · rw [z]
      have b1 := Int.ediv_nonneg a (show 0 ≤ d by omega)
      have b2 := Int.ediv_le_self d a
      omega
    · rw [z]
      have b1 := Int.ediv_nonneg (show 0 ≤ -r by omega) (show 0 ≤ d by omega)
      have b2 := Int.ediv_le_self d (show 0 ≤ -r by omega)
      omega
  apply Int64.toInt.inj
  rw [Int64.toInt_div_of_ne_right, e, Int64.toInt_ofInt_of_le (by omega) (by omega), Int64.toInt_ofInt_of_le (by omega) (by omega)]
  intro z
  have z' := congrArg Int64.toInt z
  rw [e, show (-1 : Int64).toInt = -1 from rfl] at z'
  omega
theorem ti_rem {r d : Int} {D : Int64} (hD : D = Int64.ofInt d) (hd : 2 ≤ d) (hd' : d < 2147483648) (h : -1099511627776 ≤ r) (h' : r ≤ 1099511627776) : Int64.ofInt r - Int64.ofInt r / D * D = Int64.ofInt (r - r.tdiv d * d) := by
  rw [ti_div hD hd hd' h h', hD, ← Int64.ofInt_mul, ← Int64.ofInt_sub]
/-- the same for ints -/
theorem ti_div3 {r : Int} (h : -1000000000 ≤ r) (h' : r ≤ 1000000000) : Int32.ofInt r / 3 = Int32.ofInt (r.tdiv 3) := by
  have b : -1000000000 ≤ r.tdiv 3 ∧ r.tdiv 3 ≤ 1000000000 := by
    rcases ti_tdiv r 3 with ⟨a, z⟩ | ⟨a, z⟩
    · rw [z]
      omega
    · rw [z]
      omega
  apply Int32.toInt.inj
  rw [Int32.toInt_div_of_ne_right _ _ (by decide), show (3 : Int32).toInt = 3 from rfl, Int32.toInt_ofInt_of_le (by omega) (by omega), Int32.toInt_ofInt_of_le (by omega) (by omega)]
theorem ti_rem3 {r : Int} (h : -1000000000 ≤ r) (h' : r ≤ 1000000000) : Int32.ofInt r - Int32.ofInt r / 3 * 3 = Int32.ofInt (r - r.tdiv 3 * 3) := by
  rw [ti_div3 h h', show (3 : Int32) = Int32.ofInt 3 from rfl, ← Int32.ofInt_mul, ← Int32.ofInt_sub]
/-- the digit that wordOf takes off, ahead of its two corrections -/
theorem ti_dig (r : Int) :
    (r - r.tdiv 3 * 3 = 2 ∧ r - 3 * ((r + 1) / 3) = -1) ∨ (r - r.tdiv 3 * 3 = -2 ∧ r - 3 * ((r + 1) / 3) = 1) ∨
    (r - r.tdiv 3 * 3 = -1 ∧ r - 3 * ((r + 1) / 3) = -1) ∨ (r - r.tdiv 3 * 3 = 0 ∧ r - 3 * ((r + 1) / 3) = 0) ∨ (r - r.tdiv 3 * 3 = 1 ∧ r - 3 * ((r + 1) / 3) = 1) := by
  rcases ti_tdiv r 3 with ⟨a, z⟩ | ⟨a, z⟩
  · rw [z]
    omega
  · rw [z]
    omega
theorem ti_rest (r : Int) : (3 * ((r + 1) / 3)).tdiv 3 = (r + 1) / 3 := by
  rw [Int.mul_tdiv_cancel_left _ (by decide)]
/-- the law's own two functions -/
theorem tc_wrap {post : Int32 → Prop} {u : St0} {z : Int} (h : -1000000000000 ≤ z) (h' : z ≤ 1000000000000) (hp : post (Int32.ofInt (tc_b z))) : wpL_wrap post u (Int64.ofInt z) := by
  have e0 : Int64.ofInt z + 9841 = Int64.ofInt (z + 9841) := by
    rw [Int64.ofInt_add]
    rfl
  have e1 : (Int64.ofInt z + 9841) - (Int64.ofInt z + 9841) / 19683 * 19683 = Int64.ofInt ((z + 9841) - (z + 9841).tdiv 19683 * 19683) := by
    rw [e0]
    exact ti_rem rfl (by omega) (by omega) (by omega) (by omega)
  have bb : -19683 < (z + 9841) - (z + 9841).tdiv 19683 * 19683 ∧ (z + 9841) - (z + 9841).tdiv 19683 * 19683 < 19683 ∧ (0 ≤ (z + 9841) - (z + 9841).tdiv 19683 * 19683 → tc_b z = (z + 9841) - (z + 9841).tdiv 19683 * 19683 - 9841) ∧ (¬ 0 ≤ (z + 9841) - (z + 9841).tdiv 19683 * 19683 → tc_b z = (z + 9841) - (z + 9841).tdiv 19683 * 19683 + 19683 - 9841) := by
    unfold tc_b
    rcases ti_tdiv (z + 9841) 19683 with ⟨a, q⟩ | ⟨a, q⟩
    · rw [q]
      omega
    · rw [q]
      omega
  refine ⟨by decide, nm_r e1 ?_⟩
  generalize (z + 9841) - (z + 9841).tdiv 19683 * 19683 = t at bb
  obtain ⟨b1, b2, b3, b4⟩ := bb
  have c : (0 : Int64) ≤ Int64.ofInt t ↔ 0 ≤ t := by
    rw [Int64.le_iff_toInt_le, Int64.toInt_ofInt_of_le (by omega) (by omega)]
    rfl
  by_cases g : 0 ≤ t
  · refine br_t (c.mpr g) ?_
    have e : (Int64.ofInt t).toInt32 - 9841 = Int32.ofInt (tc_b z) := by
      rw [b3 g, Int64.toInt32_ofInt, Int32.ofInt_sub]
      rfl
    rw [e]
    exact hp
  · refine br_f (fun q => g (c.mp q)) ?_
    have e : (Int64.ofInt t + 19683).toInt32 - 9841 = Int32.ofInt (tc_b z) := by
      rw [b4 g, show Int64.ofInt t + 19683 = Int64.ofInt (t + 19683) by rw [Int64.ofInt_add]; rfl, Int64.toInt32_ofInt, Int32.ofInt_sub]
      rfl
    rw [e]
    exact hp
theorem tc_down {post : Int32 → Prop} {u : St0} {z : Int} (h : -1000000 ≤ z) (h' : z ≤ 1000000) (hp : post (Int32.ofInt (tc_r z 1))) : wpL_down post u (Int32.ofInt z) := by
  have e1 := ti_rem3 (show -1000000000 ≤ z by omega) (by omega)
  have e2 := ti_div3 (show -1000000000 ≤ z by omega) (by omega)
  have er : tc_r z 1 = (z + 1) / 3 := rfl
  rw [er] at hp
  refine ⟨by decide, nm_r e1 ?_⟩
  rcases ti_dig z with ⟨a, b⟩ | ⟨a, b⟩ | ⟨a, b⟩ | ⟨a, b⟩ | ⟨a, b⟩
  · rw [a]
    refine br_t rfl ⟨by decide, ?_⟩
    rw [e2, show Int32.ofInt (z.tdiv 3) + 1 = Int32.ofInt (z.tdiv 3 + 1) by rw [Int32.ofInt_add]; rfl, show z.tdiv 3 + 1 = (z + 1) / 3 by omega]
    exact hp
  · rw [a]
    refine br_f (by decide) (br_t rfl ⟨by decide, ?_⟩)
    rw [e2, show Int32.ofInt (z.tdiv 3) - 1 = Int32.ofInt (z.tdiv 3 - 1) by rw [Int32.ofInt_sub]; rfl, show z.tdiv 3 - 1 = (z + 1) / 3 by omega]
    exact hp
  · rw [a]
    refine br_f (by decide) (br_f (by decide) ⟨by decide, ?_⟩)
    rw [e2, show z.tdiv 3 = (z + 1) / 3 by omega]
    exact hp
  · rw [a]
    refine br_f (by decide) (br_f (by decide) ⟨by decide, ?_⟩)
    rw [e2, show z.tdiv 3 = (z + 1) / 3 by omega]
    exact hp
  · rw [a]
    refine br_f (by decide) (br_f (by decide) ⟨by decide, ?_⟩)
    rw [e2, show z.tdiv 3 = (z + 1) / 3 by omega]
    exact hp
end
section
/-! the methods on words: whatever the state, the word that comes out -/
section
variable {le co so ce pe oc ac pl ru pc : Int32} {a1 a2 a3 a4 a5 a6 a7 a8 a9 a10 a11 a12 a13 : Nat → Int32}
theorem tm_isVariable {post : Int32 → Prop} {v : Nat} (hv : v ≤ 5) (hp : post 1) : wpX_isVariable post (le, co, so, ce, pe, oc, ac, pl, ru, pc, a1, a2, a3, a4, a5, a6, a7, a8, a9, a10, a11, a12, a13) (nI v) :=
  pk_lt v 0 (fun z => absurd z (by omega)) (fun _ => pk_lt 5 v (fun z => absurd z (by omega)) (fun _ => hp))
theorem tm_withTrit {post : Int32 → Prop} {w : Int32} {i : Nat} {t : Int} (ht : t = -1 ∨ t = 0 ∨ t = 1) (hp : post (tc_t w i t)) : wpX_withTrit post (le, co, so, ce, pe, oc, ac, pl, ru, pc, a1, a2, a3, a4, a5, a6, a7, a8, a9, a10, a11, a12, a13) w (nI i) (Int32.ofInt t) := by
  rcases ht with rfl | rfl | rfl
  · exact br_f (by decide) (br_t rfl hp)
  · exact br_f (by decide) (br_f (by decide) hp)
  · exact br_t rfl hp
theorem tm_word42 {post : Int32 → Prop} {J : Int64 → Int32 → Int32 → Prop} {w : Int32} {i : Nat} {r t : Int} (ht : t = -1 ∨ t = 0 ∨ t = 1) (hr : r - 3 * ((r + 1) / 3) = t) (hb : -1000000000000 ≤ r) (hb' : r ≤ 1000000000000)
    (hp : J (Int64.ofInt ((r + 1) / 3)) (tc_t w i t) (nI (i + 1))) : wX_wordOf_42 post J (Int64.ofInt r) w (nI i) (Int32.ofInt t) le co so ce pe oc ac pl ru pc a1 a2 a3 a4 a5 a6 a7 a8 a9 a10 a11 a12 a13 := by
  have e : (Int64.ofInt r - (Int32.ofInt t).toInt64) / 3 = Int64.ofInt ((r + 1) / 3) := by
    rw [ti_l (by omega) (by omega), ← Int64.ofInt_sub, show r - t = 3 * ((r + 1) / 3) by omega, ti_div (D := 3) (d := 3) (r := 3 * ((r + 1) / 3)) rfl (by omega) (by omega) (by omega) (by omega), ti_rest]
  unfold wX_wordOf_42
  exact tm_withTrit ht ⟨by decide, nm_r e (nm_r (nI_1 i) hp)⟩
theorem tm_wordOf {post : Int32 → Prop} {z : Int} (h : -1000000000000 ≤ z) (h' : z ≤ 1000000000000) (hp : post (tc_w z)) : wpX_wordOf post (le, co, so, ce, pe, oc, ac, pl, ru, pc, a1, a2, a3, a4, a5, a6, a7, a8, a9, a10, a11, a12, a13) (Int64.ofInt z) := by
  unfold wpX_wordOf
  refine pk_loop (fun n i (s : Int64 × Int32) => wX_wordOf_8 post le co so ce pe oc ac pl ru pc a1 a2 a3 a4 a5 a6 a7 a8 a9 a10 a11 a12 a13 n s.1 s.2 (nI i)) (fun i s => s = (Int64.ofInt (tc_r z i), tc_k z i)) 9 0 (Int64.ofInt z, 0) (by omega) rfl ?_ ?_
  · intro n s hs
    subst hs
    exact pk_le 9 9 (fun _ => hp) (fun q => absurd q (by omega))
  · intro n i s hi hs hw
    subst hs
    have hb := tc_rb (show (1 : Int) ≤ 1000000000000 by omega) h h' i
    have hw' := hw (Int64.ofInt (tc_r z (i + 1)), tc_k z (i + 1)) rfl
    refine pk_le 9 i (fun q => absurd q (by omega)) (fun _ => ⟨by decide, ?_⟩)
    have e : (Int64.ofInt (tc_r z i) - Int64.ofInt (tc_r z i) / 3 * 3).toInt32 = Int32.ofInt (tc_r z i - (tc_r z i).tdiv 3 * 3) := by
      rw [ti_rem (D := 3) (d := 3) (r := tc_r z i) rfl (by omega) (by omega) (by omega) (by omega), Int64.toInt32_ofInt]
    refine nm_r e ?_
    have hd : tc_r z i - 3 * ((tc_r z i + 1) / 3) = tc_d z i := rfl
    have h3 := tc_d3 z i
    have hk : wX_wordOf_42 post (wX_wordOf_8 post le co so ce pe oc ac pl ru pc a1 a2 a3 a4 a5 a6 a7 a8 a9 a10 a11 a12 a13 n) (Int64.ofInt (tc_r z i)) (tc_k z i) (nI i) (Int32.ofInt (tc_d z i)) le co so ce pe oc ac pl ru pc a1 a2 a3 a4 a5 a6 a7 a8 a9 a10 a11 a12 a13 := tm_word42 h3 hd hb.1 hb.2 hw'
    rcases ti_dig (tc_r z i) with ⟨a, b⟩ | ⟨a, b⟩ | ⟨a, b⟩ | ⟨a, b⟩ | ⟨a, b⟩
    · rw [← hd, b] at hk
      rw [a]
      exact br_t rfl (br_f (by decide) hk)
    · rw [← hd, b] at hk
      rw [a]
      exact br_f (by decide) (br_t rfl hk)
    · rw [← hd, b] at hk
      rw [a]
      exact br_f (by decide) (br_f (by decide) hk)
    · rw [← hd, b] at hk
      rw [a]
      exact br_f (by decide) (br_f (by decide) hk)
    · rw [← hd, b] at hk
      rw [a]
      exact br_f (by decide) (br_f (by decide) hk)
theorem tm_tritOf {post : Int32 → Prop} {x : Int} {i : Nat} (hi : i < 9) (hp : post (Int32.ofInt (tc_d x i))) : wpX_tritOf post (le, co, so, ce, pe, oc, ac, pl, ru, pc, a1, a2, a3, a4, a5, a6, a7, a8, a9, a10, a11, a12, a13) (tc_w x) (nI i) := by
  unfold wpX_tritOf
  dsimp only
  rw [tc_trit x hi]
  exact hp
theorem tm_valueOf {post : Int32 → Prop} {x : Int} (hx : tc_r x 9 = 0) (hp : post (Int32.ofInt x)) : wpX_valueOf post (le, co, so, ce, pe, oc, ac, pl, ru, pc, a1, a2, a3, a4, a5, a6, a7, a8, a9, a10, a11, a12, a13) (tc_w x) := by
  unfold wpX_valueOf
  refine ⟨10, pk_loopD (fun n i (s : Int32) => wX_valueOf_5 post (tc_w x) le co so ce pe oc ac pl ru pc a1 a2 a3 a4 a5 a6 a7 a8 a9 a10 a11 a12 a13 n s (nI i + (-1))) (fun i s => i ≤ 9 ∧ s = Int32.ofInt (tc_r x i)) ?_ ?_ 9 0 ⟨by omega, by rw [hx]; rfl⟩⟩
  · intro n s hs
    obtain ⟨_, rfl⟩ := hs
    exact br_t (by decide) hp
  · intro n i s hs hw
    obtain ⟨hi, rfl⟩ := hs
    have hw' := hw _ ⟨by omega, rfl⟩
    rw [pk_m1]
    refine br_f (nI_pos (by omega)) (tm_tritOf (by omega) (nm_r ?_ (nm_e hw')))
    rw [tc_dr x i, Int.add_comm, Int32.ofInt_add, Int32.ofInt_mul]
    rfl
theorem tm_negated {post : Int32 → Prop} {x : Int} (hp : post (tc_w (-x))) : wpX_negated post (le, co, so, ce, pe, oc, ac, pl, ru, pc, a1, a2, a3, a4, a5, a6, a7, a8, a9, a10, a11, a12, a13) (tc_w x) := by
  unfold wpX_negated
  dsimp only
  rw [tc_neg]
  exact hp
theorem tm_shiftedUp {post : Int32 → Prop} {x : Int} (hp : post (tc_w (3 * x))) : wpX_shiftedUp post (le, co, so, ce, pe, oc, ac, pl, ru, pc, a1, a2, a3, a4, a5, a6, a7, a8, a9, a10, a11, a12, a13) (tc_w x) := by
  unfold wpX_shiftedUp
  dsimp only
  rw [tc_up]
  exact hp
theorem tm_shiftedDown {post : Int32 → Prop} {x : Int} (hx : tc_r x 9 = 0) (hp : post (tc_w (tc_r x 1))) : wpX_shiftedDown post (le, co, so, ce, pe, oc, ac, pl, ru, pc, a1, a2, a3, a4, a5, a6, a7, a8, a9, a10, a11, a12, a13) (tc_w x) := by
  unfold wpX_shiftedDown
  dsimp only
  rw [tc_dn 1 10 1 rfl rfl (by omega) hx]
  exact hp
theorem tm_sum56 {post : Int32 → Prop} {J : Int32 → Int32 → Int32 → Prop} {x1 x2 w : Int32} {i : Nat} {t k : Int} (ht : t - 3 * k = -1 ∨ t - 3 * k = 0 ∨ t - 3 * k = 1) {K : Int32} (hK : K = Int32.ofInt k)
    (hp : J (tc_t w i (t - 3 * k)) (Int32.ofInt k) (nI (i + 1))) : wX_sum_56 post J x1 x2 w (nI i) (Int32.ofInt t) K le co so ce pe oc ac pl ru pc a1 a2 a3 a4 a5 a6 a7 a8 a9 a10 a11 a12 a13 := by
  subst hK
  have e : Int32.ofInt t - (3 * Int32.ofInt k) = Int32.ofInt (t - 3 * k) := by
    rw [Int32.ofInt_sub, Int32.ofInt_mul]
    rfl
  unfold wX_sum_56
  rw [e]
  exact tm_withTrit ht (nm_r (nI_1 i) hp)
theorem tm_sum {post : Int32 → Prop} {x y : Int} (hp : post (tc_w (x + y))) : wpX_sum post (le, co, so, ce, pe, oc, ac, pl, ru, pc, a1, a2, a3, a4, a5, a6, a7, a8, a9, a10, a11, a12, a13) (tc_w x) (tc_w y) := by
  unfold wpX_sum
  refine pk_loop (fun n i (s : Int32 × Int32) => wX_sum_8 post (tc_w x) (tc_w y) le co so ce pe oc ac pl ru pc a1 a2 a3 a4 a5 a6 a7 a8 a9 a10 a11 a12 a13 n s.1 s.2 (nI i)) (fun i s => ∃ c : Int, (c = -1 ∨ c = 0 ∨ c = 1) ∧ s = (tc_k (x + y) i, Int32.ofInt c) ∧ tc_r (x + y) i = tc_r x i + tc_r y i + c) 9 0 (0, 0) (by omega) ⟨0, by omega, rfl, by rw [tc_r0, tc_r0, tc_r0]; omega⟩ ?_ ?_
  · intro n s hs
    obtain ⟨c, _, rfl, _⟩ := hs
    exact pk_le 9 9 (fun _ => hp) (fun q => absurd q (by omega))
  · intro n i s hi hs hw
    obtain ⟨c, hc, rfl, hr⟩ := hs
    refine pk_le 9 i (fun q => absurd q (by omega)) (fun _ => tm_tritOf hi (tm_tritOf hi (nm_r (e' := Int32.ofInt (tc_d x i + tc_d y i + c)) ?_ ?_)))
    · rw [Int32.ofInt_add, Int32.ofInt_add]
    · have hx := tc_d3 x i
      have hy := tc_d3 y i
      have l1 : Int32.ofInt (tc_d x i + tc_d y i + c) ≤ 1 ↔ tc_d x i + tc_d y i + c ≤ 1 := ti_le (b := 1) (by omega) (by omega) (by omega) (by omega)
      have l2 : (-1 : Int32) ≤ Int32.ofInt (tc_d x i + tc_d y i + c) ↔ -1 ≤ tc_d x i + tc_d y i + c := by
        rw [show (-1 : Int32) = Int32.ofInt (-1) from rfl]
        exact ti_le (by omega) (by omega) (by omega) (by omega)
      have go : ∀ (k : Int), ((tc_d x i + tc_d y i + c ≤ 1 ∧ -1 ≤ tc_d x i + tc_d y i + c ∧ k = 0) ∨ (tc_d x i + tc_d y i + c < -1 ∧ k = -1) ∨ (1 < tc_d x i + tc_d y i + c ∧ k = 1)) → ∀ K : Int32, K = Int32.ofInt k →
          wX_sum_56 post (wX_sum_8 post (tc_w x) (tc_w y) le co so ce pe oc ac pl ru pc a1 a2 a3 a4 a5 a6 a7 a8 a9 a10 a11 a12 a13 n) (tc_w x) (tc_w y) (tc_k (x + y) i) (nI i) (Int32.ofInt (tc_d x i + tc_d y i + c)) K le co so ce pe oc ac pl ru pc a1 a2 a3 a4 a5 a6 a7 a8 a9 a10 a11 a12 a13 := by
        intro k hk K hK
        obtain ⟨s1, s2⟩ := tc_sum hc hr hk
        have hd := tc_d3 (x + y) i
        rw [s1] at hd
        have hw' := hw (tc_k (x + y) (i + 1), Int32.ofInt k) ⟨k, by omega, rfl, s2⟩
        rw [tc_ks, s1] at hw'
        exact tm_sum56 hd hK hw'
      by_cases g1 : tc_d x i + tc_d y i + c ≤ 1
      · refine br_t (l1.mpr g1) ?_
        by_cases g2 : -1 ≤ tc_d x i + tc_d y i + c
        · exact br_t (l2.mpr g2) (go 0 (by omega) 0 rfl)
        · exact br_f (fun q => g2 (l2.mp q)) (go (-1) (by omega) (-1) rfl)
      · exact br_f (fun q => g1 (l1.mp q)) (go 1 (by omega) 1 rfl)
theorem tm_prod60 {post : Int32 → Prop} {J : Int32 → Int32 → Int32 → Prop} {x2 w : Int32} {q : Int} {i : Nat} (hp : J w (tc_w (3 * q)) (nI (i + 1))) : wX_product_60 post J x2 w (tc_w q) (nI i) le co so ce pe oc ac pl ru pc a1 a2 a3 a4 a5 a6 a7 a8 a9 a10 a11 a12 a13 := by
  unfold wX_product_60
  exact tm_shiftedUp (nm_r (nI_1 i) hp)
theorem tm_product {post : Int32 → Prop} {x y : Int} (hy : tc_r y 9 = 0) (hp : post (tc_w (x * y))) : wpX_product post (le, co, so, ce, pe, oc, ac, pl, ru, pc, a1, a2, a3, a4, a5, a6, a7, a8, a9, a10, a11, a12, a13) (tc_w x) (tc_w y) := by
  unfold wpX_product
  refine pk_loop (fun n i (s : Int32 × Int32) => wX_product_8 post (tc_w y) le co so ce pe oc ac pl ru pc a1 a2 a3 a4 a5 a6 a7 a8 a9 a10 a11 a12 a13 n s.1 s.2 (nI i)) (fun i s => ∃ p q : Int, s = (tc_w p, tc_w q) ∧ p + q * tc_r y i = x * y) 9 0 (0, tc_w x) (by omega) ⟨0, x, by rw [show tc_w 0 = 0 by decide +kernel], by rw [tc_r0]; omega⟩ ?_ ?_
  · intro n s hs
    obtain ⟨p, q, rfl, hr⟩ := hs
    rw [hy, Int.mul_zero, Int.add_zero] at hr
    rw [← hr] at hp
    exact pk_le 9 9 (fun _ => hp) (fun z => absurd z (by omega))
  · intro n i s hi hs hw
    obtain ⟨p, q, rfl, hr⟩ := hs
    have hd := tc_dr y i
    refine pk_le 9 i (fun z => absurd z (by omega)) (fun _ => tm_tritOf hi ?_)
    have go : ∀ p' : Int, p' = p + q * tc_d y i → wX_product_60 post (wX_product_8 post (tc_w y) le co so ce pe oc ac pl ru pc a1 a2 a3 a4 a5 a6 a7 a8 a9 a10 a11 a12 a13 n) (tc_w y) (tc_w p') (tc_w q) (nI i) le co so ce pe oc ac pl ru pc a1 a2 a3 a4 a5 a6 a7 a8 a9 a10 a11 a12 a13 := by
      intro p' e
      refine tm_prod60 (hw (tc_w p', tc_w (3 * q)) ⟨p', 3 * q, rfl, ?_⟩)
      rw [e, ← hr, hd, Int.mul_add, Int.add_assoc, show 3 * q * tc_r y (i + 1) = q * (3 * tc_r y (i + 1)) by rw [Int.mul_comm 3 q, Int.mul_assoc]]
    rcases tc_d3 y i with e | e | e
    · rw [e] at go ⊢
      refine br_f (by decide) ?_
      unfold wX_product_38
      exact tm_negated (br_t rfl (tm_sum (go (p + -q) (by omega))))
    · rw [e] at go ⊢
      refine br_f (by decide) ?_
      unfold wX_product_38
      exact tm_negated (br_f (by decide) (go p (by omega)))
    · rw [e] at go ⊢
      refine br_t rfl (tm_sum ?_)
      unfold wX_product_38
      exact tm_negated (br_f (by decide) (go (p + q) (by omega)))
end
end
section
/-! the methods that change the object's state, ahead of the run -/
/-- a word of code: an operation and a cell -/
def tc_c (o m : Nat) : Int32 := tc_w (729 * (o : Int) + (m : Int) - 364)
theorem tc_byte : ∀ k, k < 100 → (nI k).toInt8.toInt32 = nI k := by decide +kernel
/-- the operation and the cell that a statement of the kind k writes -/
def tc_oo (k : Nat) : Nat := if k = 4 then 7 else if k = 5 then 8 else k + 2
def tc_om (k d : Nat) : Nat := if k = 4 then 364 else if k = 5 then 364 else 500 + d
section
variable {le co so ce pe oc ac pl ru pc : Int32} {a1 a2 a3 a4 a5 a6 a7 a8 a9 a10 a11 a12 a13 : Nat → Int32}
theorem tm_write {post : St2 → Prop} {c : Nat} (o m : Nat) {O M : Int32} (hO : O = nI o) (hM : M = nI m) (ho : o ≤ 12) (hm : m ≤ 728) (hc : c < 729)
    (hp : post (le, co, so, nI (c + 1), pe, oc, ac, pl, ru, pc, a1, a2, a3, a4, a5, a6, a7, a8, a9, a10, a11, upd a12 c (tc_c o m), a13)) : wpX_write post (le, co, so, nI c, pe, oc, ac, pl, ru, pc, a1, a2, a3, a4, a5, a6, a7, a8, a9, a10, a11, a12, a13) O M := by
  have e : ((729 * O.toInt64) + M.toInt64) - 364 = Int64.ofInt (729 * (o : Int) + (m : Int) - 364) := by
    subst hO hM
    rw [ti_nI o, ti_nI m, ti_l (by omega) (by omega), ti_l (by omega) (by omega), Int64.ofInt_sub, Int64.ofInt_add, Int64.ofInt_mul]
    rfl
  unfold wpX_write
  dsimp only
  rw [e]
  exact tm_wordOf (by omega) (by omega) ⟨pk_in c 729 hc, nm_r (e' := upd a12 c (tc_c o m)) (by rw [nI_clamp (by omega)]; rfl) (nm_r (nI_1 c) hp)⟩
theorem tm_put {post : Int32 → St2 → Prop} {v : Nat} {x : Int32} (hv : v ≤ 5) (hp : post 1 (le, co, so, ce, pe, oc, ac, pl, ru, pc, a1, a2, a3, a4, a5, a6, a7, a8, a9, a10, a11, upd a12 (500 + v) (tc_w x.toInt), a13)) : wpX_put post (le, co, so, ce, pe, oc, ac, pl, ru, pc, a1, a2, a3, a4, a5, a6, a7, a8, a9, a10, a11, a12, a13) (nI v) x := by
  have h1 := Int32.toInt_lt x
  have h2 := Int32.le_toInt x
  unfold wpX_put
  dsimp only
  refine tm_isVariable hv (br_f (by decide) ?_)
  rw [ti_i]
  refine tm_wordOf (by omega) (by omega) ⟨pk_in (500 + v) 729 (by omega) (nI_add 500 v), nm_r ?_ hp⟩
  rw [pk_cl (x := 500 + nI v) (500 + v) (nI_add 500 v)]
theorem tm_add109 {post : Int32 → St2 → Prop} {n k a b c : Nat} (hn : n < 40) (hk : 1 ≤ k) (hk' : k ≤ 12) (ha : a ≤ 5) (hb : b ≤ 5) (hc : c ≤ 5)
    (hp : post (nI (n + 1)) (nI (n + 1), 0, so, ce, pe, oc, ac, pl, ru, pc, upd a1 n (nI k), upd a2 n (nI a), upd a3 n (nI b), upd a4 n (nI c), a5, a6, a7, a8, a9, a10, a11, a12, a13)) :
    wX_add_109 post (nI k) (nI a) (nI b) (nI c) (nI n) co so ce pe oc ac pl ru pc a1 a2 a3 a4 a5 a6 a7 a8 a9 a10 a11 a12 a13 := by
  unfold wX_add_109
  refine ⟨pk_in n 40 hn, nm_r (e' := upd a1 n (nI k)) (by rw [nI_clamp (by omega), tc_byte k (by omega)]) (pk_eq k 0 (fun z => absurd z (by omega)) (fun _ => ?_))⟩
  unfold wX_add_137
  refine ⟨pk_in n 40 hn, nm_r (e' := upd a2 n (nI a)) (by rw [nI_clamp (by omega)]) (pk_eq k 0 (fun z => absurd z (by omega)) (fun _ => ?_))⟩
  unfold wX_add_155
  exact ⟨pk_in n 40 hn, nm_r (e' := upd a3 n (nI b)) (by rw [nI_clamp (by omega), tc_byte b (by omega)]) ⟨pk_in n 40 hn, nm_r (e' := upd a4 n (nI c)) (by rw [nI_clamp (by omega), tc_byte c (by omega)]) (nm_r (nI_1 n) hp)⟩⟩
theorem tm_add {post : Int32 → St2 → Prop} {n k a b c : Nat} (hn : n < 40) (hk : 1 ≤ k) (hk' : k ≤ 12) (ha : a ≤ 5) (hb : b ≤ 5) (hc : c ≤ 5)
    (hp : post (nI (n + 1)) (nI (n + 1), 0, so, ce, pe, oc, ac, pl, ru, pc, upd a1 n (nI k), upd a2 n (nI a), upd a3 n (nI b), upd a4 n (nI c), a5, a6, a7, a8, a9, a10, a11, a12, a13)) :
    wpX_add post (nI n, co, so, ce, pe, oc, ac, pl, ru, pc, a1, a2, a3, a4, a5, a6, a7, a8, a9, a10, a11, a12, a13) (nI k) (nI a) (nI b) (nI c) := by
  have H109 := tm_add109 (ce := ce) (so := so) (co := co) (pe := pe) (oc := oc) (ac := ac) (pl := pl) (ru := ru) (pc := pc) hn hk hk' ha hb hc hp
  have H96 : wX_add_96 post (nI k) (nI a) (nI b) (nI c) (nI n) co so ce pe oc ac pl ru pc a1 a2 a3 a4 a5 a6 a7 a8 a9 a10 a11 a12 a13 := by
    unfold wX_add_96
    exact tm_isVariable hc (br_f (by decide) H109)
  have H90 : wX_add_90 post (nI k) (nI a) (nI b) (nI c) (nI n) co so ce pe oc ac pl ru pc a1 a2 a3 a4 a5 a6 a7 a8 a9 a10 a11 a12 a13 := by
    unfold wX_add_90
    exact pk_eq k 6 (fun _ => H96) (fun _ => H109)
  have H80 : wX_add_80 post (nI k) (nI a) (nI b) (nI c) (nI n) co so ce pe oc ac pl ru pc a1 a2 a3 a4 a5 a6 a7 a8 a9 a10 a11 a12 a13 := by
    unfold wX_add_80
    exact pk_lt k 1 (fun z => absurd z (by omega)) (fun _ => pk_le k 3 (fun _ => H96) (fun _ => H90))
  have H57 : wX_add_57 post (nI k) (nI a) (nI b) (nI c) (nI n) co so ce pe oc ac pl ru pc a1 a2 a3 a4 a5 a6 a7 a8 a9 a10 a11 a12 a13 := by
    unfold wX_add_57
    exact pk_lt k 1 (fun z => absurd z (by omega)) (fun _ => pk_lt 6 k (fun _ => H80) (fun _ => tm_isVariable hb (br_f (by decide) H80)))
  unfold wpX_add
  dsimp only
  exact pk_lt n 40 (fun _ => pk_lt k 0 (fun z => absurd z (by omega)) (fun _ => pk_le k 12 (fun _ => pk_eq k 8 (fun _ => H57) (fun _ => pk_eq k 9 (fun _ => H57) (fun _ => pk_eq k 11 (fun _ => H57) (fun _ => tm_isVariable ha (br_f (by decide) H57))))) (fun z => absurd z (by omega)))) (fun z => absurd z (by omega))
theorem tm_fit1 {post : Int32 → St2 → Prop} {n i k : Nat} (hi : i < 2) (hk : k < 7 ∨ k = 12) (e : a1 i = nI k)
    (hw : wX_blocksFit_4 post (nI 2) co so ce pe oc ac pl ru pc n 0 (nI (i + 1)) a1 a2 a3 a4 a5 a6 a7 a8 a9 a10 a11 a12 a13) : wX_blocksFit_4 post (nI 2) co so ce pe oc ac pl ru pc (n + 1) 0 (nI i) a1 a2 a3 a4 a5 a6 a7 a8 a9 a10 a11 a12 a13 :=
  pk_le 2 i (fun z => absurd z (by omega)) (fun _ => ⟨pk_in i 40 (by omega), nm_r (by rw [nI_clamp (by omega), e]) (pk_eq k 7 (fun z => absurd z (by omega)) (fun _ => pk_eq k 10 (fun z => absurd z (by omega)) (fun _ => pk_eq k 8 (fun z => absurd z (by omega)) (fun _ => pk_eq k 9 (fun z => absurd z (by omega)) (fun _ => pk_eq k 11 (fun z => absurd z (by omega)) (fun _ => nm_r (nI_1 i) hw))))))⟩)
theorem tm_fit {post : Int32 → St2 → Prop} {k : Nat} (hk : k < 7) (e0 : a1 0 = nI k) (e1 : a1 1 = nI 12) (hp : post 1 (nI 2, co, so, ce, pe, oc, ac, pl, ru, pc, a1, a2, a3, a4, a5, a6, a7, a8, a9, a10, a11, a12, a13)) : wpX_blocksFit post (nI 2, co, so, ce, pe, oc, ac, pl, ru, pc, a1, a2, a3, a4, a5, a6, a7, a8, a9, a10, a11, a12, a13) := by
  unfold wpX_blocksFit
  dsimp only
  exact ⟨3, tm_fit1 (i := 0) (by omega) (Or.inl hk) e0 (tm_fit1 (i := 1) (by omega) (Or.inr rfl) e1 (pk_le 2 2 (fun _ => br_t rfl hp) (fun z => absurd z (by omega))))⟩
theorem tm_ar111 {post : St2 → Prop} {c i t : Nat} (hc : c < 729) (hi : i < 40) (ht : t ≤ 5) (e : a2 i = nI t) (hp : post (le, co, so, nI (c + 1), pe, oc, ac, pl, ru, pc, a1, a2, a3, a4, a5, a6, a7, a8, a9, a10, a11, upd a12 c (tc_c 2 (500 + t)), a13)) : wX_compileArithmetic_111 post (nI i) le co so (nI c) pe oc ac pl ru pc a1 a2 a3 a4 a5 a6 a7 a8 a9 a10 a11 a12 a13 := by
  unfold wX_compileArithmetic_111
  refine ⟨pk_in i 40 hi, tm_write 2 (500 + t) rfl ?_ (by omega) (by omega) hc hp⟩
  rw [nI_clamp (by omega), e]
  exact nI_add 500 t
theorem tm_arith {post : St2 → Prop} {c i k t b d : Nat} (hc : c < 700) (hi : i < 40) (hk : 1 ≤ k) (hk' : k ≤ 5) (ht : t ≤ 5) (hb : b ≤ 5) (hd : d ≤ 5)
    (e1 : a1 i = nI k) (e2 : a2 i = nI t) (e3 : a3 i = nI b) (e4 : a4 i = nI d)
    (hp : post (le, co, so, nI (c + 1 + 1 + 1), pe, oc, ac, pl, ru, pc, a1, a2, a3, a4, a5, a6, a7, a8, a9, a10, a11, upd (upd (upd a12 c (tc_c 1 (500 + b))) (c + 1) (tc_c (tc_oo k) (tc_om k d))) (c + 1 + 1) (tc_c 2 (500 + t)), a13)) : wpX_compileArithmetic post (le, co, so, nI c, pe, oc, ac, pl, ru, pc, a1, a2, a3, a4, a5, a6, a7, a8, a9, a10, a11, a12, a13) (nI i) := by
  unfold wpX_compileArithmetic
  dsimp only
  refine ⟨pk_in i 40 hi, nm_r (e' := nI k) (by rw [nI_clamp (by omega), e1]) ⟨pk_in i 40 hi, nm_r (e' := nI (500 + d)) (by rw [nI_clamp (by omega), e4]; exact nI_add 500 d) ⟨pk_in i 40 hi, tm_write 1 (500 + b) rfl (by rw [nI_clamp (by omega), e3]; exact nI_add 500 b) (by omega) (by omega) (by omega) ?_⟩⟩⟩
  dsimp only
  rcases (show k = 1 ∨ k = 2 ∨ k = 3 ∨ k = 4 ∨ k = 5 by omega) with q | q | q | q | q
  · subst q
    exact br_f (by decide) (br_f (by decide) (br_t rfl (tm_write 3 (500 + d) rfl rfl (by omega) (by omega) (by omega) (tm_ar111 (by omega) hi ht e2 hp))))
  · subst q
    exact br_f (by decide) (br_f (by decide) (br_f (by decide) (br_t rfl (tm_write 4 (500 + d) rfl rfl (by omega) (by omega) (by omega) (tm_ar111 (by omega) hi ht e2 hp)))))
  · subst q
    refine br_f (by decide) (br_f (by decide) (br_f (by decide) (br_f (by decide) (br_t rfl ?_))))
    unfold wX_compileArithmetic_107
    exact tm_write 5 (500 + d) rfl rfl (by omega) (by omega) (by omega) (tm_ar111 (by omega) hi ht e2 hp)
  · subst q
    exact br_t rfl (tm_write 7 364 rfl rfl (by omega) (by omega) (by omega) (tm_ar111 (by omega) hi ht e2 hp))
  · subst q
    exact br_f (by decide) (br_t rfl (tm_write 8 364 rfl rfl (by omega) (by omega) (by omega) (tm_ar111 (by omega) hi ht e2 hp)))
theorem tm_stArith {post : St2 → Prop} {c i k t b d : Nat} (hc : c < 700) (hi : i < 40) (hk : 1 ≤ k) (hk' : k ≤ 5) (ht : t ≤ 5) (hb : b ≤ 5) (hd : d ≤ 5)
    (e1 : a1 i = nI k) (e2 : a2 i = nI t) (e3 : a3 i = nI b) (e4 : a4 i = nI d)
    (hp : post (le, co, so, nI (c + 1 + 1 + 1), pe, oc, ac, pl, ru, pc, a1, a2, a3, a4, a5, a6, a7, a8, a9, a10, a11, upd (upd (upd a12 c (tc_c 1 (500 + b))) (c + 1) (tc_c (tc_oo k) (tc_om k d))) (c + 1 + 1) (tc_c 2 (500 + t)), a13)) : wpX_compileStatement post (le, co, so, nI c, pe, oc, ac, pl, ru, pc, a1, a2, a3, a4, a5, a6, a7, a8, a9, a10, a11, a12, a13) (nI i) := by
  unfold wpX_compileStatement
  dsimp only
  exact ⟨pk_in i 40 hi, nm_r (e' := nI k) (by rw [nI_clamp (by omega), e1]) (pk_eq k 0 (fun z => absurd z (by omega)) (fun _ => pk_lt 6 k (fun z => absurd z (by omega)) (fun _ => tm_arith hc hi hk hk' ht hb hd e1 e2 e3 e4 hp)))⟩
theorem tm_stPrint {post : St2 → Prop} {c i t : Nat} (hc : c < 700) (hi : i < 40) (ht : t ≤ 5) (e1 : a1 i = nI 12) (e2 : a2 i = nI t)
    (hp : post (le, co, so, nI (c + 1), pe, oc, ac, pl, ru, pc, a1, a2, a3, a4, a5, a6, a7, a8, a9, a10, a11, upd a12 c (tc_c 12 (500 + t)), a13)) : wpX_compileStatement post (le, co, so, nI c, pe, oc, ac, pl, ru, pc, a1, a2, a3, a4, a5, a6, a7, a8, a9, a10, a11, a12, a13) (nI i) := by
  unfold wpX_compileStatement
  dsimp only
  exact ⟨pk_in i 40 hi, nm_r (e' := nI 12) (by rw [nI_clamp (by omega), e1]) (br_f (by decide) (br_t (by decide) (br_f (by decide) (br_f (by decide) (br_f (by decide) (br_f (by decide) (br_f (by decide) ⟨pk_in i 40 hi, tm_write 12 (500 + t) rfl (by rw [nI_clamp (by omega), e2]; exact nI_add 500 t) (by omega) (by omega) (by omega) hp⟩)))))))⟩
/-- the code of the law's program -/
theorem tm_compile {post : St2 → Prop} {k t : Nat} (hk : 1 ≤ k) (hk' : k ≤ 5) (ht : t ≤ 5)
    (e10 : a1 0 = nI k) (e11 : a1 1 = nI 12) (e20 : a2 0 = nI t) (e21 : a2 1 = nI t) (e30 : a3 0 = nI 2) (e40 : a4 0 = nI 4)
    (hp : ∀ m : Nat → Int32, m 0 = tc_c 1 502 → m 1 = tc_c (tc_oo k) (tc_om k 4) → m 2 = tc_c 2 (500 + t) → m 3 = tc_c 12 (500 + t) → m 4 = tc_c 0 364 → (∀ j, 500 ≤ j → j ≤ 505 → m j = a12 j) →
      post (nI 2, 1, 1, nI 5, 510, 0, ac, pl, ru, pc, a1, a2, a3, a4, a5, a6, a7, a8, a9, a10, a11, m, a13)) : wpX_compile post (nI 2, 0, so, ce, pe, oc, ac, pl, ru, pc, a1, a2, a3, a4, a5, a6, a7, a8, a9, a10, a11, a12, a13) := by
  unfold wpX_compile
  dsimp only
  refine br_t rfl (tm_fit (k := k) (by omega) e10 e11 ⟨rfl, rfl, br_f (by decide) ?_⟩)
  rw [show (1 : Int64) = Int64.ofInt 1 from rfl]
  refine tm_wordOf (by omega) (by omega) (nm_e ⟨3, ?_⟩)
  refine pk_le 2 0 (fun z => absurd z (by omega)) (fun _ => tm_stArith (c := 0) (i := 0) (by omega) (by omega) hk hk' ht (b := 2) (by omega) (d := 4) (by omega) e10 e20 e30 e40 (nm_r (e' := nI 1) rfl ?_))
  refine pk_le 2 1 (fun z => absurd z (by omega)) (fun _ => tm_stPrint (c := 3) (i := 1) (by omega) (by omega) ht e11 e21 (nm_r (e' := nI 2) rfl ?_))
  refine pk_le 2 2 (fun _ => tm_write (c := 4) 0 364 rfl rfl (by omega) (by omega) (by omega) ?_) (fun z => absurd z (by omega))
  refine hp _ ?_ ?_ ?_ ?_ ?_ ?_
  · rw [pk_un (by omega), pk_un (by omega), pk_un (by omega), pk_un (by omega), pk_us]
  · rw [pk_un (by omega), pk_un (by omega), pk_un (by omega), pk_us]
  · rw [pk_un (by omega), pk_un (by omega), pk_us]
  · rw [pk_un (by omega), pk_us]
  · rw [pk_us]
  · intro j h1 h2
    rw [pk_un (by omega), pk_un (by omega), pk_un (by omega), pk_un (by omega), pk_un (by omega), pk_un (by omega)]
end
end
section
/-! the machine: one lemma an operation, and the run of the law's program -/
/-- what the third statement's operation makes of the two numbers -/
def tc_res (k : Nat) (x y : Int) : Int := if k = 1 then x + y else if k = 2 then x + -y else if k = 3 then x * y else if k = 4 then 3 * x else tc_r x 1
section
variable {le co so ce pe oc ac pl ru pc : Int32} {a1 a2 a3 a4 a5 a6 a7 a8 a9 a10 a11 a12 a13 : Nat → Int32}
theorem tm_fetch {B : Int32 → Int32 → Int32 → Prop} {c o m : Nat} (hc : c < 729) (ho : o ≤ 12) (hm : m ≤ 728) (hw : a12 c = tc_c o m) (hB : B (nI o) (nI m) (nI (c + 1))) :
    vp_in (nI c) 729 ∧ (∀ x1_2 : Int32, x1_2 = a12 (nI c).toNatClampNeg → wpX_valueOf (fun r_3 => wpX_valueOf (fun r_4 => ∀ x3_5 : Int32, x3_5 = r_4 + 364 → ∀ f_6 : Int32, f_6 = nI c + 1 → B r_3 x3_5 f_6) (le, co, so, ce, pe, oc, ac, nI c, ru, pc, a1, a2, a3, a4, a5, a6, a7, a8, a9, a10, a11, a12, a13)
      ((x1_2 &&& 63) ||| (((x1_2 >>> ((9 : Int32) &&& 31)) &&& 63) <<< ((9 : Int32) &&& 31)))) (le, co, so, ce, pe, oc, ac, nI c, ru, pc, a1, a2, a3, a4, a5, a6, a7, a8, a9, a10, a11, a12, a13) (((x1_2 &&& 511) >>> ((6 : Int32) &&& 31)) ||| ((x1_2 >>> ((15 : Int32) &&& 31)) <<< ((9 : Int32) &&& 31)))) := by
  refine ⟨pk_in c 729 hc, nm_r (e' := tc_w (729 * (o : Int) + (m : Int) - 364)) (by rw [nI_clamp (by omega), hw]; rfl) ?_⟩
  have b9 : tc_r (729 * (o : Int) + (m : Int) - 364) 9 = 0 := tc_r9 (by omega) (by omega)
  have h6 : tc_r (729 * (o : Int) + (m : Int) - 364) 6 = o := tc_op (by omega) (by omega)
  rw [tc_dn 6 15 6 rfl rfl (by omega) b9, tc_lo, h6, show 729 * (o : Int) + (m : Int) - 364 - 729 * (o : Int) = (m : Int) - 364 by omega]
  refine tm_valueOf (tc_r9 (by omega) (by omega)) (tm_valueOf (tc_r9 (by omega) (by omega)) (nm_r (e' := nI m) ?_ (nm_r (nI_1 c) ?_)))
  · have e : Int32.ofInt ((m : Int) - 364) + 364 = Int32.ofInt ((m : Int) - 364 + 364) := by
      rw [Int32.ofInt_add]
      rfl
    rw [e, ti_nI, show (m : Int) - 364 + 364 = m by omega]
  · rw [← ti_nI]
    exact hB
theorem tm_x0 {post : St2 → Prop} {c : Nat} (hc : c < 729) (hw : a12 c = tc_c 0 364) (hp : post (le, co, so, ce, pe, oc, ac, nI (c + 1), 0, pc, a1, a2, a3, a4, a5, a6, a7, a8, a9, a10, a11, a12, a13)) : wpX_execute post (le, co, so, ce, pe, oc, ac, nI c, ru, pc, a1, a2, a3, a4, a5, a6, a7, a8, a9, a10, a11, a12, a13) := by
  unfold wpX_execute
  dsimp only
  refine tm_fetch hc (by omega) (by omega) hw ?_
  exact br_t rfl hp
theorem tm_x1 {post : St2 → Prop} {c m : Nat} {v : Int32} (hc : c < 729) (hm : m ≤ 728) (hw : a12 c = tc_c 1 m) (hv : a12 m = v) (hp : post (le, co, so, ce, pe, oc, v, nI (c + 1), ru, pc, a1, a2, a3, a4, a5, a6, a7, a8, a9, a10, a11, a12, a13)) : wpX_execute post (le, co, so, ce, pe, oc, ac, nI c, ru, pc, a1, a2, a3, a4, a5, a6, a7, a8, a9, a10, a11, a12, a13) := by
  unfold wpX_execute
  dsimp only
  refine tm_fetch hc (by omega) hm hw ?_
  exact br_f (by decide) (br_t rfl ⟨pk_in m 729 (by omega), nm_r (e' := v) (by rw [nI_clamp (by omega), hv]) hp⟩)
theorem tm_x2 {post : St2 → Prop} {c m : Nat} (hc : c < 729) (hm : m ≤ 728) (hw : a12 c = tc_c 2 m) (hp : post (le, co, so, ce, pe, oc, ac, nI (c + 1), ru, pc, a1, a2, a3, a4, a5, a6, a7, a8, a9, a10, a11, upd a12 m ac, a13)) : wpX_execute post (le, co, so, ce, pe, oc, ac, nI c, ru, pc, a1, a2, a3, a4, a5, a6, a7, a8, a9, a10, a11, a12, a13) := by
  unfold wpX_execute
  dsimp only
  refine tm_fetch hc (by omega) hm hw ?_
  exact br_f (by decide) (br_f (by decide) (br_t rfl ⟨pk_in m 729 (by omega), nm_r (e' := upd a12 m ac) (by rw [nI_clamp (by omega)]) hp⟩))
theorem tm_comb {post : Int32 → Prop} {k : Nat} {x y : Int} (hk : 1 ≤ k) (hk' : k ≤ 3) (hy : tc_r y 9 = 0) (hp : post (tc_w (tc_res k x y))) : wpX_combined post (le, co, so, ce, pe, oc, tc_w x, pl, ru, pc, a1, a2, a3, a4, a5, a6, a7, a8, a9, a10, a11, a12, a13) (nI (k + 2)) (tc_w y) := by
  unfold wpX_combined
  dsimp only
  rcases (show k = 1 ∨ k = 2 ∨ k = 3 by omega) with q | q | q
  · subst q
    exact br_t rfl (tm_sum hp)
  · subst q
    exact br_f (by decide) (tm_negated (br_t rfl (tm_sum hp)))
  · subst q
    exact br_f (by decide) (tm_negated (br_f (by decide) (br_t rfl (tm_product hy hp))))
/-- the operation that the law asks for -/
theorem tm_xop {post : St2 → Prop} {c k : Nat} {x y : Int} (hc : c < 729) (hk : 1 ≤ k) (hk' : k ≤ 5) (hw : a12 c = tc_c (tc_oo k) (tc_om k 4)) (hx : tc_r x 9 = 0) (hy : tc_r y 9 = 0) (hm : a12 504 = tc_w y)
    (hp : post (le, co, so, ce, pe, oc, tc_w (tc_res k x y), nI (c + 1), ru, pc, a1, a2, a3, a4, a5, a6, a7, a8, a9, a10, a11, a12, a13)) : wpX_execute post (le, co, so, ce, pe, oc, tc_w x, nI c, ru, pc, a1, a2, a3, a4, a5, a6, a7, a8, a9, a10, a11, a12, a13) := by
  unfold wpX_execute
  dsimp only
  rcases (show k ≤ 3 ∨ k = 4 ∨ k = 5 by omega) with q | q | q
  · have e1 : tc_oo k = k + 2 := by
      unfold tc_oo
      rw [if_neg (by omega), if_neg (by omega)]
    have e2 : tc_om k 4 = 504 := by
      unfold tc_om
      rw [if_neg (by omega), if_neg (by omega)]
    rw [e1, e2] at hw
    refine tm_fetch hc (by omega) (by omega) hw ?_
    refine pk_eq (k + 2) 0 (fun z => absurd z (by omega)) (fun _ => pk_eq (k + 2) 1 (fun z => absurd z (by omega)) (fun _ => pk_eq (k + 2) 2 (fun z => absurd z (by omega)) (fun _ => pk_lt 6 (k + 2) (fun z => absurd z (by omega)) (fun _ => ⟨pk_in 504 729 (by omega), ?_⟩))))
    rw [nI_clamp (by omega), hm]
    exact tm_comb hk q hy hp
  · subst q
    refine tm_fetch (o := 7) (m := 364) hc (by omega) (by omega) hw ?_
    exact br_f (by decide) (br_f (by decide) (br_f (by decide) (br_t (by decide) (br_t rfl (tm_shiftedUp hp)))))
  · subst q
    refine tm_fetch (o := 8) (m := 364) hc (by omega) (by omega) hw ?_
    exact br_f (by decide) (br_f (by decide) (br_f (by decide) (br_t (by decide) (br_f (by decide) (br_t rfl (tm_shiftedDown hx hp))))))
theorem tm_x12 {post : St2 → Prop} {c m n : Nat} {v : Int32} (hc : c < 729) (hm : m ≤ 728) (hn : n < 48) (hw : a12 c = tc_c 12 m) (hv : a12 m = v) (hp : post (le, co, so, ce, pe, oc, ac, nI (c + 1), ru, nI (n + 1), a1, a2, a3, a4, a5, a6, a7, a8, a9, a10, a11, a12, upd a13 n v)) : wpX_execute post (le, co, so, ce, pe, oc, ac, nI c, ru, nI n, a1, a2, a3, a4, a5, a6, a7, a8, a9, a10, a11, a12, a13) := by
  unfold wpX_execute
  dsimp only
  refine tm_fetch hc (by omega) hm hw ?_
  refine br_f (by decide) (br_f (by decide) (br_f (by decide) (br_t (by decide) (br_f (by decide) (br_f (by decide) (br_t rfl ⟨pk_in m 729 (by omega), ?_⟩))))))
  rw [nI_clamp (by omega), hv]
  unfold wpX_print
  dsimp only
  exact pk_le 48 n (fun z => absurd z (by omega)) (fun _ => ⟨pk_in n 48 hn, nm_r (e' := upd a13 n v) (by rw [nI_clamp (by omega)]) (nm_r (nI_1 n) hp)⟩)
theorem tm_run {post : Int32 → St2 → Prop} {k t : Nat} {x y : Int} (hk : 1 ≤ k) (hk' : k ≤ 5) (ht : t ≤ 5)
    (e10 : a1 0 = nI k) (e11 : a1 1 = nI 12) (e20 : a2 0 = nI t) (e21 : a2 1 = nI t) (e30 : a3 0 = nI 2) (e40 : a4 0 = nI 4)
    (hx : tc_r x 9 = 0) (hy : tc_r y 9 = 0) (m2 : a12 502 = tc_w x) (m4 : a12 504 = tc_w y)
    (hp : ∀ (v : Int32) (m p : Nat → Int32), m (500 + t) = tc_w (tc_res k x y) → (t ≠ 4 → m 504 = tc_w y) → p 0 = tc_w (tc_res k x y) →
      post (nI 1) (nI 2, 1, 1, nI 5, 510, 0, v, nI 5, 0, nI 1, a1, a2, a3, a4, a5, a6, a7, a8, a9, a10, a11, m, p)) : wpX_run post (nI 2, 0, so, ce, pe, oc, ac, pl, ru, pc, a1, a2, a3, a4, a5, a6, a7, a8, a9, a10, a11, a12, a13) := by
  unfold wpX_run
  dsimp only
  refine tm_compile hk hk' ht e10 e11 e20 e21 e30 e40 (fun m h0 h1 h2 h3 h4 hv => ?_)
  dsimp only
  refine br_f (by decide) ⟨6, ?_⟩
  refine pk_le 40000 0 (fun z => absurd z (by omega)) (fun _ => br_f (by decide) (tm_x1 (c := 0) (m := 502) (v := tc_w x) (by omega) (by omega) h0 (by rw [hv 502 (by omega) (by omega), m2]) (nm_r (e' := nI 1) rfl ?_)))
  try dsimp only
  refine pk_le 40000 1 (fun z => absurd z (by omega)) (fun _ => br_f (by decide) (tm_xop (c := 1) (by omega) hk hk' h1 hx hy (by rw [hv 504 (by omega) (by omega), m4]) (nm_r (e' := nI 2) rfl ?_)))
  try dsimp only
  refine pk_le 40000 2 (fun z => absurd z (by omega)) (fun _ => br_f (by decide) (tm_x2 (c := 2) (m := 500 + t) (by omega) (by omega) h2 (nm_r (e' := nI 3) rfl ?_)))
  try dsimp only
  refine pk_le 40000 3 (fun z => absurd z (by omega)) (fun _ => br_f (by decide) (tm_x12 (c := 3) (m := 500 + t) (n := 0) (v := tc_w (tc_res k x y)) (by omega) (by omega) (by omega) (by rw [pk_un (by omega), h3]) pk_us (nm_r (e' := nI 4) rfl ?_)))
  try dsimp only
  refine pk_le 40000 4 (fun z => absurd z (by omega)) (fun _ => br_f (by decide) (tm_x0 (c := 4) (by omega) (by rw [pk_un (by omega), h4]) (nm_r (e' := nI 5) rfl ?_)))
  try dsimp only
  refine pk_le 40000 5 (fun z => absurd z (by omega)) (fun _ => br_t rfl (hp _ _ _ pk_us (fun z => ?_) pk_us))
  rw [pk_un (by omega), hv 504 (by omega) (by omega), m4]
end
end
section
/-! the law -/
section
variable {le co so ce pe oc ac pl ru pc : Int32} {a1 a2 a3 a4 a5 a6 a7 a8 a9 a10 a11 a12 a13 : Nat → Int32}
theorem tm_output {post : Int32 → Prop} {D : Int} (h : tc_r D 9 = 0) (e : a13 0 = tc_w D) (hp : post (Int32.ofInt D)) : wpX_output post (le, co, so, ce, pe, oc, ac, pl, ru, nI 1, a1, a2, a3, a4, a5, a6, a7, a8, a9, a10, a11, a12, a13) 0 := by
  unfold wpX_output
  dsimp only
  refine br_f (by decide) (br_f (by decide) (br_t (by decide) ⟨pk_in 0 48 (by omega), ?_⟩))
  rw [pk_cl (x := 0) 0, e]
  exact tm_valueOf h hp
theorem tm_variable {post : Int32 → Prop} {v : Nat} {D : Int} (hv : v ≤ 5) (h : tc_r D 9 = 0) (e : a12 (500 + v) = tc_w D) (hp : post (Int32.ofInt D)) : wpX_variable post (le, co, so, ce, pe, oc, ac, pl, ru, pc, a1, a2, a3, a4, a5, a6, a7, a8, a9, a10, a11, a12, a13) (nI v) := by
  unfold wpX_variable
  dsimp only
  refine tm_isVariable hv (br_f (by decide) ⟨pk_in (500 + v) 729 (by omega) (nI_add 500 v), ?_⟩)
  rw [pk_cl (x := 500 + nI v) (500 + v) (nI_add 500 v), e]
  exact tm_valueOf h hp
theorem tm_trit {post : Int32 → Prop} {v i : Nat} {D : Int} (hv : v ≤ 5) (hi : i < 9) (e : a12 (500 + v) = tc_w D) (hp : post (Int32.ofInt (tc_d D i))) : wpX_trit post (le, co, so, ce, pe, oc, ac, pl, ru, pc, a1, a2, a3, a4, a5, a6, a7, a8, a9, a10, a11, a12, a13) (nI v) (nI i) := by
  unfold wpX_trit
  dsimp only
  refine tm_isVariable hv (br_f (by decide) (pk_lt i 0 (fun z => absurd z (by omega)) (fun _ => pk_le i 8 (fun _ => ⟨pk_in (500 + v) 729 (by omega) (nI_add 500 v), ?_⟩) (fun z => absurd z (by omega)))))
  rw [pk_cl (x := 500 + nI v) (500 + v) (nI_add 500 v), e]
  exact tm_tritOf hi hp
theorem tm_tritB {post : Int32 → Prop} {v : Nat} {P : Int32} (hv : v ≤ 5) (hP : P < 0 ∨ ¬ P ≤ 8) (hp : post (-10000)) : wpX_trit post (le, co, so, ce, pe, oc, ac, pl, ru, pc, a1, a2, a3, a4, a5, a6, a7, a8, a9, a10, a11, a12, a13) (nI v) P := by
  unfold wpX_trit
  dsimp only
  refine tm_isVariable hv (br_f (by decide) (br_c (fun _ => hp) (fun z => br_f ?_ hp)))
  rcases hP with q | q
  · exact absurd q z
  · exact q
theorem tm_237 {post : Int32 → St0 → Prop} {mc ms kc ks t : Nat} {P Z : Int32} {D : Int} (ht : t ≤ 5) (h1 : -9841 ≤ D) (h2 : D ≤ 9841) (e : a12 (500 + t) = tc_w D) (hp : post 1 ()) :
    wL_lawOf_237 post mc ms P (nI t) (Int32.ofInt D) Z Z kc ks le co so ce pe oc ac pl ru pc a1 a2 a3 a4 a5 a6 a7 a8 a9 a10 a11 a12 a13 := by
  unfold wL_lawOf_237
  refine br_t rfl (tm_trit (i := 0) ht (by omega) e (tc_down (by omega) (by omega) (br_t ?_ ?_)))
  · show Int32.ofInt (D - 3 * tc_r D 1) = _
    rw [Int32.ofInt_sub, Int32.ofInt_mul]
    rfl
  · rcases pk_ix P (n := 9) (by omega) with q | q | ⟨j, hj, q⟩
    · refine tm_tritB ht (Or.inl q) (br_t (by decide) ?_)
      unfold wL_lawOf_283
      refine br_t q ?_
      unfold wL_lawOf_299 wL_lawOf_300
      exact br_t rfl hp
    · have q' : 9 ≤ P.toInt := Int32.le_iff_toInt_le.mp q
      have q8 : ¬ P ≤ 8 := by
        intro z
        have z' : P.toInt ≤ 8 := Int32.le_iff_toInt_le.mp z
        omega
      have q0 : ¬ P < 0 := by
        intro z
        have z' : P.toInt < 0 := Int32.lt_iff_toInt_lt.mp z
        omega
      have q9 : 8 < P := Int32.lt_iff_toInt_lt.mpr (show (8 : Int) < P.toInt by omega)
      refine tm_tritB ht (Or.inr q8) (br_t (by decide) ?_)
      unfold wL_lawOf_283
      refine br_f q0 (br_t q9 ?_)
      unfold wL_lawOf_299 wL_lawOf_300
      exact br_t rfl hp
    · subst q
      have h3 := tc_d3 D j
      have g : ¬ Int32.ofInt (tc_d D j) < -1 := by
        rw [show (-1 : Int32) = Int32.ofInt (-1) from rfl, ti_lt (by omega) (by omega) (by omega) (by omega)]
        omega
      refine tm_trit ht hj e (br_f g ?_)
      unfold wL_lawOf_283
      refine pk_lt j 0 (fun z => absurd z (by omega)) (fun _ => pk_lt 8 j (fun z => absurd z (by omega)) (fun _ => ?_))
      unfold wL_lawOf_300
      exact br_t rfl hp
end
theorem tm_113 {post : Int32 → St0 → Prop} {k t : Nat} {p q P : Int32} {D : Int} (hk : 1 ≤ k) (hk' : k ≤ 5) (ht : t ≤ 5) (h1 : -9841 ≤ D) (h2 : D ≤ 9841)
    (hD : tc_w (tc_res k (tc_b p.toInt) (tc_b q.toInt)) = tc_w D) (hp : post 1 ()) :
    wL_lawOf_113 post 14 988 p q P (nI k) (nI t) (Int32.ofInt (tc_b q.toInt)) (Int32.ofInt D) 0 0 := by
  have h9 := tc_r9 h1 h2
  unfold wL_lawOf_113
  refine ⟨by omega, by omega, 13, 965, by omega, by omega, ?_⟩
  unfold wpX_init
  dsimp only
  refine ⟨by omega, by omega, by omega, by omega, by omega, by omega, by omega, by omega, by omega, by omega, by omega, by omega, by omega, by omega, by omega, by omega, by omega, by omega, by omega, by omega, by omega, by omega, by omega, by omega, by omega, by omega, ?_⟩
  refine tm_put (v := 2) (by omega) ?_
  dsimp only
  refine br_f (by decide) (tm_put (v := 4) (by omega) ?_)
  dsimp only
  refine br_f (by decide) (tm_add (n := 0) (b := 2) (c := 4) (by omega) hk (by omega) ht (by omega) (by omega) ?_)
  dsimp only
  refine br_t rfl (tm_add (n := 1) (k := 12) (b := 0) (c := 0) (by omega) (by omega) (by omega) ht (by omega) (by omega) ?_)
  dsimp only
  refine br_t rfl ?_
  refine tm_run (x := tc_b p.toInt) (y := tc_b q.toInt) hk hk' ht ?_ ?_ ?_ ?_ ?_ ?_ (tc_b9 _) (tc_b9 _) ?_ ?_ (fun v m w hm h4 hw => ?_)
  · rw [pk_un (by omega), pk_us]
  · rw [pk_us]
  · rw [pk_un (by omega), pk_us]
  · rw [pk_us]
  · rw [pk_un (by omega), pk_us]
  · rw [pk_un (by omega), pk_us]
  · rw [pk_un (by omega), pk_us, tc_wm]
  · rw [pk_us, tc_wm]
  · rw [hD] at hm hw
    dsimp only
    refine br_t rfl (tm_output h9 hw (br_t rfl (tm_variable ht h9 hm (br_t rfl ?_))))
    by_cases g : t = 4
    · subst g
      exact tm_variable (v := 4) (by omega) h9 hm (br_t rfl (tm_237 ht h1 h2 hm hp))
    · exact tm_variable (v := 4) (by omega) (tc_b9 _) (h4 g) (pk_eq t 4 (fun z => absurd z g) (fun _ => tm_237 ht h1 h2 hm hp))
theorem tc_mulB {a b : Int} (a1 : -9841 ≤ a) (a2 : a ≤ 9841) (b1 : -9841 ≤ b) (b2 : b ≤ 9841) : -100000000 ≤ a * b ∧ a * b ≤ 100000000 := by
  have u1 : 0 ≤ (9841 - a) * (9841 + b) := Int.mul_nonneg (by omega) (by omega)
  have u2 : 0 ≤ (9841 + a) * (9841 - b) := Int.mul_nonneg (by omega) (by omega)
  have u3 : 0 ≤ (9841 - a) * (9841 - b) := Int.mul_nonneg (by omega) (by omega)
  have u4 : 0 ≤ (9841 + a) * (9841 + b) := Int.mul_nonneg (by omega) (by omega)
  rw [Int.sub_mul, Int.mul_add, Int.mul_add] at u1
  rw [Int.add_mul, Int.mul_sub, Int.mul_sub] at u2
  rw [Int.sub_mul, Int.mul_sub, Int.mul_sub] at u3
  rw [Int.add_mul, Int.mul_add, Int.mul_add] at u4
  omega
theorem tm_lawOf {post : Int32 → St0 → Prop} {o p q T P : Int32} (hp : post 1 ()) : wpL_lawOf post 14 988 () o p q T P := by
  obtain ⟨j, hj, ej⟩ := pk_andE o (m := 255) 8 (by decide)
  obtain ⟨s, hs, es⟩ := pk_andE T (m := 255) 8 (by decide)
  have b1 := Int32.toInt_lt p
  have b2 := Int32.le_toInt p
  have b3 := Int32.toInt_lt q
  have b4 := Int32.le_toInt q
  have e5 : 1 + ((o &&& 255) - (o &&& 255) / 5 * 5) = nI (1 + j % 5) := by
    rw [ej, show nI j - nI j / 5 * 5 = nI (j % 5) from pk_rem (d := 5) (by omega) (by omega) (by omega)]
    exact nI_add 1 (j % 5)
  have e6 : (T &&& 255) - (T &&& 255) / 6 * 6 = nI (s % 6) := by
    rw [es]
    exact pk_rem (d := 6) (by omega) (by omega) (by omega)
  unfold wpL_lawOf
  refine ⟨by decide, nm_r e5 ⟨by decide, nm_r e6 ?_⟩⟩
  have hk : 1 ≤ 1 + j % 5 := by omega
  have hk' : 1 + j % 5 ≤ 5 := by omega
  have ht : s % 6 ≤ 5 := by omega
  generalize 1 + j % 5 = k at hk hk'
  generalize s % 6 = t at ht
  clear e5 e6 ej es hj hs
  rw [ti_i p, ti_i q]
  refine tc_wrap (by omega) (by omega) (tc_wrap (by omega) (by omega) ?_)
  have a1 := tc_bl p.toInt
  have a2 := tc_bu p.toInt
  have a3 := tc_bl q.toInt
  have a4 := tc_bu q.toInt
  rcases (show k = 1 ∨ k = 2 ∨ k = 3 ∨ k = 4 ∨ k = 5 by omega) with g | g | g | g | g
  · subst g
    refine br_t rfl ?_
    rw [← Int32.ofInt_add, ti_l (by omega) (by omega)]
    refine tc_wrap (by omega) (by omega) ?_
    unfold wL_lawOf_93
    exact br_f (by decide) (tm_113 hk hk' ht (tc_bl _) (tc_bu _) (tc_wm _).symm hp)
  · subst g
    refine br_f (by decide) (br_t rfl ?_)
    rw [← Int32.ofInt_sub, ti_l (by omega) (by omega)]
    refine tc_wrap (by omega) (by omega) ?_
    unfold wL_lawOf_93
    exact br_f (by decide) (tm_113 hk hk' ht (tc_bl _) (tc_bu _) (tc_wm _).symm hp)
  · subst g
    refine br_f (by decide) (br_f (by decide) (br_f (by decide) (tc_down (by omega) (by omega) ?_)))
    unfold wL_lawOf_93
    refine br_t rfl ?_
    have m1 : -100000000 ≤ tc_b p.toInt * tc_b q.toInt ∧ tc_b p.toInt * tc_b q.toInt ≤ 100000000 := tc_mulB a1 a2 a3 a4
    rw [ti_l (by omega) (by omega), ti_l (by omega) (by omega), ← Int64.ofInt_mul]
    exact tc_wrap (by omega) (by omega) (tm_113 hk hk' ht (tc_bl _) (tc_bu _) (tc_wm _).symm hp)
  · subst g
    refine br_f (by decide) (br_f (by decide) (br_t rfl ?_))
    rw [show (3 : Int32) * Int32.ofInt (tc_b p.toInt) = Int32.ofInt (3 * tc_b p.toInt) by rw [Int32.ofInt_mul]; rfl, ti_l (by omega) (by omega)]
    refine tc_wrap (by omega) (by omega) ?_
    unfold wL_lawOf_93
    exact br_f (by decide) (tm_113 hk hk' ht (tc_bl _) (tc_bu _) (tc_wm _).symm hp)
  · subst g
    refine br_f (by decide) (br_f (by decide) (br_f (by decide) (tc_down (by omega) (by omega) ?_)))
    unfold wL_lawOf_93
    have r1 : tc_r (tc_b p.toInt) 1 = (tc_b p.toInt + 1) / 3 := rfl
    exact br_f (by decide) (tm_113 hk hk' ht (by omega) (by omega) rfl hp)
theorem tm_cell {post : Int32 → Prop} {L : Nat} {xs : Nat → Int32} {u : St0} (i : Nat) (hi : i < 5) (hL : L ≤ 5) (h : ∀ r, post r) : wpL_cellAt post L xs u (nI i) :=
  pk_le L i (fun _ => h 0) (fun z => ⟨pk_in i L z, h _⟩)
theorem i_vc (xs : Nat → Int32) (L : Nat) (hL : L ≤ 5) : wpL_law (fun r => r = 1) L xs :=
  tm_cell 0 (by omega) hL (fun r1 => tm_cell 1 (by omega) hL (fun r2 => tm_cell 2 (by omega) hL (fun r3 => tm_cell 3 (by omega) hL (fun r4 => tm_cell 4 (by omega) hL (fun r5 => ⟨14, 988, by omega, by omega, tm_lawOf rfl⟩)))))
end

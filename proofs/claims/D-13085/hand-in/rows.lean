section
/-! bits of longs and ints; what the law's tests of single bits say -/
/-- bit i of a long -/
def gv_b (x : Int64) (i : Nat) : Bool := x.toBitVec.getLsbD i
/-- bit i of an int -/
def gv_c (x : Int32) (i : Nat) : Bool := x.toBitVec.getLsbD i
/-- a truth value as an int, as a long -/
def gv_I (b : Bool) : Int32 := bif b then 1 else 0
def gv_J (b : Bool) : Int64 := bif b then 1 else 0
theorem gv_I1 {b : Bool} : gv_I b = 1 ↔ b = true := by cases b <;> decide
theorem gv_I0 {b : Bool} : gv_I b = 0 ↔ b = false := by cases b <;> decide
theorem gv_J1 {b : Bool} : gv_J b = 1 ↔ b = true := by cases b <;> decide
theorem gv_J0 {b : Bool} : gv_J b = 0 ↔ b = false := by cases b <;> decide
theorem gv_Inj {a b : Bool} : gv_I a = gv_I b ↔ a = b := by cases a <;> cases b <;> decide
theorem gv_nar (b : Bool) : narrow .boolean (.int (gv_I b)) = .int (gv_I b) := by cases b <;> rfl
theorem gv_vnar (b : Bool) : vp_nar .boolean (gv_I b) = gv_I b := by cases b <;> rfl
theorem gv_bext {x y : Int64} (h : ∀ i, i < 64 → gv_b x i = gv_b y i) : x = y := Int64.toBitVec_inj.mp (BitVec.eq_of_getLsbD_eq (fun i hi => h i hi))
theorem gv_cext {x y : Int32} (h : ∀ i, i < 32 → gv_c x i = gv_c y i) : x = y := Int32.toBitVec_inj.mp (BitVec.eq_of_getLsbD_eq (fun i hi => h i hi))
theorem gv_bor (x y : Int64) (i : Nat) : gv_b (x ||| y) i = (gv_b x i || gv_b y i) := by unfold gv_b; rw [Int64.toBitVec_or, BitVec.getLsbD_or]
theorem gv_band (x y : Int64) (i : Nat) : gv_b (x &&& y) i = (gv_b x i && gv_b y i) := by unfold gv_b; rw [Int64.toBitVec_and, BitVec.getLsbD_and]
theorem gv_bxor (x y : Int64) (i : Nat) : gv_b (x ^^^ y) i = (gv_b x i ^^ gv_b y i) := by unfold gv_b; rw [Int64.toBitVec_xor, BitVec.getLsbD_xor]
theorem gv_cor (x y : Int32) (i : Nat) : gv_c (x ||| y) i = (gv_c x i || gv_c y i) := by unfold gv_c; rw [Int32.toBitVec_or, BitVec.getLsbD_or]
theorem gv_cand (x y : Int32) (i : Nat) : gv_c (x &&& y) i = (gv_c x i && gv_c y i) := by unfold gv_c; rw [Int32.toBitVec_and, BitVec.getLsbD_and]
theorem gv_b_0 (i : Nat) : gv_b 0 i = false := BitVec.getLsbD_zero
theorem gv_c_0 (i : Nat) : gv_c 0 i = false := BitVec.getLsbD_zero
theorem gv_b_1 : ∀ i, i < 64 → gv_b 1 i = decide (i = 0) := by decide +kernel
theorem gv_c_1 : ∀ i, i < 32 → gv_c 1 i = decide (i = 0) := by decide +kernel
theorem gv_b_m1 : ∀ i, i < 64 → gv_b (-1) i = true := by decide +kernel
theorem gv_b_1023 : ∀ i, i < 64 → gv_b 1023 i = decide (i < 10) := by decide +kernel
theorem gv_c_31 : ∀ i, i < 32 → gv_c 31 i = decide (i < 5) := by decide +kernel
theorem gv_cI (y : Int32) : y &&& 1 = gv_I (gv_c y 0) := by
  apply gv_cext
  intro i hi
  rw [gv_cand, gv_c_1 i hi]
  by_cases h : i = 0
  · subst h
    cases gv_c y 0 <;> rfl
  · rw [decide_eq_false h, Bool.and_false]
    cases gv_c y 0
    · exact (gv_c_0 i).symm
    · show false = gv_c 1 i
      rw [gv_c_1 i hi, decide_eq_false h]
theorem gv_bJ (y : Int64) : y &&& 1 = gv_J (gv_b y 0) := by
  apply gv_bext
  intro i hi
  rw [gv_band, gv_b_1 i hi]
  by_cases h : i = 0
  · subst h
    cases gv_b y 0 <;> rfl
  · rw [decide_eq_false h, Bool.and_false]
    cases gv_b y 0
    · exact (gv_b_0 i).symm
    · show false = gv_b 1 i
      rw [gv_b_1 i hi, decide_eq_false h]
theorem gv_sl : ∀ n, n < 32 → ((nI n &&& 31).toBitVec.smod 32).toNat = n := by decide +kernel
theorem gv_sm : ∀ k, k < 64 → (((nI k).toInt64 &&& 63).toBitVec.smod 64).toNat = k := by decide +kernel
theorem gv_bshr (k : Nat) (hk : k < 64) (x : Int64) {i : Nat} (hi : i < 64) : gv_b (x >>> ((nI k).toInt64 &&& 63)) i = if k + i < 64 then gv_b x (k + i) else gv_b x 63 := by
  unfold gv_b
  rw [Int64.toBitVec_shiftRight]
  show (x.toBitVec.sshiftRight (((nI k).toInt64 &&& 63).toBitVec.smod 64).toNat).getLsbD i = _
  rw [gv_sm k hk, BitVec.getLsbD_sshiftRight, BitVec.msb_eq_getLsbD_last]
  simp [hi]
theorem gv_bshl (k : Nat) (hk : k < 64) (x : Int64) {i : Nat} (hi : i < 64) : gv_b (x <<< ((nI k).toInt64 &&& 63)) i = (decide (k ≤ i) && gv_b x (i - k)) := by
  unfold gv_b
  rw [Int64.toBitVec_shiftLeft]
  show (x.toBitVec <<< (((nI k).toInt64 &&& 63).toBitVec.smod 64).toNat).getLsbD i = _
  rw [gv_sm k hk, BitVec.getLsbD_shiftLeft]
  rcases Nat.lt_or_ge i k with h | h
  · simp [h, Nat.not_le.mpr h]
  · simp [hi, h, Nat.not_lt.mpr h]
theorem gv_cshr (n : Nat) (hn : n < 32) (x : Int32) {i : Nat} (hi : i < 32) : gv_c (x >>> (nI n &&& 31)) i = if n + i < 32 then gv_c x (n + i) else gv_c x 31 := by
  unfold gv_c
  rw [Int32.toBitVec_shiftRight]
  show (x.toBitVec.sshiftRight ((nI n &&& 31).toBitVec.smod 32).toNat).getLsbD i = _
  rw [gv_sl n hn, BitVec.getLsbD_sshiftRight, BitVec.msb_eq_getLsbD_last]
  simp [hi]
theorem gv_cshl (n : Nat) (hn : n < 32) (x : Int32) {i : Nat} (hi : i < 32) : gv_c (x <<< (nI n &&& 31)) i = (decide (n ≤ i) && gv_c x (i - n)) := by
  unfold gv_c
  rw [Int32.toBitVec_shiftLeft]
  show (x.toBitVec <<< ((nI n &&& 31).toBitVec.smod 32).toNat).getLsbD i = _
  rw [gv_sl n hn, BitVec.getLsbD_shiftLeft]
  rcases Nat.lt_or_ge i n with h | h
  · simp [h, Nat.not_le.mpr h]
  · simp [hi, h, Nat.not_lt.mpr h]
theorem gv_cnI (a : Nat) {i : Nat} (hi : i < 32) : gv_c (nI a) i = a.testBit i := by
  show (BitVec.ofNat 32 a).getLsbD i = _
  rw [BitVec.getLsbD_ofNat, decide_eq_true hi, Bool.true_and]
theorem gv_ti (y : Int64) {i : Nat} (hi : i < 32) : gv_c y.toInt32 i = gv_b y i := by
  unfold gv_c gv_b
  rw [Int64.toBitVec_toInt32, BitVec.getLsbD_signExtend]
  simp [hi, show i < 64 by omega]
theorem gv_tl (y : Int32) {i : Nat} (hi : i < 64) : gv_b y.toInt64 i = if i < 32 then gv_c y i else gv_c y 31 := by
  unfold gv_c gv_b
  rw [Int32.toBitVec_toInt64, BitVec.getLsbD_signExtend, BitVec.msb_eq_getLsbD_last]
  simp [hi]
theorem gv_sh (y : Int32) {i : Nat} (hi : i < 16) : gv_c y.toInt16.toInt32 i = gv_c y i := by
  unfold gv_c
  rw [Int16.toBitVec_toInt32, BitVec.getLsbD_signExtend, Int32.toBitVec_toInt16, BitVec.getLsbD_signExtend]
  simp [hi, show i < 32 by omega]
/-- a test of one bit of a long against 0, against 1; of an int -/
theorem gv_t0 (x : Int64) (k : Nat) (hk : k < 64) {s : Int32} (hs : s = nI k) : ((x >>> (s.toInt64 &&& 63)) &&& 1) = 0 ↔ gv_b x k = false := by
  subst hs
  rw [gv_bJ, gv_bshr k hk x (by omega), if_pos (by omega), gv_J0]
  exact Iff.rfl
theorem gv_t1 (x : Int64) (k : Nat) (hk : k < 64) {s : Int32} (hs : s = nI k) : ((x >>> (s.toInt64 &&& 63)) &&& 1) = 1 ↔ gv_b x k = true := by
  subst hs
  rw [gv_bJ, gv_bshr k hk x (by omega), if_pos (by omega), gv_J1]
  exact Iff.rfl
theorem gv_i0 (x : Int32) (k : Nat) (hk : k < 32) : ((x >>> (nI k &&& 31)) &&& 1) = 0 ↔ gv_c x k = false := by
  rw [gv_cI, gv_cshr k hk x (by omega), if_pos (by omega), gv_I0]
  exact Iff.rfl
theorem gv_i1 (x : Int32) (k : Nat) (hk : k < 32) : ((x >>> (nI k &&& 31)) &&& 1) = 1 ↔ gv_c x k = true := by
  rw [gv_cI, gv_cshr k hk x (by omega), if_pos (by omega), gv_I1]
  exact Iff.rfl
/-- a bit of the law's moves -/
theorem gv_mv (x : Int64) (k j : Nat) (hj : j < 5) (hk : k + j < 64) : gv_c (((x >>> ((nI k).toInt64 &&& 63)).toInt32) &&& 31) j = gv_b x (k + j) := by
  rw [gv_cand, gv_c_31 j (by omega), decide_eq_true hj, Bool.and_true, gv_ti _ (by omega), gv_bshr k (by omega) x (by omega), if_pos hk]
/-- the cell of a new position -/
theorem gv_ce {lf rt : Nat} (hl : lf < 32) (hr : rt < 32) {i : Nat} (hi : i < 64) : gv_b ((nI lf ||| (nI rt <<< ((5 : Int32) &&& 31))).toInt64) i = if i < 5 then lf.testBit i else rt.testBit (i - 5) := by
  have hbig : ∀ a j : Nat, a < 32 → 5 ≤ j → a.testBit j = false := fun a j ha hj => Nat.testBit_lt_two_pow (Nat.lt_of_lt_of_le ha (Nat.pow_le_pow_right (n := 2) (by omega) hj))
  have hc : ∀ j, j < 32 → gv_c (nI lf ||| (nI rt <<< ((5 : Int32) &&& 31))) j = if j < 5 then lf.testBit j else rt.testBit (j - 5) := by
    intro j hj
    rw [gv_cor, gv_cnI lf hj, show (5 : Int32) = nI 5 from rfl, gv_cshl 5 (by omega) _ hj, gv_cnI rt (by omega)]
    by_cases h : j < 5
    · rw [if_pos h, decide_eq_false (by omega), Bool.false_and, Bool.or_false]
    · rw [if_neg h, decide_eq_true (by omega), Bool.true_and, hbig lf j hl (by omega), Bool.false_or]
  rw [gv_tl _ hi]
  by_cases h : i < 32
  · rw [if_pos h, hc i h]
  · rw [if_neg h, hc 31 (by omega), if_neg (by omega), if_neg (by omega), hbig rt _ hr (by omega), hbig rt _ hr (by omega)]
theorem gv_10 (n : Nat) : (10 : Int32) * nI n = nI (10 * n) := pk_mul 10 n
/-- the row with a position added -/
theorem gv_ra (row : Int64) {n lf rt : Nat} (hn : n ≤ 4) (hl : lf < 32) (hr : rt < 32) {i : Nat} (hi : i < 64) :
    gv_b ((row &&& (((1023 : Int64) <<< ((10 * nI n).toInt64 &&& 63)) ^^^ (-1))) ||| ((nI lf ||| (nI rt <<< ((5 : Int32) &&& 31))).toInt64 <<< ((10 * nI n).toInt64 &&& 63))) i
      = if 10 * n ≤ i ∧ i < 10 * n + 10 then (if i - 10 * n < 5 then lf.testBit (i - 10 * n) else rt.testBit (i - 10 * n - 5)) else gv_b row i := by
  rw [gv_10, gv_bor, gv_band, gv_bxor, gv_bshl _ (by omega) _ hi, gv_bshl _ (by omega) _ hi, gv_b_m1 i hi]
  by_cases h : 10 * n ≤ i
  · rw [decide_eq_true h, Bool.true_and, Bool.true_and, gv_b_1023 _ (by omega), gv_ce hl hr (by omega)]
    by_cases h2 : i < 10 * n + 10
    · rw [if_pos (show 10 * n ≤ i ∧ i < 10 * n + 10 from ⟨h, h2⟩), decide_eq_true (show i - 10 * n < 10 by omega)]
      simp
    · have hz : rt.testBit (i - 10 * n - 5) = false := Nat.testBit_lt_two_pow (Nat.lt_of_lt_of_le hr (show 2 ^ 5 ≤ 2 ^ (i - 10 * n - 5) from Nat.pow_le_pow_right (by omega) (by omega)))
      rw [if_neg (show ¬ (10 * n ≤ i ∧ i < 10 * n + 10) from fun z => h2 z.2), decide_eq_false (show ¬ i - 10 * n < 10 by omega), if_neg (show ¬ i - 10 * n < 5 by omega), hz]
      simp
  · rw [decide_eq_false h, if_neg (show ¬ (10 * n ≤ i ∧ i < 10 * n + 10) from fun z => h z.1)]
    simp
theorem gv_mk : ∀ m, m < 6 → ∀ i, i < 64 → gv_b (((1 : Int64) <<< ((10 * nI m).toInt64 &&& 63)) - 1) i = decide (i < 10 * m) := by decide +kernel
/-- the row with the positions from m on dropped -/
theorem gv_rd (row : Int64) {m : Nat} (hm : m < 6) {i : Nat} (hi : i < 64) : gv_b (row &&& (((1 : Int64) <<< ((10 * nI m).toInt64 &&& 63)) - 1)) i = (gv_b row i && decide (i < 10 * m)) := by
  rw [gv_band, gv_mk m hm i hi]
theorem gv_full : ∀ n, n < 5 → (((1 : Int32) <<< (nI n &&& 31)) - 1).toBitVec.toNat = 2 ^ n - 1 := by decide +kernel
theorem gv_one : ∀ n, n < 6 → ((1 : Int32) <<< (nI n &&& 31)) = nI (2 ^ n) := by decide +kernel
end
section
/-! the pure picture: who wins moving first in the difference of two positions of a row -/
/-- every move leads to a lesser position -/
def gv_D (row : Int64) : Prop := ∀ p s x, p < 5 → s < 2 → x < 5 → gv_b row (10 * p + 5 * s + x) = true → x < p
/-- side s, moving first in p less q, wins (f: fuel) -/
def gv_w (row : Int64) : Nat → Nat → Nat → Nat → Bool
  | 0, _, _, _ => false
  | f + 1, p, q, s => (List.range 5).any (fun x => (gv_b row (10 * p + 5 * s + x) && !gv_w row f x q (1 - s)) || (gv_b row (10 * q + 5 * (1 - s) + x) && !gv_w row f p x (1 - s)))
theorem gv_wr (row : Int64) (f p q s : Nat) : gv_w row (f + 1) p q s = true ↔ ∃ x, x < 5 ∧ ((gv_b row (10 * p + 5 * s + x) = true ∧ gv_w row f x q (1 - s) = false) ∨ (gv_b row (10 * q + 5 * (1 - s) + x) = true ∧ gv_w row f p x (1 - s) = false)) := by
  rw [gv_w, List.any_eq_true]
  constructor
  · rintro ⟨x, hx, h⟩
    refine ⟨x, List.mem_range.mp hx, ?_⟩
    rw [Bool.or_eq_true, Bool.and_eq_true, Bool.and_eq_true, Bool.not_eq_true', Bool.not_eq_true'] at h
    exact h
  · rintro ⟨x, hx, h⟩
    refine ⟨x, List.mem_range.mpr hx, ?_⟩
    rw [Bool.or_eq_true, Bool.and_eq_true, Bool.and_eq_true, Bool.not_eq_true', Bool.not_eq_true']
    exact h
theorem gv_wst {row : Int64} (hD : gv_D row) : ∀ f g p q s, p < 5 → q < 5 → s < 2 → p + q < f → p + q < g → gv_w row f p q s = gv_w row g p q s := by
  intro f
  induction f with
  | zero =>
    intro g p q s _ _ _ h
    omega
  | succ f ih =>
    intro g p q s hp hq hs hf hg
    cases g with
    | zero => omega
    | succ g =>
      rw [Bool.eq_iff_iff, gv_wr, gv_wr]
      have e1 : ∀ x, x < 5 → gv_b row (10 * p + 5 * s + x) = true → gv_w row f x q (1 - s) = gv_w row g x q (1 - s) := fun x hx h => by
        have := hD p s x hp hs hx h
        exact ih g x q (1 - s) hx hq (by omega) (by omega) (by omega)
      have e2 : ∀ x, x < 5 → gv_b row (10 * q + 5 * (1 - s) + x) = true → gv_w row f p x (1 - s) = gv_w row g p x (1 - s) := fun x hx h => by
        have := hD q (1 - s) x hq (by omega) hx h
        exact ih g p x (1 - s) hp hx (by omega) (by omega) (by omega)
      constructor
      · rintro ⟨x, hx, h | h⟩
        · exact ⟨x, hx, Or.inl ⟨h.1, by rw [← e1 x hx h.1]; exact h.2⟩⟩
        · exact ⟨x, hx, Or.inr ⟨h.1, by rw [← e2 x hx h.1]; exact h.2⟩⟩
      · rintro ⟨x, hx, h | h⟩
        · exact ⟨x, hx, Or.inl ⟨h.1, by rw [e1 x hx h.1]; exact h.2⟩⟩
        · exact ⟨x, hx, Or.inr ⟨h.1, by rw [e2 x hx h.1]; exact h.2⟩⟩
def gv_W (row : Int64) (p q s : Nat) : Bool := gv_w row 10 p q s
theorem gv_Wr {row : Int64} (hD : gv_D row) {p q s : Nat} (hp : p < 5) (hq : q < 5) (hs : s < 2) : gv_W row p q s = true ↔ ∃ x, x < 5 ∧ ((gv_b row (10 * p + 5 * s + x) = true ∧ gv_W row x q (1 - s) = false) ∨ (gv_b row (10 * q + 5 * (1 - s) + x) = true ∧ gv_W row p x (1 - s) = false)) := by
  unfold gv_W
  rw [gv_wr]
  have e1 : ∀ x, x < 5 → gv_b row (10 * p + 5 * s + x) = true → gv_w row 9 x q (1 - s) = gv_w row 10 x q (1 - s) := fun x hx h => by
    have := hD p s x hp hs hx h
    exact gv_wst hD 9 10 x q (1 - s) hx hq (by omega) (by omega) (by omega)
  have e2 : ∀ x, x < 5 → gv_b row (10 * q + 5 * (1 - s) + x) = true → gv_w row 9 p x (1 - s) = gv_w row 10 p x (1 - s) := fun x hx h => by
    have := hD q (1 - s) x hq (by omega) hx h
    exact gv_wst hD 9 10 p x (1 - s) hp hx (by omega) (by omega) (by omega)
  constructor
  · rintro ⟨x, hx, h | h⟩
    · exact ⟨x, hx, Or.inl ⟨h.1, by rw [← e1 x hx h.1]; exact h.2⟩⟩
    · exact ⟨x, hx, Or.inr ⟨h.1, by rw [← e2 x hx h.1]; exact h.2⟩⟩
  · rintro ⟨x, hx, h | h⟩
    · exact ⟨x, hx, Or.inl ⟨h.1, by rw [e1 x hx h.1]; exact h.2⟩⟩
    · exact ⟨x, hx, Or.inr ⟨h.1, by rw [e2 x hx h.1]; exact h.2⟩⟩
/-- the difference turned round -/
theorem gv_sym {row : Int64} (hD : gv_D row) : ∀ k p q s, p < 5 → q < 5 → s < 2 → p + q < k → gv_W row p q s = gv_W row q p (1 - s) := by
  intro k
  induction k with
  | zero =>
    intro p q s _ _ _ h
    omega
  | succ k ih =>
    intro p q s hp hq hs hk
    have es : 1 - (1 - s) = s := by omega
    rw [Bool.eq_iff_iff, gv_Wr hD hp hq hs, gv_Wr hD hq hp (show 1 - s < 2 by omega), es]
    have e1 : ∀ x, x < 5 → gv_b row (10 * p + 5 * s + x) = true → gv_W row x q (1 - s) = gv_W row q x s := fun x hx h => by
      have := hD p s x hp hs hx h
      have t := ih x q (1 - s) hx hq (by omega) (by omega)
      rw [es] at t
      exact t
    have e2 : ∀ x, x < 5 → gv_b row (10 * q + 5 * (1 - s) + x) = true → gv_W row p x (1 - s) = gv_W row x p s := fun x hx h => by
      have := hD q (1 - s) x hq (by omega) hx h
      have t := ih p x (1 - s) hp hx (by omega) (by omega)
      rw [es] at t
      exact t
    constructor
    · rintro ⟨x, hx, h | h⟩
      · exact ⟨x, hx, Or.inr ⟨h.1, by rw [← e1 x hx h.1]; exact h.2⟩⟩
      · exact ⟨x, hx, Or.inl ⟨h.1, by rw [← e2 x hx h.1]; exact h.2⟩⟩
    · rintro ⟨x, hx, h | h⟩
      · exact ⟨x, hx, Or.inr ⟨h.1, by rw [e2 x hx h.1]; exact h.2⟩⟩
      · exact ⟨x, hx, Or.inl ⟨h.1, by rw [e1 x hx h.1]; exact h.2⟩⟩
theorem gv_sy {row : Int64} (hD : gv_D row) {p q : Nat} (hp : p < 5) (hq : q < 5) : gv_W row q p 1 = gv_W row p q 0 := (gv_sym hD (p + q + 1) p q 0 hp hq (by omega) (by omega)).symm
/-- what comparing answers -/
def gv_due (row : Int64) (p q : Nat) : Int32 := bif gv_W row p q 1 then (bif gv_W row p q 0 then 3 else 2) else (bif gv_W row p q 0 then 1 else 0)
/-- p and q are equal -/
def gv_E (row : Int64) (p q : Nat) : Bool := !gv_W row p q 1 && !gv_W row p q 0
theorem gv_dE (row : Int64) (p q : Nat) : gv_due row p q = 0 ↔ gv_E row p q = true := by
  unfold gv_due gv_E
  cases gv_W row p q 1 <;> cases gv_W row p q 0 <;> decide
/-- f is the first position equal to p -/
def gv_F (row : Int64) (p f : Nat) : Prop := f ≤ p ∧ (∀ j, j < f → gv_E row p j = false) ∧ (f < p → gv_E row p f = true)
theorem gv_Fu {row : Int64} {p f g : Nat} (h : gv_F row p f) (k : gv_F row p g) : f = g := by
  obtain ⟨h1, h2, h3⟩ := h
  obtain ⟨k1, k2, k3⟩ := k
  rcases Nat.lt_trichotomy f g with z | z | z
  · have a := h3 (by omega)
    rw [k2 f z] at a
    exact absurd a (by decide)
  · exact z
  · have a := k3 (by omega)
    rw [h2 g z] at a
    exact absurd a (by decide)
/-- p equals none before it -/
def gv_new (row : Int64) (p : Nat) : Bool := (List.range p).all (fun j => !gv_E row p j)
theorem gv_Fn {row : Int64} {p f : Nat} (h : gv_F row p f) : f = p ↔ gv_new row p = true := by
  unfold gv_new
  rw [List.all_eq_true]
  constructor
  · intro e j hj
    rw [h.2.1 j (by have := List.mem_range.mp hj; omega)]
    rfl
  · intro a
    rcases Nat.lt_or_ge f p with z | z
    · have t := a f (List.mem_range.mpr z)
      rw [h.2.2 z] at t
      exact absurd t (by decide)
    · have := h.1
      omega
/-- how many values the first i positions have -/
def gv_N (row : Int64) : Nat → Nat
  | 0 => 0
  | i + 1 => gv_N row i + (bif gv_new row i then 1 else 0)
theorem gv_Nle (row : Int64) (i : Nat) : gv_N row i ≤ i := by
  induction i with
  | zero => exact Nat.le_refl 0
  | succ i ih =>
    rw [gv_N]
    cases gv_new row i
    · exact Nat.le_succ_of_le ih
    · exact Nat.succ_le_succ ih
theorem gv_Nt {row : Int64} {i : Nat} (h : gv_new row i = true) : gv_N row (i + 1) = gv_N row i + 1 := by rw [gv_N, h]; rfl
theorem gv_Nf {row : Int64} {i : Nat} (h : ¬ gv_new row i = true) : gv_N row (i + 1) = gv_N row i := by
  rw [gv_N]
  cases e : gv_new row i
  · rfl
  · exact absurd e h
/-- the row with a position added, with positions dropped, as moves -/
theorem gv_Da {row row' : Int64} {n lf rt : Nat} (hn : n ≤ 4) (hD : gv_D row) (hl : lf < 2 ^ n) (hr : rt < 2 ^ n)
    (hb : ∀ i, i < 64 → gv_b row' i = if 10 * n ≤ i ∧ i < 10 * n + 10 then (if i - 10 * n < 5 then lf.testBit (i - 10 * n) else rt.testBit (i - 10 * n - 5)) else gv_b row i) : gv_D row' := by
  intro p s x hp hs hx h
  rw [hb _ (by omega)] at h
  by_cases e : p = n
  · rw [if_pos (by omega)] at h
    have hbig : ∀ a, a < 2 ^ n → a.testBit x = true → x < p := by
      intro a ha ht
      rcases Nat.lt_or_ge x p with z | z
      · exact z
      · rw [Nat.testBit_lt_two_pow (Nat.lt_of_lt_of_le ha (Nat.pow_le_pow_right (n := 2) (by omega) (by omega)))] at ht
        exact absurd ht (by decide)
    by_cases e0 : s = 0
    · rw [if_pos (by omega), show 10 * p + 5 * s + x - 10 * n = x by omega] at h
      exact hbig lf hl h
    · rw [if_neg (by omega), show 10 * p + 5 * s + x - 10 * n - 5 = x by omega] at h
      exact hbig rt hr h
  · rw [if_neg (by omega)] at h
    exact hD p s x hp hs hx h
end
section
/-! the law's own methods: wins, all, compared -/
/-- one turn of the law's wins: a move x of side s in p less q after which the other side, moving first, doesn't win -/
def gv_P (row won : Int64) (p q s x : Nat) : Prop := (gv_b row (10 * p + 5 * s + x) = true ∧ gv_b won (10 * x + 2 * q + (1 - s)) = false) ∨ (gv_b row (10 * q + 5 * (1 - s) + x) = true ∧ gv_b won (10 * p + 2 * x + (1 - s)) = false)
theorem gv_k1 (x q s : Nat) (hs : s < 2) : (((10 * nI x) + (2 * nI q)) + 1) - nI s = nI (10 * x + 2 * q + (1 - s)) := by
  show nI 10 * nI x + nI 2 * nI q + nI 1 - nI s = _
  rw [pk_mul, pk_mul, nI_add, nI_add, pk_sub (by omega)]
  exact congrArg nI (by omega)
theorem gv_k2 (p s : Nat) : (10 * nI p) + (5 * nI s) = nI (10 * p + 5 * s) := by
  show nI 10 * nI p + nI 5 * nI s = _
  rw [pk_mul, pk_mul, nI_add]
theorem gv_k3 (p s : Nat) (hs : s < 2) : (10 * nI p) + (5 * (1 - nI s)) = nI (10 * p + 5 * (1 - s)) := by
  show nI 10 * nI p + nI 5 * (nI 1 - nI s) = _
  rw [pk_sub (by omega), pk_mul, pk_mul, nI_add]
theorem gv_k4 (p q : Nat) : (10 * nI p) + (2 * nI q) = nI (10 * p + 2 * q) := by
  show nI 10 * nI p + nI 2 * nI q = _
  rw [pk_mul, pk_mul, nI_add]
theorem gv_k5 (p q : Nat) : ((10 * nI p) + (2 * nI q)) + 1 = nI (10 * p + 2 * q + 1) := by
  rw [gv_k4, nI_1]
theorem gv_116 {post : Int32 → Prop} {J : Int32 → Int32 → Prop} {x2 : Int64} {x4 x5 x6 x7 x8 x9 x11 z0 : Int32} {i : Nat} (h0 : x9 = 0 → x11 = 0 → z0 = 0 → J 0 (nI (i + 1))) (h1 : ¬ (x9 = 0 ∧ x11 = 0 ∧ z0 = 0) → J 1 (nI (i + 1))) : wL_wins_116 post J x2 x4 x5 x6 x7 x8 x9 (nI i) x11 z0 :=
  br_c (fun a => br_c (fun b => br_c (fun c => nm_r (nI_1 i) (h0 a b c)) (fun c => nm_r (nI_1 i) (h1 (fun t => c t.2.2)))) (fun b => nm_r (nI_1 i) (h1 (fun t => b t.2.1)))) (fun a => nm_r (nI_1 i) (h1 (fun t => a t.1)))
theorem gv_74 {post : Int32 → Prop} {J : Int32 → Int32 → Prop} {x2 : Int64} {x4 x5 x6 x7 x8 x9 z : Int32} {i : Nat} {A C : Prop} (e1 : ((x8 >>> (nI i &&& 31)) &&& 1) = 1 ↔ A) (e2 : ((x2 >>> (((((10 * x4) + (2 * nI i)) + 1) - x6).toInt64 &&& 63)) &&& 1) = 0 ↔ C)
    (h0 : x9 = 0 → z = 0 → ¬ (A ∧ C) → J 0 (nI (i + 1))) (h1 : ¬ (x9 = 0 ∧ z = 0 ∧ ¬ (A ∧ C)) → J 1 (nI (i + 1))) : wL_wins_74 post J x2 x4 x5 x6 x7 x8 x9 (nI i) z := by
  have hf : ¬ (A ∧ C) → wL_wins_116 post J x2 x4 x5 x6 x7 x8 x9 (nI i) z 0 := fun n => gv_116 (fun a b _ => h0 a b n) (fun t => h1 (fun u => t ⟨u.1, u.2.1, rfl⟩))
  have ht : A ∧ C → wL_wins_116 post J x2 x4 x5 x6 x7 x8 x9 (nI i) z 1 := fun m => gv_116 (fun _ _ t => absurd t (by decide)) (fun _ => h1 (fun u => u.2.2 m))
  exact ek_if e1 (fun a => ek_if e2 (fun c => ht ⟨a, c⟩) (fun c => hf (fun m => c m.2))) (fun a => hf (fun m => a m.1))
theorem gv_w28 {post : Int32 → Prop} {row won : Int64} {p q s : Nat} {m o : Int32} (hp : p < 5) (hq : q < 5) (hs : s < 2) (hm : ∀ j, j < 5 → gv_c m j = gv_b row (10 * p + 5 * s + j)) (ho : ∀ j, j < 5 → gv_c o j = gv_b row (10 * q + 5 * (1 - s) + j))
    (H : ∀ b : Bool, (b = true ↔ ∃ x, x < 5 ∧ gv_P row won p q s x) → post (gv_I b)) : ∃ n, wL_wins_28 post won (nI p) (nI q) (nI s) m o n 0 0 := by
  refine pk_loop (fun n i (b : Bool) => wL_wins_28 post won (nI p) (nI q) (nI s) m o n (gv_I b) (nI i)) (fun i b => b = true ↔ ∃ x, x < i ∧ gv_P row won p q s x) 5 0 false (by omega) ⟨fun z => absurd z (by decide), fun ⟨x, hx, _⟩ => absurd hx (by omega)⟩
    (fun n b h => pk_le 5 5 (fun _ => And.intro (gv_nar b) (H b h)) (fun z => absurd z (by omega))) ?_
  intro n i b hi h hw
  have K1 : (b = true ∨ gv_P row won p q s i) → wL_wins_28 post won (nI p) (nI q) (nI s) m o n 1 (nI (i + 1)) := fun t => hw true ⟨fun _ => by
    rcases t with u | u
    · obtain ⟨x, hx, hP⟩ := h.mp u
      exact ⟨x, by omega, hP⟩
    · exact ⟨i, by omega, u⟩, fun _ => rfl⟩
  have K0 : ¬ (b = true ∨ gv_P row won p q s i) → wL_wins_28 post won (nI p) (nI q) (nI s) m o n 0 (nI (i + 1)) := fun t => hw false ⟨fun z => absurd z (by decide), fun ⟨x, hx, hP⟩ => absurd (by
    by_cases e : x = i
    · rw [e] at hP
      exact Or.inr hP
    · exact Or.inl (h.mpr ⟨x, by omega, hP⟩)) t⟩
  have T1 : ((m >>> (nI i &&& 31)) &&& 1) = 1 ↔ gv_b row (10 * p + 5 * s + i) = true := by
    rw [gv_i1 m i (by omega), hm i hi]
  have T2 := gv_t0 won (10 * i + 2 * q + (1 - s)) (by omega) (gv_k1 i q s hs)
  have T3 : ((o >>> (nI i &&& 31)) &&& 1) = 1 ↔ gv_b row (10 * q + 5 * (1 - s) + i) = true := by
    rw [gv_i1 o i (by omega), ho i hi]
  have T4 := gv_t0 won (10 * p + 2 * i + (1 - s)) (by omega) (gv_k1 p i s hs)
  have G1 : (gv_b row (10 * p + 5 * s + i) = true ∧ gv_b won (10 * i + 2 * q + (1 - s)) = false) → wL_wins_74 post (wL_wins_28 post won (nI p) (nI q) (nI s) m o n) won (nI p) (nI q) (nI s) m o (gv_I b) (nI i) 1 := fun u =>
    gv_74 T3 T4 (fun _ t => absurd t (by decide)) (fun _ => K1 (Or.inr (Or.inl u)))
  have G0 : ¬ (gv_b row (10 * p + 5 * s + i) = true ∧ gv_b won (10 * i + 2 * q + (1 - s)) = false) → wL_wins_74 post (wL_wins_28 post won (nI p) (nI q) (nI s) m o n) won (nI p) (nI q) (nI s) m o (gv_I b) (nI i) 0 := fun u =>
    gv_74 T3 T4 (fun a _ c => K0 (fun t => by
      rcases t with v | v | v
      · rw [v] at a
        exact absurd a (by decide)
      · exact u v
      · exact c v)) (fun t => K1 (Classical.byContradiction (fun w => t ⟨by
        cases b
        · rfl
        · exact absurd (Or.inl rfl) w, rfl, fun v => w (Or.inr (Or.inr v))⟩)))
  exact pk_le 5 i (fun z => absurd z (by omega)) (fun _ => ek_if T1 (fun a => ek_if T2 (fun c => G1 ⟨a, c⟩) (fun c => G0 (fun v => c v.2))) (fun a => G0 (fun v => a v.1)))
theorem gv_wins {post : Int32 → Prop} {row won : Int64} {p q s : Nat} (hp : p < 5) (hq : q < 5) (hs : s < 2) (H : ∀ b : Bool, (b = true ↔ ∃ x, x < 5 ∧ gv_P row won p q s x) → post (gv_I b)) : wpL_wins post () row won (nI p) (nI q) (nI s) := by
  show ∃ n, wL_wins_28 post won (nI p) (nI q) (nI s) (((row >>> (((10 * nI p) + (5 * nI s)).toInt64 &&& 63)).toInt32) &&& 31) (((row >>> (((10 * nI q) + (5 * (1 - nI s))).toInt64 &&& 63)).toInt32) &&& 31) n 0 0
  rw [gv_k2, gv_k3 q s hs]
  exact gv_w28 hp hq hs (fun j hj => gv_mv row _ j hj (by omega)) (fun j hj => gv_mv row _ j hj (by omega)) H
/-- the law's table, filled up to cell c -/
def gv_V (row : Int64) (c : Nat) (won : Int64) : Prop := ∀ p q s, p < 5 → q < 5 → s < 2 → gv_b won (10 * p + 2 * q + s) = (decide (5 * p + q < c) && gv_W row p q s)
theorem gv_PW {row won : Int64} {p q s : Nat} (hD : gv_D row) (hp : p < 5) (hq : q < 5) (hs : s < 2) (hV : gv_V row (5 * p + q) won) : (∃ x, x < 5 ∧ gv_P row won p q s x) ↔ gv_W row p q s = true := by
  rw [gv_Wr hD hp hq hs]
  have e1 : ∀ x, x < 5 → gv_b row (10 * p + 5 * s + x) = true → gv_b won (10 * x + 2 * q + (1 - s)) = gv_W row x q (1 - s) := fun x hx h => by
    have := hD p s x hp hs hx h
    rw [hV x q (1 - s) hx hq (by omega), decide_eq_true (by omega), Bool.true_and]
  have e2 : ∀ x, x < 5 → gv_b row (10 * q + 5 * (1 - s) + x) = true → gv_b won (10 * p + 2 * x + (1 - s)) = gv_W row p x (1 - s) := fun x hx h => by
    have := hD q (1 - s) x hq (by omega) hx h
    rw [hV p x (1 - s) hp hx (by omega), decide_eq_true (by omega), Bool.true_and]
  constructor
  · rintro ⟨x, hx, h | h⟩
    · exact ⟨x, hx, Or.inl ⟨h.1, by rw [← e1 x hx h.1]; exact h.2⟩⟩
    · exact ⟨x, hx, Or.inr ⟨h.1, by rw [← e2 x hx h.1]; exact h.2⟩⟩
  · rintro ⟨x, hx, h | h⟩
    · exact ⟨x, hx, Or.inl ⟨h.1, by rw [e1 x hx h.1]; exact h.2⟩⟩
    · exact ⟨x, hx, Or.inr ⟨h.1, by rw [e2 x hx h.1]; exact h.2⟩⟩
theorem gv_set (z : Int64) (k : Nat) (hk : k < 64) {s : Int32} (hs : s = nI k) {j : Nat} (hj : j < 64) : gv_b (z ||| ((1 : Int64) <<< (s.toInt64 &&& 63))) j = (gv_b z j || decide (j = k)) := by
  subst hs
  rw [gv_bor, gv_bshl k hk _ hj, gv_b_1 _ (by omega)]
  by_cases h : j = k
  · subst h
    simp
  · rw [decide_eq_false h]
    by_cases h2 : k ≤ j
    · rw [decide_eq_false (show ¬ j - k = 0 by omega), Bool.and_false]
    · rw [decide_eq_false h2, Bool.false_and]
theorem gv_71 {post : Int64 → Prop} {J : Int64 → Int32 → Prop} {x0 z : Int64} {i p q : Nat} {b : Bool} (hp : p < 5) (hq : q < 5) (h : ∀ z', (∀ j, j < 64 → gv_b z' j = (gv_b z j || (decide (j = 10 * p + 2 * q + 1) && b))) → J z' (nI (i + 1))) : wL_all_71 post J x0 (nI i) (nI p) (nI q) (gv_I b) z := by
  cases b
  · exact br_t rfl (nm_r (nI_1 i) (h z (fun j hj => by rw [Bool.and_false, Bool.or_false])))
  · exact br_f (by decide) (nm_e (nm_r (nI_1 i) (h _ (fun j hj => by rw [Bool.and_true]; exact gv_set z _ (by omega) (gv_k5 p q) hj))))
theorem gv_Vs {row won won' : Int64} {i p q : Nat} (hp : p < 5) (hq : q < 5) (hi : i = 5 * p + q) (hV : gv_V row i won)
    (h : ∀ j, j < 64 → gv_b won' j = ((gv_b won j || (decide (j = 10 * p + 2 * q) && gv_W row p q 0)) || (decide (j = 10 * p + 2 * q + 1) && gv_W row p q 1))) : gv_V row (i + 1) won' := by
  intro p' q' s' hp' hq' hs'
  rw [h _ (by omega), hV p' q' s' hp' hq' hs']
  by_cases e : 5 * p' + q' = i
  · have ep : p' = p := by omega
    have eq : q' = q := by omega
    subst ep eq
    rw [decide_eq_false (by omega), decide_eq_true (show 5 * p' + q' < i + 1 by omega)]
    rcases (show s' = 0 ∨ s' = 1 by omega) with rfl | rfl
    · rw [decide_eq_true (show 10 * p' + 2 * q' + 0 = 10 * p' + 2 * q' by omega), decide_eq_false (show ¬ 10 * p' + 2 * q' + 0 = 10 * p' + 2 * q' + 1 by omega)]
      simp
    · rw [decide_eq_false (show ¬ 10 * p' + 2 * q' + 1 = 10 * p' + 2 * q' by omega), decide_eq_true (show 10 * p' + 2 * q' + 1 = 10 * p' + 2 * q' + 1 by omega)]
      simp
  · rw [decide_eq_false (show ¬ 10 * p' + 2 * q' + s' = 10 * p + 2 * q by omega), decide_eq_false (show ¬ 10 * p' + 2 * q' + s' = 10 * p + 2 * q + 1 by omega), Bool.false_and, Bool.false_and, Bool.or_false, Bool.or_false]
    by_cases l : 5 * p' + q' < i
    · rw [decide_eq_true l, decide_eq_true (show 5 * p' + q' < i + 1 by omega)]
    · rw [decide_eq_false l, decide_eq_false (show ¬ 5 * p' + q' < i + 1 by omega)]
theorem gv_all {post : Int64 → Prop} {row : Int64} (hD : gv_D row) (H : ∀ won, (∀ p q s, p < 5 → q < 5 → s < 2 → gv_b won (10 * p + 2 * q + s) = gv_W row p q s) → post won) : wpL_all post () row := by
  refine pk_loop (fun n i (won : Int64) => wL_all_5 post row n won (nI i)) (fun i won => gv_V row i won) 25 0 0 (by omega) (fun p q s _ _ _ => by rw [gv_b_0, decide_eq_false (by omega), Bool.false_and])
    (fun n won h => pk_le 25 25 (fun _ => H won (fun p q s hp hq hs => by rw [h p q s hp hq hs, decide_eq_true (by omega), Bool.true_and])) (fun z => absurd z (by omega))) ?_
  intro n i won hi hV hw
  have hp : i / 5 < 5 := by omega
  have hq : i % 5 < 5 := by omega
  have hc : i = 5 * (i / 5) + i % 5 := by omega
  have hV' : gv_V row (5 * (i / 5) + i % 5) won := by rw [← hc]; exact hV
  refine pk_le 25 i (fun z => absurd z (by omega)) (fun _ => And.intro (by decide) (nm_r (pk_div (a := i) (d := 5) (by omega) (by omega) (by omega)) (And.intro (by decide) (nm_r (pk_rem (a := i) (d := 5) (by omega) (by omega) (by omega)) ?_))))
  refine gv_wins (s := 0) hp hq (by omega) (fun b hb => gv_wins (s := 1) hp hq (by omega) (fun b' hb' => ?_))
  have eb : b = gv_W row (i / 5) (i % 5) 0 := by rw [Bool.eq_iff_iff, hb]; exact gv_PW hD hp hq (by omega) hV'
  have eb' : b' = gv_W row (i / 5) (i % 5) 1 := by rw [Bool.eq_iff_iff, hb']; exact gv_PW hD hp hq (by omega) hV'
  have fin : ∀ won', (∀ j, j < 64 → gv_b won' j = ((gv_b won j || (decide (j = 10 * (i / 5) + 2 * (i % 5)) && b)) || (decide (j = 10 * (i / 5) + 2 * (i % 5) + 1) && b'))) → wL_all_5 post row n won' (nI (i + 1)) := fun won' h => hw won' (gv_Vs hp hq hc hV (by rw [eb, eb'] at h; exact h))
  clear eb eb' hb hb'
  cases b
  · exact br_t rfl (gv_71 hp hq (fun z' hz => fin z' (fun j hj => by rw [hz j hj, Bool.and_false, Bool.or_false])))
  · exact br_f (by decide) (gv_71 hp hq (fun z' hz => fin z' (fun j hj => by rw [hz j hj, gv_set won _ (by omega) (gv_k4 _ _) hj, Bool.and_true])))
theorem gv_cmp {post : Int32 → Prop} {row won : Int64} {p q : Nat} (hp : p < 5) (hq : q < 5) (hV : ∀ p q s, p < 5 → q < 5 → s < 2 → gv_b won (10 * p + 2 * q + s) = gv_W row p q s) (H : post (gv_due row p q)) : wpL_compared post () won (nI p) (nI q) := by
  have T1 : ((won >>> ((((10 * nI p) + (2 * nI q)) + 1).toInt64 &&& 63)) &&& 1) = 0 ↔ gv_W row p q 1 = false := by
    rw [gv_t0 won (10 * p + 2 * q + 1) (by omega) (gv_k5 p q), hV p q 1 hp hq (by omega)]
  have T0 : ((won >>> (((10 * nI p) + (2 * nI q)).toInt64 &&& 63)) &&& 1) = 0 ↔ gv_W row p q 0 = false := by
    rw [gv_t0 won (10 * p + 2 * q + 0) (by omega) (gv_k4 p q), hV p q 0 hp hq (by omega)]
  unfold gv_due at H
  cases e1 : gv_W row p q 1 <;> cases e0 : gv_W row p q 0 <;> rw [e1, e0] at H
  · exact br_t (T1.mpr e1) (br_t (T0.mpr e0) (br_f (by decide) (br_f (by decide) H)))
  · exact br_t (T1.mpr e1) (br_f (fun z => by rw [T0.mp z] at e0; exact absurd e0 (by decide)) (br_f (by decide) (br_t rfl (br_f (by decide) H))))
  · exact br_f (fun z => by rw [T1.mp z] at e1; exact absurd e1 (by decide)) (br_t (T0.mpr e0) (br_t rfl (br_t rfl (br_f (by decide) H))))
  · exact br_f (fun z => by rw [T1.mp z] at e1; exact absurd e1 (by decide)) (br_f (fun z => by rw [T0.mp z] at e0; exact absurd e0 (by decide)) (br_t rfl (br_t rfl (br_t rfl H))))
end
section
/-! the class: in, cell, staysAbove, staysBelow (printed by gen/stays.py) -/
theorem gv_in {post : Int32 → Prop} {a : Int32} {x : Nat} (hx : x < 32) (h1 : gv_c a x = true → post 1) (h0 : gv_c a x = false → post 0) : wpX_in post () a (nI x) :=
  ek_if (gv_i0 a x hx) h0 (fun z => h1 (by
    cases e : gv_c a x
    · exact absurd e z
    · rfl))
theorem gv_cel {P : Int32 → Prop} (p q r : Nat) (h : P (nI ((p * 10 + q) * 10 + r))) : wpX_cell P () (nI p) (nI q) (nI r) := by
  have e : ((((nI p) * 10) + (nI q)) * 10) + (nI r) = nI ((p * 10 + q) * 10 + r) := by
    show (nI p * nI 10 + nI q) * nI 10 + nI r = _
    rw [pk_mul, nI_add, pk_mul, nI_add]
  show P (((((nI p) * 10) + (nI q)) * 10) + (nI r))
  rw [e]
  exact h
/-- one turn of staysAbove (u: Right's moves, v: Left's, t: atMost), of staysBelow (Left's, Right's, atLeast) -/
def gv_Q (u v t : Nat → Int32) (p q r x : Nat) : Prop := (gv_c (u p) x = true ∧ ¬ t ((x * 10 + q) * 10 + r) = 0) ∨ (gv_c (u q) x = true ∧ ¬ t ((p * 10 + x) * 10 + r) = 0) ∨ (gv_c (v r) x = true ∧ ¬ t ((p * 10 + q) * 10 + x) = 0)
theorem gv_ab118 {post : Int32 → Prop} {J : Int32 → Prop} {x1 x2 x3 x5 x6 z f0 f1 : Int32} {a1 a2 a3 a4 : Nat → Int32} {i : Nat} (h0 : x5 = 0 → x6 = 0 → z = 0 → J (nI (i + 1))) (h1 : ¬ (x5 = 0 ∧ x6 = 0 ∧ z = 0) → post 0) : wX_staysAbove_118 post J x1 x2 x3 (nI i) x5 x6 z f0 f1 a1 a2 a3 a4 :=
  br_c (fun a => br_c (fun b => br_c (fun c => nm_r (nI_1 i) (h0 a b c)) (fun c => h1 (fun t => c t.2.2))) (fun b => h1 (fun t => b t.2.1))) (fun a => h1 (fun t => a t.1))
theorem gv_ab82 {post : Int32 → Prop} {J : Int32 → Prop} {x5 z f0 f1 : Int32} {a1 a2 a3 a4 : Nat → Int32} {p q r i : Nat} (hp : p < 5) (hq : q < 5) (hr : r < 5) (hi : i < 5)
    (h0 : x5 = 0 → z = 0 → ¬ (gv_c (a1 r) i = true ∧ ¬ a4 ((p * 10 + q) * 10 + i) = 0) → J (nI (i + 1))) (h1 : ¬ (x5 = 0 ∧ z = 0 ∧ ¬ (gv_c (a1 r) i = true ∧ ¬ a4 ((p * 10 + q) * 10 + i) = 0)) → post 0) : wX_staysAbove_82 post J (nI p) (nI q) (nI r) (nI i) x5 z f0 f1 a1 a2 a3 a4 := by
  have hf : ¬ (gv_c (a1 r) i = true ∧ ¬ a4 ((p * 10 + q) * 10 + i) = 0) → wX_staysAbove_118 post J (nI p) (nI q) (nI r) (nI i) x5 z 0 f0 f1 a1 a2 a3 a4 := fun n => gv_ab118 (fun a b _ => h0 a b n) (fun t => h1 (fun u => t ⟨u.1, u.2.1, rfl⟩))
  have ht : (gv_c (a1 r) i = true ∧ ¬ a4 ((p * 10 + q) * 10 + i) = 0) → wX_staysAbove_118 post J (nI p) (nI q) (nI r) (nI i) x5 z 1 f0 f1 a1 a2 a3 a4 := fun m => gv_ab118 (fun _ _ t => absurd t (by decide)) (fun _ => h1 (fun u => u.2.2 m))
  refine And.intro (pk_in r 10 (by omega)) ?_
  rw [nI_clamp (show r < 2 ^ 31 by omega)]
  refine gv_in (by omega) (fun c => br_f (by decide) (gv_cel p q i (And.intro (vp_in_nI (by omega) (by omega)) ?_))) (fun c => br_t rfl (hf (fun m => by rw [c] at m; exact absurd m.1 (by decide))))
  rw [nI_clamp (show (p * 10 + q) * 10 + i < 2 ^ 31 by omega)]
  exact br_c (fun y => hf (fun m => m.2 y)) (fun y => ht ⟨c, y⟩)
theorem gv_ab46 {post : Int32 → Prop} {J : Int32 → Prop} {z f0 f1 : Int32} {a1 a2 a3 a4 : Nat → Int32} {p q r i : Nat} (hp : p < 5) (hq : q < 5) (hr : r < 5) (hi : i < 5)
    (h0 : z = 0 → ¬ (gv_c (a2 q) i = true ∧ ¬ a4 ((p * 10 + i) * 10 + r) = 0) → ¬ (gv_c (a1 r) i = true ∧ ¬ a4 ((p * 10 + q) * 10 + i) = 0) → J (nI (i + 1)))
    (h1 : ¬ (z = 0 ∧ ¬ (gv_c (a2 q) i = true ∧ ¬ a4 ((p * 10 + i) * 10 + r) = 0) ∧ ¬ (gv_c (a1 r) i = true ∧ ¬ a4 ((p * 10 + q) * 10 + i) = 0)) → post 0) : wX_staysAbove_46 post J (nI p) (nI q) (nI r) (nI i) z f0 f1 a1 a2 a3 a4 := by
  have hf : ¬ (gv_c (a2 q) i = true ∧ ¬ a4 ((p * 10 + i) * 10 + r) = 0) → wX_staysAbove_82 post J (nI p) (nI q) (nI r) (nI i) z 0 f0 f1 a1 a2 a3 a4 := fun n => gv_ab82 hp hq hr hi (fun a _ c => h0 a n c) (fun t => h1 (fun u => t ⟨u.1, rfl, u.2.2⟩))
  have ht : (gv_c (a2 q) i = true ∧ ¬ a4 ((p * 10 + i) * 10 + r) = 0) → wX_staysAbove_82 post J (nI p) (nI q) (nI r) (nI i) z 1 f0 f1 a1 a2 a3 a4 := fun m => gv_ab82 hp hq hr hi (fun _ t => absurd t (by decide)) (fun _ => h1 (fun u => u.2.1 m))
  refine And.intro (pk_in q 10 (by omega)) ?_
  rw [nI_clamp (show q < 2 ^ 31 by omega)]
  refine gv_in (by omega) (fun c => br_f (by decide) (gv_cel p i r (And.intro (vp_in_nI (by omega) (by omega)) ?_))) (fun c => br_t rfl (hf (fun m => by rw [c] at m; exact absurd m.1 (by decide))))
  rw [nI_clamp (show (p * 10 + i) * 10 + r < 2 ^ 31 by omega)]
  exact br_c (fun y => hf (fun m => m.2 y)) (fun y => ht ⟨c, y⟩)
theorem gv_ab {post : Int32 → Prop} {kn : Int32} {a1 a2 a3 a4 : Nat → Int32} {n p q r : Nat} (hn : n ≤ 5) (hp : p < n) (hq : q < n) (hr : r < n)
    (H : ∀ b : Bool, (b = true ↔ ∀ x, x < n → ¬ gv_Q a2 a1 a4 p q r x) → post (gv_I b)) : wpX_staysAbove post (nI n, kn, a1, a2, a3, a4) (nI p) (nI q) (nI r) := by
  refine pk_loop (σ := Unit) (fun k i _ => wX_staysAbove_3 post (nI p) (nI q) (nI r) (nI n) kn a1 a2 a3 a4 k (nI i)) (fun i _ => ∀ x, x < i → ¬ gv_Q a2 a1 a4 p q r x) n 0 () (by omega) (fun x hx => absurd hx (by omega))
    (fun k _ h => pk_le n n (fun _ => H true ⟨fun _ => h, fun _ => rfl⟩) (fun z => absurd z (by omega))) ?_
  intro k i _ hi h hw
  have K0 : gv_Q a2 a1 a4 p q r i → post 0 := fun t => H false ⟨fun z => absurd z (by decide), fun z => absurd t (z i hi)⟩
  have K1 : ¬ gv_Q a2 a1 a4 p q r i → wX_staysAbove_3 post (nI p) (nI q) (nI r) (nI n) kn a1 a2 a3 a4 k (nI (i + 1)) := fun t => hw () (lt_s h t)
  have hf : ¬ (gv_c (a2 p) i = true ∧ ¬ a4 ((i * 10 + q) * 10 + r) = 0) → wX_staysAbove_46 post (wX_staysAbove_3 post (nI p) (nI q) (nI r) (nI n) kn a1 a2 a3 a4 k) (nI p) (nI q) (nI r) (nI i) 0 (nI n) kn a1 a2 a3 a4 := fun m =>
    gv_ab46 (by omega) (by omega) (by omega) (by omega) (fun _ b c => K1 (fun t => t.elim m (fun t => t.elim b c))) (fun t => K0 (Classical.byContradiction (fun u => t ⟨rfl, fun v => u (Or.inr (Or.inl v)), fun v => u (Or.inr (Or.inr v))⟩)))
  have ht : (gv_c (a2 p) i = true ∧ ¬ a4 ((i * 10 + q) * 10 + r) = 0) → wX_staysAbove_46 post (wX_staysAbove_3 post (nI p) (nI q) (nI r) (nI n) kn a1 a2 a3 a4 k) (nI p) (nI q) (nI r) (nI i) 1 (nI n) kn a1 a2 a3 a4 := fun m =>
    gv_ab46 (by omega) (by omega) (by omega) (by omega) (fun t => absurd t (by decide)) (fun _ => K0 (Or.inl m))
  refine pk_le n i (fun z => absurd z (by omega)) (fun _ => And.intro (pk_in p 10 (by omega)) ?_)
  rw [nI_clamp (show p < 2 ^ 31 by omega)]
  refine gv_in (by omega) (fun c => br_f (by decide) (gv_cel i q r (And.intro (vp_in_nI (by omega) (by omega)) ?_))) (fun c => br_t rfl (hf (fun m => by rw [c] at m; exact absurd m.1 (by decide))))
  rw [nI_clamp (show (i * 10 + q) * 10 + r < 2 ^ 31 by omega)]
  exact br_c (fun y => hf (fun m => m.2 y)) (fun y => ht ⟨c, y⟩)
theorem gv_be118 {post : Int32 → Prop} {J : Int32 → Prop} {x1 x2 x3 x5 x6 z f0 f1 : Int32} {a1 a2 a3 a4 : Nat → Int32} {i : Nat} (h0 : x5 = 0 → x6 = 0 → z = 0 → J (nI (i + 1))) (h1 : ¬ (x5 = 0 ∧ x6 = 0 ∧ z = 0) → post 0) : wX_staysBelow_118 post J x1 x2 x3 (nI i) x5 x6 z f0 f1 a1 a2 a3 a4 :=
  br_c (fun a => br_c (fun b => br_c (fun c => nm_r (nI_1 i) (h0 a b c)) (fun c => h1 (fun t => c t.2.2))) (fun b => h1 (fun t => b t.2.1))) (fun a => h1 (fun t => a t.1))
theorem gv_be82 {post : Int32 → Prop} {J : Int32 → Prop} {x5 z f0 f1 : Int32} {a1 a2 a3 a4 : Nat → Int32} {p q r i : Nat} (hp : p < 5) (hq : q < 5) (hr : r < 5) (hi : i < 5)
    (h0 : x5 = 0 → z = 0 → ¬ (gv_c (a2 r) i = true ∧ ¬ a3 ((p * 10 + q) * 10 + i) = 0) → J (nI (i + 1))) (h1 : ¬ (x5 = 0 ∧ z = 0 ∧ ¬ (gv_c (a2 r) i = true ∧ ¬ a3 ((p * 10 + q) * 10 + i) = 0)) → post 0) : wX_staysBelow_82 post J (nI p) (nI q) (nI r) (nI i) x5 z f0 f1 a1 a2 a3 a4 := by
  have hf : ¬ (gv_c (a2 r) i = true ∧ ¬ a3 ((p * 10 + q) * 10 + i) = 0) → wX_staysBelow_118 post J (nI p) (nI q) (nI r) (nI i) x5 z 0 f0 f1 a1 a2 a3 a4 := fun n => gv_be118 (fun a b _ => h0 a b n) (fun t => h1 (fun u => t ⟨u.1, u.2.1, rfl⟩))
  have ht : (gv_c (a2 r) i = true ∧ ¬ a3 ((p * 10 + q) * 10 + i) = 0) → wX_staysBelow_118 post J (nI p) (nI q) (nI r) (nI i) x5 z 1 f0 f1 a1 a2 a3 a4 := fun m => gv_be118 (fun _ _ t => absurd t (by decide)) (fun _ => h1 (fun u => u.2.2 m))
  refine And.intro (pk_in r 10 (by omega)) ?_
  rw [nI_clamp (show r < 2 ^ 31 by omega)]
  refine gv_in (by omega) (fun c => br_f (by decide) (gv_cel p q i (And.intro (vp_in_nI (by omega) (by omega)) ?_))) (fun c => br_t rfl (hf (fun m => by rw [c] at m; exact absurd m.1 (by decide))))
  rw [nI_clamp (show (p * 10 + q) * 10 + i < 2 ^ 31 by omega)]
  exact br_c (fun y => hf (fun m => m.2 y)) (fun y => ht ⟨c, y⟩)
theorem gv_be46 {post : Int32 → Prop} {J : Int32 → Prop} {z f0 f1 : Int32} {a1 a2 a3 a4 : Nat → Int32} {p q r i : Nat} (hp : p < 5) (hq : q < 5) (hr : r < 5) (hi : i < 5)
    (h0 : z = 0 → ¬ (gv_c (a1 q) i = true ∧ ¬ a3 ((p * 10 + i) * 10 + r) = 0) → ¬ (gv_c (a2 r) i = true ∧ ¬ a3 ((p * 10 + q) * 10 + i) = 0) → J (nI (i + 1)))
    (h1 : ¬ (z = 0 ∧ ¬ (gv_c (a1 q) i = true ∧ ¬ a3 ((p * 10 + i) * 10 + r) = 0) ∧ ¬ (gv_c (a2 r) i = true ∧ ¬ a3 ((p * 10 + q) * 10 + i) = 0)) → post 0) : wX_staysBelow_46 post J (nI p) (nI q) (nI r) (nI i) z f0 f1 a1 a2 a3 a4 := by
  have hf : ¬ (gv_c (a1 q) i = true ∧ ¬ a3 ((p * 10 + i) * 10 + r) = 0) → wX_staysBelow_82 post J (nI p) (nI q) (nI r) (nI i) z 0 f0 f1 a1 a2 a3 a4 := fun n => gv_be82 hp hq hr hi (fun a _ c => h0 a n c) (fun t => h1 (fun u => t ⟨u.1, rfl, u.2.2⟩))
  have ht : (gv_c (a1 q) i = true ∧ ¬ a3 ((p * 10 + i) * 10 + r) = 0) → wX_staysBelow_82 post J (nI p) (nI q) (nI r) (nI i) z 1 f0 f1 a1 a2 a3 a4 := fun m => gv_be82 hp hq hr hi (fun _ t => absurd t (by decide)) (fun _ => h1 (fun u => u.2.1 m))
  refine And.intro (pk_in q 10 (by omega)) ?_
  rw [nI_clamp (show q < 2 ^ 31 by omega)]
  refine gv_in (by omega) (fun c => br_f (by decide) (gv_cel p i r (And.intro (vp_in_nI (by omega) (by omega)) ?_))) (fun c => br_t rfl (hf (fun m => by rw [c] at m; exact absurd m.1 (by decide))))
  rw [nI_clamp (show (p * 10 + i) * 10 + r < 2 ^ 31 by omega)]
  exact br_c (fun y => hf (fun m => m.2 y)) (fun y => ht ⟨c, y⟩)
theorem gv_be {post : Int32 → Prop} {kn : Int32} {a1 a2 a3 a4 : Nat → Int32} {n p q r : Nat} (hn : n ≤ 5) (hp : p < n) (hq : q < n) (hr : r < n)
    (H : ∀ b : Bool, (b = true ↔ ∀ x, x < n → ¬ gv_Q a1 a2 a3 p q r x) → post (gv_I b)) : wpX_staysBelow post (nI n, kn, a1, a2, a3, a4) (nI p) (nI q) (nI r) := by
  refine pk_loop (σ := Unit) (fun k i _ => wX_staysBelow_3 post (nI p) (nI q) (nI r) (nI n) kn a1 a2 a3 a4 k (nI i)) (fun i _ => ∀ x, x < i → ¬ gv_Q a1 a2 a3 p q r x) n 0 () (by omega) (fun x hx => absurd hx (by omega))
    (fun k _ h => pk_le n n (fun _ => H true ⟨fun _ => h, fun _ => rfl⟩) (fun z => absurd z (by omega))) ?_
  intro k i _ hi h hw
  have K0 : gv_Q a1 a2 a3 p q r i → post 0 := fun t => H false ⟨fun z => absurd z (by decide), fun z => absurd t (z i hi)⟩
  have K1 : ¬ gv_Q a1 a2 a3 p q r i → wX_staysBelow_3 post (nI p) (nI q) (nI r) (nI n) kn a1 a2 a3 a4 k (nI (i + 1)) := fun t => hw () (lt_s h t)
  have hf : ¬ (gv_c (a1 p) i = true ∧ ¬ a3 ((i * 10 + q) * 10 + r) = 0) → wX_staysBelow_46 post (wX_staysBelow_3 post (nI p) (nI q) (nI r) (nI n) kn a1 a2 a3 a4 k) (nI p) (nI q) (nI r) (nI i) 0 (nI n) kn a1 a2 a3 a4 := fun m =>
    gv_be46 (by omega) (by omega) (by omega) (by omega) (fun _ b c => K1 (fun t => t.elim m (fun t => t.elim b c))) (fun t => K0 (Classical.byContradiction (fun u => t ⟨rfl, fun v => u (Or.inr (Or.inl v)), fun v => u (Or.inr (Or.inr v))⟩)))
  have ht : (gv_c (a1 p) i = true ∧ ¬ a3 ((i * 10 + q) * 10 + r) = 0) → wX_staysBelow_46 post (wX_staysBelow_3 post (nI p) (nI q) (nI r) (nI n) kn a1 a2 a3 a4 k) (nI p) (nI q) (nI r) (nI i) 1 (nI n) kn a1 a2 a3 a4 := fun m =>
    gv_be46 (by omega) (by omega) (by omega) (by omega) (fun t => absurd t (by decide)) (fun _ => K0 (Or.inl m))
  refine pk_le n i (fun z => absurd z (by omega)) (fun _ => And.intro (pk_in p 10 (by omega)) ?_)
  rw [nI_clamp (show p < 2 ^ 31 by omega)]
  refine gv_in (by omega) (fun c => br_f (by decide) (gv_cel i q r (And.intro (vp_in_nI (by omega) (by omega)) ?_))) (fun c => br_t rfl (hf (fun m => by rw [c] at m; exact absurd m.1 (by decide))))
  rw [nI_clamp (show (i * 10 + q) * 10 + r < 2 ^ 31 by omega)]
  exact br_c (fun y => hf (fun m => m.2 y)) (fun y => ht ⟨c, y⟩)
end
section
/-! the class: its tables, learn -/
/-- the class's moves are the row's -/
def gv_O (n : Nat) (row : Int64) (a1 a2 : Nat → Int32) : Prop := ∀ p x, p < n → x < 5 → gv_c (a1 p) x = gv_b row (10 * p + 5 * 0 + x) ∧ gv_c (a2 p) x = gv_b row (10 * p + 5 * 1 + x)
/-- the tables, at the cells (p, 0, r): filled up to i; filled -/
def gv_L (n : Nat) (row : Int64) (i : Nat) (a3 a4 : Nat → Int32) : Prop := ∀ p r, p < n → r < n → p * (n * n) + r < i → a3 (p * 100 + r) = gv_I (!gv_W row p r 1) ∧ a4 (p * 100 + r) = gv_I (!gv_W row p r 0)
def gv_T (n : Nat) (row : Int64) (a3 a4 : Nat → Int32) : Prop := ∀ p r, p < n → r < n → a3 (p * 100 + r) = gv_I (!gv_W row p r 1) ∧ a4 (p * 100 + r) = gv_I (!gv_W row p r 0)
/-- the object against the law's row -/
def gv_K (n : Nat) (row : Int64) (kn : Int32) (a1 a2 a3 a4 : Nat → Int32) : Prop := 1 ≤ n ∧ n ≤ 5 ∧ gv_D row ∧ gv_O n row a1 a2 ∧ (¬ kn = 0 → gv_T n row a3 a4)
theorem gv_QW {n : Nat} {row : Int64} {u v t : Nat → Int32} {p r s : Nat} (hD : gv_D row) (hn : n ≤ 5) (hp : p < n) (hr : r < n) (hs : s < 2)
    (hu : ∀ p x, p < n → x < 5 → gv_c (u p) x = gv_b row (10 * p + 5 * s + x)) (hv : ∀ p x, p < n → x < 5 → gv_c (v p) x = gv_b row (10 * p + 5 * (1 - s) + x))
    (h1 : ∀ x, x < p → t (x * 100 + r) = gv_I (!gv_W row x r (1 - s))) (h2 : ∀ x, x < r → t (p * 100 + x) = gv_I (!gv_W row p x (1 - s))) : (∃ x, x < n ∧ gv_Q u v t p 0 r x) ↔ gv_W row p r s = true := by
  rw [gv_Wr hD (show p < 5 by omega) (show r < 5 by omega) hs]
  have e1 : ∀ x, x < p → (¬ t ((x * 10 + 0) * 10 + r) = 0 ↔ gv_W row x r (1 - s) = false) := fun x hx => by
    rw [show (x * 10 + 0) * 10 + r = x * 100 + r by omega, h1 x hx, gv_I0]
    cases gv_W row x r (1 - s) <;> decide
  have e2 : ∀ x, x < r → (¬ t ((p * 10 + 0) * 10 + x) = 0 ↔ gv_W row p x (1 - s) = false) := fun x hx => by
    rw [show (p * 10 + 0) * 10 + x = p * 100 + x by omega, h2 x hx, gv_I0]
    cases gv_W row p x (1 - s) <;> decide
  constructor
  · rintro ⟨x, hx, h | h | h⟩
    · have hb := h.1
      rw [hu p x hp (by omega)] at hb
      have l := hD p s x (by omega) hs (by omega) hb
      exact ⟨x, by omega, Or.inl ⟨hb, (e1 x l).mp h.2⟩⟩
    · have hb := h.1
      rw [hu 0 x (by omega) (by omega)] at hb
      have l := hD 0 s x (by omega) hs (by omega) hb
      omega
    · have hb := h.1
      rw [hv r x hr (by omega)] at hb
      have l := hD r (1 - s) x (by omega) (by omega) (by omega) hb
      exact ⟨x, by omega, Or.inr ⟨hb, (e2 x l).mp h.2⟩⟩
  · rintro ⟨x, hx, h | h⟩
    · have l := hD p s x (by omega) hs (by omega) h.1
      exact ⟨x, by omega, Or.inl ⟨by rw [hu p x hp hx]; exact h.1, (e1 x l).mpr h.2⟩⟩
    · have l := hD r (1 - s) x (by omega) (by omega) (by omega) h.1
      exact ⟨x, by omega, Or.inr (Or.inr ⟨by rw [hv r x hr hx]; exact h.1, (e2 x l).mpr h.2⟩)⟩
theorem gv_nb {b w : Bool} {n : Nat} {Q : Nat → Prop} (hb : b = true ↔ ∀ x, x < n → ¬ Q x) (hw : (∃ x, x < n ∧ Q x) ↔ w = true) : b = !w := by
  cases w
  · show b = true
    rw [hb]
    intro x hx hq
    exact absurd (hw.mp ⟨x, hx, hq⟩) (by decide)
  · show b = false
    cases b
    · rfl
    · obtain ⟨x, hx, hq⟩ := hw.mpr rfl
      exact absurd hq (hb.mp rfl x hx)
theorem gv_ari {n i : Nat} (h1 : 1 ≤ n) (h5 : n ≤ 5) (hi : i < n * n * n) : i / (n * n) < n ∧ i / n % n < n ∧ i % n < n ∧ i = i / (n * n) * (n * n) + i / n % n * n + i % n ∧ i < 125 := by
  rcases (show n = 1 ∨ n = 2 ∨ n = 3 ∨ n = 4 ∨ n = 5 by omega) with rfl | rfl | rfl | rfl | rfl <;> omega
theorem gv_ari2 {n p x r : Nat} (h1 : 1 ≤ n) (h5 : n ≤ 5) (h : x < p) : x * (n * n) + r < p * (n * n) + r := by
  rcases (show n = 1 ∨ n = 2 ∨ n = 3 ∨ n = 4 ∨ n = 5 by omega) with rfl | rfl | rfl | rfl | rfl <;> omega
theorem gv_ari3 {n p q r p' r' : Nat} (h1 : 1 ≤ n) (h5 : n ≤ 5) (hq : q < n) (hr : r < n) (hr' : r' < n) (e : p' * (n * n) + r' = p * (n * n) + q * n + r) : p' = p ∧ q = 0 ∧ r' = r := by
  rcases (show n = 1 ∨ n = 2 ∨ n = 3 ∨ n = 4 ∨ n = 5 by omega) with rfl | rfl | rfl | rfl | rfl <;> omega
theorem gv_ari4 {n p r : Nat} (h1 : 1 ≤ n) (h5 : n ≤ 5) (hp : p < n) (hr : r < n) : p * (n * n) + r < n * n * n := by
  rcases (show n = 1 ∨ n = 2 ∨ n = 3 ∨ n = 4 ∨ n = 5 by omega) with rfl | rfl | rfl | rfl | rfl <;> omega
theorem gv_ari5 {n : Nat} (h1 : 1 ≤ n) (h5 : n ≤ 5) : n * n * n ≤ 125 ∧ n * n ≤ 25 ∧ 0 < n * n := by
  rcases (show n = 1 ∨ n = 2 ∨ n = 3 ∨ n = 4 ∨ n = 5 by omega) with rfl | rfl | rfl | rfl | rfl <;> omega
/-- one turn of learn -/
theorem gv_lst {n : Nat} {row : Int64} {a1 a2 a3 a4 : Nat → Int32} {p q r i : Nat} {b b' : Bool} (hD : gv_D row) (h1 : 1 ≤ n) (h5 : n ≤ 5) (hO : gv_O n row a1 a2) (hp : p < n) (hq : q < n) (hr : r < n) (hi : i = p * (n * n) + q * n + r) (hL : gv_L n row i a3 a4)
    (hb : b = true ↔ ∀ x, x < n → ¬ gv_Q a2 a1 a4 p q r x) (hb' : b' = true ↔ ∀ x, x < n → ¬ gv_Q a1 a2 (upd a3 ((p * 10 + q) * 10 + r) (gv_I b)) p q r x) :
    gv_L n row (i + 1) (upd a3 ((p * 10 + q) * 10 + r) (gv_I b)) (upd a4 ((p * 10 + q) * 10 + r) (gv_I b')) := by
  intro p' r' hp' hr' hlt
  by_cases e : p' * (n * n) + r' = i
  · obtain ⟨ep, eq, er⟩ := gv_ari3 h1 h5 hq hr hr' (e.trans hi)
    subst ep eq er
    have ec : (p' * 10 + 0) * 10 + r' = p' * 100 + r' := by omega
    rw [ec] at hb' ⊢
    rw [pk_us, pk_us]
    have B : b = !gv_W row p' r' 1 := gv_nb hb (gv_QW (s := 1) hD h5 hp' hr' (by omega) (fun p x hp hx => (hO p x hp hx).2) (fun p x hp hx => (hO p x hp hx).1)
      (fun x hx => (hL x r' (by omega) hr' (by rw [← e]; exact gv_ari2 h1 h5 hx)).2) (fun x hx => (hL p' x hp' (by omega) (by rw [← e]; omega)).2))
    have B' : b' = !gv_W row p' r' 0 := gv_nb hb' (gv_QW (s := 0) hD h5 hp' hr' (by omega) (fun p x hp hx => (hO p x hp hx).1) (fun p x hp hx => (hO p x hp hx).2)
      (fun x hx => by rw [pk_un (by omega)]; exact (hL x r' (by omega) hr' (by rw [← e]; exact gv_ari2 h1 h5 hx)).1) (fun x hx => by rw [pk_un (by omega)]; exact (hL p' x hp' (by omega) (by rw [← e]; omega)).1))
    exact ⟨congrArg gv_I B, congrArg gv_I B'⟩
  · have ne : p' * 100 + r' ≠ (p * 10 + q) * 10 + r := by
      intro z
      have ep : p' = p := by omega
      have eq : q = 0 := by omega
      have er : r' = r := by omega
      subst ep eq er
      exact e (by rw [hi]; omega)
    rw [pk_un ne, pk_un ne]
    exact hL p' r' hp' hr' (by omega)
theorem gv_uq {a : Nat → Int32} {c : Nat} {b : Bool} (hc : c < 2 ^ 31) : upd a (nI c).toNatClampNeg (vp_nar .boolean (gv_I b)) = upd a c (gv_I b) := by rw [nI_clamp hc, gv_vnar]
theorem gv_learn {post : St1 → Prop} {n : Nat} {row : Int64} {kn : Int32} {a1 a2 a3 a4 : Nat → Int32} (K : gv_K n row kn a1 a2 a3 a4)
    (H : ∀ kn' a3' a4', ¬ kn' = 0 → gv_T n row a3' a4' → post (nI n, kn', a1, a2, a3', a4')) : wpX_learn post (nI n, kn, a1, a2, a3, a4) := by
  obtain ⟨h1, h5, hD, hO, hT⟩ := K
  obtain ⟨g1, g2, g3⟩ := gv_ari5 h1 h5
  have e0 : nI n * nI n * nI n = nI (n * n * n) := by rw [pk_mul, pk_mul]
  refine br_c (fun _ => ?_) (fun z => H kn a3 a4 z (hT z))
  refine pk_loop (fun k i (s : (Nat → Int32) × (Nat → Int32)) => wX_learn_15 post (nI n) 1 k (nI i) a1 a2 s.1 s.2) (fun i s => gv_L n row i s.1 s.2) (n * n * n) 0 (a3, a4) (by omega) (fun p r _ _ z => absurd z (by omega)) ?_ ?_
  · intro k s h
    exact pk_le (n * n * n) (n * n * n) (fun _ => H 1 s.1 s.2 (by decide) (fun p r hp hr => h p r hp hr (gv_ari4 h1 h5 hp hr))) (fun z => absurd z (by omega)) (hx := e0)
  · intro k i s hi h hw
    obtain ⟨hp, hq, hr, he, hi2⟩ := gv_ari h1 h5 hi
    have e1 : ¬ nI n * nI n = 0 := by rw [pk_mul]; exact nI_ne0 g3 (by omega)
    have e2 : nI i / (nI n * nI n) = nI (i / (n * n)) := by rw [pk_mul]; exact pk_div (by omega) g3 (by omega)
    have e3 : ¬ nI n = 0 := nI_ne0 (by omega) (by omega)
    have hin : i / n ≤ i := Nat.div_le_self i n
    have e4 : nI i / nI n - nI i / nI n / nI n * nI n = nI (i / n % n) := by rw [pk_div (show i < 2 ^ 31 by omega) (show 0 < n by omega) (by omega)]; exact pk_rem (by omega) (by omega) (by omega)
    have e5 : nI i - nI i / nI n * nI n = nI (i % n) := pk_rem (by omega) (by omega) (by omega)
    have hw' : ∀ b b' : Bool, (b = true ↔ ∀ x, x < n → ¬ gv_Q a2 a1 s.2 (i / (n * n)) (i / n % n) (i % n) x) → (b' = true ↔ ∀ x, x < n → ¬ gv_Q a1 a2 (upd s.1 ((i / (n * n) * 10 + i / n % n) * 10 + i % n) (gv_I b)) (i / (n * n)) (i / n % n) (i % n) x) →
        wX_learn_15 post (nI n) 1 k (nI (i + 1)) a1 a2 (upd s.1 ((i / (n * n) * 10 + i / n % n) * 10 + i % n) (gv_I b)) (upd s.2 ((i / (n * n) * 10 + i / n % n) * 10 + i % n) (gv_I b')) :=
      fun b b' hb hb' => hw (_, _) (gv_lst hD h1 h5 hO hp hq hr he h hb hb')
    clear hw he
    refine pk_le (n * n * n) i (fun z => absurd z (by omega)) (fun _ => And.intro e1 (nm_r e2 (And.intro e3 (And.intro e3 (nm_r e4 (And.intro e3 (nm_r e5 ?_))))))) (hx := e0)
    generalize i / (n * n) = p at hp hw' ⊢
    generalize i / n % n = q at hq hw' ⊢
    generalize i % n = r at hr hw' ⊢
    refine gv_cel p q r ?_
    have hc : (p * 10 + q) * 10 + r < 1000 := by omega
    exact gv_ab h5 hp hq hr (fun b hb => And.intro (vp_in_nI hc (by omega)) (nm_r (gv_uq (by omega)) (gv_be h5 hp hq hr (fun b' hb' => And.intro (vp_in_nI hc (by omega)) (nm_r (gv_uq (by omega)) (nm_r (nI_1 i) (hw' b b' hb hb')))))))
end
section
/-! the class: first, values, wins, compare, add, drop -/
theorem gv_has {post : Int32 → Prop} {n p : Nat} {kn : Int32} {a1 a2 a3 a4 : Nat → Int32} (hn : n ≤ 5) (hp : p < n) (h : post 1) : wpX_has post (nI n, kn, a1, a2, a3, a4) (nI p) :=
  br_f (nI_pos (by omega)) (pk_le n p (fun z => absurd z (by omega)) (fun _ => h))
theorem gv_ial {post : Int32 → Prop} {n p q : Nat} {row : Int64} {kn : Int32} {a1 a2 a3 a4 : Nat → Int32} (hn : n ≤ 5) (hT : gv_T n row a3 a4) (hp : p < n) (hq : q < n) (h : post (gv_I (!gv_W row p q 1))) : wpX_isAtLeast post (nI n, kn, a1, a2, a3, a4) (nI p) (nI q) := by
  have e : (nI p * 100) + nI q = nI (p * 100 + q) := by
    show nI p * nI 100 + nI q = _
    rw [pk_mul, nI_add]
  show vp_in ((nI p * 100) + nI q) 1000 ∧ (narrow .boolean (.int (a3 ((nI p * 100) + nI q).toNatClampNeg)) = .int (a3 ((nI p * 100) + nI q).toNatClampNeg) ∧ (post (a3 ((nI p * 100) + nI q).toNatClampNeg)))
  rw [e, nI_clamp (show p * 100 + q < 2 ^ 31 by omega), (hT p q hp hq).1]
  exact ⟨vp_in_nI (by omega) (by omega), gv_nar _, h⟩
theorem gv_I0n {b : Bool} : gv_I (!b) = 0 ↔ b = true := by cases b <;> decide
theorem gv_first {post : Int32 → St1 → Prop} {n p : Nat} {row : Int64} {kn : Int32} {a1 a2 a3 a4 : Nat → Int32} (K : gv_K n row kn a1 a2 a3 a4) (hp : p < n)
    (H : ∀ kn' a3' a4' f, gv_K n row kn' a1 a2 a3' a4' → gv_F row p f → post (nI f) (nI n, kn', a1, a2, a3', a4')) : wpX_first post (nI n, kn, a1, a2, a3, a4) (nI p) := by
  have K0 := K
  obtain ⟨h1, h5, hD, hO, _⟩ := K0
  unfold wpX_first
  dsimp only
  refine gv_has h5 hp (br_f (by decide) (gv_learn K (fun kn' a3' a4' hk hT => ?_)))
  have K' : gv_K n row kn' a1 a2 a3' a4' := ⟨h1, h5, hD, hO, fun _ => hT⟩
  refine pk_loop (σ := Unit) (fun k i _ => wX_first_16 post (nI p) (nI n) kn' a1 a2 a3' a4' k (nI i)) (fun i _ => ∀ j, j < i → gv_E row p j = false) p 0 () (by omega) (fun j hj => absurd hj (by omega))
    (fun k _ h => pk_le p p (fun _ => H kn' a3' a4' p K' ⟨Nat.le_refl p, h, fun z => absurd z (by omega)⟩) (fun z => absurd z (by omega))) ?_
  intro k i _ hi h hw
  have nx : gv_E row p i = false → wX_first_16 post (nI p) (nI n) kn' a1 a2 a3' a4' k (nI (i + 1)) := fun t => hw () (lt_s h t)
  have st : gv_E row p i = true → post (nI i) (nI n, kn', a1, a2, a3', a4') := fun t => H kn' a3' a4' i K' ⟨by omega, h, fun _ => t⟩
  have s0 := gv_sy hD (show p < 5 by omega) (show i < 5 by omega)
  unfold gv_E at nx st
  rw [← s0] at nx st
  refine pk_le p i (fun z => absurd z (by omega)) (fun _ => gv_ial h5 hT hp (by omega) (ek_if gv_I0n (fun z => nm_r (nI_1 i) (nx (by rw [z]; rfl))) (fun z => gv_ial h5 hT (by omega) hp (ek_if gv_I0n (fun z2 => nm_r (nI_1 i) (nx (by rw [z2]; exact Bool.and_false _))) (fun z2 => st ?_)))))
  revert z z2
  cases gv_W row p i 1 <;> cases gv_W row i p 1 <;> decide
theorem gv_values {post : Int32 → St1 → Prop} {n : Nat} {row : Int64} {kn : Int32} {a1 a2 a3 a4 : Nat → Int32} (K : gv_K n row kn a1 a2 a3 a4)
    (H : ∀ kn' a3' a4', gv_K n row kn' a1 a2 a3' a4' → post (nI (gv_N row n)) (nI n, kn', a1, a2, a3', a4')) : wpX_values post (nI n, kn, a1, a2, a3, a4) := by
  have h5 := K.2.1
  refine pk_loop (fun k i (s : Int32 × (Nat → Int32) × (Nat → Int32)) => wX_values_4 post k (nI (gv_N row i)) (nI i) (nI n) s.1 a1 a2 s.2.1 s.2.2) (fun i s => gv_K n row s.1 a1 a2 s.2.1 s.2.2) n 0 (kn, a3, a4) (by omega) K
    (fun k s h => pk_le n n (fun _ => H s.1 s.2.1 s.2.2 h) (fun z => absurd z (by omega))) ?_
  intro k i s hi h hw
  have hw' : ∀ kn' a3' a4', gv_K n row kn' a1 a2 a3' a4' → wX_values_4 post k (nI (gv_N row (i + 1))) (nI (i + 1)) (nI n) kn' a1 a2 a3' a4' := fun kn' a3' a4' K' => hw (kn', a3', a4') K'
  refine pk_le n i (fun z => absurd z (by omega)) (fun _ => gv_first h hi (fun kn' a3' a4' f K' hF => ?_))
  have c : nI f = nI i ↔ gv_new row i = true := by
    have := hF.1
    rw [nI_eq (by omega) (by omega)]
    exact gv_Fn hF
  exact ek_if c (fun t => nm_r (by rw [nI_1, gv_Nt t]) (nm_r (nI_1 i) (hw' kn' a3' a4' K'))) (fun t => nm_r (show nI (gv_N row i) + nI 0 = nI (gv_N row (i + 1)) by rw [nI_add, gv_Nf t]; rfl) (nm_r (nI_1 i) (hw' kn' a3' a4' K')))
theorem gv_27 {post : Int32 → St1 → Prop} {n p s : Nat} {row : Int64} {kn : Int32} {a1 a2 a3 a4 : Nat → Int32} (K : gv_K n row kn a1 a2 a3 a4) (hp : p < n) (hs : s < 2)
    (H : ∀ kn' a3' a4', gv_K n row kn' a1 a2 a3' a4' → post (gv_I (gv_W row p 0 s)) (nI n, kn', a1, a2, a3', a4')) : wX_winsSum_27 post (nI p) 0 (nI s) (nI n) kn a1 a2 a3 a4 := by
  have K0 := K
  obtain ⟨h1, h5, hD, hO, _⟩ := K0
  refine gv_learn K (fun kn' a3' a4' hk hT => gv_cel p 0 0 ?_)
  have K' : gv_K n row kn' a1 a2 a3' a4' := ⟨h1, h5, hD, hO, fun _ => hT⟩
  have G := H kn' a3' a4' K'
  have hc : (nI ((p * 10 + 0) * 10 + 0)).toNatClampNeg = p * 100 + 0 := by
    rw [nI_clamp (by omega)]
    omega
  rcases (show s = 0 ∨ s = 1 by omega) with rfl | rfl
  · refine br_t rfl (And.intro (vp_in_nI (by omega) (by omega)) ?_)
    rw [hc, (hT p 0 hp (by omega)).2]
    exact ek_if gv_I0n (fun t => by rw [t] at G; exact G) (fun t => by rw [Bool.eq_false_iff.mpr t] at G; exact G)
  · refine br_f (by decide) (And.intro (vp_in_nI (by omega) (by omega)) ?_)
    rw [hc, (hT p 0 hp (by omega)).1]
    exact ek_if gv_I0n (fun t => by rw [t] at G; exact G) (fun t => by rw [Bool.eq_false_iff.mpr t] at G; exact G)
theorem gv_winsX {post : Int32 → St1 → Prop} {n p s : Nat} {row : Int64} {kn : Int32} {a1 a2 a3 a4 : Nat → Int32} (K : gv_K n row kn a1 a2 a3 a4) (hp : p < n) (hs : s < 2)
    (H : ∀ kn' a3' a4', gv_K n row kn' a1 a2 a3' a4' → post (gv_I (gv_W row p 0 s)) (nI n, kn', a1, a2, a3', a4')) : wpX_wins post (nI n, kn, a1, a2, a3, a4) (nI p) (nI s) := by
  have h1 := K.1
  have h5 := K.2.1
  unfold wpX_wins
  dsimp only
  unfold wpX_winsSum
  dsimp only
  refine gv_has h5 hp (br_f (by decide) (gv_has (p := 0) h5 (by omega) (br_f (by decide) ?_)))
  have G : wX_winsSum_27 (fun r_1 u => match u with | (f0_count_2, f0_known_3, am41_6, am42_9, am43_12, am44_15) => (narrow .boolean (.int r_1) = .int r_1 ∧ (post r_1 (f0_count_2, f0_known_3, am41_6, am42_9, am43_12, am44_15)))) (nI p) 0 (nI s) (nI n) kn a1 a2 a3 a4 :=
    gv_27 K hp hs (fun kn' a3' a4' K' => And.intro (gv_nar _) (H kn' a3' a4' K'))
  rcases (show s = 0 ∨ s = 1 by omega) with rfl | rfl
  · exact br_t rfl G
  · exact br_f (by decide) (br_t rfl G)
theorem gv_stand {post : Int32 → Prop} {n p q : Nat} {row : Int64} {kn : Int32} {a1 a2 a3 a4 : Nat → Int32} (hn : n ≤ 5) (hT : gv_T n row a3 a4) (hp : p < n) (hq : q < n) (H : post (gv_due row p q)) : wpX_standing post (nI n, kn, a1, a2, a3, a4) (nI ((p * 10 + 0) * 10 + q)) := by
  have hc : (nI ((p * 10 + 0) * 10 + q)).toNatClampNeg = p * 100 + q := by
    rw [nI_clamp (by omega)]
    omega
  have T1 : a3 (nI ((p * 10 + 0) * 10 + q)).toNatClampNeg = 0 ↔ gv_W row p q 1 = true := by
    rw [hc, (hT p q hp hq).1]
    exact gv_I0n
  have T0 : a4 (nI ((p * 10 + 0) * 10 + q)).toNatClampNeg = 0 ↔ gv_W row p q 0 = true := by
    rw [hc, (hT p q hp hq).2]
    exact gv_I0n
  have hv : vp_in (nI ((p * 10 + 0) * 10 + q)) 1000 := vp_in_nI (by omega) (by omega)
  unfold gv_due at H
  exact And.intro hv (ek_if T1 (fun z => And.intro hv (ek_if T0 (fun z0 => by rw [z, z0] at H; exact H) (fun z0 => by rw [z, Bool.eq_false_iff.mpr z0] at H; exact H)))
    (fun z => And.intro hv (ek_if T0 (fun z0 => by rw [Bool.eq_false_iff.mpr z, z0] at H; exact H) (fun z0 => by rw [Bool.eq_false_iff.mpr z, Bool.eq_false_iff.mpr z0] at H; exact H))))
theorem gv_compare {post : Int32 → St1 → Prop} {n p q : Nat} {row : Int64} {kn : Int32} {a1 a2 a3 a4 : Nat → Int32} (K : gv_K n row kn a1 a2 a3 a4) (hp : p < n) (hq : q < n)
    (H : ∀ kn' a3' a4', gv_K n row kn' a1 a2 a3' a4' → post (gv_due row p q) (nI n, kn', a1, a2, a3', a4')) : wpX_compare post (nI n, kn, a1, a2, a3, a4) (nI p) (nI q) := by
  have K0 := K
  obtain ⟨h1, h5, hD, hO, _⟩ := K0
  unfold wpX_compare
  dsimp only
  unfold wpX_compareSum
  dsimp only
  exact gv_has h5 hp (br_f (by decide) (gv_has (p := 0) h5 (by omega) (br_f (by decide) (gv_has h5 hq (br_f (by decide) (gv_learn K (fun kn' a3' a4' hk hT => gv_cel p 0 q (gv_stand h5 hT hp hq (H kn' a3' a4' ⟨h1, h5, hD, hO, fun _ => hT⟩)))))))))
theorem gv_isSet {post : Int32 → Prop} {n a : Nat} {kn : Int32} {a1 a2 a3 a4 : Nat → Int32} (hn : n ≤ 4) (ha : a < 2 ^ n) (h : post 1) : wpX_isSet post (nI n, kn, a1, a2, a3, a4) (nI a) := by
  have hb : 2 ^ n ≤ 2 ^ 4 := Nat.pow_le_pow_right (by omega) hn
  exact br_f (nI_pos (by omega)) (br_f (by rw [gv_one n (by omega)]; exact nI_ge ha (by omega)) h)
theorem gv_add {post : Int32 → St1 → Prop} {n lf rt : Nat} {kn : Int32} {a1 a2 a3 a4 : Nat → Int32} (hn : n ≤ 4) (hl : lf < 2 ^ n) (hr : rt < 2 ^ n)
    (H : post (nI n) (nI (n + 1), 0, upd a1 n (nI lf).toInt16.toInt32, upd a2 n (nI rt).toInt16.toInt32, a3, a4)) : wpX_add post (nI n, kn, a1, a2, a3, a4) (nI lf) (nI rt) := by
  have hc : (nI n).toNatClampNeg = n := nI_clamp (by omega)
  unfold wpX_add
  dsimp only
  refine gv_isSet hn hl (br_f (by decide) (gv_isSet hn hr (br_f (by decide) (pk_lt n 10 (fun _ => And.intro (pk_in n 10 (by omega)) (nm_e (And.intro (pk_in n 10 (by omega)) (nm_e (nm_r (nI_1 n) ?_))))) (fun z => absurd z (by omega))))))
  rw [hc, nI_pred]
  exact H
/-- the new object against the new row -/
theorem gv_Ka {n lf rt : Nat} {row row' : Int64} {kn : Int32} {a1 a2 a3 a4 : Nat → Int32} (hn : n ≤ 4) (hl : lf < 2 ^ n) (hr : rt < 2 ^ n) (K : gv_K n row kn a1 a2 a3 a4)
    (hb : ∀ i, i < 64 → gv_b row' i = if 10 * n ≤ i ∧ i < 10 * n + 10 then (if i - 10 * n < 5 then lf.testBit (i - 10 * n) else rt.testBit (i - 10 * n - 5)) else gv_b row i) :
    gv_K (n + 1) row' 0 (upd a1 n (nI lf).toInt16.toInt32) (upd a2 n (nI rt).toInt16.toInt32) a3 a4 := by
  obtain ⟨h1, h5, hD, hO, _⟩ := K
  refine ⟨by omega, by omega, gv_Da hn hD hl hr hb, ?_, fun z => absurd rfl z⟩
  intro p x hp hx
  rw [hb _ (by omega), hb _ (by omega)]
  by_cases e : p = n
  · subst e
    rw [pk_us, pk_us, gv_sh _ (by omega), gv_sh _ (by omega), gv_cnI _ (by omega), gv_cnI _ (by omega), if_pos (by omega), if_pos (by omega), if_pos (by omega), if_neg (by omega),
      show 10 * p + 5 * 0 + x - 10 * p = x by omega, show 10 * p + 5 * 1 + x - 10 * p - 5 = x by omega]
    exact ⟨rfl, rfl⟩
  · rw [pk_un e, pk_un e, if_neg (by omega), if_neg (by omega)]
    exact hO p x (by omega) hx
theorem gv_Kd {n m : Nat} {row row' : Int64} {kn kn' : Int32} {a1 a2 a3 a4 : Nat → Int32} (hm : 1 ≤ m) (hn : m ≤ n) (K : gv_K n row kn a1 a2 a3 a4) (hb : ∀ i, i < 64 → gv_b row' i = (gv_b row i && decide (i < 10 * m))) (hk : ¬ kn' = 0 → m = 1 ∧ gv_T 1 row a3 a4) : gv_K m row' kn' a1 a2 a3 a4 := by
  obtain ⟨h1, h5, hD, hO, _⟩ := K
  have hD' : gv_D row' := by
    intro p s x hp hs hx h
    rw [hb _ (by omega), Bool.and_eq_true] at h
    exact hD p s x hp hs hx h.1
  refine ⟨hm, by omega, hD', ?_, ?_⟩
  · intro p x hp hx
    rw [hb _ (by omega), hb _ (by omega), decide_eq_true (by omega), decide_eq_true (by omega), Bool.and_true, Bool.and_true]
    exact hO p x (by omega) hx
  · intro z
    obtain ⟨rfl, hT⟩ := hk z
    have w0 : ∀ ro s, gv_D ro → s < 2 → gv_W ro 0 0 s = false := by
      intro ro s hd hs
      rw [Bool.eq_false_iff]
      intro h
      rw [gv_Wr hd (by omega) (by omega) hs] at h
      obtain ⟨x, hx, h | h⟩ := h
      · have := hd 0 s x (by omega) hs hx h.1
        omega
      · have := hd 0 (1 - s) x (by omega) (by omega) hx h.1
        omega
    intro p r hp hr
    have ep : p = 0 := by omega
    have er : r = 0 := by omega
    subst ep er
    rw [w0 row' 1 hD' (by omega), w0 row' 0 hD' (by omega)]
    have t := hT 0 0 (by omega) (by omega)
    rw [w0 row 1 hD (by omega), w0 row 0 hD (by omega)] at t
    exact t
end
section
/-! the law's loops, and what is owed -/
theorem gv_l345 {post : Int32 → Prop} {L : Nat} {xs : Nat → Int32} {J16 : Int64 → Int32 → Int32 → Int32 → Int32 → (Nat → Int32) → (Nat → Int32) → (Nat → Int32) → (Nat → Int32) → Prop} {J208 : Int32 → Int32 → Int32 → Int32 → (Nat → Int32) → (Nat → Int32) → (Nat → Int32) → (Nat → Int32) → Prop}
    {x2 x9 : Int64} {x4 x5 x11 : Int32} {kc ks n p f : Nat} {row : Int64} {kn : Int32} {a1 a2 a3 a4 : Nat → Int32} (K : gv_K n row kn a1 a2 a3 a4) (hp : p < n) (hF : gv_F row p f)
    (H : ∀ kn' a3' a4', gv_K n row kn' a1 a2 a3' a4' → J208 x11 (nI (p + 1)) (nI n) kn' a1 a2 a3' a4') :
    wL_law_345 post L xs J16 J208 x2 x4 x5 x9 x11 (nI p) (nI f) (gv_I (gv_W row p 0 0)) (gv_I (gv_W row p 0 1)) kc ks (nI n) kn a1 a2 a3 a4 :=
  gv_first K hp (fun _ _ _ f' K' hF' => br_t (by rw [gv_Fu hF' hF]) (gv_winsX (s := 0) K' hp (by omega) (fun _ _ _ K2 => br_t rfl (gv_winsX (s := 1) K2 hp (by omega) (fun kn3 a33 a43 K3 => br_t rfl (nm_r (nI_1 p) (H kn3 a33 a43 K3)))))))
theorem gv_l299 {post : Int32 → Prop} {L : Nat} {xs : Nat → Int32} {J16 : Int64 → Int32 → Int32 → Int32 → Int32 → (Nat → Int32) → (Nat → Int32) → (Nat → Int32) → (Nat → Int32) → Prop} {J208 : Int32 → Int32 → Int32 → Int32 → (Nat → Int32) → (Nat → Int32) → (Nat → Int32) → (Nat → Int32) → Prop}
    {x2 won : Int64} {x4 x5 z0 : Int32} {kc ks n p f : Nat} {row : Int64} {kn : Int32} {a1 a2 a3 a4 : Nat → Int32} (K : gv_K n row kn a1 a2 a3 a4) (hp : p < n) (hF : gv_F row p f) (hV : ∀ p q s, p < 5 → q < 5 → s < 2 → gv_b won (10 * p + 2 * q + s) = gv_W row p q s)
    (H : ∀ kn' a3' a4', gv_K n row kn' a1 a2 a3' a4' → J208 z0 (nI (p + 1)) (nI n) kn' a1 a2 a3' a4') :
    wL_law_299 post L xs J16 J208 x2 x4 x5 won (nI p) (nI f) z0 kc ks (nI n) kn a1 a2 a3 a4 := by
  have h5 := K.2.1
  have A : wL_law_345 post L xs J16 J208 x2 x4 x5 won z0 (nI p) (nI f) (gv_I (gv_W row p 0 0)) (gv_I (gv_W row p 0 1)) kc ks (nI n) kn a1 a2 a3 a4 := gv_l345 K hp hF H
  have T0 : ((won >>> ((10 * nI p).toInt64 &&& 63)) &&& 1) = 1 ↔ gv_W row p 0 0 = true := by
    rw [gv_t1 won (10 * p + 2 * 0 + 0) (by omega) (gv_10 p), hV p 0 0 (by omega) (by omega) (by omega)]
  have T1 : ((won >>> (((10 * nI p) + 1).toInt64 &&& 63)) &&& 1) = 1 ↔ gv_W row p 0 1 = true := by
    rw [gv_t1 won (10 * p + 2 * 0 + 1) (by omega) (by rw [gv_10, nI_1]), hV p 0 1 (by omega) (by omega) (by omega)]
  exact ek_if T0 (fun t0 => ek_if T1 (fun t1 => by rw [t0, t1] at A; exact A) (fun t1 => by rw [t0, Bool.eq_false_iff.mpr t1] at A; exact A))
    (fun t0 => ek_if T1 (fun t1 => by rw [Bool.eq_false_iff.mpr t0, t1] at A; exact A) (fun t1 => by rw [Bool.eq_false_iff.mpr t0, Bool.eq_false_iff.mpr t1] at A; exact A))
theorem gv_l225 {post : Int32 → Prop} {L : Nat} {xs : Nat → Int32} {J16 : Int64 → Int32 → Int32 → Int32 → Int32 → (Nat → Int32) → (Nat → Int32) → (Nat → Int32) → (Nat → Int32) → Prop} {J208 : Int32 → Int32 → Int32 → Int32 → (Nat → Int32) → (Nat → Int32) → (Nat → Int32) → (Nat → Int32) → Prop}
    {x2 won : Int64} {x4 x5 : Int32} {kc ks n p : Nat} {row : Int64} {kn : Int32} {a1 a2 a3 a4 : Nat → Int32} (K : gv_K n row kn a1 a2 a3 a4) (hp : p < n) (hV : ∀ p q s, p < 5 → q < 5 → s < 2 → gv_b won (10 * p + 2 * q + s) = gv_W row p q s)
    (H : ∀ kn' a3' a4', gv_K n row kn' a1 a2 a3' a4' → J208 (nI (gv_N row (p + 1))) (nI (p + 1)) (nI n) kn' a1 a2 a3' a4') :
    ∃ k, wL_law_225 post L xs J16 J208 x2 x4 x5 won (nI (gv_N row p)) (nI p) kc ks k (nI p) (nI n - 1) (nI n) kn a1 a2 a3 a4 := by
  have h1 := K.1
  have h5 := K.2.1
  have M : wL_law_225 post L xs J16 J208 x2 x4 x5 won (nI (gv_N row p)) (nI p) kc ks (n + 1) (nI p) (nI n + (-1)) (nI n) kn a1 a2 a3 a4 := by
    refine pk_loopD (fun k i (s : Nat × Int32 × (Nat → Int32) × (Nat → Int32)) => wL_law_225 post L xs J16 J208 x2 x4 x5 won (nI (gv_N row p)) (nI p) kc ks k (nI s.1) (nI i + (-1)) (nI n) s.2.1 a1 a2 s.2.2.1 s.2.2.2)
      (fun i s => i ≤ n ∧ gv_K n row s.2.1 a1 a2 s.2.2.1 s.2.2.2 ∧ s.1 ≤ p ∧ (s.1 < p → gv_E row p s.1 = true) ∧ (∀ j, i ≤ j → j < s.1 → gv_E row p j = false)) ?_ ?_ n (p, kn, a3, a4) ⟨Nat.le_refl n, K, Nat.le_refl p, fun z => absurd z (by omega), fun j z z' => absurd (show j < p from z') (by omega)⟩
    · rintro k ⟨f, kn', a3', a4'⟩ ⟨_, K', hf, hE, hN⟩
      dsimp only at K' hf hE hN
      show wL_law_225 post L xs J16 J208 x2 x4 x5 won (nI (gv_N row p)) (nI p) kc ks (k + 1) (nI f) (nI 0 + (-1)) (nI n) kn' a1 a2 a3' a4'
      have hF : gv_F row p f := ⟨hf, fun j hj => hN j (Nat.zero_le j) hj, hE⟩
      have c : nI f = nI p ↔ gv_new row p = true := by
        rw [nI_eq (by omega) (by omega)]
        exact gv_Fn hF
      exact br_t (by decide) (ek_if c (fun t => gv_l299 K' hp hF hV (by rw [nI_1, ← gv_Nt t]; exact H)) (fun t => gv_l299 K' hp hF hV (by rw [← gv_Nf t]; exact H)))
    · rintro k i ⟨f, kn', a3', a4'⟩ ⟨hi, K', hf, hE, hN⟩ hw
      dsimp only at K' hf hE hN
      show wL_law_225 post L xs J16 J208 x2 x4 x5 won (nI (gv_N row p)) (nI p) kc ks (k + 1) (nI f) (nI (i + 1) + (-1)) (nI n) kn' a1 a2 a3' a4'
      rw [pk_m1]
      have nx : ∀ g, g ≤ p → (g < p → gv_E row p g = true) → (∀ j, i ≤ j → j < g → gv_E row p j = false) → wL_law_260 post L xs J16 J208 (wL_law_225 post L xs J16 J208 x2 x4 x5 won (nI (gv_N row p)) (nI p) kc ks k) x2 x4 x5 won (nI (gv_N row p)) (nI p) (nI i) (gv_due row p i) (nI g) kc ks (nI n) kn' a1 a2 a3' a4' := fun g hg hgE hgN =>
        gv_compare K' hp (by omega) (fun kn2 a32 a42 K2 => br_t rfl (nm_e (hw (g, kn2, a32, a42) ⟨by omega, K2, hg, hgE, hgN⟩)))
      refine br_f (nI_pos (by omega)) (gv_cmp (by omega) (by omega) hV (ek_if (gv_dE row p i) (fun e => pk_le f i (fun z => ?_) (fun z => ?_)) (fun e => ?_)))
      · exact nx f hf hE (fun j a b => absurd b (by omega))
      · exact nx i (by omega) (fun _ => e) (fun j a b => absurd b (by omega))
      · refine nx f hf hE (fun j a b => ?_)
        by_cases ej : j = i
        · rw [ej]
          exact Bool.eq_false_iff.mpr e
        · exact hN j (by omega) b
  have en : nI n - 1 = nI n + (-1) := by
    rw [show n = (n - 1) + 1 by omega, nI_pred, pk_m1]
  rw [en]
  exact ⟨n + 1, M⟩
theorem gv_l196 {post : Int32 → Prop} {L : Nat} {xs : Nat → Int32} {J16 : Int64 → Int32 → Int32 → Int32 → Int32 → (Nat → Int32) → (Nat → Int32) → (Nat → Int32) → (Nat → Int32) → Prop} {kc ks n i : Nat} {row : Int64} {kn : Int32} {a1 a2 a3 a4 : Nat → Int32} (K : gv_K n row kn a1 a2 a3 a4)
    (H : ∀ kn' a3' a4', gv_K n row kn' a1 a2 a3' a4' → J16 row (nI n) (nI (i + 1)) (nI n) kn' a1 a2 a3' a4') : wL_law_196 post L xs J16 row (nI n) (nI i) kc ks (nI n) kn a1 a2 a3 a4 := by
  have h5 := K.2.1
  refine gv_all K.2.2.1 (fun won hV => ?_)
  refine pk_loop (fun k p (s : Int32 × (Nat → Int32) × (Nat → Int32)) => wL_law_208 post L xs J16 row (nI n) (nI i) won kc ks k (nI (gv_N row p)) (nI p) (nI n) s.1 a1 a2 s.2.1 s.2.2) (fun p s => gv_K n row s.1 a1 a2 s.2.1 s.2.2) n 0 (kn, a3, a4) (by omega) K ?_ ?_
  · intro k s h
    exact pk_le n n (fun _ => gv_values h (fun kn' a3' a4' K' => br_t rfl (br_t rfl (nm_r (nI_1 i) (H kn' a3' a4' K'))))) (fun z => absurd z (by omega))
  · intro k p s hp h hw
    exact pk_le n p (fun z => absurd z (by omega)) (fun _ => nm_e (gv_l225 h hp hV (fun kn' a3' a4' K' => hw (kn', a3', a4') K')))
theorem gv_l140 {post : Int32 → Prop} {L : Nat} {xs : Nat → Int32} {J16 : Int64 → Int32 → Int32 → Int32 → Int32 → (Nat → Int32) → (Nat → Int32) → (Nat → Int32) → (Nat → Int32) → Prop} {kc ks n i : Nat} {row : Int64} {kn : Int32} {a1 a2 a3 a4 : Nat → Int32} (K : gv_K n row kn a1 a2 a3 a4)
    (H : ∀ n' row' kn' a1' a2' a3' a4', gv_K n' row' kn' a1' a2' a3' a4' → J16 row' (nI n') (nI (i + 1)) (nI n') kn' a1' a2' a3' a4') : wL_law_140 post L xs J16 row (nI n) (nI i) kc ks (nI n) kn a1 a2 a3 a4 := by
  have h1 := K.1
  have h5 := K.2.1
  by_cases e : n = 1
  · subst e
    have K' : gv_K 1 (row &&& (((1 : Int64) <<< ((10 * nI 1).toInt64 &&& 63)) - 1)) kn a1 a2 a3 a4 := gv_Kd (by omega) (by omega) K (fun i hi => gv_rd row (by omega) hi) (fun z => ⟨rfl, K.2.2.2.2 z⟩)
    exact br_t rfl (pk_le 1 1 (fun _ => br_t rfl (pk_le 1 1 (fun _ => nm_e (gv_l196 K' (fun kn' a3' a4' K2 => H 1 _ kn' a1 a2 a3' a4' K2))) (fun z => absurd z (by omega)))) (fun z => absurd z (by omega)))
  · obtain ⟨m, rfl⟩ : ∃ m, n = m + 1 := ⟨n - 1, by omega⟩
    have K' : gv_K m (row &&& (((1 : Int64) <<< ((10 * nI m).toInt64 &&& 63)) - 1)) 0 a1 a2 a3 a4 := gv_Kd (by omega) (by omega) K (fun i hi => gv_rd row (by omega) hi) (fun z => absurd rfl z)
    have G : wL_law_182 post L xs J16 row (nI i) (nI (m + 1) - 1) kc ks (nI m) 0 a1 a2 a3 a4 := by
      rw [nI_pred]
      exact nm_e (gv_l196 K' (fun kn' a3' a4' K2 => H m _ kn' a1 a2 a3' a4' K2))
    have c : ¬ nI (m + 1) = 1 := fun z => e ((nI_eq (a := m + 1) (b := 1) (by omega) (by omega)).mp z)
    exact br_f c (nm_r (nI_pred m) (pk_le (m + 1) 1 (fun z => absurd z (by omega)) (fun _ => br_t (nI_pred m).symm (pk_le (m + 1) 1 (fun z => absurd z (by omega)) (fun _ => G)))))
theorem gv_step {post : Int32 → Prop} {L : Nat} {xs : Nat → Int32} {kc ks n i k : Nat} {row : Int64} {kn : Int32} {a1 a2 a3 a4 : Nat → Int32} (hL : L ≤ 260) (hi : i < L) (K : gv_K n row kn a1 a2 a3 a4)
    (H : ∀ n' row' kn' a1' a2' a3' a4', gv_K n' row' kn' a1' a2' a3' a4' → wL_law_16 post L xs kc ks k row' (nI n') (nI (i + 1)) (nI n') kn' a1' a2' a3' a4') : wL_law_16 post L xs kc ks (k + 1) row (nI n) (nI i) (nI n) kn a1 a2 a3 a4 := by
  have h1 := K.1
  have h5 := K.2.1
  have D : wL_law_140 post L xs (wL_law_16 post L xs kc ks k) row (nI n) (nI i) kc ks (nI n) kn a1 a2 a3 a4 := gv_l140 K H
  refine pk_le L i (fun z => absurd z (by omega)) (fun _ => And.intro (pk_in i L hi) (nm_e (And.intro (pk_in i L hi) (nm_e (nm_e (br_c (fun _ => D) (fun _ => pk_le 5 n (fun _ => D) (fun hn => ?_))))))))
  generalize (xs (nI i).toNatClampNeg) >>> ((4 : Int32) &&& 31) = w
  obtain ⟨lf, hl, el⟩ := pk_andE w n (gv_full n hn)
  obtain ⟨rt, hr, er⟩ := pk_andE (w >>> ((5 : Int32) &&& 31)) n (gv_full n hn)
  have hb : 2 ^ n ≤ 2 ^ 4 := Nat.pow_le_pow_right (by omega) (by omega)
  refine nm_r el (nm_r er (gv_add (by omega) hl hr (br_t rfl (nm_e (nm_e (nm_r (nI_1 n) ?_))))))
  exact gv_l196 (gv_Ka (by omega) hl hr K (fun j hj => gv_ra row (by omega) (by omega) (by omega) hj)) (fun kn' a3' a4' K2 => H (n + 1) _ kn' _ _ a3' a4' K2)
theorem gv_K1 : gv_K 1 0 0 (fun _ => 0) (fun _ => 0) (fun _ => 0) (fun _ => 0) :=
  ⟨by omega, by omega, fun p s x _ _ _ h => by rw [gv_b_0] at h; exact absurd h (by decide), fun p x _ _ => ⟨by rw [gv_c_0, gv_b_0], by rw [gv_c_0, gv_b_0]⟩, fun z => absurd rfl z⟩
theorem i_vc (xs : Nat → Int32) (L : Nat) (hL : L ≤ 260) : wpL_law (fun r => r = 1) L xs := by
  refine Exists.intro 4 (Exists.intro 2020 (And.intro (by omega) (And.intro (by omega) (And.intro (by omega) (And.intro (by omega) (And.intro (by omega) (And.intro (by omega) (And.intro (by omega) (And.intro (by omega) (And.intro (by omega) (And.intro (by omega) ?_)))))))))))
  refine pk_loop (fun k i (s : Nat × Int64 × Int32 × (Nat → Int32) × (Nat → Int32) × (Nat → Int32) × (Nat → Int32)) => wL_law_16 (fun r => r = 1) L xs (1 + 4) (6 + 2020) k s.2.1 (nI s.1) (nI i) (nI s.1) s.2.2.1 s.2.2.2.1 s.2.2.2.2.1 s.2.2.2.2.2.1 s.2.2.2.2.2.2)
    (fun i s => gv_K s.1 s.2.1 s.2.2.1 s.2.2.2.1 s.2.2.2.2.1 s.2.2.2.2.2.1 s.2.2.2.2.2.2) L 0 (1, 0, 0, (fun _ => 0), (fun _ => 0), (fun _ => 0), (fun _ => 0)) (by omega) gv_K1 ?_ ?_
  · intro k s h
    exact pk_le L L (fun _ => rfl) (fun z => absurd z (by omega))
  · intro k i s hi h hw
    exact gv_step hL hi h (fun n' row' kn' a1' a2' a3' a4' K' => hw (n', row', kn', a1', a2', a3', a4') K')
end

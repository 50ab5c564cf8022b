section
/-! ===== lN n to 2^64: shifts, and, or, masks, one bit ===== -/
theorem wb_tb (n : Nat) : (lN n).toBitVec = BitVec.ofNat 64 n := rfl
theorem wb_inj {a b : Int64} (h : a.toBitVec = b.toBitVec) : a = b := Int64.toBitVec_inj.mp h
theorem wb_tn {n : Nat} (h : n < 2 ^ 64) : (lN n).toBitVec.toNat = n := by rw [wb_tb, BitVec.toNat_ofNat, Nat.mod_eq_of_lt h]
theorem wb_of (x : Int64) : ∃ n, n < 2 ^ 64 ∧ x = lN n := ⟨x.toBitVec.toNat, x.toBitVec.isLt, wb_inj (by rw [wb_tb]; simp)⟩
theorem wb_of32 (x : Int32) : ∃ n, n < 2 ^ 32 ∧ x = nI n := ⟨x.toBitVec.toNat, x.toBitVec.isLt, Int32.toBitVec_inj.mp (by show _ = BitVec.ofNat 32 _; simp)⟩
theorem wb_c : ∀ k, k < 64 → ((nI k).toInt64 &&& 63) = lN k := by decide +kernel
theorem wb_cu : ∀ k, k < 64 → ((nI k).toInt64.toUInt64 &&& Int64.toUInt64 63) = UInt64.ofNat k := by decide +kernel
theorem wb_sm : ∀ k, k < 64 → (BitVec.ofNat 64 k).smod 64 = BitVec.ofNat 64 k := by decide +kernel
theorem wb_pw {a b : Nat} (h : a ≤ b) : 2 ^ b = 2 ^ a * 2 ^ (b - a) := by rw [← Nat.pow_add]; congr 1; omega
theorem wb_lt2 {a b : Nat} (h : a < b) : 2 ^ a < 2 ^ b := Nat.pow_lt_pow_right (by decide) h
theorem wb_mod (n : Nat) : lN n = lN (n % 2 ^ 64) := wb_inj (by rw [wb_tb, wb_tb]; apply BitVec.eq_of_toNat_eq; rw [BitVec.toNat_ofNat, BitVec.toNat_ofNat, Nat.mod_mod])
theorem wb_shr {n k : Nat} (hn : n < 2 ^ 64) (hk : k < 64) : ((lN n).toUInt64 >>> ((nI k).toInt64.toUInt64 &&& Int64.toUInt64 63)).toInt64 = lN (n / 2 ^ k) := by
  rw [wb_cu k hk]
  apply wb_inj
  apply BitVec.eq_of_toNat_eq
  show ((lN n).toUInt64 >>> UInt64.ofNat k).toNat = (BitVec.ofNat 64 _).toNat
  have h1 : (UInt64.ofNat k).toNat = k := by
    show (BitVec.ofNat 64 k).toNat = k
    rw [BitVec.toNat_ofNat, Nat.mod_eq_of_lt (by omega)]
  have h2 : (lN n).toUInt64.toNat = n := wb_tn hn
  rw [UInt64.toNat_shiftRight, h1, h2, Nat.mod_eq_of_lt hk, Nat.shiftRight_eq_div_pow, BitVec.toNat_ofNat, Nat.mod_eq_of_lt (Nat.lt_of_le_of_lt (Nat.div_le_self _ _) hn)]
theorem wb_shl (n : Nat) {k : Nat} (hk : k < 64) : lN n <<< ((nI k).toInt64 &&& 63) = lN (n * 2 ^ k) := by
  rw [wb_c k hk]
  apply wb_inj
  rw [Int64.toBitVec_shiftLeft, wb_tb, wb_tb, wb_tb, wb_sm k hk]
  apply BitVec.eq_of_toNat_eq
  rw [BitVec.shiftLeft_eq', BitVec.toNat_shiftLeft, BitVec.toNat_ofNat, BitVec.toNat_ofNat, BitVec.toNat_ofNat, Nat.mod_eq_of_lt (show k < 2 ^ 64 by omega), Nat.shiftLeft_eq, Nat.mul_mod, Nat.mod_mod, ← Nat.mul_mod]
theorem wb_and {a b : Nat} (ha : a < 2 ^ 64) (hb : b < 2 ^ 64) : lN a &&& lN b = lN (a &&& b) := by
  apply wb_inj
  rw [Int64.toBitVec_and, wb_tb, wb_tb, wb_tb]
  apply BitVec.eq_of_toNat_eq
  rw [BitVec.toNat_and, BitVec.toNat_ofNat, BitVec.toNat_ofNat, BitVec.toNat_ofNat, Nat.mod_eq_of_lt ha, Nat.mod_eq_of_lt hb, Nat.mod_eq_of_lt (Nat.and_lt_two_pow _ hb)]
theorem wb_or {a b : Nat} (ha : a < 2 ^ 64) (hb : b < 2 ^ 64) : lN a ||| lN b = lN (a ||| b) := by
  apply wb_inj
  rw [Int64.toBitVec_or, wb_tb, wb_tb, wb_tb]
  apply BitVec.eq_of_toNat_eq
  rw [BitVec.toNat_or, BitVec.toNat_ofNat, BitVec.toNat_ofNat, BitVec.toNat_ofNat, Nat.mod_eq_of_lt ha, Nat.mod_eq_of_lt hb, Nat.mod_eq_of_lt (Nat.or_lt_two_pow ha hb)]
theorem wb_mask {n k : Nat} (hn : n < 2 ^ 64) (hk : k < 64) : lN n &&& lN (2 ^ k - 1) = lN (n % 2 ^ k) := by
  rw [wb_and hn (by have := wb_lt2 hk; omega), Nat.and_two_pow_sub_one_eq_mod]
theorem wb_a1 {n : Nat} (hn : n < 2 ^ 64) : lN n &&& 1 = lN (n % 2) := wb_mask (k := 1) hn (by decide)
theorem wb_bit {n k : Nat} (hn : n < 2 ^ 64) (hk : k < 64) : ((lN n).toUInt64 >>> ((nI k).toInt64.toUInt64 &&& Int64.toUInt64 63)).toInt64 &&& 1 = lN (n / 2 ^ k % 2) := by
  rw [wb_shr hn hk, wb_a1 (Nat.lt_of_le_of_lt (Nat.div_le_self _ _) hn)]
/-! ===== bits of small masks ===== -/
theorem lj_sl : ∀ n, n < 32 → ((nI n &&& 31).toBitVec.smod 32).toNat = n := by decide +kernel
theorem lj_or (a b : Nat) : nI a ||| nI b = nI (a ||| b) := by
  apply Int32.toBitVec_inj.1
  show BitVec.ofNat 32 a ||| BitVec.ofNat 32 b = BitVec.ofNat 32 (a ||| b)
  apply BitVec.eq_of_getLsbD_eq
  intro i hi
  simp [hi]
theorem lj_bitv {q x : Nat} (hq : q < 2 ^ 31) (hx : x < 32) : (nI q >>> (nI x &&& 31)) &&& 1 = nI (q / 2 ^ x % 2) := by
  rw [pk_shrN hq (nI x &&& 31) x (lj_sl x hx)]
  have h : q / 2 ^ x < 2 ^ 32 := Nat.lt_of_le_of_lt (Nat.div_le_self _ _) (by omega)
  exact pk_andN h 1 (by decide)
theorem lj_bit0 {q x : Nat} (hq : q < 2 ^ 31) (hx : x < 32) : ((nI q >>> (nI x &&& 31)) &&& 1) = 0 ↔ q.testBit x = false := by
  rw [lj_bitv hq hx, Nat.testBit_eq_decide_div_mod_eq, decide_eq_false_iff_not]
  generalize q / 2 ^ x = z
  have h : z % 2 < 2 ^ 31 := by omega
  rw [← nI_0, nI_eq h (by omega)]
  omega
theorem lj_bit1 {q x : Nat} (hq : q < 2 ^ 31) (hx : x < 32) : ((nI q >>> (nI x &&& 31)) &&& 1) = 1 ↔ q.testBit x = true := by
  rw [lj_bitv hq hx, Nat.testBit_eq_decide_div_mod_eq, decide_eq_true_iff]
  generalize q / 2 ^ x = z
  have h : z % 2 < 2 ^ 31 := by omega
  exact nI_eq h (by omega : 1 < 2 ^ 31)
theorem lj_one : ∀ x, x < 31 → (1 : Int32) <<< (nI x &&& 31) = nI (2 ^ x) := by decide +kernel
theorem lj_off : ∀ m, m < 256 → ∀ y, y < 8 → (nI m &&& (((1 : Int32) <<< (nI y &&& 31)) ^^^ (-1))).toInt16.toInt32 = nI (m &&& (255 ^^^ 2 ^ y)) := by decide +kernel
theorem lj_on : ∀ m, m < 256 → ∀ y, y < 8 → (nI m ||| ((1 : Int32) <<< (nI y &&& 31))).toInt16.toInt32 = nI (m ||| 2 ^ y) := by decide +kernel
theorem lj_255 : ∀ z, z < 8 → Nat.testBit 255 z = true := by decide +kernel
theorem lj_pw8 {y : Nat} (hy : y < 8) : 2 ^ y < 256 := Nat.lt_of_lt_of_le (Nat.pow_lt_pow_right (by decide) hy) (by decide)
theorem lj_onlt {m y : Nat} (hm : m < 256) (hy : y < 8) : m ||| 2 ^ y < 256 := Nat.or_lt_two_pow (n := 8) hm (lj_pw8 hy)
theorem lj_offlt {m : Nat} (y : Nat) (hm : m < 256) : m &&& (255 ^^^ 2 ^ y) < 256 := by
  rw [Nat.and_comm]
  exact Nat.and_lt_two_pow (n := 8) _ hm
theorem lj_ont (m y z : Nat) : (m ||| 2 ^ y).testBit z = (m.testBit z || decide (y = z)) := by
  rw [Nat.testBit_or, Nat.testBit_two_pow]
theorem lj_offt (m y : Nat) {z : Nat} (hz : z < 8) : (m &&& (255 ^^^ 2 ^ y)).testBit z = (m.testBit z && !decide (y = z)) := by
  rw [Nat.testBit_and, Nat.testBit_xor, Nat.testBit_two_pow, lj_255 z hz, Bool.true_xor]
theorem lj_eq8 {a b : Nat} (ha : a < 256) (hb : b < 256) (h : ∀ z, z < 8 → a.testBit z = b.testBit z) : a = b := by
  apply Nat.eq_of_testBit_eq
  intro i
  rcases Nat.lt_or_ge i 8 with hi | hi
  · exact h i hi
  · have p : 2 ^ 8 ≤ 2 ^ i := Nat.pow_le_pow_right (by decide) hi
    rw [Nat.testBit_lt_two_pow (show a < 2 ^ i by omega), Nat.testBit_lt_two_pow (show b < 2 ^ i by omega)]
theorem lj_onoff {m y : Nat} (hm : m < 256) (hy : y < 8) (hb : m.testBit y = true) : (m &&& (255 ^^^ 2 ^ y)) ||| 2 ^ y = m := by
  apply lj_eq8 (lj_onlt (lj_offlt y hm) hy) hm
  intro z hz
  rw [lj_ont, lj_offt m y hz]
  by_cases e : y = z
  · subst e
    rw [hb]
    simp
  · simp [e]
theorem lj_nz {m : Nat} (hm : m < 256) : m ≠ 0 ↔ ∃ z, z < 8 ∧ m.testBit z = true := by
  constructor
  · intro h
    obtain ⟨i, hi⟩ := Nat.exists_testBit_of_ne_zero h
    refine ⟨i, ?_, hi⟩
    rcases Nat.lt_or_ge i 8 with g | g
    · exact g
    · have p : 2 ^ 8 ≤ 2 ^ i := Nat.pow_le_pow_right (by decide) g
      rw [Nat.testBit_lt_two_pow (show m < 2 ^ i by omega)] at hi
      exact absurd hi (by decide)
  · rintro ⟨z, _, h⟩ e
    rw [e, Nat.zero_testBit] at h
    exact absurd h (by decide)
theorem lj_b8 : ∀ n, n < 128 → (nI n).toInt8.toInt32 = nI n := by decide +kernel
theorem lj_or0 (x : Int32) : x ||| 0 = x := by
  apply Int32.toBitVec_inj.1
  rw [Int32.toBitVec_or]
  exact BitVec.or_zero
theorem lj_or1 {c : Nat} (h : c ≤ 1) : nI c ||| 1 = nI 1 := by
  have : c = 0 ∨ c = 1 := by omega
  rcases this with rfl | rfl <;> decide
end
section
/-! ===== counting ===== -/
noncomputable def lj_b (P : Prop) : Nat := @ite Nat P (Classical.propDecidable P) 1 0
theorem lj_b_t {P : Prop} (h : P) : lj_b P = 1 := by
  unfold lj_b
  exact if_pos h
theorem lj_b_f {P : Prop} (h : ¬ P) : lj_b P = 0 := by
  unfold lj_b
  exact if_neg h
theorem lj_b_le (P : Prop) : lj_b P ≤ 1 := by
  by_cases h : P
  · rw [lj_b_t h]; exact Nat.le_refl 1
  · rw [lj_b_f h]; exact Nat.zero_le 1
/-- how many members of A stand below n -/
noncomputable def lj_cn (A : Nat → Prop) : Nat → Nat
  | 0 => 0
  | n + 1 => lj_cn A n + lj_b (A n)
theorem lj_cn_0 (A : Nat → Prop) : lj_cn A 0 = 0 := rfl
theorem lj_cn_s (A : Nat → Prop) (n : Nat) : lj_cn A (n + 1) = lj_cn A n + lj_b (A n) := rfl
theorem lj_cn_le (A : Nat → Prop) (n : Nat) : lj_cn A n ≤ n := by
  induction n with
  | zero => exact Nat.le_refl 0
  | succ n ih =>
    rw [lj_cn_s]
    have := lj_b_le (A n)
    omega
theorem lj_cn_mono (A : Nat → Prop) {a b : Nat} (h : a ≤ b) : lj_cn A a ≤ lj_cn A b := by
  induction b with
  | zero =>
    have : a = 0 := by omega
    subst this
    exact Nat.le_refl _
  | succ b ih =>
    by_cases e : a = b + 1
    · subst e
      exact Nat.le_refl _
    · have := ih (by omega)
      rw [lj_cn_s]
      omega
theorem lj_cn_skip {A : Nat → Prop} {a b : Nat} (h : a ≤ b) (hn : ∀ q, a ≤ q → q < b → ¬ A q) : lj_cn A b = lj_cn A a := by
  induction b with
  | zero =>
    have : a = 0 := by omega
    subst this
    rfl
  | succ b ih =>
    by_cases e : a = b + 1
    · subst e
      rfl
    · rw [lj_cn_s, lj_b_f (hn b (by omega) (by omega)), ih (by omega) (fun q h1 h2 => hn q h1 (by omega))]
      rfl
theorem lj_cn_next {A : Nat → Prop} {a m : Nat} (h : a ≤ m) (hA : A m) (hn : ∀ q, a ≤ q → q < m → ¬ A q) : lj_cn A (m + 1) = lj_cn A a + 1 := by
  rw [lj_cn_s, lj_b_t hA, lj_cn_skip h hn]
theorem lj_cn_lt {A : Nat → Prop} {a b : Nat} (h : a < b) (hA : A a) : lj_cn A a < lj_cn A b := by
  have h1 : lj_cn A (a + 1) = lj_cn A a + 1 := by rw [lj_cn_s, lj_b_t hA]
  have h2 := lj_cn_mono A (show a + 1 ≤ b from h)
  omega
theorem lj_cn_sub {A B : Nat → Prop} {n : Nat} (h : ∀ m, m < n → A m → B m) : lj_cn A n ≤ lj_cn B n := by
  induction n with
  | zero => exact Nat.le_refl _
  | succ n ih =>
    have h1 := ih (fun m hm => h m (by omega))
    rw [lj_cn_s, lj_cn_s]
    by_cases e : A n
    · rw [lj_b_t e, lj_b_t (h n (by omega) e)]
      omega
    · rw [lj_b_f e]
      omega
theorem lj_cn_iff {A B : Nat → Prop} {n : Nat} (h : ∀ m, m < n → (A m ↔ B m)) : lj_cn A n = lj_cn B n :=
  Nat.le_antisymm (lj_cn_sub (fun m hm => (h m hm).mp)) (lj_cn_sub (fun m hm => (h m hm).mpr))
theorem lj_cn_pos {A : Nat → Prop} {n : Nat} : 0 < lj_cn A n ↔ ∃ m, m < n ∧ A m := by
  constructor
  · intro h
    by_cases e : ∃ m, m < n ∧ A m
    · exact e
    · have : lj_cn A n = lj_cn A 0 := lj_cn_skip (Nat.zero_le n) (fun q _ hq hA => e ⟨q, hq, hA⟩)
      rw [this, lj_cn_0] at h
      omega
  · rintro ⟨m, hm, hA⟩
    have := lj_cn_lt hm hA
    omega
theorem lj_cn_add (A : Nat → Prop) (k : Nat → Nat) (j n : Nat) : lj_cn (fun m => A m ∧ k m < j) n + lj_cn (fun m => A m ∧ k m = j) n = lj_cn (fun m => A m ∧ k m < j + 1) n := by
  induction n with
  | zero => rfl
  | succ n ih =>
    rw [lj_cn_s, lj_cn_s, lj_cn_s]
    by_cases hA : A n
    · rcases Nat.lt_trichotomy (k n) j with h | h | h
      · rw [lj_b_t (show A n ∧ k n < j from ⟨hA, h⟩), lj_b_f (show ¬ (A n ∧ k n = j) from fun z => by have := z.2; omega), lj_b_t (show A n ∧ k n < j + 1 from ⟨hA, by omega⟩)]
        omega
      · rw [lj_b_f (show ¬ (A n ∧ k n < j) from fun z => by have := z.2; omega), lj_b_t (show A n ∧ k n = j from ⟨hA, h⟩), lj_b_t (show A n ∧ k n < j + 1 from ⟨hA, by omega⟩)]
        omega
      · rw [lj_b_f (show ¬ (A n ∧ k n < j) from fun z => by have := z.2; omega), lj_b_f (show ¬ (A n ∧ k n = j) from fun z => by have := z.2; omega), lj_b_f (show ¬ (A n ∧ k n < j + 1) from fun z => by have := z.2; omega)]
        omega
    · rw [lj_b_f (show ¬ (A n ∧ k n < j) from fun z => hA z.1), lj_b_f (show ¬ (A n ∧ k n = j) from fun z => hA z.1), lj_b_f (show ¬ (A n ∧ k n < j + 1) from fun z => hA z.1)]
      omega
/-- a square read by rows and by columns -/
theorem lj_swap (T : Nat → Nat → Prop) : lj_cn (fun p => T (p / 8) (p % 8)) 64 = lj_cn (fun p => T (p % 8) (p / 8)) 64 := by
  simp only [lj_cn, Nat.reduceDiv, Nat.reduceMod]
  omega
theorem lj_diagc (D : Nat → Prop) : lj_cn (fun p => D (p / 8) ∧ p / 8 = p % 8) 64 = lj_cn D 8 := by
  have hf : lj_b False = 0 := lj_b_f (fun z => z)
  simp [lj_cn, hf]
theorem lj_bq (q x : Nat) : lj_b (q.testBit x = true) = q / 2 ^ x % 2 := by
  by_cases h : q.testBit x = true
  · rw [lj_b_t h]
    rw [Nat.testBit_eq_decide_div_mod_eq, decide_eq_true_iff] at h
    exact h.symm
  · rw [lj_b_f h]
    rw [Nat.testBit_eq_decide_div_mod_eq, decide_eq_true_iff] at h
    generalize q / 2 ^ x = z at h ⊢
    omega
/-! ===== the least one from a place on ===== -/
def lj_lp (P : Nat → Prop) (x y : Nat) : Prop := x ≤ y ∧ y ≤ 8 ∧ (∀ z, x ≤ z → z < y → ¬ P z) ∧ (y < 8 → P y)
theorem lj_lp_iff {P Q : Nat → Prop} {x y : Nat} (h : ∀ z, z < 8 → (P z ↔ Q z)) (hp : lj_lp P x y) : lj_lp Q x y :=
  ⟨hp.1, hp.2.1, fun z h1 h2 hq => hp.2.2.1 z h1 h2 ((h z (by have := hp.2.1; omega)).mpr hq), fun hy => (h y hy).mp (hp.2.2.2 hy)⟩
theorem lj_nl {P : Nat → Prop} {x i : Nat} (h : ∀ z, x ≤ z → z < i → ¬ P z) (hi : ¬ P i) : ∀ z, x ≤ z → z < i + 1 → ¬ P z := by
  intro z h1 h2
  by_cases e : z = i
  · rw [e]; exact hi
  · exact h z h1 (by omega)
/-- r is the least member of A from c on, below 4096; -1 when there is none -/
def lj_nx (A : Nat → Prop) (c : Nat) (r : Int32) : Prop := (r = -1 ∧ ∀ m, c ≤ m → m < 4096 → ¬ A m) ∨ ∃ m, r = nI m ∧ c ≤ m ∧ m < 4096 ∧ A m ∧ ∀ q, c ≤ q → q < m → ¬ A q
/-! ===== digits ===== -/
def lj_dg (n d : Nat) : Nat := n / 8 ^ (3 - d) % 8
theorem lj_dg_lt (n d : Nat) : lj_dg n d < 8 := Nat.mod_lt _ (by decide)
theorem lj_dg0 (n : Nat) : lj_dg n 0 = n / 512 % 8 := rfl
theorem lj_dg1 (n : Nat) : lj_dg n 1 = n / 64 % 8 := rfl
theorem lj_dg2 (n : Nat) : lj_dg n 2 = n / 8 % 8 := rfl
theorem lj_dg3 (n : Nat) : lj_dg n 3 = n % 8 := by
  show n / 1 % 8 = n % 8
  rw [Nat.div_one]
/-- the number of the digits t 0 .. t (d - 1) -/
def lj_pre (t : Nat → Nat) : Nat → Nat
  | 0 => 0
  | d + 1 => lj_pre t d * 8 + t d
theorem lj_pre1 (t : Nat → Nat) : lj_pre t 1 = t 0 := by
  show 0 * 8 + t 0 = t 0
  omega
theorem lj_pre2 (t : Nat → Nat) : lj_pre t 2 = t 0 * 8 + t 1 := by
  show (0 * 8 + t 0) * 8 + t 1 = t 0 * 8 + t 1
  omega
theorem lj_pre3 (t : Nat → Nat) : lj_pre t 3 = t 0 * 64 + t 1 * 8 + t 2 := by
  show ((0 * 8 + t 0) * 8 + t 1) * 8 + t 2 = _
  omega
theorem lj_pre4 (t : Nat → Nat) : lj_pre t 4 = t 0 * 512 + t 1 * 64 + t 2 * 8 + t 3 := by
  show (((0 * 8 + t 0) * 8 + t 1) * 8 + t 2) * 8 + t 3 = _
  omega
/-- rounds of the search, counted by the nodes that are done with -/
def lj_ps (t : Nat → Nat) (l : Nat) : Nat → Nat
  | 0 => 73 * l
  | 1 => t 0 + 9 * (8 * t 0 + l)
  | 2 => t 0 + (8 * t 0 + t 1) + (64 * t 0 + 8 * t 1 + l)
  | _ => t 0 + (8 * t 0 + t 1) + (64 * t 0 + 8 * t 1 + t 2)
theorem lj_ps0 (t : Nat → Nat) (l : Nat) : lj_ps t l 0 = 73 * l := rfl
theorem lj_ps1 (t : Nat → Nat) (l : Nat) : lj_ps t l 1 = t 0 + 9 * (8 * t 0 + l) := rfl
theorem lj_ps2 (t : Nat → Nat) (l : Nat) : lj_ps t l 2 = t 0 + (8 * t 0 + t 1) + (64 * t 0 + 8 * t 1 + l) := rfl
theorem lj_ps3 (t : Nat → Nat) (l : Nat) : lj_ps t l 3 = t 0 + (8 * t 0 + t 1) + (64 * t 0 + 8 * t 1 + t 2) := rfl
/-- the search stands at variable d, things t before it, l the least to look at: no member from low on is passed over -/
def lj_cur (A : Nat → Prop) (low d : Nat) (t : Nat → Nat) (l p : Nat) : Prop :=
  l ≤ 8 ∧ low / 8 ^ (3 - d) ≤ lj_pre t d * 8 + l ∧ (∀ m, low ≤ m → m < 4096 → A m → lj_pre t d * 8 + l ≤ m / 8 ^ (3 - d)) ∧ p ≤ 2 * lj_ps t l d + d
theorem lj_d4 {d : Nat} (h : d < 4) : d = 0 ∨ d = 1 ∨ d = 2 ∨ d = 3 := by omega
theorem lj_cur_p {A : Nat → Prop} {low d l p : Nat} {t : Nat → Nat} (hd : d < 4) (ht : ∀ e, e < d → t e < 8) (c : lj_cur A low d t l p) : p < 2000 := by
  obtain ⟨h1, _, _, h4⟩ := c
  rcases lj_d4 hd with rfl | rfl | rfl | rfl
  · rw [lj_ps0] at h4; omega
  · rw [lj_ps1] at h4
    have := ht 0 (by omega)
    omega
  · rw [lj_ps2] at h4
    have := ht 0 (by omega)
    have := ht 1 (by omega)
    omega
  · rw [lj_ps3] at h4
    have := ht 0 (by omega)
    have := ht 1 (by omega)
    have := ht 2 (by omega)
    omega
/-- a number whose leading digits are t and then q -/
theorem lj_dig {d m q : Nat} {t : Nat → Nat} (hd : d < 4) (ht : ∀ e, e < d → t e < 8) (hq : q < 8) (hm : m / 8 ^ (3 - d) = lj_pre t d * 8 + q) : (∀ e, e < d → lj_dg m e = t e) ∧ lj_dg m d = q := by
  rcases lj_d4 hd with rfl | rfl | rfl | rfl
  · have h : m / 512 = 0 * 8 + q := hm
    refine ⟨fun e he => absurd he (by omega), ?_⟩
    rw [lj_dg0]
    omega
  · have h : m / 64 = lj_pre t 1 * 8 + q := hm
    rw [lj_pre1] at h
    have h0 := ht 0 (by omega)
    refine ⟨fun e he => ?_, ?_⟩
    · have : e = 0 := by omega
      subst this
      rw [lj_dg0]
      omega
    · rw [lj_dg1]
      omega
  · have h : m / 8 = lj_pre t 2 * 8 + q := hm
    rw [lj_pre2] at h
    have h0 := ht 0 (by omega)
    have h1 := ht 1 (by omega)
    refine ⟨fun e he => ?_, ?_⟩
    · have : e = 0 ∨ e = 1 := by omega
      rcases this with rfl | rfl
      · rw [lj_dg0]
        omega
      · rw [lj_dg1]
        omega
    · rw [lj_dg2]
      omega
  · have h : m / 1 = lj_pre t 3 * 8 + q := hm
    rw [lj_pre3, Nat.div_one] at h
    have h0 := ht 0 (by omega)
    have h1 := ht 1 (by omega)
    have h2 := ht 2 (by omega)
    refine ⟨fun e he => ?_, ?_⟩
    · have : e = 0 ∨ e = 1 ∨ e = 2 := by omega
      rcases this with rfl | rfl | rfl
      · rw [lj_dg0]
        omega
      · rw [lj_dg1]
        omega
      · rw [lj_dg2]
        omega
    · rw [lj_dg3]
      omega
theorem lj_tp {low d : Nat} {t : Nat → Nat} (hd : d < 4) (hl : low < 4096) (ht : ∀ e, e ≤ d → t e < 8) : (∀ e, e ≤ d → t e = lj_dg low e) ↔ lj_pre t d * 8 + t d = low / 8 ^ (3 - d) := by
  constructor
  · intro h
    rcases lj_d4 hd with rfl | rfl | rfl | rfl
    · have h0 := h 0 (by omega)
      rw [lj_dg0] at h0
      show 0 * 8 + t 0 = low / 512
      omega
    · have h0 := h 0 (by omega)
      have h1 := h 1 (by omega)
      rw [lj_dg0] at h0
      rw [lj_dg1] at h1
      show lj_pre t 1 * 8 + t 1 = low / 64
      rw [lj_pre1]
      omega
    · have h0 := h 0 (by omega)
      have h1 := h 1 (by omega)
      have h2 := h 2 (by omega)
      rw [lj_dg0] at h0
      rw [lj_dg1] at h1
      rw [lj_dg2] at h2
      show lj_pre t 2 * 8 + t 2 = low / 8
      rw [lj_pre2]
      omega
    · have h0 := h 0 (by omega)
      have h1 := h 1 (by omega)
      have h2 := h 2 (by omega)
      have h3 := h 3 (by omega)
      rw [lj_dg0] at h0
      rw [lj_dg1] at h1
      rw [lj_dg2] at h2
      rw [lj_dg3] at h3
      show lj_pre t 3 * 8 + t 3 = low / 1
      rw [lj_pre3, Nat.div_one]
      omega
  · intro h e he
    have hh := lj_dig hd (fun e he => ht e (by omega)) (ht d (Nat.le_refl d)) h.symm
    by_cases g : e = d
    · rw [g]
      exact hh.2.symm
    · exact (hh.1 e (by omega)).symm
/-- no member from low on stands before the least that is allowed at d -/
theorem lj_min {A P : Nat → Prop} {low d l y p : Nat} {t : Nat → Nat} (hd : d < 4) (ht : ∀ e, e < d → t e < 8) (c : lj_cur A low d t l p) (hP : ∀ m, A m → (∀ e, e < d → lj_dg m e = t e) → P (lj_dg m d)) (hl : lj_lp P l y) : ∀ m, low ≤ m → m < 4096 → A m → lj_pre t d * 8 + y ≤ m / 8 ^ (3 - d) := by
  intro m h1 h2 hA
  have h3 := c.2.2.1 m h1 h2 hA
  rcases Nat.lt_or_ge (m / 8 ^ (3 - d)) (lj_pre t d * 8 + y) with g | g
  · exfalso
    obtain ⟨X, hX⟩ : ∃ X, m / 8 ^ (3 - d) = X := ⟨_, rfl⟩
    rw [hX] at h3 g
    obtain ⟨q, hq⟩ : ∃ q, X = lj_pre t d * 8 + q := ⟨X - lj_pre t d * 8, by omega⟩
    have h8 := hl.2.1
    have hq8 : q < 8 := by omega
    have hh := lj_dig hd ht hq8 (hX.trans hq)
    have hp := hP m hA hh.1
    rw [hh.2] at hp
    exact hl.2.2.1 q (by omega) (by omega) hp
  · exact g
theorem lj_push {A : Nat → Prop} {low d l y l' p : Nat} {t t' : Nat → Nat} (hd : d < 3) (he : ∀ e, e < d → t' e = t e) (hy : t' d = y) (hly : l ≤ y) (hl' : l' ≤ 8) (c : lj_cur A low d t l p)
    (hm : ∀ m, low ≤ m → m < 4096 → A m → lj_pre t d * 8 + y ≤ m / 8 ^ (3 - d))
    (hc : (lj_pre t d * 8 + y = low / 8 ^ (3 - d) ∧ l' = lj_dg low (d + 1)) ∨ (lj_pre t d * 8 + y ≠ low / 8 ^ (3 - d) ∧ l' = 0)) : lj_cur A low (d + 1) t' l' (p + 1) := by
  obtain ⟨h1, h2, h3, h4⟩ := c
  have hd' : d = 0 ∨ d = 1 ∨ d = 2 := by omega
  rcases hd' with rfl | rfl | rfl
  · have k2 : low / 512 ≤ 0 * 8 + l := h2
    have kc : (0 * 8 + y = low / 512 ∧ l' = low / 64 % 8) ∨ (0 * 8 + y ≠ low / 512 ∧ l' = 0) := hc
    rw [lj_ps0] at h4
    refine ⟨hl', ?_, fun m g1 g2 g3 => ?_, ?_⟩
    · show low / 64 ≤ lj_pre t' 1 * 8 + l'
      rw [lj_pre1, hy]
      omega
    · have km : 0 * 8 + y ≤ m / 512 := hm m g1 g2 g3
      show lj_pre t' 1 * 8 + l' ≤ m / 64
      rw [lj_pre1, hy]
      omega
    · show p + 1 ≤ 2 * lj_ps t' l' 1 + 1
      rw [lj_ps1, hy]
      omega
  · have k2 : low / 64 ≤ lj_pre t 1 * 8 + l := h2
    have kc : (lj_pre t 1 * 8 + y = low / 64 ∧ l' = low / 8 % 8) ∨ (lj_pre t 1 * 8 + y ≠ low / 64 ∧ l' = 0) := hc
    rw [lj_ps1] at h4
    rw [lj_pre1] at k2 kc
    have e0 := he 0 (by omega)
    refine ⟨hl', ?_, fun m g1 g2 g3 => ?_, ?_⟩
    · show low / 8 ≤ lj_pre t' 2 * 8 + l'
      rw [lj_pre2, hy, e0]
      omega
    · have km : lj_pre t 1 * 8 + y ≤ m / 64 := hm m g1 g2 g3
      rw [lj_pre1] at km
      show lj_pre t' 2 * 8 + l' ≤ m / 8
      rw [lj_pre2, hy, e0]
      omega
    · show p + 1 ≤ 2 * lj_ps t' l' 2 + 2
      rw [lj_ps2, hy, e0]
      omega
  · have k2 : low / 8 ≤ lj_pre t 2 * 8 + l := h2
    have kc : (lj_pre t 2 * 8 + y = low / 8 ∧ l' = low / 1 % 8) ∨ (lj_pre t 2 * 8 + y ≠ low / 8 ∧ l' = 0) := hc
    rw [lj_ps2] at h4
    rw [Nat.div_one] at kc
    rw [lj_pre2] at k2 kc
    have e0 := he 0 (by omega)
    have e1 := he 1 (by omega)
    refine ⟨hl', ?_, fun m g1 g2 g3 => ?_, ?_⟩
    · show low / 1 ≤ lj_pre t' 3 * 8 + l'
      rw [lj_pre3, hy, e0, e1, Nat.div_one]
      omega
    · have km : lj_pre t 2 * 8 + y ≤ m / 8 := hm m g1 g2 g3
      rw [lj_pre2] at km
      show lj_pre t' 3 * 8 + l' ≤ m / 1
      rw [lj_pre3, hy, e0, e1, Nat.div_one]
      omega
    · show p + 1 ≤ 2 * lj_ps t' l' 3 + 3
      rw [lj_ps3, hy, e0, e1]
      omega
theorem lj_pop {A : Nat → Prop} {low k l p : Nat} {t : Nat → Nat} (hk : k < 3) (ht : ∀ e, e < k + 1 → t e < 8) (c : lj_cur A low (k + 1) t l p)
    (hm : ∀ m, low ≤ m → m < 4096 → A m → lj_pre t (k + 1) * 8 + 8 ≤ m / 8 ^ (3 - (k + 1))) : lj_cur A low k t (t k + 1) (p + 1) := by
  obtain ⟨h1, h2, h3, h4⟩ := c
  have hd' : k = 0 ∨ k = 1 ∨ k = 2 := by omega
  rcases hd' with rfl | rfl | rfl
  · have k2 : low / 64 ≤ lj_pre t 1 * 8 + l := h2
    have k4 : p ≤ 2 * lj_ps t l 1 + 1 := h4
    rw [lj_pre1] at k2
    rw [lj_ps1] at k4
    have t0 := ht 0 (by omega)
    refine ⟨by omega, ?_, fun m g1 g2 g3 => ?_, ?_⟩
    · show low / 512 ≤ 0 * 8 + (t 0 + 1)
      omega
    · have km : lj_pre t 1 * 8 + 8 ≤ m / 64 := hm m g1 g2 g3
      rw [lj_pre1] at km
      show 0 * 8 + (t 0 + 1) ≤ m / 512
      omega
    · rw [lj_ps0]
      omega
  · have k2 : low / 8 ≤ lj_pre t 2 * 8 + l := h2
    have k4 : p ≤ 2 * lj_ps t l 2 + 2 := h4
    rw [lj_pre2] at k2
    rw [lj_ps2] at k4
    have t1 := ht 1 (by omega)
    refine ⟨by omega, ?_, fun m g1 g2 g3 => ?_, ?_⟩
    · show low / 64 ≤ lj_pre t 1 * 8 + (t 1 + 1)
      rw [lj_pre1]
      omega
    · have km : lj_pre t 2 * 8 + 8 ≤ m / 8 := hm m g1 g2 g3
      rw [lj_pre2] at km
      show lj_pre t 1 * 8 + (t 1 + 1) ≤ m / 64
      rw [lj_pre1]
      omega
    · rw [lj_ps1]
      omega
  · have k2 : low / 1 ≤ lj_pre t 3 * 8 + l := h2
    have k4 : p ≤ 2 * lj_ps t l 3 + 3 := h4
    rw [lj_pre3, Nat.div_one] at k2
    rw [lj_ps3] at k4
    have t2 := ht 2 (by omega)
    refine ⟨by omega, ?_, fun m g1 g2 g3 => ?_, ?_⟩
    · show low / 8 ≤ lj_pre t 2 * 8 + (t 2 + 1)
      rw [lj_pre2]
      omega
    · have km : lj_pre t 3 * 8 + 8 ≤ m / 1 := hm m g1 g2 g3
      rw [lj_pre3, Nat.div_one] at km
      show lj_pre t 2 * 8 + (t 2 + 1) ≤ m / 8
      rw [lj_pre2]
      omega
    · rw [lj_ps2]
      omega
/-! ===== the picture: masks, atoms, answers ===== -/
def lj_R (M : Nat → Nat) (r x y : Nat) : Prop := (M (r * 8 + x)).testBit y = true
def lj_hs (g h : Nat → Nat) (a d : Nat) : Prop := g a = d ∨ h a = d
/-- atom a allows y for variable d, the variables before d having t -/
def lj_al (M f g h : Nat → Nat) (a d : Nat) (t : Nat → Nat) (y : Nat) : Prop :=
  (g a = d → h a = d → lj_R M (f a) y y) ∧ (g a = d → h a < d → lj_R M (f a) y (t (h a))) ∧ (g a = d → d < h a → ∃ z, z < 8 ∧ lj_R M (f a) y z) ∧ (g a < d → lj_R M (f a) (t (g a)) y) ∧ (d < g a → ∃ z, z < 8 ∧ lj_R M (f a) z y)
def lj_Q (N : Nat) (M f g h : Nat → Nat) (d : Nat) (t : Nat → Nat) (y : Nat) : Prop := ∀ a, a < N → lj_hs g h a d → lj_al M f g h a d t y
def lj_lv (N : Nat) (M f g h : Nat → Nat) (d : Nat) (t : Nat → Nat) (y : Nat) : Prop := lj_Q N M f g h d t y ∧ ((∃ a, a < N ∧ lj_hs g h a d) ∨ y = 0)
/-- n is an answer -/
def lj_A (N : Nat) (M f g h : Nat → Nat) (n : Nat) : Prop := ∀ d, d < 4 → lj_lv N M f g h d (lj_dg n) (lj_dg n d)
theorem lj_al_c {M f g h t t' : Nat → Nat} {a d y : Nat} (ht : ∀ e, e < d → t e = t' e) (H : lj_al M f g h a d t y) : lj_al M f g h a d t' y :=
  ⟨H.1, fun e1 e2 => by rw [← ht _ e2]; exact H.2.1 e1 e2, H.2.2.1, fun e1 => by rw [← ht _ e1]; exact H.2.2.2.1 e1, H.2.2.2.2⟩
theorem lj_lv_c {N : Nat} {M f g h t t' : Nat → Nat} {d y : Nat} (ht : ∀ e, e < d → t e = t' e) (H : lj_lv N M f g h d t y) : lj_lv N M f g h d t' y :=
  ⟨fun a ha hh => lj_al_c ht (H.1 a ha hh), H.2⟩
theorem lj_A_P {N : Nat} {M f g h t : Nat → Nat} {d : Nat} (hd : d < 4) (m : Nat) (hA : lj_A N M f g h m) (ht : ∀ e, e < d → lj_dg m e = t e) : lj_lv N M f g h d t (lj_dg m d) := lj_lv_c ht (hA d hd)
/-- fewer pairs, fewer answers -/
theorem lj_A_mono {N : Nat} {M M' f g h : Nat → Nat} (hR : ∀ r x y, lj_R M' r x y → lj_R M r x y) {n : Nat} (H : lj_A N M' f g h n) : lj_A N M f g h n := by
  intro d hd
  obtain ⟨h1, h2⟩ := H d hd
  refine ⟨fun a ha hh => ?_, h2⟩
  obtain ⟨c1, c2, c3, c4, c5⟩ := h1 a ha hh
  refine ⟨fun e1 e2 => hR _ _ _ (c1 e1 e2), fun e1 e2 => hR _ _ _ (c2 e1 e2), fun e1 e2 => ?_, fun e1 => hR _ _ _ (c4 e1), fun e1 => ?_⟩
  · obtain ⟨z, hz, hr⟩ := c3 e1 e2
    exact ⟨z, hz, hR _ _ _ hr⟩
  · obtain ⟨z, hz, hr⟩ := c5 e1
    exact ⟨z, hz, hR _ _ _ hr⟩
/-- one more atom over variables that have atoms: no new answer -/
theorem lj_A_atom {N : Nat} {M f g h f' g' h' : Nat → Nat} (e : ∀ i, i < N → f' i = f i ∧ g' i = g i ∧ h' i = h i) (hg : ∃ a, a < N ∧ lj_hs g h a (g' N)) (hh : ∃ a, a < N ∧ lj_hs g h a (h' N)) {n : Nat} (H : lj_A (N + 1) M f' g' h' n) : lj_A N M f g h n := by
  intro d hd
  obtain ⟨h1, h2⟩ := H d hd
  refine ⟨fun a ha hs => ?_, ?_⟩
  · obtain ⟨e1, e2, e3⟩ := e a ha
    have hs' : lj_hs g' h' a d := by
      unfold lj_hs
      rw [e2, e3]
      exact hs
    have H1 := h1 a (by omega) hs'
    unfold lj_al at H1 ⊢
    rw [e1, e2, e3] at H1
    exact H1
  · rcases h2 with ⟨a, ha, hs⟩ | h2
    · left
      by_cases ea : a = N
      · rw [ea] at hs
        rcases hs with hs | hs
        · rw [hs] at hg
          exact hg
        · rw [hs] at hh
          exact hh
      · obtain ⟨e1, e2, e3⟩ := e a (by omega)
        unfold lj_hs at hs
        rw [e2, e3] at hs
        exact ⟨a, by omega, hs⟩
    · exact Or.inr h2
theorem lj_A_0 (M f g h : Nat → Nat) : lj_cn (lj_A 0 M f g h) 4096 = 1 := by
  have h0 : lj_A 0 M f g h 0 := by
    intro d hd
    refine ⟨fun a ha => absurd ha (by omega), Or.inr ?_⟩
    unfold lj_dg
    rw [Nat.zero_div]
  have h1 : ∀ q, 1 ≤ q → q < 4096 → ¬ lj_A 0 M f g h q := by
    intro q g1 g2 H
    have z : ∀ d, d < 4 → lj_dg q d = 0 := by
      intro d hd
      rcases (H d hd).2 with ⟨a, ha, _⟩ | e
      · exact absurd ha (by omega)
      · exact e
    have z0 := z 0 (by omega)
    have z1 := z 1 (by omega)
    have z2 := z 2 (by omega)
    have z3 := z 3 (by omega)
    rw [lj_dg0] at z0
    rw [lj_dg1] at z1
    rw [lj_dg2] at z2
    rw [lj_dg3] at z3
    omega
  rw [lj_cn_skip (show 1 ≤ 4096 by omega) h1]
  show lj_cn (lj_A 0 M f g h) 0 + lj_b (lj_A 0 M f g h 0) = 1
  rw [lj_b_t h0]
  rfl
end
section
/-- the state matches the picture: N atoms f g h, masks M (onward) and K (backward) -/
def lj_ok (N : Nat) (M K f g h : Nat → Nat) (a1 a2 a3 a4 a5 : Nat → Int32) : Prop :=
  N ≤ 5 ∧ (∀ k, k < 24 → M k < 256 ∧ a1 k = nI (M k)) ∧ (∀ k, k < 24 → K k < 256 ∧ a2 k = nI (K k)) ∧ (∀ r x y, r < 3 → x < 8 → y < 8 → (M (r * 8 + x)).testBit y = (K (r * 8 + y)).testBit x) ∧ (∀ i, i < N → (f i < 3 ∧ a3 i = nI (f i)) ∧ (g i < 4 ∧ a4 i = nI (g i)) ∧ (h i < 4 ∧ a5 i = nI (h i)))
theorem lj_ix (a b : Nat) (h : a + b < 2 ^ 31) : (nI a + nI b).toNatClampNeg = a + b := by
  rw [nI_add, nI_clamp h]
theorem lj_in {post : Int32 → Prop} {q x : Nat} {p0 p1 : Int32} (e0 : p0 = nI q) (e1 : p1 = nI x) (hq : q < 256) (hx : x < 8) (h1 : q.testBit x = true → post 1) (h0 : ¬ q.testBit x = true → post 0) : wpX_in post () p0 p1 := by
  subst e0 e1
  unfold wpX_in
  exact br_c (fun e => h0 (by rw [(lj_bit0 (by omega) (by omega)).mp e]; decide)) (fun e => h1 (by
    cases hb : q.testBit x with
    | true => rfl
    | false => exact absurd ((lj_bit0 (by omega) (by omega)).mpr hb) e))
theorem lj_from {post : Int32 → Prop} {q x : Nat} {p0 p1 : Int32} (e0 : p0 = nI q) (e1 : p1 = nI x) (hq : q < 256) (hx : x ≤ 8) (H : ∀ y, lj_lp (fun y => q.testBit y = true) x y → post (nI y)) : wpX_from post () p0 p1 := by
  subst e0 e1
  exact pk_loop (σ := Unit) (fun n i _ => wX_from_2 post (nI q) n (nI i)) (fun i _ => x ≤ i ∧ ∀ z, x ≤ z → z < i → ¬ q.testBit z = true) 8 x () hx ⟨Nat.le_refl x, fun z h1 h2 => absurd h1 (by omega)⟩
    (fun n _ h => pk_le 8 8 (fun _ => H 8 ⟨h.1, by omega, h.2, fun z => absurd z (by omega)⟩) (fun z => absurd z (by omega)))
    (fun n i _ hi h hw => pk_le 8 i (fun z => absurd z (by omega)) (fun _ => lj_in rfl rfl hq hi
      (fun e => br_f (by decide) (H i ⟨h.1, by omega, h.2, fun _ => e⟩))
      (fun e => br_t rfl (nm_r (nI_1 i) (hw () ⟨by have := h.1; omega, lj_nl h.2 e⟩)))))
theorem lj_diag {N : Nat} {M K f g h : Nat → Nat} {a1 a2 a3 a4 a5 a6 a7 : Nat → Int32} {F : Int32} (ok : lj_ok N M K f g h a1 a2 a3 a4 a5) {post : Int32 → Prop} {r x : Nat} {p0 p1 : Int32} (e0 : p0 = nI (r * 8)) (e1 : p1 = nI x) (hr : r < 3) (hx : x ≤ 8)
    (H : ∀ y, lj_lp (fun y => lj_R M r y y) x y → post (nI y)) : wpX_nextOnDiagonal post (F, a1, a2, a3, a4, a5, a6, a7) p0 p1 := by
  subst e0 e1
  exact pk_loop (σ := Unit) (fun n i _ => wX_nextOnDiagonal_2 post (nI (r * 8)) F a1 a2 a3 a4 a5 a6 a7 n (nI i)) (fun i _ => x ≤ i ∧ ∀ z, x ≤ z → z < i → ¬ lj_R M r z z) 8 x () hx ⟨Nat.le_refl x, fun z h1 h2 => absurd h1 (by omega)⟩
    (fun n _ h => pk_le 8 8 (fun _ => H 8 ⟨h.1, by omega, h.2, fun z => absurd z (by omega)⟩) (fun z => absurd z (by omega)))
    (fun n i _ hi h hw => pk_le 8 i (fun z => absurd z (by omega)) (fun _ => ⟨pk_in (r * 8 + i) 24 (by omega) (nI_add _ _), lj_in (q := M (r * 8 + i)) (by rw [lj_ix _ _ (by omega)]; exact (ok.2.1 _ (by omega)).2) rfl (ok.2.1 _ (by omega)).1 hi
      (fun e => br_f (by decide) (H i ⟨h.1, by omega, h.2, fun _ => e⟩))
      (fun e => br_t rfl (nm_r (nI_1 i) (hw () ⟨by have := h.1; omega, lj_nl (P := fun z => lj_R M r z z) h.2 e⟩)))⟩))
theorem lj_any1 {N : Nat} {M K f g h : Nat → Nat} {a1 a2 a3 a4 a5 a6 a7 : Nat → Int32} {F : Int32} (ok : lj_ok N M K f g h a1 a2 a3 a4 a5) {post : Int32 → Prop} {r x : Nat} {p0 p1 : Int32} (e0 : p0 = nI (r * 8)) (e1 : p1 = nI x) (hr : r < 3) (hx : x ≤ 8)
    (H : ∀ y, lj_lp (fun y => ∃ z, z < 8 ∧ lj_R M r y z) x y → post (nI y)) : wpX_nextWithAny post (F, a1, a2, a3, a4, a5, a6, a7) p0 p1 1 := by
  subst e0 e1
  have key : ∀ y, lj_lp (fun y => M (r * 8 + y) ≠ 0) x y → post (nI y) := fun y hy => H y (lj_lp_iff (fun z hz => lj_nz (ok.2.1 (r * 8 + z) (by omega)).1) hy)
  exact pk_loop (σ := Unit) (fun n i _ => wX_nextWithAny_3 post (nI (r * 8)) 1 F a1 a2 a3 a4 a5 a6 a7 n (nI i)) (fun i _ => x ≤ i ∧ ∀ z, x ≤ z → z < i → ¬ M (r * 8 + z) ≠ 0) 8 x () hx ⟨Nat.le_refl x, fun z h1 h2 => absurd h1 (by omega)⟩
    (fun n _ h => pk_le 8 8 (fun _ => key 8 ⟨h.1, by omega, h.2, fun z => absurd z (by omega)⟩) (fun z => absurd z (by omega)))
    (fun n i _ hi h hw => pk_le 8 i (fun z => absurd z (by omega)) (fun _ => br_f (by decide) ⟨pk_in (r * 8 + i) 24 (by omega) (nI_add _ _),
      pk_eq (M (r * 8 + i)) 0
        (fun e => nm_r (nI_1 i) (hw () ⟨by have := h.1; omega, lj_nl (P := fun z => M (r * 8 + z) ≠ 0) h.2 (fun z => z e)⟩))
        (fun e => key i ⟨h.1, by omega, h.2, fun _ => e⟩)
        (by rw [lj_ix _ _ (by omega)]; exact (ok.2.1 _ (by omega)).2) rfl (by have := (ok.2.1 (r * 8 + i) (by omega)).1; omega) (by omega)⟩))
theorem lj_any0 {N : Nat} {M K f g h : Nat → Nat} {a1 a2 a3 a4 a5 a6 a7 : Nat → Int32} {F : Int32} (ok : lj_ok N M K f g h a1 a2 a3 a4 a5) {post : Int32 → Prop} {r x : Nat} {p0 p1 : Int32} (e0 : p0 = nI (r * 8)) (e1 : p1 = nI x) (hr : r < 3) (hx : x ≤ 8)
    (H : ∀ y, lj_lp (fun y => ∃ z, z < 8 ∧ lj_R M r z y) x y → post (nI y)) : wpX_nextWithAny post (F, a1, a2, a3, a4, a5, a6, a7) p0 p1 0 := by
  subst e0 e1
  have key : ∀ y, lj_lp (fun y => K (r * 8 + y) ≠ 0) x y → post (nI y) := by
    intro y hy
    refine H y (lj_lp_iff (fun z hz => ?_) hy)
    rw [lj_nz (ok.2.2.1 (r * 8 + z) (by omega)).1]
    constructor
    · rintro ⟨w, hw, e⟩
      exact ⟨w, hw, (ok.2.2.2.1 r w z hr hw hz).trans e⟩
    · rintro ⟨w, hw, e⟩
      exact ⟨w, hw, (ok.2.2.2.1 r w z hr hw hz).symm.trans e⟩
  exact pk_loop (σ := Unit) (fun n i _ => wX_nextWithAny_3 post (nI (r * 8)) 0 F a1 a2 a3 a4 a5 a6 a7 n (nI i)) (fun i _ => x ≤ i ∧ ∀ z, x ≤ z → z < i → ¬ K (r * 8 + z) ≠ 0) 8 x () hx ⟨Nat.le_refl x, fun z h1 h2 => absurd h1 (by omega)⟩
    (fun n _ h => pk_le 8 8 (fun _ => key 8 ⟨h.1, by omega, h.2, fun z => absurd z (by omega)⟩) (fun z => absurd z (by omega)))
    (fun n i _ hi h hw => pk_le 8 i (fun z => absurd z (by omega)) (fun _ => br_t rfl ⟨pk_in (r * 8 + i) 24 (by omega) (nI_add _ _),
      pk_eq (K (r * 8 + i)) 0
        (fun e => nm_r (nI_1 i) (hw () ⟨by have := h.1; omega, lj_nl (P := fun z => K (r * 8 + z) ≠ 0) h.2 (fun z => z e)⟩))
        (fun e => key i ⟨h.1, by omega, h.2, fun _ => e⟩)
        (by rw [lj_ix _ _ (by omega)]; exact (ok.2.2.1 _ (by omega)).2) rfl (by have := (ok.2.2.1 (r * 8 + i) (by omega)).1; omega) (by omega)⟩))
theorem lj_has {N : Nat} {M K f g h : Nat → Nat} {a1 a2 a3 a4 a5 a6 a7 : Nat → Int32} {F : Int32} (ok : lj_ok N M K f g h a1 a2 a3 a4 a5) {post : Int32 → Prop} {a d : Nat} (ha : a < N) (hd : d < 4)
    (h1 : lj_hs g h a d → post 1) (h0 : ¬ lj_hs g h a d → post 0) : wpX_has post (F, a1, a2, a3, a4, a5, a6, a7) (nI a) (nI d) := by
  have hN := ok.1
  obtain ⟨_, ⟨hg, eg⟩, ⟨hh, eh⟩⟩ := ok.2.2.2.2 a ha
  have ca : (nI a).toNatClampNeg = a := nI_clamp (by omega)
  unfold wpX_has
  exact ⟨pk_in a 5 (by omega), pk_eq (g a) d (fun e => h1 (Or.inl e)) (fun e => ⟨pk_in a 5 (by omega), pk_eq (h a) d (fun e' => h1 (Or.inr e')) (fun e' => h0 (fun z => z.elim e e')) (by rw [ca]; exact eh) rfl (by omega) (by omega)⟩) (by rw [ca]; exact eg) rfl (by omega) (by omega)⟩
theorem lj_af47 {N : Nat} {M K f g h : Nat → Nat} {a1 a2 a3 a4 a5 a6 a7 : Nat → Int32} {F : Int32} (ok : lj_ok N M K f g h a1 a2 a3 a4 a5) {post : Int32 → Prop} {a d x : Nat} {t : Nat → Nat} (ha : a < N) (hd : d < 4) (hx : x ≤ 8) (ht : ∀ e, e < d → t e < 8 ∧ a6 e = nI (t e)) (hs : lj_hs g h a d) (hn : ¬ (g a = d ∧ h a = d))
    (H : ∀ y, lj_lp (lj_al M f g h a d t) x y → post (nI y)) : wX_allowedFrom_47 post (nI d) (nI x) (nI (f a * 8)) (nI (g a)) (nI (h a)) F a1 a2 a3 a4 a5 a6 a7 := by
  obtain ⟨⟨hf, _⟩, ⟨hg, _⟩, ⟨hh, _⟩⟩ := ok.2.2.2.2 a ha
  unfold wX_allowedFrom_47
  refine pk_eq (g a) d (fun e => ?_) (fun e => ?_)
  · refine pk_le d (h a) (fun l => ?_) (fun l => ?_)
    · have l' : d < h a := by
        rcases Nat.lt_or_ge d (h a) with z | z
        · exact z
        · exact absurd ⟨e, (by omega : h a = d)⟩ hn
      refine lj_any1 ok rfl rfl hf hx (fun y hy => H y (lj_lp_iff (fun z hz => ?_) hy))
      constructor
      · intro w
        exact ⟨fun _ e2 => absurd e2 (by omega), fun _ e2 => absurd e2 (by omega), fun _ _ => w, fun e2 => absurd e2 (by omega), fun e2 => absurd e2 (by omega)⟩
      · intro w
        exact w.2.2.1 e l'
    · obtain ⟨t8, te⟩ := ht (h a) l
      have ct : (nI (h a)).toNatClampNeg = h a := nI_clamp (by omega)
      have ci : (nI (f a * 8) + a6 (nI (h a)).toNatClampNeg).toNatClampNeg = f a * 8 + t (h a) := by
        rw [ct, te]
        exact lj_ix _ _ (by omega)
      refine ⟨pk_in (h a) 4 hh, pk_in (f a * 8 + t (h a)) 24 (by omega) (by rw [ct, te]; exact nI_add _ _), ?_⟩
      refine lj_from (q := K (f a * 8 + t (h a))) (by rw [ci]; exact (ok.2.2.1 _ (by omega)).2) rfl (ok.2.2.1 _ (by omega)).1 hx (fun y hy => H y (lj_lp_iff (fun z hz => ?_) hy))
      have eq := ok.2.2.2.1 (f a) z (t (h a)) hf hz t8
      constructor
      · intro w
        exact ⟨fun _ e2 => absurd e2 (by omega), fun _ _ => eq.trans w, fun _ e2 => absurd e2 (by omega), fun e2 => absurd e2 (by omega), fun e2 => absurd e2 (by omega)⟩
      · intro w
        exact eq.symm.trans (w.2.1 e l)
  · have e' : h a = d := hs.resolve_left e
    refine pk_le d (g a) (fun l => ?_) (fun l => ?_)
    · have l' : d < g a := by omega
      refine lj_any0 ok rfl rfl hf hx (fun y hy => H y (lj_lp_iff (fun z hz => ?_) hy))
      constructor
      · intro w
        exact ⟨fun e2 _ => absurd e2 e, fun e2 _ => absurd e2 e, fun e2 _ => absurd e2 e, fun e2 => absurd e2 (by omega), fun _ => w⟩
      · intro w
        exact w.2.2.2.2 l'
    · obtain ⟨t8, te⟩ := ht (g a) l
      have ct : (nI (g a)).toNatClampNeg = g a := nI_clamp (by omega)
      have ci : (nI (f a * 8) + a6 (nI (g a)).toNatClampNeg).toNatClampNeg = f a * 8 + t (g a) := by
        rw [ct, te]
        exact lj_ix _ _ (by omega)
      refine ⟨pk_in (g a) 4 hg, pk_in (f a * 8 + t (g a)) 24 (by omega) (by rw [ct, te]; exact nI_add _ _), ?_⟩
      refine lj_from (q := M (f a * 8 + t (g a))) (by rw [ci]; exact (ok.2.1 _ (by omega)).2) rfl (ok.2.1 _ (by omega)).1 hx (fun y hy => H y (lj_lp_iff (fun z hz => ?_) hy))
      constructor
      · intro w
        exact ⟨fun e2 _ => absurd e2 e, fun e2 _ => absurd e2 e, fun e2 _ => absurd e2 e, fun _ => w, fun e2 => absurd e2 (by omega)⟩
      · intro w
        exact w.2.2.2.1 l
theorem lj_af {N : Nat} {M K f g h : Nat → Nat} {a1 a2 a3 a4 a5 a6 a7 : Nat → Int32} {F : Int32} (ok : lj_ok N M K f g h a1 a2 a3 a4 a5) {post : Int32 → Prop} {a d x : Nat} {t : Nat → Nat} (ha : a < N) (hd : d < 4) (hx : x ≤ 8) (ht : ∀ e, e < d → t e < 8 ∧ a6 e = nI (t e)) (hs : lj_hs g h a d)
    (H : ∀ y, lj_lp (lj_al M f g h a d t) x y → post (nI y)) : wpX_allowedFrom post (F, a1, a2, a3, a4, a5, a6, a7) (nI a) (nI d) (nI x) := by
  have hN := ok.1
  obtain ⟨⟨hf, ef⟩, ⟨hg, eg⟩, ⟨hh, eh⟩⟩ := ok.2.2.2.2 a ha
  have ca : (nI a).toNatClampNeg = a := nI_clamp (by omega)
  unfold wpX_allowedFrom
  refine ⟨pk_in a 5 (by omega), nm_r (e' := nI (f a * 8)) (by rw [ca, ef]; exact pk_mul _ 8) ⟨pk_in a 5 (by omega), nm_r (e' := nI (g a)) (by rw [ca, eg]) ⟨pk_in a 5 (by omega), nm_r (e' := nI (h a)) (by rw [ca, eh]) ?_⟩⟩⟩
  refine pk_eq (g a) d (fun e => pk_eq (h a) d (fun e' => ?_) (fun e' => lj_af47 ok ha hd hx ht hs (fun z => e' z.2) H)) (fun e => lj_af47 ok ha hd hx ht hs (fun z => e z.1) H)
  refine lj_diag ok rfl rfl hf hx (fun y hy => H y (lj_lp_iff (fun z hz => ?_) hy))
  constructor
  · intro w
    exact ⟨fun _ _ => w, fun _ e2 => absurd e2 (by omega), fun _ e2 => absurd e2 (by omega), fun e2 => absurd e2 (by omega), fun e2 => absurd e2 (by omega)⟩
  · intro w
    exact w.1 e e'
end
section
theorem lj_10 : ¬ (1 : Nat) = 0 := by decide
theorem lj_01 : ¬ (0 : Nat) = 1 := by decide
/-- inside a round that began at y0, ahead of atom i: s = (any, y, moved) -/
def lj_I36 (N : Nat) (M f g h : Nat → Nat) (d : Nat) (t : Nat → Nat) (x y0 i : Nat) (s : Nat × Nat × Nat) : Prop :=
  s.1 ≤ 1 ∧ s.2.2 ≤ 1 ∧ y0 ≤ s.2.1 ∧ s.2.1 ≤ 8 ∧ (∀ z, x ≤ z → z < s.2.1 → ¬ lj_Q N M f g h d t z) ∧ (s.1 = 0 → s.2.1 = x ∧ ∀ a, a < i → ¬ lj_hs g h a d) ∧ (s.1 = 1 → ∃ a, a < N ∧ lj_hs g h a d) ∧ (s.2.2 = 0 → s.2.1 = y0 ∧ ∀ a, a < i → lj_hs g h a d → lj_al M f g h a d t s.2.1) ∧ (s.2.2 = 1 → y0 < s.2.1)
/-- ahead of round p -/
def lj_I11 (N : Nat) (M f g h : Nat → Nat) (d : Nat) (t : Nat → Nat) (x p : Nat) (s : Nat × Nat × Nat) : Prop :=
  s.1 ≤ 1 ∧ s.2.2 ≤ 1 ∧ x ≤ s.2.1 ∧ s.2.1 ≤ 8 ∧ (∀ z, x ≤ z → z < s.2.1 → ¬ lj_Q N M f g h d t z) ∧ (s.1 = 0 → s.2.1 = x) ∧ (s.1 = 1 → ∃ a, a < N ∧ lj_hs g h a d) ∧ (s.2.2 = 0 → lj_Q N M f g h d t s.2.1 ∧ (s.1 = 0 → ∀ a, a < N → ¬ lj_hs g h a d)) ∧ (s.2.2 = 1 → x + p ≤ s.2.1)
theorem lj_I36_N {N : Nat} {M f g h : Nat → Nat} {d : Nat} {t : Nat → Nat} {x y0 p : Nat} {s : Nat × Nat × Nat} (hx : x + p ≤ y0) (H : lj_I36 N M f g h d t x y0 N s) : lj_I11 N M f g h d t x (p + 1) s := by
  obtain ⟨h1, h2, h3, h4, h5, h6, h7, h8, h9⟩ := H
  exact ⟨h1, h2, by omega, h4, h5, fun e => (h6 e).1, h7, fun e => ⟨(h8 e).2, fun e' => (h6 e').2⟩, fun e => by have := h9 e; omega⟩
theorem lj_I36_8 {N : Nat} {M f g h : Nat → Nat} {d : Nat} {t : Nat → Nat} {x y0 p i : Nat} {s : Nat × Nat × Nat} (hx : x + p ≤ y0) (hy : y0 < 8) (h8' : 8 ≤ s.2.1) (H : lj_I36 N M f g h d t x y0 i s) : lj_I11 N M f g h d t x (p + 1) s := by
  obtain ⟨h1, h2, h3, h4, h5, h6, h7, h8, h9⟩ := H
  exact ⟨h1, h2, by omega, h4, h5, fun e => (h6 e).1, h7, fun e => absurd (h8 e).1 (by omega), fun e => by have := h9 e; omega⟩
theorem lj_I36_skip {N : Nat} {M f g h : Nat → Nat} {d : Nat} {t : Nat → Nat} {x y0 i : Nat} {s : Nat × Nat × Nat} (hn : ¬ lj_hs g h i d) (H : lj_I36 N M f g h d t x y0 i s) : lj_I36 N M f g h d t x y0 (i + 1) s := by
  obtain ⟨h1, h2, h3, h4, h5, h6, h7, h8, h9⟩ := H
  refine ⟨h1, h2, h3, h4, h5, fun e => ⟨(h6 e).1, lt_s (h6 e).2 hn⟩, h7, fun e => ⟨(h8 e).1, lt_s (h8 e).2 (fun z => absurd z hn)⟩, h9⟩
theorem lj_I36_stay {N : Nat} {M f g h : Nat → Nat} {d : Nat} {t : Nat → Nat} {x y0 i b y c : Nat} (hi : i < N) (hh : lj_hs g h i d) (ha : lj_al M f g h i d t y) (H : lj_I36 N M f g h d t x y0 i (b, y, c)) : lj_I36 N M f g h d t x y0 (i + 1) (1, y, c) := by
  obtain ⟨h1, h2, h3, h4, h5, h6, h7, h8, h9⟩ := H
  exact ⟨Nat.le_refl 1, h2, h3, h4, h5, fun e => absurd e lj_10, fun _ => ⟨i, hi, hh⟩, fun e => ⟨(h8 e).1, lt_s (h8 e).2 (fun _ => ha)⟩, h9⟩
theorem lj_I36_move {N : Nat} {M f g h : Nat → Nat} {d : Nat} {t : Nat → Nat} {x y0 i b y c y' : Nat} (hi : i < N) (hh : lj_hs g h i d) (hl : lj_lp (lj_al M f g h i d t) y y') (hy : y < y') (H : lj_I36 N M f g h d t x y0 i (b, y, c)) : lj_I36 N M f g h d t x y0 (i + 1) (1, y', 1) := by
  obtain ⟨h1, h2, h3, h4, h5, h6, h7, h8, h9⟩ := H
  have k3 : y0 ≤ y := h3
  refine ⟨Nat.le_refl 1, Nat.le_refl 1, (by omega : y0 ≤ y'), hl.2.1, fun z z1 z2 => ?_, fun e => absurd e lj_10, fun _ => ⟨i, hi, hh⟩, fun e => absurd e lj_10, fun _ => (by omega : y0 < y')⟩
  rcases Nat.lt_or_ge z y with q | q
  · exact h5 z z1 q
  · exact fun hQ => hl.2.2.1 z q z2 (hQ i hi hh)
theorem lj_l36 {N : Nat} {M K f g h : Nat → Nat} {a1 a2 a3 a4 a5 a6 a7 : Nat → Int32} (ok : lj_ok N M K f g h a1 a2 a3 a4 a5) {post : Int32 → Prop} {J : Int32 → Int32 → Int32 → Int32 → Prop} {d x y0 p : Nat} {t : Nat → Nat} (hd : d < 4) (ht : ∀ e, e < d → t e < 8 ∧ a6 e = nI (t e)) (hx : x + p ≤ y0) (hy : y0 < 8) (s0 : Nat × Nat × Nat) (I0 : lj_I36 N M f g h d t x y0 0 s0)
    (HJ : ∀ s, lj_I11 N M f g h d t x (p + 1) s → J (nI s.1) (nI s.2.1) (nI s.2.2) (nI (p + 1))) : ∃ n, wX_leap_36 post J (nI d) (nI x) (nI p) (nI N) a1 a2 a3 a4 a5 a6 a7 n (nI s0.1) (nI s0.2.1) (nI s0.2.2) 0 := by
  have hN := ok.1
  refine pk_loop (fun n i (s : Nat × Nat × Nat) => wX_leap_36 post J (nI d) (nI x) (nI p) (nI N) a1 a2 a3 a4 a5 a6 a7 n (nI s.1) (nI s.2.1) (nI s.2.2) (nI i)) (fun i s => lj_I36 N M f g h d t x y0 i s) N 0 s0 (Nat.zero_le N) I0 ?_ ?_
  · intro n s H
    exact pk_le N N (fun _ => nm_r (nI_1 p) (HJ s (lj_I36_N hx H))) (fun z => absurd z (by omega))
  · intro n i s hi H hw
    obtain ⟨b, y, c⟩ := s
    have h2 : c ≤ 1 := H.2.1
    have h4 : y ≤ 8 := H.2.2.2.1
    show wX_leap_36 post J (nI d) (nI x) (nI p) (nI N) a1 a2 a3 a4 a5 a6 a7 (n + 1) (nI b) (nI y) (nI c) (nI i)
    refine pk_le N i (fun z => absurd z (by omega)) (fun _ => pk_le 8 y (fun z => nm_r (nI_1 p) (HJ (b, y, c) (lj_I36_8 hx hy z H))) (fun z => lj_has ok hi hd (fun hs => br_f (by decide) ?_) (fun hs => br_t rfl (nm_r (nI_1 i) (hw (b, y, c) (lj_I36_skip hs H))))))
    refine lj_af ok hi hd h4 ht hs (fun y' hy' => ?_)
    have h8' := hy'.2.1
    refine pk_le y' y (fun l => ?_) (fun l => ?_)
    · have e : y' = y := by have := hy'.1; omega
      subst e
      exact nm_r (lj_or0 _) (nm_r (nI_1 i) (hw (1, y', c) (lj_I36_stay hi hs (hy'.2.2.2 z) H)))
    · exact nm_r (lj_or1 h2) (nm_r (nI_1 i) (hw (1, y', 1) (lj_I36_move hi hs hy' l H)))
theorem lj_l108 {N : Nat} {M f g h : Nat → Nat} {a1 a2 a3 a4 a5 a6 a7 : Nat → Int32} {F : Int32} {post : Int32 → Prop} {d x p b y c : Nat} {t : Nat → Nat} (hx : x ≤ 8) (H : ∀ y, lj_lp (lj_lv N M f g h d t) x y → post (nI y)) (I : lj_I11 N M f g h d t x p (b, y, c)) (hc : c = 0 ∨ y = 8) : wX_leap_108 post (nI x) (nI b) (nI y) F a1 a2 a3 a4 a5 a6 a7 := by
  obtain ⟨h1, h2, h3, h4, h5, h6, h7, h8, h9⟩ := I
  have k1 : b ≤ 1 := h1
  have k3 : x ≤ y := h3
  have k4 : y ≤ 8 := h4
  have k5 : ∀ z, x ≤ z → z < y → ¬ lj_lv N M f g h d t z := fun z z1 z2 q => h5 z z1 z2 q.1
  have k6 : b = 0 → y = x := h6
  have k7 : b = 1 → ∃ a, a < N ∧ lj_hs g h a d := h7
  have k8 : c = 0 → lj_Q N M f g h d t y ∧ (b = 0 → ∀ a, a < N → ¬ lj_hs g h a d) := h8
  unfold wX_leap_108
  refine pk_eq b 0 (fun e => pk_eq x 0 (fun ex => ?_) (fun ex => ?_)) (fun e => ?_)
  · have ey := k6 e
    rcases hc with hc | hc
    · exact H y ⟨k3, k4, k5, fun _ => ⟨(k8 hc).1, Or.inr (by omega)⟩⟩
    · exact absurd hc (by omega)
  · have ey := k6 e
    refine H 8 ⟨hx, Nat.le_refl 8, fun z z1 z2 q => ?_, fun z => absurd z (by omega)⟩
    rcases hc with hc | hc
    · rcases q.2 with ⟨a, ha, hh⟩ | q2
      · exact (k8 hc).2 e a ha hh
      · omega
    · omega
  · have e1 : b = 1 := by omega
    refine H y ⟨k3, k4, k5, fun hy => ?_⟩
    rcases hc with hc | hc
    · exact ⟨(k8 hc).1, Or.inl (k7 e1)⟩
    · exact absurd hc (by omega)
theorem lj_leap {N : Nat} {M K f g h : Nat → Nat} {a1 a2 a3 a4 a5 a6 a7 : Nat → Int32} (ok : lj_ok N M K f g h a1 a2 a3 a4 a5) {post : Int32 → Prop} {d x : Nat} {p1 : Int32} {t : Nat → Nat} (hd : d < 4) (ht : ∀ e, e < d → t e < 8 ∧ a6 e = nI (t e)) (e1 : p1 = nI x) (hx : x ≤ 8)
    (H : ∀ y, lj_lp (lj_lv N M f g h d t) x y → post (nI y)) : wpX_leap post (nI N, a1, a2, a3, a4, a5, a6, a7) (nI d) p1 := by
  subst e1
  unfold wpX_leap
  refine pk_loop (fun n p (s : Nat × Nat × Nat) => wX_leap_11 post (nI d) (nI x) (nI N) a1 a2 a3 a4 a5 a6 a7 n (nI s.1) (nI s.2.1) (nI s.2.2) (nI p)) (fun p s => lj_I11 N M f g h d t x p s) 9 0 (0, x, 1) (by omega) ?_ ?_ ?_
  · exact ⟨Nat.zero_le 1, Nat.le_refl 1, Nat.le_refl x, hx, fun z z1 z2 => absurd z2 (Nat.not_lt.mpr z1), fun _ => rfl, fun e => absurd e lj_01, fun e => absurd e lj_10, fun _ => Nat.le_refl x⟩
  · intro n s I
    obtain ⟨b, y, c⟩ := s
    have k2 : c ≤ 1 := I.2.1
    have k4 : y ≤ 8 := I.2.2.2.1
    have k9 : c = 1 → x + 9 ≤ y := I.2.2.2.2.2.2.2.2
    show wX_leap_11 post (nI d) (nI x) (nI N) a1 a2 a3 a4 a5 a6 a7 (n + 1) (nI b) (nI y) (nI c) (nI 9)
    exact pk_lt 8 9 (fun _ => lj_l108 hx H I (Or.inl (by omega))) (fun z => absurd z (by omega))
  · intro n p s hp I hw
    obtain ⟨b, y, c⟩ := s
    have k2 : c ≤ 1 := I.2.1
    have k3 : x ≤ y := I.2.2.1
    have k4 : y ≤ 8 := I.2.2.2.1
    have k9 : c = 1 → x + p ≤ y := I.2.2.2.2.2.2.2.2
    show wX_leap_11 post (nI d) (nI x) (nI N) a1 a2 a3 a4 a5 a6 a7 (n + 1) (nI b) (nI y) (nI c) (nI p)
    refine pk_lt 8 p (fun z => absurd z (by omega)) (fun _ => pk_eq c 0 (fun e => lj_l108 hx H I (Or.inl e)) (fun e => pk_le 8 y (fun z => lj_l108 hx H I (Or.inr (by omega))) (fun z => ?_)))
    refine lj_l36 ok hd ht (k9 (by omega)) z (b, y, 0) ?_ (fun s hs => hw s hs)
    exact ⟨I.1, Nat.zero_le 1, Nat.le_refl y, k4, I.2.2.2.2.1, fun e => ⟨I.2.2.2.2.2.1 e, fun a ha => absurd ha (by omega)⟩, I.2.2.2.2.2.2.1, fun _ => ⟨rfl, fun a ha => absurd ha (by omega)⟩, fun e => absurd e lj_01⟩
end
section
theorem lj_digv {m d : Nat} (hm : m < 4096) (hd : d < 4) : (nI m >>> ((9 - (3 * nI d)) &&& 31)) &&& 7 = nI (lj_dg m d) := by
  rcases lj_d4 hd with rfl | rfl | rfl | rfl
  · rw [pk_shrN (n := m) (by omega) ((9 - (3 * nI 0)) &&& 31) 9 (by decide), lj_dg0]
    exact pk_andN (n := m / 512) (by omega) 3 (by decide)
  · rw [pk_shrN (n := m) (by omega) ((9 - (3 * nI 1)) &&& 31) 6 (by decide), lj_dg1]
    exact pk_andN (n := m / 64) (by omega) 3 (by decide)
  · rw [pk_shrN (n := m) (by omega) ((9 - (3 * nI 2)) &&& 31) 3 (by decide), lj_dg2]
    exact pk_andN (n := m / 8) (by omega) 3 (by decide)
  · rw [pk_shrN (n := m) (by omega) ((9 - (3 * nI 3)) &&& 31) 0 (by decide), lj_dg3, Nat.pow_zero, Nat.div_one]
    exact pk_andN (n := m) (by omega) 3 (by decide)
theorem lj_digit {post : Int32 → Prop} {m d : Nat} {p0 p1 : Int32} (e0 : p0 = nI m) (e1 : p1 = nI d) (hm : m < 4096) (hd : d < 4) (H : post (nI (lj_dg m d))) : wpX_digit post () p0 p1 := by
  subst e0 e1
  unfold wpX_digit
  rw [lj_digv hm hd]
  exact H
theorem lj_tight {a1 a2 a3 a4 a5 a6 a7 : Nat → Int32} {F : Int32} {post : Int32 → Prop} {low d : Nat} {t : Nat → Nat} (hl : low < 4096) (hd : d < 4) (ht : ∀ e, e < d + 1 → t e < 8 ∧ a6 e = nI (t e))
    (h1 : (∀ e, e ≤ d → t e = lj_dg low e) → post 1) (h0 : (¬ ∀ e, e ≤ d → t e = lj_dg low e) → post 0) : wpX_tightUpTo post (F, a1, a2, a3, a4, a5, a6, a7) (nI low) (nI d) := by
  unfold wpX_tightUpTo
  refine pk_loop (σ := Unit) (fun n i _ => wX_tightUpTo_2 post (nI low) (nI d) F a1 a2 a3 a4 a5 a6 a7 n (nI i)) (fun i _ => ∀ e, e < i → t e = lj_dg low e) (d + 1) 0 () (by omega) (fun e he => absurd he (by omega)) ?_ ?_
  · intro n _ h
    exact pk_lt d (d + 1) (fun _ => h1 (fun e he => h e (by omega))) (fun z => absurd z (by omega))
  · intro n i _ hi h hw
    have h8 := (ht i hi).1
    have g8 := lj_dg_lt low i
    exact pk_lt d i (fun z => absurd z (by omega)) (fun _ => ⟨pk_in i 4 (by omega), lj_digit rfl rfl hl (by omega) (pk_eq (t i) (lj_dg low i) (fun e => nm_r (nI_1 i) (hw () (lt_s h e))) (fun e => h0 (fun z => e (z i (by omega)))) (by rw [nI_clamp (by omega)]; exact (ht i hi).2) rfl (by omega) (by omega))⟩)
theorem lj_code {a1 a2 a3 a4 a5 a6 a7 : Nat → Int32} {F : Int32} {post : Int32 → Prop} {t : Nat → Nat} (ht : ∀ e, e < 4 → t e < 8 ∧ a6 e = nI (t e)) (H : post (nI (lj_pre t 4))) : wpX_code post (F, a1, a2, a3, a4, a5, a6, a7) := by
  have e : (((a6 3) + (8 * (a6 2))) + (64 * (a6 1))) + (512 * (a6 0)) = nI (lj_pre t 4) := by
    rw [(ht 0 (by omega)).2, (ht 1 (by omega)).2, (ht 2 (by omega)).2, (ht 3 (by omega)).2]
    have e2 : (8 : Int32) * nI (t 2) = nI (8 * t 2) := pk_mul 8 _
    have e1 : (64 : Int32) * nI (t 1) = nI (64 * t 1) := pk_mul 64 _
    have e0 : (512 : Int32) * nI (t 0) = nI (512 * t 0) := pk_mul 512 _
    rw [e0, e1, e2, nI_add, nI_add, nI_add, lj_pre4]
    exact congrArg nI (by omega)
  rw [← e] at H
  exact H
def lj_up (t : Nat → Nat) (d y : Nat) : Nat → Nat := fun e => if e = d then y else t e
theorem lj_up_s (t : Nat → Nat) (d y : Nat) : lj_up t d y d = y := if_pos rfl
theorem lj_up_n (t : Nat → Nat) (y : Nat) {d e : Nat} (h : e ≠ d) : lj_up t d y e = t e := if_neg h
theorem lj_upt {t : Nat → Nat} {a6 : Nat → Int32} {d y : Nat} (ht : ∀ e, e < d → t e < 8 ∧ a6 e = nI (t e)) (hy : y < 8) : ∀ e, e < d + 1 → lj_up t d y e < 8 ∧ upd a6 d (nI y) e = nI (lj_up t d y e) := by
  intro e he
  by_cases h : e = d
  · rw [h, lj_up_s, pk_us]
    exact ⟨hy, rfl⟩
  · rw [lj_up_n t y h, pk_un h]
    exact ht e (by omega)
theorem lj_upl {N : Nat} {M f g h t : Nat → Nat} {d y : Nat} (hv : ∀ e, e < d → lj_lv N M f g h e t (t e)) (hy : lj_lv N M f g h d t y) : ∀ e, e < d + 1 → lj_lv N M f g h e (lj_up t d y) (lj_up t d y e) := by
  intro e he
  by_cases q : e = d
  · rw [q, lj_up_s]
    exact lj_lv_c (fun i hi => (lj_up_n t y (by omega)).symm) hy
  · rw [lj_up_n t y q]
    exact lj_lv_c (fun i hi => (lj_up_n t y (by omega)).symm) (hv e (by omega))
theorem lj_pre_c {t t' : Nat → Nat} {d : Nat} (h : ∀ e, e < d → t' e = t e) : lj_pre t' d = lj_pre t d := by
  induction d with
  | zero => rfl
  | succ d ih =>
    show lj_pre t' d * 8 + t' d = lj_pre t d * 8 + t d
    rw [ih (fun e he => h e (by omega)), h d (by omega)]
theorem lj_pre_up (t : Nat → Nat) (d y : Nat) : lj_pre (lj_up t d y) d = lj_pre t d := lj_pre_c (fun e he => lj_up_n t y (by omega))
/-- digits that pass at each variable make an answer -/
theorem lj_A_code {N : Nat} {M f g h t : Nat → Nat} (ht : ∀ e, e < 4 → t e < 8) (hv : ∀ e, e < 4 → lj_lv N M f g h e t (t e)) : lj_pre t 4 < 4096 ∧ lj_A N M f g h (lj_pre t 4) := by
  have h0 := ht 0 (by omega)
  have h1 := ht 1 (by omega)
  have h2 := ht 2 (by omega)
  have h3 := ht 3 (by omega)
  have hd : (∀ e, e < 3 → lj_dg (lj_pre t 4) e = t e) ∧ lj_dg (lj_pre t 4) 3 = t 3 := by
    refine lj_dig (by omega) (fun e he => ht e (by omega)) h3 ?_
    show lj_pre t 4 / 1 = lj_pre t 4
    exact Nat.div_one _
  have hd4 : ∀ e, e < 4 → lj_dg (lj_pre t 4) e = t e := by
    intro e he
    by_cases q : e = 3
    · rw [q]
      exact hd.2
    · exact hd.1 e (by omega)
  refine ⟨by rw [lj_pre4]; omega, fun d hd' => ?_⟩
  rw [hd4 d hd']
  exact lj_lv_c (fun e he => (hd4 e (by omega)).symm) (hv d hd')
/-- the search ahead of round p, at variable d -/
def lj_DI (N : Nat) (M f g h : Nat → Nat) (low d p : Nat) (a6 a7 : Nat → Int32) : Prop :=
  d < 4 ∧ ∃ t l, (∀ e, e < d → t e < 8 ∧ a6 e = nI (t e)) ∧ (∀ e, e < d → lj_lv N M f g h e t (t e)) ∧ a7 d = nI l ∧ lj_cur (lj_A N M f g h) low d t l p
theorem lj_nf36 {N : Nat} {M K f g h : Nat → Nat} {a1 a2 a3 a4 a5 : Nat → Int32} (ok : lj_ok N M K f g h a1 a2 a3 a4 a5) {post : Int32 → St1 → Prop} {low : Nat} (hl : low < 4096)
    (H : ∀ r a6 a7, lj_nx (lj_A N M f g h) low r → post r (nI N, a1, a2, a3, a4, a5, a6, a7)) (d p : Nat) (a6 a7 : Nat → Int32) (I : lj_DI N M f g h low d p a6 a7) : ∃ n, wX_nextFrom_36 post (nI low) (nI N) n (nI d) (nI p) a1 a2 a3 a4 a5 a6 a7 := by
  refine lp4 (fun n d p a6 a7 => wX_nextFrom_36 post (nI low) (nI N) n (nI d) (nI p) a1 a2 a3 a4 a5 a6 a7) (fun d p a6 a7 => lj_DI N M f g h low d p a6 a7) (fun _ p _ _ => 16384 - p) ?_ d p a6 a7 I
  clear I a6 a7 d p
  intro n d p a6 a7 I hw
  obtain ⟨hd, t, l, ht, hv, ea7, c⟩ := I
  have ht8 : ∀ e, e < d → t e < 8 := fun e he => (ht e he).1
  have hp := lj_cur_p hd ht8 c
  have cd : (nI d).toNatClampNeg = d := nI_clamp (by omega)
  show wX_nextFrom_36 post (nI low) (nI N) (n + 1) (nI d) (nI p) a1 a2 a3 a4 a5 a6 a7
  refine pk_le 16384 p (fun z => absurd z (by omega)) (fun _ => ⟨pk_in d 4 hd, lj_leap ok hd ht (by rw [cd]; exact ea7) c.1 (fun y hy => ?_)⟩)
  have hmin := lj_min hd ht8 c (fun m => lj_A_P hd m) hy
  have hy8 := hy.2.1
  refine pk_le 8 y (fun z => ?_) (fun z => ⟨pk_in d 4 hd, nm_r (e' := upd a6 d (nI y)) (by rw [cd, lj_b8 y (by omega)]) ?_⟩)
  · have ey : y = 8 := by omega
    subst ey
    rcases d with _ | k
    · refine nm_r (e' := -1) (by decide) (br_f (by decide) (H (-1) a6 a7 (Or.inl ⟨rfl, fun m m1 m2 m3 => ?_⟩)))
      have km : 0 * 8 + 8 ≤ m / 512 := hmin m m1 m2 m3
      omega
    · have hk := ht k (by omega)
      have hk8 := hk.1
      have ck : (nI k).toNatClampNeg = k := nI_clamp (by omega)
      refine nm_r (pk_m1 k) (br_t (nI_pos' (by omega)) ⟨pk_in k 4 (by omega), pk_in k 4 (by omega), nm_r (e' := upd a7 k (nI (t k + 1))) (by rw [ck, hk.2, nI_1, lj_b8 _ (by omega)]) (nm_r (nI_1 p) (hw k (p + 1) a6 _ ⟨by omega, t, t k + 1, fun e he => ht e (by omega), fun e he => hv e (by omega), pk_us, ?_⟩ (by omega)))⟩)
      exact lj_pop (by omega) ht8 c hmin
  · have hu := lj_upt ht z
    have hul := lj_upl hv (hy.2.2.2 z)
    have htp : (∀ e, e ≤ d → lj_up t d y e = lj_dg low e) ↔ lj_pre t d * 8 + y = low / 8 ^ (3 - d) := by
      have q := lj_tp (t := lj_up t d y) hd hl (fun e he => (hu e (by omega)).1)
      rw [lj_pre_up, lj_up_s] at q
      exact q
    have fin : d + 1 = 4 → wpX_code (fun r => post r (nI N, a1, a2, a3, a4, a5, upd a6 d (nI y), a7)) (nI N, a1, a2, a3, a4, a5, upd a6 d (nI y), a7) := by
      intro e4
      have e3 : d = 3 := by omega
      subst e3
      have hA := lj_A_code (fun e he => (hu e he).1) hul
      have hpre : lj_pre (lj_up t 3 y) 4 = lj_pre t 3 * 8 + y := by
        show lj_pre (lj_up t 3 y) 3 * 8 + lj_up t 3 y 3 = _
        rw [lj_pre_up, lj_up_s]
      have hc := c.2.1
      have hly := hy.1
      refine lj_code hu (H _ _ _ (Or.inr ⟨_, rfl, ?_, hA.1, hA.2, fun q q1 q2 q3 => ?_⟩))
      · rw [hpre]
        have hc' : low / 1 ≤ lj_pre t 3 * 8 + l := hc
        rw [Nat.div_one] at hc'
        omega
      · have km : lj_pre t 3 * 8 + y ≤ q / 1 := hmin q q1 (by have := hA.1; omega) q3
        rw [Nat.div_one] at km
        omega
    have go : ∀ l', l' ≤ 8 → d + 1 ≠ 4 → ((lj_pre t d * 8 + y = low / 8 ^ (3 - d) ∧ l' = lj_dg low (d + 1)) ∨ (lj_pre t d * 8 + y ≠ low / 8 ^ (3 - d) ∧ l' = 0)) → wX_nextFrom_36 post (nI low) (nI N) n (nI (d + 1)) (nI (p + 1)) a1 a2 a3 a4 a5 (upd a6 d (nI y)) (upd a7 (d + 1) (nI l')) := by
      intro l' hl' hd4 hc
      refine hw (d + 1) (p + 1) _ _ ⟨by omega, lj_up t d y, l', hu, hul, pk_us, ?_⟩ (by omega)
      exact lj_push (by omega) (fun e he => lj_up_n t y (by omega)) (lj_up_s t d y) hy.1 hl' c hmin hc
    have cd1 : (nI (d + 1)).toNatClampNeg = d + 1 := nI_clamp (by omega)
    refine lj_tight (t := lj_up t d y) hl hd hu (fun hT => nm_r (nI_1 d) ?_) (fun hT => nm_r (nI_1 d) ?_)
    · have g8 := lj_dg_lt low (d + 1)
      refine pk_eq (d + 1) 4 fin (fun n4 => br_f (by decide) (lj_digit rfl rfl hl (by omega) ⟨pk_in (d + 1) 4 (by omega), nm_r (e' := upd a7 (d + 1) (nI (lj_dg low (d + 1)))) (by rw [cd1, lj_b8 _ (by omega)]) (nm_r (nI_1 p) (go _ (by omega) n4 (Or.inl ⟨htp.mp hT, rfl⟩)))⟩))
    · refine pk_eq (d + 1) 4 fin (fun n4 => br_t rfl ⟨pk_in (d + 1) 4 (by omega), nm_r (e' := upd a7 (d + 1) (nI 0)) (by rw [cd1]; rfl) (nm_r (nI_1 p) (go 0 (by omega) n4 (Or.inr ⟨fun q => hT (htp.mpr q), rfl⟩)))⟩)
theorem lj_next {N : Nat} {M K f g h : Nat → Nat} {a1 a2 a3 a4 a5 a6 a7 : Nat → Int32} (ok : lj_ok N M K f g h a1 a2 a3 a4 a5) {post : Int32 → St1 → Prop} {c : Nat} {p0 : Int32} (e0 : p0 = nI c) (hc : c ≤ 4096)
    (H : ∀ r a6 a7, lj_nx (lj_A N M f g h) c r → post r (nI N, a1, a2, a3, a4, a5, a6, a7)) : wpX_nextFrom post (nI N, a1, a2, a3, a4, a5, a6, a7) p0 := by
  subst e0
  unfold wpX_nextFrom
  refine pk_lt c 4096 (fun z => br_t (nI_pos' (by omega)) ?_) (fun z => H _ _ _ (Or.inl ⟨rfl, fun m h1 h2 => absurd h1 (by omega)⟩))
  unfold wX_nextFrom_18
  have g8 := lj_dg_lt c 0
  refine lj_digit (d := 0) rfl rfl z (by omega) (nm_r (e' := upd a7 0 (nI (lj_dg c 0))) (by rw [lj_b8 _ (by omega)]) ?_)
  refine lj_nf36 ok z H 0 0 a6 _ ⟨by omega, fun _ => 0, lj_dg c 0, fun e he => absurd he (by omega), fun e he => absurd he (by omega), pk_us, ?_⟩
  refine ⟨by omega, ?_, fun m m1 m2 m3 => ?_, Nat.zero_le _⟩
  · show c / 512 ≤ 0 * 8 + c / 512 % 8
    omega
  · show 0 * 8 + c / 512 % 8 ≤ m / 512
    omega
end
section
theorem lj_m1 {c : Nat} (hc : c < 2 ^ 31) : ¬ (-1 : Int32) = nI c := fun e => nI_pos hc (by rw [← e]; decide)
theorem lj_nx_br {A : Nat → Prop} {c : Nat} {r : Int32} {P Q : Prop} (h : lj_nx A c r) (hn : (∀ m, c ≤ m → m < 4096 → ¬ A m) → r = -1 → P)
    (hs : ∀ m, r = nI m → c ≤ m → m < 4096 → A m → (∀ q, c ≤ q → q < m → ¬ A q) → Q) : (r < 0 → P) ∧ (¬ r < 0 → Q) := by
  rcases h with ⟨e, h⟩ | ⟨m, e, h1, h2, h3, h4⟩
  · subst e
    exact br_t (by decide) (hn h rfl)
  · subst e
    exact br_f (nI_pos (by omega)) (hs m rfl h1 h2 h3 h4)
theorem lj_inc {x : Int32} {m : Nat} (e : x = nI m) : x + 1 = nI (m + 1) := by
  rw [e]
  exact nI_1 m
theorem lj_full {A : Nat → Prop} {c : Nat} (hc : c ≤ 4096) (h : 4096 ≤ lj_cn A c) : c = 4096 := by
  have := lj_cn_le A c
  omega
/-! ===== count ===== -/
theorem lj_count10 {N : Nat} {M K f g h : Nat → Nat} {a1 a2 a3 a4 a5 : Nat → Int32} (ok : lj_ok N M K f g h a1 a2 a3 a4 a5) {post : Int32 → St1 → Prop}
    (H : ∀ a6 a7, post (nI (lj_cn (lj_A N M f g h) 4096)) (nI N, a1, a2, a3, a4, a5, a6, a7)) (c : Nat) (x2 : Int32) (a6 a7 : Nat → Int32) (I : c ≤ 4096 ∧ lj_nx (lj_A N M f g h) c x2) :
    ∃ n, wX_count_10 post n (nI (lj_cn (lj_A N M f g h) c)) x2 (nI (lj_cn (lj_A N M f g h) c)) (nI N) a1 a2 a3 a4 a5 a6 a7 := by
  refine lp4 (fun n c x2 a6 a7 => wX_count_10 post n (nI (lj_cn (lj_A N M f g h) c)) x2 (nI (lj_cn (lj_A N M f g h) c)) (nI N) a1 a2 a3 a4 a5 a6 a7) (fun c x2 _ _ => c ≤ 4096 ∧ lj_nx (lj_A N M f g h) c x2) (fun c _ _ _ => 4096 - c) ?_ c x2 a6 a7 I
  clear I a6 a7 x2 c
  intro n c x2 a6 a7 I hw
  obtain ⟨hc, hx⟩ := I
  have hle := lj_cn_le (lj_A N M f g h) c
  refine pk_le 4096 (lj_cn (lj_A N M f g h) c) (fun z => ?_) (fun z => lj_nx_br hx (fun hn _ => ?_) (fun m e m1 m2 m3 m4 => nm_r (nI_1 _) (lj_next ok (lj_inc e) (by omega) (fun r b6 b7 hr => nm_r (nI_1 _) ?_))))
  · have e := lj_full hc z
    subst e
    exact H a6 a7
  · rw [← lj_cn_skip hc hn]
    exact H a6 a7
  · have q := hw (m + 1) r b6 b7 ⟨by omega, hr⟩ (by omega)
    rw [lj_cn_next m1 m3 m4] at q
    exact q
theorem lj_count {N : Nat} {M K f g h : Nat → Nat} {a1 a2 a3 a4 a5 a6 a7 : Nat → Int32} (ok : lj_ok N M K f g h a1 a2 a3 a4 a5) {post : Int32 → St1 → Prop}
    (H : ∀ a6 a7, post (nI (lj_cn (lj_A N M f g h) 4096)) (nI N, a1, a2, a3, a4, a5, a6, a7)) : wpX_count post (nI N, a1, a2, a3, a4, a5, a6, a7) := by
  unfold wpX_count
  exact lj_next ok (c := 0) rfl (by omega) (fun r b6 b7 hr => lj_count10 ok H 0 r b6 b7 ⟨by omega, hr⟩)
/-! ===== answer, seek, holds ===== -/
theorem lj_answer16 {N : Nat} {M K f g h : Nat → Nat} {a1 a2 a3 a4 a5 : Nat → Int32} (ok : lj_ok N M K f g h a1 a2 a3 a4 a5) {post : Int32 → St1 → Prop} {k : Nat} (hk : k ≤ 4096)
    (Hn : lj_cn (lj_A N M f g h) 4096 ≤ k → ∀ a6 a7, post (-1) (nI N, a1, a2, a3, a4, a5, a6, a7))
    (Hs : ∀ m, m < 4096 → lj_A N M f g h m → lj_cn (lj_A N M f g h) m = k → ∀ a6 a7, post (nI m) (nI N, a1, a2, a3, a4, a5, a6, a7))
    (c : Nat) (x2 : Int32) (a6 a7 : Nat → Int32) (I : c ≤ 4096 ∧ lj_nx (lj_A N M f g h) c x2 ∧ lj_cn (lj_A N M f g h) c ≤ k) :
    ∃ n, wX_answer_16 post (nI k) n x2 (nI (lj_cn (lj_A N M f g h) c)) (nI N) a1 a2 a3 a4 a5 a6 a7 := by
  refine lp4 (fun n c x2 a6 a7 => wX_answer_16 post (nI k) n x2 (nI (lj_cn (lj_A N M f g h) c)) (nI N) a1 a2 a3 a4 a5 a6 a7) (fun c x2 _ _ => c ≤ 4096 ∧ lj_nx (lj_A N M f g h) c x2 ∧ lj_cn (lj_A N M f g h) c ≤ k) (fun c _ _ _ => 4096 - c) ?_ c x2 a6 a7 I
  clear I a6 a7 x2 c
  intro n c x2 a6 a7 I hw
  obtain ⟨hc, hx, hck⟩ := I
  refine pk_le k (lj_cn (lj_A N M f g h) c) (fun z => ?_) (fun z => lj_nx_br hx (fun hn e => ?_) (fun m e m1 m2 m3 m4 => lj_next ok (lj_inc e) (by omega) (fun r b6 b7 hr => nm_r (nI_1 _) ?_)))
  · rcases hx with ⟨e, hn⟩ | ⟨m, e, m1, m2, m3, m4⟩
    · subst e
      exact Hn (by rw [lj_cn_skip hc hn]; exact hck) a6 a7
    · subst e
      exact Hs m m2 m3 (by rw [lj_cn_skip m1 m4]; omega) a6 a7
  · subst e
    exact Hn (by rw [lj_cn_skip hc hn]; exact hck) a6 a7
  · have q := hw (m + 1) r b6 b7 ⟨by omega, hr, by rw [lj_cn_next m1 m3 m4]; omega⟩ (by omega)
    rw [lj_cn_next m1 m3 m4] at q
    exact q
theorem lj_answer {N : Nat} {M K f g h : Nat → Nat} {a1 a2 a3 a4 a5 a6 a7 : Nat → Int32} (ok : lj_ok N M K f g h a1 a2 a3 a4 a5) {post : Int32 → St1 → Prop} {k : Nat} (hk : k ≤ 4096)
    (Hn : lj_cn (lj_A N M f g h) 4096 ≤ k → ∀ a6 a7, post (-1) (nI N, a1, a2, a3, a4, a5, a6, a7))
    (Hs : ∀ m, m < 4096 → lj_A N M f g h m → lj_cn (lj_A N M f g h) m = k → ∀ a6 a7, post (nI m) (nI N, a1, a2, a3, a4, a5, a6, a7)) : wpX_answer post (nI N, a1, a2, a3, a4, a5, a6, a7) (nI k) := by
  unfold wpX_answer
  exact br_t (nI_pos' (by omega)) (lj_next ok (c := 0) rfl (by omega) (fun r b6 b7 hr => lj_answer16 ok hk Hn Hs 0 r b6 b7 ⟨by omega, hr, Nat.zero_le k⟩))
theorem lj_seek {N : Nat} {M K f g h : Nat → Nat} {a1 a2 a3 a4 a5 a6 a7 : Nat → Int32} (ok : lj_ok N M K f g h a1 a2 a3 a4 a5) {post : Int32 → St1 → Prop} {c : Nat} (hc : c ≤ 4096)
    (H : ∀ r a6 a7, lj_nx (lj_A N M f g h) c r → post r (nI N, a1, a2, a3, a4, a5, a6, a7)) : wpX_seek post (nI N, a1, a2, a3, a4, a5, a6, a7) (nI c) := by
  unfold wpX_seek
  exact lj_next ok rfl hc (fun r b6 b7 hr => H r b6 b7 hr)
theorem lj_holds {N : Nat} {M K f g h : Nat → Nat} {a1 a2 a3 a4 a5 a6 a7 : Nat → Int32} (ok : lj_ok N M K f g h a1 a2 a3 a4 a5) {post : Int32 → St1 → Prop} {c : Nat} (hc : c < 4096)
    (h1 : lj_A N M f g h c → ∀ a6 a7, post 1 (nI N, a1, a2, a3, a4, a5, a6, a7)) (h0 : ¬ lj_A N M f g h c → ∀ a6 a7, post 0 (nI N, a1, a2, a3, a4, a5, a6, a7)) : wpX_holds post (nI N, a1, a2, a3, a4, a5, a6, a7) (nI c) := by
  unfold wpX_holds
  refine br_f (nI_pos (by omega)) (lj_next ok rfl (by omega) (fun r b6 b7 hr => ?_))
  rcases hr with ⟨e, hn⟩ | ⟨m, e, m1, m2, m3, m4⟩
  · subst e
    exact br_f (lj_m1 (by omega)) (h0 (hn c (Nat.le_refl c) hc) b6 b7)
  · subst e
    refine pk_eq m c (fun e => h1 (by rw [← e]; exact m3) b6 b7) (fun ne => h0 (m4 c (Nat.le_refl c) (by omega)) b6 b7)
theorem lj_isV {post : Int32 → Prop} {v : Nat} (hv : v < 4) (H : post 1) : wpX_isVariable post () (nI v) := by
  unfold wpX_isVariable
  exact br_f (nI_pos (by omega)) (pk_le 4 v (fun z => absurd z (by omega)) (fun _ => H))
/-! ===== values ===== -/
/-- q holds, as bits below n, the marks k m of the members m < c -/
def lj_mk (A : Nat → Prop) (k : Nat → Nat) (n c q : Nat) : Prop := ∀ x, x < n → (q.testBit x = true ↔ ∃ m, m < c ∧ A m ∧ k m = x)
theorem lj_mk_0 (A : Nat → Prop) (k : Nat → Nat) (n : Nat) : lj_mk A k n 0 0 := by
  intro x hx
  rw [Nat.zero_testBit]
  exact ⟨fun e => absurd e (by decide), fun ⟨m, hm, _⟩ => absurd hm (by omega)⟩
theorem lj_mk_skip {A : Nat → Prop} {k : Nat → Nat} {n c c' q : Nat} (hc : c ≤ c') (hn : ∀ m, c ≤ m → m < c' → ¬ A m) (H : lj_mk A k n c q) : lj_mk A k n c' q := by
  intro x hx
  rw [H x hx]
  constructor
  · rintro ⟨m, h1, h2, h3⟩
    exact ⟨m, by omega, h2, h3⟩
  · rintro ⟨m, h1, h2, h3⟩
    rcases Nat.lt_or_ge m c with z | z
    · exact ⟨m, z, h2, h3⟩
    · exact absurd h2 (hn m z h1)
theorem lj_mk_next {A : Nat → Prop} {k : Nat → Nat} {n c m q : Nat} (hc : c ≤ m) (hA : A m) (hn : ∀ z, c ≤ z → z < m → ¬ A z) (H : lj_mk A k n c q) : lj_mk A k n (m + 1) (q ||| 2 ^ k m) := by
  intro x hx
  rw [lj_ont, Bool.or_eq_true, lj_mk_skip hc hn H x hx, decide_eq_true_iff]
  constructor
  · rintro (⟨z, h1, h2, h3⟩ | e)
    · exact ⟨z, by omega, h2, h3⟩
    · exact ⟨m, by omega, hA, e⟩
  · rintro ⟨z, h1, h2, h3⟩
    by_cases e : z = m
    · subst e
      exact Or.inr h3
    · exact Or.inl ⟨z, by omega, h2, h3⟩
theorem lj_values22 {N : Nat} {M K f g h : Nat → Nat} {a1 a2 a3 a4 a5 : Nat → Int32} (ok : lj_ok N M K f g h a1 a2 a3 a4 a5) {post : Int32 → St1 → Prop} {v : Nat} (hv : v < 4)
    (H : ∀ q a6 a7, q < 256 → lj_mk (lj_A N M f g h) (fun m => lj_dg m v) 8 4096 q → post (nI q) (nI N, a1, a2, a3, a4, a5, a6, a7))
    (c q : Nat) (x2 : Int32) (a6 a7 : Nat → Int32) (I : c ≤ 4096 ∧ lj_nx (lj_A N M f g h) c x2 ∧ q < 256 ∧ lj_mk (lj_A N M f g h) (fun m => lj_dg m v) 8 c q) :
    ∃ n, wX_values_22 post (nI v) n (nI q) x2 (nI (lj_cn (lj_A N M f g h) c)) (nI N) a1 a2 a3 a4 a5 a6 a7 := by
  refine lp5 (fun n c q x2 a6 a7 => wX_values_22 post (nI v) n (nI q) x2 (nI (lj_cn (lj_A N M f g h) c)) (nI N) a1 a2 a3 a4 a5 a6 a7) (fun c q x2 _ _ => c ≤ 4096 ∧ lj_nx (lj_A N M f g h) c x2 ∧ q < 256 ∧ lj_mk (lj_A N M f g h) (fun m => lj_dg m v) 8 c q) (fun c _ _ _ _ => 4096 - c) ?_ c q x2 a6 a7 I
  clear I a6 a7 x2 q c
  intro n c q x2 a6 a7 I hw
  obtain ⟨hc, hx, hq, hk⟩ := I
  have hle := lj_cn_le (lj_A N M f g h) c
  refine pk_le 4096 (lj_cn (lj_A N M f g h) c) (fun z => ?_) (fun z => lj_nx_br hx (fun hn _ => H q a6 a7 hq (lj_mk_skip hc hn hk)) (fun m e m1 m2 m3 m4 => lj_digit e rfl m2 hv (nm_r (e' := nI (q ||| 2 ^ lj_dg m v)) ?_ (lj_next ok (lj_inc e) (by omega) (fun r b6 b7 hr => nm_r (nI_1 _) ?_)))))
  · have e := lj_full hc z
    subst e
    exact H q a6 a7 hq hk
  · rw [lj_one _ (by have := lj_dg_lt m v; omega), lj_or]
  · have p := hw (m + 1) (q ||| 2 ^ lj_dg m v) r b6 b7 ⟨by omega, hr, lj_onlt hq (lj_dg_lt m v), lj_mk_next (k := fun m => lj_dg m v) m1 m3 m4 hk⟩ (by omega)
    rw [lj_cn_next m1 m3 m4] at p
    exact p
theorem lj_values {N : Nat} {M K f g h : Nat → Nat} {a1 a2 a3 a4 a5 a6 a7 : Nat → Int32} (ok : lj_ok N M K f g h a1 a2 a3 a4 a5) {post : Int32 → St1 → Prop} {v : Nat} (hv : v < 4)
    (H : ∀ q a6 a7, q < 256 → lj_mk (lj_A N M f g h) (fun m => lj_dg m v) 8 4096 q → post (nI q) (nI N, a1, a2, a3, a4, a5, a6, a7)) : wpX_values post (nI N, a1, a2, a3, a4, a5, a6, a7) (nI v) := by
  unfold wpX_values
  exact lj_isV hv (br_f (by decide) (lj_next ok (c := 0) rfl (by omega) (fun r b6 b7 hr => lj_values22 ok hv H 0 0 r b6 b7 ⟨by omega, hr, by omega, lj_mk_0 _ _ _⟩)))
/-! ===== countWith ===== -/
theorem lj_cw23 {N : Nat} {M K f g h : Nat → Nat} {a1 a2 a3 a4 a5 : Nat → Int32} (ok : lj_ok N M K f g h a1 a2 a3 a4 a5) {post : Int32 → St1 → Prop} {v x : Nat} (hv : v < 4) (hx8 : x < 8)
    (H : ∀ a6 a7, post (nI (lj_cn (fun m => lj_A N M f g h m ∧ lj_dg m v = x) 4096)) (nI N, a1, a2, a3, a4, a5, a6, a7))
    (c : Nat) (x2 : Int32) (a6 a7 : Nat → Int32) (I : c ≤ 4096 ∧ lj_nx (lj_A N M f g h) c x2) :
    ∃ n, wX_countWith_23 post (nI v) (nI x) n (nI (lj_cn (fun m => lj_A N M f g h m ∧ lj_dg m v = x) c)) x2 (nI (lj_cn (lj_A N M f g h) c)) (nI N) a1 a2 a3 a4 a5 a6 a7 := by
  refine lp4 (fun n c x2 a6 a7 => wX_countWith_23 post (nI v) (nI x) n (nI (lj_cn (fun m => lj_A N M f g h m ∧ lj_dg m v = x) c)) x2 (nI (lj_cn (lj_A N M f g h) c)) (nI N) a1 a2 a3 a4 a5 a6 a7) (fun c x2 _ _ => c ≤ 4096 ∧ lj_nx (lj_A N M f g h) c x2) (fun c _ _ _ => 4096 - c) ?_ c x2 a6 a7 I
  clear I a6 a7 x2 c
  intro n c x2 a6 a7 I hw
  obtain ⟨hc, hx⟩ := I
  have hle := lj_cn_le (lj_A N M f g h) c
  refine pk_le 4096 (lj_cn (lj_A N M f g h) c) (fun z => ?_) (fun z => lj_nx_br hx (fun hn _ => ?_) (fun m e m1 m2 m3 m4 => ?_))
  · have e := lj_full hc z
    subst e
    exact H a6 a7
  · rw [← lj_cn_skip (A := fun m => lj_A N M f g h m ∧ lj_dg m v = x) hc (fun q q1 q2 q3 => hn q q1 q2 q3.1)]
    exact H a6 a7
  · have sk := lj_cn_skip (A := fun m => lj_A N M f g h m ∧ lj_dg m v = x) m1 (fun q q1 q2 q3 => m4 q q1 q2 q3.1)
    have d8 := lj_dg_lt m v
    refine lj_digit e rfl m2 hv (pk_eq (lj_dg m v) x (fun ex => ?_) (fun ex => ?_))
    · refine nm_r (nI_1 _) (lj_next ok (lj_inc e) (by omega) (fun r b6 b7 hr => nm_r (nI_1 _) ?_))
      have p := hw (m + 1) r b6 b7 ⟨by omega, hr⟩ (by omega)
      rw [lj_cn_next m1 m3 m4, lj_cn_s, lj_b_t (show lj_A N M f g h m ∧ lj_dg m v = x from ⟨m3, ex⟩), sk] at p
      exact p
    · refine nm_r (e' := nI (lj_cn (fun m => lj_A N M f g h m ∧ lj_dg m v = x) c)) (nI_add _ 0) (lj_next ok (lj_inc e) (by omega) (fun r b6 b7 hr => nm_r (nI_1 _) ?_))
      have p := hw (m + 1) r b6 b7 ⟨by omega, hr⟩ (by omega)
      rw [lj_cn_next m1 m3 m4, lj_cn_s, lj_b_f (show ¬ (lj_A N M f g h m ∧ lj_dg m v = x) from fun q => ex q.2), sk] at p
      exact p
theorem lj_countWith {N : Nat} {M K f g h : Nat → Nat} {a1 a2 a3 a4 a5 a6 a7 : Nat → Int32} (ok : lj_ok N M K f g h a1 a2 a3 a4 a5) {post : Int32 → St1 → Prop} {v x : Nat} (hv : v < 4) (hx8 : x < 8)
    (H : ∀ a6 a7, post (nI (lj_cn (fun m => lj_A N M f g h m ∧ lj_dg m v = x) 4096)) (nI N, a1, a2, a3, a4, a5, a6, a7)) : wpX_countWith post (nI N, a1, a2, a3, a4, a5, a6, a7) (nI v) (nI x) := by
  unfold wpX_countWith
  exact lj_isV hv (br_f (by decide) (lj_next ok (c := 0) rfl (by omega) (fun r b6 b7 hr => lj_cw23 ok hv hx8 H 0 r b6 b7 ⟨by omega, hr⟩)))
/-! ===== pairs, ones ===== -/
theorem lj_pairs90 {post : Int32 → St1 → Prop} {F : Int32} {a1 a2 a3 a4 a5 a6 a7 : Nat → Int32} {q : Nat} (hq : q < 2 ^ 64) (H : post (nI (lj_cn (fun p => q.testBit p = true) 64)) (F, a1, a2, a3, a4, a5, a6, a7)) : ∃ n, wX_pairs_90 post (lN q) F a1 a2 a3 a4 a5 a6 a7 n 0 0 := by
  refine pk_loop (σ := Unit) (fun n p _ => wX_pairs_90 post (lN q) F a1 a2 a3 a4 a5 a6 a7 n (nI (lj_cn (fun p => q.testBit p = true) p)) (nI p)) (fun _ _ => True) 64 0 () (by omega) trivial ?_ ?_
  · intro n _ _
    exact pk_le 64 64 (fun _ => H) (fun z => absurd z (by omega))
  · intro n p _ hp _ hw
    refine pk_le 64 p (fun z => absurd z (by omega)) (fun _ => nm_r (e' := nI (lj_cn (fun p => q.testBit p = true) (p + 1))) ?_ (nm_r (nI_1 p) (hw () trivial)))
    rw [wb_bit hq hp, lN_i, nI_add, lj_cn_s, lj_bq]
theorem lj_place (a b : Nat) : (8 : Int32) * nI a + nI b = nI (8 * a + b) := by
  rw [show (8 : Int32) * nI a = nI (8 * a) from pk_mul 8 a, nI_add]
theorem lj_seen {q p : Nat} (hq : q < 2 ^ 64) (hp : p < 64) : lN q ||| ((1 : Int64) <<< ((nI p).toInt64 &&& 63)) = lN (q ||| 2 ^ p) := by
  have h := wb_shl 1 hp
  rw [Nat.one_mul] at h
  have e : (1 : Int64) <<< ((nI p).toInt64 &&& 63) = lN (2 ^ p) := h
  rw [e, wb_or hq (wb_lt2 hp)]
theorem lj_pairs30 {N : Nat} {M K f g h : Nat → Nat} {a1 a2 a3 a4 a5 : Nat → Int32} (ok : lj_ok N M K f g h a1 a2 a3 a4 a5) {post : Int32 → St1 → Prop} {v w : Nat} (hv : v < 4) (hw4 : w < 4)
    (H : ∀ a6 a7, post (nI (lj_cn (fun p => ∃ m, m < 4096 ∧ lj_A N M f g h m ∧ 8 * lj_dg m v + lj_dg m w = p) 64)) (nI N, a1, a2, a3, a4, a5, a6, a7))
    (c q : Nat) (x2 : Int32) (a6 a7 : Nat → Int32) (I : c ≤ 4096 ∧ lj_nx (lj_A N M f g h) c x2 ∧ q < 2 ^ 64 ∧ lj_mk (lj_A N M f g h) (fun m => 8 * lj_dg m v + lj_dg m w) 64 c q) :
    ∃ n, wX_pairs_30 post (nI v) (nI w) n (lN q) x2 (nI (lj_cn (lj_A N M f g h) c)) (nI N) a1 a2 a3 a4 a5 a6 a7 := by
  have fin : ∀ q a6 a7, q < 2 ^ 64 → lj_mk (lj_A N M f g h) (fun m => 8 * lj_dg m v + lj_dg m w) 64 4096 q → ∃ n, wX_pairs_90 post (lN q) (nI N) a1 a2 a3 a4 a5 a6 a7 n 0 0 := by
    intro q a6 a7 hq hk
    refine lj_pairs90 hq ?_
    rw [lj_cn_iff (B := fun p => ∃ m, m < 4096 ∧ lj_A N M f g h m ∧ 8 * lj_dg m v + lj_dg m w = p) hk]
    exact H a6 a7
  refine lp5 (fun n c q x2 a6 a7 => wX_pairs_30 post (nI v) (nI w) n (lN q) x2 (nI (lj_cn (lj_A N M f g h) c)) (nI N) a1 a2 a3 a4 a5 a6 a7) (fun c q x2 _ _ => c ≤ 4096 ∧ lj_nx (lj_A N M f g h) c x2 ∧ q < 2 ^ 64 ∧ lj_mk (lj_A N M f g h) (fun m => 8 * lj_dg m v + lj_dg m w) 64 c q) (fun c _ _ _ _ => 4096 - c) ?_ c q x2 a6 a7 I
  clear I a6 a7 x2 q c
  intro n c q x2 a6 a7 I hw
  obtain ⟨hc, hx, hq, hk⟩ := I
  have hle := lj_cn_le (lj_A N M f g h) c
  refine pk_le 4096 (lj_cn (lj_A N M f g h) c) (fun z => ?_) (fun z => lj_nx_br hx (fun hn _ => fin q a6 a7 hq (lj_mk_skip hc hn hk)) (fun m e m1 m2 m3 m4 => ?_))
  · have e := lj_full hc z
    subst e
    exact fin q a6 a7 hq hk
  · have d1 := lj_dg_lt m v
    have d2 := lj_dg_lt m w
    refine lj_digit e rfl m2 hv (lj_digit e rfl m2 hw4 (nm_r (lj_place _ _) (nm_r (lj_seen hq (by omega)) (lj_next ok (lj_inc e) (by omega) (fun r b6 b7 hr => nm_r (nI_1 _) ?_)))))
    have p := hw (m + 1) (q ||| 2 ^ (8 * lj_dg m v + lj_dg m w)) r b6 b7 ⟨by omega, hr, Nat.or_lt_two_pow hq (wb_lt2 (by omega)), lj_mk_next (k := fun m => 8 * lj_dg m v + lj_dg m w) m1 m3 m4 hk⟩ (by omega)
    rw [lj_cn_next m1 m3 m4] at p
    exact p
theorem lj_pairs {N : Nat} {M K f g h : Nat → Nat} {a1 a2 a3 a4 a5 a6 a7 : Nat → Int32} (ok : lj_ok N M K f g h a1 a2 a3 a4 a5) {post : Int32 → St1 → Prop} {v w : Nat} (hv : v < 4) (hw4 : w < 4)
    (H : ∀ a6 a7, post (nI (lj_cn (fun p => ∃ m, m < 4096 ∧ lj_A N M f g h m ∧ 8 * lj_dg m v + lj_dg m w = p) 64)) (nI N, a1, a2, a3, a4, a5, a6, a7)) : wpX_pairs post (nI N, a1, a2, a3, a4, a5, a6, a7) (nI v) (nI w) := by
  unfold wpX_pairs
  exact lj_isV hv (br_f (by decide) (lj_isV hw4 (br_f (by decide) (lj_next ok (c := 0) rfl (by omega) (fun r b6 b7 hr => lj_pairs30 ok hv hw4 H 0 0 r b6 b7 ⟨by omega, hr, by omega, lj_mk_0 _ _ _⟩)))))
theorem lj_ones {post : Int32 → Prop} {q : Nat} (hq : q < 256) (H : post (nI (lj_cn (fun p => q.testBit p = true) 8))) : wpL_ones post () (nI q) := by
  unfold wpL_ones
  refine pk_loop (σ := Unit) (fun n p _ => wL_ones_4 post (nI q) n (nI (lj_cn (fun p => q.testBit p = true) p)) (nI p)) (fun _ _ => True) 8 0 () (by omega) trivial ?_ ?_
  · intro n _ _
    exact pk_le 8 8 (fun _ => H) (fun z => absurd z (by omega))
  · intro n p _ hp _ hw
    refine pk_le 8 p (fun z => absurd z (by omega)) (fun _ => nm_r (e' := nI (lj_cn (fun p => q.testBit p = true) (p + 1))) ?_ (nm_r (nI_1 p) (hw () trivial)))
    rw [lj_bitv (by omega) (by omega), nI_add, lj_cn_s, lj_bq]
end
section
theorem lj_isR {post : Int32 → Prop} {r : Nat} (hr : r < 3) (H : post 1) : wpX_isRelation post () (nI r) := by
  unfold wpX_isRelation
  exact br_f (nI_pos (by omega)) (pk_le 3 r (fun z => absurd z (by omega)) (fun _ => H))
theorem lj_isT {post : Int32 → Prop} {x : Nat} (hx : x < 8) (H : post 1) : wpX_isThing post () (nI x) := by
  unfold wpX_isThing
  exact br_f (nI_pos (by omega)) (pk_le 8 x (fun z => absurd z (by omega)) (fun _ => H))
theorem lj_at (r x : Nat) : nI r * 8 + nI x = nI (r * 8 + x) := by
  rw [show nI r * 8 = nI (r * 8) from pk_mul r 8, nI_add]
theorem lj_put0 {N : Nat} {M K f g h : Nat → Nat} {a1 a2 a3 a4 a5 a6 a7 : Nat → Int32} {F : Int32} (ok : lj_ok N M K f g h a1 a2 a3 a4 a5) {post : St1 → Prop} {r x y : Nat} (hr : r < 3) (hx : x < 8) (hy : y < 8)
    (H : post (F, upd a1 (r * 8 + x) (nI (M (r * 8 + x) &&& (255 ^^^ 2 ^ y))), upd a2 (r * 8 + y) (nI (K (r * 8 + y) &&& (255 ^^^ 2 ^ x))), a3, a4, a5, a6, a7)) : wpX_put post (F, a1, a2, a3, a4, a5, a6, a7) (nI r) (nI x) (nI y) 0 := by
  have c1 : (nI (r * 8 + x)).toNatClampNeg = r * 8 + x := nI_clamp (by omega)
  have c2 : (nI (r * 8 + y)).toNatClampNeg = r * 8 + y := nI_clamp (by omega)
  obtain ⟨m8, me⟩ := ok.2.1 (r * 8 + x) (by omega)
  obtain ⟨k8, ke⟩ := ok.2.2.1 (r * 8 + y) (by omega)
  unfold wpX_put
  refine nm_r (lj_at r x) (nm_r (lj_at r y) (br_t rfl ⟨pk_in (r * 8 + x) 24 (by omega), ?_⟩))
  unfold wX_put_54
  refine ⟨pk_in (r * 8 + x) 24 (by omega), nm_r (e' := upd a1 (r * 8 + x) (nI (M (r * 8 + x) &&& (255 ^^^ 2 ^ y)))) (by rw [c1, me, lj_off _ m8 _ hy]) (br_t rfl ⟨pk_in (r * 8 + y) 24 (by omega), pk_in (r * 8 + y) 24 (by omega), nm_r (e' := upd a2 (r * 8 + y) (nI (K (r * 8 + y) &&& (255 ^^^ 2 ^ x)))) (by rw [c2, ke, lj_off _ k8 _ hx]) H⟩)⟩
theorem lj_put1 {N : Nat} {M K f g h : Nat → Nat} {a1 a2 a3 a4 a5 a6 a7 : Nat → Int32} {F : Int32} (ok : lj_ok N M K f g h a1 a2 a3 a4 a5) {post : St1 → Prop} {r x y : Nat} (hr : r < 3) (hx : x < 8) (hy : y < 8)
    (H : post (F, upd a1 (r * 8 + x) (nI (M (r * 8 + x) ||| 2 ^ y)), upd a2 (r * 8 + y) (nI (K (r * 8 + y) ||| 2 ^ x)), a3, a4, a5, a6, a7)) : wpX_put post (F, a1, a2, a3, a4, a5, a6, a7) (nI r) (nI x) (nI y) 1 := by
  have c1 : (nI (r * 8 + x)).toNatClampNeg = r * 8 + x := nI_clamp (by omega)
  have c2 : (nI (r * 8 + y)).toNatClampNeg = r * 8 + y := nI_clamp (by omega)
  obtain ⟨m8, me⟩ := ok.2.1 (r * 8 + x) (by omega)
  obtain ⟨k8, ke⟩ := ok.2.2.1 (r * 8 + y) (by omega)
  unfold wpX_put
  refine nm_r (lj_at r x) (nm_r (lj_at r y) (br_f (by decide) ⟨pk_in (r * 8 + x) 24 (by omega), ?_⟩))
  unfold wX_put_54
  refine ⟨pk_in (r * 8 + x) 24 (by omega), nm_r (e' := upd a1 (r * 8 + x) (nI (M (r * 8 + x) ||| 2 ^ y))) (by rw [c1, me, lj_on _ m8 _ hy]) (br_f (by decide) ⟨pk_in (r * 8 + y) 24 (by omega), pk_in (r * 8 + y) 24 (by omega), nm_r (e' := upd a2 (r * 8 + y) (nI (K (r * 8 + y) ||| 2 ^ x))) (by rw [c2, ke, lj_on _ k8 _ hx]) H⟩)⟩
theorem lj_upm {M : Nat → Nat} {a : Nat → Int32} {k m : Nat} (hm : m < 256) (H : ∀ j, j < 24 → M j < 256 ∧ a j = nI (M j)) : ∀ j, j < 24 → lj_up M k m j < 256 ∧ upd a k (nI m) j = nI (lj_up M k m j) := by
  intro j hj
  by_cases e : j = k
  · rw [e, lj_up_s, pk_us]
    exact ⟨hm, rfl⟩
  · rw [lj_up_n M m e, pk_un e]
    exact H j hj
theorem lj_ok0 {N : Nat} {M K f g h : Nat → Nat} {a1 a2 a3 a4 a5 : Nat → Int32} (ok : lj_ok N M K f g h a1 a2 a3 a4 a5) {r x y : Nat} (hr : r < 3) (hx : x < 8) (hy : y < 8) :
    lj_ok N (lj_up M (r * 8 + x) (M (r * 8 + x) &&& (255 ^^^ 2 ^ y))) (lj_up K (r * 8 + y) (K (r * 8 + y) &&& (255 ^^^ 2 ^ x))) f g h (upd a1 (r * 8 + x) (nI (M (r * 8 + x) &&& (255 ^^^ 2 ^ y)))) (upd a2 (r * 8 + y) (nI (K (r * 8 + y) &&& (255 ^^^ 2 ^ x)))) a3 a4 a5 := by
  obtain ⟨o1, o2, o3, o4, o5⟩ := ok
  refine ⟨o1, lj_upm (lj_offlt y (o2 _ (by omega)).1) o2, lj_upm (lj_offlt x (o3 _ (by omega)).1) o3, ?_, o5⟩
  intro r' x' y' hr' hx' hy'
  have key := o4 r' x' y' hr' hx' hy'
  by_cases e1 : r' * 8 + x' = r * 8 + x
  · have er : r' = r := by omega
    have ex : x' = x := by omega
    subst er ex
    rw [lj_up_s, lj_offt _ _ hy']
    by_cases e2 : y' = y
    · subst e2
      rw [lj_up_s, lj_offt _ _ hx']
      simp
    · rw [lj_up_n K _ (show r' * 8 + y' ≠ r' * 8 + y by omega), key]
      simp [Ne.symm e2]
  · rw [lj_up_n M _ e1]
    by_cases e2 : r' * 8 + y' = r * 8 + y
    · have er : r' = r := by omega
      have ey : y' = y := by omega
      subst er ey
      rw [lj_up_s, lj_offt _ _ hx', key]
      have ne : ¬ x = x' := by omega
      simp [ne]
    · rw [lj_up_n K _ e2]
      exact key
theorem lj_ok1 {N : Nat} {M K f g h : Nat → Nat} {a1 a2 a3 a4 a5 : Nat → Int32} (ok : lj_ok N M K f g h a1 a2 a3 a4 a5) {r x y : Nat} (hr : r < 3) (hx : x < 8) (hy : y < 8) :
    lj_ok N (lj_up M (r * 8 + x) (M (r * 8 + x) ||| 2 ^ y)) (lj_up K (r * 8 + y) (K (r * 8 + y) ||| 2 ^ x)) f g h (upd a1 (r * 8 + x) (nI (M (r * 8 + x) ||| 2 ^ y))) (upd a2 (r * 8 + y) (nI (K (r * 8 + y) ||| 2 ^ x))) a3 a4 a5 := by
  obtain ⟨o1, o2, o3, o4, o5⟩ := ok
  refine ⟨o1, lj_upm (lj_onlt (o2 _ (by omega)).1 hy) o2, lj_upm (lj_onlt (o3 _ (by omega)).1 hx) o3, ?_, o5⟩
  intro r' x' y' hr' hx' hy'
  have key := o4 r' x' y' hr' hx' hy'
  by_cases e1 : r' * 8 + x' = r * 8 + x
  · have er : r' = r := by omega
    have ex : x' = x := by omega
    subst er ex
    rw [lj_up_s, lj_ont]
    by_cases e2 : y' = y
    · subst e2
      rw [lj_up_s, lj_ont]
      simp
    · rw [lj_up_n K _ (show r' * 8 + y' ≠ r' * 8 + y by omega), key]
      simp [Ne.symm e2]
  · rw [lj_up_n M _ e1]
    by_cases e2 : r' * 8 + y' = r * 8 + y
    · have er : r' = r := by omega
      have ey : y' = y := by omega
      subst er ey
      rw [lj_up_s, lj_ont, key]
      have ne : ¬ x = x' := by omega
      simp [ne]
    · rw [lj_up_n K _ e2]
      exact key
theorem lj_ok_e {N : Nat} {M K M' K' f g h : Nat → Nat} {a1 a2 a3 a4 a5 : Nat → Int32} (ok : lj_ok N M' K' f g h a1 a2 a3 a4 a5) (eM : ∀ k, k < 24 → M' k = M k) (eK : ∀ k, k < 24 → K' k = K k) : lj_ok N M K f g h a1 a2 a3 a4 a5 := by
  obtain ⟨o1, o2, o3, o4, o5⟩ := ok
  refine ⟨o1, fun k hk => ?_, fun k hk => ?_, fun r x y hr hx hy => ?_, o5⟩
  · rw [← eM k hk]
    exact o2 k hk
  · rw [← eK k hk]
    exact o3 k hk
  · rw [← eM _ (by omega), ← eK _ (by omega)]
    exact o4 r x y hr hx hy
theorem lj_upup {M : Nat → Nat} {k y : Nat} (hm : M k < 256) (hy : y < 8) (hb : (M k).testBit y = true) (j : Nat) : lj_up (lj_up M k (M k &&& (255 ^^^ 2 ^ y))) k (lj_up M k (M k &&& (255 ^^^ 2 ^ y)) k ||| 2 ^ y) j = M j := by
  by_cases e : j = k
  · rw [e, lj_up_s, lj_up_s, lj_onoff hm hy hb]
  · rw [lj_up_n _ _ e, lj_up_n _ _ e]
theorem lj_R_off {M : Nat → Nat} {k y : Nat} (r x z : Nat) (H : lj_R (lj_up M k (M k &&& (255 ^^^ 2 ^ y))) r x z) : lj_R M r x z := by
  unfold lj_R at H ⊢
  by_cases e : r * 8 + x = k
  · rw [e, lj_up_s, Nat.testBit_and, Bool.and_eq_true] at H
    rw [e]
    exact H.1
  · rw [lj_up_n _ _ e] at H
    exact H
theorem lj_loss {N : Nat} {M K f g h : Nat → Nat} {a1 a2 a3 a4 a5 a6 a7 : Nat → Int32} (ok : lj_ok N M K f g h a1 a2 a3 a4 a5) {post : Int32 → St1 → Prop} {r x y : Nat} (hr : r < 3) (hx : x < 8) (hy : y < 8)
    (H : ∀ l a1 a2 a6 a7, lj_ok N M K f g h a1 a2 a3 a4 a5 → l ≤ lj_cn (lj_A N M f g h) 4096 → (¬ lj_R M r x y → l = 0) → post (nI l) (nI N, a1, a2, a3, a4, a5, a6, a7)) : wpX_loss post (nI N, a1, a2, a3, a4, a5, a6, a7) (nI r) (nI x) (nI y) := by
  obtain ⟨m8, me⟩ := ok.2.1 (r * 8 + x) (by omega)
  obtain ⟨k8, ke⟩ := ok.2.2.1 (r * 8 + y) (by omega)
  have c1 : (nI (r * 8 + x)).toNatClampNeg = r * 8 + x := nI_clamp (by omega)
  unfold wpX_loss
  refine lj_isR hr (br_f (by decide) (lj_isT hx (br_f (by decide) (lj_isT hy (br_f (by decide) ⟨pk_in (r * 8 + x) 24 (by omega) (lj_at r x), lj_in (q := M (r * 8 + x)) (by rw [lj_at, c1]; exact me) rfl m8 hy (fun hb => br_f (by decide) ?_) (fun hb => br_t rfl (H 0 a1 a2 a6 a7 ok (Nat.zero_le _) (fun _ => rfl)))⟩)))))
  have ok' := lj_ok0 ok hr hx hy
  have ok'' := lj_ok1 ok' hr hx hy
  have hbK : (K (r * 8 + y)).testBit x = true := (ok.2.2.2.1 r x y hr hx hy).symm.trans hb
  have okE := lj_ok_e ok'' (fun k _ => lj_upup m8 hy hb k) (fun k _ => lj_upup k8 hx hbK k)
  refine lj_count ok (fun b6 b7 => lj_put0 ok hr hx hy (lj_count ok' (fun c6 c7 => lj_put1 ok' hr hx hy ?_)))
  have le : lj_cn (lj_A N (lj_up M (r * 8 + x) (M (r * 8 + x) &&& (255 ^^^ 2 ^ y))) f g h) 4096 ≤ lj_cn (lj_A N M f g h) 4096 := lj_cn_sub (fun m _ hm => lj_A_mono lj_R_off hm)
  have hs := H (lj_cn (lj_A N M f g h) 4096 - lj_cn (lj_A N (lj_up M (r * 8 + x) (M (r * 8 + x) &&& (255 ^^^ 2 ^ y))) f g h) 4096) _ _ c6 c7 okE (Nat.sub_le _ _) (fun z => absurd hb z)
  rw [← pk_sub le] at hs
  exact hs
theorem lj_partners {N : Nat} {M K f g h : Nat → Nat} {a1 a2 a3 a4 a5 a6 a7 : Nat → Int32} {F : Int32} (ok : lj_ok N M K f g h a1 a2 a3 a4 a5) {post : Int32 → Prop} {r x : Nat} (hr : r < 3) (hx : x < 8) (H : post (nI (M (r * 8 + x)))) : wpX_partners post (F, a1, a2, a3, a4, a5, a6, a7) (nI r) (nI x) 0 := by
  obtain ⟨m8, me⟩ := ok.2.1 (r * 8 + x) (by omega)
  have c1 : (nI (r * 8 + x)).toNatClampNeg = r * 8 + x := nI_clamp (by omega)
  unfold wpX_partners
  refine lj_isR hr (br_f (by decide) (lj_isT hx (br_f (by decide) (br_f (by decide) (br_t (by decide) (br_t rfl ⟨pk_in (r * 8 + x) 24 (by omega) (lj_at r x), ?_⟩))))))
  rw [lj_at, c1, me]
  exact H
theorem lj_pair {N : Nat} {M K f g h : Nat → Nat} {a1 a2 a3 a4 a5 a6 a7 : Nat → Int32} {F : Int32} (ok : lj_ok N M K f g h a1 a2 a3 a4 a5) {post : Int32 → St1 → Prop} {r x y : Nat} {z : Int32} (hr : r < 3) (hx : x < 8) (hy : y < 8) (hz : z = 0 ∨ z = 1)
    (H : ∀ M K a1 a2, lj_ok N M K f g h a1 a2 a3 a4 a5 → post 1 (F, a1, a2, a3, a4, a5, a6, a7)) : wpX_pair post (F, a1, a2, a3, a4, a5, a6, a7) (nI r) (nI x) (nI y) z := by
  unfold wpX_pair
  refine lj_isR hr (br_f (by decide) (lj_isT hx (br_f (by decide) (lj_isT hy (br_f (by decide) ?_)))))
  rcases hz with e | e
  · subst e
    exact lj_put0 ok hr hx hy (H _ _ _ _ (lj_ok0 ok hr hx hy))
  · subst e
    exact lj_put1 ok hr hx hy (H _ _ _ _ (lj_ok1 ok hr hx hy))
theorem lj_ok_atom {N : Nat} {M K f g h : Nat → Nat} {a1 a2 a3 a4 a5 : Nat → Int32} (ok : lj_ok N M K f g h a1 a2 a3 a4 a5) {r v u : Nat} (hN : N < 5) (hr : r < 3) (hv : v < 4) (hu : u < 4) :
    lj_ok (N + 1) M K (lj_up f N r) (lj_up g N v) (lj_up h N u) a1 a2 (upd a3 N (nI r)) (upd a4 N (nI v)) (upd a5 N (nI u)) := by
  obtain ⟨o1, o2, o3, o4, o5⟩ := ok
  refine ⟨by omega, o2, o3, o4, fun i hi => ?_⟩
  by_cases e : i = N
  · rw [e, lj_up_s, lj_up_s, lj_up_s, pk_us, pk_us, pk_us]
    exact ⟨⟨hr, rfl⟩, ⟨hv, rfl⟩, ⟨hu, rfl⟩⟩
  · rw [lj_up_n f r e, lj_up_n g v e, lj_up_n h u e, pk_un e, pk_un e, pk_un e]
    exact o5 i (by omega)
theorem lj_atom {N : Nat} {M K f g h : Nat → Nat} {a1 a2 a3 a4 a5 a6 a7 : Nat → Int32} (ok : lj_ok N M K f g h a1 a2 a3 a4 a5) {post : Int32 → St1 → Prop} {r v u : Nat} (hr : r < 3) (hv : v < 4) (hu : u < 4)
    (Hf : post (-2) (nI N, a1, a2, a3, a4, a5, a6, a7)) (H : N < 5 → post (nI (N + 1)) (nI (N + 1), a1, a2, upd a3 N (nI r), upd a4 N (nI v), upd a5 N (nI u), a6, a7)) : wpX_atom post (nI N, a1, a2, a3, a4, a5, a6, a7) (nI r) (nI v) (nI u) := by
  have hN := ok.1
  have c1 : (nI N).toNatClampNeg = N := nI_clamp (by omega)
  unfold wpX_atom
  refine lj_isR hr (br_f (by decide) (lj_isV hv (br_f (by decide) (lj_isV hu (br_f (by decide) (pk_lt N 5 (fun z => ?_) (fun z => Hf)))))))
  exact ⟨pk_in N 5 z, nm_r (e' := upd a3 N (nI r)) (by rw [c1, lj_b8 _ (by omega)]) ⟨pk_in N 5 z, nm_r (e' := upd a4 N (nI v)) (by rw [c1, lj_b8 _ (by omega)]) ⟨pk_in N 5 z, nm_r (e' := upd a5 N (nI u)) (by rw [c1, lj_b8 _ (by omega)]) (nm_r (nI_1 N) (H z))⟩⟩⟩
theorem lj_ok_drop {N : Nat} {M K f g h : Nat → Nat} {a1 a2 a3 a4 a5 : Nat → Int32} (ok : lj_ok (N + 1) M K f g h a1 a2 a3 a4 a5) : lj_ok N M K f g h a1 a2 a3 a4 a5 :=
  ⟨by have := ok.1; omega, ok.2.1, ok.2.2.1, ok.2.2.2.1, fun i hi => ok.2.2.2.2 i (by omega)⟩
theorem lj_drop {N : Nat} {M K f g h : Nat → Nat} {a1 a2 a3 a4 a5 a6 a7 : Nat → Int32} (ok : lj_ok N M K f g h a1 a2 a3 a4 a5) {post : Int32 → St1 → Prop}
    (H0 : N = 0 → post (-1) (nI N, a1, a2, a3, a4, a5, a6, a7)) (H : ∀ n, N = n + 1 → post (nI n) (nI n, a1, a2, a3, a4, a5, a6, a7)) : wpX_drop post (nI N, a1, a2, a3, a4, a5, a6, a7) := by
  have hN := ok.1
  unfold wpX_drop
  refine pk_eq N 0 (fun e => H0 e) (fun e => ?_)
  obtain ⟨n, en⟩ : ∃ n, N = n + 1 := ⟨N - 1, by omega⟩
  exact nm_r (e' := nI n) (by rw [en]; exact nI_pred n) (H n en)
end
section
theorem lj_nm1 {m : Nat} (h : m < 2 ^ 31) : ¬ nI m ≤ (-1 : Int32) := by
  intro q
  rw [Int32.le_iff_toInt_le, nI_toInt h] at q
  have e : (-1 : Int32).toInt = -1 := by decide
  rw [e] at q
  omega
/-- what the law remembers ahead of answer k: the answer before it -/
def lj_last (A : Nat → Prop) (k : Nat) (x : Int32) : Prop := (k = 0 ∧ x = -1) ∨ ∃ m, x = nI m ∧ m < 4096 ∧ A m ∧ lj_cn A m + 1 = k
theorem lj_last_gt {A : Nat → Prop} {k m : Nat} {x : Int32} (hl : lj_last A k x) (hm : m < 4096) (hk : lj_cn A m = k) : ¬ nI m ≤ x := by
  rcases hl with ⟨_, e⟩ | ⟨m', e, h1, h2, h3⟩
  · rw [e]
    exact lj_nm1 (by omega)
  · rw [e]
    refine nI_ge ?_ (by omega)
    rcases Nat.lt_or_ge m' m with z | z
    · exact z
    · have := lj_cn_mono A z
      omega
theorem lj_last_seek {A : Nat → Prop} {k m n : Nat} {x r : Int32} (hl : lj_last A k x) (hm : m < 4096) (hA : A m) (hk : lj_cn A m = k) (hn : n < 4096) (h1 : ¬ nI n ≤ x) (h2 : n ≤ m) (hr : lj_nx A n r) : r = nI m := by
  have key : ∀ q, n ≤ q → q < m → ¬ A q := by
    intro q q1 q2 q3
    have c1 := lj_cn_lt q2 q3
    rcases hl with ⟨e, _⟩ | ⟨m', e, g1, g2, g3⟩
    · omega
    · have g4 : m' < n := by
        rcases Nat.lt_or_ge m' n with z | z
        · exact z
        · exact absurd (by rw [e]; exact nI_le z (by omega)) h1
      have := lj_cn_lt (show m' < q by omega) g2
      omega
  rcases hr with ⟨e, hno⟩ | ⟨m2, e, g1, g2, g3, g4⟩
  · exact absurd hA (hno m h2 hm)
  · rcases Nat.lt_trichotomy m2 m with z | z | z
    · exact absurd g3 (key m2 g1 z)
    · rw [e, z]
    · exact absurd hA (g4 m h2 z)
theorem lj_an114 {N : Nat} {M K f g h : Nat → Nat} {a1 a2 a3 a4 a5 a6 a7 : Nat → Int32} (ok : lj_ok N M K f g h a1 a2 a3 a4 a5) {post : Int32 → St1 → Prop} {n : Nat} {r : Int32} (hn : n < 4096) (hr : lj_nx (lj_A N M f g h) n r)
    (H : ∀ a6 a7, post 1 (nI N, a1, a2, a3, a4, a5, a6, a7)) : wL_answers_114 post (nI n) r (nI N) a1 a2 a3 a4 a5 a6 a7 := by
  unfold wL_answers_114
  refine lj_holds ok hn (fun hA b6 b7 => br_f (by decide) (br_t ?_ (H b6 b7))) (fun hA b6 b7 => br_t rfl (H b6 b7))
  rcases hr with ⟨e, hno⟩ | ⟨m2, e, g1, g2, g3, g4⟩
  · exact absurd hA (hno n (Nat.le_refl n) hn)
  · rcases Nat.lt_or_ge n m2 with z | z
    · exact absurd hA (g4 n (Nat.le_refl n) z)
    · rw [e, show m2 = n by omega]
theorem lj_an78 {N : Nat} {M K f g h : Nat → Nat} {a1 a2 a3 a4 a5 a6 a7 : Nat → Int32} (ok : lj_ok N M K f g h a1 a2 a3 a4 a5) {post : Int32 → St1 → Prop} {n : Nat} (hn : n < 4096)
    (H : ∀ a6 a7, post 1 (nI N, a1, a2, a3, a4, a5, a6, a7)) : wL_answers_78 post (nI n) (nI (lj_cn (lj_A N M f g h) 4096)) (nI N) a1 a2 a3 a4 a5 a6 a7 := by
  have hC := lj_cn_le (lj_A N M f g h) 4096
  unfold wL_answers_78
  refine lj_seek ok (by omega) (fun r b6 b7 hr => lj_answer ok hC (fun _ c6 c7 => br_t rfl (lj_nx_br hr (fun _ _ => lj_an114 ok hn hr H) (fun m e m1 m2 m3 m4 => ?_))) (fun m m1 m2 m3 c6 c7 => ?_))
  · subst e
    exact pk_lt m n (fun z => absurd z (by omega)) (fun _ => lj_holds ok m2 (fun _ d6 d7 => br_f (by decide) (lj_an114 ok hn hr H)) (fun z => absurd m3 z))
  · have := lj_cn_lt m1 m2
    omega
theorem lj_an10 {N : Nat} {M K f g h : Nat → Nat} {a1 a2 a3 a4 a5 a6 a7 : Nat → Int32} (ok : lj_ok N M K f g h a1 a2 a3 a4 a5) {post : Int32 → St1 → Prop} {n : Nat} (hn : n < 4096)
    (H : ∀ a6 a7, post 1 (nI N, a1, a2, a3, a4, a5, a6, a7)) : ∃ fu, wL_answers_10 post (nI n) (nI (lj_cn (lj_A N M f g h) 4096)) fu (-1) 0 (nI N) a1 a2 a3 a4 a5 a6 a7 := by
  have hC := lj_cn_le (lj_A N M f g h) 4096
  refine pk_loop (fun fu k (s : Int32 × (Nat → Int32) × (Nat → Int32)) => wL_answers_10 post (nI n) (nI (lj_cn (lj_A N M f g h) 4096)) fu s.1 (nI k) (nI N) a1 a2 a3 a4 a5 s.2.1 s.2.2) (fun k s => lj_last (lj_A N M f g h) k s.1) (min (lj_cn (lj_A N M f g h) 4096) 40) 0 (-1, a6, a7) (Nat.zero_le _) (Or.inl ⟨rfl, rfl⟩) ?_ ?_
  · intro fu s hs
    exact pk_le (lj_cn (lj_A N M f g h) 4096) (min (lj_cn (lj_A N M f g h) 4096) 40) (fun _ => lj_an78 ok hn H) (fun z => pk_le 40 (min (lj_cn (lj_A N M f g h) 4096) 40) (fun _ => lj_an78 ok hn H) (fun z2 => absurd z2 (by omega)))
  · intro fu k s hk hs hw
    obtain ⟨x, b6, b7⟩ := s
    have hs' : lj_last (lj_A N M f g h) k x := hs
    show wL_answers_10 post (nI n) (nI (lj_cn (lj_A N M f g h) 4096)) (fu + 1) x (nI k) (nI N) a1 a2 a3 a4 a5 b6 b7
    refine pk_le (lj_cn (lj_A N M f g h) 4096) k (fun z => absurd z (by omega)) (fun z => pk_le 40 k (fun z2 => absurd z2 (by omega)) (fun z2 => lj_answer ok (by omega) (fun w => absurd w (by omega)) (fun m m1 m2 m3 c6 c7 => br_f (lj_last_gt hs' m1 m3) (lj_holds ok m1 (fun _ d6 d7 => br_f (by decide) ?_) (fun w => absurd m2 w)))))
    have nxt : ∀ e6 e7, wL_answers_10 post (nI n) (nI (lj_cn (lj_A N M f g h) 4096)) fu (nI m) (nI (k + 1)) (nI N) a1 a2 a3 a4 a5 e6 e7 := fun e6 e7 => hw (nI m, e6, e7) (Or.inr ⟨m, rfl, m1, m2, by omega⟩)
    refine br_c (fun _ => nm_r (nI_1 k) (nxt _ _)) (fun q => pk_lt m n (fun _ => nm_r (nI_1 k) (nxt _ _)) (fun q2 => lj_seek ok (by omega) (fun r e6 e7 hr => br_t (lj_last_seek hs' m1 m2 m3 hn q q2 hr) (nm_r (nI_1 k) (nxt _ _)))))
theorem lj_answers {N : Nat} {M K f g h : Nat → Nat} {a1 a2 a3 a4 a5 a6 a7 : Nat → Int32} (ok : lj_ok N M K f g h a1 a2 a3 a4 a5) {post : Int32 → St1 → Prop} {n : Nat} (hn : n < 4096)
    (H : ∀ a6 a7, post 1 (nI N, a1, a2, a3, a4, a5, a6, a7)) : wpL_answers post (nI N, a1, a2, a3, a4, a5, a6, a7) (nI n) := by
  unfold wpL_answers
  exact lj_count ok (fun b6 b7 => lj_an10 ok hn H)
/-! ===== variables ===== -/
theorem lj_va60 {post : Int32 → St1 → Prop} {J : Int32 → Int32 → Int32 → (Nat → Int32) → (Nat → Int32) → (Nat → Int32) → (Nat → Int32) → (Nat → Int32) → (Nat → Int32) → (Nat → Int32) → Prop} {x1 x2 x3 x4 F : Int32} {a1 a2 a3 a4 a5 a6 a7 : Nat → Int32} {j n : Nat} (z : Int32) (hn : n < 2 ^ 31) (hz : (0 < n → z = 1) ∧ (n = 0 → z = 0)) (H : J x4 (nI (j + 1)) F a1 a2 a3 a4 a5 a6 a7) :
    wL_variables_50 post J x1 x2 x3 x4 (nI j) (nI n) z F a1 a2 a3 a4 a5 a6 a7 := by
  unfold wL_variables_50
  refine pk_le n 0 (fun q => ?_) (fun q => ?_)
  · unfold wL_variables_60
    exact br_t (hz.2 (by omega)) (nm_r (nI_1 j) H)
  · unfold wL_variables_60
    exact br_t (hz.1 q) (nm_r (nI_1 j) H)
def lj_T (A : Nat → Prop) (v w i j : Nat) : Prop := ∃ m, m < 4096 ∧ A m ∧ lj_dg m v = i ∧ lj_dg m w = j
theorem lj_sym (A : Nat → Prop) (v w : Nat) : lj_cn (fun p => ∃ m, m < 4096 ∧ A m ∧ 8 * lj_dg m v + lj_dg m w = p) 64 = lj_cn (fun p => ∃ m, m < 4096 ∧ A m ∧ 8 * lj_dg m w + lj_dg m v = p) 64 := by
  have e1 : lj_cn (fun p => ∃ m, m < 4096 ∧ A m ∧ 8 * lj_dg m v + lj_dg m w = p) 64 = lj_cn (fun p => lj_T A v w (p / 8) (p % 8)) 64 := by
    refine lj_cn_iff (fun p hp => ⟨?_, ?_⟩)
    · rintro ⟨m, h1, h2, h3⟩
      have := lj_dg_lt m w
      exact ⟨m, h1, h2, by omega, by omega⟩
    · rintro ⟨m, h1, h2, h3, h4⟩
      exact ⟨m, h1, h2, by omega⟩
  have e2 : lj_cn (fun p => ∃ m, m < 4096 ∧ A m ∧ 8 * lj_dg m w + lj_dg m v = p) 64 = lj_cn (fun p => lj_T A v w (p % 8) (p / 8)) 64 := by
    refine lj_cn_iff (fun p hp => ⟨?_, ?_⟩)
    · rintro ⟨m, h1, h2, h3⟩
      have := lj_dg_lt m v
      exact ⟨m, h1, h2, by omega, by omega⟩
    · rintro ⟨m, h1, h2, h3, h4⟩
      exact ⟨m, h1, h2, by omega⟩
  exact e1.trans ((lj_swap (lj_T A v w)).trans e2.symm)
theorem lj_self (A : Nat → Prop) (v : Nat) : lj_cn (fun p => ∃ m, m < 4096 ∧ A m ∧ 8 * lj_dg m v + lj_dg m v = p) 64 = lj_cn (fun x => ∃ m, m < 4096 ∧ A m ∧ lj_dg m v = x) 8 := by
  rw [← lj_diagc]
  refine lj_cn_iff (fun p hp => ⟨?_, ?_⟩)
  · rintro ⟨m, h1, h2, h3⟩
    have := lj_dg_lt m v
    exact ⟨⟨m, h1, h2, by omega⟩, by omega⟩
  · rintro ⟨⟨m, h1, h2, h3⟩, h4⟩
    exact ⟨m, h1, h2, by omega⟩
theorem lj_va12 {N : Nat} {M K f g h : Nat → Nat} {a1 a2 a3 a4 a5 a6 a7 : Nat → Int32} (ok : lj_ok N M K f g h a1 a2 a3 a4 a5) {post : Int32 → St1 → Prop} {v w q : Nat} (hv : v < 4) (hw4 : w < 4) (hq : q < 256) (hk : lj_mk (lj_A N M f g h) (fun m => lj_dg m v) 8 4096 q)
    (H : ∀ a6 a7, post 1 (nI N, a1, a2, a3, a4, a5, a6, a7)) : ∃ fu, wL_variables_12 post (nI v) (nI w) (nI q) fu 0 0 (nI N) a1 a2 a3 a4 a5 a6 a7 := by
  have e0 : lj_cn (fun m => lj_A N M f g h m ∧ lj_dg m v < 0) 4096 = 0 := by
    rw [lj_cn_skip (Nat.zero_le 4096) (fun m _ _ z => absurd z.2 (by omega))]
    rfl
  have e8 : lj_cn (fun m => lj_A N M f g h m ∧ lj_dg m v < 8) 4096 = lj_cn (lj_A N M f g h) 4096 := lj_cn_iff (fun m _ => ⟨fun z => z.1, fun z => ⟨z, lj_dg_lt m v⟩⟩)
  have eo : lj_cn (fun x => ∃ m, m < 4096 ∧ lj_A N M f g h m ∧ lj_dg m v = x) 8 = lj_cn (fun p => q.testBit p = true) 8 := (lj_cn_iff hk).symm
  refine Exists.elim (pk_loop (fun fu j (s : (Nat → Int32) × (Nat → Int32)) => wL_variables_12 post (nI v) (nI w) (nI q) fu (nI (lj_cn (fun m => lj_A N M f g h m ∧ lj_dg m v < j) 4096)) (nI j) (nI N) a1 a2 a3 a4 a5 s.1 s.2) (fun _ _ => True) 8 0 (a6, a7) (by omega) trivial ?_ ?_) (fun fu hfu => ?_)
  rotate_left 2
  · have p : wL_variables_12 post (nI v) (nI w) (nI q) fu (nI (lj_cn (fun m => lj_A N M f g h m ∧ lj_dg m v < 0) 4096)) (nI 0) (nI N) a1 a2 a3 a4 a5 a6 a7 := hfu
    rw [e0] at p
    exact ⟨fu, p⟩
  · intro fu s _
    obtain ⟨b6, b7⟩ := s
    show wL_variables_12 post (nI v) (nI w) (nI q) (fu + 1) (nI (lj_cn (fun m => lj_A N M f g h m ∧ lj_dg m v < 8) 4096)) (nI 8) (nI N) a1 a2 a3 a4 a5 b6 b7
    rw [e8]
    refine pk_le 8 8 (fun _ => lj_pairs ok hv hw4 (fun c6 c7 => lj_pairs ok hw4 hv (fun d6 d7 => lj_count ok (fun e6 e7 => br_t rfl (br_t (congrArg nI (lj_sym _ v w)) (lj_pairs ok hv hv (fun f6 f7 => lj_ones hq (br_t (congrArg nI ((lj_self _ v).trans eo)) (H f6 f7))))))))) (fun z => absurd z (by omega))
  · intro fu j s hj _ hw
    obtain ⟨b6, b7⟩ := s
    show wL_variables_12 post (nI v) (nI w) (nI q) (fu + 1) (nI (lj_cn (fun m => lj_A N M f g h m ∧ lj_dg m v < j) 4096)) (nI j) (nI N) a1 a2 a3 a4 a5 b6 b7
    have hle := lj_cn_le (fun m => lj_A N M f g h m ∧ lj_dg m v = j) 4096
    have bit : q.testBit j = true ↔ 0 < lj_cn (fun m => lj_A N M f g h m ∧ lj_dg m v = j) 4096 := by
      rw [lj_cn_pos]
      exact hk j hj
    refine pk_le 8 j (fun z => absurd z (by omega)) (fun _ => lj_countWith ok hv hj (fun c6 c7 => nm_r (e' := nI (lj_cn (fun m => lj_A N M f g h m ∧ lj_dg m v < j + 1) 4096)) (by rw [nI_add, lj_cn_add]) (br_c (fun z => ?_) (fun z => ?_))))
    · have b := bit.mp ((lj_bit1 (by omega) (by omega)).mp z)
      exact lj_va60 1 (by omega) ⟨fun _ => rfl, fun e => absurd e (by omega)⟩ (hw (c6, c7) trivial)
    · have b : ¬ 0 < lj_cn (fun m => lj_A N M f g h m ∧ lj_dg m v = j) 4096 := fun y => z ((lj_bit1 (by omega) (by omega)).mpr (bit.mpr y))
      exact lj_va60 0 (by omega) ⟨fun y => absurd y b, fun _ => rfl⟩ (hw (c6, c7) trivial)
theorem lj_variables {N : Nat} {M K f g h : Nat → Nat} {a1 a2 a3 a4 a5 a6 a7 : Nat → Int32} (ok : lj_ok N M K f g h a1 a2 a3 a4 a5) {post : Int32 → St1 → Prop} {v w : Nat} (hv : v < 4) (hw4 : w < 4)
    (H : ∀ a6 a7, post 1 (nI N, a1, a2, a3, a4, a5, a6, a7)) : wpL_variables post (nI N, a1, a2, a3, a4, a5, a6, a7) (nI v) (nI w) := by
  unfold wpL_variables
  exact lj_values ok hv (fun q b6 b7 hq hk => lj_va12 ok hv hw4 hq hk H)
end
section
abbrev lj_J : Type := Int32 → Int32 → Int32 → Int32 → (Nat → Int32) → (Nat → Int32) → (Nat → Int32) → (Nat → Int32) → (Nat → Int32) → (Nat → Int32) → (Nat → Int32) → Prop
theorem lj_t338 {N : Nat} {M K f g h : Nat → Nat} {a1 a2 a3 a4 a5 a6 a7 : Nat → Int32} (ok : lj_ok N M K f g h a1 a2 a3 a4 a5) {post : Int32 → Prop} {L : Nat} {xs : Nat → Int32} {J : lj_J} {x3 x6 : Int32} {k v u kc ks : Nat} (hv : v < 4) (hu : u < 4)
    (HJ : ∀ a6 a7, J (nI N) x3 (nI (k + 1)) (nI N) a1 a2 a3 a4 a5 a6 a7) : wL_law_338 post L xs J (nI N) x3 (nI k) x6 (nI v) (nI u) kc ks (nI N) a1 a2 a3 a4 a5 a6 a7 := by
  obtain ⟨j, hj, e⟩ := pk_andE x6 (m := 4095) 12 (by decide)
  unfold wL_law_338
  rw [e]
  exact lj_answers ok (by omega) (fun b6 b7 => br_f (by decide) (lj_variables ok hv hu (fun c6 c7 => br_f (by decide) (nm_r (nI_1 k) (HJ c6 c7)))))
theorem lj_t304 {N : Nat} {M K f g h : Nat → Nat} {a1 a2 a3 a4 a5 a6 a7 : Nat → Int32} (ok : lj_ok N M K f g h a1 a2 a3 a4 a5) {post : Int32 → Prop} {L : Nat} {xs : Nat → Int32} {J : lj_J} {x3 x6 z0 : Int32} {k v u kc ks l C : Nat} (hv : v < 4) (hu : u < 4) (hl : l ≤ C) (hC : C ≤ 4096) (hN : N = 0 → C = 1) (hz : z0 = 0 → l = 0)
    (HJ : ∀ a6 a7, J (nI N) x3 (nI (k + 1)) (nI N) a1 a2 a3 a4 a5 a6 a7) : wL_law_304 post L xs J (nI N) x3 (nI k) x6 (nI v) (nI u) (nI l) (nI C) z0 kc ks (nI N) a1 a2 a3 a4 a5 a6 a7 := by
  have h5 := ok.1
  have t : wL_law_316 post L xs J (nI N) x3 (nI k) x6 (nI v) (nI u) (nI l) (nI C) z0 kc ks (nI N) a1 a2 a3 a4 a5 a6 a7 := by
    unfold wL_law_316
    exact br_f (nI_pos (by omega)) (pk_lt C l (fun z => absurd z (by omega)) (fun _ => br_c (fun e => pk_eq l 0 (fun _ => lj_t338 ok hv hu HJ) (fun ne => absurd (hz e) ne)) (fun _ => lj_t338 ok hv hu HJ)))
  unfold wL_law_304
  exact pk_eq N 0 (fun e => br_t (by rw [hN e]; rfl) t) (fun _ => t)
theorem lj_t263 {N : Nat} {M K f g h : Nat → Nat} {a1 a2 a3 a4 a5 a6 a7 : Nat → Int32} (ok : lj_ok N M K f g h a1 a2 a3 a4 a5) {post : Int32 → Prop} {L : Nat} {xs : Nat → Int32} {J : lj_J} {x3 x6 : Int32} {k r a b v u kc ks : Nat} (hr : r < 3) (ha : a < 8) (hb : b < 8) (hv : v < 4) (hu : u < 4)
    (HJ : ∀ a1 a2 a6 a7, lj_ok N M K f g h a1 a2 a3 a4 a5 → J (nI N) x3 (nI (k + 1)) (nI N) a1 a2 a3 a4 a5 a6 a7) : wL_law_263 post L xs J (nI N) x3 (nI k) x6 (nI r) (nI a) (nI b) (nI v) (nI u) kc ks (nI N) a1 a2 a3 a4 a5 a6 a7 := by
  have hC := lj_cn_le (lj_A N M f g h) 4096
  have hN : N = 0 → lj_cn (lj_A N M f g h) 4096 = 1 := by
    intro e
    subst e
    exact lj_A_0 M f g h
  have m8 := (ok.2.1 (r * 8 + b) (by omega)).1
  unfold wL_law_263
  refine lj_loss ok hr hb ha (fun l b1 b2 b6 b7 ok2 hl hz => lj_count ok2 (fun c6 c7 => lj_partners ok2 hr hb (br_c (fun e => ?_) (fun e => ?_))))
  · exact lj_t304 ok2 hv hu hl hC hN (fun z => absurd z (by decide)) (fun d6 d7 => HJ b1 b2 d6 d7 ok2)
  · exact lj_t304 ok2 hv hu hl hC hN (fun _ => hz (fun q => e ((lj_bit1 (by omega) (by omega)).mpr q))) (fun d6 d7 => HJ b1 b2 d6 d7 ok2)
/-- the law's set of used variables: each has an atom -/
def lj_us (N : Nat) (g h : Nat → Nat) (q : Nat) : Prop := q < 16 ∧ ∀ v, v < 4 → q.testBit v = true → ∃ a, a < N ∧ lj_hs g h a v
theorem lj_us_0 (N : Nat) (g h : Nat → Nat) : lj_us N g h 0 := ⟨by omega, fun v _ e => by rw [Nat.zero_testBit] at e; exact absurd e (by decide)⟩
theorem lj_us_atom {N : Nat} {g h : Nat → Nat} {q v u : Nat} (hv : v < 4) (hu : u < 4) (H : lj_us N g h q) : lj_us (N + 1) (lj_up g N v) (lj_up h N u) ((q ||| 2 ^ v) ||| 2 ^ u) := by
  have pv : 2 ^ v < 2 ^ 4 := Nat.pow_lt_pow_right (by decide) hv
  have pu : 2 ^ u < 2 ^ 4 := Nat.pow_lt_pow_right (by decide) hu
  refine ⟨Nat.or_lt_two_pow (n := 4) (Nat.or_lt_two_pow (n := 4) H.1 pv) pu, fun w hw e => ?_⟩
  rw [lj_ont, lj_ont, Bool.or_eq_true, Bool.or_eq_true, decide_eq_true_iff, decide_eq_true_iff] at e
  rcases e with (e | e) | e
  · obtain ⟨a, ha, hs⟩ := H.2 w hw e
    refine ⟨a, by omega, ?_⟩
    unfold lj_hs
    rw [lj_up_n g v (by omega), lj_up_n h u (by omega)]
    exact hs
  · exact ⟨N, by omega, Or.inl (by rw [lj_up_s]; exact e)⟩
  · exact ⟨N, by omega, Or.inr (by rw [lj_up_s]; exact e)⟩
theorem lj_t161 {N : Nat} {M K f g h : Nat → Nat} {a1 a2 a3 a4 a5 a6 a7 : Nat → Int32} (ok : lj_ok N M K f g h a1 a2 a3 a4 a5) {post : Int32 → Prop} {L : Nat} {xs : Nat → Int32} {J : lj_J} {x6 z0 : Int32} {k r a b v u q kc ks : Nat} (us : lj_us N g h q) (hr : r < 3) (ha : a < 8) (hb : b < 8) (hv : v < 4) (hu : u < 4) (hz : ¬ z0 = 0 → q.testBit v = true ∧ q.testBit u = true)
    (HJ : ∀ N M K f g h q a1 a2 a3 a4 a5 a6 a7, lj_ok N M K f g h a1 a2 a3 a4 a5 → lj_us N g h q → J (nI N) (nI q) (nI (k + 1)) (nI N) a1 a2 a3 a4 a5 a6 a7) :
    wL_law_161 post L xs J (nI N) (nI q) (nI k) x6 (nI r) (nI a) (nI b) (nI v) (nI u) (nI (lj_cn (lj_A N M f g h) 4096)) z0 kc ks (nI N) a1 a2 a3 a4 a5 a6 a7 := by
  have h5 := ok.1
  have hC := lj_cn_le (lj_A N M f g h) 4096
  unfold wL_law_161
  refine lj_atom ok hr hv hu (lj_count ok (fun b6 b7 => br_t (by decide) ?_)) (fun h5' => lj_count (lj_ok_atom ok h5' hr hv hu) (fun b6 b7 => br_f (nI_pos (by omega)) ?_))
  · have t : wL_law_226 post L xs J (nI N) (nI q) (nI k) x6 (nI r) (nI a) (nI b) (nI v) (nI u) (nI (lj_cn (lj_A N M f g h) 4096)) (-2) (nI (lj_cn (lj_A N M f g h) 4096)) kc ks (nI N) a1 a2 a3 a4 a5 b6 b7 := by
      unfold wL_law_226
      refine br_f (by decide) (br_t rfl ?_)
      unfold wL_law_240
      exact lj_t263 ok hr ha hb hv hu (fun b1 b2 c6 c7 ok2 => HJ _ _ _ _ _ _ _ _ _ _ _ _ _ _ ok2 us)
    unfold wL_law_192
    refine br_t (by decide) ?_
    unfold wL_law_213
    exact br_c (fun _ => t) (fun _ => pk_lt (lj_cn (lj_A N M f g h) 4096) (lj_cn (lj_A N M f g h) 4096) (fun z => absurd z (by omega)) (fun _ => t))
  · have ok' := lj_ok_atom ok h5' hr hv hu
    have hC' := lj_cn_le (lj_A (N + 1) M (lj_up f N r) (lj_up g N v) (lj_up h N u)) 4096
    have eu : (nI q ||| ((1 : Int32) <<< (nI v &&& 31))) ||| ((1 : Int32) <<< (nI u &&& 31)) = nI ((q ||| 2 ^ v) ||| 2 ^ u) := by
      rw [lj_one v (by omega), lj_one u (by omega), lj_or, lj_or]
    have t : wL_law_226 post L xs J (nI (N + 1)) (nI ((q ||| 2 ^ v) ||| 2 ^ u)) (nI k) x6 (nI r) (nI a) (nI b) (nI v) (nI u) (nI (lj_cn (lj_A N M f g h) 4096)) (nI (N + 1)) (nI (lj_cn (lj_A (N + 1) M (lj_up f N r) (lj_up g N v) (lj_up h N u)) 4096)) kc ks (nI (N + 1)) a1 a2 (upd a3 N (nI r)) (upd a4 N (nI v)) (upd a5 N (nI u)) b6 b7 := by
      unfold wL_law_226
      refine br_t (nI_pos' (by omega)) ?_
      unfold wL_law_240
      exact lj_t263 ok' hr ha hb hv hu (fun b1 b2 c6 c7 ok2 => HJ _ _ _ _ _ _ _ _ _ _ _ _ _ _ ok2 (lj_us_atom hv hu us))
    unfold wL_law_192
    refine br_f (nI_pos (by omega)) ?_
    rw [eu]
    unfold wL_law_213
    refine br_c (fun _ => t) (fun nz => pk_lt (lj_cn (lj_A N M f g h) 4096) (lj_cn (lj_A (N + 1) M (lj_up f N r) (lj_up g N v) (lj_up h N u)) 4096) (fun z => ?_) (fun _ => t))
    obtain ⟨kv, ku⟩ := hz nz
    have le : lj_cn (lj_A (N + 1) M (lj_up f N r) (lj_up g N v) (lj_up h N u)) 4096 ≤ lj_cn (lj_A N M f g h) 4096 := by
      refine lj_cn_sub (fun m _ hm => lj_A_atom (fun i hi => ⟨lj_up_n f r (by omega), lj_up_n g v (by omega), lj_up_n h u (by omega)⟩) ?_ ?_ hm)
      · rw [lj_up_s]
        exact us.2 v hv kv
      · rw [lj_up_s]
        exact us.2 u hu ku
    omega
/-- ahead of a turn of the law: its own count of atoms and used variables, and the object -/
def lj_LI (s : Int32 × Int32 × St1) : Prop := ∃ N M K f g h q a1 a2 a3 a4 a5 a6 a7, s = (nI N, nI q, nI N, a1, a2, a3, a4, a5, a6, a7) ∧ lj_ok N M K f g h a1 a2 a3 a4 a5 ∧ lj_us N g h q
theorem lj_law15 {post : Int32 → Prop} {L : Nat} {xs : Nat → Int32} {kc ks : Nat} (hL : L ≤ 260) (H : post 1) (s : Int32 × Int32 × St1) (I : lj_LI s) : ∃ n, wL_law_15 post L xs kc ks n s.1 s.2.1 0 s.2.2.1 s.2.2.2.1 s.2.2.2.2.1 s.2.2.2.2.2.1 s.2.2.2.2.2.2.1 s.2.2.2.2.2.2.2.1 s.2.2.2.2.2.2.2.2.1 s.2.2.2.2.2.2.2.2.2 := by
  refine pk_loop (fun n k (s : Int32 × Int32 × St1) => wL_law_15 post L xs kc ks n s.1 s.2.1 (nI k) s.2.2.1 s.2.2.2.1 s.2.2.2.2.1 s.2.2.2.2.2.1 s.2.2.2.2.2.2.1 s.2.2.2.2.2.2.2.1 s.2.2.2.2.2.2.2.2.1 s.2.2.2.2.2.2.2.2.2) (fun _ s => lj_LI s) L 0 s (Nat.zero_le L) I ?_ ?_
  · intro n s _
    exact pk_le L L (fun _ => H) (fun z => absurd z (by omega))
  · clear I s
    intro n k s hk I hw
    obtain ⟨N, M, K, f, g, h, q, a1, a2, a3, a4, a5, a6, a7, es, ok, us⟩ := I
    subst es
    have HJ : ∀ N M K f g h q a1 a2 a3 a4 a5 a6 a7, lj_ok N M K f g h a1 a2 a3 a4 a5 → lj_us N g h q → wL_law_15 post L xs kc ks n (nI N) (nI q) (nI (k + 1)) (nI N) a1 a2 a3 a4 a5 a6 a7 :=
      fun N M K f g h q a1 a2 a3 a4 a5 a6 a7 o u => hw (nI N, nI q, nI N, a1, a2, a3, a4, a5, a6, a7) ⟨N, M, K, f, g, h, q, a1, a2, a3, a4, a5, a6, a7, rfl, o, u⟩
    show wL_law_15 post L xs kc ks (n + 1) (nI N) (nI q) (nI k) (nI N) a1 a2 a3 a4 a5 a6 a7
    have ck : (nI k).toNatClampNeg = k := nI_clamp (by omega)
    have q16 := us.1
    obtain ⟨w, hw16, ew⟩ := pk_andE (xs k) (m := 15) 4 (by decide)
    obtain ⟨X, eX⟩ : ∃ X, xs k >>> ((4 : Int32) &&& 31) = X := ⟨_, rfl⟩
    obtain ⟨ra, hra, era⟩ := pk_andE X (m := 255) 8 (by decide)
    obtain ⟨a, ha, ea⟩ := pk_andE (X >>> ((8 : Int32) &&& 31)) (m := 7) 3 (by decide)
    obtain ⟨b, hb, eb⟩ := pk_andE (X >>> ((11 : Int32) &&& 31)) (m := 7) 3 (by decide)
    obtain ⟨v, hv, ev⟩ := pk_andE (X >>> ((14 : Int32) &&& 31)) (m := 3) 2 (by decide)
    obtain ⟨u, hu, eu⟩ := pk_andE (X >>> ((16 : Int32) &&& 31)) (m := 3) 2 (by decide)
    have er : (X &&& 255) - (X &&& 255) / 3 * 3 = nI (ra % 3) := by
      rw [era]
      exact pk_rem (d := 3) (by omega) (by omega) (by omega)
    have hr : ra % 3 < 3 := Nat.mod_lt _ (by omega)
    generalize ra % 3 = r at er hr
    have ha8 : a < 8 := by omega
    have hb8 : b < 8 := by omega
    have hv4 : v < 4 := by omega
    have hu4 : u < 4 := by omega
    refine pk_le L k (fun z => absurd z (by omega)) (fun _ => ⟨pk_in k L hk, nm_r (e' := nI w) (by rw [ck]; exact ew) ⟨pk_in k L hk, nm_r (e' := X) (by rw [ck]; exact eX) ⟨by decide, nm_r er (nm_r ea (nm_r eb (nm_r ev (nm_r eu (lj_count ok (fun b6 b7 => ?_))))))⟩⟩⟩)
    refine pk_le 9 w (fun _ => pk_le 14 w (fun _ => ?_) (fun _ => ?_)) (fun _ => br_c (fun _ => ?_) (fun _ => ?_))
    · refine lj_drop ok (fun e => br_t (by decide) ?_) (fun m e => br_f (nI_pos (by have := ok.1; omega)) ?_)
      · unfold wL_law_260
        exact lj_t263 ok hr ha8 hb8 hv4 hu4 (fun c1 c2 c6 c7 ok2 => HJ _ _ _ _ _ _ 0 _ _ _ _ _ _ _ ok2 (lj_us_0 _ _ _))
      · subst e
        unfold wL_law_260
        exact lj_t263 (lj_ok_drop ok) hr ha8 hb8 hv4 hu4 (fun c1 c2 c6 c7 ok2 => HJ _ _ _ _ _ _ 0 _ _ _ _ _ _ _ ok2 (lj_us_0 _ _ _))
    · refine br_c (fun e1 => br_c (fun e2 => ?_) (fun _ => ?_)) (fun _ => ?_)
      · exact lj_t161 ok us hr ha8 hb8 hv4 hu4 (fun _ => ⟨(lj_bit1 (by omega) (by omega)).mp e1, (lj_bit1 (by omega) (by omega)).mp e2⟩) HJ
      · unfold wL_law_160
        exact lj_t161 ok us hr ha8 hb8 hv4 hu4 (fun z => absurd rfl z) HJ
      · unfold wL_law_160
        exact lj_t161 ok us hr ha8 hb8 hv4 hu4 (fun z => absurd rfl z) HJ
    · unfold wL_law_122
      exact lj_pair ok hr ha8 hb8 (Or.inl rfl) (fun M K c1 c2 ok2 => lj_t263 ok2 hr ha8 hb8 hv4 hu4 (fun d1 d2 d6 d7 ok3 => HJ _ _ _ _ _ _ _ _ _ _ _ _ _ _ ok3 us))
    · unfold wL_law_122
      exact lj_pair ok hr ha8 hb8 (Or.inr rfl) (fun M K c1 c2 ok2 => lj_t263 ok2 hr ha8 hb8 hv4 hu4 (fun d1 d2 d6 d7 ok3 => HJ _ _ _ _ _ _ _ _ _ _ _ _ _ _ ok3 us))
theorem lj_start : lj_LI (0, 0, 0, (fun _ => 0), (fun _ => 0), (fun _ => 0), (fun _ => 0), (fun _ => 0), (fun _ => 0), (fun _ => 0)) :=
  ⟨0, fun _ => 0, fun _ => 0, fun _ => 0, fun _ => 0, fun _ => 0, 0, _, _, _, _, _, _, _, rfl, ⟨by omega, fun _ _ => ⟨(by decide : 0 < 256), rfl⟩, fun _ _ => ⟨(by decide : 0 < 256), rfl⟩, fun _ x y _ _ _ => by rw [Nat.zero_testBit, Nat.zero_testBit], fun i hi => absurd hi (by omega)⟩, lj_us_0 _ _ _⟩
end
section
theorem i_vc (xs : Nat → Int32) (L : Nat) (hL : L ≤ 260) : wpL_law (fun r => r = 1) L xs := by
  unfold wpL_law
  refine ⟨7, 71, by omega, by omega, ?_⟩
  unfold wpX_init
  refine ⟨by omega, by omega, by omega, by omega, by omega, by omega, by omega, by omega, by omega, by omega, by omega, by omega, by omega, by omega, ?_⟩
  exact lj_law15 (post := fun r => r = 1) (L := L) (xs := xs) (kc := 1 + 7) (ks := 8 + 71) hL rfl _ lj_start
end

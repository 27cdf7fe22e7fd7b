/-! longs as 64 bits -/
def bN (w : Int64) : Nat := w.toBitVec.toNat
theorem bN_lt (w : Int64) : bN w < 2 ^ 64 := w.toBitVec.isLt
theorem bitL_N (w : Int64) (i : Nat) : bitL w i = (bN w).testBit i := rfl
theorem bitL_and (a b : Int64) (i : Nat) : bitL (a &&& b) i = (bitL a i && bitL b i) := by
  unfold bitL
  rw [Int64.toBitVec_and, BitVec.getLsbD_and]
theorem bitL_or (a b : Int64) (i : Nat) : bitL (a ||| b) i = (bitL a i || bitL b i) := by
  unfold bitL
  rw [Int64.toBitVec_or, BitVec.getLsbD_or]
theorem bitL_not (a : Int64) {i : Nat} (hi : i < 64) : bitL (a ^^^ (-1 : Int64)) i = !bitL a i := by
  unfold bitL
  rw [Int64.toBitVec_xor, BitVec.getLsbD_xor, show (-1 : Int64).toBitVec = BitVec.allOnes 64 by decide, BitVec.getLsbD_allOnes, decide_eq_true hi, Bool.xor_true]
theorem bitL_one : ∀ k, k < 60 → ∀ i, i < 64 → bitL ((1 : Int64) <<< (Int32.toInt64 (nI k) &&& (63 : Int64))) i = decide (i = k) := by decide +kernel
theorem bitL_full : ∀ i, i < 64 → bitL (1152921504606846975 : Int64) i = decide (i < 60) := by decide +kernel
theorem bitL_0 (i : Nat) : bitL 0 i = false := by
  unfold bitL
  rw [show (0 : Int64).toBitVec = 0#64 from rfl, BitVec.getLsbD_zero]
theorem bitL_ext {a b : Int64} (h : ∀ i, i < 64 → bitL a i = bitL b i) : a = b := Int64.toBitVec_inj.mp (BitVec.eq_of_getLsbD_eq h)
theorem bitL_z (w : Int64) : w = 0 ↔ ∀ i, i < 64 → bitL w i = false := ⟨fun e i _ => by rw [e, bitL_0], fun h => bitL_ext fun i hi => by rw [h i hi, bitL_0]⟩
theorem sh_63 : ∀ t, t < 64 → ((Int32.toInt64 (nI t) &&& (63 : Int64)).toBitVec.smod (64 : BitVec 64)).toNat = t := by decide +kernel
theorem bitL_test (w : Int64) {t : Nat} (ht : t < 64) : ((w >>> (Int32.toInt64 (nI t) &&& (63 : Int64))) &&& (1 : Int64) = 1) ↔ bitL w t = true := by
  rw [← Int64.toBitVec_inj, Int64.toBitVec_and, Int64.toBitVec_shiftRight, show (1 : Int64).toBitVec = 1#64 from rfl, BitVec.and_one_eq_setWidth_ofBool_getLsbD, BitVec.getLsbD_sshiftRight']
  have e := sh_63 t ht
  rw [e, Nat.add_zero, if_pos ht]
  unfold bitL
  cases w.toBitVec.getLsbD t <;> decide
/-- how many -/
def ctN (p : Nat → Bool) : Nat → Nat
  | 0 => 0
  | n + 1 => ctN p n + (if p n then 1 else 0)
theorem ctN_ext {p q : Nat → Bool} : ∀ {n : Nat}, (∀ i, i < n → p i = q i) → ctN p n = ctN q n
  | 0, _ => rfl
  | n + 1, h => by
    show ctN p n + _ = ctN q n + _
    rw [ctN_ext (fun i hi => h i (by omega)), h n (by omega)]
theorem ctN_add (p : Nat → Bool) (m : Nat) : ∀ n, ctN p (m + n) = ctN p m + ctN (fun i => p (m + i)) n
  | 0 => rfl
  | n + 1 => by
    show ctN p (m + n) + (if p (m + n) then 1 else 0) = ctN p m + (ctN (fun i => p (m + i)) n + (if p (m + n) then 1 else 0))
    rw [ctN_add p m n, Nat.add_assoc]
theorem ctN_le (p : Nat → Bool) : ∀ n, ctN p n ≤ n
  | 0 => Nat.le_refl _
  | n + 1 => by
    have := ctN_le p n
    show ctN p n + _ ≤ n + 1
    split <;> omega
theorem ctN_0 {p : Nat → Bool} : ∀ {n : Nat}, (∀ i, i < n → p i = false) → ctN p n = 0
  | 0, _ => rfl
  | n + 1, h => by
    show ctN p n + _ = 0
    rw [ctN_0 (fun i hi => h i (by omega)), h n (by omega)]
    rfl
/-- one place less -/
theorem ctN_drop {p q : Nat → Bool} {t : Nat} (ht : p t = true) (hq : q t = false) : ∀ {n : Nat}, t < n → (∀ i, i < n → i ≠ t → q i = p i) → ctN p n = ctN q n + 1
  | n + 1, h, e => by
    show ctN p n + _ = ctN q n + _ + 1
    by_cases c : t = n
    · subst c
      rw [ctN_ext (fun i hi => (e i (by omega) (by omega)).symm), ht, hq]
      rfl
    · rw [ctN_drop ht hq (by omega) (fun i hi => e i (by omega)), e n (by omega) (fun z => c z.symm)]
      omega
/-- the lowest bit -/
theorem low_bit : ∀ N : Nat, 0 < N → ∃ t m, N = 2 ^ t * (2 * m + 1) := by
  intro N
  induction N using Nat.strongRecOn with
  | ind N ih =>
    intro h
    by_cases c : N % 2 = 1
    · exact ⟨0, N / 2, by rw [Nat.pow_zero]; omega⟩
    · obtain ⟨t, m, e⟩ := ih (N / 2) (by omega) (by omega)
      refine ⟨t + 1, m, ?_⟩
      have h2 : N = 2 * (N / 2) := by omega
      rw [Nat.pow_succ, h2, e]
      generalize 2 ^ t = a
      rw [Nat.mul_comm a 2, Nat.mul_assoc]
theorem low_and (t m j : Nat) : ((2 ^ t * (2 * m + 1)) &&& (2 ^ t * (2 * m + 1) - 1)).testBit j = ((2 ^ t * (2 * m + 1)).testBit j && decide (j ≠ t)) := by
  have hp : 0 < 2 ^ t := Nat.two_pow_pos t
  have e1 : 2 ^ t * (2 * m + 1) - 1 = 2 ^ t * (2 * m) + (2 ^ t - 1) := by
    rw [Nat.mul_add, Nat.mul_one]
    omega
  rw [Nat.testBit_and, e1, Nat.testBit_two_pow_mul_add _ (by omega)]
  have e0 : (2 ^ t * (2 * m + 1)).testBit j = if j < t then (0 : Nat).testBit j else (2 * m + 1).testBit (j - t) := by
    have := Nat.testBit_two_pow_mul_add (2 * m + 1) (b := 0) (i := t) hp j
    rwa [Nat.add_zero] at this
  rw [e0]
  by_cases c : j < t
  · rw [if_pos c, if_pos c, Nat.zero_testBit, Bool.false_and, Bool.false_and]
  · rw [if_neg c, if_neg c]
    by_cases c2 : j = t
    · subst c2
      rw [Nat.sub_self, decide_eq_false (by omega), Bool.and_false]
      have : (2 * m).testBit 0 = false := by
        rw [Nat.testBit_zero]
        exact decide_eq_false (by omega)
      rw [this, Bool.and_false]
    · obtain ⟨k, ek⟩ : ∃ k, j - t = k + 1 := ⟨j - t - 1, by omega⟩
      rw [ek, decide_eq_true c2, Bool.and_true, Nat.testBit_add_one, Nat.testBit_add_one, show (2 * m + 1) / 2 = m by omega, show 2 * m / 2 = m by omega, Bool.and_self]
theorem low_at (t m : Nat) : (2 ^ t * (2 * m + 1)).testBit t = true := by
  have := Nat.testBit_two_pow_mul_add (2 * m + 1) (b := 0) (i := t) (Nat.two_pow_pos t) t
  rw [Nat.add_zero, if_neg (by omega), Nat.sub_self, Nat.testBit_zero] at this
  rw [this]
  exact decide_eq_true (by omega)
theorem bN_and (a b : Int64) : bN (a &&& b) = bN a &&& bN b := by
  unfold bN
  rw [Int64.toBitVec_and, BitVec.toNat_and]
theorem bN_dec (w : Int64) (h : 0 < bN w) : bN (w - 1) = bN w - 1 := by
  have hl := bN_lt w
  unfold bN at *
  rw [Int64.toBitVec_sub, BitVec.toNat_sub, show (1 : Int64).toBitVec = 1#64 from rfl]
  have : (1#64).toNat = 1 := rfl
  rw [this]
  omega
theorem bN_0 {w : Int64} : bN w = 0 ↔ w = 0 := by
  refine ⟨fun h => Int64.toBitVec_inj.mp (BitVec.eq_of_toNat_eq ?_), fun h => by rw [h]; rfl⟩
  exact h
/-- how many bits -/
def cntL (w : Int64) : Nat := ctN (bitL w) 64
theorem pm_bitsIn_l : ∀ (c k n : Nat) (w : Int64), cntL w = c → c < k → m_bitsIn_l4 k (nI n) w = some (nI (n + c)) := by
  intro c
  induction c with
  | zero =>
    intro k n w hc hk
    obtain ⟨k, rfl⟩ : ∃ q, k = q + 1 := ⟨k - 1, by omega⟩
    have hw : w = 0 := by
      refine (bitL_z w).mpr fun i hi => ?_
      cases hb : bitL w i with
      | false => rfl
      | true =>
        exfalso
        have h2 := ctN_drop (p := bitL w) (q := fun j => bitL w j && decide (j ≠ i)) hb (by rw [decide_eq_false (by omega), Bool.and_false]) hi (fun j _ hj => by rw [decide_eq_true hj, Bool.and_true])
        unfold cntL at hc
        omega
    show m_bitsIn_b4 (m_bitsIn_l4 k) (nI n) w = _
    unfold m_bitsIn_b4
    rw [if_pos hw, Nat.add_zero]
  | succ c ih =>
    intro k n w hc hk
    obtain ⟨k, rfl⟩ : ∃ q, k = q + 1 := ⟨k - 1, by omega⟩
    have hw : ¬ w = 0 := by
      intro e
      subst e
      have : cntL 0 = 0 := ctN_0 (fun i _ => bitL_0 i)
      omega
    have h0 : 0 < bN w := Nat.pos_of_ne_zero fun z => hw (bN_0.mp z)
    obtain ⟨t, m, e⟩ := low_bit (bN w) h0
    have hb : ∀ j, bitL (w &&& (w - 1)) j = (bitL w j && decide (j ≠ t)) := fun j => by
      rw [bitL_N, bN_and, bN_dec w h0, e, low_and, bitL_N, e]
    have ht : bitL w t = true := by rw [bitL_N, e]; exact low_at t m
    have h64 : t < 64 := by
      refine Classical.byContradiction fun z => ?_
      have := BitVec.getLsbD_of_ge w.toBitVec t (by omega)
      unfold bitL at ht
      rw [this] at ht
      cases ht
    have h1 := ctN_drop (p := bitL w) (q := bitL (w &&& (w - 1))) ht (by rw [hb, decide_eq_false (by omega), Bool.and_false]) h64 (fun j _ hj => by rw [hb, decide_eq_true hj, Bool.and_true])
    have h2 : cntL (w &&& (w - 1)) = c := by
      unfold cntL at hc ⊢
      omega
    have h3 := ih k (n + 1) (w &&& (w - 1)) h2 (by omega)
    show m_bitsIn_b4 (m_bitsIn_l4 k) (nI n) w = _
    unfold m_bitsIn_b4
    rw [if_neg hw]
    simp (disch := omega) only [pz_1, pz_add, pz_lt]
    rw [h3]
    congr 2
    omega
theorem pm_bitsIn (w : Int64) : m_bitsIn w = some (nI (cntL w)) := by
  have h1 : cntL w ≤ 64 := ctN_le _ 64
  have h := pm_bitsIn_l (cntL w) fu 0 w rfl (Nat.lt_of_le_of_lt h1 (by decide))
  rw [Nat.zero_add] at h
  unfold m_bitsIn
  have h : m_bitsIn_l4 fu 0 w = some (nI (cntL w)) := h
  rw [h]
  rfl

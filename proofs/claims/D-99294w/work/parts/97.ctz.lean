/-! where the lowest bit of a long is -/
def ntzC (v1 : Int32) : Option Int32 :=
  if (0 : Int32) < v1 then (
    if v1 ≤ (65536 : Int32) then (
      J2_numberOfTrailingZeros_j34 v1 (1 : Int32))
    else (
      lt_ ((1 : Int32) + (16 : Int32)) fun v14 =>
      lt_ (UInt32.toInt32 (Int32.toUInt32 v1 >>> (Int32.toUInt32 (16 : Int32) &&& Int32.toUInt32 31))) fun v15 =>
      J2_numberOfTrailingZeros_j34 v15 v14))
  else (
    some (v1 &&& (32 : Int32)))
theorem ntz_core : ∀ t, t < 32 → ntzC (nI (2 ^ t - 1)) = some (nI t) := by decide +kernel
theorem bv_low (v : Int32) (h : ¬ v = 0) : ∃ t, t < 32 ∧ v.toBitVec.getLsbD t = true ∧ (v ^^^ (-1 : Int32)) &&& (v - (1 : Int32)) = nI (2 ^ t - 1) := by
  have h0 : 0 < v.toBitVec.toNat := Nat.pos_of_ne_zero fun z => h (Int32.toBitVec_inj.mp (BitVec.eq_of_toNat_eq z))
  have hl := v.toBitVec.isLt
  obtain ⟨t, m, e⟩ := low_bit _ h0
  have ht : v.toBitVec.getLsbD t = true := by
    show v.toBitVec.toNat.testBit t = true
    rw [e]
    exact low_at t m
  have h32 : t < 32 := by
    refine Classical.byContradiction fun z => ?_
    have := BitVec.getLsbD_of_ge v.toBitVec t (by omega)
    rw [this] at ht
    cases ht
  refine ⟨t, h32, ht, Int32.toBitVec_inj.mp (BitVec.eq_of_getLsbD_eq fun j hj => ?_)⟩
  have hp : 0 < 2 ^ t := Nat.two_pow_pos t
  have hd : (v.toBitVec - 1#32).toNat = 2 ^ t * (2 * m) + (2 ^ t - 1) := by
    rw [BitVec.toNat_sub]
    have e1 : (1#32).toNat = 1 := rfl
    have e2 : 2 ^ t * (2 * m + 1) = 2 ^ t * (2 * m) + 2 ^ t := by rw [Nat.mul_add, Nat.mul_one]
    rw [e1]
    omega
  have e5 : (nI (2 ^ t - 1)).toBitVec.getLsbD j = decide (j < t) := by
    have hq : 2 ^ t ≤ 2 ^ 31 := Nat.pow_le_pow_right (by decide) (by omega)
    show (nI (2 ^ t - 1)).toBitVec.toNat.testBit j = _
    rw [pk_tn (by omega), Nat.testBit_two_pow_sub_one]
  rw [Int32.toBitVec_and, Int32.toBitVec_xor, Int32.toBitVec_sub, BitVec.getLsbD_and, BitVec.getLsbD_xor, show (-1 : Int32).toBitVec = BitVec.allOnes 32 by decide, BitVec.getLsbD_allOnes, decide_eq_true hj, Bool.xor_true, e5]
  have e6 : (v.toBitVec - (1 : Int32).toBitVec).getLsbD j = (2 ^ t * (2 * m) + (2 ^ t - 1)).testBit j := by
    show (v.toBitVec - 1#32).toNat.testBit j = _
    rw [hd]
  have e7 : v.toBitVec.getLsbD j = (2 ^ t * (2 * m + 1)).testBit j := by
    show v.toBitVec.toNat.testBit j = _
    rw [e]
  rw [e6, e7, Nat.testBit_two_pow_mul_add _ (by omega)]
  have e0 : (2 ^ t * (2 * m + 1)).testBit j = if j < t then (0 : Nat).testBit j else (2 * m + 1).testBit (j - t) := by
    have := Nat.testBit_two_pow_mul_add (2 * m + 1) (b := 0) (i := t) hp j
    rwa [Nat.add_zero] at this
  rw [e0]
  by_cases c : j < t
  · rw [if_pos c, if_pos c, Nat.zero_testBit, Nat.testBit_two_pow_sub_one, decide_eq_true c]
    rfl
  · rw [if_neg c, if_neg c, decide_eq_false c]
    by_cases c2 : j = t
    · subst c2
      rw [Nat.sub_self, Nat.testBit_zero, decide_eq_true (by omega)]
      rfl
    · obtain ⟨k, ek⟩ : ∃ k, j - t = k + 1 := ⟨j - t - 1, by omega⟩
      rw [ek, Nat.testBit_add_one, Nat.testBit_add_one, show (2 * m + 1) / 2 = m by omega, show 2 * m / 2 = m by omega]
      cases m.testBit k <;> rfl
theorem px_ntz32 (v : Int32) (h : ¬ v = 0) : ∃ t, t < 32 ∧ J2_numberOfTrailingZeros v = some (nI t) ∧ v.toBitVec.getLsbD t = true := by
  obtain ⟨t, h1, h2, h3⟩ := bv_low v h
  refine ⟨t, h1, ?_, h2⟩
  show ntzC ((v ^^^ (-1 : Int32)) &&& (v - (1 : Int32))) = _
  rw [h3]
  exact ntz_core t h1
theorem px_ntz (w : Int64) (h : ¬ w = 0) : ∃ t, t < 64 ∧ J16_numberOfTrailingZeros w = some (nI t) ∧ bitL w t = true := by
  unfold J16_numberOfTrailingZeros
  rw [pz_lt]
  by_cases c : Int64.toInt32 w = 0
  · have e : bN (UInt64.toInt64 (Int64.toUInt64 w >>> (Int64.toUInt64 (Int32.toInt64 (32 : Int32)) &&& Int64.toUInt64 63))) = bN w / 2 ^ 32 := bN_ushr w _ 32 (by decide)
    generalize UInt64.toInt64 (Int64.toUInt64 w >>> (Int64.toUInt64 (Int32.toInt64 (32 : Int32)) &&& Int64.toUInt64 63)) = u at e
    have hb : ∀ j, (Int64.toInt32 u).toBitVec.getLsbD j = (decide (j < 32) && bitL w (32 + j)) := fun j => by
      show (BitVec.signExtend 32 u.toBitVec).getLsbD j = _
      rw [BitVec.signExtend_eq_setWidth_of_le _ (by decide), BitVec.getLsbD_setWidth]
      congr 1
      show (bN u).testBit j = (bN w).testBit (32 + j)
      rw [e, Nat.testBit_div_two_pow, Nat.add_comm]
    have hz : ∀ j, j < 32 → bitL w j = false := fun j hj => by
      have e1 : (Int64.toInt32 w).toBitVec.getLsbD j = false := by
        rw [c]
        exact BitVec.getLsbD_zero
      have e2 : (Int64.toInt32 w).toBitVec.getLsbD j = (decide (j < 32) && bitL w j) := by
        show (BitVec.signExtend 32 w.toBitVec).getLsbD j = _
        rw [BitVec.signExtend_eq_setWidth_of_le _ (by decide), BitVec.getLsbD_setWidth]
        rfl
      rw [e1, decide_eq_true hj, Bool.true_and] at e2
      exact e2.symm
    have hu : ¬ Int64.toInt32 u = 0 := fun z => h ((bitL_z w).mpr fun i hi => by
      by_cases q : i < 32
      · exact hz i q
      · have e1 := hb (i - 32)
        rw [z, decide_eq_true (by omega), Bool.true_and, show 32 + (i - 32) = i by omega] at e1
        exact e1.symm.trans BitVec.getLsbD_zero)
    obtain ⟨t, h1, h2, h3⟩ := px_ntz32 _ hu
    rw [hb, decide_eq_true h1, Bool.true_and] at h3
    refine ⟨32 + t, by omega, ?_, h3⟩
    rw [if_pos c, h2, pz_bs, pz_32, pz_add]
  · obtain ⟨t, h1, h2, h3⟩ := px_ntz32 _ c
    refine ⟨t, by omega, ?_, ?_⟩
    · rw [if_neg c, h2]
      rfl
    · have e2 : (Int64.toInt32 w).toBitVec.getLsbD t = (decide (t < 32) && bitL w t) := by
        show (BitVec.signExtend 32 w.toBitVec).getLsbD t = _
        rw [BitVec.signExtend_eq_setWidth_of_le _ (by decide), BitVec.getLsbD_setWidth]
        rfl
      rw [e2, decide_eq_true h1, Bool.true_and] at h3
      exact h3

/-! five ints compared: what Arrays.equals answers -/
theorem i32_nat {a b : Int32} (h : a.toUInt32.toNat = b.toUInt32.toNat) : a = b := match a, b, h with
  | ⟨_⟩, ⟨_⟩, h => congrArg Int32.ofUInt32 (UInt32.toNat_inj.mp h)
theorem wuL_inj {x y x' y' : Int32} (h : wuL x y = wuL x' y') : x = x' ∧ y = y' := by
  have h1 := x.toUInt32.toNat_lt
  have h2 := y.toUInt32.toNat_lt
  have h3 := x'.toUInt32.toNat_lt
  have h4 := y'.toUInt32.toNat_lt
  have k : ∀ n : Nat, n < 2 ^ 64 → n.toUInt64.toInt64.toUInt64.toNat = n := fun n hn => by
    show (UInt64.ofNat n).toNat = n
    rw [UInt64.toNat_ofNat']
    exact Nat.mod_eq_of_lt hn
  have e : (x.toUInt32.toNat + y.toUInt32.toNat * 2 ^ 32).toUInt64.toInt64.toUInt64.toNat = (x'.toUInt32.toNat + y'.toUInt32.toNat * 2 ^ 32).toUInt64.toInt64.toUInt64.toNat := congrArg (fun z : Int64 => z.toUInt64.toNat) h
  rw [k _ (by omega), k _ (by omega)] at e
  exact ⟨i32_nat (by omega), i32_nat (by omega)⟩
theorem u_z_ok {A B : Int64} (h : ¬ A = B) {i : Int32} (hi : i = 0 ∨ i = 1) : ∃ v, u_z A B i = some v ∧ 0 ≤ v := by
  have h0 : ¬ A ^^^ B = 0 := fun e => h (by
    have e2 : A.toBitVec ^^^ B.toBitVec = 0#64 := congrArg Int64.toBitVec e
    exact Int64.toBitVec_inj.mp (BitVec.xor_eq_zero_iff.mp e2))
  obtain ⟨t, ht, hz, -⟩ := px_ntz _ h0
  have key : ∀ t, t < 64 → (0 : Int32) ≤ (0 : Int32) <<< ((1 : Int32) &&& 31) + nI t >>> ((5 : Int32) &&& 31) ∧ (0 : Int32) ≤ (1 : Int32) <<< ((1 : Int32) &&& 31) + nI t >>> ((5 : Int32) &&& 31) := by decide +kernel
  have k2 := key t ht
  unfold u_z
  rw [hz]
  rcases hi with rfl | rfl
  · exact ⟨_, (show ck (decide _) _ = _ by rw [decide_eq_true k2.1]; rfl), k2.1⟩
  · exact ⟨_, (show ck (decide _) _ = _ by rw [decide_eq_true k2.2]; rfl), k2.2⟩
theorem u_eq_ok (a b : Nat → Int32) : u_eq a b = some (if a 0 = b 0 ∧ a 1 = b 1 ∧ a 2 = b 2 ∧ a 3 = b 3 ∧ a 4 = b 4 then 1 else 0) := by
  have i0 : ix (0 : Int32) = 0 := by decide
  have i4 : ix (4 : Int32) = 4 := by decide
  unfold u_eq u_mm
  rw [i0, i4]
  by_cases h0 : a 0 = b 0
  · rw [if_pos h0]
    unfold u_vm
    by_cases h1 : wuL (a 0) (a 1) = wuL (b 0) (b 1)
    · obtain ⟨-, e1⟩ := wuL_inj h1
      rw [if_pos h1]
      by_cases h2 : wuL (a 2) (a 3) = wuL (b 2) (b 3)
      · obtain ⟨e2, e3⟩ := wuL_inj h2
        rw [if_pos h2]
        by_cases h4 : a 4 = b 4
        · simp [h0, e1, e2, e3, h4]
        · simp [h4]
      · obtain ⟨v, hv, hp⟩ := u_z_ok h2 (i := 1) (Or.inr rfl)
        rw [if_neg h2, hv]
        have hne : ¬ (a 2 = b 2 ∧ a 3 = b 3) := fun ⟨q1, q2⟩ => h2 (by rw [q1, q2])
        rw [show (if a 0 = b 0 ∧ a 1 = b 1 ∧ a 2 = b 2 ∧ a 3 = b 3 ∧ a 4 = b 4 then (1 : Int32) else 0) = 0 from if_neg (fun q => hne ⟨q.2.2.1, q.2.2.2.1⟩)]
        show (if v < 0 then _ else some v).bind _ = _
        rw [if_neg (Int32.not_lt.mpr hp)]
        show (if 0 ≤ v then some (0 : Int32) else some 1) = _
        rw [if_pos hp]
    · obtain ⟨v, hv, hp⟩ := u_z_ok h1 (i := 0) (Or.inl rfl)
      rw [if_neg h1, hv]
      rw [show (if a 0 = b 0 ∧ a 1 = b 1 ∧ a 2 = b 2 ∧ a 3 = b 3 ∧ a 4 = b 4 then (1 : Int32) else 0) = 0 from if_neg (fun q => h1 (by rw [q.1, q.2.1]))]
      show (if v < 0 then _ else some v).bind _ = _
      rw [if_neg (Int32.not_lt.mpr hp)]
      show (if 0 ≤ v then some (0 : Int32) else some 1) = _
      rw [if_pos hp]
  · rw [if_neg h0, if_neg (fun q => h0 q.1)]
    rfl

/-! the lexer in numbers: letters, packed words -/
theorem lN_tn {n : Nat} (h : n < 2 ^ 64) : (lN n).toBitVec.toNat = n := by
  show (BitVec.ofNat 64 n).toNat = n
  rw [BitVec.toNat_ofNat, Nat.mod_eq_of_lt h]
theorem wk_hi {w : Nat} (hw : w < 2 ^ 63) : ((lN w) >>> (Int32.toInt64 (48 : Int32) &&& 63) = (0 : Int64)) ↔ w < 2 ^ 48 := by
  rw [← Int64.toBitVec_inj, Int64.toBitVec_shiftRight, show ((Int32.toInt64 (48 : Int32) &&& 63 : Int64).toBitVec.smod 64) = 48#64 by decide, show (0 : Int64).toBitVec = 0#64 from rfl]
  have e : (lN w).toBitVec.sshiftRight' 48#64 = (lN w).toBitVec >>> 48 := by
    show (lN w).toBitVec.sshiftRight 48 = _
    rw [BitVec.sshiftRight_eq_of_msb_false]
    rw [BitVec.msb_eq_decide, lN_tn (by omega)]
    simp
    omega
  rw [e, ← BitVec.toNat_inj, BitVec.toNat_ushiftRight, lN_tn (by omega), Nat.shiftRight_eq_div_pow]
  show w / 2 ^ 48 = 0 ↔ _
  rw [Nat.div_eq_zero_iff]
  omega
theorem wk_sh {w c : Nat} (hw : w < 2 ^ 48) (hc : c < 256) : ((lN w) <<< (Int32.toInt64 (8 : Int32) &&& 63)) ||| (Int32.toInt64 (nI c)) = lN (w * 256 + c) := by
  rw [nI_l (by omega)]
  apply Int64.toBitVec_inj.mp
  rw [Int64.toBitVec_or, Int64.toBitVec_shiftLeft, show ((Int32.toInt64 (8 : Int32) &&& 63 : Int64).toBitVec.smod 64) = 8#64 by decide]
  apply BitVec.eq_of_toNat_eq
  rw [BitVec.toNat_or, show (lN w).toBitVec <<< 8#64 = (lN w).toBitVec <<< 8 from rfl, BitVec.toNat_shiftLeft, lN_tn (by omega), lN_tn (by omega), lN_tn (by omega), Nat.shiftLeft_eq, Nat.mod_eq_of_lt (by omega), ← Nat.shiftLeft_eq, ← Nat.shiftLeft_add_eq_or_of_lt (by omega), Nat.shiftLeft_eq]
/-- where letters end -/
def ltN (b : Nat → Nat) : Nat → Nat → Nat
  | 0, a => a
  | m + 1, a => if isLt (b a) = true then ltN b m (a + 1) else a
/-- what is packed of them -/
def pkS (w c : Nat) : Nat := if w < 2 ^ 48 then w * 256 + c else 2 ^ 60
def pkN (b : Nat → Nat) : Nat → Nat → Nat → Nat
  | 0, _, w => w
  | m + 1, a, w => if isLt (b a) = true then pkN b m (a + 1) (pkS w (b a)) else w
theorem isLt_in {c : Nat} (h : isLt c = true) : (97 ≤ c ∧ c ≤ 122) ∨ (65 ≤ c ∧ c ≤ 90) := of_decide_eq_true h
theorem pkS_lt {w c : Nat} (hw : w < 2 ^ 62) (hc : c < 256) : pkS w c < 2 ^ 62 := by
  unfold pkS
  split <;> omega
theorem tx_lt {b : Nat → Nat} {n : Nat} : ∀ m a f (I : PI), a + m = n → m < f → TIn b n I → I 0 2 = nI a → t_next_l96 f I = some (u2 I 0 2 (nI (ltN b m a))) := by
  intro m
  induction m with
  | zero =>
    intro a f I ha hf hI h2
    obtain ⟨f, rfl⟩ : ∃ q, f = q + 1 := ⟨f - 1, by omega⟩
    show t_next_b96 (t_next_l96 f) I = _
    unfold t_next_b96
    have h0 := hI.1
    rw [if_pos (by rw [hI.2.1, h2, nI_leI (by omega) (by omega)]; omega), ltN, u2_self h2]
  | succ m ih =>
    intro a f I ha hf hI h2
    obtain ⟨f, rfl⟩ : ∃ q, f = q + 1 := ⟨f - 1, by omega⟩
    show t_next_b96 (t_next_l96 f) I = _
    unfold t_next_b96
    have h0 := hI.1
    obtain ⟨hb, hbx⟩ := hI.2.2 a (by omega)
    have hn : ¬ I 0 1 ≤ I 0 2 := by
      rw [hI.2.1, h2, nI_leI (by omega) (by omega)]
      omega
    rw [if_neg hn, h2, pz_inb (by omega) (by omega), pz_ix (by omega), pz_ck, hbx, t_lt _ hb, pz_bs, ltN]
    by_cases hd : isLt (b a) = true
    · rw [if_pos hd, hd, if_neg (by decide), pz_lt, show (1 : Int32) = nI 1 from rfl, pz_add, ih (a + 1) f _ (by omega) (by omega) (hI.set (by decide)) (pz_at _ _ rfl rfl), u2_twice]
    · rw [if_neg hd, Bool.eq_false_iff.mpr hd, if_pos (by decide), u2_self h2]
theorem tm_lt {b : Nat → Nat} {n : Nat} : ∀ m a w f (I : PI) (J : PJ), a + m = n → m < f → MIn b n I → I 0 12 = nI a → J 0 16 = lN w → w < 2 ^ 62 → ∃ J1, m_nextToken_l168 f I J = some (.inl (u2 I 0 12 (nI (ltN b m a)), J1)) ∧ J1 0 16 = lN (pkN b m a w) ∧ pkN b m a w < 2 ^ 62 ∧ ∀ k j, k ≠ 0 ∨ j ≠ 16 → J1 k j = J k j := by
  intro m
  induction m with
  | zero =>
    intro a w f I J ha hf hI h2 hJ hw
    obtain ⟨f, rfl⟩ : ∃ q, f = q + 1 := ⟨f - 1, by omega⟩
    have e : a = n := by omega
    subst e
    refine ⟨J, ?_, hJ, hw, fun _ _ _ => rfl⟩
    show m_nextToken_b168 (m_nextToken_l168 f) I J = _
    unfold m_nextToken_b168
    rw [h2, m_byteAt_end hI, pz_bs, show m_isLetterByte (-1) = some 0 from rfl, pz_bs, if_pos rfl, ltN, u2_self h2]
  | succ m ih =>
    intro a w f I J ha hf hI h2 hJ hw
    obtain ⟨f, rfl⟩ : ∃ q, f = q + 1 := ⟨f - 1, by omega⟩
    have h0 := hI.1
    obtain ⟨hb, -⟩ := hI.2.2 a (by omega)
    rw [ltN, pkN]
    show ∃ J1, m_nextToken_b168 (m_nextToken_l168 f) I J = _ ∧ _
    unfold m_nextToken_b168
    rw [h2, m_byteAt_in hI (by omega), pz_bs, m_lt _ hb, pz_bs]
    by_cases hd : isLt (b a) = true
    · rw [if_pos hd, if_pos hd, hd, if_neg (by decide), hJ, pz_bs]
      have fin : ∀ x : Int64, x = lN (pkS w (b a)) → ∃ J1, m_nextToken_j218 (m_nextToken_l168 f) I J x = some (.inl (u2 I 0 12 (nI (ltN b m (a + 1))), J1)) ∧ J1 0 16 = lN (pkN b m (a + 1) (pkS w (b a))) ∧ pkN b m (a + 1) (pkS w (b a)) < 2 ^ 62 ∧ ∀ k j, k ≠ 0 ∨ j ≠ 16 → J1 k j = J k j := by
        intro x e
        rw [e]
        unfold m_nextToken_j218
        rw [pz_lt, pz_lt, h2, show (1 : Int32) = nI 1 from rfl, pz_add]
        obtain ⟨J1, q1, q2, q3, q4⟩ := ih (a + 1) (pkS w (b a)) f (u2 I 0 12 (nI (a + 1))) (u2 J 0 16 (lN (pkS w (b a)))) (by omega) (by omega) (hI.set (by decide)) (pz_at _ _ rfl rfl) (pz_at _ _ rfl rfl) (pkS_lt hw hb)
        rw [u2_twice] at q1
        exact ⟨J1, q1, q2, q3, fun k j hk => (q4 k j hk).trans (pz_no _ _ hk)⟩
      by_cases hh : w < 2 ^ 48
      · rw [if_pos ((wk_hi (by omega)).mpr hh), wk_sh hh hb]
        exact fin _ (by rw [pkS, if_pos hh])
      · rw [if_neg (fun q => hh ((wk_hi (by omega)).mp q))]
        exact fin _ (by rw [pkS, if_neg hh]; rfl)
    · rw [if_neg hd, if_neg hd, Bool.eq_false_iff.mpr hd, if_pos (by decide), u2_self h2]
      exact ⟨J, rfl, hJ, hw, fun _ _ _ => rfl⟩

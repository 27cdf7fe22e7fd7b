/-! a law's saying: both answer the same -/
section SZ
variable {s : SN} {r : Nat → Nat} {I : PI} {X : TS} {I' : PI} {J' : PJ}
theorem pm_name {nF nP p f : Nat} (hn : nP ≤ 6) (hp : p < nP) (hf : f < 8) (hR : RM r nF nP (I' 1)) (hr8 : r (8 + p) < 256) (h4 : I' 1 (41 + 2 * f) = nI (s 4 f)) (h5 : I' 1 (41 + 2 * f + 1) = nI (s 5 f)) : ∃ B, m_name I' (nI p) (nI f) = some B ∧ (∀ k, k ≠ 11 → B k = I' k) ∧ B 11 0 = nI (r 0) ∧ B 11 1 = nI f ∧ B 11 2 = nI (s 4 f) ∧ B 11 3 = nI (s 5 f) ∧ B 11 4 = nI (r (2 + p)) ∧ B 11 5 = nI p ∧ B 11 6 = nI (pop (r (8 + p))) ∧ B 11 7 = nI (r (14 + p)) := by
  obtain ⟨a0, a1, a8, ap⟩ := hR
  obtain ⟨p0, p1, p2⟩ := ap p hp
  have row : ∀ (A : PI) (i : Nat) (w : Int32), u2 A 11 i w 1 = A 1 := fun A i w => u2_row _ _ _ _ (by decide)
  have g0 : ∀ A : PI, A 1 = I' 1 → m_get A (nI p) 0 = some (nI (r (2 + p))) := fun A hA => by
    rw [show (0 : Int32) = nI 0 from rfl, pm_get A (by omega) (by omega), hA, p0]
  have g1 : ∀ A : PI, A 1 = I' 1 → m_get A (nI p) 1 = some (nI (r (8 + p))) := fun A hA => by
    rw [show (1 : Int32) = nI 1 from rfl, pm_get A (by omega) (by omega), hA, p1]
  have g2 : ∀ A : PI, A 1 = I' 1 → m_get A (nI p) 2 = some (nI (r (14 + p))) := fun A hA => by
    rw [show (2 : Int32) = nI 2 from rfl, pm_get A (by omega) (by omega), hA, p2]
  have k0 : ∀ A : PI, A 1 = I' 1 → m_kindOf A (nI f) = some (nI (s 4 f)) := fun A hA => by
    rw [pm_kindOf A hf, hA, h4]
  have l0 : ∀ A : PI, A 1 = I' 1 → m_lengthOf A (nI f) = some (nI (s 5 f)) := fun A hA => by
    rw [pm_lengthOf A hf, hA, h5]
  refine ⟨u2 (u2 (u2 (u2 (u2 (u2 (u2 (u2 I' 11 0 (nI (r 0))) 11 1 (nI f)) 11 2 (nI (s 4 f))) 11 3 (nI (s 5 f))) 11 4 (nI (r (2 + p)))) 11 5 (nI p)) 11 6 (nI (pop (r (8 + p))))) 11 7 (nI (r (14 + p))), ?_, fun k hk => by simp only [u2_row _ _ _ _ hk], ?_, ?_, ?_, ?_, ?_, ?_, ?_, ?_⟩
  · unfold m_name
    rw [show ix (0 : Int32) = 0 from rfl, show ix (1 : Int32) = 1 from rfl, show ix (2 : Int32) = 2 from rfl, show ix (3 : Int32) = 3 from rfl, show ix (4 : Int32) = 4 from rfl, show ix (5 : Int32) = 5 from rfl, show ix (6 : Int32) = 6 from rfl, show ix (7 : Int32) = 7 from rfl, show ix (8 : Int32) = 8 from rfl, show inb (8 : Int32) 1691 = true from rfl, show inb (0 : Int32) 8 = true from rfl, show inb (1 : Int32) 8 = true from rfl, show inb (2 : Int32) 8 = true from rfl, show inb (3 : Int32) 8 = true from rfl, show inb (4 : Int32) 8 = true from rfl, show inb (5 : Int32) 8 = true from rfl, show inb (6 : Int32) 8 = true from rfl, show inb (7 : Int32) 8 = true from rfl, a8]
    rw [pz_ck, pz_ck, pz_lt, pz_ck, pz_lt, k0 _ (by simp only [row]), pz_bs, pz_ck, pz_lt, l0 _ (by simp only [row]), pz_bs, pz_ck, pz_lt, g0 _ (by simp only [row]), pz_bs, pz_ck, pz_lt, pz_ck, pz_lt, g1 _ (by simp only [row]), pz_bs, pm_bits _ hr8, pz_bs, pz_ck, pz_lt, g2 _ (by simp only [row]), pz_bs, pz_ck, pz_lt]
  all_goals simp (disch := omega) only [pz_row, pz_at, pz_no]
theorem kb_zero {nP f : Nat} (h : ∀ p, p < nP → (r (8 + p)).testBit f = false) : kb r f nP = 0 := by
  induction nP with
  | zero => rfl
  | succ n ih =>
    show kb r f n ||| (if (r (8 + n)).testBit f then 2 ^ n else 0) = 0
    rw [ih fun p hp => h p (by omega), h n (by omega), if_neg (by decide)]
    rfl
/-- how many know a form, by a number -/
theorem pm_knownOf {nF nP : Nat} {v : Nat → Int32} (hF : nF ≤ 8) (hn : nP ≤ 6) (hV : VRow r nF nP) (hR : RM r nF nP (I' 1)) (hv : ∀ q, q < 8 → v (8 + q) = nI (pop (kb r q 6))) {I2 : PI} (h2 : I2 1 = I' 1) (y : Int64) : m_knownOf I2 y = some (knownL v y) := by
  obtain ⟨a0, a1, a8, ap⟩ := hR
  have hr8 : ∀ p, p < nP → r (8 + p) < 2 ^ nF := fun p hp => (hV.2.2.2.1 p hp).2.1
  have h256 : 2 ^ nF ≤ 256 := Nat.pow_le_pow_right (by decide) hF (n := 2)
  unfold m_knownOf knownL
  by_cases c1 : y < 0
  · rw [if_pos c1, if_pos c1]
  rw [if_neg c1, if_neg c1, show inb (0 : Int32) 1691 = true from rfl, pz_ck, show ix (0 : Int32) = 0 from rfl, h2, a0, nI_l (by omega)]
  obtain ⟨j, hj, rfl⟩ := pk_lOf c1
  have eF : lN nF ≤ lN j ↔ nF ≤ j := pk_lLE (by omega) hj
  by_cases c8 : 8 ≤ j
  · rw [if_pos (show (8 : Int64) ≤ lN j from (pk_lLE (a := 8) (by omega) hj).mpr c8), if_pos (eF.mpr (by omega))]
  rw [if_neg (show ¬ (8 : Int64) ≤ lN j from fun q => c8 ((pk_lLE (a := 8) (by omega) hj).mp q)), lN_i, show (8 : Int32) + nI j = nI (8 + j) from nI_add 8 j, pz_ix (by omega), hv j (by omega)]
  have hkr : kb r j 6 = kb r j nP := kb_row hV hn
  have hlt := kb_lt r j nP
  have h64 := pow64 nP hn
  by_cases c3 : nF ≤ j
  · rw [if_pos (eF.mpr c3), hkr, kb_zero fun p hp => Nat.testBit_lt_two_pow (Nat.lt_of_lt_of_le (hr8 p hp) (Nat.pow_le_pow_right (by decide) c3))]
    rfl
  · rw [if_neg (fun q => c3 (eF.mp q)), pm_knownBy (nP := nP) (r := r) (by rw [h2]; exact a1) hn (fun p hp => ⟨by rw [h2]; exact (ap p hp).2.1, by have := hr8 p hp; omega⟩) (by omega), pz_bs, pm_bits _ (by omega), pz_bs, hkr]
/-- what a saying may change -/
def SyX (I B : PI) : Prop := ∀ k, k ≠ 116 → B k = I k
def SyM (I' B' : PI) (J' K' : PJ) : Prop := (∀ k, k ≠ 11 → k ≠ 13 → B' k = I' k) ∧ ∀ k, k ≠ 12 → K' k = J' k
theorem pz_neg1 {T : Int32} (h : T < 0) (I : PI) (J : PJ) (s w lo hi : Int32) : m_says I J T s w lo hi = some (w, I, J) := by
  unfold m_says
  obtain ⟨f, hf⟩ : ∃ f, fu = f + 1 := ⟨fu - 1, by unfold fu; omega⟩
  rw [hf]
  show lbind (m_says_b3 I J T s lo hi (m_says_l3 I J T s lo hi f) 0) some _ = _
  unfold m_says_b3
  rw [if_pos h]
  rfl
/-- the law that says, or what is said without -/
theorem pe_law {v : Nat → Int32} {A : PI} {y law : Nat} {T lo hi w : Int32} (hl : law < 2) (hlh : lo ≤ hi) (hT : TxR X (A 3) y T) (hn : ∀ j, j < 8 → A 11 j = v j) (hkn : ∀ I2 : PI, I2 1 = A 1 → ∀ y, m_knownOf I2 y = some (knownL v y)) :
    ∃ q B' K', X y = some q ∧ (∀ k, k ≠ 13 → B' k = A k) ∧ (∀ k, k ≠ 12 → K' k = J' k) ∧ (lawOf q (nI law) = none ∧ m_says A J' T (nI law) w lo hi = some (w, B', K') ∨ ∃ F z, lawOf q (nI law) = some F ∧ x_held (F v) lo hi = some z ∧ lo ≤ z ∧ z ≤ hi ∧ m_says A J' T (nI law) w lo hi = some (z, B', K')) := by
  rcases hT with ⟨h1, h2⟩ | ⟨t, q, h1, rfl, h3, KL, C, b1, b2, b3, b4, b5, b6, b7, b8⟩
  · refine ⟨_, A, J', h2, fun _ _ => rfl, fun _ _ => rfl, Or.inl ⟨?_, pz_neg1 h1 _ _ _ _ _ _⟩⟩
    unfold lawOf
    split <;> rfl
  · have hlo : lawOf q (nI law) = if law = 0 then q.1 else q.2.1 := by
      have : law = 0 ∨ law = 1 := by omega
      rcases this with rfl | rfl <;> rfl
    have hL : LwM law KL C (lawOf q (nI law)) := by
      rw [hlo]
      have : law = 0 ∨ law = 1 := by omega
      rcases this with rfl | rfl
      · exact b3
      · exact b4
    have hms : ∀ z : (Int32 × PI × PJ) ⊕ Unit, m_says_l3 A J' (nI t) (nI law) lo hi fu 0 = some z → m_says A J' (nI t) (nI law) w lo hi = Sum.elim some (fun _ => some (w, A, J')) z := fun z hz => by
      unfold m_says
      rw [hz]
      rfl
    cases hq : lawOf q (nI law) with
    | none =>
      rw [hq] at hL
      refine ⟨q, A, J', h3, fun _ _ => rfl, fun _ _ => rfl, Or.inl ⟨hq, ?_⟩⟩
      have h0 := pm_says_no (J := J') (lo := lo) (hi := hi) h1 hl b1 b6 b7 hL KL.length 0 fu (Nat.zero_add _) (fu_gt (by omega))
      rw [show nI 0 = (0 : Int32) from rfl] at h0
      rw [hms _ h0]
      rfl
    | some F =>
      rw [hq] at hL
      obtain ⟨A1, a, e, B1, rfl, c2, c3, c4, c5⟩ := hL
      obtain ⟨z, z1, z2, z3, z4⟩ := held_cut hlh (F v)
      obtain ⟨B', K', d1, d2, d3⟩ := pm_says_yes (J := J') (lo := lo) (hi := hi) h1 hl b1 b6 b7 c2 b2 b8 c3 c4 c5 hn hkn z2
      have hlen : A1.length ≤ 24 := by
        rw [List.length_append] at b7
        omega
      refine ⟨q, B', K', h3, d2, d3, Or.inr ⟨F, z, hq, z1, z3, z4, ?_⟩⟩
      have h0 := d1 A1.length 0 fu (Nat.zero_add _) (fu_gt (by omega))
      rw [show nI 0 = (0 : Int32) from rfl] at h0
      rw [hms _ h0]
      rfl
end SZ

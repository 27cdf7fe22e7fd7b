/-! a law's saying: both sides over a row -/
/-- a row of the reference: the year, people -/
def RM (r : Nat → Nat) (nF nP : Nat) (a : Nat → Int32) : Prop := a 0 = nI nF ∧ a 1 = nI nP ∧ a 8 = nI (r 0) ∧ (∀ p, p < nP → a (11 + 5 * p + 0) = nI (r (2 + p)) ∧ a (11 + 5 * p + 1) = nI (r (8 + p)) ∧ a (11 + 5 * p + 2) = nI (r (14 + p)))
/-- a text's place of the class and its number with the reference -/
def TxR (X : TS) (tx : Nat → Int32) (y : Nat) (T : Int32) : Prop := (T < 0 ∧ X y = some (none, none, [])) ∨ ∃ t q, t < 4 ∧ T = nI t ∧ X y = some q ∧ TxM q tx t
def nmV (s : SN) (r : Nat → Nat) (p f : Nat) (v : Nat → Int32) : Prop := v 0 = nI (r 0) ∧ v 1 = nI f ∧ v 2 = nI (s 4 f) ∧ v 3 = nI (s 5 f) ∧ v 4 = nI (r (2 + p)) ∧ v 5 = nI p ∧ v 6 = nI (pop (r (8 + p))) ∧ v 7 = nI (r (14 + p)) ∧ ∀ q, q < 8 → v (8 + q) = nI (pop (kb r q 6))
section SY
variable {s : SN} {r : Nat → Nat} {I : PI} {X : TS} {I' : PI} {J' : PJ}
theorem px_nameL {k2 : Nat} (h2 : k2 ≠ 116) (hr : ∀ p, p < 6 → I k2 (8 + p) = nI (r (8 + p)) ∧ r (8 + p) < 256) : ∀ (m q f : Nat) (A : PI), q + m = 8 → m < f → (∀ k, k ≠ 116 → A k = I k) → (∀ j, j < q → A 116 (8 + j) = nI (pop (kb r j 6))) → ∃ B, x_says_l99 k2 f (nI q) A = some B ∧ (∀ k, k ≠ 116 → B k = I k) ∧ (∀ j, j < 8 → B 116 j = A 116 j) ∧ ∀ j, j < 8 → B 116 (8 + j) = nI (pop (kb r j 6)) := by
  intro m
  induction m with
  | zero =>
    intro q f A hq hf hA hj
    obtain ⟨f, rfl⟩ : ∃ z, f = z + 1 := ⟨f - 1, by omega⟩
    have e : q = 8 := by omega
    subst e
    refine ⟨A, ?_, hA, fun _ _ => rfl, hj⟩
    show x_says_b99 k2 (x_says_l99 k2 f) (nI 8) A = _
    unfold x_says_b99
    rw [if_pos (by decide)]
  | succ m ih =>
    intro q f A hq hf hA hj
    obtain ⟨f, rfl⟩ : ∃ z, f = z + 1 := ⟨f - 1, by omega⟩
    have hkb := px_knownBy (I := A) (k0 := k2) (f := q) (r := r) (fun p hp => by rw [hA k2 h2]; exact hr p hp) (by omega)
    have hlt := kb_lt r q 6
    obtain ⟨B, b1, b2, b3, b4⟩ := ih (q + 1) f (u2 A 116 (8 + q) (nI (pop (kb r q 6)))) (by omega) (by omega) (fun k hk => (u2_row _ _ _ _ hk).trans (hA k hk)) (fun j hj' => by
      by_cases c : j = q
      · subst c
        exact pz_at _ _ rfl rfl
      · exact (pz_no _ _ (Or.inr (by omega))).trans (hj j (by omega)))
    refine ⟨B, ?_, b2, fun j hj' => (b3 j hj').trans (pz_no _ _ (Or.inr (by omega))), b4⟩
    show x_says_b99 k2 (x_says_l99 k2 f) (nI q) A = _
    unfold x_says_b99
    rw [if_neg (show ¬ (8 : Int32) ≤ nI q from fun z => absurd ((nI_leI (a := 8) (by omega) (by omega)).mp z) (by omega)), hkb, pz_bs, px_bitCount _ (by omega), pz_bs, show (8 : Int32) = nI 8 from rfl, show (1 : Int32) = nI 1 from rfl, pz_add, pz_inb (by omega) (by omega), pz_ck, pz_ix (by omega), pz_lt, pz_add, pz_lt]
    exact b1
/-- the class: its names, then the law -/
theorem px_says {k2 p f : Nat} (h2 : k2 = 3 ∨ k2 = 121) (hp : p < 6) (hf : f < 8) (hr : ∀ j, j < 141 → I k2 j = nI (r j)) (hr8 : ∀ p, p < 6 → r (8 + p) < 256) (h4 : I 4 f = nI (s 4 f)) (h5 : I 5 f = nI (s 5 f)) (y : Nat) (law : Nat) (hl : law < 2) : ∃ B, (∀ k, k ≠ 116 → B k = I k) ∧ nmV s r p f (B 116) ∧ x_says I X y k2 (nI p) (nI f) (nI law) = (X y).bind fun q17 => optc (lawOf q17 (nI law)) (if law = 0 then (x_held (Int32.toInt64 (nI (r (2 + p)) / nI 20)) (nI 0) (10 : Int32)).bind fun v22 => some (v22, B) else (x_held 1 (-99) 99).bind fun v21 => some (v21, B)) (fun F19 => if law = 0 then (x_held (F19 (B 116)) (nI 0) (10 : Int32)).bind fun v => some (v, B) else (x_held (F19 (B 116)) (-99) 99).bind fun v => some (v, B)) := by
  have hk2 : k2 ≠ 116 := by omega
  obtain ⟨B, b1, b2, b3, b4⟩ := px_nameL (I := I) hk2 (fun p hp => ⟨hr _ (by omega), hr8 p hp⟩) 8 0 fu (u2 (u2 (u2 (u2 (u2 (u2 (u2 (u2 I 116 0 (nI (r 0))) 116 1 (nI f)) 116 2 (nI (s 4 f))) 116 3 (nI (s 5 f))) 116 4 (nI (r (2 + p)))) 116 5 (nI p)) 116 6 (nI (pop (r (8 + p))))) 116 7 (nI (r (14 + p)))) rfl (fu_gt (by omega)) (fun k hk => by simp only [u2_row _ _ _ _ hk]) (fun j hj => absurd hj (Nat.not_lt_zero _))
  refine ⟨B, b2, ⟨?_, ?_, ?_, ?_, ?_, ?_, ?_, ?_, b4⟩, ?_⟩
  · rw [b3 0 (by omega)]; simp (disch := omega) only [pz_row, pz_at, pz_no]
  · rw [b3 1 (by omega)]; simp (disch := omega) only [pz_row, pz_at, pz_no]
  · rw [b3 2 (by omega)]; simp (disch := omega) only [pz_row, pz_at, pz_no]
  · rw [b3 3 (by omega)]; simp (disch := omega) only [pz_row, pz_at, pz_no]
  · rw [b3 4 (by omega)]; simp (disch := omega) only [pz_row, pz_at, pz_no]
  · rw [b3 5 (by omega)]; simp (disch := omega) only [pz_row, pz_at, pz_no]
  · rw [b3 6 (by omega)]; simp (disch := omega) only [pz_row, pz_at, pz_no]
  · rw [b3 7 (by omega)]; simp (disch := omega) only [pz_row, pz_at, pz_no]
  · unfold x_says
    have row : ∀ (A : PI) (i : Nat) (w : Int32) (k : Nat), k ≠ 116 → u2 A 116 i w k = A k := fun A i w k hk => u2_row _ _ _ _ hk
    have bc := px_bitCount (r (8 + p)) (hr8 p hp)
    rw [show ix (0 : Int32) = 0 from rfl, show ix (1 : Int32) = 1 from rfl, show ix (2 : Int32) = 2 from rfl, show ix (3 : Int32) = 3 from rfl, show ix (4 : Int32) = 4 from rfl, show ix (5 : Int32) = 5 from rfl, show ix (6 : Int32) = 6 from rfl, show ix (7 : Int32) = 7 from rfl]
    rw [pz_lt, pz_lt, pz_inb hf (by omega), pz_ck, pz_ix (by omega), pz_lt, pz_ck, pz_lt, show (2 : Int32) = nI 2 from rfl, show (8 : Int32) = nI 8 from rfl, show (14 : Int32) = nI 14 from rfl, pz_add, pz_add, pz_add, pz_inb (show 2 + p < 141 by omega) (by omega), pz_ck, pz_ix (show 2 + p < 2 ^ 31 by omega), pz_lt, pz_lt, pz_inb (show 8 + p < 141 by omega) (by omega), pz_ck, pz_ix (show 8 + p < 2 ^ 31 by omega)]
    simp only [row _ _ _ _ hk2, row _ _ _ 4 (by decide), row _ _ _ 5 (by decide), h4, h5, hr 0 (by omega), hr (2 + p) (by omega), hr (8 + p) (by omega), bc, pz_bs, pz_lt, pz_inb (show 14 + p < 141 by omega) (show 141 < 2 ^ 31 by omega), pz_ck, pz_ix (show 14 + p < 2 ^ 31 by omega), hr (14 + p) (by omega)]
    rw [show (0 : Int32) = nI 0 from rfl, b1, pz_bs, pz_inb hl (by omega)]
    have e4 : B 116 4 = nI (r (2 + p)) := by rw [b3 4 (by omega)]; simp (disch := omega) only [pz_row, pz_at, pz_no]
    have : law = 0 ∨ law = 1 := by omega
    rcases this with rfl | rfl
    · rw [show (20 : Int32) = nI 20 from rfl]
      simp only [pz_ck, e4, pz_lt, ite_true]
    · simp only [pz_ck, pz_lt, show (nI 1 = nI 0) = False from eq_false (by decide), ite_false, Nat.one_ne_zero]
end SY

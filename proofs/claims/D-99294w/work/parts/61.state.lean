/-! pure side: the state as natural numbers; the class's planes and the reference's hold it -/
abbrev SN : Type := Nat → Nat → Nat
/-- a row: year, draw, ages, forms, breath, book (nF forms, nP people) -/
def VRow (r : Nat → Nat) (nF nP : Nat) : Prop := r 0 ≤ 9999 ∧ r 1 < 30703 ∧ r 20 ≤ 30 ∧ (∀ p, p < nP → r (2 + p) ≤ 99 ∧ r (8 + p) < 2 ^ nF ∧ r (14 + p) ≤ 99) ∧ (∀ p, nP ≤ p → p < 6 → r (2 + p) = 0 ∧ r (8 + p) = 0 ∧ r (14 + p) = 20) ∧ (∀ i, i < r 20 → r (21 + 4 * i) ≤ 9999 ∧ r (21 + 4 * i + 1) < 6 ∧ r (21 + 4 * i + 2) < 4 ∧ r (21 + 4 * i + 3) ≤ 99)
def VNum (n : Nat → Nat) : Prop := n 0 ≤ 8 ∧ n 1 ≤ 6 ∧ n 2 ≤ 4 ∧ n 3 ≤ 4 ∧ n 4 ≤ n 3 ∧ n 5 ≤ 30 ∧ n 6 ≤ 8 ∧ n 7 ≤ 8
def VSt (s : SN) : Prop := VNum (s 2) ∧ VRow (s 3) (s 2 0) (s 2 1) ∧ (∀ f, f < s 2 0 → s 4 f ≤ 4 ∧ 1 ≤ s 5 f ∧ s 5 f ≤ 9) ∧ (∀ i, i < s 2 2 → s 6 i < 120) ∧ (∀ i, i < s 2 6 → s (11 + i) 0 < 5 ∧ s (11 + i) 1 < 5 ∧ s (11 + i) 2 < 5) ∧ (∀ i, i < s 2 7 → s (19 + i) 0 < s 2 1 ∧ s (19 + i) 1 ≤ 10) ∧ (∀ k, k < s 2 5 → VRow (s (27 + k)) (s 2 0) (s 2 1))
/-- the class's planes hold it -/
def xrel (k : Nat) : Prop := (2 ≤ k ∧ k < 7) ∨ (11 ≤ k ∧ k < 57)
def XR (s : SN) (I : PI) : Prop := (∀ k j, ((2 ≤ k ∧ k < 7) ∨ (11 ≤ k ∧ k < 57)) → ¬ (k = 2 ∧ j = 4) → I k j = nI (s k j)) ∧ I 2 4 = nI (s 2 4) - nI 1
/-- the reference's row holds it -/
def MNum (s : SN) (a : Nat → Int32) : Prop := a 0 = nI (s 2 0) ∧ a 1 = nI (s 2 1) ∧ a 2 = nI (s 2 2) ∧ a 3 = nI (s 2 3) ∧ a 4 = nI (s 2 4) - nI 1 ∧ a 5 = nI (s 2 5) ∧ a 6 = nI (s 2 6) ∧ a 7 = nI (s 2 7) ∧ a 8 = nI (s 3 0) ∧ a 9 = nI (s 3 1) ∧ a 10 = nI (s 3 20)
def MPeo (s : SN) (a : Nat → Int32) : Prop := ∀ p, p < s 2 1 → a (11 + 5 * p + 0) = nI (s 3 (2 + p)) ∧ a (11 + 5 * p + 1) = nI (s 3 (8 + p)) ∧ a (11 + 5 * p + 2) = nI (s 3 (14 + p))
def MFor (s : SN) (a : Nat → Int32) : Prop := ∀ f, f < 8 → a (41 + 2 * f) = nI (s 4 f) ∧ a (41 + 2 * f + 1) = nI (s 5 f)
def MSto (s : SN) (a : Nat → Int32) : Prop := ∀ i, i < s 2 2 → a (57 + i) = nI (s 6 i)
def MSai (s : SN) (a : Nat → Int32) : Prop := ∀ i j, i < s 2 6 → j < 3 → a (61 + 3 * i + j) = nI (s (11 + i) j)
def MSee (s : SN) (a : Nat → Int32) : Prop := ∀ i j, i < s 2 7 → j < 2 → a (85 + 2 * i + j) = nI (s (19 + i) j)
def page (r : Nat → Nat) (i : Nat) : Nat := ((r (21 + 4 * i) * 6 + r (21 + 4 * i + 1)) * 4 + r (21 + 4 * i + 2)) * 100 + r (21 + 4 * i + 3)
def MBoo (s : SN) (a : Nat → Int32) : Prop := ∀ i, i < s 3 20 → a (1661 + i) = nI (page (s 3) i)
/-- a step, by as many people as were told then -/
def MStp (r : Nat → Nat) (nP : Nat) (a : Nat → Int32) (x c : Nat) : Prop := c ≤ nP ∧ a x = nI c ∧ a (x + 1) = nI (r 0) ∧ a (x + 2) = nI (r 1) ∧ a (x + 3) = nI (r 20) ∧ (∀ p, p < c → a (x + 4 + 3 * p) = nI (r (2 + p)) ∧ a (x + 4 + 3 * p + 1) = nI (r (8 + p)) ∧ a (x + 4 + 3 * p + 2) = nI (r (14 + p))) ∧ (∀ p, c ≤ p → p < nP → a (11 + 5 * p + 3) = nI (r (2 + p)) ∧ a (11 + 5 * p + 4) = nI (r (8 + p)) ∧ r (14 + p) = 20) ∧ (∀ i, i < r 20 → a (x + 22 + i) = nI (page r i))
def MSte (s : SN) (a : Nat → Int32) : Prop := ∀ k, k < s 2 5 → ∃ c, MStp (s (27 + k)) (s 2 1) a (101 + 52 * k) c
def MR (s : SN) (a : Nat → Int32) : Prop := MNum s a ∧ MPeo s a ∧ MFor s a ∧ MSto s a ∧ MSai s a ∧ MSee s a ∧ MBoo s a ∧ MSte s a

/-! the start, 1: the class's orders laid -/
def cS (d : Nat) : Nat := [120, 24, 6, 2, 1, 1].getD d 1
def remS (p : Nat) : Nat → Nat
  | 0 => 31
  | d + 1 => remS p d &&& (31 ^^^ 2 ^ ordT p d)
theorem lo_chk : ∀ p, p < 120 → ∀ d, d < 5 → x_nthOf (nI (remS p d)) (nI (p % cS d) / nI (cS (d + 1))) = some (nI (ordT p d)) ∧ (nI (remS p d) &&& ((nI 1 <<< (nI (ordT p d) &&& nI 31)) ^^^ -nI 1)) = nI (remS p (d + 1)) ∧ (nI (p % cS d) - nI (p % cS d) / nI (cS (d + 1)) * nI (cS (d + 1))) = nI (p % cS (d + 1)) := by decide +kernel
theorem cS_chk : ∀ d, d < 5 → nI (cS d) / (nI 5 - nI d) = nI (cS (d + 1)) ∧ nzi (nI 5 - nI d) = true ∧ nzi (nI (cS (d + 1))) = true := by decide +kernel

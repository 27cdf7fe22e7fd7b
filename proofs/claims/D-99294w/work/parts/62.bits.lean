/-! pure side: sets of forms as bits -/
def pop (a : Nat) : Nat := (List.range 8).foldl (fun n k => n + a / 2 ^ k % 2) 0
theorem px_has : ∀ a, a < 256 → ∀ f, f < 8 → x_has (nI a) (nI f) = some (bI (a.testBit f)) := by decide +kernel
theorem pm_has : ∀ a, a < 256 → ∀ f, f < 8 → m_has (nI a) (nI f) = some (bI (a.testBit f)) := by decide +kernel
theorem px_bitCount : ∀ a, a < 256 → J2_bitCount (nI a) = some (nI (pop a)) := by decide +kernel
theorem pm_bits : ∀ a, a < 256 → m_bits (nI a) = some (nI (pop a)) := by decide +kernel
theorem pop_le : ∀ a, a < 256 → pop a ≤ 8 := by decide +kernel
/-- one form less, one more -/
def clr (a f : Nat) : Nat := a &&& (255 ^^^ 2 ^ f)
def put1 (a f : Nat) : Nat := a ||| 2 ^ f
theorem pz_clr : ∀ a, a < 256 → ∀ f, f < 8 → nI a &&& ((nI 1 <<< (nI f &&& nI 31)) ^^^ -nI 1) = nI (clr a f) := by decide +kernel
theorem pz_put : ∀ a, a < 256 → ∀ f, f < 8 → nI a ||| (nI 1 <<< (nI f &&& nI 31)) = nI (put1 a f) := by decide +kernel
theorem clr_lt : ∀ n, n < 9 → ∀ a, a < 2 ^ n → ∀ f, f < 8 → clr a f < 2 ^ n := by decide +kernel
theorem put_lt : ∀ n, n < 9 → ∀ a, a < 2 ^ n → ∀ f, f < n → put1 a f < 2 ^ n := by decide +kernel
theorem pz_shl : ∀ f, f < 31 → nI 1 <<< (nI f &&& nI 31) = nI (2 ^ f) := by decide +kernel
theorem pz_and (a b : Nat) : nI a &&& nI b = nI (a &&& b) := by
  unfold nI
  apply Int32.toBitVec_inj.mp
  simp
theorem pz_or (a b : Nat) : nI a ||| nI b = nI (a ||| b) := by
  unfold nI
  apply Int32.toBitVec_inj.mp
  simp
theorem pow8 : ∀ n, n ≤ 8 → 2 ^ n ≤ 256 := by decide

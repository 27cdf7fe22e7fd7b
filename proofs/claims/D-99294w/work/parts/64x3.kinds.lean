/-! the lexer in numbers: kinds of bytes -/
def isDg (b : Nat) : Bool := decide (48 ≤ b ∧ b ≤ 57)
def isLt (b : Nat) : Bool := decide ((97 ≤ b ∧ b ≤ 122) ∨ (65 ≤ b ∧ b ≤ 90))
theorem t_dg : ∀ b, b < 256 → t_isDigit (byX b) = some (bI (isDg b)) := by decide +kernel
theorem m_dg : ∀ b, b < 256 → m_isFigure (nI b) = some (bI (isDg b)) := by decide +kernel
theorem t_lt : ∀ b, b < 256 → t_isLetter (byX b) = some (bI (isLt b)) := by decide +kernel
theorem m_lt : ∀ b, b < 256 → m_isLetterByte (nI b) = some (bI (isLt b)) := by decide +kernel

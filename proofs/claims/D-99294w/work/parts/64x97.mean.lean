/-! what items mean; what lists of a chain cost -/
def clM (v : Int64) : Int64 := if v ≤ 1000000 then (if -1000000 ≤ v then v else -1000000) else 1000000
def twL (o : Nat) (x y : Int64) : Int64 := if o = 6 then clM (x + y) else if o = 7 then clM (x - y) else if o = 8 then clM (x * y) else if y = 0 then 0 else clM (x / y)
def isA (o : Nat) (x y : Int64) : Bool := if o = 10 then decide (x < y) else if o = 11 then decide (x ≤ y) else if o = 12 then decide (y < x) else if o = 13 then decide (y ≤ x) else if o = 14 then decide (x = y) else !decide (x = y)
def unL (v : Nat → Int32) (o : Nat) (x : Int64) : Int64 := if o = 5 then -x else if o = 4 then halfL x else knownL v x
abbrev Stk : Type := List Int64 × List Bool
def skv2 {α : Type} (f : Int64 → Int64 → List Int64 → Option α) : List Int64 → Option α
  | y :: x :: vs => f x y vs
  | _ => none
def skv1 {α : Type} (f : Int64 → List Int64 → Option α) : List Int64 → Option α
  | x :: vs => f x vs
  | _ => none
def sb1 {α : Type} (f : Bool → List Bool → Option α) : List Bool → Option α
  | x :: vs => f x vs
  | _ => none
def sb2 {α : Type} (f : Bool → Bool → List Bool → Option α) : List Bool → Option α
  | y :: x :: vs => f x y vs
  | _ => none
def stI (v : Nat → Int32) (p : Nat × Nat) (z : Stk) : Option Stk :=
  if p.1 = 0 then some ((nI p.2).toInt64 :: z.1, z.2) else
  if p.1 = 1 then some ((v p.2).toInt64 :: z.1, z.2) else
  if p.1 = 3 then skv2 (fun x y vs => sb1 (fun c ts => some ((if c = true then x else y) :: vs, ts)) z.2) z.1 else
  if p.1 ≤ 5 then skv1 (fun x vs => some (unL v p.1 x :: vs, z.2)) z.1 else
  if p.1 < 10 then skv2 (fun x y vs => some (twL p.1 x y :: vs, z.2)) z.1 else
  if p.1 < 20 then skv2 (fun x y vs => some (vs, isA p.1 x y :: z.2)) z.1 else
  if p.1 = 20 then sb1 (fun c ts => some (z.1, (!c) :: ts)) z.2 else
  sb2 (fun c d ts => some (z.1, (if p.1 = 21 then c && d else c || d) :: ts)) z.2
def rnI (v : Nat → Int32) : List (Nat × Nat) → Stk → Option Stk
  | [], z => some z
  | p :: C, z => (stI v p z).bind (rnI v C)
theorem rnI_app (v : Nat → Int32) : ∀ (A B : List (Nat × Nat)) (z : Stk), rnI v (A ++ B) z = (rnI v A z).bind (rnI v B)
  | [], _, _ => rfl
  | p :: A, B, z => by
    show (stI v p z).bind (rnI v (A ++ B)) = ((stI v p z).bind (rnI v A)).bind (rnI v B)
    cases stI v p z with
    | none => rfl
    | some y => exact rnI_app v A B y
def ItV (C : List (Nat × Nat)) : Prop := ∀ p ∈ C, p.1 < 23 ∧ p.2 < 10000 ∧ (p.1 = 1 → p.2 < 8)
/-- items that leave a sum's value, an asking's truth -/
def MnS (C : List (Nat × Nat)) (S : Sem) : Prop := ItV C ∧ (∀ v vs ts, rnI v C (vs, ts) = some (S v :: vs, ts)) ∧ ∀ v, -2147483648 ≤ (S v).toInt ∧ (S v).toInt ≤ 2147483648
def MnA (C : List (Nat × Nat)) (S : Sem) : Prop := ItV C ∧ (∀ v vs ts, rnI v C (vs, ts) = some (vs, decide (S v = 1) :: ts)) ∧ ∀ v, S v = 0 ∨ S v = 1
theorem ItV.app {A B : List (Nat × Nat)} (h : ItV A) (g : ItV B) : ItV (A ++ B) := fun p hp => (List.mem_append.mp hp).elim (h p) (g p)
theorem ItV.one {o v : Nat} (h : o < 23 ∧ v < 10000 ∧ (o = 1 → v < 8)) : ItV [(o, v)] := fun p hp => by
  rw [List.mem_singleton] at hp
  subst hp
  exact h
/-! the numbers -/
theorem i64_le (a b : Int64) : a ≤ b ↔ a.toInt ≤ b.toInt := Int64.le_iff_toInt_le
theorem clM_in (x : Int64) : -1000000 ≤ (clM x).toInt ∧ (clM x).toInt ≤ 1000000 := by
  unfold clM
  by_cases c : x ≤ 1000000
  · rw [if_pos c]
    by_cases d : -1000000 ≤ x
    · rw [if_pos d]
      exact ⟨(i64_le _ _).mp d, (i64_le _ _).mp c⟩
    · rw [if_neg d]
      decide
  · rw [if_neg c]
    decide
theorem clipL_M (x : Int64) : clipL x = clM x := by
  unfold clipL clM
  have e1 : (1000000 : Int64).toInt = 1000000 := by decide
  have e2 : (-1000000 : Int64).toInt = -1000000 := by decide
  by_cases c : x < 1000000
  · rw [if_pos c, if_pos (Int64.le_of_lt c)]
    rw [Int64.lt_iff_toInt_lt, e1] at c
    by_cases d : x < -1000000
    · rw [if_pos d, if_neg]
      intro q
      rw [Int64.lt_iff_toInt_lt] at d
      rw [i64_le] at q
      omega
    · rw [if_neg d, if_pos]
      rw [Int64.lt_iff_toInt_lt] at d
      rw [i64_le]
      omega
  · rw [if_neg c, if_neg (show ¬ (1000000 : Int64) < -1000000 by decide)]
    by_cases d : x ≤ 1000000
    · rw [if_pos d, if_pos]
      · rw [Int64.lt_iff_toInt_lt, e1] at c
        rw [i64_le, e1] at d
        exact Int64.toInt_inj.mp (by rw [e1]; omega)
      · rw [Int64.lt_iff_toInt_lt, e1] at c
        rw [i64_le, e2]
        omega
    · rw [if_neg d]
/-- the sign of a chain and the reference's code -/
theorem chainS_tw (x y : Int64) : chainS 43 x y = twL 6 x y ∧ chainS 45 x y = twL 7 x y ∧ chainS 42 x y = twL 8 x y ∧ chainS 47 x y = twL 9 x y := by
  unfold chainS twL
  refine ⟨?_, ?_, ?_, ?_⟩
  · rw [if_pos rfl, if_pos rfl, clipL_M]
  · rw [if_neg (by decide), if_pos rfl, if_neg (by decide), if_pos rfl, clipL_M]
  · rw [if_neg (by decide), if_neg (by decide), if_pos rfl, if_neg (by decide), if_neg (by decide), if_pos rfl, clipL_M]
  · rw [clipL_M]
    show clM (if y = 0 then 0 else x / y) = if y = 0 then 0 else clM (x / y)
    by_cases c : y = 0
    · rw [if_pos c, if_pos c]
      rfl
    · rw [if_neg c, if_neg c]
theorem twL_in (o : Nat) (x y : Int64) : -1000000 ≤ (twL o x y).toInt ∧ (twL o x y).toInt ≤ 1000000 := by
  unfold twL
  split
  · exact clM_in _
  · split
    · exact clM_in _
    · split
      · exact clM_in _
      · split
        · decide
        · exact clM_in _
theorem i32_64 (x : Int32) : (x.toInt64).toInt = x.toInt := Int32.toInt_toInt64 x
theorem i32_in (x : Int32) : -2147483648 ≤ (x.toInt64).toInt ∧ (x.toInt64).toInt ≤ 2147483648 := by
  rw [i32_64]
  have h1 := Int32.minValue_le_toInt x
  have h2 := Int32.toInt_le x
  have e1 : Int32.minValue.toInt = -2147483648 := by decide
  have e2 : Int32.maxValue.toInt = 2147483647 := by decide
  omega
theorem sub_toInt {x y : Int64} (hx : -2147483648 ≤ x.toInt ∧ x.toInt ≤ 2147483648) (hy : -2147483648 ≤ y.toInt ∧ y.toInt ≤ 2147483648) : (x - y).toInt = x.toInt - y.toInt := by
  rw [Int64.toInt_sub, Int.bmod_eq_of_le] <;> omega
theorem neg_in {x : Int64} (hx : -2147483648 ≤ x.toInt ∧ x.toInt ≤ 2147483648) : -2147483648 ≤ (-x).toInt ∧ (-x).toInt ≤ 2147483648 := by
  rw [Int64.toInt_neg, Int.bmod_eq_of_le] <;> omega
theorem half_in {x : Int64} (hx : -2147483648 ≤ x.toInt ∧ x.toInt ≤ 2147483648) : -2147483648 ≤ (halfL x).toInt ∧ (halfL x).toInt ≤ 2147483648 := by
  have e0 : (0 : Int64).toInt = 0 := by decide
  have e1 : (1 : Int64).toInt = 1 := by decide
  have e2 : (2 : Int64).toInt = 2 := by decide
  unfold halfL
  by_cases c : x < 0
  · rw [if_pos c, Int64.toInt_div_of_ne_right _ _ (by decide), sub_toInt hx (by rw [e1]; omega), e1, e2]
    rw [Int64.lt_iff_toInt_lt, e0] at c
    have e3 : (x.toInt - 1).tdiv 2 = -((1 - x.toInt) / 2) := by
      rw [show x.toInt - 1 = -(1 - x.toInt) by omega, Int.neg_tdiv, Int.tdiv_eq_ediv_of_nonneg (by omega)]
    omega
  · rw [Int64.lt_iff_toInt_lt, e0] at c
    have a1 : (x + 1).toInt = x.toInt + 1 := by
      rw [Int64.toInt_add, e1, Int.bmod_eq_of_le] <;> omega
    rw [if_neg (fun q => c (by rw [Int64.lt_iff_toInt_lt, e0] at q; exact q)), Int64.toInt_div_of_ne_right _ _ (by decide), a1, e2, Int.tdiv_eq_ediv_of_nonneg (by omega)]
    omega
theorem known_in (v : Nat → Int32) (x : Int64) : -2147483648 ≤ (knownL v x).toInt ∧ (knownL v x).toInt ≤ 2147483648 := by
  unfold knownL
  split
  · decide
  · split
    · decide
    · exact i32_in _
theorem unL_in {v : Nat → Int32} {o : Nat} {x : Int64} (hx : -2147483648 ≤ x.toInt ∧ x.toInt ≤ 2147483648) : -2147483648 ≤ (unL v o x).toInt ∧ (unL v o x).toInt ≤ 2147483648 := by
  unfold unL
  split
  · exact neg_in hx
  · split
    · exact half_in hx
    · exact known_in v x
/-- comparing: the class's way by a difference -/
theorem cmp_isA {x y : Int64} (hx : -2147483648 ≤ x.toInt ∧ x.toInt ≤ 2147483648) (hy : -2147483648 ≤ y.toInt ∧ y.toInt ≤ 2147483648) : ∀ s, cmN s ≠ 99 → cmpV (nI s) x y = b2l (isA (cmN s) x y) := by
  intro s hs
  have d := sub_toInt hx hy
  have e0 : (0 : Int64).toInt = 0 := by decide
  have l1 : decide (x - y < 0) = decide (x < y) := decide_eq_decide.mpr (by rw [Int64.lt_iff_toInt_lt, Int64.lt_iff_toInt_lt, d, e0]; omega)
  have l2 : decide (0 < x - y) = decide (y < x) := decide_eq_decide.mpr (by rw [Int64.lt_iff_toInt_lt, Int64.lt_iff_toInt_lt, d, e0]; omega)
  have l3 : decide (x - y = 0) = decide (x = y) := decide_eq_decide.mpr (by rw [← Int64.toInt_inj, ← Int64.toInt_inj, d, e0]; omega)
  have l4 : decide (x - y ≤ 0) = decide (x ≤ y) := decide_eq_decide.mpr (by rw [i64_le, i64_le, d, e0]; omega)
  have l5 : decide (0 ≤ x - y) = decide (y ≤ x) := decide_eq_decide.mpr (by rw [i64_le, i64_le, d, e0]; omega)
  have hs6 : s = 60 ∨ s = 303 ∨ s = 62 ∨ s = 304 ∨ s = 61 ∨ s = 35 := by
    unfold cmN at hs
    by_cases c1 : s = 60
    · omega
    by_cases c2 : s = 303
    · omega
    by_cases c3 : s = 62
    · omega
    by_cases c4 : s = 304
    · omega
    by_cases c5 : s = 61
    · omega
    by_cases c6 : s = 35
    · omega
    rw [if_neg c1, if_neg c2, if_neg c3, if_neg c4, if_neg c5, if_neg c6] at hs
    exact absurd rfl hs
  rcases hs6 with rfl | rfl | rfl | rfl | rfl | rfl
  · show b2l (decide (x - y < 0)) = b2l (decide (x < y))
    rw [l1]
  · show b2l (decide (x - y ≤ 0)) = b2l (decide (x ≤ y))
    rw [l4]
  · show b2l (decide (0 < x - y)) = b2l (decide (y < x))
    rw [l2]
  · show b2l (decide (0 ≤ x - y)) = b2l (decide (y ≤ x))
    rw [l5]
  · show b2l (decide (x - y = 0)) = b2l (decide (x = y))
    rw [l3]
  · show b2l (!decide (x - y = 0)) = b2l (!decide (x = y))
    rw [l3]
/-! lists that grow -/
def gsS : Nat → Nat
  | 0 => 0
  | n + 1 => gsS n + growS n
theorem cap_ok : ∀ n, n < capN (n + 1) ∧ n + 1 ≤ capN (n + 1) ∧ 10 ≤ capN (n + 1) ∧ (capN (n + 1) ≤ 10 ∨ 2 * capN (n + 1) ≤ 3 * (n + 1)) ∧ gsS (n + 1) + 20 ≤ 3 * capN (n + 1) + n := by
  intro n
  induction n with
  | zero => decide
  | succ n ih =>
    obtain ⟨h1, h2, h3, h4, h5⟩ := ih
    have e : capN (n + 1 + 1) = if n + 1 < capN (n + 1) then capN (n + 1) else capN (n + 1) + capN (n + 1) / 2 := by
      show (if n + 1 < capN (n + 1) then capN (n + 1) else if n + 1 = 0 then 10 else capN (n + 1) + capN (n + 1) / 2) = _
      rw [if_neg (show ¬ n + 1 = 0 by omega)]
    have g : gsS (n + 1 + 1) = gsS (n + 1) + growS (n + 1) := rfl
    unfold growS at g
    by_cases c : n + 1 < capN (n + 1)
    · rw [if_pos c] at e g
      omega
    · rw [if_neg c] at e g
      omega
theorem gsS_le (n : Nat) : gsS n ≤ 11 * n := by
  cases n with
  | zero => exact Nat.le_refl _
  | succ n =>
    obtain ⟨h1, h2, h3, h4, h5⟩ := cap_ok n
    omega
theorem growC_le (n : Nat) : growC n ≤ 1 := by
  unfold growC
  split <;> omega

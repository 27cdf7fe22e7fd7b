/-! masks of orders; the reference's sayings -/
def bitL (w : Int64) (i : Nat) : Bool := w.toBitVec.getLsbD i
def msk (w : Int64) (f : Nat → Bool) : Prop := ∀ i, i < 64 → bitL w i = (decide (i < 60) && f i)
def sayL : List (Nat × Nat × Nat) := [(0, 0, 1), (0, 0, 2), (0, 0, 3), (0, 0, 4), (0, 1, 2), (0, 1, 3), (0, 1, 4), (0, 2, 3), (0, 2, 4), (0, 3, 4), (1, 0, 1), (1, 1, 2), (1, 2, 3), (1, 3, 4), (2, 0, 0), (3, 4, 4), (4, 0, 1), (4, 1, 2), (4, 2, 3), (4, 3, 4)]
def sayK (k : Nat) : Nat := (sayL.getD k (0, 0, 0)).1
def sayD (k : Nat) : Nat := (sayL.getD k (0, 0, 0)).2.1
def sayE (k : Nat) : Nat := (sayL.getD k (0, 0, 0)).2.2
theorem say_ok : ∀ k, k < 20 → sayK k < 5 ∧ sayD k < 5 ∧ sayE k < 5 ∧ soB (plcT 0) (sayK k) (sayD k) (sayE k) = true := by decide +kernel
/-- what saying k shuts out -/
def outM (k i : Nat) : Bool := !soB (plcT i) (sayK k) (sayD k) (sayE k)
/-- the cost of a kind: the shortest form of it; none: 0 -/
def cstF (s : SN) (forms kind : Nat) : Nat → Nat
  | 0 => 0
  | f + 1 => if forms.testBit f && decide (s 4 f = kind) && (decide (cstF s forms kind f = 0) || decide (s 5 f < cstF s forms kind f)) then s 5 f else cstF s forms kind f
def cst (s : SN) (forms kind : Nat) : Nat := cstF s forms kind (s 2 0)
def codeC (c : Nat → Nat) : Nat := (((c 0 * 10 + c 1) * 10 + c 2) * 10 + c 3) * 10 + c 4
def KB : Nat := 2097152
/-- the least by what the kinds cost: its length, how many -/
def isLeast (c : Nat → Nat) (L M : Nat) : Prop := L ≤ 1000000 ∧ M ≤ 1000000 ∧ cvM 20 (fun k => decide (c (sayK k) ≠ 0)) outM (fun k => KB * c (sayK k) + 1) 0 (fun i => decide (i ≠ 0)) 0 (KB * 1000000 + 1000000) (KB * L + M)

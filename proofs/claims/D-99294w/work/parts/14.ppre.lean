/-! what the printed functions stand on (the same rows as in 11, 12, 13, 17; for rounds of the pure side alone) -/
def cpk (sp dp n : Int32) (n0 n1 : Nat) : Bool := decide (0 ≤ sp) && (decide (0 ≤ dp) && (decide (0 ≤ n) && (decide (ix sp + ix n ≤ n0) && decide (ix dp + ix n ≤ n1))))
def ucf (I : PI) (f : Nat → Int32) (k1 sp dp n : Nat) : PI := fun b => if b = k1 then va_cpy f (I k1) sp dp n else I b
def uc {α : Type} (f : Nat → Nat → α) (k0 k1 sp dp n : Nat) : Nat → Nat → α := fun b => if b = k1 then va_cpy (f k0) (f k1) sp dp n else f b
abbrev TS : Type := Nat → Option (Option ((Nat → Int32) → Int64) × Option ((Nat → Int32) → Int64) × List (Int32 × Int32 × Int32 × Int32 × Int32))
abbrev XCo : Type := Nat → Nat
abbrev Sem : Type := (Nat → Int32) → Int64
def halfL (x : Int64) : Int64 := if x < 0 then (x - 1) / 2 else (x + 1) / 2
def knownL (v : Nat → Int32) (x : Int64) : Int64 := if x < 0 then 0 else if 8 ≤ x then 0 else (v (ix (8 + x.toInt32))).toInt64
def clipL (x : Int64) : Int64 := if (if x < 1000000 then x else 1000000) < -1000000 then -1000000 else if x < 1000000 then x else 1000000
def chainS (s : Int32) (a b : Int64) : Int64 := clipL (if s = 43 then a + b else if s = 45 then a - b else if s = 42 then a * b else if b = 0 then 0 else a / b)
def chainV (ss : Nat → Int32) (bs : Nat → Int64) : Nat → Int64 → Int64
  | 0, a => a
  | n + 1, a => chainS (ss n) (chainV ss bs n a) (bs n)
def b2l (c : Bool) : Int64 := if c then 1 else 0
def cmpV (s : Int32) (a b : Int64) : Int64 := b2l (if s = 60 then decide (a - b < 0) else if s = 62 then decide (0 < a - b) else if s = 61 then decide (a - b = 0) else if s = 35 then !decide (a - b = 0) else if s = 303 then decide (a - b ≤ 0) else decide (0 ≤ a - b))
def cntV (bs : Nat → Int64) : Nat → Nat
  | 0 => 0
  | n + 1 => cntV bs n + (if bs n = 1 then 1 else 0)
def allV (an : Int32) (bs : Nat → Int64) (n : Nat) : Int64 := b2l (if an = 0 then decide (0 < cntV bs n) else decide (cntV bs n = n))
def lawOf (q : Option Sem × Option Sem × List (Int32 × Int32 × Int32 × Int32 × Int32)) (i : Int32) : Option Sem := if i = 0 then q.1 else q.2.1
def optc {α β : Type} (o : Option α) (a : β) (f : α → β) : β := match o with
  | none => a
  | some x => f x
def x_rules (I : PI) (T : PT) (tN : XCo) : Option Nat := if I 2 (ix (4 : Int32)) = (-1 : Int32) then some (tN 0) else ck (inb (I 2 (ix (4 : Int32))) 4) <| (T 10 (ix (I 2 (ix (4 : Int32))))).bind fun a => some a
def xs_copyT (I : PI) (f : Nat → Int32) (n0 k1 n1 : Nat) : Option PI :=
  ck (cpk (0 : Int32) (0 : Int32) (Int32.ofNat n0) n0 n1) <|
  lt_ (ucf I f k1 (ix (0 : Int32)) (ix (0 : Int32)) (ix (Int32.ofNat n0))) fun I1 =>
  some I1

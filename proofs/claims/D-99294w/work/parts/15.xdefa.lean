/-! what methods of the class do, as functions (printed by gen_x.py) -/
set_option maxRecDepth 100000
def J16_bitCount (p0 : Int64) : Option (Int32) :=
  lt_ (p0 - ((UInt64.toInt64 (Int64.toUInt64 p0 >>> (Int64.toUInt64 (Int32.toInt64 (1 : Int32)) &&& Int64.toUInt64 63))) &&& (6148914691236517205 : Int64))) fun w1 =>
  lt_ ((w1 &&& (3689348814741910323 : Int64)) + ((UInt64.toInt64 (Int64.toUInt64 w1 >>> (Int64.toUInt64 (Int32.toInt64 (2 : Int32)) &&& Int64.toUInt64 63))) &&& (3689348814741910323 : Int64))) fun w2 =>
  lt_ ((w2 + (UInt64.toInt64 (Int64.toUInt64 w2 >>> (Int64.toUInt64 (Int32.toInt64 (4 : Int32)) &&& Int64.toUInt64 63)))) &&& (1085102592571150095 : Int64)) fun w3 =>
  lt_ (w3 + (UInt64.toInt64 (Int64.toUInt64 w3 >>> (Int64.toUInt64 (Int32.toInt64 (8 : Int32)) &&& Int64.toUInt64 63)))) fun w4 =>
  lt_ (w4 + (UInt64.toInt64 (Int64.toUInt64 w4 >>> (Int64.toUInt64 (Int32.toInt64 (16 : Int32)) &&& Int64.toUInt64 63)))) fun w5 =>
  lt_ (w5 + (UInt64.toInt64 (Int64.toUInt64 w5 >>> (Int64.toUInt64 (Int32.toInt64 (32 : Int32)) &&& Int64.toUInt64 63)))) fun w6 =>
  some ((Int64.toInt32 w6) &&& (127 : Int32))
def J2_numberOfTrailingZeros_j62 (v6 : Int32) (v7 : Int32) : Option (Int32) :=
  if v6 ≤ (4 : Int32) then (
    some (v7 + (UInt32.toInt32 (Int32.toUInt32 v6 >>> (Int32.toUInt32 (1 : Int32) &&& Int32.toUInt32 31)))))
  else (
    lt_ (v7 + (2 : Int32)) fun v8 =>
    lt_ (UInt32.toInt32 (Int32.toUInt32 v6 >>> (Int32.toUInt32 (2 : Int32) &&& Int32.toUInt32 31))) fun v9 =>
    some (v8 + (UInt32.toInt32 (Int32.toUInt32 v9 >>> (Int32.toUInt32 (1 : Int32) &&& Int32.toUInt32 31)))))
def J2_numberOfTrailingZeros_j49 (v4 : Int32) (v5 : Int32) : Option (Int32) :=
  if v4 ≤ (16 : Int32) then (
    J2_numberOfTrailingZeros_j62 v4 v5)
  else (
    lt_ (v5 + (4 : Int32)) fun v10 =>
    lt_ (UInt32.toInt32 (Int32.toUInt32 v4 >>> (Int32.toUInt32 (4 : Int32) &&& Int32.toUInt32 31))) fun v11 =>
    J2_numberOfTrailingZeros_j62 v11 v10)
def J2_numberOfTrailingZeros_j34 (v2 : Int32) (v3 : Int32) : Option (Int32) :=
  if v2 ≤ (256 : Int32) then (
    J2_numberOfTrailingZeros_j49 v2 v3)
  else (
    lt_ (v3 + (8 : Int32)) fun v12 =>
    lt_ (UInt32.toInt32 (Int32.toUInt32 v2 >>> (Int32.toUInt32 (8 : Int32) &&& Int32.toUInt32 31))) fun v13 =>
    J2_numberOfTrailingZeros_j49 v13 v12)
def J2_numberOfTrailingZeros (p0 : Int32) : Option (Int32) :=
  lt_ ((p0 ^^^ (-1 : Int32)) &&& (p0 - (1 : Int32))) fun v1 =>
  if (0 : Int32) < v1 then (
    if v1 ≤ (65536 : Int32) then (
      J2_numberOfTrailingZeros_j34 v1 (1 : Int32))
    else (
      lt_ ((1 : Int32) + (16 : Int32)) fun v14 =>
      lt_ (UInt32.toInt32 (Int32.toUInt32 v1 >>> (Int32.toUInt32 (16 : Int32) &&& Int32.toUInt32 31))) fun v15 =>
      J2_numberOfTrailingZeros_j34 v15 v14))
  else (
    some (v1 &&& (32 : Int32)))
def J16_numberOfTrailingZeros (p0 : Int64) : Option (Int32) :=
  lt_ (Int64.toInt32 p0) fun v1 =>
  if v1 = (0 : Int32) then (
    (J2_numberOfTrailingZeros (Int64.toInt32 (UInt64.toInt64 (Int64.toUInt64 p0 >>> (Int64.toUInt64 (Int32.toInt64 (32 : Int32)) &&& Int64.toUInt64 63))))).bind <| fun v3 =>
    some ((32 : Int32) + v3))
  else (
    (J2_numberOfTrailingZeros v1).bind <| fun v2 =>
    some v2)
def J2_bitCount (p0 : Int32) : Option (Int32) :=
  lt_ (p0 - ((UInt32.toInt32 (Int32.toUInt32 p0 >>> (Int32.toUInt32 (1 : Int32) &&& Int32.toUInt32 31))) &&& (1431655765 : Int32))) fun v1 =>
  lt_ ((v1 &&& (858993459 : Int32)) + ((UInt32.toInt32 (Int32.toUInt32 v1 >>> (Int32.toUInt32 (2 : Int32) &&& Int32.toUInt32 31))) &&& (858993459 : Int32))) fun v2 =>
  lt_ ((v2 + (UInt32.toInt32 (Int32.toUInt32 v2 >>> (Int32.toUInt32 (4 : Int32) &&& Int32.toUInt32 31)))) &&& (252645135 : Int32)) fun v3 =>
  lt_ (v3 + (UInt32.toInt32 (Int32.toUInt32 v3 >>> (Int32.toUInt32 (8 : Int32) &&& Int32.toUInt32 31)))) fun v4 =>
  lt_ (v4 + (UInt32.toInt32 (Int32.toUInt32 v4 >>> (Int32.toUInt32 (16 : Int32) &&& Int32.toUInt32 31)))) fun v5 =>
  some (v5 &&& (63 : Int32))
def x_nthOf_b4 (p1 : Int32) (self : Int32 → Int32 → Option (Int32)) (v1 : Int32) (v2 : Int32) : Option (Int32) :=
  if p1 ≤ v2 then (
    some v1)
  else (
    lt_ (v1 &&& (v1 - (1 : Int32))) fun v4 =>
    lt_ (v2 + (1 : Int32)) fun v5 =>
    self v4 v5)
def x_nthOf_l4 (p1 : Int32) : Nat → Int32 → Int32 → Option (Int32)
  | 0 => fun _ _ => none
  | k + 1 => x_nthOf_b4 p1 (x_nthOf_l4 p1 k)
def x_nthOf (p0 : Int32) (p1 : Int32) : Option (Int32) :=
  (x_nthOf_l4 p1 fu p0 (0 : Int32)).bind <| fun v3 =>
  (J2_numberOfTrailingZeros v3).bind <| fun v6 =>
  some v6
def x_laysOrder_b12 (p1 : Int32) (self : Int32 → Int32 → Int32 → Int32 → PI → Option (PI)) (v1 : Int32) (v2 : Int32) (v3 : Int32) (v4 : Int32) (I5 : PI) : Option (PI) :=
  if (5 : Int32) ≤ v4 then (
    some I5)
  else (
    ck (nzi ((5 : Int32) - v4)) <|
    lt_ (v3 / ((5 : Int32) - v4)) fun v7 =>
    ck (nzi v7) <|
    (x_nthOf v1 (v2 / v7)).bind <| fun v8 =>
    ck (nzi v7) <|
    lt_ (v2 - v2 / v7 * v7) fun v9 =>
    lt_ (v1 &&& (((1 : Int32) <<< (v8 &&& 31)) ^^^ (-1 : Int32))) fun v10 =>
    ck (inb p1 120) <|
    ck (inb v4 5) <|
    lt_ (u2 I5 (122 + ix p1) (ix v4) v8) fun I11 =>
    ck (inb p1 120) <|
    ck (inb v8 5) <|
    lt_ (u2 I11 (242 + ix p1) (ix v8) v4) fun I12 =>
    lt_ (v4 + (1 : Int32)) fun v13 =>
    self v10 v9 v7 v13 I12)
def x_laysOrder_l12 (p1 : Int32) : Nat → Int32 → Int32 → Int32 → Int32 → PI → Option (PI)
  | 0 => fun _ _ _ _ _ => none
  | k + 1 => x_laysOrder_b12 p1 (x_laysOrder_l12 p1 k)
def x_laysOrder (I : PI) (p1 : Int32) : Option (PI) :=
  (x_laysOrder_l12 p1 fu (31 : Int32) p1 (120 : Int32) (0 : Int32) I).bind <| fun I6 =>
  some I6
def x_in (p0 : Int32) (p1 : Int32) (p2 : Int32) : Option (Int32) :=
  if p0 < p1 then (
    some (0 : Int32))
  else (
    if p2 < p0 then (
      some (0 : Int32))
    else (
      some (1 : Int32)))
def x_form (I : PI) (p1 : Int32) (p2 : Int32) : Option (Int32 × PI) :=
  lt_ (I 2 (ix (0 : Int32))) fun v1 =>
  (x_in p1 (0 : Int32) (4 : Int32)).bind <| fun v2 =>
  if v2 = (0 : Int32) then (
    some ((-1 : Int32), I))
  else (
    (x_in p2 (1 : Int32) (9 : Int32)).bind <| fun v3 =>
    if v3 = (0 : Int32) then (
      some ((-1 : Int32), I))
    else (
      if v1 = (8 : Int32) then (
        some ((-1 : Int32), I))
      else (
        ck (inb v1 8) <|
        lt_ (u2 I 4 (ix v1) p1) fun I4 =>
        ck (inb v1 8) <|
        lt_ (u2 I4 5 (ix v1) p2) fun I5 =>
        lt_ (u2 I5 2 (ix (0 : Int32)) ((I5 2 (ix (0 : Int32))) + (1 : Int32))) fun I6 =>
        some (v1, I6))))
def x_areForms (I : PI) (p1 : Int32) : Option (Int32) :=
  (x_in p1 (0 : Int32) (((1 : Int32) <<< ((I 2 (ix (0 : Int32))) &&& 31)) - (1 : Int32))).bind <| fun v1 =>
  ck (isb v1) <|
  some v1
def xs_tells_b9 (p1 : Int32) (p2 : Int32) (self : Int32 → PI → Option (PI)) (v2 : Int32) (I3 : PI) : Option (PI) :=
  if I3 2 (ix (5 : Int32)) ≤ v2 then (
    some I3)
  else (
    ck (inb v2 30) <|
    ck (inb p1 141) <|
    lt_ (u2 I3 (27 + ix v2) (ix p1) p2) fun I5 =>
    lt_ (v2 + (1 : Int32)) fun v6 =>
    self v6 I5)
def xs_tells_l9 (p1 : Int32) (p2 : Int32) : Nat → Int32 → PI → Option (PI)
  | 0 => fun _ _ => none
  | k + 1 => xs_tells_b9 p1 p2 (xs_tells_l9 p1 p2 k)
def xs_tells (I : PI) (p1 : Int32) (p2 : Int32) : Option (PI) :=
  ck (inb p1 141) <|
  lt_ (u2 I 3 (ix p1) p2) fun I1 =>
  (xs_tells_l9 p1 p2 fu (0 : Int32) I1).bind <| fun I4 =>
  some I4
def x_person (I : PI) (p1 : Int32) (p2 : Int32) : Option (Int32 × PI) :=
  lt_ (I 2 (ix (1 : Int32))) fun v1 =>
  (x_in p1 (0 : Int32) (99 : Int32)).bind <| fun v2 =>
  if v2 = (0 : Int32) then (
    some ((-1 : Int32), I))
  else (
    (x_areForms I p2).bind <| fun v3 =>
    if v3 = (0 : Int32) then (
      some ((-1 : Int32), I))
    else (
      if v1 = (6 : Int32) then (
        some ((-1 : Int32), I))
      else (
        lt_ (u2 I 2 (ix (1 : Int32)) ((I 2 (ix (1 : Int32))) + (1 : Int32))) fun I4 =>
        (xs_tells I4 ((2 : Int32) + v1) p1).bind <| fun I5 =>
        (xs_tells I5 ((8 : Int32) + v1) p2).bind <| fun I6 =>
        some (v1, I6))))
def x_isOrder (p0 : Int32) : Option (Int32) :=
  (x_in p0 (0 : Int32) (119 : Int32)).bind <| fun v1 =>
  ck (isb v1) <|
  some v1
def x_story (I : PI) (p1 : Int32) : Option (Int32 × PI) :=
  (x_isOrder p1).bind <| fun v1 =>
  if v1 = (0 : Int32) then (
    some ((-1 : Int32), I))
  else (
    if I 2 (ix (2 : Int32)) = (4 : Int32) then (
      some ((-1 : Int32), I))
    else (
      ck (inb (I 2 (ix (2 : Int32))) 4) <|
      lt_ (u2 I 6 (ix (I 2 (ix (2 : Int32)))) p1) fun I2 =>
      lt_ (u2 I2 2 (ix (2 : Int32)) ((I2 2 (ix (2 : Int32))) + (1 : Int32))) fun I3 =>
      some ((I3 2 (ix (2 : Int32))) - (1 : Int32), I3)))
def x_put_b3 (p1 : Int32) (self : Int32 → PI → Option (PI)) (v1 : Int32) (I2 : PI) : Option (PI) :=
  if v1 < (0 : Int32) then (
    some I2)
  else (
    ck (inb (I2 0 3) 300) <|
    lt_ (u2 I2 113 (ix (I2 0 3)) (vp_nar .byte (Int8.toInt32 (Int32.toInt8 (p1 >>> (v1 &&& 31)))))) fun I4 =>
    lt_ (u2 I4 0 3 ((I4 0 3) + (1 : Int32))) fun I5 =>
    lt_ (v1 + (-8 : Int32)) fun v6 =>
    self v6 I5)
def x_put_l3 (p1 : Int32) : Nat → Int32 → PI → Option (PI)
  | 0 => fun _ _ => none
  | k + 1 => x_put_b3 p1 (x_put_l3 p1 k)
def x_put (I : PI) (p1 : Int32) : Option (PI) :=
  (x_put_l3 p1 fu (24 : Int32) I).bind <| fun I3 =>
  some I3
def x_feed (I : PI) (p1 : Int32) (p2 : Int32) (p3 : Int32) (p4 : Int32) (p5 : Int32) : Option (Int32 × PI) :=
  if (I 0 3) + (20 : Int32) ≤ (300 : Int32) then (
    (x_put I p1).bind <| fun I1 =>
    (x_put I1 p2).bind <| fun I2 =>
    (x_put I2 p3).bind <| fun I3 =>
    (x_put I3 p4).bind <| fun I4 =>
    (x_put I4 p5).bind <| fun I5 =>
    some (I5 0 3, I5))
  else (
    some ((-1 : Int32), I))
def x_end (I : PI) (p1 : Int32) : Option (Int32 × PI) :=
  (x_in p1 (0 : Int32) (I 0 3)).bind <| fun v1 =>
  if v1 = (0 : Int32) then (
    some ((-1 : Int32), I))
  else (
    lt_ (u2 I 0 3 p1) fun I2 =>
    some (p1, I2))
def x_fault (I : PI) (p1 : Int32) : Option (Int32) :=
  if p1 = (0 : Int32) then (
    some (I 0 4))
  else (
    if p1 = (1 : Int32) then (
      some (I 0 5))
    else (
      some (-1 : Int32)))
def x_isText (I : PI) (p1 : Int32) : Option (Int32) :=
  (x_in p1 (0 : Int32) ((I 2 (ix (3 : Int32))) - (1 : Int32))).bind <| fun v1 =>
  ck (isb v1) <|
  some v1
def x_by_j15 (I : PI) (p1 : Int32) : Option (Int32 × PI) :=
  lt_ (u2 I 2 (ix (4 : Int32)) p1) fun I1 =>
  some ((1 : Int32), I1)
def x_by (I : PI) (p1 : Int32) : Option (Int32 × PI) :=
  if p1 = (-1 : Int32) then (
    x_by_j15 I p1)
  else (
    (x_isText I p1).bind <| fun v2 =>
    if v2 = (0 : Int32) then (
      some ((0 : Int32), I))
    else (
      x_by_j15 I p1))
def x_isPerson (I : PI) (p1 : Int32) : Option (Int32) :=
  (x_in p1 (0 : Int32) ((I 2 (ix (1 : Int32))) - (1 : Int32))).bind <| fun v1 =>
  ck (isb v1) <|
  some v1
def x_isForm (I : PI) (p1 : Int32) : Option (Int32) :=
  (x_in p1 (0 : Int32) ((I 2 (ix (0 : Int32))) - (1 : Int32))).bind <| fun v1 =>
  ck (isb v1) <|
  some v1
def x_formsOf (I : PI) (p1 : Int32) : Option (Int32) :=
  ck (inb ((8 : Int32) + p1) 141) <|
  some (I 3 (ix ((8 : Int32) + p1)))
def x_has (p0 : Int32) (p1 : Int32) : Option (Int32) :=
  if (p0 >>> (p1 &&& 31)) &&& (1 : Int32) = (1 : Int32) then (
    some (1 : Int32))
  else (
    some (0 : Int32))
def x_knows (I : PI) (p1 : Int32) (p2 : Int32) : Option (Int32) :=
  (x_isPerson I p1).bind <| fun v1 =>
  if v1 = (0 : Int32) then (
    some (0 : Int32))
  else (
    (x_isForm I p2).bind <| fun v2 =>
    if v2 = (0 : Int32) then (
      some (0 : Int32))
    else (
      (x_formsOf I p1).bind <| fun v3 =>
      (x_has v3 p2).bind <| fun v4 =>
      if v4 = (0 : Int32) then (
        some (0 : Int32))
      else (
        some (1 : Int32))))
def x_knownBy_b4 (I : PI) (k0 : Nat) (p1 : Int32) (self : Int32 → Int32 → Option (Int32)) (v1 : Int32) (v2 : Int32) : Option (Int32) :=
  if (6 : Int32) ≤ v2 then (
    some v1)
  else (
    ck (inb ((8 : Int32) + v2) 141) <|
    lt_ (v1 ||| ((((I k0 (ix ((8 : Int32) + v2))) >>> (p1 &&& 31)) &&& (1 : Int32)) <<< (v2 &&& 31))) fun v4 =>
    lt_ (v2 + (1 : Int32)) fun v5 =>
    self v4 v5)
def x_knownBy_l4 (I : PI) (k0 : Nat) (p1 : Int32) : Nat → Int32 → Int32 → Option (Int32)
  | 0 => fun _ _ => none
  | k + 1 => x_knownBy_b4 I k0 p1 (x_knownBy_l4 I k0 p1 k)
def x_knownBy (I : PI) (k0 : Nat) (p1 : Int32) : Option (Int32) :=
  (x_knownBy_l4 I k0 p1 fu (0 : Int32) (0 : Int32)).bind <| fun v3 =>
  some v3
def x_held (p0 : Int64) (p2 : Int32) (p3 : Int32) : Option (Int32) :=
  lt_ (if p0 < (Int32.toInt64 p3) then p0 else (Int32.toInt64 p3)) fun w1 =>
  lt_ (if w1 < (Int32.toInt64 p2) then (Int32.toInt64 p2) else w1) fun w2 =>
  some (Int64.toInt32 w2)
def xs_copy (I : PI) (k0 : Nat) (n0 : Nat) (k1 : Nat) (n1 : Nat) : Option (PI) :=
  ck (cpk (0 : Int32) (0 : Int32) (Int32.ofNat n0) n0 n1) <|
  lt_ (uc I k0 k1 (ix (0 : Int32)) (ix (0 : Int32)) (ix (Int32.ofNat n0))) fun I1 =>
  some I1
def xs_keeps_j52 (I1 : PI) : Option (PI) :=
  lt_ (I1 2 (ix (5 : Int32))) fun v2 =>
  ck (inb v2 30) <|
  (xs_copy I1 3 141 (27 + ix v2) 141).bind <| fun I3 =>
  lt_ (u2 I3 2 (ix (5 : Int32)) ((I3 2 (ix (5 : Int32))) + (1 : Int32))) fun I4 =>
  some I4
def xs_keeps_b13  (self : Int32 → PI → Option (PI)) (v5 : Int32) (I6 : PI) : Option (PI) :=
  if (30 : Int32) ≤ v5 then (
    some I6)
  else (
    ck (inb v5 30) <|
    lt_ (v5 - (1 : Int32)) fun v8 =>
    ck (inb v8 30) <|
    (xs_copy I6 (27 + ix v5) 141 (27 + ix v8) 141).bind <| fun I9 =>
    lt_ (v5 + (1 : Int32)) fun v10 =>
    self v10 I9)
def xs_keeps_l13  : Nat → Int32 → PI → Option (PI)
  | 0 => fun _ _ => none
  | k + 1 => xs_keeps_b13 (xs_keeps_l13 k)
def xs_keeps (I : PI) : Option (PI) :=
  if I 2 (ix (5 : Int32)) = (30 : Int32) then (
    (xs_keeps_l13 fu (1 : Int32) I).bind <| fun I7 =>
    lt_ (u2 I7 2 (ix (5 : Int32)) ((I7 2 (ix (5 : Int32))) - (1 : Int32))) fun I11 =>
    xs_keeps_j52 I11)
  else (
    xs_keeps_j52 I)
def x_teaches (I : PI) (p1 : Int32) (p2 : Int32) (p3 : Int32) : Option (PI) :=
  lt_ ((8 : Int32) + p3) fun v1 =>
  ck (inb v1 141) <|
  ck (inb v1 141) <|
  lt_ (u2 I 3 (ix v1) ((I 3 (ix v1)) ||| ((1 : Int32) <<< (p1 &&& 31)))) fun I2 =>
  lt_ ((14 : Int32) + p2) fun v3 =>
  ck (inb v3 141) <|
  ck (inb p1 8) <|
  ck (inb v3 141) <|
  lt_ (u2 I2 3 (ix v3) ((I2 3 (ix v3)) - (I2 5 (ix p1)))) fun I4 =>
  some I4
def x_forget (I : PI) (p1 : Int32) (p2 : Int32) : Option (Int32 × PI) :=
  (x_knows I p1 p2).bind <| fun v1 =>
  if v1 = (0 : Int32) then (
    some ((0 : Int32), I))
  else (
    (xs_keeps I).bind <| fun I2 =>
    lt_ ((8 : Int32) + p1) fun v3 =>
    ck (inb v3 141) <|
    ck (inb v3 141) <|
    lt_ (u2 I2 3 (ix v3) ((I2 3 (ix v3)) &&& (((1 : Int32) <<< (p2 &&& 31)) ^^^ (-1 : Int32)))) fun I4 =>
    some ((1 : Int32), I4))
def x_isStory (I : PI) (p1 : Int32) : Option (Int32) :=
  (x_in p1 (0 : Int32) ((I 2 (ix (2 : Int32))) - (1 : Int32))).bind <| fun v1 =>
  ck (isb v1) <|
  some v1
def x_shortest_j58 (self : Int32 → Int32 → Option (Int32)) (v2 : Int32) (v5 : Int32) : Option (Int32) :=
  lt_ (v2 + (1 : Int32)) fun v6 =>
  self v5 v6
def x_shortest_b6 (I : PI) (p1 : Int32) (p2 : Int32) (self : Int32 → Int32 → Option (Int32)) (v1 : Int32) (v2 : Int32) : Option (Int32) :=
  if I 2 (ix (0 : Int32)) ≤ v2 then (
    some v1)
  else (
    (x_has p1 v2).bind <| fun v4 =>
    if v4 = (0 : Int32) then (
      x_shortest_j58 self v2 v1)
    else (
      ck (inb v2 8) <|
      if I 4 (ix v2) = p2 then (
        ck (inb v2 8) <|
        lt_ (if (I 5 (ix v2)) < v1 then (I 5 (ix v2)) else v1) fun v7 =>
        x_shortest_j58 self v2 v7)
      else (
        x_shortest_j58 self v2 v1)))
def x_shortest_l6 (I : PI) (p1 : Int32) (p2 : Int32) : Nat → Int32 → Int32 → Option (Int32)
  | 0 => fun _ _ => none
  | k + 1 => x_shortest_b6 I p1 p2 (x_shortest_l6 I p1 p2 k)
def x_shortest (I : PI) (p1 : Int32) (p2 : Int32) : Option (Int32) :=
  (x_shortest_l6 I p1 p2 fu (99999 : Int32) (0 : Int32)).bind <| fun v3 =>
  some v3
def x_isDoing (p0 : Int32) : Option (Int32) :=
  (x_in p0 (0 : Int32) (4 : Int32)).bind <| fun v1 =>
  ck (isb v1) <|
  some v1
def x_isSaying_j33 (p1 : Int32) (p2 : Int32) : Option (Int32) :=
  if p1 = p2 then (
    some (1 : Int32))
  else (
    some (0 : Int32))
def x_isSaying (p0 : Int32) (p1 : Int32) (p2 : Int32) : Option (Int32) :=
  (x_in p0 (0 : Int32) (4 : Int32)).bind <| fun v1 =>
  if v1 = (0 : Int32) then (
    some (0 : Int32))
  else (
    (x_isDoing p1).bind <| fun v2 =>
    if v2 = (0 : Int32) then (
      some (0 : Int32))
    else (
      (x_isDoing p2).bind <| fun v3 =>
      if v3 = (0 : Int32) then (
        some (0 : Int32))
      else (
        if p0 = (2 : Int32) then (
          x_isSaying_j33 p1 p2)
        else (
          if p0 = (3 : Int32) then (
            x_isSaying_j33 p1 p2)
          else (
            if p1 = p2 then (
              some (0 : Int32))
            else (
              some (1 : Int32)))))))
def x_isSo (I : PI) (p1 : Int32) (p2 : Int32) (p3 : Int32) (p4 : Int32) : Option (Int32) :=
  ck (inb p1 120) <|
  ck (inb p4 5) <|
  ck (inb p1 120) <|
  ck (inb p3 5) <|
  lt_ ((I (242 + ix p1) (ix p4)) - (I (242 + ix p1) (ix p3))) fun v1 =>
  if p2 = (0 : Int32) then (
    if v1 ≤ (0 : Int32) then (
      some (0 : Int32))
    else (
      some (1 : Int32)))
  else (
  if p2 = (1 : Int32) then (
    if v1 = (1 : Int32) then (
      some (1 : Int32))
    else (
      some (0 : Int32)))
  else (
  if p2 = (2 : Int32) then (
    ck (inb p1 120) <|
    ck (inb p3 5) <|
    if I (242 + ix p1) (ix p3) = (0 : Int32) then (
      some (1 : Int32))
    else (
      some (0 : Int32)))
  else (
  if p2 = (3 : Int32) then (
    ck (inb p1 120) <|
    ck (inb p3 5) <|
    if I (242 + ix p1) (ix p3) = (4 : Int32) then (
      some (1 : Int32))
    else (
      some (0 : Int32)))
  else (
  if v1 = (1 : Int32) then (
    some (1 : Int32))
  else (
    if v1 = (-1 : Int32) then (
      some (1 : Int32))
    else (
      some (0 : Int32)))))))
def x_addsSaying_j91 (self : Int32 → PJ → Option (PJ)) (v3 : Int32) (J7 : PJ) : Option (PJ) :=
  lt_ (v3 + (1 : Int32)) fun v8 =>
  self v8 J7
def x_addsSaying_b23 (I : PI) (p2 : Int32) (p3 : Int32) (p4 : Int32) (self : Int32 → PJ → Option (PJ)) (v3 : Int32) (J4 : PJ) : Option (PJ) :=
  if (120 : Int32) ≤ v3 then (
    some J4)
  else (
    (x_isSo I v3 p2 p3 p4).bind <| fun v6 =>
    if v6 = (0 : Int32) then (
      if (60 : Int32) ≤ v3 then (
        lt_ (I 0 12) fun v9 =>
        ck (inb v9 125) <|
        ck (inb v9 125) <|
        lt_ (u2 J4 118 (ix v9) ((J4 118 (ix v9)) ||| ((1 : Int64) <<< (Int32.toInt64 (v3 - (60 : Int32)) &&& 63)))) fun J10 =>
        x_addsSaying_j91 self v3 J10)
      else (
        lt_ (I 0 12) fun v11 =>
        ck (inb v11 125) <|
        ck (inb v11 125) <|
        lt_ (u2 J4 117 (ix v11) ((J4 117 (ix v11)) ||| ((1 : Int64) <<< (Int32.toInt64 v3 &&& 63)))) fun J12 =>
        x_addsSaying_j91 self v3 J12))
    else (
      x_addsSaying_j91 self v3 J4))
def x_addsSaying_l23 (I : PI) (p2 : Int32) (p3 : Int32) (p4 : Int32) : Nat → Int32 → PJ → Option (PJ)
  | 0 => fun _ _ => none
  | k + 1 => x_addsSaying_b23 I p2 p3 p4 (x_addsSaying_l23 I p2 p3 p4 k)
def x_addsSaying (I : PI) (J : PJ) (p1 : Int32) (p2 : Int32) (p3 : Int32) (p4 : Int32) (p5 : Int32) : Option (PI × PJ) :=
  ck (inb (I 0 12) 125) <|
  lt_ (u2 J 117 (ix (I 0 12)) (0 : Int64)) fun J1 =>
  ck (inb (I 0 12) 125) <|
  lt_ (u2 J1 118 (ix (I 0 12)) (0 : Int64)) fun J2 =>
  (x_addsSaying_l23 I p2 p3 p4 fu (0 : Int32) J2).bind <| fun J5 =>
  ck (inb (I 0 12) 125) <|
  lt_ (u2 I 119 (ix (I 0 12)) p5) fun I13 =>
  lt_ (u2 I13 0 12 ((I13 0 12) + (1 : Int32))) fun I14 =>
  some (I14, J5)
def x_laysSayings_j81 (self : Int32 → PI → PJ → Option (PI × PJ)) (v13 : Int32) (I19 : PI) (J20 : PJ) : Option (PI × PJ) :=
  lt_ (v13 + (1 : Int32)) fun v21 =>
  self v21 I19 J20
def x_laysSayings_b39 (p2 : Int32) (v2 : Int32) (v7 : Int32) (v8 : Int32) (self : Int32 → PI → PJ → Option (PI × PJ)) (v13 : Int32) (I14 : PI) (J15 : PJ) : Option (PI × PJ) :=
  if (5 : Int32) ≤ v13 then (
    some (I14, J15))
  else (
    (x_isSaying v2 v8 v13).bind <| fun v18 =>
    if v18 = (0 : Int32) then (
      x_laysSayings_j81 self v13 I14 J15)
    else (
      (x_isSo I14 p2 v2 v8 v13).bind <| fun v22 =>
      if v22 = (0 : Int32) then (
        x_laysSayings_j81 self v13 I14 J15)
      else (
        (x_addsSaying I14 J15 p2 v2 v8 v13 v7).bind <| un2 fun I23 J24 =>
        x_laysSayings_j81 self v13 I23 J24)))
def x_laysSayings_l39 (p2 : Int32) (v2 : Int32) (v7 : Int32) (v8 : Int32) : Nat → Int32 → PI → PJ → Option (PI × PJ)
  | 0 => fun _ _ _ => none
  | k + 1 => x_laysSayings_b39 p2 v2 v7 v8 (x_laysSayings_l39 p2 v2 v7 v8 k)
def x_laysSayings_b23 (p2 : Int32) (v2 : Int32) (v7 : Int32) (self : Int32 → PI → PJ → Option (PI × PJ)) (v8 : Int32) (I9 : PI) (J10 : PJ) : Option (PI × PJ) :=
  if (5 : Int32) ≤ v8 then (
    some (I9, J10))
  else (
    if (99999 : Int32) ≤ v7 then (
      some (I9, J10))
    else (
      (x_laysSayings_l39 p2 v2 v7 v8 fu (0 : Int32) I9 J10).bind <| un2 fun I16 J17 =>
      lt_ (v8 + (1 : Int32)) fun v25 =>
      self v25 I16 J17))
def x_laysSayings_l23 (p2 : Int32) (v2 : Int32) (v7 : Int32) : Nat → Int32 → PI → PJ → Option (PI × PJ)
  | 0 => fun _ _ _ => none
  | k + 1 => x_laysSayings_b23 p2 v2 v7 (x_laysSayings_l23 p2 v2 v7 k)
def x_laysSayings_b7 (p1 : Int32) (p2 : Int32) (self : Int32 → PI → PJ → Option (PI × PJ)) (v2 : Int32) (I3 : PI) (J4 : PJ) : Option (PI × PJ) :=
  if (5 : Int32) ≤ v2 then (
    some (I3, J4))
  else (
    (x_shortest I3 p1 v2).bind <| fun v7 =>
    (x_laysSayings_l23 p2 v2 v7 fu (0 : Int32) I3 J4).bind <| un2 fun I11 J12 =>
    lt_ (v2 + (1 : Int32)) fun v26 =>
    self v26 I11 J12)
def x_laysSayings_l7 (p1 : Int32) (p2 : Int32) : Nat → Int32 → PI → PJ → Option (PI × PJ)
  | 0 => fun _ _ _ => none
  | k + 1 => x_laysSayings_b7 p1 p2 (x_laysSayings_l7 p1 p2 k)
def x_laysSayings (I : PI) (J : PJ) (p1 : Int32) (p2 : Int32) : Option (PI × PJ) :=
  lt_ (u2 I 0 12 (0 : Int32)) fun I1 =>
  (x_laysSayings_l7 p1 p2 fu (0 : Int32) I1 J).bind <| un2 fun I5 J6 =>
  some (I5, J6)
def x_blurredBy_b9 (I : PI) (J : PJ) (self : Int64 → Int64 → Int32 → Option (Int64 × Int64)) (w1 : Int64) (w2 : Int64) (v3 : Int32) : Option (Int64 × Int64) :=
  if I 0 12 ≤ v3 then (
    some (w1, w2))
  else (
    ck (inb v3 125) <|
    lt_ (w1 &&& ((J 117 (ix v3)) ^^^ (-1 : Int64))) fun w6 =>
    ck (inb v3 125) <|
    lt_ (w2 &&& ((J 118 (ix v3)) ^^^ (-1 : Int64))) fun w7 =>
    lt_ (v3 + (1 : Int32)) fun v8 =>
    self w6 w7 v8)
def x_blurredBy_l9 (I : PI) (J : PJ) : Nat → Int64 → Int64 → Int32 → Option (Int64 × Int64)
  | 0 => fun _ _ _ => none
  | k + 1 => x_blurredBy_b9 I J (x_blurredBy_l9 I J k)
def x_blurredBy (I : PI) (J : PJ) : Option (Int32) :=
  (x_blurredBy_l9 I J fu (1152921504606846975 : Int64) (1152921504606846975 : Int64) (0 : Int32)).bind <| un2 fun w4 w5 =>
  (J16_bitCount w4).bind <| fun v9 =>
  (J16_bitCount w5).bind <| fun v10 =>
  some (v9 + v10)
def x_canTell (I : PI) (J : PJ) (p1 : Int32) (p2 : Int32) : Option (Int32 × PI × PJ) :=
  ck (inb p2 4) <|
  (x_laysSayings I J p1 (I 6 (ix p2))).bind <| un2 fun I1 J2 =>
  (x_blurredBy I1 J2).bind <| fun v3 =>
  if v3 = (1 : Int32) then (
    some ((1 : Int32), I1, J2))
  else (
    some ((0 : Int32), I1, J2))
def x_without_j19 (p0 : Int32) : Option (Int64) :=
  some ((1152921504606846975 : Int64) &&& (((1 : Int64) <<< (Int32.toInt64 (p0 - p0 / (60 : Int32) * (60 : Int32)) &&& 63)) ^^^ (-1 : Int64)))
def x_without (p0 : Int32) (p1 : Int32) : Option (Int64) :=
  if p1 = (0 : Int32) then (
    if p0 < (60 : Int32) then (
      some (1152921504606846975 : Int64))
    else (
      x_without_j19 p0))
  else (
    if (60 : Int32) ≤ p0 then (
      some (1152921504606846975 : Int64))
    else (
      x_without_j19 p0))
def x_shuts_j150 (self : Int32 → PI → Option (PI)) (v4 : Int32) (I8 : PI) : Option (PI) :=
  lt_ (v4 + (1 : Int32)) fun v9 =>
  self v9 I8
def x_shuts_j91 (J : PJ) (selfM : PI → PJ → Int64 → Int64 → Int32 → Option (PI)) (self : Int32 → PI → Option (PI)) (p1 : Int64) (p3 : Int64) (v3 : Int32) (v4 : Int32) (I5 : PI) (p5 : Int32) (w7 : Int64) : Option (PI) :=
  if (w7 >>> (Int32.toInt64 v3 &&& 63)) &&& (1 : Int64) = (1 : Int64) then (
    ck (inb v4 125) <|
    ck (inb v4 125) <|
    ck (inb v4 125) <|
    (selfM I5 J (p1 &&& ((J 117 (ix v4)) ^^^ (-1 : Int64))) (p3 &&& ((J 118 (ix v4)) ^^^ (-1 : Int64))) ((p5 + ((100 : Int32) * (I5 119 (ix v4)))) + (1 : Int32))).bind <| fun I10 =>
    x_shuts_j150 self v4 I10)
  else (
    x_shuts_j150 self v4 I5)
def x_shuts_b60 (J : PJ) (selfM : PI → PJ → Int64 → Int64 → Int32 → Option (PI)) (p1 : Int64) (v1 : Int32) (p3 : Int64) (v3 : Int32) (p5 : Int32) (self : Int32 → PI → Option (PI)) (v4 : Int32) (I5 : PI) : Option (PI) :=
  if I5 0 12 ≤ v4 then (
    some I5)
  else (
    if v1 = (0 : Int32) then (
      ck (inb v4 125) <|
      x_shuts_j91 J selfM self p1 p3 v3 v4 I5 p5 (J 118 (ix v4)))
    else (
      ck (inb v4 125) <|
      x_shuts_j91 J selfM self p1 p3 v3 v4 I5 p5 (J 117 (ix v4))))
def x_shuts_l60 (J : PJ) (selfM : PI → PJ → Int64 → Int64 → Int32 → Option (PI)) (p1 : Int64) (v1 : Int32) (p3 : Int64) (v3 : Int32) (p5 : Int32) : Nat → Int32 → PI → Option (PI)
  | 0 => fun _ _ => none
  | k + 1 => x_shuts_b60 J selfM p1 v1 p3 v3 p5 (x_shuts_l60 J selfM p1 v1 p3 v3 p5 k)
def x_shuts_j52 (I : PI) (J : PJ) (selfM : PI → PJ → Int64 → Int64 → Int32 → Option (PI)) (p1 : Int64) (v1 : Int32) (p3 : Int64) (p5 : Int32) (w2 : Int64) : Option (PI) :=
  (J16_numberOfTrailingZeros w2).bind <| fun v3 =>
  (x_shuts_l60 J selfM p1 v1 p3 v3 p5 fu (0 : Int32) I).bind <| fun I6 =>
  some I6
def x_shuts_j40 (I : PI) (J : PJ) (selfM : PI → PJ → Int64 → Int64 → Int32 → Option (PI)) (p1 : Int64) (p3 : Int64) (p5 : Int32) (v1 : Int32) : Option (PI) :=
  if v1 = (0 : Int32) then (
    x_shuts_j52 I J selfM p1 v1 p3 p5 p3)
  else (
    x_shuts_j52 I J selfM p1 v1 p3 p5 p1)
def x_shuts_j29 (I : PI) (J : PJ) (selfM : PI → PJ → Int64 → Int64 → Int32 → Option (PI)) (p1 : Int64) (p3 : Int64) (p5 : Int32) : Option (PI) :=
  if p1 = (0 : Int64) then (
    x_shuts_j40 I J selfM p1 p3 p5 (0 : Int32))
  else (
    x_shuts_j40 I J selfM p1 p3 p5 (1 : Int32))
def x_shuts_B (selfM : PI → PJ → Int64 → Int64 → Int32 → Option (PI)) (I : PI) (J : PJ) (p1 : Int64) (p3 : Int64) (p5 : Int32) : Option (PI) :=
  if p5 < I 0 13 then (
    if p1 = (0 : Int64) then (
      if p3 = (0 : Int64) then (
        lt_ (u2 I 0 13 p5) fun I11 =>
        some I11)
      else (
        x_shuts_j29 I J selfM p1 p3 p5))
    else (
      x_shuts_j29 I J selfM p1 p3 p5))
  else (
    some I)
def x_shuts : Nat → PI → PJ → Int64 → Int64 → Int32 → Option (PI)
  | 0 => fun _ _ _ _ _ => none
  | d + 1 => x_shuts_B (x_shuts d)
def x_tellingOf (I : PI) (J : PJ) (p1 : Int32) (p2 : Int32) : Option (Int32 × PI × PJ) :=
  (x_laysSayings I J p1 p2).bind <| un2 fun I1 J2 =>
  lt_ (u2 I1 0 13 (99999 : Int32)) fun I3 =>
  (x_blurredBy I3 J2).bind <| fun v4 =>
  if v4 = (1 : Int32) then (
    (x_without p2 (1 : Int32)).bind <| fun w5 =>
    (x_without p2 (0 : Int32)).bind <| fun w6 =>
    (x_shuts 130 I3 J2 w5 w6 (0 : Int32)).bind <| fun I7 =>
    some (I7 0 13, I7, J2))
  else (
    some (I3 0 13, I3, J2))
def x_longBy (I : PI) (J : PJ) (p1 : Int32) (p2 : Int32) : Option (Int32 × PI × PJ) :=
  (x_isPerson I p1).bind <| fun v1 =>
  if v1 = (0 : Int32) then (
    some ((-1 : Int32), I, J))
  else (
    (x_isStory I p2).bind <| fun v2 =>
    if v2 = (0 : Int32) then (
      some ((-1 : Int32), I, J))
    else (
      (x_formsOf I p1).bind <| fun v3 =>
      (x_canTell I J v3 p2).bind <| un3 fun v4 I5 J6 =>
      if v4 = (0 : Int32) then (
        some ((-1 : Int32), I5, J6))
      else (
        (x_formsOf I5 p1).bind <| fun v7 =>
        ck (inb p2 4) <|
        (x_tellingOf I5 J6 v7 (I5 6 (ix p2))).bind <| un3 fun v8 I9 J10 =>
        lt_ (v8 / (100 : Int32)) fun v11 =>
        ck (inb ((14 : Int32) + p1) 141) <|
        if v11 ≤ I9 3 (ix ((14 : Int32) + p1)) then (
          some (v11, I9, J10))
        else (
          some ((-1 : Int32), I9, J10)))))
def x_writes_j28 (k0 : Nat) (p1 : Int32) (p2 : Int32) (p3 : Int32) (I1 : PI) : Option (PI) :=
  lt_ (fun _ => (0 : Int32)) fun f3 =>
  lt_ (upd f3 (ix (0 : Int32)) (I1 k0 (ix (0 : Int32)))) fun f4 =>
  lt_ (upd f4 (ix (1 : Int32)) p1) fun f5 =>
  lt_ (upd f5 (ix (2 : Int32)) p2) fun f6 =>
  lt_ (upd f6 (ix (3 : Int32)) p3) fun f7 =>
  ck (cpk (0 : Int32) ((21 : Int32) + ((4 : Int32) * (I1 k0 (ix (20 : Int32))))) (4 : Int32) 4 141) <|
  lt_ (ucf I1 f7 k0 (ix (0 : Int32)) (ix ((21 : Int32) + ((4 : Int32) * (I1 k0 (ix (20 : Int32)))))) (ix (4 : Int32))) fun I8 =>
  lt_ (u2 I8 k0 (ix (20 : Int32)) ((I8 k0 (ix (20 : Int32))) + (1 : Int32))) fun I9 =>
  some I9
def x_writes (I : PI) (k0 : Nat) (p1 : Int32) (p2 : Int32) (p3 : Int32) : Option (PI) :=
  if I k0 (ix (20 : Int32)) = (30 : Int32) then (
    ck (cpk (25 : Int32) (21 : Int32) (116 : Int32) 141 141) <|
    lt_ (uc I k0 k0 (ix (25 : Int32)) (ix (21 : Int32)) (ix (116 : Int32))) fun I10 =>
    lt_ (u2 I10 k0 (ix (20 : Int32)) ((I10 k0 (ix (20 : Int32))) - (1 : Int32))) fun I11 =>
    x_writes_j28 k0 p1 p2 p3 I11)
  else (
    x_writes_j28 k0 p1 p2 p3 I)
def x_tells (I : PI) (p1 : Int32) (p2 : Int32) (p3 : Int32) : Option (Int32 × PI) :=
  lt_ ((14 : Int32) + p1) fun v1 =>
  ck (inb v1 141) <|
  ck (inb v1 141) <|
  lt_ (u2 I 3 (ix v1) ((I 3 (ix v1)) - p3)) fun I2 =>
  (x_writes I2 3 p1 p2 p3).bind <| fun I3 =>
  some (p3, I3)
def x_tell (I : PI) (J : PJ) (p1 : Int32) (p2 : Int32) : Option (Int32 × PI × PJ) :=
  (x_longBy I J p1 p2).bind <| un3 fun v1 I2 J3 =>
  if v1 = (-1 : Int32) then (
    some ((-1 : Int32), I2, J3))
  else (
    (xs_keeps I2).bind <| fun I4 =>
    (x_tells I4 p1 p2 v1).bind <| un2 fun v5 I6 =>
    some (v5, I6, J3))
def x_drawn (I : PI) (k0 : Nat) (p1 : Int32) : Option (Int32 × PI) :=
  ck (nzi p1) <|
  lt_ ((I k0 (ix (1 : Int32))) - (I k0 (ix (1 : Int32))) / p1 * p1) fun v1 =>
  lt_ (u2 I k0 (ix (1 : Int32)) ((((I k0 (ix (1 : Int32))) * (521 : Int32)) + (401 : Int32)) - (((I k0 (ix (1 : Int32))) * (521 : Int32)) + (401 : Int32)) / (30703 : Int32) * (30703 : Int32))) fun I2 =>
  some (v1, I2)
def x_some (p0 : Int32) (p1 : Int32) : Option (Int32) :=
  if p1 = (0 : Int32) then (
    some (-1 : Int32))
  else (
    ck (nzi p1) <|
    some (p0 - p0 / p1 * p1))
def x_undo (I : PI) : Option (Int32 × PI) :=
  if I 2 (ix (5 : Int32)) = (0 : Int32) then (
    some ((-1 : Int32), I))
  else (
    lt_ (u2 I 2 (ix (5 : Int32)) ((I 2 (ix (5 : Int32))) - (1 : Int32))) fun I1 =>
    lt_ (I1 2 (ix (5 : Int32))) fun v2 =>
    ck (inb v2 30) <|
    (xs_copy I1 (27 + ix v2) 141 3 141).bind <| fun I3 =>
    some (I3 2 (ix (5 : Int32)), I3))
def x_toldBy_j34 (self : Int32 → Int32 → PI → PJ → Option (Int32 × PI × PJ)) (v1 : Int32) (v2 : Int32) (I9 : PI) (J10 : PJ) (v11 : Int32) : Option (Int32 × PI × PJ) :=
  lt_ (v1 ||| v11) fun v12 =>
  lt_ (v2 + (1 : Int32)) fun v13 =>
  self v12 v13 I9 J10
def x_toldBy_b4 (p1 : Int32) (self : Int32 → Int32 → PI → PJ → Option (Int32 × PI × PJ)) (v1 : Int32) (v2 : Int32) (I3 : PI) (J4 : PJ) : Option (Int32 × PI × PJ) :=
  if I3 2 (ix (2 : Int32)) ≤ v2 then (
    some (v1, I3, J4))
  else (
    (x_canTell I3 J4 p1 v2).bind <| un3 fun v8 I9 J10 =>
    if v8 = (0 : Int32) then (
      x_toldBy_j34 self v1 v2 I9 J10 (0 : Int32))
    else (
      x_toldBy_j34 self v1 v2 I9 J10 ((1 : Int32) <<< (v2 &&& 31))))
def x_toldBy_l4 (p1 : Int32) : Nat → Int32 → Int32 → PI → PJ → Option (Int32 × PI × PJ)
  | 0 => fun _ _ _ _ => none
  | k + 1 => x_toldBy_b4 p1 (x_toldBy_l4 p1 k)
def x_toldBy (I : PI) (J : PJ) (p1 : Int32) : Option (Int32 × PI × PJ) :=
  (x_toldBy_l4 p1 fu (0 : Int32) (0 : Int32) I J).bind <| un3 fun v5 I6 J7 =>
  some (v5, I6, J7)
def x_of (I : PI) (J : PJ) (p1 : Int32) (p2 : Int32) : Option (Int32 × PI × PJ) :=
  (x_isPerson I p1).bind <| fun v1 =>
  if v1 = (0 : Int32) then (
    some ((-1 : Int32), I, J))
  else (
    (x_in p2 (0 : Int32) (3 : Int32)).bind <| fun v2 =>
    if v2 = (0 : Int32) then (
      some ((-1 : Int32), I, J))
    else (
      if p2 = (3 : Int32) then (
        (x_formsOf I p1).bind <| fun v3 =>
        (x_toldBy I J v3).bind <| un3 fun v4 I5 J6 =>
        some (v4, I5, J6))
      else (
        ck (inb (((2 : Int32) + ((6 : Int32) * p2)) + p1) 141) <|
        some (I 3 (ix (((2 : Int32) + ((6 : Int32) * p2)) + p1)), I, J))))
def x_ofForm (I : PI) (p1 : Int32) (p2 : Int32) : Option (Int32) :=
  (x_isForm I p1).bind <| fun v1 =>
  if v1 = (0 : Int32) then (
    some (-1 : Int32))
  else (
    (x_in p2 (0 : Int32) (2 : Int32)).bind <| fun v2 =>
    if v2 = (0 : Int32) then (
      some (-1 : Int32))
    else (
      if p2 = (0 : Int32) then (
        ck (inb p1 8) <|
        some (I 4 (ix p1)))
      else (
        if p2 = (1 : Int32) then (
          ck (inb p1 8) <|
          some (I 5 (ix p1)))
        else (
          (x_knownBy I 3 p1).bind <| fun v3 =>
          some v3))))
def x_allKnown_b4 (I : PI) (self : Int32 → Int32 → Option (Int32)) (v1 : Int32) (v2 : Int32) : Option (Int32) :=
  if I 2 (ix (1 : Int32)) ≤ v2 then (
    some v1)
  else (
    (x_formsOf I v2).bind <| fun v4 =>
    lt_ (v1 ||| v4) fun v5 =>
    lt_ (v2 + (1 : Int32)) fun v6 =>
    self v5 v6)
def x_allKnown_l4 (I : PI) : Nat → Int32 → Int32 → Option (Int32)
  | 0 => fun _ _ => none
  | k + 1 => x_allKnown_b4 I (x_allKnown_l4 I k)
def x_allKnown (I : PI) : Option (Int32) :=
  (x_allKnown_l4 I fu (0 : Int32) (0 : Int32)).bind <| fun v3 =>
  some v3
def x_is (I : PI) (p1 : Int32) : Option (Int32) :=
  if p1 = (2 : Int32) then (
    (x_allKnown I).bind <| fun v2 =>
    some v2)
  else (
    if p1 = (3 : Int32) then (
      some (I 2 (ix (2 : Int32))))
    else (
      (x_in p1 (0 : Int32) (1 : Int32)).bind <| fun v1 =>
      if v1 = (0 : Int32) then (
        some (-2 : Int32))
      else (
        ck (inb p1 141) <|
        some (I 3 (ix p1)))))
def x_book (I : PI) (p1 : Int32) (p2 : Int32) : Option (Int32) :=
  if p1 = (-1 : Int32) then (
    some (I 3 (ix (20 : Int32))))
  else (
    (x_in p1 (0 : Int32) ((I 3 (ix (20 : Int32))) - (1 : Int32))).bind <| fun v1 =>
    if v1 = (0 : Int32) then (
      some (-2 : Int32))
    else (
      (x_in p2 (0 : Int32) (3 : Int32)).bind <| fun v2 =>
      if v2 = (0 : Int32) then (
        some (-2 : Int32))
      else (
        ck (inb (((21 : Int32) + ((4 : Int32) * p1)) + p2) 141) <|
        some (I 3 (ix (((21 : Int32) + ((4 : Int32) * p1)) + p2))))))
def x_order (I : PI) (p1 : Int32) (p2 : Int32) : Option (Int32) :=
  (x_isOrder p1).bind <| fun v1 =>
  if v1 = (0 : Int32) then (
    some (-1 : Int32))
  else (
    (x_isDoing p2).bind <| fun v2 =>
    if v2 = (0 : Int32) then (
      some (-1 : Int32))
    else (
      ck (inb p1 120) <|
      ck (inb p2 5) <|
      some (I (122 + ix p1) (ix p2))))
def x_holds (I : PI) (p1 : Int32) (p2 : Int32) (p3 : Int32) (p4 : Int32) : Option (Int32) :=
  (x_isOrder p1).bind <| fun v1 =>
  if v1 = (0 : Int32) then (
    some (0 : Int32))
  else (
    (x_isSaying p2 p3 p4).bind <| fun v2 =>
    if v2 = (0 : Int32) then (
      some (0 : Int32))
    else (
      (x_isSo I p1 p2 p3 p4).bind <| fun v3 =>
      if v3 = (0 : Int32) then (
        some (0 : Int32))
      else (
        some (1 : Int32))))
def xs_clears (I : PI) (p1 : Int32) : Option (Int32 × PI) :=
  ck (inb p1 8) <|
  lt_ (u2 I 2 (ix p1) (0 : Int32)) fun I1 =>
  some ((0 : Int32), I1)
def x_canBe_b2 (I : PI) (p1 : Int32) (self : Int32 → Option ((Int32) ⊕ (Unit))) (v1 : Int32) : Option ((Int32) ⊕ (Unit)) :=
  if I 2 (ix (6 : Int32)) ≤ v1 then (
    some (.inr ()))
  else (
    ck (inb v1 8) <|
    ck (inb v1 8) <|
    ck (inb v1 8) <|
    (x_isSo I p1 (I (11 + ix v1) (ix (0 : Int32))) (I (11 + ix v1) (ix (1 : Int32))) (I (11 + ix v1) (ix (2 : Int32)))).bind <| fun v2 =>
    if v2 = (0 : Int32) then (
      some (.inl (0 : Int32)))
    else (
      lt_ (v1 + (1 : Int32)) fun v3 =>
      self v3))
def x_canBe_l2 (I : PI) (p1 : Int32) : Nat → Int32 → Option ((Int32) ⊕ (Unit))
  | 0 => fun _ => none
  | k + 1 => x_canBe_b2 I p1 (x_canBe_l2 I p1 k)
def x_canBe (I : PI) (p1 : Int32) : Option (Int32) :=
  lbind (x_canBe_l2 I p1 fu (0 : Int32)) (some) <| fun _ =>
  some (1 : Int32)
def x_laysCould_j44 (self : Int32 → PI → Option (PI)) (v2 : Int32) (I6 : PI) : Option (PI) :=
  lt_ (v2 + (1 : Int32)) fun v7 =>
  self v7 I6
def x_laysCould_b7  (self : Int32 → PI → Option (PI)) (v2 : Int32) (I3 : PI) : Option (PI) :=
  if (120 : Int32) ≤ v2 then (
    some I3)
  else (
    (x_canBe I3 v2).bind <| fun v5 =>
    if v5 = (0 : Int32) then (
      x_laysCould_j44 self v2 I3)
    else (
      ck (inb (I3 0 16) 120) <|
      lt_ (u2 I3 120 (ix (I3 0 16)) v2) fun I8 =>
      lt_ (u2 I8 0 16 ((I8 0 16) + (1 : Int32))) fun I9 =>
      x_laysCould_j44 self v2 I9))
def x_laysCould_l7  : Nat → Int32 → PI → Option (PI)
  | 0 => fun _ _ => none
  | k + 1 => x_laysCould_b7 (x_laysCould_l7 k)
def x_laysCould (I : PI) : Option (PI) :=
  lt_ (u2 I 0 16 (0 : Int32)) fun I1 =>
  (x_laysCould_l7 fu (0 : Int32) I1).bind <| fun I4 =>
  some I4
def x_could (I : PI) (p1 : Int32) : Option (Int32 × PI) :=
  (x_laysCould I).bind <| fun I1 =>
  if p1 = (-1 : Int32) then (
    some (I1 0 16, I1))
  else (
    (x_in p1 (0 : Int32) ((I1 0 16) - (1 : Int32))).bind <| fun v2 =>
    if v2 = (0 : Int32) then (
      some ((-2 : Int32), I1))
    else (
      ck (inb p1 120) <|
      some (I1 120 (ix p1), I1)))
def x_aheadIn_j37 (self : Int32 → Int32 → Option (Int32)) (v1 : Int32) (v2 : Int32) (v5 : Int32) : Option (Int32) :=
  lt_ (v1 + v5) fun v6 =>
  lt_ (v2 + (1 : Int32)) fun v7 =>
  self v6 v7
def x_aheadIn_b5 (I : PI) (p1 : Int32) (p2 : Int32) (self : Int32 → Int32 → Option (Int32)) (v1 : Int32) (v2 : Int32) : Option (Int32) :=
  if I 0 16 ≤ v2 then (
    some v1)
  else (
    ck (inb v2 120) <|
    (x_isSo I (I 120 (ix v2)) (0 : Int32) p1 p2).bind <| fun v4 =>
    if v4 = (0 : Int32) then (
      x_aheadIn_j37 self v1 v2 (0 : Int32))
    else (
      x_aheadIn_j37 self v1 v2 (1 : Int32)))
def x_aheadIn_l5 (I : PI) (p1 : Int32) (p2 : Int32) : Nat → Int32 → Int32 → Option (Int32)
  | 0 => fun _ _ => none
  | k + 1 => x_aheadIn_b5 I p1 p2 (x_aheadIn_l5 I p1 p2 k)
def x_aheadIn (I : PI) (p1 : Int32) (p2 : Int32) : Option (Int32) :=
  (x_aheadIn_l5 I p1 p2 fu (0 : Int32) (0 : Int32)).bind <| fun v3 =>
  some v3
def x_common_B (selfM : Int64 → Int64 → Option (Int64)) (p0 : Int64) (p2 : Int64) : Option (Int64) :=
  if p2 = (0 : Int64) then (
    some p0)
  else (
    ck (nzl p2) <|
    (selfM p2 (p0 - p0 / p2 * p2)).bind <| fun w1 =>
    some w1)
def x_common : Nat → Int64 → Int64 → Option (Int64)
  | 0 => fun _ _ => none
  | d + 1 => x_common_B (x_common d)
def x_likely (I : PI) (p1 : Int32) (p2 : Int32) (p3 : Int32) : Option (Int32 × PI) :=
  (x_isSaying (0 : Int32) p1 p2).bind <| fun v1 =>
  if v1 = (0 : Int32) then (
    some ((-1 : Int32), I))
  else (
    (x_laysCould I).bind <| fun I2 =>
    if I2 0 16 = (0 : Int32) then (
      some ((-1 : Int32), I2))
    else (
      (x_aheadIn I2 p1 p2).bind <| fun v3 =>
      (x_common 130 (Int32.toInt64 (I2 0 16)) (Int32.toInt64 v3)).bind <| fun w4 =>
      lt_ (Int64.toInt32 w4) fun v5 =>
      if p3 = (0 : Int32) then (
        (x_aheadIn I2 p1 p2).bind <| fun v6 =>
        ck (nzi v5) <|
        some (v6 / v5, I2))
      else (
        ck (nzi v5) <|
        some ((I2 0 16) / v5, I2))))
def x_sure_j55 (self : Int32 → Int32 → Option (Int32)) (v3 : Int32) (v4 : Int32) (v6 : Int32) : Option (Int32) :=
  lt_ (v3 ||| v6) fun v7 =>
  lt_ (v4 + (1 : Int32)) fun v8 =>
  self v7 v8
def x_sure_j54 (self : Int32 → Int32 → Option (Int32)) (v3 : Int32) (v4 : Int32) : Option (Int32) :=
  x_sure_j55 self v3 v4 (0 : Int32)
def x_sure_b24 (I1 : PI) (p1 : Int32) (self : Int32 → Int32 → Option (Int32)) (v3 : Int32) (v4 : Int32) : Option (Int32) :=
  if (5 : Int32) ≤ v4 then (
    some v3)
  else (
    if v4 = p1 then (
      x_sure_j54 self v3 v4)
    else (
      (x_aheadIn I1 v4 p1).bind <| fun v9 =>
      if v9 = I1 0 16 then (
        x_sure_j55 self v3 v4 ((1 : Int32) <<< (v4 &&& 31)))
      else (
        x_sure_j54 self v3 v4)))
def x_sure_l24 (I1 : PI) (p1 : Int32) : Nat → Int32 → Int32 → Option (Int32)
  | 0 => fun _ _ => none
  | k + 1 => x_sure_b24 I1 p1 (x_sure_l24 I1 p1 k)
def x_sure (I : PI) (p1 : Int32) : Option (Int32 × PI) :=
  (x_laysCould I).bind <| fun I1 =>
  (x_isDoing p1).bind <| fun v2 =>
  if v2 = (0 : Int32) then (
    some ((-1 : Int32), I1))
  else (
    if I1 0 16 = (0 : Int32) then (
      some ((-1 : Int32), I1))
    else (
      (x_sure_l24 I1 p1 fu (0 : Int32) (0 : Int32)).bind <| fun v5 =>
      some (v5, I1)))
def x_ask_j74 (self : Int32 → Int32 → Int32 → Option (Int32 × Int32)) (v9 : Int32) (v15 : Int32) (v16 : Int32) : Option (Int32 × Int32) :=
  lt_ (v9 + (1 : Int32)) fun v17 =>
  self v15 v16 v17
def x_ask_b29 (I1 : PI) (v4 : Int32) (self : Int32 → Int32 → Int32 → Option (Int32 × Int32)) (v7 : Int32) (v8 : Int32) (v9 : Int32) : Option (Int32 × Int32) :=
  if (5 : Int32) ≤ v9 then (
    some (v7, v8))
  else (
    (x_aheadIn I1 v4 v9).bind <| fun v12 =>
    (x_aheadIn I1 v9 v4).bind <| fun v13 =>
    lt_ (if v12 < v13 then v13 else v12) fun v14 =>
    if v14 < v8 then (
      lt_ (((10 : Int32) * v4) + v9) fun v18 =>
      x_ask_j74 self v9 v18 v14)
    else (
      x_ask_j74 self v9 v7 v8))
def x_ask_l29 (I1 : PI) (v4 : Int32) : Nat → Int32 → Int32 → Int32 → Option (Int32 × Int32)
  | 0 => fun _ _ _ => none
  | k + 1 => x_ask_b29 I1 v4 (x_ask_l29 I1 v4 k)
def x_ask_b11 (I1 : PI) (self : Int32 → Int32 → Int32 → Option (Int32)) (v2 : Int32) (v3 : Int32) (v4 : Int32) : Option (Int32) :=
  if (5 : Int32) ≤ v4 then (
    some v2)
  else (
    if I1 0 16 ≤ (1 : Int32) then (
      some v2)
    else (
      lt_ (v4 + (1 : Int32)) fun v6 =>
      (x_ask_l29 I1 v4 fu v2 v3 v6).bind <| un2 fun v10 v11 =>
      lt_ (v4 + (1 : Int32)) fun v19 =>
      self v10 v11 v19))
def x_ask_l11 (I1 : PI) : Nat → Int32 → Int32 → Int32 → Option (Int32)
  | 0 => fun _ _ _ => none
  | k + 1 => x_ask_b11 I1 (x_ask_l11 I1 k)
def x_ask (I : PI) : Option (Int32 × PI) :=
  (x_laysCould I).bind <| fun I1 =>
  (x_ask_l11 I1 fu (-1 : Int32) (99999 : Int32) (0 : Int32)).bind <| fun v5 =>
  some (v5, I1)
def x_least (I : PI) (J : PJ) (p1 : Int32) (p2 : Int32) (p3 : Int32) : Option (Int32 × PI × PJ) :=
  (x_areForms I p1).bind <| fun v1 =>
  if v1 = (0 : Int32) then (
    some ((-1 : Int32), I, J))
  else (
    (x_isStory I p2).bind <| fun v2 =>
    if v2 = (0 : Int32) then (
      some ((-1 : Int32), I, J))
    else (
      (x_canTell I J p1 p2).bind <| un3 fun v3 I4 J5 =>
      if v3 = (0 : Int32) then (
        some ((-1 : Int32), I4, J5))
      else (
        ck (inb p2 4) <|
        (x_tellingOf I4 J5 p1 (I4 6 (ix p2))).bind <| un3 fun v6 I7 J8 =>
        if p3 = (0 : Int32) then (
          some (v6 / (100 : Int32), I7, J8))
        else (
          some (v6 - v6 / (100 : Int32) * (100 : Int32), I7, J8)))))
def x_blurred (I : PI) (J : PJ) (p1 : Int32) (p2 : Int32) : Option (Int32 × PI × PJ) :=
  (x_areForms I p1).bind <| fun v1 =>
  if v1 = (0 : Int32) then (
    some ((-1 : Int32), I, J))
  else (
    (x_isStory I p2).bind <| fun v2 =>
    if v2 = (0 : Int32) then (
      some ((-1 : Int32), I, J))
    else (
      ck (inb p2 4) <|
      (x_laysSayings I J p1 (I 6 (ix p2))).bind <| un2 fun I3 J4 =>
      (x_blurredBy I3 J4).bind <| fun v5 =>
      some (v5, I3, J4)))
def x_lengthOf_j39 (self : Int32 → Int32 → Option (Int32)) (v1 : Int32) (v2 : Int32) (v5 : Int32) : Option (Int32) :=
  lt_ (v1 + v5) fun v6 =>
  lt_ (v2 + (1 : Int32)) fun v7 =>
  self v6 v7
def x_lengthOf_b4 (I : PI) (p1 : Int32) (self : Int32 → Int32 → Option (Int32)) (v1 : Int32) (v2 : Int32) : Option (Int32) :=
  if I 2 (ix (0 : Int32)) ≤ v2 then (
    some v1)
  else (
    (x_has p1 v2).bind <| fun v4 =>
    if v4 = (0 : Int32) then (
      x_lengthOf_j39 self v1 v2 (0 : Int32))
    else (
      ck (inb v2 8) <|
      x_lengthOf_j39 self v1 v2 (I 5 (ix v2))))
def x_lengthOf_l4 (I : PI) (p1 : Int32) : Nat → Int32 → Int32 → Option (Int32)
  | 0 => fun _ _ => none
  | k + 1 => x_lengthOf_b4 I p1 (x_lengthOf_l4 I p1 k)
def x_lengthOf (I : PI) (p1 : Int32) : Option (Int32) :=
  (x_lengthOf_l4 I p1 fu (0 : Int32) (0 : Int32)).bind <| fun v3 =>
  some v3
def x_toLearn (I : PI) (p1 : Int32) : Option (Int32) :=
  (J2_bitCount p1).bind <| fun v1 =>
  (x_lengthOf I p1).bind <| fun v2 =>
  some (((100 : Int32) * v1) + v2)
def x_allStories (I : PI) : Option (Int32) :=
  some (((1 : Int32) <<< ((I 2 (ix (2 : Int32))) &&& 31)) - (1 : Int32))
def x_cover_j80 (self : Int32 → Int32 → PI → PJ → Option (Int32 × PI × PJ)) (v3 : Int32) (v10 : Int32) (I11 : PI) (J12 : PJ) : Option (Int32 × PI × PJ) :=
  lt_ (v3 + (1 : Int32)) fun v13 =>
  self v10 v13 I11 J12
def x_cover_j60 (self : Int32 → Int32 → PI → PJ → Option (Int32 × PI × PJ)) (p1 : Int32) (v2 : Int32) (v3 : Int32) (I4 : PI) (J5 : PJ) : Option (Int32 × PI × PJ) :=
  (x_formsOf I4 p1).bind <| fun v14 =>
  (x_toldBy I4 J5 (v3 ||| v14)).bind <| un3 fun v15 I16 J17 =>
  (x_allStories I16).bind <| fun v18 =>
  if v15 = v18 then (
    x_cover_j80 self v3 v3 I16 J17)
  else (
    x_cover_j80 self v3 v2 I16 J17)
def x_cover_b14 (p1 : Int32) (self : Int32 → Int32 → PI → PJ → Option (Int32 × PI × PJ)) (v2 : Int32) (v3 : Int32) (I4 : PI) (J5 : PJ) : Option (Int32 × PI × PJ) :=
  if (1 : Int32) <<< ((I4 2 (ix (0 : Int32))) &&& 31) ≤ v3 then (
    some (v2, I4, J5))
  else (
    (x_formsOf I4 p1).bind <| fun v9 =>
    if v3 &&& v9 = (0 : Int32) then (
      if v2 = (-1 : Int32) then (
        x_cover_j60 self p1 v2 v3 I4 J5)
      else (
        (x_toLearn I4 v3).bind <| fun v19 =>
        (x_toLearn I4 v2).bind <| fun v20 =>
        if v19 < v20 then (
          x_cover_j60 self p1 v2 v3 I4 J5)
        else (
          x_cover_j80 self v3 v2 I4 J5)))
    else (
      x_cover_j80 self v3 v2 I4 J5))
def x_cover_l14 (p1 : Int32) : Nat → Int32 → Int32 → PI → PJ → Option (Int32 × PI × PJ)
  | 0 => fun _ _ _ _ => none
  | k + 1 => x_cover_b14 p1 (x_cover_l14 p1 k)
def x_cover (I : PI) (J : PJ) (p1 : Int32) : Option (Int32 × PI × PJ) :=
  (x_isPerson I p1).bind <| fun v1 =>
  if v1 = (0 : Int32) then (
    some ((-1 : Int32), I, J))
  else (
    (x_cover_l14 p1 fu (-1 : Int32) (0 : Int32) I J).bind <| un3 fun v6 I7 J8 =>
    some (v6, I7, J8))
def x_toldWithout_j43 (self : Int32 → Int32 → PI → PJ → Option (Int32 × PI × PJ)) (v1 : Int32) (v2 : Int32) (I3 : PI) (J4 : PJ) (v8 : Int32) : Option (Int32 × PI × PJ) :=
  (x_toldBy I3 J4 v8).bind <| un3 fun v9 I10 J11 =>
  lt_ (v1 ||| v9) fun v12 =>
  lt_ (v2 + (1 : Int32)) fun v13 =>
  self v12 v13 I10 J11
def x_toldWithout_b4 (p1 : Int32) (self : Int32 → Int32 → PI → PJ → Option (Int32 × PI × PJ)) (v1 : Int32) (v2 : Int32) (I3 : PI) (J4 : PJ) : Option (Int32 × PI × PJ) :=
  if I3 2 (ix (1 : Int32)) ≤ v2 then (
    some (v1, I3, J4))
  else (
    if p1 = (-1 : Int32) then (
      (x_formsOf I3 v2).bind <| fun v15 =>
      x_toldWithout_j43 self v1 v2 I3 J4 v15)
    else (
      (x_formsOf I3 v2).bind <| fun v14 =>
      x_toldWithout_j43 self v1 v2 I3 J4 (v14 &&& (((1 : Int32) <<< (p1 &&& 31)) ^^^ (-1 : Int32)))))
def x_toldWithout_l4 (p1 : Int32) : Nat → Int32 → Int32 → PI → PJ → Option (Int32 × PI × PJ)
  | 0 => fun _ _ _ _ => none
  | k + 1 => x_toldWithout_b4 p1 (x_toldWithout_l4 p1 k)
def x_toldWithout (I : PI) (J : PJ) (p1 : Int32) : Option (Int32 × PI × PJ) :=
  (x_toldWithout_l4 p1 fu (0 : Int32) (0 : Int32) I J).bind <| un3 fun v5 I6 J7 =>
  some (v5, I6, J7)
def x_keep_j40 (self : Int32 → Int32 → PI → PJ → Option (Int32 × PI × PJ)) (v4 : Int32) (v5 : Int32) (I12 : PI) (J13 : PJ) (v14 : Int32) : Option (Int32 × PI × PJ) :=
  lt_ (v4 ||| v14) fun v15 =>
  lt_ (v5 + (1 : Int32)) fun v16 =>
  self v15 v16 I12 J13
def x_keep_b10 (v1 : Int32) (self : Int32 → Int32 → PI → PJ → Option (Int32 × PI × PJ)) (v4 : Int32) (v5 : Int32) (I6 : PI) (J7 : PJ) : Option (Int32 × PI × PJ) :=
  if I6 2 (ix (0 : Int32)) ≤ v5 then (
    some (v4, I6, J7))
  else (
    (x_toldWithout I6 J7 v5).bind <| un3 fun v11 I12 J13 =>
    if v11 = v1 then (
      x_keep_j40 self v4 v5 I12 J13 (0 : Int32))
    else (
      x_keep_j40 self v4 v5 I12 J13 ((1 : Int32) <<< (v5 &&& 31))))
def x_keep_l10 (v1 : Int32) : Nat → Int32 → Int32 → PI → PJ → Option (Int32 × PI × PJ)
  | 0 => fun _ _ _ _ => none
  | k + 1 => x_keep_b10 v1 (x_keep_l10 v1 k)
def x_keep (I : PI) (J : PJ) : Option (Int32 × PI × PJ) :=
  (x_toldWithout I J (-1 : Int32)).bind <| un3 fun v1 I2 J3 =>
  (x_keep_l10 v1 fu (0 : Int32) (0 : Int32) I2 J3).bind <| un3 fun v8 I9 J10 =>
  some (v8, I9, J10)
def x_both (I : PI) (J : PJ) (p1 : Int32) (p2 : Int32) (p3 : Int32) : Option (Int32 × PI × PJ) :=
  (x_isPerson I p1).bind <| fun v1 =>
  if v1 = (0 : Int32) then (
    some ((-1 : Int32), I, J))
  else (
    (x_isPerson I p2).bind <| fun v2 =>
    if v2 = (0 : Int32) then (
      some ((-1 : Int32), I, J))
    else (
      (x_formsOf I p1).bind <| fun v3 =>
      (x_formsOf I p2).bind <| fun v4 =>
      (x_least I J (v3 ||| v4) p3 (0 : Int32)).bind <| un3 fun v5 I6 J7 =>
      some (v5, I6, J7)))
def x_apartOf_j50 (self : Int32 → Int32 → Option (Int32)) (v4 : Int32) (v5 : Int32) (v9 : Int32) : Option (Int32) :=
  lt_ (v4 + v9) fun v10 =>
  lt_ (v5 + (1 : Int32)) fun v11 =>
  self v10 v11
def x_apartOf_b14 (I : PI) (p1 : Int32) (p2 : Int32) (v2 : Int32) (self : Int32 → Int32 → Option (Int32)) (v4 : Int32) (v5 : Int32) : Option (Int32) :=
  if v2 ≤ v5 then (
    some v4)
  else (
    (x_isSo I p1 (0 : Int32) v2 v5).bind <| fun v7 =>
    (x_isSo I p2 (0 : Int32) v2 v5).bind <| fun v8 =>
    if v7 = v8 then (
      x_apartOf_j50 self v4 v5 (0 : Int32))
    else (
      x_apartOf_j50 self v4 v5 (1 : Int32)))
def x_apartOf_l14 (I : PI) (p1 : Int32) (p2 : Int32) (v2 : Int32) : Nat → Int32 → Int32 → Option (Int32)
  | 0 => fun _ _ => none
  | k + 1 => x_apartOf_b14 I p1 p2 v2 (x_apartOf_l14 I p1 p2 v2 k)
def x_apartOf_b5 (I : PI) (p1 : Int32) (p2 : Int32) (self : Int32 → Int32 → Option (Int32)) (v1 : Int32) (v2 : Int32) : Option (Int32) :=
  if (5 : Int32) ≤ v2 then (
    some v1)
  else (
    (x_apartOf_l14 I p1 p2 v2 fu v1 (0 : Int32)).bind <| fun v6 =>
    lt_ (v2 + (1 : Int32)) fun v12 =>
    self v6 v12)
def x_apartOf_l5 (I : PI) (p1 : Int32) (p2 : Int32) : Nat → Int32 → Int32 → Option (Int32)
  | 0 => fun _ _ => none
  | k + 1 => x_apartOf_b5 I p1 p2 (x_apartOf_l5 I p1 p2 k)
def x_apartOf (I : PI) (p1 : Int32) (p2 : Int32) : Option (Int32) :=
  (x_apartOf_l5 I p1 p2 fu (0 : Int32) (0 : Int32)).bind <| fun v3 =>
  some v3
def x_apart (I : PI) (p1 : Int32) (p2 : Int32) : Option (Int32) :=
  (x_isOrder p1).bind <| fun v1 =>
  if v1 = (0 : Int32) then (
    some (-1 : Int32))
  else (
    (x_isOrder p2).bind <| fun v2 =>
    if v2 = (0 : Int32) then (
      some (-1 : Int32))
    else (
      (x_apartOf I p1 p2).bind <| fun v3 =>
      some v3))
def x_middle_b31 (I : PI) (v3 : Int32) (self : Int32 → Int32 → Option (Int32)) (v5 : Int32) (v6 : Int32) : Option (Int32) :=
  if I 2 (ix (2 : Int32)) ≤ v6 then (
    some v5)
  else (
    ck (inb v6 4) <|
    (x_apartOf I v3 (I 6 (ix v6))).bind <| fun v8 =>
    lt_ (v5 + v8) fun v9 =>
    lt_ (v6 + (1 : Int32)) fun v10 =>
    self v9 v10)
def x_middle_l31 (I : PI) (v3 : Int32) : Nat → Int32 → Int32 → Option (Int32)
  | 0 => fun _ _ => none
  | k + 1 => x_middle_b31 I v3 (x_middle_l31 I v3 k)
def x_middle_j85 (self : Int32 → Int32 → Int32 → Option (Int32)) (v3 : Int32) (v11 : Int32) (v12 : Int32) : Option (Int32) :=
  lt_ (v3 + (1 : Int32)) fun v13 =>
  self v11 v12 v13
def x_middle_b7 (I : PI) (self : Int32 → Int32 → Int32 → Option (Int32)) (v1 : Int32) (v2 : Int32) (v3 : Int32) : Option (Int32) :=
  if (120 : Int32) ≤ v3 then (
    some v1)
  else (
    if I 2 (ix (2 : Int32)) ≤ (0 : Int32) then (
      some v1)
    else (
      (x_middle_l31 I v3 fu (0 : Int32) (0 : Int32)).bind <| fun v7 =>
      if v7 < v2 then (
        x_middle_j85 self v3 v3 v7)
      else (
        x_middle_j85 self v3 v1 v2)))
def x_middle_l7 (I : PI) : Nat → Int32 → Int32 → Int32 → Option (Int32)
  | 0 => fun _ _ _ => none
  | k + 1 => x_middle_b7 I (x_middle_l7 I k)
def x_middle (I : PI) : Option (Int32) :=
  (x_middle_l7 I fu (-1 : Int32) (99999 : Int32) (0 : Int32)).bind <| fun v4 =>
  some v4
def x_power_B (selfM : Int64 → Int32 → Option (Int64)) (p0 : Int64) (p2 : Int32) : Option (Int64) :=
  if p2 = (0 : Int32) then (
    some (1 : Int64))
  else (
    (selfM p0 (p2 - (1 : Int32))).bind <| fun w1 =>
    some (p0 * w1))
def x_power : Nat → Int64 → Int32 → Option (Int64)
  | 0 => fun _ _ => none
  | d + 1 => x_power_B (x_power d)
def x_seen (I : PI) (p1 : Int32) (p2 : Int32) : Option (Int32 × PI) :=
  if p1 = (-1 : Int32) then (
    (xs_clears I (7 : Int32)).bind <| un2 fun v8 I9 =>
    some (v8, I9))
  else (
    (x_isPerson I p1).bind <| fun v1 =>
    if v1 = (0 : Int32) then (
      some ((-2 : Int32), I))
    else (
      (x_in p2 (0 : Int32) (10 : Int32)).bind <| fun v2 =>
      if v2 = (0 : Int32) then (
        some ((-2 : Int32), I))
      else (
        if I 2 (ix (7 : Int32)) = (8 : Int32) then (
          some ((-2 : Int32), I))
        else (
          lt_ (I 2 (ix (7 : Int32))) fun v3 =>
          ck (inb v3 8) <|
          lt_ (u2 I (19 + ix v3) (ix (0 : Int32)) p1) fun I4 =>
          lt_ (I4 2 (ix (7 : Int32))) fun v5 =>
          ck (inb v5 8) <|
          lt_ (u2 I4 (19 + ix v5) (ix (1 : Int32)) p2) fun I6 =>
          lt_ (u2 I6 2 (ix (7 : Int32)) ((I6 2 (ix (7 : Int32))) + (1 : Int32))) fun I7 =>
          some (I7 2 (ix (7 : Int32)), I7)))))
def x_richest_j47 (self : Int32 → Int32 → Option (Int32)) (v2 : Int32) (v7 : Int32) : Option (Int32) :=
  lt_ (v2 + (1 : Int32)) fun v8 =>
  self v7 v8
def x_richest_j42 (self : Int32 → Int32 → Option (Int32)) (v1 : Int32) (v2 : Int32) (v5 : Int32) (v6 : Int32) : Option (Int32) :=
  if v5 ≤ v6 then (
    x_richest_j47 self v2 v1)
  else (
    x_richest_j47 self v2 v2)
def x_richest_b4 (I : PI) (self : Int32 → Int32 → Option (Int32)) (v1 : Int32) (v2 : Int32) : Option (Int32) :=
  if I 2 (ix (1 : Int32)) ≤ v2 then (
    some v1)
  else (
    (x_formsOf I v2).bind <| fun v4 =>
    (J2_bitCount v4).bind <| fun v5 =>
    if v1 = (-1 : Int32) then (
      x_richest_j42 self v1 v2 v5 (0 : Int32))
    else (
      (x_formsOf I v1).bind <| fun v9 =>
      (J2_bitCount v9).bind <| fun v10 =>
      x_richest_j42 self v1 v2 v5 v10))
def x_richest_l4 (I : PI) : Nat → Int32 → Int32 → Option (Int32)
  | 0 => fun _ _ => none
  | k + 1 => x_richest_b4 I (x_richest_l4 I k)
def x_richest (I : PI) : Option (Int32) :=
  (x_richest_l4 I fu (-1 : Int32) (0 : Int32)).bind <| fun v3 =>
  some v3
def x_rarest_j55 (self : Int32 → Int32 → Int32 → Option (Int32)) (v3 : Int32) (v7 : Int32) (v8 : Int32) : Option (Int32) :=
  lt_ (v3 + (1 : Int32)) fun v9 =>
  self v7 v8 v9
def x_rarest_b7 (I : PI) (self : Int32 → Int32 → Int32 → Option (Int32)) (v1 : Int32) (v2 : Int32) (v3 : Int32) : Option (Int32) :=
  if I 2 (ix (0 : Int32)) ≤ v3 then (
    some v1)
  else (
    (x_knownBy I 3 v3).bind <| fun v5 =>
    (J2_bitCount v5).bind <| fun v6 =>
    if v6 = (0 : Int32) then (
      x_rarest_j55 self v3 v1 v2)
    else (
      if v6 < v2 then (
        x_rarest_j55 self v3 v3 v6)
      else (
        x_rarest_j55 self v3 v1 v2)))
def x_rarest_l7 (I : PI) : Nat → Int32 → Int32 → Int32 → Option (Int32)
  | 0 => fun _ _ _ => none
  | k + 1 => x_rarest_b7 I (x_rarest_l7 I k)
def x_rarest (I : PI) : Option (Int32) :=
  (x_rarest_l7 I fu (-1 : Int32) (99999 : Int32) (0 : Int32)).bind <| fun v4 =>
  some v4
def x_silent_j37 (self : Int32 → Int32 → PI → PJ → Option (Int32 × PI × PJ)) (v1 : Int32) (v2 : Int32) (I10 : PI) (J11 : PJ) (v12 : Int32) : Option (Int32 × PI × PJ) :=
  lt_ (v1 ||| v12) fun v13 =>
  lt_ (v2 + (1 : Int32)) fun v14 =>
  self v13 v14 I10 J11
def x_silent_b4  (self : Int32 → Int32 → PI → PJ → Option (Int32 × PI × PJ)) (v1 : Int32) (v2 : Int32) (I3 : PI) (J4 : PJ) : Option (Int32 × PI × PJ) :=
  if I3 2 (ix (1 : Int32)) ≤ v2 then (
    some (v1, I3, J4))
  else (
    (x_formsOf I3 v2).bind <| fun v8 =>
    (x_toldBy I3 J4 v8).bind <| un3 fun v9 I10 J11 =>
    if v9 = (0 : Int32) then (
      x_silent_j37 self v1 v2 I10 J11 ((1 : Int32) <<< (v2 &&& 31)))
    else (
      x_silent_j37 self v1 v2 I10 J11 (0 : Int32)))
def x_silent_l4  : Nat → Int32 → Int32 → PI → PJ → Option (Int32 × PI × PJ)
  | 0 => fun _ _ _ _ => none
  | k + 1 => x_silent_b4 (x_silent_l4 k)
def x_silent (I : PI) (J : PJ) : Option (Int32 × PI × PJ) :=
  (x_silent_l4 fu (0 : Int32) (0 : Int32) I J).bind <| un3 fun v5 I6 J7 =>
  some (v5, I6, J7)
def x_ledger_j80 (self : Int32 → Int32 → Option (Int32)) (v1 : Int32) (v2 : Int32) (v4 : Int32) : Option (Int32) :=
  lt_ (v1 + v4) fun v5 =>
  lt_ (v2 + (1 : Int32)) fun v6 =>
  self v5 v6
def x_ledger_j60 (I : PI) (self : Int32 → Int32 → Option (Int32)) (v1 : Int32) (v2 : Int32) : Option (Int32) :=
  ck (inb (((21 : Int32) + ((4 : Int32) * v2)) + (3 : Int32)) 141) <|
  x_ledger_j80 self v1 v2 (I 3 (ix (((21 : Int32) + ((4 : Int32) * v2)) + (3 : Int32))))
def x_ledger_b20 (I : PI) (p1 : Int32) (self : Int32 → Int32 → Option (Int32)) (v1 : Int32) (v2 : Int32) : Option (Int32) :=
  if I 3 (ix (20 : Int32)) ≤ v2 then (
    some v1)
  else (
    if p1 = (-1 : Int32) then (
      x_ledger_j60 I self v1 v2)
    else (
      ck (inb (((21 : Int32) + ((4 : Int32) * v2)) + (1 : Int32)) 141) <|
      if I 3 (ix (((21 : Int32) + ((4 : Int32) * v2)) + (1 : Int32))) = p1 then (
        x_ledger_j60 I self v1 v2)
      else (
        x_ledger_j80 self v1 v2 (0 : Int32))))
def x_ledger_l20 (I : PI) (p1 : Int32) : Nat → Int32 → Int32 → Option (Int32)
  | 0 => fun _ _ => none
  | k + 1 => x_ledger_b20 I p1 (x_ledger_l20 I p1 k)
def x_ledger_j16 (I : PI) (p1 : Int32) : Option (Int32) :=
  (x_ledger_l20 I p1 fu (0 : Int32) (0 : Int32)).bind <| fun v3 =>
  some v3
def x_ledger (I : PI) (p1 : Int32) : Option (Int32) :=
  if p1 = (-1 : Int32) then (
    x_ledger_j16 I p1)
  else (
    (x_isPerson I p1).bind <| fun v7 =>
    if v7 = (0 : Int32) then (
      some (-2 : Int32))
    else (
      x_ledger_j16 I p1))
def xs_copy_2_7_63_b2  (self : Int32 → PI → Option (PI)) (v1 : Int32) (I2 : PI) : Option (PI) :=
  if (8 : Int32) ≤ v1 then (
    some I2)
  else (
    ck (inb v1 8) <|
    ck (inb v1 8) <|
    (xs_copy I2 (11 + ix v1) 3 (67 + ix v1) 3).bind <| fun I4 =>
    lt_ (v1 + (1 : Int32)) fun v5 =>
    self v5 I4)
def xs_copy_2_7_63_l2  : Nat → Int32 → PI → Option (PI)
  | 0 => fun _ _ => none
  | k + 1 => xs_copy_2_7_63_b2 (xs_copy_2_7_63_l2 k)
def xs_copy_2_7_63 (I : PI) : Option (PI) :=
  (xs_copy_2_7_63_l2 fu (0 : Int32) I).bind <| fun I3 =>
  some I3
def xs_copy_2_8_64_b2  (self : Int32 → PI → Option (PI)) (v1 : Int32) (I2 : PI) : Option (PI) :=
  if (8 : Int32) ≤ v1 then (
    some I2)
  else (
    ck (inb v1 8) <|
    ck (inb v1 8) <|
    (xs_copy I2 (19 + ix v1) 2 (75 + ix v1) 2).bind <| fun I4 =>
    lt_ (v1 + (1 : Int32)) fun v5 =>
    self v5 I4)
def xs_copy_2_8_64_l2  : Nat → Int32 → PI → Option (PI)
  | 0 => fun _ _ => none
  | k + 1 => xs_copy_2_8_64_b2 (xs_copy_2_8_64_l2 k)
def xs_copy_2_8_64 (I : PI) : Option (PI) :=
  (xs_copy_2_8_64_l2 fu (0 : Int32) I).bind <| fun I3 =>
  some I3
def xs_copy_2_9_65_b2  (self : Int32 → PI → Option (PI)) (v1 : Int32) (I2 : PI) : Option (PI) :=
  if (30 : Int32) ≤ v1 then (
    some I2)
  else (
    ck (inb v1 30) <|
    ck (inb v1 30) <|
    (xs_copy I2 (27 + ix v1) 141 (83 + ix v1) 141).bind <| fun I4 =>
    lt_ (v1 + (1 : Int32)) fun v5 =>
    self v5 I4)
def xs_copy_2_9_65_l2  : Nat → Int32 → PI → Option (PI)
  | 0 => fun _ _ => none
  | k + 1 => xs_copy_2_9_65_b2 (xs_copy_2_9_65_l2 k)
def xs_copy_2_9_65 (I : PI) : Option (PI) :=
  (xs_copy_2_9_65_l2 fu (0 : Int32) I).bind <| fun I3 =>
  some I3
def xs_copy_2_63_7_b2  (self : Int32 → PI → Option (PI)) (v1 : Int32) (I2 : PI) : Option (PI) :=
  if (8 : Int32) ≤ v1 then (
    some I2)
  else (
    ck (inb v1 8) <|
    ck (inb v1 8) <|
    (xs_copy I2 (67 + ix v1) 3 (11 + ix v1) 3).bind <| fun I4 =>
    lt_ (v1 + (1 : Int32)) fun v5 =>
    self v5 I4)
def xs_copy_2_63_7_l2  : Nat → Int32 → PI → Option (PI)
  | 0 => fun _ _ => none
  | k + 1 => xs_copy_2_63_7_b2 (xs_copy_2_63_7_l2 k)
def xs_copy_2_63_7 (I : PI) : Option (PI) :=
  (xs_copy_2_63_7_l2 fu (0 : Int32) I).bind <| fun I3 =>
  some I3
def xs_copy_2_64_8_b2  (self : Int32 → PI → Option (PI)) (v1 : Int32) (I2 : PI) : Option (PI) :=
  if (8 : Int32) ≤ v1 then (
    some I2)
  else (
    ck (inb v1 8) <|
    ck (inb v1 8) <|
    (xs_copy I2 (75 + ix v1) 2 (19 + ix v1) 2).bind <| fun I4 =>
    lt_ (v1 + (1 : Int32)) fun v5 =>
    self v5 I4)
def xs_copy_2_64_8_l2  : Nat → Int32 → PI → Option (PI)
  | 0 => fun _ _ => none
  | k + 1 => xs_copy_2_64_8_b2 (xs_copy_2_64_8_l2 k)
def xs_copy_2_64_8 (I : PI) : Option (PI) :=
  (xs_copy_2_64_8_l2 fu (0 : Int32) I).bind <| fun I3 =>
  some I3
def xs_copy_2_65_9_b2  (self : Int32 → PI → Option (PI)) (v1 : Int32) (I2 : PI) : Option (PI) :=
  if (30 : Int32) ≤ v1 then (
    some I2)
  else (
    ck (inb v1 30) <|
    ck (inb v1 30) <|
    (xs_copy I2 (83 + ix v1) 141 (27 + ix v1) 141).bind <| fun I4 =>
    lt_ (v1 + (1 : Int32)) fun v5 =>
    self v5 I4)
def xs_copy_2_65_9_l2  : Nat → Int32 → PI → Option (PI)
  | 0 => fun _ _ => none
  | k + 1 => xs_copy_2_65_9_b2 (xs_copy_2_65_9_l2 k)
def xs_copy_2_65_9 (I : PI) : Option (PI) :=
  (xs_copy_2_65_9_l2 fu (0 : Int32) I).bind <| fun I3 =>
  some I3
def xs_be_57 (I : PI) (T : PT) : Option (PI × PT) :=
  (xs_copy I 2 8 58 8).bind <| fun I1 =>
  (xs_copy I1 3 141 59 141).bind <| fun I2 =>
  (xs_copy I2 4 8 60 8).bind <| fun I3 =>
  (xs_copy I3 5 8 61 8).bind <| fun I4 =>
  (xs_copy I4 6 4 62 4).bind <| fun I5 =>
  (xs_copy_2_7_63 I5).bind <| fun I6 =>
  (xs_copy_2_8_64 I6).bind <| fun I7 =>
  (xs_copy_2_9_65 I7).bind <| fun I8 =>
  ck (cpk (0 : Int32) (0 : Int32) (4 : Int32) 4 4) <|
  lt_ (uc T 10 66 (ix (0 : Int32)) (ix (0 : Int32)) (ix (4 : Int32))) fun T9 =>
  some (I8, T9)
def xs_be_1 (I : PI) (T : PT) : Option (PI × PT) :=
  (xs_copy I 58 8 2 8).bind <| fun I1 =>
  (xs_copy I1 59 141 3 141).bind <| fun I2 =>
  (xs_copy I2 60 8 4 8).bind <| fun I3 =>
  (xs_copy I3 61 8 5 8).bind <| fun I4 =>
  (xs_copy I4 62 4 6 4).bind <| fun I5 =>
  (xs_copy_2_63_7 I5).bind <| fun I6 =>
  (xs_copy_2_64_8 I6).bind <| fun I7 =>
  (xs_copy_2_65_9 I7).bind <| fun I8 =>
  ck (cpk (0 : Int32) (0 : Int32) (4 : Int32) 4 4) <|
  lt_ (uc T 66 10 (ix (0 : Int32)) (ix (0 : Int32)) (ix (4 : Int32))) fun T9 =>
  some (I8, T9)
def x_image (I : PI) (T : PT) : Option (Int32 × PI × PT) :=
  (xs_be_57 I T).bind <| un2 fun I1 T2 =>
  some (I1 3 (ix (0 : Int32)), I1, T2)
def x_back (I : PI) (T : PT) : Option (Int32 × PI × PT) :=
  (xs_be_1 I T).bind <| un2 fun I1 T2 =>
  some (I1 3 (ix (0 : Int32)), I1, T2)
def x_about (I : PI) (p1 : Int32) : Option (Int32) :=
  if p1 = (0 : Int32) then (
    some (I 2 (ix (0 : Int32))))
  else (
  if p1 = (1 : Int32) then (
    some (I 2 (ix (1 : Int32))))
  else (
  if p1 = (2 : Int32) then (
    some (I 2 (ix (2 : Int32))))
  else (
  if p1 = (3 : Int32) then (
    some (I 2 (ix (3 : Int32))))
  else (
  if p1 = (4 : Int32) then (
    some (I 2 (ix (4 : Int32))))
  else (
  if p1 = (5 : Int32) then (
    some (I 2 (ix (5 : Int32))))
  else (
  if p1 = (6 : Int32) then (
    some (I 2 (ix (6 : Int32))))
  else (
  if p1 = (7 : Int32) then (
    some (I 2 (ix (7 : Int32))))
  else (
  if p1 = (8 : Int32) then (
    some (I 0 3))
  else (
  some (-2 : Int32))))))))))

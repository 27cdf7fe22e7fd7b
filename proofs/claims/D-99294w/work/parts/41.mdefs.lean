/-! what the methods of the reference do, as functions (printed by gen_m.py) -/
set_option maxRecDepth 100000
def m_layOrders_b19  (self : Int32 → Int32 → Int32 → Option (Int32)) (v5 : Int32) (v6 : Int32) (v7 : Int32) : Option (Int32) :=
  if (5 : Int32) ≤ v7 then (
    some v5)
  else (
    lt_ (v5 ||| ((1 : Int32) <<< ((v6 - v6 / (5 : Int32) * (5 : Int32)) &&& 31))) fun v9 =>
    lt_ (v6 / (5 : Int32)) fun v10 =>
    lt_ (v7 + (1 : Int32)) fun v11 =>
    self v9 v10 v11)
def m_layOrders_l19  : Nat → Int32 → Int32 → Int32 → Option (Int32)
  | 0 => fun _ _ _ => none
  | k + 1 => m_layOrders_b19 (m_layOrders_l19 k)
def m_layOrders_j111 (self : Int32 → Int32 → PI → Option (PI)) (v2 : Int32) (v12 : Int32) (I13 : PI) : Option (PI) :=
  lt_ (v2 + (1 : Int32)) fun v14 =>
  self v12 v14 I13
def m_layOrders_b61 (v1 : Int32) (self : Int32 → Int32 → PI → Option (PI)) (v15 : Int32) (v16 : Int32) (I17 : PI) : Option (PI) :=
  if v16 < (0 : Int32) then (
    some I17)
  else (
    ck (inb (((5 : Int32) * v1) + v16) 600) <|
    lt_ (u2 I17 4 (ix (((5 : Int32) * v1) + v16)) (v15 - v15 / (5 : Int32) * (5 : Int32))) fun I19 =>
    ck (inb (((5 : Int32) * v1) + (v15 - v15 / (5 : Int32) * (5 : Int32))) 600) <|
    lt_ (u2 I19 5 (ix (((5 : Int32) * v1) + (v15 - v15 / (5 : Int32) * (5 : Int32)))) v16) fun I20 =>
    lt_ (v15 / (5 : Int32)) fun v21 =>
    lt_ (v16 + (-1 : Int32)) fun v22 =>
    self v21 v22 I20)
def m_layOrders_l61 (v1 : Int32) : Nat → Int32 → Int32 → PI → Option (PI)
  | 0 => fun _ _ _ => none
  | k + 1 => m_layOrders_b61 v1 (m_layOrders_l61 v1 k)
def m_layOrders_b4  (self : Int32 → Int32 → PI → Option (PI)) (v1 : Int32) (v2 : Int32) (I3 : PI) : Option (PI) :=
  if (3125 : Int32) ≤ v2 then (
    some I3)
  else (
    (m_layOrders_l19 fu (0 : Int32) v2 (0 : Int32)).bind <| fun v8 =>
    if v8 = (31 : Int32) then (
      (m_layOrders_l61 v1 fu v2 (4 : Int32) I3).bind <| fun I18 =>
      lt_ (v1 + (1 : Int32)) fun v23 =>
      m_layOrders_j111 self v2 v23 I18)
    else (
      m_layOrders_j111 self v2 v1 I3))
def m_layOrders_l4  : Nat → Int32 → Int32 → PI → Option (PI)
  | 0 => fun _ _ _ => none
  | k + 1 => m_layOrders_b4 (m_layOrders_l4 k)
def m_layOrders (I : PI) : Option (PI) :=
  (m_layOrders_l4 fu (0 : Int32) (0 : Int32) I).bind <| fun I4 =>
  some I4
def m_isIn (p0 : Int32) (p1 : Int32) (p2 : Int32) : Option (Int32) :=
  if p0 < p1 then (
    some (0 : Int32))
  else (
    if p2 < p0 then (
      some (0 : Int32))
    else (
      some (1 : Int32)))
def m_isDoing (p0 : Int32) : Option (Int32) :=
  (m_isIn p0 (0 : Int32) (4 : Int32)).bind <| fun v1 =>
  ck (isb v1) <|
  some v1
def m_isSaying_j48 (v4 : Int32) (v5 : Int32) : Option (Int32) :=
  if v4 = v5 then (
    some (1 : Int32))
  else (
    some (0 : Int32))
def m_isSaying_j38 (p1 : Int32) (p2 : Int32) (v4 : Int32) : Option (Int32) :=
  if p1 = p2 then (
    m_isSaying_j48 v4 (1 : Int32))
  else (
    m_isSaying_j48 v4 (0 : Int32))
def m_isSaying_j33 (p1 : Int32) (p2 : Int32) : Option (Int32) :=
  m_isSaying_j38 p1 p2 (1 : Int32)
def m_isSaying (p0 : Int32) (p1 : Int32) (p2 : Int32) : Option (Int32) :=
  (m_isIn p0 (0 : Int32) (4 : Int32)).bind <| fun v1 =>
  if v1 = (0 : Int32) then (
    some (0 : Int32))
  else (
    (m_isDoing p1).bind <| fun v2 =>
    if v2 = (0 : Int32) then (
      some (0 : Int32))
    else (
      (m_isDoing p2).bind <| fun v3 =>
      if v3 = (0 : Int32) then (
        some (0 : Int32))
      else (
        if p0 = (2 : Int32) then (
          m_isSaying_j33 p1 p2)
        else (
          if p0 = (3 : Int32) then (
            m_isSaying_j33 p1 p2)
          else (
            m_isSaying_j38 p1 p2 (0 : Int32))))))
def m_placeOf (I : PI) (p1 : Int32) (p2 : Int32) : Option (Int32) :=
  ck (inb (((5 : Int32) * p1) + p2) 600) <|
  some (I 5 (ix (((5 : Int32) * p1) + p2)))
def m_isSo (I : PI) (p1 : Int32) (p2 : Int32) (p3 : Int32) (p4 : Int32) : Option (Int32) :=
  (m_placeOf I p1 p4).bind <| fun v1 =>
  (m_placeOf I p1 p3).bind <| fun v2 =>
  lt_ (v1 - v2) fun v3 =>
  if p2 = (0 : Int32) then (
    if v3 ≤ (0 : Int32) then (
      some (0 : Int32))
    else (
      some (1 : Int32)))
  else (
  if p2 = (1 : Int32) then (
    if v3 = (1 : Int32) then (
      some (1 : Int32))
    else (
      some (0 : Int32)))
  else (
  if p2 = (2 : Int32) then (
    (m_placeOf I p1 p3).bind <| fun v4 =>
    if v4 = (0 : Int32) then (
      some (1 : Int32))
    else (
      some (0 : Int32)))
  else (
  if p2 = (3 : Int32) then (
    (m_placeOf I p1 p3).bind <| fun v5 =>
    if v5 = (4 : Int32) then (
      some (1 : Int32))
    else (
      some (0 : Int32)))
  else (
  if v3 = (1 : Int32) then (
    some (1 : Int32))
  else (
    if v3 = (-1 : Int32) then (
      some (1 : Int32))
    else (
      some (0 : Int32)))))))
def m_laySayings_j139 (self : Int32 → Int32 → PI → PJ → Option (Int32 × PI × PJ)) (v15 : Int32) (v22 : Int32) (I23 : PI) (J24 : PJ) : Option (Int32 × PI × PJ) :=
  lt_ (v15 + (1 : Int32)) fun v25 =>
  self v22 v25 I23 J24
def m_laySayings_j128 (self : Int32 → PJ → Option (PJ)) (v14 : Int32) (v28 : Int32) (J33 : PJ) (w35 : Int64) : Option (PJ) :=
  ck (inb v14 20) <|
  lt_ (u2 J33 8 (ix v14) ((J33 8 (ix v14)) ||| w35)) fun J36 =>
  lt_ (v28 + (1 : Int32)) fun v37 =>
  self v37 J36
def m_laySayings_j95 (self : Int32 → PJ → Option (PJ)) (v2 : Int32) (v8 : Int32) (v14 : Int32) (v15 : Int32) (I27 : PI) (v28 : Int32) (J29 : PJ) (w32 : Int64) : Option (PJ) :=
  ck (inb v14 20) <|
  lt_ (u2 J29 7 (ix v14) ((J29 7 (ix v14)) ||| w32)) fun J33 =>
  ck (inb v14 20) <|
  (m_isSo I27 ((60 : Int32) + v28) v2 v8 v15).bind <| fun v34 =>
  if v34 = (0 : Int32) then (
    m_laySayings_j128 self v14 v28 J33 (0 : Int64))
  else (
    m_laySayings_j128 self v14 v28 J33 ((1 : Int64) <<< (Int32.toInt64 v28 &&& 63)))
def m_laySayings_b60 (v2 : Int32) (v8 : Int32) (v14 : Int32) (v15 : Int32) (I27 : PI) (self : Int32 → PJ → Option (PJ)) (v28 : Int32) (J29 : PJ) : Option (PJ) :=
  if (60 : Int32) ≤ v28 then (
    some J29)
  else (
    ck (inb v14 20) <|
    (m_isSo I27 v28 v2 v8 v15).bind <| fun v31 =>
    if v31 = (0 : Int32) then (
      m_laySayings_j95 self v2 v8 v14 v15 I27 v28 J29 (0 : Int64))
    else (
      m_laySayings_j95 self v2 v8 v14 v15 I27 v28 J29 ((1 : Int64) <<< (Int32.toInt64 v28 &&& 63))))
def m_laySayings_l60 (v2 : Int32) (v8 : Int32) (v14 : Int32) (v15 : Int32) (I27 : PI) : Nat → Int32 → PJ → Option (PJ)
  | 0 => fun _ _ => none
  | k + 1 => m_laySayings_b60 v2 v8 v14 v15 I27 (m_laySayings_l60 v2 v8 v14 v15 I27 k)
def m_laySayings_b19 (v2 : Int32) (v8 : Int32) (self : Int32 → Int32 → PI → PJ → Option (Int32 × PI × PJ)) (v14 : Int32) (v15 : Int32) (I16 : PI) (J17 : PJ) : Option (Int32 × PI × PJ) :=
  if (5 : Int32) ≤ v15 then (
    some (v14, I16, J17))
  else (
    (m_isSaying v2 v8 v15).bind <| fun v21 =>
    if v21 = (0 : Int32) then (
      m_laySayings_j139 self v15 v14 I16 J17)
    else (
      (m_isSo I16 (0 : Int32) v2 v8 v15).bind <| fun v26 =>
      if v26 = (0 : Int32) then (
        m_laySayings_j139 self v15 v14 I16 J17)
      else (
        ck (inb v14 20) <|
        lt_ (u2 I16 6 (ix v14) v2) fun I27 =>
        (m_laySayings_l60 v2 v8 v14 v15 I27 fu (0 : Int32) J17).bind <| fun J30 =>
        lt_ (v14 + (1 : Int32)) fun v38 =>
        m_laySayings_j139 self v15 v38 I27 J30)))
def m_laySayings_l19 (v2 : Int32) (v8 : Int32) : Nat → Int32 → Int32 → PI → PJ → Option (Int32 × PI × PJ)
  | 0 => fun _ _ _ _ => none
  | k + 1 => m_laySayings_b19 v2 v8 (m_laySayings_l19 v2 v8 k)
def m_laySayings_b11 (v2 : Int32) (self : Int32 → Int32 → PI → PJ → Option (Int32 × PI × PJ)) (v7 : Int32) (v8 : Int32) (I9 : PI) (J10 : PJ) : Option (Int32 × PI × PJ) :=
  if (5 : Int32) ≤ v8 then (
    some (v7, I9, J10))
  else (
    (m_laySayings_l19 v2 v8 fu v7 v8 I9 J10).bind <| un3 fun v18 I19 J20 =>
    lt_ (v8 + (1 : Int32)) fun v39 =>
    self v18 v39 I19 J20)
def m_laySayings_l11 (v2 : Int32) : Nat → Int32 → Int32 → PI → PJ → Option (Int32 × PI × PJ)
  | 0 => fun _ _ _ _ => none
  | k + 1 => m_laySayings_b11 v2 (m_laySayings_l11 v2 k)
def m_laySayings_b4  (self : Int32 → Int32 → PI → PJ → Option (PI × PJ)) (v1 : Int32) (v2 : Int32) (I3 : PI) (J4 : PJ) : Option (PI × PJ) :=
  if (5 : Int32) ≤ v2 then (
    some (I3, J4))
  else (
    (m_laySayings_l11 v2 fu v1 (0 : Int32) I3 J4).bind <| un3 fun v11 I12 J13 =>
    lt_ (v2 + (1 : Int32)) fun v40 =>
    self v11 v40 I12 J13)
def m_laySayings_l4  : Nat → Int32 → Int32 → PI → PJ → Option (PI × PJ)
  | 0 => fun _ _ _ _ => none
  | k + 1 => m_laySayings_b4 (m_laySayings_l4 k)
def m_laySayings (I : PI) (J : PJ) : Option (PI × PJ) :=
  (m_laySayings_l4 fu (0 : Int32) (0 : Int32) I J).bind <| un2 fun I5 J6 =>
  some (I5, J6)
def m_copy_b2 (k0 : Nat) (k1 : Nat) (self : Int32 → PI → Option (PI)) (v1 : Int32) (I2 : PI) : Option (PI) :=
  if (1691 : Int32) ≤ v1 then (
    some I2)
  else (
    ck (inb v1 1691) <|
    ck (inb v1 1691) <|
    lt_ (u2 I2 k1 (ix v1) (I2 k0 (ix v1))) fun I4 =>
    lt_ (v1 + (1 : Int32)) fun v5 =>
    self v5 I4)
def m_copy_l2 (k0 : Nat) (k1 : Nat) : Nat → Int32 → PI → Option (PI)
  | 0 => fun _ _ => none
  | k + 1 => m_copy_b2 k0 k1 (m_copy_l2 k0 k1 k)
def m_copy (I : PI) (k0 : Nat) (k1 : Nat) : Option (PI) :=
  (m_copy_l2 k0 k1 fu (0 : Int32) I).bind <| fun I3 =>
  some I3
def m_form (I : PI) (p1 : Int32) (p2 : Int32) : Option (Int32 × PI) :=
  (m_isIn p1 (0 : Int32) (4 : Int32)).bind <| fun v1 =>
  if v1 = (0 : Int32) then (
    some ((-1 : Int32), I))
  else (
    (m_isIn p2 (1 : Int32) (9 : Int32)).bind <| fun v2 =>
    if v2 = (0 : Int32) then (
      some ((-1 : Int32), I))
    else (
      ck (inb (0 : Int32) 1691) <|
      if I 1 (ix (0 : Int32)) = (8 : Int32) then (
        some ((-1 : Int32), I))
      else (
        ck (inb (0 : Int32) 1691) <|
        ck (inb ((41 : Int32) + ((2 : Int32) * (I 1 (ix (0 : Int32))))) 1691) <|
        lt_ (u2 I 1 (ix ((41 : Int32) + ((2 : Int32) * (I 1 (ix (0 : Int32)))))) p1) fun I3 =>
        ck (inb (0 : Int32) 1691) <|
        ck (inb (((41 : Int32) + ((2 : Int32) * (I3 1 (ix (0 : Int32))))) + (1 : Int32)) 1691) <|
        lt_ (u2 I3 1 (ix (((41 : Int32) + ((2 : Int32) * (I3 1 (ix (0 : Int32))))) + (1 : Int32))) p2) fun I4 =>
        ck (inb (0 : Int32) 1691) <|
        ck (inb (0 : Int32) 1691) <|
        lt_ (u2 I4 1 (ix (0 : Int32)) ((I4 1 (ix (0 : Int32))) + (1 : Int32))) fun I5 =>
        ck (inb (0 : Int32) 1691) <|
        some ((I5 1 (ix (0 : Int32))) - (1 : Int32), I5))))
def m_areForms (I : PI) (p1 : Int32) : Option (Int32) :=
  ck (inb (0 : Int32) 1691) <|
  (m_isIn p1 (0 : Int32) (((1 : Int32) <<< ((I 1 (ix (0 : Int32))) &&& 31)) - (1 : Int32))).bind <| fun v1 =>
  ck (isb v1) <|
  some v1
def m_put (I : PI) (p1 : Int32) (p2 : Int32) (p3 : Int32) : Option (PI) :=
  ck (inb (((11 : Int32) + ((5 : Int32) * p1)) + p2) 1691) <|
  lt_ (u2 I 1 (ix (((11 : Int32) + ((5 : Int32) * p1)) + p2)) p3) fun I1 =>
  some I1
def m_get (I : PI) (p1 : Int32) (p2 : Int32) : Option (Int32) :=
  ck (inb (((11 : Int32) + ((5 : Int32) * p1)) + p2) 1691) <|
  some (I 1 (ix (((11 : Int32) + ((5 : Int32) * p1)) + p2)))
def m_begin (I : PI) (p1 : Int32) : Option (PI) :=
  (m_get I p1 (3 : Int32)).bind <| fun v1 =>
  (m_put I p1 (0 : Int32) v1).bind <| fun I2 =>
  (m_get I2 p1 (4 : Int32)).bind <| fun v3 =>
  (m_put I2 p1 (1 : Int32) v3).bind <| fun I4 =>
  (m_put I4 p1 (2 : Int32) (20 : Int32)).bind <| fun I5 =>
  some I5
def m_person (I : PI) (p1 : Int32) (p2 : Int32) : Option (Int32 × PI) :=
  (m_isIn p1 (0 : Int32) (99 : Int32)).bind <| fun v1 =>
  if v1 = (0 : Int32) then (
    some ((-1 : Int32), I))
  else (
    (m_areForms I p2).bind <| fun v2 =>
    if v2 = (0 : Int32) then (
      some ((-1 : Int32), I))
    else (
      ck (inb (1 : Int32) 1691) <|
      if I 1 (ix (1 : Int32)) = (6 : Int32) then (
        some ((-1 : Int32), I))
      else (
        ck (inb (1 : Int32) 1691) <|
        lt_ (I 1 (ix (1 : Int32))) fun v3 =>
        (m_put I v3 (3 : Int32) p1).bind <| fun I4 =>
        (m_put I4 v3 (4 : Int32) p2).bind <| fun I5 =>
        (m_begin I5 v3).bind <| fun I6 =>
        ck (inb (1 : Int32) 1691) <|
        ck (inb (1 : Int32) 1691) <|
        lt_ (u2 I6 1 (ix (1 : Int32)) ((I6 1 (ix (1 : Int32))) + (1 : Int32))) fun I7 =>
        some (v3, I7))))
def m_story (I : PI) (p1 : Int32) : Option (Int32 × PI) :=
  (m_isIn p1 (0 : Int32) (119 : Int32)).bind <| fun v1 =>
  if v1 = (0 : Int32) then (
    some ((-1 : Int32), I))
  else (
    ck (inb (2 : Int32) 1691) <|
    if I 1 (ix (2 : Int32)) = (4 : Int32) then (
      some ((-1 : Int32), I))
    else (
      ck (inb (2 : Int32) 1691) <|
      ck (inb ((57 : Int32) + (I 1 (ix (2 : Int32)))) 1691) <|
      lt_ (u2 I 1 (ix ((57 : Int32) + (I 1 (ix (2 : Int32))))) p1) fun I2 =>
      ck (inb (2 : Int32) 1691) <|
      ck (inb (2 : Int32) 1691) <|
      lt_ (u2 I2 1 (ix (2 : Int32)) ((I2 1 (ix (2 : Int32))) + (1 : Int32))) fun I3 =>
      ck (inb (2 : Int32) 1691) <|
      some ((I3 1 (ix (2 : Int32))) - (1 : Int32), I3)))
def m_four_b3 (p1 : Int32) (self : Int32 → PI → Option (PI)) (v1 : Int32) (I2 : PI) : Option (PI) :=
  if v1 < (0 : Int32) then (
    some I2)
  else (
    ck (inb (I2 0 9) 300) <|
    lt_ (u2 I2 9 (ix (I2 0 9)) ((p1 >>> (v1 &&& 31)) &&& (255 : Int32))) fun I4 =>
    lt_ (u2 I4 0 9 ((I4 0 9) + (1 : Int32))) fun I5 =>
    lt_ (v1 + (-8 : Int32)) fun v6 =>
    self v6 I5)
def m_four_l3 (p1 : Int32) : Nat → Int32 → PI → Option (PI)
  | 0 => fun _ _ => none
  | k + 1 => m_four_b3 p1 (m_four_l3 p1 k)
def m_four (I : PI) (p1 : Int32) : Option (PI) :=
  (m_four_l3 p1 fu (24 : Int32) I).bind <| fun I3 =>
  some I3
def m_feed (I : PI) (p1 : Int32) (p2 : Int32) (p3 : Int32) (p4 : Int32) (p5 : Int32) : Option (Int32 × PI) :=
  if (I 0 9) + (20 : Int32) ≤ (300 : Int32) then (
    (m_four I p1).bind <| fun I1 =>
    (m_four I1 p2).bind <| fun I2 =>
    (m_four I2 p3).bind <| fun I3 =>
    (m_four I3 p4).bind <| fun I4 =>
    (m_four I4 p5).bind <| fun I5 =>
    some (I5 0 9, I5))
  else (
    some ((-1 : Int32), I))
def m_end (I : PI) (p1 : Int32) : Option (Int32 × PI) :=
  (m_isIn p1 (0 : Int32) (I 0 9)).bind <| fun v1 =>
  if v1 = (0 : Int32) then (
    some ((-1 : Int32), I))
  else (
    lt_ (u2 I 0 9 p1) fun I2 =>
    some (p1, I2))
def m_byteAt (I : PI) (p1 : Int32) : Option (Int32) :=
  if I 0 9 ≤ p1 then (
    some (-1 : Int32))
  else (
    ck (inb p1 300) <|
    some (I 9 (ix p1)))
def m_isFigure (p0 : Int32) : Option (Int32) :=
  if p0 < (48 : Int32) then (
    some (0 : Int32))
  else (
    if (57 : Int32) < p0 then (
      some (0 : Int32))
    else (
      some (1 : Int32)))
def m_isLetterByte_j12 (p0 : Int32) : Option (Int32) :=
  if p0 < (65 : Int32) then (
    some (0 : Int32))
  else (
    if (90 : Int32) < p0 then (
      some (0 : Int32))
    else (
      some (1 : Int32)))
def m_isLetterByte (p0 : Int32) : Option (Int32) :=
  if p0 < (97 : Int32) then (
    m_isLetterByte_j12 p0)
  else (
    if p0 ≤ (122 : Int32) then (
      some (1 : Int32))
    else (
      m_isLetterByte_j12 p0))
def m_isSign (p0 : Int32) : Option (Int32) :=
  if p0 = (35 : Int32) then (
    some (1 : Int32))
  else (
  if p0 = (40 : Int32) then (
    some (1 : Int32))
  else (
  if p0 = (41 : Int32) then (
    some (1 : Int32))
  else (
  if p0 = (42 : Int32) then (
    some (1 : Int32))
  else (
  if p0 = (43 : Int32) then (
    some (1 : Int32))
  else (
  if p0 = (45 : Int32) then (
    some (1 : Int32))
  else (
  if p0 = (47 : Int32) then (
    some (1 : Int32))
  else (
  if p0 = (58 : Int32) then (
    some (1 : Int32))
  else (
  if p0 = (59 : Int32) then (
    some (1 : Int32))
  else (
  if p0 = (60 : Int32) then (
    some (1 : Int32))
  else (
  if p0 = (61 : Int32) then (
    some (1 : Int32))
  else (
  if p0 = (62 : Int32) then (
    some (1 : Int32))
  else (
  some (0 : Int32)))))))))))))
def m_nextToken_j26 (self : PI → Option (PI)) (I1 : PI) : Option (PI) :=
  lt_ (u2 I1 0 12 ((I1 0 12) + (1 : Int32))) fun I4 =>
  self I4
def m_nextToken_b0  (self : PI → Option (PI)) (I1 : PI) : Option (PI) :=
  (m_byteAt I1 (I1 0 12)).bind <| fun v3 =>
  if v3 = (32 : Int32) then (
    m_nextToken_j26 self I1)
  else (
    (m_byteAt I1 (I1 0 12)).bind <| fun v5 =>
    if v5 = (10 : Int32) then (
      m_nextToken_j26 self I1)
    else (
      some I1))
def m_nextToken_l0  : Nat → PI → Option (PI)
  | 0 => fun _ => none
  | k + 1 => m_nextToken_b0 (m_nextToken_l0 k)
def m_nextToken_j297 (J : PJ) (I13 : PI) (v15 : Int32) : Option (PI × PJ) :=
  lt_ (u2 I13 0 14 v15) fun I16 =>
  lt_ (u2 I16 0 12 ((I16 0 12) + (1 : Int32))) fun I17 =>
  some (I17, J)
def m_nextToken_j272 (J : PJ) (v7 : Int32) (I13 : PI) : Option (PI × PJ) :=
  (m_byteAt I13 (I13 0 12)).bind <| fun v14 =>
  if v14 = (61 : Int32) then (
    if v7 = (60 : Int32) then (
      m_nextToken_j297 J I13 (4 : Int32))
    else (
      m_nextToken_j297 J I13 (5 : Int32)))
  else (
    some (I13, J))
def m_nextToken_j247 (J : PJ) (I6 : PI) (v7 : Int32) (v11 : Int32) : Option (PI × PJ) :=
  lt_ (u2 I6 0 14 v11) fun I12 =>
  lt_ (u2 I12 0 12 ((I12 0 12) + (1 : Int32))) fun I13 =>
  if v7 = (60 : Int32) then (
    m_nextToken_j272 J v7 I13)
  else (
    if v7 = (62 : Int32) then (
      m_nextToken_j272 J v7 I13)
    else (
      some (I13, J)))
def m_nextToken_j218 (self : PI → PJ → Option ((PI × PJ) ⊕ (Unit))) (I20 : PI) (J21 : PJ) (w24 : Int64) : Option ((PI × PJ) ⊕ (Unit)) :=
  lt_ (u2 J21 0 16 w24) fun J25 =>
  lt_ (u2 I20 0 12 ((I20 0 12) + (1 : Int32))) fun I26 =>
  self I26 J25
def m_nextToken_b168  (self : PI → PJ → Option ((PI × PJ) ⊕ (Unit))) (I20 : PI) (J21 : PJ) : Option ((PI × PJ) ⊕ (Unit)) :=
  (m_byteAt I20 (I20 0 12)).bind <| fun v22 =>
  (m_isLetterByte v22).bind <| fun v23 =>
  if v23 = (0 : Int32) then (
    some (.inl (I20, J21)))
  else (
    if (J21 0 16) >>> (Int32.toInt64 (48 : Int32) &&& 63) = (0 : Int64) then (
      (m_byteAt I20 (I20 0 12)).bind <| fun v27 =>
      m_nextToken_j218 self I20 J21 (((J21 0 16) <<< (Int32.toInt64 (8 : Int32) &&& 63)) ||| (Int32.toInt64 v27)))
    else (
      m_nextToken_j218 self I20 J21 (1152921504606846976 : Int64)))
def m_nextToken_l168  : Nat → PI → PJ → Option ((PI × PJ) ⊕ (Unit))
  | 0 => fun _ _ => none
  | k + 1 => m_nextToken_b168 (m_nextToken_l168 k)
def m_nextToken_j135 (self : PI → Option ((PI × PJ) ⊕ (Unit))) (I30 : PI) (v33 : Int32) : Option ((PI × PJ) ⊕ (Unit)) :=
  lt_ (u2 I30 0 15 v33) fun I34 =>
  lt_ (u2 I34 0 12 ((I34 0 12) + (1 : Int32))) fun I35 =>
  self I35
def m_nextToken_b85 (J : PJ) (self : PI → Option ((PI × PJ) ⊕ (Unit))) (I30 : PI) : Option ((PI × PJ) ⊕ (Unit)) :=
  (m_byteAt I30 (I30 0 12)).bind <| fun v31 =>
  (m_isFigure v31).bind <| fun v32 =>
  if v32 = (0 : Int32) then (
    some (.inl (I30, J)))
  else (
    if I30 0 15 ≤ (99999 : Int32) then (
      (m_byteAt I30 (I30 0 12)).bind <| fun v36 =>
      m_nextToken_j135 self I30 ((((10 : Int32) * (I30 0 15)) + v36) - (48 : Int32)))
    else (
      m_nextToken_j135 self I30 (I30 0 15)))
def m_nextToken_l85 (J : PJ) : Nat → PI → Option ((PI × PJ) ⊕ (Unit))
  | 0 => fun _ => none
  | k + 1 => m_nextToken_b85 J (m_nextToken_l85 J k)
def m_nextToken (I : PI) (J : PJ) : Option (PI × PJ) :=
  (m_nextToken_l0 fu I).bind <| fun I2 =>
  lt_ (u2 I2 0 13 (I2 0 12)) fun I6 =>
  (m_byteAt I6 (I6 0 12)).bind <| fun v7 =>
  if (0 : Int32) ≤ v7 then (
    (m_isFigure v7).bind <| fun v8 =>
    if v8 = (0 : Int32) then (
      (m_isLetterByte v7).bind <| fun v9 =>
      if v9 = (0 : Int32) then (
        (m_isSign v7).bind <| fun v10 =>
        if v10 = (0 : Int32) then (
          m_nextToken_j247 J I6 v7 (3 : Int32))
        else (
          m_nextToken_j247 J I6 v7 v7))
      else (
        lt_ (u2 I6 0 14 (2 : Int32)) fun I18 =>
        lt_ (u2 J 0 16 (0 : Int64)) fun J19 =>
        lbind (m_nextToken_l168 fu I18 J19) (some) <| fun _ => none))
    else (
      lt_ (u2 I6 0 14 (1 : Int32)) fun I28 =>
      lt_ (u2 I28 0 15 (0 : Int32)) fun I29 =>
      lbind (m_nextToken_l85 J fu I29) (some) <| fun _ => none))
  else (
    lt_ (u2 I6 0 14 (0 : Int32)) fun I37 =>
    some (I37, J))
def m_w2 (p0 : Int32) (p1 : Int32) : Option (Int64) :=
  some (((Int32.toInt64 p0) <<< (Int32.toInt64 (8 : Int32) &&& 63)) ||| (Int32.toInt64 p1))
def m_w3 (p0 : Int32) (p1 : Int32) (p2 : Int32) : Option (Int64) :=
  (m_w2 p0 p1).bind <| fun w1 =>
  some ((w1 <<< (Int32.toInt64 (8 : Int32) &&& 63)) ||| (Int32.toInt64 p2))
def m_w4 (p0 : Int32) (p1 : Int32) (p2 : Int32) (p3 : Int32) : Option (Int64) :=
  (m_w3 p0 p1 p2).bind <| fun w1 =>
  some ((w1 <<< (Int32.toInt64 (8 : Int32) &&& 63)) ||| (Int32.toInt64 p3))
def m_w5 (p0 : Int32) (p1 : Int32) (p2 : Int32) (p3 : Int32) (p4 : Int32) : Option (Int64) :=
  (m_w4 p0 p1 p2 p3).bind <| fun w1 =>
  some ((w1 <<< (Int32.toInt64 (8 : Int32) &&& 63)) ||| (Int32.toInt64 p4))
def m_isWord (I : PI) (J : PJ) (p1 : Int64) : Option (Int32) :=
  if I 0 14 = (2 : Int32) then (
    if J 0 16 = p1 then (
      some (1 : Int32))
    else (
      some (0 : Int32)))
  else (
    some (0 : Int32))
def m_w6 (p0 : Int32) (p1 : Int32) (p2 : Int32) (p3 : Int32) (p4 : Int32) (p5 : Int32) : Option (Int64) :=
  (m_w5 p0 p1 p2 p3 p4).bind <| fun w1 =>
  some ((w1 <<< (Int32.toInt64 (8 : Int32) &&& 63)) ||| (Int32.toInt64 p5))
def m_sortOf (I : PI) (J : PJ) : Option (Int32) :=
  (m_w5 (102 : Int32) (97 : Int32) (100 : Int32) (101 : Int32) (115 : Int32)).bind <| fun w1 =>
  (m_isWord I J w1).bind <| fun v2 =>
  if v2 = (0 : Int32) then (
    (m_w6 (108 : Int32) (101 : Int32) (97 : Int32) (114 : Int32) (110 : Int32) (115 : Int32)).bind <| fun w3 =>
    (m_isWord I J w3).bind <| fun v4 =>
    if v4 = (0 : Int32) then (
      (m_w4 (102 : Int32) (111 : Int32) (114 : Int32) (109 : Int32)).bind <| fun w5 =>
      (m_isWord I J w5).bind <| fun v6 =>
      if v6 = (0 : Int32) then (
        (m_w6 (112 : Int32) (101 : Int32) (114 : Int32) (115 : Int32) (111 : Int32) (110 : Int32)).bind <| fun w7 =>
        (m_isWord I J w7).bind <| fun v8 =>
        if v8 = (0 : Int32) then (
          (m_w5 (115 : Int32) (116 : Int32) (111 : Int32) (114 : Int32) (121 : Int32)).bind <| fun w9 =>
          (m_isWord I J w9).bind <| fun v10 =>
          if v10 = (0 : Int32) then (
            (m_w5 (116 : Int32) (101 : Int32) (97 : Int32) (99 : Int32) (104 : Int32)).bind <| fun w11 =>
            (m_isWord I J w11).bind <| fun v12 =>
            if v12 = (0 : Int32) then (
              (m_w6 (102 : Int32) (111 : Int32) (114 : Int32) (103 : Int32) (101 : Int32) (116 : Int32)).bind <| fun w13 =>
              (m_isWord I J w13).bind <| fun v14 =>
              if v14 = (0 : Int32) then (
                (m_w4 (116 : Int32) (101 : Int32) (108 : Int32) (108 : Int32)).bind <| fun w15 =>
                (m_isWord I J w15).bind <| fun v16 =>
                if v16 = (0 : Int32) then (
                  (m_w4 (121 : Int32) (101 : Int32) (97 : Int32) (114 : Int32)).bind <| fun w17 =>
                  (m_isWord I J w17).bind <| fun v18 =>
                  if v18 = (0 : Int32) then (
                    some (-1 : Int32))
                  else (
                    some (8 : Int32)))
                else (
                  some (7 : Int32)))
              else (
                some (6 : Int32)))
            else (
              some (5 : Int32)))
          else (
            some (4 : Int32)))
        else (
          some (3 : Int32)))
      else (
        some (2 : Int32)))
    else (
      some (1 : Int32)))
  else (
    some (0 : Int32))
def m_has (p0 : Int32) (p1 : Int32) : Option (Int32) :=
  if (p0 >>> (p1 &&& 31)) &&& (1 : Int32) = (1 : Int32) then (
    some (1 : Int32))
  else (
    some (0 : Int32))
def m_figure (I : PI) (J : PJ) (p1 : Int32) (p2 : Int32) (p3 : Int32) : Option (Int32 × PI × PJ) :=
  if I 0 14 = (1 : Int32) then (
    (m_isIn (I 0 15) p2 p3).bind <| fun v1 =>
    if v1 = (0 : Int32) then (
      some ((2 : Int32), I, J))
    else (
      ck (inb p1 2820) <|
      lt_ (u2 I 3 (ix p1) (I 0 15)) fun I2 =>
      (m_nextToken I2 J).bind <| un2 fun I3 J4 =>
      some ((0 : Int32), I3, J4)))
  else (
    some ((1 : Int32), I, J))
def m_worded (I : PI) (J : PJ) (p1 : Int64) (p3 : Int32) (p4 : Int32) (p5 : Int32) : Option (Int32 × PI × PJ) :=
  (m_isWord I J p1).bind <| fun v1 =>
  if v1 = (0 : Int32) then (
    some ((1 : Int32), I, J))
  else (
    (m_nextToken I J).bind <| un2 fun I2 J3 =>
    (m_figure I2 J3 p3 p4 p5).bind <| un3 fun v4 I5 J6 =>
    some (v4, I5, J6))
def m_pair (I : PI) (J : PJ) (p1 : Int32) (p2 : Int32) (p3 : Int64) (p5 : Int32) (p6 : Int32) : Option (Int32 × PI × PJ) :=
  (m_figure I J (p1 + (1 : Int32)) (0 : Int32) p2).bind <| un3 fun v1 I2 J3 =>
  if v1 = (0 : Int32) then (
    (m_worded I2 J3 p3 (p1 + (2 : Int32)) p5 p6).bind <| un3 fun v4 I5 J6 =>
    some (v4, I5, J6))
  else (
    some (v1, I2, J3))
def m_openAt_b7 (I : PI) (self : Int32 → Option (Int32)) (v2 : Int32) : Option (Int32) :=
  if v2 < (0 : Int32) then (
    some v2)
  else (
    ck (inb v2 160) <|
    if (40 : Int32) ≤ I 10 (ix v2) then (
      some v2)
    else (
      lt_ (v2 + (-1 : Int32)) fun v4 =>
      self v4))
def m_openAt_l7 (I : PI) : Nat → Int32 → Option (Int32)
  | 0 => fun _ => none
  | k + 1 => m_openAt_b7 I (m_openAt_l7 I k)
def m_openAt (I : PI) : Option (Int32) :=
  lt_ ((I 0 21) - (1 : Int32)) fun v1 =>
  (m_openAt_l7 I fu v1).bind <| fun v3 =>
  some v3
def m_openNow (I : PI) : Option (Int32) :=
  (m_openAt I).bind <| fun v1 =>
  if (0 : Int32) ≤ v1 then (
    (m_openAt I).bind <| fun v2 =>
    ck (inb v2 160) <|
    some (I 10 (ix v2)))
  else (
    some (-1 : Int32))
def m_rank (p0 : Int32) : Option (Int32) :=
  if p0 < (40 : Int32) then (
    if p0 = (22 : Int32) then (
      some (1 : Int32))
    else (
      if p0 = (21 : Int32) then (
        some (2 : Int32))
      else (
        if p0 = (20 : Int32) then (
          some (3 : Int32))
        else (
          if p0 < (10 : Int32) then (
            if p0 < (8 : Int32) then (
              if p0 < (6 : Int32) then (
                some (7 : Int32))
              else (
                some (5 : Int32)))
            else (
              some (6 : Int32)))
          else (
            some (4 : Int32))))))
  else (
    some (0 : Int32))
def m_isCompared_b7 (I : PI) (self : Int32 → Option (Int32)) (v2 : Int32) : Option (Int32) :=
  if v2 < (0 : Int32) then (
    some v2)
  else (
    ck (inb v2 160) <|
    (m_rank (I 10 (ix v2))).bind <| fun v4 =>
    if v4 ≤ (4 : Int32) then (
      some v2)
    else (
      lt_ (v2 + (-1 : Int32)) fun v5 =>
      self v5))
def m_isCompared_l7 (I : PI) : Nat → Int32 → Option (Int32)
  | 0 => fun _ => none
  | k + 1 => m_isCompared_b7 I (m_isCompared_l7 I k)
def m_isCompared (I : PI) : Option (Int32) :=
  lt_ ((I 0 21) - (1 : Int32)) fun v1 =>
  (m_isCompared_l7 I fu v1).bind <| fun v3 =>
  if v3 < (0 : Int32) then (
    some (0 : Int32))
  else (
    ck (inb v3 160) <|
    (m_rank (I 10 (ix v3))).bind <| fun v6 =>
    if v6 = (4 : Int32) then (
      some (1 : Int32))
    else (
      some (0 : Int32)))
def m_compareOf (I : PI) : Option (Int32) :=
  if I 0 14 = (60 : Int32) then (
    some (10 : Int32))
  else (
    if I 0 14 = (4 : Int32) then (
      some (11 : Int32))
    else (
      if I 0 14 = (62 : Int32) then (
        some (12 : Int32))
      else (
        if I 0 14 = (5 : Int32) then (
          some (13 : Int32))
        else (
          if I 0 14 = (61 : Int32) then (
            some (14 : Int32))
          else (
            if I 0 14 = (35 : Int32) then (
              some (15 : Int32))
            else (
              some (-1 : Int32)))))))
def m_betweenOf (I : PI) (J : PJ) : Option (Int32) :=
  if I 0 14 = (43 : Int32) then (
    some (6 : Int32))
  else (
    if I 0 14 = (45 : Int32) then (
      some (7 : Int32))
    else (
      if I 0 14 = (42 : Int32) then (
        some (8 : Int32))
      else (
        if I 0 14 = (47 : Int32) then (
          some (9 : Int32))
        else (
          (m_openNow I).bind <| fun v1 =>
          if v1 = (41 : Int32) then (
            (m_isCompared I).bind <| fun v2 =>
            if v2 = (0 : Int32) then (
              (m_compareOf I).bind <| fun v7 =>
              some v7)
            else (
              (m_w3 (97 : Int32) (110 : Int32) (100 : Int32)).bind <| fun w3 =>
              (m_isWord I J w3).bind <| fun v4 =>
              if v4 = (0 : Int32) then (
                (m_w2 (111 : Int32) (114 : Int32)).bind <| fun w5 =>
                (m_isWord I J w5).bind <| fun v6 =>
                if v6 = (0 : Int32) then (
                  some (-1 : Int32))
                else (
                  some (22 : Int32)))
              else (
                some (21 : Int32))))
          else (
            some (-1 : Int32))))))
def m_emit (I : PI) (p1 : Int32) (p2 : Int32) : Option (PI) :=
  ck (inb (((I 0 17) + (97 : Int32)) + ((2 : Int32) * (I 0 18))) 2820) <|
  lt_ (u2 I 3 (ix (((I 0 17) + (97 : Int32)) + ((2 : Int32) * (I 0 18)))) p1) fun I1 =>
  ck (inb ((((I1 0 17) + (97 : Int32)) + ((2 : Int32) * (I1 0 18))) + (1 : Int32)) 2820) <|
  lt_ (u2 I1 3 (ix ((((I1 0 17) + (97 : Int32)) + ((2 : Int32) * (I1 0 18))) + (1 : Int32))) p2) fun I2 =>
  lt_ (u2 I2 0 18 ((I2 0 18) + (1 : Int32))) fun I3 =>
  some I3
def m_settle_j80 (self : PI → Option (PI)) (I5 : PI) : Option (PI) :=
  lt_ (u2 I5 0 22 ((I5 0 22) - (1 : Int32))) fun I7 =>
  self I7
def m_settle_b0 (p1 : Int32) (self : PI → Option (PI)) (I1 : PI) : Option (PI) :=
  if I1 0 21 ≤ (0 : Int32) then (
    some I1)
  else (
    ck (inb ((I1 0 21) - (1 : Int32)) 160) <|
    (m_rank (I1 10 (ix ((I1 0 21) - (1 : Int32))))).bind <| fun v3 =>
    if v3 < p1 then (
      some I1)
    else (
      lt_ (u2 I1 0 21 ((I1 0 21) - (1 : Int32))) fun I4 =>
      ck (inb (I4 0 21) 160) <|
      (m_emit I4 (I4 10 (ix (I4 0 21))) (0 : Int32)).bind <| fun I5 =>
      ck (inb (I5 0 21) 160) <|
      (m_rank (I5 10 (ix (I5 0 21)))).bind <| fun v6 =>
      if v6 = (7 : Int32) then (
        m_settle_j80 self I5)
      else (
        ck (inb (I5 0 21) 160) <|
        if I5 10 (ix (I5 0 21)) = (20 : Int32) then (
          m_settle_j80 self I5)
        else (
          self I5))))
def m_settle_l0 (p1 : Int32) : Nat → PI → Option (PI)
  | 0 => fun _ => none
  | k + 1 => m_settle_b0 p1 (m_settle_l0 p1 k)
def m_settle (I : PI) (p1 : Int32) : Option (PI) :=
  (m_settle_l0 p1 fu I).bind <| fun I2 =>
  some I2
def m_partOf (I : PI) (J : PJ) (p1 : Int32) : Option (Int32) :=
  if p1 = (40 : Int32) then (
    if I 0 14 = (41 : Int32) then (
      some (0 : Int32))
    else (
      some (-1 : Int32)))
  else (
  if p1 = (41 : Int32) then (
    (m_w4 (116 : Int32) (104 : Int32) (101 : Int32) (110 : Int32)).bind <| fun w1 =>
    (m_isWord I J w1).bind <| fun v2 =>
    if v2 = (0 : Int32) then (
      some (-1 : Int32))
    else (
      (m_isCompared I).bind <| fun v3 =>
      if v3 = (0 : Int32) then (
        some (-1 : Int32))
      else (
        some (42 : Int32))))
  else (
  if p1 = (42 : Int32) then (
    (m_w4 (101 : Int32) (108 : Int32) (115 : Int32) (101 : Int32)).bind <| fun w4 =>
    (m_isWord I J w4).bind <| fun v5 =>
    if v5 = (0 : Int32) then (
      some (-1 : Int32))
    else (
      some (43 : Int32)))
  else (
  if p1 = (43 : Int32) then (
    (m_w3 (101 : Int32) (110 : Int32) (100 : Int32)).bind <| fun w6 =>
    (m_isWord I J w6).bind <| fun v7 =>
    if v7 = (0 : Int32) then (
      some (-1 : Int32))
    else (
      some (0 : Int32)))
  else (
  some (-1 : Int32)))))
def m_behindOne_j139 (J6 : PJ) (I9 : PI) : Option (Int32 × PI × PJ) :=
  (m_settle I9 (7 : Int32)).bind <| fun I10 =>
  some ((1 : Int32), I10, J6)
def m_behindOne_j26 (I : PI) (J : PJ) (v1 : Int32) (v16 : Int32) : Option (Int32 × PI × PJ) :=
  (m_settle I v16).bind <| fun I17 =>
  ck (inb (I17 0 21) 160) <|
  lt_ (u2 I17 10 (ix (I17 0 21)) v1) fun I18 =>
  lt_ (u2 I18 0 21 ((I18 0 21) + (1 : Int32))) fun I19 =>
  lt_ (u2 I19 0 23 (0 : Int32)) fun I20 =>
  (m_nextToken I20 J).bind <| un2 fun I21 J22 =>
  some ((1 : Int32), I21, J22)
def m_behindOne (I : PI) (J : PJ) : Option (Int32 × PI × PJ) :=
  (m_betweenOf I J).bind <| fun v1 =>
  if v1 < (0 : Int32) then (
    (m_openNow I).bind <| fun v2 =>
    (m_partOf I J v2).bind <| fun v3 =>
    if (0 : Int32) ≤ v3 then (
      (m_settle I (1 : Int32)).bind <| fun I4 =>
      (m_nextToken I4 J).bind <| un2 fun I5 J6 =>
      if v3 ≤ (0 : Int32) then (
        lt_ (u2 I5 0 22 ((I5 0 22) - (1 : Int32))) fun I7 =>
        lt_ (u2 I7 0 21 ((I7 0 21) - (1 : Int32))) fun I8 =>
        if v2 = (43 : Int32) then (
          (m_emit I8 (3 : Int32) (0 : Int32)).bind <| fun I11 =>
          m_behindOne_j139 J6 I11)
        else (
          m_behindOne_j139 J6 I8))
      else (
        (m_openAt I5).bind <| fun v12 =>
        ck (inb v12 160) <|
        lt_ (u2 I5 10 (ix v12) v3) fun I13 =>
        lt_ (u2 I13 0 23 (0 : Int32)) fun I14 =>
        some ((1 : Int32), I14, J6)))
    else (
      some ((0 : Int32), I, J)))
  else (
    (m_rank v1).bind <| fun v15 =>
    if v15 = (4 : Int32) then (
      m_behindOne_j26 I J v1 (5 : Int32))
    else (
      (m_rank v1).bind <| fun v23 =>
      m_behindOne_j26 I J v1 v23))
def m_nameOf (I : PI) (J : PJ) : Option (Int32) :=
  if I 0 14 = (2 : Int32) then (
    (m_w4 (121 : Int32) (101 : Int32) (97 : Int32) (114 : Int32)).bind <| fun w1 =>
    if J 0 16 = w1 then (
      some (0 : Int32))
    else (
      (m_w4 (102 : Int32) (111 : Int32) (114 : Int32) (109 : Int32)).bind <| fun w2 =>
      if J 0 16 = w2 then (
        some (1 : Int32))
      else (
        (m_w4 (107 : Int32) (105 : Int32) (110 : Int32) (100 : Int32)).bind <| fun w3 =>
        if J 0 16 = w3 then (
          some (2 : Int32))
        else (
          (m_w6 (108 : Int32) (101 : Int32) (110 : Int32) (103 : Int32) (116 : Int32) (104 : Int32)).bind <| fun w4 =>
          if J 0 16 = w4 then (
            some (3 : Int32))
          else (
            (m_w3 (97 : Int32) (103 : Int32) (101 : Int32)).bind <| fun w5 =>
            if J 0 16 = w5 then (
              some (4 : Int32))
            else (
              (m_w3 (119 : Int32) (104 : Int32) (111 : Int32)).bind <| fun w6 =>
              if J 0 16 = w6 then (
                some (5 : Int32))
              else (
                (m_w5 (107 : Int32) (110 : Int32) (111 : Int32) (119 : Int32) (115 : Int32)).bind <| fun w7 =>
                if J 0 16 = w7 then (
                  some (6 : Int32))
                else (
                  (m_w6 (98 : Int32) (114 : Int32) (101 : Int32) (97 : Int32) (116 : Int32) (104 : Int32)).bind <| fun w8 =>
                  if J 0 16 = w8 then (
                    some (7 : Int32))
                  else (
                    some (-1 : Int32))))))))))
  else (
    some (-1 : Int32))
def m_opened (I : PI) (J : PJ) (p1 : Int32) : Option (Int32 × PI × PJ) :=
  if I 0 22 = (8 : Int32) then (
    some ((3 : Int32), I, J))
  else (
    lt_ (u2 I 0 22 ((I 0 22) + (1 : Int32))) fun I1 =>
    ck (inb (I1 0 21) 160) <|
    lt_ (u2 I1 10 (ix (I1 0 21)) p1) fun I2 =>
    lt_ (u2 I2 0 21 ((I2 0 21) + (1 : Int32))) fun I3 =>
    (m_nextToken I3 J).bind <| un2 fun I4 J5 =>
    some ((0 : Int32), I4, J5))
def m_isAskAhead (I : PI) : Option (Int32) :=
  (m_openNow I).bind <| fun v1 =>
  if v1 = (41 : Int32) then (
    ck (inb ((I 0 21) - (1 : Int32)) 160) <|
    if (40 : Int32) ≤ I 10 (ix ((I 0 21) - (1 : Int32))) then (
      some (1 : Int32))
    else (
      ck (inb ((I 0 21) - (1 : Int32)) 160) <|
      (m_rank (I 10 (ix ((I 0 21) - (1 : Int32))))).bind <| fun v2 =>
      (m_isIn v2 (1 : Int32) (3 : Int32)).bind <| fun v3 =>
      if v3 = (0 : Int32) then (
        some (0 : Int32))
      else (
        some (1 : Int32))))
  else (
    some (0 : Int32))
def m_beginOne_j83 (I : PI) (J : PJ) (v2 : Int32) (v3 : Int32) : Option (Int32 × PI × PJ) :=
  (m_emit I v2 v3).bind <| fun I4 =>
  (m_nextToken I4 J).bind <| un2 fun I5 J6 =>
  lt_ (u2 I5 0 23 (1 : Int32)) fun I7 =>
  (m_settle I7 (7 : Int32)).bind <| fun I8 =>
  some ((0 : Int32), I8, J6)
def m_beginOne_j67 (I : PI) (J : PJ) (v1 : Int32) (v2 : Int32) : Option (Int32 × PI × PJ) :=
  if I 0 14 = (1 : Int32) then (
    m_beginOne_j83 I J v2 (I 0 15))
  else (
    m_beginOne_j83 I J v2 v1)
def m_beginOne_j53 (I : PI) (J : PJ) (v1 : Int32) : Option (Int32 × PI × PJ) :=
  if I 0 14 = (1 : Int32) then (
    m_beginOne_j67 I J v1 (0 : Int32))
  else (
    m_beginOne_j67 I J v1 (1 : Int32))
def m_beginOne_j41 (I : PI) (J : PJ) (v1 : Int32) : Option (Int32 × PI × PJ) :=
  if I 0 14 = (1 : Int32) then (
    m_beginOne_j53 I J v1)
  else (
    if v1 < (0 : Int32) then (
      if I 0 14 = (40 : Int32) then (
        (m_opened I J (40 : Int32)).bind <| un3 fun v33 I34 J35 =>
        some (v33, I34, J35))
      else (
        if I 0 14 = (45 : Int32) then (
          (m_opened I J (5 : Int32)).bind <| un3 fun v30 I31 J32 =>
          some (v30, I31, J32))
        else (
          (m_w4 (104 : Int32) (97 : Int32) (108 : Int32) (102 : Int32)).bind <| fun w9 =>
          (m_isWord I J w9).bind <| fun v10 =>
          if v10 = (0 : Int32) then (
            (m_w5 (107 : Int32) (110 : Int32) (111 : Int32) (119 : Int32) (110 : Int32)).bind <| fun w11 =>
            (m_isWord I J w11).bind <| fun v12 =>
            if v12 = (0 : Int32) then (
              (m_w2 (105 : Int32) (102 : Int32)).bind <| fun w13 =>
              (m_isWord I J w13).bind <| fun v14 =>
              if v14 = (0 : Int32) then (
                (m_w3 (110 : Int32) (111 : Int32) (116 : Int32)).bind <| fun w15 =>
                (m_isWord I J w15).bind <| fun v16 =>
                if v16 = (0 : Int32) then (
                  some ((1 : Int32), I, J))
                else (
                  (m_isAskAhead I).bind <| fun v17 =>
                  if v17 = (0 : Int32) then (
                    some ((1 : Int32), I, J))
                  else (
                    (m_opened I J (20 : Int32)).bind <| un3 fun v18 I19 J20 =>
                    some (v18, I19, J20))))
              else (
                (m_opened I J (41 : Int32)).bind <| un3 fun v21 I22 J23 =>
                some (v21, I22, J23)))
            else (
              (m_opened I J (2 : Int32)).bind <| un3 fun v24 I25 J26 =>
              some (v24, I25, J26)))
          else (
            (m_opened I J (4 : Int32)).bind <| un3 fun v27 I28 J29 =>
            some (v27, I28, J29)))))
    else (
      m_beginOne_j53 I J v1))
def m_beginOne_j20 (I : PI) (J : PJ) : Option (Int32 × PI × PJ) :=
  (m_nameOf I J).bind <| fun v1 =>
  if v1 = (7 : Int32) then (
    if I 0 19 = (1 : Int32) then (
      m_beginOne_j41 I J v1)
    else (
      some ((5 : Int32), I, J)))
  else (
    m_beginOne_j41 I J v1)
def m_beginOne (I : PI) (J : PJ) : Option (Int32 × PI × PJ) :=
  if I 0 14 = (1 : Int32) then (
    if I 0 15 ≤ (9999 : Int32) then (
      m_beginOne_j20 I J)
    else (
      some ((2 : Int32), I, J)))
  else (
    m_beginOne_j20 I J)
def m_summed_b15  (self : PI → PJ → Option ((Int32 × PI × PJ) ⊕ (PI × PJ))) (I4 : PI) (J5 : PJ) : Option ((Int32 × PI × PJ) ⊕ (PI × PJ)) :=
  if I4 0 23 = (0 : Int32) then (
    (m_beginOne I4 J5).bind <| un3 fun v8 I9 J10 =>
    if v8 = (0 : Int32) then (
      self I9 J10)
    else (
      some (.inl (v8, I9, J10))))
  else (
    (m_behindOne I4 J5).bind <| un3 fun v11 I12 J13 =>
    if v11 = (0 : Int32) then (
      some (.inr (I12, J13)))
    else (
      self I12 J13))
def m_summed_l15  : Nat → PI → PJ → Option ((Int32 × PI × PJ) ⊕ (PI × PJ))
  | 0 => fun _ _ => none
  | k + 1 => m_summed_b15 (m_summed_l15 k)
def m_summed (I : PI) (J : PJ) : Option (Int32 × PI × PJ) :=
  lt_ (u2 I 0 21 (0 : Int32)) fun I1 =>
  lt_ (u2 I1 0 22 (0 : Int32)) fun I2 =>
  lt_ (u2 I2 0 23 (0 : Int32)) fun I3 =>
  lbind (m_summed_l15 fu I3 J) (some) <| un2 fun I6 J7 =>
  (m_openNow I6).bind <| fun v14 =>
  if v14 < (0 : Int32) then (
    (m_settle I6 (1 : Int32)).bind <| fun I15 =>
    some ((0 : Int32), I15, J7))
  else (
    some ((1 : Int32), I6, J7))
def m_lawClause (I : PI) (J : PJ) (p1 : Int32) : Option (Int32 × PI × PJ) :=
  ck (inb (p1 + (1 : Int32)) 2820) <|
  lt_ (u2 I 3 (ix (p1 + (1 : Int32))) (I 0 18)) fun I1 =>
  (m_summed I1 J).bind <| un3 fun v2 I3 J4 =>
  ck (inb (p1 + (2 : Int32)) 2820) <|
  lt_ (u2 I3 3 (ix (p1 + (2 : Int32))) (I3 0 18)) fun I5 =>
  some (v2, I5, J4)
def m_body (I : PI) (J : PJ) (p1 : Int32) (p2 : Int32) : Option (Int32 × PI × PJ) :=
  if p1 = (2 : Int32) then (
    (m_w6 (108 : Int32) (101 : Int32) (110 : Int32) (103 : Int32) (116 : Int32) (104 : Int32)).bind <| fun w1 =>
    (m_pair I J p2 (4 : Int32) w1 (1 : Int32) (9 : Int32)).bind <| un3 fun v2 I3 J4 =>
    some (v2, I3, J4))
  else (
  if p1 = (3 : Int32) then (
    (m_w5 (107 : Int32) (110 : Int32) (111 : Int32) (119 : Int32) (115 : Int32)).bind <| fun w5 =>
    (m_pair I J p2 (99 : Int32) w5 (0 : Int32) (255 : Int32)).bind <| un3 fun v6 I7 J8 =>
    some (v6, I7, J8))
  else (
  if p1 = (4 : Int32) then (
    (m_figure I J (p2 + (1 : Int32)) (0 : Int32) (119 : Int32)).bind <| un3 fun v9 I10 J11 =>
    some (v9, I10, J11))
  else (
  if p1 = (5 : Int32) then (
    (m_w2 (98 : Int32) (121 : Int32)).bind <| fun w12 =>
    (m_pair I J p2 (7 : Int32) w12 (0 : Int32) (5 : Int32)).bind <| un3 fun v13 I14 J15 =>
    if v13 = (0 : Int32) then (
      (m_w2 (116 : Int32) (111 : Int32)).bind <| fun w16 =>
      (m_worded I14 J15 w16 (p2 + (3 : Int32)) (0 : Int32) (5 : Int32)).bind <| un3 fun v17 I18 J19 =>
      some (v17, I18, J19))
    else (
      some (v13, I14, J15)))
  else (
  if p1 = (6 : Int32) then (
    (m_w2 (98 : Int32) (121 : Int32)).bind <| fun w20 =>
    (m_pair I J p2 (7 : Int32) w20 (0 : Int32) (5 : Int32)).bind <| un3 fun v21 I22 J23 =>
    some (v21, I22, J23))
  else (
  if p1 = (7 : Int32) then (
    (m_w2 (98 : Int32) (121 : Int32)).bind <| fun w24 =>
    (m_pair I J p2 (3 : Int32) w24 (0 : Int32) (5 : Int32)).bind <| un3 fun v25 I26 J27 =>
    some (v25, I26, J27))
  else (
  if p1 = (8 : Int32) then (
    (m_figure I J (p2 + (1 : Int32)) (1 : Int32) (60 : Int32)).bind <| un3 fun v28 I29 J30 =>
    some (v28, I29, J30))
  else (
  (m_lawClause I J p2).bind <| un3 fun v31 I32 J33 =>
  some (v31, I32, J33))))))))
def m_clause_j65 (J : PJ) (v1 : Int32) (v2 : Int32) (I3 : PI) : Option (Int32 × PI × PJ) :=
  lt_ (u2 I3 0 19 v1) fun I4 =>
  (m_nextToken I4 J).bind <| un2 fun I5 J6 =>
  lt_ (((I5 0 17) + (1 : Int32)) + ((4 : Int32) * v2)) fun v7 =>
  ck (inb v7 2820) <|
  lt_ (u2 I5 3 (ix v7) v1) fun I8 =>
  (m_body I8 J6 v1 v7).bind <| un3 fun v9 I10 J11 =>
  if v9 = (0 : Int32) then (
    lt_ (I10 0 17) fun v12 =>
    ck (inb v12 2820) <|
    ck (inb v12 2820) <|
    lt_ (u2 I10 3 (ix v12) ((I10 3 (ix v12)) + (1 : Int32))) fun I13 =>
    if I13 0 14 = (59 : Int32) then (
      (m_nextToken I13 J11).bind <| un2 fun I14 J15 =>
      some ((0 : Int32), I14, J15))
    else (
      some ((1 : Int32), I13, J11)))
  else (
    some (v9, I10, J11))
def m_clause_j29 (I : PI) (J : PJ) (v1 : Int32) : Option (Int32 × PI × PJ) :=
  ck (inb (I 0 17) 2820) <|
  lt_ (I 3 (ix (I 0 17))) fun v2 =>
  if v2 = (24 : Int32) then (
    some ((6 : Int32), I, J))
  else (
    if (1 : Int32) < v1 then (
      m_clause_j65 J v1 v2 I)
    else (
      lt_ (u2 I 0 24 ((I 0 24) ||| ((1 : Int32) <<< (v1 &&& 31)))) fun I16 =>
      m_clause_j65 J v1 v2 I16))
def m_clause (I : PI) (J : PJ) : Option (Int32 × PI × PJ) :=
  (m_sortOf I J).bind <| fun v1 =>
  if (0 : Int32) ≤ v1 then (
    if (1 : Int32) < v1 then (
      m_clause_j29 I J v1)
    else (
      (m_has (I 0 24) v1).bind <| fun v17 =>
      if v17 = (0 : Int32) then (
        m_clause_j29 I J v1)
      else (
        some ((4 : Int32), I, J))))
  else (
    some ((1 : Int32), I, J))
def m_readText_b43  (self : PI → PJ → Option ((Int32 × PI × PJ) ⊕ (PI × PJ))) (I8 : PI) (J9 : PJ) : Option ((Int32 × PI × PJ) ⊕ (PI × PJ)) :=
  if I8 0 14 = (0 : Int32) then (
    some (.inr (I8, J9)))
  else (
    (m_clause I8 J9).bind <| un3 fun v12 I13 J14 =>
    if v12 = (0 : Int32) then (
      self I13 J14)
    else (
      some (.inl (v12, I13, J14))))
def m_readText_l43  : Nat → PI → PJ → Option ((Int32 × PI × PJ) ⊕ (PI × PJ))
  | 0 => fun _ _ => none
  | k + 1 => m_readText_b43 (m_readText_l43 k)
def m_readText (I : PI) (J : PJ) : Option (Int32 × PI × PJ) :=
  ck (inb (3 : Int32) 1691) <|
  lt_ (u2 I 0 17 ((705 : Int32) * (I 1 (ix (3 : Int32))))) fun I1 =>
  ck (inb (I1 0 17) 2820) <|
  lt_ (u2 I1 3 (ix (I1 0 17)) (0 : Int32)) fun I2 =>
  lt_ (u2 I2 0 18 (0 : Int32)) fun I3 =>
  lt_ (u2 I3 0 24 (0 : Int32)) fun I4 =>
  lt_ (u2 I4 0 12 (0 : Int32)) fun I5 =>
  (m_nextToken I5 J).bind <| un2 fun I6 J7 =>
  lbind (m_readText_l43 fu I6 J7) (some) <| un2 fun I10 J11 =>
  some ((0 : Int32), I10, J11)
def m_text_j36 (J3 : PJ) (I4 : PI) (v5 : Int32) : Option (Int32 × PI × PJ) :=
  lt_ (u2 I4 0 11 v5) fun I6 =>
  lt_ (u2 I6 0 9 (0 : Int32)) fun I7 =>
  if I7 0 10 = (0 : Int32) then (
    ck (inb (3 : Int32) 1691) <|
    ck (inb (3 : Int32) 1691) <|
    lt_ (u2 I7 1 (ix (3 : Int32)) ((I7 1 (ix (3 : Int32))) + (1 : Int32))) fun I8 =>
    ck (inb (3 : Int32) 1691) <|
    some ((I8 1 (ix (3 : Int32))) - (1 : Int32), I8, J3))
  else (
    some ((-1 : Int32), I7, J3))
def m_text (I : PI) (J : PJ) : Option (Int32 × PI × PJ) :=
  ck (inb (3 : Int32) 1691) <|
  if I 1 (ix (3 : Int32)) = (4 : Int32) then (
    some ((-1 : Int32), I, J))
  else (
    (m_readText I J).bind <| un3 fun v1 I2 J3 =>
    lt_ (u2 I2 0 10 v1) fun I4 =>
    if I4 0 10 = (0 : Int32) then (
      m_text_j36 J3 I4 (-1 : Int32))
    else (
      m_text_j36 J3 I4 (I4 0 13)))
def m_fault (I : PI) (p1 : Int32) : Option (Int32) :=
  if p1 = (0 : Int32) then (
    some (I 0 10))
  else (
    if p1 = (1 : Int32) then (
      some (I 0 11))
    else (
      some (-1 : Int32)))
def m_by (I : PI) (p1 : Int32) : Option (Int32 × PI) :=
  ck (inb (3 : Int32) 1691) <|
  (m_isIn p1 (-1 : Int32) ((I 1 (ix (3 : Int32))) - (1 : Int32))).bind <| fun v1 =>
  if v1 = (0 : Int32) then (
    some ((0 : Int32), I))
  else (
    ck (inb (4 : Int32) 1691) <|
    lt_ (u2 I 1 (ix (4 : Int32)) p1) fun I2 =>
    some ((1 : Int32), I2))
def m_isStory (I : PI) (p1 : Int32) : Option (Int32) :=
  ck (inb (2 : Int32) 1691) <|
  (m_isIn p1 (0 : Int32) ((I 1 (ix (2 : Int32))) - (1 : Int32))).bind <| fun v1 =>
  ck (isb v1) <|
  some v1
def m_kindOf (I : PI) (p1 : Int32) : Option (Int32) :=
  ck (inb ((41 : Int32) + ((2 : Int32) * p1)) 1691) <|
  some (I 1 (ix ((41 : Int32) + ((2 : Int32) * p1))))
def m_lengthOf (I : PI) (p1 : Int32) : Option (Int32) :=
  ck (inb (((41 : Int32) + ((2 : Int32) * p1)) + (1 : Int32)) 1691) <|
  some (I 1 (ix (((41 : Int32) + ((2 : Int32) * p1)) + (1 : Int32))))
def m_layCosts_j85 (self : Int32 → PI → Option (PI)) (v7 : Int32) (I11 : PI) : Option (PI) :=
  lt_ (v7 + (1 : Int32)) fun v12 =>
  self v12 I11
def m_layCosts_j73 (self : Int32 → PI → Option (PI)) (v2 : Int32) (v7 : Int32) (I8 : PI) : Option (PI) :=
  (m_lengthOf I8 v7).bind <| fun v14 =>
  ck (inb v2 5) <|
  lt_ (u2 I8 14 (ix v2) v14) fun I15 =>
  m_layCosts_j85 self v7 I15
def m_layCosts_b19 (p1 : Int32) (v2 : Int32) (self : Int32 → PI → Option (PI)) (v7 : Int32) (I8 : PI) : Option (PI) :=
  ck (inb (0 : Int32) 1691) <|
  if I8 1 (ix (0 : Int32)) ≤ v7 then (
    some I8)
  else (
    (m_has p1 v7).bind <| fun v10 =>
    if v10 = (0 : Int32) then (
      m_layCosts_j85 self v7 I8)
    else (
      (m_kindOf I8 v7).bind <| fun v13 =>
      if v13 = v2 then (
        ck (inb v2 5) <|
        if I8 14 (ix v2) = (0 : Int32) then (
          m_layCosts_j73 self v2 v7 I8)
        else (
          (m_lengthOf I8 v7).bind <| fun v16 =>
          ck (inb v2 5) <|
          if I8 14 (ix v2) ≤ v16 then (
            m_layCosts_j85 self v7 I8)
          else (
            m_layCosts_j73 self v2 v7 I8)))
      else (
        m_layCosts_j85 self v7 I8)))
def m_layCosts_l19 (p1 : Int32) (v2 : Int32) : Nat → Int32 → PI → Option (PI)
  | 0 => fun _ _ => none
  | k + 1 => m_layCosts_b19 p1 v2 (m_layCosts_l19 p1 v2 k)
def m_layCosts_b4 (p1 : Int32) (self : Int32 → Int32 → PI → Option (Int32 × PI)) (v1 : Int32) (v2 : Int32) (I3 : PI) : Option (Int32 × PI) :=
  if (5 : Int32) ≤ v2 then (
    some (v1, I3))
  else (
    ck (inb v2 5) <|
    lt_ (u2 I3 14 (ix v2) (0 : Int32)) fun I6 =>
    (m_layCosts_l19 p1 v2 fu (0 : Int32) I6).bind <| fun I9 =>
    ck (inb v2 5) <|
    lt_ (((10 : Int32) * v1) + (I9 14 (ix v2))) fun v17 =>
    lt_ (v2 + (1 : Int32)) fun v18 =>
    self v17 v18 I9)
def m_layCosts_l4 (p1 : Int32) : Nat → Int32 → Int32 → PI → Option (Int32 × PI)
  | 0 => fun _ _ _ => none
  | k + 1 => m_layCosts_b4 p1 (m_layCosts_l4 p1 k)
def m_layCosts (I : PI) (p1 : Int32) : Option (Int32 × PI) :=
  (m_layCosts_l4 p1 fu (0 : Int32) (0 : Int32) I).bind <| un2 fun v4 I5 =>
  some (v4, I5)
def m_bitsIn_b4  (self : Int32 → Int64 → Option (Int32)) (v1 : Int32) (w2 : Int64) : Option (Int32) :=
  if w2 = (0 : Int64) then (
    some v1)
  else (
    lt_ (v1 + (1 : Int32)) fun v4 =>
    lt_ (w2 &&& (w2 - (1 : Int64))) fun w5 =>
    self v4 w5)
def m_bitsIn_l4  : Nat → Int32 → Int64 → Option (Int32)
  | 0 => fun _ _ => none
  | k + 1 => m_bitsIn_b4 (m_bitsIn_l4 k)
def m_bitsIn (p0 : Int64) : Option (Int32) :=
  (m_bitsIn_l4 fu (0 : Int32) p0).bind <| fun v3 =>
  some v3
def m_blurredBy_j63 (self : Int64 → Int64 → Int32 → Option (Int64 × Int64)) (v5 : Int32) (w8 : Int64) (w9 : Int64) : Option (Int64 × Int64) :=
  lt_ (v5 + (1 : Int32)) fun v10 =>
  self w8 w9 v10
def m_blurredBy_b16 (J : PJ) (I2 : PI) (self : Int64 → Int64 → Int32 → Option (Int64 × Int64)) (w3 : Int64) (w4 : Int64) (v5 : Int32) : Option (Int64 × Int64) :=
  if (20 : Int32) ≤ v5 then (
    some (w3, w4))
  else (
    ck (inb v5 20) <|
    ck (inb (I2 6 (ix v5)) 5) <|
    if I2 14 (ix (I2 6 (ix v5))) = (0 : Int32) then (
      m_blurredBy_j63 self v5 w3 w4)
    else (
      ck (inb v5 20) <|
      lt_ (w3 &&& (J 7 (ix v5))) fun w11 =>
      ck (inb v5 20) <|
      lt_ (w4 &&& (J 8 (ix v5))) fun w12 =>
      m_blurredBy_j63 self v5 w11 w12))
def m_blurredBy_l16 (J : PJ) (I2 : PI) : Nat → Int64 → Int64 → Int32 → Option (Int64 × Int64)
  | 0 => fun _ _ _ => none
  | k + 1 => m_blurredBy_b16 J I2 (m_blurredBy_l16 J I2 k)
def m_blurredBy (I : PI) (J : PJ) (p1 : Int32) : Option (Int32 × PI) :=
  (m_layCosts I p1).bind <| un2 fun v1 I2 =>
  (m_blurredBy_l16 J I2 fu (1152921504606846975 : Int64) (1152921504606846975 : Int64) (0 : Int32)).bind <| un2 fun w6 w7 =>
  (m_bitsIn w6).bind <| fun v13 =>
  (m_bitsIn w7).bind <| fun v14 =>
  some (v13 + v14, I2)
def m_isEnough (I : PI) (J : PJ) (p1 : Int32) : Option (Int32 × PI) :=
  (m_blurredBy I J p1).bind <| un2 fun v1 I2 =>
  if v1 = (1 : Int32) then (
    some ((1 : Int32), I2))
  else (
    some ((0 : Int32), I2))
def m_nextSaying_j76 (self : Int32 → Option ((Int32) ⊕ (Unit))) (v2 : Int32) : Option ((Int32) ⊕ (Unit)) :=
  lt_ (v2 + (1 : Int32)) fun v4 =>
  self v4
def m_nextSaying_b9 (I : PI) (p1 : Int32) (self : Int32 → Option ((Int32) ⊕ (Unit))) (v2 : Int32) : Option ((Int32) ⊕ (Unit)) :=
  if (20 : Int32) ≤ v2 then (
    some (.inr ()))
  else (
    ck (inb p1 21) <|
    ck (inb v2 20) <|
    ck (inb (I 6 (ix v2)) 5) <|
    lt_ ((I 16 (ix p1)) + (I 14 (ix (I 6 (ix v2))))) fun v3 =>
    ck (inb v2 20) <|
    ck (inb (I 6 (ix v2)) 5) <|
    if I 14 (ix (I 6 (ix v2))) ≤ (0 : Int32) then (
      m_nextSaying_j76 self v2)
    else (
      if v3 < I 0 30 then (
        some (.inl v2))
      else (
        if v3 = I 0 30 then (
          if I 0 31 ≤ p1 + (1 : Int32) then (
            m_nextSaying_j76 self v2)
          else (
            some (.inl v2)))
        else (
          m_nextSaying_j76 self v2))))
def m_nextSaying_l9 (I : PI) (p1 : Int32) : Nat → Int32 → Option ((Int32) ⊕ (Unit))
  | 0 => fun _ => none
  | k + 1 => m_nextSaying_b9 I p1 (m_nextSaying_l9 I p1 k)
def m_nextSaying (I : PI) (p1 : Int32) : Option (Int32) :=
  ck (inb p1 21) <|
  lt_ ((I 15 (ix p1)) + (1 : Int32)) fun v1 =>
  lbind (m_nextSaying_l9 I p1 fu v1) (some) <| fun _ =>
  some (-1 : Int32)
def m_layLeast_j182 (self : Int32 → PI → PJ → Option (PI × PJ)) (v10 : Int32) (J12 : PJ) (v15 : Int32) (I16 : PI) (w17 : Int64) (w18 : Int64) (v19 : Int32) : Option (PI × PJ) :=
  lt_ (v10 + (1 : Int32)) fun v20 =>
  ck (inb v20 21) <|
  lt_ (u2 I16 15 (ix v20) v15) fun I21 =>
  ck (inb v20 21) <|
  lt_ (u2 I21 16 (ix v20) v19) fun I22 =>
  ck (inb v20 21) <|
  lt_ (u2 J12 17 (ix v20) w17) fun J23 =>
  ck (inb v20 21) <|
  lt_ (u2 J23 18 (ix v20) w18) fun J24 =>
  self v20 I22 J24
def m_layLeast_b68  (self : Int32 → PI → PJ → Option (PI × PJ)) (v10 : Int32) (I11 : PI) (J12 : PJ) : Option (PI × PJ) :=
  if v10 < (0 : Int32) then (
    some (I11, J12))
  else (
    (m_nextSaying I11 v10).bind <| fun v15 =>
    if v15 = (-1 : Int32) then (
      lt_ (v10 + (-1 : Int32)) fun v27 =>
      self v27 I11 J12)
    else (
      ck (inb v10 21) <|
      lt_ (u2 I11 15 (ix v10) v15) fun I16 =>
      ck (inb v10 21) <|
      ck (inb v15 20) <|
      lt_ ((J12 17 (ix v10)) &&& (J12 7 (ix v15))) fun w17 =>
      ck (inb v10 21) <|
      ck (inb v15 20) <|
      lt_ ((J12 18 (ix v10)) &&& (J12 8 (ix v15))) fun w18 =>
      ck (inb v10 21) <|
      ck (inb v15 20) <|
      ck (inb (I16 6 (ix v15)) 5) <|
      lt_ ((I16 16 (ix v10)) + (I16 14 (ix (I16 6 (ix v15))))) fun v19 =>
      if w17 = (1 : Int64) then (
        if w18 = (0 : Int64) then (
          lt_ (u2 I16 0 30 v19) fun I25 =>
          lt_ (u2 I25 0 31 (v10 + (1 : Int32))) fun I26 =>
          self v10 I26 J12)
        else (
          m_layLeast_j182 self v10 J12 v15 I16 w17 w18 v19))
      else (
        m_layLeast_j182 self v10 J12 v15 I16 w17 w18 v19)))
def m_layLeast_l68  : Nat → Int32 → PI → PJ → Option (PI × PJ)
  | 0 => fun _ _ _ => none
  | k + 1 => m_layLeast_b68 (m_layLeast_l68 k)
def m_layLeast (I : PI) (J : PJ) (p1 : Int32) : Option (PI × PJ) :=
  (m_layCosts I p1).bind <| un2 fun v1 I2 =>
  if v1 = I2 0 29 then (
    some (I2, J))
  else (
    lt_ (u2 I2 0 29 v1) fun I3 =>
    lt_ (u2 I3 0 30 (1000000 : Int32)) fun I4 =>
    lt_ (u2 I4 0 31 (1000000 : Int32)) fun I5 =>
    ck (inb (0 : Int32) 21) <|
    lt_ (u2 I5 15 (ix (0 : Int32)) (-1 : Int32)) fun I6 =>
    ck (inb (0 : Int32) 21) <|
    lt_ (u2 I6 16 (ix (0 : Int32)) (0 : Int32)) fun I7 =>
    ck (inb (0 : Int32) 21) <|
    lt_ (u2 J 17 (ix (0 : Int32)) (1152921504606846975 : Int64)) fun J8 =>
    ck (inb (0 : Int32) 21) <|
    lt_ (u2 J8 18 (ix (0 : Int32)) (1152921504606846975 : Int64)) fun J9 =>
    (m_layLeast_l68 fu (0 : Int32) I7 J9).bind <| un2 fun I13 J14 =>
    some (I13, J14))
def m_lengthBy (I : PI) (J : PJ) (p1 : Int32) : Option (Int32 × PI × PJ) :=
  (m_isEnough I J p1).bind <| un2 fun v1 I2 =>
  if v1 = (0 : Int32) then (
    some ((-1 : Int32), I2, J))
  else (
    (m_layLeast I2 J p1).bind <| un2 fun I3 J4 =>
    some (I3 0 30, I3, J4))
def m_least (I : PI) (J : PJ) (p1 : Int32) (p2 : Int32) (p3 : Int32) : Option (Int32 × PI × PJ) :=
  (m_areForms I p1).bind <| fun v1 =>
  if v1 = (0 : Int32) then (
    some ((-1 : Int32), I, J))
  else (
    (m_isStory I p2).bind <| fun v2 =>
    if v2 = (0 : Int32) then (
      some ((-1 : Int32), I, J))
    else (
      (m_lengthBy I J p1).bind <| un3 fun v3 I4 J5 =>
      if v3 = (-1 : Int32) then (
        some ((-1 : Int32), I4, J5))
      else (
        if p3 = (0 : Int32) then (
          some (I4 0 30, I4, J5))
        else (
          some (I4 0 31, I4, J5)))))
def m_blurred (I : PI) (J : PJ) (p1 : Int32) (p2 : Int32) : Option (Int32 × PI) :=
  (m_areForms I p1).bind <| fun v1 =>
  if v1 = (0 : Int32) then (
    some ((-1 : Int32), I))
  else (
    (m_isStory I p2).bind <| fun v2 =>
    if v2 = (0 : Int32) then (
      some ((-1 : Int32), I))
    else (
      (m_blurredBy I J p1).bind <| un2 fun v3 I4 =>
      some (v3, I4)))
def m_undo_b36 (v2 : Int32) (self : Int32 → PI → Option (PI)) (v3 : Int32) (I4 : PI) : Option (PI) :=
  if (3 : Int32) ≤ v3 then (
    some I4)
  else (
    ck (inb ((v2 + (1 : Int32)) + v3) 1691) <|
    ck (inb ((8 : Int32) + v3) 1691) <|
    lt_ (u2 I4 1 (ix ((8 : Int32) + v3)) (I4 1 (ix ((v2 + (1 : Int32)) + v3)))) fun I6 =>
    lt_ (v3 + (1 : Int32)) fun v7 =>
    self v7 I6)
def m_undo_l36 (v2 : Int32) : Nat → Int32 → PI → Option (PI)
  | 0 => fun _ _ => none
  | k + 1 => m_undo_b36 v2 (m_undo_l36 v2 k)
def m_undo_b95 (v2 : Int32) (v8 : Int32) (self : Int32 → PI → Option (PI)) (v12 : Int32) (I13 : PI) : Option (PI) :=
  if (3 : Int32) ≤ v12 then (
    some I13)
  else (
    ck (inb v2 1691) <|
    if I13 1 (ix v2) ≤ v8 then (
      some I13)
    else (
      ck (inb (((v2 + (4 : Int32)) + ((3 : Int32) * v8)) + v12) 1691) <|
      (m_put I13 v8 v12 (I13 1 (ix (((v2 + (4 : Int32)) + ((3 : Int32) * v8)) + v12)))).bind <| fun I15 =>
      lt_ (v12 + (1 : Int32)) fun v16 =>
      self v16 I15))
def m_undo_l95 (v2 : Int32) (v8 : Int32) : Nat → Int32 → PI → Option (PI)
  | 0 => fun _ _ => none
  | k + 1 => m_undo_b95 v2 v8 (m_undo_l95 v2 v8 k)
def m_undo_j93 (self : Int32 → PI → Option (PI)) (v2 : Int32) (v8 : Int32) (I11 : PI) : Option (PI) :=
  (m_undo_l95 v2 v8 fu (0 : Int32) I11).bind <| fun I14 =>
  lt_ (v8 + (1 : Int32)) fun v17 =>
  self v17 I14
def m_undo_b68 (v2 : Int32) (self : Int32 → PI → Option (PI)) (v8 : Int32) (I9 : PI) : Option (PI) :=
  ck (inb (1 : Int32) 1691) <|
  if I9 1 (ix (1 : Int32)) ≤ v8 then (
    some I9)
  else (
    ck (inb v2 1691) <|
    if v8 < I9 1 (ix v2) then (
      m_undo_j93 self v2 v8 I9)
    else (
      (m_begin I9 v8).bind <| fun I18 =>
      m_undo_j93 self v2 v8 I18))
def m_undo_l68 (v2 : Int32) : Nat → Int32 → PI → Option (PI)
  | 0 => fun _ _ => none
  | k + 1 => m_undo_b68 v2 (m_undo_l68 v2 k)
def m_undo_b144 (v2 : Int32) (self : Int32 → PI → Option (PI)) (v19 : Int32) (I20 : PI) : Option (PI) :=
  if (30 : Int32) ≤ v19 then (
    some I20)
  else (
    ck (inb ((v2 + (22 : Int32)) + v19) 1691) <|
    ck (inb ((1661 : Int32) + v19) 1691) <|
    lt_ (u2 I20 1 (ix ((1661 : Int32) + v19)) (I20 1 (ix ((v2 + (22 : Int32)) + v19)))) fun I22 =>
    lt_ (v19 + (1 : Int32)) fun v23 =>
    self v23 I22)
def m_undo_l144 (v2 : Int32) : Nat → Int32 → PI → Option (PI)
  | 0 => fun _ _ => none
  | k + 1 => m_undo_b144 v2 (m_undo_l144 v2 k)
def m_undo (I : PI) : Option (Int32 × PI) :=
  ck (inb (5 : Int32) 1691) <|
  if I 1 (ix (5 : Int32)) = (0 : Int32) then (
    some ((-1 : Int32), I))
  else (
    ck (inb (5 : Int32) 1691) <|
    ck (inb (5 : Int32) 1691) <|
    lt_ (u2 I 1 (ix (5 : Int32)) ((I 1 (ix (5 : Int32))) - (1 : Int32))) fun I1 =>
    ck (inb (5 : Int32) 1691) <|
    lt_ ((101 : Int32) + ((52 : Int32) * (I1 1 (ix (5 : Int32))))) fun v2 =>
    (m_undo_l36 v2 fu (0 : Int32) I1).bind <| fun I5 =>
    (m_undo_l68 v2 fu (0 : Int32) I5).bind <| fun I10 =>
    (m_undo_l144 v2 fu (0 : Int32) I10).bind <| fun I21 =>
    ck (inb (5 : Int32) 1691) <|
    some (I21 1 (ix (5 : Int32)), I21))
def m_isForm (I : PI) (p1 : Int32) : Option (Int32) :=
  ck (inb (0 : Int32) 1691) <|
  (m_isIn p1 (0 : Int32) ((I 1 (ix (0 : Int32))) - (1 : Int32))).bind <| fun v1 =>
  ck (isb v1) <|
  some v1
def m_isPerson (I : PI) (p1 : Int32) : Option (Int32) :=
  ck (inb (1 : Int32) 1691) <|
  (m_isIn p1 (0 : Int32) ((I 1 (ix (1 : Int32))) - (1 : Int32))).bind <| fun v1 =>
  ck (isb v1) <|
  some v1
def m_bits_b4  (self : Int32 → Int32 → Option (Int32)) (v1 : Int32) (v2 : Int32) : Option (Int32) :=
  if v2 = (0 : Int32) then (
    some v1)
  else (
    lt_ (v1 + (1 : Int32)) fun v4 =>
    lt_ (v2 &&& (v2 - (1 : Int32))) fun v5 =>
    self v4 v5)
def m_bits_l4  : Nat → Int32 → Int32 → Option (Int32)
  | 0 => fun _ _ => none
  | k + 1 => m_bits_b4 (m_bits_l4 k)
def m_bits (p0 : Int32) : Option (Int32) :=
  (m_bits_l4 fu (0 : Int32) p0).bind <| fun v3 =>
  some v3
def m_name (I : PI) (p1 : Int32) (p2 : Int32) : Option (PI) :=
  ck (inb (8 : Int32) 1691) <|
  ck (inb (0 : Int32) 8) <|
  lt_ (u2 I 11 (ix (0 : Int32)) (I 1 (ix (8 : Int32)))) fun I1 =>
  ck (inb (1 : Int32) 8) <|
  lt_ (u2 I1 11 (ix (1 : Int32)) p2) fun I2 =>
  (m_kindOf I2 p2).bind <| fun v3 =>
  ck (inb (2 : Int32) 8) <|
  lt_ (u2 I2 11 (ix (2 : Int32)) v3) fun I4 =>
  (m_lengthOf I4 p2).bind <| fun v5 =>
  ck (inb (3 : Int32) 8) <|
  lt_ (u2 I4 11 (ix (3 : Int32)) v5) fun I6 =>
  (m_get I6 p1 (0 : Int32)).bind <| fun v7 =>
  ck (inb (4 : Int32) 8) <|
  lt_ (u2 I6 11 (ix (4 : Int32)) v7) fun I8 =>
  ck (inb (5 : Int32) 8) <|
  lt_ (u2 I8 11 (ix (5 : Int32)) p1) fun I9 =>
  (m_get I9 p1 (1 : Int32)).bind <| fun v10 =>
  (m_bits v10).bind <| fun v11 =>
  ck (inb (6 : Int32) 8) <|
  lt_ (u2 I9 11 (ix (6 : Int32)) v11) fun I12 =>
  (m_get I12 p1 (2 : Int32)).bind <| fun v13 =>
  ck (inb (7 : Int32) 8) <|
  lt_ (u2 I12 11 (ix (7 : Int32)) v13) fun I14 =>
  some I14
def m_halfOf (p0 : Int64) : Option (Int64) :=
  if (0 : Int64) ≤ p0 then (
    some ((p0 + (1 : Int64)) / (2 : Int64)))
  else (
    some ((p0 - (1 : Int64)) / (2 : Int64)))
def m_knownBy_j35 (self : Int32 → Int32 → Option (Int32)) (v1 : Int32) (v2 : Int32) (v6 : Int32) : Option (Int32) :=
  lt_ (v1 ||| v6) fun v7 =>
  lt_ (v2 + (1 : Int32)) fun v8 =>
  self v7 v8
def m_knownBy_b4 (I : PI) (p1 : Int32) (self : Int32 → Int32 → Option (Int32)) (v1 : Int32) (v2 : Int32) : Option (Int32) :=
  ck (inb (1 : Int32) 1691) <|
  if I 1 (ix (1 : Int32)) ≤ v2 then (
    some v1)
  else (
    (m_get I v2 (1 : Int32)).bind <| fun v4 =>
    (m_has v4 p1).bind <| fun v5 =>
    if v5 = (0 : Int32) then (
      m_knownBy_j35 self v1 v2 (0 : Int32))
    else (
      m_knownBy_j35 self v1 v2 ((1 : Int32) <<< (v2 &&& 31))))
def m_knownBy_l4 (I : PI) (p1 : Int32) : Nat → Int32 → Int32 → Option (Int32)
  | 0 => fun _ _ => none
  | k + 1 => m_knownBy_b4 I p1 (m_knownBy_l4 I p1 k)
def m_knownBy (I : PI) (p1 : Int32) : Option (Int32) :=
  (m_knownBy_l4 I p1 fu (0 : Int32) (0 : Int32)).bind <| fun v3 =>
  some v3
def m_knownOf (I : PI) (p1 : Int64) : Option (Int64) :=
  if p1 < (0 : Int64) then (
    some (0 : Int64))
  else (
    ck (inb (0 : Int32) 1691) <|
    if Int32.toInt64 (I 1 (ix (0 : Int32))) ≤ p1 then (
      some (0 : Int64))
    else (
      (m_knownBy I (Int64.toInt32 p1)).bind <| fun v1 =>
      (m_bits v1).bind <| fun v2 =>
      some (Int32.toInt64 v2)))
def m_ofOne (I : PI) (p1 : Int32) (p2 : Int64) : Option (Int64) :=
  if p1 = (5 : Int32) then (
    some (-p2))
  else (
    if p1 = (4 : Int32) then (
      (m_halfOf p2).bind <| fun w2 =>
      some w2)
    else (
      (m_knownOf I p2).bind <| fun w1 =>
      some w1))
def m_clip (p0 : Int64) : Option (Int64) :=
  if p0 ≤ (1000000 : Int64) then (
    if (-1000000 : Int64) ≤ p0 then (
      some p0)
    else (
      some (-1000000 : Int64)))
  else (
    some (1000000 : Int64))
def m_two (p0 : Int32) (p1 : Int64) (p3 : Int64) : Option (Int64) :=
  if p0 = (6 : Int32) then (
    (m_clip (p1 + p3)).bind <| fun w1 =>
    some w1)
  else (
  if p0 = (7 : Int32) then (
    (m_clip (p1 - p3)).bind <| fun w2 =>
    some w2)
  else (
  if p0 = (8 : Int32) then (
    (m_clip (p1 * p3)).bind <| fun w3 =>
    some w3)
  else (
  if p3 = (0 : Int64) then (
    some (0 : Int64))
  else (
    ck (nzl p3) <|
    (m_clip (p1 / p3)).bind <| fun w4 =>
    some w4))))
def m_isAsked (p0 : Int32) (p1 : Int64) (p3 : Int64) : Option (Int32) :=
  if p0 = (10 : Int32) then (
    if p3 ≤ p1 then (
      some (0 : Int32))
    else (
      some (1 : Int32)))
  else (
    if p0 = (11 : Int32) then (
      if p3 < p1 then (
        some (0 : Int32))
      else (
        some (1 : Int32)))
    else (
      if p0 = (12 : Int32) then (
        if p1 ≤ p3 then (
          some (0 : Int32))
        else (
          some (1 : Int32)))
      else (
        if p0 = (13 : Int32) then (
          if p1 < p3 then (
            some (0 : Int32))
          else (
            some (1 : Int32)))
        else (
          if p0 = (14 : Int32) then (
            if p1 = p3 then (
              some (1 : Int32))
            else (
              some (0 : Int32)))
          else (
            if p1 = p3 then (
              some (0 : Int32))
            else (
              some (1 : Int32)))))))
def m_joined (p0 : Int32) (p1 : Int32) (p2 : Int32) : Option (Int32) :=
  if p0 = (21 : Int32) then (
    if p1 = (0 : Int32) then (
      some (0 : Int32))
    else (
      if p2 = (0 : Int32) then (
        some (0 : Int32))
      else (
        some (1 : Int32))))
  else (
    if p1 = (0 : Int32) then (
      if p2 = (0 : Int32) then (
        some (0 : Int32))
      else (
        some (1 : Int32)))
    else (
      some (1 : Int32)))
def m_summedUp_j349 (self : Int32 → Int32 → Int32 → PI → PJ → Option (PI × PJ)) (v6 : Int32) (v13 : Int32) (v14 : Int32) (I15 : PI) (J16 : PJ) : Option (PI × PJ) :=
  lt_ (v6 + (1 : Int32)) fun v17 =>
  self v13 v14 v17 I15 J16
def m_summedUp_j312 (self : Int32 → Int32 → Int32 → PI → PJ → Option (PI × PJ)) (v4 : Int32) (v5 : Int32) (v6 : Int32) (I7 : PI) (J8 : PJ) (v21 : Int32) : Option (PI × PJ) :=
  ck (inb (v5 - (1 : Int32)) 330) <|
  lt_ (u2 I7 13 (ix (v5 - (1 : Int32))) (vp_nar .boolean v21)) fun I22 =>
  m_summedUp_j349 self v6 v4 v5 I22 J8
def m_summedUp_j112 (self : Int32 → Int32 → Int32 → PI → PJ → Option (PI × PJ)) (v4 : Int32) (v5 : Int32) (v6 : Int32) (I7 : PI) (J8 : PJ) (w35 : Int64) : Option (PI × PJ) :=
  ck (inb v4 330) <|
  lt_ (u2 J8 12 (ix v4) w35) fun J36 =>
  lt_ (v4 + (1 : Int32)) fun v37 =>
  m_summedUp_j349 self v6 v37 v5 I7 J36
def m_summedUp_b38 (v1 : Int32) (v2 : Int32) (self : Int32 → Int32 → Int32 → PI → PJ → Option (PI × PJ)) (v4 : Int32) (v5 : Int32) (v6 : Int32) (I7 : PI) (J8 : PJ) : Option (PI × PJ) :=
  ck (inb (v1 + (2 : Int32)) 2820) <|
  if I7 3 (ix (v1 + (2 : Int32))) ≤ v6 then (
    some (I7, J8))
  else (
    ck (inb (v2 + ((2 : Int32) * v6)) 2820) <|
    lt_ (I7 3 (ix (v2 + ((2 : Int32) * v6)))) fun v11 =>
    ck (inb ((v2 + ((2 : Int32) * v6)) + (1 : Int32)) 2820) <|
    lt_ (I7 3 (ix ((v2 + ((2 : Int32) * v6)) + (1 : Int32)))) fun v12 =>
    if (1 : Int32) < v11 then (
      if v11 = (3 : Int32) then (
        lt_ (v4 + (-1 : Int32)) fun v32 =>
        lt_ (v5 + (-1 : Int32)) fun v33 =>
        ck (inb v33 330) <|
        if I7 13 (ix v33) = (0 : Int32) then (
          ck (inb v32 330) <|
          ck (inb (v32 - (1 : Int32)) 330) <|
          lt_ (u2 J8 12 (ix (v32 - (1 : Int32))) (J8 12 (ix v32))) fun J34 =>
          m_summedUp_j349 self v6 v32 v33 I7 J34)
        else (
          m_summedUp_j349 self v6 v32 v33 I7 J8))
      else (
        if (5 : Int32) < v11 then (
          if (10 : Int32) ≤ v11 then (
            if (20 : Int32) ≤ v11 then (
              if v11 = (20 : Int32) then (
                ck (inb (v5 - (1 : Int32)) 330) <|
                if I7 13 (ix (v5 - (1 : Int32))) = (0 : Int32) then (
                  m_summedUp_j312 self v4 v5 v6 I7 J8 (1 : Int32))
                else (
                  m_summedUp_j312 self v4 v5 v6 I7 J8 (0 : Int32)))
              else (
                lt_ (v5 + (-1 : Int32)) fun v18 =>
                ck (inb (v18 - (1 : Int32)) 330) <|
                ck (inb v18 330) <|
                (m_joined v11 (I7 13 (ix (v18 - (1 : Int32)))) (I7 13 (ix v18))).bind <| fun v19 =>
                ck (inb (v18 - (1 : Int32)) 330) <|
                lt_ (u2 I7 13 (ix (v18 - (1 : Int32))) (vp_nar .boolean v19)) fun I20 =>
                m_summedUp_j349 self v6 v4 v18 I20 J8))
            else (
              lt_ (v4 + (-2 : Int32)) fun v23 =>
              ck (inb v23 330) <|
              ck (inb (v23 + (1 : Int32)) 330) <|
              (m_isAsked v11 (J8 12 (ix v23)) (J8 12 (ix (v23 + (1 : Int32))))).bind <| fun v24 =>
              ck (inb v5 330) <|
              lt_ (u2 I7 13 (ix v5) (vp_nar .boolean v24)) fun I25 =>
              lt_ (v5 + (1 : Int32)) fun v26 =>
              m_summedUp_j349 self v6 v23 v26 I25 J8))
          else (
            lt_ (v4 + (-1 : Int32)) fun v27 =>
            ck (inb (v27 - (1 : Int32)) 330) <|
            ck (inb v27 330) <|
            (m_two v11 (J8 12 (ix (v27 - (1 : Int32)))) (J8 12 (ix v27))).bind <| fun w28 =>
            ck (inb (v27 - (1 : Int32)) 330) <|
            lt_ (u2 J8 12 (ix (v27 - (1 : Int32))) w28) fun J29 =>
            m_summedUp_j349 self v6 v27 v5 I7 J29))
        else (
          ck (inb (v4 - (1 : Int32)) 330) <|
          (m_ofOne I7 v11 (J8 12 (ix (v4 - (1 : Int32))))).bind <| fun w30 =>
          ck (inb (v4 - (1 : Int32)) 330) <|
          lt_ (u2 J8 12 (ix (v4 - (1 : Int32))) w30) fun J31 =>
          m_summedUp_j349 self v6 v4 v5 I7 J31)))
    else (
      if v11 = (0 : Int32) then (
        m_summedUp_j112 self v4 v5 v6 I7 J8 (Int32.toInt64 v12))
      else (
        ck (inb v12 8) <|
        m_summedUp_j112 self v4 v5 v6 I7 J8 (Int32.toInt64 (I7 11 (ix v12))))))
def m_summedUp_l38 (v1 : Int32) (v2 : Int32) : Nat → Int32 → Int32 → Int32 → PI → PJ → Option (PI × PJ)
  | 0 => fun _ _ _ _ _ => none
  | k + 1 => m_summedUp_b38 v1 v2 (m_summedUp_l38 v1 v2 k)
def m_summedUp (I : PI) (J : PJ) (p1 : Int32) (p2 : Int32) : Option (Int64 × PI × PJ) :=
  lt_ ((((705 : Int32) * p1) + (1 : Int32)) + ((4 : Int32) * p2)) fun v1 =>
  lt_ (((705 : Int32) * p1) + (97 : Int32)) fun v2 =>
  ck (inb (v1 + (1 : Int32)) 2820) <|
  lt_ (I 3 (ix (v1 + (1 : Int32)))) fun v3 =>
  (m_summedUp_l38 v1 v2 fu (0 : Int32) (0 : Int32) v3 I J).bind <| un2 fun I9 J10 =>
  ck (inb (0 : Int32) 330) <|
  some (J10 12 (ix (0 : Int32)), I9, J10)
def m_cut (p0 : Int64) (p2 : Int32) (p3 : Int32) : Option (Int32) :=
  if Int32.toInt64 p2 ≤ p0 then (
    if p0 ≤ Int32.toInt64 p3 then (
      some (Int64.toInt32 p0))
    else (
      some p3))
  else (
    some p2)
def m_says_b3 (I : PI) (J : PJ) (p1 : Int32) (p2 : Int32) (p4 : Int32) (p5 : Int32) (self : Int32 → Option ((Int32 × PI × PJ) ⊕ (Unit))) (v1 : Int32) : Option ((Int32 × PI × PJ) ⊕ (Unit)) :=
  if p1 < (0 : Int32) then (
    some (.inr ()))
  else (
    ck (inb ((705 : Int32) * p1) 2820) <|
    if I 3 (ix ((705 : Int32) * p1)) ≤ v1 then (
      some (.inr ()))
    else (
      ck (inb ((((705 : Int32) * p1) + (1 : Int32)) + ((4 : Int32) * v1)) 2820) <|
      if I 3 (ix ((((705 : Int32) * p1) + (1 : Int32)) + ((4 : Int32) * v1))) = p2 then (
        (m_summedUp I J p1 v1).bind <| un3 fun w3 I4 J5 =>
        (m_cut w3 p4 p5).bind <| fun v6 =>
        some (.inl (v6, I4, J5)))
      else (
        lt_ (v1 + (1 : Int32)) fun v2 =>
        self v2)))
def m_says_l3 (I : PI) (J : PJ) (p1 : Int32) (p2 : Int32) (p4 : Int32) (p5 : Int32) : Nat → Int32 → Option ((Int32 × PI × PJ) ⊕ (Unit))
  | 0 => fun _ => none
  | k + 1 => m_says_b3 I J p1 p2 p4 p5 (m_says_l3 I J p1 p2 p4 p5 k)
def m_says (I : PI) (J : PJ) (p1 : Int32) (p2 : Int32) (p3 : Int32) (p4 : Int32) (p5 : Int32) : Option (Int32 × PI × PJ) :=
  lbind (m_says_l3 I J p1 p2 p4 p5 fu (0 : Int32)) (some) <| fun _ =>
  some (p3, I, J)
def m_learnsOf (I : PI) (J : PJ) (p1 : Int32) (p2 : Int32) : Option (Int32 × PI × PJ) :=
  (m_name I p1 p2).bind <| fun I1 =>
  ck (inb (4 : Int32) 1691) <|
  (m_says I1 J (I1 1 (ix (4 : Int32))) (1 : Int32) (1 : Int32) (-99 : Int32) (99 : Int32)).bind <| un3 fun v2 I3 J4 =>
  some (v2, I3, J4)
def m_canTeach (I : PI) (J : PJ) (p1 : Int32) (p2 : Int32) (p3 : Int32) : Option (Int32 × PI × PJ) :=
  (m_isForm I p1).bind <| fun v1 =>
  if v1 = (0 : Int32) then (
    some ((0 : Int32), I, J))
  else (
    (m_isPerson I p2).bind <| fun v2 =>
    if v2 = (0 : Int32) then (
      some ((0 : Int32), I, J))
    else (
      (m_isPerson I p3).bind <| fun v3 =>
      if v3 = (0 : Int32) then (
        some ((0 : Int32), I, J))
      else (
        (m_get I p2 (1 : Int32)).bind <| fun v4 =>
        (m_has v4 p1).bind <| fun v5 =>
        if v5 = (0 : Int32) then (
          some ((0 : Int32), I, J))
        else (
          (m_get I p3 (1 : Int32)).bind <| fun v6 =>
          (m_has v6 p1).bind <| fun v7 =>
          if v7 = (0 : Int32) then (
            (m_get I p2 (2 : Int32)).bind <| fun v8 =>
            (m_lengthOf I p1).bind <| fun v9 =>
            if v8 < v9 then (
              some ((0 : Int32), I, J))
            else (
              (m_learnsOf I J p3 p1).bind <| un3 fun v10 I11 J12 =>
              if v10 ≤ (0 : Int32) then (
                some ((0 : Int32), I11, J12))
              else (
                some ((1 : Int32), I11, J12))))
          else (
            some ((0 : Int32), I, J))))))
def m_keepStep_b82 (v2 : Int32) (self : Int32 → PI → Option (PI)) (v4 : Int32) (I5 : PI) : Option (PI) :=
  if (3 : Int32) ≤ v4 then (
    some I5)
  else (
    ck (inb ((8 : Int32) + v4) 1691) <|
    ck (inb ((v2 + (1 : Int32)) + v4) 1691) <|
    lt_ (u2 I5 1 (ix ((v2 + (1 : Int32)) + v4)) (I5 1 (ix ((8 : Int32) + v4)))) fun I7 =>
    lt_ (v4 + (1 : Int32)) fun v8 =>
    self v8 I7)
def m_keepStep_l82 (v2 : Int32) : Nat → Int32 → PI → Option (PI)
  | 0 => fun _ _ => none
  | k + 1 => m_keepStep_b82 v2 (m_keepStep_l82 v2 k)
def m_keepStep_b122 (v2 : Int32) (v9 : Int32) (self : Int32 → PI → Option (PI)) (v12 : Int32) (I13 : PI) : Option (PI) :=
  if (3 : Int32) ≤ v12 then (
    some I13)
  else (
    (m_get I13 v9 v12).bind <| fun v15 =>
    ck (inb (((v2 + (4 : Int32)) + ((3 : Int32) * v9)) + v12) 1691) <|
    lt_ (u2 I13 1 (ix (((v2 + (4 : Int32)) + ((3 : Int32) * v9)) + v12)) v15) fun I16 =>
    lt_ (v12 + (1 : Int32)) fun v17 =>
    self v17 I16)
def m_keepStep_l122 (v2 : Int32) (v9 : Int32) : Nat → Int32 → PI → Option (PI)
  | 0 => fun _ _ => none
  | k + 1 => m_keepStep_b122 v2 v9 (m_keepStep_l122 v2 v9 k)
def m_keepStep_b114 (v2 : Int32) (self : Int32 → PI → Option (PI)) (v9 : Int32) (I10 : PI) : Option (PI) :=
  if (6 : Int32) ≤ v9 then (
    some I10)
  else (
    (m_keepStep_l122 v2 v9 fu (0 : Int32) I10).bind <| fun I14 =>
    lt_ (v9 + (1 : Int32)) fun v18 =>
    self v18 I14)
def m_keepStep_l114 (v2 : Int32) : Nat → Int32 → PI → Option (PI)
  | 0 => fun _ _ => none
  | k + 1 => m_keepStep_b114 v2 (m_keepStep_l114 v2 k)
def m_keepStep_b161 (v2 : Int32) (self : Int32 → PI → Option (PI)) (v19 : Int32) (I20 : PI) : Option (PI) :=
  if (30 : Int32) ≤ v19 then (
    some I20)
  else (
    ck (inb ((1661 : Int32) + v19) 1691) <|
    ck (inb ((v2 + (22 : Int32)) + v19) 1691) <|
    lt_ (u2 I20 1 (ix ((v2 + (22 : Int32)) + v19)) (I20 1 (ix ((1661 : Int32) + v19)))) fun I22 =>
    lt_ (v19 + (1 : Int32)) fun v23 =>
    self v23 I22)
def m_keepStep_l161 (v2 : Int32) : Nat → Int32 → PI → Option (PI)
  | 0 => fun _ _ => none
  | k + 1 => m_keepStep_b161 v2 (m_keepStep_l161 v2 k)
def m_keepStep_j55 (I1 : PI) : Option (PI) :=
  ck (inb (5 : Int32) 1691) <|
  lt_ ((101 : Int32) + ((52 : Int32) * (I1 1 (ix (5 : Int32))))) fun v2 =>
  ck (inb (1 : Int32) 1691) <|
  ck (inb v2 1691) <|
  lt_ (u2 I1 1 (ix v2) (I1 1 (ix (1 : Int32)))) fun I3 =>
  (m_keepStep_l82 v2 fu (0 : Int32) I3).bind <| fun I6 =>
  (m_keepStep_l114 v2 fu (0 : Int32) I6).bind <| fun I11 =>
  (m_keepStep_l161 v2 fu (0 : Int32) I11).bind <| fun I21 =>
  ck (inb (5 : Int32) 1691) <|
  ck (inb (5 : Int32) 1691) <|
  lt_ (u2 I21 1 (ix (5 : Int32)) ((I21 1 (ix (5 : Int32))) + (1 : Int32))) fun I24 =>
  some I24
def m_keepStep_b13  (self : Int32 → PI → Option (PI)) (v25 : Int32) (I26 : PI) : Option (PI) :=
  if (1508 : Int32) ≤ v25 then (
    some I26)
  else (
    ck (inb ((153 : Int32) + v25) 1691) <|
    ck (inb ((101 : Int32) + v25) 1691) <|
    lt_ (u2 I26 1 (ix ((101 : Int32) + v25)) (I26 1 (ix ((153 : Int32) + v25)))) fun I28 =>
    lt_ (v25 + (1 : Int32)) fun v29 =>
    self v29 I28)
def m_keepStep_l13  : Nat → Int32 → PI → Option (PI)
  | 0 => fun _ _ => none
  | k + 1 => m_keepStep_b13 (m_keepStep_l13 k)
def m_keepStep (I : PI) : Option (PI) :=
  ck (inb (5 : Int32) 1691) <|
  if I 1 (ix (5 : Int32)) = (30 : Int32) then (
    (m_keepStep_l13 fu (0 : Int32) I).bind <| fun I27 =>
    ck (inb (5 : Int32) 1691) <|
    ck (inb (5 : Int32) 1691) <|
    lt_ (u2 I27 1 (ix (5 : Int32)) ((I27 1 (ix (5 : Int32))) - (1 : Int32))) fun I30 =>
    m_keepStep_j55 I30)
  else (
    m_keepStep_j55 I)
def m_teachNow (I : PI) (p1 : Int32) (p2 : Int32) (p3 : Int32) : Option (PI) :=
  (m_get I p3 (1 : Int32)).bind <| fun v1 =>
  (m_put I p3 (1 : Int32) (v1 ||| ((1 : Int32) <<< (p1 &&& 31)))).bind <| fun I2 =>
  (m_get I2 p2 (2 : Int32)).bind <| fun v3 =>
  (m_lengthOf I2 p1).bind <| fun v4 =>
  (m_put I2 p2 (2 : Int32) (v3 - v4)).bind <| fun I5 =>
  some I5
def m_teach (I : PI) (J : PJ) (p1 : Int32) (p2 : Int32) (p3 : Int32) : Option (Int32 × PI × PJ) :=
  (m_canTeach I J p1 p2 p3).bind <| un3 fun v1 I2 J3 =>
  if v1 = (0 : Int32) then (
    some ((0 : Int32), I2, J3))
  else (
    (m_keepStep I2).bind <| fun I4 =>
    (m_teachNow I4 p1 p2 p3).bind <| fun I5 =>
    some ((1 : Int32), I5, J3))
def m_canForget (I : PI) (p1 : Int32) (p2 : Int32) : Option (Int32) :=
  (m_isPerson I p1).bind <| fun v1 =>
  if v1 = (0 : Int32) then (
    some (0 : Int32))
  else (
    (m_isForm I p2).bind <| fun v2 =>
    if v2 = (0 : Int32) then (
      some (0 : Int32))
    else (
      (m_get I p1 (1 : Int32)).bind <| fun v3 =>
      (m_has v3 p2).bind <| fun v4 =>
      if v4 = (0 : Int32) then (
        some (0 : Int32))
      else (
        some (1 : Int32))))
def m_forgetNow (I : PI) (p1 : Int32) (p2 : Int32) : Option (PI) :=
  (m_get I p1 (1 : Int32)).bind <| fun v1 =>
  (m_put I p1 (1 : Int32) (v1 &&& (((1 : Int32) <<< (p2 &&& 31)) ^^^ (-1 : Int32)))).bind <| fun I2 =>
  some I2
def m_forget (I : PI) (p1 : Int32) (p2 : Int32) : Option (Int32 × PI) :=
  (m_canForget I p1 p2).bind <| fun v1 =>
  if v1 = (0 : Int32) then (
    some ((0 : Int32), I))
  else (
    (m_keepStep I).bind <| fun I2 =>
    (m_forgetNow I2 p1 p2).bind <| fun I3 =>
    some ((1 : Int32), I3))
def m_canTell (I : PI) (J : PJ) (p1 : Int32) (p2 : Int32) : Option (Int32 × PI × PJ) :=
  (m_isPerson I p1).bind <| fun v1 =>
  if v1 = (0 : Int32) then (
    some ((0 : Int32), I, J))
  else (
    (m_isStory I p2).bind <| fun v2 =>
    if v2 = (0 : Int32) then (
      some ((0 : Int32), I, J))
    else (
      (m_get I p1 (1 : Int32)).bind <| fun v3 =>
      (m_lengthBy I J v3).bind <| un3 fun v4 I5 J6 =>
      if v4 = (-1 : Int32) then (
        some ((0 : Int32), I5, J6))
      else (
        (m_get I5 p1 (1 : Int32)).bind <| fun v7 =>
        (m_lengthBy I5 J6 v7).bind <| un3 fun v8 I9 J10 =>
        (m_get I9 p1 (2 : Int32)).bind <| fun v11 =>
        if v11 < v8 then (
          some ((0 : Int32), I9, J10))
        else (
          some ((1 : Int32), I9, J10)))))
def m_write_j71 (p1 : Int32) (p2 : Int32) (p3 : Int32) (I1 : PI) : Option (PI) :=
  ck (inb (10 : Int32) 1691) <|
  ck (inb (8 : Int32) 1691) <|
  ck (inb ((1661 : Int32) + (I1 1 (ix (10 : Int32)))) 1691) <|
  lt_ (u2 I1 1 (ix ((1661 : Int32) + (I1 1 (ix (10 : Int32))))) (((((((I1 1 (ix (8 : Int32))) * (6 : Int32)) + p1) * (4 : Int32)) + p2) * (100 : Int32)) + p3)) fun I2 =>
  ck (inb (10 : Int32) 1691) <|
  ck (inb (10 : Int32) 1691) <|
  lt_ (u2 I2 1 (ix (10 : Int32)) ((I2 1 (ix (10 : Int32))) + (1 : Int32))) fun I3 =>
  some I3
def m_write_b23  (self : Int32 → PI → Option (PI)) (v4 : Int32) (I5 : PI) : Option (PI) :=
  if (30 : Int32) ≤ v4 then (
    some I5)
  else (
    ck (inb ((1661 : Int32) + v4) 1691) <|
    ck (inb (((1661 : Int32) + v4) - (1 : Int32)) 1691) <|
    lt_ (u2 I5 1 (ix (((1661 : Int32) + v4) - (1 : Int32))) (I5 1 (ix ((1661 : Int32) + v4)))) fun I7 =>
    lt_ (v4 + (1 : Int32)) fun v8 =>
    self v8 I7)
def m_write_l23  : Nat → Int32 → PI → Option (PI)
  | 0 => fun _ _ => none
  | k + 1 => m_write_b23 (m_write_l23 k)
def m_write (I : PI) (p1 : Int32) (p2 : Int32) (p3 : Int32) : Option (PI) :=
  if I 0 36 = (0 : Int32) then (
    some I)
  else (
    ck (inb (10 : Int32) 1691) <|
    if I 1 (ix (10 : Int32)) = (30 : Int32) then (
      (m_write_l23 fu (1 : Int32) I).bind <| fun I6 =>
      ck (inb (10 : Int32) 1691) <|
      ck (inb (10 : Int32) 1691) <|
      lt_ (u2 I6 1 (ix (10 : Int32)) ((I6 1 (ix (10 : Int32))) - (1 : Int32))) fun I9 =>
      m_write_j71 p1 p2 p3 I9)
    else (
      m_write_j71 p1 p2 p3 I))
def m_tellNow (I : PI) (J : PJ) (p1 : Int32) (p2 : Int32) : Option (Int32 × PI × PJ) :=
  (m_get I p1 (1 : Int32)).bind <| fun v1 =>
  (m_lengthBy I J v1).bind <| un3 fun v2 I3 J4 =>
  (m_get I3 p1 (2 : Int32)).bind <| fun v5 =>
  (m_put I3 p1 (2 : Int32) (v5 - v2)).bind <| fun I6 =>
  (m_write I6 p1 p2 v2).bind <| fun I7 =>
  some (v2, I7, J4)
def m_tell (I : PI) (J : PJ) (p1 : Int32) (p2 : Int32) : Option (Int32 × PI × PJ) :=
  (m_canTell I J p1 p2).bind <| un3 fun v1 I2 J3 =>
  if v1 = (0 : Int32) then (
    some ((-1 : Int32), I2, J3))
  else (
    (m_keepStep I2).bind <| fun I4 =>
    (m_tellNow I4 J3 p1 p2).bind <| un3 fun v5 I6 J7 =>
    some (v5, I6, J7))
def m_fadesOf (I : PI) (J : PJ) (p1 : Int32) (p2 : Int32) (p3 : Int32) : Option (Int32 × PI × PJ) :=
  (m_name I p2 p3).bind <| fun I1 =>
  ck (inb (4 : Int32) 8) <|
  (m_says I1 J p1 (0 : Int32) ((I1 11 (ix (4 : Int32))) / (20 : Int32)) (0 : Int32) (10 : Int32)).bind <| un3 fun v2 I3 J4 =>
  some (v2, I3, J4)
def m_anew (I : PI) : Option (PI) :=
  ck (inb (9 : Int32) 1691) <|
  ck (inb (9 : Int32) 1691) <|
  lt_ (u2 I 1 (ix (9 : Int32)) (Int64.toInt32 ((((Int32.toInt64 (I 1 (ix (9 : Int32)))) * (521 : Int64)) + (401 : Int64)) - (((Int32.toInt64 (I 1 (ix (9 : Int32)))) * (521 : Int64)) + (401 : Int64)) / (30703 : Int64) * (30703 : Int64)))) fun I1 =>
  some I1
def m_agePerson_j98 (self : Int32 → PI → PJ → Option (PI × PJ)) (v1 : Int32) (I8 : PI) (J9 : PJ) : Option (PI × PJ) :=
  lt_ (v1 + (1 : Int32)) fun v10 =>
  self v10 I8 J9
def m_agePerson_j58 (self : Int32 → PI → PJ → Option (PI × PJ)) (p1 : Int32) (v1 : Int32) (I12 : PI) (J13 : PJ) (v14 : Int32) : Option (PI × PJ) :=
  (m_anew I12).bind <| fun I15 =>
  if v14 = (0 : Int32) then (
    m_agePerson_j98 self v1 I15 J13)
  else (
    (m_get I15 p1 (1 : Int32)).bind <| fun v16 =>
    (m_put I15 p1 (1 : Int32) (v16 &&& (((1 : Int32) <<< (v1 &&& 31)) ^^^ (-1 : Int32)))).bind <| fun I17 =>
    lt_ (u2 I17 0 37 ((I17 0 37) + (1 : Int32))) fun I18 =>
    m_agePerson_j98 self v1 I18 J13)
def m_agePerson_b2 (p1 : Int32) (self : Int32 → PI → PJ → Option (PI × PJ)) (v1 : Int32) (I2 : PI) (J3 : PJ) : Option (PI × PJ) :=
  ck (inb (0 : Int32) 1691) <|
  if I2 1 (ix (0 : Int32)) ≤ v1 then (
    some (I2, J3))
  else (
    (m_get I2 p1 (1 : Int32)).bind <| fun v6 =>
    (m_has v6 v1).bind <| fun v7 =>
    if v7 = (0 : Int32) then (
      m_agePerson_j98 self v1 I2 J3)
    else (
      ck (inb (9 : Int32) 1691) <|
      ck (inb (4 : Int32) 1691) <|
      (m_fadesOf I2 J3 (I2 1 (ix (4 : Int32))) p1 v1).bind <| un3 fun v11 I12 J13 =>
      if v11 ≤ (I2 1 (ix (9 : Int32))) - (I2 1 (ix (9 : Int32))) / (10 : Int32) * (10 : Int32) then (
        m_agePerson_j58 self p1 v1 I12 J13 (0 : Int32))
      else (
        m_agePerson_j58 self p1 v1 I12 J13 (1 : Int32))))
def m_agePerson_l2 (p1 : Int32) : Nat → Int32 → PI → PJ → Option (PI × PJ)
  | 0 => fun _ _ _ => none
  | k + 1 => m_agePerson_b2 p1 (m_agePerson_l2 p1 k)
def m_agePerson (I : PI) (J : PJ) (p1 : Int32) : Option (PI × PJ) :=
  (m_agePerson_l2 p1 fu (0 : Int32) I J).bind <| un2 fun I4 J5 =>
  (m_get I4 p1 (0 : Int32)).bind <| fun v19 =>
  (m_cut (Int32.toInt64 (v19 + (1 : Int32))) (0 : Int32) (99 : Int32)).bind <| fun v20 =>
  (m_put I4 p1 (0 : Int32) v20).bind <| fun I21 =>
  (m_get I21 p1 (2 : Int32)).bind <| fun v22 =>
  (m_cut (Int32.toInt64 (v22 + (10 : Int32))) (0 : Int32) (99 : Int32)).bind <| fun v23 =>
  (m_put I21 p1 (2 : Int32) v23).bind <| fun I24 =>
  some (I24, J5)
def m_pass_b2  (self : Int32 → PI → PJ → Option (PI × PJ)) (v1 : Int32) (I2 : PI) (J3 : PJ) : Option (PI × PJ) :=
  ck (inb (1 : Int32) 1691) <|
  if I2 1 (ix (1 : Int32)) ≤ v1 then (
    some (I2, J3))
  else (
    (m_agePerson I2 J3 v1).bind <| un2 fun I6 J7 =>
    lt_ (v1 + (1 : Int32)) fun v8 =>
    self v8 I6 J7)
def m_pass_l2  : Nat → Int32 → PI → PJ → Option (PI × PJ)
  | 0 => fun _ _ _ => none
  | k + 1 => m_pass_b2 (m_pass_l2 k)
def m_pass (I : PI) (J : PJ) : Option (PI × PJ) :=
  (m_pass_l2 fu (0 : Int32) I J).bind <| un2 fun I4 J5 =>
  ck (inb (8 : Int32) 1691) <|
  ck (inb (8 : Int32) 1691) <|
  lt_ (u2 I4 1 (ix (8 : Int32)) ((I4 1 (ix (8 : Int32))) + (1 : Int32))) fun I9 =>
  some (I9, J5)
def m_arePassed_b7 (p1 : Int32) (self : Int32 → PI → PJ → Option ((Int32 × PI × PJ) ⊕ (PI × PJ))) (v2 : Int32) (I3 : PI) (J4 : PJ) : Option ((Int32 × PI × PJ) ⊕ (PI × PJ)) :=
  if p1 ≤ v2 then (
    some (.inr (I3, J4)))
  else (
    ck (inb (8 : Int32) 1691) <|
    if I3 1 (ix (8 : Int32)) = (9999 : Int32) then (
      some (.inl ((0 : Int32), I3, J4)))
    else (
      (m_keepStep I3).bind <| fun I7 =>
      (m_pass I7 J4).bind <| un2 fun I8 J9 =>
      lt_ (v2 + (1 : Int32)) fun v10 =>
      self v10 I8 J9))
def m_arePassed_l7 (p1 : Int32) : Nat → Int32 → PI → PJ → Option ((Int32 × PI × PJ) ⊕ (PI × PJ))
  | 0 => fun _ _ _ => none
  | k + 1 => m_arePassed_b7 p1 (m_arePassed_l7 p1 k)
def m_arePassed (I : PI) (J : PJ) (p1 : Int32) : Option (Int32 × PI × PJ) :=
  lt_ (u2 I 0 37 (0 : Int32)) fun I1 =>
  lbind (m_arePassed_l7 p1 fu (0 : Int32) I1 J) (some) <| un2 fun I5 J6 =>
  some ((1 : Int32), I5, J6)
def m_year (I : PI) (J : PJ) (p1 : Int32) : Option (Int32 × PI × PJ) :=
  (m_isIn p1 (1 : Int32) (60 : Int32)).bind <| fun v1 =>
  if v1 = (0 : Int32) then (
    some ((-1 : Int32), I, J))
  else (
    ck (inb (8 : Int32) 1691) <|
    if (9999 : Int32) < (I 1 (ix (8 : Int32))) + p1 then (
      some ((-1 : Int32), I, J))
    else (
      (m_arePassed I J p1).bind <| un3 fun v2 I3 J4 =>
      if v2 = (0 : Int32) then (
        some ((-1 : Int32), I3, J4))
      else (
        some (I3 0 37, I3, J4))))
def m_isPlayed (I : PI) (J : PJ) (p1 : Int32) : Option (Int32 × PI × PJ) :=
  ck (inb (p1 + (1 : Int32)) 2820) <|
  lt_ (I 3 (ix (p1 + (1 : Int32)))) fun v1 =>
  ck (inb (p1 + (2 : Int32)) 2820) <|
  lt_ (I 3 (ix (p1 + (2 : Int32)))) fun v2 =>
  ck (inb p1 2820) <|
  lt_ (I 3 (ix p1)) fun v3 =>
  if v3 = (2 : Int32) then (
    (m_form I v1 v2).bind <| un2 fun v4 I5 =>
    if v4 < (0 : Int32) then (
      some ((0 : Int32), I5, J))
    else (
      some ((1 : Int32), I5, J)))
  else (
  if v3 = (3 : Int32) then (
    (m_person I v1 v2).bind <| un2 fun v6 I7 =>
    if v6 < (0 : Int32) then (
      some ((0 : Int32), I7, J))
    else (
      some ((1 : Int32), I7, J)))
  else (
  if v3 = (4 : Int32) then (
    (m_story I v1).bind <| un2 fun v8 I9 =>
    if v8 < (0 : Int32) then (
      some ((0 : Int32), I9, J))
    else (
      some ((1 : Int32), I9, J)))
  else (
  if v3 = (5 : Int32) then (
    ck (inb (p1 + (3 : Int32)) 2820) <|
    (m_teach I J v1 v2 (I 3 (ix (p1 + (3 : Int32))))).bind <| un3 fun v10 I11 J12 =>
    ck (isb v10) <|
    some (v10, I11, J12))
  else (
  if v3 = (6 : Int32) then (
    (m_forget I v2 v1).bind <| un2 fun v13 I14 =>
    ck (isb v13) <|
    some (v13, I14, J))
  else (
  if v3 = (7 : Int32) then (
    (m_tell I J v2 v1).bind <| un3 fun v15 I16 J17 =>
    if v15 < (0 : Int32) then (
      some ((0 : Int32), I16, J17))
    else (
      some ((1 : Int32), I16, J17)))
  else (
  if v3 = (8 : Int32) then (
    (m_arePassed I J v1).bind <| un3 fun v18 I19 J20 =>
    ck (isb v18) <|
    some (v18, I19, J20))
  else (
  some ((1 : Int32), I, J))))))))
def m_played_b21 (p1 : Int32) (self : Int32 → PI → PJ → Option ((Int32 × PI × PJ) ⊕ (PI × PJ))) (v2 : Int32) (I3 : PI) (J4 : PJ) : Option ((Int32 × PI × PJ) ⊕ (PI × PJ)) :=
  ck (inb ((705 : Int32) * p1) 2820) <|
  if I3 3 (ix ((705 : Int32) * p1)) ≤ v2 then (
    some (.inr (I3, J4)))
  else (
    (m_isPlayed I3 J4 ((((705 : Int32) * p1) + (1 : Int32)) + ((4 : Int32) * v2))).bind <| un3 fun v7 I8 J9 =>
    if v7 = (0 : Int32) then (
      some (.inl (v2, I8, J9)))
    else (
      lt_ (v2 + (1 : Int32)) fun v10 =>
      self v10 I8 J9))
def m_played_l21 (p1 : Int32) : Nat → Int32 → PI → PJ → Option ((Int32 × PI × PJ) ⊕ (PI × PJ))
  | 0 => fun _ _ _ => none
  | k + 1 => m_played_b21 p1 (m_played_l21 p1 k)
def m_played (I : PI) (J : PJ) (p1 : Int32) : Option (Int32 × PI × PJ) :=
  ck (inb (3 : Int32) 1691) <|
  (m_isIn p1 (0 : Int32) ((I 1 (ix (3 : Int32))) - (1 : Int32))).bind <| fun v1 =>
  if v1 = (0 : Int32) then (
    some ((-2 : Int32), I, J))
  else (
    lbind (m_played_l21 p1 fu (0 : Int32) I J) (some) <| un2 fun I5 J6 =>
    some ((-1 : Int32), I5, J6))
def m_happens (I : PI) (J : PJ) (p1 : Int32) : Option (PI × PJ) :=
  if p1 - p1 / (6 : Int32) * (6 : Int32) ≤ (3 : Int32) then (
    ck (inb (1 : Int32) 1691) <|
    if I 1 (ix (1 : Int32)) = (0 : Int32) then (
      some (I, J))
    else (
      ck (inb (1 : Int32) 1691) <|
      ck (nzi (I 1 (ix (1 : Int32)))) <|
      lt_ ((p1 / (6 : Int32)) - (p1 / (6 : Int32)) / (I 1 (ix (1 : Int32))) * (I 1 (ix (1 : Int32)))) fun v1 =>
      if p1 - p1 / (6 : Int32) * (6 : Int32) = (3 : Int32) then (
        ck (inb (2 : Int32) 1691) <|
        if I 1 (ix (2 : Int32)) ≤ (0 : Int32) then (
          some (I, J))
        else (
          ck (inb (2 : Int32) 1691) <|
          ck (nzi (I 1 (ix (2 : Int32)))) <|
          (m_canTell I J v1 (p1 - p1 / (I 1 (ix (2 : Int32))) * (I 1 (ix (2 : Int32))))).bind <| un3 fun v9 I10 J11 =>
          if v9 = (0 : Int32) then (
            some (I10, J11))
          else (
            ck (inb (2 : Int32) 1691) <|
            ck (nzi (I10 1 (ix (2 : Int32)))) <|
            (m_tellNow I10 J11 v1 (p1 - p1 / (I10 1 (ix (2 : Int32))) * (I10 1 (ix (2 : Int32))))).bind <| un3 fun v12 I13 J14 =>
            some (I13, J14))))
      else (
        ck (inb (0 : Int32) 1691) <|
        if I 1 (ix (0 : Int32)) = (0 : Int32) then (
          some (I, J))
        else (
          ck (inb (0 : Int32) 1691) <|
          ck (nzi (I 1 (ix (0 : Int32)))) <|
          lt_ (p1 - p1 / (I 1 (ix (0 : Int32))) * (I 1 (ix (0 : Int32)))) fun v2 =>
          if p1 - p1 / (6 : Int32) * (6 : Int32) = (2 : Int32) then (
            (m_canForget I v1 v2).bind <| fun v7 =>
            if v7 = (0 : Int32) then (
              some (I, J))
            else (
              (m_forgetNow I v1 v2).bind <| fun I8 =>
              some (I8, J)))
          else (
            ck (inb (1 : Int32) 1691) <|
            ck (nzi (I 1 (ix (1 : Int32)))) <|
            (m_canTeach I J v2 v1 ((p1 / (5 : Int32)) - (p1 / (5 : Int32)) / (I 1 (ix (1 : Int32))) * (I 1 (ix (1 : Int32))))).bind <| un3 fun v3 I4 J5 =>
            if v3 = (0 : Int32) then (
              some (I4, J5))
            else (
              ck (inb (1 : Int32) 1691) <|
              ck (nzi (I4 1 (ix (1 : Int32)))) <|
              (m_teachNow I4 v2 v1 ((p1 / (5 : Int32)) - (p1 / (5 : Int32)) / (I4 1 (ix (1 : Int32))) * (I4 1 (ix (1 : Int32))))).bind <| fun I6 =>
              some (I6, J5)))))))
  else (
    ck (inb (8 : Int32) 1691) <|
    if (9999 : Int32) ≤ I 1 (ix (8 : Int32)) then (
      some (I, J))
    else (
      (m_pass I J).bind <| un2 fun I15 J16 =>
      some (I15, J16)))
def m_ages_b43 (p2 : Int32) (self : Int32 → PI → PJ → Option (PI × PJ)) (v5 : Int32) (I6 : PI) (J7 : PJ) : Option (PI × PJ) :=
  if p2 ≤ v5 then (
    some (I6, J7))
  else (
    ck (inb (9 : Int32) 1691) <|
    lt_ (I6 1 (ix (9 : Int32))) fun v10 =>
    (m_anew I6).bind <| fun I11 =>
    (m_happens I11 J7 v10).bind <| un2 fun I12 J13 =>
    lt_ (v5 + (1 : Int32)) fun v14 =>
    self v14 I12 J13)
def m_ages_l43 (p2 : Int32) : Nat → Int32 → PI → PJ → Option (PI × PJ)
  | 0 => fun _ _ _ => none
  | k + 1 => m_ages_b43 p2 (m_ages_l43 p2 k)
def m_ages (I : PI) (J : PJ) (p1 : Int32) (p2 : Int32) : Option (Int32 × PI × PJ) :=
  (m_isIn p1 (0 : Int32) (9999 : Int32)).bind <| fun v1 =>
  if v1 = (0 : Int32) then (
    some ((-1 : Int32), I, J))
  else (
    (m_isIn p2 (1 : Int32) (40 : Int32)).bind <| fun v2 =>
    if v2 = (0 : Int32) then (
      some ((-1 : Int32), I, J))
    else (
      (m_keepStep I).bind <| fun I3 =>
      ck (inb (9 : Int32) 1691) <|
      lt_ (u2 I3 1 (ix (9 : Int32)) ((p1 * (2 : Int32)) + (271 : Int32))) fun I4 =>
      (m_ages_l43 p2 fu (0 : Int32) I4 J).bind <| un2 fun I8 J9 =>
      ck (inb (8 : Int32) 1691) <|
      some (I8 1 (ix (8 : Int32)), I8, J9)))
def m_of (I : PI) (J : PJ) (p1 : Int32) (p2 : Int32) : Option (Int32 × PI) :=
  (m_isPerson I p1).bind <| fun v1 =>
  if v1 = (0 : Int32) then (
    some ((-1 : Int32), I))
  else (
    (m_isIn p2 (0 : Int32) (2 : Int32)).bind <| fun v2 =>
    if v2 = (0 : Int32) then (
      if p2 = (3 : Int32) then (
        (m_get I p1 (1 : Int32)).bind <| fun v3 =>
        (m_isEnough I J v3).bind <| un2 fun v4 I5 =>
        if v4 = (0 : Int32) then (
          some ((0 : Int32), I5))
        else (
          ck (inb (2 : Int32) 1691) <|
          some (((1 : Int32) <<< ((I5 1 (ix (2 : Int32))) &&& 31)) - (1 : Int32), I5)))
      else (
        some ((-1 : Int32), I)))
    else (
      (m_get I p1 p2).bind <| fun v6 =>
      some (v6, I)))
def m_ofForm (I : PI) (p1 : Int32) (p2 : Int32) : Option (Int32) :=
  (m_isForm I p1).bind <| fun v1 =>
  if v1 = (0 : Int32) then (
    some (-1 : Int32))
  else (
    if p2 = (0 : Int32) then (
      (m_kindOf I p1).bind <| fun v4 =>
      some v4)
    else (
      if p2 = (1 : Int32) then (
        (m_lengthOf I p1).bind <| fun v3 =>
        some v3)
      else (
        if p2 = (2 : Int32) then (
          (m_knownBy I p1).bind <| fun v2 =>
          some v2)
        else (
          some (-1 : Int32)))))
def m_law (I : PI) (J : PJ) (p1 : Int32) (p2 : Int32) (p3 : Int32) : Option (Int32 × PI × PJ) :=
  (m_isPerson I p1).bind <| fun v1 =>
  if v1 = (0 : Int32) then (
    some ((-100 : Int32), I, J))
  else (
    (m_isForm I p2).bind <| fun v2 =>
    if v2 = (0 : Int32) then (
      some ((-100 : Int32), I, J))
    else (
      if p3 = (0 : Int32) then (
        (m_learnsOf I J p1 p2).bind <| un3 fun v3 I4 J5 =>
        some (v3, I4, J5))
      else (
        ck (inb (4 : Int32) 1691) <|
        (m_fadesOf I J (I 1 (ix (4 : Int32))) p1 p2).bind <| un3 fun v6 I7 J8 =>
        some (v6, I7, J8))))
def m_knownForms_b4 (I : PI) (self : Int32 → Int32 → Option (Int32)) (v1 : Int32) (v2 : Int32) : Option (Int32) :=
  ck (inb (1 : Int32) 1691) <|
  if I 1 (ix (1 : Int32)) ≤ v2 then (
    some v1)
  else (
    (m_get I v2 (1 : Int32)).bind <| fun v4 =>
    lt_ (v1 ||| v4) fun v5 =>
    lt_ (v2 + (1 : Int32)) fun v6 =>
    self v5 v6)
def m_knownForms_l4 (I : PI) : Nat → Int32 → Int32 → Option (Int32)
  | 0 => fun _ _ => none
  | k + 1 => m_knownForms_b4 I (m_knownForms_l4 I k)
def m_knownForms (I : PI) : Option (Int32) :=
  (m_knownForms_l4 I fu (0 : Int32) (0 : Int32)).bind <| fun v3 =>
  some v3
def m_is (I : PI) (p1 : Int32) : Option (Int32) :=
  (m_isIn p1 (0 : Int32) (1 : Int32)).bind <| fun v1 =>
  if v1 = (0 : Int32) then (
    if p1 = (2 : Int32) then (
      (m_knownForms I).bind <| fun v2 =>
      some v2)
    else (
      if p1 = (3 : Int32) then (
        ck (inb (2 : Int32) 1691) <|
        some (I 1 (ix (2 : Int32))))
      else (
        some (-2 : Int32))))
  else (
    ck (inb ((8 : Int32) + p1) 1691) <|
    some (I 1 (ix ((8 : Int32) + p1))))
def m_entry (I : PI) (p1 : Int32) (p2 : Int32) : Option (Int32) :=
  ck (inb ((1661 : Int32) + p1) 1691) <|
  lt_ (I 1 (ix ((1661 : Int32) + p1))) fun v1 =>
  if p2 = (0 : Int32) then (
    some (v1 / (2400 : Int32)))
  else (
    if p2 = (1 : Int32) then (
      some ((v1 / (400 : Int32)) - (v1 / (400 : Int32)) / (6 : Int32) * (6 : Int32)))
    else (
      if p2 = (2 : Int32) then (
        some ((v1 / (100 : Int32)) - (v1 / (100 : Int32)) / (4 : Int32) * (4 : Int32)))
      else (
        some (v1 - v1 / (100 : Int32) * (100 : Int32)))))
def m_book (I : PI) (p1 : Int32) (p2 : Int32) : Option (Int32) :=
  if p1 = (-1 : Int32) then (
    ck (inb (10 : Int32) 1691) <|
    some (I 1 (ix (10 : Int32))))
  else (
    ck (inb (10 : Int32) 1691) <|
    (m_isIn p1 (0 : Int32) ((I 1 (ix (10 : Int32))) - (1 : Int32))).bind <| fun v1 =>
    if v1 = (0 : Int32) then (
      some (-2 : Int32))
    else (
      (m_isIn p2 (0 : Int32) (3 : Int32)).bind <| fun v2 =>
      if v2 = (0 : Int32) then (
        some (-2 : Int32))
      else (
        (m_entry I p1 p2).bind <| fun v3 =>
        some v3)))
def m_ledger_j57 (self : Int32 → Int32 → Option (Int32)) (v1 : Int32) (v2 : Int32) (v4 : Int32) : Option (Int32) :=
  lt_ (v1 + v4) fun v5 =>
  lt_ (v2 + (1 : Int32)) fun v6 =>
  self v5 v6
def m_ledger_j47 (I : PI) (self : Int32 → Int32 → Option (Int32)) (v1 : Int32) (v2 : Int32) : Option (Int32) :=
  (m_entry I v2 (3 : Int32)).bind <| fun v7 =>
  m_ledger_j57 self v1 v2 v7
def m_ledger_b20 (I : PI) (p1 : Int32) (self : Int32 → Int32 → Option (Int32)) (v1 : Int32) (v2 : Int32) : Option (Int32) :=
  ck (inb (10 : Int32) 1691) <|
  if I 1 (ix (10 : Int32)) ≤ v2 then (
    some v1)
  else (
    if p1 = (-1 : Int32) then (
      m_ledger_j47 I self v1 v2)
    else (
      (m_entry I v2 (1 : Int32)).bind <| fun v8 =>
      if v8 = p1 then (
        m_ledger_j47 I self v1 v2)
      else (
        m_ledger_j57 self v1 v2 (0 : Int32))))
def m_ledger_l20 (I : PI) (p1 : Int32) : Nat → Int32 → Int32 → Option (Int32)
  | 0 => fun _ _ => none
  | k + 1 => m_ledger_b20 I p1 (m_ledger_l20 I p1 k)
def m_ledger_j16 (I : PI) (p1 : Int32) : Option (Int32) :=
  (m_ledger_l20 I p1 fu (0 : Int32) (0 : Int32)).bind <| fun v3 =>
  some v3
def m_ledger (I : PI) (p1 : Int32) : Option (Int32) :=
  if p1 = (-1 : Int32) then (
    m_ledger_j16 I p1)
  else (
    (m_isPerson I p1).bind <| fun v9 =>
    if v9 = (0 : Int32) then (
      some (-2 : Int32))
    else (
      m_ledger_j16 I p1))
def m_richest_j46 (self : Int32 → Int32 → Option (Int32)) (v2 : Int32) (v7 : Int32) : Option (Int32) :=
  lt_ (v2 + (1 : Int32)) fun v8 =>
  self v7 v8
def m_richest_j41 (self : Int32 → Int32 → Option (Int32)) (v1 : Int32) (v2 : Int32) (v5 : Int32) (v6 : Int32) : Option (Int32) :=
  if v5 ≤ v6 then (
    m_richest_j46 self v2 v1)
  else (
    m_richest_j46 self v2 v2)
def m_richest_b4 (I : PI) (self : Int32 → Int32 → Option (Int32)) (v1 : Int32) (v2 : Int32) : Option (Int32) :=
  ck (inb (1 : Int32) 1691) <|
  if I 1 (ix (1 : Int32)) ≤ v2 then (
    some v1)
  else (
    (m_get I v2 (1 : Int32)).bind <| fun v4 =>
    (m_bits v4).bind <| fun v5 =>
    if v1 = (-1 : Int32) then (
      m_richest_j41 self v1 v2 v5 (0 : Int32))
    else (
      (m_get I v1 (1 : Int32)).bind <| fun v9 =>
      (m_bits v9).bind <| fun v10 =>
      m_richest_j41 self v1 v2 v5 v10))
def m_richest_l4 (I : PI) : Nat → Int32 → Int32 → Option (Int32)
  | 0 => fun _ _ => none
  | k + 1 => m_richest_b4 I (m_richest_l4 I k)
def m_richest (I : PI) : Option (Int32) :=
  (m_richest_l4 I fu (-1 : Int32) (0 : Int32)).bind <| fun v3 =>
  some v3
def m_rarest_j48 (self : Int32 → Int32 → Option (Int32)) (v2 : Int32) (v5 : Int32) : Option (Int32) :=
  lt_ (v2 + (1 : Int32)) fun v6 =>
  self v5 v6
def m_rarest_j46 (self : Int32 → Int32 → Option (Int32)) (v2 : Int32) : Option (Int32) :=
  m_rarest_j48 self v2 v2
def m_rarest_b4 (I : PI) (self : Int32 → Int32 → Option (Int32)) (v1 : Int32) (v2 : Int32) : Option (Int32) :=
  ck (inb (0 : Int32) 1691) <|
  if I 1 (ix (0 : Int32)) ≤ v2 then (
    some v1)
  else (
    (m_knownBy I v2).bind <| fun v4 =>
    if v4 = (0 : Int32) then (
      m_rarest_j48 self v2 v1)
    else (
      if v1 = (-1 : Int32) then (
        m_rarest_j46 self v2)
      else (
        (m_knownBy I v2).bind <| fun v7 =>
        (m_bits v7).bind <| fun v8 =>
        (m_knownBy I v1).bind <| fun v9 =>
        (m_bits v9).bind <| fun v10 =>
        if v10 ≤ v8 then (
          m_rarest_j48 self v2 v1)
        else (
          m_rarest_j46 self v2))))
def m_rarest_l4 (I : PI) : Nat → Int32 → Int32 → Option (Int32)
  | 0 => fun _ _ => none
  | k + 1 => m_rarest_b4 I (m_rarest_l4 I k)
def m_rarest (I : PI) : Option (Int32) :=
  (m_rarest_l4 I fu (-1 : Int32) (0 : Int32)).bind <| fun v3 =>
  some v3
def m_silent_j44 (self : Int32 → Int32 → PI → Option (Int32 × PI)) (v1 : Int32) (v2 : Int32) (v6 : Int32) (I7 : PI) : Option (Int32 × PI) :=
  lt_ (v1 ||| v6) fun v8 =>
  lt_ (v2 + (1 : Int32)) fun v9 =>
  self v8 v9 I7
def m_silent_j41 (self : Int32 → Int32 → PI → Option (Int32 × PI)) (v1 : Int32) (v2 : Int32) (I10 : PI) : Option (Int32 × PI) :=
  m_silent_j44 self v1 v2 ((1 : Int32) <<< (v2 &&& 31)) I10
def m_silent_b4 (J : PJ) (self : Int32 → Int32 → PI → Option (Int32 × PI)) (v1 : Int32) (v2 : Int32) (I3 : PI) : Option (Int32 × PI) :=
  ck (inb (1 : Int32) 1691) <|
  if I3 1 (ix (1 : Int32)) ≤ v2 then (
    some (v1, I3))
  else (
    ck (inb (2 : Int32) 1691) <|
    if I3 1 (ix (2 : Int32)) ≤ (0 : Int32) then (
      m_silent_j41 self v1 v2 I3)
    else (
      (m_get I3 v2 (1 : Int32)).bind <| fun v11 =>
      (m_isEnough I3 J v11).bind <| un2 fun v12 I13 =>
      if v12 = (0 : Int32) then (
        m_silent_j41 self v1 v2 I13)
      else (
        m_silent_j44 self v1 v2 (0 : Int32) I13)))
def m_silent_l4 (J : PJ) : Nat → Int32 → Int32 → PI → Option (Int32 × PI)
  | 0 => fun _ _ _ => none
  | k + 1 => m_silent_b4 J (m_silent_l4 J k)
def m_silent (I : PI) (J : PJ) : Option (Int32 × PI) :=
  (m_silent_l4 J fu (0 : Int32) (0 : Int32) I).bind <| un2 fun v4 I5 =>
  some (v4, I5)
def m_foretold_b33  (self : Int32 → PI → Option (PI)) (v4 : Int32) (I5 : PI) : Option (PI) :=
  if (41 : Int32) ≤ v4 then (
    some I5)
  else (
    ck (inb v4 1691) <|
    ck (inb v4 41) <|
    lt_ (u2 I5 19 (ix v4) (I5 1 (ix v4))) fun I7 =>
    lt_ (v4 + (1 : Int32)) fun v8 =>
    self v8 I7)
def m_foretold_l33  : Nat → Int32 → PI → Option (PI)
  | 0 => fun _ _ => none
  | k + 1 => m_foretold_b33 (m_foretold_l33 k)
def m_foretold_j91 (self : Int32 → PI → PJ → Option (PI × PJ)) (v10 : Int32) (I15 : PI) (J16 : PJ) : Option (PI × PJ) :=
  lt_ (v10 + (1 : Int32)) fun v17 =>
  self v17 I15 J16
def m_foretold_b68 (p1 : Int32) (self : Int32 → PI → PJ → Option (PI × PJ)) (v10 : Int32) (I11 : PI) (J12 : PJ) : Option (PI × PJ) :=
  if p1 ≤ v10 then (
    some (I11, J12))
  else (
    ck (inb (8 : Int32) 1691) <|
    if (9999 : Int32) ≤ I11 1 (ix (8 : Int32)) then (
      m_foretold_j91 self v10 I11 J12)
    else (
      (m_pass I11 J12).bind <| un2 fun I18 J19 =>
      m_foretold_j91 self v10 I18 J19))
def m_foretold_l68 (p1 : Int32) : Nat → Int32 → PI → PJ → Option (PI × PJ)
  | 0 => fun _ _ _ => none
  | k + 1 => m_foretold_b68 p1 (m_foretold_l68 p1 k)
def m_foretold_b117  (self : Int32 → PI → Option (PI)) (v22 : Int32) (I23 : PI) : Option (PI) :=
  if (41 : Int32) ≤ v22 then (
    some I23)
  else (
    ck (inb v22 41) <|
    ck (inb v22 1691) <|
    lt_ (u2 I23 1 (ix v22) (I23 19 (ix v22))) fun I25 =>
    lt_ (v22 + (1 : Int32)) fun v26 =>
    self v26 I25)
def m_foretold_l117  : Nat → Int32 → PI → Option (PI)
  | 0 => fun _ _ => none
  | k + 1 => m_foretold_b117 (m_foretold_l117 k)
def m_foretold_j108 (p2 : Int32) (I13 : PI) (J14 : PJ) (v20 : Int32) : Option (Int32 × PI × PJ) :=
  (m_get I13 p2 v20).bind <| fun v21 =>
  (m_foretold_l117 fu (8 : Int32) I13).bind <| fun I24 =>
  lt_ (u2 I24 0 36 (1 : Int32)) fun I27 =>
  some (v21, I27, J14)
def m_foretold (I : PI) (J : PJ) (p1 : Int32) (p2 : Int32) (p3 : Int32) : Option (Int32 × PI × PJ) :=
  (m_isIn p1 (1 : Int32) (60 : Int32)).bind <| fun v1 =>
  if v1 = (0 : Int32) then (
    some ((-1 : Int32), I, J))
  else (
    (m_isPerson I p2).bind <| fun v2 =>
    if v2 = (0 : Int32) then (
      some ((-1 : Int32), I, J))
    else (
      (m_isIn p3 (0 : Int32) (1 : Int32)).bind <| fun v3 =>
      if v3 = (0 : Int32) then (
        some ((-1 : Int32), I, J))
      else (
        (m_foretold_l33 fu (8 : Int32) I).bind <| fun I6 =>
        lt_ (u2 I6 0 36 (0 : Int32)) fun I9 =>
        (m_foretold_l68 p1 fu (0 : Int32) I9 J).bind <| un2 fun I13 J14 =>
        if p3 = (0 : Int32) then (
          m_foretold_j108 p2 I13 J14 (1 : Int32))
        else (
          m_foretold_j108 p2 I13 J14 (0 : Int32)))))
def m_order (I : PI) (p1 : Int32) (p2 : Int32) : Option (Int32) :=
  (m_isIn p1 (0 : Int32) (119 : Int32)).bind <| fun v1 =>
  if v1 = (0 : Int32) then (
    some (-1 : Int32))
  else (
    (m_isDoing p2).bind <| fun v2 =>
    if v2 = (0 : Int32) then (
      some (-1 : Int32))
    else (
      ck (inb (((5 : Int32) * p1) + p2) 600) <|
      some (I 4 (ix (((5 : Int32) * p1) + p2)))))
def m_numberOf_b13 (I : PI) (v1 : Int32) (self : Int32 → Int32 → Option (Int32)) (v2 : Int32) (v3 : Int32) : Option (Int32) :=
  if (5 : Int32) ≤ v3 then (
    some v2)
  else (
    ck (inb (((5 : Int32) * v1) + v3) 600) <|
    lt_ (((10 : Int32) * v2) + (I 4 (ix (((5 : Int32) * v1) + v3)))) fun v5 =>
    lt_ (v3 + (1 : Int32)) fun v6 =>
    self v5 v6)
def m_numberOf_l13 (I : PI) (v1 : Int32) : Nat → Int32 → Int32 → Option (Int32)
  | 0 => fun _ _ => none
  | k + 1 => m_numberOf_b13 I v1 (m_numberOf_l13 I v1 k)
def m_numberOf_b2 (I : PI) (p1 : Int32) (self : Int32 → Option ((Int32) ⊕ (Unit))) (v1 : Int32) : Option ((Int32) ⊕ (Unit)) :=
  if (120 : Int32) ≤ v1 then (
    some (.inr ()))
  else (
    (m_numberOf_l13 I v1 fu (0 : Int32) (0 : Int32)).bind <| fun v4 =>
    if v4 = p1 then (
      some (.inl v1))
    else (
      lt_ (v1 + (1 : Int32)) fun v7 =>
      self v7))
def m_numberOf_l2 (I : PI) (p1 : Int32) : Nat → Int32 → Option ((Int32) ⊕ (Unit))
  | 0 => fun _ => none
  | k + 1 => m_numberOf_b2 I p1 (m_numberOf_l2 I p1 k)
def m_numberOf (I : PI) (p1 : Int32) : Option (Int32) :=
  lbind (m_numberOf_l2 I p1 fu (0 : Int32)) (some) <| fun _ =>
  some (-1 : Int32)
def m_number (I : PI) (p1 : Int32) (p2 : Int32) (p3 : Int32) (p4 : Int32) (p5 : Int32) : Option (Int32) :=
  (m_isDoing p1).bind <| fun v1 =>
  if v1 = (0 : Int32) then (
    some (-1 : Int32))
  else (
    (m_isDoing p2).bind <| fun v2 =>
    if v2 = (0 : Int32) then (
      some (-1 : Int32))
    else (
      (m_isDoing p3).bind <| fun v3 =>
      if v3 = (0 : Int32) then (
        some (-1 : Int32))
      else (
        (m_isDoing p4).bind <| fun v4 =>
        if v4 = (0 : Int32) then (
          some (-1 : Int32))
        else (
          (m_isDoing p5).bind <| fun v5 =>
          if v5 = (0 : Int32) then (
            some (-1 : Int32))
          else (
            (m_numberOf I (((((p1 * (10000 : Int32)) + (p2 * (1000 : Int32))) + (p3 * (100 : Int32))) + (p4 * (10 : Int32))) + p5)).bind <| fun v6 =>
            some v6)))))
def m_holds (I : PI) (p1 : Int32) (p2 : Int32) (p3 : Int32) (p4 : Int32) : Option (Int32) :=
  (m_isIn p1 (0 : Int32) (119 : Int32)).bind <| fun v1 =>
  if v1 = (0 : Int32) then (
    some (0 : Int32))
  else (
    (m_isSaying p2 p3 p4).bind <| fun v2 =>
    if v2 = (0 : Int32) then (
      some (0 : Int32))
    else (
      (m_isSo I p1 p2 p3 p4).bind <| fun v3 =>
      if v3 = (0 : Int32) then (
        some (0 : Int32))
      else (
        some (1 : Int32))))
def m_say (I : PI) (p1 : Int32) (p2 : Int32) (p3 : Int32) : Option (Int32 × PI) :=
  if p1 = (-1 : Int32) then (
    ck (inb (6 : Int32) 1691) <|
    lt_ (u2 I 1 (ix (6 : Int32)) (0 : Int32)) fun I7 =>
    some ((0 : Int32), I7))
  else (
    (m_isSaying p1 p2 p3).bind <| fun v1 =>
    if v1 = (0 : Int32) then (
      some ((-2 : Int32), I))
    else (
      ck (inb (6 : Int32) 1691) <|
      if I 1 (ix (6 : Int32)) = (8 : Int32) then (
        some ((-2 : Int32), I))
      else (
        ck (inb (6 : Int32) 1691) <|
        lt_ ((61 : Int32) + ((3 : Int32) * (I 1 (ix (6 : Int32))))) fun v2 =>
        ck (inb v2 1691) <|
        lt_ (u2 I 1 (ix v2) p1) fun I3 =>
        ck (inb (v2 + (1 : Int32)) 1691) <|
        lt_ (u2 I3 1 (ix (v2 + (1 : Int32))) p2) fun I4 =>
        ck (inb (v2 + (2 : Int32)) 1691) <|
        lt_ (u2 I4 1 (ix (v2 + (2 : Int32))) p3) fun I5 =>
        ck (inb (6 : Int32) 1691) <|
        ck (inb (6 : Int32) 1691) <|
        lt_ (u2 I5 1 (ix (6 : Int32)) ((I5 1 (ix (6 : Int32))) + (1 : Int32))) fun I6 =>
        ck (inb (6 : Int32) 1691) <|
        some (I6 1 (ix (6 : Int32)), I6))))
def m_canBe_b3 (I : PI) (p1 : Int32) (self : Int32 → Option ((Int32) ⊕ (Unit))) (v1 : Int32) : Option ((Int32) ⊕ (Unit)) :=
  ck (inb (6 : Int32) 1691) <|
  if (61 : Int32) + ((3 : Int32) * (I 1 (ix (6 : Int32)))) ≤ v1 then (
    some (.inr ()))
  else (
    ck (inb v1 1691) <|
    ck (inb (v1 + (1 : Int32)) 1691) <|
    ck (inb (v1 + (2 : Int32)) 1691) <|
    (m_isSo I p1 (I 1 (ix v1)) (I 1 (ix (v1 + (1 : Int32)))) (I 1 (ix (v1 + (2 : Int32))))).bind <| fun v2 =>
    if v2 = (0 : Int32) then (
      some (.inl (0 : Int32)))
    else (
      lt_ (v1 + (3 : Int32)) fun v3 =>
      self v3))
def m_canBe_l3 (I : PI) (p1 : Int32) : Nat → Int32 → Option ((Int32) ⊕ (Unit))
  | 0 => fun _ => none
  | k + 1 => m_canBe_b3 I p1 (m_canBe_l3 I p1 k)
def m_canBe (I : PI) (p1 : Int32) : Option (Int32) :=
  lbind (m_canBe_l3 I p1 fu (61 : Int32)) (some) <| fun _ =>
  some (1 : Int32)
def m_could_j31 (self : Int32 → Int32 → Option ((Int32) ⊕ (Int32))) (v2 : Int32) (v5 : Int32) : Option ((Int32) ⊕ (Int32)) :=
  lt_ (v2 + (1 : Int32)) fun v6 =>
  self v5 v6
def m_could_b4 (I : PI) (p1 : Int32) (self : Int32 → Int32 → Option ((Int32) ⊕ (Int32))) (v1 : Int32) (v2 : Int32) : Option ((Int32) ⊕ (Int32)) :=
  if (120 : Int32) ≤ v2 then (
    some (.inr v1))
  else (
    (m_canBe I v2).bind <| fun v4 =>
    if v4 = (0 : Int32) then (
      m_could_j31 self v2 v1)
    else (
      if v1 = p1 then (
        some (.inl v2))
      else (
        lt_ (v1 + (1 : Int32)) fun v7 =>
        m_could_j31 self v2 v7)))
def m_could_l4 (I : PI) (p1 : Int32) : Nat → Int32 → Int32 → Option ((Int32) ⊕ (Int32))
  | 0 => fun _ _ => none
  | k + 1 => m_could_b4 I p1 (m_could_l4 I p1 k)
def m_could (I : PI) (p1 : Int32) : Option (Int32) :=
  lbind (m_could_l4 I p1 fu (0 : Int32) (0 : Int32)) (some) <| fun v3 =>
  if p1 = (-1 : Int32) then (
    some v3)
  else (
    some (-2 : Int32))
def m_aheadIn_j44 (self : Int32 → Int32 → Option (Int32)) (v1 : Int32) (v2 : Int32) (v5 : Int32) : Option (Int32) :=
  lt_ (v1 + v5) fun v6 =>
  lt_ (v2 + (1 : Int32)) fun v7 =>
  self v6 v7
def m_aheadIn_j43 (self : Int32 → Int32 → Option (Int32)) (v1 : Int32) (v2 : Int32) : Option (Int32) :=
  m_aheadIn_j44 self v1 v2 (0 : Int32)
def m_aheadIn_b5 (I : PI) (p1 : Int32) (p2 : Int32) (self : Int32 → Int32 → Option (Int32)) (v1 : Int32) (v2 : Int32) : Option (Int32) :=
  if (120 : Int32) ≤ v2 then (
    some v1)
  else (
    (m_canBe I v2).bind <| fun v4 =>
    if v4 = (0 : Int32) then (
      m_aheadIn_j43 self v1 v2)
    else (
      (m_placeOf I v2 p1).bind <| fun v8 =>
      (m_placeOf I v2 p2).bind <| fun v9 =>
      if v9 ≤ v8 then (
        m_aheadIn_j43 self v1 v2)
      else (
        m_aheadIn_j44 self v1 v2 (1 : Int32))))
def m_aheadIn_l5 (I : PI) (p1 : Int32) (p2 : Int32) : Nat → Int32 → Int32 → Option (Int32)
  | 0 => fun _ _ => none
  | k + 1 => m_aheadIn_b5 I p1 p2 (m_aheadIn_l5 I p1 p2 k)
def m_aheadIn (I : PI) (p1 : Int32) (p2 : Int32) : Option (Int32) :=
  (m_aheadIn_l5 I p1 p2 fu (0 : Int32) (0 : Int32)).bind <| fun v3 =>
  some v3
def m_divisor_b6  (self : Int64 → Int64 → Option (Int64)) (w1 : Int64) (w2 : Int64) : Option (Int64) :=
  if w2 = (0 : Int64) then (
    some w1)
  else (
    ck (nzl w2) <|
    lt_ (w1 - w1 / w2 * w2) fun w4 =>
    self w2 w4)
def m_divisor_l6  : Nat → Int64 → Int64 → Option (Int64)
  | 0 => fun _ _ => none
  | k + 1 => m_divisor_b6 (m_divisor_l6 k)
def m_divisor (p0 : Int64) (p2 : Int64) : Option (Int64) :=
  (m_divisor_l6 fu p0 p2).bind <| fun w3 =>
  some w3
def m_likely_j55 (v4 : Int32) (v5 : Int32) (v6 : Int32) : Option (Int32) :=
  (m_divisor (Int32.toInt64 v4) (Int32.toInt64 v5)).bind <| fun w7 =>
  ck (nzi (Int64.toInt32 w7)) <|
  some (v6 / (Int64.toInt32 w7))
def m_likely (I : PI) (p1 : Int32) (p2 : Int32) (p3 : Int32) : Option (Int32) :=
  (m_isDoing p1).bind <| fun v1 =>
  if v1 = (0 : Int32) then (
    some (-1 : Int32))
  else (
    (m_isDoing p2).bind <| fun v2 =>
    if v2 = (0 : Int32) then (
      some (-1 : Int32))
    else (
      if p1 = p2 then (
        some (-1 : Int32))
      else (
        (m_could I (-1 : Int32)).bind <| fun v3 =>
        if v3 = (0 : Int32) then (
          some (-1 : Int32))
        else (
          (m_aheadIn I p1 p2).bind <| fun v4 =>
          (m_could I (-1 : Int32)).bind <| fun v5 =>
          if p3 = (0 : Int32) then (
            m_likely_j55 v4 v5 v4)
          else (
            m_likely_j55 v4 v5 v5)))))
def m_sure_j53 (self : Int32 → Int32 → Option (Int32)) (v3 : Int32) (v4 : Int32) (v6 : Int32) : Option (Int32) :=
  lt_ (v3 ||| v6) fun v7 =>
  lt_ (v4 + (1 : Int32)) fun v8 =>
  self v7 v8
def m_sure_j52 (self : Int32 → Int32 → Option (Int32)) (v3 : Int32) (v4 : Int32) : Option (Int32) :=
  m_sure_j53 self v3 v4 (0 : Int32)
def m_sure_b21 (I : PI) (p1 : Int32) (self : Int32 → Int32 → Option (Int32)) (v3 : Int32) (v4 : Int32) : Option (Int32) :=
  if (5 : Int32) ≤ v4 then (
    some v3)
  else (
    if v4 = p1 then (
      m_sure_j52 self v3 v4)
    else (
      (m_aheadIn I v4 p1).bind <| fun v9 =>
      (m_could I (-1 : Int32)).bind <| fun v10 =>
      if v9 = v10 then (
        m_sure_j53 self v3 v4 ((1 : Int32) <<< (v4 &&& 31)))
      else (
        m_sure_j52 self v3 v4)))
def m_sure_l21 (I : PI) (p1 : Int32) : Nat → Int32 → Int32 → Option (Int32)
  | 0 => fun _ _ => none
  | k + 1 => m_sure_b21 I p1 (m_sure_l21 I p1 k)
def m_sure (I : PI) (p1 : Int32) : Option (Int32) :=
  (m_isDoing p1).bind <| fun v1 =>
  if v1 = (0 : Int32) then (
    some (-1 : Int32))
  else (
    (m_could I (-1 : Int32)).bind <| fun v2 =>
    if v2 = (0 : Int32) then (
      some (-1 : Int32))
    else (
      (m_sure_l21 I p1 fu (0 : Int32) (0 : Int32)).bind <| fun v5 =>
      some v5))
def m_ask_j89 (self : Int32 → Int32 → Int32 → Option (Int32 × Int32)) (v9 : Int32) (v15 : Int32) (v16 : Int32) : Option (Int32 × Int32) :=
  lt_ (v9 + (1 : Int32)) fun v17 =>
  self v15 v16 v17
def m_ask_j67 (self : Int32 → Int32 → Int32 → Option (Int32 × Int32)) (v3 : Int32) (v7 : Int32) (v8 : Int32) (v9 : Int32) (v14 : Int32) : Option (Int32 × Int32) :=
  if v14 < v8 then (
    lt_ (((10 : Int32) * v3) + v9) fun v18 =>
    m_ask_j89 self v9 v18 v14)
  else (
    m_ask_j89 self v9 v7 v8)
def m_ask_b27 (I : PI) (v3 : Int32) (self : Int32 → Int32 → Int32 → Option (Int32 × Int32)) (v7 : Int32) (v8 : Int32) (v9 : Int32) : Option (Int32 × Int32) :=
  if (5 : Int32) ≤ v9 then (
    some (v7, v8))
  else (
    (m_aheadIn I v3 v9).bind <| fun v12 =>
    (m_aheadIn I v9 v3).bind <| fun v13 =>
    if v12 ≤ v13 then (
      (m_aheadIn I v9 v3).bind <| fun v19 =>
      m_ask_j67 self v3 v7 v8 v9 v19)
    else (
      (m_aheadIn I v3 v9).bind <| fun v20 =>
      m_ask_j67 self v3 v7 v8 v9 v20))
def m_ask_l27 (I : PI) (v3 : Int32) : Nat → Int32 → Int32 → Int32 → Option (Int32 × Int32)
  | 0 => fun _ _ _ => none
  | k + 1 => m_ask_b27 I v3 (m_ask_l27 I v3 k)
def m_ask_b8 (I : PI) (self : Int32 → Int32 → Int32 → Option (Int32)) (v1 : Int32) (v2 : Int32) (v3 : Int32) : Option (Int32) :=
  if (5 : Int32) ≤ v3 then (
    some v1)
  else (
    (m_could I (-1 : Int32)).bind <| fun v5 =>
    if v5 ≤ (1 : Int32) then (
      some v1)
    else (
      lt_ (v3 + (1 : Int32)) fun v6 =>
      (m_ask_l27 I v3 fu v1 v2 v6).bind <| un2 fun v10 v11 =>
      lt_ (v3 + (1 : Int32)) fun v21 =>
      self v10 v11 v21))
def m_ask_l8 (I : PI) : Nat → Int32 → Int32 → Int32 → Option (Int32)
  | 0 => fun _ _ _ => none
  | k + 1 => m_ask_b8 I (m_ask_l8 I k)
def m_ask (I : PI) : Option (Int32) :=
  (m_ask_l8 I fu (-1 : Int32) (1000000 : Int32) (0 : Int32)).bind <| fun v4 =>
  some v4
def m_lengthsOf_j32 (self : Int32 → Int32 → Option (Int32)) (v1 : Int32) (v2 : Int32) (v5 : Int32) : Option (Int32) :=
  lt_ (v1 + v5) fun v6 =>
  lt_ (v2 + (1 : Int32)) fun v7 =>
  self v6 v7
def m_lengthsOf_b4 (I : PI) (p1 : Int32) (self : Int32 → Int32 → Option (Int32)) (v1 : Int32) (v2 : Int32) : Option (Int32) :=
  ck (inb (0 : Int32) 1691) <|
  if I 1 (ix (0 : Int32)) ≤ v2 then (
    some v1)
  else (
    (m_has p1 v2).bind <| fun v4 =>
    if v4 = (0 : Int32) then (
      m_lengthsOf_j32 self v1 v2 (0 : Int32))
    else (
      (m_lengthOf I v2).bind <| fun v8 =>
      m_lengthsOf_j32 self v1 v2 v8))
def m_lengthsOf_l4 (I : PI) (p1 : Int32) : Nat → Int32 → Int32 → Option (Int32)
  | 0 => fun _ _ => none
  | k + 1 => m_lengthsOf_b4 I p1 (m_lengthsOf_l4 I p1 k)
def m_lengthsOf (I : PI) (p1 : Int32) : Option (Int32) :=
  (m_lengthsOf_l4 I p1 fu (0 : Int32) (0 : Int32)).bind <| fun v3 =>
  some v3
def m_cover_j111 (self : Int32 → Int32 → PI → Option (Int32 × PI)) (v3 : Int32) (v8 : Int32) (I9 : PI) : Option (Int32 × PI) :=
  lt_ (v3 + (1 : Int32)) fun v10 =>
  self v8 v10 I9
def m_cover_j104 (self : Int32 → Int32 → PI → Option (Int32 × PI)) (v2 : Int32) (v3 : Int32) (I13 : PI) (v15 : Int32) : Option (Int32 × PI) :=
  if (0 : Int32) ≤ v15 then (
    m_cover_j111 self v3 v2 I13)
  else (
    m_cover_j111 self v3 v3 I13)
def m_cover_j84 (self : Int32 → Int32 → PI → Option (Int32 × PI)) (v2 : Int32) (v3 : Int32) (I13 : PI) (v14 : Int32) : Option (Int32 × PI) :=
  if v14 = (0 : Int32) then (
    (m_lengthsOf I13 v3).bind <| fun v16 =>
    (m_lengthsOf I13 v2).bind <| fun v17 =>
    lt_ (v16 - v17) fun v18 =>
    m_cover_j104 self v2 v3 I13 v18)
  else (
    m_cover_j104 self v2 v3 I13 v14)
def m_cover_b25 (J : PJ) (p1 : Int32) (self : Int32 → Int32 → PI → Option (Int32 × PI)) (v2 : Int32) (v3 : Int32) (I4 : PI) : Option (Int32 × PI) :=
  ck (inb (0 : Int32) 1691) <|
  if (1 : Int32) <<< ((I4 1 (ix (0 : Int32))) &&& 31) ≤ v3 then (
    some (v2, I4))
  else (
    (m_get I4 p1 (1 : Int32)).bind <| fun v7 =>
    if v3 &&& v7 = (0 : Int32) then (
      (m_get I4 p1 (1 : Int32)).bind <| fun v11 =>
      (m_isEnough I4 J (v3 ||| v11)).bind <| un2 fun v12 I13 =>
      if v12 = (0 : Int32) then (
        m_cover_j111 self v3 v2 I13)
      else (
        if v2 = (-1 : Int32) then (
          m_cover_j84 self v2 v3 I13 (-1 : Int32))
        else (
          (m_bits v3).bind <| fun v19 =>
          (m_bits v2).bind <| fun v20 =>
          m_cover_j84 self v2 v3 I13 (v19 - v20))))
    else (
      m_cover_j111 self v3 v2 I4))
def m_cover_l25 (J : PJ) (p1 : Int32) : Nat → Int32 → Int32 → PI → Option (Int32 × PI)
  | 0 => fun _ _ _ => none
  | k + 1 => m_cover_b25 J p1 (m_cover_l25 J p1 k)
def m_cover (I : PI) (J : PJ) (p1 : Int32) : Option (Int32 × PI) :=
  (m_isPerson I p1).bind <| fun v1 =>
  if v1 = (0 : Int32) then (
    some ((-1 : Int32), I))
  else (
    ck (inb (2 : Int32) 1691) <|
    if I 1 (ix (2 : Int32)) = (0 : Int32) then (
      some ((0 : Int32), I))
    else (
      (m_cover_l25 J p1 fu (-1 : Int32) (0 : Int32) I).bind <| un2 fun v5 I6 =>
      some (v5, I6)))
def m_isTold_b2 (J : PJ) (p1 : Int32) (self : Int32 → PI → Option ((Int32 × PI) ⊕ (PI))) (v1 : Int32) (I2 : PI) : Option ((Int32 × PI) ⊕ (PI)) :=
  ck (inb (1 : Int32) 1691) <|
  if I2 1 (ix (1 : Int32)) ≤ v1 then (
    some (.inr I2))
  else (
    (m_get I2 v1 (1 : Int32)).bind <| fun v4 =>
    (m_isEnough I2 J (v4 &&& (p1 ^^^ (-1 : Int32)))).bind <| un2 fun v5 I6 =>
    if v5 = (0 : Int32) then (
      lt_ (v1 + (1 : Int32)) fun v7 =>
      self v7 I6)
    else (
      some (.inl ((1 : Int32), I6))))
def m_isTold_l2 (J : PJ) (p1 : Int32) : Nat → Int32 → PI → Option ((Int32 × PI) ⊕ (PI))
  | 0 => fun _ _ => none
  | k + 1 => m_isTold_b2 J p1 (m_isTold_l2 J p1 k)
def m_isTold (I : PI) (J : PJ) (p1 : Int32) : Option (Int32 × PI) :=
  lbind (m_isTold_l2 J p1 fu (0 : Int32) I) (some) <| fun I3 =>
  some ((0 : Int32), I3)
def m_keep_j57 (self : Int32 → Int32 → PI → Option (Int32 × PI)) (v1 : Int32) (v2 : Int32) (v6 : Int32) (I7 : PI) : Option (Int32 × PI) :=
  lt_ (v1 ||| v6) fun v8 =>
  lt_ (v2 + (1 : Int32)) fun v9 =>
  self v8 v9 I7
def m_keep_j56 (self : Int32 → Int32 → PI → Option (Int32 × PI)) (v1 : Int32) (v2 : Int32) (I10 : PI) : Option (Int32 × PI) :=
  m_keep_j57 self v1 v2 (0 : Int32) I10
def m_keep_b4 (J : PJ) (self : Int32 → Int32 → PI → Option (Int32 × PI)) (v1 : Int32) (v2 : Int32) (I3 : PI) : Option (Int32 × PI) :=
  ck (inb (0 : Int32) 1691) <|
  if I3 1 (ix (0 : Int32)) ≤ v2 then (
    some (v1, I3))
  else (
    ck (inb (2 : Int32) 1691) <|
    if I3 1 (ix (2 : Int32)) ≤ (0 : Int32) then (
      m_keep_j56 self v1 v2 I3)
    else (
      (m_knownBy I3 v2).bind <| fun v11 =>
      if v11 = (0 : Int32) then (
        m_keep_j56 self v1 v2 I3)
      else (
        (m_isTold I3 J (0 : Int32)).bind <| un2 fun v12 I13 =>
        if v12 = (0 : Int32) then (
          m_keep_j56 self v1 v2 I13)
        else (
          (m_isTold I13 J ((1 : Int32) <<< (v2 &&& 31))).bind <| un2 fun v14 I15 =>
          if v14 = (0 : Int32) then (
            m_keep_j57 self v1 v2 ((1 : Int32) <<< (v2 &&& 31)) I15)
          else (
            m_keep_j56 self v1 v2 I15)))))
def m_keep_l4 (J : PJ) : Nat → Int32 → Int32 → PI → Option (Int32 × PI)
  | 0 => fun _ _ _ => none
  | k + 1 => m_keep_b4 J (m_keep_l4 J k)
def m_keep (I : PI) (J : PJ) : Option (Int32 × PI) :=
  (m_keep_l4 J fu (0 : Int32) (0 : Int32) I).bind <| un2 fun v4 I5 =>
  some (v4, I5)
def m_both (I : PI) (J : PJ) (p1 : Int32) (p2 : Int32) (p3 : Int32) : Option (Int32 × PI × PJ) :=
  (m_isPerson I p1).bind <| fun v1 =>
  if v1 = (0 : Int32) then (
    some ((-1 : Int32), I, J))
  else (
    (m_isPerson I p2).bind <| fun v2 =>
    if v2 = (0 : Int32) then (
      some ((-1 : Int32), I, J))
    else (
      (m_isStory I p3).bind <| fun v3 =>
      if v3 = (0 : Int32) then (
        some ((-1 : Int32), I, J))
      else (
        (m_get I p1 (1 : Int32)).bind <| fun v4 =>
        (m_get I p2 (1 : Int32)).bind <| fun v5 =>
        (m_lengthBy I J (v4 ||| v5)).bind <| un3 fun v6 I7 J8 =>
        some (v6, I7, J8))))
def m_apartBy_j76 (self : Int32 → Int32 → Option (Int32)) (v5 : Int32) (v6 : Int32) (v14 : Int32) : Option (Int32) :=
  lt_ (v5 + v14) fun v15 =>
  lt_ (v6 + (1 : Int32)) fun v16 =>
  self v15 v16
def m_apartBy_j68 (self : Int32 → Int32 → Option (Int32)) (v5 : Int32) (v6 : Int32) (v10 : Int32) (v13 : Int32) : Option (Int32) :=
  if v10 = v13 then (
    m_apartBy_j76 self v5 v6 (0 : Int32))
  else (
    m_apartBy_j76 self v5 v6 (1 : Int32))
def m_apartBy_j46 (I : PI) (self : Int32 → Int32 → Option (Int32)) (p2 : Int32) (v2 : Int32) (v5 : Int32) (v6 : Int32) (v10 : Int32) : Option (Int32) :=
  (m_placeOf I p2 v2).bind <| fun v11 =>
  (m_placeOf I p2 v6).bind <| fun v12 =>
  if v12 ≤ v11 then (
    m_apartBy_j68 self v5 v6 v10 (0 : Int32))
  else (
    m_apartBy_j68 self v5 v6 v10 (1 : Int32))
def m_apartBy_b17 (I : PI) (p1 : Int32) (p2 : Int32) (v2 : Int32) (self : Int32 → Int32 → Option (Int32)) (v5 : Int32) (v6 : Int32) : Option (Int32) :=
  if (5 : Int32) ≤ v6 then (
    some v5)
  else (
    (m_placeOf I p1 v2).bind <| fun v8 =>
    (m_placeOf I p1 v6).bind <| fun v9 =>
    if v9 ≤ v8 then (
      m_apartBy_j46 I self p2 v2 v5 v6 (0 : Int32))
    else (
      m_apartBy_j46 I self p2 v2 v5 v6 (1 : Int32)))
def m_apartBy_l17 (I : PI) (p1 : Int32) (p2 : Int32) (v2 : Int32) : Nat → Int32 → Int32 → Option (Int32)
  | 0 => fun _ _ => none
  | k + 1 => m_apartBy_b17 I p1 p2 v2 (m_apartBy_l17 I p1 p2 v2 k)
def m_apartBy_b5 (I : PI) (p1 : Int32) (p2 : Int32) (self : Int32 → Int32 → Option (Int32)) (v1 : Int32) (v2 : Int32) : Option (Int32) :=
  if (5 : Int32) ≤ v2 then (
    some v1)
  else (
    lt_ (v2 + (1 : Int32)) fun v4 =>
    (m_apartBy_l17 I p1 p2 v2 fu v1 v4).bind <| fun v7 =>
    lt_ (v2 + (1 : Int32)) fun v17 =>
    self v7 v17)
def m_apartBy_l5 (I : PI) (p1 : Int32) (p2 : Int32) : Nat → Int32 → Int32 → Option (Int32)
  | 0 => fun _ _ => none
  | k + 1 => m_apartBy_b5 I p1 p2 (m_apartBy_l5 I p1 p2 k)
def m_apartBy (I : PI) (p1 : Int32) (p2 : Int32) : Option (Int32) :=
  (m_apartBy_l5 I p1 p2 fu (0 : Int32) (0 : Int32)).bind <| fun v3 =>
  some v3
def m_apart (I : PI) (p1 : Int32) (p2 : Int32) : Option (Int32) :=
  (m_isIn p1 (0 : Int32) (119 : Int32)).bind <| fun v1 =>
  if v1 = (0 : Int32) then (
    some (-1 : Int32))
  else (
    (m_isIn p2 (0 : Int32) (119 : Int32)).bind <| fun v2 =>
    if v2 = (0 : Int32) then (
      some (-1 : Int32))
    else (
      (m_apartBy I p1 p2).bind <| fun v3 =>
      some v3))
def m_middle_b29 (I : PI) (v3 : Int32) (self : Int32 → Int32 → Option (Int32)) (v5 : Int32) (v6 : Int32) : Option (Int32) :=
  ck (inb (2 : Int32) 1691) <|
  if I 1 (ix (2 : Int32)) ≤ v6 then (
    some v5)
  else (
    ck (inb ((57 : Int32) + v6) 1691) <|
    (m_apartBy I v3 (I 1 (ix ((57 : Int32) + v6)))).bind <| fun v8 =>
    lt_ (v5 + v8) fun v9 =>
    lt_ (v6 + (1 : Int32)) fun v10 =>
    self v9 v10)
def m_middle_l29 (I : PI) (v3 : Int32) : Nat → Int32 → Int32 → Option (Int32)
  | 0 => fun _ _ => none
  | k + 1 => m_middle_b29 I v3 (m_middle_l29 I v3 k)
def m_middle_j80 (self : Int32 → Int32 → Int32 → Option (Int32)) (v3 : Int32) (v11 : Int32) (v12 : Int32) : Option (Int32) :=
  lt_ (v3 + (1 : Int32)) fun v13 =>
  self v11 v12 v13
def m_middle_b8 (I : PI) (self : Int32 → Int32 → Int32 → Option (Int32)) (v1 : Int32) (v2 : Int32) (v3 : Int32) : Option (Int32) :=
  if (120 : Int32) ≤ v3 then (
    some v1)
  else (
    ck (inb (2 : Int32) 1691) <|
    if I 1 (ix (2 : Int32)) ≤ (0 : Int32) then (
      some v1)
    else (
      (m_middle_l29 I v3 fu (0 : Int32) (0 : Int32)).bind <| fun v7 =>
      if v7 < v2 then (
        m_middle_j80 self v3 v3 v7)
      else (
        m_middle_j80 self v3 v1 v2)))
def m_middle_l8 (I : PI) : Nat → Int32 → Int32 → Int32 → Option (Int32)
  | 0 => fun _ _ _ => none
  | k + 1 => m_middle_b8 I (m_middle_l8 I k)
def m_middle (I : PI) : Option (Int32) :=
  (m_middle_l8 I fu (-1 : Int32) (1000000 : Int32) (0 : Int32)).bind <| fun v4 =>
  some v4
def m_lost_j126 (self : Int64 → Int64 → Int32 → PI → PJ → Option (Int64 × Int64 × PI × PJ)) (v5 : Int32) (w14 : Int64) (w15 : Int64) (I16 : PI) (J17 : PJ) : Option (Int64 × Int64 × PI × PJ) :=
  lt_ (v5 + (1 : Int32)) fun v18 =>
  self w14 w15 v18 I16 J17
def m_lost_b67 (p1 : Int32) (p2 : Int32) (v5 : Int32) (self : Int64 → Int64 → Int32 → PI → PJ → Option (Int64 × Int64 × PI × PJ)) (w19 : Int64) (w20 : Int64) (v21 : Int32) (I22 : PI) (J23 : PJ) : Option (Int64 × Int64 × PI × PJ) :=
  if p2 ≤ v21 then (
    some (w19, w20, I22, J23))
  else (
    ck (inb (4 : Int32) 1691) <|
    (m_fadesOf I22 J23 (I22 1 (ix (4 : Int32))) v5 p1).bind <| un3 fun v28 I29 J30 =>
    lt_ (w19 * (Int32.toInt64 ((10 : Int32) - v28))) fun w31 =>
    lt_ (w20 * (10 : Int64)) fun w32 =>
    lt_ (v21 + (1 : Int32)) fun v33 =>
    self w31 w32 v33 I29 J30)
def m_lost_l67 (p1 : Int32) (p2 : Int32) (v5 : Int32) : Nat → Int64 → Int64 → Int32 → PI → PJ → Option (Int64 × Int64 × PI × PJ)
  | 0 => fun _ _ _ _ _ => none
  | k + 1 => m_lost_b67 p1 p2 v5 (m_lost_l67 p1 p2 v5 k)
def m_lost_b30 (p1 : Int32) (p2 : Int32) (self : Int64 → Int64 → Int32 → PI → PJ → Option (Int64 × Int64 × PI × PJ)) (w3 : Int64) (w4 : Int64) (v5 : Int32) (I6 : PI) (J7 : PJ) : Option (Int64 × Int64 × PI × PJ) :=
  ck (inb (1 : Int32) 1691) <|
  if I6 1 (ix (1 : Int32)) ≤ v5 then (
    some (w3, w4, I6, J7))
  else (
    (m_get I6 v5 (1 : Int32)).bind <| fun v12 =>
    (m_has v12 p1).bind <| fun v13 =>
    if v13 = (0 : Int32) then (
      m_lost_j126 self v5 w3 w4 I6 J7)
    else (
      (m_lost_l67 p1 p2 v5 fu (1 : Int64) (1 : Int64) (0 : Int32) I6 J7).bind <| un4 fun w24 w25 I26 J27 =>
      lt_ (w3 * (w25 - w24)) fun w34 =>
      lt_ (w4 * w25) fun w35 =>
      m_lost_j126 self v5 w34 w35 I26 J27))
def m_lost_l30 (p1 : Int32) (p2 : Int32) : Nat → Int64 → Int64 → Int32 → PI → PJ → Option (Int64 × Int64 × PI × PJ)
  | 0 => fun _ _ _ _ _ => none
  | k + 1 => m_lost_b30 p1 p2 (m_lost_l30 p1 p2 k)
def m_lost_j143 (w8 : Int64) (w9 : Int64) (I10 : PI) (J11 : PJ) (w36 : Int64) : Option (Int64 × PI × PJ) :=
  (m_divisor w8 w9).bind <| fun w37 =>
  ck (nzl w37) <|
  some (w36 / w37, I10, J11)
def m_lost (I : PI) (J : PJ) (p1 : Int32) (p2 : Int32) (p3 : Int32) : Option (Int64 × PI × PJ) :=
  (m_isForm I p1).bind <| fun v1 =>
  if v1 = (0 : Int32) then (
    some ((-1 : Int64), I, J))
  else (
    (m_isIn p2 (1 : Int32) (3 : Int32)).bind <| fun v2 =>
    if v2 = (0 : Int32) then (
      some ((-1 : Int64), I, J))
    else (
      (m_lost_l30 p1 p2 fu (1 : Int64) (1 : Int64) (0 : Int32) I J).bind <| un4 fun w8 w9 I10 J11 =>
      if p3 = (0 : Int32) then (
        m_lost_j143 w8 w9 I10 J11 w8)
      else (
        m_lost_j143 w8 w9 I10 J11 w9)))
def m_heirs_j57 (self : Int32 → Int32 → PI → PJ → Option (Int32 × PI × PJ)) (v9 : Int32) (v10 : Int32) (I17 : PI) (J18 : PJ) (v19 : Int32) : Option (Int32 × PI × PJ) :=
  lt_ (v9 ||| v19) fun v20 =>
  lt_ (v10 + (1 : Int32)) fun v21 =>
  self v20 v21 I17 J18
def m_heirs_b27 (p1 : Int32) (v3 : Int32) (self : Int32 → Int32 → PI → PJ → Option (Int32 × PI × PJ)) (v9 : Int32) (v10 : Int32) (I11 : PI) (J12 : PJ) : Option (Int32 × PI × PJ) :=
  ck (inb (1 : Int32) 1691) <|
  if I11 1 (ix (1 : Int32)) ≤ v10 then (
    some (v9, I11, J12))
  else (
    (m_canTeach I11 J12 p1 v10 v3).bind <| un3 fun v16 I17 J18 =>
    if v16 = (0 : Int32) then (
      m_heirs_j57 self v9 v10 I17 J18 (0 : Int32))
    else (
      m_heirs_j57 self v9 v10 I17 J18 ((1 : Int32) <<< (v3 &&& 31))))
def m_heirs_l27 (p1 : Int32) (v3 : Int32) : Nat → Int32 → Int32 → PI → PJ → Option (Int32 × PI × PJ)
  | 0 => fun _ _ _ _ => none
  | k + 1 => m_heirs_b27 p1 v3 (m_heirs_l27 p1 v3 k)
def m_heirs_b14 (p1 : Int32) (self : Int32 → Int32 → PI → PJ → Option (Int32 × PI × PJ)) (v2 : Int32) (v3 : Int32) (I4 : PI) (J5 : PJ) : Option (Int32 × PI × PJ) :=
  ck (inb (1 : Int32) 1691) <|
  if I4 1 (ix (1 : Int32)) ≤ v3 then (
    some (v2, I4, J5))
  else (
    (m_heirs_l27 p1 v3 fu v2 (0 : Int32) I4 J5).bind <| un3 fun v13 I14 J15 =>
    lt_ (v3 + (1 : Int32)) fun v22 =>
    self v13 v22 I14 J15)
def m_heirs_l14 (p1 : Int32) : Nat → Int32 → Int32 → PI → PJ → Option (Int32 × PI × PJ)
  | 0 => fun _ _ _ _ => none
  | k + 1 => m_heirs_b14 p1 (m_heirs_l14 p1 k)
def m_heirs (I : PI) (J : PJ) (p1 : Int32) : Option (Int32 × PI × PJ) :=
  (m_isForm I p1).bind <| fun v1 =>
  if v1 = (0 : Int32) then (
    some ((-1 : Int32), I, J))
  else (
    (m_heirs_l14 p1 fu (0 : Int32) (0 : Int32) I J).bind <| un3 fun v6 I7 J8 =>
    some (v6, I7, J8))
def m_seen (I : PI) (p1 : Int32) (p2 : Int32) : Option (Int32 × PI) :=
  if p1 = (-1 : Int32) then (
    ck (inb (7 : Int32) 1691) <|
    lt_ (u2 I 1 (ix (7 : Int32)) (0 : Int32)) fun I6 =>
    some ((0 : Int32), I6))
  else (
    (m_isPerson I p1).bind <| fun v1 =>
    if v1 = (0 : Int32) then (
      some ((-2 : Int32), I))
    else (
      (m_isIn p2 (0 : Int32) (10 : Int32)).bind <| fun v2 =>
      if v2 = (0 : Int32) then (
        some ((-2 : Int32), I))
      else (
        ck (inb (7 : Int32) 1691) <|
        if I 1 (ix (7 : Int32)) = (8 : Int32) then (
          some ((-2 : Int32), I))
        else (
          ck (inb (7 : Int32) 1691) <|
          ck (inb ((85 : Int32) + ((2 : Int32) * (I 1 (ix (7 : Int32))))) 1691) <|
          lt_ (u2 I 1 (ix ((85 : Int32) + ((2 : Int32) * (I 1 (ix (7 : Int32)))))) p1) fun I3 =>
          ck (inb (7 : Int32) 1691) <|
          ck (inb (((85 : Int32) + ((2 : Int32) * (I3 1 (ix (7 : Int32))))) + (1 : Int32)) 1691) <|
          lt_ (u2 I3 1 (ix (((85 : Int32) + ((2 : Int32) * (I3 1 (ix (7 : Int32))))) + (1 : Int32))) p2) fun I4 =>
          ck (inb (7 : Int32) 1691) <|
          ck (inb (7 : Int32) 1691) <|
          lt_ (u2 I4 1 (ix (7 : Int32)) ((I4 1 (ix (7 : Int32))) + (1 : Int32))) fun I5 =>
          ck (inb (7 : Int32) 1691) <|
          some (I5 1 (ix (7 : Int32)), I5)))))
def m_whose_j75 (self : Int32 → Int32 → PI → PJ → Option (Int32 × PI × PJ)) (v9 : Int32) (v15 : Int32) (I16 : PI) (J17 : PJ) : Option (Int32 × PI × PJ) :=
  lt_ (v9 + (1 : Int32)) fun v18 =>
  self v15 v18 I16 J17
def m_whose_j74 (self : Int32 → Int32 → PI → PJ → Option (Int32 × PI × PJ)) (v9 : Int32) (I19 : PI) (J20 : PJ) : Option (Int32 × PI × PJ) :=
  m_whose_j75 self v9 (0 : Int32) I19 J20
def m_whose_b19 (v2 : Int32) (self : Int32 → Int32 → PI → PJ → Option (Int32 × PI × PJ)) (v8 : Int32) (v9 : Int32) (I10 : PI) (J11 : PJ) : Option (Int32 × PI × PJ) :=
  ck (inb (7 : Int32) 1691) <|
  if I10 1 (ix (7 : Int32)) ≤ v9 then (
    some (v8, I10, J11))
  else (
    if v8 = (0 : Int32) then (
      m_whose_j74 self v9 I10 J11)
    else (
      ck (inb ((85 : Int32) + ((2 : Int32) * v9)) 1691) <|
      (m_fadesOf I10 J11 v2 (I10 1 (ix ((85 : Int32) + ((2 : Int32) * v9)))) (0 : Int32)).bind <| un3 fun v21 I22 J23 =>
      ck (inb (((85 : Int32) + ((2 : Int32) * v9)) + (1 : Int32)) 1691) <|
      if v21 = I22 1 (ix (((85 : Int32) + ((2 : Int32) * v9)) + (1 : Int32))) then (
        m_whose_j75 self v9 (1 : Int32) I22 J23)
      else (
        m_whose_j74 self v9 I22 J23)))
def m_whose_l19 (v2 : Int32) : Nat → Int32 → Int32 → PI → PJ → Option (Int32 × PI × PJ)
  | 0 => fun _ _ _ _ => none
  | k + 1 => m_whose_b19 v2 (m_whose_l19 v2 k)
def m_whose_j94 (self : Int32 → Int32 → PI → PJ → Option (Int32 × PI × PJ)) (v1 : Int32) (v2 : Int32) (I13 : PI) (J14 : PJ) (v24 : Int32) : Option (Int32 × PI × PJ) :=
  lt_ (v1 ||| v24) fun v25 =>
  lt_ (v2 + (1 : Int32)) fun v26 =>
  self v25 v26 I13 J14
def m_whose_b4  (self : Int32 → Int32 → PI → PJ → Option (Int32 × PI × PJ)) (v1 : Int32) (v2 : Int32) (I3 : PI) (J4 : PJ) : Option (Int32 × PI × PJ) :=
  ck (inb (3 : Int32) 1691) <|
  if I3 1 (ix (3 : Int32)) ≤ v2 then (
    some (v1, I3, J4))
  else (
    (m_whose_l19 v2 fu (1 : Int32) (0 : Int32) I3 J4).bind <| un3 fun v12 I13 J14 =>
    if v12 = (0 : Int32) then (
      m_whose_j94 self v1 v2 I13 J14 (0 : Int32))
    else (
      m_whose_j94 self v1 v2 I13 J14 ((1 : Int32) <<< (v2 &&& 31))))
def m_whose_l4  : Nat → Int32 → Int32 → PI → PJ → Option (Int32 × PI × PJ)
  | 0 => fun _ _ _ _ => none
  | k + 1 => m_whose_b4 (m_whose_l4 k)
def m_whose (I : PI) (J : PJ) : Option (Int32 × PI × PJ) :=
  (m_whose_l4 fu (0 : Int32) (0 : Int32) I J).bind <| un3 fun v5 I6 J7 =>
  some (v5, I6, J7)
def m_image (I : PI) : Option (Int32 × PI) :=
  (m_copy I 1 2).bind <| fun I1 =>
  ck (inb (8 : Int32) 1691) <|
  some (I1 1 (ix (8 : Int32)), I1)
def m_back (I : PI) : Option (Int32 × PI) :=
  (m_copy I 2 1).bind <| fun I1 =>
  ck (inb (8 : Int32) 1691) <|
  some (I1 1 (ix (8 : Int32)), I1)
def m_about (I : PI) (p1 : Int32) : Option (Int32) :=
  (m_isIn p1 (0 : Int32) (7 : Int32)).bind <| fun v1 =>
  if v1 = (0 : Int32) then (
    if p1 = (8 : Int32) then (
      some (I 0 9))
    else (
      some (-2 : Int32)))
  else (
    ck (inb p1 1691) <|
    some (I 1 (ix p1)))

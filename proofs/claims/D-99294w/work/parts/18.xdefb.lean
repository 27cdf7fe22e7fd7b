/-! what further methods of the class do, as functions (printed by gen_x.py) -/
set_option maxRecDepth 100000
def x_says_b99 (k2 : Nat) (self : Int32 → PI → Option (PI)) (v10 : Int32) (I11 : PI) : Option (PI) :=
  if (8 : Int32) ≤ v10 then (
    some I11)
  else (
    (x_knownBy I11 k2 v10).bind <| fun v13 =>
    (J2_bitCount v13).bind <| fun v14 =>
    ck (inb ((8 : Int32) + v10) 16) <|
    lt_ (u2 I11 116 (ix ((8 : Int32) + v10)) v14) fun I15 =>
    lt_ (v10 + (1 : Int32)) fun v16 =>
    self v16 I15)
def x_says_l99 (k2 : Nat) : Nat → Int32 → PI → Option (PI)
  | 0 => fun _ _ => none
  | k + 1 => x_says_b99 k2 (x_says_l99 k2 k)
def x_says (I : PI) (X : TS) (a1 : Nat) (k2 : Nat) (p3 : Int32) (p4 : Int32) (p5 : Int32) : Option (Int32 × PI) :=
  lt_ (u2 I 116 (ix (0 : Int32)) (I k2 (ix (0 : Int32)))) fun I1 =>
  lt_ (u2 I1 116 (ix (1 : Int32)) p4) fun I2 =>
  ck (inb p4 8) <|
  lt_ (u2 I2 116 (ix (2 : Int32)) (I2 4 (ix p4))) fun I3 =>
  ck (inb p4 8) <|
  lt_ (u2 I3 116 (ix (3 : Int32)) (I3 5 (ix p4))) fun I4 =>
  ck (inb ((2 : Int32) + p3) 141) <|
  lt_ (u2 I4 116 (ix (4 : Int32)) (I4 k2 (ix ((2 : Int32) + p3)))) fun I5 =>
  lt_ (u2 I5 116 (ix (5 : Int32)) p3) fun I6 =>
  ck (inb ((8 : Int32) + p3) 141) <|
  (J2_bitCount (I6 k2 (ix ((8 : Int32) + p3)))).bind <| fun v7 =>
  lt_ (u2 I6 116 (ix (6 : Int32)) v7) fun I8 =>
  ck (inb ((14 : Int32) + p3) 141) <|
  lt_ (u2 I8 116 (ix (7 : Int32)) (I8 k2 (ix ((14 : Int32) + p3)))) fun I9 =>
  (x_says_l99 k2 fu (0 : Int32) I9).bind <| fun I12 =>
  (X a1).bind fun q17 =>
  ck (inb p5 2) <|
  optc (lawOf q17 p5) (
    if p5 = (0 : Int32) then (
      (x_held (Int32.toInt64 ((I12 116 (ix (4 : Int32))) / (20 : Int32))) (0 : Int32) (10 : Int32)).bind <| fun v22 =>
      some (v22, I12))
    else (
      (x_held (1 : Int64) (-99 : Int32) (99 : Int32)).bind <| fun v21 =>
      some (v21, I12)))
  (fun F19 =>
    if p5 = (0 : Int32) then (
      lt_ (F19 (I12 116)) fun w25 =>
      (x_held w25 (0 : Int32) (10 : Int32)).bind <| fun v26 =>
      some (v26, I12))
    else (
      lt_ (F19 (I12 116)) fun w23 =>
      (x_held w23 (-99 : Int32) (99 : Int32)).bind <| fun v24 =>
      some (v24, I12)))
def x_canLearn (I : PI) (T : PT) (X : TS) (tN : XCo) (p1 : Int32) (p2 : Int32) : Option (Int32 × PI) :=
  (x_isPerson I p1).bind <| fun v1 =>
  if v1 = (0 : Int32) then (
    some ((0 : Int32), I))
  else (
    (x_isForm I p2).bind <| fun v2 =>
    if v2 = (0 : Int32) then (
      some ((0 : Int32), I))
    else (
      (x_formsOf I p1).bind <| fun v3 =>
      (x_has v3 p2).bind <| fun v4 =>
      if v4 = (0 : Int32) then (
        (x_rules I T tN).bind <| fun a5 =>
        (x_says I X a5 3 p1 p2 (1 : Int32)).bind <| un2 fun v6 I7 =>
        if v6 ≤ (0 : Int32) then (
          some ((0 : Int32), I7))
        else (
          some ((1 : Int32), I7)))
      else (
        some ((0 : Int32), I))))
def x_canTeach (I : PI) (T : PT) (X : TS) (tN : XCo) (p1 : Int32) (p2 : Int32) (p3 : Int32) : Option (Int32 × PI) :=
  (x_knows I p2 p1).bind <| fun v1 =>
  if v1 = (0 : Int32) then (
    some ((0 : Int32), I))
  else (
    ck (inb ((14 : Int32) + p2) 141) <|
    ck (inb p1 8) <|
    if I 3 (ix ((14 : Int32) + p2)) < I 5 (ix p1) then (
      some ((0 : Int32), I))
    else (
      (x_canLearn I T X tN p3 p1).bind <| un2 fun v2 I3 =>
      if v2 = (0 : Int32) then (
        some ((0 : Int32), I3))
      else (
        some ((1 : Int32), I3))))
def x_teach (I : PI) (T : PT) (X : TS) (tN : XCo) (p1 : Int32) (p2 : Int32) (p3 : Int32) : Option (Int32 × PI) :=
  (x_canTeach I T X tN p1 p2 p3).bind <| un2 fun v1 I2 =>
  if v1 = (0 : Int32) then (
    some ((0 : Int32), I2))
  else (
    (xs_keeps I2).bind <| fun I3 =>
    (x_teaches I3 p1 p2 p3).bind <| fun I4 =>
    some ((1 : Int32), I4))
def x_fades_j83 (self : Int32 → Int32 → PI → Option (Int32 × PI)) (v2 : Int32) (v7 : Int32) (I8 : PI) : Option (Int32 × PI) :=
  lt_ (v2 + (1 : Int32)) fun v9 =>
  self v7 v9 I8
def x_fades_b5 (T : PT) (X : TS) (tN : XCo) (k1 : Nat) (p2 : Int32) (self : Int32 → Int32 → PI → Option (Int32 × PI)) (v1 : Int32) (v2 : Int32) (I3 : PI) : Option (Int32 × PI) :=
  if I3 2 (ix (0 : Int32)) ≤ v2 then (
    some (v1, I3))
  else (
    ck (inb ((8 : Int32) + p2) 141) <|
    (x_has (I3 k1 (ix ((8 : Int32) + p2))) v2).bind <| fun v6 =>
    if v6 = (0 : Int32) then (
      x_fades_j83 self v2 v1 I3)
    else (
      (x_rules I3 T tN).bind <| fun a10 =>
      (x_says I3 X a10 k1 p2 v2 (0 : Int32)).bind <| un2 fun v11 I12 =>
      (x_drawn I12 k1 (10 : Int32)).bind <| un2 fun v13 I14 =>
      if v13 < v11 then (
        lt_ ((8 : Int32) + p2) fun v15 =>
        ck (inb v15 141) <|
        ck (inb v15 141) <|
        lt_ (u2 I14 k1 (ix v15) ((I14 k1 (ix v15)) &&& (((1 : Int32) <<< (v2 &&& 31)) ^^^ (-1 : Int32)))) fun I16 =>
        lt_ (v1 + (1 : Int32)) fun v17 =>
        x_fades_j83 self v2 v17 I16)
      else (
        x_fades_j83 self v2 v1 I14)))
def x_fades_l5 (T : PT) (X : TS) (tN : XCo) (k1 : Nat) (p2 : Int32) : Nat → Int32 → Int32 → PI → Option (Int32 × PI)
  | 0 => fun _ _ _ => none
  | k + 1 => x_fades_b5 T X tN k1 p2 (x_fades_l5 T X tN k1 p2 k)
def x_fades (I : PI) (T : PT) (X : TS) (tN : XCo) (k1 : Nat) (p2 : Int32) : Option (Int32 × PI) :=
  (x_fades_l5 T X tN k1 p2 fu (0 : Int32) (0 : Int32) I).bind <| un2 fun v4 I5 =>
  some (v4, I5)
def x_passes_b4 (T : PT) (X : TS) (tN : XCo) (k1 : Nat) (self : Int32 → Int32 → PI → Option (Int32 × PI)) (v1 : Int32) (v2 : Int32) (I3 : PI) : Option (Int32 × PI) :=
  if I3 2 (ix (1 : Int32)) ≤ v2 then (
    some (v1, I3))
  else (
    (x_fades I3 T X tN k1 v2).bind <| un2 fun v6 I7 =>
    lt_ (v1 + v6) fun v8 =>
    ck (inb ((2 : Int32) + v2) 141) <|
    lt_ (if ((I7 k1 (ix ((2 : Int32) + v2))) + (1 : Int32)) < (99 : Int32) then ((I7 k1 (ix ((2 : Int32) + v2))) + (1 : Int32)) else (99 : Int32)) fun v9 =>
    ck (inb ((2 : Int32) + v2) 141) <|
    lt_ (u2 I7 k1 (ix ((2 : Int32) + v2)) v9) fun I10 =>
    ck (inb ((14 : Int32) + v2) 141) <|
    lt_ (if ((I10 k1 (ix ((14 : Int32) + v2))) + (10 : Int32)) < (99 : Int32) then ((I10 k1 (ix ((14 : Int32) + v2))) + (10 : Int32)) else (99 : Int32)) fun v11 =>
    ck (inb ((14 : Int32) + v2) 141) <|
    lt_ (u2 I10 k1 (ix ((14 : Int32) + v2)) v11) fun I12 =>
    lt_ (v2 + (1 : Int32)) fun v13 =>
    self v8 v13 I12)
def x_passes_l4 (T : PT) (X : TS) (tN : XCo) (k1 : Nat) : Nat → Int32 → Int32 → PI → Option (Int32 × PI)
  | 0 => fun _ _ _ => none
  | k + 1 => x_passes_b4 T X tN k1 (x_passes_l4 T X tN k1 k)
def x_passes (I : PI) (T : PT) (X : TS) (tN : XCo) (k1 : Nat) : Option (Int32 × PI) :=
  (x_passes_l4 T X tN k1 fu (0 : Int32) (0 : Int32) I).bind <| un2 fun v4 I5 =>
  lt_ (u2 I5 k1 (ix (0 : Int32)) ((I5 k1 (ix (0 : Int32))) + (1 : Int32))) fun I14 =>
  some (v4, I14)
def x_year_b33 (T : PT) (X : TS) (tN : XCo) (p1 : Int32) (self : Int32 → Int32 → PI → Option (Int32 × PI)) (v2 : Int32) (v3 : Int32) (I4 : PI) : Option (Int32 × PI) :=
  if p1 ≤ v3 then (
    some (v2, I4))
  else (
    (xs_keeps I4).bind <| fun I7 =>
    (x_passes I7 T X tN 3).bind <| un2 fun v8 I9 =>
    lt_ (v2 + v8) fun v10 =>
    lt_ (v3 + (1 : Int32)) fun v11 =>
    self v10 v11 I9)
def x_year_l33 (T : PT) (X : TS) (tN : XCo) (p1 : Int32) : Nat → Int32 → Int32 → PI → Option (Int32 × PI)
  | 0 => fun _ _ _ => none
  | k + 1 => x_year_b33 T X tN p1 (x_year_l33 T X tN p1 k)
def x_year (I : PI) (T : PT) (X : TS) (tN : XCo) (p1 : Int32) : Option (Int32 × PI) :=
  (x_in p1 (1 : Int32) (60 : Int32)).bind <| fun v1 =>
  if v1 = (0 : Int32) then (
    some ((-1 : Int32), I))
  else (
    if (I 3 (ix (0 : Int32))) + p1 ≤ (9999 : Int32) then (
      (x_year_l33 T X tN p1 fu (0 : Int32) (0 : Int32) I).bind <| un2 fun v5 I6 =>
      some (v5, I6))
    else (
      some ((-1 : Int32), I)))
def x_passesAll_b2 (T : PT) (X : TS) (tN : XCo) (p1 : Int32) (self : Int32 → PI → Option ((Int32 × PI) ⊕ (PI))) (v1 : Int32) (I2 : PI) : Option ((Int32 × PI) ⊕ (PI)) :=
  if p1 ≤ v1 then (
    some (.inr I2))
  else (
    (x_year I2 T X tN (1 : Int32)).bind <| un2 fun v4 I5 =>
    if v4 = (-1 : Int32) then (
      some (.inl ((0 : Int32), I5)))
    else (
      lt_ (v1 + (1 : Int32)) fun v6 =>
      self v6 I5))
def x_passesAll_l2 (T : PT) (X : TS) (tN : XCo) (p1 : Int32) : Nat → Int32 → PI → Option ((Int32 × PI) ⊕ (PI))
  | 0 => fun _ _ => none
  | k + 1 => x_passesAll_b2 T X tN p1 (x_passesAll_l2 T X tN p1 k)
def x_passesAll (I : PI) (T : PT) (X : TS) (tN : XCo) (p1 : Int32) : Option (Int32 × PI) :=
  lbind (x_passesAll_l2 T X tN p1 fu (0 : Int32) I) (some) <| fun I3 =>
  some ((1 : Int32), I3)
def x_does (I : PI) (J : PJ) (T : PT) (X : TS) (tN : XCo) (d1 : Int32 × Int32 × Int32 × Int32 × Int32) : Option (Int32 × PI × PJ) :=
  if d1.1 = (202 : Int32) then (
    (x_form I d1.2.1 d1.2.2.1).bind <| un2 fun v1 I2 =>
    if v1 = (-1 : Int32) then (
      some ((0 : Int32), I2, J))
    else (
      some ((1 : Int32), I2, J)))
  else (
  if d1.1 = (203 : Int32) then (
    (x_person I d1.2.1 d1.2.2.1).bind <| un2 fun v3 I4 =>
    if v3 = (-1 : Int32) then (
      some ((0 : Int32), I4, J))
    else (
      some ((1 : Int32), I4, J)))
  else (
  if d1.1 = (204 : Int32) then (
    (x_story I d1.2.1).bind <| un2 fun v5 I6 =>
    if v5 = (-1 : Int32) then (
      some ((0 : Int32), I6, J))
    else (
      some ((1 : Int32), I6, J)))
  else (
  if d1.1 = (205 : Int32) then (
    (x_teach I T X tN d1.2.1 d1.2.2.1 d1.2.2.2.1).bind <| un2 fun v7 I8 =>
    ck (isb v7) <|
    some (v7, I8, J))
  else (
  if d1.1 = (206 : Int32) then (
    (x_forget I d1.2.2.1 d1.2.1).bind <| un2 fun v9 I10 =>
    ck (isb v9) <|
    some (v9, I10, J))
  else (
  if d1.1 = (207 : Int32) then (
    (x_tell I J d1.2.2.1 d1.2.1).bind <| un3 fun v11 I12 J13 =>
    if v11 = (-1 : Int32) then (
      some ((0 : Int32), I12, J13))
    else (
      some ((1 : Int32), I12, J13)))
  else (
  (x_passesAll I T X tN d1.2.1).bind <| un2 fun v14 I15 =>
  ck (isb v14) <|
  some (v14, I15, J)))))))
def x_played_b26 (T : PT) (X : TS) (tN : XCo) (q3 : Option Sem × Option Sem × List (Int32 × Int32 × Int32 × Int32 × Int32)) (self : Int32 → PI → PJ → Nat → Option ((Int32 × PI × PJ) ⊕ (PI × PJ × Nat))) (v5 : Int32) (I6 : PI) (J7 : PJ) (n8 : Nat) : Option ((Int32 × PI × PJ) ⊕ (PI × PJ × Nat)) :=
  ck (decide (n8 ≤ 24)) <|
  if Int32.ofNat q3.2.2.length ≤ v5 then (
    some (.inr (I6, J7, n8)))
  else (
    ck (decide (n8 ≤ 24)) <|
    ck (inb v5 q3.2.2.length) <|
    lt_ (q3.2.2.getD (ix v5) (0, 0, 0, 0, 0)) fun d12 =>
    (x_does I6 J7 T X tN d12).bind <| un3 fun v14 I15 J16 =>
    ck (decide (n8 + 1 ≤ 24)) <| lt_ (n8 + 1) fun n17 =>
    if v14 = (0 : Int32) then (
      ck (decide (n17 ≤ 24)) <|
      ck (inb v5 q3.2.2.length) <|
      lt_ (q3.2.2.getD (ix v5) (0, 0, 0, 0, 0)) fun d19 =>
      ck (decide (n17 ≤ 24)) <|
      ck (decide (n17 ≤ 24)) <|
      some (.inl (d19.2.2.2.2, I15, J16)))
    else (
      lt_ (v5 + (1 : Int32)) fun v18 =>
      self v18 I15 J16 n17))
def x_played_l26 (T : PT) (X : TS) (tN : XCo) (q3 : Option Sem × Option Sem × List (Int32 × Int32 × Int32 × Int32 × Int32)) : Nat → Int32 → PI → PJ → Nat → Option ((Int32 × PI × PJ) ⊕ (PI × PJ × Nat))
  | 0 => fun _ _ _ _ => none
  | k + 1 => x_played_b26 T X tN q3 (x_played_l26 T X tN q3 k)
def x_played (I : PI) (J : PJ) (T : PT) (X : TS) (tN : XCo) (p1 : Int32) : Option (Int32 × PI × PJ) :=
  (x_isText I p1).bind <| fun v1 =>
  if v1 = (0 : Int32) then (
    some ((-2 : Int32), I, J))
  else (
    ck (inb p1 4) <|
    (T 10 (ix p1)).bind fun a2 =>
    (X a2).bind fun q3 =>
    lbind (x_played_l26 T X tN q3 fu (0 : Int32) I J 0) (some) <| un3 fun I9 J10 n11 =>
    ck (decide (n11 ≤ 24)) <|
    some ((-1 : Int32), I9, J10))
def x_befalls (I : PI) (J : PJ) (T : PT) (X : TS) (tN : XCo) (p1 : Int32) : Option (PI × PJ) :=
  (x_some p1 (I 2 (ix (0 : Int32)))).bind <| fun v1 =>
  (x_some (p1 / (6 : Int32)) (I 2 (ix (1 : Int32)))).bind <| fun v2 =>
  (x_some (p1 / (5 : Int32)) (I 2 (ix (1 : Int32)))).bind <| fun v3 =>
  (x_some p1 (I 2 (ix (2 : Int32)))).bind <| fun v4 =>
  lt_ (p1 - p1 / (6 : Int32) * (6 : Int32)) fun v5 =>
  if v5 = (2 : Int32) then (
    (x_knows I v2 v1).bind <| fun v6 =>
    if v6 = (0 : Int32) then (
      some (I, J))
    else (
      lt_ ((8 : Int32) + v2) fun v7 =>
      ck (inb v7 141) <|
      ck (inb v7 141) <|
      lt_ (u2 I 3 (ix v7) ((I 3 (ix v7)) &&& (((1 : Int32) <<< (v1 &&& 31)) ^^^ (-1 : Int32)))) fun I8 =>
      some (I8, J)))
  else (
  if v5 = (3 : Int32) then (
    (x_longBy I J v2 v4).bind <| un3 fun v9 I10 J11 =>
    if v9 = (-1 : Int32) then (
      some (I10, J11))
    else (
      (x_tells I10 v2 v4 v9).bind <| un2 fun v12 I13 =>
      some (I13, J11)))
  else (
  (x_canTeach I T X tN v1 v2 v3).bind <| un2 fun v14 I15 =>
  if v14 = (0 : Int32) then (
    some (I15, J))
  else (
    (x_teaches I15 v1 v2 v3).bind <| fun I16 =>
    some (I16, J))))
def x_ages_j128 (self : Int32 → Int32 → PI → PJ → Nat → Option (PI × PJ × Nat)) (v6 : Int32) (v16 : Int32) (I17 : PI) (J18 : PJ) (n19 : Nat) : Option (PI × PJ × Nat) :=
  lt_ (v6 + (1 : Int32)) fun v20 =>
  self v16 v20 I17 J18 n19
def x_ages_b51 (T : PT) (X : TS) (tN : XCo) (p2 : Int32) (self : Int32 → Int32 → PI → PJ → Nat → Option (PI × PJ × Nat)) (v5 : Int32) (v6 : Int32) (I7 : PI) (J8 : PJ) (n9 : Nat) : Option (PI × PJ × Nat) :=
  if p2 ≤ v6 then (
    some (I7, J8, n9))
  else (
    lt_ (I7 3 (ix (1 : Int32))) fun v13 =>
    ck (decide (n9 ≤ 40)) <|
    (x_drawn I7 3 (2 : Int32)).bind <| un2 fun v14 I15 =>
    if (4 : Int32) ≤ v13 - v13 / (6 : Int32) * (6 : Int32) then (
      if (9999 : Int32) ≤ I15 3 (ix (0 : Int32)) then (
        x_ages_j128 self v6 v5 I15 J8 n9)
      else (
        ck (decide (n9 ≤ 40)) <|
        (x_passes I15 T X tN 3).bind <| un2 fun v21 I22 =>
        lt_ (v5 + v21) fun v23 =>
        x_ages_j128 self v6 v23 I22 J8 n9))
    else (
      (x_befalls I15 J8 T X tN v13).bind <| un2 fun I24 J25 =>
      ck (decide (n9 + 1 ≤ 40)) <| lt_ (n9 + 1) fun n26 =>
      x_ages_j128 self v6 v5 I24 J25 n26))
def x_ages_l51 (T : PT) (X : TS) (tN : XCo) (p2 : Int32) : Nat → Int32 → Int32 → PI → PJ → Nat → Option (PI × PJ × Nat)
  | 0 => fun _ _ _ _ _ => none
  | k + 1 => x_ages_b51 T X tN p2 (x_ages_l51 T X tN p2 k)
def x_ages (I : PI) (J : PJ) (T : PT) (X : TS) (tN : XCo) (p1 : Int32) (p2 : Int32) : Option (Int32 × PI × PJ) :=
  (x_in p1 (0 : Int32) (9999 : Int32)).bind <| fun v1 =>
  if v1 = (0 : Int32) then (
    some ((-1 : Int32), I, J))
  else (
    (x_in p2 (1 : Int32) (40 : Int32)).bind <| fun v2 =>
    if v2 = (0 : Int32) then (
      some ((-1 : Int32), I, J))
    else (
      (xs_keeps I).bind <| fun I3 =>
      lt_ (u2 I3 3 (ix (1 : Int32)) ((p1 * (2 : Int32)) + (271 : Int32))) fun I4 =>
      (x_ages_l51 T X tN p2 fu (0 : Int32) (0 : Int32) I4 J 0).bind <| un3 fun I10 J11 n12 =>
      ck (decide (n12 ≤ 40)) <|
      some (I10 3 (ix (0 : Int32)), I10, J11)))
def x_law_j39 (I : PI) (X : TS) (p1 : Int32) (p2 : Int32) (a3 : Nat) (v4 : Int32) : Option (Int32 × PI) :=
  (x_says I X a3 3 p1 p2 v4).bind <| un2 fun v5 I6 =>
  some (v5, I6)
def x_law (I : PI) (T : PT) (X : TS) (tN : XCo) (p1 : Int32) (p2 : Int32) (p3 : Int32) : Option (Int32 × PI) :=
  (x_isPerson I p1).bind <| fun v1 =>
  if v1 = (0 : Int32) then (
    some ((-100 : Int32), I))
  else (
    (x_isForm I p2).bind <| fun v2 =>
    if v2 = (0 : Int32) then (
      some ((-100 : Int32), I))
    else (
      (x_rules I T tN).bind <| fun a3 =>
      if p3 = (0 : Int32) then (
        x_law_j39 I X p1 p2 a3 (1 : Int32))
      else (
        x_law_j39 I X p1 p2 a3 (0 : Int32))))
def x_foretold_b49 (T : PT) (X : TS) (tN : XCo) (p1 : Int32) (self : Int32 → Int32 → PI → Option (PI)) (v5 : Int32) (v6 : Int32) (I7 : PI) : Option (PI) :=
  if p1 ≤ v6 then (
    some I7)
  else (
    if (9999 : Int32) ≤ I7 121 (ix (0 : Int32)) then (
      some I7)
    else (
      (x_passes I7 T X tN 121).bind <| un2 fun v9 I10 =>
      lt_ (v5 + v9) fun v11 =>
      lt_ (v6 + (1 : Int32)) fun v12 =>
      self v11 v12 I10))
def x_foretold_l49 (T : PT) (X : TS) (tN : XCo) (p1 : Int32) : Nat → Int32 → Int32 → PI → Option (PI)
  | 0 => fun _ _ _ => none
  | k + 1 => x_foretold_b49 T X tN p1 (x_foretold_l49 T X tN p1 k)
def x_foretold (I : PI) (T : PT) (X : TS) (tN : XCo) (p1 : Int32) (p2 : Int32) (p3 : Int32) : Option (Int32 × PI) :=
  (x_in p1 (1 : Int32) (60 : Int32)).bind <| fun v1 =>
  if v1 = (0 : Int32) then (
    some ((-1 : Int32), I))
  else (
    (x_isPerson I p2).bind <| fun v2 =>
    if v2 = (0 : Int32) then (
      some ((-1 : Int32), I))
    else (
      (x_in p3 (0 : Int32) (1 : Int32)).bind <| fun v3 =>
      if v3 = (0 : Int32) then (
        some ((-1 : Int32), I))
      else (
        (xs_copy I 3 141 121 141).bind <| fun I4 =>
        (x_foretold_l49 T X tN p1 fu (0 : Int32) (0 : Int32) I4).bind <| fun I8 =>
        if p3 = (0 : Int32) then (
          ck (inb ((8 : Int32) + p2) 141) <|
          some (I8 121 (ix ((8 : Int32) + p2)), I8))
        else (
          ck (inb ((2 : Int32) + p2) 141) <|
          some (I8 121 (ix ((2 : Int32) + p2)), I8)))))
def x_say (I : PI) (p1 : Int32) (p2 : Int32) (p3 : Int32) : Option (Int32 × PI) :=
  if p1 = (-1 : Int32) then (
    (xs_clears I (6 : Int32)).bind <| un2 fun v10 I11 =>
    some (v10, I11))
  else (
    (x_isSaying p1 p2 p3).bind <| fun v1 =>
    if v1 = (0 : Int32) then (
      some ((-2 : Int32), I))
    else (
      if I 2 (ix (6 : Int32)) = (8 : Int32) then (
        some ((-2 : Int32), I))
      else (
        lt_ (fun _ => (0 : Int32)) fun f3 =>
        lt_ (upd f3 (ix (0 : Int32)) p1) fun f4 =>
        lt_ (upd f4 (ix (1 : Int32)) p2) fun f5 =>
        lt_ (upd f5 (ix (2 : Int32)) p3) fun f6 =>
        lt_ (I 2 (ix (6 : Int32))) fun v7 =>
        ck (inb v7 8) <|
        (xs_copyT I f6 3 (11 + ix v7) 3).bind <| fun I8 =>
        lt_ (u2 I8 2 (ix (6 : Int32)) ((I8 2 (ix (6 : Int32))) + (1 : Int32))) fun I9 =>
        some (I9 2 (ix (6 : Int32)), I9))))
def x_lost_j116 (self : Int64 → Int64 → Int32 → PI → Option (Int64 × Int64 × PI)) (v5 : Int32) (w12 : Int64) (w13 : Int64) (I14 : PI) : Option (Int64 × Int64 × PI) :=
  lt_ (v5 + (1 : Int32)) fun v15 =>
  self w12 w13 v15 I14
def x_lost_b30 (T : PT) (X : TS) (tN : XCo) (p1 : Int32) (p2 : Int32) (self : Int64 → Int64 → Int32 → PI → Option (Int64 × Int64 × PI)) (w3 : Int64) (w4 : Int64) (v5 : Int32) (I6 : PI) : Option (Int64 × Int64 × PI) :=
  if I6 2 (ix (1 : Int32)) ≤ v5 then (
    some (w3, w4, I6))
  else (
    (x_formsOf I6 v5).bind <| fun v10 =>
    (x_has v10 p1).bind <| fun v11 =>
    if v11 = (0 : Int32) then (
      x_lost_j116 self v5 w3 w4 I6)
    else (
      (x_rules I6 T tN).bind <| fun a16 =>
      (x_says I6 X a16 3 v5 p1 (0 : Int32)).bind <| un2 fun v17 I18 =>
      lt_ ((10 : Int32) - v17) fun v19 =>
      (x_power 10 (10 : Int64) p2).bind <| fun w20 =>
      (x_power 10 (Int32.toInt64 v19) p2).bind <| fun w21 =>
      lt_ (w3 * (w20 - w21)) fun w22 =>
      (x_power 10 (10 : Int64) p2).bind <| fun w23 =>
      lt_ (w4 * w23) fun w24 =>
      x_lost_j116 self v5 w22 w24 I18))
def x_lost_l30 (T : PT) (X : TS) (tN : XCo) (p1 : Int32) (p2 : Int32) : Nat → Int64 → Int64 → Int32 → PI → Option (Int64 × Int64 × PI)
  | 0 => fun _ _ _ _ => none
  | k + 1 => x_lost_b30 T X tN p1 p2 (x_lost_l30 T X tN p1 p2 k)
def x_lost (I : PI) (T : PT) (X : TS) (tN : XCo) (p1 : Int32) (p2 : Int32) (p3 : Int32) : Option (Int64 × PI) :=
  (x_isForm I p1).bind <| fun v1 =>
  if v1 = (0 : Int32) then (
    some ((-1 : Int64), I))
  else (
    (x_in p2 (1 : Int32) (3 : Int32)).bind <| fun v2 =>
    if v2 = (0 : Int32) then (
      some ((-1 : Int64), I))
    else (
      (x_lost_l30 T X tN p1 p2 fu (1 : Int64) (1 : Int64) (0 : Int32) I).bind <| un3 fun w7 w8 I9 =>
      (x_common 130 w8 w7).bind <| fun w25 =>
      if p3 = (0 : Int32) then (
        ck (nzl w25) <|
        some (w7 / w25, I9))
      else (
        ck (nzl w25) <|
        some (w8 / w25, I9))))
def x_heirs_j64 (self : Int32 → Int32 → PI → Option (Int32 × PI)) (v7 : Int32) (v8 : Int32) (I13 : PI) (v14 : Int32) : Option (Int32 × PI) :=
  lt_ (v7 ||| v14) fun v15 =>
  lt_ (v8 + (1 : Int32)) fun v16 =>
  self v15 v16 I13
def x_heirs_b30 (T : PT) (X : TS) (tN : XCo) (p1 : Int32) (v3 : Int32) (self : Int32 → Int32 → PI → Option (Int32 × PI)) (v7 : Int32) (v8 : Int32) (I9 : PI) : Option (Int32 × PI) :=
  if I9 2 (ix (1 : Int32)) ≤ v8 then (
    some (v7, I9))
  else (
    (x_canTeach I9 T X tN p1 v3 v8).bind <| un2 fun v12 I13 =>
    if v12 = (0 : Int32) then (
      x_heirs_j64 self v7 v8 I13 (0 : Int32))
    else (
      x_heirs_j64 self v7 v8 I13 ((1 : Int32) <<< (v8 &&& 31))))
def x_heirs_l30 (T : PT) (X : TS) (tN : XCo) (p1 : Int32) (v3 : Int32) : Nat → Int32 → Int32 → PI → Option (Int32 × PI)
  | 0 => fun _ _ _ => none
  | k + 1 => x_heirs_b30 T X tN p1 v3 (x_heirs_l30 T X tN p1 v3 k)
def x_heirs_b14 (T : PT) (X : TS) (tN : XCo) (p1 : Int32) (self : Int32 → Int32 → PI → Option (Int32 × PI)) (v2 : Int32) (v3 : Int32) (I4 : PI) : Option (Int32 × PI) :=
  if I4 2 (ix (1 : Int32)) ≤ v3 then (
    some (v2, I4))
  else (
    (x_heirs_l30 T X tN p1 v3 fu v2 (0 : Int32) I4).bind <| un2 fun v10 I11 =>
    lt_ (v3 + (1 : Int32)) fun v17 =>
    self v10 v17 I11)
def x_heirs_l14 (T : PT) (X : TS) (tN : XCo) (p1 : Int32) : Nat → Int32 → Int32 → PI → Option (Int32 × PI)
  | 0 => fun _ _ _ => none
  | k + 1 => x_heirs_b14 T X tN p1 (x_heirs_l14 T X tN p1 k)
def x_heirs (I : PI) (T : PT) (X : TS) (tN : XCo) (p1 : Int32) : Option (Int32 × PI) :=
  (x_isForm I p1).bind <| fun v1 =>
  if v1 = (0 : Int32) then (
    some ((-1 : Int32), I))
  else (
    (x_heirs_l14 T X tN p1 fu (0 : Int32) (0 : Int32) I).bind <| un2 fun v5 I6 =>
    some (v5, I6))
def x_isLaw_b2 (X : TS) (a1 : Nat) (self : Int32 → PI → Option ((Int32 × PI) ⊕ (PI))) (v1 : Int32) (I2 : PI) : Option ((Int32 × PI) ⊕ (PI)) :=
  if I2 2 (ix (7 : Int32)) ≤ v1 then (
    some (.inr I2))
  else (
    ck (inb v1 8) <|
    (x_says I2 X a1 3 (I2 (19 + ix v1) (ix (0 : Int32))) (0 : Int32) (0 : Int32)).bind <| un2 fun v4 I5 =>
    ck (inb v1 8) <|
    if v4 = I5 (19 + ix v1) (ix (1 : Int32)) then (
      lt_ (v1 + (1 : Int32)) fun v6 =>
      self v6 I5)
    else (
      some (.inl ((0 : Int32), I5))))
def x_isLaw_l2 (X : TS) (a1 : Nat) : Nat → Int32 → PI → Option ((Int32 × PI) ⊕ (PI))
  | 0 => fun _ _ => none
  | k + 1 => x_isLaw_b2 X a1 (x_isLaw_l2 X a1 k)
def x_isLaw (I : PI) (X : TS) (a1 : Nat) : Option (Int32 × PI) :=
  lbind (x_isLaw_l2 X a1 fu (0 : Int32) I) (some) <| fun I3 =>
  some ((1 : Int32), I3)
def x_whose_j41 (self : Int32 → Int32 → PI → Option (Int32 × PI)) (v1 : Int32) (v2 : Int32) (I8 : PI) (v9 : Int32) : Option (Int32 × PI) :=
  lt_ (v1 ||| v9) fun v10 =>
  lt_ (v2 + (1 : Int32)) fun v11 =>
  self v10 v11 I8
def x_whose_b4 (T : PT) (X : TS) (self : Int32 → Int32 → PI → Option (Int32 × PI)) (v1 : Int32) (v2 : Int32) (I3 : PI) : Option (Int32 × PI) :=
  if I3 2 (ix (3 : Int32)) ≤ v2 then (
    some (v1, I3))
  else (
    ck (inb v2 4) <|
    (T 10 (ix v2)).bind fun a6 =>
    (x_isLaw I3 X a6).bind <| un2 fun v7 I8 =>
    if v7 = (0 : Int32) then (
      x_whose_j41 self v1 v2 I8 (0 : Int32))
    else (
      x_whose_j41 self v1 v2 I8 ((1 : Int32) <<< (v2 &&& 31))))
def x_whose_l4 (T : PT) (X : TS) : Nat → Int32 → Int32 → PI → Option (Int32 × PI)
  | 0 => fun _ _ _ => none
  | k + 1 => x_whose_b4 T X (x_whose_l4 T X k)
def x_whose (I : PI) (T : PT) (X : TS) : Option (Int32 × PI) :=
  (x_whose_l4 T X fu (0 : Int32) (0 : Int32) I).bind <| un2 fun v4 I5 =>
  some (v4, I5)

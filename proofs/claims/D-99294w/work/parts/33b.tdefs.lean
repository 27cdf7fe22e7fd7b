/-! the tokens: what their plain methods do (printed by gen_t.py) -/
set_option maxRecDepth 100000
def t_isLetter_j12 (p0 : Int32) : Option (Int32) :=
  if p0 < (65 : Int32) then (
    some (0 : Int32))
  else (
    if (90 : Int32) < p0 then (
      some (0 : Int32))
    else (
      some (1 : Int32)))
def t_isLetter (p0 : Int32) : Option (Int32) :=
  if p0 < (97 : Int32) then (
    t_isLetter_j12 p0)
  else (
    if p0 ≤ (122 : Int32) then (
      some (1 : Int32))
    else (
      t_isLetter_j12 p0))
def t_isDigit (p0 : Int32) : Option (Int32) :=
  if p0 < (48 : Int32) then (
    some (0 : Int32))
  else (
    if (57 : Int32) < p0 then (
      some (0 : Int32))
    else (
      some (1 : Int32)))
def t_mayName (I : PI) (p1 : Int32) : Option (Int32) :=
  if p1 < (7 : Int32) then (
    some (1 : Int32))
  else (
    if I 0 7 = (201 : Int32) then (
      some (1 : Int32))
    else (
      some (0 : Int32)))
def t_nameNow_b2 (I : PI) (self : Int32 → Option ((Int32) ⊕ (Unit))) (v1 : Int32) : Option ((Int32) ⊕ (Unit)) :=
  if (8 : Int32) ≤ v1 then (
    some (.inr ()))
  else (
    ck (inb v1 8) <|
    if pNmd.getD (ix v1) 0 = I 0 4 then (
      some (.inl v1))
    else (
      lt_ (v1 + (1 : Int32)) fun v2 =>
      self v2))
def t_nameNow_l2 (I : PI) : Nat → Int32 → Option ((Int32) ⊕ (Unit))
  | 0 => fun _ => none
  | k + 1 => t_nameNow_b2 I (t_nameNow_l2 I k)
def t_nameNow (I : PI) : Option (Int32) :=
  lbind (t_nameNow_l2 I fu (0 : Int32)) (some) <| fun _ =>
  some (-1 : Int32)
def t_isWord_b20 (I : PI) (k1 : Nat) (self : Int32 → Option ((Int32) ⊕ (Unit))) (v1 : Int32) : Option ((Int32) ⊕ (Unit)) :=
  if nI (pLen.getD (k1) 0) ≤ v1 then (
    some (.inr ()))
  else (
    ck (inb ((I 0 3) + v1) 300) <|
    ck (inb v1 (pLen.getD (k1) 0)) <|
    if I 1 (ix ((I 0 3) + v1)) = pCh (k1) (ix v1) then (
      lt_ (v1 + (1 : Int32)) fun v2 =>
      self v2)
    else (
      some (.inl (0 : Int32))))
def t_isWord_l20 (I : PI) (k1 : Nat) : Nat → Int32 → Option ((Int32) ⊕ (Unit))
  | 0 => fun _ => none
  | k + 1 => t_isWord_b20 I k1 (t_isWord_l20 I k1 k)
def t_isWord (I : PI) (k1 : Nat) : Option (Int32) :=
  if (I 0 2) - (I 0 3) = nI (pLen.getD (k1) 0) then (
    lbind (t_isWord_l20 I k1 fu (0 : Int32)) (some) <| fun _ =>
    some (1 : Int32))
  else (
    some (0 : Int32))
def t_next_j39 (self : PI → Option (PI)) (I1 : PI) : Option (PI) :=
  lt_ (u2 I1 0 2 ((I1 0 2) + (1 : Int32))) fun I3 =>
  self I3
def t_next_b0  (self : PI → Option (PI)) (I1 : PI) : Option (PI) :=
  if I1 0 1 ≤ I1 0 2 then (
    some I1)
  else (
    ck (inb (I1 0 2) 300) <|
    if I1 1 (ix (I1 0 2)) = (32 : Int32) then (
      t_next_j39 self I1)
    else (
      ck (inb (I1 0 2) 300) <|
      if I1 1 (ix (I1 0 2)) = (10 : Int32) then (
        t_next_j39 self I1)
      else (
        some I1)))
def t_next_l0  : Nat → PI → Option (PI)
  | 0 => fun _ => none
  | k + 1 => t_next_b0 (t_next_l0 k)
def t_next_j330 (self : Int32 → PI → Option (PI)) (v10 : Int32) (I13 : PI) : Option (PI) :=
  lt_ (v10 + (1 : Int32)) fun v14 =>
  self v14 I13
def t_next_b306 (v7 : Int32) (self : Int32 → PI → Option (PI)) (v10 : Int32) (I11 : PI) : Option (PI) :=
  if nI (pLen.getD (26) 0) ≤ v10 then (
    some I11)
  else (
    ck (inb v10 (pLen.getD (26) 0)) <|
    if pCh (26) (ix v10) = v7 then (
      lt_ (u2 I11 0 4 v7) fun I15 =>
      t_next_j330 self v10 I15)
    else (
      t_next_j330 self v10 I11))
def t_next_l306 (v7 : Int32) : Nat → Int32 → PI → Option (PI)
  | 0 => fun _ _ => none
  | k + 1 => t_next_b306 v7 (t_next_l306 v7 k)
def t_next_j389 (I12 : PI) (v16 : Int32) : Option (PI) :=
  lt_ (u2 I12 0 4 v16) fun I17 =>
  lt_ (u2 I17 0 2 ((I17 0 2) + (1 : Int32))) fun I18 =>
  some I18
def t_next_j348 (v7 : Int32) (I12 : PI) : Option (PI) :=
  if I12 0 1 ≤ I12 0 2 then (
    some I12)
  else (
    ck (inb (I12 0 2) 300) <|
    if I12 1 (ix (I12 0 2)) = (61 : Int32) then (
      if v7 = (60 : Int32) then (
        t_next_j389 I12 (303 : Int32))
      else (
        t_next_j389 I12 (304 : Int32)))
    else (
      some I12))
def t_next_b209  (self : PI → Option ((PI) ⊕ (Unit))) (I21 : PI) : Option ((PI) ⊕ (Unit)) :=
  if I21 0 1 ≤ I21 0 2 then (
    some (.inl I21))
  else (
    ck (inb (I21 0 2) 300) <|
    (t_isDigit (I21 1 (ix (I21 0 2)))).bind <| fun v22 =>
    if v22 = (0 : Int32) then (
      some (.inl I21))
    else (
      ck (inb (I21 0 2) 300) <|
      lt_ (if ((((10 : Int32) * (I21 0 5)) + (I21 1 (ix (I21 0 2)))) - (48 : Int32)) < (99999 : Int32) then ((((10 : Int32) * (I21 0 5)) + (I21 1 (ix (I21 0 2)))) - (48 : Int32)) else (99999 : Int32)) fun v23 =>
      lt_ (u2 I21 0 5 v23) fun I24 =>
      lt_ (u2 I24 0 2 ((I24 0 2) + (1 : Int32))) fun I25 =>
      self I25))
def t_next_l209  : Nat → PI → Option ((PI) ⊕ (Unit))
  | 0 => fun _ => none
  | k + 1 => t_next_b209 (t_next_l209 k)
def t_next_b96  (self : PI → Option (PI)) (I26 : PI) : Option (PI) :=
  if I26 0 1 ≤ I26 0 2 then (
    some I26)
  else (
    ck (inb (I26 0 2) 300) <|
    (t_isLetter (I26 1 (ix (I26 0 2)))).bind <| fun v28 =>
    if v28 = (0 : Int32) then (
      some I26)
    else (
      lt_ (u2 I26 0 2 ((I26 0 2) + (1 : Int32))) fun I29 =>
      self I29))
def t_next_l96  : Nat → PI → Option (PI)
  | 0 => fun _ => none
  | k + 1 => t_next_b96 (t_next_l96 k)
def t_next_j173 (self : Int32 → PI → Option (PI)) (v31 : Int32) (I35 : PI) : Option (PI) :=
  lt_ (v31 + (1 : Int32)) fun v36 =>
  self v36 I35
def t_next_b144  (self : Int32 → PI → Option (PI)) (v31 : Int32) (I32 : PI) : Option (PI) :=
  if (26 : Int32) ≤ v31 then (
    some I32)
  else (
    ck (inb v31 26) <|
    (t_isWord I32 (ix v31)).bind <| fun v34 =>
    if v34 = (0 : Int32) then (
      t_next_j173 self v31 I32)
    else (
      lt_ (u2 I32 0 4 ((200 : Int32) + v31)) fun I37 =>
      t_next_j173 self v31 I37))
def t_next_l144  : Nat → Int32 → PI → Option (PI)
  | 0 => fun _ _ => none
  | k + 1 => t_next_b144 (t_next_l144 k)
def t_next (I : PI) : Option (PI) :=
  (t_next_l0 fu I).bind <| fun I2 =>
  lt_ (u2 I2 0 3 (I2 0 2)) fun I4 =>
  if I4 0 2 = I4 0 1 then (
    lt_ (u2 I4 0 4 (301 : Int32)) fun I38 =>
    some I38)
  else (
    ck (inb (I4 0 2) 300) <|
    (t_isLetter (I4 1 (ix (I4 0 2)))).bind <| fun v5 =>
    if v5 = (0 : Int32) then (
      ck (inb (I4 0 2) 300) <|
      (t_isDigit (I4 1 (ix (I4 0 2)))).bind <| fun v6 =>
      if v6 = (0 : Int32) then (
        ck (inb (I4 0 2) 300) <|
        lt_ (I4 1 (ix (I4 0 2))) fun v7 =>
        lt_ (u2 I4 0 2 ((I4 0 2) + (1 : Int32))) fun I8 =>
        lt_ (u2 I8 0 4 (302 : Int32)) fun I9 =>
        (t_next_l306 v7 fu (0 : Int32) I9).bind <| fun I12 =>
        if v7 = (60 : Int32) then (
          t_next_j348 v7 I12)
        else (
          if v7 = (62 : Int32) then (
            t_next_j348 v7 I12)
          else (
            some I12)))
      else (
        lt_ (u2 I4 0 4 (300 : Int32)) fun I19 =>
        lt_ (u2 I19 0 5 (0 : Int32)) fun I20 =>
        lbind (t_next_l209 fu I20) (some) <| fun _ => none))
    else (
      (t_next_l96 fu I4).bind <| fun I27 =>
      lt_ (u2 I27 0 4 (302 : Int32)) fun I30 =>
      (t_next_l144 fu (0 : Int32) I30).bind <| fun I33 =>
      some I33))

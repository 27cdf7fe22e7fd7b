/-! the constructors as functions (in the whole configuration they stand in 21, 22, 24, 43) -/
def s_fill (f : Nat → Int32) : Nat → Int32 := upd (upd (upd (upd (upd (upd (f) ((14 : Int32)).toNatClampNeg (20 : Int32)) ((15 : Int32)).toNatClampNeg (20 : Int32)) ((16 : Int32)).toNatClampNeg (20 : Int32)) ((17 : Int32)).toNatClampNeg (20 : Int32)) ((18 : Int32)).toNatClampNeg (20 : Int32)) ((19 : Int32)).toNatClampNeg (20 : Int32)
def s_n : Nat → Int32 := upd (fun _ => 0) ((4 : Int32)).toNatClampNeg (-1 : Int32)
def s_row : Nat → Int32 := s_fill (upd (fun _ => 0) ((1 : Int32)).toNatClampNeg (271 : Int32))
def x_I0 : PI := fun k => if k = 0 then (fun j => if j = 4 ∨ j = 5 then -1 else 0) else if k = 2 ∨ k = 58 then s_n else if k = 3 ∨ k = 59 then s_row else fun _ => 0
def x_layAll : Nat → Int32 → PI → Option PI
  | 0, _, _ => none
  | n + 1, k, I => if k ≥ 120 then some I else (x_laysOrder I k).bind fun I => x_layAll n (k + 1) I
def x_init : Option (PI × PT) := (x_layAll 200 0 x_I0).bind fun I => xs_be_57 I (fun _ _ => none)
def m_I0 : PI := (u2 (u2 (u2 (u2 (u2 (u2 (fun _ _ => (0 : Int32)) 0 10 (-1 : Int32)) 0 11 (-1 : Int32)) 0 29 (-1 : Int32)) 0 36 (1 : Int32)) 1 (ix (9 : Int32)) (271 : Int32)) 1 (ix (4 : Int32)) (-1 : Int32))
def m_init : Option (PI × PJ) := (m_layOrders m_I0).bind <| fun I1 => (m_laySayings I1 (fun _ _ => (0 : Int64))).bind <| un2 fun I2 J2 => (m_copy I2 1 2).bind <| fun I3 => some (I3, J2)
def wuL (x y : Int32) : Int64 := (x.toUInt32.toNat + y.toUInt32.toNat * 2 ^ 32).toUInt64.toInt64
def u_z (A B : Int64) (i : Int32) : Option Int32 := (J16_numberOfTrailingZeros (A ^^^ B)).bind fun z => ck (decide (0 ≤ i <<< ((1 : Int32) &&& 31) + z >>> ((5 : Int32) &&& 31))) <| some (i <<< ((1 : Int32) &&& 31) + z >>> ((5 : Int32) &&& 31))
def u_vm (a b : Nat → Int32) : Option Int32 := if wuL (a 0) (a 1) = wuL (b 0) (b 1) then (if wuL (a 2) (a 3) = wuL (b 2) (b 3) then some (-2) else u_z (wuL (a 2) (a 3)) (wuL (b 2) (b 3)) 1) else u_z (wuL (a 0) (a 1)) (wuL (b 0) (b 1)) 0
def u_mm (a b : Nat → Int32) : Option Int32 := if a (ix (0 : Int32)) = b (ix (0 : Int32)) then (u_vm a b).bind fun v => if v < 0 then (if a (ix (4 : Int32)) = b (ix (4 : Int32)) then some (-1) else some 4) else some v else some 0
def u_eq (a b : Nat → Int32) : Option Int32 := (u_mm a b).bind fun v => if 0 ≤ v then some 0 else some 1
def x_numL (f : Nat → Int32) (I : PI) : Nat → Nat → Option Int32
  | 0, _ => none
  | n + 1, k => if (120 : Int32) ≤ nI k then some (-1) else ck (inb (nI k) 120) <| (u_eq f (I (122 + ix (nI k)))).bind fun r => if r = 0 then x_numL f I n (k + 1) else some (nI k)
def x_number (I : PI) (p1 p2 p3 p4 p5 : Int32) : Option Int32 := x_numL (upd (upd (upd (upd (upd (fun _ => 0) (ix (0 : Int32)) p1) (ix (1 : Int32)) p2) (ix (2 : Int32)) p3) (ix (3 : Int32)) p4) (ix (4 : Int32)) p5) I 121 0

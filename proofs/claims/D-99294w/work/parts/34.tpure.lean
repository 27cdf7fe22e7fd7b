/-! the pure parser, cut by tconf.sh -/
set_option maxRecDepth 100000
def capN : Nat → Nat
  | 0 => 0
  | n + 1 => if n < capN n then capN n else if n = 0 then 10 else capN n + capN n / 2
def growS (n : Nat) : Nat := if n < capN n then 0 else capN (n + 1)
def growC (n : Nat) : Nat := if n < capN n then 0 else 1
abbrev TRes (α : Type) : Type := PI × (Nat × Nat) × (α ⊕ (Int32 × Int32))
abbrev TR (α : Type) : Type := Option (TRes α)
def tThrow {α : Type} (I : PI) (f : Int32) : TR α := some (I, (1, 8), .inr (f, I 0 3))
def tOk {α : Type} (I : PI) (a : α) : TR α := some (I, (0, 0), .inl a)
def tK {α β : Type} (r : TRes α) (f : PI → α → TR β) : TR β := match r.2.2 with
  | .inr w => some (r.1, r.2.1, .inr w)
  | .inl a => (f r.1 a).map fun q => (q.1, (r.2.1.1 + q.2.1.1, r.2.1.2 + q.2.1.2), q.2.2)
def tB {α β : Type} (o : TR α) (f : PI → α → TR β) : TR β := o.bind fun r => tK r f
def tC {α : Type} (c s : Nat) (o : TR α) : TR α := o.map fun q => (q.1, (c + q.2.1.1, s + q.2.1.2), q.2.2)
theorem tB_at {α β : Type} {o : TR α} {f : PI → α → TR β} {r : TRes β} (h : tB o f = some r) : (∃ I1 n w, o = some (I1, n, .inr w) ∧ r = (I1, n, .inr w)) ∨ ∃ I1 n a I2 n2 v, o = some (I1, n, .inl a) ∧ f I1 a = some (I2, n2, v) ∧ r = (I2, (n.1 + n2.1, n.2 + n2.2), v) := by
  obtain ⟨⟨I1, n, a | w⟩, h1, h2⟩ := Option.bind_eq_some_iff.mp h
  · obtain ⟨⟨I2, n2, v⟩, h3, h4⟩ := Option.map_eq_some_iff.mp (show (f I1 a).map _ = some r from h2)
    exact Or.inr ⟨I1, n, a, I2, n2, v, h1, h3, h4.symm⟩
  · exact Or.inl ⟨I1, n, w, h1, (Option.some.inj h2).symm⟩
theorem tC_at {α : Type} {c s : Nat} {o : TR α} {r : TRes α} (h : tC c s o = some r) : ∃ I1 n v, o = some (I1, n, v) ∧ r = (I1, (c + n.1, s + n.2), v) := by
  obtain ⟨⟨I1, n, v⟩, h1, h2⟩ := Option.map_eq_some_iff.mp h
  exact ⟨I1, n, v, h1, h2.symm⟩
theorem bd2 {α β : Type} {o : Option α} {f : α → Option β} {r : β} (h : o.bind f = some r) : ∃ v, o = some v ∧ f v = some r := Option.bind_eq_some_iff.mp h
def t_want (w : Int32) (I : PI) : TR Unit := if I 0 4 = w then (t_next I).bind fun I1 => tOk I1 () else tThrow I 1
def t_number (lo hi : Int32) (I : PI) : TR Int32 := if I 0 4 = 300 then (if I 0 5 < lo then tThrow I 2 else if hi < I 0 5 then tThrow I 2 else (t_next I).bind fun I1 => tOk I1 (I 0 5)) else tThrow I 1
def t_opens (I : PI) : TR Unit := if I 0 6 = 8 then tThrow I 3 else (t_next (u2 I 0 6 (I 0 6 + 1))).bind fun I1 => tOk I1 ()
def t_behind (w lo hi : Int32) (I : PI) : TR Int32 := tB (t_want w I) fun I1 _ => t_number lo hi I1
theorem tB_at3 {α β : Type} {o : TR α} {f : PI → α → TR β} {I' : PI} {n' : Nat × Nat} {v' : β ⊕ (Int32 × Int32)} (h : tB o f = some (I', n', v')) : (∃ I1 n w, o = some (I1, n, .inr w) ∧ I' = I1 ∧ n' = n ∧ v' = .inr w) ∨ ∃ I1 n a I2 n2 v, o = some (I1, n, .inl a) ∧ f I1 a = some (I2, n2, v) ∧ I' = I2 ∧ n' = (n.1 + n2.1, n.2 + n2.2) ∧ v' = v := by
  rcases tB_at h with ⟨I1, n, w, h1, h2⟩ | ⟨I1, n, a, I2, n2, v, h1, h2, h3⟩
  · cases h2; exact Or.inl ⟨_, _, _, h1, rfl, rfl, rfl⟩
  · cases h3; exact Or.inr ⟨_, _, _, _, _, _, h1, h2, rfl, rfl, rfl⟩
theorem tC_at3 {α : Type} {c s : Nat} {o : TR α} {I' : PI} {n' : Nat × Nat} {v' : α ⊕ (Int32 × Int32)} (h : tC c s o = some (I', n', v')) : ∃ I1 n v, o = some (I1, n, v) ∧ I' = I1 ∧ n' = (c + n.1, s + n.2) ∧ v' = v := by
  obtain ⟨I1, n, v, h1, h2⟩ := tC_at h
  cases h2
  exact ⟨_, _, _, h1, rfl, rfl, rfl⟩
theorem tOk_at {α : Type} {I I' : PI} {a : α} {n' : Nat × Nat} {v' : α ⊕ (Int32 × Int32)} (h : tOk I a = some (I', n', v')) : I' = I ∧ n' = (0, 0) ∧ v' = .inl a := by
  cases Option.some.inj h
  exact ⟨rfl, rfl, rfl⟩
theorem tTh_at {α : Type} {I I' : PI} {f : Int32} {n' : Nat × Nat} {v' : α ⊕ (Int32 × Int32)} (h : tThrow I f = some (I', n', v')) : I' = I ∧ n' = (1, 8) ∧ v' = .inr (f, I 0 3) := by
  cases Option.some.inj h
  exact ⟨rfl, rfl, rfl⟩
def t_chainL (f : PI → TR Sem) (s1 s2 : Int32) : Nat → PI → Nat → Sem → TR Sem
  | 0, _, _, _ => none
  | k + 1, I, n, F => if I 0 4 = s1 ∨ I 0 4 = s2 then ck (decide (n < 5000)) <| (t_next I).bind fun I1 => tB (f I1) fun I2 G => tC (2 * growC n) (2 * growS n) (t_chainL f s1 s2 k I2 (n + 1) (fun v => chainS (I 0 4) (F v) (G v))) else tOk I F
def t_chain (f : PI → TR Sem) (s1 s2 : Int32) (I : PI) : TR Sem := tC 1 3 (tB (f I) fun I1 G => tC 2 6 (t_chainL f s1 s2 fu I1 0 G))
def t_juncL (f : PI → TR Sem) (w an : Int32) : Nat → PI → Nat → Sem → ((Nat → Int32) → Nat) → TR Sem
  | 0, _, _, _, _ => none
  | k + 1, I, n, G0, C => if I 0 4 = w then ck (decide (n < 5000)) <| (t_next I).bind fun I1 => tB (f I1) fun I2 G => tC (growC n) (growS n) (t_juncL f w an k I2 (n + 1) G0 (fun v => C v + if G v = 1 then 1 else 0)) else if n = 1 then tOk I G0 else tC 1 2 (tOk I (fun v => b2l (if an = 0 then decide (0 < C v) else decide (C v = n))))
def t_junc (f : PI → TR Sem) (w an : Int32) (I : PI) : TR Sem := tC 1 3 (tB (f I) fun I1 G => tC (growC 0) (growS 0) (t_juncL f w an fu I1 1 G (fun v => if G v = 1 then 1 else 0)))
def isCmp (x : Int32) : Bool := x == 60 || x == 62 || x == 61 || x == 35 || x == 303 || x == 304
def t_shut (I : PI) : PI := u2 I 0 6 (I 0 6 - 1)
def t_askB (ask sum : PI → TR Sem) (I : PI) : TR Sem := if I 0 4 = 221 then tB (t_opens I) fun I1 _ => tC 1 1 (tB (ask I1) fun I2 G => tOk (t_shut I2) (fun v => b2l (decide (G v = 0)))) else tB (sum I) fun I1 G1 => if isCmp (I1 0 4) = true then (t_next I1).bind fun I2 => tC 1 3 (tB (sum I2) fun I3 G2 => tOk I3 (fun v => cmpV (I1 0 4) (G1 v) (G2 v))) else tThrow I1 1
def t_choice (either sum : PI → TR Sem) (I : PI) : TR Sem := tB (t_opens I) fun I1 _ => tB (either I1) fun I2 G1 => tB (t_want 216 I2) fun I3 _ => tB (sum I3) fun I4 G2 => tB (t_want 217 I4) fun I5 _ => tB (sum I5) fun I6 G3 => tB (t_want 218 I6) fun I7 _ => tC 1 3 (tOk (t_shut I7) (fun v => if G1 v = 0 then G3 v else G2 v))
def t_oneB (one sum either : PI → TR Sem) (I : PI) : TR Sem := if I 0 4 = 300 then tC 1 1 (tB (t_number 0 9999 I) fun I1 n => tOk I1 (fun _ => n.toInt64)) else if I 0 4 = 215 then t_choice either sum I else (t_nameNow I).bind fun k => if k = -1 then (if I 0 4 = 40 then tB (t_opens I) fun I1 _ => tB (sum I1) fun I2 G => tB (t_want 41 I2) fun I3 _ => tOk (t_shut I3) G else if I 0 4 = 45 ∨ I 0 4 = 213 ∨ I 0 4 = 214 then tB (t_opens I) fun I1 _ => tB (one I1) fun I2 G => tC 1 1 (tOk (t_shut I2) (if I 0 4 = 213 then fun v => halfL (G v) else if I 0 4 = 214 then fun v => knownL v (G v) else fun v => -(G v))) else tThrow I 1) else (t_mayName I k).bind fun b => if b = 0 then tThrow I 5 else (t_next I).bind fun I1 => ck (inb k 16) <| tC 1 1 (tOk I1 (fun v => (v (ix k)).toInt64))
def t_lv : Nat → (PI → TR Sem) × (PI → TR Sem)
  | 0 => (t_oneB (fun _ => none) (fun _ => none) (fun _ => none), t_askB (fun _ => none) (t_chain (t_chain (t_oneB (fun _ => none) (fun _ => none) (fun _ => none)) 42 47) 43 45))
  | k + 1 => (t_oneB (t_lv k).1 (t_chain (t_chain (t_lv k).1 42 47) 43 45) (t_junc (t_junc (t_lv k).2 220 1) 219 0), t_askB (t_lv k).2 (t_chain (t_chain (t_oneB (t_lv k).1 (t_chain (t_chain (t_lv k).1 42 47) 43 45) (t_junc (t_junc (t_lv k).2 220 1) 219 0)) 42 47) 43 45))
def t_one (k : Nat) : PI → TR Sem := (t_lv k).1
def t_ask (k : Nat) : PI → TR Sem := (t_lv k).2
def t_sum (k : Nat) : PI → TR Sem := t_chain (t_chain (t_one k) 42 47) 43 45
def t_either (k : Nat) : PI → TR Sem := t_junc (t_junc (t_ask k) 220 1) 219 0
abbrev D5 : Type := Int32 × Int32 × Int32 × Int32 × Int32
abbrev TxA : Type := Option Sem × Option Sem × List D5
def t_d2 (w lo hi cl : Int32) (I1 : PI) (a : Int32) : TR D5 := tC 1 5 (tB (t_behind w lo hi I1) fun I2 b => tOk I2 (I1 0 7, a, b, -1, cl))
def t_d1 (lo hi cl : Int32) (I : PI) : TR D5 := tC 1 5 (tB (t_number lo hi I) fun I1 a => tOk I1 (I 0 7, a, -1, -1, cl))
def t_doing (cl : Int32) (I : PI) : TR D5 :=
  if I 0 7 = 202 then tB (t_number 0 4 I) (t_d2 209 1 9 cl) else
  if I 0 7 = 203 then tB (t_number 0 99 I) (t_d2 210 0 255 cl) else
  if I 0 7 = 204 then t_d1 0 119 cl I else
  if I 0 7 = 205 then tB (t_number 0 7 I) fun I1 a => tB (t_behind 211 0 5 I1) fun I2 b => tC 1 5 (tB (t_behind 212 0 5 I2) fun I3 c => tOk I3 (I2 0 7, a, b, c, cl)) else
  if I 0 7 = 206 then tB (t_number 0 7 I) (t_d2 211 0 5 cl) else
  if I 0 7 = 207 then tB (t_number 0 3 I) (t_d2 211 0 5 cl) else
  t_d1 1 60 cl I
def t_kind (I : PI) : PI := u2 I 0 7 (I 0 4)
def t_readL (fs : PI → TR Sem) : Nat → PI → Nat → Option Sem → Option Sem → List D5 → TR TxA
  | 0, _, _, _, _, _ => none
  | k + 1, I, c, F, G, L =>
    if I 0 4 = 301 then tOk I (F, G, L) else
    if I 0 4 < 200 then tThrow I 1 else
    if 208 < I 0 4 then tThrow I 1 else
    if I 0 4 ≤ 201 ∧ (if I 0 4 = 200 then F else G).isSome = true then tThrow (t_kind I) 4 else
    if c = 24 then tThrow (t_kind I) 6 else
    (t_next (t_kind I)).bind fun I1 =>
    if I1 0 7 ≤ 201 then ck (decide (200 ≤ I1 0 7)) <| tB (fs I1) fun I2 S => tB (t_want 59 I2) fun I3 _ => t_readL fs k I3 (c + 1) (if I1 0 7 = 200 then some S else F) (if I1 0 7 = 200 then G else some S) L
    else tB (t_doing (nI c) I1) fun I2 d => tC (growC L.length) (growS L.length) (tB (t_want 59 I2) fun I3 _ => t_readL fs k I3 (c + 1) F G (L ++ [d]))
def t_read (fs : PI → TR Sem) (I : PI) : TR TxA := tC 3 8 ((t_next I).bind fun I1 => t_readL fs 25 I1 0 none none [])
/-- the tokens at the start, over x's tape -/
def tkI (I : PI) : PI := fun k => if k = 0 then (fun j => if j = 1 then I 0 3 else 0) else I 113
/-- the tape as the tokens left it -/
def tpI (I : PI) (f : Nat → Int32) : PI := fun k => if k = 113 then f else I k
def tx_I1 (I : PI) : PI := u2 (u2 I 0 4 0) 0 5 (-1)
/-- text(): the planes, cells and places made, the answer, the text read -/
def x_text (I : PI) : Option (PI × (Nat × Nat) × Int32 × Option TxA) :=
  if I 2 (ix (3 : Int32)) = 4 then some (I, (0, 0), -1, none) else
  (t_read (t_sum 8) (tkI I)).bind fun r => match r.2.2 with
    | .inr w => some (u2 (u2 (u2 (tpI (tx_I1 I) (r.1 1)) 0 4 w.1) 0 5 w.2) 0 3 0, (1 + r.2.1.1, 8 + r.2.1.2), -1, none)
    | .inl x => ck (inb (I 2 (ix (3 : Int32))) 4) <| some (u2 (u2 (tpI (tx_I1 I) (r.1 1)) 0 3 0) 2 (ix (3 : Int32)) (I 2 (ix (3 : Int32)) + 1), (1 + r.2.1.1, 8 + r.2.1.2), I 2 (ix (3 : Int32)) + 1 - 1, some x)

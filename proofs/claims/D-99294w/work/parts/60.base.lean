/-! pure side: ints by natural numbers -/
theorem pz_0 : (0 : Int32) = nI 0 := rfl
theorem pz_1 : (1 : Int32) = nI 1 := rfl
theorem pz_2 : (2 : Int32) = nI 2 := rfl
theorem pz_3 : (3 : Int32) = nI 3 := rfl
theorem pz_4 : (4 : Int32) = nI 4 := rfl
theorem pz_5 : (5 : Int32) = nI 5 := rfl
theorem pz_6 : (6 : Int32) = nI 6 := rfl
theorem pz_7 : (7 : Int32) = nI 7 := rfl
theorem pz_8 : (8 : Int32) = nI 8 := rfl
theorem pz_9 : (9 : Int32) = nI 9 := rfl
theorem pz_10 : (10 : Int32) = nI 10 := rfl
theorem pz_11 : (11 : Int32) = nI 11 := rfl
theorem pz_12 : (12 : Int32) = nI 12 := rfl
theorem pz_13 : (13 : Int32) = nI 13 := rfl
theorem pz_14 : (14 : Int32) = nI 14 := rfl
theorem pz_15 : (15 : Int32) = nI 15 := rfl
theorem pz_16 : (16 : Int32) = nI 16 := rfl
theorem pz_20 : (20 : Int32) = nI 20 := rfl
theorem pz_21 : (21 : Int32) = nI 21 := rfl
theorem pz_22 : (22 : Int32) = nI 22 := rfl
theorem pz_24 : (24 : Int32) = nI 24 := rfl
theorem pz_25 : (25 : Int32) = nI 25 := rfl
theorem pz_30 : (30 : Int32) = nI 30 := rfl
theorem pz_31 : (31 : Int32) = nI 31 := rfl
theorem pz_32 : (32 : Int32) = nI 32 := rfl
theorem pz_35 : (35 : Int32) = nI 35 := rfl
theorem pz_40 : (40 : Int32) = nI 40 := rfl
theorem pz_41 : (41 : Int32) = nI 41 := rfl
theorem pz_42 : (42 : Int32) = nI 42 := rfl
theorem pz_43 : (43 : Int32) = nI 43 := rfl
theorem pz_45 : (45 : Int32) = nI 45 := rfl
theorem pz_47 : (47 : Int32) = nI 47 := rfl
theorem pz_48 : (48 : Int32) = nI 48 := rfl
theorem pz_52 : (52 : Int32) = nI 52 := rfl
theorem pz_57 : (57 : Int32) = nI 57 := rfl
theorem pz_58 : (58 : Int32) = nI 58 := rfl
theorem pz_59 : (59 : Int32) = nI 59 := rfl
theorem pz_60 : (60 : Int32) = nI 60 := rfl
theorem pz_61 : (61 : Int32) = nI 61 := rfl
theorem pz_62 : (62 : Int32) = nI 62 := rfl
theorem pz_63 : (63 : Int32) = nI 63 := rfl
theorem pz_65 : (65 : Int32) = nI 65 := rfl
theorem pz_85 : (85 : Int32) = nI 85 := rfl
theorem pz_90 : (90 : Int32) = nI 90 := rfl
theorem pz_97 : (97 : Int32) = nI 97 := rfl
theorem pz_98 : (98 : Int32) = nI 98 := rfl
theorem pz_99 : (99 : Int32) = nI 99 := rfl
theorem pz_100 : (100 : Int32) = nI 100 := rfl
theorem pz_101 : (101 : Int32) = nI 101 := rfl
theorem pz_102 : (102 : Int32) = nI 102 := rfl
theorem pz_103 : (103 : Int32) = nI 103 := rfl
theorem pz_104 : (104 : Int32) = nI 104 := rfl
theorem pz_105 : (105 : Int32) = nI 105 := rfl
theorem pz_107 : (107 : Int32) = nI 107 := rfl
theorem pz_108 : (108 : Int32) = nI 108 := rfl
theorem pz_109 : (109 : Int32) = nI 109 := rfl
theorem pz_110 : (110 : Int32) = nI 110 := rfl
theorem pz_111 : (111 : Int32) = nI 111 := rfl
theorem pz_112 : (112 : Int32) = nI 112 := rfl
theorem pz_114 : (114 : Int32) = nI 114 := rfl
theorem pz_115 : (115 : Int32) = nI 115 := rfl
theorem pz_116 : (116 : Int32) = nI 116 := rfl
theorem pz_119 : (119 : Int32) = nI 119 := rfl
theorem pz_120 : (120 : Int32) = nI 120 := rfl
theorem pz_121 : (121 : Int32) = nI 121 := rfl
theorem pz_122 : (122 : Int32) = nI 122 := rfl
theorem pz_125 : (125 : Int32) = nI 125 := rfl
theorem pz_127 : (127 : Int32) = nI 127 := rfl
theorem pz_153 : (153 : Int32) = nI 153 := rfl
theorem pz_200 : (200 : Int32) = nI 200 := rfl
theorem pz_201 : (201 : Int32) = nI 201 := rfl
theorem pz_202 : (202 : Int32) = nI 202 := rfl
theorem pz_203 : (203 : Int32) = nI 203 := rfl
theorem pz_204 : (204 : Int32) = nI 204 := rfl
theorem pz_205 : (205 : Int32) = nI 205 := rfl
theorem pz_206 : (206 : Int32) = nI 206 := rfl
theorem pz_207 : (207 : Int32) = nI 207 := rfl
theorem pz_208 : (208 : Int32) = nI 208 := rfl
theorem pz_209 : (209 : Int32) = nI 209 := rfl
theorem pz_210 : (210 : Int32) = nI 210 := rfl
theorem pz_211 : (211 : Int32) = nI 211 := rfl
theorem pz_212 : (212 : Int32) = nI 212 := rfl
theorem pz_213 : (213 : Int32) = nI 213 := rfl
theorem pz_214 : (214 : Int32) = nI 214 := rfl
theorem pz_215 : (215 : Int32) = nI 215 := rfl
theorem pz_216 : (216 : Int32) = nI 216 := rfl
theorem pz_217 : (217 : Int32) = nI 217 := rfl
theorem pz_218 : (218 : Int32) = nI 218 := rfl
theorem pz_219 : (219 : Int32) = nI 219 := rfl
theorem pz_220 : (220 : Int32) = nI 220 := rfl
theorem pz_221 : (221 : Int32) = nI 221 := rfl
theorem pz_222 : (222 : Int32) = nI 222 := rfl
theorem pz_223 : (223 : Int32) = nI 223 := rfl
theorem pz_224 : (224 : Int32) = nI 224 := rfl
theorem pz_225 : (225 : Int32) = nI 225 := rfl
theorem pz_255 : (255 : Int32) = nI 255 := rfl
theorem pz_256 : (256 : Int32) = nI 256 := rfl
theorem pz_271 : (271 : Int32) = nI 271 := rfl
theorem pz_300 : (300 : Int32) = nI 300 := rfl
theorem pz_301 : (301 : Int32) = nI 301 := rfl
theorem pz_302 : (302 : Int32) = nI 302 := rfl
theorem pz_303 : (303 : Int32) = nI 303 := rfl
theorem pz_304 : (304 : Int32) = nI 304 := rfl
theorem pz_400 : (400 : Int32) = nI 400 := rfl
theorem pz_401 : (401 : Int32) = nI 401 := rfl
theorem pz_521 : (521 : Int32) = nI 521 := rfl
theorem pz_705 : (705 : Int32) = nI 705 := rfl
theorem pz_1000 : (1000 : Int32) = nI 1000 := rfl
theorem pz_1508 : (1508 : Int32) = nI 1508 := rfl
theorem pz_1661 : (1661 : Int32) = nI 1661 := rfl
theorem pz_1691 : (1691 : Int32) = nI 1691 := rfl
theorem pz_2400 : (2400 : Int32) = nI 2400 := rfl
theorem pz_3125 : (3125 : Int32) = nI 3125 := rfl
theorem pz_9999 : (9999 : Int32) = nI 9999 := rfl
theorem pz_10000 : (10000 : Int32) = nI 10000 := rfl
theorem pz_30703 : (30703 : Int32) = nI 30703 := rfl
theorem pz_65536 : (65536 : Int32) = nI 65536 := rfl
theorem pz_99999 : (99999 : Int32) = nI 99999 := rfl
theorem pz_1000000 : (1000000 : Int32) = nI 1000000 := rfl
theorem pz_ix {n : Nat} (h : n < 2 ^ 31) : ix (nI n) = n := nI_clamp h
theorem pz_inb {n N : Nat} (h : n < N) (hN : N < 2 ^ 31) : inb (nI n) N = true := by
  have h1 : ¬ nI n < 0 := nI_pos (by omega)
  have h2 : (nI n).toNatClampNeg = n := nI_clamp (by omega)
  have h3 : ¬ N ≤ n := by omega
  simp [inb, h1, h2, h3]
theorem pz_lt {α β : Type} (x : α) (f : α → β) : lt_ x f = f x := id rfl
theorem pz_ck {α : Type} (o : Option α) : ck true o = o := id rfl
theorem pz_bs {α β : Type} (x : α) (f : α → Option β) : (some x).bind f = f x := id rfl
theorem pz_u2 {a b z : Type} (f : a → b → z) (x : a) (y : b) : un2 f (x, y) = f x y := id rfl
theorem pz_u3 {a b c z : Type} (f : a → b → c → z) (x : a) (y : b) (w : c) : un3 f (x, y, w) = f x y w := id rfl
theorem pz_u4 {a b c d z : Type} (f : a → b → c → d → z) (x : a) (y : b) (w : c) (v : d) : un4 f (x, y, w, v) = f x y w v := id rfl
theorem pz_lbl {ρ β γ : Type} (r : ρ) (g : ρ → Option γ) (f : β → Option γ) : lbind (some (Sum.inl r)) g f = g r := id rfl
theorem pz_lbr {ρ β γ : Type} (r : β) (g : ρ → Option γ) (f : β → Option γ) : lbind (some (Sum.inr r)) g f = f r := id rfl
theorem pz_add (a b : Nat) : nI a + nI b = nI (a + b) := nI_add a b
theorem pz_mul (a b : Nat) : nI a * nI b = nI (a * b) := pk_mul a b
theorem pz_sub {a b : Nat} (h : b ≤ a) : nI a - nI b = nI (a - b) := pk_sub h
def bI (b : Bool) : Int32 := if b then nI 1 else nI 0
theorem pz_bIt : bI true = nI 1 := rfl
theorem pz_bIf : bI false = nI 0 := rfl
theorem pz_isb (b : Bool) : isb (bI b) = true := by cases b <;> rfl
theorem pz_isb0 : isb (nI 0) = true := rfl
theorem pz_isb1 : isb (nI 1) = true := rfl
theorem pz_bI0 (b : Bool) : (bI b = nI 0) ↔ b = false := by cases b <;> decide
theorem pz_bI1 (b : Bool) : (bI b = nI 1) ↔ b = true := by cases b <;> decide
theorem pz_cases (x : Int32) : x < 0 ∨ ∃ n : Nat, n < 2 ^ 31 ∧ x = nI n := by
  by_cases h : x < 0
  · exact Or.inl h
  · exact Or.inr (nI_of h)
theorem pz_toInt {n : Nat} (h : n < 2 ^ 31) : (nI n).toInt = (n : Int) := nI_toInt h
theorem pz_m1 {n : Nat} (h : n < 2 ^ 31) : (nI n - nI 1).toInt = (n : Int) - 1 := by
  by_cases h0 : n = 0
  · subst h0; decide
  · rw [pz_sub (by omega), pz_toInt (by omega)]; omega
theorem pz_le1 {a n : Nat} (ha : a < 2 ^ 31) (hn : n < 2 ^ 31) : nI a ≤ nI n - nI 1 ↔ a < n := by
  rw [Int32.le_iff_toInt_le, pz_m1 hn, pz_toInt ha]; omega
theorem pz_neg {x : Int32} (h : x < 0) (n : Nat) (hn : n < 2 ^ 31) : ¬ nI n ≤ x := by
  intro q
  have h1 := Int32.le_iff_toInt_le.mp q
  have h2 := Int32.lt_iff_toInt_lt.mp h
  rw [pz_toInt hn] at h1
  have h3 : (0 : Int32).toInt = 0 := by decide
  omega
theorem pz_ne1 {n : Nat} (h : n < 2 ^ 31) : ¬ nI n = -nI 1 := by
  intro q
  have h1 := congrArg Int32.toInt q
  rw [pz_toInt h] at h1
  have h2 : (-nI 1).toInt = -1 := by decide
  omega
theorem pz_ne2 {n : Nat} (h : n < 2 ^ 31) : ¬ nI n = -nI 2 := by
  intro q
  have h1 := congrArg Int32.toInt q
  rw [pz_toInt h] at h1
  have h2 : (-nI 2).toInt = -2 := by decide
  omega
theorem pz_dec {n : Nat} (h : 0 < n) : nI n + -nI 1 = nI (n - 1) := by
  obtain ⟨k, rfl⟩ : ∃ k, n = k + 1 := ⟨n - 1, by omega⟩
  exact pk_m1 k
theorem pz_eqI {a b : Nat} (ha : a < 2 ^ 31) (hb : b < 2 ^ 31) : nI a = nI b ↔ a = b := nI_eq ha hb
/-- planes -/
theorem pz_at {α : Type} (f : Nat → Nat → α) {a i b j : Nat} (v : α) (h1 : b = a) (h2 : j = i) : u2 f a i v b j = v := by
  subst h1; subst h2; exact u2_eq f b j v
theorem pz_no {α : Type} (f : Nat → Nat → α) {a i b j : Nat} (v : α) (h : b ≠ a ∨ j ≠ i) : u2 f a i v b j = f b j := u2_ne f v h
/-- a loop that counts up -/
theorem pz_up {σ ρ : Type} (L : Nat → Nat → σ → Option ρ) (hi : Nat) (g : σ → Option ρ) (f : Nat → σ → σ) (P : Nat → σ → Prop)
    (h0 : ∀ k s, P hi s → L (k + 1) hi s = g s) (h1 : ∀ k v s, v < hi → P v s → L (k + 1) v s = L k (v + 1) (f v s) ∧ P (v + 1) (f v s)) :
    ∀ (n k v : Nat) (s : σ), v + n = hi → n < k → P v s → ∃ s', P hi s' ∧ L k v s = g s' ∧ s' = (List.range' v n).foldl (fun s v => f v s) s := by
  intro n
  induction n with
  | zero =>
    intro k v s e hk hP
    obtain ⟨k, rfl⟩ : ∃ q, k = q + 1 := ⟨k - 1, by omega⟩
    have e : v = hi := by omega
    subst e
    exact ⟨s, hP, h0 k s hP, rfl⟩
  | succ n ih =>
    intro k v s e hk hP
    obtain ⟨k, rfl⟩ : ∃ q, k = q + 1 := ⟨k - 1, by omega⟩
    obtain ⟨e1, hP1⟩ := h1 k v s (by omega) hP
    obtain ⟨s', q1, q2, q3⟩ := ih k (v + 1) (f v s) (by omega) (by omega) hP1
    refine ⟨s', q1, e1.trans q2, ?_⟩
    rw [q3, List.range'_succ]
    rfl
/-- the same, with an invariant alone -/
theorem pz_loop {σ ρ : Type} (L : Nat → Nat → σ → Option ρ) (hi : Nat) (g : σ → Option ρ) (P : Nat → σ → Prop)
    (h0 : ∀ k s, P hi s → L (k + 1) hi s = g s) (h1 : ∀ k v s, v < hi → P v s → ∃ s', L (k + 1) v s = L k (v + 1) s' ∧ P (v + 1) s') :
    ∀ (n k v : Nat) (s : σ), v + n = hi → n < k → P v s → ∃ s', P hi s' ∧ L k v s = g s' := by
  intro n
  induction n with
  | zero =>
    intro k v s e hk hP
    obtain ⟨k, rfl⟩ : ∃ q, k = q + 1 := ⟨k - 1, by omega⟩
    have e : v = hi := by omega
    subst e
    exact ⟨s, hP, h0 k s hP⟩
  | succ n ih =>
    intro k v s e hk hP
    obtain ⟨k, rfl⟩ : ∃ q, k = q + 1 := ⟨k - 1, by omega⟩
    obtain ⟨s1, e1, hP1⟩ := h1 k v s (by omega) hP
    obtain ⟨s', q1, q2⟩ := ih k (v + 1) s1 (by omega) (by omega) hP1
    exact ⟨s', q1, e1.trans q2⟩
/-- the same, that may end early -/
theorem pz_loopE {σ ρ : Type} (L : Nat → Nat → σ → Option ρ) (hi : Nat) (P : Nat → σ → Prop) (Q : Option ρ → Prop)
    (h0 : ∀ k s, P hi s → Q (L (k + 1) hi s)) (h1 : ∀ k v s, v < hi → P v s → Q (L (k + 1) v s) ∨ ∃ s', L (k + 1) v s = L k (v + 1) s' ∧ P (v + 1) s') :
    ∀ (n k v : Nat) (s : σ), v + n = hi → n < k → P v s → Q (L k v s) := by
  intro n
  induction n with
  | zero =>
    intro k v s e hk hP
    obtain ⟨k, rfl⟩ : ∃ q, k = q + 1 := ⟨k - 1, by omega⟩
    have e : v = hi := by omega
    subst e
    exact h0 k s hP
  | succ n ih =>
    intro k v s e hk hP
    obtain ⟨k, rfl⟩ : ∃ q, k = q + 1 := ⟨k - 1, by omega⟩
    rcases h1 k v s (by omega) hP with h | ⟨s1, e1, hP1⟩
    · exact h
    · rw [e1]
      exact ih k (v + 1) s1 (by omega) (by omega) hP1
theorem fu_gt {n : Nat} (h : n < 1099511627776) : n < fu := h

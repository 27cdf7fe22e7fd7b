/-! how many bits of a long, as the JDK counts them; where the lowest is -/
def bw (f : Nat → Nat) : Nat → Nat → Nat
  | 0, _ => 0
  | n + 1, N => f (N % 256) + 256 * bw f n (N / 256)
def mk (c : Nat) : Nat → Nat
  | 0 => 0
  | n + 1 => c + 256 * mk c n
theorem and_split {a c y z : Nat} (ha : a < 256) (hc : c < 256) : (a + 256 * y) &&& (c + 256 * z) = (a &&& c) + 256 * (y &&& z) := by
  apply Nat.eq_of_testBit_eq
  intro j
  have e1 : a + 256 * y = 2 ^ 8 * y + a := by omega
  have e2 : c + 256 * z = 2 ^ 8 * z + c := by omega
  have e3 : (a &&& c) + 256 * (y &&& z) = 2 ^ 8 * (y &&& z) + (a &&& c) := by omega
  have h : a &&& c < 2 ^ 8 := Nat.lt_of_le_of_lt Nat.and_le_left ha
  rw [Nat.testBit_and, e1, e2, e3, Nat.testBit_two_pow_mul_add _ ha, Nat.testBit_two_pow_mul_add _ hc, Nat.testBit_two_pow_mul_add _ h]
  by_cases q : j < 8
  · rw [if_pos q, if_pos q, if_pos q, Nat.testBit_and]
  · rw [if_neg q, if_neg q, if_neg q, Nat.testBit_and]
theorem b55 : ∀ a, a < 256 → ∀ t, t < 2 → (a / 2 + 128 * t) &&& 85 = (a / 2) &&& 85 := by decide +kernel
theorem b33 : ∀ a, a < 256 → ∀ t, t < 4 → (a / 4 + 64 * t) &&& 51 = (a / 4) &&& 51 := by decide +kernel
theorem b0f : ∀ a, a < 69 → ∀ t, t < 5 → (a + a / 16 + 16 * t) &&& 15 = (a + a / 16) &&& 15 := by decide +kernel
def g1 (b : Nat) : Nat := b - ((b / 2) &&& 85)
def g2 (b : Nat) : Nat := (g1 b &&& 51) + ((g1 b / 4) &&& 51)
def g3 (b : Nat) : Nat := (g2 b + g2 b / 16) &&& 15
theorem g_ok : ∀ b, b < 256 → (b / 2) &&& 85 ≤ b ∧ g1 b < 256 ∧ g2 b < 69 ∧ g2 b % 16 < 5 ∧ g3 b ≤ 8 ∧ g3 b = ctN b.testBit 8 := by decide +kernel
theorem st1 : ∀ n N, N < 256 ^ n → (N / 2) &&& mk 85 n ≤ N ∧ N - ((N / 2) &&& mk 85 n) = bw g1 n N
  | 0, N, h => by
    have e : N = 0 := by
      rw [Nat.pow_zero] at h
      omega
    subst e
    exact ⟨by decide, rfl⟩
  | n + 1, N, h => by
    obtain ⟨i1, i2⟩ := st1 n (N / 256) (by rw [Nat.pow_succ] at h; omega)
    obtain ⟨q1, -⟩ := g_ok (N % 256) (Nat.mod_lt _ (by decide))
    have e : N / 2 = (N % 256 / 2 + 128 * (N / 256 % 2)) + 256 * (N / 256 / 2) := by omega
    have e2 : (N / 2) &&& mk 85 (n + 1) = ((N % 256 / 2) &&& 85) + 256 * ((N / 256 / 2) &&& mk 85 n) := by
      rw [e]
      show _ &&& (85 + 256 * mk 85 n) = _
      rw [and_split (by omega) (by decide), b55 _ (Nat.mod_lt _ (by decide)) _ (Nat.mod_lt _ (by decide))]
    rw [e2]
    refine ⟨by omega, ?_⟩
    show _ = g1 (N % 256) + 256 * bw g1 n (N / 256)
    rw [← i2]
    unfold g1
    omega
theorem bw_mod {f : Nat → Nat} {n N : Nat} (h : f (N % 256) < 256) : bw f (n + 1) N % 256 = f (N % 256) ∧ bw f (n + 1) N / 256 = bw f n (N / 256) := by
  show (f (N % 256) + 256 * bw f n (N / 256)) % 256 = _ ∧ (f (N % 256) + 256 * bw f n (N / 256)) / 256 = _
  omega
theorem st2 : ∀ n N, (bw g1 n N &&& mk 51 n) + ((bw g1 n N / 4) &&& mk 51 n) = bw g2 n N
  | 0, N => by simp [bw, mk]
  | n + 1, N => by
    have ih := st2 n (N / 256)
    obtain ⟨-, q1, -⟩ := g_ok (N % 256) (Nat.mod_lt _ (by decide))
    have e0 : bw g1 (n + 1) N = g1 (N % 256) + 256 * bw g1 n (N / 256) := rfl
    have e : bw g1 (n + 1) N / 4 = (g1 (N % 256) / 4 + 64 * (bw g1 n (N / 256) % 4)) + 256 * (bw g1 n (N / 256) / 4) := by rw [e0]; omega
    rw [e, e0]
    show (_ &&& (51 + 256 * mk 51 n)) + (_ &&& (51 + 256 * mk 51 n)) = g2 (N % 256) + 256 * bw g2 n (N / 256)
    rw [and_split q1 (by decide), and_split (by omega) (by decide), b33 _ q1 _ (Nat.mod_lt _ (by decide)), ← ih]
    unfold g2
    omega
theorem bw_low : ∀ n N, bw g2 n N % 16 < 5
  | 0, _ => by
    show (0 : Nat) % 16 < 5
    decide
  | n + 1, N => by
    obtain ⟨-, -, q2, q3, -⟩ := g_ok (N % 256) (Nat.mod_lt _ (by decide))
    show (g2 (N % 256) + 256 * bw g2 n (N / 256)) % 16 < 5
    omega
theorem st3 : ∀ n N, (bw g2 n N + bw g2 n N / 16) &&& mk 15 n = bw g3 n N
  | 0, N => by simp [bw, mk]
  | n + 1, N => by
    have ih := st3 n (N / 256)
    have hl := bw_low n (N / 256)
    obtain ⟨-, -, q2, q3, -⟩ := g_ok (N % 256) (Nat.mod_lt _ (by decide))
    have e0 : bw g2 (n + 1) N = g2 (N % 256) + 256 * bw g2 n (N / 256) := rfl
    have e : bw g2 (n + 1) N + bw g2 (n + 1) N / 16 = (g2 (N % 256) + g2 (N % 256) / 16 + 16 * (bw g2 n (N / 256) % 16)) + 256 * (bw g2 n (N / 256) + bw g2 n (N / 256) / 16) := by rw [e0]; omega
    rw [e]
    show _ &&& (15 + 256 * mk 15 n) = g3 (N % 256) + 256 * bw g3 n (N / 256)
    rw [and_split (by omega) (by decide), b0f _ q2 _ hl, ← ih]
    rfl
theorem ct_bytes : ∀ n N, ∃ l : List Nat, l.length = n ∧ (∀ x, x ∈ l → x ≤ 8) ∧ bw g3 n N = l.foldr (fun x a => x + 256 * a) 0 ∧ ctN N.testBit (8 * n) = l.sum
  | 0, N => ⟨[], rfl, (fun x hx => by cases hx), rfl, rfl⟩
  | n + 1, N => by
    obtain ⟨l, h1, h2, h3, h4⟩ := ct_bytes n (N / 256)
    obtain ⟨-, -, -, -, q4, q5⟩ := g_ok (N % 256) (Nat.mod_lt _ (by decide))
    refine ⟨g3 (N % 256) :: l, by rw [List.length_cons, h1], fun x hx => ?_, ?_, ?_⟩
    · rcases List.mem_cons.mp hx with e | e
      · rw [e]; exact q4
      · exact h2 x e
    · show g3 (N % 256) + 256 * bw g3 n (N / 256) = g3 (N % 256) + 256 * _
      rw [h3]
    · rw [List.sum_cons, ← h4, q5, show 8 * (n + 1) = 8 + 8 * n by omega, ctN_add]
      congr 1
      · refine ctN_ext fun i hi => ?_
        rw [show (256 : Nat) = 2 ^ 8 from rfl, Nat.testBit_mod_two_pow, decide_eq_true hi, Bool.true_and]
      · refine ctN_ext fun i hi => ?_
        rw [show (256 : Nat) = 2 ^ 8 from rfl, Nat.testBit_div_two_pow, Nat.add_comm]
theorem dv {x y : Nat} (h : x < 256) : (x + 256 * y) / 256 = y := by omega
theorem lin4 (a0 a1 a2 a3 a4 a5 a6 a7 : Nat) : a0 + 256 * (a1 + 256 * (a2 + 256 * (a3 + 256 * (a4 + 256 * (a5 + 256 * (a6 + 256 * (a7))))))) + (a1 + 256 * (a2 + 256 * (a3 + 256 * (a4 + 256 * (a5 + 256 * (a6 + 256 * (a7))))))) = (a0 + a1) + 256 * ((a1 + a2) + 256 * ((a2 + a3) + 256 * ((a3 + a4) + 256 * ((a4 + a5) + 256 * ((a5 + a6) + 256 * ((a6 + a7) + 256 * (a7))))))) := by omega
theorem lin5 (a0 a1 a2 a3 a4 a5 a6 a7 : Nat) : (a0 + a1) + 256 * ((a1 + a2) + 256 * ((a2 + a3) + 256 * ((a3 + a4) + 256 * ((a4 + a5) + 256 * ((a5 + a6) + 256 * ((a6 + a7) + 256 * (a7))))))) + ((a2 + a3) + 256 * ((a3 + a4) + 256 * ((a4 + a5) + 256 * ((a5 + a6) + 256 * ((a6 + a7) + 256 * (a7)))))) = (a0 + a1 + a2 + a3) + 256 * ((a1 + a2 + a3 + a4) + 256 * ((a2 + a3 + a4 + a5) + 256 * ((a3 + a4 + a5 + a6) + 256 * ((a4 + a5 + a6 + a7) + 256 * ((a5 + a6 + a7) + 256 * ((a6 + a7) + 256 * (a7))))))) := by omega
theorem lin6 (a0 a1 a2 a3 a4 a5 a6 a7 : Nat) : (a0 + a1 + a2 + a3) + 256 * ((a1 + a2 + a3 + a4) + 256 * ((a2 + a3 + a4 + a5) + 256 * ((a3 + a4 + a5 + a6) + 256 * ((a4 + a5 + a6 + a7) + 256 * ((a5 + a6 + a7) + 256 * ((a6 + a7) + 256 * (a7))))))) + ((a4 + a5 + a6 + a7) + 256 * ((a5 + a6 + a7) + 256 * ((a6 + a7) + 256 * (a7)))) = (a0 + a1 + a2 + a3 + a4 + a5 + a6 + a7) + 256 * ((a1 + a2 + a3 + a4 + a5 + a6 + a7) + 256 * ((a2 + a3 + a4 + a5 + a6 + a7) + 256 * ((a3 + a4 + a5 + a6 + a7) + 256 * ((a4 + a5 + a6 + a7) + 256 * ((a5 + a6 + a7) + 256 * ((a6 + a7) + 256 * (a7))))))) := by omega
theorem fold8 (a0 a1 a2 a3 a4 a5 a6 a7 : Nat) (m0 : a0 ≤ 8) (m1 : a1 ≤ 8) (m2 : a2 ≤ 8) (m3 : a3 ≤ 8) (m4 : a4 ≤ 8) (m5 : a5 ≤ 8) (m6 : a6 ≤ 8) (m7 : a7 ≤ 8) {A3 A4 A5 A6 : Nat} (k3 : A3 = a0 + 256 * (a1 + 256 * (a2 + 256 * (a3 + 256 * (a4 + 256 * (a5 + 256 * (a6 + 256 * (a7)))))))) (k4 : A4 = A3 + A3 / 256) (k5 : A5 = A4 + A4 / 65536) (k6 : A6 = A5 + A5 / 4294967296) : A6 % 128 = a0 + a1 + a2 + a3 + a4 + a5 + a6 + a7 := by
  have e4 : A4 = (a0 + a1) + 256 * ((a1 + a2) + 256 * ((a2 + a3) + 256 * ((a3 + a4) + 256 * ((a4 + a5) + 256 * ((a5 + a6) + 256 * ((a6 + a7) + 256 * (a7))))))) := by
    rw [k4, k3, dv (by omega), lin4]
  have e5 : A5 = (a0 + a1 + a2 + a3) + 256 * ((a1 + a2 + a3 + a4) + 256 * ((a2 + a3 + a4 + a5) + 256 * ((a3 + a4 + a5 + a6) + 256 * ((a4 + a5 + a6 + a7) + 256 * ((a5 + a6 + a7) + 256 * ((a6 + a7) + 256 * (a7))))))) := by
    rw [k5, show (65536 : Nat) = 256 * 256 from rfl, ← Nat.div_div_eq_div_mul, e4, dv (by omega), dv (by omega), lin5]
  have e6 : A6 = (a0 + a1 + a2 + a3 + a4 + a5 + a6 + a7) + 256 * ((a1 + a2 + a3 + a4 + a5 + a6 + a7) + 256 * ((a2 + a3 + a4 + a5 + a6 + a7) + 256 * ((a3 + a4 + a5 + a6 + a7) + 256 * ((a4 + a5 + a6 + a7) + 256 * ((a5 + a6 + a7) + 256 * ((a6 + a7) + 256 * (a7))))))) := by
    rw [k6, show (4294967296 : Nat) = 256 * 256 * 256 * 256 from rfl, ← Nat.div_div_eq_div_mul, ← Nat.div_div_eq_div_mul, ← Nat.div_div_eq_div_mul, e5, dv (by omega), dv (by omega), dv (by omega), dv (by omega), lin6]
  clear e4 e5 k3 k4 k5 k6
  rw [e6]
  generalize (a1 + a2 + a3 + a4 + a5 + a6 + a7) + 256 * ((a2 + a3 + a4 + a5 + a6 + a7) + 256 * ((a3 + a4 + a5 + a6 + a7) + 256 * ((a4 + a5 + a6 + a7) + 256 * ((a5 + a6 + a7) + 256 * ((a6 + a7) + 256 * (a7)))))) = Y
  omega
theorem bN_ushr (w : Int64) (c : UInt64) (k : Nat) (hk : (c.toBitVec % 64).toNat = k) : bN (UInt64.toInt64 (Int64.toUInt64 w >>> c)) = bN w / 2 ^ k := by
  show (w.toBitVec >>> (c.toBitVec % 64)).toNat = _
  rw [BitVec.ushiftRight_eq', BitVec.toNat_ushiftRight, hk, Nat.shiftRight_eq_div_pow]
  rfl
theorem bN_add (a b : Int64) (h : bN a + bN b < 2 ^ 64) : bN (a + b) = bN a + bN b := by
  unfold bN at *
  rw [Int64.toBitVec_add, BitVec.toNat_add]
  omega
theorem bN_sub (a b : Int64) (h : bN b ≤ bN a) : bN (a - b) = bN a - bN b := by
  have h1 := bN_lt a
  unfold bN at *
  rw [Int64.toBitVec_sub, BitVec.toNat_sub]
  omega
theorem px_count (w : Int64) : J16_bitCount w = some (nI (cntL w)) := by
  have hN := bN_lt w
  obtain ⟨l, h1, h2, h3, h4⟩ := ct_bytes 8 (bN w)
  obtain ⟨s1, s2⟩ := st1 8 (bN w) (by rw [show (256 : Nat) ^ 8 = 2 ^ 64 by decide]; exact hN)
  have s3 := st2 8 (bN w)
  have s4 := st3 8 (bN w)
  rw [show mk 85 8 = 6148914691236517205 by decide] at s1 s2
  rw [show mk 51 8 = 3689348814741910323 by decide] at s3
  rw [show mk 15 8 = 1085102592571150095 by decide] at s4
  obtain ⟨A1, e1⟩ : ∃ A, A = w - ((UInt64.toInt64 (Int64.toUInt64 w >>> (Int64.toUInt64 (Int32.toInt64 (1 : Int32)) &&& Int64.toUInt64 63))) &&& (6148914691236517205 : Int64)) := ⟨_, rfl⟩
  have k1 : bN A1 = bw g1 8 (bN w) := by
    have z : bN ((UInt64.toInt64 (Int64.toUInt64 w >>> (Int64.toUInt64 (Int32.toInt64 (1 : Int32)) &&& Int64.toUInt64 63))) &&& (6148914691236517205 : Int64)) = (bN w / 2) &&& 6148914691236517205 := by
      rw [bN_and, bN_ushr w _ 1 (by decide), show bN (6148914691236517205 : Int64) = 6148914691236517205 by decide, Nat.pow_one]
    rw [e1, bN_sub _ _ (by rw [z]; exact s1), z, s2]
  obtain ⟨A2, e2⟩ : ∃ A, A = (A1 &&& (3689348814741910323 : Int64)) + ((UInt64.toInt64 (Int64.toUInt64 A1 >>> (Int64.toUInt64 (Int32.toInt64 (2 : Int32)) &&& Int64.toUInt64 63))) &&& (3689348814741910323 : Int64)) := ⟨_, rfl⟩
  have k2 : bN A2 = bw g2 8 (bN w) := by
    have z1 : bN (A1 &&& (3689348814741910323 : Int64)) = bw g1 8 (bN w) &&& 3689348814741910323 := by
      rw [bN_and, k1, show bN (3689348814741910323 : Int64) = 3689348814741910323 by decide]
    have z2 : bN ((UInt64.toInt64 (Int64.toUInt64 A1 >>> (Int64.toUInt64 (Int32.toInt64 (2 : Int32)) &&& Int64.toUInt64 63))) &&& (3689348814741910323 : Int64)) = (bw g1 8 (bN w) / 4) &&& 3689348814741910323 := by
      rw [bN_and, bN_ushr A1 _ 2 (by decide), k1, show bN (3689348814741910323 : Int64) = 3689348814741910323 by decide]
    have l1 : bw g1 8 (bN w) &&& 3689348814741910323 ≤ 3689348814741910323 := Nat.and_le_right
    have l2 : (bw g1 8 (bN w) / 4) &&& 3689348814741910323 ≤ 3689348814741910323 := Nat.and_le_right
    rw [e2, bN_add _ _ (by rw [z1, z2]; omega), z1, z2, s3]
  obtain ⟨A3, e3⟩ : ∃ A, A = (A2 + (UInt64.toInt64 (Int64.toUInt64 A2 >>> (Int64.toUInt64 (Int32.toInt64 (4 : Int32)) &&& Int64.toUInt64 63)))) &&& (1085102592571150095 : Int64) := ⟨_, rfl⟩
  have l3 : bw g2 8 (bN w) ≤ 7378697629483820646 := by
    have l1 : bw g1 8 (bN w) &&& 3689348814741910323 ≤ 3689348814741910323 := Nat.and_le_right
    have l2 : (bw g1 8 (bN w) / 4) &&& 3689348814741910323 ≤ 3689348814741910323 := Nat.and_le_right
    omega
  have k3 : bN A3 = bw g3 8 (bN w) := by
    have z : bN (UInt64.toInt64 (Int64.toUInt64 A2 >>> (Int64.toUInt64 (Int32.toInt64 (4 : Int32)) &&& Int64.toUInt64 63))) = bw g2 8 (bN w) / 16 := by
      rw [bN_ushr A2 _ 4 (by decide), k2]
    rw [e3, bN_and, bN_add _ _ (by rw [z, k2]; omega), z, k2, show bN (1085102592571150095 : Int64) = 1085102592571150095 by decide, s4]
  -- eight small numbers
  obtain ⟨a0, a1, a2, a3, a4, a5, a6, a7, rfl⟩ : ∃ a0 a1 a2 a3 a4 a5 a6 a7, l = [a0, a1, a2, a3, a4, a5, a6, a7] := by
    match l, h1 with
    | [a0, a1, a2, a3, a4, a5, a6, a7], _ => exact ⟨_, _, _, _, _, _, _, _, rfl⟩
  have m0 := h2 a0 (by simp)
  have m1 := h2 a1 (by simp)
  have m2 := h2 a2 (by simp)
  have m3 := h2 a3 (by simp)
  have m4 := h2 a4 (by simp)
  have m5 := h2 a5 (by simp)
  have m6 := h2 a6 (by simp)
  have m7 := h2 a7 (by simp)
  have k3' : bN A3 = a0 + 256 * (a1 + 256 * (a2 + 256 * (a3 + 256 * (a4 + 256 * (a5 + 256 * (a6 + 256 * a7)))))) := by
    rw [k3, h3]
    rfl
  have hc : cntL w = a0 + (a1 + (a2 + (a3 + (a4 + (a5 + (a6 + (a7 + 0))))))) := by
    have : ctN (bN w).testBit (8 * 8) = [a0, a1, a2, a3, a4, a5, a6, a7].sum := h4
    have e : cntL w = ctN (bN w).testBit 64 := rfl
    rw [e]
    exact this
  have q3 : bN A3 ≤ 578721382704613384 := by
    rw [k3']
    clear k1 k2 k3 l3 h3 h4 s1 s2 s3 s4 e1 e2 e3 hc hN k3'
    omega
  obtain ⟨A4, e4⟩ : ∃ A, A = A3 + (UInt64.toInt64 (Int64.toUInt64 A3 >>> (Int64.toUInt64 (Int32.toInt64 (8 : Int32)) &&& Int64.toUInt64 63))) := ⟨_, rfl⟩
  have k4 : bN A4 = bN A3 + bN A3 / 256 := by
    have z : bN (UInt64.toInt64 (Int64.toUInt64 A3 >>> (Int64.toUInt64 (Int32.toInt64 (8 : Int32)) &&& Int64.toUInt64 63))) = bN A3 / 256 := bN_ushr A3 _ 8 (by decide)
    have q := q3
    rw [e4, bN_add _ _ (by rw [z]; exact Nat.lt_of_le_of_lt (Nat.add_le_add q (Nat.le_trans (Nat.div_le_self _ _) q)) (by decide)), z]
  obtain ⟨A5, e5⟩ : ∃ A, A = A4 + (UInt64.toInt64 (Int64.toUInt64 A4 >>> (Int64.toUInt64 (Int32.toInt64 (16 : Int32)) &&& Int64.toUInt64 63))) := ⟨_, rfl⟩
  have k5 : bN A5 = bN A4 + bN A4 / 65536 := by
    have z : bN (UInt64.toInt64 (Int64.toUInt64 A4 >>> (Int64.toUInt64 (Int32.toInt64 (16 : Int32)) &&& Int64.toUInt64 63))) = bN A4 / 65536 := bN_ushr A4 _ 16 (by decide)
    have q : bN A4 ≤ 578721382704613384 + 578721382704613384 := by
      rw [k4]
      exact Nat.add_le_add q3 (Nat.le_trans (Nat.div_le_self _ _) q3)
    rw [e5, bN_add _ _ (by rw [z]; exact Nat.lt_of_le_of_lt (Nat.add_le_add q (Nat.le_trans (Nat.div_le_self _ _) q)) (by decide)), z]
  obtain ⟨A6, e6⟩ : ∃ A, A = A5 + (UInt64.toInt64 (Int64.toUInt64 A5 >>> (Int64.toUInt64 (Int32.toInt64 (32 : Int32)) &&& Int64.toUInt64 63))) := ⟨_, rfl⟩
  have k6 : bN A6 = bN A5 + bN A5 / 4294967296 := by
    have z : bN (UInt64.toInt64 (Int64.toUInt64 A5 >>> (Int64.toUInt64 (Int32.toInt64 (32 : Int32)) &&& Int64.toUInt64 63))) = bN A5 / 4294967296 := bN_ushr A5 _ 32 (by decide)
    have q4 : bN A4 ≤ 578721382704613384 + 578721382704613384 := by
      rw [k4]
      exact Nat.add_le_add q3 (Nat.le_trans (Nat.div_le_self _ _) q3)
    have q : bN A5 ≤ (578721382704613384 + 578721382704613384) + (578721382704613384 + 578721382704613384) := by
      rw [k5]
      exact Nat.add_le_add q4 (Nat.le_trans (Nat.div_le_self _ _) q4)
    rw [e6, bN_add _ _ (by rw [z]; exact Nat.lt_of_le_of_lt (Nat.add_le_add q (Nat.le_trans (Nat.div_le_self _ _) q)) (by decide)), z]
  have k7 : bN A6 % 128 = cntL w := by
    rw [hc, fold8 a0 a1 a2 a3 a4 a5 a6 a7 m0 m1 m2 m3 m4 m5 m6 m7 k3' k4 k5 k6]
    simp only [Nat.add_assoc, Nat.add_zero]
  unfold J16_bitCount
  rw [pz_lt, ← e1, pz_lt, ← e2, pz_lt, ← e3, pz_lt, ← e4, pz_lt, ← e5, pz_lt, ← e6]
  have h9 := pk_and (Int64.toInt32 A6) (m := (127 : Int32)) 7 (by decide)
  rw [h9]
  have e9 : (Int64.toInt32 A6).toBitVec.toNat = bN A6 % 2 ^ 32 := by
    show (BitVec.signExtend 32 A6.toBitVec).toNat = _
    rw [BitVec.signExtend_eq_setWidth_of_le _ (by decide), BitVec.toNat_setWidth]
    rfl
  have e10 : bN A6 % 2 ^ 32 % 2 ^ 7 = bN A6 % 128 := Nat.mod_mod_of_dvd _ (by decide)
  rw [e9, e10, k7]

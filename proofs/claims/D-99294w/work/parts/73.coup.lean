/-! the coupling of the class's planes and the reference's -/
def CTape (I I' : PI) : Prop := ∃ n, n ≤ 300 ∧ I 0 3 = nI n ∧ I' 0 9 = nI n ∧ ∀ j, j < n → ∃ b, b < 256 ∧ I 113 j = (nI b).toInt8.toInt32 ∧ I' 9 j = nI b
def CTab (I I' : PI) : Prop := ∀ i d, i < 120 → d < 5 → I (122 + i) d = nI (ordT i d) ∧ I (242 + i) d = nI (plcT i d) ∧ I' 4 (5 * i + d) = nI (ordT i d) ∧ I' 5 (5 * i + d) = nI (plcT i d)
def CSay (I' : PI) (J' : PJ) : Prop := ∀ k, k < 20 → I' 6 k = nI (sayK k) ∧ msk (J' 7 k) (fun i => !outM k i) ∧ msk (J' 8 k) (fun i => !outM k (60 + i))
def CLea (I' : PI) : Prop := I' 0 29 = -nI 1 ∨ ∃ (c : Nat → Nat) (L M : Nat), (∀ k, k < 5 → c k ≤ 9) ∧ I' 0 29 = nI (codeC c) ∧ I' 0 30 = nI L ∧ I' 0 31 = nI M ∧ isLeast c L M
def CTex (s : SN) (T : Nat → Option Nat) (X : TS) (tx : Nat → Int32) : Prop := ∀ t, t < s 2 3 → ∃ y q, T t = some y ∧ X y = some q ∧ TxM q tx t
def sh56 {α : Type} (I : Nat → Nat → α) : Nat → Nat → α := fun k => I (k + 56)
/-- what no step of the state touches -/
def CR (I : PI) (T : PT) (X : TS) (tN : XCo) (I' : PI) (J' : PJ) : Prop := CTape I I' ∧ (I 0 4 = I' 0 10 ∧ I 0 5 = I' 0 11) ∧ CTab I I' ∧ CSay I' J' ∧ CLea I' ∧ I' 0 36 = nI 1 ∧ X (tN 0) = some (none, none, [])
def CB (s si : SN) (I : PI) (T : PT) (X : TS) (I' : PI) : Prop := VSt s ∧ VSt si ∧ XR s I ∧ XR si (sh56 I) ∧ MR s (I' 1) ∧ MR si (I' 2) ∧ si 2 3 ≤ s 2 3 ∧ CTex s (T 10) X (I' 3) ∧ CTex si (T 66) X (I' 3)
def CC (s si : SN) (I : PI) (T : PT) (X : TS) (tN : XCo) (I' : PI) (J' : PJ) : Prop := CB s si I T X I' ∧ CR I T X tN I' J'
/-- unchanged but the state now and scratch -/
def Fx (I I1 : PI) : Prop := (∀ k, (57 ≤ k ∧ k < 116) ∨ 122 ≤ k → I1 k = I k) ∧ I1 0 3 = I 0 3 ∧ I1 0 4 = I 0 4 ∧ I1 0 5 = I 0 5
def Fm (I' I1 : PI) (J' J1 : PJ) : Prop := (∀ k, 2 ≤ k → k < 10 → I1 k = I' k) ∧ I1 0 9 = I' 0 9 ∧ I1 0 10 = I' 0 10 ∧ I1 0 11 = I' 0 11 ∧ I1 0 36 = I' 0 36 ∧ J1 7 = J' 7 ∧ J1 8 = J' 8
theorem Fx.rf {I : PI} : Fx I I := ⟨fun _ _ => rfl, rfl, rfl, rfl⟩
theorem Fx.tr {I I1 I2 : PI} (h : Fx I I1) (g : Fx I1 I2) : Fx I I2 := ⟨fun k hk => (g.1 k hk).trans (h.1 k hk), g.2.1.trans h.2.1, g.2.2.1.trans h.2.2.1, g.2.2.2.trans h.2.2.2⟩
theorem Fm.rf {I : PI} {J : PJ} : Fm I I J J := ⟨fun _ _ _ => rfl, rfl, rfl, rfl, rfl, rfl, rfl⟩
theorem Fm.tr {I I1 I2 : PI} {J J1 J2 : PJ} (h : Fm I I1 J J1) (g : Fm I1 I2 J1 J2) : Fm I I2 J J2 := by
  obtain ⟨h0, h1, h2, h3, h4, h5, h6⟩ := h
  obtain ⟨g0, g1, g2, g3, g4, g5, g6⟩ := g
  exact ⟨fun k h k2 => (g0 k h k2).trans (h0 k h k2), g1.trans h1, g2.trans h2, g3.trans h3, g4.trans h4, g5.trans h5, g6.trans h6⟩
theorem fxU {I : PI} {a i : Nat} {v : Int32} (h : (a < 57 ∧ a ≠ 0) ∨ (116 ≤ a ∧ a < 122)) : Fx I (u2 I a i v) := ⟨fun k hk => u2_row _ _ _ _ (by omega), u2_ne _ _ (by omega), u2_ne _ _ (by omega), u2_ne _ _ (by omega)⟩
theorem fxU0 {I : PI} {i : Nat} {v : Int32} (h : 5 < i) : Fx I (u2 I 0 i v) := ⟨fun k hk => u2_row _ _ _ _ (by omega), u2_ne _ _ (by omega), u2_ne _ _ (by omega), u2_ne _ _ (by omega)⟩
theorem fmU {I : PI} {J : PJ} {a i : Nat} {v : Int32} (h : a = 1 ∨ 10 ≤ a) : Fm I (u2 I a i v) J J := ⟨fun k _ _ => u2_row _ _ _ _ (by omega), u2_ne _ _ (by omega), u2_ne _ _ (by omega), u2_ne _ _ (by omega), u2_ne _ _ (by omega), rfl, rfl⟩
theorem fmU0 {I : PI} {J : PJ} {i : Nat} {v : Int32} (h : i ≠ 9 ∧ i ≠ 10 ∧ i ≠ 11 ∧ i ≠ 36) : Fm I (u2 I 0 i v) J J := ⟨fun k _ _ => u2_row _ _ _ _ (by omega), u2_ne _ _ (by omega), u2_ne _ _ (by omega), u2_ne _ _ (by omega), u2_ne _ _ (by omega), rfl, rfl⟩
theorem fmUJ {I : PI} {J : PJ} {a i : Nat} {v : Int64} (h : a ≠ 7 ∧ a ≠ 8) : Fm I I J (u2 J a i v) := ⟨fun _ _ _ => rfl, rfl, rfl, rfl, rfl, u2_row _ _ _ _ (by omega), u2_row _ _ _ _ (by omega)⟩
theorem CTex.n {s s1 : SN} {T : Nat → Option Nat} {X : TS} {tx : Nat → Int32} (h : CTex s T X tx) (e : s1 2 3 = s 2 3) : CTex s1 T X tx := fun t ht => h t (by omega)
/-- a step of the state: the rest stands -/
theorem CC.step {s si s1 : SN} {I I1 : PI} {T : PT} {X : TS} {tN : XCo} {I' I1' : PI} {J' J1' : PJ} (h : CC s si I T X tN I' J') (hx : Fx I I1) (hm : Fm I' I1' J' J1') (hV : VSt s1) (hX : XR s1 I1) (hM : MR s1 (I1' 1)) (ht : s1 2 3 = s 2 3) (hl : CLea I1') : CC s1 si I1 T X tN I1' J1' := by
  obtain ⟨⟨b1, b2, b3, b4, b5, b6, b7, b8, b9⟩, ⟨n, n1, n2, n3, n4⟩, ⟨r1, r2⟩, r3, r4, r5, r6, r7⟩ := h
  obtain ⟨x1, x2, x3, x4⟩ := hx
  obtain ⟨m1, m2, m3, m4, m5, m6, m7⟩ := hm
  refine ⟨⟨hV, b2, hX, ?_, hM, ?_, by omega, ?_, ?_⟩, ⟨n, n1, by rw [x2]; exact n2, by rw [m2]; exact n3, fun j hj => ?_⟩, ⟨by rw [x3, m3]; exact r1, by rw [x4, m4]; exact r2⟩, ?_, ?_, hl, by rw [m5]; exact r6, r7⟩
  · refine ⟨fun k j hk hj => ?_, ?_⟩
    · show I1 (k + 56) j = nI (si k j)
      rw [x1 _ (by omega)]
      exact b4.1 k j hk hj
    · show I1 (2 + 56) 4 = nI (si 2 4) - nI 1
      rw [x1 _ (by omega)]
      exact b4.2
  · rw [m1 2 (by omega) (by omega)]; exact b6
  · rw [m1 3 (by omega) (by omega)]; exact b8.n ht
  · rw [m1 3 (by omega) (by omega)]; exact b9
  · rw [x1 113 (by omega), m1 9 (by omega) (by omega)]; exact n4 j hj
  · intro i d hi hd
    rw [x1 _ (by omega), x1 _ (by omega), m1 4 (by omega) (by omega), m1 5 (by omega) (by omega)]
    exact r3 i d hi hd
  · intro k hk
    rw [m1 6 (by omega) (by omega), m6, m7]
    exact r4 k hk
theorem CC.lea {s si : SN} {I : PI} {T : PT} {X : TS} {tN : XCo} {I' : PI} {J' : PJ} (h : CC s si I T X tN I' J') : CLea I' := h.2.2.2.2.2.1
theorem CLea.of {I' I1 : PI} (h : CLea I') (e1 : I1 0 29 = I' 0 29) (e2 : I1 0 30 = I' 0 30) (e3 : I1 0 31 = I' 0 31) : CLea I1 := by
  rcases h with h | ⟨c, L, M, h1, h2, h3, h4, h5⟩
  · exact Or.inl (by rw [e1]; exact h)
  · exact Or.inr ⟨c, L, M, h1, by rw [e1]; exact h2, by rw [e2]; exact h3, by rw [e3]; exact h4, h5⟩

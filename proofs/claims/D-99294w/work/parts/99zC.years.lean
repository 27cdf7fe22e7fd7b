/-! a year passes, of both: over a row -/
def rU (r : Nat → Nat) (j v : Nat) : Nat → Nat := fun i => if i = j then v else r i
theorem rU_at (r : Nat → Nat) (j v : Nat) : rU r j v j = v := if_pos rfl
theorem rU_no (r : Nat → Nat) {j i : Nat} (v : Nat) (h : i ≠ j) : rU r j v i = r i := if_neg h
def FYx (k2 : Nat) (I I1 : PI) : Prop := ∀ k j, k ≠ k2 ∨ 141 ≤ j → k ≠ 116 → I1 k j = I k j
def FYm (nP : Nat) (I' I1' : PI) (J' J1' : PJ) : Prop := (∀ k, k ≠ 0 → k ≠ 1 → k ≠ 11 → k ≠ 13 → I1' k = I' k) ∧ (∀ j, j ≠ 37 → I1' 0 j = I' 0 j) ∧ (∀ j, j ≠ 8 → j ≠ 9 → (∀ p, p < nP → j ≠ 11 + 5 * p + 0 ∧ j ≠ 11 + 5 * p + 1 ∧ j ≠ 11 + 5 * p + 2) → I1' 1 j = I' 1 j) ∧ ∀ k, k ≠ 12 → J1' k = J' k
theorem FYx.rf {k2 : Nat} {I : PI} : FYx k2 I I := fun _ _ _ _ => rfl
theorem FYx.r {k2 : Nat} {I I1 : PI} (h : FYx k2 I I1) (k : Nat) (a : k ≠ k2) (b : k ≠ 116) : I1 k = I k := funext fun j => h k j (Or.inl a) b
theorem FYx.tr {k2 : Nat} {I I1 I2 : PI} (h : FYx k2 I I1) (g : FYx k2 I1 I2) : FYx k2 I I2 := fun k j a b => (g k j a b).trans (h k j a b)
theorem FYm.rf {nP : Nat} {I : PI} {J : PJ} : FYm nP I I J J := ⟨fun _ _ _ _ _ => rfl, fun _ _ => rfl, fun _ _ _ _ => rfl, fun _ _ => rfl⟩
theorem FYm.tr {nP : Nat} {I I1 I2 : PI} {J J1 J2 : PJ} (h : FYm nP I I1 J J1) (g : FYm nP I1 I2 J1 J2) : FYm nP I I2 J J2 := ⟨fun k a b c d => (g.1 k a b c d).trans (h.1 k a b c d), fun j a => (g.2.1 j a).trans (h.2.1 j a), fun j a b c => (g.2.2.1 j a b c).trans (h.2.2.1 j a b c), fun k a => (g.2.2.2 k a).trans (h.2.2.2 k a)⟩
def dr (d : Nat) : Nat := (d * 521 + 401) % 30703
theorem px_drawn {I : PI} {k d m : Nat} (h : I k 1 = nI d) (hd : d < 30703) (hm : 0 < m) (hm2 : m < 100) : x_drawn I k (nI m) = some (nI (d % m), u2 I k 1 (nI (dr d))) := by
  have hz : nzi (nI m) = true := by
    unfold nzi
    rw [decide_eq_false (show ¬ nI m = 0 from nI_ne0 hm (by omega))]
    rfl
  unfold x_drawn
  rw [hz, pz_ck, show ix (1 : Int32) = 1 from rfl, h, show (521 : Int32) = nI 521 from rfl, show (401 : Int32) = nI 401 from rfl, show (30703 : Int32) = nI 30703 from rfl, pz_mul, pz_add, pz_div (by omega) hm (by omega), pz_mul, pz_rem (by omega) hm (by omega), pz_lt, pz_div (by omega) (by omega) (by omega), pz_mul, pz_rem (by omega) (by omega) (by omega), pz_lt]
  rfl
theorem pm_anew {I : PI} {d : Nat} (h : I 1 9 = nI d) (hd : d < 30703) : m_anew I = some (u2 I 1 9 (nI (dr d))) := by
  unfold m_anew
  rw [show inb (9 : Int32) 1691 = true from rfl, pz_ck, pz_ck, show ix (9 : Int32) = 9 from rfl, h, nI_l (by omega), show (521 : Int64) = lN 521 from rfl, show (401 : Int64) = lN 401 from rfl, show (30703 : Int64) = lN 30703 from rfl, lN_mul, lN_add, pk_lRem (by omega) (by omega) (by omega), lN_i, pz_lt]
  rfl
theorem dr_lt (d : Nat) : dr d < 30703 := Nat.mod_lt _ (by omega)
section YR
variable {s : SN} {r : Nat → Nat} {k2 : Nat} {I : PI} {T : PT} {X : TS} {tN : XCo} {I' : PI} {J' : PJ}
theorem YK.new (h : YK s r k2 I I') {r1 : Nat → Nat} {I1 I1' : PI} {J1' : PJ} (hV : VRow r1 (s 2 0) (s 2 1)) (hr : ∀ j, j < 141 → I1 k2 j = nI (r1 j)) (fx : FYx k2 I I1) (fm : FYm (s 2 1) I' I1' J' J1') (h8 : I1' 1 8 = nI (r1 0)) (h9 : I1' 1 9 = nI (r1 1)) (hp : ∀ p, p < s 2 1 → I1' 1 (11 + 5 * p + 0) = nI (r1 (2 + p)) ∧ I1' 1 (11 + 5 * p + 1) = nI (r1 (8 + p)) ∧ I1' 1 (11 + 5 * p + 2) = nI (r1 (14 + p))) : YK s r1 k2 I1 I1' := by
  obtain ⟨a0, a1, a2, a3, a4, ⟨a5, a6⟩, a7, ⟨b0, b1, b2, b3⟩, a8, a9⟩ := h
  have st : ∀ j, j < 2 ∨ 41 ≤ j → I1' 1 j = I' 1 j := fun j hj => fm.2.2.1 j (by omega) (by omega) (fun p hp => by omega)
  refine ⟨a0, a1, a2, hV, hr, ⟨?_, ?_⟩, fun f hf => ⟨?_, ?_⟩, ⟨(st 0 (by omega)).trans b0, (st 1 (by omega)).trans b1, h8, hp⟩, h9, fun f hf => ⟨(st _ (by omega)).trans (a9 f hf).1, (st _ (by omega)).trans (a9 f hf).2⟩⟩
  · rw [fx.r 2 (by omega) (by omega)]; exact a5
  · rw [fx.r 2 (by omega) (by omega)]; exact a6
  · rw [fx.r 4 (by omega) (by omega)]; exact (a7 f hf).1
  · rw [fx.r 5 (by omega) (by omega)]; exact (a7 f hf).2
/-- scratch of a saying -/
theorem YK.sy {B B' : PI} {K' : PJ} (h : YK s r k2 I I') (hx : SyX I B) (hm : SyM I' B' J' K') : YK s r k2 B B' ∧ FYx k2 I B ∧ FYm (s 2 1) I' B' J' K' := by
  have fx : FYx k2 I B := fun k j _ b => congrFun (hx k b) j
  have fm : FYm (s 2 1) I' B' J' K' := ⟨fun k a b c d => hm.1 k c d, fun j _ => by rw [hm.1 0 (by omega) (by omega)], fun j _ _ _ => by rw [hm.1 1 (by omega) (by omega)], hm.2⟩
  have e1 : B' 1 = I' 1 := hm.1 1 (by omega) (by omega)
  refine ⟨h.new h.2.2.2.1 (fun j hj => ?_) fx fm (by rw [e1]; exact h.2.2.2.2.2.2.2.1.2.2.1) (by rw [e1]; exact h.2.2.2.2.2.2.2.2.1) (by rw [e1]; exact h.2.2.2.2.2.2.2.1.2.2.2), fx, fm⟩
  have := h.1
  rw [hx k2 (by omega)]
  exact h.2.2.2.2.1 j hj
theorem rules_eq {I1 : PI} (h : I1 2 = I 2) : x_rules I1 T tN = x_rules I T tN := by
  unfold x_rules
  rw [h]
/-- the draw goes on -/
theorem YK.draw (h : YK s r k2 I I') : YK s (rU r 1 (dr (r 1))) k2 (u2 I k2 1 (nI (dr (r 1)))) (u2 I' 1 9 (nI (dr (r 1)))) ∧ FYx k2 I (u2 I k2 1 (nI (dr (r 1)))) ∧ FYm (s 2 1) I' (u2 I' 1 9 (nI (dr (r 1)))) J' J' := by
  have h0 := h
  obtain ⟨a0, a1, a2, ⟨c0, c1, c2, c3, c4, c5⟩, a4, a5, a7, ⟨b0, b1, b2, b3⟩, a8, a9⟩ := h
  have fx : FYx k2 I (u2 I k2 1 (nI (dr (r 1)))) := fun k j a b => u2_ne _ _ (a.imp id (fun q => by omega))
  have fm : FYm (s 2 1) I' (u2 I' 1 9 (nI (dr (r 1)))) J' J' := ⟨fun k a b c d => u2_row _ _ _ _ b, fun j _ => u2_ne _ _ (Or.inl (by omega)), fun j _ b _ => u2_ne _ _ (Or.inr b), fun _ _ => rfl⟩
  refine ⟨h0.new (J' := J') (J1' := J') ⟨by rw [rU_no _ _ (by omega)]; exact c0, by rw [rU_at]; exact dr_lt _, by rw [rU_no _ _ (by omega)]; exact c2, fun p hp => by rw [rU_no _ _ (by omega), rU_no _ _ (by omega), rU_no _ _ (by omega)]; exact c3 p hp, fun p hp hp2 => by rw [rU_no _ _ (by omega), rU_no _ _ (by omega), rU_no _ _ (by omega)]; exact c4 p hp hp2, fun i hi => ?_⟩ (fun j hj => ?_) fx fm ?_ ?_ (fun p hp => ?_), fx, fm⟩
  · rw [rU_no _ _ (by omega)] at hi
    rw [rU_no _ _ (by omega), rU_no _ _ (by omega), rU_no _ _ (by omega), rU_no _ _ (by omega)]
    exact c5 i hi
  · by_cases c : j = 1
    · subst c
      rw [u2_eq, rU_at]
    · rw [u2_ne _ _ (Or.inr c), rU_no _ _ c]
      exact a4 j hj
  · rw [u2_ne _ _ (Or.inr (by omega)), rU_no _ _ (by omega)]
    exact b2
  · rw [u2_eq, rU_at]
  · rw [u2_ne _ _ (Or.inr (by omega)), u2_ne _ _ (Or.inr (by omega)), u2_ne _ _ (Or.inr (by omega)), rU_no _ _ (by omega), rU_no _ _ (by omega), rU_no _ _ (by omega)]
    exact b3 p hp
/-- one number of a person -/
theorem YK.put (h : YK s r k2 I I') {p w v : Nat} (hp : p < s 2 1) (hw : w < 3) (h0 : w = 0 → v ≤ 99) (h1 : w = 1 → v < 2 ^ s 2 0) (h2 : w = 2 → v ≤ 99) : YK s (rU r (2 + 6 * w + p) v) k2 (u2 I k2 (2 + 6 * w + p) (nI v)) (u2 I' 1 (11 + 5 * p + w) (nI v)) ∧ FYx k2 I (u2 I k2 (2 + 6 * w + p) (nI v)) ∧ FYm (s 2 1) I' (u2 I' 1 (11 + 5 * p + w) (nI v)) J' J' := by
  have hh := h
  obtain ⟨a0, a1, a2, ⟨c0, c1, c2, c3, c4, c5⟩, a4, a5, a7, ⟨b0, b1, b2, b3⟩, a8, a9⟩ := h
  have fx : FYx k2 I (u2 I k2 (2 + 6 * w + p) (nI v)) := fun k j a b => u2_ne _ _ (a.imp id (fun q => by omega))
  have fm : FYm (s 2 1) I' (u2 I' 1 (11 + 5 * p + w) (nI v)) J' J' := ⟨fun k a b c d => u2_row _ _ _ _ b, fun j _ => u2_ne _ _ (Or.inl (by omega)), fun j _ _ c => u2_ne _ _ (Or.inr (by have := c p hp; omega)), fun _ _ => rfl⟩
  have hc : w = 0 ∨ w = 1 ∨ w = 2 := by omega
  refine ⟨hh.new (J' := J') (J1' := J') ⟨by rw [rU_no _ _ (by omega)]; exact c0, by rw [rU_no _ _ (by omega)]; exact c1, by rw [rU_no _ _ (by omega)]; exact c2, fun q hq => ?_, fun q hq hq2 => by rw [rU_no _ _ (by omega), rU_no _ _ (by omega), rU_no _ _ (by omega)]; exact c4 q hq hq2, fun i hi => ?_⟩ (fun j hj => ?_) fx fm ?_ ?_ (fun q hq => ?_), fx, fm⟩
  · obtain ⟨x0, x1, x2⟩ := c3 q hq
    by_cases e : q = p
    · subst e
      rcases hc with z | z | z <;> subst z
      · exact ⟨by rw [show 2 + q = 2 + 6 * 0 + q by omega, rU_at]; exact h0 rfl, by rw [rU_no _ _ (by omega)]; exact x1, by rw [rU_no _ _ (by omega)]; exact x2⟩
      · exact ⟨by rw [rU_no _ _ (by omega)]; exact x0, by rw [show 8 + q = 2 + 6 * 1 + q by omega, rU_at]; exact h1 rfl, by rw [rU_no _ _ (by omega)]; exact x2⟩
      · exact ⟨by rw [rU_no _ _ (by omega)]; exact x0, by rw [rU_no _ _ (by omega)]; exact x1, by rw [show 14 + q = 2 + 6 * 2 + q by omega, rU_at]; exact h2 rfl⟩
    · rw [rU_no _ _ (by omega), rU_no _ _ (by omega), rU_no _ _ (by omega)]
      exact ⟨x0, x1, x2⟩
  · rw [rU_no _ _ (by omega)] at hi
    rw [rU_no _ _ (by omega), rU_no _ _ (by omega), rU_no _ _ (by omega), rU_no _ _ (by omega)]
    exact c5 i hi
  · by_cases c : j = 2 + 6 * w + p
    · rw [c, u2_eq, rU_at]
    · rw [u2_ne _ _ (Or.inr c), rU_no _ _ c]
      exact a4 j hj
  · rw [u2_ne _ _ (Or.inr (by omega)), rU_no _ _ (by omega)]
    exact b2
  · rw [u2_ne _ _ (Or.inr (by omega)), rU_no _ _ (by omega)]
    exact a8
  · obtain ⟨x0, x1, x2⟩ := b3 q hq
    by_cases e : q = p
    · subst e
      rcases hc with z | z | z <;> subst z
      · exact ⟨by rw [u2_eq, show 2 + q = 2 + 6 * 0 + q by omega, rU_at], by rw [u2_ne _ _ (Or.inr (by omega)), rU_no _ _ (by omega)]; exact x1, by rw [u2_ne _ _ (Or.inr (by omega)), rU_no _ _ (by omega)]; exact x2⟩
      · exact ⟨by rw [u2_ne _ _ (Or.inr (by omega)), rU_no _ _ (by omega)]; exact x0, by rw [u2_eq, show 8 + q = 2 + 6 * 1 + q by omega, rU_at], by rw [u2_ne _ _ (Or.inr (by omega)), rU_no _ _ (by omega)]; exact x2⟩
      · exact ⟨by rw [u2_ne _ _ (Or.inr (by omega)), rU_no _ _ (by omega)]; exact x0, by rw [u2_ne _ _ (Or.inr (by omega)), rU_no _ _ (by omega)]; exact x1, by rw [u2_eq, show 14 + q = 2 + 6 * 2 + q by omega, rU_at]⟩
    · rw [u2_ne _ _ (Or.inr (by omega)), u2_ne _ _ (Or.inr (by omega)), u2_ne _ _ (Or.inr (by omega)), rU_no _ _ (by omega), rU_no _ _ (by omega), rU_no _ _ (by omega)]
      exact ⟨x0, x1, x2⟩
/-- a year more -/
theorem YK.year (h : YK s r k2 I I') (h0 : r 0 < 9999) : YK s (rU r 0 (r 0 + 1)) k2 (u2 I k2 0 (nI (r 0 + 1))) (u2 I' 1 8 (nI (r 0 + 1))) ∧ FYx k2 I (u2 I k2 0 (nI (r 0 + 1))) ∧ FYm (s 2 1) I' (u2 I' 1 8 (nI (r 0 + 1))) J' J' := by
  have hh := h
  obtain ⟨a0, a1, a2, ⟨c0, c1, c2, c3, c4, c5⟩, a4, a5, a7, ⟨b0, b1, b2, b3⟩, a8, a9⟩ := h
  have fx : FYx k2 I (u2 I k2 0 (nI (r 0 + 1))) := fun k j a b => u2_ne _ _ (a.imp id (fun q => by omega))
  have fm : FYm (s 2 1) I' (u2 I' 1 8 (nI (r 0 + 1))) J' J' := ⟨fun k a b c d => u2_row _ _ _ _ b, fun j _ => u2_ne _ _ (Or.inl (by omega)), fun j a _ _ => u2_ne _ _ (Or.inr a), fun _ _ => rfl⟩
  refine ⟨hh.new (J' := J') (J1' := J') ⟨by rw [rU_at]; omega, by rw [rU_no _ _ (by omega)]; exact c1, by rw [rU_no _ _ (by omega)]; exact c2, fun p hp => by rw [rU_no _ _ (by omega), rU_no _ _ (by omega), rU_no _ _ (by omega)]; exact c3 p hp, fun p hp hp2 => by rw [rU_no _ _ (by omega), rU_no _ _ (by omega), rU_no _ _ (by omega)]; exact c4 p hp hp2, fun i hi => ?_⟩ (fun j hj => ?_) fx fm ?_ ?_ (fun p hp => ?_), fx, fm⟩
  · rw [rU_no _ _ (by omega)] at hi
    rw [rU_no _ _ (by omega), rU_no _ _ (by omega), rU_no _ _ (by omega), rU_no _ _ (by omega)]
    exact c5 i hi
  · by_cases c : j = 0
    · subst c
      rw [u2_eq, rU_at]
    · rw [u2_ne _ _ (Or.inr c), rU_no _ _ c]
      exact a4 j hj
  · rw [u2_eq, rU_at]
  · rw [u2_ne _ _ (Or.inr (by omega)), rU_no _ _ (by omega)]
    exact a8
  · rw [u2_ne _ _ (Or.inr (by omega)), u2_ne _ _ (Or.inr (by omega)), u2_ne _ _ (Or.inr (by omega)), rU_no _ _ (by omega), rU_no _ _ (by omega), rU_no _ _ (by omega)]
    exact b3 p hp
end YR

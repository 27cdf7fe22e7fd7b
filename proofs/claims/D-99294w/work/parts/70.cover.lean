/-! covers: what shuts out all that is open, at the least weight (plain) -/
def cvW (w : Nat → Nat) : List Nat → Nat
  | [] => 0
  | k :: S => w k + cvW w S
def cvC (out : Nat → Nat → Bool) (U : Nat → Bool) (S : List Nat) : Prop := ∀ i, i < 120 → U i = true → ∃ k, k ∈ S ∧ out k i = true
def cvL (out : Nat → Nat → Bool) (U : Nat → Bool) (k : Nat) : Nat → Bool := fun i => U i && !out k i
def cvN (n : Nat) (S : List Nat) : Prop := ∀ k, k ∈ S → k < n
section CV
variable {out : Nat → Nat → Bool} {U : Nat → Bool} {w : Nat → Nat} {n c b b' k i0 : Nat}
theorem cvW_erase {k : Nat} : ∀ {S : List Nat}, k ∈ S → cvW w S = w k + cvW w (S.erase k)
  | a :: S, h => by
    by_cases e : a = k
    · subst e
      rw [List.erase_cons_head]
      rfl
    · rw [List.erase_cons_tail (by simpa using e)]
      have h2 : k ∈ S := by
        rcases List.mem_cons.mp h with q | q
        · exact absurd q.symm e
        · exact q
      show w a + cvW w S = w k + (w a + cvW w (S.erase k))
      rw [cvW_erase h2]
      omega
theorem cvC_erase {S : List Nat} (h : cvC out U S) : cvC out (cvL out U k) (S.erase k) := by
  intro i hi hu
  unfold cvL at hu
  rw [Bool.and_eq_true] at hu
  obtain ⟨j, hj, ho⟩ := h i hi hu.1
  have hne : j ≠ k := by
    intro e
    subst e
    rw [ho] at hu
    exact absurd hu.2 (by decide)
  exact ⟨j, (List.mem_erase_of_ne hne).mpr hj, ho⟩
theorem cvC_cons {S : List Nat} (h : cvC out (cvL out U k) S) : cvC out U (k :: S) := by
  intro i hi hu
  by_cases ho : out k i = true
  · exact ⟨k, List.mem_cons_self, ho⟩
  · obtain ⟨j, hj, h2⟩ := h i hi (by unfold cvL; rw [hu]; simpa using ho)
    exact ⟨j, List.mem_cons_of_mem _ hj, h2⟩
theorem cvN_erase {S : List Nat} (h : cvN n S) : cvN n (S.erase k) := fun j hj => h j (List.mem_of_mem_erase hj)
/-- what a search that goes by the lowest open place answers: b before, b' behind it -/
def cvR (n : Nat) (out : Nat → Nat → Bool) (w : Nat → Nat) (U : Nat → Bool) (c b b' : Nat) : Prop := b' ≤ b ∧ (b' < b → ∃ S, cvN n S ∧ cvC out U S ∧ b' = c + cvW w S) ∧ ∀ S, cvN n S → cvC out U S → b' ≤ c + cvW w S
theorem cvR_cut (h : b ≤ c) : cvR n out w U c b b := ⟨Nat.le_refl _, fun q => absurd q (Nat.lt_irrefl _), fun S _ _ => by omega⟩
theorem cvR_end (h : c < b) (hU : ∀ i, i < 120 → U i = false) : cvR n out w U c b c := ⟨Nat.le_of_lt h, fun _ => ⟨[], (fun k hk => by cases hk), (fun i hi hu => by rw [hU i hi] at hu; cases hu), rfl⟩, fun S _ _ => by omega⟩
def cvP (n : Nat) (out : Nat → Nat → Bool) (w : Nat → Nat) (U : Nat → Bool) (c b i0 k bk : Nat) : Prop := bk ≤ b ∧ (bk < b → ∃ S, cvN n S ∧ cvC out U S ∧ bk = c + cvW w S) ∧ ∀ S, cvN n S → cvC out U S → (∃ j, j ∈ S ∧ j < k ∧ out j i0 = true) → bk ≤ c + cvW w S
theorem cvP_0 : cvP n out w U c b i0 0 b := ⟨Nat.le_refl _, fun q => absurd q (Nat.lt_irrefl _), fun S _ _ h => by obtain ⟨j, _, h2, _⟩ := h; omega⟩
theorem cvP_no {bk : Nat} (h : cvP n out w U c b i0 k bk) (ho : out k i0 = false) : cvP n out w U c b i0 (k + 1) bk := by
  refine ⟨h.1, h.2.1, fun S h1 h2 h3 => h.2.2 S h1 h2 ?_⟩
  obtain ⟨j, q1, q2, q3⟩ := h3
  refine ⟨j, q1, ?_, q3⟩
  rcases Nat.lt_succ_iff_lt_or_eq.mp q2 with z | z
  · exact z
  · subst z
    rw [ho] at q3
    cases q3
theorem cvP_yes {bk : Nat} (h : cvP n out w U c b i0 k bk) (hk : k < n) (ho : out k i0 = true) (hR : cvR n out w (cvL out U k) (c + w k) bk b') : cvP n out w U c b i0 (k + 1) b' := by
  refine ⟨Nat.le_trans hR.1 h.1, fun hb => ?_, fun S h1 h2 h3 => ?_⟩
  · rcases Nat.lt_or_ge b' bk with z | z
    · obtain ⟨S, q1, q2, q3⟩ := hR.2.1 z
      refine ⟨k :: S, fun j hj => ?_, cvC_cons q2, by rw [q3]; show c + w k + cvW w S = c + (w k + cvW w S); omega⟩
      rcases List.mem_cons.mp hj with e | e
      · subst e; exact hk
      · exact q1 j e
    · have e : b' = bk := Nat.le_antisymm hR.1 z
      rw [e]
      exact h.2.1 (by omega)
  · by_cases hm : k ∈ S
    · have := hR.2.2 (S.erase k) (cvN_erase h1) (cvC_erase h2)
      rw [cvW_erase hm]
      omega
    · obtain ⟨j, q1, q2, q3⟩ := h3
      have hj : j < k := by
        rcases Nat.lt_succ_iff_lt_or_eq.mp q2 with z | z
        · exact z
        · subst z; exact absurd q1 hm
      exact Nat.le_trans hR.1 (h.2.2 S h1 h2 ⟨j, q1, hj, q3⟩)
theorem cvP_end {bk : Nat} (h : cvP n out w U c b i0 n bk) (hi : i0 < 120) (hu : U i0 = true) : cvR n out w U c b bk := by
  refine ⟨h.1, h.2.1, fun S h1 h2 => h.2.2 S h1 h2 ?_⟩
  obtain ⟨j, q1, q2⟩ := h2 i0 hi hu
  exact ⟨j, q1, h1 j q1, q2⟩
/-- lists that go up, of what is there -/
def inc (av : Nat → Bool) (n : Nat) : Nat → List Nat → Prop
  | _, [] => True
  | j, k :: S => j ≤ k ∧ k < n ∧ av k = true ∧ inc av n (k + 1) S
variable {av : Nat → Bool} {j b1 : Nat}
theorem inc_mono : ∀ {S : List Nat} {j j' : Nat}, j ≤ j' → inc av n j' S → inc av n j S
  | [], _, _, _, _ => trivial
  | _ :: _, _, _, h, q => ⟨Nat.le_trans h q.1, q.2⟩
/-- what the search by lists that go up answers -/
def cvM (n : Nat) (av : Nat → Bool) (out : Nat → Nat → Bool) (w : Nat → Nat) (j : Nat) (U : Nat → Bool) (c b b' : Nat) : Prop := b' ≤ b ∧ (b' < b → ∃ S, S ≠ [] ∧ inc av n j S ∧ cvC out U S ∧ b' = c + cvW w S) ∧ ∀ S, S ≠ [] → inc av n j S → cvC out U S → b' ≤ c + cvW w S
theorem cvM_none (h : ∀ k, j ≤ k → k < n → av k = true → b ≤ c + w k) : cvM n av out w j U c b b := by
  refine ⟨Nat.le_refl _, fun q => absurd q (Nat.lt_irrefl _), fun S h1 h2 _ => ?_⟩
  cases S with
  | nil => exact absurd rfl h1
  | cons k S =>
    have := h k h2.1 h2.2.1 h2.2.2.1
    show b ≤ c + (w k + cvW w S)
    omega
theorem cvM_hit (hs : ∀ k', j ≤ k' → k' < k → av k' = true → b ≤ c + w k') (hjk : j ≤ k) (hk : k < n) (ha : av k = true) (hb : c + w k < b) (hU : ∀ i, i < 120 → cvL out U k i = false) (h : cvM n av out w (k + 1) U c (c + w k) b') : cvM n av out w j U c b b' := by
  refine ⟨by have := h.1; omega, fun q => ?_, fun S h1 h2 h3 => ?_⟩
  · rcases Nat.lt_or_ge b' (c + w k) with z | z
    · obtain ⟨S, q1, q2, q3, q4⟩ := h.2.1 z
      exact ⟨S, q1, inc_mono (by omega) q2, q3, q4⟩
    · have e : b' = c + w k := Nat.le_antisymm h.1 z
      refine ⟨[k], by simp, ⟨hjk, hk, ha, trivial⟩, cvC_cons (fun i hi hu => ?_), by rw [e]; show c + w k = c + (w k + 0); omega⟩
      rw [hU i hi] at hu
      cases hu
  · cases S with
    | nil => exact absurd rfl h1
    | cons k0 S =>
      show b' ≤ c + (w k0 + cvW w S)
      have h0 := h.1
      rcases Nat.lt_trichotomy k0 k with z | z | z
      · have := hs k0 h2.1 z h2.2.2.1
        omega
      · subst z
        omega
      · exact h.2.2 (k0 :: S) h1 ⟨z, h2.2⟩ h3
theorem cvM_push (hs : ∀ k', j ≤ k' → k' < k → av k' = true → b ≤ c + w k') (hjk : j ≤ k) (hk : k < n) (ha : av k = true) (hU : ∃ i, i < 120 ∧ cvL out U k i = true) (hi : cvM n av out w (k + 1) (cvL out U k) (c + w k) b b1) (h : cvM n av out w (k + 1) U c b1 b') : cvM n av out w j U c b b' := by
  refine ⟨Nat.le_trans h.1 hi.1, fun q => ?_, fun S h1 h2 h3 => ?_⟩
  · rcases Nat.lt_or_ge b' b1 with z | z
    · obtain ⟨S, q1, q2, q3, q4⟩ := h.2.1 z
      exact ⟨S, q1, inc_mono (by omega) q2, q3, q4⟩
    · have e : b' = b1 := Nat.le_antisymm h.1 z
      obtain ⟨S, q1, q2, q3, q4⟩ := hi.2.1 (by omega)
      exact ⟨k :: S, by simp, ⟨hjk, hk, ha, q2⟩, cvC_cons q3, by rw [e, q4]; show c + w k + cvW w S = c + (w k + cvW w S); omega⟩
  · cases S with
    | nil => exact absurd rfl h1
    | cons k0 S =>
      show b' ≤ c + (w k0 + cvW w S)
      have h0 := h.1
      have h9 := hi.1
      rcases Nat.lt_trichotomy k0 k with z | z | z
      · have := hs k0 h2.1 z h2.2.2.1
        omega
      · subst z
        have hc : cvC out (cvL out U k0) S := by
          intro i hi' hu
          have hu2 := hu
          unfold cvL at hu
          rw [Bool.and_eq_true] at hu
          obtain ⟨j', q1, q2⟩ := h3 i hi' hu.1
          rcases List.mem_cons.mp q1 with e | e
          · subst e
            rw [q2] at hu
            exact absurd hu.2 (by decide)
          · exact ⟨j', e, q2⟩
        have hne : S ≠ [] := by
          intro e
          subst e
          obtain ⟨i, q1, q2⟩ := hU
          obtain ⟨j', q3, _⟩ := hc i q1 q2
          cases q3
        have := hi.2.2 S hne h2.2.2.2 hc
        omega
      · exact h.2.2 (k0 :: S) h1 ⟨z, h2.2⟩ h3
end CV
/-! covers: two searches over like sets -/
theorem cvW_lin (K : Nat) (c : Nat → Nat) : ∀ S : List Nat, cvW (fun k => K * c k + 1) S = K * cvW c S + S.length
  | [] => by simp [cvW]
  | k :: S => by
    show K * c k + 1 + cvW (fun k => K * c k + 1) S = K * (c k + cvW c S) + (S.length + 1)
    rw [cvW_lin K c S, Nat.mul_add]
    omega
theorem cvW_map (c c2 : Nat → Nat) (g : Nat → Nat) : ∀ S : List Nat, (∀ k, k ∈ S → c2 (g k) = c k) → cvW c2 (S.map g) = cvW c S
  | [], _ => rfl
  | k :: S, h => by
    show c2 (g k) + cvW c2 (S.map g) = c k + cvW c S
    rw [h k List.mem_cons_self, cvW_map c c2 g S (fun j hj => h j (List.mem_cons_of_mem _ hj))]
theorem cvW_sub (w : Nat → Nat) : ∀ (T S : List Nat), T.Nodup → (∀ k, k ∈ T → k ∈ S) → cvW w T ≤ cvW w S
  | [], _, _, _ => Nat.zero_le _
  | k :: T, S, hn, h => by
    obtain ⟨h1, h2⟩ := List.nodup_cons.mp hn
    have hk := h k List.mem_cons_self
    have ih := cvW_sub w T (S.erase k) h2 (fun j hj => by
      have hne : j ≠ k := by
        intro e
        subst e
        exact h1 hj
      exact (List.mem_erase_of_ne hne).mpr (h j (List.mem_cons_of_mem _ hj)))
    rw [cvW_erase hk]
    show w k + cvW w T ≤ w k + cvW w (S.erase k)
    omega
theorem inc_lt {av : Nat → Bool} {n : Nat} : ∀ {S : List Nat} {j : Nat}, inc av n j S → ∀ k, k ∈ S → j ≤ k ∧ k < n ∧ av k = true
  | k :: S, j, h, x, hx => by
    rcases List.mem_cons.mp hx with e | e
    · subst e
      exact ⟨h.1, h.2.1, h.2.2.1⟩
    · have := inc_lt h.2.2.2 x e
      exact ⟨by have := h.1; omega, this.2⟩
theorem inc_len {av : Nat → Bool} {n : Nat} : ∀ {S : List Nat} {j : Nat}, inc av n j S → j ≤ n → S.length + j ≤ n
  | [], _, _, h => by simpa using h
  | k :: S, j, h, hj => by
    have h1 := inc_len h.2.2.2 (by have := h.2.1; omega)
    have h2 := h.1
    show S.length + 1 + j ≤ n
    omega
theorem inc_filter {av : Nat → Bool} {n : Nat} (p : Nat → Bool) (hp : ∀ k, k < n → p k = true → av k = true) : ∀ (m j : Nat), j + m = n → inc av n j ((List.range' j m).filter p)
  | 0, j, _ => trivial
  | m + 1, j, h => by
    rw [List.range'_succ]
    have ih := inc_filter p hp m (j + 1) (by omega)
    by_cases e : p j = true
    · rw [List.filter_cons_of_pos e]
      exact ⟨Nat.le_refl _, by omega, hp j (by omega) e, ih⟩
    · rw [List.filter_cons_of_neg e]
      exact inc_mono (by omega) ih
theorem inc_nodup {av : Nat → Bool} {n : Nat} : ∀ {S : List Nat} {j : Nat}, inc av n j S → S.Nodup
  | [], _, _ => List.nodup_nil
  | k :: S, j, h => List.nodup_cons.mpr ⟨fun q => by have := (inc_lt h.2.2.2 k q).1; omega, inc_nodup h.2.2.2⟩
/-- both find the same: the least length, and by it the least number -/
theorem cv_same {n : Nat} {outx outm : Nat → Nat → Bool} {cx cm : Nat → Nat} {av : Nat → Bool} {U V : Nat → Bool} {K bx bm b0 B0 : Nat} (hK : 100 ≤ K) (hn : n ≤ 99)
    (hx : cvR n outx (fun k => 100 * cx k + 1) U 0 b0 bx) (hm : cvM 20 av outm (fun k => K * cm k + 1) 0 V 0 B0 bm)
    (g h : Nat → Nat) (hg : ∀ k, k < n → g k < 20 ∧ av (g k) = true ∧ cm (g k) = cx k) (hh : ∀ k, k < 20 → av k = true → h k < n ∧ cx (h k) = cm k)
    (hgc : ∀ S, cvN n S → cvC outx U S → cvC outm V (S.map g)) (hhc : ∀ S, (∀ k, k ∈ S → k < 20 ∧ av k = true) → cvC outm V S → cvC outx U (S.map h))
    (hV : ∃ i, i < 120 ∧ V i = true) (S0 : List Nat) (hS0 : inc av 20 0 S0) (hC0 : cvC outm V S0) (hb0 : 100 * cvW cm S0 + S0.length < b0) (hB0 : K * cvW cm S0 + S0.length < B0) :
    ∃ L M, M ≤ 20 ∧ 1 ≤ M ∧ bx = 100 * L + M ∧ bm = K * L + M := by
  have hne : ∀ S, cvC outm V S → S ≠ [] := by
    intro S hS e
    subst e
    obtain ⟨i, q1, q2⟩ := hV
    obtain ⟨k, q3, _⟩ := hS i q1 q2
    cases q3
  have l0 := inc_lt hS0
  have hS0x : bx ≤ 0 + cvW (fun k => 100 * cx k + 1) (S0.map h) := hx.2.2 (S0.map h) (fun k hk => by
    obtain ⟨j, hj, rfl⟩ := List.mem_map.mp hk
    exact (hh j (l0 j hj).2.1 (l0 j hj).2.2).1) (hhc S0 (fun k hk => (l0 k hk).2) hC0)
  rw [cvW_lin, List.length_map, cvW_map cm cx h S0 (fun k hk => (hh k (l0 k hk).2.1 (l0 k hk).2.2).2)] at hS0x
  have hS0m := hm.2.2 S0 (hne S0 hC0) hS0 hC0
  rw [cvW_lin] at hS0m
  obtain ⟨Sx, x1, x2, x3⟩ := hx.2.1 (by omega)
  obtain ⟨Sm, m1, m2, m3, m4⟩ := hm.2.1 (by omega)
  rw [cvW_lin] at m4
  have lm := inc_lt m2
  -- without what comes twice
  obtain ⟨Sx, x1, x2, x3, x4⟩ : ∃ S, cvN n S ∧ cvC outx U S ∧ bx = 0 + cvW (fun k => 100 * cx k + 1) S ∧ S.length ≤ n := by
    have hi : inc (fun _ => true) n 0 ((List.range' 0 n).filter fun k => decide (k ∈ Sx)) := inc_filter _ (fun _ _ _ => rfl) n 0 (by omega)
    have hN : cvN n ((List.range' 0 n).filter fun k => decide (k ∈ Sx)) := fun k hk => (inc_lt hi k hk).2.1
    have hC : cvC outx U ((List.range' 0 n).filter fun k => decide (k ∈ Sx)) := fun i hi hu => by
      obtain ⟨k, q3, q4⟩ := x2 i hi hu
      exact ⟨k, List.mem_filter.mpr ⟨List.mem_range'_1.mpr ⟨Nat.zero_le _, by have := x1 k q3; omega⟩, decide_eq_true q3⟩, q4⟩
    have q1 := hx.2.2 _ hN hC
    have q2 := cvW_sub (fun k => 100 * cx k + 1) ((List.range' 0 n).filter fun k => decide (k ∈ Sx)) Sx (inc_nodup hi) (fun k hk => of_decide_eq_true (List.mem_filter.mp hk).2)
    exact ⟨_, hN, hC, by omega, by have := inc_len hi (Nat.zero_le _); omega⟩
  rw [cvW_lin] at x3
  -- the class's is no more than what the reference's gives
  have e1 := hx.2.2 (Sm.map h) (fun k hk => by
    obtain ⟨j, hj, rfl⟩ := List.mem_map.mp hk
    exact (hh j (lm j hj).2.1 (lm j hj).2.2).1) (hhc Sm (fun k hk => (lm k hk).2) m3)
  rw [cvW_lin, List.length_map, cvW_map cm cx h Sm (fun k hk => (hh k (lm k hk).2.1 (lm k hk).2.2).2)] at e1
  -- the other way: without what comes twice
  have hgS := hgc Sx x1 x2
  have e2 := hm.2.2 ((List.range' 0 20).filter fun k => decide (k ∈ Sx.map g)) (by
      obtain ⟨i, q1, q2⟩ := hV
      obtain ⟨k, q3, _⟩ := hgS i q1 q2
      intro e
      have hk : k ∈ (List.range' 0 20).filter fun k => decide (k ∈ Sx.map g) := List.mem_filter.mpr ⟨by
        obtain ⟨j, hj, rfl⟩ := List.mem_map.mp q3
        exact List.mem_range'_1.mpr ⟨Nat.zero_le _, by have := (hg j (x1 j hj)).1; omega⟩, decide_eq_true q3⟩
      rw [e] at hk
      cases hk) (inc_filter _ (fun k _ hk => by
      obtain ⟨j, hj, rfl⟩ := List.mem_map.mp (of_decide_eq_true hk)
      exact (hg j (x1 j hj)).2.1) 20 0 rfl) (fun i hi hu => by
      obtain ⟨k, q3, q4⟩ := hgS i hi hu
      exact ⟨k, List.mem_filter.mpr ⟨by
        obtain ⟨j, hj, rfl⟩ := List.mem_map.mp q3
        exact List.mem_range'_1.mpr ⟨Nat.zero_le _, by have := (hg j (x1 j hj)).1; omega⟩, decide_eq_true q3⟩, q4⟩)
  have e3 := cvW_sub (fun k => K * cm k + 1) ((List.range' 0 20).filter fun k => decide (k ∈ Sx.map g)) (Sx.map g) (inc_nodup (inc_filter (av := fun _ => true) (n := 20) _ (fun _ _ _ => rfl) 20 0 rfl)) (fun k hk => of_decide_eq_true (List.mem_filter.mp hk).2)
  rw [cvW_lin K cm (Sx.map g), List.length_map, cvW_map cx cm g Sx (fun k hk => (hg k (x1 k hk)).2.2)] at e3
  have e4 := inc_len m2 (Nat.zero_le _)
  have e5 : 1 ≤ Sm.length := by
    cases Sm with
    | nil => exact absurd rfl m1
    | cons k S => exact Nat.succ_le_succ (Nat.zero_le _)
  generalize cvW cm Sm = Lm at *
  generalize cvW cx Sx = Lx at *
  generalize Sm.length = Mm at *
  generalize Sx.length = Mx at *
  have f1 : K * Lm + Mm ≤ K * Lx + Mx := by omega
  have f2 : 100 * Lx + Mx ≤ 100 * Lm + Mm := by omega
  have f3 : Lx = Lm := by
    rcases Nat.lt_trichotomy Lx Lm with z | z | z
    · exfalso
      have g1 : K * (Lx + 1) ≤ K * Lm := Nat.mul_le_mul_left K z
      rw [Nat.mul_add] at g1
      omega
    · exact z
    · omega
  subst f3
  refine ⟨Lx, Mm, by omega, e5, by omega, by omega⟩

/-! the reference's pile and items -/
def rk (x : Nat) : Nat := if 40 ≤ x then 0 else if x = 22 then 1 else if x = 21 then 2 else if x = 20 then 3 else if 10 ≤ x then 4 else if 8 ≤ x then 6 else if 6 ≤ x then 5 else 7
theorem m_rk : ∀ x, x < 44 → m_rank (nI x) = some (nI (rk x)) := by decide +kernel
theorem rk_le (x : Nat) : rk x ≤ 7 := by
  unfold rk
  repeat' split
  all_goals omega
/-- what waits and was counted as it opened -/
def cn (x : Nat) : Nat := if 40 ≤ x ∨ x = 20 ∨ x < 6 then 1 else 0
theorem cn_rk : ∀ x, x < 44 → (rk x = 7 ↔ x < 6) := by decide +kernel
def cnt : List Nat → Nat
  | [] => 0
  | x :: P => cn x + cnt P
def PlM (r : Nat → Int32) : List Nat → Prop
  | [] => True
  | x :: P => r P.length = nI x ∧ x < 44 ∧ PlM r P
def ItM (r : Nat → Int32) (B : Nat) (C : List (Nat × Nat)) : Prop := ∀ i p, C[i]? = some p → r (B + 2 * i) = nI p.1 ∧ r (B + 2 * i + 1) = nI p.2
theorem PlM.of {r r1 : Nat → Int32} : ∀ {P : List Nat}, PlM r P → (∀ j, j < P.length → r1 j = r j) → PlM r1 P
  | [], _, _ => trivial
  | _ :: P, h, e => ⟨(e P.length (by simp)).trans h.1, h.2.1, h.2.2.of fun j hj => e j (by rw [List.length_cons]; omega)⟩
theorem ItM.of {r r1 : Nat → Int32} {B : Nat} {C : List (Nat × Nat)} (h : ItM r B C) (e : ∀ j, B ≤ j → j < B + 2 * C.length → r1 j = r j) : ItM r1 B C := by
  intro i p hp
  obtain ⟨hi, -⟩ := List.getElem?_eq_some_iff.mp hp
  obtain ⟨h1, h2⟩ := h i p hp
  exact ⟨(e _ (by omega) (by omega)).trans h1, (e _ (by omega) (by omega)).trans h2⟩
theorem ItM.app {r : Nat → Int32} {B : Nat} {C : List (Nat × Nat)} {o v : Nat} (h : ItM r B C) (h1 : r (B + 2 * C.length) = nI o) (h2 : r (B + 2 * C.length + 1) = nI v) : ItM r B (C ++ [(o, v)]) := by
  intro i p hp
  obtain ⟨hi, hv⟩ := List.getElem?_eq_some_iff.mp hp
  rw [List.length_append, List.length_singleton] at hi
  by_cases c : i < C.length
  · rw [List.getElem?_append_left c] at hp
    exact h i p hp
  · have e : i = C.length := by omega
    subst e
    rw [List.getElem?_append_right (Nat.le_refl _), Nat.sub_self] at hp
    cases hp
    exact ⟨h1, h2⟩
/-- the reference under way in a sum: its base, what waits, its items, whether one is whole -/
def MG (t kc : Nat) (I0 : PI) (J0 : PJ) (P : List Nat) (C : List (Nat × Nat)) (w : Nat) (I : PI) (J : PJ) : Prop :=
  (I 0 17 = nI (705 * t) ∧ I 0 18 = nI C.length ∧ I 0 19 = nI kc ∧ I 0 21 = nI P.length ∧ I 0 22 = nI (cnt P) ∧ I 0 23 = nI w) ∧ PlM (I 10) P ∧ ItM (I 3) (705 * t + 97) C ∧
  ((∀ k, k ≠ 0 → k ≠ 3 → k ≠ 10 → I k = I0 k) ∧ (∀ j, [12, 13, 14, 15, 18, 21, 22, 23].contains j = false → I 0 j = I0 0 j) ∧ (∀ j, j < 705 * t + 97 ∨ 705 * t + 705 ≤ j → I 3 j = I0 3 j)) ∧ JOff J0 J
def MC (b : Nat → Nat) (n t kc : Nat) (I0 : PI) (J0 : PJ) (k : Nat) (P : List Nat) (C : List (Nat × Nat)) (w : Nat) (I : PI) (J : PJ) : Prop := MT b n k I J ∧ MG t kc I0 J0 P C w I J
section MCS
variable {b : Nat → Nat} {n t kc : Nat} {I0 : PI} {J0 : PJ} {k : Nat} {P : List Nat} {C : List (Nat × Nat)} {w : Nat} {I : PI} {J : PJ}
theorem MC.upd (h : MC b n t kc I0 J0 k P C w I J) {I1 : PI} {P1 : List Nat} {C1 : List (Nat × Nat)} {w1 : Nat} (e0 : ∀ j, [18, 21, 22, 23].contains j = false → I1 0 j = I 0 j) (ek : ∀ k, k ≠ 0 → k ≠ 3 → k ≠ 10 → I1 k = I k) (e18 : I1 0 18 = nI C1.length) (e21 : I1 0 21 = nI P1.length) (e22 : I1 0 22 = nI (cnt P1)) (e23 : I1 0 23 = nI w1) (hP : PlM (I1 10) P1) (hC : ItM (I1 3) (705 * t + 97) C1) (e3 : ∀ j, j < 705 * t + 97 ∨ 705 * t + 705 ≤ j → I1 3 j = I 3 j) : MC b n t kc I0 J0 k P1 C1 w1 I1 J := by
  obtain ⟨h1, ⟨g17, g18, g19, g21, g22, g23⟩, gP, gC, ⟨f1, f2, f3⟩, gJ⟩ := h
  have cx : ∀ j, [12, 13, 14, 15, 18, 21, 22, 23].contains j = false → [18, 21, 22, 23].contains j = false := by
    intro j hj
    simp at hj ⊢
    omega
  refine ⟨h1.off (ek 9 (by decide) (by decide) (by decide)) fun j h9 h16 => e0 j ?_, ⟨(e0 17 (by decide)).trans g17, e18, (e0 19 (by decide)).trans g19, e21, e22, e23⟩, hP, hC, ⟨fun k a1 a2 a3 => (ek k a1 a2 a3).trans (f1 k a1 a2 a3), fun j hj => (e0 j (cx j hj)).trans (f2 j hj), fun j hj => (e3 j hj).trans (f3 j hj)⟩, gJ⟩
  simp
  omega
theorem mc_next (hb : ∀ j, j < n → b j < 256) (h : MC b n t kc I0 J0 k P C w I J) : ∃ I1 J1, m_nextToken I J = some (I1, J1) ∧ MC b n t kc I0 J0 (k + 1) P C w I1 J1 := by
  obtain ⟨h1, ⟨g17, g18, g19, g21, g22, g23⟩, gP, gC, ⟨f1, f2, f3⟩, gJ⟩ := h
  obtain ⟨I1, J1, q1, q2, q3, q4⟩ := mt_next hb h1
  refine ⟨I1, J1, q1, q2, ⟨(q3.2 17 (by decide)).trans g17, (q3.2 18 (by decide)).trans g18, (q3.2 19 (by decide)).trans g19, (q3.2 21 (by decide)).trans g21, (q3.2 22 (by decide)).trans g22, (q3.2 23 (by decide)).trans g23⟩, by rw [q3.1 10 (by decide)]; exact gP, by rw [q3.1 3 (by decide)]; exact gC, ⟨fun k a1 a2 a3 => (q3.1 k a1).trans (f1 k a1 a2 a3), fun j hj => (q3.2 j ?_).trans (f2 j hj), fun j hj => (congrFun (q3.1 3 (by decide)) j).trans (f3 j hj)⟩, gJ.tr q4⟩
  simp at hj ⊢
  omega
/-- an item is written -/
theorem emit_raw {c o v : Nat} (ht : t < 4) (hc : c < 304) (h17 : I 0 17 = nI (705 * t)) (h18 : I 0 18 = nI c) : m_emit I (nI o) (nI v) = some (u2 (u2 (u2 I 3 (705 * t + 97 + 2 * c) (nI o)) 3 (705 * t + 97 + 2 * c + 1) (nI v)) 0 18 (nI (c + 1))) := by
  unfold m_emit
  have e17 : ∀ z : Int32, u2 I 3 (705 * t + 97 + 2 * c) z 0 17 = nI (705 * t) := fun z => (pz_no _ _ (Or.inl (by decide))).trans h17
  have e18 : ∀ z : Int32, u2 I 3 (705 * t + 97 + 2 * c) z 0 18 = nI c := fun z => (pz_no _ _ (Or.inl (by decide))).trans h18
  rw [h17, h18, show (97 : Int32) = nI 97 from rfl, show (2 : Int32) = nI 2 from rfl, show (1 : Int32) = nI 1 from rfl, pz_add, pz_mul, pz_add, pz_inb (by omega) (by omega), pz_ck, pz_lt, pz_ix (by omega), e17, e18, pz_add, pz_mul, pz_add, pz_add, pz_inb (by omega) (by omega), pz_ck, pz_lt, pz_ix (by omega), pz_lt]
  rw [show u2 (u2 I 3 (705 * t + 97 + 2 * c) (nI o)) 3 (705 * t + 97 + 2 * c + 1) (nI v) 0 18 = nI c from (pz_no _ _ (Or.inl (by decide))).trans (e18 _), pz_add]
theorem mc_emit (ht : t < 4) (h : MC b n t kc I0 J0 k P C w I J) (hc : C.length < 304) (o v : Nat) : ∃ I1, m_emit I (nI o) (nI v) = some I1 ∧ MC b n t kc I0 J0 k P (C ++ [(o, v)]) w I1 J := by
  have h' := h
  obtain ⟨h1, ⟨g17, g18, g19, g21, g22, g23⟩, gP, gC, gF, gJ⟩ := h
  refine ⟨_, emit_raw ht hc g17 g18, ?_⟩
  have z : ∀ j, j ≠ 18 → u2 (u2 (u2 I 3 (705 * t + 97 + 2 * C.length) (nI o)) 3 (705 * t + 97 + 2 * C.length + 1) (nI v)) 0 18 (nI (C.length + 1)) 0 j = I 0 j := fun j hj => (pz_no _ _ (Or.inr hj)).trans ((pz_no _ _ (Or.inl (by decide))).trans (pz_no _ _ (Or.inl (by decide))))
  have y : ∀ j, u2 (u2 (u2 I 3 (705 * t + 97 + 2 * C.length) (nI o)) 3 (705 * t + 97 + 2 * C.length + 1) (nI v)) 0 18 (nI (C.length + 1)) 3 j = if j = 705 * t + 97 + 2 * C.length + 1 then nI v else if j = 705 * t + 97 + 2 * C.length then nI o else I 3 j := by
    intro j
    rw [pz_no _ _ (Or.inl (by decide))]
    by_cases c1 : j = 705 * t + 97 + 2 * C.length + 1
    · rw [if_pos c1, pz_at _ _ rfl c1]
    · rw [if_neg c1, pz_no _ _ (Or.inr c1)]
      by_cases c2 : j = 705 * t + 97 + 2 * C.length
      · rw [if_pos c2, pz_at _ _ rfl c2]
      · rw [if_neg c2, pz_no _ _ (Or.inr c2)]
  refine h'.upd (fun j hj => z j (fun q => by rw [q] at hj; exact absurd hj (by decide))) (fun k a1 a2 a3 => (u2_row _ _ _ _ a1).trans ((u2_row _ _ _ _ a2).trans (u2_row _ _ _ _ a2))) ((pz_at _ _ rfl rfl).trans (by rw [List.length_append, List.length_singleton])) ((z 21 (by decide)).trans g21) ((z 22 (by decide)).trans g22) ((z 23 (by decide)).trans g23) (gP.of fun j _ => (pz_no _ _ (Or.inl (by decide))).trans ((pz_no _ _ (Or.inl (by decide))).trans (pz_no _ _ (Or.inl (by decide))))) (ItM.app (gC.of fun j j1 j2 => ?_) ?_ ?_) (fun j hj => ?_)
  · rw [y, if_neg (by omega), if_neg (by omega)]
  · rw [y, if_neg (by omega), if_pos rfl]
  · rw [y, if_pos rfl]
  · rw [y, if_neg (by omega), if_neg (by omega)]
/-- what binds so closely goes to the items -/
def stl (r : Nat) : List Nat → List (Nat × Nat) → List Nat × List (Nat × Nat)
  | [], C => ([], C)
  | x :: P, C => if r ≤ rk x then stl r P (C ++ [(x, 0)]) else (x :: P, C)
theorem mc_settle (ht : t < 4) {r : Nat} (hr : r < 8) (hr1 : 1 ≤ r) : ∀ (P : List Nat) (f : Nat) (C : List (Nat × Nat)) (I : PI), MC b n t kc I0 J0 k P C w I J → C.length + P.length ≤ 304 → P.length < 160 → P.length < f → ∃ I1, m_settle_l0 (nI r) f I = some I1 ∧ MC b n t kc I0 J0 k (stl r P C).1 (stl r P C).2 w I1 J := by
  intro P
  induction P with
  | nil =>
    intro f C I h hl hp hf
    obtain ⟨f, rfl⟩ : ∃ q, f = q + 1 := ⟨f - 1, by simp at hf; omega⟩
    refine ⟨I, ?_, h⟩
    show m_settle_b0 (nI r) (m_settle_l0 (nI r) f) I = _
    unfold m_settle_b0
    rw [h.2.1.2.2.2.1, if_pos (by decide)]
  | cons x P ih =>
    intro f C I h hl hp hf
    obtain ⟨f, rfl⟩ : ∃ q, f = q + 1 := ⟨f - 1, by omega⟩
    rw [List.length_cons] at hl hp hf
    have h' := h
    obtain ⟨h1, ⟨g17, g18, g19, g21, g22, g23⟩, ⟨gx, gx2, gP⟩, gC, gF, gJ⟩ := h
    rw [List.length_cons] at g21
    show ∃ I1, m_settle_b0 (nI r) (m_settle_l0 (nI r) f) I = _ ∧ _
    unfold m_settle_b0
    have hrk := rk_le x
    rw [g21, if_neg (nI_nle (by omega) (by omega)), show (1 : Int32) = nI 1 from rfl, pz_sub (by omega), show P.length + 1 - 1 = P.length by omega, pz_inb (by omega) (by omega), pz_ck, pz_ix (by omega), gx, m_rk x gx2, pz_bs]
    rw [stl]
    by_cases c : r ≤ rk x
    · rw [if_pos c, if_neg (fun q => absurd ((nI_ltI (by omega) (by omega)).mp q) (by omega)), pz_lt]
      have q21 : u2 I 0 21 (nI P.length) 0 21 = nI P.length := pz_at _ _ rfl rfl
      have q10 : u2 I 0 21 (nI P.length) 10 P.length = nI x := (pz_no _ _ (Or.inl (by decide))).trans gx
      rw [q21, pz_inb (by omega) (by omega), pz_ck, pz_ix (by omega), q10, show (0 : Int32) = nI 0 from rfl, emit_raw ht (c := C.length) (by omega) ((pz_no _ _ (Or.inr (by decide))).trans g17) ((pz_no _ _ (Or.inr (by decide))).trans g18), pz_bs]
      have z : ∀ j, j ≠ 18 → j ≠ 21 → u2 (u2 (u2 (u2 I 0 21 (nI P.length)) 3 (705 * t + 97 + 2 * C.length) (nI x)) 3 (705 * t + 97 + 2 * C.length + 1) (nI 0)) 0 18 (nI (C.length + 1)) 0 j = I 0 j := fun j hj hk => (pz_no _ _ (Or.inr hj)).trans ((pz_no _ _ (Or.inl (by decide))).trans ((pz_no _ _ (Or.inl (by decide))).trans (pz_no _ _ (Or.inr hk))))
      have z21 : u2 (u2 (u2 (u2 I 0 21 (nI P.length)) 3 (705 * t + 97 + 2 * C.length) (nI x)) 3 (705 * t + 97 + 2 * C.length + 1) (nI 0)) 0 18 (nI (C.length + 1)) 0 21 = nI P.length := (pz_no _ _ (Or.inr (by decide))).trans ((pz_no _ _ (Or.inl (by decide))).trans ((pz_no _ _ (Or.inl (by decide))).trans (pz_at _ _ rfl rfl)))
      have z18 : u2 (u2 (u2 (u2 I 0 21 (nI P.length)) 3 (705 * t + 97 + 2 * C.length) (nI x)) 3 (705 * t + 97 + 2 * C.length + 1) (nI 0)) 0 18 (nI (C.length + 1)) 0 18 = nI (C.length + 1) := pz_at _ _ rfl rfl
      have zk : ∀ k, k ≠ 0 → k ≠ 3 → u2 (u2 (u2 (u2 I 0 21 (nI P.length)) 3 (705 * t + 97 + 2 * C.length) (nI x)) 3 (705 * t + 97 + 2 * C.length + 1) (nI 0)) 0 18 (nI (C.length + 1)) k = I k := fun k a1 a2 => (u2_row _ _ _ _ a1).trans ((u2_row _ _ _ _ a2).trans ((u2_row _ _ _ _ a2).trans (u2_row _ _ _ _ a1)))
      have y : ∀ j, u2 (u2 (u2 (u2 I 0 21 (nI P.length)) 3 (705 * t + 97 + 2 * C.length) (nI x)) 3 (705 * t + 97 + 2 * C.length + 1) (nI 0)) 0 18 (nI (C.length + 1)) 3 j = if j = 705 * t + 97 + 2 * C.length + 1 then nI 0 else if j = 705 * t + 97 + 2 * C.length then nI x else I 3 j := by
        intro j
        rw [pz_no _ _ (Or.inl (by decide))]
        by_cases c1 : j = 705 * t + 97 + 2 * C.length + 1
        · rw [if_pos c1, pz_at _ _ rfl c1]
        · rw [if_neg c1, pz_no _ _ (Or.inr c1)]
          by_cases c2 : j = 705 * t + 97 + 2 * C.length
          · rw [if_pos c2, pz_at _ _ rfl c2]
          · rw [if_neg c2, pz_no _ _ (Or.inr c2), pz_no _ _ (Or.inl (by decide))]
      generalize u2 (u2 (u2 (u2 I 0 21 (nI P.length)) 3 (705 * t + 97 + 2 * C.length) (nI x)) 3 (705 * t + 97 + 2 * C.length + 1) (nI 0)) 0 18 (nI (C.length + 1)) = I5 at z z21 z18 zk y ⊢
      have go : ∀ I6 : PI, (∀ j, j ≠ 22 → I6 0 j = I5 0 j) → (∀ k, k ≠ 0 → I6 k = I5 k) → I6 0 22 = nI (cnt P) → ∃ I1, m_settle_l0 (nI r) f I6 = some I1 ∧ MC b n t kc I0 J0 k (stl r P (C ++ [(x, 0)])).1 (stl r P (C ++ [(x, 0)])).2 w I1 J := by
        intro I6 a1 a2 a3
        refine ih f _ I6 (h'.upd (fun j hj => ?_) (fun k b1 b2 b3 => (a2 k b1).trans (zk k b1 b2)) ((a1 18 (by decide)).trans (z18.trans (by rw [List.length_append, List.length_singleton]))) ((a1 21 (by decide)).trans z21) a3 ((a1 23 (by decide)).trans ((z 23 (by decide) (by decide)).trans g23)) ?_ (ItM.app (gC.of fun j j1 j2 => ?_) ?_ ?_) (fun j hj => ?_)) (by rw [List.length_append, List.length_singleton]; omega) (by omega) (by omega)
        · have hj' : j ≠ 22 ∧ j ≠ 18 ∧ j ≠ 21 := by
            simp at hj
            omega
          exact (a1 j hj'.1).trans (z j hj'.2.1 hj'.2.2)
        · rw [a2 10 (by decide), zk 10 (by decide) (by decide)]
          exact gP
        · rw [a2 3 (by decide), y, if_neg (by omega), if_neg (by omega)]
        · rw [a2 3 (by decide), y, if_neg (by omega), if_pos rfl]
        · rw [a2 3 (by decide), y, if_pos rfl]
        · rw [a2 3 (by decide), y, if_neg (by omega), if_neg (by omega)]
      have z10 : I5 10 P.length = nI x := (congrFun (zk 10 (by decide) (by decide)) _).trans gx
      rw [z21, pz_inb (by omega) (by omega), pz_ck, pz_ix (by omega), z10, m_rk x gx2, pz_bs, show (7 : Int32) = nI 7 from rfl, pz_ck, show (20 : Int32) = nI 20 from rfl]
      have z22 : I5 0 22 = nI (cn x + cnt P) := (z 22 (by decide) (by decide)).trans g22
      have j80 : cn x = 1 → ∃ I1, m_settle_j80 (m_settle_l0 (nI r) f) I5 = some I1 ∧ MC b n t kc I0 J0 k (stl r P (C ++ [(x, 0)])).1 (stl r P (C ++ [(x, 0)])).2 w I1 J := by
        intro e
        unfold m_settle_j80
        rw [pz_lt, z22, e, show (1 : Int32) = nI 1 from rfl, pz_sub (by omega), show 1 + cnt P - 1 = cnt P by omega]
        exact go _ (fun j hj => pz_no _ _ (Or.inr hj)) (fun k hk => u2_row _ _ _ _ hk) (pz_at _ _ rfl rfl)
      have crk := cn_rk x gx2
      have hx40 : ¬ 40 ≤ x ∨ r = 0 := by
        by_cases q : 40 ≤ x
        · refine Or.inr ?_
          unfold rk at c
          rw [if_pos q] at c
          omega
        · exact Or.inl q
      by_cases c7 : rk x = 7
      · rw [if_pos (by rw [c7])]
        exact j80 (by unfold cn; rw [if_pos (Or.inr (Or.inr (crk.mp c7)))])
      · rw [if_neg (fun q => c7 ((nI_eq (by omega) (by omega)).mp q))]
        by_cases c20 : x = 20
        · rw [if_pos (by rw [c20])]
          exact j80 (by unfold cn; rw [if_pos (Or.inr (Or.inl c20))])
        · rw [if_neg (fun q => c20 ((nI_eq (by omega) (by omega)).mp q))]
          have e0 : cn x = 0 := by
            unfold cn
            rw [if_neg]
            intro q
            rcases q with q | q | q
            · rcases hx40 with u | u
              · exact u q
              · omega
            · exact c20 q
            · exact c7 (crk.mpr q)
          exact go I5 (fun _ _ => rfl) (fun _ _ => rfl) (z22.trans (by rw [e0, Nat.zero_add]))
    · rw [if_neg c, if_pos ((nI_ltI (by omega) (by omega)).mpr (by omega))]
      exact ⟨I, rfl, h'⟩
theorem m_stl (ht : t < 4) {r : Nat} (hr : r < 8) (hr1 : 1 ≤ r) (h : MC b n t kc I0 J0 k P C w I J) (hl : C.length + P.length ≤ 304) (hp : P.length < 160) : ∃ I1, m_settle I (nI r) = some I1 ∧ MC b n t kc I0 J0 k (stl r P C).1 (stl r P C).2 w I1 J := by
  obtain ⟨I1, q1, q2⟩ := mc_settle ht hr hr1 P fu C I h hl hp (fu_gt (by omega))
  refine ⟨I1, ?_, q2⟩
  unfold m_settle
  rw [q1]
  rfl
theorem ad_m1 (x : Int32) : x + -nI 1 = x - 1 := (Int32.sub_eq_add_neg ..).symm
/-- what is open at last -/
def oix : List Nat → Option Nat
  | [] => none
  | x :: P => if 40 ≤ x then some P.length else oix P
def onow : List Nat → Nat
  | [] => 99
  | x :: P => if 40 ≤ x then x else onow P
def oI (o : Option Nat) : Int32 := match o with
  | none => -1
  | some i => nI i
theorem m_oix {I : PI} : ∀ (P : List Nat) (f : Nat), PlM (I 10) P → P.length < 160 → P.length < f → m_openAt_l7 I f (nI P.length - 1) = some (oI (oix P)) := by
  intro P
  induction P with
  | nil =>
    intro f h hp hf
    obtain ⟨f, rfl⟩ : ∃ q, f = q + 1 := ⟨f - 1, by simp at hf; omega⟩
    rfl
  | cons x P ih =>
    intro f h hp hf
    obtain ⟨f, rfl⟩ : ∃ q, f = q + 1 := ⟨f - 1, by omega⟩
    rw [List.length_cons] at hp hf
    obtain ⟨gx, gx2, gP⟩ := h
    show m_openAt_b7 I (m_openAt_l7 I f) _ = _
    unfold m_openAt_b7
    rw [List.length_cons, show (1 : Int32) = nI 1 from rfl, pz_sub (by omega), show P.length + 1 - 1 = P.length by omega, if_neg (nI_pos (by omega)), pz_inb (by omega) (by omega), pz_ck, pz_ix (by omega), gx, show (40 : Int32) = nI 40 from rfl, oix]
    by_cases c : 40 ≤ x
    · rw [if_pos c, if_pos ((nI_leI (by omega) (by omega)).mpr c)]
      rfl
    · rw [if_neg c, if_neg (fun q => c ((nI_leI (by omega) (by omega)).mp q)), pz_lt, ad_m1]
      exact ih f gP (by omega) (by omega)
theorem m_oAt (h : MC b n t kc I0 J0 k P C w I J) (hp : P.length < 160) : m_openAt I = some (oI (oix P)) := by
  unfold m_openAt
  rw [pz_lt, h.2.1.2.2.2.1, m_oix P fu h.2.2.1 hp (fu_gt (by omega))]
  rfl
theorem oix_now {r : Nat → Int32} : ∀ {P : List Nat}, PlM r P → (oix P = none ∧ onow P = 99) ∨ ∃ i, oix P = some i ∧ i < P.length ∧ r i = nI (onow P) ∧ 40 ≤ onow P ∧ onow P < 44
  | [], _ => Or.inl ⟨rfl, rfl⟩
  | x :: P, ⟨h1, h2, h3⟩ => by
    rw [oix, onow]
    by_cases c : 40 ≤ x
    · rw [if_pos c, if_pos c]
      exact Or.inr ⟨_, rfl, by simp, h1, c, h2⟩
    · rw [if_neg c, if_neg c]
      rcases oix_now h3 with ⟨a, b⟩ | ⟨i, a, b, c, d⟩
      · exact Or.inl ⟨a, b⟩
      · exact Or.inr ⟨i, a, by rw [List.length_cons]; omega, c, d⟩
def oN (x : Nat) : Int32 := if x = 99 then -1 else nI x
theorem m_oNow (h : MC b n t kc I0 J0 k P C w I J) (hp : P.length < 160) : m_openNow I = some (oN (onow P)) := by
  unfold m_openNow
  rw [m_oAt h hp, pz_bs]
  rcases oix_now h.2.2.1 with ⟨a, b⟩ | ⟨i, a, b, c, d, e⟩
  · rw [a, b]
    rfl
  · have d1 : oN (onow P) = nI (onow P) := by
      unfold oN
      rw [if_neg (by omega)]
    rw [a, d1]
    show (if (0 : Int32) ≤ nI i then _ else _) = _
    rw [if_pos (nI_pos' (by omega)), pz_bs]
    show ck (inb (nI i) 160) (some (I 10 (ix (nI i)))) = _
    rw [pz_inb (by omega) (by omega), pz_ck, pz_ix (by omega), c]
/-- whether what is asked has been compared -/
def icm : List Nat → Bool
  | [] => false
  | x :: P => if 4 < rk x then icm P else decide (rk x = 4)
theorem m_icm {I : PI} : ∀ (P : List Nat) (f : Nat), PlM (I 10) P → P.length < 160 → P.length < f → ∃ v, m_isCompared_l7 I f (nI P.length - 1) = some v ∧ ((v < 0 ∧ icm P = false) ∨ ∃ i x, v = nI i ∧ i < 160 ∧ I 10 i = nI x ∧ x < 44 ∧ icm P = decide (rk x = 4)) := by
  intro P
  induction P with
  | nil =>
    intro f h hp hf
    obtain ⟨f, rfl⟩ : ∃ q, f = q + 1 := ⟨f - 1, by simp at hf; omega⟩
    exact ⟨-1, rfl, Or.inl ⟨by decide, rfl⟩⟩
  | cons x P ih =>
    intro f h hp hf
    obtain ⟨f, rfl⟩ : ∃ q, f = q + 1 := ⟨f - 1, by omega⟩
    rw [List.length_cons] at hp hf
    obtain ⟨gx, gx2, gP⟩ := h
    show ∃ v, m_isCompared_b7 I (m_isCompared_l7 I f) _ = _ ∧ _
    unfold m_isCompared_b7
    have hrk := rk_le x
    rw [List.length_cons, show (1 : Int32) = nI 1 from rfl, pz_sub (by omega), show P.length + 1 - 1 = P.length by omega, if_neg (nI_pos (by omega)), pz_inb (by omega) (by omega), pz_ck, pz_ix (by omega), gx, m_rk x gx2, pz_bs, show (4 : Int32) = nI 4 from rfl, icm]
    by_cases c : 4 < rk x
    · rw [if_pos c, if_neg (fun q => absurd ((nI_leI (by omega) (by omega)).mp q) (by omega)), pz_lt, ad_m1]
      exact ih f gP (by omega) (by omega)
    · rw [if_neg c, if_pos ((nI_leI (by omega) (by omega)).mpr (by omega))]
      exact ⟨_, rfl, Or.inr ⟨P.length, x, rfl, by omega, gx, gx2, rfl⟩⟩
theorem m_isC (h : MC b n t kc I0 J0 k P C w I J) (hp : P.length < 160) : m_isCompared I = some (bI (icm P)) := by
  unfold m_isCompared
  obtain ⟨v, q1, q2⟩ := m_icm P fu h.2.2.1 hp (fu_gt (by omega))
  rw [pz_lt, h.2.1.2.2.2.1, q1, pz_bs]
  rcases q2 with ⟨a, e⟩ | ⟨i, x, rfl, a, e1, e2, e3⟩
  · rw [if_pos a, e]
    rfl
  · have hrk := rk_le x
    rw [if_neg (nI_pos (by omega)), pz_inb (by omega) (by omega), pz_ck, pz_ix (by omega), e1, m_rk x e2, pz_bs, e3, show (4 : Int32) = nI 4 from rfl]
    by_cases c : rk x = 4
    · rw [if_pos (by rw [c]), decide_eq_true c]
      rfl
    · rw [if_neg (fun q => c ((nI_eq (by omega) (by omega)).mp q)), decide_eq_false c]
      rfl
end MCS

/-! the least group, 7: both find the same -/
theorem sayK5 (k : Nat) : sayK k < 5 := by
  by_cases h : k < 20
  · exact (say_ok k h).1
  · unfold sayK
    rw [List.getD_eq_getElem?_getD, List.getElem?_eq_none (by show 20 ≤ k; omega)]
    decide
theorem isLeast_congr {c d : Nat → Nat} (h : ∀ k, k < 5 → c k = d k) {L M : Nat} (g : isLeast c L M) : isLeast d L M := by
  have e1 : (fun k => decide (c (sayK k) ≠ 0)) = (fun k => decide (d (sayK k) ≠ 0)) := funext fun k => by rw [h _ (sayK5 k)]
  have e2 : (fun k => KB * c (sayK k) + 1) = (fun k => KB * d (sayK k) + 1) := funext fun k => by rw [h _ (sayK5 k)]
  unfold isLeast at g ⊢
  rw [← e1, ← e2]
  exact g
section JN
variable {s si : SN} {I : PI} {T : PT} {X : TS} {tN : XCo} {I' : PI} {J' : PJ}
/-- the least laid, or laid before -/
theorem pm_layLeast (hV : VSt s) (hM : MR s (I' 1)) (hS : CSay I' J') (hL : CLea I') {forms : Nat} (hf : forms < 256) : ∃ (I1 : PI) (J1 : PJ) (L M : Nat), m_layLeast I' J' (nI forms) = some (I1, J1) ∧ I1 0 30 = nI L ∧ I1 0 31 = nI M ∧ isLeast (cst s forms) L M ∧ CLea I1 ∧ Fm I' I1 J' J1 ∧ I1 1 = I' 1 := by
  obtain ⟨A, e1, a1, a2⟩ := pm_layCosts hV hM hf
  have hc : ∀ k, k < 5 → cst s forms k ≤ 9 := fun k _ => cst_le hV forms k
  have hcode := codeC_le hc
  have a0 : A 0 = I' 0 := a2 0 (by decide)
  have fr0 : Fm I' A J' J' := ⟨fun k h1 h2 => a2 k (by omega), by rw [a0], by rw [a0], by rw [a0], by rw [a0], rfl, rfl⟩
  unfold m_layLeast
  rw [e1, pz_bs, pz_u2]
  by_cases c : nI (codeC (cst s forms)) = A 0 29
  · rw [if_pos c]
    rw [a0] at c
    rcases id hL with h | ⟨d, L, M, h1, h2, h3, h4, h5⟩
    · exact absurd (c.trans h) (pz_ne1 (by omega))
    · have h6 := codeC_le h1
      have e := (nI_eq (by omega) (by omega)).mp (c.trans h2)
      exact ⟨A, J', L, M, rfl, by rw [a0]; exact h3, by rw [a0]; exact h4, isLeast_congr (fun k hk => (codeC_inj hc h1 e k hk).symm) h5, hL.of (by rw [a0]) (by rw [a0]) (by rw [a0]), fr0, a2 1 (by decide)⟩
  · rw [if_neg c]
    have hst : LStat (cst s forms) (u2 (u2 (u2 (u2 (u2 A 0 29 (nI (codeC (cst s forms)))) 0 30 (nI 1000000)) 0 31 (nI 1000000)) 15 0 (-nI 1)) 16 0 (nI 0)) (u2 (u2 J' 17 0 1152921504606846975) 18 0 1152921504606846975) := by
      refine ⟨fun k hk => ?_, fun k hk => ?_⟩
      · obtain ⟨q1, q2, q3⟩ := hS k hk
        simp (disch := omega) only [pz_row, pz_at, pz_no]
        rw [a2 6 (by decide)]
        exact ⟨q1, q2, q3⟩
      · simp (disch := omega) only [pz_row, pz_at, pz_no]
        exact a1 k hk
    obtain ⟨A1, B1, q, L1, M1, q1, q2, q3, q4, q5, q6, q7, q8⟩ := ml_loop hc 20 0 0 0 1000000 1000000 (fun i => decide (i ≠ 0)) _ _ rfl (Nat.le_refl _) (Nat.le_refl _) hst (by simp (disch := omega) only [pz_row, pz_at, pz_no]; decide) (by simp (disch := omega) only [pz_row, pz_at, pz_no]) (by
      refine ⟨rfl, fun i hi => ?_, fun i hi => ?_⟩
      · simp (disch := omega) only [pz_row, pz_at, pz_no]
        rw [bitL_full i hi]
        show _ = (_ && (decide (i = 0) || decide (i ≠ 0)))
        by_cases z : i = 0 <;> simp [z]
      · simp (disch := omega) only [pz_row, pz_at, pz_no]
        rw [bitL_full i hi]
        show _ = (_ && decide (60 + i ≠ 0))
        rw [decide_eq_true (p := 60 + i ≠ 0) (by omega), Bool.and_true]) (by simp (disch := omega) only [pz_row, pz_at, pz_no]) (by simp (disch := omega) only [pz_row, pz_at, pz_no]) (Nat.le_refl _) (Nat.le_refl _)
    have hq : q < 2 ^ 21 := q1
    have hfu : fu = (1099511627775 - q) + 1 + q := by
      have : fu = 1099511627776 := rfl
      omega
    have hend : m_layLeast_l68 (1099511627775 - q + 1) (nI 0 + -nI 1) A1 B1 = some (A1, B1) := by
      show m_layLeast_b68 _ _ _ _ = _
      unfold m_layLeast_b68
      rw [if_pos (by decide)]
    have hall := (q2 (1099511627775 - q + 1)).trans hend
    rw [← hfu] at hall
    have hl : isLeast (cst s forms) L1 M1 := ⟨q6, q7, by
      have : KB * 0 + 0 = 0 := rfl
      rw [this] at q8
      exact q8⟩
    have z29 : A1 0 29 = nI (codeC (cst s forms)) := by rw [q3.2.2.2.1 29 (by decide) (by decide)]; simp (disch := omega) only [pz_row, pz_at, pz_no]
    refine ⟨A1, B1, L1, M1, ?_, q4, q5, hl, Or.inr ⟨_, L1, M1, hc, z29, q4, q5, hl⟩, ⟨fun k h1 h2 => ?_, ?_, ?_, ?_, ?_, ?_, ?_⟩, ?_⟩
    · simp (disch := omega) only [pz_0, pz_1000000, pz_lt, pz_ck, pz_inb, pz_ix]
      have hall : m_layLeast_l68 fu (nI 0) (u2 (u2 (u2 (u2 (u2 A 0 29 (nI (codeC (cst s forms)))) 0 30 (nI 1000000)) 0 31 (nI 1000000)) 15 0 (-1)) 16 0 (nI 0)) (u2 (u2 J' 17 0 1152921504606846975) 18 0 1152921504606846975) = some (A1, B1) := hall
      rw [hall]
      rfl
    · rw [q3.2.2.1 k (by omega) (by omega) (by omega)]
      simp (disch := omega) only [pz_row, pz_at, pz_no]
      exact a2 k (by omega)
    · rw [q3.2.2.2.1 9 (by decide) (by decide)]; simp (disch := omega) only [pz_row, pz_at, pz_no]; rw [a0]
    · rw [q3.2.2.2.1 10 (by decide) (by decide)]; simp (disch := omega) only [pz_row, pz_at, pz_no]; rw [a0]
    · rw [q3.2.2.2.1 11 (by decide) (by decide)]; simp (disch := omega) only [pz_row, pz_at, pz_no]; rw [a0]
    · rw [q3.2.2.2.1 36 (by decide) (by decide)]; simp (disch := omega) only [pz_row, pz_at, pz_no]; rw [a0]
    · rw [q3.2.2.2.2 7 (by decide) (by decide)]; simp (disch := omega) only [pz_row, pz_at, pz_no]
    · rw [q3.2.2.2.2 8 (by decide) (by decide)]; simp (disch := omega) only [pz_row, pz_at, pz_no]
    · rw [q3.2.2.1 1 (by decide) (by decide) (by decide)]; simp (disch := omega) only [pz_row, pz_at, pz_no]; exact a2 1 (by decide)
end JN
/-! the class's search over its sayings, the reference's over its own -/
theorem sv70 : ((List.range 125).filter fun t => sayV (t / 25) (t / 5 % 5) (t % 5)).length ≤ 99 := by decide +kernel
theorem xl_99 (s : SN) (forms o : Nat) : (xl s forms o 125).length ≤ 99 := by
  refine Nat.le_trans ?_ sv70
  unfold xl
  have e : xa s forms o = fun t => (decide (cst s forms (t / 25) ≠ 0) && soB (plcT o) (t / 25) (t / 5 % 5) (t % 5)) && sayV (t / 25) (t / 5 % 5) (t % 5) := funext fun t => by
    unfold xa
    cases decide (cst s forms (t / 25) ≠ 0) <;> cases sayV (t / 25) (t / 5 % 5) (t % 5) <;> cases soB (plcT o) (t / 25) (t / 5 % 5) (t % 5) <;> rfl
  rw [e, ← List.filter_filter]
  exact List.length_filter_le _ _
theorem ctN_ge2 {p : Nat → Bool} {n a b : Nat} (ha : a < n) (hb : b < n) (pa : p a = true) (pb : p b = true) (h : ctN p n = 1) : a = b := by
  refine Classical.byContradiction fun c => ?_
  have h1 := ctN_drop (p := p) (q := fun j => p j && decide (j ≠ a)) pa (by rw [decide_eq_false (fun z => z rfl), Bool.and_false]) ha (fun j _ hj => by rw [decide_eq_true hj, Bool.and_true])
  have h2 := ctN_drop (p := fun j => p j && decide (j ≠ a)) (q := fun j => (p j && decide (j ≠ a)) && decide (j ≠ b)) (t := b) (by rw [pb, decide_eq_true (p := b ≠ a) (fun z => c z.symm)]; rfl) (by rw [decide_eq_false (p := b ≠ b) (fun z => z rfl), Bool.and_false]) hb (fun j _ hj => by rw [decide_eq_true hj, Bool.and_true])
  omega
theorem cmp_sur {o : Nat} (ho : o < 120) {i : Nat} (hi : i < 120) : ∃ i0, i0 < 120 ∧ cmpT o i0 = i := by
  refine Classical.byContradiction fun c => ?_
  have h1 := ctN_bij (f := cmpT o) (n := 120) (fun j => decide (j = i)) (fun i hi => (cmp_ok ho hi).1) (fun i j hi hj => cmp_inj ho hi hj)
  have h2 : ctN (fun i0 => decide (cmpT o i0 = i)) 120 = 0 := ctN_0 fun j hj => decide_eq_false fun z => c ⟨j, hj, z⟩
  have h3 := ctN_drop (p := fun j => decide (j = i)) (q := fun _ => false) (t := i) (decide_eq_true rfl) rfl hi (fun j _ hj => (decide_eq_false hj).symm)
  rw [h3] at h1
  omega
theorem cmp_self {o : Nat} (ho : o < 120) : cmpT o o = 0 := by
  obtain ⟨h1, h2⟩ := cmp_ok ho ho
  have h3 : ∀ j, j < 5 → plcT (cmpT o o) j = plcT 0 j := fun j hj => by rw [h2 j hj, (ord_ok o ho j hj).2.2.1, (ord_0 j hj).2]
  exact plc_inj h1 (by decide) (h3 0 (by decide)) (h3 1 (by decide)) (h3 2 (by decide)) (h3 3 (by decide)) (h3 4 (by decide))
theorem cvW_le {w : Nat → Nat} : ∀ {S : List Nat}, (∀ k, k ∈ S → w k ≤ 9) → cvW w S ≤ 9 * S.length
  | [], _ => Nat.le_refl _
  | k :: S, h => by
    have h1 := h k List.mem_cons_self
    have h2 := cvW_le (w := w) (S := S) fun j hj => h j (List.mem_cons_of_mem _ hj)
    show w k + cvW w S ≤ 9 * (S.length + 1)
    omega
theorem least_same {s : SN} {forms o L M bx : Nat} (hV : VSt s) (ho : o < 120) (he : ctN (fun i => blM s forms i 20) 120 = 1) (hm : isLeast (cst s forms) L M)
    (hx : cvR (xl s forms o 125).length (fun j => outX ((xl s forms o 125).getD j 0)) (fun j => 100 * cst s forms ((xl s forms o 125).getD j 0 / 25) + 1) (fun i => decide (i ≠ o)) 0 99999 bx) : bx = 100 * L + M ∧ M ≤ 20 ∧ 1 ≤ M ∧ L ≤ 180 := by
  obtain ⟨l1, l2, l3⟩ := hm
  have hch : ∀ k, ∃ j, k < 20 → cst s forms (sayK k) ≠ 0 → j < (xl s forms o 125).length ∧ (xl s forms o 125).getD j 0 = hX' o k := fun k => by
    by_cases c : k < 20 ∧ cst s forms (sayK k) ≠ 0
    · obtain ⟨h1, h2, h3, h4⟩ := say_h ho c.1 c.2
      obtain ⟨j, hj⟩ := xl_pos h1 h3
      exact ⟨j, fun _ _ => hj⟩
    · exact ⟨0, fun a b => absurd ⟨a, b⟩ c⟩
  obtain ⟨hF, hF'⟩ := Classical.axiomOfChoice hch
  have hK : KB = 2097152 := rfl
  have hbl0 : blM s forms 0 20 = true := (blM_iff s forms 0 20).mpr fun k hk _ => out0 hk
  have hS0 := inc_filter (av := avC (cst s forms)) (n := 20) (avC (cst s forms)) (fun k _ h => h) 20 0 rfl
  have hlen := inc_len hS0 (Nat.zero_le _)
  have hW := cvW_le (w := fun k => cst s forms (sayK k)) (S := (List.range' 0 20).filter (avC (cst s forms))) (fun k _ => cst_le hV forms _)
  have hKW := Nat.mul_le_mul_left KB hW
  generalize hA : (List.range' 0 20).filter (avC (cst s forms)) = S0 at hS0 hlen hW hKW
  have hb : 100 * cvW (fun k => cst s forms (sayK k)) S0 + S0.length < 99999 := by omega
  have hB : KB * cvW (fun k => cst s forms (sayK k)) S0 + S0.length < KB * 1000000 + 1000000 := by
    rw [hK] at hKW ⊢
    omega
  have key := cv_same (n := (xl s forms o 125).length) (outx := fun j => outX ((xl s forms o 125).getD j 0)) (outm := outM) (cx := fun j => cst s forms ((xl s forms o 125).getD j 0 / 25)) (cm := fun k => cst s forms (sayK k)) (av := fun k => decide (cst s forms (sayK k) ≠ 0)) (U := fun i => decide (i ≠ o)) (V := fun i => decide (i ≠ 0)) (K := KB) (bx := bx) (bm := KB * L + M) (b0 := 99999) (B0 := KB * 1000000 + 1000000) (by rw [hK]; omega) (xl_99 s forms o) hx l3
    (fun j => gX o ((xl s forms o 125).getD j 0)) hF (fun j hj => by
      obtain ⟨q1, q2⟩ := xl_at hj
      obtain ⟨g1, g2, g3, g4⟩ := say_g ho q1 q2
      exact ⟨g1, decide_eq_true (by rw [g2]; exact g3), by show cst s forms (sayK (gX o _)) = _; rw [g2]⟩) (fun k hk ha => by
      have ha := of_decide_eq_true ha
      obtain ⟨q1, q2⟩ := hF' k hk ha
      exact ⟨q1, by show cst s forms ((xl s forms o 125).getD (hF k) 0 / 25) = _; rw [q2, (say_h ho hk ha).2.1]⟩) (fun S hN hC i hi hv => by
      have hv := of_decide_eq_true hv
      obtain ⟨i0, z1, z2⟩ := cmp_sur ho hi
      have z3 : i0 ≠ o := fun e => hv (by rw [← z2, e, cmp_self ho])
      obtain ⟨j, j1, j2⟩ := hC i0 z1 (decide_eq_true z3)
      obtain ⟨q1, q2⟩ := xl_at (hN j j1)
      refine ⟨_, List.mem_map.mpr ⟨j, j1, rfl⟩, ?_⟩
      rw [← z2, (say_g ho q1 q2).2.2.2 i0 z1]
      exact j2) (fun S hN hC i hi hu => by
      have hu := of_decide_eq_true hu
      have z3 : cmpT o i ≠ 0 := fun e => hu (cmp_inj ho hi ho (by rw [e, cmp_self ho]))
      obtain ⟨k, k1, k2⟩ := hC (cmpT o i) (cmp_ok ho hi).1 (decide_eq_true z3)
      obtain ⟨k3, k4⟩ := hN k k1
      have k4 := of_decide_eq_true k4
      refine ⟨_, List.mem_map.mpr ⟨k, k1, rfl⟩, ?_⟩
      show outX ((xl s forms o 125).getD (hF k) 0) i = true
      rw [(hF' k k3 k4).2, (say_h ho k3 k4).2.2.2 i hi]
      exact k2) ⟨1, by decide, rfl⟩ S0 hS0 (fun i hi hv => by
      have hv := of_decide_eq_true hv
      refine Classical.byContradiction fun q => hv ?_
      refine ctN_ge2 (p := fun i => blM s forms i 20) (a := i) (b := 0) hi (by decide) ((blM_iff s forms i 20).mpr fun k hk hc => ?_) hbl0 he
      cases e : outM k i with
      | false => rfl
      | true => exact absurd ⟨k, by rw [← hA]; exact List.mem_filter.mpr ⟨List.mem_range'_1.mpr ⟨Nat.zero_le _, by omega⟩, decide_eq_true hc⟩, e⟩ q) hb hB
  obtain ⟨L0, M0, m1, m2, m3, m4⟩ := key
  have hle : KB * L + M ≤ 0 + cvW (fun k => KB * cst s forms (sayK k) + 1) S0 := by
    refine l3.2.2 S0 ?_ hS0 ?_
    · intro e
      rw [e] at hA
      have hz : blM s forms 1 20 = true := (blM_iff s forms 1 20).mpr fun k hk hc => by
        have : k ∈ ([] : List Nat) := by rw [← hA]; exact List.mem_filter.mpr ⟨List.mem_range'_1.mpr ⟨Nat.zero_le _, by omega⟩, decide_eq_true hc⟩
        cases this
      exact absurd (ctN_ge2 (p := fun i => blM s forms i 20) (a := 1) (b := 0) (by decide) (by decide) hz hbl0 he) (by decide)
    · intro i hi hv
      have hv := of_decide_eq_true hv
      refine Classical.byContradiction fun q => hv ?_
      refine ctN_ge2 (p := fun i => blM s forms i 20) (a := i) (b := 0) hi (by decide) ((blM_iff s forms i 20).mpr fun k hk hc => ?_) hbl0 he
      cases e : outM k i with
      | false => rfl
      | true => exact absurd ⟨k, by rw [← hA]; exact List.mem_filter.mpr ⟨List.mem_range'_1.mpr ⟨Nat.zero_le _, by omega⟩, decide_eq_true hc⟩, e⟩ q
  rw [cvW_lin] at hle
  rw [hK] at m4 hle hKW
  have : L = L0 ∧ M = M0 := by omega
  obtain ⟨rfl, rfl⟩ := this
  exact ⟨m3, m1, m2, by omega⟩

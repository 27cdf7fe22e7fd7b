/-! both readers: a whole text -/
/-- what the reference holds of a text that the class holds as q -/
def TxM (q : Option Sem × Option Sem × List (Int32 × Int32 × Int32 × Int32 × Int32)) (tx : Nat → Int32) (t : Nat) : Prop := ∃ (KL : List Cl) (C : List (Nat × Nat)), ClM tx t KL ∧ ItM tx (705 * t + 97) C ∧ LwM 0 KL C q.1 ∧ LwM 1 KL C q.2.1 ∧ q.2.2 = dgL 0 KL ∧ KV KL ∧ KL.length ≤ 24 ∧ C.length ≤ 300
theorem TxM.of {q : Option Sem × Option Sem × List (Int32 × Int32 × Int32 × Int32 × Int32)} {tx tx1 : Nat → Int32} {t : Nat} (h : TxM q tx t) (e : ∀ j, 705 * t ≤ j → j < 705 * t + 705 → tx1 j = tx j) : TxM q tx1 t := by
  obtain ⟨KL, C, ⟨a1, a2⟩, b, c, d, f, g, i, j⟩ := h
  refine ⟨KL, C, ⟨(e _ (by omega) (by omega)).trans a1, fun k p hk => ?_⟩, b.of fun z h1 h2 => e z (by omega) (by omega), c, d, f, g, i, j⟩
  obtain ⟨hi, -⟩ := List.getElem?_eq_some_iff.mp hk
  exact (a2 k p hk).of fun z h1 h2 => e z (by omega) (by omega)
section TXT
variable {b : Nat → Nat} {n k t : Nat}
theorem read_sim (hb : ∀ j, j < n → b j < 256) (ht : t < 4) (hn : n ≤ 300) : ∀ (K kd k f : Nat) (I I' : PI) (J' : PJ) (KL : List Cl) (C : List (Nat × Nat)) (F G : Option Sem) (L : List D5), K + KL.length = 25 → K < f → XS b n kd k 0 I → RS b n t k KL C F G L I' J' → k ≤ n →
    (∃ (k2 e : Nat) (I2 : PI) (c s : Nat) (I2' : PI) (J2' : PJ), k ≤ k2 ∧ k2 ≤ n ∧ 1 ≤ e ∧ e ≤ 6 ∧ t_readL (t_sum 8) K I KL.length F G L = some (I2, (c, s), .inr (nI e, nI (tks b n k2).pl)) ∧ c ≤ 64 * (k2 - k) + 16 ∧ s ≤ 256 * (k2 - k) + 64 ∧ m_readText_l43 f I' J' = some (.inl (nI e, I2', J2')) ∧ I2' 0 13 = nI (tks b n k2).pl ∧ FR t I' I2' ∧ JOff J' J2') ∨
    ∃ (k2 : Nat) (I2 : PI) (c s : Nat) (KL2 : List Cl) (C2 : List (Nat × Nat)) (F2 G2 : Option Sem) (L2 : List D5) (I2' : PI) (J2' : PJ), k ≤ k2 ∧ k2 ≤ n ∧ t_readL (t_sum 8) K I KL.length F G L = some (I2, (c, s), .inl (F2, G2, L2)) ∧ c ≤ 64 * (k2 - k) ∧ s ≤ 256 * (k2 - k) ∧ m_readText_l43 f I' J' = some (.inr (I2', J2')) ∧ RS b n t k2 KL2 C2 F2 G2 L2 I2' J2' ∧ FR t I' I2' ∧ JOff J' J2' := by
  intro K
  induction K with
  | zero =>
    intro kd k f I I' J' KL C F G L hK hf hI hR hk
    have := hR.2.2.2.2.2.2.2.2.2.2.1
    omega
  | succ K ih =>
    intro kd k f I I' J' KL C F G L hK hf hI hR hk
    obtain ⟨f, rfl⟩ : ∃ q, f = q + 1 := ⟨f - 1, by omega⟩
    have hsr := tks_srt hb k
    have q0 := tok_k hb hR.1 (c := 0) (s := 301) (Or.inl ⟨rfl, rfl⟩)
    have hm : m_readText_l43 (f + 1) I' J' = m_readText_b43 (m_readText_l43 f) I' J' := rfl
    by_cases c : (tks b n k).sort = 301
    · refine Or.inr ⟨k, I, 0, 0, KL, C, F, G, L, I', J', Nat.le_refl _, hk, ?_, Nat.zero_le _, Nat.zero_le _, ?_, hR, FR.rf, JOff.rf⟩
      · rw [t_readL, if_pos (show I 0 4 = 301 from by rw [hI.1.2.2.2.1, c]; rfl)]
        rfl
      · rw [hm]
        unfold m_readText_b43
        rw [if_pos (show I' 0 14 = 0 from q0.mpr c)]
    · have e0 : ¬ I' 0 14 = 0 := fun q => c (q0.mp q)
      rcases clause_sim hb ht hn hI hR hk c K with ⟨k2, e, I2, c2, s2, I2', J2', a1, a2, a3, a4, a5, a6, a7, a8, a9, a10, a11⟩ | ⟨k2, kd2, c2, s2, I2, KL2, C2, F2, G2, L2, I2', J2', a1, a2, a3, a4, a5, a6, a7, a8, a9, a10, a11⟩
      · refine Or.inl ⟨k2, e, I2, c2, s2, I2', J2', a1, a2, a3, a4, a5, a6, a7, ?_, a9, a10, a11⟩
        rw [hm]
        unfold m_readText_b43
        rw [if_neg e0, a8, pz_bs, pz_u3, if_neg (show ¬ nI e = 0 from nI_ne0 (by omega) (by omega))]
      · have hm2 : m_readText_l43 (f + 1) I' J' = m_readText_l43 f I2' J2' := by
          rw [hm]
          unfold m_readText_b43
          rw [if_neg e0, a8, pz_bs, pz_u3, if_pos rfl]
        rw [hm2, a4]
        rcases ih kd2 k2 f I2 I2' J2' KL2 C2 F2 G2 L2 (by omega) (by omega) a5 a9 a2 with ⟨k3, e, I3, c3, s3, I3', J3', b1, b2, b3, b4, b5, b6, b7, b8, b9, b10, b11⟩ | ⟨k3, I3, c3, s3, KL3, C3, F3, G3, L3, I3', J3', b1, b2, b3, b4, b5, b6, b7, b8, b9⟩
        · rw [b5, tC_s]
          exact Or.inl ⟨k3, e, I3, _, _, I3', J3', by omega, b2, b3, b4, rfl, by omega, by omega, b8, b9, a10.tr b10, a11.tr b11⟩
        · rw [b3, tC_s]
          exact Or.inr ⟨k3, I3, _, _, KL3, C3, F3, G3, L3, I3', J3', by omega, b2, rfl, by omega, by omega, b6, b7, a10.tr b8, a11.tr b9⟩
/-- the text read by both from the first byte on -/
theorem text_sim (hb : ∀ j, j < n → b j < 256) (ht : t < 4) (hn : n ≤ 300) {I I' : PI} {J' : PJ} (hT : TIn b n I) (hz : I 0 2 = 0 ∧ I 0 6 = 0 ∧ I 0 7 = 0) (hM : MIn b n I') (h1 : I' 1 3 = nI t) :
    (∃ (e pl : Nat) (I2 : PI) (c s : Nat) (I2' : PI) (J2' : PJ), 1 ≤ e ∧ e ≤ 6 ∧ t_read (t_sum 8) I = some (I2, (c, s), .inr (nI e, nI pl)) ∧ c ≤ 20000 ∧ s ≤ 80000 ∧ m_readText I' J' = some (nI e, I2', J2') ∧ I2' 0 13 = nI pl ∧ FR t I' I2' ∧ JOff J' J2') ∨
    ∃ (q : Option Sem × Option Sem × List (Int32 × Int32 × Int32 × Int32 × Int32)) (I2 : PI) (c s : Nat) (I2' : PI) (J2' : PJ), t_read (t_sum 8) I = some (I2, (c, s), .inl q) ∧ c ≤ 20000 ∧ s ≤ 80000 ∧ m_readText I' J' = some (0, I2', J2') ∧ TxM q (I2' 3) t ∧ FR t I' I2' ∧ JOff J' J2' := by
  unfold t_read
  obtain ⟨I1, r1, r2, r3, r4, r5, r6⟩ := tx_next hT (a := 0) hz.1 (Nat.zero_le n)
  have hXS : XS b n 0 0 0 I1 := ⟨⟨hT.off r2 (by decide), r3, r4, r5, r6⟩, (r2.2 6 (by decide)).trans hz.2.1, (r2.2 7 (by decide)).trans hz.2.2⟩
  rw [r1, pz_bs]
  unfold m_readText
  rw [show inb (3 : Int32) 1691 = true from rfl, pz_ck, show ix (3 : Int32) = 3 from rfl, h1, show (705 : Int32) = nI 705 from rfl, pz_mul, pz_lt]
  have e17 : u2 I' 0 17 (nI (705 * t)) 0 17 = nI (705 * t) := pz_at _ _ rfl rfl
  rw [e17, pz_inb (by omega) (by omega), pz_ck, pz_ix (by omega), pz_lt, pz_lt, pz_lt, pz_lt]
  have z : ∀ j, j ≠ 17 → j ≠ 18 → j ≠ 24 → j ≠ 12 → u2 (u2 (u2 (u2 (u2 I' 0 17 (nI (705 * t))) 3 (705 * t) 0) 0 18 0) 0 24 0) 0 12 0 0 j = I' 0 j := fun j a1 a2 a3 a4 => (pz_no _ _ (Or.inr a4)).trans ((pz_no _ _ (Or.inr a3)).trans ((pz_no _ _ (Or.inr a2)).trans ((pz_no _ _ (Or.inl (by decide))).trans (pz_no _ _ (Or.inr a1)))))
  have zk : ∀ k, k ≠ 0 → k ≠ 3 → u2 (u2 (u2 (u2 (u2 I' 0 17 (nI (705 * t))) 3 (705 * t) 0) 0 18 0) 0 24 0) 0 12 0 k = I' k := fun k a1 a2 => (u2_row _ _ _ _ a1).trans ((u2_row _ _ _ _ a1).trans ((u2_row _ _ _ _ a1).trans ((u2_row _ _ _ _ a2).trans (u2_row _ _ _ _ a1))))
  have z17 : u2 (u2 (u2 (u2 (u2 I' 0 17 (nI (705 * t))) 3 (705 * t) 0) 0 18 0) 0 24 0) 0 12 0 0 17 = nI (705 * t) := (pz_no _ _ (Or.inr (by decide))).trans ((pz_no _ _ (Or.inr (by decide))).trans ((pz_no _ _ (Or.inr (by decide))).trans ((pz_no _ _ (Or.inl (by decide))).trans (pz_at _ _ rfl rfl))))
  have z18 : u2 (u2 (u2 (u2 (u2 I' 0 17 (nI (705 * t))) 3 (705 * t) 0) 0 18 0) 0 24 0) 0 12 0 0 18 = nI 0 := (pz_no _ _ (Or.inr (by decide))).trans ((pz_no _ _ (Or.inr (by decide))).trans (pz_at _ _ rfl rfl))
  have z24 : u2 (u2 (u2 (u2 (u2 I' 0 17 (nI (705 * t))) 3 (705 * t) 0) 0 18 0) 0 24 0) 0 12 0 0 24 = nI 0 := (pz_no _ _ (Or.inr (by decide))).trans (pz_at _ _ rfl rfl)
  have z12 : u2 (u2 (u2 (u2 (u2 I' 0 17 (nI (705 * t))) 3 (705 * t) 0) 0 18 0) 0 24 0) 0 12 0 0 12 = nI 0 := pz_at _ _ rfl rfl
  have z3 : ∀ j, u2 (u2 (u2 (u2 (u2 I' 0 17 (nI (705 * t))) 3 (705 * t) 0) 0 18 0) 0 24 0) 0 12 0 3 j = if j = 705 * t then nI 0 else I' 3 j := fun j => (pz_no _ _ (Or.inl (by decide))).trans ((pz_no _ _ (Or.inl (by decide))).trans ((pz_no _ _ (Or.inl (by decide))).trans (by
    by_cases q : j = 705 * t
    · rw [if_pos q, pz_at _ _ rfl q]
      rfl
    · rw [if_neg q, pz_no _ _ (Or.inr q), pz_no _ _ (Or.inl (by decide))])))
  generalize u2 (u2 (u2 (u2 (u2 I' 0 17 (nI (705 * t))) 3 (705 * t) 0) 0 18 0) 0 24 0) 0 12 0 = I5 at z zk z17 z18 z24 z12 z3 ⊢
  have hM5 : MIn b n I5 := ⟨hM.1, (z 9 (by decide) (by decide) (by decide) (by decide)).trans hM.2.1, fun j hj => ⟨(hM.2.2 j hj).1, (congrFun (zk 9 (by decide) (by decide)) j).trans (hM.2.2 j hj).2⟩⟩
  obtain ⟨I6, J7, s1, s2, s3, s4, s5, s6, s7, s8⟩ := tm_next (J := J') hM5 z12 (Nat.zero_le n)
  have hMT : MT b n 0 I6 J7 := ⟨hM5.off s2 (by decide), s4, s5, s6, s7, s8⟩
  have hfr : FR t I' I6 := by
    refine ⟨fun k a1 a2 a3 => (s2.1 k a1).trans (zk k a1 a2), fun j hj => ?_, fun j hj => (congrFun (s2.1 3 (by decide)) j).trans ((z3 j).trans (if_neg (by omega)))⟩
    have hj' : (j ≠ 17 ∧ j ≠ 18 ∧ j ≠ 24 ∧ j ≠ 12) ∧ [12, 13, 14, 15].contains j = false := by
      simp at hj ⊢
      omega
    exact (s2.2 j hj'.2).trans (z j hj'.1.1 hj'.1.2.1 hj'.1.2.2.1 hj'.1.2.2.2)
  rw [s1, pz_bs, pz_u2]
  have hRS : RS b n t 0 [] [] none none [] I6 J7 := ⟨hMT, (s2.2 17 (by decide)).trans z17, (s2.2 18 (by decide)).trans z18, (s2.2 24 (by decide)).trans z24, ⟨(congrFun (s2.1 3 (by decide)) _).trans ((z3 _).trans (if_pos rfl)), fun q p hp => by simp at hp⟩, fun q p hp => by simp at hp, fun p hp => absurd hp List.not_mem_nil, fun p hp => absurd hp List.not_mem_nil, rfl, fun p hp => absurd hp List.not_mem_nil, Nat.zero_le _, Nat.zero_le _⟩
  rcases read_sim hb ht hn 25 0 0 fu I1 I6 J7 [] [] none none [] rfl (fu_gt (by decide)) hXS hRS (Nat.zero_le n) with ⟨k2, e, I2, c, s, I2', J2', a1, a2, a3, a4, a5, a6, a7, a8, a9, a10, a11⟩ | ⟨k2, I2, c, s, KL2, C2, F2, G2, L2, I2', J2', a1, a2, a3, a4, a5, a6, a7, a8, a9⟩
  · rw [show t_readL (t_sum 8) 25 I1 0 none none [] = _ from a5, tC_s, a8, pz_lbl]
    exact Or.inl ⟨e, (tks b n k2).pl, I2, _, _, I2', J2', a3, a4, rfl, by omega, by omega, rfl, a9, hfr.tr a10, s3.tr a11⟩
  · rw [show t_readL (t_sum 8) 25 I1 0 none none [] = _ from a3, tC_s, a6, pz_lbr]
    obtain ⟨-, -, -, -, b1, b2, b3, b4, b5, b6, b7, b8⟩ := a7
    exact Or.inr ⟨(F2, G2, L2), I2, _, _, I2', J2', rfl, by omega, by omega, rfl, ⟨KL2, C2, b1, b2, b3, b4, b5, b6, b7, by omega⟩, hfr.tr a8, s3.tr a9⟩
end TXT

/-! loops that gather -/
def itN {σ : Type} (f : Nat → σ → σ) : Nat → σ → σ
  | 0, a => a
  | n + 1, a => f n (itN f n a)
theorem it_loop {σ ρ : Type} (L : Nat → Nat → σ → Option ρ) (hi : Nat) (g : σ → Option ρ) (f : Nat → σ → σ) (P : Nat → σ → Prop) (s0 : σ) (hP0 : P 0 s0) (hP : ∀ v s, v < hi → P v s → P (v + 1) (f v s))
    (h0 : ∀ k s, P hi s → L (k + 1) hi s = g s) (h1 : ∀ k v s, v < hi → P v s → L (k + 1) v s = L k (v + 1) (f v s)) (hf : hi < 1099511627776) : L fu 0 s0 = g (itN f hi s0) ∧ P hi (itN f hi s0) := by
  obtain ⟨s', ⟨e, q⟩, h⟩ := pz_loop L hi g (fun v s => s = itN f v s0 ∧ P v s) (fun k s h => h0 k s h.2) (fun k v s hv h => ⟨f v s, h1 k v s hv h.2, by rw [h.1]; rfl, hP v s hv h.2⟩) hi fu 0 s0 (Nat.zero_add hi) hf ⟨rfl, hP0⟩
  subst e
  exact ⟨h, q⟩
theorem it_ext {σ : Type} {f g : Nat → σ → σ} : ∀ {n : Nat} {a : σ}, (∀ v s, v < n → f v s = g v s) → itN f n a = itN g n a
  | 0, _, _ => rfl
  | n + 1, a, h => by
    show f n (itN f n a) = g n (itN g n a)
    rw [it_ext (fun v s hv => h v s (by omega)), h n _ (by omega)]
theorem it_more {σ : Type} {f : Nat → σ → σ} {m : Nat} {a : σ} : ∀ {n : Nat}, (∀ v s, m ≤ v → v < m + n → f v s = s) → itN f (m + n) a = itN f m a
  | 0, _ => rfl
  | n + 1, h => by
    show f (m + n) (itN f (m + n) a) = itN f m a
    rw [h _ _ (by omega) (by omega), it_more (fun v s h1 h2 => h v s h1 (by omega))]
/-- who knows a form, as bits -/
def kbS (r : Nat → Nat) (f p n : Nat) : Nat := n ||| (if (r (8 + p)).testBit f then 2 ^ p else 0)
def kb (r : Nat → Nat) (f n : Nat) : Nat := itN (kbS r f) n 0
theorem pz_bit : ∀ a, a < 256 → ∀ f, f < 8 → ((nI a >>> (nI f &&& nI 31)) &&& nI 1) = bI (a.testBit f) := by decide +kernel
theorem pz_bsh : ∀ p, p < 31 → bI true <<< (nI p &&& nI 31) = nI (2 ^ p) ∧ bI false <<< (nI p &&& nI 31) = nI 0 := by decide +kernel
theorem or_lt {a b n : Nat} (ha : a < 2 ^ n) (hb : b < 2 ^ n) : a ||| b < 2 ^ n := Nat.or_lt_two_pow ha hb
theorem kbS_lt {r : Nat → Nat} {f p n : Nat} (h : n < 2 ^ p) : kbS r f p n < 2 ^ (p + 1) := by
  have h1 : 2 ^ p < 2 ^ (p + 1) := Nat.pow_lt_pow_right (by decide) (Nat.lt_succ_self p)
  refine or_lt (Nat.lt_trans h h1) ?_
  split
  · exact h1
  · exact Nat.lt_of_le_of_lt (Nat.zero_le _) h1
theorem kb_lt (r : Nat → Nat) (f : Nat) : ∀ n, kb r f n < 2 ^ n
  | 0 => Nat.zero_lt_one
  | n + 1 => kbS_lt (kb_lt r f n)
theorem pow64 : ∀ n, n ≤ 6 → 2 ^ n ≤ 64 := by decide
theorem px_knownBy {I : PI} {k0 f : Nat} {r : Nat → Nat} (hr : ∀ p, p < 6 → I k0 (8 + p) = nI (r (8 + p)) ∧ r (8 + p) < 256) (hf : f < 8) : x_knownBy I k0 (nI f) = some (nI (kb r f 6)) := by
  have h := it_loop (fun k v (n : Nat) => x_knownBy_l4 I k0 (nI f) k (nI n) (nI v)) 6 (fun n => some (nI n)) (kbS r f) (fun _ _ => True) 0 trivial (fun _ _ _ _ => trivial) (fun k n _ => by
      show x_knownBy_b4 I k0 (nI f) (x_knownBy_l4 I k0 (nI f) k) (nI n) (nI 6) = some (nI n)
      unfold x_knownBy_b4
      simp (disch := omega) only [pz_6, nI_leI, Nat.le_refl, if_true]) (fun k v n hv _ => by
      show x_knownBy_b4 I k0 (nI f) (x_knownBy_l4 I k0 (nI f) k) (nI n) (nI v) = x_knownBy_l4 I k0 (nI f) k (nI (kbS r f v n)) (nI (v + 1))
      obtain ⟨e1, e2⟩ := hr v hv
      obtain ⟨b1, b2⟩ := pz_bsh v (by omega)
      have e3 : bI ((r (8 + v)).testBit f) <<< (nI v &&& nI 31) = nI (if (r (8 + v)).testBit f then 2 ^ v else 0) := by
        cases (r (8 + v)).testBit f
        · exact b2
        · exact b1
      unfold x_knownBy_b4
      rw [pz_6, if_neg (by rw [nI_leI (by omega) (by omega)]; omega)]
      simp (disch := omega) only [pz_8, pz_31, pz_1, pz_add, pz_inb, pz_ck, pz_lt, pz_ix, e1, pz_bit, e3, pz_or]
      rfl) (by decide)
  unfold x_knownBy
  have h1 : x_knownBy_l4 I k0 (nI f) fu 0 0 = some (nI (kb r f 6)) := h.1
  rw [h1]
  rfl
theorem kb_row {r : Nat → Nat} {nF nP f : Nat} (hV : VRow r nF nP) (hP : nP ≤ 6) : kb r f 6 = kb r f nP := by
  obtain ⟨m, hm⟩ : ∃ m, 6 = nP + m := ⟨6 - nP, by omega⟩
  unfold kb
  rw [hm]
  refine it_more (fun v s h1 h2 => ?_)
  unfold kbS
  rw [(hV.2.2.2.2.1 v h1 (by omega)).2.1]
  simp
theorem pm_knownBy {I : PI} {nP f : Nat} {r : Nat → Nat} (hn : I 1 1 = nI nP) (hP : nP ≤ 6) (hr : ∀ p, p < nP → I 1 (11 + 5 * p + 1) = nI (r (8 + p)) ∧ r (8 + p) < 256) (hf : f < 8) : m_knownBy I (nI f) = some (nI (kb r f nP)) := by
  have h := it_loop (fun k v (n : Nat) => m_knownBy_l4 I (nI f) k (nI n) (nI v)) nP (fun n => some (nI n)) (kbS r f) (fun _ _ => True) 0 trivial (fun _ _ _ _ => trivial) (fun k n _ => by
      show m_knownBy_b4 I (nI f) (m_knownBy_l4 I (nI f) k) (nI n) (nI nP) = some (nI n)
      unfold m_knownBy_b4
      simp (disch := omega) only [pz_1, pz_ix, pz_inb, pz_ck, hn, nI_leI, Nat.le_refl, if_true]) (fun k v n hv _ => by
      show m_knownBy_b4 I (nI f) (m_knownBy_l4 I (nI f) k) (nI n) (nI v) = m_knownBy_l4 I (nI f) k (nI (kbS r f v n)) (nI (v + 1))
      obtain ⟨e1, e2⟩ := hr v hv
      have hg := pm_get I (p := v) (w := 1) (by omega) (by omega)
      have hs := pz_shl v (by omega)
      unfold m_knownBy_b4 m_knownBy_j35
      simp (disch := omega) only [pz_1, pz_ix, pz_inb, pz_ck, hn]
      rw [if_neg (by rw [nI_leI (by omega) (by omega)]; omega), hg, e1]
      simp (disch := omega) only [pz_bs, pm_has, pz_0, pz_bI0, pz_lt, pz_31, hs, pz_add, pz_or]
      unfold kbS
      cases (r (8 + v)).testBit f
      · rfl
      · rfl) (by omega)
  unfold m_knownBy
  have h1 : m_knownBy_l4 I (nI f) fu 0 0 = some (nI (kb r f nP)) := h.1
  rw [h1]
  rfl
section KN
variable {s : SN} {I I' : PI}
theorem VRow.k256 {r : Nat → Nat} {nF nP p : Nat} (h : VRow r nF nP) (hF : nF ≤ 8) (hp : p < 6) : r (8 + p) < 256 := by
  by_cases q : p < nP
  · exact Nat.lt_of_lt_of_le (h.2.2.2.1 p q).2.1 (pow8 _ hF)
  · rw [(h.2.2.2.2.1 p (by omega) hp).2.1]
    decide
theorem pe_knownBy (hV : VSt s) (hX : XR s I) (hM : MR s (I' 1)) {f : Nat} (hf : f < 8) : x_knownBy I 3 (nI f) = some (nI (kb (s 3) f (s 2 1))) ∧ m_knownBy I' (nI f) = some (nI (kb (s 3) f (s 2 1))) := by
  obtain ⟨⟨v0, v1, v2, v3, v4, v5, v6, v7⟩, vr, -⟩ := hV
  have hx := hX.1
  refine ⟨?_, pm_knownBy hM.1.2.1 v1 (fun p hp => ⟨(hM.2.1 p hp).2.1, vr.k256 v0 (by omega)⟩) hf⟩
  rw [px_knownBy (r := s 3) (fun p hp => ⟨hx 3 (8 + p) (by omega) (by omega), vr.k256 v0 hp⟩) hf, kb_row vr v1]
end KN

/-! teaching, done -/
section TF
variable {s si : SN} {I : PI} {T : PT} {X : TS} {tN : XCo} {I' : PI} {J' : PJ}
theorem pe_teaches (h : CC s si I T X tN I' J') {p q g : Nat} (hp : p < s 2 1) (hq : q < s 2 1) (hg : g < s 2 0) (hl : s 5 g ≤ s 3 (14 + p)) : ∃ (s1 : SN) (I1 I1' : PI), x_teaches I (nI g) (nI p) (nI q) = some I1 ∧ m_teachNow I' (nI g) (nI p) (nI q) = some I1' ∧ CC s1 si I1 T X tN I1' J' ∧ s1 2 3 = s 2 3 := by
  have hV := h.1.1
  have hX := h.1.2.2.1
  have hM := h.1.2.2.2.2.1
  obtain ⟨⟨v0, v1, v2, v3, v4, v5, v6, v7⟩, vr, vf, -⟩ := id hV
  have h8q : s 3 (8 + q) < 256 := vr.k256 v0 (by omega)
  have h8n := (vr.2.2.2.1 q hq).2.1
  have ha14 := (vr.2.2.2.1 p hp).2.2
  have hf5 := vf g hg
  have mp := hM.2.1 p hp
  have mq := hM.2.1 q hq
  have mf := hM.2.2.1 g (by omega)
  have hx8 : I 3 (8 + q) = nI (s 3 (8 + q)) := hX.1 3 _ (by omega) (by omega)
  have hx14 : I 3 (14 + p) = nI (s 3 (14 + p)) := hX.1 3 _ (by omega) (by omega)
  have hx5 : I 5 g = nI (s 5 g) := hX.1 5 g (by omega) (by omega)
  have hput := pz_put _ h8q g (by omega)
  have hplt := put_lt _ (by omega) _ h8n g hg
  have V1 : VSt (u2 s 3 (8 + q) (put1 (s 3 (8 + q)) g)) := set_V hV hq (w := 1) (by omega) (fun z => nomatch z) (fun _ => hplt) (fun z => nomatch z)
  have M1 : MR (u2 s 3 (8 + q) (put1 (s 3 (8 + q)) g)) (u2 I' 1 (11 + 5 * q + 1) (nI (put1 (s 3 (8 + q)) g)) 1) := set_M hV hM hq (w := 1) (by omega) (fun i hi => u2_ne _ _ (Or.inr hi)) (u2_eq _ _ _ _)
  have X1 : XR (u2 s 3 (8 + q) (put1 (s 3 (8 + q)) g)) (u2 I 3 (8 + q) (nI (put1 (s 3 (8 + q)) g))) := xrU hX _ (by omega)
  have e1 : u2 s 3 (8 + q) (put1 (s 3 (8 + q)) g) 3 (14 + p) = s 3 (14 + p) := u2_ne _ _ (Or.inr (by omega))
  have n1 : u2 s 3 (8 + q) (put1 (s 3 (8 + q)) g) 2 1 = s 2 1 := u2_ne _ _ (Or.inl (by omega))
  refine ⟨u2 (u2 s 3 (8 + q) (put1 (s 3 (8 + q)) g)) 3 (14 + p) (s 3 (14 + p) - s 5 g), u2 (u2 I 3 (8 + q) (nI (put1 (s 3 (8 + q)) g))) 3 (14 + p) (nI (s 3 (14 + p) - s 5 g)), u2 (u2 I' 1 (11 + 5 * q + 1) (nI (put1 (s 3 (8 + q)) g))) 1 (11 + 5 * p + 2) (nI (s 3 (14 + p) - s 5 g)), ?_, ?_, ?_, (u2_ne _ _ (Or.inl (by omega))).trans (u2_ne _ _ (Or.inl (by omega)))⟩
  · have r1 : u2 I 3 (8 + q) (nI (put1 (s 3 (8 + q)) g)) 3 (14 + p) = nI (s 3 (14 + p)) := (u2_ne _ _ (Or.inr (by omega))).trans hx14
    have r2 : u2 I 3 (8 + q) (nI (put1 (s 3 (8 + q)) g)) 5 g = nI (s 5 g) := (u2_ne _ _ (Or.inl (by decide))).trans hx5
    unfold x_teaches
    rw [show (8 : Int32) = nI 8 from rfl, show (14 : Int32) = nI 14 from rfl, show (1 : Int32) = nI 1 from rfl, show (31 : Int32) = nI 31 from rfl, pz_add, pz_add, pz_lt, pz_inb (show 8 + q < 141 by omega) (by omega), pz_ck, pz_ck, pz_ix (show 8 + q < 2 ^ 31 by omega), hx8, hput, pz_lt, pz_lt, pz_inb (show 14 + p < 141 by omega) (by omega), pz_ck, pz_inb (show g < 8 by omega) (by omega), pz_ck, pz_ck, pz_ix (show 14 + p < 2 ^ 31 by omega), pz_ix (show g < 2 ^ 31 by omega), r1, r2, pz_sub hl, pz_lt]
  · have g1 : m_get I' (nI q) 1 = some (nI (s 3 (8 + q))) := (pm_get I' (w := 1) (by omega) (by omega)).trans (by rw [mq.2.1])
    have p1 : m_put I' (nI q) 1 (nI (put1 (s 3 (8 + q)) g)) = some (u2 I' 1 (11 + 5 * q + 1) (nI (put1 (s 3 (8 + q)) g))) := pm_put I' (w := 1) _ (by omega) (by omega)
    have g2 : m_get (u2 I' 1 (11 + 5 * q + 1) (nI (put1 (s 3 (8 + q)) g))) (nI p) 2 = some (nI (s 3 (14 + p))) := (pm_get _ (w := 2) (by omega) (by omega)).trans (by rw [u2_ne _ _ (Or.inr (by omega)), mp.2.2])
    have l2 : m_lengthOf (u2 I' 1 (11 + 5 * q + 1) (nI (put1 (s 3 (8 + q)) g))) (nI g) = some (nI (s 5 g)) := (pm_lengthOf _ (by omega)).trans (by rw [u2_ne _ _ (Or.inr (by omega)), mf.2])
    have p2 : m_put (u2 I' 1 (11 + 5 * q + 1) (nI (put1 (s 3 (8 + q)) g))) (nI p) 2 (nI (s 3 (14 + p) - s 5 g)) = some (u2 (u2 I' 1 (11 + 5 * q + 1) (nI (put1 (s 3 (8 + q)) g))) 1 (11 + 5 * p + 2) (nI (s 3 (14 + p) - s 5 g))) := pm_put _ (w := 2) _ (by omega) (by omega)
    unfold m_teachNow
    rw [g1, pz_bs]
    rw [show nI (s 3 (8 + q)) ||| ((1 : Int32) <<< (nI g &&& 31)) = nI (put1 (s 3 (8 + q)) g) from hput, p1, pz_bs, g2, pz_bs, l2, pz_bs, pz_sub hl, p2]
    rfl
  · have V2 := set_V V1 (p := p) (w := 2) (v := s 3 (14 + p) - s 5 g) (by rw [n1]; exact hp) (by omega) (fun z => nomatch z) (fun z => nomatch z) (fun _ => by omega)
    have M2 := set_M (A1 := u2 (u2 I' 1 (11 + 5 * q + 1) (nI (put1 (s 3 (8 + q)) g))) 1 (11 + 5 * p + 2) (nI (s 3 (14 + p) - s 5 g)) 1) V1 M1 (p := p) (w := 2) (v := s 3 (14 + p) - s 5 g) (by rw [n1]; exact hp) (by omega) (fun i hi => u2_ne _ _ (Or.inr hi)) (u2_eq _ _ _ _)
    refine h.step ((fxU (by omega)).tr (fxU (by omega))) ((fmU (by omega)).tr (fmU (by omega))) V2 (xrU X1 _ (by omega)) M2 ?_ ?_
    · exact (u2_ne _ _ (Or.inl (by omega))).trans (u2_ne _ _ (Or.inl (by omega)))
    · exact (h.lea.of (by simp (disch := omega) only [pz_row, pz_at, pz_no]) (by simp (disch := omega) only [pz_row, pz_at, pz_no]) (by simp (disch := omega) only [pz_row, pz_at, pz_no]))
theorem CC.keeps (h : CC s si I T X tN I' J') : ∃ (I1 I1' : PI), xs_keeps I = some I1 ∧ m_keepStep I' = some I1' ∧ CC (keepS s) si I1 T X tN I1' J' := by
  have hV := h.1.1
  have v5 := hV.1.2.2.2.2.2.1
  obtain ⟨A, B, ea, eb, kV, kX, kM, kF, kB⟩ := pe_keeps hV h.1.2.2.1 h.1.2.2.2.2.1
  obtain ⟨k1, k2⟩ := keepS_ok s v5
  refine ⟨A, B, ea, eb, h.step kF ⟨fun k h1 h2 => kB k (by omega), by rw [kB 0 (by omega)], by rw [kB 0 (by omega)], by rw [kB 0 (by omega)], by rw [kB 0 (by omega)], rfl, rfl⟩ kV kX kM (k2 3 (by omega)) (h.lea.of (by rw [kB 0 (by omega)]) (by rw [kB 0 (by omega)]) (by rw [kB 0 (by omega)]))⟩
theorem pu_teach (h : CC s si I T X tN I' J') (f a t : Int32) : ∃ (r : Int32) (s1 : SN) (I1 I1' : PI) (J1' : PJ), x_teach I T X tN f a t = some (r, I1) ∧ m_teach I' J' f a t = some (r, I1', J1') ∧ isb r = true ∧ CC s1 si I1 T X tN I1' J1' ∧ s1 2 3 = s 2 3 := by
  obtain ⟨b, B, B', K', e1, e2, e3, e4, q⟩ := pe_canTeach h a f t
  have h1 := h.sy e3 e4
  unfold x_teach m_teach
  rw [e1, e2, pz_bs, pz_bs, pz_u2, pz_u3]
  cases b with
  | false =>
    exact ⟨0, s, B, B', K', rfl, rfl, rfl, h1, rfl⟩
  | true =>
    obtain ⟨p, z, g, hp, hz, hg, rfl, rfl, rfl, hl⟩ := q rfl
    obtain ⟨A, A', k1, k2, k3⟩ := h1.keeps
    have v5 := h.1.1.1.2.2.2.2.2.1
    obtain ⟨w1, w2⟩ := keepS_ok s v5
    obtain ⟨s1, D, D', d1, d2, d3, d4⟩ := pe_teaches k3 (p := p) (q := z) (g := g) (by rw [w2 1 (by omega)]; exact hp) (by rw [w2 1 (by omega)]; exact hz) (by rw [w2 0 (by omega)]; exact hg) (by rw [w1 5 (by omega) (by omega), w1 3 (by omega) (by omega)]; exact hl)
    rw [if_neg (by decide), if_neg (by decide), k1, k2, pz_bs, pz_bs, d1, d2]
    exact ⟨1, s1, D, D', K', rfl, rfl, rfl, d3, d4.trans (w2 3 (by omega))⟩
end TF

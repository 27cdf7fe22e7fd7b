/-! both readers: a doing -/
theorem m_in {a lo hi : Nat} (ha : a < 2 ^ 31) (hl : lo < 2 ^ 31) (hh : hi < 2 ^ 31) : m_isIn (nI a) (nI lo) (nI hi) = some (bI (decide (lo ≤ a ∧ a ≤ hi))) := by
  unfold m_isIn
  by_cases c1 : lo ≤ a
  · by_cases c2 : a ≤ hi
    · rw [decide_eq_true (show lo ≤ a ∧ a ≤ hi from ⟨c1, c2⟩)]
      simp [nI_leI, nI_ltI, ha, hl, hh, c1, c2, bI, pz_1, nI_le c1 ha, nI_le c2 hh, nI_nlt c1 ha, nI_nlt c2 hh]
    · rw [decide_eq_false (fun q => c2 q.2)]
      have : ¬ nI a ≤ nI hi := fun q => c2 ((nI_leI ha hh).mp q)
      have h2 : nI hi < nI a := nI_lt (by omega) ha
      simp [bI, nI_0, nI_le c1 ha, nI_nlt c1 ha, this, h2]
  · rw [decide_eq_false (fun q => c1 q.1)]
    have : ¬ nI lo ≤ nI a := fun q => c1 ((nI_leI hl ha).mp q)
    have h2 : nI a < nI lo := nI_lt (by omega) hl
    simp [bI, nI_0, this, h2]
section DO
variable {b : Nat → Nat} {n kd k o : Nat}
/-- some places of the texts change, and the token at hand -/
def FD (ps : List Nat) (I I1 : PI) : Prop := (∀ k, k ≠ 0 → k ≠ 3 → I1 k = I k) ∧ (∀ j, [12, 13, 14, 15].contains j = false → I1 0 j = I 0 j) ∧ ∀ j, ps.contains j = false → I1 3 j = I 3 j
theorem FD.rf {ps : List Nat} {I : PI} : FD ps I I := ⟨fun _ _ _ => rfl, fun _ _ => rfl, fun _ _ => rfl⟩
theorem FD.tr {ps : List Nat} {I I1 I2 : PI} (h : FD ps I I1) (g : FD ps I1 I2) : FD ps I I2 := ⟨fun k h1 h2 => (g.1 k h1 h2).trans (h.1 k h1 h2), fun j hj => (g.2.1 j hj).trans (h.2.1 j hj), fun j hj => (g.2.2 j hj).trans (h.2.2 j hj)⟩
theorem FD.mono {ps qs : List Nat} {I I1 : PI} (h : FD ps I I1) (hq : ∀ j, qs.contains j = false → ps.contains j = false) : FD qs I I1 := ⟨h.1, h.2.1, fun j hj => h.2.2 j (hq j hj)⟩
theorem fig2 (hb : ∀ j, j < n → b j < 256) {I I' : PI} {J' : PJ} (hI : XS b n kd k o I) (hM : MT b n k I' J') (hk : k ≤ n) {p lo hi : Nat} (hp : p < 2820) (hh : hi ≤ 9999) (hl : lo ≤ hi) :
    (∃ e, 1 ≤ e ∧ e ≤ 5 ∧ t_number (nI lo) (nI hi) I = some (I, (1, 8), .inr (nI e, nI (tks b n k).pl)) ∧ m_figure I' J' (nI p) (nI lo) (nI hi) = some (nI e, I', J')) ∨
    ∃ I1 I1' J1' a, lo ≤ a ∧ a ≤ hi ∧ k + 1 ≤ n ∧ t_number (nI lo) (nI hi) I = some (I1, (0, 0), .inl (nI a)) ∧ XS b n kd (k + 1) o I1 ∧ m_figure I' J' (nI p) (nI lo) (nI hi) = some (0, I1', J1') ∧ MT b n (k + 1) I1' J1' ∧ FD [p] I' I1' ∧ JOff J' J1' ∧ I1' 3 p = nI a := by
  have hnum := tks_num b n k
  have q1 := tok_k hb hM (c := 1) (s := 300) (Or.inr (Or.inl ⟨rfl, rfl⟩))
  unfold m_figure
  by_cases c : (tks b n k).sort = 300
  · have hx := xs_number hb hI c hh hl
    have e15 : I' 0 15 = nI (tks b n k).num := by
      have f2 : ∀ p ∈ smL, p.1 = 300 → p.2 = 1 := by decide +kernel
      exact hM.2.2.2.2.1 (f2 _ (tks_sm hb k) c)
    rw [if_pos (show I' 0 14 = 1 from q1.mpr c), e15, m_in (by omega) (by omega) (by omega), pz_bs]
    by_cases d : lo ≤ (tks b n k).num ∧ (tks b n k).num ≤ hi
    · rw [if_pos d] at hx
      obtain ⟨I1, r1, r2⟩ := hx
      rw [decide_eq_true d, if_neg (by decide), pz_inb hp (by omega), pz_ck, pz_ix (by omega), pz_lt]
      have hM2 : MT b n k (u2 I' 3 p (nI (tks b n k).num)) J' := hM.off (u2_row _ _ _ _ (by decide)) (fun j _ _ => pz_no _ _ (Or.inl (by decide)))
      obtain ⟨I1', J1', s1, s2, s3, s4⟩ := mt_next hb hM2
      rw [s1, pz_bs]
      refine Or.inr ⟨I1, I1', J1', _, d.1, d.2, tks_n hb (by omega), r1, r2, rfl, s2, ⟨fun k h1 h2 => (s3.1 k h1).trans (u2_row _ _ _ _ h2), fun j hj => (s3.2 j hj).trans (pz_no _ _ (Or.inl (by decide))), fun j hj => (congrFun (s3.1 3 (by decide)) j).trans (pz_no _ _ (Or.inr fun q => ?_))⟩, s4, (congrFun (s3.1 3 (by decide)) p).trans (pz_at _ _ rfl rfl)⟩
      rw [q] at hj
      simp at hj
    · rw [if_neg d] at hx
      rw [decide_eq_false d, if_pos (by decide)]
      exact Or.inl ⟨2, by omega, by omega, hx, rfl⟩
  · rw [if_neg (show ¬ I' 0 14 = 1 from fun q => c (q1.mp q))]
    exact Or.inl ⟨1, by omega, by omega, xs_number_no hb hI c _ _, rfl⟩
theorem wor2 (hb : ∀ j, j < n → b j < 256) {I I' : PI} {J' : PJ} (hI : XS b n kd k o I) (hM : MT b n k I' J') (hk : k ≤ n) {w p lo hi : Nat} (hw : w < 26) (hp : p < 2820) (hh : hi ≤ 9999) (hl : lo ≤ hi) :
    (∃ k2 e I1 I1' J1', k ≤ k2 ∧ k2 ≤ n ∧ 1 ≤ e ∧ e ≤ 5 ∧ t_behind (nI (200 + w)) (nI lo) (nI hi) I = some (I1, (1, 8), .inr (nI e, nI (tks b n k2).pl)) ∧ m_worded I' J' (lN (wkN w)) (nI p) (nI lo) (nI hi) = some (nI e, I1', J1') ∧ MT b n k2 I1' J1' ∧ FD [p] I' I1' ∧ JOff J' J1') ∨
    ∃ I1 I1' J1' a, lo ≤ a ∧ a ≤ hi ∧ k + 2 ≤ n ∧ t_behind (nI (200 + w)) (nI lo) (nI hi) I = some (I1, (0, 0), .inl (nI a)) ∧ XS b n kd (k + 2) o I1 ∧ m_worded I' J' (lN (wkN w)) (nI p) (nI lo) (nI hi) = some (0, I1', J1') ∧ MT b n (k + 2) I1' J1' ∧ FD [p] I' I1' ∧ JOff J' J1' ∧ I1' 3 p = nI a := by
  unfold m_worded t_behind
  rw [mt_word hb hM hw, pz_bs]
  by_cases c : (tks b n k).sort = 200 + w
  · rw [decide_eq_true c, if_neg (by decide)]
    obtain ⟨I1, r1, r2⟩ := xs_want hb hI c
    obtain ⟨I1', J1', s1, s2, s3, s4⟩ := mt_next hb hM
    have hk1 : k + 1 ≤ n := tks_n hb (by omega)
    rw [r1, tB_ok, tC_0, s1, pz_bs, pz_u2]
    have f1 : FD [p] I' I1' := ⟨fun k h1 h2 => s3.1 k h1, s3.2, fun j _ => congrFun (s3.1 3 (by decide)) j⟩
    rcases fig2 hb r2 s2 hk1 hp hh hl with ⟨e, e1, e2, e3, e4⟩ | ⟨I2, I2', J2', a, a1, a2, a3, a4, a5, a6, a7, a8, a9, a10⟩
    · rw [e3, e4]
      exact Or.inl ⟨k + 1, e, I1, I1', J1', by omega, hk1, e1, e2, rfl, rfl, s2, f1, s4⟩
    · rw [a4, a6]
      exact Or.inr ⟨I2, I2', J2', a, a1, a2, a3, rfl, a5, rfl, a7, f1.tr a8, s4.tr a9, a10⟩
  · rw [decide_eq_false c, if_pos (by decide), xs_want_no hb hI c (by omega), tB_th]
    exact Or.inl ⟨k, 1, I, I', J', Nat.le_refl _, hk, by omega, by omega, rfl, rfl, hM, FD.rf, JOff.rf⟩
/-- a doing by its numbers -/
def d5 (cl : Nat) (p : Nat × Nat × Nat × Nat) : D5 := (nI (200 + p.1), nI p.2.1, if p.1 = 4 ∨ p.1 = 8 then -1 else nI p.2.2.1, if p.1 = 5 then nI p.2.2.2 else -1, nI cl)
/-- what the reference holds of a clause, from a place on -/
def Rw (tx : Nat → Int32) (x : Nat) (p : Nat × Nat × Nat × Nat) : Prop := tx x = nI p.1 ∧ tx (x + 1) = nI p.2.1 ∧ (p.1 ≠ 4 → p.1 ≠ 8 → tx (x + 2) = nI p.2.2.1) ∧ (p.1 = 5 → tx (x + 3) = nI p.2.2.2)
def DoO (b : Nat → Nat) (n kd k cl s x : Nat) (I' : PI) (J' : PJ) (r : TR D5) (m : Option (Int32 × PI × PJ)) : Prop :=
  (∃ (k2 e : Nat) (I1 : PI) (c1 s1 : Nat) (I1' : PI) (J1' : PJ), k ≤ k2 ∧ k2 ≤ n ∧ 1 ≤ e ∧ e ≤ 5 ∧ r = some (I1, (c1, s1), .inr (nI e, nI (tks b n k2).pl)) ∧ c1 ≤ 2 ∧ s1 ≤ 13 ∧ m = some (nI e, I1', J1') ∧ MT b n k2 I1' J1' ∧ FD [x + 1, x + 2, x + 3] I' I1' ∧ JOff J' J1') ∨
  ∃ (k2 : Nat) (I1 : PI) (I1' : PI) (J1' : PJ) (p : Nat × Nat × Nat × Nat), k ≤ k2 ∧ k2 ≤ n ∧ p.1 = s ∧ p.2.1 < 10000 ∧ (s = 8 → 1 ≤ p.2.1 ∧ p.2.1 ≤ 60) ∧ r = some (I1, (1, 5), .inl (d5 cl p)) ∧ XS b n kd k2 0 I1 ∧ m = some (0, I1', J1') ∧ MT b n k2 I1' J1' ∧ FD [x + 1, x + 2, x + 3] I' I1' ∧ JOff J' J1' ∧ I1' 3 (x + 1) = nI p.2.1 ∧ (s ≠ 4 → s ≠ 8 → I1' 3 (x + 2) = nI p.2.2.1) ∧ (s = 5 → I1' 3 (x + 3) = nI p.2.2.2)
theorem ck3 {x : Nat} : ∀ j, [x + 1, x + 2, x + 3].contains j = false → [x + 1].contains j = false ∧ [x + 2].contains j = false ∧ [x + 3].contains j = false := by
  intro j hj
  simp at hj ⊢
  omega
theorem un3e {o : Option (Int32 × PI × PJ)} : (o.bind (un3 fun v I J => some (v, I, J))) = o := by cases o <;> rfl
/-- one number -/
theorem do_1 (hb : ∀ j, j < n → b j < 256) {I I' : PI} {J' : PJ} {cl s x lo hi : Nat} (hI : XS b n kd k 0 I) (hM : MT b n k I' J') (hk : k ≤ n) (hx : x + 3 < 2820) (hh : hi ≤ 9999) (hl : lo ≤ hi) (hs : s = 4 ∨ (s = 8 ∧ lo = 1 ∧ hi = 60)) (hkd : kd = 200 + s) : DoO b n kd k cl s x I' J' (t_d1 (nI lo) (nI hi) (nI cl) I) (m_figure I' J' (nI x + 1) (nI lo) (nI hi)) := by
  rw [show (1 : Int32) = nI 1 from rfl, pz_add]
  unfold t_d1
  rcases fig2 hb hI hM hk (p := x + 1) (by omega) hh hl with ⟨e, e1, e2, e3, e4⟩ | ⟨I1, I1', J1', a, a1, a2, a3, a4, a5, a6, a7, a8, a9, a10⟩
  · rw [e3, e4, tB_th, tC_s]
    exact Or.inl ⟨k, e, I, _, _, I', J', Nat.le_refl _, hk, e1, e2, rfl, by omega, by omega, rfl, hM, FD.rf, JOff.rf⟩
  · rw [a4, a6, tB_ok, tC_0, tC_ok, hI.2.2]
    refine Or.inr ⟨k + 1, I1, I1', J1', (s, a, 0, 0), by omega, a3, rfl, by dsimp only; omega, fun q => by dsimp only; omega, ?_, a5, rfl, a7, a8.mono fun j hj => (ck3 j hj).1, a9, a10, fun q1 q2 => by omega, fun q => by omega⟩
    unfold d5
    dsimp only
    rw [if_pos (by omega), if_neg (by omega), hkd]
/-- two numbers, a word between -/
theorem do_2 (hb : ∀ j, j < n → b j < 256) {I I' : PI} {J' : PJ} {cl s x hi w lo2 hi2 : Nat} (hI : XS b n kd k 0 I) (hM : MT b n k I' J') (hk : k ≤ n) (hx : x + 3 < 2820) (hh : hi ≤ 9999) (hw : w < 26) (hh2 : hi2 ≤ 9999) (hl2 : lo2 ≤ hi2) (hs : s = 2 ∨ s = 3 ∨ s = 6 ∨ s = 7) (hkd : kd = 200 + s) : DoO b n kd k cl s x I' J' (tB (t_number 0 (nI hi) I) (t_d2 (nI (200 + w)) (nI lo2) (nI hi2) (nI cl))) (m_pair I' J' (nI x) (nI hi) (lN (wkN w)) (nI lo2) (nI hi2)) := by
  unfold m_pair
  rw [show (1 : Int32) = nI 1 from rfl, show (2 : Int32) = nI 2 from rfl, pz_add, pz_add, show (0 : Int32) = nI 0 from rfl]
  rcases fig2 hb hI hM hk (p := x + 1) (lo := 0) (by omega) hh (by omega) with ⟨e, e1, e2, e3, e4⟩ | ⟨I1, I1', J1', a, a1, a2, a3, a4, a5, a6, a7, a8, a9, a10⟩
  · rw [e3, e4, tB_th, pz_bs, pz_u3, if_neg (show ¬ nI e = nI 0 from nI_ne0 (by omega) (by omega))]
    exact Or.inl ⟨k, e, I, _, _, I', J', Nat.le_refl _, hk, e1, e2, rfl, by omega, by omega, rfl, hM, FD.rf, JOff.rf⟩
  · rw [a4, a6, tB_ok, tC_0, pz_bs, pz_u3, if_pos (show (0 : Int32) = nI 0 from rfl), un3e]
    unfold t_d2
    have f8 := a8.mono (qs := [x + 1, x + 2, x + 3]) fun j hj => (ck3 j hj).1
    rcases wor2 hb a5 a7 a3 hw (p := x + 2) (by omega) hh2 hl2 with ⟨k2, e, I2, I2', J2', b1, b2, b3, b4, b5, b6, b7, b8, b9⟩ | ⟨I2, I2', J2', c, b1, b2, b3, b4, b5, b6, b7, b8, b9, b10⟩
    · rw [b5, b6, tB_th, tC_s]
      exact Or.inl ⟨k2, e, I2, _, _, I2', J2', by omega, b2, b3, b4, rfl, by omega, by omega, rfl, b7, f8.tr (b8.mono fun j hj => (ck3 j hj).2.1), a9.tr b9⟩
    · rw [b4, b6, tB_ok, tC_0, tC_ok, a5.2.2]
      refine Or.inr ⟨k + 1 + 2, I2, I2', J2', (s, a, c, 0), by omega, b3, rfl, by dsimp only; omega, fun q => by omega, ?_, b5, rfl, b7, f8.tr (b8.mono fun j hj => (ck3 j hj).2.1), a9.tr b9, (b8.2.2 (x + 1) (by simp)).trans a10, fun _ _ => b10, fun q => by omega⟩
      unfold d5
      dsimp only
      rw [if_neg (by omega), if_neg (by omega), hkd]
/-- teaching: three numbers -/
theorem do_3 (hb : ∀ j, j < n → b j < 256) {I I' : PI} {J' : PJ} {cl x : Nat} (hI : XS b n kd k 0 I) (hM : MT b n k I' J') (hk : k ≤ n) (hx : x + 3 < 2820) (hkd : kd = 205) : DoO b n kd k cl 5 x I' J' (tB (t_number 0 7 I) fun I1 a => tB (t_behind 211 0 5 I1) fun I2 b => tC 1 5 (tB (t_behind 212 0 5 I2) fun I3 c => tOk I3 (I2 0 7, a, b, c, nI cl))) ((m_pair I' J' (nI x) 7 (lN (wkN 11)) 0 5).bind <| un3 fun v13 I14 J15 => if v13 = (0 : Int32) then ((m_worded I14 J15 (lN (wkN 12)) (nI x + 3) 0 5).bind <| un3 fun v17 I18 J19 => some (v17, I18, J19)) else some (v13, I14, J15)) := by
  unfold m_pair
  rw [show (7 : Int32) = nI 7 from rfl, show (5 : Int32) = nI 5 from rfl, show (1 : Int32) = nI 1 from rfl, show (2 : Int32) = nI 2 from rfl, show (3 : Int32) = nI 3 from rfl, pz_add, pz_add, pz_add, show (0 : Int32) = nI 0 from rfl, show (211 : Int32) = nI (200 + 11) from rfl, show (212 : Int32) = nI (200 + 12) from rfl]
  rcases fig2 hb hI hM hk (p := x + 1) (lo := 0) (hi := 7) (by omega) (by omega) (by omega) with ⟨e, e1, e2, e3, e4⟩ | ⟨I1, I1', J1', a, a1, a2, a3, a4, a5, a6, a7, a8, a9, a10⟩
  · rw [e3, e4, tB_th, pz_bs, pz_u3, if_neg (show ¬ nI e = nI 0 from nI_ne0 (by omega) (by omega)), pz_bs, pz_u3, if_neg (show ¬ nI e = nI 0 from nI_ne0 (by omega) (by omega))]
    exact Or.inl ⟨k, e, I, _, _, I', J', Nat.le_refl _, hk, e1, e2, rfl, by omega, by omega, rfl, hM, FD.rf, JOff.rf⟩
  · rw [a4, a6, tB_ok, tC_0, pz_bs, pz_u3, if_pos (show (0 : Int32) = nI 0 from rfl), un3e]
    have f8 := a8.mono (qs := [x + 1, x + 2, x + 3]) fun j hj => (ck3 j hj).1
    rcases wor2 hb a5 a7 a3 (w := 11) (lo := 0) (hi := 5) (by omega) (p := x + 2) (by omega) (by omega) (by omega) with ⟨k2, e, I2, I2', J2', b1, b2, b3, b4, b5, b6, b7, b8, b9⟩ | ⟨I2, I2', J2', c, b1, b2, b3, b4, b5, b6, b7, b8, b9, b10⟩
    · rw [b5, b6, tB_th, pz_bs, pz_u3, if_neg (show ¬ nI e = nI 0 from nI_ne0 (by omega) (by omega))]
      exact Or.inl ⟨k2, e, I2, _, _, I2', J2', by omega, b2, b3, b4, rfl, by omega, by omega, rfl, b7, f8.tr (b8.mono fun j hj => (ck3 j hj).2.1), a9.tr b9⟩
    · rw [b4, b6, tB_ok, tC_0, pz_bs, pz_u3, if_pos (show (0 : Int32) = nI 0 from rfl), un3e]
      have f9 := f8.tr (b8.mono (qs := [x + 1, x + 2, x + 3]) fun j hj => (ck3 j hj).2.1)
      rcases wor2 hb b5 b7 b3 (w := 12) (lo := 0) (hi := 5) (by omega) (p := x + 3) (by omega) (by omega) (by omega) with ⟨k2, e, I3, I3', J3', c1, c2, c3, c4, c5, c6, c7, c8, c9⟩ | ⟨I3, I3', J3', d, c1, c2, c3, c4, c5, c6, c7, c8, c9, c10⟩
      · rw [c5, c6, tB_th, tC_s]
        exact Or.inl ⟨k2, e, I3, _, _, I3', J3', by omega, c2, c3, c4, rfl, by omega, by omega, rfl, c7, f9.tr (c8.mono fun j hj => (ck3 j hj).2.2), (a9.tr b9).tr c9⟩
      · rw [c4, c6, tB_ok, tC_0, tC_ok, b5.2.2]
        refine Or.inr ⟨k + 1 + 2 + 2, I3, I3', J3', (5, a, c, d), by omega, c3, rfl, by dsimp only; omega, fun q => by omega, ?_, c5, rfl, c7, f9.tr (c8.mono fun j hj => (ck3 j hj).2.2), (a9.tr b9).tr c9, (c8.2.2 (x + 1) (by simp)).trans ((b8.2.2 (x + 1) (by simp)).trans a10), fun _ _ => (c8.2.2 (x + 2) (by simp)).trans b10, fun _ => c10⟩
        unfold d5
        dsimp only
        rw [if_neg (by omega), if_pos rfl, hkd]
end DO

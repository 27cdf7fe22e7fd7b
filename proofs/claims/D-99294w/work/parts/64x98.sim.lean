/-! both readers side by side: what is said of a part -/
theorem tks_srt {b : Nat → Nat} {n : Nat} (hb : ∀ j, j < n → b j < 256) (k : Nat) : (tks b n k).sort < 305 := by
  have f : ∀ p ∈ smL, p.1 < 305 := by decide +kernel
  exact f _ (tks_sm hb k)
section XW
variable {b : Nat → Nat} {n kd k o : Nat} {I : PI}
theorem xs_want (hb : ∀ j, j < n → b j < 256) (h : XS b n kd k o I) {w : Nat} (hw : (tks b n k).sort = w) : ∃ I1, t_want (nI w) I = some (I1, (0, 0), .inl ()) ∧ XS b n kd (k + 1) o I1 := by
  obtain ⟨I1, q1, q2⟩ := xs_next hb h
  refine ⟨I1, ?_, q2⟩
  unfold t_want
  rw [if_pos (by rw [h.1.2.2.2.1, hw]), q1]
  rfl
theorem xs_want_no (hb : ∀ j, j < n → b j < 256) (h : XS b n kd k o I) {w : Nat} (hw : (tks b n k).sort ≠ w) (hw2 : w < 305) : t_want (nI w) I = some (I, (1, 8), .inr (nI 1, nI (tks b n k).pl)) := by
  have := tks_srt hb k
  unfold t_want
  rw [if_neg (by rw [h.1.2.2.2.1]; exact fun q => hw ((nI_eq (by omega) (by omega)).mp q))]
  unfold tThrow
  rw [h.1.2.2.1]
  rfl
theorem xs_number (hb : ∀ j, j < n → b j < 256) (h : XS b n kd k o I) (hs : (tks b n k).sort = 300) {lo hi : Nat} (hh : hi ≤ 9999) (hl : lo ≤ hi) : if lo ≤ (tks b n k).num ∧ (tks b n k).num ≤ hi then ∃ I1, t_number (nI lo) (nI hi) I = some (I1, (0, 0), .inl (nI (tks b n k).num)) ∧ XS b n kd (k + 1) o I1 else t_number (nI lo) (nI hi) I = some (I, (1, 8), .inr (nI 2, nI (tks b n k).pl)) := by
  have hn := tks_num b n k
  have e5 := h.1.2.2.2.2 hs
  have e2 : (tThrow I 2 : TR Int32) = some (I, (1, 8), .inr (nI 2, nI (tks b n k).pl)) := by
    unfold tThrow
    rw [h.1.2.2.1]
    rfl
  unfold t_number
  rw [if_pos (show I 0 4 = 300 from by rw [h.1.2.2.2.1, hs]; rfl), e5, e2]
  by_cases c1 : lo ≤ (tks b n k).num
  · rw [if_neg (show ¬ nI (min 99999 (tks b n k).num) < nI lo from fun q => absurd ((nI_ltI (by omega) (by omega)).mp q) (by omega))]
    by_cases c2 : (tks b n k).num ≤ hi
    · rw [if_pos ⟨c1, c2⟩, if_neg (show ¬ nI hi < nI (min 99999 (tks b n k).num) from fun q => absurd ((nI_ltI (by omega) (by omega)).mp q) (by omega))]
      obtain ⟨I1, q1, q2⟩ := xs_next hb h
      refine ⟨I1, ?_, q2⟩
      rw [q1, show min 99999 (tks b n k).num = (tks b n k).num by omega]
      rfl
    · rw [if_neg (show ¬ (lo ≤ (tks b n k).num ∧ (tks b n k).num ≤ hi) from fun q => c2 q.2), if_pos ((nI_ltI (by omega) (by omega)).mpr (by omega))]
  · rw [if_pos ((nI_ltI (by omega) (by omega)).mpr (by omega)), if_neg (show ¬ (lo ≤ (tks b n k).num ∧ (tks b n k).num ≤ hi) from fun q => c1 q.1)]
theorem xs_number_no (hb : ∀ j, j < n → b j < 256) (h : XS b n kd k o I) (hs : (tks b n k).sort ≠ 300) (lo hi : Int32) : t_number lo hi I = some (I, (1, 8), .inr (nI 1, nI (tks b n k).pl)) := by
  have := tks_srt hb k
  unfold t_number
  rw [if_neg (by rw [h.1.2.2.2.1]; exact fun q => hs ((nI_eq (b := 300) (by omega) (by omega)).mp q))]
  unfold tThrow
  rw [h.1.2.2.1]
  rfl
theorem xs_opens (hb : ∀ j, j < n → b j < 256) (h : XS b n kd k o I) (ho : o ≤ 8) : if o = 8 then t_opens I = some (I, (1, 8), .inr (nI 3, nI (tks b n k).pl)) else ∃ I1, t_opens I = some (I1, (0, 0), .inl ()) ∧ XS b n kd (k + 1) (o + 1) I1 := by
  unfold t_opens
  rw [h.2.1]
  by_cases c : o = 8
  · rw [if_pos c, if_pos (by rw [c]; rfl)]
    unfold tThrow
    rw [h.1.2.2.1]
    rfl
  · rw [if_neg c, if_neg (show ¬ nI o = 8 from fun q => c ((nI_eq (b := 8) (by omega) (by omega)).mp q)), show (1 : Int32) = nI 1 from rfl, pz_add]
    obtain ⟨I1, q1, q2⟩ := xs_next hb (h.open6 (o1 := o + 1))
    exact ⟨I1, by rw [q1]; rfl, q2⟩
theorem xs_shut (h : XS b n kd k (o + 1) I) : XS b n kd k o (t_shut I) := by
  unfold t_shut
  rw [h.2.1, show (1 : Int32) = nI 1 from rfl, pz_sub (by omega), show o + 1 - 1 = o by omega]
  exact h.open6
end XW
/-- the rest of the reference's loop -/
def mS (F : Nat) (I : PI) (J : PJ) : Option (Int32 × PI × PJ) :=
  lbind (m_summed_l15 F I J) (some) <| un2 fun I6 J7 =>
  (m_openNow I6).bind <| fun v14 =>
  if v14 < (0 : Int32) then (
    (m_settle I6 (1 : Int32)).bind <| fun I15 =>
    some ((0 : Int32), I15, J7))
  else (
    some ((1 : Int32), I6, J7))
def em (Q : List Nat) : List (Nat × Nat) := Q.map fun x => (x, 0)
def RlQ (r : Nat) (P : List Nat) (D : List (Nat × Nat)) (P1 : List Nat) (C1 : List (Nat × Nat)) : Prop := ∃ Q, P1 = Q ++ P ∧ (∀ x ∈ Q, r ≤ rk x) ∧ C1 ++ em Q = D
def Rl7 (P : List Nat) (D : List (Nat × Nat)) (P1 : List Nat) (C1 : List (Nat × Nat)) : Prop := P1 = (stl 7 P D).1 ∧ C1 = (stl 7 P D).2
def tlt (r : Nat) : List Nat → Prop
  | [] => True
  | x :: _ => rk x < r
theorem stl_tlt {r : Nat} {P : List Nat} (h : tlt r P) (D : List (Nat × Nat)) : stl r P D = (P, D) := by
  cases P with
  | nil => rfl
  | cons x P =>
    rw [stl, if_neg (show ¬ r ≤ rk x from Nat.not_le.mpr h)]
theorem stl_app {r : Nat} : ∀ (Q : List Nat) {P : List Nat} {C : List (Nat × Nat)}, (∀ x ∈ Q, r ≤ rk x) → stl r (Q ++ P) C = stl r P (C ++ em Q)
  | [], P, C, _ => by
    show stl r P C = stl r P (C ++ [])
    rw [List.append_nil]
  | x :: Q, P, C, h => by
    show stl r (x :: (Q ++ P)) C = stl r P (C ++ ((x, 0) :: em Q))
    rw [stl, if_pos (h x List.mem_cons_self), stl_app Q (fun y hy => h y (List.mem_cons_of_mem _ hy)), List.append_assoc]
    rfl
section SIM
variable (b : Nat → Nat) (n t kc : Nat) (I0 : PI) (J0 : PJ)
/-- a fault of both, at the same token -/
def Flt {α : Type} (fa p q k : Nat) (I' : PI) (J' : PJ) (r : TR α) : Prop := ∃ (k1 e : Nat) (I1 : PI) (c s : Nat) (I1' : PI) (J1' : PJ) (P1 : List Nat) (C1 : List (Nat × Nat)) (w1 : Nat), k ≤ k1 ∧ k1 ≤ n ∧ 1 ≤ e ∧ e ≤ 5 ∧ r = some (I1, (c, s), .inr (nI e, nI (tks b n k1).pl)) ∧ c ≤ 32 * (k1 - k) + fa ∧ s + p ≤ 128 * (k1 - k) + q ∧ (∀ F, mS (F + (k1 - k) + 1) I' J' = some (nI e, I1', J1')) ∧ MC b n t kc I0 J0 k1 P1 C1 w1 I1' J1'
/-- a part read by both -/
def Gd (Rl : List Nat → List (Nat × Nat) → List Nat → List (Nat × Nat) → Prop) (NX : Nat → Prop) (PP : List Nat → Prop) (Mn : List (Nat × Nat) → Sem → Prop) (ga p q k o : Nat) (P : List Nat) (C : List (Nat × Nat)) (I' : PI) (J' : PJ) (r : TR Sem) : Prop := ∃ (k1 : Nat) (I1 : PI) (c s : Nat) (S : Sem) (its : List (Nat × Nat)) (P1 : List Nat) (C1 : List (Nat × Nat)) (I1' : PI) (J1' : PJ), k ≤ k1 ∧ k1 ≤ n ∧ r = some (I1, (c, s), .inl S) ∧ XS b n (200 + kc) k1 o I1 ∧ c ≤ 32 * (k1 - k) + ga ∧ s + p ≤ 128 * (k1 - k) + q ∧ (∀ F, mS (F + (k1 - k)) I' J' = mS F I1' J1') ∧ MC b n t kc I0 J0 k1 P1 C1 1 I1' J1' ∧ Rl P (C ++ its) P1 C1 ∧ Mn its S ∧ NX (tks b n k1).sort ∧ PP P1 ∧ P1.length ≤ 60 ∧ C1.length + P1.length ≤ k1
def HS (f : PI → TR Sem) (o pc fa fb ga gb : Nat) (Pre : Nat → List Nat → Prop) (Rl : List Nat → List (Nat × Nat) → List Nat → List (Nat × Nat) → Prop) (NX : Nat → Prop) (PP : List Nat → Prop) (Mn : List (Nat × Nat) → Sem → Prop) : Prop := ∀ (k : Nat) (I I' : PI) (J' : PJ) (P : List Nat) (C : List (Nat × Nat)), XS b n (200 + kc) k o I → MC b n t kc I0 J0 k P C 0 I' J' → cnt P = o → P.length ≤ 6 * o + pc → C.length + P.length ≤ k → k ≤ n → Pre (tks b n k).sort P → Flt b n t kc I0 J0 fa 0 fb k I' J' (f I) ∨ Gd b n t kc I0 J0 Rl NX PP Mn ga 0 gb k o P C I' J' (f I)
variable {b n t kc I0 J0}
theorem Flt.bB {α β : Type} {fa p q k : Nat} {I' : PI} {J' : PJ} {r : TR α} (h : Flt b n t kc I0 J0 fa p q k I' J' r) (g : PI → α → TR β) : Flt b n t kc I0 J0 fa p q k I' J' (tB r g) := by
  obtain ⟨k1, e, I1, c, s, I1', J1', P1, C1, w1, h1, h2, h3, h4, h5, h6⟩ := h
  exact ⟨k1, e, I1, c, s, I1', J1', P1, C1, w1, h1, h2, h3, h4, by rw [h5]; rfl, h6⟩
theorem Flt.cC {α : Type} {fa p q k : Nat} {I' : PI} {J' : PJ} {r : TR α} (h : Flt b n t kc I0 J0 fa p q k I' J' r) (c0 s0 : Nat) : Flt b n t kc I0 J0 (fa + c0) p (q + s0) k I' J' (tC c0 s0 r) := by
  obtain ⟨k1, e, I1, c, s, I1', J1', P1, C1, w1, h1, h2, h3, h4, h5, h6, h7, h8⟩ := h
  exact ⟨k1, e, I1, c0 + c, s0 + s, I1', J1', P1, C1, w1, h1, h2, h3, h4, by rw [h5]; rfl, by omega, by omega, h8⟩
theorem Flt.go {α : Type} {fa p q fa' p' q' k k2 : Nat} {I' I2' : PI} {J' J2' : PJ} {r : TR α} (h : Flt b n t kc I0 J0 fa p q k2 I2' J2' r) (hk : k ≤ k2) (hr : ∀ F, mS (F + (k2 - k)) I' J' = mS F I2' J2') (ha : fa ≤ fa' + 32 * (k2 - k)) (hq : q + p' ≤ q' + 128 * (k2 - k) + p) : Flt b n t kc I0 J0 fa' p' q' k I' J' r := by
  obtain ⟨k1, e, I1, c, s, I1', J1', P1, C1, w1, h1, h2, h3, h4, h5, h6, h7, h8, h9⟩ := h
  refine ⟨k1, e, I1, c, s, I1', J1', P1, C1, w1, by omega, h2, h3, h4, h5, by omega, by omega, fun F => ?_, h9⟩
  rw [← h8 F, ← hr, show F + (k1 - k) + 1 = F + (k1 - k2) + 1 + (k2 - k) by omega]
theorem Flt.le {α : Type} {fa p q fa' p' q' k : Nat} {I' : PI} {J' : PJ} {r : TR α} (h : Flt b n t kc I0 J0 fa p q k I' J' r) (ha : fa ≤ fa') (hq : q + p' ≤ q' + p) : Flt b n t kc I0 J0 fa' p' q' k I' J' r := h.go (Nat.le_refl _) (fun F => by rw [Nat.sub_self]; rfl) (by omega) (by omega)
theorem tB_ok {α β : Type} (I1 : PI) (c s : Nat) (a : α) (g : PI → α → TR β) : tB (some (I1, (c, s), .inl a)) g = tC c s (g I1 a) := rfl
theorem tB_th {α β : Type} (I1 : PI) (m : Nat × Nat) (w : Int32 × Int32) (g : PI → α → TR β) : tB (some (I1, m, .inr w)) g = some (I1, m, .inr w) := rfl
theorem tC_tC {α : Type} (a b c d : Nat) (r : TR α) : tC a b (tC c d r) = tC (a + c) (b + d) r := by
  cases r with
  | none => rfl
  | some r =>
    show some (r.1, (a + (c + r.2.1.1), b + (d + r.2.1.2)), r.2.2) = some (r.1, (a + c + r.2.1.1, b + d + r.2.1.2), r.2.2)
    rw [Nat.add_assoc, Nat.add_assoc]
theorem tC_0 {α : Type} (r : TR α) : tC 0 0 r = r := by
  cases r with
  | none => rfl
  | some r =>
    show some (r.1, (0 + r.2.1.1, 0 + r.2.1.2), r.2.2) = some r
    rw [Nat.zero_add, Nat.zero_add]
theorem tC_s {α : Type} (a b c d : Nat) (I1 : PI) (v : α ⊕ (Int32 × Int32)) : tC a b (some (I1, (c, d), v)) = some (I1, (a + c, b + d), v) := rfl
/-! the reference's loop by steps -/
variable {k : Nat} {P : List Nat} {C : List (Nat × Nat)} {I I1 : PI} {J J1 : PJ}
theorem mS_b (h : MC b n t kc I0 J0 k P C 0 I J) (hs : m_beginOne I J = some (0, I1, J1)) (F : Nat) : mS (F + 1) I J = mS F I1 J1 := by
  unfold mS
  congr 1
  show m_summed_b15 (m_summed_l15 F) I J = _
  unfold m_summed_b15
  rw [h.2.1.2.2.2.2.2, if_pos (show nI 0 = 0 from rfl), hs, pz_bs, pz_u3, if_pos rfl]
theorem mS_bf {e : Nat} (h : MC b n t kc I0 J0 k P C 0 I J) (he : 1 ≤ e ∧ e ≤ 5) (hs : m_beginOne I J = some (nI e, I1, J1)) (F : Nat) : mS (F + 1) I J = some (nI e, I1, J1) := by
  unfold mS
  rw [show m_summed_l15 (F + 1) I J = m_summed_b15 (m_summed_l15 F) I J from rfl]
  unfold m_summed_b15
  rw [h.2.1.2.2.2.2.2, if_pos (show nI 0 = 0 from rfl), hs, pz_bs, pz_u3, if_neg (nI_ne0 (by omega) (by omega)), pz_lbl]
theorem mS_c (h : MC b n t kc I0 J0 k P C 1 I J) (hs : m_behindOne I J = some (1, I1, J1)) (F : Nat) : mS (F + 1) I J = mS F I1 J1 := by
  unfold mS
  congr 1
  show m_summed_b15 (m_summed_l15 F) I J = _
  unfold m_summed_b15
  rw [h.2.1.2.2.2.2.2, if_neg (show ¬ nI 1 = 0 by decide), hs, pz_bs, pz_u3, if_neg (by decide)]
/-- where no part goes on: a stray token within what is open -/
theorem mS_st (h : MC b n t kc I0 J0 k P C 1 I J) (hp : P.length < 160) (hs : m_behindOne I J = some (0, I, J)) (ho : onow P ≠ 99) (F : Nat) : mS (F + 1) I J = some (nI 1, I, J) := by
  unfold mS
  rw [show m_summed_l15 (F + 1) I J = m_summed_b15 (m_summed_l15 F) I J from rfl]
  unfold m_summed_b15
  rw [h.2.1.2.2.2.2.2, if_neg (show ¬ nI 1 = 0 by decide), hs, pz_bs, pz_u3, if_pos rfl, pz_lbr, pz_u2, m_oNow h hp, pz_bs]
  have : onow P < 44 ∧ oN (onow P) = nI (onow P) := by
    rcases oN_cases h.2.2.1 with e | e | e | e | e
    · exact absurd e ho
    all_goals rw [e]; exact ⟨by decide, rfl⟩
  rw [this.2, if_neg (nI_pos (by omega))]
  rfl
/-- the end of a sum -/
theorem mS_end (ht : t < 4) (h : MC b n t kc I0 J0 k P C 1 I J) (hp : P.length < 160) (hl : C.length + P.length ≤ 304) (hs : m_behindOne I J = some (0, I, J)) (ho : onow P = 99) (F : Nat) : ∃ I2, mS (F + 1) I J = some (nI 0, I2, J) ∧ MC b n t kc I0 J0 k (stl 1 P C).1 (stl 1 P C).2 1 I2 J := by
  obtain ⟨I2, q1, q2⟩ := m_stl ht (r := 1) (by decide) (by decide) h hl hp
  refine ⟨I2, ?_, q2⟩
  unfold mS
  rw [show m_summed_l15 (F + 1) I J = m_summed_b15 (m_summed_l15 F) I J from rfl]
  unfold m_summed_b15
  rw [h.2.1.2.2.2.2.2, if_neg (show ¬ nI 1 = 0 by decide), hs, pz_bs, pz_u3, if_pos rfl, pz_lbr, pz_u2, m_oNow h hp, pz_bs, ho, show oN 99 = (-1 : Int32) from rfl, if_pos (by decide), show (1 : Int32) = nI 1 from rfl, q1]
  rfl
end SIM

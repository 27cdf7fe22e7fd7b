/-! both readers side by side: askings joined -/
section SJ
variable {b : Nat → Nat} {n t kc : Nat} {I0 : PI} {J0 : PJ}
theorem onow_app : ∀ (Q : List Nat) {P : List Nat}, (∀ x ∈ Q, 1 ≤ rk x) → onow (Q ++ P) = onow P
  | [], _, _ => rfl
  | x :: Q, P, h => by
    show onow (x :: (Q ++ P)) = _
    have hx : ¬ 40 ≤ x := by
      intro q
      have := h x List.mem_cons_self
      unfold rk at this
      rw [if_pos q] at this
      omega
    rw [onow, if_neg hx]
    exact onow_app Q fun y hy => h y (List.mem_cons_of_mem _ hy)
def jT (a nn c : Nat) : Bool := if a = 0 then decide (0 < c) else decide (c = nn)
def JI (a nn : Nat) (its : List (Nat × Nat)) (G0 : Sem) (Cn : (Nat → Int32) → Nat) : Prop := ItV its ∧ (∀ v vs ts, rnI v its (vs, ts) = some (vs, jT a nn (Cn v) :: ts)) ∧ (∀ v, Cn v ≤ nn) ∧ (nn = 1 → ∀ v, (G0 v = 0 ∨ G0 v = 1) ∧ Cn v = if G0 v = 1 then 1 else 0) ∧ 1 ≤ nn
theorem JI.start {a : Nat} {its : List (Nat × Nat)} {G : Sem} (h : MnA its G) : JI a 1 its G (fun v => if G v = 1 then 1 else 0) := by
  refine ⟨h.1, fun v vs ts => ?_, fun v => ?_, fun _ v => ⟨h.2.2 v, rfl⟩, Nat.le_refl _⟩
  · rw [h.2.1]
    show some (vs, decide (G v = 1) :: ts) = some (vs, jT a 1 (if G v = 1 then 1 else 0) :: ts)
    by_cases c : G v = 1
    · rw [if_pos c, decide_eq_true c]
      unfold jT
      split <;> rfl
    · rw [if_neg c, decide_eq_false c]
      unfold jT
      split <;> rfl
  · dsimp only
    split <;> omega
theorem JI.next {a nn op : Nat} {its its2 : List (Nat × Nat)} {G0 G : Sem} {Cn : (Nat → Int32) → Nat} (h : JI a nn its G0 Cn) (g : MnA its2 G) (ho : (a = 0 ∧ op = 22) ∨ (a = 1 ∧ op = 21)) : JI a (nn + 1) (its ++ its2 ++ [(op, 0)]) G0 (fun v => Cn v + if G v = 1 then 1 else 0) := by
  obtain ⟨h1, h2, h3, h4, h5⟩ := h
  refine ⟨(h1.app g.1).app (ItV.one ⟨by omega, by omega, fun q => by omega⟩), fun v vs ts => ?_, fun v => ?_, fun q => by omega, by omega⟩
  · rw [rnI_app, rnI_app, h2]
    show ((rnI v its2 (vs, jT a nn (Cn v) :: ts)).bind (rnI v [(op, 0)])) = _
    rw [g.2.1]
    show (stI v (op, 0) (vs, decide (G v = 1) :: jT a nn (Cn v) :: ts)).bind (rnI v []) = _
    have := h3 v
    unfold stI jT
    rcases ho with ⟨rfl, rfl⟩ | ⟨rfl, rfl⟩
    · show some (vs, (decide (0 < Cn v) || decide (G v = 1)) :: ts) = some (vs, decide (0 < Cn v + if G v = 1 then 1 else 0) :: ts)
      congr 3
      by_cases c : G v = 1
      · rw [if_pos c, decide_eq_true c, Bool.or_true]
        exact (decide_eq_true (by omega)).symm
      · rw [if_neg c, decide_eq_false c, Bool.or_false]
        rfl
    · show some (vs, (decide (Cn v = nn) && decide (G v = 1)) :: ts) = some (vs, decide (Cn v + (if G v = 1 then 1 else 0) = nn + 1) :: ts)
      congr 3
      by_cases c : G v = 1
      · rw [if_pos c, decide_eq_true c, Bool.and_true]
        exact decide_eq_decide.mpr (by omega)
      · rw [if_neg c, decide_eq_false c, Bool.and_false]
        exact (decide_eq_false (by omega)).symm
  · have := h3 v
    dsimp only
    split <;> omega
theorem JI.end1 {a : Nat} {its : List (Nat × Nat)} {G0 : Sem} {Cn : (Nat → Int32) → Nat} (h : JI a 1 its G0 Cn) : MnA its G0 := by
  obtain ⟨h1, h2, h3, h4, h5⟩ := h
  refine ⟨h1, fun v vs ts => ?_, fun v => (h4 rfl v).1⟩
  rw [h2, (h4 rfl v).2]
  unfold jT
  by_cases c : G0 v = 1
  · rw [if_pos c, decide_eq_true c]
    split <;> rfl
  · rw [if_neg c, decide_eq_false c]
    split <;> rfl
theorem b2l_1 (c : Bool) : decide (b2l c = 1) = c := by cases c <;> rfl
theorem b2l_01 (c : Bool) : b2l c = 0 ∨ b2l c = 1 := by cases c <;> simp [b2l]
theorem JI.end2 {a nn : Nat} {its : List (Nat × Nat)} {G0 : Sem} {Cn : (Nat → Int32) → Nat} (h : JI a nn its G0 Cn) (ha : a < 2) : MnA its (fun v => b2l (if nI a = 0 then decide (0 < Cn v) else decide (Cn v = nn))) := by
  obtain ⟨h1, h2, h3, h4, h5⟩ := h
  refine ⟨h1, fun v vs ts => ?_, fun v => b2l_01 _⟩
  rw [h2, b2l_1]
  unfold jT
  by_cases c : a = 0
  · rw [if_pos c, if_pos (show nI a = 0 from by rw [c]; rfl)]
  · rw [if_neg c, if_neg (show ¬ nI a = 0 from fun q => c ((nI_eq (b := 0) (by omega) (by omega)).mp q))]
theorem sim_juncL (hb : ∀ j, j < n → b j < 256) (ht : t < 4) (hn : n ≤ 300) {f : PI → TR Sem} {w a r op o pc fa fb ga gb : Nat} {NXf : Nat → Prop} (hw : w < 301) (ha : (a = 0 ∧ op = 22) ∨ (a = 1 ∧ op = 21))
    (hbt : ∀ P, onow P = 41 → icm P = true → btw w P = op) (hrk : rk op = r) (hga : ga + 1 ≤ 32) (hgb : gb + 11 ≤ 128) (hpc : pc ≤ 4) (ho8 : o ≤ 8)
    (Hf : HS b n t kc I0 J0 f o (pc + 1) fa fb ga gb (fun _ P => tlt (r + 1) P ∧ onow P = 41) (RlQ (r + 1)) NXf (fun P => icm P = true) MnA)
    {P : List Nat} {C : List (Nat × Nat)} (hP1 : tlt r P) (hP2 : cnt P = o) (hP3 : P.length ≤ 6 * o + pc) (hP4 : onow P = 41) :
    ∀ (m kF k : Nat) (I I' : PI) (J' : PJ) (Q : List Nat) (C1 its : List (Nat × Nat)) (G0 : Sem) (Cn : (Nat → Int32) → Nat) (nn : Nat), n - k ≤ m → m < kF → XS b n (200 + kc) k o I → MC b n t kc I0 J0 k (Q ++ P) C1 1 I' J' → (∀ x ∈ Q, r ≤ rk x) → C1 ++ em Q = C ++ its → JI a nn its G0 Cn → (Q ++ P).length ≤ 60 → C1.length + (Q ++ P).length ≤ k → k ≤ n → nn ≤ k + 1 → NXf (tks b n k).sort → icm (Q ++ P) = true →
      Flt b n t kc I0 J0 fa (gsS nn) (11 * nn + fb) k I' J' (t_juncL f (nI w) (nI a) kF I nn G0 Cn) ∨ Gd b n t kc I0 J0 (RlQ r) (fun s => NXf s ∧ s ≠ w) (fun P => icm P = true) MnA 1 (gsS nn) (11 * nn + 2) k o P C I' J' (t_juncL f (nI w) (nI a) kF I nn G0 Cn) := by
  intro m
  have hr1 : 1 ≤ r ∧ r < 3 ∧ op < 40 ∧ cn op = 0 := by
    rcases ha with ⟨-, rfl⟩ | ⟨-, rfl⟩
    · have : rk 22 = 1 := rfl
      exact ⟨by omega, by omega, by omega, rfl⟩
    · have : rk 21 = 2 := rfl
      exact ⟨by omega, by omega, by omega, rfl⟩
  have ha2 : a < 2 := by omega
  have fin : ∀ (kF k : Nat) (I I' : PI) (J' : PJ) (Q : List Nat) (C1 its : List (Nat × Nat)) (G0 : Sem) (Cn : (Nat → Int32) → Nat) (nn : Nat), (tks b n k).sort ≠ w → XS b n (200 + kc) k o I → MC b n t kc I0 J0 k (Q ++ P) C1 1 I' J' → (∀ x ∈ Q, r ≤ rk x) → C1 ++ em Q = C ++ its → JI a nn its G0 Cn → (Q ++ P).length ≤ 60 → C1.length + (Q ++ P).length ≤ k → k ≤ n → nn ≤ k + 1 → NXf (tks b n k).sort → icm (Q ++ P) = true →
      Gd b n t kc I0 J0 (RlQ r) (fun s => NXf s ∧ s ≠ w) (fun P => icm P = true) MnA 1 (gsS nn) (11 * nn + 2) k o P C I' J' (t_juncL f (nI w) (nI a) (kF + 1) I nn G0 Cn) := by
    intro kF k I I' J' Q C1 its G0 Cn nn hne hI hM hQ hC hMn hl hlk hk hnn hNX hic
    have hsr := tks_srt hb k
    have hgs := gsS_le nn
    rw [t_juncL, if_neg (show ¬ I 0 4 = nI w from by rw [hI.1.2.2.2.1]; exact fun q => hne ((nI_eq (by omega) (by omega)).mp q))]
    by_cases c : nn = 1
    · subst c
      rw [if_pos rfl]
      exact ⟨k, I, 0, 0, G0, its, Q ++ P, C1, I', J', Nat.le_refl _, hk, rfl, hI, Nat.zero_le _, by omega, fun F => rn0 F k I' J', hM, ⟨Q, rfl, hQ, hC⟩, hMn.end1, ⟨hNX, hne⟩, hic, hl, hlk⟩
    · rw [if_neg c]
      exact ⟨k, I, 1, 2, _, its, Q ++ P, C1, I', J', Nat.le_refl _, hk, rfl, hI, by omega, by omega, fun F => rn0 F k I' J', hM, ⟨Q, rfl, hQ, hC⟩, hMn.end2 ha2, ⟨hNX, hne⟩, hic, hl, hlk⟩
  induction m with
  | zero =>
    intro kF k I I' J' Q C1 its G0 Cn nn hm hkF hI hM hQ hC hMn hl hlk hk hnn hNX hic
    obtain ⟨kF, rfl⟩ : ∃ q, kF = q + 1 := ⟨kF - 1, by omega⟩
    have he : (tks b n k).sort = 301 := by
      by_cases c : (tks b n k).sort = 301
      · exact c
      · have := tks_n hb c
        omega
    exact Or.inr (fin kF k I I' J' Q C1 its G0 Cn nn (by omega) hI hM hQ hC hMn hl hlk hk hnn hNX hic)
  | succ m ih =>
    intro kF k I I' J' Q C1 its G0 Cn nn hm hkF hI hM hQ hC hMn hl hlk hk hnn hNX hic
    obtain ⟨kF, rfl⟩ : ∃ q, kF = q + 1 := ⟨kF - 1, by omega⟩
    have hsr := tks_srt hb k
    by_cases cs : (tks b n k).sort = w
    · have hk1 : k + 1 ≤ n := tks_n hb (by omega)
      obtain ⟨I1, q1, q2⟩ := xs_next hb hI
      have hoN : onow (Q ++ P) = 41 := (onow_app Q fun x hx => by have := hQ x hx; omega).trans hP4
      obtain ⟨I1', J1', r1, r2⟩ := mc_between hb ht hM (by omega) (by omega) (show btw (tks b n k).sort (Q ++ P) = op by rw [cs]; exact hbt _ hoN hic) (by omega) (r := r) (by rw [hrk, if_neg (by omega)])
      rw [stl_app Q hQ, hC, stl_tlt hP1] at r2
      have hlen : (C ++ its).length = C1.length + Q.length := by
        rw [← hC, List.length_append]
        unfold em
        rw [List.length_map]
      have hQP : (Q ++ P).length = Q.length + P.length := List.length_append
      have st : t_juncL f (nI w) (nI a) (kF + 1) I nn G0 Cn = tB (f I1) fun I2 G => tC (growC nn) (growS nn) (t_juncL f (nI w) (nI a) kF I2 (nn + 1) G0 (fun v => Cn v + if G v = 1 then 1 else 0)) := by
        rw [t_juncL, if_pos (show I 0 4 = nI w from by rw [hI.1.2.2.2.1, cs]), decide_eq_true (show nn < 5000 by omega), pz_ck, q1, pz_bs]
      rw [st]
      have run1 : ∀ F, mS (F + (k + 1 - k)) I' J' = mS F I1' J1' := fun F => by
        rw [show k + 1 - k = 1 by omega]
        exact mS_c hM r1 F
      rcases Hf (k + 1) I1 I1' J1' (op :: P) (C ++ its) q2 r2 (by rw [cnt, hr1.2.2.2, hP2, Nat.zero_add]) (by rw [List.length_cons]; omega) (by rw [List.length_cons]; omega) hk1 ⟨by show rk op < r + 1; omega, by rw [onow, if_neg (by omega)]; exact hP4⟩ with hF | hG
      · exact Or.inl ((hF.go (by omega) run1 (p' := gsS nn) (q' := 11 * nn + fb) (fa' := fa) (by omega) (by have := gsS_le nn; omega)).bB _)
      · obtain ⟨k2, I2, c, s, G, its2, P1, C2, I2', J2', h1, h2, h3, h4, h5, h6, h7, h8, ⟨Q2, e1, e2, e3⟩, h10, h11, h12, h13, h14⟩ := hG
        subst e1
        rw [h3, tB_ok]
        have eQ : Q2 ++ op :: P = Q2 ++ [op] ++ P := by rw [List.append_assoc]; rfl
        rw [eQ] at h8 h12 h13 h14
        have hG := growC_le nn
        have eg : gsS (nn + 1) = gsS nn + growS nn := rfl
        have run2 : ∀ F, mS (F + (k2 - k)) I' J' = mS F I2' J2' := fun F => by
          rw [← h7 F, ← run1, show F + (k2 - k) = F + (k2 - (k + 1)) + (k + 1 - k) by omega]
        have := ih kF k2 I2 I2' J2' (Q2 ++ [op]) C2 (its ++ its2 ++ [(op, 0)]) G0 (fun v => Cn v + if G v = 1 then 1 else 0) (nn + 1) (by omega) (by omega) h4 h8 (fun x hx => ?_) ?_ (hMn.next h10 ha) h13 h14 h2 (by omega) h11 h12
        · rw [tC_tC]
          rcases this with hF | hG
          · exact Or.inl (hF.goC (by omega) run2 _ _ (by omega) (by omega))
          · exact Or.inr (hG.goC (by omega) run2 _ _ (by omega) (by omega))
        · rcases List.mem_append.mp hx with hx | hx
          · have := e2 x hx
            omega
          · rw [List.mem_singleton] at hx
            rw [hx, hrk]
            exact Nat.le_refl _
        · rw [em_app, ← List.append_assoc, e3]
          simp only [List.append_assoc]
          rfl
    · exact Or.inr (fin kF k I I' J' Q C1 its G0 Cn nn cs hI hM hQ hC hMn hl hlk hk hnn hNX hic)
theorem sim_junc (hb : ∀ j, j < n → b j < 256) (ht : t < 4) (hn : n ≤ 300) {f : PI → TR Sem} {w a r op o pc fa fb ga gb : Nat} {NXf : Nat → Prop} (hw : w < 301) (ha : (a = 0 ∧ op = 22) ∨ (a = 1 ∧ op = 21))
    (hbt : ∀ P, onow P = 41 → icm P = true → btw w P = op) (hrk : rk op = r) (hga : ga + 1 ≤ 32) (hgb : gb + 11 ≤ 128) (hpc : pc ≤ 4) (ho8 : o ≤ 8)
    (Hf : HS b n t kc I0 J0 f o (pc + 1) fa fb ga gb (fun _ P => tlt (r + 1) P ∧ onow P = 41) (RlQ (r + 1)) NXf (fun P => icm P = true) MnA) :
    HS b n t kc I0 J0 (t_junc f (nI w) (nI a)) o pc (fa + ga + 2) (fb + gb + 14) (ga + 3) (gb + 16) (fun _ P => tlt r P ∧ onow P = 41) (RlQ r) (fun s => NXf s ∧ s ≠ w) (fun P => icm P = true) MnA := by
  intro k I I' J' P C hI hM hcn hl hlk hk hpre
  have hp7 : tlt (r + 1) P := by
    cases P with
    | nil => trivial
    | cons x P => exact Nat.lt_succ_of_lt hpre.1
  unfold t_junc
  rcases Hf k I I' J' P C hI hM hcn (by omega) hlk hk ⟨hp7, hpre.2⟩ with hF | hG
  · exact Or.inl (((hF.bB _).cC 1 3).le (by omega) (by omega))
  · obtain ⟨k2, I2, c, s, G, its2, P1, C2, I2', J2', h1, h2, h3, h4, h5, h6, h7, h8, ⟨Q2, e1, e2, e3⟩, h10, h11, h12, h13, h14⟩ := hG
    subst e1
    rw [h3, tB_ok, tC_tC, tC_tC]
    have := sim_juncL hb ht hn hw ha hbt hrk hga hgb hpc ho8 Hf hpre.1 hcn hl hpre.2 (n - k2) fu k2 I2 I2' J2' Q2 C2 its2 G _ 1 (Nat.le_refl _) (fu_gt (by omega)) h4 h8 (fun x hx => by have := e2 x hx; omega) e3 (JI.start h10) h13 h14 h2 (by omega) h11 h12
    have g0 : growC 0 = 1 := rfl
    have g1 : growS 0 = 10 := rfl
    have g2 : gsS 1 = 10 := rfl
    rcases this with hF | hG
    · exact Or.inl (hF.goC h1 h7 _ _ (by omega) (by omega))
    · exact Or.inr (hG.goC h1 h7 _ _ (by omega) (by omega))
end SJ

/-! both readers side by side: a chain -/
section SC
variable {b : Nat → Nat} {n t kc : Nat} {I0 : PI} {J0 : PJ}
theorem Flt.goC {α : Type} {fa p q fa' p' q' k k2 : Nat} {I' I2' : PI} {J' J2' : PJ} {r : TR α} (h : Flt b n t kc I0 J0 fa p q k2 I2' J2' r) (hk : k ≤ k2) (hr : ∀ F, mS (F + (k2 - k)) I' J' = mS F I2' J2') (c0 s0 : Nat) (ha : fa + c0 ≤ fa' + 32 * (k2 - k)) (hq : q + s0 + p' ≤ q' + 128 * (k2 - k) + p) : Flt b n t kc I0 J0 fa' p' q' k I' J' (tC c0 s0 r) :=
  (h.cC c0 s0).go hk hr ha hq
theorem Gd.goC {Rl : List Nat → List (Nat × Nat) → List Nat → List (Nat × Nat) → Prop} {NX : Nat → Prop} {PP : List Nat → Prop} {Mn : List (Nat × Nat) → Sem → Prop} {ga p q ga' p' q' k k2 o : Nat} {P : List Nat} {C : List (Nat × Nat)} {I' I2' : PI} {J' J2' : PJ} {r : TR Sem} (h : Gd b n t kc I0 J0 Rl NX PP Mn ga p q k2 o P C I2' J2' r) (hk : k ≤ k2) (hr : ∀ F, mS (F + (k2 - k)) I' J' = mS F I2' J2') (c0 s0 : Nat) (ha : ga + c0 ≤ ga' + 32 * (k2 - k)) (hq : q + s0 + p' ≤ q' + 128 * (k2 - k) + p) : Gd b n t kc I0 J0 Rl NX PP Mn ga' p' q' k o P C I' J' (tC c0 s0 r) := by
  obtain ⟨k1, I1, c, s, S, its, P1, C1, I1', J1', h1, h2, h3, h4, h5, h6, h7, h8⟩ := h
  refine ⟨k1, I1, c0 + c, s0 + s, S, its, P1, C1, I1', J1', by omega, h2, by rw [h3]; rfl, h4, by omega, by omega, fun F => ?_, h8⟩
  rw [← h7 F, ← hr, show F + (k1 - k) = F + (k1 - k2) + (k2 - k) by omega]
theorem rn0 (F k : Nat) (I : PI) (J : PJ) : mS (F + (k - k)) I J = mS F I J := by rw [Nat.sub_self]; rfl
theorem MnS.two {A B : List (Nat × Nat)} {F G : Sem} {o : Nat} (ho : 6 ≤ o ∧ o < 10) (h : MnS A F) (g : MnS B G) {S : Sem} (hS : ∀ v, S v = twL o (F v) (G v)) : MnS (A ++ B ++ [(o, 0)]) S := by
  refine ⟨(h.1.app g.1).app (ItV.one ⟨by omega, by omega, fun q => by omega⟩), fun v vs ts => ?_, fun v => ?_⟩
  · rw [rnI_app, rnI_app, h.2.1]
    show ((rnI v B (F v :: vs, ts)).bind (rnI v [(o, 0)])) = _
    rw [g.2.1]
    show (stI v (o, 0) (G v :: F v :: vs, ts)).bind (rnI v []) = _
    unfold stI
    rw [if_neg (show ¬ o = 0 by omega), if_neg (show ¬ o = 1 by omega), if_neg (show ¬ o = 3 by omega), if_neg (show ¬ o ≤ 5 by omega), if_pos (show o < 10 by omega), hS]
    rfl
  · have := twL_in o (F v) (G v)
    rw [hS]
    omega
theorem em_app (A B : List Nat) : em (A ++ B) = em A ++ em B := List.map_append
theorem sim_chainL (hb : ∀ j, j < n → b j < 256) (ht : t < 4) (hn : n ≤ 300) {f : PI → TR Sem} {s1 s2 r o1 o2 o pc fa fb ga gb : Nat} {NXf : Nat → Prop} (hr : r = 5 ∨ r = 6) (hs : s1 < 301 ∧ s2 < 301)
    (hb1 : ∀ P, btw s1 P = o1) (hb2 : ∀ P, btw s2 P = o2) (ho1 : rk o1 = r ∧ 6 ≤ o1 ∧ o1 < 10) (ho2 : rk o2 = r ∧ 6 ≤ o2 ∧ o2 < 10) (hc1 : ∀ x y, chainS (nI s1) x y = twL o1 x y) (hc2 : ∀ x y, chainS (nI s2) x y = twL o2 x y) (hga : ga + 2 ≤ 32) (hgb : gb + 22 ≤ 128) (hpc : pc ≤ 4) (ho8 : o ≤ 8)
    (Hf : HS b n t kc I0 J0 f o (pc + 1) fa fb ga gb (fun s P => tlt (r + 1) P ∧ (s = 221 → aah P = false)) (RlQ (r + 1)) NXf (fun _ => True) MnS)
    {P : List Nat} {C : List (Nat × Nat)} (hP1 : tlt r P) (hP2 : cnt P = o) (hP3 : P.length ≤ 6 * o + pc) :
    ∀ (m kF k : Nat) (I I' : PI) (J' : PJ) (Q : List Nat) (C1 its : List (Nat × Nat)) (F : Sem) (nn : Nat), n - k ≤ m → m < kF → XS b n (200 + kc) k o I → MC b n t kc I0 J0 k (Q ++ P) C1 1 I' J' → (∀ x ∈ Q, r ≤ rk x) → C1 ++ em Q = C ++ its → MnS its F → (Q ++ P).length ≤ 60 → C1.length + (Q ++ P).length ≤ k → k ≤ n → nn ≤ k → NXf (tks b n k).sort →
      Flt b n t kc I0 J0 fa (2 * gsS nn) (22 * nn + fb) k I' J' (t_chainL f (nI s1) (nI s2) kF I nn F) ∨ Gd b n t kc I0 J0 (RlQ r) (fun s => NXf s ∧ s ≠ s1 ∧ s ≠ s2) (fun _ => True) MnS 0 (2 * gsS nn) (22 * nn) k o P C I' J' (t_chainL f (nI s1) (nI s2) kF I nn F) := by
  intro m
  induction m with
  | zero =>
    intro kF k I I' J' Q C1 its F nn hm hkF hI hM hQ hC hMn hl hlk hk hnn hNX
    obtain ⟨kF, rfl⟩ : ∃ q, kF = q + 1 := ⟨kF - 1, by omega⟩
    have he : (tks b n k).sort = 301 := by
      by_cases c : (tks b n k).sort = 301
      · exact c
      · have := tks_n hb c
        omega
    refine Or.inr ⟨k, I, 0, 0, F, its, Q ++ P, C1, I', J', Nat.le_refl _, hk, ?_, hI, Nat.zero_le _, ?_, fun F => rn0 F k I' J', hM, ⟨Q, rfl, hQ, hC⟩, hMn, ⟨hNX, by omega, by omega⟩, trivial, hl, hlk⟩
    · rw [t_chainL, if_neg]
      · rfl
      · rw [hI.1.2.2.2.1, he]
        exact fun q => q.elim (fun q => absurd ((nI_eq (by omega) (by omega)).mp q) (by omega)) (fun q => absurd ((nI_eq (by omega) (by omega)).mp q) (by omega))
    · have := gsS_le nn
      omega
  | succ m ih =>
    intro kF k I I' J' Q C1 its F nn hm hkF hI hM hQ hC hMn hl hlk hk hnn hNX
    obtain ⟨kF, rfl⟩ : ∃ q, kF = q + 1 := ⟨kF - 1, by omega⟩
    have hsr := tks_srt hb k
    by_cases cs : (tks b n k).sort = s1 ∨ (tks b n k).sort = s2
    · obtain ⟨op, hop, hrk, hop6, hch⟩ : ∃ op, btw (tks b n k).sort (Q ++ P) = op ∧ rk op = r ∧ (6 ≤ op ∧ op < 10) ∧ ∀ x y, chainS (nI (tks b n k).sort) x y = twL op x y := by
        rcases cs with e | e <;> rw [e]
        · exact ⟨o1, hb1 _, ho1.1, ho1.2, hc1⟩
        · exact ⟨o2, hb2 _, ho2.1, ho2.2, hc2⟩
      have hk1 : k + 1 ≤ n := tks_n hb (by omega)
      obtain ⟨I1, q1, q2⟩ := xs_next hb hI
      obtain ⟨I1', J1', r1, r2⟩ := mc_between hb ht hM (by omega) (by omega) hop (by omega) (r := r) (by rw [hrk, if_neg (by omega)])
      rw [stl_app Q hQ, hC, stl_tlt hP1] at r2
      have cn0 : cn op = 0 := by
        unfold cn
        rw [if_neg (by omega)]
      have hlen : (C ++ its).length = C1.length + Q.length := by
        rw [← hC, List.length_append]
        unfold em
        rw [List.length_map]
      have hQP : (Q ++ P).length = Q.length + P.length := List.length_append
      have st : t_chainL f (nI s1) (nI s2) (kF + 1) I nn F = tB (f I1) fun I2 G => tC (2 * growC nn) (2 * growS nn) (t_chainL f (nI s1) (nI s2) kF I2 (nn + 1) (fun v => chainS (nI (tks b n k).sort) (F v) (G v))) := by
        rw [t_chainL, if_pos, decide_eq_true (show nn < 5000 by omega), pz_ck, q1, pz_bs, hI.1.2.2.2.1]
        rw [hI.1.2.2.2.1]
        exact cs.imp (fun q => by rw [q]) (fun q => by rw [q])
      rw [st]
      have run1 : ∀ F, mS (F + (k + 1 - k)) I' J' = mS F I1' J1' := fun F => by
        rw [show k + 1 - k = 1 by omega]
        exact mS_c hM r1 F
      rcases Hf (k + 1) I1 I1' J1' (op :: P) (C ++ its) q2 r2 (by rw [cnt, cn0, hP2, Nat.zero_add]) (by rw [List.length_cons]; omega) (by rw [List.length_cons]; omega) hk1 ⟨by show rk op < r + 1; omega, fun _ => by unfold aah; rw [show atop (op :: P) = false from decide_eq_false (by omega), Bool.and_false]⟩ with hF | hG
      · exact Or.inl ((hF.go (by omega) run1 (p' := 2 * gsS nn) (q' := 22 * nn + fb) (fa' := fa) (by omega) (by have := gsS_le nn; omega)).bB _)
      · obtain ⟨k2, I2, c, s, G, its2, P1, C2, I2', J2', h1, h2, h3, h4, h5, h6, h7, h8, ⟨Q2, e1, e2, e3⟩, h10, h11, -, h13, h14⟩ := hG
        subst e1
        rw [h3, tB_ok]
        have eQ : Q2 ++ op :: P = Q2 ++ [op] ++ P := by rw [List.append_assoc]; rfl
        rw [eQ] at h8 h13 h14
        have hG := growC_le nn
        have eg : gsS (nn + 1) = gsS nn + growS nn := rfl
        have run2 : ∀ F, mS (F + (k2 - k)) I' J' = mS F I2' J2' := fun F => by
          rw [← h7 F, ← run1, show F + (k2 - k) = F + (k2 - (k + 1)) + (k + 1 - k) by omega]
        have := ih kF k2 I2 I2' J2' (Q2 ++ [op]) C2 (its ++ its2 ++ [(op, 0)]) (fun v => chainS (nI (tks b n k).sort) (F v) (G v)) (nn + 1) (by omega) (by omega) h4 h8 (fun x hx => ?_) ?_ (hMn.two hop6 h10 fun v => hch _ _) h13 h14 h2 (by omega) h11
        · rw [tC_tC]
          rcases this with hF | hG
          · exact Or.inl (hF.goC (by omega) run2 _ _ (by omega) (by omega))
          · exact Or.inr (hG.goC (by omega) run2 _ _ (by omega) (by omega))
        · rcases List.mem_append.mp hx with hx | hx
          · have := e2 x hx
            omega
          · rw [List.mem_singleton] at hx
            rw [hx, hrk]
            exact Nat.le_refl _
        · rw [em_app, ← List.append_assoc, e3]
          simp only [List.append_assoc]
          rfl
    · refine Or.inr ⟨k, I, 0, 0, F, its, Q ++ P, C1, I', J', Nat.le_refl _, hk, ?_, hI, Nat.zero_le _, ?_, fun F => rn0 F k I' J', hM, ⟨Q, rfl, hQ, hC⟩, hMn, ⟨hNX, fun q => cs (Or.inl q), fun q => cs (Or.inr q)⟩, trivial, hl, hlk⟩
      · rw [t_chainL, if_neg]
        · rfl
        · rw [hI.1.2.2.2.1]
          exact fun q => cs (q.imp (fun q => (nI_eq (by omega) (by omega)).mp q) (fun q => (nI_eq (by omega) (by omega)).mp q))
      · have := gsS_le nn
        omega
theorem sim_chain (hb : ∀ j, j < n → b j < 256) (ht : t < 4) (hn : n ≤ 300) {f : PI → TR Sem} {s1 s2 r o1 o2 o pc fa fb ga gb : Nat} {NXf : Nat → Prop} (hr : r = 5 ∨ r = 6) (hs : s1 < 301 ∧ s2 < 301)
    (hb1 : ∀ P, btw s1 P = o1) (hb2 : ∀ P, btw s2 P = o2) (ho1 : rk o1 = r ∧ 6 ≤ o1 ∧ o1 < 10) (ho2 : rk o2 = r ∧ 6 ≤ o2 ∧ o2 < 10) (hc1 : ∀ x y, chainS (nI s1) x y = twL o1 x y) (hc2 : ∀ x y, chainS (nI s2) x y = twL o2 x y) (hga : ga + 2 ≤ 32) (hgb : gb + 22 ≤ 128) (hpc : pc ≤ 4) (ho8 : o ≤ 8)
    (Hf : HS b n t kc I0 J0 f o (pc + 1) fa fb ga gb (fun s P => tlt (r + 1) P ∧ (s = 221 → aah P = false)) (RlQ (r + 1)) NXf (fun _ => True) MnS) :
    HS b n t kc I0 J0 (t_chain f (nI s1) (nI s2)) o pc (fa + ga + 3) (fb + gb + 9) (ga + 3) (gb + 9) (fun s P => tlt r P ∧ (s = 221 → aah P = false)) (RlQ r) (fun s => NXf s ∧ s ≠ s1 ∧ s ≠ s2) (fun _ => True) MnS := by
  intro k I I' J' P C hI hM hcn hl hlk hk hpre
  have hp7 : tlt (r + 1) P := by
    cases P with
    | nil => trivial
    | cons x P => exact Nat.lt_succ_of_lt hpre.1
  unfold t_chain
  rcases Hf k I I' J' P C hI hM hcn (by omega) hlk hk ⟨hp7, hpre.2⟩ with hF | hG
  · exact Or.inl (((hF.bB _).cC 1 3).le (by omega) (by omega))
  · obtain ⟨k2, I2, c, s, G, its2, P1, C2, I2', J2', h1, h2, h3, h4, h5, h6, h7, h8, ⟨Q2, e1, e2, e3⟩, h10, h11, -, h13, h14⟩ := hG
    subst e1
    rw [h3, tB_ok, tC_tC, tC_tC]
    have := sim_chainL hb ht hn hr hs hb1 hb2 ho1 ho2 hc1 hc2 hga hgb hpc ho8 Hf hpre.1 hcn hl (n - k2) fu k2 I2 I2' J2' Q2 C2 its2 G 0 (Nat.le_refl _) (fu_gt (by omega)) h4 h8 (fun x hx => by have := e2 x hx; omega) e3 h10 h13 h14 h2 (Nat.zero_le _) h11
    have g0 : gsS 0 = 0 := rfl
    rcases this with hF | hG
    · exact Or.inl (hF.goC h1 h7 _ _ (by omega) (by omega))
    · exact Or.inr (hG.goC h1 h7 _ _ (by omega) (by omega))
end SC

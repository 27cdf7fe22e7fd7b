/-! the least group, 3: how many are left in the mist -/
theorem cnt_msk {w : Int64} {f : Nat → Bool} (h : msk w f) : cntL w = ctN f 60 := by
  unfold cntL
  rw [show (64 : Nat) = 60 + 4 from rfl, ctN_add, ctN_0 (p := fun i => bitL w (60 + i)) (fun i hi => by
    show bitL w (60 + i) = false
    rw [h (60 + i) (by omega), decide_eq_false (by omega), Bool.false_and]), Nat.add_zero]
  exact ctN_ext fun i hi => by rw [h i (by omega), decide_eq_true hi, Bool.true_and]
theorem ctN_not (p : Nat → Bool) : ∀ n, ctN p n + ctN (fun i => !p i) n = n
  | 0 => rfl
  | n + 1 => by
    have := ctN_not p n
    show ctN p n + (if p n then 1 else 0) + (ctN (fun i => !p i) n + (if (!p n) = true then 1 else 0)) = n + 1
    cases p n <;> simp <;> omega
theorem ctN_inj {f : Nat → Nat} {n : Nat} : ∀ (m : Nat) (p : Nat → Bool), (∀ i, i < m → f i < n) → (∀ i j, i < m → j < m → f i = f j → i = j) → ctN (fun i => p (f i)) m ≤ ctN p n
  | 0, _, _, _ => Nat.zero_le _
  | m + 1, p, h, g => by
    show ctN (fun i => p (f i)) m + (if p (f m) = true then 1 else 0) ≤ _
    by_cases c : p (f m) = true
    · have h1 := ctN_drop (p := p) (q := fun j => p j && decide (j ≠ f m)) c (by rw [decide_eq_false (fun z => z rfl), Bool.and_false]) (h m (by omega)) (fun j _ hj => by rw [decide_eq_true hj, Bool.and_true])
      have h2 := ctN_inj m (fun j => p j && decide (j ≠ f m)) (fun i hi => h i (by omega)) (fun i j hi hj => g i j (by omega) (by omega))
      have h3 : ctN (fun i => p (f i)) m = ctN (fun i => p (f i) && decide (f i ≠ f m)) m := ctN_ext fun i hi => by
        rw [decide_eq_true (p := f i ≠ f m) (fun z => by have := g i m (by omega) (by omega) z; omega), Bool.and_true]
      rw [if_pos c, h1, h3]
      exact Nat.add_le_add_right h2 1
    · rw [if_neg c, Nat.add_zero]
      exact ctN_inj m p (fun i hi => h i (by omega)) (fun i j hi hj => g i j (by omega) (by omega))
theorem ctN_bij {f : Nat → Nat} {n : Nat} (p : Nat → Bool) (h : ∀ i, i < n → f i < n) (g : ∀ i j, i < n → j < n → f i = f j → i = j) : ctN (fun i => p (f i)) n = ctN p n := by
  have h1 := ctN_inj n p h g
  have h2 := ctN_inj n (fun i => !p i) h g
  have h3 := ctN_not p n
  have h4 := ctN_not (fun i => p (f i)) n
  have h2 : ctN (fun i => !p (f i)) n ≤ ctN (fun i => !p i) n := h2
  have h4 : ctN (fun i => p (f i)) n + ctN (fun i => !p (f i)) n = n := h4
  omega
/-- what the first n of the class's sayings leave -/
def blX (L : List Nat) (i : Nat) : Nat → Bool
  | 0 => true
  | j + 1 => blX L i j && !outX (L.getD j 0) i
def blM (s : SN) (forms i : Nat) : Nat → Bool
  | 0 => true
  | k + 1 => blM s forms i k && (decide (cst s forms (sayK k) = 0) || !outM k i)
theorem blX_iff (L : List Nat) (i : Nat) : ∀ n, blX L i n = true ↔ ∀ j, j < n → outX (L.getD j 0) i = false
  | 0 => ⟨fun _ j hj => absurd hj (Nat.not_lt_zero j), fun _ => rfl⟩
  | n + 1 => by
    show (blX L i n && !outX (L.getD n 0) i) = true ↔ _
    rw [Bool.and_eq_true, blX_iff L i n, Bool.not_eq_true']
    refine ⟨fun h j hj => ?_, fun h => ⟨fun j hj => h j (by omega), h n (by omega)⟩⟩
    by_cases c : j = n
    · rw [c]; exact h.2
    · exact h.1 j (by omega)
theorem blM_iff (s : SN) (forms i : Nat) : ∀ n, blM s forms i n = true ↔ ∀ k, k < n → cst s forms (sayK k) ≠ 0 → outM k i = false
  | 0 => ⟨fun _ j hj => absurd hj (Nat.not_lt_zero j), fun _ => rfl⟩
  | n + 1 => by
    show (blM s forms i n && (decide (cst s forms (sayK n) = 0) || !outM n i)) = true ↔ _
    rw [Bool.and_eq_true, blM_iff s forms i n, Bool.or_eq_true, decide_eq_true_eq, Bool.not_eq_true']
    refine ⟨fun h j hj => ?_, fun h => ⟨fun j hj => h j (by omega), ?_⟩⟩
    · by_cases c : j = n
      · rw [c]; exact fun z => h.2.elim (fun y => absurd y z) id
      · exact h.1 j (by omega)
    · by_cases c : cst s forms (sayK n) = 0
      · exact Or.inl c
      · exact Or.inr (h n (by omega) c)
theorem msk_and {w v : Int64} {f g : Nat → Bool} (h : msk w f) (h2 : msk v g) : msk (w &&& v) (fun i => f i && g i) := fun i hi => by
  rw [bitL_and, h i hi, h2 i hi]
  cases decide (i < 60) <;> rfl
theorem msk_andn {w v : Int64} {f g : Nat → Bool} (h : msk w f) (h2 : msk v g) : msk (w &&& (v ^^^ (-1 : Int64))) (fun i => f i && !g i) := fun i hi => by
  rw [bitL_and, bitL_not v hi, h i hi, h2 i hi]
  cases decide (i < 60) <;> rfl
theorem msk_full : msk (1152921504606846975 : Int64) (fun _ => true) := fun i hi => by rw [bitL_full i hi, Bool.and_true]
section BLU
variable {s si : SN} {I : PI} {T : PT} {X : TS} {tN : XCo} {I' : PI} {J' : PJ}
theorem px_blurredBy {L : List Nat} {I : PI} {J : PJ} (hn : L.length ≤ 125) (h12 : I 0 12 = nI L.length) (hL : ∀ j, j < L.length → msk (J 117 j) (outX (L.getD j 0)) ∧ msk (J 118 j) (fun i => outX (L.getD j 0) (60 + i))) : x_blurredBy I J = some (nI (ctN (fun i => blX L i L.length) 120)) := by
  obtain ⟨⟨w1, w2⟩, ⟨h1, h2⟩, h3⟩ := pz_loop (fun f v (x : Int64 × Int64) => x_blurredBy_l9 I J f x.1 x.2 (nI v)) L.length (fun x => some (x.1, x.2)) (fun v x => msk x.1 (fun i => blX L i v) ∧ msk x.2 (fun i => blX L (60 + i) v)) (fun f x _ => by
      show x_blurredBy_b9 I J (x_blurredBy_l9 I J f) x.1 x.2 (nI L.length) = _
      unfold x_blurredBy_b9
      simp (disch := omega) only [pz_0, pz_1, pz_2, pz_3, pz_4, pz_5, pz_6, pz_7, pz_8, pz_9, pz_10, pz_11, pz_12, pz_13, pz_14, pz_15, pz_16, pz_20, pz_21, pz_22, pz_24, pz_25, pz_30, pz_31, pz_32, pz_35, pz_40, pz_41, pz_42, pz_43, pz_45, pz_47, pz_48, pz_52, pz_57, pz_58, pz_59, pz_60, pz_61, pz_62, pz_63, pz_65, pz_85, pz_90, pz_97, pz_98, pz_99, pz_100, pz_101, pz_102, pz_103, pz_104, pz_105, pz_107, pz_108, pz_109, pz_110, pz_111, pz_112, pz_114, pz_115, pz_116, pz_119, pz_120, pz_121, pz_122, pz_125, pz_127, pz_153, pz_200, pz_201, pz_202, pz_203, pz_204, pz_205, pz_206, pz_207, pz_208, pz_209, pz_210, pz_211, pz_212, pz_213, pz_214, pz_215, pz_216, pz_217, pz_218, pz_219, pz_220, pz_221, pz_222, pz_223, pz_224, pz_225, pz_255, pz_256, pz_271, pz_300, pz_301, pz_302, pz_303, pz_304, pz_400, pz_401, pz_521, pz_705, pz_1000, pz_1508, pz_1661, pz_1691, pz_2400, pz_3125, pz_9999, pz_10000, pz_30703, pz_65536, pz_99999, pz_1000000, pz_lt, pz_ck, pz_u2, pz_u3, pz_u4, pz_bs, pz_ix, pz_inb, pz_add, pz_mul, pz_sub, nI_leI, nI_ltI, nI_eq, pz_bIt, pz_bIf, pz_isb, pz_isb0, pz_isb1, pz_bI0, pz_bI1, Nat.zero_le, true_and, and_true, decide_true, decide_false, Bool.true_eq_false, Bool.false_eq_true, if_true, if_false, Nat.reduceAdd, Nat.reduceMul, Nat.reduceSub, Nat.reduceEqDiff, Nat.reduceLeDiff, Nat.reduceLT, Nat.one_ne_zero, Nat.zero_ne_one, h12, Nat.le_refl]) (fun f v x hv hP => by
      obtain ⟨w1, w2⟩ := x
      obtain ⟨p1, p2⟩ := hP
      obtain ⟨q1, q2⟩ := hL v hv
      refine ⟨(w1 &&& ((J 117 v) ^^^ (-1 : Int64)), w2 &&& ((J 118 v) ^^^ (-1 : Int64))), ?_, msk_andn p1 q1, msk_andn p2 q2⟩
      show x_blurredBy_b9 I J (x_blurredBy_l9 I J f) w1 w2 (nI v) = _
      unfold x_blurredBy_b9
      simp (disch := omega) only [pz_0, pz_1, pz_2, pz_3, pz_4, pz_5, pz_6, pz_7, pz_8, pz_9, pz_10, pz_11, pz_12, pz_13, pz_14, pz_15, pz_16, pz_20, pz_21, pz_22, pz_24, pz_25, pz_30, pz_31, pz_32, pz_35, pz_40, pz_41, pz_42, pz_43, pz_45, pz_47, pz_48, pz_52, pz_57, pz_58, pz_59, pz_60, pz_61, pz_62, pz_63, pz_65, pz_85, pz_90, pz_97, pz_98, pz_99, pz_100, pz_101, pz_102, pz_103, pz_104, pz_105, pz_107, pz_108, pz_109, pz_110, pz_111, pz_112, pz_114, pz_115, pz_116, pz_119, pz_120, pz_121, pz_122, pz_125, pz_127, pz_153, pz_200, pz_201, pz_202, pz_203, pz_204, pz_205, pz_206, pz_207, pz_208, pz_209, pz_210, pz_211, pz_212, pz_213, pz_214, pz_215, pz_216, pz_217, pz_218, pz_219, pz_220, pz_221, pz_222, pz_223, pz_224, pz_225, pz_255, pz_256, pz_271, pz_300, pz_301, pz_302, pz_303, pz_304, pz_400, pz_401, pz_521, pz_705, pz_1000, pz_1508, pz_1661, pz_1691, pz_2400, pz_3125, pz_9999, pz_10000, pz_30703, pz_65536, pz_99999, pz_1000000, pz_lt, pz_ck, pz_u2, pz_u3, pz_u4, pz_bs, pz_ix, pz_inb, pz_add, pz_mul, pz_sub, nI_leI, nI_ltI, nI_eq, pz_bIt, pz_bIf, pz_isb, pz_isb0, pz_isb1, pz_bI0, pz_bI1, Nat.zero_le, true_and, and_true, decide_true, decide_false, Bool.true_eq_false, Bool.false_eq_true, if_true, if_false, Nat.reduceAdd, Nat.reduceMul, Nat.reduceSub, Nat.reduceEqDiff, Nat.reduceLeDiff, Nat.reduceLT, Nat.one_ne_zero, Nat.zero_ne_one, h12, Nat.not_le.mpr hv]) L.length fu 0 (_, _) (by omega) (fu_gt (by omega)) ⟨msk_full, msk_full⟩
  unfold x_blurredBy
  have h3 : x_blurredBy_l9 I J fu 1152921504606846975 1152921504606846975 0 = some (w1, w2) := h3
  rw [h3, pz_bs, pz_u2, px_count, px_count, pz_bs, pz_bs, pz_add, cnt_msk h1, cnt_msk h2, show (120 : Nat) = 60 + 60 from rfl, ctN_add]
theorem pm_blurredBy (hV : VSt s) (hM : MR s (I' 1)) (hS : CSay I' J') {forms : Nat} (hf : forms < 256) : ∃ I1, m_blurredBy I' J' (nI forms) = some (nI (ctN (fun i => blM s forms i 20) 120), I1) ∧ CsM s forms 5 I' I1 := by
  obtain ⟨I1, e1, d1, d2⟩ := pm_layCosts hV hM hf
  obtain ⟨⟨w1, w2⟩, ⟨h1, h2⟩, h3⟩ := pz_loop (fun f v (x : Int64 × Int64) => m_blurredBy_l16 J' I1 f x.1 x.2 (nI v)) 20 (fun x => some (x.1, x.2)) (fun v x => msk x.1 (fun i => blM s forms i v) ∧ msk x.2 (fun i => blM s forms (60 + i) v)) (fun f x _ => by
      show m_blurredBy_b16 J' I1 (m_blurredBy_l16 J' I1 f) x.1 x.2 (nI 20) = _
      unfold m_blurredBy_b16
      simp (disch := omega) only [pz_0, pz_1, pz_2, pz_3, pz_4, pz_5, pz_6, pz_7, pz_8, pz_9, pz_10, pz_11, pz_12, pz_13, pz_14, pz_15, pz_16, pz_20, pz_21, pz_22, pz_24, pz_25, pz_30, pz_31, pz_32, pz_35, pz_40, pz_41, pz_42, pz_43, pz_45, pz_47, pz_48, pz_52, pz_57, pz_58, pz_59, pz_60, pz_61, pz_62, pz_63, pz_65, pz_85, pz_90, pz_97, pz_98, pz_99, pz_100, pz_101, pz_102, pz_103, pz_104, pz_105, pz_107, pz_108, pz_109, pz_110, pz_111, pz_112, pz_114, pz_115, pz_116, pz_119, pz_120, pz_121, pz_122, pz_125, pz_127, pz_153, pz_200, pz_201, pz_202, pz_203, pz_204, pz_205, pz_206, pz_207, pz_208, pz_209, pz_210, pz_211, pz_212, pz_213, pz_214, pz_215, pz_216, pz_217, pz_218, pz_219, pz_220, pz_221, pz_222, pz_223, pz_224, pz_225, pz_255, pz_256, pz_271, pz_300, pz_301, pz_302, pz_303, pz_304, pz_400, pz_401, pz_521, pz_705, pz_1000, pz_1508, pz_1661, pz_1691, pz_2400, pz_3125, pz_9999, pz_10000, pz_30703, pz_65536, pz_99999, pz_1000000, pz_lt, pz_ck, pz_u2, pz_u3, pz_u4, pz_bs, pz_ix, pz_inb, pz_add, pz_mul, pz_sub, nI_leI, nI_ltI, nI_eq, pz_bIt, pz_bIf, pz_isb, pz_isb0, pz_isb1, pz_bI0, pz_bI1, Nat.zero_le, true_and, and_true, decide_true, decide_false, Bool.true_eq_false, Bool.false_eq_true, if_true, if_false, Nat.reduceAdd, Nat.reduceMul, Nat.reduceSub, Nat.reduceEqDiff, Nat.reduceLeDiff, Nat.reduceLT, Nat.one_ne_zero, Nat.zero_ne_one, Nat.le_refl]) (fun f v x hv hP => by
      obtain ⟨w1, w2⟩ := x
      obtain ⟨p1, p2⟩ := hP
      obtain ⟨q0, q1, q2⟩ := hS v hv
      have hk := (say_ok v hv).1
      have st : m_blurredBy_b16 J' I1 (m_blurredBy_l16 J' I1 f) w1 w2 (nI v) = if cst s forms (sayK v) = 0 then m_blurredBy_l16 J' I1 f w1 w2 (nI (v + 1)) else m_blurredBy_l16 J' I1 f (w1 &&& J' 7 v) (w2 &&& J' 8 v) (nI (v + 1)) := by
        have c9 := cst_le hV forms (sayK v)
        unfold m_blurredBy_b16 m_blurredBy_j63
        simp (disch := omega) only [pz_0, pz_1, pz_2, pz_3, pz_4, pz_5, pz_6, pz_7, pz_8, pz_9, pz_10, pz_11, pz_12, pz_13, pz_14, pz_15, pz_16, pz_20, pz_21, pz_22, pz_24, pz_25, pz_30, pz_31, pz_32, pz_35, pz_40, pz_41, pz_42, pz_43, pz_45, pz_47, pz_48, pz_52, pz_57, pz_58, pz_59, pz_60, pz_61, pz_62, pz_63, pz_65, pz_85, pz_90, pz_97, pz_98, pz_99, pz_100, pz_101, pz_102, pz_103, pz_104, pz_105, pz_107, pz_108, pz_109, pz_110, pz_111, pz_112, pz_114, pz_115, pz_116, pz_119, pz_120, pz_121, pz_122, pz_125, pz_127, pz_153, pz_200, pz_201, pz_202, pz_203, pz_204, pz_205, pz_206, pz_207, pz_208, pz_209, pz_210, pz_211, pz_212, pz_213, pz_214, pz_215, pz_216, pz_217, pz_218, pz_219, pz_220, pz_221, pz_222, pz_223, pz_224, pz_225, pz_255, pz_256, pz_271, pz_300, pz_301, pz_302, pz_303, pz_304, pz_400, pz_401, pz_521, pz_705, pz_1000, pz_1508, pz_1661, pz_1691, pz_2400, pz_3125, pz_9999, pz_10000, pz_30703, pz_65536, pz_99999, pz_1000000, pz_lt, pz_ck, pz_u2, pz_u3, pz_u4, pz_bs, pz_ix, pz_inb, pz_add, pz_mul, pz_sub, nI_leI, nI_ltI, nI_eq, pz_bIt, pz_bIf, pz_isb, pz_isb0, pz_isb1, pz_bI0, pz_bI1, Nat.zero_le, true_and, and_true, decide_true, decide_false, Bool.true_eq_false, Bool.false_eq_true, if_true, if_false, Nat.reduceAdd, Nat.reduceMul, Nat.reduceSub, Nat.reduceEqDiff, Nat.reduceLeDiff, Nat.reduceLT, Nat.one_ne_zero, Nat.zero_ne_one, Nat.not_le.mpr hv, d2, q0, d1]
      by_cases c : cst s forms (sayK v) = 0
      · refine ⟨(w1, w2), st.trans (if_pos c), ?_, ?_⟩
        · intro i hi
          rw [p1 i hi]
          show _ = (_ && (blM s forms i v && (decide (cst s forms (sayK v) = 0) || _)))
          rw [decide_eq_true c, Bool.true_or, Bool.and_true]
        · intro i hi
          rw [p2 i hi]
          show _ = (_ && (blM s forms (60 + i) v && (decide (cst s forms (sayK v) = 0) || _)))
          rw [decide_eq_true c, Bool.true_or, Bool.and_true]
      · refine ⟨(w1 &&& J' 7 v, w2 &&& J' 8 v), st.trans (if_neg c), ?_, ?_⟩
        · intro i hi
          have := msk_and p1 q1 i hi
          rw [this]
          show (_ && (blM s forms i v && !outM v i)) = (_ && (blM s forms i v && (decide (cst s forms (sayK v) = 0) || !outM v i)))
          rw [decide_eq_false c, Bool.false_or]
        · intro i hi
          have := msk_and p2 q2 i hi
          rw [this]
          show (_ && (blM s forms (60 + i) v && !outM v (60 + i))) = (_ && (blM s forms (60 + i) v && (decide (cst s forms (sayK v) = 0) || !outM v (60 + i))))
          rw [decide_eq_false c, Bool.false_or]) 20 fu 0 (_, _) (by omega) (fu_gt (by omega)) ⟨msk_full, msk_full⟩
  refine ⟨I1, ?_, d1, d2⟩
  unfold m_blurredBy
  have h3 : m_blurredBy_l16 J' I1 fu 1152921504606846975 1152921504606846975 0 = some (w1, w2) := h3
  rw [e1, pz_bs, pz_u2, h3, pz_bs, pz_u2, pm_bitsIn, pm_bitsIn, pz_bs, pz_bs, pz_add, cnt_msk h1, cnt_msk h2, show (120 : Nat) = 60 + 60 from rfl, ctN_add]
end BLU
/-! the two sets of sayings -/
def gI (kind d e : Nat) : Nat := ((List.range 20).find? fun k => sayK k == kind && ((sayD k == d && sayE k == e) || (kind == 4 && sayD k == e && sayE k == d))).getD 20
def gC (kind d e : Nat) : Bool := !(sayV kind d e && soB (plcT 0) kind d e) || (decide (gI kind d e < 20) && (decide (sayK (gI kind d e) = kind) && ((decide (sayD (gI kind d e) = d) && decide (sayE (gI kind d e) = e)) || (decide (kind = 4) && (decide (sayD (gI kind d e) = e) && decide (sayE (gI kind d e) = d))))))
theorem gC_ok : ∀ kind, kind < 5 → ∀ d, d < 5 → ∀ e, e < 5 → gC kind d e = true := by decide +kernel
theorem gI_ok (kind : Nat) (hk : kind < 5) (d : Nat) (hd : d < 5) (e : Nat) (he : e < 5) (h1 : sayV kind d e = true) (h2 : soB (plcT 0) kind d e = true) : gI kind d e < 20 ∧ sayK (gI kind d e) = kind ∧ ((sayD (gI kind d e) = d ∧ sayE (gI kind d e) = e) ∨ (kind = 4 ∧ sayD (gI kind d e) = e ∧ sayE (gI kind d e) = d)) := by
  have h := gC_ok kind hk d hd e he
  unfold gC at h
  rw [h1, h2] at h
  simp only [Bool.and_self, Bool.not_true, Bool.false_or, Bool.and_eq_true, Bool.or_eq_true, decide_eq_true_eq] at h
  exact h
theorem sayV_ok : ∀ k, k < 20 → sayV (sayK k) (sayD k) (sayE k) = true := by decide +kernel
theorem sayV_inj {f : Nat → Nat} (hf : ∀ a b, a < 5 → b < 5 → f a = f b → a = b) {kind a b : Nat} (ha : a < 5) (hb : b < 5) : sayV kind (f a) (f b) = sayV kind a b := by
  have e : decide (f a = f b) = decide (a = b) := decide_eq_decide.mpr ⟨fun q => hf a b ha hb q, fun q => by rw [q]⟩
  unfold sayV
  rw [e]
theorem so_comp {o : Nat} (ho : o < 120) {kind d e : Nat} (hd : d < 5) (he : e < 5) : soB (plcT o) kind (ordT o d) (ordT o e) = soB (plcT 0) kind d e := by
  unfold soB
  rw [(ord_ok o ho d hd).2.2.1, (ord_ok o ho e he).2.2.1, (ord_0 d hd).2, (ord_0 e he).2]
theorem ord_inj {o : Nat} (ho : o < 120) (a b : Nat) (ha : a < 5) (hb : b < 5) (h : ordT o a = ordT o b) : a = b := Classical.byContradiction fun c => ord_ne ho ha hb c h
theorem plc_inj5 {o : Nat} (ho : o < 120) (a b : Nat) (ha : a < 5) (hb : b < 5) (h : plcT o a = plcT o b) : a = b := Classical.byContradiction fun c => plc_ne ho ha hb c h
def hX' (o k : Nat) : Nat := 25 * sayK k + 5 * ordT o (sayD k) + ordT o (sayE k)
def gX (o t : Nat) : Nat := gI (t / 25) (plcT o (t / 5 % 5)) (plcT o (t % 5))
section TWO
variable {s : SN} {forms o : Nat}
theorem say_h (ho : o < 120) {k : Nat} (hk : k < 20) (hc : cst s forms (sayK k) ≠ 0) : hX' o k < 125 ∧ hX' o k / 25 = sayK k ∧ xa s forms o (hX' o k) = true ∧ ∀ i, i < 120 → outX (hX' o k) i = outM k (cmpT o i) := by
  obtain ⟨k1, k2, k3, k4⟩ := say_ok k hk
  have o1 := (ord_ok o ho _ k2).1
  have o2 := (ord_ok o ho _ k3).1
  have d1 : hX' o k / 25 = sayK k := by unfold hX'; omega
  have d2 : hX' o k / 5 % 5 = ordT o (sayD k) := by unfold hX'; omega
  have d3 : hX' o k % 5 = ordT o (sayE k) := by unfold hX'; omega
  refine ⟨by unfold hX'; omega, d1, ?_, fun i hi => ?_⟩
  · unfold xa
    rw [d1, d2, d3, decide_eq_true hc, sayV_inj (ord_inj ho) k2 k3, sayV_ok k hk, so_comp ho k2 k3, k4]
    rfl
  · unfold outX outM
    rw [d1, d2, d3, cmp_so ho hi _ k2 k3]
theorem say_g (ho : o < 120) {t : Nat} (ht : t < 125) (hx : xa s forms o t = true) : gX o t < 20 ∧ sayK (gX o t) = t / 25 ∧ cst s forms (t / 25) ≠ 0 ∧ ∀ i, i < 120 → outM (gX o t) (cmpT o i) = outX t i := by
  unfold xa at hx
  rw [Bool.and_eq_true, Bool.and_eq_true, decide_eq_true_eq] at hx
  obtain ⟨⟨h1, h2⟩, h3⟩ := hx
  have t1 : t / 25 < 5 := by omega
  have t2 : t / 5 % 5 < 5 := by omega
  have t3 : t % 5 < 5 := by omega
  obtain ⟨a1, a2, a3, a4⟩ := ord_ok o ho _ t2
  obtain ⟨b1, b2, b3, b4⟩ := ord_ok o ho _ t3
  rw [← a4, ← b4] at h2 h3
  rw [sayV_inj (ord_inj ho) a2 b2] at h2
  rw [so_comp ho a2 b2] at h3
  obtain ⟨g1, g2, g3⟩ := gI_ok _ t1 _ a2 _ b2 h2 h3
  refine ⟨g1, g2, h1, fun i hi => ?_⟩
  have g2 : sayK (gX o t) = t / 25 := g2
  have g3 : (sayD (gX o t) = plcT o (t / 5 % 5) ∧ sayE (gX o t) = plcT o (t % 5)) ∨ (t / 25 = 4 ∧ sayD (gX o t) = plcT o (t % 5) ∧ sayE (gX o t) = plcT o (t / 5 % 5)) := g3
  unfold outM outX
  rw [g2]
  rcases g3 with ⟨q1, q2⟩ | ⟨q0, q1, q2⟩
  · rw [q1, q2, cmp_so ho hi _ a2 b2, a4, b4]
  · rw [q1, q2, cmp_so ho hi _ b2 a2, a4, b4, so_sym _ (by omega)]
/-- places in the class's list -/
theorem xl_at {n j : Nat} (hj : j < (xl s forms o n).length) : (xl s forms o n).getD j 0 < n ∧ xa s forms o ((xl s forms o n).getD j 0) = true := by
  have hm : (xl s forms o n).getD j 0 ∈ xl s forms o n := by
    rw [List.getD_eq_getElem?_getD, List.getElem?_eq_getElem hj]
    exact List.getElem_mem hj
  obtain ⟨h1, h2⟩ := List.mem_filter.mp hm
  exact ⟨List.mem_range.mp h1, h2⟩
theorem xl_pos {n t : Nat} (ht : t < n) (h : xa s forms o t = true) : ∃ j, j < (xl s forms o n).length ∧ (xl s forms o n).getD j 0 = t := by
  have hm : t ∈ xl s forms o n := List.mem_filter.mpr ⟨List.mem_range.mpr ht, h⟩
  obtain ⟨j, hj, e⟩ := List.getElem_of_mem hm
  exact ⟨j, hj, by rw [List.getD_eq_getElem?_getD, List.getElem?_eq_getElem hj]; exact e⟩
theorem bl_same (ho : o < 120) {i : Nat} (hi : i < 120) : blX (xl s forms o 125) i (xl s forms o 125).length = blM s forms (cmpT o i) 20 := by
  refine Bool.eq_iff_iff.mpr ?_
  rw [blX_iff, blM_iff]
  refine ⟨fun h k hk hc => ?_, fun h j hj => ?_⟩
  · obtain ⟨h1, h2, h3, h4⟩ := say_h ho hk hc
    obtain ⟨j, hj, e⟩ := xl_pos h1 h3
    rw [← h4 i hi, ← e]
    exact h j hj
  · obtain ⟨h1, h2⟩ := xl_at hj
    obtain ⟨g1, g2, g3, g4⟩ := say_g ho h1 h2
    rw [← g4 i hi]
    exact h _ g1 (by rw [g2]; exact g3)
theorem bl_count (ho : o < 120) : ctN (fun i => blX (xl s forms o 125) i (xl s forms o 125).length) 120 = ctN (fun i => blM s forms i 20) 120 := by
  rw [← ctN_bij (f := cmpT o) (fun i => blM s forms i 20) (fun i hi => (cmp_ok ho hi).1) (fun i j hi hj => cmp_inj ho hi hj)]
  exact ctN_ext fun i hi => bl_same ho hi
end TWO

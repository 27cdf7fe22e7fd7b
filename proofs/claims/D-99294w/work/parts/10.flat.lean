/-! FLAT WORLDS: cells by number; ints in one plane, longs in another; references fixed by a table -/
abbrev PI : Type := Nat → Nat → Int32
abbrev PJ : Type := Nat → Nat → Int64
abbrev PT : Type := Nat → Nat → Option Nat
def inb (i : Int32) (n : Nat) : Bool := !(decide (i < 0) || decide (n ≤ i.toNatClampNeg))
theorem inb_in {i : Int32} {n : Nat} (h : inb i n = true) : vp_in i n := by
  intro q
  rcases q with q | q <;> simp [inb, q] at h
abbrev ix (i : Int32) : Nat := i.toNatClampNeg
theorem inb_lt {i : Int32} {n : Nat} (h : inb i n = true) : ix i < n := Nat.not_le.mp fun q => inb_in h (Or.inr q)
def lt_ {α β : Type} (x : α) (f : α → β) : β := f x
theorem lt_at {α β : Type} {x y : α} {f : α → β} {r : β} (h : lt_ x f = r) (e : y = x) : f y = r := by subst e; exact h
def ck {α : Type} (b : Bool) (o : Option α) : Option α := if b = true then o else none
theorem ck_at {α : Type} {b : Bool} {o : Option α} {r : α} (h : ck b o = some r) : b = true ∧ o = some r := by
  unfold ck at h
  by_cases hb : b = true
  · rw [if_pos hb] at h; exact ⟨hb, h⟩
  · rw [if_neg hb] at h; cases h
theorem bd_at {α β : Type} {o : Option α} {f : α → Option β} {r : β} (h : o.bind f = some r) : ∃ v, o = some v ∧ f v = some r := Option.bind_eq_some_iff.mp h
theorem if_t {α : Type} {c : Prop} {d : Decidable c} {a b r : α} (h : (@ite α c d a b) = r) (hc : c) : a = r := by rw [if_pos hc] at h; exact h
theorem if_f {α : Type} {c : Prop} {d : Decidable c} {a b r : α} (h : (@ite α c d a b) = r) (hc : ¬ c) : b = r := by rw [if_neg hc] at h; exact h
def lbind {ρ β γ : Type} (o : Option (ρ ⊕ β)) (g : ρ → Option γ) (f : β → Option γ) : Option γ := o.bind fun z => Sum.elim g f z
theorem lb_at {ρ β γ : Type} {o : Option (ρ ⊕ β)} {g : ρ → Option γ} {f : β → Option γ} {r : γ} (h : lbind o g f = some r) : ∃ z, o = some z ∧ (∀ x, z = .inl x → g x = some r) ∧ (∀ y, z = .inr y → f y = some r) := by
  obtain ⟨z, h1, h2⟩ := Option.bind_eq_some_iff.mp h
  refine ⟨z, h1, fun x e => ?_, fun y e => ?_⟩ <;> subst e <;> exact h2
def un2 {a b z : Type} (f : a → b → z) (p : a × b) : z := f p.1 p.2
def un3 {a b c z : Type} (f : a → b → c → z) (p : a × b × c) : z := f p.1 p.2.1 p.2.2
def un4 {a b c d z : Type} (f : a → b → c → d → z) (p : a × b × c × d) : z := f p.1 p.2.1 p.2.2.1 p.2.2.2
def un5 {a b c d e z : Type} (f : a → b → c → d → e → z) (p : a × b × c × d × e) : z := f p.1 p.2.1 p.2.2.1 p.2.2.2.1 p.2.2.2.2
def un6 {a b c d e g z : Type} (f : a → b → c → d → e → g → z) (p : a × b × c × d × e × g) : z := f p.1 p.2.1 p.2.2.1 p.2.2.2.1 p.2.2.2.2.1 p.2.2.2.2.2
def un7 {a b c d e g h z : Type} (f : a → b → c → d → e → g → h → z) (p : a × b × c × d × e × g × h) : z := f p.1 p.2.1 p.2.2.1 p.2.2.2.1 p.2.2.2.2.1 p.2.2.2.2.2.1 p.2.2.2.2.2.2
def fu : Nat := 1099511627776
def u2 {α : Type} (f : Nat → Nat → α) (a i : Nat) (v : α) : Nat → Nat → α := fun b => if b = a then (fun j => if j = i then v else f b j) else f b
theorem u2_eq {α : Type} (f : Nat → Nat → α) (a i : Nat) (v : α) : u2 f a i v a i = v := by simp [u2]
theorem u2_ne {α : Type} (f : Nat → Nat → α) {a i b j : Nat} (v : α) (h : b ≠ a ∨ j ≠ i) : u2 f a i v b j = f b j := by
  unfold u2
  by_cases hb : b = a
  · by_cases hj : j = i
    · rcases h with h | h
      · exact absurd hb h
      · exact absurd hj h
    · simp [hb, hj]
  · simp [hb]
theorem u2_row {α : Type} (f : Nat → Nat → α) (a i : Nat) (v : α) {b : Nat} (h : b ≠ a) : u2 f a i v b = f b := by simp [u2, h]
theorem u2_upd (f : PI) (a i : Nat) (v : Int32) : u2 f a i v a = upd (f a) i v := by
  funext j
  simp [u2, upd]
theorem u2_updL (f : PJ) (a i : Nat) (v : Int64) : u2 f a i v a = vp_updL (f a) i v := by
  funext j
  simp [u2, vp_updL]
def gf (ad : Nat → Nat) (t : Nat) (x : Int32) (y : Int64) (r q : Option Nat) : Value := match t with
  | 0 => .int x
  | 1 => .long y
  | 2 => va_rf (r.map ad)
  | _ => va_rf q
/-- what a cell holds -/
def gE (tA : Nat → ClassId) (ad : Nat → Nat) (fl : List (List Nat)) (K : Nat → Nat × Nat) (R : PT) (I : PI) (J : PJ) (T : PT) (k : Nat) : va_E := match (K k).1 with
  | 0 => .inl (tA 0, (K k).2, .inl (I k))
  | 1 => .inl (tA 1, (K k).2, .inr (.inl (J k)))
  | 2 => .inl (tA 2, (K k).2, .inl (I k))
  | 3 => .inl (tA 3, (K k).2, .inl (I k))
  | 4 => .inl (tA 4, (K k).2, .inr (.inr (.inr (.inr (fun j => (R k j).map ad)))))
  | 5 => .inl (tA 5, (K k).2, .inr (.inr (.inr (.inr (T k)))))
  | c + 6 => .inr (c, (List.range (fl.getD c []).length).map fun j => gf ad ((fl.getD c []).getD j 0) (I k j) (J k j) (R k j) (T k j))
def gW (tA : Nat → ClassId) (ad : Nat → Nat) (fl : List (List Nat)) (K : Nat → Nat × Nat) (R : PT) (N : Nat) (I : PI) (J : PJ) (T : PT) : va_W := (List.range N).map fun k => (ad k, gE tA ad fl K R I J T k)
section GW
variable {tA : Nat → ClassId} {ad : Nat → Nat} {fl : List (List Nat)} {K : Nat → Nat × Nat} {R0 : PT} {N : Nat} {I : PI} {J : PJ} {T : PT} {TW : va_W}
theorem gW_len : (gW tA ad fl K R0 N I J T).length = N := by simp [gW]
theorem gW_at {k : Nat} (h : k < N) : (gW tA ad fl K R0 N I J T ++ TW)[k]? = some (ad k, gE tA ad fl K R0 I J T k) := by
  rw [List.getElem?_append_left (by rw [gW_len]; exact h)]
  simp [gW, h]
theorem gW_set {k : Nat} (h : k < N) {I' : PI} {J' : PJ} {T' : PT} {e : va_E} (hk : gE tA ad fl K R0 I' J' T' k = e) (ho : ∀ j, j ≠ k → gE tA ad fl K R0 I' J' T' j = gE tA ad fl K R0 I J T j) : (gW tA ad fl K R0 N I J T ++ TW).set k (ad k, e) = gW tA ad fl K R0 N I' J' T' ++ TW := by
  rw [List.set_append_left _ _ (by rw [gW_len]; exact h)]
  congr 1
  apply List.ext_getElem?
  intro j
  by_cases hj : j = k
  · subst hj
    rw [List.getElem?_set_self (by rw [gW_len]; exact h)]
    simp [gW, h, hk]
  · rw [List.getElem?_set_ne (Ne.symm hj)]
    by_cases hN : j < N
    · simp [gW, hN, ho j hj]
    · simp [gW, hN]
theorem gE_u2I {k i : Nat} {v : Int32} {j : Nat} (h : j ≠ k) : gE tA ad fl K R0 (u2 I k i v) J T j = gE tA ad fl K R0 I J T j := by
  unfold gE
  rw [u2_row _ _ _ _ h]
theorem gE_u2J {k i : Nat} {v : Int64} {j : Nat} (h : j ≠ k) : gE tA ad fl K R0 I (u2 J k i v) T j = gE tA ad fl K R0 I J T j := by
  unfold gE
  rw [u2_row _ _ _ _ h]
theorem gE_u2T {k i : Nat} {v : Option Nat} {j : Nat} (h : j ≠ k) : gE tA ad fl K R0 I J (u2 T k i v) j = gE tA ad fl K R0 I J T j := by
  unfold gE
  rw [u2_row _ _ _ _ h]
theorem gE_0 {k n : Nat} (h : K k = (0, n)) : gE tA ad fl K R0 I J T k = .inl (tA 0, n, .inl (I k)) := by simp [gE, h]
theorem gE_1 {k n : Nat} (h : K k = (1, n)) : gE tA ad fl K R0 I J T k = .inl (tA 1, n, .inr (.inl (J k))) := by simp [gE, h]
theorem gE_2 {k n : Nat} (h : K k = (2, n)) : gE tA ad fl K R0 I J T k = .inl (tA 2, n, .inl (I k)) := by simp [gE, h]
theorem gE_3 {k n : Nat} (h : K k = (3, n)) : gE tA ad fl K R0 I J T k = .inl (tA 3, n, .inl (I k)) := by simp [gE, h]
theorem gE_4 {k n : Nat} (h : K k = (4, n)) : gE tA ad fl K R0 I J T k = .inl (tA 4, n, .inr (.inr (.inr (.inr (fun j => (R0 k j).map ad))))) := by simp [gE, h]
theorem gE_5 {k n : Nat} (h : K k = (5, n)) : gE tA ad fl K R0 I J T k = .inl (tA 5, n, .inr (.inr (.inr (.inr (T k))))) := by simp [gE, h]
theorem gE_6 {k c n : Nat} (h : K k = (c + 6, n)) : gE tA ad fl K R0 I J T k = .inr (c, (List.range (fl.getD c []).length).map fun j => gf ad ((fl.getD c []).getD j 0) (I k j) (J k j) (R0 k j) (T k j)) := by simp [gE, h]
end GW
theorem gf_set {n f : Nat} {g g' : Nat → Value} (h : f < n) (ho : ∀ j, j ≠ f → g' j = g j) : ((List.range n).map g).set f (g' f) = (List.range n).map g' := by
  apply List.ext_getElem?
  intro j
  by_cases hj : j = f
  · subst hj
    rw [List.getElem?_set_self (by simpa using h)]
    simp [h]
  · rw [List.getElem?_set_ne (Ne.symm hj)]
    by_cases hN : j < n
    · simp [hN, ho j hj]
    · simp [hN]
section GR
variable {p : Program} {l : Launch} {e : Env} {R : Room} {s : State} {m : MethodId} {args : Array Value} {below : List Frame} {meth : Method} {c : Code} {H : Heap} {locs : List Loc} {cells slots : Nat} {Q : State → Prop}
variable {cc : ByteArray} {pc : Nat} {ls : Array Slot} {rest : List Value} {D : va_G} {cl : List vw_C} {A : Nat → Prop} {tys : List (ClassId × FieldType)} {H0 : Heap}
variable {tA : Nat → ClassId} {ad : Nat → Nat} {fl : List (List Nat)} {K : Nat → Nat × Nat} {R0 : PT} {N : Nat} {I : PI} {J : PJ} {T : PT} {TW : va_W}
theorem g_iald (hexec : p.tables.exec = Jvm.exec) (hb : c.code = cc) (hK : va_K D cl tys s) (hP : va_P D cl (gW tA ad fl K R0 N I J T ++ TW) H) (k : Nat) {n : Nat} (hk : k < N) (hKk : K k = (0, n)) (ht : tys[0]? = some (tA 0, .int)) {i : Int32} (hin : inb i n = true) (hdg : decode cc pc = .ok (.iaload, 1))
    (kk : W p l e R s m args below meth c H locs cells slots Q (F0 m (pc + 1) ls (.int (I k (ix i)) :: rest))) : W p l e R s m args below meth c H locs cells slots Q (F0 m pc ls (.int i :: .ref (ad k) :: rest)) :=
  va_iald hexec hb hK hP k 0 (by rw [gW_at hk, gE_0 hKk]) ht (inb_in hin) hdg kk
theorem g_lald (hexec : p.tables.exec = Jvm.exec) (hb : c.code = cc) (hK : va_K D cl tys s) (hP : va_P D cl (gW tA ad fl K R0 N I J T ++ TW) H) (k : Nat) {n : Nat} (hk : k < N) (hKk : K k = (1, n)) (ht : tys[1]? = some (tA 1, .long)) {i : Int32} (hin : inb i n = true) (hdg : decode cc pc = .ok (.laload, 1))
    (kk : W p l e R s m args below meth c H locs cells slots Q (F0 m (pc + 1) ls (.long (J k (ix i)) :: rest))) : W p l e R s m args below meth c H locs cells slots Q (F0 m pc ls (.int i :: .ref (ad k) :: rest)) :=
  va_lald hexec hb hK hP k 1 (by rw [gW_at hk, gE_1 hKk]) ht (inb_in hin) hdg kk
theorem g_bald (hexec : p.tables.exec = Jvm.exec) (hb : c.code = cc) (hK : va_K D cl tys s) (hP : va_P D cl (gW tA ad fl K R0 N I J T ++ TW) H) (k : Nat) {n : Nat} (hk : k < N) (hKk : K k = (2, n)) (ht : tys[2]? = some (tA 2, .byte)) {i : Int32} (hin : inb i n = true) (hdg : decode cc pc = .ok (.baload, 1))
    (kk : W p l e R s m args below meth c H locs cells slots Q (F0 m (pc + 1) ls (.int (I k (ix i)) :: rest))) : W p l e R s m args below meth c H locs cells slots Q (F0 m pc ls (.int i :: .ref (ad k) :: rest)) :=
  va_bald hexec hb hK hP k 2 (by rw [gW_at hk, gE_2 hKk]) ht (inb_in hin) hdg kk
theorem g_zald (hexec : p.tables.exec = Jvm.exec) (hb : c.code = cc) (hK : va_K D cl tys s) (hP : va_P D cl (gW tA ad fl K R0 N I J T ++ TW) H) (k : Nat) {n : Nat} (hk : k < N) (hKk : K k = (3, n)) (ht : tys[3]? = some (tA 3, .boolean)) {i : Int32} (hin : inb i n = true) (hdg : decode cc pc = .ok (.baload, 1))
    (kk : W p l e R s m args below meth c H locs cells slots Q (F0 m (pc + 1) ls (.int (I k (ix i)) :: rest))) : W p l e R s m args below meth c H locs cells slots Q (F0 m pc ls (.int i :: .ref (ad k) :: rest)) :=
  va_zald hexec hb hK hP k 3 (by rw [gW_at hk, gE_3 hKk]) ht (inb_in hin) hdg kk
theorem g_iast (hexec : p.tables.exec = Jvm.exec) (hb : c.code = cc) (hK : va_K D cl tys s) (hP : va_P D cl (gW tA ad fl K R0 N I J T ++ TW) H) (hD : va_D A (gW tA ad fl K R0 N I J T ++ TW)) (hS : va_S A H0 H locs) (k : Nat) {n : Nat} (hk : k < N) (hKk : K k = (0, n)) (ht : tys[0]? = some (tA 0, .int)) {i x : Int32} (hin : inb i n = true) (hdg : decode cc pc = .ok (.iastore, 1))
    (kk : ∀ (H : Heap) (locs : List Loc), va_P D cl (gW tA ad fl K R0 N (u2 I k (ix i) x) J T ++ TW) H → va_D A (gW tA ad fl K R0 N (u2 I k (ix i) x) J T ++ TW) → va_S A H0 H locs → W p l e R s m args below meth c H locs cells slots Q (F0 m (pc + 1) ls rest)) : W p l e R s m args below meth c H locs cells slots Q (F0 m pc ls (.int x :: .int i :: .ref (ad k) :: rest)) := by
  refine va_iast hexec hb hK hP hD hS k 0 (by rw [gW_at hk, gE_0 hKk]) ht (inb_in hin) hdg (fun H1 locs1 hP1 hD1 hS1 => ?_)
  have e : (gW tA ad fl K R0 N I J T ++ TW).set k (ad k, .inl (tA 0, n, .inl (upd (I k) i.toNatClampNeg x))) = gW tA ad fl K R0 N (u2 I k (ix i) x) J T ++ TW := gW_set hk (by rw [gE_0 hKk, u2_upd]) (fun j hj => gE_u2I hj)
  rw [e] at hP1 hD1
  exact kk H1 locs1 hP1 hD1 hS1
theorem g_zast (hexec : p.tables.exec = Jvm.exec) (hb : c.code = cc) (hK : va_K D cl tys s) (hP : va_P D cl (gW tA ad fl K R0 N I J T ++ TW) H) (hD : va_D A (gW tA ad fl K R0 N I J T ++ TW)) (hS : va_S A H0 H locs) (k : Nat) {n : Nat} (hk : k < N) (hKk : K k = (3, n)) (ht : tys[3]? = some (tA 3, .boolean)) {i x : Int32} (hin : inb i n = true) (hdg : decode cc pc = .ok (.bastore, 1))
    (kk : ∀ (H : Heap) (locs : List Loc), va_P D cl (gW tA ad fl K R0 N (u2 I k (ix i) (vp_nar .boolean x)) J T ++ TW) H → va_D A (gW tA ad fl K R0 N (u2 I k (ix i) (vp_nar .boolean x)) J T ++ TW) → va_S A H0 H locs → W p l e R s m args below meth c H locs cells slots Q (F0 m (pc + 1) ls rest)) : W p l e R s m args below meth c H locs cells slots Q (F0 m pc ls (.int x :: .int i :: .ref (ad k) :: rest)) := by
  refine va_zast hexec hb hK hP hD hS k 3 (by rw [gW_at hk, gE_3 hKk]) ht (inb_in hin) hdg (fun H1 locs1 hP1 hD1 hS1 => ?_)
  have e : (gW tA ad fl K R0 N I J T ++ TW).set k (ad k, .inl (tA 3, n, .inl (upd (I k) i.toNatClampNeg (vp_nar .boolean x)))) = gW tA ad fl K R0 N (u2 I k (ix i) (vp_nar .boolean x)) J T ++ TW := gW_set hk (by rw [gE_3 hKk, u2_upd]) (fun j hj => gE_u2I hj)
  rw [e] at hP1 hD1
  exact kk H1 locs1 hP1 hD1 hS1
theorem g_bast (hexec : p.tables.exec = Jvm.exec) (hb : c.code = cc) (hK : va_K D cl tys s) (hP : va_P D cl (gW tA ad fl K R0 N I J T ++ TW) H) (hD : va_D A (gW tA ad fl K R0 N I J T ++ TW)) (hS : va_S A H0 H locs) (k : Nat) {n : Nat} (hk : k < N) (hKk : K k = (2, n)) (ht : tys[2]? = some (tA 2, .byte)) {i x : Int32} (hin : inb i n = true) (hdg : decode cc pc = .ok (.bastore, 1))
    (kk : ∀ (H : Heap) (locs : List Loc), va_P D cl (gW tA ad fl K R0 N (u2 I k (ix i) (vp_nar .byte x)) J T ++ TW) H → va_D A (gW tA ad fl K R0 N (u2 I k (ix i) (vp_nar .byte x)) J T ++ TW) → va_S A H0 H locs → W p l e R s m args below meth c H locs cells slots Q (F0 m (pc + 1) ls rest)) : W p l e R s m args below meth c H locs cells slots Q (F0 m pc ls (.int x :: .int i :: .ref (ad k) :: rest)) := by
  refine va_bast hexec hb hK hP hD hS k 2 (by rw [gW_at hk, gE_2 hKk]) ht (inb_in hin) hdg (fun H1 locs1 hP1 hD1 hS1 => ?_)
  have e : (gW tA ad fl K R0 N I J T ++ TW).set k (ad k, .inl (tA 2, n, .inl (upd (I k) i.toNatClampNeg (vp_nar .byte x)))) = gW tA ad fl K R0 N (u2 I k (ix i) (vp_nar .byte x)) J T ++ TW := gW_set hk (by rw [gE_2 hKk, u2_upd]) (fun j hj => gE_u2I hj)
  rw [e] at hP1 hD1
  exact kk H1 locs1 hP1 hD1 hS1
theorem g_last (hexec : p.tables.exec = Jvm.exec) (hb : c.code = cc) (hK : va_K D cl tys s) (hP : va_P D cl (gW tA ad fl K R0 N I J T ++ TW) H) (hD : va_D A (gW tA ad fl K R0 N I J T ++ TW)) (hS : va_S A H0 H locs) (k : Nat) {n : Nat} (hk : k < N) (hKk : K k = (1, n)) (ht : tys[1]? = some (tA 1, .long)) {i : Int32} {x : Int64} (hin : inb i n = true) (hdg : decode cc pc = .ok (.lastore, 1))
    (kk : ∀ (H : Heap) (locs : List Loc), va_P D cl (gW tA ad fl K R0 N I (u2 J k (ix i) x) T ++ TW) H → va_D A (gW tA ad fl K R0 N I (u2 J k (ix i) x) T ++ TW) → va_S A H0 H locs → W p l e R s m args below meth c H locs cells slots Q (F0 m (pc + 1) ls rest)) : W p l e R s m args below meth c H locs cells slots Q (F0 m pc ls (.long x :: .int i :: .ref (ad k) :: rest)) := by
  refine va_last hexec hb hK hP hD hS k 1 (by rw [gW_at hk, gE_1 hKk]) ht (inb_in hin) hdg (fun H1 locs1 hP1 hD1 hS1 => ?_)
  have e : (gW tA ad fl K R0 N I J T ++ TW).set k (ad k, .inl (tA 1, n, .inr (.inl (vp_updL (J k) i.toNatClampNeg x)))) = gW tA ad fl K R0 N I (u2 J k (ix i) x) T ++ TW := gW_set hk (by rw [gE_1 hKk, u2_updL]) (fun j hj => gE_u2J hj)
  rw [e] at hP1 hD1
  exact kk H1 locs1 hP1 hD1 hS1
/-- getfield -/
theorem g_get (hexec : p.tables.exec = Jvm.exec) (hb : c.code = cc) {own ref C : String} {T' : u_T} {N' ci index : Nat} {Ts : List Cond} (hts : ∀ w ∈ Ts, w.before args s = true) (hin : ∀ w ∈ u_ws C T' N', w ∈ Ts) (hown : s.vm.findClass own = some m.cls) (hK : va_K D cl tys s) (hP : va_P D cl (gW tA ad fl K R0 N I J T ++ TW) H) (k : Nat) {n : Nat} (hk : k < N) (hKk : K k = (ci + 6, n)) (hc : cl[ci]? = some (C, T', N')) (f : Nat) (hf : f < N') (hlink : (Cond.fieldLink own index ref (T' f).2.1 (T' f).2.2.1).before args s = true) (hsame : ∀ x, s.fieldFound? (T' f).1 (T' f).2.1 (T' f).2.2.1 = some x → s.fieldFound? ref (T' f).2.1 (T' f).2.2.1 = some x) {v : Value} (hfl : f < (fl.getD ci []).length) (hv : gf ad ((fl.getD ci []).getD f 0) (I k f) (J k f) (R0 k f) (T k f) = v) (hdg : decode cc pc = .ok (.getfield index, 3))
    (kk : W p l e R s m args below meth c H locs cells slots Q (F0 m (pc + 3) ls (v :: rest))) : W p l e R s m args below meth c H locs cells slots Q (F0 m pc ls (.ref (ad k) :: rest)) :=
  va_get hexec hb hts hin hown hK hP k (by rw [gW_at hk, gE_6 hKk]) hc f hf hlink hsame (by rw [List.getElem?_map, List.getElem?_range hfl, ← hv]; rfl) hdg kk
/-- putfield of an int -/
theorem g_puti (hexec : p.tables.exec = Jvm.exec) (hb : c.code = cc) {own ref C : String} {T' : u_T} {N' ci index : Nat} {Ts : List Cond} (hts : ∀ w ∈ Ts, w.before args s = true) (hin : ∀ w ∈ u_ws C T' N', w ∈ Ts) (ty0 : Nat → FieldType) (hty : ∀ k, k < N' → parseFieldDescriptor (T' k).2.2.1 = some (ty0 k)) (hnm : ∀ a, a < N' → ∀ b, b < N' → a ≠ b → (T' a).2.1 ≠ (T' b).2.1) (hown : s.vm.findClass own = some m.cls) (hK : va_K D cl tys s) (hP : va_P D cl (gW tA ad fl K R0 N I J T ++ TW) H) (hD : va_D A (gW tA ad fl K R0 N I J T ++ TW)) (hS : va_S A H0 H locs) (k : Nat) {n : Nat} (hk : k < N) (hKk : K k = (ci + 6, n)) (hc : cl[ci]? = some (C, T', N')) (f : Nat) (hf : f < N') (hlink : (Cond.fieldLink own index ref (T' f).2.1 (T' f).2.2.1).before args s = true) (hsame : ∀ x, s.fieldFound? (T' f).1 (T' f).2.1 (T' f).2.2.1 = some x → s.fieldFound? ref (T' f).2.1 (T' f).2.2.1 = some x) (hfin : (T' f).2.2.2 = false) {ty : FieldType} {x x' : Int32} (hd : parseFieldDescriptor (T' f).2.2.1 = some ty) (hn : narrow ty (.int x) = .int x') (hn2 : narrow ty (.int x') = .int x') (hfit : fits ty (.int x') = true) (hxx : x = x') (hfl : f < (fl.getD ci []).length) (hft : (fl.getD ci []).getD f 0 = 0) (hdg : decode cc pc = .ok (.putfield index, 3))
    (kk : ∀ (H : Heap) (locs : List Loc), va_P D cl (gW tA ad fl K R0 N (u2 I k f x) J T ++ TW) H → va_D A (gW tA ad fl K R0 N (u2 I k f x) J T ++ TW) → va_S A H0 H locs → W p l e R s m args below meth c H locs cells slots Q (F0 m (pc + 3) ls rest)) : W p l e R s m args below meth c H locs cells slots Q (F0 m pc ls (.int x :: .ref (ad k) :: rest)) := by
  subst hxx
  refine va_put hexec hb hts hin ty0 hty hnm hown hK hP hD hS k (by rw [gW_at hk, gE_6 hKk]) hc f hf hlink hsame hfin hd hn hfit (by simpa using hfl) hdg (fun H1 locs1 hP1 hD1 hS1 => ?_)
  have e0 := gf_set (g := fun j => gf ad ((fl.getD ci []).getD j 0) (I k j) (J k j) (R0 k j) (T k j)) (g' := fun j => gf ad ((fl.getD ci []).getD j 0) (u2 I k f x k j) (J k j) (R0 k j) (T k j)) hfl (fun j hj => by show gf _ _ (u2 I k f x k j) _ _ _ = _; rw [u2_ne _ _ (Or.inr hj)])
  have e1 : gf ad ((fl.getD ci []).getD f 0) (u2 I k f x k f) (J k f) (R0 k f) (T k f) = .int x := by rw [hft, u2_eq]; rfl
  rw [e1] at e0
  have e : (gW tA ad fl K R0 N I J T ++ TW).set k (ad k, .inr (ci, ((List.range (fl.getD ci []).length).map fun j => gf ad ((fl.getD ci []).getD j 0) (I k j) (J k j) (R0 k j) (T k j)).set f (.int x))) = gW tA ad fl K R0 N (u2 I k f x) J T ++ TW := gW_set hk (by rw [gE_6 hKk, e0]) (fun j hj => gE_u2I hj)
  rw [e] at hP1 hD1
  exact kk H1 locs1 hP1 hD1 hS1
/-- putfield of a long -/
theorem g_putl (hexec : p.tables.exec = Jvm.exec) (hb : c.code = cc) {own ref C : String} {T' : u_T} {N' ci index : Nat} {Ts : List Cond} (hts : ∀ w ∈ Ts, w.before args s = true) (hin : ∀ w ∈ u_ws C T' N', w ∈ Ts) (ty0 : Nat → FieldType) (hty : ∀ k, k < N' → parseFieldDescriptor (T' k).2.2.1 = some (ty0 k)) (hnm : ∀ a, a < N' → ∀ b, b < N' → a ≠ b → (T' a).2.1 ≠ (T' b).2.1) (hown : s.vm.findClass own = some m.cls) (hK : va_K D cl tys s) (hP : va_P D cl (gW tA ad fl K R0 N I J T ++ TW) H) (hD : va_D A (gW tA ad fl K R0 N I J T ++ TW)) (hS : va_S A H0 H locs) (k : Nat) {n : Nat} (hk : k < N) (hKk : K k = (ci + 6, n)) (hc : cl[ci]? = some (C, T', N')) (f : Nat) (hf : f < N') (hlink : (Cond.fieldLink own index ref (T' f).2.1 (T' f).2.2.1).before args s = true) (hsame : ∀ x, s.fieldFound? (T' f).1 (T' f).2.1 (T' f).2.2.1 = some x → s.fieldFound? ref (T' f).2.1 (T' f).2.2.1 = some x) (hfin : (T' f).2.2.2 = false) {x : Int64} (hd : parseFieldDescriptor (T' f).2.2.1 = some .long) (hfl : f < (fl.getD ci []).length) (hft : (fl.getD ci []).getD f 0 = 1) (hdg : decode cc pc = .ok (.putfield index, 3))
    (kk : ∀ (H : Heap) (locs : List Loc), va_P D cl (gW tA ad fl K R0 N I (u2 J k f x) T ++ TW) H → va_D A (gW tA ad fl K R0 N I (u2 J k f x) T ++ TW) → va_S A H0 H locs → W p l e R s m args below meth c H locs cells slots Q (F0 m (pc + 3) ls rest)) : W p l e R s m args below meth c H locs cells slots Q (F0 m pc ls (.long x :: .ref (ad k) :: rest)) := by
  refine va_put hexec hb hts hin ty0 hty hnm hown hK hP hD hS k (by rw [gW_at hk, gE_6 hKk]) hc f hf hlink hsame hfin hd rfl rfl (by simpa using hfl) hdg (fun H1 locs1 hP1 hD1 hS1 => ?_)
  have e0 := gf_set (g := fun j => gf ad ((fl.getD ci []).getD j 0) (I k j) (J k j) (R0 k j) (T k j)) (g' := fun j => gf ad ((fl.getD ci []).getD j 0) (I k j) (u2 J k f x k j) (R0 k j) (T k j)) hfl (fun j hj => by show gf _ _ _ (u2 J k f x k j) _ _ = _; rw [u2_ne _ _ (Or.inr hj)])
  have e1 : gf ad ((fl.getD ci []).getD f 0) (I k f) (u2 J k f x k f) (R0 k f) (T k f) = .long x := by rw [hft, u2_eq]; rfl
  rw [e1] at e0
  have e : (gW tA ad fl K R0 N I J T ++ TW).set k (ad k, .inr (ci, ((List.range (fl.getD ci []).length).map fun j => gf ad ((fl.getD ci []).getD j 0) (I k j) (J k j) (R0 k j) (T k j)).set f (.long x))) = gW tA ad fl K R0 N I (u2 J k f x) T ++ TW := gW_set hk (by rw [gE_6 hKk, e0]) (fun j hj => gE_u2J hj)
  rw [e] at hP1 hD1
  exact kk H1 locs1 hP1 hD1 hS1
end GR
/-! flat contracts -/
def gPc (D : va_G) (cl : List vw_C) (tys : List (ClassId × FieldType)) (A : Nat → Prop) (ws : va_W) (av : List Value) : Array Value → State → Prop := va_Pc av (fun U => va_P D cl ws U.heap ∧ va_K D cl tys U ∧ va_D A ws ∧ ∀ q : Nat, U.heap.size ≤ q → A q)
def gB (D : va_G) (cl : List vw_C) (A : Nat → Prop) (ws : va_W) : Unit → State → Prop := fun _ t => va_P D cl ws t.heap ∧ va_D A ws
abbrev gQi (D : va_G) (cl : List vw_C) (A : Nat → Prop) (ws : va_W) (r : Int32) : Array Value → State → Outcome → State → Prop := va_Qi (fun (x : Int32) (_ : Unit) => x = r) (gB D cl A ws) A
abbrev gQl (D : va_G) (cl : List vw_C) (A : Nat → Prop) (ws : va_W) (r : Int64) : Array Value → State → Outcome → State → Prop := va_Ql (fun (x : Int64) (_ : Unit) => x = r) (gB D cl A ws) A
abbrev gQv (D : va_G) (cl : List vw_C) (A : Nat → Prop) (ws : va_W) : Array Value → State → Outcome → State → Prop := va_Qv (fun (_ : Unit) => True) (gB D cl A ws) A
theorem gPc_blind {D : va_G} {cl : List vw_C} {tys : List (ClassId × FieldType)} {A : Nat → Prop} {ws : va_W} {av : List Value} : FrameBlind (gPc D cl tys A ws av) := fun _ U g mk q => ⟨q.1, q.2.1, va_K.moved (u := U) (U := U.calling g mk _) (Vm.Alike.refl U.vm) q.2.2.1, q.2.2.2⟩
section GC
variable {p : Program} {l : Launch} {e : Env} {R : Room} {s : State} {m : MethodId} {args : Array Value} {below : List Frame} {meth : Method} {c : Code} {H : Heap} {locs : List Loc} {Q : State → Prop} {cells slots : Nat}
variable {D : va_G} {cl : List vw_C} {A : Nat → Prop} {tys : List (ClassId × FieldType)} {H0 : Heap} {ws ws' : va_W}
variable {y : MethodName} {bytes cc : ByteArray} {maxL nL n index mc ms : Nat} {ret : Option FieldType} {wo : List Cond} {rm : Room} {Ts : List Cond} {own C : String} {b : Addr} {As rest : List Value} {pc : Nat} {ls : Array Slot}
theorem gPre (hP : va_P D cl ws H) (hK : va_K D cl tys s) (hD : va_D A ws) (hA : ∀ q : Nat, H0.size ≤ q → A q) (hS : va_S A H0 H locs) (av : List Value) : PreS s H (gPc D cl tys A ws av) av := ⟨gPc_blind, fun U hU hW => ⟨rfl, by rw [hU]; exact hP, va_K.moved hW.alike hK, hD, fun q h => hA q (Nat.le_trans hS.1 (by rw [hU] at h; exact h))⟩⟩
theorem gPreV (hr : ∃ cellB : Cell, H[b]? = some cellB ∧ cellB.vm.isStatics = false ∧ s.vm.findClass C = some cellB.cls) (hP : va_P D cl ws H) (hK : va_K D cl tys s) (hD : va_D A ws) (hA : ∀ q : Nat, H0.size ≤ q → A q) (hS : va_S A H0 H locs) : PreV s H C b (gPc D cl tys A ws (.ref b :: As)) As := ⟨gPc_blind, hr, (gPre hP hK hD hA hS (.ref b :: As)).2⟩
theorem gVi {r : Int32} (S : CallFix p m c cc nL s args Ts own) (hM : Met l y wo rm (gPc D cl tys A ws (.ref b :: As)) (gQi D cl A ws' r) mc ms A) (cw : CallW R s args own C index y bytes maxL ret wo rm mc ms n) (hr : ∃ cellB : Cell, H[b]? = some cellB ∧ cellB.vm.isStatics = false ∧ s.vm.findClass C = some cellB.cls) (hn : As.length = n) (hsize : ls.size = nL) (hroom : (rest.map fun v => v.category).sum ≤ 8) (hdg : decode cc pc = .ok (.invokevirtual index, 3)) (hf : cells + mc ≤ R.cells ∧ slots + ms ≤ R.slots) (hK : va_K D cl tys s) (hP : va_P D cl ws H) (hD : va_D A ws) (hS : va_S A H0 H locs) (hA : ∀ q : Nat, H0.size ≤ q → A q)
    (kk : ∀ (H : Heap) (locs : List Loc), va_P D cl ws' H → va_D A ws' → va_S A H0 H locs → W p l e R s m args below meth c H locs (cells + mc) (slots + ms) Q (F0 m (pc + 3) ls (.int r :: rest))) : W p l e R s m args below meth c H locs cells slots Q (F0 m pc ls (As.reverse ++ .ref b :: rest)) := by
  refine va_calli (rest := rest) (va_runV (g := F0 m pc ls (As.reverse ++ .ref b :: rest)) S hM cw (gPreV hr hP hK hD hA hS) rfl hn hsize rfl (lv_room hroom) hdg hf) hS (fun q _ h => h) (fun q h => h) (fun r1 u t H1 locs1 ht hvm hw hB hz hk hS1 => ?_)
  cases hw
  exact kk H1 locs1 (by rw [← ht]; exact hB.1) hB.2 hS1
theorem gVl {r : Int64} (S : CallFix p m c cc nL s args Ts own) (hM : Met l y wo rm (gPc D cl tys A ws (.ref b :: As)) (gQl D cl A ws' r) mc ms A) (cw : CallW R s args own C index y bytes maxL ret wo rm mc ms n) (hr : ∃ cellB : Cell, H[b]? = some cellB ∧ cellB.vm.isStatics = false ∧ s.vm.findClass C = some cellB.cls) (hn : As.length = n) (hsize : ls.size = nL) (hroom : (rest.map fun v => v.category).sum ≤ 8) (hdg : decode cc pc = .ok (.invokevirtual index, 3)) (hf : cells + mc ≤ R.cells ∧ slots + ms ≤ R.slots) (hK : va_K D cl tys s) (hP : va_P D cl ws H) (hD : va_D A ws) (hS : va_S A H0 H locs) (hA : ∀ q : Nat, H0.size ≤ q → A q)
    (kk : ∀ (H : Heap) (locs : List Loc), va_P D cl ws' H → va_D A ws' → va_S A H0 H locs → W p l e R s m args below meth c H locs (cells + mc) (slots + ms) Q (F0 m (pc + 3) ls (.long r :: rest))) : W p l e R s m args below meth c H locs cells slots Q (F0 m pc ls (As.reverse ++ .ref b :: rest)) := by
  refine va_calll (rest := rest) (va_runV (g := F0 m pc ls (As.reverse ++ .ref b :: rest)) S hM cw (gPreV hr hP hK hD hA hS) rfl hn hsize rfl (lv_room hroom) hdg hf) hS (fun q _ h => h) (fun q h => h) (fun r1 u t H1 locs1 ht hvm hw hB hz hk hS1 => ?_)
  cases hw
  exact kk H1 locs1 (by rw [← ht]; exact hB.1) hB.2 hS1
theorem gVv (S : CallFix p m c cc nL s args Ts own) (hM : Met l y wo rm (gPc D cl tys A ws (.ref b :: As)) (gQv D cl A ws') mc ms A) (cw : CallW R s args own C index y bytes maxL ret wo rm mc ms n) (hr : ∃ cellB : Cell, H[b]? = some cellB ∧ cellB.vm.isStatics = false ∧ s.vm.findClass C = some cellB.cls) (hn : As.length = n) (hsize : ls.size = nL) (hroom : (rest.map fun v => v.category).sum ≤ 8) (hdg : decode cc pc = .ok (.invokevirtual index, 3)) (hf : cells + mc ≤ R.cells ∧ slots + ms ≤ R.slots) (hK : va_K D cl tys s) (hP : va_P D cl ws H) (hD : va_D A ws) (hS : va_S A H0 H locs) (hA : ∀ q : Nat, H0.size ≤ q → A q)
    (kk : ∀ (H : Heap) (locs : List Loc), va_P D cl ws' H → va_D A ws' → va_S A H0 H locs → W p l e R s m args below meth c H locs (cells + mc) (slots + ms) Q (F0 m (pc + 3) ls rest)) : W p l e R s m args below meth c H locs cells slots Q (F0 m pc ls (As.reverse ++ .ref b :: rest)) := by
  refine va_callv (rest := rest) (va_runV (g := F0 m pc ls (As.reverse ++ .ref b :: rest)) S hM cw (gPreV hr hP hK hD hA hS) rfl hn hsize rfl (lv_room hroom) hdg hf) hS (fun q _ h => h) (fun q h => h) (fun u t H1 locs1 ht hvm hw hB hz hk hS1 => ?_)
  exact kk H1 locs1 (by rw [← ht]; exact hB.1) hB.2 hS1
theorem gSi {r : Int32} (S : CallFix p m c cc nL s args Ts own) (hM : Met l y wo rm (gPc D cl tys A ws As) (gQi D cl A ws' r) mc ms A) (cw : CallB R s args own index y bytes maxL ret wo rm mc ms n ∧ (Cond.static y).before args s = true) (hn : As.length = n) (hsize : ls.size = nL) (hroom : (rest.map fun v => v.category).sum ≤ 8) (hdg : decode cc pc = .ok (.invokestatic index, 3)) (hf : cells + mc ≤ R.cells ∧ slots + ms ≤ R.slots) (hK : va_K D cl tys s) (hP : va_P D cl ws H) (hD : va_D A ws) (hS : va_S A H0 H locs) (hA : ∀ q : Nat, H0.size ≤ q → A q)
    (kk : ∀ (H : Heap) (locs : List Loc), va_P D cl ws' H → va_D A ws' → va_S A H0 H locs → W p l e R s m args below meth c H locs (cells + mc) (slots + ms) Q (F0 m (pc + 3) ls (.int r :: rest))) : W p l e R s m args below meth c H locs cells slots Q (F0 m pc ls (As.reverse ++ rest)) := by
  refine va_calli (rest := rest) (va_runS (g := F0 m pc ls (As.reverse ++ rest)) S hM cw (gPre hP hK hD hA hS As) rfl hn hsize rfl (lv_room hroom) hdg hf) hS (fun q _ h => h) (fun q h => h) (fun r1 u t H1 locs1 ht hvm hw hB hz hk hS1 => ?_)
  cases hw
  exact kk H1 locs1 (by rw [← ht]; exact hB.1) hB.2 hS1
theorem gSl {r : Int64} (S : CallFix p m c cc nL s args Ts own) (hM : Met l y wo rm (gPc D cl tys A ws As) (gQl D cl A ws' r) mc ms A) (cw : CallB R s args own index y bytes maxL ret wo rm mc ms n ∧ (Cond.static y).before args s = true) (hn : As.length = n) (hsize : ls.size = nL) (hroom : (rest.map fun v => v.category).sum ≤ 8) (hdg : decode cc pc = .ok (.invokestatic index, 3)) (hf : cells + mc ≤ R.cells ∧ slots + ms ≤ R.slots) (hK : va_K D cl tys s) (hP : va_P D cl ws H) (hD : va_D A ws) (hS : va_S A H0 H locs) (hA : ∀ q : Nat, H0.size ≤ q → A q)
    (kk : ∀ (H : Heap) (locs : List Loc), va_P D cl ws' H → va_D A ws' → va_S A H0 H locs → W p l e R s m args below meth c H locs (cells + mc) (slots + ms) Q (F0 m (pc + 3) ls (.long r :: rest))) : W p l e R s m args below meth c H locs cells slots Q (F0 m pc ls (As.reverse ++ rest)) := by
  refine va_calll (rest := rest) (va_runS (g := F0 m pc ls (As.reverse ++ rest)) S hM cw (gPre hP hK hD hA hS As) rfl hn hsize rfl (lv_room hroom) hdg hf) hS (fun q _ h => h) (fun q h => h) (fun r1 u t H1 locs1 ht hvm hw hB hz hk hS1 => ?_)
  cases hw
  exact kk H1 locs1 (by rw [← ht]; exact hB.1) hB.2 hS1
theorem gSv (S : CallFix p m c cc nL s args Ts own) (hM : Met l y wo rm (gPc D cl tys A ws As) (gQv D cl A ws') mc ms A) (cw : CallB R s args own index y bytes maxL ret wo rm mc ms n ∧ (Cond.static y).before args s = true) (hn : As.length = n) (hsize : ls.size = nL) (hroom : (rest.map fun v => v.category).sum ≤ 8) (hdg : decode cc pc = .ok (.invokestatic index, 3)) (hf : cells + mc ≤ R.cells ∧ slots + ms ≤ R.slots) (hK : va_K D cl tys s) (hP : va_P D cl ws H) (hD : va_D A ws) (hS : va_S A H0 H locs) (hA : ∀ q : Nat, H0.size ≤ q → A q)
    (kk : ∀ (H : Heap) (locs : List Loc), va_P D cl ws' H → va_D A ws' → va_S A H0 H locs → W p l e R s m args below meth c H locs (cells + mc) (slots + ms) Q (F0 m (pc + 3) ls rest)) : W p l e R s m args below meth c H locs cells slots Q (F0 m pc ls (As.reverse ++ rest)) := by
  refine va_callv (rest := rest) (va_runS (g := F0 m pc ls (As.reverse ++ rest)) S hM cw (gPre hP hK hD hA hS As) rfl hn hsize rfl (lv_room hroom) hdg hf) hS (fun q _ h => h) (fun q h => h) (fun u t H1 locs1 ht hvm hw hB hz hk hS1 => ?_)
  exact kk H1 locs1 (by rw [← ht]; exact hB.1) hB.2 hS1
/-- ends -/
theorem g_iret {v r : Int32} {ty : FieldType} (hexec : p.tables.exec = Jvm.exec) (hb : c.code = cc) (hr : meth.sig.returnType = some ty) (hn : narrow ty (.int v) = .int v) (hlocks : meth.locks = false) (hP : va_P D cl ws H) (hD : va_D A ws) (hS : va_S A s.heap H locs) (e1 : v = r) (e2 : ws = ws') (hdg : decode cc pc = .ok (.ireturn, 1)) : W p l e R s m args below meth c H locs cells slots (MQ below (gQi D cl A ws' r) args s cells slots A) (F0 m pc ls [.int v]) := by
  subst e1; subst e2
  exact W.zret hexec hb hr hn (fun t ht _ => ⟨⟨v, (), rfl, rfl, by rw [ht]; exact hP, hD⟩, hS.F ht⟩) hS.2.2 hdg hlocks
theorem g_lret {v r : Int64} (hexec : p.tables.exec = Jvm.exec) (hb : c.code = cc) (hr : meth.sig.returnType = some .long) (hlocks : meth.locks = false) (hP : va_P D cl ws H) (hD : va_D A ws) (hS : va_S A s.heap H locs) (e1 : v = r) (e2 : ws = ws') (hdg : decode cc pc = .ok (.lreturn, 1)) : W p l e R s m args below meth c H locs cells slots (MQ below (gQl D cl A ws' r) args s cells slots A) (F0 m pc ls [.long v]) := by
  subst e1; subst e2
  exact W.lret hexec hb hr (fun t ht _ => ⟨⟨v, (), rfl, rfl, by rw [ht]; exact hP, hD⟩, hS.F ht⟩) hS.2.2 hdg hlocks
theorem g_vret (hexec : p.tables.exec = Jvm.exec) (hb : c.code = cc) (hr : meth.sig.returnType = none) (hlocks : meth.locks = false) (hP : va_P D cl ws H) (hD : va_D A ws) (hS : va_S A s.heap H locs) (e2 : ws = ws') (hdg : decode cc pc = .ok (.return_, 1)) : W p l e R s m args below meth c H locs cells slots (MQ below (gQv D cl A ws') args s cells slots A) (F0 m pc ls []) := by
  subst e2
  exact W.vret hexec hb hr (fun t ht _ => ⟨⟨(), rfl, trivial, by rw [ht]; exact hP, hD⟩, hS.F ht⟩) hS.2.2 hdg hlocks
end GC
theorem un2_at {a b z : Type} {f : a → b → z} {x : a} {y : b} {r : z} (h : un2 f (x, y) = r) : f x y = r := h
theorem un3_at {a b c z : Type} {f : a → b → c → z} {x : a} {y : b} {w : c} {r : z} (h : un3 f (x, y, w) = r) : f x y w = r := h
theorem un4_at {a b c d z : Type} {f : a → b → c → d → z} {x : a} {y : b} {w : c} {v : d} {r : z} (h : un4 f (x, y, w, v) = r) : f x y w v = r := h
theorem un5_at {a b c d e z : Type} {f : a → b → c → d → e → z} {x : a} {y : b} {w : c} {v : d} {u : e} {r : z} (h : un5 f (x, y, w, v, u) = r) : f x y w v u = r := h
theorem un6_at {a b c d e g z : Type} {f : a → b → c → d → e → g → z} {x : a} {y : b} {w : c} {v : d} {u : e} {t : g} {r : z} (h : un6 f (x, y, w, v, u, t) = r) : f x y w v u t = r := h
theorem un7_at {a b c d e g k z : Type} {f : a → b → c → d → e → g → k → z} {x : a} {y : b} {w : c} {v : d} {u : e} {t : g} {q : k} {r : z} (h : un7 f (x, y, w, v, u, t, q) = r) : f x y w v u t q = r := h
def isb (v : Int32) : Bool := decide (v = 0) || decide (v = 1)
theorem isb_at {v : Int32} (h : isb v = true) : narrow .boolean (.int v) = .int v := by
  rcases (by simpa [isb] using h : v = 0 ∨ v = 1) with e | e <;> subst e <;> rfl
theorem isb_fits {v : Int32} (h : narrow .boolean (.int v) = .int v) : fits .boolean (.int v) = true := by
  rw [← h]
  simp only [narrow, fits]
  have h2 : v &&& 1 = 0 ∨ v &&& 1 = 1 := by
    rw [pk_and v 1 rfl]
    rcases (by omega : v.toBitVec.toNat % 2 ^ 1 = 0 ∨ v.toBitVec.toNat % 2 ^ 1 = 1) with e | e <;> rw [e]
    · exact Or.inl rfl
    · exact Or.inr rfl
  simpa using h2
def nzi (v : Int32) : Bool := !(decide (v = 0))
theorem nzi_at {v : Int32} (h : nzi v = true) : ¬ v = 0 := by simpa [nzi] using h
def nzl (v : Int64) : Bool := !(decide (v = 0))
theorem nzl_at {v : Int64} (h : nzl v = true) : ¬ v = 0 := by simpa [nzl] using h
section GX
variable {p : Program} {l : Launch} {e : Env} {R : Room} {s : State} {m : MethodId} {args : Array Value} {below : List Frame} {meth : Method} {c : Code} {H : Heap} {locs : List Loc} {cells slots : Nat} {Q : State → Prop}
variable {cc : ByteArray} {pc : Nat} {ls : Array Slot} {rest : List Value}
theorem g_lc_eq (hexec : p.tables.exec = Jvm.exec) (hb : c.code = cc) {x y : Int64} {off : Int} {tgt : Nat} (hdg : decode cc pc = .ok (.ifCond .eq off, 3)) (ht : (pc : Int) + off = (tgt : Int))
    (kt : x = y → W p l e R s m args below meth c H locs cells slots Q (F0 m tgt ls rest)) (kf : ¬ x = y → W p l e R s m args below meth c H locs cells slots Q (F0 m (pc + 3) ls rest)) : W p l e R s m args below meth c H locs cells slots Q (F0 m pc ls (.int (lg_cmp x y) :: rest)) :=
  lv_if_eq hexec hb hdg ht (fun h => kt ((lg_cmp_eq x y).mp h)) (fun h => kf (fun q => h ((lg_cmp_eq x y).mpr q)))
theorem g_lc_ne (hexec : p.tables.exec = Jvm.exec) (hb : c.code = cc) {x y : Int64} {off : Int} {tgt : Nat} (hdg : decode cc pc = .ok (.ifCond .ne off, 3)) (ht : (pc : Int) + off = (tgt : Int))
    (kt : ¬ x = y → W p l e R s m args below meth c H locs cells slots Q (F0 m tgt ls rest)) (kf : x = y → W p l e R s m args below meth c H locs cells slots Q (F0 m (pc + 3) ls rest)) : W p l e R s m args below meth c H locs cells slots Q (F0 m pc ls (.int (lg_cmp x y) :: rest)) :=
  lv_if_ne hexec hb hdg ht (fun h => kt (fun q => h ((lg_cmp_eq x y).mpr q))) (fun h => kf ((lg_cmp_eq x y).mp h))
theorem g_lc_lt (hexec : p.tables.exec = Jvm.exec) (hb : c.code = cc) {x y : Int64} {off : Int} {tgt : Nat} (hdg : decode cc pc = .ok (.ifCond .lt off, 3)) (ht : (pc : Int) + off = (tgt : Int))
    (kt : x < y → W p l e R s m args below meth c H locs cells slots Q (F0 m tgt ls rest)) (kf : ¬ x < y → W p l e R s m args below meth c H locs cells slots Q (F0 m (pc + 3) ls rest)) : W p l e R s m args below meth c H locs cells slots Q (F0 m pc ls (.int (lg_cmp x y) :: rest)) :=
  lv_if_lt hexec hb hdg ht (fun h => kt ((lg_cmp_lt x y).mp h)) (fun h => kf (fun q => h ((lg_cmp_lt x y).mpr q)))
theorem g_lc_ge (hexec : p.tables.exec = Jvm.exec) (hb : c.code = cc) {x y : Int64} {off : Int} {tgt : Nat} (hdg : decode cc pc = .ok (.ifCond .ge off, 3)) (ht : (pc : Int) + off = (tgt : Int))
    (kt : y ≤ x → W p l e R s m args below meth c H locs cells slots Q (F0 m tgt ls rest)) (kf : ¬ y ≤ x → W p l e R s m args below meth c H locs cells slots Q (F0 m (pc + 3) ls rest)) : W p l e R s m args below meth c H locs cells slots Q (F0 m pc ls (.int (lg_cmp x y) :: rest)) :=
  lv_if_ge hexec hb hdg ht (fun h => kt ((lg_cmp_ge x y).mp h)) (fun h => kf (fun q => h ((lg_cmp_ge x y).mpr q)))
theorem g_lc_gt (hexec : p.tables.exec = Jvm.exec) (hb : c.code = cc) {x y : Int64} {off : Int} {tgt : Nat} (hdg : decode cc pc = .ok (.ifCond .gt off, 3)) (ht : (pc : Int) + off = (tgt : Int))
    (kt : y < x → W p l e R s m args below meth c H locs cells slots Q (F0 m tgt ls rest)) (kf : ¬ y < x → W p l e R s m args below meth c H locs cells slots Q (F0 m (pc + 3) ls rest)) : W p l e R s m args below meth c H locs cells slots Q (F0 m pc ls (.int (lg_cmp x y) :: rest)) :=
  lv_if_gt hexec hb hdg ht (fun h => kt ((lg_cmp_gt x y).mp h)) (fun h => kf (fun q => h ((lg_cmp_gt x y).mpr q)))
theorem g_lc_le (hexec : p.tables.exec = Jvm.exec) (hb : c.code = cc) {x y : Int64} {off : Int} {tgt : Nat} (hdg : decode cc pc = .ok (.ifCond .le off, 3)) (ht : (pc : Int) + off = (tgt : Int))
    (kt : x ≤ y → W p l e R s m args below meth c H locs cells slots Q (F0 m tgt ls rest)) (kf : ¬ x ≤ y → W p l e R s m args below meth c H locs cells slots Q (F0 m (pc + 3) ls rest)) : W p l e R s m args below meth c H locs cells slots Q (F0 m pc ls (.int (lg_cmp x y) :: rest)) :=
  lv_if_le hexec hb hdg ht (fun h => kt ((lg_cmp_le x y).mp h)) (fun h => kf (fun q => h ((lg_cmp_le x y).mpr q)))
theorem g_ldc (hexec : p.tables.exec = Jvm.exec) (hb : c.code = cc) {own : String} {index : Nat} {v : Int32} (hown : s.vm.findClass own = some m.cls) (hconst : (Jvm.Cond.constant own index v).before args s = true) (hdg : decode cc pc = .ok (.ldc index, 2)) (k : W p l e R s m args below meth c H locs cells slots Q (F0 m (pc + 2) ls (.int v :: rest))) : W p l e R s m args below meth c H locs cells slots Q (F0 m pc ls rest) := W.ldc hexec hb hown hconst rfl hdg k
theorem g_tableD (hexec : p.tables.exec = Jvm.exec) (hb : c.code = cc) {dflt lo hi : Int} {offs : Array Int} {len : Nat} {x : Int32} {tgt : Nat} (hdg : decode cc pc = .ok (.tableswitch dflt lo hi offs, len)) (L : List Int) (hx : ∀ v ∈ L, ¬ x.toInt = v) (hgap : ((List.range (hi - lo + 1).toNat).all fun k => decide (offs[k]? = some dflt) || L.contains (lo + (k : Int))) = true) (ht : (pc : Int) + dflt = (tgt : Int))
    (k : W p l e R s m args below meth c H locs cells slots Q (F0 m tgt ls rest)) : W p l e R s m args below meth c H locs cells slots Q (F0 m pc ls (.int x :: rest)) := by
  by_cases h1 : x.toInt < lo
  · exact lv_tableOut hexec hb hdg (Or.inl h1) ht k
  by_cases h2 : hi < x.toInt
  · exact lv_tableOut hexec hb hdg (Or.inr h2) ht k
  refine lv_tableIn (off := dflt) hexec hb hdg h1 h2 ?_ ht k
  have h3 := List.all_eq_true.mp hgap (x.toInt - lo).toNat (List.mem_range.mpr (by omega))
  have e : lo + (((x.toInt - lo).toNat : Nat) : Int) = x.toInt := by omega
  rw [e] at h3
  rcases (Bool.or_eq_true _ _).mp h3 with h | h
  · exact of_decide_eq_true h
  · exact absurd rfl (hx _ (List.contains_iff_mem.mp h))
end GX
section GC0
variable {p : Program} {l : Launch} {e : Env} {R : Room} {s : State} {m : MethodId} {args : Array Value} {below : List Frame} {meth : Method} {c : Code} {H : Heap} {locs : List Loc} {Q : State → Prop} {cells slots : Nat}
variable {D : va_G} {cl : List vw_C} {A : Nat → Prop} {tys : List (ClassId × FieldType)} {H0 : Heap} {ws ws' : va_W}
variable {y : MethodName} {bytes cc : ByteArray} {maxL nL n index : Nat} {ret : Option FieldType} {wo : List Cond} {rm : Room} {Ts : List Cond} {own C : String} {b : Addr} {As rest : List Value} {pc : Nat} {ls : Array Slot}
theorem gVi0 {r : Int32} (S : CallFix p m c cc nL s args Ts own) (hM : Met l y wo rm (gPc D cl tys A ws (.ref b :: As)) (gQi D cl A ws' r) 0 0 A) (cw : CallW ((R)) s args own C index y bytes maxL ret wo rm 0 0 n) (hr : ∃ cellB : Cell, H[b]? = some cellB ∧ cellB.vm.isStatics = false ∧ s.vm.findClass C = some cellB.cls) (hn : As.length = n) (hsize : ls.size = nL) (hroom : (rest.map fun v => v.category).sum ≤ 8) (hdg : decode cc pc = .ok (.invokevirtual index, 3)) (hf : cells ≤ R.cells ∧ slots ≤ R.slots) (hK : va_K D cl tys s) (hP : va_P D cl ws H) (hD : va_D A ws) (hS : va_S A H0 H locs) (hA : ∀ q : Nat, H0.size ≤ q → A q)
    (kk : ∀ (H : Heap) (locs : List Loc), va_P D cl ws' H → va_D A ws' → va_S A H0 H locs → W p l e R s m args below meth c H locs cells slots Q (F0 m (pc + 3) ls (.int r :: rest))) : W p l e R s m args below meth c H locs cells slots Q (F0 m pc ls (As.reverse ++ .ref b :: rest)) := gVi S hM cw hr hn hsize hroom hdg hf hK hP hD hS hA kk
theorem gVl0 {r : Int64} (S : CallFix p m c cc nL s args Ts own) (hM : Met l y wo rm (gPc D cl tys A ws (.ref b :: As)) (gQl D cl A ws' r) 0 0 A) (cw : CallW R s args own C index y bytes maxL ret wo rm 0 0 n) (hr : ∃ cellB : Cell, H[b]? = some cellB ∧ cellB.vm.isStatics = false ∧ s.vm.findClass C = some cellB.cls) (hn : As.length = n) (hsize : ls.size = nL) (hroom : (rest.map fun v => v.category).sum ≤ 8) (hdg : decode cc pc = .ok (.invokevirtual index, 3)) (hf : cells ≤ R.cells ∧ slots ≤ R.slots) (hK : va_K D cl tys s) (hP : va_P D cl ws H) (hD : va_D A ws) (hS : va_S A H0 H locs) (hA : ∀ q : Nat, H0.size ≤ q → A q)
    (kk : ∀ (H : Heap) (locs : List Loc), va_P D cl ws' H → va_D A ws' → va_S A H0 H locs → W p l e R s m args below meth c H locs cells slots Q (F0 m (pc + 3) ls (.long r :: rest))) : W p l e R s m args below meth c H locs cells slots Q (F0 m pc ls (As.reverse ++ .ref b :: rest)) := gVl S hM cw hr hn hsize hroom hdg hf hK hP hD hS hA kk
theorem gVv0 (S : CallFix p m c cc nL s args Ts own) (hM : Met l y wo rm (gPc D cl tys A ws (.ref b :: As)) (gQv D cl A ws') 0 0 A) (cw : CallW R s args own C index y bytes maxL ret wo rm 0 0 n) (hr : ∃ cellB : Cell, H[b]? = some cellB ∧ cellB.vm.isStatics = false ∧ s.vm.findClass C = some cellB.cls) (hn : As.length = n) (hsize : ls.size = nL) (hroom : (rest.map fun v => v.category).sum ≤ 8) (hdg : decode cc pc = .ok (.invokevirtual index, 3)) (hf : cells ≤ R.cells ∧ slots ≤ R.slots) (hK : va_K D cl tys s) (hP : va_P D cl ws H) (hD : va_D A ws) (hS : va_S A H0 H locs) (hA : ∀ q : Nat, H0.size ≤ q → A q)
    (kk : ∀ (H : Heap) (locs : List Loc), va_P D cl ws' H → va_D A ws' → va_S A H0 H locs → W p l e R s m args below meth c H locs cells slots Q (F0 m (pc + 3) ls rest)) : W p l e R s m args below meth c H locs cells slots Q (F0 m pc ls (As.reverse ++ .ref b :: rest)) := gVv S hM cw hr hn hsize hroom hdg hf hK hP hD hS hA kk
theorem gSi0 {r : Int32} (S : CallFix p m c cc nL s args Ts own) (hM : Met l y wo rm (gPc D cl tys A ws As) (gQi D cl A ws' r) 0 0 A) (cw : CallB R s args own index y bytes maxL ret wo rm 0 0 n ∧ (Cond.static y).before args s = true) (hn : As.length = n) (hsize : ls.size = nL) (hroom : (rest.map fun v => v.category).sum ≤ 8) (hdg : decode cc pc = .ok (.invokestatic index, 3)) (hf : cells ≤ R.cells ∧ slots ≤ R.slots) (hK : va_K D cl tys s) (hP : va_P D cl ws H) (hD : va_D A ws) (hS : va_S A H0 H locs) (hA : ∀ q : Nat, H0.size ≤ q → A q)
    (kk : ∀ (H : Heap) (locs : List Loc), va_P D cl ws' H → va_D A ws' → va_S A H0 H locs → W p l e R s m args below meth c H locs cells slots Q (F0 m (pc + 3) ls (.int r :: rest))) : W p l e R s m args below meth c H locs cells slots Q (F0 m pc ls (As.reverse ++ rest)) := gSi S hM cw hn hsize hroom hdg hf hK hP hD hS hA kk
theorem gSl0 {r : Int64} (S : CallFix p m c cc nL s args Ts own) (hM : Met l y wo rm (gPc D cl tys A ws As) (gQl D cl A ws' r) 0 0 A) (cw : CallB R s args own index y bytes maxL ret wo rm 0 0 n ∧ (Cond.static y).before args s = true) (hn : As.length = n) (hsize : ls.size = nL) (hroom : (rest.map fun v => v.category).sum ≤ 8) (hdg : decode cc pc = .ok (.invokestatic index, 3)) (hf : cells ≤ R.cells ∧ slots ≤ R.slots) (hK : va_K D cl tys s) (hP : va_P D cl ws H) (hD : va_D A ws) (hS : va_S A H0 H locs) (hA : ∀ q : Nat, H0.size ≤ q → A q)
    (kk : ∀ (H : Heap) (locs : List Loc), va_P D cl ws' H → va_D A ws' → va_S A H0 H locs → W p l e R s m args below meth c H locs cells slots Q (F0 m (pc + 3) ls (.long r :: rest))) : W p l e R s m args below meth c H locs cells slots Q (F0 m pc ls (As.reverse ++ rest)) := gSl S hM cw hn hsize hroom hdg hf hK hP hD hS hA kk
theorem gSv0 (S : CallFix p m c cc nL s args Ts own) (hM : Met l y wo rm (gPc D cl tys A ws As) (gQv D cl A ws') 0 0 A) (cw : CallB R s args own index y bytes maxL ret wo rm 0 0 n ∧ (Cond.static y).before args s = true) (hn : As.length = n) (hsize : ls.size = nL) (hroom : (rest.map fun v => v.category).sum ≤ 8) (hdg : decode cc pc = .ok (.invokestatic index, 3)) (hf : cells ≤ R.cells ∧ slots ≤ R.slots) (hK : va_K D cl tys s) (hP : va_P D cl ws H) (hD : va_D A ws) (hS : va_S A H0 H locs) (hA : ∀ q : Nat, H0.size ≤ q → A q)
    (kk : ∀ (H : Heap) (locs : List Loc), va_P D cl ws' H → va_D A ws' → va_S A H0 H locs → W p l e R s m args below meth c H locs cells slots Q (F0 m (pc + 3) ls rest)) : W p l e R s m args below meth c H locs cells slots Q (F0 m pc ls (As.reverse ++ rest)) := gSv S hM cw hn hsize hroom hdg hf hK hP hD hS hA kk
end GC0
section NE
variable {p : Program} {l : Launch} {e : Env} {R : Room} {s : State} {m : MethodId} {args : Array Value} {below : List Frame} {meth : Method} {c : Code} {H : Heap} {locs : List Loc} {cells slots : Nat} {Q : State → Prop}
variable {cc : ByteArray} {pc : Nat} {ls : Array Slot} {rest : List Value} {D : va_G} {cl : List vw_C} {A : Nat → Prop} {tys : List (ClassId × FieldType)} {H0 : Heap} {tA : Nat → ClassId} {ws : va_W}
theorem g_newE_int {n : Int32} {N' : Nat} (hexec : p.tables.exec = Jvm.exec) (hb : c.code = cc) (harr : (Cond.arrayClass .int).before args s = true) (hK : va_K D cl tys s) (hP : va_P D cl ws H) (hD : va_D A ws) (hS : va_S A H0 H locs) (hA : ∀ q, H0.size ≤ q → A q) (ht : tys[0]? = some (tA 0, .int)) (hN : n.toNatClampNeg = N') (hcells : cells + 1 ≤ R.cells) (hslots : slots + N' ≤ R.slots) (hn : ¬ n < 0) (hbytes : N' * componentBytes .int ≤ 536870912) (hdg : decode cc pc = .ok (.newarray .int, 2))
    (kk : ∀ (q : Nat) (H : Heap), va_P D cl (ws ++ [(q, .inl (tA 0, N', .inl (fun _ => 0)))]) H → va_D A (ws ++ [(q, .inl (tA 0, N', .inl (fun _ => 0)))]) → va_S A H0 H locs → W p l e R s m args below meth c H locs (cells + 1) (slots + N') Q (F0 m (pc + 2) ls (.ref q :: rest))) : W p l e R s m args below meth c H locs cells slots Q (F0 m pc ls (.int n :: rest)) := by
  refine va_newa (atype := .int) (ty := .int) (a0 := (N', .inl (fun _ => 0))) hexec hb harr rfl hK hP hD hS hA (fun cA => rfl) hn hN hbytes hcells hslots hdg (fun q cA H1 hK1 hP1 hD1 hS1 => ?_)
  have h1 := (hK.2 0 _ ht).2
  have h2 := (hK1.2 tys.length (cA, .int) (by simp)).2
  have h3 : cA = tA 0 := Option.some.inj ((show s.vm.findClass _ = some cA from h2).symm.trans (show s.vm.findClass _ = some (tA 0) from h1))
  subst h3
  exact kk q H1 hP1 hD1 hS1
theorem g_newE_long {n : Int32} {N' : Nat} (hexec : p.tables.exec = Jvm.exec) (hb : c.code = cc) (harr : (Cond.arrayClass .long).before args s = true) (hK : va_K D cl tys s) (hP : va_P D cl ws H) (hD : va_D A ws) (hS : va_S A H0 H locs) (hA : ∀ q, H0.size ≤ q → A q) (ht : tys[1]? = some (tA 1, .long)) (hN : n.toNatClampNeg = N') (hcells : cells + 1 ≤ R.cells) (hslots : slots + N' ≤ R.slots) (hn : ¬ n < 0) (hbytes : N' * componentBytes .long ≤ 536870912) (hdg : decode cc pc = .ok (.newarray .long, 2))
    (kk : ∀ (q : Nat) (H : Heap), va_P D cl (ws ++ [(q, .inl (tA 1, N', .inr (.inl (fun _ => 0))))]) H → va_D A (ws ++ [(q, .inl (tA 1, N', .inr (.inl (fun _ => 0))))]) → va_S A H0 H locs → W p l e R s m args below meth c H locs (cells + 1) (slots + N') Q (F0 m (pc + 2) ls (.ref q :: rest))) : W p l e R s m args below meth c H locs cells slots Q (F0 m pc ls (.int n :: rest)) := by
  refine va_newa (atype := .long) (ty := .long) (a0 := (N', .inr (.inl (fun _ => 0)))) hexec hb harr rfl hK hP hD hS hA (fun cA => rfl) hn hN hbytes hcells hslots hdg (fun q cA H1 hK1 hP1 hD1 hS1 => ?_)
  have h1 := (hK.2 1 _ ht).2
  have h2 := (hK1.2 tys.length (cA, .long) (by simp)).2
  have h3 : cA = tA 1 := Option.some.inj ((show s.vm.findClass _ = some cA from h2).symm.trans (show s.vm.findClass _ = some (tA 1) from h1))
  subst h3
  exact kk q H1 hP1 hD1 hS1
theorem g_newE_byte {n : Int32} {N' : Nat} (hexec : p.tables.exec = Jvm.exec) (hb : c.code = cc) (harr : (Cond.arrayClass .byte).before args s = true) (hK : va_K D cl tys s) (hP : va_P D cl ws H) (hD : va_D A ws) (hS : va_S A H0 H locs) (hA : ∀ q, H0.size ≤ q → A q) (ht : tys[2]? = some (tA 2, .byte)) (hN : n.toNatClampNeg = N') (hcells : cells + 1 ≤ R.cells) (hslots : slots + N' ≤ R.slots) (hn : ¬ n < 0) (hbytes : N' * componentBytes .byte ≤ 536870912) (hdg : decode cc pc = .ok (.newarray .byte, 2))
    (kk : ∀ (q : Nat) (H : Heap), va_P D cl (ws ++ [(q, .inl (tA 2, N', .inl (fun _ => 0)))]) H → va_D A (ws ++ [(q, .inl (tA 2, N', .inl (fun _ => 0)))]) → va_S A H0 H locs → W p l e R s m args below meth c H locs (cells + 1) (slots + N') Q (F0 m (pc + 2) ls (.ref q :: rest))) : W p l e R s m args below meth c H locs cells slots Q (F0 m pc ls (.int n :: rest)) := by
  refine va_newa (atype := .byte) (ty := .byte) (a0 := (N', .inl (fun _ => 0))) hexec hb harr rfl hK hP hD hS hA (fun cA => rfl) hn hN hbytes hcells hslots hdg (fun q cA H1 hK1 hP1 hD1 hS1 => ?_)
  have h1 := (hK.2 2 _ ht).2
  have h2 := (hK1.2 tys.length (cA, .byte) (by simp)).2
  have h3 : cA = tA 2 := Option.some.inj ((show s.vm.findClass _ = some cA from h2).symm.trans (show s.vm.findClass _ = some (tA 2) from h1))
  subst h3
  exact kk q H1 hP1 hD1 hS1
theorem g_newE_boolean {n : Int32} {N' : Nat} (hexec : p.tables.exec = Jvm.exec) (hb : c.code = cc) (harr : (Cond.arrayClass .boolean).before args s = true) (hK : va_K D cl tys s) (hP : va_P D cl ws H) (hD : va_D A ws) (hS : va_S A H0 H locs) (hA : ∀ q, H0.size ≤ q → A q) (ht : tys[3]? = some (tA 3, .boolean)) (hN : n.toNatClampNeg = N') (hcells : cells + 1 ≤ R.cells) (hslots : slots + N' ≤ R.slots) (hn : ¬ n < 0) (hbytes : N' * componentBytes .boolean ≤ 536870912) (hdg : decode cc pc = .ok (.newarray .boolean, 2))
    (kk : ∀ (q : Nat) (H : Heap), va_P D cl (ws ++ [(q, .inl (tA 3, N', .inl (fun _ => 0)))]) H → va_D A (ws ++ [(q, .inl (tA 3, N', .inl (fun _ => 0)))]) → va_S A H0 H locs → W p l e R s m args below meth c H locs (cells + 1) (slots + N') Q (F0 m (pc + 2) ls (.ref q :: rest))) : W p l e R s m args below meth c H locs cells slots Q (F0 m pc ls (.int n :: rest)) := by
  refine va_newa (atype := .boolean) (ty := .boolean) (a0 := (N', .inl (fun _ => 0))) hexec hb harr rfl hK hP hD hS hA (fun cA => rfl) hn hN hbytes hcells hslots hdg (fun q cA H1 hK1 hP1 hD1 hS1 => ?_)
  have h1 := (hK.2 3 _ ht).2
  have h2 := (hK1.2 tys.length (cA, .boolean) (by simp)).2
  have h3 : cA = tA 3 := Option.some.inj ((show s.vm.findClass _ = some cA from h2).symm.trans (show s.vm.findClass _ = some (tA 3) from h1))
  subst h3
  exact kk q H1 hP1 hD1 hS1
end NE

section
/-- the tables: W, origin, turn, stamp, kind, cell, value; the committed log -/
abbrev tl_K : Type := Nat × (Nat → Nat) × (Nat → Nat) × (Nat → Nat) × (Nat → Nat) × (Nat → Nat) × (Nat → Int32) × (Nat → Nat)
def tl_W (K : tl_K) : Nat := K.1
def tl_o (K : tl_K) : Nat → Nat := K.2.1
def tl_t (K : tl_K) : Nat → Nat := K.2.2.1
def tl_s (K : tl_K) : Nat → Nat := K.2.2.2.1
def tl_k (K : tl_K) : Nat → Nat := K.2.2.2.2.1
def tl_c (K : tl_K) : Nat → Nat := K.2.2.2.2.2.1
def tl_v (K : tl_K) : Nat → Int32 := K.2.2.2.2.2.2.1
def tl_G (K : tl_K) : Nat → Nat := K.2.2.2.2.2.2.2
/-- the loop of 'claim' -/
def tl_cm (c : Nat) (v : Int32) (f : Nat → Int32) : Nat → Nat → (Nat → Int32)
  | 0, _ => f
  | m + 1, i => if f ((c + i) % 8) = 0 then upd f ((c + i) % 8) v else tl_cm c v f m (i + 1)
/-- what a write makes of a store -/
def tl_pf (k c : Nat) (v : Int32) (f : Nat → Int32) : Nat → Int32 :=
  if k = 0 then upd f c v
  else if k = 1 then upd f c (f c + v)
  else if k = 2 then (if f c < v then (if f ((c + 1) % 8) < v then f else upd f ((c + 1) % 8) (f ((c + 1) % 8) - v)) else upd f c (f c - v))
  else if k = 3 then (if v ≤ f c then upd (upd f c (f c - v)) ((c + 1) % 8) ((upd f c (f c - v)) ((c + 1) % 8) + v) else f)
  else if k = 4 then tl_cm c v f 8 0
  else upd (upd f c (f ((c + 1) % 8))) ((c + 1) % 8) (f c)
/-- equal on the eight cells -/
def tl_se (f g : Nat → Int32) : Prop := ∀ j, j < 8 → f j = g j
theorem tl_se_upd {f g : Nat → Int32} (h : tl_se f g) (k : Nat) {x y : Int32} (e : x = y) : tl_se (upd f k x) (upd g k y) := by
  intro j hj
  subst e
  by_cases q : j = k
  · rw [q, pk_us, pk_us]
  · rw [pk_un q, pk_un q]
    exact h j hj
theorem tl_cm_se {f g : Nat → Int32} (h : tl_se f g) (c : Nat) (v : Int32) : ∀ m i, tl_se (tl_cm c v f m i) (tl_cm c v g m i) := by
  intro m
  induction m with
  | zero => intro i; exact h
  | succ m ih =>
    intro i
    have e : f ((c + i) % 8) = g ((c + i) % 8) := h _ (Nat.mod_lt _ (by omega))
    rw [tl_cm, tl_cm, e]
    by_cases z : g ((c + i) % 8) = 0
    · rw [if_pos z, if_pos z]
      exact tl_se_upd h _ rfl
    · rw [if_neg z, if_neg z]
      exact ih (i + 1)
theorem tl_cm_sp (c : Nat) (v : Int32) (f : Nat → Int32) : ∀ m i, tl_cm c v f m i = f ∨ ∃ x, x < 8 ∧ tl_cm c v f m i = upd f x v := by
  intro m
  induction m with
  | zero => intro i; exact Or.inl rfl
  | succ m ih =>
    intro i
    rw [tl_cm]
    by_cases z : f ((c + i) % 8) = 0
    · rw [if_pos z]
      exact Or.inr ⟨_, Nat.mod_lt _ (by omega), rfl⟩
    · rw [if_neg z]
      exact ih (i + 1)
theorem tl_pf_se {f g : Nat → Int32} (h : tl_se f g) (k c : Nat) (v : Int32) (hc : c < 8) : tl_se (tl_pf k c v f) (tl_pf k c v g) := by
  have ec : f c = g c := h c hc
  have en : f ((c + 1) % 8) = g ((c + 1) % 8) := h _ (Nat.mod_lt _ (by omega))
  unfold tl_pf
  rw [ec, en]
  by_cases h0 : k = 0
  · rw [if_pos h0, if_pos h0]
    exact tl_se_upd h _ rfl
  rw [if_neg h0, if_neg h0]
  by_cases h1 : k = 1
  · rw [if_pos h1, if_pos h1]
    exact tl_se_upd h _ rfl
  rw [if_neg h1, if_neg h1]
  by_cases h2 : k = 2
  · rw [if_pos h2, if_pos h2]
    by_cases q : g c < v
    · rw [if_pos q, if_pos q]
      by_cases q2 : g ((c + 1) % 8) < v
      · rw [if_pos q2, if_pos q2]
        exact h
      · rw [if_neg q2, if_neg q2]
        exact tl_se_upd h _ rfl
    · rw [if_neg q, if_neg q]
      exact tl_se_upd h _ rfl
  rw [if_neg h2, if_neg h2]
  by_cases h3 : k = 3
  · rw [if_pos h3, if_pos h3]
    by_cases q : v ≤ g c
    · rw [if_pos q, if_pos q]
      have e2 : tl_se (upd f c (g c - v)) (upd g c (g c - v)) := tl_se_upd h _ rfl
      exact tl_se_upd e2 _ (by rw [e2 _ (Nat.mod_lt _ (by omega))])
    · rw [if_neg q, if_neg q]
      exact h
  rw [if_neg h3, if_neg h3]
  by_cases h4 : k = 4
  · rw [if_pos h4, if_pos h4]
    exact tl_cm_se h c v 8 0
  rw [if_neg h4, if_neg h4]
  exact tl_se_upd (tl_se_upd h _ rfl) _ rfl
theorem tl_pf_un {k c j : Nat} {v : Int32} {f : Nat → Int32} (hk : k ≠ 4) (h1 : j ≠ c) (h2 : j ≠ (c + 1) % 8) : tl_pf k c v f j = f j := by
  unfold tl_pf
  by_cases h0 : k = 0
  · rw [if_pos h0, pk_un h1]
  rw [if_neg h0]
  by_cases q1 : k = 1
  · rw [if_pos q1, pk_un h1]
  rw [if_neg q1]
  by_cases q2 : k = 2
  · rw [if_pos q2]
    by_cases q : f c < v
    · rw [if_pos q]
      by_cases q3 : f ((c + 1) % 8) < v
      · rw [if_pos q3]
      · rw [if_neg q3, pk_un h2]
    · rw [if_neg q, pk_un h1]
  rw [if_neg q2]
  by_cases q3 : k = 3
  · rw [if_pos q3]
    by_cases q : v ≤ f c
    · rw [if_pos q, pk_un h2, pk_un h1]
    · rw [if_neg q]
  rw [if_neg q3, if_neg hk, pk_un h2, pk_un h1]
theorem tl_pf_4 (c : Nat) (v : Int32) (f : Nat → Int32) : tl_pf 4 c v f = tl_cm c v f 8 0 := by
  unfold tl_pf
  rw [if_neg (by omega), if_neg (by omega), if_neg (by omega), if_neg (by omega), if_pos rfl]
theorem tl_pf_cl {c A j : Nat} {v : Int32} {f : Nat → Int32} (hd : (∀ i, i < 8 → tl_pf 4 c v f i = f i) ∨ tl_pf 4 c v f A ≠ f A) (hj : j < 8) (h : j ≠ A) : tl_pf 4 c v f j = f j := by
  rcases hd with hd | hd
  · exact hd j hj
  · rw [tl_pf_4] at hd ⊢
    rcases tl_cm_sp c v f 8 0 with e | ⟨x, _, e⟩
    · rw [e]
    · rw [e] at hd ⊢
      by_cases q : A = x
      · rw [← q, pk_un h]
      · exact absurd (pk_un q) hd
def tl_pw (K : tl_K) (w : Nat) (f : Nat → Int32) : Nat → Int32 := tl_pf (tl_k K w) (tl_c K w) (tl_v K w) f
/-- the stable store behind i commits -/
def tl_sg (K : tl_K) : Nat → (Nat → Int32)
  | 0 => fun _ => 0
  | i + 1 => tl_pw K (tl_G K i) (tl_sg K i)
/-- a store, and i writes of T upon it -/
def tl_sq (K : tl_K) (T : Nat → Nat) (f : Nat → Int32) : Nat → (Nat → Int32)
  | 0 => f
  | i + 1 => tl_pw K (T i) (tl_sq K T f i)
/-- how many of the first i commits are of origin j -/
def tl_ct (K : tl_K) (j : Nat) : Nat → Nat
  | 0 => 0
  | i + 1 => tl_ct K j i + (if tl_o K (tl_G K i) = j then 1 else 0)
theorem tl_sq_cg {K : tl_K} {T T' : Nat → Nat} {f : Nat → Int32} : ∀ m, (∀ i, i < m → T i = T' i) → tl_sq K T f m = tl_sq K T' f m := by
  intro m
  induction m with
  | zero => intro _; rfl
  | succ m ih =>
    intro h
    show tl_pw K (T m) (tl_sq K T f m) = tl_pw K (T' m) (tl_sq K T' f m)
    rw [ih (fun i hi => h i (by omega)), h m (by omega)]
theorem tl_sq_sh (K : tl_K) (T : Nat → Nat) (f : Nat → Int32) : ∀ m, tl_sq K (fun i => T (i + 1)) (tl_pw K (T 0) f) m = tl_sq K T f (m + 1) := by
  intro m
  induction m with
  | zero => rfl
  | succ m ih =>
    show tl_pw K (T (m + 1)) (tl_sq K (fun i => T (i + 1)) (tl_pw K (T 0) f) m) = tl_pw K (T (m + 1)) (tl_sq K T f (m + 1))
    rw [ih]
theorem tl_ct_le (K : tl_K) (j : Nat) {a : Nat} : ∀ d, tl_ct K j a ≤ tl_ct K j (a + d) := by
  intro d
  induction d with
  | zero => exact Nat.le_refl _
  | succ d ih =>
    show tl_ct K j a ≤ tl_ct K j (a + d) + _
    omega
theorem tl_ct_mo (K : tl_K) (j : Nat) {a b : Nat} (h : a ≤ b) : tl_ct K j a ≤ tl_ct K j b := by
  have := tl_ct_le K j (a := a) (b - a)
  rwa [show a + (b - a) = b by omega] at this
theorem tl_ct_s (K : tl_K) {j i : Nat} (h : tl_o K (tl_G K i) = j) : tl_ct K j (i + 1) = tl_ct K j i + 1 := by
  show tl_ct K j i + (if tl_o K (tl_G K i) = j then 1 else 0) = _
  rw [if_pos h]
theorem tl_ct_n (K : tl_K) {j i : Nat} (h : tl_o K (tl_G K i) ≠ j) : tl_ct K j (i + 1) = tl_ct K j i := by
  show tl_ct K j i + (if tl_o K (tl_G K i) = j then 1 else 0) = _
  rw [if_neg h]
  rfl
theorem tl_ct_sum (K : tl_K) : ∀ c, (∀ i, i < c → tl_o K (tl_G K i) < 3) → tl_ct K 0 c + tl_ct K 1 c + tl_ct K 2 c = c ∧ tl_ct K 3 c = 0 := by
  intro c
  induction c with
  | zero => intro _; exact ⟨rfl, rfl⟩
  | succ c ih =>
    intro h
    obtain ⟨e, e3⟩ := ih (fun i hi => h i (by omega))
    have hc := h c (by omega)
    have q3 : tl_ct K 3 (c + 1) = tl_ct K 3 c := tl_ct_n K (by omega)
    rcases (show tl_o K (tl_G K c) = 0 ∨ tl_o K (tl_G K c) = 1 ∨ tl_o K (tl_G K c) = 2 by omega) with z | z | z
    · have q0 : tl_ct K 0 (c + 1) = tl_ct K 0 c + 1 := tl_ct_s K z
      have q1 : tl_ct K 1 (c + 1) = tl_ct K 1 c := tl_ct_n K (by omega)
      have q2 : tl_ct K 2 (c + 1) = tl_ct K 2 c := tl_ct_n K (by omega)
      omega
    · have q0 : tl_ct K 0 (c + 1) = tl_ct K 0 c := tl_ct_n K (by omega)
      have q1 : tl_ct K 1 (c + 1) = tl_ct K 1 c + 1 := tl_ct_s K z
      have q2 : tl_ct K 2 (c + 1) = tl_ct K 2 c := tl_ct_n K (by omega)
      omega
    · have q0 : tl_ct K 0 (c + 1) = tl_ct K 0 c := tl_ct_n K (by omega)
      have q1 : tl_ct K 1 (c + 1) = tl_ct K 1 c := tl_ct_n K (by omega)
      have q2 : tl_ct K 2 (c + 1) = tl_ct K 2 c + 1 := tl_ct_s K z
      omega
/-- the order of the tentative writes -/
def tl_bf (K : tl_K) (a b : Nat) : Prop := tl_s K a < tl_s K b ∨ (tl_s K a = tl_s K b ∧ tl_o K a < tl_o K b)
def tl_SR (K : tl_K) (T : Nat → Nat) (n : Nat) : Prop := ∀ i j, i < j → j < n → tl_bf K (T i) (T j)
def tl_MB (T : Nat → Nat) (n x : Nat) : Prop := ∃ i, i < n ∧ T i = x
/-- tentative at a replica that knows sn and has c commits -/
def tl_TS (K : tl_K) (sn : Nat → Nat) (c w : Nat) : Prop := w < tl_W K ∧ tl_ct K (tl_o K w) c ≤ tl_t K w ∧ tl_t K w < sn (tl_o K w)
theorem tl_bf_ir {K : tl_K} {a : Nat} : ¬ tl_bf K a a := by
  intro h
  rcases h with h | h
  · omega
  · omega
theorem tl_bf_tr {K : tl_K} {a b c : Nat} (h : tl_bf K a b) (h2 : tl_bf K b c) : tl_bf K a c := by
  unfold tl_bf at *
  omega
theorem tl_pg : ∀ (W n : Nat) (T : Nat → Nat), (∀ i, i < n → T i < W) → (∀ i j, i < j → j < n → T i ≠ T j) → n ≤ W := by
  intro W
  induction W with
  | zero =>
    intro n T h _
    rcases Nat.eq_zero_or_pos n with z | z
    · omega
    · exact absurd (h 0 z) (by omega)
  | succ W ih =>
    intro n T h hd
    by_cases q : ∃ i, i < n ∧ T i = W
    · obtain ⟨i, hi, e⟩ := q
      have h1 : n - 1 ≤ W := by
        refine ih (n - 1) (fun j => if j < i then T j else T (j + 1)) (fun j hj => ?_) (fun a b hab hb => ?_)
        · show (if j < i then T j else T (j + 1)) < W
          by_cases z : j < i
          · rw [if_pos z]
            have a1 := h j (by omega)
            have a2 := hd j i z hi
            omega
          · rw [if_neg z]
            have a1 := h (j + 1) (by omega)
            have a2 := hd i (j + 1) (by omega) (by omega)
            omega
        · show (if a < i then T a else T (a + 1)) ≠ (if b < i then T b else T (b + 1))
          by_cases za : a < i
          · rw [if_pos za]
            by_cases zb : b < i
            · rw [if_pos zb]
              exact hd a b hab (by omega)
            · rw [if_neg zb]
              exact hd a (b + 1) (by omega) (by omega)
          · rw [if_neg za, if_neg (by omega)]
            exact hd (a + 1) (b + 1) (by omega) (by omega)
      omega
    · have h1 : n ≤ W := ih n T (fun i hi => by
        have a1 := h i hi
        have a2 : T i ≠ W := fun z => q ⟨i, hi, z⟩
        omega) hd
      omega
theorem tl_SR_le {K : tl_K} {T : Nat → Nat} {n : Nat} (hs : tl_SR K T n) (hw : ∀ i, i < n → T i < tl_W K) : n ≤ tl_W K :=
  tl_pg _ n T hw (fun i j hij hj e => by
    have := hs i j hij hj
    rw [e] at this
    exact tl_bf_ir this)
end
section
/-- the picture is sound: tables K, clocks, seen, done -/
def tl_PV (K : tl_K) (ck : Nat → Nat) (sn : Nat → Nat → Nat) (dn : Nat → Nat) : Prop :=
  (tl_W K ≤ 48) ∧
  (∀ w, w < tl_W K → tl_o K w < 3 ∧ tl_k K w ≤ 5 ∧ tl_c K w < 8 ∧ tl_s K w ≤ ck (tl_o K w) ∧ tl_t K w < sn (tl_o K w) (tl_o K w)) ∧
  (∀ a b, a < tl_W K → b < tl_W K → tl_o K a = tl_o K b → (tl_t K a < tl_t K b → tl_s K a < tl_s K b) ∧ (tl_t K a = tl_t K b → a = b)) ∧
  (∀ j, j < 3 → ck j ≤ tl_W K ∧ ∀ x, x < sn j j → ∃ w, w < tl_W K ∧ tl_o K w = j ∧ tl_t K w = x) ∧
  (∀ r, r < 3 → ∀ j, j < 3 → sn r j ≤ sn j j) ∧
  (∀ r, r < 3 → sn r 3 = 0) ∧
  (sn 0 0 + sn 1 1 + sn 2 2 = tl_W K) ∧
  (∀ r, r < 3 → dn r ≤ dn 0) ∧
  (∀ i, i < dn 0 → tl_G K i < tl_W K) ∧
  (∀ c, c ≤ dn 0 → ∀ w, w < tl_W K → ((∃ i, i < c ∧ tl_G K i = w) ↔ tl_t K w < tl_ct K (tl_o K w) c)) ∧
  (∀ r, r < 3 → ∀ j, j < 3 → tl_ct K j (dn r) ≤ sn r j)
theorem tl_j3 {j : Nat} (h : j < 3) : j = 0 ∨ j = 1 ∨ j = 2 := by omega
theorem tl_PV_jj {K : tl_K} {ck : Nat → Nat} {sn : Nat → Nat → Nat} {dn : Nat → Nat} (h : tl_PV K ck sn dn) {j : Nat} (hj : j < 3) : sn j j ≤ tl_W K := by
  obtain ⟨p1, p2, p3, p4, p5, p6, p7, p8, p9, p10, p11⟩ := h
  rcases tl_j3 hj with z | z | z
  · rw [z]; omega
  · rw [z]; omega
  · rw [z]; omega
theorem tl_PV_sn {K : tl_K} {ck : Nat → Nat} {sn : Nat → Nat → Nat} {dn : Nat → Nat} (h : tl_PV K ck sn dn) {r j : Nat} (hr : r < 3) (hj : j < 4) : sn r j ≤ 48 := by
  have hp := h
  obtain ⟨p1, p2, p3, p4, p5, p6, p7, p8, p9, p10, p11⟩ := h
  by_cases z : j < 3
  · have a := p5 r hr j z
    have b := tl_PV_jj hp z
    omega
  · have e : j = 3 := by omega
    rw [e, p6 r hr]
    omega
theorem tl_PV_ts {K : tl_K} {ck : Nat → Nat} {sn : Nat → Nat → Nat} {dn : Nat → Nat} (h : tl_PV K ck sn dn) {w : Nat} (hw : w < tl_W K) : tl_t K w < 48 ∧ tl_s K w ≤ 48 := by
  have hp := h
  obtain ⟨p1, p2, p3, p4, p5, p6, p7, p8, p9, p10, p11⟩ := h
  obtain ⟨q1, q2, q3, q4, q5⟩ := p2 w hw
  have b := tl_PV_jj hp q1
  have c := (p4 _ q1).1
  omega
theorem tl_PV_tot {K : tl_K} {ck : Nat → Nat} {sn : Nat → Nat → Nat} {dn : Nat → Nat} (h : tl_PV K ck sn dn) {a b : Nat} (ha : a < tl_W K) (hb : b < tl_W K) (hn : a ≠ b) : tl_bf K a b ∨ tl_bf K b a := by
  obtain ⟨p1, p2, p3, p4, p5, p6, p7, p8, p9, p10, p11⟩ := h
  unfold tl_bf
  by_cases eo : tl_o K a = tl_o K b
  · have q := p3 a b ha hb eo
    have q' := p3 b a hb ha eo.symm
    have ne : tl_t K a ≠ tl_t K b := fun z => hn (q.2 z)
    rcases Nat.lt_or_ge (tl_t K a) (tl_t K b) with z | z
    · exact Or.inl (Or.inl (q.1 z))
    · exact Or.inr (Or.inl (q'.1 (by omega)))
  · omega
theorem tl_PV_o {K : tl_K} {ck : Nat → Nat} {sn : Nat → Nat → Nat} {dn : Nat → Nat} (h : tl_PV K ck sn dn) {i : Nat} (hi : i < dn 0) : tl_o K (tl_G K i) < 3 := by
  obtain ⟨p1, p2, p3, p4, p5, p6, p7, p8, p9, p10, p11⟩ := h
  exact (p2 _ (p9 i hi)).1
theorem tl_PV_dn {K : tl_K} {ck : Nat → Nat} {sn : Nat → Nat → Nat} {dn : Nat → Nat} (h : tl_PV K ck sn dn) : dn 0 ≤ tl_W K := by
  have hs := (tl_ct_sum K (dn 0) (fun i hi => tl_PV_o h hi)).1
  obtain ⟨p1, p2, p3, p4, p5, p6, p7, p8, p9, p10, p11⟩ := h
  have a0 := p11 0 (by omega) 0 (by omega)
  have a1 := p11 0 (by omega) 1 (by omega)
  have a2 := p11 0 (by omega) 2 (by omega)
  have b0 := p5 0 (by omega) 0 (by omega)
  have b1 := p5 0 (by omega) 1 (by omega)
  have b2 := p5 0 (by omega) 2 (by omega)
  omega
theorem tl_PV_c3 {K : tl_K} {ck : Nat → Nat} {sn : Nat → Nat → Nat} {dn : Nat → Nat} (h : tl_PV K ck sn dn) {c : Nat} (hc : c ≤ dn 0) : tl_ct K 3 c = 0 :=
  (tl_ct_sum K c (fun i hi => tl_PV_o h (by omega))).2
theorem tl_PV_c48 {K : tl_K} {ck : Nat → Nat} {sn : Nat → Nat → Nat} {dn : Nat → Nat} (h : tl_PV K ck sn dn) {c j : Nat} (hc : c ≤ dn 0) (hj : j < 4) : tl_ct K j c ≤ 48 := by
  by_cases z : j < 3
  · have a := tl_ct_mo K j hc
    have b := h.2.2.2.2.2.2.2.2.2.2 0 (by omega) j z
    have d := tl_PV_sn h (show 0 < 3 by omega) hj
    omega
  · have e : j = 3 := by omega
    rw [e, tl_PV_c3 h hc]
    omega
/-! a meeting -/
def tl_mx (f : Nat → Nat) (a b : Nat) : Nat → Nat := fun r => if r = b then max (f b) (f a) else f r
def tl_m2 (f : Nat → Nat → Nat) (a b : Nat) : Nat → Nat → Nat := fun r => if r = b then (fun j => max (f b j) (f a j)) else f r
theorem tl_mx_s (f : Nat → Nat) (a b : Nat) : tl_mx f a b b = max (f b) (f a) := if_pos rfl
theorem tl_mx_n (f : Nat → Nat) (a : Nat) {b r : Nat} (h : r ≠ b) : tl_mx f a b r = f r := if_neg h
theorem tl_m2_s (f : Nat → Nat → Nat) (a b : Nat) : tl_m2 f a b b = fun j => max (f b j) (f a j) := if_pos rfl
theorem tl_m2_n (f : Nat → Nat → Nat) (a : Nat) {b r : Nat} (h : r ≠ b) : tl_m2 f a b r = f r := if_neg h
theorem tl_m2_ss (f : Nat → Nat → Nat) (a b j : Nat) : tl_m2 f a b b j = max (f b j) (f a j) := by rw [tl_m2_s]
theorem tl_mx_ge (f : Nat → Nat) (a b r : Nat) : f r ≤ tl_mx f a b r := by
  by_cases z : r = b
  · rw [z, tl_mx_s]; omega
  · rw [tl_mx_n f a z]; omega
theorem tl_PV_bring {K : tl_K} {ck : Nat → Nat} {sn : Nat → Nat → Nat} {dn : Nat → Nat} (h : tl_PV K ck sn dn) {a b : Nat} (ha : a < 3) (hb : b < 3) : tl_PV K (tl_mx ck a b) (tl_m2 sn a b) (tl_mx dn a b) := by
  obtain ⟨p1, p2, p3, p4, p5, p6, p7, p8, p9, p10, p11⟩ := h
  have dg : ∀ j, j < 3 → tl_m2 sn a b j j = sn j j := by
    intro j hj
    by_cases z : j = b
    · rw [z, tl_m2_ss]
      have := p5 a ha b hb
      omega
    · rw [tl_m2_n sn a z]
  have d0 : tl_mx dn a b 0 = dn 0 := by
    by_cases z : 0 = b
    · rw [← z, tl_mx_s]
      have := p8 a ha
      omega
    · rw [tl_mx_n dn a z]
  refine ⟨p1, fun w hw => ?_, p3, fun j hj => ?_, fun r hr j hj => ?_, fun r hr => ?_, ?_, fun r hr => ?_, ?_, ?_, fun r hr j hj => ?_⟩
  · obtain ⟨q1, q2, q3, q4, q5⟩ := p2 w hw
    refine ⟨q1, q2, q3, Nat.le_trans q4 (tl_mx_ge _ _ _ _), ?_⟩
    rw [dg _ q1]
    exact q5
  · refine ⟨?_, ?_⟩
    · by_cases z : j = b
      · rw [z, tl_mx_s]
        have x1 := (p4 a ha).1
        have x2 := (p4 b hb).1
        omega
      · rw [tl_mx_n ck a z]
        exact (p4 j hj).1
    · rw [dg j hj]
      exact (p4 j hj).2
  · rw [dg j hj]
    by_cases z : r = b
    · rw [z, tl_m2_ss]
      have x1 := p5 a ha j hj
      have x2 := p5 b hb j hj
      omega
    · rw [tl_m2_n sn a z]
      exact p5 r hr j hj
  · by_cases z : r = b
    · rw [z, tl_m2_ss, p6 a ha, p6 b hb]
      rfl
    · rw [tl_m2_n sn a z]
      exact p6 r hr
  · rw [dg 0 (by omega), dg 1 (by omega), dg 2 (by omega)]
    exact p7
  · rw [d0]
    by_cases z : r = b
    · rw [z, tl_mx_s]
      have x1 := p8 a ha
      have x2 := p8 b hb
      omega
    · rw [tl_mx_n dn a z]
      exact p8 r hr
  · rw [d0]
    exact p9
  · rw [d0]
    exact p10
  · by_cases z : r = b
    · rw [z, tl_m2_ss, tl_mx_s]
      have x1 := p11 a ha j hj
      have x2 := p11 b hb j hj
      rcases Nat.le_total (dn b) (dn a) with y | y
      · rw [Nat.max_eq_right y]
        omega
      · rw [Nat.max_eq_left y]
        omega
    · rw [tl_m2_n sn a z, tl_mx_n dn a z]
      exact p11 r hr j hj
/-! a commit -/
def tl_Gp (K : tl_K) (d w : Nat) : tl_K := (tl_W K, tl_o K, tl_t K, tl_s K, tl_k K, tl_c K, tl_v K, fun i => if i = d then w else tl_G K i)
theorem tl_Gp_s (K : tl_K) (d w : Nat) : tl_G (tl_Gp K d w) d = w := if_pos rfl
theorem tl_Gp_n (K : tl_K) (w : Nat) {d i : Nat} (h : i ≠ d) : tl_G (tl_Gp K d w) i = tl_G K i := if_neg h
theorem tl_ct_Gp (K : tl_K) (d w j : Nat) : ∀ c, c ≤ d → tl_ct (tl_Gp K d w) j c = tl_ct K j c := by
  intro c
  induction c with
  | zero => intro _; rfl
  | succ c ih =>
    intro h
    show tl_ct (tl_Gp K d w) j c + (if tl_o K (tl_G (tl_Gp K d w) c) = j then 1 else 0) = tl_ct K j c + (if tl_o K (tl_G K c) = j then 1 else 0)
    rw [ih (by omega), tl_Gp_n K w (show c ≠ d by omega)]
theorem tl_sg_Gp (K : tl_K) (d w : Nat) : ∀ c, c ≤ d → tl_sg (tl_Gp K d w) c = tl_sg K c := by
  intro c
  induction c with
  | zero => intro _; rfl
  | succ c ih =>
    intro h
    show tl_pw K (tl_G (tl_Gp K d w) c) (tl_sg (tl_Gp K d w) c) = tl_pw K (tl_G K c) (tl_sg K c)
    rw [ih (by omega), tl_Gp_n K w (show c ≠ d by omega)]
theorem tl_sq_Gp (K : tl_K) (d w : Nat) (T : Nat → Nat) (f : Nat → Int32) : ∀ m, tl_sq (tl_Gp K d w) T f m = tl_sq K T f m := by
  intro m
  induction m with
  | zero => rfl
  | succ m ih =>
    show tl_pw K (T m) (tl_sq (tl_Gp K d w) T f m) = tl_pw K (T m) (tl_sq K T f m)
    rw [ih]
def tl_up (f : Nat → Nat) (k x : Nat) : Nat → Nat := fun i => if i = k then x else f i
theorem tl_up_s (f : Nat → Nat) (k x : Nat) : tl_up f k x k = x := if_pos rfl
theorem tl_up_n (f : Nat → Nat) (x : Nat) {k i : Nat} (h : i ≠ k) : tl_up f k x i = f i := if_neg h
theorem tl_PV_commit {K : tl_K} {ck : Nat → Nat} {sn : Nat → Nat → Nat} {dn : Nat → Nat} (h : tl_PV K ck sn dn) {w : Nat} (hT : tl_TS K (sn 0) (dn 0) w)
    (hm : ∀ x, tl_TS K (sn 0) (dn 0) x → x = w ∨ tl_bf K w x) : tl_ct K (tl_o K w) (dn 0) = tl_t K w ∧ tl_PV (tl_Gp K (dn 0) w) ck sn (tl_up dn 0 (dn 0 + 1)) := by
  have hp := h
  obtain ⟨p1, p2, p3, p4, p5, p6, p7, p8, p9, p10, p11⟩ := h
  obtain ⟨hw, ht1, ht2⟩ := hT
  have ho := (p2 w hw).1
  have et : tl_ct K (tl_o K w) (dn 0) = tl_t K w := by
    rcases Nat.eq_or_lt_of_le ht1 with z | z
    · exact z
    · have y1 := p5 0 (by omega) _ ho
      obtain ⟨w', hw', eo, e'⟩ := (p4 _ ho).2 (tl_ct K (tl_o K w) (dn 0)) (by omega)
      have q : tl_TS K (sn 0) (dn 0) w' := ⟨hw', by rw [eo, e']; exact Nat.le_refl _, by rw [eo, e']; omega⟩
      have lt := (p3 w' w hw' hw eo).1 (by rw [e']; exact z)
      rcases hm w' q with y | y
      · rw [y] at e'
        omega
      · rcases y with y | y
        · omega
        · omega
  refine ⟨et, p1, p2, p3, p4, p5, p6, p7, fun r hr => ?_, fun i hi => ?_, fun c hc x hx => ?_, fun r hr j hj => ?_⟩
  · rw [tl_up_s]
    by_cases z : r = 0
    · rw [z, tl_up_s]
      exact Nat.le_refl _
    · rw [tl_up_n dn _ z]
      have := p8 r hr
      omega
  · rw [tl_up_s] at hi
    show tl_G (tl_Gp K (dn 0) w) i < tl_W K
    by_cases z : i = dn 0
    · rw [z, tl_Gp_s]
      exact hw
    · rw [tl_Gp_n K w z]
      exact p9 i (by omega)
  · rw [tl_up_s] at hc
    show (∃ i, i < c ∧ tl_G (tl_Gp K (dn 0) w) i = x) ↔ tl_t K x < tl_ct (tl_Gp K (dn 0) w) (tl_o K x) c
    by_cases z : c ≤ dn 0
    · rw [tl_ct_Gp K _ w _ c z, ← p10 c z x hx]
      constructor
      · rintro ⟨i, hi, e⟩
        exact ⟨i, hi, by rw [tl_Gp_n K w (show i ≠ dn 0 by omega)] at e; exact e⟩
      · rintro ⟨i, hi, e⟩
        exact ⟨i, hi, by rw [tl_Gp_n K w (show i ≠ dn 0 by omega)]; exact e⟩
    · have ec : c = dn 0 + 1 := by omega
      subst ec
      have old := p10 (dn 0) (Nat.le_refl _) x hx
      have l : (∃ i, i < dn 0 + 1 ∧ tl_G (tl_Gp K (dn 0) w) i = x) ↔ ((∃ i, i < dn 0 ∧ tl_G K i = x) ∨ x = w) := by
        constructor
        · rintro ⟨i, hi, e⟩
          by_cases y : i = dn 0
          · rw [y, tl_Gp_s] at e
            exact Or.inr e.symm
          · rw [tl_Gp_n K w y] at e
            exact Or.inl ⟨i, by omega, e⟩
        · rintro (⟨i, hi, e⟩ | e)
          · exact ⟨i, by omega, by rw [tl_Gp_n K w (show i ≠ dn 0 by omega)]; exact e⟩
          · exact ⟨dn 0, by omega, by rw [tl_Gp_s, e]⟩
      rw [l, old]
      by_cases eo : tl_o K w = tl_o K x
      · have s1 : tl_ct (tl_Gp K (dn 0) w) (tl_o K x) (dn 0 + 1) = tl_ct (tl_Gp K (dn 0) w) (tl_o K x) (dn 0) + 1 :=
          tl_ct_s _ (by rw [tl_Gp_s]; exact eo)
        rw [s1, tl_ct_Gp K _ w _ _ (Nat.le_refl _), ← eo, et]
        constructor
        · rintro (y | y)
          · omega
          · rw [y]
            omega
        · intro y
          rcases Nat.lt_or_ge (tl_t K x) (tl_t K w) with y2 | y2
          · exact Or.inl y2
          · exact Or.inr ((p3 x w hx hw eo.symm).2 (by omega))
      · have s1 : tl_ct (tl_Gp K (dn 0) w) (tl_o K x) (dn 0 + 1) = tl_ct (tl_Gp K (dn 0) w) (tl_o K x) (dn 0) :=
          tl_ct_n _ (by rw [tl_Gp_s]; exact eo)
        rw [s1, tl_ct_Gp K _ w _ _ (Nat.le_refl _)]
        constructor
        · rintro (y | y)
          · exact y
          · rw [y] at eo
            exact absurd rfl eo
        · exact Or.inl
  · by_cases z : r = 0
    · rw [z, tl_up_s]
      have old := p11 0 (by omega) j hj
      by_cases eo : tl_o K w = j
      · have s1 : tl_ct (tl_Gp K (dn 0) w) j (dn 0 + 1) = tl_ct (tl_Gp K (dn 0) w) j (dn 0) + 1 := tl_ct_s _ (by rw [tl_Gp_s]; exact eo)
        rw [s1, tl_ct_Gp K _ w _ _ (Nat.le_refl _)]
        rw [eo] at et ht2
        omega
      · have s1 : tl_ct (tl_Gp K (dn 0) w) j (dn 0 + 1) = tl_ct (tl_Gp K (dn 0) w) j (dn 0) := tl_ct_n _ (by rw [tl_Gp_s]; exact eo)
        rw [s1, tl_ct_Gp K _ w _ _ (Nat.le_refl _)]
        exact old
    · rw [tl_up_n dn _ z, tl_ct_Gp K _ w _ _ (p8 r hr)]
      exact p11 r hr j hj
/-! a write -/
def tl_wr (K : tl_K) (r t s k c : Nat) (v : Int32) : tl_K :=
  (tl_W K + 1, tl_up (tl_o K) (tl_W K) r, tl_up (tl_t K) (tl_W K) t, tl_up (tl_s K) (tl_W K) s, tl_up (tl_k K) (tl_W K) k, tl_up (tl_c K) (tl_W K) c, (fun i => if i = tl_W K then v else tl_v K i), tl_G K)
theorem tl_wr_W (K : tl_K) (r t s k c : Nat) (v : Int32) : tl_W (tl_wr K r t s k c v) = tl_W K + 1 := rfl
theorem tl_wr_o {K : tl_K} {r t s k c : Nat} {v : Int32} {w : Nat} (h : w < tl_W K) : tl_o (tl_wr K r t s k c v) w = tl_o K w := if_neg (by omega)
theorem tl_wr_t {K : tl_K} {r t s k c : Nat} {v : Int32} {w : Nat} (h : w < tl_W K) : tl_t (tl_wr K r t s k c v) w = tl_t K w := if_neg (by omega)
theorem tl_wr_s {K : tl_K} {r t s k c : Nat} {v : Int32} {w : Nat} (h : w < tl_W K) : tl_s (tl_wr K r t s k c v) w = tl_s K w := if_neg (by omega)
theorem tl_wr_k {K : tl_K} {r t s k c : Nat} {v : Int32} {w : Nat} (h : w < tl_W K) : tl_k (tl_wr K r t s k c v) w = tl_k K w := if_neg (by omega)
theorem tl_wr_c {K : tl_K} {r t s k c : Nat} {v : Int32} {w : Nat} (h : w < tl_W K) : tl_c (tl_wr K r t s k c v) w = tl_c K w := if_neg (by omega)
theorem tl_wr_v {K : tl_K} {r t s k c : Nat} {v : Int32} {w : Nat} (h : w < tl_W K) : tl_v (tl_wr K r t s k c v) w = tl_v K w := if_neg (by omega)
theorem tl_wr_o' (K : tl_K) (r t s k c : Nat) (v : Int32) : tl_o (tl_wr K r t s k c v) (tl_W K) = r := if_pos rfl
theorem tl_wr_t' (K : tl_K) (r t s k c : Nat) (v : Int32) : tl_t (tl_wr K r t s k c v) (tl_W K) = t := if_pos rfl
theorem tl_wr_s' (K : tl_K) (r t s k c : Nat) (v : Int32) : tl_s (tl_wr K r t s k c v) (tl_W K) = s := if_pos rfl
theorem tl_wr_k' (K : tl_K) (r t s k c : Nat) (v : Int32) : tl_k (tl_wr K r t s k c v) (tl_W K) = k := if_pos rfl
theorem tl_wr_c' (K : tl_K) (r t s k c : Nat) (v : Int32) : tl_c (tl_wr K r t s k c v) (tl_W K) = c := if_pos rfl
theorem tl_wr_v' (K : tl_K) (r t s k c : Nat) (v : Int32) : tl_v (tl_wr K r t s k c v) (tl_W K) = v := if_pos rfl
theorem tl_wr_pw {K : tl_K} {r t s k c : Nat} {v : Int32} {w : Nat} (h : w < tl_W K) (f : Nat → Int32) : tl_pw (tl_wr K r t s k c v) w f = tl_pw K w f := by
  unfold tl_pw
  rw [tl_wr_k h, tl_wr_c h, tl_wr_v h]
theorem tl_wr_ct {K : tl_K} {r t s k c : Nat} {v : Int32} (j : Nat) : ∀ d, (∀ i, i < d → tl_G K i < tl_W K) → tl_ct (tl_wr K r t s k c v) j d = tl_ct K j d := by
  intro d
  induction d with
  | zero => intro _; rfl
  | succ d ih =>
    intro h
    show tl_ct (tl_wr K r t s k c v) j d + (if tl_o (tl_wr K r t s k c v) (tl_G K d) = j then 1 else 0) = tl_ct K j d + (if tl_o K (tl_G K d) = j then 1 else 0)
    rw [ih (fun i hi => h i (by omega)), tl_wr_o (h d (by omega))]
theorem tl_wr_sg {K : tl_K} {r t s k c : Nat} {v : Int32} : ∀ d, (∀ i, i < d → tl_G K i < tl_W K) → tl_sg (tl_wr K r t s k c v) d = tl_sg K d := by
  intro d
  induction d with
  | zero => intro _; rfl
  | succ d ih =>
    intro h
    show tl_pw (tl_wr K r t s k c v) (tl_G K d) (tl_sg (tl_wr K r t s k c v) d) = tl_pw K (tl_G K d) (tl_sg K d)
    rw [ih (fun i hi => h i (by omega)), tl_wr_pw (h d (by omega))]
theorem tl_wr_sq {K : tl_K} {r t s k c : Nat} {v : Int32} (T : Nat → Nat) (f : Nat → Int32) : ∀ m, (∀ i, i < m → T i < tl_W K) → tl_sq (tl_wr K r t s k c v) T f m = tl_sq K T f m := by
  intro m
  induction m with
  | zero => intro _; rfl
  | succ m ih =>
    intro h
    show tl_pw (tl_wr K r t s k c v) (T m) (tl_sq (tl_wr K r t s k c v) T f m) = tl_pw K (T m) (tl_sq K T f m)
    rw [ih (fun i hi => h i (by omega)), tl_wr_pw (h m (by omega))]
theorem tl_wr_bf {K : tl_K} {r t s k c : Nat} {v : Int32} {a b : Nat} (ha : a < tl_W K) (hb : b < tl_W K) : tl_bf (tl_wr K r t s k c v) a b ↔ tl_bf K a b := by
  unfold tl_bf
  rw [tl_wr_s ha, tl_wr_s hb, tl_wr_o ha, tl_wr_o hb]
def tl_u2 (f : Nat → Nat → Nat) (r : Nat) : Nat → Nat → Nat := fun x => if x = r then tl_up (f r) r (f r r + 1) else f x
theorem tl_u2_s (f : Nat → Nat → Nat) (r : Nat) : tl_u2 f r r = tl_up (f r) r (f r r + 1) := if_pos rfl
theorem tl_u2_n (f : Nat → Nat → Nat) {r x : Nat} (h : x ≠ r) : tl_u2 f r x = f x := if_neg h
theorem tl_PV_write {K : tl_K} {ck : Nat → Nat} {sn : Nat → Nat → Nat} {dn : Nat → Nat} (h : tl_PV K ck sn dn) {r k c : Nat} (v : Int32) (hr : r < 3) (hk : k ≤ 5) (hc : c < 8) (hW : tl_W K < 48) :
    tl_PV (tl_wr K r (sn r r) (ck r + 1) k c v) (tl_up ck r (ck r + 1)) (tl_u2 sn r) dn := by
  have hp := h
  obtain ⟨p1, p2, p3, p4, p5, p6, p7, p8, p9, p10, p11⟩ := h
  have gl : ∀ d, d ≤ dn 0 → ∀ i, i < d → tl_G K i < tl_W K := fun d hd i hi => p9 i (by omega)
  have ne : ∀ x j, j ≠ r → tl_u2 sn r x j = sn x j := by
    intro x j hj
    by_cases z : x = r
    · rw [z, tl_u2_s, tl_up_n _ _ hj]
    · rw [tl_u2_n _ z]
  have rr : tl_u2 sn r r r = sn r r + 1 := by rw [tl_u2_s, tl_up_s]
  have ge : ∀ x j, sn x j ≤ tl_u2 sn r x j := by
    intro x j
    by_cases z : x = r
    · by_cases y : j = r
      · rw [z, y, rr]; omega
      · rw [ne x j y]; omega
    · rw [tl_u2_n _ z]; omega
  have ckg : ∀ x, ck x ≤ tl_up ck r (ck r + 1) x := by
    intro x
    by_cases z : x = r
    · rw [z, tl_up_s]; omega
    · rw [tl_up_n _ _ z]; omega
  have bound : ∀ d, d ≤ dn 0 → tl_ct K r d ≤ sn r r := by
    intro d hd
    have y1 := tl_ct_mo K r hd
    have y2 := p11 0 (by omega) r hr
    have y3 := p5 0 (by omega) r hr
    omega
  refine ⟨by rw [tl_wr_W]; omega, fun w hw => ?_, fun a b ha hb => ?_, fun j hj => ⟨?_, fun x hx => ?_⟩, fun x hx j hj => ?_, fun x hx => ?_, ?_, p8, fun i hi => ?_, fun d hd w hw => ?_, fun x hx j hj => ?_⟩
  · rw [tl_wr_W] at hw
    by_cases z : w = tl_W K
    · rw [z, tl_wr_o', tl_wr_k', tl_wr_c', tl_wr_s', tl_wr_t', tl_up_s, rr]
      exact ⟨hr, hk, hc, Nat.le_refl _, by omega⟩
    · have hw' : w < tl_W K := by omega
      rw [tl_wr_o hw', tl_wr_k hw', tl_wr_c hw', tl_wr_s hw', tl_wr_t hw']
      obtain ⟨q1, q2, q3, q4, q5⟩ := p2 w hw'
      exact ⟨q1, q2, q3, Nat.le_trans q4 (ckg _), Nat.lt_of_lt_of_le q5 (ge _ _)⟩
  · rw [tl_wr_W] at ha hb
    by_cases za : a = tl_W K
    · by_cases zb : b = tl_W K
      · rw [za, zb]
        intro _
        exact ⟨fun q => by omega, fun _ => rfl⟩
      · have hb' : b < tl_W K := by omega
        rw [za, tl_wr_o', tl_wr_t', tl_wr_s', tl_wr_o hb', tl_wr_t hb', tl_wr_s hb']
        intro eo
        obtain ⟨q1, q2, q3, q4, q5⟩ := p2 b hb'
        rw [← eo] at q5
        exact ⟨fun q => by omega, fun q => by omega⟩
    · have ha' : a < tl_W K := by omega
      by_cases zb : b = tl_W K
      · rw [zb, tl_wr_o', tl_wr_t', tl_wr_s', tl_wr_o ha', tl_wr_t ha', tl_wr_s ha']
        intro eo
        obtain ⟨q1, q2, q3, q4, q5⟩ := p2 a ha'
        rw [eo] at q5 q4
        exact ⟨fun q => by omega, fun q => by omega⟩
      · have hb' : b < tl_W K := by omega
        rw [tl_wr_o ha', tl_wr_t ha', tl_wr_s ha', tl_wr_o hb', tl_wr_t hb', tl_wr_s hb']
        exact p3 a b ha' hb'
  · rw [tl_wr_W]
    have q := (p4 j hj).1
    have q2 := (p4 r hr).1
    by_cases z : j = r
    · rw [z, tl_up_s]; omega
    · rw [tl_up_n _ _ z]; omega
  · by_cases z : j = r
    · rw [z, rr] at hx
      by_cases y : x = sn r r
      · exact ⟨tl_W K, by rw [tl_wr_W]; omega, by rw [tl_wr_o', z], by rw [tl_wr_t', y]⟩
      · obtain ⟨w, h1, h2, h3⟩ := (p4 r hr).2 x (by omega)
        exact ⟨w, by rw [tl_wr_W]; omega, by rw [tl_wr_o h1, h2, z], by rw [tl_wr_t h1, h3]⟩
    · rw [ne j j z] at hx
      obtain ⟨w, h1, h2, h3⟩ := (p4 j hj).2 x hx
      exact ⟨w, by rw [tl_wr_W]; omega, by rw [tl_wr_o h1, h2], by rw [tl_wr_t h1, h3]⟩
  · by_cases z : x = r
    · by_cases y : j = r
      · rw [z, y]
        exact Nat.le_refl _
      · rw [ne x j y]
        exact Nat.le_trans (p5 x hx j hj) (ge _ _)
    · rw [tl_u2_n _ z]
      exact Nat.le_trans (p5 x hx j hj) (ge _ _)
  · rw [ne x 3 (by omega)]
    exact p6 x hx
  · rw [tl_wr_W, ← p7]
    rcases tl_j3 hr with z | z | z
    · subst z
      rw [rr, ne 1 1 (by omega), ne 2 2 (by omega)]
      omega
    · subst z
      rw [rr, ne 0 0 (by omega), ne 2 2 (by omega)]
      omega
    · subst z
      rw [rr, ne 0 0 (by omega), ne 1 1 (by omega)]
      omega
  · rw [tl_wr_W]
    show tl_G K i < _
    have := p9 i hi
    omega
  · rw [tl_wr_W] at hw
    show (∃ i, i < d ∧ tl_G K i = w) ↔ _
    rw [tl_wr_ct _ d (gl d hd)]
    by_cases z : w = tl_W K
    · rw [z, tl_wr_o', tl_wr_t']
      constructor
      · rintro ⟨i, hi, e⟩
        have := p9 i (by omega)
        omega
      · intro q
        have := bound d hd
        omega
    · have hw' : w < tl_W K := by omega
      rw [tl_wr_o hw', tl_wr_t hw']
      exact p10 d hd w hw'
  · rw [tl_wr_ct _ _ (gl _ (p8 x hx))]
    exact Nat.le_trans (p11 x hx j hj) (ge _ _)
/-! the start and the end -/
def tl_K0 : tl_K := (0, fun _ => 0, fun _ => 0, fun _ => 0, fun _ => 0, fun _ => 0, fun _ => 0, fun _ => 0)
theorem tl_PV_0 : tl_PV tl_K0 (fun _ => 0) (fun _ _ => 0) (fun _ => 0) := by
  have hW : tl_W tl_K0 = 0 := rfl
  refine ⟨by rw [hW]; omega, fun w hw => ?_, fun a b ha => ?_, fun j hj => ⟨Nat.zero_le _, fun x hx => ?_⟩, fun r hr j hj => Nat.le_refl _, fun r hr => rfl, rfl, fun r hr => Nat.le_refl _, fun i hi => ?_, fun c hc w hw => ?_, fun r hr j hj => ?_⟩
  · rw [hW] at hw; omega
  · rw [hW] at ha; omega
  · exact absurd hx (Nat.not_lt_zero _)
  · exact absurd hi (Nat.not_lt_zero _)
  · rw [hW] at hw; omega
  · exact Nat.le_refl _
/-- the primary knows all and has nothing tentative: all is committed -/
theorem tl_PV_end {K : tl_K} {ck : Nat → Nat} {sn : Nat → Nat → Nat} {dn : Nat → Nat} (h : tl_PV K ck sn dn) (hs : ∀ j, j < 3 → sn 0 j = sn j j) (hn : ∀ w, ¬ tl_TS K (sn 0) (dn 0) w) :
    dn 0 = tl_W K ∧ ∀ j, j < 3 → tl_ct K j (dn 0) = sn j j := by
  have sum := (tl_ct_sum K (dn 0) (fun i hi => tl_PV_o h hi)).1
  obtain ⟨p1, p2, p3, p4, p5, p6, p7, p8, p9, p10, p11⟩ := h
  have e : ∀ j, j < 3 → tl_ct K j (dn 0) = sn j j := by
    intro j hj
    have a := p11 0 (by omega) j hj
    rw [hs j hj] at a
    rcases Nat.eq_or_lt_of_le a with z | z
    · exact z
    · obtain ⟨w, h1, h2, h3⟩ := (p4 j hj).2 _ z
      refine absurd ⟨h1, ?_, ?_⟩ (hn w)
      · rw [h2, h3]; exact Nat.le_refl _
      · rw [h2, h3, hs j hj]; exact z
  refine ⟨?_, e⟩
  have e0 := e 0 (by omega)
  have e1 := e 1 (by omega)
  have e2 := e 2 (by omega)
  omega
end
section
/-! rows of an array: what lies outside row r stays -/
def tl_fm (m r : Nat) (a b : Nat → Int32) : Prop := ∀ j, j / m ≠ r → a j = b j
theorem tl_fm_rf (m r : Nat) (a : Nat → Int32) : tl_fm m r a a := fun _ _ => rfl
theorem tl_fm_tr {m r : Nat} {a b c : Nat → Int32} (h : tl_fm m r a b) (h2 : tl_fm m r b c) : tl_fm m r a c := fun j hj => (h j hj).trans (h2 j hj)
theorem tl_fm_u {m r k : Nat} {a b : Nat → Int32} {x : Int32} (h0 : tl_fm m r a b) (h : k / m = r) : tl_fm m r a (upd b k x) := fun j hj => by
  rw [pk_un (fun e => hj (by rw [e]; exact h))]
  exact h0 j hj
/-- the state outside replica r (and the working store) stays -/
def tl_FR (r : Nat) (u v : St1) : Prop := match u, v with
  | (Ra, Wa, a1, a2, a3, a4, a5, a6, a7, a8, a9, a10, a11, a12, a13, a14, a15, a16, a17, a18, a19, a20, a21, a22, a23, a24), (Rb, Wb, b1, b2, b3, b4, b5, b6, b7, b8, b9, b10, b11, b12, b13, b14, b15, b16, b17, b18, b19, b20, b21, b22, b23, b24) => Ra = Rb ∧ Wa = Wb ∧ a1 = b1 ∧ a2 = b2 ∧ a3 = b3 ∧ a4 = b4 ∧ a5 = b5 ∧ a6 = b6 ∧ a7 = b7 ∧ a12 = b12 ∧ tl_fm 4 r a8 b8 ∧ tl_fm 4 r a9 b9 ∧ tl_fm 1 r a10 b10 ∧ tl_fm 1 r a11 b11 ∧ tl_fm 48 r a13 b13 ∧ tl_fm 8 r a14 b14 ∧ tl_fm 8 r a15 b15 ∧ tl_fm 1 r a16 b16 ∧ tl_fm 1 r a17 b17 ∧ tl_fm 48 r a18 b18 ∧ tl_fm 48 r a20 b20 ∧ tl_fm 48 r a21 b21 ∧ tl_fm 48 r a22 b22 ∧ tl_fm 48 r a23 b23
theorem tl_FR_rf (r : Nat) (u : St1) : tl_FR r u u := by
  obtain ⟨Ra, Wa, a1, a2, a3, a4, a5, a6, a7, a8, a9, a10, a11, a12, a13, a14, a15, a16, a17, a18, a19, a20, a21, a22, a23, a24⟩ := u
  exact ⟨rfl, rfl, rfl, rfl, rfl, rfl, rfl, rfl, rfl, rfl, tl_fm_rf _ _ _, tl_fm_rf _ _ _, tl_fm_rf _ _ _, tl_fm_rf _ _ _, tl_fm_rf _ _ _, tl_fm_rf _ _ _, tl_fm_rf _ _ _, tl_fm_rf _ _ _, tl_fm_rf _ _ _, tl_fm_rf _ _ _, tl_fm_rf _ _ _, tl_fm_rf _ _ _, tl_fm_rf _ _ _, tl_fm_rf _ _ _⟩
theorem tl_FR_tr {r : Nat} {u v w : St1} (h : tl_FR r u v) (h2 : tl_FR r v w) : tl_FR r u w := by
  obtain ⟨Ra, Wa, a1, a2, a3, a4, a5, a6, a7, a8, a9, a10, a11, a12, a13, a14, a15, a16, a17, a18, a19, a20, a21, a22, a23, a24⟩ := u
  obtain ⟨Rb, Wb, b1, b2, b3, b4, b5, b6, b7, b8, b9, b10, b11, b12, b13, b14, b15, b16, b17, b18, b19, b20, b21, b22, b23, b24⟩ := v
  obtain ⟨Rc, Wc, c1, c2, c3, c4, c5, c6, c7, c8, c9, c10, c11, c12, c13, c14, c15, c16, c17, c18, c19, c20, c21, c22, c23, c24⟩ := w
  obtain ⟨fR, fW, f1, f2, f3, f4, f5, f6, f7, f12, f8, f9, f10, f11, f13, f14, f15, f16, f17, f18, f20, f21, f22, f23⟩ := h
  obtain ⟨gR, gW, g1, g2, g3, g4, g5, g6, g7, g12, g8, g9, g10, g11, g13, g14, g15, g16, g17, g18, g20, g21, g22, g23⟩ := h2
  exact ⟨fR.trans gR, fW.trans gW, f1.trans g1, f2.trans g2, f3.trans g3, f4.trans g4, f5.trans g5, f6.trans g6, f7.trans g7, f12.trans g12, tl_fm_tr f8 g8, tl_fm_tr f9 g9, tl_fm_tr f10 g10, tl_fm_tr f11 g11, tl_fm_tr f13 g13, tl_fm_tr f14 g14, tl_fm_tr f15 g15, tl_fm_tr f16 g16, tl_fm_tr f17 g17, tl_fm_tr f18 g18, tl_fm_tr f20 g20, tl_fm_tr f21 g21, tl_fm_tr f22 g22, tl_fm_tr f23 g23⟩
/-- how to undo one write: f the store ahead of it, g the store behind it -/
def tl_UI (f g : Nat → Int32) (x20 x21 x22 x23 : Int32) : Prop := ∃ A B : Nat, A < 8 ∧ B < 8 ∧ x20 = nI A ∧ x22 = nI B ∧ x21 = f A ∧ x23 = f B ∧ ∀ j, j < 8 → j ≠ A → j ≠ B → g j = f j
/-- replica r: c commits, held from h on, n tentative writes T, p of them carried out (q: the number kept), sn known -/
def tl_RX (K : tl_K) (r c h n p q : Nat) (T sn : Nat → Nat) (a8 a9 a10 a11 a13 a14 a15 a16 a17 a18 a20 a21 a22 a23 : Nat → Int32) : Prop :=
  (c ≤ 48 ∧ h ≤ c ∧ p ≤ n ∧ n ≤ 48) ∧
  (∀ j, j < 4 → a8 (4 * r + j) = nI (sn j)) ∧
  (∀ j, j < 4 → a9 (4 * r + j) = nI (tl_ct K j c)) ∧
  a10 r = nI c ∧ a11 r = nI h ∧
  (∀ i, h ≤ i → i < c → a13 (48 * r + i) = nI (tl_G K i)) ∧
  (∀ j, j < 8 → a14 (8 * r + j) = tl_sg K c j) ∧
  (∀ j, j < 8 → a15 (8 * r + j) = tl_sq K T (tl_sg K c) p j) ∧
  a16 r = nI n ∧ a17 r = nI q ∧
  (∀ i, i < n → T i < tl_W K ∧ a18 (48 * r + i) = nI (T i)) ∧
  (∀ i, i < p → tl_UI (tl_sq K T (tl_sg K c) i) (tl_sq K T (tl_sg K c) (i + 1)) (a20 (48 * r + i)) (a21 (48 * r + i)) (a22 (48 * r + i)) (a23 (48 * r + i)))
def tl_RC (K : tl_K) (r c h n p q : Nat) (T sn : Nat → Nat) (u : St1) : Prop := match u with
  | (Ra, Wa, a1, a2, a3, a4, a5, a6, a7, a8, a9, a10, a11, a12, a13, a14, a15, a16, a17, a18, a19, a20, a21, a22, a23, a24) => tl_RX K r c h n p q T sn a8 a9 a10 a11 a13 a14 a15 a16 a17 a18 a20 a21 a22 a23
/-- the tables as the state holds them -/
def tl_TB (K : tl_K) (u : St1) : Prop := match u with
  | (Ra, Wa, a1, a2, a3, a4, a5, a6, a7, a8, a9, a10, a11, a12, a13, a14, a15, a16, a17, a18, a19, a20, a21, a22, a23, a24) => Ra = nI 3 ∧ Wa = nI (tl_W K) ∧ ∀ w, w < tl_W K → a1 w = nI (tl_o K w) ∧ a2 w = nI (tl_t K w) ∧ a3 w = nI (tl_s K w) ∧ a4 w = nI (tl_k K w) ∧ a5 w = nI (tl_c K w) ∧ a6 w = tl_v K w
def tl_CK (ck : Nat → Nat) (u : St1) : Prop := match u with
  | (Ra, Wa, a1, a2, a3, a4, a5, a6, a7, a8, a9, a10, a11, a12, a13, a14, a15, a16, a17, a18, a19, a20, a21, a22, a23, a24) => ∀ r, r < 3 → a7 r = nI (ck r)
theorem tl_TB_fr {K : tl_K} {r : Nat} {u v : St1} (h : tl_TB K u) (hF : tl_FR r u v) : tl_TB K v := by
  obtain ⟨Ra, Wa, a1, a2, a3, a4, a5, a6, a7, a8, a9, a10, a11, a12, a13, a14, a15, a16, a17, a18, a19, a20, a21, a22, a23, a24⟩ := u
  obtain ⟨Rb, Wb, b1, b2, b3, b4, b5, b6, b7, b8, b9, b10, b11, b12, b13, b14, b15, b16, b17, b18, b19, b20, b21, b22, b23, b24⟩ := v
  obtain ⟨rfl, rfl, rfl, rfl, rfl, rfl, rfl, rfl, rfl, rfl, f8, f9, f10, f11, f13, f14, f15, f16, f17, f18, f20, f21, f22, f23⟩ := hF
  exact h
theorem tl_CK_fr {ck : Nat → Nat} {r : Nat} {u v : St1} (h : tl_CK ck u) (hF : tl_FR r u v) : tl_CK ck v := by
  obtain ⟨Ra, Wa, a1, a2, a3, a4, a5, a6, a7, a8, a9, a10, a11, a12, a13, a14, a15, a16, a17, a18, a19, a20, a21, a22, a23, a24⟩ := u
  obtain ⟨Rb, Wb, b1, b2, b3, b4, b5, b6, b7, b8, b9, b10, b11, b12, b13, b14, b15, b16, b17, b18, b19, b20, b21, b22, b23, b24⟩ := v
  obtain ⟨rfl, rfl, rfl, rfl, rfl, rfl, rfl, rfl, rfl, rfl, f8, f9, f10, f11, f13, f14, f15, f16, f17, f18, f20, f21, f22, f23⟩ := hF
  exact h
theorem tl_RC_fr {K : tl_K} {s r c h n p q : Nat} {T sn : Nat → Nat} {u v : St1} (hs : s ≠ r) (hR : tl_RC K s c h n p q T sn u) (hF : tl_FR r u v) : tl_RC K s c h n p q T sn v := by
  obtain ⟨Ra, Wa, a1, a2, a3, a4, a5, a6, a7, a8, a9, a10, a11, a12, a13, a14, a15, a16, a17, a18, a19, a20, a21, a22, a23, a24⟩ := u
  obtain ⟨Rb, Wb, b1, b2, b3, b4, b5, b6, b7, b8, b9, b10, b11, b12, b13, b14, b15, b16, b17, b18, b19, b20, b21, b22, b23, b24⟩ := v
  obtain ⟨rfl, rfl, rfl, rfl, rfl, rfl, rfl, rfl, rfl, rfl, f8, f9, f10, f11, f13, f14, f15, f16, f17, f18, f20, f21, f22, f23⟩ := hF
  obtain ⟨⟨b1', b2', b3', b4'⟩, h8, h9, h10, h11, h13, h14, h15, h16, h17, h18, hU⟩ := hR
  refine ⟨⟨b1', b2', b3', b4'⟩, fun j hj => ?_, fun j hj => ?_, ?_, ?_, fun i hi hi2 => ?_, fun j hj => ?_, fun j hj => ?_, ?_, ?_, fun i hi => ⟨(h18 i hi).1, ?_⟩, fun i hi => ?_⟩
  · rw [← f8 _ (by omega)]; exact h8 j hj
  · rw [← f9 _ (by omega)]; exact h9 j hj
  · rw [← f10 _ (by omega)]; exact h10
  · rw [← f11 _ (by omega)]; exact h11
  · rw [← f13 _ (by omega)]; exact h13 i hi hi2
  · rw [← f14 _ (by omega)]; exact h14 j hj
  · rw [← f15 _ (by omega)]; exact h15 j hj
  · rw [← f16 _ (by omega)]; exact h16
  · rw [← f17 _ (by omega)]; exact h17
  · rw [← f18 _ (by omega)]; exact (h18 i hi).2
  · rw [← f20 _ (by omega), ← f21 _ (by omega), ← f22 _ (by omega), ← f23 _ (by omega)]; exact hU i hi
/-! numbers -/
theorem tl_i48 (r i : Nat) : nI r * 48 + nI i = nI (48 * r + i) := by
  rw [show (48 : Int32) = nI 48 from rfl, pk_mul, nI_add, Nat.mul_comm]
theorem tl_i8 (r i : Nat) : nI r * 8 + nI i = nI (8 * r + i) := by
  rw [show (8 : Int32) = nI 8 from rfl, pk_mul, nI_add, Nat.mul_comm]
theorem tl_i4 (r i : Nat) : nI r * 4 + nI i = nI (4 * r + i) := by
  rw [show (4 : Int32) = nI 4 from rfl, pk_mul, nI_add, Nat.mul_comm]
theorem tl_a7 {c : Nat} (h : c < 1000) : (nI c + 1) &&& 7 = nI ((c + 1) % 8) := by
  rw [nI_1]
  exact pk_andN (by omega) 3 (by decide)
theorem tl_a7i {c i : Nat} (h : c < 1000) (hi : i < 1000) : (nI c + nI i) &&& 7 = nI ((c + i) % 8) := by
  rw [nI_add]
  exact pk_andN (by omega) 3 (by decide)
theorem tl_cl {n : Nat} (h : n < 1000) : (nI n).toNatClampNeg = n := nI_clamp (by omega)
theorem tl_vi {n N : Nat} (h : n < N) (hN : N < 1000 := by decide) : vp_in (nI n) N := vp_in_nI h (by omega)
theorem tl_m1 (n : Nat) : nI (n + 1) - 1 = nI n := nI_pred n
theorem tl_am1 (n : Nat) : nI n + (-1) = nI n - 1 := by
  rw [Int32.sub_eq_add_neg]
theorem tl_z1 {q : Nat} (h : q < 1000) : nI 0 - 1 < nI q := by
  have e : (nI 0 - 1 : Int32) = -1 := by decide
  rw [e, Int32.lt_iff_toInt_lt, nI_toInt (by omega)]
  have e2 : (-1 : Int32).toInt = -1 := by decide
  rw [e2]
  omega
/-- bounds of the tables, and the order is total -/
def tl_KB (K : tl_K) : Prop := tl_W K ≤ 48 ∧ (∀ w, w < tl_W K → tl_o K w < 3 ∧ tl_k K w ≤ 5 ∧ tl_c K w < 8 ∧ tl_s K w ≤ 48 ∧ tl_t K w < 48) ∧ ∀ a b, a < tl_W K → b < tl_W K → a ≠ b → tl_bf K a b ∨ tl_bf K b a
theorem tl_PV_KB {K : tl_K} {ck : Nat → Nat} {sn : Nat → Nat → Nat} {dn : Nat → Nat} (h : tl_PV K ck sn dn) : tl_KB K :=
  ⟨h.1, fun w hw => ⟨(h.2.1 w hw).1, (h.2.1 w hw).2.1, (h.2.1 w hw).2.2.1, (tl_PV_ts h hw).2, (tl_PV_ts h hw).1⟩, fun a b ha hb hn => tl_PV_tot h ha hb hn⟩
/-- a state and its picture -/
def tl_MT (K : tl_K) (ck : Nat → Nat) (sn : Nat → Nat → Nat) (dn : Nat → Nat) (u : St1) : Prop :=
  tl_PV K ck sn dn ∧ tl_TB K u ∧ tl_CK ck u ∧ ∀ r, r < 3 → ∃ h n T, tl_RC K r (dn r) h n n n T (sn r) u ∧ tl_SR K T n ∧ ∀ x, tl_MB T n x ↔ tl_TS K (sn r) (dn r) x
end
section
theorem tl_take {post : Int32 → St1 → Prop} {Ra Wa : Int32} {a1 a2 a3 a4 a5 a6 a7 a8 a9 a10 a11 a12 a13 a14 a15 a16 a17 a18 a19 a20 a21 a22 a23 a24 : Nat → Int32} {c d : Nat} {v : Int32} (hc : c < 8) (hd : d < 8)
    (H : ∀ x, post x (Ra, Wa, a1, a2, a3, a4, a5, a6, a7, a8, a9, a10, a11, a12, a13, a14, a15, a16, a17, a18, a19, a20, a21, a22, a23, (if a24 c < v then (if a24 d < v then a24 else upd a24 d (a24 d - v)) else upd a24 c (a24 c - v)))) : wpX_take post (Ra, Wa, a1, a2, a3, a4, a5, a6, a7, a8, a9, a10, a11, a12, a13, a14, a15, a16, a17, a18, a19, a20, a21, a22, a23, a24) (nI c) (nI d) v := by
  unfold wpX_take
  rw [tl_cl (show c < 1000 by omega), tl_cl (show d < 1000 by omega)]
  refine ⟨pk_in c 8 hc, br_c (fun g => ⟨pk_in d 8 hd, br_c (fun g2 => ?_) (fun g2 => ⟨pk_in d 8 hd, pk_in d 8 hd, nm_e ?_⟩)⟩) (fun g => ⟨pk_in c 8 hc, pk_in c 8 hc, nm_e ?_⟩)⟩
  · have h := H 4
    rw [if_pos g, if_pos g2] at h
    exact h
  · have h := H 3
    rw [if_pos g, if_neg g2] at h
    exact h
  · have h := H 2
    rw [if_neg g] at h
    exact h
theorem tl_claimL {post : Int32 → St1 → Prop} {Ra Wa : Int32} {a1 a2 a3 a4 a5 a6 a7 a8 a9 a10 a11 a12 a13 a14 a15 a16 a17 a18 a19 a20 a21 a22 a23 a24 : Nat → Int32} {c : Nat} {v : Int32} (hc : c < 8) : ∀ m i, i + m = 8 → (∀ x, post x (Ra, Wa, a1, a2, a3, a4, a5, a6, a7, a8, a9, a10, a11, a12, a13, a14, a15, a16, a17, a18, a19, a20, a21, a22, a23, tl_cm c v a24 m i)) → wX_claim_2 post (nI c) v Ra Wa a1 a2 a3 a4 a5 a6 a7 a8 a9 a10 a11 a12 a13 a14 a15 a16 a17 a18 a19 a20 a21 a22 a23 a24 (m + 1) (nI i) := by
  intro m
  induction m with
  | zero =>
    intro i hi H
    unfold wX_claim_2
    exact pk_le 8 i (fun _ => H 4) (fun z => absurd z (by omega))
  | succ m ih =>
    intro i hi H
    have hk : (c + i) % 8 < 8 := Nat.mod_lt _ (by omega)
    unfold wX_claim_2
    refine pk_le 8 i (fun z => absurd z (by omega)) (fun _ => nm_r (tl_a7i (show c < 1000 by omega) (show i < 1000 by omega)) ⟨tl_vi hk, ?_⟩)
    rw [tl_cl (show (c + i) % 8 < 1000 by omega)]
    refine br_c (fun g => ⟨tl_vi hk, nm_e ?_⟩) (fun g => nm_r (nI_1 i) ?_)
    · have e : tl_cm c v a24 (m + 1) i = upd a24 ((c + i) % 8) v := by rw [tl_cm, if_pos g]
      rw [e] at H
      exact ⟨fun _ => H 2, fun _ => H 3⟩
    · have e : tl_cm c v a24 (m + 1) i = tl_cm c v a24 m (i + 1) := by rw [tl_cm, if_neg g]
      rw [e] at H
      exact ih (i + 1) (by omega) H
theorem tl_claim {post : Int32 → St1 → Prop} {Ra Wa : Int32} {a1 a2 a3 a4 a5 a6 a7 a8 a9 a10 a11 a12 a13 a14 a15 a16 a17 a18 a19 a20 a21 a22 a23 a24 : Nat → Int32} {c : Nat} {v : Int32} (hc : c < 8) (H : ∀ x, post x (Ra, Wa, a1, a2, a3, a4, a5, a6, a7, a8, a9, a10, a11, a12, a13, a14, a15, a16, a17, a18, a19, a20, a21, a22, a23, tl_cm c v a24 8 0)) : wpX_claim post (Ra, Wa, a1, a2, a3, a4, a5, a6, a7, a8, a9, a10, a11, a12, a13, a14, a15, a16, a17, a18, a19, a20, a21, a22, a23, a24) (nI c) v := by
  unfold wpX_claim
  exact ⟨9, tl_claimL hc 8 0 rfl H⟩
theorem tl_perf {post : Int32 → St1 → Prop} {Ra Wa : Int32} {a1 a2 a3 a4 a5 a6 a7 a8 a9 a10 a11 a12 a13 a14 a15 a16 a17 a18 a19 a20 a21 a22 a23 a24 : Nat → Int32} {w k c : Nat} {v : Int32} (hw : w < 48) (h4 : a4 w = nI k) (h5 : a5 w = nI c) (h6 : a6 w = v) (hk : k ≤ 5) (hc : c < 8)
    (H : ∀ x, post x (Ra, Wa, a1, a2, a3, a4, a5, a6, a7, a8, a9, a10, a11, a12, a13, a14, a15, a16, a17, a18, a19, a20, a21, a22, a23, tl_pf k c v a24)) : wpX_perform post (Ra, Wa, a1, a2, a3, a4, a5, a6, a7, a8, a9, a10, a11, a12, a13, a14, a15, a16, a17, a18, a19, a20, a21, a22, a23, a24) (nI w) := by
  have hn : (c + 1) % 8 < 8 := Nat.mod_lt _ (by omega)
  unfold wpX_perform
  rw [tl_cl (show w < 1000 by omega)]
  refine ⟨pk_in w 48 hw, nm_r h5 ⟨pk_in w 48 hw, nm_r h6 (nm_r (tl_a7 (show c < 1000 by omega)) ⟨pk_in w 48 hw, nm_r h4 ?_⟩)⟩⟩
  rw [tl_cl (show c < 1000 by omega), tl_cl (show (c + 1) % 8 < 1000 by omega)]
  refine pk_lt k 0 (fun z => absurd z (by omega)) (fun _ => pk_lt 4 k (fun z => ?_) (fun z4 => ?_))
  · have E : tl_pf k c v a24 = upd (upd a24 c (a24 ((c + 1) % 8))) ((c + 1) % 8) (a24 c) := by
      unfold tl_pf
      rw [if_neg (by omega), if_neg (by omega), if_neg (by omega), if_neg (by omega), if_neg (by omega)]
    rw [E] at H
    exact ⟨pk_in c 8 hc, nm_e ⟨tl_vi hn, pk_in c 8 hc, nm_e ⟨tl_vi hn, nm_e (H 2)⟩⟩⟩
  refine pk_eq k 0 (fun z => ?_) (fun z0 => ?_)
  · have E : tl_pf k c v a24 = upd a24 c v := by
      unfold tl_pf
      rw [if_pos z]
    rw [E] at H
    exact ⟨pk_in c 8 hc, nm_e (H 2)⟩
  refine pk_eq k 1 (fun z => ?_) (fun z1 => ?_)
  · have E : tl_pf k c v a24 = upd a24 c (a24 c + v) := by
      unfold tl_pf
      rw [if_neg z0, if_pos z]
    rw [E] at H
    exact ⟨pk_in c 8 hc, pk_in c 8 hc, nm_e (H 2)⟩
  refine pk_eq k 2 (fun z => ?_) (fun z2 => ?_)
  · refine tl_take hc hn (fun x => ?_)
    have E : tl_pf k c v a24 = (if a24 c < v then (if a24 ((c + 1) % 8) < v then a24 else upd a24 ((c + 1) % 8) (a24 ((c + 1) % 8) - v)) else upd a24 c (a24 c - v)) := by
      unfold tl_pf
      rw [if_neg z0, if_neg z1, if_pos z]
    have h := H x
    rw [E] at h
    exact h
  refine pk_eq k 3 (fun z => ?_) (fun z3 => ?_)
  · have E : tl_pf k c v a24 = (if v ≤ a24 c then upd (upd a24 c (a24 c - v)) ((c + 1) % 8) ((upd a24 c (a24 c - v)) ((c + 1) % 8) + v) else a24) := by
      unfold tl_pf
      rw [if_neg z0, if_neg z1, if_neg z2, if_pos z]
    rw [E] at H
    refine ⟨pk_in c 8 hc, br_c (fun g => ?_) (fun g => ?_)⟩
    · rw [if_pos g] at H
      exact ⟨pk_in c 8 hc, pk_in c 8 hc, nm_e ⟨tl_vi hn, tl_vi hn, nm_e (H 2)⟩⟩
    · rw [if_neg g] at H
      exact H 4
  refine pk_eq k 4 (fun z => ?_) (fun z5 => trivial)
  refine tl_claim hc (fun x => ?_)
  have E : tl_pf k c v a24 = tl_cm c v a24 8 0 := by rw [z, tl_pf_4]
  have h := H x
  rw [E] at h
  exact h
theorem tl_take_2 {post : Int32 → St1 → Prop} {Ra Wa : Int32} {a1 a2 a3 a4 a5 a6 a7 a8 a9 a10 a11 a12 a13 a14 a15 a16 a17 a18 a19 a20 a21 a22 a23 a24 : Nat → Int32} {c d : Nat} {v : Int32} (hc : c < 8) (hd : d < 8)
    (H : ∀ x, post x (Ra, Wa, a1, a2, a3, a4, a5, a6, a7, a8, a9, a10, a11, a12, a13, a14, a15, a16, a17, a18, a19, a20, a21, a22, a23, (if a24 c < v then (if a24 d < v then a24 else upd a24 d (a24 d - v)) else upd a24 c (a24 c - v)))) : wpX_take_2 post (Ra, Wa, a1, a2, a3, a4, a5, a6, a7, a8, a9, a10, a11, a12, a13, a14, a15, a16, a17, a18, a19, a20, a21, a22, a23, a24) (nI c) (nI d) v := by
  unfold wpX_take_2
  rw [tl_cl (show c < 1000 by omega), tl_cl (show d < 1000 by omega)]
  refine ⟨pk_in c 8 hc, br_c (fun g => ⟨pk_in d 8 hd, br_c (fun g2 => ?_) (fun g2 => ⟨pk_in d 8 hd, pk_in d 8 hd, nm_e ?_⟩)⟩) (fun g => ⟨pk_in c 8 hc, pk_in c 8 hc, nm_e ?_⟩)⟩
  · have h := H 4
    rw [if_pos g, if_pos g2] at h
    exact h
  · have h := H 3
    rw [if_pos g, if_neg g2] at h
    exact h
  · have h := H 2
    rw [if_neg g] at h
    exact h
theorem tl_claimL_2 {post : Int32 → St1 → Prop} {Ra Wa : Int32} {a1 a2 a3 a4 a5 a6 a7 a8 a9 a10 a11 a12 a13 a14 a15 a16 a17 a18 a19 a20 a21 a22 a23 a24 : Nat → Int32} {c : Nat} {v : Int32} (hc : c < 8) : ∀ m i, i + m = 8 → (∀ x, post x (Ra, Wa, a1, a2, a3, a4, a5, a6, a7, a8, a9, a10, a11, a12, a13, a14, a15, a16, a17, a18, a19, a20, a21, a22, a23, tl_cm c v a24 m i)) → wX_claim_2_2 post (nI c) v Ra Wa a1 a2 a3 a4 a5 a6 a7 a8 a9 a10 a11 a12 a13 a14 a15 a16 a17 a18 a19 a20 a21 a22 a23 a24 (m + 1) (nI i) := by
  intro m
  induction m with
  | zero =>
    intro i hi H
    unfold wX_claim_2_2
    exact pk_le 8 i (fun _ => H 4) (fun z => absurd z (by omega))
  | succ m ih =>
    intro i hi H
    have hk : (c + i) % 8 < 8 := Nat.mod_lt _ (by omega)
    unfold wX_claim_2_2
    refine pk_le 8 i (fun z => absurd z (by omega)) (fun _ => nm_r (tl_a7i (show c < 1000 by omega) (show i < 1000 by omega)) ⟨tl_vi hk, ?_⟩)
    rw [tl_cl (show (c + i) % 8 < 1000 by omega)]
    refine br_c (fun g => ⟨tl_vi hk, nm_e ?_⟩) (fun g => nm_r (nI_1 i) ?_)
    · have e : tl_cm c v a24 (m + 1) i = upd a24 ((c + i) % 8) v := by rw [tl_cm, if_pos g]
      rw [e] at H
      exact ⟨fun _ => H 2, fun _ => H 3⟩
    · have e : tl_cm c v a24 (m + 1) i = tl_cm c v a24 m (i + 1) := by rw [tl_cm, if_neg g]
      rw [e] at H
      exact ih (i + 1) (by omega) H
theorem tl_claim_2 {post : Int32 → St1 → Prop} {Ra Wa : Int32} {a1 a2 a3 a4 a5 a6 a7 a8 a9 a10 a11 a12 a13 a14 a15 a16 a17 a18 a19 a20 a21 a22 a23 a24 : Nat → Int32} {c : Nat} {v : Int32} (hc : c < 8) (H : ∀ x, post x (Ra, Wa, a1, a2, a3, a4, a5, a6, a7, a8, a9, a10, a11, a12, a13, a14, a15, a16, a17, a18, a19, a20, a21, a22, a23, tl_cm c v a24 8 0)) : wpX_claim_2 post (Ra, Wa, a1, a2, a3, a4, a5, a6, a7, a8, a9, a10, a11, a12, a13, a14, a15, a16, a17, a18, a19, a20, a21, a22, a23, a24) (nI c) v := by
  unfold wpX_claim_2
  exact ⟨9, tl_claimL_2 hc 8 0 rfl H⟩
theorem tl_perf_2 {post : Int32 → St1 → Prop} {Ra Wa : Int32} {a1 a2 a3 a4 a5 a6 a7 a8 a9 a10 a11 a12 a13 a14 a15 a16 a17 a18 a19 a20 a21 a22 a23 a24 : Nat → Int32} {w k c : Nat} {v : Int32} (hw : w < 48) (h4 : a4 w = nI k) (h5 : a5 w = nI c) (h6 : a6 w = v) (hk : k ≤ 5) (hc : c < 8)
    (H : ∀ x, post x (Ra, Wa, a1, a2, a3, a4, a5, a6, a7, a8, a9, a10, a11, a12, a13, a14, a15, a16, a17, a18, a19, a20, a21, a22, a23, tl_pf k c v a24)) : wpX_perform_2 post (Ra, Wa, a1, a2, a3, a4, a5, a6, a7, a8, a9, a10, a11, a12, a13, a14, a15, a16, a17, a18, a19, a20, a21, a22, a23, a24) (nI w) := by
  have hn : (c + 1) % 8 < 8 := Nat.mod_lt _ (by omega)
  unfold wpX_perform_2
  rw [tl_cl (show w < 1000 by omega)]
  refine ⟨pk_in w 48 hw, nm_r h5 ⟨pk_in w 48 hw, nm_r h6 (nm_r (tl_a7 (show c < 1000 by omega)) ⟨pk_in w 48 hw, nm_r h4 ?_⟩)⟩⟩
  rw [tl_cl (show c < 1000 by omega), tl_cl (show (c + 1) % 8 < 1000 by omega)]
  refine pk_lt k 0 (fun z => absurd z (by omega)) (fun _ => pk_lt 4 k (fun z => ?_) (fun z4 => ?_))
  · have E : tl_pf k c v a24 = upd (upd a24 c (a24 ((c + 1) % 8))) ((c + 1) % 8) (a24 c) := by
      unfold tl_pf
      rw [if_neg (by omega), if_neg (by omega), if_neg (by omega), if_neg (by omega), if_neg (by omega)]
    rw [E] at H
    exact ⟨pk_in c 8 hc, nm_e ⟨tl_vi hn, pk_in c 8 hc, nm_e ⟨tl_vi hn, nm_e (H 2)⟩⟩⟩
  refine pk_eq k 0 (fun z => ?_) (fun z0 => ?_)
  · have E : tl_pf k c v a24 = upd a24 c v := by
      unfold tl_pf
      rw [if_pos z]
    rw [E] at H
    exact ⟨pk_in c 8 hc, nm_e (H 2)⟩
  refine pk_eq k 1 (fun z => ?_) (fun z1 => ?_)
  · have E : tl_pf k c v a24 = upd a24 c (a24 c + v) := by
      unfold tl_pf
      rw [if_neg z0, if_pos z]
    rw [E] at H
    exact ⟨pk_in c 8 hc, pk_in c 8 hc, nm_e (H 2)⟩
  refine pk_eq k 2 (fun z => ?_) (fun z2 => ?_)
  · refine tl_take_2 hc hn (fun x => ?_)
    have E : tl_pf k c v a24 = (if a24 c < v then (if a24 ((c + 1) % 8) < v then a24 else upd a24 ((c + 1) % 8) (a24 ((c + 1) % 8) - v)) else upd a24 c (a24 c - v)) := by
      unfold tl_pf
      rw [if_neg z0, if_neg z1, if_pos z]
    have h := H x
    rw [E] at h
    exact h
  refine pk_eq k 3 (fun z => ?_) (fun z3 => ?_)
  · have E : tl_pf k c v a24 = (if v ≤ a24 c then upd (upd a24 c (a24 c - v)) ((c + 1) % 8) ((upd a24 c (a24 c - v)) ((c + 1) % 8) + v) else a24) := by
      unfold tl_pf
      rw [if_neg z0, if_neg z1, if_neg z2, if_pos z]
    rw [E] at H
    refine ⟨pk_in c 8 hc, br_c (fun g => ?_) (fun g => ?_)⟩
    · rw [if_pos g] at H
      exact ⟨pk_in c 8 hc, pk_in c 8 hc, nm_e ⟨tl_vi hn, tl_vi hn, nm_e (H 2)⟩⟩
    · rw [if_neg g] at H
      exact H 4
  refine pk_eq k 4 (fun z => ?_) (fun z5 => trivial)
  refine tl_claim_2 hc (fun x => ?_)
  have E : tl_pf k c v a24 = tl_cm c v a24 8 0 := by rw [z, tl_pf_4]
  have h := H x
  rw [E] at h
  exact h

theorem tl_fcL {post : Int32 → Prop} {Ra Wa : Int32} {a1 a2 a3 a4 a5 a6 a7 a8 a9 a10 a11 a12 a13 a14 a15 a16 a17 a18 a19 a20 a21 a22 a23 a24 : Nat → Int32} {r d : Nat} (hr : r < 4) (hd : d < 8)
    (H : ∀ A, A < 8 → ((∀ j, j < 8 → a24 j = a15 (8 * r + j)) ∨ a24 A ≠ a15 (8 * r + A)) → post (nI A)) : ∀ m i, i + m = 8 → (∀ j, j < i → a24 j = a15 (8 * r + j)) → wX_firstChanged_2 post (nI r) (nI d) Ra Wa a1 a2 a3 a4 a5 a6 a7 a8 a9 a10 a11 a12 a13 a14 a15 a16 a17 a18 a19 a20 a21 a22 a23 a24 (m + 1) (nI i) := by
  intro m
  induction m with
  | zero =>
    intro i hi h
    unfold wX_firstChanged_2
    exact pk_le 8 i (fun _ => H d hd (Or.inl (fun j hj => h j (by omega)))) (fun z => absurd z (by omega))
  | succ m ih =>
    intro i hi h
    unfold wX_firstChanged_2
    rw [tl_i8, tl_cl (show i < 1000 by omega), tl_cl (show 8 * r + i < 1000 by omega)]
    refine pk_le 8 i (fun z => absurd z (by omega)) (fun _ => ⟨pk_in i 8 (by omega), tl_vi (by omega), br_c (fun g => nm_r (nI_1 i) ?_) (fun g => H i (by omega) (Or.inr g))⟩)
    refine ih (i + 1) (by omega) (fun j hj => ?_)
    by_cases q : j = i
    · rw [q]; exact g
    · exact h j (by omega)
theorem tl_fc {post : Int32 → Prop} {Ra Wa : Int32} {a1 a2 a3 a4 a5 a6 a7 a8 a9 a10 a11 a12 a13 a14 a15 a16 a17 a18 a19 a20 a21 a22 a23 a24 : Nat → Int32} {r d : Nat} (hr : r < 4) (hd : d < 8)
    (H : ∀ A, A < 8 → ((∀ j, j < 8 → a24 j = a15 (8 * r + j)) ∨ a24 A ≠ a15 (8 * r + A)) → post (nI A)) : wpX_firstChanged post (Ra, Wa, a1, a2, a3, a4, a5, a6, a7, a8, a9, a10, a11, a12, a13, a14, a15, a16, a17, a18, a19, a20, a21, a22, a23, a24) (nI r) (nI d) := by
  unfold wpX_firstChanged
  exact ⟨9, tl_fcL hr hd H 8 0 rfl (fun j hj => absurd hj (by omega))⟩
theorem tl_a155 {post : St1 → Prop} {r : Nat} (hr : r < 4) {o15 : Nat → Int32} : ∀ (m i : Nat) (Ra Wa : Int32) (a1 a2 a3 a4 a5 a6 a7 a8 a9 a10 a11 a12 a13 a14 a15 a16 a17 a18 a19 a20 a21 a22 a23 a24 : Nat → Int32), i + m = 8 → (∀ j, j < i → a15 (8 * r + j) = a24 j) → tl_fm 8 r o15 a15 →
    (∀ b15, (∀ j, j < 8 → b15 (8 * r + j) = a24 j) → tl_fm 8 r o15 b15 → post (Ra, Wa, a1, a2, a3, a4, a5, a6, a7, a8, a9, a10, a11, a12, a13, a14, b15, a16, a17, a18, a19, a20, a21, a22, a23, a24)) → wX_applyOne_155 post (nI r) Ra Wa (m + 1) (nI i) a1 a2 a3 a4 a5 a6 a7 a8 a9 a10 a11 a12 a13 a14 a15 a16 a17 a18 a19 a20 a21 a22 a23 a24 := by
  intro m
  induction m with
  | zero =>
    intro i Ra Wa a1 a2 a3 a4 a5 a6 a7 a8 a9 a10 a11 a12 a13 a14 a15 a16 a17 a18 a19 a20 a21 a22 a23 a24 hi h hf H
    unfold wX_applyOne_155
    exact pk_le 8 i (fun _ => H a15 (fun j hj => h j (by omega)) hf) (fun z => absurd z (by omega))
  | succ m ih =>
    intro i Ra Wa a1 a2 a3 a4 a5 a6 a7 a8 a9 a10 a11 a12 a13 a14 a15 a16 a17 a18 a19 a20 a21 a22 a23 a24 hi h hf H
    unfold wX_applyOne_155
    rw [tl_i8, tl_cl (show i < 1000 by omega), tl_cl (show 8 * r + i < 1000 by omega)]
    refine pk_le 8 i (fun z => absurd z (by omega)) (fun _ => ⟨pk_in i 8 (by omega), tl_vi (by omega), nm_e (nm_r (nI_1 i) ?_)⟩)
    refine ih (i + 1) _ _ _ _ _ _ _ _ _ _ _ _ _ _ _ _ _ _ _ _ _ _ _ _ _ _ (by omega) (fun j hj => ?_) (tl_fm_u hf (by omega)) H
    by_cases q : j = i
    · rw [q, pk_us]
    · rw [pk_un (by omega)]
      exact h j (by omega)
theorem tl_a100 {post : St1 → Prop} {Ra Wa : Int32} {a1 a2 a3 a4 a5 a6 a7 a8 a9 a10 a11 a12 a13 a14 a15 a16 a17 a18 a19 a20 a21 a22 a23 a24 : Nat → Int32} {r p A B : Nat} (hr : r < 4) (hp : p < 48) (hA : A < 8) (hB : B < 8)
    (H : ∀ b15, (∀ j, j < 8 → b15 (8 * r + j) = a24 j) → tl_fm 8 r a15 b15 → post (Ra, Wa, a1, a2, a3, a4, a5, a6, a7, a8, a9, a10, a11, a12, a13, a14, b15, a16, a17, a18, a19, upd a20 (48 * r + p) (nI A), upd a21 (48 * r + p) (a15 (8 * r + A)), upd a22 (48 * r + p) (nI B), upd a23 (48 * r + p) (a15 (8 * r + B)), a24)) :
    wX_applyOne_100 post (nI r) (nI (48 * r + p)) (nI A) (nI B) Ra Wa a1 a2 a3 a4 a5 a6 a7 a8 a9 a10 a11 a12 a13 a14 a15 a16 a17 a18 a19 a20 a21 a22 a23 a24 := by
  unfold wX_applyOne_100
  rw [tl_i8, tl_i8, tl_cl (show 48 * r + p < 1000 by omega), tl_cl (show 8 * r + A < 1000 by omega), tl_cl (show 8 * r + B < 1000 by omega)]
  refine ⟨tl_vi (by omega), nm_e ⟨tl_vi (by omega), tl_vi (by omega), nm_e ⟨tl_vi (by omega), nm_e ⟨tl_vi (by omega), tl_vi (by omega), nm_e ⟨9, ?_⟩⟩⟩⟩⟩
  exact tl_a155 hr 8 0 _ _ _ _ _ _ _ _ _ _ _ _ _ _ _ _ _ _ _ _ _ _ _ _ _ _ rfl (fun j hj => absurd hj (by omega)) (tl_fm_rf _ _ _) H
theorem tl_a18 {post : St1 → Prop} {r p w k c : Nat} {v : Int32} (hr : r < 4) (hp : p < 48) (hw : w < 48) (hk : k ≤ 5) (hc : c < 8) : ∀ (m i : Nat) (Ra Wa : Int32) (a1 a2 a3 a4 a5 a6 a7 a8 a9 a10 a11 a12 a13 a14 a15 a16 a17 a18 a19 a20 a21 a22 a23 a24 : Nat → Int32), i + m = 8 → (∀ j, j < i → a24 j = a15 (8 * r + j)) →
    a4 w = nI k → a5 w = nI c → a6 w = v →
    (∀ (A B : Nat) (b15 b19 b24 : Nat → Int32), A < 8 → B < 8 → (∀ j, j < 8 → j ≠ A → j ≠ B → tl_pf k c v (fun j => a15 (8 * r + j)) j = a15 (8 * r + j)) → (∀ j, j < 8 → b15 (8 * r + j) = tl_pf k c v (fun j => a15 (8 * r + j)) j) → tl_fm 8 r a15 b15 →
      post (Ra, Wa, a1, a2, a3, a4, a5, a6, a7, a8, a9, a10, a11, a12, a13, a14, b15, a16, a17, a18, b19, upd a20 (48 * r + p) (nI A), upd a21 (48 * r + p) (a15 (8 * r + A)), upd a22 (48 * r + p) (nI B), upd a23 (48 * r + p) (a15 (8 * r + B)), b24)) →
    wX_applyOne_18 post (nI r) (nI (48 * r + p)) (nI w) Ra Wa (m + 1) (nI i) a1 a2 a3 a4 a5 a6 a7 a8 a9 a10 a11 a12 a13 a14 a15 a16 a17 a18 a19 a20 a21 a22 a23 a24 := by
  intro m
  induction m with
  | zero =>
    intro i Ra Wa a1 a2 a3 a4 a5 a6 a7 a8 a9 a10 a11 a12 a13 a14 a15 a16 a17 a18 a19 a20 a21 a22 a23 a24 hi h h4 h5 h6 H
    have hn : (c + 1) % 8 < 8 := Nat.mod_lt _ (by omega)
    have se : tl_se a24 (fun j => a15 (8 * r + j)) := fun j hj => h j (by omega)
    have sp : tl_se (tl_pf k c v a24) (tl_pf k c v (fun j => a15 (8 * r + j))) := tl_pf_se se k c v hc
    unfold wX_applyOne_18
    refine pk_le 8 i (fun _ => tl_perf hw h4 h5 h6 hk hc (fun x => ⟨tl_vi (by omega), fun b19 _ => ⟨pk_in w 48 hw, nm_r (e' := nI c) (by rw [tl_cl (show w < 1000 by omega)]; exact h5) (nm_r (tl_a7 (show c < 1000 by omega)) ⟨pk_in w 48 hw, ?_⟩)⟩⟩)) (fun z => absurd z (by omega))
    rw [tl_cl (show w < 1000 by omega)]
    refine pk_eq k 4 (fun z => ?_) (fun z => ?_) h4
    · refine tl_fc hr hc (fun A hA hd => ?_)
      refine tl_a100 hr hp hA hn (fun b15 hb hf => ?_)
      refine H A _ b15 b19 _ hA hn (fun j hj h1 _ => ?_) (fun j hj => ?_) hf
      · rw [z]
        rw [z] at sp hd
        refine tl_pf_cl (A := A) ?_ hj h1
        rcases hd with hd | hd
        · exact Or.inl (fun i hi => by rw [← sp i hi]; exact hd i hi)
        · exact Or.inr (by rw [← sp A hA]; exact hd)
      · rw [hb j hj, sp j hj]
    · refine tl_a100 hr hp hc hn (fun b15 hb hf => ?_)
      refine H c _ b15 b19 _ hc hn (fun j hj h1 h2 => ?_) (fun j hj => ?_) hf
      · exact tl_pf_un z h1 h2
      · rw [hb j hj, sp j hj]
  | succ m ih =>
    intro i Ra Wa a1 a2 a3 a4 a5 a6 a7 a8 a9 a10 a11 a12 a13 a14 a15 a16 a17 a18 a19 a20 a21 a22 a23 a24 hi h h4 h5 h6 H
    unfold wX_applyOne_18
    rw [tl_i8, tl_cl (show i < 1000 by omega), tl_cl (show 8 * r + i < 1000 by omega)]
    refine pk_le 8 i (fun z => absurd z (by omega)) (fun _ => ⟨tl_vi (by omega), pk_in i 8 (by omega), nm_e (nm_r (nI_1 i) ?_)⟩)
    refine ih (i + 1) _ _ _ _ _ _ _ _ _ _ _ _ _ _ _ _ _ _ _ _ _ _ _ _ _ _ (by omega) (fun j hj => ?_) h4 h5 h6 H
    by_cases q : j = i
    · rw [q, pk_us]
    · rw [pk_un q]
      exact h j (by omega)
theorem tl_aone {post : St1 → Prop} {K : tl_K} {r c h n p q : Nat} {T sn : Nat → Nat} {Ra Wa : Int32} {a1 a2 a3 a4 a5 a6 a7 a8 a9 a10 a11 a12 a13 a14 a15 a16 a17 a18 a19 a20 a21 a22 a23 a24 : Nat → Int32} (hK : tl_KB K) (hr : r < 3) (hT : tl_TB K (Ra, Wa, a1, a2, a3, a4, a5, a6, a7, a8, a9, a10, a11, a12, a13, a14, a15, a16, a17, a18, a19, a20, a21, a22, a23, a24)) (hR : tl_RC K r c h n p q T sn (Ra, Wa, a1, a2, a3, a4, a5, a6, a7, a8, a9, a10, a11, a12, a13, a14, a15, a16, a17, a18, a19, a20, a21, a22, a23, a24)) (hp : p < n)
    (H : ∀ u', tl_FR r (Ra, Wa, a1, a2, a3, a4, a5, a6, a7, a8, a9, a10, a11, a12, a13, a14, a15, a16, a17, a18, a19, a20, a21, a22, a23, a24) u' → tl_RC K r c h n (p + 1) q T sn u' → post u') : wpX_applyOne post (Ra, Wa, a1, a2, a3, a4, a5, a6, a7, a8, a9, a10, a11, a12, a13, a14, a15, a16, a17, a18, a19, a20, a21, a22, a23, a24) (nI r) (nI p) := by
  obtain ⟨⟨z1, z2, z3, z4⟩, h8, h9, h10, h11, h13, h14, h15, h16, h17, h18, hU⟩ := hR
  obtain ⟨hTw, e18⟩ := h18 p hp
  obtain ⟨_, _, t⟩ := hT
  obtain ⟨_, _, _, e4, e5, e6⟩ := t _ hTw
  obtain ⟨kW, kb, _⟩ := hK
  obtain ⟨_, k5, c8, _, _⟩ := kb _ hTw
  have hw : T p < 48 := by omega
  unfold wpX_applyOne
  refine nm_r (tl_i48 r p) ⟨tl_vi (by omega), nm_r (e' := nI (T p)) (by rw [tl_cl (show 48 * r + p < 1000 by omega)]; exact e18) ⟨9, ?_⟩⟩
  refine tl_a18 (show r < 4 by omega) (show p < 48 by omega) hw k5 c8 8 0 _ _ _ _ _ _ _ _ _ _ _ _ _ _ _ _ _ _ _ _ _ _ _ _ _ _ rfl (fun j hj => absurd hj (by omega)) e4 e5 e6 (fun A B b15 b19 b24 hA hB hun hb hf => ?_)
  have row : tl_se (fun j => a15 (8 * r + j)) (tl_sq K T (tl_sg K c) p) := h15
  have nxt : tl_se (tl_pf (tl_k K (T p)) (tl_c K (T p)) (tl_v K (T p)) (fun j => a15 (8 * r + j))) (tl_sq K T (tl_sg K c) (p + 1)) := tl_pf_se row _ _ _ c8
  refine H _ ⟨rfl, rfl, rfl, rfl, rfl, rfl, rfl, rfl, rfl, rfl, tl_fm_rf _ _ _, tl_fm_rf _ _ _, tl_fm_rf _ _ _, tl_fm_rf _ _ _, tl_fm_rf _ _ _, tl_fm_rf _ _ _, hf, tl_fm_rf _ _ _, tl_fm_rf _ _ _, tl_fm_rf _ _ _, tl_fm_u (tl_fm_rf _ _ _) (by omega), tl_fm_u (tl_fm_rf _ _ _) (by omega), tl_fm_u (tl_fm_rf _ _ _) (by omega), tl_fm_u (tl_fm_rf _ _ _) (by omega)⟩ ?_
  refine ⟨⟨z1, z2, by omega, z4⟩, h8, h9, h10, h11, h13, h14, fun j hj => ?_, h16, h17, h18, fun i hi => ?_⟩
  · rw [hb j hj]
    exact nxt j hj
  · by_cases y : i = p
    · rw [y, pk_us, pk_us, pk_us, pk_us]
      refine ⟨A, B, hA, hB, rfl, rfl, row A hA, row B hB, fun j hj h1 h2 => ?_⟩
      rw [← nxt j hj, hun j hj h1 h2]
      exact row j hj
    · rw [pk_un (by omega), pk_un (by omega), pk_un (by omega), pk_un (by omega)]
      exact hU i (by omega)
theorem tl_aall7 {post : St1 → Prop} {K : tl_K} {r c h n q : Nat} {T sn : Nat → Nat} (hK : tl_KB K) (hr : r < 3) : ∀ (fu p : Nat) (Ra Wa : Int32) (a1 a2 a3 a4 a5 a6 a7 a8 a9 a10 a11 a12 a13 a14 a15 a16 a17 a18 a19 a20 a21 a22 a23 a24 : Nat → Int32), n - p < fu → tl_TB K (Ra, Wa, a1, a2, a3, a4, a5, a6, a7, a8, a9, a10, a11, a12, a13, a14, a15, a16, a17, a18, a19, a20, a21, a22, a23, a24) → tl_RC K r c h n p q T sn (Ra, Wa, a1, a2, a3, a4, a5, a6, a7, a8, a9, a10, a11, a12, a13, a14, a15, a16, a17, a18, a19, a20, a21, a22, a23, a24) →
    (∀ u', tl_FR r (Ra, Wa, a1, a2, a3, a4, a5, a6, a7, a8, a9, a10, a11, a12, a13, a14, a15, a16, a17, a18, a19, a20, a21, a22, a23, a24) u' → tl_RC K r c h n n n T sn u' → post u') → wX_applyAll_7 post (nI r) fu (nI p) Ra Wa a1 a2 a3 a4 a5 a6 a7 a8 a9 a10 a11 a12 a13 a14 a15 a16 a17 a18 a19 a20 a21 a22 a23 a24 := by
  intro fu
  induction fu with
  | zero => intro p Ra Wa a1 a2 a3 a4 a5 a6 a7 a8 a9 a10 a11 a12 a13 a14 a15 a16 a17 a18 a19 a20 a21 a22 a23 a24 hp; omega
  | succ fu ih =>
    intro p Ra Wa a1 a2 a3 a4 a5 a6 a7 a8 a9 a10 a11 a12 a13 a14 a15 a16 a17 a18 a19 a20 a21 a22 a23 a24 hp hT hR H
    have hR0 := hR
    obtain ⟨⟨z1, z2, z3, z4⟩, h8, h9, h10, h11, h13, h14, h15, h16, h17, h18, hU⟩ := hR
    unfold wX_applyAll_7
    rw [tl_cl (show r < 1000 by omega)]
    refine ⟨pk_in r 4 (by omega), pk_le n p (fun y => ⟨pk_in r 4 (by omega), pk_in r 4 (by omega), nm_e ?_⟩) (fun y => ?_) h16⟩
    · have e : p = n := by omega
      subst e
      refine H _ ⟨rfl, rfl, rfl, rfl, rfl, rfl, rfl, rfl, rfl, rfl, tl_fm_rf _ _ _, tl_fm_rf _ _ _, tl_fm_rf _ _ _, tl_fm_rf _ _ _, tl_fm_rf _ _ _, tl_fm_rf _ _ _, tl_fm_rf _ _ _, tl_fm_rf _ _ _, tl_fm_u (tl_fm_rf _ _ _) (by omega), tl_fm_rf _ _ _, tl_fm_rf _ _ _, tl_fm_rf _ _ _, tl_fm_rf _ _ _, tl_fm_rf _ _ _⟩ ⟨⟨z1, z2, z3, z4⟩, h8, h9, h10, h11, h13, h14, h15, h16, ?_, h18, hU⟩
      rw [pk_us]
      exact h16
    · refine tl_aone hK hr hT hR0 y (fun u' hF hR' => ?_)
      obtain ⟨Rb, Wb, b1, b2, b3, b4, b5, b6, b7, b8, b9, b10, b11, b12, b13, b14, b15, b16, b17, b18, b19, b20, b21, b22, b23, b24⟩ := u'
      refine nm_r (nI_1 p) ?_
      exact ih (p + 1) _ _ _ _ _ _ _ _ _ _ _ _ _ _ _ _ _ _ _ _ _ _ _ _ _ _ (by omega) (tl_TB_fr hT hF) hR' (fun u2 hF2 hR2 => H u2 (tl_FR_tr hF hF2) hR2)
theorem tl_aall {post : St1 → Prop} {K : tl_K} {r c h n p : Nat} {T sn : Nat → Nat} {Ra Wa : Int32} {a1 a2 a3 a4 a5 a6 a7 a8 a9 a10 a11 a12 a13 a14 a15 a16 a17 a18 a19 a20 a21 a22 a23 a24 : Nat → Int32} (hK : tl_KB K) (hr : r < 3) (hT : tl_TB K (Ra, Wa, a1, a2, a3, a4, a5, a6, a7, a8, a9, a10, a11, a12, a13, a14, a15, a16, a17, a18, a19, a20, a21, a22, a23, a24)) (hR : tl_RC K r c h n p p T sn (Ra, Wa, a1, a2, a3, a4, a5, a6, a7, a8, a9, a10, a11, a12, a13, a14, a15, a16, a17, a18, a19, a20, a21, a22, a23, a24))
    (H : ∀ u', tl_FR r (Ra, Wa, a1, a2, a3, a4, a5, a6, a7, a8, a9, a10, a11, a12, a13, a14, a15, a16, a17, a18, a19, a20, a21, a22, a23, a24) u' → tl_RC K r c h n n n T sn u' → post u') : wpX_applyAll post (Ra, Wa, a1, a2, a3, a4, a5, a6, a7, a8, a9, a10, a11, a12, a13, a14, a15, a16, a17, a18, a19, a20, a21, a22, a23, a24) (nI r) := by
  have hR0 := hR
  obtain ⟨⟨z1, z2, z3, z4⟩, h8, h9, h10, h11, h13, h14, h15, h16, h17, h18, hU⟩ := hR
  unfold wpX_applyAll
  refine ⟨pk_in r 4 (by omega), nm_r (e' := nI p) (by rw [tl_cl (show r < 1000 by omega)]; exact h17) ⟨n - p + 1, ?_⟩⟩
  exact tl_aall7 hK hr (n - p + 1) p _ _ _ _ _ _ _ _ _ _ _ _ _ _ _ _ _ _ _ _ _ _ _ _ _ _ (by omega) hT hR0 H
theorem tl_ud9 {post : St1 → Prop} {K : tl_K} {r c h n q : Nat} {T sn : Nat → Nat} (hr : r < 3) (hq : q ≤ 48) : ∀ (fu p : Nat) (Ra Wa : Int32) (a1 a2 a3 a4 a5 a6 a7 a8 a9 a10 a11 a12 a13 a14 a15 a16 a17 a18 a19 a20 a21 a22 a23 a24 : Nat → Int32), p < fu → tl_RC K r c h n p p T sn (Ra, Wa, a1, a2, a3, a4, a5, a6, a7, a8, a9, a10, a11, a12, a13, a14, a15, a16, a17, a18, a19, a20, a21, a22, a23, a24) →
    (∀ u', tl_FR r (Ra, Wa, a1, a2, a3, a4, a5, a6, a7, a8, a9, a10, a11, a12, a13, a14, a15, a16, a17, a18, a19, a20, a21, a22, a23, a24) u' → tl_RC K r c h n (min p q) (min p q) T sn u' → post u') → wX_undoTo_9 post (nI r) (nI q) Ra Wa fu (nI p - 1) a1 a2 a3 a4 a5 a6 a7 a8 a9 a10 a11 a12 a13 a14 a15 a16 a17 a18 a19 a20 a21 a22 a23 a24 := by
  intro fu
  induction fu with
  | zero => intro p Ra Wa a1 a2 a3 a4 a5 a6 a7 a8 a9 a10 a11 a12 a13 a14 a15 a16 a17 a18 a19 a20 a21 a22 a23 a24 hp; omega
  | succ fu ih =>
    intro p Ra Wa a1 a2 a3 a4 a5 a6 a7 a8 a9 a10 a11 a12 a13 a14 a15 a16 a17 a18 a19 a20 a21 a22 a23 a24 hp hR H
    unfold wX_undoTo_9
    by_cases hpq : p ≤ q
    · refine br_t ?_ (H _ (tl_FR_rf _ _) (by rw [Nat.min_eq_left hpq]; exact hR))
      cases p with
      | zero => exact tl_z1 (by omega)
      | succ p => rw [tl_m1]; exact nI_lt (by omega) (by omega)
    · obtain ⟨m, rfl⟩ : ∃ m, p = m + 1 := ⟨p - 1, by omega⟩
      obtain ⟨⟨z1, z2, z3, z4⟩, h8, h9, h10, h11, h13, h14, h15, h16, h17, h18, hU⟩ := hR
      obtain ⟨A, B, hA, hB, e20, e22, e21, e23, hun⟩ := hU m (by omega)
      rw [tl_m1]
      refine br_f (nI_nlt (by omega) (by omega)) (nm_r (tl_i48 r m) ?_)
      rw [tl_cl (show 48 * r + m < 1000 by omega), e20, e22, e21, e23, tl_i8, tl_i8, tl_cl (show 8 * r + A < 1000 by omega), tl_cl (show 8 * r + B < 1000 by omega), tl_cl (show r < 1000 by omega)]
      refine ⟨tl_vi (by omega), tl_vi (by omega), tl_vi (by omega), nm_e ⟨tl_vi (by omega), tl_vi (by omega), tl_vi (by omega), nm_e ⟨pk_in r 4 (by omega), nm_e (nm_r (tl_am1 m) ?_)⟩⟩⟩
      have mn : min m q = min (m + 1) q := by omega
      refine ih m _ _ _ _ _ _ _ _ _ _ _ _ _ _ _ _ _ _ _ _ _ _ _ _ _ _ (by omega) ⟨⟨z1, z2, by omega, z4⟩, h8, h9, h10, h11, h13, h14, fun j hj => ?_, h16, pk_us, h18, fun i hi => hU i (by omega)⟩ (fun u2 hF2 hR2 => H u2 (tl_FR_tr ?_ hF2) (by rw [← mn]; exact hR2))
      · by_cases y : j = A
        · rw [y, pk_us]
        · rw [pk_un (by omega)]
          by_cases y2 : j = B
          · rw [y2, pk_us]
          · rw [pk_un (by omega), h15 j hj]
            exact hun j hj y y2
      · exact ⟨rfl, rfl, rfl, rfl, rfl, rfl, rfl, rfl, rfl, rfl, tl_fm_rf _ _ _, tl_fm_rf _ _ _, tl_fm_rf _ _ _, tl_fm_rf _ _ _, tl_fm_rf _ _ _, tl_fm_rf _ _ _, tl_fm_u (tl_fm_u (tl_fm_rf _ _ _) (by omega)) (by omega), tl_fm_rf _ _ _, tl_fm_u (tl_fm_rf _ _ _) (by omega), tl_fm_rf _ _ _, tl_fm_rf _ _ _, tl_fm_rf _ _ _, tl_fm_rf _ _ _, tl_fm_rf _ _ _⟩
theorem tl_undo {post : St1 → Prop} {K : tl_K} {r c h n p q : Nat} {T sn : Nat → Nat} {Ra Wa : Int32} {a1 a2 a3 a4 a5 a6 a7 a8 a9 a10 a11 a12 a13 a14 a15 a16 a17 a18 a19 a20 a21 a22 a23 a24 : Nat → Int32} (hr : r < 3) (hq : q ≤ 48) (hR : tl_RC K r c h n p p T sn (Ra, Wa, a1, a2, a3, a4, a5, a6, a7, a8, a9, a10, a11, a12, a13, a14, a15, a16, a17, a18, a19, a20, a21, a22, a23, a24))
    (H : ∀ u', tl_FR r (Ra, Wa, a1, a2, a3, a4, a5, a6, a7, a8, a9, a10, a11, a12, a13, a14, a15, a16, a17, a18, a19, a20, a21, a22, a23, a24) u' → tl_RC K r c h n (min p q) (min p q) T sn u' → post u') : wpX_undoTo post (Ra, Wa, a1, a2, a3, a4, a5, a6, a7, a8, a9, a10, a11, a12, a13, a14, a15, a16, a17, a18, a19, a20, a21, a22, a23, a24) (nI r) (nI q) := by
  have hR0 := hR
  obtain ⟨⟨z1, z2, z3, z4⟩, h8, h9, h10, h11, h13, h14, h15, h16, h17, h18, hU⟩ := hR
  unfold wpX_undoTo
  refine ⟨pk_in r 4 (by omega), nm_r (e' := nI p - 1) (by rw [tl_cl (show r < 1000 by omega), h17]) ⟨p + 1, ?_⟩⟩
  exact tl_ud9 hr hq (p + 1) p _ _ _ _ _ _ _ _ _ _ _ _ _ _ _ _ _ _ _ _ _ _ _ _ _ _ (by omega) hR0 H
end
section
theorem tl_i48m (r m : Nat) : nI r * 48 + nI (m + 1) - 1 = nI (48 * r + m) := by
  rw [tl_i48]
  exact tl_m1 (48 * r + m)
theorem tl_before {post : Int32 → Prop} {K : tl_K} {Ra Wa : Int32} {a1 a2 a3 a4 a5 a6 a7 a8 a9 a10 a11 a12 a13 a14 a15 a16 a17 a18 a19 a20 a21 a22 a23 a24 : Nat → Int32} {x y : Nat} (hK : tl_KB K) (hT : tl_TB K (Ra, Wa, a1, a2, a3, a4, a5, a6, a7, a8, a9, a10, a11, a12, a13, a14, a15, a16, a17, a18, a19, a20, a21, a22, a23, a24)) (hx : x < tl_W K) (hy : y < tl_W K) (H1 : tl_bf K x y → post 1) (H0 : ¬ tl_bf K x y → post 0) :
    wpX_before post (Ra, Wa, a1, a2, a3, a4, a5, a6, a7, a8, a9, a10, a11, a12, a13, a14, a15, a16, a17, a18, a19, a20, a21, a22, a23, a24) (nI x) (nI y) := by
  obtain ⟨_, _, t⟩ := hT
  obtain ⟨kW, kb, _⟩ := hK
  obtain ⟨x1, _, x3, _, _, _⟩ := t x hx
  obtain ⟨y1, _, y3, _, _, _⟩ := t y hy
  obtain ⟨bx1, _, _, bx3, _⟩ := kb x hx
  obtain ⟨by1, _, _, by3, _⟩ := kb y hy
  unfold wpX_before
  rw [tl_cl (show x < 1000 by omega), tl_cl (show y < 1000 by omega)]
  refine ⟨pk_in x 48 (by omega), pk_in y 48 (by omega), pk_eq (tl_s K x) (tl_s K y) (fun z => ⟨pk_in x 48 (by omega), pk_in y 48 (by omega), pk_le (tl_o K y) (tl_o K x) (fun g => H0 ?_) (fun g => H1 ?_) y1 x1⟩) (fun z => ⟨pk_in x 48 (by omega), pk_in y 48 (by omega), pk_le (tl_s K y) (tl_s K x) (fun g => H0 ?_) (fun g => H1 ?_) y3 x3⟩) x3 y3⟩
  · unfold tl_bf; omega
  · unfold tl_bf; omega
  · unfold tl_bf; omega
  · unfold tl_bf; omega
/-- a list with w put in at place d -/
def tl_in (T : Nat → Nat) (d w : Nat) : Nat → Nat := fun j => if j < d then T j else if j = d then w else T (j - 1)
theorem tl_in_lo (T : Nat → Nat) (w : Nat) {d j : Nat} (h : j < d) : tl_in T d w j = T j := if_pos h
theorem tl_in_eq (T : Nat → Nat) (d w : Nat) : tl_in T d w d = w := by
  unfold tl_in
  rw [if_neg (by omega), if_pos rfl]
theorem tl_in_hi (T : Nat → Nat) (w : Nat) {d j : Nat} (h : d < j) : tl_in T d w j = T (j - 1) := by
  unfold tl_in
  rw [if_neg (by omega), if_neg (by omega)]
theorem tl_in_SR {K : tl_K} {T : Nat → Nat} {n d w : Nat} (hS : tl_SR K T n) (hd : d ≤ n) (h1 : ∀ j, d ≤ j → j < n → tl_bf K w (T j)) (h2 : ∀ j, j < d → tl_bf K (T j) w) : tl_SR K (tl_in T d w) (n + 1) := by
  intro i j hij hj
  rcases Nat.lt_trichotomy i d with a | a | a
  · rw [tl_in_lo T w a]
    rcases Nat.lt_trichotomy j d with b | b | b
    · rw [tl_in_lo T w b]
      exact hS i j hij (by omega)
    · rw [b, tl_in_eq]
      exact h2 i a
    · rw [tl_in_hi T w b]
      rcases Nat.eq_or_lt_of_le (show i ≤ j - 1 by omega) with e | e
      · exact absurd e (by omega)
      · exact hS i (j - 1) e (by omega)
  · rw [a, tl_in_eq, tl_in_hi T w (show d < j by omega)]
    exact h1 (j - 1) (by omega) (by omega)
  · rw [tl_in_hi T w a, tl_in_hi T w (show d < j by omega)]
    exact hS (i - 1) (j - 1) (by omega) (by omega)
theorem tl_in_MB {T : Nat → Nat} {n d w : Nat} (hd : d ≤ n) (x : Nat) : tl_MB (tl_in T d w) (n + 1) x ↔ tl_MB T n x ∨ x = w := by
  constructor
  · rintro ⟨i, hi, e⟩
    rcases Nat.lt_trichotomy i d with a | a | a
    · rw [tl_in_lo T w a] at e
      exact Or.inl ⟨i, by omega, e⟩
    · rw [a, tl_in_eq] at e
      exact Or.inr e.symm
    · rw [tl_in_hi T w a] at e
      exact Or.inl ⟨i - 1, by omega, e⟩
  · rintro (⟨i, hi, e⟩ | e)
    · by_cases a : i < d
      · exact ⟨i, by omega, by rw [tl_in_lo T w a]; exact e⟩
      · exact ⟨i + 1, by omega, by rw [tl_in_hi T w (show d < i + 1 by omega)]; exact e⟩
    · exact ⟨d, by omega, by rw [tl_in_eq]; exact e.symm⟩
theorem tl_i60 {post : St1 → Prop} {r n d w : Nat} {T : Nat → Nat} {o18 : Nat → Int32} (hr : r < 3) (hn : n < 48) : ∀ (fu i : Nat) (Ra Wa : Int32) (a1 a2 a3 a4 a5 a6 a7 a8 a9 a10 a11 a12 a13 a14 a15 a16 a17 a18 a19 a20 a21 a22 a23 a24 : Nat → Int32), i < fu → d ≤ i → i ≤ n → (∀ j, j < i → a18 (48 * r + j) = nI (T j)) → (∀ j, i < j → j ≤ n → a18 (48 * r + j) = nI (T (j - 1))) → tl_fm 48 r o18 a18 →
    (∀ b18, (∀ j, j < n + 1 → b18 (48 * r + j) = nI (tl_in T d w j)) → tl_fm 48 r o18 b18 → post (Ra, Wa, a1, a2, a3, a4, a5, a6, a7, a8, a9, a10, a11, a12, a13, a14, a15, upd a16 r (nI (n + 1)), a17, b18, a19, a20, a21, a22, a23, a24)) → wX_insert_60 post (nI r) (nI w) (nI n) (nI d) Ra Wa fu (nI i) a1 a2 a3 a4 a5 a6 a7 a8 a9 a10 a11 a12 a13 a14 a15 a16 a17 a18 a19 a20 a21 a22 a23 a24 := by
  intro fu
  induction fu with
  | zero => intro i Ra Wa a1 a2 a3 a4 a5 a6 a7 a8 a9 a10 a11 a12 a13 a14 a15 a16 a17 a18 a19 a20 a21 a22 a23 a24 hi; omega
  | succ fu ih =>
    intro i Ra Wa a1 a2 a3 a4 a5 a6 a7 a8 a9 a10 a11 a12 a13 a14 a15 a16 a17 a18 a19 a20 a21 a22 a23 a24 hi hd hin h1 h2 hf H
    unfold wX_insert_60
    rw [tl_i48, tl_i48, tl_cl (show 48 * r + d < 1000 by omega), tl_cl (show 48 * r + i < 1000 by omega), tl_cl (show r < 1000 by omega)]
    refine pk_le i d (fun z => ⟨tl_vi (by omega), nm_e ⟨pk_in r 4 (by omega), nm_r (by rw [nI_1]) ?_⟩⟩) (fun z => ?_)
    · have e : i = d := by omega
      subst e
      refine H _ (fun j hj => ?_) (tl_fm_u hf (by omega))
      rcases Nat.lt_trichotomy j i with a | a | a
      · rw [pk_un (by omega), tl_in_lo T w a]
        exact h1 j a
      · rw [a, pk_us, tl_in_eq]
      · rw [pk_un (by omega), tl_in_hi T w a]
        exact h2 j a (by omega)
    · obtain ⟨m, rfl⟩ : ∃ m, i = m + 1 := ⟨i - 1, by omega⟩
      have e : nI (48 * r + (m + 1)) - 1 = nI (48 * r + m) := tl_m1 (48 * r + m)
      rw [e, tl_cl (show 48 * r + m < 1000 by omega)]
      refine ⟨tl_vi (by omega), tl_vi (by omega), nm_e (nm_r (pk_m1 m) ?_)⟩
      refine ih m _ _ _ _ _ _ _ _ _ _ _ _ _ _ _ _ _ _ _ _ _ _ _ _ _ _ (by omega) (by omega) (by omega) (fun j hj => ?_) (fun j hj hj2 => ?_) (tl_fm_u hf (by omega)) H
      · rw [pk_un (by omega)]
        exact h1 j (by omega)
      · by_cases y : j = m + 1
        · rw [y, pk_us]
          exact h1 m (by omega)
        · rw [pk_un (by omega)]
          exact h2 j (by omega) hj2
theorem tl_i17 {post : St1 → Prop} {K : tl_K} {r n w : Nat} {T : Nat → Nat} {Ra Wa : Int32} {a1 a2 a3 a4 a5 a6 a7 a8 a9 a10 a11 a12 a13 a14 a15 a16 a17 a18 a19 a20 a21 a22 a23 a24 : Nat → Int32} (hK : tl_KB K) (hr : r < 3) (hn : n < 48) (hT : tl_TB K (Ra, Wa, a1, a2, a3, a4, a5, a6, a7, a8, a9, a10, a11, a12, a13, a14, a15, a16, a17, a18, a19, a20, a21, a22, a23, a24)) (hw : w < tl_W K) (h18 : ∀ i, i < n → T i < tl_W K ∧ a18 (48 * r + i) = nI (T i)) (hS : tl_SR K T n) (hm : ¬ tl_MB T n w)
    (H : ∀ d, d ≤ n → (∀ j, d ≤ j → j < n → tl_bf K w (T j)) → (∀ j, j < d → tl_bf K (T j) w) → wX_insert_50 post (nI r) (nI w) (nI n) (nI d) Ra Wa a1 a2 a3 a4 a5 a6 a7 a8 a9 a10 a11 a12 a13 a14 a15 a16 a17 a18 a19 a20 a21 a22 a23 a24) :
    ∀ fu i, i < fu → i ≤ n → (∀ j, i ≤ j → j < n → tl_bf K w (T j)) → wX_insert_17 post (nI r) (nI w) (nI n) Ra Wa a1 a2 a3 a4 a5 a6 a7 a8 a9 a10 a11 a12 a13 a14 a15 a16 a17 a18 a19 a20 a21 a22 a23 a24 fu (nI i) := by
  intro fu
  induction fu with
  | zero => intro i hi; omega
  | succ fu ih =>
    intro i hi hin h1
    unfold wX_insert_17
    refine pk_le i 0 (fun z => H i hin h1 (fun j hj => absurd hj (by omega))) (fun z => ?_)
    obtain ⟨m, rfl⟩ : ∃ m, i = m + 1 := ⟨i - 1, by omega⟩
    rw [tl_i48m, tl_cl (show 48 * r + m < 1000 by omega), (h18 m (by omega)).2]
    refine ⟨tl_vi (by omega), tl_before hK hT hw (h18 m (by omega)).1 (fun g => ?_) (fun g => ?_)⟩
    · refine br_f (by decide) (nm_r (pk_m1 m) (ih m (by omega) (by omega) (fun j hj hj2 => ?_)))
      by_cases y : j = m
      · rw [y]; exact g
      · exact h1 j (by omega) hj2
    · have q : tl_bf K (T m) w := by
        rcases hK.2.2 w (T m) hw (h18 m (by omega)).1 (fun e => hm ⟨m, by omega, e.symm⟩) with y | y
        · exact absurd y g
        · exact y
      refine br_t rfl (H (m + 1) hin h1 (fun j hj => ?_))
      by_cases y : j = m
      · rw [y]; exact q
      · exact tl_bf_tr (hS j m (by omega) (by omega)) q
theorem tl_ins {post : St1 → Prop} {K : tl_K} {r c h n p w : Nat} {T sn : Nat → Nat} {Ra Wa : Int32} {a1 a2 a3 a4 a5 a6 a7 a8 a9 a10 a11 a12 a13 a14 a15 a16 a17 a18 a19 a20 a21 a22 a23 a24 : Nat → Int32} (hK : tl_KB K) (hr : r < 3) (hT : tl_TB K (Ra, Wa, a1, a2, a3, a4, a5, a6, a7, a8, a9, a10, a11, a12, a13, a14, a15, a16, a17, a18, a19, a20, a21, a22, a23, a24)) (hR : tl_RC K r c h n p p T sn (Ra, Wa, a1, a2, a3, a4, a5, a6, a7, a8, a9, a10, a11, a12, a13, a14, a15, a16, a17, a18, a19, a20, a21, a22, a23, a24)) (hS : tl_SR K T n) (hw : w < tl_W K) (hm : ¬ tl_MB T n w)
    (H : ∀ u' p' T', tl_FR r (Ra, Wa, a1, a2, a3, a4, a5, a6, a7, a8, a9, a10, a11, a12, a13, a14, a15, a16, a17, a18, a19, a20, a21, a22, a23, a24) u' → tl_RC K r c h (n + 1) p' p' T' sn u' → tl_SR K T' (n + 1) → (∀ x, tl_MB T' (n + 1) x ↔ tl_MB T n x ∨ x = w) → post u') : wpX_insert post (Ra, Wa, a1, a2, a3, a4, a5, a6, a7, a8, a9, a10, a11, a12, a13, a14, a15, a16, a17, a18, a19, a20, a21, a22, a23, a24) (nI r) (nI w) := by
  have hR0 := hR
  obtain ⟨⟨z1, z2, z3, z4⟩, h8, h9, h10, h11, h13, h14, h15, h16, h17, h18, hU⟩ := hR
  have hn : n < 48 := by
    have q : n + 1 ≤ tl_W K := by
      refine tl_pg _ (n + 1) (fun i => if i < n then T i else w) (fun i hi => ?_) (fun i j hij hj => ?_)
      · show (if i < n then T i else w) < tl_W K
        by_cases y : i < n
        · rw [if_pos y]; exact (h18 i y).1
        · rw [if_neg y]; exact hw
      · show (if i < n then T i else w) ≠ (if j < n then T j else w)
        rw [if_pos (show i < n by omega)]
        by_cases y : j < n
        · rw [if_pos y]
          intro e
          have := hS i j hij y
          rw [e] at this
          exact tl_bf_ir this
        · rw [if_neg y]
          intro e
          exact hm ⟨i, by omega, e⟩
    have := hK.1
    omega
  unfold wpX_insert
  refine ⟨pk_in r 4 (by omega), nm_r (e' := nI n) (by rw [tl_cl (show r < 1000 by omega)]; exact h16) (pk_lt n 48 (fun _ => ⟨n + 1, ?_⟩) (fun y => absurd y (by omega)))⟩
  refine tl_i17 hK hr hn hT hw h18 hS hm (fun d hd hd1 hd2 => ?_) (n + 1) n (by omega) (Nat.le_refl n) (fun j hj hj2 => absurd hj (by omega))
  unfold wX_insert_50
  refine tl_undo hr (by omega) hR0 (fun u' hF hR' => ?_)
  obtain ⟨Rb, Wb, b1, b2, b3, b4, b5, b6, b7, b8, b9, b10, b11, b12, b13, b14, b15, b16, b17, b18, b19, b20, b21, b22, b23, b24⟩ := u'
  obtain ⟨⟨y1, y2, y3, y4⟩, g8, g9, g10, g11, g13, g14, g15, g16, g17, g18, gU⟩ := hR'
  refine ⟨n + 1, ?_⟩
  refine tl_i60 (T := T) (o18 := b18) hr hn (n + 1) n _ _ _ _ _ _ _ _ _ _ _ _ _ _ _ _ _ _ _ _ _ _ _ _ _ _ (by omega) hd (Nat.le_refl n) (fun j hj => (g18 j hj).2) (fun j hj hj2 => absurd hj (by omega)) (tl_fm_rf _ _ _) (fun e18 he hf => ?_)
  have cg : ∀ m, m ≤ d → tl_sq K (tl_in T d w) (tl_sg K c) m = tl_sq K T (tl_sg K c) m := fun m hmd => tl_sq_cg m (fun i hi => tl_in_lo T w (by omega))
  refine H _ (min p d) (tl_in T d w) (tl_FR_tr hF ⟨rfl, rfl, rfl, rfl, rfl, rfl, rfl, rfl, rfl, rfl, tl_fm_rf _ _ _, tl_fm_rf _ _ _, tl_fm_rf _ _ _, tl_fm_rf _ _ _, tl_fm_rf _ _ _, tl_fm_rf _ _ _, tl_fm_rf _ _ _, tl_fm_u (tl_fm_rf _ _ _) (by omega), tl_fm_rf _ _ _, hf, tl_fm_rf _ _ _, tl_fm_rf _ _ _, tl_fm_rf _ _ _, tl_fm_rf _ _ _⟩) ⟨⟨y1, y2, by omega, by omega⟩, g8, g9, g10, g11, g13, g14, fun j hj => ?_, pk_us, g17, fun i hi => ⟨?_, he i hi⟩, fun i hi => ?_⟩ (tl_in_SR hS hd hd1 hd2) (tl_in_MB hd)
  · rw [cg _ (by omega)]
    exact g15 j hj
  · rcases Nat.lt_trichotomy i d with y | y | y
    · rw [tl_in_lo T w y]; exact (g18 i (by omega)).1
    · rw [y, tl_in_eq]; exact hw
    · rw [tl_in_hi T w y]; exact (g18 (i - 1) (by omega)).1
  · rw [cg i (by omega), cg (i + 1) (by omega)]
    exact gU i hi
/-! taking a write out -/
def tl_sk (d j : Nat) : Nat := if j < d then j else j + 1
theorem tl_sk_lo {d j : Nat} (h : j < d) : tl_sk d j = j := if_pos h
theorem tl_sk_hi {d j : Nat} (h : d ≤ j) : tl_sk d j = j + 1 := if_neg (by omega)
theorem tl_sk_c (d j : Nat) : (j < d ∧ tl_sk d j = j) ∨ (d ≤ j ∧ tl_sk d j = j + 1) := by
  by_cases h : j < d
  · exact Or.inl ⟨h, tl_sk_lo h⟩
  · exact Or.inr ⟨by omega, tl_sk_hi (by omega)⟩
def tl_sh (r d n i : Nat) (o b : Nat → Int32) : Prop := (∀ j, j < i → b (48 * r + j) = o (48 * r + tl_sk d j)) ∧ (∀ j, i ≤ j → j < n → b (48 * r + j) = o (48 * r + j)) ∧ tl_fm 48 r o b
theorem tl_sh_0 (r d n : Nat) (o : Nat → Int32) : tl_sh r d n d o o := ⟨fun j hj => by rw [tl_sk_lo hj], fun _ _ _ => rfl, tl_fm_rf _ _ _⟩
theorem tl_sh_s {r d n i : Nat} {o b : Nat → Int32} (h : tl_sh r d n i o b) (hd : d ≤ i) (hi : i + 1 < n) (hn : n ≤ 48) : tl_sh r d n (i + 1) o (upd b (48 * r + i) (b (48 * r + i + 1))) := by
  obtain ⟨h1, h2, h3⟩ := h
  refine ⟨fun j hj => ?_, fun j hj hj2 => ?_, tl_fm_u h3 (by omega)⟩
  · by_cases y : j = i
    · rw [y, pk_us, tl_sk_hi hd]
      exact h2 (i + 1) (by omega) hi
    · rw [pk_un (by omega)]
      exact h1 j (by omega)
  · rw [pk_un (by omega)]
    exact h2 j (by omega) hj2
theorem tl_r54 {post : St1 → Prop} {r n d p : Nat} {o18 o20 o21 o22 o23 : Nat → Int32} (hr : r < 3) (hn : n ≤ 48) (hp : p ≤ 48) : ∀ (fu i : Nat) (Ra Wa : Int32) (a1 a2 a3 a4 a5 a6 a7 a8 a9 a10 a11 a12 a13 a14 a15 a16 a17 a18 a19 a20 a21 a22 a23 a24 : Nat → Int32), n - i < fu → d ≤ i → i + 1 ≤ n → a17 r = nI p →
    tl_sh r d n i o18 a18 → tl_sh r d n i o20 a20 → tl_sh r d n i o21 a21 → tl_sh r d n i o22 a22 → tl_sh r d n i o23 a23 →
    (∀ b17 b18 b19 b20 b21 b22 b23, b17 r = nI (if d < p then p - 1 else p) → tl_fm 1 r a17 b17 → tl_sh r d n (n - 1) o18 b18 → tl_sh r d n (n - 1) o20 b20 → tl_sh r d n (n - 1) o21 b21 → tl_sh r d n (n - 1) o22 b22 → tl_sh r d n (n - 1) o23 b23 →
      post (Ra, Wa, a1, a2, a3, a4, a5, a6, a7, a8, a9, a10, a11, a12, a13, a14, a15, upd a16 r (nI (n - 1)), b17, b18, b19, b20, b21, b22, b23, a24)) →
    wX_removeTentative_54 post (nI r) (nI n) (nI d) Ra Wa fu (nI (48 * r + i)) a1 a2 a3 a4 a5 a6 a7 a8 a9 a10 a11 a12 a13 a14 a15 a16 a17 a18 a19 a20 a21 a22 a23 a24 := by
  intro fu
  induction fu with
  | zero => intro i Ra Wa a1 a2 a3 a4 a5 a6 a7 a8 a9 a10 a11 a12 a13 a14 a15 a16 a17 a18 a19 a20 a21 a22 a23 a24 hi; omega
  | succ fu ih =>
    intro i Ra Wa a1 a2 a3 a4 a5 a6 a7 a8 a9 a10 a11 a12 a13 a14 a15 a16 a17 a18 a19 a20 a21 a22 a23 a24 hi hd hin h17 s18 s20 s21 s22 s23 H
    obtain ⟨m, rfl⟩ : ∃ m, n = m + 1 := ⟨n - 1, by omega⟩
    unfold wX_removeTentative_54
    rw [tl_i48m, tl_m1, tl_cl (show r < 1000 by omega), nI_1, tl_cl (show 48 * r + i < 1000 by omega), tl_cl (show 48 * r + i + 1 < 1000 by omega)]
    refine pk_le (48 * r + m) (48 * r + i) (fun z => ?_) (fun z => ?_)
    · have e : i = m := by omega
      subst e
      refine ⟨pk_in r 4 (by omega), nm_e ⟨pk_in r 4 (by omega), pk_le p d (fun g => ?_) (fun g => ?_) h17⟩⟩
      · exact H a17 a18 a19 a20 a21 a22 a23 (by rw [if_neg (by omega)]; exact h17) (tl_fm_rf _ _ _) s18 s20 s21 s22 s23
      · refine ⟨pk_in r 4 (by omega), pk_in r 4 (by omega), nm_e ?_⟩
        refine H _ a18 a19 a20 a21 a22 a23 ?_ (tl_fm_u (tl_fm_rf _ _ _) (by omega)) s18 s20 s21 s22 s23
        rw [pk_us, if_pos g, h17, show p = p - 1 + 1 by omega, tl_m1]
        rfl
    · refine ⟨tl_vi (by omega), tl_vi (by omega), nm_e ⟨tl_vi (by omega), tl_vi (by omega), nm_e ⟨tl_vi (by omega), tl_vi (by omega), nm_e ⟨tl_vi (by omega), tl_vi (by omega), nm_e ⟨tl_vi (by omega), tl_vi (by omega), nm_e ⟨tl_vi (by omega), tl_vi (by omega), nm_e (nm_e ?_)⟩⟩⟩⟩⟩⟩
      exact ih (i + 1) _ _ _ _ _ _ _ _ _ _ _ _ _ _ _ _ _ _ _ _ _ _ _ _ _ _ (by omega) (by omega) (by omega) h17 (tl_sh_s s18 hd (by omega) hn) (tl_sh_s s20 hd (by omega) hn) (tl_sh_s s21 hd (by omega) hn) (tl_sh_s s22 hd (by omega) hn) (tl_sh_s s23 hd (by omega) hn) H
theorem tl_r10 {post : St1 → Prop} {r n w : Nat} {T : Nat → Nat} {Ra Wa : Int32} {a1 a2 a3 a4 a5 a6 a7 a8 a9 a10 a11 a12 a13 a14 a15 a16 a17 a18 a19 a20 a21 a22 a23 a24 : Nat → Int32} (hr : r < 3) (hn : n ≤ 48) (hw : w < 48) (h18 : ∀ i, i < n → T i < 48 ∧ a18 (48 * r + i) = nI (T i))
    (H0 : ¬ tl_MB T n w → wX_removeTentative_38 post (nI r) (nI n) (nI n) Ra Wa a1 a2 a3 a4 a5 a6 a7 a8 a9 a10 a11 a12 a13 a14 a15 a16 a17 a18 a19 a20 a21 a22 a23 a24)
    (H1 : ∀ d, d < n → T d = w → (∀ j, j < d → T j ≠ w) → wX_removeTentative_38 post (nI r) (nI n) (nI d) Ra Wa a1 a2 a3 a4 a5 a6 a7 a8 a9 a10 a11 a12 a13 a14 a15 a16 a17 a18 a19 a20 a21 a22 a23 a24) :
    ∀ fu i, n - i < fu → i ≤ n → (∀ j, j < i → T j ≠ w) → wX_removeTentative_10 post (nI r) (nI w) (nI n) Ra Wa a1 a2 a3 a4 a5 a6 a7 a8 a9 a10 a11 a12 a13 a14 a15 a16 a17 a18 a19 a20 a21 a22 a23 a24 fu (nI i) := by
  intro fu
  induction fu with
  | zero => intro i hi; omega
  | succ fu ih =>
    intro i hi hin h
    unfold wX_removeTentative_10
    refine pk_le n i (fun z => ?_) (fun z => ?_)
    · have e : i = n := by omega
      subst e
      exact H0 (fun ⟨j, hj, e⟩ => h j hj e)
    · rw [tl_i48, tl_cl (show 48 * r + i < 1000 by omega), (h18 i z).2]
      have := (h18 i z).1
      refine ⟨tl_vi (by omega), pk_eq (T i) w (fun g => H1 i z g h) (fun g => nm_r (nI_1 i) (ih (i + 1) (by omega) (by omega) (fun j hj => ?_)))⟩
      by_cases y : j = i
      · rw [y]; exact g
      · exact h j (by omega)
theorem tl_rm {post : St1 → Prop} {r n p w : Nat} {T : Nat → Nat} {Ra Wa : Int32} {a1 a2 a3 a4 a5 a6 a7 a8 a9 a10 a11 a12 a13 a14 a15 a16 a17 a18 a19 a20 a21 a22 a23 a24 : Nat → Int32} (hr : r < 3) (hn : n ≤ 48) (hp : p ≤ 48) (hw : w < 48) (h16 : a16 r = nI n) (h17 : a17 r = nI p) (h18 : ∀ i, i < n → T i < 48 ∧ a18 (48 * r + i) = nI (T i))
    (H0 : ¬ tl_MB T n w → post (Ra, Wa, a1, a2, a3, a4, a5, a6, a7, a8, a9, a10, a11, a12, a13, a14, a15, a16, a17, a18, a19, a20, a21, a22, a23, a24))
    (H1 : ∀ d b17 b18 b19 b20 b21 b22 b23, d < n → T d = w → (∀ j, j < d → T j ≠ w) → b17 r = nI (if d < p then p - 1 else p) → tl_fm 1 r a17 b17 → tl_sh r d n (n - 1) a18 b18 → tl_sh r d n (n - 1) a20 b20 → tl_sh r d n (n - 1) a21 b21 → tl_sh r d n (n - 1) a22 b22 → tl_sh r d n (n - 1) a23 b23 →
      post (Ra, Wa, a1, a2, a3, a4, a5, a6, a7, a8, a9, a10, a11, a12, a13, a14, a15, upd a16 r (nI (n - 1)), b17, b18, b19, b20, b21, b22, b23, a24)) :
    wpX_removeTentative post (Ra, Wa, a1, a2, a3, a4, a5, a6, a7, a8, a9, a10, a11, a12, a13, a14, a15, a16, a17, a18, a19, a20, a21, a22, a23, a24) (nI r) (nI w) := by
  unfold wpX_removeTentative
  refine ⟨pk_in r 4 (by omega), nm_r (e' := nI n) (by rw [tl_cl (show r < 1000 by omega)]; exact h16) ⟨n + 1, ?_⟩⟩
  refine tl_r10 hr hn hw h18 (fun hm => ?_) (fun d hd e1 e2 => ?_) (n + 1) 0 (by omega) (by omega) (fun j hj => absurd hj (by omega))
  · unfold wX_removeTentative_38
    exact pk_lt n n (fun z => absurd z (by omega)) (fun _ => H0 hm)
  · unfold wX_removeTentative_38
    refine pk_lt d n (fun _ => nm_r (tl_i48 r d) ⟨n - d + 1, ?_⟩) (fun z => absurd z (by omega))
    exact tl_r54 hr hn hp (n - d + 1) d _ _ _ _ _ _ _ _ _ _ _ _ _ _ _ _ _ _ _ _ _ _ _ _ _ _ (by omega) (Nat.le_refl d) (by omega) h17 (tl_sh_0 _ _ _ _) (tl_sh_0 _ _ _ _) (tl_sh_0 _ _ _ _) (tl_sh_0 _ _ _ _) (tl_sh_0 _ _ _ _)
      (fun b17 b18 b19 b20 b21 b22 b23 => H1 d b17 b18 b19 b20 b21 b22 b23 hd e1 e2)
/-! a commit at a replica -/
theorem tl_f97 {post : St1 → Prop} {r z c w ow x : Nat} {o14 o15 : Nat → Int32} (hr : r < 3) (hz : z ≤ 1) (hc : c < 48) (hw : w < 48) (ho : ow < 3) : ∀ (m i : Nat) (Ra Wa : Int32) (a1 a2 a3 a4 a5 a6 a7 a8 a9 a10 a11 a12 a13 a14 a15 a16 a17 a18 a19 a20 a21 a22 a23 a24 : Nat → Int32), i + m = 8 → (∀ j, j < i → a14 (8 * r + j) = a24 j) → (z = 0 → ∀ j, j < i → a15 (8 * r + j) = a24 j) → (z ≠ 0 → a15 = o15) →
    tl_fm 8 r o14 a14 → tl_fm 8 r o15 a15 → a10 r = nI c → a1 w = nI ow → a9 (4 * r + ow) = nI x →
    (∀ b14 b15, (∀ j, j < 8 → b14 (8 * r + j) = a24 j) → (z = 0 → ∀ j, j < 8 → b15 (8 * r + j) = a24 j) → (z ≠ 0 → b15 = o15) → tl_fm 8 r o14 b14 → tl_fm 8 r o15 b15 →
      post (Ra, Wa, a1, a2, a3, a4, a5, a6, a7, a8, upd a9 (4 * r + ow) (nI (x + 1)), upd a10 r (nI (c + 1)), a11, a12, upd a13 (48 * r + c) (nI w), b14, b15, a16, a17, a18, a19, a20, a21, a22, a23, a24)) →
    wX_fix_97 post (nI r) (nI w) (nI z) Ra Wa (m + 1) (nI i) a1 a2 a3 a4 a5 a6 a7 a8 a9 a10 a11 a12 a13 a14 a15 a16 a17 a18 a19 a20 a21 a22 a23 a24 := by
  intro m
  induction m with
  | zero =>
    intro i Ra Wa a1 a2 a3 a4 a5 a6 a7 a8 a9 a10 a11 a12 a13 a14 a15 a16 a17 a18 a19 a20 a21 a22 a23 a24 hi h1 h2 h3 f14 f15 h10 ha1 h9 H
    unfold wX_fix_97
    rw [tl_cl (show r < 1000 by omega), h10, tl_i48, tl_cl (show 48 * r + c < 1000 by omega), tl_cl (show w < 1000 by omega), ha1, tl_i4, tl_cl (show 4 * r + ow < 1000 by omega), h9, nI_1, nI_1]
    refine pk_le 8 i (fun _ => ⟨pk_in r 4 (by omega), tl_vi (by omega), nm_e ⟨pk_in r 4 (by omega), pk_in r 4 (by omega), nm_e ⟨pk_in w 48 hw, tl_vi (by omega), tl_vi (by omega), nm_e ?_⟩⟩⟩) (fun y => absurd y (by omega))
    exact H a14 a15 (fun j hj => h1 j (by omega)) (fun y j hj => h2 y j (by omega)) h3 f14 f15
  | succ m ih =>
    intro i Ra Wa a1 a2 a3 a4 a5 a6 a7 a8 a9 a10 a11 a12 a13 a14 a15 a16 a17 a18 a19 a20 a21 a22 a23 a24 hi h1 h2 h3 f14 f15 h10 ha1 h9 H
    unfold wX_fix_97
    rw [tl_i8, tl_cl (show i < 1000 by omega), tl_cl (show 8 * r + i < 1000 by omega)]
    refine pk_le 8 i (fun y => absurd y (by omega)) (fun _ => ⟨pk_in i 8 (by omega), tl_vi (by omega), nm_e (pk_eq z 0 (fun y => ⟨pk_in i 8 (by omega), tl_vi (by omega), nm_e (nm_r (nI_1 i) ?_)⟩) (fun y => nm_r (nI_1 i) ?_))⟩)
    · refine ih (i + 1) _ _ _ _ _ _ _ _ _ _ _ _ _ _ _ _ _ _ _ _ _ _ _ _ _ _ (by omega) (fun j hj => ?_) (fun _ j hj => ?_) (fun q => absurd y q) (tl_fm_u f14 (by omega)) (tl_fm_u f15 (by omega)) h10 ha1 h9 H
      · by_cases q : j = i
        · rw [q, pk_us]
        · rw [pk_un (by omega)]
          exact h1 j (by omega)
      · by_cases q : j = i
        · rw [q, pk_us]
        · rw [pk_un (by omega)]
          exact h2 y j (by omega)
    · refine ih (i + 1) _ _ _ _ _ _ _ _ _ _ _ _ _ _ _ _ _ _ _ _ _ _ _ _ _ _ (by omega) (fun j hj => ?_) (fun q => absurd q y) h3 (tl_fm_u f14 (by omega)) f15 h10 ha1 h9 H
      by_cases q : j = i
      · rw [q, pk_us]
      · rw [pk_un (by omega)]
        exact h1 j (by omega)
theorem tl_f56 {post : St1 → Prop} {r z c w ow x k cc : Nat} {v : Int32} (hr : r < 3) (hz : z ≤ 1) (hc : c < 48) (hw : w < 48) (ho : ow < 3) (hk : k ≤ 5) (hcc : cc < 8) : ∀ (m i : Nat) (Ra Wa : Int32) (a1 a2 a3 a4 a5 a6 a7 a8 a9 a10 a11 a12 a13 a14 a15 a16 a17 a18 a19 a20 a21 a22 a23 a24 : Nat → Int32), i + m = 8 → (∀ j, j < i → a24 j = a14 (8 * r + j)) →
    a10 r = nI c → a1 w = nI ow → a9 (4 * r + ow) = nI x → a4 w = nI k → a5 w = nI cc → a6 w = v →
    (∀ b14 b15 b24, (∀ j, j < 8 → b14 (8 * r + j) = tl_pf k cc v (fun j => a14 (8 * r + j)) j) → (z = 0 → ∀ j, j < 8 → b15 (8 * r + j) = tl_pf k cc v (fun j => a14 (8 * r + j)) j) → (z ≠ 0 → b15 = a15) → tl_fm 8 r a14 b14 → tl_fm 8 r a15 b15 →
      post (Ra, Wa, a1, a2, a3, a4, a5, a6, a7, a8, upd a9 (4 * r + ow) (nI (x + 1)), upd a10 r (nI (c + 1)), a11, a12, upd a13 (48 * r + c) (nI w), b14, b15, a16, a17, a18, a19, a20, a21, a22, a23, b24)) →
    wX_fix_56 post (nI r) (nI w) (nI z) Ra Wa (m + 1) (nI i) a1 a2 a3 a4 a5 a6 a7 a8 a9 a10 a11 a12 a13 a14 a15 a16 a17 a18 a19 a20 a21 a22 a23 a24 := by
  intro m
  induction m with
  | zero =>
    intro i Ra Wa a1 a2 a3 a4 a5 a6 a7 a8 a9 a10 a11 a12 a13 a14 a15 a16 a17 a18 a19 a20 a21 a22 a23 a24 hi h h10 ha1 h9 h4 h5 h6 H
    have se : tl_se a24 (fun j => a14 (8 * r + j)) := fun j hj => h j (by omega)
    have sp : tl_se (tl_pf k cc v a24) (tl_pf k cc v (fun j => a14 (8 * r + j))) := tl_pf_se se k cc v hcc
    unfold wX_fix_56
    refine pk_le 8 i (fun _ => tl_perf_2 hw h4 h5 h6 hk hcc (fun _ => ⟨9, ?_⟩)) (fun y => absurd y (by omega))
    refine tl_f97 hr hz hc hw ho 8 0 _ _ _ _ _ _ _ _ _ _ _ _ _ _ _ _ _ _ _ _ _ _ _ _ _ _ rfl (fun j hj => absurd hj (by omega)) (fun _ j hj => absurd hj (by omega)) (fun _ => rfl) (tl_fm_rf _ _ _) (tl_fm_rf _ _ _) h10 ha1 h9 (fun b14 b15 q1 q2 q3 q4 q5 => ?_)
    exact H b14 b15 _ (fun j hj => by rw [q1 j hj, sp j hj]) (fun y j hj => by rw [q2 y j hj, sp j hj]) q3 q4 q5
  | succ m ih =>
    intro i Ra Wa a1 a2 a3 a4 a5 a6 a7 a8 a9 a10 a11 a12 a13 a14 a15 a16 a17 a18 a19 a20 a21 a22 a23 a24 hi h h10 ha1 h9 h4 h5 h6 H
    unfold wX_fix_56
    rw [tl_i8, tl_cl (show i < 1000 by omega), tl_cl (show 8 * r + i < 1000 by omega)]
    refine pk_le 8 i (fun y => absurd y (by omega)) (fun _ => ⟨tl_vi (by omega), pk_in i 8 (by omega), nm_e (nm_r (nI_1 i) ?_)⟩)
    refine ih (i + 1) _ _ _ _ _ _ _ _ _ _ _ _ _ _ _ _ _ _ _ _ _ _ _ _ _ _ (by omega) (fun j hj => ?_) h10 ha1 h9 h4 h5 h6 H
    by_cases q : j = i
    · rw [q, pk_us]
    · rw [pk_un q]
      exact h j (by omega)
theorem tl_sk_SR {K : tl_K} {T : Nat → Nat} {n d : Nat} (hS : tl_SR K T n) : tl_SR K (fun j => T (tl_sk d j)) (n - 1) := by
  intro i j hij hj
  show tl_bf K (T (tl_sk d i)) (T (tl_sk d j))
  refine hS _ _ ?_ ?_
  · rcases tl_sk_c d i with a | a <;> rcases tl_sk_c d j with b | b <;> omega
  · rcases tl_sk_c d j with b | b <;> omega
theorem tl_sk_MB {K : tl_K} {T : Nat → Nat} {n d w : Nat} (hS : tl_SR K T n) (hd : d < n) (e : T d = w) (x : Nat) : tl_MB (fun j => T (tl_sk d j)) (n - 1) x ↔ tl_MB T n x ∧ x ≠ w := by
  constructor
  · rintro ⟨i, hi, e2⟩
    have e3 : T (tl_sk d i) = x := e2
    have hb : tl_sk d i < n ∧ tl_sk d i ≠ d := by
      rcases tl_sk_c d i with b | b <;> omega
    refine ⟨⟨_, hb.1, e3⟩, fun q => ?_⟩
    have q2 : T (tl_sk d i) = T d := by rw [e3, e, q]
    rcases Nat.lt_or_ge (tl_sk d i) d with y | y
    · have := hS _ _ y hd
      rw [q2] at this
      exact tl_bf_ir this
    · have := hS d (tl_sk d i) (by omega) hb.1
      rw [q2] at this
      exact tl_bf_ir this
  · rintro ⟨⟨i, hi, e2⟩, hx⟩
    have hid : i ≠ d := fun q => hx (by rw [← e2, q, e])
    by_cases y : i < d
    · exact ⟨i, by omega, by show T (tl_sk d i) = x; rw [tl_sk_lo y]; exact e2⟩
    · exact ⟨i - 1, by omega, by show T (tl_sk d (i - 1)) = x; rw [tl_sk_hi (show d ≤ i - 1 by omega), show i - 1 + 1 = i by omega]; exact e2⟩
theorem tl_f47 {post : St1 → Prop} {K : tl_K} {r c h n p w z : Nat} {T sn : Nat → Nat} {Ra Wa : Int32} {a1 a2 a3 a4 a5 a6 a7 a8 a9 a10 a11 a12 a13 a14 a15 a16 a17 a18 a19 a20 a21 a22 a23 a24 : Nat → Int32} (hK : tl_KB K) (hr : r < 3) (hT : tl_TB K (Ra, Wa, a1, a2, a3, a4, a5, a6, a7, a8, a9, a10, a11, a12, a13, a14, a15, a16, a17, a18, a19, a20, a21, a22, a23, a24)) (hR : tl_RC K r c h n p p T sn (Ra, Wa, a1, a2, a3, a4, a5, a6, a7, a8, a9, a10, a11, a12, a13, a14, a15, a16, a17, a18, a19, a20, a21, a22, a23, a24)) (hS : tl_SR K T n) (hw : w < tl_W K) (hc : c < 48) (hG : tl_G K c = w)
    (hz : (z = 0 ∧ p = 0) ∨ (z = 1 ∧ 0 < p ∧ T 0 = w))
    (H : ∀ u' n' p' T', tl_FR r (Ra, Wa, a1, a2, a3, a4, a5, a6, a7, a8, a9, a10, a11, a12, a13, a14, a15, a16, a17, a18, a19, a20, a21, a22, a23, a24) u' → tl_RC K r (c + 1) h n' p' p' T' sn u' → tl_SR K T' n' → (∀ x, tl_MB T' n' x ↔ tl_MB T n x ∧ x ≠ w) → (0 < p → T 0 = w → p' + 1 = p ∧ n' + 1 = n) → post u') : wX_fix_47 post (nI r) (nI w) (nI z) Ra Wa a1 a2 a3 a4 a5 a6 a7 a8 a9 a10 a11 a12 a13 a14 a15 a16 a17 a18 a19 a20 a21 a22 a23 a24 := by
  have hT0 := hT
  obtain ⟨⟨z1, z2, z3, z4⟩, h8, h9, h10, h11, h13, h14, h15, h16, h17, h18, hU⟩ := hR
  obtain ⟨_, _, t⟩ := hT
  obtain ⟨e1, _, _, e4, e5, e6⟩ := t w hw
  obtain ⟨kW, kb, _⟩ := hK
  obtain ⟨ho, k5, c8, _, _⟩ := kb w hw
  have sgn : tl_sg K (c + 1) = tl_pw K w (tl_sg K c) := by
    show tl_pw K (tl_G K c) (tl_sg K c) = _
    rw [hG]
  have row : tl_se (tl_pf (tl_k K w) (tl_c K w) (tl_v K w) (fun j => a14 (8 * r + j))) (tl_sg K (c + 1)) := by
    rw [sgn]
    exact tl_pf_se (fun j hj => h14 j hj) _ _ _ c8
  have n9 : ∀ j, j < 4 → upd a9 (4 * r + tl_o K w) (nI (tl_ct K (tl_o K w) c + 1)) (4 * r + j) = nI (tl_ct K j (c + 1)) := by
    intro j hj
    by_cases y : j = tl_o K w
    · rw [y, pk_us, tl_ct_s K (by rw [hG])]
    · rw [pk_un (by omega), tl_ct_n K (by rw [hG]; exact fun q => y q.symm)]
      exact h9 j hj
  have n13 : ∀ i, h ≤ i → i < c + 1 → upd a13 (48 * r + c) (nI w) (48 * r + i) = nI (tl_G K i) := by
    intro i hi hi2
    by_cases y : i = c
    · rw [y, pk_us, hG]
    · rw [pk_un (by omega)]
      exact h13 i hi (by omega)
  have hz1 : z ≤ 1 := by omega
  unfold wX_fix_47
  refine tl_rm hr z4 (by omega) (by omega) h16 h17 (fun i hi => ⟨by have := (h18 i hi).1; omega, (h18 i hi).2⟩) (fun hm => ⟨9, ?_⟩) (fun d b17 b18 b19 b20 b21 b22 b23 hd ed ed2 q17 f17 s18 s20 s21 s22 s23 => ⟨9, ?_⟩)
  · refine tl_f56 hr hz1 hc (by omega) ho k5 c8 8 0 _ _ _ _ _ _ _ _ _ _ _ _ _ _ _ _ _ _ _ _ _ _ _ _ _ _ rfl (fun j hj => absurd hj (by omega)) h10 e1 (h9 _ (by omega)) e4 e5 e6 (fun b14 b15 b24 q1 q2 q3 q4 q5 => ?_)
    rcases hz with ⟨hz, hp⟩ | ⟨hz, hp, hT0'⟩
    · refine H _ n 0 T ⟨rfl, rfl, rfl, rfl, rfl, rfl, rfl, rfl, rfl, rfl, tl_fm_rf _ _ _, tl_fm_u (tl_fm_rf _ _ _) (by omega), tl_fm_u (tl_fm_rf _ _ _) (by omega), tl_fm_rf _ _ _, tl_fm_u (tl_fm_rf _ _ _) (by omega), q4, q5, tl_fm_rf _ _ _, tl_fm_rf _ _ _, tl_fm_rf _ _ _, tl_fm_rf _ _ _, tl_fm_rf _ _ _, tl_fm_rf _ _ _, tl_fm_rf _ _ _⟩ ⟨⟨by omega, by omega, by omega, z4⟩, h8, n9, pk_us, h11, n13, fun j hj => ?_, fun j hj => ?_, h16, by rw [← hp]; exact h17, h18, fun i hi => absurd hi (by omega)⟩ hS (fun x => ?_) (fun y => absurd y (by omega))
      · rw [q1 j hj]; exact row j hj
      · rw [q2 hz j hj]; exact row j hj
      · exact ⟨fun q => ⟨q, fun e => hm (by rw [← e]; exact q)⟩, fun q => q.1⟩
    · exact absurd ⟨0, by omega, hT0'⟩ hm
  · refine tl_f56 hr hz1 hc (by omega) ho k5 c8 8 0 _ _ _ _ _ _ _ _ _ _ _ _ _ _ _ _ _ _ _ _ _ _ _ _ _ _ rfl (fun j hj => absurd hj (by omega)) h10 e1 (h9 _ (by omega)) e4 e5 e6 (fun b14 b15 b24 q1 q2 q3 q4 q5 => ?_)
    have n18 : ∀ i, i < n - 1 → T (tl_sk d i) < tl_W K ∧ b18 (48 * r + i) = nI (T (tl_sk d i)) := by
      intro i hi
      have hb : tl_sk d i < n := by
        rcases tl_sk_c d i with b | b <;> omega
      exact ⟨(h18 _ hb).1, by rw [s18.1 i hi]; exact (h18 _ hb).2⟩
    rcases hz with ⟨hz, hp⟩ | ⟨hz, hp, hT0'⟩
    · refine H _ (n - 1) 0 (fun j => T (tl_sk d j)) ⟨rfl, rfl, rfl, rfl, rfl, rfl, rfl, rfl, rfl, rfl, tl_fm_rf _ _ _, tl_fm_u (tl_fm_rf _ _ _) (by omega), tl_fm_u (tl_fm_rf _ _ _) (by omega), tl_fm_rf _ _ _, tl_fm_u (tl_fm_rf _ _ _) (by omega), q4, q5, tl_fm_u (tl_fm_rf _ _ _) (by omega), f17, s18.2.2, s20.2.2, s21.2.2, s22.2.2, s23.2.2⟩ ⟨⟨by omega, by omega, by omega, by omega⟩, h8, n9, pk_us, h11, n13, fun j hj => ?_, fun j hj => ?_, pk_us, ?_, n18, fun i hi => absurd hi (by omega)⟩ (tl_sk_SR hS) (tl_sk_MB hS hd ed) (fun y => absurd y (by omega))
      · rw [q1 j hj]; exact row j hj
      · rw [q2 hz j hj]; exact row j hj
      · rw [q17, if_neg (by omega), hp]
    · have d0 : d = 0 := by
        rcases Nat.eq_zero_or_pos d with y | y
        · exact y
        · exact absurd hT0' (ed2 0 y)
      subst d0
      obtain ⟨p', rfl⟩ : ∃ p', p = p' + 1 := ⟨p - 1, by omega⟩
      have es : ∀ i, tl_sk 0 i = i + 1 := fun i => tl_sk_hi (by omega)
      have eT : (fun j => T (tl_sk 0 j)) = (fun j => T (j + 1)) := funext (fun j => by rw [es])
      have sh : ∀ m, tl_sq K (fun j => T (tl_sk 0 j)) (tl_sg K (c + 1)) m = tl_sq K T (tl_sg K c) (m + 1) := by
        intro m
        rw [eT, sgn, ← hT0']
        exact tl_sq_sh K T (tl_sg K c) m
      refine H _ (n - 1) p' (fun j => T (tl_sk 0 j)) ⟨rfl, rfl, rfl, rfl, rfl, rfl, rfl, rfl, rfl, rfl, tl_fm_rf _ _ _, tl_fm_u (tl_fm_rf _ _ _) (by omega), tl_fm_u (tl_fm_rf _ _ _) (by omega), tl_fm_rf _ _ _, tl_fm_u (tl_fm_rf _ _ _) (by omega), q4, q5, tl_fm_u (tl_fm_rf _ _ _) (by omega), f17, s18.2.2, s20.2.2, s21.2.2, s22.2.2, s23.2.2⟩ ⟨⟨by omega, by omega, by omega, by omega⟩, h8, n9, pk_us, h11, n13, fun j hj => ?_, fun j hj => ?_, pk_us, ?_, n18, fun i hi => ?_⟩ (tl_sk_SR hS) (tl_sk_MB hS hd ed) (fun _ _ => ⟨rfl, by omega⟩)
      · rw [q1 j hj]; exact row j hj
      · rw [q3 (by omega), sh]
        exact h15 j hj
      · rw [q17, if_pos (by omega)]
        rfl
      · rw [sh, sh, s20.1 i (by omega), s21.1 i (by omega), s22.1 i (by omega), s23.1 i (by omega), es]
        exact hU (i + 1) (by omega)
theorem tl_f36 {post : St1 → Prop} {K : tl_K} {r c h n p w : Nat} {T sn : Nat → Nat} {Ra Wa : Int32} {a1 a2 a3 a4 a5 a6 a7 a8 a9 a10 a11 a12 a13 a14 a15 a16 a17 a18 a19 a20 a21 a22 a23 a24 : Nat → Int32} (hne : ¬ (0 < p ∧ T 0 = w)) (hK : tl_KB K) (hr : r < 3) (hT : tl_TB K (Ra, Wa, a1, a2, a3, a4, a5, a6, a7, a8, a9, a10, a11, a12, a13, a14, a15, a16, a17, a18, a19, a20, a21, a22, a23, a24)) (hR : tl_RC K r c h n p p T sn (Ra, Wa, a1, a2, a3, a4, a5, a6, a7, a8, a9, a10, a11, a12, a13, a14, a15, a16, a17, a18, a19, a20, a21, a22, a23, a24)) (hS : tl_SR K T n) (hw : w < tl_W K) (hc : c < 48) (hG : tl_G K c = w)
    (H : ∀ u' n' p' T', tl_FR r (Ra, Wa, a1, a2, a3, a4, a5, a6, a7, a8, a9, a10, a11, a12, a13, a14, a15, a16, a17, a18, a19, a20, a21, a22, a23, a24) u' → tl_RC K r (c + 1) h n' p' p' T' sn u' → tl_SR K T' n' → (∀ x, tl_MB T' n' x ↔ tl_MB T n x ∧ x ≠ w) → (0 < p → T 0 = w → p' + 1 = p ∧ n' + 1 = n) → post u') : wX_fix_35 post (nI r) (nI w) Ra Wa a1 a2 a3 a4 a5 a6 a7 a8 a9 a10 a11 a12 a13 a14 a15 a16 a17 a18 a19 a20 a21 a22 a23 a24 := by
  unfold wX_fix_35 wX_fix_36
  refine br_t rfl (tl_undo (q := 0) hr (by omega) hR (fun u' hF hR' => ?_))
  obtain ⟨Rb, Wb, b1, b2, b3, b4, b5, b6, b7, b8, b9, b10, b11, b12, b13, b14, b15, b16, b17, b18, b19, b20, b21, b22, b23, b24⟩ := u'
  rw [Nat.min_zero] at hR'
  exact tl_f47 (z := 0) hK hr (tl_TB_fr hT hF) hR' hS hw hc hG (Or.inl ⟨rfl, rfl⟩) (fun u2 n' p' T' hF2 hR2 hS2 hM2 _ => H u2 n' p' T' (tl_FR_tr hF hF2) hR2 hS2 hM2 (fun y1 y2 => absurd ⟨y1, y2⟩ hne))
theorem tl_fix {post : St1 → Prop} {K : tl_K} {r c h n p w : Nat} {T sn : Nat → Nat} {Ra Wa : Int32} {a1 a2 a3 a4 a5 a6 a7 a8 a9 a10 a11 a12 a13 a14 a15 a16 a17 a18 a19 a20 a21 a22 a23 a24 : Nat → Int32} (hK : tl_KB K) (hr : r < 3) (hT : tl_TB K (Ra, Wa, a1, a2, a3, a4, a5, a6, a7, a8, a9, a10, a11, a12, a13, a14, a15, a16, a17, a18, a19, a20, a21, a22, a23, a24)) (hR : tl_RC K r c h n p p T sn (Ra, Wa, a1, a2, a3, a4, a5, a6, a7, a8, a9, a10, a11, a12, a13, a14, a15, a16, a17, a18, a19, a20, a21, a22, a23, a24)) (hS : tl_SR K T n) (hw : w < tl_W K) (hc : c < 48) (hG : tl_G K c = w)
    (H : ∀ u' n' p' T', tl_FR r (Ra, Wa, a1, a2, a3, a4, a5, a6, a7, a8, a9, a10, a11, a12, a13, a14, a15, a16, a17, a18, a19, a20, a21, a22, a23, a24) u' → tl_RC K r (c + 1) h n' p' p' T' sn u' → tl_SR K T' n' → (∀ x, tl_MB T' n' x ↔ tl_MB T n x ∧ x ≠ w) → (0 < p → T 0 = w → p' + 1 = p ∧ n' + 1 = n) → post u') : wpX_fix post (Ra, Wa, a1, a2, a3, a4, a5, a6, a7, a8, a9, a10, a11, a12, a13, a14, a15, a16, a17, a18, a19, a20, a21, a22, a23, a24) (nI r) (nI w) := by
  have hR0 := hR
  obtain ⟨⟨z1, z2, z3, z4⟩, h8, h9, h10, h11, h13, h14, h15, h16, h17, h18, hU⟩ := hR
  have e48 : nI r * 48 = nI (48 * r) := by
    rw [show (48 : Int32) = nI 48 from rfl, pk_mul, Nat.mul_comm]
  unfold wpX_fix
  rw [tl_cl (show r < 1000 by omega), e48, tl_cl (show 48 * r < 1000 by omega)]
  refine ⟨pk_in r 4 (by omega), pk_le n 0 (fun y => tl_f36 (fun q => absurd q.1 (by omega)) hK hr hT hR0 hS hw hc hG H) (fun y => ⟨tl_vi (by omega), ?_⟩) h16⟩
  have e18 : a18 (48 * r) = nI (T 0) := (h18 0 y).2
  have b0 := (h18 0 y).1
  have kW := hK.1
  refine pk_eq (T 0) w (fun g => ⟨pk_in r 4 (by omega), pk_le p 0 (fun y => tl_f36 (fun q => absurd q.1 (by omega)) hK hr hT hR0 hS hw hc hG H) (fun g2 => ?_) h17⟩) (fun g => tl_f36 (fun q => g q.2) hK hr hT hR0 hS hw hc hG H) e18
  unfold wX_fix_36
  exact br_f (by decide) (tl_f47 (z := 1) hK hr hT hR0 hS hw hc hG (Or.inr ⟨rfl, g2, g⟩) H)
end
section
theorem tl_t47 {post : St1 → Prop} {d : Nat} {sn y : Nat → Nat} {o8 : Nat → Int32} (hd : d < 3) (hb : ∀ j, j < 4 → sn j ≤ 48 ∧ y j ≤ 48) : ∀ (m i : Nat) (Ra Wa : Int32) (a1 a2 a3 a4 a5 a6 a7 a8 a9 a10 a11 a12 a13 a14 a15 a16 a17 a18 a19 a20 a21 a22 a23 a24 : Nat → Int32), i + m = 4 → (∀ j, j < 4 → a9 (4 * d + j) = nI (y j)) → (∀ j, j < i → a8 (4 * d + j) = nI (max (sn j) (y j))) → (∀ j, i ≤ j → j < 4 → a8 (4 * d + j) = nI (sn j)) → tl_fm 4 d o8 a8 →
    (∀ b8, (∀ j, j < 4 → b8 (4 * d + j) = nI (max (sn j) (y j))) → tl_fm 4 d o8 b8 → post (Ra, Wa, a1, a2, a3, a4, a5, a6, a7, b8, a9, a10, a11, a12, a13, a14, a15, a16, a17, a18, a19, a20, a21, a22, a23, a24)) → wX_transferLog_47 post (nI d) Ra Wa (m + 1) (nI i) a1 a2 a3 a4 a5 a6 a7 a8 a9 a10 a11 a12 a13 a14 a15 a16 a17 a18 a19 a20 a21 a22 a23 a24 := by
  intro m
  induction m with
  | zero =>
    intro i Ra Wa a1 a2 a3 a4 a5 a6 a7 a8 a9 a10 a11 a12 a13 a14 a15 a16 a17 a18 a19 a20 a21 a22 a23 a24 hi h9 h1 h2 hf H
    unfold wX_transferLog_47
    exact pk_le 4 i (fun _ => H a8 (fun j hj => h1 j (by omega)) hf) (fun z => absurd z (by omega))
  | succ m ih =>
    intro i Ra Wa a1 a2 a3 a4 a5 a6 a7 a8 a9 a10 a11 a12 a13 a14 a15 a16 a17 a18 a19 a20 a21 a22 a23 a24 hi h9 h1 h2 hf H
    have e8 := h2 i (Nat.le_refl i) (by omega)
    have e9 := h9 i (by omega)
    have bb := hb i (by omega)
    unfold wX_transferLog_47
    rw [tl_i4, tl_cl (show 4 * d + i < 1000 by omega)]
    refine pk_le 4 i (fun z => absurd z (by omega)) (fun _ => ⟨tl_vi (by omega), nm_r e9 ⟨tl_vi (by omega), pk_le (y i) (sn i) (fun z => nm_r (nI_1 i) ?_) (fun z => ⟨tl_vi (by omega), nm_e (nm_r (nI_1 i) ?_)⟩) rfl e8⟩⟩)
    · refine ih (i + 1) _ _ _ _ _ _ _ _ _ _ _ _ _ _ _ _ _ _ _ _ _ _ _ _ _ _ (by omega) h9 (fun j hj => ?_) (fun j hj hj2 => h2 j (by omega) hj2) hf H
      by_cases q : j = i
      · rw [q, e8, Nat.max_eq_left z]
      · exact h1 j (by omega)
    · refine ih (i + 1) _ _ _ _ _ _ _ _ _ _ _ _ _ _ _ _ _ _ _ _ _ _ _ _ _ _ (by omega) h9 (fun j hj => ?_) (fun j hj hj2 => ?_) (tl_fm_u hf (by omega)) H
      · by_cases q : j = i
        · rw [q, pk_us, Nat.max_eq_right (by omega)]
        · rw [pk_un (by omega)]
          exact h1 j (by omega)
      · rw [pk_un (by omega)]
        exact h2 j (by omega) hj2
theorem tl_t15 {post : St1 → Prop} {K : tl_K} {s d D hs ns qs c0 hd n0 : Nat} {Ts ss T0 sn : Nat → Nat} (hK : tl_KB K) (h3 : s < 3) (d3 : d < 3) (hsd : s ≠ d) (hhs : hs ≤ c0) (hG : ∀ i, i < D → tl_G K i < tl_W K) (hb : ∀ j, j < 4 → sn j ≤ 48 ∧ tl_ct K j D ≤ 48) :
    ∀ (fu i n p : Nat) (T : Nat → Nat) (Ra Wa : Int32) (a1 a2 a3 a4 a5 a6 a7 a8 a9 a10 a11 a12 a13 a14 a15 a16 a17 a18 a19 a20 a21 a22 a23 a24 : Nat → Int32), D - i < fu → c0 ≤ i → i ≤ D → tl_TB K (Ra, Wa, a1, a2, a3, a4, a5, a6, a7, a8, a9, a10, a11, a12, a13, a14, a15, a16, a17, a18, a19, a20, a21, a22, a23, a24) → tl_RC K s D hs ns qs qs Ts ss (Ra, Wa, a1, a2, a3, a4, a5, a6, a7, a8, a9, a10, a11, a12, a13, a14, a15, a16, a17, a18, a19, a20, a21, a22, a23, a24) → tl_RC K d i hd n p p T sn (Ra, Wa, a1, a2, a3, a4, a5, a6, a7, a8, a9, a10, a11, a12, a13, a14, a15, a16, a17, a18, a19, a20, a21, a22, a23, a24) → tl_SR K T n → (∀ x, tl_MB T n x ↔ tl_MB T0 n0 x ∧ ∀ k, c0 ≤ k → k < i → tl_G K k ≠ x) →
    (∀ u' n' p' T', tl_FR d (Ra, Wa, a1, a2, a3, a4, a5, a6, a7, a8, a9, a10, a11, a12, a13, a14, a15, a16, a17, a18, a19, a20, a21, a22, a23, a24) u' → tl_RC K d D hd n' p' p' T' (fun j => max (sn j) (tl_ct K j D)) u' → tl_SR K T' n' → (∀ x, tl_MB T' n' x ↔ tl_MB T0 n0 x ∧ ∀ k, c0 ≤ k → k < D → tl_G K k ≠ x) → post u') →
    wX_transferLog_15 post (nI s) (nI d) (nI D) fu (nI i) Ra Wa a1 a2 a3 a4 a5 a6 a7 a8 a9 a10 a11 a12 a13 a14 a15 a16 a17 a18 a19 a20 a21 a22 a23 a24 := by
  intro fu
  induction fu with
  | zero => intro i n p T Ra Wa a1 a2 a3 a4 a5 a6 a7 a8 a9 a10 a11 a12 a13 a14 a15 a16 a17 a18 a19 a20 a21 a22 a23 a24 hi; omega
  | succ fu ih =>
    intro i n p T Ra Wa a1 a2 a3 a4 a5 a6 a7 a8 a9 a10 a11 a12 a13 a14 a15 a16 a17 a18 a19 a20 a21 a22 a23 a24 hi hi0 hiD hT hRs hRd hS hM H
    have hRs0 := hRs
    have hRd0 := hRd
    obtain ⟨⟨z1, z2, z3, z4⟩, h8, h9, h10, h11, h13, h14, h15, h16, h17, h18, hU⟩ := hRd
    obtain ⟨⟨y1, y2, y3, y4⟩, g8, g9, g10, g11, g13, g14, g15, g16, g17, g18, gU⟩ := hRs
    unfold wX_transferLog_15
    refine pk_le D i (fun z => ⟨5, ?_⟩) (fun z => ?_)
    · have e : i = D := by omega
      subst e
      refine tl_t47 (sn := sn) (y := fun j => tl_ct K j i) d3 hb 4 0 _ _ _ _ _ _ _ _ _ _ _ _ _ _ _ _ _ _ _ _ _ _ _ _ _ _ rfl h9 (fun j hj => absurd hj (by omega)) (fun j _ hj => h8 j hj) (tl_fm_rf _ _ _) (fun b8 q1 q2 => ?_)
      exact H _ n p T ⟨rfl, rfl, rfl, rfl, rfl, rfl, rfl, rfl, rfl, rfl, q2, tl_fm_rf _ _ _, tl_fm_rf _ _ _, tl_fm_rf _ _ _, tl_fm_rf _ _ _, tl_fm_rf _ _ _, tl_fm_rf _ _ _, tl_fm_rf _ _ _, tl_fm_rf _ _ _, tl_fm_rf _ _ _, tl_fm_rf _ _ _, tl_fm_rf _ _ _, tl_fm_rf _ _ _, tl_fm_rf _ _ _⟩ ⟨⟨z1, z2, z3, z4⟩, q1, h9, h10, h11, h13, h14, h15, h16, h17, h18, hU⟩ hS hM
    · rw [tl_i48, tl_cl (show 48 * s + i < 1000 by omega), g13 i (by omega) z]
      refine ⟨tl_vi (by omega), tl_fix hK d3 hT hRd0 hS (hG i z) (by omega) rfl (fun u' n' p' T' hF hR' hS' hM' _ => ?_)⟩
      obtain ⟨Rb, Wb, b1, b2, b3, b4, b5, b6, b7, b8, b9, b10, b11, b12, b13, b14, b15, b16, b17, b18, b19, b20, b21, b22, b23, b24⟩ := u'
      refine nm_r (nI_1 i) ?_
      refine ih (i + 1) n' p' T' _ _ _ _ _ _ _ _ _ _ _ _ _ _ _ _ _ _ _ _ _ _ _ _ _ _ (by omega) (by omega) (by omega) (tl_TB_fr hT hF) (tl_RC_fr hsd hRs0 hF) hR' hS' (fun x => ?_) (fun u2 n2 p2 T2 hF2 => H u2 n2 p2 T2 (tl_FR_tr hF hF2))
      rw [hM', hM]
      constructor
      · rintro ⟨⟨q1, q2⟩, q3⟩
        refine ⟨q1, fun k hk hk2 => ?_⟩
        by_cases e : k = i
        · rw [e]; exact fun q => q3 q.symm
        · exact q2 k hk (by omega)
      · rintro ⟨q1, q2⟩
        exact ⟨⟨q1, fun k hk hk2 => q2 k hk (by omega)⟩, fun q => q2 i hi0 (by omega) q.symm⟩
theorem tl_tlog {post : St1 → Prop} {K : tl_K} {s d D hs ns qs c hd n p : Nat} {Ts ss T sn : Nat → Nat} {Ra Wa : Int32} {a1 a2 a3 a4 a5 a6 a7 a8 a9 a10 a11 a12 a13 a14 a15 a16 a17 a18 a19 a20 a21 a22 a23 a24 : Nat → Int32} (hK : tl_KB K) (h3 : s < 3) (d3 : d < 3) (hsd : s ≠ d) (hc : c ≤ D) (hhs : hs ≤ c) (hG : ∀ i, i < D → tl_G K i < tl_W K) (hb : ∀ j, j < 4 → sn j ≤ 48 ∧ tl_ct K j D ≤ 48)
    (hT : tl_TB K (Ra, Wa, a1, a2, a3, a4, a5, a6, a7, a8, a9, a10, a11, a12, a13, a14, a15, a16, a17, a18, a19, a20, a21, a22, a23, a24)) (hRs : tl_RC K s D hs ns qs qs Ts ss (Ra, Wa, a1, a2, a3, a4, a5, a6, a7, a8, a9, a10, a11, a12, a13, a14, a15, a16, a17, a18, a19, a20, a21, a22, a23, a24)) (hRd : tl_RC K d c hd n p p T sn (Ra, Wa, a1, a2, a3, a4, a5, a6, a7, a8, a9, a10, a11, a12, a13, a14, a15, a16, a17, a18, a19, a20, a21, a22, a23, a24)) (hS : tl_SR K T n)
    (H : ∀ u' h' n' p' T', tl_FR d (Ra, Wa, a1, a2, a3, a4, a5, a6, a7, a8, a9, a10, a11, a12, a13, a14, a15, a16, a17, a18, a19, a20, a21, a22, a23, a24) u' → tl_RC K d D h' n' p' p' T' (fun j => max (sn j) (tl_ct K j D)) u' → tl_SR K T' n' → (∀ x, tl_MB T' n' x ↔ tl_MB T n x ∧ ∀ k, c ≤ k → k < D → tl_G K k ≠ x) → post u') :
    wpX_transferLog post (Ra, Wa, a1, a2, a3, a4, a5, a6, a7, a8, a9, a10, a11, a12, a13, a14, a15, a16, a17, a18, a19, a20, a21, a22, a23, a24) (nI s) (nI d) := by
  have es : a10 s = nI D := hRs.2.2.2.1
  have ed : a10 d = nI c := hRd.2.2.2.1
  unfold wpX_transferLog
  rw [tl_cl (show s < 1000 by omega), tl_cl (show d < 1000 by omega)]
  refine ⟨tl_vi (by omega), nm_r es ⟨tl_vi (by omega), nm_r ed ⟨D - c + 1, ?_⟩⟩⟩
  exact tl_t15 (c0 := c) (T0 := T) (n0 := n) hK h3 d3 hsd hhs hG hb (D - c + 1) c n p T _ _ _ _ _ _ _ _ _ _ _ _ _ _ _ _ _ _ _ _ _ _ _ _ _ _ (by omega) (Nat.le_refl c) hc hT hRs hRd hS (fun x => ⟨fun q => ⟨q, fun k hk hk2 => absurd hk (by omega)⟩, fun q => q.1⟩) (fun u' n' p' T' => H u' hd n' p' T')
/-! the state taken over -/
theorem tl_t157 {post : St1 → Prop} {K : tl_K} {d n : Nat} {T y : Nat → Nat} {o18 : Nat → Int32} (hK : tl_KB K) (d3 : d < 3) (hn : n ≤ 48) (hy : ∀ j, j < 4 → y j ≤ 48) (hW : ∀ i, i < n → T i < tl_W K) (hS : tl_SR K T n) :
    ∀ (fu i kp : Nat) (V : Nat → Nat) (Ra Wa : Int32) (a1 a2 a3 a4 a5 a6 a7 a8 a9 a10 a11 a12 a13 a14 a15 a16 a17 a18 a19 a20 a21 a22 a23 a24 : Nat → Int32), n - i < fu → kp ≤ i → i ≤ n → (∀ w, w < tl_W K → a1 w = nI (tl_o K w) ∧ a2 w = nI (tl_t K w)) → (∀ j, j < 4 → a9 (4 * d + j) = nI (y j)) → a16 d = nI n → (∀ j, j < kp → V j < tl_W K ∧ a18 (48 * d + j) = nI (V j)) → (∀ j, i ≤ j → j < n → a18 (48 * d + j) = nI (T j)) → tl_fm 48 d o18 a18 → tl_SR K V kp → (∀ x, tl_MB V kp x ↔ tl_MB T i x ∧ y (tl_o K x) ≤ tl_t K x) →
    (∀ b18 n' T', n' ≤ n → (∀ j, j < n' → T' j < tl_W K ∧ b18 (48 * d + j) = nI (T' j)) → tl_fm 48 d o18 b18 → tl_SR K T' n' → (∀ x, tl_MB T' n' x ↔ tl_MB T n x ∧ y (tl_o K x) ≤ tl_t K x) → post (Ra, Wa, a1, a2, a3, a4, a5, a6, a7, a8, a9, a10, a11, a12, a13, a14, a15, upd a16 d (nI n'), a17, b18, a19, a20, a21, a22, a23, a24)) →
    wX_transferState_157 post (nI d) Ra Wa fu (nI kp) (nI i) a1 a2 a3 a4 a5 a6 a7 a8 a9 a10 a11 a12 a13 a14 a15 a16 a17 a18 a19 a20 a21 a22 a23 a24 := by
  intro fu
  induction fu with
  | zero => intro i kp V Ra Wa a1 a2 a3 a4 a5 a6 a7 a8 a9 a10 a11 a12 a13 a14 a15 a16 a17 a18 a19 a20 a21 a22 a23 a24 hi; omega
  | succ fu ih =>
    intro i kp V Ra Wa a1 a2 a3 a4 a5 a6 a7 a8 a9 a10 a11 a12 a13 a14 a15 a16 a17 a18 a19 a20 a21 a22 a23 a24 hi hk hin hT h9 h16 hV h18 hf hSV hM H
    obtain ⟨kW, kb, _⟩ := hK
    unfold wX_transferState_157
    rw [tl_cl (show d < 1000 by omega)]
    refine ⟨tl_vi (by omega), pk_le n i (fun z => ⟨tl_vi (by omega), nm_e ?_⟩) (fun z => ?_) h16⟩
    · have e : i = n := by omega
      subst e
      exact H a18 kp V hk hV hf hSV hM
    · have hw := hW i z
      obtain ⟨e1, e2⟩ := hT _ hw
      obtain ⟨ho, _, _, _, ht⟩ := kb _ hw
      have e9 := h9 (tl_o K (T i)) (by omega)
      have yb := hy (tl_o K (T i)) (by omega)
      rw [tl_i48, tl_i48, tl_cl (show 48 * d + i < 1000 by omega), tl_cl (show 48 * d + kp < 1000 by omega)]
      refine ⟨tl_vi (by omega), nm_r (h18 i (Nat.le_refl i) z) ?_⟩
      rw [tl_cl (show T i < 1000 by omega), e1, e2, tl_i4, tl_cl (show 4 * d + tl_o K (T i) < 1000 by omega), e9]
      refine ⟨tl_vi (by omega), tl_vi (by omega), tl_vi (by omega), pk_lt (tl_t K (T i)) (y (tl_o K (T i))) (fun g => nm_r (nI_1 i) ?_) (fun g => ⟨tl_vi (by omega), nm_e (nm_r (nI_1 kp) (nm_r (nI_1 i) ?_))⟩)⟩
      · refine ih (i + 1) kp V _ _ _ _ _ _ _ _ _ _ _ _ _ _ _ _ _ _ _ _ _ _ _ _ _ _ (by omega) (by omega) (by omega) hT h9 h16 hV (fun j hj hj2 => h18 j (by omega) hj2) hf hSV (fun x => ?_) H
        rw [hM]
        constructor
        · rintro ⟨⟨j, hj, ej⟩, q2⟩
          exact ⟨⟨j, by omega, ej⟩, q2⟩
        · rintro ⟨⟨j, hj, ej⟩, q2⟩
          by_cases e : j = i
          · rw [← ej, e] at q2
            omega
          · exact ⟨⟨j, by omega, ej⟩, q2⟩
      · refine ih (i + 1) (kp + 1) (tl_up V kp (T i)) _ _ _ _ _ _ _ _ _ _ _ _ _ _ _ _ _ _ _ _ _ _ _ _ _ _ (by omega) (by omega) (by omega) hT h9 h16 (fun j hj => ?_) (fun j hj hj2 => ?_) (tl_fm_u hf (by omega)) (fun x w hxw hw2 => ?_) (fun x => ?_) H
        · by_cases e : j = kp
          · rw [e, tl_up_s, pk_us]
            exact ⟨hw, rfl⟩
          · rw [tl_up_n V _ e, pk_un (by omega)]
            exact hV j (by omega)
        · rw [pk_un (by omega)]
          exact h18 j (by omega) hj2
        · rw [tl_up_n V _ (show x ≠ kp by omega)]
          by_cases e : w = kp
          · rw [e, tl_up_s]
            obtain ⟨⟨j, hj, ej⟩, _⟩ := (hM (V x)).mp ⟨x, by omega, rfl⟩
            rw [← ej]
            exact hS j i hj z
          · rw [tl_up_n V _ e]
            exact hSV x w hxw (by omega)
        · constructor
          · rintro ⟨j, hj, ej⟩
            by_cases e : j = kp
            · rw [e, tl_up_s] at ej
              exact ⟨⟨i, by omega, ej⟩, by rw [← ej]; exact g⟩
            · rw [tl_up_n V _ e] at ej
              obtain ⟨⟨j', hj', ej'⟩, q⟩ := (hM x).mp ⟨j, by omega, ej⟩
              exact ⟨⟨j', by omega, ej'⟩, q⟩
          · rintro ⟨⟨j, hj, ej⟩, q⟩
            by_cases e : j = i
            · exact ⟨kp, by omega, by rw [tl_up_s, ← e]; exact ej⟩
            · obtain ⟨j', hj', ej'⟩ := (hM x).mpr ⟨⟨j, by omega, ej⟩, q⟩
              exact ⟨j', by omega, by rw [tl_up_n V _ (show j' ≠ kp by omega)]; exact ej'⟩
theorem tl_t66 {post : St1 → Prop} {s d D : Nat} {sn y : Nat → Nat} {o8 o9 : Nat → Int32} (s3 : s < 3) (d3 : d < 3) (hsd : s ≠ d) (hb : ∀ j, j < 4 → sn j ≤ 48 ∧ y j ≤ 48) : ∀ (m i : Nat) (Ra Wa : Int32) (a1 a2 a3 a4 a5 a6 a7 a8 a9 a10 a11 a12 a13 a14 a15 a16 a17 a18 a19 a20 a21 a22 a23 a24 : Nat → Int32), i + m = 4 → (∀ j, j < i → a9 (4 * d + j) = nI (y j)) → (∀ j, j < i → a8 (4 * d + j) = nI (max (sn j) (y j))) → (∀ j, i ≤ j → j < 4 → a8 (4 * d + j) = nI (sn j)) →
    (∀ j, j < 4 → a9 (4 * s + j) = nI (y j)) → tl_fm 4 d o8 a8 → tl_fm 4 d o9 a9 → a10 s = nI D →
    (∀ b8 b9, (∀ j, j < 4 → b8 (4 * d + j) = nI (max (sn j) (y j))) → (∀ j, j < 4 → b9 (4 * d + j) = nI (y j)) → tl_fm 4 d o8 b8 → tl_fm 4 d o9 b9 → ∃ fu, wX_transferState_157 post (nI d) Ra Wa fu 0 0 a1 a2 a3 a4 a5 a6 a7 b8 b9 (upd a10 d (nI D)) (upd a11 d (nI D)) a12 a13 a14 a15 a16 a17 a18 a19 a20 a21 a22 a23 a24) →
    wX_transferState_66 post (nI s) (nI d) Ra Wa (m + 1) (nI i) a1 a2 a3 a4 a5 a6 a7 a8 a9 a10 a11 a12 a13 a14 a15 a16 a17 a18 a19 a20 a21 a22 a23 a24 := by
  intro m
  induction m with
  | zero =>
    intro i Ra Wa a1 a2 a3 a4 a5 a6 a7 a8 a9 a10 a11 a12 a13 a14 a15 a16 a17 a18 a19 a20 a21 a22 a23 a24 hi h1 h2 h3 h4 f8 f9 h10 H
    unfold wX_transferState_66
    rw [tl_cl (show s < 1000 by omega), tl_cl (show d < 1000 by omega), h10]
    refine pk_le 4 i (fun _ => ⟨tl_vi (by omega), tl_vi (by omega), nm_e ⟨tl_vi (by omega), tl_vi (by omega), nm_r (e' := upd a11 d (nI D)) (by rw [pk_un hsd, h10]) ?_⟩⟩) (fun z => absurd z (by omega))
    exact H a8 a9 (fun j hj => h2 j (by omega)) (fun j hj => h1 j (by omega)) f8 f9
  | succ m ih =>
    intro i Ra Wa a1 a2 a3 a4 a5 a6 a7 a8 a9 a10 a11 a12 a13 a14 a15 a16 a17 a18 a19 a20 a21 a22 a23 a24 hi h1 h2 h3 h4 f8 f9 h10 H
    have e8 := h3 i (Nat.le_refl i) (by omega)
    have e9 := h4 i (by omega)
    have bb := hb i (by omega)
    unfold wX_transferState_66
    rw [tl_i4, tl_i4, tl_cl (show 4 * s + i < 1000 by omega), tl_cl (show 4 * d + i < 1000 by omega)]
    refine pk_le 4 i (fun z => absurd z (by omega)) (fun _ => ⟨tl_vi (by omega), nm_r e9 ⟨tl_vi (by omega), nm_e ⟨tl_vi (by omega), pk_le (y i) (sn i) (fun z => nm_r (nI_1 i) ?_) (fun z => ⟨tl_vi (by omega), nm_e (nm_r (nI_1 i) ?_)⟩) rfl e8⟩⟩⟩)
    · refine ih (i + 1) _ _ _ _ _ _ _ _ _ _ _ _ _ _ _ _ _ _ _ _ _ _ _ _ _ _ (by omega) (fun j hj => ?_) (fun j hj => ?_) (fun j hj hj2 => h3 j (by omega) hj2) (fun j hj => ?_) f8 (tl_fm_u f9 (by omega)) h10 H
      · by_cases q : j = i
        · rw [q, pk_us]
        · rw [pk_un (by omega)]; exact h1 j (by omega)
      · by_cases q : j = i
        · rw [q, e8, Nat.max_eq_left z]
        · exact h2 j (by omega)
      · rw [pk_un (by omega)]; exact h4 j hj
    · refine ih (i + 1) _ _ _ _ _ _ _ _ _ _ _ _ _ _ _ _ _ _ _ _ _ _ _ _ _ _ (by omega) (fun j hj => ?_) (fun j hj => ?_) (fun j hj hj2 => ?_) (fun j hj => ?_) (tl_fm_u f8 (by omega)) (tl_fm_u f9 (by omega)) h10 H
      · by_cases q : j = i
        · rw [q, pk_us]
        · rw [pk_un (by omega)]; exact h1 j (by omega)
      · by_cases q : j = i
        · rw [q, pk_us, Nat.max_eq_right (by omega)]
        · rw [pk_un (by omega)]; exact h2 j (by omega)
      · rw [pk_un (by omega)]; exact h3 j (by omega) hj2
      · rw [pk_un (by omega)]; exact h4 j hj
theorem tl_t8 {post : St1 → Prop} {s d : Nat} {o14 o15 : Nat → Int32} (s3 : s < 3) (d3 : d < 3) (hsd : s ≠ d) : ∀ (m i : Nat) (Ra Wa : Int32) (a1 a2 a3 a4 a5 a6 a7 a8 a9 a10 a11 a12 a13 a14 a15 a16 a17 a18 a19 a20 a21 a22 a23 a24 : Nat → Int32), i + m = 8 → (∀ j, j < i → a14 (8 * d + j) = a14 (8 * s + j)) → (∀ j, j < i → a15 (8 * d + j) = a14 (8 * s + j)) → tl_fm 8 d o14 a14 → tl_fm 8 d o15 a15 →
    (∀ b14 b15, (∀ j, j < 8 → b14 (8 * d + j) = o14 (8 * s + j)) → (∀ j, j < 8 → b15 (8 * d + j) = o14 (8 * s + j)) → tl_fm 8 d o14 b14 → tl_fm 8 d o15 b15 → ∃ fu, wX_transferState_66 post (nI s) (nI d) Ra Wa fu 0 a1 a2 a3 a4 a5 a6 a7 a8 a9 a10 a11 a12 a13 b14 b15 a16 a17 a18 a19 a20 a21 a22 a23 a24) →
    wX_transferState_8 post (nI s) (nI d) Ra Wa (m + 1) (nI i) a1 a2 a3 a4 a5 a6 a7 a8 a9 a10 a11 a12 a13 a14 a15 a16 a17 a18 a19 a20 a21 a22 a23 a24 := by
  intro m
  induction m with
  | zero =>
    intro i Ra Wa a1 a2 a3 a4 a5 a6 a7 a8 a9 a10 a11 a12 a13 a14 a15 a16 a17 a18 a19 a20 a21 a22 a23 a24 hi h1 h2 f14 f15 H
    unfold wX_transferState_8
    refine pk_le 8 i (fun _ => H a14 a15 (fun j hj => ?_) (fun j hj => ?_) f14 f15) (fun z => absurd z (by omega))
    · rw [h1 j (by omega), f14 _ (by omega)]
    · rw [h2 j (by omega), f14 _ (by omega)]
  | succ m ih =>
    intro i Ra Wa a1 a2 a3 a4 a5 a6 a7 a8 a9 a10 a11 a12 a13 a14 a15 a16 a17 a18 a19 a20 a21 a22 a23 a24 hi h1 h2 f14 f15 H
    unfold wX_transferState_8
    rw [tl_i8, tl_i8, tl_cl (show 8 * s + i < 1000 by omega), tl_cl (show 8 * d + i < 1000 by omega)]
    refine pk_le 8 i (fun z => absurd z (by omega)) (fun _ => ⟨tl_vi (by omega), tl_vi (by omega), nm_e ⟨tl_vi (by omega), tl_vi (by omega), nm_e (nm_r (nI_1 i) ?_)⟩⟩)
    refine ih (i + 1) _ _ _ _ _ _ _ _ _ _ _ _ _ _ _ _ _ _ _ _ _ _ _ _ _ _ (by omega) (fun j hj => ?_) (fun j hj => ?_) (tl_fm_u f14 (by omega)) (tl_fm_u f15 (by omega)) H
    · rw [pk_un (show 8 * s + j ≠ 8 * d + i by omega)]
      by_cases q : j = i
      · rw [q, pk_us]
      · rw [pk_un (by omega)]; exact h1 j (by omega)
    · rw [pk_un (show 8 * s + j ≠ 8 * d + i by omega), pk_un (show 8 * s + i ≠ 8 * d + i by omega)]
      by_cases q : j = i
      · rw [q, pk_us]
      · rw [pk_un (by omega)]; exact h2 j (by omega)
theorem tl_tst {post : St1 → Prop} {K : tl_K} {s d D hs ns qs c hd n p : Nat} {Ts ss T sn : Nat → Nat} {Ra Wa : Int32} {a1 a2 a3 a4 a5 a6 a7 a8 a9 a10 a11 a12 a13 a14 a15 a16 a17 a18 a19 a20 a21 a22 a23 a24 : Nat → Int32} (hK : tl_KB K) (s3 : s < 3) (d3 : d < 3) (hsd : s ≠ d) (hb : ∀ j, j < 4 → sn j ≤ 48 ∧ tl_ct K j D ≤ 48)
    (hT : tl_TB K (Ra, Wa, a1, a2, a3, a4, a5, a6, a7, a8, a9, a10, a11, a12, a13, a14, a15, a16, a17, a18, a19, a20, a21, a22, a23, a24)) (hRs : tl_RC K s D hs ns qs qs Ts ss (Ra, Wa, a1, a2, a3, a4, a5, a6, a7, a8, a9, a10, a11, a12, a13, a14, a15, a16, a17, a18, a19, a20, a21, a22, a23, a24)) (hRd : tl_RC K d c hd n p p T sn (Ra, Wa, a1, a2, a3, a4, a5, a6, a7, a8, a9, a10, a11, a12, a13, a14, a15, a16, a17, a18, a19, a20, a21, a22, a23, a24)) (hS : tl_SR K T n)
    (H : ∀ u' h' n' p' T', tl_FR d (Ra, Wa, a1, a2, a3, a4, a5, a6, a7, a8, a9, a10, a11, a12, a13, a14, a15, a16, a17, a18, a19, a20, a21, a22, a23, a24) u' → tl_RC K d D h' n' p' p' T' (fun j => max (sn j) (tl_ct K j D)) u' → tl_SR K T' n' → (∀ x, tl_MB T' n' x ↔ tl_MB T n x ∧ tl_ct K (tl_o K x) D ≤ tl_t K x) → post u') :
    wpX_transferState post (Ra, Wa, a1, a2, a3, a4, a5, a6, a7, a8, a9, a10, a11, a12, a13, a14, a15, a16, a17, a18, a19, a20, a21, a22, a23, a24) (nI s) (nI d) := by
  unfold wpX_transferState
  refine tl_undo (q := 0) d3 (by omega) hRd (fun u' hF hR' => ⟨9, ?_⟩)
  obtain ⟨Rb, Wb, b1, b2, b3, b4, b5, b6, b7, b8, b9, b10, b11, b12, b13, b14, b15, b16, b17, b18, b19, b20, b21, b22, b23, b24⟩ := u'
  rw [Nat.min_zero] at hR'
  have hRs' := tl_RC_fr hsd hRs hF
  have hT' := tl_TB_fr hT hF
  obtain ⟨⟨z1, z2, z3, z4⟩, h8, h9, h10, h11, h13, h14, h15, h16, h17, h18, hU⟩ := hR'
  obtain ⟨⟨y1, y2, y3, y4⟩, g8, g9, g10, g11, g13, g14, g15, g16, g17, g18, gU⟩ := hRs'
  refine tl_t8 s3 d3 hsd 8 0 _ _ _ _ _ _ _ _ _ _ _ _ _ _ _ _ _ _ _ _ _ _ _ _ _ _ rfl (fun j hj => absurd hj (by omega)) (fun j hj => absurd hj (by omega)) (tl_fm_rf _ _ _) (tl_fm_rf _ _ _) (fun c14 c15 p14 p15 f14 f15 => ⟨5, ?_⟩)
  refine tl_t66 (D := D) (sn := sn) (y := fun j => tl_ct K j D) s3 d3 hsd hb 4 0 _ _ _ _ _ _ _ _ _ _ _ _ _ _ _ _ _ _ _ _ _ _ _ _ _ _ rfl (fun j hj => absurd hj (by omega)) (fun j hj => absurd hj (by omega)) (fun j _ hj => h8 j hj) g9 (tl_fm_rf _ _ _) (tl_fm_rf _ _ _) g10 (fun c8 c9 p8 p9 f8 f9 => ⟨n + 1, ?_⟩)
  refine tl_t157 (T := T) (y := fun j => tl_ct K j D) (o18 := b18) hK d3 z4 (fun j hj => (hb j hj).2) (fun i hi => (h18 i hi).1) hS (n + 1) 0 0 T _ _ _ _ _ _ _ _ _ _ _ _ _ _ _ _ _ _ _ _ _ _ _ _ _ _ (by omega) (Nat.le_refl 0) (by omega) (fun w hw => ⟨(hT'.2.2 w hw).1, (hT'.2.2 w hw).2.1⟩) p9 h16 (fun j hj => absurd hj (by omega)) (fun j _ hj => (h18 j hj).2) (tl_fm_rf _ _ _) (fun i j hij hj => absurd hj (by omega)) (fun x => ⟨fun ⟨i, hi, _⟩ => absurd hi (by omega), fun ⟨⟨i, hi, _⟩, _⟩ => absurd hi (by omega)⟩) (fun c18 n' T' hn' q18 f18 hS' hM' => ?_)
  refine H _ D n' 0 T' (tl_FR_tr hF ⟨rfl, rfl, rfl, rfl, rfl, rfl, rfl, rfl, rfl, rfl, f8, f9, tl_fm_u (tl_fm_rf _ _ _) (by omega), tl_fm_u (tl_fm_rf _ _ _) (by omega), tl_fm_rf _ _ _, f14, f15, tl_fm_u (tl_fm_rf _ _ _) (by omega), tl_fm_rf _ _ _, f18, tl_fm_rf _ _ _, tl_fm_rf _ _ _, tl_fm_rf _ _ _, tl_fm_rf _ _ _⟩) ⟨⟨y1, Nat.le_refl D, by omega, by omega⟩, p8, p9, pk_us, pk_us, fun i hi hi2 => absurd hi (by omega), fun j hj => ?_, fun j hj => ?_, pk_us, h17, q18, fun i hi => absurd hi (by omega)⟩ hS' hM'
  · rw [p14 j hj]; exact g14 j hj
  · rw [p15 j hj]; exact g14 j hj
/-! a meeting's last stages -/
theorem tl_b193 {post : Int32 → St1 → Prop} {s d ks kd : Nat} {x3 : Int32} {sn y : Nat → Nat} {o8 : Nat → Int32} (s3 : s < 3) (d3 : d < 3) (hsd : s ≠ d) (hb : ∀ j, j < 4 → sn j ≤ 48 ∧ y j ≤ 48) (hks : ks ≤ 48) (hkd : kd ≤ 48) : ∀ (m i : Nat) (Ra Wa : Int32) (a1 a2 a3 a4 a5 a6 a7 a8 a9 a10 a11 a12 a13 a14 a15 a16 a17 a18 a19 a20 a21 a22 a23 a24 : Nat → Int32), i + m = 4 → (∀ j, j < i → a8 (4 * d + j) = nI (max (sn j) (y j))) → (∀ j, i ≤ j → j < 4 → a8 (4 * d + j) = nI (sn j)) →
    (∀ j, j < 4 → a8 (4 * s + j) = nI (y j)) → tl_fm 4 d o8 a8 → a7 s = nI ks → a7 d = nI kd →
    (∀ b7 b8, b7 d = nI (max kd ks) → tl_fm 1 d a7 b7 → (∀ j, j < 4 → b8 (4 * d + j) = nI (max (sn j) (y j))) → tl_fm 4 d o8 b8 → wX_bring_274 post (nI d) x3 Ra Wa a1 a2 a3 a4 a5 a6 b7 b8 a9 a10 a11 a12 a13 a14 a15 a16 a17 a18 a19 a20 a21 a22 a23 a24) →
    wX_bring_193 post (nI s) (nI d) x3 Ra Wa (m + 1) (nI i) a1 a2 a3 a4 a5 a6 a7 a8 a9 a10 a11 a12 a13 a14 a15 a16 a17 a18 a19 a20 a21 a22 a23 a24 := by
  intro m
  induction m with
  | zero =>
    intro i Ra Wa a1 a2 a3 a4 a5 a6 a7 a8 a9 a10 a11 a12 a13 a14 a15 a16 a17 a18 a19 a20 a21 a22 a23 a24 hi h2 h3 h4 f8 h7s h7d H
    unfold wX_bring_193
    rw [tl_cl (show s < 1000 by omega), tl_cl (show d < 1000 by omega)]
    refine pk_le 4 i (fun _ => ⟨tl_vi (by omega), tl_vi (by omega), pk_le ks kd (fun z => ?_) (fun z => ⟨tl_vi (by omega), tl_vi (by omega), nm_e ?_⟩) h7s h7d⟩) (fun z => absurd z (by omega))
    · exact H a7 a8 (by rw [h7d, Nat.max_eq_left z]) (tl_fm_rf _ _ _) (fun j hj => h2 j (by omega)) f8
    · exact H _ a8 (by rw [pk_us, h7s, Nat.max_eq_right (by omega)]) (tl_fm_u (tl_fm_rf _ _ _) (by omega)) (fun j hj => h2 j (by omega)) f8
  | succ m ih =>
    intro i Ra Wa a1 a2 a3 a4 a5 a6 a7 a8 a9 a10 a11 a12 a13 a14 a15 a16 a17 a18 a19 a20 a21 a22 a23 a24 hi h2 h3 h4 f8 h7s h7d H
    have e8 := h3 i (Nat.le_refl i) (by omega)
    have e9 := h4 i (by omega)
    have bb := hb i (by omega)
    unfold wX_bring_193
    rw [tl_i4, tl_i4, tl_cl (show 4 * s + i < 1000 by omega), tl_cl (show 4 * d + i < 1000 by omega)]
    refine pk_le 4 i (fun z => absurd z (by omega)) (fun _ => ⟨tl_vi (by omega), nm_r e9 ⟨tl_vi (by omega), pk_le (y i) (sn i) (fun z => nm_r (nI_1 i) ?_) (fun z => ⟨tl_vi (by omega), nm_e (nm_r (nI_1 i) ?_)⟩) rfl e8⟩⟩)
    · refine ih (i + 1) _ _ _ _ _ _ _ _ _ _ _ _ _ _ _ _ _ _ _ _ _ _ _ _ _ _ (by omega) (fun j hj => ?_) (fun j hj hj2 => h3 j (by omega) hj2) h4 f8 h7s h7d H
      by_cases q : j = i
      · rw [q, e8, Nat.max_eq_left z]
      · exact h2 j (by omega)
    · refine ih (i + 1) _ _ _ _ _ _ _ _ _ _ _ _ _ _ _ _ _ _ _ _ _ _ _ _ _ _ (by omega) (fun j hj => ?_) (fun j hj hj2 => ?_) (fun j hj => ?_) (tl_fm_u f8 (by omega)) h7s h7d H
      · by_cases q : j = i
        · rw [q, pk_us, Nat.max_eq_right (by omega)]
        · rw [pk_un (by omega)]; exact h2 j (by omega)
      · rw [pk_un (by omega)]; exact h3 j (by omega) hj2
      · rw [pk_un (by omega)]; exact h4 j hj
theorem tl_b126 {post : Int32 → St1 → Prop} {K : tl_K} {s d cs hs ns qs c h n0 : Nat} {x3 : Int32} {Ts ss T0 sn : Nat → Nat} (hK : tl_KB K) (s3 : s < 3) (d3 : d < 3) (hsd : s ≠ d) (hb : ∀ j, j < 4 → sn j ≤ 48) (hSs : tl_SR K Ts ns) (h0 : ∀ x, tl_MB T0 n0 x → tl_t K x < sn (tl_o K x)) :
    ∀ (fu i n p : Nat) (T : Nat → Nat) (Ra Wa : Int32) (a1 a2 a3 a4 a5 a6 a7 a8 a9 a10 a11 a12 a13 a14 a15 a16 a17 a18 a19 a20 a21 a22 a23 a24 : Nat → Int32), ns - i < fu → i ≤ ns → tl_TB K (Ra, Wa, a1, a2, a3, a4, a5, a6, a7, a8, a9, a10, a11, a12, a13, a14, a15, a16, a17, a18, a19, a20, a21, a22, a23, a24) → tl_RC K s cs hs ns qs qs Ts ss (Ra, Wa, a1, a2, a3, a4, a5, a6, a7, a8, a9, a10, a11, a12, a13, a14, a15, a16, a17, a18, a19, a20, a21, a22, a23, a24) → tl_RC K d c h n p p T sn (Ra, Wa, a1, a2, a3, a4, a5, a6, a7, a8, a9, a10, a11, a12, a13, a14, a15, a16, a17, a18, a19, a20, a21, a22, a23, a24) → tl_SR K T n → (∀ x, tl_MB T n x ↔ tl_MB T0 n0 x ∨ (tl_MB Ts i x ∧ sn (tl_o K x) ≤ tl_t K x)) →
    (∀ (Rb Wb : Int32) (b1 b2 b3 b4 b5 b6 b7 b8 b9 b10 b11 b12 b13 b14 b15 b16 b17 b18 b19 b20 b21 b22 b23 b24 : Nat → Int32) n' p' T', tl_FR d (Ra, Wa, a1, a2, a3, a4, a5, a6, a7, a8, a9, a10, a11, a12, a13, a14, a15, a16, a17, a18, a19, a20, a21, a22, a23, a24) (Rb, Wb, b1, b2, b3, b4, b5, b6, b7, b8, b9, b10, b11, b12, b13, b14, b15, b16, b17, b18, b19, b20, b21, b22, b23, b24) → tl_RC K d c h n' p' p' T' sn (Rb, Wb, b1, b2, b3, b4, b5, b6, b7, b8, b9, b10, b11, b12, b13, b14, b15, b16, b17, b18, b19, b20, b21, b22, b23, b24) → tl_SR K T' n' → (∀ x, tl_MB T' n' x ↔ tl_MB T0 n0 x ∨ (tl_MB Ts ns x ∧ sn (tl_o K x) ≤ tl_t K x)) → ∃ fu, wX_bring_193 post (nI s) (nI d) x3 Rb Wb fu 0 b1 b2 b3 b4 b5 b6 b7 b8 b9 b10 b11 b12 b13 b14 b15 b16 b17 b18 b19 b20 b21 b22 b23 b24) →
    wX_bring_126 post (nI s) (nI d) x3 fu (nI i) Ra Wa a1 a2 a3 a4 a5 a6 a7 a8 a9 a10 a11 a12 a13 a14 a15 a16 a17 a18 a19 a20 a21 a22 a23 a24 := by
  intro fu
  induction fu with
  | zero => intro i n p T Ra Wa a1 a2 a3 a4 a5 a6 a7 a8 a9 a10 a11 a12 a13 a14 a15 a16 a17 a18 a19 a20 a21 a22 a23 a24 hi; omega
  | succ fu ih =>
    intro i n p T Ra Wa a1 a2 a3 a4 a5 a6 a7 a8 a9 a10 a11 a12 a13 a14 a15 a16 a17 a18 a19 a20 a21 a22 a23 a24 hi hin hT hRs hRd hS hM H
    have hRs0 := hRs
    have hRd0 := hRd
    have hT0 := hT
    have hK0 := hK
    obtain ⟨⟨z1, z2, z3, z4⟩, h8, h9, h10, h11, h13, h14, h15, h16, h17, h18, hU⟩ := hRd
    obtain ⟨⟨y1, y2, y3, y4⟩, g8, g9, g10, g11, g13, g14, g15, g16, g17, g18, gU⟩ := hRs
    obtain ⟨_, _, t⟩ := hT
    obtain ⟨kW, kb, _⟩ := hK
    unfold wX_bring_126
    rw [tl_cl (show s < 1000 by omega)]
    refine ⟨tl_vi (by omega), pk_le ns i (fun z => ?_) (fun z => ?_) g16⟩
    · have e : i = ns := by omega
      subst e
      exact H _ _ _ _ _ _ _ _ _ _ _ _ _ _ _ _ _ _ _ _ _ _ _ _ _ _ n p T (tl_FR_rf _ _) hRd0 hS hM
    · obtain ⟨hw, e18⟩ := g18 i z
      obtain ⟨e1, e2, _⟩ := t _ hw
      obtain ⟨ho, _, _, _, ht⟩ := kb _ hw
      have e8 := h8 (tl_o K (Ts i)) (by omega)
      have bb := hb (tl_o K (Ts i)) (by omega)
      rw [tl_i48, tl_cl (show 48 * s + i < 1000 by omega)]
      refine ⟨tl_vi (by omega), nm_r e18 ?_⟩
      rw [tl_cl (show Ts i < 1000 by omega), e1, e2, tl_i4, tl_cl (show 4 * d + tl_o K (Ts i) < 1000 by omega), e8]
      refine ⟨tl_vi (by omega), tl_vi (by omega), tl_vi (by omega), pk_lt (tl_t K (Ts i)) (sn (tl_o K (Ts i))) (fun g => nm_r (nI_1 i) ?_) (fun g => ?_)⟩
      · refine ih (i + 1) n p T _ _ _ _ _ _ _ _ _ _ _ _ _ _ _ _ _ _ _ _ _ _ _ _ _ _ (by omega) (by omega) hT0 hRs0 hRd0 hS (fun x => ?_) H
        rw [hM]
        constructor
        · rintro (q | ⟨⟨j, hj, ej⟩, q2⟩)
          · exact Or.inl q
          · exact Or.inr ⟨⟨j, by omega, ej⟩, q2⟩
        · rintro (q | ⟨⟨j, hj, ej⟩, q2⟩)
          · exact Or.inl q
          · by_cases e : j = i
            · rw [← ej, e] at q2
              omega
            · exact Or.inr ⟨⟨j, by omega, ej⟩, q2⟩
      · have nm : ¬ tl_MB T n (Ts i) := by
          intro q
          rcases (hM _).mp q with q | ⟨⟨j, hj, ej⟩, _⟩
          · have := h0 _ q
            omega
          · have := hSs j i hj z
            rw [ej] at this
            exact tl_bf_ir this
        refine tl_ins hK0 d3 hT0 hRd0 hS hw nm (fun u' p' T' hF hR' hS' hM' => ?_)
        obtain ⟨Rb, Wb, b1, b2, b3, b4, b5, b6, b7, b8, b9, b10, b11, b12, b13, b14, b15, b16, b17, b18, b19, b20, b21, b22, b23, b24⟩ := u'
        refine nm_r (nI_1 i) ?_
        refine ih (i + 1) (n + 1) p' T' _ _ _ _ _ _ _ _ _ _ _ _ _ _ _ _ _ _ _ _ _ _ _ _ _ _ (by omega) (by omega) (tl_TB_fr hT0 hF) (tl_RC_fr hsd hRs0 hF) hR' hS' (fun x => ?_) (fun Rc Wc c1 c2 c3 c4 c5 c6 c7 c8 c9 c10 c11 c12 c13 c14 c15 c16 c17 c18 c19 c20 c21 c22 c23 c24 n2 p2 T2 hF2 => H Rc Wc c1 c2 c3 c4 c5 c6 c7 c8 c9 c10 c11 c12 c13 c14 c15 c16 c17 c18 c19 c20 c21 c22 c23 c24 n2 p2 T2 (tl_FR_tr hF hF2))
        rw [hM', hM]
        constructor
        · rintro ((q | ⟨⟨j, hj, ej⟩, q2⟩) | q)
          · exact Or.inl q
          · exact Or.inr ⟨⟨j, by omega, ej⟩, q2⟩
          · exact Or.inr ⟨⟨i, by omega, q.symm⟩, by rw [q]; exact g⟩
        · rintro (q | ⟨⟨j, hj, ej⟩, q2⟩)
          · exact Or.inl (Or.inl q)
          · by_cases e : j = i
            · exact Or.inr (by rw [← ej, e])
            · exact Or.inl (Or.inr ⟨⟨j, by omega, ej⟩, q2⟩)
/-- behind the transfer -/
def tl_M1 (K : tl_K) (ck : Nat → Nat) (sn : Nat → Nat → Nat) (dn : Nat → Nat) (d c : Nat) (u : St1) : Prop :=
  tl_TB K u ∧ tl_CK ck u ∧ (∀ r, r < 3 → r ≠ d → ∃ h n T, tl_RC K r (dn r) h n n n T (sn r) u ∧ tl_SR K T n ∧ ∀ x, tl_MB T n x ↔ tl_TS K (sn r) (dn r) x) ∧
  ∃ h n p T, tl_RC K d c h n p p T (fun j => max (sn d j) (tl_ct K j c)) u ∧ tl_SR K T n ∧ ∀ x, tl_MB T n x ↔ tl_TS K (sn d) c x
theorem tl_brest {post : Int32 → St1 → Prop} {K : tl_K} {ck : Nat → Nat} {sn : Nat → Nat → Nat} {dn : Nat → Nat} {s d : Nat} {x3 : Int32} {Ra Wa : Int32} {a1 a2 a3 a4 a5 a6 a7 a8 a9 a10 a11 a12 a13 a14 a15 a16 a17 a18 a19 a20 a21 a22 a23 a24 : Nat → Int32} (s3 : s < 3) (d3 : d < 3) (hsd : s ≠ d) (hP : tl_PV K ck sn dn) (hM : tl_M1 K ck sn dn d (max (dn d) (dn s)) (Ra, Wa, a1, a2, a3, a4, a5, a6, a7, a8, a9, a10, a11, a12, a13, a14, a15, a16, a17, a18, a19, a20, a21, a22, a23, a24))
    (H : ∀ x u', tl_MT K (tl_mx ck s d) (tl_m2 sn s d) (tl_mx dn s d) u' → post x u') : ∃ fu, wX_bring_126 post (nI s) (nI d) x3 fu 0 Ra Wa a1 a2 a3 a4 a5 a6 a7 a8 a9 a10 a11 a12 a13 a14 a15 a16 a17 a18 a19 a20 a21 a22 a23 a24 := by
  have hK := tl_PV_KB hP
  have hP2 := tl_PV_bring hP s3 d3
  obtain ⟨hT, hC, hO, h, n, p, T, hRd, hS, hMd⟩ := hM
  obtain ⟨hs, ns, Ts, hRs, hSs, hMs⟩ := hO s s3 hsd
  have d0 := hP.2.2.2.2.2.2.2.1
  have c0 : max (dn d) (dn s) ≤ dn 0 := by
    have q1 := d0 s s3
    have q2 := d0 d d3
    omega
  have p11 := hP.2.2.2.2.2.2.2.2.2.2
  have ctb : ∀ j, j < 4 → tl_ct K j (max (dn d) (dn s)) ≤ max (sn d j) (sn s j) := by
    intro j hj
    by_cases y : j < 3
    · have q1 := p11 d d3 j y
      have q2 := p11 s s3 j y
      rcases Nat.le_total (dn d) (dn s) with z | z
      · rw [Nat.max_eq_right z]; omega
      · rw [Nat.max_eq_left z]; omega
    · have e : j = 3 := by omega
      rw [e, tl_PV_c3 hP c0]
      omega
  have snb : ∀ r, r < 3 → ∀ j, j < 4 → sn r j ≤ 48 := fun r hr j hj => tl_PV_sn hP hr hj
  have bnd : ∀ j, j < 4 → max (sn d j) (tl_ct K j (max (dn d) (dn s))) ≤ 48 := by
    intro j hj
    have q1 := snb d d3 j hj
    have q2 := tl_PV_c48 hP c0 hj
    omega
  refine ⟨ns + 1, ?_⟩
  refine tl_b126 (T0 := T) (n0 := n) hK s3 d3 hsd bnd hSs (fun x q => ?_) (ns + 1) 0 n p T _ _ _ _ _ _ _ _ _ _ _ _ _ _ _ _ _ _ _ _ _ _ _ _ _ _ (by omega) (by omega) hT hRs hRd hS (fun x => ?_) (fun Rb Wb b1 b2 b3 b4 b5 b6 b7 b8 b9 b10 b11 b12 b13 b14 b15 b16 b17 b18 b19 b20 b21 b22 b23 b24 n' p' T' hF hR' hS' hM' => ⟨5, ?_⟩)
  · have := ((hMd x).mp q).2.2
    show _ < max _ _
    omega
  · exact ⟨fun q => Or.inl q, fun q => q.elim id (fun ⟨⟨j, hj, _⟩, _⟩ => absurd hj (by omega))⟩
  · have hT' := tl_TB_fr hT hF
    have hC' := tl_CK_fr hC hF
    have hRs' := tl_RC_fr hsd hRs hF
    obtain ⟨⟨z1, z2, z3, z4⟩, h8, h9, h10, h11, h13, h14, h15, h16, h17, h18, hU⟩ := hR'
    obtain ⟨⟨y1, y2, y3, y4⟩, g8, g9, g10, g11, g13, g14, g15, g16, g17, g18, gU⟩ := hRs'
    have ckb := fun r hr => (hP.2.2.2.1 r hr).1
    have kW := hK.1
    refine tl_b193 (sn := fun j => max (sn d j) (tl_ct K j (max (dn d) (dn s)))) (y := sn s) s3 d3 hsd (fun j hj => ⟨bnd j hj, snb s s3 j hj⟩) (show ck s ≤ 48 by have := ckb s s3; omega) (show ck d ≤ 48 by have := ckb d d3; omega) 4 0 _ _ _ _ _ _ _ _ _ _ _ _ _ _ _ _ _ _ _ _ _ _ _ _ _ _ rfl (fun j hj => absurd hj (by omega)) (fun j _ hj => h8 j hj) g8 (tl_fm_rf _ _ _) (hC' s s3) (hC' d d3) (fun c7 c8 q7 f7 q8 f8 => ?_)
    have e8 : ∀ j, j < 4 → c8 (4 * d + j) = nI (tl_m2 sn s d d j) := by
      intro j hj
      rw [q8 j hj, tl_m2_ss]
      have := ctb j hj
      congr 1
      omega
    unfold wX_bring_274
    have hRd2 : tl_RC K d (tl_mx dn s d d) h n' p' p' T' (tl_m2 sn s d d) (Rb, Wb, b1, b2, b3, b4, b5, b6, c7, c8, b9, b10, b11, b12, b13, b14, b15, b16, b17, b18, b19, b20, b21, b22, b23, b24) := by
      rw [tl_mx_s]
      exact ⟨⟨z1, z2, z3, z4⟩, e8, h9, h10, h11, h13, h14, h15, h16, h17, h18, hU⟩
    have hT2 : tl_TB K (Rb, Wb, b1, b2, b3, b4, b5, b6, c7, c8, b9, b10, b11, b12, b13, b14, b15, b16, b17, b18, b19, b20, b21, b22, b23, b24) := hT'
    refine tl_aall hK d3 hT2 hRd2 (fun u' hF2 hR2 => ?_)
    obtain ⟨Re, We, e1, e2, e3, e4, e5, e6, e7, e8, e9, e10, e11, e12, e13, e14, e15, e16, e17, e18, e19, e20, e21, e22, e23, e24⟩ := u'
    refine H _ _ ⟨hP2, tl_TB_fr hT2 hF2, tl_CK_fr (u := (Rb, Wb, b1, b2, b3, b4, b5, b6, c7, c8, b9, b10, b11, b12, b13, b14, b15, b16, b17, b18, b19, b20, b21, b22, b23, b24)) (fun r hr => ?_) hF2, fun r hr => ?_⟩
    · by_cases y : r = d
      · rw [y, q7, tl_mx_s]
      · rw [tl_mx_n ck s y, ← f7 r (by omega)]
        exact hC' r hr
    · by_cases y : r = d
      · subst y
        refine ⟨h, n', T', hR2, hS', fun x => ?_⟩
        rw [hM', hMd, hMs, tl_mx_s, tl_m2_s]
        unfold tl_TS
        have cm1 := tl_ct_mo K (tl_o K x) (show dn s ≤ max (dn r) (dn s) by omega)
        constructor
        · rintro (⟨q1, q2, q3⟩ | ⟨⟨q1, q2, q3⟩, q4⟩)
          · refine ⟨q1, q2, ?_⟩
            show _ < max _ _
            omega
          · have q5 : max (sn r (tl_o K x)) (tl_ct K (tl_o K x) (max (dn r) (dn s))) ≤ tl_t K x := q4
            refine ⟨q1, by omega, ?_⟩
            show _ < max _ _
            omega
        · rintro ⟨q1, q2, q3⟩
          have q5 : tl_t K x < max (sn r (tl_o K x)) (sn s (tl_o K x)) := q3
          by_cases w : tl_t K x < sn r (tl_o K x)
          · exact Or.inl ⟨q1, q2, w⟩
          · refine Or.inr ⟨⟨q1, by omega, by omega⟩, ?_⟩
            show max _ _ ≤ _
            omega
      · obtain ⟨h1, n1, T1, r1, r2, r3⟩ := hO r hr y
        refine ⟨h1, n1, T1, ?_, r2, fun x => ?_⟩
        · rw [tl_mx_n dn s y, tl_m2_n sn s y]
          refine tl_RC_fr y ?_ hF2
          have r1' := tl_RC_fr y r1 hF
          obtain ⟨w0, w8, w9, w10, w11, w13, w14, w15, w16, w17, w18, wU⟩ := r1'
          refine ⟨w0, fun j hj => ?_, w9, w10, w11, w13, w14, w15, w16, w17, w18, wU⟩
          rw [← f8 _ (by omega)]
          exact w8 j hj
        · rw [tl_mx_n dn s y, tl_m2_n sn s y]
          exact r3 x
theorem tl_bad {post : Int32 → Prop} {Ra Wa : Int32} {a1 a2 a3 a4 a5 a6 a7 a8 a9 a10 a11 a12 a13 a14 a15 a16 a17 a18 a19 a20 a21 a22 a23 a24 : Nat → Int32} {x : Nat} (hx : x < 1000) (hR : Ra = nI 3) (H0 : x < 3 → post 0) (H1 : 3 ≤ x → post 1) : wpX_bad post (Ra, Wa, a1, a2, a3, a4, a5, a6, a7, a8, a9, a10, a11, a12, a13, a14, a15, a16, a17, a18, a19, a20, a21, a22, a23, a24) (nI x) := by
  unfold wpX_bad
  exact pk_lt x 0 (fun z => absurd z (by omega)) (fun _ => pk_lt x 3 H0 H1 rfl hR)
theorem tl_b31 {post : Int32 → St1 → Prop} {s d : Nat} {Ra Wa : Int32} {a1 a2 a3 a4 a5 a6 a7 a8 a9 a10 a11 a12 a13 a14 a15 a16 a17 a18 a19 a20 a21 a22 a23 a24 : Nat → Int32} (s3 : s < 3) (d3 : d < 3) (H : ∀ x3, wX_bring_31 post (nI s) (nI d) Ra Wa a1 a2 a3 a4 a5 a6 a7 a8 a9 a10 a11 a12 a13 a14 a15 a16 a17 a18 a19 a20 a21 a22 a23 a24 1 x3 (nI 4)) : ∀ m i x3, i + m = 4 → wX_bring_31 post (nI s) (nI d) Ra Wa a1 a2 a3 a4 a5 a6 a7 a8 a9 a10 a11 a12 a13 a14 a15 a16 a17 a18 a19 a20 a21 a22 a23 a24 (m + 1) x3 (nI i) := by
  intro m
  induction m with
  | zero =>
    intro i x3 hi
    have e : i = 4 := by omega
    rw [e]
    exact H x3
  | succ m ih =>
    intro i x3 hi
    unfold wX_bring_31
    rw [tl_i4, tl_i4]
    refine pk_le 4 i (fun z => absurd z (by omega)) (fun _ => ⟨tl_vi (by omega), tl_vi (by omega), fun x5 _ => br_c (fun _ => nm_r (nI_1 i) (ih (i + 1) x3 (by omega))) (fun _ => nm_e (nm_r (nI_1 i) (ih (i + 1) _ (by omega))))⟩)
theorem tl_bring {post : Int32 → St1 → Prop} {K : tl_K} {ck : Nat → Nat} {sn : Nat → Nat → Nat} {dn : Nat → Nat} {s d : Nat} {Ra Wa : Int32} {a1 a2 a3 a4 a5 a6 a7 a8 a9 a10 a11 a12 a13 a14 a15 a16 a17 a18 a19 a20 a21 a22 a23 a24 : Nat → Int32} (s4 : s < 4) (d4 : d < 4) (hM : tl_MT K ck sn dn (Ra, Wa, a1, a2, a3, a4, a5, a6, a7, a8, a9, a10, a11, a12, a13, a14, a15, a16, a17, a18, a19, a20, a21, a22, a23, a24))
    (H0 : ¬ (s < 3 ∧ d < 3 ∧ s ≠ d) → ∀ x, post x (Ra, Wa, a1, a2, a3, a4, a5, a6, a7, a8, a9, a10, a11, a12, a13, a14, a15, a16, a17, a18, a19, a20, a21, a22, a23, a24)) (H1 : (s < 3 ∧ d < 3 ∧ s ≠ d) → ∀ x u', tl_MT K (tl_mx ck s d) (tl_m2 sn s d) (tl_mx dn s d) u' → post x u') : wpX_bring post (Ra, Wa, a1, a2, a3, a4, a5, a6, a7, a8, a9, a10, a11, a12, a13, a14, a15, a16, a17, a18, a19, a20, a21, a22, a23, a24) (nI s) (nI d) := by
  obtain ⟨hP, hT, hC, hO⟩ := hM
  have hR3 : Ra = nI 3 := hT.1
  unfold wpX_bring
  refine tl_bad (by omega) hR3 (fun s3 => br_t rfl (tl_bad (by omega) hR3 (fun d3 => br_t rfl ?_) (fun z => br_f (by decide) (H0 (by omega) _)))) (fun z => br_f (by decide) (H0 (by omega) _))
  refine pk_eq s d (fun z => H0 (by omega) _) (fun hsd => ⟨5, ?_⟩)
  have H := H1 ⟨s3, d3, hsd⟩
  have hK := tl_PV_KB hP
  obtain ⟨hs, ns, Ts, hRs, hSs, hMs⟩ := hO s s3
  obtain ⟨hd, n, T, hRd, hS, hMd⟩ := hO d d3
  have es : a10 s = nI (dn s) := hRs.2.2.2.1
  have ed : a10 d = nI (dn d) := hRd.2.2.2.1
  have eh : a11 s = nI hs := hRs.2.2.2.2.1
  have dns : dn s ≤ dn 0 := hP.2.2.2.2.2.2.2.1 s s3
  have dnd : dn d ≤ dn 0 := hP.2.2.2.2.2.2.2.1 d d3
  have dW := tl_PV_dn hP
  have kW := hK.1
  have hsb : hs ≤ dn s := hRs.1.2.1
  have p9 := hP.2.2.2.2.2.2.2.2.1
  have p10 := hP.2.2.2.2.2.2.2.2.2.1
  have p11 := hP.2.2.2.2.2.2.2.2.2.2
  have bb : ∀ j, j < 4 → sn d j ≤ 48 ∧ tl_ct K j (dn s) ≤ 48 := fun j hj => ⟨tl_PV_sn hP d3 hj, tl_PV_c48 hP dns hj⟩
  have ot : ∀ u', tl_FR d (Ra, Wa, a1, a2, a3, a4, a5, a6, a7, a8, a9, a10, a11, a12, a13, a14, a15, a16, a17, a18, a19, a20, a21, a22, a23, a24) u' → ∀ r, r < 3 → r ≠ d → ∃ h n T, tl_RC K r (dn r) h n n n T (sn r) u' ∧ tl_SR K T n ∧ ∀ x, tl_MB T n x ↔ tl_TS K (sn r) (dn r) x := by
    intro u' hF r hr hrd
    obtain ⟨h1, n1, T1, r1, r2, r3⟩ := hO r hr
    exact ⟨h1, n1, T1, tl_RC_fr hrd r1 hF, r2, r3⟩
  refine tl_b31 s3 d3 (fun x3 => ?_) 4 0 0 rfl
  unfold wX_bring_31
  refine pk_le 4 4 (fun _ => ?_) (fun z => absurd z (by omega))
  rw [tl_cl (show s < 1000 by omega), tl_cl (show d < 1000 by omega)]
  refine ⟨tl_vi (by omega), tl_vi (by omega), pk_le (dn s) (dn d) (fun z => ?_) (fun z => ⟨tl_vi (by omega), tl_vi (by omega), pk_le hs (dn d) (fun g => ?_) (fun g => ?_) eh ed⟩) es ed⟩
  · refine tl_brest s3 d3 hsd hP ⟨hT, hC, ot _ (tl_FR_rf _ _), hd, n, n, T, ?_, hS, ?_⟩ H
    · rw [Nat.max_eq_left z]
      obtain ⟨w0, w8, w9, w10, w11, w13, w14, w15, w16, w17, w18, wU⟩ := hRd
      refine ⟨w0, fun j hj => ?_, w9, w10, w11, w13, w14, w15, w16, w17, w18, wU⟩
      rw [w8 j hj]
      congr 1
      show sn d j = max (sn d j) (tl_ct K j (dn d))
      by_cases y : j < 3
      · have := p11 d d3 j y
        omega
      · have e : j = 3 := by omega
        have := tl_PV_c3 hP dnd
        rw [e]
        omega
    · rw [Nat.max_eq_left z]
      exact hMd
  · refine tl_tlog (D := dn s) (c := dn d) hK s3 d3 hsd (by omega) g (fun i hi => p9 i (by omega)) bb hT hRs hRd hS (fun u' h' n' p' T' hF hR' hS' hM' => ?_)
    obtain ⟨Rb, Wb, b1, b2, b3, b4, b5, b6, b7, b8, b9, b10, b11, b12, b13, b14, b15, b16, b17, b18, b19, b20, b21, b22, b23, b24⟩ := u'
    refine tl_brest s3 d3 hsd hP ⟨tl_TB_fr hT hF, tl_CK_fr hC hF, ot _ hF, h', n', p', T', ?_, hS', fun x => ?_⟩ H
    · rw [Nat.max_eq_right (show dn d ≤ dn s by omega)]
      exact hR'
    · rw [Nat.max_eq_right (show dn d ≤ dn s by omega), hM', hMd]
      unfold tl_TS
      have cm1 := tl_ct_mo K (tl_o K x) (show dn d ≤ dn s by omega)
      constructor
      · rintro ⟨⟨q1, q2, q3⟩, q4⟩
        refine ⟨q1, ?_, q3⟩
        have w1 := p10 (dn s) dns x q1
        have w2 := p10 (dn d) dnd x q1
        rcases Nat.lt_or_ge (tl_t K x) (tl_ct K (tl_o K x) (dn s)) with y | y
        · obtain ⟨i, hi, e⟩ := w1.mpr y
          by_cases v : i < dn d
          · have := w2.mp ⟨i, v, e⟩
            omega
          · exact absurd e (q4 i (by omega) hi)
        · exact y
      · rintro ⟨q1, q2, q3⟩
        refine ⟨⟨q1, by omega, q3⟩, fun k hk hk2 e => ?_⟩
        have w1 := (p10 (dn s) dns x q1).mp ⟨k, hk2, e⟩
        omega
  · refine tl_tst (D := dn s) (c := dn d) hK s3 d3 hsd bb hT hRs hRd hS (fun u' h' n' p' T' hF hR' hS' hM' => ?_)
    obtain ⟨Rb, Wb, b1, b2, b3, b4, b5, b6, b7, b8, b9, b10, b11, b12, b13, b14, b15, b16, b17, b18, b19, b20, b21, b22, b23, b24⟩ := u'
    refine tl_brest s3 d3 hsd hP ⟨tl_TB_fr hT hF, tl_CK_fr hC hF, ot _ hF, h', n', p', T', ?_, hS', fun x => ?_⟩ H
    · rw [Nat.max_eq_right (show dn d ≤ dn s by omega)]
      exact hR'
    · rw [Nat.max_eq_right (show dn d ≤ dn s by omega), hM', hMd]
      unfold tl_TS
      have cm1 := tl_ct_mo K (tl_o K x) (show dn d ≤ dn s by omega)
      constructor
      · rintro ⟨⟨q1, q2, q3⟩, q4⟩
        exact ⟨q1, q4, q3⟩
      · rintro ⟨q1, q2, q3⟩
        exact ⟨⟨q1, by omega, q3⟩, q2⟩
end
section
/-! commits at the primary -/
def tl_CM (sn : Nat → Nat → Nat) : Nat → tl_K → (Nat → Nat) → tl_K → (Nat → Nat) → Prop
  | 0, K, dn, K', dn' => K' = K ∧ dn' = dn
  | N + 1, K, dn, K', dn' => (∃ w, tl_TS K (sn 0) (dn 0) w ∧ (∀ x, tl_TS K (sn 0) (dn 0) x → x = w ∨ tl_bf K w x) ∧ tl_CM sn N (tl_Gp K (dn 0) w) (tl_up dn 0 (dn 0 + 1)) K' dn') ∨ ((∀ w, ¬ tl_TS K (sn 0) (dn 0) w) ∧ K' = K ∧ dn' = dn)
theorem tl_bf_as {K : tl_K} {a b : Nat} (h : tl_bf K a b) : ¬ tl_bf K b a := fun q => tl_bf_ir (tl_bf_tr h q)
theorem tl_CM_fun {sn : Nat → Nat → Nat} : ∀ N K dn K1 d1 K2 d2, tl_CM sn N K dn K1 d1 → tl_CM sn N K dn K2 d2 → K1 = K2 ∧ d1 = d2 := by
  intro N
  induction N with
  | zero =>
    intro K dn K1 d1 K2 d2 h1 h2
    exact ⟨h1.1.trans h2.1.symm, h1.2.trans h2.2.symm⟩
  | succ N ih =>
    intro K dn K1 d1 K2 d2 h1 h2
    rcases h1 with ⟨w, t1, m1, r1⟩ | ⟨n1, e1, e1'⟩
    · rcases h2 with ⟨w2, t2, m2, r2⟩ | ⟨n2, e2, e2'⟩
      · have e : w2 = w := by
          rcases m1 w2 t2 with z | z
          · exact z
          · rcases m2 w t1 with y | y
            · exact y.symm
            · exact absurd z (tl_bf_as y)
        subst e
        exact ih _ _ _ _ _ _ r1 r2
      · exact absurd t1 (n2 w)
    · rcases h2 with ⟨w2, t2, m2, r2⟩ | ⟨n2, e2, e2'⟩
      · exact absurd t2 (n1 w2)
      · exact ⟨e1.trans e2.symm, e1'.trans e2'.symm⟩
theorem tl_min {K : tl_K} {ck : Nat → Nat} {sn : Nat → Nat → Nat} {dn : Nat → Nat} (h : tl_PV K ck sn dn) (sr : Nat → Nat) (c : Nat) (he : ∃ w, tl_TS K sr c w) : ∃ w, tl_TS K sr c w ∧ ∀ x, tl_TS K sr c x → x = w ∨ tl_bf K w x := by
  obtain ⟨m, ⟨w, hw, em⟩, hm⟩ := pk_least (fun m => ∃ w, tl_TS K sr c w ∧ tl_s K w * 4 + tl_o K w = m) (by
    obtain ⟨w, hw⟩ := he
    exact ⟨_, w, hw, rfl⟩)
  refine ⟨w, hw, fun x hx => ?_⟩
  by_cases e : x = w
  · exact Or.inl e
  · refine Or.inr ?_
    have q : ¬ tl_s K x * 4 + tl_o K x < m := fun z => hm _ z ⟨x, hx, rfl⟩
    rcases tl_PV_tot h hw.1 hx.1 (fun z => e z.symm) with z | z
    · exact z
    · have o1 := (h.2.1 w hw.1).1
      have o2 := (h.2.1 x hx.1).1
      unfold tl_bf at z
      omega
theorem tl_CM_ex {ck : Nat → Nat} {sn : Nat → Nat → Nat} : ∀ N K dn, tl_PV K ck sn dn → ∃ K' dn', tl_CM sn N K dn K' dn' ∧ tl_PV K' ck sn dn' ∧ tl_W K' = tl_W K ∧ ((∀ w, ¬ tl_TS K' (sn 0) (dn' 0) w) ∨ dn' 0 = dn 0 + N) := by
  intro N
  induction N with
  | zero =>
    intro K dn h
    exact ⟨K, dn, ⟨rfl, rfl⟩, h, rfl, Or.inr rfl⟩
  | succ N ih =>
    intro K dn h
    by_cases he : ∃ w, tl_TS K (sn 0) (dn 0) w
    · obtain ⟨w, hw, hm⟩ := tl_min h (sn 0) (dn 0) he
      obtain ⟨K', dn', h1, h2, h3, h4⟩ := ih _ _ (tl_PV_commit h hw hm).2
      refine ⟨K', dn', Or.inl ⟨w, hw, hm, h1⟩, h2, h3, ?_⟩
      rcases h4 with h4 | h4
      · exact Or.inl h4
      · refine Or.inr ?_
        rw [h4, tl_up_s]
        omega
    · have hn : ∀ w, ¬ tl_TS K (sn 0) (dn 0) w := fun w z => he ⟨w, z⟩
      exact ⟨K, dn, Or.inr ⟨hn, rfl, rfl⟩, h, rfl, Or.inl hn⟩
theorem tl_RC_Gp {K : tl_K} {r c h n p q d w : Nat} {T sn : Nat → Nat} {u : St1} (hc : c ≤ d) (hR : tl_RC K r c h n p q T sn u) : tl_RC (tl_Gp K d w) r c h n p q T sn u := by
  obtain ⟨Ra, Wa, a1, a2, a3, a4, a5, a6, a7, a8, a9, a10, a11, a12, a13, a14, a15, a16, a17, a18, a19, a20, a21, a22, a23, a24⟩ := u
  obtain ⟨h0, h8, h9, h10, h11, h13, h14, h15, h16, h17, h18, hU⟩ := hR
  refine ⟨h0, h8, fun j hj => ?_, h10, h11, fun i hi hi2 => ?_, fun j hj => ?_, fun j hj => ?_, h16, h17, h18, fun i hi => ?_⟩
  · rw [tl_ct_Gp K d w j c hc]; exact h9 j hj
  · rw [tl_Gp_n K w (show i ≠ d by omega)]; exact h13 i hi hi2
  · rw [tl_sg_Gp K d w c hc]; exact h14 j hj
  · rw [tl_sg_Gp K d w c hc, tl_sq_Gp]; exact h15 j hj
  · rw [tl_sg_Gp K d w c hc, tl_sq_Gp, tl_sq_Gp]; exact hU i hi
theorem tl_c2 {post : Int32 → St1 → Prop} {ck : Nat → Nat} {sn : Nat → Nat → Nat} {M : Nat} (hM : M < 1000) : ∀ (N i : Nat) (K : tl_K) (dn : Nat → Nat) (Ra Wa : Int32) (a1 a2 a3 a4 a5 a6 a7 a8 a9 a10 a11 a12 a13 a14 a15 a16 a17 a18 a19 a20 a21 a22 a23 a24 : Nat → Int32), i + N = M → tl_MT K ck sn dn (Ra, Wa, a1, a2, a3, a4, a5, a6, a7, a8, a9, a10, a11, a12, a13, a14, a15, a16, a17, a18, a19, a20, a21, a22, a23, a24) → (∀ x u' K' dn', tl_CM sn N K dn K' dn' → tl_MT K' ck sn dn' u' → post x u') → wX_commit_2 post (nI M) (N + 1) (nI i) Ra Wa a1 a2 a3 a4 a5 a6 a7 a8 a9 a10 a11 a12 a13 a14 a15 a16 a17 a18 a19 a20 a21 a22 a23 a24 := by
  intro N
  induction N with
  | zero =>
    intro i K dn Ra Wa a1 a2 a3 a4 a5 a6 a7 a8 a9 a10 a11 a12 a13 a14 a15 a16 a17 a18 a19 a20 a21 a22 a23 a24 hi hMT H
    unfold wX_commit_2
    exact pk_le M i (fun _ => H _ _ K dn ⟨rfl, rfl⟩ hMT) (fun z => absurd z (by omega))
  | succ N ih =>
    intro i K dn Ra Wa a1 a2 a3 a4 a5 a6 a7 a8 a9 a10 a11 a12 a13 a14 a15 a16 a17 a18 a19 a20 a21 a22 a23 a24 hi hMT H
    have hMT0 := hMT
    obtain ⟨hP, hT, hC, hO⟩ := hMT
    obtain ⟨h, n, T, hR, hS, hMB⟩ := hO 0 (by omega)
    have hR0 := hR
    obtain ⟨⟨z1, z2, z3, z4⟩, h8, h9, h10, h11, h13, h14, h15, h16, h17, h18, hU⟩ := hR
    unfold wX_commit_2
    refine pk_le M i (fun z => absurd z (by omega)) (fun _ => pk_le n 0 (fun y => ?_) (fun y => ?_) h16)
    · exact H _ _ K dn (Or.inr ⟨fun w q => by
        obtain ⟨j, hj, _⟩ := (hMB w).mpr q
        omega, rfl, rfl⟩) hMT0
    · have tw : tl_TS K (sn 0) (dn 0) (T 0) := (hMB _).mp ⟨0, y, rfl⟩
      have mn : ∀ x, tl_TS K (sn 0) (dn 0) x → x = T 0 ∨ tl_bf K (T 0) x := by
        intro x hx
        obtain ⟨j, hj, ej⟩ := (hMB x).mpr hx
        rcases Nat.eq_zero_or_pos j with q | q
        · exact Or.inl (by rw [← ej, q])
        · exact Or.inr (by rw [← ej]; exact hS 0 j q hj)
      obtain ⟨ct0, hP2⟩ := tl_PV_commit hP tw mn
      have e18 : a18 0 = nI (T 0) := (h18 0 y).2
      have d1 : dn 0 + 1 ≤ 48 := by
        have q1 := tl_PV_dn hP2
        have q2 := hP2.1
        rw [tl_up_s] at q1
        omega
      have hTg : tl_TB (tl_Gp K (dn 0) (T 0)) (Ra, Wa, a1, a2, a3, a4, a5, a6, a7, a8, a9, a10, a11, a12, a13, a14, a15, a16, a17, a18, a19, a20, a21, a22, a23, a24) := hT
      rw [e18]
      refine tl_fix (r := 0) (K := tl_Gp K (dn 0) (T 0)) (tl_PV_KB hP2) (by omega) hTg (tl_RC_Gp (Nat.le_refl _) hR0) hS tw.1 (by omega) (tl_Gp_s K (dn 0) (T 0)) (fun u' n' p' T' hF hR' hS' hM' hpn => ?_)
      obtain ⟨Rb, Wb, b1, b2, b3, b4, b5, b6, b7, b8, b9, b10, b11, b12, b13, b14, b15, b16, b17, b18, b19, b20, b21, b22, b23, b24⟩ := u'
      refine nm_r (nI_1 i) ?_
      have hpn' := hpn y rfl
      have epn : p' = n' := by omega
      subst epn
      refine ih (i + 1) (tl_Gp K (dn 0) (T 0)) (tl_up dn 0 (dn 0 + 1)) _ _ _ _ _ _ _ _ _ _ _ _ _ _ _ _ _ _ _ _ _ _ _ _ _ _ (by omega) ⟨hP2, tl_TB_fr hTg hF, tl_CK_fr hC hF, fun r hr => ?_⟩ (fun x u2 K' dn' hCM => H x u2 K' dn' (Or.inl ⟨T 0, tw, mn, hCM⟩))
      by_cases q : r = 0
      · subst q
        refine ⟨h, p', T', by rw [tl_up_s]; exact hR', hS', fun x => ?_⟩
        rw [hM', hMB, tl_up_s]
        unfold tl_TS
        show (x < tl_W K ∧ tl_ct K (tl_o K x) (dn 0) ≤ tl_t K x ∧ tl_t K x < sn 0 (tl_o K x)) ∧ x ≠ T 0 ↔ (x < tl_W K ∧ tl_ct (tl_Gp K (dn 0) (T 0)) (tl_o K x) (dn 0 + 1) ≤ tl_t K x ∧ tl_t K x < sn 0 (tl_o K x))
        have p3 := hP.2.2.1
        by_cases eo : tl_o K (T 0) = tl_o K x
        · have s1 : tl_ct (tl_Gp K (dn 0) (T 0)) (tl_o K x) (dn 0 + 1) = tl_ct (tl_Gp K (dn 0) (T 0)) (tl_o K x) (dn 0) + 1 :=
            tl_ct_s _ (by rw [tl_Gp_s]; exact eo)
          rw [s1, tl_ct_Gp K _ _ _ _ (Nat.le_refl _), ← eo, ct0]
          constructor
          · rintro ⟨⟨q1, q2, q3⟩, q4⟩
            have ne : tl_t K x ≠ tl_t K (T 0) := fun z => q4 ((p3 x (T 0) q1 tw.1 eo.symm).2 z)
            exact ⟨q1, by omega, q3⟩
          · rintro ⟨q1, q2, q3⟩
            exact ⟨⟨q1, by omega, q3⟩, fun z => by rw [z] at q2; omega⟩
        · have s1 : tl_ct (tl_Gp K (dn 0) (T 0)) (tl_o K x) (dn 0 + 1) = tl_ct (tl_Gp K (dn 0) (T 0)) (tl_o K x) (dn 0) :=
            tl_ct_n _ (by rw [tl_Gp_s]; exact eo)
          rw [s1, tl_ct_Gp K _ _ _ _ (Nat.le_refl _)]
          exact ⟨fun q => q.1, fun q => ⟨q, fun z => eo (by rw [z])⟩⟩
      · obtain ⟨h1, n1, T1, r1, r2, r3⟩ := hO r hr
        have dr := hP.2.2.2.2.2.2.2.1 r hr
        refine ⟨h1, n1, T1, by rw [tl_up_n dn _ q]; exact tl_RC_fr q (tl_RC_Gp dr r1) hF, r2, fun x => ?_⟩
        rw [r3, tl_up_n dn _ q]
        unfold tl_TS
        show _ ↔ (x < tl_W K ∧ tl_ct (tl_Gp K (dn 0) (T 0)) (tl_o K x) (dn r) ≤ tl_t K x ∧ tl_t K x < sn r (tl_o K x))
        rw [tl_ct_Gp K _ _ _ _ dr]
theorem tl_commit {post : Int32 → St1 → Prop} {K K' : tl_K} {ck : Nat → Nat} {sn : Nat → Nat → Nat} {dn dn' : Nat → Nat} {M : Nat} {Ra Wa : Int32} {a1 a2 a3 a4 a5 a6 a7 a8 a9 a10 a11 a12 a13 a14 a15 a16 a17 a18 a19 a20 a21 a22 a23 a24 : Nat → Int32} (hM : M < 1000) (hC : tl_CM sn M K dn K' dn') (hMT : tl_MT K ck sn dn (Ra, Wa, a1, a2, a3, a4, a5, a6, a7, a8, a9, a10, a11, a12, a13, a14, a15, a16, a17, a18, a19, a20, a21, a22, a23, a24)) (H : ∀ x u', tl_MT K' ck sn dn' u' → post x u') : wpX_commit post (Ra, Wa, a1, a2, a3, a4, a5, a6, a7, a8, a9, a10, a11, a12, a13, a14, a15, a16, a17, a18, a19, a20, a21, a22, a23, a24) (nI M) := by
  unfold wpX_commit
  refine ⟨M + 1, tl_c2 hM M 0 K dn _ _ _ _ _ _ _ _ _ _ _ _ _ _ _ _ _ _ _ _ _ _ _ _ _ _ (by omega) hMT (fun x u' K2 d2 h2 hm => ?_)⟩
  obtain ⟨e1, e2⟩ := tl_CM_fun _ _ _ _ _ _ _ hC h2
  subst e1 e2
  exact H x u' hm
/-! a write -/
theorem tl_RC_wr {K : tl_K} {r c h n p q x t s k cc : Nat} {v : Int32} {T sn : Nat → Nat} {u : St1} (hG : ∀ i, i < c → tl_G K i < tl_W K) (hR : tl_RC K r c h n p q T sn u) : tl_RC (tl_wr K x t s k cc v) r c h n p q T sn u := by
  obtain ⟨Ra, Wa, a1, a2, a3, a4, a5, a6, a7, a8, a9, a10, a11, a12, a13, a14, a15, a16, a17, a18, a19, a20, a21, a22, a23, a24⟩ := u
  obtain ⟨⟨z1, z2, z3, z4⟩, h8, h9, h10, h11, h13, h14, h15, h16, h17, h18, hU⟩ := hR
  refine ⟨⟨z1, z2, z3, z4⟩, h8, fun j hj => ?_, h10, h11, h13, fun j hj => ?_, fun j hj => ?_, h16, h17, fun i hi => ⟨?_, (h18 i hi).2⟩, fun i hi => ?_⟩
  · rw [tl_wr_ct j c hG]; exact h9 j hj
  · rw [tl_wr_sg c hG]; exact h14 j hj
  · rw [tl_wr_sg c hG, tl_wr_sq T _ p (fun i hi => (h18 i (by omega)).1)]; exact h15 j hj
  · rw [tl_wr_W]
    have := (h18 i hi).1
    omega
  · rw [tl_wr_sg c hG, tl_wr_sq T _ i (fun i' hi' => (h18 i' (by omega)).1), tl_wr_sq T _ (i + 1) (fun i' hi' => (h18 i' (by omega)).1)]; exact hU i hi
theorem tl_write {post : Int32 → St1 → Prop} {K : tl_K} {ck : Nat → Nat} {sn : Nat → Nat → Nat} {dn : Nat → Nat} {r k c : Nat} {v : Int32} {Ra Wa : Int32} {a1 a2 a3 a4 a5 a6 a7 a8 a9 a10 a11 a12 a13 a14 a15 a16 a17 a18 a19 a20 a21 a22 a23 a24 : Nat → Int32} (r4 : r < 4) (k8 : k < 8) (c8 : c < 8) (hM : tl_MT K ck sn dn (Ra, Wa, a1, a2, a3, a4, a5, a6, a7, a8, a9, a10, a11, a12, a13, a14, a15, a16, a17, a18, a19, a20, a21, a22, a23, a24))
    (Ha : ¬ r < 3 → post (-1) (Ra, Wa, a1, a2, a3, a4, a5, a6, a7, a8, a9, a10, a11, a12, a13, a14, a15, a16, a17, a18, a19, a20, a21, a22, a23, a24)) (Hb : r < 3 → ¬ k ≤ 5 → post (-2) (Ra, Wa, a1, a2, a3, a4, a5, a6, a7, a8, a9, a10, a11, a12, a13, a14, a15, a16, a17, a18, a19, a20, a21, a22, a23, a24)) (Hc : r < 3 → k ≤ 5 → ¬ tl_W K < 48 → post (-4) (Ra, Wa, a1, a2, a3, a4, a5, a6, a7, a8, a9, a10, a11, a12, a13, a14, a15, a16, a17, a18, a19, a20, a21, a22, a23, a24))
    (Hd : r < 3 → k ≤ 5 → tl_W K < 48 → ∀ u', tl_MT (tl_wr K r (sn r r) (ck r + 1) k c v) (tl_up ck r (ck r + 1)) (tl_u2 sn r) dn u' → post (nI (tl_W K)) u') : wpX_write post (Ra, Wa, a1, a2, a3, a4, a5, a6, a7, a8, a9, a10, a11, a12, a13, a14, a15, a16, a17, a18, a19, a20, a21, a22, a23, a24) (nI r) (nI k) (nI c) v := by
  obtain ⟨hP, hT, hC, hO⟩ := hM
  have hT0 := hT
  obtain ⟨eR, eW, t⟩ := hT
  have kW := hP.1
  unfold wpX_write
  refine tl_bad (by omega) eR (fun r3 => br_t rfl ?_) (fun z => br_f (by decide) (Ha (by omega)))
  refine pk_lt k 0 (fun z => absurd z (by omega)) (fun _ => pk_le k 5 (fun k5 => ?_) (fun z => Hb r3 (by omega)))
  refine pk_lt c 0 (fun z => absurd z (by omega)) (fun _ => pk_le c 7 (fun _ => ?_) (fun z => absurd z (by omega)))
  refine pk_lt (tl_W K) 48 (fun hW => ?_) (fun z => Hc r3 k5 (by omega)) eW
  have H := Hd r3 k5 hW
  have hP2 := tl_PV_write hP v r3 k5 c8 hW
  have hK2 := tl_PV_KB hP2
  obtain ⟨h, n, T, hR, hS, hMB⟩ := hO r r3
  have e8 : a8 (4 * r + r) = nI (sn r r) := hR.2.1 r (by omega)
  have e7 : a7 r = nI (ck r) := hC r r3
  have h18 := hR.2.2.2.2.2.2.2.2.2.2.1
  have gl : ∀ x, x < 3 → ∀ i, i < dn x → tl_G K i < tl_W K := fun x hx i hi => hP.2.2.2.2.2.2.2.2.1 i (by have := hP.2.2.2.2.2.2.2.1 x hx; omega)
  subst eW
  rw [tl_i4, tl_cl (show r < 1000 by omega), tl_cl (show tl_W K < 1000 by omega), tl_cl (show 4 * r + r < 1000 by omega)]
  refine ⟨tl_vi (by omega), tl_vi (by omega), nm_r (e' := upd a7 r (nI (ck r + 1))) (by rw [e7, nI_1]) ⟨tl_vi (by omega), nm_e ⟨tl_vi (by omega), tl_vi (by omega), nm_r (e' := upd a2 (tl_W K) (nI (sn r r))) (by rw [e8]) ⟨tl_vi (by omega), tl_vi (by omega), nm_r (e' := upd a3 (tl_W K) (nI (ck r + 1))) (by rw [pk_us]) ⟨tl_vi (by omega), nm_e ⟨tl_vi (by omega), nm_e ⟨tl_vi (by omega), nm_e (nm_r (nI_1 _) ?_)⟩⟩⟩⟩⟩⟩⟩
  have hT1 : tl_TB (tl_wr K r (sn r r) (ck r + 1) k c v) (Ra, nI (tl_W K + 1), upd a1 (tl_W K) (nI r), upd a2 (tl_W K) (nI (sn r r)), upd a3 (tl_W K) (nI (ck r + 1)), upd a4 (tl_W K) (nI k), upd a5 (tl_W K) (nI c), upd a6 (tl_W K) v, upd a7 r (nI (ck r + 1)), a8, a9, a10, a11, a12, a13, a14, a15, a16, a17, a18, a19, a20, a21, a22, a23, a24) := by
    refine ⟨eR, rfl, fun w hw => ?_⟩
    rw [tl_wr_W] at hw
    by_cases y : w = tl_W K
    · rw [y, tl_wr_o', tl_wr_t', tl_wr_s', tl_wr_k', tl_wr_c', tl_wr_v', pk_us, pk_us, pk_us, pk_us, pk_us, pk_us]
      exact ⟨rfl, rfl, rfl, rfl, rfl, rfl⟩
    · have hw' : w < tl_W K := by omega
      rw [tl_wr_o hw', tl_wr_t hw', tl_wr_s hw', tl_wr_k hw', tl_wr_c hw', tl_wr_v hw', pk_un y, pk_un y, pk_un y, pk_un y, pk_un y, pk_un y]
      exact t w hw'
  have hR1 : tl_RC (tl_wr K r (sn r r) (ck r + 1) k c v) r (dn r) h n n n T (sn r) (Ra, nI (tl_W K + 1), upd a1 (tl_W K) (nI r), upd a2 (tl_W K) (nI (sn r r)), upd a3 (tl_W K) (nI (ck r + 1)), upd a4 (tl_W K) (nI k), upd a5 (tl_W K) (nI c), upd a6 (tl_W K) v, upd a7 r (nI (ck r + 1)), a8, a9, a10, a11, a12, a13, a14, a15, a16, a17, a18, a19, a20, a21, a22, a23, a24) := by
    have q := tl_RC_wr (x := r) (t := sn r r) (s := ck r + 1) (k := k) (cc := c) (v := v) (gl r r3) hR
    obtain ⟨w0, w8, w9, w10, w11, w13, w14, w15, w16, w17, w18, wU⟩ := q
    exact ⟨w0, w8, w9, w10, w11, w13, w14, w15, w16, w17, w18, wU⟩
  have hS1 : tl_SR (tl_wr K r (sn r r) (ck r + 1) k c v) T n := fun i j hij hj => (tl_wr_bf (h18 i (by omega)).1 (h18 j hj).1).mpr (hS i j hij hj)
  refine tl_ins hK2 r3 hT1 hR1 hS1 (by rw [tl_wr_W]; omega) (fun ⟨i, hi, e⟩ => by have := (h18 i hi).1; omega) (fun u' p' T' hF hR' hS' hM' => ?_)
  obtain ⟨Rb, Wb, b1, b2, b3, b4, b5, b6, b7, b8, b9, b10, b11, b12, b13, b14, b15, b16, b17, b18, b19, b20, b21, b22, b23, b24⟩ := u'
  have hT2 := tl_TB_fr hT1 hF
  have hF0 := hF
  obtain ⟨z0, g8, g9, g10, g11, g13, g14, g15, g16, g17, g18, gU⟩ := hR'
  have f8 : b8 (4 * r + r) = nI (sn r r) := g8 r (by omega)
  refine ⟨tl_vi (by omega), tl_vi (by omega), nm_r (e' := upd b8 (4 * r + r) (nI (sn r r + 1))) (by rw [f8, nI_1]) ?_⟩
  have hF2 : tl_FR r (Rb, Wb, b1, b2, b3, b4, b5, b6, b7, b8, b9, b10, b11, b12, b13, b14, b15, b16, b17, b18, b19, b20, b21, b22, b23, b24) (Rb, Wb, b1, b2, b3, b4, b5, b6, b7, upd b8 (4 * r + r) (nI (sn r r + 1)), b9, b10, b11, b12, b13, b14, b15, b16, b17, b18, b19, b20, b21, b22, b23, b24) := ⟨rfl, rfl, rfl, rfl, rfl, rfl, rfl, rfl, rfl, rfl, tl_fm_u (tl_fm_rf _ _ _) (by omega), tl_fm_rf _ _ _, tl_fm_rf _ _ _, tl_fm_rf _ _ _, tl_fm_rf _ _ _, tl_fm_rf _ _ _, tl_fm_rf _ _ _, tl_fm_rf _ _ _, tl_fm_rf _ _ _, tl_fm_rf _ _ _, tl_fm_rf _ _ _, tl_fm_rf _ _ _, tl_fm_rf _ _ _, tl_fm_rf _ _ _⟩
  have hR2 : tl_RC (tl_wr K r (sn r r) (ck r + 1) k c v) r (dn r) h (n + 1) p' p' T' (tl_u2 sn r r) (Rb, Wb, b1, b2, b3, b4, b5, b6, b7, upd b8 (4 * r + r) (nI (sn r r + 1)), b9, b10, b11, b12, b13, b14, b15, b16, b17, b18, b19, b20, b21, b22, b23, b24) := by
    refine ⟨z0, fun j hj => ?_, g9, g10, g11, g13, g14, g15, g16, g17, g18, gU⟩
    rw [tl_u2_s]
    by_cases y : j = r
    · rw [y, pk_us, tl_up_s]
    · rw [pk_un (by omega), tl_up_n _ _ y]
      exact g8 j hj
  refine tl_aall hK2 r3 (tl_TB_fr hT2 hF2) hR2 (fun u3 hF3 hR3 => ?_)
  obtain ⟨Re, We, e1, e2, e3, e4, e5, e6, e7, e8, e9, e10, e11, e12, e13, e14, e15, e16, e17, e18, e19, e20, e21, e22, e23, e24⟩ := u3
  have hF4 := tl_FR_tr hF0 (tl_FR_tr hF2 hF3)
  refine H _ ⟨hP2, tl_TB_fr hT1 hF4, ?_, fun x hx => ?_⟩
  · refine tl_CK_fr ?_ hF4
    intro x hx
    by_cases y : x = r
    · rw [y, pk_us, tl_up_s]
    · rw [pk_un y, tl_up_n _ _ y]
      exact hC x hx
  · by_cases y : x = r
    · subst y
      refine ⟨h, n + 1, T', hR3, hS', fun w => ?_⟩
      rw [hM', hMB]
      unfold tl_TS
      rw [tl_wr_W, tl_wr_ct _ _ (gl x r3), tl_u2_s]
      constructor
      · rintro (⟨q1, q2, q3⟩ | q)
        · rw [tl_wr_o q1, tl_wr_t q1]
          refine ⟨by omega, q2, ?_⟩
          by_cases o : tl_o K w = x
          · rw [o, tl_up_s]
            rw [o] at q3
            omega
          · rw [tl_up_n _ _ o]
            exact q3
        · rw [q, tl_wr_o', tl_wr_t', tl_up_s]
          have y2 := hP.2.2.2.2.2.2.2.2.2.2 x r3 x r3
          exact ⟨by omega, by omega, by omega⟩
      · rintro ⟨q1, q2, q3⟩
        by_cases o : w = tl_W K
        · exact Or.inr o
        · have hw' : w < tl_W K := by omega
          rw [tl_wr_o hw', tl_wr_t hw'] at q2 q3
          refine Or.inl ⟨hw', q2, ?_⟩
          by_cases o2 : tl_o K w = x
          · have q5 := (hP.2.1 w hw').2.2.2.2
            rw [o2] at q5 ⊢
            exact q5
          · rw [tl_up_n _ _ o2] at q3
            exact q3
    · obtain ⟨h1, n1, T1, r1, r2, r3'⟩ := hO x hx
      have b18 := r1.2.2.2.2.2.2.2.2.2.2.1
      refine ⟨h1, n1, T1, ?_, fun i j hij hj => (tl_wr_bf (b18 i (by omega)).1 (b18 j hj).1).mpr (r2 i j hij hj), fun w => ?_⟩
      · rw [tl_u2_n _ y]
        refine tl_RC_fr y ?_ hF4
        have q := tl_RC_wr (x := r) (t := sn r r) (s := ck r + 1) (k := k) (cc := c) (v := v) (gl x hx) r1
        obtain ⟨w0, w8, w9, w10, w11, w13, w14, w15, w16, w17, w18, wU⟩ := q
        exact ⟨w0, w8, w9, w10, w11, w13, w14, w15, w16, w17, w18, wU⟩
      · rw [r3', tl_u2_n _ y]
        unfold tl_TS
        rw [tl_wr_W, tl_wr_ct _ _ (gl x hx)]
        constructor
        · rintro ⟨q1, q2, q3⟩
          rw [tl_wr_o q1, tl_wr_t q1]
          exact ⟨by omega, q2, q3⟩
        · rintro ⟨q1, q2, q3⟩
          by_cases o : w = tl_W K
          · rw [o, tl_wr_o', tl_wr_t'] at q3
            have := hP.2.2.2.2.1 x hx r r3
            omega
          · have hw' : w < tl_W K := by omega
            rw [tl_wr_o hw', tl_wr_t hw'] at q2 q3
            exact ⟨hw', q2, q3⟩
/-! a trim -/
theorem tl_tr54 {post : Int32 → St1 → Prop} {K : tl_K} {ck : Nat → Nat} {sn : Nat → Nat → Nat} {dn : Nat → Nat} {r k : Nat} {Ra Wa : Int32} {a1 a2 a3 a4 a5 a6 a7 a8 a9 a10 a11 a12 a13 a14 a15 a16 a17 a18 a19 a20 a21 a22 a23 a24 : Nat → Int32} (r3 : r < 3) (hk : k ≤ dn r) (hM : tl_MT K ck sn dn (Ra, Wa, a1, a2, a3, a4, a5, a6, a7, a8, a9, a10, a11, a12, a13, a14, a15, a16, a17, a18, a19, a20, a21, a22, a23, a24)) (H : ∀ x u', tl_MT K ck sn dn u' → post x u') : wX_trim_54 post (nI r) (nI k) Ra Wa a1 a2 a3 a4 a5 a6 a7 a8 a9 a10 a11 a12 a13 a14 a15 a16 a17 a18 a19 a20 a21 a22 a23 a24 := by
  have hM0 := hM
  obtain ⟨hP, hT, hC, hO⟩ := hM
  obtain ⟨h, n, T, hR, hS, hMB⟩ := hO r r3
  have hR0 := hR
  obtain ⟨⟨z1, z2, z3, z4⟩, h8, h9, h10, h11, h13, h14, h15, h16, h17, h18, hU⟩ := hR
  unfold wX_trim_54
  rw [tl_cl (show r < 1000 by omega)]
  refine ⟨tl_vi (by omega), pk_le k h (fun y => ⟨tl_vi (by omega), H _ _ hM0⟩) (fun y => ⟨tl_vi (by omega), nm_e ⟨tl_vi (by omega), H _ _ ?_⟩⟩) rfl h11⟩
  have hF : tl_FR r (Ra, Wa, a1, a2, a3, a4, a5, a6, a7, a8, a9, a10, a11, a12, a13, a14, a15, a16, a17, a18, a19, a20, a21, a22, a23, a24) (Ra, Wa, a1, a2, a3, a4, a5, a6, a7, a8, a9, a10, upd a11 r (nI k), a12, a13, a14, a15, a16, a17, a18, a19, a20, a21, a22, a23, a24) := ⟨rfl, rfl, rfl, rfl, rfl, rfl, rfl, rfl, rfl, rfl, tl_fm_rf _ _ _, tl_fm_rf _ _ _, tl_fm_rf _ _ _, tl_fm_u (tl_fm_rf _ _ _) (by omega), tl_fm_rf _ _ _, tl_fm_rf _ _ _, tl_fm_rf _ _ _, tl_fm_rf _ _ _, tl_fm_rf _ _ _, tl_fm_rf _ _ _, tl_fm_rf _ _ _, tl_fm_rf _ _ _, tl_fm_rf _ _ _, tl_fm_rf _ _ _⟩
  refine ⟨hP, tl_TB_fr hT hF, tl_CK_fr hC hF, fun x hx => ?_⟩
  by_cases q : x = r
  · subst q
    exact ⟨k, n, T, ⟨⟨z1, hk, z3, z4⟩, h8, h9, h10, pk_us, fun i hi hi2 => h13 i (by omega) hi2, h14, h15, h16, h17, h18, hU⟩, hS, hMB⟩
  · obtain ⟨h1, n1, T1, r1, r2, r3'⟩ := hO x hx
    exact ⟨h1, n1, T1, tl_RC_fr q r1 hF, r2, r3'⟩
theorem tl_tr37 {post : Int32 → St1 → Prop} {K : tl_K} {ck : Nat → Nat} {sn : Nat → Nat → Nat} {dn : Nat → Nat} {r k : Nat} {Ra Wa : Int32} {a1 a2 a3 a4 a5 a6 a7 a8 a9 a10 a11 a12 a13 a14 a15 a16 a17 a18 a19 a20 a21 a22 a23 a24 : Nat → Int32} (r3 : r < 3) (hk : k ≤ dn r) (hM : tl_MT K ck sn dn (Ra, Wa, a1, a2, a3, a4, a5, a6, a7, a8, a9, a10, a11, a12, a13, a14, a15, a16, a17, a18, a19, a20, a21, a22, a23, a24)) (H : ∀ x u', tl_MT K ck sn dn u' → post x u') : wX_trim_37 post (nI r) (nI k) Ra Wa a1 a2 a3 a4 a5 a6 a7 a8 a9 a10 a11 a12 a13 a14 a15 a16 a17 a18 a19 a20 a21 a22 a23 a24 := by
  unfold wX_trim_37
  refine ⟨tl_vi (by omega), br_c (fun _ => tl_tr54 r3 hk hM H) (fun _ => ⟨tl_vi (by omega), fun b12 _ => ?_⟩)⟩
  have hM2 : tl_MT K ck sn dn (Ra, Wa, a1, a2, a3, a4, a5, a6, a7, a8, a9, a10, a11, b12, a13, a14, a15, a16, a17, a18, a19, a20, a21, a22, a23, a24) := by
    obtain ⟨hP, hT, hC, hO⟩ := hM
    refine ⟨hP, hT, hC, fun x hx => ?_⟩
    obtain ⟨h1, n1, T1, r1, r2, r3'⟩ := hO x hx
    exact ⟨h1, n1, T1, r1, r2, r3'⟩
  exact tl_tr54 r3 hk hM2 H
theorem tl_trim {post : Int32 → St1 → Prop} {K : tl_K} {ck : Nat → Nat} {sn : Nat → Nat → Nat} {dn : Nat → Nat} {r k : Nat} {Ra Wa : Int32} {a1 a2 a3 a4 a5 a6 a7 a8 a9 a10 a11 a12 a13 a14 a15 a16 a17 a18 a19 a20 a21 a22 a23 a24 : Nat → Int32} (r4 : r < 4) (hk : k < 1000) (hM : tl_MT K ck sn dn (Ra, Wa, a1, a2, a3, a4, a5, a6, a7, a8, a9, a10, a11, a12, a13, a14, a15, a16, a17, a18, a19, a20, a21, a22, a23, a24)) (H : ∀ x u', tl_MT K ck sn dn u' → post x u') : wpX_trim post (Ra, Wa, a1, a2, a3, a4, a5, a6, a7, a8, a9, a10, a11, a12, a13, a14, a15, a16, a17, a18, a19, a20, a21, a22, a23, a24) (nI r) (nI k) := by
  have hM0 := hM
  obtain ⟨hP, hT, hC, hO⟩ := hM
  unfold wpX_trim
  refine tl_bad (by omega) hT.1 (fun r3 => br_t rfl (pk_le 0 k (fun _ => ?_) (fun z => absurd z (by omega)))) (fun z => br_f (by decide) (H _ _ hM0))
  obtain ⟨h, n, T, hR, hS, hMB⟩ := hO r r3
  have e10 : a10 r = nI (dn r) := hR.2.2.2.1
  have b10 : dn r ≤ 48 := hR.1.1
  unfold wX_trim_19
  rw [tl_cl (show r < 1000 by omega)]
  exact ⟨tl_vi (by omega), pk_le k (dn r) (fun y => tl_tr37 r3 y hM0 H) (fun y => ⟨tl_vi (by omega), nm_r e10 (tl_tr37 r3 (Nat.le_refl _) hM0 H)⟩) rfl e10⟩
end
section
/-! a turn -/
theorem tl_turn {K : tl_K} {ck : Nat → Nat} {sn : Nat → Nat → Nat} {dn : Nat → Nat} (hP : tl_PV K ck sn dn) (kd : Nat) (hkd : kd < 16) (X Y v : Int32) :
    ∃ K' ck' sn' dn' rr, ((rr < 0 ∧ tl_W K' = tl_W K) ∨ (¬ rr < 0 ∧ tl_W K' = tl_W K + 1)) ∧ tl_PV K' ck' sn' dn' ∧
      ∀ (u : St1) (post : Int32 → St1 → Prop), tl_MT K ck sn dn u → (∀ u', tl_MT K' ck' sn' dn' u' → post rr u') → wpL_turn post u (nI kd) X Y v := by
  have m1 : (-1 : Int32) < 0 := by decide
  have m2 : (-2 : Int32) < 0 := by decide
  have m4 : (-4 : Int32) < 0 := by decide
  obtain ⟨xr, hxr, exr⟩ := pk_andE X (m := 3) 2 (by decide)
  obtain ⟨xk, hxk, exk⟩ := pk_andE (X >>> ((2 : Int32) &&& 31)) (m := 7) 3 (by decide)
  obtain ⟨yc, hyc, eyc⟩ := pk_andE Y (m := 7) 3 (by decide)
  obtain ⟨yd, hyd, eyd⟩ := pk_andE Y (m := 3) 2 (by decide)
  by_cases k8 : kd < 8
  · have wW : ∀ (u : St1) (post : Int32 → St1 → Prop), wpX_write post u (X &&& 3) ((X >>> ((2 : Int32) &&& 31)) &&& 7) (Y &&& 7) v → wpL_turn post u (nI kd) X Y v := by
      intro u post h
      obtain ⟨Ra, Wa, a1, a2, a3, a4, a5, a6, a7, a8, a9, a10, a11, a12, a13, a14, a15, a16, a17, a18, a19, a20, a21, a22, a23, a24⟩ := u
      unfold wpL_turn
      exact pk_le 8 kd (fun z => absurd z (by omega)) (fun _ => h)
    rw [exr, exk, eyc] at wW
    by_cases r3 : xr < 3
    · by_cases k5 : xk ≤ 5
      · by_cases hW : tl_W K < 48
        · refine ⟨_, _, _, _, nI (tl_W K), Or.inr ⟨nI_pos (by omega), tl_wr_W _ _ _ _ _ _ _⟩, tl_PV_write hP v r3 k5 hyc hW, fun u post hM H => wW u post ?_⟩
          obtain ⟨Ra, Wa, a1, a2, a3, a4, a5, a6, a7, a8, a9, a10, a11, a12, a13, a14, a15, a16, a17, a18, a19, a20, a21, a22, a23, a24⟩ := u
          exact tl_write hxr hxk hyc hM (fun z => absurd r3 z) (fun _ z => absurd k5 z) (fun _ _ z => absurd hW z) (fun _ _ _ => H)
        · refine ⟨K, ck, sn, dn, -4, Or.inl ⟨m4, rfl⟩, hP, fun u post hM H => wW u post ?_⟩
          obtain ⟨Ra, Wa, a1, a2, a3, a4, a5, a6, a7, a8, a9, a10, a11, a12, a13, a14, a15, a16, a17, a18, a19, a20, a21, a22, a23, a24⟩ := u
          exact tl_write hxr hxk hyc hM (fun z => absurd r3 z) (fun _ z => absurd k5 z) (fun _ _ _ => H _ hM) (fun _ _ z => absurd z hW)
      · refine ⟨K, ck, sn, dn, -2, Or.inl ⟨m2, rfl⟩, hP, fun u post hM H => wW u post ?_⟩
        obtain ⟨Ra, Wa, a1, a2, a3, a4, a5, a6, a7, a8, a9, a10, a11, a12, a13, a14, a15, a16, a17, a18, a19, a20, a21, a22, a23, a24⟩ := u
        exact tl_write hxr hxk hyc hM (fun z => absurd r3 z) (fun _ _ => H _ hM) (fun _ z => absurd z k5) (fun _ z => absurd z k5)
    · refine ⟨K, ck, sn, dn, -1, Or.inl ⟨m1, rfl⟩, hP, fun u post hM H => wW u post ?_⟩
      obtain ⟨Ra, Wa, a1, a2, a3, a4, a5, a6, a7, a8, a9, a10, a11, a12, a13, a14, a15, a16, a17, a18, a19, a20, a21, a22, a23, a24⟩ := u
      exact tl_write hxr hxk hyc hM (fun _ => H _ hM) (fun z => absurd z r3) (fun z => absurd z r3) (fun z => absurd z r3)
  · by_cases k13 : kd < 13
    · have wB : ∀ (u : St1) (post : Int32 → St1 → Prop), wpX_bring (fun _ u => post (-1) u) u (X &&& 3) (Y &&& 3) → wpL_turn post u (nI kd) X Y v := by
        intro u post h
        obtain ⟨Ra, Wa, a1, a2, a3, a4, a5, a6, a7, a8, a9, a10, a11, a12, a13, a14, a15, a16, a17, a18, a19, a20, a21, a22, a23, a24⟩ := u
        unfold wpL_turn
        exact pk_le 8 kd (fun _ => pk_le 13 kd (fun z => absurd z (by omega)) (fun _ => h)) (fun z => absurd z (by omega))
      rw [exr, eyd] at wB
      by_cases g : xr < 3 ∧ yd < 3 ∧ xr ≠ yd
      · refine ⟨K, _, _, _, -1, Or.inl ⟨m1, rfl⟩, tl_PV_bring hP g.1 g.2.1, fun u post hM H => wB u post ?_⟩
        obtain ⟨Ra, Wa, a1, a2, a3, a4, a5, a6, a7, a8, a9, a10, a11, a12, a13, a14, a15, a16, a17, a18, a19, a20, a21, a22, a23, a24⟩ := u
        exact tl_bring hxr hyd hM (fun z => absurd g z) (fun _ _ u' hm => H u' hm)
      · refine ⟨K, ck, sn, dn, -1, Or.inl ⟨m1, rfl⟩, hP, fun u post hM H => wB u post ?_⟩
        obtain ⟨Ra, Wa, a1, a2, a3, a4, a5, a6, a7, a8, a9, a10, a11, a12, a13, a14, a15, a16, a17, a18, a19, a20, a21, a22, a23, a24⟩ := u
        exact tl_bring hxr hyd hM (fun _ _ => H _ hM) (fun z => absurd z g)
    · by_cases k15 : kd < 15
      · have wC : ∀ (u : St1) (post : Int32 → St1 → Prop), wpX_commit (fun _ u => post (-1) u) u (X &&& 3) → wpL_turn post u (nI kd) X Y v := by
          intro u post h
          obtain ⟨Ra, Wa, a1, a2, a3, a4, a5, a6, a7, a8, a9, a10, a11, a12, a13, a14, a15, a16, a17, a18, a19, a20, a21, a22, a23, a24⟩ := u
          unfold wpL_turn
          exact pk_le 8 kd (fun _ => pk_le 13 kd (fun _ => pk_le 15 kd (fun z => absurd z (by omega)) (fun _ => h)) (fun z => absurd z (by omega))) (fun z => absurd z (by omega))
        rw [exr] at wC
        obtain ⟨K', dn', hCM, hP', eW, _⟩ := tl_CM_ex xr K dn hP
        refine ⟨K', ck, sn, dn', -1, Or.inl ⟨m1, eW⟩, hP', fun u post hM H => wC u post ?_⟩
        obtain ⟨Ra, Wa, a1, a2, a3, a4, a5, a6, a7, a8, a9, a10, a11, a12, a13, a14, a15, a16, a17, a18, a19, a20, a21, a22, a23, a24⟩ := u
        exact tl_commit (by omega) hCM hM (fun _ u' hm => H u' hm)
      · refine ⟨K, ck, sn, dn, -1, Or.inl ⟨m1, rfl⟩, hP, fun u post hM H => ?_⟩
        obtain ⟨Ra, Wa, a1, a2, a3, a4, a5, a6, a7, a8, a9, a10, a11, a12, a13, a14, a15, a16, a17, a18, a19, a20, a21, a22, a23, a24⟩ := u
        unfold wpL_turn
        exact pk_le 8 kd (fun _ => pk_le 13 kd (fun _ => pk_le 15 kd (fun _ => H _ hM) (fun z => absurd z (by omega))) (fun z => absurd z (by omega))) (fun z => absurd z (by omega))
/-! the last meeting -/
theorem tl_endP {K : tl_K} {ck : Nat → Nat} {sn : Nat → Nat → Nat} {dn : Nat → Nat} {d : Nat} (hP : tl_PV K ck sn dn) (hs : ∀ j, j < 3 → sn 0 j = sn j j) (he : (∀ w, ¬ tl_TS K (sn 0) (dn 0) w) ∨ dn 0 = d + 48) :
    ∀ r, r < 3 → tl_mx (tl_mx dn 0 1) 0 2 r = tl_W K ∧ ∀ j, j < 3 → tl_m2 (tl_m2 sn 0 1) 0 2 r j = tl_ct K j (tl_W K) := by
  have nt : ∀ w, ¬ tl_TS K (sn 0) (dn 0) w := by
    rcases he with he | he
    · exact he
    · intro w hw
      have q1 := tl_PV_dn hP
      have q2 := hP.1
      have sum := (tl_ct_sum K (dn 0) (fun i hi => tl_PV_o hP hi)).1
      have p11 := hP.2.2.2.2.2.2.2.2.2.2
      have p7 := hP.2.2.2.2.2.2.1
      have a0 := p11 0 (by omega) 0 (by omega)
      have a1 := p11 0 (by omega) 1 (by omega)
      have a2 := p11 0 (by omega) 2 (by omega)
      have b1 := hs 1 (by omega)
      have b2 := hs 2 (by omega)
      obtain ⟨w1, w2, w3⟩ := hw
      have wo := (hP.2.1 w w1).1
      rcases tl_j3 wo with z | z | z
      · rw [z] at w2 w3
        omega
      · rw [z] at w2 w3
        omega
      · rw [z] at w2 w3
        omega
  obtain ⟨e0, ec⟩ := tl_PV_end hP hs nt
  have p5 := hP.2.2.2.2.1
  have p8 := hP.2.2.2.2.2.2.2.1
  intro r hr
  rcases tl_j3 hr with z | z | z
  · subst z
    refine ⟨?_, fun j hj => ?_⟩
    · rw [tl_mx_n _ 0 (show 0 ≠ 2 by omega), tl_mx_n _ 0 (show 0 ≠ 1 by omega)]
      exact e0
    · rw [tl_m2_n _ 0 (show 0 ≠ 2 by omega), tl_m2_n _ 0 (show 0 ≠ 1 by omega), hs j hj, ← e0]
      exact (ec j hj).symm
  · subst z
    refine ⟨?_, fun j hj => ?_⟩
    · rw [tl_mx_n _ 0 (show 1 ≠ 2 by omega), tl_mx_s]
      have := p8 1 (by omega)
      omega
    · rw [tl_m2_n _ 0 (show 1 ≠ 2 by omega), tl_m2_ss, hs j hj, ← e0, ec j hj]
      have := p5 1 (by omega) j hj
      omega
  · subst z
    refine ⟨?_, fun j hj => ?_⟩
    · rw [tl_mx_s, tl_mx_n _ 0 (show 2 ≠ 1 by omega), tl_mx_n _ 0 (show 0 ≠ 1 by omega)]
      have := p8 2 (by omega)
      omega
    · rw [tl_m2_ss, tl_m2_n _ 0 (show 2 ≠ 1 by omega), tl_m2_n _ 0 (show 0 ≠ 1 by omega), hs j hj, ← e0, ec j hj]
      have := p5 2 (by omega) j hj
      omega
theorem tl_meet {K : tl_K} {ck : Nat → Nat} {sn : Nat → Nat → Nat} {dn : Nat → Nat} (hP : tl_PV K ck sn dn) :
    ∃ K' ck' sn' dn', tl_W K' = tl_W K ∧ tl_PV K' ck' sn' dn' ∧ (∀ r, r < 3 → dn' r = tl_W K' ∧ ∀ j, j < 3 → sn' r j = tl_ct K' j (tl_W K')) ∧
      ∀ (u : St1) (post : St1 → Prop), tl_MT K ck sn dn u → (∀ u', tl_MT K' ck' sn' dn' u' → post u') → wpL_meet post u := by
  have P1 := tl_PV_bring hP (show 1 < 3 by omega) (show 0 < 3 by omega)
  have P2 := tl_PV_bring P1 (show 2 < 3 by omega) (show 0 < 3 by omega)
  obtain ⟨K', dn', hCM, P3, eW, hend⟩ := tl_CM_ex 48 K _ P2
  have P4 := tl_PV_bring P3 (show 0 < 3 by omega) (show 1 < 3 by omega)
  have P5 := tl_PV_bring P4 (show 0 < 3 by omega) (show 2 < 3 by omega)
  have s0 : ∀ j, j < 3 → (tl_m2 (tl_m2 sn 1 0) 2 0) 0 j = (tl_m2 (tl_m2 sn 1 0) 2 0) j j := by
    intro j hj
    have p5 := hP.2.2.2.2.1
    have e0 : (tl_m2 (tl_m2 sn 1 0) 2 0) 0 j = max (max (sn 0 j) (sn 1 j)) (sn 2 j) := by
      rw [tl_m2_ss, tl_m2_ss, tl_m2_n sn 1 (show 2 ≠ 0 by omega)]
    rcases tl_j3 hj with z | z | z
    · rw [z]
    · subst z
      have e1 : (tl_m2 (tl_m2 sn 1 0) 2 0) 1 1 = sn 1 1 := by
        rw [tl_m2_n _ 2 (show 1 ≠ 0 by omega), tl_m2_n sn 1 (show 1 ≠ 0 by omega)]
      rw [e0, e1]
      have y0 := p5 0 (by omega) 1 (by omega)
      have y2 := p5 2 (by omega) 1 (by omega)
      omega
    · subst z
      have e1 : (tl_m2 (tl_m2 sn 1 0) 2 0) 2 2 = sn 2 2 := by
        rw [tl_m2_n _ 2 (show 2 ≠ 0 by omega), tl_m2_n sn 1 (show 2 ≠ 0 by omega)]
      rw [e0, e1]
      have y0 := p5 0 (by omega) 2 (by omega)
      have y2 := p5 1 (by omega) 2 (by omega)
      omega
  refine ⟨K', _, _, _, eW, P5, tl_endP P3 s0 hend, fun u post hM H => ?_⟩
  obtain ⟨Ra, Wa, a1, a2, a3, a4, a5, a6, a7, a8, a9, a10, a11, a12, a13, a14, a15, a16, a17, a18, a19, a20, a21, a22, a23, a24⟩ := u
  unfold wpL_meet
  refine tl_bring (s := 1) (d := 0) (by omega) (by omega) hM (fun z => absurd z (by omega)) (fun _ _ u1 h1 => ?_)
  obtain ⟨Rb, Wb, b1, b2, b3, b4, b5, b6, b7, b8, b9, b10, b11, b12, b13, b14, b15, b16, b17, b18, b19, b20, b21, b22, b23, b24⟩ := u1
  refine tl_bring (s := 2) (d := 0) (by omega) (by omega) h1 (fun z => absurd z (by omega)) (fun _ _ u2 h2 => ?_)
  obtain ⟨Rc, Wc, c1, c2, c3, c4, c5, c6, c7, c8, c9, c10, c11, c12, c13, c14, c15, c16, c17, c18, c19, c20, c21, c22, c23, c24⟩ := u2
  refine tl_commit (M := 48) (by omega) hCM h2 (fun _ u3 h3 => ?_)
  obtain ⟨Rd, Wd, d1, d2, d3, d4, d5, d6, d7, d8, d9, d10, d11, d12, d13, d14, d15, d16, d17, d18, d19, d20, d21, d22, d23, d24⟩ := u3
  refine tl_bring (s := 0) (d := 1) (by omega) (by omega) h3 (fun z => absurd z (by omega)) (fun _ _ u4 h4 => ?_)
  obtain ⟨Re, We, e1, e2, e3, e4, e5, e6, e7, e8, e9, e10, e11, e12, e13, e14, e15, e16, e17, e18, e19, e20, e21, e22, e23, e24⟩ := u4
  refine tl_bring (s := 0) (d := 2) (by omega) (by omega) h4 (fun z => absurd z (by omega)) (fun _ _ u5 h5 => ?_)
  obtain ⟨Rf, Wf, f1, f2, f3, f4, f5, f6, f7, f8, f9, f10, f11, f12, f13, f14, f15, f16, f17, f18, f19, f20, f21, f22, f23, f24⟩ := u5
  exact H _ h5
/-! what a settled state answers -/
def tl_sm (y : Nat → Nat) : Nat → Nat
  | 0 => 0
  | i + 1 => tl_sm y i + y i
def tl_FS (K : tl_K) (y : Nat → Nat) (u : St1) : Prop := match u with
  | (Ra, Wa, a1, a2, a3, a4, a5, a6, a7, a8, a9, a10, a11, a12, a13, a14, a15, a16, a17, a18, a19, a20, a21, a22, a23, a24) => Ra = nI 3 ∧ Wa = nI (tl_W K) ∧ tl_W K ≤ 48 ∧ tl_sm y 4 = tl_W K ∧ (∀ j, j < 4 → y j ≤ 48) ∧
    (∀ w, w < tl_W K → a1 w = nI (tl_o K w) ∧ a2 w = nI (tl_t K w) ∧ tl_o K w < 3 ∧ tl_t K w < y (tl_o K w)) ∧
    ∀ r, r < 3 → a10 r = nI (tl_W K) ∧ (∀ j, j < 4 → a8 (4 * r + j) = nI (y j) ∧ a9 (4 * r + j) = nI (y j)) ∧ ∀ j, j < 8 → a14 (8 * r + j) = tl_sg K (tl_W K) j ∧ a15 (8 * r + j) = tl_sg K (tl_W K) j
theorem tl_FS_of {K : tl_K} {ck : Nat → Nat} {sn : Nat → Nat → Nat} {dn : Nat → Nat} {u : St1} (hM : tl_MT K ck sn dn u) (hE : ∀ r, r < 3 → dn r = tl_W K ∧ ∀ j, j < 3 → sn r j = tl_ct K j (tl_W K)) : tl_FS K (fun j => tl_ct K j (tl_W K)) u := by
  obtain ⟨hP, hT, hC, hO⟩ := hM
  obtain ⟨Ra, Wa, a1, a2, a3, a4, a5, a6, a7, a8, a9, a10, a11, a12, a13, a14, a15, a16, a17, a18, a19, a20, a21, a22, a23, a24⟩ := u
  have d0 := (hE 0 (by omega)).1
  have c3 : tl_ct K 3 (tl_W K) = 0 := tl_PV_c3 hP (by omega)
  have sum := (tl_ct_sum K (tl_W K) (fun i hi => tl_PV_o hP (by omega))).1
  refine ⟨hT.1, hT.2.1, hP.1, ?_, fun j hj => tl_PV_c48 hP (by omega) hj, fun w hw => ?_, fun r hr => ?_⟩
  · show 0 + tl_ct K 0 (tl_W K) + tl_ct K 1 (tl_W K) + tl_ct K 2 (tl_W K) + tl_ct K 3 (tl_W K) = tl_W K
    omega
  · obtain ⟨e1, e2, _⟩ := hT.2.2 w hw
    obtain ⟨ho, _, _, _, ht⟩ := hP.2.1 w hw
    refine ⟨e1, e2, ho, ?_⟩
    rw [(hE _ ho).2 _ ho] at ht
    exact ht
  · obtain ⟨h, n, T, hR, hS, hMB⟩ := hO r hr
    obtain ⟨er, es⟩ := hE r hr
    obtain ⟨h0, h8, h9, h10, h11, h13, h14, h15, h16, h17, h18, hU⟩ := hR
    have hn : n = 0 := by
      rcases Nat.eq_zero_or_pos n with z | z
      · exact z
      · obtain ⟨q1, q2, q3⟩ := (hMB (T 0)).mp ⟨0, z, rfl⟩
        have ho := (hP.2.1 _ q1).1
        rw [es _ ho] at q3
        rw [er] at q2
        omega
    subst hn
    rw [er] at h9 h10 h14 h15
    refine ⟨h10, fun j hj => ⟨?_, h9 j hj⟩, fun j hj => ⟨h14 j hj, h15 j hj⟩⟩
    rw [h8 j hj]
    by_cases z : j < 3
    · rw [es j z]
    · have e : j = 3 := by omega
      have p6 := hP.2.2.2.2.2.1 r hr
      rw [e, p6]
      show nI 0 = nI (tl_ct K 3 (tl_W K))
      rw [c3]
theorem tl_kn14 {post : Int32 → Prop} {r : Nat} {y : Nat → Nat} {Ra Wa : Int32} {a1 a2 a3 a4 a5 a6 a7 a8 a9 a10 a11 a12 a13 a14 a15 a16 a17 a18 a19 a20 a21 a22 a23 a24 : Nat → Int32} (r3 : r < 3) (h8 : ∀ j, j < 4 → a8 (4 * r + j) = nI (y j)) (H : post (nI (tl_sm y 4))) : ∀ m i, i + m = 4 → wX_known_14 post (nI r) Ra Wa a1 a2 a3 a4 a5 a6 a7 a8 a9 a10 a11 a12 a13 a14 a15 a16 a17 a18 a19 a20 a21 a22 a23 a24 (m + 1) (nI (tl_sm y i)) (nI i) := by
  intro m
  induction m with
  | zero =>
    intro i hi
    have e : i = 4 := by omega
    subst e
    unfold wX_known_14
    exact pk_le 4 4 (fun _ => H) (fun z => absurd z (by omega))
  | succ m ih =>
    intro i hi
    unfold wX_known_14
    rw [tl_i4, tl_cl (show 4 * r + i < 1000 by omega), h8 i (by omega), nI_add]
    exact pk_le 4 i (fun z => absurd z (by omega)) (fun _ => ⟨tl_vi (by omega), nm_e (nm_r (nI_1 i) (ih (i + 1) (by omega)))⟩)
theorem tl_known {post : Int32 → Prop} {K : tl_K} {y : Nat → Nat} {r : Nat} {Ra Wa : Int32} {a1 a2 a3 a4 a5 a6 a7 a8 a9 a10 a11 a12 a13 a14 a15 a16 a17 a18 a19 a20 a21 a22 a23 a24 : Nat → Int32} (r3 : r < 3) (hF : tl_FS K y (Ra, Wa, a1, a2, a3, a4, a5, a6, a7, a8, a9, a10, a11, a12, a13, a14, a15, a16, a17, a18, a19, a20, a21, a22, a23, a24)) (H : post (nI (tl_W K))) : wpX_known post (Ra, Wa, a1, a2, a3, a4, a5, a6, a7, a8, a9, a10, a11, a12, a13, a14, a15, a16, a17, a18, a19, a20, a21, a22, a23, a24) (nI r) := by
  obtain ⟨eR, eW, kW, sm, yb, t, f⟩ := hF
  unfold wpX_known
  refine tl_bad (by omega) eR (fun _ => br_t rfl ⟨5, ?_⟩) (fun z => absurd z (by omega))
  exact tl_kn14 r3 (fun j hj => ((f r r3).2.1 j hj).1) (by rw [sm]; exact H) 4 0 rfl
theorem tl_committed {post : Int32 → Prop} {K : tl_K} {y : Nat → Nat} {r : Nat} {Ra Wa : Int32} {a1 a2 a3 a4 a5 a6 a7 a8 a9 a10 a11 a12 a13 a14 a15 a16 a17 a18 a19 a20 a21 a22 a23 a24 : Nat → Int32} (r3 : r < 3) (hF : tl_FS K y (Ra, Wa, a1, a2, a3, a4, a5, a6, a7, a8, a9, a10, a11, a12, a13, a14, a15, a16, a17, a18, a19, a20, a21, a22, a23, a24)) (H : post (nI (tl_W K))) : wpX_committed post (Ra, Wa, a1, a2, a3, a4, a5, a6, a7, a8, a9, a10, a11, a12, a13, a14, a15, a16, a17, a18, a19, a20, a21, a22, a23, a24) (nI r) := by
  obtain ⟨eR, eW, kW, sm, yb, t, f⟩ := hF
  unfold wpX_committed
  refine tl_bad (by omega) eR (fun _ => br_t rfl ⟨tl_vi (by omega), ?_⟩) (fun z => absurd z (by omega))
  rw [tl_cl (show r < 1000 by omega), (f r r3).1]
  exact H
theorem tl_cell {post : Int32 → Prop} {K : tl_K} {y : Nat → Nat} {r j : Nat} {Ra Wa : Int32} {a1 a2 a3 a4 a5 a6 a7 a8 a9 a10 a11 a12 a13 a14 a15 a16 a17 a18 a19 a20 a21 a22 a23 a24 : Nat → Int32} (r3 : r < 3) (j8 : j < 8) (hF : tl_FS K y (Ra, Wa, a1, a2, a3, a4, a5, a6, a7, a8, a9, a10, a11, a12, a13, a14, a15, a16, a17, a18, a19, a20, a21, a22, a23, a24)) (H : post (tl_sg K (tl_W K) j)) : wpX_cell post (Ra, Wa, a1, a2, a3, a4, a5, a6, a7, a8, a9, a10, a11, a12, a13, a14, a15, a16, a17, a18, a19, a20, a21, a22, a23, a24) (nI r) (nI j) := by
  obtain ⟨eR, eW, kW, sm, yb, t, f⟩ := hF
  unfold wpX_cell
  refine tl_bad (by omega) eR (fun _ => br_t rfl (pk_lt j 0 (fun z => absurd z (by omega)) (fun _ => pk_le j 7 (fun _ => ?_) (fun z => absurd z (by omega))))) (fun z => absurd z (by omega))
  rw [tl_i8, tl_cl (show 8 * r + j < 1000 by omega), ((f r r3).2.2 j j8).2]
  exact ⟨tl_vi (by omega), H⟩
theorem tl_stable {post : Int32 → Prop} {K : tl_K} {y : Nat → Nat} {r j : Nat} {Ra Wa : Int32} {a1 a2 a3 a4 a5 a6 a7 a8 a9 a10 a11 a12 a13 a14 a15 a16 a17 a18 a19 a20 a21 a22 a23 a24 : Nat → Int32} (r3 : r < 3) (j8 : j < 8) (hF : tl_FS K y (Ra, Wa, a1, a2, a3, a4, a5, a6, a7, a8, a9, a10, a11, a12, a13, a14, a15, a16, a17, a18, a19, a20, a21, a22, a23, a24)) (H : post (tl_sg K (tl_W K) j)) : wpX_stable post (Ra, Wa, a1, a2, a3, a4, a5, a6, a7, a8, a9, a10, a11, a12, a13, a14, a15, a16, a17, a18, a19, a20, a21, a22, a23, a24) (nI r) (nI j) := by
  obtain ⟨eR, eW, kW, sm, yb, t, f⟩ := hF
  unfold wpX_stable
  refine tl_bad (by omega) eR (fun _ => br_t rfl (pk_lt j 0 (fun z => absurd z (by omega)) (fun _ => pk_le j 7 (fun _ => ?_) (fun z => absurd z (by omega))))) (fun z => absurd z (by omega))
  rw [tl_i8, tl_cl (show 8 * r + j < 1000 by omega), ((f r r3).2.2 j j8).1]
  exact ⟨tl_vi (by omega), H⟩
theorem tl_standing {post : Int32 → Prop} {K : tl_K} {y : Nat → Nat} {r w : Nat} {Ra Wa : Int32} {a1 a2 a3 a4 a5 a6 a7 a8 a9 a10 a11 a12 a13 a14 a15 a16 a17 a18 a19 a20 a21 a22 a23 a24 : Nat → Int32} (r3 : r < 3) (hw : w < tl_W K) (hF : tl_FS K y (Ra, Wa, a1, a2, a3, a4, a5, a6, a7, a8, a9, a10, a11, a12, a13, a14, a15, a16, a17, a18, a19, a20, a21, a22, a23, a24)) (H : post 1) : wpX_standing post (Ra, Wa, a1, a2, a3, a4, a5, a6, a7, a8, a9, a10, a11, a12, a13, a14, a15, a16, a17, a18, a19, a20, a21, a22, a23, a24) (nI r) (nI w) := by
  obtain ⟨eR, eW, kW, sm, yb, t, f⟩ := hF
  obtain ⟨e1, e2, ho, ht⟩ := t w hw
  have yo := yb (tl_o K w) (by omega)
  obtain ⟨q8, q9⟩ := (f r r3).2.1 (tl_o K w) (by omega)
  unfold wpX_standing
  refine tl_bad (by omega) eR (fun _ => br_t rfl (pk_lt w 0 (fun z => absurd z (by omega)) (fun _ => pk_lt w (tl_W K) (fun _ => ?_) (fun z => absurd z (by omega)) rfl eW))) (fun z => absurd z (by omega))
  rw [tl_cl (show w < 1000 by omega), e1, e2]
  refine ⟨tl_vi (by omega), nm_r (tl_i4 r (tl_o K w)) ⟨tl_vi (by omega), tl_vi (by omega), ?_⟩⟩
  rw [tl_cl (show 4 * r + tl_o K w < 1000 by omega), q8, q9]
  exact pk_lt (tl_t K w) (y (tl_o K w)) (fun _ => ⟨tl_vi (by omega), tl_vi (by omega), pk_le (y (tl_o K w)) (tl_t K w) (fun z => absurd z (by omega)) (fun _ => H)⟩) (fun z => absurd z (by omega))
theorem tl_s98 {post : Int32 → Prop} {K : tl_K} {y : Nat → Nat} {r : Nat} {Ra Wa : Int32} {a1 a2 a3 a4 a5 a6 a7 a8 a9 a10 a11 a12 a13 a14 a15 a16 a17 a18 a19 a20 a21 a22 a23 a24 : Nat → Int32} {Rb Wb : Int32} {b1 b2 b3 b4 b5 b6 b7 b8 b9 b10 b11 b12 b13 b14 b15 b16 b17 b18 b19 b20 b21 b22 b23 b24 : Nat → Int32} (r3 : r < 3) (hA : tl_FS K y (Ra, Wa, a1, a2, a3, a4, a5, a6, a7, a8, a9, a10, a11, a12, a13, a14, a15, a16, a17, a18, a19, a20, a21, a22, a23, a24)) (hB : tl_FS K y (Rb, Wb, b1, b2, b3, b4, b5, b6, b7, b8, b9, b10, b11, b12, b13, b14, b15, b16, b17, b18, b19, b20, b21, b22, b23, b24)) (H : post 1) : ∀ fu i, tl_W K - i < fu → i ≤ tl_W K → wL_settled_98 post (nI r) (nI (tl_W K)) Ra Wa a1 a2 a3 a4 a5 a6 a7 a8 a9 a10 a11 a12 a13 a14 a15 a16 a17 a18 a19 a20 a21 a22 a23 a24 Rb Wb b1 b2 b3 b4 b5 b6 b7 b8 b9 b10 b11 b12 b13 b14 b15 b16 b17 b18 b19 b20 b21 b22 b23 b24 fu (nI i) := by
  have kW : tl_W K ≤ 48 := hA.2.2.1
  intro fu
  induction fu with
  | zero => intro i hi; omega
  | succ fu ih =>
    intro i hi hiW
    unfold wL_settled_98
    exact pk_le (tl_W K) i (fun _ => H) (fun q => tl_standing r3 q hA (br_t rfl (tl_standing r3 q hB (br_t rfl (nm_r (nI_1 i) (ih (i + 1) (by omega) (by omega)))))))
end
section
theorem tl_s23 {post : Int32 → Prop} {K : tl_K} {y : Nat → Nat} {r : Nat} {Ra Wa : Int32} {a1 a2 a3 a4 a5 a6 a7 a8 a9 a10 a11 a12 a13 a14 a15 a16 a17 a18 a19 a20 a21 a22 a23 a24 : Nat → Int32} {Rb Wb : Int32} {b1 b2 b3 b4 b5 b6 b7 b8 b9 b10 b11 b12 b13 b14 b15 b16 b17 b18 b19 b20 b21 b22 b23 b24 : Nat → Int32} (r3 : r < 3) (hA : tl_FS K y (Ra, Wa, a1, a2, a3, a4, a5, a6, a7, a8, a9, a10, a11, a12, a13, a14, a15, a16, a17, a18, a19, a20, a21, a22, a23, a24)) (hB : tl_FS K y (Rb, Wb, b1, b2, b3, b4, b5, b6, b7, b8, b9, b10, b11, b12, b13, b14, b15, b16, b17, b18, b19, b20, b21, b22, b23, b24)) (H : post 1) : ∀ m i, i + m = 8 → wL_settled_23 post (nI r) (nI (tl_W K)) Ra Wa a1 a2 a3 a4 a5 a6 a7 a8 a9 a10 a11 a12 a13 a14 a15 a16 a17 a18 a19 a20 a21 a22 a23 a24 Rb Wb b1 b2 b3 b4 b5 b6 b7 b8 b9 b10 b11 b12 b13 b14 b15 b16 b17 b18 b19 b20 b21 b22 b23 b24 (m + 1) (nI i) := by
  intro m
  induction m with
  | zero =>
    intro i hi
    unfold wL_settled_23
    exact pk_le 8 i (fun _ => ⟨tl_W K + 1, tl_s98 r3 hA hB H (tl_W K + 1) 0 (by omega) (by omega)⟩) (fun z => absurd z (by omega))
  | succ m ih =>
    intro i hi
    unfold wL_settled_23
    refine pk_le 8 i (fun z => absurd z (by omega)) (fun _ => tl_cell (r := 0) (by omega) (by omega) hA (tl_cell r3 (by omega) hA (br_t rfl (tl_stable r3 (by omega) hA (br_t rfl (tl_cell r3 (by omega) hB (br_t rfl (tl_stable r3 (by omega) hB (br_t rfl (nm_r (nI_1 i) (ih (i + 1) (by omega)))))))))))) 
theorem tl_settled {post : Int32 → Prop} {K : tl_K} {y : Nat → Nat} {r : Nat} {Ra Wa : Int32} {a1 a2 a3 a4 a5 a6 a7 a8 a9 a10 a11 a12 a13 a14 a15 a16 a17 a18 a19 a20 a21 a22 a23 a24 : Nat → Int32} {Rb Wb : Int32} {b1 b2 b3 b4 b5 b6 b7 b8 b9 b10 b11 b12 b13 b14 b15 b16 b17 b18 b19 b20 b21 b22 b23 b24 : Nat → Int32} (r3 : r < 3) (hA : tl_FS K y (Ra, Wa, a1, a2, a3, a4, a5, a6, a7, a8, a9, a10, a11, a12, a13, a14, a15, a16, a17, a18, a19, a20, a21, a22, a23, a24)) (hB : tl_FS K y (Rb, Wb, b1, b2, b3, b4, b5, b6, b7, b8, b9, b10, b11, b12, b13, b14, b15, b16, b17, b18, b19, b20, b21, b22, b23, b24)) (H : post 1) : wpL_settled post (Ra, Wa, a1, a2, a3, a4, a5, a6, a7, a8, a9, a10, a11, a12, a13, a14, a15, a16, a17, a18, a19, a20, a21, a22, a23, a24, Rb, Wb, b1, b2, b3, b4, b5, b6, b7, b8, b9, b10, b11, b12, b13, b14, b15, b16, b17, b18, b19, b20, b21, b22, b23, b24) (nI r) (nI (tl_W K)) := by
  unfold wpL_settled
  exact tl_known r3 hA (br_t rfl (tl_committed r3 hA (br_t rfl ⟨9, tl_s23 r3 hA hB H 8 0 rfl⟩)))
/-! the law's loop -/
theorem tl_p1 (k : Nat) : nI k + 1 = nI (k + 1) := nI_1 k
theorem tl_p2 (k : Nat) : nI k + 2 = nI (k + 2) := nI_add k 2
theorem tl_p3 (k : Nat) : nI k + 3 = nI (k + 3) := nI_add k 3
theorem tl_p4 (k : Nat) : nI k + 4 = nI (k + 4) := nI_add k 4
theorem tl_l124 {post : Int32 → Prop} {L : Nat} {xs : Nat → Int32} {J : Int32 → Int32 → Int32 → Int32 → (Nat → Int32) → (Nat → Int32) → (Nat → Int32) → (Nat → Int32) → (Nat → Int32) → (Nat → Int32) → (Nat → Int32) → (Nat → Int32) → (Nat → Int32) → (Nat → Int32) → (Nat → Int32) → (Nat → Int32) → (Nat → Int32) → (Nat → Int32) → (Nat → Int32) → (Nat → Int32) → (Nat → Int32) → (Nat → Int32) → (Nat → Int32) → (Nat → Int32) → (Nat → Int32) → (Nat → Int32) → (Nat → Int32) → (Nat → Int32) → Int32 → Int32 → (Nat → Int32) → (Nat → Int32) → (Nat → Int32) → (Nat → Int32) → (Nat → Int32) → (Nat → Int32) → (Nat → Int32) → (Nat → Int32) → (Nat → Int32) → (Nat → Int32) → (Nat → Int32) → (Nat → Int32) → (Nat → Int32) → (Nat → Int32) → (Nat → Int32) → (Nat → Int32) → (Nat → Int32) → (Nat → Int32) → (Nat → Int32) → (Nat → Int32) → (Nat → Int32) → (Nat → Int32) → (Nat → Int32) → (Nat → Int32) → Prop} {K : tl_K} {ck : Nat → Nat} {sn : Nat → Nat → Nat} {dn : Nat → Nat} {k kd kc ks : Nat} {x3 : Int32} {Ra Wa : Int32} {a1 a2 a3 a4 a5 a6 a7 a8 a9 a10 a11 a12 a13 a14 a15 a16 a17 a18 a19 a20 a21 a22 a23 a24 : Nat → Int32} {Rb Wb : Int32} {b1 b2 b3 b4 b5 b6 b7 b8 b9 b10 b11 b12 b13 b14 b15 b16 b17 b18 b19 b20 b21 b22 b23 b24 : Nat → Int32} (hL : L ≤ 260) (hk : k + 3 < L) (hkd : kd < 16) (hA : tl_MT K ck sn dn (Ra, Wa, a1, a2, a3, a4, a5, a6, a7, a8, a9, a10, a11, a12, a13, a14, a15, a16, a17, a18, a19, a20, a21, a22, a23, a24)) (hB : tl_MT K ck sn dn (Rb, Wb, b1, b2, b3, b4, b5, b6, b7, b8, b9, b10, b11, b12, b13, b14, b15, b16, b17, b18, b19, b20, b21, b22, b23, b24))
    (H : ∀ (Rc Wc : Int32) (c1 c2 c3 c4 c5 c6 c7 c8 c9 c10 c11 c12 c13 c14 c15 c16 c17 c18 c19 c20 c21 c22 c23 c24 : Nat → Int32), tl_MT K ck sn dn (Rc, Wc, c1, c2, c3, c4, c5, c6, c7, c8, c9, c10, c11, c12, c13, c14, c15, c16, c17, c18, c19, c20, c21, c22, c23, c24) → J x3 (nI (k + 4)) Rc Wc c1 c2 c3 c4 c5 c6 c7 c8 c9 c10 c11 c12 c13 c14 c15 c16 c17 c18 c19 c20 c21 c22 c23 c24 Rb Wb b1 b2 b3 b4 b5 b6 b7 b8 b9 b10 b11 b12 b13 b14 b15 b16 b17 b18 b19 b20 b21 b22 b23 b24) : wL_law_124 post L xs J x3 (nI k) (nI kd) kc ks Ra Wa a1 a2 a3 a4 a5 a6 a7 a8 a9 a10 a11 a12 a13 a14 a15 a16 a17 a18 a19 a20 a21 a22 a23 a24 Rb Wb b1 b2 b3 b4 b5 b6 b7 b8 b9 b10 b11 b12 b13 b14 b15 b16 b17 b18 b19 b20 b21 b22 b23 b24 := by
  obtain ⟨xr, hxr, exr⟩ := pk_andE (xs (k + 1)) (m := 3) 2 (by decide)
  obtain ⟨yk, hyk, eyk⟩ := pk_andE (xs (k + 2)) (m := 63) 6 (by decide)
  unfold wL_law_124
  rw [tl_p1, tl_p2, tl_p4, nI_clamp (show k + 1 < 2 ^ 31 by omega), nI_clamp (show k + 2 < 2 ^ 31 by omega), exr, eyk]
  refine pk_eq kd 15 (fun _ => ⟨vp_in_nI (by omega) (by omega), vp_in_nI (by omega) (by omega), tl_trim hxr (by omega) hA (fun _ u' hM => ?_)⟩) (fun _ => nm_e (H _ _ _ _ _ _ _ _ _ _ _ _ _ _ _ _ _ _ _ _ _ _ _ _ _ _ hA))
  obtain ⟨Rc, Wc, c1, c2, c3, c4, c5, c6, c7, c8, c9, c10, c11, c12, c13, c14, c15, c16, c17, c18, c19, c20, c21, c22, c23, c24⟩ := u'
  exact nm_e (H _ _ _ _ _ _ _ _ _ _ _ _ _ _ _ _ _ _ _ _ _ _ _ _ _ _ hM)
theorem tl_l71 {post : Int32 → Prop} {L : Nat} {xs : Nat → Int32} {J : Int32 → Int32 → Int32 → Int32 → (Nat → Int32) → (Nat → Int32) → (Nat → Int32) → (Nat → Int32) → (Nat → Int32) → (Nat → Int32) → (Nat → Int32) → (Nat → Int32) → (Nat → Int32) → (Nat → Int32) → (Nat → Int32) → (Nat → Int32) → (Nat → Int32) → (Nat → Int32) → (Nat → Int32) → (Nat → Int32) → (Nat → Int32) → (Nat → Int32) → (Nat → Int32) → (Nat → Int32) → (Nat → Int32) → (Nat → Int32) → (Nat → Int32) → (Nat → Int32) → Int32 → Int32 → (Nat → Int32) → (Nat → Int32) → (Nat → Int32) → (Nat → Int32) → (Nat → Int32) → (Nat → Int32) → (Nat → Int32) → (Nat → Int32) → (Nat → Int32) → (Nat → Int32) → (Nat → Int32) → (Nat → Int32) → (Nat → Int32) → (Nat → Int32) → (Nat → Int32) → (Nat → Int32) → (Nat → Int32) → (Nat → Int32) → (Nat → Int32) → (Nat → Int32) → (Nat → Int32) → (Nat → Int32) → (Nat → Int32) → (Nat → Int32) → Prop} {K : tl_K} {ck : Nat → Nat} {sn : Nat → Nat → Nat} {dn : Nat → Nat} {k kd kc ks : Nat} {v : Int32} {Ra Wa : Int32} {a1 a2 a3 a4 a5 a6 a7 a8 a9 a10 a11 a12 a13 a14 a15 a16 a17 a18 a19 a20 a21 a22 a23 a24 : Nat → Int32} {Rb Wb : Int32} {b1 b2 b3 b4 b5 b6 b7 b8 b9 b10 b11 b12 b13 b14 b15 b16 b17 b18 b19 b20 b21 b22 b23 b24 : Nat → Int32} (hL : L ≤ 260) (hk : k + 3 < L) (hkd : kd < 16) (hA : tl_MT K ck sn dn (Ra, Wa, a1, a2, a3, a4, a5, a6, a7, a8, a9, a10, a11, a12, a13, a14, a15, a16, a17, a18, a19, a20, a21, a22, a23, a24)) (hB : tl_MT K ck sn dn (Rb, Wb, b1, b2, b3, b4, b5, b6, b7, b8, b9, b10, b11, b12, b13, b14, b15, b16, b17, b18, b19, b20, b21, b22, b23, b24))
    (H : ∀ K' ck' sn' dn' (Rc Wc : Int32) (c1 c2 c3 c4 c5 c6 c7 c8 c9 c10 c11 c12 c13 c14 c15 c16 c17 c18 c19 c20 c21 c22 c23 c24 : Nat → Int32) (Rd Wd : Int32) (d1 d2 d3 d4 d5 d6 d7 d8 d9 d10 d11 d12 d13 d14 d15 d16 d17 d18 d19 d20 d21 d22 d23 d24 : Nat → Int32), tl_MT K' ck' sn' dn' (Rc, Wc, c1, c2, c3, c4, c5, c6, c7, c8, c9, c10, c11, c12, c13, c14, c15, c16, c17, c18, c19, c20, c21, c22, c23, c24) → tl_MT K' ck' sn' dn' (Rd, Wd, d1, d2, d3, d4, d5, d6, d7, d8, d9, d10, d11, d12, d13, d14, d15, d16, d17, d18, d19, d20, d21, d22, d23, d24) → J (nI (tl_W K')) (nI (k + 4)) Rc Wc c1 c2 c3 c4 c5 c6 c7 c8 c9 c10 c11 c12 c13 c14 c15 c16 c17 c18 c19 c20 c21 c22 c23 c24 Rd Wd d1 d2 d3 d4 d5 d6 d7 d8 d9 d10 d11 d12 d13 d14 d15 d16 d17 d18 d19 d20 d21 d22 d23 d24) : wL_law_71 post L xs J (nI (tl_W K)) (nI k) (nI kd) v kc ks Ra Wa a1 a2 a3 a4 a5 a6 a7 a8 a9 a10 a11 a12 a13 a14 a15 a16 a17 a18 a19 a20 a21 a22 a23 a24 Rb Wb b1 b2 b3 b4 b5 b6 b7 b8 b9 b10 b11 b12 b13 b14 b15 b16 b17 b18 b19 b20 b21 b22 b23 b24 := by
  obtain ⟨K', ck', sn', dn', rr, hrr, _, ht⟩ := tl_turn hA.1 kd hkd (xs (k + 1)) (xs (k + 2)) v
  unfold wL_law_71
  rw [tl_p1, tl_p2, nI_clamp (show k + 1 < 2 ^ 31 by omega), nI_clamp (show k + 2 < 2 ^ 31 by omega)]
  refine ⟨vp_in_nI (by omega) (by omega), vp_in_nI (by omega) (by omega), ht _ _ hA (fun u1 h1 => ?_)⟩
  obtain ⟨Rc, Wc, c1, c2, c3, c4, c5, c6, c7, c8, c9, c10, c11, c12, c13, c14, c15, c16, c17, c18, c19, c20, c21, c22, c23, c24⟩ := u1
  refine ⟨vp_in_nI (by omega) (by omega), vp_in_nI (by omega) (by omega), ht _ _ hB (fun u2 h2 => ?_)⟩
  obtain ⟨Rd, Wd, d1, d2, d3, d4, d5, d6, d7, d8, d9, d10, d11, d12, d13, d14, d15, d16, d17, d18, d19, d20, d21, d22, d23, d24⟩ := u2
  rcases hrr with ⟨q1, q2⟩ | ⟨q1, q2⟩
  · refine br_t q1 ?_
    rw [← q2]
    exact tl_l124 hL hk hkd h1 h2 (fun Re We e1 e2 e3 e4 e5 e6 e7 e8 e9 e10 e11 e12 e13 e14 e15 e16 e17 e18 e19 e20 e21 e22 e23 e24 hM => H K' ck' sn' dn' _ _ _ _ _ _ _ _ _ _ _ _ _ _ _ _ _ _ _ _ _ _ _ _ _ _ _ _ _ _ _ _ _ _ _ _ _ _ _ _ _ _ _ _ _ _ _ _ _ _ _ _ hM h2)
  · refine br_f q1 (nm_r (nI_1 _) ?_)
    rw [← q2]
    exact tl_l124 hL hk hkd h1 h2 (fun Re We e1 e2 e3 e4 e5 e6 e7 e8 e9 e10 e11 e12 e13 e14 e15 e16 e17 e18 e19 e20 e21 e22 e23 e24 hM => H K' ck' sn' dn' _ _ _ _ _ _ _ _ _ _ _ _ _ _ _ _ _ _ _ _ _ _ _ _ _ _ _ _ _ _ _ _ _ _ _ _ _ _ _ _ _ _ _ _ _ _ _ _ _ _ _ _ hM h2)
theorem tl_l23 {L : Nat} {xs : Nat → Int32} {kc ks : Nat} (hL : L ≤ 260) : ∀ (fu k : Nat) (K : tl_K) (ck : Nat → Nat) (sn : Nat → Nat → Nat) (dn : Nat → Nat) (Ra Wa : Int32) (a1 a2 a3 a4 a5 a6 a7 a8 a9 a10 a11 a12 a13 a14 a15 a16 a17 a18 a19 a20 a21 a22 a23 a24 : Nat → Int32) (Rb Wb : Int32) (b1 b2 b3 b4 b5 b6 b7 b8 b9 b10 b11 b12 b13 b14 b15 b16 b17 b18 b19 b20 b21 b22 b23 b24 : Nat → Int32), L - k < fu → k ≤ L → tl_MT K ck sn dn (Ra, Wa, a1, a2, a3, a4, a5, a6, a7, a8, a9, a10, a11, a12, a13, a14, a15, a16, a17, a18, a19, a20, a21, a22, a23, a24) → tl_MT K ck sn dn (Rb, Wb, b1, b2, b3, b4, b5, b6, b7, b8, b9, b10, b11, b12, b13, b14, b15, b16, b17, b18, b19, b20, b21, b22, b23, b24) →
    wL_law_23 (fun r => r = 1) L xs kc ks fu (nI (tl_W K)) (nI k) Ra Wa a1 a2 a3 a4 a5 a6 a7 a8 a9 a10 a11 a12 a13 a14 a15 a16 a17 a18 a19 a20 a21 a22 a23 a24 Rb Wb b1 b2 b3 b4 b5 b6 b7 b8 b9 b10 b11 b12 b13 b14 b15 b16 b17 b18 b19 b20 b21 b22 b23 b24 := by
  intro fu
  induction fu with
  | zero => intro k K ck sn dn Ra Wa a1 a2 a3 a4 a5 a6 a7 a8 a9 a10 a11 a12 a13 a14 a15 a16 a17 a18 a19 a20 a21 a22 a23 a24 Rb Wb b1 b2 b3 b4 b5 b6 b7 b8 b9 b10 b11 b12 b13 b14 b15 b16 b17 b18 b19 b20 b21 b22 b23 b24 hk; omega
  | succ fu ih =>
    intro k K ck sn dn Ra Wa a1 a2 a3 a4 a5 a6 a7 a8 a9 a10 a11 a12 a13 a14 a15 a16 a17 a18 a19 a20 a21 a22 a23 a24 Rb Wb b1 b2 b3 b4 b5 b6 b7 b8 b9 b10 b11 b12 b13 b14 b15 b16 b17 b18 b19 b20 b21 b22 b23 b24 hk hkL hA hB
    unfold wL_law_23
    refine pk_le L (k + 3) (fun z => ?_) (fun z => ?_) rfl (tl_p3 k)
    · obtain ⟨K', ck', sn', dn', eW, _, hE, hm⟩ := tl_meet hA.1
      refine hm _ _ hA (fun u1 h1 => ?_)
      obtain ⟨Rc, Wc, c1, c2, c3, c4, c5, c6, c7, c8, c9, c10, c11, c12, c13, c14, c15, c16, c17, c18, c19, c20, c21, c22, c23, c24⟩ := u1
      refine hm _ _ hB (fun u2 h2 => ?_)
      obtain ⟨Rd, Wd, d1, d2, d3, d4, d5, d6, d7, d8, d9, d10, d11, d12, d13, d14, d15, d16, d17, d18, d19, d20, d21, d22, d23, d24⟩ := u2
      have f1 := tl_FS_of h1 hE
      have f2 := tl_FS_of h2 hE
      rw [← eW]
      exact tl_settled (r := 0) (by omega) f1 f2 (br_f (by decide) (tl_settled (r := 1) (by omega) f1 f2 (br_f (by decide) (tl_settled (r := 2) (by omega) f1 f2 (br_f (by decide) rfl)))))
    · have hk3 : k + 3 < L := by omega
      obtain ⟨kd, hkd, ekd⟩ := pk_andE (xs k) (m := 15) 4 (by decide)
      have J : ∀ v : Int32, wL_law_71 (fun r => r = 1) L xs (wL_law_23 (fun r => r = 1) L xs kc ks fu) (nI (tl_W K)) (nI k) (nI kd) v kc ks Ra Wa a1 a2 a3 a4 a5 a6 a7 a8 a9 a10 a11 a12 a13 a14 a15 a16 a17 a18 a19 a20 a21 a22 a23 a24 Rb Wb b1 b2 b3 b4 b5 b6 b7 b8 b9 b10 b11 b12 b13 b14 b15 b16 b17 b18 b19 b20 b21 b22 b23 b24 := fun v =>
        tl_l71 hL hk3 hkd hA hB (fun K' ck' sn' dn' Rc Wc c1 c2 c3 c4 c5 c6 c7 c8 c9 c10 c11 c12 c13 c14 c15 c16 c17 c18 c19 c20 c21 c22 c23 c24 Rd Wd d1 d2 d3 d4 d5 d6 d7 d8 d9 d10 d11 d12 d13 d14 d15 d16 d17 d18 d19 d20 d21 d22 d23 d24 h1 h2 => ih (k + 4) K' ck' sn' dn' _ _ _ _ _ _ _ _ _ _ _ _ _ _ _ _ _ _ _ _ _ _ _ _ _ _ _ _ _ _ _ _ _ _ _ _ _ _ _ _ _ _ _ _ _ _ _ _ _ _ _ _ (by omega) (by omega) h1 h2)
      rw [nI_clamp (show k < 2 ^ 31 by omega), ekd, tl_p3]
      exact ⟨vp_in_nI (by omega) (by omega), nm_e ⟨vp_in_nI (by omega) (by omega), br_c (fun _ => ⟨vp_in_nI (by omega) (by omega), J _⟩) (fun _ => ⟨vp_in_nI (by omega) (by omega), J _⟩)⟩⟩
theorem tl_MT_0 : tl_MT tl_K0 (fun _ => 0) (fun _ _ => 0) (fun _ => 0) ((3 : Int32), (0 : Int32), fun _ => 0, fun _ => 0, fun _ => 0, fun _ => 0, fun _ => 0, fun _ => 0, fun _ => 0, fun _ => 0, fun _ => 0, fun _ => 0, fun _ => 0, fun _ => 0, fun _ => 0, fun _ => 0, fun _ => 0, fun _ => 0, fun _ => 0, fun _ => 0, fun _ => 0, fun _ => 0, fun _ => 0, fun _ => 0, fun _ => 0, fun _ => 0) := by
  refine ⟨tl_PV_0, ⟨rfl, rfl, fun w hw => absurd hw (Nat.not_lt_zero _)⟩, fun r hr => rfl, fun r hr => ⟨0, 0, fun _ => 0, ?_, fun i j _ hj => absurd hj (Nat.not_lt_zero _), fun x => ⟨fun ⟨i, hi, _⟩ => absurd hi (Nat.not_lt_zero _), fun q => absurd q.1 (Nat.not_lt_zero _)⟩⟩⟩
  exact ⟨⟨Nat.zero_le _, Nat.zero_le _, Nat.zero_le _, Nat.zero_le _⟩, fun j hj => rfl, fun j hj => rfl, rfl, rfl, fun i hi hi2 => absurd hi2 (Nat.not_lt_zero _), fun j hj => rfl, fun j hj => rfl, rfl, rfl, fun i hi => absurd hi (Nat.not_lt_zero _), fun i hi => absurd hi (Nat.not_lt_zero _)⟩
theorem tl_init {post : St1 → Prop} (H : post ((3 : Int32), (0 : Int32), fun _ => 0, fun _ => 0, fun _ => 0, fun _ => 0, fun _ => 0, fun _ => 0, fun _ => 0, fun _ => 0, fun _ => 0, fun _ => 0, fun _ => 0, fun _ => 0, fun _ => 0, fun _ => 0, fun _ => 0, fun _ => 0, fun _ => 0, fun _ => 0, fun _ => 0, fun _ => 0, fun _ => 0, fun _ => 0, fun _ => 0, fun _ => 0)) : wpX_init post 24 1760 (0, 0) 3 := by
  unfold wpX_init wX_init_206
  refine ⟨by decide, by decide, by decide, by decide, by decide, by decide, by decide, by decide, by decide, by decide, by decide, by decide, by decide, by decide, by decide, by decide, by decide, by decide, by decide, by decide, by decide, by decide, by decide, by decide, by decide, by decide, by decide, by decide, by decide, by decide, by decide, by decide, by decide, by decide, by decide, by decide, by decide, by decide, by decide, by decide, by decide, by decide, by decide, by decide, by decide, by decide, by decide, by decide, br_t (by decide) (br_t (by decide) H)⟩
theorem i_vc (xs : Nat → Int32) (L : Nat) (hL : L ≤ 260) : wpL_law (fun r => r = 1) L xs := by
  unfold wpL_law
  refine ⟨24, 1760, by decide, by decide, tl_init ⟨by decide, by decide, 24, 1760, by decide, by decide, tl_init ⟨L + 1, ?_⟩⟩⟩
  exact tl_l23 hL (L + 1) 0 tl_K0 _ _ _ _ _ _ _ _ _ _ _ _ _ _ _ _ _ _ _ _ _ _ _ _ _ _ _ _ _ _ _ _ _ _ _ _ _ _ _ _ _ _ _ _ _ _ _ _ _ _ _ _ _ _ _ (by omega) (by omega) tl_MT_0 tl_MT_0
end

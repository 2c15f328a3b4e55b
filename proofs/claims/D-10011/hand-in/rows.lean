section
/-! counting -/
def dt_cn (P : Nat → Bool) : Nat → Nat
  | 0 => 0
  | n + 1 => dt_cn P n + (if P n = true then 1 else 0)
theorem dt_cn_s (P : Nat → Bool) (n : Nat) : dt_cn P (n + 1) = dt_cn P n + (if P n = true then 1 else 0) := rfl
theorem dt_cn_le (P : Nat → Bool) (n : Nat) : dt_cn P n ≤ n := by
  induction n with
  | zero => exact Nat.le_refl 0
  | succ n ih =>
    rw [dt_cn_s]
    by_cases e : P n = true
    · rw [if_pos e]; omega
    · rw [if_neg e]; omega
theorem dt_cn_mono (P : Nat → Bool) {a b : Nat} (h : a ≤ b) : dt_cn P a ≤ dt_cn P b := by
  induction h with
  | refl => exact Nat.le_refl _
  | step _ ih => rw [dt_cn_s]; exact Nat.le_trans ih (Nat.le_add_right _ _)
theorem dt_cn_congr {P Q : Nat → Bool} {n : Nat} (h : ∀ i, i < n → P i = Q i) : dt_cn P n = dt_cn Q n := by
  induction n with
  | zero => rfl
  | succ n ih => rw [dt_cn_s, dt_cn_s, ih (fun i hi => h i (by omega)), h n (by omega)]
theorem dt_cn_sub {P Q : Nat → Bool} {n : Nat} (h : ∀ i, i < n → P i = true → Q i = true) : dt_cn P n ≤ dt_cn Q n := by
  induction n with
  | zero => exact Nat.le_refl _
  | succ n ih =>
    have i1 := ih (fun i hi => h i (by omega))
    have i2 := h n (by omega)
    rw [dt_cn_s, dt_cn_s]
    by_cases e : P n = true
    · rw [if_pos e, if_pos (i2 e)]; omega
    · rw [if_neg e]; exact Nat.le_trans (by omega : dt_cn P n + 0 ≤ dt_cn Q n) (Nat.le_add_right _ _)
theorem dt_cn_lt {P Q : Nat → Bool} {n k : Nat} (h : ∀ i, i < n → P i = true → Q i = true) (hk : k < n) (hq : Q k = true) (hp : ¬ P k = true) : dt_cn P n < dt_cn Q n := by
  induction n with
  | zero => omega
  | succ n ih =>
    rw [dt_cn_s, dt_cn_s]
    by_cases e : k = n
    · subst e
      have := dt_cn_sub (P := P) (Q := Q) (n := k) (fun i hi => h i (by omega))
      rw [if_neg hp, if_pos hq]; omega
    · have i1 := ih (fun i hi => h i (by omega)) (by omega)
      have i2 := h n (by omega)
      by_cases e2 : P n = true
      · rw [if_pos e2, if_pos (i2 e2)]; omega
      · rw [if_neg e2]; exact Nat.lt_of_lt_of_le (by omega : dt_cn P n + 0 < dt_cn Q n) (Nat.le_add_right _ _)
theorem dt_cn_set {P Q : Nat → Bool} {n k : Nat} (hk : k < n) (hp : ¬ P k = true) (hq : Q k = true) (ho : ∀ i, i ≠ k → Q i = P i) : dt_cn Q n = dt_cn P n + 1 := by
  induction n with
  | zero => omega
  | succ n ih =>
    rw [dt_cn_s, dt_cn_s]
    by_cases e : k = n
    · subst e
      rw [if_neg hp, if_pos hq, dt_cn_congr (P := Q) (Q := P) (fun i hi => ho i (by omega))]
    · rw [ih (by omega), ho n (fun z => e z.symm)]
      exact Nat.add_right_comm _ _ _
/-- how many keys below n -/
def dt_c (F : Nat → Option Int32) (n : Nat) : Nat := dt_cn (fun k => (F k).isSome) n
theorem dt_c_0 (F : Nat → Option Int32) : dt_c F 0 = 0 := rfl
theorem dt_c_some {F : Nat → Option Int32} {n : Nat} {v : Int32} (h : F n = some v) : dt_c F (n + 1) = dt_c F n + 1 := by
  simp [dt_c, dt_cn_s, h]
theorem dt_c_none {F : Nat → Option Int32} {n : Nat} (h : F n = none) : dt_c F (n + 1) = dt_c F n := by
  simp [dt_c, dt_cn_s, h]
theorem dt_c_mono {F : Nat → Option Int32} {a b : Nat} (h : a ≤ b) : dt_c F a ≤ dt_c F b := dt_cn_mono _ h
theorem dt_c_lt {F : Nat → Option Int32} {a b : Nat} {v : Int32} (h : F a = some v) (hab : a < b) : dt_c F a < dt_c F b := by
  have h1 := dt_c_some h
  have h2 := dt_c_mono (F := F) (a := a + 1) (b := b) hab
  omega
theorem dt_c_congr {F G : Nat → Option Int32} {n : Nat} (h : ∀ k, k < n → F k = G k) : dt_c F n = dt_c G n :=
  dt_cn_congr (fun i hi => by show (F i).isSome = (G i).isSome; rw [h i hi])
theorem dt_c_const {F : Nat → Option Int32} {a b : Nat} (hab : a ≤ b) (h : ∀ k, a ≤ k → k < b → F k = none) : dt_c F b = dt_c F a := by
  induction hab with
  | refl => rfl
  | step hm ih =>
    rw [dt_c_none (h _ hm (Nat.lt_succ_self _))]
    exact ih (fun k h1 h2 => h k h1 (Nat.lt_succ_of_lt h2))
theorem dt_c_nth {F : Nat → Option Int32} : ∀ {n i : Nat}, i < dt_c F n → ∃ k v, k < n ∧ F k = some v ∧ dt_c F k = i := by
  intro n
  induction n with
  | zero => intro i h; exact absurd h (Nat.not_lt_zero _)
  | succ n ih =>
    intro i h
    cases e : F n with
    | none =>
      rw [dt_c_none e] at h
      obtain ⟨k, v, h1, h2, h3⟩ := ih h
      exact ⟨k, v, by omega, h2, h3⟩
    | some v =>
      rw [dt_c_some e] at h
      by_cases g : i = dt_c F n
      · exact ⟨n, v, by omega, e, g.symm⟩
      · obtain ⟨k, w, h1, h2, h3⟩ := ih (i := i) (by omega)
        exact ⟨k, w, by omega, h2, h3⟩
theorem dt_c_inj {F : Nat → Option Int32} {a b : Nat} {v w : Int32} (ha : F a = some v) (hb : F b = some w) (h : dt_c F a = dt_c F b) : a = b := by
  rcases Nat.lt_trichotomy a b with z | z | z
  · have := dt_c_lt ha z; omega
  · exact z
  · have := dt_c_lt hb z; omega
/-! one place changed -/
def dt_set (F : Nat → Option Int32) (q : Nat) (x : Option Int32) : Nat → Option Int32 := fun k => if k = q then x else F k
theorem dt_set_s {F : Nat → Option Int32} {q : Nat} {x : Option Int32} : dt_set F q x q = x := if_pos rfl
theorem dt_set_n {F : Nat → Option Int32} {q k : Nat} {x : Option Int32} (h : k ≠ q) : dt_set F q x k = F k := if_neg h
theorem dt_set_none {F : Nat → Option Int32} {q : Nat} (h : F q = none) : dt_set F q none = F := by
  funext k
  by_cases e : k = q
  · rw [e, dt_set_s, h]
  · rw [dt_set_n e]
theorem dt_c_set_lo {F : Nat → Option Int32} {q k : Nat} {x : Option Int32} (h : k ≤ q) : dt_c (dt_set F q x) k = dt_c F k :=
  dt_c_congr (fun j hj => dt_set_n (by omega))
theorem dt_c_set_new {F : Nat → Option Int32} {q k : Nat} {v : Int32} (hq : F q = none) (h : q < k) : dt_c (dt_set F q (some v)) k = dt_c F k + 1 :=
  dt_cn_set h (by show ¬ (F q).isSome = true; rw [hq]; decide) (by show (dt_set F q (some v) q).isSome = true; rw [dt_set_s]; rfl)
    (fun i hi => by show (dt_set F q (some v) i).isSome = (F i).isSome; rw [dt_set_n hi])
theorem dt_c_set_old {F : Nat → Option Int32} {q k : Nat} {v w : Int32} (hq : F q = some w) : dt_c (dt_set F q (some v)) k = dt_c F k := by
  apply dt_cn_congr
  intro i _
  show (dt_set F q (some v) i).isSome = (F i).isSome
  by_cases e : i = q
  · rw [e, dt_set_s, hq]; rfl
  · rw [dt_set_n e]
theorem dt_c_set_del {F : Nat → Option Int32} {q k : Nat} {w : Int32} (hq : F q = some w) (h : q < k) : dt_c F k = dt_c (dt_set F q none) k + 1 :=
  dt_cn_set h (by show ¬ (dt_set F q none q).isSome = true; rw [dt_set_s]; decide) (by show (F q).isSome = true; rw [hq]; rfl)
    (fun i hi => by show (F i).isSome = (dt_set F q none i).isSome; rw [dt_set_n hi])
theorem dt_c_set_le {F : Nat → Option Int32} {q k : Nat} {x : Option Int32} : dt_c (dt_set F q x) k ≤ dt_c F k + 1 := by
  rcases Nat.lt_or_ge q k with h | h
  · cases x with
    | none =>
      cases e : F q with
      | none => rw [dt_set_none e]; omega
      | some w => have := dt_c_set_del e h; omega
    | some v =>
      cases e : F q with
      | none => rw [dt_c_set_new e h]; omega
      | some w => rw [dt_c_set_old e]; omega
  · rw [dt_c_set_lo h]; omega
/-! cut, range, slice -/
def dt_cut (F : Nat → Option Int32) (q : Nat) : Nat → Option Int32 := fun k => if k < q then F k else none
theorem dt_cut_lo {F : Nat → Option Int32} {q k : Nat} (h : k < q) : dt_cut F q k = F k := if_pos h
theorem dt_cut_hi {F : Nat → Option Int32} {q k : Nat} (h : q ≤ k) : dt_cut F q k = none := if_neg (by omega)
theorem dt_c_cut_lo {F : Nat → Option Int32} {q k : Nat} (h : k ≤ q) : dt_c (dt_cut F q) k = dt_c F k :=
  dt_c_congr (fun j hj => dt_cut_lo (by omega))
theorem dt_c_cut_hi {F : Nat → Option Int32} {q k : Nat} (h : q ≤ k) : dt_c (dt_cut F q) k = dt_c F q := by
  rw [dt_c_const h (fun j h1 _ => dt_cut_hi h1), dt_c_cut_lo (Nat.le_refl _)]
def dt_rs (M : Nat → Option Int32) (a b : Nat) : Nat → Option Int32 := fun k => if a ≤ k ∧ k < b then M k else none
theorem dt_rs_in {M : Nat → Option Int32} {a b k : Nat} (h1 : a ≤ k) (h2 : k < b) : dt_rs M a b k = M k := if_pos ⟨h1, h2⟩
theorem dt_rs_out {M : Nat → Option Int32} {a b k : Nat} (h : k < a ∨ b ≤ k) : dt_rs M a b k = none := if_neg (by omega)
theorem dt_rs_some {M : Nat → Option Int32} {a b k : Nat} {v : Int32} (h : dt_rs M a b k = some v) : a ≤ k ∧ k < b ∧ M k = some v := by
  by_cases e : a ≤ k ∧ k < b
  · rw [dt_rs_in e.1 e.2] at h; exact ⟨e.1, e.2, h⟩
  · rw [dt_rs_out (by omega)] at h; exact absurd h (by simp)
theorem dt_c_rs_lo {M : Nat → Option Int32} {a b : Nat} : dt_c (dt_rs M a b) a = 0 := by
  rw [dt_c_const (Nat.zero_le a) (fun k _ h => dt_rs_out (Or.inl h))]; rfl
theorem dt_c_rs {M : Nat → Option Int32} {a b x : Nat} (h1 : a ≤ x) (h2 : x ≤ b) : dt_c M x = dt_c M a + dt_c (dt_rs M a b) x := by
  induction h1 with
  | refl => rw [dt_c_rs_lo]; rfl
  | step hm ih =>
    rename_i m
    have ih := ih (by omega)
    have hm' : a ≤ m := hm
    have hb : m < b := h2
    cases e : M m with
    | none => rw [dt_c_none e, dt_c_none (by rw [dt_rs_in hm' hb]; exact e)]; exact ih
    | some v => rw [dt_c_some e, dt_c_some (v := v) (by rw [dt_rs_in hm' hb]; exact e)]; omega
theorem dt_c_rs_hi {M : Nat → Option Int32} {a b x : Nat} (h : b ≤ x) : dt_c (dt_rs M a b) x = dt_c (dt_rs M a b) b :=
  dt_c_const h (fun _ h1 _ => dt_rs_out (Or.inr h1))
theorem dt_rs_set {M : Nat → Option Int32} {a b q : Nat} {x : Option Int32} (h1 : a ≤ q) (h2 : q < b) : dt_set (dt_rs M a b) q x = dt_rs (dt_set M q x) a b := by
  funext k
  by_cases e : k = q
  · rw [e, dt_set_s, dt_rs_in h1 h2, dt_set_s]
  · rw [dt_set_n e]
    by_cases z : a ≤ k ∧ k < b
    · rw [dt_rs_in z.1 z.2, dt_rs_in z.1 z.2, dt_set_n e]
    · rw [dt_rs_out (by omega), dt_rs_out (by omega)]
theorem dt_rs_set_out {M : Nat → Option Int32} {a b q : Nat} {x : Option Int32} (h : q < a ∨ b ≤ q) : dt_rs (dt_set M q x) a b = dt_rs M a b := by
  funext k
  by_cases z : a ≤ k ∧ k < b
  · rw [dt_rs_in z.1 z.2, dt_rs_in z.1 z.2, dt_set_n (by omega)]
  · rw [dt_rs_out (by omega), dt_rs_out (by omega)]
theorem dt_rs_rs {M : Nat → Option Int32} {a b c d : Nat} (h1 : a ≤ c) (h2 : d ≤ b) : dt_rs (dt_rs M a b) c d = dt_rs M c d := by
  funext k
  by_cases z : c ≤ k ∧ k < d
  · rw [dt_rs_in z.1 z.2, dt_rs_in z.1 z.2, dt_rs_in (by omega) (by omega)]
  · rw [dt_rs_out (by omega), dt_rs_out (by omega)]
def dt_sl (F : Nat → Option Int32) (a b : Nat) : Nat → Option Int32 := fun k => if a ≤ dt_c F k ∧ dt_c F k < b then F k else none
theorem dt_sl_in {F : Nat → Option Int32} {a b k : Nat} (h1 : a ≤ dt_c F k) (h2 : dt_c F k < b) : dt_sl F a b k = F k := if_pos ⟨h1, h2⟩
theorem dt_sl_out {F : Nat → Option Int32} {a b k : Nat} (h : dt_c F k < a ∨ b ≤ dt_c F k) : dt_sl F a b k = none := if_neg (by omega)
theorem dt_sl_some {F : Nat → Option Int32} {a b k : Nat} {v : Int32} (h : dt_sl F a b k = some v) : a ≤ dt_c F k ∧ dt_c F k < b ∧ F k = some v := by
  by_cases e : a ≤ dt_c F k ∧ dt_c F k < b
  · rw [dt_sl_in e.1 e.2] at h; exact ⟨e.1, e.2, h⟩
  · rw [dt_sl_out (by omega)] at h; exact absurd h (by simp)
theorem dt_c_sl {F : Nat → Option Int32} {a b : Nat} (hab : a ≤ b) (k : Nat) : dt_c (dt_sl F a b) k = min (dt_c F k) b - min (dt_c F k) a := by
  induction k with
  | zero => show 0 = min 0 b - min 0 a; omega
  | succ k ih =>
    cases e : F k with
    | none =>
      rw [dt_c_none e, dt_c_none, ih]
      by_cases z : a ≤ dt_c F k ∧ dt_c F k < b
      · rw [dt_sl_in z.1 z.2, e]
      · exact dt_sl_out (by omega)
    | some v =>
      by_cases z : a ≤ dt_c F k ∧ dt_c F k < b
      · rw [dt_c_some e, dt_c_some (v := v) (by rw [dt_sl_in z.1 z.2]; exact e), ih]; omega
      · rw [dt_c_some e, dt_c_none (dt_sl_out (by omega)), ih]; omega
/-- a slice is a range -/
theorem dt_sl_rs {F : Nat → Option Int32} {a b lo hi : Nat} (h1 : ∀ k v, F k = some v → (lo ≤ k ↔ a ≤ dt_c F k)) (h2 : ∀ k v, F k = some v → (k < hi ↔ dt_c F k < b)) : dt_sl F a b = dt_rs F lo hi := by
  funext k
  cases e : F k with
  | none =>
    have l : dt_sl F a b k = none := by
      by_cases z : a ≤ dt_c F k ∧ dt_c F k < b
      · rw [dt_sl_in z.1 z.2, e]
      · exact dt_sl_out (by omega)
    have r : dt_rs F lo hi k = none := by
      by_cases z : lo ≤ k ∧ k < hi
      · rw [dt_rs_in z.1 z.2, e]
      · exact dt_rs_out (by omega)
    rw [l, r]
  | some v =>
    have h1 := h1 k v e
    have h2 := h2 k v e
    by_cases z : a ≤ dt_c F k ∧ dt_c F k < b
    · rw [dt_sl_in z.1 z.2, dt_rs_in (h1.mpr z.1) (h2.mpr z.2)]
    · rw [dt_sl_out (by omega), dt_rs_out]
      rcases Nat.lt_or_ge k lo with y | y
      · exact Or.inl y
      · rcases Nat.lt_or_ge k hi with x | x
        · exact absurd ⟨h1.mp y, h2.mp x⟩ z
        · exact Or.inr x
/-- below and from a key that is there -/
theorem dt_c_ge {F : Nat → Option Int32} {k q : Nat} {v w : Int32} (hk : F k = some v) (hq : F q = some w) : q ≤ k ↔ dt_c F q ≤ dt_c F k := by
  constructor
  · exact fun h => dt_c_mono h
  · intro h
    rcases Nat.lt_or_ge k q with z | z
    · have := dt_c_lt hk z; omega
    · exact z
theorem dt_c_ltI {F : Nat → Option Int32} {k q : Nat} {v w : Int32} (hk : F k = some v) (hq : F q = some w) : k < q ↔ dt_c F k < dt_c F q := by
  have := dt_c_ge hk hq
  omega
/-! arrays that hold a map in order -/
def dt_Rep (n : Nat) (K V : Nat → Int32) (F : Nat → Option Int32) : Prop :=
  n = dt_c F 4096 ∧ ∀ k v, F k = some v → k < 4096 ∧ K (dt_c F k) = nI k ∧ V (dt_c F k) = v
theorem dt_Rep_pos {n : Nat} {K V : Nat → Int32} {F : Nat → Option Int32} {k : Nat} {v : Int32} (h : dt_Rep n K V F) (e : F k = some v) : dt_c F k < n := by
  rw [h.1]; exact dt_c_lt e (h.2 k v e).1
theorem dt_Rep_nth {n : Nat} {K V : Nat → Int32} {F : Nat → Option Int32} {i : Nat} (h : dt_Rep n K V F) (hi : i < n) : ∃ k v, k < 4096 ∧ F k = some v ∧ dt_c F k = i ∧ K i = nI k ∧ V i = v := by
  obtain ⟨h0, h1⟩ := h
  rw [h0] at hi
  obtain ⟨k, v, hk, e, ec⟩ := dt_c_nth hi
  obtain ⟨_, e1, e2⟩ := h1 k v e
  rw [ec] at e1 e2
  exact ⟨k, v, hk, e, ec, e1, e2⟩
theorem dt_Rep_lt {n : Nat} {K V : Nat → Int32} {F : Nat → Option Int32} {i q : Nat} (h : dt_Rep n K V F) (hi : i < n) (hq : q ≤ 4096) : K i < nI q ↔ i < dt_c F q := by
  obtain ⟨k, v, hk, e, ec, e1, _⟩ := dt_Rep_nth h hi
  rw [e1, nI_ltI (by omega) (by omega), ← ec]
  constructor
  · exact fun z => dt_c_lt e z
  · intro z
    rcases Nat.lt_or_ge k q with y | y
    · exact y
    · have := dt_c_mono (F := F) y; omega
theorem dt_Rep_le {n : Nat} {K V : Nat → Int32} {F : Nat → Option Int32} {i q : Nat} (h : dt_Rep n K V F) (hi : i < n) (hq : q < 4096) : K i ≤ nI q ↔ i < dt_c F (q + 1) := by
  obtain ⟨k, v, hk, e, ec, e1, _⟩ := dt_Rep_nth h hi
  rw [e1, nI_leI (by omega) (by omega), ← ec]
  constructor
  · exact fun z => dt_c_lt e (by omega)
  · intro z
    rcases Nat.lt_or_ge q k with y | y
    · have := dt_c_mono (F := F) (a := q + 1) (b := k) (by omega); omega
    · exact y
theorem dt_Rep_in {n : Nat} {K V : Nat → Int32} {F : Nat → Option Int32} {q : Nat} (h : dt_Rep n K V F) (hq : q < 4096) : (∃ v, F q = some v) ↔ dt_c F q < n ∧ K (dt_c F q) = nI q := by
  constructor
  · rintro ⟨v, e⟩
    exact ⟨dt_Rep_pos h e, (h.2 q v e).2.1⟩
  · rintro ⟨h1, h2⟩
    obtain ⟨k, v, hk, e, ec, e1, _⟩ := dt_Rep_nth h h1
    rw [e1] at h2
    have : k = q := (nI_eq (by omega) (by omega)).mp h2
    exact ⟨v, by rw [← this]; exact e⟩
theorem dt_Rep_ext {n : Nat} {K V K' V' : Nat → Int32} {F : Nat → Option Int32} (h : dt_Rep n K V F) (hk : ∀ i, i < n → K' i = K i) (hv : ∀ i, i < n → V' i = V i) : dt_Rep n K' V' F :=
  ⟨h.1, fun k v e => by
    obtain ⟨h1, h2, h3⟩ := h.2 k v e
    have hl := dt_Rep_pos h e
    exact ⟨h1, by rw [hk _ hl]; exact h2, by rw [hv _ hl]; exact h3⟩⟩
theorem dt_Rep_new {n : Nat} {K V K' V' : Nat → Int32} {F : Nat → Option Int32} {q : Nat} {v : Int32} (h : dt_Rep n K V F) (hq : q < 4096) (hn : F q = none)
    (k1 : ∀ j, j < dt_c F q → K' j = K j ∧ V' j = V j) (k2 : K' (dt_c F q) = nI q ∧ V' (dt_c F q) = v)
    (k3 : ∀ j, dt_c F q ≤ j → j < n → K' (j + 1) = K j ∧ V' (j + 1) = V j) : dt_Rep (n + 1) K' V' (dt_set F q (some v)) := by
  refine ⟨by rw [dt_c_set_new hn hq, h.1], fun k w e => ?_⟩
  rcases Nat.lt_trichotomy k q with z | z | z
  · rw [dt_set_n (by omega)] at e
    obtain ⟨h1, h2, h3⟩ := h.2 k w e
    rw [dt_c_set_lo (by omega), (k1 _ (dt_c_lt e z)).1, (k1 _ (dt_c_lt e z)).2]
    exact ⟨h1, h2, h3⟩
  · subst z
    rw [dt_set_s] at e
    rw [dt_c_set_lo (Nat.le_refl _), k2.1, k2.2]
    exact ⟨hq, rfl, Option.some.inj e⟩
  · rw [dt_set_n (by omega)] at e
    obtain ⟨h1, h2, h3⟩ := h.2 k w e
    have hm := dt_c_mono (F := F) (Nat.le_of_lt z)
    have hl := dt_Rep_pos h e
    rw [dt_c_set_new hn z, (k3 _ hm hl).1, (k3 _ hm hl).2]
    exact ⟨h1, h2, h3⟩
theorem dt_Rep_old {n : Nat} {K V K' V' : Nat → Int32} {F : Nat → Option Int32} {q : Nat} {v w : Int32} (h : dt_Rep n K V F) (hn : F q = some w)
    (k1 : ∀ j, j < n → j ≠ dt_c F q → K' j = K j ∧ V' j = V j) (k2 : K' (dt_c F q) = nI q ∧ V' (dt_c F q) = v) : dt_Rep n K' V' (dt_set F q (some v)) := by
  refine ⟨by rw [dt_c_set_old hn, h.1], fun k x e => ?_⟩
  rw [dt_c_set_old hn]
  by_cases z : k = q
  · subst z
    rw [dt_set_s] at e
    exact ⟨(h.2 k w hn).1, k2.1, by rw [k2.2]; exact Option.some.inj e⟩
  · rw [dt_set_n z] at e
    obtain ⟨h1, h2, h3⟩ := h.2 k x e
    have hl := dt_Rep_pos h e
    have hne : dt_c F k ≠ dt_c F q := fun y => z (dt_c_inj e hn y)
    rw [(k1 _ hl hne).1, (k1 _ hl hne).2]
    exact ⟨h1, h2, h3⟩
theorem dt_Rep_del {n : Nat} {K V K' V' : Nat → Int32} {F : Nat → Option Int32} {q : Nat} {w : Int32} (h : dt_Rep n K V F) (hn : F q = some w)
    (k1 : ∀ j, j < dt_c F q → K' j = K j ∧ V' j = V j) (k3 : ∀ j, dt_c F q ≤ j → j + 1 < n → K' j = K (j + 1) ∧ V' j = V (j + 1)) : dt_Rep (n - 1) K' V' (dt_set F q none) := by
  have hq := (h.2 q w hn).1
  refine ⟨?_, fun k x e => ?_⟩
  · have h0 := h.1
    have := dt_c_set_del hn hq
    omega
  rcases Nat.lt_trichotomy k q with z | z | z
  · rw [dt_set_n (by omega)] at e
    obtain ⟨h1, h2, h3⟩ := h.2 k x e
    rw [dt_c_set_lo (by omega), (k1 _ (dt_c_lt e z)).1, (k1 _ (dt_c_lt e z)).2]
    exact ⟨h1, h2, h3⟩
  · subst z
    rw [dt_set_s] at e
    exact absurd e (by simp)
  · rw [dt_set_n (by omega)] at e
    obtain ⟨h1, h2, h3⟩ := h.2 k x e
    have hc := dt_c_set_del (k := k) hn z
    have hl := dt_Rep_pos h e
    have hm : dt_c F q < dt_c F k := dt_c_lt hn z
    have hh := k3 (dt_c (dt_set F q none) k) (by omega) (by omega)
    rw [← hc] at hh
    rw [hh.1, hh.2]
    exact ⟨h1, h2, h3⟩
theorem dt_Rep_cut {n : Nat} {K V : Nat → Int32} {F : Nat → Option Int32} {q : Nat} (h : dt_Rep n K V F) (hq : q ≤ 4096) : dt_Rep (dt_c F q) K V (dt_cut F q) := by
  refine ⟨(dt_c_cut_hi hq).symm, fun k v e => ?_⟩
  rcases Nat.lt_or_ge k q with z | z
  · rw [dt_cut_lo z] at e
    rw [dt_c_cut_lo (by omega)]
    exact h.2 k v e
  · rw [dt_cut_hi z] at e
    exact absurd e (by simp)
theorem dt_Rep_sl {n n' : Nat} {K V K' V' : Nat → Int32} {F : Nat → Option Int32} {a b : Nat} (h : dt_Rep n K V F) (hab : a ≤ b) (hn : n' = min n b - min n a)
    (hK : ∀ i, i < n' → K' i = K (a + i)) (hV : ∀ i, i < n' → V' i = V (a + i)) : dt_Rep n' K' V' (dt_sl F a b) := by
  refine ⟨by rw [dt_c_sl hab, ← h.1, hn], fun k v e => ?_⟩
  obtain ⟨h1, h2, h3⟩ := dt_sl_some e
  obtain ⟨g1, g2, g3⟩ := h.2 k v h3
  have hl := dt_Rep_pos h h3
  have hx : dt_c (dt_sl F a b) k = dt_c F k - a := by rw [dt_c_sl hab]; omega
  rw [hx, hK _ (by omega), hV _ (by omega), show a + (dt_c F k - a) = dt_c F k by omega]
  exact ⟨g1, g2, g3⟩
theorem dt_Rep_0 (K V : Nat → Int32) : dt_Rep 0 K V (fun _ => none) := by
  refine ⟨?_, fun k v e => absurd e (by simp)⟩
  rw [dt_c_const (a := 0) (b := 4096) (by omega) (fun _ _ _ => rfl)]; rfl
end
section
/-! notes as ghosts: (number, kind, key, value) -/
abbrev dt_Nt : Type := Nat × Nat × Nat × Int32
def dt_Ch (a8 a9 a10 a11 : Nat → Int32) : Int32 → List dt_Nt → Prop
  | x, [] => x = -1
  | x, n :: l => x = nI n.1 ∧ n.1 < 160 ∧ a8 n.1 = nI n.2.1 ∧ a9 n.1 = nI n.2.2.1 ∧ a10 n.1 = n.2.2.2 ∧ n.2.1 < 3 ∧ n.2.2.1 < 4096 ∧ dt_Ch a8 a9 a10 a11 (a11 n.1) l
def dt_Fr (a11 : Nat → Int32) : Int32 → List Nat → Prop
  | x, [] => x = -1
  | x, n :: l => x = nI n ∧ n < 160 ∧ dt_Fr a11 (a11 n) l
def dt_nu (l : List dt_Nt) : List Nat := l.map (fun n => n.1)
theorem dt_nu_c (n : dt_Nt) (l : List dt_Nt) : dt_nu (n :: l) = n.1 :: dt_nu l := rfl
theorem dt_nu_mem {n : dt_Nt} {l : List dt_Nt} (h : n ∈ l) : n.1 ∈ dt_nu l := List.mem_map.mpr ⟨n, h, rfl⟩
theorem dt_nu_len (l : List dt_Nt) : (dt_nu l).length = l.length := List.length_map _
theorem dt_Ch_fr {a8 a9 a10 a11 b8 b9 b10 b11 : Nat → Int32} : ∀ {l : List dt_Nt} {x : Int32}, (∀ n, n ∈ dt_nu l → b8 n = a8 n ∧ b9 n = a9 n ∧ b10 n = a10 n ∧ b11 n = a11 n) → dt_Ch a8 a9 a10 a11 x l → dt_Ch b8 b9 b10 b11 x l := by
  intro l
  induction l with
  | nil => intro x _ h; exact h
  | cons n l ih =>
    intro x h hc
    obtain ⟨c1, c2, c3, c4, c5, c6, c7, c8⟩ := hc
    obtain ⟨e1, e2, e3, e4⟩ := h n.1 (by rw [dt_nu_c]; exact List.mem_cons_self)
    refine ⟨c1, c2, by rw [e1]; exact c3, by rw [e2]; exact c4, by rw [e3]; exact c5, c6, c7, ?_⟩
    rw [e4]
    exact ih (fun m hm => h m (by rw [dt_nu_c]; exact List.mem_cons_of_mem _ hm)) c8
theorem dt_Fr_fr {a11 b11 : Nat → Int32} : ∀ {l : List Nat} {x : Int32}, (∀ n, n ∈ l → b11 n = a11 n) → dt_Fr a11 x l → dt_Fr b11 x l := by
  intro l
  induction l with
  | nil => intro x _ h; exact h
  | cons n l ih =>
    intro x h hc
    obtain ⟨c1, c2, c3⟩ := hc
    refine ⟨c1, c2, ?_⟩
    rw [h n List.mem_cons_self]
    exact ih (fun m hm => h m (List.mem_cons_of_mem _ hm)) c3
theorem dt_Ch_mem {a8 a9 a10 a11 : Nat → Int32} {n : dt_Nt} : ∀ {l : List dt_Nt} {x : Int32}, dt_Ch a8 a9 a10 a11 x l → n ∈ l → n.1 < 160 ∧ a8 n.1 = nI n.2.1 ∧ a9 n.1 = nI n.2.2.1 ∧ a10 n.1 = n.2.2.2 ∧ n.2.1 < 3 ∧ n.2.2.1 < 4096 := by
  intro l
  induction l with
  | nil => intro x _ h; exact absurd h (by simp)
  | cons m l ih =>
    intro x hc h
    obtain ⟨c1, c2, c3, c4, c5, c6, c7, c8⟩ := hc
    rcases List.mem_cons.mp h with e | e
    · subst e; exact ⟨c2, c3, c4, c5, c6, c7⟩
    · exact ih c8 e
/-- the sum of f below n -/
def dt_su (f : Nat → Nat) : Nat → Nat
  | 0 => 0
  | n + 1 => dt_su f n + f n
theorem dt_su_le {f : Nat → Nat} {n c : Nat} (h : ∀ p, p < n → f p ≤ c) : dt_su f n ≤ n * c := by
  induction n with
  | zero => show 0 ≤ 0 * c; omega
  | succ n ih =>
    have i1 := ih (fun p hp => h p (by omega))
    have i2 := h n (by omega)
    show dt_su f n + f n ≤ (n + 1) * c
    rw [Nat.add_mul]; omega
theorem dt_su_congr {f g : Nat → Nat} {n : Nat} (h : ∀ p, p < n → f p = g p) : dt_su f n = dt_su g n := by
  induction n with
  | zero => rfl
  | succ n ih =>
    show dt_su f n + f n = dt_su g n + g n
    rw [ih (fun p hp => h p (by omega)), h n (by omega)]
theorem dt_su_set {f g : Nat → Nat} {n p : Nat} (hp : p < n) (h : ∀ q, q ≠ p → g q = f q) : dt_su g n + f p = dt_su f n + g p := by
  induction n with
  | zero => omega
  | succ n ih =>
    show dt_su g n + g n + f p = dt_su f n + f n + g p
    by_cases e : p = n
    · subst e
      rw [dt_su_congr (f := g) (g := f) (fun q hq => h q (by omega))]; omega
    · have := ih (by omega)
      rw [h n (fun z => e z.symm)]; omega
theorem dt_su_0 {f : Nat → Nat} {n : Nat} (h : ∀ p, p < n → f p = 0) : dt_su f n = 0 := by
  induction n with
  | zero => rfl
  | succ n ih =>
    show dt_su f n + f n = 0
    rw [ih (fun p hp => h p (by omega)), h n (by omega)]
/-- a function of pages changed at one -/
def dt_up {α : Type} (f : Nat → α) (p : Nat) (x : α) : Nat → α := fun q => if q = p then x else f q
theorem dt_up_s {α : Type} {f : Nat → α} {p : Nat} {x : α} : dt_up f p x p = x := if_pos rfl
theorem dt_up_n {α : Type} {f : Nat → α} {p q : Nat} {x : α} (h : q ≠ p) : dt_up f p x q = f q := if_neg h
/-! what notes do -/
def dt_ap (n : dt_Nt) (F : Nat → Option Int32) : Nat → Option Int32 :=
  if n.2.1 = 2 then dt_cut F n.2.2.1 else if n.2.1 = 0 then dt_set F n.2.2.1 (some n.2.2.2) else dt_set F n.2.2.1 none
def dt_co : List dt_Nt → (Nat → Option Int32) → Nat → Option Int32
  | [], F => F
  | n :: l, F => dt_ap n (dt_co l F)
theorem dt_ap_2 {n : dt_Nt} {F : Nat → Option Int32} (h : n.2.1 = 2) : dt_ap n F = dt_cut F n.2.2.1 := if_pos h
theorem dt_ap_0 {n : dt_Nt} {F : Nat → Option Int32} (h : n.2.1 = 0) : dt_ap n F = dt_set F n.2.2.1 (some n.2.2.2) := by
  unfold dt_ap; rw [if_neg (by omega), if_pos h]
theorem dt_ap_1 {n : dt_Nt} {F : Nat → Option Int32} (h : n.2.1 ≠ 2) (h0 : n.2.1 ≠ 0) : dt_ap n F = dt_set F n.2.2.1 none := by
  unfold dt_ap; rw [if_neg h, if_neg h0]
theorem dt_c_ap (n : dt_Nt) (F : Nat → Option Int32) (k : Nat) : dt_c (dt_ap n F) k ≤ dt_c F k + 1 := by
  by_cases h2 : n.2.1 = 2
  · rw [dt_ap_2 h2]
    rcases Nat.lt_or_ge k n.2.2.1 with z | z
    · rw [dt_c_cut_lo (by omega)]; omega
    · rw [dt_c_cut_hi z]; have := dt_c_mono (F := F) z; omega
  · by_cases h0 : n.2.1 = 0
    · rw [dt_ap_0 h0]; exact dt_c_set_le
    · rw [dt_ap_1 h2 h0]; exact dt_c_set_le
theorem dt_c_co (l : List dt_Nt) (F : Nat → Option Int32) (k : Nat) : dt_c (dt_co l F) k ≤ dt_c F k + l.length := by
  induction l with
  | nil => exact Nat.le_refl _
  | cons n l ih =>
    have := dt_c_ap n (dt_co l F) k
    show dt_c (dt_ap n (dt_co l F)) k ≤ dt_c F k + (l.length + 1)
    omega
theorem dt_co_app (l m : List dt_Nt) (F : Nat → Option Int32) : dt_co (l ++ m) F = dt_co l (dt_co m F) := by
  induction l with
  | nil => rfl
  | cons n l ih =>
    show dt_ap n (dt_co (l ++ m) F) = dt_ap n (dt_co l (dt_co m F))
    rw [ih]
/-- the number of the first division note, -1 -/
def dt_dn : List dt_Nt → Int32
  | [] => -1
  | n :: l => if n.2.1 = 2 then nI n.1 else dt_dn l
/-- the end behind the notes -/
def dt_en : List dt_Nt → Int32 → Int32
  | [], x => x
  | n :: l, x => if n.2.1 = 2 then nI n.2.2.1 else dt_en l x
/-- a key looked up -/
def dt_lk : List dt_Nt → (Nat → Option Int32) → Nat → Option Int32
  | [], F, q => F q
  | n :: l, F, q => if n.2.1 = 2 then dt_lk l F q else if n.2.2.1 = q then (if n.2.1 = 0 then some n.2.2.2 else none) else dt_lk l F q
theorem dt_lk_co {q : Nat} {F : Nat → Option Int32} : ∀ {l : List dt_Nt}, (∀ n, n ∈ l → n.2.1 = 2 → q < n.2.2.1) → dt_lk l F q = dt_co l F q := by
  intro l
  induction l with
  | nil => intro _; rfl
  | cons n l ih =>
    intro h
    have ih := ih (fun m hm => h m (List.mem_cons_of_mem _ hm))
    show (if n.2.1 = 2 then dt_lk l F q else if n.2.2.1 = q then (if n.2.1 = 0 then some n.2.2.2 else none) else dt_lk l F q) = dt_ap n (dt_co l F) q
    by_cases h2 : n.2.1 = 2
    · rw [if_pos h2, dt_ap_2 h2, dt_cut_lo (h n List.mem_cons_self h2), ih]
    · rw [if_neg h2]
      by_cases hk : n.2.2.1 = q
      · rw [if_pos hk]
        by_cases h0 : n.2.1 = 0
        · rw [if_pos h0, dt_ap_0 h0, hk, dt_set_s]
        · rw [if_neg h0, dt_ap_1 h2 h0, hk, dt_set_s]
      · rw [if_neg hk, ih]
        by_cases h0 : n.2.1 = 0
        · rw [dt_ap_0 h0, dt_set_n (fun z => hk z.symm)]
        · rw [dt_ap_1 h2 h0, dt_set_n (fun z => hk z.symm)]
theorem dt_dn_A {l : List dt_Nt} (h : ∀ n, n ∈ l → n.2.1 ≠ 2) : dt_dn l = -1 := by
  induction l with
  | nil => rfl
  | cons n l ih =>
    show (if n.2.1 = 2 then nI n.1 else dt_dn l) = -1
    rw [if_neg (h n List.mem_cons_self)]
    exact ih (fun m hm => h m (List.mem_cons_of_mem _ hm))
theorem dt_dn_B {l : List dt_Nt} {d : dt_Nt} (h : ∀ n, n ∈ l → n.2.1 ≠ 2) (hd : d.2.1 = 2) : dt_dn (l ++ [d]) = nI d.1 := by
  induction l with
  | nil => exact if_pos hd
  | cons n l ih =>
    show (if n.2.1 = 2 then nI n.1 else dt_dn (l ++ [d])) = nI d.1
    rw [if_neg (h n List.mem_cons_self)]
    exact ih (fun m hm => h m (List.mem_cons_of_mem _ hm))
theorem dt_en_A {l : List dt_Nt} {x : Int32} (h : ∀ n, n ∈ l → n.2.1 ≠ 2) : dt_en l x = x := by
  induction l with
  | nil => rfl
  | cons n l ih =>
    show (if n.2.1 = 2 then nI n.2.2.1 else dt_en l x) = x
    rw [if_neg (h n List.mem_cons_self)]
    exact ih (fun m hm => h m (List.mem_cons_of_mem _ hm))
theorem dt_en_B {l : List dt_Nt} {d : dt_Nt} {x : Int32} (h : ∀ n, n ∈ l → n.2.1 ≠ 2) (hd : d.2.1 = 2) : dt_en (l ++ [d]) x = nI d.2.2.1 := by
  induction l with
  | nil => exact if_pos hd
  | cons n l ih =>
    show (if n.2.1 = 2 then nI n.2.2.1 else dt_en (l ++ [d]) x) = nI d.2.2.1
    rw [if_neg (h n List.mem_cons_self)]
    exact ih (fun m hm => h m (List.mem_cons_of_mem _ hm))
/-! the invariant -/
def dt_N1 (F : List Nat) (ow : Nat → Nat) (fn ic il : Int32) (a2 a3 a8 a9 a10 a11 : Nat → Int32) (C : Nat → List dt_Nt) (I : List dt_Nt) : Prop :=
  (dt_Fr a11 fn F ∧ F.Nodup ∧ ∀ n, n ∈ F → ow n = 25) ∧
  (dt_Ch a8 a9 a10 a11 ic I ∧ (dt_nu I).Nodup ∧ (∀ n, n ∈ dt_nu I → ow n = 24) ∧ il = nI I.length ∧ I.length ≤ 5) ∧
  (∀ p, p < 24 → dt_Ch a8 a9 a10 a11 (a2 p) (C p) ∧ (dt_nu (C p)).Nodup ∧ (∀ n, n ∈ dt_nu (C p) → ow n = p) ∧ a3 p = nI (C p).length ∧ (C p).length ≤ 5) ∧
  F.length + I.length + dt_su (fun p => (C p).length) 24 = 160
def dt_N (fn ic il : Int32) (a2 a3 a8 a9 a10 a11 : Nat → Int32) (C : Nat → List dt_Nt) (I : List dt_Nt) : Prop :=
  ∃ (F : List Nat) (ow : Nat → Nat), dt_N1 F ow fn ic il a2 a3 a8 a9 a10 a11 C I
/-- the bases of the pages in use -/
def dt_Bs (a1 a4 a5 a6 : Nat → Int32) (B : Nat → Nat → Option Int32) : Prop :=
  ∀ p, p < 24 → a1 p ≠ 0 → a4 p = nI (dt_c (B p) 4096) ∧ dt_c (B p) 4096 ≤ 12 ∧ dt_Rep (dt_c (B p) 4096) (fun i => a5 (12 * p + i)) (fun i => a6 (12 * p + i)) (B p)
/-- the base of the index -/
def dt_X (ix : Int32) (a12 a13 : Nat → Int32) (FX : Nat → Option Int32) : Prop :=
  ix = nI (dt_c FX 4096) ∧ dt_Rep (dt_c FX 4096) a12 a13 FX
/-- the index knows of key k -/
def dt_ix (FX : Nat → Option Int32) (I : List dt_Nt) (k : Nat) : Prop := (∃ x, FX k = some x) ∨ ∃ n, n ∈ I ∧ n.2.2.1 = k
/-- page p is not divided -/
def dt_A (a7 : Nat → Int32) (C : Nat → List dt_Nt) (I : List dt_Nt) (B : Nat → Nat → Option Int32) (FX : Nat → Option Int32) (hi : Nat → Nat) (p : Nat) : Prop :=
  (∀ n, n ∈ C p → n.2.1 ≠ 2) ∧ dt_c (B p) 4096 ≤ 8 ∧ a7 p = nI (hi p) ∧ (hi p = 4096 ∨ dt_ix FX I (hi p))
/-- page p is divided, by its oldest note -/
def dt_D (a1 : Nat → Int32) (C : Nat → List dt_Nt) (B : Nat → Nat → Option Int32) (lo hi : Nat → Nat) (p : Nat) : Prop :=
  ∃ l d u, C p = l ++ [(d, 2, hi p, nI u)] ∧ (∀ n, n ∈ l → n.2.1 ≠ 2) ∧ u < 24 ∧ a1 u ≠ 0 ∧ lo u = hi p ∧ hi p < 4096 ∧ dt_c (B p) (hi p) ≤ 8
/-- ranges of pages -/
def dt_R (a1 : Nat → Int32) (lo hi : Nat → Nat) : Prop :=
  (∀ p, p < 24 → a1 p ≠ 0 → lo p < hi p ∧ hi p ≤ 4096) ∧
  (∀ p q, p < 24 → q < 24 → a1 p ≠ 0 → a1 q ≠ 0 → lo p ≤ lo q → lo q < hi p → p = q)
/-- the index over the pages -/
def dt_Y (a1 : Nat → Int32) (I : List dt_Nt) (FX : Nat → Option Int32) (lo : Nat → Nat) : Prop :=
  (∃ x, FX 0 = some x) ∧
  (∀ k x, FX k = some x → ∃ p, p < 24 ∧ x = nI p ∧ a1 p ≠ 0 ∧ lo p = k) ∧
  (∀ n, n ∈ I → (∃ p, p < 24 ∧ n.2.2.2 = nI p ∧ a1 p ≠ 0 ∧ lo p = n.2.2.1) ∧ FX n.2.2.1 = none) ∧
  (I.map (fun n => n.2.2.1)).Nodup ∧
  (∃ ixd : Nat → Bool, dt_cn ixd 24 = dt_c FX 4096 + I.length ∧ ∀ p, p < 24 → ixd p = true → a1 p ≠ 0 ∧ dt_ix FX I (lo p))
/-- the pages' contents -/
def dt_P (a1 a7 : Nat → Int32) (M : Nat → Option Int32) (C : Nat → List dt_Nt) (I : List dt_Nt) (B : Nat → Nat → Option Int32) (FX : Nat → Option Int32) (lo hi : Nat → Nat) : Prop :=
  ∀ p, p < 24 → (a1 p = 0 → C p = []) ∧ (a1 p ≠ 0 → dt_co (C p) (B p) = dt_rs M (lo p) (hi p) ∧ (dt_A a7 C I B FX hi p ∨ dt_D a1 C B lo hi p))
def dt_J (M : Nat → Option Int32) (C : Nat → List dt_Nt) (I : List dt_Nt) (B : Nat → Nat → Option Int32) (FX : Nat → Option Int32) (lo hi : Nat → Nat) (fn ic il ix : Int32) (a1 a2 a3 a4 a5 a6 a7 a8 a9 a10 a11 a12 a13 : Nat → Int32) : Prop :=
  dt_N fn ic il a2 a3 a8 a9 a10 a11 C I ∧ I.length ≤ 4 ∧ dt_Bs a1 a4 a5 a6 B ∧ dt_X ix a12 a13 FX ∧ dt_R a1 lo hi ∧ dt_Y a1 I FX lo ∧ dt_P a1 a7 M C I B FX lo hi
def dt_K (M : Nat → Option Int32) (en fn ic il ix : Int32) (a1 a2 a3 a4 a5 a6 a7 a8 a9 a10 a11 a12 a13 : Nat → Int32) : Prop :=
  en = nI (dt_c M 4096) ∧ dt_c M 4096 ≤ 60 ∧ ∃ C I B FX lo hi, dt_J M C I B FX lo hi fn ic il ix a1 a2 a3 a4 a5 a6 a7 a8 a9 a10 a11 a12 a13 ∧ ∀ p, p < 24 → (C p).length ≤ 4
end
section
/-! small facts of ints -/
theorem dt_m1 (x : Int32) : x + (-1) = x - 1 := (Int32.sub_eq_add_neg x 1).symm
theorem dt_neg : ((-1 : Int32) < 0) := by decide
theorem dt_e2 {k : Nat} (h : k < 3) : nI k = 2 ↔ k = 2 := nI_eq (b := 2) (by omega) (by omega)
theorem dt_e0 {k : Nat} (h : k < 3) : nI k = 0 ↔ k = 0 := nI_eq (b := 0) (by omega) (by omega)
/-! divisionOf -/
theorem dt_div7 {post : Int32 → Prop} {en fn ic il ix ga ge sd : Int32} {a1 a2 a3 a4 a5 a6 a7 a8 a9 a10 a11 a12 a13 a14 a15 a16 a17 a18 a19 a20 a21 : Nat → Int32} : ∀ (l : List dt_Nt) (x : Int32) (n : Nat), l.length < n → dt_Ch a8 a9 a10 a11 x l → post (dt_dn l) → wX_divisionOf_7 post en fn ic il ix ga ge sd a1 a2 a3 a4 a5 a6 a7 a8 a9 a10 a11 a12 a13 a14 a15 a16 a17 a18 a19 a20 a21 n x := by
  intro l
  induction l with
  | nil =>
    intro x n hn hc hp
    obtain ⟨n, rfl⟩ : ∃ m, n = m + 1 := ⟨n - 1, by simp at hn; omega⟩
    have hx : x = -1 := hc
    subst hx
    exact br_t dt_neg hp
  | cons m l ih =>
    intro x n hn hc hp
    obtain ⟨n, rfl⟩ : ∃ m, n = m + 1 := ⟨n - 1, by simp at hn; omega⟩
    obtain ⟨rfl, c2, c3, c4, c5, c6, c7, c8⟩ := hc
    refine br_f (nI_pos (by omega)) ⟨vp_in_nI c2 (by omega), ?_⟩
    rw [nI_clamp (show m.1 < 2 ^ 31 by omega), c3]
    have hd : dt_dn (m :: l) = if m.2.1 = 2 then nI m.1 else dt_dn l := rfl
    rw [hd] at hp
    by_cases h2 : m.2.1 = 2
    · rw [if_pos h2] at hp
      exact br_t ((dt_e2 c6).mpr h2) hp
    · rw [if_neg h2] at hp
      refine br_f (fun z => h2 ((dt_e2 c6).mp z)) ⟨vp_in_nI c2 (by omega), nm_e (ih _ n ?_ c8 hp)⟩
      simp at hn; omega
theorem dt_div {post : Int32 → Prop} {en fn ic il ix ga ge sd : Int32} {a1 a2 a3 a4 a5 a6 a7 a8 a9 a10 a11 a12 a13 a14 a15 a16 a17 a18 a19 a20 a21 : Nat → Int32} {l : List dt_Nt} {p : Nat} (hp : p < 24) (hc : dt_Ch a8 a9 a10 a11 (a2 p) l) (H : post (dt_dn l)) : wpX_divisionOf post (en, fn, ic, il, ix, ga, ge, sd, a1, a2, a3, a4, a5, a6, a7, a8, a9, a10, a11, a12, a13, a14, a15, a16, a17, a18, a19, a20, a21) (nI p) := by
  refine ⟨vp_in_nI hp (by omega), nm_r (e' := a2 p) (by rw [nI_clamp (by omega)]) ⟨l.length + 1, dt_div7 l _ _ (by omega) hc H⟩⟩
/-! newNote -/
theorem dt_new {post : Int32 → St1 → Prop} {en fn ic il ix ga ge sd : Int32} {a1 a2 a3 a4 a5 a6 a7 a8 a9 a10 a11 a12 a13 a14 a15 a16 a17 a18 a19 a20 a21 : Nat → Int32} {n : Nat} {p0 p1 p2 p3 : Int32} (hn : n < 160) (hf : fn = nI n)
    (H : post (nI n) (en, a11 n, ic, il, ix, ga, ge, sd, a1, a2, a3, a4, a5, a6, a7, upd a8 n p0, upd a9 n p1, upd a10 n p2, upd a11 n p3, a12, a13, a14, a15, a16, a17, a18, a19, a20, a21)) : wpX_newNote post (en, fn, ic, il, ix, ga, ge, sd, a1, a2, a3, a4, a5, a6, a7, a8, a9, a10, a11, a12, a13, a14, a15, a16, a17, a18, a19, a20, a21) p0 p1 p2 p3 := by
  subst hf
  have hv : vp_in (nI n) 160 := vp_in_nI hn (by omega)
  have hc : (nI n).toNatClampNeg = n := nI_clamp (by omega)
  unfold wpX_newNote
  dsimp only
  rw [hc]
  exact ⟨hv, nm_e ⟨hv, nm_e ⟨hv, nm_e ⟨hv, nm_e ⟨hv, nm_e H⟩⟩⟩⟩⟩
theorem dt_new2 {post : Int32 → St1 → Prop} {en fn ic il ix ga ge sd : Int32} {a1 a2 a3 a4 a5 a6 a7 a8 a9 a10 a11 a12 a13 a14 a15 a16 a17 a18 a19 a20 a21 : Nat → Int32} {n : Nat} {p0 p1 p2 p3 : Int32} (hn : n < 160) (hf : fn = nI n)
    (H : post (nI n) (en, a11 n, ic, il, ix, ga, ge, sd, a1, a2, a3, a4, a5, a6, a7, upd a8 n p0, upd a9 n p1, upd a10 n p2, upd a11 n p3, a12, a13, a14, a15, a16, a17, a18, a19, a20, a21)) : wpX_newNote_2 post (en, fn, ic, il, ix, ga, ge, sd, a1, a2, a3, a4, a5, a6, a7, a8, a9, a10, a11, a12, a13, a14, a15, a16, a17, a18, a19, a20, a21) p0 p1 p2 p3 := by
  subst hf
  have hv : vp_in (nI n) 160 := vp_in_nI hn (by omega)
  have hc : (nI n).toNatClampNeg = n := nI_clamp (by omega)
  unfold wpX_newNote_2
  dsimp only
  rw [hc]
  exact ⟨hv, nm_e ⟨hv, nm_e ⟨hv, nm_e ⟨hv, nm_e ⟨hv, nm_e H⟩⟩⟩⟩⟩
/-! freeChain: what it leaves -/
def dt_fc (l : List dt_Nt) (F : List Nat) (a11 : Nat → Int32) (fn' : Int32) (a11' : Nat → Int32) : Prop :=
  (∀ j, j ∉ dt_nu l → a11' j = a11 j) ∧ ∃ F', dt_Fr a11' fn' F' ∧ F'.Nodup ∧ F'.length = F.length + l.length ∧ ∀ n, n ∈ F' → n ∈ F ∨ n ∈ dt_nu l
theorem dt_fc_0 {F : List Nat} {a11 : Nat → Int32} {fn : Int32} (h : dt_Fr a11 fn F) (hn : F.Nodup) : dt_fc [] F a11 fn a11 :=
  ⟨fun _ _ => rfl, F, h, hn, rfl, fun _ h => Or.inl h⟩
theorem dt_fc_s {m : dt_Nt} {l : List dt_Nt} {F : List Nat} {a11 a11' : Nat → Int32} {fn fn' : Int32} (h : dt_fc l (m.1 :: F) (upd a11 m.1 fn) fn' a11') : dt_fc (m :: l) F a11 fn' a11' := by
  obtain ⟨h1, F', h2, h3, h4, h5⟩ := h
  refine ⟨fun j hj => ?_, F', h2, h3, ?_, fun n hn => ?_⟩
  · rw [dt_nu_c] at hj
    rw [h1 j (fun z => hj (List.mem_cons_of_mem _ z)), pk_un (fun z => hj (by rw [z]; exact List.mem_cons_self))]
  · rw [h4, List.length_cons, List.length_cons]; omega
  · rw [dt_nu_c]
    rcases h5 n hn with z | z
    · rcases List.mem_cons.mp z with y | y
      · exact Or.inr (by rw [y]; exact List.mem_cons_self)
      · exact Or.inl y
    · exact Or.inr (List.mem_cons_of_mem _ z)
theorem dt_free4 {post : Int32 → St1 → Prop} {en ic il ix ga ge sd : Int32} {a1 a2 a3 a4 a5 a6 a7 a8 a9 a10 a12 a13 a14 a15 a16 a17 a18 a19 a20 a21 : Nat → Int32} : ∀ (l : List dt_Nt) (F : List Nat) (x : Int32) (st n : Nat) (fn : Int32) (a11 : Nat → Int32), l.length < n → st + l.length ≤ 8 → dt_Ch a8 a9 a10 a11 x l → dt_Fr a11 fn F → (dt_nu l).Nodup → F.Nodup → (∀ k, k ∈ dt_nu l → k ∉ F) →
    (∀ fn' a11', dt_fc l F a11 fn' a11' → post (-1) (en, fn', ic, il, ix, ga, ge, sd, a1, a2, a3, a4, a5, a6, a7, a8, a9, a10, a11', a12, a13, a14, a15, a16, a17, a18, a19, a20, a21)) → wX_freeChain_4 post en ic il ix ga ge sd n x (nI st) fn a1 a2 a3 a4 a5 a6 a7 a8 a9 a10 a11 a12 a13 a14 a15 a16 a17 a18 a19 a20 a21 := by
  intro l
  induction l with
  | nil =>
    intro F x st n fn a11 hn hs hc hf hl hF hd H
    obtain ⟨n, rfl⟩ : ∃ m, n = m + 1 := ⟨n - 1, by simp at hn; omega⟩
    have hx : x = -1 := hc
    subst hx
    exact pk_le 8 st (fun _ => H _ _ (dt_fc_0 hf hF)) (fun _ => br_t dt_neg (H _ _ (dt_fc_0 hf hF)))
  | cons m l ih =>
    intro F x st n fn a11 hn hs hc hf hl hF hd H
    obtain ⟨n, rfl⟩ : ∃ m, n = m + 1 := ⟨n - 1, by simp at hn; omega⟩
    obtain ⟨rfl, c2, c3, c4, c5, c6, c7, c8⟩ := hc
    rw [List.length_cons] at hn hs
    rw [dt_nu_c] at hl hd
    have hl2 := List.nodup_cons.mp hl
    have hmF : m.1 ∉ F := hd m.1 List.mem_cons_self
    have hcl : (nI m.1).toNatClampNeg = m.1 := nI_clamp (by omega)
    refine pk_le 8 st (fun z => absurd z (by omega)) (fun _ => br_f (nI_pos (by omega)) ⟨vp_in_nI c2 (by omega), nm_r (e' := a11 m.1) (by rw [hcl]) ⟨vp_in_nI c2 (by omega), nm_r (e' := upd a11 m.1 fn) (by rw [hcl]) (nm_r (nI_1 st) ?_)⟩⟩)
    refine ih (m.1 :: F) _ (st + 1) n _ _ (by omega) (by omega) ?_ ⟨rfl, c2, ?_⟩ hl2.2 (List.nodup_cons.mpr ⟨hmF, hF⟩) ?_ (fun fn' a11' h => H fn' a11' (dt_fc_s h))
    · refine dt_Ch_fr (fun k hk => ⟨rfl, rfl, rfl, pk_un (fun z => hl2.1 (by rw [← z]; exact hk))⟩) c8
    · rw [pk_us]
      exact dt_Fr_fr (fun k hk => pk_un (fun z => hmF (by rw [← z]; exact hk))) hf
    · intro k hk z
      rcases List.mem_cons.mp z with y | y
      · exact hl2.1 (by rw [← y]; exact hk)
      · exact hd k (List.mem_cons_of_mem _ hk) y
theorem dt_free {post : Int32 → St1 → Prop} {en fn ic il ix ga ge sd : Int32} {a1 a2 a3 a4 a5 a6 a7 a8 a9 a10 a11 a12 a13 a14 a15 a16 a17 a18 a19 a20 a21 : Nat → Int32} {l : List dt_Nt} {F : List Nat} {x : Int32} (hs : l.length ≤ 8) (hc : dt_Ch a8 a9 a10 a11 x l) (hf : dt_Fr a11 fn F) (hl : (dt_nu l).Nodup) (hF : F.Nodup) (hd : ∀ k, k ∈ dt_nu l → k ∉ F)
    (H : ∀ fn' a11', dt_fc l F a11 fn' a11' → post (-1) (en, fn', ic, il, ix, ga, ge, sd, a1, a2, a3, a4, a5, a6, a7, a8, a9, a10, a11', a12, a13, a14, a15, a16, a17, a18, a19, a20, a21)) : wpX_freeChain post (en, fn, ic, il, ix, ga, ge, sd, a1, a2, a3, a4, a5, a6, a7, a8, a9, a10, a11, a12, a13, a14, a15, a16, a17, a18, a19, a20, a21) x :=
  ⟨l.length + 1, dt_free4 l F x 0 _ fn a11 (by omega) (by omega) hc hf hl hF hd H⟩
theorem dt_free4b {post : Int32 → St1 → Prop} {en ic il ix ga ge sd : Int32} {a1 a2 a3 a4 a5 a6 a7 a8 a9 a10 a12 a13 a14 a15 a16 a17 a18 a19 a20 a21 : Nat → Int32} : ∀ (l : List dt_Nt) (F : List Nat) (x : Int32) (st n : Nat) (fn : Int32) (a11 : Nat → Int32), l.length < n → st + l.length ≤ 8 → dt_Ch a8 a9 a10 a11 x l → dt_Fr a11 fn F → (dt_nu l).Nodup → F.Nodup → (∀ k, k ∈ dt_nu l → k ∉ F) →
    (∀ fn' a11', dt_fc l F a11 fn' a11' → post (-1) (en, fn', ic, il, ix, ga, ge, sd, a1, a2, a3, a4, a5, a6, a7, a8, a9, a10, a11', a12, a13, a14, a15, a16, a17, a18, a19, a20, a21)) → wX_freeChain_2_4 post en ic il ix ga ge sd n x (nI st) fn a1 a2 a3 a4 a5 a6 a7 a8 a9 a10 a11 a12 a13 a14 a15 a16 a17 a18 a19 a20 a21 := by
  intro l
  induction l with
  | nil =>
    intro F x st n fn a11 hn hs hc hf hl hF hd H
    obtain ⟨n, rfl⟩ : ∃ m, n = m + 1 := ⟨n - 1, by simp at hn; omega⟩
    have hx : x = -1 := hc
    subst hx
    exact pk_le 8 st (fun _ => H _ _ (dt_fc_0 hf hF)) (fun _ => br_t dt_neg (H _ _ (dt_fc_0 hf hF)))
  | cons m l ih =>
    intro F x st n fn a11 hn hs hc hf hl hF hd H
    obtain ⟨n, rfl⟩ : ∃ m, n = m + 1 := ⟨n - 1, by simp at hn; omega⟩
    obtain ⟨rfl, c2, c3, c4, c5, c6, c7, c8⟩ := hc
    rw [List.length_cons] at hn hs
    rw [dt_nu_c] at hl hd
    have hl2 := List.nodup_cons.mp hl
    have hmF : m.1 ∉ F := hd m.1 List.mem_cons_self
    have hcl : (nI m.1).toNatClampNeg = m.1 := nI_clamp (by omega)
    refine pk_le 8 st (fun z => absurd z (by omega)) (fun _ => br_f (nI_pos (by omega)) ⟨vp_in_nI c2 (by omega), nm_r (e' := a11 m.1) (by rw [hcl]) ⟨vp_in_nI c2 (by omega), nm_r (e' := upd a11 m.1 fn) (by rw [hcl]) (nm_r (nI_1 st) ?_)⟩⟩)
    refine ih (m.1 :: F) _ (st + 1) n _ _ (by omega) (by omega) ?_ ⟨rfl, c2, ?_⟩ hl2.2 (List.nodup_cons.mpr ⟨hmF, hF⟩) ?_ (fun fn' a11' h => H fn' a11' (dt_fc_s h))
    · refine dt_Ch_fr (fun k hk => ⟨rfl, rfl, rfl, pk_un (fun z => hl2.1 (by rw [← z]; exact hk))⟩) c8
    · rw [pk_us]
      exact dt_Fr_fr (fun k hk => pk_un (fun z => hmF (by rw [← z]; exact hk))) hf
    · intro k hk z
      rcases List.mem_cons.mp z with y | y
      · exact hl2.1 (by rw [← y]; exact hk)
      · exact hd k (List.mem_cons_of_mem _ hk) y
theorem dt_freeb {post : Int32 → St1 → Prop} {en fn ic il ix ga ge sd : Int32} {a1 a2 a3 a4 a5 a6 a7 a8 a9 a10 a11 a12 a13 a14 a15 a16 a17 a18 a19 a20 a21 : Nat → Int32} {l : List dt_Nt} {F : List Nat} {x : Int32} (hs : l.length ≤ 8) (hc : dt_Ch a8 a9 a10 a11 x l) (hf : dt_Fr a11 fn F) (hl : (dt_nu l).Nodup) (hF : F.Nodup) (hd : ∀ k, k ∈ dt_nu l → k ∉ F)
    (H : ∀ fn' a11', dt_fc l F a11 fn' a11' → post (-1) (en, fn', ic, il, ix, ga, ge, sd, a1, a2, a3, a4, a5, a6, a7, a8, a9, a10, a11', a12, a13, a14, a15, a16, a17, a18, a19, a20, a21)) : wpX_freeChain_2 post (en, fn, ic, il, ix, ga, ge, sd, a1, a2, a3, a4, a5, a6, a7, a8, a9, a10, a11, a12, a13, a14, a15, a16, a17, a18, a19, a20, a21) x :=
  ⟨l.length + 1, dt_free4b l F x 0 _ fn a11 (by omega) (by omega) hc hf hl hF hd H⟩
end
section
/-! the free list under the changes -/
theorem dt_N_head {fn ic il : Int32} {a2 a3 a8 a9 a10 a11 : Nat → Int32} {C : Nat → List dt_Nt} {I : List dt_Nt} (h : dt_N fn ic il a2 a3 a8 a9 a10 a11 C I) : ∃ n, n < 160 ∧ fn = nI n := by
  obtain ⟨F, ow, ⟨f1, f2, f3⟩, ⟨i1, i2, i3, i4, i5⟩, hC, hs⟩ := h
  have hle := dt_su_le (f := fun p => (C p).length) (n := 24) (c := 5) (fun p hp => (hC p hp).2.2.2.2)
  cases F with
  | nil => rw [List.length_nil] at hs; omega
  | cons n F => exact ⟨n, f1.2.1, f1.1⟩
theorem dt_N_addI {fn ic il : Int32} {a2 a3 a8 a9 a10 a11 : Nat → Int32} {C : Nat → List dt_Nt} {I : List dt_Nt} {n kd ky : Nat} {v : Int32} (h : dt_N fn ic il a2 a3 a8 a9 a10 a11 C I) (hn : n < 160) (hf : fn = nI n) (hI : I.length ≤ 4) (hkd : kd < 3) (hky : ky < 4096) :
    dt_N (a11 n) (nI n) (nI (I.length + 1)) a2 a3 (upd a8 n (nI kd)) (upd a9 n (nI ky)) (upd a10 n v) (upd a11 n ic) C ((n, kd, ky, v) :: I) := by
  obtain ⟨F, ow, ⟨f1, f2, f3⟩, ⟨i1, i2, i3, i4, i5⟩, hC, hs⟩ := h
  have hle := dt_su_le (f := fun p => (C p).length) (n := 24) (c := 5) (fun p hp => (hC p hp).2.2.2.2)
  cases F with
  | nil => rw [List.length_nil] at hs; omega
  | cons m F =>
    have hm : m = n := (nI_eq (by have := f1.2.1; omega) (by omega)).mp (f1.1.symm.trans hf)
    subst hm
    have g := List.nodup_cons.mp f2
    have on : ow m = 25 := f3 m List.mem_cons_self
    refine ⟨F, dt_up ow m 24, ⟨?_, g.2, ?_⟩, ⟨⟨rfl, hn, pk_us, pk_us, pk_us, hkd, hky, ?_⟩, ?_, ?_, rfl, ?_⟩, fun p hp => ?_, ?_⟩
    · exact dt_Fr_fr (fun k hk => pk_un (fun z => g.1 (by rw [← z]; exact hk))) f1.2.2
    · intro k hk
      rw [dt_up_n (fun z => g.1 (by rw [← z]; exact hk))]
      exact f3 k (List.mem_cons_of_mem _ hk)
    · show dt_Ch _ _ _ _ (upd a11 m ic m) I
      rw [pk_us]
      refine dt_Ch_fr (fun k hk => ?_) i1
      have hne : k ≠ m := fun z => by have := i3 k hk; rw [z] at this; omega
      exact ⟨pk_un hne, pk_un hne, pk_un hne, pk_un hne⟩
    · rw [dt_nu_c]
      exact List.nodup_cons.mpr ⟨fun z => by have := i3 m z; omega, i2⟩
    · intro k hk
      rw [dt_nu_c] at hk
      by_cases e : k = m
      · rw [e, dt_up_s]
      · rw [dt_up_n e]
        rcases List.mem_cons.mp hk with y | y
        · exact absurd y e
        · exact i3 k y
    · rw [List.length_cons]; omega
    · obtain ⟨c1, c2, c3, c4, c5⟩ := hC p hp
      have hne : ∀ k, k ∈ dt_nu (C p) → k ≠ m := fun k hk z => by have := c3 k hk; rw [z] at this; omega
      refine ⟨dt_Ch_fr (fun k hk => ⟨pk_un (hne k hk), pk_un (hne k hk), pk_un (hne k hk), pk_un (hne k hk)⟩) c1, c2, fun k hk => ?_, c4, c5⟩
      rw [dt_up_n (hne k hk)]
      exact c3 k hk
    · rw [List.length_cons] at hs ⊢
      omega
theorem dt_N_addC {fn ic il : Int32} {a2 a3 a8 a9 a10 a11 : Nat → Int32} {C : Nat → List dt_Nt} {I : List dt_Nt} {n kd ky p : Nat} {v : Int32} (h : dt_N fn ic il a2 a3 a8 a9 a10 a11 C I) (hn : n < 160) (hf : fn = nI n) (hp : p < 24) (hI : (C p).length ≤ 4) (hkd : kd < 3) (hky : ky < 4096) :
    dt_N (a11 n) ic il (upd a2 p (nI n)) (upd a3 p (nI ((C p).length + 1))) (upd a8 n (nI kd)) (upd a9 n (nI ky)) (upd a10 n v) (upd a11 n (a2 p)) (dt_up C p ((n, kd, ky, v) :: C p)) I := by
  obtain ⟨F, ow, ⟨f1, f2, f3⟩, ⟨i1, i2, i3, i4, i5⟩, hC, hs⟩ := h
  have hle := dt_su_le (f := fun p => (C p).length) (n := 24) (c := 5) (fun p hp => (hC p hp).2.2.2.2)
  cases F with
  | nil => rw [List.length_nil] at hs; omega
  | cons m F =>
    have hm : m = n := (nI_eq (by have := f1.2.1; omega) (by omega)).mp (f1.1.symm.trans hf)
    subst hm
    have g := List.nodup_cons.mp f2
    have on : ow m = 25 := f3 m List.mem_cons_self
    refine ⟨F, dt_up ow m p, ⟨?_, g.2, ?_⟩, ⟨?_, i2, ?_, i4, i5⟩, fun q hq => ?_, ?_⟩
    · exact dt_Fr_fr (fun k hk => pk_un (fun z => g.1 (by rw [← z]; exact hk))) f1.2.2
    · intro k hk
      rw [dt_up_n (fun z => g.1 (by rw [← z]; exact hk))]
      exact f3 k (List.mem_cons_of_mem _ hk)
    · refine dt_Ch_fr (fun k hk => ?_) i1
      have hne : k ≠ m := fun z => by have := i3 k hk; rw [z] at this; omega
      exact ⟨pk_un hne, pk_un hne, pk_un hne, pk_un hne⟩
    · intro k hk
      have hne : k ≠ m := fun z => by have := i3 k hk; rw [z] at this; omega
      rw [dt_up_n hne]
      exact i3 k hk
    · obtain ⟨c1, c2, c3, c4, c5⟩ := hC q hq
      have hne : ∀ k, k ∈ dt_nu (C q) → k ≠ m := fun k hk z => by have := c3 k hk; rw [z] at this; omega
      have hch : dt_Ch (upd a8 m (nI kd)) (upd a9 m (nI ky)) (upd a10 m v) (upd a11 m (a2 p)) (a2 q) (C q) :=
        dt_Ch_fr (fun k hk => ⟨pk_un (hne k hk), pk_un (hne k hk), pk_un (hne k hk), pk_un (hne k hk)⟩) c1
      by_cases e : q = p
      · subst e
        rw [dt_up_s, pk_us, pk_us]
        refine ⟨⟨rfl, hn, pk_us, pk_us, pk_us, hkd, hky, ?_⟩, ?_, ?_, rfl, ?_⟩
        · show dt_Ch _ _ _ _ (upd a11 m (a2 q) m) (C q)
          rw [pk_us]; exact hch
        · rw [dt_nu_c]
          exact List.nodup_cons.mpr ⟨fun z => hne m z rfl, c2⟩
        · intro k hk
          rw [dt_nu_c] at hk
          by_cases e : k = m
          · rw [e, dt_up_s]
          · rw [dt_up_n e]
            rcases List.mem_cons.mp hk with y | y
            · exact absurd y e
            · exact c3 k y
        · rw [List.length_cons]; omega
      · rw [dt_up_n e, pk_un e, pk_un e]
        refine ⟨hch, c2, fun k hk => ?_, c4, c5⟩
        rw [dt_up_n (hne k hk)]
        exact c3 k hk
    · have hsu := dt_su_set (f := fun p => (C p).length) (g := fun q => (dt_up C p ((m, kd, ky, v) :: C p) q).length) hp (fun q hq => by show (dt_up C p ((m, kd, ky, v) :: C p) q).length = (C q).length; rw [dt_up_n hq])
      have e : (dt_up C p ((m, kd, ky, v) :: C p) p).length = (C p).length + 1 := by rw [dt_up_s, List.length_cons]
      rw [List.length_cons] at hs
      simp only [e] at hsu
      omega
theorem dt_N_fcI {F : List Nat} {ow : Nat → Nat} {fn ic il fn' : Int32} {a2 a3 a8 a9 a10 a11 a11' : Nat → Int32} {C : Nat → List dt_Nt} {I : List dt_Nt} (h : dt_N1 F ow fn ic il a2 a3 a8 a9 a10 a11 C I) (hf : dt_fc I F a11 fn' a11') :
    dt_N fn' (-1) 0 a2 a3 a8 a9 a10 a11' C [] := by
  obtain ⟨⟨f1, f2, f3⟩, ⟨i1, i2, i3, i4, i5⟩, hC, hs⟩ := h
  obtain ⟨g1, F', g2, g3, g4, g5⟩ := hf
  refine ⟨F', fun n => if n ∈ dt_nu I then 25 else ow n, ⟨g2, g3, fun n hn => ?_⟩, ⟨rfl, List.nodup_nil, fun n hn => absurd hn List.not_mem_nil, rfl, by rw [List.length_nil]; omega⟩, fun p hp => ?_, ?_⟩
  · show (if n ∈ dt_nu I then 25 else ow n) = 25
    by_cases e : n ∈ dt_nu I
    · rw [if_pos e]
    · rw [if_neg e]
      rcases g5 n hn with z | z
      · exact f3 n z
      · exact absurd z e
  · obtain ⟨c1, c2, c3, c4, c5⟩ := hC p hp
    have hno : ∀ n, n ∈ dt_nu (C p) → n ∉ dt_nu I := fun n hn z => by have := c3 n hn; have := i3 n z; omega
    refine ⟨dt_Ch_fr (fun n hn => ⟨rfl, rfl, rfl, g1 n (hno n hn)⟩) c1, c2, fun n hn => ?_, c4, c5⟩
    show (if n ∈ dt_nu I then 25 else ow n) = p
    rw [if_neg (hno n hn)]
    exact c3 n hn
  · rw [List.length_nil]; omega
theorem dt_N_fcC {F : List Nat} {ow : Nat → Nat} {fn ic il fn' : Int32} {a2 a3 a8 a9 a10 a11 a11' : Nat → Int32} {C : Nat → List dt_Nt} {I : List dt_Nt} {p : Nat} (h : dt_N1 F ow fn ic il a2 a3 a8 a9 a10 a11 C I) (hp : p < 24) (hf : dt_fc (C p) F a11 fn' a11') :
    dt_N fn' ic il (upd a2 p (-1)) (upd a3 p 0) a8 a9 a10 a11' (dt_up C p []) I := by
  obtain ⟨⟨f1, f2, f3⟩, ⟨i1, i2, i3, i4, i5⟩, hC, hs⟩ := h
  obtain ⟨g1, F', g2, g3, g4, g5⟩ := hf
  have hp3 := (hC p hp).2.2.1
  refine ⟨F', fun n => if n ∈ dt_nu (C p) then 25 else ow n, ⟨g2, g3, fun n hn => ?_⟩, ⟨?_, i2, fun n hn => ?_, i4, i5⟩, fun q hq => ?_, ?_⟩
  · show (if n ∈ dt_nu (C p) then 25 else ow n) = 25
    by_cases e : n ∈ dt_nu (C p)
    · rw [if_pos e]
    · rw [if_neg e]
      rcases g5 n hn with z | z
      · exact f3 n z
      · exact absurd z e
  · exact dt_Ch_fr (fun n hn => ⟨rfl, rfl, rfl, g1 n (fun z => by have := hp3 n z; have := i3 n hn; omega)⟩) i1
  · show (if n ∈ dt_nu (C p) then 25 else ow n) = 24
    rw [if_neg (fun z => by have := hp3 n z; have := i3 n hn; omega)]
    exact i3 n hn
  · by_cases e : q = p
    · subst e
      rw [dt_up_s, pk_us, pk_us]
      exact ⟨rfl, List.nodup_nil, fun n hn => absurd hn List.not_mem_nil, rfl, by rw [List.length_nil]; omega⟩
    · obtain ⟨c1, c2, c3, c4, c5⟩ := hC q hq
      rw [dt_up_n e, pk_un e, pk_un e]
      have hno : ∀ n, n ∈ dt_nu (C q) → n ∉ dt_nu (C p) := fun n hn z => by have h1 := c3 n hn; have h2 := hp3 n z; omega
      refine ⟨dt_Ch_fr (fun n hn => ⟨rfl, rfl, rfl, g1 n (hno n hn)⟩) c1, c2, fun n hn => ?_, c4, c5⟩
      show (if n ∈ dt_nu (C p) then 25 else ow n) = q
      rw [if_neg (hno n hn)]
      exact c3 n hn
  · have hsu := dt_su_set (f := fun p => (C p).length) (g := fun q => (dt_up C p [] q).length) hp (fun q hq => by show (dt_up C p [] q).length = (C q).length; rw [dt_up_n hq])
    have e : (dt_up C p [] p).length = 0 := by rw [dt_up_s, List.length_nil]
    simp only [e] at hsu
    omega
/-- what freeing needs -/
theorem dt_N1_dI {F : List Nat} {ow : Nat → Nat} {fn ic il : Int32} {a2 a3 a8 a9 a10 a11 : Nat → Int32} {C : Nat → List dt_Nt} {I : List dt_Nt} (h : dt_N1 F ow fn ic il a2 a3 a8 a9 a10 a11 C I) : ∀ k, k ∈ dt_nu I → k ∉ F :=
  fun k hk z => by have h1 := h.2.1.2.2.1 k hk; have h2 := h.1.2.2 k z; omega
theorem dt_N1_dC {F : List Nat} {ow : Nat → Nat} {fn ic il : Int32} {a2 a3 a8 a9 a10 a11 : Nat → Int32} {C : Nat → List dt_Nt} {I : List dt_Nt} {p : Nat} (h : dt_N1 F ow fn ic il a2 a3 a8 a9 a10 a11 C I) (hp : p < 24) : ∀ k, k ∈ dt_nu (C p) → k ∉ F :=
  fun k hk z => by have h1 := (h.2.2.1 p hp).2.2.1 k hk; have h2 := h.1.2.2 k z; omega
end
section
/-! placeInIndex -/
theorem dt_Rep_gt {n : Nat} {K V : Nat → Int32} {F : Nat → Option Int32} {i q : Nat} (h : dt_Rep n K V F) (hi : i < n) (hq : q < 4096) : nI q < K i ↔ dt_c F (q + 1) ≤ i := by
  have h1 := dt_Rep_le h hi hq
  rw [← Int32.not_le, h1]
  omega
theorem dt_pi12 {post : Int32 → Prop} {en fn ic il ix ga ge sd : Int32} {a1 a2 a3 a4 a5 a6 a7 a8 a9 a10 a11 a12 a13 a14 a15 a16 a17 a18 a19 a20 a21 : Nat → Int32} {FX : Nat → Option Int32} {m q t : Nat} (hm : m ≤ 24) (hX : dt_Rep m a12 a13 FX) (hq : q < 4096) (ht : dt_c FX (q + 1) = t + 1) (H : post (nI t)) :
    ∀ (r st lo hi n : Nat), r + st = 6 → r < n → lo ≤ t → t ≤ hi → hi < m → hi - lo < 2 ^ r → wX_placeInIndex_12 post (nI q) en fn ic il ix ga ge sd a1 a2 a3 a4 a5 a6 a7 a8 a9 a10 a11 a12 a13 a14 a15 a16 a17 a18 a19 a20 a21 n (nI lo) (nI hi) (nI st) := by
  intro r
  induction r with
  | zero =>
    intro st lo hi n h1 h2 h3 h4 h5 h6
    obtain ⟨n, rfl⟩ : ∃ m, n = m + 1 := ⟨n - 1, by omega⟩
    have e : lo = t := by simp at h6; omega
    subst e
    exact pk_le 6 st (fun _ => H) (fun z => absurd z (by omega))
  | succ r ih =>
    intro st lo hi n h1 h2 h3 h4 h5 h6
    obtain ⟨n, rfl⟩ : ∃ m, n = m + 1 := ⟨n - 1, by omega⟩
    have hp : 2 ^ (r + 1) = 2 * 2 ^ r := by rw [Nat.pow_succ]; omega
    refine pk_le 6 st (fun z => absurd z (by omega)) (fun _ => pk_le hi lo (fun z => ?_) (fun z => ⟨by decide, nm_r (e' := nI ((lo + hi + 1) / 2)) ?_ ⟨vp_in_nI (by omega) (by omega), ?_⟩⟩))
    · have e : lo = t := by omega
      subst e
      exact H
    · rw [nI_add, nI_1]
      exact pk_div (a := lo + hi + 1) (d := 2) (by omega) (by omega) (by omega)
    · rw [nI_clamp (show (lo + hi + 1) / 2 < 2 ^ 31 by omega)]
      have hg := dt_Rep_gt hX (i := (lo + hi + 1) / 2) (by omega) hq
      refine br_c (fun z => ?_) (fun z => ?_)
      · have hg := hg.mp z
        refine nm_r (e' := nI ((lo + hi + 1) / 2 - 1)) ?_ (nm_r (nI_1 st) (ih (st + 1) _ _ n (by omega) (by omega) h3 (by omega) (by omega) (by omega)))
        exact pk_sub (a := (lo + hi + 1) / 2) (b := 1) (by omega)
      · have hg : (lo + hi + 1) / 2 ≤ t := by
          rcases Nat.lt_or_ge t ((lo + hi + 1) / 2) with y | y
          · exact absurd (hg.mpr (by omega)) z
          · exact y
        exact nm_r (nI_1 st) (ih (st + 1) _ _ n (by omega) (by omega) hg h4 (by omega) (by omega))
theorem dt_pi {post : Int32 → Prop} {en fn ic il ix ga ge sd : Int32} {a1 a2 a3 a4 a5 a6 a7 a8 a9 a10 a11 a12 a13 a14 a15 a16 a17 a18 a19 a20 a21 : Nat → Int32} {FX : Nat → Option Int32} {q t : Nat} (hm : dt_c FX 4096 ≤ 24) (hX : dt_X ix a12 a13 FX) (hq : q < 4096) (ht : dt_c FX (q + 1) = t + 1) (H : post (nI t)) : wpX_placeInIndex post (en, fn, ic, il, ix, ga, ge, sd, a1, a2, a3, a4, a5, a6, a7, a8, a9, a10, a11, a12, a13, a14, a15, a16, a17, a18, a19, a20, a21) (nI q) := by
  obtain ⟨rfl, hX⟩ := hX
  have hle := dt_c_mono (F := FX) (a := q + 1) (b := 4096) (by omega)
  refine nm_r (e' := nI (dt_c FX 4096 - 1)) ?_ ⟨7, ?_⟩
  · exact pk_sub (a := dt_c FX 4096) (b := 1) (by omega)
  · exact dt_pi12 hm hX hq ht H 6 0 0 _ 7 (by omega) (by omega) (by omega) (by omega) (by omega) (by show _ < 64; omega)
/-! places shifted up -/
def dt_Sh (k m : Nat) (K K' : Nat → Int32) : Prop := (∀ j, j < k → K' j = K j) ∧ ∀ j, k ≤ j → j < m → K' (j + 1) = K j
theorem dt_Sh_0 {m : Nat} {K : Nat → Int32} : dt_Sh m m K K := ⟨fun _ _ => rfl, fun j h1 h2 => absurd h1 (by omega)⟩
theorem dt_Sh_s {k m : Nat} {K K' : Nat → Int32} (h : dt_Sh (k + 1) m K K') : dt_Sh k m K (upd K' (k + 1) (K' k)) := by
  refine ⟨fun j hj => ?_, fun j h1 h2 => ?_⟩
  · rw [pk_un (by omega)]; exact h.1 j (by omega)
  · by_cases e : j = k
    · subst e; rw [pk_us]; exact h.1 j (by omega)
    · rw [pk_un (by omega)]; exact h.2 j (by omega) h2
theorem dt_Sh_R {m : Nat} {K V K' V' : Nat → Int32} {F : Nat → Option Int32} {q : Nat} {v : Int32} (h : dt_Rep m K V F) (hq : q < 4096) (hn : F q = none) (hK : dt_Sh (dt_c F q) m K K') (hV : dt_Sh (dt_c F q) m V V') : dt_Rep (m + 1) (upd K' (dt_c F q) (nI q)) (upd V' (dt_c F q) v) (dt_set F q (some v)) := by
  refine dt_Rep_new h hq hn (fun j hj => ?_) ⟨pk_us, pk_us⟩ (fun j h1 h2 => ?_)
  · rw [pk_un (by omega), pk_un (by omega)]; exact ⟨hK.1 j hj, hV.1 j hj⟩
  · rw [pk_un (by omega), pk_un (by omega)]; exact ⟨hK.2 j h1 h2, hV.2 j h1 h2⟩
/-! rewriteIndex -/
theorem dt_ri26 {post : St1 → Prop} {J5 : Int32 → Int32 → (Nat → Int32) → (Nat → Int32) → (Nat → Int32) → (Nat → Int32) → (Nat → Int32) → (Nat → Int32) → (Nat → Int32) → (Nat → Int32) → (Nat → Int32) → (Nat → Int32) → (Nat → Int32) → (Nat → Int32) → (Nat → Int32) → (Nat → Int32) → (Nat → Int32) → (Nat → Int32) → (Nat → Int32) → (Nat → Int32) → (Nat → Int32) → (Nat → Int32) → (Nat → Int32) → Prop} {en fn ic il ix ga ge sd : Int32} {a1 a2 a3 a4 a5 a6 a7 a8 a9 a10 a11 a14 a15 a16 a17 a18 a19 a20 a21 : Nat → Int32} {K V : Nat → Int32} {FX : Nat → Option Int32} {m q cnt : Nat} {v : Int32} (hm : m < 160) (h9 : a9 m = nI q) (h10 : a10 m = v) (hq : q < 4096) (hc : cnt ≤ 23) (hR : dt_Rep cnt K V FX) (hn : FX q = none)
    (H : ∀ a12 a13, dt_Rep (cnt + 1) a12 a13 (dt_set FX q (some v)) → J5 (a11 m) ix a1 a2 a3 a4 a5 a6 a7 a8 a9 a10 a11 a12 a13 a14 a15 a16 a17 a18 a19 a20 a21) :
    ∀ (j k st n : Nat) (a12 a13 : Nat → Int32), k = dt_c FX q + j → k + st = cnt → j < n → dt_Sh k cnt K a12 → dt_Sh k cnt V a13 → wX_rewriteIndex_26 post J5 (nI m) en fn ic il ix ga ge sd n (nI k) (nI st) a1 a2 a3 a4 a5 a6 a7 a8 a9 a10 a11 a12 a13 a14 a15 a16 a17 a18 a19 a20 a21 := by
  have hcl : (nI m).toNatClampNeg = m := nI_clamp (by omega)
  have hvm : vp_in (nI m) 160 := vp_in_nI hm (by omega)
  have hle : ∀ i, i < cnt → (K i ≤ nI q ↔ i < dt_c FX q) := fun i hi => by rw [dt_Rep_le hR hi hq, dt_c_none hn]
  intro j
  induction j with
  | zero =>
    intro k st n a12 a13 e1 e2 h3 hK hV
    obtain ⟨n, rfl⟩ : ∃ m, n = m + 1 := ⟨n - 1, by omega⟩
    have hck : (nI k).toNatClampNeg = k := nI_clamp (by omega)
    have hvk : vp_in (nI k) 24 := vp_in_nI (by omega) (by omega)
    have e : dt_c FX q = k := by omega
    have fin : wX_rewriteIndex_90 post J5 (nI m) (nI k) en fn ic il ix ga ge sd a1 a2 a3 a4 a5 a6 a7 a8 a9 a10 a11 a12 a13 a14 a15 a16 a17 a18 a19 a20 a21 := by
      unfold wX_rewriteIndex_90
      rw [hcl, hck, h9, h10]
      have := dt_Sh_R (v := v) hR hq hn (by rw [e]; exact hK) (by rw [e]; exact hV)
      rw [e] at this
      exact ⟨hvm, hvk, nm_e ⟨hvm, hvk, nm_e ⟨hvm, nm_e (H _ _ this)⟩⟩⟩
    refine pk_le 24 st (fun z => absurd z (by omega)) (fun _ => pk_le k 0 (fun _ => fin) (fun z => ?_))
    obtain ⟨k, rfl⟩ : ∃ i, k = i + 1 := ⟨k - 1, by omega⟩
    rw [nI_pred, nI_clamp (show k < 2 ^ 31 by omega), hcl, h9, hK.1 k (by omega)]
    exact ⟨vp_in_nI (by omega) (by omega), hvm, br_t ((hle k (by omega)).mpr (by omega)) fin⟩
  | succ j ih =>
    intro k st n a12 a13 e1 e2 h3 hK hV
    obtain ⟨n, rfl⟩ : ∃ m, n = m + 1 := ⟨n - 1, by omega⟩
    obtain ⟨k, rfl⟩ : ∃ i, k = i + 1 := ⟨k - 1, by omega⟩
    have hvk : vp_in (nI (k + 1)) 24 := vp_in_nI (by omega) (by omega)
    have hvk' : vp_in (nI k) 24 := vp_in_nI (by omega) (by omega)
    refine pk_le 24 st (fun z => absurd z (by omega)) (fun _ => pk_le (k + 1) 0 (fun z => absurd z (by omega)) (fun z => ?_))
    rw [nI_pred, nI_clamp (show k < 2 ^ 31 by omega), hcl, h9, nI_clamp (show k + 1 < 2 ^ 31 by omega)]
    refine ⟨hvk', hvm, br_f (fun y => ?_) ⟨hvk', hvk, nm_e ⟨hvk', hvk, nm_e (nm_r (pk_m1 k) (nm_r (nI_1 st) ?_))⟩⟩⟩
    · rw [hK.1 k (by omega)] at y
      have := (hle k (by omega)).mp y
      omega
    · exact ih k (st + 1) n _ _ (by omega) (by omega) (by omega) (dt_Sh_s hK) (dt_Sh_s hV)
def dt_ins : List dt_Nt → (Nat → Option Int32) → Nat → Option Int32
  | [], F => F
  | n :: l, F => dt_ins l (dt_set F n.2.2.1 (some n.2.2.2))
theorem dt_ri5 {post : St1 → Prop} {en fn ic il ga ge sd : Int32} {a1 a2 a3 a4 a5 a6 a7 a8 a9 a10 a11 a14 a15 a16 a17 a18 a19 a20 a21 : Nat → Int32} {I : List dt_Nt} {F : List Nat} (hs : I.length ≤ 8) (hc : dt_Ch a8 a9 a10 a11 ic I) (hf : dt_Fr a11 fn F) (hl : (dt_nu I).Nodup) (hF : F.Nodup) (hd : ∀ k, k ∈ dt_nu I → k ∉ F) :
    ∀ (l : List dt_Nt) (x : Int32) (n : Nat) (FX : Nat → Option Int32) (a12 a13 : Nat → Int32), l.length < n → dt_Ch a8 a9 a10 a11 x l → dt_Rep (dt_c FX 4096) a12 a13 FX → dt_c FX 4096 + l.length ≤ 24 → (∀ m, m ∈ l → FX m.2.2.1 = none) → (l.map (fun n => n.2.2.1)).Nodup →
    (∀ fn' a11' a12' a13', dt_fc I F a11 fn' a11' → dt_Rep (dt_c FX 4096 + l.length) a12' a13' (dt_ins l FX) → post (en, fn', -1, 0, nI (dt_c FX 4096 + l.length), ga, ge, sd, a1, a2, a3, a4, a5, a6, a7, a8, a9, a10, a11', a12', a13', a14, a15, a16, a17, a18, a19, a20, a21)) →
    wX_rewriteIndex_5 post en fn ic il ga ge sd n x (nI (dt_c FX 4096)) a1 a2 a3 a4 a5 a6 a7 a8 a9 a10 a11 a12 a13 a14 a15 a16 a17 a18 a19 a20 a21 := by
  intro l
  induction l with
  | nil =>
    intro x n FX a12 a13 h1 h2 h3 h4 h5 h6 H
    obtain ⟨n, rfl⟩ : ∃ m, n = m + 1 := ⟨n - 1, by simp at h1; omega⟩
    have hx : x = -1 := h2
    subst hx
    refine br_t dt_neg (dt_free hs hc hf hl hF hd (fun fn' a11' h => ?_))
    exact H fn' a11' a12 a13 h h3
  | cons m l ih =>
    intro x n FX a12 a13 h1 h2 h3 h4 h5 h6 H
    obtain ⟨n, rfl⟩ : ∃ m, n = m + 1 := ⟨n - 1, by simp at h1; omega⟩
    obtain ⟨rfl, c2, c3, c4, c5, c6, c7, c8⟩ := h2
    rw [List.length_cons] at h1 h4
    rw [List.map_cons] at h6
    have h6 := List.nodup_cons.mp h6
    have hm := h5 m List.mem_cons_self
    have hle := dt_c_mono (F := FX) (a := m.2.2.1) (b := 4096) (by omega)
    have hcs : dt_c (dt_set FX m.2.2.1 (some m.2.2.2)) 4096 = dt_c FX 4096 + 1 := dt_c_set_new hm c7
    refine br_f (nI_pos (by omega)) (nm_r (nI_1 _) ⟨25, ?_⟩)
    refine dt_ri26 (K := a12) (V := a13) (FX := FX) (q := m.2.2.1) (v := m.2.2.2) (cnt := dt_c FX 4096) c2 c4 c5 c7 (by omega) h3 hm (fun b12 b13 hb => ?_) (dt_c FX 4096 - dt_c FX m.2.2.1) _ 0 25 _ _ (by omega) (by omega) (by omega) dt_Sh_0 dt_Sh_0
    rw [← hcs] at hb ⊢
    refine ih _ n _ b12 b13 (by omega) c8 hb (by omega) (fun k hk => ?_) h6.2 (fun fn' a11' a12' a13' g1 g2 => ?_)
    · rw [dt_set_n (fun z => h6.1 (by rw [← z]; exact List.mem_map.mpr ⟨k, hk, rfl⟩))]
      exact h5 k (List.mem_cons_of_mem _ hk)
    · have e : dt_c FX 4096 + (m :: l).length = dt_c (dt_set FX m.2.2.1 (some m.2.2.2)) 4096 + l.length := by rw [hcs, List.length_cons]; omega
      have := H fn' a11' a12' a13' g1 (by rw [e]; exact g2)
      rw [e] at this
      exact this
/-! what insertion makes -/
theorem dt_ins_ix {k : Nat} : ∀ {l : List dt_Nt} {F : Nat → Option Int32}, (∃ x, dt_ins l F k = some x) ↔ dt_ix F l k := by
  intro l
  induction l with
  | nil =>
    intro F
    constructor
    · exact fun h => Or.inl h
    · intro h
      rcases h with h | ⟨n, hn, _⟩
      · exact h
      · exact absurd hn List.not_mem_nil
  | cons m l ih =>
    intro F
    show (∃ x, dt_ins l (dt_set F m.2.2.1 (some m.2.2.2)) k = some x) ↔ _
    rw [ih]
    constructor
    · rintro (⟨x, h⟩ | ⟨n, hn, e⟩)
      · by_cases z : k = m.2.2.1
        · exact Or.inr ⟨m, List.mem_cons_self, z.symm⟩
        · rw [dt_set_n z] at h; exact Or.inl ⟨x, h⟩
      · exact Or.inr ⟨n, List.mem_cons_of_mem _ hn, e⟩
    · rintro (⟨x, h⟩ | ⟨n, hn, e⟩)
      · by_cases z : k = m.2.2.1
        · exact Or.inl ⟨m.2.2.2, by rw [z, dt_set_s]⟩
        · exact Or.inl ⟨x, by rw [dt_set_n z]; exact h⟩
      · rcases List.mem_cons.mp hn with y | y
        · subst y; exact Or.inl ⟨n.2.2.2, by rw [← e, dt_set_s]⟩
        · exact Or.inr ⟨n, y, e⟩
theorem dt_ins_val {k : Nat} {x : Int32} : ∀ {l : List dt_Nt} {F : Nat → Option Int32}, dt_ins l F k = some x → F k = some x ∨ ∃ n, n ∈ l ∧ n.2.2.1 = k ∧ n.2.2.2 = x := by
  intro l
  induction l with
  | nil => intro F h; exact Or.inl h
  | cons m l ih =>
    intro F h
    rcases ih (F := dt_set F m.2.2.1 (some m.2.2.2)) h with z | ⟨n, hn, e⟩
    · by_cases y : k = m.2.2.1
      · rw [y, dt_set_s] at z
        exact Or.inr ⟨m, List.mem_cons_self, y.symm, Option.some.inj z⟩
      · rw [dt_set_n y] at z; exact Or.inl z
    · exact Or.inr ⟨n, List.mem_cons_of_mem _ hn, e⟩
theorem dt_Y_add {a1 : Nat → Int32} {I : List dt_Nt} {FX : Nat → Option Int32} {lo : Nat → Nat} {u n : Nat} (h : dt_Y a1 I FX lo) (hu : u < 24) (ha : a1 u ≠ 0) (hx : FX (lo u) = none) (hi : ∀ m, m ∈ I → m.2.2.1 ≠ lo u) : dt_Y a1 ((n, 2, lo u, nI u) :: I) FX lo := by
  obtain ⟨y1, y2, y3, y4, ixd, y5, y6⟩ := h
  have hiu : ¬ ixd u = true := fun z => by
    rcases (y6 u hu z).2 with ⟨x, e⟩ | ⟨m, hm, e⟩
    · rw [hx] at e; exact absurd e (by simp)
    · exact hi m hm e
  refine ⟨y1, y2, fun m hm => ?_, ?_, dt_up ixd u true, ?_, fun p hp e => ?_⟩
  · rcases List.mem_cons.mp hm with z | z
    · subst z; exact ⟨⟨u, hu, rfl, ha, rfl⟩, hx⟩
    · exact y3 m z
  · rw [List.map_cons]
    refine List.nodup_cons.mpr ⟨fun z => ?_, y4⟩
    obtain ⟨m, hm, e⟩ := List.mem_map.mp z
    exact hi m hm e
  · rw [dt_cn_set (P := ixd) (Q := dt_up ixd u true) hu hiu dt_up_s (fun i hi => dt_up_n hi), y5, List.length_cons]; omega
  · by_cases z : p = u
    · subst z; exact ⟨ha, Or.inr ⟨_, List.mem_cons_self, rfl⟩⟩
    · rw [dt_up_n z] at e
      refine ⟨(y6 p hp e).1, ?_⟩
      rcases (y6 p hp e).2 with g | ⟨m, hm, g⟩
      · exact Or.inl g
      · exact Or.inr ⟨m, List.mem_cons_of_mem _ hm, g⟩
theorem dt_Y_ins {a1 : Nat → Int32} {I : List dt_Nt} {FX : Nat → Option Int32} {lo : Nat → Nat} (h : dt_Y a1 I FX lo) (hc : dt_c (dt_ins I FX) 4096 = dt_c FX 4096 + I.length) : dt_Y a1 [] (dt_ins I FX) lo := by
  obtain ⟨y1, y2, y3, y4, ixd, y5, y6⟩ := h
  refine ⟨dt_ins_ix.mpr (Or.inl y1), fun k x e => ?_, fun m hm => absurd hm List.not_mem_nil, List.nodup_nil, ixd, ?_, fun p hp e => ⟨(y6 p hp e).1, Or.inl (dt_ins_ix.mpr (y6 p hp e).2)⟩⟩
  · rcases dt_ins_val e with z | ⟨n, hn, e1, e2⟩
    · exact y2 k x z
    · obtain ⟨⟨p, h1, h2, h3, h4⟩, _⟩ := y3 n hn
      exact ⟨p, h1, by rw [← e2]; exact h2, h3, by rw [h4]; exact e1⟩
  · rw [y5, hc]; rfl
theorem dt_P_ix {a1 a7 : Nat → Int32} {M : Nat → Option Int32} {C : Nat → List dt_Nt} {I I' : List dt_Nt} {B : Nat → Nat → Option Int32} {FX FX' : Nat → Option Int32} {lo hi : Nat → Nat} (h : dt_P a1 a7 M C I B FX lo hi) (hx : ∀ k, dt_ix FX I k → dt_ix FX' I' k) : dt_P a1 a7 M C I' B FX' lo hi := by
  intro p hp
  refine ⟨(h p hp).1, fun ha => ⟨((h p hp).2 ha).1, ?_⟩⟩
  rcases ((h p hp).2 ha).2 with ⟨g1, g2, g3, g4⟩ | g
  · exact Or.inl ⟨g1, g2, g3, g4.imp id (hx _)⟩
  · exact Or.inr g
theorem dt_Y_cnt {a1 : Nat → Int32} {I : List dt_Nt} {FX : Nat → Option Int32} {lo : Nat → Nat} (h : dt_Y a1 I FX lo) : dt_c FX 4096 + I.length ≤ 24 := by
  obtain ⟨_, _, _, _, ixd, y5, _⟩ := h
  rw [← y5]
  exact dt_cn_le _ _
end
section
/-! noteInIndex -/
theorem dt_nix {post : St1 → Prop} {en fn ic il ix ga ge sd : Int32} {a1 a2 a3 a4 a5 a6 a7 a8 a9 a10 a11 a12 a13 a14 a15 a16 a17 a18 a19 a20 a21 : Nat → Int32} {M : Nat → Option Int32} {C : Nat → List dt_Nt} {I : List dt_Nt} {B : Nat → Nat → Option Int32} {FX : Nat → Option Int32} {lo hi : Nat → Nat} {u : Nat} (hJ : dt_J M C I B FX lo hi fn ic il ix a1 a2 a3 a4 a5 a6 a7 a8 a9 a10 a11 a12 a13) (hu : u < 24) (ha : a1 u ≠ 0)
    (H : ∀ (fn' ic' il' ix' : Int32) (a8' a9' a10' a11' a12' a13' : Nat → Int32) (I' : List dt_Nt) (FX' : Nat → Option Int32), dt_J M C I' B FX' lo hi fn' ic' il' ix' a1 a2 a3 a4 a5 a6 a7 a8' a9' a10' a11' a12' a13' → (∀ k, dt_ix FX' I' k ↔ dt_ix FX I k ∨ k = lo u) → post (en, fn', ic', il', ix', ga, ge, sd, a1, a2, a3, a4, a5, a6, a7, a8', a9', a10', a11', a12', a13', a14, a15, a16, a17, a18, a19, a20, a21)) : wpX_noteInIndex post (en, fn, ic, il, ix, ga, ge, sd, a1, a2, a3, a4, a5, a6, a7, a8, a9, a10, a11, a12, a13, a14, a15, a16, a17, a18, a19, a20, a21) (nI (lo u)) (nI u) := by
  have hJ' := hJ
  obtain ⟨hN, hI4, hB, hX, hR, hY, hP⟩ := hJ'
  have hq : lo u < 4096 := by have := hR.1 u hu ha; omega
  have hcnt := dt_Y_cnt hY
  have done : dt_ix FX I (lo u) → post (en, fn, ic, il, ix, ga, ge, sd, a1, a2, a3, a4, a5, a6, a7, a8, a9, a10, a11, a12, a13, a14, a15, a16, a17, a18, a19, a20, a21) := fun h => H _ _ _ _ _ _ _ _ _ _ I FX hJ (fun k => ⟨Or.inl, fun z => z.elim id (fun e => by rw [e]; exact h)⟩)
  have E : FX (lo u) = none → ∀ (l : List dt_Nt) (x : Int32) (n : Nat), l.length < n → dt_Ch a8 a9 a10 a11 x l → (∀ m, m ∈ l → m ∈ I) → (∀ m, m ∈ I → m.2.2.1 = lo u → m ∈ l) → wX_noteInIndex_32 post (nI (lo u)) (nI u) en fn ic il ix ga ge sd a1 a2 a3 a4 a5 a6 a7 a8 a9 a10 a11 a12 a13 a14 a15 a16 a17 a18 a19 a20 a21 n x := by
    intro hx l
    induction l with
    | nil =>
      intro x n h1 h2 h3 h4
      obtain ⟨n, rfl⟩ : ∃ m, n = m + 1 := ⟨n - 1, by simp at h1; omega⟩
      have hxe : x = -1 := h2
      subst hxe
      have hni : ∀ m, m ∈ I → m.2.2.1 ≠ lo u := fun m hm e => absurd (h4 m hm e) List.not_mem_nil
      obtain ⟨n0, hn0, hf⟩ := dt_N_head hN
      have hN1 := dt_N_addI (kd := 2) (ky := lo u) (v := nI u) hN hn0 hf hI4 (by omega) hq
      have hY1 := dt_Y_add (n := n0) hY hu ha hx hni
      have hil : il = nI I.length := by obtain ⟨F, ow, _, h, _⟩ := hN; exact h.2.2.2.1
      have hix : ∀ k, dt_ix FX ((n0, 2, lo u, nI u) :: I) k ↔ dt_ix FX I k ∨ k = lo u := by
        intro k
        constructor
        · rintro (z | ⟨m, hm, e⟩)
          · exact Or.inl (Or.inl z)
          · rcases List.mem_cons.mp hm with y | y
            · subst y; exact Or.inr e.symm
            · exact Or.inl (Or.inr ⟨m, y, e⟩)
        · rintro ((z | ⟨m, hm, e⟩) | z)
          · exact Or.inl z
          · exact Or.inr ⟨m, List.mem_cons_of_mem _ hm, e⟩
          · exact Or.inr ⟨_, List.mem_cons_self, z.symm⟩
      refine br_t dt_neg (dt_new hn0 hf (nm_r (e' := nI (I.length + 1)) (by rw [hil, nI_1]) (pk_le (I.length + 1) 4 (fun z => ?_) (fun z => ?_))))
      · exact H _ _ _ _ _ _ _ _ _ _ ((n0, 2, lo u, nI u) :: I) FX ⟨hN1, by rw [List.length_cons]; omega, hB, hX, hR, hY1, dt_P_ix hP (fun k h => (hix k).mpr (Or.inl h))⟩ hix
      · obtain ⟨F, ow, hN2⟩ := hN1
        obtain ⟨rfl, hRX⟩ := hX
        have hcnt1 := dt_Y_cnt hY1
        refine ⟨7, dt_ri5 (I := (n0, 2, lo u, nI u) :: I) (F := F) (by rw [List.length_cons]; omega) hN2.2.1.1 hN2.1.1 hN2.2.1.2.1 hN2.1.2.1 (dt_N1_dI hN2) ((n0, 2, lo u, nI u) :: I) (nI n0) 7 FX a12 a13 (by rw [List.length_cons]; omega) hN2.2.1.1 hRX hcnt1 (fun m hm => (hY1.2.2.1 m hm).2) hY1.2.2.2.1 (fun fn' a11' a12' a13' g1 g2 => ?_)⟩
        have hce := g2.1
        refine H _ _ _ _ _ _ _ _ _ _ [] (dt_ins ((n0, 2, lo u, nI u) :: I) FX) ⟨dt_N_fcI hN2 g1, by rw [List.length_nil]; omega, hB, ⟨by rw [hce], by rw [← hce]; exact g2⟩, hR, dt_Y_ins hY1 hce.symm, dt_P_ix hP (fun k h => Or.inl (dt_ins_ix.mpr ((hix k).mpr (Or.inl h))))⟩ (fun k => ?_)
        rw [← hix k]
        constructor
        · rintro (z | ⟨m, hm, _⟩)
          · exact dt_ins_ix.mp z
          · exact absurd hm List.not_mem_nil
        · exact fun z => Or.inl (dt_ins_ix.mpr z)
    | cons m l ih =>
      intro x n h1 h2 h3 h4
      obtain ⟨n, rfl⟩ : ∃ m, n = m + 1 := ⟨n - 1, by simp at h1; omega⟩
      obtain ⟨rfl, c2, c3, c4, c5, c6, c7, c8⟩ := h2
      rw [List.length_cons] at h1
      have hv : vp_in (nI m.1) 160 := vp_in_nI c2 (by omega)
      refine br_f (nI_pos (by omega)) ?_
      rw [nI_clamp (show m.1 < 2 ^ 31 by omega), c4]
      refine ⟨hv, pk_eq m.2.2.1 (lo u) (fun z => done (Or.inr ⟨m, h3 m List.mem_cons_self, z⟩)) (fun z => ⟨hv, nm_e (ih _ n (by omega) c8 (fun k hk => h3 k (List.mem_cons_of_mem _ hk)) (fun k hk e => ?_))⟩)⟩
      rcases List.mem_cons.mp (h4 k hk e) with y | y
      · subst y; exact absurd e z
      · exact y
  obtain ⟨rfl, hRX⟩ := hX
  have G : ∀ (r i n : Nat), r + i = dt_c FX 4096 → r < n → (∀ j, j < i → a12 j ≠ nI (lo u)) → wX_noteInIndex_2 post (nI (lo u)) (nI u) en fn ic il (nI (dt_c FX 4096)) ga ge sd a1 a2 a3 a4 a5 a6 a7 a8 a9 a10 a11 a12 a13 a14 a15 a16 a17 a18 a19 a20 a21 n (nI i) := by
    intro r
    induction r with
    | zero =>
      intro i n h1 h2 h3
      obtain ⟨n, rfl⟩ : ∃ m, n = m + 1 := ⟨n - 1, by omega⟩
      refine pk_le (dt_c FX 4096) i (fun _ => ⟨6, E ?_ I ic 6 (by omega) ?_ (fun _ h => h) (fun _ h _ => h)⟩) (fun z => absurd z (by omega))
      · cases e : FX (lo u) with
        | none => rfl
        | some x =>
          have h5 := (dt_Rep_in hRX hq).mp ⟨x, e⟩
          exact absurd h5.2 (h3 _ (by omega))
      · obtain ⟨F, ow, _, h, _⟩ := hN; exact h.1
    | succ r ih =>
      intro i n h1 h2 h3
      obtain ⟨n, rfl⟩ : ∃ m, n = m + 1 := ⟨n - 1, by omega⟩
      refine pk_le (dt_c FX 4096) i (fun z => absurd z (by omega)) (fun _ => ?_)
      rw [nI_clamp (show i < 2 ^ 31 by omega)]
      refine ⟨vp_in_nI (by omega) (by omega), br_c (fun z => ?_) (fun z => nm_r (nI_1 i) (ih (i + 1) n (by omega) (by omega) (fun j hj => ?_)))⟩
      · obtain ⟨k, v, hk, e, ec, e1, _⟩ := dt_Rep_nth hRX (i := i) (by omega)
        rw [e1] at z
        have hkq : k = lo u := (nI_eq (by omega) (by omega)).mp z
        exact done (Or.inl ⟨v, by rw [← hkq]; exact e⟩)
      · by_cases y : j = i
        · rw [y]; exact z
        · exact h3 j (by omega)
  exact ⟨25, G (dt_c FX 4096) 0 25 (by omega) (by omega) (fun j hj => absurd hj (by omega))⟩
/-! pageFor -/
theorem dt_pf93 {post : Int32 → St1 → Prop} {en ga ge sd : Int32} {a1 a2 a3 a4 a5 a6 a7 a14 a15 a16 a17 a18 a19 a20 a21 : Nat → Int32} {M : Nat → Option Int32} {C : Nat → List dt_Nt} {B : Nat → Nat → Option Int32} {lo hi : Nat → Nat} {q : Nat} (hq : q < 4096)
    (H : ∀ (fn ic il ix : Int32) (a8 a9 a10 a11 a12 a13 : Nat → Int32) (I : List dt_Nt) (FX : Nat → Option Int32) (p : Nat), dt_J M C I B FX lo hi fn ic il ix a1 a2 a3 a4 a5 a6 a7 a8 a9 a10 a11 a12 a13 → p < 24 → a1 p ≠ 0 → lo p ≤ q → q < hi p → dt_ix FX I (lo p) → post (nI p) (en, fn, ic, il, ix, ga, ge, sd, a1, a2, a3, a4, a5, a6, a7, a8, a9, a10, a11, a12, a13, a14, a15, a16, a17, a18, a19, a20, a21)) :
    ∀ (n p st : Nat) (fn ic il ix : Int32) (a8 a9 a10 a11 a12 a13 : Nat → Int32) (I : List dt_Nt) (FX : Nat → Option Int32), dt_J M C I B FX lo hi fn ic il ix a1 a2 a3 a4 a5 a6 a7 a8 a9 a10 a11 a12 a13 → p < 24 → a1 p ≠ 0 → lo p ≤ q → dt_ix FX I (lo p) → (∀ k, dt_ix FX I k → k ≤ q → k ≤ lo p) →
      st + dt_cn (fun r => decide (a1 r ≠ 0) && decide (lo p < lo r)) 24 < 24 → dt_cn (fun r => decide (a1 r ≠ 0) && decide (lo p < lo r)) 24 < n → wX_pageFor_93 post (nI q) n (nI p) (dt_dn (C p)) (nI st) en fn ic il ix ga ge sd a1 a2 a3 a4 a5 a6 a7 a8 a9 a10 a11 a12 a13 a14 a15 a16 a17 a18 a19 a20 a21 := by
  intro n
  induction n with
  | zero => intro p st fn ic il ix a8 a9 a10 a11 a12 a13 I FX hJ hp ha hlo hix hmx hst hn; omega
  | succ n ih =>
    intro p st fn ic il ix a8 a9 a10 a11 a12 a13 I FX hJ hp ha hlo hix hmx hst hn
    have hJ' := hJ
    obtain ⟨hN, hI4, hB, hX, hR, hY, hP⟩ := hJ'
    have hr := hR.1 p hp ha
    rcases ((hP p hp).2 ha).2 with ⟨g1, g2, g3, g4⟩ | ⟨l, d, u, g1, g2, g3, g4, g5, g6, g7⟩
    · rw [dt_dn_A g1]
      refine pk_le 24 st (fun z => absurd z (by omega)) (fun _ => br_t dt_neg (H _ _ _ _ _ _ _ _ _ _ I FX p hJ hp ha hlo ?_ hix))
      rcases g4 with z | z
      · omega
      · rcases Nat.lt_or_ge q (hi p) with y | y
        · exact y
        · have := hmx _ z y; omega
    · have hdn : dt_dn (C p) = nI d := by rw [g1]; exact dt_dn_B g2 rfl
      rw [hdn]
      have hmem : (d, 2, hi p, nI u) ∈ C p := by rw [g1]; exact List.mem_append_right _ List.mem_cons_self
      have hch : dt_Ch a8 a9 a10 a11 (a2 p) (C p) := by obtain ⟨F, ow, _, _, h, _⟩ := hN; exact (h p hp).1
      obtain ⟨m1, m2, m3, m4, m5, m6⟩ := dt_Ch_mem hch hmem
      have m1 : d < 160 := m1
      have m3 : a9 d = nI (hi p) := m3
      have m4 : a10 d = nI u := m4
      have hv : vp_in (nI d) 160 := vp_in_nI m1 (by omega)
      have hcl : (nI d).toNatClampNeg = d := nI_clamp (by omega)
      refine pk_le 24 st (fun z => absurd z (by omega)) (fun _ => br_f (nI_pos (by omega)) ?_)
      rw [hcl, m3, m4]
      refine ⟨hv, pk_lt q (hi p) (fun z => H _ _ _ _ _ _ _ _ _ _ I FX p hJ hp ha hlo z hix) (fun z => ⟨hv, hv, ?_⟩)⟩
      rw [← g5]
      refine dt_nix hJ g3 g4 (fun fn' ic' il' ix' a8' a9' a10' a11' a12' a13' I' FX' hJ2 hix2 => ⟨hv, ?_⟩)
      have hch2 : ∀ r, r < 24 → dt_Ch a8' a9' a10' a11' (a2 r) (C r) := by obtain ⟨⟨F, ow, _, _, h, _⟩, _⟩ := hJ2; exact fun r hr => (h r hr).1
      have m4' : a10' d = nI u := (dt_Ch_mem (hch2 p hp) hmem).2.2.2.1
      refine nm_r (e' := nI u) m4' (dt_div g3 (hch2 u g3) (nm_r (nI_1 st) ?_))
      have hlt : dt_cn (fun r => decide (a1 r ≠ 0) && decide (lo u < lo r)) 24 < dt_cn (fun r => decide (a1 r ≠ 0) && decide (lo p < lo r)) 24 := by
        refine dt_cn_lt (k := u) (fun i hi e => ?_) g3 ?_ ?_
        · simp only [Bool.and_eq_true, decide_eq_true_eq] at e ⊢
          exact ⟨e.1, by omega⟩
        · simp only [Bool.and_eq_true, decide_eq_true_eq]
          exact ⟨g4, by omega⟩
        · simp only [Bool.and_eq_true, decide_eq_true_eq]
          omega
      refine ih u (st + 1) _ _ _ _ _ _ _ _ _ _ I' FX' hJ2 g3 g4 (by omega) ((hix2 _).mpr (Or.inr rfl)) (fun k hk hkq => ?_) (by omega) (by omega)
      rcases (hix2 k).mp hk with y | y
      · have := hmx k y hkq; omega
      · omega
theorem dt_pf {post : Int32 → St1 → Prop} {en fn ic il ix ga ge sd : Int32} {a1 a2 a3 a4 a5 a6 a7 a8 a9 a10 a11 a12 a13 a14 a15 a16 a17 a18 a19 a20 a21 : Nat → Int32} {M : Nat → Option Int32} {C : Nat → List dt_Nt} {I : List dt_Nt} {B : Nat → Nat → Option Int32} {FX : Nat → Option Int32} {lo hi : Nat → Nat} {q : Nat} (hJ : dt_J M C I B FX lo hi fn ic il ix a1 a2 a3 a4 a5 a6 a7 a8 a9 a10 a11 a12 a13) (hq : q < 4096)
    (H : ∀ (fn ic il ix : Int32) (a8 a9 a10 a11 a12 a13 : Nat → Int32) (I : List dt_Nt) (FX : Nat → Option Int32) (p : Nat), dt_J M C I B FX lo hi fn ic il ix a1 a2 a3 a4 a5 a6 a7 a8 a9 a10 a11 a12 a13 → p < 24 → a1 p ≠ 0 → lo p ≤ q → q < hi p → dt_ix FX I (lo p) → post (nI p) (en, fn, ic, il, ix, ga, ge, sd, a1, a2, a3, a4, a5, a6, a7, a8, a9, a10, a11, a12, a13, a14, a15, a16, a17, a18, a19, a20, a21)) : wpX_pageFor post (en, fn, ic, il, ix, ga, ge, sd, a1, a2, a3, a4, a5, a6, a7, a8, a9, a10, a11, a12, a13, a14, a15, a16, a17, a18, a19, a20, a21) (nI q) := by
  have hJ' := hJ
  obtain ⟨hN, hI4, hB, hX, hR, hY, hP⟩ := hJ'
  have hcnt := dt_Y_cnt hY
  obtain ⟨F, ow, hN1⟩ := hN
  have L : ∀ (l : List dt_Nt) (x : Int32) (n p : Nat), l.length < n → dt_Ch a8 a9 a10 a11 x l → (∀ m, m ∈ l → m ∈ I) → p < 24 → a1 p ≠ 0 → lo p ≤ q → dt_ix FX I (lo p) → (∀ k, dt_ix FX I k → k ≤ q → k ≤ lo p ∨ ∃ m, m ∈ l ∧ m.2.2.1 = k) → wX_pageFor_28 post (nI q) en fn ic il ix ga ge sd a1 a2 a3 a4 a5 a6 a7 a8 a9 a10 a11 a12 a13 a14 a15 a16 a17 a18 a19 a20 a21 n (nI p) (nI (lo p)) x := by
    intro l
    induction l with
    | nil =>
      intro x n p h1 h2 h3 hp ha hlo hix hmx
      obtain ⟨n, rfl⟩ : ∃ m, n = m + 1 := ⟨n - 1, by simp at h1; omega⟩
      have hxe : x = -1 := h2
      subst hxe
      have hlt : dt_cn (fun r => decide (a1 r ≠ 0) && decide (lo p < lo r)) 24 < 24 := by
        have h5 := dt_cn_lt (P := fun r => decide (a1 r ≠ 0) && decide (lo p < lo r)) (Q := fun _ => true) (n := 24) (k := p) (fun _ _ _ => rfl) hp rfl (by simp only [Bool.and_eq_true, decide_eq_true_eq]; omega)
        have h6 := dt_cn_le (fun _ => true) 24
        omega
      refine br_t dt_neg (dt_div hp (hN1.2.2.1 p hp).1 ⟨25, dt_pf93 hq H 25 p 0 _ _ _ _ _ _ _ _ _ _ I FX hJ hp ha hlo hix (fun k hk hkq => ?_) (by omega) (by omega)⟩)
      rcases hmx k hk hkq with z | ⟨m, hm, _⟩
      · exact z
      · exact absurd hm List.not_mem_nil
    | cons m l ih =>
      intro x n p h1 h2 h3 hp ha hlo hix hmx
      obtain ⟨n, rfl⟩ : ∃ m, n = m + 1 := ⟨n - 1, by simp at h1; omega⟩
      obtain ⟨rfl, c2, c3, c4, c5, c6, c7, c8⟩ := h2
      rw [List.length_cons] at h1
      have hv : vp_in (nI m.1) 160 := vp_in_nI c2 (by omega)
      have hr := hR.1 p hp ha
      refine br_f (nI_pos (by omega)) ?_
      rw [nI_clamp (show m.1 < 2 ^ 31 by omega), c4, c5]
      refine ⟨hv, pk_lt q m.2.2.1 (fun z => ⟨hv, nm_e (ih _ n p (by omega) c8 (fun k hk => h3 k (List.mem_cons_of_mem _ hk)) hp ha hlo hix (fun k hk hkq => ?_))⟩) (fun z => ⟨hv, pk_le m.2.2.1 (lo p) (fun y => ⟨hv, nm_e (ih _ n p (by omega) c8 (fun k hk => h3 k (List.mem_cons_of_mem _ hk)) hp ha hlo hix (fun k hk hkq => ?_))⟩) (fun y => ⟨hv, nm_e ⟨hv, nm_e ⟨hv, nm_e ?_⟩⟩⟩)⟩)⟩
      · rcases hmx k hk hkq with w | ⟨j, hj, e⟩
        · exact Or.inl w
        · rcases List.mem_cons.mp hj with t | t
          · subst t; omega
          · exact Or.inr ⟨j, t, e⟩
      · rcases hmx k hk hkq with w | ⟨j, hj, e⟩
        · exact Or.inl w
        · rcases List.mem_cons.mp hj with t | t
          · subst t; exact Or.inl (by omega)
          · exact Or.inr ⟨j, t, e⟩
      · obtain ⟨⟨r, r1, r2, r3, r4⟩, _⟩ := hY.2.2.1 m (h3 m List.mem_cons_self)
        rw [r2, ← r4]
        rw [← r4] at z y
        refine ih _ n r (by omega) c8 (fun k hk => h3 k (List.mem_cons_of_mem _ hk)) r1 r3 z (Or.inr ⟨m, h3 m List.mem_cons_self, r4.symm⟩) (fun k hk hkq => ?_)
        rcases hmx k hk hkq with w | ⟨j, hj, e⟩
        · exact Or.inl (by omega)
        · rcases List.mem_cons.mp hj with t | t
          · subst t; exact Or.inl (by omega)
          · exact Or.inr ⟨j, t, e⟩
  obtain ⟨x0, hx0⟩ := hY.1
  have h1 := dt_c_lt hx0 (show 0 < q + 1 by omega)
  obtain ⟨t, ht⟩ : ∃ t, dt_c FX (q + 1) = t + 1 := ⟨dt_c FX (q + 1) - 1, by omega⟩
  have hle := dt_c_mono (F := FX) (a := q + 1) (b := 4096) (by omega)
  obtain ⟨k, v, hk, ek, ec⟩ := dt_c_nth (F := FX) (n := q + 1) (i := t) (by omega)
  obtain ⟨e0, e1, e2⟩ := hX.2.2 k v ek
  rw [ec] at e1 e2
  obtain ⟨p, p1, p2, p3, p4⟩ := hY.2.1 k v ek
  have hcl : (nI t).toNatClampNeg = t := nI_clamp (by omega)
  refine dt_pi (by omega) hX hq ht ⟨vp_in_nI (by omega) (by omega), nm_r (e' := nI p) (by rw [hcl, e2, p2]) (dt_pi (by omega) hX hq ht ⟨vp_in_nI (by omega) (by omega), nm_r (e' := nI (lo p)) (by rw [hcl, e1, p4]) ⟨7, L I ic 7 p (by omega) hN1.2.1.1 (fun _ h => h) p1 p3 (by omega) (Or.inl ⟨v, by rw [p4]; exact ek⟩) (fun j hj hjq => ?_)⟩⟩)⟩
  rcases hj with ⟨y, hy⟩ | ⟨m, hm, e⟩
  · left
    rw [p4]
    have h5 := dt_c_lt hy (show j < q + 1 by omega)
    exact (dt_c_ge ek hy).mpr (by omega)
  · exact Or.inr ⟨m, hm, e⟩
end
section
/-! apply -/
theorem dt_ap19 {post : St1 → Prop} {en fn ic il ix ge sd : Int32} {a1 a2 a3 a4 a5 a6 a7 a8 a9 a10 a11 a12 a13 a14 a15 a16 a17 a18 a19 a20 a21 : Nat → Int32} {F : Nat → Option Int32} {cnt q : Nat} (hR : dt_Rep cnt a14 a15 F) (hc : cnt ≤ 16) (hq : q < 4096) (H : post (en, fn, ic, il, ix, nI (dt_c F q), nI q, sd, a1, a2, a3, a4, a5, a6, a7, a8, a9, a10, a11, a12, a13, a14, a15, a16, a17, a18, a19, a20, a21)) :
    ∀ (j k st n : Nat), k = dt_c F q + j → k ≤ cnt → k + st = cnt → j < n → wX_apply_19 post (nI q) en fn ic il ix ge sd a1 a2 a3 a4 a5 a6 a7 a8 a9 a10 a11 a12 a13 a14 a15 a16 a17 a18 a19 a20 a21 n (nI st) (nI k) := by
  intro j
  induction j with
  | zero =>
    intro k st n e1 e2 e3 h4
    obtain ⟨n, rfl⟩ : ∃ m, n = m + 1 := ⟨n - 1, by omega⟩
    have e : k = dt_c F q := by omega
    rw [← e] at H
    refine pk_le 16 st (fun _ => H) (fun _ => pk_le k 0 (fun _ => H) (fun z => ?_))
    obtain ⟨i, rfl⟩ : ∃ i, k = i + 1 := ⟨k - 1, by omega⟩
    rw [nI_pred, nI_clamp (show i < 2 ^ 31 by omega)]
    exact ⟨vp_in_nI (by omega) (by omega), br_t ((dt_Rep_lt hR (by omega) (by omega)).mpr (by omega)) H⟩
  | succ j ih =>
    intro k st n e1 e2 e3 h4
    obtain ⟨n, rfl⟩ : ∃ m, n = m + 1 := ⟨n - 1, by omega⟩
    obtain ⟨i, rfl⟩ : ∃ i, k = i + 1 := ⟨k - 1, by omega⟩
    refine pk_le 16 st (fun z => absurd z (by omega)) (fun _ => pk_le (i + 1) 0 (fun z => absurd z (by omega)) (fun z => ?_))
    rw [nI_pred, nI_clamp (show i < 2 ^ 31 by omega)]
    refine ⟨vp_in_nI (by omega) (by omega), br_f (fun y => ?_) (nm_e (nm_r (nI_1 st) (ih i (st + 1) n (by omega) (by omega) (by omega) (by omega))))⟩
    have := (dt_Rep_lt hR (by omega) (by omega)).mp y
    omega
theorem dt_ap212 {post : St1 → Prop} {en fn ic il ix ga ge sd : Int32} {a1 a2 a3 a4 a5 a6 a7 a8 a9 a10 a11 a12 a13 a14 a15 a16 a17 a18 a19 a20 a21 : Nat → Int32} {F : Nat → Option Int32} {m t cnt : Nat} {z0 x2 v : Int32} (hm : m < 160) (ht : t < 16) (h10 : a10 m = v) (hz : ga + z0 = nI cnt) (H : post (en, fn, ic, il, ix, nI cnt, ge, sd, a1, a2, a3, a4, a5, a6, a7, a8, a9, a10, a11, a12, a13, upd a14 t x2, upd a15 t v, a16, a17, a18, a19, a20, a21)) : wX_apply_212 post (nI m) x2 (nI t) z0 ga en fn ic il ix ga ge sd a1 a2 a3 a4 a5 a6 a7 a8 a9 a10 a11 a12 a13 a14 a15 a16 a17 a18 a19 a20 a21 := by
  unfold wX_apply_212
  rw [nI_clamp (show m < 2 ^ 31 by omega), nI_clamp (show t < 2 ^ 31 by omega), h10]
  exact nm_r hz ⟨vp_in_nI ht (by omega), nm_e ⟨vp_in_nI hm (by omega), vp_in_nI ht (by omega), nm_e H⟩⟩
theorem dt_ap148 {post : St1 → Prop} {en fn ic il ix ge sd : Int32} {a1 a2 a3 a4 a5 a6 a7 a8 a9 a10 a11 a12 a13 a16 a17 a18 a19 a20 a21 : Nat → Int32} {K V : Nat → Int32} {F : Nat → Option Int32} {cnt q m : Nat} {v : Int32} (hR : dt_Rep cnt K V F) (hc : cnt ≤ 15) (hq : q < 4096) (hn : F q = none) (hm : m < 160) (h10 : a10 m = v)
    (H : ∀ a14 a15, dt_Rep (cnt + 1) a14 a15 (dt_set F q (some v)) → post (en, fn, ic, il, ix, nI (cnt + 1), ge, sd, a1, a2, a3, a4, a5, a6, a7, a8, a9, a10, a11, a12, a13, a14, a15, a16, a17, a18, a19, a20, a21)) :
    ∀ (j k n : Nat) (a14 a15 : Nat → Int32), k = dt_c F q + j → k ≤ cnt → j < n → dt_Sh k cnt K a14 → dt_Sh k cnt V a15 → wX_apply_148 post (nI m) (nI q) (nI (dt_c F q)) 0 en fn ic il ix (nI cnt) ge sd n (nI k) a1 a2 a3 a4 a5 a6 a7 a8 a9 a10 a11 a12 a13 a14 a15 a16 a17 a18 a19 a20 a21 := by
  intro j
  induction j with
  | zero =>
    intro k n a14 a15 e1 e2 h3 hK hV
    obtain ⟨n, rfl⟩ : ∃ m, n = m + 1 := ⟨n - 1, by omega⟩
    have e : k = dt_c F q := by omega
    subst e
    refine pk_le (dt_c F q) (dt_c F q) (fun _ => br_t rfl (dt_ap212 (F := F) (cnt := cnt + 1) hm (by omega) h10 (nI_1 cnt) (H _ _ (dt_Sh_R hR hq hn hK hV)))) (fun z => absurd z (by omega))
  | succ j ih =>
    intro k n a14 a15 e1 e2 h3 hK hV
    obtain ⟨n, rfl⟩ : ∃ m, n = m + 1 := ⟨n - 1, by omega⟩
    obtain ⟨i, rfl⟩ : ∃ i, k = i + 1 := ⟨k - 1, by omega⟩
    have hv1 : vp_in (nI (i + 1)) 16 := vp_in_nI (by omega) (by omega)
    have hv0 : vp_in (nI i) 16 := vp_in_nI (by omega) (by omega)
    refine pk_le (i + 1) (dt_c F q) (fun z => absurd z (by omega)) (fun _ => br_t rfl ?_)
    rw [nI_pred, nI_clamp (show i < 2 ^ 31 by omega), nI_clamp (show i + 1 < 2 ^ 31 by omega)]
    exact ⟨hv0, hv1, nm_e ⟨hv0, hv1, nm_e (nm_r (pk_m1 i) (ih i n _ _ (by omega) (by omega) (by omega) (dt_Sh_s hK) (dt_Sh_s hV)))⟩⟩
/-- places shifted down, from t, as far as k -/
def dt_Sd (t k : Nat) (K K' : Nat → Int32) : Prop := (∀ j, j < t → K' j = K j) ∧ (∀ j, t ≤ j → j < k → K' j = K (j + 1)) ∧ ∀ j, k ≤ j → K' j = K j
theorem dt_Sd_0 {t : Nat} {K : Nat → Int32} : dt_Sd t t K K := ⟨fun _ _ => rfl, fun j h1 h2 => absurd h1 (by omega), fun _ _ => rfl⟩
theorem dt_Sd_s {t k : Nat} {K K' : Nat → Int32} (ht : t ≤ k) (h : dt_Sd t k K K') : dt_Sd t (k + 1) K (upd K' k (K' (k + 1))) := by
  refine ⟨fun j hj => ?_, fun j h1 h2 => ?_, fun j hj => ?_⟩
  · rw [pk_un (by omega)]; exact h.1 j hj
  · by_cases e : j = k
    · subst e; rw [pk_us]; exact h.2.2 _ (by omega)
    · rw [pk_un e]; exact h.2.1 j h1 (by omega)
  · rw [pk_un (by omega)]; exact h.2.2 j (by omega)
theorem dt_ap256 {post : St1 → Prop} {en fn ic il ix ge sd : Int32} {a1 a2 a3 a4 a5 a6 a7 a8 a9 a10 a11 a12 a13 a16 a17 a18 a19 a20 a21 : Nat → Int32} {K V : Nat → Int32} {F : Nat → Option Int32} {cnt q : Nat} {w : Int32} (hR : dt_Rep (cnt + 1) K V F) (hc : cnt ≤ 15) (hn : F q = some w)
    (H : ∀ a14 a15, dt_Rep cnt a14 a15 (dt_set F q none) → post (en, fn, ic, il, ix, nI cnt, ge, sd, a1, a2, a3, a4, a5, a6, a7, a8, a9, a10, a11, a12, a13, a14, a15, a16, a17, a18, a19, a20, a21)) :
    ∀ (j k n : Nat) (a14 a15 : Nat → Int32), k + j = cnt → dt_c F q ≤ k → j < n → dt_Sd (dt_c F q) k K a14 → dt_Sd (dt_c F q) k V a15 → wX_apply_256 post en fn ic il ix (nI cnt) ge sd n (nI k) a1 a2 a3 a4 a5 a6 a7 a8 a9 a10 a11 a12 a13 a14 a15 a16 a17 a18 a19 a20 a21 := by
  intro j
  induction j with
  | zero =>
    intro k n a14 a15 e1 e2 h3 hK hV
    obtain ⟨n, rfl⟩ : ∃ m, n = m + 1 := ⟨n - 1, by omega⟩
    refine pk_le cnt k (fun _ => H _ _ ?_) (fun z => absurd z (by omega))
    exact dt_Rep_del hR hn (fun j hj => ⟨hK.1 j hj, hV.1 j hj⟩) (fun j h1 h2 => ⟨hK.2.1 j h1 (by omega), hV.2.1 j h1 (by omega)⟩)
  | succ j ih =>
    intro k n a14 a15 e1 e2 h3 hK hV
    obtain ⟨n, rfl⟩ : ∃ m, n = m + 1 := ⟨n - 1, by omega⟩
    have hv1 : vp_in (nI (k + 1)) 16 := vp_in_nI (by omega) (by omega)
    have hv0 : vp_in (nI k) 16 := vp_in_nI (by omega) (by omega)
    refine pk_le cnt k (fun z => absurd z (by omega)) (fun _ => ?_)
    rw [nI_1, nI_clamp (show k < 2 ^ 31 by omega), nI_clamp (show k + 1 < 2 ^ 31 by omega)]
    exact ⟨hv1, hv0, nm_e ⟨hv1, hv0, nm_e (nm_e (ih (k + 1) n _ _ (by omega) (by omega) (by omega) (dt_Sd_s e2 hK) (dt_Sd_s e2 hV)))⟩⟩
theorem dt_ap131 {post : St1 → Prop} {en fn ic il ix ge sd : Int32} {a1 a2 a3 a4 a5 a6 a7 a8 a9 a10 a11 a12 a13 a14 a15 a16 a17 a18 a19 a20 a21 : Nat → Int32} {F : Nat → Option Int32} {cnt : Nat} {n : dt_Nt} (h160 : n.1 < 160) (h8 : a8 n.1 = nI n.2.1) (h10 : a10 n.1 = n.2.2.2) (hk : n.2.1 < 3) (hq : n.2.2.1 < 4096) (hR : dt_Rep cnt a14 a15 F) (hc : cnt ≤ 15) (h2 : n.2.1 ≠ 2)
    (H : ∀ a14' a15', dt_Rep (dt_c (dt_ap n F) 4096) a14' a15' (dt_ap n F) → post (en, fn, ic, il, ix, nI (dt_c (dt_ap n F) 4096), ge, sd, a1, a2, a3, a4, a5, a6, a7, a8, a9, a10, a11, a12, a13, a14', a15', a16, a17, a18, a19, a20, a21)) :
    (F n.2.2.1 = none → wX_apply_131 post (nI n.1) (nI n.2.2.1) (nI (dt_c F n.2.2.1)) 0 en fn ic il ix (nI cnt) ge sd a1 a2 a3 a4 a5 a6 a7 a8 a9 a10 a11 a12 a13 a14 a15 a16 a17 a18 a19 a20 a21) ∧ (∀ w, F n.2.2.1 = some w → wX_apply_131 post (nI n.1) (nI n.2.2.1) (nI (dt_c F n.2.2.1)) 1 en fn ic il ix (nI cnt) ge sd a1 a2 a3 a4 a5 a6 a7 a8 a9 a10 a11 a12 a13 a14 a15 a16 a17 a18 a19 a20 a21) := by
  have hle := dt_c_mono (F := F) (a := n.2.2.1) (b := 4096) (by omega)
  rw [← hR.1] at hle
  have hv : vp_in (nI n.1) 160 := vp_in_nI h160 (by omega)
  have hcl : (nI n.1).toNatClampNeg = n.1 := nI_clamp (by omega)
  by_cases h0 : n.2.1 = 0
  · rw [dt_ap_0 h0] at H
    constructor
    · intro e
      unfold wX_apply_131
      rw [hcl, h8]
      refine ⟨hv, br_t ((dt_e0 hk).mpr h0) ⟨17, dt_ap148 hR hc hq e h160 h10 (fun b14 b15 hb => ?_) (cnt - dt_c F n.2.2.1) cnt 17 a14 a15 (by omega) (by omega) (by omega) dt_Sh_0 dt_Sh_0⟩⟩
      have he := hb.1
      have := H b14 b15 (by rw [← he]; exact hb)
      rw [← he] at this
      exact this
    · intro w e
      have hlt := dt_Rep_pos hR e
      unfold wX_apply_131
      rw [hcl, h8]
      have hb : dt_Rep cnt (upd a14 (dt_c F n.2.2.1) (nI n.2.2.1)) (upd a15 (dt_c F n.2.2.1) n.2.2.2) (dt_set F n.2.2.1 (some n.2.2.2)) :=
        dt_Rep_old hR e (fun j _ hj => ⟨pk_un hj, pk_un hj⟩) ⟨pk_us, pk_us⟩
      have he := hb.1
      have hh := H _ _ (by rw [← he]; exact hb)
      rw [← he] at hh
      refine ⟨hv, br_t ((dt_e0 hk).mpr h0) ⟨1, pk_le cnt (dt_c F n.2.2.1) (fun z => absurd z (by omega)) (fun _ => br_f (by decide) (br_f (by decide) ?_))⟩⟩
      exact dt_ap212 (F := F) (cnt := cnt) h160 (by omega) h10 (nI_add cnt 0) hh
  · rw [dt_ap_1 h2 h0] at H
    constructor
    · intro e
      unfold wX_apply_131
      rw [hcl, h8]
      rw [dt_set_none e, ← hR.1] at H
      exact ⟨hv, br_f (fun z => h0 ((dt_e0 hk).mp z)) (br_t rfl (H _ _ hR))⟩
    · intro w e
      have hlt := dt_Rep_pos hR e
      obtain ⟨c, rfl⟩ : ∃ c, cnt = c + 1 := ⟨cnt - 1, by omega⟩
      unfold wX_apply_131
      rw [hcl, h8]
      refine ⟨hv, br_f (fun z => h0 ((dt_e0 hk).mp z)) (br_f (by decide) (nm_r (nI_pred c) ⟨17, dt_ap256 hR (by omega) e (fun b14 b15 hb => ?_) (c - dt_c F n.2.2.1) (dt_c F n.2.2.1) 17 a14 a15 (by omega) (by omega) (by omega) dt_Sd_0 dt_Sd_0⟩))⟩
      have he := hb.1
      have := H b14 b15 (by rw [← he]; exact hb)
      rw [← he] at this
      exact this
theorem dt_apply {post : St1 → Prop} {en fn ic il ix ge sd : Int32} {a1 a2 a3 a4 a5 a6 a7 a8 a9 a10 a11 a12 a13 a14 a15 a16 a17 a18 a19 a20 a21 : Nat → Int32} {F : Nat → Option Int32} {cnt : Nat} {n : dt_Nt} (h160 : n.1 < 160) (h8 : a8 n.1 = nI n.2.1) (h9 : a9 n.1 = nI n.2.2.1) (h10 : a10 n.1 = n.2.2.2) (hk : n.2.1 < 3) (hq : n.2.2.1 < 4096) (hR : dt_Rep cnt a14 a15 F) (hc : cnt ≤ 15)
    (H : ∀ a14' a15', dt_Rep (dt_c (dt_ap n F) 4096) a14' a15' (dt_ap n F) → post (en, fn, ic, il, ix, nI (dt_c (dt_ap n F) 4096), (if n.2.1 = 2 then nI n.2.2.1 else ge), sd, a1, a2, a3, a4, a5, a6, a7, a8, a9, a10, a11, a12, a13, a14', a15', a16, a17, a18, a19, a20, a21)) :
    wpX_apply post (en, fn, ic, il, ix, nI cnt, ge, sd, a1, a2, a3, a4, a5, a6, a7, a8, a9, a10, a11, a12, a13, a14, a15, a16, a17, a18, a19, a20, a21) (nI n.1) := by
  have hle := dt_c_mono (F := F) (a := n.2.2.1) (b := 4096) (by omega)
  rw [← hR.1] at hle
  have hv : vp_in (nI n.1) 160 := vp_in_nI h160 (by omega)
  have hcl : (nI n.1).toNatClampNeg = n.1 := nI_clamp (by omega)
  unfold wpX_apply
  dsimp only
  rw [hcl, h8, h9]
  refine ⟨hv, nm_e ⟨hv, ?_⟩⟩
  by_cases h2 : n.2.1 = 2
  · rw [dt_ap_2 h2, if_pos h2] at H
    refine br_t ((dt_e2 hk).mpr h2) ⟨17, dt_ap19 hR (by omega) hq ?_ (cnt - dt_c F n.2.2.1) cnt 0 17 (by omega) (by omega) (by omega) (by omega)⟩
    have hb := dt_Rep_cut hR (q := n.2.2.1) (by omega)
    have he := hb.1
    have := H _ _ (by rw [← he]; exact hb)
    rw [← he] at this
    exact this
  · rw [if_neg h2] at H
    obtain ⟨A0, A1⟩ := dt_ap131 h160 h8 h10 hk hq hR hc h2 H
    refine br_f (fun z => h2 ((dt_e2 hk).mp z)) ⟨18, ?_⟩
    have L : ∀ (j i m : Nat), i + j = cnt → j < m → wX_apply_74 post (nI n.1) (nI n.2.2.1) en fn ic il ix (nI cnt) ge sd a1 a2 a3 a4 a5 a6 a7 a8 a9 a10 a11 a12 a13 a14 a15 a16 a17 a18 a19 a20 a21 m (nI (min i (dt_c F n.2.2.1))) (nI i) := by
      intro j
      induction j with
      | zero =>
        intro i m e h
        obtain ⟨m, rfl⟩ : ∃ k, m = k + 1 := ⟨m - 1, by omega⟩
        rw [show min i (dt_c F n.2.2.1) = dt_c F n.2.2.1 by omega]
        refine pk_le cnt i (fun _ => pk_le cnt (dt_c F n.2.2.1) (fun z => ?_) (fun z => ?_)) (fun z => absurd z (by omega))
        · cases e : F n.2.2.1 with
          | none => exact A0 e
          | some w => have := dt_Rep_pos hR e; omega
        · rw [nI_clamp (show dt_c F n.2.2.1 < 2 ^ 31 by omega)]
          refine ⟨vp_in_nI (by omega) (by omega), br_c (fun y => ?_) (fun y => ?_)⟩
          · obtain ⟨w, e⟩ := (dt_Rep_in hR hq).mpr ⟨z, y⟩
            exact A1 w e
          · cases e : F n.2.2.1 with
            | none => exact A0 e
            | some w => exact absurd ((dt_Rep_in hR hq).mp ⟨w, e⟩).2 y
      | succ j ih =>
        intro i m e h
        obtain ⟨m, rfl⟩ : ∃ k, m = k + 1 := ⟨m - 1, by omega⟩
        have hlt := dt_Rep_lt hR (i := i) (q := n.2.2.1) (by omega) (by omega)
        refine pk_le cnt i (fun z => absurd z (by omega)) (fun _ => ?_)
        rw [nI_clamp (show i < 2 ^ 31 by omega)]
        refine ⟨vp_in_nI (by omega) (by omega), br_c (fun y => ?_) (fun y => ?_)⟩
        · have hz : dt_c F n.2.2.1 ≤ i := by
            rcases Nat.lt_or_ge i (dt_c F n.2.2.1) with w | w
            · exact absurd (hlt.mpr w) (Int32.not_lt.mpr y)
            · exact w
          refine nm_r (e' := nI (min (i + 1) (dt_c F n.2.2.1))) ?_ (nm_r (nI_1 i) (ih (i + 1) m (by omega) (by omega)))
          rw [show min (i + 1) (dt_c F n.2.2.1) = min i (dt_c F n.2.2.1) by omega]
          exact nI_add _ 0
        · have hz : i < dt_c F n.2.2.1 := hlt.mp (Int32.not_le.mp y)
          refine nm_r (e' := nI (min (i + 1) (dt_c F n.2.2.1))) ?_ (nm_r (nI_1 i) (ih (i + 1) m (by omega) (by omega)))
          rw [show min (i + 1) (dt_c F n.2.2.1) = min i (dt_c F n.2.2.1) + 1 by omega]
          exact nI_1 _
    have := L cnt 0 18 (by omega) (by omega)
    rw [Nat.zero_min] at this
    exact this
/-! gather -/
theorem dt_g113 {post : St1 → Prop} {en fn ic il ix sd : Int32} {a1 a2 a3 a4 a5 a6 a7 a8 a9 a10 a11 a12 a13 a16 a17 a18 a19 a20 a21 : Nat → Int32} {F : Nat → Option Int32} {l : List dt_Nt} {x xx : Int32} (hch : dt_Ch a8 a9 a10 a11 xx l) (hl : l.length ≤ 8) (hb : ∀ j, j ≤ l.length → dt_c (dt_co (l.drop j) F) 4096 ≤ 15) (h16 : ∀ i m, l[i]? = some m → a16 i = nI m.1)
    (H : ∀ a14 a15, dt_Rep (dt_c (dt_co l F) 4096) a14 a15 (dt_co l F) → post (en, fn, ic, il, ix, nI (dt_c (dt_co l F) 4096), dt_en l x, sd, a1, a2, a3, a4, a5, a6, a7, a8, a9, a10, a11, a12, a13, a14, a15, a16, a17, a18, a19, a20, a21)) :
    ∀ (j n : Nat) (a14 a15 : Nat → Int32), j ≤ l.length → j < n → dt_Rep (dt_c (dt_co (l.drop j) F) 4096) a14 a15 (dt_co (l.drop j) F) → wX_gather_113 post n (nI j - 1) en fn ic il ix (nI (dt_c (dt_co (l.drop j) F) 4096)) (dt_en (l.drop j) x) sd a1 a2 a3 a4 a5 a6 a7 a8 a9 a10 a11 a12 a13 a14 a15 a16 a17 a18 a19 a20 a21 := by
  intro j
  induction j with
  | zero =>
    intro n a14 a15 h1 h2 h3
    obtain ⟨n, rfl⟩ : ∃ m, n = m + 1 := ⟨n - 1, by omega⟩
    exact br_t (by decide) (H a14 a15 h3)
  | succ j ih =>
    intro n a14 a15 h1 h2 h3
    obtain ⟨n, rfl⟩ : ∃ m, n = m + 1 := ⟨n - 1, by omega⟩
    have hd : l.drop j = l[j] :: l.drop (j + 1) := List.drop_eq_getElem_cons (by omega)
    obtain ⟨m1, m2, m3, m4, m5, m6⟩ := dt_Ch_mem hch (List.getElem_mem (show j < l.length by omega))
    rw [nI_pred]
    refine br_f (nI_pos (by omega)) ?_
    rw [nI_clamp (show j < 2 ^ 31 by omega), h16 j l[j] (List.getElem?_eq_getElem (by omega))]
    refine ⟨vp_in_nI (by omega) (by omega), dt_apply m1 m2 m3 m4 m5 m6 h3 (hb _ h1) (fun b14 b15 hR => nm_r (dt_m1 (nI j)) ?_)⟩
    have := ih n b14 b15 (by omega) (by omega) (by rw [hd]; exact hR)
    rw [hd] at this
    exact this
theorem dt_g79 {post : St1 → Prop} {en fn ic il ix ga ge sd : Int32} {a1 a2 a3 a4 a5 a6 a7 a8 a9 a10 a11 a12 a13 a14 a15 a17 a18 a19 a20 a21 : Nat → Int32} {L : List dt_Nt} (hL : L.length ≤ 8) (H : ∀ a16, (∀ i m, L[i]? = some m → a16 i = nI m.1) → ∃ n, wX_gather_113 post n (nI L.length - 1) en fn ic il ix ga ge sd a1 a2 a3 a4 a5 a6 a7 a8 a9 a10 a11 a12 a13 a14 a15 a16 a17 a18 a19 a20 a21) :
    ∀ (l : List dt_Nt) (c n : Nat) (x : Int32) (a16 : Nat → Int32), l = L.drop c → c + l.length = L.length → dt_Ch a8 a9 a10 a11 x l → l.length < n → (∀ i m, i < c → L[i]? = some m → a16 i = nI m.1) → wX_gather_79 post en fn ic il ix ga ge sd n (nI c) x a1 a2 a3 a4 a5 a6 a7 a8 a9 a10 a11 a12 a13 a14 a15 a16 a17 a18 a19 a20 a21 := by
  intro l
  induction l with
  | nil =>
    intro c n x a16 h1 h2 h3 h4 h5
    obtain ⟨n, rfl⟩ : ∃ m, n = m + 1 := ⟨n - 1, by simp at h4; omega⟩
    have hx : x = -1 := h3
    subst hx
    have e : c = L.length := by simpa using h2
    subst e
    refine br_t dt_neg (nm_e (H a16 (fun i m hm => h5 i m ?_ hm)))
    exact (List.getElem?_eq_some_iff.mp hm).1
  | cons m l ih =>
    intro c n x a16 h1 h2 h3 h4 h5
    obtain ⟨n, rfl⟩ : ∃ m, n = m + 1 := ⟨n - 1, by simp at h4; omega⟩
    obtain ⟨rfl, c2, c3, c4, c5, c6, c7, c8⟩ := h3
    rw [List.length_cons] at h2 h4
    have hcm : L[c]? = some m := by
      have : (L.drop c)[0]? = some m := by rw [← h1]; rfl
      rw [List.getElem?_drop] at this
      exact this
    have hcl : (nI m.1).toNatClampNeg = m.1 := nI_clamp (by omega)
    have hcc : (nI c).toNatClampNeg = c := nI_clamp (by omega)
    refine br_f (nI_pos (by omega)) (pk_le 8 c (fun z => absurd z (by omega)) (fun _ => ⟨vp_in_nI (by omega) (by omega), nm_r (e' := upd a16 c (nI m.1)) (by rw [hcc]) (nm_r (nI_1 c) ⟨vp_in_nI c2 (by omega), nm_r (e' := a11 m.1) (by rw [hcl]) (ih (c + 1) n _ _ ?_ (by omega) c8 (by omega) (fun i k hi hk => ?_))⟩)⟩))
    · have : L.drop (c + 1) = (L.drop c).drop 1 := by rw [List.drop_drop]
      rw [this, ← h1]; rfl
    · by_cases e : i = c
      · subst e
        rw [hcm] at hk
        rw [pk_us, Option.some.inj hk]
      · rw [pk_un e]; exact h5 i k (by omega) hk
theorem dt_gather {post : St1 → Prop} {en fn ic il ix ga ge sd : Int32} {a1 a2 a3 a4 a5 a6 a7 a8 a9 a10 a11 a12 a13 a14 a15 a16 a17 a18 a19 a20 a21 : Nat → Int32} {F : Nat → Option Int32} {l : List dt_Nt} {p : Nat} (hp : p < 24) (h4 : a4 p = nI (dt_c F 4096)) (h12 : dt_c F 4096 ≤ 12) (hR : dt_Rep (dt_c F 4096) (fun i => a5 (12 * p + i)) (fun i => a6 (12 * p + i)) F) (hch : dt_Ch a8 a9 a10 a11 (a2 p) l) (hl : l.length ≤ 8) (hb : ∀ j, j ≤ l.length → dt_c (dt_co (l.drop j) F) 4096 ≤ 15)
    (H : ∀ a14 a15 a16, dt_Rep (dt_c (dt_co l F) 4096) a14 a15 (dt_co l F) → post (en, fn, ic, il, ix, nI (dt_c (dt_co l F) 4096), dt_en l (a7 p), sd, a1, a2, a3, a4, a5, a6, a7, a8, a9, a10, a11, a12, a13, a14, a15, a16, a17, a18, a19, a20, a21)) : wpX_gather post (en, fn, ic, il, ix, ga, ge, sd, a1, a2, a3, a4, a5, a6, a7, a8, a9, a10, a11, a12, a13, a14, a15, a16, a17, a18, a19, a20, a21) (nI p) := by
  have hv : vp_in (nI p) 24 := vp_in_nI hp (by omega)
  have hcl : (nI p).toNatClampNeg = p := nI_clamp (by omega)
  refine ⟨hv, nm_r (e' := nI (dt_c F 4096)) (by rw [hcl, h4]) ⟨hv, nm_r (e' := a7 p) (by rw [hcl]) ?_⟩⟩
  refine pk_loop (σ := (Nat → Int32) × (Nat → Int32)) (fun n i s => wX_gather_22 post (nI p) en fn ic il ix (nI (dt_c F 4096)) (a7 p) sd n (nI i) a1 a2 a3 a4 a5 a6 a7 a8 a9 a10 a11 a12 a13 s.1 s.2 a16 a17 a18 a19 a20 a21) (fun i s => ∀ j, j < i → s.1 j = a5 (12 * p + j) ∧ s.2 j = a6 (12 * p + j)) (dt_c F 4096) 0 (a14, a15) (by omega) (fun j hj => absurd hj (by omega)) ?_ ?_
  · intro n s hs
    refine pk_le (dt_c F 4096) (dt_c F 4096) (fun _ => ⟨hv, nm_r (e' := a2 p) (by rw [hcl]) ⟨9, ?_⟩⟩) (fun z => absurd z (by omega))
    refine dt_g79 (L := l) hl (fun a16 h16 => ⟨9, ?_⟩) l 0 9 (a2 p) _ rfl (by omega) hch (by omega) (fun i m hi => absurd hi (by omega))
    have hR' : dt_Rep (dt_c F 4096) s.1 s.2 F := dt_Rep_ext hR (fun i hi => (hs i hi).1) (fun i hi => (hs i hi).2)
    have := dt_g113 (post := post) (F := F) (l := l) (x := a7 p) hch hl hb h16 (fun a14 a15 h => H a14 a15 a16 h) l.length 9 s.1 s.2 (by omega) (by omega) (by rw [List.drop_length]; exact hR')
    rw [List.drop_length] at this
    exact this
  · intro n i s hi hs hw
    have e : 12 * nI p + nI i = nI (12 * p + i) := by
      rw [show (12 : Int32) = nI 12 from rfl, pk_mul, nI_add]
    refine pk_le (dt_c F 4096) i (fun z => absurd z (by omega)) (fun _ => ?_)
    rw [e, nI_clamp (show 12 * p + i < 2 ^ 31 by omega), nI_clamp (show i < 2 ^ 31 by omega)]
    refine ⟨vp_in_nI (by omega) (by omega), vp_in_nI (by omega) (by omega), nm_e ⟨vp_in_nI (by omega) (by omega), vp_in_nI (by omega) (by omega), nm_e (nm_r (nI_1 i) (hw (upd s.1 i (a5 (12 * p + i)), upd s.2 i (a6 (12 * p + i))) (fun j hj => ?_)))⟩⟩
    by_cases z : j = i
    · subst z; exact ⟨pk_us, pk_us⟩
    · exact ⟨(pk_un z).trans (hs j (by omega)).1, (pk_un z).trans (hs j (by omega)).2⟩
end
section
/-! gather, over the invariant -/
theorem dt_gJ {post : St1 → Prop} {en fn ic il ix ga ge sd : Int32} {a1 a2 a3 a4 a5 a6 a7 a8 a9 a10 a11 a12 a13 a14 a15 a16 a17 a18 a19 a20 a21 : Nat → Int32} {M : Nat → Option Int32} {C : Nat → List dt_Nt} {I : List dt_Nt} {B : Nat → Nat → Option Int32} {FX : Nat → Option Int32} {lo hi : Nat → Nat} {p : Nat} (hJ : dt_J M C I B FX lo hi fn ic il ix a1 a2 a3 a4 a5 a6 a7 a8 a9 a10 a11 a12 a13) (hp : p < 24) (ha : a1 p ≠ 0)
    (H : ∀ (cnt : Nat) (a14 a15 a16 : Nat → Int32), cnt ≤ 13 → dt_Rep cnt a14 a15 (dt_rs M (lo p) (hi p)) → post (en, fn, ic, il, ix, nI cnt, nI (hi p), sd, a1, a2, a3, a4, a5, a6, a7, a8, a9, a10, a11, a12, a13, a14, a15, a16, a17, a18, a19, a20, a21)) : wpX_gather post (en, fn, ic, il, ix, ga, ge, sd, a1, a2, a3, a4, a5, a6, a7, a8, a9, a10, a11, a12, a13, a14, a15, a16, a17, a18, a19, a20, a21) (nI p) := by
  obtain ⟨⟨F, ow, hN⟩, hI4, hB, hX, hR, hY, hP⟩ := hJ
  obtain ⟨b1, b2, b3⟩ := hB p hp ha
  obtain ⟨n1, n2, n3, n4, n5⟩ := hN.2.2.1 p hp
  obtain ⟨p1, p2⟩ := (hP p hp).2 ha
  have hb : (∀ j, j ≤ (C p).length → dt_c (dt_co ((C p).drop j) (B p)) 4096 ≤ 13) ∧ dt_en (C p) (a7 p) = nI (hi p) := by
    rcases p2 with ⟨g1, g2, g3, g4⟩ | ⟨l, d, u, g1, g2, g3, g4, g5, g6, g7⟩
    · refine ⟨fun j hj => ?_, by rw [dt_en_A g1]; exact g3⟩
      have := dt_c_co ((C p).drop j) (B p) 4096
      rw [List.length_drop] at this
      omega
    · refine ⟨fun j hj => ?_, by rw [g1]; exact dt_en_B g2 rfl⟩
      rw [g1, List.length_append] at n5 hj
      rw [g1]
      by_cases z : j ≤ l.length
      · rw [List.drop_append_of_le_length z, dt_co_app]
        have h1 := dt_c_co (l.drop j) (dt_co [(d, 2, hi p, nI u)] (B p)) 4096
        have h2 : dt_co [(d, 2, hi p, nI u)] (B p) = dt_cut (B p) (hi p) := dt_ap_2 (n := (d, 2, hi p, nI u)) rfl
        rw [h2, List.length_drop] at h1
        rw [dt_c_cut_hi (show hi p ≤ 4096 by omega)] at h1
        rw [h2]
        simp at n5
        omega
      · have e : (l ++ [(d, 2, hi p, nI u)]).drop j = [] := List.drop_eq_nil_of_le (by rw [List.length_append]; simp at hj ⊢; omega)
        rw [e]
        show dt_c (B p) 4096 ≤ 13
        omega
  refine dt_gather hp b1 b2 b3 n1 (by omega) (fun j hj => by have := hb.1 j hj; omega) (fun a14 a15 a16 h => ?_)
  rw [hb.2, p1]
  rw [p1] at h
  have h0 := hb.1 0 (by omega)
  rw [List.drop_zero, p1] at h0
  exact H _ a14 a15 a16 h0 h
theorem dt_ix_pg {a1 : Nat → Int32} {I : List dt_Nt} {FX : Nat → Option Int32} {lo : Nat → Nat} {k : Nat} (hY : dt_Y a1 I FX lo) (h : dt_ix FX I k) : ∃ p, p < 24 ∧ a1 p ≠ 0 ∧ lo p = k := by
  rcases h with ⟨x, e⟩ | ⟨n, hn, e⟩
  · obtain ⟨p, h1, _, h3, h4⟩ := hY.2.1 k x e
    exact ⟨p, h1, h3, h4⟩
  · obtain ⟨⟨p, h1, _, h3, h4⟩, _⟩ := hY.2.2.1 n hn
    exact ⟨p, h1, h3, by rw [h4, e]⟩
theorem dt_R_inj {a1 : Nat → Int32} {lo hi : Nat → Nat} {p q : Nat} (hR : dt_R a1 lo hi) (hp : p < 24) (hq : q < 24) (ha : a1 p ≠ 0) (hb : a1 q ≠ 0) (h : lo p = lo q) : p = q := by
  have := hR.1 p hp ha
  exact hR.2 p q hp hq ha hb (by omega) (by omega)
theorem dt_ex {M : Nat → Option Int32} {C : Nat → List dt_Nt} {I : List dt_Nt} {B : Nat → Nat → Option Int32} {FX : Nat → Option Int32} {lo hi : Nat → Nat} {fn ic il ix : Int32} {a1 a2 a3 a4 a5 a6 a7 a8 a9 a10 a11 a12 a13 : Nat → Int32} (hJ : dt_J M C I B FX lo hi fn ic il ix a1 a2 a3 a4 a5 a6 a7 a8 a9 a10 a11 a12 a13) : ∀ k, k < 4096 → ∃ p, p < 24 ∧ a1 p ≠ 0 ∧ lo p ≤ k ∧ k < hi p := by
  obtain ⟨hN, hI4, hB, hX, hR, hY, hP⟩ := hJ
  intro k
  induction k with
  | zero =>
    intro _
    obtain ⟨x, e⟩ := hY.1
    obtain ⟨p, h1, _, h3, h4⟩ := hY.2.1 0 x e
    have := hR.1 p h1 h3
    exact ⟨p, h1, h3, by omega, by omega⟩
  | succ k ih =>
    intro hk
    obtain ⟨p, h1, h2, h3, h4⟩ := ih (by omega)
    by_cases z : k + 1 < hi p
    · exact ⟨p, h1, h2, by omega, z⟩
    · have e : hi p = k + 1 := by omega
      rcases ((hP p h1).2 h2).2 with ⟨g1, g2, g3, g4⟩ | ⟨l, d, u, g1, g2, g3, g4, g5, g6, g7⟩
      · rcases g4 with y | y
        · omega
        · obtain ⟨q, q1, q2, q3⟩ := dt_ix_pg hY y
          have := hR.1 q q1 q2
          exact ⟨q, q1, q2, by omega, by omega⟩
      · have := hR.1 u g3 g4
        exact ⟨u, g3, g4, by omega, by omega⟩
/-- pages that end behind k; pages that begin below k -/
def dt_mh (a1 : Nat → Int32) (hi : Nat → Nat) (k : Nat) : Nat := dt_cn (fun r => decide (a1 r ≠ 0) && decide (k < hi r)) 24
def dt_ml (a1 : Nat → Int32) (lo : Nat → Nat) (k : Nat) : Nat := dt_cn (fun r => decide (a1 r ≠ 0) && decide (lo r < k)) 24
theorem dt_mh_lt {a1 : Nat → Int32} {hi : Nat → Nat} {k p : Nat} (hp : p < 24) (ha : a1 p ≠ 0) (h : k < hi p) : dt_mh a1 hi (hi p) < dt_mh a1 hi k := by
  refine dt_cn_lt (k := p) (fun i _ e => ?_) hp ?_ ?_
  · simp only [Bool.and_eq_true, decide_eq_true_eq] at e ⊢
    exact ⟨e.1, by omega⟩
  · simp only [Bool.and_eq_true, decide_eq_true_eq]
    exact ⟨ha, h⟩
  · simp only [Bool.and_eq_true, decide_eq_true_eq]
    omega
theorem dt_ml_lt {a1 : Nat → Int32} {lo : Nat → Nat} {k p : Nat} (hp : p < 24) (ha : a1 p ≠ 0) (h : lo p < k) : dt_ml a1 lo (lo p) < dt_ml a1 lo k := by
  refine dt_cn_lt (k := p) (fun i _ e => ?_) hp ?_ ?_
  · simp only [Bool.and_eq_true, decide_eq_true_eq] at e ⊢
    exact ⟨e.1, by omega⟩
  · simp only [Bool.and_eq_true, decide_eq_true_eq]
    exact ⟨ha, h⟩
  · simp only [Bool.and_eq_true, decide_eq_true_eq]
    omega
theorem dt_mh_le (a1 : Nat → Int32) (hi : Nat → Nat) (k : Nat) : dt_mh a1 hi k ≤ 24 := dt_cn_le _ _
theorem dt_ml_le (a1 : Nat → Int32) (lo : Nat → Nat) (k : Nat) : dt_ml a1 lo k ≤ 24 := dt_cn_le _ _
/-! count -/
theorem dt_ct54 {post : Int32 → St1 → Prop} {J16 : Int32 → Int32 → Int32 → Int32 → Int32 → Int32 → Int32 → Int32 → Int32 → Int32 → Int32 → (Nat → Int32) → (Nat → Int32) → (Nat → Int32) → (Nat → Int32) → (Nat → Int32) → (Nat → Int32) → (Nat → Int32) → (Nat → Int32) → (Nat → Int32) → (Nat → Int32) → (Nat → Int32) → (Nat → Int32) → (Nat → Int32) → (Nat → Int32) → (Nat → Int32) → (Nat → Int32) → (Nat → Int32) → (Nat → Int32) → (Nat → Int32) → (Nat → Int32) → (Nat → Int32) → Prop} {en fn ic il ix ge sd : Int32} {a1 a2 a3 a4 a5 a6 a7 a8 a9 a10 a11 a12 a13 a14 a15 a16 a17 a18 a19 a20 a21 : Nat → Int32} {R : Nat → Option Int32} {cnt q h A : Nat} {x5 : Int32} (hR : dt_Rep cnt a14 a15 R) (hc : cnt ≤ 16) (hq : q ≤ h) (hh : h < 4096)
    (H : J16 (nI (A + (dt_c R (h + 1) - dt_c R q))) ge (x5 + 1) en fn ic il ix (nI cnt) ge sd a1 a2 a3 a4 a5 a6 a7 a8 a9 a10 a11 a12 a13 a14 a15 a16 a17 a18 a19 a20 a21) :
    ∀ (j i n : Nat), i + j = cnt → j < n → wX_count_54 post J16 (nI h) (nI q) x5 en fn ic il ix (nI cnt) ge sd a1 a2 a3 a4 a5 a6 a7 a8 a9 a10 a11 a12 a13 a14 a15 a16 a17 a18 a19 a20 a21 n (nI (A + (min i (dt_c R (h + 1)) - min i (dt_c R q)))) (nI i) := by
  have h1 := dt_c_mono (F := R) (a := q) (b := h + 1) (by omega)
  have h2 := dt_c_mono (F := R) (a := h + 1) (b := 4096) (by omega)
  rw [← hR.1] at h2
  intro j
  induction j with
  | zero =>
    intro i n e hn
    obtain ⟨n, rfl⟩ : ∃ m, n = m + 1 := ⟨n - 1, by omega⟩
    rw [show min i (dt_c R (h + 1)) = dt_c R (h + 1) by omega, show min i (dt_c R q) = dt_c R q by omega]
    exact pk_le cnt i (fun _ => nm_e H) (fun z => absurd z (by omega))
  | succ j ih =>
    intro i n e hn
    obtain ⟨n, rfl⟩ : ∃ m, n = m + 1 := ⟨n - 1, by omega⟩
    have hv : vp_in (nI i) 16 := vp_in_nI (by omega) (by omega)
    have hlt := dt_Rep_lt hR (i := i) (q := q) (by omega) (by omega)
    have hgt := dt_Rep_gt hR (i := i) (q := h) (by omega) (by omega)
    have ih := ih (i + 1) n (by omega) (by omega)
    refine pk_le cnt i (fun z => absurd z (by omega)) (fun _ => ?_)
    rw [nI_clamp (show i < 2 ^ 31 by omega)]
    refine ⟨hv, br_c (fun y => ?_) (fun y => ⟨hv, br_c (fun w => ?_) (fun w => ?_)⟩)⟩
    · have := hlt.mp y
      refine nm_r (e' := nI (A + (min (i + 1) (dt_c R (h + 1)) - min (i + 1) (dt_c R q)))) ?_ (nm_r (nI_1 i) ih)
      rw [show A + (min (i + 1) (dt_c R (h + 1)) - min (i + 1) (dt_c R q)) = A + (min i (dt_c R (h + 1)) - min i (dt_c R q)) by omega]
      exact nI_add _ 0
    · have := hgt.mp w
      refine nm_r (e' := nI (A + (min (i + 1) (dt_c R (h + 1)) - min (i + 1) (dt_c R q)))) ?_ (nm_r (nI_1 i) ih)
      rw [show A + (min (i + 1) (dt_c R (h + 1)) - min (i + 1) (dt_c R q)) = A + (min i (dt_c R (h + 1)) - min i (dt_c R q)) by omega]
      exact nI_add _ 0
    · have y' : ¬ i < dt_c R q := fun z => y (hlt.mpr z)
      have w' : ¬ dt_c R (h + 1) ≤ i := fun z => w (hgt.mpr z)
      refine nm_r (e' := nI (A + (min (i + 1) (dt_c R (h + 1)) - min (i + 1) (dt_c R q)))) ?_ (nm_r (nI_1 i) ih)
      rw [show A + (min (i + 1) (dt_c R (h + 1)) - min (i + 1) (dt_c R q)) = A + (min i (dt_c R (h + 1)) - min i (dt_c R q)) + 1 by omega]
      exact nI_1 _
theorem dt_ct16 {post : Int32 → St1 → Prop} {en sd : Int32} {a1 a2 a3 a4 a5 a6 a7 a17 a18 a19 a20 a21 : Nat → Int32} {M : Nat → Option Int32} {C : Nat → List dt_Nt} {B : Nat → Nat → Option Int32} {lo hi : Nat → Nat} {low h : Nat} (hh : h < 4096)
    (H : ∀ (fn ic il ix ga ge : Int32) (a8 a9 a10 a11 a12 a13 a14 a15 a16 : Nat → Int32) (I : List dt_Nt) (FX : Nat → Option Int32), dt_J M C I B FX lo hi fn ic il ix a1 a2 a3 a4 a5 a6 a7 a8 a9 a10 a11 a12 a13 → post (nI (dt_c M (h + 1) - dt_c M low)) (en, fn, ic, il, ix, ga, ge, sd, a1, a2, a3, a4, a5, a6, a7, a8, a9, a10, a11, a12, a13, a14, a15, a16, a17, a18, a19, a20, a21)) :
    ∀ (n k st : Nat) (fn ic il ix ga ge : Int32) (a8 a9 a10 a11 a12 a13 a14 a15 a16 : Nat → Int32) (I : List dt_Nt) (FX : Nat → Option Int32), dt_J M C I B FX lo hi fn ic il ix a1 a2 a3 a4 a5 a6 a7 a8 a9 a10 a11 a12 a13 → low ≤ k → k ≤ 4096 → st + dt_mh a1 hi k ≤ 24 → dt_mh a1 hi k < n → wX_count_16 post (nI h) n (nI (dt_c M (min k (h + 1)) - dt_c M low)) (nI k) (nI st) en fn ic il ix ga ge sd a1 a2 a3 a4 a5 a6 a7 a8 a9 a10 a11 a12 a13 a14 a15 a16 a17 a18 a19 a20 a21 := by
  intro n
  induction n with
  | zero => intro k st fn ic il ix ga ge a8 a9 a10 a11 a12 a13 a14 a15 a16 I FX hJ h1 hk4 h2 h3; omega
  | succ n ih =>
    intro k st fn ic il ix ga ge a8 a9 a10 a11 a12 a13 a14 a15 a16 I FX hJ h1 hk4 h2 h3
    by_cases hk : k < 4096
    · obtain ⟨p0, e1, e2, e3, e4⟩ := dt_ex hJ k hk
      have hm := dt_mh_lt e1 e2 e4
      refine pk_le 24 st (fun z => absurd z (by omega)) (fun _ => pk_le 4096 k (fun z => absurd z (by omega)) (fun _ => pk_lt h k (fun z => ?_) (fun z => ?_)))
      · rw [show min k (h + 1) = h + 1 by omega]
        exact H _ _ _ _ _ _ _ _ _ _ _ _ _ _ _ I FX hJ
      · refine dt_pf hJ hk (fun fn ic il ix a8 a9 a10 a11 a12 a13 I FX p hJ hp ha hlo hhi hix => ?_)
        refine dt_gJ hJ hp ha (fun cnt a14 a15 a16 hc hR => ⟨17, ?_⟩)
        have hm := dt_mh_lt hp ha hhi
        have f0 := hJ.2.2.2.2.1.1 p hp ha
        have f1 := dt_c_rs (M := M) (a := lo p) (b := hi p) (x := k) hlo (by omega)
        have f2 := dt_c_mono (F := M) (a := low) (b := k) h1
        have key : dt_c M k - dt_c M low + (dt_c (dt_rs M (lo p) (hi p)) (h + 1) - dt_c (dt_rs M (lo p) (hi p)) k) = dt_c M (min (hi p) (h + 1)) - dt_c M low := by
          by_cases y : h + 1 ≤ hi p
          · rw [show min (hi p) (h + 1) = h + 1 by omega]
            have f3 := dt_c_rs (M := M) (a := lo p) (b := hi p) (x := h + 1) (by omega) y
            have f4 := dt_c_mono (F := M) (a := k) (b := h + 1) (by omega)
            omega
          · rw [show min (hi p) (h + 1) = hi p by omega, dt_c_rs_hi (show hi p ≤ h + 1 by omega)]
            have f3 := dt_c_rs (M := M) (a := lo p) (b := hi p) (x := hi p) (by omega) (by omega)
            have f4 := dt_c_mono (F := M) (a := k) (b := hi p) (by omega)
            omega
        have fin := ih (hi p) (st + 1) fn ic il ix (nI cnt) (nI (hi p)) a8 a9 a10 a11 a12 a13 a14 a15 a16 I FX hJ (by omega) (by omega) (by omega) (by omega)
        rw [← key] at fin
        have := dt_ct54 (post := post) (J16 := wX_count_16 post (nI h) n) (x5 := nI st) (A := dt_c M k - dt_c M low) hR (by omega) z hh (by rw [nI_1]; exact fin) cnt 0 17 (by omega) (by omega)
        rw [Nat.zero_min, Nat.zero_min] at this
        rw [show min k (h + 1) = k by omega]
        exact this
    · have fin : post (nI (dt_c M (min k (h + 1)) - dt_c M low)) (en, fn, ic, il, ix, ga, ge, sd, a1, a2, a3, a4, a5, a6, a7, a8, a9, a10, a11, a12, a13, a14, a15, a16, a17, a18, a19, a20, a21) := by
        rw [show min k (h + 1) = h + 1 by omega]
        exact H _ _ _ _ _ _ _ _ _ _ _ _ _ _ _ I FX hJ
      exact br_c (fun _ => fin) (fun _ => pk_le 4096 k (fun _ => fin) (fun z => absurd z hk))
theorem dt_count {post : Int32 → St1 → Prop} {en fn ic il ix ga ge sd : Int32} {a1 a2 a3 a4 a5 a6 a7 a8 a9 a10 a11 a12 a13 a14 a15 a16 a17 a18 a19 a20 a21 : Nat → Int32} {M : Nat → Option Int32} {C : Nat → List dt_Nt} {I : List dt_Nt} {B : Nat → Nat → Option Int32} {FX : Nat → Option Int32} {lo hi : Nat → Nat} {low h : Nat} (hJ : dt_J M C I B FX lo hi fn ic il ix a1 a2 a3 a4 a5 a6 a7 a8 a9 a10 a11 a12 a13) (hl : low ≤ 4096) (hh : h < 4096)
    (H : ∀ (fn ic il ix ga ge : Int32) (a8 a9 a10 a11 a12 a13 a14 a15 a16 : Nat → Int32) (I : List dt_Nt) (FX : Nat → Option Int32), dt_J M C I B FX lo hi fn ic il ix a1 a2 a3 a4 a5 a6 a7 a8 a9 a10 a11 a12 a13 → post (nI (dt_c M (h + 1) - dt_c M low)) (en, fn, ic, il, ix, ga, ge, sd, a1, a2, a3, a4, a5, a6, a7, a8, a9, a10, a11, a12, a13, a14, a15, a16, a17, a18, a19, a20, a21)) : wpX_count post (en, fn, ic, il, ix, ga, ge, sd, a1, a2, a3, a4, a5, a6, a7, a8, a9, a10, a11, a12, a13, a14, a15, a16, a17, a18, a19, a20, a21) (nI low) (nI h) := by
  have hm := dt_mh_le a1 hi low
  refine br_t (nI_pos' (by omega)) ⟨25, ?_⟩
  have := dt_ct16 hh H 25 low 0 fn ic il ix ga ge a8 a9 a10 a11 a12 a13 a14 a15 a16 I FX hJ (by omega) hl (by omega) (by omega)
  have e : dt_c M (min low (h + 1)) - dt_c M low = 0 := by
    have := dt_c_mono (F := M) (a := min low (h + 1)) (b := low) (by omega)
    omega
  rw [e] at this
  exact this
end
section
/-! next -/
def dt_nxf (M : Nat → Option Int32) : Nat → Nat → Int32
  | 0, _ => -1
  | f + 1, k => if (M k).isSome = true then nI k else dt_nxf M f (k + 1)
def dt_nx (M : Nat → Option Int32) (k : Nat) : Int32 := dt_nxf M (4096 - k) k
theorem dt_nx_end {M : Nat → Option Int32} {k : Nat} (h : 4096 ≤ k) : dt_nx M k = -1 := by
  unfold dt_nx
  rw [show 4096 - k = 0 by omega]; rfl
theorem dt_nx_hit {M : Nat → Option Int32} {k : Nat} {v : Int32} (h : k < 4096) (e : M k = some v) : dt_nx M k = nI k := by
  unfold dt_nx
  rw [show 4096 - k = (4095 - k) + 1 by omega]
  show (if (M k).isSome = true then nI k else _) = nI k
  rw [e]; rfl
theorem dt_nx_s {M : Nat → Option Int32} {k : Nat} (h : k < 4096) (e : M k = none) : dt_nx M k = dt_nx M (k + 1) := by
  unfold dt_nx
  rw [show 4096 - k = (4096 - (k + 1)) + 1 by omega]
  show (if (M k).isSome = true then nI k else _) = _
  rw [e]; rfl
theorem dt_nx_skip {M : Nat → Option Int32} {a b : Nat} (hab : a ≤ b) (hb : b ≤ 4096) (h : ∀ j, a ≤ j → j < b → M j = none) : dt_nx M a = dt_nx M b := by
  induction hab with
  | refl => rfl
  | step hm ih =>
    rename_i m
    have hm' : a ≤ m := hm
    rw [ih (by omega) (fun j h1 h2 => h j h1 (Nat.lt_succ_of_lt h2)), dt_nx_s (by omega) (h m hm' (Nat.lt_succ_self m))]
/-- what next answers: -1 or a key -/
theorem dt_nx_cases (M : Nat → Option Int32) (f : Nat) : ∀ k, k + f = 4096 → (dt_nxf M f k = -1 ∨ ∃ j, k ≤ j ∧ j < 4096 ∧ dt_nxf M f k = nI j) := by
  induction f with
  | zero => intro k _; exact Or.inl rfl
  | succ f ih =>
    intro k hk
    show ((if (M k).isSome = true then nI k else dt_nxf M f (k + 1)) = -1 ∨ ∃ j, k ≤ j ∧ j < 4096 ∧ (if (M k).isSome = true then nI k else dt_nxf M f (k + 1)) = nI j)
    by_cases e : (M k).isSome = true
    · rw [if_pos e]; exact Or.inr ⟨k, by omega, by omega, rfl⟩
    · rw [if_neg e]
      rcases ih (k + 1) (by omega) with z | ⟨j, h1, h2, h3⟩
      · exact Or.inl z
      · exact Or.inr ⟨j, by omega, h2, h3⟩
theorem dt_nx_c {M : Nat → Option Int32} {k : Nat} (h : k ≤ 4096) : dt_nx M k = -1 ∨ ∃ j, k ≤ j ∧ j < 4096 ∧ dt_nx M k = nI j := dt_nx_cases M (4096 - k) k (by omega)
theorem dt_nx41 {post : Int32 → St1 → Prop} {J12 : Int32 → Int32 → Int32 → Int32 → Int32 → Int32 → Int32 → Int32 → Int32 → Int32 → (Nat → Int32) → (Nat → Int32) → (Nat → Int32) → (Nat → Int32) → (Nat → Int32) → (Nat → Int32) → (Nat → Int32) → (Nat → Int32) → (Nat → Int32) → (Nat → Int32) → (Nat → Int32) → (Nat → Int32) → (Nat → Int32) → (Nat → Int32) → (Nat → Int32) → (Nat → Int32) → (Nat → Int32) → (Nat → Int32) → (Nat → Int32) → (Nat → Int32) → (Nat → Int32) → Prop} {en fn ic il ix ge sd : Int32} {a1 a2 a3 a4 a5 a6 a7 a8 a9 a10 a11 a12 a13 a14 a15 a16 a17 a18 a19 a20 a21 : Nat → Int32} {R : Nat → Option Int32} {cnt q : Nat} {x3 : Int32} (hR : dt_Rep cnt a14 a15 R) (hc : cnt ≤ 16) (hq : q < 4096)
    (Hf : dt_c R q < cnt → post (a14 (dt_c R q)) (en, fn, ic, il, ix, nI cnt, ge, sd, a1, a2, a3, a4, a5, a6, a7, a8, a9, a10, a11, a12, a13, a14, a15, a16, a17, a18, a19, a20, a21)) (He : dt_c R q = cnt → J12 ge (x3 + 1) en fn ic il ix (nI cnt) ge sd a1 a2 a3 a4 a5 a6 a7 a8 a9 a10 a11 a12 a13 a14 a15 a16 a17 a18 a19 a20 a21) :
    ∀ (j i n : Nat), i + j = dt_c R q → j < n → wX_next_41 post J12 (nI q) x3 en fn ic il ix (nI cnt) ge sd a1 a2 a3 a4 a5 a6 a7 a8 a9 a10 a11 a12 a13 a14 a15 a16 a17 a18 a19 a20 a21 n (nI i) := by
  have h1 := dt_c_mono (F := R) (a := q) (b := 4096) (by omega)
  rw [← hR.1] at h1
  intro j
  induction j with
  | zero =>
    intro i n e hn
    obtain ⟨n, rfl⟩ : ∃ m, n = m + 1 := ⟨n - 1, by omega⟩
    have e : dt_c R q = i := by omega
    rw [e] at Hf He h1
    refine pk_le cnt i (fun z => nm_e (He (by omega))) (fun z => ?_)
    have hv : vp_in (nI i) 16 := vp_in_nI (by omega) (by omega)
    rw [nI_clamp (show i < 2 ^ 31 by omega)]
    refine ⟨hv, br_f (fun y => ?_) ⟨hv, Hf z⟩⟩
    have := (dt_Rep_lt hR z (by omega)).mp y
    omega
  | succ j ih =>
    intro i n e hn
    obtain ⟨n, rfl⟩ : ∃ m, n = m + 1 := ⟨n - 1, by omega⟩
    refine pk_le cnt i (fun z => absurd z (by omega)) (fun z => ?_)
    rw [nI_clamp (show i < 2 ^ 31 by omega)]
    exact ⟨vp_in_nI (by omega) (by omega), br_t ((dt_Rep_lt hR z (by omega)).mpr (by omega)) (nm_r (nI_1 i) (ih (i + 1) n (by omega) (by omega)))⟩
theorem dt_nx12 {post : Int32 → St1 → Prop} {en sd : Int32} {a1 a2 a3 a4 a5 a6 a7 a17 a18 a19 a20 a21 : Nat → Int32} {M : Nat → Option Int32} {C : Nat → List dt_Nt} {B : Nat → Nat → Option Int32} {lo hi : Nat → Nat} {q : Nat}
    (H : ∀ (fn ic il ix ga ge : Int32) (a8 a9 a10 a11 a12 a13 a14 a15 a16 : Nat → Int32) (I : List dt_Nt) (FX : Nat → Option Int32), dt_J M C I B FX lo hi fn ic il ix a1 a2 a3 a4 a5 a6 a7 a8 a9 a10 a11 a12 a13 → post (dt_nx M q) (en, fn, ic, il, ix, ga, ge, sd, a1, a2, a3, a4, a5, a6, a7, a8, a9, a10, a11, a12, a13, a14, a15, a16, a17, a18, a19, a20, a21)) :
    ∀ (n k st : Nat) (fn ic il ix ga ge : Int32) (a8 a9 a10 a11 a12 a13 a14 a15 a16 : Nat → Int32) (I : List dt_Nt) (FX : Nat → Option Int32), dt_J M C I B FX lo hi fn ic il ix a1 a2 a3 a4 a5 a6 a7 a8 a9 a10 a11 a12 a13 → k ≤ 4096 → dt_nx M k = dt_nx M q → st + dt_mh a1 hi k ≤ 24 → dt_mh a1 hi k < n → wX_next_12 post n (nI k) (nI st) en fn ic il ix ga ge sd a1 a2 a3 a4 a5 a6 a7 a8 a9 a10 a11 a12 a13 a14 a15 a16 a17 a18 a19 a20 a21 := by
  intro n
  induction n with
  | zero => intro k st fn ic il ix ga ge a8 a9 a10 a11 a12 a13 a14 a15 a16 I FX hJ hk4 hq h2 h3; omega
  | succ n ih =>
    intro k st fn ic il ix ga ge a8 a9 a10 a11 a12 a13 a14 a15 a16 I FX hJ hk4 hq h2 h3
    by_cases hk : k < 4096
    · obtain ⟨p0, e1, e2, e3, e4⟩ := dt_ex hJ k hk
      have hm := dt_mh_lt e1 e2 e4
      refine pk_le 24 st (fun z => absurd z (by omega)) (fun _ => pk_le 4096 k (fun z => absurd z (by omega)) (fun _ => ?_))
      refine dt_pf hJ hk (fun fn ic il ix a8 a9 a10 a11 a12 a13 I FX p hJ hp ha hlo hhi hix => ?_)
      refine dt_gJ hJ hp ha (fun cnt a14 a15 a16 hc hR => ⟨17, ?_⟩)
      have hm := dt_mh_lt hp ha hhi
      have f0 := hJ.2.2.2.2.1.1 p hp ha
      have fl := dt_c_mono (F := dt_rs M (lo p) (hi p)) (a := k) (b := 4096) (by omega)
      rw [← hR.1] at fl
      refine dt_nx41 hR (by omega) hk (fun z => ?_) (fun z => ?_) (dt_c (dt_rs M (lo p) (hi p)) k) 0 17 (by omega) (by omega)
      · obtain ⟨j, v, j1, j2, j3, j4, j5⟩ := dt_Rep_nth hR z
        obtain ⟨r1, r2, r3⟩ := dt_rs_some j2
        have hkj : k ≤ j := by
          rcases Nat.lt_or_ge j k with y | y
          · have := dt_c_lt j2 y; omega
          · exact y
        have hs : dt_nx M k = dt_nx M j := dt_nx_skip hkj (by omega) (fun i i1 i2 => by
          cases e : M i with
          | none => rfl
          | some w =>
            have g : dt_rs M (lo p) (hi p) i = some w := by rw [dt_rs_in (by omega) (by omega)]; exact e
            have g1 := dt_c_lt g i2
            have g2 := dt_c_mono (F := dt_rs M (lo p) (hi p)) i1
            omega)
        have := H fn ic il ix (nI cnt) (nI (hi p)) a8 a9 a10 a11 a12 a13 a14 a15 a16 I FX hJ
        rw [← hq, hs, dt_nx_hit j1 r3, ← j4] at this
        exact this
      · rw [nI_1]
        refine ih (hi p) (st + 1) fn ic il ix (nI cnt) (nI (hi p)) a8 a9 a10 a11 a12 a13 a14 a15 a16 I FX hJ (by omega) ?_ (by omega) (by omega)
        rw [← hq]
        refine (dt_nx_skip (by omega) (by omega) (fun i i1 i2 => ?_)).symm
        cases e : M i with
        | none => rfl
        | some w =>
          have g : dt_rs M (lo p) (hi p) i = some w := by rw [dt_rs_in (by omega) (by omega)]; exact e
          have g1 := dt_Rep_pos hR g
          have g2 := dt_c_mono (F := dt_rs M (lo p) (hi p)) i1
          omega
    · have fin : post (-1) (en, fn, ic, il, ix, ga, ge, sd, a1, a2, a3, a4, a5, a6, a7, a8, a9, a10, a11, a12, a13, a14, a15, a16, a17, a18, a19, a20, a21) := by
        have := H fn ic il ix ga ge a8 a9 a10 a11 a12 a13 a14 a15 a16 I FX hJ
        rw [← hq, dt_nx_end (by omega)] at this
        exact this
      exact br_c (fun _ => fin) (fun _ => pk_le 4096 k (fun _ => fin) (fun z => absurd z hk))
theorem dt_next {post : Int32 → St1 → Prop} {en fn ic il ix ga ge sd : Int32} {a1 a2 a3 a4 a5 a6 a7 a8 a9 a10 a11 a12 a13 a14 a15 a16 a17 a18 a19 a20 a21 : Nat → Int32} {M : Nat → Option Int32} {C : Nat → List dt_Nt} {I : List dt_Nt} {B : Nat → Nat → Option Int32} {FX : Nat → Option Int32} {lo hi : Nat → Nat} {q : Nat} (hJ : dt_J M C I B FX lo hi fn ic il ix a1 a2 a3 a4 a5 a6 a7 a8 a9 a10 a11 a12 a13) (hq : q ≤ 4096)
    (H : ∀ (fn ic il ix ga ge : Int32) (a8 a9 a10 a11 a12 a13 a14 a15 a16 : Nat → Int32) (I : List dt_Nt) (FX : Nat → Option Int32), dt_J M C I B FX lo hi fn ic il ix a1 a2 a3 a4 a5 a6 a7 a8 a9 a10 a11 a12 a13 → post (dt_nx M q) (en, fn, ic, il, ix, ga, ge, sd, a1, a2, a3, a4, a5, a6, a7, a8, a9, a10, a11, a12, a13, a14, a15, a16, a17, a18, a19, a20, a21)) : wpX_next post (en, fn, ic, il, ix, ga, ge, sd, a1, a2, a3, a4, a5, a6, a7, a8, a9, a10, a11, a12, a13, a14, a15, a16, a17, a18, a19, a20, a21) (nI q) := by
  have hm := dt_mh_le a1 hi q
  exact br_t (nI_pos' (by omega)) ⟨25, dt_nx12 H 25 q 0 _ _ _ _ _ _ _ _ _ _ _ _ _ _ _ I FX hJ hq rfl (by omega) (by omega)⟩
/-! firstKeyOf -/
theorem dt_fk {post : Int32 → Prop} {en fn ic il ix ga ge sd : Int32} {a1 a2 a3 a4 a5 a6 a7 a8 a9 a10 a11 a12 a13 a14 a15 a16 a17 a18 a19 a20 a21 : Nat → Int32} {M : Nat → Option Int32} {C : Nat → List dt_Nt} {I : List dt_Nt} {B : Nat → Nat → Option Int32} {FX : Nat → Option Int32} {lo hi : Nat → Nat} {p : Nat} (hJ : dt_J M C I B FX lo hi fn ic il ix a1 a2 a3 a4 a5 a6 a7 a8 a9 a10 a11 a12 a13) (hp : p < 24) (ha : a1 p ≠ 0) (hx : dt_ix FX I (lo p))
    (H : post (nI (lo p))) : wpX_firstKeyOf post (en, fn, ic, il, ix, ga, ge, sd, a1, a2, a3, a4, a5, a6, a7, a8, a9, a10, a11, a12, a13, a14, a15, a16, a17, a18, a19, a20, a21) (nI p) := by
  obtain ⟨⟨F, ow, hN⟩, hI4, hB, hX, hR, hY, hP⟩ := hJ
  have hcnt := dt_Y_cnt hY
  have hr := hR.1 p hp ha
  obtain ⟨rfl, hRX⟩ := hX
  have E : (∀ j, j < dt_c FX 4096 → a13 j ≠ nI p) → ∀ (l : List dt_Nt) (x : Int32) (n : Nat), l.length < n → dt_Ch a8 a9 a10 a11 x l → (∀ m, m ∈ l → m ∈ I) → (∀ m, m ∈ I → m.2.2.1 = lo p → m ∈ l) → wX_firstKeyOf_38 post (nI p) en fn ic il (nI (dt_c FX 4096)) ga ge sd a1 a2 a3 a4 a5 a6 a7 a8 a9 a10 a11 a12 a13 a14 a15 a16 a17 a18 a19 a20 a21 n x := by
    intro hno l
    induction l with
    | nil =>
      intro x n h1 h2 h3 h4
      exfalso
      rcases hx with ⟨y, e⟩ | ⟨m, hm, e⟩
      · obtain ⟨r, r1, r2, r3, r4⟩ := hY.2.1 _ y e
        have : r = p := dt_R_inj hR r1 hp r3 ha r4
        subst this
        have g := hRX.2 _ y e
        exact hno _ (dt_Rep_pos hRX e) (by rw [g.2.2, r2])
      · exact absurd (h4 m hm e) List.not_mem_nil
    | cons m l ih =>
      intro x n h1 h2 h3 h4
      obtain ⟨n, rfl⟩ : ∃ m, n = m + 1 := ⟨n - 1, by simp at h1; omega⟩
      obtain ⟨rfl, c2, c3, c4, c5, c6, c7, c8⟩ := h2
      rw [List.length_cons] at h1
      obtain ⟨⟨r, r1, r2, r3, r4⟩, _⟩ := hY.2.2.1 m (h3 m List.mem_cons_self)
      have hv : vp_in (nI m.1) 160 := vp_in_nI c2 (by omega)
      refine br_f (nI_pos (by omega)) ?_
      rw [nI_clamp (show m.1 < 2 ^ 31 by omega), c5, c4, r2]
      refine ⟨hv, pk_eq r p (fun z => ⟨hv, ?_⟩) (fun z => ⟨hv, nm_e (ih _ n (by omega) c8 (fun k hk => h3 k (List.mem_cons_of_mem _ hk)) (fun k hk e => ?_))⟩)⟩
      · subst z; rw [← r4]; exact H
      · rcases List.mem_cons.mp (h4 k hk e) with y | y
        · subst y
          exact absurd (dt_R_inj hR r1 hp r3 ha (by rw [r4, e])) z
        · exact y
  have G : ∀ (r i n : Nat), r + i = dt_c FX 4096 → r < n → (∀ j, j < i → a13 j ≠ nI p) → wX_firstKeyOf_2 post (nI p) en fn ic il (nI (dt_c FX 4096)) ga ge sd a1 a2 a3 a4 a5 a6 a7 a8 a9 a10 a11 a12 a13 a14 a15 a16 a17 a18 a19 a20 a21 n (nI i) := by
    intro r
    induction r with
    | zero =>
      intro i n h1 h2 h3
      obtain ⟨n, rfl⟩ : ∃ m, n = m + 1 := ⟨n - 1, by omega⟩
      exact pk_le (dt_c FX 4096) i (fun _ => ⟨6, E (fun j hj => h3 j (by omega)) I ic 6 (by omega) hN.2.1.1 (fun _ h => h) (fun _ h _ => h)⟩) (fun z => absurd z (by omega))
    | succ r ih =>
      intro i n h1 h2 h3
      obtain ⟨n, rfl⟩ : ∃ m, n = m + 1 := ⟨n - 1, by omega⟩
      have hv : vp_in (nI i) 24 := vp_in_nI (by omega) (by omega)
      refine pk_le (dt_c FX 4096) i (fun z => absurd z (by omega)) (fun _ => ?_)
      rw [nI_clamp (show i < 2 ^ 31 by omega)]
      refine ⟨hv, br_c (fun z => ⟨hv, ?_⟩) (fun z => nm_r (nI_1 i) (ih (i + 1) n (by omega) (by omega) (fun j hj => ?_)))⟩
      · obtain ⟨k, v, hk, e, ec, e1, e2⟩ := dt_Rep_nth hRX (i := i) (by omega)
        obtain ⟨r, r1, r2, r3, r4⟩ := hY.2.1 k v e
        rw [e2, r2] at z
        have : r = p := (nI_eq (by omega) (by omega)).mp z
        subst this
        rw [e1, ← r4]; exact H
      · by_cases y : j = i
        · rw [y]; exact z
        · exact h3 j (by omega)
  exact ⟨25, G (dt_c FX 4096) 0 25 (by omega) (by omega) (fun j hj => absurd hj (by omega))⟩
/-! previous -/
def dt_pv (M : Nat → Option Int32) : Nat → Int32
  | 0 => -1
  | k + 1 => if (M k).isSome = true then nI k else dt_pv M k
theorem dt_pv_hit {M : Nat → Option Int32} {k : Nat} {v : Int32} (e : M k = some v) : dt_pv M (k + 1) = nI k := by
  show (if (M k).isSome = true then nI k else dt_pv M k) = nI k
  rw [e]; rfl
theorem dt_pv_s {M : Nat → Option Int32} {k : Nat} (e : M k = none) : dt_pv M (k + 1) = dt_pv M k := by
  show (if (M k).isSome = true then nI k else dt_pv M k) = dt_pv M k
  rw [e]; rfl
theorem dt_pv_skip {M : Nat → Option Int32} {a b : Nat} (hab : a ≤ b) (h : ∀ j, a ≤ j → j < b → M j = none) : dt_pv M b = dt_pv M a := by
  induction hab with
  | refl => rfl
  | step hm ih =>
    rename_i m
    have hm' : a ≤ m := hm
    rw [← ih (fun j h1 h2 => h j h1 (Nat.lt_succ_of_lt h2))]
    exact dt_pv_s (h m hm' (Nat.lt_succ_self m))
theorem dt_pv_c (M : Nat → Option Int32) (k : Nat) : dt_pv M k = -1 ∨ ∃ j, j < k ∧ dt_pv M k = nI j := by
  induction k with
  | zero => exact Or.inl rfl
  | succ k ih =>
    show ((if (M k).isSome = true then nI k else dt_pv M k) = -1 ∨ ∃ j, j < k + 1 ∧ (if (M k).isSome = true then nI k else dt_pv M k) = nI j)
    by_cases e : (M k).isSome = true
    · rw [if_pos e]; exact Or.inr ⟨k, by omega, rfl⟩
    · rw [if_neg e]
      rcases ih with z | ⟨j, h1, h2⟩
      · exact Or.inl z
      · exact Or.inr ⟨j, by omega, h2⟩
theorem dt_pv48 {post : Int32 → St1 → Prop} {J17 : Int32 → Int32 → Int32 → Int32 → Int32 → Int32 → Int32 → Int32 → Int32 → Int32 → (Nat → Int32) → (Nat → Int32) → (Nat → Int32) → (Nat → Int32) → (Nat → Int32) → (Nat → Int32) → (Nat → Int32) → (Nat → Int32) → (Nat → Int32) → (Nat → Int32) → (Nat → Int32) → (Nat → Int32) → (Nat → Int32) → (Nat → Int32) → (Nat → Int32) → (Nat → Int32) → (Nat → Int32) → (Nat → Int32) → (Nat → Int32) → (Nat → Int32) → (Nat → Int32) → Prop} {en fn ic il ix ge sd : Int32} {a1 a2 a3 a4 a5 a6 a7 a8 a9 a10 a11 a12 a13 a14 a15 a16 a17 a18 a19 a20 a21 : Nat → Int32} {R : Nat → Option Int32} {cnt q : Nat} {x3 x4 : Int32} (hR : dt_Rep cnt a14 a15 R) (hc : cnt ≤ 16) (hq : q < 4096)
    (Hf : ∀ t, dt_c R (q + 1) = t + 1 → post (a14 t) (en, fn, ic, il, ix, nI cnt, ge, sd, a1, a2, a3, a4, a5, a6, a7, a8, a9, a10, a11, a12, a13, a14, a15, a16, a17, a18, a19, a20, a21)) (He : dt_c R (q + 1) = 0 → wpX_firstKeyOf (fun r => ∀ x : Int32, x = r - 1 → ∀ y : Int32, y = x3 + 1 → J17 x y en fn ic il ix (nI cnt) ge sd a1 a2 a3 a4 a5 a6 a7 a8 a9 a10 a11 a12 a13 a14 a15 a16 a17 a18 a19 a20 a21) (en, fn, ic, il, ix, nI cnt, ge, sd, a1, a2, a3, a4, a5, a6, a7, a8, a9, a10, a11, a12, a13, a14, a15, a16, a17, a18, a19, a20, a21) x4) :
    ∀ (j i n : Nat), i = dt_c R (q + 1) + j → i ≤ cnt → j < n → wX_previous_48 post J17 (nI q) x3 x4 en fn ic il ix (nI cnt) ge sd a1 a2 a3 a4 a5 a6 a7 a8 a9 a10 a11 a12 a13 a14 a15 a16 a17 a18 a19 a20 a21 n (nI i - 1) := by
  intro j
  induction j with
  | zero =>
    intro i n e h1 hn
    obtain ⟨n, rfl⟩ : ∃ m, n = m + 1 := ⟨n - 1, by omega⟩
    have e : dt_c R (q + 1) = i := by omega
    cases i with
    | zero => exact br_t (by decide) (He e)
    | succ i =>
      rw [nI_pred]
      have hv : vp_in (nI i) 16 := vp_in_nI (by omega) (by omega)
      refine br_f (nI_pos (by omega)) ?_
      rw [nI_clamp (show i < 2 ^ 31 by omega)]
      refine ⟨hv, br_f (fun y => ?_) ⟨hv, Hf i e⟩⟩
      have := (dt_Rep_gt hR (by omega) hq).mp y
      omega
  | succ j ih =>
    intro i n e h1 hn
    obtain ⟨n, rfl⟩ : ∃ m, n = m + 1 := ⟨n - 1, by omega⟩
    cases i with
    | zero => omega
    | succ i =>
      rw [nI_pred]
      have hv : vp_in (nI i) 16 := vp_in_nI (by omega) (by omega)
      refine br_f (nI_pos (by omega)) ?_
      rw [nI_clamp (show i < 2 ^ 31 by omega)]
      exact ⟨hv, br_t ((dt_Rep_gt hR (by omega) hq).mpr (by omega)) (nm_r (dt_m1 (nI i)) (ih i n (by omega) (by omega) (by omega)))⟩
theorem dt_pv17 {post : Int32 → St1 → Prop} {en sd : Int32} {a1 a2 a3 a4 a5 a6 a7 a17 a18 a19 a20 a21 : Nat → Int32} {M : Nat → Option Int32} {C : Nat → List dt_Nt} {B : Nat → Nat → Option Int32} {lo hi : Nat → Nat} {q : Nat}
    (H : ∀ (fn ic il ix ga ge : Int32) (a8 a9 a10 a11 a12 a13 a14 a15 a16 : Nat → Int32) (I : List dt_Nt) (FX : Nat → Option Int32), dt_J M C I B FX lo hi fn ic il ix a1 a2 a3 a4 a5 a6 a7 a8 a9 a10 a11 a12 a13 → post (dt_pv M q) (en, fn, ic, il, ix, ga, ge, sd, a1, a2, a3, a4, a5, a6, a7, a8, a9, a10, a11, a12, a13, a14, a15, a16, a17, a18, a19, a20, a21)) :
    ∀ (n k st : Nat) (fn ic il ix ga ge : Int32) (a8 a9 a10 a11 a12 a13 a14 a15 a16 : Nat → Int32) (I : List dt_Nt) (FX : Nat → Option Int32), dt_J M C I B FX lo hi fn ic il ix a1 a2 a3 a4 a5 a6 a7 a8 a9 a10 a11 a12 a13 → k ≤ 4096 → dt_pv M k = dt_pv M q → st + dt_ml a1 lo k ≤ 24 → dt_ml a1 lo k < n → wX_previous_17 post n (nI k - 1) (nI st) en fn ic il ix ga ge sd a1 a2 a3 a4 a5 a6 a7 a8 a9 a10 a11 a12 a13 a14 a15 a16 a17 a18 a19 a20 a21 := by
  intro n
  induction n with
  | zero => intro k st fn ic il ix ga ge a8 a9 a10 a11 a12 a13 a14 a15 a16 I FX hJ hk4 hq h2 h3; omega
  | succ n ih =>
    intro k st fn ic il ix ga ge a8 a9 a10 a11 a12 a13 a14 a15 a16 I FX hJ hk4 hq h2 h3
    cases k with
    | zero =>
      have fin : post (-1) (en, fn, ic, il, ix, ga, ge, sd, a1, a2, a3, a4, a5, a6, a7, a8, a9, a10, a11, a12, a13, a14, a15, a16, a17, a18, a19, a20, a21) := by
        have := H fn ic il ix ga ge a8 a9 a10 a11 a12 a13 a14 a15 a16 I FX hJ
        rw [← hq] at this
        exact this
      exact br_c (fun _ => fin) (fun _ => br_t (by decide) fin)
    | succ k =>
      obtain ⟨p0, e1, e2, e3, e4⟩ := dt_ex hJ k (by omega)
      have hm := dt_ml_lt (lo := lo) (k := k + 1) e1 e2 (by omega)
      rw [nI_pred]
      refine pk_le 24 st (fun z => absurd z (by omega)) (fun _ => br_f (nI_pos (by omega)) ?_)
      refine dt_pf hJ (show k < 4096 by omega) (fun fn ic il ix a8 a9 a10 a11 a12 a13 I FX p hJ hp ha hlo hhi hix => ?_)
      refine dt_gJ hJ hp ha (fun cnt a14 a15 a16 hc hR => nm_e ⟨17, ?_⟩)
      have hm := dt_ml_lt (lo := lo) (k := k + 1) hp ha (by omega)
      have f0 := hJ.2.2.2.2.1.1 p hp ha
      have fl := dt_c_mono (F := dt_rs M (lo p) (hi p)) (a := k + 1) (b := 4096) (by omega)
      rw [← hR.1] at fl
      refine dt_pv48 hR (by omega) (show k < 4096 by omega) (fun t ht => ?_) (fun z => ?_) (cnt - dt_c (dt_rs M (lo p) (hi p)) (k + 1)) cnt 17 (by omega) (by omega) (by omega)
      · obtain ⟨j, v, j1, j2, j3, j4, j5⟩ := dt_Rep_nth hR (i := t) (by omega)
        obtain ⟨r1, r2, r3⟩ := dt_rs_some j2
        have hkj : j ≤ k := by
          rcases Nat.lt_or_ge k j with y | y
          · have := dt_c_mono (F := dt_rs M (lo p) (hi p)) (a := k + 1) (b := j) y; omega
          · exact y
        have hs : dt_pv M (k + 1) = dt_pv M (j + 1) := dt_pv_skip (by omega) (fun i i1 i2 => by
          cases e : M i with
          | none => rfl
          | some w =>
            have g : dt_rs M (lo p) (hi p) i = some w := by rw [dt_rs_in (by omega) (by omega)]; exact e
            have g1 := dt_c_lt g i2
            have g2 := dt_c_lt j2 (show j < i by omega)
            omega)
        have := H fn ic il ix (nI cnt) (nI (hi p)) a8 a9 a10 a11 a12 a13 a14 a15 a16 I FX hJ
        rw [← hq, hs, dt_pv_hit r3, ← j4] at this
        exact this
      · refine dt_fk hJ hp ha hix (nm_e (nm_r (nI_1 st) ?_))
        refine ih (lo p) (st + 1) fn ic il ix (nI cnt) (nI (hi p)) a8 a9 a10 a11 a12 a13 a14 a15 a16 I FX hJ (by omega) ?_ (by omega) (by omega)
        rw [← hq]
        refine (dt_pv_skip (by omega) (fun i i1 i2 => ?_)).symm
        cases e : M i with
        | none => rfl
        | some w =>
          have g : dt_rs M (lo p) (hi p) i = some w := by rw [dt_rs_in (by omega) (by omega)]; exact e
          have g1 := dt_c_lt g i2
          omega
theorem dt_prev {post : Int32 → St1 → Prop} {en fn ic il ix ga ge sd : Int32} {a1 a2 a3 a4 a5 a6 a7 a8 a9 a10 a11 a12 a13 a14 a15 a16 a17 a18 a19 a20 a21 : Nat → Int32} {M : Nat → Option Int32} {C : Nat → List dt_Nt} {I : List dt_Nt} {B : Nat → Nat → Option Int32} {FX : Nat → Option Int32} {lo hi : Nat → Nat} {q : Nat} (hJ : dt_J M C I B FX lo hi fn ic il ix a1 a2 a3 a4 a5 a6 a7 a8 a9 a10 a11 a12 a13) (hq : q < 4096)
    (H : ∀ (fn ic il ix ga ge : Int32) (a8 a9 a10 a11 a12 a13 a14 a15 a16 : Nat → Int32) (I : List dt_Nt) (FX : Nat → Option Int32), dt_J M C I B FX lo hi fn ic il ix a1 a2 a3 a4 a5 a6 a7 a8 a9 a10 a11 a12 a13 → post (dt_pv M (q + 1)) (en, fn, ic, il, ix, ga, ge, sd, a1, a2, a3, a4, a5, a6, a7, a8, a9, a10, a11, a12, a13, a14, a15, a16, a17, a18, a19, a20, a21)) : wpX_previous post (en, fn, ic, il, ix, ga, ge, sd, a1, a2, a3, a4, a5, a6, a7, a8, a9, a10, a11, a12, a13, a14, a15, a16, a17, a18, a19, a20, a21) (nI q) := by
  have hm := dt_ml_le a1 lo (q + 1)
  refine br_t (nI_le (b := 4095) (by omega) (by omega)) ⟨25, ?_⟩
  have := dt_pv17 H 25 (q + 1) 0 fn ic il ix ga ge a8 a9 a10 a11 a12 a13 a14 a15 a16 I FX hJ (by omega) rfl (by omega) (by omega)
  rw [nI_pred] at this
  exact this
end
section
/-! placeInBase -/
theorem dt_pb21 {post : Int32 → Prop} {en fn ic il ix ga ge sd : Int32} {a1 a2 a3 a4 a5 a6 a7 a8 a9 a10 a11 a12 a13 a14 a15 a16 a17 a18 a19 a20 a21 : Nat → Int32} {F : Nat → Option Int32} {p q : Nat} (hp : p < 24) (hq : q < 4096) (h4 : a4 p = nI (dt_c F 4096)) (h12 : dt_c F 4096 ≤ 12) (hR : dt_Rep (dt_c F 4096) (fun i => a5 (12 * p + i)) (fun i => a6 (12 * p + i)) F)
    (H0 : F q = none → post (-1)) (H1 : ∀ v, F q = some v → post (nI (12 * p + dt_c F q))) :
    ∀ (r st l h n : Nat), r + st = 6 → r < n → l ≤ dt_c F q → dt_c F q ≤ h → h ≤ dt_c F 4096 → h - l < 2 ^ r → wX_placeInBase_21 post (nI p) (nI q) en fn ic il ix ga ge sd a1 a2 a3 a4 a5 a6 a7 a8 a9 a10 a11 a12 a13 a14 a15 a16 a17 a18 a19 a20 a21 n (nI (12 * p + l)) (nI (12 * p + h)) (nI st) := by
  have hle := dt_c_mono (F := F) (a := q) (b := 4096) (by omega)
  have hcl : (nI p).toNatClampNeg = p := nI_clamp (by omega)
  have e12 : ∀ i, 12 * nI p + nI i = nI (12 * p + i) := fun i => by rw [show (12 : Int32) = nI 12 from rfl, pk_mul, nI_add]
  have fin : wX_placeInBase_71 post (nI p) (nI q) (nI (12 * p + dt_c F q)) en fn ic il ix ga ge sd a1 a2 a3 a4 a5 a6 a7 a8 a9 a10 a11 a12 a13 a14 a15 a16 a17 a18 a19 a20 a21 := by
    unfold wX_placeInBase_71
    rw [hcl, h4, e12, nI_clamp (show 12 * p + dt_c F q < 2 ^ 31 by omega)]
    refine ⟨vp_in_nI hp (by omega), pk_le (12 * p + dt_c F 4096) (12 * p + dt_c F q) (fun z => ?_) (fun z => ⟨vp_in_nI (by omega) (by omega), br_c (fun y => ?_) (fun y => ?_)⟩)⟩
    · cases e : F q with
      | none => exact H0 e
      | some v => have := dt_c_lt e hq; omega
    · obtain ⟨v, e⟩ := (dt_Rep_in hR hq).mpr ⟨by omega, y⟩
      exact H1 v e
    · cases e : F q with
      | none => exact H0 e
      | some v => exact absurd ((dt_Rep_in hR hq).mp ⟨v, e⟩).2 y
  intro r
  induction r with
  | zero =>
    intro st l h n h1 h2 h3 h4 h5 h6
    obtain ⟨n, rfl⟩ : ∃ m, n = m + 1 := ⟨n - 1, by omega⟩
    have e : l = dt_c F q := by simp at h6; omega
    subst e
    exact pk_le 6 st (fun _ => fin) (fun z => absurd z (by omega))
  | succ r ih =>
    intro st l h n h1 h2 h3 h4 h5 h6
    obtain ⟨n, rfl⟩ : ∃ m, n = m + 1 := ⟨n - 1, by omega⟩
    have hp2 : 2 ^ (r + 1) = 2 * 2 ^ r := by rw [Nat.pow_succ]; omega
    have ed : (12 * p + l + (12 * p + h)) / 2 = 12 * p + (l + h) / 2 := by omega
    refine pk_le 6 st (fun z => absurd z (by omega)) (fun _ => pk_le (12 * p + h) (12 * p + l) (fun z => ?_) (fun z => ⟨by decide, nm_r (e' := nI (12 * p + (l + h) / 2)) ?_ ⟨vp_in_nI (by omega) (by omega), ?_⟩⟩))
    · have e : l = dt_c F q := by omega
      subst e
      exact fin
    · rw [nI_add, ← ed]
      exact pk_div (a := 12 * p + l + (12 * p + h)) (d := 2) (by omega) (by omega) (by omega)
    · rw [nI_clamp (show 12 * p + (l + h) / 2 < 2 ^ 31 by omega)]
      have hg : a5 (12 * p + (l + h) / 2) < nI q ↔ (l + h) / 2 < dt_c F q := dt_Rep_lt hR (i := (l + h) / 2) (by omega) (by omega)
      refine br_c (fun z => ?_) (fun z => ?_)
      · have hg : dt_c F q ≤ (l + h) / 2 := by
          rcases Nat.lt_or_ge ((l + h) / 2) (dt_c F q) with y | y
          · exact absurd (hg.mpr y) (Int32.not_lt.mpr z)
          · exact y
        exact nm_r (nI_1 st) (ih (st + 1) _ _ n (by omega) (by omega) h3 hg (by omega) (by omega))
      · have hg := hg.mp (Int32.not_le.mp z)
        refine nm_r (e' := nI (12 * p + ((l + h) / 2 + 1))) (nI_1 _) (nm_r (nI_1 st) (ih (st + 1) _ _ n (by omega) (by omega) hg h4 (by omega) (by omega)))
theorem dt_pb {post : Int32 → Prop} {en fn ic il ix ga ge sd : Int32} {a1 a2 a3 a4 a5 a6 a7 a8 a9 a10 a11 a12 a13 a14 a15 a16 a17 a18 a19 a20 a21 : Nat → Int32} {F : Nat → Option Int32} {p q : Nat} (hp : p < 24) (hq : q < 4096) (h4 : a4 p = nI (dt_c F 4096)) (h12 : dt_c F 4096 ≤ 12) (hR : dt_Rep (dt_c F 4096) (fun i => a5 (12 * p + i)) (fun i => a6 (12 * p + i)) F)
    (H0 : F q = none → post (-1)) (H1 : ∀ v, F q = some v → post (nI (12 * p + dt_c F q))) : wpX_placeInBase post (en, fn, ic, il, ix, ga, ge, sd, a1, a2, a3, a4, a5, a6, a7, a8, a9, a10, a11, a12, a13, a14, a15, a16, a17, a18, a19, a20, a21) (nI p) (nI q) := by
  have hle := dt_c_mono (F := F) (a := q) (b := 4096) (by omega)
  have hcl : (nI p).toNatClampNeg = p := nI_clamp (by omega)
  refine nm_r (e' := nI (12 * p + 0)) (pk_mul 12 p) ⟨vp_in_nI hp (by omega), nm_r (e' := nI (12 * p + dt_c F 4096)) ?_ ⟨7, dt_pb21 hp hq h4 h12 hR H0 H1 6 0 0 _ 7 (by omega) (by omega) (by omega) hle (by omega) (by show _ < 64; omega)⟩⟩
  rw [hcl, h4, show (12 : Int32) = nI 12 from rfl, pk_mul, nI_add]
/-! isIn, valueIn -/
theorem dt_in7 {post : Int32 → Prop} {en fn ic il ix ga ge sd : Int32} {a1 a2 a3 a4 a5 a6 a7 a8 a9 a10 a11 a12 a13 a14 a15 a16 a17 a18 a19 a20 a21 : Nat → Int32} {F : Nat → Option Int32} {p q : Nat} (hp : p < 24) (hq : q < 4096) (h4 : a4 p = nI (dt_c F 4096)) (h12 : dt_c F 4096 ≤ 12) (hR : dt_Rep (dt_c F 4096) (fun i => a5 (12 * p + i)) (fun i => a6 (12 * p + i)) F) :
    ∀ (l : List dt_Nt) (x : Int32) (n : Nat), l.length < n → dt_Ch a8 a9 a10 a11 x l → post (if (dt_lk l F q).isSome = true then 1 else 0) → wX_isIn_7 post (nI p) (nI q) en fn ic il ix ga ge sd a1 a2 a3 a4 a5 a6 a7 a8 a9 a10 a11 a12 a13 a14 a15 a16 a17 a18 a19 a20 a21 n x := by
  intro l
  induction l with
  | nil =>
    intro x n h1 h2 H
    obtain ⟨n, rfl⟩ : ∃ m, n = m + 1 := ⟨n - 1, by simp at h1; omega⟩
    have hx : x = -1 := h2
    subst hx
    have H : post (if (F q).isSome = true then 1 else 0) := H
    have hle := dt_c_mono (F := F) (a := q) (b := 4096) (by omega)
    refine br_t dt_neg (dt_pb hp hq h4 h12 hR (fun e => ?_) (fun v e => ?_))
    · rw [e] at H; exact br_t dt_neg H
    · rw [e] at H; exact br_f (nI_pos (by omega)) H
  | cons m l ih =>
    intro x n h1 h2 H
    obtain ⟨n, rfl⟩ : ∃ m, n = m + 1 := ⟨n - 1, by simp at h1; omega⟩
    obtain ⟨rfl, c2, c3, c4, c5, c6, c7, c8⟩ := h2
    rw [List.length_cons] at h1
    have hv : vp_in (nI m.1) 160 := vp_in_nI c2 (by omega)
    have hlk : dt_lk (m :: l) F q = if m.2.1 = 2 then dt_lk l F q else if m.2.2.1 = q then (if m.2.1 = 0 then some m.2.2.2 else none) else dt_lk l F q := rfl
    rw [hlk] at H
    refine br_f (nI_pos (by omega)) ?_
    rw [nI_clamp (show m.1 < 2 ^ 31 by omega), c3, c4]
    by_cases h2 : m.2.1 = 2
    · rw [if_pos h2] at H
      exact ⟨hv, br_t ((dt_e2 c6).mpr h2) ⟨hv, nm_e (ih _ n (by omega) c8 H)⟩⟩
    · rw [if_neg h2] at H
      refine ⟨hv, br_f (fun z => h2 ((dt_e2 c6).mp z)) ⟨hv, pk_eq m.2.2.1 q (fun z => ⟨hv, ?_⟩) (fun z => ⟨hv, nm_e (ih _ n (by omega) c8 ?_)⟩)⟩⟩
      · rw [if_pos z] at H
        by_cases h0 : m.2.1 = 0
        · rw [if_pos h0] at H; exact br_t ((dt_e0 c6).mpr h0) H
        · rw [if_neg h0] at H; exact br_f (fun y => h0 ((dt_e0 c6).mp y)) H
      · rw [if_neg z] at H; exact H
theorem dt_va7 {post : Int32 → Prop} {en fn ic il ix ga ge sd : Int32} {a1 a2 a3 a4 a5 a6 a7 a8 a9 a10 a11 a12 a13 a14 a15 a16 a17 a18 a19 a20 a21 : Nat → Int32} {F : Nat → Option Int32} {p q : Nat} {v : Int32} (hp : p < 24) (hq : q < 4096) (h4 : a4 p = nI (dt_c F 4096)) (h12 : dt_c F 4096 ≤ 12) (hR : dt_Rep (dt_c F 4096) (fun i => a5 (12 * p + i)) (fun i => a6 (12 * p + i)) F) (H : post v) :
    ∀ (l : List dt_Nt) (x : Int32) (n : Nat), l.length < n → dt_Ch a8 a9 a10 a11 x l → dt_lk l F q = some v → wX_valueIn_7 post (nI p) (nI q) en fn ic il ix ga ge sd a1 a2 a3 a4 a5 a6 a7 a8 a9 a10 a11 a12 a13 a14 a15 a16 a17 a18 a19 a20 a21 n x := by
  intro l
  induction l with
  | nil =>
    intro x n h1 h2 hk
    obtain ⟨n, rfl⟩ : ∃ m, n = m + 1 := ⟨n - 1, by simp at h1; omega⟩
    have hx : x = -1 := h2
    subst hx
    have hk : F q = some v := hk
    have hle := dt_c_lt hk hq
    refine br_t dt_neg (dt_pb hp hq h4 h12 hR (fun e => ?_) (fun w e => ?_))
    · rw [hk] at e; exact absurd e (by simp)
    · have g : a6 (12 * p + dt_c F q) = v := (hR.2 q v hk).2.2
      refine br_t (nI_pos' (by omega)) ⟨vp_in_nI (by omega) (by omega), ?_⟩
      rw [nI_clamp (by omega), g]
      exact H
  | cons m l ih =>
    intro x n h1 h2 hk
    obtain ⟨n, rfl⟩ : ∃ m, n = m + 1 := ⟨n - 1, by simp at h1; omega⟩
    obtain ⟨rfl, c2, c3, c4, c5, c6, c7, c8⟩ := h2
    rw [List.length_cons] at h1
    have hv : vp_in (nI m.1) 160 := vp_in_nI c2 (by omega)
    have hlk : dt_lk (m :: l) F q = if m.2.1 = 2 then dt_lk l F q else if m.2.2.1 = q then (if m.2.1 = 0 then some m.2.2.2 else none) else dt_lk l F q := rfl
    rw [hlk] at hk
    refine br_f (nI_pos (by omega)) ?_
    rw [nI_clamp (show m.1 < 2 ^ 31 by omega), c3, c4, c5]
    by_cases h0 : m.2.1 = 0
    · rw [if_neg (by omega), if_pos h0] at hk
      refine ⟨hv, br_t ((dt_e0 c6).mpr h0) ⟨hv, pk_eq m.2.2.1 q (fun z => ⟨hv, ?_⟩) (fun z => ⟨hv, nm_e (ih _ n (by omega) c8 ?_)⟩)⟩⟩
      · rw [if_pos z] at hk; rw [Option.some.inj hk]; exact H
      · rw [if_neg z] at hk; exact hk
    · refine ⟨hv, br_f (fun y => h0 ((dt_e0 c6).mp y)) ⟨hv, nm_e (ih _ n (by omega) c8 ?_)⟩⟩
      by_cases h2 : m.2.1 = 2
      · rw [if_pos h2] at hk; exact hk
      · rw [if_neg h2] at hk
        by_cases z : m.2.2.1 = q
        · rw [if_pos z, if_neg h0] at hk; exact absurd hk (by simp)
        · rw [if_neg z] at hk; exact hk
/-- the page's look-up is the map's -/
theorem dt_lkJ {M : Nat → Option Int32} {C : Nat → List dt_Nt} {I : List dt_Nt} {B : Nat → Nat → Option Int32} {FX : Nat → Option Int32} {lo hi : Nat → Nat} {fn ic il ix : Int32} {a1 a2 a3 a4 a5 a6 a7 a8 a9 a10 a11 a12 a13 : Nat → Int32} {p q : Nat} (hJ : dt_J M C I B FX lo hi fn ic il ix a1 a2 a3 a4 a5 a6 a7 a8 a9 a10 a11 a12 a13) (hp : p < 24) (ha : a1 p ≠ 0) (h1 : lo p ≤ q) (h2 : q < hi p) : dt_lk (C p) (B p) q = M q := by
  obtain ⟨hN, hI4, hB, hX, hR, hY, hP⟩ := hJ
  obtain ⟨p1, p2⟩ := (hP p hp).2 ha
  rw [dt_lk_co, p1, dt_rs_in h1 h2]
  intro n hn e
  rcases p2 with ⟨g1, g2, g3, g4⟩ | ⟨l, d, u, g1, g2, g3, g4, g5, g6, g7⟩
  · exact absurd e (g1 n hn)
  · rw [g1] at hn
    rcases List.mem_append.mp hn with z | z
    · exact absurd e (g2 n z)
    · rw [List.mem_singleton.mp z]; exact h2
theorem dt_isIn {post : Int32 → Prop} {en fn ic il ix ga ge sd : Int32} {a1 a2 a3 a4 a5 a6 a7 a8 a9 a10 a11 a12 a13 a14 a15 a16 a17 a18 a19 a20 a21 : Nat → Int32} {M : Nat → Option Int32} {C : Nat → List dt_Nt} {I : List dt_Nt} {B : Nat → Nat → Option Int32} {FX : Nat → Option Int32} {lo hi : Nat → Nat} {p q : Nat} (hJ : dt_J M C I B FX lo hi fn ic il ix a1 a2 a3 a4 a5 a6 a7 a8 a9 a10 a11 a12 a13) (hp : p < 24) (ha : a1 p ≠ 0) (h1 : lo p ≤ q) (h2 : q < hi p)
    (H : post (if (M q).isSome = true then 1 else 0)) : wpX_isIn post (en, fn, ic, il, ix, ga, ge, sd, a1, a2, a3, a4, a5, a6, a7, a8, a9, a10, a11, a12, a13, a14, a15, a16, a17, a18, a19, a20, a21) (nI p) (nI q) := by
  have hl := dt_lkJ hJ hp ha h1 h2
  obtain ⟨⟨F, ow, hN⟩, hI4, hB, hX, hR, hY, hP⟩ := hJ
  have hr := hR.1 p hp ha
  obtain ⟨b1, b2, b3⟩ := hB p hp ha
  obtain ⟨n1, n2, n3, n4, n5⟩ := hN.2.2.1 p hp
  refine ⟨vp_in_nI hp (by omega), nm_r (e' := a2 p) (by rw [nI_clamp (by omega)]) ⟨6, dt_in7 hp (by omega) b1 b2 b3 (C p) _ 6 (by omega) n1 ?_⟩⟩
  rw [hl]; exact H
theorem dt_valueIn {post : Int32 → Prop} {en fn ic il ix ga ge sd : Int32} {a1 a2 a3 a4 a5 a6 a7 a8 a9 a10 a11 a12 a13 a14 a15 a16 a17 a18 a19 a20 a21 : Nat → Int32} {M : Nat → Option Int32} {C : Nat → List dt_Nt} {I : List dt_Nt} {B : Nat → Nat → Option Int32} {FX : Nat → Option Int32} {lo hi : Nat → Nat} {p q : Nat} {v : Int32} (hJ : dt_J M C I B FX lo hi fn ic il ix a1 a2 a3 a4 a5 a6 a7 a8 a9 a10 a11 a12 a13) (hp : p < 24) (ha : a1 p ≠ 0) (h1 : lo p ≤ q) (h2 : q < hi p) (hv : M q = some v)
    (H : post v) : wpX_valueIn post (en, fn, ic, il, ix, ga, ge, sd, a1, a2, a3, a4, a5, a6, a7, a8, a9, a10, a11, a12, a13, a14, a15, a16, a17, a18, a19, a20, a21) (nI p) (nI q) := by
  have hl := dt_lkJ hJ hp ha h1 h2
  obtain ⟨⟨F, ow, hN⟩, hI4, hB, hX, hR, hY, hP⟩ := hJ
  have hr := hR.1 p hp ha
  obtain ⟨b1, b2, b3⟩ := hB p hp ha
  obtain ⟨n1, n2, n3, n4, n5⟩ := hN.2.2.1 p hp
  refine ⟨vp_in_nI hp (by omega), nm_r (e' := a2 p) (by rw [nI_clamp (by omega)]) ⟨6, dt_va7 hp (by omega) b1 b2 b3 H (C p) _ 6 (by omega) n1 ?_⟩⟩
  rw [hl]; exact hv
/-! isKey -/
theorem dt_key {post : Int32 → Prop} {q : Nat} (hq : q < 4096) (H : post 1) : wpX_isKey post () (nI q) :=
  br_f (nI_pos (by omega)) (br_f (nI_nlt (a := 4095) (b := q) (by omega) (by omega)) H)
theorem dt_nokey {post : Int32 → Prop} {x : Int32} (h : ¬ (0 ≤ x ∧ x ≤ 4095)) (H : post 0) : wpX_isKey post () x :=
  br_c (fun _ => H) (fun z => br_c (fun _ => H) (fun y => absurd ⟨Int32.not_lt.mp z, Int32.not_lt.mp y⟩ h))
/-! has, get -/
theorem dt_has {post : Int32 → St1 → Prop} {en fn ic il ix ga ge sd : Int32} {a1 a2 a3 a4 a5 a6 a7 a8 a9 a10 a11 a12 a13 a14 a15 a16 a17 a18 a19 a20 a21 : Nat → Int32} {M : Nat → Option Int32} {C : Nat → List dt_Nt} {I : List dt_Nt} {B : Nat → Nat → Option Int32} {FX : Nat → Option Int32} {lo hi : Nat → Nat} {q : Nat} (hJ : dt_J M C I B FX lo hi fn ic il ix a1 a2 a3 a4 a5 a6 a7 a8 a9 a10 a11 a12 a13) (hq : q < 4096)
    (H : ∀ (fn ic il ix : Int32) (a8 a9 a10 a11 a12 a13 : Nat → Int32) (I : List dt_Nt) (FX : Nat → Option Int32), dt_J M C I B FX lo hi fn ic il ix a1 a2 a3 a4 a5 a6 a7 a8 a9 a10 a11 a12 a13 → post (if (M q).isSome = true then 1 else 0) (en, fn, ic, il, ix, ga, ge, sd, a1, a2, a3, a4, a5, a6, a7, a8, a9, a10, a11, a12, a13, a14, a15, a16, a17, a18, a19, a20, a21)) : wpX_has post (en, fn, ic, il, ix, ga, ge, sd, a1, a2, a3, a4, a5, a6, a7, a8, a9, a10, a11, a12, a13, a14, a15, a16, a17, a18, a19, a20, a21) (nI q) := by
  unfold wpX_has
  dsimp only
  refine dt_key hq (br_f (by decide) (dt_pf hJ hq (fun fn ic il ix a8 a9 a10 a11 a12 a13 I FX p hJ hp ha hlo hhi hix => dt_isIn hJ hp ha hlo hhi ?_)))
  have := H fn ic il ix a8 a9 a10 a11 a12 a13 I FX hJ
  cases e : M q with
  | none => rw [e] at this; exact br_t rfl this
  | some v => rw [e] at this; exact br_f (show ¬ (1 : Int32) = 0 by decide) this
theorem dt_get {post : Int32 → St1 → Prop} {en fn ic il ix ga ge sd : Int32} {a1 a2 a3 a4 a5 a6 a7 a8 a9 a10 a11 a12 a13 a14 a15 a16 a17 a18 a19 a20 a21 : Nat → Int32} {M : Nat → Option Int32} {C : Nat → List dt_Nt} {I : List dt_Nt} {B : Nat → Nat → Option Int32} {FX : Nat → Option Int32} {lo hi : Nat → Nat} {q : Nat} (hJ : dt_J M C I B FX lo hi fn ic il ix a1 a2 a3 a4 a5 a6 a7 a8 a9 a10 a11 a12 a13) (hq : q < 4096)
    (H : ∀ (fn ic il ix : Int32) (a8 a9 a10 a11 a12 a13 : Nat → Int32) (I : List dt_Nt) (FX : Nat → Option Int32), dt_J M C I B FX lo hi fn ic il ix a1 a2 a3 a4 a5 a6 a7 a8 a9 a10 a11 a12 a13 → post ((M q).getD 0) (en, fn, ic, il, ix, ga, ge, sd, a1, a2, a3, a4, a5, a6, a7, a8, a9, a10, a11, a12, a13, a14, a15, a16, a17, a18, a19, a20, a21)) : wpX_get post (en, fn, ic, il, ix, ga, ge, sd, a1, a2, a3, a4, a5, a6, a7, a8, a9, a10, a11, a12, a13, a14, a15, a16, a17, a18, a19, a20, a21) (nI q) := by
  unfold wpX_get
  dsimp only
  refine dt_key hq (br_f (by decide) (dt_pf hJ hq (fun fn ic il ix a8 a9 a10 a11 a12 a13 I FX p hJ hp ha hlo hhi hix => dt_isIn hJ hp ha hlo hhi ?_)))
  have := H fn ic il ix a8 a9 a10 a11 a12 a13 I FX hJ
  cases e : M q with
  | none => rw [e] at this; exact br_t rfl this
  | some v => rw [e] at this; exact br_f (show ¬ (1 : Int32) = 0 by decide) (dt_valueIn hJ hp ha hlo hhi e this)
theorem dt_has_no {post : Int32 → St1 → Prop} {en fn ic il ix ga ge sd : Int32} {a1 a2 a3 a4 a5 a6 a7 a8 a9 a10 a11 a12 a13 a14 a15 a16 a17 a18 a19 a20 a21 : Nat → Int32} {x : Int32} (h : ¬ (0 ≤ x ∧ x ≤ 4095)) (H : post 0 (en, fn, ic, il, ix, ga, ge, sd, a1, a2, a3, a4, a5, a6, a7, a8, a9, a10, a11, a12, a13, a14, a15, a16, a17, a18, a19, a20, a21)) : wpX_has post (en, fn, ic, il, ix, ga, ge, sd, a1, a2, a3, a4, a5, a6, a7, a8, a9, a10, a11, a12, a13, a14, a15, a16, a17, a18, a19, a20, a21) x := by
  unfold wpX_has
  dsimp only
  exact dt_nokey h (br_t rfl H)
theorem dt_get_no {post : Int32 → St1 → Prop} {en fn ic il ix ga ge sd : Int32} {a1 a2 a3 a4 a5 a6 a7 a8 a9 a10 a11 a12 a13 a14 a15 a16 a17 a18 a19 a20 a21 : Nat → Int32} {x : Int32} (h : ¬ (0 ≤ x ∧ x ≤ 4095)) (H : post 0 (en, fn, ic, il, ix, ga, ge, sd, a1, a2, a3, a4, a5, a6, a7, a8, a9, a10, a11, a12, a13, a14, a15, a16, a17, a18, a19, a20, a21)) : wpX_get post (en, fn, ic, il, ix, ga, ge, sd, a1, a2, a3, a4, a5, a6, a7, a8, a9, a10, a11, a12, a13, a14, a15, a16, a17, a18, a19, a20, a21) x := by
  unfold wpX_get
  dsimp only
  exact dt_nokey h (br_t rfl H)
end
section
/-! state -/
def dt_sl2 (M : Nat → Option Int32) : Nat → Int32 → Int32 → Int32
  | 0, s, _ => s
  | f + 1, s, k => if k < 0 then s else dt_sl2 M f ((s * 31 + k) * 31 + (M k.toNatClampNeg).getD 0) (dt_nx M (k.toNatClampNeg + 1))
def dt_st (M : Nat → Option Int32) (q : Nat) : Int32 :=
  dt_sl2 M 61 (nI (dt_c M 4096 - dt_c M 0)) (dt_nx M 0) * 31 + dt_pv M (q + 1) + nI (dt_c M (q + 1) - dt_c M 0)
theorem dt_st61 {post : Int32 → St1 → Prop} {en fn ic il ix ga ge sd : Int32} {a1 a2 a3 a4 a5 a6 a7 a8 a9 a10 a11 a12 a13 a14 a15 a16 a17 a18 a19 a20 a21 : Nat → Int32} {M : Nat → Option Int32} {C : Nat → List dt_Nt} {I : List dt_Nt} {B : Nat → Nat → Option Int32} {FX : Nat → Option Int32} {lo hi : Nat → Nat} {q : Nat} {s : Int32} (hJ : dt_J M C I B FX lo hi fn ic il ix a1 a2 a3 a4 a5 a6 a7 a8 a9 a10 a11 a12 a13) (hq : q < 4096)
    (H : ∀ (fn ic il ix ga ge : Int32) (a8 a9 a10 a11 a12 a13 a14 a15 a16 : Nat → Int32) (I : List dt_Nt) (FX : Nat → Option Int32), dt_J M C I B FX lo hi fn ic il ix a1 a2 a3 a4 a5 a6 a7 a8 a9 a10 a11 a12 a13 → post (s * 31 + dt_pv M (q + 1) + nI (dt_c M (q + 1) - dt_c M 0)) (en, fn, ic, il, ix, ga, ge, sd, a1, a2, a3, a4, a5, a6, a7, a8, a9, a10, a11, a12, a13, a14, a15, a16, a17, a18, a19, a20, a21)) : wL_state_61 post (nI q) s en fn ic il ix ga ge sd a1 a2 a3 a4 a5 a6 a7 a8 a9 a10 a11 a12 a13 a14 a15 a16 a17 a18 a19 a20 a21 := by
  unfold wL_state_61
  refine dt_prev hJ hq (fun fn ic il ix ga ge a8 a9 a10 a11 a12 a13 a14 a15 a16 I FX hJ => ?_)
  exact dt_count (low := 0) hJ (by omega) hq (fun fn ic il ix ga ge a8 a9 a10 a11 a12 a13 a14 a15 a16 I FX hJ => H fn ic il ix ga ge a8 a9 a10 a11 a12 a13 a14 a15 a16 I FX hJ)
theorem dt_st18 {post : Int32 → St1 → Prop} {en sd : Int32} {a1 a2 a3 a4 a5 a6 a7 a17 a18 a19 a20 a21 : Nat → Int32} {M : Nat → Option Int32} {C : Nat → List dt_Nt} {B : Nat → Nat → Option Int32} {lo hi : Nat → Nat} {q : Nat} (hq : q < 4096)
    (H : ∀ (fn ic il ix ga ge : Int32) (a8 a9 a10 a11 a12 a13 a14 a15 a16 : Nat → Int32) (I : List dt_Nt) (FX : Nat → Option Int32), dt_J M C I B FX lo hi fn ic il ix a1 a2 a3 a4 a5 a6 a7 a8 a9 a10 a11 a12 a13 → post (dt_st M q) (en, fn, ic, il, ix, ga, ge, sd, a1, a2, a3, a4, a5, a6, a7, a8, a9, a10, a11, a12, a13, a14, a15, a16, a17, a18, a19, a20, a21)) :
    ∀ (f st n : Nat) (s k : Int32) (fn ic il ix ga ge : Int32) (a8 a9 a10 a11 a12 a13 a14 a15 a16 : Nat → Int32) (I : List dt_Nt) (FX : Nat → Option Int32), f + st = 61 → f < n → (k = -1 ∨ ∃ j, j < 4096 ∧ k = nI j) → dt_J M C I B FX lo hi fn ic il ix a1 a2 a3 a4 a5 a6 a7 a8 a9 a10 a11 a12 a13 → dt_sl2 M f s k = dt_sl2 M 61 (nI (dt_c M 4096 - dt_c M 0)) (dt_nx M 0) → wL_state_18 post (nI q) n s k (nI st) en fn ic il ix ga ge sd a1 a2 a3 a4 a5 a6 a7 a8 a9 a10 a11 a12 a13 a14 a15 a16 a17 a18 a19 a20 a21 := by
  intro f
  induction f with
  | zero =>
    intro st n s k fn ic il ix ga ge a8 a9 a10 a11 a12 a13 a14 a15 a16 I FX h1 h2 hk hJ hs
    obtain ⟨n, rfl⟩ : ∃ m, n = m + 1 := ⟨n - 1, by omega⟩
    refine pk_le 61 st (fun _ => dt_st61 hJ hq (fun fn ic il ix ga ge a8 a9 a10 a11 a12 a13 a14 a15 a16 I FX hJ => ?_)) (fun z => absurd z (by omega))
    have hs : s = dt_sl2 M 61 (nI (dt_c M 4096 - dt_c M 0)) (dt_nx M 0) := hs
    rw [hs]
    exact H fn ic il ix ga ge a8 a9 a10 a11 a12 a13 a14 a15 a16 I FX hJ
  | succ f ih =>
    intro st n s k fn ic il ix ga ge a8 a9 a10 a11 a12 a13 a14 a15 a16 I FX h1 h2 hk hJ hs
    obtain ⟨n, rfl⟩ : ∃ m, n = m + 1 := ⟨n - 1, by omega⟩
    refine pk_le 61 st (fun z => absurd z (by omega)) (fun _ => ?_)
    have hd : dt_sl2 M (f + 1) s k = if k < 0 then s else dt_sl2 M f ((s * 31 + k) * 31 + (M k.toNatClampNeg).getD 0) (dt_nx M (k.toNatClampNeg + 1)) := rfl
    rw [hd] at hs
    rcases hk with rfl | ⟨j, hj, rfl⟩
    · rw [if_pos dt_neg] at hs
      refine br_t dt_neg (dt_st61 hJ hq (fun fn ic il ix ga ge a8 a9 a10 a11 a12 a13 a14 a15 a16 I FX hJ => ?_))
      rw [hs]
      exact H fn ic il ix ga ge a8 a9 a10 a11 a12 a13 a14 a15 a16 I FX hJ
    · rw [if_neg (nI_pos (by omega)), nI_clamp (by omega)] at hs
      refine br_f (nI_pos (by omega)) (nm_e (dt_get hJ hj (fun fn ic il ix a8 a9 a10 a11 a12 a13 I FX hJ => nm_e ?_)))
      rw [nI_1 j]
      refine dt_next hJ (by omega) (fun fn ic il ix ga ge a8 a9 a10 a11 a12 a13 a14 a15 a16 I FX hJ => nm_r (nI_1 st) ?_)
      refine ih (st + 1) n _ _ fn ic il ix ga ge a8 a9 a10 a11 a12 a13 a14 a15 a16 I FX (by omega) (by omega) ?_ hJ hs
      rcases dt_nx_c (M := M) (k := j + 1) (by omega) with z | ⟨i, _, i2, i3⟩
      · exact Or.inl z
      · exact Or.inr ⟨i, i2, i3⟩
theorem dt_state {post : Int32 → St1 → Prop} {en fn ic il ix ga ge sd : Int32} {a1 a2 a3 a4 a5 a6 a7 a8 a9 a10 a11 a12 a13 a14 a15 a16 a17 a18 a19 a20 a21 : Nat → Int32} {M : Nat → Option Int32} {C : Nat → List dt_Nt} {I : List dt_Nt} {B : Nat → Nat → Option Int32} {FX : Nat → Option Int32} {lo hi : Nat → Nat} {q : Nat} (hJ : dt_J M C I B FX lo hi fn ic il ix a1 a2 a3 a4 a5 a6 a7 a8 a9 a10 a11 a12 a13) (hq : q < 4096)
    (H : ∀ (fn ic il ix ga ge : Int32) (a8 a9 a10 a11 a12 a13 a14 a15 a16 : Nat → Int32) (I : List dt_Nt) (FX : Nat → Option Int32), dt_J M C I B FX lo hi fn ic il ix a1 a2 a3 a4 a5 a6 a7 a8 a9 a10 a11 a12 a13 → post (dt_st M q) (en, fn, ic, il, ix, ga, ge, sd, a1, a2, a3, a4, a5, a6, a7, a8, a9, a10, a11, a12, a13, a14, a15, a16, a17, a18, a19, a20, a21)) : wpL_state post (en, fn, ic, il, ix, ga, ge, sd, a1, a2, a3, a4, a5, a6, a7, a8, a9, a10, a11, a12, a13, a14, a15, a16, a17, a18, a19, a20, a21) (nI q) := by
  unfold wpL_state
  dsimp only
  refine dt_count (low := 0) (h := 4095) hJ (by omega) (by omega) (fun fn ic il ix ga ge a8 a9 a10 a11 a12 a13 a14 a15 a16 I FX hJ => ?_)
  refine dt_next (q := 0) hJ (by omega) (fun fn ic il ix ga ge a8 a9 a10 a11 a12 a13 a14 a15 a16 I FX hJ => ⟨62, ?_⟩)
  refine dt_st18 hq H 61 0 62 _ _ fn ic il ix ga ge a8 a9 a10 a11 a12 a13 a14 a15 a16 I FX (by omega) (by omega) ?_ hJ rfl
  rcases dt_nx_c (M := M) (k := 0) (by omega) with z | ⟨i, _, i2, i3⟩
  · exact Or.inl z
  · exact Or.inr ⟨i, i2, i3⟩
end
section
/-! pages of six: ranges -/
def dt_np (tt : Nat) : Nat := max 1 ((tt + 5) / 6)
def dt_lo (K : Nat → Int32) (p : Nat) : Nat := if p = 0 then 0 else (K (6 * p)).toNatClampNeg
def dt_hi (K : Nat → Int32) (tt p : Nat) : Nat := if 6 * p + 6 < tt then (K (6 * p + 6)).toNatClampNeg else 4096
theorem dt_kap {tt : Nat} {K V : Nat → Int32} {F : Nat → Option Int32} {i : Nat} (h : dt_Rep tt K V F) (hi : i < tt) : ∃ v, (K i).toNatClampNeg < 4096 ∧ F (K i).toNatClampNeg = some v ∧ dt_c F (K i).toNatClampNeg = i ∧ K i = nI (K i).toNatClampNeg := by
  obtain ⟨k, v, h1, h2, h3, h4, h5⟩ := dt_Rep_nth h hi
  have e : (K i).toNatClampNeg = k := by rw [h4]; exact nI_clamp (by omega)
  rw [e]
  exact ⟨v, h1, h2, h3, h4⟩
theorem dt_lo_I {K : Nat → Int32} {tt : Nat} {V : Nat → Int32} {F : Nat → Option Int32} {p : Nat} (h : dt_Rep tt K V F) (hp : p = 0 ∨ 6 * p < tt) : dt_lo K p < 4096 ∧ (p ≠ 0 → K (6 * p) = nI (dt_lo K p)) ∧ ∀ k v, F k = some v → (dt_lo K p ≤ k ↔ 6 * p ≤ dt_c F k) := by
  by_cases z : p = 0
  · subst z
    refine ⟨by show 0 < 4096; omega, fun z => absurd rfl z, fun k v _ => ⟨fun _ => by omega, fun _ => ?_⟩⟩
    show 0 ≤ k
    omega
  · obtain ⟨w, h1, h2, h3, h4⟩ := dt_kap (i := 6 * p) h (by omega)
    have e : dt_lo K p = (K (6 * p)).toNatClampNeg := if_neg z
    rw [e]
    refine ⟨h1, fun _ => h4, fun k v hk => ?_⟩
    rw [dt_c_ge hk h2, h3]
theorem dt_hi_I {K : Nat → Int32} {tt : Nat} {V : Nat → Int32} {F : Nat → Option Int32} {p : Nat} (h : dt_Rep tt K V F) : dt_hi K tt p ≤ 4096 ∧ (6 * p + 6 < tt → K (6 * p + 6) = nI (dt_hi K tt p)) ∧ ∀ k v, F k = some v → (k < dt_hi K tt p ↔ dt_c F k < 6 * p + 6) := by
  by_cases z : 6 * p + 6 < tt
  · obtain ⟨w, h1, h2, h3, h4⟩ := dt_kap (i := 6 * p + 6) h z
    have e : dt_hi K tt p = (K (6 * p + 6)).toNatClampNeg := if_pos z
    rw [e]
    refine ⟨by omega, fun _ => h4, fun k v hk => ?_⟩
    rw [dt_c_ltI hk h2, h3]
  · have e : dt_hi K tt p = 4096 := if_neg z
    rw [e]
    refine ⟨by omega, fun y => absurd y z, fun k v hk => ?_⟩
    have h1 := h.2 k v hk
    have h2 := dt_Rep_pos h hk
    constructor
    · intro _; omega
    · intro _; exact h1.1
theorem dt_lohi {K : Nat → Int32} {tt : Nat} {V : Nat → Int32} {F : Nat → Option Int32} {p : Nat} (h : dt_Rep tt K V F) (hp : p = 0 ∨ 6 * p < tt) : dt_lo K p < dt_hi K tt p := by
  obtain ⟨l1, l2, l3⟩ := dt_lo_I h hp
  by_cases z : 6 * p + 6 < tt
  · obtain ⟨w, h1, h2, h3, h4⟩ := dt_kap (i := 6 * p + 6) h z
    have e : dt_hi K tt p = (K (6 * p + 6)).toNatClampNeg := if_pos z
    rw [e]
    by_cases y : p = 0
    · subst y
      have hl : dt_lo K 0 = 0 := if_pos rfl
      rw [hl]
      rcases Nat.eq_zero_or_pos (K (6 * 0 + 6)).toNatClampNeg with x | x
      · rw [x, dt_c_0] at h3; omega
      · exact x
    · obtain ⟨w', g1, g2, g3, g4⟩ := dt_kap (i := 6 * p) h (by omega)
      have hl : dt_lo K p = (K (6 * p)).toNatClampNeg := if_neg y
      rw [hl, dt_c_ltI g2 h2, g3, h3]
      omega
  · have e : dt_hi K tt p = 4096 := if_neg z
    rw [e]; exact l1
theorem dt_hilo {K : Nat → Int32} {tt : Nat} {V : Nat → Int32} {F : Nat → Option Int32} {p q : Nat} (h : dt_Rep tt K V F) (hpq : p < q) (hq : 6 * q < tt) : dt_hi K tt p ≤ dt_lo K q := by
  have e : dt_hi K tt p = (K (6 * p + 6)).toNatClampNeg := if_pos (by omega)
  have e2 : dt_lo K q = (K (6 * q)).toNatClampNeg := if_neg (by omega)
  obtain ⟨w, h1, h2, h3, h4⟩ := dt_kap (i := 6 * p + 6) h (by omega)
  obtain ⟨w', g1, g2, g3, g4⟩ := dt_kap (i := 6 * q) h hq
  rw [e, e2, dt_c_ge g2 h2, h3, g3]
  omega
/-- the index that lists pages 0 .. m-1 -/
def dt_FXr (lo : Nat → Nat) : Nat → Nat → Option Int32
  | 0 => fun _ => none
  | m + 1 => dt_set (dt_FXr lo m) (lo m) (some (nI m))
theorem dt_FXr_k {lo : Nat → Nat} {k : Nat} {x : Int32} : ∀ {m : Nat}, dt_FXr lo m k = some x → ∃ r, r < m ∧ lo r = k ∧ x = nI r := by
  intro m
  induction m with
  | zero => intro h; exact absurd h (by simp [dt_FXr])
  | succ m ih =>
    intro h
    have h : dt_set (dt_FXr lo m) (lo m) (some (nI m)) k = some x := h
    by_cases e : k = lo m
    · rw [e, dt_set_s] at h
      exact ⟨m, by omega, e.symm, (Option.some.inj h).symm⟩
    · rw [dt_set_n e] at h
      obtain ⟨r, h1, h2, h3⟩ := ih h
      exact ⟨r, by omega, h2, h3⟩
theorem dt_FXr_in {lo : Nat → Nat} {np r : Nat} (hm : ∀ p q, p < q → q < np → lo p < lo q) : ∀ {m : Nat}, m ≤ np → r < m → dt_FXr lo m (lo r) = some (nI r) := by
  intro m
  induction m with
  | zero => intro _ h; omega
  | succ m ih =>
    intro h1 h2
    show dt_set (dt_FXr lo m) (lo m) (some (nI m)) (lo r) = some (nI r)
    by_cases e : r = m
    · rw [e, dt_set_s]
    · have := hm r m (by omega) (by omega)
      rw [dt_set_n (by omega)]
      exact ih (by omega) (by omega)
theorem dt_FXr_R {lo : Nat → Nat} {np : Nat} {K V : Nat → Int32} (hm : ∀ p q, p < q → q < np → lo p < lo q) (h4 : ∀ p, p < np → lo p < 4096) (hK : ∀ p, p < np → K p = nI (lo p)) (hV : ∀ p, p < np → V p = nI p) : ∀ m, m ≤ np → dt_Rep m K V (dt_FXr lo m) := by
  intro m
  induction m with
  | zero => intro _; exact dt_Rep_0 K V
  | succ m ih =>
    intro h1
    have ih := ih (by omega)
    have hno : ∀ k, lo m ≤ k → dt_FXr lo m k = none := by
      intro k hk
      cases e : dt_FXr lo m k with
      | none => rfl
      | some x =>
        obtain ⟨r, r1, r2, r3⟩ := dt_FXr_k e
        have := hm r m r1 (by omega)
        omega
    have hc : dt_c (dt_FXr lo m) (lo m) = m := by
      have := dt_c_const (F := dt_FXr lo m) (a := lo m) (b := 4096) (by have := h4 m (by omega); omega) (fun k hk _ => hno k hk)
      rw [← this, ← ih.1]
    refine dt_Rep_new ih (h4 m (by omega)) (hno _ (by omega)) (fun j _ => ⟨rfl, rfl⟩) ?_ (fun j h1 h2 => ?_)
    · rw [hc]; exact ⟨hK m (by omega), hV m (by omega)⟩
    · rw [hc] at h1; omega
theorem dt_cn_low {n : Nat} : ∀ {m : Nat}, dt_cn (fun r => decide (r < n)) m = min m n := by
  intro m
  induction m with
  | zero => show 0 = _; omega
  | succ m ih =>
    rw [dt_cn_s, ih]
    by_cases e : m < n
    · rw [if_pos (by simp [e])]; omega
    · rw [if_neg (by simp [e])]; omega
/-- all notes free -/
theorem dt_Fr_all {a11 : Nat → Int32} (h : ∀ j, j < 160 → a11 j = if j = 159 then -1 else nI (j + 1)) : ∀ j, j ≤ 160 → dt_Fr a11 (if j = 0 then -1 else nI (160 - j)) (List.range' (160 - j) j) := by
  intro j
  induction j with
  | zero => intro _; rfl
  | succ j ih =>
    intro hj
    have ih := ih (by omega)
    rw [if_neg (by omega), List.range'_succ]
    refine ⟨rfl, by omega, ?_⟩
    rw [h _ (by omega), show 160 - (j + 1) + 1 = 160 - j by omega]
    by_cases e : j = 0
    · subst e; rw [if_pos (by omega)]; exact ih
    · rw [if_neg (by omega)]; rw [if_neg e] at ih; exact ih
/-! fillPage -/
theorem dt_fill {post : St1 → Prop} {en fn ic il ix ga ge sd : Int32} {a1 a2 a3 a4 a5 a6 a7 a8 a9 a10 a11 a12 a13 a14 a15 a16 a17 a18 a19 a20 a21 : Nat → Int32} {tt p : Nat} (ht : tt ≤ 60) (hp : p = 0 ∨ 6 * p < tt)
    (H : ∀ a4' a5' a6' x7 x12, a4' p = nI (min tt (6 * p + 6) - 6 * p) → (∀ r, r ≠ p → a4' r = a4 r) → (∀ i, i < min tt (6 * p + 6) - 6 * p → a5' (12 * p + i) = a17 (6 * p + i) ∧ a6' (12 * p + i) = a18 (6 * p + i)) → (∀ j, (j < 12 * p ∨ 12 * p + 12 ≤ j) → a5' j = a5 j ∧ a6' j = a6 j) →
      (6 * p + 6 < tt → x7 = a17 (6 * p + 6)) → (tt ≤ 6 * p + 6 → x7 = 4096) → (p = 0 → x12 = 0) → (p ≠ 0 → x12 = a17 (6 * p)) → post (en, fn, ic, il, ix + 1, ga, ge, sd, a1, a2, a3, a4', a5', a6', upd a7 p x7, a8, a9, a10, a11, upd a12 p x12, upd a13 p (nI p), a14, a15, a16, a17, a18, a19, a20, a21)) : wpX_fillPage post (en, fn, ic, il, ix, ga, ge, sd, a1, a2, a3, a4, a5, a6, a7, a8, a9, a10, a11, a12, a13, a14, a15, a16, a17, a18, a19, a20, a21) (nI p) (nI tt) := by
  have hp24 : p < 24 := by omega
  have hv : vp_in (nI p) 24 := vp_in_nI hp24 (by omega)
  have hcl : (nI p).toNatClampNeg = p := nI_clamp (by omega)
  have e6 : (6 : Int32) * nI p = nI (6 * p) := pk_mul 6 p
  have e66 : (6 : Int32) * nI p + 6 = nI (6 * p + 6) := by rw [e6]; exact nI_add (6 * p) 6
  have e12 : ∀ i, 12 * nI p + nI i = nI (12 * p + i) := fun i => by rw [show (12 : Int32) = nI 12 from rfl, pk_mul, nI_add]
  refine ⟨hv, nm_r (e' := upd a4 p 0) (by rw [hcl]) (nm_r (e' := nI (6 * p + 0)) e6 ⟨7, ?_⟩)⟩
  have L : ∀ (j i n : Nat) (b4 b5 b6 : Nat → Int32), i + j = min tt (6 * p + 6) - 6 * p → j < n → b4 p = nI i → (∀ r, r ≠ p → b4 r = a4 r) → (∀ k, k < i → b5 (12 * p + k) = a17 (6 * p + k) ∧ b6 (12 * p + k) = a18 (6 * p + k)) → (∀ k, (k < 12 * p ∨ 12 * p + 12 ≤ k) → b5 k = a5 k ∧ b6 k = a6 k) → wX_fillPage_12 post (nI p) (nI tt) en fn ic il ix ga ge sd n (nI (6 * p + i)) a1 a2 a3 b4 b5 b6 a7 a8 a9 a10 a11 a12 a13 a14 a15 a16 a17 a18 a19 a20 a21 := by
    intro j
    induction j with
    | zero =>
      intro i n b4 b5 b6 h1 h2 h3 h4 h5 h6
      obtain ⟨n, rfl⟩ : ∃ m, n = m + 1 := ⟨n - 1, by omega⟩
      have e : i = min tt (6 * p + 6) - 6 * p := by omega
      have last : ∀ x7, (6 * p + 6 < tt → x7 = a17 (6 * p + 6)) → (tt ≤ 6 * p + 6 → x7 = 4096) → wX_fillPage_122 post (nI p) x7 (nI p) en fn ic il ix ga ge sd a1 a2 a3 b4 b5 b6 a7 a8 a9 a10 a11 a12 a13 a14 a15 a16 a17 a18 a19 a20 a21 := by
        intro x7 g1 g2
        have fin : ∀ x12, (p = 0 → x12 = 0) → (p ≠ 0 → x12 = a17 (6 * p)) → wX_fillPage_145 post (nI p) x12 (nI p) en fn ic il ix ga ge sd a1 a2 a3 b4 b5 b6 (upd a7 p x7) a8 a9 a10 a11 a12 a13 a14 a15 a16 a17 a18 a19 a20 a21 := by
          intro x12 g3 g4
          unfold wX_fillPage_145
          rw [hcl]
          exact ⟨hv, nm_e ⟨hv, nm_e (nm_e (H b4 b5 b6 x7 x12 (by rw [h3, e]) h4 (fun k hk => h5 k (by omega)) h6 g1 g2 g3 g4))⟩⟩
        unfold wX_fillPage_122
        rw [hcl, e6]
        refine ⟨hv, nm_e (pk_eq p 0 (fun z => fin 0 (fun _ => rfl) (fun y => absurd z y)) (fun z => ⟨vp_in_nI (by omega) (by omega), ?_⟩))⟩
        rw [nI_clamp (show 6 * p < 2 ^ 31 by omega)]
        exact fin _ (fun y => absurd y z) (fun _ => rfl)
      have W88 : wX_fillPage_88 post (nI p) (nI tt) en fn ic il ix ga ge sd a1 a2 a3 b4 b5 b6 a7 a8 a9 a10 a11 a12 a13 a14 a15 a16 a17 a18 a19 a20 a21 := by
        unfold wX_fillPage_88
        rw [e66]
        refine pk_le tt (6 * p + 6) (fun z => last 4096 (fun y => absurd y (by omega)) (fun _ => rfl)) (fun z => ⟨vp_in_nI (by omega) (by omega), ?_⟩)
        rw [nI_clamp (show 6 * p + 6 < 2 ^ 31 by omega)]
        exact last _ (fun _ => rfl) (fun y => absurd y (by omega))
      refine pk_le (6 * p + 6) (6 * p + i) (fun _ => W88) (fun z => pk_le tt (6 * p + i) (fun _ => W88) (fun y => ?_)) (hx := e66)
      omega
    | succ j ih =>
      intro i n b4 b5 b6 h1 h2 h3 h4 h5 h6
      obtain ⟨n, rfl⟩ : ∃ m, n = m + 1 := ⟨n - 1, by omega⟩
      refine pk_le (6 * p + 6) (6 * p + i) (fun z => absurd z (by omega)) (fun z => pk_le tt (6 * p + i) (fun y => absurd y (by omega)) (fun y => ?_)) (hx := e66)
      have hv60 : vp_in (nI (6 * p + i)) 60 := vp_in_nI (by omega) (by omega)
      have hv288 : vp_in (nI (12 * p + i)) 288 := vp_in_nI (by omega) (by omega)
      rw [hcl, h3, e12, nI_clamp (show 12 * p + i < 2 ^ 31 by omega), nI_clamp (show 6 * p + i < 2 ^ 31 by omega), nI_1 i]
      refine ⟨hv, hv60, hv288, nm_e ⟨hv, hv60, hv288, nm_e ⟨hv, hv, nm_e (nm_r (nI_1 (6 * p + i)) (ih (i + 1) n _ _ _ (by omega) (by omega) pk_us (fun r hr => ?_) (fun k hk => ?_) (fun k hk => ?_)))⟩⟩⟩
      · rw [pk_un hr]; exact h4 r hr
      · by_cases x : k = i
        · subst x; exact ⟨pk_us, pk_us⟩
        · rw [pk_un (by omega), pk_un (by omega)]; exact h5 k (by omega)
      · rw [pk_un (by omega), pk_un (by omega)]; exact h6 k hk
  exact L (min tt (6 * p + 6) - 6 * p) 0 7 _ _ _ (by omega) (by omega) pk_us (fun r hr => pk_un hr) (fun k hk => absurd hk (by omega)) (fun k _ => ⟨rfl, rfl⟩)
end
section
/-! layOut -/
def dt_Lp (tt : Nat) (K V : Nat → Int32) (p : Nat) (ix : Int32) (a1 a2 a3 a4 a5 a6 a7 a12 a13 : Nat → Int32) : Prop :=
  ix = nI (min p (dt_np tt)) ∧ ∀ r, r < p → a2 r = -1 ∧ a3 r = 0 ∧ (dt_np tt ≤ r → a1 r = 0) ∧ (r < dt_np tt → a1 r ≠ 0 ∧ a4 r = nI (min tt (6 * r + 6) - 6 * r) ∧ (∀ i, i < min tt (6 * r + 6) - 6 * r → a5 (12 * r + i) = K (6 * r + i) ∧ a6 (12 * r + i) = V (6 * r + i)) ∧ a7 r = nI (dt_hi K tt r) ∧ a12 r = nI (dt_lo K r) ∧ a13 r = nI r)
theorem dt_np_I {tt p : Nat} : p < dt_np tt ↔ (p = 0 ∨ 6 * p < tt) := by
  unfold dt_np
  omega
theorem dt_nar0 : vp_nar .boolean 0 = 0 := by decide
theorem dt_nar1 : vp_nar .boolean 1 = 1 := by decide
theorem dt_Lp_no {tt : Nat} {K V : Nat → Int32} {p : Nat} {ix : Int32} {a1 a2 a3 a4 a5 a6 a7 a12 a13 : Nat → Int32} (h : dt_Lp tt K V p ix a1 a2 a3 a4 a5 a6 a7 a12 a13) (hn : dt_np tt ≤ p) : dt_Lp tt K V (p + 1) ix (upd a1 p 0) (upd a2 p (-1)) (upd a3 p 0) a4 a5 a6 a7 a12 a13 := by
  refine ⟨by rw [h.1]; congr 1; omega, fun r hr => ?_⟩
  by_cases e : r = p
  · subst e
    exact ⟨pk_us, pk_us, fun _ => pk_us, fun z => absurd z (by omega)⟩
  · rw [pk_un e, pk_un e, pk_un e]
    exact h.2 r (by omega)
theorem dt_Lp_yes {tt : Nat} {K V : Nat → Int32} {F : Nat → Option Int32} {p : Nat} {ix : Int32} {a1 a2 a3 a4 a5 a6 a7 a12 a13 : Nat → Int32} {b4 b5 b6 : Nat → Int32} {x7 x12 : Int32} (hR : dt_Rep tt K V F) (h : dt_Lp tt K V p ix a1 a2 a3 a4 a5 a6 a7 a12 a13) (hn : p < dt_np tt)
    (h4 : b4 p = nI (min tt (6 * p + 6) - 6 * p)) (h4' : ∀ r, r ≠ p → b4 r = a4 r) (h5 : ∀ i, i < min tt (6 * p + 6) - 6 * p → b5 (12 * p + i) = K (6 * p + i) ∧ b6 (12 * p + i) = V (6 * p + i)) (h5' : ∀ j, (j < 12 * p ∨ 12 * p + 12 ≤ j) → b5 j = a5 j ∧ b6 j = a6 j)
    (h7 : 6 * p + 6 < tt → x7 = K (6 * p + 6)) (h7' : tt ≤ 6 * p + 6 → x7 = 4096) (h12 : p = 0 → x12 = 0) (h12' : p ≠ 0 → x12 = K (6 * p)) :
    dt_Lp tt K V (p + 1) (ix + 1) (upd a1 p 1) (upd a2 p (-1)) (upd a3 p 0) b4 b5 b6 (upd a7 p x7) (upd a12 p x12) (upd a13 p (nI p)) := by
  have hp := dt_np_I.mp hn
  refine ⟨by rw [h.1, nI_1]; congr 1; omega, fun r hr => ?_⟩
  by_cases e : r = p
  · subst e
    refine ⟨pk_us, pk_us, fun z => absurd z (by omega), fun _ => ⟨by rw [pk_us]; decide, h4, h5, ?_, ?_, pk_us⟩⟩
    · rw [pk_us]
      by_cases z : 6 * r + 6 < tt
      · rw [h7 z]; exact (dt_hi_I hR).2.1 z
      · rw [h7' (by omega), show dt_hi K tt r = 4096 from if_neg z]; rfl
    · rw [pk_us]
      by_cases z : r = 0
      · rw [h12 z, show dt_lo K r = 0 from if_pos z]; rfl
      · rw [h12' z]; exact (dt_lo_I hR hp).2.1 z
  · rw [pk_un e, pk_un e, pk_un e, pk_un e, pk_un e, pk_un e, h4' r e]
    obtain ⟨g1, g2, g3, g4⟩ := h.2 r (by omega)
    refine ⟨g1, g2, g3, fun z => ?_⟩
    obtain ⟨k1, k2, k3, k4⟩ := g4 z
    refine ⟨k1, k2, fun i hi => ?_, k4⟩
    have := h5' (12 * r + i) (by omega)
    rw [this.1, this.2]
    exact k3 i hi
/-- the tree that layOut leaves -/
theorem dt_Lp_J {M : Nat → Option Int32} {tt : Nat} {K V : Nat → Int32} {ix : Int32} {a1 a2 a3 a4 a5 a6 a7 a12 a13 : Nat → Int32} {a8 a9 a10 a11 : Nat → Int32} (ht : tt ≤ 60) (hR : dt_Rep tt K V (dt_rs M 0 4096)) (h : dt_Lp tt K V 24 ix a1 a2 a3 a4 a5 a6 a7 a12 a13) (hf : ∀ j, j < 160 → a11 j = if j = 159 then -1 else nI (j + 1)) :
    dt_J M (fun _ => []) [] (fun p => dt_sl (dt_rs M 0 4096) (6 * p) (6 * p + 6)) (dt_FXr (dt_lo K) (dt_np tt)) (dt_lo K) (dt_hi K tt) 0 (-1) 0 ix a1 a2 a3 a4 a5 a6 a7 a8 a9 a10 a11 a12 a13 := by
  have hnp : 1 ≤ dt_np tt ∧ dt_np tt ≤ 10 := by unfold dt_np; omega
  have us : ∀ p, p < 24 → a1 p ≠ 0 → p < dt_np tt := fun p hp ha => by
    rcases Nat.lt_or_ge p (dt_np tt) with z | z
    · exact z
    · exact absurd ((h.2 p hp).2.2.1 z) ha
  have mono : ∀ p q, p < q → q < dt_np tt → dt_lo K p < dt_lo K q := fun p q h1 h2 => by
    have h3 := dt_np_I.mp h2
    have h4 := dt_hilo hR h1 (by omega)
    have h5 := dt_lohi hR (p := p) (dt_np_I.mp (by omega))
    omega
  have l4 : ∀ p, p < dt_np tt → dt_lo K p < 4096 := fun p hp => (dt_lo_I hR (dt_np_I.mp hp)).1
  have hB : ∀ p, p < dt_np tt → dt_sl (dt_rs M 0 4096) (6 * p) (6 * p + 6) = dt_rs M (dt_lo K p) (dt_hi K tt p) := fun p hp => by
    rw [dt_sl_rs (dt_lo_I hR (dt_np_I.mp hp)).2.2 (dt_hi_I hR).2.2]
    exact dt_rs_rs (by omega) (dt_hi_I hR).1
  have hcB : ∀ p, p < dt_np tt → dt_c (dt_sl (dt_rs M 0 4096) (6 * p) (6 * p + 6)) 4096 = min tt (6 * p + 6) - 6 * p := fun p hp => by
    have := dt_np_I.mp hp
    rw [dt_c_sl (by omega), ← hR.1]
    omega
  have hX : dt_Rep (dt_np tt) a12 a13 (dt_FXr (dt_lo K) (dt_np tt)) := dt_FXr_R mono l4 (fun p hp => ((h.2 p (by omega)).2.2.2 hp).2.2.2.2.1) (fun p hp => ((h.2 p (by omega)).2.2.2 hp).2.2.2.2.2) _ (Nat.le_refl _)
  have hXc := hX.1
  refine ⟨⟨List.range' 0 160, fun _ => 25, ⟨?_, List.nodup_range', fun _ _ => rfl⟩, ⟨rfl, List.nodup_nil, fun n hn => absurd hn List.not_mem_nil, rfl, by rw [List.length_nil]; omega⟩, fun p hp => ⟨(h.2 p hp).1, List.nodup_nil, fun n hn => absurd hn List.not_mem_nil, (h.2 p hp).2.1, by rw [List.length_nil]; omega⟩, ?_⟩, by rw [List.length_nil]; omega, ?_, ⟨?_, by rw [← hXc]; exact hX⟩, ⟨?_, ?_⟩, ⟨?_, ?_, fun n hn => absurd hn List.not_mem_nil, List.nodup_nil, fun r => decide (r < dt_np tt), ?_, ?_⟩, ?_⟩
  · have := dt_Fr_all hf 160 (by omega)
    exact this
  · rw [List.length_range', List.length_nil, dt_su_0 (fun p hp => List.length_nil)]
  · intro p hp ha
    have hu := us p hp ha
    obtain ⟨k1, k2, k3, k4⟩ := (h.2 p hp).2.2.2 hu
    have := dt_np_I.mp hu
    refine ⟨by rw [hcB p hu]; exact k2, by rw [hcB p hu]; omega, ?_⟩
    refine dt_Rep_sl hR (by omega) (by rw [hcB p hu]; omega) (fun i hi => ?_) (fun i hi => ?_)
    · rw [hcB p hu] at hi; exact (k3 i hi).1
    · rw [hcB p hu] at hi; exact (k3 i hi).2
  · rw [← hXc, h.1, show min 24 (dt_np tt) = dt_np tt by omega]
  · exact fun p hp ha => ⟨dt_lohi hR (dt_np_I.mp (us p hp ha)), (dt_hi_I hR).1⟩
  · intro p q hp hq ha hb h1 h2
    have up := us p hp ha
    have uq := us q hq hb
    rcases Nat.lt_trichotomy p q with z | z | z
    · have := dt_hilo hR z (by have := dt_np_I.mp uq; omega); omega
    · exact z
    · have := mono q p z up; omega
  · have := dt_FXr_in mono (m := dt_np tt) (r := 0) (Nat.le_refl _) (by omega)
    exact ⟨_, this⟩
  · intro k x e
    obtain ⟨r, r1, r2, r3⟩ := dt_FXr_k e
    exact ⟨r, by omega, r3, ((h.2 r (by omega)).2.2.2 r1).1, r2⟩
  · rw [dt_cn_low, ← hXc, List.length_nil]; omega
  · intro p hp e
    have e : p < dt_np tt := by simpa using e
    exact ⟨((h.2 p hp).2.2.2 e).1, Or.inl ⟨_, dt_FXr_in mono (Nat.le_refl _) e⟩⟩
  · intro p hp
    refine ⟨fun _ => rfl, fun ha => ?_⟩
    have hu := us p hp ha
    have := dt_np_I.mp hu
    obtain ⟨k1, k2, k3, k4, k5⟩ := (h.2 p hp).2.2.2 hu
    refine ⟨hB p hu, Or.inl ⟨fun n hn => absurd hn List.not_mem_nil, by rw [hcB p hu]; omega, k4, ?_⟩⟩
    by_cases z : 6 * p + 6 < tt
    · right
      have e : dt_hi K tt p = dt_lo K (p + 1) := by
        rw [show dt_hi K tt p = (K (6 * p + 6)).toNatClampNeg from if_pos z, show dt_lo K (p + 1) = (K (6 * (p + 1))).toNatClampNeg from if_neg (by omega), show 6 * (p + 1) = 6 * p + 6 by omega]
      rw [e]
      exact Or.inl ⟨_, dt_FXr_in mono (Nat.le_refl _) (dt_np_I.mpr (by omega))⟩
    · exact Or.inl (if_neg z)
theorem dt_lay {post : St1 → Prop} {en fn ic il ix ga ge sd : Int32} {a1 a2 a3 a4 a5 a6 a7 a8 a9 a10 a11 a12 a13 a14 a15 a16 a17 a18 a19 a20 a21 : Nat → Int32} {M : Nat → Option Int32} {tt : Nat} (ht : tt ≤ 60) (hR : dt_Rep tt a17 a18 (dt_rs M 0 4096))
    (H : ∀ (fn ic il ix ga ge : Int32) (a1 a2 a3 a4 a5 a6 a7 a8 a9 a10 a11 a12 a13 a14 a15 a16 a17 a18 : Nat → Int32) (C : Nat → List dt_Nt) (I : List dt_Nt) (B : Nat → Nat → Option Int32) (FX : Nat → Option Int32) (lo hi : Nat → Nat), dt_J M C I B FX lo hi fn ic il ix a1 a2 a3 a4 a5 a6 a7 a8 a9 a10 a11 a12 a13 → (∀ p, p < 24 → (C p).length ≤ 4) → post (en, fn, ic, il, ix, ga, ge, sd, a1, a2, a3, a4, a5, a6, a7, a8, a9, a10, a11, a12, a13, a14, a15, a16, a17, a18, a19, a20, a21)) : wpX_layOut post (en, fn, ic, il, ix, ga, ge, sd, a1, a2, a3, a4, a5, a6, a7, a8, a9, a10, a11, a12, a13, a14, a15, a16, a17, a18, a19, a20, a21) (nI tt) := by
  have P : ∀ (a11 : Nat → Int32), (∀ j, j < 160 → a11 j = if j = 159 then -1 else nI (j + 1)) → ∀ (j p n : Nat) (ix : Int32) (a1 a2 a3 a4 a5 a6 a7 a12 a13 : Nat → Int32), p + j = 24 → j < n → dt_Lp tt a17 a18 p ix a1 a2 a3 a4 a5 a6 a7 a12 a13 → wX_layOut_57 post (nI tt) n (nI p) en 0 (-1) 0 ix ga ge sd a1 a2 a3 a4 a5 a6 a7 a8 a9 a10 a11 a12 a13 a14 a15 a16 a17 a18 a19 a20 a21 := by
    intro a11 hf j
    induction j with
    | zero =>
      intro p n ix a1 a2 a3 a4 a5 a6 a7 a12 a13 h1 h2 h3
      obtain ⟨n, rfl⟩ : ∃ m, n = m + 1 := ⟨n - 1, by omega⟩
      have e : p = 24 := by omega
      subst e
      exact pk_le 24 24 (fun _ => H 0 (-1) 0 ix ga ge a1 a2 a3 a4 a5 a6 a7 a8 a9 a10 a11 a12 a13 a14 a15 a16 a17 a18 _ _ _ _ _ _ (dt_Lp_J ht hR h3 hf) (fun p _ => by rw [List.length_nil]; omega)) (fun z => absurd z (by omega))
    | succ j ih =>
      intro p n ix a1 a2 a3 a4 a5 a6 a7 a12 a13 h1 h2 h3
      obtain ⟨n, rfl⟩ : ∃ m, n = m + 1 := ⟨n - 1, by omega⟩
      have hv : vp_in (nI p) 24 := vp_in_nI (by omega) (by omega)
      have hcl : (nI p).toNatClampNeg = p := nI_clamp (by omega)
      have yes : p < dt_np tt → wX_layOut_80 post (wX_layOut_57 post (nI tt) n) (nI tt) (nI p) (nI p) en 0 (-1) 0 ix ga ge sd a1 a2 a3 a4 a5 a6 a7 a8 a9 a10 a11 a12 a13 a14 a15 a16 a17 a18 a19 a20 a21 := by
        intro hu
        unfold wX_layOut_80
        unfold wX_layOut_85
        rw [hcl, dt_nar1]
        refine ⟨hv, nm_e ⟨hv, nm_e ⟨hv, nm_e ⟨hv, br_f (by rw [pk_us]; decide) ?_⟩⟩⟩⟩
        refine dt_fill ht (dt_np_I.mp hu) (fun b4 b5 b6 x7 x12 g1 g2 g3 g4 g5 g6 g7 g8 => nm_r (nI_1 p) ?_)
        exact ih (p + 1) n _ _ _ _ _ _ _ _ _ _ (by omega) (by omega) (dt_Lp_yes hR h3 hu g1 g2 g3 g4 g5 g6 g7 g8)
      refine pk_le 24 p (fun z => absurd z (by omega)) (fun _ => pk_eq p 0 (fun z => yes (dt_np_I.mpr (Or.inl z))) (fun z => pk_le tt (6 * p) (fun y => ?_) (fun y => yes (dt_np_I.mpr (Or.inr y))) (hy := pk_mul 6 p)))
      unfold wX_layOut_85
      rw [hcl, dt_nar0]
      refine ⟨hv, nm_e ⟨hv, nm_e ⟨hv, nm_e ⟨hv, br_t pk_us (nm_r (nI_1 p) ?_)⟩⟩⟩⟩
      refine ih (p + 1) n _ _ _ _ _ _ _ _ _ _ (by omega) (by omega) (dt_Lp_no h3 ?_)
      rcases Nat.lt_or_ge p (dt_np tt) with w | w
      · have := dt_np_I.mp w; omega
      · exact w
  refine pk_loop (σ := Nat → Int32) (fun n i s => wX_layOut_2 post (nI tt) en fn ic il ix ga ge sd n (nI i) a1 a2 a3 a4 a5 a6 a7 a8 a9 a10 s a12 a13 a14 a15 a16 a17 a18 a19 a20 a21) (fun i s => ∀ j, j < i → s j = if j = 159 then -1 else nI (j + 1)) 160 0 a11 (by omega) (fun j hj => absurd hj (by omega)) ?_ ?_
  · intro n s hs
    exact pk_le 160 160 (fun _ => ⟨25, P s hs 24 0 25 _ _ _ _ _ _ _ _ _ _ (by omega) (by omega) ⟨by rw [Nat.zero_min]; rfl, fun r hr => absurd hr (by omega)⟩⟩) (fun z => absurd z (by omega))
  · intro n i s hi hs hw
    have hv : vp_in (nI i) 160 := vp_in_nI hi (by omega)
    refine pk_le 160 i (fun z => absurd z (by omega)) (fun _ => ?_)
    rw [nI_clamp (show i < 2 ^ 31 by omega)]
    refine pk_eq i 159 (fun z => ⟨hv, nm_e (nm_r (nI_1 i) (hw _ (fun j hj => ?_)))⟩) (fun z => ⟨hv, nm_r (e' := upd s i (nI (i + 1))) (by rw [nI_1]) (nm_r (nI_1 i) (hw _ (fun j hj => ?_)))⟩)
    · by_cases e : j = i
      · subst e; rw [pk_us, if_pos z]
      · rw [pk_un e]; exact hs j (by omega)
    · by_cases e : j = i
      · subst e; rw [pk_us, if_neg z]
      · rw [pk_un e]; exact hs j (by omega)
end
section
/-! makeAnew -/
theorem dt_nextpg {M : Nat → Option Int32} {C : Nat → List dt_Nt} {I : List dt_Nt} {B : Nat → Nat → Option Int32} {FX : Nat → Option Int32} {lo hi : Nat → Nat} {fn ic il ix : Int32} {a1 a2 a3 a4 a5 a6 a7 a8 a9 a10 a11 a12 a13 : Nat → Int32} {p : Nat} (hJ : dt_J M C I B FX lo hi fn ic il ix a1 a2 a3 a4 a5 a6 a7 a8 a9 a10 a11 a12 a13) (hp : p < 24) (ha : a1 p ≠ 0) : hi p = 4096 ∨ ∃ q, q < 24 ∧ a1 q ≠ 0 ∧ lo q = hi p := by
  obtain ⟨hN, hI4, hB, hX, hR, hY, hP⟩ := hJ
  rcases ((hP p hp).2 ha).2 with ⟨g1, g2, g3, g4⟩ | ⟨l, d, u, g1, g2, g3, g4, g5, g6, g7⟩
  · exact g4.imp id (fun y => dt_ix_pg hY y)
  · exact Or.inr ⟨u, g3, g4, g5⟩
/-- entries of a range put behind those below it -/
theorem dt_Rep_app {M : Nat → Option Int32} {K V K' V' A W : Nat → Int32} {a b cnt : Nat} (hab : a ≤ b) (h1 : dt_Rep (dt_c M a) K V (dt_rs M 0 a)) (h2 : dt_Rep cnt A W (dt_rs M a b)) (hb : b ≤ 4096)
    (k1 : ∀ j, j < dt_c M a → K' j = K j ∧ V' j = V j) (k2 : ∀ j, j < cnt → K' (dt_c M a + j) = A j ∧ V' (dt_c M a + j) = W j) : dt_Rep (dt_c M b) K' V' (dt_rs M 0 b) := by
  have e0 : ∀ x, x ≤ b → dt_c (dt_rs M 0 b) x = dt_c M x := fun x hx => by
    have := dt_c_rs (M := M) (a := 0) (b := b) (x := x) (by omega) hx
    rw [dt_c_0] at this; omega
  have e1 : ∀ x, x ≤ a → dt_c (dt_rs M 0 a) x = dt_c M x := fun x hx => by
    have := dt_c_rs (M := M) (a := 0) (b := a) (x := x) (by omega) hx
    rw [dt_c_0] at this; omega
  refine ⟨by rw [dt_c_rs_hi hb, e0 b (Nat.le_refl _)], fun k v e => ?_⟩
  obtain ⟨r1, r2, r3⟩ := dt_rs_some e
  rw [e0 k (by omega)]
  rcases Nat.lt_or_ge k a with z | z
  · have g : dt_rs M 0 a k = some v := by rw [dt_rs_in (by omega) z]; exact r3
    have g1 := h1.2 k v g
    rw [e1 k (by omega)] at g1
    have g2 := dt_c_lt r3 z
    rw [(k1 _ g2).1, (k1 _ g2).2]
    exact g1
  · have g : dt_rs M a b k = some v := by rw [dt_rs_in z r2]; exact r3
    have g1 := h2.2 k v g
    have g2 := dt_Rep_pos h2 g
    rw [dt_c_rs (b := b) z (by omega), (k2 _ g2).1, (k2 _ g2).2]
    exact g1
theorem dt_mk35 {post : St1 → Prop} {J6 : Int32 → Int32 → Int32 → Int32 → Int32 → Int32 → Int32 → Int32 → Int32 → Int32 → Int32 → (Nat → Int32) → (Nat → Int32) → (Nat → Int32) → (Nat → Int32) → (Nat → Int32) → (Nat → Int32) → (Nat → Int32) → (Nat → Int32) → (Nat → Int32) → (Nat → Int32) → (Nat → Int32) → (Nat → Int32) → (Nat → Int32) → (Nat → Int32) → (Nat → Int32) → (Nat → Int32) → (Nat → Int32) → (Nat → Int32) → (Nat → Int32) → (Nat → Int32) → (Nat → Int32) → Prop} {en fn ic il ix ge sd : Int32} {a1 a2 a3 a4 a5 a6 a7 a8 a9 a10 a11 a12 a13 a14 a15 a16 a19 a20 a21 : Nat → Int32} {K V : Nat → Int32} {c0 cnt : Nat} {x3 : Int32} (hc : cnt ≤ 16) (h60 : c0 + cnt ≤ 60)
    (H : ∀ a17 a18, (∀ j, j < c0 → a17 j = K j ∧ a18 j = V j) → (∀ j, j < cnt → a17 (c0 + j) = a14 j ∧ a18 (c0 + j) = a15 j) → J6 (nI (c0 + cnt)) ge (x3 + 1) en fn ic il ix (nI cnt) ge sd a1 a2 a3 a4 a5 a6 a7 a8 a9 a10 a11 a12 a13 a14 a15 a16 a17 a18 a19 a20 a21) :
    ∀ (r i n : Nat) (a17 a18 : Nat → Int32), i + r = cnt → r < n → (∀ j, j < c0 → a17 j = K j ∧ a18 j = V j) → (∀ j, j < i → a17 (c0 + j) = a14 j ∧ a18 (c0 + j) = a15 j) → wX_makeAnew_35 post J6 x3 en fn ic il ix (nI cnt) ge sd n (nI (c0 + i)) (nI i) a1 a2 a3 a4 a5 a6 a7 a8 a9 a10 a11 a12 a13 a14 a15 a16 a17 a18 a19 a20 a21 := by
  intro r
  induction r with
  | zero =>
    intro i n a17 a18 h1 h2 h3 h4
    obtain ⟨n, rfl⟩ : ∃ m, n = m + 1 := ⟨n - 1, by omega⟩
    have e : i = cnt := by omega
    subst e
    exact pk_le i i (fun _ => nm_e (H _ _ h3 h4)) (fun z => absurd z (by omega))
  | succ r ih =>
    intro i n a17 a18 h1 h2 h3 h4
    obtain ⟨n, rfl⟩ : ∃ m, n = m + 1 := ⟨n - 1, by omega⟩
    have hv : vp_in (nI i) 16 := vp_in_nI (by omega) (by omega)
    have hv2 : vp_in (nI (c0 + i)) 60 := vp_in_nI (by omega) (by omega)
    refine pk_le cnt i (fun z => absurd z (by omega)) (fun _ => ?_)
    rw [nI_clamp (show i < 2 ^ 31 by omega), nI_clamp (show c0 + i < 2 ^ 31 by omega)]
    refine ⟨hv, hv2, nm_e ⟨hv, hv2, nm_e (nm_r (nI_1 (c0 + i)) (nm_r (nI_1 i) (ih (i + 1) n _ _ (by omega) (by omega) (fun j hj => ?_) (fun j hj => ?_))))⟩⟩
    · rw [pk_un (by omega), pk_un (by omega)]; exact h3 j hj
    · by_cases e : j = i
      · subst e; exact ⟨pk_us, pk_us⟩
      · rw [pk_un (by omega), pk_un (by omega)]; exact h4 j (by omega)
theorem dt_mk6 {post : St1 → Prop} {en sd : Int32} {a1 a2 a3 a4 a5 a6 a7 a19 a20 a21 : Nat → Int32} {M : Nat → Option Int32} {C : Nat → List dt_Nt} {B : Nat → Nat → Option Int32} {lo hi : Nat → Nat} (h60 : dt_c M 4096 ≤ 60)
    (H : ∀ (fn ic il ix ga ge : Int32) (a1 a2 a3 a4 a5 a6 a7 a8 a9 a10 a11 a12 a13 a14 a15 a16 a17 a18 : Nat → Int32) (C : Nat → List dt_Nt) (I : List dt_Nt) (B : Nat → Nat → Option Int32) (FX : Nat → Option Int32) (lo hi : Nat → Nat), dt_J M C I B FX lo hi fn ic il ix a1 a2 a3 a4 a5 a6 a7 a8 a9 a10 a11 a12 a13 → (∀ p, p < 24 → (C p).length ≤ 4) → post (en, fn, ic, il, ix, ga, ge, sd, a1, a2, a3, a4, a5, a6, a7, a8, a9, a10, a11, a12, a13, a14, a15, a16, a17, a18, a19, a20, a21)) :
    ∀ (n k st : Nat) (fn ic il ix ga ge : Int32) (a8 a9 a10 a11 a12 a13 a14 a15 a16 a17 a18 : Nat → Int32) (I : List dt_Nt) (FX : Nat → Option Int32), dt_J M C I B FX lo hi fn ic il ix a1 a2 a3 a4 a5 a6 a7 a8 a9 a10 a11 a12 a13 → k ≤ 4096 → (k = 4096 ∨ ∃ q, q < 24 ∧ a1 q ≠ 0 ∧ lo q = k) → dt_Rep (dt_c M k) a17 a18 (dt_rs M 0 k) → st + dt_mh a1 hi k ≤ 24 → dt_mh a1 hi k < n → wX_makeAnew_6 post n (nI (dt_c M k)) (nI k) (nI st) en fn ic il ix ga ge sd a1 a2 a3 a4 a5 a6 a7 a8 a9 a10 a11 a12 a13 a14 a15 a16 a17 a18 a19 a20 a21 := by
  intro n
  induction n with
  | zero => intro k st fn ic il ix ga ge a8 a9 a10 a11 a12 a13 a14 a15 a16 a17 a18 I FX hJ hk4 hpg hR h2 h3; omega
  | succ n ih =>
    intro k st fn ic il ix ga ge a8 a9 a10 a11 a12 a13 a14 a15 a16 a17 a18 I FX hJ hk4 hpg hR h2 h3
    by_cases hk : k < 4096
    · obtain ⟨p0, e1, e2, e3, e4⟩ := dt_ex hJ k hk
      have hm := dt_mh_lt e1 e2 e4
      refine pk_le 24 st (fun z => absurd z (by omega)) (fun _ => pk_le 4096 k (fun z => absurd z (by omega)) (fun _ => ?_))
      refine dt_pf hJ hk (fun fn ic il ix a8 a9 a10 a11 a12 a13 I FX p hJ hp ha hlo hhi hix => ?_)
      refine dt_gJ hJ hp ha (fun cnt a14 a15 a16 hc hRg => ⟨17, ?_⟩)
      have hm := dt_mh_lt hp ha hhi
      have f0 := hJ.2.2.2.2.1.1 p hp ha
      have hlk : lo p = k := by
        rcases hpg with z | ⟨q, q1, q2, q3⟩
        · omega
        · have : p = q := hJ.2.2.2.2.1.2 p q hp q1 ha q2 (by omega) (by omega)
          rw [this]; exact q3
      rw [hlk] at hRg
      have hcn : dt_c M (hi p) = dt_c M k + cnt := by
        have g1 := dt_c_rs (M := M) (a := k) (b := hi p) (x := hi p) (by omega) (by omega)
        have g2 := hRg.1
        rw [dt_c_rs_hi f0.2] at g2
        omega
      have hle := dt_c_mono (F := M) (a := hi p) (b := 4096) f0.2
      refine dt_mk35 (K := a17) (V := a18) (c0 := dt_c M k) (cnt := cnt) (by omega) (by omega) (fun b17 b18 g1 g2 => ?_) cnt 0 17 a17 a18 (by omega) (by omega) (fun _ _ => ⟨rfl, rfl⟩) (fun j hj => absurd hj (by omega))
      rw [nI_1, ← hcn]
      exact ih (hi p) (st + 1) fn ic il ix (nI cnt) (nI (hi p)) a8 a9 a10 a11 a12 a13 a14 a15 a16 b17 b18 I FX hJ f0.2 (dt_nextpg hJ hp ha) (dt_Rep_app (by omega) hR hRg f0.2 g1 g2) (by omega) (by omega)
    · have e : k = 4096 := by omega
      subst e
      have fin : wX_makeAnew_90 post (nI (dt_c M 4096)) en fn ic il ix ga ge sd a1 a2 a3 a4 a5 a6 a7 a8 a9 a10 a11 a12 a13 a14 a15 a16 a17 a18 a19 a20 a21 := by
        unfold wX_makeAnew_90
        exact dt_lay h60 hR (fun fn' ic' il' ix' ga' ge' a1' a2' a3' a4' a5' a6' a7' a8' a9' a10' a11' a12' a13' a14' a15' a16' a17' a18' C I B FX lo hi hJ hC => H fn' ic' il' ix' ga' ge' a1' a2' a3' a4' a5' a6' a7' a8' a9' a10' a11' a12' a13' a14' a15' a16' a17' a18' C I B FX lo hi hJ hC)
      exact br_c (fun _ => fin) (fun _ => pk_le 4096 4096 (fun _ => fin) (fun z => absurd z (by omega)))
theorem dt_mk {post : St1 → Prop} {en fn ic il ix ga ge sd : Int32} {a1 a2 a3 a4 a5 a6 a7 a8 a9 a10 a11 a12 a13 a14 a15 a16 a17 a18 a19 a20 a21 : Nat → Int32} {M : Nat → Option Int32} {C : Nat → List dt_Nt} {I : List dt_Nt} {B : Nat → Nat → Option Int32} {FX : Nat → Option Int32} {lo hi : Nat → Nat} (hJ : dt_J M C I B FX lo hi fn ic il ix a1 a2 a3 a4 a5 a6 a7 a8 a9 a10 a11 a12 a13) (h60 : dt_c M 4096 ≤ 60)
    (H : ∀ (fn ic il ix ga ge : Int32) (a1 a2 a3 a4 a5 a6 a7 a8 a9 a10 a11 a12 a13 a14 a15 a16 a17 a18 : Nat → Int32) (C : Nat → List dt_Nt) (I : List dt_Nt) (B : Nat → Nat → Option Int32) (FX : Nat → Option Int32) (lo hi : Nat → Nat), dt_J M C I B FX lo hi fn ic il ix a1 a2 a3 a4 a5 a6 a7 a8 a9 a10 a11 a12 a13 → (∀ p, p < 24 → (C p).length ≤ 4) → post (en, fn, ic, il, ix, ga, ge, sd, a1, a2, a3, a4, a5, a6, a7, a8, a9, a10, a11, a12, a13, a14, a15, a16, a17, a18, a19, a20, a21)) : wpX_makeAnew post (en, fn, ic, il, ix, ga, ge, sd, a1, a2, a3, a4, a5, a6, a7, a8, a9, a10, a11, a12, a13, a14, a15, a16, a17, a18, a19, a20, a21) := by
  have hm := dt_mh_le a1 hi 0
  have hR : dt_Rep (dt_c M 0) a17 a18 (dt_rs M 0 0) := by
    have e : dt_rs M 0 0 = fun _ => none := by funext k; exact dt_rs_out (by omega)
    rw [e]; exact dt_Rep_0 _ _
  refine ⟨25, dt_mk6 h60 H 25 0 0 fn ic il ix ga ge a8 a9 a10 a11 a12 a13 a14 a15 a16 a17 a18 I FX hJ (by omega) (Or.inr ?_) hR (by omega) (by omega)⟩
  obtain ⟨hN, hI4, hB, hX, hRr, hY, hP⟩ := hJ
  obtain ⟨x, e⟩ := hY.1
  obtain ⟨p, h1, _, h3, h4⟩ := hY.2.1 0 x e
  exact ⟨p, h1, h3, h4⟩
theorem dt_tidy {post : St1 → Prop} {en fn ic il ix ga ge sd : Int32} {a1 a2 a3 a4 a5 a6 a7 a8 a9 a10 a11 a12 a13 a14 a15 a16 a17 a18 a19 a20 a21 : Nat → Int32} {M : Nat → Option Int32} {C : Nat → List dt_Nt} {I : List dt_Nt} {B : Nat → Nat → Option Int32} {FX : Nat → Option Int32} {lo hi : Nat → Nat} (hJ : dt_J M C I B FX lo hi fn ic il ix a1 a2 a3 a4 a5 a6 a7 a8 a9 a10 a11 a12 a13) (h60 : dt_c M 4096 ≤ 60)
    (H : ∀ (fn ic il ix ga ge : Int32) (a1 a2 a3 a4 a5 a6 a7 a8 a9 a10 a11 a12 a13 a14 a15 a16 a17 a18 : Nat → Int32) (C : Nat → List dt_Nt) (I : List dt_Nt) (B : Nat → Nat → Option Int32) (FX : Nat → Option Int32) (lo hi : Nat → Nat), dt_J M C I B FX lo hi fn ic il ix a1 a2 a3 a4 a5 a6 a7 a8 a9 a10 a11 a12 a13 → (∀ p, p < 24 → (C p).length ≤ 4) → post (en, fn, ic, il, ix, ga, ge, sd, a1, a2, a3, a4, a5, a6, a7, a8, a9, a10, a11, a12, a13, a14, a15, a16, a17, a18, a19, a20, a21)) : wpX_tidy post (en, fn, ic, il, ix, ga, ge, sd, a1, a2, a3, a4, a5, a6, a7, a8, a9, a10, a11, a12, a13, a14, a15, a16, a17, a18, a19, a20, a21) := by
  unfold wpX_tidy
  dsimp only
  exact dt_mk hJ h60 (fun fn ic il ix ga ge a1 a2 a3 a4 a5 a6 a7 a8 a9 a10 a11 a12 a13 a14 a15 a16 a17 a18 C I B FX lo hi hJ hC => H fn ic il ix ga ge a1 a2 a3 a4 a5 a6 a7 a8 a9 a10 a11 a12 a13 a14 a15 a16 a17 a18 C I B FX lo hi hJ hC)
end
section
/-! keepBase, freePage -/
def dt_kb (p b fr : Nat) (K V a4 a5 a6 a4' a5' a6' : Nat → Int32) : Prop :=
  a4' p = nI b ∧ (∀ r, r ≠ p → a4' r = a4 r) ∧ (∀ i, i < b → a5' (12 * p + i) = K (fr + i) ∧ a6' (12 * p + i) = V (fr + i)) ∧ ∀ j, (j < 12 * p ∨ 12 * p + 12 ≤ j) → a5' j = a5 j ∧ a6' j = a6 j
theorem dt_keep {post : St1 → Prop} {en fn ic il ix ga ge sd : Int32} {a1 a2 a3 a4 a5 a6 a7 a8 a9 a10 a11 a12 a13 a14 a15 a16 a17 a18 a19 a20 a21 : Nat → Int32} {p fr to : Nat} (hp : p < 24) (h1 : fr ≤ to) (h2 : to ≤ 16)
    (H : ∀ a4' a5' a6', dt_kb p (min to (fr + 12) - fr) fr a14 a15 a4 a5 a6 a4' a5' a6' → post (en, fn, ic, il, ix, ga, ge, sd, a1, a2, a3, a4', a5', a6', upd a7 p ge, a8, a9, a10, a11, a12, a13, a14, a15, a16, a17, a18, a19, a20, a21)) : wpX_keepBase post (en, fn, ic, il, ix, ga, ge, sd, a1, a2, a3, a4, a5, a6, a7, a8, a9, a10, a11, a12, a13, a14, a15, a16, a17, a18, a19, a20, a21) (nI p) (nI fr) (nI to) := by
  have hv : vp_in (nI p) 24 := vp_in_nI hp (by omega)
  have hcl : (nI p).toNatClampNeg = p := nI_clamp (by omega)
  have e12 : ∀ i, 12 * nI p + nI (fr + i) - nI fr = nI (12 * p + i) := fun i => by
    rw [show (12 : Int32) = nI 12 from rfl, pk_mul, nI_add, pk_sub (by omega), show 12 * p + (fr + i) - fr = 12 * p + i by omega]
  refine ⟨hv, nm_r (e' := upd a4 p 0) (by rw [hcl]) ⟨13, ?_⟩⟩
  have L : ∀ (j i n : Nat) (b4 b5 b6 : Nat → Int32), i + j = min to (fr + 12) - fr → j < n → dt_kb p i fr a14 a15 a4 a5 a6 b4 b5 b6 → wX_keepBase_10 post (nI p) (nI fr) (nI to) en fn ic il ix ga ge sd n (nI (fr + i)) a1 a2 a3 b4 b5 b6 a7 a8 a9 a10 a11 a12 a13 a14 a15 a16 a17 a18 a19 a20 a21 := by
    intro j
    induction j with
    | zero =>
      intro i n b4 b5 b6 h3 h4 h5
      obtain ⟨n, rfl⟩ : ∃ m, n = m + 1 := ⟨n - 1, by omega⟩
      have e : i = min to (fr + 12) - fr := by omega
      subst e
      have fin : vp_in (nI p) 24 ∧ ∀ a7_5 : Nat → Int32, a7_5 = upd a7 (nI p).toNatClampNeg ge → post (en, fn, ic, il, ix, ga, ge, sd, a1, a2, a3, b4, b5, b6, a7_5, a8, a9, a10, a11, a12, a13, a14, a15, a16, a17, a18, a19, a20, a21) := ⟨hv, nm_r (e' := upd a7 p ge) (by rw [hcl]) (H b4 b5 b6 h5)⟩
      refine pk_le to (fr + (min to (fr + 12) - fr)) (fun _ => fin) (fun z => pk_le (fr + 12) (fr + (min to (fr + 12) - fr)) (fun _ => fin) (fun y => ?_) (hx := nI_add fr 12))
      omega
    | succ j ih =>
      intro i n b4 b5 b6 h3 h4 h5
      obtain ⟨n, rfl⟩ : ∃ m, n = m + 1 := ⟨n - 1, by omega⟩
      obtain ⟨k1, k2, k3, k4⟩ := h5
      have hv1 : vp_in (nI (fr + i)) 16 := vp_in_nI (by omega) (by omega)
      have hv2 : vp_in (nI (12 * p + i)) 288 := vp_in_nI (by omega) (by omega)
      refine pk_le to (fr + i) (fun z => absurd z (by omega)) (fun _ => pk_le (fr + 12) (fr + i) (fun z => absurd z (by omega)) (fun _ => ?_) (hx := nI_add fr 12))
      rw [e12, hcl, k1, nI_1 i, nI_clamp (show fr + i < 2 ^ 31 by omega), nI_clamp (show 12 * p + i < 2 ^ 31 by omega)]
      refine ⟨hv1, hv2, nm_e ⟨hv1, hv2, nm_e ⟨hv, hv, nm_e (nm_r (nI_1 (fr + i)) (ih (i + 1) n _ _ _ (by omega) (by omega) ⟨pk_us, fun r hr => ?_, fun k hk => ?_, fun k hk => ?_⟩))⟩⟩⟩
      · rw [pk_un hr]; exact k2 r hr
      · by_cases x : k = i
        · subst x; exact ⟨pk_us, pk_us⟩
        · rw [pk_un (by omega), pk_un (by omega)]; exact k3 k (by omega)
      · rw [pk_un (by omega), pk_un (by omega)]; exact k4 k hk
  exact L (min to (fr + 12) - fr) 0 13 _ _ _ (by omega) (by omega) ⟨pk_us, fun r hr => pk_un hr, fun k hk => absurd hk (by omega), fun k _ => ⟨rfl, rfl⟩⟩
theorem dt_fp {post : Int32 → Prop} {en fn ic il ix ga ge sd : Int32} {a1 a2 a3 a4 a5 a6 a7 a8 a9 a10 a11 a12 a13 a14 a15 a16 a17 a18 a19 a20 a21 : Nat → Int32} (H1 : ∀ p, p < 24 → a1 p = 0 → post (nI p)) (H0 : post (-1)) : wpX_freePage post (en, fn, ic, il, ix, ga, ge, sd, a1, a2, a3, a4, a5, a6, a7, a8, a9, a10, a11, a12, a13, a14, a15, a16, a17, a18, a19, a20, a21) := by
  refine ⟨25, ?_⟩
  have L : ∀ (j i n : Nat), i + j = 24 → j < n → wX_freePage_2 post en fn ic il ix ga ge sd a1 a2 a3 a4 a5 a6 a7 a8 a9 a10 a11 a12 a13 a14 a15 a16 a17 a18 a19 a20 a21 n (nI i) := by
    intro j
    induction j with
    | zero =>
      intro i n h1 h2
      obtain ⟨n, rfl⟩ : ∃ m, n = m + 1 := ⟨n - 1, by omega⟩
      exact pk_le 24 i (fun _ => H0) (fun z => absurd z (by omega))
    | succ j ih =>
      intro i n h1 h2
      obtain ⟨n, rfl⟩ : ∃ m, n = m + 1 := ⟨n - 1, by omega⟩
      refine pk_le 24 i (fun z => absurd z (by omega)) (fun _ => ?_)
      rw [nI_clamp (show i < 2 ^ 31 by omega)]
      exact ⟨vp_in_nI (by omega) (by omega), br_c (fun y => H1 i (by omega) y) (fun y => nm_r (nI_1 i) (ih (i + 1) n (by omega) (by omega)))⟩
  exact L 24 0 25 (by omega) (by omega)
/-! one base -/
def dt_Ba (a4 a5 a6 : Nat → Int32) (F : Nat → Option Int32) (p : Nat) : Prop :=
  a4 p = nI (dt_c F 4096) ∧ dt_c F 4096 ≤ 12 ∧ dt_Rep (dt_c F 4096) (fun i => a5 (12 * p + i)) (fun i => a6 (12 * p + i)) F
theorem dt_kb_o {p b fr q : Nat} {K V a4 a5 a6 a4' a5' a6' : Nat → Int32} {F : Nat → Option Int32} (h : dt_kb p b fr K V a4 a5 a6 a4' a5' a6') (hq : q ≠ p) (hB : dt_Ba a4 a5 a6 F q) : dt_Ba a4' a5' a6' F q := by
  obtain ⟨k1, k2, k3, k4⟩ := h
  obtain ⟨b1, b2, b3⟩ := hB
  refine ⟨by rw [k2 q hq]; exact b1, b2, dt_Rep_ext b3 (fun i hi => ?_) (fun i hi => ?_)⟩
  · exact (k4 (12 * q + i) (by omega)).1
  · exact (k4 (12 * q + i) (by omega)).2
theorem dt_kb_s {p n fr : Nat} {K V a4 a5 a6 a4' a5' a6' : Nat → Int32} {R : Nat → Option Int32} (h : dt_kb p (min n (fr + 12) - fr) fr K V a4 a5 a6 a4' a5' a6') (hR : dt_Rep n K V R) (hf : fr ≤ n) : dt_Ba a4' a5' a6' (dt_sl R fr (fr + 12)) p := by
  obtain ⟨k1, k2, k3, k4⟩ := h
  have hc : dt_c (dt_sl R fr (fr + 12)) 4096 = min n (fr + 12) - fr := by rw [dt_c_sl (by omega), ← hR.1]; omega
  rw [← hc] at k1 k3
  refine ⟨k1, by omega, dt_Rep_sl hR (by omega) (by omega) (fun i hi => (k3 i hi).1) (fun i hi => (k3 i hi).2)⟩
theorem dt_N_c {fn ic il : Int32} {a2 a3 b2 b3 a8 a9 a10 a11 : Nat → Int32} {C D : Nat → List dt_Nt} {I : List dt_Nt} (h : dt_N fn ic il a2 a3 a8 a9 a10 a11 C I) (h2 : ∀ p, p < 24 → b2 p = a2 p) (h3 : ∀ p, p < 24 → b3 p = a3 p) (hC : D = C) : dt_N fn ic il b2 b3 a8 a9 a10 a11 D I := by
  subst hC
  obtain ⟨F, ow, f, i, c, s⟩ := h
  refine ⟨F, ow, f, i, fun p hp => ?_, s⟩
  rw [h2 p hp, h3 p hp]
  exact c p hp
theorem dt_Y_up {a1 b1 : Nat → Int32} {I : List dt_Nt} {FX : Nat → Option Int32} {lo lo' : Nat → Nat} (h : dt_Y a1 I FX lo) (hu : ∀ p, p < 24 → a1 p ≠ 0 → b1 p ≠ 0 ∧ lo' p = lo p) : dt_Y b1 I FX lo' := by
  obtain ⟨y1, y2, y3, y4, ixd, y5, y6⟩ := h
  refine ⟨y1, fun k x e => ?_, fun n hn => ⟨?_, (y3 n hn).2⟩, y4, ixd, y5, fun p hp e => ?_⟩
  · obtain ⟨p, h1, h2, h3, h4⟩ := y2 k x e
    exact ⟨p, h1, h2, (hu p h1 h3).1, by rw [(hu p h1 h3).2]; exact h4⟩
  · obtain ⟨p, h1, h2, h3, h4⟩ := (y3 n hn).1
    exact ⟨p, h1, h2, (hu p h1 h3).1, by rw [(hu p h1 h3).2]; exact h4⟩
  · obtain ⟨h1, h2⟩ := y6 p hp e
    exact ⟨(hu p hp h1).1, by rw [(hu p hp h1).2]; exact h2⟩
/-- a page rewritten whole -/
theorem dt_J_one {M : Nat → Option Int32} {C : Nat → List dt_Nt} {I : List dt_Nt} {B : Nat → Nat → Option Int32} {FX : Nat → Option Int32} {lo hi : Nat → Nat} {fn ic il ix : Int32} {a1 a2 a3 a4 a5 a6 a7 a8 a9 a10 a11 a12 a13 : Nat → Int32} {p n : Nat} {K V : Nat → Int32} {fn' : Int32} {a2' a3' a4' a5' a6' a11' : Nat → Int32} (hJ : dt_J M C I B FX lo hi fn ic il ix a1 a2 a3 a4 a5 a6 a7 a8 a9 a10 a11 a12 a13) (hp : p < 24) (ha : a1 p ≠ 0) (hx : hi p = 4096 ∨ dt_ix FX I (hi p))
    (hN : dt_N fn' ic il a2' a3' a8 a9 a10 a11' (dt_up C p []) I) (hR : dt_Rep n K V (dt_rs M (lo p) (hi p))) (hn : n ≤ 8) (hk : dt_kb p (min n (0 + 12) - 0) 0 K V a4 a5 a6 a4' a5' a6') :
    dt_J M (dt_up C p []) I (dt_up B p (dt_rs M (lo p) (hi p))) FX lo hi fn' ic il ix a1 a2' a3' a4' a5' a6' (upd a7 p (nI (hi p))) a8 a9 a10 a11' a12 a13 := by
  obtain ⟨hN0, hI4, hB, hX, hRr, hY, hP⟩ := hJ
  have hall : dt_sl (dt_rs M (lo p) (hi p)) 0 (0 + 12) = dt_rs M (lo p) (hi p) := by
    funext k
    cases e : dt_rs M (lo p) (hi p) k with
    | none =>
      by_cases z : 0 ≤ dt_c (dt_rs M (lo p) (hi p)) k ∧ dt_c (dt_rs M (lo p) (hi p)) k < 0 + 12
      · rw [dt_sl_in z.1 z.2, e]
      · exact dt_sl_out (by omega)
    | some v =>
      have := dt_Rep_pos hR e
      rw [dt_sl_in (by omega) (by omega), e]
  refine ⟨hN, hI4, fun q hq hb => ?_, hX, hRr, hY, fun q hq => ?_⟩
  · by_cases e : q = p
    · subst e
      rw [dt_up_s]
      have := dt_kb_s hk hR (by omega)
      rw [hall] at this
      exact this
    · rw [dt_up_n e]
      exact dt_kb_o hk e (hB q hq hb)
  · by_cases e : q = p
    · subst e
      refine ⟨fun z => absurd z ha, fun _ => ⟨?_, Or.inl ⟨?_, ?_, pk_us, hx⟩⟩⟩
      · rw [dt_up_s, dt_up_s]; rfl
      · rw [dt_up_s]; exact fun n hn => absurd hn List.not_mem_nil
      · rw [dt_up_s, ← hR.1]; exact hn
    · obtain ⟨g1, g2⟩ := hP q hq
      refine ⟨by rw [dt_up_n e]; exact g1, fun hb => ?_⟩
      obtain ⟨g3, g4⟩ := g2 hb
      refine ⟨by rw [dt_up_n e, dt_up_n e]; exact g3, ?_⟩
      rcases g4 with ⟨c1, c2, c3, c4⟩ | ⟨l, d, u, c1, c2, c3, c4, c5, c6, c7⟩
      · exact Or.inl ⟨by rw [dt_up_n e]; exact c1, by rw [dt_up_n e]; exact c2, by rw [pk_un e]; exact c3, c4⟩
      · exact Or.inr ⟨l, d, u, by rw [dt_up_n e]; exact c1, c2, c3, c4, c5, c6, by rw [dt_up_n e]; exact c7⟩
/-- a page divided -/
theorem dt_J_two {M : Nat → Option Int32} {C : Nat → List dt_Nt} {I : List dt_Nt} {B : Nat → Nat → Option Int32} {FX : Nat → Option Int32} {lo hi : Nat → Nat} {fn ic il ix : Int32} {a1 a2 a3 a4 a5 a6 a7 a8 a9 a10 a11 a12 a13 : Nat → Int32} {p u n half κ d : Nat} {v : Int32} {K V : Nat → Int32} {fn' : Int32} {a2' a3' b4 b5 b6 c4 c5 c6 b8 b9 b10 a11' : Nat → Int32} (hJ : dt_J M C I B FX lo hi fn ic il ix a1 a2 a3 a4 a5 a6 a7 a8 a9 a10 a11 a12 a13) (hp : p < 24) (ha : a1 p ≠ 0) (hu : u < 24) (ha0 : a1 u = 0) (hx : hi p = 4096 ∨ dt_ix FX I (hi p))
    (hN : dt_N fn' ic il a2' a3' b8 b9 b10 a11' (dt_up C p [(d, 2, κ, nI u)]) I) (hR : dt_Rep n K V (dt_rs M (lo p) (hi p))) (hn : n ≤ 13) (hh : 0 < half ∧ half ≤ 8 ∧ half < n ∧ n ≤ half + 8) (hκ : dt_rs M (lo p) (hi p) κ = some v) (hκc : dt_c (dt_rs M (lo p) (hi p)) κ = half)
    (hk : dt_kb p (min n (0 + 12) - 0) 0 K V a4 a5 a6 b4 b5 b6) (hk2 : dt_kb u (min n (half + 12) - half) half K V b4 b5 b6 c4 c5 c6) :
    dt_J M (dt_up C p [(d, 2, κ, nI u)]) I (dt_up (dt_up B p (dt_sl (dt_rs M (lo p) (hi p)) 0 (0 + 12))) u (dt_sl (dt_rs M (lo p) (hi p)) half (half + 12))) FX (dt_up lo u κ) (dt_up (dt_up hi u (hi p)) p κ) fn' ic il ix (upd a1 u 1) a2' a3' c4 c5 c6 (upd (upd a7 p (nI (hi p))) u (nI (hi p))) b8 b9 b10 a11' a12 a13 := by
  obtain ⟨hN0, hI4, hB, hX, hRr, hY, hP⟩ := hJ
  have hup : u ≠ p := fun z => ha (by rw [← z]; exact ha0)
  obtain ⟨r1, r2, r3⟩ := dt_rs_some hκ
  have hr := hRr.1 p hp ha
  have hlt : lo p < κ := by
    rcases Nat.lt_or_ge (lo p) κ with z | z
    · exact z
    · have e : κ = lo p := by omega
      rw [e, dt_c_rs_lo] at hκc; omega
  have e_a1 : ∀ q, q ≠ u → upd a1 u 1 q = a1 q := fun q hq => pk_un hq
  have slu : dt_sl (dt_rs M (lo p) (hi p)) half (half + 12) = dt_rs M κ (hi p) := by
    rw [dt_sl_rs (lo := κ) (hi := hi p) (fun k w e => by rw [dt_c_ge e hκ, hκc]) (fun k w e => ?_), dt_rs_rs (by omega) (by omega)]
    have h1 := dt_rs_some e
    have h2 := dt_Rep_pos hR e
    exact ⟨fun _ => by omega, fun _ => h1.2.1⟩
  have slp : dt_cut (dt_sl (dt_rs M (lo p) (hi p)) 0 (0 + 12)) κ = dt_rs M (lo p) κ := by
    funext k
    rcases Nat.lt_or_ge k κ with z | z
    · have hm := dt_c_mono (F := dt_rs M (lo p) (hi p)) (a := k) (b := κ) (by omega)
      rw [dt_cut_lo z, dt_sl_in (by omega) (by omega)]
      by_cases y : lo p ≤ k
      · rw [dt_rs_in y (by omega), dt_rs_in y z]
      · rw [dt_rs_out (by omega), dt_rs_out (by omega)]
    · rw [dt_cut_hi z, dt_rs_out (by omega)]
  refine ⟨hN, hI4, fun q hq hb => ?_, hX, ⟨fun q hq hb => ?_, fun q s hq hs hb hc h1 h2 => ?_⟩, ?_, fun q hq => ?_⟩
  · by_cases e : q = u
    · subst e
      rw [dt_up_s]
      exact dt_kb_s hk2 hR (by omega)
    · rw [dt_up_n e]
      by_cases z : q = p
      · subst z
        rw [dt_up_s]
        exact dt_kb_o hk2 e (dt_kb_s hk hR (by omega))
      · rw [dt_up_n z]
        rw [e_a1 q e] at hb
        exact dt_kb_o hk2 e (dt_kb_o hk z (hB q hq hb))
  · by_cases e : q = u
    · subst e
      rw [dt_up_s, dt_up_n hup, dt_up_s]
      exact ⟨r2, hr.2⟩
    · rw [e_a1 q e] at hb
      rw [dt_up_n e]
      by_cases z : q = p
      · subst z
        rw [dt_up_s]
        exact ⟨hlt, by omega⟩
      · rw [dt_up_n z, dt_up_n e]
        exact hRr.1 q hq hb
  · have U : ∀ w, w < 24 → w ≠ u → upd a1 u 1 w ≠ 0 → ¬ (lo w ≤ κ ∧ κ < hi w ∧ w ≠ p) := by
      intro w hw e hb hc
      rw [e_a1 w e] at hb
      have hrw := hRr.1 w hw hb
      rcases Nat.lt_or_ge (lo w) (lo p) with z | z
      · exact hc.2.2 (hRr.2 w p hw hp hb ha (by omega) (by omega))
      · exact hc.2.2 (hRr.2 p w hp hw ha hb (by omega) (by omega)).symm
    by_cases e : q = u
    · by_cases e2 : s = u
      · rw [e, e2]
      · exfalso
        rw [e, dt_up_s, dt_up_n e2] at h1
        rw [e, dt_up_n e2, dt_up_n hup, dt_up_s] at h2
        have hc' := hc
        rw [e_a1 s e2] at hc
        have := hRr.2 p s hp hs ha hc (by omega) h2
        subst this
        omega
    · by_cases e2 : s = u
      · exfalso
        rw [e2, dt_up_s, dt_up_n e] at h1
        rw [e2, dt_up_s] at h2
        by_cases z : q = p
        · rw [z, dt_up_s] at h2; omega
        · rw [dt_up_n z, dt_up_n e] at h2
          exact U q hq e hb ⟨h1, h2, z⟩
      · rw [dt_up_n e, dt_up_n e2] at h1
        rw [dt_up_n e2] at h2
        rw [e_a1 q e] at hb
        rw [e_a1 s e2] at hc
        by_cases z : q = p
        · subst z
          rw [dt_up_s] at h2
          exact hRr.2 q s hq hs hb hc h1 (by omega)
        · rw [dt_up_n z, dt_up_n e] at h2
          exact hRr.2 q s hq hs hb hc h1 h2
  · refine dt_Y_up hY (fun q hq hb => ?_)
    have e : q ≠ u := fun z => hb (by rw [z]; exact ha0)
    rw [e_a1 q e, dt_up_n e]
    exact ⟨hb, rfl⟩
  · by_cases e : q = u
    · subst e
      refine ⟨fun z => ?_, fun _ => ⟨?_, Or.inl ⟨?_, ?_, ?_, ?_⟩⟩⟩
      · rw [pk_us] at z; exact absurd z (by decide)
      · rw [dt_up_n hup, dt_up_s, dt_up_s, dt_up_n hup, dt_up_s, (hP q hu).1 ha0]; exact slu
      · rw [dt_up_n hup, (hP q hu).1 ha0]; exact fun n hn => absurd hn List.not_mem_nil
      · rw [dt_up_s, dt_c_sl (by omega), ← hR.1]; omega
      · rw [pk_us, dt_up_n hup, dt_up_s]
      · rw [dt_up_n hup, dt_up_s]; exact hx
    · by_cases z : q = p
      · subst z
        refine ⟨fun z => absurd (by rw [e_a1 q e] at z; exact z) ha, fun _ => ⟨?_, Or.inr ⟨[], d, u, ?_, fun n hn => absurd hn List.not_mem_nil, hu, by rw [pk_us]; decide, ?_, ?_, ?_⟩⟩⟩
        · rw [dt_up_s, dt_up_n e, dt_up_s, dt_up_s, dt_up_n e, ← slp]
          exact dt_ap_2 (n := (d, 2, κ, nI u)) rfl
        · rw [dt_up_s, dt_up_s]; rfl
        · rw [dt_up_s, dt_up_s]
        · rw [dt_up_s]; omega
        · rw [dt_up_n e, dt_up_s, dt_up_s, dt_c_sl (by omega), hκc]; omega
      · obtain ⟨g1, g2⟩ := hP q hq
        refine ⟨by rw [dt_up_n z, e_a1 q e]; exact g1, fun hb => ?_⟩
        rw [e_a1 q e] at hb
        obtain ⟨g3, g4⟩ := g2 hb
        refine ⟨by rw [dt_up_n z, dt_up_n e, dt_up_n z, dt_up_n e, dt_up_n z, dt_up_n e]; exact g3, ?_⟩
        rcases g4 with ⟨k1, k2, k3, k4⟩ | ⟨l, d', u', k1, k2, k3, k4, k5, k6, k7⟩
        · exact Or.inl ⟨by rw [dt_up_n z]; exact k1, by rw [dt_up_n e, dt_up_n z]; exact k2, by rw [pk_un e, pk_un z, dt_up_n z, dt_up_n e]; exact k3, by rw [dt_up_n z, dt_up_n e]; exact k4⟩
        · have hu' : u' ≠ u := fun y => k4 (by rw [y]; exact ha0)
          exact Or.inr ⟨l, d', u', by rw [dt_up_n z, dt_up_n z, dt_up_n e]; exact k1, k2, k3, by rw [e_a1 u' hu']; exact k4, by rw [dt_up_n hu', dt_up_n z, dt_up_n e]; exact k5, by rw [dt_up_n z, dt_up_n e]; exact k6, by rw [dt_up_n e, dt_up_n z, dt_up_n z, dt_up_n e]; exact k7⟩
end
section
/-! rewrite -/
theorem dt_rw54 {post : St1 → Prop} {en fn ic il ix sd : Int32} {a1 a2 a3 a4 a5 a6 a7 a8 a9 a10 a11 a12 a13 a14 a15 a16 a17 a18 a19 a20 a21 : Nat → Int32} {M : Nat → Option Int32} {C : Nat → List dt_Nt} {I : List dt_Nt} {B : Nat → Nat → Option Int32} {FX : Nat → Option Int32} {lo hi : Nat → Nat} {p n : Nat} {x3 : Int32} (hJ : dt_J M C I B FX lo hi fn ic il ix a1 a2 a3 a4 a5 a6 a7 a8 a9 a10 a11 a12 a13) (hp : p < 24) (ha : a1 p ≠ 0) (hx : hi p = 4096 ∨ dt_ix FX I (hi p)) (hst : ∀ q, q < 24 → q ≠ p → (C q).length ≤ 4)
    (hR : dt_Rep n a14 a15 (dt_rs M (lo p) (hi p))) (hn : n ≤ 13) (hu : 8 < n → ∃ u, u < 24 ∧ a1 u = 0 ∧ x3 = nI u)
    (H : ∀ (fn ic il ix ga ge : Int32) (a1 a2 a3 a4 a5 a6 a7 a8 a9 a10 a11 a12 a13 a14 a15 a16 a17 a18 : Nat → Int32) (C : Nat → List dt_Nt) (I : List dt_Nt) (B : Nat → Nat → Option Int32) (FX : Nat → Option Int32) (lo hi : Nat → Nat), dt_J M C I B FX lo hi fn ic il ix a1 a2 a3 a4 a5 a6 a7 a8 a9 a10 a11 a12 a13 → (∀ p, p < 24 → (C p).length ≤ 4) → post (en, fn, ic, il, ix, ga, ge, sd, a1, a2, a3, a4, a5, a6, a7, a8, a9, a10, a11, a12, a13, a14, a15, a16, a17, a18, a19, a20, a21)) : wX_rewrite_54 post (nI p) x3 en fn ic il ix (nI n) (nI (hi p)) sd a1 a2 a3 a4 a5 a6 a7 a8 a9 a10 a11 a12 a13 a14 a15 a16 a17 a18 a19 a20 a21 := by
  have hJ' := hJ
  obtain ⟨⟨F, ow, hN⟩, hI4, hB, hX, hRr, hY, hP⟩ := hJ'
  obtain ⟨n1, n2, n3, n4, n5⟩ := hN.2.2.1 p hp
  have hv : vp_in (nI p) 24 := vp_in_nI hp (by omega)
  have hcl : (nI p).toNatClampNeg = p := nI_clamp (by omega)
  unfold wX_rewrite_54
  rw [hcl]
  refine ⟨hv, dt_freeb (l := C p) (F := F) (by omega) n1 hN.1.1 n2 hN.1.2.1 (dt_N1_dC hN hp) (fun fn' a11' hfc => ⟨hv, nm_e ⟨hv, nm_e ?_⟩⟩)⟩
  have hN1 := dt_N_fcC hN hp hfc
  refine dt_keep (fr := 0) hp (by omega) (by omega) (fun b4 b5 b6 hk => pk_le n 8 (fun z => ?_) (fun z => ⟨by decide, ?_⟩))
  · refine H fn' ic il ix (nI n) (nI (hi p)) a1 (upd a2 p (-1)) (upd a3 p 0) b4 b5 b6 (upd a7 p (nI (hi p))) a8 a9 a10 a11' a12 a13 a14 a15 a16 a17 a18 _ _ _ _ _ _ (dt_J_one hJ hp ha hx hN1 hR z hk) (fun q hq => ?_)
    by_cases e : q = p
    · rw [e, dt_up_s, List.length_nil]; omega
    · rw [dt_up_n e]; exact hst q hq e
  · obtain ⟨u, u1, u2, rfl⟩ := hu z
    have hup : u ≠ p := fun y => ha (by rw [← y]; exact u2)
    have hvu : vp_in (nI u) 24 := vp_in_nI u1 (by omega)
    have hcu : (nI u).toNatClampNeg = u := nI_clamp (by omega)
    have hch : (nI (n / 2)).toNatClampNeg = n / 2 := nI_clamp (by omega)
    obtain ⟨κ, v, r1, r2, r3, r4, r5⟩ := dt_Rep_nth hR (i := n / 2) (by omega)
    have hCu : C u = [] := (hP u u1).1 u2
    have hu2 : a2 u = -1 := by have := (hN.2.2.1 u u1).1; rw [hCu] at this; exact this
    have hu3 : a3 u = 0 := by have := (hN.2.2.1 u u1).2.2.2.1; rw [hCu] at this; exact this
    have hN2 : dt_N fn' ic il (upd (upd a2 p (-1)) u (-1)) (upd (upd a3 p 0) u 0) a8 a9 a10 a11' (dt_up C p []) I := by
      refine dt_N_c hN1 (fun q hq => ?_) (fun q hq => ?_) rfl
      · by_cases e : q = u
        · rw [e, pk_us, pk_un hup, hu2]
        · rw [pk_un e]
      · by_cases e : q = u
        · rw [e, pk_us, pk_un hup, hu3]
        · rw [pk_un e]
    obtain ⟨n0, hn0, hf⟩ := dt_N_head hN2
    have hN3 := dt_N_addC (kd := 2) (ky := κ) (v := nI u) hN2 hn0 hf hp (by rw [dt_up_s, List.length_nil]; omega) (by omega) r1
    rw [dt_up_s, List.length_nil, pk_un (fun y => hup y.symm), pk_us] at hN3
    have hN4 := dt_N_c (D := dt_up C p [(n0, 2, κ, nI u)]) hN3 (fun _ _ => rfl) (fun _ _ => rfl) (by
      funext q
      by_cases e : q = p
      · rw [e, dt_up_s, dt_up_s]
      · rw [dt_up_n e, dt_up_n e, dt_up_n e])
    refine nm_r (e' := nI (n / 2)) (pk_div (a := n) (d := 2) (by omega) (by omega) (by omega)) ⟨hvu, nm_r (e' := upd a1 u 1) (by rw [hcu]) ⟨hvu, nm_r (e' := upd (upd a2 p (-1)) u (-1)) (by rw [hcu]) ⟨hvu, nm_r (e' := upd (upd a3 p 0) u 0) (by rw [hcu]) ?_⟩⟩⟩
    refine dt_keep (fr := n / 2) u1 (by omega) (by omega) (fun c4 c5 c6 hk2 => ⟨vp_in_nI (by omega) (by omega), ?_⟩)
    rw [hch, r4]
    refine dt_new2 hn0 hf ⟨hv, nm_e ⟨hv, nm_e ?_⟩⟩
    refine H _ _ _ _ _ _ _ _ _ _ _ _ _ _ _ _ _ _ _ _ _ _ _ _ _ _ _ _ _ _ (dt_J_two hJ hp ha u1 u2 hx hN4 hR hn ⟨by omega, by omega, by omega, by omega⟩ r2 r3 hk hk2) (fun q hq => ?_)
    by_cases e : q = p
    · rw [e, dt_up_s]; show 1 ≤ 4; omega
    · rw [dt_up_n e]; exact hst q hq e
theorem dt_rw26 {post : St1 → Prop} {en fn ic il ix ga ge sd : Int32} {a1 a2 a3 a4 a5 a6 a7 a8 a9 a10 a11 a12 a13 a14 a15 a16 a17 a18 a19 a20 a21 : Nat → Int32} {M : Nat → Option Int32} {C : Nat → List dt_Nt} {I : List dt_Nt} {B : Nat → Nat → Option Int32} {FX : Nat → Option Int32} {lo hi : Nat → Nat} {p : Nat} (hJ : dt_J M C I B FX lo hi fn ic il ix a1 a2 a3 a4 a5 a6 a7 a8 a9 a10 a11 a12 a13) (hp : p < 24) (ha : a1 p ≠ 0) (hx : hi p = 4096 ∨ dt_ix FX I (hi p)) (hst : ∀ q, q < 24 → q ≠ p → (C q).length ≤ 4) (h60 : dt_c M 4096 ≤ 60)
    (H : ∀ (fn ic il ix ga ge : Int32) (a1 a2 a3 a4 a5 a6 a7 a8 a9 a10 a11 a12 a13 a14 a15 a16 a17 a18 : Nat → Int32) (C : Nat → List dt_Nt) (I : List dt_Nt) (B : Nat → Nat → Option Int32) (FX : Nat → Option Int32) (lo hi : Nat → Nat), dt_J M C I B FX lo hi fn ic il ix a1 a2 a3 a4 a5 a6 a7 a8 a9 a10 a11 a12 a13 → (∀ p, p < 24 → (C p).length ≤ 4) → post (en, fn, ic, il, ix, ga, ge, sd, a1, a2, a3, a4, a5, a6, a7, a8, a9, a10, a11, a12, a13, a14, a15, a16, a17, a18, a19, a20, a21)) : wX_rewrite_26 post (nI p) en fn ic il ix ga ge sd a1 a2 a3 a4 a5 a6 a7 a8 a9 a10 a11 a12 a13 a14 a15 a16 a17 a18 a19 a20 a21 := by
  unfold wX_rewrite_26
  refine dt_gJ hJ hp ha (fun cnt a14 a15 a16 hc hR => dt_fp (fun u hu h0 => ?_) ?_)
  · have := dt_rw54 (x3 := nI u) (a16 := a16) (a17 := a17) (a18 := a18) hJ hp ha hx hst hR hc (fun _ => ⟨u, hu, h0, rfl⟩) H
    exact pk_le cnt 8 (fun _ => this) (fun _ => br_t (nI_pos' (by omega)) this)
  · refine pk_le cnt 8 (fun z => ?_) (fun _ => br_f (by decide) ?_)
    · exact dt_rw54 hJ hp ha hx hst hR hc (fun y => absurd y (by omega)) H
    · exact dt_mk hJ h60 (fun fn ic il ix ga ge a1 a2 a3 a4 a5 a6 a7 a8 a9 a10 a11 a12 a13 a14 a15 a16 a17 a18 C I B FX lo hi hJ hC => H fn ic il ix ga ge a1 a2 a3 a4 a5 a6 a7 a8 a9 a10 a11 a12 a13 a14 a15 a16 a17 a18 C I B FX lo hi hJ hC)
theorem dt_rw {post : St1 → Prop} {en fn ic il ix ga ge sd : Int32} {a1 a2 a3 a4 a5 a6 a7 a8 a9 a10 a11 a12 a13 a14 a15 a16 a17 a18 a19 a20 a21 : Nat → Int32} {M : Nat → Option Int32} {C : Nat → List dt_Nt} {I : List dt_Nt} {B : Nat → Nat → Option Int32} {FX : Nat → Option Int32} {lo hi : Nat → Nat} {p : Nat} (hJ : dt_J M C I B FX lo hi fn ic il ix a1 a2 a3 a4 a5 a6 a7 a8 a9 a10 a11 a12 a13) (hp : p < 24) (ha : a1 p ≠ 0) (hst : ∀ q, q < 24 → q ≠ p → (C q).length ≤ 4) (h60 : dt_c M 4096 ≤ 60)
    (H : ∀ (fn ic il ix ga ge : Int32) (a1 a2 a3 a4 a5 a6 a7 a8 a9 a10 a11 a12 a13 a14 a15 a16 a17 a18 : Nat → Int32) (C : Nat → List dt_Nt) (I : List dt_Nt) (B : Nat → Nat → Option Int32) (FX : Nat → Option Int32) (lo hi : Nat → Nat), dt_J M C I B FX lo hi fn ic il ix a1 a2 a3 a4 a5 a6 a7 a8 a9 a10 a11 a12 a13 → (∀ p, p < 24 → (C p).length ≤ 4) → post (en, fn, ic, il, ix, ga, ge, sd, a1, a2, a3, a4, a5, a6, a7, a8, a9, a10, a11, a12, a13, a14, a15, a16, a17, a18, a19, a20, a21)) : wpX_rewrite post (en, fn, ic, il, ix, ga, ge, sd, a1, a2, a3, a4, a5, a6, a7, a8, a9, a10, a11, a12, a13, a14, a15, a16, a17, a18, a19, a20, a21) (nI p) := by
  have hJ' := hJ
  obtain ⟨⟨F, ow, hN⟩, hI4, hB, hX, hRr, hY, hP⟩ := hJ'
  have hch := (hN.2.2.1 p hp).1
  unfold wpX_rewrite
  dsimp only
  refine dt_div hp hch ?_
  rcases ((hP p hp).2 ha).2 with ⟨g1, g2, g3, g4⟩ | ⟨l, d, u, g1, g2, g3, g4, g5, g6, g7⟩
  · rw [dt_dn_A g1]
    exact br_t dt_neg (dt_rw26 hJ hp ha g4 hst h60 H)
  · have hdn : dt_dn (C p) = nI d := by rw [g1]; exact dt_dn_B g2 rfl
    have hmem : (d, 2, hi p, nI u) ∈ C p := by rw [g1]; exact List.mem_append_right _ List.mem_cons_self
    obtain ⟨m1, m2, m3, m4, m5, m6⟩ := dt_Ch_mem hch hmem
    have m1 : d < 160 := m1
    have m3 : a9 d = nI (hi p) := m3
    have m4 : a10 d = nI u := m4
    have hv : vp_in (nI d) 160 := vp_in_nI m1 (by omega)
    rw [hdn, nI_clamp (show d < 2 ^ 31 by omega), m3, m4, ← g5]
    refine br_f (nI_pos (by omega)) ⟨hv, hv, dt_nix hJ g3 g4 (fun fn ic il ix a8 a9 a10 a11 a12 a13 I FX hJ hix => ?_)⟩
    exact dt_rw26 hJ hp ha (Or.inr ((hix _).mpr (Or.inr g5.symm))) hst h60 H
/-! addNote -/
theorem dt_J_add {M : Nat → Option Int32} {C : Nat → List dt_Nt} {I : List dt_Nt} {B : Nat → Nat → Option Int32} {FX : Nat → Option Int32} {lo hi : Nat → Nat} {fn ic il ix : Int32} {a1 a2 a3 a4 a5 a6 a7 a8 a9 a10 a11 a12 a13 : Nat → Int32} {p q n kd : Nat} {v : Int32} {b8 b9 b10 b11 b2 b3 : Nat → Int32} {fn' : Int32} (hJ : dt_J M C I B FX lo hi fn ic il ix a1 a2 a3 a4 a5 a6 a7 a8 a9 a10 a11 a12 a13) (hp : p < 24) (ha : a1 p ≠ 0) (h1 : lo p ≤ q) (h2 : q < hi p) (hkd : kd < 2)
    (hN : dt_N fn' ic il b2 b3 b8 b9 b10 b11 (dt_up C p ((n, kd, q, v) :: C p)) I) : dt_J (dt_set M q (if kd = 0 then some v else none)) (dt_up C p ((n, kd, q, v) :: C p)) I B FX lo hi fn' ic il ix a1 b2 b3 a4 a5 a6 a7 b8 b9 b10 b11 a12 a13 := by
  obtain ⟨hN0, hI4, hB, hX, hRr, hY, hP⟩ := hJ
  refine ⟨hN, hI4, hB, hX, hRr, hY, fun r hr => ?_⟩
  obtain ⟨g1, g2⟩ := hP r hr
  by_cases e : r = p
  · subst e
    refine ⟨fun z => absurd z ha, fun _ => ?_⟩
    obtain ⟨g3, g4⟩ := g2 ha
    refine ⟨?_, ?_⟩
    · rw [dt_up_s]
      show dt_ap (n, kd, q, v) (dt_co (C r) (B r)) = _
      rw [g3, ← dt_rs_set h1 h2]
      by_cases z : kd = 0
      · rw [if_pos z]; exact dt_ap_0 (n := (n, kd, q, v)) z
      · rw [if_neg z]; exact dt_ap_1 (n := (n, kd, q, v)) (show kd ≠ 2 by omega) z
    · rcases g4 with ⟨c1, c2, c3, c4⟩ | ⟨l, d, u, c1, c2, c3, c4, c5, c6, c7⟩
      · refine Or.inl ⟨?_, c2, c3, c4⟩
        rw [dt_up_s]
        intro m hm
        rcases List.mem_cons.mp hm with y | y
        · rw [y]; show kd ≠ 2; omega
        · exact c1 m y
      · refine Or.inr ⟨(n, kd, q, v) :: l, d, u, ?_, ?_, c3, c4, c5, c6, c7⟩
        · rw [dt_up_s, c1]; rfl
        · intro m hm
          rcases List.mem_cons.mp hm with y | y
          · rw [y]; show kd ≠ 2; omega
          · exact c2 m y
  · refine ⟨by rw [dt_up_n e]; exact g1, fun hb => ?_⟩
    obtain ⟨g3, g4⟩ := g2 hb
    refine ⟨?_, ?_⟩
    · rw [dt_up_n e, g3, dt_rs_set_out]
      rcases Nat.lt_or_ge q (lo r) with z | z
      · exact Or.inl z
      · rcases Nat.lt_or_ge q (hi r) with y | y
        · exfalso
          rcases Nat.lt_or_ge (lo r) (lo p) with x | x
          · exact e (hRr.2 r p hr hp hb ha (by omega) (by omega))
          · exact e (hRr.2 p r hp hr ha hb x (by omega)).symm
        · exact Or.inr y
    · rcases g4 with ⟨c1, c2, c3, c4⟩ | ⟨l, d, u, c1, c2, c3, c4, c5, c6, c7⟩
      · exact Or.inl ⟨by rw [dt_up_n e]; exact c1, c2, c3, c4⟩
      · exact Or.inr ⟨l, d, u, by rw [dt_up_n e]; exact c1, c2, c3, c4, c5, c6, c7⟩
theorem dt_addNote {post : St1 → Prop} {en fn ic il ix ga ge sd : Int32} {a1 a2 a3 a4 a5 a6 a7 a8 a9 a10 a11 a12 a13 a14 a15 a16 a17 a18 a19 a20 a21 : Nat → Int32} {M : Nat → Option Int32} {C : Nat → List dt_Nt} {I : List dt_Nt} {B : Nat → Nat → Option Int32} {FX : Nat → Option Int32} {lo hi : Nat → Nat} {p q kd : Nat} {v : Int32} (hJ : dt_J M C I B FX lo hi fn ic il ix a1 a2 a3 a4 a5 a6 a7 a8 a9 a10 a11 a12 a13) (hst : ∀ p, p < 24 → (C p).length ≤ 4) (hp : p < 24) (ha : a1 p ≠ 0) (h1 : lo p ≤ q) (h2 : q < hi p) (hkd : kd < 2) (h60 : dt_c (dt_set M q (if kd = 0 then some v else none)) 4096 ≤ 60)
    (H : ∀ (fn ic il ix ga ge : Int32) (a1 a2 a3 a4 a5 a6 a7 a8 a9 a10 a11 a12 a13 a14 a15 a16 a17 a18 : Nat → Int32) (C : Nat → List dt_Nt) (I : List dt_Nt) (B : Nat → Nat → Option Int32) (FX : Nat → Option Int32) (lo hi : Nat → Nat), dt_J (dt_set M q (if kd = 0 then some v else none)) C I B FX lo hi fn ic il ix a1 a2 a3 a4 a5 a6 a7 a8 a9 a10 a11 a12 a13 → (∀ p, p < 24 → (C p).length ≤ 4) → post (en, fn, ic, il, ix, ga, ge, sd, a1, a2, a3, a4, a5, a6, a7, a8, a9, a10, a11, a12, a13, a14, a15, a16, a17, a18, a19, a20, a21)) : wpX_addNote post (en, fn, ic, il, ix, ga, ge, sd, a1, a2, a3, a4, a5, a6, a7, a8, a9, a10, a11, a12, a13, a14, a15, a16, a17, a18, a19, a20, a21) (nI p) (nI kd) (nI q) v := by
  have hr := hJ.2.2.2.2.1.1 p hp ha
  have hv : vp_in (nI p) 24 := vp_in_nI hp (by omega)
  have hcl : (nI p).toNatClampNeg = p := nI_clamp (by omega)
  obtain ⟨n0, hn0, hf⟩ := dt_N_head hJ.1
  have hN3 := dt_N_addC (kd := kd) (ky := q) (v := v) hJ.1 hn0 hf hp (hst p hp) (by omega) (by omega)
  have hJ2 := dt_J_add hJ hp ha h1 h2 hkd hN3
  have h3 : a3 p = nI (C p).length := by obtain ⟨F, ow, _, _, h, _⟩ := hJ.1; exact (h p hp).2.2.2.1
  have hlen := hst p hp
  unfold wpX_addNote
  dsimp only
  rw [hcl]
  refine ⟨hv, dt_new2 hn0 hf ⟨hv, nm_e ⟨hv, hv, nm_r (e' := upd a3 p (nI ((C p).length + 1))) (by show upd a3 p (a3 p + 1) = _; rw [h3, nI_1]) ⟨hv, ?_⟩⟩⟩⟩
  rw [pk_us]
  refine pk_le ((C p).length + 1) 4 (fun z => ?_) (fun z => ?_)
  · refine H _ _ _ _ _ _ _ _ _ _ _ _ _ _ _ _ _ _ _ _ _ _ _ _ _ _ _ _ _ _ hJ2 (fun r hr => ?_)
    by_cases e : r = p
    · rw [e, dt_up_s, List.length_cons]; exact z
    · rw [dt_up_n e]; exact hst r hr
  · refine dt_rw hJ2 hp ha (fun r hr e => ?_) h60 (fun fn ic il ix ga ge a1 a2 a3 a4 a5 a6 a7 a8 a9 a10 a11 a12 a13 a14 a15 a16 a17 a18 C I B FX lo hi hJ hC => H fn ic il ix ga ge a1 a2 a3 a4 a5 a6 a7 a8 a9 a10 a11 a12 a13 a14 a15 a16 a17 a18 C I B FX lo hi hJ hC)
    rw [dt_up_n e]; exact hst r hr
end
section
/-! the public methods over dt_K -/
theorem dt_Khas {post : Int32 → St1 → Prop} {en fn ic il ix ga ge sd : Int32} {a1 a2 a3 a4 a5 a6 a7 a8 a9 a10 a11 a12 a13 a14 a15 a16 a17 a18 a19 a20 a21 : Nat → Int32} {M : Nat → Option Int32} {q : Nat} (hK : dt_K M en fn ic il ix a1 a2 a3 a4 a5 a6 a7 a8 a9 a10 a11 a12 a13) (hq : q < 4096) (H : ∀ (en fn ic il ix ga ge : Int32) (a1 a2 a3 a4 a5 a6 a7 a8 a9 a10 a11 a12 a13 a14 a15 a16 a17 a18 : Nat → Int32), dt_K M en fn ic il ix a1 a2 a3 a4 a5 a6 a7 a8 a9 a10 a11 a12 a13 → post (if (M q).isSome = true then 1 else 0) (en, fn, ic, il, ix, ga, ge, sd, a1, a2, a3, a4, a5, a6, a7, a8, a9, a10, a11, a12, a13, a14, a15, a16, a17, a18, a19, a20, a21)) : wpX_has post (en, fn, ic, il, ix, ga, ge, sd, a1, a2, a3, a4, a5, a6, a7, a8, a9, a10, a11, a12, a13, a14, a15, a16, a17, a18, a19, a20, a21) (nI q) := by
  obtain ⟨k1, k2, C, I, B, FX, lo, hi, hJ, hst⟩ := hK
  exact dt_has hJ hq (fun fn ic il ix a8 a9 a10 a11 a12 a13 I FX hJ => H en fn ic il ix ga ge a1 a2 a3 a4 a5 a6 a7 a8 a9 a10 a11 a12 a13 a14 a15 a16 a17 a18 ⟨k1, k2, C, I, B, FX, lo, hi, hJ, hst⟩)
theorem dt_Kget {post : Int32 → St1 → Prop} {en fn ic il ix ga ge sd : Int32} {a1 a2 a3 a4 a5 a6 a7 a8 a9 a10 a11 a12 a13 a14 a15 a16 a17 a18 a19 a20 a21 : Nat → Int32} {M : Nat → Option Int32} {q : Nat} (hK : dt_K M en fn ic il ix a1 a2 a3 a4 a5 a6 a7 a8 a9 a10 a11 a12 a13) (hq : q < 4096) (H : ∀ (en fn ic il ix ga ge : Int32) (a1 a2 a3 a4 a5 a6 a7 a8 a9 a10 a11 a12 a13 a14 a15 a16 a17 a18 : Nat → Int32), dt_K M en fn ic il ix a1 a2 a3 a4 a5 a6 a7 a8 a9 a10 a11 a12 a13 → post ((M q).getD 0) (en, fn, ic, il, ix, ga, ge, sd, a1, a2, a3, a4, a5, a6, a7, a8, a9, a10, a11, a12, a13, a14, a15, a16, a17, a18, a19, a20, a21)) : wpX_get post (en, fn, ic, il, ix, ga, ge, sd, a1, a2, a3, a4, a5, a6, a7, a8, a9, a10, a11, a12, a13, a14, a15, a16, a17, a18, a19, a20, a21) (nI q) := by
  obtain ⟨k1, k2, C, I, B, FX, lo, hi, hJ, hst⟩ := hK
  exact dt_get hJ hq (fun fn ic il ix a8 a9 a10 a11 a12 a13 I FX hJ => H en fn ic il ix ga ge a1 a2 a3 a4 a5 a6 a7 a8 a9 a10 a11 a12 a13 a14 a15 a16 a17 a18 ⟨k1, k2, C, I, B, FX, lo, hi, hJ, hst⟩)
theorem dt_Knext {post : Int32 → St1 → Prop} {en fn ic il ix ga ge sd : Int32} {a1 a2 a3 a4 a5 a6 a7 a8 a9 a10 a11 a12 a13 a14 a15 a16 a17 a18 a19 a20 a21 : Nat → Int32} {M : Nat → Option Int32} {q : Nat} (hK : dt_K M en fn ic il ix a1 a2 a3 a4 a5 a6 a7 a8 a9 a10 a11 a12 a13) (hq : q ≤ 4096) (H : ∀ (en fn ic il ix ga ge : Int32) (a1 a2 a3 a4 a5 a6 a7 a8 a9 a10 a11 a12 a13 a14 a15 a16 a17 a18 : Nat → Int32), dt_K M en fn ic il ix a1 a2 a3 a4 a5 a6 a7 a8 a9 a10 a11 a12 a13 → post (dt_nx M q) (en, fn, ic, il, ix, ga, ge, sd, a1, a2, a3, a4, a5, a6, a7, a8, a9, a10, a11, a12, a13, a14, a15, a16, a17, a18, a19, a20, a21)) : wpX_next post (en, fn, ic, il, ix, ga, ge, sd, a1, a2, a3, a4, a5, a6, a7, a8, a9, a10, a11, a12, a13, a14, a15, a16, a17, a18, a19, a20, a21) (nI q) := by
  obtain ⟨k1, k2, C, I, B, FX, lo, hi, hJ, hst⟩ := hK
  exact dt_next hJ hq (fun fn ic il ix ga ge a8 a9 a10 a11 a12 a13 a14 a15 a16 I FX hJ => H en fn ic il ix ga ge a1 a2 a3 a4 a5 a6 a7 a8 a9 a10 a11 a12 a13 a14 a15 a16 a17 a18 ⟨k1, k2, C, I, B, FX, lo, hi, hJ, hst⟩)
theorem dt_Kprev {post : Int32 → St1 → Prop} {en fn ic il ix ga ge sd : Int32} {a1 a2 a3 a4 a5 a6 a7 a8 a9 a10 a11 a12 a13 a14 a15 a16 a17 a18 a19 a20 a21 : Nat → Int32} {M : Nat → Option Int32} {q : Nat} (hK : dt_K M en fn ic il ix a1 a2 a3 a4 a5 a6 a7 a8 a9 a10 a11 a12 a13) (hq : q < 4096) (H : ∀ (en fn ic il ix ga ge : Int32) (a1 a2 a3 a4 a5 a6 a7 a8 a9 a10 a11 a12 a13 a14 a15 a16 a17 a18 : Nat → Int32), dt_K M en fn ic il ix a1 a2 a3 a4 a5 a6 a7 a8 a9 a10 a11 a12 a13 → post (dt_pv M (q + 1)) (en, fn, ic, il, ix, ga, ge, sd, a1, a2, a3, a4, a5, a6, a7, a8, a9, a10, a11, a12, a13, a14, a15, a16, a17, a18, a19, a20, a21)) : wpX_previous post (en, fn, ic, il, ix, ga, ge, sd, a1, a2, a3, a4, a5, a6, a7, a8, a9, a10, a11, a12, a13, a14, a15, a16, a17, a18, a19, a20, a21) (nI q) := by
  obtain ⟨k1, k2, C, I, B, FX, lo, hi, hJ, hst⟩ := hK
  exact dt_prev hJ hq (fun fn ic il ix ga ge a8 a9 a10 a11 a12 a13 a14 a15 a16 I FX hJ => H en fn ic il ix ga ge a1 a2 a3 a4 a5 a6 a7 a8 a9 a10 a11 a12 a13 a14 a15 a16 a17 a18 ⟨k1, k2, C, I, B, FX, lo, hi, hJ, hst⟩)
theorem dt_Kcount {post : Int32 → St1 → Prop} {en fn ic il ix ga ge sd : Int32} {a1 a2 a3 a4 a5 a6 a7 a8 a9 a10 a11 a12 a13 a14 a15 a16 a17 a18 a19 a20 a21 : Nat → Int32} {M : Nat → Option Int32} {l h : Nat} (hK : dt_K M en fn ic il ix a1 a2 a3 a4 a5 a6 a7 a8 a9 a10 a11 a12 a13) (hl : l ≤ 4096) (hh : h < 4096) (H : ∀ (en fn ic il ix ga ge : Int32) (a1 a2 a3 a4 a5 a6 a7 a8 a9 a10 a11 a12 a13 a14 a15 a16 a17 a18 : Nat → Int32), dt_K M en fn ic il ix a1 a2 a3 a4 a5 a6 a7 a8 a9 a10 a11 a12 a13 → post (nI (dt_c M (h + 1) - dt_c M l)) (en, fn, ic, il, ix, ga, ge, sd, a1, a2, a3, a4, a5, a6, a7, a8, a9, a10, a11, a12, a13, a14, a15, a16, a17, a18, a19, a20, a21)) : wpX_count post (en, fn, ic, il, ix, ga, ge, sd, a1, a2, a3, a4, a5, a6, a7, a8, a9, a10, a11, a12, a13, a14, a15, a16, a17, a18, a19, a20, a21) (nI l) (nI h) := by
  obtain ⟨k1, k2, C, I, B, FX, lo, hi, hJ, hst⟩ := hK
  exact dt_count hJ hl hh (fun fn ic il ix ga ge a8 a9 a10 a11 a12 a13 a14 a15 a16 I FX hJ => H en fn ic il ix ga ge a1 a2 a3 a4 a5 a6 a7 a8 a9 a10 a11 a12 a13 a14 a15 a16 a17 a18 ⟨k1, k2, C, I, B, FX, lo, hi, hJ, hst⟩)
theorem dt_Kstate {post : Int32 → St1 → Prop} {en fn ic il ix ga ge sd : Int32} {a1 a2 a3 a4 a5 a6 a7 a8 a9 a10 a11 a12 a13 a14 a15 a16 a17 a18 a19 a20 a21 : Nat → Int32} {M : Nat → Option Int32} {q : Nat} (hK : dt_K M en fn ic il ix a1 a2 a3 a4 a5 a6 a7 a8 a9 a10 a11 a12 a13) (hq : q < 4096) (H : ∀ (en fn ic il ix ga ge : Int32) (a1 a2 a3 a4 a5 a6 a7 a8 a9 a10 a11 a12 a13 a14 a15 a16 a17 a18 : Nat → Int32), dt_K M en fn ic il ix a1 a2 a3 a4 a5 a6 a7 a8 a9 a10 a11 a12 a13 → post (dt_st M q) (en, fn, ic, il, ix, ga, ge, sd, a1, a2, a3, a4, a5, a6, a7, a8, a9, a10, a11, a12, a13, a14, a15, a16, a17, a18, a19, a20, a21)) : wpL_state post (en, fn, ic, il, ix, ga, ge, sd, a1, a2, a3, a4, a5, a6, a7, a8, a9, a10, a11, a12, a13, a14, a15, a16, a17, a18, a19, a20, a21) (nI q) := by
  obtain ⟨k1, k2, C, I, B, FX, lo, hi, hJ, hst⟩ := hK
  exact dt_state hJ hq (fun fn ic il ix ga ge a8 a9 a10 a11 a12 a13 a14 a15 a16 I FX hJ => H en fn ic il ix ga ge a1 a2 a3 a4 a5 a6 a7 a8 a9 a10 a11 a12 a13 a14 a15 a16 a17 a18 ⟨k1, k2, C, I, B, FX, lo, hi, hJ, hst⟩)
theorem dt_Ktidy {post : St1 → Prop} {en fn ic il ix ga ge sd : Int32} {a1 a2 a3 a4 a5 a6 a7 a8 a9 a10 a11 a12 a13 a14 a15 a16 a17 a18 a19 a20 a21 : Nat → Int32} {M : Nat → Option Int32} (hK : dt_K M en fn ic il ix a1 a2 a3 a4 a5 a6 a7 a8 a9 a10 a11 a12 a13) (H : ∀ (en fn ic il ix ga ge : Int32) (a1 a2 a3 a4 a5 a6 a7 a8 a9 a10 a11 a12 a13 a14 a15 a16 a17 a18 : Nat → Int32), dt_K M en fn ic il ix a1 a2 a3 a4 a5 a6 a7 a8 a9 a10 a11 a12 a13 → post (en, fn, ic, il, ix, ga, ge, sd, a1, a2, a3, a4, a5, a6, a7, a8, a9, a10, a11, a12, a13, a14, a15, a16, a17, a18, a19, a20, a21)) : wpX_tidy post (en, fn, ic, il, ix, ga, ge, sd, a1, a2, a3, a4, a5, a6, a7, a8, a9, a10, a11, a12, a13, a14, a15, a16, a17, a18, a19, a20, a21) := by
  obtain ⟨k1, k2, C, I, B, FX, lo, hi, hJ, hst⟩ := hK
  exact dt_tidy hJ k2 (fun fn ic il ix ga ge a1 a2 a3 a4 a5 a6 a7 a8 a9 a10 a11 a12 a13 a14 a15 a16 a17 a18 C I B FX lo hi hJ hst => H en fn ic il ix ga ge a1 a2 a3 a4 a5 a6 a7 a8 a9 a10 a11 a12 a13 a14 a15 a16 a17 a18 ⟨k1, k2, C, I, B, FX, lo, hi, hJ, hst⟩)
/-! put, remove, swap -/
def dt_pm (M : Nat → Option Int32) (q : Nat) (v : Int32) : Nat → Option Int32 := if (M q).isSome = true ∨ dt_c M 4096 < 60 then dt_set M q (some v) else M
theorem dt_Kput {post : Int32 → St1 → Prop} {en fn ic il ix ga ge sd : Int32} {a1 a2 a3 a4 a5 a6 a7 a8 a9 a10 a11 a12 a13 a14 a15 a16 a17 a18 a19 a20 a21 : Nat → Int32} {M : Nat → Option Int32} {q : Nat} {v : Int32} (hK : dt_K M en fn ic il ix a1 a2 a3 a4 a5 a6 a7 a8 a9 a10 a11 a12 a13) (hq : q < 4096) (H : ∀ (en fn ic il ix ga ge : Int32) (a1 a2 a3 a4 a5 a6 a7 a8 a9 a10 a11 a12 a13 a14 a15 a16 a17 a18 : Nat → Int32) (r : Int32), dt_K (dt_pm M q v) en fn ic il ix a1 a2 a3 a4 a5 a6 a7 a8 a9 a10 a11 a12 a13 → post r (en, fn, ic, il, ix, ga, ge, sd, a1, a2, a3, a4, a5, a6, a7, a8, a9, a10, a11, a12, a13, a14, a15, a16, a17, a18, a19, a20, a21)) : wpX_put post (en, fn, ic, il, ix, ga, ge, sd, a1, a2, a3, a4, a5, a6, a7, a8, a9, a10, a11, a12, a13, a14, a15, a16, a17, a18, a19, a20, a21) (nI q) v := by
  obtain ⟨k1, k2, C, I, B, FX, lo, hi, hJ, hst⟩ := hK
  subst k1
  unfold wpX_put
  dsimp only
  refine dt_key hq (br_f (by decide) (dt_pf hJ hq (fun fn ic il ix a8 a9 a10 a11 a12 a13 I FX p hJ hp ha hlo hhi hix => dt_isIn hJ hp ha hlo hhi ?_)))
  cases e : M q with
  | none =>
    refine br_t rfl (pk_lt (dt_c M 4096) 60 (fun z => ?_) (fun z => ?_))
    · have hpm : dt_pm M q v = dt_set M q (some v) := if_pos (Or.inr z)
      have hc : dt_c (dt_set M q (some v)) 4096 = dt_c M 4096 + 1 := dt_c_set_new e hq
      rw [hpm] at H
      refine br_t rfl (nm_r (nI_1 _) (dt_addNote (kd := 0) hJ hst hp ha hlo hhi (by omega) (by show dt_c (dt_set M q (some v)) 4096 ≤ 60; omega) (fun fn ic il ix ga ge a1 a2 a3 a4 a5 a6 a7 a8 a9 a10 a11 a12 a13 a14 a15 a16 a17 a18 C I B FX lo hi hJ hst => br_t rfl ?_)))
      exact H (nI (dt_c M 4096 + 1)) fn ic il ix ga ge a1 a2 a3 a4 a5 a6 a7 a8 a9 a10 a11 a12 a13 a14 a15 a16 a17 a18 1 ⟨by rw [hc], by omega, C, I, B, FX, lo, hi, hJ, hst⟩
    · have hpm : dt_pm M q v = M := if_neg (by rw [e]; simp; omega)
      rw [hpm] at H
      exact H (nI (dt_c M 4096)) fn ic il ix ga ge a1 a2 a3 a4 a5 a6 a7 a8 a9 a10 a11 a12 a13 a14 a15 a16 a17 a18 _ ⟨rfl, k2, C, I, B, FX, lo, hi, hJ, hst⟩
  | some w =>
    have hpm : dt_pm M q v = dt_set M q (some v) := if_pos (Or.inl (by rw [e]; rfl))
    have hc : dt_c (dt_set M q (some v)) 4096 = dt_c M 4096 := dt_c_set_old e
    rw [hpm] at H
    refine br_f (show ¬ (1 : Int32) = 0 by decide) (br_f (show ¬ (1 : Int32) = 0 by decide) (nm_r (nI_add _ 0) (dt_addNote (kd := 0) hJ hst hp ha hlo hhi (by omega) (by show dt_c (dt_set M q (some v)) 4096 ≤ 60; omega) (fun fn ic il ix ga ge a1 a2 a3 a4 a5 a6 a7 a8 a9 a10 a11 a12 a13 a14 a15 a16 a17 a18 C I B FX lo hi hJ hst => br_f (show ¬ (1 : Int32) = 0 by decide) ?_))))
    exact H (nI (dt_c M 4096 + 0)) fn ic il ix ga ge a1 a2 a3 a4 a5 a6 a7 a8 a9 a10 a11 a12 a13 a14 a15 a16 a17 a18 0 ⟨by rw [hc]; rfl, by omega, C, I, B, FX, lo, hi, hJ, hst⟩
theorem dt_Kremove {post : Int32 → St1 → Prop} {en fn ic il ix ga ge sd : Int32} {a1 a2 a3 a4 a5 a6 a7 a8 a9 a10 a11 a12 a13 a14 a15 a16 a17 a18 a19 a20 a21 : Nat → Int32} {M : Nat → Option Int32} {q : Nat} (hK : dt_K M en fn ic il ix a1 a2 a3 a4 a5 a6 a7 a8 a9 a10 a11 a12 a13) (hq : q < 4096) (H : ∀ (en fn ic il ix ga ge : Int32) (a1 a2 a3 a4 a5 a6 a7 a8 a9 a10 a11 a12 a13 a14 a15 a16 a17 a18 : Nat → Int32) (r : Int32), dt_K (dt_set M q none) en fn ic il ix a1 a2 a3 a4 a5 a6 a7 a8 a9 a10 a11 a12 a13 → post r (en, fn, ic, il, ix, ga, ge, sd, a1, a2, a3, a4, a5, a6, a7, a8, a9, a10, a11, a12, a13, a14, a15, a16, a17, a18, a19, a20, a21)) : wpX_remove post (en, fn, ic, il, ix, ga, ge, sd, a1, a2, a3, a4, a5, a6, a7, a8, a9, a10, a11, a12, a13, a14, a15, a16, a17, a18, a19, a20, a21) (nI q) := by
  obtain ⟨k1, k2, C, I, B, FX, lo, hi, hJ, hst⟩ := hK
  subst k1
  unfold wpX_remove
  dsimp only
  refine dt_key hq (br_f (by decide) (dt_pf hJ hq (fun fn ic il ix a8 a9 a10 a11 a12 a13 I FX p hJ hp ha hlo hhi hix => dt_isIn hJ hp ha hlo hhi ?_)))
  cases e : M q with
  | none =>
    rw [dt_set_none e] at H
    exact br_t rfl (H (nI (dt_c M 4096)) fn ic il ix ga ge a1 a2 a3 a4 a5 a6 a7 a8 a9 a10 a11 a12 a13 a14 a15 a16 a17 a18 _ ⟨rfl, k2, C, I, B, FX, lo, hi, hJ, hst⟩)
  | some w =>
    have hc : dt_c M 4096 = dt_c (dt_set M q none) 4096 + 1 := dt_c_set_del e hq
    refine br_f (show ¬ (1 : Int32) = 0 by decide) (nm_r (e' := nI (dt_c (dt_set M q none) 4096)) (by rw [hc]; exact nI_pred _) ?_)
    refine dt_addNote (kd := 1) (v := 0) hJ hst hp ha hlo hhi (by omega) (by show dt_c (dt_set M q none) 4096 ≤ 60; omega) (fun fn ic il ix ga ge a1 a2 a3 a4 a5 a6 a7 a8 a9 a10 a11 a12 a13 a14 a15 a16 a17 a18 C I B FX lo hi hJ hst => ?_)
    exact H (nI (dt_c (dt_set M q none) 4096)) fn ic il ix ga ge a1 a2 a3 a4 a5 a6 a7 a8 a9 a10 a11 a12 a13 a14 a15 a16 a17 a18 1 ⟨rfl, by omega, C, I, B, FX, lo, hi, hJ, hst⟩
theorem dt_Kswap {post : Int32 → St1 → Prop} {en fn ic il ix ga ge sd : Int32} {a1 a2 a3 a4 a5 a6 a7 a8 a9 a10 a11 a12 a13 a14 a15 a16 a17 a18 a19 a20 a21 : Nat → Int32} {M : Nat → Option Int32} {q : Nat} {x v : Int32} (hK : dt_K M en fn ic il ix a1 a2 a3 a4 a5 a6 a7 a8 a9 a10 a11 a12 a13) (hq : q < 4096) (hx : x = (M q).getD 0) (H0 : M q = none → ∀ (en fn ic il ix ga ge : Int32) (a1 a2 a3 a4 a5 a6 a7 a8 a9 a10 a11 a12 a13 a14 a15 a16 a17 a18 : Nat → Int32), dt_K M en fn ic il ix a1 a2 a3 a4 a5 a6 a7 a8 a9 a10 a11 a12 a13 → post 0 (en, fn, ic, il, ix, ga, ge, sd, a1, a2, a3, a4, a5, a6, a7, a8, a9, a10, a11, a12, a13, a14, a15, a16, a17, a18, a19, a20, a21)) (H1 : ∀ w, M q = some w → ∀ (en fn ic il ix ga ge : Int32) (a1 a2 a3 a4 a5 a6 a7 a8 a9 a10 a11 a12 a13 a14 a15 a16 a17 a18 : Nat → Int32), dt_K (dt_set M q (some v)) en fn ic il ix a1 a2 a3 a4 a5 a6 a7 a8 a9 a10 a11 a12 a13 → post 1 (en, fn, ic, il, ix, ga, ge, sd, a1, a2, a3, a4, a5, a6, a7, a8, a9, a10, a11, a12, a13, a14, a15, a16, a17, a18, a19, a20, a21)) : wpX_swap post (en, fn, ic, il, ix, ga, ge, sd, a1, a2, a3, a4, a5, a6, a7, a8, a9, a10, a11, a12, a13, a14, a15, a16, a17, a18, a19, a20, a21) (nI q) x v := by
  obtain ⟨k1, k2, C, I, B, FX, lo, hi, hJ, hst⟩ := hK
  subst k1
  unfold wpX_swap
  dsimp only
  refine dt_key hq (br_f (by decide) (dt_pf hJ hq (fun fn ic il ix a8 a9 a10 a11 a12 a13 I FX p hJ hp ha hlo hhi hix => dt_isIn hJ hp ha hlo hhi ?_)))
  cases e : M q with
  | none => exact br_t rfl (H0 e (nI (dt_c M 4096)) fn ic il ix ga ge a1 a2 a3 a4 a5 a6 a7 a8 a9 a10 a11 a12 a13 a14 a15 a16 a17 a18 ⟨rfl, k2, C, I, B, FX, lo, hi, hJ, hst⟩)
  | some w =>
    have hc : dt_c (dt_set M q (some v)) 4096 = dt_c M 4096 := dt_c_set_old e
    refine br_f (show ¬ (1 : Int32) = 0 by decide) (dt_valueIn hJ hp ha hlo hhi e (br_t (by rw [hx, e]; rfl) ?_))
    refine dt_addNote (kd := 0) hJ hst hp ha hlo hhi (by omega) (by show dt_c (dt_set M q (some v)) 4096 ≤ 60; omega) (fun fn ic il ix ga ge a1 a2 a3 a4 a5 a6 a7 a8 a9 a10 a11 a12 a13 a14 a15 a16 a17 a18 C I B FX lo hi hJ hst => ?_)
    exact H1 w e (nI (dt_c M 4096)) fn ic il ix ga ge a1 a2 a3 a4 a5 a6 a7 a8 a9 a10 a11 a12 a13 a14 a15 a16 a17 a18 ⟨by rw [hc], by omega, C, I, B, FX, lo, hi, hJ, hst⟩
/-! batches -/
def dt_Sg (w : Nat) (sd : Int32) (a19 a20 : Nat → Int32) : Prop := sd = nI w ∧ w ≤ 6 ∧ ∀ k, k < w → (a19 k = 0 ∨ a19 k = 1) ∧ ∃ q, q < 4096 ∧ a20 k = nI q
theorem dt_Kstage {post : Int32 → St1 → Prop} {en fn ic il ix ga ge sd : Int32} {a1 a2 a3 a4 a5 a6 a7 a8 a9 a10 a11 a12 a13 a14 a15 a16 a17 a18 a19 a20 a21 : Nat → Int32} {w q : Nat} {b v : Int32} (hS : dt_Sg w sd a19 a20) (hb : b = 0 ∨ b = 1) (hq : q < 4096)
    (H0 : w = 6 → post (-1) (en, fn, ic, il, ix, ga, ge, sd, a1, a2, a3, a4, a5, a6, a7, a8, a9, a10, a11, a12, a13, a14, a15, a16, a17, a18, a19, a20, a21)) (H1 : w < 6 → dt_Sg (w + 1) (nI (w + 1)) (upd a19 w b) (upd a20 w (nI q)) → post (nI (w + 1)) (en, fn, ic, il, ix, ga, ge, nI (w + 1), a1, a2, a3, a4, a5, a6, a7, a8, a9, a10, a11, a12, a13, a14, a15, a16, a17, a18, upd a19 w b, upd a20 w (nI q), upd a21 w v)) : wpX_stage post (en, fn, ic, il, ix, ga, ge, sd, a1, a2, a3, a4, a5, a6, a7, a8, a9, a10, a11, a12, a13, a14, a15, a16, a17, a18, a19, a20, a21) b (nI q) v := by
  obtain ⟨rfl, s2, s3⟩ := hS
  have hnb : vp_nar .boolean b = b := by rcases hb with rfl | rfl; exact dt_nar0; exact dt_nar1
  unfold wpX_stage
  dsimp only
  refine dt_key hq (br_f (by decide) (pk_lt w 6 (fun z => ?_) (fun z => H0 (by omega))))
  have hv : vp_in (nI w) 6 := vp_in_nI z (by omega)
  rw [nI_clamp (show w < 2 ^ 31 by omega), hnb]
  refine ⟨hv, nm_e ⟨hv, nm_e ⟨hv, nm_e (nm_r (nI_1 w) (H1 z ⟨rfl, by omega, fun k hk => ?_⟩))⟩⟩⟩
  by_cases e : k = w
  · subst e
    rw [pk_us, pk_us]
    exact ⟨hb, q, hq, rfl⟩
  · rw [pk_un e, pk_un e]
    exact s3 k (by omega)
theorem dt_Kthere {post : Int32 → St1 → Prop} {en fn ic il ix ga ge sd : Int32} {a1 a2 a3 a4 a5 a6 a7 a8 a9 a10 a11 a12 a13 a14 a15 a16 a17 a18 a19 a20 a21 : Nat → Int32} {M : Nat → Option Int32} {w k : Nat} (hK : dt_K M en fn ic il ix a1 a2 a3 a4 a5 a6 a7 a8 a9 a10 a11 a12 a13) (hS : dt_Sg w sd a19 a20) (hk : k < w)
    (H : ∀ (en fn ic il ix ga ge : Int32) (a1 a2 a3 a4 a5 a6 a7 a8 a9 a10 a11 a12 a13 a14 a15 a16 a17 a18 : Nat → Int32) (r : Int32), dt_K M en fn ic il ix a1 a2 a3 a4 a5 a6 a7 a8 a9 a10 a11 a12 a13 → (r = 0 ∨ r = 1) → (k = 0 → r = if (M (a20 0).toNatClampNeg).isSome = true then 1 else 0) → post r (en, fn, ic, il, ix, ga, ge, sd, a1, a2, a3, a4, a5, a6, a7, a8, a9, a10, a11, a12, a13, a14, a15, a16, a17, a18, a19, a20, a21)) : wpX_isThereBefore post (en, fn, ic, il, ix, ga, ge, sd, a1, a2, a3, a4, a5, a6, a7, a8, a9, a10, a11, a12, a13, a14, a15, a16, a17, a18, a19, a20, a21) (nI k) := by
  obtain ⟨s1, s2, s3⟩ := hS
  have hv : vp_in (nI k) 6 := vp_in_nI (by omega) (by omega)
  have hcl : (nI k).toNatClampNeg = k := nI_clamp (by omega)
  have n0 : narrow .boolean (.int 0) = .int 0 := by rfl
  have n1 : narrow .boolean (.int 1) = .int 1 := by rfl
  refine nm_e ⟨7, ?_⟩
  have L : ∀ (j n : Nat), j ≤ k → j < n → wX_isThereBefore_4 post (nI k) en fn ic il ix ga ge sd a1 a2 a3 a4 a5 a6 a7 a8 a9 a10 a11 a12 a13 a14 a15 a16 a17 a18 a19 a20 a21 n (nI j - 1) := by
    intro j
    induction j with
    | zero =>
      intro n h1 h2
      obtain ⟨n, rfl⟩ : ∃ m, n = m + 1 := ⟨n - 1, by omega⟩
      obtain ⟨_, q, hq, e⟩ := s3 k hk
      obtain ⟨k1, k2, C, I, B, FX, lo, hi, hJ, hst⟩ := hK
      refine br_t (by decide) ?_
      rw [hcl, e]
      refine ⟨hv, dt_pf hJ hq (fun fn ic il ix a8 a9 a10 a11 a12 a13 I FX p hJ hp ha hlo hhi hix => ⟨hv, ?_⟩)⟩
      show wpX_isIn _ (en, fn, ic, il, ix, ga, ge, sd, a1, a2, a3, a4, a5, a6, a7, a8, a9, a10, a11, a12, a13, a14, a15, a16, a17, a18, a19, a20, a21) (nI p) (a20 k)
      rw [e]
      refine dt_isIn hJ hp ha hlo hhi ?_
      have hz : k = 0 → (if (M q).isSome = true then (1 : Int32) else 0) = if (M (a20 0).toNatClampNeg).isSome = true then 1 else 0 := by
        intro z
        subst z
        rw [e, nI_clamp (by omega)]
      cases y : M q with
      | none => rw [y] at hz; exact ⟨n0, H en fn ic il ix ga ge a1 a2 a3 a4 a5 a6 a7 a8 a9 a10 a11 a12 a13 a14 a15 a16 a17 a18 _ ⟨k1, k2, C, I, B, FX, lo, hi, hJ, hst⟩ (Or.inl rfl) hz⟩
      | some x => rw [y] at hz; exact ⟨n1, H en fn ic il ix ga ge a1 a2 a3 a4 a5 a6 a7 a8 a9 a10 a11 a12 a13 a14 a15 a16 a17 a18 _ ⟨k1, k2, C, I, B, FX, lo, hi, hJ, hst⟩ (Or.inr rfl) hz⟩
    | succ j ih =>
      intro n h1 h2
      obtain ⟨n, rfl⟩ : ∃ m, n = m + 1 := ⟨n - 1, by omega⟩
      have hvj : vp_in (nI j) 6 := vp_in_nI (by omega) (by omega)
      rw [nI_pred]
      refine br_f (nI_pos (by omega)) ?_
      rw [hcl, nI_clamp (show j < 2 ^ 31 by omega)]
      refine ⟨hvj, hv, br_c (fun _ => ⟨hvj, ?_⟩) (fun _ => nm_r (dt_m1 (nI j)) (ih n (by omega) (by omega)))⟩
      rcases (s3 j (by omega)).1 with e | e
      · rw [e]; exact ⟨n0, H en fn ic il ix ga ge a1 a2 a3 a4 a5 a6 a7 a8 a9 a10 a11 a12 a13 a14 a15 a16 a17 a18 _ hK (Or.inl rfl) (fun z => by omega)⟩
      · rw [e]; exact ⟨n1, H en fn ic il ix ga ge a1 a2 a3 a4 a5 a6 a7 a8 a9 a10 a11 a12 a13 a14 a15 a16 a17 a18 _ hK (Or.inr rfl) (fun z => by omega)⟩
  exact L k 7 (by omega) (by omega)
end
section
/-! commit -/
theorem dt_cm62 {post : Int32 → St1 → Prop} {J9 : Int32 → Int32 → Int32 → Int32 → Int32 → Int32 → Int32 → Int32 → Int32 → Int32 → Int32 → (Nat → Int32) → (Nat → Int32) → (Nat → Int32) → (Nat → Int32) → (Nat → Int32) → (Nat → Int32) → (Nat → Int32) → (Nat → Int32) → (Nat → Int32) → (Nat → Int32) → (Nat → Int32) → (Nat → Int32) → (Nat → Int32) → (Nat → Int32) → (Nat → Int32) → (Nat → Int32) → (Nat → Int32) → (Nat → Int32) → (Nat → Int32) → (Nat → Int32) → (Nat → Int32) → Prop} {en fn ic il ix ga ge sd : Int32} {a1 a2 a3 a4 a5 a6 a7 a8 a9 a10 a11 a12 a13 a14 a15 a16 a17 a18 a19 a20 a21 : Nat → Int32} {x2 x3 z0 z1 : Int32} (H0 : x2 = 0 ∨ 60 < z1 + z0 → J9 (z1 + z0) 0 (x3 + 1) en fn ic il ix ga ge sd a1 a2 a3 a4 a5 a6 a7 a8 a9 a10 a11 a12 a13 a14 a15 a16 a17 a18 a19 a20 a21) (H1 : ¬ x2 = 0 → ¬ 60 < z1 + z0 → J9 (z1 + z0) 1 (x3 + 1) en fn ic il ix ga ge sd a1 a2 a3 a4 a5 a6 a7 a8 a9 a10 a11 a12 a13 a14 a15 a16 a17 a18 a19 a20 a21) : wX_commit_62 post J9 x2 x3 z0 z1 en fn ic il ix ga ge sd a1 a2 a3 a4 a5 a6 a7 a8 a9 a10 a11 a12 a13 a14 a15 a16 a17 a18 a19 a20 a21 := by
  unfold wX_commit_62
  exact nm_e (br_c (fun y => nm_e (H0 (Or.inl y))) (fun y => br_c (fun z => nm_e (H0 (Or.inr z))) (fun z => nm_e (H1 y z))))
theorem dt_cm88 {post : Int32 → St1 → Prop} {sd : Int32} {a19 a20 a21 : Nat → Int32} {M : Nat → Option Int32} {w : Nat} (hS : dt_Sg w sd a19 a20)
    (H : ∀ (en fn ic il ix ga ge : Int32) (a1 a2 a3 a4 a5 a6 a7 a8 a9 a10 a11 a12 a13 a14 a15 a16 a17 a18 : Nat → Int32) (M' : Nat → Option Int32), dt_K M' en fn ic il ix a1 a2 a3 a4 a5 a6 a7 a8 a9 a10 a11 a12 a13 → (w = 1 → a19 0 ≠ 0 → M' = dt_pm M (a20 0).toNatClampNeg (a21 0)) → post en (en, fn, ic, il, ix, ga, ge, 0, a1, a2, a3, a4, a5, a6, a7, a8, a9, a10, a11, a12, a13, a14, a15, a16, a17, a18, a19, a20, a21)) :
    ∀ (r k n : Nat) (en fn ic il ix ga ge : Int32) (a1 a2 a3 a4 a5 a6 a7 a8 a9 a10 a11 a12 a13 a14 a15 a16 a17 a18 : Nat → Int32) (M' : Nat → Option Int32), k + r = w → r < n → dt_K M' en fn ic il ix a1 a2 a3 a4 a5 a6 a7 a8 a9 a10 a11 a12 a13 → (w = 1 → a19 0 ≠ 0 → k = 0 → M' = M) → (w = 1 → a19 0 ≠ 0 → k = 1 → M' = dt_pm M (a20 0).toNatClampNeg (a21 0)) → wX_commit_88 post 1 n (nI k) en fn ic il ix ga ge sd a1 a2 a3 a4 a5 a6 a7 a8 a9 a10 a11 a12 a13 a14 a15 a16 a17 a18 a19 a20 a21 := by
  obtain ⟨rfl, s2, s3⟩ := hS
  intro r
  induction r with
  | zero =>
    intro k n en fn ic il ix ga ge a1 a2 a3 a4 a5 a6 a7 a8 a9 a10 a11 a12 a13 a14 a15 a16 a17 a18 M' h1 h2 hK h3 h4
    obtain ⟨n, rfl⟩ : ∃ m, n = m + 1 := ⟨n - 1, by omega⟩
    refine pk_le w k (fun _ => br_f (show ¬ (1 : Int32) = 0 by decide) (H en fn ic il ix ga ge a1 a2 a3 a4 a5 a6 a7 a8 a9 a10 a11 a12 a13 a14 a15 a16 a17 a18 M' hK (fun e1 e2 => h4 e1 e2 (by omega)))) (fun z => absurd z (by omega))
  | succ r ih =>
    intro k n en fn ic il ix ga ge a1 a2 a3 a4 a5 a6 a7 a8 a9 a10 a11 a12 a13 a14 a15 a16 a17 a18 M' h1 h2 hK h3 h4
    obtain ⟨n, rfl⟩ : ∃ m, n = m + 1 := ⟨n - 1, by omega⟩
    have hv : vp_in (nI k) 6 := vp_in_nI (by omega) (by omega)
    obtain ⟨s4, q, hq, e⟩ := s3 k (by omega)
    refine pk_le w k (fun z => absurd z (by omega)) (fun _ => br_f (show ¬ (1 : Int32) = 0 by decide) ?_)
    rw [nI_clamp (show k < 2 ^ 31 by omega), e]
    refine ⟨hv, br_c (fun y => ⟨hv, dt_Kremove hK hq (fun en fn ic il ix ga ge a1 a2 a3 a4 a5 a6 a7 a8 a9 a10 a11 a12 a13 a14 a15 a16 a17 a18 _ hK => nm_r (nI_1 k) ?_)⟩) (fun y => ⟨hv, hv, dt_Kput hK hq (fun en fn ic il ix ga ge a1 a2 a3 a4 a5 a6 a7 a8 a9 a10 a11 a12 a13 a14 a15 a16 a17 a18 _ hK => nm_r (nI_1 k) ?_)⟩)⟩
    · refine ih (k + 1) n en fn ic il ix ga ge a1 a2 a3 a4 a5 a6 a7 a8 a9 a10 a11 a12 a13 a14 a15 a16 a17 a18 _ (by omega) (by omega) hK (fun _ _ z => by omega) (fun e1 e2 z => ?_)
      have : k = 0 := by omega
      subst this
      exact absurd y e2
    · refine ih (k + 1) n en fn ic il ix ga ge a1 a2 a3 a4 a5 a6 a7 a8 a9 a10 a11 a12 a13 a14 a15 a16 a17 a18 _ (by omega) (by omega) hK (fun _ _ z => by omega) (fun e1 e2 z => ?_)
      have : k = 0 := by omega
      subst this
      rw [h3 e1 e2 rfl, e, nI_clamp (by omega)]
theorem dt_Kcommit {post : Int32 → St1 → Prop} {en fn ic il ix ga ge sd : Int32} {a1 a2 a3 a4 a5 a6 a7 a8 a9 a10 a11 a12 a13 a14 a15 a16 a17 a18 a19 a20 a21 : Nat → Int32} {M : Nat → Option Int32} {w : Nat} (hK : dt_K M en fn ic il ix a1 a2 a3 a4 a5 a6 a7 a8 a9 a10 a11 a12 a13) (hS : dt_Sg w sd a19 a20)
    (H0 : ∀ (en fn ic il ix ga ge : Int32) (a1 a2 a3 a4 a5 a6 a7 a8 a9 a10 a11 a12 a13 a14 a15 a16 a17 a18 : Nat → Int32), dt_K M en fn ic il ix a1 a2 a3 a4 a5 a6 a7 a8 a9 a10 a11 a12 a13 → (w = 1 → a19 0 ≠ 0 → ¬ ((M (a20 0).toNatClampNeg).isSome = true ∨ dt_c M 4096 < 60)) → post (-1) (en, fn, ic, il, ix, ga, ge, 0, a1, a2, a3, a4, a5, a6, a7, a8, a9, a10, a11, a12, a13, a14, a15, a16, a17, a18, a19, a20, a21))
    (H1 : ∀ (en fn ic il ix ga ge : Int32) (a1 a2 a3 a4 a5 a6 a7 a8 a9 a10 a11 a12 a13 a14 a15 a16 a17 a18 : Nat → Int32) (M' : Nat → Option Int32), dt_K M' en fn ic il ix a1 a2 a3 a4 a5 a6 a7 a8 a9 a10 a11 a12 a13 → (w = 1 → a19 0 ≠ 0 → ((M (a20 0).toNatClampNeg).isSome = true ∨ dt_c M 4096 < 60) ∧ M' = dt_pm M (a20 0).toNatClampNeg (a21 0)) → post en (en, fn, ic, il, ix, ga, ge, 0, a1, a2, a3, a4, a5, a6, a7, a8, a9, a10, a11, a12, a13, a14, a15, a16, a17, a18, a19, a20, a21)) : wpX_commit post (en, fn, ic, il, ix, ga, ge, sd, a1, a2, a3, a4, a5, a6, a7, a8, a9, a10, a11, a12, a13, a14, a15, a16, a17, a18, a19, a20, a21) := by
  have s2 := hS.2.1
  have hsd := hS.1
  have L : ∀ (r k n : Nat) (x1 x2 : Int32) (en fn ic il ix ga ge : Int32) (a1 a2 a3 a4 a5 a6 a7 a8 a9 a10 a11 a12 a13 a14 a15 a16 a17 a18 : Nat → Int32), k + r = w → r < n → dt_K M en fn ic il ix a1 a2 a3 a4 a5 a6 a7 a8 a9 a10 a11 a12 a13 → (x2 = 0 ∨ x2 = 1) → (w = 1 → a19 0 ≠ 0 → k = 0 → x1 = nI (dt_c M 4096) ∧ x2 = 1) →
      (w = 1 → a19 0 ≠ 0 → k = 1 → (x2 = 1 ↔ ((M (a20 0).toNatClampNeg).isSome = true ∨ dt_c M 4096 < 60))) → wX_commit_9 post n x1 x2 (nI k) en fn ic il ix ga ge sd a1 a2 a3 a4 a5 a6 a7 a8 a9 a10 a11 a12 a13 a14 a15 a16 a17 a18 a19 a20 a21 := by
    intro r
    induction r with
    | zero =>
      intro k n x1 x2 en fn ic il ix ga ge a1 a2 a3 a4 a5 a6 a7 a8 a9 a10 a11 a12 a13 a14 a15 a16 a17 a18 h1 h2 hK h3 h4 h5
      obtain ⟨n, rfl⟩ : ∃ m, n = m + 1 := ⟨n - 1, by omega⟩
      refine pk_le w k (fun _ => ⟨7, ?_⟩) (fun z => absurd z (by omega)) (hx := hsd)
      rcases h3 with rfl | rfl
      · have fin : wX_commit_146 post 0 en fn ic il ix ga ge sd a1 a2 a3 a4 a5 a6 a7 a8 a9 a10 a11 a12 a13 a14 a15 a16 a17 a18 a19 a20 a21 := br_t rfl (H0 en fn ic il ix ga ge a1 a2 a3 a4 a5 a6 a7 a8 a9 a10 a11 a12 a13 a14 a15 a16 a17 a18 hK (fun e1 e2 z => by
          have := (h5 e1 e2 (by omega)).mpr z
          exact absurd this (by decide)))
        exact br_c (fun _ => fin) (fun _ => br_t rfl fin)
      · refine dt_cm88 (M := M) hS (fun en fn ic il ix ga ge a1 a2 a3 a4 a5 a6 a7 a8 a9 a10 a11 a12 a13 a14 a15 a16 a17 a18 M' hK h => H1 en fn ic il ix ga ge a1 a2 a3 a4 a5 a6 a7 a8 a9 a10 a11 a12 a13 a14 a15 a16 a17 a18 M' hK (fun e1 e2 => ⟨(h5 e1 e2 (by omega)).mp rfl, h e1 e2⟩)) w 0 7 en fn ic il ix ga ge a1 a2 a3 a4 a5 a6 a7 a8 a9 a10 a11 a12 a13 a14 a15 a16 a17 a18 M (by omega) (by omega) hK (fun _ _ _ => rfl) (fun _ _ z => by omega)
    | succ r ih =>
      intro k n x1 x2 en fn ic il ix ga ge a1 a2 a3 a4 a5 a6 a7 a8 a9 a10 a11 a12 a13 a14 a15 a16 a17 a18 h1 h2 hK h3 h4 h5
      obtain ⟨n, rfl⟩ : ∃ m, n = m + 1 := ⟨n - 1, by omega⟩
      have hv : vp_in (nI k) 6 := vp_in_nI (by omega) (by omega)
      have hcl : (nI k).toNatClampNeg = k := nI_clamp (by omega)
      refine pk_le w k (fun z => absurd z (by omega)) (fun _ => ?_) (hx := hsd)
      refine dt_Kthere hK hS (by omega) (fun en fn ic il ix ga ge a1 a2 a3 a4 a5 a6 a7 a8 a9 a10 a11 a12 a13 a14 a15 a16 a17 a18 r0 hK hr hr0 => ⟨hv, ?_⟩)
      have h60 := hK.2.1
      have step : ∀ z0 : Int32, (w = 1 → a19 0 ≠ 0 → k = 0 → z0 = if (M (a20 0).toNatClampNeg).isSome = true then 0 else 1) → wX_commit_62 post (wX_commit_9 post n) x2 (nI k) z0 x1 en fn ic il ix ga ge sd a1 a2 a3 a4 a5 a6 a7 a8 a9 a10 a11 a12 a13 a14 a15 a16 a17 a18 a19 a20 a21 := by
        intro z0 hz
        have key : w = 1 → a19 0 ≠ 0 → k = 0 → (¬ 60 < x1 + z0 ↔ ((M (a20 0).toNatClampNeg).isSome = true ∨ dt_c M 4096 < 60)) := by
          intro e1 e2 e3
          rw [(h4 e1 e2 e3).1, hz e1 e2 e3]
          by_cases y : (M (a20 0).toNatClampNeg).isSome = true
          · rw [if_pos y]
            refine ⟨fun _ => Or.inl y, fun _ => ?_⟩
            rw [show nI (dt_c M 4096) + 0 = nI (dt_c M 4096) from nI_add _ 0]
            exact nI_nlt (a := 60) (b := dt_c M 4096) (by omega) (by omega)
          · rw [if_neg y, nI_1]
            have : (60 : Int32) < nI (dt_c M 4096 + 1) ↔ 60 < dt_c M 4096 + 1 := nI_ltI (a := 60) (by omega) (by omega)
            rw [this]
            constructor
            · intro z; exact Or.inr (by omega)
            · rintro (z | z)
              · exact absurd z y
              · omega
        refine dt_cm62 (fun y => ?_) (fun y z => ?_)
        · rw [nI_1]
          refine ih (k + 1) n _ 0 en fn ic il ix ga ge a1 a2 a3 a4 a5 a6 a7 a8 a9 a10 a11 a12 a13 a14 a15 a16 a17 a18 (by omega) (by omega) hK (Or.inl rfl) (fun _ _ z => by omega) (fun e1 e2 e3 => ⟨fun z => absurd z (by decide), fun z => ?_⟩)
          rcases y with y | y
          · rw [(h4 e1 e2 (by omega)).2] at y; exact absurd y (by decide)
          · exact absurd y ((key e1 e2 (by omega)).mpr z)
        · rw [nI_1]
          exact ih (k + 1) n _ 1 en fn ic il ix ga ge a1 a2 a3 a4 a5 a6 a7 a8 a9 a10 a11 a12 a13 a14 a15 a16 a17 a18 (by omega) (by omega) hK (Or.inr rfl) (fun _ _ z => by omega) (fun e1 e2 e3 => ⟨fun _ => (key e1 e2 (by omega)).mp z, fun _ => rfl⟩)
      rw [hcl]
      refine br_c (fun y => ?_) (fun y => br_c (fun z => ?_) (fun z => ?_))
      · unfold wX_commit_43
        rw [hcl]
        refine ⟨hv, br_t y (br_c (fun _ => ?_) (fun _ => ?_))⟩
        · exact step 0 (fun e1 e2 e3 => absurd (by rw [← e3]; exact y) e2)
        · exact step (-1) (fun e1 e2 e3 => absurd (by rw [← e3]; exact y) e2)
      · refine step 1 (fun e1 e2 e3 => ?_)
        have := hr0 e3
        rw [z] at this
        by_cases x : (M (a20 0).toNatClampNeg).isSome = true
        · rw [if_pos x] at this; exact absurd this (by decide)
        · rw [if_neg x]
      · unfold wX_commit_43
        rw [hcl]
        refine ⟨hv, br_f y (step 0 (fun e1 e2 e3 => ?_))⟩
        have := hr0 e3
        by_cases x : (M (a20 0).toNatClampNeg).isSome = true
        · rw [if_pos x]
        · rw [if_neg x] at this; exact absurd this z
  refine ⟨7, L w 0 7 en 1 en fn ic il ix ga ge a1 a2 a3 a4 a5 a6 a7 a8 a9 a10 a11 a12 a13 a14 a15 a16 a17 a18 (by omega) (by omega) hK (Or.inr rfl) (fun _ _ _ => ⟨hK.1, rfl⟩) (fun _ _ z => by omega)⟩
/-! the law's key and ranges -/
theorem dt_nx_ne {M : Nat → Option Int32} {q : Nat} (hq : q < 4096) (e : M q = none) : ¬ dt_nx M q = nI q := by
  rw [dt_nx_s hq e]
  rcases dt_nx_c (M := M) (k := q + 1) (by omega) with z | ⟨j, j1, j2, j3⟩
  · rw [z]
    intro y
    have := nI_pos (n := q) (by omega)
    rw [← y] at this
    exact this (by decide)
  · rw [j3, nI_eq (by omega) (by omega)]; omega
theorem dt_pv_ne {M : Nat → Option Int32} {q : Nat} (hq : q < 4096) (e : M q = none) : ¬ dt_pv M (q + 1) = nI q := by
  rw [dt_pv_s e]
  rcases dt_pv_c M q with z | ⟨j, j1, j3⟩
  · rw [z]
    intro y
    have := nI_pos (n := q) (by omega)
    rw [← y] at this
    exact this (by decide)
  · rw [j3, nI_eq (by omega) (by omega)]; omega
theorem dt_Kkey {post : Int32 → St1 → Prop} {en fn ic il ix ga ge sd : Int32} {a1 a2 a3 a4 a5 a6 a7 a8 a9 a10 a11 a12 a13 a14 a15 a16 a17 a18 a19 a20 a21 : Nat → Int32} {M : Nat → Option Int32} {x : Int32} (hK : dt_K M en fn ic il ix a1 a2 a3 a4 a5 a6 a7 a8 a9 a10 a11 a12 a13) (H : ∀ (en fn ic il ix ga ge : Int32) (a1 a2 a3 a4 a5 a6 a7 a8 a9 a10 a11 a12 a13 a14 a15 a16 a17 a18 : Nat → Int32), dt_K M en fn ic il ix a1 a2 a3 a4 a5 a6 a7 a8 a9 a10 a11 a12 a13 → post 1 (en, fn, ic, il, ix, ga, ge, sd, a1, a2, a3, a4, a5, a6, a7, a8, a9, a10, a11, a12, a13, a14, a15, a16, a17, a18, a19, a20, a21)) : wpL_key post (en, fn, ic, il, ix, ga, ge, sd, a1, a2, a3, a4, a5, a6, a7, a8, a9, a10, a11, a12, a13, a14, a15, a16, a17, a18, a19, a20, a21) x := by
  unfold wpL_key
  dsimp only
  by_cases hx : 0 ≤ x ∧ x ≤ 4095
  · obtain ⟨q, hq, rfl⟩ := nI_of2 (M := 4095) (n := 4095) (by decide) (Int32.not_lt.mpr hx.1) hx.2
    refine dt_Khas hK (by omega) (fun en fn ic il ix ga ge a1 a2 a3 a4 a5 a6 a7 a8 a9 a10 a11 a12 a13 a14 a15 a16 a17 a18 hK => br_f (nI_pos (by omega)) (br_f (nI_nlt (a := 4095) (b := q) (by omega) (by omega)) ?_))
    cases e : M q with
    | none =>
      show wL_key_22 post (nI q) 0 1 en fn ic il ix ga ge sd a1 a2 a3 a4 a5 a6 a7 a8 a9 a10 a11 a12 a13 a14 a15 a16 a17 a18 a19 a20 a21
      refine br_f (by decide) (br_f (by decide) (br_f (show ¬ (1 : Int32) = 0 by decide) (br_t rfl (dt_Kget hK (by omega) (fun en fn ic il ix ga ge a1 a2 a3 a4 a5 a6 a7 a8 a9 a10 a11 a12 a13 a14 a15 a16 a17 a18 hK => br_t (by rw [e]; rfl) (br_f (show ¬ (1 : Int32) = 0 by decide) (br_f (by decide) ?_)))))))
      unfold wL_key_68
      refine dt_Knext hK (by omega) (fun en fn ic il ix ga ge a1 a2 a3 a4 a5 a6 a7 a8 a9 a10 a11 a12 a13 a14 a15 a16 a17 a18 hK => br_f (dt_nx_ne (by omega) e) (br_t rfl (br_f (by decide) ?_)))
      unfold wL_key_95
      exact dt_Kprev hK (by omega) (fun en fn ic il ix ga ge a1 a2 a3 a4 a5 a6 a7 a8 a9 a10 a11 a12 a13 a14 a15 a16 a17 a18 hK => br_f (dt_pv_ne (by omega) e) (br_t rfl (H en fn ic il ix ga ge a1 a2 a3 a4 a5 a6 a7 a8 a9 a10 a11 a12 a13 a14 a15 a16 a17 a18 hK)))
    | some v =>
      show wL_key_22 post (nI q) 1 1 en fn ic il ix ga ge sd a1 a2 a3 a4 a5 a6 a7 a8 a9 a10 a11 a12 a13 a14 a15 a16 a17 a18 a19 a20 a21
      refine br_f (by decide) (br_f (by decide) (br_f (show ¬ (1 : Int32) = 0 by decide) (br_f (show ¬ (1 : Int32) = 0 by decide) (br_f (show ¬ (1 : Int32) = 0 by decide) (br_t rfl ?_)))))
      unfold wL_key_68
      refine dt_Knext hK (by omega) (fun en fn ic il ix ga ge a1 a2 a3 a4 a5 a6 a7 a8 a9 a10 a11 a12 a13 a14 a15 a16 a17 a18 hK => br_t (dt_nx_hit (by omega) e) (br_t rfl (br_t rfl ?_)))
      unfold wL_key_95
      exact dt_Kprev hK (by omega) (fun en fn ic il ix ga ge a1 a2 a3 a4 a5 a6 a7 a8 a9 a10 a11 a12 a13 a14 a15 a16 a17 a18 hK => br_t (dt_pv_hit e) (br_t rfl (H en fn ic il ix ga ge a1 a2 a3 a4 a5 a6 a7 a8 a9 a10 a11 a12 a13 a14 a15 a16 a17 a18 hK)))
  · refine dt_has_no hx ?_
    have fin : wL_key_21 post x 0 en fn ic il ix ga ge sd a1 a2 a3 a4 a5 a6 a7 a8 a9 a10 a11 a12 a13 a14 a15 a16 a17 a18 a19 a20 a21 := br_f (by decide) (br_f (by decide) (br_t rfl (br_t rfl (br_t rfl (dt_get_no hx (br_t rfl (br_t rfl (H en fn ic il ix ga ge a1 a2 a3 a4 a5 a6 a7 a8 a9 a10 a11 a12 a13 a14 a15 a16 a17 a18 hK))))))))
    exact br_c (fun _ => fin) (fun y => br_c (fun _ => fin) (fun z => absurd ⟨Int32.not_lt.mp y, Int32.not_lt.mp z⟩ hx))
theorem dt_Kranges {post : Int32 → St1 → Prop} {en fn ic il ix ga ge sd : Int32} {a1 a2 a3 a4 a5 a6 a7 a8 a9 a10 a11 a12 a13 a14 a15 a16 a17 a18 a19 a20 a21 : Nat → Int32} {M : Nat → Option Int32} {a b c : Nat} (hK : dt_K M en fn ic il ix a1 a2 a3 a4 a5 a6 a7 a8 a9 a10 a11 a12 a13) (ha : a < 4096) (hb : b < 4096) (hc : c < 4096) (H : ∀ (en fn ic il ix ga ge : Int32) (a1 a2 a3 a4 a5 a6 a7 a8 a9 a10 a11 a12 a13 a14 a15 a16 a17 a18 : Nat → Int32), dt_K M en fn ic il ix a1 a2 a3 a4 a5 a6 a7 a8 a9 a10 a11 a12 a13 → post 1 (en, fn, ic, il, ix, ga, ge, sd, a1, a2, a3, a4, a5, a6, a7, a8, a9, a10, a11, a12, a13, a14, a15, a16, a17, a18, a19, a20, a21)) : wpL_ranges post (en, fn, ic, il, ix, ga, ge, sd, a1, a2, a3, a4, a5, a6, a7, a8, a9, a10, a11, a12, a13, a14, a15, a16, a17, a18, a19, a20, a21) (nI a) (nI b) (nI c) := by
  have R : ∀ l m : Nat, l ≤ m → m < 4096 → wL_ranges_22 post (nI c) (nI l) (nI m) en fn ic il ix ga ge sd a1 a2 a3 a4 a5 a6 a7 a8 a9 a10 a11 a12 a13 a14 a15 a16 a17 a18 a19 a20 a21 := by
    intro l m h1 h2
    unfold wL_ranges_22
    rw [nI_1]
    refine pk_le c m (fun _ => H en fn ic il ix ga ge a1 a2 a3 a4 a5 a6 a7 a8 a9 a10 a11 a12 a13 a14 a15 a16 a17 a18 hK) (fun z => ?_)
    refine dt_Kcount hK (by omega) h2 (fun en fn ic il ix ga ge a1 a2 a3 a4 a5 a6 a7 a8 a9 a10 a11 a12 a13 a14 a15 a16 a17 a18 hK => dt_Kcount hK (by omega) hc (fun en fn ic il ix ga ge a1 a2 a3 a4 a5 a6 a7 a8 a9 a10 a11 a12 a13 a14 a15 a16 a17 a18 hK => dt_Kcount hK (by omega) hc (fun en fn ic il ix ga ge a1 a2 a3 a4 a5 a6 a7 a8 a9 a10 a11 a12 a13 a14 a15 a16 a17 a18 hK => br_t ?_ (H en fn ic il ix ga ge a1 a2 a3 a4 a5 a6 a7 a8 a9 a10 a11 a12 a13 a14 a15 a16 a17 a18 hK))))
    have f1 := dt_c_mono (F := M) (a := l) (b := m + 1) (by omega)
    have f2 := dt_c_mono (F := M) (a := m + 1) (b := c + 1) (by omega)
    rw [nI_add]
    congr 1
    omega
  exact pk_le b a (fun z => pk_le b a (fun _ => R b a z ha) (fun y => absurd y (by omega))) (fun z => pk_le b a (fun y => absurd y (by omega)) (fun _ => R a b (by omega) hb))
end
section
/-! the law's turn -/
theorem dt_law434 {post : Int32 → Prop} {J12 : Int32 → Int32 → Int32 → Int32 → Int32 → Int32 → Int32 → Int32 → Int32 → Int32 → (Nat → Int32) → (Nat → Int32) → (Nat → Int32) → (Nat → Int32) → (Nat → Int32) → (Nat → Int32) → (Nat → Int32) → (Nat → Int32) → (Nat → Int32) → (Nat → Int32) → (Nat → Int32) → (Nat → Int32) → (Nat → Int32) → (Nat → Int32) → (Nat → Int32) → (Nat → Int32) → (Nat → Int32) → (Nat → Int32) → (Nat → Int32) → (Nat → Int32) → (Nat → Int32) → Prop} {en fn ic il ix ga ge sd : Int32} {a1 a2 a3 a4 a5 a6 a7 a8 a9 a10 a11 a12 a13 a14 a15 a16 a17 a18 a19 a20 a21 : Nat → Int32} {xs : Nat → Int32} {L kc ks i a : Nat} {x2 x6 : Int32} {M : Nat → Option Int32} (hL : L ≤ 260) (hi : i + 3 ≤ L) (ha : a < 4096) (hK : dt_K M en fn ic il ix a1 a2 a3 a4 a5 a6 a7 a8 a9 a10 a11 a12 a13)
    (H : ∀ (en fn ic il ix ga ge : Int32) (a1 a2 a3 a4 a5 a6 a7 a8 a9 a10 a11 a12 a13 a14 a15 a16 a17 a18 : Nat → Int32), dt_K M en fn ic il ix a1 a2 a3 a4 a5 a6 a7 a8 a9 a10 a11 a12 a13 → J12 x2 (nI (i + 3)) en fn ic il ix ga ge sd a1 a2 a3 a4 a5 a6 a7 a8 a9 a10 a11 a12 a13 a14 a15 a16 a17 a18 a19 a20 a21) : wL_law_434 post L xs J12 x2 (nI i) (nI a) x6 kc ks en fn ic il ix ga ge sd a1 a2 a3 a4 a5 a6 a7 a8 a9 a10 a11 a12 a13 a14 a15 a16 a17 a18 a19 a20 a21 := by
  have hv : vp_in (nI i + 1) L := by rw [nI_1]; exact vp_in_nI (by omega) (by omega)
  have n1 : ¬ (1 : Int32) = 0 := by decide
  unfold wL_law_434
  refine dt_Kkey hK (fun en fn ic il ix ga ge a1 a2 a3 a4 a5 a6 a7 a8 a9 a10 a11 a12 a13 a14 a15 a16 a17 a18 hK => br_f n1 ⟨hv, dt_Kkey hK (fun en fn ic il ix ga ge a1 a2 a3 a4 a5 a6 a7 a8 a9 a10 a11 a12 a13 a14 a15 a16 a17 a18 hK => br_f n1 ⟨hv, ?_⟩)⟩)
  obtain ⟨b, hb, eb⟩ := pk_andE x6 (m := 4095) 12 (by decide)
  obtain ⟨c, hc, ec⟩ := pk_andE (xs (nI i + 1).toNatClampNeg >>> ((16 : Int32) &&& 31)) (m := 4095) 12 (by decide)
  rw [eb, ec]
  exact dt_Kranges hK ha hb hc (fun en fn ic il ix ga ge a1 a2 a3 a4 a5 a6 a7 a8 a9 a10 a11 a12 a13 a14 a15 a16 a17 a18 hK => br_f n1 (nm_r (nI_add i 3) (H en fn ic il ix ga ge a1 a2 a3 a4 a5 a6 a7 a8 a9 a10 a11 a12 a13 a14 a15 a16 a17 a18 hK)))
theorem dt_law67 {post : Int32 → Prop} {J12 : Int32 → Int32 → Int32 → Int32 → Int32 → Int32 → Int32 → Int32 → Int32 → Int32 → (Nat → Int32) → (Nat → Int32) → (Nat → Int32) → (Nat → Int32) → (Nat → Int32) → (Nat → Int32) → (Nat → Int32) → (Nat → Int32) → (Nat → Int32) → (Nat → Int32) → (Nat → Int32) → (Nat → Int32) → (Nat → Int32) → (Nat → Int32) → (Nat → Int32) → (Nat → Int32) → (Nat → Int32) → (Nat → Int32) → (Nat → Int32) → (Nat → Int32) → (Nat → Int32) → Prop} {en fn ic il ix ga ge sd : Int32} {a1 a2 a3 a4 a5 a6 a7 a8 a9 a10 a11 a12 a13 a14 a15 a16 a17 a18 a19 a20 a21 : Nat → Int32} {xs : Nat → Int32} {L kc ks i a k w : Nat} {M : Nat → Option Int32} (hL : L ≤ 260) (hi : i + 3 ≤ L) (ha : a < 4096) (hk : k < 16) (hK : dt_K M en fn ic il ix a1 a2 a3 a4 a5 a6 a7 a8 a9 a10 a11 a12 a13) (hS : dt_Sg w sd a19 a20)
    (H : ∀ (en fn ic il ix ga ge sd : Int32) (a1 a2 a3 a4 a5 a6 a7 a8 a9 a10 a11 a12 a13 a14 a15 a16 a17 a18 a19 a20 a21 : Nat → Int32) (M : Nat → Option Int32) (w : Nat), dt_K M en fn ic il ix a1 a2 a3 a4 a5 a6 a7 a8 a9 a10 a11 a12 a13 → dt_Sg w sd a19 a20 → J12 (nI w) (nI (i + 3)) en fn ic il ix ga ge sd a1 a2 a3 a4 a5 a6 a7 a8 a9 a10 a11 a12 a13 a14 a15 a16 a17 a18 a19 a20 a21) : wL_law_67 post L xs J12 (nI w) (nI i) (nI k) (nI a) kc ks en fn ic il ix ga ge sd a1 a2 a3 a4 a5 a6 a7 a8 a9 a10 a11 a12 a13 a14 a15 a16 a17 a18 a19 a20 a21 := by
  have hv : vp_in (nI i + 2) L := by rw [show nI i + 2 = nI (i + 2) from nI_add i 2]; exact vp_in_nI (by omega) (by omega)
  have n1 : ¬ (1 : Int32) = 0 := by decide
  have s2 := hS.2.1
  unfold wL_law_67
  refine ⟨hv, nm_e ?_⟩
  refine pk_lt 7 k (fun _ => pk_lt 9 k (fun _ => pk_eq k 10 (fun _ => ?_) (fun _ => pk_eq k 11 (fun _ => ?_) (fun _ => pk_eq k 12 (fun _ => ?_) (fun _ => pk_eq k 13 (fun _ => ?_) (fun _ => ?_))))) (fun _ => ?_)) (fun _ => ?_)
  · refine dt_Khas hK ha (fun en fn ic il ix ga ge a1 a2 a3 a4 a5 a6 a7 a8 a9 a10 a11 a12 a13 a14 a15 a16 a17 a18 hK => dt_Kget hK ha (fun en fn ic il ix ga ge a1 a2 a3 a4 a5 a6 a7 a8 a9 a10 a11 a12 a13 a14 a15 a16 a17 a18 hK => dt_Kswap hK ha rfl (fun e en fn ic il ix ga ge a1 a2 a3 a4 a5 a6 a7 a8 a9 a10 a11 a12 a13 a14 a15 a16 a17 a18 hK => ?_) (fun v e en fn ic il ix ga ge a1 a2 a3 a4 a5 a6 a7 a8 a9 a10 a11 a12 a13 a14 a15 a16 a17 a18 hK => ?_)))
    · refine br_t (by rw [e]; rfl) (br_f (by rw [e]; decide) ?_)
      exact dt_law434 hL hi ha hK (fun en fn ic il ix ga ge a1 a2 a3 a4 a5 a6 a7 a8 a9 a10 a11 a12 a13 a14 a15 a16 a17 a18 hK => H en fn ic il ix ga ge sd a1 a2 a3 a4 a5 a6 a7 a8 a9 a10 a11 a12 a13 a14 a15 a16 a17 a18 a19 a20 a21 _ w hK hS)
    · refine br_t (by rw [e]; rfl) (br_t (by rw [e]; rfl) (dt_Kget hK ha (fun en fn ic il ix ga ge a1 a2 a3 a4 a5 a6 a7 a8 a9 a10 a11 a12 a13 a14 a15 a16 a17 a18 hK => br_t (by rw [dt_set_s]; rfl) ?_)))
      exact dt_law434 hL hi ha hK (fun en fn ic il ix ga ge a1 a2 a3 a4 a5 a6 a7 a8 a9 a10 a11 a12 a13 a14 a15 a16 a17 a18 hK => H en fn ic il ix ga ge sd a1 a2 a3 a4 a5 a6 a7 a8 a9 a10 a11 a12 a13 a14 a15 a16 a17 a18 a19 a20 a21 _ w hK hS)
  · have T11 : ∀ b : Int32, (b = 0 ∨ b = 1) → ∀ (en fn ic il ix ga ge : Int32) (a1 a2 a3 a4 a5 a6 a7 a8 a9 a10 a11 a12 a13 a14 a15 a16 a17 a18 : Nat → Int32), dt_K M en fn ic il ix a1 a2 a3 a4 a5 a6 a7 a8 a9 a10 a11 a12 a13 → wL_law_200 post L xs J12 (nI w) (nI i) (nI a) (xs (nI i + 2).toNatClampNeg) (dt_st M a) b kc ks en fn ic il ix ga ge sd a1 a2 a3 a4 a5 a6 a7 a8 a9 a10 a11 a12 a13 a14 a15 a16 a17 a18 a19 a20 a21 := by
      intro b hb en fn ic il ix ga ge a1 a2 a3 a4 a5 a6 a7 a8 a9 a10 a11 a12 a13 a14 a15 a16 a17 a18 hK
      unfold wL_law_200
      refine dt_Kstage hS hb ha (fun e => ?_) (fun e hS2 => ?_)
      · refine br_t (by rw [e]; rfl) (br_t rfl (dt_Kstate hK ha (fun en fn ic il ix ga ge a1 a2 a3 a4 a5 a6 a7 a8 a9 a10 a11 a12 a13 a14 a15 a16 a17 a18 hK => br_t rfl (br_t (by rw [e]; rfl) ?_))))
        rw [show (6 : Int32) = nI w by rw [e]; rfl]
        exact dt_law434 hL hi ha hK (fun en fn ic il ix ga ge a1 a2 a3 a4 a5 a6 a7 a8 a9 a10 a11 a12 a13 a14 a15 a16 a17 a18 hK => H en fn ic il ix ga ge sd a1 a2 a3 a4 a5 a6 a7 a8 a9 a10 a11 a12 a13 a14 a15 a16 a17 a18 a19 a20 a21 _ w hK hS)
      · have e6 : ¬ nI w = 6 := fun z => by
          have := (nI_eq (a := w) (b := 6) (by omega) (by omega)).mp z
          omega
        refine br_f e6 (br_t (nI_1 w).symm (dt_Kstate hK ha (fun en fn ic il ix ga ge a1 a2 a3 a4 a5 a6 a7 a8 a9 a10 a11 a12 a13 a14 a15 a16 a17 a18 hK => br_t rfl (br_f e6 ?_))))
        rw [nI_1]
        exact dt_law434 hL hi ha hK (fun en fn ic il ix ga ge a1 a2 a3 a4 a5 a6 a7 a8 a9 a10 a11 a12 a13 a14 a15 a16 a17 a18 hK => H en fn ic il ix ga ge _ a1 a2 a3 a4 a5 a6 a7 a8 a9 a10 a11 a12 a13 a14 a15 a16 a17 a18 _ _ _ _ (w + 1) hK hS2)
    exact dt_Kstate hK ha (fun en fn ic il ix ga ge a1 a2 a3 a4 a5 a6 a7 a8 a9 a10 a11 a12 a13 a14 a15 a16 a17 a18 hK => br_c (fun _ => T11 1 (Or.inr rfl) en fn ic il ix ga ge a1 a2 a3 a4 a5 a6 a7 a8 a9 a10 a11 a12 a13 a14 a15 a16 a17 a18 hK) (fun _ => T11 0 (Or.inl rfl) en fn ic il ix ga ge a1 a2 a3 a4 a5 a6 a7 a8 a9 a10 a11 a12 a13 a14 a15 a16 a17 a18 hK))
  · have S0 : dt_Sg 0 0 a19 a20 := ⟨rfl, by omega, fun k hk => absurd hk (by omega)⟩
    refine dt_Kcommit hK hS (fun en fn ic il ix ga ge a1 a2 a3 a4 a5 a6 a7 a8 a9 a10 a11 a12 a13 a14 a15 a16 a17 a18 hK _ => br_t rfl (br_t (by decide) ?_)) (fun en fn ic il ix ga ge a1 a2 a3 a4 a5 a6 a7 a8 a9 a10 a11 a12 a13 a14 a15 a16 a17 a18 M' hK _ => ?_)
    · exact dt_law434 (x2 := 0) hL hi ha hK (fun en fn ic il ix ga ge a1 a2 a3 a4 a5 a6 a7 a8 a9 a10 a11 a12 a13 a14 a15 a16 a17 a18 hK => H en fn ic il ix ga ge 0 a1 a2 a3 a4 a5 a6 a7 a8 a9 a10 a11 a12 a13 a14 a15 a16 a17 a18 a19 a20 a21 _ 0 hK S0)
    · obtain ⟨k1, k2, k3⟩ := hK
      subst k1
      have hne : ¬ nI (dt_c M' 4096) = -1 := fun z => by
        have := nI_pos (n := dt_c M' 4096) (by omega)
        rw [z] at this
        exact this (by decide)
      have hK : dt_K M' (nI (dt_c M' 4096)) fn ic il ix a1 a2 a3 a4 a5 a6 a7 a8 a9 a10 a11 a12 a13 := ⟨rfl, k2, k3⟩
      refine br_f hne (dt_Kcount (l := 0) (h := 4095) hK (by omega) (by omega) (fun en fn ic il ix ga ge a1 a2 a3 a4 a5 a6 a7 a8 a9 a10 a11 a12 a13 a14 a15 a16 a17 a18 hK => br_t rfl (br_t (nI_le (b := 60) k2 (by omega)) ?_)))
      exact dt_law434 (x2 := 0) hL hi ha hK (fun en fn ic il ix ga ge a1 a2 a3 a4 a5 a6 a7 a8 a9 a10 a11 a12 a13 a14 a15 a16 a17 a18 hK => H en fn ic il ix ga ge 0 a1 a2 a3 a4 a5 a6 a7 a8 a9 a10 a11 a12 a13 a14 a15 a16 a17 a18 a19 a20 a21 _ 0 hK S0)
  · have S0 : dt_Sg 0 0 a19 a20 := ⟨rfl, by omega, fun k hk => absurd hk (by omega)⟩
    have fin : ∀ (en fn ic il ix ga ge sd : Int32) (a1 a2 a3 a4 a5 a6 a7 a8 a9 a10 a11 a12 a13 a14 a15 a16 a17 a18 a19 a20 a21 : Nat → Int32) (M : Nat → Option Int32), dt_K M en fn ic il ix a1 a2 a3 a4 a5 a6 a7 a8 a9 a10 a11 a12 a13 → wL_law_406 post L xs J12 0 (nI i) (nI a) (xs (nI i + 2).toNatClampNeg) kc ks en fn ic il ix ga ge 0 a1 a2 a3 a4 a5 a6 a7 a8 a9 a10 a11 a12 a13 a14 a15 a16 a17 a18 a19 a20 a21 := fun en fn ic il ix ga ge sd a1 a2 a3 a4 a5 a6 a7 a8 a9 a10 a11 a12 a13 a14 a15 a16 a17 a18 a19 a20 a21 M hK =>
      dt_law434 (x2 := 0) hL hi ha hK (fun en fn ic il ix ga ge a1 a2 a3 a4 a5 a6 a7 a8 a9 a10 a11 a12 a13 a14 a15 a16 a17 a18 hK => H en fn ic il ix ga ge 0 a1 a2 a3 a4 a5 a6 a7 a8 a9 a10 a11 a12 a13 a14 a15 a16 a17 a18 a19 a20 a21 _ 0 hK ⟨rfl, by omega, fun k hk => absurd hk (by omega)⟩)
    refine dt_Kcommit hK hS (fun en fn ic il ix ga ge a1 a2 a3 a4 a5 a6 a7 a8 a9 a10 a11 a12 a13 a14 a15 a16 a17 a18 hK _ => ?_) (fun en fn ic il ix ga ge a1 a2 a3 a4 a5 a6 a7 a8 a9 a10 a11 a12 a13 a14 a15 a16 a17 a18 M hK _ => ?_)
    all_goals
      refine dt_Kstage S0 (Or.inr rfl) ha (fun z => absurd z (by omega)) (fun _ hS1 => br_t rfl ?_)
      refine dt_Kcommit hK hS1 (fun en fn ic il ix ga ge a1 a2 a3 a4 a5 a6 a7 a8 a9 a10 a11 a12 a13 a14 a15 a16 a17 a18 hK h => br_t rfl ?_) (fun en fn ic il ix ga ge a1 a2 a3 a4 a5 a6 a7 a8 a9 a10 a11 a12 a13 a14 a15 a16 a17 a18 M' hK h => ?_)
      · have h := h rfl (by rw [pk_us]; decide)
        rw [pk_us, nI_clamp (by omega)] at h
        have h60 := hK.2.1
        have hc : dt_c M 4096 = 60 := by omega
        have hn : M a = none := by
          cases e : M a with
          | none => rfl
          | some v => exact absurd (Or.inl (by rw [e]; rfl)) h
        refine dt_Kcount (l := 0) (h := 4095) hK (by omega) (by omega) (fun en fn ic il ix ga ge a1 a2 a3 a4 a5 a6 a7 a8 a9 a10 a11 a12 a13 a14 a15 a16 a17 a18 hK => br_t (by rw [hc, dt_c_0]; rfl) (dt_Khas hK ha (fun en fn ic il ix ga ge a1 a2 a3 a4 a5 a6 a7 a8 a9 a10 a11 a12 a13 a14 a15 a16 a17 a18 hK => br_t (by rw [hn]; rfl) ?_)))
        exact fin en fn ic il ix ga ge 0 a1 a2 a3 a4 a5 a6 a7 a8 a9 a10 a11 a12 a13 a14 a15 a16 a17 a18 _ _ _ M hK
      · have h := h rfl (by rw [pk_us]; decide)
        rw [pk_us, pk_us, nI_clamp (by omega)] at h
        obtain ⟨h, hM⟩ := h
        have hM : M' = dt_set M a (some (xs (nI i + 2).toNatClampNeg)) := by rw [hM]; exact if_pos h
        obtain ⟨k1, k2, k3⟩ := hK
        subst k1
        have hne : ¬ nI (dt_c M' 4096) = -1 := fun z => by
          have := nI_pos (n := dt_c M' 4096) (by omega)
          rw [z] at this
          exact this (by decide)
        have hK : dt_K M' (nI (dt_c M' 4096)) fn ic il ix a1 a2 a3 a4 a5 a6 a7 a8 a9 a10 a11 a12 a13 := ⟨rfl, k2, k3⟩
        refine br_f hne (dt_Kcount (l := 0) (h := 4095) hK (by omega) (by omega) (fun en fn ic il ix ga ge a1 a2 a3 a4 a5 a6 a7 a8 a9 a10 a11 a12 a13 a14 a15 a16 a17 a18 hK => br_t rfl (dt_Kget hK ha (fun en fn ic il ix ga ge a1 a2 a3 a4 a5 a6 a7 a8 a9 a10 a11 a12 a13 a14 a15 a16 a17 a18 hK => br_t (by rw [hM, dt_set_s]; rfl) (dt_Khas hK ha (fun en fn ic il ix ga ge a1 a2 a3 a4 a5 a6 a7 a8 a9 a10 a11 a12 a13 a14 a15 a16 a17 a18 hK => br_t (by rw [hM, dt_set_s]; rfl) ?_))))))
        exact fin en fn ic il ix ga ge 0 a1 a2 a3 a4 a5 a6 a7 a8 a9 a10 a11 a12 a13 a14 a15 a16 a17 a18 _ _ _ M' hK
  · refine dt_Kstate hK ha (fun en fn ic il ix ga ge a1 a2 a3 a4 a5 a6 a7 a8 a9 a10 a11 a12 a13 a14 a15 a16 a17 a18 hK => dt_Ktidy hK (fun en fn ic il ix ga ge a1 a2 a3 a4 a5 a6 a7 a8 a9 a10 a11 a12 a13 a14 a15 a16 a17 a18 hK => dt_Kstate hK ha (fun en fn ic il ix ga ge a1 a2 a3 a4 a5 a6 a7 a8 a9 a10 a11 a12 a13 a14 a15 a16 a17 a18 hK => br_t rfl ?_)))
    exact dt_law434 hL hi ha hK (fun en fn ic il ix ga ge a1 a2 a3 a4 a5 a6 a7 a8 a9 a10 a11 a12 a13 a14 a15 a16 a17 a18 hK => H en fn ic il ix ga ge sd a1 a2 a3 a4 a5 a6 a7 a8 a9 a10 a11 a12 a13 a14 a15 a16 a17 a18 a19 a20 a21 _ w hK hS)
  · exact dt_Kremove hK ha (fun en fn ic il ix ga ge a1 a2 a3 a4 a5 a6 a7 a8 a9 a10 a11 a12 a13 a14 a15 a16 a17 a18 _ hK => dt_law434 hL hi ha hK (fun en fn ic il ix ga ge a1 a2 a3 a4 a5 a6 a7 a8 a9 a10 a11 a12 a13 a14 a15 a16 a17 a18 hK => H en fn ic il ix ga ge sd a1 a2 a3 a4 a5 a6 a7 a8 a9 a10 a11 a12 a13 a14 a15 a16 a17 a18 a19 a20 a21 _ w hK hS))
  · exact dt_Kput hK ha (fun en fn ic il ix ga ge a1 a2 a3 a4 a5 a6 a7 a8 a9 a10 a11 a12 a13 a14 a15 a16 a17 a18 _ hK => dt_law434 hL hi ha hK (fun en fn ic il ix ga ge a1 a2 a3 a4 a5 a6 a7 a8 a9 a10 a11 a12 a13 a14 a15 a16 a17 a18 hK => H en fn ic il ix ga ge sd a1 a2 a3 a4 a5 a6 a7 a8 a9 a10 a11 a12 a13 a14 a15 a16 a17 a18 a19 a20 a21 _ w hK hS))
/-! the loop, the start -/
theorem dt_law12 {post : Int32 → Prop} {xs : Nat → Int32} {L kc ks : Nat} (hL : L ≤ 260) (hp : post 1) : ∀ (n i w : Nat) (en fn ic il ix ga ge sd : Int32) (a1 a2 a3 a4 a5 a6 a7 a8 a9 a10 a11 a12 a13 a14 a15 a16 a17 a18 a19 a20 a21 : Nat → Int32) (M : Nat → Option Int32), L - i < n → i ≤ L → dt_K M en fn ic il ix a1 a2 a3 a4 a5 a6 a7 a8 a9 a10 a11 a12 a13 → dt_Sg w sd a19 a20 → wL_law_12 post L xs kc ks n (nI w) (nI i) en fn ic il ix ga ge sd a1 a2 a3 a4 a5 a6 a7 a8 a9 a10 a11 a12 a13 a14 a15 a16 a17 a18 a19 a20 a21 := by
  intro n
  induction n with
  | zero => intro i w en fn ic il ix ga ge sd a1 a2 a3 a4 a5 a6 a7 a8 a9 a10 a11 a12 a13 a14 a15 a16 a17 a18 a19 a20 a21 M h1 h2 hK hS; omega
  | succ n ih =>
    intro i w en fn ic il ix ga ge sd a1 a2 a3 a4 a5 a6 a7 a8 a9 a10 a11 a12 a13 a14 a15 a16 a17 a18 a19 a20 a21 M h1 h2 hK hS
    refine pk_lt L (i + 3) (fun _ => hp) (fun z => ?_) (hy := nI_add i 3)
    have hv : vp_in (nI i) L := vp_in_nI (by omega) (by omega)
    have hv1 : vp_in (nI i + 1) L := by rw [nI_1]; exact vp_in_nI (by omega) (by omega)
    obtain ⟨k, hk, ek⟩ := pk_andE (xs (nI i).toNatClampNeg) (m := 15) 4 (by decide)
    refine ⟨hv, nm_r ek ⟨hv1, br_c (fun _ => ⟨hv1, by decide, ?_⟩) (fun _ => ⟨hv1, ?_⟩)⟩⟩
    · obtain ⟨c, hc, ec⟩ := pk_andE (xs (nI i + 1).toNatClampNeg) (m := 255) 8 (by decide)
      have e : ((xs (nI i + 1).toNatClampNeg &&& 255) - (xs (nI i + 1).toNatClampNeg &&& 255) / 100 * 100) * 7 = nI (c % 100 * 7) := by
        rw [ec, show nI c - nI c / 100 * 100 = nI (c % 100) from pk_rem (a := c) (d := 100) (by omega) (by omega) (by omega)]
        exact pk_mul (c % 100) 7
      rw [e]
      exact dt_law67 hL z (by omega) hk hK hS (fun en fn ic il ix ga ge sd a1 a2 a3 a4 a5 a6 a7 a8 a9 a10 a11 a12 a13 a14 a15 a16 a17 a18 a19 a20 a21 M w hK hS => ih (i + 3) w en fn ic il ix ga ge sd a1 a2 a3 a4 a5 a6 a7 a8 a9 a10 a11 a12 a13 a14 a15 a16 a17 a18 a19 a20 a21 M (by omega) z hK hS)
    · obtain ⟨c, hc, ec⟩ := pk_andE (xs (nI i + 1).toNatClampNeg) (m := 4095) 12 (by decide)
      rw [ec]
      exact dt_law67 hL z hc hk hK hS (fun en fn ic il ix ga ge sd a1 a2 a3 a4 a5 a6 a7 a8 a9 a10 a11 a12 a13 a14 a15 a16 a17 a18 a19 a20 a21 M w hK hS => ih (i + 3) w en fn ic il ix ga ge sd a1 a2 a3 a4 a5 a6 a7 a8 a9 a10 a11 a12 a13 a14 a15 a16 a17 a18 a19 a20 a21 M (by omega) z hK hS)
theorem i_vc (xs : Nat → Int32) (L : Nat) (hL : L ≤ 260) : wpL_law (fun r => r = 1) L xs := by
  have e0 : dt_rs (fun _ => none) 0 4096 = fun _ => none := by
    funext k
    by_cases z : 0 ≤ k ∧ k < 4096
    · rw [dt_rs_in z.1 z.2]
    · exact dt_rs_out (by omega)
  have hc0 : dt_c (fun _ => none) 4096 = 0 := (dt_Rep_0 (fun _ => 0) (fun _ => 0)).1.symm
  refine ⟨21, 1562, by decide, by decide, ?_⟩
  unfold wpX_init
  dsimp only
  refine ⟨by decide, by decide, by decide, by decide, by decide, by decide, by decide, by decide, by decide, by decide, by decide, by decide, by decide, by decide, by decide, by decide, by decide, by decide, by decide, by decide, by decide, by decide, by decide, by decide, by decide, by decide, by decide, by decide, by decide, by decide, by decide, by decide, by decide, by decide, by decide, by decide, by decide, by decide, by decide, by decide, by decide, by decide, ?_⟩
  refine dt_lay (M := fun _ => none) (tt := 0) (by omega) (by rw [e0]; exact dt_Rep_0 _ _) (fun fn ic il ix ga ge a1 a2 a3 a4 a5 a6 a7 a8 a9 a10 a11 a12 a13 a14 a15 a16 a17 a18 C I B FX lo hi hJ hst => ?_)
  refine ⟨261, dt_law12 (post := fun r => r = 1) hL rfl 261 0 0 0 fn ic il ix ga ge 0 a1 a2 a3 a4 a5 a6 a7 a8 a9 a10 a11 a12 a13 a14 a15 a16 a17 a18 (fun _ => 0) (fun _ => 0) (fun _ => 0) (fun _ => none) (by omega) (by omega) ⟨by rw [hc0]; rfl, by rw [hc0]; omega, C, I, B, FX, lo, hi, hJ, hst⟩ ⟨rfl, by omega, fun k hk => absurd hk (by omega)⟩⟩
end

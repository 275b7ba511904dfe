section
/-! counting -/
section
def fm_ct (P : Nat → Bool) : Nat → Nat
  | 0 => 0
  | n + 1 => fm_ct P n + (if P n = true then 1 else 0)
/-- the count over j, j+1, .., j+m-1 -/
def fm_cr (P : Nat → Bool) (j : Nat) : Nat → Nat
  | 0 => 0
  | m + 1 => (if P j = true then 1 else 0) + fm_cr P (j + 1) m
theorem fm_ct_t {P : Nat → Bool} {n : Nat} (h : P n = true) : fm_ct P (n + 1) = fm_ct P n + 1 := by
  show fm_ct P n + (if P n = true then 1 else 0) = _
  rw [if_pos h]
theorem fm_ct_f {P : Nat → Bool} {n : Nat} (h : P n = false) : fm_ct P (n + 1) = fm_ct P n := by
  show fm_ct P n + (if P n = true then 1 else 0) = _
  rw [h]
  rfl
theorem fm_ct_mono {P Q : Nat → Bool} (n : Nat) (h : ∀ i, i < n → P i = true → Q i = true) : fm_ct P n ≤ fm_ct Q n := by
  induction n with
  | zero => exact Nat.le_refl _
  | succ n ih =>
    have t := ih (fun i hi => h i (by omega))
    have h2 := h n (by omega)
    cases hp : P n with
    | true => rw [fm_ct_t hp, fm_ct_t (h2 hp)]; omega
    | false =>
      rw [fm_ct_f hp]
      cases hq : Q n with
      | true => rw [fm_ct_t hq]; omega
      | false => rw [fm_ct_f hq]; exact t
theorem fm_ct_le {P : Nat → Bool} (n : Nat) : fm_ct P n ≤ n := by
  induction n with
  | zero => exact Nat.le_refl _
  | succ n ih =>
    cases hp : P n with
    | true => rw [fm_ct_t hp]; omega
    | false => rw [fm_ct_f hp]; omega
theorem fm_ct_or {P Q : Nat → Bool} (n : Nat) : fm_ct (fun i => P i || Q i) n ≤ fm_ct P n + fm_ct Q n := by
  induction n with
  | zero => exact Nat.le_refl _
  | succ n ih =>
    cases hp : P n with
    | true =>
      rw [fm_ct_t hp, fm_ct_t (P := fun i => P i || Q i) (show (P n || Q n) = true by rw [hp]; rfl)]
      have : fm_ct Q n ≤ fm_ct Q (n + 1) := Nat.le_add_right _ _
      omega
    | false =>
      rw [fm_ct_f hp]
      cases hq : Q n with
      | true => rw [fm_ct_t hq, fm_ct_t (P := fun i => P i || Q i) (show (P n || Q n) = true by rw [hp, hq]; rfl)]; omega
      | false => rw [fm_ct_f hq, fm_ct_f (P := fun i => P i || Q i) (show (P n || Q n) = false by rw [hp, hq]; rfl)]; exact ih
theorem fm_ct_one (t n : Nat) : fm_ct (fun q => decide (q = t)) n ≤ 1 ∧ (n ≤ t → fm_ct (fun q => decide (q = t)) n = 0) := by
  induction n with
  | zero => exact ⟨Nat.zero_le _, fun _ => rfl⟩
  | succ n ih =>
    by_cases e : n = t
    · rw [fm_ct_t (P := fun q => decide (q = t)) (decide_eq_true e), ih.2 (by omega)]
      exact ⟨Nat.le_refl _, fun h => absurd h (by omega)⟩
    · rw [fm_ct_f (P := fun q => decide (q = t)) (decide_eq_false e)]
      exact ⟨ih.1, fun h => ih.2 (by omega)⟩
theorem fm_ct_none {P : Nat → Bool} (n : Nat) (h : ∀ i, i < n → P i = false) : fm_ct P n = 0 := by
  induction n with
  | zero => rfl
  | succ n ih => rw [fm_ct_f (h n (by omega))]; exact ih (fun i hi => h i (by omega))
theorem fm_ct_all {P : Nat → Bool} (n : Nat) (h : ∀ i, i < n → P i = true) : fm_ct P n = n := by
  induction n with
  | zero => rfl
  | succ n ih => rw [fm_ct_t (h n (by omega)), ih (fun i hi => h i (by omega))]
/-- pigeons: what lies in the image of m places counts at most m -/
theorem fm_pig (f : Nat → Nat) (n : Nat) : ∀ (m : Nat) (P : Nat → Bool), (∀ q, q < n → P q = true → ∃ p, p < m ∧ f p = q) → fm_ct P n ≤ m := by
  intro m
  induction m with
  | zero =>
    intro P h
    rw [fm_ct_none n (fun q hq => ?_)]
    · exact Nat.le_refl _
    · cases e : P q with
      | false => rfl
      | true => obtain ⟨p, hp, _⟩ := h q hq e; exact absurd hp (by omega)
  | succ m ih =>
    intro P h
    have h1 : fm_ct (fun q => P q && decide (q ≠ f m)) n ≤ m := by
      refine ih _ (fun q hq e => ?_)
      have e' : (P q && decide (q ≠ f m)) = true := e
      rw [Bool.and_eq_true, decide_eq_true_eq] at e'
      obtain ⟨p, hp, hf⟩ := h q hq e'.1
      refine ⟨p, ?_, hf⟩
      have : p ≠ m := fun z => e'.2 (by rw [← hf, z])
      omega
    have h2 := (fm_ct_one (f m) n).1
    have h3 := fm_ct_or (P := fun q => P q && decide (q ≠ f m)) (Q := fun q => decide (q = f m)) n
    have h4 : fm_ct P n ≤ fm_ct (fun i => (P i && decide (i ≠ f m)) || decide (i = f m)) n := by
      refine fm_ct_mono n (fun i _ e => ?_)
      show ((P i && decide (i ≠ f m)) || decide (i = f m)) = true
      rw [e]
      by_cases z : i = f m
      · rw [decide_eq_true z, Bool.or_true]
      · rw [decide_eq_true (p := i ≠ f m) z]; rfl
    omega
theorem fm_cr_t {P : Nat → Bool} {j m : Nat} (h : P j = true) : fm_cr P j (m + 1) = 1 + fm_cr P (j + 1) m := by
  show (if P j = true then 1 else 0) + fm_cr P (j + 1) m = _
  rw [if_pos h]
theorem fm_cr_f {P : Nat → Bool} {j m : Nat} (h : P j = false) : fm_cr P j (m + 1) = fm_cr P (j + 1) m := by
  show (if P j = true then 1 else 0) + fm_cr P (j + 1) m = _
  rw [h]
  exact Nat.zero_add _
theorem fm_cr_mono {P Q : Nat → Bool} : ∀ (m j : Nat), (∀ i, j ≤ i → i < j + m → P i = true → Q i = true) → fm_cr P j m ≤ fm_cr Q j m := by
  intro m
  induction m with
  | zero => exact fun j _ => Nat.le_refl _
  | succ m ih =>
    intro j h
    have t := ih (j + 1) (fun i hi hi2 => h i (by omega) (by omega))
    have h2 := h j (by omega) (by omega)
    cases hp : P j with
    | true => rw [fm_cr_t hp, fm_cr_t (h2 hp)]; omega
    | false =>
      rw [fm_cr_f hp]
      cases hq : Q j with
      | true => rw [fm_cr_t hq]; omega
      | false => rw [fm_cr_f hq]; exact t
theorem fm_cr_ct (P : Nat → Bool) : fm_cr P 0 4 = fm_ct P 4 := by
  show (if P 0 = true then 1 else 0) + ((if P 1 = true then 1 else 0) + ((if P 2 = true then 1 else 0) + ((if P 3 = true then 1 else 0) + 0))) = 0 + (if P 0 = true then 1 else 0) + (if P 1 = true then 1 else 0) + (if P 2 = true then 1 else 0) + (if P 3 = true then 1 else 0)
  omega
/-- four pages a block -/
theorem fm_ct4 (P : Nat → Bool) (n : Nat) : fm_ct P (4 * (n + 1)) = fm_ct P (4 * n) + fm_ct (fun j => P (4 * n + j)) 4 := by
  show fm_ct P (4 * n) + (if P (4 * n) = true then 1 else 0) + (if P (4 * n + 1) = true then 1 else 0) + (if P (4 * n + 2) = true then 1 else 0) + (if P (4 * n + 3) = true then 1 else 0) = fm_ct P (4 * n) + (0 + (if P (4 * n + 0) = true then 1 else 0) + (if P (4 * n + 1) = true then 1 else 0) + (if P (4 * n + 2) = true then 1 else 0) + (if P (4 * n + 3) = true then 1 else 0))
  rw [Nat.add_zero (4 * n)]
  omega
theorem fm_three (P E : Nat → Bool) : ∀ n, (∀ b, b < n → E b = false → 3 ≤ fm_ct (fun j => P (4 * b + j)) 4) → 3 * n ≤ fm_ct P (4 * n) + 3 * fm_ct E n := by
  intro n
  induction n with
  | zero => exact fun _ => Nat.zero_le _
  | succ n ih =>
    intro h
    have t := ih (fun b hb => h b (by omega))
    rw [fm_ct4]
    cases e : E n with
    | true => rw [fm_ct_t e]; omega
    | false =>
      have := h n (by omega) e
      rw [fm_ct_f e]; omega
/-- the emptiest block that isn't free holds at most two valid pages -/
theorem fm_gc {P E : Nat → Bool} {v : Nat} (hE : fm_ct E 8 ≤ 3) (hP : fm_ct P 32 ≤ 12) (hm : ∀ b, b < 8 → E b = false → fm_ct (fun j => P (4 * v + j)) 4 ≤ fm_ct (fun j => P (4 * b + j)) 4) : fm_ct (fun j => P (4 * v + j)) 4 ≤ 2 := by
  by_cases h : fm_ct (fun j => P (4 * v + j)) 4 ≤ 2
  · exact h
  · have t := fm_three P E 8 (fun b hb e => by have := hm b hb e; omega)
    have t' : 3 * 8 ≤ fm_ct P 32 + 3 * fm_ct E 8 := t
    omega
/-- two free blocks: another than a given one -/
theorem fm_other {E : Nat → Bool} {c : Nat} (h : 1 < fm_ct E 8) : ∃ d, d < 8 ∧ d ≠ c ∧ E d = true := by
  apply Classical.byContradiction
  intro hn
  have t : fm_ct E 8 ≤ fm_ct (fun q => decide (q = c)) 8 := by
    refine fm_ct_mono 8 (fun i hi e => ?_)
    by_cases z : i = c
    · exact decide_eq_true z
    · exact absurd ⟨i, hi, z, e⟩ hn
  have := (fm_ct_one c 8).1
  omega
/-- some free block -/
theorem fm_notall {E : Nat → Bool} (h : fm_ct E 8 ≤ 3) : ∃ d, d < 8 ∧ E d = false := by
  apply Classical.byContradiction
  intro hn
  have t : fm_ct E 8 = 8 := by
    refine fm_ct_all 8 (fun i hi => ?_)
    cases e : E i with
    | true => rfl
    | false => exact absurd ⟨i, hi, e⟩ hn
  omega
end
/-! small rows over Int32 -/
section
theorem fm_4 (b : Nat) : (4 : Int32) * nI b = nI (4 * b) := pk_mul 4 b
theorem fm_44 (b : Nat) : (4 : Int32) * nI b + 4 = nI (4 * b + 4) := by
  rw [fm_4]
  exact nI_add (4 * b) 4
theorem fm_43 (b : Nat) : (4 : Int32) * nI b + 3 = nI (4 * b + 3) := by
  rw [fm_4]
  exact nI_add (4 * b) 3
theorem fm_b32 : ∀ q, q < 32 → (nI q).toInt8.toInt32 = nI q := by decide +kernel
theorem fm_bool {e : Int32} (h : e = 0 ∨ e = 1) : vp_nar .boolean e = e := by
  rcases h with rfl | rfl <;> rfl
theorem fm_lt_tr {a b c : Int32} (h : a < b) (g : b < c) : a < c := by
  rw [Int32.lt_iff_toInt_lt] at *
  omega
theorem fm_le_tr {a b c : Int32} (h : a ≤ b) (g : b ≤ c) : a ≤ c := by
  rw [Int32.le_iff_toInt_le] at *
  omega
theorem fm_lt_le {a b c : Int32} (h : a < b) (g : b ≤ c) : a < c := by
  rw [Int32.lt_iff_toInt_lt] at *
  rw [Int32.le_iff_toInt_le] at g
  omega
theorem fm_lt_irr {a : Int32} : ¬ a < a := by
  rw [Int32.lt_iff_toInt_lt]
  omega
theorem fm_le_rf (a : Int32) : a ≤ a := by
  rw [Int32.le_iff_toInt_le]
  omega
theorem fm_nlt {a b : Int32} (h : ¬ a < b) : b ≤ a := by
  rw [Int32.le_iff_toInt_le]
  rw [Int32.lt_iff_toInt_lt] at h
  omega
theorem fm_nle {a b : Int32} (h : ¬ a ≤ b) : b < a := by
  rw [Int32.lt_iff_toInt_lt]
  rw [Int32.le_iff_toInt_le] at h
  omega
theorem fm_m1 {t : Nat} (ht : t < 2 ^ 31) : ¬ (-1 : Int32) = nI t := by
  intro h
  have := nI_pos ht
  rw [← h] at this
  exact this (by decide)
theorem fm_inj {a b : Nat} (h : nI a = nI b) (ha : a < 2 ^ 31 := by omega) (hb : b < 2 ^ 31 := by omega) : a = b := (nI_eq ha hb).mp h
end
end
section
/-! the picture: what the flash says (fm_C), how the blocks stand (fm_G, fm_B, fm_Z, fm_A) -/
section
def fm_up (V : Nat → Option Int32) (p : Nat) (x : Option Int32) : Nat → Option Int32 := fun y => if y = p then x else V y
theorem fm_up_s {V : Nat → Option Int32} {p : Nat} {x : Option Int32} : fm_up V p x p = x := if_pos rfl
theorem fm_up_n {V : Nat → Option Int32} {p y : Nat} {x : Option Int32} (h : y ≠ p) : fm_up V p x y = V y := if_neg h
theorem fm_up_id {V : Nat → Option Int32} {p : Nat} {x : Option Int32} (h : V p = x) : fm_up V p x = V := by
  funext y
  by_cases e : y = p
  · rw [e, fm_up_s, h]
  · rw [fm_up_n e]
/-- a block is erased -/
def fm_E (a1 : Nat → Int32) (b : Nat) : Bool := decide (a1 (4 * b + 0) = 0 ∧ a1 (4 * b + 1) = 0 ∧ a1 (4 * b + 2) = 0 ∧ a1 (4 * b + 3) = 0)
theorem fm_E_t {a1 : Nat → Int32} {b : Nat} : fm_E a1 b = true ↔ ∀ j, j < 4 → a1 (4 * b + j) = 0 := by
  rw [fm_E, decide_eq_true_iff]
  constructor
  · rintro ⟨h0, h1, h2, h3⟩ j hj
    match j, hj with
    | 0, _ => exact h0
    | 1, _ => exact h1
    | 2, _ => exact h2
    | 3, _ => exact h3
    | n + 4, h => exact absurd h (by omega)
  · intro h
    exact ⟨h 0 (by omega), h 1 (by omega), h 2 (by omega), h 3 (by omega)⟩
theorem fm_E_f {a1 : Nat → Int32} {b j : Nat} (hj : j < 4) (h : a1 (4 * b + j) ≠ 0) : fm_E a1 b = false := by
  cases e : fm_E a1 b with
  | false => rfl
  | true => exact absurd (fm_E_t.mp e j hj) h
/-- a block is full -/
def fm_F (a1 : Nat → Int32) (b : Nat) : Prop := ∀ j, j < 4 → a1 (4 * b + j) ≠ 0
/-- a page is valid -/
def fm_v (a1 a3 a7 : Nat → Int32) (q : Nat) : Bool := decide (a1 q = 1 ∧ a7 (a3 q).toNatClampNeg = nI q)
/-- the flash and the places say V; all numbers are below N -/
def fm_C (V : Nat → Option Int32) (N : Nat) (a1 a2 a3 a4 a5 a7 : Nat → Int32) : Prop :=
  (∀ q, q < 32 → a1 q = 1 → (∃ l, l < 12 ∧ a3 q = nI l) ∧ (a4 q = 0 ∨ a4 q = 1) ∧ a5 q < nI N) ∧
  (∀ p, p < 12 → (a7 p = -1 ∧ V p = none ∧ ∀ q, q < 32 → a1 q = 1 → a3 q ≠ nI p) ∨
    (∃ t, t < 32 ∧ a7 p = nI t ∧ a1 t = 1 ∧ a3 t = nI p ∧ V p = (if a4 t = 0 then some (a2 t) else none) ∧ ∀ q, q < 32 → a1 q = 1 → a3 q = nI p → q ≠ t → a5 q < a5 t))
/-- block b holds k pages, the rest of it is erased; every other block is erased or full -/
def fm_G (a1 : Nat → Int32) (b k : Nat) : Prop :=
  b < 8 ∧ k ≤ 4 ∧ (∀ j, j < k → a1 (4 * b + j) ≠ 0) ∧ (∀ j, k ≤ j → j < 4 → a1 (4 * b + j) = 0) ∧ (∀ c, c < 8 → c ≠ b → fm_E a1 c = true ∨ fm_F a1 c)
def fm_B (a1 : Nat → Int32) (b k : Nat) : Prop := fm_G a1 b k ∧ ∃ c, c < 8 ∧ c ≠ b ∧ fm_E a1 c = true
def fm_Z (a1 : Nat → Int32) : Prop := (∀ c, c < 8 → fm_E a1 c = true ∨ fm_F a1 c) ∧ ∃ c, c < 8 ∧ fm_E a1 c = true
def fm_A (a1 : Nat → Int32) (ob : Int32) : Prop := (ob = -1 ∧ fm_Z a1) ∨ ∃ b k, 1 ≤ k ∧ ob = nI b ∧ fm_B a1 b k
theorem fm_BZ {a1 : Nat → Int32} {b : Nat} (h : fm_B a1 b 4) : fm_Z a1 := by
  obtain ⟨⟨h1, h2, h3, h4, h5⟩, c, hc, hn, he⟩ := h
  refine ⟨fun d hd => ?_, c, hc, he⟩
  by_cases e : d = b
  · rw [e]; exact Or.inr h3
  · exact h5 d hd e
variable {V : Nat → Option Int32} {N : Nat} {a1 a2 a3 a4 a5 a7 : Nat → Int32}
/-- a page's place -/
theorem fm_C_at {p t : Nat} (h : fm_C V N a1 a2 a3 a4 a5 a7) (hp : p < 12) (ht : t < 32) (e : a7 p = nI t) : a1 t = 1 ∧ a3 t = nI p ∧ V p = (if a4 t = 0 then some (a2 t) else none) ∧ ∀ q, q < 32 → a1 q = 1 → a3 q = nI p → q ≠ t → a5 q < a5 t := by
  rcases h.2 p hp with ⟨z, _⟩ | ⟨t', ht', e', r1, r2, r3, r4⟩
  · rw [z] at e
    exact absurd e (fm_m1 (by omega))
  · have : t' = t := fm_inj (by rw [← e', e])
    subst this
    exact ⟨r1, r2, r3, r4⟩
theorem fm_v_iff {q : Nat} (h : fm_C V N a1 a2 a3 a4 a5 a7) (hq : q < 32) : fm_v a1 a3 a7 q = true ↔ ∃ p, p < 12 ∧ a7 p = nI q := by
  rw [fm_v, decide_eq_true_iff]
  constructor
  · rintro ⟨h1, h2⟩
    obtain ⟨⟨l, hl, e⟩, _⟩ := h.1 q hq h1
    rw [e, nI_clamp (by omega)] at h2
    exact ⟨l, hl, h2⟩
  · rintro ⟨p, hp, e⟩
    obtain ⟨h1, h2, _⟩ := fm_C_at h hp hq e
    rw [h2, nI_clamp (by omega)]
    exact ⟨h1, e⟩
/-- at most twelve pages are valid -/
theorem fm_v12 (h : fm_C V N a1 a2 a3 a4 a5 a7) : fm_ct (fm_v a1 a3 a7) 32 ≤ 12 := by
  refine fm_pig (fun p => (a7 p).toNatClampNeg) 32 12 _ (fun q hq e => ?_)
  obtain ⟨p, hp, e'⟩ := (fm_v_iff h hq).mp e
  refine ⟨p, hp, ?_⟩
  show (a7 p).toNatClampNeg = q
  rw [e', nI_clamp (by omega)]
/-- pages that aren't any place's may be lost or written over -/
theorem fm_C_sub {b1 b2 b3 b4 b5 : Nat → Int32} (h : fm_C V N a1 a2 a3 a4 a5 a7)
    (h1 : ∀ q, q < 32 → b1 q = 1 → a1 q = 1 ∧ b2 q = a2 q ∧ b3 q = a3 q ∧ b4 q = a4 q ∧ b5 q = a5 q)
    (h2 : ∀ p t, p < 12 → t < 32 → a7 p = nI t → b1 t = 1) : fm_C V N b1 b2 b3 b4 b5 a7 := by
  refine ⟨fun q hq e => ?_, fun p hp => ?_⟩
  · obtain ⟨e1, e2, e3, e4, e5⟩ := h1 q hq e
    rw [e3, e4, e5]
    exact h.1 q hq e1
  · rcases h.2 p hp with ⟨z, y, w⟩ | ⟨t, ht, e, r1, r2, r3, r4⟩
    · refine Or.inl ⟨z, y, fun q hq g => ?_⟩
      obtain ⟨e1, e2, e3, e4, e5⟩ := h1 q hq g
      rw [e3]
      exact w q hq e1
    · have g := h2 p t hp ht e
      obtain ⟨e1, e2, e3, e4, e5⟩ := h1 t ht g
      refine Or.inr ⟨t, ht, e, g, by rw [e3, r2], by rw [e4, e2, r3], fun q hq gq l n => ?_⟩
      obtain ⟨d1, d2, d3, d4, d5⟩ := h1 q hq gq
      rw [d5, e5]
      exact r4 q hq d1 (by rw [← d3, l]) n
/-- other places, alike below twelve; a smaller bound -/
theorem fm_C_st {M : Nat} {b7 : Nat → Int32} (h : fm_C V N a1 a2 a3 a4 a5 a7) (h1 : ∀ q, q < 32 → a1 q = 1 → a5 q < nI M) (h2 : ∀ p, p < 12 → b7 p = a7 p) : fm_C V M a1 a2 a3 a4 a5 b7 := by
  refine ⟨fun q hq e => ?_, fun p hp => ?_⟩
  · obtain ⟨r1, r2, r3⟩ := h.1 q hq e
    exact ⟨r1, r2, h1 q hq e⟩
  · rw [h2 p hp]
    exact h.2 p hp
theorem fm_C_V {V' : Nat → Option Int32} (h : fm_C V N a1 a2 a3 a4 a5 a7) (hV : ∀ p, p < 12 → V' p = V p) : fm_C V' N a1 a2 a3 a4 a5 a7 := by
  refine ⟨h.1, fun p hp => ?_⟩
  rw [hV p hp]
  exact h.2 p hp
/-- a page is written -/
theorem fm_C_fill {t p : Nat} {v e : Int32} (h : fm_C V N a1 a2 a3 a4 a5 a7) (hN : N < 2 ^ 30) (ht : t < 32) (hf : a1 t ≠ 1) (hp : p < 12) (he : e = 0 ∨ e = 1) :
    fm_C (fm_up V p (if e = 0 then some v else none)) (N + 1) (upd a1 t 1) (upd a2 t v) (upd a3 t (nI p)) (upd a4 t e) (upd a5 t (nI N)) (upd a7 p (nI t)) := by
  have hNN : nI N < nI (N + 1) := nI_lt (by omega) (by omega)
  refine ⟨fun q hq g => ?_, fun p' hp' => ?_⟩
  · by_cases c : q = t
    · subst c
      rw [pk_us, pk_us, pk_us]
      exact ⟨⟨p, hp, rfl⟩, he, hNN⟩
    · rw [pk_un c] at g
      rw [pk_un c, pk_un c, pk_un c]
      obtain ⟨r1, r2, r3⟩ := h.1 q hq g
      exact ⟨r1, r2, fm_lt_tr r3 hNN⟩
  · by_cases c : p' = p
    · subst c
      refine Or.inr ⟨t, ht, pk_us, pk_us, pk_us, ?_, fun q hq g l n => ?_⟩
      · rw [fm_up_s, pk_us, pk_us]
      · rw [pk_un n] at g
        rw [pk_un n, pk_us]
        exact (h.1 q hq g).2.2
    · rw [fm_up_n c, pk_un c]
      rcases h.2 p' hp' with ⟨z, y, w⟩ | ⟨t', ht', e', r1, r2, r3, r4⟩
      · refine Or.inl ⟨z, y, fun q hq g => ?_⟩
        by_cases d : q = t
        · rw [d, pk_us]
          intro k
          exact c (fm_inj k).symm
        · rw [pk_un d] at g
          rw [pk_un d]
          exact w q hq g
      · have d : t' ≠ t := fun k => hf (by rw [← k, r1])
        refine Or.inr ⟨t', ht', e', by rw [pk_un d, r1], by rw [pk_un d, r2], by rw [pk_un d, pk_un d, r3], fun q hq g l n => ?_⟩
        by_cases f : q = t
        · rw [f, pk_us] at l
          exact absurd (fm_inj l).symm c
        · rw [pk_un f] at g l
          rw [pk_un f, pk_un d]
          exact r4 q hq g l n
theorem fm_C_0 : fm_C (fun _ => none) 1 (fun _ => 0) a2 a3 a4 a5 (fun _ => -1) :=
  have z : ¬ (0 : Int32) = 1 := by decide
  ⟨fun q _ g => absurd g z, fun p _ => Or.inl ⟨rfl, rfl, fun q _ g => absurd g z⟩⟩
end
/-! the blocks when a page changes -/
section
variable {a1 b1 : Nat → Int32}
theorem fm_E_cg {c : Nat} (h : ∀ j, j < 4 → b1 (4 * c + j) = a1 (4 * c + j)) : fm_E b1 c = fm_E a1 c := by
  cases e : fm_E a1 c with
  | true => exact fm_E_t.mpr (fun j hj => by rw [h j hj]; exact fm_E_t.mp e j hj)
  | false =>
    cases g : fm_E b1 c with
    | false => rfl
    | true =>
      have := (fm_E_t (a1 := a1) (b := c)).mpr (fun j hj => by rw [← h j hj]; exact fm_E_t.mp g j hj)
      rw [e] at this
      exact this.symm
theorem fm_F_cg {c : Nat} (h : ∀ j, j < 4 → b1 (4 * c + j) = a1 (4 * c + j)) (hF : fm_F a1 c) : fm_F b1 c := fun j hj => by
  rw [h j hj]
  exact hF j hj
/-- the open block's next page is written -/
theorem fm_G_w {b k : Nat} {x : Int32} (h : fm_G a1 b k) (hk : k < 4) (hx : x ≠ 0) : fm_G (upd a1 (4 * b + k) x) b (k + 1) := by
  obtain ⟨h1, h2, h3, h4, h5⟩ := h
  refine ⟨h1, by omega, fun j hj => ?_, fun j hj hj4 => ?_, fun c hc n => ?_⟩
  · by_cases e : j = k
    · rw [e, pk_us]; exact hx
    · rw [pk_un (by omega)]; exact h3 j (by omega)
  · rw [pk_un (by omega)]
    exact h4 j (by omega) hj4
  · have g : ∀ j, j < 4 → upd a1 (4 * b + k) x (4 * c + j) = a1 (4 * c + j) := fun j hj => pk_un (by omega)
    rcases h5 c hc n with e | e
    · rw [fm_E_cg g]; exact Or.inl e
    · exact Or.inr (fm_F_cg g e)
theorem fm_B_w {b k : Nat} {x : Int32} (h : fm_B a1 b k) (hk : k < 4) (hx : x ≠ 0) : fm_B (upd a1 (4 * b + k) x) b (k + 1) := by
  obtain ⟨hG, c, hc, n, e⟩ := h
  have h1 := hG.1
  refine ⟨fm_G_w hG hk hx, c, hc, n, ?_⟩
  rw [fm_E_cg (fun j hj => pk_un (by omega))]
  exact e
/-- a block is erased -/
theorem fm_G_e {b k v : Nat} (h : fm_G a1 b k) (hv : v < 8) (hn : v ≠ b) (h0 : ∀ i, i < 4 → b1 (4 * v + i) = 0) (ho : ∀ q, (∀ i, i < 4 → q ≠ 4 * v + i) → b1 q = a1 q) : fm_B b1 b k := by
  obtain ⟨h1, h2, h3, h4, h5⟩ := h
  have g : ∀ c, c ≠ v → ∀ j, j < 4 → b1 (4 * c + j) = a1 (4 * c + j) := fun c hc j hj => ho _ (fun i hi => by omega)
  have ev : fm_E b1 v = true := fm_E_t.mpr h0
  refine ⟨⟨h1, h2, fun j hj => ?_, fun j hj hj4 => ?_, fun c hc n => ?_⟩, v, hv, hn, ev⟩
  · rw [g b (Ne.symm hn) j (by omega)]; exact h3 j hj
  · rw [g b (Ne.symm hn) j hj4]; exact h4 j hj hj4
  · by_cases e : c = v
    · rw [e]; exact Or.inl ev
    · rcases h5 c hc n with f | f
      · rw [fm_E_cg (g c e)]; exact Or.inl f
      · exact Or.inr (fm_F_cg (g c e) f)
end
end
section
/-! the methods that only look -/
section
variable {post : Int32 → Prop} {sp ob nn : Int32} {a1 a2 a3 a4 a5 a6 a7 : Nat → Int32}
theorem fm_isE {b : Nat} (hb : b < 8) (h1 : fm_E a1 b = true → post 1) (h0 : fm_E a1 b = false → post 0) : wpX_isErased post (sp, ob, nn, a1, a2, a3, a4, a5, a6, a7) (nI b) := by
  refine nm_r (fm_4 b) ?_
  refine pk_loop (σ := Unit) (fun n j _ => wX_isErased_4 post (nI b) sp ob nn a1 a2 a3 a4 a5 a6 a7 n (nI (4 * b + j))) (fun j _ => ∀ i, i < j → a1 (4 * b + i) = 0) 4 0 () (by omega) (fun i hi => absurd hi (by omega)) ?_ ?_
  · intro n _ h
    exact pk_le (4 * b + 4) (4 * b + 4) (fun _ => h1 (fm_E_t.mpr h)) (fun z => absurd z (by omega)) (fm_44 b)
  · intro n j _ hj h hw
    refine pk_le (4 * b + 4) (4 * b + j) (fun z => absurd z (by omega)) (fun _ => ⟨pk_in (4 * b + j) 32 (by omega), ?_⟩) (fm_44 b)
    rw [nI_clamp (show 4 * b + j < 2 ^ 31 by omega)]
    exact br_c (fun z => nm_r (nI_1 (4 * b + j)) (hw () (lt_s h z))) (fun z => h0 (fm_E_f hj z))
theorem fm_nib {b k : Nat} (hb : b < 8) (hk : k ≤ 4) (h1 : ∀ j, j < k → a1 (4 * b + j) ≠ 0) (h2 : k < 4 → a1 (4 * b + k) = 0) (H1 : k < 4 → post (nI (4 * b + k))) (H2 : k = 4 → post (-1)) : wpX_nextInBlock post (sp, nI b, nn, a1, a2, a3, a4, a5, a6, a7) := by
  refine br_t (nI_pos' (by omega)) (nm_r (fm_4 b) ?_)
  refine pk_loop (σ := Unit) (fun n j _ => wX_nextInBlock_16 post sp (nI b) nn a1 a2 a3 a4 a5 a6 a7 n (nI (4 * b + j))) (fun _ _ => True) k 0 () (by omega) trivial ?_ ?_
  · intro n _ _
    refine pk_le (4 * b + 4) (4 * b + k) (fun z => H2 (by omega)) (fun z => ⟨pk_in (4 * b + k) 32 (by omega), ?_⟩) (fm_44 b)
    rw [nI_clamp (show 4 * b + k < 2 ^ 31 by omega)]
    exact br_t (h2 (by omega)) (H1 (by omega))
  · intro n j _ hj _ hw
    refine pk_le (4 * b + 4) (4 * b + j) (fun z => absurd z (by omega)) (fun _ => ⟨pk_in (4 * b + j) 32 (by omega), ?_⟩) (fm_44 b)
    rw [nI_clamp (show 4 * b + j < 2 ^ 31 by omega)]
    exact br_f (h1 j hj) (nm_r (nI_1 (4 * b + j)) (hw () trivial))
theorem fm_nib_n (H : post (-1)) : wpX_nextInBlock post (sp, -1, nn, a1, a2, a3, a4, a5, a6, a7) :=
  br_f (by decide) H
theorem fm_free (H : post (nI (fm_ct (fm_E a1) 8))) : wpX_freeBlocks post (sp, ob, nn, a1, a2, a3, a4, a5, a6, a7) := by
  refine pk_loop (σ := Unit) (fun n i _ => wX_freeBlocks_4 post sp ob nn a1 a2 a3 a4 a5 a6 a7 n (nI (fm_ct (fm_E a1) i)) (nI i)) (fun _ _ => True) 8 0 () (by omega) trivial ?_ ?_
  · intro n _ _
    exact pk_le 8 8 (fun _ => H) (fun z => absurd z (by omega))
  · intro n i _ hi _ hw
    have t : wX_freeBlocks_4 post sp ob nn a1 a2 a3 a4 a5 a6 a7 n (nI (fm_ct (fm_E a1) (i + 1))) (nI (i + 1)) := hw () trivial
    refine pk_le 8 i (fun z => absurd z (by omega)) (fun _ => fm_isE hi (fun e => br_f (by decide) ?_) (fun e => br_t rfl ?_))
    · rw [fm_ct_t e] at t
      exact nm_r (nI_1 _) (nm_r (nI_1 i) t)
    · rw [fm_ct_f e] at t
      exact nm_r (nI_1 i) t
theorem fm_lwf (he : ∃ c, c < 8 ∧ fm_E a1 c = true) (H : ∀ c, c < 8 → fm_E a1 c = true → post (nI c)) : wpX_leastWornFreeBlock post (sp, ob, nn, a1, a2, a3, a4, a5, a6, a7) := by
  refine pk_loop (fun n i s => wX_leastWornFreeBlock_4 post sp ob nn a1 a2 a3 a4 a5 a6 a7 n s (nI i)) (fun i s => (s = -1 ∧ ∀ c, c < i → fm_E a1 c = false) ∨ ∃ c, c < 8 ∧ s = nI c ∧ fm_E a1 c = true) 8 0 (-1) (by omega) (Or.inl ⟨rfl, fun c hc => absurd hc (by omega)⟩) ?_ ?_
  · intro n s h
    refine pk_le 8 8 (fun _ => ?_) (fun z => absurd z (by omega))
    rcases h with ⟨_, h⟩ | ⟨c, hc, e, g⟩
    · obtain ⟨c, hc, g⟩ := he
      rw [h c hc] at g
      exact absurd g (by decide)
    · rw [e]; exact H c hc g
  · intro n i s hi h hw
    refine pk_le 8 i (fun z => absurd z (by omega)) (fun _ => fm_isE hi (fun e => br_f (by decide) ?_) (fun e => br_t rfl (nm_r (nI_1 i) (hw s ?_))))
    · rcases h with ⟨rfl, h⟩ | ⟨c, hc, rfl, g⟩
      · exact br_t (by decide) (nm_r (nI_1 i) (hw _ (Or.inr ⟨i, hi, rfl, e⟩)))
      · exact br_f (nI_pos (by omega)) ⟨pk_in i 8 hi, pk_in c 8 hc, br_c (fun _ => nm_r (nI_1 i) (hw _ (Or.inr ⟨c, hc, rfl, g⟩))) (fun _ => nm_r (nI_1 i) (hw _ (Or.inr ⟨i, hi, rfl, e⟩)))⟩
    · rcases h with ⟨z, h⟩ | h
      · exact Or.inl ⟨z, lt_s h e⟩
      · exact Or.inr h
theorem fm_isV {q : Nat} (hq : q < 32) (hl : a1 q = 1 → ∃ l, l < 12 ∧ a3 q = nI l) (h1 : fm_v a1 a3 a7 q = true → post 1) (h0 : fm_v a1 a3 a7 q = false → post 0) : wpX_isValid post (sp, ob, nn, a1, a2, a3, a4, a5, a6, a7) (nI q) := by
  refine ⟨pk_in q 32 hq, ?_⟩
  rw [nI_clamp (show q < 2 ^ 31 by omega)]
  refine br_c (fun e => ⟨pk_in q 32 hq, ?_⟩) (fun e => h0 (decide_eq_false (fun z => e z.1)))
  obtain ⟨l, hl, el⟩ := hl e
  refine ⟨pk_in l 12 hl el, br_c (fun g => h1 (decide_eq_true ⟨e, g⟩)) (fun g => h0 (decide_eq_false (fun z => g z.2)))⟩
theorem fm_vIn {b : Nat} (hb : b < 8) (hl : ∀ q, q < 32 → a1 q = 1 → ∃ l, l < 12 ∧ a3 q = nI l) (H : post (nI (fm_ct (fun j => fm_v a1 a3 a7 (4 * b + j)) 4))) : wpX_validIn post (sp, ob, nn, a1, a2, a3, a4, a5, a6, a7) (nI b) := by
  refine nm_r (fm_4 b) ?_
  refine pk_loop (σ := Unit) (fun n j _ => wX_validIn_6 post (nI b) sp ob nn a1 a2 a3 a4 a5 a6 a7 n (nI (fm_ct (fun j => fm_v a1 a3 a7 (4 * b + j)) j)) (nI (4 * b + j))) (fun _ _ => True) 4 0 () (by omega) trivial ?_ ?_
  · intro n _ _
    exact pk_le (4 * b + 4) (4 * b + 4) (fun _ => H) (fun z => absurd z (by omega)) (fm_44 b)
  · intro n j _ hj _ hw
    have t : wX_validIn_6 post (nI b) sp ob nn a1 a2 a3 a4 a5 a6 a7 n (nI (fm_ct (fun j => fm_v a1 a3 a7 (4 * b + j)) (j + 1))) (nI (4 * b + j + 1)) := hw () trivial
    refine pk_le (4 * b + 4) (4 * b + j) (fun z => absurd z (by omega)) (fun _ => fm_isV (q := 4 * b + j) (by omega) (hl _ (by omega)) (fun e => br_f (by decide) ?_) (fun e => br_t rfl ?_)) (fm_44 b)
    · rw [fm_ct_t (P := fun j => fm_v a1 a3 a7 (4 * b + j)) e] at t
      exact nm_r (nI_1 _) (nm_r (nI_1 _) t)
    · rw [fm_ct_f (P := fun j => fm_v a1 a3 a7 (4 * b + j)) e] at t
      exact nm_r (nI_1 _) t
/-- the valid pages of a block -/
def fm_vc (a1 a3 a7 : Nat → Int32) (b : Nat) : Nat := fm_ct (fun j => fm_v a1 a3 a7 (4 * b + j)) 4
theorem fm_vc4 {b : Nat} : fm_vc a1 a3 a7 b ≤ 4 := fm_ct_le 4
theorem fm_lvb (hl : ∀ q, q < 32 → a1 q = 1 → ∃ l, l < 12 ∧ a3 q = nI l) (he : ∃ c, c < 8 ∧ fm_E a1 c = false) (H : ∀ c, c < 8 → fm_E a1 c = false → (∀ d, d < 8 → fm_E a1 d = false → fm_vc a1 a3 a7 c ≤ fm_vc a1 a3 a7 d) → post (nI c)) : wpX_leastValidBlock post (sp, ob, nn, a1, a2, a3, a4, a5, a6, a7) := by
  refine pk_loop (σ := Int32 × Int32) (fun n i s => wX_leastValidBlock_6 post sp ob nn a1 a2 a3 a4 a5 a6 a7 n s.1 s.2 (nI i)) (fun i s => (s = (-1, 5) ∧ ∀ c, c < i → fm_E a1 c = true) ∨ ∃ c, c < 8 ∧ s = (nI c, nI (fm_vc a1 a3 a7 c)) ∧ fm_E a1 c = false ∧ ∀ d, d < i → fm_E a1 d = false → fm_vc a1 a3 a7 c ≤ fm_vc a1 a3 a7 d) 8 0 (-1, 5) (by omega) (Or.inl ⟨rfl, fun c hc => absurd hc (by omega)⟩) ?_ ?_
  · intro n s h
    refine pk_le 8 8 (fun _ => ?_) (fun z => absurd z (by omega))
    rcases h with ⟨_, h⟩ | ⟨c, hc, rfl, g, m⟩
    · obtain ⟨c, hc, g⟩ := he
      rw [h c hc] at g
      exact absurd g (by decide)
    · exact H c hc g m
  · intro n i s hi h hw
    have W : ∀ x y, ((((x, y) : Int32 × Int32) = (-1, 5) ∧ ∀ c, c < i + 1 → fm_E a1 c = true) ∨ ∃ c, c < 8 ∧ ((x, y) : Int32 × Int32) = (nI c, nI (fm_vc a1 a3 a7 c)) ∧ fm_E a1 c = false ∧ ∀ d, d < i + 1 → fm_E a1 d = false → fm_vc a1 a3 a7 c ≤ fm_vc a1 a3 a7 d) → wX_leastValidBlock_6 post sp ob nn a1 a2 a3 a4 a5 a6 a7 n x y (nI (i + 1)) := fun x y z => hw (x, y) z
    refine pk_le 8 i (fun z => absurd z (by omega)) (fun _ => fm_isE hi (fun e => br_f (by decide) ?_) (fun e => br_t rfl (fm_vIn hi hl ?_)))
    · refine nm_r (nI_1 i) ?_
      rcases h with ⟨rfl, h⟩ | ⟨c, hc, rfl, g, m⟩
      · exact W _ _ (Or.inl ⟨rfl, lt_s h e⟩)
      · refine W _ _ (Or.inr ⟨c, hc, rfl, g, lt_s m (fun z => ?_)⟩)
        rw [e] at z
        exact absurd z (by decide)
    · have v4 : fm_vc a1 a3 a7 i ≤ 4 := fm_vc4
      rcases h with ⟨rfl, h⟩ | ⟨c, hc, rfl, g, m⟩
      · refine pk_lt 5 (fm_vc a1 a3 a7 i) (fun z => absurd z (by omega)) (fun _ => pk_eq (fm_vc a1 a3 a7 i) 5 (fun z => absurd z (by omega)) (fun _ => nm_r (nI_1 i) (W _ _ (Or.inr ⟨i, hi, rfl, e, fun d hd g => ?_⟩))))
        by_cases z : d = i
        · rw [z]; exact Nat.le_refl _
        · rw [h d (by omega)] at g
          exact absurd g (by decide)
      · have c4 : fm_vc a1 a3 a7 c ≤ 4 := fm_vc4
        refine pk_lt (fm_vc a1 a3 a7 c) (fm_vc a1 a3 a7 i) (fun z => nm_r (nI_1 i) (W _ _ (Or.inr ⟨c, hc, rfl, g, lt_s m (fun _ => by omega)⟩))) (fun z => ?_)
        refine pk_eq (fm_vc a1 a3 a7 i) (fm_vc a1 a3 a7 c) (fun q => ⟨pk_in i 8 hi, pk_in c 8 hc, br_c (fun _ => nm_r (nI_1 i) (W _ _ (Or.inr ⟨i, hi, rfl, e, ?_⟩))) (fun _ => nm_r (nI_1 i) (W _ _ (Or.inr ⟨c, hc, rfl, g, lt_s m (fun _ => by omega)⟩)))⟩) (fun q => nm_r (nI_1 i) (W _ _ (Or.inr ⟨i, hi, rfl, e, ?_⟩)))
        · exact lt_s (fun d hd k => by have := m d hd k; omega) (fun _ => Nat.le_refl _)
        · exact lt_s (fun d hd k => by have := m d hd k; omega) (fun _ => Nat.le_refl _)
end
end
section
/-! writing to flash -/
section
variable {sp ob nn : Int32} {a1 a2 a3 a4 a5 a6 a7 : Nat → Int32}
theorem fm_fp {post : St2 → Prop} {t p N : Nat} {v e : Int32} (ht : t < 32) (hp : p < 12) (he : e = 0 ∨ e = 1) (H : post (sp, ob, nI (N + 1), upd a1 t 1, upd a2 t v, upd a3 t (nI p), upd a4 t e, upd a5 t (nI N), a6, upd a7 p (nI t))) : wpX_fillPage post (sp, ob, nI N, a1, a2, a3, a4, a5, a6, a7) (nI t) (nI p) v e := by
  unfold wpX_fillPage
  dsimp only
  rw [nI_clamp (show t < 2 ^ 31 by omega), nI_clamp (show p < 2 ^ 31 by omega), fm_b32 t ht, fm_b32 p (by omega), fm_bool he, nI_1]
  have i32 : vp_in (nI t) 32 := pk_in t 32 ht
  exact ⟨i32, nm_e ⟨i32, nm_e ⟨i32, nm_e ⟨i32, nm_e ⟨i32, nm_e (nm_e ⟨pk_in p 12 hp, nm_e H⟩)⟩⟩⟩⟩⟩
theorem fm_em62 {post : St2 → Prop} {v : Nat} (hv : v < 8) (H : ∀ b1 : Nat → Int32, (∀ i, i < 4 → b1 (4 * v + i) = 0) → (∀ q, (∀ i, i < 4 → q ≠ 4 * v + i) → b1 q = a1 q) → post (sp, ob, nn, b1, a2, a3, a4, a5, upd a6 v (a6 v + 1), a7)) : ∃ n, wX_empty_62 post (nI v) sp ob nn n (nI (4 * v)) a1 a2 a3 a4 a5 a6 a7 := by
  refine pk_loop (fun n j s => wX_empty_62 post (nI v) sp ob nn n (nI (4 * v + j)) s a2 a3 a4 a5 a6 a7) (fun j s => (∀ i, i < j → s (4 * v + i) = 0) ∧ ∀ q, (∀ i, i < 4 → q ≠ 4 * v + i) → s q = a1 q) 4 0 a1 (by omega) ⟨fun i hi => absurd hi (by omega), fun _ _ => rfl⟩ ?_ ?_
  · intro n s h
    refine pk_le (4 * v + 4) (4 * v + 4) (fun _ => ⟨pk_in v 8 hv, pk_in v 8 hv, ?_⟩) (fun z => absurd z (by omega)) (fm_44 v)
    rw [nI_clamp (show v < 2 ^ 31 by omega)]
    exact nm_e (H s h.1 h.2)
  · intro n j s hj h hw
    refine pk_le (4 * v + 4) (4 * v + j) (fun z => absurd z (by omega)) (fun _ => ⟨pk_in (4 * v + j) 32 (by omega), ?_⟩) (fm_44 v)
    rw [nI_clamp (show 4 * v + j < 2 ^ 31 by omega)]
    refine nm_e (nm_r (nI_1 (4 * v + j)) (hw _ ⟨lt_s (fun i hi => ?_) pk_us, fun q hq => ?_⟩))
    · rw [pk_un (by omega)]; exact h.1 i hi
    · rw [pk_un (hq j hj)]; exact h.2 q hq
/-- no place points into the block: it may be erased -/
theorem fm_C_er {V : Nat → Option Int32} {N v : Nat} {b1 : Nat → Int32} (hC : fm_C V N a1 a2 a3 a4 a5 a7) (hno : ∀ i p, i < 4 → p < 12 → a7 p ≠ nI (4 * v + i)) (h0 : ∀ i, i < 4 → b1 (4 * v + i) = 0) (ho : ∀ q, (∀ i, i < 4 → q ≠ 4 * v + i) → b1 q = a1 q) : fm_C V N b1 a2 a3 a4 a5 a7 := by
  have out : ∀ q, q / 4 ≠ v → b1 q = a1 q := fun q hq => ho q (fun i hi => by omega)
  refine fm_C_sub hC (fun q hq e => ⟨?_, rfl, rfl, rfl, rfl⟩) (fun p t hp ht e => ?_)
  · by_cases d : q / 4 = v
    · have z := h0 (q % 4) (by omega)
      rw [show 4 * v + q % 4 = q by omega, e] at z
      exact absurd z (by decide)
    · rw [← out q d]; exact e
  · by_cases d : t / 4 = v
    · exact absurd (show a7 p = nI (4 * v + t % 4) by rw [e, show 4 * v + t % 4 = t by omega]) (hno (t % 4) p (by omega) hp)
    · rw [out t d]
      exact (fm_C_at hC hp ht e).1
end
section
variable {sp : Int32}
/-- one valid page of the block v is copied to the open block's next page -/
theorem fm_copy {V : Nat → Option Int32} {N v c k j m p : Nat} {a1 a2 a3 a4 a5 a7 : Nat → Int32} (hN : N < 2 ^ 30) (hv : v < 8) (hvc : v ≠ c) (hc : c < 8) (hk : k < 4) (hj : j < 4) (hjm : j + (m + 1) = 4) (hp : p < 12) (hC : fm_C V N a1 a2 a3 a4 a5 a7) (hG : fm_G a1 c k) (h7 : a7 p = nI (4 * v + j)) (hr : k + fm_cr (fun i => fm_v a1 a3 a7 (4 * v + i)) j (m + 1) ≤ 2) (hno : ∀ i p, i < j → p < 12 → a7 p ≠ nI (4 * v + i)) :
    fm_C V (N + 1) (upd a1 (4 * c + k) 1) (upd a2 (4 * c + k) (a2 (4 * v + j))) (upd a3 (4 * c + k) (nI p)) (upd a4 (4 * c + k) (a4 (4 * v + j))) (upd a5 (4 * c + k) (nI N)) (upd a7 p (nI (4 * c + k))) ∧
    k + 1 + fm_cr (fun i => fm_v (upd a1 (4 * c + k) 1) (upd a3 (4 * c + k) (nI p)) (upd a7 p (nI (4 * c + k))) (4 * v + i)) (j + 1) m ≤ 2 ∧
    (∀ i p', i < j + 1 → p' < 12 → upd a7 p (nI (4 * c + k)) p' ≠ nI (4 * v + i)) := by
  obtain ⟨r1, r2, r3, r4⟩ := fm_C_at hC hp (show 4 * v + j < 32 by omega) h7
  have hz : a1 (4 * c + k) = 0 := hG.2.2.2.1 k (Nat.le_refl _) hk
  have hf : a1 (4 * c + k) ≠ 1 := by rw [hz]; decide
  have C' := fm_C_fill (t := 4 * c + k) (p := p) (v := a2 (4 * v + j)) (e := a4 (4 * v + j)) hC hN (by omega) hf hp (hC.1 _ (by omega) r1).2.1
  rw [fm_up_id r3] at C'
  have hvj : fm_v a1 a3 a7 (4 * v + j) = true := (fm_v_iff hC (by omega)).mpr ⟨p, hp, h7⟩
  have hne : ∀ i, i < 4 → nI (4 * c + k) ≠ nI (4 * v + i) := fun i hi z => by have := fm_inj z; omega
  refine ⟨C', ?_, fun i p' hi hp' => ?_⟩
  · rw [fm_cr_t (P := fun i => fm_v a1 a3 a7 (4 * v + i)) hvj] at hr
    have mo := fm_cr_mono (P := fun i => fm_v (upd a1 (4 * c + k) 1) (upd a3 (4 * c + k) (nI p)) (upd a7 p (nI (4 * c + k))) (4 * v + i)) (Q := fun i => fm_v a1 a3 a7 (4 * v + i)) m (j + 1) (fun i hi hi2 e => ?_)
    · omega
    · obtain ⟨p', hp', e'⟩ := (fm_v_iff C' (show 4 * v + i < 32 by omega)).mp e
      by_cases d : p' = p
      · rw [d, pk_us] at e'
        exact absurd e' (hne i (by omega))
      · rw [pk_un d] at e'
        exact (fm_v_iff hC (by omega)).mpr ⟨p', hp', e'⟩
  · by_cases d : p' = p
    · rw [d, pk_us]
      exact hne i (by omega)
    · rw [pk_un d]
      by_cases ij : i = j
      · rw [ij]
        intro z
        have := (fm_C_at hC hp' (show 4 * v + j < 32 by omega) z).2.1
        rw [r2] at this
        exact d (fm_inj this).symm
      · exact hno i p' (by omega) hp'
theorem fm_em4 {post : St2 → Prop} {V : Nat → Option Int32} {v c N0 : Nat} (hv : v < 8) (hvc : v ≠ c) (hN0 : N0 + 5 < 2 ^ 30)
    (H : ∀ (N k : Nat) (b1 b2 b3 b4 b5 b6 b7 : Nat → Int32), N0 ≤ N → N ≤ N0 + 4 → k ≤ 2 → fm_C V N b1 b2 b3 b4 b5 b7 → fm_B b1 c k → post (sp, nI c, nI N, b1, b2, b3, b4, b5, b6, b7)) :
    ∀ (m j N k : Nat) (a1 a2 a3 a4 a5 a6 a7 : Nat → Int32), j + m = 4 → N0 ≤ N → N ≤ N0 + j → fm_C V N a1 a2 a3 a4 a5 a7 → fm_G a1 c k → k + fm_cr (fun i => fm_v a1 a3 a7 (4 * v + i)) j m ≤ 2 → (∀ i p, i < j → p < 12 → a7 p ≠ nI (4 * v + i)) → wX_empty_4 post (nI v) (m + 1) (nI (4 * v + j)) sp (nI c) (nI N) a1 a2 a3 a4 a5 a6 a7 := by
  intro m
  induction m with
  | zero =>
    intro j N k a1 a2 a3 a4 a5 a6 a7 hj hN hN' hC hG hr hno
    have j4 : j = 4 := by omega
    subst j4
    refine pk_le (4 * v + 4) (4 * v + 4) (fun _ => nm_r (fm_4 v) ?_) (fun z => absurd z (by omega)) (fm_44 v)
    have k2 : k ≤ 2 := by omega
    exact fm_em62 hv (fun b1 h0 ho => H N k b1 a2 a3 a4 a5 _ a7 hN hN' k2 (fm_C_er hC hno h0 ho) (fm_G_e hG hv hvc h0 ho))
  | succ m ih =>
    intro j N k a1 a2 a3 a4 a5 a6 a7 hj hN hN' hC hG hr hno
    have hc := hG.1
    refine pk_le (4 * v + 4) (4 * v + j) (fun z => absurd z (by omega)) (fun _ => fm_isV (q := 4 * v + j) (by omega) (fun e => (hC.1 _ (by omega) e).1) (fun e => br_f (by decide) ?_) (fun e => br_t rfl (nm_r (nI_1 _) (ih (j + 1) N k a1 a2 a3 a4 a5 a6 a7 (by omega) hN (by omega) hC hG ?_ ?_)))) (fm_44 v)
    · obtain ⟨p, hp, h7⟩ := (fm_v_iff hC (show 4 * v + j < 32 by omega)).mp e
      have k1 : k < 2 := by
        rw [fm_cr_t (P := fun i => fm_v a1 a3 a7 (4 * v + i)) e] at hr
        omega
      obtain ⟨C', R', P'⟩ := fm_copy (j := j) (m := m) (show N < 2 ^ 30 by omega) hv hvc hc (show k < 4 by omega) (by omega) (by omega) hp hC hG h7 hr hno
      obtain ⟨r1, r2, _⟩ := fm_C_at hC hp (show 4 * v + j < 32 by omega) h7
      have i32 : vp_in (nI (4 * v + j)) 32 := pk_in (4 * v + j) 32 (by omega)
      refine fm_nib hc hG.2.1 hG.2.2.1 (fun _ => hG.2.2.2.1 k (Nat.le_refl _) (by omega)) (fun _ => ⟨i32, i32, i32, ?_⟩) (fun z => absurd z (by omega))
      rw [nI_clamp (show 4 * v + j < 2 ^ 31 by omega), r2]
      exact fm_fp (by omega) hp (hC.1 _ (by omega) r1).2.1 (nm_r (nI_1 _) (ih (j + 1) (N + 1) (k + 1) _ _ _ _ _ _ _ (by omega) (by omega) (by omega) C' (fm_G_w hG (by omega) (by decide)) R' P'))
    · rw [fm_cr_f (P := fun i => fm_v a1 a3 a7 (4 * v + i)) e] at hr
      exact hr
    · intro i p hi hp z
      by_cases ij : i = j
      · rw [ij] at z
        have := (fm_v_iff hC (show 4 * v + j < 32 by omega)).mpr ⟨p, hp, z⟩
        rw [e] at this
        exact absurd this (by decide)
      · exact hno i p (by omega) hp z
theorem fm_empty {post : St2 → Prop} {V : Nat → Option Int32} {v c N : Nat} {a1 a2 a3 a4 a5 a6 a7 : Nat → Int32} (hv : v < 8) (hvc : v ≠ c) (hN : N + 5 < 2 ^ 30) (hC : fm_C V N a1 a2 a3 a4 a5 a7) (hG : fm_G a1 c 0) (h2 : fm_vc a1 a3 a7 v ≤ 2)
    (H : ∀ (N' k : Nat) (b1 b2 b3 b4 b5 b6 b7 : Nat → Int32), N ≤ N' → N' ≤ N + 4 → k ≤ 2 → fm_C V N' b1 b2 b3 b4 b5 b7 → fm_B b1 c k → post (sp, nI c, nI N', b1, b2, b3, b4, b5, b6, b7)) :
    wpX_empty post (sp, nI c, nI N, a1, a2, a3, a4, a5, a6, a7) (nI v) := by
  refine nm_r (fm_4 v) ⟨4 + 1, ?_⟩
  refine fm_em4 hv hvc hN H 4 0 N 0 a1 a2 a3 a4 a5 a6 a7 (by omega) (Nat.le_refl _) (by omega) hC hG ?_ (fun i p hi => absurd hi (by omega))
  rw [fm_cr_ct, Nat.zero_add]
  exact h2
end
section
variable {a1 a2 a3 a4 a5 a6 a7 : Nat → Int32}
theorem fm_f58 {post : Int32 → St2 → Prop} {sp nn : Int32} {b k : Nat} (hB : fm_B a1 b k) (hk : k < 4) (H : post (nI (4 * b + k)) (sp, nI b, nn, a1, a2, a3, a4, a5, a6, a7)) : wX_freshPage_58 post sp (nI b) nn a1 a2 a3 a4 a5 a6 a7 := by
  unfold wX_freshPage_58
  exact fm_nib hB.1.1 hB.1.2.1 hB.1.2.2.1 (fun _ => hB.1.2.2.2.1 k (Nat.le_refl _) hk) (fun _ => H) (fun z => absurd z (by omega))
theorem fm_ZG {c : Nat} (hZ : fm_Z a1) (hc : c < 8) (e : fm_E a1 c = true) : fm_G a1 c 0 :=
  ⟨hc, by omega, fun j hj => absurd hj (by omega), fun j _ hj => fm_E_t.mp e j hj, fun d hd _ => hZ.1 d hd⟩
/-- no room in the open block -/
theorem fm_f27 {post : Int32 → St2 → Prop} {V : Nat → Option Int32} {ob : Int32} {s N : Nat} (hs1 : 1 ≤ s) (hs3 : s ≤ 3) (hN1 : 1 ≤ N) (hN : N + 5 < 2 ^ 30) (hC : fm_C V N a1 a2 a3 a4 a5 a7) (hZ : fm_Z a1)
    (H : ∀ (N' b k : Nat) (b1 b2 b3 b4 b5 b6 b7 : Nat → Int32), 1 ≤ N' → N' ≤ N + 4 → fm_C V N' b1 b2 b3 b4 b5 b7 → fm_B b1 b k → k < 4 → post (nI (4 * b + k)) (nI s, nI b, nI N', b1, b2, b3, b4, b5, b6, b7)) :
    wpX_freeBlocks (fun r_3 => (((r_3 ≤ nI s → (wX_freshPage_27 post 0 (nI s) ob (nI N) a1 a2 a3 a4 a5 a6 a7)) ∧ (¬ r_3 ≤ nI s → (wX_freshPage_27 post 1 (nI s) ob (nI N) a1 a2 a3 a4 a5 a6 a7))))) (nI s, ob, nI N, a1, a2, a3, a4, a5, a6, a7) := by
  have c8 : fm_ct (fm_E a1) 8 ≤ 8 := fm_ct_le 8
  refine fm_free (pk_le (fm_ct (fm_E a1) 8) s (fun hle => ?_) (fun hgt => ?_))
  · unfold wX_freshPage_27
    refine br_t rfl (fm_lvb (fun q hq e => (hC.1 q hq e).1) (fm_notall (by omega)) (fun v hv ev hm => ?_))
    have v2 : fm_vc a1 a3 a7 v ≤ 2 := fm_gc (P := fm_v a1 a3 a7) (E := fm_E a1) (by omega) (fm_v12 hC) hm
    unfold wX_freshPage_40
    refine fm_lwf hZ.2 (fun c hc ec => br_t rfl ?_)
    have vc : v ≠ c := fun z => by rw [z, ec] at ev; exact absurd ev (by decide)
    exact fm_empty hv vc hN hC (fm_ZG hZ hc ec) v2 (fun N' k b1 b2 b3 b4 b5 b6 b7 h1 h2 hk hC' hB => fm_f58 hB (by omega) (H N' c k b1 b2 b3 b4 b5 b6 b7 (by omega) h2 hC' hB (by omega)))
  · unfold wX_freshPage_27
    refine br_f (by decide) ?_
    unfold wX_freshPage_40
    refine fm_lwf hZ.2 (fun c hc ec => br_f (by decide) ?_)
    have hB : fm_B a1 c 0 := ⟨fm_ZG hZ hc ec, fm_other (by omega)⟩
    exact fm_f58 hB (by omega) (H N c 0 a1 a2 a3 a4 a5 a6 a7 hN1 (by omega) hC hB (by omega))
theorem fm_fresh {post : Int32 → St2 → Prop} {V : Nat → Option Int32} {ob : Int32} {s N : Nat} (hs1 : 1 ≤ s) (hs3 : s ≤ 3) (hN1 : 1 ≤ N) (hN : N + 5 < 2 ^ 30) (hC : fm_C V N a1 a2 a3 a4 a5 a7) (hA : fm_A a1 ob)
    (H : ∀ (N' b k : Nat) (b1 b2 b3 b4 b5 b6 b7 : Nat → Int32), 1 ≤ N' → N' ≤ N + 4 → fm_C V N' b1 b2 b3 b4 b5 b7 → fm_B b1 b k → k < 4 → post (nI (4 * b + k)) (nI s, nI b, nI N', b1, b2, b3, b4, b5, b6, b7)) :
    wpX_freshPage post (nI s, ob, nI N, a1, a2, a3, a4, a5, a6, a7) := by
  unfold wpX_freshPage
  dsimp only
  rcases hA with ⟨rfl, hZ⟩ | ⟨b, k, k1, rfl, hB⟩
  · exact fm_nib_n (br_t (by decide) (fm_f27 hs1 hs3 hN1 hN hC hZ H))
  · have hb := hB.1.1
    refine fm_nib hb hB.1.2.1 hB.1.2.2.1 (fun z => hB.1.2.2.2.1 k (Nat.le_refl _) z) (fun z => br_f (nI_pos (by omega)) (H N b k a1 a2 a3 a4 a5 a6 a7 hN1 (by omega) hC hB z)) (fun z => br_t (by decide) ?_)
    subst z
    exact fm_f27 hs1 hs3 hN1 hN hC (fm_BZ hB) H
/-- the state between two calls: it says V; the next number is at most K -/
def fm_R (V : Nat → Option Int32) (K : Nat) (sp ob nn : Int32) (a1 a2 a3 a4 a5 a7 : Nat → Int32) : Prop :=
  ∃ s N : Nat, 1 ≤ s ∧ s ≤ 3 ∧ 1 ≤ N ∧ N ≤ K ∧ sp = nI s ∧ nn = nI N ∧ fm_C V N a1 a2 a3 a4 a5 a7 ∧ fm_A a1 ob
theorem fm_R_V {V V' : Nat → Option Int32} {K : Nat} {sp ob nn : Int32} (h : fm_R V K sp ob nn a1 a2 a3 a4 a5 a7) (hV : ∀ p, p < 12 → V' p = V p) : fm_R V' K sp ob nn a1 a2 a3 a4 a5 a7 := by
  obtain ⟨s, N, h1, h2, h3, h4, h5, h6, h7, h8⟩ := h
  exact ⟨s, N, h1, h2, h3, h4, h5, h6, fm_C_V h7 hV, h8⟩
theorem fm_R_K {V : Nat → Option Int32} {K K' : Nat} {sp ob nn : Int32} (h : fm_R V K sp ob nn a1 a2 a3 a4 a5 a7) (hK : K ≤ K') : fm_R V K' sp ob nn a1 a2 a3 a4 a5 a7 := by
  obtain ⟨s, N, h1, h2, h3, h4, h5, h6, h7, h8⟩ := h
  exact ⟨s, N, h1, h2, h3, by omega, h5, h6, h7, h8⟩
theorem fm_prog {post : St2 → Prop} {V : Nat → Option Int32} {sp ob nn : Int32} {K p : Nat} {v e : Int32} (hK : K + 5 < 2 ^ 30) (hR : fm_R V K sp ob nn a1 a2 a3 a4 a5 a7) (hp : p < 12) (he : e = 0 ∨ e = 1)
    (H : ∀ (sp' ob' nn' : Int32) (b1 b2 b3 b4 b5 b6 b7 : Nat → Int32), fm_R (fm_up V p (if e = 0 then some v else none)) (K + 5) sp' ob' nn' b1 b2 b3 b4 b5 b7 → post (sp', ob', nn', b1, b2, b3, b4, b5, b6, b7)) :
    wpX_program post (sp, ob, nn, a1, a2, a3, a4, a5, a6, a7) (nI p) v e := by
  obtain ⟨s, N, hs1, hs3, hN1, hNK, rfl, rfl, hC, hA⟩ := hR
  unfold wpX_program
  dsimp only
  refine fm_fresh hs1 hs3 hN1 (by omega) hC hA (fun N' b k b1 b2 b3 b4 b5 b6 b7 g1 g2 gC gB gk => ?_)
  have hb := gB.1.1
  have hz : b1 (4 * b + k) = 0 := gB.1.2.2.2.1 k (Nat.le_refl _) gk
  have hz1 : b1 (4 * b + k) ≠ 1 := by rw [hz]; decide
  exact fm_fp (by omega) hp he (H _ _ _ _ _ _ _ _ _ _ ⟨s, N' + 1, hs1, hs3, by omega, by omega, rfl, rfl, fm_C_fill gC (by omega) (by omega) hz1 hp he, Or.inr ⟨b, k + 1, by omega, rfl, fm_B_w gB gk (by decide)⟩⟩)
end
end
section
/-! after the power comes back -/
section
variable {post : St2 → Prop} {sp ob nn : Int32} {a1 a2 a3 a4 a5 a6 a7 : Nat → Int32}
theorem fm_su129 (hA : fm_Z a1 ∨ ∃ b k, 1 ≤ k ∧ fm_B a1 b k) (H : ∀ ob', fm_A a1 ob' → post (sp, ob', nn, a1, a2, a3, a4, a5, a6, a7)) : ∃ n, wX_startUp_129 post sp nn a1 a2 a3 a4 a5 a6 a7 n 0 (-1) := by
  have Z : fm_Z a1 → ∃ n, wX_startUp_129 post sp nn a1 a2 a3 a4 a5 a6 a7 n 0 (-1) := by
    intro hZ
    refine pk_loop (σ := Unit) (fun n i _ => wX_startUp_129 post sp nn a1 a2 a3 a4 a5 a6 a7 n (nI i) (-1)) (fun _ _ => True) 8 0 () (by omega) trivial ?_ ?_
    · intro n _ _
      exact pk_le 8 8 (fun _ => H (-1) (Or.inl ⟨rfl, hZ⟩)) (fun z => absurd z (by omega))
    · intro n i _ hi _ hw
      refine pk_le 8 i (fun z => absurd z (by omega)) (fun _ => fm_isE hi (fun e => br_f (by decide) (nm_r (nI_1 i) (hw () trivial))) (fun e => br_t rfl ⟨pk_in (4 * i + 3) 32 (by omega) (fm_43 i), ?_⟩))
      rw [fm_43, nI_clamp (show 4 * i + 3 < 2 ^ 31 by omega)]
      rcases hZ.1 i hi with g | g
      · rw [e] at g
        exact absurd g (by decide)
      · exact br_f (g 3 (by omega)) (nm_r (nI_1 i) (hw () trivial))
  rcases hA with hZ | ⟨b, k, k1, hB⟩
  · exact Z hZ
  · by_cases k4 : k = 4
    · subst k4
      exact Z (fm_BZ hB)
    · have hb := hB.1.1
      have hk := hB.1.2.1
      have b0 : fm_E a1 b = false := fm_E_f (j := 0) (by omega) (hB.1.2.2.1 0 (by omega))
      refine pk_loop (fun n i s => wX_startUp_129 post sp nn a1 a2 a3 a4 a5 a6 a7 n (nI i) s) (fun i s => s = if b < i then nI b else -1) 8 0 (-1) (by omega) (if_neg (by omega)).symm ?_ ?_
      · intro n s h
        rw [if_pos hb] at h
        exact pk_le 8 8 (fun _ => H s (Or.inr ⟨b, k, k1, h, hB⟩)) (fun z => absurd z (by omega))
      · intro n i s hi h hw
        have keep : i ≠ b → s = if b < i + 1 then nI b else -1 := by
          intro z
          rw [h]
          by_cases g : b < i
          · rw [if_pos g, if_pos (by omega)]
          · rw [if_neg g, if_neg (by omega)]
        refine pk_le 8 i (fun z => absurd z (by omega)) (fun _ => fm_isE hi (fun e => br_f (by decide) (nm_r (nI_1 i) (hw s (keep (fun z => ?_))))) (fun e => br_t rfl ⟨pk_in (4 * i + 3) 32 (by omega) (fm_43 i), ?_⟩))
        · rw [z, b0] at e
          exact absurd e (by decide)
        · rw [fm_43, nI_clamp (show 4 * i + 3 < 2 ^ 31 by omega)]
          by_cases z : i = b
          · refine br_t ?_ (nm_r (nI_1 i) (hw (nI i) ?_))
            · rw [z]
              exact hB.1.2.2.2.1 3 (by omega) (by omega)
            · rw [if_pos (by omega), z]
          · rcases hB.1.2.2.2.2 i hi z with g | g
            · rw [e] at g
              exact absurd g (by decide)
            · exact br_f (g 3 (by omega)) (nm_r (nI_1 i) (hw s (keep z)))
/-- the places, out of the pages below i -/
def fm_S (a1 a3 a5 : Nat → Int32) (i : Nat) (s : Nat → Int32) : Prop :=
  ∀ p, p < 12 → (s p = -1 ∧ ∀ q, q < i → a1 q = 1 → a3 q ≠ nI p) ∨ ∃ t, t < i ∧ s p = nI t ∧ a1 t = 1 ∧ a3 t = nI p ∧ ∀ q, q < i → a1 q = 1 → a3 q = nI p → a5 q ≤ a5 t
theorem fm_S_skip {i : Nat} {s : Nat → Int32} (h : fm_S a1 a3 a5 i s) (n : a1 i ≠ 1) : fm_S a1 a3 a5 (i + 1) s := by
  intro p hp
  rcases h p hp with ⟨z, g⟩ | ⟨t, ht, z, r1, r2, r3⟩
  · exact Or.inl ⟨z, lt_s g (fun y => absurd y n)⟩
  · exact Or.inr ⟨t, by omega, z, r1, r2, lt_s r3 (fun y => absurd y n)⟩
theorem fm_S_keep {i p t : Nat} {s : Nat → Int32} (h : fm_S a1 a3 a5 i s) (hp : p < 12) (e3 : a3 i = nI p) (hi : i < 32) (ht : t < 32) (e : s p = nI t) (hle : a5 i ≤ a5 t) : fm_S a1 a3 a5 (i + 1) s := by
  intro p' hp'
  rcases h p' hp' with ⟨z, g⟩ | ⟨t', ht', z, r1, r2, r3⟩
  · refine Or.inl ⟨z, lt_s g (fun _ y => ?_)⟩
    rw [e3] at y
    have := fm_inj y
    subst this
    rw [z] at e
    exact fm_m1 (by omega) e
  · refine Or.inr ⟨t', by omega, z, r1, r2, lt_s r3 (fun _ y => ?_)⟩
    rw [e3] at y
    have := fm_inj y
    subst this
    rw [z] at e
    rw [fm_inj e]
    exact hle
theorem fm_S_new {i p : Nat} {s : Nat → Int32} (h : fm_S a1 a3 a5 i s) (hp : p < 12) (e1 : a1 i = 1) (e3 : a3 i = nI p) (hi : i < 32) (hlt : s p = -1 ∨ ∃ t, t < 32 ∧ s p = nI t ∧ a5 t < a5 i) : fm_S a1 a3 a5 (i + 1) (upd s p (nI i)) := by
  intro p' hp'
  by_cases c : p' = p
  · subst c
    refine Or.inr ⟨i, by omega, pk_us, e1, e3, lt_s (fun q hq g1 g3 => ?_) (fun _ _ => fm_le_rf _)⟩
    rcases h p' hp' with ⟨z, g⟩ | ⟨t', ht', z, r1, r2, r3⟩
    · exact absurd g3 (g q hq g1)
    · rcases hlt with y | ⟨t, ht, y, w⟩
      · rw [y] at z
        exact absurd z (fm_m1 (by omega))
      · rw [z] at y
        have := fm_inj y
        subst this
        have k := r3 q hq g1 g3
        rw [Int32.lt_iff_toInt_lt] at w
        rw [Int32.le_iff_toInt_le] at k ⊢
        omega
  · rw [pk_un c]
    rcases h p' hp' with ⟨z, g⟩ | ⟨t', ht', z, r1, r2, r3⟩
    · refine Or.inl ⟨z, lt_s g (fun _ y => ?_)⟩
      rw [e3] at y
      exact c (fm_inj y).symm
    · refine Or.inr ⟨t', by omega, z, r1, r2, lt_s r3 (fun _ y => ?_)⟩
      rw [e3] at y
      exact absurd (fm_inj y).symm c
/-- at the end they are the places there were -/
theorem fm_S_end {V : Nat → Option Int32} {N : Nat} {s : Nat → Int32} (h : fm_S a1 a3 a5 32 s) (hC : fm_C V N a1 a2 a3 a4 a5 a7) : ∀ p, p < 12 → s p = a7 p := by
  intro p hp
  rcases h p hp with ⟨z, g⟩ | ⟨t, ht, z, r1, r2, r3⟩
  · rcases hC.2 p hp with ⟨y, _⟩ | ⟨t', ht', y, q1, q2, _⟩
    · rw [z, y]
    · exact absurd q2 (g t' ht' q1)
  · rcases hC.2 p hp with ⟨y, _, w⟩ | ⟨t', ht', y, q1, q2, q3, q4⟩
    · exact absurd r2 (w t ht r1)
    · by_cases e : t = t'
      · rw [z, y, e]
      · have k1 := q4 t ht r1 r2 e
        have k2 := r3 t' ht' q1 q2
        exact absurd (fm_lt_le k1 k2) fm_lt_irr
theorem fm_su96 {J33 : Int32 → Int32 → (Nat → Int32) → (Nat → Int32) → (Nat → Int32) → (Nat → Int32) → (Nat → Int32) → (Nat → Int32) → (Nat → Int32) → Prop} {i M N : Nat} (hi : i < 32) (hM : 1 ≤ M) (hMN : M ≤ N) (hN : N < 2 ^ 30) (h5 : a5 i < nI N)
    (H : ∀ M', 1 ≤ M' → M ≤ M' → M' ≤ N → a5 i < nI M' → J33 (nI (i + 1)) (nI M') a1 a2 a3 a4 a5 a6 a7) : wX_startUp_96 post J33 (nI i) sp ob (nI M) a1 a2 a3 a4 a5 a6 a7 := by
  refine ⟨pk_in i 32 hi, ?_⟩
  rw [nI_clamp (show i < 2 ^ 31 by omega)]
  refine br_c (fun z => nm_r (nI_1 i) (H M hM (Nat.le_refl _) hMN z)) (fun z => ⟨pk_in i 32 hi, ?_⟩)
  have z' := fm_nlt z
  have p0 : ¬ a5 i < 0 := fun g => by
    have := fm_lt_le g (nI_pos' (show M < 2 ^ 31 by omega))
    exact z this
  obtain ⟨r, hr, e⟩ := nI_of p0
  rw [e] at h5 z'
  have rN : r < N := (nI_ltI hr (by omega)).mp h5
  have Mr : M ≤ r := (nI_leI (by omega) hr).mp z'
  refine nm_r (e' := nI (r + 1)) (by rw [e, nI_1]) (nm_r (nI_1 i) (H (r + 1) (by omega) (by omega) (by omega) ?_))
  rw [e]
  exact nI_lt (by omega) (by omega)
theorem fm_su33 {V : Nat → Option Int32} {N : Nat} {b7 s0 : Nat → Int32} (hN1 : 1 ≤ N) (hN : N < 2 ^ 30) (hC : fm_C V N a1 a2 a3 a4 a5 b7) (hs : ∀ p, p < 12 → s0 p = -1) (hA : fm_Z a1 ∨ ∃ b k, 1 ≤ k ∧ fm_B a1 b k)
    (H : ∀ (ob' : Int32) (M : Nat) (a7' : Nat → Int32), 1 ≤ M → M ≤ N → fm_C V M a1 a2 a3 a4 a5 a7' → fm_A a1 ob' → post (sp, ob', nI M, a1, a2, a3, a4, a5, a6, a7')) :
    ∃ n, wX_startUp_33 post sp (-1) n 0 1 a1 a2 a3 a4 a5 a6 s0 := by
  refine pk_loop (σ := Nat × (Nat → Int32)) (fun n i s => wX_startUp_33 post sp (-1) n (nI i) (nI s.1) a1 a2 a3 a4 a5 a6 s.2) (fun i s => 1 ≤ s.1 ∧ s.1 ≤ N ∧ (∀ q, q < i → a1 q = 1 → a5 q < nI s.1) ∧ fm_S a1 a3 a5 i s.2) 32 0 (1, s0) (by omega) ⟨by omega, hN1, fun q hq => absurd hq (by omega), fun p hp => Or.inl ⟨hs p hp, fun q hq => absurd hq (by omega)⟩⟩ ?_ ?_
  · rintro n ⟨M, s⟩ ⟨h1, h2, h3, h4⟩
    exact pk_le 32 32 (fun _ => fm_su129 hA (fun ob' g => H ob' M s h1 h2 (fm_C_st hC h3 (fm_S_end h4 hC)) g)) (fun z => absurd z (by omega))
  · rintro n i ⟨M, s⟩ hi ⟨h1, h2, h3, h4⟩ hw
    have h1' : 1 ≤ M := h1
    have h2' : M ≤ N := h2
    have h4' : fm_S a1 a3 a5 i s := h4
    have h3' : ∀ q, q < i → a1 q = 1 → a5 q < nI M := h3
    have W : ∀ (M' : Nat) (s' : Nat → Int32), 1 ≤ M' → M ≤ M' → M' ≤ N → (a1 i = 1 → a5 i < nI M') → fm_S a1 a3 a5 (i + 1) s' → wX_startUp_33 post sp (-1) n (nI (i + 1)) (nI M') a1 a2 a3 a4 a5 a6 s' := by
      intro M' s' g1 g2 g3 g4 g5
      exact hw (M', s') ⟨g1, g3, lt_s (fun q hq e => fm_lt_le (h3' q hq e) (nI_le g2 (by omega))) g4, g5⟩
    refine pk_le 32 i (fun z => absurd z (by omega)) (fun _ => ⟨pk_in i 32 hi, ?_⟩)
    rw [nI_clamp (show i < 2 ^ 31 by omega)]
    refine br_c (fun e1 => ⟨pk_in i 32 hi, ?_⟩) (fun e1 => nm_r (nI_1 i) (W M s h1' (Nat.le_refl _) h2' (fun z => absurd z e1) (fm_S_skip h4' e1)))
    obtain ⟨⟨p, hp, e3⟩, _, h5⟩ := hC.1 i hi e1
    refine nm_r e3 ⟨pk_in p 12 hp, ?_⟩
    rw [nI_clamp (show p < 2 ^ 31 by omega)]
    have N88 : fm_S a1 a3 a5 (i + 1) (upd s p (nI i)) → wX_startUp_88 post (wX_startUp_33 post sp (-1) n) (nI i) (nI p) sp (-1) (nI M) a1 a2 a3 a4 a5 a6 s := by
      intro g
      refine ⟨pk_in p 12 hp, nm_r (e' := upd s p (nI i)) (by rw [nI_clamp (show p < 2 ^ 31 by omega), fm_b32 i hi]) ?_⟩
      exact fm_su96 hi h1' h2' hN h5 (fun M' g1 g2 g3 g4 => W M' _ g1 g2 g3 (fun _ => g4) g)
    rcases h4' p hp with ⟨z, g⟩ | ⟨t, ht, z, r1, r2, r3⟩
    · exact br_t (show s p < 0 by rw [z]; decide) (N88 (fm_S_new h4' hp e1 e3 hi (Or.inl z)))
    · refine br_f (show ¬ s p < 0 by rw [z]; exact nI_pos (by omega)) ⟨pk_in i 32 hi, pk_in p 12 hp, pk_in t 32 (by omega) z, ?_⟩
      rw [pk_cl (x := s p) t z]
      refine br_c (fun le => fm_su96 hi h1' h2' hN h5 (fun M' g1 g2 g3 g4 => W M' s g1 g2 g3 (fun _ => g4) (fm_S_keep h4' hp e3 hi (by omega) z le))) (fun nle => N88 (fm_S_new h4' hp e1 e3 hi (Or.inr ⟨t, by omega, z, fm_nle nle⟩)))
theorem fm_start {V : Nat → Option Int32} {N : Nat} {b7 : Nat → Int32} (hN1 : 1 ≤ N) (hN : N < 2 ^ 30) (hC : fm_C V N a1 a2 a3 a4 a5 b7) (hA : fm_Z a1 ∨ ∃ b k, 1 ≤ k ∧ fm_B a1 b k)
    (H : ∀ (ob' : Int32) (M : Nat) (a7' : Nat → Int32), 1 ≤ M → M ≤ N → fm_C V M a1 a2 a3 a4 a5 a7' → fm_A a1 ob' → post (sp, ob', nI M, a1, a2, a3, a4, a5, a6, a7')) :
    wpX_startUp post (sp, ob, nn, a1, a2, a3, a4, a5, a6, a7) := by
  refine pk_loop (fun n i s => wX_startUp_12 post sp (-1) 1 n (nI i) a1 a2 a3 a4 a5 a6 s) (fun i s => ∀ p, p < i → s p = -1) 12 0 a7 (by omega) (fun p hp => absurd hp (by omega)) ?_ ?_
  · intro n s h
    exact pk_le 12 12 (fun _ => fm_su33 hN1 hN hC h hA H) (fun z => absurd z (by omega))
  · intro n i s hi h hw
    refine pk_le 12 i (fun z => absurd z (by omega)) (fun _ => ⟨pk_in i 12 hi, ?_⟩)
    rw [nI_clamp (show i < 2 ^ 31 by omega)]
    refine nm_e (nm_r (nI_1 i) (hw _ (lt_s (fun p hp => ?_) pk_us)))
    rw [pk_un (by omega)]
    exact h p hp
end
end
section
/-! the calls -/
section
variable {sp ob nn : Int32} {a1 a2 a3 a4 a5 a6 a7 : Nat → Int32} {V : Nat → Option Int32} {N K p : Nat}
theorem fm_isPg {post : Int32 → Prop} (hp : p < 12) (H : post 1) : wpX_isPage post (sp, ob, nn, a1, a2, a3, a4, a5, a6, a7) (nI p) :=
  br_f (nI_pos (by omega)) (pk_lt 11 p (fun z => absurd z (by omega)) (fun _ => H))
theorem fm_hasC {post : Int32 → Prop} (hC : fm_C V N a1 a2 a3 a4 a5 a7) (hp : p < 12) (h1 : ∀ t, t < 32 → a7 p = nI t → V p = some (a2 t) → post 1) (h0 : V p = none → post 0) : wpX_has post (sp, ob, nn, a1, a2, a3, a4, a5, a6, a7) (nI p) := by
  unfold wpX_has
  dsimp only
  refine fm_isPg hp (br_f (by decide) ⟨pk_in p 12 hp, ?_⟩)
  rw [nI_clamp (show p < 2 ^ 31 by omega)]
  rcases hC.2 p hp with ⟨z, y, _⟩ | ⟨t, ht, z, r1, r2, r3, r4⟩
  · exact br_t (by rw [z]; decide) (h0 y)
  · refine br_f (by rw [z]; exact nI_pos (by omega)) ⟨pk_in p 12 hp, pk_in t 32 ht z, ?_⟩
    rw [pk_cl (x := a7 p) t z]
    exact br_c (fun e => h1 t ht z (by rw [r3, if_pos e])) (fun e => h0 (by rw [r3, if_neg e]))
theorem fm_has {post : Int32 → Prop} (hR : fm_R V K sp ob nn a1 a2 a3 a4 a5 a7) (hp : p < 12) (h1 : ∀ v, V p = some v → post 1) (h0 : V p = none → post 0) : wpX_has post (sp, ob, nn, a1, a2, a3, a4, a5, a6, a7) (nI p) := by
  obtain ⟨s, N, _, _, _, _, _, _, hC, _⟩ := hR
  exact fm_hasC hC hp (fun t _ _ e => h1 _ e) h0
theorem fm_read {post : Int32 → Prop} (hR : fm_R V K sp ob nn a1 a2 a3 a4 a5 a7) (hp : p < 12) (H : post ((V p).getD 0)) : wpX_read post (sp, ob, nn, a1, a2, a3, a4, a5, a6, a7) (nI p) := by
  obtain ⟨s, N, _, _, _, _, _, _, hC, _⟩ := hR
  unfold wpX_read
  dsimp only
  refine fm_hasC hC hp (fun t ht z e => br_f (by decide) ⟨pk_in p 12 hp, ?_⟩) (fun e => br_t rfl ?_)
  · rw [nI_clamp (show p < 2 ^ 31 by omega)]
    refine ⟨pk_in t 32 ht z, ?_⟩
    rw [pk_cl (x := a7 p) t z]
    rw [e] at H
    exact H
  · rw [e] at H
    exact H
/-- how many pages have a value -/
def fm_cn (V : Nat → Option Int32) : Nat := fm_ct (fun p => (V p).isSome) 12
theorem fm_used {post : Int32 → Prop} (hR : fm_R V K sp ob nn a1 a2 a3 a4 a5 a7) (H : post (nI (fm_cn V))) : wpX_used post (sp, ob, nn, a1, a2, a3, a4, a5, a6, a7) := by
  refine pk_loop (σ := Unit) (fun n i _ => wX_used_4 post sp ob nn a1 a2 a3 a4 a5 a6 a7 n (nI (fm_ct (fun p => (V p).isSome) i)) (nI i)) (fun _ _ => True) 12 0 () (by omega) trivial ?_ ?_
  · intro n _ _
    exact pk_le 12 12 (fun _ => H) (fun z => absurd z (by omega))
  · intro n i _ hi _ hw
    have t : wX_used_4 post sp ob nn a1 a2 a3 a4 a5 a6 a7 n (nI (fm_ct (fun p => (V p).isSome) (i + 1))) (nI (i + 1)) := hw () trivial
    refine pk_le 12 i (fun z => absurd z (by omega)) (fun _ => fm_has hR hi (fun v e => br_f (by decide) ?_) (fun e => br_t rfl ?_))
    · rw [fm_ct_t (P := fun p => (V p).isSome) (show (V i).isSome = true by rw [e]; rfl)] at t
      exact nm_r (nI_1 _) (nm_r (nI_1 i) t)
    · rw [fm_ct_f (P := fun p => (V p).isSome) (show (V i).isSome = false by rw [e]; rfl)] at t
      exact nm_r (nI_1 i) t
theorem fm_next {post : Int32 → Prop} {x : Int32} {k : Nat} (hR : fm_R V K sp ob nn a1 a2 a3 a4 a5 a7) (hk : k ≤ 12) (h : ∀ q, q < k → nI q ≤ x ∨ V q = none) (H1 : k < 12 → ¬ nI k ≤ x ∧ V k ≠ none ∧ post (nI k)) (H2 : k = 12 → post (-2)) : wpX_nextUsed post (sp, ob, nn, a1, a2, a3, a4, a5, a6, a7) x := by
  refine pk_loop (σ := Unit) (fun n i _ => wX_nextUsed_2 post x sp ob nn a1 a2 a3 a4 a5 a6 a7 n (nI i)) (fun _ _ => True) k 0 () (by omega) trivial ?_ ?_
  · intro n _ _
    refine pk_le 12 k (fun z => H2 (by omega)) (fun z => ?_)
    obtain ⟨g1, g2, g3⟩ := H1 z
    exact br_f g1 (fm_has hR z (fun v e => br_f (by decide) g3) (fun e => absurd e g2))
  · intro n i _ hi _ hw
    refine pk_le 12 i (fun z => absurd z (by omega)) (fun _ => br_c (fun _ => nm_r (nI_1 i) (hw () trivial)) (fun z => ?_))
    rcases h i hi with g | g
    · exact absurd g z
    · exact fm_has hR (by omega) (fun v e => by rw [g] at e; cases e) (fun _ => br_t rfl (nm_r (nI_1 i) (hw () trivial)))
def fm_tot (V : Nat → Option Int32) : Nat → Int64
  | 0 => 0
  | n + 1 => fm_tot V n + ((V n).getD 0).toInt64
theorem fm_total {post : Int64 → Prop} (hR : fm_R V K sp ob nn a1 a2 a3 a4 a5 a7) (H : post (fm_tot V 12)) : wpX_total post (sp, ob, nn, a1, a2, a3, a4, a5, a6, a7) := by
  refine pk_loop (σ := Unit) (fun n i _ => wX_total_4 post sp ob nn a1 a2 a3 a4 a5 a6 a7 n (fm_tot V i) (nI i)) (fun _ _ => True) 12 0 () (by omega) trivial ?_ ?_
  · intro n _ _
    exact pk_le 12 12 (fun _ => H) (fun z => absurd z (by omega))
  · intro n i _ hi _ hw
    have t : wX_total_4 post sp ob nn a1 a2 a3 a4 a5 a6 a7 n (fm_tot V (i + 1)) (nI (i + 1)) := hw () trivial
    exact pk_le 12 i (fun z => absurd z (by omega)) (fun _ => fm_read hR hi (nm_r (e' := fm_tot V (i + 1)) rfl (nm_r (nI_1 i) t)))
theorem fm_A_or {ob : Int32} (h : fm_A a1 ob) : fm_Z a1 ∨ ∃ b k, 1 ≤ k ∧ fm_B a1 b k := by
  rcases h with ⟨_, h⟩ | ⟨b, k, h1, _, h2⟩
  · exact Or.inl h
  · exact Or.inr ⟨b, k, h1, h2⟩
theorem fm_pc {post : Int32 → St2 → Prop} (hK : K < 2 ^ 30) (hR : fm_R V K sp ob nn a1 a2 a3 a4 a5 a7)
    (H : ∀ (sp' ob' nn' : Int32) (b1 b2 b3 b4 b5 b6 b7 : Nat → Int32), fm_R V K sp' ob' nn' b1 b2 b3 b4 b5 b7 → post (nI (fm_cn V)) (sp', ob', nn', b1, b2, b3, b4, b5, b6, b7)) :
    wpX_powerCut post (sp, ob, nn, a1, a2, a3, a4, a5, a6, a7) := by
  obtain ⟨s, N, hs1, hs3, hN1, hNK, rfl, rfl, hC, hA⟩ := hR
  unfold wpX_powerCut
  dsimp only
  refine fm_start hN1 (by omega) hC (fm_A_or hA) (fun ob' M a7' m1 m2 hC' hA' => ?_)
  have hR' : fm_R V K (nI s) ob' (nI M) a1 a2 a3 a4 a5 a7' := ⟨s, M, hs1, hs3, m1, by omega, rfl, rfl, hC', hA'⟩
  exact fm_used hR' (H _ _ _ _ _ _ _ _ _ _ hR')
/-- a torn page says nothing -/
theorem fm_C_torn {t : Nat} {x y z : Int32} (hC : fm_C V N a1 a2 a3 a4 a5 a7) (h0 : a1 t = 0) : fm_C V N (upd a1 t 2) (upd a2 t x) (upd a3 t y) a4 (upd a5 t z) a7 := by
  refine fm_C_sub hC (fun q hq e => ?_) (fun p t' hp ht' e => ?_)
  · by_cases c : q = t
    · rw [c, pk_us] at e
      exact absurd e (by decide)
    · rw [pk_un c] at e
      exact ⟨e, pk_un c, pk_un c, rfl, pk_un c⟩
  · have g := (fm_C_at hC hp ht' e).1
    have c : t' ≠ t := fun z => by rw [z, h0] at g; exact absurd g (by decide)
    rw [pk_un c]
    exact g
theorem fm_torn {post : Int32 → St2 → Prop} {v : Int32} (hK : K + 5 < 2 ^ 30) (hR : fm_R V K sp ob nn a1 a2 a3 a4 a5 a7) (hp : p < 12)
    (H : ∀ (sp' ob' nn' : Int32) (b1 b2 b3 b4 b5 b6 b7 : Nat → Int32), fm_R V (K + 5) sp' ob' nn' b1 b2 b3 b4 b5 b7 → post (nI p) (sp', ob', nn', b1, b2, b3, b4, b5, b6, b7)) :
    wpX_torn post (sp, ob, nn, a1, a2, a3, a4, a5, a6, a7) (nI p) v := by
  obtain ⟨s, N, hs1, hs3, hN1, hNK, rfl, rfl, hC, hA⟩ := hR
  unfold wpX_torn
  dsimp only
  refine fm_isPg hp (br_f (by decide) (fm_fresh hs1 hs3 hN1 (by omega) hC hA (fun N' b k b1 b2 b3 b4 b5 b6 b7 g1 g2 gC gB gk => ?_)))
  have hb := gB.1.1
  have hz : b1 (4 * b + k) = 0 := gB.1.2.2.2.1 k (Nat.le_refl _) gk
  have i32 : vp_in (nI (4 * b + k)) 32 := pk_in (4 * b + k) 32 (by omega)
  refine ⟨i32, nm_e ⟨i32, nm_e ⟨i32, nm_e ⟨i32, nm_e ?_⟩⟩⟩⟩
  rw [nI_clamp (show 4 * b + k < 2 ^ 31 by omega)]
  refine fm_start g1 (by omega) (fm_C_torn gC hz) (Or.inr ⟨b, k + 1, by omega, fm_B_w gB gk (by decide)⟩) (fun ob' M a7' m1 m2 hC' hA' => ?_)
  exact H _ _ _ _ _ _ _ _ _ _ ⟨s, M, hs1, hs3, m1, by omega, rfl, rfl, hC', hA'⟩
theorem fm_write {post : Int32 → St2 → Prop} {v z : Int32} (hK : K + 5 < 2 ^ 30) (hR : fm_R V K sp ob nn a1 a2 a3 a4 a5 a7) (hp : p < 12) (hz : (V p = none ∧ z = 0) ∨ (V p ≠ none ∧ z = 1))
    (H : ∀ (sp' ob' nn' : Int32) (b1 b2 b3 b4 b5 b6 b7 : Nat → Int32), fm_R (fm_up V p (some v)) (K + 5) sp' ob' nn' b1 b2 b3 b4 b5 b7 → post z (sp', ob', nn', b1, b2, b3, b4, b5, b6, b7)) :
    wpX_write post (sp, ob, nn, a1, a2, a3, a4, a5, a6, a7) (nI p) v := by
  unfold wpX_write
  dsimp only
  refine fm_isPg hp (br_f (by decide) (fm_has hR hp (fun w e => br_f (by decide) ?_) (fun e => br_t rfl ?_)))
  · rcases hz with ⟨g, _⟩ | ⟨_, rfl⟩
    · rw [g] at e
      cases e
    · unfold wX_write_23
      exact fm_prog hK hR hp (Or.inl rfl) (fun sp' ob' nn' b1 b2 b3 b4 b5 b6 b7 h => H sp' ob' nn' b1 b2 b3 b4 b5 b6 b7 h)
  · rcases hz with ⟨_, rfl⟩ | ⟨g, _⟩
    · unfold wX_write_23
      exact fm_prog hK hR hp (Or.inl rfl) (fun sp' ob' nn' b1 b2 b3 b4 b5 b6 b7 h => H sp' ob' nn' b1 b2 b3 b4 b5 b6 b7 h)
    · exact absurd e g
theorem fm_trim1 {post : Int32 → St2 → Prop} (hK : K + 5 < 2 ^ 30) (hR : fm_R V K sp ob nn a1 a2 a3 a4 a5 a7) (hp : p < 12) (hz : V p ≠ none)
    (H : ∀ (sp' ob' nn' : Int32) (b1 b2 b3 b4 b5 b6 b7 : Nat → Int32), fm_R (fm_up V p none) (K + 5) sp' ob' nn' b1 b2 b3 b4 b5 b7 → post 1 (sp', ob', nn', b1, b2, b3, b4, b5, b6, b7)) :
    wpX_trim post (sp, ob, nn, a1, a2, a3, a4, a5, a6, a7) (nI p) := by
  unfold wpX_trim
  dsimp only
  exact fm_isPg hp (br_f (by decide) (fm_has hR hp (fun w e => br_f (by decide) (fm_prog hK hR hp (Or.inr rfl) (fun sp' ob' nn' b1 b2 b3 b4 b5 b6 b7 h => H sp' ob' nn' b1 b2 b3 b4 b5 b6 b7 h))) (fun e => absurd e hz)))
theorem fm_trim0 {post : Int32 → St2 → Prop} (hR : fm_R V K sp ob nn a1 a2 a3 a4 a5 a7) (hp : p < 12) (hz : V p = none) (H : post 0 (sp, ob, nn, a1, a2, a3, a4, a5, a6, a7)) :
    wpX_trim post (sp, ob, nn, a1, a2, a3, a4, a5, a6, a7) (nI p) := by
  unfold wpX_trim
  dsimp only
  exact fm_isPg hp (br_f (by decide) (fm_has hR hp (fun w e => by rw [hz] at e; cases e) (fun _ => br_t rfl H)))
end
section
theorem fm_Z0 : fm_Z (fun _ => 0) := ⟨fun c _ => Or.inl (fm_E_t.mpr (fun _ _ => rfl)), 0, by omega, fm_E_t.mpr (fun _ _ => rfl)⟩
theorem fm_i80 {post : St2 → Prop} {mc ms kc ks s : Nat} {f1 f2 f3 : Int32} (hs1 : 1 ≤ s) (hs3 : s ≤ 3) (H : ∀ (sp' ob' nn' : Int32) (b1 b2 b3 b4 b5 b6 b7 : Nat → Int32), fm_R (fun _ => none) 1 sp' ob' nn' b1 b2 b3 b4 b5 b7 → post (sp', ob', nn', b1, b2, b3, b4, b5, b6, b7)) :
    wX_init_80 post mc ms (nI s) kc ks f1 f2 f3 (fun _ => 0) (fun _ => 0) (fun _ => 0) (fun _ => 0) (fun _ => 0) (fun _ => 0) (fun _ => 0) := by
  unfold wX_init_80
  exact fm_start (N := 1) (Nat.le_refl _) (by omega) fm_C_0 (Or.inl fm_Z0) (fun ob' M a7' m1 m2 hC hA => H _ _ _ _ _ _ _ _ _ _ ⟨s, M, hs1, hs3, m1, m2, rfl, rfl, hC, hA⟩)
theorem fm_init {post : St2 → Prop} {p0 : Int32} (H : ∀ (sp' ob' nn' : Int32) (b1 b2 b3 b4 b5 b6 b7 : Nat → Int32), fm_R (fun _ => none) 1 sp' ob' nn' b1 b2 b3 b4 b5 b7 → post (sp', ob', nn', b1, b2, b3, b4, b5, b6, b7)) :
    wpX_init post 7 180 (0, 0, 0) p0 := by
  unfold wpX_init
  dsimp only
  refine ⟨by omega, by omega, by omega, by omega, by omega, by omega, by omega, by omega, by omega, by omega, by omega, by omega, by omega, by omega, br_c (fun h1 => br_c (fun h3 => ?_) (fun _ => fm_i80 (s := 3) (by omega) (by omega) H)) (fun _ => fm_i80 (s := 1) (by omega) (by omega) H)⟩
  have h0 : ¬ p0 < 0 := fun z => by
    rw [Int32.lt_iff_toInt_lt] at z
    rw [Int32.le_iff_toInt_le] at h1
    have e0 : (0 : Int32).toInt = 0 := by decide
    have e1 : (1 : Int32).toInt = 1 := by decide
    omega
  obtain ⟨s, hs, rfl⟩ := nI_of2 (M := 3) (n := 3) (by decide) h0 h3
  have s1 : 1 ≤ s := (nI_leI (a := 1) (b := s) (by omega) (by omega)).mp h1
  exact fm_i80 s1 hs H
end
end
section
/-! what the law writes and waits for -/
section
def fm_d (x1 x2 : Int32) (m : Nat) : Int32 := x1 + nI m * x2
theorem fm_d_0 (x1 x2 : Int32) : fm_d x1 x2 0 = x1 := by
  rw [fm_d, nI_0, Int32.zero_mul, Int32.add_zero]
theorem fm_d_s (x1 x2 : Int32) (m : Nat) : fm_d x1 x2 m + x2 = fm_d x1 x2 (m + 1) := by
  rw [fm_d, fm_d, nI_succ, Int32.add_mul, Int32.one_mul, Int32.add_assoc]
theorem fm_d_84 (x1 x2 : Int32) (p : Nat) : x1 + ((84 + nI p) * x2) = fm_d x1 x2 (84 + p) := by
  rw [fm_d, show (84 : Int32) + nI p = nI (84 + p) from nI_add 84 p]
/-- round r, the pages below p are written anew -/
def fm_W (x1 x2 : Int32) (r p : Nat) : Nat → Option Int32 := fun x => if x < p then some (fm_d x1 x2 (12 * r + x)) else if r = 0 then none else some (fm_d x1 x2 (12 * (r - 1) + x))
variable {x1 x2 : Int32} {r p x : Nat}
theorem fm_W_lt (h : x < p) : fm_W x1 x2 r p x = some (fm_d x1 x2 (12 * r + x)) := if_pos h
theorem fm_W_0 (h : ¬ x < p) : fm_W x1 x2 0 p x = none := by
  rw [fm_W, if_neg h, if_pos rfl]
theorem fm_W_1 (h : ¬ x < p) (hr : r ≠ 0) : fm_W x1 x2 r p x = some (fm_d x1 x2 (12 * (r - 1) + x)) := by
  rw [fm_W, if_neg h, if_neg hr]
theorem fm_W_s : fm_up (fm_W x1 x2 r p) p (some (fm_d x1 x2 (12 * r + p))) = fm_W x1 x2 r (p + 1) := by
  funext x
  by_cases e : x = p
  · rw [e, fm_up_s, fm_W_lt (by omega)]
  · rw [fm_up_n e, fm_W, fm_W]
    by_cases g : x < p
    · rw [if_pos g, if_pos (by omega)]
    · rw [if_neg g, if_neg (show ¬ x < p + 1 by omega)]
theorem fm_W_r (h : x < 12) : fm_W x1 x2 (r + 1) 0 x = fm_W x1 x2 r 12 x := by
  rw [fm_W_lt h, fm_W_1 (by omega) (by omega), Nat.add_sub_cancel]
theorem fm_cn_0 (h : p ≤ 12) : fm_cn (fm_W x1 x2 0 p) = p := by
  have t : ∀ n, fm_ct (fun x => (fm_W x1 x2 0 p x).isSome) n = min n p := by
    intro n
    induction n with
    | zero => rw [Nat.zero_min]; rfl
    | succ n ih =>
      by_cases g : n < p
      · rw [fm_ct_t (P := fun x => (fm_W x1 x2 0 p x).isSome) (show (fm_W x1 x2 0 p n).isSome = true by rw [fm_W_lt g]; rfl), ih]
        omega
      · rw [fm_ct_f (P := fun x => (fm_W x1 x2 0 p x).isSome) (show (fm_W x1 x2 0 p n).isSome = false by rw [fm_W_0 g]; rfl), ih]
        omega
  rw [fm_cn, t 12]
  omega
theorem fm_W_some (hr : r ≠ 0) : (fm_W x1 x2 r p x).isSome = true := by
  by_cases g : x < p
  · rw [fm_W_lt g]; rfl
  · rw [fm_W_1 g hr]; rfl
theorem fm_cn_1 (hr : r ≠ 0) : fm_cn (fm_W x1 x2 r p) = 12 := fm_ct_all 12 (fun i _ => fm_W_some hr)
theorem fm_W_8 : fm_W x1 x2 8 0 x = some (fm_d x1 x2 (84 + x)) := fm_W_1 (by omega) (by omega)
/-- the even pages below 2 i are trimmed -/
def fm_T (x1 x2 : Int32) (i : Nat) : Nat → Option Int32 := fun x => if x < 2 * i ∧ x % 2 = 0 then none else some (fm_d x1 x2 (84 + x))
theorem fm_T_0 : fm_T x1 x2 0 x = fm_W x1 x2 8 0 x := by
  rw [fm_W_8, fm_T, if_neg (by omega)]
theorem fm_T_s {i : Nat} : fm_up (fm_T x1 x2 i) (2 * i) none = fm_T x1 x2 (i + 1) := by
  funext x
  by_cases e : x = 2 * i
  · rw [e, fm_up_s, fm_T, if_pos (by omega)]
  · rw [fm_up_n e, fm_T, fm_T]
    by_cases g : x < 2 * i ∧ x % 2 = 0
    · rw [if_pos g, if_pos (by omega)]
    · rw [if_neg g, if_neg (by omega)]
theorem fm_T_n {i : Nat} : fm_T x1 x2 (i + 1) (2 * i) = none := if_pos (by omega)
theorem fm_T_i {i : Nat} : fm_T x1 x2 i (2 * i) ≠ none := by
  rw [fm_T, if_neg (by omega)]
  exact Option.some_ne_none _
theorem fm_cn_T : fm_cn (fm_T x1 x2 6) = 6 := rfl
theorem fm_odd : ∀ p, p < 12 → (nI p &&& 1 = 1 ↔ p % 2 = 1) := by decide +kernel
theorem fm_T_odd (h : p % 2 = 1) : fm_T x1 x2 6 p = some (fm_d x1 x2 (84 + p)) := if_neg (by omega)
theorem fm_T_even (hp : p < 12) (h : ¬ p % 2 = 1) : fm_T x1 x2 6 p = none := if_pos (by omega)
theorem fm_rem {a b : Nat} (ha : a < 12) (hb : b < 8) : (nI a + nI b) - (nI a + nI b) / 12 * 12 = nI ((a + b) % 12) := by
  rw [nI_add]
  exact pk_rem (d := 12) (by omega) (by omega) (by omega)
end
/-! the law's loops -/
section
variable {post : Int32 → St0 → Prop} {mc ms kc ks : Nat} {x1 x2 x3 : Int32} {sp ob nn : Int32} {a1 a2 a3 a4 a5 a6 a7 : Nat → Int32}
theorem fm_323 {K : Nat} (hR : fm_R (fm_T x1 x2 6) K sp ob nn a1 a2 a3 a4 a5 a7) (hp : post 1 ()) : ∃ n, wL_lawOf_323 post mc ms x1 x2 kc ks sp ob nn a1 a2 a3 a4 a5 a6 a7 n 0 := by
  refine pk_loop (σ := Unit) (fun n i _ => wL_lawOf_323 post mc ms x1 x2 kc ks sp ob nn a1 a2 a3 a4 a5 a6 a7 n (nI i)) (fun _ _ => True) 12 0 () (by omega) trivial ?_ ?_
  · intro n _ _
    exact pk_le 12 12 (fun _ => hp) (fun z => absurd z (by omega))
  · intro n p _ hi _ hw
    have t : wL_lawOf_323 post mc ms x1 x2 kc ks sp ob nn a1 a2 a3 a4 a5 a6 a7 n (nI (p + 1)) := hw () trivial
    refine pk_le 12 p (fun z => absurd z (by omega)) (fun _ => ?_)
    by_cases g : p % 2 = 1
    · have g1 : nI p &&& 1 = 1 := (fm_odd p hi).mpr g
      have e := fm_T_odd (x1 := x1) (x2 := x2) g
      refine fm_has hR hi (fun v _ => br_t g1 ?_) (fun z => by rw [e] at z; cases z)
      unfold wL_lawOf_350
      refine br_t rfl (fm_read hR hi (br_t g1 ?_))
      unfold wL_lawOf_381
      exact br_t (by rw [e, fm_d_84]; rfl) (nm_r (nI_1 p) t)
    · have g1 : ¬ nI p &&& 1 = 1 := fun z => g ((fm_odd p hi).mp z)
      have e := fm_T_even (x1 := x1) (x2 := x2) hi g
      refine fm_has hR hi (fun v z => by rw [e] at z; cases z) (fun z => br_f g1 ?_)
      unfold wL_lawOf_350
      refine br_t rfl (fm_read hR hi (br_f g1 ?_))
      unfold wL_lawOf_381
      exact br_t (by rw [e]; rfl) (nm_r (nI_1 p) t)
theorem fm_272 (hp : post 1 ()) : ∀ (m i K : Nat) (sp ob nn : Int32) (a1 a2 a3 a4 a5 a6 a7 : Nat → Int32), i + m = 6 → K + 5 * m + 5 < 2 ^ 30 → fm_R (fm_T x1 x2 i) K sp ob nn a1 a2 a3 a4 a5 a7 → wL_lawOf_272 post mc ms x1 x2 kc ks (m + 1) (nI (2 * i)) sp ob nn a1 a2 a3 a4 a5 a6 a7 := by
  intro m
  induction m with
  | zero =>
    intro i K sp ob nn a1 a2 a3 a4 a5 a6 a7 hi hK hR
    have i6 : i = 6 := by omega
    subst i6
    refine pk_le 12 12 (fun _ => fm_pc (by omega) hR (fun sp' ob' nn' b1 b2 b3 b4 b5 b6 b7 hR' => br_t ?_ (fm_323 hR' hp))) (fun z => absurd z (by omega))
    rw [fm_cn_T]
    rfl
  | succ m ih =>
    intro i K sp ob nn a1 a2 a3 a4 a5 a6 a7 hi hK hR
    refine pk_le 12 (2 * i) (fun z => absurd z (by omega)) (fun _ => fm_trim1 (by omega) hR (by omega) fm_T_i (fun sp' ob' nn' b1 b2 b3 b4 b5 b6 b7 hR' => br_t rfl ?_))
    rw [fm_T_s] at hR'
    exact fm_trim0 hR' (by omega) fm_T_n (br_t rfl (nm_r (nI_add (2 * i) 2) (ih (i + 1) (K + 5) _ _ _ _ _ _ _ _ _ _ (by omega) (by omega) hR')))
theorem fm_164 {K : Nat} (hK : K + 100 < 2 ^ 30) (hR : fm_R (fm_W x1 x2 8 0) K sp ob nn a1 a2 a3 a4 a5 a7) (hp : post 1 ()) : ∃ n, wL_lawOf_164 post mc ms x1 x2 kc ks sp ob nn a1 a2 a3 a4 a5 a6 a7 n 0 0 := by
  refine pk_loop (σ := Unit) (fun n i _ => wL_lawOf_164 post mc ms x1 x2 kc ks sp ob nn a1 a2 a3 a4 a5 a6 a7 n (fm_tot (fm_W x1 x2 8 0) i) (nI i)) (fun _ _ => True) 12 0 () (by omega) trivial ?_ ?_
  · intro n _ _
    refine pk_le 12 12 (fun _ => fm_total hR (br_t rfl (fm_used hR (br_t ?_ (fm_next (k := 12) hR (Nat.le_refl _) (fun q hq => Or.inl (nI_le (b := 11) (by omega) (by omega))) (fun z => absurd z (by omega)) (fun _ => br_t rfl ⟨6 + 1, ?_⟩)))))) (fun z => absurd z (by omega))
    · rw [fm_cn_1 (by omega)]
      rfl
    · exact fm_272 hp 6 0 K sp ob nn a1 a2 a3 a4 a5 a6 a7 (by omega) (by omega) (fm_R_V hR (fun p _ => fm_T_0))
  · intro n p _ hi _ hw
    have t : wL_lawOf_164 post mc ms x1 x2 kc ks sp ob nn a1 a2 a3 a4 a5 a6 a7 n (fm_tot (fm_W x1 x2 8 0) (p + 1)) (nI (p + 1)) := hw () trivial
    have e : fm_W x1 x2 8 0 p = some (fm_d x1 x2 (84 + p)) := fm_W_8
    refine pk_le 12 p (fun z => absurd z (by omega)) (fun _ => nm_r (fm_d_84 x1 x2 p) (fm_has hR hi (fun v _ => br_f (by decide) (fm_read hR hi (br_t ?_ (fm_next (k := p) hR (by omega) (fun q hq => Or.inl ?_) (fun _ => ⟨?_, ?_, br_t rfl (nm_r ?_ (nm_r (nI_1 p) t))⟩) (fun z => absurd z (by omega)))))) (fun z => by rw [e] at z; cases z)))
    · rw [e]
      rfl
    · match p, hq with
      | 0, hq => exact absurd hq (by omega)
      | k + 1, hq =>
        rw [nI_pred]
        exact nI_le (by omega) (by omega)
    · match p, hi with
      | 0, _ => decide
      | k + 1, hi =>
        rw [nI_pred]
        exact nI_ge (by omega) (by omega)
    · rw [e]
      exact Option.some_ne_none _
    · show _ = fm_tot (fm_W x1 x2 8 0) p + ((fm_W x1 x2 8 0 p).getD 0).toInt64
      rw [e]
      rfl
theorem fm_103 {J16 J26 : Int32 → Int32 → Int32 → Int32 → Int32 → (Nat → Int32) → (Nat → Int32) → (Nat → Int32) → (Nat → Int32) → (Nat → Int32) → (Nat → Int32) → (Nat → Int32) → Prop} {x5 : Int32} {r p K : Nat} (hr : r < 8) (hp : p < 12) (hK : K < 2 ^ 30) (hR : fm_R (fm_W x1 x2 r (p + 1)) K sp ob nn a1 a2 a3 a4 a5 a7)
    (HJ : ∀ (sp ob nn : Int32) (a1 a2 a3 a4 a5 a6 a7 : Nat → Int32), fm_R (fm_W x1 x2 r (p + 1)) K sp ob nn a1 a2 a3 a4 a5 a7 → J26 (x5 + x2) (nI (p + 1)) sp ob nn a1 a2 a3 a4 a5 a6 a7) :
    wL_lawOf_103 post mc ms J16 J26 x1 x2 x3 x5 (nI r) (nI p) kc ks sp ob nn a1 a2 a3 a4 a5 a6 a7 := by
  unfold wL_lawOf_103
  refine br_c (fun _ => fm_pc hK hR (fun sp' ob' nn' b1 b2 b3 b4 b5 b6 b7 hR' => pk_eq r 0 (fun e => ?_) (fun e => ?_))) (fun _ => nm_e (nm_r (nI_1 p) (HJ _ _ _ _ _ _ _ _ _ _ hR)))
  · unfold wL_lawOf_135
    subst e
    exact br_t (by rw [fm_cn_0 (by omega), nI_1]) (nm_e (nm_r (nI_1 p) (HJ _ _ _ _ _ _ _ _ _ _ hR')))
  · unfold wL_lawOf_135
    exact br_t (by rw [fm_cn_1 e]; rfl) (nm_e (nm_r (nI_1 p) (HJ _ _ _ _ _ _ _ _ _ _ hR')))
theorem fm_52 {J16 J26 : Int32 → Int32 → Int32 → Int32 → Int32 → (Nat → Int32) → (Nat → Int32) → (Nat → Int32) → (Nat → Int32) → (Nat → Int32) → (Nat → Int32) → (Nat → Int32) → Prop} {x5 z : Int32} {r p K : Nat} (hr : r < 8) (hp : p < 12) (hK : K + 5 < 2 ^ 30) (hR : fm_R (fm_W x1 x2 r (p + 1)) K sp ob nn a1 a2 a3 a4 a5 a7)
    (HJ : ∀ (sp ob nn : Int32) (a1 a2 a3 a4 a5 a6 a7 : Nat → Int32), fm_R (fm_W x1 x2 r (p + 1)) (K + 5) sp ob nn a1 a2 a3 a4 a5 a7 → J26 (x5 + x2) (nI (p + 1)) sp ob nn a1 a2 a3 a4 a5 a6 a7) :
    wL_lawOf_52 post mc ms J16 J26 x1 x2 x3 x5 (nI r) (nI p) z z kc ks sp ob nn a1 a2 a3 a4 a5 a6 a7 := by
  unfold wL_lawOf_52
  rw [fm_rem hp hr]
  exact br_t rfl (br_c (fun _ => ⟨by decide, fm_torn hK hR (Nat.mod_lt _ (by omega)) (fun sp' ob' nn' b1 b2 b3 b4 b5 b6 b7 hR' => ⟨by decide, br_t rfl (fm_103 hr hp hK hR' HJ)⟩)⟩) (fun _ => fm_103 hr hp hK (fm_R_K hR (by omega)) HJ))
theorem fm_26 {J16 : Int32 → Int32 → Int32 → Int32 → Int32 → (Nat → Int32) → (Nat → Int32) → (Nat → Int32) → (Nat → Int32) → (Nat → Int32) → (Nat → Int32) → (Nat → Int32) → Prop} {r : Nat} (hr : r < 8)
    (HJ : ∀ (sp ob nn : Int32) (a1 a2 a3 a4 a5 a6 a7 : Nat → Int32), fm_R (fm_W x1 x2 (r + 1) 0) (10 * (12 * (r + 1)) + 1) sp ob nn a1 a2 a3 a4 a5 a7 → J16 (fm_d x1 x2 (12 * (r + 1))) (nI (r + 1)) sp ob nn a1 a2 a3 a4 a5 a6 a7) :
    ∀ (m p : Nat) (sp ob nn : Int32) (a1 a2 a3 a4 a5 a6 a7 : Nat → Int32), p + m = 12 → fm_R (fm_W x1 x2 r p) (10 * (12 * r + p) + 1) sp ob nn a1 a2 a3 a4 a5 a7 → wL_lawOf_26 post mc ms J16 x1 x2 x3 (nI r) kc ks (m + 1) (fm_d x1 x2 (12 * r + p)) (nI p) sp ob nn a1 a2 a3 a4 a5 a6 a7 := by
  intro m
  induction m with
  | zero =>
    intro p sp ob nn a1 a2 a3 a4 a5 a6 a7 hp hR
    have p12 : p = 12 := by omega
    subst p12
    exact pk_le 12 12 (fun _ => nm_r (nI_1 r) (HJ _ _ _ _ _ _ _ _ _ _ (fm_R_V hR (fun x hx => fm_W_r hx)))) (fun z => absurd z (by omega))
  | succ m ih =>
    intro p sp ob nn a1 a2 a3 a4 a5 a6 a7 hp hR
    have hp12 : p < 12 := by omega
    have N : ∀ (sp ob nn : Int32) (a1 a2 a3 a4 a5 a6 a7 : Nat → Int32), fm_R (fm_W x1 x2 r (p + 1)) (10 * (12 * r + p) + 1 + 5 + 5) sp ob nn a1 a2 a3 a4 a5 a7 → wL_lawOf_26 post mc ms J16 x1 x2 x3 (nI r) kc ks (m + 1) (fm_d x1 x2 (12 * r + p) + x2) (nI (p + 1)) sp ob nn a1 a2 a3 a4 a5 a6 a7 := by
      intro sp ob nn a1 a2 a3 a4 a5 a6 a7 h
      rw [fm_d_s]
      exact ih (p + 1) sp ob nn a1 a2 a3 a4 a5 a6 a7 (by omega) (fm_R_K h (by omega))
    refine pk_le 12 p (fun z => absurd z (by omega)) (fun _ => ?_)
    by_cases e : r = 0
    · subst e
      refine fm_write (z := 0) (by omega) hR hp12 (Or.inl ⟨fm_W_0 (by omega), rfl⟩) (fun sp' ob' nn' b1 b2 b3 b4 b5 b6 b7 hR' => br_t rfl ?_)
      rw [fm_W_s] at hR'
      exact fm_52 hr hp12 (by omega) hR' N
    · refine fm_write (z := 1) (by omega) hR hp12 (Or.inr ⟨?_, rfl⟩) (fun sp' ob' nn' b1 b2 b3 b4 b5 b6 b7 hR' => br_f (nI_ne0 (by omega) (by omega)) ?_)
      · rw [fm_W_1 (by omega) e]
        exact Option.some_ne_none _
      · rw [fm_W_s] at hR'
        exact fm_52 hr hp12 (by omega) hR' N
theorem fm_16 (hp : post 1 ()) : ∀ (m r : Nat) (sp ob nn : Int32) (a1 a2 a3 a4 a5 a6 a7 : Nat → Int32), r + m = 8 → fm_R (fm_W x1 x2 r 0) (10 * (12 * r) + 1) sp ob nn a1 a2 a3 a4 a5 a7 → wL_lawOf_16 post mc ms x1 x2 x3 kc ks (m + 1) (fm_d x1 x2 (12 * r)) (nI r) sp ob nn a1 a2 a3 a4 a5 a6 a7 := by
  intro m
  induction m with
  | zero =>
    intro r sp ob nn a1 a2 a3 a4 a5 a6 a7 hr hR
    have r8 : r = 8 := by omega
    subst r8
    exact pk_le 8 8 (fun _ => fm_164 (by omega) hR hp) (fun z => absurd z (by omega))
  | succ m ih =>
    intro r sp ob nn a1 a2 a3 a4 a5 a6 a7 hr hR
    exact pk_le 8 r (fun z => absurd z (by omega)) (fun z => ⟨12 + 1, fm_26 z (fun sp ob nn a1 a2 a3 a4 a5 a6 a7 h => ih (r + 1) sp ob nn a1 a2 a3 a4 a5 a6 a7 (by omega) h) 12 0 sp ob nn a1 a2 a3 a4 a5 a6 a7 (by omega) hR⟩)
theorem fm_lawOf {p0 p1 p2 p3 : Int32} (hp : post 1 ()) : wpL_lawOf post 8 190 () p0 p1 p2 p3 := by
  unfold wpL_lawOf
  refine ⟨by omega, by omega, 7, 180, by omega, by omega, fm_init (fun sp ob nn a1 a2 a3 a4 a5 a6 a7 hR => ⟨8 + 1, ?_⟩)⟩
  have t := fm_16 (post := post) (mc := 8) (ms := 190) (kc := 1 + 7) (ks := 10 + 180) (x1 := p1) (x2 := p2) (x3 := p3) hp 8 0 sp ob nn a1 a2 a3 a4 a5 a6 a7 (by omega) (fm_R_V hR (fun x _ => fm_W_0 (by omega)))
  rw [show 12 * 0 = 0 from rfl, fm_d_0] at t
  exact t
end
end
section
section
theorem fm_cell {post : Int32 → Prop} {L : Nat} {xs : Nat → Int32} (hL : L ≤ 4) (i : Nat) (hi : i < 4) (h : ∀ x, post x) : wpL_cellAt post L xs () (nI i) :=
  pk_le L i (fun _ => h 0) (fun z => ⟨pk_in i L z, h _⟩)
theorem i_vc (xs : Nat → Int32) (L : Nat) (hL : L ≤ 4) : wpL_law (fun r => r = 1) L xs := by
  unfold wpL_law
  exact fm_cell hL 0 (by omega) (fun _ => fm_cell hL 1 (by omega) (fun _ => fm_cell hL 2 (by omega) (fun _ => fm_cell hL 3 (by omega) (fun _ => ⟨8, 190, by omega, by omega, fm_lawOf rfl⟩))))
end
end

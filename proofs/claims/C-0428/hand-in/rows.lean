section
theorem pk_us {f : Nat → Int32} {k : Nat} {x : Int32} : upd f k x k = x := if_pos rfl
theorem pk_un {f : Nat → Int32} {k j : Nat} {x : Int32} (h : j ≠ k) : upd f k x j = f j := if_neg h
theorem pk_sub {a b : Nat} (h : b ≤ a) : nI a - nI b = nI (a - b) := by
  obtain ⟨c, rfl⟩ : ∃ c, a = c + b := ⟨a - b, by omega⟩
  rw [← nI_add, Int32.add_sub_cancel, Nat.add_sub_cancel]
theorem pk_m1 (n : Nat) : nI (n + 1) + (-1) = nI n := by
  rw [← nI_1, Int32.add_assoc, show (1 : Int32) + (-1) = 0 from rfl, Int32.add_zero]
theorem pk_mul (a b : Nat) : nI a * nI b = nI (a * b) := (Int32.ofNat_mul a b).symm
theorem pk_le {x y : Int32} {A B : Prop} (a b : Nat) (f : a ≤ b → A) (g : b < a → B) (hx : x = nI a := by rfl) (hy : y = nI b := by rfl) (ha : a < 2 ^ 31 := by omega) (hb : b < 2 ^ 31 := by omega) : (x ≤ y → A) ∧ (¬ x ≤ y → B) := by
  subst hx hy
  rw [nI_leI ha hb]
  exact ⟨f, fun z => g (by omega)⟩
theorem pk_lt {x y : Int32} {A B : Prop} (a b : Nat) (f : a < b → A) (g : b ≤ a → B) (hx : x = nI a := by rfl) (hy : y = nI b := by rfl) (ha : a < 2 ^ 31 := by omega) (hb : b < 2 ^ 31 := by omega) : (x < y → A) ∧ (¬ x < y → B) := by
  subst hx hy
  rw [nI_ltI ha hb]
  exact ⟨f, fun z => g (by omega)⟩
theorem pk_eq {x y : Int32} {A B : Prop} (a b : Nat) (f : a = b → A) (g : a ≠ b → B) (hx : x = nI a := by rfl) (hy : y = nI b := by rfl) (ha : a < 2 ^ 31 := by omega) (hb : b < 2 ^ 31 := by omega) : (x = y → A) ∧ (¬ x = y → B) := by
  subst hx hy
  rw [nI_eq ha hb]
  exact ⟨f, g⟩
theorem pk_in {x : Int32} (n N : Nat) (h : n < N) (hx : x = nI n := by rfl) (hN : N < 2 ^ 31 := by omega) : vp_in x N := by
  subst hx
  exact vp_in_nI h hN
theorem pk_cl {x : Int32} (n : Nat) (hx : x = nI n := by rfl) (h : n < 2 ^ 31 := by omega) : x.toNatClampNeg = n := by
  subst hx
  exact nI_clamp h
def bt (x : Int32) (i : Nat) : Bool := x.toBitVec.getLsbD i
theorem b_ext {x y : Int32} (h : ∀ i, i < 32 → bt x i = bt y i) : x = y := Int32.toBitVec_inj.mp (BitVec.eq_of_getLsbD_eq (fun i hi => h i hi))
theorem b_or (x y : Int32) (i : Nat) : bt (x ||| y) i = (bt x i || bt y i) := by unfold bt; rw [Int32.toBitVec_or, BitVec.getLsbD_or]
theorem b_and (x y : Int32) (i : Nat) : bt (x &&& y) i = (bt x i && bt y i) := by unfold bt; rw [Int32.toBitVec_and, BitVec.getLsbD_and]
theorem b_big {x : Int32} {i : Nat} (h : 32 ≤ i) : bt x i = false := BitVec.getLsbD_of_ge _ _ h
theorem b_0 (i : Nat) : bt 0 i = false := BitVec.getLsbD_zero
theorem s_l : ∀ n, n < 32 → ((nI n &&& 31).toBitVec.smod 32).toNat = n := by decide +kernel
theorem b_shl (n : Nat) (hn : n < 32) (x : Int32) {i : Nat} (hi : i < 32) : bt (x <<< (nI n &&& 31)) i = (decide (n ≤ i) && bt x (i - n)) := by
  unfold bt
  rw [Int32.toBitVec_shiftLeft]
  show (x.toBitVec <<< ((nI n &&& 31).toBitVec.smod 32).toNat).getLsbD i = _
  rw [s_l n hn, BitVec.getLsbD_shiftLeft]
  rcases Nat.lt_or_ge i n with h | h
  · simp [h, Nat.not_le.mpr h]
  · simp [hi, h, Nat.not_lt.mpr h]
end
section
/-! The plain law: patterns, names, what fits. s: the signs of a rule, m: how many; lt: letters (name k, letter q at k * 8 + q), L k: the length of name k -/
def ig_nx (s : Nat → Int32) : Nat → Nat → Nat
  | 0, i => i
  | d + 1, i => if s i = 9 then i else ig_nx s d (i + 1)
/-- the first slash at or behind place i, or the end m -/
def ig_te (s : Nat → Int32) (m i : Nat) : Nat := ig_nx s (m - i) i
theorem ig_te_end {s : Nat → Int32} {m i : Nat} (h : m ≤ i) : ig_te s m i = i := by
  unfold ig_te
  rw [Nat.sub_eq_zero_of_le h, ig_nx]
theorem ig_te_sl {s : Nat → Int32} {m i : Nat} (h : i < m) (h9 : s i = 9) : ig_te s m i = i := by
  unfold ig_te
  obtain ⟨d, hd⟩ : ∃ d, m - i = d + 1 := ⟨m - i - 1, by omega⟩
  rw [hd, ig_nx, if_pos h9]
theorem ig_te_st {s : Nat → Int32} {m i : Nat} (h : i < m) (h9 : ¬ s i = 9) : ig_te s m i = ig_te s m (i + 1) := by
  unfold ig_te
  obtain ⟨d, hd⟩ : ∃ d, m - i = d + 1 := ⟨m - i - 1, by omega⟩
  rw [hd, ig_nx, if_neg h9, show m - (i + 1) = d by omega]
theorem ig_nx_f (s : Nat → Int32) : ∀ d i, i ≤ ig_nx s d i ∧ ig_nx s d i ≤ i + d ∧ (ig_nx s d i = i + d ∨ s (ig_nx s d i) = 9) ∧ ∀ j, i ≤ j → j < ig_nx s d i → ¬ s j = 9 := by
  intro d
  induction d with
  | zero =>
    intro i
    rw [ig_nx]
    exact ⟨Nat.le_refl _, Nat.le_refl _, Or.inl rfl, fun j h1 h2 => absurd h2 (by omega)⟩
  | succ d ih =>
    intro i
    rw [ig_nx]
    by_cases h9 : s i = 9
    · rw [if_pos h9]
      exact ⟨Nat.le_refl _, by omega, Or.inr h9, fun j h1 h2 => absurd h2 (by omega)⟩
    · rw [if_neg h9]
      obtain ⟨a, b, c, e⟩ := ih (i + 1)
      refine ⟨by omega, by omega, ?_, ?_⟩
      · rcases c with c | c
        · exact Or.inl (by omega)
        · exact Or.inr c
      · intro j h1 h2
        by_cases hj : j = i
        · rw [hj]; exact h9
        · exact e j (by omega) h2
theorem ig_te_ge (s : Nat → Int32) (m i : Nat) : i ≤ ig_te s m i := (ig_nx_f s (m - i) i).1
theorem ig_te_le {s : Nat → Int32} {m i : Nat} (h : i ≤ m) : ig_te s m i ≤ m := by
  have := (ig_nx_f s (m - i) i).2.1
  unfold ig_te
  omega
theorem ig_te_at {s : Nat → Int32} {m i : Nat} (h : i ≤ m) : ig_te s m i = m ∨ s (ig_te s m i) = 9 := by
  rcases (ig_nx_f s (m - i) i).2.2.1 with c | c
  · exact Or.inl (by unfold ig_te; omega)
  · exact Or.inr c
theorem ig_te_no {s : Nat → Int32} {m i j : Nat} (h1 : i ≤ j) (h2 : j < ig_te s m i) : ¬ s j = 9 := (ig_nx_f s (m - i) i).2.2.2 j h1 h2
/-- a place t with no slash in i .. t - 1, at the end or at a slash, is te i -/
theorem ig_te_of {s : Nat → Int32} {m t : Nat} (ht : t = m ∨ (t < m ∧ s t = 9)) : ∀ d i, t = i + d → (∀ j, i ≤ j → j < t → ¬ s j = 9) → ig_te s m i = t := by
  intro d
  induction d with
  | zero =>
    intro i hi _
    have e : i = t := by omega
    rw [e]
    rcases ht with ht | ⟨h1, h2⟩
    · exact ig_te_end (by omega)
    · exact ig_te_sl h1 h2
  | succ d ih =>
    intro i hi hn
    have hm : i < m := by rcases ht with ht | ⟨h1, h2⟩ <;> omega
    rw [ig_te_st hm (hn i (Nat.le_refl _) (by omega))]
    exact ih (i + 1) (by omega) (fun j h1 h2 => hn j (by omega) h2)
/-- the signs from i up to t fit the letters of name k (z of them) from q on -/
def ig_PF (s : Nat → Int32) (t : Nat) (lt : Nat → Int32) (k z : Nat) (i q : Nat) : Bool :=
  if i < t then
    if s i = 7 then ig_PF s t lt k z (i + 1) q || (if q < z then ig_PF s t lt k z i (q + 1) else false)
    else if q < z then decide (s i = 8 ∨ s i = lt (k * 8 + q)) && ig_PF s t lt k z (i + 1) (q + 1) else false
  else decide (z ≤ q)
termination_by (t - i) + (z - q)
decreasing_by all_goals omega
/-- the pattern from place i on fits the names k .. n - 1 -/
def ig_LF (s : Nat → Int32) (m : Nat) (lt : Nat → Int32) (L : Nat → Nat) (n : Nat) (i k : Nat) : Bool :=
  if i ≤ m then
    if i < m ∧ s i = 10 then ig_LF s m lt L n (ig_te s m i + 1) k || (if k < n then ig_LF s m lt L n i (k + 1) else false)
    else if k < n then ig_LF s m lt L n (ig_te s m i + 1) (k + 1) && ig_PF s (ig_te s m i) lt k (L k) i 0 else false
  else decide (n ≤ k)
termination_by (m + 1 - i) + (n - k)
decreasing_by all_goals (have := ig_te_ge s m i; omega)
/-- acceptance from place i, name k, letter q on, the last name being n - 1 -/
def ig_A (s : Nat → Int32) (m : Nat) (lt : Nat → Int32) (L : Nat → Nat) (n : Nat) (i k q : Nat) : Prop :=
  ((i < m ∧ s i = 10) ∧ ig_LF s m lt L n i (k + 1) = true) ∨
  (¬ (i < m ∧ s i = 10) ∧ ig_PF s (ig_te s m i) lt k (L k) i q = true ∧ ig_LF s m lt L n (ig_te s m i + 1) (k + 1) = true)
/-- a rule's pattern is well formed -/
def ig_Good (s : Nat → Int32) (m : Nat) : Prop :=
  0 < m ∧ (∀ i, i < m → s i = 9 → 0 < i ∧ i + 1 < m ∧ ¬ s (i + 1) = 9) ∧ (∀ i, i < m → s i = 10 → (i = 0 ∨ s (i - 1) = 9) ∧ (i + 1 = m ∨ s (i + 1) = 9))
section
variable {s : Nat → Int32} {m : Nat} {lt : Nat → Int32} {L : Nat → Nat} {n : Nat}
theorem ig_PF_end {t k z i q : Nat} (h : t ≤ i) : ig_PF s t lt k z i q = decide (z ≤ q) := by
  rw [ig_PF, if_neg (by omega)]
theorem ig_PF_st {t k z i q : Nat} (h : i < t) (h7 : s i = 7) : ig_PF s t lt k z i q = (ig_PF s t lt k z (i + 1) q || (if q < z then ig_PF s t lt k z i (q + 1) else false)) := by
  rw [ig_PF, if_pos h, if_pos h7]
theorem ig_PF_ch {t k z i q : Nat} (h : i < t) (h7 : ¬ s i = 7) : ig_PF s t lt k z i q = (if q < z then decide (s i = 8 ∨ s i = lt (k * 8 + q)) && ig_PF s t lt k z (i + 1) (q + 1) else false) := by
  rw [ig_PF, if_pos h, if_neg h7]
theorem ig_LF_end {i k : Nat} (h : m < i) : ig_LF s m lt L n i k = decide (n ≤ k) := by
  rw [ig_LF, if_neg (by omega)]
theorem ig_LF_d {i k : Nat} (h : i < m) (h10 : s i = 10) : ig_LF s m lt L n i k = (ig_LF s m lt L n (ig_te s m i + 1) k || (if k < n then ig_LF s m lt L n i (k + 1) else false)) := by
  rw [ig_LF, if_pos (by omega), if_pos ⟨h, h10⟩]
theorem ig_LF_o {i k : Nat} (h : i ≤ m) (h10 : ¬ (i < m ∧ s i = 10)) : ig_LF s m lt L n i k = (if k < n then ig_LF s m lt L n (ig_te s m i + 1) (k + 1) && ig_PF s (ig_te s m i) lt k (L k) i 0 else false) := by
  rw [ig_LF, if_pos h, if_neg h10]
theorem ig_A_end {k q : Nat} : ig_A s m lt L n m k q ↔ L k ≤ q ∧ n ≤ k + 1 := by
  unfold ig_A
  rw [ig_te_end (Nat.le_refl m), ig_PF_end (Nat.le_refl m), ig_LF_end (i := m + 1) (by omega), decide_eq_true_iff, decide_eq_true_iff]
  constructor
  · rintro (⟨⟨h, _⟩, _⟩ | ⟨_, h⟩)
    · exact absurd h (Nat.lt_irrefl m)
    · exact h
  · intro h
    exact Or.inr ⟨fun z => Nat.lt_irrefl m z.1, h⟩
theorem ig_A_sl {i k q : Nat} (hi : i < m) (h9 : s i = 9) : ig_A s m lt L n i k q ↔ L k ≤ q ∧ ig_LF s m lt L n (i + 1) (k + 1) = true := by
  have h10 : ¬ (i < m ∧ s i = 10) := fun z => absurd (h9.symm.trans z.2) (by decide)
  unfold ig_A
  rw [ig_te_sl hi h9, ig_PF_end (Nat.le_refl i), decide_eq_true_iff]
  constructor
  · rintro (⟨h, _⟩ | ⟨_, h⟩)
    · exact absurd h h10
    · exact h
  · intro h
    exact Or.inr ⟨h10, h⟩
theorem ig_A_db {i k q : Nat} (hi : i < m) (h10 : s i = 10) : ig_A s m lt L n i k q ↔ ig_LF s m lt L n i (k + 1) = true := by
  unfold ig_A
  constructor
  · rintro (⟨_, h⟩ | ⟨h, _⟩)
    · exact h
    · exact absurd ⟨hi, h10⟩ h
  · intro h
    exact Or.inl ⟨⟨hi, h10⟩, h⟩
/-- no double star -/
theorem ig_A_o {i k q : Nat} (h10 : ¬ (i < m ∧ s i = 10)) : ig_A s m lt L n i k q ↔ ig_PF s (ig_te s m i) lt k (L k) i q = true ∧ ig_LF s m lt L n (ig_te s m i + 1) (k + 1) = true := by
  unfold ig_A
  constructor
  · rintro (⟨h, _⟩ | ⟨_, h⟩)
    · exact absurd h h10
    · exact h
  · intro h
    exact Or.inr ⟨h10, h⟩
/-- behind a sign that is no slash stands no double star -/
theorem ig_nodb (G : ig_Good s m) {i : Nat} (h9 : ¬ s i = 9) : ¬ (i + 1 < m ∧ s (i + 1) = 10) := by
  rintro ⟨h1, h2⟩
  rcases (G.2.2 (i + 1) h1 h2).1 with h | h
  · omega
  · exact h9 h
theorem ig_te_lt {i : Nat} (hi : i < m) (h9 : ¬ s i = 9) : i < ig_te s m i := by
  rw [ig_te_st hi h9]
  exact ig_te_ge s m (i + 1)
theorem ig_A_st (G : ig_Good s m) {i k q : Nat} (hi : i < m) (h7 : s i = 7) : ig_A s m lt L n i k q ↔ ig_A s m lt L n (i + 1) k q ∨ (q < L k ∧ ig_A s m lt L n i k (q + 1)) := by
  have h9 : ¬ s i = 9 := fun z => absurd (h7.symm.trans z) (by decide)
  have h10 : ¬ (i < m ∧ s i = 10) := fun z => absurd (h7.symm.trans z.2) (by decide)
  rw [ig_A_o h10, ig_A_o h10, ig_A_o (ig_nodb G h9), ig_PF_st (ig_te_lt hi h9) h7, ← ig_te_st hi h9, Bool.or_eq_true]
  by_cases hq : q < L k
  · rw [if_pos hq]
    constructor
    · rintro ⟨h | h, h2⟩
      · exact Or.inl ⟨h, h2⟩
      · exact Or.inr ⟨hq, h, h2⟩
    · rintro (⟨h, h2⟩ | ⟨_, h, h2⟩)
      · exact ⟨Or.inl h, h2⟩
      · exact ⟨Or.inr h, h2⟩
  · rw [if_neg hq]
    constructor
    · rintro ⟨h | h, h2⟩
      · exact Or.inl ⟨h, h2⟩
      · exact absurd h (by decide)
    · rintro (⟨h, h2⟩ | ⟨h, _⟩)
      · exact ⟨Or.inl h, h2⟩
      · exact absurd h hq
theorem ig_A_ch (G : ig_Good s m) {i k q : Nat} (hi : i < m) (h7 : ¬ s i = 7) (h9 : ¬ s i = 9) (h10 : ¬ s i = 10) : ig_A s m lt L n i k q ↔ q < L k ∧ (s i = 8 ∨ s i = lt (k * 8 + q)) ∧ ig_A s m lt L n (i + 1) k (q + 1) := by
  rw [ig_A_o (fun z => h10 z.2), ig_A_o (ig_nodb G h9), ig_PF_ch (ig_te_lt hi h9) h7, ← ig_te_st hi h9]
  by_cases hq : q < L k
  · rw [if_pos hq, Bool.and_eq_true, decide_eq_true_iff]
    constructor
    · rintro ⟨⟨a, b⟩, c⟩
      exact ⟨hq, a, b, c⟩
    · rintro ⟨_, a, b, c⟩
      exact ⟨⟨a, b⟩, c⟩
  · rw [if_neg hq]
    constructor
    · rintro ⟨h, _⟩
      exact absurd h (by decide)
    · rintro ⟨h, _⟩
      exact absurd h hq
theorem ig_LF_A {i k : Nat} (hi : i ≤ m) (h10 : ¬ (i < m ∧ s i = 10)) (hk : k < n) : ig_LF s m lt L n i k = true ↔ ig_A s m lt L n i k 0 := by
  rw [ig_LF_o hi h10, ig_A_o h10, if_pos hk, Bool.and_eq_true]
  exact And.comm
theorem ig_te_db (G : ig_Good s m) {i : Nat} (hi : i < m) (h10 : s i = 10) : ig_te s m i = i + 1 := by
  rw [ig_te_st hi (fun z => absurd (h10.symm.trans z) (by decide))]
  rcases (G.2.2 i hi h10).2 with h | h
  · exact ig_te_end (by omega)
  · rcases Nat.lt_or_ge (i + 1) m with h1 | h1
    · exact ig_te_sl h1 h
    · exact ig_te_end h1
theorem ig_LF_db (G : ig_Good s m) {i k : Nat} (hi : i < m) (h10 : s i = 10) (hk : k < n) : ig_LF s m lt L n i k = true ↔ (i + 1 < m ∧ ig_LF s m lt L n (i + 2) k = true) ∨ ig_A s m lt L n i k 0 := by
  rw [ig_LF_d hi h10, ig_A_db hi h10, ig_te_db G hi h10, if_pos hk, Bool.or_eq_true]
  rcases Nat.lt_or_ge (i + 1) m with h1 | h1
  · constructor
    · rintro (h | h)
      · exact Or.inl ⟨h1, h⟩
      · exact Or.inr h
    · rintro (⟨_, h⟩ | h)
      · exact Or.inl h
      · exact Or.inr h
  · rw [ig_LF_end (i := i + 1 + 1) (by omega), decide_eq_true_iff]
    constructor
    · rintro (h | h)
      · omega
      · exact Or.inr h
    · rintro (⟨h, _⟩ | h)
      · omega
      · exact Or.inr h
/-- with no names left the rest must be double stars -/
theorem ig_LF_n (G : ig_Good s m) : ∀ d i, i + d = m + 1 → ((i < m ∧ ¬ s i = 9) ∨ i = m + 1) → (ig_LF s m lt L n i n = true ↔ ∀ j, i ≤ j → j < m → s j = 9 ∨ s j = 10) := by
  intro d
  induction d using Nat.strongRecOn with
  | ind d ih =>
    intro i hd hi
    rcases hi with ⟨hi, h9⟩ | hi
    · by_cases h10 : s i = 10
      · have g := G.2.2 i hi h10
        rw [ig_LF_d hi h10, ig_te_db G hi h10, if_neg (Nat.lt_irrefl n), Bool.or_false]
        have hc : (i + 1 + 1 < m ∧ ¬ s (i + 1 + 1) = 9) ∨ i + 1 + 1 = m + 1 := by
          rcases g.2 with h | h
          · exact Or.inr (by omega)
          · rcases Nat.lt_or_ge (i + 1) m with h1 | h1
            · have g2 := G.2.1 (i + 1) h1 h
              exact Or.inl ⟨g2.2.1, g2.2.2⟩
            · exact Or.inr (by omega)
        have e := ih (d - 2) (by omega) (i + 1 + 1) (by omega) hc
        rw [e]
        constructor
        · intro H j h1 h2
          by_cases e0 : j = i
          · rw [e0]; exact Or.inr h10
          · by_cases e1 : j = i + 1
            · rcases g.2 with h | h
              · omega
              · rw [e1]; exact Or.inl h
            · exact H j (by omega) h2
        · intro H j h1 h2
          exact H j (by omega) h2
      · rw [ig_LF_o (by omega) (fun z => h10 z.2), if_neg (Nat.lt_irrefl n)]
        constructor
        · intro h
          exact absurd h (by decide)
        · intro H
          rcases H i (Nat.le_refl _) hi with h | h
          · exact absurd h h9
          · exact absurd h h10
    · rw [ig_LF_end (by omega), decide_eq_true_iff]
      constructor
      · intro _ j h1 h2
        omega
      · intro _
        exact Nat.le_refl n
end
end
section
/-! Sets of places along a name: a letter, a border, the end, spreading -/
/-- S' is S spread: it holds S, is closed, and holds nothing else that matters -/
def ig_Sp (s : Nat → Int32) (m : Nat) (f : Bool) (S S' : Nat → Prop) : Prop :=
  (∀ i, S i → S' i) ∧ (∀ i, S' i → i < m → s i = 7 → S' (i + 1)) ∧ (f = true → ∀ i, S' i → i + 1 < m → s i = 10 → S' (i + 2)) ∧
  (∀ Q : Nat → Prop, (∀ i, i < m → s i = 7 → Q (i + 1) → Q i) → (f = true → ∀ i, i + 1 < m → s i = 10 → Q (i + 2) → Q i) → ∀ i, S' i → Q i → ∃ j, S j ∧ Q j)
section
variable {s : Nat → Int32} {m : Nat} {lt : Nat → Int32} {L : Nat → Nat} {n : Nat}
theorem ig_step (G : ig_Good s m) {S S' : Nat → Prop} {k q : Nat} (hq : q < L k) (hc : ¬ lt (k * 8 + q) = 7 ∧ ¬ lt (k * 8 + q) = 9 ∧ ¬ lt (k * 8 + q) = 10)
    (hS : ∀ i, S i → i < m → s i = 7 → S (i + 1))
    (h1 : ∀ i, S i → i < m → (s i = 8 ∨ s i = lt (k * 8 + q)) → S' (i + 1))
    (h2 : ∀ i, S i → i < m → (s i = 7 ∨ s i = 10) → S' i)
    (h3 : ∀ j, S' j → (∃ i, j = i + 1 ∧ S i ∧ i < m ∧ (s i = 8 ∨ s i = lt (k * 8 + q))) ∨ (S j ∧ j < m ∧ (s j = 7 ∨ s j = 10))) :
    (∃ i, i ≤ m ∧ S i ∧ ig_A s m lt L n i k q) ↔ (∃ i, i ≤ m ∧ S' i ∧ ig_A s m lt L n i k (q + 1)) := by
  constructor
  · have aux : ∀ d i, i + d = m → S i → ig_A s m lt L n i k q → ∃ j, j ≤ m ∧ S' j ∧ ig_A s m lt L n j k (q + 1) := by
      intro d
      induction d with
      | zero =>
        intro i hi _ hA
        have e : i = m := by omega
        rw [e, ig_A_end] at hA
        omega
      | succ d ih =>
        intro i hd hSi hA
        have hi : i < m := by omega
        by_cases h7 : s i = 7
        · rcases (ig_A_st G hi h7).mp hA with hA | ⟨_, hA⟩
          · exact ih (i + 1) (by omega) (hS i hSi hi h7) hA
          · exact ⟨i, by omega, h2 i hSi hi (Or.inl h7), hA⟩
        · by_cases h9 : s i = 9
          · have := ((ig_A_sl hi h9).mp hA).1
            omega
          · by_cases h10 : s i = 10
            · exact ⟨i, by omega, h2 i hSi hi (Or.inr h10), (ig_A_db hi h10).mpr ((ig_A_db hi h10).mp hA)⟩
            · obtain ⟨_, hs, hA⟩ := (ig_A_ch G hi h7 h9 h10).mp hA
              exact ⟨i + 1, by omega, h1 i hSi hi hs, hA⟩
    rintro ⟨i, hi, hSi, hA⟩
    exact aux (m - i) i (by omega) hSi hA
  · rintro ⟨j, hj, hSj, hA⟩
    rcases h3 j hSj with ⟨i, e, hSi, hi, hs⟩ | ⟨hSj, hj, hs⟩
    · subst e
      have h7 : ¬ s i = 7 := by
        intro z
        rcases hs with hs | hs
        · exact absurd (z.symm.trans hs) (by decide)
        · exact hc.1 (hs.symm.trans z)
      have h9 : ¬ s i = 9 := by
        intro z
        rcases hs with hs | hs
        · exact absurd (z.symm.trans hs) (by decide)
        · exact hc.2.1 (hs.symm.trans z)
      have h10 : ¬ s i = 10 := by
        intro z
        rcases hs with hs | hs
        · exact absurd (z.symm.trans hs) (by decide)
        · exact hc.2.2 (hs.symm.trans z)
      exact ⟨i, by omega, hSi, (ig_A_ch G hi h7 h9 h10).mpr ⟨hq, hs, hA⟩⟩
    · rcases hs with h7 | h10
      · exact ⟨j, by omega, hSj, (ig_A_st G hj h7).mpr (Or.inr ⟨hq, hA⟩)⟩
      · exact ⟨j, by omega, hSj, (ig_A_db hj h10).mpr ((ig_A_db hj h10).mp hA)⟩
theorem ig_bord (G : ig_Good s m) {S S' : Nat → Prop} {k : Nat} (hk : k + 1 < n)
    (hS : ∀ i, S i → i < m → s i = 7 → S (i + 1))
    (h1 : ∀ i, S i → i < m → s i = 9 → S' (i + 1))
    (h2 : ∀ i, S i → i < m → s i = 10 → S' i)
    (h3 : ∀ j, S' j → (∃ i, j = i + 1 ∧ S i ∧ i < m ∧ s i = 9) ∨ (S j ∧ j < m ∧ s j = 10)) :
    (∃ i, i ≤ m ∧ S i ∧ ig_A s m lt L n i k (L k)) ↔ (∃ i, i ≤ m ∧ S' i ∧ ig_LF s m lt L n i (k + 1) = true) := by
  constructor
  · have aux : ∀ d i, i + d = m → S i → ig_A s m lt L n i k (L k) → ∃ j, j ≤ m ∧ S' j ∧ ig_LF s m lt L n j (k + 1) = true := by
      intro d
      induction d with
      | zero =>
        intro i hi _ hA
        have e : i = m := by omega
        rw [e, ig_A_end] at hA
        omega
      | succ d ih =>
        intro i hd hSi hA
        have hi : i < m := by omega
        by_cases h7 : s i = 7
        · rcases (ig_A_st G hi h7).mp hA with hA | ⟨z, _⟩
          · exact ih (i + 1) (by omega) (hS i hSi hi h7) hA
          · omega
        · by_cases h9 : s i = 9
          · exact ⟨i + 1, by omega, h1 i hSi hi h9, ((ig_A_sl hi h9).mp hA).2⟩
          · by_cases h10 : s i = 10
            · exact ⟨i, by omega, h2 i hSi hi h10, (ig_A_db hi h10).mp hA⟩
            · have := ((ig_A_ch G hi h7 h9 h10).mp hA).1
              omega
    rintro ⟨i, hi, hSi, hA⟩
    exact aux (m - i) i (by omega) hSi hA
  · rintro ⟨j, hj, hSj, hA⟩
    rcases h3 j hSj with ⟨i, e, hSi, hi, h9⟩ | ⟨hSj, hj, h10⟩
    · subst e
      exact ⟨i, by omega, hSi, (ig_A_sl hi h9).mpr ⟨Nat.le_refl _, hA⟩⟩
    · exact ⟨j, by omega, hSj, (ig_A_db hj h10).mpr hA⟩
theorem ig_fin (G : ig_Good s m) {S : Nat → Prop} {k : Nat} (hS : ∀ i, S i → i < m → s i = 7 → S (i + 1)) :
    (∃ i, i ≤ m ∧ S i ∧ ig_A s m lt L (k + 1) i k (L k)) ↔ (∃ i, S i ∧ i ≤ m ∧ ∀ j, i ≤ j → j < m → s j = 9 ∨ s j = 10) := by
  have hsl : ∀ i, i < m → s i = 9 → (ig_LF s m lt L (k + 1) (i + 1) (k + 1) = true ↔ ∀ j, i ≤ j → j < m → s j = 9 ∨ s j = 10) := by
    intro i hi h9
    have g := G.2.1 i hi h9
    rw [ig_LF_n G (m - i) (i + 1) (by omega) (Or.inl g.2)]
    constructor
    · intro H j h1 h2
      by_cases e : j = i
      · rw [e]; exact Or.inl h9
      · exact H j (by omega) h2
    · intro H j h1 h2
      exact H j (by omega) h2
  have hdb : ∀ i, i < m → s i = 10 → (ig_LF s m lt L (k + 1) i (k + 1) = true ↔ ∀ j, i ≤ j → j < m → s j = 9 ∨ s j = 10) := by
    intro i hi h10
    exact ig_LF_n G (m + 1 - i) i (by omega) (Or.inl ⟨hi, fun z => absurd (h10.symm.trans z) (by decide)⟩)
  constructor
  · have aux : ∀ d i, i + d = m → S i → ig_A s m lt L (k + 1) i k (L k) → ∃ i, S i ∧ i ≤ m ∧ ∀ j, i ≤ j → j < m → s j = 9 ∨ s j = 10 := by
      intro d
      induction d with
      | zero =>
        intro i hi hSi _
        exact ⟨i, hSi, by omega, fun j h1 h2 => by omega⟩
      | succ d ih =>
        intro i hd hSi hA
        have hi : i < m := by omega
        by_cases h7 : s i = 7
        · rcases (ig_A_st G hi h7).mp hA with hA | ⟨z, _⟩
          · exact ih (i + 1) (by omega) (hS i hSi hi h7) hA
          · omega
        · by_cases h9 : s i = 9
          · exact ⟨i, hSi, by omega, (hsl i hi h9).mp ((ig_A_sl hi h9).mp hA).2⟩
          · by_cases h10 : s i = 10
            · exact ⟨i, hSi, by omega, (hdb i hi h10).mp ((ig_A_db hi h10).mp hA)⟩
            · have := ((ig_A_ch G hi h7 h9 h10).mp hA).1
              omega
    rintro ⟨i, hi, hSi, hA⟩
    exact aux (m - i) i (by omega) hSi hA
  · rintro ⟨i, hSi, hi, H⟩
    rcases Nat.lt_or_ge i m with hm | hm
    · rcases H i (Nat.le_refl _) hm with h9 | h10
      · exact ⟨i, hi, hSi, (ig_A_sl hm h9).mpr ⟨Nat.le_refl _, (hsl i hm h9).mpr H⟩⟩
      · exact ⟨i, hi, hSi, (ig_A_db hm h10).mpr ((hdb i hm h10).mpr H)⟩
    · have e : i = m := by omega
      refine ⟨i, hi, hSi, ?_⟩
      rw [e, ig_A_end]
      exact ⟨Nat.le_refl _, Nat.le_refl _⟩
theorem ig_spr0 (G : ig_Good s m) {S S' : Nat → Prop} {k q : Nat} (h : ig_Sp s m false S S') :
    (∃ i, i ≤ m ∧ S' i ∧ ig_A s m lt L n i k q) ↔ (∃ i, i ≤ m ∧ S i ∧ ig_A s m lt L n i k q) := by
  constructor
  · rintro ⟨i, hi, hSi, hA⟩
    obtain ⟨j, hj, hm, hA⟩ := h.2.2.2 (fun i => i ≤ m ∧ ig_A s m lt L n i k q) (fun i hi h7 hQ => ⟨by omega, (ig_A_st G hi h7).mpr (Or.inl hQ.2)⟩) (fun z => absurd z (by decide)) i hSi ⟨hi, hA⟩
    exact ⟨j, hm, hj, hA⟩
  · rintro ⟨i, hi, hSi, hA⟩
    exact ⟨i, hi, h.1 i hSi, hA⟩
theorem ig_A_LF (G : ig_Good s m) {i k : Nat} (hi : i ≤ m) (hk : k < n) (hA : ig_A s m lt L n i k 0) : ig_LF s m lt L n i k = true := by
  by_cases h : i < m ∧ s i = 10
  · exact (ig_LF_db G h.1 h.2 hk).mpr (Or.inr hA)
  · exact (ig_LF_A hi h hk).mpr hA
theorem ig_spr1 (G : ig_Good s m) {S S' : Nat → Prop} {k : Nat} (hk : k < n) (h : ig_Sp s m true S S') :
    (∃ i, i ≤ m ∧ S' i ∧ ig_A s m lt L n i k 0) ↔ (∃ i, i ≤ m ∧ S i ∧ ig_LF s m lt L n i k = true) := by
  constructor
  · rintro ⟨i, hi, hSi, hA⟩
    obtain ⟨j, hj, hm, hA⟩ := h.2.2.2 (fun i => i ≤ m ∧ ig_LF s m lt L n i k = true)
      (fun i hi h7 hQ => ⟨by omega, ig_A_LF G (by omega) hk ((ig_A_st G hi h7).mpr (Or.inl ((ig_LF_A hQ.1 (ig_nodb G (fun z => absurd (h7.symm.trans z) (by decide))) hk).mp hQ.2)))⟩)
      (fun _ i hi h10 hQ => ⟨by omega, (ig_LF_db G (by omega) h10 hk).mpr (Or.inl ⟨hi, hQ.2⟩)⟩) i hSi ⟨hi, ig_A_LF G hi hk hA⟩
    exact ⟨j, hm, hj, hA⟩
  · have aux : ∀ d i, i + d = m → S' i → ig_LF s m lt L n i k = true → ∃ j, j ≤ m ∧ S' j ∧ ig_A s m lt L n j k 0 := by
      intro d
      induction d using Nat.strongRecOn with
      | ind d ih =>
        intro i hd hSi hL
        by_cases hh : i < m ∧ s i = 10
        · rcases (ig_LF_db G hh.1 hh.2 hk).mp hL with ⟨h1, hL⟩ | hA
          · exact ih (d - 2) (by omega) (i + 2) (by omega) (h.2.2.1 rfl i hSi h1 hh.2) hL
          · exact ⟨i, by omega, hSi, hA⟩
        · exact ⟨i, by omega, hSi, (ig_LF_A (by omega) hh hk).mp hL⟩
    rintro ⟨i, hi, hSi, hL⟩
    exact aux (m - i) i (by omega) (h.1 i hSi) hL
end
/-! bits -/
theorem ig_b1 (x : Int32) (j : Nat) : bt (x <<< ((1 : Int32) &&& 31)) j = true ↔ j < 32 ∧ ∃ i, j = i + 1 ∧ bt x i = true := by
  rcases Nat.lt_or_ge j 32 with h | h
  · rw [show bt (x <<< ((1 : Int32) &&& 31)) j = (decide (1 ≤ j) && bt x (j - 1)) from b_shl 1 (by omega) x h, Bool.and_eq_true, decide_eq_true_iff]
    constructor
    · rintro ⟨a, b⟩
      exact ⟨h, j - 1, by omega, b⟩
    · rintro ⟨_, i, e, b⟩
      subst e
      exact ⟨by omega, b⟩
  · rw [b_big h]
    constructor
    · intro z
      exact absurd z (by decide)
    · rintro ⟨z, _⟩
      omega
theorem ig_b2 (x : Int32) (j : Nat) : bt (x <<< ((2 : Int32) &&& 31)) j = true ↔ j < 32 ∧ ∃ i, j = i + 2 ∧ bt x i = true := by
  rcases Nat.lt_or_ge j 32 with h | h
  · rw [show bt (x <<< ((2 : Int32) &&& 31)) j = (decide (2 ≤ j) && bt x (j - 2)) from b_shl 2 (by omega) x h, Bool.and_eq_true, decide_eq_true_iff]
    constructor
    · rintro ⟨a, b⟩
      exact ⟨h, j - 2, by omega, b⟩
    · rintro ⟨_, i, e, b⟩
      subst e
      exact ⟨by omega, b⟩
  · rw [b_big h]
    constructor
    · intro z
      exact absurd z (by decide)
    · rintro ⟨z, _⟩
      omega
theorem ig_bone (i : Nat) : bt 1 i = true ↔ i = 0 := by
  rcases Nat.lt_or_ge i 32 with h | h
  · exact (by decide +kernel : ∀ i, i < 32 → (bt 1 i = true ↔ i = 0)) i h
  · rw [b_big h]
    constructor
    · intro z
      exact absurd z (by decide)
    · intro z
      omega
/-- the bit of place i -/
theorem ig_bbit {i : Nat} (hi : i < 32) (j : Nat) : bt ((1 : Int32) <<< (nI i &&& 31)) j = true ↔ j = i := by
  rcases Nat.lt_or_ge j 32 with h | h
  · rw [b_shl i hi 1 h, Bool.and_eq_true, decide_eq_true_iff, ig_bone]
    omega
  · rw [b_big h]
    constructor
    · intro z
      exact absurd z (by decide)
    · intro z
      omega
theorem ig_b00 (x : Int32) : x = 0 ↔ ∀ i, ¬ bt x i = true := by
  constructor
  · intro h i
    rw [h, b_0]
    decide
  · intro h
    exact b_ext (fun i _ => by rw [b_0]; exact Bool.eq_false_iff.mpr (h i))
theorem ig_bor (x y : Int32) (i : Nat) : bt (x ||| y) i = true ↔ bt x i = true ∨ bt y i = true := by rw [b_or, Bool.or_eq_true]
theorem ig_band (x y : Int32) (i : Nat) : bt (x &&& y) i = true ↔ bt x i = true ∧ bt y i = true := by rw [b_and, Bool.and_eq_true]
/-! spreading, ten rounds -/
def ig_s1 (a x : Int32) : Int32 := x ||| ((x &&& a) <<< ((1 : Int32) &&& 31))
def ig_s2 (b x : Int32) : Int32 := x ||| ((x &&& b) <<< ((2 : Int32) &&& 31))
def ig_it (a b : Int32) : Nat → Int32 → Int32
  | 0, x => x
  | d + 1, x => ig_s2 b (ig_s1 a (ig_it a b d x))
theorem ig_s1b (a x : Int32) (j : Nat) : bt (ig_s1 a x) j = true ↔ bt x j = true ∨ (j < 32 ∧ ∃ i, j = i + 1 ∧ bt x i = true ∧ bt a i = true) := by
  unfold ig_s1
  rw [ig_bor, ig_b1]
  simp only [ig_band]
theorem ig_s2b (b x : Int32) (j : Nat) : bt (ig_s2 b x) j = true ↔ bt x j = true ∨ (j < 32 ∧ ∃ i, j = i + 2 ∧ bt x i = true ∧ bt b i = true) := by
  unfold ig_s2
  rw [ig_bor, ig_b2]
  simp only [ig_band]
theorem ig_s20 (x : Int32) : ig_s2 0 x = x := by
  apply b_ext
  intro i _
  apply Bool.eq_iff_iff.mpr
  rw [ig_s2b]
  constructor
  · rintro (h | ⟨_, i, _, _, h⟩)
    · exact h
    · rw [b_0] at h
      exact absurd h (by decide)
  · exact Or.inl
theorem ig_it_mono (a b x : Int32) (k j : Nat) (h : bt (ig_it a b k x) j = true) : bt (ig_it a b (k + 1) x) j = true := by
  rw [ig_it, ig_s2b, ig_s1b]
  exact Or.inl (Or.inl h)
theorem ig_it_sup (a b x : Int32) : ∀ k j, bt x j = true → bt (ig_it a b k x) j = true := by
  intro k
  induction k with
  | zero => intro j h; exact h
  | succ k ih => intro j h; exact ig_it_mono a b x k j (ih j h)
theorem ig_it_a (a b x : Int32) (k i : Nat) (h : bt (ig_it a b k x) i = true) (ha : bt a i = true) (hi : i + 1 < 32) : bt (ig_it a b (k + 1) x) (i + 1) = true := by
  rw [ig_it, ig_s2b, ig_s1b]
  exact Or.inl (Or.inr ⟨hi, i, rfl, h, ha⟩)
theorem ig_it_b (a b x : Int32) (k i : Nat) (h : bt (ig_s1 a (ig_it a b k x)) i = true) (hb : bt b i = true) (hi : i + 2 < 32) : bt (ig_it a b (k + 1) x) (i + 2) = true := by
  rw [ig_it, ig_s2b]
  exact Or.inr ⟨hi, i, rfl, h, hb⟩
theorem ig_it_u (a b x : Int32) (k j : Nat) (h : bt (ig_s1 a (ig_it a b k x)) j = true) : bt (ig_it a b (k + 1) x) j = true := by
  rw [ig_it, ig_s2b]
  exact Or.inl h
/-- after k rounds the places up to k stand -/
theorem ig_it_fix (a b x : Int32) : ∀ k j, j ≤ k → bt (ig_it a b (k + 1) x) j = true → bt (ig_it a b k x) j = true := by
  intro k
  induction k with
  | zero =>
    intro j hj h
    rw [ig_it, ig_s2b, ig_s1b] at h
    rcases h with (h | ⟨_, i, e, _⟩) | ⟨_, i, e, _⟩
    · exact h
    · omega
    · omega
  | succ k ih =>
    have hu : ∀ j, j ≤ k + 1 → bt (ig_s1 a (ig_it a b (k + 1) x)) j = true → bt (ig_it a b (k + 1) x) j = true := by
      intro j hj h
      rw [ig_s1b] at h
      rcases h with h | ⟨h32, i, e, h, ha⟩
      · exact h
      · rw [e]
        exact ig_it_a a b x k i (ih i (by omega) h) ha (by omega)
    intro j hj h
    rw [ig_it, ig_s2b] at h
    rcases h with h | ⟨h32, i, e, h, hb⟩
    · exact hu j hj h
    · have h2 := ih i (by omega) (hu i (by omega) h)
      rw [e]
      refine ig_it_b a b x k i ?_ hb (by omega)
      rw [ig_s1b]
      exact Or.inl h2
theorem ig_it_sound (a b x : Int32) (Q : Nat → Prop) (ha : ∀ i, bt a i = true → Q (i + 1) → Q i) (hb : ∀ i, bt b i = true → Q (i + 2) → Q i) : ∀ k j, bt (ig_it a b k x) j = true → Q j → ∃ i, bt x i = true ∧ Q i := by
  intro k
  induction k with
  | zero => intro j h q; exact ⟨j, h, q⟩
  | succ k ih =>
    have hu : ∀ j, bt (ig_s1 a (ig_it a b k x)) j = true → Q j → ∃ i, bt x i = true ∧ Q i := by
      intro j h q
      rw [ig_s1b] at h
      rcases h with h | ⟨_, i, e, h, h2⟩
      · exact ih j h q
      · rw [e] at q
        exact ih i h (ha i h2 q)
    intro j h q
    rw [ig_it, ig_s2b] at h
    rcases h with h | ⟨_, i, e, h, h2⟩
    · exact hu j h q
    · rw [e] at q
      exact hu i h (hb i h2 q)
theorem ig_it_sp {s : Nat → Int32} {m : Nat} (hm : m ≤ 10) {a b : Int32} (f : Bool) (ha : ∀ i, bt a i = true ↔ i < m ∧ s i = 7) (hb : ∀ i, bt b i = true ↔ f = true ∧ i + 1 < m ∧ s i = 10) (x : Int32) :
    ig_Sp s m f (fun i => bt x i = true) (fun i => bt (ig_it a b 10 x) i = true) := by
  refine ⟨fun i h => ig_it_sup a b x 10 i h, fun i h hi h7 => ?_, fun hf i h hi h10 => ?_, fun Q h1 h2 i h q => ?_⟩
  · exact ig_it_fix a b x 10 (i + 1) (by omega) (ig_it_a a b x 10 i h ((ha i).mpr ⟨hi, h7⟩) (by omega))
  · refine ig_it_fix a b x 10 (i + 2) (by omega) (ig_it_b a b x 10 i ?_ ((hb i).mpr ⟨hf, hi, h10⟩) (by omega))
    rw [ig_s1b]
    exact Or.inl h
  · exact ig_it_sound a b x Q (fun i z => h1 i ((ha i).mp z).1 ((ha i).mp z).2) (fun i z => h2 ((hb i).mp z).1 i ((hb i).mp z).2.1 ((hb i).mp z).2.2) 10 i h q
end
section
/-! A rule's sets as pictures of its signs; what X's set of states means at name k, letter q -/
def ig_RX (s : Nat → Int32) (m r : Nat) (so sr sl sk db en : Nat → Int32) : Prop :=
  (∀ i, bt (sr r) i = true ↔ i < m ∧ s i = 7) ∧ (∀ i, bt (sl r) i = true ↔ i < m ∧ s i = 9) ∧
  (∀ i, bt (sk r) i = true ↔ i + 1 < m ∧ s i = 10) ∧ (∀ i, bt (db r) i = true ↔ i < m ∧ s i = 10) ∧
  (∀ i, bt (so (r * 7)) i = true ↔ i < m ∧ s i = 8) ∧ (∀ c, 1 ≤ c → c < 7 → ∀ i, bt (so (r * 7 + c)) i = true ↔ i < m ∧ s i = nI c) ∧
  (∀ i, bt (en r) i = true ↔ i ≤ m ∧ ∀ j, i ≤ j → j < m → s j = 9 ∨ s j = 10)
def ig_oL (so sr db : Nat → Int32) (r c : Nat) (x : Int32) : Int32 := ig_it (sr r) 0 10 (((x &&& (so (r * 7) ||| so (r * 7 + c))) <<< ((1 : Int32) &&& 31)) ||| (x &&& (sr r ||| db r)))
def ig_oB (sr sl sk db : Nat → Int32) (r : Nat) (x : Int32) : Int32 := ig_it (sr r) (sk r) 10 (((x &&& sl r) <<< ((1 : Int32) &&& 31)) ||| (x &&& db r))
def ig_o0 (sr sk : Nat → Int32) (r : Nat) : Int32 := ig_it (sr r) (sk r) 10 1
/-- the set x stands for 'the whole fits', the walk being at name k, letter q, begun at name k0 -/
def ig_Mid (s : Nat → Int32) (m : Nat) (lt : Nat → Int32) (L : Nat → Nat) (k0 k q : Nat) (x : Int32) : Prop :=
  (∀ i, bt x i = true → i < m → s i = 7 → bt x (i + 1) = true) ∧
  ∀ n, k < n → ((∃ i, i ≤ m ∧ bt x i = true ∧ ig_A s m lt L n i k q) ↔ ig_LF s m lt L n 0 k0 = true)
section
variable {s : Nat → Int32} {m : Nat} {lt : Nat → Int32} {L : Nat → Nat} {r : Nat} {so sr sl sk db en : Nat → Int32}
theorem ig_litne {x : Int32} {c : Nat} (d : Nat) (hl : x = nI c) (hc : c < 100) (hd : d < 100) (h : c ≠ d) : ¬ x = nI d := by
  rw [hl, nI_eq (by omega) (by omega)]
  exact h
theorem ig_mid_let (G : ig_Good s m) (hm : m ≤ 10) (R : ig_RX s m r so sr sl sk db en) {k0 k q c : Nat} {x : Int32} (hq : q < L k) (hc : 1 ≤ c) (hc7 : c < 7) (hl : lt (k * 8 + q) = nI c)
    (M : ig_Mid s m lt L k0 k q x) : ig_Mid s m lt L k0 k (q + 1) (ig_oL so sr db r c x) := by
  obtain ⟨Ra, Rsl, Rsk, Rdb, Ro0, Roc, Ren⟩ := R
  have sp := ig_it_sp hm false Ra (b := 0) (fun i => by rw [b_0]; simp) (((x &&& (so (r * 7) ||| so (r * 7 + c))) <<< ((1 : Int32) &&& 31)) ||| (x &&& (sr r ||| db r)))
  refine ⟨sp.2.1, fun n hn => (ig_spr0 G sp).trans (Iff.trans (Iff.symm ?_) (M.2 n hn))⟩
  refine ig_step (S := fun i => bt x i = true) G hq ⟨ig_litne 7 hl (by omega) (by omega) (by omega), ig_litne 9 hl (by omega) (by omega) (by omega), ig_litne 10 hl (by omega) (by omega) (by omega)⟩ M.1 ?_ ?_ ?_
  · intro i h hi hs
    refine (ig_bor _ _ _).mpr (Or.inl ((ig_b1 _ _).mpr ⟨by omega, i, rfl, (ig_band _ _ _).mpr ⟨h, (ig_bor _ _ _).mpr ?_⟩⟩))
    rcases hs with hs | hs
    · exact Or.inl ((Ro0 i).mpr ⟨hi, hs⟩)
    · exact Or.inr ((Roc c hc hc7 i).mpr ⟨hi, hs.trans hl⟩)
  · intro i h hi hs
    refine (ig_bor _ _ _).mpr (Or.inr ((ig_band _ _ _).mpr ⟨h, (ig_bor _ _ _).mpr ?_⟩))
    rcases hs with hs | hs
    · exact Or.inl ((Ra i).mpr ⟨hi, hs⟩)
    · exact Or.inr ((Rdb i).mpr ⟨hi, hs⟩)
  · intro j h
    rcases (ig_bor _ _ _).mp h with h | h
    · obtain ⟨_, i, e, h⟩ := (ig_b1 _ _).mp h
      obtain ⟨h, h2⟩ := (ig_band _ _ _).mp h
      rcases (ig_bor _ _ _).mp h2 with h2 | h2
      · exact Or.inl ⟨i, e, h, ((Ro0 i).mp h2).1, Or.inl ((Ro0 i).mp h2).2⟩
      · exact Or.inl ⟨i, e, h, ((Roc c hc hc7 i).mp h2).1, Or.inr (((Roc c hc hc7 i).mp h2).2.trans hl.symm)⟩
    · obtain ⟨h, h2⟩ := (ig_band _ _ _).mp h
      rcases (ig_bor _ _ _).mp h2 with h2 | h2
      · exact Or.inr ⟨h, ((Ra j).mp h2).1, Or.inl ((Ra j).mp h2).2⟩
      · exact Or.inr ⟨h, ((Rdb j).mp h2).1, Or.inr ((Rdb j).mp h2).2⟩
theorem ig_mid_beg (G : ig_Good s m) (hm : m ≤ 10) (R : ig_RX s m r so sr sl sk db en) (k : Nat) : ig_Mid s m lt L k k 0 (ig_o0 sr sk r) := by
  obtain ⟨Ra, Rsl, Rsk, Rdb, Ro0, Roc, Ren⟩ := R
  have sp := ig_it_sp hm true Ra (b := sk r) (fun i => by rw [Rsk]; simp) 1
  refine ⟨sp.2.1, fun n hn => (ig_spr1 G hn sp).trans ?_⟩
  constructor
  · rintro ⟨i, _, hi, h⟩
    have e : i = 0 := (ig_bone i).mp hi
    rw [e] at h
    exact h
  · intro h
    exact ⟨0, by omega, (ig_bone 0).mpr rfl, h⟩
theorem ig_mid_bord (G : ig_Good s m) (hm : m ≤ 10) (R : ig_RX s m r so sr sl sk db en) {k0 k : Nat} {x : Int32} (M : ig_Mid s m lt L k0 k (L k) x) : ig_Mid s m lt L k0 (k + 1) 0 (ig_oB sr sl sk db r x) := by
  obtain ⟨Ra, Rsl, Rsk, Rdb, Ro0, Roc, Ren⟩ := R
  have sp := ig_it_sp hm true Ra (b := sk r) (fun i => by rw [Rsk]; simp) (((x &&& sl r) <<< ((1 : Int32) &&& 31)) ||| (x &&& db r))
  refine ⟨sp.2.1, fun n hn => (ig_spr1 G hn sp).trans (Iff.trans (Iff.symm ?_) (M.2 n (by omega)))⟩
  refine ig_bord (S := fun i => bt x i = true) G hn M.1 ?_ ?_ ?_
  · intro i h hi hs
    exact (ig_bor _ _ _).mpr (Or.inl ((ig_b1 _ _).mpr ⟨by omega, i, rfl, (ig_band _ _ _).mpr ⟨h, (Rsl i).mpr ⟨hi, hs⟩⟩⟩))
  · intro i h hi hs
    exact (ig_bor _ _ _).mpr (Or.inr ((ig_band _ _ _).mpr ⟨h, (Rdb i).mpr ⟨hi, hs⟩⟩))
  · intro j h
    rcases (ig_bor _ _ _).mp h with h | h
    · obtain ⟨_, i, e, h⟩ := (ig_b1 _ _).mp h
      obtain ⟨h, h2⟩ := (ig_band _ _ _).mp h
      exact Or.inl ⟨i, e, h, (Rsl i).mp h2⟩
    · obtain ⟨h, h2⟩ := (ig_band _ _ _).mp h
      exact Or.inr ⟨h, (Rdb j).mp h2⟩
theorem ig_mid_fin (G : ig_Good s m) (R : ig_RX s m r so sr sl sk db en) {k0 k : Nat} {x : Int32} (M : ig_Mid s m lt L k0 k (L k) x) : x &&& en r = 0 ↔ ¬ ig_LF s m lt L (k + 1) 0 k0 = true := by
  obtain ⟨Ra, Rsl, Rsk, Rdb, Ro0, Roc, Ren⟩ := R
  rw [← M.2 (k + 1) (Nat.lt_succ_self k), ig_b00]
  have e := ig_fin (lt := lt) (L := L) (S := fun i => bt x i = true) (k := k) G M.1
  constructor
  · intro h z
    obtain ⟨i, h1, h2, h3⟩ := e.mp z
    exact h i ((ig_band _ _ _).mpr ⟨h1, (Ren i).mpr ⟨h2, h3⟩⟩)
  · intro h i z
    obtain ⟨h1, h2⟩ := (ig_band _ _ _).mp z
    exact h (e.mpr ⟨i, h1, (Ren i).mp h2⟩)
end
/-! the answers: the last rule that matches, how many do, the first beginning that is ignored -/
/-- whether a rule matches the first n names -/
def ig_M (s : Nat → Int32) (m : Nat) (lt : Nat → Int32) (L : Nat → Nat) (mk : Int32) (n : Nat) (f : Bool) : Bool :=
  if ¬ (mk &&& 4 = 0) ∧ f = false then false
  else if ig_te s m 0 = m ∧ mk &&& 2 = 0 then ig_LF s m lt L n 0 (n - 1) else ig_LF s m lt L n 0 0
def ig_last (f : Nat → Bool) : Nat → Int32
  | 0 => -5
  | r + 1 => if f r = true then nI r else ig_last f r
def ig_cnt (f : Nat → Bool) : Nat → Nat
  | 0 => 0
  | r + 1 => if f r = true then ig_cnt f r + 1 else ig_cnt f r
/-- the first place from k on, d of them, with g; its number plus one, or -5 -/
def ig_fi (g : Nat → Bool) : Nat → Nat → Int32
  | 0, _ => -5
  | d + 1, k => if g k = true then nI (k + 1) else ig_fi g d (k + 1)
theorem ig_last_c (f : Nat → Bool) : ∀ r, ig_last f r = -5 ∨ ∃ j, j < r ∧ ig_last f r = nI j := by
  intro r
  induction r with
  | zero => exact Or.inl rfl
  | succ r ih =>
    rw [ig_last]
    by_cases h : f r = true
    · rw [if_pos h]
      exact Or.inr ⟨r, by omega, rfl⟩
    · rw [if_neg h]
      rcases ih with e | ⟨j, hj, e⟩
      · exact Or.inl e
      · exact Or.inr ⟨j, by omega, e⟩
/-- an answer v of last names a rule that isn't negated -/
def ig_g (ng : Nat → Int32) (v : Int32) : Bool := decide (¬ v < 0 ∧ ng v.toNatClampNeg = 0)
/-- one rule: its signs (Y) and its sets and marks (X) -/
def ig_Rule (sg sc mk ng fo ln so sr sl sk db en : Nat → Int32) (m r : Nat) : Prop :=
  m ≤ 10 ∧ sc r = nI m ∧ ig_Good (fun i => sg (r * 10 + i)) m ∧ ig_RX (fun i => sg (r * 10 + i)) m r so sr sl sk db en ∧
  (ng r = 0 ↔ mk r &&& 1 = 0) ∧ (fo r = 0 ↔ mk r &&& 4 = 0) ∧ (ln r = 0 ↔ ¬ (ig_te (fun i => sg (r * 10 + i)) m 0 = m ∧ mk r &&& 2 = 0))
/-- rule r against the first n names -/
def ig_Mr (sg mk lt : Nat → Int32) (ms L : Nat → Nat) (n : Nat) (f : Bool) (r : Nat) : Bool := ig_M (fun i => sg (r * 10 + i)) (ms r) lt L (mk r) n f
/-- beginning j (names 0 .. j) of N names -/
def ig_Fj (sg mk lt : Nat → Int32) (ms L : Nat → Nat) (N : Nat) (f : Bool) (j : Nat) : Nat → Bool := ig_Mr sg mk lt ms L (j + 1) (f || decide (j + 1 < N))
/-- the path: N names, their lengths, their letters -/
def ig_Path (nl lt : Nat → Int32) (L : Nat → Nat) (N : Nat) : Prop :=
  1 ≤ N ∧ N ≤ 6 ∧ (∀ k, nl k = nI (L k)) ∧ (∀ k, L k ≤ 8) ∧ (∀ k q, k < N → q < L k → ∃ c, 1 ≤ c ∧ c < 7 ∧ lt (k * 8 + q) = nI c)
end
section
/-! X: spreading, letters, borders, names, the walk, the questions -/
/-- rule r's states behind name k -/
def ig_Inv (sg lt ln : Nat → Int32) (ms L : Nat → Nat) (k r : Nat) (x : Int32) : Prop := ig_Mid (fun i => sg (r * 10 + i)) (ms r) lt L (if ln r = 0 then 0 else k) k (L k) x
section
variable {pl ru nm : Int32} {b ng fo ln so sr sl sk db en nl lt ss la ca : Nat → Int32}
variable {sg mk sc : Nat → Int32} {ms L : Nat → Nat} {r k : Nat}
theorem ig_spread_l1 {post : Int32 → Prop} (hr : r < 12) (x : Int32) (hp : post (ig_it (sr r) (sk r) 10 x)) : ∀ d i, i + d = 10 → ∀ n, d < n → wX_spread_6 post (nI r) 1 pl ru nm b ng fo ln so sr sl sk db en nl lt ss la ca n (ig_it (sr r) (sk r) i x) (nI i) := by
  intro d
  induction d with
  | zero =>
    intro i hi n hn
    obtain ⟨n, rfl⟩ : ∃ c, n = c + 1 := ⟨n - 1, by omega⟩
    have e : i = 10 := by omega
    subst e
    exact br_t (show (10 : Int32) ≤ nI 10 from nI_le (Nat.le_refl 10) (by decide)) hp
  | succ d ih =>
    intro i hi n hn
    obtain ⟨n, rfl⟩ : ∃ c, n = c + 1 := ⟨n - 1, by omega⟩
    have er : (nI r).toNatClampNeg = r := nI_clamp (by omega)
    refine br_f (nI_ge (b := 10) (by omega) (by decide)) (And.intro (vp_in_nI hr (by decide)) ?_)
    refine nm_r (e' := ig_s1 (sr r) (ig_it (sr r) (sk r) i x)) (by rw [er]; rfl) ?_
    refine br_f (by decide) (And.intro (vp_in_nI hr (by decide)) ?_)
    refine nm_r (e' := ig_it (sr r) (sk r) (i + 1) x) (by rw [er]; rfl) ?_
    exact nm_r (nI_1 i) (ih (i + 1) (by omega) n (by omega))
theorem ig_spread_l0 {post : Int32 → Prop} (hr : r < 12) (x : Int32) (hp : post (ig_it (sr r) 0 10 x)) : ∀ d i, i + d = 10 → ∀ n, d < n → wX_spread_6 post (nI r) 0 pl ru nm b ng fo ln so sr sl sk db en nl lt ss la ca n (ig_it (sr r) 0 i x) (nI i) := by
  intro d
  induction d with
  | zero =>
    intro i hi n hn
    obtain ⟨n, rfl⟩ : ∃ c, n = c + 1 := ⟨n - 1, by omega⟩
    have e : i = 10 := by omega
    subst e
    exact br_t (show (10 : Int32) ≤ nI 10 from nI_le (Nat.le_refl 10) (by decide)) hp
  | succ d ih =>
    intro i hi n hn
    obtain ⟨n, rfl⟩ : ∃ c, n = c + 1 := ⟨n - 1, by omega⟩
    have er : (nI r).toNatClampNeg = r := nI_clamp (by omega)
    refine br_f (nI_ge (b := 10) (by omega) (by decide)) (And.intro (vp_in_nI hr (by decide)) ?_)
    refine nm_r (e' := ig_it (sr r) 0 (i + 1) x) (by rw [er, ig_it, ig_s20]; rfl) ?_
    exact br_t rfl (nm_r (nI_1 i) (ih (i + 1) (by omega) n (by omega)))
theorem ig_wspread1 {post : Int32 → Prop} {x : Int32} (hr : r < 12) (hp : post (ig_it (sr r) (sk r) 10 x)) : wpX_spread post (pl, ru, nm, b, ng, fo, ln, so, sr, sl, sk, db, en, nl, lt, ss, la, ca) (nI r) x 1 :=
  Exists.intro 11 (ig_spread_l1 hr x hp 10 0 rfl 11 (by omega))
theorem ig_wspread0 {post : Int32 → Prop} {x : Int32} (hr : r < 12) (hp : post (ig_it (sr r) 0 10 x)) : wpX_spread post (pl, ru, nm, b, ng, fo, ln, so, sr, sl, sk, db, en, nl, lt, ss, la, ca) (nI r) x 0 :=
  Exists.intro 11 (ig_spread_l0 hr x hp 10 0 rfl 11 (by omega))
theorem ig_wletter {post : Int32 → Prop} {c : Nat} {x : Int32} (hr : r < 12) (hc : c < 7) (hp : post (ig_oL so sr db r c x)) : wpX_onLetter post (pl, ru, nm, b, ng, fo, ln, so, sr, sl, sk, db, en, nl, lt, ss, la, ca) (nI r) x (nI c) := by
  have er : (nI r).toNatClampNeg = r := nI_clamp (by omega)
  have e7 : nI r * 7 = nI (r * 7) := pk_mul r 7
  have e7c : nI r * 7 + nI c = nI (r * 7 + c) := by rw [e7, nI_add]
  have c7 : (nI r * 7).toNatClampNeg = r * 7 := by rw [e7]; exact nI_clamp (by omega)
  have c7c : (nI r * 7 + nI c).toNatClampNeg = r * 7 + c := by rw [e7c]; exact nI_clamp (by omega)
  refine And.intro (by rw [e7]; exact vp_in_nI (by omega) (by decide)) (And.intro (by rw [e7c]; exact vp_in_nI (by omega) (by decide)) ?_)
  refine nm_r (e' := so (r * 7) ||| so (r * 7 + c)) (by rw [c7, c7c]) ?_
  refine And.intro (vp_in_nI hr (by decide)) (And.intro (vp_in_nI hr (by decide)) ?_)
  refine nm_r (e' := ((x &&& (so (r * 7) ||| so (r * 7 + c))) <<< ((1 : Int32) &&& 31)) ||| (x &&& (sr r ||| db r))) (by rw [er]) ?_
  exact ig_wspread0 hr hp
theorem ig_wborder {post : Int32 → Prop} {x : Int32} (hr : r < 12) (h0 : ln r = 0 → post (ig_oB sr sl sk db r x)) (h1 : ¬ ln r = 0 → post (ig_o0 sr sk r)) : wpX_onBorder post (pl, ru, nm, b, ng, fo, ln, so, sr, sl, sk, db, en, nl, lt, ss, la, ca) (nI r) x := by
  have er : (nI r).toNatClampNeg = r := nI_clamp (by omega)
  refine And.intro (vp_in_nI hr (by decide)) ?_
  rw [er]
  refine br_c (fun h => And.intro (vp_in_nI hr (by decide)) (And.intro (vp_in_nI hr (by decide)) ?_)) (fun h => ?_)
  · exact ig_wspread1 (post := fun r_5 => post r_5) hr (h0 h)
  · exact ig_wspread1 (post := fun r_5 => post r_5) hr (h1 h)
theorem ig_wn39 {post : SX → Prop} {J2 : Int32 → (Nat → Int32) → (Nat → Int32) → (Nat → Int32) → (Nat → Int32) → (Nat → Int32) → (Nat → Int32) → (Nat → Int32) → (Nat → Int32) → (Nat → Int32) → (Nat → Int32) → (Nat → Int32) → (Nat → Int32) → (Nat → Int32) → (Nat → Int32) → (Nat → Int32) → Prop} {N m k0 : Nat} {s : Nat → Int32} (hr : r < 12) (P : ig_Path nl lt L N) (hk : k < N) (G : ig_Good s m) (hm : m ≤ 10) (R : ig_RX s m r so sr sl sk db en)
    (HJ : ∀ x, ig_Mid s m lt L k0 k (L k) x → J2 (nI (r + 1)) b ng fo ln so sr sl sk db en nl lt (upd ss r x) la ca) :
    ∀ d q, q + d = L k → ∀ n, d < n → ∀ x, ig_Mid s m lt L k0 k q x → wX_walkName_39 post J2 (nI k) (nI r) pl ru nm b ng fo ln so sr sl sk db en nl lt ss la ca n x (nI q) := by
  have hN := P.2.1
  have hL := P.2.2.2.1 k
  have er : (nI r).toNatClampNeg = r := nI_clamp (by omega)
  have ek : (nI k).toNatClampNeg = k := nI_clamp (by omega)
  intro d
  induction d with
  | zero =>
    intro q hq n hn x M
    obtain ⟨n, rfl⟩ : ∃ c, n = c + 1 := ⟨n - 1, by omega⟩
    have e : q = L k := by omega
    subst e
    refine And.intro (vp_in_nI (by omega) (by decide)) (br_t (by rw [ek, P.2.2.1 k]; exact nI_le (Nat.le_refl _) (by omega)) (And.intro (vp_in_nI hr (by decide)) ?_))
    exact nm_r (e' := upd ss r x) (by rw [er]) (nm_r (nI_1 r) (HJ x M))
  | succ d ih =>
    intro q hq n hn x M
    obtain ⟨n, rfl⟩ : ∃ c, n = c + 1 := ⟨n - 1, by omega⟩
    obtain ⟨c, hc1, hc7, hc⟩ := P.2.2.2.2 k q hk (by omega)
    have e8 : nI k * 8 + nI q = nI (k * 8 + q) := by rw [show nI k * 8 = nI (k * 8) from pk_mul k 8, nI_add]
    have c8 : (nI k * 8 + nI q).toNatClampNeg = k * 8 + q := by rw [e8]; exact nI_clamp (by omega)
    refine And.intro (vp_in_nI (by omega) (by decide)) (br_f (by rw [ek, P.2.2.1 k]; exact nI_ge (by omega) (by omega)) (And.intro (by rw [e8]; exact vp_in_nI (by omega) (by decide)) ?_))
    rw [c8, hc]
    exact ig_wletter hr hc7 (nm_r (nI_1 q) (ih (q + 1) (by omega) n (by omega) _ (ig_mid_let G hm R (by omega) hc1 hc7 hc M)))
theorem ig_wn2 {post : SX → Prop} {R N : Nat} (hR : R ≤ 12) (P : ig_Path nl lt L N) (hk : k < N) (HR : ∀ r, r < R → ig_Rule sg sc mk ng fo ln so sr sl sk db en (ms r) r)
    (HP : ∀ ss', (∀ r, r < R → ig_Inv sg lt ln ms L k r (ss' r)) → post (pl, nI R, nm, b, ng, fo, ln, so, sr, sl, sk, db, en, nl, lt, ss', la, ca)) :
    ∀ d r, r + d = R → ∀ n, d < n → ∀ ss, (∀ j, j < r → ig_Inv sg lt ln ms L k j (ss j)) → (∀ j, r ≤ j → j < R → k = 0 ∨ ig_Inv sg lt ln ms L (k - 1) j (ss j)) → wX_walkName_2 post (nI k) pl (nI R) nm n (nI r) b ng fo ln so sr sl sk db en nl lt ss la ca := by
  have hN := P.2.1
  intro d
  induction d with
  | zero =>
    intro r hd n hn ss h1 h2
    obtain ⟨n, rfl⟩ : ∃ c, n = c + 1 := ⟨n - 1, by omega⟩
    have e : r = R := by omega
    subst e
    exact br_t (nI_le (Nat.le_refl _) (by omega)) (HP ss h1)
  | succ d ih =>
    intro r hd n hn ss h1 h2
    obtain ⟨n, rfl⟩ : ∃ c, n = c + 1 := ⟨n - 1, by omega⟩
    have er : (nI r).toNatClampNeg = r := nI_clamp (by omega)
    have hr : r < 12 := by omega
    obtain ⟨hm, hsc, G, RX, hng, hfo, hln⟩ := HR r (by omega)
    have K : ∀ x, ig_Mid (fun i => sg (r * 10 + i)) (ms r) lt L (if ln r = 0 then 0 else k) k 0 x → ∃ n39 : Nat, wX_walkName_39 post (wX_walkName_2 post (nI k) pl (nI R) nm n) (nI k) (nI r) pl (nI R) nm b ng fo ln so sr sl sk db en nl lt ss la ca n39 x (nI 0) := by
      intro x M
      refine ⟨L k + 1, ig_wn39 hr P hk G hm RX (fun y My => ih (r + 1) (by omega) n (by omega) (upd ss r y) ?_ ?_) (L k) 0 (by omega) _ (by omega) x M⟩
      · intro j hj
        by_cases e : j = r
        · subst e
          rw [pk_us]
          exact My
        · rw [pk_un e]
          exact h1 j (by omega)
      · intro j hj hjR
        rw [pk_un (by omega)]
        exact h2 j (by omega) hjR
    refine br_f (nI_ge (by omega) (by omega)) ?_
    by_cases hk0 : k = 0
    · refine br_t (by rw [hk0]; rfl) (ig_wspread1 hr (K _ ?_))
      rw [hk0, ite_self]
      exact ig_mid_beg G hm RX 0
    · refine br_f (nI_ne0 (by omega) (by omega)) (And.intro (vp_in_nI hr (by decide)) ?_)
      rw [er]
      refine ig_wborder hr (fun h0 => K _ ?_) (fun h0 => K _ ?_)
      · rcases h2 r (Nat.le_refl _) (by omega) with z | I
        · exact absurd z hk0
        · unfold ig_Inv at I
          rw [if_pos h0] at I ⊢
          have := ig_mid_bord G hm RX I
          rw [show k - 1 + 1 = k by omega] at this
          exact this
      · rw [if_neg h0]
        exact ig_mid_beg G hm RX k
theorem ig_wname {post : SX → Prop} {R N : Nat} (hR : R ≤ 12) (P : ig_Path nl lt L N) (hk : k < N) (HR : ∀ r, r < R → ig_Rule sg sc mk ng fo ln so sr sl sk db en (ms r) r)
    (hs : ∀ j, j < R → k = 0 ∨ ig_Inv sg lt ln ms L (k - 1) j (ss j))
    (HP : ∀ ss', (∀ r, r < R → ig_Inv sg lt ln ms L k r (ss' r)) → post (pl, nI R, nm, b, ng, fo, ln, so, sr, sl, sk, db, en, nl, lt, ss', la, ca)) : wpX_walkName post (pl, nI R, nm, b, ng, fo, ln, so, sr, sl, sk, db, en, nl, lt, ss, la, ca) (nI k) :=
  Exists.intro (R + 1) (ig_wn2 hR P hk HR HP R 0 (by omega) (R + 1) (by omega) ss (fun j hj => absurd hj (by omega)) (fun j _ hj => hs j hj))
theorem ig_hit {fl : Bool} {x : Int32} (H : ig_Rule sg sc mk ng fo ln so sr sl sk db en (ms r) r) (I : ig_Inv sg lt ln ms L k r x) : ig_Mr sg mk lt ms L (k + 1) fl r = true ↔ ¬ (x &&& en r = 0) ∧ (fl = true ∨ fo r = 0) := by
  obtain ⟨hm, hsc, G, RX, hng, hfo, hln⟩ := H
  have e := ig_mid_fin G RX I
  have e2 : (if ig_te (fun i => sg (r * 10 + i)) (ms r) 0 = ms r ∧ mk r &&& 2 = 0 then ig_LF (fun i => sg (r * 10 + i)) (ms r) lt L (k + 1) 0 (k + 1 - 1) else ig_LF (fun i => sg (r * 10 + i)) (ms r) lt L (k + 1) 0 0) = ig_LF (fun i => sg (r * 10 + i)) (ms r) lt L (k + 1) 0 (if ln r = 0 then 0 else k) := by
    by_cases h0 : ln r = 0
    · rw [if_neg (hln.mp h0), if_pos h0]
    · rw [if_pos (Classical.not_not.mp (fun z => h0 (hln.mpr z))), if_neg h0, Nat.add_sub_cancel]
  unfold ig_Mr ig_M
  rw [e2, e, Classical.not_not, hfo]
  by_cases h4 : mk r &&& 4 = 0
  · rw [if_neg (fun z => z.1 h4)]
    exact ⟨fun h => ⟨h, Or.inr h4⟩, fun h => h.1⟩
  · cases fl with
    | false =>
      rw [if_pos ⟨h4, rfl⟩]
      constructor
      · intro z
        exact absurd z (by decide)
      · rintro ⟨_, z | z⟩
        · exact absurd z (by decide)
        · exact absurd z h4
    | true =>
      rw [if_neg (fun z => absurd z.2 (by decide))]
      exact ⟨fun h => ⟨h, Or.inl rfl⟩, fun h => h.1⟩
theorem ig_w110 {post : Int32 → SX → Prop} {J18 : Int32 → Int32 → Int32 → Int32 → (Nat → Int32) → (Nat → Int32) → (Nat → Int32) → (Nat → Int32) → (Nat → Int32) → (Nat → Int32) → (Nat → Int32) → (Nat → Int32) → (Nat → Int32) → (Nat → Int32) → (Nat → Int32) → (Nat → Int32) → (Nat → Int32) → (Nat → Int32) → (Nat → Int32) → Prop} {J69 : Int32 → (Nat → Int32) → (Nat → Int32) → (Nat → Int32) → (Nat → Int32) → (Nat → Int32) → (Nat → Int32) → (Nat → Int32) → (Nat → Int32) → (Nat → Int32) → (Nat → Int32) → (Nat → Int32) → (Nat → Int32) → (Nat → Int32) → (Nat → Int32) → (Nat → Int32) → Prop} {x1 x3 : Int32} (hk : k < 6)
    (H : J69 (nI (r + 1)) b ng fo ln so sr sl sk db en nl lt ss (upd la k (nI r)) (upd ca k (ca k + 1))) : wX_walk_110 post J18 J69 x1 (nI k) x3 (nI r) pl ru nm b ng fo ln so sr sl sk db en nl lt ss la ca := by
  have ek : (nI k).toNatClampNeg = k := nI_clamp (by omega)
  refine And.intro (vp_in_nI hk (by decide)) (nm_r (e' := upd la k (nI r)) (by rw [ek]) ?_)
  refine And.intro (vp_in_nI hk (by decide)) (And.intro (vp_in_nI hk (by decide)) (nm_r (e' := upd ca k (ca k + 1)) (by rw [ek]) ?_))
  exact nm_r (nI_1 r) H
theorem ig_w69 {post : Int32 → SX → Prop} {J18 : Int32 → Int32 → Int32 → Int32 → (Nat → Int32) → (Nat → Int32) → (Nat → Int32) → (Nat → Int32) → (Nat → Int32) → (Nat → Int32) → (Nat → Int32) → (Nat → Int32) → (Nat → Int32) → (Nat → Int32) → (Nat → Int32) → (Nat → Int32) → (Nat → Int32) → (Nat → Int32) → (Nat → Int32) → Prop} {x1 x3 : Int32} {R : Nat} {fl : Bool} (hR : R ≤ 12) (hk : k < 6) (f : Nat → Bool) (hx3 : x3 = 0 ↔ fl = false)
    (hf : ∀ r, r < R → (f r = true ↔ ¬ (ss r &&& en r = 0) ∧ (fl = true ∨ fo r = 0)))
    (HJ : ∀ la' ca', (∀ j, j ≠ k → la' j = la j ∧ ca' j = ca j) → la' k = ig_last f R → ca' k = nI (ig_cnt f R) → J18 (nI (k + 1)) pl (nI R) nm b ng fo ln so sr sl sk db en nl lt ss la' ca') :
    ∀ d r, r + d = R → ∀ n, d < n → ∀ la' ca', (∀ j, j ≠ k → la' j = la j ∧ ca' j = ca j) → la' k = ig_last f r → ca' k = nI (ig_cnt f r) → wX_walk_69 post J18 x1 (nI k) x3 pl (nI R) nm n (nI r) b ng fo ln so sr sl sk db en nl lt ss la' ca' := by
  intro d
  induction d with
  | zero =>
    intro r hd n hn la' ca' h1 h2 h3
    obtain ⟨n, rfl⟩ : ∃ c, n = c + 1 := ⟨n - 1, by omega⟩
    have e : r = R := by omega
    subst e
    exact br_t (nI_le (Nat.le_refl _) (by omega)) (nm_r (nI_1 k) (HJ la' ca' h1 h2 h3))
  | succ d ih =>
    intro r hd n hn la' ca' h1 h2 h3
    obtain ⟨n, rfl⟩ : ∃ c, n = c + 1 := ⟨n - 1, by omega⟩
    have er : (nI r).toNatClampNeg = r := nI_clamp (by omega)
    have hr : r < 12 := by omega
    have hfr := hf r (by omega)
    have no : ¬ f r = true → wX_walk_69 post J18 x1 (nI k) x3 pl (nI R) nm n (nI (r + 1)) b ng fo ln so sr sl sk db en nl lt ss la' ca' := by
      intro z
      refine ih (r + 1) (by omega) n (by omega) la' ca' h1 ?_ ?_
      · rw [ig_last, if_neg z]; exact h2
      · rw [ig_cnt, if_neg z]; exact h3
    have yes : f r = true → wX_walk_110 post J18 (wX_walk_69 post J18 x1 (nI k) x3 pl (nI R) nm n) x1 (nI k) x3 (nI r) pl (nI R) nm b ng fo ln so sr sl sk db en nl lt ss la' ca' := by
      intro z
      refine ig_w110 hk (ih (r + 1) (by omega) n (by omega) _ _ ?_ ?_ ?_)
      · intro j hj
        rw [pk_un hj, pk_un hj]
        exact h1 j hj
      · rw [pk_us, ig_last, if_pos z]
      · rw [pk_us, ig_cnt, if_pos z, h3, nI_1]
    refine br_f (nI_ge (by omega) (by omega)) (And.intro (vp_in_nI hr (by decide)) (And.intro (vp_in_nI hr (by decide)) ?_))
    rw [er]
    refine br_c (fun hs => nm_r (nI_1 r) (no (fun z => (hfr.mp z).1 hs))) (fun hs => ?_)
    refine br_c (fun h0 => And.intro (vp_in_nI hr (by decide)) (br_c (fun h4 => yes (hfr.mpr ⟨hs, Or.inr h4⟩)) (fun h4 => nm_r (nI_1 r) (no (fun z => ?_))))) (fun h0 => yes (hfr.mpr ⟨hs, Or.inl ?_⟩))
    · rcases (hfr.mp z).2 with y | y
      · rw [hx3.mp h0] at y
        exact absurd y (by decide)
      · exact h4 y
    · cases fl with
      | false => exact absurd (hx3.mpr rfl) h0
      | true => rfl
theorem ig_w50 {post : Int32 → SX → Prop} {J18 : Int32 → Int32 → Int32 → Int32 → (Nat → Int32) → (Nat → Int32) → (Nat → Int32) → (Nat → Int32) → (Nat → Int32) → (Nat → Int32) → (Nat → Int32) → (Nat → Int32) → (Nat → Int32) → (Nat → Int32) → (Nat → Int32) → (Nat → Int32) → (Nat → Int32) → (Nat → Int32) → (Nat → Int32) → Prop} {x1 x3 : Int32} {R : Nat} {fl : Bool} (hR : R ≤ 12) (hk : k < 6) (f : Nat → Bool) (hx3 : x3 = 0 ↔ fl = false)
    (hf : ∀ r, r < R → (f r = true ↔ ¬ (ss r &&& en r = 0) ∧ (fl = true ∨ fo r = 0)))
    (HJ : ∀ la' ca', (∀ j, j ≠ k → la' j = la j ∧ ca' j = ca j) → la' k = ig_last f R → ca' k = nI (ig_cnt f R) → J18 (nI (k + 1)) pl (nI R) nm b ng fo ln so sr sl sk db en nl lt ss la' ca') :
    wX_walk_50 post J18 x1 (nI k) x3 pl (nI R) nm b ng fo ln so sr sl sk db en nl lt ss la ca := by
  have ek : (nI k).toNatClampNeg = k := nI_clamp (by omega)
  refine And.intro (vp_in_nI hk (by decide)) (nm_r (e' := upd la k (-5)) (by rw [ek]) ?_)
  refine And.intro (vp_in_nI hk (by decide)) (nm_r (e' := upd ca k 0) (by rw [ek]) ?_)
  refine Exists.intro (R + 1) (ig_w69 hR hk f hx3 hf HJ R 0 (by omega) (R + 1) (by omega) (upd la k (-5)) (upd ca k 0) ?_ ?_ ?_)
  · intro j hj
    rw [pk_un hj, pk_un hj]
    exact ⟨rfl, rfl⟩
  · rw [pk_us, ig_last]
  · rw [pk_us, ig_cnt, nI_0]
theorem ig_w18 {post : Int32 → SX → Prop} {x1 : Int32} {R N : Nat} {fl : Bool} (hR : R ≤ 12) (P : ig_Path nl lt L N) (HR : ∀ r, r < R → ig_Rule sg sc mk ng fo ln so sr sl sk db en (ms r) r) (hx1 : x1 = 0 ↔ fl = false)
    (HP : ∀ ss' la' ca', (∀ j, j < N → la' j = ig_last (ig_Fj sg mk lt ms L N fl j) R ∧ ca' j = nI (ig_cnt (ig_Fj sg mk lt ms L N fl j) R)) → post 1 (pl, nI R, nI N, b, ng, fo, ln, so, sr, sl, sk, db, en, nl, lt, ss', la', ca')) :
    ∀ d k, k + d = N → ∀ n, d < n → ∀ ss la ca, (∀ r, r < R → k = 0 ∨ ig_Inv sg lt ln ms L (k - 1) r (ss r)) → (∀ j, j < k → la j = ig_last (ig_Fj sg mk lt ms L N fl j) R ∧ ca j = nI (ig_cnt (ig_Fj sg mk lt ms L N fl j) R)) →
    wX_walk_18 post x1 n (nI k) pl (nI R) (nI N) b ng fo ln so sr sl sk db en nl lt ss la ca := by
  have hN := P.2.1
  intro d
  induction d with
  | zero =>
    intro k hd n hn ss la ca h1 h2
    obtain ⟨n, rfl⟩ : ∃ c, n = c + 1 := ⟨n - 1, by omega⟩
    have e : k = N := by omega
    subst e
    exact br_t (nI_le (Nat.le_refl _) (by omega)) (HP ss la ca h2)
  | succ d ih =>
    intro k hd n hn ss la ca h1 h2
    obtain ⟨n, rfl⟩ : ∃ c, n = c + 1 := ⟨n - 1, by omega⟩
    have hk : k < N := by omega
    have eN : nI N - 1 = nI (N - 1) := pk_sub (a := N) (b := 1) (by omega)
    refine br_f (nI_ge hk (by omega)) (ig_wname hR P hk HR h1 (fun ss' hs' => ?_))
    have W : ∀ x3 : Int32, (x3 = 0 ↔ (fl || decide (k + 1 < N)) = false) → wX_walk_50 post (wX_walk_18 post x1 n) x1 (nI k) x3 pl (nI R) (nI N) b ng fo ln so sr sl sk db en nl lt ss' la ca := by
      intro x3 hx3
      refine ig_w50 hR (by omega) (ig_Fj sg mk lt ms L N fl k) hx3 (fun r hr => ig_hit (HR r hr) (hs' r hr)) (fun la' ca' q1 q2 q3 => ih (k + 1) (by omega) n (by omega) ss' la' ca' ?_ ?_)
      · intro r hr
        exact Or.inr (hs' r hr)
      · intro j hj
        by_cases e : j = k
        · subst e
          exact ⟨q2, q3⟩
        · rw [(q1 j e).1, (q1 j e).2]
          exact h2 j (by omega)
    show _ ∧ _
    refine br_c (fun h0 => ?_) (fun h0 => ?_)
    · rw [eN]
      have hf := hx1.mp h0
      refine br_c (fun hl => W 0 ?_) (fun hl => W 1 ?_)
      · rw [nI_leI (by omega) (by omega)] at hl
        rw [hf, decide_eq_false (by omega)]
        simp
      · rw [nI_leI (by omega) (by omega)] at hl
        rw [decide_eq_true (by omega), Bool.or_true]
        simp
    · refine W 1 ?_
      cases fl with
      | false => exact absurd (hx1.mpr rfl) h0
      | true => simp
theorem ig_wwalk {post : Int32 → SX → Prop} {x1 : Int32} {R N : Nat} {fl : Bool} (hR : R ≤ 12) (P : ig_Path nl lt L N) (HR : ∀ r, r < R → ig_Rule sg sc mk ng fo ln so sr sl sk db en (ms r) r) (hx1 : x1 = 0 ↔ fl = false)
    (H0 : L (N - 1) = 0 → post 0 (pl, nI R, nI N, b, ng, fo, ln, so, sr, sl, sk, db, en, nl, lt, ss, la, ca))
    (HP : ¬ L (N - 1) = 0 → ∀ ss' la' ca', (∀ j, j < N → la' j = ig_last (ig_Fj sg mk lt ms L N fl j) R ∧ ca' j = nI (ig_cnt (ig_Fj sg mk lt ms L N fl j) R)) → post 1 (pl, nI R, nI N, b, ng, fo, ln, so, sr, sl, sk, db, en, nl, lt, ss', la', ca')) :
    wpX_walk post (pl, nI R, nI N, b, ng, fo, ln, so, sr, sl, sk, db, en, nl, lt, ss, la, ca) x1 := by
  have hN := P.2.1
  have hN1 := P.1
  have hL := P.2.2.2.1 (N - 1)
  have eN : nI N - 1 = nI (N - 1) := pk_sub (a := N) (b := 1) (by omega)
  have cN : (nI (N - 1)).toNatClampNeg = N - 1 := nI_clamp (by omega)
  refine And.intro (by rw [eN]; exact vp_in_nI (by omega) (by decide)) ?_
  rw [eN, cN, P.2.2.1 (N - 1)]
  refine br_c (fun h => H0 ?_) (fun h => Exists.intro (N + 1) (ig_w18 hR P HR hx1 (HP ?_) N 0 (by omega) (N + 1) (by omega) ss la ca (fun r _ => Or.inl rfl) (fun j hj => absurd hj (by omega))))
  · rcases Nat.eq_zero_or_pos (L (N - 1)) with z | z
    · exact z
    · exact absurd h (nI_ne0 z (by omega))
  · intro z
    rw [z] at h
    exact h nI_0
theorem ig_wfi {post : Int32 → Prop} {R N : Nat} (hR : R ≤ 12) (hN : N ≤ 6) (f : Nat → Nat → Bool) (hla : ∀ j, j < N → la j = ig_last (f j) R) :
    ∀ d k, k + d = N → ∀ n, d < n → post (ig_fi (fun j => ig_g ng (ig_last (f j) R)) d k) → wX_firstIgnored_2 post pl ru (nI N) b ng fo ln so sr sl sk db en nl lt ss la ca n (nI k) := by
  intro d
  induction d with
  | zero =>
    intro k hd n hn hp
    obtain ⟨n, rfl⟩ : ∃ c, n = c + 1 := ⟨n - 1, by omega⟩
    have e : k = N := by omega
    subst e
    exact br_t (nI_le (Nat.le_refl _) (by omega)) hp
  | succ d ih =>
    intro k hd n hn hp
    obtain ⟨n, rfl⟩ : ∃ c, n = c + 1 := ⟨n - 1, by omega⟩
    have ek : (nI k).toNatClampNeg = k := nI_clamp (by omega)
    refine br_f (nI_ge (by omega) (by omega)) (And.intro (vp_in_nI (by omega) (by decide)) ?_)
    rw [ek, hla k (by omega)]
    rw [ig_fi] at hp
    rcases ig_last_c (f k) R with e | ⟨j, hj, e⟩
    · rw [e] at hp ⊢
      rw [if_neg (show ¬ ig_g ng (-5) = true by unfold ig_g; rw [decide_eq_true_iff]; exact fun z => z.1 (by decide))] at hp
      exact br_t (by decide) (nm_r (nI_1 k) (ih (k + 1) (by omega) n (by omega) hp))
    · have ej : (nI j).toNatClampNeg = j := nI_clamp (by omega)
      rw [e] at hp ⊢
      refine br_f (nI_pos (by omega)) (And.intro (vp_in_nI (by omega) (by decide)) (And.intro (vp_in_nI (by omega) (by decide)) ?_))
      rw [ej]
      refine br_c (fun h => ?_) (fun h => nm_r (nI_1 k) (ih (k + 1) (by omega) n (by omega) ?_))
      · rw [if_pos (show ig_g ng (nI j) = true by unfold ig_g; rw [decide_eq_true_iff, ej]; exact ⟨nI_pos (by omega), h⟩)] at hp
        rw [nI_1]
        exact hp
      · rw [if_neg (show ¬ ig_g ng (nI j) = true by unfold ig_g; rw [decide_eq_true_iff, ej]; exact fun z => h z.2)] at hp
        exact hp
theorem ig_wfirst {post : Int32 → Prop} {R N : Nat} (hR : R ≤ 12) (hN : N ≤ 6) (f : Nat → Nat → Bool) (hla : ∀ j, j < N → la j = ig_last (f j) R)
    (hp : post (ig_fi (fun j => ig_g ng (ig_last (f j) R)) N 0)) : wpX_firstIgnored post (pl, ru, nI N, b, ng, fo, ln, so, sr, sl, sk, db, en, nl, lt, ss, la, ca) :=
  Exists.intro (N + 1) (ig_wfi hR hN f hla N 0 (by omega) (N + 1) (by omega) hp)
section
variable {R N : Nat} {fl : Bool} {x1 : Int32} {post : Int32 → SX → Prop}
theorem ig_xlast (hR : R ≤ 12) (P : ig_Path nl lt L N) (HR : ∀ r, r < R → ig_Rule sg sc mk ng fo ln so sr sl sk db en (ms r) r) (hx1 : x1 = 0 ↔ fl = false)
    (H0 : L (N - 1) = 0 → post (-5) (pl, nI R, nI N, b, ng, fo, ln, so, sr, sl, sk, db, en, nl, lt, ss, la, ca))
    (H1 : ¬ L (N - 1) = 0 → ∀ ss' la' ca', post (ig_last (ig_Fj sg mk lt ms L N fl (N - 1)) R) (pl, nI R, nI N, b, ng, fo, ln, so, sr, sl, sk, db, en, nl, lt, ss', la', ca')) :
    wpX_lastMatch post (pl, nI R, nI N, b, ng, fo, ln, so, sr, sl, sk, db, en, nl, lt, ss, la, ca) x1 := by
  have hN := P.2.1
  have hN1 := P.1
  have eN : nI N - 1 = nI (N - 1) := pk_sub (a := N) (b := 1) (by omega)
  have cN : (nI (N - 1)).toNatClampNeg = N - 1 := nI_clamp (by omega)
  unfold wpX_lastMatch
  dsimp only
  refine ig_wwalk hR P HR hx1 (fun z => br_t rfl (H0 z)) (fun z ss' la' ca' h => ?_)
  refine br_f (by decide) (And.intro (by rw [eN]; exact vp_in_nI (by omega) (by decide)) ?_)
  dsimp only
  rw [eN, cN, (h (N - 1) (by omega)).1]
  exact H1 z ss' la' ca'
theorem ig_xcount (hR : R ≤ 12) (P : ig_Path nl lt L N) (HR : ∀ r, r < R → ig_Rule sg sc mk ng fo ln so sr sl sk db en (ms r) r) (hx1 : x1 = 0 ↔ fl = false)
    (H0 : L (N - 1) = 0 → post 0 (pl, nI R, nI N, b, ng, fo, ln, so, sr, sl, sk, db, en, nl, lt, ss, la, ca))
    (H1 : ¬ L (N - 1) = 0 → ∀ ss' la' ca', post (nI (ig_cnt (ig_Fj sg mk lt ms L N fl (N - 1)) R)) (pl, nI R, nI N, b, ng, fo, ln, so, sr, sl, sk, db, en, nl, lt, ss', la', ca')) :
    wpX_matches post (pl, nI R, nI N, b, ng, fo, ln, so, sr, sl, sk, db, en, nl, lt, ss, la, ca) x1 := by
  have hN := P.2.1
  have hN1 := P.1
  have eN : nI N - 1 = nI (N - 1) := pk_sub (a := N) (b := 1) (by omega)
  have cN : (nI (N - 1)).toNatClampNeg = N - 1 := nI_clamp (by omega)
  unfold wpX_matches
  dsimp only
  refine ig_wwalk hR P HR hx1 (fun z => br_t rfl (H0 z)) (fun z ss' la' ca' h => ?_)
  refine br_f (by decide) (And.intro (by rw [eN]; exact vp_in_nI (by omega) (by decide)) ?_)
  dsimp only
  rw [eN, cN, (h (N - 1) (by omega)).2]
  exact H1 z ss' la' ca'
theorem ig_xcut (hR : R ≤ 12) (P : ig_Path nl lt L N) (HR : ∀ r, r < R → ig_Rule sg sc mk ng fo ln so sr sl sk db en (ms r) r) (hx1 : x1 = 0 ↔ fl = false)
    (H0 : L (N - 1) = 0 → post (-5) (pl, nI R, nI N, b, ng, fo, ln, so, sr, sl, sk, db, en, nl, lt, ss, la, ca))
    (H1 : ¬ L (N - 1) = 0 → ∀ ss' la' ca', post (ig_fi (fun j => ig_g ng (ig_last (ig_Fj sg mk lt ms L N fl j) R)) N 0) (pl, nI R, nI N, b, ng, fo, ln, so, sr, sl, sk, db, en, nl, lt, ss', la', ca')) :
    wpX_cutAt post (pl, nI R, nI N, b, ng, fo, ln, so, sr, sl, sk, db, en, nl, lt, ss, la, ca) x1 := by
  unfold wpX_cutAt
  dsimp only
  refine ig_wwalk hR P HR hx1 (fun z => br_t rfl (H0 z)) (fun z ss' la' ca' h => ?_)
  exact br_f (by decide) (ig_wfirst hR P.2.1 (fun j => ig_Fj sg mk lt ms L N fl j) (fun j hj => (h j hj).1) (H1 z ss' la' ca'))
theorem ig_xign (hR : R ≤ 12) (P : ig_Path nl lt L N) (HR : ∀ r, r < R → ig_Rule sg sc mk ng fo ln so sr sl sk db en (ms r) r) (hx1 : x1 = 0 ↔ fl = false)
    (H0 : L (N - 1) = 0 → post 0 (pl, nI R, nI N, b, ng, fo, ln, so, sr, sl, sk, db, en, nl, lt, ss, la, ca))
    (H1 : ¬ L (N - 1) = 0 → ∀ ss' la' ca', post (if ig_fi (fun j => ig_g ng (ig_last (ig_Fj sg mk lt ms L N fl j) R)) N 0 = -5 then 0 else 1) (pl, nI R, nI N, b, ng, fo, ln, so, sr, sl, sk, db, en, nl, lt, ss', la', ca')) :
    wpX_ignored post (pl, nI R, nI N, b, ng, fo, ln, so, sr, sl, sk, db, en, nl, lt, ss, la, ca) x1 := by
  unfold wpX_ignored
  dsimp only
  refine ig_wwalk hR P HR hx1 (fun z => br_t rfl (H0 z)) (fun z ss' la' ca' h => ?_)
  have H := H1 z ss' la' ca'
  refine br_f (by decide) (ig_wfirst hR P.2.1 (fun j => ig_Fj sg mk lt ms L N fl j) (fun j hj => (h j hj).1) ?_)
  refine br_c (fun e => ?_) (fun e => ?_)
  · rw [if_pos e] at H
    exact H
  · rw [if_neg e] at H
    exact H
end
end
end
section
/-! Y: where the parts begin and end; one part against one name -/
def ig_b (x : Bool) : Int32 := if x = true then 1 else 0
theorem ig_b_br {x : Bool} {A B : Prop} (h0 : x = false → A) (h1 : x = true → B) : (ig_b x = 0 → A) ∧ (¬ ig_b x = 0 → B) := by
  cases x with
  | false => exact br_t rfl (h0 rfl)
  | true => exact br_f (by decide) (h1 rfl)
theorem ig_b_nar (x : Bool) : vp_nar .boolean (ig_b x) = ig_b x := by
  cases x with
  | false => rfl
  | true => rfl
theorem ig_b_nar2 (x : Bool) : narrow .boolean (.int (ig_b x)) = .int (ig_b x) := by
  cases x with
  | false => rfl
  | true => rfl
/-- where part p begins -/
def ig_F (s : Nat → Int32) (m : Nat) : Nat → Nat
  | 0 => 0
  | p + 1 => ig_te s m (ig_F s m p) + 1
def ig_Cut (s : Nat → Int32) (m r : Nat) (pf pt : Nat → Int32) (c : Nat) : Prop :=
  0 < c ∧ c ≤ 5 ∧ ig_F s m c = m + 1 ∧ ∀ p, p < c → ig_F s m p < m ∧ pf p = nI (r * 10 + ig_F s m p) ∧ pt p = nI (r * 10 + ig_te s m (ig_F s m p))
section
variable {bu rc ny pa : Int32} {b sg sc mk lt nl pf pt rf lf : Nat → Int32}
variable {L : Nat → Nat} {r k m N : Nat}
theorem ig_y52 {post : SY → Prop} {J28 : Int32 → Int32 → Int32 → (Nat → Int32) → (Nat → Int32) → (Nat → Int32) → (Nat → Int32) → (Nat → Int32) → (Nat → Int32) → (Nat → Int32) → (Nat → Int32) → (Nat → Int32) → (Nat → Int32) → Prop} {x2 x3 x4 : Int32} {j : Nat} (hj : j < 11)
    (H : J28 (x4 + 1) (x4 + 1) (nI (j + 1)) b sg sc mk lt nl (upd pf j x2) (upd pt j x4) rf lf) : wY_cut_52 post J28 x2 x3 x4 bu rc ny (nI j) b sg sc mk lt nl pf pt rf lf := by
  have ej : (nI j).toNatClampNeg = j := nI_clamp (by omega)
  refine And.intro (vp_in_nI hj (by decide)) (nm_r (e' := upd pf j x2) (by rw [ej]) ?_)
  refine And.intro (vp_in_nI hj (by decide)) (nm_r (e' := upd pt j x4) (by rw [ej]) ?_)
  exact nm_r (nI_1 j) (nm_e (nm_e H))
theorem ig_y28 {post : SY → Prop} {s : Nat → Int32} (hs : s = fun i => sg (r * 10 + i)) (hr : r < 12) (hm : m ≤ 10) (G : ig_Good s m)
    (HP : ∀ c pf' pt', ig_Cut s m r pf' pt' c → post (bu, rc, ny, nI c, b, sg, sc, mk, lt, nl, pf', pt', rf, lf)) :
    ∀ d i, i + d = m → ∀ n, d + 1 < n → ∀ j pf pt, ig_F s m j ≤ i → i ≤ ig_te s m (ig_F s m j) → ig_F s m j < m → 2 * j ≤ ig_F s m j → ¬ s (ig_F s m j) = 9 →
      (∀ p, p < j → ig_F s m p < m ∧ pf p = nI (r * 10 + ig_F s m p) ∧ pt p = nI (r * 10 + ig_te s m (ig_F s m p))) →
      wY_cut_28 post (nI (r * 10 + m)) bu rc ny n (nI (r * 10 + ig_F s m j)) (nI (r * 10 + i)) (nI j) b sg sc mk lt nl pf pt rf lf := by
  intro d
  induction d with
  | zero =>
    intro i hi n hn j pf pt h1 h2 h3 h4 h5 h6
    obtain ⟨n, rfl⟩ : ∃ c, n = c + 2 := ⟨n - 2, by omega⟩
    have e : i = m := by omega
    subst e
    have ht : ig_te s i (ig_F s i j) = i := by
      have := ig_te_le (s := s) (m := i) (i := ig_F s i j) (by omega)
      omega
    refine br_f (nI_nlt (Nat.le_refl _) (by omega)) (br_t rfl (ig_y52 (by omega) ?_))
    rw [nI_1]
    refine br_t (nI_lt (by omega) (by omega)) (HP (j + 1) _ _ ⟨by omega, by omega, by rw [ig_F, ht], fun p hp => ?_⟩)
    by_cases e : p = j
    · subst e
      rw [pk_us, pk_us, ht]
      exact ⟨h3, rfl, rfl⟩
    · rw [pk_un e, pk_un e]
      exact h6 p (by omega)
  | succ d ih =>
    intro i hi n hn j pf pt h1 h2 h3 h4 h5 h6
    obtain ⟨n, rfl⟩ : ∃ c, n = c + 1 := ⟨n - 1, by omega⟩
    have ei : (nI (r * 10 + i)).toNatClampNeg = r * 10 + i := nI_clamp (by omega)
    have esi : sg (r * 10 + i) = s i := by rw [hs]
    refine br_f (nI_nlt (by omega) (by omega)) (br_f (fun z => ?_) (And.intro (vp_in_nI (by omega) (by decide)) ?_))
    · rw [nI_eq (by omega) (by omega)] at z
      omega
    · rw [ei, esi]
      have hat := ig_te_at (s := s) (m := m) (i := ig_F s m j) (by omega)
      refine br_c (fun h9 => ?_) (fun h9 => ?_)
      · have ht : ig_te s m (ig_F s m j) = i := by
          rcases Nat.lt_or_ge i (ig_te s m (ig_F s m j)) with z | z
          · exact absurd h9 (ig_te_no h1 z)
          · omega
        have hlt := ig_te_lt h3 h5
        have g := G.2.1 i (by omega) h9
        refine ig_y52 (by omega) ?_
        rw [nI_1]
        have eF : ig_F s m (j + 1) = i + 1 := by rw [ig_F, ht]
        have := ih (i + 1) (by omega) n (by omega) (j + 1) (upd pf j (nI (r * 10 + ig_F s m j))) (upd pt j (nI (r * 10 + i))) (by omega) (by rw [eF]; exact ig_te_ge s m (i + 1)) (by omega) (by omega) (by rw [eF]; exact g.2.2) ?_
        · rw [eF] at this
          exact this
        · intro p hp
          by_cases e : p = j
          · subst e
            rw [pk_us, pk_us, ht]
            exact ⟨h3, rfl, rfl⟩
          · rw [pk_un e, pk_un e]
            exact h6 p (by omega)
      · have hne : ¬ ig_te s m (ig_F s m j) = i := by
          intro z
          rcases hat with y | y
          · omega
          · rw [z] at y
            exact h9 y
        exact nm_r (nI_1 _) (ih (i + 1) (by omega) n (by omega) j pf pt (by omega) (by omega) h3 h4 h5 h6)
theorem ig_ycut {post : SY → Prop} {s : Nat → Int32} (hs : s = fun i => sg (r * 10 + i)) (hr : r < 12) (hm : m ≤ 10) (hsc : sc r = nI m) (G : ig_Good s m)
    (HP : ∀ c pf' pt', ig_Cut s m r pf' pt' c → post (bu, rc, ny, nI c, b, sg, sc, mk, lt, nl, pf', pt', rf, lf)) : wpY_cut post (bu, rc, ny, pa, b, sg, sc, mk, lt, nl, pf, pt, rf, lf) (nI r) := by
  have er : (nI r).toNatClampNeg = r := nI_clamp (by omega)
  have e10 : nI r * 10 = nI (r * 10 + 0) := pk_mul r 10
  have e11 : nI r * 10 + sc r = nI (r * 10 + m) := by rw [e10, hsc, nI_add, Nat.add_zero]
  have h0 : ¬ s 0 = 9 := fun z => absurd (G.2.1 0 G.1 z).1 (by omega)
  refine nm_r e10 (And.intro (vp_in_nI hr (by decide)) ?_)
  rw [er]
  refine nm_r e11 (nm_r e10 (Exists.intro (m + 2) ?_))
  exact ig_y28 hs hr hm G HP m 0 (by omega) (m + 2) (by omega) 0 pf pt (Nat.le_refl 0) (Nat.zero_le _) G.1 (Nat.le_refl 0) h0 (fun p hp => absurd hp (by omega))
/-! one part against one name -/
theorem ig_y217 {post : Int32 → SY → Prop} {J25 J34 : Int32 → (Nat → Int32) → (Nat → Int32) → (Nat → Int32) → (Nat → Int32) → (Nat → Int32) → (Nat → Int32) → (Nat → Int32) → (Nat → Int32) → (Nat → Int32) → (Nat → Int32) → Prop} {x1 x2 x3 x4 : Int32} {a q : Nat} (v : Bool) (ha : a ≤ 10) (hq : q ≤ 8)
    (H : J34 (nI q + (-1)) b sg sc mk lt nl pf pt (upd rf (a * 11 + q) (ig_b v)) lf) : wY_partFits_217 post J25 J34 x1 x2 x3 x4 (nI a) (nI q) (ig_b v) bu rc ny pa b sg sc mk lt nl pf pt rf lf := by
  have e : nI a * 11 + nI q = nI (a * 11 + q) := by rw [show nI a * 11 = nI (a * 11) from pk_mul a 11, nI_add]
  have c : (nI (a * 11 + q)).toNatClampNeg = a * 11 + q := nI_clamp (by omega)
  refine And.intro (by rw [e]; exact vp_in_nI (by omega) (by decide)) ?_
  exact nm_r (e' := upd rf (a * 11 + q) (ig_b v)) (by rw [e, c, ig_b_nar]) (nm_e H)
/-- the sign's case of the table: a < z or a = z signs of the part, q of w letters -/
theorem ig_y77 {post : Int32 → SY → Prop} {J25 J34 : Int32 → (Nat → Int32) → (Nat → Int32) → (Nat → Int32) → (Nat → Int32) → (Nat → Int32) → (Nat → Int32) → (Nat → Int32) → (Nat → Int32) → (Nat → Int32) → (Nat → Int32) → Prop} {x1 x7 : Int32} {s : Nat → Int32} {t f a q z w : Nat} (hk : k < 6) (ha : a ≤ z) (hz : z ≤ 10) (hq : q ≤ w) (hw : w ≤ 8) (ht : t = f + z)
    (h7 : a < z → x7 = s (f + a))
    (hd : a < z → ∀ q, q ≤ w → rf ((a + 1) * 11 + q) = ig_b (ig_PF s t lt k w (f + (a + 1)) q))
    (hr : q < w → rf (a * 11 + (q + 1)) = ig_b (ig_PF s t lt k w (f + a) (q + 1)))
    (H : J34 (nI q + (-1)) b sg sc mk lt nl pf pt (upd rf (a * 11 + q) (ig_b (ig_PF s t lt k w (f + a) q))) lf) :
    wY_partFits_77 post J25 J34 x1 (nI k) (nI z) (nI w) (nI a) (nI q) x7 (ig_b (decide (q < w))) bu rc ny pa b sg sc mk lt nl pf pt rf lf := by
  have e1 : (nI a + 1) * 11 + nI q = nI ((a + 1) * 11 + q) := by rw [nI_1, show nI (a + 1) * 11 = nI ((a + 1) * 11) from pk_mul (a + 1) 11, nI_add]
  have c1 : (nI ((a + 1) * 11 + q)).toNatClampNeg = (a + 1) * 11 + q := nI_clamp (by omega)
  have e2 : nI a * 11 + nI q + 1 = nI (a * 11 + (q + 1)) := by rw [show nI a * 11 = nI (a * 11) from pk_mul a 11, nI_add, nI_1, Nat.add_assoc]
  have c2 : (nI (a * 11 + (q + 1))).toNatClampNeg = a * 11 + (q + 1) := nI_clamp (by omega)
  have e3 : (nI a + 1) * 11 + nI q + 1 = nI ((a + 1) * 11 + (q + 1)) := by rw [e1, nI_1, Nat.add_assoc]
  have c3 : (nI ((a + 1) * 11 + (q + 1))).toNatClampNeg = (a + 1) * 11 + (q + 1) := nI_clamp (by omega)
  have e8 : nI k * 8 + nI q = nI (k * 8 + q) := by rw [show nI k * 8 = nI (k * 8) from pk_mul k 8, nI_add]
  have c8 : (nI (k * 8 + q)).toNatClampNeg = k * 8 + q := nI_clamp (by omega)
  have W : ∀ v : Bool, ig_PF s t lt k w (f + a) q = v → wY_partFits_217 post J25 J34 x1 (nI k) (nI z) (nI w) (nI a) (nI q) (ig_b v) bu rc ny pa b sg sc mk lt nl pf pt rf lf := by
    intro v e
    rw [e] at H
    exact ig_y217 v (by omega) (by omega) H
  refine br_c (fun hz0 => ?_) (fun hz0 => ?_)
  · rw [nI_eq (by omega) (by omega)] at hz0
    have e0 : ig_PF s t lt k w (f + a) q = decide (w ≤ q) := ig_PF_end (by omega)
    refine ig_b_br (fun h => W true ?_) (fun h => W false ?_)
    · rw [e0, decide_eq_true_iff]
      rw [decide_eq_false_iff_not] at h
      omega
    · rw [e0, decide_eq_false_iff_not]
      rw [decide_eq_true_iff] at h
      omega
  · rw [nI_eq (by omega) (by omega)] at hz0
    have haz : a < z := by omega
    have hd := hd haz
    rw [h7 haz]
    have eA : f + (a + 1) = f + a + 1 := by omega
    rw [eA] at hd
    refine br_c (fun hs => ?_) (fun hs => ?_)
    · have e0 := ig_PF_st (s := s) (t := t) (lt := lt) (k := k) (z := w) (i := f + a) (q := q) (by omega) hs
      refine And.intro (by rw [e1]; exact vp_in_nI (by omega) (by decide)) ?_
      rw [e1, c1, hd q hq]
      refine ig_b_br (fun p1 => ?_) (fun p1 => W true (by rw [e0, p1]; rfl))
      rw [p1, Bool.false_or] at e0
      refine ig_b_br (fun h => W false ?_) (fun h => ?_)
      · rw [decide_eq_false_iff_not] at h
        rw [e0, if_neg h]
      · rw [decide_eq_true_iff] at h
        rw [if_pos h] at e0
        refine And.intro (by rw [e2]; exact vp_in_nI (by omega) (by decide)) ?_
        rw [e2, c2, hr h]
        exact ig_b_br (fun p2 => W false (e0.trans p2)) (fun p2 => W true (e0.trans p2))
    · have e0 := ig_PF_ch (s := s) (t := t) (lt := lt) (k := k) (z := w) (i := f + a) (q := q) (by omega) hs
      refine ig_b_br (fun h => W false ?_) (fun h => ?_)
      · rw [decide_eq_false_iff_not] at h
        rw [e0, if_neg h]
      · rw [decide_eq_true_iff] at h
        rw [if_pos h] at e0
        have Y : (s (f + a) = 8 ∨ s (f + a) = lt (k * 8 + q)) → wY_partFits_190 post J25 J34 x1 (nI k) (nI z) (nI w) (nI a) (nI q) bu rc ny pa b sg sc mk lt nl pf pt rf lf := by
          intro hh
          rw [decide_eq_true hh, Bool.true_and] at e0
          refine And.intro (by rw [e3]; exact vp_in_nI (by omega) (by decide)) ?_
          rw [e3, c3, hd (q + 1) (by omega)]
          exact ig_b_br (fun p2 => W false (e0.trans p2)) (fun p2 => W true (e0.trans p2))
        refine br_c (fun h8 => Y (Or.inl h8)) (fun h8 => And.intro (by rw [e8]; exact vp_in_nI (by omega) (by decide)) ?_)
        rw [e8, c8]
        refine br_c (fun hl => Y (Or.inr hl)) (fun hl => W false ?_)
        rw [e0, decide_eq_false (by rintro (y | y); exact h8 y; exact hl y), Bool.false_and]
theorem ig_y34 {post : Int32 → SY → Prop} {J25 : Int32 → (Nat → Int32) → (Nat → Int32) → (Nat → Int32) → (Nat → Int32) → (Nat → Int32) → (Nat → Int32) → (Nat → Int32) → (Nat → Int32) → (Nat → Int32) → (Nat → Int32) → Prop} {s : Nat → Int32} {t f a z w p : Nat} (hs : s = fun i => sg (r * 10 + i)) (hr : r < 12) (hp : p < 11) (hf : pf p = nI (r * 10 + f)) (htm : t ≤ 10)
    (hk : k < 6) (ha : a ≤ z) (hw : w ≤ 8) (ht : t = f + z)
    (HJ : ∀ rf' : Nat → Int32, (∀ b q, a ≤ b → b ≤ z → q ≤ w → rf' (b * 11 + q) = ig_b (ig_PF s t lt k w (f + b) q)) → J25 (nI a + (-1)) b sg sc mk lt nl pf pt rf' lf) :
    ∀ d, d ≤ w + 1 → ∀ n, d < n → ∀ rf : Nat → Int32, (∀ b q, a + 1 ≤ b → b ≤ z → q ≤ w → rf (b * 11 + q) = ig_b (ig_PF s t lt k w (f + b) q)) → (∀ q, d ≤ q → q ≤ w → rf (a * 11 + q) = ig_b (ig_PF s t lt k w (f + a) q)) →
    wY_partFits_34 post J25 (nI p) (nI k) (nI z) (nI w) (nI a) bu rc ny pa n (nI d + (-1)) b sg sc mk lt nl pf pt rf lf := by
  intro d
  induction d with
  | zero =>
    intro hd n hn rf h1 h2
    obtain ⟨n, rfl⟩ : ∃ c, n = c + 1 := ⟨n - 1, by omega⟩
    refine br_t (by decide) (nm_e (HJ rf (fun b q hb hbz hq => ?_)))
    rcases Nat.lt_or_ge a b with z | z
    · exact h1 b q z hbz hq
    · have e : b = a := by omega
      subst e
      exact h2 q (Nat.zero_le _) hq
  | succ d ih =>
    intro hd n hn rf h1 h2
    obtain ⟨n, rfl⟩ : ∃ c, n = c + 1 := ⟨n - 1, by omega⟩
    rw [pk_m1]
    have ep : (nI p).toNatClampNeg = p := nI_clamp (by omega)
    have K : ∀ x7 : Int32, (a < z → x7 = s (f + a)) → wY_partFits_63 post J25 (wY_partFits_34 post J25 (nI p) (nI k) (nI z) (nI w) (nI a) bu rc ny pa n) (nI p) (nI k) (nI z) (nI w) (nI a) (nI d) x7 bu rc ny pa b sg sc mk lt nl pf pt rf lf := by
      intro x7 h7
      have Q : wY_partFits_77 post J25 (wY_partFits_34 post J25 (nI p) (nI k) (nI z) (nI w) (nI a) bu rc ny pa n) (nI p) (nI k) (nI z) (nI w) (nI a) (nI d) x7 (ig_b (decide (d < w))) bu rc ny pa b sg sc mk lt nl pf pt rf lf := by
        refine ig_y77 (s := s) (t := t) (f := f) hk ha (by omega) (by omega) hw ht h7 (fun haz q hq => h1 (a + 1) q (Nat.le_refl _) (by omega) hq) (fun hq => h2 (d + 1) (Nat.le_refl _) (by omega)) ?_
        refine ih (by omega) n (by omega) _ (fun b q hb hbz hq => ?_) (fun q hq1 hq2 => ?_)
        · rw [pk_un (by omega)]
          exact h1 b q hb hbz hq
        · by_cases e : q = d
          · subst e
            rw [pk_us]
          · rw [pk_un (by omega)]
            exact h2 q (by omega) hq2
      refine br_c (fun h => ?_) (fun h => ?_)
      · rw [nI_leI (by omega) (by omega)] at h
        rw [decide_eq_false (by omega)] at Q
        exact Q
      · rw [nI_leI (by omega) (by omega)] at h
        rw [decide_eq_true (by omega)] at Q
        exact Q
    refine br_f (nI_pos (by omega)) (br_c (fun h => K 0 (fun haz => ?_)) (fun h => ?_))
    · rw [nI_leI (by omega) (by omega)] at h
      omega
    · rw [nI_leI (by omega) (by omega)] at h
      have ef : pf p + nI a = nI (r * 10 + f + a) := by rw [hf, nI_add]
      have cf : (nI (r * 10 + f + a)).toNatClampNeg = r * 10 + f + a := nI_clamp (by omega)
      refine And.intro (vp_in_nI hp (by decide)) ?_
      rw [ep, ef, cf]
      refine And.intro (vp_in_nI (by omega) (by decide)) (K _ (fun _ => ?_))
      rw [hs]
      dsimp only
      rw [Nat.add_assoc]
theorem ig_y25 {post : Int32 → SY → Prop} {s : Nat → Int32} {t f z w p : Nat} (hs : s = fun i => sg (r * 10 + i)) (hr : r < 12) (hp : p < 11) (hf : pf p = nI (r * 10 + f)) (htm : t ≤ 10)
    (hk : k < 6) (hw : w ≤ 8) (ht : t = f + z)
    (HP : ∀ rf', post (ig_b (ig_PF s t lt k w f 0)) (bu, rc, ny, pa, b, sg, sc, mk, lt, nl, pf, pt, rf', lf)) :
    ∀ d, d ≤ z + 1 → ∀ n, d < n → ∀ rf : Nat → Int32, (∀ b q, d ≤ b → b ≤ z → q ≤ w → rf (b * 11 + q) = ig_b (ig_PF s t lt k w (f + b) q)) →
    wY_partFits_25 post (nI p) (nI k) (nI z) (nI w) bu rc ny pa n (nI d + (-1)) b sg sc mk lt nl pf pt rf lf := by
  intro d
  induction d with
  | zero =>
    intro hd n hn rf h1
    obtain ⟨n, rfl⟩ : ∃ c, n = c + 1 := ⟨n - 1, by omega⟩
    have e : rf 0 = ig_b (ig_PF s t lt k w f 0) := h1 0 0 (Nat.le_refl _) (Nat.zero_le _) (Nat.zero_le _)
    refine br_t (by decide) ?_
    rw [e]
    exact And.intro (ig_b_nar2 _) (HP rf)
  | succ d ih =>
    intro hd n hn rf h1
    obtain ⟨n, rfl⟩ : ∃ c, n = c + 1 := ⟨n - 1, by omega⟩
    rw [pk_m1]
    refine br_f (nI_pos (by omega)) (Exists.intro (w + 2) ?_)
    have := ig_y34 (post := post) (bu := bu) (rc := rc) (ny := ny) (pa := pa) (b := b) (sc := sc) (mk := mk) (nl := nl) (pt := pt) (lf := lf) hs hr hp hf htm hk (a := d) (by omega) hw ht (fun rf' h => ih (by omega) n (by omega) rf' h) (w + 1) (Nat.le_refl _) (w + 2) (by omega) rf h1 (fun q hq1 hq2 => absurd hq1 (by omega))
    rw [pk_m1] at this
    exact this
theorem ig_ypart {post : Int32 → SY → Prop} {s : Nat → Int32} {p c : Nat} (hs : s = fun i => sg (r * 10 + i)) (hr : r < 12) (hm : m ≤ 10) (C : ig_Cut s m r pf pt c) (hp : p < c) (P : ig_Path nl lt L N) (hk : k < 6)
    (HP : ∀ rf', post (ig_b (ig_PF s (ig_te s m (ig_F s m p)) lt k (L k) (ig_F s m p) 0)) (bu, rc, ny, pa, b, sg, sc, mk, lt, nl, pf, pt, rf', lf)) : wpY_partFits post (bu, rc, ny, pa, b, sg, sc, mk, lt, nl, pf, pt, rf, lf) (nI p) (nI k) := by
  obtain ⟨_, hc5, _, hC⟩ := C
  obtain ⟨hF, hf, ht⟩ := hC p hp
  have hL := P.2.2.2.1 k
  have h1 := ig_te_ge s m (ig_F s m p)
  have h2 := ig_te_le (s := s) (m := m) (i := ig_F s m p) (by omega)
  have ep : (nI p).toNatClampNeg = p := nI_clamp (by omega)
  have ek : (nI k).toNatClampNeg = k := nI_clamp (by omega)
  have el : pt p - pf p = nI (ig_te s m (ig_F s m p) - ig_F s m p) := by
    rw [hf, ht, pk_sub (by omega)]
    exact congrArg nI (by omega)
  refine And.intro (vp_in_nI (by omega) (by decide)) (And.intro (vp_in_nI (by omega) (by decide)) ?_)
  rw [ep, ek]
  refine nm_r el (And.intro (vp_in_nI hk (by decide)) (nm_r (P.2.2.1 k) ?_))
  refine Exists.intro (ig_te s m (ig_F s m p) - ig_F s m p + 2) ?_
  have := ig_y25 (bu := bu) (rc := rc) (ny := ny) (pa := pa) (b := b) (sc := sc) (mk := mk) (nl := nl) (pt := pt) (lf := lf) (t := ig_te s m (ig_F s m p)) (z := ig_te s m (ig_F s m p) - ig_F s m p) hs hr (by omega) hf (by omega) hk hL (by omega) HP _ (Nat.le_refl _) (ig_te s m (ig_F s m p) - ig_F s m p + 2) (by omega) rf (fun b q hb hbz _ => absurd hb (by omega))
  rw [pk_m1] at this
  exact this
end
end
section
/-! Y: all parts against the first names; a rule; the questions -/
section
variable {bu rc ny pa : Int32} {b sg sc mk lt nl pf pt rf lf : Nat → Int32}
variable {L ms : Nat → Nat} {r k m N : Nat}
theorem ig_y147 {post : Int32 → SY → Prop} {J5 J11 : Int32 → Int32 → Int32 → Int32 → Int32 → (Nat → Int32) → (Nat → Int32) → (Nat → Int32) → (Nat → Int32) → (Nat → Int32) → (Nat → Int32) → (Nat → Int32) → (Nat → Int32) → (Nat → Int32) → (Nat → Int32) → Prop} {x1 : Int32} {p q : Nat} (v : Bool) (hp : p ≤ 10) (hq : q ≤ 6)
    (H : J11 (nI q + (-1)) bu rc ny pa b sg sc mk lt nl pf pt rf (upd lf (p * 11 + q) (ig_b v))) : wY_allFit_147 post J5 J11 x1 (nI p) (nI q) (ig_b v) bu rc ny pa b sg sc mk lt nl pf pt rf lf := by
  have e : nI p * 11 + nI q = nI (p * 11 + q) := by rw [show nI p * 11 = nI (p * 11) from pk_mul p 11, nI_add]
  have c : (nI (p * 11 + q)).toNatClampNeg = p * 11 + q := nI_clamp (by omega)
  refine And.intro (by rw [e]; exact vp_in_nI (by omega) (by decide)) ?_
  exact nm_r (e' := upd lf (p * 11 + q) (ig_b v)) (by rw [e, c, ig_b_nar]) (nm_e H)
theorem ig_yA25 {post : Int32 → SY → Prop} {J5 J11 : Int32 → Int32 → Int32 → Int32 → Int32 → (Nat → Int32) → (Nat → Int32) → (Nat → Int32) → (Nat → Int32) → (Nat → Int32) → (Nat → Int32) → (Nat → Int32) → (Nat → Int32) → (Nat → Int32) → (Nat → Int32) → Prop} {s : Nat → Int32} {p q c nn : Nat} (hs : s = fun i => sg (r * 10 + i)) (hr : r < 12) (hm : m ≤ 10)
    (C : ig_Cut s m r pf pt c) (P : ig_Path nl lt L N) (hp : p ≤ c) (hq : q ≤ nn) (hnn : nn ≤ 6)
    (hd : p < c → ∀ q, q ≤ nn → lf ((p + 1) * 11 + q) = ig_b (ig_LF s m lt L nn (ig_F s m (p + 1)) q))
    (hr2 : q < nn → lf (p * 11 + (q + 1)) = ig_b (ig_LF s m lt L nn (ig_F s m p) (q + 1)))
    (H : ∀ rf', J11 (nI q + (-1)) bu rc ny (nI c) b sg sc mk lt nl pf pt rf' (upd lf (p * 11 + q) (ig_b (ig_LF s m lt L nn (ig_F s m p) q)))) :
    wY_allFit_25 post J5 J11 (nI nn) (nI p) (nI q) (ig_b (decide (q < nn))) bu rc ny (nI c) b sg sc mk lt nl pf pt rf lf := by
  have hc5 := C.2.1
  have ep : (nI p).toNatClampNeg = p := nI_clamp (by omega)
  have e1 : (nI p + 1) * 11 + nI q = nI ((p + 1) * 11 + q) := by rw [nI_1, show nI (p + 1) * 11 = nI ((p + 1) * 11) from pk_mul (p + 1) 11, nI_add]
  have c1 : (nI ((p + 1) * 11 + q)).toNatClampNeg = (p + 1) * 11 + q := nI_clamp (by omega)
  have e2 : nI p * 11 + nI q + 1 = nI (p * 11 + (q + 1)) := by rw [show nI p * 11 = nI (p * 11) from pk_mul p 11, nI_add, nI_1, Nat.add_assoc]
  have c2 : (nI (p * 11 + (q + 1))).toNatClampNeg = p * 11 + (q + 1) := nI_clamp (by omega)
  have e3 : (nI p + 1) * 11 + nI q + 1 = nI ((p + 1) * 11 + (q + 1)) := by rw [e1, nI_1, Nat.add_assoc]
  have c3 : (nI ((p + 1) * 11 + (q + 1))).toNatClampNeg = (p + 1) * 11 + (q + 1) := nI_clamp (by omega)
  have W : ∀ (v : Bool) rf', ig_LF s m lt L nn (ig_F s m p) q = v → wY_allFit_147 post J5 J11 (nI nn) (nI p) (nI q) (ig_b v) bu rc ny (nI c) b sg sc mk lt nl pf pt rf' lf := by
    intro v rf' e
    have H := H rf'
    rw [e] at H
    exact ig_y147 v (by omega) (by omega) H
  refine br_c (fun hz0 => ?_) (fun hz0 => ?_)
  · rw [nI_eq (by omega) (by omega)] at hz0
    have e0 : ig_LF s m lt L nn (ig_F s m p) q = decide (nn ≤ q) := ig_LF_end (by rw [hz0, C.2.2.1]; omega)
    refine ig_b_br (fun h => W true rf ?_) (fun h => W false rf ?_)
    · rw [e0, decide_eq_true_iff]
      rw [decide_eq_false_iff_not] at h
      omega
    · rw [e0, decide_eq_false_iff_not]
      rw [decide_eq_true_iff] at h
      omega
  · rw [nI_eq (by omega) (by omega)] at hz0
    have hpc : p < c := by omega
    have hd := hd hpc
    obtain ⟨hF, hf, ht⟩ := C.2.2.2 p hpc
    have cf : (nI (r * 10 + ig_F s m p)).toNatClampNeg = r * 10 + ig_F s m p := nI_clamp (by omega)
    have es : sg (r * 10 + ig_F s m p) = s (ig_F s m p) := by rw [hs]
    refine And.intro (vp_in_nI (by omega) (by decide)) ?_
    rw [ep, hf, cf, es]
    refine And.intro (vp_in_nI (by omega) (by decide)) ?_
    refine br_c (fun h10 => ?_) (fun h10 => ?_)
    · have e0 := ig_LF_d (lt := lt) (L := L) (n := nn) (k := q) hF h10
      refine And.intro (by rw [e1]; exact vp_in_nI (by omega) (by decide)) ?_
      rw [e1, c1, hd q hq]
      refine ig_b_br (fun p1 => ?_) (fun p1 => W true rf ?_)
      · rw [ig_F] at p1
        rw [p1, Bool.false_or] at e0
        refine ig_b_br (fun h => W false rf ?_) (fun h => ?_)
        · rw [decide_eq_false_iff_not] at h
          rw [e0, if_neg h]
        · rw [decide_eq_true_iff] at h
          rw [if_pos h] at e0
          refine And.intro (by rw [e2]; exact vp_in_nI (by omega) (by decide)) ?_
          rw [e2, c2, hr2 h]
          exact ig_b_br (fun p2 => W false rf (e0.trans p2)) (fun p2 => W true rf (e0.trans p2))
      · rw [ig_F] at p1
        rw [e0, p1]
        rfl
    · have e0 := ig_LF_o (lt := lt) (L := L) (n := nn) (k := q) (Nat.le_of_lt hF) (fun z => h10 z.2)
      refine ig_b_br (fun h => W false rf ?_) (fun h => ?_)
      · rw [decide_eq_false_iff_not] at h
        rw [e0, if_neg h]
      · rw [decide_eq_true_iff] at h
        rw [if_pos h] at e0
        refine And.intro (by rw [e3]; exact vp_in_nI (by omega) (by decide)) ?_
        rw [e3, c3, hd (q + 1) (by omega)]
        refine ig_b_br (fun p1 => W false rf ?_) (fun p1 => ?_)
        · rw [ig_F] at p1
          rw [e0, p1]
          rfl
        · rw [ig_F] at p1
          rw [p1, Bool.true_and] at e0
          exact ig_ypart hs hr hm C hpc P (by omega) (fun rf' => W _ rf' e0)
theorem ig_yA11 {post : Int32 → SY → Prop} {J5 : Int32 → Int32 → Int32 → Int32 → Int32 → (Nat → Int32) → (Nat → Int32) → (Nat → Int32) → (Nat → Int32) → (Nat → Int32) → (Nat → Int32) → (Nat → Int32) → (Nat → Int32) → (Nat → Int32) → (Nat → Int32) → Prop} {s : Nat → Int32} {p c nn : Nat} (hs : s = fun i => sg (r * 10 + i)) (hr : r < 12) (hm : m ≤ 10)
    (C : ig_Cut s m r pf pt c) (P : ig_Path nl lt L N) (hp : p ≤ c) (hnn : nn ≤ 6)
    (HJ : ∀ rf' lf', (∀ b q, p ≤ b → b ≤ c → q ≤ nn → lf' (b * 11 + q) = ig_b (ig_LF s m lt L nn (ig_F s m b) q)) → J5 (nI p + (-1)) bu rc ny (nI c) b sg sc mk lt nl pf pt rf' lf') :
    ∀ d, d ≤ nn + 1 → ∀ n, d < n → ∀ rf lf, (∀ b q, p + 1 ≤ b → b ≤ c → q ≤ nn → lf (b * 11 + q) = ig_b (ig_LF s m lt L nn (ig_F s m b) q)) → (∀ q, d ≤ q → q ≤ nn → lf (p * 11 + q) = ig_b (ig_LF s m lt L nn (ig_F s m p) q)) →
    wY_allFit_11 post J5 (nI nn) (nI p) n (nI d + (-1)) bu rc ny (nI c) b sg sc mk lt nl pf pt rf lf := by
  have hc5 := C.2.1
  intro d
  induction d with
  | zero =>
    intro hd n hn rf lf h1 h2
    obtain ⟨n, rfl⟩ : ∃ c, n = c + 1 := ⟨n - 1, by omega⟩
    refine br_t (by decide) (nm_e (HJ rf lf (fun b q hb hbz hq => ?_)))
    rcases Nat.lt_or_ge p b with z | z
    · exact h1 b q z hbz hq
    · have e : b = p := by omega
      subst e
      exact h2 q (Nat.zero_le _) hq
  | succ d ih =>
    intro hd n hn rf lf h1 h2
    obtain ⟨n, rfl⟩ : ∃ c, n = c + 1 := ⟨n - 1, by omega⟩
    rw [pk_m1]
    have Q : wY_allFit_25 post J5 (wY_allFit_11 post J5 (nI nn) (nI p) n) (nI nn) (nI p) (nI d) (ig_b (decide (d < nn))) bu rc ny (nI c) b sg sc mk lt nl pf pt rf lf := by
      refine ig_yA25 hs hr hm C P hp (by omega) hnn (fun hpc q hq => h1 (p + 1) q (Nat.le_refl _) (by omega) hq) (fun hq => h2 (d + 1) (Nat.le_refl _) (by omega)) (fun rf' => ?_)
      refine ih (by omega) n (by omega) rf' _ (fun b q hb hbz hq => ?_) (fun q hq1 hq2 => ?_)
      · rw [pk_un (by omega)]
        exact h1 b q hb hbz hq
      · by_cases e : q = d
        · subst e
          rw [pk_us]
        · rw [pk_un (by omega)]
          exact h2 q (by omega) hq2
    refine br_f (nI_pos (by omega)) (br_c (fun h => ?_) (fun h => ?_))
    · rw [nI_leI (by omega) (by omega)] at h
      rw [decide_eq_false (by omega)] at Q
      exact Q
    · rw [nI_leI (by omega) (by omega)] at h
      rw [decide_eq_true (by omega)] at Q
      exact Q
theorem ig_yA5 {post : Int32 → SY → Prop} {s : Nat → Int32} {c nn : Nat} (hs : s = fun i => sg (r * 10 + i)) (hr : r < 12) (hm : m ≤ 10)
    (C : ig_Cut s m r pf pt c) (P : ig_Path nl lt L N) (hnn : nn ≤ 6)
    (HP : ∀ rf' lf', post (ig_b (ig_LF s m lt L nn 0 0)) (bu, rc, ny, nI c, b, sg, sc, mk, lt, nl, pf, pt, rf', lf')) :
    ∀ d, d ≤ c + 1 → ∀ n, d < n → ∀ rf lf, (∀ b q, d ≤ b → b ≤ c → q ≤ nn → lf (b * 11 + q) = ig_b (ig_LF s m lt L nn (ig_F s m b) q)) →
    wY_allFit_5 post (nI nn) n (nI d + (-1)) bu rc ny (nI c) b sg sc mk lt nl pf pt rf lf := by
  have hc5 := C.2.1
  intro d
  induction d with
  | zero =>
    intro hd n hn rf lf h1
    obtain ⟨n, rfl⟩ : ∃ c, n = c + 1 := ⟨n - 1, by omega⟩
    have e : lf 0 = ig_b (ig_LF s m lt L nn 0 0) := h1 0 0 (Nat.le_refl _) (Nat.zero_le _) (Nat.zero_le _)
    refine br_t (by decide) ?_
    rw [e]
    exact And.intro (ig_b_nar2 _) (HP rf lf)
  | succ d ih =>
    intro hd n hn rf lf h1
    obtain ⟨n, rfl⟩ : ∃ c, n = c + 1 := ⟨n - 1, by omega⟩
    rw [pk_m1]
    refine br_f (nI_pos (by omega)) (Exists.intro (nn + 2) ?_)
    have := ig_yA11 (post := post) (bu := bu) (rc := rc) (ny := ny) (b := b) (sc := sc) (mk := mk) (p := d) hs hr hm C P (by omega) hnn (fun rf' lf' h => ih (by omega) n (by omega) rf' lf' h) (nn + 1) (Nat.le_refl _) (nn + 2) (by omega) rf lf h1 (fun q hq1 hq2 => absurd hq1 (by omega))
    rw [pk_m1] at this
    exact this
theorem ig_yall {post : Int32 → SY → Prop} {s : Nat → Int32} {c nn : Nat} (hs : s = fun i => sg (r * 10 + i)) (hr : r < 12) (hm : m ≤ 10)
    (C : ig_Cut s m r pf pt c) (P : ig_Path nl lt L N) (hnn : nn ≤ 6)
    (HP : ∀ rf' lf', post (ig_b (ig_LF s m lt L nn 0 0)) (bu, rc, ny, nI c, b, sg, sc, mk, lt, nl, pf, pt, rf', lf')) : wpY_allFit post (bu, rc, ny, nI c, b, sg, sc, mk, lt, nl, pf, pt, rf, lf) (nI nn) := by
  have := ig_yA5 hs hr hm C P hnn HP (c + 1) (Nat.le_refl _) (c + 2) (by omega) rf lf (fun b q hb hbz _ => absurd hb (by omega))
  rw [pk_m1] at this
  exact Exists.intro (c + 2) this
theorem ig_ymr {post : Int32 → SY → Prop} {s : Nat → Int32} {nn : Nat} {fl : Bool} {x2 : Int32} (hs : s = fun i => sg (r * 10 + i)) (hr : r < 12) (hm : m ≤ 10) (hsc : sc r = nI m) (G : ig_Good s m)
    (P : ig_Path nl lt L N) (hn1 : 1 ≤ nn) (hnn : nn ≤ 6) (hx2 : x2 = 0 ↔ fl = false)
    (HP : ∀ pa' pf' pt' rf' lf', post (ig_b (ig_M s m lt L (mk r) nn fl)) (bu, rc, ny, pa', b, sg, sc, mk, lt, nl, pf', pt', rf', lf')) : wpY_matchesRule post (bu, rc, ny, pa, b, sg, sc, mk, lt, nl, pf, pt, rf, lf) (nI r) (nI nn) x2 := by
  have er : (nI r).toNatClampNeg = r := nI_clamp (by omega)
  have e10 : nI r * 10 = nI (r * 10) := pk_mul r 10
  have c10 : (nI (r * 10)).toNatClampNeg = r * 10 := nI_clamp (by omega)
  have en : nI nn - 1 = nI (nn - 1) := pk_sub (a := nn) (b := 1) hn1
  have es0 : sg (r * 10) = s 0 := by rw [hs]; rfl
  have K : ig_M s m lt L (mk r) nn fl = (if ig_te s m 0 = m ∧ mk r &&& 2 = 0 then ig_LF s m lt L nn 0 (nn - 1) else ig_LF s m lt L nn 0 0) → wY_matchesRule_17 post (nI r) (nI nn) bu rc ny pa b sg sc mk lt nl pf pt rf lf := by
    intro eM
    refine ig_ycut hs hr hm hsc G (fun c pf' pt' C => ?_)
    have hc5 := C.2.1
    have h72 : ¬ (ig_te s m 0 = m ∧ mk r &&& 2 = 0) → wY_matchesRule_72 post (nI nn) bu rc ny (nI c) b sg sc mk lt nl pf' pt' rf lf := by
      intro hno
      rw [if_neg hno] at eM
      refine ig_yall hs hr hm C P hnn (fun rf' lf' => And.intro (ig_b_nar2 _) ?_)
      rw [← eM]
      exact HP _ _ _ _ _
    refine br_c (fun hc => ?_) (fun hc => h72 (fun z => ?_))
    · have hc1 : c = 1 := (nI_eq (b := 1) (by omega) (by omega)).mp hc
      subst hc1
      have ht : ig_te s m 0 = m := by
        have := C.2.2.1
        rw [ig_F, ig_F] at this
        omega
      refine And.intro (vp_in_nI hr (by decide)) ?_
      dsimp only
      rw [er]
      refine br_c (fun h2 => ?_) (fun h2 => h72 (fun z => h2 z.2))
      rw [if_pos ⟨ht, h2⟩] at eM
      refine And.intro (by rw [e10]; exact vp_in_nI (by omega) (by decide)) ?_
      rw [e10, c10, es0]
      refine br_c (fun h10 => ?_) (fun h10 => ?_)
      · have e1 : ig_LF s m lt L nn 0 nn = true := by
          rw [ig_LF_d G.1 h10, ht, ig_LF_end (by omega), decide_eq_true (Nat.le_refl nn)]
          rfl
        have e2 : ig_M s m lt L (mk r) nn fl = true := by
          rw [eM, ig_LF_d G.1 h10, if_pos (by omega), show nn - 1 + 1 = nn by omega, e1, Bool.or_true]
        have := HP (nI 1) pf' pt' rf lf
        rw [e2] at this
        exact this
      · have e2 : ig_M s m lt L (mk r) nn fl = ig_PF s (ig_te s m (ig_F s m 0)) lt (nn - 1) (L (nn - 1)) (ig_F s m 0) 0 := by
          rw [eM, ig_LF_o (Nat.zero_le m) (fun z => h10 z.2), if_pos (by omega), show nn - 1 + 1 = nn by omega, ht, ig_LF_end (by omega), decide_eq_true (Nat.le_refl nn), Bool.true_and, ig_F, ht]
        rw [en]
        refine ig_ypart (p := 0) hs hr hm C (by omega) P (by omega) (fun rf' => ?_)
        have H := HP (nI 1) pf' pt' rf' lf
        rw [e2] at H
        refine ig_b_br (fun p1 => ?_) (fun p1 => ?_)
        · rw [p1] at H
          exact H
        · rw [p1] at H
          exact H
    · rcases Nat.lt_or_ge 1 c with y | y
      · have h1 := (C.2.2.2 1 y).1
        rw [ig_F, ig_F] at h1
        omega
      · have e : c = 1 := by
          have := C.1
          omega
        subst e
        exact hc rfl
  refine And.intro (vp_in_nI hr (by decide)) ?_
  rw [er]
  refine br_c (fun h4 => K ?_) (fun h4 => br_c (fun h0 => ?_) (fun h0 => K ?_))
  · unfold ig_M
    rw [if_neg (fun z => z.1 h4)]
  · have H := HP pa pf pt rf lf
    unfold ig_M at H
    rw [if_pos ⟨h4, hx2.mp h0⟩] at H
    exact H
  · unfold ig_M
    rw [if_neg (fun z => h0 (hx2.mpr z.2))]
theorem ig_ylast6 {post : Int32 → SY → Prop} {nn R : Nat} {fl : Bool} {x2 : Int32} {ng fo ln so sr sl sk db en : Nat → Int32} (hR : R ≤ 12) (HR : ∀ r, r < R → ig_Rule sg sc mk ng fo ln so sr sl sk db en (ms r) r)
    (P : ig_Path nl lt L N) (hn1 : 1 ≤ nn) (hnn : nn ≤ 6) (hx2 : x2 = 0 ↔ fl = false)
    (HP : ∀ pa' pf' pt' rf' lf', post (ig_last (ig_Mr sg mk lt ms L nn fl) R) (bu, nI R, ny, pa', b, sg, sc, mk, lt, nl, pf', pt', rf', lf')) :
    ∀ d r, r + d = R → ∀ n, d < n → ∀ pa pf pt rf lf, wY_lastFor_6 post (nI nn) x2 n (ig_last (ig_Mr sg mk lt ms L nn fl) r) (nI r) bu (nI R) ny pa b sg sc mk lt nl pf pt rf lf := by
  intro d
  induction d with
  | zero =>
    intro r hd n hn pa pf pt rf lf
    obtain ⟨n, rfl⟩ : ∃ c, n = c + 1 := ⟨n - 1, by omega⟩
    have e : r = R := by omega
    subst e
    exact br_t (nI_le (Nat.le_refl _) (by omega)) (HP _ _ _ _ _)
  | succ d ih =>
    intro r hd n hn pa pf pt rf lf
    obtain ⟨n, rfl⟩ : ∃ c, n = c + 1 := ⟨n - 1, by omega⟩
    obtain ⟨hm, hsc, G, _⟩ := HR r (by omega)
    refine br_f (nI_ge (by omega) (by omega)) (ig_ymr rfl (by omega) hm hsc G P hn1 hnn hx2 (fun pa' pf' pt' rf' lf' => ?_))
    have I := ih (r + 1) (by omega) n (by omega) pa' pf' pt' rf' lf'
    rw [ig_last] at I
    refine ig_b_br (fun h => ?_) (fun h => ?_)
    · rw [if_neg (by unfold ig_Mr; rw [h]; decide)] at I
      exact nm_r (nI_1 r) I
    · rw [if_pos (by unfold ig_Mr; exact h)] at I
      exact nm_r (nI_1 r) I
theorem ig_ylast {post : Int32 → SY → Prop} {nn R : Nat} {fl : Bool} {x2 : Int32} {ng fo ln so sr sl sk db en : Nat → Int32} (hR : R ≤ 12) (HR : ∀ r, r < R → ig_Rule sg sc mk ng fo ln so sr sl sk db en (ms r) r)
    (P : ig_Path nl lt L N) (hn1 : 1 ≤ nn) (hnn : nn ≤ 6) (hx2 : x2 = 0 ↔ fl = false)
    (HP : ∀ pa' pf' pt' rf' lf', post (ig_last (ig_Mr sg mk lt ms L nn fl) R) (bu, nI R, ny, pa', b, sg, sc, mk, lt, nl, pf', pt', rf', lf')) : wpY_lastFor post (bu, nI R, ny, pa, b, sg, sc, mk, lt, nl, pf, pt, rf, lf) (nI nn) x2 :=
  Exists.intro (R + 1) (ig_ylast6 hR HR P hn1 hnn hx2 HP R 0 (by omega) (R + 1) (by omega) pa pf pt rf lf)
theorem ig_yispath {post : Int32 → Prop} (P : ig_Path nl lt L N) (H0 : L (N - 1) = 0 → post 0) (H1 : ¬ L (N - 1) = 0 → post 1) : wpY_isPath post (bu, rc, nI N, pa, b, sg, sc, mk, lt, nl, pf, pt, rf, lf) := by
  have hN := P.2.1
  have hN1 := P.1
  have hL := P.2.2.2.1 (N - 1)
  have eN : nI N - 1 = nI (N - 1) := pk_sub (a := N) (b := 1) (by omega)
  have cN : (nI (N - 1)).toNatClampNeg = N - 1 := nI_clamp (by omega)
  refine And.intro (by rw [eN]; exact vp_in_nI (by omega) (by decide)) ?_
  rw [eN, cN, P.2.2.1 (N - 1)]
  rcases Nat.eq_zero_or_pos (L (N - 1)) with z | z
  · exact br_t (by rw [z]; decide) (H0 z)
  · exact br_f (nI_nle z (by omega)) (H1 (by omega))
theorem ig_yc12 {post : Int32 → SY → Prop} {R : Nat} {fl : Bool} {x1 : Int32} {ng fo ln so sr sl sk db en : Nat → Int32} (hR : R ≤ 12) (HR : ∀ r, r < R → ig_Rule sg sc mk ng fo ln so sr sl sk db en (ms r) r)
    (P : ig_Path nl lt L N) (hx1 : x1 = 0 ↔ fl = false) :
    ∀ d k, k + d = N → ∀ n, d < n → (∀ pa' pf' pt' rf' lf', post (ig_fi (fun j => ig_g ng (ig_last (ig_Fj sg mk lt ms L N fl j) R)) d k) (bu, nI R, nI N, pa', b, sg, sc, mk, lt, nl, pf', pt', rf', lf')) →
    ∀ pa pf pt rf lf, wY_cutAt_12 post x1 n (nI (k + 1)) bu (nI R) (nI N) pa b sg sc mk lt nl pf pt rf lf := by
  have hN := P.2.1
  intro d
  induction d with
  | zero =>
    intro k hd n hn HP pa pf pt rf lf
    obtain ⟨n, rfl⟩ : ∃ c, n = c + 1 := ⟨n - 1, by omega⟩
    have e : k = N := by omega
    subst e
    exact br_t (nI_lt (by omega) (by omega)) (HP _ _ _ _ _)
  | succ d ih =>
    intro k hd n hn HP pa pf pt rf lf
    obtain ⟨n, rfl⟩ : ∃ c, n = c + 1 := ⟨n - 1, by omega⟩
    have W : ∀ z0 : Int32, (z0 = 0 ↔ (fl || decide (k + 1 < N)) = false) → wY_cutAt_39 post (wY_cutAt_12 post x1 n) x1 (nI (k + 1)) z0 (nI (k + 1)) bu (nI R) (nI N) pa b sg sc mk lt nl pf pt rf lf := by
      intro z0 hz0
      refine ig_ylast hR HR P (by omega) (by omega) hz0 (fun pa' pf' pt' rf' lf' => ?_)
      rw [ig_fi] at HP
      rcases ig_last_c (ig_Fj sg mk lt ms L N fl k) R with e | ⟨j, hj, e⟩
      · rw [show ig_last (ig_Mr sg mk lt ms L (k + 1) (fl || decide (k + 1 < N))) R = -5 from e]
        rw [e, if_neg (show ¬ ig_g ng (-5) = true by unfold ig_g; rw [decide_eq_true_iff]; exact fun z => z.1 (by decide))] at HP
        exact br_t (by decide) (nm_r (nI_1 (k + 1)) (ih (k + 1) (by omega) n (by omega) HP pa' pf' pt' rf' lf'))
      · have ej : (nI j).toNatClampNeg = j := nI_clamp (by omega)
        rw [show ig_last (ig_Mr sg mk lt ms L (k + 1) (fl || decide (k + 1 < N))) R = nI j from e]
        rw [e] at HP
        obtain ⟨_, _, _, _, hng, _⟩ := HR j hj
        refine br_f (nI_pos (by omega)) (And.intro (vp_in_nI (by omega) (by decide)) ?_)
        rw [ej]
        refine br_c (fun h => ?_) (fun h => nm_r (nI_1 (k + 1)) (ih (k + 1) (by omega) n (by omega) ?_ pa' pf' pt' rf' lf'))
        · rw [if_pos (show ig_g ng (nI j) = true by unfold ig_g; rw [decide_eq_true_iff, ej]; exact ⟨nI_pos (by omega), hng.mpr h⟩)] at HP
          exact HP pa' pf' pt' rf' lf'
        · rw [if_neg (show ¬ ig_g ng (nI j) = true by unfold ig_g; rw [decide_eq_true_iff, ej]; exact fun z => h (hng.mp z.2))] at HP
          exact HP
    refine br_f (nI_nlt (by omega) (by omega)) (br_c (fun h0 => br_c (fun hl => W 0 ?_) (fun hl => W 1 ?_)) (fun h0 => W 1 ?_))
    · rw [nI_leI (by omega) (by omega)] at hl
      rw [hx1.mp h0, decide_eq_false (by omega)]
      simp
    · rw [nI_leI (by omega) (by omega)] at hl
      rw [decide_eq_true (by omega), Bool.or_true]
      simp
    · cases fl with
      | false => exact absurd (hx1.mpr rfl) h0
      | true => simp
theorem ig_Fj_last (sg mk lt : Nat → Int32) (ms L : Nat → Nat) {N : Nat} (fl : Bool) (h : 1 ≤ N) : ig_Fj sg mk lt ms L N fl (N - 1) = ig_Mr sg mk lt ms L N fl := by
  unfold ig_Fj
  rw [show N - 1 + 1 = N by omega, decide_eq_false (Nat.lt_irrefl N), Bool.or_false]
theorem ig_ym4 {post : Int32 → SY → Prop} {R : Nat} {fl : Bool} {x1 : Int32} {ng fo ln so sr sl sk db en : Nat → Int32} (hR : R ≤ 12) (HR : ∀ r, r < R → ig_Rule sg sc mk ng fo ln so sr sl sk db en (ms r) r)
    (P : ig_Path nl lt L N) (hx1 : x1 = 0 ↔ fl = false) (hL : ¬ L (N - 1) = 0)
    (HP : ∀ pa' pf' pt' rf' lf', post (nI (ig_cnt (ig_Mr sg mk lt ms L N fl) R)) (bu, nI R, nI N, pa', b, sg, sc, mk, lt, nl, pf', pt', rf', lf')) :
    ∀ d r, r + d = R → ∀ n, d < n → ∀ pa pf pt rf lf, wY_matches_4 post x1 n (nI (ig_cnt (ig_Mr sg mk lt ms L N fl) r)) (nI r) bu (nI R) (nI N) pa b sg sc mk lt nl pf pt rf lf := by
  intro d
  induction d with
  | zero =>
    intro r hd n hn pa pf pt rf lf
    obtain ⟨n, rfl⟩ : ∃ c, n = c + 1 := ⟨n - 1, by omega⟩
    have e : r = R := by omega
    subst e
    exact br_t (nI_le (Nat.le_refl _) (by omega)) (HP _ _ _ _ _)
  | succ d ih =>
    intro r hd n hn pa pf pt rf lf
    obtain ⟨n, rfl⟩ : ∃ c, n = c + 1 := ⟨n - 1, by omega⟩
    obtain ⟨hm, hsc, G, _⟩ := HR r (by omega)
    refine br_f (nI_ge (by omega) (by omega)) (ig_yispath P (fun z => absurd z hL) (fun _ => br_f (by decide) (ig_ymr rfl (by omega) hm hsc G P P.1 P.2.1 hx1 (fun pa' pf' pt' rf' lf' => ?_))))
    have I := ih (r + 1) (by omega) n (by omega) pa' pf' pt' rf' lf'
    rw [ig_cnt] at I
    refine ig_b_br (fun h => ?_) (fun h => ?_)
    · rw [if_neg (by unfold ig_Mr; rw [h]; decide)] at I
      exact nm_r (nI_1 r) I
    · rw [if_pos (by unfold ig_Mr; exact h)] at I
      exact nm_r (nI_1 _) (nm_r (nI_1 r) I)
theorem ig_ym40 {post : Int32 → SY → Prop} {R : Nat} {x1 : Int32} (hR : R ≤ 12) (P : ig_Path nl lt L N) (hL : L (N - 1) = 0)
    (HP : post 0 (bu, nI R, nI N, pa, b, sg, sc, mk, lt, nl, pf, pt, rf, lf)) : ∀ d r, r + d = R → ∀ n, d < n → wY_matches_4 post x1 n 0 (nI r) bu (nI R) (nI N) pa b sg sc mk lt nl pf pt rf lf := by
  intro d
  induction d with
  | zero =>
    intro r hd n hn
    obtain ⟨n, rfl⟩ : ∃ c, n = c + 1 := ⟨n - 1, by omega⟩
    have e : r = R := by omega
    subst e
    exact br_t (nI_le (Nat.le_refl _) (by omega)) HP
  | succ d ih =>
    intro r hd n hn
    obtain ⟨n, rfl⟩ : ∃ c, n = c + 1 := ⟨n - 1, by omega⟩
    exact br_f (nI_ge (by omega) (by omega)) (ig_yispath P (fun _ => br_t rfl (nm_r (nI_1 r) (ih (r + 1) (by omega) n (by omega)))) (fun z => absurd hL z))
section
variable {R : Nat} {fl : Bool} {x1 : Int32} {post : Int32 → SY → Prop} {ng fo ln so sr sl sk db en : Nat → Int32}
theorem ig_ylm (hR : R ≤ 12) (P : ig_Path nl lt L N) (HR : ∀ r, r < R → ig_Rule sg sc mk ng fo ln so sr sl sk db en (ms r) r) (hx1 : x1 = 0 ↔ fl = false)
    (H0 : L (N - 1) = 0 → post (-5) (bu, nI R, nI N, pa, b, sg, sc, mk, lt, nl, pf, pt, rf, lf))
    (H1 : ¬ L (N - 1) = 0 → ∀ pa' pf' pt' rf' lf', post (ig_last (ig_Fj sg mk lt ms L N fl (N - 1)) R) (bu, nI R, nI N, pa', b, sg, sc, mk, lt, nl, pf', pt', rf', lf')) :
    wpY_lastMatch post (bu, nI R, nI N, pa, b, sg, sc, mk, lt, nl, pf, pt, rf, lf) x1 := by
  rw [ig_Fj_last sg mk lt ms L fl P.1] at H1
  unfold wpY_lastMatch
  dsimp only
  exact ig_yispath P (fun z => br_t rfl (H0 z)) (fun z => br_f (by decide) (ig_ylast hR HR P P.1 P.2.1 hx1 (H1 z)))
theorem ig_ycnt (hR : R ≤ 12) (P : ig_Path nl lt L N) (HR : ∀ r, r < R → ig_Rule sg sc mk ng fo ln so sr sl sk db en (ms r) r) (hx1 : x1 = 0 ↔ fl = false)
    (H0 : L (N - 1) = 0 → post 0 (bu, nI R, nI N, pa, b, sg, sc, mk, lt, nl, pf, pt, rf, lf))
    (H1 : ¬ L (N - 1) = 0 → ∀ pa' pf' pt' rf' lf', post (nI (ig_cnt (ig_Fj sg mk lt ms L N fl (N - 1)) R)) (bu, nI R, nI N, pa', b, sg, sc, mk, lt, nl, pf', pt', rf', lf')) :
    wpY_matches post (bu, nI R, nI N, pa, b, sg, sc, mk, lt, nl, pf, pt, rf, lf) x1 := by
  rw [ig_Fj_last sg mk lt ms L fl P.1] at H1
  by_cases z : L (N - 1) = 0
  · exact Exists.intro (R + 1) (ig_ym40 hR P z (H0 z) R 0 (by omega) (R + 1) (by omega))
  · exact Exists.intro (R + 1) (ig_ym4 hR HR P hx1 z (H1 z) R 0 (by omega) (R + 1) (by omega) pa pf pt rf lf)
theorem ig_ycutAt (hR : R ≤ 12) (P : ig_Path nl lt L N) (HR : ∀ r, r < R → ig_Rule sg sc mk ng fo ln so sr sl sk db en (ms r) r) (hx1 : x1 = 0 ↔ fl = false)
    (H0 : L (N - 1) = 0 → post (-5) (bu, nI R, nI N, pa, b, sg, sc, mk, lt, nl, pf, pt, rf, lf))
    (H1 : ¬ L (N - 1) = 0 → ∀ pa' pf' pt' rf' lf', post (ig_fi (fun j => ig_g ng (ig_last (ig_Fj sg mk lt ms L N fl j) R)) N 0) (bu, nI R, nI N, pa', b, sg, sc, mk, lt, nl, pf', pt', rf', lf')) :
    wpY_cutAt post (bu, nI R, nI N, pa, b, sg, sc, mk, lt, nl, pf, pt, rf, lf) x1 := by
  unfold wpY_cutAt
  dsimp only
  exact ig_yispath P (fun z => br_t rfl (H0 z)) (fun z => br_f (by decide) (Exists.intro (N + 1) (ig_yc12 hR HR P hx1 N 0 (by omega) (N + 1) (by omega) (H1 z) pa pf pt rf lf)))
theorem ig_yign (hR : R ≤ 12) (P : ig_Path nl lt L N) (HR : ∀ r, r < R → ig_Rule sg sc mk ng fo ln so sr sl sk db en (ms r) r) (hx1 : x1 = 0 ↔ fl = false)
    (H0 : L (N - 1) = 0 → post 0 (bu, nI R, nI N, pa, b, sg, sc, mk, lt, nl, pf, pt, rf, lf))
    (H1 : ¬ L (N - 1) = 0 → ∀ pa' pf' pt' rf' lf', post (if ig_fi (fun j => ig_g ng (ig_last (ig_Fj sg mk lt ms L N fl j) R)) N 0 = -5 then 0 else 1) (bu, nI R, nI N, pa', b, sg, sc, mk, lt, nl, pf', pt', rf', lf')) :
    wpY_ignored post (bu, nI R, nI N, pa, b, sg, sc, mk, lt, nl, pf, pt, rf, lf) x1 := by
  unfold wpY_ignored
  dsimp only
  refine ig_ycutAt hR P HR hx1 (fun z => br_t rfl (H0 z)) (fun z pa' pf' pt' rf' lf' => ?_)
  have H := H1 z pa' pf' pt' rf' lf'
  refine br_c (fun e => ?_) (fun e => ?_)
  · rw [if_pos e] at H
    exact H
  · rw [if_neg e] at H
    exact H
end
end
end
section
/-! the check of a pattern, on both sides -/
def ig_le (b : Nat → Int32) (j : Nat) : Prop := j = 0 ∨ b (j - 1) = 9
def ig_ri (b : Nat → Int32) (p j : Nat) : Prop := j + 1 = p ∨ b (j + 1) = 9
def ig_gX (b : Nat → Int32) (p j : Nat) : Prop := (b j = 9 → ¬ ig_le b j ∧ ¬ ig_ri b p j) ∧ (b j = 10 → ig_le b j ∧ ig_ri b p j)
def ig_gY (b : Nat → Int32) (p j : Nat) : Prop := (b j = 9 → ¬ ig_le b j) ∧ (b j = 10 → ig_le b j ∧ ig_ri b p j)
theorem ig_goodX {b : Nat → Int32} {p : Nat} (hp : 0 < p) : ig_Good b p ↔ ∀ j, j < p → ig_gX b p j := by
  constructor
  · intro G j hj
    refine ⟨fun h9 => ⟨?_, ?_⟩, fun h10 => G.2.2 j hj h10⟩
    · have g := G.2.1 j hj h9
      rintro (z | z)
      · omega
      · have g2 := (G.2.1 (j - 1) (by omega) z).2.2
        rw [show j - 1 + 1 = j by omega] at g2
        exact g2 h9
    · have g := G.2.1 j hj h9
      rintro (z | z)
      · omega
      · exact g.2.2 z
  · intro H
    refine ⟨hp, fun i hi h9 => ?_, fun i hi h10 => (H i hi).2 h10⟩
    have g := (H i hi).1 h9
    refine ⟨?_, ?_, fun z => g.2 (Or.inr z)⟩
    · rcases Nat.eq_zero_or_pos i with z | z
      · exact absurd (Or.inl z) g.1
      · exact z
    · rcases Nat.lt_or_ge (i + 1) p with z | z
      · exact z
      · exact absurd (Or.inl (by omega)) g.2
theorem ig_goodY {b : Nat → Int32} {p : Nat} (hp : 0 < p) : ig_Good b p ↔ ¬ b 0 = 9 ∧ ¬ b (p - 1) = 9 ∧ ∀ j, j < p → ig_gY b p j := by
  constructor
  · intro G
    refine ⟨fun z => absurd (G.2.1 0 hp z).1 (by omega), fun z => absurd (G.2.1 (p - 1) (by omega) z).2.1 (by omega), fun j hj => ?_⟩
    have g := (ig_goodX hp).mp G j hj
    exact ⟨fun h9 => (g.1 h9).1, g.2⟩
  · rintro ⟨h0, h1, H⟩
    refine (ig_goodX hp).mpr (fun j hj => ⟨fun h9 => ⟨(H j hj).1 h9, ?_⟩, (H j hj).2⟩)
    rintro (z | z)
    · rw [show p - 1 = j by omega] at h1
      exact h1 h9
    · rcases Nat.lt_or_ge (j + 1) p with y | y
      · exact (H (j + 1) y).1 z (Or.inr h9)
      · rw [show p - 1 = j by omega] at h1
        exact h1 h9
section
variable {pl ru nm : Int32} {b ng fo ln so sr sl sk db en nl lt ss la ca : Nat → Int32}
variable {p : Nat}
theorem ig_pbL {post : Int32 → Prop} {i : Nat} (hp : p ≤ 10) (hi : i < p) (H1 : ig_le b i → post 1) (H0 : ¬ ig_le b i → post 0) : wpX_partBorder post (nI p, ru, nm, b, ng, fo, ln, so, sr, sl, sk, db, en, nl, lt, ss, la, ca) (nI i - 1) := by
  rcases Nat.eq_zero_or_pos i with z | z
  · subst z
    exact br_t (by decide) (H1 (Or.inl rfl))
  · have e : nI i - 1 = nI (i - 1) := pk_sub (a := i) (b := 1) (by omega)
    have c : (nI (i - 1)).toNatClampNeg = i - 1 := nI_clamp (by omega)
    rw [e]
    refine br_f (nI_pos (by omega)) (br_f (nI_ge (by omega) (by omega)) (And.intro (vp_in_nI (by omega) (by decide)) ?_))
    rw [c]
    refine br_c (fun h => H1 (Or.inr h)) (fun h => H0 ?_)
    rintro (y | y)
    · omega
    · exact h y
theorem ig_pbR {post : Int32 → Prop} {i : Nat} (hp : p ≤ 10) (hi : i < p) (H1 : ig_ri b p i → post 1) (H0 : ¬ ig_ri b p i → post 0) : wpX_partBorder post (nI p, ru, nm, b, ng, fo, ln, so, sr, sl, sk, db, en, nl, lt, ss, la, ca) (nI i + 1) := by
  have c : (nI (i + 1)).toNatClampNeg = i + 1 := nI_clamp (by omega)
  rw [nI_1]
  refine br_f (nI_pos (by omega)) ?_
  rcases Nat.lt_or_ge (i + 1) p with z | z
  · refine br_f (nI_ge z (by omega)) (And.intro (vp_in_nI (by omega) (by decide)) ?_)
    rw [c]
    refine br_c (fun h => H1 (Or.inr h)) (fun h => H0 ?_)
    rintro (y | y)
    · omega
    · exact h y
  · exact br_t (nI_le z (by omega)) (H1 (Or.inl (by omega)))
theorem ig_g11 {post : Int32 → Prop} (h0 : 0 < p) (hp : p ≤ 10) (HP1 : ig_Good b p → post 1) (HP0 : ¬ ig_Good b p → post 0) :
    ∀ d i, i + d = p → ∀ n, d < n → (∀ j, j < i → ig_gX b p j) → wX_goodPattern_11 post (nI p) ru nm b ng fo ln so sr sl sk db en nl lt ss la ca n (nI i) := by
  intro d
  induction d with
  | zero =>
    intro i hi n hn h1
    obtain ⟨n, rfl⟩ : ∃ c, n = c + 1 := ⟨n - 1, by omega⟩
    have e : i = p := by omega
    subst e
    exact br_t (nI_le (Nat.le_refl _) (by omega)) (HP1 ((ig_goodX h0).mpr h1))
  | succ d ih =>
    intro i hi n hn h1
    obtain ⟨n, rfl⟩ : ∃ c, n = c + 1 := ⟨n - 1, by omega⟩
    have ei : (nI i).toNatClampNeg = i := nI_clamp (by omega)
    have bad : ¬ ig_gX b p i → post 0 := fun z => HP0 (fun G => z ((ig_goodX h0).mp G i (by omega)))
    have go : ig_gX b p i → wX_goodPattern_11 post (nI p) ru nm b ng fo ln so sr sl sk db en nl lt ss la ca n (nI (i + 1)) := fun z => ih (i + 1) (by omega) n (by omega) (lt_s h1 z)
    have K : ∀ x2 x3 : Int32, (x2 = 0 ↔ ¬ ig_le b i) → (x3 = 0 ↔ ¬ ig_ri b p i) → (b i = 9 → ¬ ig_le b i ∧ ¬ ig_ri b p i) → wX_goodPattern_56 post (wX_goodPattern_11 post (nI p) ru nm b ng fo ln so sr sl sk db en nl lt ss la ca n) (nI i) x2 x3 (nI p) ru nm b ng fo ln so sr sl sk db en nl lt ss la ca := by
      intro x2 x3 e2 e3 g9
      refine And.intro (vp_in_nI (by omega) (by decide)) ?_
      rw [ei]
      refine br_c (fun h10 => br_c (fun z2 => bad (fun g => e2.mp z2 (g.2 h10).1)) (fun z2 => br_c (fun z3 => bad (fun g => e3.mp z3 (g.2 h10).2)) (fun z3 => nm_r (nI_1 i) (go ⟨g9, fun _ => ?_⟩)))) (fun h10 => nm_r (nI_1 i) (go ⟨g9, fun z => absurd z h10⟩))
      exact ⟨Classical.not_not.mp (fun z => z2 (e2.mpr z)), Classical.not_not.mp (fun z => z3 (e3.mpr z))⟩
    have K2 : ∀ x2 x3 : Int32, (x2 = 0 ↔ ¬ ig_le b i) → (x3 = 0 ↔ ¬ ig_ri b p i) → vp_in (nI i) 10 ∧ ((((b (nI i).toNatClampNeg) = 9 → (((x2 = 0 → (((x3 = 0 → (wX_goodPattern_56 post (wX_goodPattern_11 post (nI p) ru nm b ng fo ln so sr sl sk db en nl lt ss la ca n) (nI i) x2 x3 (nI p) ru nm b ng fo ln so sr sl sk db en nl lt ss la ca)) ∧ (¬ x3 = 0 → (post 0))))) ∧ (¬ x2 = 0 → (post 0))))) ∧ (¬ (b (nI i).toNatClampNeg) = 9 → (wX_goodPattern_56 post (wX_goodPattern_11 post (nI p) ru nm b ng fo ln so sr sl sk db en nl lt ss la ca n) (nI i) x2 x3 (nI p) ru nm b ng fo ln so sr sl sk db en nl lt ss la ca)))) := by
      intro x2 x3 e2 e3
      refine And.intro (vp_in_nI (by omega) (by decide)) ?_
      rw [ei]
      refine br_c (fun h9 => br_c (fun z2 => br_c (fun z3 => K x2 x3 e2 e3 (fun _ => ⟨e2.mp z2, e3.mp z3⟩)) (fun z3 => bad (fun g => z3 (e3.mpr (g.1 h9).2)))) (fun z2 => bad (fun g => z2 (e2.mpr (g.1 h9).1)))) (fun h9 => K x2 x3 e2 e3 (fun z => absurd z h9))
    refine br_f (nI_ge (by omega) (by omega)) ?_
    refine ig_pbL hp (by omega) (fun hl => ?_) (fun hl => ?_)
    · refine ig_pbR hp (by omega) (fun hr => ?_) (fun hr => ?_)
      · exact K2 1 1 ⟨fun z => absurd z (by decide), fun z => absurd hl z⟩ ⟨fun z => absurd z (by decide), fun z => absurd hr z⟩
      · exact K2 1 0 ⟨fun z => absurd z (by decide), fun z => absurd hl z⟩ ⟨fun _ => hr, fun _ => rfl⟩
    · refine ig_pbR hp (by omega) (fun hr => ?_) (fun hr => ?_)
      · exact K2 0 1 ⟨fun _ => hl, fun _ => rfl⟩ ⟨fun z => absurd z (by decide), fun z => absurd hr z⟩
      · exact K2 0 0 ⟨fun _ => hl, fun _ => rfl⟩ ⟨fun _ => hr, fun _ => rfl⟩
theorem ig_xgood {post : Int32 → Prop} (hp : p ≤ 10) (HP1 : ig_Good b p → post 1) (HP0 : ¬ ig_Good b p → post 0) : wpX_goodPattern post (nI p, ru, nm, b, ng, fo, ln, so, sr, sl, sk, db, en, nl, lt, ss, la, ca) := by
  rcases Nat.eq_zero_or_pos p with z | z
  · subst z
    exact br_t rfl (HP0 (fun G => absurd G.1 (by omega)))
  · exact br_f (nI_ne0 z (by omega)) (Exists.intro (p + 1) (ig_g11 z hp HP1 HP0 p 0 (by omega) (p + 1) (by omega) (fun j hj => absurd hj (by omega))))
end
section
variable {bu rc ny pa : Int32} {b sg sc mk lt nl pf pt rf lf : Nat → Int32}
variable {p : Nat}
theorem ig_y38 {post : Int32 → Prop} (h0 : 0 < p) (hp : p ≤ 10) (hb0 : ¬ b 0 = 9) (hb1 : ¬ b (p - 1) = 9) (HP1 : ig_Good b p → post 1) (HP0 : ¬ ig_Good b p → post 0) :
    ∀ d i, i + d = p → ∀ n, d < n → (∀ j, j < i → ig_gY b p j) → wY_good_38 post (nI p) rc ny pa b sg sc mk lt nl pf pt rf lf n (nI i) := by
  intro d
  induction d with
  | zero =>
    intro i hi n hn h1
    obtain ⟨n, rfl⟩ : ∃ c, n = c + 1 := ⟨n - 1, by omega⟩
    have e : i = p := by omega
    subst e
    exact br_t (nI_le (Nat.le_refl _) (by omega)) (HP1 ((ig_goodY h0).mpr ⟨hb0, hb1, h1⟩))
  | succ d ih =>
    intro i hi n hn h1
    obtain ⟨n, rfl⟩ : ∃ c, n = c + 1 := ⟨n - 1, by omega⟩
    have ei : (nI i).toNatClampNeg = i := nI_clamp (by omega)
    have bad : ¬ ig_gY b p i → post 0 := fun z => HP0 (fun G => z (((ig_goodY h0).mp G).2.2 i (by omega)))
    have go : ig_gY b p i → wY_good_38 post (nI p) rc ny pa b sg sc mk lt nl pf pt rf lf n (nI (i + 1)) := fun z => ih (i + 1) (by omega) n (by omega) (lt_s h1 z)
    have K : ∀ x2 x3 : Int32, (x2 = 0 ↔ ¬ ig_le b i) → (x3 = 0 ↔ ¬ ig_ri b p i) → (b i = 9 → ¬ ig_le b i) → wY_good_115 post (wY_good_38 post (nI p) rc ny pa b sg sc mk lt nl pf pt rf lf n) (nI i) x2 x3 (nI p) rc ny pa b sg sc mk lt nl pf pt rf lf := by
      intro x2 x3 e2 e3 g9
      refine And.intro (vp_in_nI (by omega) (by decide)) ?_
      rw [ei]
      refine br_c (fun h10 => br_c (fun z2 => bad (fun g => e2.mp z2 (g.2 h10).1)) (fun z2 => br_c (fun z3 => bad (fun g => e3.mp z3 (g.2 h10).2)) (fun z3 => nm_r (nI_1 i) (go ⟨g9, fun _ => ?_⟩)))) (fun h10 => nm_r (nI_1 i) (go ⟨g9, fun z => absurd z h10⟩))
      exact ⟨Classical.not_not.mp (fun z => z2 (e2.mpr z)), Classical.not_not.mp (fun z => z3 (e3.mpr z))⟩
    have K97 : ∀ x2 x3 : Int32, (x2 = 0 ↔ ¬ ig_le b i) → (x3 = 0 ↔ ¬ ig_ri b p i) → wY_good_97 post (wY_good_38 post (nI p) rc ny pa b sg sc mk lt nl pf pt rf lf n) (nI i) x2 x3 (nI p) rc ny pa b sg sc mk lt nl pf pt rf lf := by
      intro x2 x3 e2 e3
      refine And.intro (vp_in_nI (by omega) (by decide)) ?_
      rw [ei]
      exact br_c (fun h9 => br_c (fun z2 => K x2 x3 e2 e3 (fun _ => e2.mp z2)) (fun z2 => bad (fun g => z2 (e2.mpr (g.1 h9))))) (fun h9 => K x2 x3 e2 e3 (fun z => absurd z h9))
    have K68 : ∀ x2 : Int32, (x2 = 0 ↔ ¬ ig_le b i) → wY_good_68 post (wY_good_38 post (nI p) rc ny pa b sg sc mk lt nl pf pt rf lf n) (nI i) x2 (nI p) rc ny pa b sg sc mk lt nl pf pt rf lf := by
      intro x2 e2
      have e : nI p - 1 = nI (p - 1) := pk_sub (a := p) (b := 1) (by omega)
      have c1 : (nI (i + 1)).toNatClampNeg = i + 1 := nI_clamp (by omega)
      have Y1 : ig_ri b p i → wY_good_92 post (wY_good_38 post (nI p) rc ny pa b sg sc mk lt nl pf pt rf lf n) (nI i) x2 (nI p) rc ny pa b sg sc mk lt nl pf pt rf lf := fun hr => K97 x2 1 e2 ⟨fun z => absurd z (by decide), fun z => absurd hr z⟩
      unfold wY_good_68
      rw [e, nI_1, c1]
      refine br_c (fun h => Y1 (Or.inl ?_)) (fun h => And.intro ?_ (br_c (fun h2 => Y1 (Or.inr h2)) (fun h2 => K97 x2 0 e2 ⟨fun _ => ?_, fun _ => rfl⟩)))
      · rw [nI_eq (by omega) (by omega)] at h
        omega
      · rw [nI_eq (by omega) (by omega)] at h
        exact vp_in_nI (by omega) (by decide)
      · rw [nI_eq (by omega) (by omega)] at h
        rintro (y | y)
        · omega
        · exact h2 y
    refine br_f (nI_ge (by omega) (by omega)) ?_
    rcases Nat.eq_zero_or_pos i with z | z
    · exact br_t (by rw [z]; rfl) (K68 1 ⟨fun z => absurd z (by decide), fun y => absurd (Or.inl z) y⟩)
    · have e : nI i - 1 = nI (i - 1) := pk_sub (a := i) (b := 1) (by omega)
      have c : (nI (i - 1)).toNatClampNeg = i - 1 := nI_clamp (by omega)
      refine br_f (nI_ne0 z (by omega)) ?_
      rw [e, c]
      refine And.intro (vp_in_nI (by omega) (by decide)) (br_c (fun h => K68 1 ⟨fun z => absurd z (by decide), fun y => absurd (Or.inr h) y⟩) (fun h => K68 0 ⟨fun _ => ?_, fun _ => rfl⟩))
      rintro (y | y)
      · omega
      · exact h y
theorem ig_ygood {post : Int32 → Prop} (hp : p ≤ 10) (HP1 : ig_Good b p → post 1) (HP0 : ¬ ig_Good b p → post 0) : wpY_good post (nI p, rc, ny, pa, b, sg, sc, mk, lt, nl, pf, pt, rf, lf) := by
  rcases Nat.eq_zero_or_pos p with z | z
  · subst z
    exact br_t rfl (HP0 (fun G => absurd G.1 (by omega)))
  · have e : nI p - 1 = nI (p - 1) := pk_sub (a := p) (b := 1) (by omega)
    have c : (nI (p - 1)).toNatClampNeg = p - 1 := nI_clamp (by omega)
    refine br_f (nI_ne0 z (by omega)) (br_c (fun h => HP0 (fun G => ((ig_goodY z).mp G).1 h)) (fun h => ?_))
    rw [e, c]
    refine And.intro (vp_in_nI (by omega) (by decide)) (br_c (fun h1 => HP0 (fun G => ((ig_goodY z).mp G).2.1 h1)) (fun h1 => ?_))
    exact Exists.intro (p + 1) (ig_y38 z hp h h1 HP1 HP0 p 0 (by omega) (p + 1) (by omega) (fun j hj => absurd hj (by omega)))
end
end
section
/-! X: the sets of a new rule; Y: its signs; both rules agree -/
theorem ig_add {x : Int32} {i : Nat} {Q : Nat → Prop} (hx : ∀ j, bt x j = true ↔ j < i ∧ Q j) (hi : i < 32) (hQ : Q i) : ∀ j, bt (x ||| ((1 : Int32) <<< (nI i &&& 31))) j = true ↔ j < i + 1 ∧ Q j := by
  intro j
  rw [ig_bor, ig_bbit hi, hx]
  constructor
  · rintro (⟨h1, h2⟩ | h)
    · exact ⟨by omega, h2⟩
    · subst h
      exact ⟨by omega, hQ⟩
  · rintro ⟨h1, h2⟩
    by_cases e : j = i
    · exact Or.inr e
    · exact Or.inl ⟨by omega, h2⟩
theorem ig_noadd {x : Int32} {i : Nat} {Q : Nat → Prop} (hx : ∀ j, bt x j = true ↔ j < i ∧ Q j) (hQ : ¬ Q i) : ∀ j, bt x j = true ↔ j < i + 1 ∧ Q j := by
  intro j
  rw [hx]
  constructor
  · rintro ⟨h1, h2⟩
    exact ⟨by omega, h2⟩
  · rintro ⟨h1, h2⟩
    by_cases e : j = i
    · subst e
      exact absurd h2 hQ
    · exact ⟨by omega, h2⟩
/-- the sets of rule r after i of its m signs -/
def ig_P6 (s : Nat → Int32) (m i r : Nat) (so sr sl sk db : Nat → Int32) : Prop :=
  (∀ j, bt (sr r) j = true ↔ j < i ∧ s j = 7) ∧ (∀ j, bt (sl r) j = true ↔ j < i ∧ s j = 9) ∧
  (∀ j, bt (sk r) j = true ↔ j < i ∧ (j + 1 < m ∧ s j = 10)) ∧ (∀ j, bt (db r) j = true ↔ j < i ∧ s j = 10) ∧
  (∀ j, bt (so (r * 7)) j = true ↔ j < i ∧ s j = 8) ∧ (∀ c, 1 ≤ c → c < 7 → ∀ j, bt (so (r * 7 + c)) j = true ↔ j < i ∧ s j = nI c)
/-- all other rules' sets are as they were -/
def ig_Fr (r : Nat) (so sr sl sk db so' sr' sl' sk' db' : Nat → Int32) : Prop :=
  (∀ j, j ≠ r → sr' j = sr j ∧ sl' j = sl j ∧ sk' j = sk j ∧ db' j = db j) ∧ (∀ j, (j < r * 7 ∨ r * 7 + 7 ≤ j) → so' j = so j)
section
variable {pl ru nm : Int32} {b ng fo ln so sr sl sk db en nl lt ss la ca : Nat → Int32}
variable {r p : Nat}
theorem ig_m178 {post : SX → Prop} {J56 : Int32 → (Nat → Int32) → (Nat → Int32) → (Nat → Int32) → (Nat → Int32) → (Nat → Int32) → (Nat → Int32) → (Nat → Int32) → (Nat → Int32) → (Nat → Int32) → (Nat → Int32) → (Nat → Int32) → (Nat → Int32) → (Nat → Int32) → (Nat → Int32) → (Nat → Int32) → Prop} {i : Nat} {x4 x5 : Int32} (hr : r < 12) (hp : p ≤ 10) (hi : i < p)
    (H1 : x5 = 10 → i + 1 < p → J56 (nI (i + 1)) b ng fo ln so sr sl (upd sk r (sk r ||| x4)) db en nl lt ss la ca) (H2 : ¬ (x5 = 10 ∧ i + 1 < p) → J56 (nI (i + 1)) b ng fo ln so sr sl sk db en nl lt ss la ca) :
    wX_makeSets_178 post J56 (nI r) (nI p) (nI i) x4 x5 pl ru nm b ng fo ln so sr sl sk db en nl lt ss la ca := by
  have er : (nI r).toNatClampNeg = r := nI_clamp (by omega)
  refine br_c (fun h10 => ?_) (fun h10 => nm_r (nI_1 i) (H2 (fun z => h10 z.1)))
  rw [nI_1]
  refine br_c (fun h => nm_e (H2 (fun z => ?_))) (fun h => And.intro (vp_in_nI hr (by decide)) (And.intro (vp_in_nI hr (by decide)) (nm_r (e' := upd sk r (sk r ||| x4)) (by rw [er]) (nm_e (H1 h10 ?_)))))
  · rw [nI_leI (by omega) (by omega)] at h
    omega
  · rw [nI_leI (by omega) (by omega)] at h
    omega
theorem ig_m56 {post : SX → Prop} (so0 sr0 sl0 sk0 db0 : Nat → Int32) (hr : r < 12) (hp : p ≤ 10) (hb : ∀ i, i < p → ∃ c, 1 ≤ c ∧ c ≤ 10 ∧ b i = nI c)
    (HP : ∀ so' sr' sl' sk' db', ig_P6 b p p r so' sr' sl' sk' db' → ig_Fr r so0 sr0 sl0 sk0 db0 so' sr' sl' sk' db' → post (pl, ru, nm, b, ng, fo, ln, so', sr', sl', sk', db', en, nl, lt, ss, la, ca)) :
    ∀ d i, i + d = p → ∀ n, d < n → ∀ so sr sl sk db, ig_P6 b p i r so sr sl sk db → ig_Fr r so0 sr0 sl0 sk0 db0 so sr sl sk db → wX_makeSets_56 post (nI r) (nI p) pl ru nm n (nI i) b ng fo ln so sr sl sk db en nl lt ss la ca := by
  intro d
  induction d with
  | zero =>
    intro i hi n hn so sr sl sk db h1 h2
    obtain ⟨n, rfl⟩ : ∃ c, n = c + 1 := ⟨n - 1, by omega⟩
    have e : i = p := by omega
    subst e
    exact br_t (nI_le (Nat.le_refl _) (by omega)) (HP so sr sl sk db h1 h2)
  | succ d ih =>
    intro i hi n hn so sr sl sk db h1 h2
    obtain ⟨n, rfl⟩ : ∃ c, n = c + 1 := ⟨n - 1, by omega⟩
    have er : (nI r).toNatClampNeg = r := nI_clamp (by omega)
    have ei : (nI i).toNatClampNeg = i := nI_clamp (by omega)
    have e7 : nI r * 7 = nI (r * 7) := pk_mul r 7
    have c7 : (nI (r * 7)).toNatClampNeg = r * 7 := nI_clamp (by omega)
    obtain ⟨c, hc1, hc10, hc⟩ := hb i (by omega)
    obtain ⟨P1, P2, P3, P4, P5, P6⟩ := h1
    have ne : ∀ d : Nat, d < 100 → c ≠ d → ¬ b i = nI d := fun d hd h => ig_litne d hc (by omega) hd h
    refine br_f (nI_ge (by omega) (by omega)) (nm_e (And.intro (vp_in_nI (by omega) (by decide)) ?_))
    rw [ei]
    refine nm_e ?_
    have N : ∀ so sr sl sk db, ig_P6 b p (i + 1) r so sr sl sk db → ig_Fr r so0 sr0 sl0 sk0 db0 so sr sl sk db → wX_makeSets_56 post (nI r) (nI p) pl ru nm n (nI (i + 1)) b ng fo ln so sr sl sk db en nl lt ss la ca := fun so sr sl sk db => ih (i + 1) (by omega) n (by omega) so sr sl sk db
    refine br_c (fun hge => br_c (fun h7 => ?_) (fun h7 => br_c (fun h8 => ?_) (fun h8 => br_c (fun h9 => ?_) (fun h9 => ?_)))) (fun hlt => ?_)
    · -- a star
      refine And.intro (vp_in_nI hr (by decide)) (And.intro (vp_in_nI hr (by decide)) (nm_r (e' := upd sr r (sr r ||| ((1 : Int32) <<< (nI i &&& 31)))) (by rw [er]) ?_))
      have n8 : ¬ b i = 8 := fun z => absurd (h7.symm.trans z) (by decide)
      have n9 : ¬ b i = 9 := fun z => absurd (h7.symm.trans z) (by decide)
      have n10 : ¬ b i = 10 := fun z => absurd (h7.symm.trans z) (by decide)
      refine ig_m178 hr hp (by omega) (fun z => absurd z n10) (fun _ => N _ _ _ _ _ ⟨?_, ig_noadd P2 n9, ig_noadd P3 (fun z => n10 z.2), ig_noadd P4 n10, ig_noadd P5 n8, fun c2 a1 a2 => ig_noadd (P6 c2 a1 a2) ?_⟩ ⟨fun j hj => ?_, h2.2⟩)
      · rw [pk_us]
        exact ig_add P1 (by omega) h7
      · exact fun z => absurd ((nI_eq (a := 7) (by omega) (by omega)).mp (h7.symm.trans z)) (by omega)
      · rw [pk_un hj]
        exact h2.1 j hj
    · -- a question mark
      have n7 : ¬ b i = 7 := h7
      have n9 : ¬ b i = 9 := fun z => absurd (h8.symm.trans z) (by decide)
      have n10 : ¬ b i = 10 := fun z => absurd (h8.symm.trans z) (by decide)
      refine And.intro (by rw [e7]; exact vp_in_nI (by omega) (by decide)) (And.intro (by rw [e7]; exact vp_in_nI (by omega) (by decide)) (nm_r (e' := upd so (r * 7) (so (r * 7) ||| ((1 : Int32) <<< (nI i &&& 31)))) (by rw [e7, c7]) ?_))
      refine ig_m178 hr hp (by omega) (fun z => absurd z n10) (fun _ => N _ _ _ _ _ ⟨ig_noadd P1 n7, ig_noadd P2 n9, ig_noadd P3 (fun z => n10 z.2), ig_noadd P4 n10, ?_, fun c2 a1 a2 => ?_⟩ ⟨h2.1, fun j hj => ?_⟩)
      · rw [pk_us]
        exact ig_add P5 (by omega) h8
      · rw [pk_un (by omega)]
        exact ig_noadd (P6 c2 a1 a2) (fun z => absurd ((nI_eq (a := 8) (by omega) (by omega)).mp (h8.symm.trans z)) (by omega))
      · rw [pk_un (by omega)]
        exact h2.2 j hj
    · -- a slash
      have n10 : ¬ b i = 10 := fun z => absurd (h9.symm.trans z) (by decide)
      refine And.intro (vp_in_nI hr (by decide)) (And.intro (vp_in_nI hr (by decide)) (nm_r (e' := upd sl r (sl r ||| ((1 : Int32) <<< (nI i &&& 31)))) (by rw [er]) ?_))
      refine ig_m178 hr hp (by omega) (fun z => absurd z n10) (fun _ => N _ _ _ _ _ ⟨ig_noadd P1 h7, ?_, ig_noadd P3 (fun z => n10 z.2), ig_noadd P4 n10, ig_noadd P5 h8, fun c2 a1 a2 => ig_noadd (P6 c2 a1 a2) ?_⟩ ⟨fun j hj => ?_, h2.2⟩)
      · rw [pk_us]
        exact ig_add P2 (by omega) h9
      · exact fun z => absurd ((nI_eq (a := 9) (by omega) (by omega)).mp (h9.symm.trans z)) (by omega)
      · rw [pk_un hj]
        exact h2.1 j hj
    · -- a double star
      have c10 : c = 10 := by
        rcases Nat.lt_or_ge c 7 with z | z
        · rw [hc] at hge
          exact absurd hge (nI_ge (b := 7) z (by decide))
        · have a7 : c ≠ 7 := fun y => h7 (by rw [hc, y]; rfl)
          have a8 : c ≠ 8 := fun y => h8 (by rw [hc, y]; rfl)
          have a9 : c ≠ 9 := fun y => h9 (by rw [hc, y]; rfl)
          omega
      have h10 : b i = 10 := by rw [hc, c10]; rfl
      refine And.intro (vp_in_nI hr (by decide)) (And.intro (vp_in_nI hr (by decide)) (nm_r (e' := upd db r (db r ||| ((1 : Int32) <<< (nI i &&& 31)))) (by rw [er]) ?_))
      have Q4 : ∀ j, bt (upd db r (db r ||| ((1 : Int32) <<< (nI i &&& 31))) r) j = true ↔ j < i + 1 ∧ b j = 10 := by
        rw [pk_us]
        exact ig_add P4 (by omega) h10
      have Q6 : ∀ c, 1 ≤ c → c < 7 → ∀ j, bt (so (r * 7 + c)) j = true ↔ j < i + 1 ∧ b j = nI c := fun c2 a1 a2 => ig_noadd (P6 c2 a1 a2) (fun z => absurd ((nI_eq (a := 10) (by omega) (by omega)).mp (h10.symm.trans z)) (by omega))
      refine ig_m178 hr hp (by omega) (fun _ hlt => N _ _ _ _ _ ⟨ig_noadd P1 h7, ig_noadd P2 h9, ?_, Q4, ig_noadd P5 h8, Q6⟩ ⟨fun j hj => ?_, h2.2⟩) (fun hno => N _ _ _ _ _ ⟨ig_noadd P1 h7, ig_noadd P2 h9, ig_noadd P3 (fun z => hno ⟨h10, z.1⟩), Q4, ig_noadd P5 h8, Q6⟩ ⟨fun j hj => ?_, h2.2⟩)
      · rw [pk_us]
        exact ig_add (Q := fun j => j + 1 < p ∧ b j = 10) P3 (by omega) ⟨hlt, h10⟩
      · rw [pk_un hj, pk_un hj]
        exact h2.1 j hj
      · rw [pk_un hj]
        exact h2.1 j hj
    · -- a letter
      have hc7 : c < 7 := by
        rcases Nat.lt_or_ge c 7 with z | z
        · exact z
        · rw [hc] at hlt
          exact absurd (nI_le (a := 7) z (by omega)) hlt
      have e7c : nI r * 7 + b i = nI (r * 7 + c) := by rw [e7, hc, nI_add]
      have c7c : (nI (r * 7 + c)).toNatClampNeg = r * 7 + c := nI_clamp (by omega)
      have n7 : ¬ b i = 7 := ne 7 (by omega) (by omega)
      have n8 : ¬ b i = 8 := ne 8 (by omega) (by omega)
      have n9 : ¬ b i = 9 := ne 9 (by omega) (by omega)
      have n10 : ¬ b i = 10 := ne 10 (by omega) (by omega)
      refine And.intro (by rw [e7c]; exact vp_in_nI (by omega) (by decide)) (And.intro (by rw [e7c]; exact vp_in_nI (by omega) (by decide)) (nm_r (e' := upd so (r * 7 + c) (so (r * 7 + c) ||| ((1 : Int32) <<< (nI i &&& 31)))) (by rw [e7c, c7c]) ?_))
      refine ig_m178 hr hp (by omega) (fun z => absurd z n10) (fun _ => N _ _ _ _ _ ⟨ig_noadd P1 n7, ig_noadd P2 n9, ig_noadd P3 (fun z => n10 z.2), ig_noadd P4 n10, ?_, fun c2 a1 a2 => ?_⟩ ⟨h2.1, fun j hj => ?_⟩)
      · rw [pk_un (by omega)]
        exact ig_noadd P5 n8
      · by_cases e : c2 = c
        · subst e
          rw [pk_us]
          exact ig_add (P6 c2 a1 a2) (by omega) hc
        · rw [pk_un (by omega)]
          exact ig_noadd (P6 c2 a1 a2) (ne c2 (by omega) (fun z => e z.symm))
      · rw [pk_un (by omega)]
        exact h2.2 j hj
theorem ig_m2 {post : SX → Prop} (so0 : Nat → Int32) (hr : r < 12) (hp : p ≤ 10) (hb : ∀ i, i < p → ∃ c, 1 ≤ c ∧ c ≤ 10 ∧ b i = nI c)
    (HP : ∀ so' sr' sl' sk' db', ig_P6 b p p r so' sr' sl' sk' db' → ig_Fr r so0 sr sl sk db so' sr' sl' sk' db' → post (pl, ru, nm, b, ng, fo, ln, so', sr', sl', sk', db', en, nl, lt, ss, la, ca)) :
    ∀ d c, c + d = 7 → ∀ n, d < n → ∀ so, (∀ j, j < c → so (r * 7 + j) = 0) → (∀ j, (j < r * 7 ∨ r * 7 + 7 ≤ j) → so j = so0 j) → wX_makeSets_2 post (nI r) (nI p) pl ru nm n (nI c) b ng fo ln so sr sl sk db en nl lt ss la ca := by
  have er : (nI r).toNatClampNeg = r := nI_clamp (by omega)
  intro d
  induction d with
  | zero =>
    intro c hc n hn so h1 h2
    obtain ⟨n, rfl⟩ : ∃ c, n = c + 1 := ⟨n - 1, by omega⟩
    have e : c = 7 := by omega
    subst e
    refine br_t (nI_le (Nat.le_refl 7) (by decide)) ?_
    refine And.intro (vp_in_nI hr (by decide)) (nm_r (e' := upd sr r 0) (by rw [er]) ?_)
    refine And.intro (vp_in_nI hr (by decide)) (nm_r (e' := upd sl r 0) (by rw [er]) ?_)
    refine And.intro (vp_in_nI hr (by decide)) (nm_r (e' := upd sk r 0) (by rw [er]) ?_)
    refine And.intro (vp_in_nI hr (by decide)) (nm_r (e' := upd db r 0) (by rw [er]) ?_)
    have Z : ∀ (x : Int32) (Q : Nat → Prop), x = 0 → ∀ j, bt x j = true ↔ j < 0 ∧ Q j := by
      intro x Q hx j
      rw [hx, b_0]
      constructor
      · intro z
        exact absurd z (by decide)
      · rintro ⟨z, _⟩
        omega
    refine Exists.intro (p + 1) (ig_m56 so0 sr sl sk db hr hp hb HP p 0 (by omega) (p + 1) (by omega) so _ _ _ _ ⟨Z _ _ pk_us, Z _ _ pk_us, Z _ _ pk_us, Z _ _ pk_us, Z _ _ (h1 0 (by omega)), fun c2 a1 a2 => Z _ _ (h1 c2 a2)⟩ ⟨fun j hj => ?_, h2⟩)
    rw [pk_un hj, pk_un hj, pk_un hj, pk_un hj]
    exact ⟨rfl, rfl, rfl, rfl⟩
  | succ d ih =>
    intro c hc n hn so h1 h2
    obtain ⟨n, rfl⟩ : ∃ c, n = c + 1 := ⟨n - 1, by omega⟩
    have e7 : nI r * 7 + nI c = nI (r * 7 + c) := by rw [show nI r * 7 = nI (r * 7) from pk_mul r 7, nI_add]
    have c7 : (nI (r * 7 + c)).toNatClampNeg = r * 7 + c := nI_clamp (by omega)
    refine br_f (nI_ge (b := 7) (by omega) (by decide)) (And.intro (by rw [e7]; exact vp_in_nI (by omega) (by decide)) (nm_r (e' := upd so (r * 7 + c) 0) (by rw [e7, c7]) (nm_r (nI_1 c) (ih (c + 1) (by omega) n (by omega) _ ?_ ?_))))
    · intro j hj
      by_cases e : j = c
      · subst e
        rw [pk_us]
      · rw [pk_un (by omega)]
        exact h1 j (by omega)
    · intro j hj
      rw [pk_un (by omega)]
      exact h2 j hj
theorem ig_xsets {post : SX → Prop} (hr : r < 12) (hp : p ≤ 10) (hb : ∀ i, i < p → ∃ c, 1 ≤ c ∧ c ≤ 10 ∧ b i = nI c)
    (HP : ∀ so' sr' sl' sk' db', ig_P6 b p p r so' sr' sl' sk' db' → ig_Fr r so sr sl sk db so' sr' sl' sk' db' → post (pl, ru, nm, b, ng, fo, ln, so', sr', sl', sk', db', en, nl, lt, ss, la, ca)) : wpX_makeSets post (pl, ru, nm, b, ng, fo, ln, so, sr, sl, sk, db, en, nl, lt, ss, la, ca) (nI r) (nI p) :=
  Exists.intro 8 (ig_m2 so hr hp hb HP 7 0 rfl 8 (by omega) so (fun j hj => absurd hj (by omega)) (fun _ _ => rfl))
/-! ends -/
def ig_En (s : Nat → Int32) (m j : Nat) : Prop := j ≤ m ∧ ∀ i, j ≤ i → i < m → s i = 9 ∨ s i = 10
theorem ig_e12 {post : SX → Prop} (hr : r < 12) (hp : p ≤ 10) (HP : ∀ x, (∀ j, bt x j = true ↔ ig_En b p j) → post (pl, ru, nm, b, ng, fo, ln, so, sr, sl, sk, db, upd en r x, nl, lt, ss, la, ca)) :
    ∀ d, d ≤ p → ∀ n, d < n → ∀ x3 x4, ((x4 = 1 ∧ (∀ j, bt x3 j = true ↔ d ≤ j ∧ j ≤ p) ∧ (∀ i, d ≤ i → i < p → b i = 9 ∨ b i = 10)) ∨ (x4 = 0 ∧ ∀ j, bt x3 j = true ↔ ig_En b p j)) → wX_makeEnds_12 post (nI r) pl ru nm b ng fo ln so sr sl sk db en nl lt ss la ca n x3 x4 (nI d + (-1)) := by
  have er : (nI r).toNatClampNeg = r := nI_clamp (by omega)
  have fin : ∀ x3 : Int32, (∀ j, bt x3 j = true ↔ ig_En b p j) → vp_in (nI r) 12 ∧ ∀ e : Nat → Int32, e = upd en (nI r).toNatClampNeg x3 → post (pl, ru, nm, b, ng, fo, ln, so, sr, sl, sk, db, e, nl, lt, ss, la, ca) := by
    intro x3 h
    exact And.intro (vp_in_nI hr (by decide)) (nm_r (e' := upd en r x3) (by rw [er]) (HP x3 h))
  intro d
  induction d with
  | zero =>
    intro hd n hn x3 x4 h
    obtain ⟨n, rfl⟩ : ∃ c, n = c + 1 := ⟨n - 1, by omega⟩
    refine br_t (by decide) (fin x3 ?_)
    rcases h with ⟨_, h1, h2⟩ | ⟨_, h1⟩
    · intro j
      rw [h1]
      exact ⟨fun z => ⟨z.2, fun i _ hi => h2 i (Nat.zero_le _) hi⟩, fun z => ⟨Nat.zero_le _, z.1⟩⟩
    · exact h1
  | succ d ih =>
    intro hd n hn x3 x4 h
    obtain ⟨n, rfl⟩ : ∃ c, n = c + 1 := ⟨n - 1, by omega⟩
    have ed : (nI d).toNatClampNeg = d := nI_clamp (by omega)
    rw [pk_m1]
    refine br_f (nI_pos (by omega)) ?_
    rcases h with ⟨e4, h1, h2⟩ | ⟨e4, h1⟩
    · refine br_f (by rw [e4]; decide) (And.intro (vp_in_nI (by omega) (by decide)) ?_)
      rw [ed]
      have opn : (b d = 9 ∨ b d = 10) → wX_makeEnds_51 post (wX_makeEnds_12 post (nI r) pl ru nm b ng fo ln so sr sl sk db en nl lt ss la ca n) (nI r) x3 (nI d) 1 pl ru nm b ng fo ln so sr sl sk db en nl lt ss la ca := by
        intro hbd
        refine br_f (by decide) (nm_e (nm_e (ih (by omega) n (by omega) _ _ (Or.inl ⟨rfl, fun j => ?_, fun i hi hip => ?_⟩))))
        · rw [ig_bor, ig_bbit (by omega), h1]
          omega
        · by_cases e : i = d
          · subst e
            exact hbd
          · exact h2 i (by omega) hip
      refine br_c (fun h10 => opn (Or.inr h10)) (fun h10 => And.intro (vp_in_nI (by omega) (by decide)) (br_c (fun h9 => opn (Or.inl h9)) (fun h9 => ?_)))
      refine br_t rfl (nm_e (ih (by omega) n (by omega) _ _ (Or.inr ⟨rfl, fun j => ?_⟩)))
      rw [h1]
      constructor
      · intro z
        exact ⟨z.2, fun i hi hip => h2 i (by omega) hip⟩
      · intro z
        refine ⟨?_, z.1⟩
        rcases Nat.lt_or_ge d j with y | y
        · exact y
        · rcases z.2 d y (by omega) with q | q
          · exact absurd q h9
          · exact absurd q h10
    · exact br_t e4 (fin x3 h1)
theorem ig_xends {post : SX → Prop} (hr : r < 12) (h0 : 0 < p) (hp : p ≤ 10) (HP : ∀ x, (∀ j, bt x j = true ↔ ig_En b p j) → post (pl, ru, nm, b, ng, fo, ln, so, sr, sl, sk, db, upd en r x, nl, lt, ss, la, ca)) : wpX_makeEnds post (pl, ru, nm, b, ng, fo, ln, so, sr, sl, sk, db, en, nl, lt, ss, la, ca) (nI r) (nI p) := by
  have e : nI p - 1 = nI p + (-1) := by
    obtain ⟨q, rfl⟩ : ∃ q, p = q + 1 := ⟨p - 1, by omega⟩
    rw [pk_m1, nI_pred]
  refine nm_e (nm_r e (Exists.intro (p + 1) (ig_e12 hr hp HP p (Nat.le_refl _) (p + 1) (by omega) _ _ (Or.inl ⟨rfl, fun j => ?_, fun i hi hip => ?_⟩))))
  · rw [ig_bbit (by omega)]
    omega
  · omega
end
/-! a rule's facts under writes elsewhere -/
theorem ig_nx_ext {s s' : Nat → Int32} : ∀ d i, (∀ j, i ≤ j → j < i + d → s' j = s j) → ig_nx s' d i = ig_nx s d i := by
  intro d
  induction d with
  | zero => intro i _; rw [ig_nx, ig_nx]
  | succ d ih =>
    intro i h
    rw [ig_nx, ig_nx, h i (Nat.le_refl _) (by omega), ih (i + 1) (fun j h1 h2 => h j (by omega) (by omega))]
theorem ig_te_ext {s s' : Nat → Int32} {m : Nat} (h : ∀ j, j < m → s' j = s j) : ig_te s' m 0 = ig_te s m 0 := ig_nx_ext _ _ (fun j _ h2 => h j (by omega))
theorem ig_good_ext {s s' : Nat → Int32} {m : Nat} (h : ∀ j, j < m → s' j = s j) (G : ig_Good s m) : ig_Good s' m := by
  refine ⟨G.1, fun i hi h9 => ?_, fun i hi h10 => ?_⟩
  · rw [h i hi] at h9
    have g := G.2.1 i hi h9
    rw [h (i + 1) g.2.1]
    exact g
  · rw [h i hi] at h10
    have g := G.2.2 i hi h10
    refine ⟨?_, ?_⟩
    · rcases g.1 with z | z
      · exact Or.inl z
      · exact Or.inr ((h (i - 1) (by omega)).trans z)
    · rcases g.2 with z | z
      · exact Or.inl z
      · rcases Nat.lt_or_ge (i + 1) m with y | y
        · exact Or.inr ((h (i + 1) y).trans z)
        · exact Or.inl (by omega)
theorem ig_bit_ext {s s' : Nat → Int32} {m : Nat} {x c : Int32} (h : ∀ j, j < m → s' j = s j) (hx : ∀ i, bt x i = true ↔ i < m ∧ s i = c) : ∀ i, bt x i = true ↔ i < m ∧ s' i = c := by
  intro i
  rw [hx]
  constructor
  · rintro ⟨a, b⟩
    exact ⟨a, (h i a).trans b⟩
  · rintro ⟨a, b⟩
    exact ⟨a, (h i a).symm.trans b⟩
theorem ig_rx_ext {s s' : Nat → Int32} {m r : Nat} {so sr sl sk db en so' sr' sl' sk' db' en' : Nat → Int32} (h : ∀ j, j < m → s' j = s j)
    (hso : ∀ c, c < 7 → so' (r * 7 + c) = so (r * 7 + c)) (hsr : sr' r = sr r) (hsl : sl' r = sl r) (hsk : sk' r = sk r) (hdb : db' r = db r) (hen : en' r = en r)
    (R : ig_RX s m r so sr sl sk db en) : ig_RX s' m r so' sr' sl' sk' db' en' := by
  obtain ⟨R1, R2, R3, R4, R5, R6, R7⟩ := R
  unfold ig_RX
  rw [hsr, hsl, hsk, hdb, hen, show so' (r * 7) = so (r * 7) from hso 0 (by omega)]
  refine ⟨ig_bit_ext h R1, ig_bit_ext h R2, fun i => ?_, ig_bit_ext h R4, ig_bit_ext h R5, fun c h1 h2 => ?_, fun i => ?_⟩
  · rw [R3]
    constructor
    · rintro ⟨a, b⟩
      exact ⟨a, (h i (by omega)).trans b⟩
    · rintro ⟨a, b⟩
      exact ⟨a, (h i (by omega)).symm.trans b⟩
  · rw [hso c h2]
    exact ig_bit_ext h (R6 c h1 h2)
  · rw [R7]
    constructor
    · rintro ⟨a, b⟩
      refine ⟨a, fun j h1 h2 => ?_⟩
      rw [h j h2]
      exact b j h1 h2
    · rintro ⟨a, b⟩
      refine ⟨a, fun j h1 h2 => ?_⟩
      rw [← h j h2]
      exact b j h1 h2
theorem ig_rule_ext {sg sc mk ng fo ln so sr sl sk db en sg' sc' mk' ng' fo' ln' so' sr' sl' sk' db' en' : Nat → Int32} {m r : Nat}
    (hsg : ∀ j, j < 10 → sg' (r * 10 + j) = sg (r * 10 + j)) (hsc : sc' r = sc r) (hmk : mk' r = mk r) (hng : ng' r = ng r) (hfo : fo' r = fo r) (hln : ln' r = ln r)
    (hso : ∀ c, c < 7 → so' (r * 7 + c) = so (r * 7 + c)) (hsr : sr' r = sr r) (hsl : sl' r = sl r) (hsk : sk' r = sk r) (hdb : db' r = db r) (hen : en' r = en r)
    (R : ig_Rule sg sc mk ng fo ln so sr sl sk db en m r) : ig_Rule sg' sc' mk' ng' fo' ln' so' sr' sl' sk' db' en' m r := by
  obtain ⟨hm, h1, G, RX, h2, h3, h4⟩ := R
  have h : ∀ j, j < m → (fun i => sg' (r * 10 + i)) j = (fun i => sg (r * 10 + i)) j := fun j hj => hsg j (by omega)
  unfold ig_Rule
  rw [hsc, hmk, hng, hfo, hln, ig_te_ext h]
  exact ⟨hm, h1, ig_good_ext h G, ig_rx_ext h hso hsr hsl hsk hdb hen RX, h2, h3, h4⟩
/-! marks -/
theorem ig_bit4 (x : Int32) : x &&& 4 = 4 ↔ ¬ (x &&& 4 = 0) := by
  have e : ∀ i, i < 32 → bt 4 i = decide (i = 2) := by decide +kernel
  by_cases h : bt x 2 = true
  · have : x &&& 4 = 4 := by
      apply b_ext
      intro i hi
      rw [b_and, e i hi]
      by_cases z : i = 2
      · subst z
        rw [h]
        rfl
      · rw [decide_eq_false z, Bool.and_false]
    rw [this]
    decide
  · have : x &&& 4 = 0 := by
      apply b_ext
      intro i hi
      rw [b_and, e i hi, b_0]
      by_cases z : i = 2
      · subst z
        rw [Bool.eq_false_iff.mpr h, Bool.false_and]
      · rw [decide_eq_false z, Bool.and_false]
    rw [this]
    decide
theorem ig_bit1 (x : Int32) : x &&& 1 = 1 ↔ ¬ (x &&& 1 = 0) := by
  have e : ∀ i, i < 32 → bt 1 i = decide (i = 0) := by decide +kernel
  by_cases h : bt x 0 = true
  · have : x &&& 1 = 1 := by
      apply b_ext
      intro i hi
      rw [b_and, e i hi]
      by_cases z : i = 0
      · subst z
        rw [h]
        rfl
      · rw [decide_eq_false z, Bool.and_false]
    rw [this]
    decide
  · have : x &&& 1 = 0 := by
      apply b_ext
      intro i hi
      rw [b_and, e i hi, b_0]
      by_cases z : i = 0
      · subst z
        rw [Bool.eq_false_iff.mpr h, Bool.false_and]
      · rw [decide_eq_false z, Bool.and_false]
    rw [this]
    decide
theorem ig_m7 (x y : Int32) (h : (7 : Int32) &&& y = y) : (x &&& 7) &&& y = x &&& y := by rw [Int32.and_assoc, h]
theorem ig_noslash {s : Nat → Int32} {m : Nat} : ig_te s m 0 = m ↔ ∀ j, j < m → ¬ s j = 9 := by
  constructor
  · intro h j hj
    exact ig_te_no (m := m) (i := 0) (Nat.zero_le j) (by omega)
  · intro h
    rcases ig_te_at (s := s) (Nat.zero_le m) with z | z
    · exact z
    · rcases Nat.lt_or_ge (ig_te s m 0) m with y | y
      · exact absurd z (h _ y)
      · have := ig_te_le (s := s) (Nat.zero_le m)
        omega
end
section
/-! the methods that change rules and path, on each side -/
theorem ig_n0 : vp_nar .boolean 0 = 0 := rfl
theorem ig_n1 : vp_nar .boolean 1 = 1 := rfl
section
variable {pl ru nm : Int32} {b ng fo ln so sr sl sk db en nl lt ss la ca : Nat → Int32}
variable {R p N : Nat} {L : Nat → Nat} {x1 : Int32}
/-- what a new rule writes at X -/
def ig_New (b so sr sl sk db : Nat → Int32) (R p : Nat) (x1 vn vf vl x : Int32) (so' sr' sl' sk' db' : Nat → Int32) : Prop :=
  ig_P6 b p p R so' sr' sl' sk' db' ∧ ig_Fr R so sr sl sk db so' sr' sl' sk' db' ∧ (∀ j, bt x j = true ↔ ig_En b p j) ∧ (vn = 0 ↔ x1 &&& 1 = 0) ∧ (vf = 0 ↔ x1 &&& 4 = 0) ∧ (vl = 0 ↔ ¬ (sl' R = 0 ∧ x1 &&& 2 = 0))
theorem ig_r119 {post : Int32 → SX → Prop} {x4 z0 : Int32} (hR : R < 12) (hz : vp_nar .boolean z0 = z0) (H : post x4 (pl, nI (R + 1), nm, b, ng, fo, upd ln R z0, so, sr, sl, sk, db, en, nl, lt, ss, la, ca)) : wX_rule_119 post x4 z0 (nI R) pl (nI R) nm b ng fo ln so sr sl sk db en nl lt ss la ca := by
  have er : (nI R).toNatClampNeg = R := nI_clamp (by omega)
  exact And.intro (vp_in_nI hR (by decide)) (nm_r (e' := upd ln R z0) (by rw [er, hz]) (nm_r (nI_1 R) H))
theorem ig_r77 {post : Int32 → SX → Prop} {z0 : Int32} (hR : R < 12) (h0 : 0 < p) (hp : p ≤ 10) (hb : ∀ i, i < p → ∃ c, 1 ≤ c ∧ c ≤ 10 ∧ b i = nI c) (hz : vp_nar .boolean z0 = z0)
    (H : ∀ so' sr' sl' sk' db' x vl, ig_P6 b p p R so' sr' sl' sk' db' → ig_Fr R so sr sl sk db so' sr' sl' sk' db' → (∀ j, bt x j = true ↔ ig_En b p j) → (vl = 0 ↔ ¬ (sl' R = 0 ∧ x1 &&& 2 = 0)) →
      post (nI R) (pl, nI (R + 1), nm, b, ng, upd fo R z0, upd ln R vl, so', sr', sl', sk', db', upd en R x, nl, lt, ss, la, ca)) :
    wX_rule_77 post x1 (nI p) (nI R) z0 (nI R) pl (nI R) nm b ng fo ln so sr sl sk db en nl lt ss la ca := by
  have er : (nI R).toNatClampNeg = R := nI_clamp (by omega)
  refine And.intro (vp_in_nI hR (by decide)) (nm_r (e' := upd fo R z0) (by rw [er, hz]) ?_)
  refine ig_xsets hR hp hb (fun so' sr' sl' sk' db' h1 h2 => ?_)
  refine ig_xends hR h0 hp (fun x hx => ?_)
  refine And.intro (vp_in_nI hR (by decide)) ?_
  rw [er]
  refine br_c (fun hs => br_c (fun h2' => ?_) (fun h2' => ?_)) (fun hs => ?_)
  · exact ig_r119 hR ig_n1 (H so' sr' sl' sk' db' x 1 h1 h2 hx ⟨fun z => absurd z (by decide), fun z => absurd ⟨hs, h2'⟩ z⟩)
  · exact ig_r119 hR ig_n0 (H so' sr' sl' sk' db' x 0 h1 h2 hx ⟨fun _ z => h2' z.2, fun _ => rfl⟩)
  · exact ig_r119 hR ig_n0 (H so' sr' sl' sk' db' x 0 h1 h2 hx ⟨fun _ z => hs z.1, fun _ => rfl⟩)
theorem ig_r58 {post : Int32 → SX → Prop} {z0 : Int32} (hR : R < 12) (h0 : 0 < p) (hp : p ≤ 10) (hb : ∀ i, i < p → ∃ c, 1 ≤ c ∧ c ≤ 10 ∧ b i = nI c) (hz : vp_nar .boolean z0 = z0)
    (H : ∀ so' sr' sl' sk' db' x vf vl, ig_P6 b p p R so' sr' sl' sk' db' → ig_Fr R so sr sl sk db so' sr' sl' sk' db' → (∀ j, bt x j = true ↔ ig_En b p j) → (vf = 0 ↔ x1 &&& 4 = 0) → (vl = 0 ↔ ¬ (sl' R = 0 ∧ x1 &&& 2 = 0)) →
      post (nI R) (pl, nI (R + 1), nm, b, upd ng R z0, upd fo R vf, upd ln R vl, so', sr', sl', sk', db', upd en R x, nl, lt, ss, la, ca)) :
    wX_rule_58 post x1 (nI p) (nI R) z0 (nI R) pl (nI R) nm b ng fo ln so sr sl sk db en nl lt ss la ca := by
  have er : (nI R).toNatClampNeg = R := nI_clamp (by omega)
  refine And.intro (vp_in_nI hR (by decide)) (nm_r (e' := upd ng R z0) (by rw [er, hz]) ?_)
  refine br_c (fun h4 => ?_) (fun h4 => ?_)
  · exact ig_r77 hR h0 hp hb ig_n1 (fun so' sr' sl' sk' db' x vl h1 h2 h3 h5 => H so' sr' sl' sk' db' x 1 vl h1 h2 h3 ⟨fun z => absurd z (by decide), fun z => absurd z ((ig_bit4 x1).mp h4)⟩ h5)
  · exact ig_r77 hR h0 hp hb ig_n0 (fun so' sr' sl' sk' db' x vl h1 h2 h3 h5 => H so' sr' sl' sk' db' x 0 vl h1 h2 h3 ⟨fun _ => Classical.not_not.mp (fun z => h4 ((ig_bit4 x1).mpr z)), fun _ => rfl⟩ h5)
theorem ig_xrule {post : Int32 → SX → Prop} (hR : R ≤ 12) (hp : p ≤ 10) (hb : ∀ i, i < p → ∃ c, 1 ≤ c ∧ c ≤ 10 ∧ b i = nI c)
    (H3 : ¬ ig_Good b p → post (-3) (0, nI R, nm, b, ng, fo, ln, so, sr, sl, sk, db, en, nl, lt, ss, la, ca)) (H2 : ig_Good b p → R = 12 → post (-2) (0, nI R, nm, b, ng, fo, ln, so, sr, sl, sk, db, en, nl, lt, ss, la, ca))
    (H1 : ig_Good b p → R < 12 → ∀ so' sr' sl' sk' db' x vn vf vl, ig_New b so sr sl sk db R p x1 vn vf vl x so' sr' sl' sk' db' →
      post (nI R) (0, nI (R + 1), nm, b, upd ng R vn, upd fo R vf, upd ln R vl, so', sr', sl', sk', db', upd en R x, nl, lt, ss, la, ca)) :
    wpX_rule post (nI p, nI R, nm, b, ng, fo, ln, so, sr, sl, sk, db, en, nl, lt, ss, la, ca) x1 := by
  unfold wpX_rule
  dsimp only
  refine ig_xgood hp (fun G => br_f (by decide) ?_) (fun G => br_t rfl (H3 G))
  rcases Nat.lt_or_ge R 12 with h | h
  · refine br_t (nI_lt (b := 12) h (by decide)) (br_c (fun h1 => ?_) (fun h1 => ?_))
    · exact ig_r58 h G.1 hp hb ig_n1 (fun so' sr' sl' sk' db' x vf vl q1 q2 q3 q4 q5 => H1 G h so' sr' sl' sk' db' x 1 vf vl ⟨q1, q2, q3, ⟨fun z => absurd z (by decide), fun z => absurd z ((ig_bit1 x1).mp h1)⟩, q4, q5⟩)
    · exact ig_r58 h G.1 hp hb ig_n0 (fun so' sr' sl' sk' db' x vf vl q1 q2 q3 q4 q5 => H1 G h so' sr' sl' sk' db' x 0 vf vl ⟨q1, q2, q3, ⟨fun _ => Classical.not_not.mp (fun z => h1 ((ig_bit1 x1).mpr z)), fun _ => rfl⟩, q4, q5⟩)
  · exact br_f (nI_nlt (b := 12) h (by omega)) (H2 G (by omega))
theorem ig_x19s {post : Int32 → SX → Prop} (P : ig_Path nl lt L N) (H0 : L (N - 1) = 0 ∨ N = 6 → post (-4) (pl, ru, nI N, b, ng, fo, ln, so, sr, sl, sk, db, en, nl, lt, ss, la, ca))
    (H1 : ¬ L (N - 1) = 0 → N < 6 → post (nI (N + 1)) (pl, ru, nI (N + 1), b, ng, fo, ln, so, sr, sl, sk, db, en, upd nl N 0, lt, ss, la, ca)) : wX_path_19 post 9 pl ru (nI N) b ng fo ln so sr sl sk db en nl lt ss la ca := by
  obtain ⟨hN1, hN, hnl, hL, _⟩ := P
  have hL1 := hL (N - 1)
  have eN : nI N - 1 = nI (N - 1) := pk_sub (a := N) (b := 1) (by omega)
  have cN : (nI (N - 1)).toNatClampNeg = N - 1 := nI_clamp (by omega)
  have cN2 : (nI N).toNatClampNeg = N := nI_clamp (by omega)
  refine nm_r eN (br_t rfl (And.intro (vp_in_nI (by omega) (by decide)) ?_))
  rw [cN, hnl (N - 1), cN2]
  rcases Nat.eq_zero_or_pos (L (N - 1)) with z | z
  · exact br_t (by rw [z]; rfl) (H0 (Or.inl z))
  · refine br_f (nI_ne0 z (by omega)) ?_
    rcases Nat.lt_or_ge N 6 with h | h
    · refine br_f (fun y => ?_) (And.intro (vp_in_nI h (by decide)) (nm_e (nm_r (nI_1 N) (H1 (by omega) h))))
      exact absurd ((nI_eq (b := 6) (by omega) (by omega)).mp y) (by omega)
    · have e : N = 6 := by omega
      exact br_t (by rw [e]; rfl) (H0 (Or.inr e))
theorem ig_x19l {post : Int32 → SX → Prop} (P : ig_Path nl lt L N) (h9 : ¬ x1 = 9) (H0 : L (N - 1) = 8 → post (-2) (pl, ru, nI N, b, ng, fo, ln, so, sr, sl, sk, db, en, nl, lt, ss, la, ca))
    (H1 : L (N - 1) < 8 → post (nI N) (pl, ru, nI N, b, ng, fo, ln, so, sr, sl, sk, db, en, upd nl (N - 1) (nI (L (N - 1) + 1)), upd lt ((N - 1) * 8 + L (N - 1)) x1, ss, la, ca)) : wX_path_19 post x1 pl ru (nI N) b ng fo ln so sr sl sk db en nl lt ss la ca := by
  obtain ⟨hN1, hN, hnl, hL, _⟩ := P
  have hL1 := hL (N - 1)
  have eN : nI N - 1 = nI (N - 1) := pk_sub (a := N) (b := 1) (by omega)
  have cN : (nI (N - 1)).toNatClampNeg = N - 1 := nI_clamp (by omega)
  have e8 : nI (N - 1) * 8 + nI (L (N - 1)) = nI ((N - 1) * 8 + L (N - 1)) := by rw [show nI (N - 1) * 8 = nI ((N - 1) * 8) from pk_mul (N - 1) 8, nI_add]
  have c8 : (nI ((N - 1) * 8 + L (N - 1))).toNatClampNeg = (N - 1) * 8 + L (N - 1) := nI_clamp (by omega)
  refine nm_r eN (br_f h9 (And.intro (vp_in_nI (by omega) (by decide)) ?_))
  rw [cN, hnl (N - 1), e8, c8]
  rcases Nat.lt_or_ge (L (N - 1)) 8 with h | h
  · refine br_t (nI_lt (b := 8) h (by decide)) (And.intro (vp_in_nI (by omega) (by decide)) (And.intro (vp_in_nI (by omega) (by decide)) (nm_e ?_)))
    exact And.intro (vp_in_nI (by omega) (by decide)) (And.intro (vp_in_nI (by omega) (by decide)) (nm_r (e' := upd nl (N - 1) (nI (L (N - 1) + 1))) (by rw [nI_1]) (H1 h)))
  · exact br_f (nI_nlt (b := 8) h (by omega)) (H0 (by omega))
end
section
variable {bu rc ny pa : Int32} {b sg sc mk lt nl pf pt rf lf : Nat → Int32}
variable {R p N : Nat} {L : Nat → Nat} {x1 : Int32}
theorem ig_y37 {post : Int32 → SY → Prop} (hR : R < 12) (hp : p ≤ 10) (sg0 : Nat → Int32)
    (H : ∀ sg', (∀ j, j < R * 10 → sg' j = sg0 j) → (∀ i, i < p → sg' (R * 10 + i) = b i) → post (nI R) (bu, nI (R + 1), ny, pa, b, sg', upd sc R (nI p), upd mk R (x1 &&& 7), lt, nl, pf, pt, rf, lf)) :
    ∀ d i, i + d = p → ∀ n, d < n → ∀ sg, (∀ j, j < R * 10 → sg j = sg0 j) → (∀ j, j < i → sg (R * 10 + j) = b j) → wY_rule_37 post x1 (nI p) bu (nI R) ny pa n (nI i) b sg sc mk lt nl pf pt rf lf := by
  have er : (nI R).toNatClampNeg = R := nI_clamp (by omega)
  intro d
  induction d with
  | zero =>
    intro i hi n hn sg h1 h2
    obtain ⟨n, rfl⟩ : ∃ c, n = c + 1 := ⟨n - 1, by omega⟩
    have e : i = p := by omega
    subst e
    refine br_t (nI_le (Nat.le_refl _) (by omega)) (And.intro (vp_in_nI hR (by decide)) (nm_r (e' := upd sc R (nI i)) (by rw [er]) ?_))
    refine And.intro (vp_in_nI hR (by decide)) (nm_r (e' := upd mk R (x1 &&& 7)) (by rw [er]) (nm_r (nI_1 R) ?_))
    rw [nI_pred]
    exact H sg h1 h2
  | succ d ih =>
    intro i hi n hn sg h1 h2
    obtain ⟨n, rfl⟩ : ∃ c, n = c + 1 := ⟨n - 1, by omega⟩
    have ei : (nI i).toNatClampNeg = i := nI_clamp (by omega)
    have e10 : nI R * 10 + nI i = nI (R * 10 + i) := by rw [show nI R * 10 = nI (R * 10) from pk_mul R 10, nI_add]
    have c10 : (nI (R * 10 + i)).toNatClampNeg = R * 10 + i := nI_clamp (by omega)
    refine br_f (nI_ge (by omega) (by omega)) (And.intro (vp_in_nI (by omega) (by decide)) (And.intro (by rw [e10]; exact vp_in_nI (by omega) (by decide)) ?_))
    refine nm_r (e' := upd sg (R * 10 + i) (b i)) (by rw [e10, c10, ei]) (nm_r (nI_1 i) (ih (i + 1) (by omega) n (by omega) _ ?_ ?_))
    · intro j hj
      rw [pk_un (by omega)]
      exact h1 j hj
    · intro j hj
      by_cases e : j = i
      · subst e
        rw [pk_us]
      · rw [pk_un (by omega)]
        exact h2 j (by omega)
theorem ig_yrule {post : Int32 → SY → Prop} (hR : R ≤ 12) (hp : p ≤ 10)
    (H3 : ¬ ig_Good b p → post (-3) (0, nI R, ny, pa, b, sg, sc, mk, lt, nl, pf, pt, rf, lf)) (H2 : ig_Good b p → R = 12 → post (-2) (0, nI R, ny, pa, b, sg, sc, mk, lt, nl, pf, pt, rf, lf))
    (H1 : ig_Good b p → R < 12 → ∀ sg', (∀ j, j < R * 10 → sg' j = sg j) → (∀ i, i < p → sg' (R * 10 + i) = b i) → post (nI R) (0, nI (R + 1), ny, pa, b, sg', upd sc R (nI p), upd mk R (x1 &&& 7), lt, nl, pf, pt, rf, lf)) :
    wpY_rule post (nI p, nI R, ny, pa, b, sg, sc, mk, lt, nl, pf, pt, rf, lf) x1 := by
  unfold wpY_rule
  dsimp only
  refine ig_ygood hp (fun G => br_f (by decide) ?_) (fun G => br_t rfl (H3 G))
  rcases Nat.lt_or_ge R 12 with h | h
  · refine br_f (fun z => ?_) (Exists.intro (p + 1) (ig_y37 h hp sg (H1 G h) p 0 (by omega) (p + 1) (by omega) sg (fun _ _ => rfl) (fun j hj => absurd hj (by omega))))
    exact absurd ((nI_eq (b := 12) (by omega) (by omega)).mp z) (by omega)
  · have e : R = 12 := by omega
    exact br_t (by rw [e]; rfl) (H2 G e)
theorem ig_y19s {post : Int32 → SY → Prop} (P : ig_Path nl lt L N) (H0 : L (N - 1) = 0 ∨ N = 6 → post (-4) (bu, rc, nI N, pa, b, sg, sc, mk, lt, nl, pf, pt, rf, lf))
    (H1 : ¬ L (N - 1) = 0 → N < 6 → post (nI (N + 1)) (bu, rc, nI (N + 1), pa, b, sg, sc, mk, lt, upd nl N 0, pf, pt, rf, lf)) : wY_path_19 post 9 bu rc (nI N) pa b sg sc mk lt nl pf pt rf lf := by
  obtain ⟨hN1, hN, hnl, hL, _⟩ := P
  have hL1 := hL (N - 1)
  have eN : nI N - 1 = nI (N - 1) := pk_sub (a := N) (b := 1) (by omega)
  have cN : (nI (N - 1)).toNatClampNeg = N - 1 := nI_clamp (by omega)
  have cN2 : (nI N).toNatClampNeg = N := nI_clamp (by omega)
  refine nm_r eN (br_t rfl (And.intro (vp_in_nI (by omega) (by decide)) ?_))
  rw [cN, hnl (N - 1), cN2]
  rcases Nat.eq_zero_or_pos (L (N - 1)) with z | z
  · exact br_t (by rw [z]; rfl) (H0 (Or.inl z))
  · refine br_f (nI_ne0 z (by omega)) ?_
    rcases Nat.lt_or_ge N 6 with h | h
    · refine br_f (fun y => ?_) (And.intro (vp_in_nI h (by decide)) (nm_e (nm_r (nI_1 N) (H1 (by omega) h))))
      exact absurd ((nI_eq (b := 6) (by omega) (by omega)).mp y) (by omega)
    · have e : N = 6 := by omega
      exact br_t (by rw [e]; rfl) (H0 (Or.inr e))
theorem ig_y19l {post : Int32 → SY → Prop} (P : ig_Path nl lt L N) (h9 : ¬ x1 = 9) (H0 : L (N - 1) = 8 → post (-2) (bu, rc, nI N, pa, b, sg, sc, mk, lt, nl, pf, pt, rf, lf))
    (H1 : L (N - 1) < 8 → post (nI N) (bu, rc, nI N, pa, b, sg, sc, mk, upd lt ((N - 1) * 8 + L (N - 1)) x1, upd nl (N - 1) (nI (L (N - 1) + 1)), pf, pt, rf, lf)) : wY_path_19 post x1 bu rc (nI N) pa b sg sc mk lt nl pf pt rf lf := by
  obtain ⟨hN1, hN, hnl, hL, _⟩ := P
  have hL1 := hL (N - 1)
  have eN : nI N - 1 = nI (N - 1) := pk_sub (a := N) (b := 1) (by omega)
  have cN : (nI (N - 1)).toNatClampNeg = N - 1 := nI_clamp (by omega)
  have e8 : nI (N - 1) * 8 + nI (L (N - 1)) = nI ((N - 1) * 8 + L (N - 1)) := by rw [show nI (N - 1) * 8 = nI ((N - 1) * 8) from pk_mul (N - 1) 8, nI_add]
  have c8 : (nI ((N - 1) * 8 + L (N - 1))).toNatClampNeg = (N - 1) * 8 + L (N - 1) := nI_clamp (by omega)
  refine nm_r eN (br_f h9 (And.intro (vp_in_nI (by omega) (by decide)) ?_))
  rw [cN, hnl (N - 1), e8, c8]
  rcases Nat.lt_or_ge (L (N - 1)) 8 with h | h
  · refine br_f (fun y => ?_) (And.intro (vp_in_nI (by omega) (by decide)) (And.intro (vp_in_nI (by omega) (by decide)) (nm_e ?_)))
    · exact absurd ((nI_eq (b := 8) (by omega) (by omega)).mp y) (by omega)
    · exact And.intro (vp_in_nI (by omega) (by decide)) (And.intro (vp_in_nI (by omega) (by decide)) (nm_r (e' := upd nl (N - 1) (nI (L (N - 1) + 1))) (by rw [nI_1]) (H1 h)))
  · have e : L (N - 1) = 8 := by omega
    exact br_t (by rw [e]; rfl) (H0 e)
end
end
section
/-! the relation, and what is owed -/
def ig_Fact (p R N : Nat) (ms L : Nat → Nat) (b ng fo ln so sr sl sk db en nl lt sg sc mk : Nat → Int32) : Prop :=
  p ≤ 10 ∧ (∀ i, i < p → ∃ c, 1 ≤ c ∧ c ≤ 10 ∧ b i = nI c) ∧ R ≤ 12 ∧ ig_Path nl lt L N ∧ (∀ r, r < R → ig_Rule sg sc mk ng fo ln so sr sl sk db en (ms r) r)
def ig_R (pl ru nm : Int32) (b ng fo ln so sr sl sk db en nl lt : Nat → Int32) (bu rc ny : Int32) (b2 sg sc mk lt2 nl2 : Nat → Int32) : Prop :=
  ∃ (p R N : Nat) (ms L : Nat → Nat), (pl = nI p ∧ bu = nI p) ∧ (ru = nI R ∧ rc = nI R) ∧ (nm = nI N ∧ ny = nI N) ∧ (b2 = b ∧ lt2 = lt ∧ nl2 = nl) ∧ ig_Fact p R N ms L b ng fo ln so sr sl sk db en nl lt sg sc mk
/-- shared: the buffer, the path, the counts; each rule's sets at X are the picture of its signs at Y -/
def i_Rel (k : Nat) (u : SX) (v : SY) : Prop := match u, v with
  | (pl, ru, nm, b, ng, fo, ln, so, sr, sl, sk, db, en, nl, lt, ss, la, ca), (bu, rc, ny, pa, b2, sg, sc, mk2, lt2, nl2, pf, pt, rf, lf) => ig_R pl ru nm b ng fo ln so sr sl sk db en nl lt bu rc ny b2 sg sc mk2 lt2 nl2
section
variable {p R N k : Nat} {ms L : Nat → Nat} {b ng fo ln so sr sl sk db en nl lt ss la ca sg sc mk pf pt rf lf : Nat → Int32} {pa : Int32}
theorem ig_in (F : ig_Fact p R N ms L b ng fo ln so sr sl sk db en nl lt sg sc mk) : i_Rel k (nI p, nI R, nI N, b, ng, fo, ln, so, sr, sl, sk, db, en, nl, lt, ss, la, ca) (nI p, nI R, nI N, pa, b, sg, sc, mk, lt, nl, pf, pt, rf, lf) :=
  ⟨p, R, N, ms, L, ⟨rfl, rfl⟩, ⟨rfl, rfl⟩, ⟨rfl, rfl⟩, ⟨rfl, rfl, rfl⟩, F⟩
end
theorem ig_el {k : Nat} {u : SX} {v : SY} {Q : SX → SY → Prop} (I : i_Rel k u v)
    (h : ∀ (p R N : Nat) (ms L : Nat → Nat) (b ng fo ln so sr sl sk db en nl lt ss la ca sg sc mk pf pt rf lf : Nat → Int32) (pa : Int32), ig_Fact p R N ms L b ng fo ln so sr sl sk db en nl lt sg sc mk → Q (nI p, nI R, nI N, b, ng, fo, ln, so, sr, sl, sk, db, en, nl, lt, ss, la, ca) (nI p, nI R, nI N, pa, b, sg, sc, mk, lt, nl, pf, pt, rf, lf)) : Q u v := by
  obtain ⟨pl, ru, nm, b, ng, fo, ln, so, sr, sl, sk, db, en, nl, lt, ss, la, ca⟩ := u
  obtain ⟨bu, rc, ny, pa, b2, sg, sc, mk, lt2, nl2, pf, pt, rf, lf⟩ := v
  obtain ⟨p, R, N, ms, L, ⟨e1, e2⟩, ⟨e3, e4⟩, ⟨e5, e6⟩, ⟨e7, e8, e9⟩, F⟩ := I
  subst e1 e2 e3 e4 e5 e6 e7 e8 e9
  exact h p R N ms L _ ng fo ln so sr sl sk db en _ _ ss la ca sg sc mk pf pt rf lf pa F
theorem i_up {k : Nat} {u : SX} {v : SY} (h : i_Rel k u v) : i_Rel (k + 2) u v := h
theorem i_vc0 : wpX_init (fun u => wpY_init (fun v => i_Rel 0 u v)) := by
  exact ig_in (k := 0) (p := 0) (R := 0) (N := 1) (ms := fun _ => 0) (L := fun _ => 0) (ss := fun _ => 0) (la := fun _ => 0) (ca := fun _ => 0) (pf := fun _ => 0) (pt := fun _ => 0) (rf := fun _ => 0) (lf := fun _ => 0) (pa := 0) ⟨by omega, fun i hi => absurd hi (by omega), by omega, ⟨by omega, by omega, fun _ => rfl, fun _ => Nat.zero_le 8, fun k q _ hq => absurd hq (Nat.not_lt_zero q)⟩, fun r hr => absurd hr (Nat.not_lt_zero r)⟩
theorem ig_of (v1 : Int32) (n : Nat) (hn : n < 100) (h1 : ¬ v1 < 1) (h2 : v1 ≤ nI n) : ∃ c, 1 ≤ c ∧ c ≤ n ∧ v1 = nI c := by
  have h0 : ¬ v1 < 0 := by
    intro z
    exact h1 (Int32.lt_trans z (by decide))
  obtain ⟨j, hj, e⟩ := nI_of h0
  subst e
  rw [nI_leI hj (by omega)] at h2
  refine ⟨j, ?_, h2, rfl⟩
  rcases Nat.eq_zero_or_pos j with z | z
  · rw [z] at h1
    exact absurd (by decide) h1
  · exact z
theorem i_vc_pattern {k : Nat} {u : SX} {v : SY} (I : i_Rel k u v) (hk : k + 2 ≤ 1024) (v1 : Int32) : wpX_pattern (fun r u' => wpY_pattern (fun r' v' => r' = r ∧ i_Rel (k + 2) u' v') v v1) u v1 := by
  refine ig_el (Q := fun u v => wpX_pattern (fun r u' => wpY_pattern (fun r' v' => r' = r ∧ i_Rel (k + 2) u' v') v v1) u v1) I ?_
  intro p R N ms L b ng fo ln so sr sl sk db en nl lt ss la ca sg sc mk pf pt rf lf pa F
  obtain ⟨hp, hb, hR, P, HR⟩ := F
  by_cases h1 : v1 < 1
  · exact br_t h1 (br_t h1 ⟨rfl, ig_in ⟨hp, hb, hR, P, HR⟩⟩)
  · by_cases h10 : v1 ≤ 10
    · obtain ⟨c, hc1, hc10, hc⟩ := ig_of v1 10 (by omega) h1 h10
      have cp : (nI p).toNatClampNeg = p := nI_clamp (by omega)
      rcases Nat.lt_or_ge p 10 with z | z
      · refine br_f h1 (br_t h10 (br_t (nI_lt (b := 10) z (by decide)) (And.intro (vp_in_nI z (by decide)) (nm_r (e' := upd b p v1) (by rw [cp]) (nm_r (nI_1 p) ?_)))))
        refine br_f h1 (br_t h10 (br_f (fun y => absurd ((nI_eq (b := 10) (by omega) (by omega)).mp y) (by omega)) (And.intro (vp_in_nI z (by decide)) (nm_r (e' := upd b p v1) (by rw [cp]) (nm_r (nI_1 p) ⟨rfl, ig_in ⟨by omega, fun i hi => ?_, hR, P, HR⟩⟩)))))
        by_cases e : i = p
        · subst e
          rw [pk_us]
          exact ⟨c, hc1, hc10, hc⟩
        · rw [pk_un e]
          exact hb i (by omega)
      · have e : p = 10 := by omega
        subst e
        exact br_f h1 (br_t h10 (br_f (by decide) (br_f h1 (br_t h10 (br_t rfl ⟨rfl, ig_in ⟨hp, hb, hR, P, HR⟩⟩)))))
    · exact br_f h1 (br_f h10 (br_f h1 (br_f h10 ⟨rfl, ig_in ⟨hp, hb, hR, P, HR⟩⟩)))
theorem i_vc_rule {k : Nat} {u : SX} {v : SY} (I : i_Rel k u v) (hk : k + 2 ≤ 1024) (v1 : Int32) : wpX_rule (fun r u' => wpY_rule (fun r' v' => r' = r ∧ i_Rel (k + 2) u' v') v v1) u v1 := by
  refine ig_el (Q := fun u v => wpX_rule (fun r u' => wpY_rule (fun r' v' => r' = r ∧ i_Rel (k + 2) u' v') v v1) u v1) I ?_
  intro p R N ms L b ng fo ln so sr sl sk db en nl lt ss la ca sg sc mk pf pt rf lf pa F
  obtain ⟨hp, hb, hR, P, HR⟩ := F
  have hb0 : ∀ i, i < 0 → ∃ c, 1 ≤ c ∧ c ≤ 10 ∧ b i = nI c := fun i hi => absurd hi (by omega)
  refine ig_xrule hR hp hb (fun G => ?_) (fun G e => ?_) (fun G hlt so' sr' sl' sk' db' x vn vf vl NW => ?_)
  · exact ig_yrule hR hp (fun _ => ⟨rfl, ig_in (p := 0) ⟨by omega, hb0, hR, P, HR⟩⟩) (fun z => absurd z G) (fun z => absurd z G)
  · exact ig_yrule hR hp (fun z => absurd G z) (fun _ _ => ⟨rfl, ig_in (p := 0) ⟨by omega, hb0, hR, P, HR⟩⟩) (fun _ z => absurd z (by omega))
  · obtain ⟨⟨P1, P2, P3, P4, P5, P6⟩, ⟨f1, f2⟩, hx, hvn, hvf, hvl⟩ := NW
    refine ig_yrule hR hp (fun z => absurd G z) (fun _ z => absurd z (by omega)) (fun _ _ sg' q1 q2 => ⟨rfl, ig_in (p := 0) (ms := fun r => if r = R then p else ms r) ⟨by omega, hb0, by omega, P, fun r hr => ?_⟩⟩)
    by_cases e : r = R
    · subst e
      dsimp only
      rw [if_pos rfl]
      have hext : ∀ j, j < p → (fun i => sg' (r * 10 + i)) j = b j := fun j hj => q2 j hj
      have RX : ig_RX b p r so' sr' sl' sk' db' (upd en r x) := by
        refine ⟨P1, P2, fun i => ?_, P4, P5, P6, fun i => ?_⟩
        · rw [P3]
          exact ⟨fun z => z.2, fun z => ⟨by omega, z⟩⟩
        · rw [pk_us]
          exact hx i
      have hsl : sl' r = 0 ↔ ig_te b p 0 = p := by
        rw [ig_b00, ig_noslash]
        constructor
        · intro h j hj h9
          exact h j ((P2 j).mpr ⟨hj, h9⟩)
        · intro h j z
          exact h j ((P2 j).mp z).1 ((P2 j).mp z).2
      unfold ig_Rule
      rw [pk_us, pk_us, pk_us, pk_us, pk_us, ig_te_ext hext, ig_m7 v1 1 (by decide), ig_m7 v1 4 (by decide), ig_m7 v1 2 (by decide), ← hsl]
      exact ⟨hp, rfl, ig_good_ext hext G, ig_rx_ext hext (fun _ _ => rfl) rfl rfl rfl rfl rfl RX, hvn, hvf, hvl⟩
    · dsimp only
      rw [if_neg e]
      have ff := f1 r e
      exact ig_rule_ext (fun j hj => q1 _ (by omega)) (pk_un e) (pk_un e) (pk_un e) (pk_un e) (pk_un e) (fun c hc => f2 _ (Or.inl (by omega))) ff.1 ff.2.1 ff.2.2.1 ff.2.2.2 (pk_un e) (HR r (by omega))
theorem i_vc_dropRule {k : Nat} {u : SX} {v : SY} (I : i_Rel k u v) (hk : k + 2 ≤ 1024) : wpX_dropRule (fun r u' => wpY_dropRule (fun r' v' => r' = r ∧ i_Rel (k + 2) u' v') v) u := by
  refine ig_el (Q := fun u v => wpX_dropRule (fun r u' => wpY_dropRule (fun r' v' => r' = r ∧ i_Rel (k + 2) u' v') v) u) I ?_
  intro p R N ms L b ng fo ln so sr sl sk db en nl lt ss la ca sg sc mk pf pt rf lf pa F
  obtain ⟨hp, hb, hR, P, HR⟩ := F
  rcases Nat.eq_zero_or_pos R with z | z
  · subst z
    exact br_t rfl (br_t rfl ⟨rfl, ig_in (R := 0) ⟨hp, hb, hR, P, HR⟩⟩)
  · have e : nI R - 1 = nI (R - 1) := pk_sub (a := R) (b := 1) z
    have hz := nI_ne0 z (n := R) (by omega)
    exact br_f hz (nm_r e (br_f hz (nm_r e ⟨rfl, ig_in ⟨hp, hb, by omega, P, fun r hr => HR r (by omega)⟩⟩)))
/-! the path -/
def ig_uN (L : Nat → Nat) (k z : Nat) : Nat → Nat := fun j => if j = k then z else L j
theorem ig_uN_s {L : Nat → Nat} {k z : Nat} : ig_uN L k z k = z := if_pos rfl
theorem ig_uN_n {L : Nat → Nat} {k z j : Nat} (h : j ≠ k) : ig_uN L k z j = L j := if_neg h
theorem ig_uN_f {nl : Nat → Int32} {L : Nat → Nat} {k z : Nat} {x : Int32} (h : ∀ j, nl j = nI (L j)) (hx : x = nI z) : ∀ j, upd nl k x j = nI (ig_uN L k z j) := by
  intro j
  by_cases e : j = k
  · subst e
    rw [pk_us, ig_uN_s, hx]
  · rw [pk_un e, ig_uN_n e, h]
theorem ig_uN_8 {L : Nat → Nat} {k z : Nat} (h : ∀ j, L j ≤ 8) (hz : z ≤ 8) : ∀ j, ig_uN L k z j ≤ 8 := by
  intro j
  by_cases e : j = k
  · subst e
    rw [ig_uN_s]
    exact hz
  · rw [ig_uN_n e]
    exact h j
theorem ig_path_s {nl lt : Nat → Int32} {L : Nat → Nat} {N : Nat} (P : ig_Path nl lt L N) (hN : N < 6) : ig_Path (upd nl N 0) lt (ig_uN L N 0) (N + 1) := by
  obtain ⟨h1, h2, h3, h4, h5⟩ := P
  refine ⟨by omega, by omega, ig_uN_f h3 rfl, ig_uN_8 h4 (by omega), fun k q hk hq => ?_⟩
  by_cases e : k = N
  · rw [e, ig_uN_s] at hq
    omega
  · rw [ig_uN_n e] at hq
    exact h5 k q (by omega) hq
theorem ig_path_c {nl lt : Nat → Int32} {L : Nat → Nat} {N : Nat} (P : ig_Path nl lt L N) : ig_Path (upd nl 0 0) lt (ig_uN L 0 0) 1 := by
  obtain ⟨h1, h2, h3, h4, h5⟩ := P
  refine ⟨by omega, by omega, ig_uN_f h3 rfl, ig_uN_8 h4 (by omega), fun k q hk hq => ?_⟩
  have e : k = 0 := by omega
  rw [e, ig_uN_s] at hq
  omega
theorem ig_path_l {nl lt : Nat → Int32} {L : Nat → Nat} {N c : Nat} {x : Int32} (P : ig_Path nl lt L N) (hl : L (N - 1) < 8) (hc : 1 ≤ c) (hc7 : c < 7) (hx : x = nI c) :
    ig_Path (upd nl (N - 1) (nI (L (N - 1) + 1))) (upd lt ((N - 1) * 8 + L (N - 1)) x) (ig_uN L (N - 1) (L (N - 1) + 1)) N := by
  obtain ⟨h1, h2, h3, h4, h5⟩ := P
  refine ⟨h1, h2, ig_uN_f h3 rfl, ig_uN_8 h4 (by omega), fun k q hk hq => ?_⟩
  by_cases e : k = N - 1
  · rw [e, ig_uN_s] at hq
    by_cases e2 : q = L (N - 1)
    · rw [e, e2, pk_us]
      exact ⟨c, hc, hc7, hx⟩
    · rw [e, pk_un (by omega)]
      exact h5 (N - 1) q (by omega) (by omega)
  · rw [ig_uN_n e] at hq
    have := h4 k
    rw [pk_un (by omega)]
    exact h5 k q hk hq
theorem i_vc_path {k : Nat} {u : SX} {v : SY} (I : i_Rel k u v) (hk : k + 2 ≤ 1024) (v1 : Int32) : wpX_path (fun r u' => wpY_path (fun r' v' => r' = r ∧ i_Rel (k + 2) u' v') v v1) u v1 := by
  refine ig_el (Q := fun u v => wpX_path (fun r u' => wpY_path (fun r' v' => r' = r ∧ i_Rel (k + 2) u' v') v v1) u v1) I ?_
  intro p R N ms L b ng fo ln so sr sl sk db en nl lt ss la ca sg sc mk pf pt rf lf pa F
  have F0 := F
  obtain ⟨hp, hb, hR, P, HR⟩ := F
  by_cases h9 : v1 = 9
  · subst h9
    have a1 : ¬ (9 : Int32) < 1 := by decide
    have a2 : ¬ (9 : Int32) ≤ 6 := by decide
    refine br_f a1 (br_f a2 (br_t rfl (ig_x19s P (fun z => ?_) (fun z y => ?_))))
    · refine br_f a1 (br_f a2 (br_t rfl (ig_y19s P (fun _ => ⟨rfl, ig_in F0⟩) (fun w y => ?_))))
      rcases z with z | z
      · exact absurd z w
      · omega
    · refine br_f a1 (br_f a2 (br_t rfl (ig_y19s P (fun w => ?_) (fun _ _ => ⟨rfl, ig_in ⟨hp, hb, hR, ig_path_s P y, HR⟩⟩))))
      rcases w with w | w
      · exact absurd w z
      · omega
  · by_cases h1 : v1 < 1
    · exact br_t h1 (br_f h9 (br_t h1 (br_f h9 ⟨rfl, ig_in F0⟩)))
    · by_cases h6 : v1 ≤ 6
      · obtain ⟨c, hc1, hc6, hc⟩ := ig_of v1 6 (by omega) h1 h6
        refine br_f h1 (br_t h6 (ig_x19l P h9 (fun z => ?_) (fun z => ?_)))
        · exact br_f h1 (br_t h6 (ig_y19l P h9 (fun _ => ⟨rfl, ig_in F0⟩) (fun y => absurd y (by omega))))
        · exact br_f h1 (br_t h6 (ig_y19l P h9 (fun y => absurd y (by omega)) (fun _ => ⟨rfl, ig_in ⟨hp, hb, hR, ig_path_l P z hc1 (by omega) hc, HR⟩⟩)))
      · exact br_f h1 (br_f h6 (br_f h9 (br_f h1 (br_f h6 (br_f h9 ⟨rfl, ig_in F0⟩)))))
theorem i_vc_clearPath {k : Nat} {u : SX} {v : SY} (I : i_Rel k u v) (hk : k + 2 ≤ 1024) : wpX_clearPath (fun u' => wpY_clearPath (fun v' => i_Rel (k + 2) u' v') v) u := by
  refine ig_el (Q := fun u v => wpX_clearPath (fun u' => wpY_clearPath (fun v' => i_Rel (k + 2) u' v') v) u) I ?_
  intro p R N ms L b ng fo ln so sr sl sk db en nl lt ss la ca sg sc mk pf pt rf lf pa F
  obtain ⟨hp, hb, hR, P, HR⟩ := F
  exact nm_e (nm_e (ig_in (N := 1) ⟨hp, hb, hR, ig_path_c P, HR⟩))
theorem ig_bz (v : Int32) : lw_bz v = 0 ↔ decide (¬ v = 0) = false := by
  unfold lw_bz
  by_cases h : v = 0
  · rw [if_pos h, decide_eq_false (fun z => z h)]
    simp
  · rw [if_neg h, decide_eq_true h]
    decide
theorem i_vc_ignored {k : Nat} {u : SX} {v : SY} (I : i_Rel k u v) (hk : k + 2 ≤ 1024) (v1 : Int32) : wpX_ignored (fun r u' => wpY_ignored (fun r' v' => r' = r ∧ i_Rel (k + 2) u' v') v (lw_bz v1)) u (lw_bz v1) := by
  refine ig_el (Q := fun u v => wpX_ignored (fun r u' => wpY_ignored (fun r' v' => r' = r ∧ i_Rel (k + 2) u' v') v (lw_bz v1)) u (lw_bz v1)) I ?_
  intro p R N ms L b ng fo ln so sr sl sk db en nl lt ss la ca sg sc mk pf pt rf lf pa F
  obtain ⟨hp, hb, hR, P, HR⟩ := F
  refine ig_xign hR P HR (ig_bz v1) (fun z => ?_) (fun z ss' la' ca' => ?_)
  · exact ig_yign hR P HR (ig_bz v1) (fun _ => ⟨rfl, ig_in ⟨hp, hb, hR, P, HR⟩⟩) (fun y => absurd z y)
  · exact ig_yign hR P HR (ig_bz v1) (fun y => absurd y z) (fun _ _ _ _ _ _ => ⟨rfl, ig_in ⟨hp, hb, hR, P, HR⟩⟩)
theorem i_vc_lastMatch {k : Nat} {u : SX} {v : SY} (I : i_Rel k u v) (hk : k + 2 ≤ 1024) (v1 : Int32) : wpX_lastMatch (fun r u' => wpY_lastMatch (fun r' v' => r' = r ∧ i_Rel (k + 2) u' v') v (lw_bz v1)) u (lw_bz v1) := by
  refine ig_el (Q := fun u v => wpX_lastMatch (fun r u' => wpY_lastMatch (fun r' v' => r' = r ∧ i_Rel (k + 2) u' v') v (lw_bz v1)) u (lw_bz v1)) I ?_
  intro p R N ms L b ng fo ln so sr sl sk db en nl lt ss la ca sg sc mk pf pt rf lf pa F
  obtain ⟨hp, hb, hR, P, HR⟩ := F
  refine ig_xlast hR P HR (ig_bz v1) (fun z => ?_) (fun z ss' la' ca' => ?_)
  · exact ig_ylm hR P HR (ig_bz v1) (fun _ => ⟨rfl, ig_in ⟨hp, hb, hR, P, HR⟩⟩) (fun y => absurd z y)
  · exact ig_ylm hR P HR (ig_bz v1) (fun y => absurd y z) (fun _ _ _ _ _ _ => ⟨rfl, ig_in ⟨hp, hb, hR, P, HR⟩⟩)
theorem i_vc_matches {k : Nat} {u : SX} {v : SY} (I : i_Rel k u v) (hk : k + 2 ≤ 1024) (v1 : Int32) : wpX_matches (fun r u' => wpY_matches (fun r' v' => r' = r ∧ i_Rel (k + 2) u' v') v (lw_bz v1)) u (lw_bz v1) := by
  refine ig_el (Q := fun u v => wpX_matches (fun r u' => wpY_matches (fun r' v' => r' = r ∧ i_Rel (k + 2) u' v') v (lw_bz v1)) u (lw_bz v1)) I ?_
  intro p R N ms L b ng fo ln so sr sl sk db en nl lt ss la ca sg sc mk pf pt rf lf pa F
  obtain ⟨hp, hb, hR, P, HR⟩ := F
  refine ig_xcount hR P HR (ig_bz v1) (fun z => ?_) (fun z ss' la' ca' => ?_)
  · exact ig_ycnt hR P HR (ig_bz v1) (fun _ => ⟨rfl, ig_in ⟨hp, hb, hR, P, HR⟩⟩) (fun y => absurd z y)
  · exact ig_ycnt hR P HR (ig_bz v1) (fun y => absurd y z) (fun _ _ _ _ _ _ => ⟨rfl, ig_in ⟨hp, hb, hR, P, HR⟩⟩)
theorem i_vc_cutAt {k : Nat} {u : SX} {v : SY} (I : i_Rel k u v) (hk : k + 2 ≤ 1024) (v1 : Int32) : wpX_cutAt (fun r u' => wpY_cutAt (fun r' v' => r' = r ∧ i_Rel (k + 2) u' v') v (lw_bz v1)) u (lw_bz v1) := by
  refine ig_el (Q := fun u v => wpX_cutAt (fun r u' => wpY_cutAt (fun r' v' => r' = r ∧ i_Rel (k + 2) u' v') v (lw_bz v1)) u (lw_bz v1)) I ?_
  intro p R N ms L b ng fo ln so sr sl sk db en nl lt ss la ca sg sc mk pf pt rf lf pa F
  obtain ⟨hp, hb, hR, P, HR⟩ := F
  refine ig_xcut hR P HR (ig_bz v1) (fun z => ?_) (fun z ss' la' ca' => ?_)
  · exact ig_ycutAt hR P HR (ig_bz v1) (fun _ => ⟨rfl, ig_in ⟨hp, hb, hR, P, HR⟩⟩) (fun y => absurd z y)
  · exact ig_ycutAt hR P HR (ig_bz v1) (fun y => absurd y z) (fun _ _ _ _ _ _ => ⟨rfl, ig_in ⟨hp, hb, hR, P, HR⟩⟩)
theorem i_vc_rules {k : Nat} {u : SX} {v : SY} (I : i_Rel k u v) (hk : k + 2 ≤ 1024) : wpX_rules (fun r => wpY_rules (fun r' => r' = r ∧ i_Rel (k + 2) u v) v) u := by
  refine ig_el (Q := fun u v => wpX_rules (fun r => wpY_rules (fun r' => r' = r ∧ i_Rel (k + 2) u v) v) u) I ?_
  intro p R N ms L b ng fo ln so sr sl sk db en nl lt ss la ca sg sc mk pf pt rf lf pa F
  exact ⟨rfl, ig_in F⟩
end

section
/-- where a letter leads from a place -/
def mm_nx (N : Nat → Nat) (p l : Nat) : Nat := 6 * (p / 6) + N (2 * p + l)
/-- where the last j letters of a code lead from a place -/
def mm_run (N : Nat → Nat) (p : Nat) : Nat → Nat → Nat
  | 0, _ => p
  | j + 1, w => mm_nx N (mm_run N p j (w / 2)) (w % 2)
/-- the answers to the last j letters of a code -/
def mm_rsp (N A : Nat → Nat) (p : Nat) : Nat → Nat → Nat
  | 0, _ => 0
  | j + 1, w => 4 * mm_rsp N A p j (w / 2) + A (2 * mm_run N p j (w / 2) + w % 2)
/-- some word of j letters tells two places apart -/
def mm_F (N A : Nat → Nat) : Nat → Nat → Nat → Prop
  | 0, _, _ => False
  | j + 1, p, q => A (2 * p) ≠ A (2 * q) ∨ A (2 * p + 1) ≠ A (2 * q + 1) ∨ mm_F N A j (mm_nx N p 0) (mm_nx N q 0) ∨ mm_F N A j (mm_nx N p 1) (mm_nx N q 1)
/-- the table of least differences after the round for m + 1 letters -/
def mm_T (N A : Nat → Nat) : Nat → Nat → Nat → Nat
  | 0, p, q => if (A (2 * p) ≠ A (2 * q) ∨ A (2 * p + 1) ≠ A (2 * q + 1)) ∧ p % 6 < 3 ∧ q % 6 < 3 then 1 else 0
  | m + 1, p, q => if mm_T N A m p q = 0 ∧ p % 6 < 3 ∧ q % 6 < 3 then (if mm_T N A m (mm_nx N p 0) (mm_nx N q 0) = m + 1 ∨ mm_T N A m (mm_nx N p 1) (mm_nx N q 1) = m + 1 then m + 2 else 0) else mm_T N A m p q
theorem mm_F_refl (N A : Nat → Nat) : ∀ j p, ¬ mm_F N A j p p := by
  intro j
  induction j with
  | zero => exact fun p h => h
  | succ j ih =>
    intro p h
    rcases h with h | h | h | h
    · exact h rfl
    · exact h rfl
    · exact ih _ h
    · exact ih _ h
theorem mm_F_symm (N A : Nat → Nat) : ∀ j p q, mm_F N A j p q → mm_F N A j q p := by
  intro j
  induction j with
  | zero => exact fun p q h => h
  | succ j ih =>
    intro p q h
    rcases h with h | h | h | h
    · exact Or.inl (fun e => h e.symm)
    · exact Or.inr (Or.inl (fun e => h e.symm))
    · exact Or.inr (Or.inr (Or.inl (ih _ _ h)))
    · exact Or.inr (Or.inr (Or.inr (ih _ _ h)))
theorem mm_F_trans (N A : Nat → Nat) : ∀ j p q r, mm_F N A j p r → mm_F N A j p q ∨ mm_F N A j q r := by
  intro j
  induction j with
  | zero => exact fun p q r h => Or.inl h
  | succ j ih =>
    intro p q r h
    rcases h with h | h | h | h
    · by_cases e : A (2 * p) = A (2 * q)
      · exact Or.inr (Or.inl (fun z => h (e.trans z)))
      · exact Or.inl (Or.inl e)
    · by_cases e : A (2 * p + 1) = A (2 * q + 1)
      · exact Or.inr (Or.inr (Or.inl (fun z => h (e.trans z))))
      · exact Or.inl (Or.inr (Or.inl e))
    · rcases ih _ (mm_nx N q 0) _ h with g | g
      · exact Or.inl (Or.inr (Or.inr (Or.inl g)))
      · exact Or.inr (Or.inr (Or.inr (Or.inl g)))
    · rcases ih _ (mm_nx N q 1) _ h with g | g
      · exact Or.inl (Or.inr (Or.inr (Or.inr g)))
      · exact Or.inr (Or.inr (Or.inr (Or.inr g)))
theorem mm_F_up (N A : Nat → Nat) : ∀ j p q, mm_F N A j p q → mm_F N A (j + 1) p q := by
  intro j
  induction j with
  | zero => exact fun p q h => absurd h id
  | succ j ih =>
    intro p q h
    rcases h with h | h | h | h
    · exact Or.inl h
    · exact Or.inr (Or.inl h)
    · exact Or.inr (Or.inr (Or.inl (ih _ _ h)))
    · exact Or.inr (Or.inr (Or.inr (ih _ _ h)))
theorem mm_F_mono (N A : Nat → Nat) {j k : Nat} (hjk : j ≤ k) {p q : Nat} (h : mm_F N A j p q) : mm_F N A k p q := by
  obtain ⟨d, rfl⟩ := Nat.exists_eq_add_of_le hjk
  induction d with
  | zero => exact h
  | succ d ih => exact mm_F_up N A (j + d) p q (ih (by omega))
/-- the words that begin with c -/
theorem mm_pre (N A : Nat → Nat) (hA : ∀ k, A k < 4) (p q : Nat) : ∀ j i c, (∃ w, w / 2 ^ j = c ∧ mm_rsp N A p (i + j) w ≠ mm_rsp N A q (i + j) w) ↔ (mm_rsp N A p i c ≠ mm_rsp N A q i c ∨ mm_F N A j (mm_run N p i c) (mm_run N q i c)) := by
  intro j
  induction j with
  | zero =>
    intro i c
    constructor
    · rintro ⟨w, hw, h⟩
      have e : w = c := by simpa using hw
      subst e
      exact Or.inl h
    · rintro (h | h)
      · exact ⟨c, by simp, h⟩
      · exact absurd h id
  | succ j ih =>
    intro i c
    have hstep : ∀ b, b < 2 → (mm_rsp N A p (i + 1) (2 * c + b) ≠ mm_rsp N A q (i + 1) (2 * c + b) ↔ (mm_rsp N A p i c ≠ mm_rsp N A q i c ∨ A (2 * mm_run N p i c + b) ≠ A (2 * mm_run N q i c + b))) := by
      intro b hb
      have e1 : (2 * c + b) / 2 = c := by omega
      have e2 : (2 * c + b) % 2 = b := by omega
      show 4 * mm_rsp N A p i ((2 * c + b) / 2) + A (2 * mm_run N p i ((2 * c + b) / 2) + (2 * c + b) % 2) ≠ 4 * mm_rsp N A q i ((2 * c + b) / 2) + A (2 * mm_run N q i ((2 * c + b) / 2) + (2 * c + b) % 2) ↔ _
      rw [e1, e2]
      have h1 := hA (2 * mm_run N p i c + b)
      have h2 := hA (2 * mm_run N q i c + b)
      omega
    have hrun : ∀ r b, b < 2 → mm_run N r (i + 1) (2 * c + b) = mm_nx N (mm_run N r i c) b := by
      intro r b hb
      have e1 : (2 * c + b) / 2 = c := by omega
      have e2 : (2 * c + b) % 2 = b := by omega
      show mm_nx N (mm_run N r i ((2 * c + b) / 2)) ((2 * c + b) % 2) = _
      rw [e1, e2]
    have hdiv : ∀ w, w / 2 ^ (j + 1) = w / 2 ^ j / 2 := by
      intro w
      rw [Nat.pow_succ, Nat.div_div_eq_div_mul]
    have i0 := ih (i + 1) (2 * c + 0)
    have i1 := ih (i + 1) (2 * c + 1)
    rw [hstep 0 (by omega), hrun p 0 (by omega), hrun q 0 (by omega)] at i0
    rw [hstep 1 (by omega), hrun p 1 (by omega), hrun q 1 (by omega)] at i1
    rw [show i + 1 + j = i + (j + 1) by omega] at i0 i1
    constructor
    · rintro ⟨w, hw, h⟩
      rw [hdiv] at hw
      have hc : w / 2 ^ j = 2 * c + 0 ∨ w / 2 ^ j = 2 * c + 1 := by omega
      rcases hc with hc | hc
      · rcases i0.mp ⟨w, hc, h⟩ with (g | g) | g
        · exact Or.inl g
        · exact Or.inr (Or.inl g)
        · exact Or.inr (Or.inr (Or.inr (Or.inl g)))
      · rcases i1.mp ⟨w, hc, h⟩ with (g | g) | g
        · exact Or.inl g
        · exact Or.inr (Or.inr (Or.inl g))
        · exact Or.inr (Or.inr (Or.inr (Or.inr g)))
    · intro h
      have go0 : (∃ w, w / 2 ^ j = 2 * c + 0 ∧ mm_rsp N A p (i + (j + 1)) w ≠ mm_rsp N A q (i + (j + 1)) w) → ∃ w, w / 2 ^ (j + 1) = c ∧ mm_rsp N A p (i + (j + 1)) w ≠ mm_rsp N A q (i + (j + 1)) w := by
        rintro ⟨w, hw, g⟩
        exact ⟨w, by rw [hdiv, hw]; omega, g⟩
      have go1 : (∃ w, w / 2 ^ j = 2 * c + 1 ∧ mm_rsp N A p (i + (j + 1)) w ≠ mm_rsp N A q (i + (j + 1)) w) → ∃ w, w / 2 ^ (j + 1) = c ∧ mm_rsp N A p (i + (j + 1)) w ≠ mm_rsp N A q (i + (j + 1)) w := by
        rintro ⟨w, hw, g⟩
        exact ⟨w, by rw [hdiv, hw]; omega, g⟩
      rcases h with h | h | h | h | h
      · exact go0 (i0.mpr (Or.inl (Or.inl h)))
      · exact go0 (i0.mpr (Or.inl (Or.inr h)))
      · exact go1 (i1.mpr (Or.inl (Or.inr h)))
      · exact go0 (i0.mpr (Or.inr h))
      · exact go1 (i1.mpr (Or.inr h))
/-- whole words of j letters -/
theorem mm_wd (N A : Nat → Nat) (hA : ∀ k, A k < 4) (p q j : Nat) : (∃ w, w / 2 ^ j = 1 ∧ mm_rsp N A p j w ≠ mm_rsp N A q j w) ↔ mm_F N A j p q := by
  have h := mm_pre N A hA p q j 0 1
  rw [Nat.zero_add] at h
  rw [h]
  exact ⟨fun g => g.elim (fun z => absurd rfl z) id, Or.inr⟩
theorem mm_nw {N A : Nat → Nat} (hA : ∀ k, A k < 4) {p q j w : Nat} (h : ¬ mm_F N A j p q) (hw : w / 2 ^ j = 1) : mm_rsp N A p j w = mm_rsp N A q j w := by
  by_cases e : mm_rsp N A p j w = mm_rsp N A q j w
  · exact e
  · exact absurd ((mm_wd N A hA p q j).mp ⟨w, hw, e⟩) h
/-- places that are there -/
theorem mm_nx_th {N : Nat → Nat} (hN : ∀ k, N k < 3) (p l : Nat) : mm_nx N p l % 6 < 3 ∧ mm_nx N p l / 6 = p / 6 := by
  have h := hN (2 * p + l)
  unfold mm_nx
  omega
theorem mm_nx_12 {N : Nat → Nat} (hN : ∀ k, N k < 3) {p : Nat} (l : Nat) (hp : p < 12) : mm_nx N p l < 12 := by
  have h := hN (2 * p + l)
  unfold mm_nx
  omega
/-- the table is the least difference -/
theorem mm_T_spec {N A : Nat → Nat} (hN : ∀ k, N k < 3) : ∀ m p q, p % 6 < 3 → q % 6 < 3 → (mm_T N A m p q = 0 ∧ ¬ mm_F N A (m + 1) p q) ∨ (1 ≤ mm_T N A m p q ∧ mm_T N A m p q ≤ m + 1 ∧ mm_F N A (mm_T N A m p q) p q ∧ ¬ mm_F N A (mm_T N A m p q - 1) p q) := by
  intro m
  induction m with
  | zero =>
    intro p q hp hq
    by_cases h : A (2 * p) ≠ A (2 * q) ∨ A (2 * p + 1) ≠ A (2 * q + 1)
    · have e : mm_T N A 0 p q = 1 := if_pos ⟨h, hp, hq⟩
      rw [e]
      refine Or.inr ⟨by omega, by omega, ?_, fun z => z⟩
      rcases h with h | h
      · exact Or.inl h
      · exact Or.inr (Or.inl h)
    · have e : mm_T N A 0 p q = 0 := if_neg (fun z => h z.1)
      rw [e]
      refine Or.inl ⟨rfl, ?_⟩
      rintro (g | g | g | g)
      · exact h (Or.inl g)
      · exact h (Or.inr g)
      · exact g
      · exact g
  | succ m ih =>
    intro p q hp hq
    have hl : ∀ l, ¬ mm_F N A m (mm_nx N p l) (mm_nx N q l) → (mm_T N A m (mm_nx N p l) (mm_nx N q l) = m + 1 ↔ mm_F N A (m + 1) (mm_nx N p l) (mm_nx N q l)) := by
      intro l hn
      rcases ih (mm_nx N p l) (mm_nx N q l) (mm_nx_th hN p l).1 (mm_nx_th hN q l).1 with ⟨e, g⟩ | ⟨h1, h2, h3, h4⟩
      · rw [e]
        exact ⟨fun z => absurd z (by omega), fun z => absurd z g⟩
      · constructor
        · intro e
          rw [e] at h3
          exact h3
        · intro _
          by_cases e : mm_T N A m (mm_nx N p l) (mm_nx N q l) = m + 1
          · exact e
          · exact absurd (mm_F_mono N A (by omega) h3) hn
    rcases ih p q hp hq with ⟨e, g⟩ | ⟨h1, h2, h3, h4⟩
    · have n0 : ¬ mm_F N A m (mm_nx N p 0) (mm_nx N q 0) := fun z => g (Or.inr (Or.inr (Or.inl z)))
      have n1 : ¬ mm_F N A m (mm_nx N p 1) (mm_nx N q 1) := fun z => g (Or.inr (Or.inr (Or.inr z)))
      have e' : mm_T N A (m + 1) p q = if mm_T N A m (mm_nx N p 0) (mm_nx N q 0) = m + 1 ∨ mm_T N A m (mm_nx N p 1) (mm_nx N q 1) = m + 1 then m + 2 else 0 := if_pos ⟨e, hp, hq⟩
      by_cases hc : mm_T N A m (mm_nx N p 0) (mm_nx N q 0) = m + 1 ∨ mm_T N A m (mm_nx N p 1) (mm_nx N q 1) = m + 1
      · rw [if_pos hc] at e'
        rw [e']
        refine Or.inr ⟨by omega, by omega, ?_, g⟩
        rcases hc with hc | hc
        · exact Or.inr (Or.inr (Or.inl ((hl 0 n0).mp hc)))
        · exact Or.inr (Or.inr (Or.inr ((hl 1 n1).mp hc)))
      · rw [if_neg hc] at e'
        rw [e']
        refine Or.inl ⟨rfl, ?_⟩
        rintro (z | z | z | z)
        · exact g (Or.inl z)
        · exact g (Or.inr (Or.inl z))
        · exact hc (Or.inl ((hl 0 n0).mpr z))
        · exact hc (Or.inr ((hl 1 n1).mpr z))
    · have e' : mm_T N A (m + 1) p q = mm_T N A m p q := if_neg (fun z => by have := z.1; omega)
      rw [e']
      exact Or.inr ⟨h1, by omega, h3, h4⟩
/-- the table's number is the one with these two facts -/
theorem mm_T_eq {N A : Nat → Nat} (hN : ∀ k, N k < 3) {m p q d : Nat} (hp : p % 6 < 3) (hq : q % 6 < 3) (h1 : 1 ≤ d) (h2 : d ≤ m + 1) (h3 : mm_F N A d p q) (h4 : ¬ mm_F N A (d - 1) p q) : mm_T N A m p q = d := by
  rcases mm_T_spec hN m p q hp hq with ⟨e, g⟩ | ⟨g1, g2, g3, g4⟩
  · exact absurd (mm_F_mono N A h2 h3) g
  · rcases Nat.lt_trichotomy (mm_T N A m p q) d with z | z | z
    · exact absurd (mm_F_mono N A (by omega) g3) h4
    · exact z
    · exact absurd (mm_F_mono N A (by omega) h3) g4
theorem mm_T_0 {N A : Nat → Nat} (hN : ∀ k, N k < 3) {m p q : Nat} (hp : p % 6 < 3) (hq : q % 6 < 3) : mm_T N A m p q = 0 ↔ ¬ mm_F N A (m + 1) p q := by
  rcases mm_T_spec hN m p q hp hq with ⟨e, g⟩ | ⟨g1, g2, g3, g4⟩
  · exact ⟨fun _ => g, fun _ => e⟩
  · exact ⟨fun z => absurd z (by omega), fun z => absurd (mm_F_mono N A g2 g3) z⟩
theorem mm_T_le {N A : Nat → Nat} : ∀ m p q, mm_T N A m p q ≤ m + 1 := by
  intro m
  induction m with
  | zero =>
    intro p q
    show (if _ then 1 else 0) ≤ 1
    split <;> omega
  | succ m ih =>
    intro p q
    have h := ih p q
    unfold mm_T
    split
    · split
      · exact Nat.le_refl _
      · exact Nat.zero_le _
    · exact Nat.le_succ_of_le h
/-- a new round doesn't touch the numbers that it looks for -/
theorem mm_T_mix {N A : Nat → Nat} {m p q : Nat} : mm_T N A (m + 1) p q = m + 1 ↔ mm_T N A m p q = m + 1 := by
  by_cases hc : mm_T N A m p q = 0 ∧ p % 6 < 3 ∧ q % 6 < 3
  · have e' : mm_T N A (m + 1) p q = if mm_T N A m (mm_nx N p 0) (mm_nx N q 0) = m + 1 ∨ mm_T N A m (mm_nx N p 1) (mm_nx N q 1) = m + 1 then m + 2 else 0 := if_pos hc
    rw [e', hc.1]
    split <;> omega
  · have e' : mm_T N A (m + 1) p q = mm_T N A m p q := if_neg hc
    rw [e']
end
section
/-- how many of the first n numbers have P -/
def mm_c (P : Nat → Bool) : Nat → Nat
  | 0 => 0
  | n + 1 => mm_c P n + (if P n = true then 1 else 0)
theorem mm_c_le (P : Nat → Bool) : ∀ n, mm_c P n ≤ n := by
  intro n
  induction n with
  | zero => exact Nat.le_refl 0
  | succ n ih =>
    show mm_c P n + (if P n = true then 1 else 0) ≤ n + 1
    split <;> omega
theorem mm_c_mono {P Q : Nat → Bool} : ∀ n, (∀ i, i < n → P i = true → Q i = true) → mm_c P n ≤ mm_c Q n := by
  intro n
  induction n with
  | zero => exact fun _ => Nat.le_refl 0
  | succ n ih =>
    intro h
    have h1 := ih (fun i hi => h i (by omega))
    show mm_c P n + (if P n = true then 1 else 0) ≤ mm_c Q n + (if Q n = true then 1 else 0)
    by_cases e : P n = true
    · rw [if_pos e, if_pos (h n (by omega) e)]
      omega
    · rw [if_neg e]
      omega
theorem mm_c_lt {P Q : Nat → Bool} : ∀ n, (∀ i, i < n → P i = true → Q i = true) → (∃ i, i < n ∧ Q i = true ∧ ¬ P i = true) → mm_c P n < mm_c Q n := by
  intro n
  induction n with
  | zero =>
    rintro _ ⟨i, hi, _⟩
    exact absurd hi (by omega)
  | succ n ih =>
    rintro h ⟨i, hi, hq, hp⟩
    show mm_c P n + (if P n = true then 1 else 0) < mm_c Q n + (if Q n = true then 1 else 0)
    by_cases e : i = n
    · subst e
      have h1 := mm_c_mono i (fun j hj => h j (by omega))
      rw [if_pos hq, if_neg hp]
      omega
    · have h1 := ih (fun j hj => h j (by omega)) ⟨i, by omega, hq, hp⟩
      by_cases e2 : P n = true
      · rw [if_pos e2, if_pos (h n (by omega) e2)]
        omega
      · rw [if_neg e2]
        omega
/-- i is the first of its kind at level j -/
def mm_rep (N A e : Nat → Nat) (j i : Nat) : Prop := ∀ r, r < i → mm_F N A j (e r) (e i)
theorem mm_rep_ex (N A e : Nat → Nat) (j : Nat) : ∀ i, ∃ r, r ≤ i ∧ mm_rep N A e j r ∧ ¬ mm_F N A j (e r) (e i) := by
  intro i
  induction i using Nat.strongRecOn with
  | ind i ih =>
    by_cases h : mm_rep N A e j i
    · exact ⟨i, Nat.le_refl i, h, mm_F_refl N A j (e i)⟩
    · have h' : ∃ r, r < i ∧ ¬ mm_F N A j (e r) (e i) := by
        apply Classical.byContradiction
        intro g
        apply h
        intro r hr
        apply Classical.byContradiction
        intro z
        exact g ⟨r, hr, z⟩
      obtain ⟨r, hr, hn⟩ := h'
      obtain ⟨r2, h1, h2, h3⟩ := ih r hr
      refine ⟨r2, by omega, h2, fun z => ?_⟩
      rcases mm_F_trans N A j (e r2) (e r) (e i) z with g | g
      · exact h3 g
      · exact hn g
/-- where a level tells more apart, it has a new first one -/
theorem mm_rep_new {N A e : Nat → Nat} {j n : Nat} (h : ∃ i k, i < n ∧ k < n ∧ mm_F N A (j + 1) (e i) (e k) ∧ ¬ mm_F N A j (e i) (e k)) : ∃ i, i < n ∧ mm_rep N A e (j + 1) i ∧ ¬ mm_rep N A e j i := by
  obtain ⟨i, k, hi, hk, h1, h2⟩ := h
  apply Classical.byContradiction
  intro hn
  have hall : ∀ r, r < n → mm_rep N A e (j + 1) r → mm_rep N A e j r := by
    intro r hr hr2
    apply Classical.byContradiction
    intro z
    exact hn ⟨r, hr, hr2, z⟩
  obtain ⟨r, r1, r2, r3⟩ := mm_rep_ex N A e (j + 1) i
  obtain ⟨s, s1, s2, s3⟩ := mm_rep_ex N A e (j + 1) k
  have r4 := hall r (by omega) r2
  have s4 := hall s (by omega) s2
  have q : ¬ mm_F N A j (e r) (e s) := by
    intro z
    rcases mm_F_trans N A j (e r) (e i) (e s) z with g | g
    · exact r3 (mm_F_up N A j _ _ g)
    · rcases mm_F_trans N A j (e i) (e k) (e s) g with g | g
      · exact h2 g
      · exact s3 (mm_F_up N A j _ _ (mm_F_symm N A j _ _ g))
  have ers : r = s := by
    rcases Nat.lt_trichotomy r s with z | z | z
    · exact absurd (s4 r z) q
    · exact z
    · exact absurd (mm_F_symm N A j _ _ (r4 s z)) q
  subst ers
  rcases mm_F_trans N A (j + 1) (e i) (e r) (e k) h1 with g | g
  · exact r3 (mm_F_symm N A (j + 1) _ _ g)
  · exact s3 g
/-- a closed set of n places: n - 1 letters tell apart what can be told apart -/
theorem mm_bound {N A e : Nat → Nat} {n : Nat} (hn : 1 ≤ n) (hc : ∀ i, i < n → ∀ l, l < 2 → ∃ k, k < n ∧ mm_nx N (e i) l = e k) {k i i' : Nat} (hi : i < n) (hi' : i' < n) (h : mm_F N A k (e i) (e i')) : mm_F N A (n - 1) (e i) (e i') := by
  have stab : ∃ j, j < n ∧ ∀ i i', i < n → i' < n → mm_F N A (j + 1) (e i) (e i') → mm_F N A j (e i) (e i') := by
    apply Classical.byContradiction
    intro hno
    have hex : ∀ j, j < n → ∃ i k, i < n ∧ k < n ∧ mm_F N A (j + 1) (e i) (e k) ∧ ¬ mm_F N A j (e i) (e k) := by
      intro j hj
      apply Classical.byContradiction
      intro hz
      apply hno
      refine ⟨j, hj, fun i i' hi hi' hf => ?_⟩
      apply Classical.byContradiction
      intro hnf
      exact hz ⟨i, i', hi, hi', hf, hnf⟩
    have hcount : ∀ j, j ≤ n → ∃ P : Nat → Bool, (∀ i, P i = true ↔ mm_rep N A e j i) ∧ j + 1 ≤ mm_c P n := by
      intro j
      induction j with
      | zero =>
        intro _
        refine ⟨fun i => Nat.beq i 0, fun i => ?_, ?_⟩
        · constructor
          · intro z r hr
            have : i = 0 := Nat.eq_of_beq_eq_true z
            omega
          · intro z
            by_cases ei : i = 0
            · subst ei
              rfl
            · exact absurd (z 0 (by omega)) id
        · have h0 : mm_c (fun _ => false) n < mm_c (fun i => Nat.beq i 0) n := mm_c_lt n (fun i _ z => absurd z (by decide)) ⟨0, by omega, rfl, by decide⟩
          omega
      | succ j ih =>
        intro hj
        obtain ⟨P, hP, hPc⟩ := ih (by omega)
        have hdec : ∃ Q : Nat → Bool, ∀ i, Q i = true ↔ mm_rep N A e (j + 1) i := by
          refine ⟨fun i => @decide (mm_rep N A e (j + 1) i) (Classical.propDecidable _), fun i => ?_⟩
          exact @decide_eq_true_iff (mm_rep N A e (j + 1) i) (Classical.propDecidable _)
        obtain ⟨Q, hQ⟩ := hdec
        refine ⟨Q, hQ, ?_⟩
        have hlt : mm_c P n < mm_c Q n := by
          apply mm_c_lt n
          · intro i _ hp
            exact (hQ i).mpr (fun r hr => mm_F_up N A j _ _ ((hP i).mp hp r hr))
          · obtain ⟨i, h1, h2, h3⟩ := mm_rep_new (hex j (by omega))
            exact ⟨i, h1, (hQ i).mpr h2, fun z => h3 ((hP i).mp z)⟩
        omega
    obtain ⟨P, _, hPc⟩ := hcount n (Nat.le_refl n)
    have := mm_c_le P n
    omega
  obtain ⟨j, hj, hst⟩ := stab
  have hall : ∀ d i i', i < n → i' < n → mm_F N A (j + d) (e i) (e i') → mm_F N A j (e i) (e i') := by
    intro d
    induction d with
    | zero => exact fun i i' _ _ h => h
    | succ d ih =>
      intro i i' hi hi' hf
      apply hst i i' hi hi'
      rcases hf with z | z | z | z
      · exact Or.inl z
      · exact Or.inr (Or.inl z)
      · obtain ⟨a, ha, ea⟩ := hc i hi 0 (by omega)
        obtain ⟨b, hb, eb⟩ := hc i' hi' 0 (by omega)
        refine Or.inr (Or.inr (Or.inl ?_))
        have z' : mm_F N A (j + d) (mm_nx N (e i) 0) (mm_nx N (e i') 0) := z
        rw [ea, eb] at z' ⊢
        exact ih a b ha hb z'
      · obtain ⟨a, ha, ea⟩ := hc i hi 1 (by omega)
        obtain ⟨b, hb, eb⟩ := hc i' hi' 1 (by omega)
        refine Or.inr (Or.inr (Or.inr ?_))
        have z' : mm_F N A (j + d) (mm_nx N (e i) 1) (mm_nx N (e i') 1) := z
        rw [ea, eb] at z' ⊢
        exact ih a b ha hb z'
  have h5 : mm_F N A (j + k) (e i) (e i') := mm_F_mono N A (by omega) h
  exact mm_F_mono N A (by omega) (hall k i i' hi hi' h5)
/-- the six places of two machines of three states -/
theorem mm_b6 {N A : Nat → Nat} (hN : ∀ k, N k < 3) {k p q : Nat} (hp : p < 12) (hq : q < 12) (tp : p % 6 < 3) (tq : q % 6 < 3) (h : mm_F N A k p q) : mm_F N A 5 p q := by
  have e1 : ∀ r, r < 12 → r % 6 < 3 → ∃ i, i < 6 ∧ 6 * (i / 3) + i % 3 = r := fun r h1 h2 => ⟨3 * (r / 6) + r % 6, by omega, by omega⟩
  obtain ⟨i, hi, ei⟩ := e1 p hp tp
  obtain ⟨i', hi', ei'⟩ := e1 q hq tq
  have hb := @mm_bound N A (fun i => 6 * (i / 3) + i % 3) 6 (by omega) (by
    intro i hi l _
    have h1 := mm_nx_th hN (6 * (i / 3) + i % 3) l
    have h2 := mm_nx_12 hN l (show 6 * (i / 3) + i % 3 < 12 by omega)
    obtain ⟨k, hk, ek⟩ := e1 _ h2 h1.1
    exact ⟨k, hk, ek.symm⟩) k i i' hi hi'
  rw [← ei, ← ei'] at h ⊢
  exact hb h
/-- the three places of one machine -/
theorem mm_b3 {N A : Nat → Nat} (hN : ∀ k, N k < 3) {m k s t : Nat} (hs : s < 3) (ht : t < 3) (h : mm_F N A k (6 * m + s) (6 * m + t)) : mm_F N A 2 (6 * m + s) (6 * m + t) :=
  @mm_bound N A (fun i => 6 * m + i) 3 (by omega) (by
    intro i hi l _
    have h1 := mm_nx_th hN (6 * m + i) l
    exact ⟨mm_nx N (6 * m + i) l % 6, h1.1, by show _ = 6 * m + _; omega⟩) k s t hs ht h
/-- the least word below n that has P, 0 if there is none -/
def mm_lst (P : Nat → Prop) [DecidablePred P] : Nat → Nat
  | 0 => 0
  | n + 1 => if mm_lst P n = 0 ∧ 0 < n ∧ P n then n else mm_lst P n
theorem mm_lst_spec (P : Nat → Prop) [DecidablePred P] : ∀ n, (mm_lst P n = 0 ∧ ∀ w, 0 < w → w < n → ¬ P w) ∨ (0 < mm_lst P n ∧ mm_lst P n < n ∧ P (mm_lst P n) ∧ ∀ w, 0 < w → w < mm_lst P n → ¬ P w) := by
  intro n
  induction n with
  | zero => exact Or.inl ⟨rfl, fun w _ h => absurd h (by omega)⟩
  | succ n ih =>
    by_cases hc : mm_lst P n = 0 ∧ 0 < n ∧ P n
    · have e : mm_lst P (n + 1) = n := if_pos hc
      rw [e]
      rcases ih with ⟨_, h⟩ | ⟨h, _⟩
      · exact Or.inr ⟨hc.2.1, by omega, hc.2.2, h⟩
      · exact absurd h (by omega)
    · have e : mm_lst P (n + 1) = mm_lst P n := if_neg hc
      rw [e]
      rcases ih with ⟨h1, h2⟩ | ⟨h1, h2, h3, h4⟩
      · refine Or.inl ⟨h1, fun w hw hwn hp => ?_⟩
        by_cases ew : w = n
        · subst ew
          exact hc ⟨h1, hw, hp⟩
        · exact h2 w hw (by omega) hp
      · exact Or.inr ⟨h1, by omega, h3, h4⟩
theorem mm_lst_is {P : Nat → Prop} [DecidablePred P] {n v : Nat} (h0 : 0 < v) (hn : v < n) (hp : P v) (hl : ∀ w, 0 < w → w < v → ¬ P w) : mm_lst P n = v := by
  rcases mm_lst_spec P n with ⟨_, h⟩ | ⟨h1, h2, h3, h4⟩
  · exact absurd hp (h v h0 hn)
  · rcases Nat.lt_trichotomy (mm_lst P n) v with z | z | z
    · exact absurd h3 (hl _ h1 z)
    · exact z
    · exact absurd hp (h4 v h0 z)
theorem mm_lst_no {P : Nat → Prop} [DecidablePred P] {n : Nat} (h : ∀ w, 0 < w → w < n → ¬ P w) : mm_lst P n = 0 := by
  rcases mm_lst_spec P n with ⟨e, _⟩ | ⟨h1, h2, h3, h4⟩
  · exact e
  · exact absurd h3 (h _ h1 h2)
/-- pigeons -/
theorem mm_php : ∀ (m n : Nat) (f : Nat → Nat), (∀ i, i < n → f i < m) → (∀ i j, i < j → j < n → f i ≠ f j) → n ≤ m := by
  intro m
  induction m with
  | zero =>
    intro n f h _
    rcases Nat.eq_zero_or_pos n with z | z
    · omega
    · exact absurd (h 0 z) (by omega)
  | succ m ih =>
    intro n f h inj
    cases n with
    | zero => omega
    | succ n =>
      have hk : n ≤ m := by
        apply ih n (fun i => if f i = m then f n else f i)
        · intro i hi
          have a1 := h i (by omega)
          have a2 := h n (by omega)
          have a3 := inj i n hi (by omega)
          show (if f i = m then f n else f i) < m
          split <;> omega
        · intro i j hij hj
          have a1 := inj i j hij (by omega)
          have a2 := inj i n (by omega) (by omega)
          have a3 := inj j n hj (by omega)
          show (if f i = m then f n else f i) ≠ (if f j = m then f n else f j)
          split <;> split <;> omega
      omega
/-- the length of a code below 64 -/
def mm_len (w : Nat) : Nat := if w < 2 then 0 else if w < 4 then 1 else if w < 8 then 2 else if w < 16 then 3 else if w < 32 then 4 else 5
theorem mm_len_1 : ∀ w, w < 64 → 0 < w → w / 2 ^ mm_len w = 1 := by decide +kernel
theorem mm_len_5 (w : Nat) : mm_len w ≤ 5 := by
  unfold mm_len
  repeat' split
  all_goals omega
theorem mm_len_is {w j : Nat} (h : w / 2 ^ j = 1) (hj : j ≤ 5) : mm_len w = j ∧ 0 < w ∧ w < 64 := by
  have h' : j = 0 ∨ j = 1 ∨ j = 2 ∨ j = 3 ∨ j = 4 ∨ j = 5 := by omega
  unfold mm_len
  rcases h' with rfl | rfl | rfl | rfl | rfl | rfl <;> (refine ⟨?_, by omega, by omega⟩; repeat' split) <;> omega
theorem mm_len_lt {w j : Nat} (hw : 0 < w) (hw2 : w < 64) (h : mm_len w < j) (v : Nat) (hv : v / 2 ^ j = 1) (hj : j ≤ 5) : w < v := by
  have h1 := mm_len_1 w hw2 hw
  have h2 := mm_len_is hv hj
  rcases Nat.lt_or_ge w v with z | z
  · exact z
  · exfalso
    have h3 : v / 2 ^ j ≤ w / 2 ^ j := Nat.div_le_div_right z
    have h4 : w / 2 ^ j ≤ w / 2 ^ mm_len w / 2 := by
      rw [Nat.div_div_eq_div_mul, ← Nat.pow_succ]
      exact Nat.div_le_div_left (Nat.pow_le_pow_right (by omega) (by omega)) (Nat.two_pow_pos _)
    omega
end
section
/-- a machine in a code: where a letter leads, what it answers -/
def mm_n (c : Int32) (k : Nat) : Nat := (c >>> (nI (5 * k) &&& 31)).toBitVec.toNat % 4 % 3
def mm_x (c : Int32) (k : Nat) : Nat := (c >>> (nI (5 * k + 2) &&& 31)).toBitVec.toNat % 8
def mm_a (c : Int32) (k : Nat) : Nat := if 4 ≤ mm_x c k then mm_x c k % 4 else mm_x c k % 2
theorem mm_n3 (c : Int32) (k : Nat) : mm_n c k < 3 := Nat.mod_lt _ (by omega)
theorem mm_a4 (c : Int32) (k : Nat) : mm_a c k < 4 := by
  unfold mm_a
  split <;> omega
theorem mm_next {post : Int32 → Prop} {c : Int32} {s l : Nat} (h : post (nI (mm_n c (2 * s + l)))) : wpL_next post () c (nI s) (nI l) := by
  have e : (5 : Int32) * ((2 * nI s) + nI l) = nI (5 * (2 * s + l)) := by
    rw [show (5 : Int32) = nI 5 from rfl, show (2 : Int32) = nI 2 from rfl, pk_mul, nI_add, pk_mul]
  have e2 : (c >>> (nI (5 * (2 * s + l)) &&& 31)) &&& (3 : Int32) = nI ((c >>> (nI (5 * (2 * s + l)) &&& 31)).toBitVec.toNat % 4) := pk_and _ 2 (by decide)
  have e3 : ∀ a : Nat, a < 4 → nI a - nI a / 3 * 3 = nI (a % 3) := fun a ha => pk_rem (a := a) (d := 3) (by omega) (by omega) (by omega)
  unfold wpL_next
  refine ⟨by decide, ?_⟩
  rw [e, e2, e3 _ (Nat.mod_lt _ (by omega))]
  exact h
theorem mm_answer {post : Int32 → Prop} {c : Int32} {s l : Nat} (h : post (nI (mm_a c (2 * s + l)))) : wpL_answer post () c (nI s) (nI l) := by
  have e : (5 : Int32) * ((2 * nI s) + nI l) + 2 = nI (5 * (2 * s + l) + 2) := by
    rw [show (5 : Int32) = nI 5 from rfl, show (2 : Int32) = nI 2 from rfl, pk_mul, nI_add, pk_mul, nI_add]
  have e2 : (c >>> (nI (5 * (2 * s + l) + 2) &&& 31)) &&& (7 : Int32) = nI (mm_x c (2 * s + l)) := pk_and _ 3 (by decide)
  have h8 : mm_x c (2 * s + l) < 8 := Nat.mod_lt _ (by omega)
  unfold wpL_answer
  refine nm_r (e' := nI (mm_x c (2 * s + l))) (by rw [e, e2]) ?_
  refine pk_le 4 (mm_x c (2 * s + l)) (fun z => ?_) (fun z => ?_)
  · have e4 : nI (mm_x c (2 * s + l)) &&& (3 : Int32) = nI (mm_x c (2 * s + l) % 4) := pk_andN (by omega) 2 (by decide)
    have e5 : mm_a c (2 * s + l) = mm_x c (2 * s + l) % 4 := if_pos z
    rw [e4, ← e5]
    exact h
  · have e4 : nI (mm_x c (2 * s + l)) &&& (1 : Int32) = nI (mm_x c (2 * s + l) % 2) := pk_andN (by omega) 1 (by decide)
    have e5 : mm_a c (2 * s + l) = mm_x c (2 * s + l) % 2 := if_neg (by omega)
    rw [e4, ← e5]
    exact h
theorem mm_bit : ∀ w, w < 64 → ∀ k, k < 6 → (nI w >>> (nI k &&& 31)) &&& 1 = nI (w / 2 ^ k % 2) := by decide +kernel
theorem mm_lenK : ∀ w, w < 64 → ∀ k, k < 7 → 1 ≤ k → (nI w >>> (nI k &&& 31) ≤ 0 ↔ mm_len w < k) := by decide +kernel
theorem mm_letK : ∀ w, w < 64 → ∀ k, k < 6 → (nI w < (2 : Int32) <<< (nI k &&& 31) ↔ mm_len w ≤ k) := by decide +kernel
theorem mm_length {post : Int32 → Prop} {w : Nat} (hw : w < 64) (h : post (nI (mm_len w))) : wpL_length post () (nI w) := by
  unfold wpL_length
  refine pk_loop (fun n i s => wL_length_4 post (nI w) n s (nI i)) (fun i s => 1 ≤ i ∧ s = nI (min (i - 1) (mm_len w))) 7 1 0 (by omega) ⟨by omega, by rw [show min (1 - 1) (mm_len w) = 0 by omega]; rfl⟩ ?_ ?_
  · rintro n s ⟨_, hs⟩
    subst hs
    refine pk_le 7 7 (fun _ => ?_) (fun z => absurd z (by omega))
    have h5 := mm_len_5 w
    rw [show min (7 - 1) (mm_len w) = mm_len w by omega]
    exact h
  · rintro n i s hi ⟨h1, hs⟩ hw2
    subst hs
    refine pk_le 7 i (fun z => absurd z (by omega)) (fun _ => ?_)
    refine ek_if (mm_lenK w hw i (by omega) h1) (fun z => ?_) (fun z => ?_)
    · refine nm_r (e' := nI (min (i - 1) (mm_len w))) (by rw [show (0 : Int32) = nI 0 from rfl, nI_add, Nat.add_zero]) (nm_r (nI_1 i) (hw2 _ ⟨by omega, ?_⟩))
      rw [show min (i + 1 - 1) (mm_len w) = min (i - 1) (mm_len w) by omega]
    · refine nm_r (e' := nI (min (i - 1) (mm_len w) + 1)) (nI_1 _) (nm_r (nI_1 i) (hw2 _ ⟨by omega, ?_⟩))
      rw [show min (i + 1 - 1) (mm_len w) = min (i - 1) (mm_len w) + 1 by omega]
theorem mm_half (w k : Nat) : w / 2 ^ k / 2 = w / 2 ^ (k + 1) := by
  rw [Nat.pow_succ, Nat.div_div_eq_div_mul]
theorem mm_sub1 (x : Int32) : x + (-1) = x - 1 := (Int32.sub_eq_add_neg x 1).symm
theorem mm_neg1 : nI 0 - 1 < 0 := by decide
/-- within one machine, the places are the states -/
theorem mm_run3 (c : Int32) {s : Nat} (hs : s < 3) : ∀ j w, mm_run (mm_n c) s j w < 3 := by
  intro j
  induction j with
  | zero => exact fun _ => hs
  | succ j ih =>
    intro w
    have h1 := ih (w / 2)
    have h2 := mm_n3 c (2 * mm_run (mm_n c) s j (w / 2) + w % 2)
    show 6 * (mm_run (mm_n c) s j (w / 2) / 6) + mm_n c (2 * mm_run (mm_n c) s j (w / 2) + w % 2) < 3
    omega
theorem mm_runS (c : Int32) {s : Nat} (hs : s < 3) (j w : Nat) : mm_run (mm_n c) s (j + 1) w = mm_n c (2 * mm_run (mm_n c) s j (w / 2) + w % 2) := by
  have h1 := mm_run3 c hs j (w / 2)
  show 6 * (mm_run (mm_n c) s j (w / 2) / 6) + mm_n c (2 * mm_run (mm_n c) s j (w / 2) + w % 2) = _
  omega
theorem mm_lrsp {post : Int32 → Prop} {c : Int32} {s w : Nat} (hs : s < 3) (hw : w < 64) : ∀ k i, k ≤ 5 → post (nI (mm_rsp (mm_n c) (mm_a c) s (i + k) w)) → wL_response_13 post c (nI w) (k + 1) (nI (mm_run (mm_n c) s i (w / 2 ^ k))) (nI (mm_rsp (mm_n c) (mm_a c) s i (w / 2 ^ k))) (nI k - 1) := by
  intro k
  induction k with
  | zero =>
    intro i _ h
    refine br_t mm_neg1 ?_
    rw [Nat.pow_zero, Nat.div_one]
    exact h
  | succ k ih =>
    intro i hk h
    rw [nI_pred]
    refine br_f (nI_pos (by omega)) (nm_r (mm_bit w hw k (by omega)) ?_)
    have e1 : w / 2 ^ (k + 1) = w / 2 ^ k / 2 := (mm_half w k).symm
    have g := ih (i + 1) (by omega) (by rw [show i + 1 + k = i + (k + 1) by omega]; exact h)
    rw [mm_runS c hs, ← e1] at g
    refine mm_answer (nm_r (e' := nI (mm_rsp (mm_n c) (mm_a c) s (i + 1) (w / 2 ^ k))) ?_ (mm_next (nm_r (mm_sub1 (nI k)) g)))
    rw [show (4 : Int32) = nI 4 from rfl, pk_mul, nI_add]
    show nI (4 * mm_rsp (mm_n c) (mm_a c) s i (w / 2 ^ (k + 1)) + mm_a c (2 * mm_run (mm_n c) s i (w / 2 ^ (k + 1)) + w / 2 ^ k % 2)) = nI (4 * mm_rsp (mm_n c) (mm_a c) s i (w / 2 ^ k / 2) + mm_a c (2 * mm_run (mm_n c) s i (w / 2 ^ k / 2) + w / 2 ^ k % 2))
    rw [e1]
/-- the law's answers and ways, of a whole word -/
def mm_R (c : Int32) (s w : Nat) : Nat := mm_rsp (mm_n c) (mm_a c) s (mm_len w) w
def mm_W (c : Int32) (s w : Nat) : Nat := mm_run (mm_n c) s (mm_len w) w
theorem mm_response {post : Int32 → Prop} {c : Int32} {s w : Nat} (hs : s < 3) (h0 : 0 < w) (hw : w < 64) (h : post (nI (mm_R c s w))) : wpL_response post () c (nI s) (nI w) := by
  unfold wpL_response
  refine mm_length hw (nm_e ⟨mm_len w + 1, ?_⟩)
  have g := mm_lrsp (post := post) (c := c) hs hw (mm_len w) 0 (mm_len_5 w) (by rw [Nat.zero_add]; exact h)
  exact g
theorem mm_lrun {post : Int32 → Prop} {c : Int32} {s w : Nat} (hs : s < 3) (hw : w < 64) : ∀ k i, k ≤ 5 → post (nI (mm_run (mm_n c) s (i + k) w)) → wL_run_10 post c (nI w) (k + 1) (nI (mm_run (mm_n c) s i (w / 2 ^ k))) (nI k - 1) := by
  intro k
  induction k with
  | zero =>
    intro i _ h
    refine br_t mm_neg1 ?_
    rw [Nat.pow_zero, Nat.div_one]
    exact h
  | succ k ih =>
    intro i hk h
    rw [nI_pred]
    have e1 : w / 2 ^ (k + 1) = w / 2 ^ k / 2 := (mm_half w k).symm
    have g := ih (i + 1) (by omega) (by rw [show i + 1 + k = i + (k + 1) by omega]; exact h)
    rw [mm_runS c hs, ← e1] at g
    refine br_f (nI_pos (by omega)) ?_
    rw [mm_bit w hw k (by omega)]
    exact mm_next (nm_r (mm_sub1 (nI k)) g)
theorem mm_lawrun {post : Int32 → Prop} {c : Int32} {s w : Nat} (hs : s < 3) (h0 : 0 < w) (hw : w < 64) (h : post (nI (mm_W c s w))) : wpL_run post () c (nI s) (nI w) := by
  unfold wpL_run
  refine mm_length hw (nm_e ⟨mm_len w + 1, ?_⟩)
  have g := mm_lrun (post := post) (c := c) hs hw (mm_len w) 0 (mm_len_5 w) (by rw [Nat.zero_add]; exact h)
  exact g
theorem mm_rspB {N A : Nat → Nat} (hA : ∀ k, A k < 4) (p : Nat) : ∀ j w, mm_rsp N A p j w < 4 ^ j := by
  intro j
  induction j with
  | zero => exact fun _ => by show 0 < 4 ^ 0; decide
  | succ j ih =>
    intro w
    have h1 := ih (w / 2)
    have h2 := hA (2 * mm_run N p j (w / 2) + w % 2)
    show 4 * mm_rsp N A p j (w / 2) + A (2 * mm_run N p j (w / 2) + w % 2) < 4 ^ (j + 1)
    rw [Nat.pow_succ]
    omega
theorem mm_RB (c : Int32) (s w : Nat) : mm_R c s w < 1024 := by
  have h1 := mm_rspB (N := mm_n c) (mm_a4 c) s (mm_len w) w
  have h2 : 4 ^ mm_len w ≤ 4 ^ 5 := Nat.pow_le_pow_right (by omega) (mm_len_5 w)
  unfold mm_R
  omega
/-- two states of one machine are alike: words up to two letters -/
theorem mm_lalike {post : Int32 → Prop} {c : Int32} {s t : Nat} (hs : s < 3) (ht : t < 3) (h1 : ¬ mm_F (mm_n c) (mm_a c) 2 s t → post 1) (h0 : mm_F (mm_n c) (mm_a c) 2 s t → post 0) : wpL_alike post () c (nI s) (nI t) := by
  unfold wpL_alike
  refine pk_loop (σ := Unit) (fun n i _ => wL_alike_2 post c (nI s) (nI t) n (nI i)) (fun i _ => 1 ≤ i ∧ ∀ w, 0 < w → w < i → mm_R c s w = mm_R c t w) 8 1 () (by omega) ⟨by omega, fun w h1 h2 => absurd h1 (by omega)⟩ ?_ ?_
  · rintro n _ ⟨_, h⟩
    refine pk_le 8 8 (fun _ => h1 (fun hf => ?_)) (fun z => absurd z (by omega))
    obtain ⟨w, hw, hne⟩ := (mm_wd (mm_n c) (mm_a c) (mm_a4 c) s t 2).mpr hf
    have hl := mm_len_is hw (by omega)
    have hw8 : w < 8 := by
      have : w / 4 = 1 := hw
      omega
    have e := h w hl.2.1 hw8
    unfold mm_R at e
    rw [hl.1] at e
    exact hne e
  · rintro n i _ hi ⟨hi1, h⟩ hw2
    refine pk_le 8 i (fun z => absurd z (by omega)) (fun _ => ?_)
    refine mm_response hs (by omega) (by omega) (mm_response ht (by omega) (by omega) ?_)
    have b1 := mm_RB c s i
    have b2 := mm_RB c t i
    refine pk_eq (mm_R c s i) (mm_R c t i) (fun e => nm_r (nI_1 i) (hw2 () ⟨by omega, fun w g1 g2 => ?_⟩)) (fun e => h0 ?_)
    · by_cases ew : w = i
      · rw [ew]
        exact e
      · exact h w g1 (by omega)
    · have hf : mm_F (mm_n c) (mm_a c) (mm_len i) s t := (mm_wd (mm_n c) (mm_a c) (mm_a4 c) s t (mm_len i)).mp ⟨i, mm_len_1 i (by omega) (by omega), e⟩
      refine mm_F_mono _ _ ?_ hf
      unfold mm_len
      repeat' split
      all_goals omega
end
section
/-- the arrays that a machine's text is in -/
def mm_S (N A : Nat → Nat) (a1 a2 a3 : Nat → Int32) : Prop := (∀ k, k < 2 → a1 k = nI 3) ∧ (∀ k, k < 24 → a2 k = nI (N k)) ∧ (∀ k, k < 24 → a3 k = nI (A k)) ∧ (∀ k, N k < 3) ∧ (∀ k, A k < 4)
/-- the table apart holds H -/
def mm_H (H : Nat → Nat → Nat) (a4 : Nat → Int32) : Prop := ∀ p q, p < 12 → q < 12 → a4 (12 * p + q) = nI (H p q)
section
variable {N A : Nat → Nat} {c0 c1 : Int32} {a1 a2 a3 a4 a5 a6 a7 a8 : Nat → Int32}
theorem mm_ism {post : Int32 → Prop} {m : Nat} (hm : m < 2) (h : post 1) : wpX_isMachine post () (nI m) := by
  unfold wpX_isMachine
  exact pk_eq m 0 (fun _ => h) (fun _ => pk_eq m 1 (fun _ => h) (fun _ => absurd hm (by omega)))
theorem mm_place {post : Int32 → Prop} {m s : Nat} (hS : mm_S N A a1 a2 a3) (hm : m < 2) (hs : s < 3) (h : post (nI (6 * m + s))) : wpX_placeOf post (c0, c1, a1, a2, a3, a4, a5, a6, a7, a8) (nI (8 * m + s)) := by
  have e1 : nI (8 * m + s) >>> ((3 : Int32) &&& 31) = nI m := by
    rw [pk_shrN (by omega) _ 3 (by decide)]
    rw [show (8 * m + s) / 2 ^ 3 = m by omega]
  have e2 : nI (8 * m + s) &&& 7 = nI s := by
    rw [pk_andN (by omega) 3 (by decide)]
    rw [show (8 * m + s) % 2 ^ 3 = s by omega]
  unfold wpX_placeOf
  dsimp only
  refine nm_r e1 (nm_r e2 (mm_ism hm (br_f (by decide) ⟨pk_in m 2 hm, ?_⟩)))
  rw [nI_clamp (show m < 2 ^ 31 by omega), hS.1 m hm]
  refine pk_le 3 s (fun z => absurd z (by omega)) (fun _ => ?_)
  rw [show (6 : Int32) = nI 6 from rfl, pk_mul, nI_add]
  exact h
theorem mm_after {post : Int32 → Prop} {p l : Nat} (hS : mm_S N A a1 a2 a3) (hp : p < 12) (hl : l < 2) (h : post (nI (mm_nx N p l))) : wpX_after post (c0, c1, a1, a2, a3, a4, a5, a6, a7, a8) (nI p) (nI l) := by
  have e1 : (2 : Int32) * nI p + nI l = nI (2 * p + l) := by
    rw [show (2 : Int32) = nI 2 from rfl, pk_mul, nI_add]
  have e2 : nI p / 6 = nI (p / 6) := pk_div (d := 6) (by omega) (by omega) (by omega)
  unfold wpX_after
  dsimp only
  rw [e1, e2]
  refine ⟨by decide, pk_in (2 * p + l) 24 (by omega), ?_⟩
  rw [nI_clamp (show 2 * p + l < 2 ^ 31 by omega), hS.2.1 _ (by omega), show (6 : Int32) = nI 6 from rfl, pk_mul, nI_add]
  exact h
theorem mm_there {post : Int32 → Prop} {p : Nat} (hS : mm_S N A a1 a2 a3) (hp : p < 12) (h1 : p % 6 < 3 → post 1) (h0 : ¬ p % 6 < 3 → post 0) : wpX_isThere post (c0, c1, a1, a2, a3, a4, a5, a6, a7, a8) (nI p) := by
  have e1 : nI p - nI p / 6 * 6 = nI (p % 6) := pk_rem (d := 6) (by omega) (by omega) (by omega)
  have e2 : nI p / 6 = nI (p / 6) := pk_div (d := 6) (by omega) (by omega) (by omega)
  unfold wpX_isThere
  dsimp only
  rw [e1, e2]
  refine ⟨by decide, by decide, pk_in (p / 6) 2 (by omega), ?_⟩
  rw [nI_clamp (show p / 6 < 2 ^ 31 by omega), hS.1 _ (by omega)]
  exact pk_le 3 (p % 6) (fun z => h0 (by omega)) (fun z => h1 (by omega))
theorem mm_letters {post : Int32 → Prop} {w : Nat} (hw : w < 64) (h : post (nI (mm_len w))) : wpX_lettersOf post () (nI w) := by
  have h5 := mm_len_5 w
  unfold wpX_lettersOf
  refine pk_loop (σ := Unit) (fun n i _ => wX_lettersOf_2 post (nI w) n (nI i)) (fun _ _ => True) (mm_len w) 0 () (by omega) trivial ?_ ?_
  · intro n _ _
    refine pk_le 11 (mm_len w) (fun z => absurd z (by omega)) (fun _ => ?_)
    exact br_t ((mm_letK w hw (mm_len w) (by omega)).mpr (Nat.le_refl _)) h
  · intro n i _ hi _ hw2
    refine pk_le 11 i (fun z => absurd z (by omega)) (fun _ => ?_)
    exact br_f (fun z => absurd ((mm_letK w hw i (by omega)).mp z) (by omega)) (nm_r (nI_1 i) (hw2 () trivial))
theorem mm_run12 (hN : ∀ k, N k < 3) {p : Nat} (hp : p < 12) : ∀ j w, mm_run N p j w < 12 := by
  intro j
  induction j with
  | zero => exact fun _ => hp
  | succ j ih => exact fun w => mm_nx_12 hN _ (ih _)
theorem mm_xrsp {post : Int32 → Prop} (hS : mm_S N A a1 a2 a3) {p w : Nat} (hp : p < 12) (hw : w < 64) : ∀ k i, k ≤ 5 → post (nI (mm_rsp N A p (i + k) w)) → wX_response_42 post (nI w) c0 c1 a1 a2 a3 a4 a5 a6 a7 a8 (k + 1) (nI (mm_run N p i (w / 2 ^ k))) (nI (mm_rsp N A p i (w / 2 ^ k))) (nI k - 1) := by
  intro k
  induction k with
  | zero =>
    intro i _ h
    refine br_t mm_neg1 ?_
    rw [Nat.pow_zero, Nat.div_one]
    exact h
  | succ k ih =>
    intro i hk h
    rw [nI_pred]
    have e1 : w / 2 ^ (k + 1) = w / 2 ^ k / 2 := (mm_half w k).symm
    have hr := mm_run12 hS.2.2.2.1 hp i (w / 2 ^ (k + 1))
    have g := ih (i + 1) (by omega) (by rw [show i + 1 + k = i + (k + 1) by omega]; exact h)
    have e3 : (2 : Int32) * nI (mm_run N p i (w / 2 ^ (k + 1))) + nI (w / 2 ^ k % 2) = nI (2 * mm_run N p i (w / 2 ^ (k + 1)) + w / 2 ^ k % 2) := by
      rw [show (2 : Int32) = nI 2 from rfl, pk_mul, nI_add]
    refine br_f (nI_pos (by omega)) (nm_r (mm_bit w hw k (by omega)) ?_)
    rw [e3, nI_clamp (show 2 * mm_run N p i (w / 2 ^ (k + 1)) + w / 2 ^ k % 2 < 2 ^ 31 by omega), hS.2.2.1 _ (by omega)]
    refine ⟨vp_in_nI (by omega) (by omega), nm_r (e' := nI (mm_rsp N A p (i + 1) (w / 2 ^ k))) ?_ (mm_after hS hr (by omega) (nm_r (mm_sub1 (nI k)) ?_))⟩
    · rw [show (4 : Int32) = nI 4 from rfl, pk_mul, nI_add]
      show nI (4 * mm_rsp N A p i (w / 2 ^ (k + 1)) + A (2 * mm_run N p i (w / 2 ^ (k + 1)) + w / 2 ^ k % 2)) = nI (4 * mm_rsp N A p i (w / 2 ^ k / 2) + A (2 * mm_run N p i (w / 2 ^ k / 2) + w / 2 ^ k % 2))
      rw [e1]
    · rw [e1]
      exact g
theorem mm_xresponse {post : Int32 → Prop} (hS : mm_S N A a1 a2 a3) {m s w : Nat} (hm : m < 2) (hs : s < 3) (h0 : 0 < w) (hw : w < 64) (h : post (nI (mm_rsp N A (6 * m + s) (mm_len w) w))) : wpX_response post (c0, c1, a1, a2, a3, a4, a5, a6, a7, a8) (nI (8 * m + s)) (nI w) := by
  unfold wpX_response
  dsimp only
  refine mm_place hS hm hs (br_t (nI_pos' (by omega)) (pk_lt w 1 (fun z => absurd z (by omega)) (fun _ => pk_le w 4095 (fun _ => mm_letters hw (nm_e ⟨mm_len w + 1, ?_⟩)) (fun z => absurd z (by omega)))))
  have g := mm_xrsp (post := post) (c0 := c0) (c1 := c1) (a4 := a4) (a5 := a5) (a6 := a6) (a7 := a7) (a8 := a8) hS (show 6 * m + s < 12 by omega) hw (mm_len w) 0 (mm_len_5 w) (by rw [Nat.zero_add]; exact h)
  exact g
theorem mm_xr39 {post : Int32 → Prop} (hS : mm_S N A a1 a2 a3) {p w : Nat} (hp : p < 12) (hw : w < 64) : ∀ k i, k ≤ 5 → post (nI (mm_run N p (i + k) w % 6)) → wX_run_39 post (nI w) c0 c1 a1 a2 a3 a4 a5 a6 a7 a8 (k + 1) (nI (mm_run N p i (w / 2 ^ k))) (nI k - 1) := by
  intro k
  induction k with
  | zero =>
    intro i _ h
    have hr := mm_run12 hS.2.2.2.1 hp i (w / 2 ^ 0)
    refine br_t mm_neg1 ⟨by decide, ?_⟩
    have e1 : nI (mm_run N p i (w / 2 ^ 0)) - nI (mm_run N p i (w / 2 ^ 0)) / 6 * 6 = nI (mm_run N p i (w / 2 ^ 0) % 6) := pk_rem (d := 6) (by omega) (by omega) (by omega)
    rw [e1, Nat.pow_zero, Nat.div_one]
    exact h
  | succ k ih =>
    intro i hk h
    rw [nI_pred]
    have e1 : w / 2 ^ (k + 1) = w / 2 ^ k / 2 := (mm_half w k).symm
    have hr := mm_run12 hS.2.2.2.1 hp i (w / 2 ^ (k + 1))
    have g := ih (i + 1) (by omega) (by rw [show i + 1 + k = i + (k + 1) by omega]; exact h)
    refine br_f (nI_pos (by omega)) ?_
    rw [mm_bit w hw k (by omega)]
    refine mm_after hS hr (by omega) (nm_r (mm_sub1 (nI k)) ?_)
    rw [e1]
    exact g
theorem mm_xrun {post : Int32 → Prop} (hS : mm_S N A a1 a2 a3) {m s w : Nat} (hm : m < 2) (hs : s < 3) (h0 : 0 < w) (hw : w < 64) (h : post (nI (mm_run N (6 * m + s) (mm_len w) w % 6))) : wpX_run post (c0, c1, a1, a2, a3, a4, a5, a6, a7, a8) (nI (8 * m + s)) (nI w) := by
  unfold wpX_run
  dsimp only
  refine mm_place hS hm hs (br_t (nI_pos' (by omega)) (pk_lt w 1 (fun z => absurd z (by omega)) (fun _ => pk_le w 4095 (fun _ => mm_letters hw (nm_e ⟨mm_len w + 1, ?_⟩)) (fun z => absurd z (by omega)))))
  have g := mm_xr39 (post := post) (c0 := c0) (c1 := c1) (a4 := a4) (a5 := a5) (a6 := a6) (a7 := a7) (a8 := a8) hS (show 6 * m + s < 12 by omega) hw (mm_len w) 0 (mm_len_5 w) (by rw [Nat.zero_add]; exact h)
  exact g
/-- goesTo: over any table -/
theorem mm_goes {post : Int32 → Prop} {H : Nat → Nat → Nat} (hS : mm_S N A a1 a2 a3) (hH : mm_H H a4) (hB : ∀ p q, H p q < 2 ^ 31) {p q m : Nat} (hp : p < 12) (hq : q < 12) (hm : m < 2 ^ 31) (h1 : (H (mm_nx N p 0) (mm_nx N q 0) = m ∨ H (mm_nx N p 1) (mm_nx N q 1) = m) → post 1) (h0 : ¬ (H (mm_nx N p 0) (mm_nx N q 0) = m ∨ H (mm_nx N p 1) (mm_nx N q 1) = m) → post 0) : wpX_goesTo post (c0, c1, a1, a2, a3, a4, a5, a6, a7, a8) (nI p) (nI q) (nI m) := by
  have step : ∀ (l : Nat) (A1 B1 : Prop), l < 2 → (H (mm_nx N p l) (mm_nx N q l) = m → A1) → (H (mm_nx N p l) (mm_nx N q l) ≠ m → B1) → vp_in ((12 * nI (mm_nx N p l)) + nI (mm_nx N q l)) 144 ∧ (((a4 ((12 * nI (mm_nx N p l)) + nI (mm_nx N q l)).toNatClampNeg) = nI m → A1) ∧ (¬ (a4 ((12 * nI (mm_nx N p l)) + nI (mm_nx N q l)).toNatClampNeg) = nI m → B1)) := by
    intro l A1 B1 hl f g
    have b1 := mm_nx_12 hS.2.2.2.1 l hp
    have b2 := mm_nx_12 hS.2.2.2.1 l hq
    have e : (12 : Int32) * nI (mm_nx N p l) + nI (mm_nx N q l) = nI (12 * mm_nx N p l + mm_nx N q l) := by
      rw [show (12 : Int32) = nI 12 from rfl, pk_mul, nI_add]
    rw [e, nI_clamp (show 12 * mm_nx N p l + mm_nx N q l < 2 ^ 31 by omega), hH _ _ b1 b2]
    exact ⟨vp_in_nI (by omega) (by omega), pk_eq _ _ f g rfl rfl (hB _ _) hm⟩
  unfold wpX_goesTo
  dsimp only
  refine ⟨3, ?_⟩
  refine pk_le 2 0 (fun z => absurd z (by omega)) (fun _ => ?_)
  refine mm_after (l := 0) hS hp (by omega) (mm_after (l := 0) hS hq (by omega) (step 0 _ _ (by omega) (fun e => h1 (Or.inl e)) (fun e0 => nm_r (nI_1 0) ?_)))
  refine pk_le 2 1 (fun z => absurd z (by omega)) (fun _ => ?_)
  refine mm_after (l := 1) hS hp (by omega) (mm_after (l := 1) hS hq (by omega) (step 1 _ _ (by omega) (fun e => h1 (Or.inr e)) (fun e1 => nm_r (nI_1 1) ?_)))
  exact pk_le 2 2 (fun _ => h0 (fun z => z.elim e0 e1)) (fun z => absurd z (by omega))
end
end
section
/-- the table in the middle of a round -/
def mm_mix (N A : Nat → Nat) (m i p q : Nat) : Nat := if 12 * p + q < i then mm_T N A (m + 1) p q else mm_T N A m p q
section
variable {N A : Nat → Nat} {c0 c1 : Int32} {a1 a2 a3 a4 a5 a6 a7 a8 : Nat → Int32}
theorem mm_mix1 {m i p q : Nat} : mm_mix N A m i p q = m + 1 ↔ mm_T N A m p q = m + 1 := by
  unfold mm_mix
  split
  · exact mm_T_mix
  · exact Iff.rfl
theorem mm_mixB {m i p q : Nat} : mm_mix N A m i p q ≤ m + 2 := by
  have h1 := mm_T_le (N := N) (A := A) (m + 1) p q
  have h2 := mm_T_le (N := N) (A := A) m p q
  unfold mm_mix
  split <;> omega
theorem mm_mixS {s s' : Nat → Int32} {m i : Nat} (h : mm_H (mm_mix N A m i) s) (ho : ∀ j, j ≠ i → s' j = s j) (hv : s' i = nI (mm_T N A (m + 1) (i / 12) (i % 12))) : mm_H (mm_mix N A m (i + 1)) s' := by
  intro p q hp hq
  by_cases e : 12 * p + q = i
  · have e1 : i / 12 = p := by omega
    have e2 : i % 12 = q := by omega
    rw [e, hv, e1, e2]
    unfold mm_mix
    rw [if_pos (by omega)]
  · rw [ho _ e, h p q hp hq]
    unfold mm_mix
    by_cases z : 12 * p + q < i
    · rw [if_pos z, if_pos (by omega)]
    · rw [if_neg z, if_neg (by omega)]
theorem mm_129 {post : St2 → Prop} {J : Int32 → (Nat → Int32) → (Nat → Int32) → (Nat → Int32) → (Nat → Int32) → (Nat → Int32) → (Nat → Int32) → (Nat → Int32) → (Nat → Int32) → Prop} {m : Nat} (hS : mm_S N A a1 a2 a3) (hm : m ≤ 10) (hH : mm_H (mm_T N A m) a4) (hJ : ∀ s, mm_H (mm_T N A (m + 1)) s → J (nI (m + 2 + 1)) a1 a2 a3 s a5 a6 a7 a8) : ∃ n, wX_refresh_129 post J (nI (m + 2)) c0 c1 n 0 a1 a2 a3 a4 a5 a6 a7 a8 := by
  refine pk_loop (fun n i s => wX_refresh_129 post J (nI (m + 2)) c0 c1 n (nI i) a1 a2 a3 s a5 a6 a7 a8) (fun i s => mm_H (mm_mix N A m i) s) 144 0 a4 (by omega) ?_ ?_ ?_
  · intro p q hp hq
    rw [hH p q hp hq]
    unfold mm_mix
    rw [if_neg (by omega)]
  · intro n s h
    refine pk_le 144 144 (fun _ => nm_r (nI_1 (m + 2)) (hJ s ?_)) (fun z => absurd z (by omega))
    intro p q hp hq
    rw [h p q hp hq]
    unfold mm_mix
    rw [if_pos (by omega)]
  · intro n i s hi h hw2
    have hp : i / 12 < 12 := by omega
    have hq : i % 12 < 12 := by omega
    have hval : s i = nI (mm_T N A m (i / 12) (i % 12)) := by
      have g := h (i / 12) (i % 12) hp hq
      rw [show 12 * (i / 12) + i % 12 = i by omega] at g
      rw [g]
      unfold mm_mix
      rw [if_neg (by omega)]
    have hT := mm_T_le (N := N) (A := A) m (i / 12) (i % 12)
    have e1 : nI i / 12 = nI (i / 12) := pk_div (d := 12) (by omega) (by omega) (by omega)
    have e2 : nI i - nI i / 12 * 12 = nI (i % 12) := pk_rem (d := 12) (by omega) (by omega) (by omega)
    have e3 : nI (m + 2) - 1 = nI (m + 1) := nI_pred (m + 1)
    refine pk_le 144 i (fun z => absurd z (by omega)) (fun _ => ⟨pk_in i 144 hi, ?_⟩)
    rw [nI_clamp (show i < 2 ^ 31 by omega), hval, e2, e1, e3]
    have keep : mm_T N A (m + 1) (i / 12) (i % 12) = mm_T N A m (i / 12) (i % 12) → mm_H (mm_mix N A m (i + 1)) s := fun z => mm_mixS h (fun _ _ => rfl) (by rw [hval, z])
    refine pk_eq (mm_T N A m (i / 12) (i % 12)) 0 (fun z => ⟨by decide, mm_there hS hp (fun t1 => br_f (by decide) ⟨by decide, mm_there hS hq (fun t2 => br_f (by decide) ⟨by decide, by decide, mm_goes (H := mm_mix N A m i) hS h (fun p q => by have := mm_mixB (N := N) (A := A) (m := m) (i := i) (p := p) (q := q); omega) hp hq (by omega) (fun g => br_f (by decide) ⟨pk_in i 144 hi, nm_e (nm_r (nI_1 i) (hw2 _ ?_))⟩) (fun g => br_t rfl ⟨pk_in i 144 hi, nm_e (nm_r (nI_1 i) (hw2 _ ?_))⟩)⟩) (fun t2 => br_t rfl (nm_r (nI_1 i) (hw2 _ ?_)))⟩) (fun t1 => br_t rfl (nm_r (nI_1 i) (hw2 _ ?_)))⟩) (fun z => nm_r (nI_1 i) (hw2 _ ?_))
    · refine mm_mixS h (fun j hj => pk_un hj) ?_
      rw [pk_us]
      rw [mm_mix1, mm_mix1] at g
      have e : mm_T N A (m + 1) (i / 12) (i % 12) = m + 2 := by
        show (if _ then _ else _) = _
        rw [if_pos ⟨z, t1, t2⟩, if_pos g]
      rw [e]
    · refine mm_mixS h (fun j hj => pk_un hj) ?_
      rw [pk_us]
      rw [mm_mix1, mm_mix1] at g
      have e : mm_T N A (m + 1) (i / 12) (i % 12) = 0 := by
        show (if _ then _ else _) = _
        rw [if_pos ⟨z, t1, t2⟩, if_neg g]
      rw [e]
      rfl
    · exact keep (if_neg (fun y => t2 y.2.2))
    · exact keep (if_neg (fun y => t1 y.2.1))
    · exact keep (if_neg (fun y => z y.1))
theorem mm_121 {M : Nat} (hM : M = 10) {post : St2 → Prop} (hS : mm_S N A a1 a2 a3) (hH : mm_H (mm_T N A 0) a4) (h : ∀ s, mm_H (mm_T N A M) s → post (c0, c1, a1, a2, a3, s, a5, a6, a7, a8)) : ∃ n, wX_refresh_121 post c0 c1 n 2 a1 a2 a3 a4 a5 a6 a7 a8 := by
  refine pk_loop (fun n m s => wX_refresh_121 post c0 c1 n (nI (m + 2)) a1 a2 a3 s a5 a6 a7 a8) (fun m s => mm_H (mm_T N A m) s) M 0 a4 (by omega) hH ?_ ?_
  · intro n s hs
    exact pk_lt 11 (M + 2) (fun _ => h s hs) (fun z => absurd z (by omega))
  · intro n m s hm hs hw2
    exact pk_lt 11 (m + 2) (fun z => absurd z (by omega)) (fun _ => mm_129 hS (by omega) hs (fun s' hs' => hw2 s' hs'))
theorem mm_74 {post : St2 → Prop} {J : Int32 → (Nat → Int32) → (Nat → Int32) → (Nat → Int32) → (Nat → Int32) → (Nat → Int32) → (Nat → Int32) → (Nat → Int32) → (Nat → Int32) → Prop} {i p q : Nat} (hS : mm_S N A a1 a2 a3) (hi : i < 144) (hp : p < 12) (hq : q < 12) (h1 : p % 6 < 3 → q % 6 < 3 → J (nI (i + 1)) a1 a2 a3 (upd a4 i 1) a5 a6 a7 a8) (h0 : ¬ (p % 6 < 3 ∧ q % 6 < 3) → J (nI (i + 1)) a1 a2 a3 (upd a4 i 0) a5 a6 a7 a8) : wX_refresh_74 post J (nI i) (nI p) (nI q) c0 c1 a1 a2 a3 a4 a5 a6 a7 a8 := by
  unfold wX_refresh_74 wX_refresh_79
  rw [nI_clamp (show i < 2 ^ 31 by omega)]
  exact br_f (by decide) (mm_there hS hp (fun t1 => br_f (by decide) (mm_there hS hq (fun t2 => br_f (by decide) ⟨pk_in i 144 hi, nm_e (nm_r (nI_1 i) (h1 t1 t2))⟩) (fun t2 => br_t rfl ⟨pk_in i 144 hi, nm_e (nm_r (nI_1 i) (h0 (fun z => t2 z.2)))⟩))) (fun t1 => br_t rfl ⟨pk_in i 144 hi, nm_e (nm_r (nI_1 i) (h0 (fun z => t1 z.1)))⟩))
theorem mm_79 {post : St2 → Prop} {J : Int32 → (Nat → Int32) → (Nat → Int32) → (Nat → Int32) → (Nat → Int32) → (Nat → Int32) → (Nat → Int32) → (Nat → Int32) → (Nat → Int32) → Prop} {i : Nat} {x2 x3 : Int32} (hi : i < 144) (h : J (nI (i + 1)) a1 a2 a3 (upd a4 i 0) a5 a6 a7 a8) : wX_refresh_79 post J (nI i) x2 x3 0 c0 c1 a1 a2 a3 a4 a5 a6 a7 a8 := by
  unfold wX_refresh_79
  rw [nI_clamp (show i < 2 ^ 31 by omega)]
  exact br_t rfl ⟨pk_in i 144 hi, nm_e (nm_r (nI_1 i) h)⟩
theorem mm_15 {M : Nat} (hM : M = 10) {post : St2 → Prop} (hS : mm_S N A a1 a2 a3) (h : ∀ s, mm_H (mm_T N A M) s → post (c0, c1, a1, a2, a3, s, a5, a6, a7, a8)) : ∃ n, wX_refresh_15 post c0 c1 n 0 a1 a2 a3 a4 a5 a6 a7 a8 := by
  refine pk_loop (fun n i s => wX_refresh_15 post c0 c1 n (nI i) a1 a2 a3 s a5 a6 a7 a8) (fun i s => ∀ p q, p < 12 → q < 12 → 12 * p + q < i → s (12 * p + q) = nI (mm_T N A 0 p q)) 144 0 a4 (by omega) (fun p q _ _ z => absurd z (by omega)) ?_ ?_
  · intro n s hs
    exact pk_le 144 144 (fun _ => mm_121 hM hS (fun p q hp hq => hs p q hp hq (by omega)) h) (fun z => absurd z (by omega))
  · intro n i s hi hs hw2
    have hp : i / 12 < 12 := by omega
    have hq : i % 12 < 12 := by omega
    have e1 : nI i / 12 = nI (i / 12) := pk_div (d := 12) (by omega) (by omega) (by omega)
    have e2 : nI i - nI i / 12 * 12 = nI (i % 12) := pk_rem (d := 12) (by omega) (by omega) (by omega)
    have e3 : ∀ p : Nat, (2 : Int32) * nI p = nI (2 * p) := fun p => pk_mul 2 p
    have hA := hS.2.2.2.2
    have go : ∀ v : Nat, mm_T N A 0 (i / 12) (i % 12) = v → ∀ p q, p < 12 → q < 12 → 12 * p + q < i + 1 → upd s i (nI v) (12 * p + q) = nI (mm_T N A 0 p q) := by
      intro v hv p q hp hq hpq
      by_cases e : 12 * p + q = i
      · have e1 : i / 12 = p := by omega
        have e2 : i % 12 = q := by omega
        rw [e1, e2] at hv
        rw [e, pk_us, hv]
      · rw [pk_un e]
        exact hs p q hp hq (by omega)
    have w74 : (A (2 * (i / 12)) ≠ A (2 * (i % 12)) ∨ A (2 * (i / 12) + 1) ≠ A (2 * (i % 12) + 1)) → wX_refresh_74 post (wX_refresh_15 post c0 c1 n) (nI i) (nI (i / 12)) (nI (i % 12)) c0 c1 a1 a2 a3 s a5 a6 a7 a8 := by
      intro hd
      refine mm_74 hS hi hp hq (fun t1 t2 => hw2 _ (go 1 ?_)) (fun t => hw2 _ (go 0 ?_))
      · exact if_pos ⟨hd, t1, t2⟩
      · exact if_neg (fun z => t z.2)
    refine pk_le 144 i (fun z => absurd z (by omega)) (fun _ => ⟨by decide, nm_r e1 ⟨by decide, nm_r e2 ?_⟩⟩)
    rw [e3, e3, nI_1, nI_1, nI_clamp (show 2 * (i / 12) < 2 ^ 31 by omega), nI_clamp (show 2 * (i % 12) < 2 ^ 31 by omega), nI_clamp (show 2 * (i / 12) + 1 < 2 ^ 31 by omega), nI_clamp (show 2 * (i % 12) + 1 < 2 ^ 31 by omega)]
    rw [hS.2.2.1 (2 * (i / 12)) (by omega), hS.2.2.1 (2 * (i % 12)) (by omega), hS.2.2.1 (2 * (i / 12) + 1) (by omega), hS.2.2.1 (2 * (i % 12) + 1) (by omega)]
    have b1 := hA (2 * (i / 12))
    have b2 := hA (2 * (i % 12))
    have b3 := hA (2 * (i / 12) + 1)
    have b4 := hA (2 * (i % 12) + 1)
    refine ⟨vp_in_nI (by omega) (by omega), vp_in_nI (by omega) (by omega), pk_eq _ _ (fun z0 => ⟨vp_in_nI (by omega) (by omega), vp_in_nI (by omega) (by omega), pk_eq _ _ (fun z1 => ?_) (fun z1 => w74 (Or.inr z1)) rfl rfl (by omega) (by omega)⟩) (fun z0 => w74 (Or.inl z0)) rfl rfl (by omega) (by omega)⟩
    refine mm_79 hi (hw2 _ (go 0 ?_))
    exact if_neg (fun z => z.1.elim (fun y => y z0) (fun y => y z1))
theorem mm_refresh {M : Nat} (hM : M = 10) {post : St2 → Prop} (hS : mm_S N A a1 a2 a3) (hc : c1 = 0 ∨ mm_H (mm_T N A M) a4) (h : ∀ c s, ¬ c = 0 → mm_H (mm_T N A M) s → post (c0, c, a1, a2, a3, s, a5, a6, a7, a8)) : wpX_refresh post (c0, c1, a1, a2, a3, a4, a5, a6, a7, a8) := by
  unfold wpX_refresh
  dsimp only
  exact br_c (fun _ => mm_15 hM hS (fun s hs => h 1 s (by decide) hs)) (fun z => h c1 a4 z (hc.resolve_left z))
end
end
section
/-- the walk along a first difference -/
def mm_fw (N A : Nat → Nat) (M p q d a b l c : Nat) : Prop := ∃ i, i + l = d ∧ 1 ≤ l ∧ c / 2 ^ i = 1 ∧ a = mm_run N p i c ∧ b = mm_run N q i c ∧ mm_T N A M a b = l ∧ a % 6 < 3 ∧ b % 6 < 3 ∧ a < 12 ∧ b < 12 ∧ ∀ w, w / 2 ^ d = 1 → w / 2 ^ l < c → mm_rsp N A p d w = mm_rsp N A q d w
/-- v is the least word of d letters that tells p from q -/
def mm_lw (N A : Nat → Nat) (p q d v : Nat) : Prop := v / 2 ^ d = 1 ∧ mm_rsp N A p d v ≠ mm_rsp N A q d v ∧ ∀ w, w < v → w / 2 ^ d = 1 → mm_rsp N A p d w = mm_rsp N A q d w
theorem mm_c1 {c i b : Nat} (h : c / 2 ^ i = 1) (hb : b < 2) : (2 * c + b) / 2 ^ (i + 1) = 1 := by
  have e : (2 * c + b) / 2 ^ (i + 1) = (2 * c + b) / 2 / 2 ^ i := by
    rw [Nat.div_div_eq_div_mul, Nat.pow_succ, Nat.mul_comm (2 ^ i) 2]
  rw [e, show (2 * c + b) / 2 = c by omega]
  exact h
theorem mm_run1 (N : Nat → Nat) (p i c : Nat) {b : Nat} (hb : b < 2) : mm_run N p (i + 1) (2 * c + b) = mm_nx N (mm_run N p i c) b := by
  show mm_nx N (mm_run N p i ((2 * c + b) / 2)) ((2 * c + b) % 2) = _
  rw [show (2 * c + b) / 2 = c by omega, show (2 * c + b) % 2 = b by omega]
theorem mm_rsp1 (N A : Nat → Nat) (p i c : Nat) {b : Nat} (hb : b < 2) : mm_rsp N A p (i + 1) (2 * c + b) = 4 * mm_rsp N A p i c + A (2 * mm_run N p i c + b) := by
  show 4 * mm_rsp N A p i ((2 * c + b) / 2) + A (2 * mm_run N p i ((2 * c + b) / 2) + (2 * c + b) % 2) = _
  rw [show (2 * c + b) / 2 = c by omega, show (2 * c + b) % 2 = b by omega]
theorem mm_fwS {N A : Nat → Nat} {M : Nat} (hM : M = 10) (hN : ∀ k, N k < 3) (hA : ∀ k, A k < 4) {p q d a b l c : Nat} (hd : ¬ mm_F N A (d - 1) p q) (h : mm_fw N A M p q d a b (l + 2) c) : (mm_T N A M (mm_nx N a 0) (mm_nx N b 0) = l + 1 → mm_fw N A M p q d (mm_nx N a 0) (mm_nx N b 0) (l + 1) (2 * c + 0)) ∧ (mm_T N A M (mm_nx N a 0) (mm_nx N b 0) ≠ l + 1 → mm_fw N A M p q d (mm_nx N a 1) (mm_nx N b 1) (l + 1) (2 * c + 1)) := by
  obtain ⟨i, h1, h2, h3, h4, h5, h6, ta, tb, ba, bb, h7⟩ := h
  have hl := mm_T_le (N := N) (A := A) M a b
  have sp : mm_F N A (l + 2) a b ∧ ¬ mm_F N A (l + 1) a b := by
    rcases mm_T_spec hN M a b ta tb with ⟨e, _⟩ | ⟨_, _, g3, g4⟩
    · exact absurd (h6.symm.trans e) (by omega)
    · rw [h6] at g3 g4
      exact ⟨g3, g4⟩
  have n0 : ¬ mm_F N A l (mm_nx N a 0) (mm_nx N b 0) := fun z => sp.2 (Or.inr (Or.inr (Or.inl z)))
  have n1 : ¬ mm_F N A l (mm_nx N a 1) (mm_nx N b 1) := fun z => sp.2 (Or.inr (Or.inr (Or.inr z)))
  have low : ∀ w, w / 2 ^ d = 1 → w / 2 ^ (l + 1) < 2 * c → mm_rsp N A p d w = mm_rsp N A q d w := by
    intro w hw hlt
    refine h7 w hw ?_
    have e := mm_half w (l + 1)
    rw [show l + 2 = l + 1 + 1 from rfl, ← e]
    omega
  constructor
  · intro hT
    exact ⟨i + 1, by omega, by omega, mm_c1 h3 (by omega), by rw [mm_run1 N p i c (by omega), h4], by rw [mm_run1 N q i c (by omega), h5], hT, (mm_nx_th hN a 0).1, (mm_nx_th hN b 0).1, mm_nx_12 hN 0 ba, mm_nx_12 hN 0 bb, fun w hw hlt => low w hw (by omega)⟩
  · intro hT
    have f0 : ¬ mm_F N A (l + 1) (mm_nx N a 0) (mm_nx N b 0) := fun z => hT (mm_T_eq hN (mm_nx_th hN a 0).1 (mm_nx_th hN b 0).1 (by omega) (by omega) z n0)
    have f1 : mm_F N A (l + 1) (mm_nx N a 1) (mm_nx N b 1) := by
      rcases sp.1 with z | z | z | z
      · exact absurd (Or.inl z) sp.2
      · exact absurd (Or.inr (Or.inl z)) sp.2
      · exact absurd z f0
      · exact z
    refine ⟨i + 1, by omega, by omega, mm_c1 h3 (by omega), by rw [mm_run1 N p i c (by omega), h4], by rw [mm_run1 N q i c (by omega), h5], mm_T_eq hN (mm_nx_th hN a 1).1 (mm_nx_th hN b 1).1 (by omega) (by omega) f1 n1, (mm_nx_th hN a 1).1, (mm_nx_th hN b 1).1, mm_nx_12 hN 1 ba, mm_nx_12 hN 1 bb, fun w hw hlt => ?_⟩
    rcases Nat.lt_or_ge (w / 2 ^ (l + 1)) (2 * c) with z | z
    · exact low w hw z
    · apply Classical.byContradiction
      intro hne
      have hd' : d = i + 1 + (l + 1) := by omega
      rw [hd'] at hne
      have hpre := (mm_pre N A hA p q (l + 1) (i + 1) (2 * c + 0)).mp ⟨w, by omega, hne⟩
      rw [mm_run1 N p i c (by omega), mm_run1 N q i c (by omega), ← h4, ← h5] at hpre
      rcases hpre with y | y
      · exact y (mm_nw hA (fun z => hd (mm_F_mono N A (by omega) z)) (mm_c1 h3 (by omega)))
      · exact f0 y
theorem mm_fwE {N A : Nat → Nat} {M : Nat} (hM : M = 10) (hN : ∀ k, N k < 3) (hA : ∀ k, A k < 4) {p q d a b c : Nat} (hd : ¬ mm_F N A (d - 1) p q) (h : mm_fw N A M p q d a b 1 c) : (A (2 * a) = A (2 * b) → mm_lw N A p q d (2 * c + 1)) ∧ (A (2 * a) ≠ A (2 * b) → mm_lw N A p q d (2 * c + 0)) := by
  obtain ⟨i, h1, h2, h3, h4, h5, h6, ta, tb, ba, bb, h7⟩ := h
  have sp : mm_F N A 1 a b := by
    rcases mm_T_spec hN M a b ta tb with ⟨e, _⟩ | ⟨_, _, g3, _⟩
    · exact absurd (h6.symm.trans e) (by omega)
    · rw [h6] at g3
      exact g3
  subst h1
  have he : mm_rsp N A p i c = mm_rsp N A q i c := mm_nw hA hd h3
  have low : ∀ w, w < 2 * c → w / 2 ^ (i + 1) = 1 → mm_rsp N A p (i + 1) w = mm_rsp N A q (i + 1) w := by
    intro w hlt hw
    refine h7 w hw ?_
    rw [Nat.pow_one]
    omega
  constructor
  · intro e
    refine ⟨mm_c1 h3 (by omega), ?_, fun w hlt hw => ?_⟩
    · rw [mm_rsp1 N A p i c (by omega), mm_rsp1 N A q i c (by omega), he, ← h4, ← h5]
      rcases sp with z | z | z | z
      · exact absurd e z
      · omega
      · exact absurd z id
      · exact absurd z id
    · rcases Nat.lt_or_ge w (2 * c) with z | z
      · exact low w z hw
      · rw [show w = 2 * c + 0 by omega, mm_rsp1 N A p i c (by omega), mm_rsp1 N A q i c (by omega), he, ← h4, ← h5, Nat.add_zero, Nat.add_zero, e]
  · intro e
    refine ⟨mm_c1 h3 (by omega), ?_, fun w hlt hw => low w (by omega) hw⟩
    rw [mm_rsp1 N A p i c (by omega), mm_rsp1 N A q i c (by omega), he, ← h4, ← h5, Nat.add_zero, Nat.add_zero]
    omega
/-- w tells p from q -/
def mm_D (N A : Nat → Nat) (p q w : Nat) : Prop := mm_rsp N A p (mm_len w) w ≠ mm_rsp N A q (mm_len w) w
theorem mm_Ddec (N A : Nat → Nat) (p q : Nat) : ∀ w, mm_D N A p q w ∨ ¬ mm_D N A p q w := fun w => Classical.em _
noncomputable def mm_fst (N A : Nat → Nat) (p q n : Nat) : Nat := @mm_lst (mm_D N A p q) (fun _ => Classical.propDecidable _) n
theorem mm_fst0 {N A : Nat → Nat} {M : Nat} (hM : M = 10) (hN : ∀ k, N k < 3) (hA : ∀ k, A k < 4) {p q : Nat} (tp : p % 6 < 3) (tq : q % 6 < 3) (h : mm_T N A M p q = 0) : mm_fst N A p q 64 = 0 := by
  have hf := (mm_T_0 hN tp tq).mp h
  refine @mm_lst_no (mm_D N A p q) (fun _ => Classical.propDecidable _) 64 (fun w h0 h1 hne => ?_)
  have h5 := mm_len_5 w
  exact hne (mm_nw hA (fun z => hf (mm_F_mono N A (by omega) z)) (mm_len_1 w h1 h0))
theorem mm_fst1 {N A : Nat → Nat} {M : Nat} (hM : M = 10) (hN : ∀ k, N k < 3) (hA : ∀ k, A k < 4) {p q v : Nat} (hp : p < 12) (hq : q < 12) (tp : p % 6 < 3) (tq : q % 6 < 3) (h0 : mm_T N A M p q ≠ 0) (h : mm_lw N A p q (mm_T N A M p q) v) : mm_fst N A p q 64 = v := by
  rcases mm_T_spec hN M p q tp tq with ⟨e, _⟩ | ⟨g1, g2, g3, g4⟩
  · exact absurd e h0
  · have h5 : mm_T N A M p q ≤ 5 := by
      rcases Nat.lt_or_ge 5 (mm_T N A M p q) with z | z
      · exact absurd (mm_F_mono N A (by omega) (mm_b6 hN hp hq tp tq g3)) g4
      · exact z
    obtain ⟨v1, v2, v3⟩ := h
    have hl := mm_len_is v1 h5
    refine @mm_lst_is (mm_D N A p q) (fun _ => Classical.propDecidable _) 64 v hl.2.1 hl.2.2 ?_ (fun w hw hwv hne => ?_)
    · show mm_rsp N A p (mm_len v) v ≠ mm_rsp N A q (mm_len v) v
      rw [hl.1]
      exact v2
    · have hw1 := mm_len_1 w (by omega) hw
      rcases Nat.lt_trichotomy (mm_len w) (mm_T N A M p q) with z | z | z
      · exact hne (mm_nw hA (fun y => g4 (mm_F_mono N A (by omega) y)) hw1)
      · have hne' : mm_rsp N A p (mm_len w) w ≠ mm_rsp N A q (mm_len w) w := hne
        rw [z] at hne' hw1
        exact hne' (v3 w hwv hw1)
      · have := mm_len_lt hl.2.1 hl.2.2 (by rw [hl.1]; exact z) w hw1 (mm_len_5 w)
        omega
section
variable {N A : Nat → Nat} {c0 c1 : Int32} {a1 a2 a3 a4 a5 a6 a7 a8 : Nat → Int32}
theorem mm_76 {post : Int32 → Prop} {J : Int32 → Int32 → Int32 → Int32 → Prop} {a b l c z : Nat} (hS : mm_S N A a1 a2 a3) (ha : a < 12) (hb : b < 12) (hz : z < 2) (h : J (nI (mm_nx N a z)) (nI (mm_nx N b z)) (nI (l + 1)) (nI (2 * c + z))) : wX_firstWord_76 post J (nI a) (nI b) (nI (l + 2)) (nI c) (nI z) c0 c1 a1 a2 a3 a4 a5 a6 a7 a8 := by
  unfold wX_firstWord_76
  refine mm_after hS ha hz (mm_after hS hb hz (nm_r (e' := nI (2 * c + z)) ?_ (nm_r (pk_m1 (l + 1)) h)))
  rw [show (2 : Int32) = nI 2 from rfl, pk_mul, nI_add]
theorem mm_28 {M : Nat} (hM : M = 10) {post : Int32 → Prop} {p q d : Nat} (hS : mm_S N A a1 a2 a3) (hH : mm_H (mm_T N A M) a4) (hd : ¬ mm_F N A (d - 1) p q) (h : ∀ v, mm_lw N A p q d v → post (nI v)) : ∀ l a b c, l < 20 → mm_fw N A M p q d a b (l + 1) c → wX_firstWord_28 post c0 c1 a1 a2 a3 a4 a5 a6 a7 a8 (l + 1) (nI a) (nI b) (nI (l + 1)) (nI c) := by
  have hN := hS.2.2.2.1
  have hA := hS.2.2.2.2
  have e2 : ∀ a : Nat, (2 : Int32) * nI a = nI (2 * a) := fun a => pk_mul 2 a
  intro l
  induction l with
  | zero =>
    intro a b c _ hf
    have hE := mm_fwE hM hN hA hd hf
    obtain ⟨i, _, _, _, _, _, _, _, _, ba, bb, _⟩ := hf
    refine pk_le 1 1 (fun _ => ?_) (fun z => absurd z (by omega))
    rw [e2, e2, e2, nI_1, nI_clamp (show 2 * a < 2 ^ 31 by omega), nI_clamp (show 2 * b < 2 ^ 31 by omega), hS.2.2.1 _ (by omega), hS.2.2.1 _ (by omega)]
    have b1 := hA (2 * a)
    have b2 := hA (2 * b)
    refine ⟨vp_in_nI (by omega) (by omega), vp_in_nI (by omega) (by omega), pk_eq _ _ (fun e => h _ (hE.1 e)) (fun e => ?_) rfl rfl (by omega) (by omega)⟩
    have g := h _ (hE.2 e)
    rw [show nI (2 * c + 0) = nI (2 * c) + 0 from (nI_add (2 * c) 0).symm] at g
    exact g
  | succ l ih =>
    intro a b c hl hf
    have hE := mm_fwS hM hN hA hd hf
    obtain ⟨i, _, _, _, _, _, _, _, _, ba, bb, _⟩ := hf
    have bx := mm_nx_12 hN 0 ba
    have by' := mm_nx_12 hN 0 bb
    have hb := mm_T_le (N := N) (A := A) M (mm_nx N a 0) (mm_nx N b 0)
    refine pk_le (l + 2) 1 (fun z => absurd z (by omega)) (fun _ => mm_after (l := 0) hS ba (by omega) (mm_after (l := 0) hS bb (by omega) ?_))
    have e : (12 : Int32) * nI (mm_nx N a 0) + nI (mm_nx N b 0) = nI (12 * mm_nx N a 0 + mm_nx N b 0) := by
      rw [show (12 : Int32) = nI 12 from rfl, pk_mul, nI_add]
    rw [e, nI_clamp (show 12 * mm_nx N a 0 + mm_nx N b 0 < 2 ^ 31 by omega), hH _ _ bx by', show nI (l + 1 + 1) - 1 = nI (l + 1) from nI_pred (l + 1)]
    refine ⟨vp_in_nI (by omega) (by omega), pk_eq _ _ (fun z => ?_) (fun z => ?_) rfl rfl (by omega) (by omega)⟩
    · exact mm_76 (z := 0) hS ba bb (by omega) (ih _ _ _ (by omega) (hE.1 z))
    · exact mm_76 (z := 1) hS ba bb (by omega) (ih _ _ _ (by omega) (hE.2 z))
theorem mm_firstWord {M : Nat} (hM : M = 10) {post : Int32 → Prop} {p q : Nat} (hS : mm_S N A a1 a2 a3) (hH : mm_H (mm_T N A M) a4) (hp : p < 12) (hq : q < 12) (tp : p % 6 < 3) (tq : q % 6 < 3) (h : post (nI (mm_fst N A p q 64))) : wpX_firstWord post (c0, c1, a1, a2, a3, a4, a5, a6, a7, a8) (nI p) (nI q) := by
  have hN := hS.2.2.2.1
  have hA := hS.2.2.2.2
  have hb := mm_T_le (N := N) (A := A) M p q
  have e : (12 : Int32) * nI p + nI q = nI (12 * p + q) := by
    rw [show (12 : Int32) = nI 12 from rfl, pk_mul, nI_add]
  unfold wpX_firstWord
  dsimp only
  rw [e, nI_clamp (show 12 * p + q < 2 ^ 31 by omega), hH _ _ hp hq]
  refine ⟨vp_in_nI (by omega) (by omega), nm_e (pk_eq (mm_T N A M p q) 0 (fun z => ?_) (fun z => ?_))⟩
  · rw [mm_fst0 hM hN hA tp tq z] at h
    exact h
  · obtain ⟨l, el⟩ : ∃ l, mm_T N A M p q = l + 1 := ⟨mm_T N A M p q - 1, by omega⟩
    have hd : ¬ mm_F N A (mm_T N A M p q - 1) p q := by
      rcases mm_T_spec hN M p q tp tq with ⟨e, _⟩ | ⟨_, _, _, g4⟩
      · exact absurd e z
      · exact g4
    have g := mm_28 hM (c0 := c0) (c1 := c1) (a5 := a5) (a6 := a6) (a7 := a7) (a8 := a8) (post := post) hS hH hd (fun v hv => by rw [mm_fst1 hM hN hA hp hq tp tq z hv] at h; exact h) l p q 1 (by omega) ⟨0, by omega, by omega, rfl, rfl, rfl, el, tp, tq, hp, hq, fun w hw hlt => by
      rw [el] at hw
      omega⟩
    have g' : ∃ n, wX_firstWord_28 post c0 c1 a1 a2 a3 a4 a5 a6 a7 a8 n (nI p) (nI q) (nI (l + 1)) (nI 1) := ⟨l + 1, g⟩
    rw [← el] at g'
    exact g'
theorem mm_difference {M : Nat} (hM : M = 10) {post : Int32 → St2 → Prop} {x y : Int32} {m s m' t : Nat} (hx : x = nI (8 * m + s)) (hy : y = nI (8 * m' + t)) (hm : m < 2) (hs : s < 3) (hm' : m' < 2) (ht : t < 3) (hS : mm_S N A a1 a2 a3) (hc : c1 = 0 ∨ mm_H (mm_T N A M) a4) (h : ∀ c f, ¬ c = 0 → mm_H (mm_T N A M) f → post (nI (mm_fst N A (6 * m + s) (6 * m' + t) 64)) (c0, c, a1, a2, a3, f, a5, a6, a7, a8)) : wpX_difference post (c0, c1, a1, a2, a3, a4, a5, a6, a7, a8) x y := by
  subst hx hy
  unfold wpX_difference
  dsimp only
  refine mm_place hS hm hs (mm_place hS hm' ht (br_f (nI_pos (by omega)) (br_t (nI_pos' (by omega)) (mm_refresh hM hS hc (fun c f hc' hf => ?_)))))
  exact mm_firstWord hM hS hf (by omega) (by omega) (by omega) (by omega) (h c f hc' hf)
theorem mm_alike {M : Nat} (hM : M = 10) {post : Int32 → St2 → Prop} {x y : Int32} {m s m' t : Nat} (hx : x = nI (8 * m + s)) (hy : y = nI (8 * m' + t)) (hm : m < 2) (hs : s < 3) (hm' : m' < 2) (ht : t < 3) (hS : mm_S N A a1 a2 a3) (hc : c1 = 0 ∨ mm_H (mm_T N A M) a4) (h : ∀ c f, ¬ c = 0 → mm_H (mm_T N A M) f → (mm_T N A M (6 * m + s) (6 * m' + t) = 0 → post 1 (c0, c, a1, a2, a3, f, a5, a6, a7, a8)) ∧ (mm_T N A M (6 * m + s) (6 * m' + t) ≠ 0 → post 0 (c0, c, a1, a2, a3, f, a5, a6, a7, a8))) : wpX_alike post (c0, c1, a1, a2, a3, a4, a5, a6, a7, a8) x y := by
  subst hx hy
  unfold wpX_alike
  dsimp only
  refine mm_place hS hm hs (mm_place hS hm' ht (br_f (nI_pos (by omega)) (br_t (nI_pos' (by omega)) (mm_refresh hM hS hc (fun c f hc' hf => ?_)))))
  have hb := mm_T_le (N := N) (A := A) M (6 * m + s) (6 * m' + t)
  have e : (12 : Int32) * nI (6 * m + s) + nI (6 * m' + t) = nI (12 * (6 * m + s) + (6 * m' + t)) := by
    rw [show (12 : Int32) = nI 12 from rfl, pk_mul, nI_add]
  show vp_in ((12 : Int32) * nI (6 * m + s) + nI (6 * m' + t)) 144 ∧ ((f ((12 : Int32) * nI (6 * m + s) + nI (6 * m' + t)).toNatClampNeg = 0 → _) ∧ (¬ f ((12 : Int32) * nI (6 * m + s) + nI (6 * m' + t)).toNatClampNeg = 0 → _))
  rw [e, nI_clamp (show 12 * (6 * m + s) + (6 * m' + t) < 2 ^ 31 by omega), hf _ _ (by omega) (by omega)]
  exact ⟨vp_in_nI (by omega) (by omega), pk_eq (mm_T N A M (6 * m + s) (6 * m' + t)) 0 (h c f hc' hf).1 (h c f hc' hf).2⟩
end
/-- the count of new kinds -/
def mm_fr (H : Nat → Nat → Nat) (s : Nat) : Nat → Nat
  | 0 => 1
  | r + 1 => if mm_fr H s r = 0 then 0 else if H r s = 0 then 0 else 1
def mm_sm (H : Nat → Nat → Nat) : Nat → Nat
  | 0 => 0
  | s + 1 => mm_sm H s + mm_fr H s s
theorem mm_fr1 (H : Nat → Nat → Nat) (s r : Nat) : mm_fr H s r ≤ 1 := by
  cases r with
  | zero => exact Nat.le_refl 1
  | succ r =>
    show (if _ then 0 else if _ then 0 else 1) ≤ 1
    split
    · omega
    · split <;> omega
section
variable {N A : Nat → Nat} {c0 c1 : Int32} {a1 a2 a3 a4 a5 a6 a7 a8 : Nat → Int32}
theorem mm_33 {post : Int32 → St2 → Prop} {J : Int32 → Int32 → Prop} {H : Nat → Nat → Nat} {v s : Nat} (hs : s < 3) (hH : mm_H H a4) (hB : ∀ p q, H p q < 2 ^ 31) (h : J (nI (v + mm_fr H s s)) (nI (s + 1))) : ∃ n, wX_classes_33 post J 0 (nI v) (nI s) c0 c1 a1 a2 a3 a4 a5 a6 a7 a8 n 1 0 := by
  refine pk_loop (σ := Unit) (fun n r _ => wX_classes_33 post J 0 (nI v) (nI s) c0 c1 a1 a2 a3 a4 a5 a6 a7 a8 n (nI (mm_fr H s r)) (nI r)) (fun _ _ => True) s 0 () (by omega) trivial ?_ ?_
  · intro n _ _
    have h1 := mm_fr1 H s s
    refine pk_le s s (fun _ => pk_eq (mm_fr H s s) 0 (fun z => ?_) (fun z => ?_)) (fun z => absurd z (by omega))
    · rw [z] at h
      exact nm_r (e' := nI (v + 0)) (nI_add v 0) (nm_r (nI_1 s) h)
    · have z1 : mm_fr H s s = 1 := by omega
      rw [z1] at h
      exact nm_r (e' := nI (v + 1)) (nI_1 v) (nm_r (nI_1 s) h)
  · intro n r _ hr _ hw2
    have g : wX_classes_33 post J 0 (nI v) (nI s) c0 c1 a1 a2 a3 a4 a5 a6 a7 a8 n (nI (mm_fr H s (r + 1))) (nI (r + 1)) := hw2 () trivial
    have h1 := mm_fr1 H s r
    have e : ((12 : Int32) * ((6 * 0) + nI r) + (6 * 0)) + nI s = nI (12 * r + s) := by
      rw [show (6 : Int32) * 0 = nI 0 from rfl, nI_add, show (12 : Int32) = nI 12 from rfl, pk_mul, nI_add, nI_add]
      rw [show 12 * (0 + r) + 0 + s = 12 * r + s by omega]
    refine pk_le s r (fun z => absurd z (by omega)) (fun _ => pk_eq (mm_fr H s r) 0 (fun z => ?_) (fun z => ?_))
    · have e1 : mm_fr H s (r + 1) = 0 := if_pos z
      rw [e1] at g
      exact nm_r (nI_1 r) g
    · rw [e, nI_clamp (show 12 * r + s < 2 ^ 31 by omega), hH r s (by omega) (by omega)]
      refine ⟨vp_in_nI (by omega) (by omega), pk_eq (H r s) 0 (fun y => ?_) (fun y => ?_) rfl rfl (hB _ _) (by omega)⟩
      · have e1 : mm_fr H s (r + 1) = 0 := by
          show (if _ then 0 else if _ then 0 else 1) = 0
          rw [if_neg z, if_pos y]
        rw [e1] at g
        exact nm_r (nI_1 r) g
      · have e1 : mm_fr H s (r + 1) = 1 := by
          show (if _ then 0 else if _ then 0 else 1) = 1
          rw [if_neg z, if_neg y]
        rw [e1] at g
        exact nm_r (nI_1 r) g
theorem mm_classes {M : Nat} (hM : M = 10) {post : Int32 → St2 → Prop} (hS : mm_S N A a1 a2 a3) (hc : c1 = 0 ∨ mm_H (mm_T N A M) a4) (h : ∀ c f, ¬ c = 0 → mm_H (mm_T N A M) f → post (nI (mm_sm (mm_T N A M) 3)) (c0, c, a1, a2, a3, f, a5, a6, a7, a8)) : wpX_classes post (c0, c1, a1, a2, a3, a4, a5, a6, a7, a8) 0 := by
  unfold wpX_classes
  dsimp only
  refine mm_ism (m := 0) (by omega) (br_f (by decide) (mm_refresh hM hS hc (fun c f hc' hf => ?_)))
  have hB : ∀ p q, mm_T N A M p q < 2 ^ 31 := fun p q => by have := mm_T_le (N := N) (A := A) M p q; omega
  refine pk_loop (σ := Unit) (fun n s _ => wX_classes_17 post 0 c0 c a1 a2 a3 f a5 a6 a7 a8 n (nI (mm_sm (mm_T N A M) s)) (nI s)) (fun _ _ => True) 3 0 () (by omega) trivial ?_ ?_
  · intro n _ _
    refine ⟨pk_in 0 2 (by omega), ?_⟩
    rw [sb_cl0, hS.1 0 (by omega)]
    exact pk_le 3 3 (fun _ => h c f hc' hf) (fun z => absurd z (by omega))
  · intro n s _ hs _ hw2
    refine ⟨pk_in 0 2 (by omega), ?_⟩
    rw [sb_cl0, hS.1 0 (by omega)]
    exact pk_le 3 s (fun z => absurd z (by omega)) (fun _ => mm_33 hs hf hB (hw2 () trivial))
end
end
section
/-- where a set of states goes -/
def mm_tgk (N : Nat → Nat) (S l : Nat) : Nat → Nat
  | 0 => 0
  | s + 1 => if S / 2 ^ s % 2 = 1 then mm_tgk N S l s ||| 2 ^ N (2 * s + l) else mm_tgk N S l s
def mm_tg (N : Nat → Nat) (S l : Nat) : Nat := mm_tgk N S l 3
def mm_im (N : Nat → Nat) : Nat → Nat → Nat
  | 0, _ => 7
  | j + 1, w => mm_tg N (mm_im N j (w / 2)) (w % 2)
def mm_s1 (S : Nat) : Prop := S = 1 ∨ S = 2 ∨ S = 4
def mm_tg3 (n0 n1 n2 S : Nat) : Nat :=
  if S / 2 ^ 2 % 2 = 1 then (if S / 2 ^ 1 % 2 = 1 then (if S / 2 ^ 0 % 2 = 1 then 0 ||| 2 ^ n0 else 0) ||| 2 ^ n1 else (if S / 2 ^ 0 % 2 = 1 then 0 ||| 2 ^ n0 else 0)) ||| 2 ^ n2 else (if S / 2 ^ 1 % 2 = 1 then (if S / 2 ^ 0 % 2 = 1 then 0 ||| 2 ^ n0 else 0) ||| 2 ^ n1 else (if S / 2 ^ 0 % 2 = 1 then 0 ||| 2 ^ n0 else 0))
def mm_sel (n0 n1 n2 a : Nat) : Nat := if a = 0 then n0 else if a = 1 then n1 else n2
theorem mm_tg_3 (N : Nat → Nat) (S l : Nat) : mm_tg N S l = mm_tg3 (N (2 * 0 + l)) (N (2 * 1 + l)) (N (2 * 2 + l)) S := rfl
theorem mm_tg3_dec : ∀ n0, n0 < 3 → ∀ n1, n1 < 3 → ∀ n2, n2 < 3 → ∀ a, a < 3 → ∀ b, b < 3 → ∀ c, c < 3 → mm_tg3 n0 n1 n2 (2 ^ a ||| 2 ^ b ||| 2 ^ c) = 2 ^ mm_sel n0 n1 n2 a ||| 2 ^ mm_sel n0 n1 n2 b ||| 2 ^ mm_sel n0 n1 n2 c := by decide +kernel
theorem mm_tg3_in : ∀ n0, n0 < 3 → ∀ n1, n1 < 3 → ∀ n2, n2 < 3 → ∀ S, S < 7 → (Nat.ble 1 (mm_tg3 n0 n1 n2 (S + 1)) && Nat.ble (mm_tg3 n0 n1 n2 (S + 1)) 7) = true := by decide +kernel
theorem mm_s1_dec : ∀ a, a < 3 → ∀ b, b < 3 → ∀ c, c < 3 → ((2 ^ a ||| 2 ^ b ||| 2 ^ c = 1 ∨ 2 ^ a ||| 2 ^ b ||| 2 ^ c = 2 ∨ 2 ^ a ||| 2 ^ b ||| 2 ^ c = 4) ↔ (b = a ∧ c = a)) := by decide +kernel
theorem mm_or_dec : ∀ a, a < 8 → ∀ v, v < 3 → nI a ||| ((1 : Int32) <<< (nI v &&& 31)) = nI (a ||| 2 ^ v) ∧ a ||| 2 ^ v < 8 := by decide +kernel
theorem mm_s1_bit : ∀ S, S < 8 → 1 ≤ S → ((nI S &&& (nI S - 1)) = 0 ↔ (S = 1 ∨ S = 2 ∨ S = 4)) := by decide +kernel
theorem mm_selN (N : Nat → Nat) (l : Nat) {a : Nat} (ha : a < 3) : mm_sel (N (2 * 0 + l)) (N (2 * 1 + l)) (N (2 * 2 + l)) a = N (2 * a + l) := by
  have h : a = 0 ∨ a = 1 ∨ a = 2 := by omega
  rcases h with rfl | rfl | rfl <;> rfl
theorem mm_tg_in {N : Nat → Nat} (hN : ∀ k, N k < 3) (l : Nat) {S : Nat} (h1 : 1 ≤ S) (h8 : S < 8) : 1 ≤ mm_tg N S l ∧ mm_tg N S l < 8 := by
  obtain ⟨T, rfl⟩ : ∃ T, S = T + 1 := ⟨S - 1, by omega⟩
  have h := mm_tg3_in _ (hN (2 * 0 + l)) _ (hN (2 * 1 + l)) _ (hN (2 * 2 + l)) T (by omega)
  rw [← mm_tg_3, Bool.and_eq_true] at h
  exact ⟨Nat.le_of_ble_eq_true h.1, Nat.lt_succ_of_le (Nat.le_of_ble_eq_true h.2)⟩
theorem mm_run03 {N : Nat → Nat} (hN : ∀ k, N k < 3) {s : Nat} (hs : s < 3) : ∀ j w, mm_run N s j w < 3 := by
  intro j
  induction j with
  | zero => exact fun _ => hs
  | succ j ih =>
    intro w
    have h1 := ih (w / 2)
    have h2 := hN (2 * mm_run N s j (w / 2) + w % 2)
    show 6 * (mm_run N s j (w / 2) / 6) + N (2 * mm_run N s j (w / 2) + w % 2) < 3
    omega
theorem mm_run0S {N : Nat → Nat} (hN : ∀ k, N k < 3) {s : Nat} (hs : s < 3) (j w : Nat) : mm_run N s (j + 1) w = N (2 * mm_run N s j (w / 2) + w % 2) := by
  have h1 := mm_run03 hN hs j (w / 2)
  show 6 * (mm_run N s j (w / 2) / 6) + N (2 * mm_run N s j (w / 2) + w % 2) = _
  omega
theorem mm_im_run {N : Nat → Nat} (hN : ∀ k, N k < 3) : ∀ j w, mm_im N j w = 2 ^ mm_run N 0 j w ||| 2 ^ mm_run N 1 j w ||| 2 ^ mm_run N 2 j w := by
  intro j
  induction j with
  | zero => exact fun _ => by show 7 = 2 ^ 0 ||| 2 ^ 1 ||| 2 ^ 2; decide
  | succ j ih =>
    intro w
    have b0 := mm_run03 hN (s := 0) (by omega) j (w / 2)
    have b1 := mm_run03 hN (s := 1) (by omega) j (w / 2)
    have b2 := mm_run03 hN (s := 2) (by omega) j (w / 2)
    show mm_tg N (mm_im N j (w / 2)) (w % 2) = _
    rw [ih, mm_tg_3, mm_tg3_dec _ (hN _) _ (hN _) _ (hN _) _ b0 _ b1 _ b2, mm_selN N _ b0, mm_selN N _ b1, mm_selN N _ b2, mm_run0S hN (by omega), mm_run0S hN (by omega), mm_run0S hN (by omega)]
/-- w brings the three states together -/
def mm_Rp (N : Nat → Nat) (w : Nat) : Prop := mm_run N 1 (mm_len w) w = mm_run N 0 (mm_len w) w ∧ mm_run N 2 (mm_len w) w = mm_run N 0 (mm_len w) w
noncomputable def mm_rst (N : Nat → Nat) (n : Nat) : Nat := @mm_lst (mm_Rp N) (fun _ => Classical.propDecidable _) n
theorem mm_im_s1 {N : Nat → Nat} (hN : ∀ k, N k < 3) (w : Nat) : mm_s1 (mm_im N (mm_len w) w) ↔ mm_Rp N w := by
  unfold mm_s1
  rw [mm_im_run hN]
  exact mm_s1_dec _ (mm_run03 hN (by omega) _ _) _ (mm_run03 hN (by omega) _ _) _ (mm_run03 hN (by omega) _ _)
def mm_u (f : Nat → Nat) (k x : Nat) : Nat → Nat := fun j => if j = k then x else f j
theorem mm_us {f : Nat → Nat} {k x : Nat} : mm_u f k x k = x := if_pos rfl
theorem mm_un {f : Nat → Nat} {k x j : Nat} (h : j ≠ k) : mm_u f k x j = f j := if_neg h
/-- the queue and the words -/
def mm_B (N : Nat → Nat) (M qd : Nat) (Q W : Nat → Nat) : Prop :=
  (∀ j, j < qd → 1 ≤ Q j ∧ Q j < 8 ∧ W (Q j) < M ∧ ∃ k, k ≤ j ∧ W (Q j) / 2 ^ k = 1 ∧ mm_im N k (W (Q j)) = Q j) ∧
  (∀ i j, i < j → j < qd → W (Q i) < W (Q j)) ∧
  (∀ s, s < 8 → W s ≠ 0 → ∃ j, j < qd ∧ Q j = s) ∧ (1 ≤ qd ∧ Q 0 = 7 ∧ W 7 = 1)
/-- what a visited set's letter has led to -/
def mm_Pr (N : Nat → Nat) (Q W : Nat → Nat) (j b : Nat) : Prop := W (mm_tg N (Q j) b) ≠ 0 ∧ W (mm_tg N (Q j) b) ≤ 2 * W (Q j) + b
theorem mm_B_pos {N : Nat → Nat} {M qd : Nat} {Q W : Nat → Nat} (h : mm_B N M qd Q W) {j : Nat} (hj : j < qd) : 1 ≤ W (Q j) := by
  obtain ⟨_, _, _, k, _, h2, _⟩ := h.1 j hj
  rcases Nat.eq_zero_or_pos (W (Q j)) with z | z
  · rw [z, Nat.zero_div] at h2
    omega
  · exact z
theorem mm_B_mono {N : Nat → Nat} {M M' qd : Nat} {Q W : Nat → Nat} (h : mm_B N M qd Q W) (hM : M ≤ M') : mm_B N M' qd Q W := by
  refine ⟨fun j hj => ?_, h.2⟩
  obtain ⟨h1, h2, h3, h4⟩ := h.1 j hj
  exact ⟨h1, h2, by omega, h4⟩
theorem mm_B_ne {N : Nat → Nat} {M qd : Nat} {Q W : Nat → Nat} (h : mm_B N M qd Q W) {i j : Nat} (hij : i < j) (hj : j < qd) : Q i ≠ Q j := by
  intro e
  have := h.2.1 i j hij hj
  rw [e] at this
  omega
theorem mm_B_8 {N : Nat → Nat} {M qd : Nat} {Q W : Nat → Nat} (h : mm_B N M qd Q W) : qd ≤ 8 :=
  mm_php 8 qd Q (fun j hj => (h.1 j hj).2.1) (fun i j hij hj => mm_B_ne h hij hj)
theorem mm_B_512 {N : Nat → Nat} {M qd : Nat} {Q W : Nat → Nat} (h : mm_B N M qd Q W) {j : Nat} (hj : j < qd) : W (Q j) < 512 := by
  obtain ⟨_, _, _, k, hk, h2, _⟩ := h.1 j hj
  have h8 := mm_B_8 h
  have h3 : 2 ^ k ≤ 2 ^ 8 := Nat.pow_le_pow_right (by omega) (by omega)
  have h4 : W (Q j) < 2 ^ k * 2 := by
    have h5 := Nat.lt_mul_div_succ (W (Q j)) (Nat.two_pow_pos k)
    rw [h2] at h5
    exact h5
  omega
theorem mm_B_W {N : Nat → Nat} {M qd : Nat} {Q W : Nat → Nat} (h : mm_B N M qd Q W) {s : Nat} (hs : s < 8) : W s < 512 := by
  by_cases e : W s = 0
  · omega
  · obtain ⟨j, hj, rfl⟩ := h.2.2.1 s hs e
    exact mm_B_512 h hj
theorem mm_B_add {N : Nat → Nat} {M M' qd s v k : Nat} {Q W : Nat → Nat} (h : mm_B N M qd Q W) (s1 : 1 ≤ s) (s8 : s < 8) (hs : W s = 0) (hv : M ≤ v) (hv' : v < M') (hk : k ≤ qd) (hk1 : v / 2 ^ k = 1) (hk2 : mm_im N k v = s) : mm_B N M' (qd + 1) (mm_u Q qd s) (mm_u W s v) ∧ (∀ j, j < qd → mm_u Q qd s j = Q j ∧ mm_u W s v (Q j) = W (Q j)) ∧ (∀ x, W x ≠ 0 → mm_u W s v x = W x) := by
  have hQ : ∀ j, j < qd → mm_u Q qd s j = Q j := fun j hj => mm_un (by omega)
  have hne : ∀ j, j < qd → Q j ≠ s := by
    intro j hj e
    have := mm_B_pos h hj
    rw [e] at this
    omega
  have hW : ∀ j, j < qd → mm_u W s v (Q j) = W (Q j) := fun j hj => mm_un (hne j hj)
  have hx : ∀ x, W x ≠ 0 → mm_u W s v x = W x := fun x hx => mm_un (fun e => hx (e ▸ hs))
  refine ⟨⟨?_, ?_, ?_, ?_⟩, fun j hj => ⟨hQ j hj, hW j hj⟩, hx⟩
  · intro j hj
    by_cases e : j = qd
    · subst e
      rw [mm_us, mm_us]
      exact ⟨s1, s8, hv', k, hk, hk1, hk2⟩
    · rw [hQ j (by omega), hW j (by omega)]
      obtain ⟨h1, h2, h3, h4⟩ := h.1 j (by omega)
      exact ⟨h1, h2, by omega, h4⟩
  · intro i j hij hj
    rw [hQ i (by omega), hW i (by omega)]
    by_cases e : j = qd
    · subst e
      rw [mm_us, mm_us]
      have := (h.1 i hij).2.2.1
      omega
    · rw [hQ j (by omega), hW j (by omega)]
      exact h.2.1 i j hij (by omega)
  · intro x hx8 hx0
    by_cases e : x = s
    · exact ⟨qd, by omega, by rw [mm_us, e]⟩
    · rw [mm_un e] at hx0
      obtain ⟨j, hj, ej⟩ := h.2.2.1 x hx8 hx0
      exact ⟨j, by omega, by rw [hQ j hj]; exact ej⟩
  · have h3 := h.2.2.2
    exact ⟨by omega, by rw [hQ 0 (by omega)]; exact h3.2.1, by rw [hx 7 (by omega)]; exact h3.2.2⟩
/-- every word below the next set's word leads to a set that has a word no greater -/
theorem mm_reach {N : Nat → Nat} (hN : ∀ k, N k < 3) {M qd i : Nat} {Q W : Nat → Nat} (h : mm_B N M qd Q W) (hi : i ≤ qd) (hP : ∀ j b, j < i → b < 2 → mm_Pr N Q W j b) : ∀ L w, w / 2 ^ L = 1 → (i < qd → w < W (Q i)) → ∃ j, j < i ∧ Q j = mm_im N L w ∧ W (Q j) ≤ w := by
  have key : ∀ w S, W S ≠ 0 → S < 8 → W S ≤ w → (i < qd → w < W (Q i)) → ∃ j, j < i ∧ Q j = S ∧ W (Q j) ≤ w := by
    intro w S h0 h8 hw hlt
    obtain ⟨j, hj, ej⟩ := h.2.2.1 S h8 h0
    refine ⟨j, ?_, ej, by rw [ej]; exact hw⟩
    rcases Nat.lt_or_ge j i with z | z
    · exact z
    · exfalso
      have hlt' := hlt (by omega)
      rw [← ej] at hw
      by_cases e : i = j
      · subst e
        omega
      · have := h.2.1 i j (by omega) hj
        omega
  intro L
  induction L with
  | zero =>
    intro w hw hlt
    have hw1 : w = 1 := by simpa using hw
    have h3 := h.2.2.2
    exact key w 7 (by omega) (by omega) (by omega) hlt
  | succ L ih =>
    intro w hw hlt
    have hu : w / 2 / 2 ^ L = 1 := by
      rw [Nat.div_div_eq_div_mul, Nat.mul_comm, ← Nat.pow_succ]
      exact hw
    have hw0 : 1 ≤ w := by
      rcases Nat.eq_zero_or_pos w with z | z
      · rw [z, Nat.zero_div] at hw
        omega
      · exact z
    obtain ⟨j, hj, ej, hle⟩ := ih (w / 2) hu (fun z => by have := hlt z; omega)
    have hp := hP j (w % 2) hj (by omega)
    have h7 := h.1 j (by omega)
    have ht := mm_tg_in hN (w % 2) h7.1 h7.2.1
    unfold mm_Pr at hp
    rw [ej] at hp hle ht
    refine key w (mm_im N (L + 1) w) hp.1 ht.2 ?_ hlt
    have := hp.2
    show W (mm_tg N (mm_im N L (w / 2)) (w % 2)) ≤ w
    omega
theorem mm_rend {N : Nat → Nat} (hN : ∀ k, N k < 3) {M qd i : Nat} {Q W : Nat → Nat} (h : mm_B N M qd Q W) (hi : i ≤ qd) (hP : ∀ j b, j < i → b < 2 → mm_Pr N Q W j b) (hs : ∀ j, j < i → ¬ mm_s1 (Q j)) {w : Nat} (h0 : 0 < w) (h64 : w < 64) (hlt : i < qd → w < W (Q i)) : ¬ mm_Rp N w := by
  intro hR
  obtain ⟨j, hj, ej, _⟩ := mm_reach hN h hi hP (mm_len w) w (mm_len_1 w h64 h0) hlt
  refine hs j hj ?_
  rw [ej]
  exact (mm_im_s1 hN w).mpr hR
theorem mm_rend0 {N : Nat → Nat} (hN : ∀ k, N k < 3) {M qd : Nat} {Q W : Nat → Nat} (h : mm_B N M qd Q W) (hP : ∀ j b, j < qd → b < 2 → mm_Pr N Q W j b) (hs : ∀ j, j < qd → ¬ mm_s1 (Q j)) : mm_rst N 64 = 0 :=
  @mm_lst_no (mm_Rp N) (fun _ => Classical.propDecidable _) 64 (fun w h0 h1 => mm_rend hN h (Nat.le_refl _) hP hs h0 h1 (fun z => absurd z (by omega)))
def mm_rk (S : Nat) : Nat := if S = 3 then 0 else if S = 5 then 1 else if S = 6 then 2 else 3
theorem mm_rk_dec : ∀ S, S < 8 → ∀ T, T < 8 → 1 ≤ S → 1 ≤ T → ¬ (S = 1 ∨ S = 2 ∨ S = 4) → ¬ (T = 1 ∨ T = 2 ∨ T = 4) → mm_rk S = mm_rk T → S = T := by
  unfold mm_rk
  intro S hS T hT h1 h2 h3 h4 h5
  have e : S = 3 ∨ S = 5 ∨ S = 6 ∨ S = 7 := by omega
  have e' : T = 3 ∨ T = 5 ∨ T = 6 ∨ T = 7 := by omega
  rcases e with rfl | rfl | rfl | rfl <;> rcases e' with rfl | rfl | rfl | rfl <;> first | rfl | (exfalso; revert h5; decide)
theorem mm_rend1 {N : Nat → Nat} (hN : ∀ k, N k < 3) {M qd i : Nat} {Q W : Nat → Nat} (h : mm_B N M qd Q W) (hi : i < qd) (hP : ∀ j b, j < i → b < 2 → mm_Pr N Q W j b) (hs : ∀ j, j < i → ¬ mm_s1 (Q j)) (hsi : mm_s1 (Q i)) : mm_rst N 64 = W (Q i) := by
  have h4 : i ≤ 4 := by
    refine mm_php 4 i (fun j => mm_rk (Q j)) (fun j hj => ?_) (fun a b hab hb e => ?_)
    · show mm_rk (Q j) < 4
      unfold mm_rk
      repeat' split
      all_goals omega
    · have ha := h.1 a (by omega)
      have hb' := h.1 b (by omega)
      exact mm_B_ne h hab (by omega) (mm_rk_dec _ ha.2.1 _ hb'.2.1 ha.1 hb'.1 (hs a (by omega)) (hs b hb) e)
  obtain ⟨_, _, _, k, hk, hk1, hk2⟩ := h.1 i hi
  have hl := mm_len_is hk1 (by omega)
  refine @mm_lst_is (mm_Rp N) (fun _ => Classical.propDecidable _) 64 (W (Q i)) hl.2.1 hl.2.2 ?_ (fun w h0 h1 => mm_rend hN h (by omega) hP hs h0 (by omega) (fun _ => h1))
  apply (mm_im_s1 hN _).mp
  rw [hl.1, hk2]
  exact hsi
end
section
section
variable {N A : Nat → Nat} {c0 c1 : Int32} {a1 a2 a3 a4 a5 a6 a7 a8 : Nat → Int32}
theorem mm_tgk8 (hN : ∀ k, N k < 3) (S l : Nat) : ∀ s, mm_tgk N S l s < 8 := by
  intro s
  induction s with
  | zero => exact (by decide : (0 : Nat) < 8)
  | succ s ih =>
    show (if S / 2 ^ s % 2 = 1 then mm_tgk N S l s ||| 2 ^ N (2 * s + l) else mm_tgk N S l s) < 8
    split
    · exact (mm_or_dec _ ih _ (hN _)).2
    · exact ih
theorem mm_together {post : Int32 → Prop} {S l : Nat} (hS : mm_S N A a1 a2 a3) (hS8 : S < 8) (hl : l < 2) (h : post (nI (mm_tg N S l))) : wpX_together post (c0, c1, a1, a2, a3, a4, a5, a6, a7, a8) 0 (nI S) (nI l) := by
  have hN := hS.2.2.2.1
  unfold wpX_together
  dsimp only
  refine pk_loop (σ := Unit) (fun n s _ => wX_together_6 post 0 (nI S) (nI l) c0 c1 a1 a2 a3 a4 a5 a6 a7 a8 n (nI (mm_tgk N S l s)) (nI s)) (fun _ _ => True) 3 0 () (by omega) trivial ?_ ?_
  · intro n _ _
    refine ⟨pk_in 0 2 (by omega), ?_⟩
    rw [sb_cl0, hS.1 0 (by omega)]
    exact pk_le 3 3 (fun _ => h) (fun z => absurd z (by omega))
  · intro n s _ hs _ hw2
    have g : wX_together_6 post 0 (nI S) (nI l) c0 c1 a1 a2 a3 a4 a5 a6 a7 a8 n (nI (mm_tgk N S l (s + 1))) (nI (s + 1)) := hw2 () trivial
    have e : ((12 : Int32) * 0 + 2 * nI s) + nI l = nI (2 * s + l) := by
      rw [show (12 : Int32) * 0 = nI 0 from rfl, show (2 : Int32) = nI 2 from rfl, pk_mul, nI_add, nI_add]
      rw [show 0 + 2 * s + l = 2 * s + l by omega]
    have h8 := mm_tgk8 hN S l s
    refine ⟨pk_in 0 2 (by omega), ?_⟩
    rw [sb_cl0, hS.1 0 (by omega)]
    refine pk_le 3 s (fun z => absurd z (by omega)) (fun _ => ?_)
    rw [mm_bit S (by omega) s (by omega)]
    refine pk_eq (S / 2 ^ s % 2) 1 (fun z => ?_) (fun z => ?_)
    · have e1 : mm_tgk N S l (s + 1) = mm_tgk N S l s ||| 2 ^ N (2 * s + l) := if_pos z
      rw [e, nI_clamp (show 2 * s + l < 2 ^ 31 by omega), hS.2.1 _ (by omega)]
      rw [e1] at g
      exact ⟨vp_in_nI (by omega) (by omega), nm_r (mm_or_dec _ h8 _ (hN _)).1 (nm_r (nI_1 s) g)⟩
    · have e1 : mm_tgk N S l (s + 1) = mm_tgk N S l s := if_neg z
      rw [e1] at g
      exact nm_r (nI_1 s) g
/-- the arrays hold the queue and the words -/
def mm_QW (qd : Nat) (Q W : Nat → Nat) (a7 a8 : Nat → Int32) : Prop := (∀ j, j < qd → a7 j = nI (Q j)) ∧ (∀ s, s < 8 → a8 s = nI (W s))
theorem mm_103 {post : Int32 → St2 → Prop} {J : Int32 → Int32 → (Nat → Int32) → (Nat → Int32) → (Nat → Int32) → (Nat → Int32) → (Nat → Int32) → (Nat → Int32) → (Nat → Int32) → (Nat → Int32) → Prop} {qd i : Nat} {Q W : Nat → Nat} (hS : mm_S N A a1 a2 a3) (hA : mm_QW qd Q W a7 a8) (hB : mm_B N (2 * W (Q i)) qd Q W) (hi : i < qd) (hP : ∀ j b, j < i → b < 2 → mm_Pr N Q W j b)
    (hs : ∀ j, j < i + 1 → ¬ mm_s1 (Q j))
    (h : ∀ qd' Q' W' a7' a8', mm_QW qd' Q' W' a7' a8' → mm_B N (2 * W' (Q' i) + 2) qd' Q' W' → i < qd' → (∀ j b, j < i + 1 → b < 2 → mm_Pr N Q' W' j b) → (∀ j, j < i + 1 → ¬ mm_s1 (Q' j)) → J (nI qd') (nI (i + 1)) a1 a2 a3 a4 a5 a6 a7' a8') :
    ∃ n, wX_reset_103 post J 0 (nI i) (nI (Q i)) c0 c1 n (nI qd) 0 a1 a2 a3 a4 a5 a6 a7 a8 := by
  have hN := hS.2.2.2.1
  refine pk_loop (σ := Nat × (Nat → Nat) × (Nat → Nat) × (Nat → Int32) × (Nat → Int32)) (fun n l s => wX_reset_103 post J 0 (nI i) (nI (Q i)) c0 c1 n (nI s.1) (nI l) a1 a2 a3 a4 a5 a6 s.2.2.2.1 s.2.2.2.2)
    (fun l s => mm_QW s.1 s.2.1 s.2.2.1 s.2.2.2.1 s.2.2.2.2 ∧ mm_B N (2 * W (Q i) + l) s.1 s.2.1 s.2.2.1 ∧ i < s.1 ∧ (∀ j b, (j < i ∧ b < 2) ∨ (j = i ∧ b < l) → mm_Pr N s.2.1 s.2.2.1 j b) ∧ (∀ j, j < i + 1 → ¬ mm_s1 (s.2.1 j)) ∧ s.2.1 i = Q i ∧ s.2.2.1 (Q i) = W (Q i)) 2 0 (qd, Q, W, a7, a8) (by omega) ⟨hA, hB, hi, fun j b z => hP j b (by omega) (by omega), hs, rfl, rfl⟩ ?_ ?_
  · rintro n ⟨qd', Q', W', a7', a8'⟩ ⟨k1, k2, k3, k4, k5, k6, k7⟩
    dsimp only at k1 k2 k3 k4 k5 k6 k7
    refine pk_le 2 2 (fun _ => nm_r (nI_1 i) (h qd' Q' W' a7' a8' k1 ?_ k3 (fun j b hj hb => k4 j b (by omega)) k5)) (fun z => absurd z (by omega))
    rw [k6, k7]
    exact k2
  · rintro n l ⟨qd', Q', W', a7', a8'⟩ hl ⟨k1, k2, k3, k4, k5, k6, k7⟩ hw2
    dsimp only at k1 k2 k3 k4 k5 k6 k7
    show wX_reset_103 post J 0 (nI i) (nI (Q i)) c0 c1 (n + 1) (nI qd') (nI l) a1 a2 a3 a4 a5 a6 a7' a8'
    have q1 := k2.1 i k3
    rw [k6, k7] at q1
    have h512 : W (Q i) < 512 := by
      have := mm_B_512 k2 k3
      rw [k6, k7] at this
      exact this
    have hq8 := mm_B_8 k2
    have ht := mm_tg_in hN l q1.1 q1.2.1
    have hW8 := mm_B_W k2 ht.2
    refine pk_le 2 l (fun z => absurd z (by omega)) (fun _ => ⟨vp_in_nI (by omega) (by omega), ?_⟩)
    rw [nI_clamp (show Q i < 2 ^ 31 by omega)]
    have e8 : a8' (Q i) = nI (W (Q i)) := by rw [k1.2 _ q1.2.1, k7]
    show ((2048 : Int32) ≤ a8' (Q i) → _) ∧ (¬ (2048 : Int32) ≤ a8' (Q i) → _)
    rw [e8]
    refine pk_le 2048 (W (Q i)) (fun z => absurd z (by omega)) (fun _ => mm_together hS q1.2.1 hl ⟨vp_in_nI (by omega) (by omega), ?_⟩)
    rw [nI_clamp (show mm_tg N (Q i) l < 2 ^ 31 by omega)]
    have e9 : a8' (mm_tg N (Q i) l) = nI (W' (mm_tg N (Q i) l)) := k1.2 _ ht.2
    show (a8' (mm_tg N (Q i) l) = 0 → _) ∧ (¬ a8' (mm_tg N (Q i) l) = 0 → _)
    rw [e9]
    refine pk_eq (W' (mm_tg N (Q i) l)) 0 (fun z => ?_) (fun z => ?_)
    · obtain ⟨k, hk, hk1, hk2⟩ := q1.2.2.2
      obtain ⟨n1, n2, n3⟩ := mm_B_add (M' := 2 * W (Q i) + (l + 1)) (v := 2 * W (Q i) + l) (k := k + 1) k2 ht.1 ht.2 z (by omega) (by omega) (by omega) (mm_c1 hk1 hl) (by
        show mm_tg N (mm_im N k ((2 * W (Q i) + l) / 2)) ((2 * W (Q i) + l) % 2) = _
        rw [show (2 * W (Q i) + l) / 2 = W (Q i) by omega, show (2 * W (Q i) + l) % 2 = l by omega, hk2])
      have ev : (2 : Int32) * nI (W (Q i)) + nI l = nI (2 * W (Q i) + l) := by
        rw [show (2 : Int32) = nI 2 from rfl, pk_mul, nI_add]
      refine ⟨vp_in_nI (by omega) (by omega), vp_in_nI (by omega) (by omega), nm_e ⟨vp_in_nI (by omega) (by omega), nm_e (nm_r (nI_1 qd') (nm_r (nI_1 l) ?_))⟩⟩
      rw [nI_clamp (show qd' < 2 ^ 31 by omega)]
      rw [ev]
      refine hw2 (qd' + 1, mm_u Q' qd' (mm_tg N (Q i) l), mm_u W' (mm_tg N (Q i) l) (2 * W (Q i) + l), upd a7' qd' (nI (mm_tg N (Q i) l)), upd a8' (mm_tg N (Q i) l) (nI (2 * W (Q i) + l))) ⟨⟨fun j hj => ?_, fun s hs8 => ?_⟩, n1, by show i < qd' + 1; omega, fun j b hjb => ?_, fun j hj => ?_, ?_, ?_⟩
      · dsimp only
        by_cases e : j = qd'
        · rw [e, pk_us, mm_us]
        · rw [pk_un e, mm_un e]
          exact k1.1 j (by dsimp only at hj; omega)
      · dsimp only
        by_cases e : s = mm_tg N (Q i) l
        · rw [e, pk_us, mm_us]
        · rw [pk_un e, mm_un e]
          exact k1.2 s hs8
      · dsimp only
        by_cases e : j = i ∧ b = l
        · obtain ⟨rfl, rfl⟩ := e
          unfold mm_Pr
          rw [(n2 j k3).1, k6, mm_us]
          have e3 := (n2 j k3).2
          rw [k6] at e3
          rw [e3, k7]
          exact ⟨by omega, by omega⟩
        · have hj : j < qd' := by omega
          have hp := k4 j b (by omega)
          unfold mm_Pr at hp ⊢
          rw [(n2 j hj).1, n3 _ hp.1, (n2 j hj).2]
          exact hp
      · dsimp only
        rw [(n2 j (by omega)).1]
        exact k5 j hj
      · dsimp only
        rw [(n2 i k3).1]
        exact k6
      · dsimp only
        have e3 := (n2 i k3).2
        rw [k6] at e3
        rw [e3]
        exact k7
    · refine nm_r (nI_1 l) (hw2 (qd', Q', W', a7', a8') ⟨k1, mm_B_mono k2 (by omega), k3, fun j b hjb => ?_, k5, k6, k7⟩)
      dsimp only
      by_cases e : j = i ∧ b = l
      · obtain ⟨rfl, rfl⟩ := e
        unfold mm_Pr
        rw [k6, k7]
        refine ⟨z, ?_⟩
        obtain ⟨r, hr, er⟩ := k2.2.2.1 _ ht.2 z
        have := (k2.1 r hr).2.2.1
        rw [er] at this
        omega
      · exact k4 j b (by omega)
theorem mm_60 {post : Int32 → St2 → Prop} (hS : mm_S N A a1 a2 a3) {Q0 W0 : Nat → Nat} (hA : mm_QW 1 Q0 W0 a7 a8) (hB : mm_B N 2 1 Q0 W0) (h : ∀ a7' a8', post (nI (mm_rst N 64)) (c0, c1, a1, a2, a3, a4, a5, a6, a7', a8')) : ∃ n, wX_reset_60 post 0 c0 c1 n 1 0 a1 a2 a3 a4 a5 a6 a7 a8 := by
  have hN := hS.2.2.2.1
  refine pk_loop (σ := Nat × (Nat → Nat) × (Nat → Nat) × (Nat → Int32) × (Nat → Int32)) (fun n i s => wX_reset_60 post 0 c0 c1 n (nI s.1) (nI i) a1 a2 a3 a4 a5 a6 s.2.2.2.1 s.2.2.2.2)
    (fun i s => mm_QW s.1 s.2.1 s.2.2.1 s.2.2.2.1 s.2.2.2.2 ∧ (∃ M, mm_B N M s.1 s.2.1 s.2.2.1 ∧ (i < s.1 → M ≤ 2 * s.2.2.1 (s.2.1 i))) ∧ i ≤ s.1 ∧ (∀ j b, j < i → b < 2 → mm_Pr N s.2.1 s.2.2.1 j b) ∧ (∀ j, j < i → ¬ mm_s1 (s.2.1 j))) 8 0 (1, Q0, W0, a7, a8) (by omega) ⟨hA, ⟨2, hB, fun _ => ?_⟩, by show 0 ≤ 1; omega, fun j b z => absurd z (by omega), fun j z => absurd z (by omega)⟩ ?_ ?_
  · have := hB.2.2.2
    show 2 ≤ 2 * W0 (Q0 0)
    rw [this.2.1, this.2.2]
    omega
  · rintro n ⟨qd, Q, W, a7', a8'⟩ ⟨k1, ⟨M, k2, k2'⟩, k3, k4, k5⟩
    dsimp only at k1 k2 k2' k3 k4 k5
    have hq8 := mm_B_8 k2
    have eq : qd = 8 := by omega
    subst eq
    have hz := mm_rend0 hN k2 k4 k5
    rw [hz] at h
    exact pk_le 64 8 (fun z => absurd z (by omega)) (fun _ => pk_le 8 8 (fun _ => h a7' a8') (fun z => absurd z (by omega)))
  · rintro n i ⟨qd, Q, W, a7', a8'⟩ hi ⟨k1, ⟨M, k2, k2'⟩, k3, k4, k5⟩ hw2
    dsimp only at k1 k2 k2' k3 k4 k5
    have hq8 := mm_B_8 k2
    refine pk_le 64 i (fun z => absurd z (by omega)) (fun _ => pk_le qd i (fun z => ?_) (fun z => ⟨vp_in_nI (by omega) (by omega), ?_⟩))
    · have eq : qd = i := by omega
      subst eq
      have hz := mm_rend0 hN k2 k4 k5
      rw [hz] at h
      exact h a7' a8'
    · have q1 := k2.1 i z
      refine nm_r (e' := nI (Q i)) (by rw [nI_clamp (show i < 2 ^ 31 by omega)]; exact k1.1 i z) ?_
      refine ek_if (mm_s1_bit (Q i) q1.2.1 q1.1) (fun y => ⟨vp_in_nI (by omega) (by omega), ?_⟩) (fun y => ?_)
      · rw [nI_clamp (show Q i < 2 ^ 31 by omega)]
        have e8 : a8' (Q i) = nI (W (Q i)) := k1.2 _ q1.2.1
        have hz := mm_rend1 hN k2 z k4 k5 y
        rw [hz] at h
        show post (a8' (Q i)) _
        rw [e8]
        exact h a7' a8'
      · refine mm_103 hS k1 (mm_B_mono k2 (k2' z)) z k4 (fun j hj => ?_) (fun qd2 Q2 W2 b7 b8 r1 r2 r3 r4 r5 => ?_)
        · by_cases e : j = i
          · rw [e]
            exact y
          · exact k5 j (by omega)
        · refine hw2 (qd2, Q2, W2, b7, b8) ⟨r1, ⟨_, r2, fun hlt => ?_⟩, by show i + 1 ≤ qd2; omega, r4, r5⟩
          have := r2.2.1 i (i + 1) (by omega) hlt
          show 2 * W2 (Q2 i) + 2 ≤ 2 * W2 (Q2 (i + 1))
          omega
theorem mm_xreset {post : Int32 → St2 → Prop} (hS : mm_S N A a1 a2 a3) (h : ∀ a7' a8', post (nI (mm_rst N 64)) (c0, c1, a1, a2, a3, a4, a5, a6, a7', a8')) : wpX_reset post (c0, c1, a1, a2, a3, a4, a5, a6, a7, a8) 0 := by
  unfold wpX_reset
  dsimp only
  refine mm_ism (m := 0) (by omega) (br_f (by decide) ?_)
  refine pk_loop (fun n i s => wX_reset_11 post 0 c0 c1 n (nI i) a1 a2 a3 a4 a5 a6 a7 s) (fun i s => ∀ j, j < i → s j = 0) 64 0 a8 (by omega) (fun j z => absurd z (by omega)) ?_ ?_
  · intro n s hs
    refine pk_le 64 64 (fun _ => ⟨pk_in 0 2 (by omega), ?_⟩) (fun z => absurd z (by omega))
    rw [sb_cl0, hS.1 0 (by omega)]
    refine nm_r (e' := nI 7) (by decide) ⟨pk_in 7 64 (by omega), nm_e (nm_e ?_)⟩
    rw [nI_clamp (show 7 < 2 ^ 31 by omega)]
    refine mm_60 (Q0 := fun _ => 7) (W0 := fun s => if s = 7 then 1 else 0) hS ⟨fun j hj => ?_, fun s' hs' => ?_⟩ ⟨fun j hj => ⟨by show 1 ≤ 7; omega, by show 7 < 8; omega, ?_, 0, by omega, ?_, rfl⟩, fun i j z1 z2 => absurd z1 (by omega), fun s' hs' hne => ⟨0, by omega, ?_⟩, ⟨by omega, rfl, rfl⟩⟩ h
    · have e : j = 0 := by omega
      rw [e, pk_us]
    · by_cases e : s' = 7
      · rw [e, pk_us]
        rfl
      · rw [pk_un e, hs s' (by omega)]
        show _ = nI (if s' = 7 then 1 else 0)
        rw [if_neg e]
        rfl
    · show (if 7 = 7 then 1 else 0) < 2
      rw [if_pos rfl]
      omega
    · show (if 7 = 7 then 1 else 0) / 2 ^ 0 = 1
      rw [if_pos rfl]
    · by_cases e : s' = 7
      · exact e.symm
      · exact absurd (if_neg e) hne
  · intro n i s hi hs hw2
    refine pk_le 64 i (fun z => absurd z (by omega)) (fun _ => ⟨pk_in i 64 hi, nm_e (nm_r (nI_1 i) (hw2 _ ?_))⟩)
    rw [nI_clamp (show i < 2 ^ 31 by omega)]
    intro j hj
    by_cases e : j = i
    · rw [e, pk_us]
    · rw [pk_un e]
      exact hs j (by omega)
end
end
section
/-- how many, three leaders, three numbers (one more than the number, 0 for none) -/
abbrev mm_Z : Type := Nat × Nat × Nat × Nat × Nat × Nat × Nat
def mm_ld (z : mm_Z) (j : Nat) : Nat := bif Nat.beq j 0 then z.2.1 else bif Nat.beq j 1 then z.2.2.1 else z.2.2.2.1
def mm_cl (z : mm_Z) (q : Nat) : Nat := bif Nat.beq q 0 then z.2.2.2.2.1 else bif Nat.beq q 1 then z.2.2.2.2.2.1 else z.2.2.2.2.2.2
def mm_adm (e : Nat → Nat → Bool) (z : mm_Z) (s : Nat) : mm_Z := (z.1 + 1, bif Nat.beq z.1 0 then s else z.2.1, bif Nat.beq z.1 1 then s else z.2.2.1, bif Nat.beq z.1 2 then s else z.2.2.2.1, bif e s 0 then z.1 + 1 else z.2.2.2.2.1, bif e s 1 then z.1 + 1 else z.2.2.2.2.2.1, bif e s 2 then z.1 + 1 else z.2.2.2.2.2.2)
def mm_vis (n : Nat → Nat) (e : Nat → Nat → Bool) (z : mm_Z) (j l : Nat) : mm_Z := bif Nat.beq (mm_cl z (n (2 * mm_ld z j + l))) 0 then mm_adm e z (n (2 * mm_ld z j + l)) else z
def mm_it (n : Nat → Nat) (e : Nat → Nat → Bool) : Nat → mm_Z
  | 0 => mm_adm e (0, 0, 0, 0, 0, 0, 0) 0
  | k + 1 => bif Nat.ble (mm_it n e k).1 k then mm_it n e k else mm_vis n e (mm_vis n e (mm_it n e k) k 0) k 1
/-- the law's search for a second and a third kind (one more than the state, 0 for none) -/
def mm_ls (e : Nat → Nat → Bool) (u : Nat) (p : Nat × Nat) : Nat × Nat := bif e 0 u then p else (bif Nat.beq p.1 0 then u + 1 else p.1, bif (!Nat.beq p.1 0) && (Nat.beq p.2 0 && !(e (p.1 - 1) u)) then u + 1 else p.2)
def mm_uw (n : Nat → Nat) (k : Nat) : Nat := bif Nat.ble k 1 then n k else n (2 * n ((k - 2) / 2) + (k - 2) % 2)
def mm_lf (n : Nat → Nat) (e : Nat → Nat → Bool) : Nat → Nat × Nat
  | 0 => (0, 0)
  | k + 1 => mm_ls e (mm_uw n k) (mm_lf n e k)
def mm_core (p : Nat × Nat) : Nat := bif Nat.beq p.2 0 then (bif Nat.beq p.1 0 then 1 else 2) else 3
def mm_p6 (n0 n1 n2 n3 n4 n5 k : Nat) : Nat := bif Nat.beq k 0 then n0 else bif Nat.beq k 1 then n1 else bif Nat.beq k 2 then n2 else bif Nat.beq k 3 then n3 else bif Nat.beq k 4 then n4 else n5
def mm_eq (x y z : Bool) (s t : Nat) : Bool := bif Nat.beq s t then true else bif Nat.beq (s + t) 1 then x else bif Nat.beq (s + t) 3 then y else z
def mm_imp (a b : Bool) : Bool := bif a then b else true
def mm_ok (n : Nat → Nat) (x y z : Bool) : Bool := mm_imp (x && y) z && (mm_imp (y && z) x && (mm_imp (x && z) y && (mm_imp x (mm_eq x y z (n 0) (n 2) && mm_eq x y z (n 1) (n 3)) && (mm_imp y (mm_eq x y z (n 2) (n 4) && mm_eq x y z (n 3) (n 5)) && mm_imp z (mm_eq x y z (n 0) (n 4) && mm_eq x y z (n 1) (n 5))))))
def mm_con (n : Nat → Nat) (e : Nat → Nat → Bool) (z : mm_Z) (p : Nat × Nat) : Bool := Nat.ble z.1 3 && (Nat.beq z.1 (mm_core p) && (Nat.ble 1 z.1 && (Nat.beq z.2.1 0 && (Nat.beq z.2.2.2.2.1 1 && (mm_imp (!Nat.beq z.1 1) ((!Nat.beq p.1 0) && (Nat.beq (mm_cl z (p.1 - 1)) 2 && (Nat.beq z.2.2.1 (p.1 - 1) && Nat.ble p.1 3))) && (Nat.beq (mm_cl z (n 0)) (bif e 0 (n 0) then 1 else 2)))))))
def mm_chk (n : Nat → Nat) (x y z : Bool) : Bool := mm_imp (mm_ok n x y z) (mm_con n (mm_eq x y z) (mm_it n (mm_eq x y z) 3) (mm_lf n (mm_eq x y z) 6))
def mm_a3 (f : Nat → Bool) : Bool := f 0 && (f 1 && f 2)
def mm_a2 (f : Bool → Bool) : Bool := f false && f true
theorem mm_a3_e {f : Nat → Bool} (h : mm_a3 f = true) {k : Nat} (hk : k < 3) : f k = true := by
  unfold mm_a3 at h
  rw [Bool.and_eq_true, Bool.and_eq_true] at h
  have e : k = 0 ∨ k = 1 ∨ k = 2 := by omega
  rcases e with rfl | rfl | rfl
  · exact h.1
  · exact h.2.1
  · exact h.2.2
theorem mm_a2_e {f : Bool → Bool} (h : mm_a2 f = true) (b : Bool) : f b = true := by
  unfold mm_a2 at h
  rw [Bool.and_eq_true] at h
  cases b
  · exact h.1
  · exact h.2
theorem mm_all : mm_a3 (fun n0 => mm_a3 (fun n1 => mm_a3 (fun n2 => mm_a3 (fun n3 => mm_a3 (fun n4 => mm_a3 (fun n5 => mm_a2 (fun x => mm_a2 (fun y => mm_a2 (fun z => mm_chk (mm_p6 n0 n1 n2 n3 n4 n5) x y z)))))))))  = true := by decide +kernel
theorem mm_chk_all {n0 n1 n2 n3 n4 n5 : Nat} (h0 : n0 < 3) (h1 : n1 < 3) (h2 : n2 < 3) (h3 : n3 < 3) (h4 : n4 < 3) (h5 : n5 < 3) (x y z : Bool) : mm_chk (mm_p6 n0 n1 n2 n3 n4 n5) x y z = true :=
  mm_a2_e (mm_a2_e (mm_a2_e (mm_a3_e (mm_a3_e (mm_a3_e (mm_a3_e (mm_a3_e (mm_a3_e mm_all h0) h1) h2) h3) h4) h5) x) y) z
end
section
def mm_nm (N : Nat → Nat) (m : Nat) : Nat → Nat := mm_p6 (N (12 * m + 0)) (N (12 * m + 1)) (N (12 * m + 2)) (N (12 * m + 3)) (N (12 * m + 4)) (N (12 * m + 5))
def mm_lk (N A : Nat → Nat) (M m s t : Nat) : Bool := decide (mm_T N A M (6 * m + s) (6 * m + t) = 0)
def mm_em (N A : Nat → Nat) (M m : Nat) : Nat → Nat → Bool := mm_eq (mm_lk N A M m 0 1) (mm_lk N A M m 1 2) (mm_lk N A M m 0 2)
def mm_zz (N A : Nat → Nat) (M m : Nat) : Nat → mm_Z := mm_it (mm_nm N m) (mm_em N A M m)
theorem mm_nmN (N : Nat → Nat) (m : Nat) {k : Nat} (hk : k < 6) : mm_nm N m k = N (12 * m + k) := by
  have e : k = 0 ∨ k = 1 ∨ k = 2 ∨ k = 3 ∨ k = 4 ∨ k = 5 := by omega
  rcases e with rfl | rfl | rfl | rfl | rfl | rfl <;> rfl
theorem mm_lk_iff {N A : Nat → Nat} (hN : ∀ k, N k < 3) {M m s t : Nat} (hs : s < 3) (ht : t < 3) : mm_lk N A M m s t = true ↔ ¬ mm_F N A (M + 1) (6 * m + s) (6 * m + t) := by
  unfold mm_lk
  rw [decide_eq_true_iff]
  exact mm_T_0 hN (by omega) (by omega)
theorem mm_lk_symm {N A : Nat → Nat} (hN : ∀ k, N k < 3) {M m s t : Nat} (hs : s < 3) (ht : t < 3) : mm_lk N A M m s t = mm_lk N A M m t s := by
  apply Bool.eq_iff_iff.mpr
  rw [mm_lk_iff hN hs ht, mm_lk_iff hN ht hs]
  exact ⟨fun h z => h (mm_F_symm _ _ _ _ _ z), fun h z => h (mm_F_symm _ _ _ _ _ z)⟩
theorem mm_lk_refl {N A : Nat → Nat} (hN : ∀ k, N k < 3) {M m s : Nat} (hs : s < 3) : mm_lk N A M m s s = true :=
  (mm_lk_iff hN hs hs).mpr (mm_F_refl _ _ _ _)
theorem mm_lk_trans {N A : Nat → Nat} (hN : ∀ k, N k < 3) {M m s t r : Nat} (hs : s < 3) (ht : t < 3) (hr : r < 3) (h1 : mm_lk N A M m s t = true) (h2 : mm_lk N A M m t r = true) : mm_lk N A M m s r = true := by
  rw [mm_lk_iff hN (by omega) (by omega)] at h1 h2 ⊢
  intro z
  rcases mm_F_trans N A (M + 1) _ (6 * m + t) _ z with g | g
  · exact h1 g
  · exact h2 g
theorem mm_nx_m (N : Nat → Nat) (m : Nat) {s l : Nat} (hs : s < 3) (hl : l < 2) : mm_nx N (6 * m + s) l = 6 * m + mm_nm N m (2 * s + l) := by
  rw [mm_nmN N m (by omega)]
  unfold mm_nx
  rw [show (6 * m + s) / 6 = m by omega, show 2 * (6 * m + s) + l = 12 * m + (2 * s + l) by omega]
theorem mm_nm3 {N : Nat → Nat} (hN : ∀ k, N k < 3) (m : Nat) {k : Nat} (hk : k < 6) : mm_nm N m k < 3 := by
  rw [mm_nmN N m hk]
  exact hN _
theorem mm_lk_next {N A : Nat → Nat} (hN : ∀ k, N k < 3) {M m s t l : Nat} (hM : M = 10) (hs : s < 3) (ht : t < 3) (hl : l < 2) (h : mm_lk N A M m s t = true) : mm_lk N A M m (mm_nm N m (2 * s + l)) (mm_nm N m (2 * t + l)) = true := by
  have h1 := mm_nm3 hN m (show 2 * s + l < 6 by omega)
  have h2 := mm_nm3 hN m (show 2 * t + l < 6 by omega)
  rw [mm_lk_iff hN hs ht] at h
  rw [mm_lk_iff hN h1 h2]
  intro z
  have z2 : mm_F N A M (6 * m + mm_nm N m (2 * s + l)) (6 * m + mm_nm N m (2 * t + l)) := mm_F_mono N A (by omega) (mm_b3 hN h1 h2 z)
  rw [← mm_nx_m N m hs hl, ← mm_nx_m N m ht hl] at z2
  have e : l = 0 ∨ l = 1 := by omega
  rcases e with rfl | rfl
  · exact h (Or.inr (Or.inr (Or.inl z2)))
  · exact h (Or.inr (Or.inr (Or.inr z2)))
theorem mm_em_lk {N A : Nat → Nat} (hN : ∀ k, N k < 3) {M m s t : Nat} (hs : s < 3) (ht : t < 3) : mm_em N A M m s t = mm_lk N A M m s t := by
  have e : s = 0 ∨ s = 1 ∨ s = 2 := by omega
  have e' : t = 0 ∨ t = 1 ∨ t = 2 := by omega
  rcases e with rfl | rfl | rfl <;> rcases e' with rfl | rfl | rfl
  · exact (mm_lk_refl hN (by omega)).symm
  · rfl
  · rfl
  · exact mm_lk_symm hN (by omega) (by omega)
  · exact (mm_lk_refl hN (by omega)).symm
  · rfl
  · exact mm_lk_symm hN (by omega) (by omega)
  · exact mm_lk_symm hN (by omega) (by omega)
  · exact (mm_lk_refl hN (by omega)).symm
theorem mm_imp_i {a b : Bool} (h : a = true → b = true) : mm_imp a b = true := by
  cases a
  · rfl
  · exact h rfl
theorem mm_imp_e {a b : Bool} (h : mm_imp a b = true) (ha : a = true) : b = true := by
  subst ha
  exact h
theorem mm_oks {N A : Nat → Nat} (hN : ∀ k, N k < 3) {M : Nat} (hM : M = 10) (m : Nat) : mm_ok (mm_nm N m) (mm_lk N A M m 0 1) (mm_lk N A M m 1 2) (mm_lk N A M m 0 2) = true := by
  have e : ∀ s t, s < 3 → t < 3 → mm_eq (mm_lk N A M m 0 1) (mm_lk N A M m 1 2) (mm_lk N A M m 0 2) s t = mm_lk N A M m s t := fun s t hs ht => mm_em_lk hN hs ht
  have b : ∀ k, k < 6 → mm_nm N m k < 3 := fun k hk => mm_nm3 hN m hk
  have nx : ∀ s t, s < 3 → t < 3 → mm_lk N A M m s t = true → (mm_lk N A M m (mm_nm N m (2 * s)) (mm_nm N m (2 * t)) && mm_lk N A M m (mm_nm N m (2 * s + 1)) (mm_nm N m (2 * t + 1))) = true := by
    intro s t hs ht h
    rw [Bool.and_eq_true]
    exact ⟨mm_lk_next hN (l := 0) hM hs ht (by omega) h, mm_lk_next hN (l := 1) hM hs ht (by omega) h⟩
  unfold mm_ok
  simp only [Bool.and_eq_true]
  rw [e _ _ (b 0 (by omega)) (b 2 (by omega)), e _ _ (b 1 (by omega)) (b 3 (by omega)), e _ _ (b 2 (by omega)) (b 4 (by omega)), e _ _ (b 3 (by omega)) (b 5 (by omega)), e _ _ (b 0 (by omega)) (b 4 (by omega)), e _ _ (b 1 (by omega)) (b 5 (by omega))]
  refine ⟨mm_imp_i (fun h => ?_), mm_imp_i (fun h => ?_), mm_imp_i (fun h => ?_), mm_imp_i (fun h => nx 0 1 (by omega) (by omega) h), mm_imp_i (fun h => nx 1 2 (by omega) (by omega) h), mm_imp_i (fun h => nx 0 2 (by omega) (by omega) h)⟩
  · rw [Bool.and_eq_true] at h
    exact mm_lk_trans hN (by omega) (t := 1) (by omega) (by omega) h.1 h.2
  · rw [Bool.and_eq_true, mm_lk_symm hN (s := 1) (by omega) (by omega)] at h
    rw [mm_lk_symm hN (by omega) (by omega)]
    rw [mm_lk_symm hN (s := 2) (t := 1) (by omega) (by omega), mm_lk_symm hN (s := 0) (t := 2) (by omega) (by omega)] at h
    exact mm_lk_trans hN (by omega) (t := 2) (by omega) (by omega) h.1 h.2
  · rw [Bool.and_eq_true, mm_lk_symm hN (s := 0) (t := 1) (by omega) (by omega)] at h
    exact mm_lk_trans hN (by omega) (t := 0) (by omega) (by omega) h.1 h.2
theorem mm_cons {N A : Nat → Nat} (hN : ∀ k, N k < 3) {M : Nat} (hM : M = 10) (m : Nat) : mm_con (mm_nm N m) (mm_em N A M m) (mm_zz N A M m 3) (mm_lf (mm_nm N m) (mm_em N A M m) 6) = true :=
  mm_imp_e (mm_chk_all (hN _) (hN _) (hN _) (hN _) (hN _) (hN _) (mm_lk N A M m 0 1) (mm_lk N A M m 1 2) (mm_lk N A M m 0 2)) (mm_oks hN hM m)
/-- what the check says, in plain words -/
theorem mm_facts {N A : Nat → Nat} (hN : ∀ k, N k < 3) {M : Nat} (hM : M = 10) (m : Nat) : (mm_zz N A M m 3).1 ≤ 3 ∧ (mm_zz N A M m 3).1 = mm_core (mm_lf (mm_nm N m) (mm_em N A M m) 6) ∧ 1 ≤ (mm_zz N A M m 3).1 ∧ mm_ld (mm_zz N A M m 3) 0 = 0 ∧ mm_cl (mm_zz N A M m 3) 0 = 1 ∧ ((mm_zz N A M m 3).1 ≠ 1 → (mm_lf (mm_nm N m) (mm_em N A M m) 6).1 ≠ 0 ∧ mm_cl (mm_zz N A M m 3) ((mm_lf (mm_nm N m) (mm_em N A M m) 6).1 - 1) = 2 ∧ mm_ld (mm_zz N A M m 3) 1 = (mm_lf (mm_nm N m) (mm_em N A M m) 6).1 - 1 ∧ (mm_lf (mm_nm N m) (mm_em N A M m) 6).1 ≤ 3) ∧ (mm_em N A M m 0 (mm_nm N m 0) = true → mm_cl (mm_zz N A M m 3) (mm_nm N m 0) = 1) ∧ (¬ mm_em N A M m 0 (mm_nm N m 0) = true → mm_cl (mm_zz N A M m 3) (mm_nm N m 0) = 2) := by
  have h := mm_cons (A := A) hN hM m
  unfold mm_con at h
  simp only [Bool.and_eq_true] at h
  obtain ⟨h1, h2, h3, h4, h5, h6, h7⟩ := h
  have h7' := Nat.eq_of_beq_eq_true h7
  refine ⟨Nat.le_of_ble_eq_true h1, Nat.eq_of_beq_eq_true h2, Nat.le_of_ble_eq_true h3, Nat.eq_of_beq_eq_true h4, Nat.eq_of_beq_eq_true h5, fun hne => ?_, fun he => ?_, fun he => ?_⟩
  · have g := mm_imp_e h6 (by
      cases hb : Nat.beq (mm_zz N A M m 3).1 1
      · rfl
      · exact absurd (Nat.eq_of_beq_eq_true hb) hne)
    simp only [Bool.and_eq_true] at g
    refine ⟨fun z => ?_, Nat.eq_of_beq_eq_true g.2.1, Nat.eq_of_beq_eq_true g.2.2.1, Nat.le_of_ble_eq_true g.2.2.2⟩
    have g1 := g.1
    rw [z] at g1
    exact absurd g1 (by decide)
  · rw [he] at h7'
    exact h7'
  · have he' : mm_em N A M m 0 (mm_nm N m 0) = false := by
      cases hb : mm_em N A M m 0 (mm_nm N m 0)
      · rfl
      · exact absurd hb he
    rw [he'] at h7'
    exact h7'
/-- the machine of the numbers: what grows, where it stands still -/
theorem mm_vis_ge (n : Nat → Nat) (e : Nat → Nat → Bool) (z : mm_Z) (j l : Nat) : z.1 ≤ (mm_vis n e z j l).1 := by
  unfold mm_vis
  cases Nat.beq (mm_cl z (n (2 * mm_ld z j + l))) 0
  · exact Nat.le_refl _
  · exact Nat.le_succ _
theorem mm_it_ge (n : Nat → Nat) (e : Nat → Nat → Bool) (k : Nat) : (mm_it n e k).1 ≤ (mm_it n e (k + 1)).1 := by
  show _ ≤ (bif Nat.ble (mm_it n e k).1 k then mm_it n e k else mm_vis n e (mm_vis n e (mm_it n e k) k 0) k 1).1
  cases Nat.ble (mm_it n e k).1 k
  · exact Nat.le_trans (mm_vis_ge n e _ k 0) (mm_vis_ge n e _ k 1)
  · exact Nat.le_refl _
theorem mm_it_stop {n : Nat → Nat} {e : Nat → Nat → Bool} {k : Nat} (h : (mm_it n e k).1 ≤ k) : ∀ d, mm_it n e (k + d) = mm_it n e k := by
  intro d
  induction d with
  | zero => rfl
  | succ d ih =>
    show (bif Nat.ble (mm_it n e (k + d)).1 (k + d) then mm_it n e (k + d) else mm_vis n e (mm_vis n e (mm_it n e (k + d)) (k + d) 0) (k + d) 1) = _
    rw [ih, Nat.ble_eq_true_of_le (by omega : (mm_it n e k).1 ≤ k + d)]
    rfl
theorem mm_it_go {n : Nat → Nat} {e : Nat → Nat → Bool} {k : Nat} (h : k < (mm_it n e k).1) : mm_it n e (k + 1) = mm_vis n e (mm_vis n e (mm_it n e k) k 0) k 1 := by
  show (bif Nat.ble (mm_it n e k).1 k then mm_it n e k else mm_vis n e (mm_vis n e (mm_it n e k) k 0) k 1) = _
  have hb : Nat.ble (mm_it n e k).1 k = false := by
    cases hb : Nat.ble (mm_it n e k).1 k
    · rfl
    · exact absurd (Nat.le_of_ble_eq_true hb) (by omega)
  rw [hb]
  rfl
theorem mm_it_le3 {n : Nat → Nat} {e : Nat → Nat → Bool} (h : (mm_it n e 3).1 ≤ 3) {k : Nat} (hk : k ≤ 3) : (mm_it n e k).1 ≤ 3 := by
  have h0 : (mm_it n e 0).1 ≤ (mm_it n e 1).1 := mm_it_ge n e 0
  have h1 : (mm_it n e 1).1 ≤ (mm_it n e 2).1 := mm_it_ge n e 1
  have h2 : (mm_it n e 2).1 ≤ (mm_it n e 3).1 := mm_it_ge n e 2
  have e : k = 0 ∨ k = 1 ∨ k = 2 ∨ k = 3 := by omega
  rcases e with rfl | rfl | rfl | rfl <;> omega
def mm_cv (v : Nat) : Int32 := if v = 0 then -1 else nI (v - 1)
/-- the arrays hold the machine of the numbers -/
def mm_ZA (m : Nat) (z : mm_Z) (c : Int32) (a5 a6 : Nat → Int32) : Prop := c = nI z.1 ∧ z.1 ≤ 3 ∧ (∀ j, j < z.1 → a6 j = nI (6 * m + mm_ld z j) ∧ mm_ld z j < 3) ∧ (∀ q, q < 3 → a5 (6 * m + q) = mm_cv (mm_cl z q) ∧ mm_cl z q ≤ z.1)
theorem mm_cl_adm (e : Nat → Nat → Bool) (z : mm_Z) (s : Nat) {q : Nat} (hq : q < 3) : mm_cl (mm_adm e z s) q = bif e s q then z.1 + 1 else mm_cl z q := by
  have e : q = 0 ∨ q = 1 ∨ q = 2 := by omega
  rcases e with rfl | rfl | rfl <;> rfl
theorem mm_ld_adm0 (e : Nat → Nat → Bool) (z : mm_Z) (s : Nat) (hz : z.1 ≤ 2) : mm_ld (mm_adm e z s) z.1 = s := by
  have h : z.1 = 0 ∨ z.1 = 1 ∨ z.1 = 2 := by omega
  unfold mm_ld mm_adm
  rcases h with h | h | h <;> rw [h] <;> rfl
theorem mm_ld_adm1 (e : Nat → Nat → Bool) (z : mm_Z) (s : Nat) {j : Nat} (hz : z.1 ≤ 2) (hj : j < z.1) : mm_ld (mm_adm e z s) j = mm_ld z j := by
  have h : (z.1 = 1 ∧ j = 0) ∨ (z.1 = 2 ∧ j = 0) ∨ (z.1 = 2 ∧ j = 1) := by omega
  unfold mm_ld mm_adm
  rcases h with ⟨h, rfl⟩ | ⟨h, rfl⟩ | ⟨h, rfl⟩ <;> rw [h] <;> rfl
end
section
section
variable {N A : Nat → Nat} {c0 c1 : Int32} {a1 a2 a3 a4 a5 a6 a7 a8 : Nat → Int32}
theorem mm_cv_m1 {v : Nat} (hv : v < 100) : mm_cv v = -1 ↔ v = 0 := by
  unfold mm_cv
  by_cases e : v = 0
  · rw [if_pos e]
    exact ⟨fun _ => e, fun _ => rfl⟩
  · rw [if_neg e]
    refine ⟨fun z => ?_, fun z => absurd z e⟩
    have h := nI_toInt (n := v - 1) (by omega)
    rw [z] at h
    have h2 : (-1 : Int32).toInt = -1 := by decide
    rw [h2] at h
    omega
theorem mm_admit {M m s : Nat} {post : St2 → Prop} {z : mm_Z} (hM : M = 10) (hS : mm_S N A a1 a2 a3) (hH : mm_H (mm_T N A M) a4) (hm : m < 2) (hs : s < 3) (hz : mm_ZA m z c0 a5 a6) (hz2 : z.1 ≤ 2) (h : ∀ c0' a5' a6', mm_ZA m (mm_adm (mm_em N A M m) z s) c0' a5' a6' → post (c0', c1, a1, a2, a3, a4, a5', a6', a7, a8)) : wpX_admit post (c0, c1, a1, a2, a3, a4, a5, a6, a7, a8) (nI m) (nI (6 * m + s)) := by
  have hN := hS.2.2.2.1
  obtain ⟨rfl, z3, zl, zc⟩ := hz
  unfold wpX_admit
  dsimp only
  refine ⟨vp_in_nI (by omega) (by omega), nm_e ?_⟩
  rw [nI_clamp (show z.1 < 2 ^ 31 by omega)]
  refine pk_loop (fun n t b => wX_admit_12 post (nI m) (nI (6 * m + s)) (nI z.1) c1 n (nI t) a1 a2 a3 a4 b (upd a6 z.1 (nI (6 * m + s))) a7 a8) (fun t b => ∀ q, q < 3 → b (6 * m + q) = if q < t then mm_cv (mm_cl (mm_adm (mm_em N A M m) z s) q) else a5 (6 * m + q)) 3 0 a5 (by omega) (fun q hq => (if_neg (by omega)).symm) ?_ ?_
  · intro n b hb
    refine ⟨vp_in_nI hm (by omega), ?_⟩
    rw [nI_clamp (show m < 2 ^ 31 by omega), hS.1 m hm]
    refine pk_le 3 3 (fun _ => nm_r (nI_1 z.1) (h _ _ _ ⟨rfl, by show z.1 + 1 ≤ 3; omega, fun j hj => ?_, fun q hq => ⟨?_, ?_⟩⟩)) (fun y => absurd y (by omega))
    · by_cases e : j = z.1
      · rw [e, pk_us, mm_ld_adm0 _ z s hz2]
        exact ⟨rfl, hs⟩
      · have hj' : j < z.1 := by
          have : j < z.1 + 1 := hj
          omega
        rw [pk_un e, mm_ld_adm1 _ z s hz2 hj']
        exact zl j hj'
    · rw [hb q hq, if_pos hq]
    · rw [mm_cl_adm _ z s hq]
      have := (zc q hq).2
      show _ ≤ z.1 + 1
      cases mm_em N A M m s q
      · exact Nat.le_succ_of_le this
      · exact Nat.le_refl _
  · intro n t b ht hb hw2
    have e1 : (6 : Int32) * nI m + nI t = nI (6 * m + t) := by
      rw [show (6 : Int32) = nI 6 from rfl, pk_mul, nI_add]
    have e2 : (12 : Int32) * nI (6 * m + s) + nI (6 * m + t) = nI (12 * (6 * m + s) + (6 * m + t)) := by
      rw [show (12 : Int32) = nI 12 from rfl, pk_mul, nI_add]
    have hB := mm_T_le (N := N) (A := A) M (6 * m + s) (6 * m + t)
    have hbt : b (6 * m + t) = a5 (6 * m + t) := by
      rw [hb t ht, if_neg (by omega)]
    have hem := mm_em_lk (A := A) hN (M := M) (m := m) hs ht
    refine ⟨vp_in_nI hm (by omega), ?_⟩
    rw [nI_clamp (show m < 2 ^ 31 by omega), hS.1 m hm]
    refine pk_le 3 t (fun y => absurd y (by omega)) (fun _ => nm_r e1 ?_)
    rw [e2, nI_clamp (show 12 * (6 * m + s) + (6 * m + t) < 2 ^ 31 by omega), nI_clamp (show 6 * m + t < 2 ^ 31 by omega), hH _ _ (by omega) (by omega)]
    refine ⟨vp_in_nI (by omega) (by omega), pk_eq (mm_T N A M (6 * m + s) (6 * m + t)) 0 (fun y => ⟨vp_in_nI (by omega) (by omega), nm_e (nm_r (nI_1 t) (hw2 _ (fun q hq => ?_)))⟩) (fun y => nm_r (nI_1 t) (hw2 _ (fun q hq => ?_)))⟩
    · have et : mm_em N A M m s t = true := by
        rw [hem]
        exact decide_eq_true y
      by_cases e : q = t
      · rw [e, pk_us, if_pos (by omega), mm_cl_adm _ z s ht, et]
        show _ = mm_cv (z.1 + 1)
        unfold mm_cv
        rw [if_neg (by omega), Nat.add_sub_cancel]
      · rw [pk_un (by omega), hb q hq]
        by_cases e3 : q < t
        · rw [if_pos e3, if_pos (by omega)]
        · rw [if_neg e3, if_neg (by omega)]
    · have et : mm_em N A M m s t = false := by
        rw [hem]
        exact decide_eq_false y
      by_cases e : q = t
      · rw [e, hbt, if_pos (by omega), mm_cl_adm _ z s ht, et]
        exact (zc t ht).1
      · rw [hb q hq]
        by_cases e3 : q < t
        · rw [if_pos e3, if_pos (by omega)]
        · rw [if_neg e3, if_neg (by omega)]
theorem mm_visit {M m k l n : Nat} {post : St2 → Prop} {J : Int32 → Int32 → Int32 → (Nat → Int32) → (Nat → Int32) → (Nat → Int32) → (Nat → Int32) → (Nat → Int32) → (Nat → Int32) → (Nat → Int32) → (Nat → Int32) → Prop} {z : mm_Z} (hM : M = 10) (hS : mm_S N A a1 a2 a3) (hH : mm_H (mm_T N A M) a4) (hm : m < 2) (hl : l < 2) (hz : mm_ZA m z c0 a5 a6) (hk : k < z.1) (hv : (mm_vis (mm_nm N m) (mm_em N A M m) z k l).1 ≤ 3) (h : ∀ c0' a5' a6', mm_ZA m (mm_vis (mm_nm N m) (mm_em N A M m) z k l) c0' a5' a6' → wX_number_57 post J (nI m) (nI k) n (nI (l + 1)) c0' c1 a1 a2 a3 a4 a5' a6' a7 a8) : wX_number_57 post J (nI m) (nI k) (n + 1) (nI l) c0 c1 a1 a2 a3 a4 a5 a6 a7 a8 := by
  have hN := hS.2.2.2.1
  have hz' := hz
  obtain ⟨ec, z3, zl, zc⟩ := hz
  obtain ⟨el, l3⟩ := zl k hk
  have s3 : mm_nm N m (2 * mm_ld z k + l) < 3 := mm_nm3 hN m (by omega)
  obtain ⟨es, sb⟩ := zc _ s3
  refine pk_le 2 l (fun y => absurd y (by omega)) (fun _ => ⟨vp_in_nI (by omega) (by omega), ?_⟩)
  rw [nI_clamp (show k < 2 ^ 31 by omega), el]
  refine mm_after hS (by omega) hl ?_
  rw [mm_nx_m N m l3 hl]
  refine ⟨vp_in_nI (by omega) (by omega), ?_⟩
  rw [nI_clamp (show 6 * m + mm_nm N m (2 * mm_ld z k + l) < 2 ^ 31 by omega), es]
  unfold mm_vis at h hv
  refine ek_if (mm_cv_m1 (by omega)) (fun y => ?_) (fun y => ?_)
  · rw [y] at h hv
    have hv' : z.1 + 1 ≤ 3 := hv
    exact mm_admit hM hS hH hm s3 hz' (by omega) (fun c0' a5' a6' g => nm_r (nI_1 l) (h c0' a5' a6' g))
  · have hb : Nat.beq (mm_cl z (mm_nm N m (2 * mm_ld z k + l))) 0 = false := by
      cases hb : Nat.beq (mm_cl z (mm_nm N m (2 * mm_ld z k + l))) 0
      · rfl
      · exact absurd (Nat.eq_of_beq_eq_true hb) y
    rw [hb] at h
    exact nm_r (nI_1 l) (h c0 a5 a6 hz')
theorem mm_57 {M m k : Nat} {post : St2 → Prop} {J : Int32 → Int32 → Int32 → (Nat → Int32) → (Nat → Int32) → (Nat → Int32) → (Nat → Int32) → (Nat → Int32) → (Nat → Int32) → (Nat → Int32) → (Nat → Int32) → Prop} {z : mm_Z} (hM : M = 10) (hS : mm_S N A a1 a2 a3) (hH : mm_H (mm_T N A M) a4) (hm : m < 2) (hz : mm_ZA m z c0 a5 a6) (hk : k < z.1) (hv : (mm_vis (mm_nm N m) (mm_em N A M m) (mm_vis (mm_nm N m) (mm_em N A M m) z k 0) k 1).1 ≤ 3) (h : ∀ c0' a5' a6', mm_ZA m (mm_vis (mm_nm N m) (mm_em N A M m) (mm_vis (mm_nm N m) (mm_em N A M m) z k 0) k 1) c0' a5' a6' → J (nI (k + 1)) c0' c1 a1 a2 a3 a4 a5' a6' a7 a8) : ∃ n, wX_number_57 post J (nI m) (nI k) n 0 c0 c1 a1 a2 a3 a4 a5 a6 a7 a8 := by
  have g0 := mm_vis_ge (mm_nm N m) (mm_em N A M m) z k 0
  have g1 := mm_vis_ge (mm_nm N m) (mm_em N A M m) (mm_vis (mm_nm N m) (mm_em N A M m) z k 0) k 1
  refine ⟨3, ?_⟩
  refine mm_visit (l := 0) hM hS hH hm (by omega) hz hk (by omega) (fun c0' a5' a6' q0 => ?_)
  refine mm_visit (l := 1) hM hS hH hm (by omega) q0 (by omega) hv (fun c0' a5' a6' q1 => ?_)
  exact pk_le 2 2 (fun _ => nm_r (nI_1 k) (h _ _ _ q1)) (fun y => absurd y (by omega))
theorem mm_41 {M m : Nat} {post : St2 → Prop} (hM : M = 10) (hS : mm_S N A a1 a2 a3) (hH : mm_H (mm_T N A M) a4) (hm : m < 2) (hz : mm_ZA m (mm_zz N A M m 0) c0 a5 a6) (h : ∀ c0' a5' a6', mm_ZA m (mm_zz N A M m 3) c0' a5' a6' → post (c0', c1, a1, a2, a3, a4, a5', a6', a7, a8)) : ∃ n, wX_number_41 post (nI m) n 0 c0 c1 a1 a2 a3 a4 a5 a6 a7 a8 := by
  have hN := hS.2.2.2.1
  have h3 := (mm_facts (A := A) hN hM m).1
  refine pk_loop (σ := Int32 × (Nat → Int32) × (Nat → Int32)) (fun n k s => wX_number_41 post (nI m) n (nI k) s.1 c1 a1 a2 a3 a4 s.2.1 s.2.2 a7 a8) (fun k s => mm_ZA m (mm_zz N A M m k) s.1 s.2.1 s.2.2) 3 0 (c0, a5, a6) (by omega) hz ?_ ?_
  · rintro n ⟨b0, b5, b6⟩ hb
    dsimp only at hb
    have e0 := hb.1
    subst e0
    exact pk_le 6 3 (fun y => absurd y (by omega)) (fun _ => pk_le (mm_zz N A M m 3).1 3 (fun _ => h _ _ _ hb) (fun y => absurd y (by omega)))
  · rintro n k ⟨b0, b5, b6⟩ hk hb hw2
    dsimp only at hb
    have hk3 : (mm_zz N A M m k).1 ≤ 3 := mm_it_le3 h3 (by omega)
    have e0 := hb.1
    subst e0
    refine pk_le 6 k (fun y => absurd y (by omega)) (fun _ => pk_le (mm_zz N A M m k).1 k (fun y => ?_) (fun y => ?_))
    · have e : mm_zz N A M m (k + (3 - k)) = mm_zz N A M m k := mm_it_stop y (3 - k)
      rw [show k + (3 - k) = 3 by omega] at e
      rw [e] at h
      exact h _ _ _ hb
    · have e : mm_zz N A M m (k + 1) = mm_vis (mm_nm N m) (mm_em N A M m) (mm_vis (mm_nm N m) (mm_em N A M m) (mm_zz N A M m k) k 0) k 1 := mm_it_go y
      have hk4 : (mm_zz N A M m (k + 1)).1 ≤ 3 := mm_it_le3 h3 (by omega)
      rw [e] at hk4
      refine mm_57 hM hS hH hm hb y hk4 (fun b0' b5' b6' q => ?_)
      rw [← e] at q
      exact hw2 (b0', b5', b6') q
theorem mm_number {M m : Nat} {post : St2 → Prop} (hM : M = 10) (hS : mm_S N A a1 a2 a3) (hc : c1 = 0 ∨ mm_H (mm_T N A M) a4) (hm : m < 2) (h : ∀ c f c0' a5' a6', ¬ c = 0 → mm_H (mm_T N A M) f → mm_ZA m (mm_zz N A M m 3) c0' a5' a6' → post (c0', c, a1, a2, a3, f, a5', a6', a7, a8)) : wpX_number post (c0, c1, a1, a2, a3, a4, a5, a6, a7, a8) (nI m) := by
  unfold wpX_number
  dsimp only
  refine mm_refresh hM hS hc (fun c f hc' hf => ?_)
  refine pk_loop (fun n i s => wX_number_6 post (nI m) c0 c n (nI i) a1 a2 a3 f s a6 a7 a8) (fun i s => ∀ j, j < i → s j = -1) 12 0 a5 (by omega) (fun j y => absurd y (by omega)) ?_ ?_
  · intro n s hs
    refine pk_le 12 12 (fun _ => ?_) (fun y => absurd y (by omega))
    have e : (6 : Int32) * nI m = nI (6 * m + 0) := pk_mul 6 m
    rw [e]
    refine mm_admit (z := (0, 0, 0, 0, 0, 0, 0)) hM hS hf hm (by omega) ⟨rfl, by show 0 ≤ 3; omega, fun j y => absurd y (Nat.not_lt_zero j), fun q hq => ⟨?_, ?_⟩⟩ (by show 0 ≤ 2; omega) (fun c0' a5' a6' q => ?_)
    · rw [hs _ (by omega)]
      have e : q = 0 ∨ q = 1 ∨ q = 2 := by omega
      rcases e with rfl | rfl | rfl <;> rfl
    · have e : q = 0 ∨ q = 1 ∨ q = 2 := by omega
      rcases e with rfl | rfl | rfl <;> exact Nat.le_refl 0
    · exact mm_41 hM hS hf hm q (fun b0 b5 b6 r => h c f b0 b5 b6 hc' hf r)
  · intro n i s hi hs hw2
    refine pk_le 12 i (fun y => absurd y (by omega)) (fun _ => ⟨vp_in_nI (by omega) (by omega), nm_e (nm_r (nI_1 i) (hw2 _ ?_))⟩)
    rw [nI_clamp (show i < 2 ^ 31 by omega)]
    intro j hj
    by_cases e : j = i
    · rw [e, pk_us]
    · rw [pk_un e]
      exact hs j (by omega)
theorem mm_xcore {M m : Nat} {post : Int32 → St2 → Prop} (hM : M = 10) (hS : mm_S N A a1 a2 a3) (hc : c1 = 0 ∨ mm_H (mm_T N A M) a4) (hm : m < 2) (h : ∀ c f c0' a5' a6', ¬ c = 0 → mm_H (mm_T N A M) f → post (nI (mm_zz N A M m 3).1) (c0', c, a1, a2, a3, f, a5', a6', a7, a8)) : wpX_core post (c0, c1, a1, a2, a3, a4, a5, a6, a7, a8) (nI m) := by
  unfold wpX_core
  dsimp only
  refine mm_ism hm (br_f (by decide) (mm_number hM hS hc hm (fun c f c0' a5' a6' h1 h2 h3 => ?_)))
  have e := h3.1
  subst e
  exact h c f _ a5' a6' h1 h2
theorem mm_cAns {M m k l : Nat} {post : Int32 → St2 → Prop} (hM : M = 10) (hS : mm_S N A a1 a2 a3) (hc : c1 = 0 ∨ mm_H (mm_T N A M) a4) (hm : m < 2) (hk : k < (mm_zz N A M m 3).1) (hl : l < 2) (h : ∀ c f c0' a5' a6', ¬ c = 0 → mm_H (mm_T N A M) f → post (nI (A (2 * (6 * m + mm_ld (mm_zz N A M m 3) k) + l))) (c0', c, a1, a2, a3, f, a5', a6', a7, a8)) : wpX_coreAnswer post (c0, c1, a1, a2, a3, a4, a5, a6, a7, a8) (nI m) (nI k) (nI l) := by
  have h3 := (mm_facts (A := A) hS.2.2.2.1 hM m).1
  unfold wpX_coreAnswer
  dsimp only
  refine mm_ism hm (br_f (by decide) (mm_number hM hS hc hm (fun c f c0' a5' a6' g1 g2 g3 => ?_)))
  have e := g3.1
  subst e
  have g4 := g3.2.2.1 k hk
  have go : wX_coreAnswer_41 post (nI k) (nI l) (nI (mm_zz N A M m 3).1) c a1 a2 a3 f a5' a6' a7 a8 := by
    unfold wX_coreAnswer_41
    rw [nI_clamp (show k < 2 ^ 31 by omega), g4.1, show (2 : Int32) * nI (6 * m + mm_ld (mm_zz N A M m 3) k) = nI (2 * (6 * m + mm_ld (mm_zz N A M m 3) k)) from pk_mul 2 _, nI_add, nI_clamp (show 2 * (6 * m + mm_ld (mm_zz N A M m 3) k) + l < 2 ^ 31 by omega), hS.2.2.1 _ (by omega)]
    exact ⟨vp_in_nI (by omega) (by omega), vp_in_nI (by omega) (by omega), h c f _ a5' a6' g1 g2⟩
  exact br_f (nI_pos (by omega)) (pk_lt k (mm_zz N A M m 3).1 (fun _ => pk_eq l 0 (fun _ => go) (fun _ => pk_eq l 1 (fun _ => go) (fun _ => absurd hl (by omega)))) (fun y => absurd y (by omega)))
theorem mm_cAns3 {M m k : Nat} {post : Int32 → St2 → Prop} (hM : M = 10) (hS : mm_S N A a1 a2 a3) (hc : c1 = 0 ∨ mm_H (mm_T N A M) a4) (hm : m < 2) (hk : k < (mm_zz N A M m 3).1) (h : ∀ c f c0' a5' a6', post (-3) (c0', c, a1, a2, a3, f, a5', a6', a7, a8)) : wpX_coreAnswer post (c0, c1, a1, a2, a3, a4, a5, a6, a7, a8) (nI m) (nI k) 2 := by
  have h3 := (mm_facts (A := A) hS.2.2.2.1 hM m).1
  unfold wpX_coreAnswer
  dsimp only
  refine mm_ism hm (br_f (by decide) (mm_number hM hS hc hm (fun c f c0' a5' a6' g1 g2 g3 => ?_)))
  have e := g3.1
  subst e
  exact br_f (nI_pos (by omega)) (pk_lt k (mm_zz N A M m 3).1 (fun _ => br_f (by decide) (br_f (by decide) (h c f _ a5' a6'))) (fun y => absurd y (by omega)))
theorem mm_classOf {M s : Nat} {x : Int32} {post : Int32 → St2 → Prop} (hx : x = nI s) (hM : M = 10) (hS : mm_S N A a1 a2 a3) (hc : c1 = 0 ∨ mm_H (mm_T N A M) a4) (hs : s < 3) (hv : 1 ≤ mm_cl (mm_zz N A M 0 3) s) (h : ∀ c f c0' a5' a6', ¬ c = 0 → mm_H (mm_T N A M) f → post (nI (mm_cl (mm_zz N A M 0 3) s - 1)) (c0', c, a1, a2, a3, f, a5', a6', a7, a8)) : wpX_classOf post (c0, c1, a1, a2, a3, a4, a5, a6, a7, a8) x := by
  have h3 := (mm_facts (A := A) hS.2.2.2.1 hM 0).1
  have ex : x = nI (8 * 0 + s) := by rw [hx, show 8 * 0 + s = s by omega]
  subst ex
  unfold wpX_classOf
  dsimp only
  refine mm_place hS (by omega) hs (br_t (nI_pos' (by omega)) ⟨by decide, ?_⟩)
  have e6 : nI (6 * 0 + s) / 6 = nI 0 := by
    have e := pk_div (a := 6 * 0 + s) (d := 6) (by omega) (by omega) (by omega)
    rw [show (6 * 0 + s) / 6 = 0 by omega] at e
    exact e
  rw [e6]
  refine mm_number hM hS hc (by omega) (fun c f c0' a5' a6' g1 g2 g3 => ?_)
  have g4 := g3.2.2.2 s hs
  show vp_in (nI (6 * 0 + s)) 12 ∧ ((a5' (nI (6 * 0 + s)).toNatClampNeg = -1 → _) ∧ (¬ a5' (nI (6 * 0 + s)).toNatClampNeg = -1 → vp_in (nI (6 * 0 + s)) 12 ∧ post (a5' (nI (6 * 0 + s)).toNatClampNeg) _))
  rw [nI_clamp (show 6 * 0 + s < 2 ^ 31 by omega), g4.1]
  have e9 : mm_cv (mm_cl (mm_zz N A M 0 3) s) = nI (mm_cl (mm_zz N A M 0 3) s - 1) := if_neg (by omega)
  refine ⟨vp_in_nI (by omega) (by omega), br_f (fun y => ?_) ⟨vp_in_nI (by omega) (by omega), ?_⟩⟩
  · have := (mm_cv_m1 (v := mm_cl (mm_zz N A M 0 3) s) (by omega)).mp y
    omega
  · rw [e9]
    exact h c f c0' a5' a6' g1 g2
theorem mm_cNext {M : Nat} {post : Int32 → St2 → Prop} (hM : M = 10) (hS : mm_S N A a1 a2 a3) (hc : c1 = 0 ∨ mm_H (mm_T N A M) a4) (hv : 1 ≤ mm_cl (mm_zz N A M 0 3) (mm_nm N 0 0)) (h : ∀ c f c0' a5' a6', ¬ c = 0 → mm_H (mm_T N A M) f → post (nI (mm_cl (mm_zz N A M 0 3) (mm_nm N 0 0) - 1)) (c0', c, a1, a2, a3, f, a5', a6', a7, a8)) : wpX_coreNext post (c0, c1, a1, a2, a3, a4, a5, a6, a7, a8) 0 0 0 := by
  have hN := hS.2.2.2.1
  have hf0 := mm_facts (A := A) hN hM 0
  have h3 := hf0.1
  have h1 := hf0.2.2.1
  have hl := hf0.2.2.2.1
  unfold wpX_coreNext
  dsimp only
  refine mm_ism (m := 0) (by omega) (br_f (by decide) (mm_number (m := 0) hM hS hc (by omega) (fun c f c0' a5' a6' g1 g2 g3 => ?_)))
  have e := g3.1
  subst e
  have g4 := g3.2.2.1 0 (by omega)
  have n3 := mm_nm3 hN 0 (k := 0) (by omega)
  have g5 := g3.2.2.2 _ n3
  have go : wX_coreNext_41 post 0 0 (nI (mm_zz N A M 0 3).1) c a1 a2 a3 f a5' a6' a7 a8 := by
    unfold wX_coreNext_41
    rw [sb_cl0, g4.1, hl]
    refine ⟨pk_in 0 12 (by omega), mm_after (l := 0) hS (by omega) (by omega) ?_⟩
    rw [mm_nx_m N 0 (by omega) (by omega)]
    rw [nI_clamp (show 6 * 0 + mm_nm N 0 (2 * 0 + 0) < 2 ^ 31 by have : mm_nm N 0 (2 * 0 + 0) < 3 := n3; omega)]
    have e5 : a5' (6 * 0 + mm_nm N 0 (2 * 0 + 0)) = nI (mm_cl (mm_zz N A M 0 3) (mm_nm N 0 0) - 1) := by
      have e9 : mm_cv (mm_cl (mm_zz N A M 0 3) (mm_nm N 0 0)) = nI (mm_cl (mm_zz N A M 0 3) (mm_nm N 0 0) - 1) := if_neg (by omega)
      rw [← e9]
      exact g5.1
    rw [e5]
    exact ⟨vp_in_nI (by have : mm_nm N 0 (2 * 0 + 0) < 3 := n3; omega) (by omega), h c f _ a5' a6' g1 g2⟩
  exact br_f (by decide) (pk_lt 0 (mm_zz N A M 0 3).1 (fun _ => br_t rfl go) (fun y => absurd y (by omega)))
theorem mm_cNext2 {M : Nat} {x : Int32} {post : Int32 → St2 → Prop} (hM : M = 10) (hS : mm_S N A a1 a2 a3) (hc : c1 = 0 ∨ mm_H (mm_T N A M) a4) (hx : x = nI (mm_zz N A M 0 3).1) (h : ∀ c f c0' a5' a6', ¬ c = 0 → mm_H (mm_T N A M) f → post (-2) (c0', c, a1, a2, a3, f, a5', a6', a7, a8)) : wpX_coreNext post (c0, c1, a1, a2, a3, a4, a5, a6, a7, a8) 0 x 0 := by
  have h3 := (mm_facts (A := A) hS.2.2.2.1 hM 0).1
  subst hx
  unfold wpX_coreNext
  dsimp only
  refine mm_ism (m := 0) (by omega) (br_f (by decide) (mm_number (m := 0) hM hS hc (by omega) (fun c f c0' a5' a6' g1 g2 g3 => ?_)))
  have e := g3.1
  subst e
  exact br_f (nI_pos (by omega)) (pk_lt (mm_zz N A M 0 3).1 (mm_zz N A M 0 3).1 (fun y => absurd y (by omega)) (fun _ => h c f _ a5' a6' g1 g2))
end
end
section
section
variable {c0 c1 : Int32} {a1 a2 a3 a4 a5 a6 a7 a8 : Nat → Int32}
theorem mm_init {post : St2 → Prop} {mc ms : Nat} (hc : 8 ≤ mc) (hs : 346 ≤ ms) (h : ∀ b1 : Nat → Int32, b1 0 = 1 → b1 1 = 1 → post (0, 0, b1, (fun _ => 0), (fun _ => 0), (fun _ => 0), (fun _ => 0), (fun _ => 0), (fun _ => 0), (fun _ => 0))) : wpX_init post mc ms (0, 0) := by
  unfold wpX_init
  dsimp only
  exact ⟨by omega, by omega, by omega, by omega, by omega, by omega, by omega, by omega, by omega, by omega, by omega, by omega, by omega, by omega, by omega, by omega, nm_e (nm_e (h _ (by rw [pk_un (by omega), pk_us]) pk_us))⟩
theorem mm_size {post : Int32 → St2 → Prop} {m : Nat} {v : Int32} (hm : m < 2) (hv : a1 m = v) (h2 : ∀ k, k < 24 → a2 k = 0) (h3 : ∀ k, k < 24 → a3 k = 0) (h : ∀ b2 b3, (∀ k, k < 24 → b2 k = 0) → (∀ k, k < 24 → b3 k = 0) → post v (c0, 0, upd a1 m 3, b2, b3, a4, a5, a6, a7, a8)) : wpX_size post (c0, c1, a1, a2, a3, a4, a5, a6, a7, a8) (nI m) 3 := by
  have e0 : (12 : Int32) * nI m = nI (12 * m + 0) := pk_mul 12 m
  have e1 : (12 : Int32) * nI m + 12 = nI (12 * m + 12) := by
    rw [show (12 : Int32) = nI 12 from rfl, pk_mul, nI_add]
  unfold wpX_size
  dsimp only
  refine mm_ism hm (br_f (by decide) (br_f (by decide) (br_t (by decide) ⟨vp_in_nI hm (by omega), ?_⟩)))
  rw [nI_clamp (show m < 2 ^ 31 by omega)]
  refine nm_r hv ⟨vp_in_nI hm (by omega), nm_e (nm_r e0 ?_)⟩
  refine pk_loop (σ := (Nat → Int32) × (Nat → Int32)) (fun n i s => wX_size_43 post (nI m) v c0 c1 n (nI (12 * m + i)) (upd a1 m 3) s.1 s.2 a4 a5 a6 a7 a8) (fun _ s => (∀ k, k < 24 → s.1 k = 0) ∧ (∀ k, k < 24 → s.2 k = 0)) 12 0 (a2, a3) (by omega) ⟨h2, h3⟩ ?_ ?_
  · rintro n ⟨b2, b3⟩ ⟨g2, g3⟩
    exact pk_le (12 * m + 12) (12 * m + 12) (fun _ => h b2 b3 g2 g3) (fun y => absurd y (by omega)) e1
  · rintro n i ⟨b2, b3⟩ hi ⟨g2, g3⟩ hw2
    dsimp only at g2 g3
    refine pk_le (12 * m + 12) (12 * m + i) (fun y => absurd y (by omega)) (fun _ => ⟨vp_in_nI (by omega) (by omega), nm_e ⟨vp_in_nI (by omega) (by omega), nm_e (nm_r (nI_1 _) ?_)⟩⟩) e1
    rw [nI_clamp (show 12 * m + i < 2 ^ 31 by omega)]
    refine hw2 (upd b2 (12 * m + i) 0, upd b3 (12 * m + i) 0) ⟨fun k hk => ?_, fun k hk => ?_⟩
    · show upd b2 (12 * m + i) 0 k = 0
      by_cases e : k = 12 * m + i
      · rw [e, pk_us]
      · rw [pk_un e]
        exact g2 k hk
    · show upd b3 (12 * m + i) 0 k = 0
      by_cases e : k = 12 * m + i
      · rw [e, pk_us]
      · rw [pk_un e]
        exact g3 k hk
theorem mm_set {post : Int32 → St2 → Prop} {m i n a : Nat} {x : Int32} (hx : x = nI (4 * n + a)) (hm : m < 2) (hi : i < 6) (hn : n < 3) (ha : a < 4) (h1 : ∀ k, k < 2 → a1 k = nI 3) (h2 : a2 (12 * m + i) = nI 0) (h3 : a3 (12 * m + i) = nI 0) (h : post 0 (c0, 0, a1, upd a2 (12 * m + i) (nI n), upd a3 (12 * m + i) (nI a), a4, a5, a6, a7, a8)) : wpX_set post (c0, c1, a1, a2, a3, a4, a5, a6, a7, a8) (nI m) (nI i) x := by
  subst hx
  have e1 : nI i >>> ((1 : Int32) &&& 31) = nI (i / 2) := pk_shrN (by omega) _ 1 (by decide)
  have e2 : nI (4 * n + a) >>> ((2 : Int32) &&& 31) = nI n := by
    rw [pk_shrN (by omega) _ 2 (by decide), show (4 * n + a) / 2 ^ 2 = n by omega]
  have e3 : nI (4 * n + a) &&& 3 = nI a := by
    rw [pk_andN (by omega) 2 (by decide), show (4 * n + a) % 2 ^ 2 = a by omega]
  have e4 : (12 : Int32) * nI m + nI i = nI (12 * m + i) := by
    rw [show (12 : Int32) = nI 12 from rfl, pk_mul, nI_add]
  have e5 : (4 : Int32) * nI 0 + nI 0 = 0 := by decide
  unfold wpX_set
  dsimp only
  rw [e1, e2, e3, nI_clamp (show m < 2 ^ 31 by omega), h1 m hm]
  refine mm_ism hm (br_f (by decide) (br_f (nI_pos (by omega)) ⟨vp_in_nI hm (by omega), pk_lt (i / 2) 3 (fun _ => br_f (nI_pos (by omega)) ⟨vp_in_nI hm (by omega), pk_lt n 3 (fun _ => nm_r e4 ?_) (fun y => absurd y (by omega))⟩) (fun y => absurd y (by omega))⟩))
  rw [nI_clamp (show 12 * m + i < 2 ^ 31 by omega), h2, h3]
  exact ⟨vp_in_nI (by omega) (by omega), vp_in_nI (by omega) (by omega), nm_r e5 ⟨vp_in_nI (by omega) (by omega), nm_e ⟨vp_in_nI (by omega) (by omega), nm_e h⟩⟩⟩
end
/-- the two codes as one text -/
def mm_N (x y : Int32) (k : Nat) : Nat := if k < 6 then mm_n x k else if 12 ≤ k ∧ k < 18 then mm_n y (k - 12) else 0
def mm_A (x y : Int32) (k : Nat) : Nat := if k < 6 then mm_a x k else if 12 ≤ k ∧ k < 18 then mm_a y (k - 12) else 0
theorem mm_N3 (x y : Int32) (k : Nat) : mm_N x y k < 3 := by
  unfold mm_N
  split
  · exact mm_n3 x k
  · split
    · exact mm_n3 y _
    · omega
theorem mm_A4 (x y : Int32) (k : Nat) : mm_A x y k < 4 := by
  unfold mm_A
  split
  · exact mm_a4 x k
  · split
    · exact mm_a4 y _
    · omega
theorem mm_N0 (x y : Int32) {k : Nat} (hk : k < 6) : mm_N x y (12 * 0 + k) = mm_n x k ∧ mm_A x y (12 * 0 + k) = mm_a x k := by
  rw [show 12 * 0 + k = k by omega]
  exact ⟨if_pos hk, if_pos hk⟩
theorem mm_N1 (x y : Int32) {k : Nat} (hk : k < 6) : mm_N x y (12 * 1 + k) = mm_n y k ∧ mm_A x y (12 * 1 + k) = mm_a y k := by
  have e : 12 * 1 + k - 12 = k := by omega
  constructor
  · unfold mm_N
    rw [if_neg (by omega), if_pos ⟨by omega, by omega⟩, e]
  · unfold mm_A
    rw [if_neg (by omega), if_pos ⟨by omega, by omega⟩, e]
/-- one machine within the whole -/
theorem mm_sub_run {N : Nat → Nat} {c : Int32} {m : Nat} (hn : ∀ k, k < 6 → N (12 * m + k) = mm_n c k) {s : Nat} (hs : s < 3) : ∀ j w, mm_run N (6 * m + s) j w = 6 * m + mm_run (mm_n c) s j w := by
  intro j
  induction j with
  | zero => exact fun _ => rfl
  | succ j ih =>
    intro w
    have h1 := mm_run3 c hs j (w / 2)
    rw [mm_runS c hs]
    show mm_nx N (mm_run N (6 * m + s) j (w / 2)) (w % 2) = _
    rw [ih, mm_nx, show (6 * m + mm_run (mm_n c) s j (w / 2)) / 6 = m by omega, show 2 * (6 * m + mm_run (mm_n c) s j (w / 2)) + w % 2 = 12 * m + (2 * mm_run (mm_n c) s j (w / 2) + w % 2) by omega, hn _ (by omega)]
theorem mm_sub_rsp {N A : Nat → Nat} {c : Int32} {m : Nat} (hn : ∀ k, k < 6 → N (12 * m + k) = mm_n c k) (ha : ∀ k, k < 6 → A (12 * m + k) = mm_a c k) {s : Nat} (hs : s < 3) : ∀ j w, mm_rsp N A (6 * m + s) j w = mm_rsp (mm_n c) (mm_a c) s j w := by
  intro j
  induction j with
  | zero => exact fun _ => rfl
  | succ j ih =>
    intro w
    have h1 := mm_run3 c hs j (w / 2)
    show 4 * mm_rsp N A (6 * m + s) j (w / 2) + A (2 * mm_run N (6 * m + s) j (w / 2) + w % 2) = 4 * mm_rsp (mm_n c) (mm_a c) s j (w / 2) + mm_a c (2 * mm_run (mm_n c) s j (w / 2) + w % 2)
    rw [ih, mm_sub_run hn hs, show 2 * (6 * m + mm_run (mm_n c) s j (w / 2)) + w % 2 = 12 * m + (2 * mm_run (mm_n c) s j (w / 2) + w % 2) by omega, ha _ (by omega)]
theorem mm_sub_F {N A : Nat → Nat} {c : Int32} {m : Nat} (hA : ∀ k, A k < 4) (hn : ∀ k, k < 6 → N (12 * m + k) = mm_n c k) (ha : ∀ k, k < 6 → A (12 * m + k) = mm_a c k) {s t : Nat} (hs : s < 3) (ht : t < 3) (j : Nat) : mm_F N A j (6 * m + s) (6 * m + t) ↔ mm_F (mm_n c) (mm_a c) j s t := by
  rw [← mm_wd N A hA, ← mm_wd (mm_n c) (mm_a c) (mm_a4 c)]
  constructor
  · rintro ⟨w, h1, h2⟩
    rw [mm_sub_rsp hn ha hs, mm_sub_rsp hn ha ht] at h2
    exact ⟨w, h1, h2⟩
  · rintro ⟨w, h1, h2⟩
    refine ⟨w, h1, ?_⟩
    rw [mm_sub_rsp hn ha hs, mm_sub_rsp hn ha ht]
    exact h2
/-- the law's likeness is the table's -/
theorem mm_alk {N A : Nat → Nat} {c : Int32} {M s t : Nat} {post : Int32 → Prop} (hM : M = 10) (hN : ∀ k, N k < 3) (hA : ∀ k, A k < 4) (hn : ∀ k, k < 6 → N (12 * 0 + k) = mm_n c k) (ha : ∀ k, k < 6 → A (12 * 0 + k) = mm_a c k) (hs : s < 3) (ht : t < 3) (h1 : mm_lk N A M 0 s t = true → post 1) (h0 : mm_lk N A M 0 s t = false → post 0) : wpL_alike post () c (nI s) (nI t) := by
  refine mm_lalike hs ht (fun z => h1 ?_) (fun z => h0 ?_)
  · rw [mm_lk_iff hN hs ht]
    intro y
    exact z ((mm_sub_F hA hn ha hs ht 2).mp (mm_b3 hN hs ht y))
  · cases hb : mm_lk N A M 0 s t
    · rfl
    · exact absurd (mm_F_mono N A (by omega) ((mm_sub_F hA hn ha hs ht 2).mpr z)) ((mm_lk_iff hN hs ht).mp hb)
theorem mm_fst_T {N A : Nat → Nat} {M p q : Nat} (hM : M = 10) (hN : ∀ k, N k < 3) (hA : ∀ k, A k < 4) (hp : p < 12) (hq : q < 12) (tp : p % 6 < 3) (tq : q % 6 < 3) : mm_fst N A p q 64 = 0 ↔ mm_T N A M q p = 0 := by
  have hsy : mm_T N A M q p = 0 ↔ mm_T N A M p q = 0 := by
    rw [mm_T_0 hN tq tp, mm_T_0 hN tp tq]
    exact ⟨fun h z => h (mm_F_symm _ _ _ _ _ z), fun h z => h (mm_F_symm _ _ _ _ _ z)⟩
  rw [hsy]
  constructor
  · intro h
    rw [mm_T_0 hN tp tq]
    intro z
    obtain ⟨w, hw, hne⟩ := (mm_wd N A hA p q 5).mpr (mm_b6 hN hp hq tp tq z)
    have hl := mm_len_is hw (by omega)
    rcases @mm_lst_spec (mm_D N A p q) (fun _ => Classical.propDecidable _) 64 with ⟨_, g⟩ | ⟨g, _⟩
    · refine g w hl.2.1 hl.2.2 ?_
      show mm_rsp N A p (mm_len w) w ≠ mm_rsp N A q (mm_len w) w
      rw [hl.1]
      exact hne
    · have h' : 0 < mm_fst N A p q 64 := g
      omega
  · exact mm_fst0 hM hN hA tp tq
theorem mm_lst_le (P : Nat → Prop) [DecidablePred P] (n : Nat) : mm_lst P n ≤ n := by
  rcases mm_lst_spec P n with ⟨e, _⟩ | ⟨_, h, _⟩ <;> omega
end
section
def mm_bI (b : Bool) : Int32 := bif b then 1 else 0
theorem mm_cv_neg {v : Nat} (hv : v < 100) : mm_cv v < 0 ↔ v = 0 := by
  unfold mm_cv
  by_cases e : v = 0
  · rw [if_pos e]
    exact ⟨fun _ => e, fun _ => by decide⟩
  · rw [if_neg e]
    exact ⟨fun z => absurd z (nI_pos (by omega)), fun z => absurd z e⟩
theorem mm_cv_pos {v : Nat} (hv : v < 100) : 0 ≤ mm_cv v ↔ ¬ v = 0 := by
  unfold mm_cv
  by_cases e : v = 0
  · rw [if_pos e]
    exact ⟨fun z => absurd z (by decide), fun z => absurd e z⟩
  · rw [if_neg e]
    exact ⟨fun _ => e, fun _ => nI_pos' (by omega)⟩
theorem mm_uw_W (c : Int32) {k : Nat} (hk : k < 6) : mm_W c 0 (k + 2) = (bif Nat.ble k 1 then mm_n c k else mm_n c (2 * mm_n c ((k - 2) / 2) + (k - 2) % 2)) := by
  have r1 : ∀ w, mm_run (mm_n c) 0 1 w = mm_n c (w % 2) := by
    intro w
    rw [mm_runS c (by omega)]
    show mm_n c (2 * 0 + w % 2) = _
    rw [show 2 * 0 + w % 2 = w % 2 by omega]
  have r2 : ∀ w, mm_run (mm_n c) 0 2 w = mm_n c (2 * mm_n c (w / 2 % 2) + w % 2) := by
    intro w
    rw [mm_runS c (by omega), r1]
  have e : k = 0 ∨ k = 1 ∨ k = 2 ∨ k = 3 ∨ k = 4 ∨ k = 5 := by omega
  rcases e with rfl | rfl | rfl | rfl | rfl | rfl
  · exact r1 2
  · exact r1 3
  · exact r2 4
  · exact r2 5
  · exact r2 6
  · exact r2 7
theorem mm_uw3 {n : Nat → Nat} (hn : ∀ k, k < 6 → n k < 3) {k : Nat} (hk : k < 6) : mm_uw n k < 3 := by
  unfold mm_uw
  cases hb : Nat.ble k 1
  · have h2 := hn ((k - 2) / 2) (by omega)
    exact hn _ (by omega)
  · exact hn k hk
theorem mm_ls3 (e : Nat → Nat → Bool) {u : Nat} (hu : u < 3) {p : Nat × Nat} (h1 : p.1 ≤ 3) (h2 : p.2 ≤ 3) : (mm_ls e u p).1 ≤ 3 ∧ (mm_ls e u p).2 ≤ 3 := by
  unfold mm_ls
  cases e 0 u
  · constructor
    · show (bif Nat.beq p.1 0 then u + 1 else p.1) ≤ 3
      cases Nat.beq p.1 0
      · exact h1
      · exact Nat.succ_le_of_lt hu
    · show (bif (!Nat.beq p.1 0) && (Nat.beq p.2 0 && !(e (p.1 - 1) u)) then u + 1 else p.2) ≤ 3
      cases (!Nat.beq p.1 0) && (Nat.beq p.2 0 && !(e (p.1 - 1) u))
      · exact h2
      · exact Nat.succ_le_of_lt hu
  · exact ⟨h1, h2⟩
theorem mm_lf3 {n : Nat → Nat} (hn : ∀ k, k < 6 → n k < 3) (e : Nat → Nat → Bool) : ∀ k, k ≤ 6 → (mm_lf n e k).1 ≤ 3 ∧ (mm_lf n e k).2 ≤ 3 := by
  intro k
  induction k with
  | zero => exact fun _ => ⟨by show 0 ≤ 3; omega, by show 0 ≤ 3; omega⟩
  | succ k ih =>
    intro hk
    have h := ih (by omega)
    exact mm_ls3 e (mm_uw3 hn (by omega)) h.1 h.2
theorem mm_beqF {a b : Nat} (h : ¬ a = b) : Nat.beq a b = false := by
  cases hb : Nat.beq a b
  · rfl
  · exact absurd (Nat.eq_of_beq_eq_true hb) h
section
variable {post : Int32 → St0 → Prop} {mc ms kc ks M : Nat} {x : Int32} {N A : Nat → Nat} {c0 c1 : Int32} {a1 a2 a3 a4 a5 a6 a7 a8 : Nat → Int32}
theorem mm_alkB {c : Int32} {s t : Nat} {p : Int32 → Prop} (hM : M = 10) (hN : ∀ k, N k < 3) (hA : ∀ k, A k < 4) (hn : ∀ k, k < 6 → N (12 * 0 + k) = mm_n c k) (ha : ∀ k, k < 6 → A (12 * 0 + k) = mm_a c k) (hs : s < 3) (ht : t < 3) (h : p (mm_bI (mm_lk N A M 0 s t))) : wpL_alike p () c (nI s) (nI t) :=
  mm_alk hM hN hA hn ha hs ht (fun e => by rw [e] at h; exact h) (fun e => by rw [e] at h; exact h)
theorem mm_alikeB {s t : Nat} {y z : Int32} {p : Int32 → St2 → Prop} (hy : y = nI s) (hz : z = nI t) (hM : M = 10) (hS : mm_S N A a1 a2 a3) (hc : c1 = 0 ∨ mm_H (mm_T N A M) a4) (hs : s < 3) (ht : t < 3) (h : ∀ c f, ¬ c = 0 → mm_H (mm_T N A M) f → p (mm_bI (mm_lk N A M 0 s t)) (c0, c, a1, a2, a3, f, a5, a6, a7, a8)) : wpX_alike p (c0, c1, a1, a2, a3, a4, a5, a6, a7, a8) y z := by
  refine mm_alike (m := 0) (m' := 0) hM (by rw [hy, show 8 * 0 + s = s by omega]) (by rw [hz, show 8 * 0 + t = t by omega]) (by omega) hs (by omega) ht hS hc (fun c f h1 h2 => ⟨fun e => ?_, fun e => ?_⟩)
  · have g := h c f h1 h2
    rw [show mm_lk N A M 0 s t = true from decide_eq_true e] at g
    exact g
  · have g := h c f h1 h2
    rw [show mm_lk N A M 0 s t = false from decide_eq_false e] at g
    exact g
theorem mm_694 {v y : Int32} (hM : M = 10) (hS : mm_S N A a1 a2 a3) (hc : c1 = 0 ∨ mm_H (mm_T N A M) a4) (hy : y = nI (mm_zz N A M 0 3).1) (h : post 1 ()) : wL_lawOf_694 post mc ms y v v kc ks c0 c1 a1 a2 a3 a4 a5 a6 a7 a8 := by
  unfold wL_lawOf_694
  refine br_t rfl (mm_cNext2 hM hS hc hy (fun c f c0' a5' a6' h1 h2 => br_t rfl ?_))
  exact mm_cAns3 (m := 1) (k := 0) hM hS (Or.inr h2) (by omega) (mm_facts hS.2.2.2.1 hM 1).2.2.1 (fun c f c0' a5' a6' => br_t rfl h)
theorem mm_664 {y : Int32} (hM : M = 10) (hS : mm_S N A a1 a2 a3) (hc : c1 = 0 ∨ mm_H (mm_T N A M) a4) (hn : ∀ k, k < 6 → N (12 * 0 + k) = mm_n x k) (ha : ∀ k, k < 6 → A (12 * 0 + k) = mm_a x k) (hy : y = nI (mm_zz N A M 0 3).1) (h : post 1 ()) : wL_lawOf_664 post mc ms x y kc ks c0 c1 a1 a2 a3 a4 a5 a6 a7 a8 := by
  have hN := hS.2.2.2.1
  have hA := hS.2.2.2.2
  have hf := mm_facts (A := A) hN hM 0
  have n3 := mm_nm3 hN 0 (k := 0) (by omega)
  have e0 : mm_n x (2 * 0 + 0) = mm_nm N 0 0 := (hn 0 (by omega)).symm
  have hem := mm_em_lk (A := A) (M := M) (m := 0) hN (show 0 < 3 by omega) n3
  unfold wL_lawOf_664
  refine mm_next (s := 0) (l := 0) ?_
  rw [e0]
  by_cases hb : mm_em N A M 0 0 (mm_nm N 0 0) = true
  · have hcl := hf.2.2.2.2.2.2.1 hb
    refine mm_cNext hM hS hc (by omega) (fun c f c0' a5' a6' h1 h2 => ?_)
    rw [hcl]
    refine mm_alkB (s := 0) hM hN hA hn ha (by omega) n3 ?_
    rw [← hem, hb]
    exact br_f (by decide) (mm_694 hM hS (Or.inr h2) hy h)
  · have hcl := hf.2.2.2.2.2.2.2 hb
    have hb' : mm_em N A M 0 0 (mm_nm N 0 0) = false := by
      cases hq : mm_em N A M 0 0 (mm_nm N 0 0)
      · rfl
      · exact absurd hq hb
    refine mm_cNext hM hS hc (by omega) (fun c f c0' a5' a6' h1 h2 => ?_)
    rw [hcl]
    refine mm_alkB (s := 0) hM hN hA hn ha (by omega) n3 ?_
    rw [← hem, hb']
    exact br_t rfl (mm_694 hM hS (Or.inr h2) hy h)
theorem mm_591 {y : Int32} (hM : M = 10) (hS : mm_S N A a1 a2 a3) (hc : c1 = 0 ∨ mm_H (mm_T N A M) a4) (hn : ∀ k, k < 6 → N (12 * 0 + k) = mm_n x k) (ha : ∀ k, k < 6 → A (12 * 0 + k) = mm_a x k) (hy : y = nI (mm_zz N A M 0 3).1) (h : post 1 ()) : wL_lawOf_591 post mc ms x (mm_cv (mm_lf (mm_nm N 0) (mm_em N A M 0) 6).1) y kc ks c0 c1 a1 a2 a3 a4 a5 a6 a7 a8 := by
  have hN := hS.2.2.2.1
  have hf := mm_facts (A := A) hN hM 0
  obtain ⟨f1, f2, f3, f4, f5, f6, _⟩ := hf
  unfold wL_lawOf_591
  refine mm_xcore (m := 0) hM hS hc (by omega) (fun c f c0' a5' a6' h1 h2 => br_t hy.symm ?_)
  refine mm_cAns (m := 0) (k := 0) (l := 1) hM hS (Or.inr h2) (by omega) (by omega) (by omega) (fun c f c0' a5' a6' h1 h2 => ?_)
  refine mm_answer (s := 0) (l := 1) (br_t ?_ ?_)
  · rw [f4]
    exact congrArg nI (ha 1 (by omega))
  refine mm_classOf (s := 0) rfl hM hS (Or.inr h2) (by omega) (by omega) (fun c f c0' a5' a6' h1 h2 => br_t (by rw [f5]; rfl) ?_)
  refine pk_le (mm_zz N A M 0 3).1 1 (fun _ => mm_664 hM hS (Or.inr h2) hn ha hy h) (fun y => ?_) hy
  obtain ⟨g1, g2, g3, g4⟩ := f6 (by omega)
  have ex : mm_cv (mm_lf (mm_nm N 0) (mm_em N A M 0) 6).1 = nI ((mm_lf (mm_nm N 0) (mm_em N A M 0) 6).1 - 1) := if_neg g1
  rw [ex]
  refine mm_classOf (s := (mm_lf (mm_nm N 0) (mm_em N A M 0) 6).1 - 1) rfl hM hS (Or.inr h2) (by omega) (by omega) (fun c f c0' a5' a6' h1 h2 => br_t (by rw [g2]; rfl) ?_)
  refine mm_cAns (m := 0) (k := 1) (l := 0) hM hS (Or.inr h2) (by omega) (by omega) (by omega) (fun c f c0' a5' a6' h1 h2 => ?_)
  refine mm_answer (l := 0) (br_t ?_ (mm_664 hM hS (Or.inr h2) hn ha hy h))
  rw [g3, ← ha (2 * ((mm_lf (mm_nm N 0) (mm_em N A M 0) 6).1 - 1) + 0) (by omega)]
  exact congrArg nI (congrArg A (by omega))
theorem mm_552a {J : Int32 → Int32 → Int32 → Prop} {x11 x12 x14 : Int32} {k : Nat} (h : J x11 x12 (nI (k + 1))) : wL_lawOf_552 post mc ms J x x11 x12 (nI k) x14 0 kc ks c0 c1 a1 a2 a3 a4 a5 a6 a7 a8 := by
  unfold wL_lawOf_552
  exact br_t rfl (nm_r (nI_1 k) h)
theorem mm_552b {J : Int32 → Int32 → Int32 → Prop} {x12 x14 : Int32} {k v : Nat} (hv : v < 100) (h0 : v ≠ 0 → J (mm_cv v) x12 (nI (k + 1))) (h1 : v = 0 → J x14 x12 (nI (k + 1))) : wL_lawOf_552 post mc ms J x (mm_cv v) x12 (nI k) x14 1 kc ks c0 c1 a1 a2 a3 a4 a5 a6 a7 a8 := by
  unfold wL_lawOf_552
  exact br_f (by decide) (ek_if (mm_cv_pos hv) (fun z => nm_r (nI_1 k) (h0 z)) (fun z => nm_r (nI_1 k) (h1 (Classical.byContradiction z))))
theorem mm_520 {J : Int32 → Int32 → Int32 → Prop} {k u : Nat} {p : Nat × Nat} (hM : M = 10) (hN : ∀ k, N k < 3) (hA : ∀ k, A k < 4) (hn : ∀ k, k < 6 → N (12 * 0 + k) = mm_n x k) (ha : ∀ k, k < 6 → A (12 * 0 + k) = mm_a x k) (hu : u < 3) (hp1 : p.1 ≤ 3) (hp2 : p.2 ≤ 3) (h : J (mm_cv (mm_ls (mm_em N A M 0) u p).1) (mm_cv (mm_ls (mm_em N A M 0) u p).2) (nI (k + 1))) : wL_lawOf_520 post mc ms J x (mm_cv p.1) (mm_cv p.2) (nI k) (nI u) (mm_bI (!(mm_em N A M 0 0 u))) kc ks c0 c1 a1 a2 a3 a4 a5 a6 a7 a8 := by
  have hcu : nI u = mm_cv (u + 1) := by
    unfold mm_cv
    rw [if_neg (by omega), Nat.add_sub_cancel]
  unfold mm_ls at h
  unfold wL_lawOf_520
  cases hb : mm_em N A M 0 0 u
  · rw [hb] at h
    refine br_f (by decide) (ek_if (mm_cv_neg (by omega)) (fun z => ?_) (fun z => ek_if (mm_cv_pos (by omega)) (fun y => ?_) (fun y => ?_)))
    · refine mm_552b (by omega) (fun z2 => absurd z z2) (fun _ => ?_)
      rw [hcu]
      have h' : J (mm_cv (bif Nat.beq p.1 0 then u + 1 else p.1)) (mm_cv (bif (!Nat.beq p.1 0) && (Nat.beq p.2 0 && !(mm_em N A M 0 (p.1 - 1) u)) then u + 1 else p.2)) (nI (k + 1)) := h
      rw [z] at h'
      exact h'
    · refine mm_552b (by omega) (fun _ => ?_) (fun z2 => absurd z2 z)
      have h' : J (mm_cv (bif Nat.beq p.1 0 then u + 1 else p.1)) (mm_cv (bif (!Nat.beq p.1 0) && (Nat.beq p.2 0 && !(mm_em N A M 0 (p.1 - 1) u)) then u + 1 else p.2)) (nI (k + 1)) := h
      rw [mm_beqF z, mm_beqF y] at h'
      exact h'
    · have y' : p.2 = 0 := Classical.byContradiction y
      have ex : mm_cv p.1 = nI (p.1 - 1) := if_neg z
      have hem := mm_em_lk (A := A) (M := M) (m := 0) hN (show p.1 - 1 < 3 by omega) hu
      have h' : J (mm_cv (bif Nat.beq p.1 0 then u + 1 else p.1)) (mm_cv (bif (!Nat.beq p.1 0) && (Nat.beq p.2 0 && !(mm_em N A M 0 (p.1 - 1) u)) then u + 1 else p.2)) (nI (k + 1)) := h
      rw [mm_beqF z, show Nat.beq p.2 0 = true by rw [y']; rfl] at h'
      have goal : wpL_alike (fun r_517 => ((r_517 = 0 → wL_lawOf_552 post mc ms J x (mm_cv p.1) (nI u) (nI k) (nI u) 1 kc ks c0 c1 a1 a2 a3 a4 a5 a6 a7 a8) ∧ (¬ r_517 = 0 → wL_lawOf_552 post mc ms J x (mm_cv p.1) (mm_cv p.2) (nI k) (nI u) 1 kc ks c0 c1 a1 a2 a3 a4 a5 a6 a7 a8))) () x (nI (p.1 - 1)) (nI u) := by
        refine mm_alkB hM hN hA hn ha (by omega) hu ?_
        rw [← hem]
        cases hb2 : mm_em N A M 0 (p.1 - 1) u
        · rw [hb2] at h'
          refine br_t rfl (mm_552b (by omega) (fun _ => ?_) (fun z2 => absurd z2 z))
          rw [hcu]
          exact h'
        · rw [hb2] at h'
          exact br_f (by decide) (mm_552b (by omega) (fun _ => h') (fun z2 => absurd z2 z))
      rw [← ex] at goal
      exact goal
  · rw [hb] at h
    exact br_t rfl (mm_552a h)
theorem mm_489 (hM : M = 10) (hS : mm_S N A a1 a2 a3) (hc : c1 = 0 ∨ mm_H (mm_T N A M) a4) (hn : ∀ k, k < 6 → N (12 * 0 + k) = mm_n x k) (ha : ∀ k, k < 6 → A (12 * 0 + k) = mm_a x k) (h : post 1 ()) : ∃ n, wL_lawOf_489 post mc ms x kc ks c0 c1 a1 a2 a3 a4 a5 a6 a7 a8 n (-1) (-1) 2 := by
  have hN := hS.2.2.2.1
  have hA := hS.2.2.2.2
  have hnm : ∀ k, k < 6 → mm_nm N 0 k < 3 := fun k hk => mm_nm3 hN 0 hk
  have hlf := mm_lf3 hnm (mm_em N A M 0)
  refine pk_loop (σ := Unit) (fun n k _ => wL_lawOf_489 post mc ms x kc ks c0 c1 a1 a2 a3 a4 a5 a6 a7 a8 n (mm_cv (mm_lf (mm_nm N 0) (mm_em N A M 0) k).1) (mm_cv (mm_lf (mm_nm N 0) (mm_em N A M 0) k).2) (nI (k + 2))) (fun _ _ => True) 6 0 () (by omega) trivial ?_ ?_
  · intro n _ _
    have b := hlf 6 (by omega)
    have f2 := (mm_facts (A := A) hN hM 0).2.1
    refine pk_le 8 8 (fun _ => ek_if (mm_cv_neg (by omega)) (fun z2 => ek_if (mm_cv_neg (by omega)) (fun z1 => ?_) (fun z1 => ?_)) (fun z2 => ?_)) (fun y => absurd y (by omega))
    · refine mm_591 hM hS hc hn ha ?_ h
      rw [f2]
      unfold mm_core
      rw [z1, z2]
      rfl
    · refine mm_591 hM hS hc hn ha ?_ h
      rw [f2]
      unfold mm_core
      rw [z2, mm_beqF z1]
      rfl
    · refine mm_591 hM hS hc hn ha ?_ h
      rw [f2]
      unfold mm_core
      rw [mm_beqF z2]
      rfl
  · intro n k _ hk _ hw2
    have b := hlf k (by omega)
    have hu : mm_uw (mm_nm N 0) k < 3 := mm_uw3 hnm hk
    have eu : mm_W x 0 (k + 2) = mm_uw (mm_nm N 0) k := by
      rw [mm_uw_W x hk]
      unfold mm_uw
      have en : ∀ j, j < 6 → mm_n x j = mm_nm N 0 j := fun j hj => by rw [mm_nmN N 0 hj, hn j hj]
      cases hb : Nat.ble k 1
      · have b1 := mm_n3 x ((k - 2) / 2)
        show mm_n x (2 * mm_n x ((k - 2) / 2) + (k - 2) % 2) = mm_nm N 0 (2 * mm_nm N 0 ((k - 2) / 2) + (k - 2) % 2)
        rw [← en ((k - 2) / 2) (by omega), en _ (by omega)]
      · exact en k hk
    have hem := mm_em_lk (A := A) (M := M) (m := 0) hN (show 0 < 3 by omega) hu
    have g := mm_520 (post := post) (mc := mc) (ms := ms) (kc := kc) (ks := ks) (c0 := c0) (c1 := c1) (a1 := a1) (a2 := a2) (a3 := a3) (a4 := a4) (a5 := a5) (a6 := a6) (a7 := a7) (a8 := a8) (J := wL_lawOf_489 post mc ms x kc ks c0 c1 a1 a2 a3 a4 a5 a6 a7 a8 n) (k := k + 2) (p := mm_lf (mm_nm N 0) (mm_em N A M 0) k) hM hN hA hn ha hu b.1 b.2 (hw2 () trivial)
    refine pk_le 8 (k + 2) (fun y => absurd y (by omega)) (fun _ => mm_lawrun (s := 0) (by omega) (by omega) (by omega) ?_)
    rw [eu]
    refine mm_alkB (s := 0) hM hN hA hn ha (by omega) hu ?_
    rw [← hem]
    cases hb : mm_em N A M 0 0 (mm_uw (mm_nm N 0) k)
    · rw [hb] at g
      exact br_t rfl g
    · rw [hb] at g
      exact br_f (by decide) g
theorem mm_465 {v y : Int32} (hv : y = nI (mm_rst N 64)) (hM : M = 10) (hS : mm_S N A a1 a2 a3) (hc : mm_H (mm_T N A M) a4) (hn : ∀ k, k < 6 → N (12 * 0 + k) = mm_n x k) (ha : ∀ k, k < 6 → A (12 * 0 + k) = mm_a x k) (h : post 1 ()) : wL_lawOf_465 post mc ms x y v v kc ks c0 c1 a1 a2 a3 a4 a5 a6 a7 a8 := by
  unfold wL_lawOf_465
  exact br_t rfl (mm_xreset hS (fun b7 b8 => br_t hv.symm (mm_489 hM hS (Or.inr hc) hn ha h)))
theorem mm_fr_a {H : Nat → Nat → Nat} {s r : Nat} {b : Bool} (h : mm_fr H s r = 1) (hb : H r s = 0 ↔ b = true) : mm_fr H s (r + 1) = bif b then 0 else 1 := by
  have e : mm_fr H s (r + 1) = if mm_fr H s r = 0 then 0 else if H r s = 0 then 0 else 1 := rfl
  rw [e, if_neg (by omega)]
  cases b
  · rw [if_neg (fun z => absurd (hb.mp z) (by decide))]
    rfl
  · rw [if_pos (hb.mpr rfl)]
    rfl
theorem mm_sm3 (H : Nat → Nat → Nat) (bx by' bz : Bool) (h1 : H 0 1 = 0 ↔ bx = true) (h2 : H 1 2 = 0 ↔ by' = true) (h3 : H 0 2 = 0 ↔ bz = true) : mm_sm H 3 = 1 + (bif bx then 0 else 1) + (bif bz then 0 else bif by' then 0 else 1) := by
  have e1 : mm_fr H 1 1 = bif bx then 0 else 1 := mm_fr_a (r := 0) rfl h1
  have e3 : mm_fr H 2 1 = bif bz then 0 else 1 := mm_fr_a (r := 0) rfl h3
  have e2 : mm_fr H 2 2 = bif bz then 0 else bif by' then 0 else 1 := by
    cases bz
    · exact mm_fr_a (r := 1) e3 h2
    · have e : mm_fr H 2 2 = if mm_fr H 2 1 = 0 then 0 else if H 1 2 = 0 then 0 else 1 := rfl
      have e4 : mm_fr H 2 1 = 0 := e3
      rw [e, if_pos e4]
      rfl
  have e0 : mm_sm H 3 = 0 + 1 + mm_fr H 1 1 + mm_fr H 2 2 := rfl
  rw [e0, e1, e2, Nat.zero_add]
theorem mm_421 {v y : Int32} (hv : y = nI (mm_rst N 64)) (hM : M = 10) (hS : mm_S N A a1 a2 a3) (hc : c1 = 0 ∨ mm_H (mm_T N A M) a4) (hn : ∀ k, k < 6 → N (12 * 0 + k) = mm_n x k) (ha : ∀ k, k < 6 → A (12 * 0 + k) = mm_a x k) (h : post 1 ()) : wL_lawOf_421 post mc ms x y (mm_bI (mm_lk N A M 0 0 1)) (mm_bI (mm_lk N A M 0 1 2)) (mm_bI (mm_lk N A M 0 0 2)) v v kc ks c0 c1 a1 a2 a3 a4 a5 a6 a7 a8 := by
  have hN := hS.2.2.2.1
  have tr : mm_lk N A M 0 0 1 = true → mm_lk N A M 0 0 2 = true → mm_lk N A M 0 1 2 = true := by
    intro h1 h2
    rw [mm_lk_symm hN (s := 0) (t := 1) (by omega) (by omega)] at h1
    exact mm_lk_trans hN (by omega) (t := 0) (by omega) (by omega) h1 h2
  have hsm := mm_sm3 (mm_T N A M) (mm_lk N A M 0 0 1) (mm_lk N A M 0 1 2) (mm_lk N A M 0 0 2) (decide_eq_true_iff).symm (decide_eq_true_iff).symm (decide_eq_true_iff).symm
  unfold wL_lawOf_421
  refine br_t rfl (mm_classes hM hS hc (fun c f h1 h2 => ?_))
  rw [hsm]
  have go : ∀ w : Int32, wL_lawOf_465 post mc ms x y w w kc ks c0 c a1 a2 a3 f a5 a6 a7 a8 := fun w => mm_465 hv hM hS h2 hn ha h
  cases e1 : mm_lk N A M 0 0 1
  · cases e2 : mm_lk N A M 0 1 2
    · cases e3 : mm_lk N A M 0 0 2
      · exact br_t rfl (br_t rfl (br_t rfl (br_t rfl (go 3))))
      · exact br_t rfl (br_t rfl (br_t rfl (br_f (by decide) (go 2))))
    · cases e3 : mm_lk N A M 0 0 2
      · exact br_t rfl (br_t rfl (br_f (by decide) (go 2)))
      · exact br_t rfl (br_t rfl (br_f (by decide) (go 2)))
  · cases e2 : mm_lk N A M 0 1 2
    · cases e3 : mm_lk N A M 0 0 2
      · exact br_f (by decide) (br_t rfl (br_f (by decide) (go 2)))
      · exact absurd (tr e1 e3) (by rw [e2]; decide)
    · cases e3 : mm_lk N A M 0 0 2
      · exact br_f (by decide) (br_f (by decide) (go 1))
      · exact br_f (by decide) (br_f (by decide) (go 1))
theorem mm_402 {v y : Int32} (hv : y = nI (mm_rst N 64)) (hM : M = 10) (hS : mm_S N A a1 a2 a3) (hc : c1 = 0 ∨ mm_H (mm_T N A M) a4) (hn : ∀ k, k < 6 → N (12 * 0 + k) = mm_n x k) (ha : ∀ k, k < 6 → A (12 * 0 + k) = mm_a x k) (h : post 1 ()) : wL_lawOf_402 post mc ms x y (mm_bI (mm_lk N A M 0 0 1)) (mm_bI (mm_lk N A M 0 1 2)) (mm_bI (mm_lk N A M 0 0 2)) v v kc ks c0 c1 a1 a2 a3 a4 a5 a6 a7 a8 := by
  have hN := hS.2.2.2.1
  unfold wL_lawOf_402
  refine br_t rfl (mm_alikeB (s := 2) (t := 1) rfl rfl hM hS hc (by omega) (by omega) (fun c f h1 h2 => ?_))
  rw [mm_lk_symm hN (s := 2) (t := 1) (by omega) (by omega)]
  have go : ∀ w : Int32, wL_lawOf_421 post mc ms x y (mm_bI (mm_lk N A M 0 0 1)) (mm_bI (mm_lk N A M 0 1 2)) (mm_bI (mm_lk N A M 0 0 2)) w w kc ks c0 c a1 a2 a3 f a5 a6 a7 a8 := fun w => mm_421 hv hM hS (Or.inr h2) hn ha h
  cases e2 : mm_lk N A M 0 1 2
  · rw [e2] at go
    exact br_t rfl (go 0)
  · rw [e2] at go
    exact br_f (by decide) (go 1)
theorem mm_357 {v y : Int32} (hv : y = nI (mm_rst N 64)) (hM : M = 10) (hS : mm_S N A a1 a2 a3) (hc : c1 = 0 ∨ mm_H (mm_T N A M) a4) (hn : ∀ k, k < 6 → N (12 * 0 + k) = mm_n x k) (ha : ∀ k, k < 6 → A (12 * 0 + k) = mm_a x k) (h : post 1 ()) : wL_lawOf_357 post mc ms x y v v kc ks c0 c1 a1 a2 a3 a4 a5 a6 a7 a8 := by
  have hN := hS.2.2.2.1
  have hA := hS.2.2.2.2
  unfold wL_lawOf_357
  refine br_t rfl (mm_alkB (s := 0) (t := 1) hM hN hA hn ha (by omega) (by omega) (mm_alkB (s := 1) (t := 2) hM hN hA hn ha (by omega) (by omega) (mm_alkB (s := 0) (t := 2) hM hN hA hn ha (by omega) (by omega) (mm_alikeB (s := 0) (t := 1) rfl rfl hM hS hc (by omega) (by omega) (fun c f h1 h2 => ?_)))))
  have go : ∀ w : Int32, wL_lawOf_402 post mc ms x y (mm_bI (mm_lk N A M 0 0 1)) (mm_bI (mm_lk N A M 0 1 2)) (mm_bI (mm_lk N A M 0 0 2)) w w kc ks c0 c a1 a2 a3 f a5 a6 a7 a8 := fun w => mm_402 hv hM hS (Or.inr h2) hn ha h
  cases e2 : mm_lk N A M 0 0 1
  · rw [e2] at go
    exact br_t rfl (go 0)
  · rw [e2] at go
    exact br_f (by decide) (go 1)
end
end
section
theorem mm_rst_le (N : Nat → Nat) (n : Nat) : mm_rst N n ≤ n := @mm_lst_le (mm_Rp N) (fun _ => Classical.propDecidable _) n
theorem mm_fst_le (N A : Nat → Nat) (p q n : Nat) : mm_fst N A p q n ≤ n := @mm_lst_le (mm_D N A p q) (fun _ => Classical.propDecidable _) n
theorem mm_rst_t {N : Nat → Nat} {w : Nat} (h0 : mm_rst N w = 0) (h1 : 0 < w) (h2 : mm_Rp N w) : mm_rst N (w + 1) = w :=
  @if_pos (mm_rst N w = 0 ∧ 0 < w ∧ mm_Rp N w) (@instDecidableAnd _ _ _ (@instDecidableAnd _ _ _ (Classical.propDecidable _))) ⟨h0, h1, h2⟩ Nat w (mm_rst N w)
theorem mm_rst_f {N : Nat → Nat} {w : Nat} (h : ¬ (mm_rst N w = 0 ∧ 0 < w ∧ mm_Rp N w)) : mm_rst N (w + 1) = mm_rst N w :=
  @if_neg (mm_rst N w = 0 ∧ 0 < w ∧ mm_Rp N w) (@instDecidableAnd _ _ _ (@instDecidableAnd _ _ _ (Classical.propDecidable _))) h Nat w (mm_rst N w)
theorem mm_fst_t {N A : Nat → Nat} {p q w : Nat} (h0 : mm_fst N A p q w = 0) (h1 : 0 < w) (h2 : mm_D N A p q w) : mm_fst N A p q (w + 1) = w :=
  @if_pos (mm_fst N A p q w = 0 ∧ 0 < w ∧ mm_D N A p q w) (@instDecidableAnd _ _ _ (@instDecidableAnd _ _ _ (Classical.propDecidable _))) ⟨h0, h1, h2⟩ Nat w (mm_fst N A p q w)
theorem mm_fst_f {N A : Nat → Nat} {p q w : Nat} (h : ¬ (mm_fst N A p q w = 0 ∧ 0 < w ∧ mm_D N A p q w)) : mm_fst N A p q (w + 1) = mm_fst N A p q w :=
  @if_neg (mm_fst N A p q w = 0 ∧ 0 < w ∧ mm_D N A p q w) (@instDecidableAnd _ _ _ (@instDecidableAnd _ _ _ (Classical.propDecidable _))) h Nat w (mm_fst N A p q w)
section
variable {post : Int32 → St0 → Prop} {mc ms kc ks M : Nat} {x y : Int32} {N A : Nat → Nat} {c0 c1 : Int32} {a1 a2 a3 a4 a5 a6 a7 a8 : Nat → Int32}
theorem mm_W0 (hn : ∀ k, k < 6 → N (12 * 0 + k) = mm_n x k) {s : Nat} (hs : s < 3) (w : Nat) : mm_run N (6 * 0 + s) (mm_len w) w = mm_W x s w := by
  rw [mm_sub_run hn hs]
  unfold mm_W
  omega
theorem mm_Rp_W (hn : ∀ k, k < 6 → N (12 * 0 + k) = mm_n x k) (w : Nat) : mm_Rp N w ↔ (mm_W x 1 w = mm_W x 0 w ∧ mm_W x 2 w = mm_W x 0 w) := by
  have h0 : mm_run N 0 (mm_len w) w = mm_W x 0 w := mm_W0 hn (s := 0) (by omega) w
  have h1 : mm_run N 1 (mm_len w) w = mm_W x 1 w := mm_W0 hn (s := 1) (by omega) w
  have h2 : mm_run N 2 (mm_len w) w = mm_W x 2 w := mm_W0 hn (s := 2) (by omega) w
  unfold mm_Rp
  rw [h0, h1, h2]
theorem mm_W3 (c : Int32) {s : Nat} (hs : s < 3) (w : Nat) : mm_W c s w < 3 := mm_run3 c hs _ _
theorem mm_266 {J1 J : Int32 → Int32 → Int32 → Prop} {x4 x5 x6 x8 : Int32} {j w : Nat} (hn : ∀ k, k < 6 → N (12 * 0 + k) = mm_n x k) (h0 : 0 < w) (hw : w < 64) (h : J x6 (nI (mm_rst N (w + 1))) (nI (j + 1))) : wL_lawOf_266 post mc ms J1 J x y x4 x5 x6 (nI (mm_rst N w)) x8 (nI j) (nI w) kc ks c0 c1 a1 a2 a3 a4 a5 a6 a7 a8 := by
  have hR := mm_Rp_W hn w
  have hb := mm_rst_le N w
  have b0 := mm_W3 x (show 0 < 3 by omega) w
  have b1 := mm_W3 x (show 1 < 3 by omega) w
  have b2 := mm_W3 x (show 2 < 3 by omega) w
  unfold wL_lawOf_266
  refine mm_lawrun (s := 0) (by omega) h0 hw (pk_eq (mm_rst N w) 0 (fun z => mm_lawrun (s := 1) (by omega) h0 hw (pk_eq (mm_W x 1 w) (mm_W x 0 w) (fun z1 => mm_lawrun (s := 2) (by omega) h0 hw (pk_eq (mm_W x 2 w) (mm_W x 0 w) (fun z2 => nm_r (nI_1 j) ?_) (fun z2 => nm_r (nI_1 j) ?_))) (fun z1 => nm_r (nI_1 j) ?_))) (fun z => nm_r (nI_1 j) ?_))
  · rw [mm_rst_t z h0 (hR.mpr ⟨z1, z2⟩)] at h
    exact h
  · rw [mm_rst_f (fun g => z2 (hR.mp g.2.2).2)] at h
    exact h
  · rw [mm_rst_f (fun g => z1 (hR.mp g.2.2).1)] at h
    exact h
  · rw [mm_rst_f (fun g => z g.1)] at h
    exact h
theorem mm_resp0 {p : Int32 → Prop} {s w : Nat} (hS : mm_S N A a1 a2 a3) (hn : ∀ k, k < 6 → N (12 * 0 + k) = mm_n x k) (ha : ∀ k, k < 6 → A (12 * 0 + k) = mm_a x k) (hs : s < 3) (h0 : 0 < w) (hw : w < 64) (h : p (nI (mm_R x s w))) : wpX_response p (c0, c1, a1, a2, a3, a4, a5, a6, a7, a8) (nI s) (nI w) := by
  have e : nI s = nI (8 * 0 + s) := by rw [show 8 * 0 + s = s by omega]
  rw [e]
  refine mm_xresponse hS (by omega) hs h0 hw ?_
  rw [mm_sub_rsp hn ha hs]
  exact h
theorem mm_resp1 {p : Int32 → Prop} {t w : Nat} (hS : mm_S N A a1 a2 a3) (hn : ∀ k, k < 6 → N (12 * 1 + k) = mm_n y k) (ha : ∀ k, k < 6 → A (12 * 1 + k) = mm_a y k) (ht : t < 3) (h0 : 0 < w) (hw : w < 64) (h : p (nI (mm_R y t w))) : wpX_response p (c0, c1, a1, a2, a3, a4, a5, a6, a7, a8) (8 + nI t) (nI w) := by
  have e : (8 : Int32) + nI t = nI (8 * 1 + t) := nI_add 8 t
  rw [e]
  refine mm_xresponse hS (by omega) ht h0 hw ?_
  rw [mm_sub_rsp hn ha ht]
  exact h
theorem mm_run0 {p : Int32 → Prop} {s w : Nat} (hS : mm_S N A a1 a2 a3) (hn : ∀ k, k < 6 → N (12 * 0 + k) = mm_n x k) (hs : s < 3) (h0 : 0 < w) (hw : w < 64) (h : p (nI (mm_W x s w))) : wpX_run p (c0, c1, a1, a2, a3, a4, a5, a6, a7, a8) (nI s) (nI w) := by
  have e : nI s = nI (8 * 0 + s) := by rw [show 8 * 0 + s = s by omega]
  have b := mm_W3 x hs w
  rw [e]
  refine mm_xrun hS (by omega) hs h0 hw ?_
  rw [mm_W0 hn hs, Nat.mod_eq_of_lt (by omega)]
  exact h
theorem mm_154 {J1 : Int32 → Int32 → Int32 → Prop} {s t i : Nat} (hS : mm_S N A a1 a2 a3) (hn : ∀ k, k < 6 → N (12 * 0 + k) = mm_n x k) (ha : ∀ k, k < 6 → A (12 * 0 + k) = mm_a x k) (hn1 : ∀ k, k < 6 → N (12 * 1 + k) = mm_n y k) (ha1 : ∀ k, k < 6 → A (12 * 1 + k) = mm_a y k) (hs : s < 3) (ht : t < 3) (hi : i < 8) (h : J1 (nI (mm_fst N A (6 * 0 + s) (6 * 1 + t) (8 * i + 8))) (nI (mm_rst N (8 * i + 8))) (nI (i + 1))) : ∃ n, wL_lawOf_154 post mc ms J1 x y (nI s) (nI t) (nI i) kc ks c0 c1 a1 a2 a3 a4 a5 a6 a7 a8 n (nI (mm_fst N A (6 * 0 + s) (6 * 1 + t) (8 * i + 0))) (nI (mm_rst N (8 * i + 0))) 0 := by
  refine pk_loop (σ := Unit) (fun n j _ => wL_lawOf_154 post mc ms J1 x y (nI s) (nI t) (nI i) kc ks c0 c1 a1 a2 a3 a4 a5 a6 a7 a8 n (nI (mm_fst N A (6 * 0 + s) (6 * 1 + t) (8 * i + j))) (nI (mm_rst N (8 * i + j))) (nI j)) (fun _ _ => True) 8 0 () (by omega) trivial ?_ ?_
  · intro n _ _
    exact pk_le 8 8 (fun _ => nm_r (nI_1 i) h) (fun z => absurd z (by omega))
  · intro n j _ hj _ hw2
    have g : wL_lawOf_154 post mc ms J1 x y (nI s) (nI t) (nI i) kc ks c0 c1 a1 a2 a3 a4 a5 a6 a7 a8 n (nI (mm_fst N A (6 * 0 + s) (6 * 1 + t) (8 * i + j + 1))) (nI (mm_rst N (8 * i + j + 1))) (nI (j + 1)) := hw2 () trivial
    have e : (8 : Int32) * nI i + nI j = nI (8 * i + j) := by
      rw [show (8 : Int32) = nI 8 from rfl, pk_mul, nI_add]
    have hD : mm_D N A (6 * 0 + s) (6 * 1 + t) (8 * i + j) ↔ mm_R x s (8 * i + j) ≠ mm_R y t (8 * i + j) := by
      unfold mm_D
      rw [mm_sub_rsp hn ha hs, mm_sub_rsp hn1 ha1 ht]
      exact Iff.rfl
    have bf := mm_fst_le N A (6 * 0 + s) (6 * 1 + t) (8 * i + j)
    have bx := mm_RB x s (8 * i + j)
    have by' := mm_RB y t (8 * i + j)
    refine pk_le 8 j (fun z => absurd z (by omega)) (fun _ => nm_r e (pk_le (8 * i + j) 0 (fun z => nm_r (nI_1 j) ?_) (fun z => ?_)))
    · rw [mm_fst_f (fun g => absurd g.2.1 (by omega)), mm_rst_f (fun g => absurd g.2.1 (by omega))] at g
      exact g
    · have hw : 8 * i + j < 64 := by omega
      refine mm_response hs z hw (mm_response ht z hw (mm_lawrun hs z hw (mm_resp0 hS hn ha hs z hw (br_t rfl (mm_resp1 hS hn1 ha1 ht z hw (br_t rfl (mm_run0 hS hn hs z hw (br_t rfl ?_))))))))
      refine pk_eq (mm_R x s (8 * i + j)) (mm_R y t (8 * i + j)) (fun q => ?_) (fun q => pk_eq (mm_fst N A (6 * 0 + s) (6 * 1 + t) (8 * i + j)) 0 (fun r => ?_) (fun r => ?_))
      · refine mm_266 hn z hw ?_
        rw [mm_fst_f (fun g => hD.mp g.2.2 q)] at g
        exact g
      · refine mm_266 hn z hw ?_
        rw [mm_fst_t r z (hD.mpr q)] at g
        exact g
      · refine mm_266 hn z hw ?_
        rw [mm_fst_f (fun g => r g.1)] at g
        exact g
theorem mm_144 {s t : Nat} (hM : M = 10) (hS : mm_S N A a1 a2 a3) (hn : ∀ k, k < 6 → N (12 * 0 + k) = mm_n x k) (ha : ∀ k, k < 6 → A (12 * 0 + k) = mm_a x k) (hn1 : ∀ k, k < 6 → N (12 * 1 + k) = mm_n y k) (ha1 : ∀ k, k < 6 → A (12 * 1 + k) = mm_a y k) (hs : s < 3) (ht : t < 3) (hc : c1 = 0) (h : post 1 ()) : ∃ n, wL_lawOf_144 post mc ms x y (nI s) (nI t) kc ks c0 c1 a1 a2 a3 a4 a5 a6 a7 a8 n 0 0 0 := by
  have hN := hS.2.2.2.1
  have hA := hS.2.2.2.2
  refine pk_loop (σ := Unit) (fun n i _ => wL_lawOf_144 post mc ms x y (nI s) (nI t) kc ks c0 c1 a1 a2 a3 a4 a5 a6 a7 a8 n (nI (mm_fst N A (6 * 0 + s) (6 * 1 + t) (8 * i))) (nI (mm_rst N (8 * i))) (nI i)) (fun _ _ => True) 8 0 () (by omega) trivial ?_ ?_
  · intro n _ _
    have bf := mm_fst_le N A (6 * 0 + s) (6 * 1 + t) 64
    have hT := mm_fst_T (M := M) hM hN hA (show 6 * 0 + s < 12 by omega) (show 6 * 1 + t < 12 by omega) (by omega) (by omega)
    refine pk_le 8 8 (fun _ => ?_) (fun z => absurd z (by omega))
    refine mm_difference (M := M) (m := 0) (s := s) (m' := 1) (t := t) hM (by rw [show 8 * 0 + s = s by omega]) (nI_add 8 t) (by omega) hs (by omega) ht hS (Or.inl hc) (fun c f h1 h2 => br_t rfl ?_)
    refine mm_alike (M := M) (m := 1) (s := t) (m' := 0) (t := s) hM (nI_add 8 t) (by rw [show 8 * 0 + s = s by omega]) (by omega) ht (by omega) hs hS (Or.inr h2) (fun c f h1 h2 => ⟨fun z => ?_, fun z => ?_⟩)
    · exact pk_eq (mm_fst N A (6 * 0 + s) (6 * 1 + t) 64) 0 (fun _ => mm_357 (M := M) rfl hM hS (Or.inr h2) hn ha h) (fun q => absurd (hT.mpr z) q)
    · exact pk_eq (mm_fst N A (6 * 0 + s) (6 * 1 + t) 64) 0 (fun q => absurd (hT.mp q) z) (fun _ => mm_357 (M := M) rfl hM hS (Or.inr h2) hn ha h)
  · intro n i _ hi _ hw2
    exact pk_le 8 i (fun z => absurd z (by omega)) (fun _ => mm_154 hS hn ha hn1 ha1 hs ht hi (hw2 () trivial))
end
/-- the text is laid up to place t -/
def mm_I (x y : Int32) (t : Nat) (a2 a3 : Nat → Int32) : Prop := ∀ k, k < 24 → a2 k = nI (if k < t then mm_N x y k else 0) ∧ a3 k = nI (if k < t then mm_A x y k else 0)
section
variable {post : Int32 → St0 → Prop} {mc ms kc ks : Nat} {x y v : Int32} {c0 c1 : Int32} {a1 a2 a3 a4 a5 a6 a7 a8 : Nat → Int32}
theorem mm_59 {J1 J : Int32 → Int32 → Int32 → (Nat → Int32) → (Nat → Int32) → (Nat → Int32) → (Nat → Int32) → (Nat → Int32) → (Nat → Int32) → (Nat → Int32) → (Nat → Int32) → Prop} {z : Int32} {m i : Nat} (hm : m < 2) (hi : i < 6) (h1 : ∀ k, k < 2 → a1 k = nI 3) (hI : mm_I x y (12 * m + i) a2 a3) (hz : mm_N x y (12 * m + i) = mm_n z i ∧ mm_A x y (12 * m + i) = mm_a z i) (h : ∀ b2 b3, mm_I x y (12 * m + (i + 1)) b2 b3 → J (nI (i + 1)) c0 0 a1 b2 b3 a4 a5 a6 a7 a8) : wL_lawOf_59 post mc ms J1 J x y v (nI m) (nI i) z kc ks c0 c1 a1 a2 a3 a4 a5 a6 a7 a8 := by
  have e1 : nI i >>> ((1 : Int32) &&& 31) = nI (i / 2) := pk_shrN (by omega) _ 1 (by decide)
  have e2 : nI i &&& 1 = nI (i % 2) := pk_andN (by omega) 1 (by decide)
  have e3 : 2 * (i / 2) + i % 2 = i := by omega
  have hk := hI (12 * m + i) (by omega)
  rw [if_neg (by omega), if_neg (by omega)] at hk
  have n3 := mm_n3 z i
  have n4 := mm_a4 z i
  unfold wL_lawOf_59
  rw [e1, e2]
  refine mm_next (mm_answer ?_)
  rw [e3]
  refine nm_r (e' := nI (4 * mm_n z i + mm_a z i)) (by rw [show (4 : Int32) = nI 4 from rfl, pk_mul, nI_add]) ?_
  refine mm_set rfl hm hi n3 n4 h1 hk.1 hk.2 (br_t rfl (nm_r (nI_1 i) (h _ _ (fun k hk24 => ?_))))
  have g := hI k hk24
  by_cases e : k = 12 * m + i
  · rw [e, pk_us, pk_us, if_pos (by omega), if_pos (by omega), hz.1, hz.2]
    exact ⟨rfl, rfl⟩
  · rw [pk_un e, pk_un e, g.1, g.2]
    by_cases e4 : k < 12 * m + i
    · rw [if_pos e4, if_pos e4, if_pos (by omega), if_pos (by omega)]
      exact ⟨rfl, rfl⟩
    · rw [if_neg e4, if_neg e4, if_neg (by omega), if_neg (by omega)]
      exact ⟨rfl, rfl⟩
theorem mm_42 {J1 : Int32 → Int32 → Int32 → (Nat → Int32) → (Nat → Int32) → (Nat → Int32) → (Nat → Int32) → (Nat → Int32) → (Nat → Int32) → (Nat → Int32) → (Nat → Int32) → Prop} {m : Nat} (hm : m < 2) (h1 : ∀ k, k < 2 → a1 k = nI 3) (hI : mm_I x y (12 * m + 0) a2 a3) (h : ∀ b2 b3, mm_I x y (12 * (m + 1) + 0) b2 b3 → J1 (nI (m + 1)) c0 0 a1 b2 b3 a4 a5 a6 a7 a8) : ∃ n, wL_lawOf_42 post mc ms J1 x y v (nI m) kc ks n 0 c0 0 a1 a2 a3 a4 a5 a6 a7 a8 := by
  refine pk_loop (σ := (Nat → Int32) × (Nat → Int32)) (fun n i s => wL_lawOf_42 post mc ms J1 x y v (nI m) kc ks n (nI i) c0 0 a1 s.1 s.2 a4 a5 a6 a7 a8) (fun i s => mm_I x y (12 * m + i) s.1 s.2) 6 0 (a2, a3) (by omega) hI ?_ ?_
  · rintro n ⟨b2, b3⟩ hb
    refine pk_le 6 6 (fun _ => nm_r (nI_1 m) (h b2 b3 (fun k hk => ?_))) (fun z => absurd z (by omega))
    have g := hb k hk
    dsimp only at g
    rw [g.1, g.2]
    by_cases e : k < 12 * m + 6
    · rw [if_pos e, if_pos e, if_pos (by omega), if_pos (by omega)]
      exact ⟨rfl, rfl⟩
    · rw [if_neg e, if_neg e]
      by_cases e2 : k < 12 * (m + 1) + 0
      · rw [if_pos e2, if_pos e2]
        have z1 : mm_N x y k = 0 := by
          unfold mm_N
          rw [if_neg (by omega), if_neg (by omega)]
        have z2 : mm_A x y k = 0 := by
          unfold mm_A
          rw [if_neg (by omega), if_neg (by omega)]
        rw [z1, z2]
        exact ⟨rfl, rfl⟩
      · rw [if_neg e2, if_neg e2]
        exact ⟨rfl, rfl⟩
  · rintro n i ⟨b2, b3⟩ hi hb hw2
    dsimp only at hb
    refine pk_le 6 i (fun z => absurd z (by omega)) (fun _ => pk_eq m 0 (fun z => ?_) (fun z => ?_))
    · subst z
      exact mm_59 (m := 0) hm hi h1 hb (mm_N0 x y hi) (fun d2 d3 g => hw2 (d2, d3) g)
    · have z' : m = 1 := by omega
      subst z'
      exact mm_59 (m := 1) hm hi h1 hb (mm_N1 x y hi) (fun d2 d3 g => hw2 (d2, d3) g)
theorem mm_33l (h1 : ∀ k, k < 2 → a1 k = nI 3) (hI : mm_I x y (12 * 0 + 0) a2 a3) (h : post 1 ()) : ∃ n, wL_lawOf_33 post mc ms x y v kc ks n 0 c0 0 a1 a2 a3 a4 a5 a6 a7 a8 := by
  refine pk_loop (σ := (Nat → Int32) × (Nat → Int32)) (fun n m s => wL_lawOf_33 post mc ms x y v kc ks n (nI m) c0 0 a1 s.1 s.2 a4 a5 a6 a7 a8) (fun m s => mm_I x y (12 * m + 0) s.1 s.2) 2 0 (a2, a3) (by omega) hI ?_ ?_
  · rintro n ⟨b2, b3⟩ hb
    have hS : mm_S (mm_N x y) (mm_A x y) a1 b2 b3 := by
      refine ⟨h1, fun k hk => ?_, fun k hk => ?_, mm_N3 x y, mm_A4 x y⟩
      · have g := (hb k hk).1
        dsimp only at g
        rw [g, if_pos (by omega)]
      · have g := (hb k hk).2
        dsimp only at g
        rw [g, if_pos (by omega)]
    have e3 : ∀ a : Nat, a < 4 → nI a - nI a / 3 * 3 = nI (a % 3) := fun a ha => pk_rem (a := a) (d := 3) (by omega) (by omega) (by omega)
    have es : (v &&& 3) - (v &&& 3) / 3 * 3 = nI (v.toBitVec.toNat % 4 % 3) := by
      rw [show v &&& 3 = nI (v.toBitVec.toNat % 4) from pk_and v 2 (by decide), e3 _ (Nat.mod_lt _ (by omega))]
    have et : ((v >>> ((2 : Int32) &&& 31)) &&& 3) - ((v >>> ((2 : Int32) &&& 31)) &&& 3) / 3 * 3 = nI ((v >>> ((2 : Int32) &&& 31)).toBitVec.toNat % 4 % 3) := by
      rw [show (v >>> ((2 : Int32) &&& 31)) &&& 3 = nI ((v >>> ((2 : Int32) &&& 31)).toBitVec.toNat % 4) from pk_and _ 2 (by decide), e3 _ (Nat.mod_lt _ (by omega))]
    refine pk_le 2 2 (fun _ => ⟨by decide, nm_r es ⟨by decide, nm_r et ?_⟩⟩) (fun z => absurd z (by omega))
    exact mm_144 (M := 10) rfl hS (fun k hk => (mm_N0 x y hk).1) (fun k hk => (mm_N0 x y hk).2) (fun k hk => (mm_N1 x y hk).1) (fun k hk => (mm_N1 x y hk).2) (Nat.mod_lt _ (by omega)) (Nat.mod_lt _ (by omega)) rfl h
  · rintro n m ⟨b2, b3⟩ hm hb hw2
    exact pk_le 2 m (fun z => absurd z (by omega)) (fun _ => mm_42 hm h1 hb (fun d2 d3 g => hw2 (d2, d3) g))
theorem mm_lawOf (h : post 1 ()) : wpL_lawOf post 9 356 () x y v := by
  unfold wpL_lawOf
  refine ⟨by omega, by omega, 8, 346, by omega, by omega, mm_init (by omega) (by omega) (fun b1 h0 h1 => ?_)⟩
  refine mm_size (m := 0) (by omega) h0 (fun _ _ => rfl) (fun _ _ => rfl) (fun b2 b3 g2 g3 => br_t rfl ?_)
  refine mm_size (m := 1) (v := 1) (by omega) (by rw [pk_un (by omega)]; exact h1) g2 g3 (fun d2 d3 k2 k3 => br_t rfl ?_)
  refine mm_33l (fun k hk => ?_) (fun k hk => ?_) h
  · have e : k = 0 ∨ k = 1 := by omega
    rcases e with rfl | rfl
    · rw [pk_un (by omega), pk_us]
      rfl
    · rw [pk_us]
      rfl
  · rw [if_neg (by omega), if_neg (by omega), k2 k hk, k3 k hk]
    exact ⟨rfl, rfl⟩
end
theorem mm_cell {post : Int32 → Prop} {L j : Nat} {xs : Nat → Int32} (hL : L ≤ 3) (hj : j < 3) (h : ∀ r, post r) : wpL_cellAt post L xs () (nI j) := by
  unfold wpL_cellAt
  exact pk_le L j (fun _ => h _) (fun z => ⟨vp_in_nI z (by omega), h _⟩)
/-! ===== WHAT IS OWED for MealyMachinesLaw: one statement: the law answers true on every script of L ints xs ===== -/
theorem i_vc (xs : Nat → Int32) (L : Nat) (hL : L ≤ 3) : wpL_law (fun r => r = 1) L xs := by
  unfold wpL_law
  exact mm_cell (j := 0) hL (by omega) (fun r1 => mm_cell (j := 1) hL (by omega) (fun r2 => mm_cell (j := 2) hL (by omega) (fun r3 => ⟨9, 356, by omega, by omega, mm_lawOf rfl⟩)))
end

section
/-! rows that began as kit/rows (PURE-ROWS): pk_us, pk_un, pk_m1, pk_in, pk_cl -/
theorem pk_us {f : Nat → Int32} {k : Nat} {x : Int32} : upd f k x k = x := if_pos rfl
theorem pk_un {f : Nat → Int32} {k j : Nat} {x : Int32} (h : j ≠ k) : upd f k x j = f j := if_neg h
theorem pk_m1 (n : Nat) : nI (n + 1) + (-1) = nI n := by
  rw [← nI_1, Int32.add_assoc, show (1 : Int32) + (-1) = 0 from rfl, Int32.add_zero]
theorem pk_in {x : Int32} (n N : Nat) (h : n < N) (hx : x = nI n := by rfl) (hN : N < 2 ^ 31 := by omega) : vp_in x N := by
  subst hx
  exact vp_in_nI h hN
theorem pk_cl {x : Int32} (n : Nat) (hx : x = nI n := by rfl) (h : n < 2 ^ 31 := by omega) : x.toNatClampNeg = n := by
  subst hx
  exact nI_clamp h

/-! the pieces: s their sorts, z their sizes, n their count -/
/-- the number of open groups ahead of piece i -/
def ps_dep (s : Nat → Int32) : Nat → Nat
  | 0 => 0
  | i + 1 => if s i = 2 then ps_dep s i + 1 else if s i = 3 then ps_dep s i - 1 else ps_dep s i
/-- the sum of lengths ahead of piece i -/
def ps_T (s z : Nat → Int32) : Nat → Int32
  | 0 => 0
  | i + 1 => if s i = 2 then ps_T s z i else if s i = 3 then ps_T s z i else ps_T s z i + z i
/-- every piece is a word, a break, an open at a depth below 12, or a close at a depth above 0 -/
def ps_ok (s : Nat → Int32) (n : Nat) : Prop := n ≤ 60 ∧ ∀ i, i < n → (s i = 0 ∨ s i = 1 ∨ (s i = 2 ∧ ps_dep s i < 12) ∨ (s i = 3 ∧ 0 < ps_dep s i))
/-- X's sizes and Y's arguments -/
def ps_za (s z a : Nat → Int32) (n : Nat) : Prop := ∀ i, i < n → (s i = 1 → z i = 1) ∧ (¬ s i = 1 → a i = z i)

theorem ps_dep2 {s : Nat → Int32} {i : Nat} (h : s i = 2) : ps_dep s (i + 1) = ps_dep s i + 1 := if_pos h
theorem ps_dep3 {s : Nat → Int32} {i : Nat} (h : s i = 3) : ps_dep s (i + 1) = ps_dep s i - 1 := by
  show (if s i = 2 then _ else if s i = 3 then _ else _) = _
  rw [if_neg (by rw [h]; decide), if_pos h]
theorem ps_depo {s : Nat → Int32} {i : Nat} (h2 : ¬ s i = 2) (h3 : ¬ s i = 3) : ps_dep s (i + 1) = ps_dep s i := by
  show (if s i = 2 then _ else if s i = 3 then _ else _) = _
  rw [if_neg h2, if_neg h3]
theorem ps_T2 {s z : Nat → Int32} {i : Nat} (h : s i = 2) : ps_T s z (i + 1) = ps_T s z i := if_pos h
theorem ps_T3 {s z : Nat → Int32} {i : Nat} (h : s i = 3) : ps_T s z (i + 1) = ps_T s z i := by
  show (if s i = 2 then _ else if s i = 3 then _ else _) = _
  rw [if_neg (by rw [h]; decide), if_pos h]
theorem ps_To {s z : Nat → Int32} {i : Nat} (h2 : ¬ s i = 2) (h3 : ¬ s i = 3) : ps_T s z (i + 1) = ps_T s z i + z i := by
  show (if s i = 2 then _ else if s i = 3 then _ else _) = _
  rw [if_neg h2, if_neg h3]
theorem ps_dep_le {s : Nat → Int32} {n : Nat} (h : ps_ok s n) : ∀ i, i ≤ n → ps_dep s i ≤ 12
  | 0, _ => Nat.zero_le _
  | i + 1, hi => by
    have ih := ps_dep_le h i (by omega)
    rcases h.2 i (by omega) with e | e | ⟨e, e'⟩ | ⟨e, e'⟩
    · rw [ps_depo (by rw [e]; decide) (by rw [e]; decide)]; exact ih
    · rw [ps_depo (by rw [e]; decide) (by rw [e]; decide)]; exact ih
    · rw [ps_dep2 e]; omega
    · rw [ps_dep3 e]; omega
theorem ps_dep_lei (s : Nat → Int32) : ∀ i, ps_dep s i ≤ i
  | 0 => Nat.zero_le _
  | i + 1 => by
    have ih := ps_dep_lei s i
    by_cases h2 : s i = 2
    · rw [ps_dep2 h2]; omega
    · by_cases h3 : s i = 3
      · rw [ps_dep3 h3]; omega
      · rw [ps_depo h2 h3]; omega
/-- a piece at n doesn't change the depths ahead of it -/
theorem ps_dep_upd (s : Nat → Int32) (n : Nat) (x : Int32) : ∀ i, i ≤ n → ps_dep (upd s n x) i = ps_dep s i
  | 0, _ => rfl
  | i + 1, hi => by
    have ih := ps_dep_upd s n x i (by omega)
    show (if upd s n x i = 2 then _ else if upd s n x i = 3 then _ else _) = (if s i = 2 then _ else if s i = 3 then _ else _)
    rw [pk_un (f := s) (k := n) (j := i) (x := x) (by omega), ih]
theorem ps_ok_add {s : Nat → Int32} {n : Nat} {x : Int32} (h : ps_ok s n) (hn : n < 60) (hx : x = 0 ∨ x = 1 ∨ (x = 2 ∧ ps_dep s n < 12) ∨ (x = 3 ∧ 0 < ps_dep s n)) : ps_ok (upd s n x) (n + 1) := by
  refine ⟨by omega, fun i hi => ?_⟩
  rw [ps_dep_upd s n x i (by omega)]
  by_cases e : i = n
  · subst e; rw [pk_us]; exact hx
  · rw [pk_un e]; exact h.2 i (by omega)
theorem ps_za_add {s z a : Nat → Int32} {n : Nat} {x y b : Int32} (h : ps_za s z a n) (h1 : x = 1 → y = 1) (h2 : ¬ x = 1 → b = y) : ps_za (upd s n x) (upd z n y) (upd a n b) (n + 1) := by
  intro i hi
  by_cases e : i = n
  · subst e; rw [pk_us, pk_us, pk_us]; exact ⟨h1, h2⟩
  · rw [pk_un e, pk_un e, pk_un e]; exact h i (by omega)

/-! the reach of a group -/
/-- where a group ends whose level at piece i is l, k pieces being left -/
def ps_R (s : Nat → Int32) : Nat → Nat → Nat → Nat
  | 0, _, i => i
  | k + 1, l, i => if l = 0 ∧ s i = 1 then i else ps_R s k (if l = 0 then 0 else if s i = 2 then l + 1 else if s i = 3 then l - 1 else l) (i + 1)
theorem ps_R_z {s : Nat → Int32} {k i : Nat} (h : ¬ s i = 1) : ps_R s (k + 1) 0 i = ps_R s k 0 (i + 1) := by
  show (if 0 = 0 ∧ s i = 1 then i else _) = _
  rw [if_neg (fun e => h e.2), if_pos rfl]
theorem ps_R_b {s : Nat → Int32} {k i : Nat} (h : s i = 1) : ps_R s (k + 1) 0 i = i := if_pos ⟨rfl, h⟩
theorem ps_R_2 {s : Nat → Int32} {k l i : Nat} (h : s i = 2) (hl : 0 < l) : ps_R s (k + 1) l i = ps_R s k (l + 1) (i + 1) := by
  show (if l = 0 ∧ s i = 1 then i else _) = _
  rw [if_neg (fun e => by omega), if_neg (by omega), if_pos h]
theorem ps_R_3 {s : Nat → Int32} {k l i : Nat} (h : s i = 3) (hl : 0 < l) : ps_R s (k + 1) l i = ps_R s k (l - 1) (i + 1) := by
  show (if l = 0 ∧ s i = 1 then i else _) = _
  rw [if_neg (fun e => by omega), if_neg (by omega), if_neg (by rw [h]; decide), if_pos h]
theorem ps_R_o {s : Nat → Int32} {k l i : Nat} (h2 : ¬ s i = 2) (h3 : ¬ s i = 3) (hl : 0 < l) : ps_R s (k + 1) l i = ps_R s k l (i + 1) := by
  show (if l = 0 ∧ s i = 1 then i else _) = _
  rw [if_neg (fun e => by omega), if_neg (by omega), if_neg h2, if_neg h3]
def ps_E (s : Nat → Int32) (n p : Nat) : Nat := ps_R s (n - (p + 1)) 1 (p + 1)
def ps_rho (s z : Nat → Int32) (n p : Nat) : Int32 := ps_T s z (ps_E s n p) - ps_T s z p
/-- what 'measured' says -/
def ps_ms (s z re : Nat → Int32) (n : Nat) : Prop := ∀ p, p < n → s p = 2 → re p = ps_rho s z n p

/-- what measure holds at piece i, c groups waiting -/
def ps_M (s z st sk wa re : Nat → Int32) (n i c : Nat) : Prop :=
  (∀ q, q < i → s q = 2 → st q = ps_T s z q) ∧
  (∀ k, k < ps_dep s i → ∃ p, p < i ∧ sk k = nI p ∧ s p = 2 ∧ ps_E s n p = ps_R s (n - i) (ps_dep s i - k) i) ∧
  (∀ k, k < c → ∃ p, p < i ∧ wa k = nI p ∧ s p = 2 ∧ ps_E s n p = ps_R s (n - i) 0 i) ∧
  (∀ p, p < i → s p = 2 → (∃ k, k < ps_dep s i ∧ sk k = nI p) ∨ (∃ k, k < c ∧ wa k = nI p) ∨ re p = ps_rho s z n p) ∧
  c ≤ i
theorem ps_M0 {s z st sk wa re : Nat → Int32} {n : Nat} : ps_M s z st sk wa re n 0 0 :=
  ⟨fun _ h => absurd h (Nat.not_lt_zero _), fun _ h => absurd h (Nat.not_lt_zero _), fun _ h => absurd h (Nat.not_lt_zero _), fun _ h => absurd h (Nat.not_lt_zero _), Nat.le_refl _⟩
theorem ps_M_open {s z st sk wa re : Nat → Int32} {n i c : Nat} (h : ps_M s z st sk wa re n i c) (hi : i < n) (e : s i = 2) : ps_M s z (upd st i (ps_T s z i)) (upd sk (ps_dep s i) (nI i)) wa re n (i + 1) c := by
  obtain ⟨h1, h2, h3, h4, h5⟩ := h
  obtain ⟨m, hm⟩ : ∃ m, n - i = m + 1 := ⟨n - i - 1, by omega⟩
  have hm' : n - (i + 1) = m := by omega
  refine ⟨fun q hq eq => ?_, fun k hk => ?_, fun k hk => ?_, fun p hp ep => ?_, by omega⟩
  · by_cases x : q = i
    · subst x; exact pk_us
    · rw [pk_un x]; exact h1 q (by omega) eq
  · rw [ps_dep2 e] at hk ⊢
    by_cases x : k = ps_dep s i
    · subst x
      refine ⟨i, by omega, pk_us, e, ?_⟩
      rw [show ps_dep s i + 1 - ps_dep s i = 1 by omega]; rfl
    · obtain ⟨p, a, b, c, d⟩ := h2 k (by omega)
      refine ⟨p, by omega, by rw [pk_un x]; exact b, c, ?_⟩
      rw [d, hm, hm', ps_R_2 e (by omega), show ps_dep s i - k + 1 = ps_dep s i + 1 - k by omega]
  · obtain ⟨p, a, b, c, d⟩ := h3 k hk
    refine ⟨p, by omega, b, c, ?_⟩
    rw [d, hm, hm', ps_R_z (by rw [e]; decide)]
  · rw [ps_dep2 e]
    by_cases x : p = i
    · subst x; exact Or.inl ⟨_, Nat.lt_succ_self _, pk_us⟩
    · rcases h4 p (by omega) ep with ⟨k, a, b⟩ | r
      · exact Or.inl ⟨k, by omega, by rw [pk_un (by omega)]; exact b⟩
      · exact Or.inr r
theorem ps_M_close {s z st sk wa re : Nat → Int32} {n i c d : Nat} (h : ps_M s z st sk wa re n i c) (hi : i < n) (e : s i = 3) (hd : ps_dep s i = d + 1) : ps_M s z st sk (upd wa c (sk d)) re n (i + 1) (c + 1) := by
  obtain ⟨h1, h2, h3, h4, h5⟩ := h
  obtain ⟨m, hm⟩ : ∃ m, n - i = m + 1 := ⟨n - i - 1, by omega⟩
  have hm' : n - (i + 1) = m := by omega
  have hd' : ps_dep s (i + 1) = d := by rw [ps_dep3 e]; omega
  have ni : ∀ p, p < i + 1 → s p = 2 → p < i := by
    intro p hp ep
    by_cases x : p = i
    · subst x; rw [e] at ep; exact absurd ep (by decide)
    · omega
  refine ⟨fun q hq eq => h1 q (ni q hq eq) eq, fun k hk => ?_, fun k hk => ?_, fun p hp ep => ?_, by omega⟩
  · rw [hd'] at hk ⊢
    obtain ⟨p, a, b, c, f⟩ := h2 k (by omega)
    refine ⟨p, by omega, b, c, ?_⟩
    rw [f, hm, hm', hd, ps_R_3 e (by omega), show d + 1 - k - 1 = d - k by omega]
  · by_cases x : k = c
    · subst x
      obtain ⟨p, a, b, c, f⟩ := h2 d (by omega)
      refine ⟨p, by omega, by rw [pk_us]; exact b, c, ?_⟩
      rw [f, hm, hm', hd, ps_R_3 e (by omega), show d + 1 - d - 1 = 0 by omega]
    · obtain ⟨p, a, b, c, f⟩ := h3 k (by omega)
      refine ⟨p, by omega, by rw [pk_un x]; exact b, c, ?_⟩
      rw [f, hm, hm', ps_R_z (by rw [e]; decide)]
  · rw [hd']
    rcases h4 p (ni p hp ep) ep with ⟨k, a, b⟩ | ⟨k, a, b⟩ | r
    · by_cases x : k = d
      · subst x; exact Or.inr (Or.inl ⟨c, by omega, by rw [pk_us]; exact b⟩)
      · exact Or.inl ⟨k, by omega, b⟩
    · exact Or.inr (Or.inl ⟨k, by omega, by rw [pk_un (by omega)]; exact b⟩)
    · exact Or.inr (Or.inr r)
theorem ps_M_word {s z st sk wa re : Nat → Int32} {n i c : Nat} (h : ps_M s z st sk wa re n i c) (hi : i < n) (e : s i = 0) : ps_M s z st sk wa re n (i + 1) c := by
  obtain ⟨h1, h2, h3, h4, h5⟩ := h
  obtain ⟨m, hm⟩ : ∃ m, n - i = m + 1 := ⟨n - i - 1, by omega⟩
  have hm' : n - (i + 1) = m := by omega
  have e2 : ¬ s i = 2 := by rw [e]; decide
  have e3 : ¬ s i = 3 := by rw [e]; decide
  have ni : ∀ p, p < i + 1 → s p = 2 → p < i := by
    intro p hp ep
    by_cases x : p = i
    · subst x; exact absurd ep e2
    · omega
  refine ⟨fun q hq eq => h1 q (ni q hq eq) eq, fun k hk => ?_, fun k hk => ?_, fun p hp ep => ?_, by omega⟩
  · rw [ps_depo e2 e3] at hk ⊢
    obtain ⟨p, a, b, c, f⟩ := h2 k (by omega)
    refine ⟨p, by omega, b, c, ?_⟩
    rw [f, hm, hm', ps_R_o e2 e3 (by omega)]
  · obtain ⟨p, a, b, c, f⟩ := h3 k (by omega)
    refine ⟨p, by omega, b, c, ?_⟩
    rw [f, hm, hm', ps_R_z (by rw [e]; decide)]
  · rw [ps_depo e2 e3]
    exact h4 p (ni p hp ep) ep
/-- what a round of stores has done: the groups named in g have their reach v, none has lost it -/
def ps_wr (g re re' v : Nat → Int32) (c : Nat) : Prop := (∀ p, re p = v p → re' p = v p) ∧ ∀ k, k < c → ∀ p, p < 60 → g k = nI p → re' p = v p
theorem ps_wr0 {g re v : Nat → Int32} : ps_wr g re re v 0 := ⟨fun _ h => h, fun _ h => absurd h (Nat.not_lt_zero _)⟩
theorem ps_wrs {g re re' v : Nat → Int32} {k p : Nat} {x : Int32} (h : ps_wr g re re' v k) (hp : p < 60) (e : g k = nI p) (hx : x = v p) : ps_wr g re (upd re' p x) v (k + 1) := by
  have H : ∀ q, re' q = v q → upd re' p x q = v q := by
    intro q hq
    by_cases y : q = p
    · subst y; rw [pk_us]; exact hx
    · rw [pk_un y]; exact hq
  refine ⟨fun q hq => H q (h.1 q hq), fun j hj q hq eq => ?_⟩
  by_cases y : j = k
  · subst y
    rw [e] at eq
    have : p = q := (nI_eq (by omega) (by omega)).mp eq
    subst this
    rw [pk_us]; exact hx
  · exact H q (h.2 j (by omega) q hq eq)
/-- the values that settle stores at a break, and at the end -/
theorem ps_M_val {s z st sk wa re : Nat → Int32} {n i c : Nat} (h : ps_M s z st sk wa re n i c) (hi : i < n → s i = 1) (hn : i ≤ n) (h60 : n ≤ 60) : ∀ k, k < c → ∃ p, p < 60 ∧ wa k = nI p ∧ ps_T s z i - st p = ps_rho s z n p := by
  intro k hk
  obtain ⟨h1, h2, h3, h4, h5⟩ := h
  obtain ⟨p, a, b, e, f⟩ := h3 k hk
  refine ⟨p, by omega, b, ?_⟩
  have E : ps_E s n p = i := by
    rw [f]
    by_cases x : i < n
    · obtain ⟨m, hm⟩ : ∃ m, n - i = m + 1 := ⟨n - i - 1, by omega⟩
      rw [hm]; exact ps_R_b (hi x)
    · rw [show n - i = 0 by omega]; rfl
  rw [h1 p a e, ps_rho, E]
theorem ps_M_sval {s z st sk wa re : Nat → Int32} {n c : Nat} (h : ps_M s z st sk wa re n n c) (h60 : n ≤ 60) : ∀ k, k < ps_dep s n → ∃ p, p < 60 ∧ sk k = nI p ∧ ps_T s z n - st p = ps_rho s z n p := by
  intro k hk
  obtain ⟨h1, h2, h3, h4, h5⟩ := h
  obtain ⟨p, a, b, e, f⟩ := h2 k hk
  refine ⟨p, by omega, b, ?_⟩
  have E : ps_E s n p = n := by
    rw [f, show n - n = 0 by omega]; rfl
  rw [h1 p a e, ps_rho, E]
theorem ps_M_break {s z st sk wa re re' : Nat → Int32} {n i c : Nat} (h : ps_M s z st sk wa re n i c) (hi : i < n) (h60 : n ≤ 60) (e : s i = 1) (w : ps_wr wa re re' (ps_rho s z n) c) : ps_M s z st sk wa re' n (i + 1) 0 := by
  obtain ⟨h1, h2, h3, h4, h5⟩ := h
  obtain ⟨m, hm⟩ : ∃ m, n - i = m + 1 := ⟨n - i - 1, by omega⟩
  have hm' : n - (i + 1) = m := by omega
  have e2 : ¬ s i = 2 := by rw [e]; decide
  have e3 : ¬ s i = 3 := by rw [e]; decide
  have ni : ∀ p, p < i + 1 → s p = 2 → p < i := by
    intro p hp ep
    by_cases x : p = i
    · subst x; exact absurd ep e2
    · omega
  refine ⟨fun q hq eq => h1 q (ni q hq eq) eq, fun k hk => ?_, fun k hk => absurd hk (Nat.not_lt_zero _), fun p hp ep => ?_, by omega⟩
  · rw [ps_depo e2 e3] at hk ⊢
    obtain ⟨p, a, b, c, f⟩ := h2 k (by omega)
    refine ⟨p, by omega, b, c, ?_⟩
    rw [f, hm, hm', ps_R_o e2 e3 (by omega)]
  · rw [ps_depo e2 e3]
    rcases h4 p (ni p hp ep) ep with l | ⟨k, a, b⟩ | r
    · exact Or.inl l
    · exact Or.inr (Or.inr (w.2 k a p (by omega) b))
    · exact Or.inr (Or.inr (w.1 p r))
theorem ps_M_end {s z st sk wa re re' re'' : Nat → Int32} {n c : Nat} (h : ps_M s z st sk wa re n n c) (h60 : n ≤ 60) (w : ps_wr wa re re' (ps_rho s z n) c) (w' : ps_wr sk re' re'' (ps_rho s z n) (ps_dep s n)) : ps_ms s z re'' n := by
  intro p hp ep
  rcases h.2.2.2.1 p hp ep with ⟨k, a, b⟩ | ⟨k, a, b⟩ | r
  · exact w'.2 k a p (by omega) b
  · exact w'.1 p (w.2 k a p (by omega) b)
  · exact w'.1 p (w.1 p r)
end
section
/-! the layout, in plain Lean: a state is (row, column, greatest column, (flat, margin) of every open group, the innermost first) -/
def ps_tf (l : List (Int32 × Int32)) : Int32 := match l with
  | [] => 0
  | e :: _ => e.1
def ps_tm (l : List (Int32 × Int32)) : Int32 := match l with
  | [] => 0
  | e :: _ => e.2
/-- whether the group that opens at piece i is flat -/
def ps_fl (rho : Nat → Int32) (w : Int32) (i : Nat) (c : Int32) (l : List (Int32 × Int32)) : Int32 := if ps_tf l = 0 then (if w < c + rho i then 0 else 1) else 1
def ps_row (s : Nat → Int32) (i : Nat) (r : Int32) (l : List (Int32 × Int32)) : Int32 := if s i = 1 then (if ps_tf l = 0 then r + 1 else r) else r
def ps_col (s z : Nat → Int32) (i : Nat) (c : Int32) (l : List (Int32 × Int32)) : Int32 := if s i = 0 then c + z i else if s i = 1 then (if ps_tf l = 0 then ps_tm l else c + 1) else c
def ps_lst (s z rho : Nat → Int32) (w : Int32) (i : Nat) (c : Int32) (l : List (Int32 × Int32)) : List (Int32 × Int32) := if s i = 2 then (ps_fl rho w i c l, ps_tm l + z i) :: l else if s i = 3 then l.tail else l
def ps_gr (g c : Int32) : Int32 := if c ≤ g then g else c
def ps_S (s z rho : Nat → Int32) (w : Int32) : Nat → Int32 × Int32 × Int32 × List (Int32 × Int32)
  | 0 => (0, 0, 0, [])
  | i + 1 => (ps_row s i (ps_S s z rho w i).1 (ps_S s z rho w i).2.2.2, ps_col s z i (ps_S s z rho w i).2.1 (ps_S s z rho w i).2.2.2, ps_gr (ps_S s z rho w i).2.2.1 (ps_col s z i (ps_S s z rho w i).2.1 (ps_S s z rho w i).2.2.2), ps_lst s z rho w i (ps_S s z rho w i).2.1 (ps_S s z rho w i).2.2.2)
theorem ps_len (s z rho : Nat → Int32) (w : Int32) : ∀ i, (ps_S s z rho w i).2.2.2.length = ps_dep s i
  | 0 => rfl
  | i + 1 => by
    have ih := ps_len s z rho w i
    show (ps_lst s z rho w i _ (ps_S s z rho w i).2.2.2).length = _
    rw [ps_lst]
    by_cases h2 : s i = 2
    · rw [if_pos h2, ps_dep2 h2, List.length_cons, ih]
    · rw [if_neg h2]
      by_cases h3 : s i = 3
      · rw [if_pos h3, ps_dep3 h3, List.length_tail, ih]
      · rw [if_neg h3, ps_depo h2 h3, ih]
theorem ps_fl_01 (rho : Nat → Int32) (w : Int32) (i : Nat) (c : Int32) (l : List (Int32 × Int32)) : ps_fl rho w i c l = 0 ∨ ps_fl rho w i c l = 1 := by
  rw [ps_fl]
  by_cases h : ps_tf l = 0
  · rw [if_pos h]
    by_cases h' : w < c + rho i
    · rw [if_pos h']; exact Or.inl rfl
    · rw [if_neg h']; exact Or.inr rfl
  · rw [if_neg h]; exact Or.inr rfl
theorem ps_nar {x : Int32} (h : x = 0 ∨ x = 1) : vp_nar .boolean x = x := by
  rcases h with rfl | rfl <;> rfl

/-- X's stack against the list -/
def ps_XS (sk fl ma : Nat → Int32) (i : Nat) : List (Int32 × Int32) → Prop
  | [] => True
  | e :: l => (∃ q, q < i ∧ sk l.length = nI q ∧ fl q = e.1 ∧ ma q = e.2) ∧ ps_XS sk fl ma i l
theorem ps_XS_up {sk fl ma : Nat → Int32} {i : Nat} : ∀ {l : List (Int32 × Int32)}, ps_XS sk fl ma i l → ps_XS sk fl ma (i + 1) l
  | [], _ => True.intro
  | _ :: _, h => ⟨by obtain ⟨q, a, b⟩ := h.1; exact ⟨q, by omega, b⟩, ps_XS_up h.2⟩
theorem ps_XS_push {sk fl ma : Nat → Int32} {i d : Nat} {x f m : Int32} : ∀ {l : List (Int32 × Int32)}, l.length ≤ d → ps_XS sk fl ma i l → ps_XS (upd sk d x) (upd fl i f) (upd ma i m) (i + 1) l
  | [], _, _ => True.intro
  | e :: l, hd, h => by
    have hd' : l.length + 1 ≤ d := hd
    refine ⟨?_, ps_XS_push (by omega) h.2⟩
    obtain ⟨q, a, b, c, e'⟩ := h.1
    refine ⟨q, by omega, ?_, ?_, ?_⟩
    · rw [pk_un (by omega)]; exact b
    · rw [pk_un (by omega)]; exact c
    · rw [pk_un (by omega)]; exact e'
/-- Y's stack against the list -/
def ps_YS (fs ms : Nat → Int32) : List (Int32 × Int32) → Prop
  | [] => True
  | e :: l => (fs l.length = e.1 ∧ ms l.length = e.2) ∧ ps_YS fs ms l
theorem ps_YS_push {fs ms : Nat → Int32} {d : Nat} {f m : Int32} : ∀ {l : List (Int32 × Int32)}, l.length ≤ d → ps_YS fs ms l → ps_YS (upd fs d f) (upd ms d m) l
  | [], _, _ => True.intro
  | e :: l, hd, h => by
    have hd' : l.length + 1 ≤ d := hd
    refine ⟨⟨?_, ?_⟩, ps_YS_push (by omega) h.2⟩
    · rw [pk_un (by omega)]; exact h.1.1
    · rw [pk_un (by omega)]; exact h.1.2
/-- the answers up to piece i -/
def ps_A (s z rho : Nat → Int32) (w : Int32) (ro co fl : Nat → Int32) (i : Nat) : Prop := ∀ p, p < i → ro p = (ps_S s z rho w p).1 ∧ co p = (ps_S s z rho w p).2.1 ∧ (s p = 2 → fl p = ps_fl rho w p (ps_S s z rho w p).2.1 (ps_S s z rho w p).2.2.2)
theorem ps_A0 {s z rho ro co fl : Nat → Int32} {w : Int32} : ps_A s z rho w ro co fl 0 := fun _ h => absurd h (Nat.not_lt_zero _)
theorem ps_A_n {s z rho ro co fl : Nat → Int32} {w : Int32} {i : Nat} (h : ps_A s z rho w ro co fl i) (e : ¬ s i = 2) : ps_A s z rho w (upd ro i (ps_S s z rho w i).1) (upd co i (ps_S s z rho w i).2.1) fl (i + 1) := by
  intro p hp
  by_cases x : p = i
  · subst x; exact ⟨pk_us, pk_us, fun z => absurd z e⟩
  · rw [pk_un x, pk_un x]; exact h p (by omega)
theorem ps_A_o {s z rho ro co fl : Nat → Int32} {w : Int32} {i : Nat} (h : ps_A s z rho w ro co fl i) : ps_A s z rho w (upd ro i (ps_S s z rho w i).1) (upd co i (ps_S s z rho w i).2.1) (upd fl i (ps_fl rho w i (ps_S s z rho w i).2.1 (ps_S s z rho w i).2.2.2)) (i + 1) := by
  intro p hp
  by_cases x : p = i
  · subst x; exact ⟨pk_us, pk_us, fun _ => pk_us⟩
  · rw [pk_un x, pk_un x, pk_un x]; exact h p (by omega)
/-- the least width, f w being the last row at width w -/
def ps_lw (f : Int32 → Int32) (x : Int32) : Nat → Nat → Int32
  | 0, _ => 101
  | k + 1, w => if x < f (nI w) + 1 then ps_lw f x k (w + 1) else nI w
end
section
/-! X: settle and measure -/
section
variable {pw pc uc me lo lr gc : Int32} {s z re st sk wa ro co fl ma : Nat → Int32} {post : SX → Prop}
theorem ps_settle_2 {c : Nat} {x2 : Int32} {re0 v : Nat → Int32} (hc : c ≤ 60) (hv : ∀ k, k < c → ∃ p, p < 60 ∧ wa k = nI p ∧ x2 - st p = v p) (H : ∀ re', ps_wr wa re0 re' v c → post (pw, pc, uc, me, lo, lr, gc, s, z, re', st, sk, wa, ro, co, fl, ma)) : ∀ (d k : Nat), k + d = c → ∀ re : Nat → Int32, ps_wr wa re0 re v k → wX_settle_2 post (nI c) x2 pw pc uc me lo lr gc (d + 1) (nI k) s z re st sk wa ro co fl ma := by
  intro d
  induction d with
  | zero =>
    intro k hk re h
    obtain rfl : k = c := hk
    exact br_t (nI_le (Nat.le_refl _) (by omega)) (H re h)
  | succ d ih =>
    intro k hk re h
    obtain ⟨p, hp, e, ev⟩ := hv k (by omega)
    have hin : vp_in (nI k) 60 := vp_in_nI (by omega) (by omega)
    have hcl : (nI k).toNatClampNeg = k := nI_clamp (by omega)
    have hin2 : vp_in (wa (nI k).toNatClampNeg) 60 := by rw [hcl, e]; exact vp_in_nI hp (by omega)
    have hw : (wa (nI k).toNatClampNeg).toNatClampNeg = p := by rw [hcl, e]; exact nI_clamp (by omega)
    have J := ih (k + 1) (by omega) _ (ps_wrs h hp e ev)
    refine br_f (nI_ge (by omega) (by omega)) ⟨hin, hin, hin2, hin2, ?_⟩
    exact nm_r (e' := upd re p (x2 - st p)) (by rw [hw]) (nm_r (nI_1 k) J)
theorem ps_settle {c : Nat} {x2 : Int32} {v : Nat → Int32} (hc : c ≤ 60) (hv : ∀ k, k < c → ∃ p, p < 60 ∧ wa k = nI p ∧ x2 - st p = v p) (H : ∀ re', ps_wr wa re re' v c → post (pw, pc, uc, me, lo, lr, gc, s, z, re', st, sk, wa, ro, co, fl, ma)) : wpX_settle post (pw, pc, uc, me, lo, lr, gc, s, z, re, st, sk, wa, ro, co, fl, ma) (nI c) x2 :=
  Exists.intro (c + 1) (ps_settle_2 hc hv H c 0 (by omega) re ps_wr0)
theorem ps_m140 {c : Nat} {x1 : Int32} {re0 v : Nat → Int32} (hc : c ≤ 12) (hv : ∀ k, k < c → ∃ p, p < 60 ∧ sk k = nI p ∧ x1 - st p = v p) (H : ∀ re', ps_wr sk re0 re' v c → post (pw, pc, uc, me, lo, lr, gc, s, z, re', st, sk, wa, ro, co, fl, ma)) : ∀ (d k : Nat), k + d = c → ∀ re : Nat → Int32, ps_wr sk re0 re v k → wX_measure_140 post x1 (nI c) pw pc uc me lo lr gc (d + 1) (nI k) s z re st sk wa ro co fl ma := by
  intro d
  induction d with
  | zero =>
    intro k hk re h
    obtain rfl : k = c := hk
    exact br_t (nI_le (Nat.le_refl _) (by omega)) (H re h)
  | succ d ih =>
    intro k hk re h
    obtain ⟨p, hp, e, ev⟩ := hv k (by omega)
    have hin : vp_in (nI k) 12 := vp_in_nI (by omega) (by omega)
    have hcl : (nI k).toNatClampNeg = k := nI_clamp (by omega)
    have hin2 : vp_in (sk (nI k).toNatClampNeg) 60 := by rw [hcl, e]; exact vp_in_nI hp (by omega)
    have hw : (sk (nI k).toNatClampNeg).toNatClampNeg = p := by rw [hcl, e]; exact nI_clamp (by omega)
    have J := ih (k + 1) (by omega) _ (ps_wrs h hp e ev)
    refine br_f (nI_ge (by omega) (by omega)) ⟨hin, hin, hin2, hin2, ?_⟩
    exact nm_r (e' := upd re p (x1 - st p)) (by rw [hw]) (nm_r (nI_1 k) J)
theorem ps_m22 {n : Nat} (ok : ps_ok s n) (H : ∀ re' st' sk' wa' : Nat → Int32, ps_ms s z re' n → post (pw, nI n, uc, me, lo, lr, gc, s, z, re', st', sk', wa', ro, co, fl, ma)) : ∀ (d i : Nat), i + d = n → ∀ (c : Nat) (re st sk wa : Nat → Int32), ps_M s z st sk wa re n i c → wX_measure_22 post (d + 1) (ps_T s z i) (nI (ps_dep s i)) (nI c) (nI i) pw (nI n) uc me lo lr gc s z re st sk wa ro co fl ma := by
  have h60 := ok.1
  intro d
  induction d with
  | zero =>
    intro i hi c re st sk wa h
    obtain rfl : i = n := hi
    refine br_t (nI_le (Nat.le_refl _) (by omega)) ?_
    refine ps_settle (v := ps_rho s z i) (by have := h.2.2.2.2; omega) (ps_M_val h (fun x => absurd x (Nat.lt_irrefl _)) (Nat.le_refl _) h60) ?_
    intro re' w
    refine Exists.intro (ps_dep s i + 1) ?_
    exact ps_m140 (v := ps_rho s z i) (ps_dep_le ok i (Nat.le_refl _)) (ps_M_sval h h60) (fun re'' w' => H _ _ _ _ (ps_M_end h h60 w w')) (ps_dep s i) 0 (by omega) re' ps_wr0
  | succ d ih =>
    intro i hi c re st sk wa h
    have hin : vp_in (nI i) 60 := vp_in_nI (by omega) (by omega)
    have hcl : (nI i).toNatClampNeg = i := nI_clamp (by omega)
    have hc : c ≤ i := h.2.2.2.2
    have hdp := ps_dep_le ok i (by omega)
    refine br_f (nI_ge (by omega) (by omega)) (And.intro hin ?_)
    rcases ok.2 i (by omega) with e | e | ⟨e, e'⟩ | ⟨e, e'⟩
    · have J := ih (i + 1) (by omega) c re st sk wa (ps_M_word h (by omega) e)
      rw [ps_To (by rw [e]; decide) (by rw [e]; decide), ps_depo (by rw [e]; decide) (by rw [e]; decide)] at J
      refine br_f (by rw [hcl, e]; decide) (And.intro hin (br_f (by rw [hcl, e]; decide) (And.intro hin (br_f (by rw [hcl, e]; decide) ?_))))
      exact And.intro hin (nm_r (e' := ps_T s z i + z i) (by rw [hcl]) (nm_r (nI_1 i) J))
    · refine br_f (by rw [hcl, e]; decide) (And.intro hin (br_f (by rw [hcl, e]; decide) (And.intro hin (br_t (by rw [hcl, e]) ?_))))
      refine ps_settle (v := ps_rho s z n) (by omega) (ps_M_val h (fun _ => e) (by omega) h60) ?_
      intro re' w
      have J := ih (i + 1) (by omega) 0 re' st sk wa (ps_M_break h (by omega) h60 e w)
      rw [ps_To (by rw [e]; decide) (by rw [e]; decide), ps_depo (by rw [e]; decide) (by rw [e]; decide)] at J
      exact And.intro hin (nm_r (e' := ps_T s z i + z i) (by rw [hcl]) (nm_r (nI_1 i) J))
    · have J := ih (i + 1) (by omega) c re _ _ wa (ps_M_open h (by omega) e)
      rw [ps_T2 e, ps_dep2 e] at J
      refine br_t (by rw [hcl, e]) (And.intro hin ?_)
      refine nm_r (e' := upd st i (ps_T s z i)) (by rw [hcl]) (And.intro (vp_in_nI e' (by omega)) ?_)
      exact nm_r (e' := upd sk (ps_dep s i) (nI i)) (by rw [nI_clamp (by omega)]) (nm_r (nI_1 _) (nm_r (nI_1 i) J))
    · obtain ⟨m, hm⟩ : ∃ m, ps_dep s i = m + 1 := ⟨ps_dep s i - 1, by omega⟩
      have J := ih (i + 1) (by omega) (c + 1) re st sk _ (ps_M_close h (by omega) e hm)
      rw [ps_T3 e, ps_dep3 e, hm, Nat.add_sub_cancel] at J
      rw [hm]
      refine br_f (by rw [hcl, e]; decide) (And.intro hin (br_t (by rw [hcl, e]) ?_))
      refine nm_r (pk_m1 m) (And.intro (vp_in_nI (by omega) (by omega)) (And.intro (vp_in_nI (by omega) (by omega)) ?_))
      exact nm_r (e' := upd wa c (sk m)) (by rw [nI_clamp (by omega), nI_clamp (by omega)]) (nm_r (nI_1 c) (nm_r (nI_1 i) J))
theorem ps_measure {n : Nat} (ok : ps_ok s n) (hm : ¬ me = 0 → ps_ms s z re n) (H : ∀ (me' : Int32) (re' st' sk' wa' : Nat → Int32), ¬ me' = 0 → ps_ms s z re' n → post (pw, nI n, uc, me', lo, lr, gc, s, z, re', st', sk', wa', ro, co, fl, ma)) : wpX_measure post (pw, nI n, uc, me, lo, lr, gc, s, z, re, st, sk, wa, ro, co, fl, ma) := by
  by_cases h : me = 0
  · exact br_t h (Exists.intro (n + 1) (ps_m22 ok (fun re' st' sk' wa' x => H 1 re' st' sk' wa' (by decide) x) n 0 (by omega) 0 re st sk wa ps_M0))
  · exact br_f h (H me re st sk wa h (hm h))
end
end
section
/-! X: layOut -/
theorem ps_S_w {s z rho : Nat → Int32} {w : Int32} {i : Nat} (e : s i = 0) : ps_S s z rho w (i + 1) = ((ps_S s z rho w i).1, (ps_S s z rho w i).2.1 + z i, ps_gr (ps_S s z rho w i).2.2.1 ((ps_S s z rho w i).2.1 + z i), (ps_S s z rho w i).2.2.2) := by
  rw [ps_S, ps_row, ps_col, ps_lst, if_neg (by rw [e]; decide), if_pos e, if_neg (by rw [e]; decide), if_neg (by rw [e]; decide)]
theorem ps_S_b0 {s z rho : Nat → Int32} {w : Int32} {i : Nat} (e : s i = 1) (t : ps_tf (ps_S s z rho w i).2.2.2 = 0) : ps_S s z rho w (i + 1) = ((ps_S s z rho w i).1 + 1, ps_tm (ps_S s z rho w i).2.2.2, ps_gr (ps_S s z rho w i).2.2.1 (ps_tm (ps_S s z rho w i).2.2.2), (ps_S s z rho w i).2.2.2) := by
  rw [ps_S, ps_row, ps_col, ps_lst, if_pos e, if_pos t, if_neg (by rw [e]; decide), if_pos e, if_pos t, if_neg (by rw [e]; decide), if_neg (by rw [e]; decide)]
theorem ps_S_b1 {s z rho : Nat → Int32} {w : Int32} {i : Nat} (e : s i = 1) (t : ¬ ps_tf (ps_S s z rho w i).2.2.2 = 0) : ps_S s z rho w (i + 1) = ((ps_S s z rho w i).1, (ps_S s z rho w i).2.1 + 1, ps_gr (ps_S s z rho w i).2.2.1 ((ps_S s z rho w i).2.1 + 1), (ps_S s z rho w i).2.2.2) := by
  rw [ps_S, ps_row, ps_col, ps_lst, if_pos e, if_neg t, if_neg (by rw [e]; decide), if_pos e, if_neg t, if_neg (by rw [e]; decide), if_neg (by rw [e]; decide)]
theorem ps_S_o {s z rho : Nat → Int32} {w : Int32} {i : Nat} (e : s i = 2) : ps_S s z rho w (i + 1) = ((ps_S s z rho w i).1, (ps_S s z rho w i).2.1, ps_gr (ps_S s z rho w i).2.2.1 (ps_S s z rho w i).2.1, (ps_fl rho w i (ps_S s z rho w i).2.1 (ps_S s z rho w i).2.2.2, ps_tm (ps_S s z rho w i).2.2.2 + z i) :: (ps_S s z rho w i).2.2.2) := by
  rw [ps_S, ps_row, ps_col, ps_lst, if_neg (by rw [e]; decide), if_neg (by rw [e]; decide), if_neg (by rw [e]; decide), if_pos e]
theorem ps_S_c {s z rho : Nat → Int32} {w : Int32} {i : Nat} (e : s i = 3) : ps_S s z rho w (i + 1) = ((ps_S s z rho w i).1, (ps_S s z rho w i).2.1, ps_gr (ps_S s z rho w i).2.2.1 (ps_S s z rho w i).2.1, (ps_S s z rho w i).2.2.2.tail) := by
  rw [ps_S, ps_row, ps_col, ps_lst, if_neg (by rw [e]; decide), if_neg (by rw [e]; decide), if_neg (by rw [e]; decide), if_neg (by rw [e]; decide), if_pos e]
/-- the piece that X is inside, or -1 -/
def ps_ins (z0 : Int32) (fl ma : Nat → Int32) (i : Nat) (l : List (Int32 × Int32)) : Prop := (z0 < 0 ∧ ¬ 0 ≤ z0 ∧ ps_tf l = 0 ∧ ps_tm l = 0) ∨ ∃ q, q < i ∧ z0 = nI q ∧ fl q = ps_tf l ∧ ma q = ps_tm l
theorem ps_XS_ins {sk fl ma : Nat → Int32} {i : Nat} : ∀ {l : List (Int32 × Int32)}, ps_XS sk fl ma i l → (l.length = 0 ∧ ps_tf l = 0 ∧ ps_tm l = 0) ∨ ∃ d q, l.length = d + 1 ∧ q < i ∧ sk d = nI q ∧ fl q = ps_tf l ∧ ma q = ps_tm l
  | [], _ => Or.inl ⟨rfl, rfl, rfl⟩
  | e :: l, h => by
    obtain ⟨q, a, b, c, d⟩ := h.1
    exact Or.inr ⟨l.length, q, rfl, a, b, c, d⟩
theorem ps_XS_tail {sk fl ma : Nat → Int32} {i : Nat} : ∀ {l : List (Int32 × Int32)}, ps_XS sk fl ma i l → ps_XS sk fl ma i l.tail
  | [], _ => True.intro
  | _ :: _, h => h.2
section
variable {pw pc uc me lo lr gc : Int32} {s z re st sk wa ro co fl ma : Nat → Int32} {post : SX → Prop} {J : Int32 → Int32 → Int32 → Int32 → Int32 → (Nat → Int32) → (Nat → Int32) → (Nat → Int32) → (Nat → Int32) → (Nat → Int32) → (Nat → Int32) → (Nat → Int32) → (Nat → Int32) → (Nat → Int32) → (Nat → Int32) → Prop} {x1 x2 x3 x4 z0 f : Int32} {i d : Nat} {l : List (Int32 × Int32)} {rho : Nat → Int32}
theorem ps_X232 (h : J x2 x3 x4 (nI (i + 1)) (ps_gr gc x3) s z re st sk wa ro co fl ma) : wX_layOut_232 post J x1 x2 x3 x4 (nI i) pw pc uc me lo lr gc s z re st sk wa ro co fl ma := by
  rw [ps_gr] at h
  by_cases hg : x3 ≤ gc
  · rw [if_pos hg] at h; exact br_t hg (nm_r (nI_1 i) h)
  · rw [if_neg hg] at h; exact br_f hg (nm_r (nI_1 i) h)
theorem ps_X110 (hi : i < 60) (hd : d < 12) (f01 : f = 0 ∨ f = 1) (hz : ps_ins z0 fl ma i l) (h : J x2 x3 (nI (d + 1)) (nI (i + 1)) (ps_gr gc x3) s z re st (upd sk d (nI i)) wa ro co (upd fl i f) (upd ma i (ps_tm l + z i))) : wX_layOut_110 post J x1 x2 x3 (nI d) (nI i) z0 f (nI i) pw pc uc me lo lr gc s z re st sk wa ro co fl ma := by
  have hin : vp_in (nI i) 60 := vp_in_nI hi (by omega)
  have hcl : (nI i).toNatClampNeg = i := nI_clamp (by omega)
  refine And.intro hin (nm_r (e' := upd fl i f) (by rw [hcl, ps_nar f01]) ?_)
  have K : ∀ m, m = ps_tm l → wX_layOut_133 post J x1 x2 x3 (nI d) (nI i) m (nI i) pw pc uc me lo lr gc s z re st sk wa ro co (upd fl i f) ma := by
    intro m em
    refine And.intro hin (And.intro hin (nm_r (e' := upd ma i (ps_tm l + z i)) (by rw [hcl, em]) (And.intro (vp_in_nI hd (by omega)) ?_)))
    exact nm_r (e' := upd sk d (nI i)) (by rw [nI_clamp (by omega)]) (nm_r (nI_1 d) (ps_X232 h))
  rcases hz with ⟨_, b, _, t⟩ | ⟨q, hq, eq, _, t⟩
  · exact br_f b (K 0 t.symm)
  · rw [eq]
    exact br_t (nI_pos' (by omega)) (And.intro (vp_in_nI (by omega) (by omega)) (K _ (by rw [nI_clamp (by omega)]; exact t)))
theorem ps_X58o (hi : i < 60) (hd : d < 12) (e : s i = 2) (hre : re i = rho i) (hz : ps_ins z0 fl ma i l) (h : J x2 x3 (nI (d + 1)) (nI (i + 1)) (ps_gr gc x3) s z re st (upd sk d (nI i)) wa ro co (upd fl i (ps_fl rho x1 i x3 l)) (upd ma i (ps_tm l + z i))) : wX_layOut_58 post J x1 x2 x3 (nI d) (nI i) z0 pw pc uc me lo lr gc s z re st sk wa ro co fl ma := by
  have hin : vp_in (nI i) 60 := vp_in_nI hi (by omega)
  have hcl : (nI i).toNatClampNeg = i := nI_clamp (by omega)
  have K : ∀ f, ps_fl rho x1 i x3 l = f → wX_layOut_110 post J x1 x2 x3 (nI d) (nI i) z0 f (nI i) pw pc uc me lo lr gc s z re st sk wa ro co fl ma := by
    intro f ef
    subst ef
    exact ps_X110 hi hd (ps_fl_01 _ _ _ _ _) hz h
  have K92 : ps_tf l = 0 → wX_layOut_92 post J x1 x2 x3 (nI d) (nI i) z0 (nI i) pw pc uc me lo lr gc s z re st sk wa ro co fl ma := by
    intro t
    refine And.intro hin ?_
    rw [hcl, hre]
    by_cases g : x1 < x3 + rho i
    · exact br_t g (K 0 (by rw [ps_fl, if_pos t, if_pos g]))
    · exact br_f g (K 1 (by rw [ps_fl, if_pos t, if_neg g]))
  have K105 : ¬ ps_tf l = 0 → wX_layOut_105 post J x1 x2 x3 (nI d) (nI i) z0 (nI i) pw pc uc me lo lr gc s z re st sk wa ro co fl ma := by
    intro t
    exact K 1 (by rw [ps_fl, if_neg t])
  refine And.intro hin (br_t (by rw [hcl, e]) ?_)
  rcases hz with ⟨a, _, t, _⟩ | ⟨q, hq, eq, t, _⟩
  · exact br_t a (K92 t)
  · rw [eq]
    rw [eq] at K92 K105
    refine br_f (nI_pos (by omega)) (And.intro (vp_in_nI (by omega) (by omega)) ?_)
    rw [nI_clamp (by omega), t]
    exact br_c K92 K105
theorem ps_X58c (hi : i < 60) (e : s i = 3) (h : J x2 x3 (nI d) (nI (i + 1)) (ps_gr gc x3) s z re st sk wa ro co fl ma) : wX_layOut_58 post J x1 x2 x3 (nI (d + 1)) (nI i) z0 pw pc uc me lo lr gc s z re st sk wa ro co fl ma := by
  have hin : vp_in (nI i) 60 := vp_in_nI hi (by omega)
  have hcl : (nI i).toNatClampNeg = i := nI_clamp (by omega)
  exact And.intro hin (br_f (by rw [hcl, e]; decide) (And.intro hin (br_t (by rw [hcl, e]) (nm_r (pk_m1 d) (ps_X232 h)))))
theorem ps_X199 (hi : i < 60) (h : J x2 (x3 + z i) x4 (nI (i + 1)) (ps_gr gc (x3 + z i)) s z re st sk wa ro co fl ma) : wX_layOut_199 post J x1 x2 x3 x4 (nI i) pw pc uc me lo lr gc s z re st sk wa ro co fl ma := by
  have hin : vp_in (nI i) 60 := vp_in_nI hi (by omega)
  have hcl : (nI i).toNatClampNeg = i := nI_clamp (by omega)
  exact And.intro hin (nm_r (e' := x3 + z i) (by rw [hcl]) (ps_X232 h))
theorem ps_X212 (hi : i < 60) (hz : ps_ins z0 fl ma i l) (h : J (x2 + 1) (ps_tm l) x4 (nI (i + 1)) (ps_gr gc (ps_tm l)) s z re st sk wa ro co fl ma) : wX_layOut_212 post J x1 x2 x4 (nI i) z0 pw pc uc me lo lr gc s z re st sk wa ro co fl ma := by
  refine nm_e ?_
  have K : ∀ m, m = ps_tm l → wX_layOut_231 post J x1 (x2 + 1) x4 (nI i) m pw pc uc me lo lr gc s z re st sk wa ro co fl ma := by
    intro m em
    subst em
    exact ps_X232 h
  rcases hz with ⟨_, b, _, t⟩ | ⟨q, hq, eq, _, t⟩
  · exact br_f b (K 0 t.symm)
  · rw [eq]
    exact br_t (nI_pos' (by omega)) (And.intro (vp_in_nI (by omega) (by omega)) (K _ (by rw [nI_clamp (by omega)]; exact t)))
theorem ps_X58w (hi : i < 60) (e : s i = 0) (h : J x2 (x3 + z i) x4 (nI (i + 1)) (ps_gr gc (x3 + z i)) s z re st sk wa ro co fl ma) : wX_layOut_58 post J x1 x2 x3 x4 (nI i) z0 pw pc uc me lo lr gc s z re st sk wa ro co fl ma := by
  have hin : vp_in (nI i) 60 := vp_in_nI hi (by omega)
  have hcl : (nI i).toNatClampNeg = i := nI_clamp (by omega)
  exact And.intro hin (br_f (by rw [hcl, e]; decide) (And.intro hin (br_f (by rw [hcl, e]; decide) (And.intro hin (br_t (by rw [hcl, e]) (ps_X199 hi h))))))
theorem ps_X58b (hi : i < 60) (e : s i = 1) (hz : ps_ins z0 fl ma i l) (h0 : ps_tf l = 0 → J (x2 + 1) (ps_tm l) x4 (nI (i + 1)) (ps_gr gc (ps_tm l)) s z re st sk wa ro co fl ma) (h1 : ¬ ps_tf l = 0 → J x2 (x3 + z i) x4 (nI (i + 1)) (ps_gr gc (x3 + z i)) s z re st sk wa ro co fl ma) : wX_layOut_58 post J x1 x2 x3 x4 (nI i) z0 pw pc uc me lo lr gc s z re st sk wa ro co fl ma := by
  have hin : vp_in (nI i) 60 := vp_in_nI hi (by omega)
  have hcl : (nI i).toNatClampNeg = i := nI_clamp (by omega)
  refine And.intro hin (br_f (by rw [hcl, e]; decide) (And.intro hin (br_f (by rw [hcl, e]; decide) (And.intro hin (br_f (by rw [hcl, e]; decide) ?_)))))
  have K0 : ps_tf l = 0 → wX_layOut_212 post J x1 x2 x4 (nI i) z0 pw pc uc me lo lr gc s z re st sk wa ro co fl ma := fun t => ps_X212 hi hz (h0 t)
  have K1 : ¬ ps_tf l = 0 → wX_layOut_199 post J x1 x2 x3 x4 (nI i) pw pc uc me lo lr gc s z re st sk wa ro co fl ma := fun t => ps_X199 hi (h1 t)
  rcases hz with ⟨a, _, t, _⟩ | ⟨q, hq, eq, t, _⟩
  · exact br_t a (K0 t)
  · rw [eq]
    rw [eq] at K0
    refine br_f (nI_pos (by omega)) (And.intro (vp_in_nI (by omega) (by omega)) ?_)
    rw [nI_clamp (by omega), t]
    exact br_c K0 K1
end
section
variable {pw uc me lo lr : Int32} {s z re st sk wa ro co fl ma : Nat → Int32} {post : SX → Prop}
theorem ps_X15 {n : Nat} {w : Int32} {rho : Nat → Int32} (ok : ps_ok s n) (hre : ∀ p, p < n → s p = 2 → re p = rho p) (hz1 : ∀ i, i < n → s i = 1 → z i = 1) (H : ∀ sk' ro' co' fl' ma' : Nat → Int32, ps_A s z rho w ro' co' fl' n → post (pw, nI n, uc, me, lo, (ps_S s z rho w n).1, (ps_S s z rho w n).2.2.1, s, z, re, st, sk', wa, ro', co', fl', ma')) : ∀ (d i : Nat), i + d = n → ∀ sk ro co fl ma : Nat → Int32, ps_XS sk fl ma i (ps_S s z rho w i).2.2.2 → ps_A s z rho w ro co fl i → wX_layOut_15 post w pw (nI n) uc me lo lr (d + 1) (ps_S s z rho w i).1 (ps_S s z rho w i).2.1 (nI (ps_dep s i)) (nI i) ((ps_S s z rho w i).2.2.1) s z re st sk wa ro co fl ma := by
  have h60 := ok.1
  intro d
  induction d with
  | zero =>
    intro i hi sk ro co fl ma hX hA
    obtain rfl : i = n := hi
    exact br_t (nI_le (Nat.le_refl _) (by omega)) (H sk ro co fl ma hA)
  | succ d ih =>
    intro i hi sk ro co fl ma hX hA
    have hin : vp_in (nI i) 60 := vp_in_nI (by omega) (by omega)
    have hcl : (nI i).toNatClampNeg = i := nI_clamp (by omega)
    have hdp := ps_dep_le ok i (by omega)
    have hlen := ps_len s z rho w i
    refine br_f (nI_ge (by omega) (by omega)) (And.intro hin (nm_r (e' := upd ro i (ps_S s z rho w i).1) (by rw [hcl]) (And.intro hin (nm_r (e' := upd co i (ps_S s z rho w i).2.1) (by rw [hcl]) ?_))))
    have K : ∀ z0, ps_ins z0 fl ma i (ps_S s z rho w i).2.2.2 → wX_layOut_58 post (wX_layOut_15 post w pw (nI n) uc me lo lr (d + 1)) w (ps_S s z rho w i).1 (ps_S s z rho w i).2.1 (nI (ps_dep s i)) (nI i) z0 pw (nI n) uc me lo lr ((ps_S s z rho w i).2.2.1) s z re st sk wa (upd ro i (ps_S s z rho w i).1) (upd co i (ps_S s z rho w i).2.1) fl ma := by
      intro z0 hz
      rcases ok.2 i (by omega) with e | e | ⟨e, e'⟩ | ⟨e, e'⟩
      · have J := ih (i + 1) (by omega) sk _ _ fl ma (by rw [ps_S_w e]; exact ps_XS_up hX) (ps_A_n hA (by rw [e]; decide))
        rw [ps_S_w e, ps_depo (by rw [e]; decide) (by rw [e]; decide)] at J
        exact ps_X58w (by omega) e J
      · refine ps_X58b (by omega) e hz ?_ ?_
        · intro t
          have J := ih (i + 1) (by omega) sk _ _ fl ma (by rw [ps_S_b0 e t]; exact ps_XS_up hX) (ps_A_n hA (by rw [e]; decide))
          rw [ps_S_b0 e t, ps_depo (by rw [e]; decide) (by rw [e]; decide)] at J
          exact J
        · intro t
          have J := ih (i + 1) (by omega) sk _ _ fl ma (by rw [ps_S_b1 e t]; exact ps_XS_up hX) (ps_A_n hA (by rw [e]; decide))
          rw [ps_S_b1 e t, ps_depo (by rw [e]; decide) (by rw [e]; decide)] at J
          rw [hz1 i (by omega) e]
          exact J
      · have J := ih (i + 1) (by omega) (upd sk (ps_dep s i) (nI i)) _ _ _ (upd ma i (ps_tm (ps_S s z rho w i).2.2.2 + z i)) (by
            rw [ps_S_o e]
            exact ⟨⟨i, by omega, by rw [hlen, pk_us], pk_us, pk_us⟩, ps_XS_push (by rw [hlen]; exact Nat.le_refl _) hX⟩) (ps_A_o hA)
        rw [ps_S_o e, ps_dep2 e] at J
        exact ps_X58o (by omega) e' e (hre i (by omega) e) hz J
      · obtain ⟨m, hm⟩ : ∃ m, ps_dep s i = m + 1 := ⟨ps_dep s i - 1, by omega⟩
        have J := ih (i + 1) (by omega) sk _ _ fl ma (by rw [ps_S_c e]; exact ps_XS_up (ps_XS_tail hX)) (ps_A_n hA (by rw [e]; decide))
        rw [ps_S_c e, ps_dep3 e, hm, Nat.add_sub_cancel] at J
        rw [hm]
        exact ps_X58c (by omega) e J
    rcases ps_XS_ins hX with ⟨a, b, c⟩ | ⟨m, q, a, b, c, f, g⟩
    · exact br_t (by rw [← hlen, a]; rfl) (K (-1) (Or.inl ⟨by decide, by decide, b, c⟩))
    · have hm : ps_dep s i = m + 1 := by rw [← hlen, a]
      rw [hm] at K ⊢
      refine br_f (nI_ne0 (by omega) (by omega)) (And.intro (by rw [nI_pred]; exact vp_in_nI (by omega) (by omega)) ?_)
      exact K _ (Or.inr ⟨q, b, by rw [nI_pred, nI_clamp (by omega)]; exact c, f, g⟩)
theorem ps_layOut {n : Nat} {gc w : Int32} {rho : Nat → Int32} (ok : ps_ok s n) (hre : ∀ p, p < n → s p = 2 → re p = rho p) (hz1 : ∀ i, i < n → s i = 1 → z i = 1) (H : ∀ sk' ro' co' fl' ma' : Nat → Int32, ps_A s z rho w ro' co' fl' n → post (pw, nI n, uc, me, lo, (ps_S s z rho w n).1, (ps_S s z rho w n).2.2.1, s, z, re, st, sk', wa, ro', co', fl', ma')) : wpX_layOut post (pw, nI n, uc, me, lo, lr, gc, s, z, re, st, sk, wa, ro, co, fl, ma) w :=
  Exists.intro (n + 1) (ps_X15 ok hre hz1 H n 0 (by omega) sk ro co fl ma True.intro ps_A0)
end
end
section
/-! Y: waiting, reach, enter -/
theorem ps_ring (a b c : Int32) : a - b + c = a + c - b := by grind
section
variable {mo pc dp yr yg : Int32} {s z a fs ms yo yc ff : Nat → Int32}
theorem ps_Yw4 {post : Int32 → Prop} {n : Nat} (ok : ps_ok s n) (H : post (nI (ps_dep s n))) : ∀ (d i : Nat), i + d = n → wY_waiting_4 post mo (nI n) dp yr yg s a fs ms yo yc ff (d + 1) (nI (ps_dep s i)) (nI i) := by
  have h60 := ok.1
  intro d
  induction d with
  | zero =>
    intro i hi
    obtain rfl : i = n := hi
    exact br_t (nI_le (Nat.le_refl _) (by omega)) H
  | succ d ih =>
    intro i hi
    have hin : vp_in (nI i) 60 := vp_in_nI (by omega) (by omega)
    have hcl : (nI i).toNatClampNeg = i := nI_clamp (by omega)
    have J := ih (i + 1) (by omega)
    refine br_f (nI_ge (by omega) (by omega)) (And.intro hin ?_)
    rcases ok.2 i (by omega) with e | e | ⟨e, e'⟩ | ⟨e, e'⟩
    · rw [ps_depo (by rw [e]; decide) (by rw [e]; decide)] at J
      exact br_f (by rw [hcl, e]; decide) (And.intro hin (br_f (by rw [hcl, e]; decide) (nm_r (nI_1 i) J)))
    · rw [ps_depo (by rw [e]; decide) (by rw [e]; decide)] at J
      exact br_f (by rw [hcl, e]; decide) (And.intro hin (br_f (by rw [hcl, e]; decide) (nm_r (nI_1 i) J)))
    · rw [ps_dep2 e] at J
      exact br_t (by rw [hcl, e]) (nm_r (nI_1 _) (And.intro hin (br_f (by rw [hcl, e]; decide) (nm_r (nI_1 i) J))))
    · obtain ⟨m, hm⟩ : ∃ m, ps_dep s i = m + 1 := ⟨ps_dep s i - 1, by omega⟩
      rw [ps_dep3 e, hm, Nat.add_sub_cancel] at J
      rw [hm]
      exact br_f (by rw [hcl, e]; decide) (And.intro hin (br_t (by rw [hcl, e]) (nm_r (pk_m1 m) (nm_r (nI_1 i) J))))
theorem ps_Ywaiting {post : Int32 → Prop} {n : Nat} (ok : ps_ok s n) (H : post (nI (ps_dep s n))) : wpY_waiting post (mo, nI n, dp, yr, yg, s, a, fs, ms, yo, yc, ff) :=
  Exists.intro (n + 1) (ps_Yw4 ok H n 0 (by omega))
theorem ps_Y71 {post : Int32 → Prop} {J : Int32 → Int32 → Int32 → Prop} {n i : Nat} {x3 t : Int32} (ok : ps_ok s n) (za : ps_za s z a n) (hi : i < n) (h : J (ps_T s z (i + 1) - t) x3 (nI (i + 1))) : wY_reach_71 post J (ps_T s z i - t) x3 (nI i) mo (nI n) dp yr yg s a fs ms yo yc ff := by
  have h60 := ok.1
  have hin : vp_in (nI i) 60 := vp_in_nI (by omega) (by omega)
  have hcl : (nI i).toNatClampNeg = i := nI_clamp (by omega)
  rcases ok.2 i hi with e | e | ⟨e, e'⟩ | ⟨e, e'⟩
  · rw [ps_To (by rw [e]; decide) (by rw [e]; decide), ← ps_ring] at h
    have ea : a i = z i := (za i hi).2 (by rw [e]; decide)
    exact And.intro hin (br_t (by rw [hcl, e]) (And.intro hin (nm_r (e' := ps_T s z i - t + z i) (by rw [hcl, ea]) (And.intro hin (br_f (by rw [hcl, e]; decide) (nm_r (nI_1 i) h))))))
  · rw [ps_To (by rw [e]; decide) (by rw [e]; decide), ← ps_ring, (za i hi).1 e] at h
    exact And.intro hin (br_f (by rw [hcl, e]; decide) (And.intro hin (br_t (by rw [hcl, e]) (nm_e (nm_r (nI_1 i) h)))))
  · rw [ps_T2 e] at h
    exact And.intro hin (br_f (by rw [hcl, e]; decide) (And.intro hin (br_f (by rw [hcl, e]; decide) (nm_r (nI_1 i) h))))
  · rw [ps_T3 e] at h
    exact And.intro hin (br_f (by rw [hcl, e]; decide) (And.intro hin (br_f (by rw [hcl, e]; decide) (nm_r (nI_1 i) h))))
theorem ps_Yr9 {post : Int32 → Prop} {n : Nat} {t : Int32} (ok : ps_ok s n) (za : ps_za s z a n) : ∀ (k l i : Nat), i + k = n → l ≤ i → post (ps_T s z (ps_R s k l i) - t) → wY_reach_9 post mo (nI n) dp yr yg s a fs ms yo yc ff (k + 1) (ps_T s z i - t) (nI l) (nI i) := by
  have h60 := ok.1
  intro k
  induction k with
  | zero =>
    intro l i hi hl h
    obtain rfl : i = n := hi
    exact br_t (nI_le (Nat.le_refl _) (by omega)) h
  | succ k ih =>
    intro l i hi hl h
    have hin : vp_in (nI i) 60 := vp_in_nI (by omega) (by omega)
    have hcl : (nI i).toNatClampNeg = i := nI_clamp (by omega)
    have K54 : ∀ m : Nat, m ≤ i + 1 → ¬ s i = 1 → post (ps_T s z (ps_R s k m (i + 1)) - t) → wY_reach_54 post (wY_reach_9 post mo (nI n) dp yr yg s a fs ms yo yc ff (k + 1)) (ps_T s z i - t) (nI m) (nI i) mo (nI n) dp yr yg s a fs ms yo yc ff := by
      intro m hm e1 hp
      have J := ps_Y71 (post := post) (mo := mo) (dp := dp) (yr := yr) (yg := yg) (fs := fs) (ms := ms) (yo := yo) (yc := yc) (ff := ff) ok za (show i < n by omega) (ih m (i + 1) (by omega) hm hp)
      exact br_c (fun _ => And.intro hin (br_f (by rw [hcl]; exact e1) J)) (fun _ => J)
    refine br_f (nI_ge (by omega) (by omega)) ?_
    cases l with
    | zero =>
      refine br_t (by decide) (br_t (by decide) ?_)
      by_cases e1 : s i = 1
      · rw [ps_R_b e1] at h
        exact br_t (by decide) (And.intro hin (br_t (by rw [hcl, e1]) h))
      · rw [ps_R_z e1] at h
        exact K54 0 (by omega) e1 h
    | succ m =>
      refine br_f (nI_nle (by omega) (by omega)) (And.intro hin ?_)
      rcases ok.2 i (by omega) with e | e | ⟨e, e'⟩ | ⟨e, e'⟩
      · rw [ps_R_o (by rw [e]; decide) (by rw [e]; decide) (by omega)] at h
        exact br_f (by rw [hcl, e]; decide) (br_f (nI_nle (by omega) (by omega)) (And.intro hin (br_f (by rw [hcl, e]; decide) (K54 _ (by omega) (by rw [e]; decide) h))))
      · rw [ps_R_o (by rw [e]; decide) (by rw [e]; decide) (by omega)] at h
        have J := ps_Y71 (post := post) (mo := mo) (dp := dp) (yr := yr) (yg := yg) (fs := fs) (ms := ms) (yo := yo) (yc := yc) (ff := ff) ok za (show i < n by omega) (ih (m + 1) (i + 1) (by omega) (by omega) h)
        exact br_f (by rw [hcl, e]; decide) (br_f (nI_nle (by omega) (by omega)) (And.intro hin (br_f (by rw [hcl, e]; decide) (br_f (nI_ne0 (by omega) (by omega)) J))))
      · rw [ps_R_2 e (by omega)] at h
        exact br_t (by rw [hcl, e]) (nm_r (nI_1 _) (br_f (nI_nle (by omega) (by omega)) (And.intro hin (br_f (by rw [hcl, e]; decide) (K54 _ (by omega) (by rw [e]; decide) h)))))
      · rw [ps_R_3 e (by omega), Nat.add_sub_cancel] at h
        exact br_f (by rw [hcl, e]; decide) (br_f (nI_nle (by omega) (by omega)) (And.intro hin (br_t (by rw [hcl, e]) (nm_r (pk_m1 m) (K54 _ (by omega) (by rw [e]; decide) h)))))
theorem ps_Yreach {post : Int32 → Prop} {n p : Nat} (ok : ps_ok s n) (za : ps_za s z a n) (hp : p < n) (e : s p = 2) (H : post (ps_rho s z n p)) : wpY_reach post (mo, nI n, dp, yr, yg, s, a, fs, ms, yo, yc, ff) (nI p) := by
  have J := ps_Yr9 (post := post) (mo := mo) (dp := dp) (yr := yr) (yg := yg) (fs := fs) (ms := ms) (yo := yo) (yc := yc) (ff := ff) (t := ps_T s z p) ok za (n - (p + 1)) 1 (p + 1) (by omega) (by omega) H
  rw [ps_T2 e, Int32.sub_self] at J
  exact nm_r (nI_1 p) (Exists.intro (n - (p + 1) + 1) J)
theorem ps_YS_top : ∀ {l : List (Int32 × Int32)}, ps_YS fs ms l → (l.length = 0 ∧ ps_tf l = 0 ∧ ps_tm l = 0) ∨ ∃ d, l.length = d + 1 ∧ fs d = ps_tf l ∧ ms d = ps_tm l
  | [], _ => Or.inl ⟨rfl, rfl, rfl⟩
  | _ :: l, h => Or.inr ⟨l.length, rfl, h.1.1, h.1.2⟩
theorem ps_YS_tail : ∀ {l : List (Int32 × Int32)}, ps_YS fs ms l → ps_YS fs ms l.tail
  | [], _ => True.intro
  | _ :: _, h => h.2
theorem ps_Y81 {post : SY → Prop} {i d : Nat} {m f : Int32} (hi : i < 60) (hd : d < 60) (f01 : f = 0 ∨ f = 1) (h : post (mo, pc, nI (d + 1), yr, yg, s, a, upd fs d f, upd ms d (m + a i), yo, yc, upd ff i f)) : wY_enter_81 post (nI i) m f (nI d) mo pc (nI d) yr yg s a fs ms yo yc ff := by
  have hin : vp_in (nI i) 60 := vp_in_nI hi (by omega)
  have hcl : (nI i).toNatClampNeg = i := nI_clamp (by omega)
  have hin' : vp_in (nI d) 60 := vp_in_nI hd (by omega)
  have hcl' : (nI d).toNatClampNeg = d := nI_clamp (by omega)
  refine And.intro hin' (nm_r (e' := upd fs d f) (by rw [hcl', ps_nar f01]) (And.intro hin (And.intro hin' ?_)))
  refine nm_r (e' := upd ms d (m + a i)) (by rw [hcl, hcl']) (And.intro hin' (And.intro hin ?_))
  exact nm_r (e' := upd ff i f) (by rw [hcl, hcl', pk_us, ps_nar f01]) (nm_r (nI_1 d) h)
theorem ps_Yenter {post : SY → Prop} {n i d : Nat} {c w : Int32} {l : List (Int32 × Int32)} (ok : ps_ok s n) (za : ps_za s z a n) (hi : i < n) (e : s i = 2) (hd : d < 60) (hl : l.length = d) (hY : ps_YS fs ms l) (h : post (mo, nI n, nI (d + 1), yr, yg, s, a, upd fs d (ps_fl (ps_rho s z n) w i c l), upd ms d (ps_tm l + z i), yo, yc, upd ff i (ps_fl (ps_rho s z n) w i c l))) : wpY_enter post (mo, nI n, nI d, yr, yg, s, a, fs, ms, yo, yc, ff) (nI i) c w := by
  have h60 := ok.1
  have ea : a i = z i := (za i hi).2 (by rw [e]; decide)
  rw [← ea] at h
  have K : ∀ f, ps_fl (ps_rho s z n) w i c l = f → wY_enter_81 post (nI i) (ps_tm l) f (nI d) mo (nI n) (nI d) yr yg s a fs ms yo yc ff := by
    intro f ef
    subst ef
    exact ps_Y81 (by omega) hd (ps_fl_01 _ _ _ _ _) h
  have K50 : ∀ x4 : Int32, (ps_tf l = 0 → x4 = 0) → (¬ ps_tf l = 0 → ¬ x4 = 0) → wY_enter_50 post (nI i) c w x4 (ps_tm l) mo (nI n) (nI d) yr yg s a fs ms yo yc ff := by
    intro x4 h0 h1
    by_cases t : ps_tf l = 0
    · refine br_t (h0 t) (ps_Yreach ok za hi e ?_)
      by_cases g : w < c + ps_rho s z n i
      · exact br_t g (K 0 (by rw [ps_fl, if_pos t, if_pos g]))
      · exact br_f g (K 1 (by rw [ps_fl, if_pos t, if_neg g]))
    · exact br_f (h1 t) (K 1 (by rw [ps_fl, if_neg t]))
  have K26 : ∀ x4 : Int32, (ps_tf l = 0 → x4 = 0) → (¬ ps_tf l = 0 → ¬ x4 = 0) → wY_enter_26 post (nI i) c w x4 mo (nI n) (nI d) yr yg s a fs ms yo yc ff := by
    intro x4 h0 h1
    have J := K50 x4 h0 h1
    rcases ps_YS_top hY with ⟨x, _, y⟩ | ⟨m, x, _, y⟩
    · rw [y] at J
      exact br_t (by rw [← hl, x]; decide) J
    · obtain rfl : d = m + 1 := by rw [← hl, x]
      rw [← y] at J
      exact br_f (nI_nle (by omega) (by omega)) (And.intro (by rw [nI_pred]; exact vp_in_nI (by omega) (by omega)) (by rw [nI_pred, nI_clamp (by omega)]; exact J))
  rcases ps_YS_top hY with ⟨x, y, _⟩ | ⟨m, x, y, _⟩
  · exact br_t (by rw [← hl, x]; decide) (K26 0 (fun _ => rfl) (fun t => absurd y t))
  · obtain rfl : d = m + 1 := by rw [← hl, x]
    refine br_f (nI_nle (by omega) (by omega)) (And.intro (by rw [nI_pred]; exact vp_in_nI (by omega) (by omega)) ?_)
    rw [nI_pred, nI_clamp (by omega), y]
    by_cases t : ps_tf l = 0
    · exact br_t t (K26 0 (fun _ => rfl) (fun t' => absurd t t'))
    · exact br_f t (K26 1 (fun t' => absurd t' t) (fun _ => by decide))
end
end
section
/-! Y: lay -/
section
variable {mo pc dp yr yg : Int32} {s z a fs ms yo yc ff : Nat → Int32} {post : SY → Prop} {J : Int32 → Int32 → Int32 → Int32 → Int32 → Int32 → Int32 → (Nat → Int32) → (Nat → Int32) → (Nat → Int32) → (Nat → Int32) → (Nat → Int32) → (Nat → Int32) → (Nat → Int32) → Prop} {x1 x2 z0 : Int32} {i d n : Nat} {l : List (Int32 × Int32)}
theorem ps_Y193 (h : J x2 (nI (i + 1)) mo pc dp yr (ps_gr yg x2) s a fs ms yo yc ff) : wY_lay_193 post J x1 x2 (nI i) mo pc dp yr yg s a fs ms yo yc ff := by
  rw [ps_gr] at h
  by_cases hg : x2 ≤ yg
  · rw [if_pos hg] at h; exact br_t hg (nm_r (nI_1 i) h)
  · rw [if_neg hg] at h; exact br_f hg (nm_r (nI_1 i) h)
theorem ps_Y156n (hi : i < 60) (e2 : ¬ s i = 2) (e3 : ¬ s i = 3) (h : J x2 (nI (i + 1)) mo pc dp yr (ps_gr yg x2) s a fs ms yo yc ff) : wY_lay_156 post J x1 x2 (nI i) mo pc dp yr yg s a fs ms yo yc ff := by
  have hin : vp_in (nI i) 60 := vp_in_nI hi (by omega)
  have hcl : (nI i).toNatClampNeg = i := nI_clamp (by omega)
  exact And.intro hin (br_f (by rw [hcl]; exact e2) (And.intro hin (br_f (by rw [hcl]; exact e3) (ps_Y193 h))))
theorem ps_Y90n (hi : i < 60) (e1 : ¬ s i = 1) (h : wY_lay_156 post J x1 x2 (nI i) mo pc dp yr yg s a fs ms yo yc ff) : wY_lay_90 post J x1 x2 (nI i) z0 mo pc dp yr yg s a fs ms yo yc ff := by
  have hin : vp_in (nI i) 60 := vp_in_nI hi (by omega)
  have hcl : (nI i).toNatClampNeg = i := nI_clamp (by omega)
  exact And.intro hin (br_f (by rw [hcl]; exact e1) (And.intro hin (br_f (by rw [hcl]; exact e1) h)))
theorem ps_Y70w (hi : i < 60) (e : s i = 0) (ea : a i = z i) (h : J (x2 + z i) (nI (i + 1)) mo pc dp yr (ps_gr yg (x2 + z i)) s a fs ms yo yc ff) : wY_lay_70 post J x1 x2 (nI i) z0 mo pc dp yr yg s a fs ms yo yc ff := by
  have hin : vp_in (nI i) 60 := vp_in_nI hi (by omega)
  have hcl : (nI i).toNatClampNeg = i := nI_clamp (by omega)
  exact And.intro hin (br_t (by rw [hcl, e]) (And.intro hin (nm_r (e' := x2 + z i) (by rw [hcl, ea]) (ps_Y90n hi (by rw [e]; decide) (ps_Y156n hi (by rw [e]; decide) (by rw [e]; decide) h)))))
theorem ps_Y70c (hi : i < 60) (e : s i = 3) (h : J x2 (nI (i + 1)) mo pc (nI d) yr (ps_gr yg x2) s a fs ms yo yc ff) : wY_lay_70 post J x1 x2 (nI i) z0 mo pc (nI (d + 1)) yr yg s a fs ms yo yc ff := by
  have hin : vp_in (nI i) 60 := vp_in_nI hi (by omega)
  have hcl : (nI i).toNatClampNeg = i := nI_clamp (by omega)
  exact And.intro hin (br_f (by rw [hcl, e]; decide) (ps_Y90n hi (by rw [e]; decide) (And.intro hin (br_f (by rw [hcl, e]; decide) (And.intro hin (br_t (by rw [hcl, e]) (nm_r (nI_pred d) (ps_Y193 h))))))))
theorem ps_Y70o (ok : ps_ok s n) (za : ps_za s z a n) (hi : i < n) (e : s i = 2) (hd : d < 60) (hl : l.length = d) (hY : ps_YS fs ms l) (h : J x2 (nI (i + 1)) mo (nI n) (nI (d + 1)) yr (ps_gr yg x2) s a (upd fs d (ps_fl (ps_rho s z n) x1 i x2 l)) (upd ms d (ps_tm l + z i)) yo yc (upd ff i (ps_fl (ps_rho s z n) x1 i x2 l))) : wY_lay_70 post J x1 x2 (nI i) z0 mo (nI n) (nI d) yr yg s a fs ms yo yc ff := by
  have h60 := ok.1
  have hin : vp_in (nI i) 60 := vp_in_nI (by omega) (by omega)
  have hcl : (nI i).toNatClampNeg = i := nI_clamp (by omega)
  refine And.intro hin (br_f (by rw [hcl, e]; decide) (ps_Y90n (by omega) (by rw [e]; decide) (And.intro hin (br_t (by rw [hcl, e]) ?_))))
  refine ps_Yenter ok za hi e hd hl hY ?_
  exact And.intro hin (br_f (by rw [hcl, e]; decide) (ps_Y193 h))
theorem ps_Y70b1 (hi : i < 60) (e : s i = 1) (t : ¬ z0 = 0) (h : J (x2 + 1) (nI (i + 1)) mo pc dp yr (ps_gr yg (x2 + 1)) s a fs ms yo yc ff) : wY_lay_70 post J x1 x2 (nI i) z0 mo pc dp yr yg s a fs ms yo yc ff := by
  have hin : vp_in (nI i) 60 := vp_in_nI hi (by omega)
  have hcl : (nI i).toNatClampNeg = i := nI_clamp (by omega)
  exact And.intro hin (br_f (by rw [hcl, e]; decide) (And.intro hin (br_t (by rw [hcl, e]) (br_f t (nm_e (And.intro hin (br_t (by rw [hcl, e]) (br_f t (ps_Y156n hi (by rw [e]; decide) (by rw [e]; decide) h)))))))))
theorem ps_Y70b0 (hi : i < 60) (e : s i = 1) (hd : d < 60) (hl : l.length = d) (hY : ps_YS fs ms l) (t : z0 = 0) (h : J (ps_tm l) (nI (i + 1)) mo pc (nI d) (yr + 1) (ps_gr yg (ps_tm l)) s a fs ms yo yc ff) : wY_lay_70 post J x1 x2 (nI i) z0 mo pc (nI d) yr yg s a fs ms yo yc ff := by
  have hin : vp_in (nI i) 60 := vp_in_nI hi (by omega)
  have hcl : (nI i).toNatClampNeg = i := nI_clamp (by omega)
  refine And.intro hin (br_f (by rw [hcl, e]; decide) (And.intro hin (br_t (by rw [hcl, e]) (br_t t (And.intro hin (br_t (by rw [hcl, e]) (br_t t (nm_e ?_))))))))
  have K : wY_lay_155 post J x1 (nI i) (ps_tm l) mo pc (nI d) (yr + 1) yg s a fs ms yo yc ff := ps_Y156n hi (by rw [e]; decide) (by rw [e]; decide) h
  rcases ps_YS_top hY with ⟨x, _, y⟩ | ⟨m, x, _, y⟩
  · rw [y] at K
    exact br_t (by rw [← hl, x]; decide) K
  · obtain rfl : d = m + 1 := by rw [← hl, x]
    rw [← y] at K
    exact br_f (nI_nle (by omega) (by omega)) (And.intro (by rw [nI_pred]; exact vp_in_nI (by omega) (by omega)) (by rw [nI_pred, nI_clamp (by omega)]; exact K))
end
section
variable {mo dp yr yg : Int32} {s z a fs ms yo yc ff : Nat → Int32} {post : SY → Prop}
theorem ps_Y19 {n : Nat} {w : Int32} {rho : Nat → Int32} (ok : ps_ok s n) (za : ps_za s z a n) (er : rho = ps_rho s z n) (H : ∀ (dp' : Int32) (fs' ms' yo' yc' ff' : Nat → Int32), ps_A s z rho w yo' yc' ff' n → post (mo, nI n, dp', (ps_S s z rho w n).1, (ps_S s z rho w n).2.2.1, s, a, fs', ms', yo', yc', ff')) : ∀ (d i : Nat), i + d = n → ∀ fs ms yo yc ff : Nat → Int32, ps_YS fs ms (ps_S s z rho w i).2.2.2 → ps_A s z rho w yo yc ff i → wY_lay_19 post w (d + 1) (ps_S s z rho w i).2.1 (nI i) mo (nI n) (nI (ps_dep s i)) ((ps_S s z rho w i).1) ((ps_S s z rho w i).2.2.1) s a fs ms yo yc ff := by
  have h60 := ok.1
  intro d
  induction d with
  | zero =>
    intro i hi fs ms yo yc ff hY hA
    obtain rfl : i = n := hi
    exact br_t (nI_le (Nat.le_refl _) (by omega)) (H _ fs ms yo yc ff hA)
  | succ d ih =>
    intro i hi fs ms yo yc ff hY hA
    have hin : vp_in (nI i) 60 := vp_in_nI (by omega) (by omega)
    have hcl : (nI i).toNatClampNeg = i := nI_clamp (by omega)
    have hdp := ps_dep_le ok i (by omega)
    have hlen := ps_len s z rho w i
    refine br_f (nI_ge (by omega) (by omega)) (And.intro hin (nm_r (e' := upd yo i (ps_S s z rho w i).1) (by rw [hcl]) (And.intro hin (nm_r (e' := upd yc i (ps_S s z rho w i).2.1) (by rw [hcl]) ?_))))
    have K : ∀ z0 : Int32, (ps_tf (ps_S s z rho w i).2.2.2 = 0 → z0 = 0) → (¬ ps_tf (ps_S s z rho w i).2.2.2 = 0 → ¬ z0 = 0) → wY_lay_70 post (wY_lay_19 post w (d + 1)) w (ps_S s z rho w i).2.1 (nI i) z0 mo (nI n) (nI (ps_dep s i)) ((ps_S s z rho w i).1) ((ps_S s z rho w i).2.2.1) s a fs ms (upd yo i (ps_S s z rho w i).1) (upd yc i (ps_S s z rho w i).2.1) ff := by
      intro z0 hz0 hz1
      rcases ok.2 i (by omega) with e | e | ⟨e, e'⟩ | ⟨e, e'⟩
      · have J := ih (i + 1) (by omega) fs ms _ _ ff (by rw [ps_S_w e]; exact hY) (ps_A_n hA (by rw [e]; decide))
        rw [ps_S_w e, ps_depo (by rw [e]; decide) (by rw [e]; decide)] at J
        exact ps_Y70w (z := z) (by omega) e ((za i (by omega)).2 (by rw [e]; decide)) J
      · by_cases t : ps_tf (ps_S s z rho w i).2.2.2 = 0
        · have J := ih (i + 1) (by omega) fs ms _ _ ff (by rw [ps_S_b0 e t]; exact hY) (ps_A_n hA (by rw [e]; decide))
          rw [ps_S_b0 e t, ps_depo (by rw [e]; decide) (by rw [e]; decide)] at J
          exact ps_Y70b0 (by omega) e (by omega) hlen hY (hz0 t) J
        · have J := ih (i + 1) (by omega) fs ms _ _ ff (by rw [ps_S_b1 e t]; exact hY) (ps_A_n hA (by rw [e]; decide))
          rw [ps_S_b1 e t, ps_depo (by rw [e]; decide) (by rw [e]; decide)] at J
          exact ps_Y70b1 (by omega) e (hz1 t) J
      · have J := ih (i + 1) (by omega) (upd fs (ps_dep s i) (ps_fl rho w i (ps_S s z rho w i).2.1 (ps_S s z rho w i).2.2.2)) (upd ms (ps_dep s i) (ps_tm (ps_S s z rho w i).2.2.2 + z i)) _ _ _ (by
            rw [ps_S_o e]
            exact ⟨⟨by rw [hlen, pk_us], by rw [hlen, pk_us]⟩, ps_YS_push (by rw [hlen]; exact Nat.le_refl _) hY⟩) (ps_A_o hA)
        rw [ps_S_o e, ps_dep2 e] at J
        subst er
        exact ps_Y70o ok za (by omega) e (by omega) hlen hY J
      · obtain ⟨m, hm⟩ : ∃ m, ps_dep s i = m + 1 := ⟨ps_dep s i - 1, by omega⟩
        have J := ih (i + 1) (by omega) fs ms _ _ ff (by rw [ps_S_c e]; exact ps_YS_tail hY) (ps_A_n hA (by rw [e]; decide))
        rw [ps_S_c e, ps_dep3 e, hm, Nat.add_sub_cancel] at J
        rw [hm]
        exact ps_Y70c (by omega) e J
    rcases ps_YS_top hY with ⟨x, y, _⟩ | ⟨m, x, y, _⟩
    · exact br_t (by rw [← hlen, x]; decide) (K 0 (fun _ => rfl) (fun t => absurd y t))
    · have hm : ps_dep s i = m + 1 := by rw [← hlen, x]
      rw [hm] at K ⊢
      refine br_f (nI_nle (by omega) (by omega)) (And.intro (by rw [nI_pred]; exact vp_in_nI (by omega) (by omega)) ?_)
      rw [nI_pred, nI_clamp (by omega), y]
      by_cases t : ps_tf (ps_S s z rho w i).2.2.2 = 0
      · exact br_t t (K 0 (fun _ => rfl) (fun t' => absurd t t'))
      · exact br_f t (K 1 (fun t' => absurd t' t) (fun _ => by decide))
theorem ps_lay {n : Nat} {w : Int32} (ok : ps_ok s n) (za : ps_za s z a n) (H : ∀ (dp' : Int32) (fs' ms' yo' yc' ff' : Nat → Int32), ps_A s z (ps_rho s z n) w yo' yc' ff' n → post (mo, nI n, dp', (ps_S s z (ps_rho s z n) w n).1, (ps_S s z (ps_rho s z n) w n).2.2.1, s, a, fs', ms', yo', yc', ff')) : wpY_lay post (mo, nI n, dp, yr, yg, s, a, fs, ms, yo, yc, ff) w :=
  Exists.intro (n + 1) (ps_Y19 ok za rfl H n 0 (by omega) fs ms yo yc ff True.intro ps_A0)
end
end
section
/-! the relation; the small methods -/
/-- what 'laidOut' says -/
def ps_lo (s z : Nat → Int32) (n : Nat) (w lr gc : Int32) (ro co fl : Nat → Int32) : Prop := lr = (ps_S s z (ps_rho s z n) w n).1 ∧ gc = (ps_S s z (ps_rho s z n) w n).2.2.1 ∧ ps_A s z (ps_rho s z n) w ro co fl n
/-- the relation at the head of a turn: the same pieces; what X keeps of the reaches and of the layout, if it says that it does, is so -/
def i_Rel (k : Nat) (u : SX) (v : SY) : Prop := match u, v with
  | (pw, pc, uc, me, lo, lr, gc, s, z, re, st, sk, wa, ro, co, fl, ma), (mo, pc', dp, yr, yg, s', a, fs, ms, yo, yc, ff) => ∃ n : Nat, pc = nI n ∧ pc' = nI n ∧ s' = s ∧ mo = pw ∧ ps_ok s n ∧ uc = nI (ps_dep s n) ∧ ps_za s z a n ∧ (¬ me = 0 → ps_ms s z re n) ∧ (¬ lo = 0 → ps_lo s z n pw lr gc ro co fl)
theorem i_up {k : Nat} {u : SX} {v : SY} (h : i_Rel k u v) : i_Rel (k + 2) u v := h
theorem ps_mk {k n : Nat} {pw uc me lo lr gc : Int32} {s z re st sk wa ro co fl ma : Nat → Int32} {dp yr yg : Int32} {a fs ms yo yc ff : Nat → Int32} (ok : ps_ok s n) (hu : uc = nI (ps_dep s n)) (za : ps_za s z a n) (hm : ¬ me = 0 → ps_ms s z re n) (hl : ¬ lo = 0 → ps_lo s z n pw lr gc ro co fl) : i_Rel k (pw, nI n, uc, me, lo, lr, gc, s, z, re, st, sk, wa, ro, co, fl, ma) (pw, nI n, dp, yr, yg, s, a, fs, ms, yo, yc, ff) :=
  Exists.intro n ⟨rfl, rfl, rfl, rfl, ok, hu, za, hm, hl⟩
theorem ps_el {k : Nat} {P : SX → SY → Prop} (h : ∀ (n : Nat) (pw uc me lo lr gc : Int32) (s z re st sk wa ro co fl ma : Nat → Int32) (dp yr yg : Int32) (a fs ms yo yc ff : Nat → Int32), ps_ok s n → uc = nI (ps_dep s n) → ps_za s z a n → (¬ me = 0 → ps_ms s z re n) → (¬ lo = 0 → ps_lo s z n pw lr gc ro co fl) → P (pw, nI n, uc, me, lo, lr, gc, s, z, re, st, sk, wa, ro, co, fl, ma) (pw, nI n, dp, yr, yg, s, a, fs, ms, yo, yc, ff)) {u : SX} {v : SY} (I : i_Rel k u v) : P u v := by
  obtain ⟨pw, pc, uc, me, lo, lr, gc, s, z, re, st, sk, wa, ro, co, fl, ma⟩ := u
  obtain ⟨mo, pc', dp, yr, yg, s', a, fs, ms, yo, yc, ff⟩ := v
  obtain ⟨n, e1, e2, e3, e4, ok, hu, za, hm, hl⟩ := I
  rw [e1, e2, e3, e4]
  exact h n pw uc me lo lr gc s z re st sk wa ro co fl ma dp yr yg a fs ms yo yc ff ok hu za hm hl
/-- the width that is kept -/
def ps_wd (p : Int32) : Int32 := if 1 ≤ p then (if p ≤ 100 then p else 100) else 1
section
variable {pw pc uc me lo lr gc : Int32} {s z re st sk wa ro co fl ma : Nat → Int32}
variable {mo dp yr yg : Int32} {a fs ms yo yc ff : Nat → Int32}
theorem ps_Xwidth {post : SX → Prop} {p : Int32} (h : post (ps_wd p, pc, uc, me, 0, lr, gc, s, z, re, st, sk, wa, ro, co, fl, ma)) : wpX_width post (pw, pc, uc, me, lo, lr, gc, s, z, re, st, sk, wa, ro, co, fl, ma) p := by
  rw [ps_wd] at h
  by_cases h1 : 1 ≤ p
  · rw [if_pos h1] at h
    by_cases h2 : p ≤ 100
    · rw [if_pos h2] at h; exact br_t h1 (br_t h2 h)
    · rw [if_neg h2] at h; exact br_t h1 (br_f h2 h)
  · rw [if_neg h1] at h; exact br_f h1 h
theorem ps_Ywidth {post : SY → Prop} {p : Int32} (h : post (ps_wd p, pc, dp, yr, yg, s, a, fs, ms, yo, yc, ff)) : wpY_width post (mo, pc, dp, yr, yg, s, a, fs, ms, yo, yc, ff) p := by
  rw [ps_wd] at h
  by_cases h1 : 1 ≤ p
  · rw [if_pos h1] at h
    by_cases h2 : p ≤ 100
    · rw [if_pos h2] at h; exact br_t h1 (br_t h2 h)
    · rw [if_neg h2] at h; exact br_t h1 (br_f h2 h)
  · rw [if_neg h1] at h; exact br_f h1 h
theorem ps_Xadd {post : Int32 → SX → Prop} {n : Nat} {p0 p1 : Int32} (hn : n < 60) (h : post (nI (n + 1)) (pw, nI (n + 1), uc, 0, 0, lr, gc, upd s n p0, upd z n p1, re, st, sk, wa, ro, co, fl, ma)) : wpX_addPiece post (pw, nI n, uc, me, lo, lr, gc, s, z, re, st, sk, wa, ro, co, fl, ma) p0 p1 := by
  have hin : vp_in (nI n) 60 := vp_in_nI hn (by omega)
  have hcl : (nI n).toNatClampNeg = n := nI_clamp (by omega)
  exact br_t (nI_lt (b := 60) hn (by decide)) (And.intro hin (nm_r (e' := upd s n p0) (by rw [hcl]) (And.intro hin (nm_r (e' := upd z n p1) (by rw [hcl]) (nm_r (nI_1 n) h)))))
theorem ps_Xadd60 {post : Int32 → SX → Prop} {p0 p1 : Int32} (h : post (-1) (pw, nI 60, uc, me, lo, lr, gc, s, z, re, st, sk, wa, ro, co, fl, ma)) : wpX_addPiece post (pw, nI 60, uc, me, lo, lr, gc, s, z, re, st, sk, wa, ro, co, fl, ma) p0 p1 :=
  br_f (by decide) h
theorem ps_Yadd {post : Int32 → SY → Prop} {n : Nat} {p0 p1 : Int32} (hn : n < 60) (h : post (nI (n + 1)) (mo, nI (n + 1), dp, yr, yg, upd s n p0, upd a n p1, fs, ms, yo, yc, ff)) : wpY_add post (mo, nI n, dp, yr, yg, s, a, fs, ms, yo, yc, ff) p0 p1 := by
  have hin : vp_in (nI n) 60 := vp_in_nI hn (by omega)
  have hcl : (nI n).toNatClampNeg = n := nI_clamp (by omega)
  have hne : ¬ nI n = 60 := fun e => by
    have := (nI_eq (a := n) (b := 60) (by omega) (by decide)).mp e
    omega
  exact br_f hne (And.intro hin (nm_r (e' := upd s n p0) (by rw [hcl]) (And.intro hin (nm_r (e' := upd a n p1) (by rw [hcl]) (nm_r (nI_1 n) h)))))
theorem ps_Yadd60 {post : Int32 → SY → Prop} {p0 p1 : Int32} (h : post (-1) (mo, nI 60, dp, yr, yg, s, a, fs, ms, yo, yc, ff)) : wpY_add post (mo, nI 60, dp, yr, yg, s, a, fs, ms, yo, yc, ff) p0 p1 :=
  br_t (by decide) h
theorem ps_Ymiss1 {post : Int32 → Prop} {n : Nat} {p : Int32} (h : p < 0 ∨ ¬ p < nI n) (H : post 1) : wpY_missing post (mo, nI n, dp, yr, yg, s, a, fs, ms, yo, yc, ff) p := by
  by_cases h0 : p < 0
  · exact br_t h0 H
  · exact br_f h0 (br_f (h.resolve_left h0) H)
theorem ps_Ymiss0 {post : Int32 → Prop} {n : Nat} {p : Int32} (h0 : ¬ p < 0) (h1 : p < nI n) (H : post 0) : wpY_missing post (mo, nI n, dp, yr, yg, s, a, fs, ms, yo, yc, ff) p :=
  br_f h0 (br_t h1 H)
end
theorem ps_dep_a0 {s : Nat → Int32} {n : Nat} {x : Int32} (h2 : ¬ x = 2) (h3 : ¬ x = 3) : ps_dep (upd s n x) (n + 1) = ps_dep s n := by
  rw [ps_depo (by rw [pk_us]; exact h2) (by rw [pk_us]; exact h3), ps_dep_upd s n x n (Nat.le_refl _)]
theorem ps_dep_a2 {s : Nat → Int32} {n : Nat} : ps_dep (upd s n 2) (n + 1) = ps_dep s n + 1 := by
  rw [ps_dep2 pk_us, ps_dep_upd s n 2 n (Nat.le_refl _)]
theorem ps_dep_a3 {s : Nat → Int32} {n : Nat} : ps_dep (upd s n 3) (n + 1) = ps_dep s n - 1 := by
  rw [ps_dep3 pk_us, ps_dep_upd s n 3 n (Nat.le_refl _)]
theorem i_vc0 (k0 : Int32) : wpX_init (fun u => wpY_init (fun v => i_Rel 1 u v) k0) k0 := by
  unfold wpX_init
  refine ps_Xwidth ?_
  show wpY_init _ _
  unfold wpY_init
  refine ps_Ywidth ?_
  exact ps_mk (n := 0) ⟨by omega, fun i h => absurd h (Nat.not_lt_zero _)⟩ rfl (fun i h => absurd h (Nat.not_lt_zero _)) (fun h => absurd rfl h) (fun h => absurd rfl h)
theorem i_vc_width {k : Nat} {u : SX} {v : SY} (I : i_Rel k u v) (hk : k + 2 ≤ 1025) (v1 : Int32) : wpX_width (fun u' => wpY_width (fun v' => i_Rel (k + 2) u' v') v v1) u v1 := by
  refine ps_el (P := fun u v => wpX_width (fun u' => wpY_width (fun v' => i_Rel (k + 2) u' v') v v1) u v1) ?_ I
  intro n pw uc me lo lr gc s z re st sk wa ro co fl ma dp yr yg a fs ms yo yc ff ok hu za hm hl
  exact ps_Xwidth (ps_Ywidth (ps_mk ok hu za hm (fun h => absurd rfl h)))
theorem i_vc_word {k : Nat} {u : SX} {v : SY} (I : i_Rel k u v) (hk : k + 2 ≤ 1025) (v1 : Int32) : wpX_word (fun r u' => wpY_word (fun r' v' => r' = r ∧ i_Rel (k + 2) u' v') v v1) u v1 := by
  refine ps_el (P := fun u v => wpX_word (fun r u' => wpY_word (fun r' v' => r' = r ∧ i_Rel (k + 2) u' v') v v1) u v1) ?_ I
  intro n pw uc me lo lr gc s z re st sk wa ro co fl ma dp yr yg a fs ms yo yc ff ok hu za hm hl
  by_cases h1 : v1 < 1
  · exact br_t h1 (br_t h1 ⟨rfl, ps_mk ok hu za hm hl⟩)
  · by_cases h2 : v1 ≤ 20
    · refine br_f h1 (br_t h2 ?_)
      by_cases hn : n < 60
      · refine ps_Xadd hn ?_
        refine br_f h1 (br_t h2 ?_)
        refine ps_Yadd hn ?_
        exact ⟨rfl, ps_mk (ps_ok_add ok hn (Or.inl rfl)) (by rw [ps_dep_a0 (by decide) (by decide)]; exact hu) (ps_za_add za (fun x => absurd x (by decide)) (fun _ => rfl)) (fun h => absurd rfl h) (fun h => absurd rfl h)⟩
      · obtain rfl : n = 60 := by have := ok.1; omega
        refine ps_Xadd60 ?_
        refine br_f h1 (br_t h2 ?_)
        refine ps_Yadd60 ?_
        exact ⟨rfl, ps_mk ok hu za hm hl⟩
    · exact br_f h1 (br_f h2 (br_f h1 (br_f h2 ⟨rfl, ps_mk ok hu za hm hl⟩)))
theorem i_vc_lineBreak {k : Nat} {u : SX} {v : SY} (I : i_Rel k u v) (hk : k + 2 ≤ 1025) : wpX_lineBreak (fun r u' => wpY_lineBreak (fun r' v' => r' = r ∧ i_Rel (k + 2) u' v') v) u := by
  refine ps_el (P := fun u v => wpX_lineBreak (fun r u' => wpY_lineBreak (fun r' v' => r' = r ∧ i_Rel (k + 2) u' v') v) u) ?_ I
  intro n pw uc me lo lr gc s z re st sk wa ro co fl ma dp yr yg a fs ms yo yc ff ok hu za hm hl
  unfold wpX_lineBreak
  dsimp only
  by_cases hn : n < 60
  · refine ps_Xadd hn ?_
    unfold wpY_lineBreak
    dsimp only
    refine ps_Yadd hn ?_
    exact ⟨rfl, ps_mk (ps_ok_add ok hn (Or.inr (Or.inl rfl))) (by rw [ps_dep_a0 (by decide) (by decide)]; exact hu) (ps_za_add za (fun _ => rfl) (fun x => absurd rfl x)) (fun h => absurd rfl h) (fun h => absurd rfl h)⟩
  · obtain rfl : n = 60 := by have := ok.1; omega
    refine ps_Xadd60 ?_
    unfold wpY_lineBreak
    dsimp only
    refine ps_Yadd60 ?_
    exact ⟨rfl, ps_mk ok hu za hm hl⟩
theorem i_vc_open {k : Nat} {u : SX} {v : SY} (I : i_Rel k u v) (hk : k + 2 ≤ 1025) (v1 : Int32) : wpX_open (fun r u' => wpY_open (fun r' v' => r' = r ∧ i_Rel (k + 2) u' v') v v1) u v1 := by
  refine ps_el (P := fun u v => wpX_open (fun r u' => wpY_open (fun r' v' => r' = r ∧ i_Rel (k + 2) u' v') v v1) u v1) ?_ I
  intro n pw uc me lo lr gc s z re st sk wa ro co fl ma dp yr yg a fs ms yo yc ff ok hu za hm hl
  have hd := ps_dep_le ok n (Nat.le_refl _)
  by_cases h1 : v1 < 0
  · exact br_t h1 (br_t h1 ⟨rfl, ps_mk ok hu za hm hl⟩)
  · by_cases h2 : 8 < v1
    · exact br_f h1 (br_t h2 (br_f h1 (br_t h2 ⟨rfl, ps_mk ok hu za hm hl⟩)))
    · refine br_f h1 (br_f h2 ?_)
      by_cases h3 : ps_dep s n < 12
      · have hne : ¬ nI (ps_dep s n) = 12 := fun e => by
          have := (nI_eq (a := ps_dep s n) (b := 12) (by omega) (by decide)).mp e
          omega
        refine br_t (by rw [hu]; exact nI_lt (b := 12) h3 (by decide)) ?_
        by_cases hn : n < 60
        · refine ps_Xadd hn ?_
          refine br_t (nI_pos' (by omega)) (nm_e ?_)
          refine br_f h1 (br_f h2 (ps_Ywaiting ok (br_f hne ?_)))
          refine ps_Yadd hn ?_
          exact ⟨rfl, ps_mk (ps_ok_add ok hn (Or.inr (Or.inr (Or.inl ⟨rfl, h3⟩)))) (by rw [ps_dep_a2, hu, nI_1]) (ps_za_add za (fun x => absurd x (by decide)) (fun _ => rfl)) (fun h => absurd rfl h) (fun h => absurd rfl h)⟩
        · obtain rfl : n = 60 := by have := ok.1; omega
          refine ps_Xadd60 ?_
          refine br_f (by decide) (nm_e ?_)
          refine br_f h1 (br_f h2 (ps_Ywaiting ok (br_f hne ?_)))
          refine ps_Yadd60 ?_
          exact ⟨rfl, ps_mk ok (by rw [Int32.add_zero]; exact hu) za hm hl⟩
      · have h12 : ps_dep s n = 12 := by omega
        refine br_f (by rw [hu, h12]; decide) ?_
        exact br_f h1 (br_f h2 (ps_Ywaiting ok (br_t (by rw [h12]; decide) ⟨rfl, ps_mk ok hu za hm hl⟩)))
theorem i_vc_close {k : Nat} {u : SX} {v : SY} (I : i_Rel k u v) (hk : k + 2 ≤ 1025) : wpX_close (fun r u' => wpY_close (fun r' v' => r' = r ∧ i_Rel (k + 2) u' v') v) u := by
  refine ps_el (P := fun u v => wpX_close (fun r u' => wpY_close (fun r' v' => r' = r ∧ i_Rel (k + 2) u' v') v) u) ?_ I
  intro n pw uc me lo lr gc s z re st sk wa ro co fl ma dp yr yg a fs ms yo yc ff ok hu za hm hl
  have hd := ps_dep_le ok n (Nat.le_refl _)
  by_cases h0 : ps_dep s n = 0
  · refine br_t (by rw [hu, h0]; decide) ?_
    unfold wpY_close
    dsimp only
    exact ps_Ywaiting ok (br_t (by rw [h0]; decide) ⟨rfl, ps_mk ok hu za hm hl⟩)
  · have hne : ¬ nI (ps_dep s n) = 0 := nI_ne0 (by omega) (by omega)
    obtain ⟨m, hm'⟩ : ∃ m, ps_dep s n = m + 1 := ⟨ps_dep s n - 1, by omega⟩
    refine br_f (by rw [hu]; exact hne) ?_
    by_cases hn : n < 60
    · refine ps_Xadd hn ?_
      refine br_t (nI_pos' (by omega)) (nm_e ?_)
      unfold wpY_close
      dsimp only
      refine ps_Ywaiting ok (br_f hne ?_)
      refine ps_Yadd hn ?_
      exact ⟨rfl, ps_mk (ps_ok_add ok hn (Or.inr (Or.inr (Or.inr ⟨rfl, by omega⟩)))) (by rw [ps_dep_a3, hu, hm', nI_pred, Nat.add_sub_cancel]) (ps_za_add za (fun x => absurd x (by decide)) (fun _ => rfl)) (fun h => absurd rfl h) (fun h => absurd rfl h)⟩
    · obtain rfl : n = 60 := by have := ok.1; omega
      refine ps_Xadd60 ?_
      refine br_f (by decide) (nm_e ?_)
      unfold wpY_close
      dsimp only
      refine ps_Ywaiting ok (br_f hne ?_)
      refine ps_Yadd60 ?_
      exact ⟨rfl, ps_mk ok (by rw [Int32.sub_zero]; exact hu) za hm hl⟩
end
section
/-! the questions -/
section
variable {pw uc me lo lr gc : Int32} {s z re st sk wa ro co fl ma : Nat → Int32}
variable {mo dp yr yg : Int32} {a fs ms yo yc ff : Nat → Int32}
theorem ps_prepare {post : SX → Prop} {n : Nat} (ok : ps_ok s n) (za : ps_za s z a n) (hm : ¬ me = 0 → ps_ms s z re n) (hl : ¬ lo = 0 → ps_lo s z n pw lr gc ro co fl) (H : ∀ (me' lo' lr' gc' : Int32) (re' st' sk' wa' ro' co' fl' ma' : Nat → Int32), (¬ me' = 0 → ps_ms s z re' n) → ps_lo s z n pw lr' gc' ro' co' fl' → post (pw, nI n, uc, me', lo', lr', gc', s, z, re', st', sk', wa', ro', co', fl', ma')) : wpX_prepare post (pw, nI n, uc, me, lo, lr, gc, s, z, re, st, sk, wa, ro, co, fl, ma) := by
  by_cases h : lo = 0
  · refine br_t h ?_
    refine ps_measure ok hm ?_
    intro me' re' st' sk' wa' h' hms
    refine ps_layOut (rho := ps_rho s z n) ok hms (fun i hi e => (za i hi).1 e) ?_
    intro sk'' ro' co' fl' ma' hA
    exact H me' 1 _ _ re' st' sk'' wa' ro' co' fl' ma' (fun _ => hms) ⟨rfl, rfl, hA⟩
  · exact br_f h (H me lo lr gc re st sk wa ro co fl ma hm (hl h))
theorem ps_Xlw {post : Int32 → SX → Prop} {n : Nat} {x1 : Int32} (ok : ps_ok s n) (za : ps_za s z a n) (hms : ps_ms s z re n) : ∀ (k w : Nat), w + k = 101 → (∀ (lr' gc' : Int32) (sk' ro' co' fl' ma' : Nat → Int32), post (ps_lw (fun w => (ps_S s z (ps_rho s z n) w n).1) x1 k w) (pw, nI n, uc, me, lo, lr', gc', s, z, re, st, sk', wa, ro', co', fl', ma')) → ∀ (lr gc : Int32) (sk ro co fl ma : Nat → Int32), wX_leastWidth_11 post x1 (k + 1) (nI w) pw (nI n) uc me lo lr gc s z re st sk wa ro co fl ma := by
  intro k
  induction k with
  | zero =>
    intro w hw H lr gc sk ro co fl ma
    obtain rfl : w = 101 := hw
    exact br_t (by decide) (H lr gc sk ro co fl ma)
  | succ k ih =>
    intro w hw H lr gc sk ro co fl ma
    refine br_f (nI_nlt (a := 100) (by omega) (by decide)) ?_
    refine ps_layOut (rho := ps_rho s z n) ok hms (fun i hi e => (za i hi).1 e) ?_
    intro sk' ro' co' fl' ma' hA
    by_cases g : x1 < (ps_S s z (ps_rho s z n) (nI w) n).1 + 1
    · refine br_t g (nm_r (nI_1 w) ?_)
      refine ih (w + 1) (by omega) ?_ _ _ _ _ _ _ _
      intro lr' gc' sk'' ro'' co'' fl'' ma''
      have K := H lr' gc' sk'' ro'' co'' fl'' ma''
      rw [ps_lw, if_pos g] at K
      exact K
    · refine br_f g ?_
      have K := H (ps_S s z (ps_rho s z n) (nI w) n).1 (ps_S s z (ps_rho s z n) (nI w) n).2.2.1 sk' ro' co' fl' ma'
      rw [ps_lw, if_neg g] at K
      exact K
theorem ps_Ylw {post : Int32 → SY → Prop} {n : Nat} {x1 : Int32} (ok : ps_ok s n) (za : ps_za s z a n) : ∀ (k w : Nat), w + k = 101 → (∀ (dp' yr' yg' : Int32) (fs' ms' yo' yc' ff' : Nat → Int32), post (ps_lw (fun w => (ps_S s z (ps_rho s z n) w n).1) x1 k w) (mo, nI n, dp', yr', yg', s, a, fs', ms', yo', yc', ff')) → ∀ (dp yr yg : Int32) (fs ms yo yc ff : Nat → Int32), wY_leastWidth_2 post x1 (k + 1) (nI w) mo (nI n) dp yr yg s a fs ms yo yc ff := by
  intro k
  induction k with
  | zero =>
    intro w hw H dp yr yg fs ms yo yc ff
    obtain rfl : w = 101 := hw
    exact br_t (by decide) (H dp yr yg fs ms yo yc ff)
  | succ k ih =>
    intro w hw H dp yr yg fs ms yo yc ff
    refine br_f (nI_nlt (a := 100) (by omega) (by decide)) ?_
    refine ps_lay ok za ?_
    intro dp' fs' ms' yo' yc' ff' hA
    by_cases g : x1 < (ps_S s z (ps_rho s z n) (nI w) n).1 + 1
    · refine br_t g (nm_r (nI_1 w) ?_)
      refine ih (w + 1) (by omega) ?_ _ _ _ _ _ _ _ _
      intro dp'' yr'' yg'' fs'' ms'' yo'' yc'' ff''
      have K := H dp'' yr'' yg'' fs'' ms'' yo'' yc'' ff''
      rw [ps_lw, if_pos g] at K
      exact K
    · refine br_f g ?_
      have K := H dp' (ps_S s z (ps_rho s z n) (nI w) n).1 (ps_S s z (ps_rho s z n) (nI w) n).2.2.1 fs' ms' yo' yc' ff'
      rw [ps_lw, if_neg g] at K
      exact K
end
end
section
/-! the owed statements of the questions -/
theorem i_vc_row {k : Nat} {u : SX} {v : SY} (I : i_Rel k u v) (hk : k + 2 ≤ 1025) (v1 : Int32) : wpX_row (fun r u' => wpY_row (fun r' v' => r' = r ∧ i_Rel (k + 2) u' v') v v1) u v1 := by
  refine ps_el (P := fun u v => wpX_row (fun r u' => wpY_row (fun r' v' => r' = r ∧ i_Rel (k + 2) u' v') v v1) u v1) ?_ I
  intro n pw uc me lo lr gc s z re st sk wa ro co fl ma dp yr yg a fs ms yo yc ff ok hu za hm hl
  have h60 := ok.1
  have KY : (v1 < 0 ∨ ¬ v1 < nI n) → wpY_row (fun r' v' => r' = -1 ∧ i_Rel (k + 2) (pw, nI n, uc, me, lo, lr, gc, s, z, re, st, sk, wa, ro, co, fl, ma) v') (pw, nI n, dp, yr, yg, s, a, fs, ms, yo, yc, ff) v1 := by
    intro h
    unfold wpY_row
    dsimp only
    exact ps_Ymiss1 h (br_f (by decide) ⟨rfl, ps_mk ok hu za hm hl⟩)
  by_cases h0 : v1 < 0
  · exact br_t h0 (KY (Or.inl h0))
  · by_cases h1 : v1 < nI n
    · obtain ⟨p, hp, rfl⟩ := nI_of h0
      have hpn : p < n := (nI_ltI hp (by omega)).mp h1
      have hin : vp_in (nI p) 60 := vp_in_nI (by omega) (by omega)
      have hcl : (nI p).toNatClampNeg = p := nI_clamp hp
      refine br_f h0 (br_t h1 ?_)
      refine ps_prepare ok za hm hl ?_
      intro me' lo' lr' gc' re' st' sk' wa' ro' co' fl' ma' hm' hl'
      refine And.intro hin ?_
      unfold wpY_row
      dsimp only
      refine ps_Ymiss0 h0 h1 (br_t rfl ?_)
      refine ps_lay ok za ?_
      intro dp' fs' ms' yo' yc' ff' hA
      refine And.intro hin ⟨?_, ps_mk ok hu za hm' (fun _ => hl')⟩
      rw [hcl]
      exact (hA p hpn).1.trans (hl'.2.2 p hpn).1.symm
    · exact br_f h0 (br_f h1 (KY (Or.inr h1)))
theorem i_vc_column {k : Nat} {u : SX} {v : SY} (I : i_Rel k u v) (hk : k + 2 ≤ 1025) (v1 : Int32) : wpX_column (fun r u' => wpY_column (fun r' v' => r' = r ∧ i_Rel (k + 2) u' v') v v1) u v1 := by
  refine ps_el (P := fun u v => wpX_column (fun r u' => wpY_column (fun r' v' => r' = r ∧ i_Rel (k + 2) u' v') v v1) u v1) ?_ I
  intro n pw uc me lo lr gc s z re st sk wa ro co fl ma dp yr yg a fs ms yo yc ff ok hu za hm hl
  have h60 := ok.1
  have KY : (v1 < 0 ∨ ¬ v1 < nI n) → wpY_column (fun r' v' => r' = -1 ∧ i_Rel (k + 2) (pw, nI n, uc, me, lo, lr, gc, s, z, re, st, sk, wa, ro, co, fl, ma) v') (pw, nI n, dp, yr, yg, s, a, fs, ms, yo, yc, ff) v1 := by
    intro h
    unfold wpY_column
    dsimp only
    exact ps_Ymiss1 h (br_f (by decide) ⟨rfl, ps_mk ok hu za hm hl⟩)
  by_cases h0 : v1 < 0
  · exact br_t h0 (KY (Or.inl h0))
  · by_cases h1 : v1 < nI n
    · obtain ⟨p, hp, rfl⟩ := nI_of h0
      have hpn : p < n := (nI_ltI hp (by omega)).mp h1
      have hin : vp_in (nI p) 60 := vp_in_nI (by omega) (by omega)
      have hcl : (nI p).toNatClampNeg = p := nI_clamp hp
      refine br_f h0 (br_t h1 ?_)
      refine ps_prepare ok za hm hl ?_
      intro me' lo' lr' gc' re' st' sk' wa' ro' co' fl' ma' hm' hl'
      refine And.intro hin ?_
      unfold wpY_column
      dsimp only
      refine ps_Ymiss0 h0 h1 (br_t rfl ?_)
      refine ps_lay ok za ?_
      intro dp' fs' ms' yo' yc' ff' hA
      refine And.intro hin ⟨?_, ps_mk ok hu za hm' (fun _ => hl')⟩
      rw [hcl]
      exact (hA p hpn).2.1.trans (hl'.2.2 p hpn).2.1.symm
    · exact br_f h0 (br_f h1 (KY (Or.inr h1)))
theorem i_vc_flat {k : Nat} {u : SX} {v : SY} (I : i_Rel k u v) (hk : k + 2 ≤ 1025) (v1 : Int32) : wpX_flat (fun r u' => wpY_flat (fun r' v' => r' = r ∧ i_Rel (k + 2) u' v') v v1) u v1 := by
  refine ps_el (P := fun u v => wpX_flat (fun r u' => wpY_flat (fun r' v' => r' = r ∧ i_Rel (k + 2) u' v') v v1) u v1) ?_ I
  intro n pw uc me lo lr gc s z re st sk wa ro co fl ma dp yr yg a fs ms yo yc ff ok hu za hm hl
  have h60 := ok.1
  have KY : (v1 < 0 ∨ ¬ v1 < nI n) → wpY_flat (fun r' v' => r' = -1 ∧ i_Rel (k + 2) (pw, nI n, uc, me, lo, lr, gc, s, z, re, st, sk, wa, ro, co, fl, ma) v') (pw, nI n, dp, yr, yg, s, a, fs, ms, yo, yc, ff) v1 := by
    intro h
    unfold wpY_flat
    dsimp only
    exact ps_Ymiss1 h (br_f (by decide) ⟨rfl, ps_mk ok hu za hm hl⟩)
  by_cases h0 : v1 < 0
  · exact br_t h0 (KY (Or.inl h0))
  · by_cases h1 : v1 < nI n
    · obtain ⟨p, hp, rfl⟩ := nI_of h0
      have hpn : p < n := (nI_ltI hp (by omega)).mp h1
      have hin : vp_in (nI p) 60 := vp_in_nI (by omega) (by omega)
      have hcl : (nI p).toNatClampNeg = p := nI_clamp hp
      refine br_f h0 (br_f (nI_ge hpn (by omega)) (And.intro hin ?_))
      rw [hcl]
      by_cases e : s p = 2
      · refine br_t e ?_
        refine ps_prepare ok za hm hl ?_
        intro me' lo' lr' gc' re' st' sk' wa' ro' co' fl' ma' hm' hl'
        refine And.intro hin ?_
        have KF : ∀ r : Int32, (fl' p = 0 → r = 0) → (¬ fl' p = 0 → r = 1) → wpY_flat (fun r' v' => r' = r ∧ i_Rel (k + 2) (pw, nI n, uc, me', lo', lr', gc', s, z, re', st', sk', wa', ro', co', fl', ma') v') (pw, nI n, dp, yr, yg, s, a, fs, ms, yo, yc, ff) (nI p) := by
          intro r hr0 hr1
          unfold wpY_flat
          dsimp only
          refine ps_Ymiss0 h0 h1 (br_t rfl (And.intro hin ?_))
          rw [hcl]
          refine br_t e ?_
          refine ps_lay ok za ?_
          intro dp' fs' ms' yo' yc' ff' hA
          refine And.intro hin ?_
          have E : ff' p = fl' p := by rw [(hA p hpn).2.2 e, (hl'.2.2 p hpn).2.2 e]
          dsimp only
          rw [E]
          exact br_c (fun t => ⟨(hr0 t).symm, ps_mk ok hu za hm' (fun _ => hl')⟩) (fun t => ⟨(hr1 t).symm, ps_mk ok hu za hm' (fun _ => hl')⟩)
        exact br_c (fun t => KF 0 (fun _ => rfl) (fun t' => absurd t t')) (fun t => KF 1 (fun t' => absurd t' t) (fun _ => rfl))
      · refine br_f e ?_
        unfold wpY_flat
        dsimp only
        refine ps_Ymiss0 h0 h1 (br_t rfl (And.intro hin ?_))
        rw [hcl]
        exact br_f e ⟨rfl, ps_mk ok hu za hm hl⟩
    · have h1' : nI n ≤ v1 := Int32.not_lt.mp h1
      exact br_f h0 (br_t h1' (KY (Or.inr h1)))
theorem i_vc_rows {k : Nat} {u : SX} {v : SY} (I : i_Rel k u v) (hk : k + 2 ≤ 1025) : wpX_rows (fun r u' => wpY_rows (fun r' v' => r' = r ∧ i_Rel (k + 2) u' v') v) u := by
  refine ps_el (P := fun u v => wpX_rows (fun r u' => wpY_rows (fun r' v' => r' = r ∧ i_Rel (k + 2) u' v') v) u) ?_ I
  intro n pw uc me lo lr gc s z re st sk wa ro co fl ma dp yr yg a fs ms yo yc ff ok hu za hm hl
  unfold wpX_rows
  dsimp only
  refine ps_prepare ok za hm hl ?_
  intro me' lo' lr' gc' re' st' sk' wa' ro' co' fl' ma' hm' hl'
  unfold wpY_rows
  dsimp only
  refine ps_lay ok za ?_
  intro dp' fs' ms' yo' yc' ff' hA
  refine And.intro ?_ (ps_mk ok hu za hm' (fun _ => hl'))
  rw [hl'.1]
theorem i_vc_widest {k : Nat} {u : SX} {v : SY} (I : i_Rel k u v) (hk : k + 2 ≤ 1025) : wpX_widest (fun r u' => wpY_widest (fun r' v' => r' = r ∧ i_Rel (k + 2) u' v') v) u := by
  refine ps_el (P := fun u v => wpX_widest (fun r u' => wpY_widest (fun r' v' => r' = r ∧ i_Rel (k + 2) u' v') v) u) ?_ I
  intro n pw uc me lo lr gc s z re st sk wa ro co fl ma dp yr yg a fs ms yo yc ff ok hu za hm hl
  unfold wpX_widest
  dsimp only
  refine ps_prepare ok za hm hl ?_
  intro me' lo' lr' gc' re' st' sk' wa' ro' co' fl' ma' hm' hl'
  unfold wpY_widest
  dsimp only
  refine ps_lay ok za ?_
  intro dp' fs' ms' yo' yc' ff' hA
  refine And.intro ?_ (ps_mk ok hu za hm' (fun _ => hl'))
  exact hl'.2.1.symm
theorem i_vc_leastWidth {k : Nat} {u : SX} {v : SY} (I : i_Rel k u v) (hk : k + 2 ≤ 1025) (v1 : Int32) : wpX_leastWidth (fun r u' => wpY_leastWidth (fun r' v' => r' = r ∧ i_Rel (k + 2) u' v') v v1) u v1 := by
  refine ps_el (P := fun u v => wpX_leastWidth (fun r u' => wpY_leastWidth (fun r' v' => r' = r ∧ i_Rel (k + 2) u' v') v v1) u v1) ?_ I
  intro n pw uc me lo lr gc s z re st sk wa ro co fl ma dp yr yg a fs ms yo yc ff ok hu za hm hl
  unfold wpX_leastWidth
  dsimp only
  refine ps_measure ok hm ?_
  intro me' re' st' sk' wa' h' hms
  refine Exists.intro 101 ?_
  refine ps_Xlw ok za hms 100 1 (by omega) ?_ lr gc sk' ro co fl ma
  intro lr' gc' sk'' ro' co' fl' ma'
  refine Exists.intro 101 ?_
  refine ps_Ylw ok za 100 1 (by omega) ?_ dp yr yg fs ms yo yc ff
  intro dp' yr' yg' fs' ms' yo' yc' ff'
  exact ⟨rfl, ps_mk ok hu za (fun _ => hms) (fun h => absurd rfl h)⟩
end

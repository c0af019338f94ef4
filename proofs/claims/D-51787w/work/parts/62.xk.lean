set_option maxRecDepth 100000
/-! ===== a heap in an array (pure): keys, parents (j - 1) / 2 ===== -/
def Hp (key : Nat → Nat) (Q : Nat → Nat) (n : Nat) : Prop := ∀ j, 0 < j → j < n → key (Q ((j - 1) / 2)) ≤ key (Q j)
/-- two places change what they hold -/
def sw (Q : Nat → Nat) (a b : Nat) : Nat → Nat := fun j => if j = a then Q b else if j = b then Q a else Q j
theorem sw_a {Q : Nat → Nat} {a b : Nat} : sw Q a b a = Q b := if_pos rfl
theorem sw_b {Q : Nat → Nat} {a b : Nat} : sw Q a b b = Q a := by
  unfold sw
  by_cases h : b = a
  · rw [if_pos h, h]
  · rw [if_neg h, if_pos rfl]
theorem sw_o {Q : Nat → Nat} {a b j : Nat} (h1 : j ≠ a) (h2 : j ≠ b) : sw Q a b j = Q j := by
  unfold sw
  rw [if_neg h1, if_neg h2]
def Qi (Q : Nat → Nat) (n i : Nat) : Prop := ∃ j, j < n ∧ Q j = i
def Qj (Q : Nat → Nat) (n : Nat) : Prop := ∀ a b, a < n → b < n → Q a = Q b → a = b
theorem sw_Qi {Q : Nat → Nat} {n a b i : Nat} (ha : a < n) (hb : b < n) : Qi (sw Q a b) n i ↔ Qi Q n i := by
  constructor
  · rintro ⟨j, hj, e⟩
    by_cases h1 : j = a
    · subst h1; rw [sw_a] at e; exact ⟨b, hb, e⟩
    · by_cases h2 : j = b
      · subst h2; rw [sw_b] at e; exact ⟨a, ha, e⟩
      · rw [sw_o h1 h2] at e; exact ⟨j, hj, e⟩
  · rintro ⟨j, hj, e⟩
    by_cases h1 : j = a
    · subst h1; exact ⟨b, hb, sw_b.trans e⟩
    · by_cases h2 : j = b
      · subst h2; exact ⟨a, ha, sw_a.trans e⟩
      · exact ⟨j, hj, (sw_o h1 h2).trans e⟩
theorem sw_Qj {Q : Nat → Nat} {n a b : Nat} (ha : a < n) (hb : b < n) (h : Qj Q n) : Qj (sw Q a b) n := by
  intro x y hx hy e
  by_cases x1 : x = a
  · by_cases y1 : y = a
    · omega
    · by_cases y2 : y = b
      · rw [x1, y2, sw_a, sw_b] at e
        have := h b a hb ha e
        omega
      · rw [x1, sw_a, sw_o y1 y2] at e
        have := h b y hb hy e
        omega
  · by_cases x2 : x = b
    · by_cases y1 : y = a
      · rw [x2, y1, sw_a, sw_b] at e
        have := h a b ha hb e
        omega
      · by_cases y2 : y = b
        · omega
        · rw [x2, sw_b, sw_o y1 y2] at e
          have := h a y ha hy e
          omega
    · by_cases y1 : y = a
      · rw [sw_o x1 x2, y1, sw_a] at e
        have := h x b hx hb e
        omega
      · by_cases y2 : y = b
        · rw [sw_o x1 x2, y2, sw_b] at e
          have := h x a hx ha e
          omega
        · rw [sw_o x1 x2, sw_o y1 y2] at e
          exact h x y hx hy e
/-- going up: all is in order but for place k and its parent -/
def Up (key Q : Nat → Nat) (n k : Nat) : Prop := (∀ j, 0 < j → j < n → j ≠ k → key (Q ((j - 1) / 2)) ≤ key (Q j)) ∧ ∀ j, 0 < j → j < n → (j - 1) / 2 = k → 0 < k → key (Q ((k - 1) / 2)) ≤ key (Q j)
theorem up_start {key Q : Nat → Nat} {n x : Nat} (h : Hp key Q n) : Up key (llU Q n x) (n + 1) n := by
  refine ⟨fun j h0 hj hne => ?_, fun j h0 hj e hk => by omega⟩
  rw [llU_o (by omega), llU_o (by omega)]
  exact h j h0 (by omega)
theorem up_done {key Q : Nat → Nat} {n k : Nat} (h : Up key Q n k) (hd : k = 0 ∨ key (Q ((k - 1) / 2)) ≤ key (Q k)) : Hp key Q n := by
  intro j h0 hj
  by_cases e : j = k
  · subst e
    exact hd.elim (fun z => by omega) id
  · exact h.1 j h0 hj e
theorem up_step {key Q : Nat → Nat} {n k : Nat} (h : Up key Q n k) (h0 : 0 < k) (hk : k < n) (hlt : key (Q k) < key (Q ((k - 1) / 2))) : Up key (sw Q k ((k - 1) / 2)) n ((k - 1) / 2) := by
  have hp : (k - 1) / 2 < k := by omega
  refine ⟨fun j j0 hj hne => ?_, fun j j0 hj e hp0 => ?_⟩
  · by_cases e1 : j = k
    · subst e1
      rw [sw_a, sw_b]
      omega
    · rw [sw_o e1 hne]
      by_cases e2 : (j - 1) / 2 = k
      · rw [e2, sw_a]
        exact h.2 j j0 hj e2 h0
      · by_cases e3 : (j - 1) / 2 = (k - 1) / 2
        · rw [e3, sw_b]
          have := h.1 j j0 hj e1
          rw [e3] at this
          omega
        · rw [sw_o e2 e3]
          exact h.1 j j0 hj e1
  · have g := h.1 ((k - 1) / 2) hp0 (by omega) (by omega)
    rw [sw_o (j := ((k - 1) / 2 - 1) / 2) (by omega) (by omega)]
    by_cases e1 : j = k
    · subst e1
      rw [sw_a]
      exact g
    · rw [sw_o e1 (by omega)]
      have := h.1 j j0 hj e1
      rw [e] at this
      omega
/-- going down: all is in order but for place k and its children -/
def Dn (key Q : Nat → Nat) (n k : Nat) : Prop := (∀ j, 0 < j → j < n → (j - 1) / 2 ≠ k → key (Q ((j - 1) / 2)) ≤ key (Q j)) ∧ ∀ j, 0 < j → j < n → (j - 1) / 2 = k → 0 < k → key (Q ((k - 1) / 2)) ≤ key (Q j)
theorem dn_start {key Q : Nat → Nat} {n : Nat} (h : Hp key Q (n + 1)) : Dn key (llU Q 0 (Q n)) n 0 := by
  refine ⟨fun j h0 hj hne => ?_, fun j h0 hj e hk => by omega⟩
  rw [llU_o (by omega), llU_o (by omega)]
  exact h j h0 (by omega)
theorem dn_done {key Q : Nat → Nat} {n k : Nat} (h : Dn key Q n k) (hd : ∀ j, 0 < j → j < n → (j - 1) / 2 = k → key (Q k) ≤ key (Q j)) : Hp key Q n := by
  intro j h0 hj
  by_cases e : (j - 1) / 2 = k
  · rw [e]
    exact hd j h0 hj e
  · exact h.1 j h0 hj e
theorem dn_step {key Q : Nat → Nat} {n k c : Nat} (h : Dn key Q n k) (c0 : 0 < c) (hc : c < n) (ec : (c - 1) / 2 = k) (hmin : ∀ j, 0 < j → j < n → (j - 1) / 2 = k → key (Q c) ≤ key (Q j)) (hlt : key (Q c) < key (Q k)) : Dn key (sw Q k c) n c := by
  refine ⟨fun j j0 hj hne => ?_, fun j j0 hj e hp0 => ?_⟩
  · by_cases e1 : (j - 1) / 2 = k
    · rw [e1, sw_a]
      by_cases e2 : j = c
      · subst e2
        rw [sw_b]
        omega
      · rw [sw_o (by omega) e2]
        exact hmin j j0 hj e1
    · rw [sw_o (j := (j - 1) / 2) e1 hne]
      by_cases e2 : j = k
      · subst e2
        rw [sw_a]
        exact h.2 c c0 hc ec j0
      · rw [sw_o e2 (by omega)]
        exact h.1 j j0 hj e1
  · rw [ec, sw_a, sw_o (by omega) (by omega)]
    have := h.1 j j0 hj (by omega)
    rw [e] at this
    exact this
/-- the first is least -/
theorem hp_min {key Q : Nat → Nat} {n : Nat} (h : Hp key Q n) : ∀ j, j < n → key (Q 0) ≤ key (Q j) := by
  intro j
  induction j using Nat.strongRecOn with
  | _ j ih =>
    intro hj
    by_cases e : j = 0
    · subst e; exact Nat.le_refl _
    · exact Nat.le_trans (ih ((j - 1) / 2) (by omega) (by omega)) (h j (by omega) hj)

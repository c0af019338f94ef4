set_option maxRecDepth 100000
/-! ===== PURE: a tick in its three parts, what each leaves alone ===== -/
theorem m60_n {a : Nat} (h : a < 2 ^ 30) : m60 (nI a) = nI (a % 60) := by
  have h1 : a / 60 * 60 ≤ a := Nat.div_mul_le_self a 60
  unfold m60
  rw [show (60 : Int32) = nI 60 from rfl, pk_div (by omega) (by omega) (by omega), nI_mul, pk_sub h1]
  congr 1
  omega
theorem cm_lo {row : Nat → Int32} {nr nw nt t j : Nat} (hG : Gw row nr nw nt) (ht : t < nt) (hj : 25 ≤ j) (hj2 : j < 220) : cmF row nt t j = row j := by
  obtain ⟨g1, g2, g3, g4, g5, g6, g7, g8, g9, g10⟩ := hG.2.2.1.2.2.2 t ht
  have c3 : cm3 row t j = row j := cm3_out g9 g10 (by omega) (by omega) (by omega) (by omega)
  unfold cmF
  split
  · exact c3
  · split
    · unfold cmA
      rw [cn_out (by omega), pk_un (by omega), he_out (by omega), pk_un (by omega), c3]
    · unfold rpF
      split
      · unfold cmB
        rw [cn_out (by omega), cn_out (by omega), pk_un (by omega), c3]
      · rw [ntu_out g10 (by omega) (by omega) (by omega) (by omega)]
        unfold cmB
        rw [cn_out (by omega), cn_out (by omega), pk_un (by omega), c3]
theorem cm_Gn {row : Nat → Int32} {nr nw nt t n4 : Nat} (hG : Gw row nr nw nt) (ht : t < nt) (h2 : cmF row nt t 2 = nI n4) (h30 : n4 ≤ 30) : nt ≤ n4 ∧ Gw (cmF row nt t) nr nw n4 := by
  obtain ⟨n', a, b⟩ := cm_G hG ht
  have h1 := b.2.2.1.1
  have h3 := b.2.2.1.2.1
  have e : n' = n4 := (nI_eq (by omega) (by omega)).mp (h1.symm.trans h2)
  rw [← e]
  exact ⟨a, b⟩
theorem ar_s {row : Nat → Int32} {nr nw nt n1 i : Nat} (hG1 : Gw (arF row i) nr nw n1) : arF row (i + 1) = if arF row i (220 + 27 * i + 3) = 1 ∧ arF row i (220 + 27 * i + 5) = arF row i 3 then cmF (arF row i) n1 i else arF row i := by
  conv => lhs; unfold arF
  rw [ntn_G hG1]
theorem ar_lo {row : Nat → Int32} {nr nw nt : Nat} (hG : Gw row nr nw nt) : ∀ i, i ≤ nt → ∀ j, 25 ≤ j → j < 220 → arF row i j = row j := by
  intro i
  induction i with
  | zero => intro _ j _ _; rfl
  | succ i ih =>
    intro hi j h1 h2
    obtain ⟨n1, a, b, -⟩ := ar_G hG i (by omega)
    rw [ar_s (nt := nt) b]
    split
    · rw [cm_lo b (by omega) h1 h2]
      exact ih (by omega) j h1 h2
    · exact ih (by omega) j h1 h2
theorem ar_mono {row : Nat → Int32} {nr nw nt : Nat} (hG : Gw row nr nw nt) : ∀ k i, i + k ≤ nt → ntn (arF row i) ≤ ntn (arF row (i + k)) := by
  intro k
  induction k with
  | zero => intro i _; exact Nat.le_refl _
  | succ k ih =>
    intro i hi
    refine Nat.le_trans (ih i (by omega)) ?_
    obtain ⟨n1, a, b, -⟩ := ar_G hG (i + k) (by omega)
    rw [← Nat.add_assoc, ar_s (nt := nt) b, ntn_G b]
    split
    · obtain ⟨n2, c, d⟩ := cm_G (t := i + k) b (by omega)
      rw [ntn_G d]
      exact c
    · rw [ntn_G b]
      exact Nat.le_refl _
theorem wsR_case {row : Nat → Int32} {nr nw nt k : Nat} (hG : Gw row nr nw nt) (hk : k < nr) : wsR row nw k nt = row ∨ ∃ t u, t < nt ∧ ts row t < 10 ∧ row (220 + 27 * t + 3) = 0 ∧ wsR row nw k nt = ws row nw t k u := by
  have h10 := hG.2.1.2.2.1
  unfold wsR
  split
  · exact Or.inl rfl
  · cases hf : fas row nw k nt with
    | none => exact Or.inl rfl
    | some t =>
      obtain ⟨ht, hw, u, hu⟩ := fas_ok (nr := nr) _ _ hf
      have := (hG.2.2.1.2.2.2 t ht).2.2.2.2.1
      exact Or.inr ⟨t, _, ht, by omega, hw.1, rfl⟩
theorem wsR_w {row : Nat → Int32} {nr nw nt k j : Nat} (hG : Gw row nr nw nt) (hk : k < nr) (h1 : 160 ≤ j) (h2 : j < 220) : wsR row nw k nt j = row j := by
  have h10 := hG.2.1.2.2.1
  rcases wsR_case (nw := nw) hG hk with e | ⟨t, u, -, hs, -, e⟩
  · rw [e]
  · rw [e, ws_w (by omega) hs h1 h2]
theorem wsR_lo {row : Nat → Int32} {nr nw nt k j : Nat} (hG : Gw row nr nw nt) (hk : k < nr) (h2 : j < 10) : wsR row nw k nt j = row j := by
  rcases wsR_case (nw := nw) hG hk with e | ⟨t, u, -, hs, -, e⟩
  · rw [e]
  · rw [e, ws_lo h2]
theorem wsR_e {row : Nat → Int32} {nr nw nt k t d : Nat} (hG : Gw row nr nw nt) (hk : k < nr) (hd : d = 2 ∨ (11 ≤ d ∧ d < 27)) : wsR row nw k nt (220 + 27 * t + d) = row (220 + 27 * t + d) := by
  have h10 := hG.2.1.2.2.1
  rcases wsR_case (nw := nw) hG hk with e | ⟨t', u, -, hs, -, e⟩
  · rw [e]
  · rw [e]
    by_cases q : t = t'
    · subst q
      exact ws_te (by omega) hs hd
    · exact ws_tj (by omega) hs q (by omega)
theorem wsR_0 {row : Nat → Int32} {nr nw nt k t : Nat} (hG : Gw row nr nw nt) (hk : k < nr) (h : wsR row nw k nt (220 + 27 * t + 3) = 0) : row (220 + 27 * t + 3) = 0 := by
  have h10 := hG.2.1.2.2.1
  rcases wsR_case (nw := nw) hG hk with e | ⟨t', u, -, hs, h0, e⟩
  · rw [e] at h
    exact h
  · by_cases q : t = t'
    · rw [q]
      exact h0
    · rw [e, ws_tj (by omega) hs q (by omega)] at h
      exact h
theorem naw {row : Nat → Int32} {nw nt k : Nat} (h : ¬ aw row k nt) : wsR row nw k nt = row := by
  unfold wsR
  by_cases c : row 3 < row (25 + 13 * k + 11)
  · rw [if_pos c]
  · rw [if_neg c]
    cases hf : fas row nw k nt with
    | none => rfl
    | some t => exact absurd ⟨c, t, (fas_ok (nr := 0) _ _ hf).1, (fas_ok (nr := 0) _ _ hf).2.1, fas_rch _ _ hf⟩ h
theorem aw_0 {row : Nat → Int32} {nt k : Nat} (h : aw row k nt) : ∃ t, t < nt ∧ row (220 + 27 * t + 3) = 0 := by
  obtain ⟨-, t, h1, h2, -⟩ := h
  exact ⟨t, h1, h2.1⟩
theorem rf_s {row : Nat → Int32} {nr nw nt i : Nat} (hG : Gw (rfF row nw i) nr nw nt) : rfF row nw (i + 1) = wsR (rfF row nw i) nw i nt := by
  rw [rf_step, ntn_G hG]
section RFs
theorem rf_w {row : Nat → Int32} {nr nw nt tm : Nat} (hG : Gw row nr nw nt) (htm : row 3 = nI tm) (ht30 : tm < 2 ^ 30) : ∀ i, i ≤ nr → ∀ j, 160 ≤ j → j < 220 → rfF row nw i j = row j := by
  intro i
  induction i with
  | zero => intro _ j _ _; rfl
  | succ i ih =>
    intro hi j h1 h2
    have g := (rf_G hG htm ht30 i (by omega)).1
    rw [rf_s g, wsR_w g (by omega) h1 h2]
    exact ih (by omega) j h1 h2
theorem rf_lo {row : Nat → Int32} {nr nw nt tm : Nat} (hG : Gw row nr nw nt) (htm : row 3 = nI tm) (ht30 : tm < 2 ^ 30) : ∀ i, i ≤ nr → ∀ j, j < 10 → rfF row nw i j = row j := by
  intro i
  induction i with
  | zero => intro _ j _; rfl
  | succ i ih =>
    intro hi j h1
    have g := (rf_G hG htm ht30 i (by omega)).1
    rw [rf_s g, wsR_lo g (by omega) h1]
    exact ih (by omega) j h1
theorem rf_e {row : Nat → Int32} {nr nw nt tm : Nat} (hG : Gw row nr nw nt) (htm : row 3 = nI tm) (ht30 : tm < 2 ^ 30) : ∀ i, i ≤ nr → ∀ t d, (d = 2 ∨ (11 ≤ d ∧ d < 27)) → rfF row nw i (220 + 27 * t + d) = row (220 + 27 * t + d) := by
  intro i
  induction i with
  | zero => intro _ t d _; rfl
  | succ i ih =>
    intro hi t d h1
    have g := (rf_G hG htm ht30 i (by omega)).1
    rw [rf_s g, wsR_e g (by omega) h1]
    exact ih (by omega) t d h1
theorem rf_was {row : Nat → Int32} {nr nw nt tm : Nat} (hG : Gw row nr nw nt) (htm : row 3 = nI tm) (ht30 : tm < 2 ^ 30) : ∀ i, i ≤ nr → ∀ t, rfF row nw i (220 + 27 * t + 3) = 0 → row (220 + 27 * t + 3) = 0 := by
  intro i
  induction i with
  | zero => intro _ t h; exact h
  | succ i ih =>
    intro hi t h
    have g := (rf_G hG htm ht30 i (by omega)).1
    rw [rf_s g] at h
    exact ih (by omega) t (wsR_0 g (by omega) h)
end RFs
theorem lo_kp {r : Nat → Int32} {nw : Nat} : ∀ i j, j ≠ 18 → (∀ t, t < i → j ≠ 220 + 27 * t + 3) → loF r nw i j = r j := by
  intro i
  induction i with
  | zero => intro j _ _; rfl
  | succ i ih =>
    intro j h1 h2
    unfold loF
    split
    · rw [lo_1 h1 (h2 i (Nat.lt_succ_self i))]
      exact ih j h1 fun t ht => h2 t (by omega)
    · exact ih j h1 fun t ht => h2 t (by omega)
theorem lo_was {r : Nat → Int32} {nw : Nat} : ∀ i t, loF r nw i (220 + 27 * t + 3) = 0 → r (220 + 27 * t + 3) = 0 := by
  intro i
  induction i with
  | zero => intro t h; exact h
  | succ i ih =>
    intro t h
    unfold loF at h
    split at h
    · by_cases e : t = i
      · subst e
        rw [cn_out (by omega), pk_us] at h
        exact absurd h (by decide)
      · rw [lo_1 (by omega) (by omega)] at h
        exact ih t h
    · exact ih t h
/-- a tick asks for routes: when all that lands has landed, a tune waits -/
def tka (row : Nat → Int32) (nt : Nat) : Prop := ∃ t, t < ntn (arF (tk1 row) nt) ∧ arF (tk1 row) nt (220 + 27 * t + 3) = 0
/-- what is whistled in a tick -/
noncomputable def rwF (r1 : Nat → Int32) (nr nw : Nat) : Nat → Int32 := if m60 (r1 3) < r1 5 then rfF r1 nw nr else r1
theorem tk_e {row : Nat → Int32} {nr nw nt : Nat} (hG : Gw row nr nw nt) : tkF row nr nw = loF (rwF (arF (tk1 row) nt) nr nw) nw (ntn (rwF (arF (tk1 row) nt) nr nw)) := by
  unfold tkF rwF
  rw [ntn_G hG]
theorem rw_2 {r1 : Nat → Int32} {nr nw nt tm : Nat} (hG : Gw r1 nr nw nt) (htm : r1 3 = nI tm) (ht30 : tm < 2 ^ 30) {j : Nat} (hj : j < 10) : rwF r1 nr nw j = r1 j := by
  unfold rwF
  split
  · exact rf_lo hG htm ht30 nr (Nat.le_refl _) j hj
  · rfl
theorem tk_n {row : Nat → Int32} {nr nw nt tm : Nat} (hG : Gw row nr nw nt) (htm : row 3 = nI tm) (ht30 : tm + 1 < 2 ^ 30) : ntn (tkF row nr nw) = ntn (arF (tk1 row) nt) := by
  obtain ⟨n1, -, b, h3⟩ := ar_G (tk1_G hG) nt (Nat.le_refl _)
  have e3 : arF (tk1 row) nt 3 = nI (tm + 1) := (h3 3 (by omega) (by omega)).trans (tk1_3 htm)
  rw [tk_e hG]
  unfold ntn
  rw [lo_kp _ 2 (by omega) (fun t _ => by omega), rw_2 b e3 ht30 (by omega)]
theorem tk1_ac {row : Nat → Int32} {j : Nat} (hj : j < 11) : upd (fun j => row (10 + j)) 0 (row (10 + 0) + 1) j = tk1 row (10 + j) := by
  unfold tk1 cn
  by_cases e : j = 0
  · subst e
    rw [pk_us, pk_us, pk_un (by omega)]
  · rw [pk_un e, pk_un (by omega), pk_un (by omega)]
theorem lo_ac {L : Nat → Int32} {j i : Nat} (hi : i < 11) : upd (fun i => L (10 + i)) 8 (L (10 + 8) + 1) i = cn (upd L (220 + 27 * j + 3) 3) 8 1 (10 + i) := by
  unfold cn
  by_cases e : i = 8
  · subst e
    rw [pk_us, pk_us, pk_un (by omega)]
  · rw [pk_un e, pk_un (by omega), pk_un (by omega)]
theorem lo_t {tu sn hd : Nat → Nat} {L : Nat → Int32} {j : Nat} : tuN tu sn hd (cn (upd L (220 + 27 * j + 3) 3) 8 1) j = (tu j, .inl (7, [.int (nI j), .int (L (220 + 27 * j)), .int (L (220 + 27 * j + 1)), .ref (sn j), .ref (hd j), .int (L (220 + 27 * j + 6)), .int (L (220 + 27 * j + 7)), .int (L (220 + 27 * j + 4)), .int 3, .int (L (220 + 27 * j + 5)), .int (L (220 + 27 * j + 10)), .int (L (220 + 27 * j + 8)), .int (L (220 + 27 * j + 9))])) := by
  have e3 : cn (upd L (220 + 27 * j + 3) 3) 8 1 (220 + 27 * j + 3) = 3 := by rw [cn_out (by omega), pk_us]
  unfold tuN
  rw [e3, lo_1 (j := 220 + 27 * j) (by omega) (by omega), lo_1 (j := 220 + 27 * j + 1) (by omega) (by omega), lo_1 (j := 220 + 27 * j + 4) (by omega) (by omega), lo_1 (j := 220 + 27 * j + 5) (by omega) (by omega), lo_1 (j := 220 + 27 * j + 6) (by omega) (by omega), lo_1 (j := 220 + 27 * j + 7) (by omega) (by omega), lo_1 (j := 220 + 27 * j + 8) (by omega) (by omega), lo_1 (j := 220 + 27 * j + 9) (by omega) (by omega), lo_1 (j := 220 + 27 * j + 10) (by omega) (by omega)]
theorem lo_y {r : Nat → Int32} {nw j : Nat} (h : loF r nw j (220 + 27 * j + 3) = 0 ∧ dist (loF r nw j) nw (-1) (tg (loF r nw j) j) (ta (loF r nw j) j) = none) : loF r nw (j + 1) = cn (upd (loF r nw j) (220 + 27 * j + 3) 3) 8 1 := by
  conv => lhs; unfold loF
  rw [if_pos h]
theorem lo_n {r : Nat → Int32} {nw j : Nat} (h : ¬ (loF r nw j (220 + 27 * j + 3) = 0 ∧ dist (loF r nw j) nw (-1) (tg (loF r nw j) j) (ta (loF r nw j) j) = none)) : loF r nw (j + 1) = loF r nw j := by
  conv => lhs; unfold loF
  rw [if_neg h]

set_option maxRecDepth 100000
def m8 (x : Int32) : Int32 := x - x / 8 * 8
abbrev ntn (row : Nat → Int32) : Nat := (row 2).toNatClampNeg
/-- the notes that are heard otherwise -/
def bl (row : Nat → Int32) (t no : Nat) : Nat → (Nat → Int32)
  | 0 => row
  | i + 1 => upd (bl row t no i) (220 + 27 * t + 19 + (t + i) % no) (m8 (bl row t no i (220 + 27 * t + 19 + (t + i) % no) + 1))
theorem bl_out {row : Nat → Int32} {t no j : Nat} (h1 : 1 ≤ no) (h8 : no ≤ 8) (h : j < 220 + 27 * t + 19 ∨ 220 + 27 * t + 19 + 8 ≤ j) : ∀ i, bl row t no i j = row j := by
  intro i
  induction i with
  | zero => rfl
  | succ i ih =>
    have := Nat.mod_lt (t + i) (show 0 < no by omega)
    unfold bl
    rw [pk_un (by omega), ih]
def wnI (row : Nat → Int32) (t : Nat) : Int32 := wb (row 4) (row (220 + 27 * t + 10)) (row (25 + 13 * ta row t + 8)) (nI (tno row t))
def wn (row : Nat → Int32) (t : Nat) : Nat := (wnI row t).toNatClampNeg
theorem mn_nI2 {a b : Nat} (ha : a < 2 ^ 31) (hb : b < 2 ^ 31) : mn (nI a) (nI b) = nI (min a b) := by
  unfold mn
  by_cases h : b < a
  · rw [if_pos ((nI_ltI hb ha).mpr h), Nat.min_eq_right (Nat.le_of_lt h)]
  · rw [if_neg (fun q => h ((nI_ltI hb ha).mp q)), Nat.min_eq_left (Nat.le_of_not_lt h)]
theorem mx_nI (z : Int32) : ∃ j, j < 2 ^ 31 ∧ mx 0 z = nI j := by
  unfold mx
  by_cases h : (0 : Int32) < z
  · rw [if_pos h]
    exact nI_of (fun q => absurd (Int32.lt_trans h q) (Int32.lt_irrefl))
  · rw [if_neg h]
    exact ⟨0, by omega, rfl⟩
theorem wb_nI (wi fa e2 : Int32) {no : Nat} (h : no < 2 ^ 31) : ∃ j, j ≤ no ∧ wb wi fa e2 (nI no) = nI j := by
  unfold wb
  obtain ⟨j, hj, e⟩ := mx_nI (wi * fa - 3 * e2)
  have e10 : nI j / 10 = nI (j / 10) := pk_div (d := 10) hj (by omega) (by omega)
  rw [e, e10, mn_nI2 h (by omega)]
  exact ⟨_, Nat.min_le_left _ _, rfl⟩
theorem wn_ok {row : Nat → Int32} {t : Nat} (h : tno row t ≤ 8) : wnI row t = nI (wn row t) ∧ wn row t ≤ tno row t := by
  obtain ⟨j, hj, e⟩ := wb_nI (row 4) (row (220 + 27 * t + 10)) (row (25 + 13 * ta row t + 8)) (no := tno row t) (by omega)
  have e1 : wnI row t = nI j := e
  have e2 : wn row t = j := by
    unfold wn
    rw [e1, nI_clamp (by omega)]
  rw [e2]
  exact ⟨e1, hj⟩
def blF (row : Nat → Int32) (t : Nat) : Nat → Int32 := cn (bl row t (tno row t) (wn row t)) 4 (nI (wn row t))
theorem blF_out {row : Nat → Int32} {t j : Nat} (h1 : 1 ≤ tno row t) (h8 : tno row t ≤ 8) (h : j < 220 + 27 * t + 19 ∨ 220 + 27 * t + 19 + 8 ≤ j) (h14 : j ≠ 14) : blF row t j = row j := by
  unfold blF
  rw [cn_out (by omega), bl_out h1 h8 h]
/-- how many notes are heard otherwise than sent -/
def ulk (row : Nat → Int32) (t no : Nat) : Int32 := sm (fun i => if ¬ row (220 + 27 * t + 11 + i) = row (220 + 27 * t + 19 + i) then 1 else 0) no
theorem sm_c {f f' : Nat → Int32} : ∀ n, (∀ i, i < n → f i = f' i) → sm f n = sm f' n := by
  intro n
  induction n with
  | zero => intro _; rfl
  | succ n ih =>
    intro h
    show sm f n + f n = sm f' n + f' n
    rw [ih (fun i hi => h i (by omega)), h n (Nat.lt_succ_self _)]
theorem ulk_c {r r' : Nat → Int32} {t no : Nat} (h8 : no ≤ 8) (h : ∀ j, 220 + 27 * t + 11 ≤ j → j < 220 + 27 * t + 27 → r j = r' j) : ulk r t no = ulk r' t no := by
  unfold ulk
  refine sm_c no fun i hi => ?_
  rw [h _ (by omega) (by omega), h (220 + 27 * t + 19 + i) (by omega) (by omega)]
/-- it lands -/
def cm3 (row : Nat → Int32) (t : Nat) : Nat → Int32 := upd (upd (blF row t) (220 + 27 * t + 5) (-1)) (220 + 27 * t + 3) 0
def cmA (row : Nat → Int32) (t : Nat) : Nat → Int32 := cn (upd (he (upd (cm3 row t) (220 + 27 * t + 8) (row (220 + 27 * t + 8) + 1)) t) (220 + 27 * t + 4) (row (220 + 27 * t))) 7 1
def cmB (row : Nat → Int32) (t : Nat) (u : Int32) : Nat → Int32 := cn (cn (upd (cm3 row t) (220 + 27 * t + 3) 2) 5 1) 6 (if u = 0 then 1 else 0)
def rpF (r : Nat → Int32) (t nt no : Nat) : Nat → Int32 := if r (220 + 27 * t + 7) = 0 ∨ 0 < ulk r t no ∨ nt = 30 then r else ntu r nt no (fun j => r (220 + 27 * t + 11 + no - 1 - j)) (r (220 + 27 * t + 1)) (r (220 + 27 * t)) 1 0
def cmF (row : Nat → Int32) (nt t : Nat) : Nat → Int32 := if ¬ row (220 + 27 * t + 4) = row (220 + 27 * t + 1) then cm3 row t else if 0 < ulk (blF row t) t (tno row t) ∧ row (220 + 27 * t + 8) < row 6 then cmA row t else rpF (cmB row t (ulk (blF row t) t (tno row t))) t nt (tno row t)
theorem ub_c {f v v' : Nat → Int32} {o n : Nat} (h : ∀ i, i < n → v i = v' i) : ub f o n v = ub f o n v' := by
  funext k
  unfold ub
  by_cases q : o ≤ k ∧ k < o + n
  · rw [if_pos q, if_pos q, h _ (by omega)]
  · rw [if_neg q, if_neg q]
theorem ntu_su {row : Nat → Int32} {nt mny : Nat} {su su' : Nat → Int32} {se go re wa : Int32} (h : ∀ i, i < mny → su i = su' i) : ntu row nt mny su se go re wa = ntu row nt mny su' se go re wa := by
  unfold ntu
  rw [ub_c h]
/-- what holds stays, where nothing of it is written -/
def Kp (j : Nat) : Prop := j ≤ 2 ∨ (25 ≤ j ∧ j < 155 ∧ ((j - 25) % 13 = 0 ∨ (j - 25) % 13 = 7 ∨ (j - 25) % 13 = 8)) ∨ (160 ≤ j ∧ j < 220) ∨ (220 ≤ j ∧ (j - 220) % 27 ≤ 2)
theorem Gw_keep {row row' : Nat → Int32} {nr nw nt : Nat} (hG : Gw row nr nw nt) (hk : ∀ j, Kp j → row' j = row j) (ht : ∀ t, t < nt → (row' (220 + 27 * t + 4) = nI (ta row' t) ∧ ta row' t < nr) ∧ Sw row' t) : Gw row' nr nw nt := by
  obtain ⟨h0, hw, hT, hR, hS⟩ := hG
  have h10 := hw.2.2.1
  have h20 := hw.2.1
  refine ⟨(hk 0 (Or.inl (by omega))).trans h0, ⟨(hk 1 (Or.inl (by omega))).trans hw.1, hw.2.1, hw.2.2.1, ?_⟩, ⟨(hk 2 (Or.inl (by omega))).trans hT.1, hT.2.1, hT.2.2.1, ?_⟩, ?_, fun t h => (ht t h).2⟩
  · intro i hi
    have := hw.2.2.2 i hi
    unfold ea eb ef
    rw [hk (160 + 3 * i) (by unfold Kp; omega), hk (160 + 3 * i + 1) (by unfold Kp; omega), hk (160 + 3 * i + 2) (by unfold Kp; omega)]
    exact this
  · intro t hlt
    obtain ⟨g1, g2, g3, g4, g5, g6, g7, g8, g9⟩ := hT.2.2.2 t hlt
    have e0 := hk (220 + 27 * t) (by unfold Kp; omega)
    have e1 := hk (220 + 27 * t + 1) (by unfold Kp; omega)
    have e2 := hk (220 + 27 * t + 2) (by unfold Kp; omega)
    have s0 : ts row' t = ts row t := by unfold ts; rw [e0]
    have s1 : tg row' t = tg row t := by unfold tg; rw [e1]
    have s2 : tno row' t = tno row t := by unfold tno; rw [e2]
    rw [s0, s1, s2, e0, e1, e2]
    exact ⟨g1, g2, g3, (ht t hlt).1.1, g5, g6, (ht t hlt).1.2, g8, g9⟩
  · intro k hlt
    have := hR k hlt
    unfold nl at this ⊢
    rw [hk (25 + 13 * k) (by unfold Kp; omega), hk (25 + 13 * k + 7) (by unfold Kp; omega), hk (25 + 13 * k + 8) (by unfold Kp; omega)]
    exact this
theorem Gw_tn {row : Nat → Int32} {nr nw nt : Nat} (hG : Gw row nr nw nt) {row' : Nat → Int32} {t : Nat} (h : t < nt) (e1 : row' (220 + 27 * t + 1) = row (220 + 27 * t + 1)) (e3 : row' (220 + 27 * t + 3) = row (220 + 27 * t + 3)) (e4 : row' (220 + 27 * t + 4) = row (220 + 27 * t + 4)) (e5 : row' (220 + 27 * t + 5) = row (220 + 27 * t + 5)) : (row' (220 + 27 * t + 4) = nI (ta row' t) ∧ ta row' t < nr) ∧ Sw row' t := by
  have g := hG.2.2.1.2.2.2 t h
  have hs := hG.2.2.2.2 t h
  have s4 : ta row' t = ta row t := by unfold ta; rw [e4]
  have s1 : tg row' t = tg row t := by unfold tg; rw [e1]
  unfold Sw at hs ⊢
  rw [s4, s1, e4, e3, e5]
  exact ⟨⟨g.2.2.2.1, g.2.2.2.2.2.2.1⟩, hs⟩
theorem Gw_st {row : Nat → Int32} {nr nw nt : Nat} (hG : Gw row nr nw nt) {row' : Nat → Int32} {t a st : Nat} (h : t < nt) (e1 : row' (220 + 27 * t + 1) = row (220 + 27 * t + 1)) (e4 : row' (220 + 27 * t + 4) = nI a) (ha : a < nr) (e3 : row' (220 + 27 * t + 3) = nI st) (h3 : st ≤ 3) (h2 : st = 2 → a = tg row t) (h0 : st = 0 → a ≠ tg row t) (h5 : st = 1 ↔ ¬ row' (220 + 27 * t + 5) = -1) : (row' (220 + 27 * t + 4) = nI (ta row' t) ∧ ta row' t < nr) ∧ Sw row' t := by
  have h10 := hG.2.1.2.2.1
  have s4 : ta row' t = a := by unfold ta; rw [e4, nI_clamp (by omega)]
  have s1 : tg row' t = tg row t := by unfold tg; rw [e1]
  rw [s4]
  refine ⟨⟨e4, ha⟩, st, e3, h3, ?_, ?_, h5⟩
  · rw [s4, s1]; exact h2
  · rw [s4, s1]; exact h0

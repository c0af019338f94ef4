set_option maxRecDepth 100000
/-! ===== PURE: what deeds do; what holds at all times ===== -/
def Ds (nr : Nat) (D : Nat → Int32) (i : Nat) : Prop := ∃ a c k, a < nr ∧ c < nr ∧ a ≠ c ∧ D (12 * i + 1) = nI a ∧ D (12 * i + 2) = nI c ∧ D (12 * i + 3) = nI k ∧ 1 ≤ k ∧ k ≤ 8 ∧ ∀ j, j < k → ∃ v, v < 8 ∧ D (12 * i + 4 + j) = nI v
/-- a deed as it was read -/
def Dv (nr : Nat) (D : Nat → Int32) (i : Nat) : Prop :=
  (D (12 * i) = 0 ∧ Ds nr D i) ∨ (D (12 * i) = 1 ∧ Ds nr D i) ∨ (D (12 * i) = 2 ∧ ∃ t, 1 ≤ t ∧ t ≤ 200 ∧ D (12 * i + 1) = nI t) ∨
  (D (12 * i) = 3 ∧ ∃ a co, a < nr ∧ 1 ≤ co ∧ co ≤ 99 ∧ D (12 * i + 1) = nI a ∧ D (12 * i + 2) = nI co) ∨
  (D (12 * i) = 4 ∧ ∃ a c, a < nr ∧ c < nr ∧ a ≠ c ∧ D (12 * i + 1) = nI a ∧ D (12 * i + 2) = nI c) ∨
  (D (12 * i) = 5 ∧ ∃ u v, 4 ≤ u ∧ u ≤ 6 ∧ D (12 * i + 1) = nI u ∧ D (12 * i + 2) = nI v ∧ low (nI u) ≤ nI v ∧ nI v ≤ hig (nI u) ∧ v ≤ 60)
/-- whether it can be done; what is then -/
def duV (row D : Nat → Int32) (i : Nat) : Int32 :=
  if D (12 * i) = 0 ∨ D (12 * i) = 1 then (if tn (row 2) < 30 then 1 else 0)
  else if D (12 * i) = 2 then (if tn (row 3) + tn (D (12 * i + 1)) ≤ 9999 then 1 else 0)
  else if D (12 * i) = 3 then (if row (25 + 13 * tn (D (12 * i + 1)) + 10) + D (12 * i + 2) ≤ 9999 then 1 else 0)
  else if D (12 * i) = 4 then (if ¬ wyI row (tn (row 1)) (D (12 * i + 1)) (D (12 * i + 2)) = -1 then 1 else 0)
  else 1
noncomputable def duR (row : Nat → Int32) (nr : Nat) (D : Nat → Int32) (i : Nat) : Nat → Int32 :=
  if D (12 * i) = 0 ∨ D (12 * i) = 1 then ntu row (tn (row 2)) (tn (D (12 * i + 3))) (fun j => D (12 * i + 4 + j)) (D (12 * i + 1)) (D (12 * i + 2)) 0 (if D (12 * i) = 1 then 1 else 0)
  else if D (12 * i) = 2 then goF row nr (tn (row 1)) (tn (D (12 * i + 1)))
  else if D (12 * i) = 3 then gcF row (tn (D (12 * i + 1))) (D (12 * i + 2))
  else if D (12 * i) = 4 then cuF row (tn (row 1)) (wyI row (tn (row 1)) (D (12 * i + 1)) (D (12 * i + 2))).toNatClampNeg
  else upd row (tn (D (12 * i + 1))) (D (12 * i + 2))
noncomputable def duN (row : Nat → Int32) (nr : Nat) (D : Nat → Int32) (i : Nat) : Nat → Int32 := if duV row D i = 0 then row else duR row nr D i
/-- sums of naturals -/
def sN (f : Nat → Nat) : Nat → Nat
  | 0 => 0
  | n + 1 => sN f n + f n
theorem sN_le {f : Nat → Nat} {k : Nat} : ∀ n, k < n → f k ≤ sN f n := by
  intro n
  induction n with
  | zero => intro h; omega
  | succ n ih =>
    intro h
    unfold sN
    by_cases e : k = n
    · subst e; omega
    · have := ih (by omega); omega
/-- purses are naturals, their sum is not more than N -/
def Pn (row : Nat → Int32) (nr N : Nat) : Prop := (∀ k, k < nr → row (25 + 13 * k + 10) = nI (tn (row (25 + 13 * k + 10)))) ∧ sN (fun k => tn (row (25 + 13 * k + 10))) nr ≤ N
/-- settings -/
def Sg (row : Nat → Int32) : Prop := (row 4 = nI (tn (row 4)) ∧ tn (row 4) ≤ 9) ∧ (row 5 = nI (tn (row 5)) ∧ 1 ≤ tn (row 5) ∧ tn (row 5) ≤ 60) ∧ row 6 = nI (tn (row 6)) ∧ tn (row 6) ≤ 3
/-- a roof's fee, the letters of its name -/
def Rf (row : Nat → Int32) (nr : Nat) : Prop := ∀ k, k < nr → (row (25 + 13 * k + 9) = nI (tn (row (25 + 13 * k + 9))) ∧ tn (row (25 + 13 * k + 9)) ≤ 9) ∧ ∀ j, j < nl row k → row (25 + 13 * k + 1 + j) = nI (tn (row (25 + 13 * k + 1 + j))) ∧ 97 ≤ tn (row (25 + 13 * k + 1 + j)) ∧ tn (row (25 + 13 * k + 1 + j)) ≤ 122
/-- a tune's flags and notes -/
def Nt (row : Nat → Int32) (t : Nat) : Prop := (row (220 + 27 * t + 6) = 0 ∨ row (220 + 27 * t + 6) = 1) ∧ (row (220 + 27 * t + 7) = 0 ∨ row (220 + 27 * t + 7) = 1) ∧ ∀ j, j < tno row t → (row (220 + 27 * t + 11 + j) = nI (tn (row (220 + 27 * t + 11 + j))) ∧ tn (row (220 + 27 * t + 11 + j)) < 8) ∧ row (220 + 27 * t + 19 + j) = nI (tn (row (220 + 27 * t + 19 + j))) ∧ tn (row (220 + 27 * t + 19 + j)) < 8
/-- no two ways have the same ends -/
def Wu (row : Nat → Int32) (nw : Nat) : Prop := ∀ i j, i < nw → j < nw → (ea row i = ea row j ∧ eb row i = eb row j ∨ ea row i = eb row j ∧ eb row i = ea row j) → i = j
/-- what holds at all times; N is more than all purses together -/
def Iv (row : Nat → Int32) (nr nw nt N : Nat) : Prop := Gw row nr nw nt ∧ Pn row nr N ∧ Sg row ∧ Rf row nr ∧ (∀ t, t < nt → Nt row t) ∧ Wu row nw
/-- the reading of a script -/
noncomputable def plF (row : Nat → Int32) (nr : Nat) (b : Nat → Int32) (bn : Nat) (s : T3) : T3 := rdT row nr b bn (tn (s.1 23)) s.1 s.2.1 s.2.2
def pl0 (b : Nat → Int32) (bn : Nat) (x sp D : Nat → Int32) : T3 := (bgX b bn (upd (upd x 6 0) 23 0), sp, D)
noncomputable def plS (row : Nat → Int32) (nr : Nat) (b : Nat → Int32) (bn : Nat) (x sp D : Nat → Int32) : T3 := LD (plF row nr b bn) goesC (pl0 b bn x sp D)
theorem pl_dec {row : Nat → Int32} {nr : Nat} {b : Nat → Int32} {bn n dm : Nat} {X S D : Nat → Int32} (hX : Xi bn X) (h : X 20 = 0) (hm : (if X 20 = 0 then bn + 1 - tn (X 17) else 0) < n + 1) : (if (rdT row nr b bn dm X S D).1 20 = 0 then bn + 1 - tn ((rdT row nr b bn dm X S D).1 17) else 0) < n := by
  rw [if_pos h] at hm
  have h5 := hX.2.2.2.2.1
  split
  · rename_i q
    have h1 := (rd_adv hX q).2.2.2
    have h2 := (Xi_rd (b := b) (row := row) (nr := nr) (dm := dm) (sp := S) (D := D) hX).2.2.2.2.1
    omega
  · omega
theorem rd_23 {row : Nat → Int32} {nr : Nat} {b : Nat → Int32} {bn dm : Nat} {x sp D : Nat → Int32} (h : x 23 = nI dm) (h3 : dm ≤ 30) : ∃ k, k ≤ 30 ∧ (rdT row nr b bn dm x sp D).1 23 = nI k ∧ ((rdT row nr b bn dm x sp D).1 20 = 0 → k = dm + 1) := by
  by_cases hA : rdA b bn dm x 20 = 0
  · rw [rdT_y hA]
    exact ⟨dm + 1, by have := (rdA_0 hA).2.1; omega, (show upd (smX b bn (rdB row nr b bn dm x sp D).1) 23 (nI (dm + 1)) 23 = nI (dm + 1) from pk_us), fun _ => rfl⟩
  · rw [rdT_n hA]
    exact ⟨dm, h3, rdA_23.trans h, fun q => absurd q hA⟩
/-- the doing of what was read -/
abbrev TD2 : Type := (Nat → Int32) × Nat
noncomputable def dF (nr : Nat) (D : Nat → Int32) (s : TD2) : TD2 := (duN s.1 nr D s.2, s.2 + 1)
def dC (D : Nat → Int32) (dm : Nat) (s : TD2) : Prop := s.2 < dm ∧ ¬ duV s.1 D s.2 = 0
noncomputable def plD (row : Nat → Int32) (nr : Nat) (D : Nat → Int32) (dm : Nat) : TD2 := LD (dF nr D) (dC D dm) (row, 0)
theorem enX_o {y : Nat → Int32} {j : Nat} (h1 : j ≠ 13) (h2 : j ≠ 14) (h3 : j ≠ 15) : enX y j = y j := by
  unfold enX
  rw [pk_un h1, pk_un h3, pk_un h2]
theorem enX_23 {y : Nat → Int32} : enX y 23 = y 23 := enX_o (by omega) (by omega) (by omega)
noncomputable def plV (row : Nat → Int32) (nr : Nat) (b : Nat → Int32) (bn : Nat) (x sp D : Nat → Int32) : Int32 := if (plS row nr b bn x sp D).1 20 = 0 then nI (plD row nr (plS row nr b bn x sp D).2.2 (tn ((plS row nr b bn x sp D).1 23))).2 else -1
noncomputable def plX (row : Nat → Int32) (nr : Nat) (b : Nat → Int32) (bn : Nat) (x sp D : Nat → Int32) (pm : Nat) : Nat → Int32 := if (plS row nr b bn x sp D).1 20 = 0 then upd (enX (plS row nr b bn x sp D).1) 4 (nI (psn pm)) else enX (plS row nr b bn x sp D).1
noncomputable def plR (row : Nat → Int32) (nr : Nat) (b : Nat → Int32) (bn : Nat) (x sp D : Nat → Int32) : Nat → Int32 := if (plS row nr b bn x sp D).1 20 = 0 then (plD row nr (plS row nr b bn x sp D).2.2 (tn ((plS row nr b bn x sp D).1 23))).1 else row
noncomputable def plP (past row : Nat → Int32) (nr : Nat) (b : Nat → Int32) (bn : Nat) (x sp D : Nat → Int32) (pm : Nat) : Nat → Int32 := if (plS row nr b bn x sp D).1 20 = 0 then pst past row pm else past
theorem pl_it {row : Nat → Int32} {nr : Nat} {b : Nat → Int32} {bn k dm : Nat} {s0 : T3} {X S1 Y : Nat → Int32} (hit : it (plF row nr b bn) k s0 = (X, S1, Y)) (hdm : X 23 = nI dm) (h3 : dm ≤ 30) : it (plF row nr b bn) (k + 1) s0 = ((rdT row nr b bn dm X S1 Y).1, (rdT row nr b bn dm X S1 Y).2.1, (rdT row nr b bn dm X S1 Y).2.2) := by
  show plF row nr b bn (it (plF row nr b bn) k s0) = _
  rw [hit]
  unfold plF
  rw [show tn (((X, S1, Y) : T3).1 23) = dm from by show tn (X 23) = dm; rw [hdm, tn_nI (by omega)]]
theorem plx_23 {b : Nat → Int32} {bn : Nat} {x : Nat → Int32} : bgX b bn (upd (upd x 6 0) 23 0) 23 = nI 0 := by
  unfold bgX
  rw [goX_out (by omega) (by omega) (by omega) (by omega), pk_un (by omega), pk_un (by omega), pk_us]
  rfl
theorem plx_4 {row : Nat → Int32} {nr : Nat} {b : Nat → Int32} {bn k : Nat} {x sp D X S1 Y : Nat → Int32} (hit : it (plF row nr b bn) k (pl0 b bn x sp D) = (X, S1, Y)) : enX X 4 = x 4 := by
  rw [enX_o (by omega) (by omega) (by omega)]
  have h := it_P (F := plF row nr b bn) (P := fun s : T3 => s.1 4 = x 4) (s := pl0 b bn x sp D) (fun s q => (rdT_o (by omega) (by omega) (by omega) (by omega) (by omega) (by omega) (by omega) (by omega)).trans q) (by
    show bgX b bn (upd (upd x 6 0) 23 0) 4 = x 4
    unfold bgX
    rw [goX_out (by omega) (by omega) (by omega) (by omega), pk_un (by omega), pk_un (by omega), pk_un (by omega), pk_un (by omega)]) k
  rw [hit] at h
  exact h
theorem pl_m11 {y : Nat → Int32} {v : Int32} : upd (upd y 4 v) 11 (y 11) = upd y 4 v := by
  funext k
  by_cases e : k = 11
  · subst e; rw [pk_us, pk_un (by omega)]
  · rw [pk_un e]
theorem sg_pos {row : Nat → Int32} {nr nw nt N u : Nat} (hI : Iv row nr nw nt N) (h4 : 4 ≤ u) (h6 : u ≤ 6) : ¬ row u < 0 := by
  obtain ⟨-, -, ⟨⟨a1, a2⟩, ⟨b1, b2, b3⟩, c1, c2⟩, -⟩ := hI
  rcases (show u = 4 ∨ u = 5 ∨ u = 6 by omega) with rfl | rfl | rfl
  · rw [a1]; exact nI_pos (by omega)
  · rw [b1]; exact nI_pos (by omega)
  · rw [c1]; exact nI_pos (by omega)
theorem gc_pos {row : Nat → Int32} {nr nw nt N a co : Nat} {d : Int32} (hI : Iv row nr nw nt N) (hN : N ≤ 77777777) (ha : a < nr) (h2 : d = nI co) (hco : 1 ≤ co) (hc9 : co ≤ 99) : ¬ row (25 + 13 * a + 10) + d ≤ 0 := by
  obtain ⟨-, ⟨p1, p2⟩, -⟩ := hI
  have h := sN_le (f := fun k => tn (row (25 + 13 * k + 10))) nr ha
  have h9 : tn (row (25 + 13 * a + 10)) ≤ sN (fun k => tn (row (25 + 13 * k + 10))) nr := h
  rw [p1 a ha, h2, nI_add]
  exact nI_nle (by omega) (by omega)
theorem cm3_15 {row : Nat → Int32} {t : Nat} (h1 : 1 ≤ tno row t) (h8 : tno row t ≤ 8) : cm3 row t 15 = row 15 := cm3_out h1 h8 (by omega) (by omega) (by omega) (by omega)
theorem cm_15 {row : Nat → Int32} {nr nw nt t : Nat} (hG : Gw row nr nw nt) (ht : t < nt) : ∃ k, k ≤ 1 ∧ cmF row nt t 15 = row 15 + nI k := by
  obtain ⟨g1, g2, g3, g4, g5, g6, g7, g8, g9, g10⟩ := hG.2.2.1.2.2.2 t ht
  have z : row 15 = row 15 + nI 0 := by rw [nI_0, Int32.add_zero]
  unfold cmF
  split
  · exact ⟨0, by omega, (cm3_15 g9 g10).trans z⟩
  · split
    · refine ⟨0, by omega, ?_⟩
      unfold cmA
      rw [cn_out (by omega), pk_un (by omega), he_out (by omega), pk_un (by omega), cm3_15 g9 g10]
      exact z
    · refine ⟨1, by omega, ?_⟩
      have hB : ∀ u, cmB row t u 15 = row 15 + nI 1 := fun u => by
        unfold cmB
        rw [cn_out (by omega)]
        unfold cn
        rw [pk_us, pk_un (by omega), cm3_15 g9 g10]
        rfl
      unfold rpF
      split
      · exact hB _
      · rw [ntu_out g10 (by omega) (by omega) (by omega) (by omega)]
        exact hB _
theorem ar_15 {row : Nat → Int32} {nr nw nt : Nat} (hG : Gw row nr nw nt) : ∀ i, i ≤ nt → ∃ k, k ≤ i ∧ arF row i 15 = row 15 + nI k := by
  intro i
  induction i with
  | zero => intro _; exact ⟨0, by omega, by rw [nI_0, Int32.add_zero]; rfl⟩
  | succ i ih =>
    intro hi
    obtain ⟨k, hk, e⟩ := ih (by omega)
    obtain ⟨n1, h1, h2, h3⟩ := ar_G hG i (by omega)
    unfold arF
    split
    · rw [ntn_G h2]
      obtain ⟨k2, hk2, e2⟩ := cm_15 (t := i) h2 (by omega)
      exact ⟨k + k2, by omega, by rw [e2, e, Int32.add_assoc, nI_add]⟩
    · exact ⟨k, by omega, e⟩
theorem rf_o {row : Nat → Int32} {nr nw nt tm j : Nat} (hG : Gw row nr nw nt) (htm : row 3 = nI tm) (ht30 : tm < 2 ^ 30) (hj : j < 25) (h13 : j ≠ 13) (h19 : j ≠ 19) : ∀ i, i ≤ nr → rfF row nw i j = row j := by
  have h10 := hG.2.1.2.2.1
  intro i
  induction i with
  | zero => intro _; rfl
  | succ i ih =>
    intro hi
    have e := ih (by omega)
    obtain ⟨h2, h3⟩ := rf_G hG htm ht30 i (by omega)
    unfold rfF
    split
    · exact e
    · cases hf : fas (rfF row nw i) nw i (ntn (rfF row nw i)) with
      | none => exact e
      | some t =>
        rw [ntn_G h2] at hf
        obtain ⟨f1, f2, u, f3⟩ := fas_ok (nr := nr) nt t hf
        obtain ⟨g1, g2, g3, g4, g5, g6, g7, g8, g9, g10⟩ := h2.2.2.1.2.2.2 t f1
        exact (ws_out (by omega) (by omega) (by omega) (by omega) (by omega) (by omega) (by omega)).trans e
theorem lo_o {row : Nat → Int32} {nw j : Nat} (hj : j < 25) (h18 : j ≠ 18) : ∀ i, loF row nw i j = row j := by
  intro i
  induction i with
  | zero => rfl
  | succ i ih =>
    unfold loF
    split
    · exact (lo_1 h18 (by omega)).trans ih
    · exact ih
theorem tk_eq {row : Nat → Int32} {nr nw nt : Nat} (hG : Gw row nr nw nt) : tkF row nr nw = loF (if m60 (arF (tk1 row) nt 3) < arF (tk1 row) nt 5 then rfF (arF (tk1 row) nt) nw nr else arF (tk1 row) nt) nw (ntn (if m60 (arF (tk1 row) nt 3) < arF (tk1 row) nt 5 then rfF (arF (tk1 row) nt) nw nr else arF (tk1 row) nt)) := by
  unfold tkF
  rw [ntn_G hG]
theorem tk_15 {row : Nat → Int32} {nr nw nt tm : Nat} (hG : Gw row nr nw nt) (htm : row 3 = nI tm) (ht30 : tm + 1 < 2 ^ 30) : ∃ k, k ≤ 30 ∧ tkF row nr nw 15 = row 15 + nI k := by
  have h1 := tk1_G hG
  have e1 := tk1_3 htm
  have h30 := hG.2.2.1.2.1
  obtain ⟨k, hk, e⟩ := ar_15 h1 nt (Nat.le_refl _)
  obtain ⟨n1, a1, a2, a3⟩ := ar_G h1 nt (Nat.le_refl _)
  rw [tk1_out (by omega) (by omega)] at e
  refine ⟨k, by omega, ?_⟩
  rw [tk_eq hG, lo_o (by omega) (by omega)]
  split
  · rw [rf_o a2 ((a3 3 (by omega) (by omega)).trans e1) ht30 (by omega) (by omega) (by omega) nr (Nat.le_refl _), e]
  · exact e
theorem go_15 {row : Nat → Int32} {nr nw nt tm : Nat} (hG : Gw row nr nw nt) (htm : row 3 = nI tm) : ∀ i, tm + i < 2 ^ 30 → ∃ k, k ≤ 30 * i ∧ goF row nr nw i 15 = row 15 + nI k := by
  intro i
  induction i with
  | zero => intro _; exact ⟨0, by omega, by rw [nI_0, Int32.add_zero]; rfl⟩
  | succ i ih =>
    intro hi
    obtain ⟨k, hk, e⟩ := ih (by omega)
    obtain ⟨n1, h1, h2, h3, h4⟩ := go_G hG htm i (by omega)
    obtain ⟨k2, hk2, e2⟩ := tk_15 h2 h3 (by omega)
    refine ⟨k + k2, by omega, ?_⟩
    show tkF (goF row nr nw i) nr nw 15 = _
    rw [e2, e, Int32.add_assoc, nI_add]
theorem go_n15 {row : Nat → Int32} {nr nw nt tm t : Nat} (hG : Gw row nr nw nt) (htm : row 3 = nI tm) (h9 : tm ≤ 99999) (ht : t ≤ 99999) : ¬ goF row nr nw t 15 - row 15 < 0 := by
  obtain ⟨k, hk, e⟩ := go_15 hG htm t (by omega)
  rw [e, Int32.add_comm, Int32.add_sub_cancel]
  exact nI_pos (by omega)
theorem fi_nat {P : Nat → Prop} [DecidablePred P] {n : Nat} (h : ¬ fi P n = -1) : ∃ i, i < n ∧ P i ∧ fi P n = nI i := by
  by_cases hx : ∃ i, i < n ∧ P i
  · obtain ⟨j, h1, h2, h3⟩ := fi_ex hx
    exact ⟨j, h1, h2, h3⟩
  · exact absurd (fi_none fun j hj q => hx ⟨j, hj, q⟩) h
theorem mx0_nI {a : Nat} (h : a < 2 ^ 31) : mx 0 (nI a) = nI a := by
  unfold mx
  by_cases q : (0 : Int32) < nI a
  · rw [if_pos q]
  · rw [if_neg q]
    exact Int32.le_antisymm (nI_pos' h) (Int32.not_lt.mp q)
theorem rt_ok {row : Nat → Int32} {nr : Nat} {b : Nat → Int32} {bn : Nat} {sp y : Nat → Int32} {no : Int32} (hr : nr ≤ 10) (h : rtX row nr b bn sp y no 20 = 0) : y 20 = 0 ∧ ∃ a, a < nr ∧ rtV row nr b sp y = nI a ∧ ¬ nI a = no ∧ nmI row nr (spn y (Ln y)) (spS b sp y) = nI a := by
  have h1 : rhX row nr b sp y (Ln y) (Fm y) no 20 = 0 := go_0.symm.trans (show goX b bn (rhX row nr b sp y (Ln y) (Fm y) no) 20 = 0 from h)
  obtain ⟨⟨a1, a2, a3⟩, a4, a5⟩ := rh_0.mp h1
  have e : rhV row nr b sp y (Ln y) (Fm y) = nmI row nr (spn y (Ln y)) (spS b sp y) := by
    unfold rhV rhX1
    rw [if_pos (sp_0.mpr ⟨a1, a2, a3⟩)]
    rfl
  rw [e] at a4 a5
  have h4 : ∃ i, i < nr ∧ nmI row nr (spn y (Ln y)) (spS b sp y) = nI i := by
    unfold nmI at a4 ⊢
    obtain ⟨i, i1, -, i2⟩ := fi_nat a4
    exact ⟨i, i1, i2⟩
  obtain ⟨i, i1, i2⟩ := h4
  refine ⟨a1, i, i1, ?_, by rw [← i2]; exact a5, i2⟩
  unfold rtV
  rw [e, i2]
  exact mx0_nI (by omega)
theorem nm_ok {b : Nat → Int32} {bn : Nat} {y : Nat → Int32} {a c : Int32} (h : numX b bn y a c 20 = 0) : y 20 = 0 ∧ y 18 = 2 ∧ nhV y a c = y 19 ∧ a ≤ y 19 ∧ y 19 ≤ c := by
  have h1 : nhX y a c 20 = 0 := go_0.symm.trans (show goX b bn (nhX y a c) 20 = 0 from h)
  obtain ⟨a1, a2, a3, a4⟩ := nh_0.mp h1
  refine ⟨a1, a2, ?_, a3, a4⟩
  unfold nhV
  rw [if_pos h1]
theorem nt_lo {b : Nat → Int32} {bn at1 j : Nat} {x D : Nat → Int32} (hj : j < at1 + 4) : (ntL b bn at1 x D).2.1 j = D j := by
  have key : ∀ s : TN3, s.2.1 j = D j → (ntF b bn at1 s).2.1 j = D j := fun s q => by
    show (if ntA s.1 s.2.2 20 = 0 then upd s.2.1 (at1 + 4 + s.2.2) (nhV s.1 0 7) else s.2.1) j = D j
    split
    · rw [pk_un (by omega)]; exact q
    · exact q
  exact LD_P (P := fun s : TN3 => s.2.1 j = D j) key (key _ rfl)
def NtP (at1 : Nat) (s : TN3) : Prop := s.1 20 = 0 → ∀ j, j < s.2.2 → ∃ v, v < 8 ∧ s.2.1 (at1 + 4 + j) = nI v
theorem ntF_0 {b : Nat → Int32} {bn at1 : Nat} {s : TN3} (h : (ntF b bn at1 s).1 20 = 0) : s.1 20 = 0 ∧ s.2.2 < 8 ∧ (∃ v, v < 8 ∧ nhV s.1 0 7 = nI v) ∧ ntF b bn at1 s = (goX b bn (ntA s.1 s.2.2), upd s.2.1 (at1 + 4 + s.2.2) (nhV s.1 0 7), s.2.2 + 1) := by
  have h1 : ntA s.1 s.2.2 20 = 0 := go_0.symm.trans (show goX b bn (ntA s.1 s.2.2) 20 = 0 from h)
  have h2 := h1
  unfold ntA at h2
  rw [nd_0 (by decide)] at h2
  obtain ⟨a1, a2, a3, a4⟩ := nh_0.mp h2.1
  have h7 : nhV s.1 0 7 = s.1 19 := by
    unfold nhV
    rw [if_pos h2.1]
  refine ⟨a1, h2.2, ?_, ?_⟩
  · rw [h7]
    obtain ⟨j, j1, j2⟩ := nI_of2 (x := s.1 19) (M := 7) (n := 7) (by decide) (Int32.not_lt.mpr a3) a4
    exact ⟨j, by omega, j2⟩
  · unfold ntF
    rw [if_pos h1, if_pos h1]
theorem NtP_s {b : Nat → Int32} {bn at1 : Nat} {s : TN3} (h : NtP at1 s) : NtP at1 (ntF b bn at1 s) ∧ ((ntF b bn at1 s).1 20 = 0 → 1 ≤ (ntF b bn at1 s).2.2) := by
  refine ⟨fun q => ?_, fun q => ?_⟩
  · obtain ⟨a1, a2, ⟨v, v1, v2⟩, e⟩ := ntF_0 q
    rw [e]
    intro j hj
    show ∃ v, v < 8 ∧ upd s.2.1 (at1 + 4 + s.2.2) (nhV s.1 0 7) (at1 + 4 + j) = nI v
    have hj' : j < s.2.2 + 1 := hj
    by_cases ej : j = s.2.2
    · subst ej
      exact ⟨v, v1, by rw [pk_us]; exact v2⟩
    · rw [pk_un (by omega)]
      exact h a1 j (by omega)
  · obtain ⟨a1, a2, -, e⟩ := ntF_0 q
    rw [e]
    exact Nat.le_add_left _ _
theorem nt_ok {b : Nat → Int32} {bn at1 : Nat} {x D : Nat → Int32} (h : (ntL b bn at1 x D).1 20 = 0) : 1 ≤ (ntL b bn at1 x D).2.2 ∧ ∀ j, j < (ntL b bn at1 x D).2.2 → ∃ v, v < 8 ∧ (ntL b bn at1 x D).2.1 (at1 + 4 + j) = nI v := by
  have key := LD_P (F := ntF b bn at1) (C := ntC) (P := fun s : TN3 => NtP at1 s ∧ (s.1 20 = 0 → 1 ≤ s.2.2)) (fun s q => NtP_s q.1) (s := ntF b bn at1 (x, D, 0)) (NtP_s (fun _ j hj => absurd hj (Nat.not_lt_zero j)))
  exact ⟨key.2 h, key.1 h⟩
theorem nt_f0 {b : Nat → Int32} {bn at1 : Nat} {x D : Nat → Int32} (h : (ntL b bn at1 x D).1 20 = 0) : x 20 = 0 := by
  have key := LD_P (F := ntF b bn at1) (C := ntC) (P := fun s : TN3 => s.1 20 = 0 → x 20 = 0) (fun s q z => q (ntF_0 z).1) (s := ntF b bn at1 (x, D, 0)) (fun z => (ntF_0 z).1)
  exact key h
theorem Dv_eq {nr dm i : Nat} {D D' : Nat → Int32} (h : ∀ j, j < 12 * dm → D' j = D j) (hi : i < dm) (hv : Dv nr D i) : Dv nr D' i := by
  have e0 := h (12 * i) (by omega)
  have e1 := h (12 * i + 1) (by omega)
  have e2 := h (12 * i + 2) (by omega)
  have e3 := h (12 * i + 3) (by omega)
  have hs : Ds nr D i → Ds nr D' i := by
    rintro ⟨a, c, k, h1, h2, h3, h4, h5, h6, h7, h8, h9⟩
    refine ⟨a, c, k, h1, h2, h3, by rw [e1]; exact h4, by rw [e2]; exact h5, by rw [e3]; exact h6, h7, h8, fun j hj => ?_⟩
    rw [h (12 * i + 4 + j) (by omega)]
    exact h9 j hj
  unfold Dv at hv ⊢
  rw [e0, e1, e2]
  rcases hv with ⟨q1, q2⟩ | ⟨q1, q2⟩ | q | q | q | q
  · exact Or.inl ⟨q1, hs q2⟩
  · exact Or.inr (Or.inl ⟨q1, hs q2⟩)
  · exact Or.inr (Or.inr (Or.inl q))
  · exact Or.inr (Or.inr (Or.inr (Or.inl q)))
  · exact Or.inr (Or.inr (Or.inr (Or.inr (Or.inl q))))
  · exact Or.inr (Or.inr (Or.inr (Or.inr (Or.inr q))))
theorem kd5 {x b : Nat → Int32} {f0 len : Nat} (h : kdH x b f0 len = 5) : ¬ stH x b f0 len = -1 := by
  intro q
  unfold kdH at h
  rw [if_pos q] at h
  revert h
  by_cases h1 : wrd x b f0 len 4 (gg_byt gg_tx21)
  · rw [if_pos h1]; decide
  rw [if_neg h1]
  by_cases h2 : wrd x b f0 len 3 (gg_byt gg_tx22)
  · rw [if_pos h2]; decide
  rw [if_neg h2]
  by_cases h3 : wrd x b f0 len 4 (gg_byt gg_tx23)
  · rw [if_pos h3]; decide
  rw [if_neg h3]
  by_cases h4 : wrd x b f0 len 4 (gg_byt gg_tx24)
  · rw [if_pos h4]; decide
  rw [if_neg h4]
  by_cases h5 : wrd x b f0 len 3 (gg_byt gg_tx25)
  · rw [if_pos h5]; decide
  rw [if_neg h5]
  decide
theorem low_nI {u : Nat} (h4 : 4 ≤ u) (h6 : u ≤ 6) {v : Int32} (h : low (nI u) ≤ v) (h2 : v ≤ hig (nI u)) : ∃ k, k ≤ 60 ∧ v = nI k := by
  rcases (show u = 4 ∨ u = 5 ∨ u = 6 by omega) with rfl | rfl | rfl
  · have e : hig (nI 4) = 9 := by decide
    have e2 : low (nI 4) = 0 := by decide
    rw [e] at h2; rw [e2] at h
    obtain ⟨j, j1, j2⟩ := nI_of2 (x := v) (M := 9) (n := 9) (by decide) (Int32.not_lt.mpr h) h2
    exact ⟨j, by omega, j2⟩
  · have e : hig (nI 5) = 60 := by decide
    have e2 : low (nI 5) = 1 := by decide
    rw [e] at h2; rw [e2] at h
    obtain ⟨j, j1, j2⟩ := nI_of2 (x := v) (M := 60) (n := 60) (by decide) (Int32.not_lt.mpr (Int32.le_trans (by decide) h)) h2
    exact ⟨j, by omega, j2⟩
  · have e : hig (nI 6) = 3 := by decide
    have e2 : low (nI 6) = 0 := by decide
    rw [e] at h2; rw [e2] at h
    obtain ⟨j, j1, j2⟩ := nI_of2 (x := v) (M := 3) (n := 3) (by decide) (Int32.not_lt.mpr h) h2
    exact ⟨j, by omega, j2⟩
theorem rd_Dv {row : Nat → Int32} {nr nw nt : Nat} (hG : Gw row nr nw nt) {b : Nat → Int32} {bn dm k : Nat} {X S1 Y : Nat → Int32} (hv : ∀ i, i < dm → Dv nr Y i) (h0 : (rdT row nr b bn dm X S1 Y).1 20 = 0) (hk : k = dm + 1) : ∀ i, i < k → Dv nr (rdT row nr b bn dm X S1 Y).2.2 i := by
  subst hk
  have hr10 := hG.2.1.2.2.1
  have hA : rdA b bn dm X 20 = 0 := by
    by_cases q : rdA b bn dm X 20 = 0
    · exact q
    · rw [rdT_n q] at h0
      exact absurd h0 q
  rw [rdT_y hA] at h0 ⊢
  have h1 : nd (rdB row nr b bn dm X S1 Y).1 (if (rdB row nr b bn dm X S1 Y).1 18 = 3 then 1 else 0) 1 20 = 0 := go_0.symm.trans (show goX b bn (nd (rdB row nr b bn dm X S1 Y).1 (if (rdB row nr b bn dm X S1 Y).1 18 = 3 then 1 else 0) 1) 20 = 0 from (pk_un (f := smX b bn (rdB row nr b bn dm X S1 Y).1) (k := 23) (x := nI (dm + 1)) (j := 20) (by omega)).symm.trans h0)
  have h2 := ((nd_0 (by decide)).mp h1).1
  obtain ⟨g1, g2, g3⟩ := rdA_0 hA
  suffices hs : (∀ j, j < 12 * dm → (rdB row nr b bn dm X S1 Y).2.2 j = Y j) ∧ Dv nr (rdB row nr b bn dm X S1 Y).2.2 dm by
    intro i hi
    show Dv nr (rdB row nr b bn dm X S1 Y).2.2 i
    by_cases e : i = dm
    · rw [e]; exact hs.2
    · exact Dv_eq hs.1 (by omega) (hv i (by omega))
  unfold rdB at h2 ⊢
  by_cases k01 : kdH X b (Fm X) (Ln X) = 0 ∨ kdH X b (Fm X) (Ln X) = 1
  · rw [if_pos k01] at h2 ⊢
    unfold rB0 at h2 ⊢
    dsimp only at h2 ⊢
    generalize hD0 : upd (upd (rdD b dm X Y) (12 * dm + 1) (r1V row nr b S1 (rdA b bn dm X))) (12 * dm + 2) (r2V row nr b bn S1 (rdA b bn dm X)) = D0 at h2 ⊢
    have d0 : D0 (12 * dm) = kdH X b (Fm X) (Ln X) := by rw [← hD0, pk_un (by omega), pk_un (by omega)]; exact pk_us
    have d1 : D0 (12 * dm + 1) = r1V row nr b S1 (rdA b bn dm X) := by rw [← hD0, pk_un (by omega), pk_us]
    have d2 : D0 (12 * dm + 2) = r2V row nr b bn S1 (rdA b bn dm X) := by rw [← hD0, pk_us]
    have dlo : ∀ j, j < 12 * dm → D0 j = Y j := fun j hj => by rw [← hD0, pk_un (by omega), pk_un (by omega)]; exact pk_un (by omega)
    obtain ⟨n1, n2⟩ := nt_ok h2
    have n8 := nt_8 (b := b) (bn := bn) (at1 := 12 * dm) (x := r2X row nr b bn S1 (rdA b bn dm X)) (D := D0)
    have hx2 := nt_f0 h2
    obtain ⟨c0, c, c1, c2, c3, -⟩ := rt_ok hr10 hx2
    obtain ⟨a0, a, a1, a2, -, -⟩ := rt_ok hr10 c0
    refine ⟨fun j hj => ?_, ?_⟩
    · rw [pk_un (by omega), nt_lo (by omega)]
      exact dlo j hj
    · have hds : Ds nr (upd (ntL b bn (12 * dm) (r2X row nr b bn S1 (rdA b bn dm X)) D0).2.1 (12 * dm + 3) (nI (ntL b bn (12 * dm) (r2X row nr b bn S1 (rdA b bn dm X)) D0).2.2)) dm := by
        refine ⟨a, c, (ntL b bn (12 * dm) (r2X row nr b bn S1 (rdA b bn dm X)) D0).2.2, a1, c1, ?_, ?_, ?_, pk_us, n1, n8, fun j hj => ?_⟩
        · intro q
          exact c3 (by rw [← q]; exact a2.symm)
        · rw [pk_un (by omega), nt_lo (by omega), d1]; exact a2
        · rw [pk_un (by omega), nt_lo (by omega), d2]; exact c2
        · rw [pk_un (by omega)]; exact n2 j hj
      have e0 : upd (ntL b bn (12 * dm) (r2X row nr b bn S1 (rdA b bn dm X)) D0).2.1 (12 * dm + 3) (nI (ntL b bn (12 * dm) (r2X row nr b bn S1 (rdA b bn dm X)) D0).2.2) (12 * dm) = kdH X b (Fm X) (Ln X) := by
        rw [pk_un (by omega), nt_lo (by omega), d0]
      unfold Dv
      rw [e0]
      rcases k01 with q | q
      · exact Or.inl ⟨q, hds⟩
      · exact Or.inr (Or.inl ⟨q, hds⟩)
  rw [if_neg k01] at h2 ⊢
  by_cases k2 : kdH X b (Fm X) (Ln X) = 2
  · rw [if_pos k2] at h2 ⊢
    unfold rB2 at h2 ⊢
    dsimp only at h2 ⊢
    obtain ⟨m1, m2, m3, m4, m5⟩ := nm_ok h2
    obtain ⟨t, t1, t2⟩ := nI_of2 (x := rdA b bn dm X 19) (M := 200) (n := 200) (by decide) (Int32.not_lt.mpr (Int32.le_trans (by decide) m4)) m5
    have t3 : 1 ≤ t := by
      rw [t2, show (1 : Int32) = nI 1 from rfl, nI_leI (by omega) (by omega)] at m4
      exact m4
    refine ⟨fun j hj => ?_, Or.inr (Or.inr (Or.inl ⟨?_, t, t3, t1, ?_⟩))⟩
    · rw [pk_un (by omega)]; exact pk_un (by omega)
    · rw [pk_un (by omega)]; exact pk_us.trans k2
    · rw [pk_us, m3, t2]
  rw [if_neg k2] at h2 ⊢
  by_cases k3 : kdH X b (Fm X) (Ln X) = 3
  · rw [if_pos k3] at h2 ⊢
    unfold rB3 at h2 ⊢
    dsimp only at h2 ⊢
    obtain ⟨m1, m2, m3, m4, m5⟩ := nm_ok h2
    obtain ⟨a0, a, a1, a2, -, -⟩ := rt_ok hr10 m1
    obtain ⟨t, t1, t2⟩ := nI_of2 (x := r1X row nr b bn S1 (rdA b bn dm X) 19) (M := 99) (n := 99) (by decide) (Int32.not_lt.mpr (Int32.le_trans (by decide) m4)) m5
    have t3 : 1 ≤ t := by
      rw [t2, show (1 : Int32) = nI 1 from rfl, nI_leI (by omega) (by omega)] at m4
      exact m4
    refine ⟨fun j hj => ?_, Or.inr (Or.inr (Or.inr (Or.inl ⟨?_, a, t, a1, t3, t1, ?_, ?_⟩)))⟩
    · rw [pk_un (by omega), pk_un (by omega)]; exact pk_un (by omega)
    · rw [pk_un (by omega), pk_un (by omega)]; exact pk_us.trans k3
    · rw [pk_un (by omega), pk_us]; exact a2
    · rw [pk_us, m3, t2]
  rw [if_neg k3] at h2 ⊢
  by_cases k4 : kdH X b (Fm X) (Ln X) = 4
  · rw [if_pos k4] at h2 ⊢
    unfold rB4 at h2 ⊢
    dsimp only at h2 ⊢
    obtain ⟨c0, c, c1, c2, c3, -⟩ := rt_ok hr10 h2
    obtain ⟨a0, a, a1, a2, -, -⟩ := rt_ok hr10 c0
    refine ⟨fun j hj => ?_, Or.inr (Or.inr (Or.inr (Or.inr (Or.inl ⟨?_, a, c, a1, c1, ?_, ?_, ?_⟩))))⟩
    · rw [pk_un (by omega), pk_un (by omega)]; exact pk_un (by omega)
    · rw [pk_un (by omega), pk_un (by omega)]; exact pk_us.trans k4
    · intro q
      exact c3 (by rw [← q]; exact a2.symm)
    · rw [pk_un (by omega), pk_us]; exact a2
    · rw [pk_us]; exact c2
  rw [if_neg k4] at h2 ⊢
  have k5 : kdH X b (Fm X) (Ln X) = 5 := by
    rcases g3 with q | q | q | q | q | q
    · exact absurd (Or.inl q) k01
    · exact absurd (Or.inr q) k01
    · exact absurd q k2
    · exact absurd q k3
    · exact absurd q k4
    · exact q
  unfold rB5 at h2 ⊢
  dsimp only at h2 ⊢
  obtain ⟨u, u4, u6, hu⟩ := stH_c.resolve_left (kd5 k5)
  rw [hu] at h2 ⊢
  obtain ⟨m1, m2, m3, m4, m5⟩ := nm_ok h2
  obtain ⟨v, v1, v2⟩ := low_nI u4 u6 m4 m5
  refine ⟨fun j hj => ?_, Or.inr (Or.inr (Or.inr (Or.inr (Or.inr ⟨?_, u, v, u4, u6, ?_, ?_, ?_, ?_, v1⟩))))⟩
  · rw [pk_un (by omega), pk_un (by omega)]; exact pk_un (by omega)
  · rw [pk_un (by omega), pk_un (by omega)]; exact pk_us.trans k5
  · rw [pk_un (by omega), pk_us]
  · rw [pk_us, m3, v2]
  · rw [← v2]; exact m4
  · rw [← v2]; exact m5

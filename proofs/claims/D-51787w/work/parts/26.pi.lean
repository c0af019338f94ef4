set_option maxRecDepth 100000
/-- a tune is whistled on -/
def wsfee (row : Nat → Int32) (t k : Nat) : Int32 := row (25 + 13 * k + 9) * br row t
def wsunt (row : Nat → Int32) (t k : Nat) : Int32 := row 3 + (nI (tno row t) + row (25 + 13 * k + 7) - 1) / row (25 + 13 * k + 7)
def ws2 (row : Nat → Int32) (t k : Nat) : Nat → Int32 := upd (upd row (25 + 13 * ts row t + 10) (row (25 + 13 * ts row t + 10) - wsfee row t k)) (25 + 13 * k + 10) (upd row (25 + 13 * ts row t + 10) (row (25 + 13 * ts row t + 10) - wsfee row t k) (25 + 13 * k + 10) + wsfee row t k)
def ws4 (row : Nat → Int32) (t k : Nat) : Nat → Int32 := upd (upd (ws2 row t k) (25 + 13 * k + 11) (wsunt row t k)) (25 + 13 * k + 12) (row (25 + 13 * k + 12) + 1)
def ws (row : Nat → Int32) (nw t k u : Nat) : Nat → Int32 := cn (cn (upd (upd (upd (upd (upd (ws4 row t k) (220 + 27 * t + 10) (row (160 + 3 * wy row nw k u + 2))) (220 + 27 * t + 5) (wsunt row t k + row (160 + 3 * wy row nw k u + 2))) (220 + 27 * t + 4) (nI u)) (220 + 27 * t + 3) 1) (220 + 27 * t + 9) (row (220 + 27 * t + 9) + 1)) 3 1) 9 (wsfee row t k)
theorem ws2_out {row : Nat → Int32} {t k j : Nat} (h1 : j ≠ 25 + 13 * ts row t + 10) (h2 : j ≠ 25 + 13 * k + 10) : ws2 row t k j = row j := by
  unfold ws2
  rw [pk_un h2, pk_un h1]
theorem ws4_out {row : Nat → Int32} {t k j : Nat} (h1 : j ≠ 25 + 13 * ts row t + 10) (h2 : j < 25 + 13 * k + 10 ∨ 25 + 13 * k + 12 < j) : ws4 row t k j = row j := by
  unfold ws4
  rw [pk_un (by omega), pk_un (by omega), ws2_out h1 (by omega)]
theorem ws_out {row : Nat → Int32} {nw t k u j : Nat} (h1 : j ≠ 25 + 13 * ts row t + 10) (h2 : j < 25 + 13 * k + 10 ∨ 25 + 13 * k + 12 < j) (h3 : j < 220 + 27 * t + 3 ∨ 220 + 27 * t + 5 < j) (h9 : j ≠ 220 + 27 * t + 9) (h10 : j ≠ 220 + 27 * t + 10) (h13 : j ≠ 13) (h19 : j ≠ 19) : ws row nw t k u j = row j := by
  unfold ws
  rw [cn_out (by omega), cn_out (by omega), pk_un (by omega), pk_un (by omega), pk_un (by omega), pk_un (by omega), pk_un (by omega), ws4_out h1 h2]
theorem fas_ok {row : Nat → Int32} {nr nw k : Nat} : ∀ n b, fas row nw k n = some b → b < n ∧ (row (220 + 27 * b + 3) = 0 ∧ row (220 + 27 * b + 4) = nI k) ∧ ∃ u, nxt row nw k (tg row b) = some u := by
  intro n
  induction n with
  | zero => intro b h; cases h
  | succ n ih =>
    intro b h
    unfold fas at h
    split at h
    · rename_i q
      cases h
      refine ⟨Nat.lt_succ_self _, q.1, ?_⟩
      cases hx : nxt row nw k (tg row n) with
      | none => exact absurd hx q.2.2.2
      | some u => exact ⟨u, rfl⟩
    · obtain ⟨h1, h2⟩ := ih b h
      exact ⟨by omega, h2⟩
theorem nxt_ne {row : Nat → Int32} {nr nw v go u : Nat} (hw : Ww row nr nw) (hg : go < 10) (h : nxt row nw v go = some u) : v ≠ go ∧ u < nr ∧ v ≠ u ∧ ∃ i, i < nw ∧ ((ea row i = v ∧ eb row i = u) ∨ (ea row i = u ∧ eb row i = v)) := by
  have h' := h
  unfold nxt at h
  split at h
  · cases h
  · rename_i q
    have hv : v ≠ go := fun e => q (Or.inl e)
    cases hd : dist row nw (-1) go v with
    | none => exact absurd (Or.inr hd) q
    | some d =>
      obtain ⟨u', d', z1, z2, z3, z4, z5, i0, z6, z7, z8⟩ := nxt_ok hw hg hv hd
      rw [h'] at z1
      cases z1
      exact ⟨hv, z4, z5, i0, z6, z7⟩
/-- when it is heard there -/
theorem ws_end {row : Nat → Int32} {nr nw nt t k u tm : Nat} (hG : Gw row nr nw nt) (ht : t < nt) (hk : k < nr) (hu : u < nr) (hku : k ≠ u) (hE : ∃ i, i < nw ∧ ((ea row i = k ∧ eb row i = u) ∨ (ea row i = u ∧ eb row i = k))) (htm : row 3 = nI tm) (ht30 : tm < 2 ^ 30) : ∃ z, z < 2 ^ 31 ∧ wsunt row t k + row (160 + 3 * wy row nw k u + 2) = nI z := by
  obtain ⟨g1, g2, g3, g4, g5, g6, g7, g8, g9, g10⟩ := hG.2.2.1.2.2.2 t ht
  have hr := hG.2.2.2.1 k hk
  obtain ⟨b, hb, hbe⟩ := k_nI (k := row (25 + 13 * k + 7)) (n := 9) (by omega)
  have hb1 : 1 ≤ b := by
    have := hr.2.1
    rw [hbe, nI_toInt (by omega)] at this
    omega
  have hw := wy_ok hG.2.1 hk hu hku hE
  have hf := hG.2.1.2.2.2 _ hw.2
  unfold wsunt
  have e1 : (1 : Int32) = nI 1 := rfl
  rw [hbe, htm, hf.2.2.1, nI_add, e1, pk_sub (by omega), pk_div (by omega) (by omega) (by omega), nI_add, nI_add]
  have : (tno row t + b - 1) / b ≤ tno row t + b - 1 := Nat.div_le_self _ _
  exact ⟨_, by omega, rfl⟩
theorem ws_G {row : Nat → Int32} {nr nw nt t k u tm : Nat} (hG : Gw row nr nw nt) (ht : t < nt) (hk : k < nr) (hu : u < nr) (hku : k ≠ u) (hE : ∃ i, i < nw ∧ ((ea row i = k ∧ eb row i = u) ∨ (ea row i = u ∧ eb row i = k))) (htm : row 3 = nI tm) (ht30 : tm < 2 ^ 30) : Gw (ws row nw t k u) nr nw nt := by
  obtain ⟨g1, g2, g3, g4, g5, g6, g7, g8, g9, g10⟩ := hG.2.2.1.2.2.2 t ht
  have h30 := hG.2.2.1.2.1
  have h10 := hG.2.1.2.2.1
  refine Gw_keep hG (fun j hj => ?_) (fun t' ht' => ?_)
  · unfold Kp at hj
    exact ws_out (by omega) (by omega) (by omega) (by omega) (by omega) (by omega) (by omega)
  · by_cases e : t' = t
    · subst e
      obtain ⟨z, hz, hze⟩ := ws_end hG ht hk hu hku hE htm ht30
      refine Gw_st hG ht' (a := u) (st := 1) (ws_out (by omega) (by omega) (by omega) (by omega) (by omega) (by omega) (by omega)) ?_ hu ?_ (by omega) (fun q => by omega) (fun q => by omega) ?_
      · unfold ws
        rw [cn_out (by omega), cn_out (by omega), pk_un (by omega), pk_un (by omega), pk_us]
      · unfold ws
        rw [cn_out (by omega), cn_out (by omega), pk_un (by omega), pk_us]
        rfl
      · refine ⟨fun _ => ?_, fun _ => rfl⟩
        unfold ws
        rw [cn_out (by omega), cn_out (by omega), pk_un (by omega), pk_un (by omega), pk_un (by omega), pk_us, hze]
        exact nI_nm1 hz
    · refine Gw_tn hG ht' ?_ ?_ ?_ ?_
      all_goals exact ws_out (by omega) (by omega) (by omega) (by omega) (by omega) (by omega) (by omega)
/-- what lands in a tick, of the first i tunes -/
def arF (row : Nat → Int32) : Nat → (Nat → Int32)
  | 0 => row
  | i + 1 => if arF row i (220 + 27 * i + 3) = 1 ∧ arF row i (220 + 27 * i + 5) = arF row i 3 then cmF (arF row i) (ntn (arF row i)) i else arF row i
theorem cm3_3 {row : Nat → Int32} {t j : Nat} (h1 : 1 ≤ tno row t) (h8 : tno row t ≤ 8) (hj : j < 10) : cm3 row t j = row j := cm3_out h1 h8 (by omega) (by omega) (by omega) (by omega)
theorem cm_3 {row : Nat → Int32} {nr nw nt t j : Nat} (hG : Gw row nr nw nt) (ht : t < nt) (hj : 3 ≤ j) (hj6 : j ≤ 6) : cmF row nt t j = row j := by
  obtain ⟨g1, g2, g3, g4, g5, g6, g7, g8, g9, g10⟩ := hG.2.2.1.2.2.2 t ht
  unfold cmF
  split
  · exact cm3_3 g9 g10 (by omega)
  · split
    · unfold cmA
      rw [cn_out (by omega), pk_un (by omega), he_out (by omega), pk_un (by omega), cm3_3 g9 g10 (by omega)]
    · unfold rpF
      split
      · unfold cmB
        rw [cn_out (by omega), cn_out (by omega), pk_un (by omega), cm3_3 g9 g10 (by omega)]
      · rw [ntu_out g10 (by omega) (by omega) (by omega) (by omega)]
        unfold cmB
        rw [cn_out (by omega), cn_out (by omega), pk_un (by omega), cm3_3 g9 g10 (by omega)]
theorem ntn_G {row : Nat → Int32} {nr nw nt : Nat} (hG : Gw row nr nw nt) : ntn row = nt := by
  have := hG.2.2.1.2.1
  unfold ntn
  rw [hG.2.2.1.1, nI_clamp (by omega)]
theorem ar_G {row : Nat → Int32} {nr nw nt : Nat} (hG : Gw row nr nw nt) : ∀ i, i ≤ nt → ∃ nt', nt ≤ nt' ∧ Gw (arF row i) nr nw nt' ∧ ∀ j, 3 ≤ j → j ≤ 6 → arF row i j = row j := by
  intro i
  induction i with
  | zero => intro _; exact ⟨nt, Nat.le_refl _, hG, fun _ _ _ => rfl⟩
  | succ i ih =>
    intro hi
    obtain ⟨n1, h1, h2, h3⟩ := ih (by omega)
    unfold arF
    split
    · rw [ntn_G h2]
      obtain ⟨n2, h4, h5⟩ := cm_G (t := i) h2 (by omega)
      exact ⟨n2, by omega, h5, fun j a b => (cm_3 h2 (by omega) a b).trans (h3 j a b)⟩
    · exact ⟨n1, h1, h2, h3⟩
/-- what is whistled in a tick, at the first i roofs -/
noncomputable def rfF (row : Nat → Int32) (nw : Nat) : Nat → (Nat → Int32)
  | 0 => row
  | i + 1 => if rfF row nw i 3 < rfF row nw i (25 + 13 * i + 11) then rfF row nw i else match fas (rfF row nw i) nw i (ntn (rfF row nw i)) with
    | none => rfF row nw i
    | some t => ws (rfF row nw i) nw t i ((nxt (rfF row nw i) nw i (tg (rfF row nw i) t)).getD 0)
theorem rf_G {row : Nat → Int32} {nr nw nt tm : Nat} (hG : Gw row nr nw nt) (htm : row 3 = nI tm) (ht30 : tm < 2 ^ 30) : ∀ i, i ≤ nr → Gw (rfF row nw i) nr nw nt ∧ ∀ j, 3 ≤ j → j ≤ 6 → rfF row nw i j = row j := by
  have h10 := hG.2.1.2.2.1
  intro i
  induction i with
  | zero => intro _; exact ⟨hG, fun _ _ _ => rfl⟩
  | succ i ih =>
    intro hi
    obtain ⟨h2, h3⟩ := ih (by omega)
    unfold rfF
    split
    · exact ⟨h2, h3⟩
    · cases hf : fas (rfF row nw i) nw i (ntn (rfF row nw i)) with
      | none => exact ⟨h2, h3⟩
      | some t =>
        rw [ntn_G h2] at hf
        obtain ⟨f1, f2, u, f3⟩ := fas_ok (nr := nr) nt t hf
        obtain ⟨g1, g2, g3, g4, g5, g6, g7, g8, g9, g10⟩ := h2.2.2.1.2.2.2 t f1
        obtain ⟨n1, n2, n3, n4⟩ := nxt_ne h2.2.1 (by omega) f3
        dsimp only
        rw [f3]
        refine ⟨ws_G h2 f1 (by omega) n2 n3 n4 ((h3 3 (by omega) (by omega)).trans htm) ht30, fun j a b => ?_⟩
        exact (ws_out (by omega) (by omega) (by omega) (by omega) (by omega) (by omega) (by omega)).trans (h3 j a b)
/-- what is lost in a tick, of the first i tunes -/
noncomputable def loF (row : Nat → Int32) (nw : Nat) : Nat → (Nat → Int32)
  | 0 => row
  | i + 1 => if loF row nw i (220 + 27 * i + 3) = 0 ∧ dist (loF row nw i) nw (-1) (tg (loF row nw i) i) (ta (loF row nw i) i) = none then cn (upd (loF row nw i) (220 + 27 * i + 3) 3) 8 1 else loF row nw i
theorem lo_1 {r : Nat → Int32} {i j : Nat} (h : j ≠ 18) (h2 : j ≠ 220 + 27 * i + 3) : cn (upd r (220 + 27 * i + 3) 3) 8 1 j = r j := by
  rw [cn_out (by omega), pk_un h2]
theorem lo_G {row : Nat → Int32} {nr nw nt : Nat} (hG : Gw row nr nw nt) : ∀ i, i ≤ nt → Gw (loF row nw i) nr nw nt ∧ ∀ j, 3 ≤ j → j ≤ 6 → loF row nw i j = row j := by
  have h10 := hG.2.1.2.2.1
  intro i
  induction i with
  | zero => intro _; exact ⟨hG, fun _ _ _ => rfl⟩
  | succ i ih =>
    intro hi
    obtain ⟨h2, h3⟩ := ih (by omega)
    unfold loF
    split
    · rename_i q
      refine ⟨Gw_keep h2 (fun j hj => ?_) (fun t' ht' => ?_), fun j a b => (lo_1 (by omega) (by omega)).trans (h3 j a b)⟩
      · unfold Kp at hj
        exact lo_1 (by omega) (by omega)
      · obtain ⟨g1, g2, g3, g4, g5, g6, g7, g8, g9, g10⟩ := h2.2.2.1.2.2.2 t' ht'
        by_cases e : t' = i
        · subst e
          refine Gw_st h2 ht' (a := ta (loF row nw t') t') (st := 3) (lo_1 (by omega) (by omega)) ((lo_1 (by omega) (by omega)).trans g4) g7 ?_ (by omega) (fun q => by omega) (fun q => by omega) ?_
          · rw [cn_out (by omega), pk_us]
            rfl
          · refine ⟨fun q => by omega, fun z => ?_⟩
            exfalso
            rw [lo_1 (by omega) (by omega)] at z
            obtain ⟨st, s1, s2, s3, s4, s5⟩ := h2.2.2.2.2 t' ht'
            have := s5.mpr z
            subst this
            rw [q.1] at s1
            exact absurd s1 (by decide)
        · refine Gw_tn h2 ht' ?_ ?_ ?_ ?_
          all_goals exact lo_1 (by omega) (by omega)
    · exact ⟨h2, h3⟩
/-- a tick -/
def tk1 (row : Nat → Int32) : Nat → Int32 := cn (upd row 3 (row 3 + 1)) 0 1
noncomputable def tkF (row : Nat → Int32) (nr nw : Nat) : Nat → Int32 :=
  loF (if m60 (arF (tk1 row) (ntn row) 3) < arF (tk1 row) (ntn row) 5 then rfF (arF (tk1 row) (ntn row)) nw nr else arF (tk1 row) (ntn row)) nw (ntn (if m60 (arF (tk1 row) (ntn row) 3) < arF (tk1 row) (ntn row) 5 then rfF (arF (tk1 row) (ntn row)) nw nr else arF (tk1 row) (ntn row)))
theorem tk1_out {row : Nat → Int32} {j : Nat} (h3 : j ≠ 3) (h10 : j ≠ 10) : tk1 row j = row j := by
  unfold tk1
  rw [cn_out (by omega), pk_un h3]
theorem tk1_G {row : Nat → Int32} {nr nw nt : Nat} (hG : Gw row nr nw nt) : Gw (tk1 row) nr nw nt := by
  refine Gw_keep hG (fun j hj => ?_) (fun t' ht' => ?_)
  · unfold Kp at hj
    exact tk1_out (by omega) (by omega)
  · exact Gw_tn hG ht' (tk1_out (by omega) (by omega)) (tk1_out (by omega) (by omega)) (tk1_out (by omega) (by omega)) (tk1_out (by omega) (by omega))
theorem tk1_3 {row : Nat → Int32} {tm : Nat} (h : row 3 = nI tm) : tk1 row 3 = nI (tm + 1) := by
  unfold tk1
  rw [cn_out (by omega), pk_us, h, nI_1]
theorem tk_G {row : Nat → Int32} {nr nw nt tm : Nat} (hG : Gw row nr nw nt) (htm : row 3 = nI tm) (ht30 : tm + 1 < 2 ^ 30) : ∃ nt', nt ≤ nt' ∧ Gw (tkF row nr nw) nr nw nt' ∧ tkF row nr nw 3 = nI (tm + 1) ∧ ∀ j, 4 ≤ j → j ≤ 6 → tkF row nr nw j = row j := by
  have h1 := tk1_G hG
  have e1 := tk1_3 htm
  rw [show tkF row nr nw = loF (if m60 (arF (tk1 row) nt 3) < arF (tk1 row) nt 5 then rfF (arF (tk1 row) nt) nw nr else arF (tk1 row) nt) nw (ntn (if m60 (arF (tk1 row) nt 3) < arF (tk1 row) nt 5 then rfF (arF (tk1 row) nt) nw nr else arF (tk1 row) nt)) from by unfold tkF; rw [ntn_G hG]]
  obtain ⟨n1, a1, a2, a3⟩ := ar_G h1 nt (Nat.le_refl _)
  have b : Gw (if m60 (arF (tk1 row) nt 3) < arF (tk1 row) nt 5 then rfF (arF (tk1 row) nt) nw nr else arF (tk1 row) nt) nr nw n1 ∧ ∀ j, 3 ≤ j → j ≤ 6 → (if m60 (arF (tk1 row) nt 3) < arF (tk1 row) nt 5 then rfF (arF (tk1 row) nt) nw nr else arF (tk1 row) nt) j = arF (tk1 row) nt j := by
    split
    · exact rf_G a2 ((a3 3 (by omega) (by omega)).trans e1) ht30 nr (Nat.le_refl _)
    · exact ⟨a2, fun _ _ _ => rfl⟩
  rw [ntn_G b.1]
  obtain ⟨c1, c2⟩ := lo_G b.1 n1 (Nat.le_refl _)
  refine ⟨n1, a1, c1, ?_, fun j x y => ?_⟩
  · rw [c2 3 (by omega) (by omega), b.2 3 (by omega) (by omega), a3 3 (by omega) (by omega), e1]
  · rw [c2 j (by omega) y, b.2 j (by omega) y, a3 j (by omega) y, tk1_out (by omega) (by omega)]
noncomputable def goF (row : Nat → Int32) (nr nw : Nat) : Nat → (Nat → Int32)
  | 0 => row
  | i + 1 => tkF (goF row nr nw i) nr nw
theorem go_G {row : Nat → Int32} {nr nw nt tm : Nat} (hG : Gw row nr nw nt) (htm : row 3 = nI tm) : ∀ i, tm + i < 2 ^ 30 → ∃ nt', nt ≤ nt' ∧ Gw (goF row nr nw i) nr nw nt' ∧ goF row nr nw i 3 = nI (tm + i) ∧ ∀ j, 4 ≤ j → j ≤ 6 → goF row nr nw i j = row j := by
  intro i
  induction i with
  | zero => intro _; exact ⟨nt, Nat.le_refl _, hG, htm, fun _ _ _ => rfl⟩
  | succ i ih =>
    intro hi
    obtain ⟨n1, h1, h2, h3, h4⟩ := ih (by omega)
    obtain ⟨n2, k1, k2, k3, k4⟩ := tk_G h2 h3 (by omega)
    exact ⟨n2, by omega, k2, k3, fun j a b => (k4 j a b).trans (h4 j a b)⟩

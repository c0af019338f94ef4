set_option maxRecDepth 100000
/-! ===== PURE: what holds at all times is kept ===== -/
theorem fas_pay {row : Nat → Int32} {nw k : Nat} : ∀ n b, fas row nw k n = some b → row (25 + 13 * k + 9) * br row b ≤ row (25 + 13 * ts row b + 10) := by
  intro n
  induction n with
  | zero => intro b h; cases h
  | succ n ih =>
    intro b h
    unfold fas at h
    split at h
    · rename_i q
      cases h
      exact Int32.not_lt.mp q.2.2.1
    · exact ih b h
theorem sN_c {f f' : Nat → Nat} : ∀ n, (∀ k, k < n → f k = f' k) → sN f n = sN f' n := by
  intro n
  induction n with
  | zero => intro _; rfl
  | succ n ih =>
    intro h
    show sN f n + f n = sN f' n + f' n
    rw [ih (fun k hk => h k (by omega)), h n (by omega)]
theorem Pn_keep {row row' : Nat → Int32} {nr N : Nat} (h : Pn row nr N) (e : ∀ k, k < nr → row' (25 + 13 * k + 10) = row (25 + 13 * k + 10)) : Pn row' nr N := by
  obtain ⟨h1, h2⟩ := h
  refine ⟨fun k hk => by rw [e k hk]; exact h1 k hk, ?_⟩
  have : sN (fun k => tn (row' (25 + 13 * k + 10))) nr = sN (fun k => tn (row (25 + 13 * k + 10))) nr := sN_c nr fun k hk => congrArg tn (e k hk)
  rw [this]
  exact h2
theorem Pn_le {row : Nat → Int32} {nr N N' : Nat} (h : Pn row nr N) (hN : N ≤ N') : Pn row nr N' := ⟨h.1, Nat.le_trans h.2 hN⟩
theorem Sg_keep {row row' : Nat → Int32} (h : Sg row) (e : ∀ j, 4 ≤ j → j ≤ 6 → row' j = row j) : Sg row' := by
  unfold Sg
  rw [e 4 (by omega) (by omega), e 5 (by omega) (by omega), e 6 (by omega) (by omega)]
  exact h
theorem Rf_keep {row row' : Nat → Int32} {nr : Nat} (h : Rf row nr) (hn : ∀ k, k < nr → nl row k ≤ 6) (e : ∀ k d, k < nr → (d ≤ 6 ∨ d = 9) → row' (25 + 13 * k + d) = row (25 + 13 * k + d)) : Rf row' nr := by
  intro k hk
  have e0 := e k 0 hk (Or.inl (by omega))
  have e9 := e k 9 hk (Or.inr rfl)
  rw [Nat.add_zero] at e0
  have en : nl row' k = nl row k := by unfold nl; rw [e0]
  rw [e9]
  refine ⟨(h k hk).1, fun j hj => ?_⟩
  rw [en] at hj
  have := hn k hk
  have e1 := e k (1 + j) hk (Or.inl (by omega))
  rw [← Nat.add_assoc] at e1
  rw [e1]
  exact (h k hk).2 j hj
theorem Nt_keep {row row' : Nat → Int32} {t : Nat} (h : Nt row t) (h8 : tno row t ≤ 8) (e : ∀ d, d = 2 ∨ d = 6 ∨ d = 7 ∨ (11 ≤ d ∧ d < 27) → row' (220 + 27 * t + d) = row (220 + 27 * t + d)) : Nt row' t := by
  have e2 := e 2 (Or.inl rfl)
  have e6 := e 6 (Or.inr (Or.inl rfl))
  have e7 := e 7 (Or.inr (Or.inr (Or.inl rfl)))
  have en : tno row' t = tno row t := by unfold tno; rw [e2]
  unfold Nt
  rw [e6, e7, en]
  refine ⟨h.1, h.2.1, fun j hj => ?_⟩
  have e11 := e (11 + j) (Or.inr (Or.inr (Or.inr ⟨by omega, by omega⟩)))
  have e19 := e (19 + j) (Or.inr (Or.inr (Or.inr ⟨by omega, by omega⟩)))
  rw [← Nat.add_assoc] at e11 e19
  rw [e11, e19]
  exact h.2.2 j hj
theorem Wu_keep {row row' : Nat → Int32} {nw : Nat} (h : Wu row nw) (hw : nw ≤ 20) (e : ∀ j, 160 ≤ j → j < 220 → row' j = row j) : Wu row' nw := by
  intro i j hi hj
  unfold ea eb
  rw [e (160 + 3 * i) (by omega) (by omega), e (160 + 3 * j) (by omega) (by omega), e (160 + 3 * i + 1) (by omega) (by omega), e (160 + 3 * j + 1) (by omega) (by omega)]
  exact h i j hi hj
/-- the same, but for what Gw says -/
def Jv (row : Nat → Int32) (nr nw nt N : Nat) : Prop := Pn row nr N ∧ Sg row ∧ Rf row nr ∧ (∀ t, t < nt → Nt row t) ∧ Wu row nw
theorem Iv_J {row : Nat → Int32} {nr nw nt N : Nat} : Iv row nr nw nt N ↔ Gw row nr nw nt ∧ Jv row nr nw nt N := Iff.rfl
/-- nothing that counts is written but to tunes -/
theorem Jv_keep {row row' : Nat → Int32} {nr nw nt nt' N : Nat} (hG : Gw row nr nw nt) (h : Jv row nr nw nt N) (e : ∀ j, (4 ≤ j ∧ j ≤ 6) ∨ (25 ≤ j ∧ j < 220 ∧ (j - 25) % 13 ≠ 11 ∧ (j - 25) % 13 ≠ 12) ∨ (160 ≤ j ∧ j < 220) → row' j = row j) (ht : ∀ t, t < nt' → Nt row' t) : Jv row' nr nw nt' N := by
  obtain ⟨h1, h2, h3, h4, h5⟩ := h
  have h10 := hG.2.1.2.2.1
  refine ⟨Pn_keep h1 fun k hk => e _ (Or.inr (Or.inl ⟨by omega, by omega, by omega, by omega⟩)), Sg_keep h2 fun j a b => e _ (Or.inl ⟨a, b⟩), Rf_keep h3 (fun k hk => (hG.2.2.2.1 k hk).1.2.2) fun k d hk hd => e _ (Or.inr (Or.inl ⟨by omega, by omega, by omega, by omega⟩)), ht, Wu_keep h5 hG.2.1.2.1 fun j a b => e _ (Or.inr (Or.inr ⟨a, b⟩))⟩
/-! a tune more -/
theorem ntu_n {row : Nat → Int32} {nt mny j : Nat} {su : Nat → Int32} {se go re wa : Int32} (hm : mny ≤ 8) (hj : j < mny) : ntu row nt mny su se go re wa (220 + 27 * nt + 11 + j) = su j ∧ ntu row nt mny su se go re wa (220 + 27 * nt + 19 + j) = su j := by
  constructor
  · unfold ntu
    rw [cn_out (by omega), cn_out (by omega), pk_un (by omega), he_out (by omega), ub_in _ _ _ _ (by omega) (by omega), show 220 + 27 * nt + 11 + j - (220 + 27 * nt + 11) = j by omega]
  · unfold ntu
    rw [cn_out (by omega), cn_out (by omega), pk_un (by omega)]
    unfold he
    rw [ub_in _ _ _ _ (by omega) (by omega), show 220 + 27 * nt + 19 + j - (220 + 27 * nt + 19) = j by omega, ub_in _ _ _ _ (by omega) (by omega), show 220 + 27 * nt + 11 + j - (220 + 27 * nt + 11) = j by omega]
theorem ntu_Nt {row : Nat → Int32} {nt no : Nat} {su : Nat → Int32} {se go re wa : Int32} (hn8 : no ≤ 8) (hre : re = 0 ∨ re = 1) (hwa : wa = 0 ∨ wa = 1) (hs : ∀ j, j < no → ∃ v, v < 8 ∧ su j = nI v) : Nt (ntu row nt no su se go re wa) nt := by
  have e2 : ntu row nt no su se go re wa (220 + 27 * nt + 2) = nI no := by
    rw [ntu_in (by omega)]
    unfold nt1
    rw [pk_un (by omega), pk_un (by omega), pk_un (by omega), pk_un (by omega), pk_us]
  have e6 : ntu row nt no su se go re wa (220 + 27 * nt + 6) = re := by
    rw [ntu_in (by omega)]
    unfold nt1
    rw [pk_un (by omega), pk_us]
  have e7 : ntu row nt no su se go re wa (220 + 27 * nt + 7) = wa := by
    rw [ntu_in (by omega)]
    unfold nt1
    rw [pk_us]
  have en : tno (ntu row nt no su se go re wa) nt = no := by
    unfold tno
    rw [e2, nI_clamp (by omega)]
  unfold Nt
  rw [e6, e7, en]
  refine ⟨hre, hwa, fun j hj => ?_⟩
  obtain ⟨n1, n2⟩ := ntu_n (row := row) (nt := nt) (su := su) (se := se) (go := go) (re := re) (wa := wa) hn8 hj
  obtain ⟨v, v1, v2⟩ := hs j hj
  rw [n1, n2, v2, tn_nI (by omega)]
  exact ⟨⟨rfl, v1⟩, rfl, v1⟩
theorem ntu_J {row : Nat → Int32} {nr nw nt no N : Nat} {su : Nat → Int32} {se go re wa : Int32} (hG : Gw row nr nw nt) (h : Jv row nr nw nt N) (hn8 : no ≤ 8) (hre : re = 0 ∨ re = 1) (hwa : wa = 0 ∨ wa = 1) (hs : ∀ j, j < no → ∃ v, v < 8 ∧ su j = nI v) : Jv (ntu row nt no su se go re wa) nr nw (nt + 1) N := by
  refine Jv_keep hG h (fun j hj => ntu_out hn8 (by omega) (by omega) (by omega) (by omega)) fun t ht => ?_
  by_cases e : t = nt
  · subst e
    exact ntu_Nt hn8 hre hwa hs
  · have h9 := hG.2.2.1.2.2.2 t (by omega)
    exact Nt_keep (h.2.2.2.1 t (by omega)) h9.2.2.2.2.2.2.2.2.2 fun d hd => ntu_out hn8 (by omega) (by omega) (by omega) (by omega)
/-! landing -/
theorem m8_nI {a : Nat} (h : a < 2 ^ 31) : m8 (nI a) = nI (a % 8) := by
  unfold m8
  have e : nI a / 8 = nI (a / 8) := pk_div (d := 8) h (by omega) (by omega)
  have e2 : nI (a / 8) * 8 = nI (a / 8 * 8) := by
    unfold nI
    rw [Int32.ofNat_mul]
    rfl
  rw [e, e2]
  have e3 : nI a = nI (a % 8) + nI (a / 8 * 8) := by
    rw [nI_add]
    congr 1
    omega
  rw [e3, Int32.add_sub_cancel]
theorem bl_8 {row : Nat → Int32} {t no : Nat} (h1 : 1 ≤ no) (h : ∀ j, j < no → row (220 + 27 * t + 19 + j) = nI (tn (row (220 + 27 * t + 19 + j))) ∧ tn (row (220 + 27 * t + 19 + j)) < 8) : ∀ i j, j < no → bl row t no i (220 + 27 * t + 19 + j) = nI (tn (bl row t no i (220 + 27 * t + 19 + j))) ∧ tn (bl row t no i (220 + 27 * t + 19 + j)) < 8 := by
  intro i
  induction i with
  | zero => exact h
  | succ i ih =>
    intro j hj
    have hlt := Nat.mod_lt (t + i) (show 0 < no by omega)
    unfold bl
    by_cases e : j = (t + i) % no
    · subst e
      rw [pk_us]
      obtain ⟨a1, a2⟩ := ih _ hlt
      rw [a1, nI_1, m8_nI (by omega), tn_nI (by omega)]
      exact ⟨rfl, by omega⟩
    · rw [pk_un (by omega)]
      exact ih j hj
theorem cm3_J {row : Nat → Int32} {nr nw nt t N : Nat} (hG : Gw row nr nw nt) (h : Jv row nr nw nt N) (ht : t < nt) : Jv (cm3 row t) nr nw nt N := by
  obtain ⟨g1, g2, g3, g4, g5, g6, g7, g8, g9, g10⟩ := hG.2.2.1.2.2.2 t ht
  refine Jv_keep hG h (fun j hj => ?_) fun t' ht' => ?_
  · unfold cm3
    rw [pk_un (by omega), pk_un (by omega), blF_out g9 g10 (by omega) (by omega)]
  · obtain ⟨f1, f2, f3, f4, f5, f6, f7, f8, f9, f10⟩ := hG.2.2.1.2.2.2 t' ht'
    by_cases e : t' = t
    · subst e
      have hN := h.2.2.2.1 t' ht'
      have o : ∀ d, d ≤ 2 ∨ (6 ≤ d ∧ d < 19) → cm3 row t' (220 + 27 * t' + d) = row (220 + 27 * t' + d) := fun d hd => by
        unfold cm3
        rw [pk_un (by omega), pk_un (by omega), blF_out g9 g10 (by omega) (by omega)]
      have en : tno (cm3 row t') t' = tno row t' := by unfold tno; rw [o 2 (by omega)]
      unfold Nt
      rw [o 6 (by omega), o 7 (by omega), en]
      refine ⟨hN.1, hN.2.1, fun j hj => ⟨?_, ?_⟩⟩
      · have := o (11 + j) (by omega)
        rw [← Nat.add_assoc] at this
        rw [this]
        exact (hN.2.2 j hj).1
      · have e9 : cm3 row t' (220 + 27 * t' + 19 + j) = bl row t' (tno row t') (wn row t') (220 + 27 * t' + 19 + j) := by
          unfold cm3 blF
          rw [pk_un (by omega), pk_un (by omega), cn_out (by omega)]
        rw [e9]
        exact bl_8 g9 (fun j hj => (hN.2.2 j hj).2) _ j hj
    · refine Nt_keep (h.2.2.2.1 t' ht') f10 fun d hd => ?_
      unfold cm3
      rw [pk_un (by omega), pk_un (by omega), blF_out g9 g10 (by omega) (by omega)]
theorem cm_J {row : Nat → Int32} {nr nw nt t N : Nat} (hG : Gw row nr nw nt) (h : Jv row nr nw nt N) (ht : t < nt) : ∃ nt', Gw (cmF row nt t) nr nw nt' ∧ nt ≤ nt' ∧ Jv (cmF row nt t) nr nw nt' N := by
  obtain ⟨nt', q1, q2⟩ := cm_G hG ht
  refine ⟨nt', q2, q1, ?_⟩
  have hn' := q2.2.2.1.1
  have hnt := hG.2.2.1.1
  have h30 := hG.2.2.1.2.1
  have h30' := q2.2.2.1.2.1
  obtain ⟨g1, g2, g3, g4, g5, g6, g7, g8, g9, g10⟩ := hG.2.2.1.2.2.2 t ht
  have h3 := cm3_J hG h ht
  have kp : ∀ j, Kp j → cm3 row t j = row j := fun j hj => cm3_kp g9 g10 hj
  have hG3 : ∀ t', t' < nt → tno (cm3 row t) t' = tno row t' := fun t' ht' => by
    unfold tno
    rw [kp _ (by unfold Kp; omega)]
  -- of tunes nothing that counts
  have J2 : ∀ {r : Nat → Int32}, (∀ j, j ≠ 220 + 27 * t + 3 → j ≠ 220 + 27 * t + 4 → j ≠ 220 + 27 * t + 8 → j ≠ 15 → j ≠ 16 → j ≠ 17 → (j < 220 + 27 * t + 19 ∨ 220 + 27 * t + 27 ≤ j) → r j = cm3 row t j) → (∀ j, j < tno row t → r (220 + 27 * t + 19 + j) = cm3 row t (220 + 27 * t + 19 + j) ∨ r (220 + 27 * t + 19 + j) = cm3 row t (220 + 27 * t + 11 + j)) → Jv r nr nw nt N := by
    intro r hr hh
    obtain ⟨j1, j2, j3, j4, j5⟩ := h3
    have h10 := hG.2.1.2.2.1
    have h20 := hG.2.1.2.1
    refine ⟨Pn_keep j1 fun k hk => hr _ (by omega) (by omega) (by omega) (by omega) (by omega) (by omega) (by omega), Sg_keep j2 fun j a b => hr _ (by omega) (by omega) (by omega) (by omega) (by omega) (by omega) (by omega), Rf_keep j3 (fun k hk => ?_) (fun k d hk hd => hr _ (by omega) (by omega) (by omega) (by omega) (by omega) (by omega) (by omega)), fun t' ht' => ?_, Wu_keep j5 h20 fun j a b => hr _ (by omega) (by omega) (by omega) (by omega) (by omega) (by omega) (by omega)⟩
    · have : nl (cm3 row t) k = nl row k := by unfold nl; rw [kp _ (by unfold Kp; omega)]
      rw [this]
      exact (hG.2.2.2.1 k hk).1.2.2
    · obtain ⟨f1, f2, f3, f4, f5, f6, f7, f8, f9, f10⟩ := hG.2.2.1.2.2.2 t' ht'
      by_cases e : t' = t
      · subst e
        have hN := j4 t' ht'
        have o : ∀ d, d ≤ 2 ∨ (6 ≤ d ∧ d < 8) ∨ (9 ≤ d ∧ d < 19) → r (220 + 27 * t' + d) = cm3 row t' (220 + 27 * t' + d) := fun d hd => hr _ (by omega) (by omega) (by omega) (by omega) (by omega) (by omega) (by omega)
        have en : tno r t' = tno (cm3 row t') t' := by unfold tno; rw [o 2 (by omega)]
        unfold Nt
        rw [o 6 (by omega), o 7 (by omega), en]
        refine ⟨hN.1, hN.2.1, fun j hj => ?_⟩
        have h11 := o (11 + j) (by rw [hG3 t' ht'] at hj; omega)
        rw [← Nat.add_assoc] at h11
        refine ⟨by rw [h11]; exact (hN.2.2 j hj).1, ?_⟩
        rcases hh j (by rw [← hG3 t' ht']; exact hj) with q | q
        · rw [q]; exact (hN.2.2 j hj).2
        · rw [q]; exact (hN.2.2 j hj).1
      · exact Nt_keep (j4 t' ht') (by rw [hG3 t' ht']; exact f10) fun d hd => hr _ (by omega) (by omega) (by omega) (by omega) (by omega) (by omega) (by omega)
  by_cases c1 : ¬ row (220 + 27 * t + 4) = row (220 + 27 * t + 1)
  · have e : cmF row nt t = cm3 row t := by unfold cmF; rw [if_pos c1]
    rw [e] at hn' ⊢
    rw [kp 2 (by unfold Kp; omega), hnt, nI_eq (by omega) (by omega)] at hn'
    rw [← hn']
    exact h3
  · by_cases c2 : 0 < ulk (blF row t) t (tno row t) ∧ row (220 + 27 * t + 8) < row 6
    · have e : cmF row nt t = cmA row t := by unfold cmF; rw [if_neg c1, if_pos c2]
      rw [e] at hn' ⊢
      have o : ∀ j, j ≠ 220 + 27 * t + 4 → j ≠ 220 + 27 * t + 8 → j ≠ 17 → (j < 220 + 27 * t + 19 ∨ 220 + 27 * t + 27 ≤ j) → cmA row t j = cm3 row t j := fun j a1 a2 a3 a4 => by
        unfold cmA
        rw [cn_out (by omega), pk_un a1, he_out (by omega), pk_un a2]
      rw [o 2 (by omega) (by omega) (by omega) (by omega), kp 2 (by unfold Kp; omega), hnt, nI_eq (by omega) (by omega)] at hn'
      rw [← hn']
      refine J2 (fun j a1 a2 a3 a4 a5 a6 a7 => o j a2 a3 a6 a7) fun j hj => Or.inr ?_
      unfold cmA
      rw [cn_out (by omega), pk_un (by omega)]
      unfold he
      rw [ub_in _ _ _ _ (by omega) (by omega), show 220 + 27 * t + 19 + j - (220 + 27 * t + 19) = j by omega, pk_un (by omega)]
    · have e : cmF row nt t = rpF (cmB row t (ulk (blF row t) t (tno row t))) t nt (tno row t) := by unfold cmF; rw [if_neg c1, if_neg c2]
      rw [e] at hn' q2 ⊢
      generalize ulk (blF row t) t (tno row t) = u at hn' q2 ⊢
      have o : ∀ j, j ≠ 220 + 27 * t + 3 → j ≠ 15 → j ≠ 16 → cmB row t u j = cm3 row t j := fun j a1 a2 a3 => by
        unfold cmB
        rw [cn_out (by omega), cn_out (by omega), pk_un a1]
      have hB : Jv (cmB row t u) nr nw nt N := J2 (fun j a1 a2 a3 a4 a5 a6 a7 => o j a1 a4 a5) fun j hj => Or.inl (o _ (by omega) (by omega) (by omega))
      unfold rpF at hn' ⊢
      by_cases c3 : cmB row t u (220 + 27 * t + 7) = 0 ∨ 0 < ulk (cmB row t u) t (tno row t) ∨ nt = 30
      · rw [if_pos c3] at hn' ⊢
        rw [o 2 (by omega) (by omega) (by omega), kp 2 (by unfold Kp; omega), hnt, nI_eq (by omega) (by omega)] at hn'
        rw [← hn']
        exact hB
      · rw [if_neg c3] at hn' ⊢
        have e2 : ∀ {se go : Int32} {su : Nat → Int32}, ntu (cmB row t u) nt (tno row t) su se go 1 0 2 = nI (nt + 1) := fun {se go su} => by
          unfold ntu
          rw [cn_out (by omega), cn_out (by omega), pk_us]
        rw [e2, nI_eq (by omega) (by omega)] at hn'
        rw [← hn']
        -- the landing's row is in order
        have hs : ∀ j, j < tno row t → ∃ v, v < 8 ∧ cmB row t u (220 + 27 * t + 11 + tno row t - 1 - j) = nI v := fun j hj => by
          have hN := hB.2.2.2.1 t ht
          have en : tno (cmB row t u) t = tno row t := by unfold tno; rw [o _ (by omega) (by omega) (by omega), kp _ (by unfold Kp; omega)]
          have := (hN.2.2 (tno row t - 1 - j) (by rw [en]; omega)).1
          rw [show 220 + 27 * t + 11 + (tno row t - 1 - j) = 220 + 27 * t + 11 + tno row t - 1 - j by omega] at this
          exact ⟨_, this.2, this.1⟩
        obtain ⟨b1, b2, b3, b4, b5⟩ := hB
        have h10 := hG.2.1.2.2.1
        refine ⟨Pn_keep b1 fun k hk => ntu_out g10 (by omega) (by omega) (by omega) (by omega), Sg_keep b2 fun j a b => ntu_out g10 (by omega) (by omega) (by omega) (by omega), Rf_keep b3 (fun k hk => ?_) (fun k d hk hd => ntu_out g10 (by omega) (by omega) (by omega) (by omega)), fun t' ht' => ?_, Wu_keep b5 hG.2.1.2.1 fun j a b => ntu_out g10 (by omega) (by omega) (by omega) (by omega)⟩
        · have : nl (cmB row t u) k = nl row k := by unfold nl; rw [o _ (by omega) (by omega) (by omega), kp _ (by unfold Kp; omega)]
          rw [this]
          exact (hG.2.2.2.1 k hk).1.2.2
        · by_cases et : t' = nt
          · subst et
            exact ntu_Nt g10 (Or.inr rfl) (Or.inl rfl) hs
          · refine Nt_keep (b4 t' (by omega)) ?_ fun d hd => ntu_out g10 (by omega) (by omega) (by omega) (by omega)
            have : tno (cmB row t u) t' = tno row t' := by unfold tno; rw [o _ (by omega) (by omega) (by omega), kp _ (by unfold Kp; omega)]
            rw [this]
            exact (hG.2.2.1.2.2.2 t' (by omega)).2.2.2.2.2.2.2.2.2
theorem ar_J {row : Nat → Int32} {nr nw nt N : Nat} (hG : Gw row nr nw nt) (h : Jv row nr nw nt N) : ∀ i, i ≤ nt → ∃ nt', Gw (arF row i) nr nw nt' ∧ nt ≤ nt' ∧ Jv (arF row i) nr nw nt' N := by
  intro i
  induction i with
  | zero => intro _; exact ⟨nt, hG, Nat.le_refl _, h⟩
  | succ i ih =>
    intro hi
    obtain ⟨n1, h1, h2, h3⟩ := ih (by omega)
    unfold arF
    split
    · rw [ntn_G h1]
      obtain ⟨n2, a1, a2, a3⟩ := cm_J (t := i) h1 h3 (by omega)
      exact ⟨n2, a1, by omega, a3⟩
    · exact ⟨n1, h1, h2, h3⟩
/-! purses -/
theorem sN_one {f f' : Nat → Nat} {s d : Nat} (h : f' s + d = f s) (ho : ∀ k, k ≠ s → f' k = f k) : ∀ n, s < n → sN f' n + d = sN f n := by
  intro n
  induction n with
  | zero => intro h; omega
  | succ n ih =>
    intro hs
    show sN f' n + f' n + d = sN f n + f n
    by_cases e : s = n
    · subst e
      rw [sN_c s (fun k hk => ho k (by omega))]
      omega
    · rw [ho n (fun q => e q.symm)]
      have := ih (by omega)
      omega
theorem nI_sub {a b : Nat} (h : b ≤ a) : nI a - nI b = nI (a - b) := by
  have : nI a = nI (a - b) + nI b := by rw [nI_add]; congr 1; omega
  rw [this, Int32.add_sub_cancel]
theorem Pn_sub {row : Nat → Int32} {nr N s F : Nat} (h : Pn row nr N) (hN : N ≤ 77777777) (hs : s < nr) (hF : F ≤ tn (row (25 + 13 * s + 10))) : Pn (upd row (25 + 13 * s + 10) (row (25 + 13 * s + 10) - nI F)) nr (N - F) ∧ F ≤ N := by
  obtain ⟨h1, h2⟩ := h
  have h3 : tn (row (25 + 13 * s + 10)) ≤ sN (fun k => tn (row (25 + 13 * k + 10))) nr := sN_le (f := fun k => tn (row (25 + 13 * k + 10))) nr hs
  have e : row (25 + 13 * s + 10) - nI F = nI (tn (row (25 + 13 * s + 10)) - F) := by
    conv => lhs; rw [h1 s hs]
    exact nI_sub hF
  have e2 : upd row (25 + 13 * s + 10) (row (25 + 13 * s + 10) - nI F) (25 + 13 * s + 10) = nI (tn (row (25 + 13 * s + 10)) - F) := by rw [pk_us, e]
  refine ⟨⟨fun k hk => ?_, ?_⟩, by omega⟩
  · by_cases ek : k = s
    · subst ek
      rw [e2, tn_nI (by omega)]
    · rw [pk_un (by omega)]
      exact h1 k hk
  · have := sN_one (f := fun k => tn (row (25 + 13 * k + 10))) (f' := fun k => tn (upd row (25 + 13 * s + 10) (row (25 + 13 * s + 10) - nI F) (25 + 13 * k + 10))) (s := s) (d := F) (by
      show tn (upd row (25 + 13 * s + 10) (row (25 + 13 * s + 10) - nI F) (25 + 13 * s + 10)) + F = _
      rw [e2, tn_nI (by omega)]
      omega) (fun k hk => by
      show tn (upd row (25 + 13 * s + 10) (row (25 + 13 * s + 10) - nI F) (25 + 13 * k + 10)) = _
      rw [pk_un (by omega)]) nr hs
    omega
theorem Pn_add {row : Nat → Int32} {nr N s F : Nat} (h : Pn row nr N) (hN : N + F ≤ 77777777) (hs : s < nr) : Pn (upd row (25 + 13 * s + 10) (row (25 + 13 * s + 10) + nI F)) nr (N + F) := by
  obtain ⟨h1, h2⟩ := h
  have h3 : tn (row (25 + 13 * s + 10)) ≤ sN (fun k => tn (row (25 + 13 * k + 10))) nr := sN_le (f := fun k => tn (row (25 + 13 * k + 10))) nr hs
  have e : row (25 + 13 * s + 10) + nI F = nI (tn (row (25 + 13 * s + 10)) + F) := by
    conv => lhs; rw [h1 s hs]
    exact nI_add _ _
  have e2 : upd row (25 + 13 * s + 10) (row (25 + 13 * s + 10) + nI F) (25 + 13 * s + 10) = nI (tn (row (25 + 13 * s + 10)) + F) := by rw [pk_us, e]
  refine ⟨fun k hk => ?_, ?_⟩
  · by_cases ek : k = s
    · subst ek
      rw [e2, tn_nI (by omega)]
    · rw [pk_un (by omega)]
      exact h1 k hk
  · have := sN_one (f' := fun k => tn (row (25 + 13 * k + 10))) (f := fun k => tn (upd row (25 + 13 * s + 10) (row (25 + 13 * s + 10) + nI F) (25 + 13 * k + 10))) (s := s) (d := F) (by
      show tn (row (25 + 13 * s + 10)) + F = tn (upd row (25 + 13 * s + 10) (row (25 + 13 * s + 10) + nI F) (25 + 13 * s + 10))
      rw [e2, tn_nI (by omega)]) (fun k hk => by
      show tn (row (25 + 13 * k + 10)) = tn (upd row (25 + 13 * s + 10) (row (25 + 13 * s + 10) + nI F) (25 + 13 * k + 10))
      rw [pk_un (by omega)]) nr hs
    omega
theorem nI_mul (a b : Nat) : nI a * nI b = nI (a * b) := by
  unfold nI
  rw [Int32.ofNat_mul]
theorem br_nI {row : Nat → Int32} {nr nw nt t : Nat} (hG : Gw row nr nw nt) (ht : t < nt) : ∃ k, 1 ≤ k ∧ k ≤ 2 ∧ br row t = nI k := by
  obtain ⟨g1, g2, g3, g4, g5, g6, g7, g8, g9, g10⟩ := hG.2.2.1.2.2.2 t ht
  refine ⟨(tno row t + 3) / 4, by omega, by omega, ?_⟩
  unfold br
  rw [g3, show (3 : Int32) = nI 3 from rfl, nI_add]
  have : nI (tno row t + 3) / 4 = nI ((tno row t + 3) / 4) := pk_div (d := 4) (by omega) (by omega) (by omega)
  rw [← this]
theorem ws_pur {row : Nat → Int32} {nw t k u j : Nat} (hj : j < 10) (hk : k < 10) : ws row nw t k u (25 + 13 * j + 10) = ws2 row t k (25 + 13 * j + 10) := by
  unfold ws ws4
  rw [cn_out (by omega), cn_out (by omega), pk_un (by omega), pk_un (by omega), pk_un (by omega), pk_un (by omega), pk_un (by omega), pk_un (by omega), pk_un (by omega)]
theorem ws_J {row : Nat → Int32} {nr nw nt t k u N : Nat} (hG : Gw row nr nw nt) (h : Jv row nr nw nt N) (hN : N ≤ 77777777) (ht : t < nt) (hk : k < nr) (hp : row (25 + 13 * k + 9) * br row t ≤ row (25 + 13 * ts row t + 10)) : Jv (ws row nw t k u) nr nw nt N := by
  obtain ⟨g1, g2, g3, g4, g5, g6, g7, g8, g9, g10⟩ := hG.2.2.1.2.2.2 t ht
  obtain ⟨h1, h2, h3, h4, h5⟩ := h
  have h10 := hG.2.1.2.2.1
  have h30 := hG.2.2.1.2.1
  obtain ⟨b, b1, b2, b3⟩ := br_nI hG ht
  obtain ⟨⟨f1, f2⟩, -⟩ := h3 k hk
  have hfee : wsfee row t k = nI (tn (row (25 + 13 * k + 9)) * b) := by
    unfold wsfee
    rw [f1, b3, nI_mul, tn_nI (by omega)]
  have hb : tn (row (25 + 13 * k + 9)) * b ≤ 18 := by
    have := Nat.mul_le_mul f2 b2
    omega
  have hp2 : tn (row (25 + 13 * k + 9)) * b ≤ tn (row (25 + 13 * ts row t + 10)) := by
    have e1 : row (25 + 13 * k + 9) * br row t = nI (tn (row (25 + 13 * k + 9)) * b) := hfee
    rw [e1, h1.1 _ g5] at hp
    have h9 : tn (row (25 + 13 * ts row t + 10)) ≤ sN (fun k => tn (row (25 + 13 * k + 10))) nr := sN_le (f := fun k => tn (row (25 + 13 * k + 10))) nr g5
    have h99 := h1.2
    rw [nI_leI (by omega) (by omega)] at hp
    exact hp
  generalize hF : tn (row (25 + 13 * k + 9)) * b = F at hfee hb hp2
  obtain ⟨p1, p2⟩ := Pn_sub h1 hN g5 hp2
  have p3 := Pn_add (F := F) p1 (by omega) hk
  rw [show N - F + F = N by omega] at p3
  refine ⟨Pn_keep p3 fun j hj => ?_, Sg_keep h2 fun j a b => ws_out (by omega) (by omega) (by omega) (by omega) (by omega) (by omega) (by omega), Rf_keep h3 (fun k hk => (hG.2.2.2.1 k hk).1.2.2) (fun j d hj hd => ws_out (by omega) (by omega) (by omega) (by omega) (by omega) (by omega) (by omega)), fun t' ht' => ?_, Wu_keep h5 hG.2.1.2.1 fun j a b => ws_out (by omega) (by omega) (by omega) (by omega) (by omega) (by omega) (by omega)⟩
  · rw [ws_pur (by omega) (by omega)]
    unfold ws2
    rw [hfee]
  · exact Nt_keep (h4 t' ht') (hG.2.2.1.2.2.2 t' ht').2.2.2.2.2.2.2.2.2 fun d hd => ws_out (by omega) (by omega) (by omega) (by omega) (by omega) (by omega) (by omega)
theorem rf_J {row : Nat → Int32} {nr nw nt tm N : Nat} (hG : Gw row nr nw nt) (h : Jv row nr nw nt N) (hN : N ≤ 77777777) (htm : row 3 = nI tm) (ht30 : tm < 2 ^ 30) : ∀ i, i ≤ nr → Jv (rfF row nw i) nr nw nt N := by
  intro i
  induction i with
  | zero => intro _; exact h
  | succ i ih =>
    intro hi
    have e := ih (by omega)
    obtain ⟨h2, h3⟩ := rf_G hG htm ht30 i (by omega)
    unfold rfF
    split
    · exact e
    · cases hf : fas (rfF row nw i) nw i (ntn (rfF row nw i)) with
      | none => exact e
      | some t =>
        rw [ntn_G h2] at hf
        obtain ⟨f1, f2, u, f3⟩ := fas_ok (nr := nr) nt t hf
        exact ws_J h2 e hN f1 (by omega) (fas_pay nt t hf)
theorem lo_J {row : Nat → Int32} {nr nw nt N : Nat} (hG : Gw row nr nw nt) (h : Jv row nr nw nt N) : ∀ i, i ≤ nt → Jv (loF row nw i) nr nw nt N := by
  intro i
  induction i with
  | zero => intro _; exact h
  | succ i ih =>
    intro hi
    have e := ih (by omega)
    obtain ⟨h2, h3⟩ := lo_G hG i (by omega)
    have h10 := h2.2.1.2.2.1
    unfold loF
    split
    · refine Jv_keep h2 e (fun j hj => lo_1 (by omega) (by omega)) fun t' ht' => ?_
      exact Nt_keep (e.2.2.2.1 t' ht') (h2.2.2.1.2.2.2 t' ht').2.2.2.2.2.2.2.2.2 fun d hd => lo_1 (by omega) (by omega)
    · exact e
theorem tk1_J {row : Nat → Int32} {nr nw nt N : Nat} (hG : Gw row nr nw nt) (h : Jv row nr nw nt N) : Jv (tk1 row) nr nw nt N :=
  Jv_keep hG h (fun j hj => tk1_out (by omega) (by omega)) fun t' ht' => Nt_keep (h.2.2.2.1 t' ht') (hG.2.2.1.2.2.2 t' ht').2.2.2.2.2.2.2.2.2 fun d hd => tk1_out (by omega) (by omega)
theorem tk_J {row : Nat → Int32} {nr nw nt tm N : Nat} (hG : Gw row nr nw nt) (h : Jv row nr nw nt N) (hN : N ≤ 77777777) (htm : row 3 = nI tm) (ht30 : tm + 1 < 2 ^ 30) : ∃ nt', nt ≤ nt' ∧ Gw (tkF row nr nw) nr nw nt' ∧ Jv (tkF row nr nw) nr nw nt' N := by
  have h1 := tk1_G hG
  have j1 := tk1_J hG h
  have e1 := tk1_3 htm
  obtain ⟨n1, a1, a2, a3⟩ := ar_J h1 j1 nt (Nat.le_refl _)
  obtain ⟨n1', -, -, a4⟩ := ar_G h1 nt (Nat.le_refl _)
  have e2 : arF (tk1 row) nt 3 = nI (tm + 1) := (a4 3 (by omega) (by omega)).trans e1
  rw [tk_eq hG]
  by_cases c : m60 (arF (tk1 row) nt 3) < arF (tk1 row) nt 5
  · rw [if_pos c]
    obtain ⟨b1, b2⟩ := rf_G a1 e2 ht30 nr (Nat.le_refl _)
    have b3 := rf_J a1 a3 hN e2 ht30 nr (Nat.le_refl _)
    rw [ntn_G b1]
    exact ⟨n1, a2, (lo_G b1 n1 (Nat.le_refl _)).1, lo_J b1 b3 n1 (Nat.le_refl _)⟩
  · rw [if_neg c, ntn_G a1]
    exact ⟨n1, a2, (lo_G a1 n1 (Nat.le_refl _)).1, lo_J a1 a3 n1 (Nat.le_refl _)⟩
theorem go_J {row : Nat → Int32} {nr nw nt tm N : Nat} (hG : Gw row nr nw nt) (h : Jv row nr nw nt N) (hN : N ≤ 77777777) (htm : row 3 = nI tm) : ∀ i, tm + i < 2 ^ 30 → ∃ nt', nt ≤ nt' ∧ Gw (goF row nr nw i) nr nw nt' ∧ goF row nr nw i 3 = nI (tm + i) ∧ Jv (goF row nr nw i) nr nw nt' N := by
  intro i
  induction i with
  | zero => intro _; exact ⟨nt, Nat.le_refl _, hG, htm, h⟩
  | succ i ih =>
    intro hi
    obtain ⟨n1, h1, h2, h3, h4⟩ := ih (by omega)
    obtain ⟨n2, k1, k2, k3⟩ := tk_J h2 h4 hN h3 (by omega)
    obtain ⟨n3, -, -, k4, -⟩ := tk_G h2 h3 (by omega)
    exact ⟨n2, by omega, k2, k4, k3⟩
/-! coins are given, a way is cut, a setting is set -/
theorem gc_out {row : Nat → Int32} {k j : Nat} {d : Int32} (h1 : j ≠ 25 + 13 * k + 10) (h2 : j ≠ 20) : gcF row k d j = row j := by
  unfold gcF
  rw [cn_out (by omega), pk_un h1]
theorem gc_I {row : Nat → Int32} {nr nw nt N k co : Nat} (hI : Iv row nr nw nt N) (hN : N + 99 ≤ 77777777) (hk : k < nr) (hc : co ≤ 99) : Iv (gcF row k (nI co)) nr nw nt (N + 99) := by
  obtain ⟨hG, h⟩ := hI
  have h10 := hG.2.1.2.2.1
  refine ⟨Gw_keep hG (fun j hj => ?_) fun t ht => ?_, ?_⟩
  · unfold Kp at hj
    exact gc_out (by omega) (by omega)
  · exact Gw_tn hG ht (gc_out (by omega) (by omega)) (gc_out (by omega) (by omega)) (gc_out (by omega) (by omega)) (gc_out (by omega) (by omega))
  · obtain ⟨h1, h2, h3, h4, h5⟩ := h
    have p := Pn_le (N' := N + 99) (Pn_add (F := co) h1 (by omega) hk) (by omega)
    refine ⟨Pn_keep p fun j hj => ?_, Sg_keep h2 fun j a b => gc_out (by omega) (by omega), Rf_keep h3 (fun k hk => (hG.2.2.2.1 k hk).1.2.2) (fun j d hj hd => gc_out (by omega) (by omega)), fun t' ht' => ?_, Wu_keep h5 hG.2.1.2.1 fun j a b => gc_out (by omega) (by omega)⟩
    · unfold gcF
      rw [cn_out (by omega)]
    · exact Nt_keep (h4 t' ht') (hG.2.2.1.2.2.2 t' ht').2.2.2.2.2.2.2.2.2 fun d hd => gc_out (by omega) (by omega)
theorem se_I {row : Nat → Int32} {nr nw nt N u v : Nat} (hI : Iv row nr nw nt N) (h4 : 4 ≤ u) (h6 : u ≤ 6) (hv : v ≤ 60) (hlo : low (nI u) ≤ nI v) (hhi : nI v ≤ hig (nI u)) : Iv (upd row u (nI v)) nr nw nt N := by
  obtain ⟨hG, h1, h2, h3, hT, h5⟩ := hI
  have h10 := hG.2.1.2.2.1
  refine ⟨Gw_keep hG (fun j hj => ?_) fun t ht => ?_, Pn_keep h1 fun j hj => pk_un (by omega), ?_, Rf_keep h3 (fun k hk => (hG.2.2.2.1 k hk).1.2.2) (fun j d hj hd => pk_un (by omega)), fun t' ht' => ?_, Wu_keep h5 hG.2.1.2.1 fun j a b => pk_un (by omega)⟩
  · unfold Kp at hj
    exact pk_un (by omega)
  · exact Gw_tn hG ht (pk_un (by omega)) (pk_un (by omega)) (pk_un (by omega)) (pk_un (by omega))
  · obtain ⟨a, b, c⟩ := h2
    unfold Sg
    rcases (show u = 4 ∨ u = 5 ∨ u = 6 by omega) with rfl | rfl | rfl
    · rw [pk_us, pk_un (by omega), pk_un (by omega), tn_nI (by omega)]
      have e : hig (nI 4) = nI 9 := by decide
      rw [e, nI_leI (by omega) (by omega)] at hhi
      exact ⟨⟨rfl, hhi⟩, b, c⟩
    · rw [pk_us, pk_un (by omega), pk_un (by omega), tn_nI (by omega)]
      have e : hig (nI 5) = nI 60 := by decide
      have e2 : low (nI 5) = nI 1 := by decide
      rw [e, nI_leI (by omega) (by omega)] at hhi
      rw [e2, nI_leI (by omega) (by omega)] at hlo
      exact ⟨a, ⟨rfl, hlo, hhi⟩, c⟩
    · rw [pk_us, pk_un (by omega), pk_un (by omega), tn_nI (by omega)]
      have e : hig (nI 6) = nI 3 := by decide
      rw [e, nI_leI (by omega) (by omega)] at hhi
      exact ⟨a, b, rfl, hhi⟩
  · exact Nt_keep (hT t' ht') (hG.2.2.1.2.2.2 t' ht').2.2.2.2.2.2.2.2.2 fun d hd => pk_un (by omega)
theorem cu_out {row : Nat → Int32} {nw i j : Nat} (h1 : j ≠ 1) (h : j < 160 ∨ 220 ≤ j) (hw : nw ≤ 20) : cuF row nw i j = row j := by
  unfold cuF
  rw [pk_un h1, ub_out _ _ _ _ (by omega)]
/-- which way it was -/
def cuj (i j : Nat) : Nat := if j < i then j else j + 1
theorem cu_in {row : Nat → Int32} {nw i j d : Nat} (hi : i < nw) (hj : j + 1 < nw) (hd : d < 3) : cuF row nw i (160 + 3 * j + d) = row (160 + 3 * cuj i j + d) := by
  unfold cuF cuj
  rw [pk_un (by omega)]
  by_cases h : j < i
  · rw [if_pos h, ub_out _ _ _ _ (by omega)]
  · rw [if_neg h, ub_in _ _ _ _ (by omega) (by omega)]
    congr 1
    omega
theorem cu_I {row : Nat → Int32} {nr nw nt N i : Nat} (hI : Iv row nr nw nt N) (hi : i < nw) : Iv (cuF row nw i) nr (nw - 1) nt N := by
  obtain ⟨hG, h1, h2, h3, hT, h5⟩ := hI
  obtain ⟨k0, hw, ht, hr, hS⟩ := id hG
  have h10 := hw.2.2.1
  have h20 := hw.2.1
  have o : ∀ j, j ≠ 1 → (j < 160 ∨ 220 ≤ j) → cuF row nw i j = row j := fun j a b => cu_out a b h20
  have hc : ∀ j, j < nw - 1 → cuj i j < nw := fun j hj => by unfold cuj; split <;> omega
  have ein : ∀ j, j < nw - 1 → ea (cuF row nw i) j = ea row (cuj i j) ∧ eb (cuF row nw i) j = eb row (cuj i j) ∧ ef (cuF row nw i) j = ef row (cuj i j) := fun j hj => by
    have a0 := cu_in (row := row) (d := 0) hi (show j + 1 < nw by omega) (by omega)
    rw [Nat.add_zero, Nat.add_zero] at a0
    unfold ea eb ef
    rw [a0, cu_in hi (by omega) (by omega), cu_in hi (by omega) (by omega)]
    exact ⟨rfl, rfl, rfl⟩
  refine ⟨⟨(o 0 (by omega) (by omega)).trans k0, ⟨by unfold cuF; exact pk_us, by omega, h10, fun j hj => ?_⟩, ⟨(o 2 (by omega) (by omega)).trans ht.1, ht.2.1, ht.2.2.1, fun t q => ?_⟩, fun k hk => ?_, fun t q => ?_⟩, Pn_keep h1 fun j hj => o _ (by omega) (by omega), Sg_keep h2 fun j a b => o _ (by omega) (by omega), Rf_keep h3 (fun k hk => (hr k hk).1.2.2) (fun j d hj hd => o _ (by omega) (by omega)), fun t' ht' => ?_, fun j j' hj hj' => ?_⟩
  · obtain ⟨w1, w2, w3, w4, w5, w6, w7, w8⟩ := hw.2.2.2 _ (hc j hj)
    obtain ⟨e1, e2, e3⟩ := ein j hj
    have a0 := cu_in (row := row) (d := 0) hi (show j + 1 < nw by omega) (by omega)
    rw [Nat.add_zero, Nat.add_zero] at a0
    rw [e1, e2, e3, a0, cu_in hi (by omega) (by omega), cu_in hi (by omega) (by omega)]
    exact ⟨w1, w2, w3, w4, w5, w6, w7, w8⟩
  · exact (Tf_keep ⟨ht.2.2.2 t q, hS t q⟩ fun d hd => o _ (by omega) (by omega)).1
  · have := hr k hk
    unfold nl at this ⊢
    rw [o _ (by omega) (by omega), o _ (by omega) (by omega), o _ (by omega) (by omega)]
    exact this
  · exact (Tf_keep ⟨ht.2.2.2 t q, hS t q⟩ fun d hd => o _ (by omega) (by omega)).2
  · exact Nt_keep (hT t' ht') (ht.2.2.2 t' ht').2.2.2.2.2.2.2.2.2 fun d hd => o _ (by omega) (by omega)
  · obtain ⟨e1, e2, -⟩ := ein j hj
    obtain ⟨e3, e4, -⟩ := ein j' hj'
    rw [e1, e2, e3, e4]
    intro q
    have := h5 _ _ (hc j hj) (hc j' hj') q
    unfold cuj at this
    split at this <;> split at this <;> omega
/-- a deed is done -/
theorem du_I {row : Nat → Int32} {nr nw nt N tm i : Nat} {D : Nat → Int32} (hI : Iv row nr nw nt N) (htm : row 3 = nI tm) (h9 : tm ≤ 9999) (hv : Dv nr D i) (hd : ¬ duV row D i = 0) (hN : N + 99 ≤ 77777777) : ∃ nw' nt' tm', Iv (duN row nr D i) nr nw' nt' (N + 99) ∧ duN row nr D i 3 = nI tm' ∧ tm' ≤ 9999 := by
  have e : duN row nr D i = duR row nr D i := if_neg hd
  rw [e]
  obtain ⟨hG, hJ⟩ := id hI
  have h10 := hG.2.1.2.2.1
  have h20 := hG.2.1.2.1
  have h30 := hG.2.2.1.2.1
  have e1 : tn (row 1) = nw := by rw [hG.2.1.1, tn_nI (by omega)]
  have e2 : tn (row 2) = nt := by rw [hG.2.2.1.1, tn_nI (by omega)]
  have e3 : tn (row 3) = tm := by rw [htm, tn_nI (by omega)]
  have JN : ∀ {r nw' nt'}, Jv r nr nw' nt' N → Jv r nr nw' nt' (N + 99) := fun h => ⟨Pn_le h.1 (by omega), h.2⟩
  unfold duV at hd
  unfold duR
  have send : ∀ {re : Int32}, (D (12 * i) = 0 ∨ D (12 * i) = 1) → Ds nr D i → ∃ nw' nt' tm', Iv (if D (12 * i) = 0 ∨ D (12 * i) = 1 then ntu row (tn (row 2)) (tn (D (12 * i + 3))) (fun j => D (12 * i + 4 + j)) (D (12 * i + 1)) (D (12 * i + 2)) 0 (if D (12 * i) = 1 then 1 else 0)
      else if D (12 * i) = 2 then goF row nr (tn (row 1)) (tn (D (12 * i + 1)))
      else if D (12 * i) = 3 then gcF row (tn (D (12 * i + 1))) (D (12 * i + 2))
      else if D (12 * i) = 4 then cuF row (tn (row 1)) (wyI row (tn (row 1)) (D (12 * i + 1)) (D (12 * i + 2))).toNatClampNeg
      else upd row (tn (D (12 * i + 1))) (D (12 * i + 2))) nr nw' nt' (N + 99) ∧ (if D (12 * i) = 0 ∨ D (12 * i) = 1 then ntu row (tn (row 2)) (tn (D (12 * i + 3))) (fun j => D (12 * i + 4 + j)) (D (12 * i + 1)) (D (12 * i + 2)) 0 (if D (12 * i) = 1 then 1 else 0)
      else if D (12 * i) = 2 then goF row nr (tn (row 1)) (tn (D (12 * i + 1)))
      else if D (12 * i) = 3 then gcF row (tn (D (12 * i + 1))) (D (12 * i + 2))
      else if D (12 * i) = 4 then cuF row (tn (row 1)) (wyI row (tn (row 1)) (D (12 * i + 1)) (D (12 * i + 2))).toNatClampNeg
      else upd row (tn (D (12 * i + 1))) (D (12 * i + 2))) 3 = nI tm' ∧ tm' ≤ 9999 := by
    intro re hk hds
    obtain ⟨a, c, k, q1, q2, q3, q4, q5, q6, q7, q8, q9⟩ := hds
    rw [if_pos hk] at hd
    rw [if_pos hk, e2, q4, q5, q6, tn_nI (by omega)]
    have hlt : nt < 30 := by
      rw [e2] at hd
      by_cases z : nt < 30
      · exact z
      · rw [if_neg z] at hd
        exact absurd rfl hd
    refine ⟨nw, nt + 1, tm, ⟨ntu_G hG hlt q7 q8 q1 q2 q3, JN (ntu_J hG hJ q8 (Or.inl rfl) (by split <;> simp) q9)⟩, ?_, h9⟩
    rw [ntu_out q8 (by omega) (by omega) (by omega) (by omega)]
    exact htm
  rcases hv with ⟨hk, hds⟩ | ⟨hk, hds⟩ | ⟨hk, t1, ht1, ht2, h1⟩ | ⟨hk, a1, co, ha, hco, hc9, h1, h2⟩ | ⟨hk, a1, c1, ha, hc, hac, h1, h2⟩ | ⟨hk, u1, v1, hu4, hu6, h1, h2, hlo, hhi, hv60⟩
  · exact send (re := 0) (Or.inl hk) hds
  · exact send (re := 0) (Or.inr hk) hds
  · have n01 : ¬ (D (12 * i) = 0 ∨ D (12 * i) = 1) := by rw [hk]; decide
    rw [if_neg n01, if_pos hk, e3, h1, tn_nI (by omega)] at hd
    rw [if_neg n01, if_pos hk, e1, h1, tn_nI (by omega)]
    have hle : tm + t1 ≤ 9999 := by
      by_cases z : tm + t1 ≤ 9999
      · exact z
      · rw [if_neg z] at hd
        exact absurd rfl hd
    obtain ⟨n1, g1, g2, g3, g4⟩ := go_J hG hJ (by omega) htm t1 (by omega)
    exact ⟨nw, n1, tm + t1, ⟨g2, JN g4⟩, g3, hle⟩
  · have n01 : ¬ (D (12 * i) = 0 ∨ D (12 * i) = 1) := by rw [hk]; decide
    have n2 : ¬ D (12 * i) = 2 := by rw [hk]; decide
    rw [if_neg n01, if_neg n2, if_pos hk, h1, h2, tn_nI (by omega)]
    exact ⟨nw, nt, tm, gc_I hI hN ha hc9, (gc_out (by omega) (by omega)).trans htm, h9⟩
  · have n01 : ¬ (D (12 * i) = 0 ∨ D (12 * i) = 1) := by rw [hk]; decide
    have n2 : ¬ D (12 * i) = 2 := by rw [hk]; decide
    have n3 : ¬ D (12 * i) = 3 := by rw [hk]; decide
    rw [if_neg n01, if_neg n2, if_neg n3, if_pos hk, e1] at hd
    rw [if_neg n01, if_neg n2, if_neg n3, if_pos hk, e1]
    have hne : ¬ wyI row nw (D (12 * i + 1)) (D (12 * i + 2)) = -1 := by
      intro z
      rw [if_neg (fun q => q z)] at hd
      exact hd rfl
    obtain ⟨i1, hi1, hie⟩ := wyI_nat hne
    rw [hie, nI_clamp (by omega)]
    have hc := cu_I hI hi1
    exact ⟨nw - 1, nt, tm, ⟨hc.1, JN hc.2⟩, (cu_out (by omega) (by omega) h20).trans htm, h9⟩
  · have n01 : ¬ (D (12 * i) = 0 ∨ D (12 * i) = 1) := by rw [hk]; decide
    have n2 : ¬ D (12 * i) = 2 := by rw [hk]; decide
    have n3 : ¬ D (12 * i) = 3 := by rw [hk]; decide
    have n4 : ¬ D (12 * i) = 4 := by rw [hk]; decide
    rw [if_neg n01, if_neg n2, if_neg n3, if_neg n4, h1, h2, tn_nI (by omega)]
    have hc := se_I hI hu4 hu6 hv60 hlo hhi
    exact ⟨nw, nt, tm, ⟨hc.1, JN hc.2⟩, (pk_un (by omega)).trans htm, h9⟩

set_option maxRecDepth 100000
/-- what holds of a tune -/
def Tf (row : Nat → Int32) (nr t : Nat) : Prop := row (220 + 27 * t) = nI (ts row t) ∧ row (220 + 27 * t + 1) = nI (tg row t) ∧ row (220 + 27 * t + 2) = nI (tno row t) ∧ row (220 + 27 * t + 4) = nI (ta row t) ∧ ts row t < nr ∧ tg row t < nr ∧ ta row t < nr ∧ ts row t ≠ tg row t ∧ 1 ≤ tno row t ∧ tno row t ≤ 8
theorem Gw_gen {row row' : Nat → Int32} {nr nw nt nt' : Nat} (hG : Gw row nr nw nt) (hk : ∀ j, Kp j → j ≠ 2 → j < 220 → row' j = row j) (h2 : row' 2 = nI nt') (h30 : nt' ≤ 30) (ht : ∀ t, t < nt' → Tf row' nr t ∧ Sw row' t) : Gw row' nr nw nt' := by
  obtain ⟨h0, hw, hT, hR, hS⟩ := hG
  have h10 := hw.2.2.1
  have h20 := hw.2.1
  refine ⟨(hk 0 (Or.inl (by omega)) (by omega) (by omega)).trans h0, ⟨(hk 1 (Or.inl (by omega)) (by omega) (by omega)).trans hw.1, hw.2.1, hw.2.2.1, ?_⟩, ⟨h2, h30, hT.2.2.1, fun t h => (ht t h).1⟩, ?_, fun t h => (ht t h).2⟩
  · intro i hi
    have := hw.2.2.2 i hi
    unfold ea eb ef
    rw [hk (160 + 3 * i) (by unfold Kp; omega) (by omega) (by omega), hk (160 + 3 * i + 1) (by unfold Kp; omega) (by omega) (by omega), hk (160 + 3 * i + 2) (by unfold Kp; omega) (by omega) (by omega)]
    exact this
  · intro k hlt
    have := hR k hlt
    unfold nl at this ⊢
    rw [hk (25 + 13 * k) (by unfold Kp; omega) (by omega) (by omega), hk (25 + 13 * k + 7) (by unfold Kp; omega) (by omega) (by omega), hk (25 + 13 * k + 8) (by unfold Kp; omega) (by omega) (by omega)]
    exact this
theorem Tf_keep {row row' : Nat → Int32} {nr t : Nat} (h : Tf row nr t ∧ Sw row t) (hk : ∀ d, d ≤ 5 → row' (220 + 27 * t + d) = row (220 + 27 * t + d)) : Tf row' nr t ∧ Sw row' t := by
  have e0 := hk 0 (by omega)
  have e1 := hk 1 (by omega)
  have e2 := hk 2 (by omega)
  have e3 := hk 3 (by omega)
  have e4 := hk 4 (by omega)
  have e5 := hk 5 (by omega)
  rw [Nat.add_zero] at e0
  have s0 : ts row' t = ts row t := by unfold ts; rw [e0]
  have s1 : tg row' t = tg row t := by unfold tg; rw [e1]
  have s2 : tno row' t = tno row t := by unfold tno; rw [e2]
  have s4 : ta row' t = ta row t := by unfold ta; rw [e4]
  unfold Tf Sw at h ⊢
  rw [s0, s1, s2, s4, e0, e1, e2, e3, e4, e5]
  exact h
theorem ntu_out {row : Nat → Int32} {nt mny j : Nat} {su : Nat → Int32} {se go re wa : Int32} (hm : mny ≤ 8) (h2 : j ≠ 2) (h11 : j ≠ 11) (h12 : j ≠ 12) (h : j < 220 + 27 * nt ∨ 220 + 27 * nt + 27 ≤ j) : ntu row nt mny su se go re wa j = row j := by
  unfold ntu
  rw [cn_out (by omega), cn_out (by omega), pk_un h2, he_out (by omega), ub_out _ _ _ _ (by omega), nt1_lo h]
theorem ntu_in {row : Nat → Int32} {nt mny d : Nat} {su : Nat → Int32} {se go re wa : Int32} (hd : d ≤ 10) : ntu row nt mny su se go re wa (220 + 27 * nt + d) = nt1 row nt mny se go re wa (220 + 27 * nt + d) := by
  unfold ntu
  rw [cn_out (by omega), cn_out (by omega), pk_un (by omega), he_out (by omega), ub_out _ _ _ _ (by omega)]
theorem ntu_G {row : Nat → Int32} {nr nw nt no se go : Nat} {su : Nat → Int32} {re wa : Int32} (hG : Gw row nr nw nt) (h30 : nt < 30) (hn1 : 1 ≤ no) (hn8 : no ≤ 8) (hs : se < nr) (hg : go < nr) (hne : se ≠ go) : Gw (ntu row nt no su (nI se) (nI go) re wa) nr nw (nt + 1) := by
  have h10 := hG.2.1.2.2.1
  refine Gw_gen hG (fun j h h2 h3 => ntu_out hn8 h2 (by unfold Kp at h; omega) (by unfold Kp at h; omega) (by omega)) ?_ (by omega) ?_
  · unfold ntu
    rw [cn_out (by omega), cn_out (by omega), pk_us]
  · intro t ht
    by_cases e : t = nt
    · subst e
      have e0 : ntu row t no su (nI se) (nI go) re wa (220 + 27 * t) = nI se := by
        have := ntu_in (row := row) (nt := t) (mny := no) (su := su) (se := nI se) (go := nI go) (re := re) (wa := wa) (d := 0) (by omega)
        rw [Nat.add_zero] at this
        rw [this]
        unfold nt1
        rw [pk_un (by omega), pk_un (by omega), pk_un (by omega), pk_un (by omega), pk_un (by omega), pk_un (by omega), Nat.add_zero, pk_us]
      have e1 : ntu row t no su (nI se) (nI go) re wa (220 + 27 * t + 1) = nI go := by
        rw [ntu_in (by omega)]
        unfold nt1
        rw [pk_un (by omega), pk_un (by omega), pk_un (by omega), pk_un (by omega), pk_un (by omega), pk_us]
      have e2 : ntu row t no su (nI se) (nI go) re wa (220 + 27 * t + 2) = nI no := by
        rw [ntu_in (by omega)]
        unfold nt1
        rw [pk_un (by omega), pk_un (by omega), pk_un (by omega), pk_un (by omega), pk_us]
      have e3 : ntu row t no su (nI se) (nI go) re wa (220 + 27 * t + 3) = nI 0 := by
        rw [ntu_in (by omega)]
        unfold nt1
        rw [pk_un (by omega), pk_un (by omega), pk_un (by omega), pk_un (by omega), pk_un (by omega), pk_un (by omega), pk_un (by omega), ub_in _ _ _ _ (by omega) (by omega)]
        rfl
      have e4 : ntu row t no su (nI se) (nI go) re wa (220 + 27 * t + 4) = nI se := by
        rw [ntu_in (by omega)]
        unfold nt1
        rw [pk_un (by omega), pk_un (by omega), pk_un (by omega), pk_us]
      have e5 : ntu row t no su (nI se) (nI go) re wa (220 + 27 * t + 5) = -1 := by
        rw [ntu_in (by omega)]
        unfold nt1
        rw [pk_un (by omega), pk_un (by omega), pk_us]
      have s0 : ts (ntu row t no su (nI se) (nI go) re wa) t = se := by unfold ts; rw [e0, nI_clamp (by omega)]
      have s1 : tg (ntu row t no su (nI se) (nI go) re wa) t = go := by unfold tg; rw [e1, nI_clamp (by omega)]
      have s2 : tno (ntu row t no su (nI se) (nI go) re wa) t = no := by unfold tno; rw [e2, nI_clamp (by omega)]
      have s4 : ta (ntu row t no su (nI se) (nI go) re wa) t = se := by unfold ta; rw [e4, nI_clamp (by omega)]
      unfold Tf Sw
      rw [s0, s1, s2, s4]
      refine ⟨⟨e0, e1, e2, e4, hs, hg, hs, hne, hn1, hn8⟩, 0, e3, by omega, by omega, fun _ => hne, ?_⟩
      exact ⟨fun q => by omega, fun q => absurd e5 q⟩
    · exact Tf_keep ⟨hG.2.2.1.2.2.2 t (by omega), hG.2.2.2.2 t (by omega)⟩ fun d hd => ntu_out hn8 (by omega) (by omega) (by omega) (by omega)
/-- what comes leaves what holds -/
theorem cm3_kp {row : Nat → Int32} {t j : Nat} (h1 : 1 ≤ tno row t) (h8 : tno row t ≤ 8) (hj : Kp j) : cm3 row t j = row j := by
  unfold Kp at hj
  exact cm3_out h1 h8 (by omega) (by omega) (by omega) (by omega)
theorem cm_G {row : Nat → Int32} {nr nw nt t : Nat} (hG : Gw row nr nw nt) (ht : t < nt) : ∃ nt', nt ≤ nt' ∧ Gw (cmF row nt t) nr nw nt' := by
  obtain ⟨g1, g2, g3, g4, g5, g6, g7, g8, g9, g10⟩ := hG.2.2.1.2.2.2 t ht
  have h30 := hG.2.2.1.2.1
  have h10 := hG.2.1.2.2.1
  unfold cmF
  by_cases c1 : row (220 + 27 * t + 4) = row (220 + 27 * t + 1)
  · have hat : ta row t = tg row t := by rw [g4, g2, nI_eq (by omega) (by omega)] at c1; exact c1
    rw [if_neg (fun q => q c1)]
    by_cases c2 : 0 < ulk (blF row t) t (tno row t) ∧ row (220 + 27 * t + 8) < row 6
    · rw [if_pos c2]
      refine ⟨nt, Nat.le_refl _, Gw_keep hG (fun j hj => ?_) (fun t' ht' => ?_)⟩
      · have hj' := hj
        unfold Kp at hj'
        unfold cmA
        rw [cn_out (by omega), pk_un (by omega), he_out (by omega), pk_un (by omega), cm3_kp g9 g10 hj]
      · by_cases e : t' = t
        · subst e
          refine Gw_st hG ht' (a := ts row t') (st := 0) ?_ ?_ g5 ?_ (by omega) (by omega) (fun _ => g8) ?_
          · unfold cmA
            rw [cn_out (by omega), pk_un (by omega), he_out (by omega), pk_un (by omega), cm3_kp g9 g10 (by unfold Kp; omega)]
          · unfold cmA
            rw [cn_out (by omega), pk_us, g1]
          · unfold cmA
            rw [cn_out (by omega), pk_un (by omega), he_out (by omega), pk_un (by omega)]
            unfold cm3
            rw [pk_us]
            rfl
          · refine ⟨fun q => by omega, fun q => absurd ?_ q⟩
            unfold cmA
            rw [cn_out (by omega), pk_un (by omega), he_out (by omega), pk_un (by omega)]
            unfold cm3
            rw [pk_un (by omega), pk_us]
        · refine Gw_tn hG ht' ?_ ?_ ?_ ?_
          all_goals
            unfold cmA
            rw [cn_out (by omega), pk_un (by omega), he_out (by omega), pk_un (by omega), cm3_out g9 g10 (by omega) (by omega) (by omega) (by omega)]
    · rw [if_neg c2]
      have hB : Gw (cmB row t (ulk (blF row t) t (tno row t))) nr nw nt := by
        refine Gw_keep hG (fun j hj => ?_) (fun t' ht' => ?_)
        · have hj' := hj
          unfold Kp at hj'
          unfold cmB
          rw [cn_out (by omega), cn_out (by omega), pk_un (by omega), cm3_kp g9 g10 hj]
        · by_cases e : t' = t
          · subst e
            refine Gw_st hG ht' (a := ta row t') (st := 2) ?_ ?_ g7 ?_ (by omega) (fun _ => hat) (fun q => by omega) ?_
            · unfold cmB
              rw [cn_out (by omega), cn_out (by omega), pk_un (by omega), cm3_kp g9 g10 (by unfold Kp; omega)]
            · unfold cmB
              rw [cn_out (by omega), cn_out (by omega), pk_un (by omega), cm3_out g9 g10 (by omega) (by omega) (by omega) (by omega)]
              exact g4
            · unfold cmB
              rw [cn_out (by omega), cn_out (by omega), pk_us]
              rfl
            · refine ⟨fun q => by omega, fun q => absurd ?_ q⟩
              unfold cmB
              rw [cn_out (by omega), cn_out (by omega), pk_un (by omega)]
              unfold cm3
              rw [pk_un (by omega), pk_us]
          · refine Gw_tn hG ht' ?_ ?_ ?_ ?_
            all_goals
              unfold cmB
              rw [cn_out (by omega), cn_out (by omega), pk_un (by omega), cm3_out g9 g10 (by omega) (by omega) (by omega) (by omega)]
      unfold rpF
      by_cases c3 : cmB row t (ulk (blF row t) t (tno row t)) (220 + 27 * t + 7) = 0 ∨ 0 < ulk (cmB row t (ulk (blF row t) t (tno row t))) t (tno row t) ∨ nt = 30
      · rw [if_pos c3]
        exact ⟨nt, Nat.le_refl _, hB⟩
      · rw [if_neg c3]
        refine ⟨nt + 1, by omega, ?_⟩
        have e1 : cmB row t (ulk (blF row t) t (tno row t)) (220 + 27 * t + 1) = nI (tg row t) := by
          unfold cmB
          rw [cn_out (by omega), cn_out (by omega), pk_un (by omega), cm3_kp g9 g10 (by unfold Kp; omega), g2]
        have e0 : cmB row t (ulk (blF row t) t (tno row t)) (220 + 27 * t) = nI (ts row t) := by
          unfold cmB
          rw [cn_out (by omega), cn_out (by omega), pk_un (by omega), cm3_kp g9 g10 (by unfold Kp; omega), g1]
        rw [e0, e1]
        exact ntu_G hB (by have : nt ≠ 30 := fun q => c3 (Or.inr (Or.inr q)); omega) g9 g10 g6 g5 (fun q => g8 q.symm)
  · rw [if_pos c1]
    have hat : ta row t ≠ tg row t := by rw [g4, g2, nI_eq (by omega) (by omega)] at c1; exact c1
    refine ⟨nt, Nat.le_refl _, Gw_keep hG (fun j hj => cm3_kp g9 g10 hj) (fun t' ht' => ?_)⟩
    by_cases e : t' = t
    · subst e
      refine Gw_st hG ht' (a := ta row t') (st := 0) (cm3_kp g9 g10 (by unfold Kp; omega)) ?_ g7 ?_ (by omega) (by omega) (fun _ => hat) ?_
      · rw [cm3_out g9 g10 (by omega) (by omega) (by omega) (by omega)]
        exact g4
      · unfold cm3
        rw [pk_us]
        rfl
      · refine ⟨fun q => by omega, fun q => absurd ?_ q⟩
        unfold cm3
        rw [pk_un (by omega), pk_us]
    · refine Gw_tn hG ht' ?_ ?_ ?_ ?_
      all_goals exact cm3_out g9 g10 (by omega) (by omega) (by omega) (by omega)

set_option maxRecDepth 100000
/-! ===== one tune more ===== -/
theorem nu_f {row su : Nat → Int32} {nt no : Nat} {se go re wa : Int32} : ntu row nt no su se go re wa (220 + 27 * nt) = se ∧ ntu row nt no su se go re wa (220 + 27 * nt + 1) = go ∧ ntu row nt no su se go re wa (220 + 27 * nt + 2) = nI no ∧ ntu row nt no su se go re wa (220 + 27 * nt + 3) = 0 ∧ ntu row nt no su se go re wa (220 + 27 * nt + 4) = se ∧ ntu row nt no su se go re wa (220 + 27 * nt + 5) = -1 ∧ ntu row nt no su se go re wa (220 + 27 * nt + 6) = re ∧ ntu row nt no su se go re wa (220 + 27 * nt + 7) = wa ∧ ntu row nt no su se go re wa (220 + 27 * nt + 8) = 0 ∧ ntu row nt no su se go re wa (220 + 27 * nt + 9) = 0 ∧ ntu row nt no su se go re wa (220 + 27 * nt + 10) = 0 := by
  refine ⟨(ntu_in (d := 0) (by omega)).trans ?_, (ntu_in (d := 1) (by omega)).trans ?_, (ntu_in (d := 2) (by omega)).trans ?_, (ntu_in (d := 3) (by omega)).trans ?_, (ntu_in (d := 4) (by omega)).trans ?_, (ntu_in (d := 5) (by omega)).trans ?_, (ntu_in (d := 6) (by omega)).trans ?_, (ntu_in (d := 7) (by omega)).trans ?_, (ntu_in (d := 8) (by omega)).trans ?_, (ntu_in (d := 9) (by omega)).trans ?_, (ntu_in (d := 10) (by omega)).trans ?_⟩ <;> unfold nt1 <;> repeat (first | rw [pk_us] | rw [pk_un (by omega)] | rw [ub_in _ _ _ _ (by omega) (by omega)])
theorem nu_tno {row su : Nat → Int32} {nt no : Nat} {se go re wa : Int32} (h : no ≤ 8) : tno (ntu row nt no su se go re wa) nt = no := by
  unfold tno
  rw [nu_f.2.2.1, nI_clamp (by omega)]
theorem tuN_new {tu sn hd : Nat → Nat} {t1 sn0 hd1 nt no : Nat} {row su : Nat → Int32} {se go re wa : Int32} : tuN (llU tu nt t1) (llU sn nt sn0) (llU hd nt hd1) (ntu row nt no su se go re wa) nt = (t1, .inl (7, [.int (nI nt), .int se, .int go, .ref sn0, .ref hd1, .int re, .int wa, .int se, .int 0, .int (-1), .int 0, .int 0, .int 0])) := by
  obtain ⟨h0, h1, h2, h3, h4, h5, h6, h7, h8, h9, h10⟩ := nu_f (row := row) (su := su) (nt := nt) (no := no) (se := se) (go := go) (re := re) (wa := wa)
  unfold tuN
  rw [llU_n, llU_n, llU_n, h0, h1, h3, h4, h5, h6, h7, h8, h9, h10]
theorem tuN_eq {tu sn hd tu' sn' hd' : Nat → Nat} {row row' : Nat → Int32} {t : Nat} (h1 : tu' t = tu t) (h2 : sn' t = sn t) (h3 : hd' t = hd t) (h : ∀ d, d < 11 → row' (220 + 27 * t + d) = row (220 + 27 * t + d)) : tuN tu' sn' hd' row' t = tuN tu sn hd row t := by
  unfold tuN
  rw [h1, h2, h3, show row' (220 + 27 * t) = row (220 + 27 * t) from h 0 (by omega), h 1 (by omega), h 3 (by omega), h 4 (by omega), h 5 (by omega), h 6 (by omega), h 7 (by omega), h 8 (by omega), h 9 (by omega), h 10 (by omega)]
theorem heN_eq {g : gg_G} {hd hd' : Nat → Nat} {row row' : Nat → Int32} {t : Nat} (h3 : hd' t = hd t) (h : ∀ d, d = 2 ∨ (19 ≤ d ∧ d < 27) → row' (220 + 27 * t + d) = row (220 + 27 * t + d)) (h8 : tno row t ≤ 8) : heN g hd' row' t = heN g hd row t := by
  unfold heN
  have e : tno row' t = tno row t := by
    unfold tno
    rw [h 2 (Or.inl rfl)]
  rw [h3, e]
  exact congrArg (fun z => (hd t, z)) (gg_ai_congr fun j hj => by have := h (19 + j) (Or.inr ⟨by omega, by omega⟩); rw [← Nat.add_assoc] at this; exact this)
theorem heN_new {g : gg_G} {hd : Nat → Nat} {hd1 nt no : Nat} {row su : Nat → Int32} {se go re wa : Int32} (h8 : no ≤ 8) : heN g (llU hd nt hd1) (ntu row nt no su se go re wa) nt = (hd1, gg_ai g no su) := by
  unfold heN
  rw [llU_n, nu_tno h8]
  exact congrArg (fun z => (hd1, z)) (gg_ai_congr fun j hj => (ntu_n h8 hj).2)
theorem lsF_push {f : Nat → Nat} {n a : Nat} : va_up (lsF f n) n (some a) = lsF (llU f n a) (n + 1) := by
  funext j
  unfold va_up lsF llU
  by_cases e : j = n
  · rw [if_pos e, if_pos (by omega), if_pos e]
  · by_cases q : j < n
    · rw [if_neg e, if_pos q, if_pos (by omega), if_neg e]
    · rw [if_neg e, if_neg q, if_neg (by omega)]
theorem acc2 {row B : Nat → Int32} {re : Int32} {j : Nat} (hin : ∀ i, 10 ≤ i → i < 21 → B i = row i) (hj : j < 11) : upd (upd (fun j => row (10 + j)) 1 (row (10 + 1) + 1)) 2 (row (10 + 2) + re) j = cn (cn B 1 1) 2 re (10 + j) := by
  have r1 : ∀ i, i ≠ 10 + 1 → cn B 1 1 i = B i := fun i h => cn_out h
  have r11 : cn B 1 1 (10 + 1) = B (10 + 1) + 1 := pk_us
  have r2 : cn (cn B 1 1) 2 re (10 + 2) = cn B 1 1 (10 + 2) + re := pk_us
  by_cases e2 : j = 2
  · subst e2
    have hl : upd (upd (fun j => row (10 + j)) 1 (row (10 + 1) + 1)) 2 (row (10 + 2) + re) 2 = row (10 + 2) + re := pk_us
    rw [hl, r2, r1 _ (by omega), hin _ (by omega) (by omega)]
  · have hl : upd (upd (fun j => row (10 + j)) 1 (row (10 + 1) + 1)) 2 (row (10 + 2) + re) j = upd (fun j => row (10 + j)) 1 (row (10 + 1) + 1) j := pk_un e2
    have hr : cn (cn B 1 1) 2 re (10 + j) = cn B 1 1 (10 + j) := cn_out (by omega)
    rw [hl, hr]
    by_cases e1 : j = 1
    · subst e1
      have h3 : upd (fun j => row (10 + j)) 1 (row (10 + 1) + 1) 1 = row (10 + 1) + 1 := pk_us
      rw [h3, r11, hin _ (by omega) (by omega)]
    · have h3 : upd (fun j => row (10 + j)) 1 (row (10 + 1) + 1) j = row (10 + j) := pk_un e1
      rw [h3, r1 _ (by omega), hin _ (by omega) (by omega)]
theorem nu_ac {row su : Nat → Int32} {nt no j : Nat} {se go re wa : Int32} (h8 : no ≤ 8) (hj : j < 11) : upd (upd (fun j => row (10 + j)) 1 (row (10 + 1) + 1)) 2 (row (10 + 2) + re) j = ntu row nt no su se go re wa (10 + j) :=
  acc2 (fun i h1 h2 => by rw [pk_un (by omega), he_out (by omega), ub_out _ _ _ _ (by omega), nt1_lo (by omega)]) hj
set_option maxHeartbeats 4000000 in
theorem ct_X1_oneR {l : Launch} (hl : l.stackTraces = false) {g : gg_G}  {z : Int32} (hz : z = 0 ∨ z = 1) : gg_C l g yX1_one (ws_ yX1_one cX1_one 1 (some .int)) { frames := 0, cells := 0, slots := 0, locals := 0 } [.int z] [] [] (fun vv CC => vv = some (.int z) ∧ CC = []) gg_no := by
  refine gg_of (lv := [_]) (by decide) hl (Nat.le_of_ble_eq_true rfl) rfl ?_
  intro p e R s m args below meth c A Q hRf hRl hRc hRs E Fn hnm hex
  refine gg_iload_n (pc := 0) E dX1_one_0 rfl rfl ?_
  refine gg_ifB_eq (pc := 1) E dX1_one_1 dX1_one_4 dX1_one_5 dX1_one_8 ?_
  refine gg_iret (pc := 9) E Fn rfl (rfl) dX1_one_9 (by first | exact Nat.le_of_ble_eq_true rfl | (dsimp only; omega)) (by first | exact Nat.le_of_ble_eq_true rfl | (dsimp only; omega)) ?_
  rcases hz with rfl | rfl <;> exact ⟨rfl, rfl⟩
set_option maxHeartbeats 4000000 in
theorem ct_X2_sends {l : Launch} (hl : l.stackTraces = false) {g : gg_G}  {w : Nat} {ad : Nat → Nat} {t7 c7 : Int32} {v7 : Value} {tu sn hd : Nat → Nat} {m3 : Int32} {nt : Nat} {row : Nat → Int32} {sn0 no : Nat} {sf : Nat → Int32} {se go re wa : Int32} (ht30 : nt ≤ 30) (hn8 : no ≤ 8) (hre : re = 0 ∨ re = 1) (hwa : wa = 0 ∨ wa = 1) (ht8 : ∀ t, t < nt → tno row t ≤ 8) : gg_C l g yX2_sends (ws_ yX2_sends cX2_sends 6 (some .int)) { frames := 9, cells := 3, slots := 6 + 13 + no, locals := 161 } [.ref w, .int se, .int go, .int re, .int wa, .ref sn0] [(w, .inl (1, [.ref (ad 1), .ref (ad 3), .ref (ad 4), .ref (ad 6), .ref (ad 7), .int t7, .int c7, v7])), (sn0, gg_ai g no sf)] [[((ad 4), .inl (11, [.int m3, .ref (ad 5), .int (nI nt)]))], [((ad 5), gg_ao g 4 30 (lsF tu nt))], (mp (tuN tu sn hd row) (nt)), (mp (heN g hd row) (nt)), [((ad 7), gg_ai g 11 (fun j => row (10 + j)))]] (fun vv CC => ∃ (t1 hd1 : Nat), (nt < 30) ∧ vv = some (.int (nI nt)) ∧ CC = [[((ad 4), .inl (11, [.int (m3 + 1), .ref (ad 5), .int (nI (nt + 1))]))], [((ad 5), gg_ao g 4 30 (lsF (llU tu nt t1) (nt + 1)))], (mp (tuN (llU tu nt t1) (llU sn nt sn0) (llU hd nt hd1) (ntu row nt no sf se go re wa)) (nt + 1)), (mp (heN g (llU hd nt hd1) (ntu row nt no sf se go re wa)) (nt + 1)), [((ad 7), gg_ai g 11 (fun j => (ntu row nt no sf se go re wa) (10 + j)))]]) (fun X q CC => X = "java/lang/IllegalStateException" ∧ ¬ nt < 30 ∧ CC = [[((ad 4), .inl (11, [.int m3, .ref (ad 5), .int (nI nt)]))], [((ad 5), gg_ao g 4 30 (lsF tu nt))], (mp (tuN tu sn hd row) (nt)), (mp (heN g hd row) (nt)), [((ad 7), gg_ai g 11 (fun j => row (10 + j)))]]) := by
  refine gg_of (lv := [_, _, _, _, _, _]) (by decide) hl (Nat.le_of_ble_eq_true rfl) rfl ?_
  intro p e R s m args below meth c A Q hRf hRl hRc hRs E Fn hnm hex
  refine gg_aload_n (pc := 0) E dX2_sends_0 rfl rfl ?_
  refine gg_get (pc := 1) E ck_X2 2 q604 rfl (by decide) dX2_sends_1 (gg_r 0 rfl) rfl ?_
  refine gg_callF (F := [_, _, _, _, _]) (As := []) (rest := []) (pc := 4) E ck_J2 (ct_J2_size hl ) (gg_cwF 0 E (x := ⟨"java/util/List", "size", "()I"⟩) (by decide) nq1046 nq1044 nq683 (lw_app (lw_in _ [1095, 1043, 1045, 155] (by decide +kernel) (by decide +kernel)) (lw_meth q1047)) (by decide +kernel) ⟨by rw [hRf]; exact Nat.le_of_ble_eq_true rfl, by rw [hRl]; exact Nat.le_of_ble_eq_true rfl⟩) dX2_sends_4 [] (by decide) rfl rfl (List.forall_mem_cons.mpr ⟨(gg_i 0 rfl), (fun _ h => by cases h)⟩) (gg_i 0 rfl) rfl rfl (Nat.le_of_ble_eq_true rfl) (by first | (rw [hRc]; exact Nat.le_of_ble_eq_true rfl) | (rw [hRc]; dsimp only; omega)) (by first | (rw [hRs]; exact Nat.le_of_ble_eq_true rfl) | (rw [hRs]; dsimp only; omega)) ?_ (fun X q C1 h => h.elim)
  rintro _ _ ⟨rfl, rfl⟩
  dsimp only [List.cons_append, List.nil_append, Option.toList]
  refine gg_bipush (v := 30) (pc := 9) E dX2_sends_9 (by decide) ?_
  refine gg_icmpN_ge (tgt := 18) (pc := 11) E nt 30 rfl rfl (by omega) (by omega) dX2_sends_11 (by decide) (fun c11 => ?_) (fun c11 => ?_)
  · refine gg_iconst (v := 0) (pc := 18) E dX2_sends_18 (by decide) ?_
    refine gg_callSN (F := [_, _, _, _, _]) (As := [_]) (rest := []) (pc := 19) E (ct_X1_needState hl ) ⟨va_cnB 1 E.2.2.2.2.1 (lw_meth q1542) rfl rfl rfl (E.2.2.2.2.2.1.2.1 _ nq1540) (E.2.2.2.2.1 _ q151) (by decide +kernel) ⟨by rw [hRf]; exact Nat.le_of_ble_eq_true rfl, by rw [hRl]; exact Nat.le_of_ble_eq_true rfl⟩, E.2.2.2.2.1 _ q1541, trivial⟩ dX2_sends_19 [] (by decide) rfl rfl (fun _ h => by cases h) rfl rfl (Nat.le_of_ble_eq_true rfl) (by first | (rw [hRc]; exact Nat.le_of_ble_eq_true rfl) | (rw [hRc]; dsimp only; omega)) (by first | (rw [hRs]; exact Nat.le_of_ble_eq_true rfl) | (rw [hRs]; dsimp only; omega)) ?_ ?_
    · rintro _ _ ⟨hq, rfl, rfl⟩
      dsimp only [List.cons_append, List.nil_append, Option.toList]
      exact absurd rfl hq
    · rintro X q _ ⟨rfl, hx0, rfl⟩
      dsimp only [List.cons_append, List.nil_append, Option.toList]
      refine gg_xout E Fn (fun x hx => (hex x hx).elim) (by first | exact Nat.le_of_ble_eq_true rfl | (dsimp only; omega)) (by first | exact Nat.le_of_ble_eq_true rfl | (dsimp only; omega)) ?_
      exact ⟨rfl, by omega, rfl⟩
  · refine gg_iconst (v := 1) (pc := 14) E dX2_sends_14 (by decide) ?_
    refine gg_goto (tgt := 19) (pc := 15) E dX2_sends_15 (by decide) ?_
    refine gg_callSN (F := [_, _, _, _, _]) (As := [_]) (rest := []) (pc := 19) E (ct_X1_needState hl ) ⟨va_cnB 1 E.2.2.2.2.1 (lw_meth q1542) rfl rfl rfl (E.2.2.2.2.2.1.2.1 _ nq1540) (E.2.2.2.2.1 _ q151) (by decide +kernel) ⟨by rw [hRf]; exact Nat.le_of_ble_eq_true rfl, by rw [hRl]; exact Nat.le_of_ble_eq_true rfl⟩, E.2.2.2.2.1 _ q1541, trivial⟩ dX2_sends_19 [] (by decide) rfl rfl (fun _ h => by cases h) rfl rfl (Nat.le_of_ble_eq_true rfl) (by first | (rw [hRc]; exact Nat.le_of_ble_eq_true rfl) | (rw [hRc]; dsimp only; omega)) (by first | (rw [hRs]; exact Nat.le_of_ble_eq_true rfl) | (rw [hRs]; dsimp only; omega)) ?_ ?_
    · rintro _ _ ⟨hq, rfl, rfl⟩
      dsimp only [List.cons_append, List.nil_append, Option.toList]
      refine gg_aload_n (pc := 22) E dX2_sends_22 rfl rfl ?_
      refine gg_get (pc := 23) E ck_X2 2 q604 rfl (by decide) dX2_sends_23 (gg_r 0 rfl) rfl ?_
      refine gg_new (fs := [.int 0, .int 0, .int 0, .null, .null, .int 0, .int 0, .int 0, .int 0, .int 0, .int 0, .int 0, .int 0]) (pc := 26) E ck_X8 q1558 q1559 q192 dX2_sends_26 (gg_fsX8) (by first | (rw [hRc]; exact Nat.le_of_ble_eq_true rfl) | (rw [hRc]; dsimp only; omega)) (by first | (rw [hRs]; exact Nat.le_of_ble_eq_true rfl) | (rw [hRs]; dsimp only; omega)) (fun _ => rfl) (fun a1 => ?_)
      dsimp only [List.cons_append, List.nil_append]
      refine gg_dup (pc := 29) E dX2_sends_29 rfl ?_
      refine gg_aload_n (pc := 30) E dX2_sends_30 rfl rfl ?_
      refine gg_get (pc := 31) E ck_X2 2 q604 rfl (by decide) dX2_sends_31 (gg_r 0 rfl) rfl ?_
      refine gg_callF (F := [_, _, _, _, _, _]) (As := []) (rest := [_, _, _]) (pc := 34) E ck_J2 (ct_J2_size hl ) (gg_cwF 0 E (x := ⟨"java/util/List", "size", "()I"⟩) (by decide) nq1046 nq1044 nq683 (lw_app (lw_in _ [1095, 1043, 1045, 155] (by decide +kernel) (by decide +kernel)) (lw_meth q1047)) (by decide +kernel) ⟨by rw [hRf]; exact Nat.le_of_ble_eq_true rfl, by rw [hRl]; exact Nat.le_of_ble_eq_true rfl⟩) dX2_sends_34 [] (by decide) rfl rfl (List.forall_mem_cons.mpr ⟨(gg_i 0 rfl), (fun _ h => by cases h)⟩) (gg_i 0 rfl) rfl rfl (Nat.le_of_ble_eq_true rfl) (by first | (rw [hRc]; exact Nat.le_of_ble_eq_true rfl) | (rw [hRc]; dsimp only; omega)) (by first | (rw [hRs]; exact Nat.le_of_ble_eq_true rfl) | (rw [hRs]; dsimp only; omega)) ?_ (fun X q C1 h => h.elim)
      rintro _ _ ⟨rfl, rfl⟩
      dsimp only [List.cons_append, List.nil_append, Option.toList]
      refine gg_iload_n (pc := 39) E dX2_sends_39 rfl rfl ?_
      refine gg_iload_n (pc := 40) E dX2_sends_40 rfl rfl ?_
      refine gg_iload_n (pc := 41) E dX2_sends_41 rfl rfl ?_
      refine gg_iload (pc := 42) E dX2_sends_42 rfl ?_
      refine gg_aload (pc := 44) E dX2_sends_44 rfl ?_
      refine gg_callI (F := [_, _, _, _, _]) (As := [.int (nI nt), _, _, _, _, _]) (rest := [_, _]) (pc := 46) E (ct_X8_init hl (by omega) (hre) (hwa)) (cwI 6 E.2.2.2.2.1 (lw_meth q1562) rfl rfl rfl (E.2.2.2.2.1 _ q192) (E.2.2.2.2.1 _ q1560) (E.2.2.2.2.1 _ q1561) rfl (by decide +kernel) ⟨by rw [hRf]; exact Nat.le_of_ble_eq_true rfl, by rw [hRl]; exact Nat.le_of_ble_eq_true rfl⟩) dX2_sends_46 [5] (by decide) rfl rfl (List.forall_mem_cons.mpr ⟨(gg_r 1 rfl), (fun _ h => by cases h)⟩) rfl rfl (Nat.le_of_ble_eq_true rfl) (by first | (rw [hRc]; exact Nat.le_of_ble_eq_true rfl) | (rw [hRc]; dsimp only; omega)) (by first | (rw [hRs]; exact Nat.le_of_ble_eq_true rfl) | (rw [hRs]; dsimp only; omega)) ?_ (fun X q C1 h => h.elim)
      rintro _ _ ⟨hd1, rfl, rfl⟩
      dsimp only [List.cons_append, List.nil_append, Option.toList]
      refine gg_up6 ?_
      refine gg_up6 ?_
      refine gg_callF (F := [_, _, _, _, _]) (As := [_]) (rest := []) (pc := 49) E ck_J2 (ct_J2_add hl (by omega) (by omega) ck_X8 nq3513) (gg_cwF 1 E (x := ⟨"java/util/List", "add", "(Ljava/lang/Object;)Z"⟩) (by decide) nq687 nq685 nq683 (lw_app (lw_in _ [680, 684, 686, 155] (by decide +kernel) (by decide +kernel)) (lw_meth q688)) (by decide +kernel) ⟨by rw [hRf]; exact Nat.le_of_ble_eq_true rfl, by rw [hRl]; exact Nat.le_of_ble_eq_true rfl⟩) dX2_sends_49 [0, 1] (by decide) rfl rfl (List.forall_mem_cons.mpr ⟨(gg_i 3 rfl), (fun _ h => by cases h)⟩) (gg_i 0 rfl) rfl rfl (Nat.le_of_ble_eq_true rfl) (by first | (rw [hRc]; exact Nat.le_of_ble_eq_true rfl) | (rw [hRc]; dsimp only; omega)) (by first | (rw [hRs]; exact Nat.le_of_ble_eq_true rfl) | (rw [hRs]; dsimp only; omega)) ?_ (fun X q C1 h => h.elim)
      rintro _ _ ⟨rfl, rfl⟩
      dsimp only [List.cons_append, List.nil_append, Option.toList]
      refine gg_up1 ?_
      refine gg_up1 ?_
      refine gg_pop (pc := 54) E dX2_sends_54 rfl ?_
      refine gg_aload_n (pc := 55) E dX2_sends_55 rfl rfl ?_
      refine gg_get (pc := 56) E ck_X2 4 q608 rfl (by decide) dX2_sends_56 (gg_r 0 rfl) rfl ?_
      refine gg_iconst (v := 1) (pc := 59) E dX2_sends_59 (by decide) ?_
      refine gg_dup2_11 (pc := 60) E dX2_sends_60 rfl rfl ?_
      refine gg_ialdN (pc := 61) E 1 rfl (by omega) (by omega) dX2_sends_61 (gg_i 4 rfl) ?_
      refine gg_iconst (v := 1) (pc := 62) E dX2_sends_62 (by decide) ?_
      refine gg_iadd (pc := 63) E dX2_sends_63 ?_
      refine gg_iastN (M' := [_, _, _, _, _, _, _]) (pc := 64) E 1 rfl (by omega) (by omega) dX2_sends_64 4 rfl rfl ?_
      refine gg_aload_n (pc := 65) E dX2_sends_65 rfl rfl ?_
      refine gg_get (pc := 66) E ck_X2 4 q608 rfl (by decide) dX2_sends_66 (gg_r 0 rfl) rfl ?_
      refine gg_iconst (v := 2) (pc := 69) E dX2_sends_69 (by decide) ?_
      refine gg_dup2_11 (pc := 70) E dX2_sends_70 rfl rfl ?_
      refine gg_ialdN (pc := 71) E 2 rfl (by omega) (by omega) dX2_sends_71 (gg_i 4 rfl) ?_
      refine gg_iload_n (pc := 72) E dX2_sends_72 rfl rfl ?_
      refine gg_callSN (F := [_, _, _, _, _, _, _]) (As := [_]) (rest := [_, _, _]) (pc := 73) E (ct_X1_oneR hl hre) ⟨va_cnB 1 E.2.2.2.2.1 (lw_meth q1632) rfl rfl rfl (E.2.2.2.2.2.1.2.1 _ nq1630) (E.2.2.2.2.1 _ q151) (by decide +kernel) ⟨by rw [hRf]; exact Nat.le_of_ble_eq_true rfl, by rw [hRl]; exact Nat.le_of_ble_eq_true rfl⟩, E.2.2.2.2.1 _ q1631, trivial⟩ dX2_sends_73 [] (by decide) rfl rfl (fun _ h => by cases h) rfl rfl (Nat.le_of_ble_eq_true rfl) (by first | (rw [hRc]; exact Nat.le_of_ble_eq_true rfl) | (rw [hRc]; dsimp only; omega)) (by first | (rw [hRs]; exact Nat.le_of_ble_eq_true rfl) | (rw [hRs]; dsimp only; omega)) ?_ (fun X q C1 h => h.elim)
      rintro _ _ ⟨rfl, rfl⟩
      dsimp only [List.cons_append, List.nil_append, Option.toList]
      refine gg_iadd (pc := 76) E dX2_sends_76 ?_
      refine gg_iastN (M' := [_, _, _, _, _, _, _]) (pc := 77) E 2 rfl (by omega) (by omega) dX2_sends_77 4 rfl rfl ?_
      refine gg_cel (y := gg_ai g 11 (fun j => (ntu row nt no sf se go re wa) (10 + j))) 4 rfl (gg_ai_congr fun j hj => nu_ac hn8 hj) rfl ?_
      refine gg_cel (y := gg_ao g 4 30 (lsF (llU tu nt a1) (nt + 1))) 1 rfl (congrArg (gg_ao g 4 30) lsF_push) rfl ?_
      refine gg_psh (x := [(hd1, gg_ai g no sf)]) (M' := [_, _, _, _, _, _]) 3 rfl rfl rfl ?_
      refine gg_seg (S' := mp (heN g (llU hd nt hd1) (ntu row nt no sf se go re wa)) (nt + 1)) (M' := [_, _, _, _, _, _]) 3 rfl (by rw [mp_push (fun j hj => heN_eq (llU_o (by omega)) (fun d _ => ntu_out hn8 (by omega) (by omega) (by omega) (by omega)) (ht8 j hj)), heN_new hn8]) rfl ?_
      refine gg_psh (x := [(a1, .inl (7, [.int (nI nt), .int se, .int go, .ref sn0, .ref hd1, .int re, .int wa, .int se, .int 0, .int (-1), .int 0, .int 0, .int 0]))]) (M' := [_, _, _, _, _]) 2 rfl rfl rfl ?_
      refine gg_seg (S' := mp (tuN (llU tu nt a1) (llU sn nt sn0) (llU hd nt hd1) (ntu row nt no sf se go re wa)) (nt + 1)) (M' := [_, _, _, _, _]) 2 rfl (by rw [mp_push (fun j hj => tuN_eq (llU_o (by omega)) (llU_o (by omega)) (llU_o (by omega)) fun d _ => ntu_out hn8 (by omega) (by omega) (by omega) (by omega)), tuN_new]) rfl ?_
      refine gg_aload_n (pc := 78) E dX2_sends_78 rfl rfl ?_
      refine gg_get (pc := 79) E ck_X2 2 q604 rfl (by decide) dX2_sends_79 (gg_r 0 rfl) rfl ?_
      refine gg_callF (F := [_, _, _, _, _]) (As := []) (rest := []) (pc := 82) E ck_J2 (ct_J2_size hl ) (gg_cwF 0 E (x := ⟨"java/util/List", "size", "()I"⟩) (by decide) nq1046 nq1044 nq683 (lw_app (lw_in _ [1095, 1043, 1045, 155] (by decide +kernel) (by decide +kernel)) (lw_meth q1047)) (by decide +kernel) ⟨by rw [hRf]; exact Nat.le_of_ble_eq_true rfl, by rw [hRl]; exact Nat.le_of_ble_eq_true rfl⟩) dX2_sends_82 [] (by decide) rfl rfl (List.forall_mem_cons.mpr ⟨(gg_i 0 rfl), (fun _ h => by cases h)⟩) (gg_i 0 rfl) rfl rfl (Nat.le_of_ble_eq_true rfl) (by first | (rw [hRc]; exact Nat.le_of_ble_eq_true rfl) | (rw [hRc]; dsimp only; omega)) (by first | (rw [hRs]; exact Nat.le_of_ble_eq_true rfl) | (rw [hRs]; dsimp only; omega)) ?_ (fun X q C1 h => h.elim)
      rintro _ _ ⟨rfl, rfl⟩
      dsimp only [List.cons_append, List.nil_append, Option.toList]
      refine gg_iconst (v := 1) (pc := 87) E dX2_sends_87 (by decide) ?_
      refine gg_isubN (pc := 88) E (nt + 1) 1 rfl rfl (by omega) dX2_sends_88 ?_
      refine gg_iret (pc := 89) E Fn rfl (rfl) dX2_sends_89 (by first | exact Nat.le_of_ble_eq_true rfl | (dsimp only; omega)) (by first | exact Nat.le_of_ble_eq_true rfl | (dsimp only; omega)) ?_
      exact ⟨a1, hd1, by first | exact c11 | omega, by rw [show nt + 1 - 1 = nt from rfl], rfl⟩
    · exact fun X q C1 hx => absurd hx.2.1 (by decide)

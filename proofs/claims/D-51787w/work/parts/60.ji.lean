set_option maxRecDepth 100000
/-! ===== a tune lands ===== -/
theorem bl_T {row : Nat → Int32} {t no : Nat} (h1 : 1 ≤ no) (h8 : no ≤ 8) : ∀ i j, j < no → blT t no (fun j => row (220 + 27 * t + 19 + j)) i j = bl row t no i (220 + 27 * t + 19 + j) := by
  intro i
  induction i with
  | zero => intro j hj; rfl
  | succ i ih =>
    intro j hj
    unfold blT bl
    have hm : (t + i) % no < no := Nat.mod_lt _ (by omega)
    rw [ih _ hm]
    by_cases e : j = (t + i) % no
    · subst e
      rw [pk_us, pk_us]
    · rw [pk_un e, pk_un (by omega), ih j hj]
theorem cm3_5 {row : Nat → Int32} {t : Nat} : cm3 row t (220 + 27 * t + 5) = -1 := by
  unfold cm3
  rw [pk_un (by omega), pk_us]
theorem cm3_3' {row : Nat → Int32} {t : Nat} : cm3 row t (220 + 27 * t + 3) = 0 := by
  unfold cm3
  exact pk_us
theorem cm3_he {row : Nat → Int32} {t j : Nat} (h1 : 1 ≤ tno row t) (h8 : tno row t ≤ 8) (hj : j < tno row t) : blT t (tno row t) (fun j => row (220 + 27 * t + 19 + j)) (wn row t) j = cm3 row t (220 + 27 * t + 19 + j) := by
  rw [bl_T h1 h8 _ _ hj]
  unfold cm3 blF
  rw [pk_un (by omega), pk_un (by omega), cn_out (by omega)]
theorem cm3_ac {row : Nat → Int32} {t j : Nat} (h1 : 1 ≤ tno row t) (h8 : tno row t ≤ 8) (hj : j < 11) : upd (fun j => row (10 + j)) 4 (row (10 + 4) + nI (wn row t)) j = cm3 row t (10 + j) := by
  by_cases e : j = 4
  · subst e
    have hl : upd (fun j => row (10 + j)) 4 (row (10 + 4) + nI (wn row t)) 4 = row (10 + 4) + nI (wn row t) := pk_us
    have hr : blF row t (10 + 4) = bl row t (tno row t) (wn row t) (10 + 4) + nI (wn row t) := by
      unfold blF
      exact pk_us
    unfold cm3
    rw [hl, pk_un (by omega), pk_un (by omega), hr, bl_out h1 h8 (by omega)]
  · have hl : upd (fun j => row (10 + j)) 4 (row (10 + 4) + nI (wn row t)) j = row (10 + j) := pk_un e
    rw [hl, cm3_out h1 h8 (by omega) (by omega) (by omega) (by omega)]
theorem tuN_3 {tu sn hd : Nat → Nat} {row : Nat → Int32} {t : Nat} (h1 : 1 ≤ tno row t) (h8 : tno row t ≤ 8) : tuN tu sn hd (cm3 row t) t = (tu t, .inl (7, [.int (nI t), .int (row (220 + 27 * t)), .int (row (220 + 27 * t + 1)), .ref (sn t), .ref (hd t), .int (row (220 + 27 * t + 6)), .int (row (220 + 27 * t + 7)), .int (row (220 + 27 * t + 4)), .int 0, .int (-1), .int (row (220 + 27 * t + 10)), .int (row (220 + 27 * t + 8)), .int (row (220 + 27 * t + 9))])) := by
  have o : ∀ d, d < 11 → d ≠ 3 → d ≠ 5 → cm3 row t (220 + 27 * t + d) = row (220 + 27 * t + d) := fun d hd h3 h5 => cm3_out h1 h8 (by omega) (by omega) (by omega) (by omega)
  unfold tuN
  rw [cm3_3', cm3_5, show cm3 row t (220 + 27 * t) = row (220 + 27 * t) from o 0 (by omega) (by omega) (by omega), o 1 (by omega) (by omega) (by omega), o 4 (by omega) (by omega) (by omega), o 6 (by omega) (by omega) (by omega), o 7 (by omega) (by omega) (by omega), o 8 (by omega) (by omega) (by omega), o 9 (by omega) (by omega) (by omega), o 10 (by omega) (by omega) (by omega)]
theorem heN_3 {g : gg_G} {hd : Nat → Nat} {row : Nat → Int32} {t : Nat} (h1 : 1 ≤ tno row t) (h8 : tno row t ≤ 8) : heN g hd (cm3 row t) t = (hd t, gg_ai g (tno row t) (blT t (tno row t) (fun j => row (220 + 27 * t + 19 + j)) (wn row t))) := by
  unfold heN
  rw [cm3_tno h1 h8]
  exact congrArg (fun z => (hd t, z)) (gg_ai_congr fun j hj => (cm3_he h1 h8 hj).symm)
theorem cm3_k {row : Nat → Int32} {t k d : Nat} (h1 : 1 ≤ tno row t) (h8 : tno row t ≤ 8) (hne : k ≠ t) (hd : d < 27) : cm3 row t (220 + 27 * k + d) = row (220 + 27 * k + d) := cm3_out h1 h8 (by omega) (by omega) (by omega) (by omega)
theorem cm3_tno' {row : Nat → Int32} {t k : Nat} (h1 : 1 ≤ tno row t) (h8 : tno row t ≤ 8) : tno (cm3 row t) k = tno row k := by
  show (cm3 row t (220 + 27 * k + 2)).toNatClampNeg = (row (220 + 27 * k + 2)).toNatClampNeg
  rw [cm3_out h1 h8 (by omega) (by omega) (by omega) (by omega)]
set_option maxHeartbeats 4000000 in
theorem ct_X2_lands {l : Launch} (hl : l.stackTraces = false) {g : gg_G}  {w : Nat} {ad : Nat → Nat} {t7 c7 : Int32} {v7 : Value} {ra nm : Nat → Nat} {m1 : Int32} {nr : Nat} {tu sn hd : Nat → Nat} {m3 : Int32} {nt : Nat} {row : Nat → Int32} {t1 a1 : Nat} {P : gg_S} {wo : Nat → Nat} {nw : Nat} {sf4 rr : Nat → Int32} (hs4 : sf4 0 = row 4) (hs6 : sf4 2 = row 6) (hrr : ∀ j, 25 ≤ j → j < 160 → rr j = row j) (hr10 : nr ≤ 10) (hat : row (220 + 27 * t1 + 4) = nI a1) (ha1 : a1 < nr) (ht : t1 < nt) (ht30 : nt ≤ 30) (h2 : row 2 = nI nt) (h20 : nw ≤ 20) (hP : Po g P sn wo row nw nt) (h8 : ∀ t, t < nt → tno row t ≤ 8) (h1 : 1 ≤ tno row t1) : gg_C l g yX2_lands (ws_ yX2_lands cX2_lands 3 none) { frames := 13, cells := (5 * (ntn (cmF row nt t1) - nt)), slots := (60 * (ntn (cmF row nt t1) - nt)), locals := 260 } [.ref w, .ref (tu t1)] ([(w, .inl (1, [.ref (ad 1), .ref (ad 3), .ref (ad 4), .ref (ad 6), .ref (ad 7), .int t7, .int c7, v7])), ((ad 1), .inl (11, [.int m1, .ref (ad 2), .int (nI nr)])), ((ad 2), gg_ao g 4 10 (lsF ra nr)), ((ad 6), gg_ai g 3 sf4)] ++ (mp (rfN ra nm rr) nr)) [[((ad 4), .inl (11, [.int m3, .ref (ad 5), .int (nI nt)]))], [((ad 5), gg_ao g 4 30 (lsF tu nt))], (mp (tuN tu sn hd row) (nt)), (mp (heN g hd row) (nt)), [((ad 7), gg_ai g 11 (fun j => row (10 + j)))], P] (fun vv CC => ∃ (tu2 sn2 hd2 : Nat → Nat) (m32 : Int32) (nt2 : Nat) (P2 : gg_S), (Po g P2 sn2 wo (cmF row nt t1) nw nt2 ∧ (cmF row nt t1) 2 = nI nt2 ∧ nt2 ≤ 30 ∧ ∀ q, q ∈ P → q ∈ P2) ∧ vv = none ∧ CC = [[((ad 4), .inl (11, [.int m32, .ref (ad 5), .int (nI nt2)]))], [((ad 5), gg_ao g 4 30 (lsF tu2 nt2))], (mp (tuN tu2 sn2 hd2 (cmF row nt t1)) (nt2)), (mp (heN g hd2 (cmF row nt t1)) (nt2)), [((ad 7), gg_ai g 11 (fun j => (cmF row nt t1) (10 + j)))], P2]) gg_no := by
  refine gg_of (lv := [_, _, _]) (by decide) hl (Nat.le_of_ble_eq_true rfl) rfl ?_
  intro p e R s m args below meth c A Q hRf hRl hRc hRs E Fn hnm hex
  have h8t := h8 t1 ht
  obtain ⟨hw1, hw2⟩ := wn_ok h8t
  have hta : ta row t1 = a1 := by unfold ta; rw [hat, nI_clamp (by omega)]
  have hwb : wb (sf4 0) (row (220 + 27 * t1 + 10)) (rr (25 + 13 * a1 + 8)) (nI (tno row t1)) = nI (wn row t1) := by
    rw [← hw1, hs4, hrr _ (by omega) (by omega)]
    unfold wnI
    rw [hta]
  have hP3 : Po g P sn wo (cm3 row t1) nw nt := Po_keep hP h8 (fun t ht d hd => cm3_out h1 h8t (by omega) (by omega) (by omega) (by omega)) (fun j q1 q2 => cm3_out h1 h8t (by omega) (by omega) (by omega) (by omega)) h20
  refine gg_aload_n (pc := 0) E dX2_lands_0 rfl rfl ?_
  refine gg_aload_n (pc := 1) E dX2_lands_1 rfl rfl ?_
  refine gg_get (pc := 2) E ck_X2 3 q606 rfl (by decide) dX2_lands_2 (gg_r 0 rfl) rfl ?_
  refine gg_iconst (v := 0) (pc := 5) E dX2_lands_5 (by decide) ?_
  refine gg_ialdN (pc := 6) E 0 rfl (by omega) (by omega) dX2_lands_6 (gg_r 3 rfl) ?_
  refine gg_aload_n (pc := 7) E dX2_lands_7 rfl rfl ?_
  refine gg_getN (pc := 8) E ck_X8 10 nq1596 rfl (by decide) dX2_lands_8 (gg_j 2 rfl (mp_mem (by omega))) rfl ?_
  refine gg_aload_n (pc := 11) E dX2_lands_11 rfl rfl ?_
  refine gg_getN (pc := 12) E ck_X8 7 nq1587 rfl (by decide) dX2_lands_12 (gg_j 2 rfl (mp_mem (by omega))) rfl ?_
  refine gg_topI (y := nI a1) hat ?_
  refine gg_aload_n (pc := 15) E dX2_lands_15 rfl rfl ?_
  refine gg_callV (F := [_, _, _, _, _, _]) (As := []) (rest := [_, _, _, _]) (pc := 16) E ck_X8 (ct_X8_notes hl ) (cwV 0 E.2.2.2.2.1 (lw_V q1659 q1660 q1661 q192 q1662) rfl rfl rfl (by decide +kernel) ⟨by rw [hRf]; exact Nat.le_of_ble_eq_true rfl, by rw [hRl]; exact Nat.le_of_ble_eq_true rfl⟩) dX2_lands_16 [] (by decide) rfl rfl (List.forall_mem_cons.mpr ⟨(gg_j 2 rfl (mp_mem (by omega))), (List.forall_mem_cons.mpr ⟨(gg_j 5 rfl (hP.1 t1 (by omega))), (fun _ h => by cases h)⟩)⟩) (gg_j 2 rfl (mp_mem (by omega))) rfl rfl (Nat.le_of_ble_eq_true rfl) (by first | (rw [hRc]; dsimp only; omega) | (rw [hRc]; exact Nat.le_of_ble_eq_true rfl)) (by first | (rw [hRs]; dsimp only; omega) | (rw [hRs]; exact Nat.le_of_ble_eq_true rfl)) ?_ (fun X q C1 h => h.elim)
  rintro _ _ ⟨rfl, rfl⟩
  dsimp only [List.cons_append, List.nil_append, Option.toList]
  refine gg_callV (F := [_, _, _, _, _, _]) (As := [_, _, .int (nI a1), _]) (rest := []) (pc := 19) E ck_X2 (ct_X2_wrongBy hl (ha1) (hr10)) (cwV 4 E.2.2.2.2.1 (lw_V q1663 q1664 q1665 q152 q1666) rfl rfl rfl (by decide +kernel) ⟨by rw [hRf]; exact Nat.le_of_ble_eq_true rfl, by rw [hRl]; exact Nat.le_of_ble_eq_true rfl⟩) dX2_lands_19 [] (by decide) rfl rfl (List.forall_mem_append.mpr ⟨(List.forall_mem_cons.mpr ⟨(gg_r 0 rfl), (List.forall_mem_cons.mpr ⟨(gg_r 1 rfl), (List.forall_mem_cons.mpr ⟨(gg_r 2 rfl), (fun _ h => by cases h)⟩)⟩)⟩), (fun q hq => gg_rm (List.mem_append_right _ (hq)))⟩) (gg_r 0 rfl) rfl rfl (Nat.le_of_ble_eq_true rfl) (by first | (rw [hRc]; dsimp only; omega) | (rw [hRc]; exact Nat.le_of_ble_eq_true rfl)) (by first | (rw [hRs]; dsimp only; omega) | (rw [hRs]; exact Nat.le_of_ble_eq_true rfl)) ?_ (fun X q C1 h => h.elim)
  rintro _ _ ⟨rfl, rfl⟩
  dsimp only [List.cons_append, List.nil_append, Option.toList]
  refine gg_topI (y := nI (wn row t1)) hwb ?_
  refine gg_istore_n (lv' := [_, _, _]) (pc := 22) E dX2_lands_22 rfl (Nat.le_of_ble_eq_true rfl) rfl rfl ?_
  refine gg_opn (k := t1) (M' := [_, _, _, _, _, _, _]) 2 rfl (by omega) rfl ?_
  refine gg_opn (k := t1) (M' := [_, _, _, _, _, _, _, _]) 3 rfl (by omega) rfl ?_
  refine gg_aload_n (pc := 23) E dX2_lands_23 rfl rfl ?_
  refine gg_iload_n (pc := 24) E dX2_lands_24 rfl rfl ?_
  refine gg_callV (F := [_, _, _, _, _, _, _]) (As := [.int (nI (wn row t1))]) (rest := []) (pc := 25) E ck_X8 (ct_X8_blurs hl (by omega) (h1) (by omega) (by omega)) (cwV 1 E.2.2.2.2.1 (lw_V q1669 q1670 q1671 q192 q1672) rfl rfl rfl (by decide +kernel) ⟨by rw [hRf]; exact Nat.le_of_ble_eq_true rfl, by rw [hRl]; exact Nat.le_of_ble_eq_true rfl⟩) dX2_lands_25 [7] (by decide) rfl rfl (List.forall_mem_cons.mpr ⟨(gg_i 6 rfl), (List.forall_mem_cons.mpr ⟨(gg_j 5 rfl (hP.1 t1 (by omega))), (fun _ h => by cases h)⟩)⟩) (gg_i 6 rfl) rfl rfl (Nat.le_of_ble_eq_true rfl) (by first | (rw [hRc]; dsimp only; omega) | (rw [hRc]; exact Nat.le_of_ble_eq_true rfl)) (by first | (rw [hRs]; dsimp only; omega) | (rw [hRs]; exact Nat.le_of_ble_eq_true rfl)) ?_ (fun X q C1 h => h.elim)
  rintro _ _ ⟨rfl, rfl⟩
  dsimp only [List.cons_append, List.nil_append, Option.toList]
  refine gg_up7 ?_
  refine gg_aload_n (pc := 28) E dX2_lands_28 rfl rfl ?_
  refine gg_get (pc := 29) E ck_X2 4 q608 rfl (by decide) dX2_lands_29 (gg_r 0 rfl) rfl ?_
  refine gg_iconst (v := 4) (pc := 32) E dX2_lands_32 (by decide) ?_
  refine gg_dup2_11 (pc := 33) E dX2_lands_33 rfl rfl ?_
  refine gg_ialdN (pc := 34) E 4 rfl (by omega) (by omega) dX2_lands_34 (gg_i 4 rfl) ?_
  refine gg_iload_n (pc := 35) E dX2_lands_35 rfl rfl ?_
  refine gg_iadd (pc := 36) E dX2_lands_36 ?_
  refine gg_iastN (M' := [_, _, _, _, _, _, _, _]) (pc := 37) E 4 rfl (by omega) (by omega) dX2_lands_37 4 rfl rfl ?_
  refine gg_aload_n (pc := 38) E dX2_lands_38 rfl rfl ?_
  refine gg_iconst (v := (-1)) (pc := 39) E dX2_lands_39 (by decide) ?_
  refine gg_putN (fs' := [_, _, _, _, _, _, _, _, _, _, _, _, _]) (M' := [_, _, _, _, _, _, _, _]) (pc := 40) E ck_X8 9 nq1593 rfl (by decide) dX2_lands_40 6 rfl rfl (rfl) rfl (Nat.le_of_ble_eq_true rfl) rfl rfl ?_
  refine gg_aload_n (pc := 43) E dX2_lands_43 rfl rfl ?_
  refine gg_iconst (v := 0) (pc := 44) E dX2_lands_44 (by decide) ?_
  refine gg_putN (fs' := [_, _, _, _, _, _, _, _, _, _, _, _, _]) (M' := [_, _, _, _, _, _, _, _]) (pc := 45) E ck_X8 8 nq1590 rfl (by decide) dX2_lands_45 6 rfl rfl (rfl) rfl (Nat.le_of_ble_eq_true rfl) rfl rfl ?_
  refine gg_cls (F' := (heN g hd (cm3 row t1))) (M' := [_, _, _, _, _, _, _]) 3 rfl rfl (by omega) (heN_3 h1 h8t) (fun j hj hne => heN_eq rfl (fun d _ => cm3_k h1 h8t hne (by omega)) (h8 j hj)) rfl ?_
  refine gg_cls (F' := (tuN tu sn hd (cm3 row t1))) (M' := [_, _, _, _, _, _]) 2 rfl rfl (by omega) (tuN_3 h1 h8t) (fun j hj hne => tuN_eq rfl rfl rfl fun d _ => cm3_k h1 h8t hne (by omega)) rfl ?_
  refine gg_cel (y := gg_ai g 11 (fun j => (cm3 row t1) (10 + j))) 4 rfl (gg_ai_congr fun j hj => cm3_ac h1 h8t hj) rfl ?_
  refine gg_aload_n (pc := 48) E dX2_lands_48 rfl rfl ?_
  refine gg_getN (pc := 49) E ck_X8 7 nq1587 rfl (by decide) dX2_lands_49 (gg_j 2 rfl (mp_mem (by omega))) rfl ?_
  refine gg_aload_n (pc := 52) E dX2_lands_52 rfl rfl ?_
  refine gg_getN (pc := 53) E ck_X8 2 nq1575 rfl (by decide) dX2_lands_53 (gg_j 2 rfl (mp_mem (by omega))) rfl ?_
  refine gg_icmp_ne (tgt := 64) (pc := 56) E dX2_lands_56 (by decide) (fun c56 => ?_) (fun c56 => ?_)
  · refine gg_vret (pc := 64) E Fn rfl dX2_lands_64 (by first | omega | (dsimp only; omega) | exact Nat.le_of_ble_eq_true rfl) (by first | omega | (dsimp only; omega) | exact Nat.le_of_ble_eq_true rfl) ?_
    rw [cm_fly (show ¬ row (220 + 27 * t1 + 4) = row (220 + 27 * t1 + 1) from fun q => c56 ((cm3_out (j := 220 + 27 * t1 + 4) h1 h8t (by omega) (by omega) (by omega) (by omega)).trans (q.trans (cm3_out (j := 220 + 27 * t1 + 1) h1 h8t (by omega) (by omega) (by omega) (by omega)).symm)))]
    exact ⟨tu, sn, hd, m3, nt, P, ⟨hP3, (cm3_out h1 h8t (by omega) (by omega) (by omega) (by omega)).trans h2, ht30, fun q hq => hq⟩, rfl, rfl⟩
  · have hcn : ntn (cmF row nt t1) = ntn (arvF (cm3 row t1) nt t1) := by rw [cm_arv h1 h8t (show row (220 + 27 * t1 + 4) = row (220 + 27 * t1 + 1) from (cm3_out (j := 220 + 27 * t1 + 4) h1 h8t (by omega) (by omega) (by omega) (by omega)).symm.trans (c56.trans (cm3_out (j := 220 + 27 * t1 + 1) h1 h8t (by omega) (by omega) (by omega) (by omega))))]
    refine gg_aload_n (pc := 59) E dX2_lands_59 rfl rfl ?_
    refine gg_aload_n (pc := 60) E dX2_lands_60 rfl rfl ?_
    refine gg_callV (F := []) (As := [_]) (rest := []) (pc := 61) E ck_X2 (ct_X2_arrives (row := (cm3 row t1)) (sf4 := sf4) hl (hs6.trans (cm3_out h1 h8t (by omega) (by omega) (by omega) (by omega)).symm) ht ht30 ((cm3_out h1 h8t (by omega) (by omega) (by omega) (by omega)).trans h2) h20 hP3 (fun t q => by rw [cm3_tno' h1 h8t]; exact h8 t q) (by rw [cm3_tno h1 h8t]; exact h1) cm3_3') (cwV 1 E.2.2.2.2.1 (lw_V q1674 q1676 qs34 q152 q1677) rfl rfl rfl (by decide +kernel) ⟨by rw [hRf]; exact Nat.le_of_ble_eq_true rfl, by rw [hRl]; exact Nat.le_of_ble_eq_true rfl⟩) dX2_lands_61 [0, 1, 2, 3, 4, 5] (by decide) rfl rfl (List.forall_mem_cons.mpr ⟨(gg_r 0 rfl), (List.forall_mem_cons.mpr ⟨(gg_r 3 rfl), (fun _ h => by cases h)⟩)⟩) (gg_r 0 rfl) rfl rfl (Nat.le_of_ble_eq_true rfl) (by first | (rw [hRc]; dsimp only; omega) | (rw [hRc]; exact Nat.le_of_ble_eq_true rfl)) (by first | (rw [hRs]; dsimp only; omega) | (rw [hRs]; exact Nat.le_of_ble_eq_true rfl)) ?_ (fun X q C1 h => h.elim)
    rintro _ _ ⟨tu3, sn3, hd3, m33, nt3, P3, ⟨hp3, hr3, hn3, hpp⟩, rfl, rfl⟩
    dsimp only [List.cons_append, List.nil_append, Option.toList]
    refine gg_up5 ?_
    refine gg_up5 ?_
    refine gg_up5 ?_
    refine gg_up5 ?_
    refine gg_up5 ?_
    refine gg_up5 ?_
    refine gg_vret (pc := 64) E Fn rfl dX2_lands_64 (by first | omega | (dsimp only; omega) | exact Nat.le_of_ble_eq_true rfl) (by first | omega | (dsimp only; omega) | exact Nat.le_of_ble_eq_true rfl) ?_
    rw [cm_arv h1 h8t (show row (220 + 27 * t1 + 4) = row (220 + 27 * t1 + 1) from (cm3_out (j := 220 + 27 * t1 + 4) h1 h8t (by omega) (by omega) (by omega) (by omega)).symm.trans (c56.trans (cm3_out (j := 220 + 27 * t1 + 1) h1 h8t (by omega) (by omega) (by omega) (by omega))))]
    exact ⟨tu3, sn3, hd3, m33, nt3, P3, ⟨hp3, hr3, hn3, hpp⟩, rfl, rfl⟩

set_option maxRecDepth 100000
theorem ulk_pos {row : Nat → Int32} {t no : Nat} (h8 : no ≤ 8) (h : ¬ ulk row t no = 0) : 0 < ulk row t no := by
  unfold ulk at *
  obtain ⟨z, hz, e⟩ := sm_01 (P := fun i => ¬ row (220 + 27 * t + 11 + i) = row (220 + 27 * t + 19 + i)) no (by omega)
  rw [e] at h ⊢
  have : z ≠ 0 := fun q => h (by rw [q]; rfl)
  exact (nI_ltI (a := 0) (by decide) (by omega)).mpr (by omega)
theorem tuN_A {tu sn hd : Nat → Nat} {row : Nat → Int32} {t : Nat} (h3 : row (220 + 27 * t + 3) = 0) : tuN tu sn hd (arA row t) t = (tu t, .inl (7, [.int (nI t), .int (row (220 + 27 * t)), .int (row (220 + 27 * t + 1)), .ref (sn t), .ref (hd t), .int (row (220 + 27 * t + 6)), .int (row (220 + 27 * t + 7)), .int (row (220 + 27 * t)), .int 0, .int (row (220 + 27 * t + 5)), .int (row (220 + 27 * t + 10)), .int (row (220 + 27 * t + 8) + 1), .int (row (220 + 27 * t + 9))])) := by
  unfold tuN
  rw [arA_4, arA_8, arA_o (j := 220 + 27 * t) (by omega) (by omega) (by omega) (by omega), arA_o (j := 220 + 27 * t + 1) (by omega) (by omega) (by omega) (by omega), arA_o (j := 220 + 27 * t + 6) (by omega) (by omega) (by omega) (by omega), arA_o (j := 220 + 27 * t + 7) (by omega) (by omega) (by omega) (by omega), arA_o (j := 220 + 27 * t + 3) (by omega) (by omega) (by omega) (by omega), arA_o (j := 220 + 27 * t + 5) (by omega) (by omega) (by omega) (by omega), arA_o (j := 220 + 27 * t + 10) (by omega) (by omega) (by omega) (by omega), arA_o (j := 220 + 27 * t + 9) (by omega) (by omega) (by omega) (by omega), h3]
theorem heN_A {g : gg_G} {hd : Nat → Nat} {row : Nat → Int32} {t : Nat} (h8 : tno row t ≤ 8) : heN g hd (arA row t) t = (hd t, gg_ai g (tno row t) (fun j => row (220 + 27 * t + 11 + j))) := by
  unfold heN
  have e : tno (arA row t) t = tno row t := by
    show (arA row t (220 + 27 * t + 2)).toNatClampNeg = (row (220 + 27 * t + 2)).toNatClampNeg
    rw [arA_o (by omega) (by omega) (by omega) (by omega)]
  rw [e]
  exact congrArg (fun z => (hd t, z)) (gg_ai_congr fun j hj => arA_he (by omega))
theorem tuN_B {tu sn hd : Nat → Nat} {row : Nat → Int32} {t : Nat} {u : Int32} : tuN tu sn hd (arB row t u) t = (tu t, .inl (7, [.int (nI t), .int (row (220 + 27 * t)), .int (row (220 + 27 * t + 1)), .ref (sn t), .ref (hd t), .int (row (220 + 27 * t + 6)), .int (row (220 + 27 * t + 7)), .int (row (220 + 27 * t + 4)), .int 2, .int (row (220 + 27 * t + 5)), .int (row (220 + 27 * t + 10)), .int (row (220 + 27 * t + 8)), .int (row (220 + 27 * t + 9))])) := by
  unfold tuN
  rw [arB_3, arB_o (j := 220 + 27 * t) (by omega) (by omega) (by omega), arB_o (j := 220 + 27 * t + 1) (by omega) (by omega) (by omega), arB_o (j := 220 + 27 * t + 6) (by omega) (by omega) (by omega), arB_o (j := 220 + 27 * t + 7) (by omega) (by omega) (by omega), arB_o (j := 220 + 27 * t + 4) (by omega) (by omega) (by omega), arB_o (j := 220 + 27 * t + 5) (by omega) (by omega) (by omega), arB_o (j := 220 + 27 * t + 10) (by omega) (by omega) (by omega), arB_o (j := 220 + 27 * t + 8) (by omega) (by omega) (by omega), arB_o (j := 220 + 27 * t + 9) (by omega) (by omega) (by omega)]
theorem arB_tno {row : Nat → Int32} {t k : Nat} {u : Int32} : tno (arB row t u) k = tno row k := by
  show (arB row t u (220 + 27 * k + 2)).toNatClampNeg = (row (220 + 27 * k + 2)).toNatClampNeg
  rw [arB_o (by omega) (by omega) (by omega)]
theorem arv_A {row : Nat → Int32} {nt t : Nat} (h8 : tno row t ≤ 8) (h : ¬ ulk row t (tno row t) = 0) (h2 : row (220 + 27 * t + 8) < row 6) : arvF row nt t = arA row t := if_pos ⟨ulk_pos h8 h, h2⟩
theorem arv_N {row : Nat → Int32} {nt t : Nat} (h8 : tno row t ≤ 8) (h : ulk row t (tno row t) = 0 ∨ ¬ row (220 + 27 * t + 8) < row 6) (h2 : ¬ ulk row t (tno row t) = 0 ∨ row (220 + 27 * t + 7) = 0 ∨ nt = 30) : arvF row nt t = arB row t (ulk row t (tno row t)) := by
  unfold arvF
  rw [if_neg (fun q => h.elim (fun z => by rw [z] at q; exact absurd q.1 (by decide)) (fun z => z q.2))]
  refine if_pos ?_
  rcases h2 with z | z | z
  · exact Or.inr (Or.inl (by rw [arB_ulk h8]; exact ulk_pos h8 z))
  · exact Or.inl ((arB_o (by omega) (by omega) (by omega)).trans z)
  · exact Or.inr (Or.inr z)
theorem arv_R {row : Nat → Int32} {nt t : Nat} (h1 : 1 ≤ tno row t) (h8 : tno row t ≤ 8) (h : ulk row t (tno row t) = 0) (h2 : ¬ row (220 + 27 * t + 7) = 0) (h3 : nt < 30) : arvF row nt t = ntu (arB row t (ulk row t (tno row t))) nt (tno row t) (fun j => row (220 + 27 * t + 11 + (tno row t - 1 - j))) (arB row t (ulk row t (tno row t)) (220 + 27 * t + 1)) (arB row t (ulk row t (tno row t)) (220 + 27 * t)) 1 0 := by
  unfold arvF
  rw [if_neg (fun q => by rw [h] at q; exact absurd q.1 (by decide))]
  unfold rpF
  rw [if_neg]
  · exact ntu_su fun i hi => by
      rw [arB_o (by omega) (by omega) (by omega), show 220 + 27 * t + 11 + tno row t - 1 - i = 220 + 27 * t + 11 + (tno row t - 1 - i) by omega]
  · rintro (q | q | q)
    · exact h2 ((arB_o (by omega) (by omega) (by omega)).symm.trans q)
    · rw [arB_ulk h8, h] at q
      exact absurd q (by decide)
    · omega
set_option maxHeartbeats 4000000 in
theorem ct_X2_arrives {l : Launch} (hl : l.stackTraces = false) {g : gg_G}  {w : Nat} {ad : Nat → Nat} {t7 c7 : Int32} {v7 : Value} {tu sn hd : Nat → Nat} {m3 : Int32} {nt : Nat} {row : Nat → Int32} {t1 : Nat} {P : gg_S} {wo : Nat → Nat} {nw : Nat} {sf4 : Nat → Int32} (hs6 : sf4 2 = row 6) (ht : t1 < nt) (ht30 : nt ≤ 30) (h2 : row 2 = nI nt) (h20 : nw ≤ 20) (hP : Po g P sn wo row nw nt) (h8 : ∀ t, t < nt → tno row t ≤ 8) (h1 : 1 ≤ tno row t1) (hst : row (220 + 27 * t1 + 3) = 0) : gg_C l g yX2_arrives (ws_ yX2_arrives cX2_arrives 4 none) { frames := 12, cells := (5 * (ntn (arvF row nt t1) - nt)), slots := (60 * (ntn (arvF row nt t1) - nt)), locals := 230 } [.ref w, .ref (tu t1)] [(w, .inl (1, [.ref (ad 1), .ref (ad 3), .ref (ad 4), .ref (ad 6), .ref (ad 7), .int t7, .int c7, v7])), ((ad 6), gg_ai g 3 sf4)] [[((ad 4), .inl (11, [.int m3, .ref (ad 5), .int (nI nt)]))], [((ad 5), gg_ao g 4 30 (lsF tu nt))], (mp (tuN tu sn hd row) (nt)), (mp (heN g hd row) (nt)), [((ad 7), gg_ai g 11 (fun j => row (10 + j)))], P] (fun vv CC => ∃ (tu2 sn2 hd2 : Nat → Nat) (m32 : Int32) (nt2 : Nat) (P2 : gg_S), (Po g P2 sn2 wo (arvF row nt t1) nw nt2 ∧ (arvF row nt t1) 2 = nI nt2 ∧ nt2 ≤ 30 ∧ ∀ q, q ∈ P → q ∈ P2) ∧ vv = none ∧ CC = [[((ad 4), .inl (11, [.int m32, .ref (ad 5), .int (nI nt2)]))], [((ad 5), gg_ao g 4 30 (lsF tu2 nt2))], (mp (tuN tu2 sn2 hd2 (arvF row nt t1)) (nt2)), (mp (heN g hd2 (arvF row nt t1)) (nt2)), [((ad 7), gg_ai g 11 (fun j => (arvF row nt t1) (10 + j)))], P2]) gg_no := by
  refine gg_of (lv := [_, _, _, _]) (by decide) hl (Nat.le_of_ble_eq_true rfl) rfl ?_
  intro p e R s m args below meth c A Q hRf hRl hRc hRs E Fn hnm hex
  have h8t := h8 t1 ht
  refine gg_aload_n (pc := 0) E dX2_arrives_0 rfl rfl ?_
  refine gg_callV (F := [_, _, _, _, _, _]) (As := []) (rest := []) (pc := 1) E ck_X8 (ct_X8_unlike hl (by omega)) (cwV 0 E.2.2.2.2.1 (lw_V q1678 q1679 q1680 q192 q1681) rfl rfl rfl (by decide +kernel) ⟨by rw [hRf]; exact Nat.le_of_ble_eq_true rfl, by rw [hRl]; exact Nat.le_of_ble_eq_true rfl⟩) dX2_arrives_1 [] (by decide) rfl rfl (List.forall_mem_cons.mpr ⟨(gg_j 2 rfl (mp_mem (by omega))), (List.forall_mem_cons.mpr ⟨(gg_j 5 rfl (hP.1 t1 (by omega))), (List.forall_mem_cons.mpr ⟨(gg_j 3 rfl (mp_mem (by omega))), (fun _ h => by cases h)⟩)⟩)⟩) (gg_j 2 rfl (mp_mem (by omega))) rfl rfl (Nat.le_of_ble_eq_true rfl) (by first | (rw [hRc]; dsimp only; omega) | (rw [hRc]; exact Nat.le_of_ble_eq_true rfl)) (by first | (rw [hRs]; dsimp only; omega) | (rw [hRs]; exact Nat.le_of_ble_eq_true rfl)) ?_ (fun X q C1 h => h.elim)
  rintro _ _ ⟨rfl, rfl⟩
  dsimp only [List.cons_append, List.nil_append, Option.toList]
  refine gg_topI (y := ulk row t1 (tno row t1)) rfl ?_
  refine gg_if_ne (tgt := 11) (pc := 4) E dX2_arrives_4 (by decide) (fun c4 => ?_) (fun c4 => ?_)
  · refine gg_iconst (v := 0) (pc := 11) E dX2_arrives_11 (by decide) ?_
    refine gg_istore_n (lv' := [_, _, _, _]) (pc := 12) E dX2_arrives_12 rfl (Nat.le_of_ble_eq_true rfl) rfl rfl ?_
    refine gg_iload_n (pc := 13) E dX2_arrives_13 rfl rfl ?_
    refine gg_ifN_ne (tgt := 69) (pc := 14) E 0 rfl (by decide) dX2_arrives_14 (by decide) (fun q => absurd q (by decide)) (fun _ => ?_)
    refine gg_aload_n (pc := 17) E dX2_arrives_17 rfl rfl ?_
    refine gg_getN (pc := 18) E ck_X8 11 nq1598 rfl (by decide) dX2_arrives_18 (gg_j 2 rfl (mp_mem (by omega))) rfl ?_
    refine gg_aload_n (pc := 21) E dX2_arrives_21 rfl rfl ?_
    refine gg_get (pc := 22) E ck_X2 3 q606 rfl (by decide) dX2_arrives_22 (gg_r 0 rfl) rfl ?_
    refine gg_iconst (v := 2) (pc := 25) E dX2_arrives_25 (by decide) ?_
    refine gg_ialdN (pc := 26) E 2 rfl (by omega) (by omega) dX2_arrives_26 (gg_r 1 rfl) ?_
    refine gg_icmp_ge (tgt := 69) (pc := 27) E dX2_arrives_27 (by decide) (fun c27 => ?_) (fun c27 => ?_)
    · refine gg_opn (k := t1) (M' := [_, _, _, _, _, _, _]) 2 rfl (by omega) rfl ?_
      refine gg_aload_n (pc := 69) E dX2_arrives_69 rfl rfl ?_
      refine gg_iconst (v := 2) (pc := 70) E dX2_arrives_70 (by decide) ?_
      refine gg_putN (fs' := [_, _, _, _, _, _, _, _, _, _, _, _, _]) (M' := [_, _, _, _, _, _, _]) (pc := 71) E ck_X8 8 nq1590 rfl (by decide) dX2_arrives_71 6 rfl rfl (rfl) rfl (Nat.le_of_ble_eq_true rfl) rfl rfl ?_
      refine gg_cls (F' := (tuN tu sn hd (arB row t1 (ulk row t1 (tno row t1))))) (M' := [_, _, _, _, _, _]) 2 rfl rfl (by omega) tuN_B (fun j hj hne => tuN_eq rfl rfl rfl fun d _ => arB_o (by omega) (by omega) (by omega)) rfl ?_
      refine gg_aload_n (pc := 74) E dX2_arrives_74 rfl rfl ?_
      refine gg_get (pc := 75) E ck_X2 4 q608 rfl (by decide) dX2_arrives_75 (gg_r 0 rfl) rfl ?_
      refine gg_iconst (v := 5) (pc := 78) E dX2_arrives_78 (by decide) ?_
      refine gg_dup2_11 (pc := 79) E dX2_arrives_79 rfl rfl ?_
      refine gg_ialdN (pc := 80) E 5 rfl (by omega) (by omega) dX2_arrives_80 (gg_i 4 rfl) ?_
      refine gg_iconst (v := 1) (pc := 81) E dX2_arrives_81 (by decide) ?_
      refine gg_iadd (pc := 82) E dX2_arrives_82 ?_
      refine gg_iastN (M' := [_, _, _, _, _, _]) (pc := 83) E 5 rfl (by omega) (by omega) dX2_arrives_83 4 rfl rfl ?_
      refine gg_aload_n (pc := 84) E dX2_arrives_84 rfl rfl ?_
      refine gg_get (pc := 85) E ck_X2 4 q608 rfl (by decide) dX2_arrives_85 (gg_r 0 rfl) rfl ?_
      refine gg_bipush (v := 6) (pc := 88) E dX2_arrives_88 (by decide) ?_
      refine gg_dup2_11 (pc := 90) E dX2_arrives_90 rfl rfl ?_
      refine gg_ialdN (pc := 91) E 6 rfl (by omega) (by omega) dX2_arrives_91 (gg_i 4 rfl) ?_
      refine gg_iload_n (pc := 92) E dX2_arrives_92 rfl rfl ?_
      refine gg_callSN (F := [_, _, _, _, _, _]) (As := [_]) (rest := [_, _, _]) (pc := 93) E (ct_X1_oneR hl (Or.inl rfl)) ⟨va_cnB 1 E.2.2.2.2.1 (lw_meth q1632) rfl rfl rfl (E.2.2.2.2.2.1.2.1 _ nq1630) (E.2.2.2.2.1 _ q151) (by decide +kernel) ⟨by rw [hRf]; exact Nat.le_of_ble_eq_true rfl, by rw [hRl]; exact Nat.le_of_ble_eq_true rfl⟩, E.2.2.2.2.1 _ q1631, trivial⟩ dX2_arrives_93 [] (by decide) rfl rfl (fun _ h => by cases h) rfl rfl (Nat.le_of_ble_eq_true rfl) (by first | (rw [hRc]; dsimp only; omega) | (rw [hRc]; exact Nat.le_of_ble_eq_true rfl)) (by first | (rw [hRs]; dsimp only; omega) | (rw [hRs]; exact Nat.le_of_ble_eq_true rfl)) ?_ (fun X q C1 h => h.elim)
      rintro _ _ ⟨rfl, rfl⟩
      dsimp only [List.cons_append, List.nil_append, Option.toList]
      refine gg_iadd (pc := 96) E dX2_arrives_96 ?_
      refine gg_iastN (M' := [_, _, _, _, _, _]) (pc := 97) E 6 rfl (by omega) (by omega) dX2_arrives_97 4 rfl rfl ?_
      refine gg_cel (y := gg_ai g 11 (fun j => (arB row t1 (ulk row t1 (tno row t1))) (10 + j))) 4 rfl (gg_ai_congr fun j hj => arB_ac (if_neg c4).symm hj) rfl ?_
      refine gg_seg (S' := (mp (heN g hd (arB row t1 (ulk row t1 (tno row t1)))) nt)) (M' := [_, _, _, _, _, _]) 3 rfl (mp_eq fun j hj => heN_eq rfl (fun d _ => arB_o (by omega) (by omega) (by omega)) (h8 j hj)) rfl ?_
      refine gg_iload_n (pc := 98) E dX2_arrives_98 rfl rfl ?_
      refine gg_ifN_eq (tgt := 142) (pc := 99) E 0 rfl (by decide) dX2_arrives_99 (by decide) (fun _ => ?_) (fun q => absurd q (by decide))
      
      refine gg_vret (pc := 142) E Fn rfl dX2_arrives_142 (by first | omega | (dsimp only; omega) | exact Nat.le_of_ble_eq_true rfl) (by first | omega | (dsimp only; omega) | exact Nat.le_of_ble_eq_true rfl) ?_
      rw [arv_N h8t (Or.inr (Int32.not_lt.mpr (show row 6 ≤ row (220 + 27 * t1 + 8) from by rw [← hs6]; exact c27))) (Or.inl c4)]
      exact ⟨tu, sn, hd, m3, nt, P, ⟨Po_keep hP h8 (fun t ht d hd => arB_o (by omega) (by omega) (by omega)) (fun j h1 h2 => arB_o (by omega) (by omega) (by omega)) h20, (arB_o (by omega) (by omega) (by omega)).trans h2, ht30, fun q hq => hq⟩, rfl, rfl⟩
    · refine gg_opn (k := t1) (M' := [_, _, _, _, _, _, _]) 2 rfl (by omega) rfl ?_
      refine gg_aload_n (pc := 30) E dX2_arrives_30 rfl rfl ?_
      refine gg_dup (pc := 31) E dX2_arrives_31 rfl ?_
      refine gg_getN (pc := 32) E ck_X8 11 nq1598 rfl (by decide) dX2_arrives_32 (gg_i 6 rfl) rfl ?_
      refine gg_iconst (v := 1) (pc := 35) E dX2_arrives_35 (by decide) ?_
      refine gg_iadd (pc := 36) E dX2_arrives_36 ?_
      refine gg_putN (fs' := [_, _, _, _, _, _, _, _, _, _, _, _, _]) (M' := [_, _, _, _, _, _, _]) (pc := 37) E ck_X8 11 nq1598 rfl (by decide) dX2_arrives_37 6 rfl rfl (rfl) rfl (Nat.le_of_ble_eq_true rfl) rfl rfl ?_
      refine gg_opn (k := t1) (M' := [_, _, _, _, _, _, _, _]) 3 rfl (by omega) rfl ?_
      refine gg_aload_n (pc := 40) E dX2_arrives_40 rfl rfl ?_
      refine gg_callV (F := [_, _, _, _, _, _, _]) (As := []) (rest := []) (pc := 41) E ck_X8 (ct_X8_begins hl (by first | assumption | omega)) (cwV 0 E.2.2.2.2.1 (lw_V q1683 q1565 q1566 q192 q1567) rfl rfl rfl (by decide +kernel) ⟨by rw [hRf]; exact Nat.le_of_ble_eq_true rfl, by rw [hRl]; exact Nat.le_of_ble_eq_true rfl⟩) dX2_arrives_41 [7] (by decide) rfl rfl (List.forall_mem_cons.mpr ⟨(gg_i 6 rfl), (List.forall_mem_cons.mpr ⟨(gg_j 5 rfl (hP.1 t1 (by omega))), (fun _ h => by cases h)⟩)⟩) (gg_i 6 rfl) rfl rfl (Nat.le_of_ble_eq_true rfl) (by first | (rw [hRc]; dsimp only; omega) | (rw [hRc]; exact Nat.le_of_ble_eq_true rfl)) (by first | (rw [hRs]; dsimp only; omega) | (rw [hRs]; exact Nat.le_of_ble_eq_true rfl)) ?_ (fun X q C1 h => h.elim)
      rintro _ _ ⟨rfl, rfl⟩
      dsimp only [List.cons_append, List.nil_append, Option.toList]
      refine gg_up7 ?_
      refine gg_aload_n (pc := 44) E dX2_arrives_44 rfl rfl ?_
      refine gg_aload_n (pc := 45) E dX2_arrives_45 rfl rfl ?_
      refine gg_getN (pc := 46) E ck_X8 1 nq1572 rfl (by decide) dX2_arrives_46 (gg_i 6 rfl) rfl ?_
      refine gg_putN (fs' := [_, _, _, _, _, _, _, _, _, _, _, _, _]) (M' := [_, _, _, _, _, _, _, _]) (pc := 49) E ck_X8 7 nq1587 rfl (by decide) dX2_arrives_49 6 rfl rfl (rfl) rfl (Nat.le_of_ble_eq_true rfl) rfl rfl ?_
      refine gg_aload_n (pc := 52) E dX2_arrives_52 rfl rfl ?_
      refine gg_iconst (v := 0) (pc := 53) E dX2_arrives_53 (by decide) ?_
      refine gg_putN (fs' := [_, _, _, _, _, _, _, _, _, _, _, _, _]) (M' := [_, _, _, _, _, _, _, _]) (pc := 54) E ck_X8 8 nq1590 rfl (by decide) dX2_arrives_54 6 rfl rfl (rfl) rfl (Nat.le_of_ble_eq_true rfl) rfl rfl ?_
      refine gg_cls (F' := (heN g hd (arA row t1))) (M' := [_, _, _, _, _, _, _]) 3 rfl rfl (by omega) (heN_A h8t) (fun j hj hne => heN_eq rfl (fun d _ => arA_o (by omega) (by omega) (by omega) (by omega)) (h8 j hj)) rfl ?_
      refine gg_cls (F' := (tuN tu sn hd (arA row t1))) (M' := [_, _, _, _, _, _]) 2 rfl rfl (by omega) (tuN_A hst) (fun j hj hne => tuN_eq rfl rfl rfl fun d _ => arA_o (by omega) (by omega) (by omega) (by omega)) rfl ?_
      refine gg_aload_n (pc := 57) E dX2_arrives_57 rfl rfl ?_
      refine gg_get (pc := 58) E ck_X2 4 q608 rfl (by decide) dX2_arrives_58 (gg_r 0 rfl) rfl ?_
      refine gg_bipush (v := 7) (pc := 61) E dX2_arrives_61 (by decide) ?_
      refine gg_dup2_11 (pc := 63) E dX2_arrives_63 rfl rfl ?_
      refine gg_ialdN (pc := 64) E 7 rfl (by omega) (by omega) dX2_arrives_64 (gg_i 4 rfl) ?_
      refine gg_iconst (v := 1) (pc := 65) E dX2_arrives_65 (by decide) ?_
      refine gg_iadd (pc := 66) E dX2_arrives_66 ?_
      refine gg_iastN (M' := [_, _, _, _, _, _]) (pc := 67) E 7 rfl (by omega) (by omega) dX2_arrives_67 4 rfl rfl ?_
      refine gg_cel (y := gg_ai g 11 (fun j => (arA row t1) (10 + j))) 4 rfl (gg_ai_congr fun j hj => arA_ac hj) rfl ?_
      refine gg_vret (pc := 68) E Fn rfl dX2_arrives_68 (by first | omega | (dsimp only; omega) | exact Nat.le_of_ble_eq_true rfl) (by first | omega | (dsimp only; omega) | exact Nat.le_of_ble_eq_true rfl) ?_
      rw [arv_A h8t c4 (Int32.not_le.mp (show ¬ row 6 ≤ row (220 + 27 * t1 + 8) from by rw [← hs6]; exact c27))]
      exact ⟨tu, sn, hd, m3, nt, P, ⟨Po_keep hP h8 (fun t ht d hd => arA_o (by omega) (by omega) (by omega) (by omega)) (fun j h1 h2 => arA_o (by omega) (by omega) (by omega) (by omega)) h20, (arA_o (by omega) (by omega) (by omega) (by omega)).trans h2, ht30, fun q hq => hq⟩, rfl, rfl⟩
  · refine gg_iconst (v := 1) (pc := 7) E dX2_arrives_7 (by decide) ?_
    refine gg_goto (tgt := 12) (pc := 8) E dX2_arrives_8 (by decide) ?_
    refine gg_istore_n (lv' := [_, _, _, _]) (pc := 12) E dX2_arrives_12 rfl (Nat.le_of_ble_eq_true rfl) rfl rfl ?_
    refine gg_iload_n (pc := 13) E dX2_arrives_13 rfl rfl ?_
    refine gg_ifN_ne (tgt := 69) (pc := 14) E 1 rfl (by decide) dX2_arrives_14 (by decide) (fun _ => ?_) (fun q => absurd q (by decide))
    refine gg_opn (k := t1) (M' := [_, _, _, _, _, _, _]) 2 rfl (by omega) rfl ?_
    refine gg_aload_n (pc := 69) E dX2_arrives_69 rfl rfl ?_
    refine gg_iconst (v := 2) (pc := 70) E dX2_arrives_70 (by decide) ?_
    refine gg_putN (fs' := [_, _, _, _, _, _, _, _, _, _, _, _, _]) (M' := [_, _, _, _, _, _, _]) (pc := 71) E ck_X8 8 nq1590 rfl (by decide) dX2_arrives_71 6 rfl rfl (rfl) rfl (Nat.le_of_ble_eq_true rfl) rfl rfl ?_
    refine gg_cls (F' := (tuN tu sn hd (arB row t1 (ulk row t1 (tno row t1))))) (M' := [_, _, _, _, _, _]) 2 rfl rfl (by omega) tuN_B (fun j hj hne => tuN_eq rfl rfl rfl fun d _ => arB_o (by omega) (by omega) (by omega)) rfl ?_
    refine gg_aload_n (pc := 74) E dX2_arrives_74 rfl rfl ?_
    refine gg_get (pc := 75) E ck_X2 4 q608 rfl (by decide) dX2_arrives_75 (gg_r 0 rfl) rfl ?_
    refine gg_iconst (v := 5) (pc := 78) E dX2_arrives_78 (by decide) ?_
    refine gg_dup2_11 (pc := 79) E dX2_arrives_79 rfl rfl ?_
    refine gg_ialdN (pc := 80) E 5 rfl (by omega) (by omega) dX2_arrives_80 (gg_i 4 rfl) ?_
    refine gg_iconst (v := 1) (pc := 81) E dX2_arrives_81 (by decide) ?_
    refine gg_iadd (pc := 82) E dX2_arrives_82 ?_
    refine gg_iastN (M' := [_, _, _, _, _, _]) (pc := 83) E 5 rfl (by omega) (by omega) dX2_arrives_83 4 rfl rfl ?_
    refine gg_aload_n (pc := 84) E dX2_arrives_84 rfl rfl ?_
    refine gg_get (pc := 85) E ck_X2 4 q608 rfl (by decide) dX2_arrives_85 (gg_r 0 rfl) rfl ?_
    refine gg_bipush (v := 6) (pc := 88) E dX2_arrives_88 (by decide) ?_
    refine gg_dup2_11 (pc := 90) E dX2_arrives_90 rfl rfl ?_
    refine gg_ialdN (pc := 91) E 6 rfl (by omega) (by omega) dX2_arrives_91 (gg_i 4 rfl) ?_
    refine gg_iload_n (pc := 92) E dX2_arrives_92 rfl rfl ?_
    refine gg_callSN (F := [_, _, _, _, _, _]) (As := [_]) (rest := [_, _, _]) (pc := 93) E (ct_X1_oneR hl (Or.inr rfl)) ⟨va_cnB 1 E.2.2.2.2.1 (lw_meth q1632) rfl rfl rfl (E.2.2.2.2.2.1.2.1 _ nq1630) (E.2.2.2.2.1 _ q151) (by decide +kernel) ⟨by rw [hRf]; exact Nat.le_of_ble_eq_true rfl, by rw [hRl]; exact Nat.le_of_ble_eq_true rfl⟩, E.2.2.2.2.1 _ q1631, trivial⟩ dX2_arrives_93 [] (by decide) rfl rfl (fun _ h => by cases h) rfl rfl (Nat.le_of_ble_eq_true rfl) (by first | (rw [hRc]; dsimp only; omega) | (rw [hRc]; exact Nat.le_of_ble_eq_true rfl)) (by first | (rw [hRs]; dsimp only; omega) | (rw [hRs]; exact Nat.le_of_ble_eq_true rfl)) ?_ (fun X q C1 h => h.elim)
    rintro _ _ ⟨rfl, rfl⟩
    dsimp only [List.cons_append, List.nil_append, Option.toList]
    refine gg_iadd (pc := 96) E dX2_arrives_96 ?_
    refine gg_iastN (M' := [_, _, _, _, _, _]) (pc := 97) E 6 rfl (by omega) (by omega) dX2_arrives_97 4 rfl rfl ?_
    refine gg_cel (y := gg_ai g 11 (fun j => (arB row t1 (ulk row t1 (tno row t1))) (10 + j))) 4 rfl (gg_ai_congr fun j hj => arB_ac (if_pos c4).symm hj) rfl ?_
    refine gg_seg (S' := (mp (heN g hd (arB row t1 (ulk row t1 (tno row t1)))) nt)) (M' := [_, _, _, _, _, _]) 3 rfl (mp_eq fun j hj => heN_eq rfl (fun d _ => arB_o (by omega) (by omega) (by omega)) (h8 j hj)) rfl ?_
    refine gg_iload_n (pc := 98) E dX2_arrives_98 rfl rfl ?_
    refine gg_ifN_eq (tgt := 142) (pc := 99) E 1 rfl (by decide) dX2_arrives_99 (by decide) (fun q => absurd q (by decide)) (fun _ => ?_)
    refine gg_aload_n (pc := 102) E dX2_arrives_102 rfl rfl ?_
    refine gg_getN (pc := 103) E ck_X8 6 nq1584 rfl (by decide) dX2_arrives_103 (gg_j 2 rfl (mp_mem (by omega))) rfl ?_
    refine gg_if_eq (tgt := 142) (pc := 106) E dX2_arrives_106 (by decide) (fun c106 => ?_) (fun c106 => ?_)
    · 
      refine gg_vret (pc := 142) E Fn rfl dX2_arrives_142 (by first | omega | (dsimp only; omega) | exact Nat.le_of_ble_eq_true rfl) (by first | omega | (dsimp only; omega) | exact Nat.le_of_ble_eq_true rfl) ?_
      rw [arv_N h8t (Or.inl c4) (Or.inr (Or.inl ((arB_o (by omega) (by omega) (by omega)).symm.trans c106)))]
      exact ⟨tu, sn, hd, m3, nt, P, ⟨Po_keep hP h8 (fun t ht d hd => arB_o (by omega) (by omega) (by omega)) (fun j h1 h2 => arB_o (by omega) (by omega) (by omega)) h20, (arB_o (by omega) (by omega) (by omega)).trans h2, ht30, fun q hq => hq⟩, rfl, rfl⟩
    · refine gg_aload_n (pc := 109) E dX2_arrives_109 rfl rfl ?_
      refine gg_get (pc := 110) E ck_X2 2 q604 rfl (by decide) dX2_arrives_110 (gg_r 0 rfl) rfl ?_
      refine gg_callF (F := [_, _, _, _, _, _]) (As := []) (rest := []) (pc := 113) E ck_J2 (ct_J2_size hl ) (gg_cwF 0 E (x := ⟨"java/util/List", "size", "()I"⟩) (by decide) nq1046 nq1044 nq683 (lw_app (lw_in _ [1095, 1043, 1045, 155] (by decide +kernel) (by decide +kernel)) (lw_meth q1047)) (by decide +kernel) ⟨by rw [hRf]; exact Nat.le_of_ble_eq_true rfl, by rw [hRl]; exact Nat.le_of_ble_eq_true rfl⟩) dX2_arrives_113 [] (by decide) rfl rfl (List.forall_mem_cons.mpr ⟨(gg_i 0 rfl), (fun _ h => by cases h)⟩) (gg_i 0 rfl) rfl rfl (Nat.le_of_ble_eq_true rfl) (by first | (rw [hRc]; dsimp only; omega) | (rw [hRc]; exact Nat.le_of_ble_eq_true rfl)) (by first | (rw [hRs]; dsimp only; omega) | (rw [hRs]; exact Nat.le_of_ble_eq_true rfl)) ?_ (fun X q C1 h => h.elim)
      rintro _ _ ⟨rfl, rfl⟩
      dsimp only [List.cons_append, List.nil_append, Option.toList]
      refine gg_bipush (v := 30) (pc := 118) E dX2_arrives_118 (by decide) ?_
      refine gg_icmpN_ge (tgt := 142) (pc := 120) E nt 30 rfl rfl (by omega) (by omega) dX2_arrives_120 (by decide) (fun c120 => ?_) (fun c120 => ?_)
      · 
        refine gg_vret (pc := 142) E Fn rfl dX2_arrives_142 (by first | omega | (dsimp only; omega) | exact Nat.le_of_ble_eq_true rfl) (by first | omega | (dsimp only; omega) | exact Nat.le_of_ble_eq_true rfl) ?_
        rw [arv_N h8t (Or.inl c4) (Or.inr (Or.inr (by omega)))]
        exact ⟨tu, sn, hd, m3, nt, P, ⟨Po_keep hP h8 (fun t ht d hd => arB_o (by omega) (by omega) (by omega)) (fun j h1 h2 => arB_o (by omega) (by omega) (by omega)) h20, (arB_o (by omega) (by omega) (by omega)).trans h2, ht30, fun q hq => hq⟩, rfl, rfl⟩
      · have hone : ntn (arvF row nt t1) = nt + 1 := by rw [arv_R h1 h8t c4 (by exact fun q => c106 ((arB_o (by omega) (by omega) (by omega)).trans q)) (by omega)]; unfold ntn ntu; rw [cn_out (by omega), cn_out (by omega), pk_us]; exact nI_clamp (by omega)
        refine gg_aload_n (pc := 123) E dX2_arrives_123 rfl rfl ?_
        refine gg_aload_n (pc := 124) E dX2_arrives_124 rfl rfl ?_
        refine gg_getN (pc := 125) E ck_X8 2 nq1575 rfl (by decide) dX2_arrives_125 (gg_j 2 rfl (mp_mem (by omega))) rfl ?_
        refine gg_aload_n (pc := 128) E dX2_arrives_128 rfl rfl ?_
        refine gg_getN (pc := 129) E ck_X8 1 nq1572 rfl (by decide) dX2_arrives_129 (gg_j 2 rfl (mp_mem (by omega))) rfl ?_
        refine gg_iconst (v := 1) (pc := 132) E dX2_arrives_132 (by decide) ?_
        refine gg_iconst (v := 0) (pc := 133) E dX2_arrives_133 (by decide) ?_
        refine gg_aload_n (pc := 134) E dX2_arrives_134 rfl rfl ?_
        refine gg_callV (F := [_, _, _, _, _, _]) (As := []) (rest := [_, _, _, _, _]) (pc := 135) E ck_X8 (ct_X8_backwards hl (by omega)) (cwV 0 E.2.2.2.2.1 (lw_V q1684 q1685 q1686 q192 q1687) rfl rfl rfl (by decide +kernel) ⟨by rw [hRf]; exact Nat.le_of_ble_eq_true rfl, by rw [hRl]; exact Nat.le_of_ble_eq_true rfl⟩) dX2_arrives_135 [] (by decide) rfl rfl (List.forall_mem_cons.mpr ⟨(gg_j 2 rfl (mp_mem (by omega))), (List.forall_mem_cons.mpr ⟨(gg_j 5 rfl (hP.1 t1 (by omega))), (fun _ h => by cases h)⟩)⟩) (gg_j 2 rfl (mp_mem (by omega))) rfl rfl (Nat.le_of_ble_eq_true rfl) (by first | (rw [hRc]; dsimp only; omega) | (rw [hRc]; exact Nat.le_of_ble_eq_true rfl)) (by first | (rw [hRs]; dsimp only; omega) | (rw [hRs]; exact Nat.le_of_ble_eq_true rfl)) ?_ (fun X q C1 h => h.elim)
        rintro _ _ ⟨b1, rfl, rfl⟩
        dsimp only [List.cons_append, List.nil_append, Option.toList]
        refine gg_up6 ?_
        refine gg_callV (F := [_, _]) (As := [_, _, _, _, _]) (rest := []) (pc := 138) E ck_X2 (ct_X2_sends hl ht30 h8t (Or.inr rfl) (Or.inl rfl) (fun t ht => by rw [arB_tno]; exact h8 t ht)) (cwV 5 E.2.2.2.2.1 (lw_V q1688 q1537 q1538 q152 q1539) rfl rfl rfl (by decide +kernel) ⟨by rw [hRf]; exact Nat.le_of_ble_eq_true rfl, by rw [hRl]; exact Nat.le_of_ble_eq_true rfl⟩) dX2_arrives_138 [0, 1, 2, 3, 4] (by decide) rfl rfl (List.forall_mem_cons.mpr ⟨(gg_r 0 rfl), (List.forall_mem_cons.mpr ⟨(gg_i 1 rfl), (fun _ h => by cases h)⟩)⟩) (gg_r 0 rfl) rfl rfl (Nat.le_of_ble_eq_true rfl) (by first | (rw [hRc]; dsimp only; omega) | (rw [hRc]; exact Nat.le_of_ble_eq_true rfl)) (by first | (rw [hRs]; dsimp only; omega) | (rw [hRs]; exact Nat.le_of_ble_eq_true rfl)) ?_ ?_
        · rintro _ _ ⟨t9, h9, hq9, rfl, rfl⟩
          dsimp only [List.cons_append, List.nil_append, Option.toList]
          refine gg_up4 ?_
          refine gg_up4 ?_
          refine gg_up4 ?_
          refine gg_up4 ?_
          refine gg_up4 ?_
          refine gg_istore_n (lv' := [_, _, _, _]) (pc := 141) E dX2_arrives_141 rfl (Nat.le_of_ble_eq_true rfl) rfl rfl ?_
          refine gg_psh (x := [(b1, gg_ai g (tno row t1) (fun j => row (220 + 27 * t1 + 11 + (tno row t1 - 1 - j))))]) (M' := [_, _, _, _, _, _]) 5 rfl rfl rfl ?_
          refine gg_vret (pc := 142) E Fn rfl dX2_arrives_142 (by first | omega | (dsimp only; omega) | exact Nat.le_of_ble_eq_true rfl) (by first | omega | (dsimp only; omega) | exact Nat.le_of_ble_eq_true rfl) ?_
          rw [arv_R h1 h8t c4 (by exact fun q => c106 ((arB_o (by omega) (by omega) (by omega)).trans q)) (by omega)]
          exact ⟨_, _, _, _, _, _, ⟨Po_push (Po_keep hP h8 (fun t ht d hd => arB_o (by omega) (by omega) (by omega)) (fun j h1 h2 => arB_o (by omega) (by omega) (by omega)) h20) (fun t ht => by rw [arB_tno]; exact h8 t ht) h20 h8t, by unfold ntu; rw [cn_out (by omega), cn_out (by omega), pk_us], by omega, fun q hq => List.mem_append_left _ hq⟩, rfl, rfl⟩
        · exact fun X q C1 hx => absurd (show nt < 30 by omega) hx.2.1
